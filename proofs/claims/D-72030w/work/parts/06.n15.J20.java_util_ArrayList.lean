/-! java/util/ArrayList -/
set_option maxRecDepth 100000
def RJ20 : String := "java/util/ArrayList"
def TJ20 : u_T := fun k => match k with
  | 0 => ("java/util/AbstractList", "modCount", "I", false)
  | 1 => ("java/util/ArrayList", "elementData", "[Ljava/lang/Object;", false)
  | _ => ("java/util/ArrayList", "size", "I", false)
def tyJ20 : Nat → FieldType := fun k => match k with
  | 0 => .int
  | 1 => .array (.object "java/lang/Object")
  | _ => .int
abbrev wsJ200 : List Cond := u_ws RJ20 TJ20 3
theorem nmJ20 : ∀ a, a < 3 → ∀ b, b < 3 → a ≠ b → (TJ20 a).2.1 ≠ (TJ20 b).2.1 := by decide +kernel
theorem tyJ20_ok : ∀ k, k < 3 → parseFieldDescriptor (TJ20 k).2.2.1 = some (tyJ20 k) := by decide +kernel
abbrev cJ20_init : ByteArray := prog_55_method_1_code
def yJ20_init : MethodName := ⟨RJ20, "<init>", "(I)V"⟩
def dkwJ20_init_2 : List UInt8 := [182, 0, 25, 27, 182, 0, 29, 182, 0, 32, 183, 0, 36, 191, 177]
abbrev dktJ20_init_2 : List UInt8 := dkwJ20_init_2 ++ []
def dkwJ20_init_1 : List UInt8 := [178, 0, 15, 181, 0, 9, 167, 0, 30, 187, 0, 18, 89, 187, 0, 20, 89, 183, 0, 22, 18, 23]
abbrev dktJ20_init_1 : List UInt8 := dkwJ20_init_1 ++ dktJ20_init_2
def dkwJ20_init_0 : List UInt8 := [42, 183, 0, 1, 27, 158, 0, 14, 42, 27, 189, 0, 7, 181, 0, 9, 167, 0, 44, 27, 154, 0, 13, 42]
abbrev dktJ20_init_0 : List UInt8 := dkwJ20_init_0 ++ dktJ20_init_1
theorem dksJ20_init_0 : cJ20_init.data.toList.drop 0 = dktJ20_init_0 := by decide +kernel
theorem dksJ20_init_1 : cJ20_init.data.toList.drop 24 = dktJ20_init_1 := dk_seg dksJ20_init_0 24 rfl rfl
theorem dksJ20_init_2 : cJ20_init.data.toList.drop 46 = dktJ20_init_2 := dk_seg dksJ20_init_1 22 rfl rfl
theorem dJ20_init_0 : decode cJ20_init 0 = .ok (.aload_n 0, 1) := dk_42 (dk_at dksJ20_init_0 0 rfl rfl)
theorem dJ20_init_1 : decode cJ20_init 1 = .ok (.invokespecial 1, 3) := dk_183 0 1 (dk_at dksJ20_init_0 1 rfl rfl)
theorem dJ20_init_4 : decode cJ20_init 4 = .ok (.iload_n 1, 1) := dk_27 (dk_at dksJ20_init_0 4 rfl rfl)
theorem dJ20_init_5 : decode cJ20_init 5 = .ok (.ifCond .le 14, 3) := dk_158 0 14 (dk_at dksJ20_init_0 5 rfl rfl)
theorem dJ20_init_8 : decode cJ20_init 8 = .ok (.aload_n 0, 1) := dk_42 (dk_at dksJ20_init_0 8 rfl rfl)
theorem dJ20_init_9 : decode cJ20_init 9 = .ok (.iload_n 1, 1) := dk_27 (dk_at dksJ20_init_0 9 rfl rfl)
theorem dJ20_init_10 : decode cJ20_init 10 = .ok (.anewarray 7, 3) := dk_189 0 7 (dk_at dksJ20_init_0 10 rfl rfl)
theorem dJ20_init_13 : decode cJ20_init 13 = .ok (.putfield 9, 3) := dk_181 0 9 (dk_at dksJ20_init_0 13 rfl rfl)
theorem dJ20_init_16 : decode cJ20_init 16 = .ok (.goto 44, 3) := dk_167 0 44 (dk_at dksJ20_init_0 16 rfl rfl)
theorem dJ20_init_19 : decode cJ20_init 19 = .ok (.iload_n 1, 1) := dk_27 (dk_at dksJ20_init_0 19 rfl rfl)
theorem dJ20_init_20 : decode cJ20_init 20 = .ok (.ifCond .ne 13, 3) := dk_154 0 13 (dk_at dksJ20_init_0 20 rfl rfl)
theorem dJ20_init_23 : decode cJ20_init 23 = .ok (.aload_n 0, 1) := dk_42 (dk_at dksJ20_init_0 23 rfl rfl)
theorem dJ20_init_24 : decode cJ20_init 24 = .ok (.getstatic 15, 3) := dk_178 0 15 (dk_at dksJ20_init_1 0 rfl rfl)
theorem dJ20_init_27 : decode cJ20_init 27 = .ok (.putfield 9, 3) := dk_181 0 9 (dk_at dksJ20_init_1 3 rfl rfl)
theorem dJ20_init_30 : decode cJ20_init 30 = .ok (.goto 30, 3) := dk_167 0 30 (dk_at dksJ20_init_1 6 rfl rfl)
theorem dJ20_init_33 : decode cJ20_init 33 = .ok (.new 18, 3) := dk_187 0 18 (dk_at dksJ20_init_1 9 rfl rfl)
theorem dJ20_init_36 : decode cJ20_init 36 = .ok (.dup, 1) := dk_89 (dk_at dksJ20_init_1 12 rfl rfl)
theorem dJ20_init_37 : decode cJ20_init 37 = .ok (.new 20, 3) := dk_187 0 20 (dk_at dksJ20_init_1 13 rfl rfl)
theorem dJ20_init_40 : decode cJ20_init 40 = .ok (.dup, 1) := dk_89 (dk_at dksJ20_init_1 16 rfl rfl)
theorem dJ20_init_41 : decode cJ20_init 41 = .ok (.invokespecial 22, 3) := dk_183 0 22 (dk_at dksJ20_init_1 17 rfl rfl)
theorem dJ20_init_44 : decode cJ20_init 44 = .ok (.ldc 23, 2) := dk_18 23 (dk_at dksJ20_init_1 20 rfl rfl)
theorem dJ20_init_46 : decode cJ20_init 46 = .ok (.invokevirtual 25, 3) := dk_182 0 25 (dk_at dksJ20_init_2 0 rfl rfl)
theorem dJ20_init_49 : decode cJ20_init 49 = .ok (.iload_n 1, 1) := dk_27 (dk_at dksJ20_init_2 3 rfl rfl)
theorem dJ20_init_50 : decode cJ20_init 50 = .ok (.invokevirtual 29, 3) := dk_182 0 29 (dk_at dksJ20_init_2 4 rfl rfl)
theorem dJ20_init_53 : decode cJ20_init 53 = .ok (.invokevirtual 32, 3) := dk_182 0 32 (dk_at dksJ20_init_2 7 rfl rfl)
theorem dJ20_init_56 : decode cJ20_init 56 = .ok (.invokespecial 36, 3) := dk_183 0 36 (dk_at dksJ20_init_2 10 rfl rfl)
theorem dJ20_init_59 : decode cJ20_init 59 = .ok (.athrow, 1) := dk_191 (dk_at dksJ20_init_2 13 rfl rfl)
theorem dJ20_init_60 : decode cJ20_init 60 = .ok (.return_, 1) := dk_177 (dk_at dksJ20_init_2 14 rfl rfl)
abbrev cJ20_size : ByteArray := prog_55_method_8_code
def yJ20_size : MethodName := ⟨RJ20, "size", "()I"⟩
theorem dJ20_size_0 : decode cJ20_size 0 = .ok (.aload_n 0, 1) := by decide +kernel
theorem dJ20_size_1 : decode cJ20_size 1 = .ok (.getfield 48, 3) := by decide +kernel
theorem dJ20_size_4 : decode cJ20_size 4 = .ok (.ireturn, 1) := by decide +kernel
abbrev cJ20_add : ByteArray := prog_55_method_25_code
def yJ20_add : MethodName := ⟨RJ20, "add", "(Ljava/lang/Object;)Z"⟩
def dkwJ20_add_1 : List UInt8 := [172]
abbrev dktJ20_add_1 : List UInt8 := dkwJ20_add_1 ++ []
def dkwJ20_add_0 : List UInt8 := [42, 89, 180, 0, 63, 4, 96, 181, 0, 63, 42, 43, 42, 180, 0, 9, 42, 180, 0, 48, 182, 0, 131, 4]
abbrev dktJ20_add_0 : List UInt8 := dkwJ20_add_0 ++ dktJ20_add_1
theorem dksJ20_add_0 : cJ20_add.data.toList.drop 0 = dktJ20_add_0 := by decide +kernel
theorem dksJ20_add_1 : cJ20_add.data.toList.drop 24 = dktJ20_add_1 := dk_seg dksJ20_add_0 24 rfl rfl
theorem dJ20_add_0 : decode cJ20_add 0 = .ok (.aload_n 0, 1) := dk_42 (dk_at dksJ20_add_0 0 rfl rfl)
theorem dJ20_add_1 : decode cJ20_add 1 = .ok (.dup, 1) := dk_89 (dk_at dksJ20_add_0 1 rfl rfl)
theorem dJ20_add_2 : decode cJ20_add 2 = .ok (.getfield 63, 3) := dk_180 0 63 (dk_at dksJ20_add_0 2 rfl rfl)
theorem dJ20_add_5 : decode cJ20_add 5 = .ok (.iconst 1, 1) := dk_4 (dk_at dksJ20_add_0 5 rfl rfl)
theorem dJ20_add_6 : decode cJ20_add 6 = .ok (.iadd, 1) := dk_96 (dk_at dksJ20_add_0 6 rfl rfl)
theorem dJ20_add_7 : decode cJ20_add 7 = .ok (.putfield 63, 3) := dk_181 0 63 (dk_at dksJ20_add_0 7 rfl rfl)
theorem dJ20_add_10 : decode cJ20_add 10 = .ok (.aload_n 0, 1) := dk_42 (dk_at dksJ20_add_0 10 rfl rfl)
theorem dJ20_add_11 : decode cJ20_add 11 = .ok (.aload_n 1, 1) := dk_43 (dk_at dksJ20_add_0 11 rfl rfl)
theorem dJ20_add_12 : decode cJ20_add 12 = .ok (.aload_n 0, 1) := dk_42 (dk_at dksJ20_add_0 12 rfl rfl)
theorem dJ20_add_13 : decode cJ20_add 13 = .ok (.getfield 9, 3) := dk_180 0 9 (dk_at dksJ20_add_0 13 rfl rfl)
theorem dJ20_add_16 : decode cJ20_add 16 = .ok (.aload_n 0, 1) := dk_42 (dk_at dksJ20_add_0 16 rfl rfl)
theorem dJ20_add_17 : decode cJ20_add 17 = .ok (.getfield 48, 3) := dk_180 0 48 (dk_at dksJ20_add_0 17 rfl rfl)
theorem dJ20_add_20 : decode cJ20_add 20 = .ok (.invokevirtual 131, 3) := dk_182 0 131 (dk_at dksJ20_add_0 20 rfl rfl)
theorem dJ20_add_23 : decode cJ20_add 23 = .ok (.iconst 1, 1) := dk_4 (dk_at dksJ20_add_0 23 rfl rfl)
theorem dJ20_add_24 : decode cJ20_add 24 = .ok (.ireturn, 1) := dk_172 (dk_at dksJ20_add_1 0 rfl rfl)
abbrev cJ20_add_2 : ByteArray := prog_55_method_24_code
def yJ20_add_2 : MethodName := ⟨RJ20, "add", "(Ljava/lang/Object;[Ljava/lang/Object;I)V"⟩
def dkwJ20_add_2_0 : List UInt8 := [29, 44, 190, 160, 0, 8, 42, 182, 0, 129, 77, 44, 29, 43, 83, 42, 29, 4, 96, 181, 0, 48, 177]
abbrev dktJ20_add_2_0 : List UInt8 := dkwJ20_add_2_0 ++ []
theorem dksJ20_add_2_0 : cJ20_add_2.data.toList.drop 0 = dktJ20_add_2_0 := by decide +kernel
theorem dJ20_add_2_0 : decode cJ20_add_2 0 = .ok (.iload_n 3, 1) := dk_29 (dk_at dksJ20_add_2_0 0 rfl rfl)
theorem dJ20_add_2_1 : decode cJ20_add_2 1 = .ok (.aload_n 2, 1) := dk_44 (dk_at dksJ20_add_2_0 1 rfl rfl)
theorem dJ20_add_2_2 : decode cJ20_add_2 2 = .ok (.arraylength, 1) := dk_190 (dk_at dksJ20_add_2_0 2 rfl rfl)
theorem dJ20_add_2_3 : decode cJ20_add_2 3 = .ok (.if_icmp .ne 8, 3) := dk_160 0 8 (dk_at dksJ20_add_2_0 3 rfl rfl)
theorem dJ20_add_2_6 : decode cJ20_add_2 6 = .ok (.aload_n 0, 1) := dk_42 (dk_at dksJ20_add_2_0 6 rfl rfl)
theorem dJ20_add_2_7 : decode cJ20_add_2 7 = .ok (.invokevirtual 129, 3) := dk_182 0 129 (dk_at dksJ20_add_2_0 7 rfl rfl)
theorem dJ20_add_2_10 : decode cJ20_add_2 10 = .ok (.astore_n 2, 1) := dk_77 (dk_at dksJ20_add_2_0 10 rfl rfl)
theorem dJ20_add_2_11 : decode cJ20_add_2 11 = .ok (.aload_n 2, 1) := dk_44 (dk_at dksJ20_add_2_0 11 rfl rfl)
theorem dJ20_add_2_12 : decode cJ20_add_2 12 = .ok (.iload_n 3, 1) := dk_29 (dk_at dksJ20_add_2_0 12 rfl rfl)
theorem dJ20_add_2_13 : decode cJ20_add_2 13 = .ok (.aload_n 1, 1) := dk_43 (dk_at dksJ20_add_2_0 13 rfl rfl)
theorem dJ20_add_2_14 : decode cJ20_add_2 14 = .ok (.aastore, 1) := dk_83 (dk_at dksJ20_add_2_0 14 rfl rfl)
theorem dJ20_add_2_15 : decode cJ20_add_2 15 = .ok (.aload_n 0, 1) := dk_42 (dk_at dksJ20_add_2_0 15 rfl rfl)
theorem dJ20_add_2_16 : decode cJ20_add_2 16 = .ok (.iload_n 3, 1) := dk_29 (dk_at dksJ20_add_2_0 16 rfl rfl)
theorem dJ20_add_2_17 : decode cJ20_add_2 17 = .ok (.iconst 1, 1) := dk_4 (dk_at dksJ20_add_2_0 17 rfl rfl)
theorem dJ20_add_2_18 : decode cJ20_add_2 18 = .ok (.iadd, 1) := dk_96 (dk_at dksJ20_add_2_0 18 rfl rfl)
theorem dJ20_add_2_19 : decode cJ20_add_2 19 = .ok (.putfield 48, 3) := dk_181 0 48 (dk_at dksJ20_add_2_0 19 rfl rfl)
theorem dJ20_add_2_22 : decode cJ20_add_2 22 = .ok (.return_, 1) := dk_177 (dk_at dksJ20_add_2_0 22 rfl rfl)
abbrev cJ20_grow : ByteArray := prog_55_method_7_code
def yJ20_grow : MethodName := ⟨RJ20, "grow", "()[Ljava/lang/Object;"⟩
def dkwJ20_grow_0 : List UInt8 := [42, 42, 180, 0, 48, 4, 96, 182, 0, 69, 176]
abbrev dktJ20_grow_0 : List UInt8 := dkwJ20_grow_0 ++ []
theorem dksJ20_grow_0 : cJ20_grow.data.toList.drop 0 = dktJ20_grow_0 := by decide +kernel
theorem dJ20_grow_0 : decode cJ20_grow 0 = .ok (.aload_n 0, 1) := dk_42 (dk_at dksJ20_grow_0 0 rfl rfl)
theorem dJ20_grow_1 : decode cJ20_grow 1 = .ok (.aload_n 0, 1) := dk_42 (dk_at dksJ20_grow_0 1 rfl rfl)
theorem dJ20_grow_2 : decode cJ20_grow 2 = .ok (.getfield 48, 3) := dk_180 0 48 (dk_at dksJ20_grow_0 2 rfl rfl)
theorem dJ20_grow_5 : decode cJ20_grow 5 = .ok (.iconst 1, 1) := dk_4 (dk_at dksJ20_grow_0 5 rfl rfl)
theorem dJ20_grow_6 : decode cJ20_grow 6 = .ok (.iadd, 1) := dk_96 (dk_at dksJ20_grow_0 6 rfl rfl)
theorem dJ20_grow_7 : decode cJ20_grow 7 = .ok (.invokevirtual 69, 3) := dk_182 0 69 (dk_at dksJ20_grow_0 7 rfl rfl)
theorem dJ20_grow_10 : decode cJ20_grow 10 = .ok (.areturn, 1) := dk_176 (dk_at dksJ20_grow_0 10 rfl rfl)
abbrev cJ20_grow_2 : ByteArray := prog_55_method_6_code
def yJ20_grow_2 : MethodName := ⟨RJ20, "grow", "(I)[Ljava/lang/Object;"⟩
def dkwJ20_grow_2_2 : List UInt8 := [27, 184, 0, 79, 189, 0, 7, 90, 181, 0, 9, 176]
abbrev dktJ20_grow_2_2 : List UInt8 := dkwJ20_grow_2_2 ++ []
def dkwJ20_grow_2_1 : List UInt8 := [28, 4, 122, 184, 0, 73, 62, 42, 42, 180, 0, 9, 29, 184, 0, 66, 90, 181, 0, 9, 176, 42, 16, 10]
abbrev dktJ20_grow_2_1 : List UInt8 := dkwJ20_grow_2_1 ++ dktJ20_grow_2_2
def dkwJ20_grow_2_0 : List UInt8 := [42, 180, 0, 9, 190, 61, 28, 157, 0, 13, 42, 180, 0, 9, 178, 0, 39, 165, 0, 28, 28, 27, 28, 100]
abbrev dktJ20_grow_2_0 : List UInt8 := dkwJ20_grow_2_0 ++ dktJ20_grow_2_1
theorem dksJ20_grow_2_0 : cJ20_grow_2.data.toList.drop 0 = dktJ20_grow_2_0 := by decide +kernel
theorem dksJ20_grow_2_1 : cJ20_grow_2.data.toList.drop 24 = dktJ20_grow_2_1 := dk_seg dksJ20_grow_2_0 24 rfl rfl
theorem dksJ20_grow_2_2 : cJ20_grow_2.data.toList.drop 48 = dktJ20_grow_2_2 := dk_seg dksJ20_grow_2_1 24 rfl rfl
theorem dJ20_grow_2_0 : decode cJ20_grow_2 0 = .ok (.aload_n 0, 1) := dk_42 (dk_at dksJ20_grow_2_0 0 rfl rfl)
theorem dJ20_grow_2_1 : decode cJ20_grow_2 1 = .ok (.getfield 9, 3) := dk_180 0 9 (dk_at dksJ20_grow_2_0 1 rfl rfl)
theorem dJ20_grow_2_4 : decode cJ20_grow_2 4 = .ok (.arraylength, 1) := dk_190 (dk_at dksJ20_grow_2_0 4 rfl rfl)
theorem dJ20_grow_2_5 : decode cJ20_grow_2 5 = .ok (.istore_n 2, 1) := dk_61 (dk_at dksJ20_grow_2_0 5 rfl rfl)
theorem dJ20_grow_2_6 : decode cJ20_grow_2 6 = .ok (.iload_n 2, 1) := dk_28 (dk_at dksJ20_grow_2_0 6 rfl rfl)
theorem dJ20_grow_2_7 : decode cJ20_grow_2 7 = .ok (.ifCond .gt 13, 3) := dk_157 0 13 (dk_at dksJ20_grow_2_0 7 rfl rfl)
theorem dJ20_grow_2_10 : decode cJ20_grow_2 10 = .ok (.aload_n 0, 1) := dk_42 (dk_at dksJ20_grow_2_0 10 rfl rfl)
theorem dJ20_grow_2_11 : decode cJ20_grow_2 11 = .ok (.getfield 9, 3) := dk_180 0 9 (dk_at dksJ20_grow_2_0 11 rfl rfl)
theorem dJ20_grow_2_14 : decode cJ20_grow_2 14 = .ok (.getstatic 39, 3) := dk_178 0 39 (dk_at dksJ20_grow_2_0 14 rfl rfl)
theorem dJ20_grow_2_17 : decode cJ20_grow_2 17 = .ok (.if_acmp .eq 28, 3) := dk_165 0 28 (dk_at dksJ20_grow_2_0 17 rfl rfl)
theorem dJ20_grow_2_20 : decode cJ20_grow_2 20 = .ok (.iload_n 2, 1) := dk_28 (dk_at dksJ20_grow_2_0 20 rfl rfl)
theorem dJ20_grow_2_21 : decode cJ20_grow_2 21 = .ok (.iload_n 1, 1) := dk_27 (dk_at dksJ20_grow_2_0 21 rfl rfl)
theorem dJ20_grow_2_22 : decode cJ20_grow_2 22 = .ok (.iload_n 2, 1) := dk_28 (dk_at dksJ20_grow_2_0 22 rfl rfl)
theorem dJ20_grow_2_23 : decode cJ20_grow_2 23 = .ok (.isub, 1) := dk_100 (dk_at dksJ20_grow_2_0 23 rfl rfl)
theorem dJ20_grow_2_24 : decode cJ20_grow_2 24 = .ok (.iload_n 2, 1) := dk_28 (dk_at dksJ20_grow_2_1 0 rfl rfl)
theorem dJ20_grow_2_25 : decode cJ20_grow_2 25 = .ok (.iconst 1, 1) := dk_4 (dk_at dksJ20_grow_2_1 1 rfl rfl)
theorem dJ20_grow_2_26 : decode cJ20_grow_2 26 = .ok (.ishr, 1) := dk_122 (dk_at dksJ20_grow_2_1 2 rfl rfl)
theorem dJ20_grow_2_27 : decode cJ20_grow_2 27 = .ok (.invokestatic 73, 3) := dk_184 0 73 (dk_at dksJ20_grow_2_1 3 rfl rfl)
theorem dJ20_grow_2_30 : decode cJ20_grow_2 30 = .ok (.istore_n 3, 1) := dk_62 (dk_at dksJ20_grow_2_1 6 rfl rfl)
theorem dJ20_grow_2_31 : decode cJ20_grow_2 31 = .ok (.aload_n 0, 1) := dk_42 (dk_at dksJ20_grow_2_1 7 rfl rfl)
theorem dJ20_grow_2_32 : decode cJ20_grow_2 32 = .ok (.aload_n 0, 1) := dk_42 (dk_at dksJ20_grow_2_1 8 rfl rfl)
theorem dJ20_grow_2_33 : decode cJ20_grow_2 33 = .ok (.getfield 9, 3) := dk_180 0 9 (dk_at dksJ20_grow_2_1 9 rfl rfl)
theorem dJ20_grow_2_36 : decode cJ20_grow_2 36 = .ok (.iload_n 3, 1) := dk_29 (dk_at dksJ20_grow_2_1 12 rfl rfl)
theorem dJ20_grow_2_37 : decode cJ20_grow_2 37 = .ok (.invokestatic 66, 3) := dk_184 0 66 (dk_at dksJ20_grow_2_1 13 rfl rfl)
theorem dJ20_grow_2_40 : decode cJ20_grow_2 40 = .ok (.dup_x1, 1) := dk_90 (dk_at dksJ20_grow_2_1 16 rfl rfl)
theorem dJ20_grow_2_41 : decode cJ20_grow_2 41 = .ok (.putfield 9, 3) := dk_181 0 9 (dk_at dksJ20_grow_2_1 17 rfl rfl)
theorem dJ20_grow_2_44 : decode cJ20_grow_2 44 = .ok (.areturn, 1) := dk_176 (dk_at dksJ20_grow_2_1 20 rfl rfl)
theorem dJ20_grow_2_45 : decode cJ20_grow_2 45 = .ok (.aload_n 0, 1) := dk_42 (dk_at dksJ20_grow_2_1 21 rfl rfl)
theorem dJ20_grow_2_46 : decode cJ20_grow_2 46 = .ok (.bipush 10, 2) := dk_16 10 (dk_at dksJ20_grow_2_1 22 rfl rfl)
theorem dJ20_grow_2_48 : decode cJ20_grow_2 48 = .ok (.iload_n 1, 1) := dk_27 (dk_at dksJ20_grow_2_2 0 rfl rfl)
theorem dJ20_grow_2_49 : decode cJ20_grow_2 49 = .ok (.invokestatic 79, 3) := dk_184 0 79 (dk_at dksJ20_grow_2_2 1 rfl rfl)
theorem dJ20_grow_2_52 : decode cJ20_grow_2 52 = .ok (.anewarray 7, 3) := dk_189 0 7 (dk_at dksJ20_grow_2_2 4 rfl rfl)
theorem dJ20_grow_2_55 : decode cJ20_grow_2 55 = .ok (.dup_x1, 1) := dk_90 (dk_at dksJ20_grow_2_2 7 rfl rfl)
theorem dJ20_grow_2_56 : decode cJ20_grow_2 56 = .ok (.putfield 9, 3) := dk_181 0 9 (dk_at dksJ20_grow_2_2 8 rfl rfl)
theorem dJ20_grow_2_59 : decode cJ20_grow_2 59 = .ok (.areturn, 1) := dk_176 (dk_at dksJ20_grow_2_2 11 rfl rfl)
abbrev cJ20_remove : ByteArray := prog_55_method_29_code
def yJ20_remove : MethodName := ⟨RJ20, "remove", "(I)Ljava/lang/Object;"⟩
def dkwJ20_remove_1 : List UInt8 := [45, 176]
abbrev dktJ20_remove_1 : List UInt8 := dkwJ20_remove_1 ++ []
def dkwJ20_remove_0 : List UInt8 := [27, 42, 180, 0, 48, 184, 0, 118, 87, 42, 180, 0, 9, 77, 44, 27, 50, 78, 42, 44, 27, 182, 0, 144]
abbrev dktJ20_remove_0 : List UInt8 := dkwJ20_remove_0 ++ dktJ20_remove_1
theorem dksJ20_remove_0 : cJ20_remove.data.toList.drop 0 = dktJ20_remove_0 := by decide +kernel
theorem dksJ20_remove_1 : cJ20_remove.data.toList.drop 24 = dktJ20_remove_1 := dk_seg dksJ20_remove_0 24 rfl rfl
theorem dJ20_remove_0 : decode cJ20_remove 0 = .ok (.iload_n 1, 1) := dk_27 (dk_at dksJ20_remove_0 0 rfl rfl)
theorem dJ20_remove_1 : decode cJ20_remove 1 = .ok (.aload_n 0, 1) := dk_42 (dk_at dksJ20_remove_0 1 rfl rfl)
theorem dJ20_remove_2 : decode cJ20_remove 2 = .ok (.getfield 48, 3) := dk_180 0 48 (dk_at dksJ20_remove_0 2 rfl rfl)
theorem dJ20_remove_5 : decode cJ20_remove 5 = .ok (.invokestatic 118, 3) := dk_184 0 118 (dk_at dksJ20_remove_0 5 rfl rfl)
theorem dJ20_remove_8 : decode cJ20_remove 8 = .ok (.pop, 1) := dk_87 (dk_at dksJ20_remove_0 8 rfl rfl)
theorem dJ20_remove_9 : decode cJ20_remove 9 = .ok (.aload_n 0, 1) := dk_42 (dk_at dksJ20_remove_0 9 rfl rfl)
theorem dJ20_remove_10 : decode cJ20_remove 10 = .ok (.getfield 9, 3) := dk_180 0 9 (dk_at dksJ20_remove_0 10 rfl rfl)
theorem dJ20_remove_13 : decode cJ20_remove 13 = .ok (.astore_n 2, 1) := dk_77 (dk_at dksJ20_remove_0 13 rfl rfl)
theorem dJ20_remove_14 : decode cJ20_remove 14 = .ok (.aload_n 2, 1) := dk_44 (dk_at dksJ20_remove_0 14 rfl rfl)
theorem dJ20_remove_15 : decode cJ20_remove 15 = .ok (.iload_n 1, 1) := dk_27 (dk_at dksJ20_remove_0 15 rfl rfl)
theorem dJ20_remove_16 : decode cJ20_remove 16 = .ok (.aaload, 1) := dk_50 (dk_at dksJ20_remove_0 16 rfl rfl)
theorem dJ20_remove_17 : decode cJ20_remove 17 = .ok (.astore_n 3, 1) := dk_78 (dk_at dksJ20_remove_0 17 rfl rfl)
theorem dJ20_remove_18 : decode cJ20_remove 18 = .ok (.aload_n 0, 1) := dk_42 (dk_at dksJ20_remove_0 18 rfl rfl)
theorem dJ20_remove_19 : decode cJ20_remove 19 = .ok (.aload_n 2, 1) := dk_44 (dk_at dksJ20_remove_0 19 rfl rfl)
theorem dJ20_remove_20 : decode cJ20_remove 20 = .ok (.iload_n 1, 1) := dk_27 (dk_at dksJ20_remove_0 20 rfl rfl)
theorem dJ20_remove_21 : decode cJ20_remove 21 = .ok (.invokevirtual 144, 3) := dk_182 0 144 (dk_at dksJ20_remove_0 21 rfl rfl)
theorem dJ20_remove_24 : decode cJ20_remove 24 = .ok (.aload_n 3, 1) := dk_45 (dk_at dksJ20_remove_1 0 rfl rfl)
theorem dJ20_remove_25 : decode cJ20_remove 25 = .ok (.areturn, 1) := dk_176 (dk_at dksJ20_remove_1 1 rfl rfl)
abbrev cJ20_fastRemove : ByteArray := prog_55_method_39_code
def yJ20_fastRemove : MethodName := ⟨RJ20, "fastRemove", "([Ljava/lang/Object;I)V"⟩
def dkwJ20_fastRemove_1 : List UInt8 := [4, 96, 43, 28, 29, 28, 100, 184, 0, 112, 43, 42, 29, 90, 181, 0, 48, 1, 83, 177]
abbrev dktJ20_fastRemove_1 : List UInt8 := dkwJ20_fastRemove_1 ++ []
def dkwJ20_fastRemove_0 : List UInt8 := [42, 89, 180, 0, 63, 4, 96, 181, 0, 63, 42, 180, 0, 48, 4, 100, 89, 62, 28, 164, 0, 15, 43, 28]
abbrev dktJ20_fastRemove_0 : List UInt8 := dkwJ20_fastRemove_0 ++ dktJ20_fastRemove_1
theorem dksJ20_fastRemove_0 : cJ20_fastRemove.data.toList.drop 0 = dktJ20_fastRemove_0 := by decide +kernel
theorem dksJ20_fastRemove_1 : cJ20_fastRemove.data.toList.drop 24 = dktJ20_fastRemove_1 := dk_seg dksJ20_fastRemove_0 24 rfl rfl
theorem dJ20_fastRemove_0 : decode cJ20_fastRemove 0 = .ok (.aload_n 0, 1) := dk_42 (dk_at dksJ20_fastRemove_0 0 rfl rfl)
theorem dJ20_fastRemove_1 : decode cJ20_fastRemove 1 = .ok (.dup, 1) := dk_89 (dk_at dksJ20_fastRemove_0 1 rfl rfl)
theorem dJ20_fastRemove_2 : decode cJ20_fastRemove 2 = .ok (.getfield 63, 3) := dk_180 0 63 (dk_at dksJ20_fastRemove_0 2 rfl rfl)
theorem dJ20_fastRemove_5 : decode cJ20_fastRemove 5 = .ok (.iconst 1, 1) := dk_4 (dk_at dksJ20_fastRemove_0 5 rfl rfl)
theorem dJ20_fastRemove_6 : decode cJ20_fastRemove 6 = .ok (.iadd, 1) := dk_96 (dk_at dksJ20_fastRemove_0 6 rfl rfl)
theorem dJ20_fastRemove_7 : decode cJ20_fastRemove 7 = .ok (.putfield 63, 3) := dk_181 0 63 (dk_at dksJ20_fastRemove_0 7 rfl rfl)
theorem dJ20_fastRemove_10 : decode cJ20_fastRemove 10 = .ok (.aload_n 0, 1) := dk_42 (dk_at dksJ20_fastRemove_0 10 rfl rfl)
theorem dJ20_fastRemove_11 : decode cJ20_fastRemove 11 = .ok (.getfield 48, 3) := dk_180 0 48 (dk_at dksJ20_fastRemove_0 11 rfl rfl)
theorem dJ20_fastRemove_14 : decode cJ20_fastRemove 14 = .ok (.iconst 1, 1) := dk_4 (dk_at dksJ20_fastRemove_0 14 rfl rfl)
theorem dJ20_fastRemove_15 : decode cJ20_fastRemove 15 = .ok (.isub, 1) := dk_100 (dk_at dksJ20_fastRemove_0 15 rfl rfl)
theorem dJ20_fastRemove_16 : decode cJ20_fastRemove 16 = .ok (.dup, 1) := dk_89 (dk_at dksJ20_fastRemove_0 16 rfl rfl)
theorem dJ20_fastRemove_17 : decode cJ20_fastRemove 17 = .ok (.istore_n 3, 1) := dk_62 (dk_at dksJ20_fastRemove_0 17 rfl rfl)
theorem dJ20_fastRemove_18 : decode cJ20_fastRemove 18 = .ok (.iload_n 2, 1) := dk_28 (dk_at dksJ20_fastRemove_0 18 rfl rfl)
theorem dJ20_fastRemove_19 : decode cJ20_fastRemove 19 = .ok (.if_icmp .le 15, 3) := dk_164 0 15 (dk_at dksJ20_fastRemove_0 19 rfl rfl)
theorem dJ20_fastRemove_22 : decode cJ20_fastRemove 22 = .ok (.aload_n 1, 1) := dk_43 (dk_at dksJ20_fastRemove_0 22 rfl rfl)
theorem dJ20_fastRemove_23 : decode cJ20_fastRemove 23 = .ok (.iload_n 2, 1) := dk_28 (dk_at dksJ20_fastRemove_0 23 rfl rfl)
theorem dJ20_fastRemove_24 : decode cJ20_fastRemove 24 = .ok (.iconst 1, 1) := dk_4 (dk_at dksJ20_fastRemove_1 0 rfl rfl)
theorem dJ20_fastRemove_25 : decode cJ20_fastRemove 25 = .ok (.iadd, 1) := dk_96 (dk_at dksJ20_fastRemove_1 1 rfl rfl)
theorem dJ20_fastRemove_26 : decode cJ20_fastRemove 26 = .ok (.aload_n 1, 1) := dk_43 (dk_at dksJ20_fastRemove_1 2 rfl rfl)
theorem dJ20_fastRemove_27 : decode cJ20_fastRemove 27 = .ok (.iload_n 2, 1) := dk_28 (dk_at dksJ20_fastRemove_1 3 rfl rfl)
theorem dJ20_fastRemove_28 : decode cJ20_fastRemove 28 = .ok (.iload_n 3, 1) := dk_29 (dk_at dksJ20_fastRemove_1 4 rfl rfl)
theorem dJ20_fastRemove_29 : decode cJ20_fastRemove 29 = .ok (.iload_n 2, 1) := dk_28 (dk_at dksJ20_fastRemove_1 5 rfl rfl)
theorem dJ20_fastRemove_30 : decode cJ20_fastRemove 30 = .ok (.isub, 1) := dk_100 (dk_at dksJ20_fastRemove_1 6 rfl rfl)
theorem dJ20_fastRemove_31 : decode cJ20_fastRemove 31 = .ok (.invokestatic 112, 3) := dk_184 0 112 (dk_at dksJ20_fastRemove_1 7 rfl rfl)
theorem dJ20_fastRemove_34 : decode cJ20_fastRemove 34 = .ok (.aload_n 1, 1) := dk_43 (dk_at dksJ20_fastRemove_1 10 rfl rfl)
theorem dJ20_fastRemove_35 : decode cJ20_fastRemove 35 = .ok (.aload_n 0, 1) := dk_42 (dk_at dksJ20_fastRemove_1 11 rfl rfl)
theorem dJ20_fastRemove_36 : decode cJ20_fastRemove 36 = .ok (.iload_n 3, 1) := dk_29 (dk_at dksJ20_fastRemove_1 12 rfl rfl)
theorem dJ20_fastRemove_37 : decode cJ20_fastRemove 37 = .ok (.dup_x1, 1) := dk_90 (dk_at dksJ20_fastRemove_1 13 rfl rfl)
theorem dJ20_fastRemove_38 : decode cJ20_fastRemove 38 = .ok (.putfield 48, 3) := dk_181 0 48 (dk_at dksJ20_fastRemove_1 14 rfl rfl)
theorem dJ20_fastRemove_41 : decode cJ20_fastRemove 41 = .ok (.aconst_null, 1) := dk_1 (dk_at dksJ20_fastRemove_1 17 rfl rfl)
theorem dJ20_fastRemove_42 : decode cJ20_fastRemove 42 = .ok (.aastore, 1) := dk_83 (dk_at dksJ20_fastRemove_1 18 rfl rfl)
theorem dJ20_fastRemove_43 : decode cJ20_fastRemove 43 = .ok (.return_, 1) := dk_177 (dk_at dksJ20_fastRemove_1 19 rfl rfl)
abbrev cJ20_get : ByteArray := prog_55_method_20_code
def yJ20_get : MethodName := ⟨RJ20, "get", "(I)Ljava/lang/Object;"⟩
def dkwJ20_get_0 : List UInt8 := [27, 42, 180, 0, 48, 184, 0, 118, 87, 42, 27, 182, 0, 123, 176]
abbrev dktJ20_get_0 : List UInt8 := dkwJ20_get_0 ++ []
theorem dksJ20_get_0 : cJ20_get.data.toList.drop 0 = dktJ20_get_0 := by decide +kernel
theorem dJ20_get_0 : decode cJ20_get 0 = .ok (.iload_n 1, 1) := dk_27 (dk_at dksJ20_get_0 0 rfl rfl)
theorem dJ20_get_1 : decode cJ20_get 1 = .ok (.aload_n 0, 1) := dk_42 (dk_at dksJ20_get_0 1 rfl rfl)
theorem dJ20_get_2 : decode cJ20_get 2 = .ok (.getfield 48, 3) := dk_180 0 48 (dk_at dksJ20_get_0 2 rfl rfl)
theorem dJ20_get_5 : decode cJ20_get 5 = .ok (.invokestatic 118, 3) := dk_184 0 118 (dk_at dksJ20_get_0 5 rfl rfl)
theorem dJ20_get_8 : decode cJ20_get 8 = .ok (.pop, 1) := dk_87 (dk_at dksJ20_get_0 8 rfl rfl)
theorem dJ20_get_9 : decode cJ20_get 9 = .ok (.aload_n 0, 1) := dk_42 (dk_at dksJ20_get_0 9 rfl rfl)
theorem dJ20_get_10 : decode cJ20_get 10 = .ok (.iload_n 1, 1) := dk_27 (dk_at dksJ20_get_0 10 rfl rfl)
theorem dJ20_get_11 : decode cJ20_get 11 = .ok (.invokevirtual 123, 3) := dk_182 0 123 (dk_at dksJ20_get_0 11 rfl rfl)
theorem dJ20_get_14 : decode cJ20_get 14 = .ok (.areturn, 1) := dk_176 (dk_at dksJ20_get_0 14 rfl rfl)
abbrev cJ20_elementData : ByteArray := prog_55_method_18_code
def yJ20_elementData : MethodName := ⟨RJ20, "elementData", "(I)Ljava/lang/Object;"⟩
def dkwJ20_elementData_0 : List UInt8 := [42, 180, 0, 9, 27, 50, 176]
abbrev dktJ20_elementData_0 : List UInt8 := dkwJ20_elementData_0 ++ []
theorem dksJ20_elementData_0 : cJ20_elementData.data.toList.drop 0 = dktJ20_elementData_0 := by decide +kernel
theorem dJ20_elementData_0 : decode cJ20_elementData 0 = .ok (.aload_n 0, 1) := dk_42 (dk_at dksJ20_elementData_0 0 rfl rfl)
theorem dJ20_elementData_1 : decode cJ20_elementData 1 = .ok (.getfield 9, 3) := dk_180 0 9 (dk_at dksJ20_elementData_0 1 rfl rfl)
theorem dJ20_elementData_4 : decode cJ20_elementData 4 = .ok (.iload_n 1, 1) := dk_27 (dk_at dksJ20_elementData_0 4 rfl rfl)
theorem dJ20_elementData_5 : decode cJ20_elementData 5 = .ok (.aaload, 1) := dk_50 (dk_at dksJ20_elementData_0 5 rfl rfl)
theorem dJ20_elementData_6 : decode cJ20_elementData 6 = .ok (.areturn, 1) := dk_176 (dk_at dksJ20_elementData_0 6 rfl rfl)
abbrev cJ20_iterator : ByteArray := prog_55_method_55_code
def yJ20_iterator : MethodName := ⟨RJ20, "iterator", "()Ljava/util/Iterator;"⟩
def dkwJ20_iterator_0 : List UInt8 := [187, 1, 11, 89, 42, 183, 1, 13, 176]
abbrev dktJ20_iterator_0 : List UInt8 := dkwJ20_iterator_0 ++ []
theorem dksJ20_iterator_0 : cJ20_iterator.data.toList.drop 0 = dktJ20_iterator_0 := by decide +kernel
theorem dJ20_iterator_0 : decode cJ20_iterator 0 = .ok (.new 267, 3) := dk_187 1 11 (dk_at dksJ20_iterator_0 0 rfl rfl)
theorem dJ20_iterator_3 : decode cJ20_iterator 3 = .ok (.dup, 1) := dk_89 (dk_at dksJ20_iterator_0 3 rfl rfl)
theorem dJ20_iterator_4 : decode cJ20_iterator 4 = .ok (.aload_n 0, 1) := dk_42 (dk_at dksJ20_iterator_0 4 rfl rfl)
theorem dJ20_iterator_5 : decode cJ20_iterator 5 = .ok (.invokespecial 269, 3) := dk_183 1 13 (dk_at dksJ20_iterator_0 5 rfl rfl)
theorem dJ20_iterator_8 : decode cJ20_iterator 8 = .ok (.areturn, 1) := dk_176 (dk_at dksJ20_iterator_0 8 rfl rfl)
theorem q158 : (Jvm.Cond.initialized "java/util/ArrayList") ∈ lw_all := lw_g (lw_at lw_m1 25 rfl) rfl
theorem q508 : (Jvm.Cond.selects "java/util/ArrayList" ({ cls := "java/lang/Object", name := "getClass", desc := "()Ljava/lang/Class;" } : Jvm.MethodName) ({ cls := "java/lang/Object", name := "getClass", desc := "()Ljava/lang/Class;" } : Jvm.MethodName)) ∈ lw_all := lw_g (lw_at lw_m2 135 rfl) rfl
theorem q1025 : (Jvm.Cond.instantiable "java/util/ArrayList" (3 : Nat)) ∈ lw_all := lw_g (lw_at lw_m4 172 rfl) rfl
theorem q1027 : (Jvm.Cond.instanceMethod ({ cls := "java/util/ArrayList", name := "<init>", desc := "(I)V" } : Jvm.MethodName)) ∈ lw_all := lw_g (lw_at lw_m4 174 rfl) rfl
theorem q1028 : (Jvm.Cond.code ({ cls := "java/util/ArrayList", name := "<init>", desc := "(I)V" } : Jvm.MethodName) prog_55_method_1_code (2 : Nat) (Option.none : Option Jvm.ClassFile.FieldType)) ∈ lw_all := lw_g (lw_at lw_m4 175 rfl) rfl
theorem q1029 : (Jvm.Cond.methodLink "java/util/ArrayList" (1 : Nat) ({ cls := "java/util/AbstractList", name := "<init>", desc := "()V" } : Jvm.MethodName)) ∈ lw_all := lw_g (lw_at lw_m4 176 rfl) rfl
theorem q1036 : (Jvm.Cond.classLink "java/util/ArrayList" (7 : Nat) "java/lang/Object") ∈ lw_all := lw_g (lw_at lw_m4 183 rfl) rfl
theorem q1038 : (Jvm.Cond.fieldLink "java/util/ArrayList" (15 : Nat) "java/util/ArrayList" "EMPTY_ELEMENTDATA" "[Ljava/lang/Object;") ∈ lw_all := lw_g (lw_at lw_m4 185 rfl) rfl
theorem q1039 : (Jvm.Cond.laysStatic "java/util/ArrayList" "EMPTY_ELEMENTDATA" "[Ljava/lang/Object;") ∈ lw_tbl := lw_at lw_m4 186 rfl
theorem q1040 : (Jvm.Cond.fieldLink "java/util/ArrayList" (9 : Nat) "java/util/ArrayList" "elementData" "[Ljava/lang/Object;") ∈ lw_all := lw_g (lw_at lw_m4 187 rfl) rfl
theorem q1043 : (Jvm.Cond.fieldLink "java/util/ArrayList" (48 : Nat) "java/util/ArrayList" "size" "I") ∈ lw_all := lw_g (lw_at lw_m4 190 rfl) rfl
theorem q1046 : (Jvm.Cond.sameField "java/util/ArrayList" "java/util/AbstractList" "modCount" "I") ∈ lw_all := lw_g (lw_at lw_m4 193 rfl) rfl
theorem q1047 : (Jvm.Cond.fieldLink "java/util/ArrayList" (63 : Nat) "java/util/ArrayList" "modCount" "I") ∈ lw_all := lw_g (lw_at lw_m4 194 rfl) rfl
theorem q1048 : (Jvm.Cond.lays "java/util/ArrayList" "java/util/ArrayList" "elementData" "[Ljava/lang/Object;") ∈ lw_all := lw_g (lw_at lw_m4 195 rfl) rfl
theorem q1049 : (Jvm.Cond.soleField "java/util/ArrayList" "elementData") ∈ lw_all := lw_g (lw_at lw_m4 196 rfl) rfl
theorem q1050 : (Jvm.Cond.lays "java/util/ArrayList" "java/util/ArrayList" "size" "I") ∈ lw_all := lw_g (lw_at lw_m4 197 rfl) rfl
theorem q1051 : (Jvm.Cond.soleField "java/util/ArrayList" "size") ∈ lw_all := lw_g (lw_at lw_m4 198 rfl) rfl
theorem q1052 : (Jvm.Cond.lays "java/util/ArrayList" "java/util/AbstractList" "modCount" "I") ∈ lw_all := lw_g (lw_at lw_m4 199 rfl) rfl
theorem q1054 : (Jvm.Cond.superclass "java/util/ArrayList" "java/util/AbstractList") ∈ lw_all := lw_g (lw_at lw_m4 201 rfl) rfl
theorem q1648 : (Jvm.Cond.instanceMethod ({ cls := "java/util/ArrayList", name := "size", desc := "()I" } : Jvm.MethodName)) ∈ lw_all := lw_g (lw_at lw_m7 75 rfl) rfl
theorem q1649 : (Jvm.Cond.selects "java/util/ArrayList" ({ cls := "java/util/ArrayList", name := "size", desc := "()I" } : Jvm.MethodName) ({ cls := "java/util/ArrayList", name := "size", desc := "()I" } : Jvm.MethodName)) ∈ lw_all := lw_g (lw_at lw_m7 76 rfl) rfl
theorem q1650 : (Jvm.Cond.code ({ cls := "java/util/ArrayList", name := "size", desc := "()I" } : Jvm.MethodName) prog_55_method_8_code (1 : Nat) (Option.some Jvm.ClassFile.FieldType.int)) ∈ lw_all := lw_g (lw_at lw_m7 77 rfl) rfl
theorem q1727 : (Jvm.Cond.instanceMethod ({ cls := "java/util/ArrayList", name := "add", desc := "(Ljava/lang/Object;)Z" } : Jvm.MethodName)) ∈ lw_all := lw_g (lw_at lw_m7 154 rfl) rfl
theorem q1728 : (Jvm.Cond.selects "java/util/ArrayList" ({ cls := "java/util/ArrayList", name := "add", desc := "(Ljava/lang/Object;)Z" } : Jvm.MethodName) ({ cls := "java/util/ArrayList", name := "add", desc := "(Ljava/lang/Object;)Z" } : Jvm.MethodName)) ∈ lw_all := lw_g (lw_at lw_m7 155 rfl) rfl
theorem q1729 : (Jvm.Cond.code ({ cls := "java/util/ArrayList", name := "add", desc := "(Ljava/lang/Object;)Z" } : Jvm.MethodName) prog_55_method_25_code (2 : Nat) (Option.some Jvm.ClassFile.FieldType.boolean)) ∈ lw_all := lw_g (lw_at lw_m7 156 rfl) rfl
theorem q1730 : (Jvm.Cond.methodLink "java/util/ArrayList" (131 : Nat) ({ cls := "java/util/ArrayList", name := "add", desc := "(Ljava/lang/Object;[Ljava/lang/Object;I)V" } : Jvm.MethodName)) ∈ lw_all := lw_g (lw_at lw_m7 157 rfl) rfl
theorem q1731 : (Jvm.Cond.privateMethod ({ cls := "java/util/ArrayList", name := "add", desc := "(Ljava/lang/Object;[Ljava/lang/Object;I)V" } : Jvm.MethodName)) ∈ lw_tbl := lw_at lw_m7 158 rfl
theorem q1732 : (Jvm.Cond.instanceMethod ({ cls := "java/util/ArrayList", name := "add", desc := "(Ljava/lang/Object;[Ljava/lang/Object;I)V" } : Jvm.MethodName)) ∈ lw_all := lw_g (lw_at lw_m7 159 rfl) rfl
theorem q1733 : (Jvm.Cond.code ({ cls := "java/util/ArrayList", name := "add", desc := "(Ljava/lang/Object;[Ljava/lang/Object;I)V" } : Jvm.MethodName) prog_55_method_24_code (4 : Nat) (Option.none : Option Jvm.ClassFile.FieldType)) ∈ lw_all := lw_g (lw_at lw_m7 160 rfl) rfl
theorem q1734 : (Jvm.Cond.methodLink "java/util/ArrayList" (129 : Nat) ({ cls := "java/util/ArrayList", name := "grow", desc := "()[Ljava/lang/Object;" } : Jvm.MethodName)) ∈ lw_all := lw_g (lw_at lw_m7 161 rfl) rfl
theorem q1735 : (Jvm.Cond.privateMethod ({ cls := "java/util/ArrayList", name := "grow", desc := "()[Ljava/lang/Object;" } : Jvm.MethodName)) ∈ lw_tbl := lw_at lw_m7 162 rfl
theorem q1736 : (Jvm.Cond.instanceMethod ({ cls := "java/util/ArrayList", name := "grow", desc := "()[Ljava/lang/Object;" } : Jvm.MethodName)) ∈ lw_all := lw_g (lw_at lw_m7 163 rfl) rfl
theorem q1737 : (Jvm.Cond.code ({ cls := "java/util/ArrayList", name := "grow", desc := "()[Ljava/lang/Object;" } : Jvm.MethodName) prog_55_method_7_code (1 : Nat) (Option.some (Jvm.ClassFile.FieldType.array (Jvm.ClassFile.FieldType.object "java/lang/Object")))) ∈ lw_all := lw_g (lw_at lw_m7 164 rfl) rfl
theorem q1738 : (Jvm.Cond.methodLink "java/util/ArrayList" (69 : Nat) ({ cls := "java/util/ArrayList", name := "grow", desc := "(I)[Ljava/lang/Object;" } : Jvm.MethodName)) ∈ lw_all := lw_g (lw_at lw_m7 165 rfl) rfl
theorem q1739 : (Jvm.Cond.privateMethod ({ cls := "java/util/ArrayList", name := "grow", desc := "(I)[Ljava/lang/Object;" } : Jvm.MethodName)) ∈ lw_tbl := lw_at lw_m7 166 rfl
theorem q1740 : (Jvm.Cond.instanceMethod ({ cls := "java/util/ArrayList", name := "grow", desc := "(I)[Ljava/lang/Object;" } : Jvm.MethodName)) ∈ lw_all := lw_g (lw_at lw_m7 167 rfl) rfl
theorem q1741 : (Jvm.Cond.code ({ cls := "java/util/ArrayList", name := "grow", desc := "(I)[Ljava/lang/Object;" } : Jvm.MethodName) prog_55_method_6_code (4 : Nat) (Option.some (Jvm.ClassFile.FieldType.array (Jvm.ClassFile.FieldType.object "java/lang/Object")))) ∈ lw_all := lw_g (lw_at lw_m7 168 rfl) rfl
theorem q1742 : (Jvm.Cond.fieldLink "java/util/ArrayList" (39 : Nat) "java/util/ArrayList" "DEFAULTCAPACITY_EMPTY_ELEMENTDATA" "[Ljava/lang/Object;") ∈ lw_all := lw_g (lw_at lw_m7 169 rfl) rfl
theorem q1743 : (Jvm.Cond.laysStatic "java/util/ArrayList" "DEFAULTCAPACITY_EMPTY_ELEMENTDATA" "[Ljava/lang/Object;") ∈ lw_tbl := lw_at lw_m7 170 rfl
theorem q1744 : (Jvm.Cond.methodLink "java/util/ArrayList" (73 : Nat) ({ cls := "jdk/internal/util/ArraysSupport", name := "newLength", desc := "(III)I" } : Jvm.MethodName)) ∈ lw_all := lw_g (lw_at lw_m7 171 rfl) rfl
theorem q1745 : (Jvm.Cond.methodLink "java/util/ArrayList" (66 : Nat) ({ cls := "java/util/Arrays", name := "copyOf", desc := "([Ljava/lang/Object;I)[Ljava/lang/Object;" } : Jvm.MethodName)) ∈ lw_all := lw_g (lw_at lw_m7 172 rfl) rfl
theorem q1746 : (Jvm.Cond.methodLink "java/util/ArrayList" (79 : Nat) ({ cls := "java/lang/Math", name := "max", desc := "(II)I" } : Jvm.MethodName)) ∈ lw_all := lw_g (lw_at lw_m7 173 rfl) rfl
theorem q1751 : (Jvm.Cond.instanceMethod ({ cls := "java/util/ArrayList", name := "remove", desc := "(I)Ljava/lang/Object;" } : Jvm.MethodName)) ∈ lw_all := lw_g (lw_at lw_m7 178 rfl) rfl
theorem q1752 : (Jvm.Cond.selects "java/util/ArrayList" ({ cls := "java/util/ArrayList", name := "remove", desc := "(I)Ljava/lang/Object;" } : Jvm.MethodName) ({ cls := "java/util/ArrayList", name := "remove", desc := "(I)Ljava/lang/Object;" } : Jvm.MethodName)) ∈ lw_all := lw_g (lw_at lw_m7 179 rfl) rfl
theorem q1753 : (Jvm.Cond.code ({ cls := "java/util/ArrayList", name := "remove", desc := "(I)Ljava/lang/Object;" } : Jvm.MethodName) prog_55_method_29_code (4 : Nat) (Option.some (Jvm.ClassFile.FieldType.object "java/lang/Object"))) ∈ lw_all := lw_g (lw_at lw_m7 180 rfl) rfl
theorem q1754 : (Jvm.Cond.methodLink "java/util/ArrayList" (118 : Nat) ({ cls := "java/util/Objects", name := "checkIndex", desc := "(II)I" } : Jvm.MethodName)) ∈ lw_all := lw_g (lw_at lw_m7 181 rfl) rfl
theorem q1758 : (Jvm.Cond.methodLink "java/util/ArrayList" (144 : Nat) ({ cls := "java/util/ArrayList", name := "fastRemove", desc := "([Ljava/lang/Object;I)V" } : Jvm.MethodName)) ∈ lw_all := lw_g (lw_at lw_m7 185 rfl) rfl
theorem q1759 : (Jvm.Cond.privateMethod ({ cls := "java/util/ArrayList", name := "fastRemove", desc := "([Ljava/lang/Object;I)V" } : Jvm.MethodName)) ∈ lw_tbl := lw_at lw_m7 186 rfl
theorem q1760 : (Jvm.Cond.instanceMethod ({ cls := "java/util/ArrayList", name := "fastRemove", desc := "([Ljava/lang/Object;I)V" } : Jvm.MethodName)) ∈ lw_all := lw_g (lw_at lw_m7 187 rfl) rfl
theorem q1761 : (Jvm.Cond.code ({ cls := "java/util/ArrayList", name := "fastRemove", desc := "([Ljava/lang/Object;I)V" } : Jvm.MethodName) prog_55_method_39_code (4 : Nat) (Option.none : Option Jvm.ClassFile.FieldType)) ∈ lw_all := lw_g (lw_at lw_m7 188 rfl) rfl
theorem q1762 : (Jvm.Cond.methodLink "java/util/ArrayList" (112 : Nat) ({ cls := "java/lang/System", name := "arraycopy", desc := "(Ljava/lang/Object;ILjava/lang/Object;II)V" } : Jvm.MethodName)) ∈ lw_all := lw_g (lw_at lw_m7 189 rfl) rfl
theorem q1777 : (Jvm.Cond.instanceMethod ({ cls := "java/util/ArrayList", name := "get", desc := "(I)Ljava/lang/Object;" } : Jvm.MethodName)) ∈ lw_all := lw_g (lw_at lw_m7 204 rfl) rfl
theorem q1778 : (Jvm.Cond.selects "java/util/ArrayList" ({ cls := "java/util/ArrayList", name := "get", desc := "(I)Ljava/lang/Object;" } : Jvm.MethodName) ({ cls := "java/util/ArrayList", name := "get", desc := "(I)Ljava/lang/Object;" } : Jvm.MethodName)) ∈ lw_all := lw_g (lw_at lw_m7 205 rfl) rfl
theorem q1779 : (Jvm.Cond.code ({ cls := "java/util/ArrayList", name := "get", desc := "(I)Ljava/lang/Object;" } : Jvm.MethodName) prog_55_method_20_code (2 : Nat) (Option.some (Jvm.ClassFile.FieldType.object "java/lang/Object"))) ∈ lw_all := lw_g (lw_at lw_m7 206 rfl) rfl
theorem q1780 : (Jvm.Cond.methodLink "java/util/ArrayList" (123 : Nat) ({ cls := "java/util/ArrayList", name := "elementData", desc := "(I)Ljava/lang/Object;" } : Jvm.MethodName)) ∈ lw_all := lw_g (lw_at lw_m7 207 rfl) rfl
theorem q1781 : (Jvm.Cond.instanceMethod ({ cls := "java/util/ArrayList", name := "elementData", desc := "(I)Ljava/lang/Object;" } : Jvm.MethodName)) ∈ lw_all := lw_g (lw_at lw_m7 208 rfl) rfl
theorem q1782 : (Jvm.Cond.selects "java/util/ArrayList" ({ cls := "java/util/ArrayList", name := "elementData", desc := "(I)Ljava/lang/Object;" } : Jvm.MethodName) ({ cls := "java/util/ArrayList", name := "elementData", desc := "(I)Ljava/lang/Object;" } : Jvm.MethodName)) ∈ lw_all := lw_g (lw_at lw_m7 209 rfl) rfl
theorem q1783 : (Jvm.Cond.code ({ cls := "java/util/ArrayList", name := "elementData", desc := "(I)Ljava/lang/Object;" } : Jvm.MethodName) prog_55_method_18_code (2 : Nat) (Option.some (Jvm.ClassFile.FieldType.object "java/lang/Object"))) ∈ lw_all := lw_g (lw_at lw_m7 210 rfl) rfl
theorem q2102 : (Jvm.Cond.castable "java/util/ArrayList" "java/util/Collection") ∈ lw_tbl := lw_at lw_m9 49 rfl
theorem q2103 : (Jvm.Cond.selects "java/util/ArrayList" ({ cls := "java/util/Collection", name := "iterator", desc := "()Ljava/util/Iterator;" } : Jvm.MethodName) ({ cls := "java/util/ArrayList", name := "iterator", desc := "()Ljava/util/Iterator;" } : Jvm.MethodName)) ∈ lw_all := lw_g (lw_at lw_m9 50 rfl) rfl
theorem q2104 : (Jvm.Cond.unhidden "java/util/ArrayList" "iterator" "()Ljava/util/Iterator;") ∈ lw_tbl := lw_at lw_m9 51 rfl
theorem q2105 : (Jvm.Cond.instanceMethod ({ cls := "java/util/ArrayList", name := "iterator", desc := "()Ljava/util/Iterator;" } : Jvm.MethodName)) ∈ lw_all := lw_g (lw_at lw_m9 52 rfl) rfl
theorem q2106 : (Jvm.Cond.publicMethod ({ cls := "java/util/ArrayList", name := "iterator", desc := "()Ljava/util/Iterator;" } : Jvm.MethodName)) ∈ lw_tbl := lw_at lw_m9 53 rfl
theorem q2107 : (Jvm.Cond.code ({ cls := "java/util/ArrayList", name := "iterator", desc := "()Ljava/util/Iterator;" } : Jvm.MethodName) prog_55_method_55_code (1 : Nat) (Option.some (Jvm.ClassFile.FieldType.object "java/util/Iterator"))) ∈ lw_all := lw_g (lw_at lw_m9 54 rfl) rfl
theorem q2108 : (Jvm.Cond.classLink "java/util/ArrayList" (267 : Nat) "java/util/ArrayList$Itr") ∈ lw_all := lw_g (lw_at lw_m9 55 rfl) rfl
theorem q2110 : (Jvm.Cond.methodLink "java/util/ArrayList" (269 : Nat) ({ cls := "java/util/ArrayList$Itr", name := "<init>", desc := "(Ljava/util/ArrayList;)V" } : Jvm.MethodName)) ∈ lw_all := lw_g (lw_at lw_m9 57 rfl) rfl
theorem q3217 : (Jvm.Cond.castable "java/util/ArrayList" "java/util/SequencedCollection") ∈ lw_tbl := lw_at lw_m13 204 rfl
theorem q3230 : (Jvm.Cond.castable "java/util/ArrayList" "java/lang/Object") ∈ lw_tbl := lw_at lw_m13 217 rfl
theorem in_J20 : ∀ w ∈ wsJ200, w ∈ lw_all := lw_in wsJ200 [1052, 1048, 1050] (by decide +kernel) (by decide +kernel)
