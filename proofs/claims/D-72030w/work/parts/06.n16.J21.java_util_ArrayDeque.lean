/-! java/util/ArrayDeque -/
set_option maxRecDepth 100000
def RJ21 : String := "java/util/ArrayDeque"
def TJ21 : u_T := fun k => match k with
  | 0 => ("java/util/ArrayDeque", "elements", "[Ljava/lang/Object;", false)
  | 1 => ("java/util/ArrayDeque", "head", "I", false)
  | _ => ("java/util/ArrayDeque", "tail", "I", false)
def tyJ21 : Nat → FieldType := fun k => match k with
  | 0 => .array (.object "java/lang/Object")
  | 1 => .int
  | _ => .int
abbrev wsJ210 : List Cond := u_ws RJ21 TJ21 3
theorem nmJ21 : ∀ a, a < 3 → ∀ b, b < 3 → a ≠ b → (TJ21 a).2.1 ≠ (TJ21 b).2.1 := by decide +kernel
theorem tyJ21_ok : ∀ k, k < 3 → parseFieldDescriptor (TJ21 k).2.2.1 = some (tyJ21 k) := by decide +kernel
abbrev cJ21_init : ByteArray := prog_53_method_3_code
def yJ21_init : MethodName := ⟨RJ21, "<init>", "()V"⟩
def dkwJ21_init_0 : List UInt8 := [42, 183, 0, 42, 42, 16, 17, 189, 0, 47, 181, 0, 3, 177]
abbrev dktJ21_init_0 : List UInt8 := dkwJ21_init_0 ++ []
theorem dksJ21_init_0 : cJ21_init.data.toList.drop 0 = dktJ21_init_0 := by decide +kernel
theorem dJ21_init_0 : decode cJ21_init 0 = .ok (.aload_n 0, 1) := dk_42 (dk_at dksJ21_init_0 0 rfl rfl)
theorem dJ21_init_1 : decode cJ21_init 1 = .ok (.invokespecial 42, 3) := dk_183 0 42 (dk_at dksJ21_init_0 1 rfl rfl)
theorem dJ21_init_4 : decode cJ21_init 4 = .ok (.aload_n 0, 1) := dk_42 (dk_at dksJ21_init_0 4 rfl rfl)
theorem dJ21_init_5 : decode cJ21_init 5 = .ok (.bipush 17, 2) := dk_16 17 (dk_at dksJ21_init_0 5 rfl rfl)
theorem dJ21_init_7 : decode cJ21_init 7 = .ok (.anewarray 47, 3) := dk_189 0 47 (dk_at dksJ21_init_0 7 rfl rfl)
theorem dJ21_init_10 : decode cJ21_init 10 = .ok (.putfield 3, 3) := dk_181 0 3 (dk_at dksJ21_init_0 10 rfl rfl)
theorem dJ21_init_13 : decode cJ21_init 13 = .ok (.return_, 1) := dk_177 (dk_at dksJ21_init_0 13 rfl rfl)
abbrev cJ21_size : ByteArray := prog_53_method_37_code
def yJ21_size : MethodName := ⟨RJ21, "size", "()I"⟩
def dkwJ21_size_0 : List UInt8 := [42, 180, 0, 20, 42, 180, 0, 24, 42, 180, 0, 3, 190, 184, 0, 127, 172]
abbrev dktJ21_size_0 : List UInt8 := dkwJ21_size_0 ++ []
theorem dksJ21_size_0 : cJ21_size.data.toList.drop 0 = dktJ21_size_0 := by decide +kernel
theorem dJ21_size_0 : decode cJ21_size 0 = .ok (.aload_n 0, 1) := dk_42 (dk_at dksJ21_size_0 0 rfl rfl)
theorem dJ21_size_1 : decode cJ21_size 1 = .ok (.getfield 20, 3) := dk_180 0 20 (dk_at dksJ21_size_0 1 rfl rfl)
theorem dJ21_size_4 : decode cJ21_size 4 = .ok (.aload_n 0, 1) := dk_42 (dk_at dksJ21_size_0 4 rfl rfl)
theorem dJ21_size_5 : decode cJ21_size 5 = .ok (.getfield 24, 3) := dk_180 0 24 (dk_at dksJ21_size_0 5 rfl rfl)
theorem dJ21_size_8 : decode cJ21_size 8 = .ok (.aload_n 0, 1) := dk_42 (dk_at dksJ21_size_0 8 rfl rfl)
theorem dJ21_size_9 : decode cJ21_size 9 = .ok (.getfield 3, 3) := dk_180 0 3 (dk_at dksJ21_size_0 9 rfl rfl)
theorem dJ21_size_12 : decode cJ21_size 12 = .ok (.arraylength, 1) := dk_190 (dk_at dksJ21_size_0 12 rfl rfl)
theorem dJ21_size_13 : decode cJ21_size 13 = .ok (.invokestatic 127, 3) := dk_184 0 127 (dk_at dksJ21_size_0 13 rfl rfl)
theorem dJ21_size_16 : decode cJ21_size 16 = .ok (.ireturn, 1) := dk_172 (dk_at dksJ21_size_0 16 rfl rfl)
abbrev cJ21_sub : ByteArray := prog_53_method_9_code
def yJ21_sub : MethodName := ⟨RJ21, "sub", "(III)I"⟩
def dkwJ21_sub_0 : List UInt8 := [26, 27, 100, 89, 59, 156, 0, 7, 26, 28, 96, 59, 26, 172]
abbrev dktJ21_sub_0 : List UInt8 := dkwJ21_sub_0 ++ []
theorem dksJ21_sub_0 : cJ21_sub.data.toList.drop 0 = dktJ21_sub_0 := by decide +kernel
theorem dJ21_sub_0 : decode cJ21_sub 0 = .ok (.iload_n 0, 1) := dk_26 (dk_at dksJ21_sub_0 0 rfl rfl)
theorem dJ21_sub_1 : decode cJ21_sub 1 = .ok (.iload_n 1, 1) := dk_27 (dk_at dksJ21_sub_0 1 rfl rfl)
theorem dJ21_sub_2 : decode cJ21_sub 2 = .ok (.isub, 1) := dk_100 (dk_at dksJ21_sub_0 2 rfl rfl)
theorem dJ21_sub_3 : decode cJ21_sub 3 = .ok (.dup, 1) := dk_89 (dk_at dksJ21_sub_0 3 rfl rfl)
theorem dJ21_sub_4 : decode cJ21_sub 4 = .ok (.istore_n 0, 1) := dk_59 (dk_at dksJ21_sub_0 4 rfl rfl)
theorem dJ21_sub_5 : decode cJ21_sub 5 = .ok (.ifCond .ge 7, 3) := dk_156 0 7 (dk_at dksJ21_sub_0 5 rfl rfl)
theorem dJ21_sub_8 : decode cJ21_sub 8 = .ok (.iload_n 0, 1) := dk_26 (dk_at dksJ21_sub_0 8 rfl rfl)
theorem dJ21_sub_9 : decode cJ21_sub 9 = .ok (.iload_n 2, 1) := dk_28 (dk_at dksJ21_sub_0 9 rfl rfl)
theorem dJ21_sub_10 : decode cJ21_sub 10 = .ok (.iadd, 1) := dk_96 (dk_at dksJ21_sub_0 10 rfl rfl)
theorem dJ21_sub_11 : decode cJ21_sub 11 = .ok (.istore_n 0, 1) := dk_59 (dk_at dksJ21_sub_0 11 rfl rfl)
theorem dJ21_sub_12 : decode cJ21_sub 12 = .ok (.iload_n 0, 1) := dk_26 (dk_at dksJ21_sub_0 12 rfl rfl)
theorem dJ21_sub_13 : decode cJ21_sub 13 = .ok (.ireturn, 1) := dk_172 (dk_at dksJ21_sub_0 13 rfl rfl)
abbrev cJ21_pollFirst : ByteArray := prog_53_method_20_code
def yJ21_pollFirst : MethodName := ⟨RJ21, "pollFirst", "()Ljava/lang/Object;"⟩
def dkwJ21_pollFirst_1 : List UInt8 := [42, 28, 43, 190, 184, 0, 74, 181, 0, 24, 45, 176]
abbrev dktJ21_pollFirst_1 : List UInt8 := dkwJ21_pollFirst_1 ++ []
def dkwJ21_pollFirst_0 : List UInt8 := [42, 180, 0, 3, 89, 76, 42, 180, 0, 24, 89, 61, 184, 0, 103, 78, 45, 198, 0, 17, 43, 28, 1, 83]
abbrev dktJ21_pollFirst_0 : List UInt8 := dkwJ21_pollFirst_0 ++ dktJ21_pollFirst_1
theorem dksJ21_pollFirst_0 : cJ21_pollFirst.data.toList.drop 0 = dktJ21_pollFirst_0 := by decide +kernel
theorem dksJ21_pollFirst_1 : cJ21_pollFirst.data.toList.drop 24 = dktJ21_pollFirst_1 := dk_seg dksJ21_pollFirst_0 24 rfl rfl
theorem dJ21_pollFirst_0 : decode cJ21_pollFirst 0 = .ok (.aload_n 0, 1) := dk_42 (dk_at dksJ21_pollFirst_0 0 rfl rfl)
theorem dJ21_pollFirst_1 : decode cJ21_pollFirst 1 = .ok (.getfield 3, 3) := dk_180 0 3 (dk_at dksJ21_pollFirst_0 1 rfl rfl)
theorem dJ21_pollFirst_4 : decode cJ21_pollFirst 4 = .ok (.dup, 1) := dk_89 (dk_at dksJ21_pollFirst_0 4 rfl rfl)
theorem dJ21_pollFirst_5 : decode cJ21_pollFirst 5 = .ok (.astore_n 1, 1) := dk_76 (dk_at dksJ21_pollFirst_0 5 rfl rfl)
theorem dJ21_pollFirst_6 : decode cJ21_pollFirst 6 = .ok (.aload_n 0, 1) := dk_42 (dk_at dksJ21_pollFirst_0 6 rfl rfl)
theorem dJ21_pollFirst_7 : decode cJ21_pollFirst 7 = .ok (.getfield 24, 3) := dk_180 0 24 (dk_at dksJ21_pollFirst_0 7 rfl rfl)
theorem dJ21_pollFirst_10 : decode cJ21_pollFirst 10 = .ok (.dup, 1) := dk_89 (dk_at dksJ21_pollFirst_0 10 rfl rfl)
theorem dJ21_pollFirst_11 : decode cJ21_pollFirst 11 = .ok (.istore_n 2, 1) := dk_61 (dk_at dksJ21_pollFirst_0 11 rfl rfl)
theorem dJ21_pollFirst_12 : decode cJ21_pollFirst 12 = .ok (.invokestatic 103, 3) := dk_184 0 103 (dk_at dksJ21_pollFirst_0 12 rfl rfl)
theorem dJ21_pollFirst_15 : decode cJ21_pollFirst 15 = .ok (.astore_n 3, 1) := dk_78 (dk_at dksJ21_pollFirst_0 15 rfl rfl)
theorem dJ21_pollFirst_16 : decode cJ21_pollFirst 16 = .ok (.aload_n 3, 1) := dk_45 (dk_at dksJ21_pollFirst_0 16 rfl rfl)
theorem dJ21_pollFirst_17 : decode cJ21_pollFirst 17 = .ok (.ifnull 17, 3) := dk_198 0 17 (dk_at dksJ21_pollFirst_0 17 rfl rfl)
theorem dJ21_pollFirst_20 : decode cJ21_pollFirst 20 = .ok (.aload_n 1, 1) := dk_43 (dk_at dksJ21_pollFirst_0 20 rfl rfl)
theorem dJ21_pollFirst_21 : decode cJ21_pollFirst 21 = .ok (.iload_n 2, 1) := dk_28 (dk_at dksJ21_pollFirst_0 21 rfl rfl)
theorem dJ21_pollFirst_22 : decode cJ21_pollFirst 22 = .ok (.aconst_null, 1) := dk_1 (dk_at dksJ21_pollFirst_0 22 rfl rfl)
theorem dJ21_pollFirst_23 : decode cJ21_pollFirst 23 = .ok (.aastore, 1) := dk_83 (dk_at dksJ21_pollFirst_0 23 rfl rfl)
theorem dJ21_pollFirst_24 : decode cJ21_pollFirst 24 = .ok (.aload_n 0, 1) := dk_42 (dk_at dksJ21_pollFirst_1 0 rfl rfl)
theorem dJ21_pollFirst_25 : decode cJ21_pollFirst 25 = .ok (.iload_n 2, 1) := dk_28 (dk_at dksJ21_pollFirst_1 1 rfl rfl)
theorem dJ21_pollFirst_26 : decode cJ21_pollFirst 26 = .ok (.aload_n 1, 1) := dk_43 (dk_at dksJ21_pollFirst_1 2 rfl rfl)
theorem dJ21_pollFirst_27 : decode cJ21_pollFirst 27 = .ok (.arraylength, 1) := dk_190 (dk_at dksJ21_pollFirst_1 3 rfl rfl)
theorem dJ21_pollFirst_28 : decode cJ21_pollFirst 28 = .ok (.invokestatic 74, 3) := dk_184 0 74 (dk_at dksJ21_pollFirst_1 4 rfl rfl)
theorem dJ21_pollFirst_31 : decode cJ21_pollFirst 31 = .ok (.putfield 24, 3) := dk_181 0 24 (dk_at dksJ21_pollFirst_1 7 rfl rfl)
theorem dJ21_pollFirst_34 : decode cJ21_pollFirst 34 = .ok (.aload_n 3, 1) := dk_45 (dk_at dksJ21_pollFirst_1 10 rfl rfl)
theorem dJ21_pollFirst_35 : decode cJ21_pollFirst 35 = .ok (.areturn, 1) := dk_176 (dk_at dksJ21_pollFirst_1 11 rfl rfl)
abbrev cJ21_elementAt : ByteArray := prog_53_method_10_code
def yJ21_elementAt : MethodName := ⟨RJ21, "elementAt", "([Ljava/lang/Object;I)Ljava/lang/Object;"⟩
def dkwJ21_elementAt_0 : List UInt8 := [42, 27, 50, 176]
abbrev dktJ21_elementAt_0 : List UInt8 := dkwJ21_elementAt_0 ++ []
theorem dksJ21_elementAt_0 : cJ21_elementAt.data.toList.drop 0 = dktJ21_elementAt_0 := by decide +kernel
theorem dJ21_elementAt_0 : decode cJ21_elementAt 0 = .ok (.aload_n 0, 1) := dk_42 (dk_at dksJ21_elementAt_0 0 rfl rfl)
theorem dJ21_elementAt_1 : decode cJ21_elementAt 1 = .ok (.iload_n 1, 1) := dk_27 (dk_at dksJ21_elementAt_0 1 rfl rfl)
theorem dJ21_elementAt_2 : decode cJ21_elementAt 2 = .ok (.aaload, 1) := dk_50 (dk_at dksJ21_elementAt_0 2 rfl rfl)
theorem dJ21_elementAt_3 : decode cJ21_elementAt 3 = .ok (.areturn, 1) := dk_176 (dk_at dksJ21_elementAt_0 3 rfl rfl)
abbrev cJ21_inc : ByteArray := prog_53_method_6_code
def yJ21_inc : MethodName := ⟨RJ21, "inc", "(II)I"⟩
def dkwJ21_inc_0 : List UInt8 := [132, 0, 1, 26, 27, 161, 0, 5, 3, 59, 26, 172]
abbrev dktJ21_inc_0 : List UInt8 := dkwJ21_inc_0 ++ []
theorem dksJ21_inc_0 : cJ21_inc.data.toList.drop 0 = dktJ21_inc_0 := by decide +kernel
theorem dJ21_inc_0 : decode cJ21_inc 0 = .ok (.iinc 0 1, 3) := dk_132 0 1 (dk_at dksJ21_inc_0 0 rfl rfl)
theorem dJ21_inc_3 : decode cJ21_inc 3 = .ok (.iload_n 0, 1) := dk_26 (dk_at dksJ21_inc_0 3 rfl rfl)
theorem dJ21_inc_4 : decode cJ21_inc 4 = .ok (.iload_n 1, 1) := dk_27 (dk_at dksJ21_inc_0 4 rfl rfl)
theorem dJ21_inc_5 : decode cJ21_inc 5 = .ok (.if_icmp .lt 5, 3) := dk_161 0 5 (dk_at dksJ21_inc_0 5 rfl rfl)
theorem dJ21_inc_8 : decode cJ21_inc 8 = .ok (.iconst 0, 1) := dk_3 (dk_at dksJ21_inc_0 8 rfl rfl)
theorem dJ21_inc_9 : decode cJ21_inc 9 = .ok (.istore_n 0, 1) := dk_59 (dk_at dksJ21_inc_0 9 rfl rfl)
theorem dJ21_inc_10 : decode cJ21_inc 10 = .ok (.iload_n 0, 1) := dk_26 (dk_at dksJ21_inc_0 10 rfl rfl)
theorem dJ21_inc_11 : decode cJ21_inc 11 = .ok (.ireturn, 1) := dk_172 (dk_at dksJ21_inc_0 11 rfl rfl)
abbrev cJ21_addLast : ByteArray := prog_53_method_13_code
def yJ21_addLast : MethodName := ⟨RJ21, "addLast", "(Ljava/lang/Object;)V"⟩
def dkwJ21_addLast_2 : List UInt8 := [182, 0, 71, 177]
abbrev dktJ21_addLast_2 : List UInt8 := dkwJ21_addLast_2 ++ []
def dkwJ21_addLast_1 : List UInt8 := [42, 180, 0, 24, 42, 42, 180, 0, 20, 44, 190, 184, 0, 74, 90, 181, 0, 20, 160, 0, 8, 42, 4]
abbrev dktJ21_addLast_1 : List UInt8 := dkwJ21_addLast_1 ++ dktJ21_addLast_2
def dkwJ21_addLast_0 : List UInt8 := [43, 199, 0, 11, 187, 0, 65, 89, 183, 0, 67, 191, 42, 180, 0, 3, 77, 44, 42, 180, 0, 20, 43, 83]
abbrev dktJ21_addLast_0 : List UInt8 := dkwJ21_addLast_0 ++ dktJ21_addLast_1
theorem dksJ21_addLast_0 : cJ21_addLast.data.toList.drop 0 = dktJ21_addLast_0 := by decide +kernel
theorem dksJ21_addLast_1 : cJ21_addLast.data.toList.drop 24 = dktJ21_addLast_1 := dk_seg dksJ21_addLast_0 24 rfl rfl
theorem dksJ21_addLast_2 : cJ21_addLast.data.toList.drop 47 = dktJ21_addLast_2 := dk_seg dksJ21_addLast_1 23 rfl rfl
theorem dJ21_addLast_0 : decode cJ21_addLast 0 = .ok (.aload_n 1, 1) := dk_43 (dk_at dksJ21_addLast_0 0 rfl rfl)
theorem dJ21_addLast_1 : decode cJ21_addLast 1 = .ok (.ifnonnull 11, 3) := dk_199 0 11 (dk_at dksJ21_addLast_0 1 rfl rfl)
theorem dJ21_addLast_4 : decode cJ21_addLast 4 = .ok (.new 65, 3) := dk_187 0 65 (dk_at dksJ21_addLast_0 4 rfl rfl)
theorem dJ21_addLast_7 : decode cJ21_addLast 7 = .ok (.dup, 1) := dk_89 (dk_at dksJ21_addLast_0 7 rfl rfl)
theorem dJ21_addLast_8 : decode cJ21_addLast 8 = .ok (.invokespecial 67, 3) := dk_183 0 67 (dk_at dksJ21_addLast_0 8 rfl rfl)
theorem dJ21_addLast_11 : decode cJ21_addLast 11 = .ok (.athrow, 1) := dk_191 (dk_at dksJ21_addLast_0 11 rfl rfl)
theorem dJ21_addLast_12 : decode cJ21_addLast 12 = .ok (.aload_n 0, 1) := dk_42 (dk_at dksJ21_addLast_0 12 rfl rfl)
theorem dJ21_addLast_13 : decode cJ21_addLast 13 = .ok (.getfield 3, 3) := dk_180 0 3 (dk_at dksJ21_addLast_0 13 rfl rfl)
theorem dJ21_addLast_16 : decode cJ21_addLast 16 = .ok (.astore_n 2, 1) := dk_77 (dk_at dksJ21_addLast_0 16 rfl rfl)
theorem dJ21_addLast_17 : decode cJ21_addLast 17 = .ok (.aload_n 2, 1) := dk_44 (dk_at dksJ21_addLast_0 17 rfl rfl)
theorem dJ21_addLast_18 : decode cJ21_addLast 18 = .ok (.aload_n 0, 1) := dk_42 (dk_at dksJ21_addLast_0 18 rfl rfl)
theorem dJ21_addLast_19 : decode cJ21_addLast 19 = .ok (.getfield 20, 3) := dk_180 0 20 (dk_at dksJ21_addLast_0 19 rfl rfl)
theorem dJ21_addLast_22 : decode cJ21_addLast 22 = .ok (.aload_n 1, 1) := dk_43 (dk_at dksJ21_addLast_0 22 rfl rfl)
theorem dJ21_addLast_23 : decode cJ21_addLast 23 = .ok (.aastore, 1) := dk_83 (dk_at dksJ21_addLast_0 23 rfl rfl)
theorem dJ21_addLast_24 : decode cJ21_addLast 24 = .ok (.aload_n 0, 1) := dk_42 (dk_at dksJ21_addLast_1 0 rfl rfl)
theorem dJ21_addLast_25 : decode cJ21_addLast 25 = .ok (.getfield 24, 3) := dk_180 0 24 (dk_at dksJ21_addLast_1 1 rfl rfl)
theorem dJ21_addLast_28 : decode cJ21_addLast 28 = .ok (.aload_n 0, 1) := dk_42 (dk_at dksJ21_addLast_1 4 rfl rfl)
theorem dJ21_addLast_29 : decode cJ21_addLast 29 = .ok (.aload_n 0, 1) := dk_42 (dk_at dksJ21_addLast_1 5 rfl rfl)
theorem dJ21_addLast_30 : decode cJ21_addLast 30 = .ok (.getfield 20, 3) := dk_180 0 20 (dk_at dksJ21_addLast_1 6 rfl rfl)
theorem dJ21_addLast_33 : decode cJ21_addLast 33 = .ok (.aload_n 2, 1) := dk_44 (dk_at dksJ21_addLast_1 9 rfl rfl)
theorem dJ21_addLast_34 : decode cJ21_addLast 34 = .ok (.arraylength, 1) := dk_190 (dk_at dksJ21_addLast_1 10 rfl rfl)
theorem dJ21_addLast_35 : decode cJ21_addLast 35 = .ok (.invokestatic 74, 3) := dk_184 0 74 (dk_at dksJ21_addLast_1 11 rfl rfl)
theorem dJ21_addLast_38 : decode cJ21_addLast 38 = .ok (.dup_x1, 1) := dk_90 (dk_at dksJ21_addLast_1 14 rfl rfl)
theorem dJ21_addLast_39 : decode cJ21_addLast 39 = .ok (.putfield 20, 3) := dk_181 0 20 (dk_at dksJ21_addLast_1 15 rfl rfl)
theorem dJ21_addLast_42 : decode cJ21_addLast 42 = .ok (.if_icmp .ne 8, 3) := dk_160 0 8 (dk_at dksJ21_addLast_1 18 rfl rfl)
theorem dJ21_addLast_45 : decode cJ21_addLast 45 = .ok (.aload_n 0, 1) := dk_42 (dk_at dksJ21_addLast_1 21 rfl rfl)
theorem dJ21_addLast_46 : decode cJ21_addLast 46 = .ok (.iconst 1, 1) := dk_4 (dk_at dksJ21_addLast_1 22 rfl rfl)
theorem dJ21_addLast_47 : decode cJ21_addLast 47 = .ok (.invokevirtual 71, 3) := dk_182 0 71 (dk_at dksJ21_addLast_2 0 rfl rfl)
theorem dJ21_addLast_50 : decode cJ21_addLast 50 = .ok (.return_, 1) := dk_177 (dk_at dksJ21_addLast_2 3 rfl rfl)
abbrev cJ21_grow : ByteArray := prog_53_method_1_code
def yJ21_grow : MethodName := ⟨RJ21, "grow", "(I)V"⟩
def dkwJ21_grow_7 : List UInt8 := [177]
abbrev dktJ21_grow_7 : List UInt8 := dkwJ21_grow_7 ++ []
def dkwJ21_grow_6 : List UInt8 := [181, 0, 24, 54, 8, 21, 7, 21, 8, 162, 0, 15, 25, 5, 21, 7, 1, 83, 132, 7, 1, 167, 255, 240]
abbrev dktJ21_grow_6 : List UInt8 := dkwJ21_grow_6 ++ dktJ21_grow_7
def dkwJ21_grow_5 : List UInt8 := [42, 180, 0, 24, 100, 184, 0, 27, 42, 180, 0, 24, 54, 7, 42, 89, 180, 0, 24, 21, 6, 96, 90]
abbrev dktJ21_grow_5 : List UInt8 := dkwJ21_grow_5 ++ dktJ21_grow_6
def dkwJ21_grow_4 : List UInt8 := [198, 0, 71, 29, 28, 100, 54, 6, 25, 5, 42, 180, 0, 24, 25, 5, 42, 180, 0, 24, 21, 6, 96, 28]
abbrev dktJ21_grow_4 : List UInt8 := dkwJ21_grow_4 ++ dktJ21_grow_5
def dkwJ21_grow_3 : List UInt8 := [180, 0, 24, 161, 0, 24, 42, 180, 0, 20, 42, 180, 0, 24, 160, 0, 81, 25, 5, 42, 180, 0, 24, 50]
abbrev dktJ21_grow_3 : List UInt8 := dkwJ21_grow_3 ++ dktJ21_grow_4
def dkwJ21_grow_2 : List UInt8 := [182, 0, 10, 62, 42, 42, 180, 0, 3, 29, 184, 0, 14, 90, 181, 0, 3, 58, 5, 42, 180, 0, 20, 42]
abbrev dktJ21_grow_2 : List UInt8 := dkwJ21_grow_2 ++ dktJ21_grow_3
def dkwJ21_grow_1 : List UInt8 := [21, 4, 27, 161, 0, 15, 28, 21, 4, 96, 89, 62, 18, 9, 100, 158, 0, 11, 42, 27, 21, 4]
abbrev dktJ21_grow_1 : List UInt8 := dkwJ21_grow_1 ++ dktJ21_grow_2
def dkwJ21_grow_0 : List UInt8 := [42, 180, 0, 3, 190, 61, 28, 16, 64, 162, 0, 9, 28, 5, 96, 167, 0, 6, 28, 4, 122, 54, 4]
abbrev dktJ21_grow_0 : List UInt8 := dkwJ21_grow_0 ++ dktJ21_grow_1
theorem dksJ21_grow_0 : cJ21_grow.data.toList.drop 0 = dktJ21_grow_0 := by decide +kernel
theorem dksJ21_grow_1 : cJ21_grow.data.toList.drop 23 = dktJ21_grow_1 := dk_seg dksJ21_grow_0 23 rfl rfl
theorem dksJ21_grow_2 : cJ21_grow.data.toList.drop 45 = dktJ21_grow_2 := dk_seg dksJ21_grow_1 22 rfl rfl
theorem dksJ21_grow_3 : cJ21_grow.data.toList.drop 69 = dktJ21_grow_3 := dk_seg dksJ21_grow_2 24 rfl rfl
theorem dksJ21_grow_4 : cJ21_grow.data.toList.drop 93 = dktJ21_grow_4 := dk_seg dksJ21_grow_3 24 rfl rfl
theorem dksJ21_grow_5 : cJ21_grow.data.toList.drop 117 = dktJ21_grow_5 := dk_seg dksJ21_grow_4 24 rfl rfl
theorem dksJ21_grow_6 : cJ21_grow.data.toList.drop 140 = dktJ21_grow_6 := dk_seg dksJ21_grow_5 23 rfl rfl
theorem dksJ21_grow_7 : cJ21_grow.data.toList.drop 164 = dktJ21_grow_7 := dk_seg dksJ21_grow_6 24 rfl rfl
theorem dJ21_grow_0 : decode cJ21_grow 0 = .ok (.aload_n 0, 1) := dk_42 (dk_at dksJ21_grow_0 0 rfl rfl)
theorem dJ21_grow_1 : decode cJ21_grow 1 = .ok (.getfield 3, 3) := dk_180 0 3 (dk_at dksJ21_grow_0 1 rfl rfl)
theorem dJ21_grow_4 : decode cJ21_grow 4 = .ok (.arraylength, 1) := dk_190 (dk_at dksJ21_grow_0 4 rfl rfl)
theorem dJ21_grow_5 : decode cJ21_grow 5 = .ok (.istore_n 2, 1) := dk_61 (dk_at dksJ21_grow_0 5 rfl rfl)
theorem dJ21_grow_6 : decode cJ21_grow 6 = .ok (.iload_n 2, 1) := dk_28 (dk_at dksJ21_grow_0 6 rfl rfl)
theorem dJ21_grow_7 : decode cJ21_grow 7 = .ok (.bipush 64, 2) := dk_16 64 (dk_at dksJ21_grow_0 7 rfl rfl)
theorem dJ21_grow_9 : decode cJ21_grow 9 = .ok (.if_icmp .ge 9, 3) := dk_162 0 9 (dk_at dksJ21_grow_0 9 rfl rfl)
theorem dJ21_grow_12 : decode cJ21_grow 12 = .ok (.iload_n 2, 1) := dk_28 (dk_at dksJ21_grow_0 12 rfl rfl)
theorem dJ21_grow_13 : decode cJ21_grow 13 = .ok (.iconst 2, 1) := dk_5 (dk_at dksJ21_grow_0 13 rfl rfl)
theorem dJ21_grow_14 : decode cJ21_grow 14 = .ok (.iadd, 1) := dk_96 (dk_at dksJ21_grow_0 14 rfl rfl)
theorem dJ21_grow_15 : decode cJ21_grow 15 = .ok (.goto 6, 3) := dk_167 0 6 (dk_at dksJ21_grow_0 15 rfl rfl)
theorem dJ21_grow_18 : decode cJ21_grow 18 = .ok (.iload_n 2, 1) := dk_28 (dk_at dksJ21_grow_0 18 rfl rfl)
theorem dJ21_grow_19 : decode cJ21_grow 19 = .ok (.iconst 1, 1) := dk_4 (dk_at dksJ21_grow_0 19 rfl rfl)
theorem dJ21_grow_20 : decode cJ21_grow 20 = .ok (.ishr, 1) := dk_122 (dk_at dksJ21_grow_0 20 rfl rfl)
theorem dJ21_grow_21 : decode cJ21_grow 21 = .ok (.istore 4, 2) := dk_54 4 (dk_at dksJ21_grow_0 21 rfl rfl)
theorem dJ21_grow_23 : decode cJ21_grow 23 = .ok (.iload 4, 2) := dk_21 4 (dk_at dksJ21_grow_1 0 rfl rfl)
theorem dJ21_grow_25 : decode cJ21_grow 25 = .ok (.iload_n 1, 1) := dk_27 (dk_at dksJ21_grow_1 2 rfl rfl)
theorem dJ21_grow_26 : decode cJ21_grow 26 = .ok (.if_icmp .lt 15, 3) := dk_161 0 15 (dk_at dksJ21_grow_1 3 rfl rfl)
theorem dJ21_grow_29 : decode cJ21_grow 29 = .ok (.iload_n 2, 1) := dk_28 (dk_at dksJ21_grow_1 6 rfl rfl)
theorem dJ21_grow_30 : decode cJ21_grow 30 = .ok (.iload 4, 2) := dk_21 4 (dk_at dksJ21_grow_1 7 rfl rfl)
theorem dJ21_grow_32 : decode cJ21_grow 32 = .ok (.iadd, 1) := dk_96 (dk_at dksJ21_grow_1 9 rfl rfl)
theorem dJ21_grow_33 : decode cJ21_grow 33 = .ok (.dup, 1) := dk_89 (dk_at dksJ21_grow_1 10 rfl rfl)
theorem dJ21_grow_34 : decode cJ21_grow 34 = .ok (.istore_n 3, 1) := dk_62 (dk_at dksJ21_grow_1 11 rfl rfl)
theorem dJ21_grow_35 : decode cJ21_grow 35 = .ok (.ldc 9, 2) := dk_18 9 (dk_at dksJ21_grow_1 12 rfl rfl)
theorem dJ21_grow_37 : decode cJ21_grow 37 = .ok (.isub, 1) := dk_100 (dk_at dksJ21_grow_1 14 rfl rfl)
theorem dJ21_grow_38 : decode cJ21_grow 38 = .ok (.ifCond .le 11, 3) := dk_158 0 11 (dk_at dksJ21_grow_1 15 rfl rfl)
theorem dJ21_grow_41 : decode cJ21_grow 41 = .ok (.aload_n 0, 1) := dk_42 (dk_at dksJ21_grow_1 18 rfl rfl)
theorem dJ21_grow_42 : decode cJ21_grow 42 = .ok (.iload_n 1, 1) := dk_27 (dk_at dksJ21_grow_1 19 rfl rfl)
theorem dJ21_grow_43 : decode cJ21_grow 43 = .ok (.iload 4, 2) := dk_21 4 (dk_at dksJ21_grow_1 20 rfl rfl)
theorem dJ21_grow_45 : decode cJ21_grow 45 = .ok (.invokevirtual 10, 3) := dk_182 0 10 (dk_at dksJ21_grow_2 0 rfl rfl)
theorem dJ21_grow_48 : decode cJ21_grow 48 = .ok (.istore_n 3, 1) := dk_62 (dk_at dksJ21_grow_2 3 rfl rfl)
theorem dJ21_grow_49 : decode cJ21_grow 49 = .ok (.aload_n 0, 1) := dk_42 (dk_at dksJ21_grow_2 4 rfl rfl)
theorem dJ21_grow_50 : decode cJ21_grow 50 = .ok (.aload_n 0, 1) := dk_42 (dk_at dksJ21_grow_2 5 rfl rfl)
theorem dJ21_grow_51 : decode cJ21_grow 51 = .ok (.getfield 3, 3) := dk_180 0 3 (dk_at dksJ21_grow_2 6 rfl rfl)
theorem dJ21_grow_54 : decode cJ21_grow 54 = .ok (.iload_n 3, 1) := dk_29 (dk_at dksJ21_grow_2 9 rfl rfl)
theorem dJ21_grow_55 : decode cJ21_grow 55 = .ok (.invokestatic 14, 3) := dk_184 0 14 (dk_at dksJ21_grow_2 10 rfl rfl)
theorem dJ21_grow_58 : decode cJ21_grow 58 = .ok (.dup_x1, 1) := dk_90 (dk_at dksJ21_grow_2 13 rfl rfl)
theorem dJ21_grow_59 : decode cJ21_grow 59 = .ok (.putfield 3, 3) := dk_181 0 3 (dk_at dksJ21_grow_2 14 rfl rfl)
theorem dJ21_grow_62 : decode cJ21_grow 62 = .ok (.astore 5, 2) := dk_58 5 (dk_at dksJ21_grow_2 17 rfl rfl)
theorem dJ21_grow_64 : decode cJ21_grow 64 = .ok (.aload_n 0, 1) := dk_42 (dk_at dksJ21_grow_2 19 rfl rfl)
theorem dJ21_grow_65 : decode cJ21_grow 65 = .ok (.getfield 20, 3) := dk_180 0 20 (dk_at dksJ21_grow_2 20 rfl rfl)
theorem dJ21_grow_68 : decode cJ21_grow 68 = .ok (.aload_n 0, 1) := dk_42 (dk_at dksJ21_grow_2 23 rfl rfl)
theorem dJ21_grow_69 : decode cJ21_grow 69 = .ok (.getfield 24, 3) := dk_180 0 24 (dk_at dksJ21_grow_3 0 rfl rfl)
theorem dJ21_grow_72 : decode cJ21_grow 72 = .ok (.if_icmp .lt 24, 3) := dk_161 0 24 (dk_at dksJ21_grow_3 3 rfl rfl)
theorem dJ21_grow_75 : decode cJ21_grow 75 = .ok (.aload_n 0, 1) := dk_42 (dk_at dksJ21_grow_3 6 rfl rfl)
theorem dJ21_grow_76 : decode cJ21_grow 76 = .ok (.getfield 20, 3) := dk_180 0 20 (dk_at dksJ21_grow_3 7 rfl rfl)
theorem dJ21_grow_79 : decode cJ21_grow 79 = .ok (.aload_n 0, 1) := dk_42 (dk_at dksJ21_grow_3 10 rfl rfl)
theorem dJ21_grow_80 : decode cJ21_grow 80 = .ok (.getfield 24, 3) := dk_180 0 24 (dk_at dksJ21_grow_3 11 rfl rfl)
theorem dJ21_grow_83 : decode cJ21_grow 83 = .ok (.if_icmp .ne 81, 3) := dk_160 0 81 (dk_at dksJ21_grow_3 14 rfl rfl)
theorem dJ21_grow_86 : decode cJ21_grow 86 = .ok (.aload 5, 2) := dk_25 5 (dk_at dksJ21_grow_3 17 rfl rfl)
theorem dJ21_grow_88 : decode cJ21_grow 88 = .ok (.aload_n 0, 1) := dk_42 (dk_at dksJ21_grow_3 19 rfl rfl)
theorem dJ21_grow_89 : decode cJ21_grow 89 = .ok (.getfield 24, 3) := dk_180 0 24 (dk_at dksJ21_grow_3 20 rfl rfl)
theorem dJ21_grow_92 : decode cJ21_grow 92 = .ok (.aaload, 1) := dk_50 (dk_at dksJ21_grow_3 23 rfl rfl)
theorem dJ21_grow_93 : decode cJ21_grow 93 = .ok (.ifnull 71, 3) := dk_198 0 71 (dk_at dksJ21_grow_4 0 rfl rfl)
theorem dJ21_grow_96 : decode cJ21_grow 96 = .ok (.iload_n 3, 1) := dk_29 (dk_at dksJ21_grow_4 3 rfl rfl)
theorem dJ21_grow_97 : decode cJ21_grow 97 = .ok (.iload_n 2, 1) := dk_28 (dk_at dksJ21_grow_4 4 rfl rfl)
theorem dJ21_grow_98 : decode cJ21_grow 98 = .ok (.isub, 1) := dk_100 (dk_at dksJ21_grow_4 5 rfl rfl)
theorem dJ21_grow_99 : decode cJ21_grow 99 = .ok (.istore 6, 2) := dk_54 6 (dk_at dksJ21_grow_4 6 rfl rfl)
theorem dJ21_grow_101 : decode cJ21_grow 101 = .ok (.aload 5, 2) := dk_25 5 (dk_at dksJ21_grow_4 8 rfl rfl)
theorem dJ21_grow_103 : decode cJ21_grow 103 = .ok (.aload_n 0, 1) := dk_42 (dk_at dksJ21_grow_4 10 rfl rfl)
theorem dJ21_grow_104 : decode cJ21_grow 104 = .ok (.getfield 24, 3) := dk_180 0 24 (dk_at dksJ21_grow_4 11 rfl rfl)
theorem dJ21_grow_107 : decode cJ21_grow 107 = .ok (.aload 5, 2) := dk_25 5 (dk_at dksJ21_grow_4 14 rfl rfl)
theorem dJ21_grow_109 : decode cJ21_grow 109 = .ok (.aload_n 0, 1) := dk_42 (dk_at dksJ21_grow_4 16 rfl rfl)
theorem dJ21_grow_110 : decode cJ21_grow 110 = .ok (.getfield 24, 3) := dk_180 0 24 (dk_at dksJ21_grow_4 17 rfl rfl)
theorem dJ21_grow_113 : decode cJ21_grow 113 = .ok (.iload 6, 2) := dk_21 6 (dk_at dksJ21_grow_4 20 rfl rfl)
theorem dJ21_grow_115 : decode cJ21_grow 115 = .ok (.iadd, 1) := dk_96 (dk_at dksJ21_grow_4 22 rfl rfl)
theorem dJ21_grow_116 : decode cJ21_grow 116 = .ok (.iload_n 2, 1) := dk_28 (dk_at dksJ21_grow_4 23 rfl rfl)
theorem dJ21_grow_117 : decode cJ21_grow 117 = .ok (.aload_n 0, 1) := dk_42 (dk_at dksJ21_grow_5 0 rfl rfl)
theorem dJ21_grow_118 : decode cJ21_grow 118 = .ok (.getfield 24, 3) := dk_180 0 24 (dk_at dksJ21_grow_5 1 rfl rfl)
theorem dJ21_grow_121 : decode cJ21_grow 121 = .ok (.isub, 1) := dk_100 (dk_at dksJ21_grow_5 4 rfl rfl)
theorem dJ21_grow_122 : decode cJ21_grow 122 = .ok (.invokestatic 27, 3) := dk_184 0 27 (dk_at dksJ21_grow_5 5 rfl rfl)
theorem dJ21_grow_125 : decode cJ21_grow 125 = .ok (.aload_n 0, 1) := dk_42 (dk_at dksJ21_grow_5 8 rfl rfl)
theorem dJ21_grow_126 : decode cJ21_grow 126 = .ok (.getfield 24, 3) := dk_180 0 24 (dk_at dksJ21_grow_5 9 rfl rfl)
theorem dJ21_grow_129 : decode cJ21_grow 129 = .ok (.istore 7, 2) := dk_54 7 (dk_at dksJ21_grow_5 12 rfl rfl)
theorem dJ21_grow_131 : decode cJ21_grow 131 = .ok (.aload_n 0, 1) := dk_42 (dk_at dksJ21_grow_5 14 rfl rfl)
theorem dJ21_grow_132 : decode cJ21_grow 132 = .ok (.dup, 1) := dk_89 (dk_at dksJ21_grow_5 15 rfl rfl)
theorem dJ21_grow_133 : decode cJ21_grow 133 = .ok (.getfield 24, 3) := dk_180 0 24 (dk_at dksJ21_grow_5 16 rfl rfl)
theorem dJ21_grow_136 : decode cJ21_grow 136 = .ok (.iload 6, 2) := dk_21 6 (dk_at dksJ21_grow_5 19 rfl rfl)
theorem dJ21_grow_138 : decode cJ21_grow 138 = .ok (.iadd, 1) := dk_96 (dk_at dksJ21_grow_5 21 rfl rfl)
theorem dJ21_grow_139 : decode cJ21_grow 139 = .ok (.dup_x1, 1) := dk_90 (dk_at dksJ21_grow_5 22 rfl rfl)
theorem dJ21_grow_140 : decode cJ21_grow 140 = .ok (.putfield 24, 3) := dk_181 0 24 (dk_at dksJ21_grow_6 0 rfl rfl)
theorem dJ21_grow_143 : decode cJ21_grow 143 = .ok (.istore 8, 2) := dk_54 8 (dk_at dksJ21_grow_6 3 rfl rfl)
theorem dJ21_grow_145 : decode cJ21_grow 145 = .ok (.iload 7, 2) := dk_21 7 (dk_at dksJ21_grow_6 5 rfl rfl)
theorem dJ21_grow_147 : decode cJ21_grow 147 = .ok (.iload 8, 2) := dk_21 8 (dk_at dksJ21_grow_6 7 rfl rfl)
theorem dJ21_grow_149 : decode cJ21_grow 149 = .ok (.if_icmp .ge 15, 3) := dk_162 0 15 (dk_at dksJ21_grow_6 9 rfl rfl)
theorem dJ21_grow_152 : decode cJ21_grow 152 = .ok (.aload 5, 2) := dk_25 5 (dk_at dksJ21_grow_6 12 rfl rfl)
theorem dJ21_grow_154 : decode cJ21_grow 154 = .ok (.iload 7, 2) := dk_21 7 (dk_at dksJ21_grow_6 14 rfl rfl)
theorem dJ21_grow_156 : decode cJ21_grow 156 = .ok (.aconst_null, 1) := dk_1 (dk_at dksJ21_grow_6 16 rfl rfl)
theorem dJ21_grow_157 : decode cJ21_grow 157 = .ok (.aastore, 1) := dk_83 (dk_at dksJ21_grow_6 17 rfl rfl)
theorem dJ21_grow_158 : decode cJ21_grow 158 = .ok (.iinc 7 1, 3) := dk_132 7 1 (dk_at dksJ21_grow_6 18 rfl rfl)
theorem dJ21_grow_161 : decode cJ21_grow 161 = .ok (.goto (-16), 3) := dk_167 255 240 (dk_at dksJ21_grow_6 21 rfl rfl)
theorem dJ21_grow_164 : decode cJ21_grow 164 = .ok (.return_, 1) := dk_177 (dk_at dksJ21_grow_7 0 rfl rfl)
abbrev cJ21_newCapacity : ByteArray := prog_53_method_2_code
def yJ21_newCapacity : MethodName := ⟨RJ21, "newCapacity", "(II)I"⟩
def dkwJ21_newCapacity_2 : List UInt8 := [18, 9, 100, 156, 0, 9, 29, 28, 96, 167, 0, 5, 18, 9, 172]
abbrev dktJ21_newCapacity_2 : List UInt8 := dkwJ21_newCapacity_2 ++ []
def dkwJ21_newCapacity_1 : List UInt8 := [187, 0, 33, 89, 18, 35, 183, 0, 37, 191, 18, 41, 172, 27, 28, 164, 0, 6, 21, 4, 172, 29, 28, 96]
abbrev dktJ21_newCapacity_1 : List UInt8 := dkwJ21_newCapacity_1 ++ dktJ21_newCapacity_2
def dkwJ21_newCapacity_0 : List UInt8 := [42, 180, 0, 3, 190, 62, 29, 27, 96, 89, 54, 4, 18, 9, 100, 158, 0, 21, 21, 4, 156, 0, 13]
abbrev dktJ21_newCapacity_0 : List UInt8 := dkwJ21_newCapacity_0 ++ dktJ21_newCapacity_1
theorem dksJ21_newCapacity_0 : cJ21_newCapacity.data.toList.drop 0 = dktJ21_newCapacity_0 := by decide +kernel
theorem dksJ21_newCapacity_1 : cJ21_newCapacity.data.toList.drop 23 = dktJ21_newCapacity_1 := dk_seg dksJ21_newCapacity_0 23 rfl rfl
theorem dksJ21_newCapacity_2 : cJ21_newCapacity.data.toList.drop 47 = dktJ21_newCapacity_2 := dk_seg dksJ21_newCapacity_1 24 rfl rfl
theorem dJ21_newCapacity_0 : decode cJ21_newCapacity 0 = .ok (.aload_n 0, 1) := dk_42 (dk_at dksJ21_newCapacity_0 0 rfl rfl)
theorem dJ21_newCapacity_1 : decode cJ21_newCapacity 1 = .ok (.getfield 3, 3) := dk_180 0 3 (dk_at dksJ21_newCapacity_0 1 rfl rfl)
theorem dJ21_newCapacity_4 : decode cJ21_newCapacity 4 = .ok (.arraylength, 1) := dk_190 (dk_at dksJ21_newCapacity_0 4 rfl rfl)
theorem dJ21_newCapacity_5 : decode cJ21_newCapacity 5 = .ok (.istore_n 3, 1) := dk_62 (dk_at dksJ21_newCapacity_0 5 rfl rfl)
theorem dJ21_newCapacity_6 : decode cJ21_newCapacity 6 = .ok (.iload_n 3, 1) := dk_29 (dk_at dksJ21_newCapacity_0 6 rfl rfl)
theorem dJ21_newCapacity_7 : decode cJ21_newCapacity 7 = .ok (.iload_n 1, 1) := dk_27 (dk_at dksJ21_newCapacity_0 7 rfl rfl)
theorem dJ21_newCapacity_8 : decode cJ21_newCapacity 8 = .ok (.iadd, 1) := dk_96 (dk_at dksJ21_newCapacity_0 8 rfl rfl)
theorem dJ21_newCapacity_9 : decode cJ21_newCapacity 9 = .ok (.dup, 1) := dk_89 (dk_at dksJ21_newCapacity_0 9 rfl rfl)
theorem dJ21_newCapacity_10 : decode cJ21_newCapacity 10 = .ok (.istore 4, 2) := dk_54 4 (dk_at dksJ21_newCapacity_0 10 rfl rfl)
theorem dJ21_newCapacity_12 : decode cJ21_newCapacity 12 = .ok (.ldc 9, 2) := dk_18 9 (dk_at dksJ21_newCapacity_0 12 rfl rfl)
theorem dJ21_newCapacity_14 : decode cJ21_newCapacity 14 = .ok (.isub, 1) := dk_100 (dk_at dksJ21_newCapacity_0 14 rfl rfl)
theorem dJ21_newCapacity_15 : decode cJ21_newCapacity 15 = .ok (.ifCond .le 21, 3) := dk_158 0 21 (dk_at dksJ21_newCapacity_0 15 rfl rfl)
theorem dJ21_newCapacity_18 : decode cJ21_newCapacity 18 = .ok (.iload 4, 2) := dk_21 4 (dk_at dksJ21_newCapacity_0 18 rfl rfl)
theorem dJ21_newCapacity_20 : decode cJ21_newCapacity 20 = .ok (.ifCond .ge 13, 3) := dk_156 0 13 (dk_at dksJ21_newCapacity_0 20 rfl rfl)
theorem dJ21_newCapacity_23 : decode cJ21_newCapacity 23 = .ok (.new 33, 3) := dk_187 0 33 (dk_at dksJ21_newCapacity_1 0 rfl rfl)
theorem dJ21_newCapacity_26 : decode cJ21_newCapacity 26 = .ok (.dup, 1) := dk_89 (dk_at dksJ21_newCapacity_1 3 rfl rfl)
theorem dJ21_newCapacity_27 : decode cJ21_newCapacity 27 = .ok (.ldc 35, 2) := dk_18 35 (dk_at dksJ21_newCapacity_1 4 rfl rfl)
theorem dJ21_newCapacity_29 : decode cJ21_newCapacity 29 = .ok (.invokespecial 37, 3) := dk_183 0 37 (dk_at dksJ21_newCapacity_1 6 rfl rfl)
theorem dJ21_newCapacity_32 : decode cJ21_newCapacity 32 = .ok (.athrow, 1) := dk_191 (dk_at dksJ21_newCapacity_1 9 rfl rfl)
theorem dJ21_newCapacity_33 : decode cJ21_newCapacity 33 = .ok (.ldc 41, 2) := dk_18 41 (dk_at dksJ21_newCapacity_1 10 rfl rfl)
theorem dJ21_newCapacity_35 : decode cJ21_newCapacity 35 = .ok (.ireturn, 1) := dk_172 (dk_at dksJ21_newCapacity_1 12 rfl rfl)
theorem dJ21_newCapacity_36 : decode cJ21_newCapacity 36 = .ok (.iload_n 1, 1) := dk_27 (dk_at dksJ21_newCapacity_1 13 rfl rfl)
theorem dJ21_newCapacity_37 : decode cJ21_newCapacity 37 = .ok (.iload_n 2, 1) := dk_28 (dk_at dksJ21_newCapacity_1 14 rfl rfl)
theorem dJ21_newCapacity_38 : decode cJ21_newCapacity 38 = .ok (.if_icmp .le 6, 3) := dk_164 0 6 (dk_at dksJ21_newCapacity_1 15 rfl rfl)
theorem dJ21_newCapacity_41 : decode cJ21_newCapacity 41 = .ok (.iload 4, 2) := dk_21 4 (dk_at dksJ21_newCapacity_1 18 rfl rfl)
theorem dJ21_newCapacity_43 : decode cJ21_newCapacity 43 = .ok (.ireturn, 1) := dk_172 (dk_at dksJ21_newCapacity_1 20 rfl rfl)
theorem dJ21_newCapacity_44 : decode cJ21_newCapacity 44 = .ok (.iload_n 3, 1) := dk_29 (dk_at dksJ21_newCapacity_1 21 rfl rfl)
theorem dJ21_newCapacity_45 : decode cJ21_newCapacity 45 = .ok (.iload_n 2, 1) := dk_28 (dk_at dksJ21_newCapacity_1 22 rfl rfl)
theorem dJ21_newCapacity_46 : decode cJ21_newCapacity 46 = .ok (.iadd, 1) := dk_96 (dk_at dksJ21_newCapacity_1 23 rfl rfl)
theorem dJ21_newCapacity_47 : decode cJ21_newCapacity 47 = .ok (.ldc 9, 2) := dk_18 9 (dk_at dksJ21_newCapacity_2 0 rfl rfl)
theorem dJ21_newCapacity_49 : decode cJ21_newCapacity 49 = .ok (.isub, 1) := dk_100 (dk_at dksJ21_newCapacity_2 2 rfl rfl)
theorem dJ21_newCapacity_50 : decode cJ21_newCapacity 50 = .ok (.ifCond .ge 9, 3) := dk_156 0 9 (dk_at dksJ21_newCapacity_2 3 rfl rfl)
theorem dJ21_newCapacity_53 : decode cJ21_newCapacity 53 = .ok (.iload_n 3, 1) := dk_29 (dk_at dksJ21_newCapacity_2 6 rfl rfl)
theorem dJ21_newCapacity_54 : decode cJ21_newCapacity 54 = .ok (.iload_n 2, 1) := dk_28 (dk_at dksJ21_newCapacity_2 7 rfl rfl)
theorem dJ21_newCapacity_55 : decode cJ21_newCapacity 55 = .ok (.iadd, 1) := dk_96 (dk_at dksJ21_newCapacity_2 8 rfl rfl)
theorem dJ21_newCapacity_56 : decode cJ21_newCapacity 56 = .ok (.goto 5, 3) := dk_167 0 5 (dk_at dksJ21_newCapacity_2 9 rfl rfl)
theorem dJ21_newCapacity_59 : decode cJ21_newCapacity 59 = .ok (.ldc 9, 2) := dk_18 9 (dk_at dksJ21_newCapacity_2 12 rfl rfl)
theorem dJ21_newCapacity_61 : decode cJ21_newCapacity 61 = .ok (.ireturn, 1) := dk_172 (dk_at dksJ21_newCapacity_2 14 rfl rfl)
abbrev cJ21_pollLast : ByteArray := prog_53_method_21_code
def yJ21_pollLast : MethodName := ⟨RJ21, "pollLast", "()Ljava/lang/Object;"⟩
def dkwJ21_pollLast_1 : List UInt8 := [198, 0, 12, 43, 42, 28, 90, 181, 0, 20, 1, 83, 45, 176]
abbrev dktJ21_pollLast_1 : List UInt8 := dkwJ21_pollLast_1 ++ []
def dkwJ21_pollLast_0 : List UInt8 := [42, 180, 0, 3, 89, 76, 42, 180, 0, 20, 43, 190, 184, 0, 68, 89, 61, 184, 0, 103, 78, 45]
abbrev dktJ21_pollLast_0 : List UInt8 := dkwJ21_pollLast_0 ++ dktJ21_pollLast_1
theorem dksJ21_pollLast_0 : cJ21_pollLast.data.toList.drop 0 = dktJ21_pollLast_0 := by decide +kernel
theorem dksJ21_pollLast_1 : cJ21_pollLast.data.toList.drop 22 = dktJ21_pollLast_1 := dk_seg dksJ21_pollLast_0 22 rfl rfl
theorem dJ21_pollLast_0 : decode cJ21_pollLast 0 = .ok (.aload_n 0, 1) := dk_42 (dk_at dksJ21_pollLast_0 0 rfl rfl)
theorem dJ21_pollLast_1 : decode cJ21_pollLast 1 = .ok (.getfield 3, 3) := dk_180 0 3 (dk_at dksJ21_pollLast_0 1 rfl rfl)
theorem dJ21_pollLast_4 : decode cJ21_pollLast 4 = .ok (.dup, 1) := dk_89 (dk_at dksJ21_pollLast_0 4 rfl rfl)
theorem dJ21_pollLast_5 : decode cJ21_pollLast 5 = .ok (.astore_n 1, 1) := dk_76 (dk_at dksJ21_pollLast_0 5 rfl rfl)
theorem dJ21_pollLast_6 : decode cJ21_pollLast 6 = .ok (.aload_n 0, 1) := dk_42 (dk_at dksJ21_pollLast_0 6 rfl rfl)
theorem dJ21_pollLast_7 : decode cJ21_pollLast 7 = .ok (.getfield 20, 3) := dk_180 0 20 (dk_at dksJ21_pollLast_0 7 rfl rfl)
theorem dJ21_pollLast_10 : decode cJ21_pollLast 10 = .ok (.aload_n 1, 1) := dk_43 (dk_at dksJ21_pollLast_0 10 rfl rfl)
theorem dJ21_pollLast_11 : decode cJ21_pollLast 11 = .ok (.arraylength, 1) := dk_190 (dk_at dksJ21_pollLast_0 11 rfl rfl)
theorem dJ21_pollLast_12 : decode cJ21_pollLast 12 = .ok (.invokestatic 68, 3) := dk_184 0 68 (dk_at dksJ21_pollLast_0 12 rfl rfl)
theorem dJ21_pollLast_15 : decode cJ21_pollLast 15 = .ok (.dup, 1) := dk_89 (dk_at dksJ21_pollLast_0 15 rfl rfl)
theorem dJ21_pollLast_16 : decode cJ21_pollLast 16 = .ok (.istore_n 2, 1) := dk_61 (dk_at dksJ21_pollLast_0 16 rfl rfl)
theorem dJ21_pollLast_17 : decode cJ21_pollLast 17 = .ok (.invokestatic 103, 3) := dk_184 0 103 (dk_at dksJ21_pollLast_0 17 rfl rfl)
theorem dJ21_pollLast_20 : decode cJ21_pollLast 20 = .ok (.astore_n 3, 1) := dk_78 (dk_at dksJ21_pollLast_0 20 rfl rfl)
theorem dJ21_pollLast_21 : decode cJ21_pollLast 21 = .ok (.aload_n 3, 1) := dk_45 (dk_at dksJ21_pollLast_0 21 rfl rfl)
theorem dJ21_pollLast_22 : decode cJ21_pollLast 22 = .ok (.ifnull 12, 3) := dk_198 0 12 (dk_at dksJ21_pollLast_1 0 rfl rfl)
theorem dJ21_pollLast_25 : decode cJ21_pollLast 25 = .ok (.aload_n 1, 1) := dk_43 (dk_at dksJ21_pollLast_1 3 rfl rfl)
theorem dJ21_pollLast_26 : decode cJ21_pollLast 26 = .ok (.aload_n 0, 1) := dk_42 (dk_at dksJ21_pollLast_1 4 rfl rfl)
theorem dJ21_pollLast_27 : decode cJ21_pollLast 27 = .ok (.iload_n 2, 1) := dk_28 (dk_at dksJ21_pollLast_1 5 rfl rfl)
theorem dJ21_pollLast_28 : decode cJ21_pollLast 28 = .ok (.dup_x1, 1) := dk_90 (dk_at dksJ21_pollLast_1 6 rfl rfl)
theorem dJ21_pollLast_29 : decode cJ21_pollLast 29 = .ok (.putfield 20, 3) := dk_181 0 20 (dk_at dksJ21_pollLast_1 7 rfl rfl)
theorem dJ21_pollLast_32 : decode cJ21_pollLast 32 = .ok (.aconst_null, 1) := dk_1 (dk_at dksJ21_pollLast_1 10 rfl rfl)
theorem dJ21_pollLast_33 : decode cJ21_pollLast 33 = .ok (.aastore, 1) := dk_83 (dk_at dksJ21_pollLast_1 11 rfl rfl)
theorem dJ21_pollLast_34 : decode cJ21_pollLast 34 = .ok (.aload_n 3, 1) := dk_45 (dk_at dksJ21_pollLast_1 12 rfl rfl)
theorem dJ21_pollLast_35 : decode cJ21_pollLast 35 = .ok (.areturn, 1) := dk_176 (dk_at dksJ21_pollLast_1 13 rfl rfl)
abbrev cJ21_dec : ByteArray := prog_53_method_7_code
def yJ21_dec : MethodName := ⟨RJ21, "dec", "(II)I"⟩
def dkwJ21_dec_0 : List UInt8 := [132, 0, 255, 26, 156, 0, 7, 27, 4, 100, 59, 26, 172]
abbrev dktJ21_dec_0 : List UInt8 := dkwJ21_dec_0 ++ []
theorem dksJ21_dec_0 : cJ21_dec.data.toList.drop 0 = dktJ21_dec_0 := by decide +kernel
theorem dJ21_dec_0 : decode cJ21_dec 0 = .ok (.iinc 0 (-1), 3) := dk_132 0 255 (dk_at dksJ21_dec_0 0 rfl rfl)
theorem dJ21_dec_3 : decode cJ21_dec 3 = .ok (.iload_n 0, 1) := dk_26 (dk_at dksJ21_dec_0 3 rfl rfl)
theorem dJ21_dec_4 : decode cJ21_dec 4 = .ok (.ifCond .ge 7, 3) := dk_156 0 7 (dk_at dksJ21_dec_0 4 rfl rfl)
theorem dJ21_dec_7 : decode cJ21_dec 7 = .ok (.iload_n 1, 1) := dk_27 (dk_at dksJ21_dec_0 7 rfl rfl)
theorem dJ21_dec_8 : decode cJ21_dec 8 = .ok (.iconst 1, 1) := dk_4 (dk_at dksJ21_dec_0 8 rfl rfl)
theorem dJ21_dec_9 : decode cJ21_dec 9 = .ok (.isub, 1) := dk_100 (dk_at dksJ21_dec_0 9 rfl rfl)
theorem dJ21_dec_10 : decode cJ21_dec 10 = .ok (.istore_n 0, 1) := dk_59 (dk_at dksJ21_dec_0 10 rfl rfl)
theorem dJ21_dec_11 : decode cJ21_dec 11 = .ok (.iload_n 0, 1) := dk_26 (dk_at dksJ21_dec_0 11 rfl rfl)
theorem dJ21_dec_12 : decode cJ21_dec 12 = .ok (.ireturn, 1) := dk_172 (dk_at dksJ21_dec_0 12 rfl rfl)
abbrev cJ21_iterator : ByteArray := prog_53_method_39_code
def yJ21_iterator : MethodName := ⟨RJ21, "iterator", "()Ljava/util/Iterator;"⟩
def dkwJ21_iterator_0 : List UInt8 := [187, 0, 131, 89, 42, 183, 0, 133, 176]
abbrev dktJ21_iterator_0 : List UInt8 := dkwJ21_iterator_0 ++ []
theorem dksJ21_iterator_0 : cJ21_iterator.data.toList.drop 0 = dktJ21_iterator_0 := by decide +kernel
theorem dJ21_iterator_0 : decode cJ21_iterator 0 = .ok (.new 131, 3) := dk_187 0 131 (dk_at dksJ21_iterator_0 0 rfl rfl)
theorem dJ21_iterator_3 : decode cJ21_iterator 3 = .ok (.dup, 1) := dk_89 (dk_at dksJ21_iterator_0 3 rfl rfl)
theorem dJ21_iterator_4 : decode cJ21_iterator 4 = .ok (.aload_n 0, 1) := dk_42 (dk_at dksJ21_iterator_0 4 rfl rfl)
theorem dJ21_iterator_5 : decode cJ21_iterator 5 = .ok (.invokespecial 133, 3) := dk_183 0 133 (dk_at dksJ21_iterator_0 5 rfl rfl)
theorem dJ21_iterator_8 : decode cJ21_iterator 8 = .ok (.areturn, 1) := dk_176 (dk_at dksJ21_iterator_0 8 rfl rfl)
abbrev cJ21_nonNullElementAt : ByteArray := prog_53_method_11_code
def yJ21_nonNullElementAt : MethodName := ⟨RJ21, "nonNullElementAt", "([Ljava/lang/Object;I)Ljava/lang/Object;"⟩
def dkwJ21_nonNullElementAt_0 : List UInt8 := [42, 27, 50, 77, 44, 199, 0, 11, 187, 0, 62, 89, 183, 0, 64, 191, 44, 176]
abbrev dktJ21_nonNullElementAt_0 : List UInt8 := dkwJ21_nonNullElementAt_0 ++ []
theorem dksJ21_nonNullElementAt_0 : cJ21_nonNullElementAt.data.toList.drop 0 = dktJ21_nonNullElementAt_0 := by decide +kernel
theorem dJ21_nonNullElementAt_0 : decode cJ21_nonNullElementAt 0 = .ok (.aload_n 0, 1) := dk_42 (dk_at dksJ21_nonNullElementAt_0 0 rfl rfl)
theorem dJ21_nonNullElementAt_1 : decode cJ21_nonNullElementAt 1 = .ok (.iload_n 1, 1) := dk_27 (dk_at dksJ21_nonNullElementAt_0 1 rfl rfl)
theorem dJ21_nonNullElementAt_2 : decode cJ21_nonNullElementAt 2 = .ok (.aaload, 1) := dk_50 (dk_at dksJ21_nonNullElementAt_0 2 rfl rfl)
theorem dJ21_nonNullElementAt_3 : decode cJ21_nonNullElementAt 3 = .ok (.astore_n 2, 1) := dk_77 (dk_at dksJ21_nonNullElementAt_0 3 rfl rfl)
theorem dJ21_nonNullElementAt_4 : decode cJ21_nonNullElementAt 4 = .ok (.aload_n 2, 1) := dk_44 (dk_at dksJ21_nonNullElementAt_0 4 rfl rfl)
theorem dJ21_nonNullElementAt_5 : decode cJ21_nonNullElementAt 5 = .ok (.ifnonnull 11, 3) := dk_199 0 11 (dk_at dksJ21_nonNullElementAt_0 5 rfl rfl)
theorem dJ21_nonNullElementAt_8 : decode cJ21_nonNullElementAt 8 = .ok (.new 62, 3) := dk_187 0 62 (dk_at dksJ21_nonNullElementAt_0 8 rfl rfl)
theorem dJ21_nonNullElementAt_11 : decode cJ21_nonNullElementAt 11 = .ok (.dup, 1) := dk_89 (dk_at dksJ21_nonNullElementAt_0 11 rfl rfl)
theorem dJ21_nonNullElementAt_12 : decode cJ21_nonNullElementAt 12 = .ok (.invokespecial 64, 3) := dk_183 0 64 (dk_at dksJ21_nonNullElementAt_0 12 rfl rfl)
theorem dJ21_nonNullElementAt_15 : decode cJ21_nonNullElementAt 15 = .ok (.athrow, 1) := dk_191 (dk_at dksJ21_nonNullElementAt_0 15 rfl rfl)
theorem dJ21_nonNullElementAt_16 : decode cJ21_nonNullElementAt 16 = .ok (.aload_n 2, 1) := dk_44 (dk_at dksJ21_nonNullElementAt_0 16 rfl rfl)
theorem dJ21_nonNullElementAt_17 : decode cJ21_nonNullElementAt 17 = .ok (.areturn, 1) := dk_176 (dk_at dksJ21_nonNullElementAt_0 17 rfl rfl)
theorem q159 : (Jvm.Cond.initialized "java/util/ArrayDeque") ∈ lw_all := lw_g (lw_at lw_m1 26 rfl) rfl
theorem q506 : (Jvm.Cond.selects "java/util/ArrayDeque" ({ cls := "java/lang/Object", name := "getClass", desc := "()Ljava/lang/Class;" } : Jvm.MethodName) ({ cls := "java/lang/Object", name := "getClass", desc := "()Ljava/lang/Class;" } : Jvm.MethodName)) ∈ lw_all := lw_g (lw_at lw_m2 133 rfl) rfl
theorem q1056 : (Jvm.Cond.instantiable "java/util/ArrayDeque" (3 : Nat)) ∈ lw_all := lw_g (lw_at lw_m4 203 rfl) rfl
theorem q1058 : (Jvm.Cond.instanceMethod ({ cls := "java/util/ArrayDeque", name := "<init>", desc := "()V" } : Jvm.MethodName)) ∈ lw_all := lw_g (lw_at lw_m4 205 rfl) rfl
theorem q1059 : (Jvm.Cond.code ({ cls := "java/util/ArrayDeque", name := "<init>", desc := "()V" } : Jvm.MethodName) prog_53_method_3_code (1 : Nat) (Option.none : Option Jvm.ClassFile.FieldType)) ∈ lw_all := lw_g (lw_at lw_m4 206 rfl) rfl
theorem q1060 : (Jvm.Cond.methodLink "java/util/ArrayDeque" (42 : Nat) ({ cls := "java/util/AbstractCollection", name := "<init>", desc := "()V" } : Jvm.MethodName)) ∈ lw_all := lw_g (lw_at lw_m4 207 rfl) rfl
theorem q1061 : (Jvm.Cond.classLink "java/util/ArrayDeque" (47 : Nat) "java/lang/Object") ∈ lw_all := lw_g (lw_at lw_m4 208 rfl) rfl
theorem q1062 : (Jvm.Cond.fieldLink "java/util/ArrayDeque" (3 : Nat) "java/util/ArrayDeque" "elements" "[Ljava/lang/Object;") ∈ lw_all := lw_g (lw_at lw_m4 209 rfl) rfl
theorem q1065 : (Jvm.Cond.fieldLink "java/util/ArrayDeque" (24 : Nat) "java/util/ArrayDeque" "head" "I") ∈ lw_all := lw_g (lw_at lw_m4 212 rfl) rfl
theorem q1066 : (Jvm.Cond.fieldLink "java/util/ArrayDeque" (20 : Nat) "java/util/ArrayDeque" "tail" "I") ∈ lw_all := lw_g (lw_at lw_m4 213 rfl) rfl
theorem q1067 : (Jvm.Cond.lays "java/util/ArrayDeque" "java/util/ArrayDeque" "elements" "[Ljava/lang/Object;") ∈ lw_all := lw_g (lw_at lw_m4 214 rfl) rfl
theorem q1068 : (Jvm.Cond.soleField "java/util/ArrayDeque" "elements") ∈ lw_all := lw_g (lw_at lw_m4 215 rfl) rfl
theorem q1069 : (Jvm.Cond.lays "java/util/ArrayDeque" "java/util/ArrayDeque" "head" "I") ∈ lw_all := lw_g (lw_at lw_m4 216 rfl) rfl
theorem q1070 : (Jvm.Cond.soleField "java/util/ArrayDeque" "head") ∈ lw_all := lw_g (lw_at lw_m4 217 rfl) rfl
theorem q1071 : (Jvm.Cond.lays "java/util/ArrayDeque" "java/util/ArrayDeque" "tail" "I") ∈ lw_all := lw_g (lw_at lw_m4 218 rfl) rfl
theorem q1072 : (Jvm.Cond.soleField "java/util/ArrayDeque" "tail") ∈ lw_all := lw_g (lw_at lw_m4 219 rfl) rfl
theorem q1073 : (Jvm.Cond.superclass "java/util/ArrayDeque" "java/util/AbstractCollection") ∈ lw_all := lw_g (lw_at lw_m4 220 rfl) rfl
theorem q1394 : (Jvm.Cond.instanceMethod ({ cls := "java/util/ArrayDeque", name := "size", desc := "()I" } : Jvm.MethodName)) ∈ lw_all := lw_g (lw_at lw_m6 61 rfl) rfl
theorem q1395 : (Jvm.Cond.selects "java/util/ArrayDeque" ({ cls := "java/util/ArrayDeque", name := "size", desc := "()I" } : Jvm.MethodName) ({ cls := "java/util/ArrayDeque", name := "size", desc := "()I" } : Jvm.MethodName)) ∈ lw_all := lw_g (lw_at lw_m6 62 rfl) rfl
theorem q1396 : (Jvm.Cond.code ({ cls := "java/util/ArrayDeque", name := "size", desc := "()I" } : Jvm.MethodName) prog_53_method_37_code (1 : Nat) (Option.some Jvm.ClassFile.FieldType.int)) ∈ lw_all := lw_g (lw_at lw_m6 63 rfl) rfl
theorem q1397 : (Jvm.Cond.methodLink "java/util/ArrayDeque" (127 : Nat) ({ cls := "java/util/ArrayDeque", name := "sub", desc := "(III)I" } : Jvm.MethodName)) ∈ lw_all := lw_g (lw_at lw_m6 64 rfl) rfl
theorem q1398 : (Jvm.Cond.static ({ cls := "java/util/ArrayDeque", name := "sub", desc := "(III)I" } : Jvm.MethodName)) ∈ lw_all := lw_g (lw_at lw_m6 65 rfl) rfl
theorem q1399 : (Jvm.Cond.code ({ cls := "java/util/ArrayDeque", name := "sub", desc := "(III)I" } : Jvm.MethodName) prog_53_method_9_code (3 : Nat) (Option.some Jvm.ClassFile.FieldType.int)) ∈ lw_all := lw_g (lw_at lw_m6 66 rfl) rfl
theorem q1401 : (Jvm.Cond.instanceMethod ({ cls := "java/util/ArrayDeque", name := "pollFirst", desc := "()Ljava/lang/Object;" } : Jvm.MethodName)) ∈ lw_all := lw_g (lw_at lw_m6 68 rfl) rfl
theorem q1402 : (Jvm.Cond.selects "java/util/ArrayDeque" ({ cls := "java/util/ArrayDeque", name := "pollFirst", desc := "()Ljava/lang/Object;" } : Jvm.MethodName) ({ cls := "java/util/ArrayDeque", name := "pollFirst", desc := "()Ljava/lang/Object;" } : Jvm.MethodName)) ∈ lw_all := lw_g (lw_at lw_m6 69 rfl) rfl
theorem q1403 : (Jvm.Cond.code ({ cls := "java/util/ArrayDeque", name := "pollFirst", desc := "()Ljava/lang/Object;" } : Jvm.MethodName) prog_53_method_20_code (4 : Nat) (Option.some (Jvm.ClassFile.FieldType.object "java/lang/Object"))) ∈ lw_all := lw_g (lw_at lw_m6 70 rfl) rfl
theorem q1404 : (Jvm.Cond.methodLink "java/util/ArrayDeque" (103 : Nat) ({ cls := "java/util/ArrayDeque", name := "elementAt", desc := "([Ljava/lang/Object;I)Ljava/lang/Object;" } : Jvm.MethodName)) ∈ lw_all := lw_g (lw_at lw_m6 71 rfl) rfl
theorem q1405 : (Jvm.Cond.static ({ cls := "java/util/ArrayDeque", name := "elementAt", desc := "([Ljava/lang/Object;I)Ljava/lang/Object;" } : Jvm.MethodName)) ∈ lw_all := lw_g (lw_at lw_m6 72 rfl) rfl
theorem q1406 : (Jvm.Cond.code ({ cls := "java/util/ArrayDeque", name := "elementAt", desc := "([Ljava/lang/Object;I)Ljava/lang/Object;" } : Jvm.MethodName) prog_53_method_10_code (2 : Nat) (Option.some (Jvm.ClassFile.FieldType.object "java/lang/Object"))) ∈ lw_all := lw_g (lw_at lw_m6 73 rfl) rfl
theorem q1407 : (Jvm.Cond.methodLink "java/util/ArrayDeque" (74 : Nat) ({ cls := "java/util/ArrayDeque", name := "inc", desc := "(II)I" } : Jvm.MethodName)) ∈ lw_all := lw_g (lw_at lw_m6 74 rfl) rfl
theorem q1408 : (Jvm.Cond.static ({ cls := "java/util/ArrayDeque", name := "inc", desc := "(II)I" } : Jvm.MethodName)) ∈ lw_all := lw_g (lw_at lw_m6 75 rfl) rfl
theorem q1409 : (Jvm.Cond.code ({ cls := "java/util/ArrayDeque", name := "inc", desc := "(II)I" } : Jvm.MethodName) prog_53_method_6_code (2 : Nat) (Option.some Jvm.ClassFile.FieldType.int)) ∈ lw_all := lw_g (lw_at lw_m6 76 rfl) rfl
theorem q1422 : (Jvm.Cond.instanceMethod ({ cls := "java/util/ArrayDeque", name := "addLast", desc := "(Ljava/lang/Object;)V" } : Jvm.MethodName)) ∈ lw_all := lw_g (lw_at lw_m6 89 rfl) rfl
theorem q1423 : (Jvm.Cond.selects "java/util/ArrayDeque" ({ cls := "java/util/ArrayDeque", name := "addLast", desc := "(Ljava/lang/Object;)V" } : Jvm.MethodName) ({ cls := "java/util/ArrayDeque", name := "addLast", desc := "(Ljava/lang/Object;)V" } : Jvm.MethodName)) ∈ lw_all := lw_g (lw_at lw_m6 90 rfl) rfl
theorem q1424 : (Jvm.Cond.code ({ cls := "java/util/ArrayDeque", name := "addLast", desc := "(Ljava/lang/Object;)V" } : Jvm.MethodName) prog_53_method_13_code (3 : Nat) (Option.none : Option Jvm.ClassFile.FieldType)) ∈ lw_all := lw_g (lw_at lw_m6 91 rfl) rfl
theorem q1425 : (Jvm.Cond.classLink "java/util/ArrayDeque" (65 : Nat) "java/lang/NullPointerException") ∈ lw_all := lw_g (lw_at lw_m6 92 rfl) rfl
theorem q1426 : (Jvm.Cond.methodLink "java/util/ArrayDeque" (67 : Nat) ({ cls := "java/lang/NullPointerException", name := "<init>", desc := "()V" } : Jvm.MethodName)) ∈ lw_all := lw_g (lw_at lw_m6 93 rfl) rfl
theorem q1427 : (Jvm.Cond.methodLink "java/util/ArrayDeque" (71 : Nat) ({ cls := "java/util/ArrayDeque", name := "grow", desc := "(I)V" } : Jvm.MethodName)) ∈ lw_all := lw_g (lw_at lw_m6 94 rfl) rfl
theorem q1428 : (Jvm.Cond.privateMethod ({ cls := "java/util/ArrayDeque", name := "grow", desc := "(I)V" } : Jvm.MethodName)) ∈ lw_tbl := lw_at lw_m6 95 rfl
theorem q1429 : (Jvm.Cond.instanceMethod ({ cls := "java/util/ArrayDeque", name := "grow", desc := "(I)V" } : Jvm.MethodName)) ∈ lw_all := lw_g (lw_at lw_m6 96 rfl) rfl
theorem q1430 : (Jvm.Cond.code ({ cls := "java/util/ArrayDeque", name := "grow", desc := "(I)V" } : Jvm.MethodName) prog_53_method_1_code (9 : Nat) (Option.none : Option Jvm.ClassFile.FieldType)) ∈ lw_all := lw_g (lw_at lw_m6 97 rfl) rfl
theorem q1431 : (Jvm.Cond.constant "java/util/ArrayDeque" (9 : Nat) (2147483639 : Int32)) ∈ lw_all := lw_g (lw_at lw_m6 98 rfl) rfl
theorem q1432 : (Jvm.Cond.methodLink "java/util/ArrayDeque" (10 : Nat) ({ cls := "java/util/ArrayDeque", name := "newCapacity", desc := "(II)I" } : Jvm.MethodName)) ∈ lw_all := lw_g (lw_at lw_m6 99 rfl) rfl
theorem q1433 : (Jvm.Cond.privateMethod ({ cls := "java/util/ArrayDeque", name := "newCapacity", desc := "(II)I" } : Jvm.MethodName)) ∈ lw_tbl := lw_at lw_m6 100 rfl
theorem q1434 : (Jvm.Cond.instanceMethod ({ cls := "java/util/ArrayDeque", name := "newCapacity", desc := "(II)I" } : Jvm.MethodName)) ∈ lw_all := lw_g (lw_at lw_m6 101 rfl) rfl
theorem q1435 : (Jvm.Cond.code ({ cls := "java/util/ArrayDeque", name := "newCapacity", desc := "(II)I" } : Jvm.MethodName) prog_53_method_2_code (5 : Nat) (Option.some Jvm.ClassFile.FieldType.int)) ∈ lw_all := lw_g (lw_at lw_m6 102 rfl) rfl
theorem q1436 : (Jvm.Cond.constant "java/util/ArrayDeque" (41 : Nat) (2147483647 : Int32)) ∈ lw_all := lw_g (lw_at lw_m6 103 rfl) rfl
theorem q1437 : (Jvm.Cond.methodLink "java/util/ArrayDeque" (14 : Nat) ({ cls := "java/util/Arrays", name := "copyOf", desc := "([Ljava/lang/Object;I)[Ljava/lang/Object;" } : Jvm.MethodName)) ∈ lw_all := lw_g (lw_at lw_m6 104 rfl) rfl
theorem q1448 : (Jvm.Cond.methodLink "java/util/ArrayDeque" (27 : Nat) ({ cls := "java/lang/System", name := "arraycopy", desc := "(Ljava/lang/Object;ILjava/lang/Object;II)V" } : Jvm.MethodName)) ∈ lw_all := lw_g (lw_at lw_m6 115 rfl) rfl
theorem q1830 : (Jvm.Cond.instanceMethod ({ cls := "java/util/ArrayDeque", name := "pollLast", desc := "()Ljava/lang/Object;" } : Jvm.MethodName)) ∈ lw_all := lw_g (lw_at lw_m8 17 rfl) rfl
theorem q1831 : (Jvm.Cond.selects "java/util/ArrayDeque" ({ cls := "java/util/ArrayDeque", name := "pollLast", desc := "()Ljava/lang/Object;" } : Jvm.MethodName) ({ cls := "java/util/ArrayDeque", name := "pollLast", desc := "()Ljava/lang/Object;" } : Jvm.MethodName)) ∈ lw_all := lw_g (lw_at lw_m8 18 rfl) rfl
theorem q1832 : (Jvm.Cond.code ({ cls := "java/util/ArrayDeque", name := "pollLast", desc := "()Ljava/lang/Object;" } : Jvm.MethodName) prog_53_method_21_code (4 : Nat) (Option.some (Jvm.ClassFile.FieldType.object "java/lang/Object"))) ∈ lw_all := lw_g (lw_at lw_m8 19 rfl) rfl
theorem q1833 : (Jvm.Cond.methodLink "java/util/ArrayDeque" (68 : Nat) ({ cls := "java/util/ArrayDeque", name := "dec", desc := "(II)I" } : Jvm.MethodName)) ∈ lw_all := lw_g (lw_at lw_m8 20 rfl) rfl
theorem q1834 : (Jvm.Cond.static ({ cls := "java/util/ArrayDeque", name := "dec", desc := "(II)I" } : Jvm.MethodName)) ∈ lw_all := lw_g (lw_at lw_m8 21 rfl) rfl
theorem q1835 : (Jvm.Cond.code ({ cls := "java/util/ArrayDeque", name := "dec", desc := "(II)I" } : Jvm.MethodName) prog_53_method_7_code (2 : Nat) (Option.some Jvm.ClassFile.FieldType.int)) ∈ lw_all := lw_g (lw_at lw_m8 22 rfl) rfl
theorem q2076 : (Jvm.Cond.castable "java/util/ArrayDeque" "java/util/Collection") ∈ lw_tbl := lw_at lw_m9 23 rfl
theorem q2077 : (Jvm.Cond.selects "java/util/ArrayDeque" ({ cls := "java/util/Collection", name := "iterator", desc := "()Ljava/util/Iterator;" } : Jvm.MethodName) ({ cls := "java/util/ArrayDeque", name := "iterator", desc := "()Ljava/util/Iterator;" } : Jvm.MethodName)) ∈ lw_all := lw_g (lw_at lw_m9 24 rfl) rfl
theorem q2078 : (Jvm.Cond.unhidden "java/util/ArrayDeque" "iterator" "()Ljava/util/Iterator;") ∈ lw_tbl := lw_at lw_m9 25 rfl
theorem q2079 : (Jvm.Cond.instanceMethod ({ cls := "java/util/ArrayDeque", name := "iterator", desc := "()Ljava/util/Iterator;" } : Jvm.MethodName)) ∈ lw_all := lw_g (lw_at lw_m9 26 rfl) rfl
theorem q2080 : (Jvm.Cond.publicMethod ({ cls := "java/util/ArrayDeque", name := "iterator", desc := "()Ljava/util/Iterator;" } : Jvm.MethodName)) ∈ lw_tbl := lw_at lw_m9 27 rfl
theorem q2081 : (Jvm.Cond.code ({ cls := "java/util/ArrayDeque", name := "iterator", desc := "()Ljava/util/Iterator;" } : Jvm.MethodName) prog_53_method_39_code (1 : Nat) (Option.some (Jvm.ClassFile.FieldType.object "java/util/Iterator"))) ∈ lw_all := lw_g (lw_at lw_m9 28 rfl) rfl
theorem q2082 : (Jvm.Cond.classLink "java/util/ArrayDeque" (131 : Nat) "java/util/ArrayDeque$DeqIterator") ∈ lw_all := lw_g (lw_at lw_m9 29 rfl) rfl
theorem q2084 : (Jvm.Cond.methodLink "java/util/ArrayDeque" (133 : Nat) ({ cls := "java/util/ArrayDeque$DeqIterator", name := "<init>", desc := "(Ljava/util/ArrayDeque;)V" } : Jvm.MethodName)) ∈ lw_all := lw_g (lw_at lw_m9 31 rfl) rfl
theorem q2190 : (Jvm.Cond.static ({ cls := "java/util/ArrayDeque", name := "nonNullElementAt", desc := "([Ljava/lang/Object;I)Ljava/lang/Object;" } : Jvm.MethodName)) ∈ lw_all := lw_g (lw_at lw_m9 137 rfl) rfl
theorem q2191 : (Jvm.Cond.code ({ cls := "java/util/ArrayDeque", name := "nonNullElementAt", desc := "([Ljava/lang/Object;I)Ljava/lang/Object;" } : Jvm.MethodName) prog_53_method_11_code (3 : Nat) (Option.some (Jvm.ClassFile.FieldType.object "java/lang/Object"))) ∈ lw_all := lw_g (lw_at lw_m9 138 rfl) rfl
theorem q3216 : (Jvm.Cond.castable "java/util/ArrayDeque" "java/util/SequencedCollection") ∈ lw_tbl := lw_at lw_m13 203 rfl
theorem q3231 : (Jvm.Cond.castable "java/util/ArrayDeque" "java/lang/Object") ∈ lw_tbl := lw_at lw_m13 218 rfl
theorem in_J21 : ∀ w ∈ wsJ210, w ∈ lw_all := lw_in wsJ210 [1067, 1069, 1071] (by decide +kernel) (by decide +kernel)
