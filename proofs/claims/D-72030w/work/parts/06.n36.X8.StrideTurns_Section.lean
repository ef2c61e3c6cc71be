/-! StrideTurns$Section -/
set_option maxRecDepth 100000
def RX8 : String := "StrideTurns$Section"
def TX8 : u_T := fun k => match k with
  | 0 => ("StrideTurns$Section", "first", "I", true)
  | 1 => ("StrideTurns$Section", "stride", "I", true)
  | _ => ("StrideTurns$Section", "many", "I", true)
def tyX8 : Nat → FieldType := fun k => match k with
  | 0 => .int
  | 1 => .int
  | _ => .int
abbrev wsX80 : List Cond := u_ws RX8 TX8 3
theorem nmX8 : ∀ a, a < 3 → ∀ b, b < 3 → a ≠ b → (TX8 a).2.1 ≠ (TX8 b).2.1 := by decide +kernel
theorem tyX8_ok : ∀ k, k < 3 → parseFieldDescriptor (TX8 k).2.2.1 = some (tyX8 k) := by decide +kernel
abbrev cX8_hashCode : ByteArray := prog_10_method_7_code
def yX8_hashCode : MethodName := ⟨RX8, "hashCode", "()I"⟩
def dkwX8_hashCode_1 : List UInt8 := [172]
abbrev dktX8_hashCode_1 : List UInt8 := dkwX8_hashCode_1 ++ []
def dkwX8_hashCode_0 : List UInt8 := [42, 180, 0, 13, 16, 8, 104, 42, 180, 0, 16, 96, 16, 9, 120, 42, 180, 0, 7, 96, 17, 1, 0, 96]
abbrev dktX8_hashCode_0 : List UInt8 := dkwX8_hashCode_0 ++ dktX8_hashCode_1
theorem dksX8_hashCode_0 : cX8_hashCode.data.toList.drop 0 = dktX8_hashCode_0 := by decide +kernel
theorem dksX8_hashCode_1 : cX8_hashCode.data.toList.drop 24 = dktX8_hashCode_1 := dk_seg dksX8_hashCode_0 24 rfl rfl
theorem dX8_hashCode_0 : decode cX8_hashCode 0 = .ok (.aload_n 0, 1) := dk_42 (dk_at dksX8_hashCode_0 0 rfl rfl)
theorem dX8_hashCode_1 : decode cX8_hashCode 1 = .ok (.getfield 13, 3) := dk_180 0 13 (dk_at dksX8_hashCode_0 1 rfl rfl)
theorem dX8_hashCode_4 : decode cX8_hashCode 4 = .ok (.bipush 8, 2) := dk_16 8 (dk_at dksX8_hashCode_0 4 rfl rfl)
theorem dX8_hashCode_6 : decode cX8_hashCode 6 = .ok (.imul, 1) := dk_104 (dk_at dksX8_hashCode_0 6 rfl rfl)
theorem dX8_hashCode_7 : decode cX8_hashCode 7 = .ok (.aload_n 0, 1) := dk_42 (dk_at dksX8_hashCode_0 7 rfl rfl)
theorem dX8_hashCode_8 : decode cX8_hashCode 8 = .ok (.getfield 16, 3) := dk_180 0 16 (dk_at dksX8_hashCode_0 8 rfl rfl)
theorem dX8_hashCode_11 : decode cX8_hashCode 11 = .ok (.iadd, 1) := dk_96 (dk_at dksX8_hashCode_0 11 rfl rfl)
theorem dX8_hashCode_12 : decode cX8_hashCode 12 = .ok (.bipush 9, 2) := dk_16 9 (dk_at dksX8_hashCode_0 12 rfl rfl)
theorem dX8_hashCode_14 : decode cX8_hashCode 14 = .ok (.ishl, 1) := dk_120 (dk_at dksX8_hashCode_0 14 rfl rfl)
theorem dX8_hashCode_15 : decode cX8_hashCode 15 = .ok (.aload_n 0, 1) := dk_42 (dk_at dksX8_hashCode_0 15 rfl rfl)
theorem dX8_hashCode_16 : decode cX8_hashCode 16 = .ok (.getfield 7, 3) := dk_180 0 7 (dk_at dksX8_hashCode_0 16 rfl rfl)
theorem dX8_hashCode_19 : decode cX8_hashCode 19 = .ok (.iadd, 1) := dk_96 (dk_at dksX8_hashCode_0 19 rfl rfl)
theorem dX8_hashCode_20 : decode cX8_hashCode 20 = .ok (.sipush 256, 3) := dk_17 1 0 (dk_at dksX8_hashCode_0 20 rfl rfl)
theorem dX8_hashCode_23 : decode cX8_hashCode 23 = .ok (.iadd, 1) := dk_96 (dk_at dksX8_hashCode_0 23 rfl rfl)
theorem dX8_hashCode_24 : decode cX8_hashCode 24 = .ok (.ireturn, 1) := dk_172 (dk_at dksX8_hashCode_1 0 rfl rfl)
abbrev cX8_equals : ByteArray := prog_10_method_6_code
def yX8_equals : MethodName := ⟨RX8, "equals", "(Ljava/lang/Object;)Z"⟩
def dkwX8_equals_2 : List UInt8 := [167, 0, 4, 3, 172]
abbrev dktX8_equals_2 : List UInt8 := dkwX8_equals_2 ++ []
def dkwX8_equals_1 : List UInt8 := [180, 0, 13, 44, 180, 0, 13, 160, 0, 18, 42, 180, 0, 16, 44, 180, 0, 16, 160, 0, 7, 4]
abbrev dktX8_equals_1 : List UInt8 := dkwX8_equals_1 ++ dktX8_equals_2
def dkwX8_equals_0 : List UInt8 := [43, 193, 0, 8, 153, 0, 45, 43, 192, 0, 8, 77, 42, 180, 0, 7, 44, 180, 0, 7, 160, 0, 29, 42]
abbrev dktX8_equals_0 : List UInt8 := dkwX8_equals_0 ++ dktX8_equals_1
theorem dksX8_equals_0 : cX8_equals.data.toList.drop 0 = dktX8_equals_0 := by decide +kernel
theorem dksX8_equals_1 : cX8_equals.data.toList.drop 24 = dktX8_equals_1 := dk_seg dksX8_equals_0 24 rfl rfl
theorem dksX8_equals_2 : cX8_equals.data.toList.drop 46 = dktX8_equals_2 := dk_seg dksX8_equals_1 22 rfl rfl
theorem dX8_equals_0 : decode cX8_equals 0 = .ok (.aload_n 1, 1) := dk_43 (dk_at dksX8_equals_0 0 rfl rfl)
theorem dX8_equals_1 : decode cX8_equals 1 = .ok (.instanceof 8, 3) := dk_193 0 8 (dk_at dksX8_equals_0 1 rfl rfl)
theorem dX8_equals_4 : decode cX8_equals 4 = .ok (.ifCond .eq 45, 3) := dk_153 0 45 (dk_at dksX8_equals_0 4 rfl rfl)
theorem dX8_equals_7 : decode cX8_equals 7 = .ok (.aload_n 1, 1) := dk_43 (dk_at dksX8_equals_0 7 rfl rfl)
theorem dX8_equals_8 : decode cX8_equals 8 = .ok (.checkcast 8, 3) := dk_192 0 8 (dk_at dksX8_equals_0 8 rfl rfl)
theorem dX8_equals_11 : decode cX8_equals 11 = .ok (.astore_n 2, 1) := dk_77 (dk_at dksX8_equals_0 11 rfl rfl)
theorem dX8_equals_12 : decode cX8_equals 12 = .ok (.aload_n 0, 1) := dk_42 (dk_at dksX8_equals_0 12 rfl rfl)
theorem dX8_equals_13 : decode cX8_equals 13 = .ok (.getfield 7, 3) := dk_180 0 7 (dk_at dksX8_equals_0 13 rfl rfl)
theorem dX8_equals_16 : decode cX8_equals 16 = .ok (.aload_n 2, 1) := dk_44 (dk_at dksX8_equals_0 16 rfl rfl)
theorem dX8_equals_17 : decode cX8_equals 17 = .ok (.getfield 7, 3) := dk_180 0 7 (dk_at dksX8_equals_0 17 rfl rfl)
theorem dX8_equals_20 : decode cX8_equals 20 = .ok (.if_icmp .ne 29, 3) := dk_160 0 29 (dk_at dksX8_equals_0 20 rfl rfl)
theorem dX8_equals_23 : decode cX8_equals 23 = .ok (.aload_n 0, 1) := dk_42 (dk_at dksX8_equals_0 23 rfl rfl)
theorem dX8_equals_24 : decode cX8_equals 24 = .ok (.getfield 13, 3) := dk_180 0 13 (dk_at dksX8_equals_1 0 rfl rfl)
theorem dX8_equals_27 : decode cX8_equals 27 = .ok (.aload_n 2, 1) := dk_44 (dk_at dksX8_equals_1 3 rfl rfl)
theorem dX8_equals_28 : decode cX8_equals 28 = .ok (.getfield 13, 3) := dk_180 0 13 (dk_at dksX8_equals_1 4 rfl rfl)
theorem dX8_equals_31 : decode cX8_equals 31 = .ok (.if_icmp .ne 18, 3) := dk_160 0 18 (dk_at dksX8_equals_1 7 rfl rfl)
theorem dX8_equals_34 : decode cX8_equals 34 = .ok (.aload_n 0, 1) := dk_42 (dk_at dksX8_equals_1 10 rfl rfl)
theorem dX8_equals_35 : decode cX8_equals 35 = .ok (.getfield 16, 3) := dk_180 0 16 (dk_at dksX8_equals_1 11 rfl rfl)
theorem dX8_equals_38 : decode cX8_equals 38 = .ok (.aload_n 2, 1) := dk_44 (dk_at dksX8_equals_1 14 rfl rfl)
theorem dX8_equals_39 : decode cX8_equals 39 = .ok (.getfield 16, 3) := dk_180 0 16 (dk_at dksX8_equals_1 15 rfl rfl)
theorem dX8_equals_42 : decode cX8_equals 42 = .ok (.if_icmp .ne 7, 3) := dk_160 0 7 (dk_at dksX8_equals_1 18 rfl rfl)
theorem dX8_equals_45 : decode cX8_equals 45 = .ok (.iconst 1, 1) := dk_4 (dk_at dksX8_equals_1 21 rfl rfl)
theorem dX8_equals_46 : decode cX8_equals 46 = .ok (.goto 4, 3) := dk_167 0 4 (dk_at dksX8_equals_2 0 rfl rfl)
theorem dX8_equals_49 : decode cX8_equals 49 = .ok (.iconst 0, 1) := dk_3 (dk_at dksX8_equals_2 3 rfl rfl)
theorem dX8_equals_50 : decode cX8_equals 50 = .ok (.ireturn, 1) := dk_172 (dk_at dksX8_equals_2 4 rfl rfl)
abbrev cX8_of : ByteArray := prog_10_method_2_code
def yX8_of : MethodName := ⟨RX8, "of", "(LStrideTurns$Reference;II)LStrideTurns$Section;"⟩
def dkwX8_of_2 : List UInt8 := [42, 180, 0, 36, 154, 0, 7, 4, 167, 0, 4, 28, 183, 0, 43, 176]
abbrev dktX8_of_2 : List UInt8 := dkwX8_of_2 ++ []
def dkwX8_of_1 : List UInt8 := [185, 0, 25, 3, 0, 54, 4, 187, 0, 8, 89, 29, 21, 4, 184, 0, 31, 42, 180, 0, 36, 184, 0, 39]
abbrev dktX8_of_1 : List UInt8 := dkwX8_of_1 ++ dktX8_of_2
def dkwX8_of_0 : List UInt8 := [42, 180, 0, 19, 27, 3, 185, 0, 25, 3, 0, 62, 42, 180, 0, 19, 27, 28, 4, 100]
abbrev dktX8_of_0 : List UInt8 := dkwX8_of_0 ++ dktX8_of_1
theorem dksX8_of_0 : cX8_of.data.toList.drop 0 = dktX8_of_0 := by decide +kernel
theorem dksX8_of_1 : cX8_of.data.toList.drop 20 = dktX8_of_1 := dk_seg dksX8_of_0 20 rfl rfl
theorem dksX8_of_2 : cX8_of.data.toList.drop 44 = dktX8_of_2 := dk_seg dksX8_of_1 24 rfl rfl
theorem dX8_of_0 : decode cX8_of 0 = .ok (.aload_n 0, 1) := dk_42 (dk_at dksX8_of_0 0 rfl rfl)
theorem dX8_of_1 : decode cX8_of 1 = .ok (.getfield 19, 3) := dk_180 0 19 (dk_at dksX8_of_0 1 rfl rfl)
theorem dX8_of_4 : decode cX8_of 4 = .ok (.iload_n 1, 1) := dk_27 (dk_at dksX8_of_0 4 rfl rfl)
theorem dX8_of_5 : decode cX8_of 5 = .ok (.iconst 0, 1) := dk_3 (dk_at dksX8_of_0 5 rfl rfl)
theorem dX8_of_6 : decode cX8_of 6 = .ok (.invokeinterface 25 3, 5) := by decide +kernel
theorem dX8_of_11 : decode cX8_of 11 = .ok (.istore_n 3, 1) := dk_62 (dk_at dksX8_of_0 11 rfl rfl)
theorem dX8_of_12 : decode cX8_of 12 = .ok (.aload_n 0, 1) := dk_42 (dk_at dksX8_of_0 12 rfl rfl)
theorem dX8_of_13 : decode cX8_of 13 = .ok (.getfield 19, 3) := dk_180 0 19 (dk_at dksX8_of_0 13 rfl rfl)
theorem dX8_of_16 : decode cX8_of 16 = .ok (.iload_n 1, 1) := dk_27 (dk_at dksX8_of_0 16 rfl rfl)
theorem dX8_of_17 : decode cX8_of 17 = .ok (.iload_n 2, 1) := dk_28 (dk_at dksX8_of_0 17 rfl rfl)
theorem dX8_of_18 : decode cX8_of 18 = .ok (.iconst 1, 1) := dk_4 (dk_at dksX8_of_0 18 rfl rfl)
theorem dX8_of_19 : decode cX8_of 19 = .ok (.isub, 1) := dk_100 (dk_at dksX8_of_0 19 rfl rfl)
theorem dX8_of_20 : decode cX8_of 20 = .ok (.invokeinterface 25 3, 5) := by decide +kernel
theorem dX8_of_25 : decode cX8_of 25 = .ok (.istore 4, 2) := dk_54 4 (dk_at dksX8_of_1 5 rfl rfl)
theorem dX8_of_27 : decode cX8_of 27 = .ok (.new 8, 3) := dk_187 0 8 (dk_at dksX8_of_1 7 rfl rfl)
theorem dX8_of_30 : decode cX8_of 30 = .ok (.dup, 1) := dk_89 (dk_at dksX8_of_1 10 rfl rfl)
theorem dX8_of_31 : decode cX8_of 31 = .ok (.iload_n 3, 1) := dk_29 (dk_at dksX8_of_1 11 rfl rfl)
theorem dX8_of_32 : decode cX8_of 32 = .ok (.iload 4, 2) := dk_21 4 (dk_at dksX8_of_1 12 rfl rfl)
theorem dX8_of_34 : decode cX8_of 34 = .ok (.invokestatic 31, 3) := dk_184 0 31 (dk_at dksX8_of_1 14 rfl rfl)
theorem dX8_of_37 : decode cX8_of 37 = .ok (.aload_n 0, 1) := dk_42 (dk_at dksX8_of_1 17 rfl rfl)
theorem dX8_of_38 : decode cX8_of 38 = .ok (.getfield 36, 3) := dk_180 0 36 (dk_at dksX8_of_1 18 rfl rfl)
theorem dX8_of_41 : decode cX8_of 41 = .ok (.invokestatic 39, 3) := dk_184 0 39 (dk_at dksX8_of_1 21 rfl rfl)
theorem dX8_of_44 : decode cX8_of 44 = .ok (.aload_n 0, 1) := dk_42 (dk_at dksX8_of_2 0 rfl rfl)
theorem dX8_of_45 : decode cX8_of 45 = .ok (.getfield 36, 3) := dk_180 0 36 (dk_at dksX8_of_2 1 rfl rfl)
theorem dX8_of_48 : decode cX8_of 48 = .ok (.ifCond .ne 7, 3) := dk_154 0 7 (dk_at dksX8_of_2 4 rfl rfl)
theorem dX8_of_51 : decode cX8_of 51 = .ok (.iconst 1, 1) := dk_4 (dk_at dksX8_of_2 7 rfl rfl)
theorem dX8_of_52 : decode cX8_of 52 = .ok (.goto 4, 3) := dk_167 0 4 (dk_at dksX8_of_2 8 rfl rfl)
theorem dX8_of_55 : decode cX8_of 55 = .ok (.iload_n 2, 1) := dk_28 (dk_at dksX8_of_2 11 rfl rfl)
theorem dX8_of_56 : decode cX8_of 56 = .ok (.invokespecial 43, 3) := dk_183 0 43 (dk_at dksX8_of_2 12 rfl rfl)
theorem dX8_of_59 : decode cX8_of 59 = .ok (.areturn, 1) := dk_176 (dk_at dksX8_of_2 15 rfl rfl)
abbrev cX8_init : ByteArray := prog_10_method_1_code
def yX8_init : MethodName := ⟨RX8, "<init>", "(III)V"⟩
def dkwX8_init_1 : List UInt8 := [167, 0, 4, 28, 181, 0, 13, 42, 29, 181, 0, 16, 177]
abbrev dktX8_init_1 : List UInt8 := dkwX8_init_1 ++ []
def dkwX8_init_0 : List UInt8 := [42, 183, 0, 1, 42, 29, 154, 0, 7, 3, 167, 0, 4, 27, 181, 0, 7, 42, 29, 5, 162, 0, 7, 4]
abbrev dktX8_init_0 : List UInt8 := dkwX8_init_0 ++ dktX8_init_1
theorem dksX8_init_0 : cX8_init.data.toList.drop 0 = dktX8_init_0 := by decide +kernel
theorem dksX8_init_1 : cX8_init.data.toList.drop 24 = dktX8_init_1 := dk_seg dksX8_init_0 24 rfl rfl
theorem dX8_init_0 : decode cX8_init 0 = .ok (.aload_n 0, 1) := dk_42 (dk_at dksX8_init_0 0 rfl rfl)
theorem dX8_init_1 : decode cX8_init 1 = .ok (.invokespecial 1, 3) := dk_183 0 1 (dk_at dksX8_init_0 1 rfl rfl)
theorem dX8_init_4 : decode cX8_init 4 = .ok (.aload_n 0, 1) := dk_42 (dk_at dksX8_init_0 4 rfl rfl)
theorem dX8_init_5 : decode cX8_init 5 = .ok (.iload_n 3, 1) := dk_29 (dk_at dksX8_init_0 5 rfl rfl)
theorem dX8_init_6 : decode cX8_init 6 = .ok (.ifCond .ne 7, 3) := dk_154 0 7 (dk_at dksX8_init_0 6 rfl rfl)
theorem dX8_init_9 : decode cX8_init 9 = .ok (.iconst 0, 1) := dk_3 (dk_at dksX8_init_0 9 rfl rfl)
theorem dX8_init_10 : decode cX8_init 10 = .ok (.goto 4, 3) := dk_167 0 4 (dk_at dksX8_init_0 10 rfl rfl)
theorem dX8_init_13 : decode cX8_init 13 = .ok (.iload_n 1, 1) := dk_27 (dk_at dksX8_init_0 13 rfl rfl)
theorem dX8_init_14 : decode cX8_init 14 = .ok (.putfield 7, 3) := dk_181 0 7 (dk_at dksX8_init_0 14 rfl rfl)
theorem dX8_init_17 : decode cX8_init 17 = .ok (.aload_n 0, 1) := dk_42 (dk_at dksX8_init_0 17 rfl rfl)
theorem dX8_init_18 : decode cX8_init 18 = .ok (.iload_n 3, 1) := dk_29 (dk_at dksX8_init_0 18 rfl rfl)
theorem dX8_init_19 : decode cX8_init 19 = .ok (.iconst 2, 1) := dk_5 (dk_at dksX8_init_0 19 rfl rfl)
theorem dX8_init_20 : decode cX8_init 20 = .ok (.if_icmp .ge 7, 3) := dk_162 0 7 (dk_at dksX8_init_0 20 rfl rfl)
theorem dX8_init_23 : decode cX8_init 23 = .ok (.iconst 1, 1) := dk_4 (dk_at dksX8_init_0 23 rfl rfl)
theorem dX8_init_24 : decode cX8_init 24 = .ok (.goto 4, 3) := dk_167 0 4 (dk_at dksX8_init_1 0 rfl rfl)
theorem dX8_init_27 : decode cX8_init 27 = .ok (.iload_n 2, 1) := dk_28 (dk_at dksX8_init_1 3 rfl rfl)
theorem dX8_init_28 : decode cX8_init 28 = .ok (.putfield 13, 3) := dk_181 0 13 (dk_at dksX8_init_1 4 rfl rfl)
theorem dX8_init_31 : decode cX8_init 31 = .ok (.aload_n 0, 1) := dk_42 (dk_at dksX8_init_1 7 rfl rfl)
theorem dX8_init_32 : decode cX8_init 32 = .ok (.iload_n 3, 1) := dk_29 (dk_at dksX8_init_1 8 rfl rfl)
theorem dX8_init_33 : decode cX8_init 33 = .ok (.putfield 16, 3) := dk_181 0 16 (dk_at dksX8_init_1 9 rfl rfl)
theorem dX8_init_36 : decode cX8_init 36 = .ok (.return_, 1) := dk_177 (dk_at dksX8_init_1 12 rfl rfl)
abbrev cX8_tells : ByteArray := prog_10_method_5_code
def yX8_tells : MethodName := ⟨RX8, "tells", "(I)I"⟩
def dkwX8_tells_2 : List UInt8 := [42, 180, 0, 7, 167, 0, 14, 42, 180, 0, 13, 167, 0, 7, 42, 180, 0, 16, 172]
abbrev dktX8_tells_2 : List UInt8 := dkwX8_tells_2 ++ []
def dkwX8_tells_1 : List UInt8 := [171, 0, 0, 0, 0, 0, 41, 0, 0, 0, 2, 0, 0, 0, 0, 0, 0, 0, 27, 0, 0, 0, 1, 0, 0, 0, 34]
abbrev dktX8_tells_1 : List UInt8 := dkwX8_tells_1 ++ dktX8_tells_2
def dkwX8_tells_0 : List UInt8 := [27]
abbrev dktX8_tells_0 : List UInt8 := dkwX8_tells_0 ++ dktX8_tells_1
theorem dksX8_tells_0 : cX8_tells.data.toList.drop 0 = dktX8_tells_0 := by decide +kernel
theorem dksX8_tells_1 : cX8_tells.data.toList.drop 1 = dktX8_tells_1 := dk_seg dksX8_tells_0 1 rfl rfl
theorem dksX8_tells_2 : cX8_tells.data.toList.drop 28 = dktX8_tells_2 := dk_seg dksX8_tells_1 27 rfl rfl
theorem dX8_tells_0 : decode cX8_tells 0 = .ok (.iload_n 1, 1) := dk_27 (dk_at dksX8_tells_0 0 rfl rfl)
theorem dX8_tells_1 : decode cX8_tells 1 = .ok (.lookupswitch 41 #[(0, 27), (1, 34)], 27) := by decide +kernel
theorem dX8_tells_28 : decode cX8_tells 28 = .ok (.aload_n 0, 1) := dk_42 (dk_at dksX8_tells_2 0 rfl rfl)
theorem dX8_tells_29 : decode cX8_tells 29 = .ok (.getfield 7, 3) := dk_180 0 7 (dk_at dksX8_tells_2 1 rfl rfl)
theorem dX8_tells_32 : decode cX8_tells 32 = .ok (.goto 14, 3) := dk_167 0 14 (dk_at dksX8_tells_2 4 rfl rfl)
theorem dX8_tells_35 : decode cX8_tells 35 = .ok (.aload_n 0, 1) := dk_42 (dk_at dksX8_tells_2 7 rfl rfl)
theorem dX8_tells_36 : decode cX8_tells 36 = .ok (.getfield 13, 3) := dk_180 0 13 (dk_at dksX8_tells_2 8 rfl rfl)
theorem dX8_tells_39 : decode cX8_tells 39 = .ok (.goto 7, 3) := dk_167 0 7 (dk_at dksX8_tells_2 11 rfl rfl)
theorem dX8_tells_42 : decode cX8_tells 42 = .ok (.aload_n 0, 1) := dk_42 (dk_at dksX8_tells_2 14 rfl rfl)
theorem dX8_tells_43 : decode cX8_tells 43 = .ok (.getfield 16, 3) := dk_180 0 16 (dk_at dksX8_tells_2 15 rfl rfl)
theorem dX8_tells_46 : decode cX8_tells 46 = .ok (.ireturn, 1) := dk_172 (dk_at dksX8_tells_2 18 rfl rfl)
abbrev cX8_meet : ByteArray := prog_10_method_4_code
def yX8_meet : MethodName := ⟨RX8, "meet", "(LStrideTurns$Section;)LStrideTurns$Section;"⟩
def dkwX8_meet_8 : List UInt8 := [164, 0, 7, 3, 167, 0, 13, 21, 8, 21, 6, 100, 21, 5, 108, 4, 96, 183, 0, 43, 176]
abbrev dktX8_meet_8 : List UInt8 := dkwX8_meet_8 ++ []
def dkwX8_meet_7 : List UInt8 := [182, 0, 57, 43, 182, 0, 57, 184, 0, 31, 54, 8, 187, 0, 8, 89, 21, 6, 21, 5, 21, 6, 21, 8]
abbrev dktX8_meet_7 : List UInt8 := dkwX8_meet_7 ++ dktX8_meet_8
def dkwX8_meet_6 : List UInt8 := [21, 6, 21, 7, 21, 6, 100, 21, 5, 96, 4, 100, 21, 5, 108, 21, 5, 104, 96, 54, 6, 42]
abbrev dktX8_meet_6 : List UInt8 := dkwX8_meet_6 ++ dktX8_meet_7
def dkwX8_meet_5 : List UInt8 := [104, 96, 54, 6, 42, 180, 0, 7, 43, 180, 0, 7, 184, 0, 54, 54, 7, 21, 6, 21, 7, 162, 0, 24]
abbrev dktX8_meet_5 : List UInt8 := dkwX8_meet_5 ++ dktX8_meet_6
def dkwX8_meet_4 : List UInt8 := [132, 4, 1, 167, 255, 220, 42, 180, 0, 13, 29, 104, 54, 5, 42, 180, 0, 7, 21, 4, 42, 180, 0, 13]
abbrev dktX8_meet_4 : List UInt8 := dkwX8_meet_4 ++ dktX8_meet_5
def dkwX8_meet_3 : List UInt8 := [104, 96, 43, 180, 0, 7, 100, 43, 180, 0, 13, 184, 0, 51, 153, 0, 15, 21, 4, 29, 162, 0, 9]
abbrev dktX8_meet_3 : List UInt8 := dkwX8_meet_3 ++ dktX8_meet_4
def dkwX8_meet_2 : List UInt8 := [183, 0, 43, 176, 43, 180, 0, 13, 28, 108, 62, 3, 54, 4, 42, 180, 0, 7, 21, 4, 42, 180, 0, 13]
abbrev dktX8_meet_2 : List UInt8 := dkwX8_meet_2 ++ dktX8_meet_3
def dkwX8_meet_1 : List UInt8 := [153, 0, 17, 43, 180, 0, 7, 42, 180, 0, 7, 100, 28, 112, 153, 0, 14, 187, 0, 8, 89, 3, 4, 3]
abbrev dktX8_meet_1 : List UInt8 := dkwX8_meet_1 ++ dktX8_meet_2
def dkwX8_meet_0 : List UInt8 := [42, 180, 0, 13, 43, 180, 0, 13, 184, 0, 46, 61, 42, 180, 0, 16, 153, 0, 24, 43, 180, 0, 16]
abbrev dktX8_meet_0 : List UInt8 := dkwX8_meet_0 ++ dktX8_meet_1
theorem dksX8_meet_0 : cX8_meet.data.toList.drop 0 = dktX8_meet_0 := by decide +kernel
theorem dksX8_meet_1 : cX8_meet.data.toList.drop 23 = dktX8_meet_1 := dk_seg dksX8_meet_0 23 rfl rfl
theorem dksX8_meet_2 : cX8_meet.data.toList.drop 47 = dktX8_meet_2 := dk_seg dksX8_meet_1 24 rfl rfl
theorem dksX8_meet_3 : cX8_meet.data.toList.drop 71 = dktX8_meet_3 := dk_seg dksX8_meet_2 24 rfl rfl
theorem dksX8_meet_4 : cX8_meet.data.toList.drop 94 = dktX8_meet_4 := dk_seg dksX8_meet_3 23 rfl rfl
theorem dksX8_meet_5 : cX8_meet.data.toList.drop 118 = dktX8_meet_5 := dk_seg dksX8_meet_4 24 rfl rfl
theorem dksX8_meet_6 : cX8_meet.data.toList.drop 142 = dktX8_meet_6 := dk_seg dksX8_meet_5 24 rfl rfl
theorem dksX8_meet_7 : cX8_meet.data.toList.drop 164 = dktX8_meet_7 := dk_seg dksX8_meet_6 22 rfl rfl
theorem dksX8_meet_8 : cX8_meet.data.toList.drop 188 = dktX8_meet_8 := dk_seg dksX8_meet_7 24 rfl rfl
theorem dX8_meet_0 : decode cX8_meet 0 = .ok (.aload_n 0, 1) := dk_42 (dk_at dksX8_meet_0 0 rfl rfl)
theorem dX8_meet_1 : decode cX8_meet 1 = .ok (.getfield 13, 3) := dk_180 0 13 (dk_at dksX8_meet_0 1 rfl rfl)
theorem dX8_meet_4 : decode cX8_meet 4 = .ok (.aload_n 1, 1) := dk_43 (dk_at dksX8_meet_0 4 rfl rfl)
theorem dX8_meet_5 : decode cX8_meet 5 = .ok (.getfield 13, 3) := dk_180 0 13 (dk_at dksX8_meet_0 5 rfl rfl)
theorem dX8_meet_8 : decode cX8_meet 8 = .ok (.invokestatic 46, 3) := dk_184 0 46 (dk_at dksX8_meet_0 8 rfl rfl)
theorem dX8_meet_11 : decode cX8_meet 11 = .ok (.istore_n 2, 1) := dk_61 (dk_at dksX8_meet_0 11 rfl rfl)
theorem dX8_meet_12 : decode cX8_meet 12 = .ok (.aload_n 0, 1) := dk_42 (dk_at dksX8_meet_0 12 rfl rfl)
theorem dX8_meet_13 : decode cX8_meet 13 = .ok (.getfield 16, 3) := dk_180 0 16 (dk_at dksX8_meet_0 13 rfl rfl)
theorem dX8_meet_16 : decode cX8_meet 16 = .ok (.ifCond .eq 24, 3) := dk_153 0 24 (dk_at dksX8_meet_0 16 rfl rfl)
theorem dX8_meet_19 : decode cX8_meet 19 = .ok (.aload_n 1, 1) := dk_43 (dk_at dksX8_meet_0 19 rfl rfl)
theorem dX8_meet_20 : decode cX8_meet 20 = .ok (.getfield 16, 3) := dk_180 0 16 (dk_at dksX8_meet_0 20 rfl rfl)
theorem dX8_meet_23 : decode cX8_meet 23 = .ok (.ifCond .eq 17, 3) := dk_153 0 17 (dk_at dksX8_meet_1 0 rfl rfl)
theorem dX8_meet_26 : decode cX8_meet 26 = .ok (.aload_n 1, 1) := dk_43 (dk_at dksX8_meet_1 3 rfl rfl)
theorem dX8_meet_27 : decode cX8_meet 27 = .ok (.getfield 7, 3) := dk_180 0 7 (dk_at dksX8_meet_1 4 rfl rfl)
theorem dX8_meet_30 : decode cX8_meet 30 = .ok (.aload_n 0, 1) := dk_42 (dk_at dksX8_meet_1 7 rfl rfl)
theorem dX8_meet_31 : decode cX8_meet 31 = .ok (.getfield 7, 3) := dk_180 0 7 (dk_at dksX8_meet_1 8 rfl rfl)
theorem dX8_meet_34 : decode cX8_meet 34 = .ok (.isub, 1) := dk_100 (dk_at dksX8_meet_1 11 rfl rfl)
theorem dX8_meet_35 : decode cX8_meet 35 = .ok (.iload_n 2, 1) := dk_28 (dk_at dksX8_meet_1 12 rfl rfl)
theorem dX8_meet_36 : decode cX8_meet 36 = .ok (.irem, 1) := dk_112 (dk_at dksX8_meet_1 13 rfl rfl)
theorem dX8_meet_37 : decode cX8_meet 37 = .ok (.ifCond .eq 14, 3) := dk_153 0 14 (dk_at dksX8_meet_1 14 rfl rfl)
theorem dX8_meet_40 : decode cX8_meet 40 = .ok (.new 8, 3) := dk_187 0 8 (dk_at dksX8_meet_1 17 rfl rfl)
theorem dX8_meet_43 : decode cX8_meet 43 = .ok (.dup, 1) := dk_89 (dk_at dksX8_meet_1 20 rfl rfl)
theorem dX8_meet_44 : decode cX8_meet 44 = .ok (.iconst 0, 1) := dk_3 (dk_at dksX8_meet_1 21 rfl rfl)
theorem dX8_meet_45 : decode cX8_meet 45 = .ok (.iconst 1, 1) := dk_4 (dk_at dksX8_meet_1 22 rfl rfl)
theorem dX8_meet_46 : decode cX8_meet 46 = .ok (.iconst 0, 1) := dk_3 (dk_at dksX8_meet_1 23 rfl rfl)
theorem dX8_meet_47 : decode cX8_meet 47 = .ok (.invokespecial 43, 3) := dk_183 0 43 (dk_at dksX8_meet_2 0 rfl rfl)
theorem dX8_meet_50 : decode cX8_meet 50 = .ok (.areturn, 1) := dk_176 (dk_at dksX8_meet_2 3 rfl rfl)
theorem dX8_meet_51 : decode cX8_meet 51 = .ok (.aload_n 1, 1) := dk_43 (dk_at dksX8_meet_2 4 rfl rfl)
theorem dX8_meet_52 : decode cX8_meet 52 = .ok (.getfield 13, 3) := dk_180 0 13 (dk_at dksX8_meet_2 5 rfl rfl)
theorem dX8_meet_55 : decode cX8_meet 55 = .ok (.iload_n 2, 1) := dk_28 (dk_at dksX8_meet_2 8 rfl rfl)
theorem dX8_meet_56 : decode cX8_meet 56 = .ok (.idiv, 1) := dk_108 (dk_at dksX8_meet_2 9 rfl rfl)
theorem dX8_meet_57 : decode cX8_meet 57 = .ok (.istore_n 3, 1) := dk_62 (dk_at dksX8_meet_2 10 rfl rfl)
theorem dX8_meet_58 : decode cX8_meet 58 = .ok (.iconst 0, 1) := dk_3 (dk_at dksX8_meet_2 11 rfl rfl)
theorem dX8_meet_59 : decode cX8_meet 59 = .ok (.istore 4, 2) := dk_54 4 (dk_at dksX8_meet_2 12 rfl rfl)
theorem dX8_meet_61 : decode cX8_meet 61 = .ok (.aload_n 0, 1) := dk_42 (dk_at dksX8_meet_2 14 rfl rfl)
theorem dX8_meet_62 : decode cX8_meet 62 = .ok (.getfield 7, 3) := dk_180 0 7 (dk_at dksX8_meet_2 15 rfl rfl)
theorem dX8_meet_65 : decode cX8_meet 65 = .ok (.iload 4, 2) := dk_21 4 (dk_at dksX8_meet_2 18 rfl rfl)
theorem dX8_meet_67 : decode cX8_meet 67 = .ok (.aload_n 0, 1) := dk_42 (dk_at dksX8_meet_2 20 rfl rfl)
theorem dX8_meet_68 : decode cX8_meet 68 = .ok (.getfield 13, 3) := dk_180 0 13 (dk_at dksX8_meet_2 21 rfl rfl)
theorem dX8_meet_71 : decode cX8_meet 71 = .ok (.imul, 1) := dk_104 (dk_at dksX8_meet_3 0 rfl rfl)
theorem dX8_meet_72 : decode cX8_meet 72 = .ok (.iadd, 1) := dk_96 (dk_at dksX8_meet_3 1 rfl rfl)
theorem dX8_meet_73 : decode cX8_meet 73 = .ok (.aload_n 1, 1) := dk_43 (dk_at dksX8_meet_3 2 rfl rfl)
theorem dX8_meet_74 : decode cX8_meet 74 = .ok (.getfield 7, 3) := dk_180 0 7 (dk_at dksX8_meet_3 3 rfl rfl)
theorem dX8_meet_77 : decode cX8_meet 77 = .ok (.isub, 1) := dk_100 (dk_at dksX8_meet_3 6 rfl rfl)
theorem dX8_meet_78 : decode cX8_meet 78 = .ok (.aload_n 1, 1) := dk_43 (dk_at dksX8_meet_3 7 rfl rfl)
theorem dX8_meet_79 : decode cX8_meet 79 = .ok (.getfield 13, 3) := dk_180 0 13 (dk_at dksX8_meet_3 8 rfl rfl)
theorem dX8_meet_82 : decode cX8_meet 82 = .ok (.invokestatic 51, 3) := dk_184 0 51 (dk_at dksX8_meet_3 11 rfl rfl)
theorem dX8_meet_85 : decode cX8_meet 85 = .ok (.ifCond .eq 15, 3) := dk_153 0 15 (dk_at dksX8_meet_3 14 rfl rfl)
theorem dX8_meet_88 : decode cX8_meet 88 = .ok (.iload 4, 2) := dk_21 4 (dk_at dksX8_meet_3 17 rfl rfl)
theorem dX8_meet_90 : decode cX8_meet 90 = .ok (.iload_n 3, 1) := dk_29 (dk_at dksX8_meet_3 19 rfl rfl)
theorem dX8_meet_91 : decode cX8_meet 91 = .ok (.if_icmp .ge 9, 3) := dk_162 0 9 (dk_at dksX8_meet_3 20 rfl rfl)
theorem dX8_meet_94 : decode cX8_meet 94 = .ok (.iinc 4 1, 3) := dk_132 4 1 (dk_at dksX8_meet_4 0 rfl rfl)
theorem dX8_meet_97 : decode cX8_meet 97 = .ok (.goto (-36), 3) := dk_167 255 220 (dk_at dksX8_meet_4 3 rfl rfl)
theorem dX8_meet_100 : decode cX8_meet 100 = .ok (.aload_n 0, 1) := dk_42 (dk_at dksX8_meet_4 6 rfl rfl)
theorem dX8_meet_101 : decode cX8_meet 101 = .ok (.getfield 13, 3) := dk_180 0 13 (dk_at dksX8_meet_4 7 rfl rfl)
theorem dX8_meet_104 : decode cX8_meet 104 = .ok (.iload_n 3, 1) := dk_29 (dk_at dksX8_meet_4 10 rfl rfl)
theorem dX8_meet_105 : decode cX8_meet 105 = .ok (.imul, 1) := dk_104 (dk_at dksX8_meet_4 11 rfl rfl)
theorem dX8_meet_106 : decode cX8_meet 106 = .ok (.istore 5, 2) := dk_54 5 (dk_at dksX8_meet_4 12 rfl rfl)
theorem dX8_meet_108 : decode cX8_meet 108 = .ok (.aload_n 0, 1) := dk_42 (dk_at dksX8_meet_4 14 rfl rfl)
theorem dX8_meet_109 : decode cX8_meet 109 = .ok (.getfield 7, 3) := dk_180 0 7 (dk_at dksX8_meet_4 15 rfl rfl)
theorem dX8_meet_112 : decode cX8_meet 112 = .ok (.iload 4, 2) := dk_21 4 (dk_at dksX8_meet_4 18 rfl rfl)
theorem dX8_meet_114 : decode cX8_meet 114 = .ok (.aload_n 0, 1) := dk_42 (dk_at dksX8_meet_4 20 rfl rfl)
theorem dX8_meet_115 : decode cX8_meet 115 = .ok (.getfield 13, 3) := dk_180 0 13 (dk_at dksX8_meet_4 21 rfl rfl)
theorem dX8_meet_118 : decode cX8_meet 118 = .ok (.imul, 1) := dk_104 (dk_at dksX8_meet_5 0 rfl rfl)
theorem dX8_meet_119 : decode cX8_meet 119 = .ok (.iadd, 1) := dk_96 (dk_at dksX8_meet_5 1 rfl rfl)
theorem dX8_meet_120 : decode cX8_meet 120 = .ok (.istore 6, 2) := dk_54 6 (dk_at dksX8_meet_5 2 rfl rfl)
theorem dX8_meet_122 : decode cX8_meet 122 = .ok (.aload_n 0, 1) := dk_42 (dk_at dksX8_meet_5 4 rfl rfl)
theorem dX8_meet_123 : decode cX8_meet 123 = .ok (.getfield 7, 3) := dk_180 0 7 (dk_at dksX8_meet_5 5 rfl rfl)
theorem dX8_meet_126 : decode cX8_meet 126 = .ok (.aload_n 1, 1) := dk_43 (dk_at dksX8_meet_5 8 rfl rfl)
theorem dX8_meet_127 : decode cX8_meet 127 = .ok (.getfield 7, 3) := dk_180 0 7 (dk_at dksX8_meet_5 9 rfl rfl)
theorem dX8_meet_130 : decode cX8_meet 130 = .ok (.invokestatic 54, 3) := dk_184 0 54 (dk_at dksX8_meet_5 12 rfl rfl)
theorem dX8_meet_133 : decode cX8_meet 133 = .ok (.istore 7, 2) := dk_54 7 (dk_at dksX8_meet_5 15 rfl rfl)
theorem dX8_meet_135 : decode cX8_meet 135 = .ok (.iload 6, 2) := dk_21 6 (dk_at dksX8_meet_5 17 rfl rfl)
theorem dX8_meet_137 : decode cX8_meet 137 = .ok (.iload 7, 2) := dk_21 7 (dk_at dksX8_meet_5 19 rfl rfl)
theorem dX8_meet_139 : decode cX8_meet 139 = .ok (.if_icmp .ge 24, 3) := dk_162 0 24 (dk_at dksX8_meet_5 21 rfl rfl)
theorem dX8_meet_142 : decode cX8_meet 142 = .ok (.iload 6, 2) := dk_21 6 (dk_at dksX8_meet_6 0 rfl rfl)
theorem dX8_meet_144 : decode cX8_meet 144 = .ok (.iload 7, 2) := dk_21 7 (dk_at dksX8_meet_6 2 rfl rfl)
theorem dX8_meet_146 : decode cX8_meet 146 = .ok (.iload 6, 2) := dk_21 6 (dk_at dksX8_meet_6 4 rfl rfl)
theorem dX8_meet_148 : decode cX8_meet 148 = .ok (.isub, 1) := dk_100 (dk_at dksX8_meet_6 6 rfl rfl)
theorem dX8_meet_149 : decode cX8_meet 149 = .ok (.iload 5, 2) := dk_21 5 (dk_at dksX8_meet_6 7 rfl rfl)
theorem dX8_meet_151 : decode cX8_meet 151 = .ok (.iadd, 1) := dk_96 (dk_at dksX8_meet_6 9 rfl rfl)
theorem dX8_meet_152 : decode cX8_meet 152 = .ok (.iconst 1, 1) := dk_4 (dk_at dksX8_meet_6 10 rfl rfl)
theorem dX8_meet_153 : decode cX8_meet 153 = .ok (.isub, 1) := dk_100 (dk_at dksX8_meet_6 11 rfl rfl)
theorem dX8_meet_154 : decode cX8_meet 154 = .ok (.iload 5, 2) := dk_21 5 (dk_at dksX8_meet_6 12 rfl rfl)
theorem dX8_meet_156 : decode cX8_meet 156 = .ok (.idiv, 1) := dk_108 (dk_at dksX8_meet_6 14 rfl rfl)
theorem dX8_meet_157 : decode cX8_meet 157 = .ok (.iload 5, 2) := dk_21 5 (dk_at dksX8_meet_6 15 rfl rfl)
theorem dX8_meet_159 : decode cX8_meet 159 = .ok (.imul, 1) := dk_104 (dk_at dksX8_meet_6 17 rfl rfl)
theorem dX8_meet_160 : decode cX8_meet 160 = .ok (.iadd, 1) := dk_96 (dk_at dksX8_meet_6 18 rfl rfl)
theorem dX8_meet_161 : decode cX8_meet 161 = .ok (.istore 6, 2) := dk_54 6 (dk_at dksX8_meet_6 19 rfl rfl)
theorem dX8_meet_163 : decode cX8_meet 163 = .ok (.aload_n 0, 1) := dk_42 (dk_at dksX8_meet_6 21 rfl rfl)
theorem dX8_meet_164 : decode cX8_meet 164 = .ok (.invokevirtual 57, 3) := dk_182 0 57 (dk_at dksX8_meet_7 0 rfl rfl)
theorem dX8_meet_167 : decode cX8_meet 167 = .ok (.aload_n 1, 1) := dk_43 (dk_at dksX8_meet_7 3 rfl rfl)
theorem dX8_meet_168 : decode cX8_meet 168 = .ok (.invokevirtual 57, 3) := dk_182 0 57 (dk_at dksX8_meet_7 4 rfl rfl)
theorem dX8_meet_171 : decode cX8_meet 171 = .ok (.invokestatic 31, 3) := dk_184 0 31 (dk_at dksX8_meet_7 7 rfl rfl)
theorem dX8_meet_174 : decode cX8_meet 174 = .ok (.istore 8, 2) := dk_54 8 (dk_at dksX8_meet_7 10 rfl rfl)
theorem dX8_meet_176 : decode cX8_meet 176 = .ok (.new 8, 3) := dk_187 0 8 (dk_at dksX8_meet_7 12 rfl rfl)
theorem dX8_meet_179 : decode cX8_meet 179 = .ok (.dup, 1) := dk_89 (dk_at dksX8_meet_7 15 rfl rfl)
theorem dX8_meet_180 : decode cX8_meet 180 = .ok (.iload 6, 2) := dk_21 6 (dk_at dksX8_meet_7 16 rfl rfl)
theorem dX8_meet_182 : decode cX8_meet 182 = .ok (.iload 5, 2) := dk_21 5 (dk_at dksX8_meet_7 18 rfl rfl)
theorem dX8_meet_184 : decode cX8_meet 184 = .ok (.iload 6, 2) := dk_21 6 (dk_at dksX8_meet_7 20 rfl rfl)
theorem dX8_meet_186 : decode cX8_meet 186 = .ok (.iload 8, 2) := dk_21 8 (dk_at dksX8_meet_7 22 rfl rfl)
theorem dX8_meet_188 : decode cX8_meet 188 = .ok (.if_icmp .le 7, 3) := dk_164 0 7 (dk_at dksX8_meet_8 0 rfl rfl)
theorem dX8_meet_191 : decode cX8_meet 191 = .ok (.iconst 0, 1) := dk_3 (dk_at dksX8_meet_8 3 rfl rfl)
theorem dX8_meet_192 : decode cX8_meet 192 = .ok (.goto 13, 3) := dk_167 0 13 (dk_at dksX8_meet_8 4 rfl rfl)
theorem dX8_meet_195 : decode cX8_meet 195 = .ok (.iload 8, 2) := dk_21 8 (dk_at dksX8_meet_8 7 rfl rfl)
theorem dX8_meet_197 : decode cX8_meet 197 = .ok (.iload 6, 2) := dk_21 6 (dk_at dksX8_meet_8 9 rfl rfl)
theorem dX8_meet_199 : decode cX8_meet 199 = .ok (.isub, 1) := dk_100 (dk_at dksX8_meet_8 11 rfl rfl)
theorem dX8_meet_200 : decode cX8_meet 200 = .ok (.iload 5, 2) := dk_21 5 (dk_at dksX8_meet_8 12 rfl rfl)
theorem dX8_meet_202 : decode cX8_meet 202 = .ok (.idiv, 1) := dk_108 (dk_at dksX8_meet_8 14 rfl rfl)
theorem dX8_meet_203 : decode cX8_meet 203 = .ok (.iconst 1, 1) := dk_4 (dk_at dksX8_meet_8 15 rfl rfl)
theorem dX8_meet_204 : decode cX8_meet 204 = .ok (.iadd, 1) := dk_96 (dk_at dksX8_meet_8 16 rfl rfl)
theorem dX8_meet_205 : decode cX8_meet 205 = .ok (.invokespecial 43, 3) := dk_183 0 43 (dk_at dksX8_meet_8 17 rfl rfl)
theorem dX8_meet_208 : decode cX8_meet 208 = .ok (.areturn, 1) := dk_176 (dk_at dksX8_meet_8 20 rfl rfl)
abbrev cX8_last : ByteArray := prog_10_method_3_code
def yX8_last : MethodName := ⟨RX8, "last", "()I"⟩
def dkwX8_last_0 : List UInt8 := [42, 180, 0, 7, 42, 180, 0, 16, 4, 100, 42, 180, 0, 13, 104, 96, 172]
abbrev dktX8_last_0 : List UInt8 := dkwX8_last_0 ++ []
theorem dksX8_last_0 : cX8_last.data.toList.drop 0 = dktX8_last_0 := by decide +kernel
theorem dX8_last_0 : decode cX8_last 0 = .ok (.aload_n 0, 1) := dk_42 (dk_at dksX8_last_0 0 rfl rfl)
theorem dX8_last_1 : decode cX8_last 1 = .ok (.getfield 7, 3) := dk_180 0 7 (dk_at dksX8_last_0 1 rfl rfl)
theorem dX8_last_4 : decode cX8_last 4 = .ok (.aload_n 0, 1) := dk_42 (dk_at dksX8_last_0 4 rfl rfl)
theorem dX8_last_5 : decode cX8_last 5 = .ok (.getfield 16, 3) := dk_180 0 16 (dk_at dksX8_last_0 5 rfl rfl)
theorem dX8_last_8 : decode cX8_last 8 = .ok (.iconst 1, 1) := dk_4 (dk_at dksX8_last_0 8 rfl rfl)
theorem dX8_last_9 : decode cX8_last 9 = .ok (.isub, 1) := dk_100 (dk_at dksX8_last_0 9 rfl rfl)
theorem dX8_last_10 : decode cX8_last 10 = .ok (.aload_n 0, 1) := dk_42 (dk_at dksX8_last_0 10 rfl rfl)
theorem dX8_last_11 : decode cX8_last 11 = .ok (.getfield 13, 3) := dk_180 0 13 (dk_at dksX8_last_0 11 rfl rfl)
theorem dX8_last_14 : decode cX8_last 14 = .ok (.imul, 1) := dk_104 (dk_at dksX8_last_0 14 rfl rfl)
theorem dX8_last_15 : decode cX8_last 15 = .ok (.iadd, 1) := dk_96 (dk_at dksX8_last_0 15 rfl rfl)
theorem dX8_last_16 : decode cX8_last 16 = .ok (.ireturn, 1) := dk_172 (dk_at dksX8_last_0 16 rfl rfl)
theorem q179 : (Jvm.Cond.initialized "StrideTurns$Section") ∈ lw_all := lw_g (lw_at lw_m1 46 rfl) rfl
theorem q295 : (Jvm.Cond.selects "StrideTurns$Section" ({ cls := "java/lang/Object", name := "hashCode", desc := "()I" } : Jvm.MethodName) ({ cls := "StrideTurns$Section", name := "hashCode", desc := "()I" } : Jvm.MethodName)) ∈ lw_all := lw_g (lw_at lw_m1 162 rfl) rfl
theorem q296 : (Jvm.Cond.instanceMethod ({ cls := "StrideTurns$Section", name := "hashCode", desc := "()I" } : Jvm.MethodName)) ∈ lw_all := lw_g (lw_at lw_m1 163 rfl) rfl
theorem q297 : (Jvm.Cond.code ({ cls := "StrideTurns$Section", name := "hashCode", desc := "()I" } : Jvm.MethodName) prog_10_method_7_code (1 : Nat) (Option.some Jvm.ClassFile.FieldType.int)) ∈ lw_all := lw_g (lw_at lw_m1 164 rfl) rfl
theorem q491 : (Jvm.Cond.selects "StrideTurns$Section" ({ cls := "java/lang/Object", name := "getClass", desc := "()Ljava/lang/Class;" } : Jvm.MethodName) ({ cls := "java/lang/Object", name := "getClass", desc := "()Ljava/lang/Class;" } : Jvm.MethodName)) ∈ lw_all := lw_g (lw_at lw_m2 118 rfl) rfl
theorem q758 : (Jvm.Cond.selects "StrideTurns$Section" ({ cls := "java/lang/Object", name := "equals", desc := "(Ljava/lang/Object;)Z" } : Jvm.MethodName) ({ cls := "StrideTurns$Section", name := "equals", desc := "(Ljava/lang/Object;)Z" } : Jvm.MethodName)) ∈ lw_all := lw_g (lw_at lw_m3 145 rfl) rfl
theorem q759 : (Jvm.Cond.instanceMethod ({ cls := "StrideTurns$Section", name := "equals", desc := "(Ljava/lang/Object;)Z" } : Jvm.MethodName)) ∈ lw_all := lw_g (lw_at lw_m3 146 rfl) rfl
theorem q760 : (Jvm.Cond.code ({ cls := "StrideTurns$Section", name := "equals", desc := "(Ljava/lang/Object;)Z" } : Jvm.MethodName) prog_10_method_6_code (3 : Nat) (Option.some Jvm.ClassFile.FieldType.boolean)) ∈ lw_all := lw_g (lw_at lw_m3 147 rfl) rfl
theorem q761 : (Jvm.Cond.classLink "StrideTurns$Section" (8 : Nat) "StrideTurns$Section") ∈ lw_all := lw_g (lw_at lw_m3 148 rfl) rfl
theorem q1675 : (Jvm.Cond.fieldLinkNest "StrideTurns$Section" (36 : Nat) "StrideTurns$Reference" "step" "I" "StrideTurns") ∈ lw_tbl := lw_at lw_m7 102 rfl
theorem q1678 : (Jvm.Cond.fieldLinkNest "StrideTurns$Section" (19 : Nat) "StrideTurns$Reference" "where" "LStrideTurns$Where;" "StrideTurns") ∈ lw_tbl := lw_at lw_m7 105 rfl
theorem q1924 : (Jvm.Cond.static ({ cls := "StrideTurns$Section", name := "of", desc := "(LStrideTurns$Reference;II)LStrideTurns$Section;" } : Jvm.MethodName)) ∈ lw_all := lw_g (lw_at lw_m8 111 rfl) rfl
theorem q1925 : (Jvm.Cond.code ({ cls := "StrideTurns$Section", name := "of", desc := "(LStrideTurns$Reference;II)LStrideTurns$Section;" } : Jvm.MethodName) prog_10_method_2_code (5 : Nat) (Option.some (Jvm.ClassFile.FieldType.object "StrideTurns$Section"))) ∈ lw_all := lw_g (lw_at lw_m8 112 rfl) rfl
theorem q1926 : (Jvm.Cond.interfaceEntry "StrideTurns$Section" (25 : Nat)) ∈ lw_tbl := lw_at lw_m8 113 rfl
theorem q1927 : (Jvm.Cond.methodLink "StrideTurns$Section" (25 : Nat) ({ cls := "StrideTurns$Where", name := "at", desc := "(II)I" } : Jvm.MethodName)) ∈ lw_all := lw_g (lw_at lw_m8 114 rfl) rfl
theorem q1930 : (Jvm.Cond.instantiable "StrideTurns$Section" (3 : Nat)) ∈ lw_all := lw_g (lw_at lw_m8 117 rfl) rfl
theorem q1931 : (Jvm.Cond.methodLink "StrideTurns$Section" (31 : Nat) ({ cls := "java/lang/Math", name := "min", desc := "(II)I" } : Jvm.MethodName)) ∈ lw_all := lw_g (lw_at lw_m8 118 rfl) rfl
theorem q1932 : (Jvm.Cond.methodLink "StrideTurns$Section" (39 : Nat) ({ cls := "java/lang/Math", name := "abs", desc := "(I)I" } : Jvm.MethodName)) ∈ lw_all := lw_g (lw_at lw_m8 119 rfl) rfl
theorem q1935 : (Jvm.Cond.methodLink "StrideTurns$Section" (43 : Nat) ({ cls := "StrideTurns$Section", name := "<init>", desc := "(III)V" } : Jvm.MethodName)) ∈ lw_all := lw_g (lw_at lw_m8 122 rfl) rfl
theorem q1936 : (Jvm.Cond.instanceMethod ({ cls := "StrideTurns$Section", name := "<init>", desc := "(III)V" } : Jvm.MethodName)) ∈ lw_all := lw_g (lw_at lw_m8 123 rfl) rfl
theorem q1937 : (Jvm.Cond.code ({ cls := "StrideTurns$Section", name := "<init>", desc := "(III)V" } : Jvm.MethodName) prog_10_method_1_code (4 : Nat) (Option.none : Option Jvm.ClassFile.FieldType)) ∈ lw_all := lw_g (lw_at lw_m8 124 rfl) rfl
theorem q1938 : (Jvm.Cond.methodLink "StrideTurns$Section" (1 : Nat) ({ cls := "java/lang/Object", name := "<init>", desc := "()V" } : Jvm.MethodName)) ∈ lw_all := lw_g (lw_at lw_m8 125 rfl) rfl
theorem q1939 : (Jvm.Cond.fieldLink "StrideTurns$Section" (7 : Nat) "StrideTurns$Section" "first" "I") ∈ lw_all := lw_g (lw_at lw_m8 126 rfl) rfl
theorem q1941 : (Jvm.Cond.fieldLink "StrideTurns$Section" (13 : Nat) "StrideTurns$Section" "stride" "I") ∈ lw_all := lw_g (lw_at lw_m8 128 rfl) rfl
theorem q1943 : (Jvm.Cond.fieldLink "StrideTurns$Section" (16 : Nat) "StrideTurns$Section" "many" "I") ∈ lw_all := lw_g (lw_at lw_m8 130 rfl) rfl
theorem q1945 : (Jvm.Cond.laysFinal "StrideTurns$Section" "StrideTurns$Section" "first" "I") ∈ lw_all := lw_g (lw_at lw_m8 132 rfl) rfl
theorem q1946 : (Jvm.Cond.soleField "StrideTurns$Section" "first") ∈ lw_all := lw_g (lw_at lw_m8 133 rfl) rfl
theorem q1947 : (Jvm.Cond.laysFinal "StrideTurns$Section" "StrideTurns$Section" "stride" "I") ∈ lw_all := lw_g (lw_at lw_m8 134 rfl) rfl
theorem q1948 : (Jvm.Cond.soleField "StrideTurns$Section" "stride") ∈ lw_all := lw_g (lw_at lw_m8 135 rfl) rfl
theorem q1949 : (Jvm.Cond.laysFinal "StrideTurns$Section" "StrideTurns$Section" "many" "I") ∈ lw_all := lw_g (lw_at lw_m8 136 rfl) rfl
theorem q1950 : (Jvm.Cond.soleField "StrideTurns$Section" "many") ∈ lw_all := lw_g (lw_at lw_m8 137 rfl) rfl
theorem q1951 : (Jvm.Cond.superclass "StrideTurns$Section" "java/lang/Object") ∈ lw_all := lw_g (lw_at lw_m8 138 rfl) rfl
theorem q1953 : (Jvm.Cond.instanceMethod ({ cls := "StrideTurns$Section", name := "tells", desc := "(I)I" } : Jvm.MethodName)) ∈ lw_all := lw_g (lw_at lw_m8 140 rfl) rfl
theorem q1954 : (Jvm.Cond.selects "StrideTurns$Section" ({ cls := "StrideTurns$Section", name := "tells", desc := "(I)I" } : Jvm.MethodName) ({ cls := "StrideTurns$Section", name := "tells", desc := "(I)I" } : Jvm.MethodName)) ∈ lw_all := lw_g (lw_at lw_m8 141 rfl) rfl
theorem q1955 : (Jvm.Cond.code ({ cls := "StrideTurns$Section", name := "tells", desc := "(I)I" } : Jvm.MethodName) prog_10_method_5_code (2 : Nat) (Option.some Jvm.ClassFile.FieldType.int)) ∈ lw_all := lw_g (lw_at lw_m8 142 rfl) rfl
theorem q1961 : (Jvm.Cond.instanceMethod ({ cls := "StrideTurns$Section", name := "meet", desc := "(LStrideTurns$Section;)LStrideTurns$Section;" } : Jvm.MethodName)) ∈ lw_all := lw_g (lw_at lw_m8 148 rfl) rfl
theorem q1962 : (Jvm.Cond.selects "StrideTurns$Section" ({ cls := "StrideTurns$Section", name := "meet", desc := "(LStrideTurns$Section;)LStrideTurns$Section;" } : Jvm.MethodName) ({ cls := "StrideTurns$Section", name := "meet", desc := "(LStrideTurns$Section;)LStrideTurns$Section;" } : Jvm.MethodName)) ∈ lw_all := lw_g (lw_at lw_m8 149 rfl) rfl
theorem q1963 : (Jvm.Cond.code ({ cls := "StrideTurns$Section", name := "meet", desc := "(LStrideTurns$Section;)LStrideTurns$Section;" } : Jvm.MethodName) prog_10_method_4_code (9 : Nat) (Option.some (Jvm.ClassFile.FieldType.object "StrideTurns$Section"))) ∈ lw_all := lw_g (lw_at lw_m8 150 rfl) rfl
theorem q1964 : (Jvm.Cond.methodLinkNest "StrideTurns$Section" (46 : Nat) ({ cls := "StrideTurns", name := "divisor", desc := "(II)I" } : Jvm.MethodName) "StrideTurns") ∈ lw_tbl := lw_at lw_m8 151 rfl
theorem q1967 : (Jvm.Cond.methodLink "StrideTurns$Section" (51 : Nat) ({ cls := "java/lang/Math", name := "floorMod", desc := "(II)I" } : Jvm.MethodName)) ∈ lw_all := lw_g (lw_at lw_m8 154 rfl) rfl
theorem q1970 : (Jvm.Cond.methodLink "StrideTurns$Section" (54 : Nat) ({ cls := "java/lang/Math", name := "max", desc := "(II)I" } : Jvm.MethodName)) ∈ lw_all := lw_g (lw_at lw_m8 157 rfl) rfl
theorem q1971 : (Jvm.Cond.methodLink "StrideTurns$Section" (57 : Nat) ({ cls := "StrideTurns$Section", name := "last", desc := "()I" } : Jvm.MethodName)) ∈ lw_all := lw_g (lw_at lw_m8 158 rfl) rfl
theorem q1972 : (Jvm.Cond.instanceMethod ({ cls := "StrideTurns$Section", name := "last", desc := "()I" } : Jvm.MethodName)) ∈ lw_all := lw_g (lw_at lw_m8 159 rfl) rfl
theorem q1973 : (Jvm.Cond.selects "StrideTurns$Section" ({ cls := "StrideTurns$Section", name := "last", desc := "()I" } : Jvm.MethodName) ({ cls := "StrideTurns$Section", name := "last", desc := "()I" } : Jvm.MethodName)) ∈ lw_all := lw_g (lw_at lw_m8 160 rfl) rfl
theorem q1974 : (Jvm.Cond.code ({ cls := "StrideTurns$Section", name := "last", desc := "()I" } : Jvm.MethodName) prog_10_method_3_code (1 : Nat) (Option.some Jvm.ClassFile.FieldType.int)) ∈ lw_all := lw_g (lw_at lw_m8 161 rfl) rfl
theorem q3242 : (Jvm.Cond.castable "StrideTurns$Section" "java/lang/Object") ∈ lw_tbl := lw_at lw_m13 229 rfl
theorem in_X8 : ∀ w ∈ wsX80, w ∈ lw_all := lw_in wsX80 [1945, 1947, 1949] (by decide +kernel) (by decide +kernel)
