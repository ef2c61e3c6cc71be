/-! StrideTurns$Row -/
set_option maxRecDepth 100000
def RX4 : String := "StrideTurns$Row"
def TX4 : u_T := fun k => match k with
  | 0 => ("StrideTurns$Row", "cells", "Ljava/lang/Object;", true)
  | 1 => ("StrideTurns$Row", "form", "I", true)
  | 2 => ("StrideTurns$Row", "size", "I", true)
  | _ => ("StrideTurns$Row", "writers", "[I", true)
def tyX4 : Nat → FieldType := fun k => match k with
  | 0 => .object "java/lang/Object"
  | 1 => .int
  | 2 => .int
  | _ => .array .int
abbrev wsX40 : List Cond := u_ws RX4 TX4 4
theorem nmX4 : ∀ a, a < 4 → ∀ b, b < 4 → a ≠ b → (TX4 a).2.1 ≠ (TX4 b).2.1 := by decide +kernel
theorem tyX4_ok : ∀ k, k < 4 → parseFieldDescriptor (TX4 k).2.2.1 = some (tyX4 k) := by decide +kernel
abbrev cX4_init : ByteArray := prog_9_method_1_code
def yX4_init : MethodName := ⟨RX4, "<init>", "(II)V"⟩
def dkwX4_init_2 : List UInt8 := [167, 255, 241, 177]
abbrev dktX4_init_2 : List UInt8 := dkwX4_init_2 ++ []
def dkwX4_init_1 : List UInt8 := [28, 188, 10, 181, 0, 26, 3, 62, 29, 28, 162, 0, 16, 42, 180, 0, 26, 29, 2, 79, 132, 3, 1]
abbrev dktX4_init_1 : List UInt8 := dkwX4_init_1 ++ dktX4_init_2
def dkwX4_init_0 : List UInt8 := [42, 183, 0, 3, 42, 27, 181, 0, 9, 42, 27, 28, 184, 0, 15, 181, 0, 19, 42, 28, 181, 0, 23, 42]
abbrev dktX4_init_0 : List UInt8 := dkwX4_init_0 ++ dktX4_init_1
theorem dksX4_init_0 : cX4_init.data.toList.drop 0 = dktX4_init_0 := by decide +kernel
theorem dksX4_init_1 : cX4_init.data.toList.drop 24 = dktX4_init_1 := dk_seg dksX4_init_0 24 rfl rfl
theorem dksX4_init_2 : cX4_init.data.toList.drop 47 = dktX4_init_2 := dk_seg dksX4_init_1 23 rfl rfl
theorem dX4_init_0 : decode cX4_init 0 = .ok (.aload_n 0, 1) := dk_42 (dk_at dksX4_init_0 0 rfl rfl)
theorem dX4_init_1 : decode cX4_init 1 = .ok (.invokespecial 3, 3) := dk_183 0 3 (dk_at dksX4_init_0 1 rfl rfl)
theorem dX4_init_4 : decode cX4_init 4 = .ok (.aload_n 0, 1) := dk_42 (dk_at dksX4_init_0 4 rfl rfl)
theorem dX4_init_5 : decode cX4_init 5 = .ok (.iload_n 1, 1) := dk_27 (dk_at dksX4_init_0 5 rfl rfl)
theorem dX4_init_6 : decode cX4_init 6 = .ok (.putfield 9, 3) := dk_181 0 9 (dk_at dksX4_init_0 6 rfl rfl)
theorem dX4_init_9 : decode cX4_init 9 = .ok (.aload_n 0, 1) := dk_42 (dk_at dksX4_init_0 9 rfl rfl)
theorem dX4_init_10 : decode cX4_init 10 = .ok (.iload_n 1, 1) := dk_27 (dk_at dksX4_init_0 10 rfl rfl)
theorem dX4_init_11 : decode cX4_init 11 = .ok (.iload_n 2, 1) := dk_28 (dk_at dksX4_init_0 11 rfl rfl)
theorem dX4_init_12 : decode cX4_init 12 = .ok (.invokestatic 15, 3) := dk_184 0 15 (dk_at dksX4_init_0 12 rfl rfl)
theorem dX4_init_15 : decode cX4_init 15 = .ok (.putfield 19, 3) := dk_181 0 19 (dk_at dksX4_init_0 15 rfl rfl)
theorem dX4_init_18 : decode cX4_init 18 = .ok (.aload_n 0, 1) := dk_42 (dk_at dksX4_init_0 18 rfl rfl)
theorem dX4_init_19 : decode cX4_init 19 = .ok (.iload_n 2, 1) := dk_28 (dk_at dksX4_init_0 19 rfl rfl)
theorem dX4_init_20 : decode cX4_init 20 = .ok (.putfield 23, 3) := dk_181 0 23 (dk_at dksX4_init_0 20 rfl rfl)
theorem dX4_init_23 : decode cX4_init 23 = .ok (.aload_n 0, 1) := dk_42 (dk_at dksX4_init_0 23 rfl rfl)
theorem dX4_init_24 : decode cX4_init 24 = .ok (.iload_n 2, 1) := dk_28 (dk_at dksX4_init_1 0 rfl rfl)
theorem dX4_init_25 : decode cX4_init 25 = .ok (.newarray .int, 2) := dk_188_10 (dk_at dksX4_init_1 1 rfl rfl)
theorem dX4_init_27 : decode cX4_init 27 = .ok (.putfield 26, 3) := dk_181 0 26 (dk_at dksX4_init_1 3 rfl rfl)
theorem dX4_init_30 : decode cX4_init 30 = .ok (.iconst 0, 1) := dk_3 (dk_at dksX4_init_1 6 rfl rfl)
theorem dX4_init_31 : decode cX4_init 31 = .ok (.istore_n 3, 1) := dk_62 (dk_at dksX4_init_1 7 rfl rfl)
theorem dX4_init_32 : decode cX4_init 32 = .ok (.iload_n 3, 1) := dk_29 (dk_at dksX4_init_1 8 rfl rfl)
theorem dX4_init_33 : decode cX4_init 33 = .ok (.iload_n 2, 1) := dk_28 (dk_at dksX4_init_1 9 rfl rfl)
theorem dX4_init_34 : decode cX4_init 34 = .ok (.if_icmp .ge 16, 3) := dk_162 0 16 (dk_at dksX4_init_1 10 rfl rfl)
theorem dX4_init_37 : decode cX4_init 37 = .ok (.aload_n 0, 1) := dk_42 (dk_at dksX4_init_1 13 rfl rfl)
theorem dX4_init_38 : decode cX4_init 38 = .ok (.getfield 26, 3) := dk_180 0 26 (dk_at dksX4_init_1 14 rfl rfl)
theorem dX4_init_41 : decode cX4_init 41 = .ok (.iload_n 3, 1) := dk_29 (dk_at dksX4_init_1 17 rfl rfl)
theorem dX4_init_42 : decode cX4_init 42 = .ok (.iconst (-1), 1) := dk_2 (dk_at dksX4_init_1 18 rfl rfl)
theorem dX4_init_43 : decode cX4_init 43 = .ok (.iastore, 1) := dk_79 (dk_at dksX4_init_1 19 rfl rfl)
theorem dX4_init_44 : decode cX4_init 44 = .ok (.iinc 3 1, 3) := dk_132 3 1 (dk_at dksX4_init_1 20 rfl rfl)
theorem dX4_init_47 : decode cX4_init 47 = .ok (.goto (-15), 3) := dk_167 255 241 (dk_at dksX4_init_2 0 rfl rfl)
theorem dX4_init_50 : decode cX4_init 50 = .ok (.return_, 1) := dk_177 (dk_at dksX4_init_2 3 rfl rfl)
abbrev cX4_made : ByteArray := prog_9_method_2_code
def yX4_made : MethodName := ⟨RX4, "made", "(II)Ljava/lang/Object;"⟩
def dkwX4_made_2 : List UInt8 := [27, 188, 9, 176, 27, 188, 10, 176, 27, 188, 6, 176, 27, 188, 7, 176, 27, 188, 4, 176]
abbrev dktX4_made_2 : List UInt8 := dkwX4_made_2 ++ []
def dkwX4_made_1 : List UInt8 := [170, 0, 0, 0, 0, 0, 47, 0, 0, 0, 0, 0, 0, 0, 3, 0, 0, 0, 31, 0, 0, 0, 35, 0, 0, 0, 39, 0, 0, 0, 43]
abbrev dktX4_made_1 : List UInt8 := dkwX4_made_1 ++ dktX4_made_2
def dkwX4_made_0 : List UInt8 := [26]
abbrev dktX4_made_0 : List UInt8 := dkwX4_made_0 ++ dktX4_made_1
theorem dksX4_made_0 : cX4_made.data.toList.drop 0 = dktX4_made_0 := by decide +kernel
theorem dksX4_made_1 : cX4_made.data.toList.drop 1 = dktX4_made_1 := dk_seg dksX4_made_0 1 rfl rfl
theorem dksX4_made_2 : cX4_made.data.toList.drop 32 = dktX4_made_2 := dk_seg dksX4_made_1 31 rfl rfl
theorem dX4_made_0 : decode cX4_made 0 = .ok (.iload_n 0, 1) := dk_26 (dk_at dksX4_made_0 0 rfl rfl)
theorem dX4_made_1 : decode cX4_made 1 = .ok (.tableswitch 47 0 3 #[31, 35, 39, 43], 31) := by decide +kernel
theorem dX4_made_32 : decode cX4_made 32 = .ok (.iload_n 1, 1) := dk_27 (dk_at dksX4_made_2 0 rfl rfl)
theorem dX4_made_33 : decode cX4_made 33 = .ok (.newarray .short, 2) := dk_188_9 (dk_at dksX4_made_2 1 rfl rfl)
theorem dX4_made_35 : decode cX4_made 35 = .ok (.areturn, 1) := dk_176 (dk_at dksX4_made_2 3 rfl rfl)
theorem dX4_made_36 : decode cX4_made 36 = .ok (.iload_n 1, 1) := dk_27 (dk_at dksX4_made_2 4 rfl rfl)
theorem dX4_made_37 : decode cX4_made 37 = .ok (.newarray .int, 2) := dk_188_10 (dk_at dksX4_made_2 5 rfl rfl)
theorem dX4_made_39 : decode cX4_made 39 = .ok (.areturn, 1) := dk_176 (dk_at dksX4_made_2 7 rfl rfl)
theorem dX4_made_40 : decode cX4_made 40 = .ok (.iload_n 1, 1) := dk_27 (dk_at dksX4_made_2 8 rfl rfl)
theorem dX4_made_41 : decode cX4_made 41 = .ok (.newarray .float, 2) := dk_188_6 (dk_at dksX4_made_2 9 rfl rfl)
theorem dX4_made_43 : decode cX4_made 43 = .ok (.areturn, 1) := dk_176 (dk_at dksX4_made_2 11 rfl rfl)
theorem dX4_made_44 : decode cX4_made 44 = .ok (.iload_n 1, 1) := dk_27 (dk_at dksX4_made_2 12 rfl rfl)
theorem dX4_made_45 : decode cX4_made 45 = .ok (.newarray .double, 2) := dk_188_7 (dk_at dksX4_made_2 13 rfl rfl)
theorem dX4_made_47 : decode cX4_made 47 = .ok (.areturn, 1) := dk_176 (dk_at dksX4_made_2 15 rfl rfl)
theorem dX4_made_48 : decode cX4_made 48 = .ok (.iload_n 1, 1) := dk_27 (dk_at dksX4_made_2 16 rfl rfl)
theorem dX4_made_49 : decode cX4_made 49 = .ok (.newarray .boolean, 2) := dk_188_4 (dk_at dksX4_made_2 17 rfl rfl)
theorem dX4_made_51 : decode cX4_made 51 = .ok (.areturn, 1) := dk_176 (dk_at dksX4_made_2 19 rfl rfl)
abbrev cX4_lays : ByteArray := prog_9_method_5_code
def yX4_lays : MethodName := ⟨RX4, "lays", "(III)V"⟩
def dkwX4_lays_5 : List UInt8 := [126, 4, 160, 0, 7, 4, 167, 0, 4, 3, 84, 177]
abbrev dktX4_lays_5 : List UInt8 := dkwX4_lays_5 ++ []
def dkwX4_lays_4 : List UInt8 := [192, 0, 40, 28, 29, 135, 20, 0, 42, 111, 82, 167, 0, 24, 42, 180, 0, 19, 192, 0, 44, 28, 29, 4]
abbrev dktX4_lays_4 : List UInt8 := dkwX4_lays_4 ++ dktX4_lays_5
def dkwX4_lays_3 : List UInt8 := [167, 0, 59, 42, 180, 0, 19, 192, 0, 37, 28, 29, 134, 18, 39, 110, 81, 167, 0, 42, 42, 180, 0, 19]
abbrev dktX4_lays_3 : List UInt8 := dkwX4_lays_3 ++ dktX4_lays_4
def dkwX4_lays_2 : List UInt8 := [42, 180, 0, 19, 192, 0, 34, 28, 29, 147, 86, 167, 0, 72, 42, 180, 0, 19, 192, 0, 36, 28, 29, 79]
abbrev dktX4_lays_2 : List UInt8 := dkwX4_lays_2 ++ dktX4_lays_3
def dkwX4_lays_1 : List UInt8 := [170, 0, 0, 0, 0, 0, 93, 0, 0, 0, 0, 0, 0, 0, 3, 0, 0, 0, 31, 0, 0, 0, 45, 0, 0, 0, 58, 0, 0, 0, 75]
abbrev dktX4_lays_1 : List UInt8 := dkwX4_lays_1 ++ dktX4_lays_2
def dkwX4_lays_0 : List UInt8 := [27]
abbrev dktX4_lays_0 : List UInt8 := dkwX4_lays_0 ++ dktX4_lays_1
theorem dksX4_lays_0 : cX4_lays.data.toList.drop 0 = dktX4_lays_0 := by decide +kernel
theorem dksX4_lays_1 : cX4_lays.data.toList.drop 1 = dktX4_lays_1 := dk_seg dksX4_lays_0 1 rfl rfl
theorem dksX4_lays_2 : cX4_lays.data.toList.drop 32 = dktX4_lays_2 := dk_seg dksX4_lays_1 31 rfl rfl
theorem dksX4_lays_3 : cX4_lays.data.toList.drop 56 = dktX4_lays_3 := dk_seg dksX4_lays_2 24 rfl rfl
theorem dksX4_lays_4 : cX4_lays.data.toList.drop 80 = dktX4_lays_4 := dk_seg dksX4_lays_3 24 rfl rfl
theorem dksX4_lays_5 : cX4_lays.data.toList.drop 104 = dktX4_lays_5 := dk_seg dksX4_lays_4 24 rfl rfl
theorem dX4_lays_0 : decode cX4_lays 0 = .ok (.iload_n 1, 1) := dk_27 (dk_at dksX4_lays_0 0 rfl rfl)
theorem dX4_lays_1 : decode cX4_lays 1 = .ok (.tableswitch 93 0 3 #[31, 45, 58, 75], 31) := by decide +kernel
theorem dX4_lays_32 : decode cX4_lays 32 = .ok (.aload_n 0, 1) := dk_42 (dk_at dksX4_lays_2 0 rfl rfl)
theorem dX4_lays_33 : decode cX4_lays 33 = .ok (.getfield 19, 3) := dk_180 0 19 (dk_at dksX4_lays_2 1 rfl rfl)
theorem dX4_lays_36 : decode cX4_lays 36 = .ok (.checkcast 34, 3) := dk_192 0 34 (dk_at dksX4_lays_2 4 rfl rfl)
theorem dX4_lays_39 : decode cX4_lays 39 = .ok (.iload_n 2, 1) := dk_28 (dk_at dksX4_lays_2 7 rfl rfl)
theorem dX4_lays_40 : decode cX4_lays 40 = .ok (.iload_n 3, 1) := dk_29 (dk_at dksX4_lays_2 8 rfl rfl)
theorem dX4_lays_41 : decode cX4_lays 41 = .ok (.i2s, 1) := dk_147 (dk_at dksX4_lays_2 9 rfl rfl)
theorem dX4_lays_42 : decode cX4_lays 42 = .ok (.sastore, 1) := dk_86 (dk_at dksX4_lays_2 10 rfl rfl)
theorem dX4_lays_43 : decode cX4_lays 43 = .ok (.goto 72, 3) := dk_167 0 72 (dk_at dksX4_lays_2 11 rfl rfl)
theorem dX4_lays_46 : decode cX4_lays 46 = .ok (.aload_n 0, 1) := dk_42 (dk_at dksX4_lays_2 14 rfl rfl)
theorem dX4_lays_47 : decode cX4_lays 47 = .ok (.getfield 19, 3) := dk_180 0 19 (dk_at dksX4_lays_2 15 rfl rfl)
theorem dX4_lays_50 : decode cX4_lays 50 = .ok (.checkcast 36, 3) := dk_192 0 36 (dk_at dksX4_lays_2 18 rfl rfl)
theorem dX4_lays_53 : decode cX4_lays 53 = .ok (.iload_n 2, 1) := dk_28 (dk_at dksX4_lays_2 21 rfl rfl)
theorem dX4_lays_54 : decode cX4_lays 54 = .ok (.iload_n 3, 1) := dk_29 (dk_at dksX4_lays_2 22 rfl rfl)
theorem dX4_lays_55 : decode cX4_lays 55 = .ok (.iastore, 1) := dk_79 (dk_at dksX4_lays_2 23 rfl rfl)
theorem dX4_lays_56 : decode cX4_lays 56 = .ok (.goto 59, 3) := dk_167 0 59 (dk_at dksX4_lays_3 0 rfl rfl)
theorem dX4_lays_59 : decode cX4_lays 59 = .ok (.aload_n 0, 1) := dk_42 (dk_at dksX4_lays_3 3 rfl rfl)
theorem dX4_lays_60 : decode cX4_lays 60 = .ok (.getfield 19, 3) := dk_180 0 19 (dk_at dksX4_lays_3 4 rfl rfl)
theorem dX4_lays_63 : decode cX4_lays 63 = .ok (.checkcast 37, 3) := dk_192 0 37 (dk_at dksX4_lays_3 7 rfl rfl)
theorem dX4_lays_66 : decode cX4_lays 66 = .ok (.iload_n 2, 1) := dk_28 (dk_at dksX4_lays_3 10 rfl rfl)
theorem dX4_lays_67 : decode cX4_lays 67 = .ok (.iload_n 3, 1) := dk_29 (dk_at dksX4_lays_3 11 rfl rfl)
theorem dX4_lays_68 : decode cX4_lays 68 = .ok (.i2f, 1) := dk_134 (dk_at dksX4_lays_3 12 rfl rfl)
theorem dX4_lays_69 : decode cX4_lays 69 = .ok (.ldc 39, 2) := dk_18 39 (dk_at dksX4_lays_3 13 rfl rfl)
theorem dX4_lays_71 : decode cX4_lays 71 = .ok (.fdiv, 1) := dk_110 (dk_at dksX4_lays_3 15 rfl rfl)
theorem dX4_lays_72 : decode cX4_lays 72 = .ok (.fastore, 1) := dk_81 (dk_at dksX4_lays_3 16 rfl rfl)
theorem dX4_lays_73 : decode cX4_lays 73 = .ok (.goto 42, 3) := dk_167 0 42 (dk_at dksX4_lays_3 17 rfl rfl)
theorem dX4_lays_76 : decode cX4_lays 76 = .ok (.aload_n 0, 1) := dk_42 (dk_at dksX4_lays_3 20 rfl rfl)
theorem dX4_lays_77 : decode cX4_lays 77 = .ok (.getfield 19, 3) := dk_180 0 19 (dk_at dksX4_lays_3 21 rfl rfl)
theorem dX4_lays_80 : decode cX4_lays 80 = .ok (.checkcast 40, 3) := dk_192 0 40 (dk_at dksX4_lays_4 0 rfl rfl)
theorem dX4_lays_83 : decode cX4_lays 83 = .ok (.iload_n 2, 1) := dk_28 (dk_at dksX4_lays_4 3 rfl rfl)
theorem dX4_lays_84 : decode cX4_lays 84 = .ok (.iload_n 3, 1) := dk_29 (dk_at dksX4_lays_4 4 rfl rfl)
theorem dX4_lays_85 : decode cX4_lays 85 = .ok (.i2d, 1) := dk_135 (dk_at dksX4_lays_4 5 rfl rfl)
theorem dX4_lays_86 : decode cX4_lays 86 = .ok (.ldc2_w 42, 3) := dk_20 0 42 (dk_at dksX4_lays_4 6 rfl rfl)
theorem dX4_lays_89 : decode cX4_lays 89 = .ok (.ddiv, 1) := dk_111 (dk_at dksX4_lays_4 9 rfl rfl)
theorem dX4_lays_90 : decode cX4_lays 90 = .ok (.dastore, 1) := dk_82 (dk_at dksX4_lays_4 10 rfl rfl)
theorem dX4_lays_91 : decode cX4_lays 91 = .ok (.goto 24, 3) := dk_167 0 24 (dk_at dksX4_lays_4 11 rfl rfl)
theorem dX4_lays_94 : decode cX4_lays 94 = .ok (.aload_n 0, 1) := dk_42 (dk_at dksX4_lays_4 14 rfl rfl)
theorem dX4_lays_95 : decode cX4_lays 95 = .ok (.getfield 19, 3) := dk_180 0 19 (dk_at dksX4_lays_4 15 rfl rfl)
theorem dX4_lays_98 : decode cX4_lays 98 = .ok (.checkcast 44, 3) := dk_192 0 44 (dk_at dksX4_lays_4 18 rfl rfl)
theorem dX4_lays_101 : decode cX4_lays 101 = .ok (.iload_n 2, 1) := dk_28 (dk_at dksX4_lays_4 21 rfl rfl)
theorem dX4_lays_102 : decode cX4_lays 102 = .ok (.iload_n 3, 1) := dk_29 (dk_at dksX4_lays_4 22 rfl rfl)
theorem dX4_lays_103 : decode cX4_lays 103 = .ok (.iconst 1, 1) := dk_4 (dk_at dksX4_lays_4 23 rfl rfl)
theorem dX4_lays_104 : decode cX4_lays 104 = .ok (.iand, 1) := dk_126 (dk_at dksX4_lays_5 0 rfl rfl)
theorem dX4_lays_105 : decode cX4_lays 105 = .ok (.iconst 1, 1) := dk_4 (dk_at dksX4_lays_5 1 rfl rfl)
theorem dX4_lays_106 : decode cX4_lays 106 = .ok (.if_icmp .ne 7, 3) := dk_160 0 7 (dk_at dksX4_lays_5 2 rfl rfl)
theorem dX4_lays_109 : decode cX4_lays 109 = .ok (.iconst 1, 1) := dk_4 (dk_at dksX4_lays_5 5 rfl rfl)
theorem dX4_lays_110 : decode cX4_lays 110 = .ok (.goto 4, 3) := dk_167 0 4 (dk_at dksX4_lays_5 6 rfl rfl)
theorem dX4_lays_113 : decode cX4_lays 113 = .ok (.iconst 0, 1) := dk_3 (dk_at dksX4_lays_5 9 rfl rfl)
theorem dX4_lays_114 : decode cX4_lays 114 = .ok (.bastore, 1) := dk_84 (dk_at dksX4_lays_5 10 rfl rfl)
theorem dX4_lays_115 : decode cX4_lays 115 = .ok (.return_, 1) := dk_177 (dk_at dksX4_lays_5 11 rfl rfl)
abbrev cX4_tells : ByteArray := prog_9_method_6_code
def yX4_tells : MethodName := ⟨RX4, "tells", "(I)J"⟩
def dkwX4_tells_4 : List UInt8 := [184, 0, 52, 173, 42, 180, 0, 19, 192, 0, 44, 27, 51, 153, 0, 7, 10, 167, 0, 4, 9, 173]
abbrev dktX4_tells_4 : List UInt8 := dkwX4_tells_4 ++ []
def dkwX4_tells_3 : List UInt8 := [180, 0, 19, 192, 0, 37, 27, 48, 184, 0, 46, 133, 173, 42, 180, 0, 19, 192, 0, 40, 27, 49]
abbrev dktX4_tells_3 : List UInt8 := dkwX4_tells_3 ++ dktX4_tells_4
def dkwX4_tells_2 : List UInt8 := [42, 180, 0, 19, 192, 0, 34, 27, 53, 133, 173, 42, 180, 0, 19, 192, 0, 36, 27, 46, 133, 173, 42]
abbrev dktX4_tells_2 : List UInt8 := dkwX4_tells_2 ++ dktX4_tells_3
def dkwX4_tells_1 : List UInt8 := [170, 0, 0, 0, 0, 0, 0, 81, 0, 0, 0, 0, 0, 0, 0, 3, 0, 0, 0, 32, 0, 0, 0, 43, 0, 0, 0, 54, 0, 0, 0, 68]
abbrev dktX4_tells_1 : List UInt8 := dkwX4_tells_1 ++ dktX4_tells_2
def dkwX4_tells_0 : List UInt8 := [42, 180, 0, 9]
abbrev dktX4_tells_0 : List UInt8 := dkwX4_tells_0 ++ dktX4_tells_1
theorem dksX4_tells_0 : cX4_tells.data.toList.drop 0 = dktX4_tells_0 := by decide +kernel
theorem dksX4_tells_1 : cX4_tells.data.toList.drop 4 = dktX4_tells_1 := dk_seg dksX4_tells_0 4 rfl rfl
theorem dksX4_tells_2 : cX4_tells.data.toList.drop 36 = dktX4_tells_2 := dk_seg dksX4_tells_1 32 rfl rfl
theorem dksX4_tells_3 : cX4_tells.data.toList.drop 59 = dktX4_tells_3 := dk_seg dksX4_tells_2 23 rfl rfl
theorem dksX4_tells_4 : cX4_tells.data.toList.drop 81 = dktX4_tells_4 := dk_seg dksX4_tells_3 22 rfl rfl
theorem dX4_tells_0 : decode cX4_tells 0 = .ok (.aload_n 0, 1) := dk_42 (dk_at dksX4_tells_0 0 rfl rfl)
theorem dX4_tells_1 : decode cX4_tells 1 = .ok (.getfield 9, 3) := dk_180 0 9 (dk_at dksX4_tells_0 1 rfl rfl)
theorem dX4_tells_4 : decode cX4_tells 4 = .ok (.tableswitch 81 0 3 #[32, 43, 54, 68], 32) := by decide +kernel
theorem dX4_tells_36 : decode cX4_tells 36 = .ok (.aload_n 0, 1) := dk_42 (dk_at dksX4_tells_2 0 rfl rfl)
theorem dX4_tells_37 : decode cX4_tells 37 = .ok (.getfield 19, 3) := dk_180 0 19 (dk_at dksX4_tells_2 1 rfl rfl)
theorem dX4_tells_40 : decode cX4_tells 40 = .ok (.checkcast 34, 3) := dk_192 0 34 (dk_at dksX4_tells_2 4 rfl rfl)
theorem dX4_tells_43 : decode cX4_tells 43 = .ok (.iload_n 1, 1) := dk_27 (dk_at dksX4_tells_2 7 rfl rfl)
theorem dX4_tells_44 : decode cX4_tells 44 = .ok (.saload, 1) := dk_53 (dk_at dksX4_tells_2 8 rfl rfl)
theorem dX4_tells_45 : decode cX4_tells 45 = .ok (.i2l, 1) := dk_133 (dk_at dksX4_tells_2 9 rfl rfl)
theorem dX4_tells_46 : decode cX4_tells 46 = .ok (.lreturn, 1) := dk_173 (dk_at dksX4_tells_2 10 rfl rfl)
theorem dX4_tells_47 : decode cX4_tells 47 = .ok (.aload_n 0, 1) := dk_42 (dk_at dksX4_tells_2 11 rfl rfl)
theorem dX4_tells_48 : decode cX4_tells 48 = .ok (.getfield 19, 3) := dk_180 0 19 (dk_at dksX4_tells_2 12 rfl rfl)
theorem dX4_tells_51 : decode cX4_tells 51 = .ok (.checkcast 36, 3) := dk_192 0 36 (dk_at dksX4_tells_2 15 rfl rfl)
theorem dX4_tells_54 : decode cX4_tells 54 = .ok (.iload_n 1, 1) := dk_27 (dk_at dksX4_tells_2 18 rfl rfl)
theorem dX4_tells_55 : decode cX4_tells 55 = .ok (.iaload, 1) := dk_46 (dk_at dksX4_tells_2 19 rfl rfl)
theorem dX4_tells_56 : decode cX4_tells 56 = .ok (.i2l, 1) := dk_133 (dk_at dksX4_tells_2 20 rfl rfl)
theorem dX4_tells_57 : decode cX4_tells 57 = .ok (.lreturn, 1) := dk_173 (dk_at dksX4_tells_2 21 rfl rfl)
theorem dX4_tells_58 : decode cX4_tells 58 = .ok (.aload_n 0, 1) := dk_42 (dk_at dksX4_tells_2 22 rfl rfl)
theorem dX4_tells_59 : decode cX4_tells 59 = .ok (.getfield 19, 3) := dk_180 0 19 (dk_at dksX4_tells_3 0 rfl rfl)
theorem dX4_tells_62 : decode cX4_tells 62 = .ok (.checkcast 37, 3) := dk_192 0 37 (dk_at dksX4_tells_3 3 rfl rfl)
theorem dX4_tells_65 : decode cX4_tells 65 = .ok (.iload_n 1, 1) := dk_27 (dk_at dksX4_tells_3 6 rfl rfl)
theorem dX4_tells_66 : decode cX4_tells 66 = .ok (.faload, 1) := dk_48 (dk_at dksX4_tells_3 7 rfl rfl)
theorem dX4_tells_67 : decode cX4_tells 67 = .ok (.invokestatic 46, 3) := dk_184 0 46 (dk_at dksX4_tells_3 8 rfl rfl)
theorem dX4_tells_70 : decode cX4_tells 70 = .ok (.i2l, 1) := dk_133 (dk_at dksX4_tells_3 11 rfl rfl)
theorem dX4_tells_71 : decode cX4_tells 71 = .ok (.lreturn, 1) := dk_173 (dk_at dksX4_tells_3 12 rfl rfl)
theorem dX4_tells_72 : decode cX4_tells 72 = .ok (.aload_n 0, 1) := dk_42 (dk_at dksX4_tells_3 13 rfl rfl)
theorem dX4_tells_73 : decode cX4_tells 73 = .ok (.getfield 19, 3) := dk_180 0 19 (dk_at dksX4_tells_3 14 rfl rfl)
theorem dX4_tells_76 : decode cX4_tells 76 = .ok (.checkcast 40, 3) := dk_192 0 40 (dk_at dksX4_tells_3 17 rfl rfl)
theorem dX4_tells_79 : decode cX4_tells 79 = .ok (.iload_n 1, 1) := dk_27 (dk_at dksX4_tells_3 20 rfl rfl)
theorem dX4_tells_80 : decode cX4_tells 80 = .ok (.daload, 1) := dk_49 (dk_at dksX4_tells_3 21 rfl rfl)
theorem dX4_tells_81 : decode cX4_tells 81 = .ok (.invokestatic 52, 3) := dk_184 0 52 (dk_at dksX4_tells_4 0 rfl rfl)
theorem dX4_tells_84 : decode cX4_tells 84 = .ok (.lreturn, 1) := dk_173 (dk_at dksX4_tells_4 3 rfl rfl)
theorem dX4_tells_85 : decode cX4_tells 85 = .ok (.aload_n 0, 1) := dk_42 (dk_at dksX4_tells_4 4 rfl rfl)
theorem dX4_tells_86 : decode cX4_tells 86 = .ok (.getfield 19, 3) := dk_180 0 19 (dk_at dksX4_tells_4 5 rfl rfl)
theorem dX4_tells_89 : decode cX4_tells 89 = .ok (.checkcast 44, 3) := dk_192 0 44 (dk_at dksX4_tells_4 8 rfl rfl)
theorem dX4_tells_92 : decode cX4_tells 92 = .ok (.iload_n 1, 1) := dk_27 (dk_at dksX4_tells_4 11 rfl rfl)
theorem dX4_tells_93 : decode cX4_tells 93 = .ok (.baload, 1) := dk_51 (dk_at dksX4_tells_4 12 rfl rfl)
theorem dX4_tells_94 : decode cX4_tells 94 = .ok (.ifCond .eq 7, 3) := dk_153 0 7 (dk_at dksX4_tells_4 13 rfl rfl)
theorem dX4_tells_97 : decode cX4_tells 97 = .ok (.lconst 1, 1) := dk_10 (dk_at dksX4_tells_4 16 rfl rfl)
theorem dX4_tells_98 : decode cX4_tells 98 = .ok (.goto 4, 3) := dk_167 0 4 (dk_at dksX4_tells_4 17 rfl rfl)
theorem dX4_tells_101 : decode cX4_tells 101 = .ok (.lconst 0, 1) := dk_9 (dk_at dksX4_tells_4 20 rfl rfl)
theorem dX4_tells_102 : decode cX4_tells 102 = .ok (.lreturn, 1) := dk_173 (dk_at dksX4_tells_4 21 rfl rfl)
abbrev cX4_isNumbers : ByteArray := prog_9_method_3_code
def yX4_isNumbers : MethodName := ⟨RX4, "isNumbers", "()Z"⟩
def dkwX4_isNumbers_0 : List UInt8 := [42, 180, 0, 9, 7, 159, 0, 7, 4, 167, 0, 4, 3, 172]
abbrev dktX4_isNumbers_0 : List UInt8 := dkwX4_isNumbers_0 ++ []
theorem dksX4_isNumbers_0 : cX4_isNumbers.data.toList.drop 0 = dktX4_isNumbers_0 := by decide +kernel
theorem dX4_isNumbers_0 : decode cX4_isNumbers 0 = .ok (.aload_n 0, 1) := dk_42 (dk_at dksX4_isNumbers_0 0 rfl rfl)
theorem dX4_isNumbers_1 : decode cX4_isNumbers 1 = .ok (.getfield 9, 3) := dk_180 0 9 (dk_at dksX4_isNumbers_0 1 rfl rfl)
theorem dX4_isNumbers_4 : decode cX4_isNumbers 4 = .ok (.iconst 4, 1) := dk_7 (dk_at dksX4_isNumbers_0 4 rfl rfl)
theorem dX4_isNumbers_5 : decode cX4_isNumbers 5 = .ok (.if_icmp .eq 7, 3) := dk_159 0 7 (dk_at dksX4_isNumbers_0 5 rfl rfl)
theorem dX4_isNumbers_8 : decode cX4_isNumbers 8 = .ok (.iconst 1, 1) := dk_4 (dk_at dksX4_isNumbers_0 8 rfl rfl)
theorem dX4_isNumbers_9 : decode cX4_isNumbers 9 = .ok (.goto 4, 3) := dk_167 0 4 (dk_at dksX4_isNumbers_0 9 rfl rfl)
theorem dX4_isNumbers_12 : decode cX4_isNumbers 12 = .ok (.iconst 0, 1) := dk_3 (dk_at dksX4_isNumbers_0 12 rfl rfl)
theorem dX4_isNumbers_13 : decode cX4_isNumbers 13 = .ok (.ireturn, 1) := dk_172 (dk_at dksX4_isNumbers_0 13 rfl rfl)
abbrev cX4_isTrue : ByteArray := prog_9_method_7_code
def yX4_isTrue : MethodName := ⟨RX4, "isTrue", "(I)Z"⟩
def dkwX4_isTrue_1 : List UInt8 := [51, 153, 0, 7, 4, 167, 0, 4, 3, 172]
abbrev dktX4_isTrue_1 : List UInt8 := dkwX4_isTrue_1 ++ []
def dkwX4_isTrue_0 : List UInt8 := [42, 180, 0, 9, 7, 160, 0, 27, 42, 27, 182, 0, 58, 153, 0, 19, 42, 180, 0, 19, 192, 0, 44, 27]
abbrev dktX4_isTrue_0 : List UInt8 := dkwX4_isTrue_0 ++ dktX4_isTrue_1
theorem dksX4_isTrue_0 : cX4_isTrue.data.toList.drop 0 = dktX4_isTrue_0 := by decide +kernel
theorem dksX4_isTrue_1 : cX4_isTrue.data.toList.drop 24 = dktX4_isTrue_1 := dk_seg dksX4_isTrue_0 24 rfl rfl
theorem dX4_isTrue_0 : decode cX4_isTrue 0 = .ok (.aload_n 0, 1) := dk_42 (dk_at dksX4_isTrue_0 0 rfl rfl)
theorem dX4_isTrue_1 : decode cX4_isTrue 1 = .ok (.getfield 9, 3) := dk_180 0 9 (dk_at dksX4_isTrue_0 1 rfl rfl)
theorem dX4_isTrue_4 : decode cX4_isTrue 4 = .ok (.iconst 4, 1) := dk_7 (dk_at dksX4_isTrue_0 4 rfl rfl)
theorem dX4_isTrue_5 : decode cX4_isTrue 5 = .ok (.if_icmp .ne 27, 3) := dk_160 0 27 (dk_at dksX4_isTrue_0 5 rfl rfl)
theorem dX4_isTrue_8 : decode cX4_isTrue 8 = .ok (.aload_n 0, 1) := dk_42 (dk_at dksX4_isTrue_0 8 rfl rfl)
theorem dX4_isTrue_9 : decode cX4_isTrue 9 = .ok (.iload_n 1, 1) := dk_27 (dk_at dksX4_isTrue_0 9 rfl rfl)
theorem dX4_isTrue_10 : decode cX4_isTrue 10 = .ok (.invokevirtual 58, 3) := dk_182 0 58 (dk_at dksX4_isTrue_0 10 rfl rfl)
theorem dX4_isTrue_13 : decode cX4_isTrue 13 = .ok (.ifCond .eq 19, 3) := dk_153 0 19 (dk_at dksX4_isTrue_0 13 rfl rfl)
theorem dX4_isTrue_16 : decode cX4_isTrue 16 = .ok (.aload_n 0, 1) := dk_42 (dk_at dksX4_isTrue_0 16 rfl rfl)
theorem dX4_isTrue_17 : decode cX4_isTrue 17 = .ok (.getfield 19, 3) := dk_180 0 19 (dk_at dksX4_isTrue_0 17 rfl rfl)
theorem dX4_isTrue_20 : decode cX4_isTrue 20 = .ok (.checkcast 44, 3) := dk_192 0 44 (dk_at dksX4_isTrue_0 20 rfl rfl)
theorem dX4_isTrue_23 : decode cX4_isTrue 23 = .ok (.iload_n 1, 1) := dk_27 (dk_at dksX4_isTrue_0 23 rfl rfl)
theorem dX4_isTrue_24 : decode cX4_isTrue 24 = .ok (.baload, 1) := dk_51 (dk_at dksX4_isTrue_1 0 rfl rfl)
theorem dX4_isTrue_25 : decode cX4_isTrue 25 = .ok (.ifCond .eq 7, 3) := dk_153 0 7 (dk_at dksX4_isTrue_1 1 rfl rfl)
theorem dX4_isTrue_28 : decode cX4_isTrue 28 = .ok (.iconst 1, 1) := dk_4 (dk_at dksX4_isTrue_1 4 rfl rfl)
theorem dX4_isTrue_29 : decode cX4_isTrue 29 = .ok (.goto 4, 3) := dk_167 0 4 (dk_at dksX4_isTrue_1 5 rfl rfl)
theorem dX4_isTrue_32 : decode cX4_isTrue 32 = .ok (.iconst 0, 1) := dk_3 (dk_at dksX4_isTrue_1 8 rfl rfl)
theorem dX4_isTrue_33 : decode cX4_isTrue 33 = .ok (.ireturn, 1) := dk_172 (dk_at dksX4_isTrue_1 9 rfl rfl)
abbrev cX4_has : ByteArray := prog_9_method_4_code
def yX4_has : MethodName := ⟨RX4, "has", "(I)Z"⟩
def dkwX4_has_0 : List UInt8 := [27, 133, 9, 42, 180, 0, 23, 4, 100, 133, 184, 0, 30, 172]
abbrev dktX4_has_0 : List UInt8 := dkwX4_has_0 ++ []
theorem dksX4_has_0 : cX4_has.data.toList.drop 0 = dktX4_has_0 := by decide +kernel
theorem dX4_has_0 : decode cX4_has 0 = .ok (.iload_n 1, 1) := dk_27 (dk_at dksX4_has_0 0 rfl rfl)
theorem dX4_has_1 : decode cX4_has 1 = .ok (.i2l, 1) := dk_133 (dk_at dksX4_has_0 1 rfl rfl)
theorem dX4_has_2 : decode cX4_has 2 = .ok (.lconst 0, 1) := dk_9 (dk_at dksX4_has_0 2 rfl rfl)
theorem dX4_has_3 : decode cX4_has 3 = .ok (.aload_n 0, 1) := dk_42 (dk_at dksX4_has_0 3 rfl rfl)
theorem dX4_has_4 : decode cX4_has 4 = .ok (.getfield 23, 3) := dk_180 0 23 (dk_at dksX4_has_0 4 rfl rfl)
theorem dX4_has_7 : decode cX4_has 7 = .ok (.iconst 1, 1) := dk_4 (dk_at dksX4_has_0 7 rfl rfl)
theorem dX4_has_8 : decode cX4_has 8 = .ok (.isub, 1) := dk_100 (dk_at dksX4_has_0 8 rfl rfl)
theorem dX4_has_9 : decode cX4_has 9 = .ok (.i2l, 1) := dk_133 (dk_at dksX4_has_0 9 rfl rfl)
theorem dX4_has_10 : decode cX4_has 10 = .ok (.invokestatic 30, 3) := dk_184 0 30 (dk_at dksX4_has_0 10 rfl rfl)
theorem dX4_has_13 : decode cX4_has 13 = .ok (.ireturn, 1) := dk_172 (dk_at dksX4_has_0 13 rfl rfl)
abbrev cX4_at : ByteArray := prog_9_method_8_code
def yX4_at : MethodName := ⟨RX4, "at", "(I)D"⟩
def dkwX4_at_3 : List UInt8 := [180, 0, 19, 192, 0, 37, 27, 48, 141, 175, 42, 180, 0, 19, 192, 0, 40, 27, 49, 175]
abbrev dktX4_at_3 : List UInt8 := dkwX4_at_3 ++ []
def dkwX4_at_2 : List UInt8 := [42, 180, 0, 19, 192, 0, 34, 27, 53, 135, 175, 42, 180, 0, 19, 192, 0, 36, 27, 46, 135, 175, 42]
abbrev dktX4_at_2 : List UInt8 := dkwX4_at_2 ++ dktX4_at_3
def dkwX4_at_1 : List UInt8 := [170, 0, 0, 0, 0, 0, 0, 61, 0, 0, 0, 0, 0, 0, 0, 2, 0, 0, 0, 28, 0, 0, 0, 39, 0, 0, 0, 50]
abbrev dktX4_at_1 : List UInt8 := dkwX4_at_1 ++ dktX4_at_2
def dkwX4_at_0 : List UInt8 := [42, 180, 0, 9]
abbrev dktX4_at_0 : List UInt8 := dkwX4_at_0 ++ dktX4_at_1
theorem dksX4_at_0 : cX4_at.data.toList.drop 0 = dktX4_at_0 := by decide +kernel
theorem dksX4_at_1 : cX4_at.data.toList.drop 4 = dktX4_at_1 := dk_seg dksX4_at_0 4 rfl rfl
theorem dksX4_at_2 : cX4_at.data.toList.drop 32 = dktX4_at_2 := dk_seg dksX4_at_1 28 rfl rfl
theorem dksX4_at_3 : cX4_at.data.toList.drop 55 = dktX4_at_3 := dk_seg dksX4_at_2 23 rfl rfl
theorem dX4_at_0 : decode cX4_at 0 = .ok (.aload_n 0, 1) := dk_42 (dk_at dksX4_at_0 0 rfl rfl)
theorem dX4_at_1 : decode cX4_at 1 = .ok (.getfield 9, 3) := dk_180 0 9 (dk_at dksX4_at_0 1 rfl rfl)
theorem dX4_at_4 : decode cX4_at 4 = .ok (.tableswitch 61 0 2 #[28, 39, 50], 28) := by decide +kernel
theorem dX4_at_32 : decode cX4_at 32 = .ok (.aload_n 0, 1) := dk_42 (dk_at dksX4_at_2 0 rfl rfl)
theorem dX4_at_33 : decode cX4_at 33 = .ok (.getfield 19, 3) := dk_180 0 19 (dk_at dksX4_at_2 1 rfl rfl)
theorem dX4_at_36 : decode cX4_at 36 = .ok (.checkcast 34, 3) := dk_192 0 34 (dk_at dksX4_at_2 4 rfl rfl)
theorem dX4_at_39 : decode cX4_at 39 = .ok (.iload_n 1, 1) := dk_27 (dk_at dksX4_at_2 7 rfl rfl)
theorem dX4_at_40 : decode cX4_at 40 = .ok (.saload, 1) := dk_53 (dk_at dksX4_at_2 8 rfl rfl)
theorem dX4_at_41 : decode cX4_at 41 = .ok (.i2d, 1) := dk_135 (dk_at dksX4_at_2 9 rfl rfl)
theorem dX4_at_42 : decode cX4_at 42 = .ok (.dreturn, 1) := dk_175 (dk_at dksX4_at_2 10 rfl rfl)
theorem dX4_at_43 : decode cX4_at 43 = .ok (.aload_n 0, 1) := dk_42 (dk_at dksX4_at_2 11 rfl rfl)
theorem dX4_at_44 : decode cX4_at 44 = .ok (.getfield 19, 3) := dk_180 0 19 (dk_at dksX4_at_2 12 rfl rfl)
theorem dX4_at_47 : decode cX4_at 47 = .ok (.checkcast 36, 3) := dk_192 0 36 (dk_at dksX4_at_2 15 rfl rfl)
theorem dX4_at_50 : decode cX4_at 50 = .ok (.iload_n 1, 1) := dk_27 (dk_at dksX4_at_2 18 rfl rfl)
theorem dX4_at_51 : decode cX4_at 51 = .ok (.iaload, 1) := dk_46 (dk_at dksX4_at_2 19 rfl rfl)
theorem dX4_at_52 : decode cX4_at 52 = .ok (.i2d, 1) := dk_135 (dk_at dksX4_at_2 20 rfl rfl)
theorem dX4_at_53 : decode cX4_at 53 = .ok (.dreturn, 1) := dk_175 (dk_at dksX4_at_2 21 rfl rfl)
theorem dX4_at_54 : decode cX4_at 54 = .ok (.aload_n 0, 1) := dk_42 (dk_at dksX4_at_2 22 rfl rfl)
theorem dX4_at_55 : decode cX4_at 55 = .ok (.getfield 19, 3) := dk_180 0 19 (dk_at dksX4_at_3 0 rfl rfl)
theorem dX4_at_58 : decode cX4_at 58 = .ok (.checkcast 37, 3) := dk_192 0 37 (dk_at dksX4_at_3 3 rfl rfl)
theorem dX4_at_61 : decode cX4_at 61 = .ok (.iload_n 1, 1) := dk_27 (dk_at dksX4_at_3 6 rfl rfl)
theorem dX4_at_62 : decode cX4_at 62 = .ok (.faload, 1) := dk_48 (dk_at dksX4_at_3 7 rfl rfl)
theorem dX4_at_63 : decode cX4_at 63 = .ok (.f2d, 1) := dk_141 (dk_at dksX4_at_3 8 rfl rfl)
theorem dX4_at_64 : decode cX4_at 64 = .ok (.dreturn, 1) := dk_175 (dk_at dksX4_at_3 9 rfl rfl)
theorem dX4_at_65 : decode cX4_at 65 = .ok (.aload_n 0, 1) := dk_42 (dk_at dksX4_at_3 10 rfl rfl)
theorem dX4_at_66 : decode cX4_at 66 = .ok (.getfield 19, 3) := dk_180 0 19 (dk_at dksX4_at_3 11 rfl rfl)
theorem dX4_at_69 : decode cX4_at 69 = .ok (.checkcast 40, 3) := dk_192 0 40 (dk_at dksX4_at_3 14 rfl rfl)
theorem dX4_at_72 : decode cX4_at 72 = .ok (.iload_n 1, 1) := dk_27 (dk_at dksX4_at_3 17 rfl rfl)
theorem dX4_at_73 : decode cX4_at 73 = .ok (.daload, 1) := dk_49 (dk_at dksX4_at_3 18 rfl rfl)
theorem dX4_at_74 : decode cX4_at 74 = .ok (.dreturn, 1) := dk_175 (dk_at dksX4_at_3 19 rfl rfl)
abbrev cX4_cast : ByteArray := prog_9_method_9_code
def yX4_cast : MethodName := ⟨RX4, "cast", "(D)D"⟩
def dkwX4_cast_2 : List UInt8 := [39, 142, 147, 135, 175, 39, 142, 135, 175, 39, 144, 11, 98, 141, 175, 39, 14, 99, 175]
abbrev dktX4_cast_2 : List UInt8 := dkwX4_cast_2 ++ []
def dkwX4_cast_1 : List UInt8 := [170, 0, 0, 0, 0, 0, 0, 43, 0, 0, 0, 0, 0, 0, 0, 2, 0, 0, 0, 28, 0, 0, 0, 33, 0, 0, 0, 37]
abbrev dktX4_cast_1 : List UInt8 := dkwX4_cast_1 ++ dktX4_cast_2
def dkwX4_cast_0 : List UInt8 := [42, 180, 0, 9]
abbrev dktX4_cast_0 : List UInt8 := dkwX4_cast_0 ++ dktX4_cast_1
theorem dksX4_cast_0 : cX4_cast.data.toList.drop 0 = dktX4_cast_0 := by decide +kernel
theorem dksX4_cast_1 : cX4_cast.data.toList.drop 4 = dktX4_cast_1 := dk_seg dksX4_cast_0 4 rfl rfl
theorem dksX4_cast_2 : cX4_cast.data.toList.drop 32 = dktX4_cast_2 := dk_seg dksX4_cast_1 28 rfl rfl
theorem dX4_cast_0 : decode cX4_cast 0 = .ok (.aload_n 0, 1) := dk_42 (dk_at dksX4_cast_0 0 rfl rfl)
theorem dX4_cast_1 : decode cX4_cast 1 = .ok (.getfield 9, 3) := dk_180 0 9 (dk_at dksX4_cast_0 1 rfl rfl)
theorem dX4_cast_4 : decode cX4_cast 4 = .ok (.tableswitch 43 0 2 #[28, 33, 37], 28) := by decide +kernel
theorem dX4_cast_32 : decode cX4_cast 32 = .ok (.dload_n 1, 1) := dk_39 (dk_at dksX4_cast_2 0 rfl rfl)
theorem dX4_cast_33 : decode cX4_cast 33 = .ok (.d2i, 1) := dk_142 (dk_at dksX4_cast_2 1 rfl rfl)
theorem dX4_cast_34 : decode cX4_cast 34 = .ok (.i2s, 1) := dk_147 (dk_at dksX4_cast_2 2 rfl rfl)
theorem dX4_cast_35 : decode cX4_cast 35 = .ok (.i2d, 1) := dk_135 (dk_at dksX4_cast_2 3 rfl rfl)
theorem dX4_cast_36 : decode cX4_cast 36 = .ok (.dreturn, 1) := dk_175 (dk_at dksX4_cast_2 4 rfl rfl)
theorem dX4_cast_37 : decode cX4_cast 37 = .ok (.dload_n 1, 1) := dk_39 (dk_at dksX4_cast_2 5 rfl rfl)
theorem dX4_cast_38 : decode cX4_cast 38 = .ok (.d2i, 1) := dk_142 (dk_at dksX4_cast_2 6 rfl rfl)
theorem dX4_cast_39 : decode cX4_cast 39 = .ok (.i2d, 1) := dk_135 (dk_at dksX4_cast_2 7 rfl rfl)
theorem dX4_cast_40 : decode cX4_cast 40 = .ok (.dreturn, 1) := dk_175 (dk_at dksX4_cast_2 8 rfl rfl)
theorem dX4_cast_41 : decode cX4_cast 41 = .ok (.dload_n 1, 1) := dk_39 (dk_at dksX4_cast_2 9 rfl rfl)
theorem dX4_cast_42 : decode cX4_cast 42 = .ok (.d2f, 1) := dk_144 (dk_at dksX4_cast_2 10 rfl rfl)
theorem dX4_cast_43 : decode cX4_cast 43 = .ok (.fconst 0, 1) := dk_11 (dk_at dksX4_cast_2 11 rfl rfl)
theorem dX4_cast_44 : decode cX4_cast 44 = .ok (.fadd, 1) := dk_98 (dk_at dksX4_cast_2 12 rfl rfl)
theorem dX4_cast_45 : decode cX4_cast 45 = .ok (.f2d, 1) := dk_141 (dk_at dksX4_cast_2 13 rfl rfl)
theorem dX4_cast_46 : decode cX4_cast 46 = .ok (.dreturn, 1) := dk_175 (dk_at dksX4_cast_2 14 rfl rfl)
theorem dX4_cast_47 : decode cX4_cast 47 = .ok (.dload_n 1, 1) := dk_39 (dk_at dksX4_cast_2 15 rfl rfl)
theorem dX4_cast_48 : decode cX4_cast 48 = .ok (.dconst 0, 1) := dk_14 (dk_at dksX4_cast_2 16 rfl rfl)
theorem dX4_cast_49 : decode cX4_cast 49 = .ok (.dadd, 1) := dk_99 (dk_at dksX4_cast_2 17 rfl rfl)
theorem dX4_cast_50 : decode cX4_cast 50 = .ok (.dreturn, 1) := dk_175 (dk_at dksX4_cast_2 18 rfl rfl)
abbrev cX4_becomes : ByteArray := prog_9_method_10_code
def yX4_becomes : MethodName := ⟨RX4, "becomes", "(ID)V"⟩
def dkwX4_becomes_4 : List UInt8 := [192, 0, 40, 27, 40, 82, 177]
abbrev dktX4_becomes_4 : List UInt8 := dkwX4_becomes_4 ++ []
def dkwX4_becomes_3 : List UInt8 := [142, 79, 167, 0, 27, 42, 180, 0, 19, 192, 0, 37, 27, 40, 144, 81, 167, 0, 13, 42, 180, 0, 19]
abbrev dktX4_becomes_3 : List UInt8 := dkwX4_becomes_3 ++ dktX4_becomes_4
def dkwX4_becomes_2 : List UInt8 := [42, 180, 0, 19, 192, 0, 34, 27, 40, 142, 147, 86, 167, 0, 41, 42, 180, 0, 19, 192, 0, 36, 27, 40]
abbrev dktX4_becomes_2 : List UInt8 := dkwX4_becomes_2 ++ dktX4_becomes_3
def dkwX4_becomes_1 : List UInt8 := [170, 0, 0, 0, 0, 0, 0, 71, 0, 0, 0, 0, 0, 0, 0, 2, 0, 0, 0, 28, 0, 0, 0, 43, 0, 0, 0, 57]
abbrev dktX4_becomes_1 : List UInt8 := dkwX4_becomes_1 ++ dktX4_becomes_2
def dkwX4_becomes_0 : List UInt8 := [42, 180, 0, 9]
abbrev dktX4_becomes_0 : List UInt8 := dkwX4_becomes_0 ++ dktX4_becomes_1
theorem dksX4_becomes_0 : cX4_becomes.data.toList.drop 0 = dktX4_becomes_0 := by decide +kernel
theorem dksX4_becomes_1 : cX4_becomes.data.toList.drop 4 = dktX4_becomes_1 := dk_seg dksX4_becomes_0 4 rfl rfl
theorem dksX4_becomes_2 : cX4_becomes.data.toList.drop 32 = dktX4_becomes_2 := dk_seg dksX4_becomes_1 28 rfl rfl
theorem dksX4_becomes_3 : cX4_becomes.data.toList.drop 56 = dktX4_becomes_3 := dk_seg dksX4_becomes_2 24 rfl rfl
theorem dksX4_becomes_4 : cX4_becomes.data.toList.drop 79 = dktX4_becomes_4 := dk_seg dksX4_becomes_3 23 rfl rfl
theorem dX4_becomes_0 : decode cX4_becomes 0 = .ok (.aload_n 0, 1) := dk_42 (dk_at dksX4_becomes_0 0 rfl rfl)
theorem dX4_becomes_1 : decode cX4_becomes 1 = .ok (.getfield 9, 3) := dk_180 0 9 (dk_at dksX4_becomes_0 1 rfl rfl)
theorem dX4_becomes_4 : decode cX4_becomes 4 = .ok (.tableswitch 71 0 2 #[28, 43, 57], 28) := by decide +kernel
theorem dX4_becomes_32 : decode cX4_becomes 32 = .ok (.aload_n 0, 1) := dk_42 (dk_at dksX4_becomes_2 0 rfl rfl)
theorem dX4_becomes_33 : decode cX4_becomes 33 = .ok (.getfield 19, 3) := dk_180 0 19 (dk_at dksX4_becomes_2 1 rfl rfl)
theorem dX4_becomes_36 : decode cX4_becomes 36 = .ok (.checkcast 34, 3) := dk_192 0 34 (dk_at dksX4_becomes_2 4 rfl rfl)
theorem dX4_becomes_39 : decode cX4_becomes 39 = .ok (.iload_n 1, 1) := dk_27 (dk_at dksX4_becomes_2 7 rfl rfl)
theorem dX4_becomes_40 : decode cX4_becomes 40 = .ok (.dload_n 2, 1) := dk_40 (dk_at dksX4_becomes_2 8 rfl rfl)
theorem dX4_becomes_41 : decode cX4_becomes 41 = .ok (.d2i, 1) := dk_142 (dk_at dksX4_becomes_2 9 rfl rfl)
theorem dX4_becomes_42 : decode cX4_becomes 42 = .ok (.i2s, 1) := dk_147 (dk_at dksX4_becomes_2 10 rfl rfl)
theorem dX4_becomes_43 : decode cX4_becomes 43 = .ok (.sastore, 1) := dk_86 (dk_at dksX4_becomes_2 11 rfl rfl)
theorem dX4_becomes_44 : decode cX4_becomes 44 = .ok (.goto 41, 3) := dk_167 0 41 (dk_at dksX4_becomes_2 12 rfl rfl)
theorem dX4_becomes_47 : decode cX4_becomes 47 = .ok (.aload_n 0, 1) := dk_42 (dk_at dksX4_becomes_2 15 rfl rfl)
theorem dX4_becomes_48 : decode cX4_becomes 48 = .ok (.getfield 19, 3) := dk_180 0 19 (dk_at dksX4_becomes_2 16 rfl rfl)
theorem dX4_becomes_51 : decode cX4_becomes 51 = .ok (.checkcast 36, 3) := dk_192 0 36 (dk_at dksX4_becomes_2 19 rfl rfl)
theorem dX4_becomes_54 : decode cX4_becomes 54 = .ok (.iload_n 1, 1) := dk_27 (dk_at dksX4_becomes_2 22 rfl rfl)
theorem dX4_becomes_55 : decode cX4_becomes 55 = .ok (.dload_n 2, 1) := dk_40 (dk_at dksX4_becomes_2 23 rfl rfl)
theorem dX4_becomes_56 : decode cX4_becomes 56 = .ok (.d2i, 1) := dk_142 (dk_at dksX4_becomes_3 0 rfl rfl)
theorem dX4_becomes_57 : decode cX4_becomes 57 = .ok (.iastore, 1) := dk_79 (dk_at dksX4_becomes_3 1 rfl rfl)
theorem dX4_becomes_58 : decode cX4_becomes 58 = .ok (.goto 27, 3) := dk_167 0 27 (dk_at dksX4_becomes_3 2 rfl rfl)
theorem dX4_becomes_61 : decode cX4_becomes 61 = .ok (.aload_n 0, 1) := dk_42 (dk_at dksX4_becomes_3 5 rfl rfl)
theorem dX4_becomes_62 : decode cX4_becomes 62 = .ok (.getfield 19, 3) := dk_180 0 19 (dk_at dksX4_becomes_3 6 rfl rfl)
theorem dX4_becomes_65 : decode cX4_becomes 65 = .ok (.checkcast 37, 3) := dk_192 0 37 (dk_at dksX4_becomes_3 9 rfl rfl)
theorem dX4_becomes_68 : decode cX4_becomes 68 = .ok (.iload_n 1, 1) := dk_27 (dk_at dksX4_becomes_3 12 rfl rfl)
theorem dX4_becomes_69 : decode cX4_becomes 69 = .ok (.dload_n 2, 1) := dk_40 (dk_at dksX4_becomes_3 13 rfl rfl)
theorem dX4_becomes_70 : decode cX4_becomes 70 = .ok (.d2f, 1) := dk_144 (dk_at dksX4_becomes_3 14 rfl rfl)
theorem dX4_becomes_71 : decode cX4_becomes 71 = .ok (.fastore, 1) := dk_81 (dk_at dksX4_becomes_3 15 rfl rfl)
theorem dX4_becomes_72 : decode cX4_becomes 72 = .ok (.goto 13, 3) := dk_167 0 13 (dk_at dksX4_becomes_3 16 rfl rfl)
theorem dX4_becomes_75 : decode cX4_becomes 75 = .ok (.aload_n 0, 1) := dk_42 (dk_at dksX4_becomes_3 19 rfl rfl)
theorem dX4_becomes_76 : decode cX4_becomes 76 = .ok (.getfield 19, 3) := dk_180 0 19 (dk_at dksX4_becomes_3 20 rfl rfl)
theorem dX4_becomes_79 : decode cX4_becomes 79 = .ok (.checkcast 40, 3) := dk_192 0 40 (dk_at dksX4_becomes_4 0 rfl rfl)
theorem dX4_becomes_82 : decode cX4_becomes 82 = .ok (.iload_n 1, 1) := dk_27 (dk_at dksX4_becomes_4 3 rfl rfl)
theorem dX4_becomes_83 : decode cX4_becomes 83 = .ok (.dload_n 2, 1) := dk_40 (dk_at dksX4_becomes_4 4 rfl rfl)
theorem dX4_becomes_84 : decode cX4_becomes 84 = .ok (.dastore, 1) := dk_82 (dk_at dksX4_becomes_4 5 rfl rfl)
theorem dX4_becomes_85 : decode cX4_becomes 85 = .ok (.return_, 1) := dk_177 (dk_at dksX4_becomes_4 6 rfl rfl)
theorem q163 : (Jvm.Cond.initialized "StrideTurns$Row") ∈ lw_all := lw_g (lw_at lw_m1 30 rfl) rfl
theorem q294 : (Jvm.Cond.selects "StrideTurns$Row" ({ cls := "java/lang/Object", name := "hashCode", desc := "()I" } : Jvm.MethodName) ({ cls := "java/lang/Object", name := "hashCode", desc := "()I" } : Jvm.MethodName)) ∈ lw_all := lw_g (lw_at lw_m1 161 rfl) rfl
theorem q490 : (Jvm.Cond.selects "StrideTurns$Row" ({ cls := "java/lang/Object", name := "getClass", desc := "()Ljava/lang/Class;" } : Jvm.MethodName) ({ cls := "java/lang/Object", name := "getClass", desc := "()Ljava/lang/Class;" } : Jvm.MethodName)) ∈ lw_all := lw_g (lw_at lw_m2 117 rfl) rfl
theorem q757 : (Jvm.Cond.selects "StrideTurns$Row" ({ cls := "java/lang/Object", name := "equals", desc := "(Ljava/lang/Object;)Z" } : Jvm.MethodName) ({ cls := "java/lang/Object", name := "equals", desc := "(Ljava/lang/Object;)Z" } : Jvm.MethodName)) ∈ lw_all := lw_g (lw_at lw_m3 144 rfl) rfl
theorem q1217 : (Jvm.Cond.instantiable "StrideTurns$Row" (4 : Nat)) ∈ lw_all := lw_g (lw_at lw_m5 124 rfl) rfl
theorem q1219 : (Jvm.Cond.instanceMethod ({ cls := "StrideTurns$Row", name := "<init>", desc := "(II)V" } : Jvm.MethodName)) ∈ lw_all := lw_g (lw_at lw_m5 126 rfl) rfl
theorem q1220 : (Jvm.Cond.code ({ cls := "StrideTurns$Row", name := "<init>", desc := "(II)V" } : Jvm.MethodName) prog_9_method_1_code (4 : Nat) (Option.none : Option Jvm.ClassFile.FieldType)) ∈ lw_all := lw_g (lw_at lw_m5 127 rfl) rfl
theorem q1221 : (Jvm.Cond.methodLink "StrideTurns$Row" (3 : Nat) ({ cls := "java/lang/Object", name := "<init>", desc := "()V" } : Jvm.MethodName)) ∈ lw_all := lw_g (lw_at lw_m5 128 rfl) rfl
theorem q1222 : (Jvm.Cond.methodLink "StrideTurns$Row" (15 : Nat) ({ cls := "StrideTurns$Row", name := "made", desc := "(II)Ljava/lang/Object;" } : Jvm.MethodName)) ∈ lw_all := lw_g (lw_at lw_m5 129 rfl) rfl
theorem q1223 : (Jvm.Cond.static ({ cls := "StrideTurns$Row", name := "made", desc := "(II)Ljava/lang/Object;" } : Jvm.MethodName)) ∈ lw_all := lw_g (lw_at lw_m5 130 rfl) rfl
theorem q1224 : (Jvm.Cond.code ({ cls := "StrideTurns$Row", name := "made", desc := "(II)Ljava/lang/Object;" } : Jvm.MethodName) prog_9_method_2_code (2 : Nat) (Option.some (Jvm.ClassFile.FieldType.object "java/lang/Object"))) ∈ lw_all := lw_g (lw_at lw_m5 131 rfl) rfl
theorem q1225 : (Jvm.Cond.fieldLink "StrideTurns$Row" (19 : Nat) "StrideTurns$Row" "cells" "Ljava/lang/Object;") ∈ lw_all := lw_g (lw_at lw_m5 132 rfl) rfl
theorem q1227 : (Jvm.Cond.fieldLink "StrideTurns$Row" (9 : Nat) "StrideTurns$Row" "form" "I") ∈ lw_all := lw_g (lw_at lw_m5 134 rfl) rfl
theorem q1230 : (Jvm.Cond.fieldLink "StrideTurns$Row" (23 : Nat) "StrideTurns$Row" "size" "I") ∈ lw_all := lw_g (lw_at lw_m5 137 rfl) rfl
theorem q1232 : (Jvm.Cond.fieldLink "StrideTurns$Row" (26 : Nat) "StrideTurns$Row" "writers" "[I") ∈ lw_all := lw_g (lw_at lw_m5 139 rfl) rfl
theorem q1235 : (Jvm.Cond.laysFinal "StrideTurns$Row" "StrideTurns$Row" "cells" "Ljava/lang/Object;") ∈ lw_all := lw_g (lw_at lw_m5 142 rfl) rfl
theorem q1236 : (Jvm.Cond.soleField "StrideTurns$Row" "cells") ∈ lw_all := lw_g (lw_at lw_m5 143 rfl) rfl
theorem q1237 : (Jvm.Cond.laysFinal "StrideTurns$Row" "StrideTurns$Row" "form" "I") ∈ lw_all := lw_g (lw_at lw_m5 144 rfl) rfl
theorem q1238 : (Jvm.Cond.soleField "StrideTurns$Row" "form") ∈ lw_all := lw_g (lw_at lw_m5 145 rfl) rfl
theorem q1239 : (Jvm.Cond.laysFinal "StrideTurns$Row" "StrideTurns$Row" "size" "I") ∈ lw_all := lw_g (lw_at lw_m5 146 rfl) rfl
theorem q1240 : (Jvm.Cond.soleField "StrideTurns$Row" "size") ∈ lw_all := lw_g (lw_at lw_m5 147 rfl) rfl
theorem q1241 : (Jvm.Cond.laysFinal "StrideTurns$Row" "StrideTurns$Row" "writers" "[I") ∈ lw_all := lw_g (lw_at lw_m5 148 rfl) rfl
theorem q1242 : (Jvm.Cond.soleField "StrideTurns$Row" "writers") ∈ lw_all := lw_g (lw_at lw_m5 149 rfl) rfl
theorem q1243 : (Jvm.Cond.superclass "StrideTurns$Row" "java/lang/Object") ∈ lw_all := lw_g (lw_at lw_m5 150 rfl) rfl
theorem q1317 : (Jvm.Cond.instanceMethod ({ cls := "StrideTurns$Row", name := "lays", desc := "(III)V" } : Jvm.MethodName)) ∈ lw_all := lw_g (lw_at lw_m5 224 rfl) rfl
theorem q1318 : (Jvm.Cond.selects "StrideTurns$Row" ({ cls := "StrideTurns$Row", name := "lays", desc := "(III)V" } : Jvm.MethodName) ({ cls := "StrideTurns$Row", name := "lays", desc := "(III)V" } : Jvm.MethodName)) ∈ lw_all := lw_g (lw_at lw_m5 225 rfl) rfl
theorem q1319 : (Jvm.Cond.code ({ cls := "StrideTurns$Row", name := "lays", desc := "(III)V" } : Jvm.MethodName) prog_9_method_5_code (4 : Nat) (Option.none : Option Jvm.ClassFile.FieldType)) ∈ lw_all := lw_g (lw_at lw_m5 226 rfl) rfl
theorem q1320 : (Jvm.Cond.classLink "StrideTurns$Row" (34 : Nat) "[S") ∈ lw_all := lw_g (lw_at lw_m5 227 rfl) rfl
theorem q1321 : (Jvm.Cond.classLink "StrideTurns$Row" (36 : Nat) "[I") ∈ lw_all := lw_g (lw_at lw_m5 228 rfl) rfl
theorem q1322 : (Jvm.Cond.classLink "StrideTurns$Row" (37 : Nat) "[F") ∈ lw_all := lw_g (lw_at lw_m5 229 rfl) rfl
theorem q1323 : (Jvm.Cond.constantFloat "StrideTurns$Row" (39 : Nat) (1090519040 : UInt32)) ∈ lw_all := lw_g (lw_at lw_m5 230 rfl) rfl
theorem q1324 : (Jvm.Cond.classLink "StrideTurns$Row" (40 : Nat) "[D") ∈ lw_all := lw_g (lw_at lw_m5 231 rfl) rfl
theorem q1325 : (Jvm.Cond.constantDouble "StrideTurns$Row" (42 : Nat) (4620693217682128896 : UInt64)) ∈ lw_all := lw_g (lw_at lw_m5 232 rfl) rfl
theorem q1326 : (Jvm.Cond.classLink "StrideTurns$Row" (44 : Nat) "[Z") ∈ lw_all := lw_g (lw_at lw_m5 233 rfl) rfl
theorem q1336 : (Jvm.Cond.instanceMethod ({ cls := "StrideTurns$Row", name := "tells", desc := "(I)J" } : Jvm.MethodName)) ∈ lw_all := lw_g (lw_at lw_m6 3 rfl) rfl
theorem q1337 : (Jvm.Cond.selects "StrideTurns$Row" ({ cls := "StrideTurns$Row", name := "tells", desc := "(I)J" } : Jvm.MethodName) ({ cls := "StrideTurns$Row", name := "tells", desc := "(I)J" } : Jvm.MethodName)) ∈ lw_all := lw_g (lw_at lw_m6 4 rfl) rfl
theorem q1338 : (Jvm.Cond.code ({ cls := "StrideTurns$Row", name := "tells", desc := "(I)J" } : Jvm.MethodName) prog_9_method_6_code (2 : Nat) (Option.some Jvm.ClassFile.FieldType.long)) ∈ lw_all := lw_g (lw_at lw_m6 5 rfl) rfl
theorem q1339 : (Jvm.Cond.methodLink "StrideTurns$Row" (46 : Nat) ({ cls := "java/lang/Float", name := "floatToIntBits", desc := "(F)I" } : Jvm.MethodName)) ∈ lw_all := lw_g (lw_at lw_m6 6 rfl) rfl
theorem q1349 : (Jvm.Cond.methodLink "StrideTurns$Row" (52 : Nat) ({ cls := "java/lang/Double", name := "doubleToLongBits", desc := "(D)J" } : Jvm.MethodName)) ∈ lw_all := lw_g (lw_at lw_m6 16 rfl) rfl
theorem q1858 : (Jvm.Cond.instanceMethod ({ cls := "StrideTurns$Row", name := "isNumbers", desc := "()Z" } : Jvm.MethodName)) ∈ lw_all := lw_g (lw_at lw_m8 45 rfl) rfl
theorem q1859 : (Jvm.Cond.selects "StrideTurns$Row" ({ cls := "StrideTurns$Row", name := "isNumbers", desc := "()Z" } : Jvm.MethodName) ({ cls := "StrideTurns$Row", name := "isNumbers", desc := "()Z" } : Jvm.MethodName)) ∈ lw_all := lw_g (lw_at lw_m8 46 rfl) rfl
theorem q1860 : (Jvm.Cond.code ({ cls := "StrideTurns$Row", name := "isNumbers", desc := "()Z" } : Jvm.MethodName) prog_9_method_3_code (1 : Nat) (Option.some Jvm.ClassFile.FieldType.boolean)) ∈ lw_all := lw_g (lw_at lw_m8 47 rfl) rfl
theorem q1885 : (Jvm.Cond.instanceMethod ({ cls := "StrideTurns$Row", name := "isTrue", desc := "(I)Z" } : Jvm.MethodName)) ∈ lw_all := lw_g (lw_at lw_m8 72 rfl) rfl
theorem q1886 : (Jvm.Cond.selects "StrideTurns$Row" ({ cls := "StrideTurns$Row", name := "isTrue", desc := "(I)Z" } : Jvm.MethodName) ({ cls := "StrideTurns$Row", name := "isTrue", desc := "(I)Z" } : Jvm.MethodName)) ∈ lw_all := lw_g (lw_at lw_m8 73 rfl) rfl
theorem q1887 : (Jvm.Cond.code ({ cls := "StrideTurns$Row", name := "isTrue", desc := "(I)Z" } : Jvm.MethodName) prog_9_method_7_code (2 : Nat) (Option.some Jvm.ClassFile.FieldType.boolean)) ∈ lw_all := lw_g (lw_at lw_m8 74 rfl) rfl
theorem q1888 : (Jvm.Cond.methodLink "StrideTurns$Row" (58 : Nat) ({ cls := "StrideTurns$Row", name := "has", desc := "(I)Z" } : Jvm.MethodName)) ∈ lw_all := lw_g (lw_at lw_m8 75 rfl) rfl
theorem q1889 : (Jvm.Cond.instanceMethod ({ cls := "StrideTurns$Row", name := "has", desc := "(I)Z" } : Jvm.MethodName)) ∈ lw_all := lw_g (lw_at lw_m8 76 rfl) rfl
theorem q1890 : (Jvm.Cond.selects "StrideTurns$Row" ({ cls := "StrideTurns$Row", name := "has", desc := "(I)Z" } : Jvm.MethodName) ({ cls := "StrideTurns$Row", name := "has", desc := "(I)Z" } : Jvm.MethodName)) ∈ lw_all := lw_g (lw_at lw_m8 77 rfl) rfl
theorem q1891 : (Jvm.Cond.code ({ cls := "StrideTurns$Row", name := "has", desc := "(I)Z" } : Jvm.MethodName) prog_9_method_4_code (2 : Nat) (Option.some Jvm.ClassFile.FieldType.boolean)) ∈ lw_all := lw_g (lw_at lw_m8 78 rfl) rfl
theorem q1892 : (Jvm.Cond.methodLinkNest "StrideTurns$Row" (30 : Nat) ({ cls := "StrideTurns", name := "in", desc := "(JJJ)Z" } : Jvm.MethodName) "StrideTurns") ∈ lw_tbl := lw_at lw_m8 79 rfl
theorem q2401 : (Jvm.Cond.instanceMethod ({ cls := "StrideTurns$Row", name := "at", desc := "(I)D" } : Jvm.MethodName)) ∈ lw_all := lw_g (lw_at lw_m10 108 rfl) rfl
theorem q2402 : (Jvm.Cond.selects "StrideTurns$Row" ({ cls := "StrideTurns$Row", name := "at", desc := "(I)D" } : Jvm.MethodName) ({ cls := "StrideTurns$Row", name := "at", desc := "(I)D" } : Jvm.MethodName)) ∈ lw_all := lw_g (lw_at lw_m10 109 rfl) rfl
theorem q2403 : (Jvm.Cond.code ({ cls := "StrideTurns$Row", name := "at", desc := "(I)D" } : Jvm.MethodName) prog_9_method_8_code (2 : Nat) (Option.some Jvm.ClassFile.FieldType.double)) ∈ lw_all := lw_g (lw_at lw_m10 110 rfl) rfl
theorem q2441 : (Jvm.Cond.instanceMethod ({ cls := "StrideTurns$Row", name := "cast", desc := "(D)D" } : Jvm.MethodName)) ∈ lw_all := lw_g (lw_at lw_m10 148 rfl) rfl
theorem q2442 : (Jvm.Cond.selects "StrideTurns$Row" ({ cls := "StrideTurns$Row", name := "cast", desc := "(D)D" } : Jvm.MethodName) ({ cls := "StrideTurns$Row", name := "cast", desc := "(D)D" } : Jvm.MethodName)) ∈ lw_all := lw_g (lw_at lw_m10 149 rfl) rfl
theorem q2443 : (Jvm.Cond.code ({ cls := "StrideTurns$Row", name := "cast", desc := "(D)D" } : Jvm.MethodName) prog_9_method_9_code (3 : Nat) (Option.some Jvm.ClassFile.FieldType.double)) ∈ lw_all := lw_g (lw_at lw_m10 150 rfl) rfl
theorem q2452 : (Jvm.Cond.instanceMethod ({ cls := "StrideTurns$Row", name := "becomes", desc := "(ID)V" } : Jvm.MethodName)) ∈ lw_all := lw_g (lw_at lw_m10 159 rfl) rfl
theorem q2453 : (Jvm.Cond.selects "StrideTurns$Row" ({ cls := "StrideTurns$Row", name := "becomes", desc := "(ID)V" } : Jvm.MethodName) ({ cls := "StrideTurns$Row", name := "becomes", desc := "(ID)V" } : Jvm.MethodName)) ∈ lw_all := lw_g (lw_at lw_m10 160 rfl) rfl
theorem q2454 : (Jvm.Cond.code ({ cls := "StrideTurns$Row", name := "becomes", desc := "(ID)V" } : Jvm.MethodName) prog_9_method_10_code (4 : Nat) (Option.none : Option Jvm.ClassFile.FieldType)) ∈ lw_all := lw_g (lw_at lw_m10 161 rfl) rfl
theorem q3220 : (Jvm.Cond.castable "StrideTurns$Row" "java/lang/Object") ∈ lw_tbl := lw_at lw_m13 207 rfl
theorem in_X4 : ∀ w ∈ wsX40, w ∈ lw_all := lw_in wsX40 [1235, 1237, 1239, 1241] (by decide +kernel) (by decide +kernel)
