/-! StrideTurns$Reference -/
set_option maxRecDepth 100000
def RX7 : String := "StrideTurns$Reference"
def TX7 : u_T := fun k => match k with
  | 0 => ("StrideTurns$Reference", "row", "I", false)
  | 1 => ("StrideTurns$Reference", "from", "I", false)
  | 2 => ("StrideTurns$Reference", "by", "I", false)
  | 3 => ("StrideTurns$Reference", "step", "I", false)
  | _ => ("StrideTurns$Reference", "where", "LStrideTurns$Where;", false)
def tyX7 : Nat → FieldType := fun k => match k with
  | 0 => .int
  | 1 => .int
  | 2 => .int
  | 3 => .int
  | _ => .object "StrideTurns$Where"
abbrev wsX70 : List Cond := u_ws RX7 TX7 5
theorem nmX7 : ∀ a, a < 5 → ∀ b, b < 5 → a ≠ b → (TX7 a).2.1 ≠ (TX7 b).2.1 := by decide +kernel
theorem tyX7_ok : ∀ k, k < 5 → parseFieldDescriptor (TX7 k).2.2.1 = some (tyX7 k) := by decide +kernel
abbrev cX7_init : ByteArray := prog_8_method_1_code
def yX7_init : MethodName := ⟨RX7, "<init>", "(I)V"⟩
def dkwX7_init_0 : List UInt8 := [42, 183, 0, 1, 42, 186, 0, 7, 0, 0, 181, 0, 11, 42, 27, 181, 0, 17, 177]
abbrev dktX7_init_0 : List UInt8 := dkwX7_init_0 ++ []
theorem dksX7_init_0 : cX7_init.data.toList.drop 0 = dktX7_init_0 := by decide +kernel
theorem dX7_init_0 : decode cX7_init 0 = .ok (.aload_n 0, 1) := dk_42 (dk_at dksX7_init_0 0 rfl rfl)
theorem dX7_init_1 : decode cX7_init 1 = .ok (.invokespecial 1, 3) := dk_183 0 1 (dk_at dksX7_init_0 1 rfl rfl)
theorem dX7_init_4 : decode cX7_init 4 = .ok (.aload_n 0, 1) := dk_42 (dk_at dksX7_init_0 4 rfl rfl)
theorem dX7_init_5 : decode cX7_init 5 = .ok (.invokedynamic 7, 5) := by decide +kernel
theorem dX7_init_10 : decode cX7_init 10 = .ok (.putfield 11, 3) := dk_181 0 11 (dk_at dksX7_init_0 10 rfl rfl)
theorem dX7_init_13 : decode cX7_init 13 = .ok (.aload_n 0, 1) := dk_42 (dk_at dksX7_init_0 13 rfl rfl)
theorem dX7_init_14 : decode cX7_init 14 = .ok (.iload_n 1, 1) := dk_27 (dk_at dksX7_init_0 14 rfl rfl)
theorem dX7_init_15 : decode cX7_init 15 = .ok (.putfield 17, 3) := dk_181 0 17 (dk_at dksX7_init_0 15 rfl rfl)
theorem dX7_init_18 : decode cX7_init 18 = .ok (.return_, 1) := dk_177 (dk_at dksX7_init_0 18 rfl rfl)
abbrev cX7_lambda_new_0 : ByteArray := prog_8_method_6_code
def yX7_lambda_new_0 : MethodName := ⟨RX7, "lambda$new$0", "(II)I"⟩
theorem dX7_lambda_new_0_0 : decode cX7_lambda_new_0 0 = .ok (.iconst 0, 1) := by decide +kernel
theorem dX7_lambda_new_0_1 : decode cX7_lambda_new_0 1 = .ok (.ireturn, 1) := by decide +kernel
abbrev cX7_moves : ByteArray := prog_8_method_2_code
def yX7_moves : MethodName := ⟨RX7, "moves", "(III)V"⟩
def dkwX7_moves_1 : List UInt8 := [181, 0, 11, 177]
abbrev dktX7_moves_1 : List UInt8 := dkwX7_moves_1 ++ []
def dkwX7_moves_0 : List UInt8 := [42, 27, 181, 0, 21, 42, 28, 181, 0, 24, 42, 29, 181, 0, 27, 42, 27, 28, 29, 186, 0, 30, 0, 0]
abbrev dktX7_moves_0 : List UInt8 := dkwX7_moves_0 ++ dktX7_moves_1
theorem dksX7_moves_0 : cX7_moves.data.toList.drop 0 = dktX7_moves_0 := by decide +kernel
theorem dksX7_moves_1 : cX7_moves.data.toList.drop 24 = dktX7_moves_1 := dk_seg dksX7_moves_0 24 rfl rfl
theorem dX7_moves_0 : decode cX7_moves 0 = .ok (.aload_n 0, 1) := dk_42 (dk_at dksX7_moves_0 0 rfl rfl)
theorem dX7_moves_1 : decode cX7_moves 1 = .ok (.iload_n 1, 1) := dk_27 (dk_at dksX7_moves_0 1 rfl rfl)
theorem dX7_moves_2 : decode cX7_moves 2 = .ok (.putfield 21, 3) := dk_181 0 21 (dk_at dksX7_moves_0 2 rfl rfl)
theorem dX7_moves_5 : decode cX7_moves 5 = .ok (.aload_n 0, 1) := dk_42 (dk_at dksX7_moves_0 5 rfl rfl)
theorem dX7_moves_6 : decode cX7_moves 6 = .ok (.iload_n 2, 1) := dk_28 (dk_at dksX7_moves_0 6 rfl rfl)
theorem dX7_moves_7 : decode cX7_moves 7 = .ok (.putfield 24, 3) := dk_181 0 24 (dk_at dksX7_moves_0 7 rfl rfl)
theorem dX7_moves_10 : decode cX7_moves 10 = .ok (.aload_n 0, 1) := dk_42 (dk_at dksX7_moves_0 10 rfl rfl)
theorem dX7_moves_11 : decode cX7_moves 11 = .ok (.iload_n 3, 1) := dk_29 (dk_at dksX7_moves_0 11 rfl rfl)
theorem dX7_moves_12 : decode cX7_moves 12 = .ok (.putfield 27, 3) := dk_181 0 27 (dk_at dksX7_moves_0 12 rfl rfl)
theorem dX7_moves_15 : decode cX7_moves 15 = .ok (.aload_n 0, 1) := dk_42 (dk_at dksX7_moves_0 15 rfl rfl)
theorem dX7_moves_16 : decode cX7_moves 16 = .ok (.iload_n 1, 1) := dk_27 (dk_at dksX7_moves_0 16 rfl rfl)
theorem dX7_moves_17 : decode cX7_moves 17 = .ok (.iload_n 2, 1) := dk_28 (dk_at dksX7_moves_0 17 rfl rfl)
theorem dX7_moves_18 : decode cX7_moves 18 = .ok (.iload_n 3, 1) := dk_29 (dk_at dksX7_moves_0 18 rfl rfl)
theorem dX7_moves_19 : decode cX7_moves 19 = .ok (.invokedynamic 30, 5) := by decide +kernel
theorem dX7_moves_24 : decode cX7_moves 24 = .ok (.putfield 11, 3) := dk_181 0 11 (dk_at dksX7_moves_1 0 rfl rfl)
theorem dX7_moves_27 : decode cX7_moves 27 = .ok (.return_, 1) := dk_177 (dk_at dksX7_moves_1 3 rfl rfl)
abbrev cX7_lambda_moves_1 : ByteArray := prog_8_method_5_code
def yX7_lambda_moves_1 : MethodName := ⟨RX7, "lambda$moves$1", "(IIIII)I"⟩
def dkwX7_lambda_moves_1_0 : List UInt8 := [26, 27, 29, 104, 96, 28, 21, 4, 104, 96, 172]
abbrev dktX7_lambda_moves_1_0 : List UInt8 := dkwX7_lambda_moves_1_0 ++ []
theorem dksX7_lambda_moves_1_0 : cX7_lambda_moves_1.data.toList.drop 0 = dktX7_lambda_moves_1_0 := by decide +kernel
theorem dX7_lambda_moves_1_0 : decode cX7_lambda_moves_1 0 = .ok (.iload_n 0, 1) := dk_26 (dk_at dksX7_lambda_moves_1_0 0 rfl rfl)
theorem dX7_lambda_moves_1_1 : decode cX7_lambda_moves_1 1 = .ok (.iload_n 1, 1) := dk_27 (dk_at dksX7_lambda_moves_1_0 1 rfl rfl)
theorem dX7_lambda_moves_1_2 : decode cX7_lambda_moves_1 2 = .ok (.iload_n 3, 1) := dk_29 (dk_at dksX7_lambda_moves_1_0 2 rfl rfl)
theorem dX7_lambda_moves_1_3 : decode cX7_lambda_moves_1 3 = .ok (.imul, 1) := dk_104 (dk_at dksX7_lambda_moves_1_0 3 rfl rfl)
theorem dX7_lambda_moves_1_4 : decode cX7_lambda_moves_1 4 = .ok (.iadd, 1) := dk_96 (dk_at dksX7_lambda_moves_1_0 4 rfl rfl)
theorem dX7_lambda_moves_1_5 : decode cX7_lambda_moves_1 5 = .ok (.iload_n 2, 1) := dk_28 (dk_at dksX7_lambda_moves_1_0 5 rfl rfl)
theorem dX7_lambda_moves_1_6 : decode cX7_lambda_moves_1 6 = .ok (.iload 4, 2) := dk_21 4 (dk_at dksX7_lambda_moves_1_0 6 rfl rfl)
theorem dX7_lambda_moves_1_8 : decode cX7_lambda_moves_1 8 = .ok (.imul, 1) := dk_104 (dk_at dksX7_lambda_moves_1_0 8 rfl rfl)
theorem dX7_lambda_moves_1_9 : decode cX7_lambda_moves_1 9 = .ok (.iadd, 1) := dk_96 (dk_at dksX7_lambda_moves_1_0 9 rfl rfl)
theorem dX7_lambda_moves_1_10 : decode cX7_lambda_moves_1 10 = .ok (.ireturn, 1) := dk_172 (dk_at dksX7_lambda_moves_1_0 10 rfl rfl)
abbrev cX7_isAlike : ByteArray := prog_8_method_3_code
def yX7_isAlike : MethodName := ⟨RX7, "isAlike", "(LStrideTurns$Reference;)Z"⟩
def dkwX7_isAlike_2 : List UInt8 := [167, 0, 4, 3, 172]
abbrev dktX7_isAlike_2 : List UInt8 := dkwX7_isAlike_2 ++ []
def dkwX7_isAlike_1 : List UInt8 := [180, 0, 24, 43, 180, 0, 24, 160, 0, 18, 42, 180, 0, 27, 43, 180, 0, 27, 160, 0, 7, 4]
abbrev dktX7_isAlike_1 : List UInt8 := dkwX7_isAlike_1 ++ dktX7_isAlike_2
def dkwX7_isAlike_0 : List UInt8 := [42, 180, 0, 17, 43, 180, 0, 17, 160, 0, 40, 42, 180, 0, 21, 43, 180, 0, 21, 160, 0, 29, 42]
abbrev dktX7_isAlike_0 : List UInt8 := dkwX7_isAlike_0 ++ dktX7_isAlike_1
theorem dksX7_isAlike_0 : cX7_isAlike.data.toList.drop 0 = dktX7_isAlike_0 := by decide +kernel
theorem dksX7_isAlike_1 : cX7_isAlike.data.toList.drop 23 = dktX7_isAlike_1 := dk_seg dksX7_isAlike_0 23 rfl rfl
theorem dksX7_isAlike_2 : cX7_isAlike.data.toList.drop 45 = dktX7_isAlike_2 := dk_seg dksX7_isAlike_1 22 rfl rfl
theorem dX7_isAlike_0 : decode cX7_isAlike 0 = .ok (.aload_n 0, 1) := dk_42 (dk_at dksX7_isAlike_0 0 rfl rfl)
theorem dX7_isAlike_1 : decode cX7_isAlike 1 = .ok (.getfield 17, 3) := dk_180 0 17 (dk_at dksX7_isAlike_0 1 rfl rfl)
theorem dX7_isAlike_4 : decode cX7_isAlike 4 = .ok (.aload_n 1, 1) := dk_43 (dk_at dksX7_isAlike_0 4 rfl rfl)
theorem dX7_isAlike_5 : decode cX7_isAlike 5 = .ok (.getfield 17, 3) := dk_180 0 17 (dk_at dksX7_isAlike_0 5 rfl rfl)
theorem dX7_isAlike_8 : decode cX7_isAlike 8 = .ok (.if_icmp .ne 40, 3) := dk_160 0 40 (dk_at dksX7_isAlike_0 8 rfl rfl)
theorem dX7_isAlike_11 : decode cX7_isAlike 11 = .ok (.aload_n 0, 1) := dk_42 (dk_at dksX7_isAlike_0 11 rfl rfl)
theorem dX7_isAlike_12 : decode cX7_isAlike 12 = .ok (.getfield 21, 3) := dk_180 0 21 (dk_at dksX7_isAlike_0 12 rfl rfl)
theorem dX7_isAlike_15 : decode cX7_isAlike 15 = .ok (.aload_n 1, 1) := dk_43 (dk_at dksX7_isAlike_0 15 rfl rfl)
theorem dX7_isAlike_16 : decode cX7_isAlike 16 = .ok (.getfield 21, 3) := dk_180 0 21 (dk_at dksX7_isAlike_0 16 rfl rfl)
theorem dX7_isAlike_19 : decode cX7_isAlike 19 = .ok (.if_icmp .ne 29, 3) := dk_160 0 29 (dk_at dksX7_isAlike_0 19 rfl rfl)
theorem dX7_isAlike_22 : decode cX7_isAlike 22 = .ok (.aload_n 0, 1) := dk_42 (dk_at dksX7_isAlike_0 22 rfl rfl)
theorem dX7_isAlike_23 : decode cX7_isAlike 23 = .ok (.getfield 24, 3) := dk_180 0 24 (dk_at dksX7_isAlike_1 0 rfl rfl)
theorem dX7_isAlike_26 : decode cX7_isAlike 26 = .ok (.aload_n 1, 1) := dk_43 (dk_at dksX7_isAlike_1 3 rfl rfl)
theorem dX7_isAlike_27 : decode cX7_isAlike 27 = .ok (.getfield 24, 3) := dk_180 0 24 (dk_at dksX7_isAlike_1 4 rfl rfl)
theorem dX7_isAlike_30 : decode cX7_isAlike 30 = .ok (.if_icmp .ne 18, 3) := dk_160 0 18 (dk_at dksX7_isAlike_1 7 rfl rfl)
theorem dX7_isAlike_33 : decode cX7_isAlike 33 = .ok (.aload_n 0, 1) := dk_42 (dk_at dksX7_isAlike_1 10 rfl rfl)
theorem dX7_isAlike_34 : decode cX7_isAlike 34 = .ok (.getfield 27, 3) := dk_180 0 27 (dk_at dksX7_isAlike_1 11 rfl rfl)
theorem dX7_isAlike_37 : decode cX7_isAlike 37 = .ok (.aload_n 1, 1) := dk_43 (dk_at dksX7_isAlike_1 14 rfl rfl)
theorem dX7_isAlike_38 : decode cX7_isAlike 38 = .ok (.getfield 27, 3) := dk_180 0 27 (dk_at dksX7_isAlike_1 15 rfl rfl)
theorem dX7_isAlike_41 : decode cX7_isAlike 41 = .ok (.if_icmp .ne 7, 3) := dk_160 0 7 (dk_at dksX7_isAlike_1 18 rfl rfl)
theorem dX7_isAlike_44 : decode cX7_isAlike 44 = .ok (.iconst 1, 1) := dk_4 (dk_at dksX7_isAlike_1 21 rfl rfl)
theorem dX7_isAlike_45 : decode cX7_isAlike 45 = .ok (.goto 4, 3) := dk_167 0 4 (dk_at dksX7_isAlike_2 0 rfl rfl)
theorem dX7_isAlike_48 : decode cX7_isAlike 48 = .ok (.iconst 0, 1) := dk_3 (dk_at dksX7_isAlike_2 3 rfl rfl)
theorem dX7_isAlike_49 : decode cX7_isAlike 49 = .ok (.ireturn, 1) := dk_172 (dk_at dksX7_isAlike_2 4 rfl rfl)
abbrev cX7_tells : ByteArray := prog_8_method_4_code
def yX7_tells : MethodName := ⟨RX7, "tells", "(I)I"⟩
def dkwX7_tells_3 : List UInt8 := [180, 0, 27, 172]
abbrev dktX7_tells_3 : List UInt8 := dkwX7_tells_3 ++ []
def dkwX7_tells_2 : List UInt8 := [42, 180, 0, 17, 167, 0, 21, 42, 180, 0, 21, 167, 0, 14, 42, 180, 0, 24, 167, 0, 7, 42]
abbrev dktX7_tells_2 : List UInt8 := dkwX7_tells_2 ++ dktX7_tells_3
def dkwX7_tells_1 : List UInt8 := [170, 0, 0, 0, 0, 0, 48, 0, 0, 0, 0, 0, 0, 0, 2, 0, 0, 0, 27, 0, 0, 0, 34, 0, 0, 0, 41]
abbrev dktX7_tells_1 : List UInt8 := dkwX7_tells_1 ++ dktX7_tells_2
def dkwX7_tells_0 : List UInt8 := [27]
abbrev dktX7_tells_0 : List UInt8 := dkwX7_tells_0 ++ dktX7_tells_1
theorem dksX7_tells_0 : cX7_tells.data.toList.drop 0 = dktX7_tells_0 := by decide +kernel
theorem dksX7_tells_1 : cX7_tells.data.toList.drop 1 = dktX7_tells_1 := dk_seg dksX7_tells_0 1 rfl rfl
theorem dksX7_tells_2 : cX7_tells.data.toList.drop 28 = dktX7_tells_2 := dk_seg dksX7_tells_1 27 rfl rfl
theorem dksX7_tells_3 : cX7_tells.data.toList.drop 50 = dktX7_tells_3 := dk_seg dksX7_tells_2 22 rfl rfl
theorem dX7_tells_0 : decode cX7_tells 0 = .ok (.iload_n 1, 1) := dk_27 (dk_at dksX7_tells_0 0 rfl rfl)
theorem dX7_tells_1 : decode cX7_tells 1 = .ok (.tableswitch 48 0 2 #[27, 34, 41], 27) := by decide +kernel
theorem dX7_tells_28 : decode cX7_tells 28 = .ok (.aload_n 0, 1) := dk_42 (dk_at dksX7_tells_2 0 rfl rfl)
theorem dX7_tells_29 : decode cX7_tells 29 = .ok (.getfield 17, 3) := dk_180 0 17 (dk_at dksX7_tells_2 1 rfl rfl)
theorem dX7_tells_32 : decode cX7_tells 32 = .ok (.goto 21, 3) := dk_167 0 21 (dk_at dksX7_tells_2 4 rfl rfl)
theorem dX7_tells_35 : decode cX7_tells 35 = .ok (.aload_n 0, 1) := dk_42 (dk_at dksX7_tells_2 7 rfl rfl)
theorem dX7_tells_36 : decode cX7_tells 36 = .ok (.getfield 21, 3) := dk_180 0 21 (dk_at dksX7_tells_2 8 rfl rfl)
theorem dX7_tells_39 : decode cX7_tells 39 = .ok (.goto 14, 3) := dk_167 0 14 (dk_at dksX7_tells_2 11 rfl rfl)
theorem dX7_tells_42 : decode cX7_tells 42 = .ok (.aload_n 0, 1) := dk_42 (dk_at dksX7_tells_2 14 rfl rfl)
theorem dX7_tells_43 : decode cX7_tells 43 = .ok (.getfield 24, 3) := dk_180 0 24 (dk_at dksX7_tells_2 15 rfl rfl)
theorem dX7_tells_46 : decode cX7_tells 46 = .ok (.goto 7, 3) := dk_167 0 7 (dk_at dksX7_tells_2 18 rfl rfl)
theorem dX7_tells_49 : decode cX7_tells 49 = .ok (.aload_n 0, 1) := dk_42 (dk_at dksX7_tells_2 21 rfl rfl)
theorem dX7_tells_50 : decode cX7_tells 50 = .ok (.getfield 27, 3) := dk_180 0 27 (dk_at dksX7_tells_3 0 rfl rfl)
theorem dX7_tells_53 : decode cX7_tells 53 = .ok (.ireturn, 1) := dk_172 (dk_at dksX7_tells_3 3 rfl rfl)
theorem q177 : (Jvm.Cond.initialized "StrideTurns$Reference") ∈ lw_all := lw_g (lw_at lw_m1 44 rfl) rfl
theorem q293 : (Jvm.Cond.selects "StrideTurns$Reference" ({ cls := "java/lang/Object", name := "hashCode", desc := "()I" } : Jvm.MethodName) ({ cls := "java/lang/Object", name := "hashCode", desc := "()I" } : Jvm.MethodName)) ∈ lw_all := lw_g (lw_at lw_m1 160 rfl) rfl
theorem q489 : (Jvm.Cond.selects "StrideTurns$Reference" ({ cls := "java/lang/Object", name := "getClass", desc := "()Ljava/lang/Class;" } : Jvm.MethodName) ({ cls := "java/lang/Object", name := "getClass", desc := "()Ljava/lang/Class;" } : Jvm.MethodName)) ∈ lw_all := lw_g (lw_at lw_m2 116 rfl) rfl
theorem q756 : (Jvm.Cond.selects "StrideTurns$Reference" ({ cls := "java/lang/Object", name := "equals", desc := "(Ljava/lang/Object;)Z" } : Jvm.MethodName) ({ cls := "java/lang/Object", name := "equals", desc := "(Ljava/lang/Object;)Z" } : Jvm.MethodName)) ∈ lw_all := lw_g (lw_at lw_m3 143 rfl) rfl
theorem q1659 : (Jvm.Cond.instantiable "StrideTurns$Reference" (5 : Nat)) ∈ lw_all := lw_g (lw_at lw_m7 86 rfl) rfl
theorem q1661 : (Jvm.Cond.instanceMethod ({ cls := "StrideTurns$Reference", name := "<init>", desc := "(I)V" } : Jvm.MethodName)) ∈ lw_all := lw_g (lw_at lw_m7 88 rfl) rfl
theorem q1662 : (Jvm.Cond.code ({ cls := "StrideTurns$Reference", name := "<init>", desc := "(I)V" } : Jvm.MethodName) prog_8_method_1_code (2 : Nat) (Option.none : Option Jvm.ClassFile.FieldType)) ∈ lw_all := lw_g (lw_at lw_m7 89 rfl) rfl
theorem q1663 : (Jvm.Cond.methodLink "StrideTurns$Reference" (1 : Nat) ({ cls := "java/lang/Object", name := "<init>", desc := "()V" } : Jvm.MethodName)) ∈ lw_all := lw_g (lw_at lw_m7 90 rfl) rfl
theorem q1664 : (Jvm.Cond.static ({ cls := "StrideTurns$Reference", name := "lambda$new$0", desc := "(II)I" } : Jvm.MethodName)) ∈ lw_all := lw_g (lw_at lw_m7 91 rfl) rfl
theorem q1665 : (Jvm.Cond.code ({ cls := "StrideTurns$Reference", name := "lambda$new$0", desc := "(II)I" } : Jvm.MethodName) prog_8_method_6_code (2 : Nat) (Option.some Jvm.ClassFile.FieldType.int)) ∈ lw_all := lw_g (lw_at lw_m7 92 rfl) rfl
theorem q1666 : (Jvm.Cond.fieldLink "StrideTurns$Reference" (17 : Nat) "StrideTurns$Reference" "row" "I") ∈ lw_all := lw_g (lw_at lw_m7 93 rfl) rfl
theorem q1670 : (Jvm.Cond.fieldLink "StrideTurns$Reference" (21 : Nat) "StrideTurns$Reference" "from" "I") ∈ lw_all := lw_g (lw_at lw_m7 97 rfl) rfl
theorem q1672 : (Jvm.Cond.fieldLink "StrideTurns$Reference" (24 : Nat) "StrideTurns$Reference" "by" "I") ∈ lw_all := lw_g (lw_at lw_m7 99 rfl) rfl
theorem q1674 : (Jvm.Cond.fieldLink "StrideTurns$Reference" (27 : Nat) "StrideTurns$Reference" "step" "I") ∈ lw_all := lw_g (lw_at lw_m7 101 rfl) rfl
theorem q1677 : (Jvm.Cond.fieldLink "StrideTurns$Reference" (11 : Nat) "StrideTurns$Reference" "where" "LStrideTurns$Where;") ∈ lw_all := lw_g (lw_at lw_m7 104 rfl) rfl
theorem q1681 : (Jvm.Cond.lays "StrideTurns$Reference" "StrideTurns$Reference" "row" "I") ∈ lw_all := lw_g (lw_at lw_m7 108 rfl) rfl
theorem q1682 : (Jvm.Cond.soleField "StrideTurns$Reference" "row") ∈ lw_all := lw_g (lw_at lw_m7 109 rfl) rfl
theorem q1683 : (Jvm.Cond.lays "StrideTurns$Reference" "StrideTurns$Reference" "from" "I") ∈ lw_all := lw_g (lw_at lw_m7 110 rfl) rfl
theorem q1684 : (Jvm.Cond.soleField "StrideTurns$Reference" "from") ∈ lw_all := lw_g (lw_at lw_m7 111 rfl) rfl
theorem q1685 : (Jvm.Cond.lays "StrideTurns$Reference" "StrideTurns$Reference" "by" "I") ∈ lw_all := lw_g (lw_at lw_m7 112 rfl) rfl
theorem q1686 : (Jvm.Cond.soleField "StrideTurns$Reference" "by") ∈ lw_all := lw_g (lw_at lw_m7 113 rfl) rfl
theorem q1687 : (Jvm.Cond.lays "StrideTurns$Reference" "StrideTurns$Reference" "step" "I") ∈ lw_all := lw_g (lw_at lw_m7 114 rfl) rfl
theorem q1688 : (Jvm.Cond.soleField "StrideTurns$Reference" "step") ∈ lw_all := lw_g (lw_at lw_m7 115 rfl) rfl
theorem q1689 : (Jvm.Cond.lays "StrideTurns$Reference" "StrideTurns$Reference" "where" "LStrideTurns$Where;") ∈ lw_all := lw_g (lw_at lw_m7 116 rfl) rfl
theorem q1690 : (Jvm.Cond.soleField "StrideTurns$Reference" "where") ∈ lw_all := lw_g (lw_at lw_m7 117 rfl) rfl
theorem q1691 : (Jvm.Cond.superclass "StrideTurns$Reference" "java/lang/Object") ∈ lw_all := lw_g (lw_at lw_m7 118 rfl) rfl
theorem q1799 : (Jvm.Cond.instanceMethod ({ cls := "StrideTurns$Reference", name := "moves", desc := "(III)V" } : Jvm.MethodName)) ∈ lw_all := lw_g (lw_at lw_m7 226 rfl) rfl
theorem q1800 : (Jvm.Cond.selects "StrideTurns$Reference" ({ cls := "StrideTurns$Reference", name := "moves", desc := "(III)V" } : Jvm.MethodName) ({ cls := "StrideTurns$Reference", name := "moves", desc := "(III)V" } : Jvm.MethodName)) ∈ lw_all := lw_g (lw_at lw_m7 227 rfl) rfl
theorem q1801 : (Jvm.Cond.code ({ cls := "StrideTurns$Reference", name := "moves", desc := "(III)V" } : Jvm.MethodName) prog_8_method_2_code (4 : Nat) (Option.none : Option Jvm.ClassFile.FieldType)) ∈ lw_all := lw_g (lw_at lw_m7 228 rfl) rfl
theorem q1802 : (Jvm.Cond.static ({ cls := "StrideTurns$Reference", name := "lambda$moves$1", desc := "(IIIII)I" } : Jvm.MethodName)) ∈ lw_all := lw_g (lw_at lw_m7 229 rfl) rfl
theorem q1803 : (Jvm.Cond.code ({ cls := "StrideTurns$Reference", name := "lambda$moves$1", desc := "(IIIII)I" } : Jvm.MethodName) prog_8_method_5_code (5 : Nat) (Option.some Jvm.ClassFile.FieldType.int)) ∈ lw_all := lw_g (lw_at lw_m7 230 rfl) rfl
theorem q1866 : (Jvm.Cond.instanceMethod ({ cls := "StrideTurns$Reference", name := "isAlike", desc := "(LStrideTurns$Reference;)Z" } : Jvm.MethodName)) ∈ lw_all := lw_g (lw_at lw_m8 53 rfl) rfl
theorem q1867 : (Jvm.Cond.selects "StrideTurns$Reference" ({ cls := "StrideTurns$Reference", name := "isAlike", desc := "(LStrideTurns$Reference;)Z" } : Jvm.MethodName) ({ cls := "StrideTurns$Reference", name := "isAlike", desc := "(LStrideTurns$Reference;)Z" } : Jvm.MethodName)) ∈ lw_all := lw_g (lw_at lw_m8 54 rfl) rfl
theorem q1868 : (Jvm.Cond.code ({ cls := "StrideTurns$Reference", name := "isAlike", desc := "(LStrideTurns$Reference;)Z" } : Jvm.MethodName) prog_8_method_3_code (2 : Nat) (Option.some Jvm.ClassFile.FieldType.boolean)) ∈ lw_all := lw_g (lw_at lw_m8 55 rfl) rfl
theorem q1899 : (Jvm.Cond.instanceMethod ({ cls := "StrideTurns$Reference", name := "tells", desc := "(I)I" } : Jvm.MethodName)) ∈ lw_all := lw_g (lw_at lw_m8 86 rfl) rfl
theorem q1900 : (Jvm.Cond.selects "StrideTurns$Reference" ({ cls := "StrideTurns$Reference", name := "tells", desc := "(I)I" } : Jvm.MethodName) ({ cls := "StrideTurns$Reference", name := "tells", desc := "(I)I" } : Jvm.MethodName)) ∈ lw_all := lw_g (lw_at lw_m8 87 rfl) rfl
theorem q1901 : (Jvm.Cond.code ({ cls := "StrideTurns$Reference", name := "tells", desc := "(I)I" } : Jvm.MethodName) prog_8_method_4_code (2 : Nat) (Option.some Jvm.ClassFile.FieldType.int)) ∈ lw_all := lw_g (lw_at lw_m8 88 rfl) rfl
theorem q3222 : (Jvm.Cond.castable "StrideTurns$Reference" "java/lang/Object") ∈ lw_tbl := lw_at lw_m13 209 rfl
theorem in_X7 : ∀ w ∈ wsX70, w ∈ lw_all := lw_in wsX70 [1681, 1683, 1685, 1687, 1689] (by decide +kernel) (by decide +kernel)
