/-! java/lang/Double -/
set_option maxRecDepth 100000
def RJ28 : String := "java/lang/Double"
abbrev cJ28_doubleToLongBits : ByteArray := prog_29_method_23_code
def yJ28_doubleToLongBits : MethodName := ⟨RJ28, "doubleToLongBits", "(D)J"⟩
def dkwJ28_doubleToLongBits_0 : List UInt8 := [38, 184, 0, 122, 154, 0, 8, 38, 184, 0, 134, 173, 20, 0, 137, 173]
abbrev dktJ28_doubleToLongBits_0 : List UInt8 := dkwJ28_doubleToLongBits_0 ++ []
theorem dksJ28_doubleToLongBits_0 : cJ28_doubleToLongBits.data.toList.drop 0 = dktJ28_doubleToLongBits_0 := by decide +kernel
theorem dJ28_doubleToLongBits_0 : decode cJ28_doubleToLongBits 0 = .ok (.dload_n 0, 1) := dk_38 (dk_at dksJ28_doubleToLongBits_0 0 rfl rfl)
theorem dJ28_doubleToLongBits_1 : decode cJ28_doubleToLongBits 1 = .ok (.invokestatic 122, 3) := dk_184 0 122 (dk_at dksJ28_doubleToLongBits_0 1 rfl rfl)
theorem dJ28_doubleToLongBits_4 : decode cJ28_doubleToLongBits 4 = .ok (.ifCond .ne 8, 3) := dk_154 0 8 (dk_at dksJ28_doubleToLongBits_0 4 rfl rfl)
theorem dJ28_doubleToLongBits_7 : decode cJ28_doubleToLongBits 7 = .ok (.dload_n 0, 1) := dk_38 (dk_at dksJ28_doubleToLongBits_0 7 rfl rfl)
theorem dJ28_doubleToLongBits_8 : decode cJ28_doubleToLongBits 8 = .ok (.invokestatic 134, 3) := dk_184 0 134 (dk_at dksJ28_doubleToLongBits_0 8 rfl rfl)
theorem dJ28_doubleToLongBits_11 : decode cJ28_doubleToLongBits 11 = .ok (.lreturn, 1) := dk_173 (dk_at dksJ28_doubleToLongBits_0 11 rfl rfl)
theorem dJ28_doubleToLongBits_12 : decode cJ28_doubleToLongBits 12 = .ok (.ldc2_w 137, 3) := dk_20 0 137 (dk_at dksJ28_doubleToLongBits_0 12 rfl rfl)
theorem dJ28_doubleToLongBits_15 : decode cJ28_doubleToLongBits 15 = .ok (.lreturn, 1) := dk_173 (dk_at dksJ28_doubleToLongBits_0 15 rfl rfl)
abbrev cJ28_isNaN : ByteArray := prog_29_method_6_code
def yJ28_isNaN : MethodName := ⟨RJ28, "isNaN", "(D)Z"⟩
def dkwJ28_isNaN_0 : List UInt8 := [38, 38, 151, 153, 0, 7, 4, 167, 0, 4, 3, 172]
abbrev dktJ28_isNaN_0 : List UInt8 := dkwJ28_isNaN_0 ++ []
theorem dksJ28_isNaN_0 : cJ28_isNaN.data.toList.drop 0 = dktJ28_isNaN_0 := by decide +kernel
theorem dJ28_isNaN_0 : decode cJ28_isNaN 0 = .ok (.dload_n 0, 1) := dk_38 (dk_at dksJ28_isNaN_0 0 rfl rfl)
theorem dJ28_isNaN_1 : decode cJ28_isNaN 1 = .ok (.dload_n 0, 1) := dk_38 (dk_at dksJ28_isNaN_0 1 rfl rfl)
theorem dJ28_isNaN_2 : decode cJ28_isNaN 2 = .ok (.dcmp .l, 1) := dk_151 (dk_at dksJ28_isNaN_0 2 rfl rfl)
theorem dJ28_isNaN_3 : decode cJ28_isNaN 3 = .ok (.ifCond .eq 7, 3) := dk_153 0 7 (dk_at dksJ28_isNaN_0 3 rfl rfl)
theorem dJ28_isNaN_6 : decode cJ28_isNaN 6 = .ok (.iconst 1, 1) := dk_4 (dk_at dksJ28_isNaN_0 6 rfl rfl)
theorem dJ28_isNaN_7 : decode cJ28_isNaN 7 = .ok (.goto 4, 3) := dk_167 0 4 (dk_at dksJ28_isNaN_0 7 rfl rfl)
theorem dJ28_isNaN_10 : decode cJ28_isNaN 10 = .ok (.iconst 0, 1) := dk_3 (dk_at dksJ28_isNaN_0 10 rfl rfl)
theorem dJ28_isNaN_11 : decode cJ28_isNaN 11 = .ok (.ireturn, 1) := dk_172 (dk_at dksJ28_isNaN_0 11 rfl rfl)
theorem q169 : (Jvm.Cond.initialized "java/lang/Double") ∈ lw_all := lw_g (lw_at lw_m1 36 rfl) rfl
theorem q1350 : (Jvm.Cond.static ({ cls := "java/lang/Double", name := "doubleToLongBits", desc := "(D)J" } : Jvm.MethodName)) ∈ lw_all := lw_g (lw_at lw_m6 17 rfl) rfl
theorem q1351 : (Jvm.Cond.code ({ cls := "java/lang/Double", name := "doubleToLongBits", desc := "(D)J" } : Jvm.MethodName) prog_29_method_23_code (2 : Nat) (Option.some Jvm.ClassFile.FieldType.long)) ∈ lw_all := lw_g (lw_at lw_m6 18 rfl) rfl
theorem q1352 : (Jvm.Cond.methodLink "java/lang/Double" (122 : Nat) ({ cls := "java/lang/Double", name := "isNaN", desc := "(D)Z" } : Jvm.MethodName)) ∈ lw_all := lw_g (lw_at lw_m6 19 rfl) rfl
theorem q1353 : (Jvm.Cond.static ({ cls := "java/lang/Double", name := "isNaN", desc := "(D)Z" } : Jvm.MethodName)) ∈ lw_all := lw_g (lw_at lw_m6 20 rfl) rfl
theorem q1354 : (Jvm.Cond.code ({ cls := "java/lang/Double", name := "isNaN", desc := "(D)Z" } : Jvm.MethodName) prog_29_method_6_code (2 : Nat) (Option.some Jvm.ClassFile.FieldType.boolean)) ∈ lw_all := lw_g (lw_at lw_m6 21 rfl) rfl
theorem q1355 : (Jvm.Cond.methodLink "java/lang/Double" (134 : Nat) ({ cls := "java/lang/Double", name := "doubleToRawLongBits", desc := "(D)J" } : Jvm.MethodName)) ∈ lw_all := lw_g (lw_at lw_m6 22 rfl) rfl
theorem q1356 : (Jvm.Cond.static ({ cls := "java/lang/Double", name := "doubleToRawLongBits", desc := "(D)J" } : Jvm.MethodName)) ∈ lw_all := lw_g (lw_at lw_m6 23 rfl) rfl
theorem q1357 : (Jvm.Cond.native ({ cls := "java/lang/Double", name := "doubleToRawLongBits", desc := "(D)J" } : Jvm.MethodName)) ∈ lw_all := lw_g (lw_at lw_m6 24 rfl) rfl
theorem q1358 : (Jvm.Cond.constantLong "java/lang/Double" (137 : Nat) (9221120237041090560 : Int64)) ∈ lw_all := lw_g (lw_at lw_m6 25 rfl) rfl
