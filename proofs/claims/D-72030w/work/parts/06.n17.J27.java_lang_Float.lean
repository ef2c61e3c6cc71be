/-! java/lang/Float -/
set_option maxRecDepth 100000
def RJ27 : String := "java/lang/Float"
abbrev cJ27_floatToIntBits : ByteArray := prog_31_method_24_code
def yJ27_floatToIntBits : MethodName := ⟨RJ27, "floatToIntBits", "(F)I"⟩
def dkwJ27_floatToIntBits_0 : List UInt8 := [34, 184, 0, 59, 154, 0, 8, 34, 184, 0, 74, 172, 18, 77, 172]
abbrev dktJ27_floatToIntBits_0 : List UInt8 := dkwJ27_floatToIntBits_0 ++ []
theorem dksJ27_floatToIntBits_0 : cJ27_floatToIntBits.data.toList.drop 0 = dktJ27_floatToIntBits_0 := by decide +kernel
theorem dJ27_floatToIntBits_0 : decode cJ27_floatToIntBits 0 = .ok (.fload_n 0, 1) := dk_34 (dk_at dksJ27_floatToIntBits_0 0 rfl rfl)
theorem dJ27_floatToIntBits_1 : decode cJ27_floatToIntBits 1 = .ok (.invokestatic 59, 3) := dk_184 0 59 (dk_at dksJ27_floatToIntBits_0 1 rfl rfl)
theorem dJ27_floatToIntBits_4 : decode cJ27_floatToIntBits 4 = .ok (.ifCond .ne 8, 3) := dk_154 0 8 (dk_at dksJ27_floatToIntBits_0 4 rfl rfl)
theorem dJ27_floatToIntBits_7 : decode cJ27_floatToIntBits 7 = .ok (.fload_n 0, 1) := dk_34 (dk_at dksJ27_floatToIntBits_0 7 rfl rfl)
theorem dJ27_floatToIntBits_8 : decode cJ27_floatToIntBits 8 = .ok (.invokestatic 74, 3) := dk_184 0 74 (dk_at dksJ27_floatToIntBits_0 8 rfl rfl)
theorem dJ27_floatToIntBits_11 : decode cJ27_floatToIntBits 11 = .ok (.ireturn, 1) := dk_172 (dk_at dksJ27_floatToIntBits_0 11 rfl rfl)
theorem dJ27_floatToIntBits_12 : decode cJ27_floatToIntBits 12 = .ok (.ldc 77, 2) := dk_18 77 (dk_at dksJ27_floatToIntBits_0 12 rfl rfl)
theorem dJ27_floatToIntBits_14 : decode cJ27_floatToIntBits 14 = .ok (.ireturn, 1) := dk_172 (dk_at dksJ27_floatToIntBits_0 14 rfl rfl)
abbrev cJ27_isNaN : ByteArray := prog_31_method_6_code
def yJ27_isNaN : MethodName := ⟨RJ27, "isNaN", "(F)Z"⟩
def dkwJ27_isNaN_0 : List UInt8 := [34, 34, 149, 153, 0, 7, 4, 167, 0, 4, 3, 172]
abbrev dktJ27_isNaN_0 : List UInt8 := dkwJ27_isNaN_0 ++ []
theorem dksJ27_isNaN_0 : cJ27_isNaN.data.toList.drop 0 = dktJ27_isNaN_0 := by decide +kernel
theorem dJ27_isNaN_0 : decode cJ27_isNaN 0 = .ok (.fload_n 0, 1) := dk_34 (dk_at dksJ27_isNaN_0 0 rfl rfl)
theorem dJ27_isNaN_1 : decode cJ27_isNaN 1 = .ok (.fload_n 0, 1) := dk_34 (dk_at dksJ27_isNaN_0 1 rfl rfl)
theorem dJ27_isNaN_2 : decode cJ27_isNaN 2 = .ok (.fcmp .l, 1) := dk_149 (dk_at dksJ27_isNaN_0 2 rfl rfl)
theorem dJ27_isNaN_3 : decode cJ27_isNaN 3 = .ok (.ifCond .eq 7, 3) := dk_153 0 7 (dk_at dksJ27_isNaN_0 3 rfl rfl)
theorem dJ27_isNaN_6 : decode cJ27_isNaN 6 = .ok (.iconst 1, 1) := dk_4 (dk_at dksJ27_isNaN_0 6 rfl rfl)
theorem dJ27_isNaN_7 : decode cJ27_isNaN 7 = .ok (.goto 4, 3) := dk_167 0 4 (dk_at dksJ27_isNaN_0 7 rfl rfl)
theorem dJ27_isNaN_10 : decode cJ27_isNaN 10 = .ok (.iconst 0, 1) := dk_3 (dk_at dksJ27_isNaN_0 10 rfl rfl)
theorem dJ27_isNaN_11 : decode cJ27_isNaN 11 = .ok (.ireturn, 1) := dk_172 (dk_at dksJ27_isNaN_0 11 rfl rfl)
theorem q168 : (Jvm.Cond.initialized "java/lang/Float") ∈ lw_all := lw_g (lw_at lw_m1 35 rfl) rfl
theorem q1340 : (Jvm.Cond.static ({ cls := "java/lang/Float", name := "floatToIntBits", desc := "(F)I" } : Jvm.MethodName)) ∈ lw_all := lw_g (lw_at lw_m6 7 rfl) rfl
theorem q1341 : (Jvm.Cond.code ({ cls := "java/lang/Float", name := "floatToIntBits", desc := "(F)I" } : Jvm.MethodName) prog_31_method_24_code (1 : Nat) (Option.some Jvm.ClassFile.FieldType.int)) ∈ lw_all := lw_g (lw_at lw_m6 8 rfl) rfl
theorem q1342 : (Jvm.Cond.methodLink "java/lang/Float" (59 : Nat) ({ cls := "java/lang/Float", name := "isNaN", desc := "(F)Z" } : Jvm.MethodName)) ∈ lw_all := lw_g (lw_at lw_m6 9 rfl) rfl
theorem q1343 : (Jvm.Cond.static ({ cls := "java/lang/Float", name := "isNaN", desc := "(F)Z" } : Jvm.MethodName)) ∈ lw_all := lw_g (lw_at lw_m6 10 rfl) rfl
theorem q1344 : (Jvm.Cond.code ({ cls := "java/lang/Float", name := "isNaN", desc := "(F)Z" } : Jvm.MethodName) prog_31_method_6_code (1 : Nat) (Option.some Jvm.ClassFile.FieldType.boolean)) ∈ lw_all := lw_g (lw_at lw_m6 11 rfl) rfl
theorem q1345 : (Jvm.Cond.methodLink "java/lang/Float" (74 : Nat) ({ cls := "java/lang/Float", name := "floatToRawIntBits", desc := "(F)I" } : Jvm.MethodName)) ∈ lw_all := lw_g (lw_at lw_m6 12 rfl) rfl
theorem q1346 : (Jvm.Cond.static ({ cls := "java/lang/Float", name := "floatToRawIntBits", desc := "(F)I" } : Jvm.MethodName)) ∈ lw_all := lw_g (lw_at lw_m6 13 rfl) rfl
theorem q1347 : (Jvm.Cond.native ({ cls := "java/lang/Float", name := "floatToRawIntBits", desc := "(F)I" } : Jvm.MethodName)) ∈ lw_all := lw_g (lw_at lw_m6 14 rfl) rfl
theorem q1348 : (Jvm.Cond.constant "java/lang/Float" (77 : Nat) (2143289344 : Int32)) ∈ lw_all := lw_g (lw_at lw_m6 15 rfl) rfl
