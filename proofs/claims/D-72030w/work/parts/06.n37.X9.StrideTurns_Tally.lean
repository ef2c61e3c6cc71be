/-! StrideTurns$Tally -/
set_option maxRecDepth 100000
def RX9 : String := "StrideTurns$Tally"
def TX9 : u_T := fun k => match k with
  | 0 => ("StrideTurns$Tally", "section", "LStrideTurns$Section;", true)
  | _ => ("StrideTurns$Tally", "times", "I", false)
def tyX9 : Nat → FieldType := fun k => match k with
  | 0 => .object "StrideTurns$Section"
  | _ => .int
abbrev wsX90 : List Cond := u_ws RX9 TX9 2
theorem nmX9 : ∀ a, a < 2 → ∀ b, b < 2 → a ≠ b → (TX9 a).2.1 ≠ (TX9 b).2.1 := by decide +kernel
theorem tyX9_ok : ∀ k, k < 2 → parseFieldDescriptor (TX9 k).2.2.1 = some (tyX9 k) := by decide +kernel
abbrev cX9_init : ByteArray := prog_12_method_1_code
def yX9_init : MethodName := ⟨RX9, "<init>", "(LStrideTurns$Section;)V"⟩
def dkwX9_init_0 : List UInt8 := [42, 183, 0, 1, 42, 43, 181, 0, 7, 177]
abbrev dktX9_init_0 : List UInt8 := dkwX9_init_0 ++ []
theorem dksX9_init_0 : cX9_init.data.toList.drop 0 = dktX9_init_0 := by decide +kernel
theorem dX9_init_0 : decode cX9_init 0 = .ok (.aload_n 0, 1) := dk_42 (dk_at dksX9_init_0 0 rfl rfl)
theorem dX9_init_1 : decode cX9_init 1 = .ok (.invokespecial 1, 3) := dk_183 0 1 (dk_at dksX9_init_0 1 rfl rfl)
theorem dX9_init_4 : decode cX9_init 4 = .ok (.aload_n 0, 1) := dk_42 (dk_at dksX9_init_0 4 rfl rfl)
theorem dX9_init_5 : decode cX9_init 5 = .ok (.aload_n 1, 1) := dk_43 (dk_at dksX9_init_0 5 rfl rfl)
theorem dX9_init_6 : decode cX9_init 6 = .ok (.putfield 7, 3) := dk_181 0 7 (dk_at dksX9_init_0 6 rfl rfl)
theorem dX9_init_9 : decode cX9_init 9 = .ok (.return_, 1) := dk_177 (dk_at dksX9_init_0 9 rfl rfl)
theorem q181 : (Jvm.Cond.initialized "StrideTurns$Tally") ∈ lw_all := lw_g (lw_at lw_m1 48 rfl) rfl
theorem q299 : (Jvm.Cond.selects "StrideTurns$Tally" ({ cls := "java/lang/Object", name := "hashCode", desc := "()I" } : Jvm.MethodName) ({ cls := "java/lang/Object", name := "hashCode", desc := "()I" } : Jvm.MethodName)) ∈ lw_all := lw_g (lw_at lw_m1 166 rfl) rfl
theorem q493 : (Jvm.Cond.selects "StrideTurns$Tally" ({ cls := "java/lang/Object", name := "getClass", desc := "()Ljava/lang/Class;" } : Jvm.MethodName) ({ cls := "java/lang/Object", name := "getClass", desc := "()Ljava/lang/Class;" } : Jvm.MethodName)) ∈ lw_all := lw_g (lw_at lw_m2 120 rfl) rfl
theorem q763 : (Jvm.Cond.selects "StrideTurns$Tally" ({ cls := "java/lang/Object", name := "equals", desc := "(Ljava/lang/Object;)Z" } : Jvm.MethodName) ({ cls := "java/lang/Object", name := "equals", desc := "(Ljava/lang/Object;)Z" } : Jvm.MethodName)) ∈ lw_all := lw_g (lw_at lw_m3 150 rfl) rfl
theorem q2020 : (Jvm.Cond.instantiable "StrideTurns$Tally" (2 : Nat)) ∈ lw_all := lw_g (lw_at lw_m8 207 rfl) rfl
theorem q2022 : (Jvm.Cond.instanceMethod ({ cls := "StrideTurns$Tally", name := "<init>", desc := "(LStrideTurns$Section;)V" } : Jvm.MethodName)) ∈ lw_all := lw_g (lw_at lw_m8 209 rfl) rfl
theorem q2023 : (Jvm.Cond.code ({ cls := "StrideTurns$Tally", name := "<init>", desc := "(LStrideTurns$Section;)V" } : Jvm.MethodName) prog_12_method_1_code (2 : Nat) (Option.none : Option Jvm.ClassFile.FieldType)) ∈ lw_all := lw_g (lw_at lw_m8 210 rfl) rfl
theorem q2024 : (Jvm.Cond.methodLink "StrideTurns$Tally" (1 : Nat) ({ cls := "java/lang/Object", name := "<init>", desc := "()V" } : Jvm.MethodName)) ∈ lw_all := lw_g (lw_at lw_m8 211 rfl) rfl
theorem q2025 : (Jvm.Cond.fieldLink "StrideTurns$Tally" (7 : Nat) "StrideTurns$Tally" "section" "LStrideTurns$Section;") ∈ lw_all := lw_g (lw_at lw_m8 212 rfl) rfl
theorem q2028 : (Jvm.Cond.laysFinal "StrideTurns$Tally" "StrideTurns$Tally" "section" "LStrideTurns$Section;") ∈ lw_all := lw_g (lw_at lw_m8 215 rfl) rfl
theorem q2029 : (Jvm.Cond.soleField "StrideTurns$Tally" "section") ∈ lw_all := lw_g (lw_at lw_m8 216 rfl) rfl
theorem q2030 : (Jvm.Cond.lays "StrideTurns$Tally" "StrideTurns$Tally" "times" "I") ∈ lw_all := lw_g (lw_at lw_m8 217 rfl) rfl
theorem q2031 : (Jvm.Cond.soleField "StrideTurns$Tally" "times") ∈ lw_all := lw_g (lw_at lw_m8 218 rfl) rfl
theorem q2032 : (Jvm.Cond.superclass "StrideTurns$Tally" "java/lang/Object") ∈ lw_all := lw_g (lw_at lw_m8 219 rfl) rfl
theorem q3244 : (Jvm.Cond.castable "StrideTurns$Tally" "java/lang/Object") ∈ lw_tbl := lw_at lw_m13 231 rfl
theorem in_X9 : ∀ w ∈ wsX90, w ∈ lw_all := lw_in wsX90 [2028, 2030] (by decide +kernel) (by decide +kernel)
