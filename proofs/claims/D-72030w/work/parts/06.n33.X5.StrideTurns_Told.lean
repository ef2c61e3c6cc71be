/-! StrideTurns$Told -/
set_option maxRecDepth 100000
def RX5 : String := "StrideTurns$Told"
def TX5 : u_T := fun k => match k with
  | _ => ("StrideTurns$Told", "act", "LStrideTurns$Act;", true)
def tyX5 : Nat → FieldType := fun k => match k with
  | _ => .object "StrideTurns$Act"
abbrev wsX50 : List Cond := u_ws RX5 TX5 1
theorem nmX5 : ∀ a, a < 1 → ∀ b, b < 1 → a ≠ b → (TX5 a).2.1 ≠ (TX5 b).2.1 := by decide +kernel
theorem tyX5_ok : ∀ k, k < 1 → parseFieldDescriptor (TX5 k).2.2.1 = some (tyX5 k) := by decide +kernel
abbrev cX5_init : ByteArray := prog_13_method_1_code
def yX5_init : MethodName := ⟨RX5, "<init>", "(LStrideTurns$Act;)V"⟩
def dkwX5_init_0 : List UInt8 := [42, 183, 0, 1, 42, 43, 181, 0, 7, 177]
abbrev dktX5_init_0 : List UInt8 := dkwX5_init_0 ++ []
theorem dksX5_init_0 : cX5_init.data.toList.drop 0 = dktX5_init_0 := by decide +kernel
theorem dX5_init_0 : decode cX5_init 0 = .ok (.aload_n 0, 1) := dk_42 (dk_at dksX5_init_0 0 rfl rfl)
theorem dX5_init_1 : decode cX5_init 1 = .ok (.invokespecial 1, 3) := dk_183 0 1 (dk_at dksX5_init_0 1 rfl rfl)
theorem dX5_init_4 : decode cX5_init 4 = .ok (.aload_n 0, 1) := dk_42 (dk_at dksX5_init_0 4 rfl rfl)
theorem dX5_init_5 : decode cX5_init 5 = .ok (.aload_n 1, 1) := dk_43 (dk_at dksX5_init_0 5 rfl rfl)
theorem dX5_init_6 : decode cX5_init 6 = .ok (.putfield 7, 3) := dk_181 0 7 (dk_at dksX5_init_0 6 rfl rfl)
theorem dX5_init_9 : decode cX5_init 9 = .ok (.return_, 1) := dk_177 (dk_at dksX5_init_0 9 rfl rfl)
theorem q172 : (Jvm.Cond.initialized "StrideTurns$Told") ∈ lw_all := lw_g (lw_at lw_m1 39 rfl) rfl
theorem q300 : (Jvm.Cond.selects "StrideTurns$Told" ({ cls := "java/lang/Object", name := "hashCode", desc := "()I" } : Jvm.MethodName) ({ cls := "java/lang/Object", name := "hashCode", desc := "()I" } : Jvm.MethodName)) ∈ lw_all := lw_g (lw_at lw_m1 167 rfl) rfl
theorem q494 : (Jvm.Cond.selects "StrideTurns$Told" ({ cls := "java/lang/Object", name := "getClass", desc := "()Ljava/lang/Class;" } : Jvm.MethodName) ({ cls := "java/lang/Object", name := "getClass", desc := "()Ljava/lang/Class;" } : Jvm.MethodName)) ∈ lw_all := lw_g (lw_at lw_m2 121 rfl) rfl
theorem q764 : (Jvm.Cond.selects "StrideTurns$Told" ({ cls := "java/lang/Object", name := "equals", desc := "(Ljava/lang/Object;)Z" } : Jvm.MethodName) ({ cls := "java/lang/Object", name := "equals", desc := "(Ljava/lang/Object;)Z" } : Jvm.MethodName)) ∈ lw_all := lw_g (lw_at lw_m3 151 rfl) rfl
theorem q1411 : (Jvm.Cond.instantiable "StrideTurns$Told" (1 : Nat)) ∈ lw_all := lw_g (lw_at lw_m6 78 rfl) rfl
theorem q1413 : (Jvm.Cond.instanceMethod ({ cls := "StrideTurns$Told", name := "<init>", desc := "(LStrideTurns$Act;)V" } : Jvm.MethodName)) ∈ lw_all := lw_g (lw_at lw_m6 80 rfl) rfl
theorem q1414 : (Jvm.Cond.code ({ cls := "StrideTurns$Told", name := "<init>", desc := "(LStrideTurns$Act;)V" } : Jvm.MethodName) prog_13_method_1_code (2 : Nat) (Option.none : Option Jvm.ClassFile.FieldType)) ∈ lw_all := lw_g (lw_at lw_m6 81 rfl) rfl
theorem q1415 : (Jvm.Cond.methodLink "StrideTurns$Told" (1 : Nat) ({ cls := "java/lang/Object", name := "<init>", desc := "()V" } : Jvm.MethodName)) ∈ lw_all := lw_g (lw_at lw_m6 82 rfl) rfl
theorem q1416 : (Jvm.Cond.fieldLink "StrideTurns$Told" (7 : Nat) "StrideTurns$Told" "act" "LStrideTurns$Act;") ∈ lw_all := lw_g (lw_at lw_m6 83 rfl) rfl
theorem q1418 : (Jvm.Cond.laysFinal "StrideTurns$Told" "StrideTurns$Told" "act" "LStrideTurns$Act;") ∈ lw_all := lw_g (lw_at lw_m6 85 rfl) rfl
theorem q1419 : (Jvm.Cond.soleField "StrideTurns$Told" "act") ∈ lw_all := lw_g (lw_at lw_m6 86 rfl) rfl
theorem q1420 : (Jvm.Cond.superclass "StrideTurns$Told" "java/lang/Object") ∈ lw_all := lw_g (lw_at lw_m6 87 rfl) rfl
theorem q3238 : (Jvm.Cond.castable "StrideTurns$Told" "java/lang/Object") ∈ lw_tbl := lw_at lw_m13 225 rfl
theorem in_X5 : ∀ w ∈ wsX50, w ∈ lw_all := lw_in wsX50 [1418] (by decide +kernel) (by decide +kernel)
