/-! java/lang/Object -/
set_option maxRecDepth 100000
def RJ40 : String := "java/lang/Object"
abbrev cJ40_init : ByteArray := object_method_1_code
def yJ40_init : MethodName := ⟨RJ40, "<init>", "()V"⟩
theorem dJ40_init_0 : decode cJ40_init 0 = .ok (.return_, 1) := by decide +kernel
abbrev cJ40_equals : ByteArray := object_method_4_code
def yJ40_equals : MethodName := ⟨RJ40, "equals", "(Ljava/lang/Object;)Z"⟩
def dkwJ40_equals_0 : List UInt8 := [42, 43, 166, 0, 7, 4, 167, 0, 4, 3, 172]
abbrev dktJ40_equals_0 : List UInt8 := dkwJ40_equals_0 ++ []
theorem dksJ40_equals_0 : cJ40_equals.data.toList.drop 0 = dktJ40_equals_0 := by decide +kernel
theorem dJ40_equals_0 : decode cJ40_equals 0 = .ok (.aload_n 0, 1) := dk_42 (dk_at dksJ40_equals_0 0 rfl rfl)
theorem dJ40_equals_1 : decode cJ40_equals 1 = .ok (.aload_n 1, 1) := dk_43 (dk_at dksJ40_equals_0 1 rfl rfl)
theorem dJ40_equals_2 : decode cJ40_equals 2 = .ok (.if_acmp .ne 7, 3) := dk_166 0 7 (dk_at dksJ40_equals_0 2 rfl rfl)
theorem dJ40_equals_5 : decode cJ40_equals 5 = .ok (.iconst 1, 1) := dk_4 (dk_at dksJ40_equals_0 5 rfl rfl)
theorem dJ40_equals_6 : decode cJ40_equals 6 = .ok (.goto 4, 3) := dk_167 0 4 (dk_at dksJ40_equals_0 6 rfl rfl)
theorem dJ40_equals_9 : decode cJ40_equals 9 = .ok (.iconst 0, 1) := dk_3 (dk_at dksJ40_equals_0 9 rfl rfl)
theorem dJ40_equals_10 : decode cJ40_equals 10 = .ok (.ireturn, 1) := dk_172 (dk_at dksJ40_equals_0 10 rfl rfl)
theorem q193 : (Jvm.Cond.instanceMethod ({ cls := "java/lang/Object", name := "<init>", desc := "()V" } : Jvm.MethodName)) ∈ lw_all := lw_g (lw_at lw_m1 60 rfl) rfl
theorem q194 : (Jvm.Cond.code ({ cls := "java/lang/Object", name := "<init>", desc := "()V" } : Jvm.MethodName) object_method_1_code (1 : Nat) (Option.none : Option Jvm.ClassFile.FieldType)) ∈ lw_all := lw_g (lw_at lw_m1 61 rfl) rfl
theorem q287 : (Jvm.Cond.declares ({ cls := "java/lang/Object", name := "hashCode", desc := "()I" } : Jvm.MethodName)) ∈ lw_tbl := lw_at lw_m1 154 rfl
theorem q289 : (Jvm.Cond.instanceMethod ({ cls := "java/lang/Object", name := "hashCode", desc := "()I" } : Jvm.MethodName)) ∈ lw_all := lw_g (lw_at lw_m1 156 rfl) rfl
theorem q290 : (Jvm.Cond.sameMethod "java/lang/Object" "java/lang/Object" "hashCode" "()I") ∈ lw_all := lw_g (lw_at lw_m1 157 rfl) rfl
theorem q378 : (Jvm.Cond.native ({ cls := "java/lang/Object", name := "hashCode", desc := "()I" } : Jvm.MethodName)) ∈ lw_all := lw_g (lw_at lw_m2 5 rfl) rfl
theorem q485 : (Jvm.Cond.instanceMethod ({ cls := "java/lang/Object", name := "getClass", desc := "()Ljava/lang/Class;" } : Jvm.MethodName)) ∈ lw_all := lw_g (lw_at lw_m2 112 rfl) rfl
theorem q486 : (Jvm.Cond.sameMethod "java/lang/Object" "java/lang/Object" "getClass" "()Ljava/lang/Class;") ∈ lw_all := lw_g (lw_at lw_m2 113 rfl) rfl
theorem q518 : (Jvm.Cond.native ({ cls := "java/lang/Object", name := "getClass", desc := "()Ljava/lang/Class;" } : Jvm.MethodName)) ∈ lw_all := lw_g (lw_at lw_m2 145 rfl) rfl
theorem q750 : (Jvm.Cond.declares ({ cls := "java/lang/Object", name := "equals", desc := "(Ljava/lang/Object;)Z" } : Jvm.MethodName)) ∈ lw_tbl := lw_at lw_m3 137 rfl
theorem q752 : (Jvm.Cond.instanceMethod ({ cls := "java/lang/Object", name := "equals", desc := "(Ljava/lang/Object;)Z" } : Jvm.MethodName)) ∈ lw_all := lw_g (lw_at lw_m3 139 rfl) rfl
theorem q753 : (Jvm.Cond.sameMethod "java/lang/Object" "java/lang/Object" "equals" "(Ljava/lang/Object;)Z") ∈ lw_all := lw_g (lw_at lw_m3 140 rfl) rfl
theorem q782 : (Jvm.Cond.code ({ cls := "java/lang/Object", name := "equals", desc := "(Ljava/lang/Object;)Z" } : Jvm.MethodName) object_method_4_code (2 : Nat) (Option.some Jvm.ClassFile.FieldType.boolean)) ∈ lw_all := lw_g (lw_at lw_m3 169 rfl) rfl
theorem q1530 : (Jvm.Cond.native ({ cls := "java/lang/Object", name := "clone", desc := "()Ljava/lang/Object;" } : Jvm.MethodName)) ∈ lw_all := lw_g (lw_at lw_m6 197 rfl) rfl
theorem q1531 : (Jvm.Cond.instanceMethod ({ cls := "java/lang/Object", name := "clone", desc := "()Ljava/lang/Object;" } : Jvm.MethodName)) ∈ lw_all := lw_g (lw_at lw_m6 198 rfl) rfl
theorem q3213 : (Jvm.Cond.initialized "java/lang/Object") ∈ lw_all := lw_g (lw_at lw_m13 200 rfl) rfl
theorem q3255 : (Jvm.Cond.declares ({ cls := "java/lang/Object", name := "getClass", desc := "()Ljava/lang/Class;" } : Jvm.MethodName)) ∈ lw_tbl := lw_at lw_m14 2 rfl
theorem q3269 : (Jvm.Cond.instantiable "java/lang/Object" (0 : Nat)) ∈ lw_all := lw_g (lw_at lw_m14 16 rfl) rfl
