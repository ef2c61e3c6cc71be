/-! java/util/Objects -/
set_option maxRecDepth 100000
def RJ33 : String := "java/util/Objects"
abbrev cJ33_checkIndex : ByteArray := prog_72_method_17_code
def yJ33_checkIndex : MethodName := ⟨RJ33, "checkIndex", "(II)I"⟩
def dkwJ33_checkIndex_0 : List UInt8 := [26, 27, 1, 184, 0, 105, 172]
abbrev dktJ33_checkIndex_0 : List UInt8 := dkwJ33_checkIndex_0 ++ []
theorem dksJ33_checkIndex_0 : cJ33_checkIndex.data.toList.drop 0 = dktJ33_checkIndex_0 := by decide +kernel
theorem dJ33_checkIndex_0 : decode cJ33_checkIndex 0 = .ok (.iload_n 0, 1) := dk_26 (dk_at dksJ33_checkIndex_0 0 rfl rfl)
theorem dJ33_checkIndex_1 : decode cJ33_checkIndex 1 = .ok (.iload_n 1, 1) := dk_27 (dk_at dksJ33_checkIndex_0 1 rfl rfl)
theorem dJ33_checkIndex_2 : decode cJ33_checkIndex 2 = .ok (.aconst_null, 1) := dk_1 (dk_at dksJ33_checkIndex_0 2 rfl rfl)
theorem dJ33_checkIndex_3 : decode cJ33_checkIndex 3 = .ok (.invokestatic 105, 3) := dk_184 0 105 (dk_at dksJ33_checkIndex_0 3 rfl rfl)
theorem dJ33_checkIndex_6 : decode cJ33_checkIndex 6 = .ok (.ireturn, 1) := dk_172 (dk_at dksJ33_checkIndex_0 6 rfl rfl)
theorem q178 : (Jvm.Cond.initialized "java/util/Objects") ∈ lw_all := lw_g (lw_at lw_m1 45 rfl) rfl
theorem q1755 : (Jvm.Cond.static ({ cls := "java/util/Objects", name := "checkIndex", desc := "(II)I" } : Jvm.MethodName)) ∈ lw_all := lw_g (lw_at lw_m7 182 rfl) rfl
theorem q1756 : (Jvm.Cond.code ({ cls := "java/util/Objects", name := "checkIndex", desc := "(II)I" } : Jvm.MethodName) prog_72_method_17_code (2 : Nat) (Option.some Jvm.ClassFile.FieldType.int)) ∈ lw_all := lw_g (lw_at lw_m7 183 rfl) rfl
theorem q1757 : (Jvm.Cond.methodLink "java/util/Objects" (105 : Nat) ({ cls := "jdk/internal/util/Preconditions", name := "checkIndex", desc := "(IILjava/util/function/BiFunction;)I" } : Jvm.MethodName)) ∈ lw_all := lw_g (lw_at lw_m7 184 rfl) rfl
