/-! java/util/LinkedHashMap$LinkedValueIterator -/
set_option maxRecDepth 100000
def RJ39 : String := "java/util/LinkedHashMap$LinkedValueIterator"
def TJ39 : u_T := fun k => match k with
  | 0 => ("java/util/LinkedHashMap$LinkedHashIterator", "next", "Ljava/util/LinkedHashMap$Entry;", false)
  | 1 => ("java/util/LinkedHashMap$LinkedHashIterator", "current", "Ljava/util/LinkedHashMap$Entry;", false)
  | 2 => ("java/util/LinkedHashMap$LinkedHashIterator", "expectedModCount", "I", false)
  | 3 => ("java/util/LinkedHashMap$LinkedHashIterator", "reversed", "Z", false)
  | _ => ("java/util/LinkedHashMap$LinkedHashIterator", "this$0", "Ljava/util/LinkedHashMap;", true)
def tyJ39 : Nat → FieldType := fun k => match k with
  | 0 => .object "java/util/LinkedHashMap$Entry"
  | 1 => .object "java/util/LinkedHashMap$Entry"
  | 2 => .int
  | 3 => .boolean
  | _ => .object "java/util/LinkedHashMap"
abbrev wsJ390 : List Cond := u_ws RJ39 TJ39 5
theorem nmJ39 : ∀ a, a < 5 → ∀ b, b < 5 → a ≠ b → (TJ39 a).2.1 ≠ (TJ39 b).2.1 := by decide +kernel
theorem tyJ39_ok : ∀ k, k < 5 → parseFieldDescriptor (TJ39 k).2.2.1 = some (tyJ39 k) := by decide +kernel
abbrev cJ39_init : ByteArray := prog_67_method_1_code
def yJ39_init : MethodName := ⟨RJ39, "<init>", "(Ljava/util/LinkedHashMap;Z)V"⟩
def dkwJ39_init_0 : List UInt8 := [42, 43, 28, 183, 0, 1, 177]
abbrev dktJ39_init_0 : List UInt8 := dkwJ39_init_0 ++ []
theorem dksJ39_init_0 : cJ39_init.data.toList.drop 0 = dktJ39_init_0 := by decide +kernel
theorem dJ39_init_0 : decode cJ39_init 0 = .ok (.aload_n 0, 1) := dk_42 (dk_at dksJ39_init_0 0 rfl rfl)
theorem dJ39_init_1 : decode cJ39_init 1 = .ok (.aload_n 1, 1) := dk_43 (dk_at dksJ39_init_0 1 rfl rfl)
theorem dJ39_init_2 : decode cJ39_init 2 = .ok (.iload_n 2, 1) := dk_28 (dk_at dksJ39_init_0 2 rfl rfl)
theorem dJ39_init_3 : decode cJ39_init 3 = .ok (.invokespecial 1, 3) := dk_183 0 1 (dk_at dksJ39_init_0 3 rfl rfl)
theorem dJ39_init_6 : decode cJ39_init 6 = .ok (.return_, 1) := dk_177 (dk_at dksJ39_init_0 6 rfl rfl)
abbrev cJ39_next : ByteArray := prog_67_method_2_code
def yJ39_next : MethodName := ⟨RJ39, "next", "()Ljava/lang/Object;"⟩
def dkwJ39_next_0 : List UInt8 := [42, 182, 0, 7, 180, 0, 13, 176]
abbrev dktJ39_next_0 : List UInt8 := dkwJ39_next_0 ++ []
theorem dksJ39_next_0 : cJ39_next.data.toList.drop 0 = dktJ39_next_0 := by decide +kernel
theorem dJ39_next_0 : decode cJ39_next 0 = .ok (.aload_n 0, 1) := dk_42 (dk_at dksJ39_next_0 0 rfl rfl)
theorem dJ39_next_1 : decode cJ39_next 1 = .ok (.invokevirtual 7, 3) := dk_182 0 7 (dk_at dksJ39_next_0 1 rfl rfl)
theorem dJ39_next_4 : decode cJ39_next 4 = .ok (.getfield 13, 3) := dk_180 0 13 (dk_at dksJ39_next_0 4 rfl rfl)
theorem dJ39_next_7 : decode cJ39_next 7 = .ok (.areturn, 1) := dk_176 (dk_at dksJ39_next_0 7 rfl rfl)
theorem q186 : (Jvm.Cond.initialized "java/util/LinkedHashMap$LinkedValueIterator") ∈ lw_all := lw_g (lw_at lw_m1 53 rfl) rfl
theorem q439 : (Jvm.Cond.fieldLink "java/util/LinkedHashMap$LinkedValueIterator" (13 : Nat) "java/util/LinkedHashMap$Entry" "value" "Ljava/lang/Object;") ∈ lw_all := lw_g (lw_at lw_m2 66 rfl) rfl
theorem q515 : (Jvm.Cond.selects "java/util/LinkedHashMap$LinkedValueIterator" ({ cls := "java/lang/Object", name := "getClass", desc := "()Ljava/lang/Class;" } : Jvm.MethodName) ({ cls := "java/lang/Object", name := "getClass", desc := "()Ljava/lang/Class;" } : Jvm.MethodName)) ∈ lw_all := lw_g (lw_at lw_m2 142 rfl) rfl
theorem q2134 : (Jvm.Cond.instantiable "java/util/LinkedHashMap$LinkedValueIterator" (5 : Nat)) ∈ lw_all := lw_g (lw_at lw_m9 81 rfl) rfl
theorem q2136 : (Jvm.Cond.instanceMethod ({ cls := "java/util/LinkedHashMap$LinkedValueIterator", name := "<init>", desc := "(Ljava/util/LinkedHashMap;Z)V" } : Jvm.MethodName)) ∈ lw_all := lw_g (lw_at lw_m9 83 rfl) rfl
theorem q2137 : (Jvm.Cond.code ({ cls := "java/util/LinkedHashMap$LinkedValueIterator", name := "<init>", desc := "(Ljava/util/LinkedHashMap;Z)V" } : Jvm.MethodName) prog_67_method_1_code (3 : Nat) (Option.none : Option Jvm.ClassFile.FieldType)) ∈ lw_all := lw_g (lw_at lw_m9 84 rfl) rfl
theorem q2138 : (Jvm.Cond.methodLink "java/util/LinkedHashMap$LinkedValueIterator" (1 : Nat) ({ cls := "java/util/LinkedHashMap$LinkedHashIterator", name := "<init>", desc := "(Ljava/util/LinkedHashMap;Z)V" } : Jvm.MethodName)) ∈ lw_all := lw_g (lw_at lw_m9 85 rfl) rfl
theorem q2147 : (Jvm.Cond.lays "java/util/LinkedHashMap$LinkedValueIterator" "java/util/LinkedHashMap$LinkedHashIterator" "next" "Ljava/util/LinkedHashMap$Entry;") ∈ lw_all := lw_g (lw_at lw_m9 94 rfl) rfl
theorem q2149 : (Jvm.Cond.lays "java/util/LinkedHashMap$LinkedValueIterator" "java/util/LinkedHashMap$LinkedHashIterator" "current" "Ljava/util/LinkedHashMap$Entry;") ∈ lw_all := lw_g (lw_at lw_m9 96 rfl) rfl
theorem q2151 : (Jvm.Cond.lays "java/util/LinkedHashMap$LinkedValueIterator" "java/util/LinkedHashMap$LinkedHashIterator" "expectedModCount" "I") ∈ lw_all := lw_g (lw_at lw_m9 98 rfl) rfl
theorem q2153 : (Jvm.Cond.lays "java/util/LinkedHashMap$LinkedValueIterator" "java/util/LinkedHashMap$LinkedHashIterator" "reversed" "Z") ∈ lw_all := lw_g (lw_at lw_m9 100 rfl) rfl
theorem q2155 : (Jvm.Cond.laysFinal "java/util/LinkedHashMap$LinkedValueIterator" "java/util/LinkedHashMap$LinkedHashIterator" "this$0" "Ljava/util/LinkedHashMap;") ∈ lw_all := lw_g (lw_at lw_m9 102 rfl) rfl
theorem q2157 : (Jvm.Cond.superclass "java/util/LinkedHashMap$LinkedValueIterator" "java/util/LinkedHashMap$LinkedHashIterator") ∈ lw_all := lw_g (lw_at lw_m9 104 rfl) rfl
theorem q2174 : (Jvm.Cond.castable "java/util/LinkedHashMap$LinkedValueIterator" "java/util/Iterator") ∈ lw_tbl := lw_at lw_m9 121 rfl
theorem q2175 : (Jvm.Cond.selects "java/util/LinkedHashMap$LinkedValueIterator" ({ cls := "java/util/Iterator", name := "hasNext", desc := "()Z" } : Jvm.MethodName) ({ cls := "java/util/LinkedHashMap$LinkedHashIterator", name := "hasNext", desc := "()Z" } : Jvm.MethodName)) ∈ lw_all := lw_g (lw_at lw_m9 122 rfl) rfl
theorem q2176 : (Jvm.Cond.unhidden "java/util/LinkedHashMap$LinkedValueIterator" "hasNext" "()Z") ∈ lw_tbl := lw_at lw_m9 123 rfl
theorem q2202 : (Jvm.Cond.selects "java/util/LinkedHashMap$LinkedValueIterator" ({ cls := "java/util/Iterator", name := "next", desc := "()Ljava/lang/Object;" } : Jvm.MethodName) ({ cls := "java/util/LinkedHashMap$LinkedValueIterator", name := "next", desc := "()Ljava/lang/Object;" } : Jvm.MethodName)) ∈ lw_all := lw_g (lw_at lw_m9 149 rfl) rfl
theorem q2203 : (Jvm.Cond.unhidden "java/util/LinkedHashMap$LinkedValueIterator" "next" "()Ljava/lang/Object;") ∈ lw_tbl := lw_at lw_m9 150 rfl
theorem q2204 : (Jvm.Cond.instanceMethod ({ cls := "java/util/LinkedHashMap$LinkedValueIterator", name := "next", desc := "()Ljava/lang/Object;" } : Jvm.MethodName)) ∈ lw_all := lw_g (lw_at lw_m9 151 rfl) rfl
theorem q2205 : (Jvm.Cond.publicMethod ({ cls := "java/util/LinkedHashMap$LinkedValueIterator", name := "next", desc := "()Ljava/lang/Object;" } : Jvm.MethodName)) ∈ lw_tbl := lw_at lw_m9 152 rfl
theorem q2206 : (Jvm.Cond.code ({ cls := "java/util/LinkedHashMap$LinkedValueIterator", name := "next", desc := "()Ljava/lang/Object;" } : Jvm.MethodName) prog_67_method_2_code (1 : Nat) (Option.some (Jvm.ClassFile.FieldType.object "java/lang/Object"))) ∈ lw_all := lw_g (lw_at lw_m9 153 rfl) rfl
theorem q2207 : (Jvm.Cond.methodLink "java/util/LinkedHashMap$LinkedValueIterator" (7 : Nat) ({ cls := "java/util/LinkedHashMap$LinkedValueIterator", name := "nextNode", desc := "()Ljava/util/LinkedHashMap$Entry;" } : Jvm.MethodName)) ∈ lw_all := lw_g (lw_at lw_m9 154 rfl) rfl
theorem q2208 : (Jvm.Cond.sameMethod "java/util/LinkedHashMap$LinkedValueIterator" "java/util/LinkedHashMap$LinkedHashIterator" "nextNode" "()Ljava/util/LinkedHashMap$Entry;") ∈ lw_all := lw_g (lw_at lw_m9 155 rfl) rfl
theorem q2210 : (Jvm.Cond.selects "java/util/LinkedHashMap$LinkedValueIterator" ({ cls := "java/util/LinkedHashMap$LinkedValueIterator", name := "nextNode", desc := "()Ljava/util/LinkedHashMap$Entry;" } : Jvm.MethodName) ({ cls := "java/util/LinkedHashMap$LinkedHashIterator", name := "nextNode", desc := "()Ljava/util/LinkedHashMap$Entry;" } : Jvm.MethodName)) ∈ lw_all := lw_g (lw_at lw_m9 157 rfl) rfl
theorem q3249 : (Jvm.Cond.castable "java/util/LinkedHashMap$LinkedValueIterator" "java/lang/Object") ∈ lw_tbl := lw_at lw_m13 236 rfl
theorem in_J39 : ∀ w ∈ wsJ390, w ∈ lw_all := lw_in wsJ390 [2147, 2149, 2151, 2153, 2155] (by decide +kernel) (by decide +kernel)
