/-! java/util/LinkedHashMap$LinkedHashIterator -/
set_option maxRecDepth 100000
def RJ38 : String := "java/util/LinkedHashMap$LinkedHashIterator"
abbrev cJ38_init : ByteArray := prog_66_method_1_code
def yJ38_init : MethodName := ⟨RJ38, "<init>", "(Ljava/util/LinkedHashMap;Z)V"⟩
def dkwJ38_init_1 : List UInt8 := [167, 0, 7, 43, 180, 0, 23, 181, 0, 26, 42, 43, 180, 0, 29, 181, 0, 33, 42, 1, 181, 0, 36, 177]
abbrev dktJ38_init_1 : List UInt8 := dkwJ38_init_1 ++ []
def dkwJ38_init_0 : List UInt8 := [42, 43, 181, 0, 1, 42, 183, 0, 7, 42, 28, 181, 0, 13, 42, 28, 153, 0, 10, 43, 180, 0, 17]
abbrev dktJ38_init_0 : List UInt8 := dkwJ38_init_0 ++ dktJ38_init_1
theorem dksJ38_init_0 : cJ38_init.data.toList.drop 0 = dktJ38_init_0 := by decide +kernel
theorem dksJ38_init_1 : cJ38_init.data.toList.drop 23 = dktJ38_init_1 := dk_seg dksJ38_init_0 23 rfl rfl
theorem dJ38_init_0 : decode cJ38_init 0 = .ok (.aload_n 0, 1) := dk_42 (dk_at dksJ38_init_0 0 rfl rfl)
theorem dJ38_init_1 : decode cJ38_init 1 = .ok (.aload_n 1, 1) := dk_43 (dk_at dksJ38_init_0 1 rfl rfl)
theorem dJ38_init_2 : decode cJ38_init 2 = .ok (.putfield 1, 3) := dk_181 0 1 (dk_at dksJ38_init_0 2 rfl rfl)
theorem dJ38_init_5 : decode cJ38_init 5 = .ok (.aload_n 0, 1) := dk_42 (dk_at dksJ38_init_0 5 rfl rfl)
theorem dJ38_init_6 : decode cJ38_init 6 = .ok (.invokespecial 7, 3) := dk_183 0 7 (dk_at dksJ38_init_0 6 rfl rfl)
theorem dJ38_init_9 : decode cJ38_init 9 = .ok (.aload_n 0, 1) := dk_42 (dk_at dksJ38_init_0 9 rfl rfl)
theorem dJ38_init_10 : decode cJ38_init 10 = .ok (.iload_n 2, 1) := dk_28 (dk_at dksJ38_init_0 10 rfl rfl)
theorem dJ38_init_11 : decode cJ38_init 11 = .ok (.putfield 13, 3) := dk_181 0 13 (dk_at dksJ38_init_0 11 rfl rfl)
theorem dJ38_init_14 : decode cJ38_init 14 = .ok (.aload_n 0, 1) := dk_42 (dk_at dksJ38_init_0 14 rfl rfl)
theorem dJ38_init_15 : decode cJ38_init 15 = .ok (.iload_n 2, 1) := dk_28 (dk_at dksJ38_init_0 15 rfl rfl)
theorem dJ38_init_16 : decode cJ38_init 16 = .ok (.ifCond .eq 10, 3) := dk_153 0 10 (dk_at dksJ38_init_0 16 rfl rfl)
theorem dJ38_init_19 : decode cJ38_init 19 = .ok (.aload_n 1, 1) := dk_43 (dk_at dksJ38_init_0 19 rfl rfl)
theorem dJ38_init_20 : decode cJ38_init 20 = .ok (.getfield 17, 3) := dk_180 0 17 (dk_at dksJ38_init_0 20 rfl rfl)
theorem dJ38_init_23 : decode cJ38_init 23 = .ok (.goto 7, 3) := dk_167 0 7 (dk_at dksJ38_init_1 0 rfl rfl)
theorem dJ38_init_26 : decode cJ38_init 26 = .ok (.aload_n 1, 1) := dk_43 (dk_at dksJ38_init_1 3 rfl rfl)
theorem dJ38_init_27 : decode cJ38_init 27 = .ok (.getfield 23, 3) := dk_180 0 23 (dk_at dksJ38_init_1 4 rfl rfl)
theorem dJ38_init_30 : decode cJ38_init 30 = .ok (.putfield 26, 3) := dk_181 0 26 (dk_at dksJ38_init_1 7 rfl rfl)
theorem dJ38_init_33 : decode cJ38_init 33 = .ok (.aload_n 0, 1) := dk_42 (dk_at dksJ38_init_1 10 rfl rfl)
theorem dJ38_init_34 : decode cJ38_init 34 = .ok (.aload_n 1, 1) := dk_43 (dk_at dksJ38_init_1 11 rfl rfl)
theorem dJ38_init_35 : decode cJ38_init 35 = .ok (.getfield 29, 3) := dk_180 0 29 (dk_at dksJ38_init_1 12 rfl rfl)
theorem dJ38_init_38 : decode cJ38_init 38 = .ok (.putfield 33, 3) := dk_181 0 33 (dk_at dksJ38_init_1 15 rfl rfl)
theorem dJ38_init_41 : decode cJ38_init 41 = .ok (.aload_n 0, 1) := dk_42 (dk_at dksJ38_init_1 18 rfl rfl)
theorem dJ38_init_42 : decode cJ38_init 42 = .ok (.aconst_null, 1) := dk_1 (dk_at dksJ38_init_1 19 rfl rfl)
theorem dJ38_init_43 : decode cJ38_init 43 = .ok (.putfield 36, 3) := dk_181 0 36 (dk_at dksJ38_init_1 20 rfl rfl)
theorem dJ38_init_46 : decode cJ38_init 46 = .ok (.return_, 1) := dk_177 (dk_at dksJ38_init_1 23 rfl rfl)
abbrev cJ38_hasNext : ByteArray := prog_66_method_2_code
def yJ38_hasNext : MethodName := ⟨RJ38, "hasNext", "()Z"⟩
def dkwJ38_hasNext_0 : List UInt8 := [42, 180, 0, 26, 198, 0, 7, 4, 167, 0, 4, 3, 172]
abbrev dktJ38_hasNext_0 : List UInt8 := dkwJ38_hasNext_0 ++ []
theorem dksJ38_hasNext_0 : cJ38_hasNext.data.toList.drop 0 = dktJ38_hasNext_0 := by decide +kernel
theorem dJ38_hasNext_0 : decode cJ38_hasNext 0 = .ok (.aload_n 0, 1) := dk_42 (dk_at dksJ38_hasNext_0 0 rfl rfl)
theorem dJ38_hasNext_1 : decode cJ38_hasNext 1 = .ok (.getfield 26, 3) := dk_180 0 26 (dk_at dksJ38_hasNext_0 1 rfl rfl)
theorem dJ38_hasNext_4 : decode cJ38_hasNext 4 = .ok (.ifnull 7, 3) := dk_198 0 7 (dk_at dksJ38_hasNext_0 4 rfl rfl)
theorem dJ38_hasNext_7 : decode cJ38_hasNext 7 = .ok (.iconst 1, 1) := dk_4 (dk_at dksJ38_hasNext_0 7 rfl rfl)
theorem dJ38_hasNext_8 : decode cJ38_hasNext 8 = .ok (.goto 4, 3) := dk_167 0 4 (dk_at dksJ38_hasNext_0 8 rfl rfl)
theorem dJ38_hasNext_11 : decode cJ38_hasNext 11 = .ok (.iconst 0, 1) := dk_3 (dk_at dksJ38_hasNext_0 11 rfl rfl)
theorem dJ38_hasNext_12 : decode cJ38_hasNext 12 = .ok (.ireturn, 1) := dk_172 (dk_at dksJ38_hasNext_0 12 rfl rfl)
abbrev cJ38_nextNode : ByteArray := prog_66_method_3_code
def yJ38_nextNode : MethodName := ⟨RJ38, "nextNode", "()Ljava/util/LinkedHashMap$Entry;"⟩
def dkwJ38_nextNode_2 : List UInt8 := [180, 0, 13, 153, 0, 10, 43, 180, 0, 45, 167, 0, 7, 43, 180, 0, 50, 181, 0, 26, 43, 176]
abbrev dktJ38_nextNode_2 : List UInt8 := dkwJ38_nextNode_2 ++ []
def dkwJ38_nextNode_1 : List UInt8 := [183, 0, 41, 191, 43, 199, 0, 11, 187, 0, 42, 89, 183, 0, 44, 191, 42, 43, 181, 0, 36, 42, 42]
abbrev dktJ38_nextNode_1 : List UInt8 := dkwJ38_nextNode_1 ++ dktJ38_nextNode_2
def dkwJ38_nextNode_0 : List UInt8 := [42, 180, 0, 26, 76, 42, 180, 0, 1, 180, 0, 29, 42, 180, 0, 33, 159, 0, 11, 187, 0, 39, 89]
abbrev dktJ38_nextNode_0 : List UInt8 := dkwJ38_nextNode_0 ++ dktJ38_nextNode_1
theorem dksJ38_nextNode_0 : cJ38_nextNode.data.toList.drop 0 = dktJ38_nextNode_0 := by decide +kernel
theorem dksJ38_nextNode_1 : cJ38_nextNode.data.toList.drop 23 = dktJ38_nextNode_1 := dk_seg dksJ38_nextNode_0 23 rfl rfl
theorem dksJ38_nextNode_2 : cJ38_nextNode.data.toList.drop 46 = dktJ38_nextNode_2 := dk_seg dksJ38_nextNode_1 23 rfl rfl
theorem dJ38_nextNode_0 : decode cJ38_nextNode 0 = .ok (.aload_n 0, 1) := dk_42 (dk_at dksJ38_nextNode_0 0 rfl rfl)
theorem dJ38_nextNode_1 : decode cJ38_nextNode 1 = .ok (.getfield 26, 3) := dk_180 0 26 (dk_at dksJ38_nextNode_0 1 rfl rfl)
theorem dJ38_nextNode_4 : decode cJ38_nextNode 4 = .ok (.astore_n 1, 1) := dk_76 (dk_at dksJ38_nextNode_0 4 rfl rfl)
theorem dJ38_nextNode_5 : decode cJ38_nextNode 5 = .ok (.aload_n 0, 1) := dk_42 (dk_at dksJ38_nextNode_0 5 rfl rfl)
theorem dJ38_nextNode_6 : decode cJ38_nextNode 6 = .ok (.getfield 1, 3) := dk_180 0 1 (dk_at dksJ38_nextNode_0 6 rfl rfl)
theorem dJ38_nextNode_9 : decode cJ38_nextNode 9 = .ok (.getfield 29, 3) := dk_180 0 29 (dk_at dksJ38_nextNode_0 9 rfl rfl)
theorem dJ38_nextNode_12 : decode cJ38_nextNode 12 = .ok (.aload_n 0, 1) := dk_42 (dk_at dksJ38_nextNode_0 12 rfl rfl)
theorem dJ38_nextNode_13 : decode cJ38_nextNode 13 = .ok (.getfield 33, 3) := dk_180 0 33 (dk_at dksJ38_nextNode_0 13 rfl rfl)
theorem dJ38_nextNode_16 : decode cJ38_nextNode 16 = .ok (.if_icmp .eq 11, 3) := dk_159 0 11 (dk_at dksJ38_nextNode_0 16 rfl rfl)
theorem dJ38_nextNode_19 : decode cJ38_nextNode 19 = .ok (.new 39, 3) := dk_187 0 39 (dk_at dksJ38_nextNode_0 19 rfl rfl)
theorem dJ38_nextNode_22 : decode cJ38_nextNode 22 = .ok (.dup, 1) := dk_89 (dk_at dksJ38_nextNode_0 22 rfl rfl)
theorem dJ38_nextNode_23 : decode cJ38_nextNode 23 = .ok (.invokespecial 41, 3) := dk_183 0 41 (dk_at dksJ38_nextNode_1 0 rfl rfl)
theorem dJ38_nextNode_26 : decode cJ38_nextNode 26 = .ok (.athrow, 1) := dk_191 (dk_at dksJ38_nextNode_1 3 rfl rfl)
theorem dJ38_nextNode_27 : decode cJ38_nextNode 27 = .ok (.aload_n 1, 1) := dk_43 (dk_at dksJ38_nextNode_1 4 rfl rfl)
theorem dJ38_nextNode_28 : decode cJ38_nextNode 28 = .ok (.ifnonnull 11, 3) := dk_199 0 11 (dk_at dksJ38_nextNode_1 5 rfl rfl)
theorem dJ38_nextNode_31 : decode cJ38_nextNode 31 = .ok (.new 42, 3) := dk_187 0 42 (dk_at dksJ38_nextNode_1 8 rfl rfl)
theorem dJ38_nextNode_34 : decode cJ38_nextNode 34 = .ok (.dup, 1) := dk_89 (dk_at dksJ38_nextNode_1 11 rfl rfl)
theorem dJ38_nextNode_35 : decode cJ38_nextNode 35 = .ok (.invokespecial 44, 3) := dk_183 0 44 (dk_at dksJ38_nextNode_1 12 rfl rfl)
theorem dJ38_nextNode_38 : decode cJ38_nextNode 38 = .ok (.athrow, 1) := dk_191 (dk_at dksJ38_nextNode_1 15 rfl rfl)
theorem dJ38_nextNode_39 : decode cJ38_nextNode 39 = .ok (.aload_n 0, 1) := dk_42 (dk_at dksJ38_nextNode_1 16 rfl rfl)
theorem dJ38_nextNode_40 : decode cJ38_nextNode 40 = .ok (.aload_n 1, 1) := dk_43 (dk_at dksJ38_nextNode_1 17 rfl rfl)
theorem dJ38_nextNode_41 : decode cJ38_nextNode 41 = .ok (.putfield 36, 3) := dk_181 0 36 (dk_at dksJ38_nextNode_1 18 rfl rfl)
theorem dJ38_nextNode_44 : decode cJ38_nextNode 44 = .ok (.aload_n 0, 1) := dk_42 (dk_at dksJ38_nextNode_1 21 rfl rfl)
theorem dJ38_nextNode_45 : decode cJ38_nextNode 45 = .ok (.aload_n 0, 1) := dk_42 (dk_at dksJ38_nextNode_1 22 rfl rfl)
theorem dJ38_nextNode_46 : decode cJ38_nextNode 46 = .ok (.getfield 13, 3) := dk_180 0 13 (dk_at dksJ38_nextNode_2 0 rfl rfl)
theorem dJ38_nextNode_49 : decode cJ38_nextNode 49 = .ok (.ifCond .eq 10, 3) := dk_153 0 10 (dk_at dksJ38_nextNode_2 3 rfl rfl)
theorem dJ38_nextNode_52 : decode cJ38_nextNode 52 = .ok (.aload_n 1, 1) := dk_43 (dk_at dksJ38_nextNode_2 6 rfl rfl)
theorem dJ38_nextNode_53 : decode cJ38_nextNode 53 = .ok (.getfield 45, 3) := dk_180 0 45 (dk_at dksJ38_nextNode_2 7 rfl rfl)
theorem dJ38_nextNode_56 : decode cJ38_nextNode 56 = .ok (.goto 7, 3) := dk_167 0 7 (dk_at dksJ38_nextNode_2 10 rfl rfl)
theorem dJ38_nextNode_59 : decode cJ38_nextNode 59 = .ok (.aload_n 1, 1) := dk_43 (dk_at dksJ38_nextNode_2 13 rfl rfl)
theorem dJ38_nextNode_60 : decode cJ38_nextNode 60 = .ok (.getfield 50, 3) := dk_180 0 50 (dk_at dksJ38_nextNode_2 14 rfl rfl)
theorem dJ38_nextNode_63 : decode cJ38_nextNode 63 = .ok (.putfield 26, 3) := dk_181 0 26 (dk_at dksJ38_nextNode_2 17 rfl rfl)
theorem dJ38_nextNode_66 : decode cJ38_nextNode 66 = .ok (.aload_n 1, 1) := dk_43 (dk_at dksJ38_nextNode_2 20 rfl rfl)
theorem dJ38_nextNode_67 : decode cJ38_nextNode 67 = .ok (.areturn, 1) := dk_176 (dk_at dksJ38_nextNode_2 21 rfl rfl)
theorem q185 : (Jvm.Cond.initialized "java/util/LinkedHashMap$LinkedHashIterator") ∈ lw_all := lw_g (lw_at lw_m1 52 rfl) rfl
theorem q210 : (Jvm.Cond.fieldLink "java/util/LinkedHashMap$LinkedHashIterator" (29 : Nat) "java/util/LinkedHashMap" "modCount" "I") ∈ lw_all := lw_g (lw_at lw_m1 77 rfl) rfl
theorem q423 : (Jvm.Cond.fieldLink "java/util/LinkedHashMap$LinkedHashIterator" (45 : Nat) "java/util/LinkedHashMap$Entry" "before" "Ljava/util/LinkedHashMap$Entry;") ∈ lw_all := lw_g (lw_at lw_m2 50 rfl) rfl
theorem q425 : (Jvm.Cond.fieldLink "java/util/LinkedHashMap$LinkedHashIterator" (50 : Nat) "java/util/LinkedHashMap$Entry" "after" "Ljava/util/LinkedHashMap$Entry;") ∈ lw_all := lw_g (lw_at lw_m2 52 rfl) rfl
theorem q1989 : (Jvm.Cond.fieldLink "java/util/LinkedHashMap$LinkedHashIterator" (23 : Nat) "java/util/LinkedHashMap" "head" "Ljava/util/LinkedHashMap$Entry;") ∈ lw_all := lw_g (lw_at lw_m8 176 rfl) rfl
theorem q1990 : (Jvm.Cond.fieldLink "java/util/LinkedHashMap$LinkedHashIterator" (17 : Nat) "java/util/LinkedHashMap" "tail" "Ljava/util/LinkedHashMap$Entry;") ∈ lw_all := lw_g (lw_at lw_m8 177 rfl) rfl
theorem q2139 : (Jvm.Cond.instanceMethod ({ cls := "java/util/LinkedHashMap$LinkedHashIterator", name := "<init>", desc := "(Ljava/util/LinkedHashMap;Z)V" } : Jvm.MethodName)) ∈ lw_all := lw_g (lw_at lw_m9 86 rfl) rfl
theorem q2140 : (Jvm.Cond.code ({ cls := "java/util/LinkedHashMap$LinkedHashIterator", name := "<init>", desc := "(Ljava/util/LinkedHashMap;Z)V" } : Jvm.MethodName) prog_66_method_1_code (3 : Nat) (Option.none : Option Jvm.ClassFile.FieldType)) ∈ lw_all := lw_g (lw_at lw_m9 87 rfl) rfl
theorem q2141 : (Jvm.Cond.methodLink "java/util/LinkedHashMap$LinkedHashIterator" (7 : Nat) ({ cls := "java/lang/Object", name := "<init>", desc := "()V" } : Jvm.MethodName)) ∈ lw_all := lw_g (lw_at lw_m9 88 rfl) rfl
theorem q2142 : (Jvm.Cond.fieldLink "java/util/LinkedHashMap$LinkedHashIterator" (26 : Nat) "java/util/LinkedHashMap$LinkedHashIterator" "next" "Ljava/util/LinkedHashMap$Entry;") ∈ lw_all := lw_g (lw_at lw_m9 89 rfl) rfl
theorem q2143 : (Jvm.Cond.fieldLink "java/util/LinkedHashMap$LinkedHashIterator" (36 : Nat) "java/util/LinkedHashMap$LinkedHashIterator" "current" "Ljava/util/LinkedHashMap$Entry;") ∈ lw_all := lw_g (lw_at lw_m9 90 rfl) rfl
theorem q2144 : (Jvm.Cond.fieldLink "java/util/LinkedHashMap$LinkedHashIterator" (33 : Nat) "java/util/LinkedHashMap$LinkedHashIterator" "expectedModCount" "I") ∈ lw_all := lw_g (lw_at lw_m9 91 rfl) rfl
theorem q2145 : (Jvm.Cond.fieldLink "java/util/LinkedHashMap$LinkedHashIterator" (13 : Nat) "java/util/LinkedHashMap$LinkedHashIterator" "reversed" "Z") ∈ lw_all := lw_g (lw_at lw_m9 92 rfl) rfl
theorem q2146 : (Jvm.Cond.fieldLink "java/util/LinkedHashMap$LinkedHashIterator" (1 : Nat) "java/util/LinkedHashMap$LinkedHashIterator" "this$0" "Ljava/util/LinkedHashMap;") ∈ lw_all := lw_g (lw_at lw_m9 93 rfl) rfl
theorem q2148 : (Jvm.Cond.soleField "java/util/LinkedHashMap$LinkedHashIterator" "next") ∈ lw_all := lw_g (lw_at lw_m9 95 rfl) rfl
theorem q2150 : (Jvm.Cond.soleField "java/util/LinkedHashMap$LinkedHashIterator" "current") ∈ lw_all := lw_g (lw_at lw_m9 97 rfl) rfl
theorem q2152 : (Jvm.Cond.soleField "java/util/LinkedHashMap$LinkedHashIterator" "expectedModCount") ∈ lw_all := lw_g (lw_at lw_m9 99 rfl) rfl
theorem q2154 : (Jvm.Cond.soleField "java/util/LinkedHashMap$LinkedHashIterator" "reversed") ∈ lw_all := lw_g (lw_at lw_m9 101 rfl) rfl
theorem q2156 : (Jvm.Cond.soleField "java/util/LinkedHashMap$LinkedHashIterator" "this$0") ∈ lw_all := lw_g (lw_at lw_m9 103 rfl) rfl
theorem q2177 : (Jvm.Cond.instanceMethod ({ cls := "java/util/LinkedHashMap$LinkedHashIterator", name := "hasNext", desc := "()Z" } : Jvm.MethodName)) ∈ lw_all := lw_g (lw_at lw_m9 124 rfl) rfl
theorem q2178 : (Jvm.Cond.publicMethod ({ cls := "java/util/LinkedHashMap$LinkedHashIterator", name := "hasNext", desc := "()Z" } : Jvm.MethodName)) ∈ lw_tbl := lw_at lw_m9 125 rfl
theorem q2179 : (Jvm.Cond.code ({ cls := "java/util/LinkedHashMap$LinkedHashIterator", name := "hasNext", desc := "()Z" } : Jvm.MethodName) prog_66_method_2_code (1 : Nat) (Option.some Jvm.ClassFile.FieldType.boolean)) ∈ lw_all := lw_g (lw_at lw_m9 126 rfl) rfl
theorem q2209 : (Jvm.Cond.declares ({ cls := "java/util/LinkedHashMap$LinkedHashIterator", name := "nextNode", desc := "()Ljava/util/LinkedHashMap$Entry;" } : Jvm.MethodName)) ∈ lw_tbl := lw_at lw_m9 156 rfl
theorem q2211 : (Jvm.Cond.instanceMethod ({ cls := "java/util/LinkedHashMap$LinkedHashIterator", name := "nextNode", desc := "()Ljava/util/LinkedHashMap$Entry;" } : Jvm.MethodName)) ∈ lw_all := lw_g (lw_at lw_m9 158 rfl) rfl
theorem q2212 : (Jvm.Cond.code ({ cls := "java/util/LinkedHashMap$LinkedHashIterator", name := "nextNode", desc := "()Ljava/util/LinkedHashMap$Entry;" } : Jvm.MethodName) prog_66_method_3_code (2 : Nat) (Option.some (Jvm.ClassFile.FieldType.object "java/util/LinkedHashMap$Entry"))) ∈ lw_all := lw_g (lw_at lw_m9 159 rfl) rfl
