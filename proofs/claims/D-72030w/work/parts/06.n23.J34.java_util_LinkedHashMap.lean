/-! java/util/LinkedHashMap -/
set_option maxRecDepth 100000
def RJ34 : String := "java/util/LinkedHashMap"
def TJ34 : u_T := fun k => match k with
  | 0 => ("java/util/AbstractMap", "keySet", "Ljava/util/Set;", false)
  | 1 => ("java/util/AbstractMap", "values", "Ljava/util/Collection;", false)
  | 2 => ("java/util/HashMap", "table", "[Ljava/util/HashMap$Node;", false)
  | 3 => ("java/util/HashMap", "entrySet", "Ljava/util/Set;", false)
  | 4 => ("java/util/HashMap", "size", "I", false)
  | 5 => ("java/util/HashMap", "modCount", "I", false)
  | 6 => ("java/util/HashMap", "threshold", "I", false)
  | 7 => ("java/util/HashMap", "loadFactor", "F", true)
  | 8 => ("java/util/LinkedHashMap", "head", "Ljava/util/LinkedHashMap$Entry;", false)
  | 9 => ("java/util/LinkedHashMap", "tail", "Ljava/util/LinkedHashMap$Entry;", false)
  | 10 => ("java/util/LinkedHashMap", "accessOrder", "Z", true)
  | _ => ("java/util/LinkedHashMap", "putMode", "I", false)
def tyJ34 : Nat → FieldType := fun k => match k with
  | 0 => .object "java/util/Set"
  | 1 => .object "java/util/Collection"
  | 2 => .array (.object "java/util/HashMap$Node")
  | 3 => .object "java/util/Set"
  | 4 => .int
  | 5 => .int
  | 6 => .int
  | 7 => .float
  | 8 => .object "java/util/LinkedHashMap$Entry"
  | 9 => .object "java/util/LinkedHashMap$Entry"
  | 10 => .boolean
  | _ => .int
abbrev wsJ340 : List Cond := u_ws RJ34 TJ34 12
theorem nmJ34 : ∀ a, a < 12 → ∀ b, b < 12 → a ≠ b → (TJ34 a).2.1 ≠ (TJ34 b).2.1 := by decide +kernel
theorem tyJ34_ok : ∀ k, k < 12 → parseFieldDescriptor (TJ34 k).2.2.1 = some (tyJ34 k) := by decide +kernel
abbrev cJ34_replacementNode : ByteArray := prog_64_method_5_code
def yJ34_replacementNode : MethodName := ⟨RJ34, "replacementNode", "(Ljava/util/HashMap$Node;Ljava/util/HashMap$Node;)Ljava/util/HashMap$Node;"⟩
def dkwJ34_replacementNode_1 : List UInt8 := [183, 0, 28, 58, 4, 42, 45, 25, 4, 182, 0, 46, 25, 4, 176]
abbrev dktJ34_replacementNode_1 : List UInt8 := dkwJ34_replacementNode_1 ++ []
def dkwJ34_replacementNode_0 : List UInt8 := [43, 192, 0, 15, 78, 187, 0, 15, 89, 45, 180, 0, 36, 45, 180, 0, 39, 45, 180, 0, 43, 44]
abbrev dktJ34_replacementNode_0 : List UInt8 := dkwJ34_replacementNode_0 ++ dktJ34_replacementNode_1
theorem dksJ34_replacementNode_0 : cJ34_replacementNode.data.toList.drop 0 = dktJ34_replacementNode_0 := by decide +kernel
theorem dksJ34_replacementNode_1 : cJ34_replacementNode.data.toList.drop 22 = dktJ34_replacementNode_1 := dk_seg dksJ34_replacementNode_0 22 rfl rfl
theorem dJ34_replacementNode_0 : decode cJ34_replacementNode 0 = .ok (.aload_n 1, 1) := dk_43 (dk_at dksJ34_replacementNode_0 0 rfl rfl)
theorem dJ34_replacementNode_1 : decode cJ34_replacementNode 1 = .ok (.checkcast 15, 3) := dk_192 0 15 (dk_at dksJ34_replacementNode_0 1 rfl rfl)
theorem dJ34_replacementNode_4 : decode cJ34_replacementNode 4 = .ok (.astore_n 3, 1) := dk_78 (dk_at dksJ34_replacementNode_0 4 rfl rfl)
theorem dJ34_replacementNode_5 : decode cJ34_replacementNode 5 = .ok (.new 15, 3) := dk_187 0 15 (dk_at dksJ34_replacementNode_0 5 rfl rfl)
theorem dJ34_replacementNode_8 : decode cJ34_replacementNode 8 = .ok (.dup, 1) := dk_89 (dk_at dksJ34_replacementNode_0 8 rfl rfl)
theorem dJ34_replacementNode_9 : decode cJ34_replacementNode 9 = .ok (.aload_n 3, 1) := dk_45 (dk_at dksJ34_replacementNode_0 9 rfl rfl)
theorem dJ34_replacementNode_10 : decode cJ34_replacementNode 10 = .ok (.getfield 36, 3) := dk_180 0 36 (dk_at dksJ34_replacementNode_0 10 rfl rfl)
theorem dJ34_replacementNode_13 : decode cJ34_replacementNode 13 = .ok (.aload_n 3, 1) := dk_45 (dk_at dksJ34_replacementNode_0 13 rfl rfl)
theorem dJ34_replacementNode_14 : decode cJ34_replacementNode 14 = .ok (.getfield 39, 3) := dk_180 0 39 (dk_at dksJ34_replacementNode_0 14 rfl rfl)
theorem dJ34_replacementNode_17 : decode cJ34_replacementNode 17 = .ok (.aload_n 3, 1) := dk_45 (dk_at dksJ34_replacementNode_0 17 rfl rfl)
theorem dJ34_replacementNode_18 : decode cJ34_replacementNode 18 = .ok (.getfield 43, 3) := dk_180 0 43 (dk_at dksJ34_replacementNode_0 18 rfl rfl)
theorem dJ34_replacementNode_21 : decode cJ34_replacementNode 21 = .ok (.aload_n 2, 1) := dk_44 (dk_at dksJ34_replacementNode_0 21 rfl rfl)
theorem dJ34_replacementNode_22 : decode cJ34_replacementNode 22 = .ok (.invokespecial 28, 3) := dk_183 0 28 (dk_at dksJ34_replacementNode_1 0 rfl rfl)
theorem dJ34_replacementNode_25 : decode cJ34_replacementNode 25 = .ok (.astore 4, 2) := dk_58 4 (dk_at dksJ34_replacementNode_1 3 rfl rfl)
theorem dJ34_replacementNode_27 : decode cJ34_replacementNode 27 = .ok (.aload_n 0, 1) := dk_42 (dk_at dksJ34_replacementNode_1 5 rfl rfl)
theorem dJ34_replacementNode_28 : decode cJ34_replacementNode 28 = .ok (.aload_n 3, 1) := dk_45 (dk_at dksJ34_replacementNode_1 6 rfl rfl)
theorem dJ34_replacementNode_29 : decode cJ34_replacementNode 29 = .ok (.aload 4, 2) := dk_25 4 (dk_at dksJ34_replacementNode_1 7 rfl rfl)
theorem dJ34_replacementNode_31 : decode cJ34_replacementNode 31 = .ok (.invokevirtual 46, 3) := dk_182 0 46 (dk_at dksJ34_replacementNode_1 9 rfl rfl)
theorem dJ34_replacementNode_34 : decode cJ34_replacementNode 34 = .ok (.aload 4, 2) := dk_25 4 (dk_at dksJ34_replacementNode_1 12 rfl rfl)
theorem dJ34_replacementNode_36 : decode cJ34_replacementNode 36 = .ok (.areturn, 1) := dk_176 (dk_at dksJ34_replacementNode_1 14 rfl rfl)
abbrev cJ34_transferLinks : ByteArray := prog_64_method_2_code
def yJ34_transferLinks : MethodName := ⟨RJ34, "transferLinks", "(Ljava/util/LinkedHashMap$Entry;Ljava/util/LinkedHashMap$Entry;)V"⟩
def dkwJ34_transferLinks_2 : List UInt8 := [181, 0, 11, 167, 0, 9, 25, 4, 44, 181, 0, 19, 177]
abbrev dktJ34_transferLinks_2 : List UInt8 := dkwJ34_transferLinks_2 ++ []
def dkwJ34_transferLinks_1 : List UInt8 := [199, 0, 11, 42, 44, 181, 0, 7, 167, 0, 8, 45, 44, 181, 0, 14, 25, 4, 199, 0, 11, 42, 44]
abbrev dktJ34_transferLinks_1 : List UInt8 := dkwJ34_transferLinks_1 ++ dktJ34_transferLinks_2
def dkwJ34_transferLinks_0 : List UInt8 := [44, 43, 180, 0, 19, 90, 181, 0, 19, 78, 44, 43, 180, 0, 14, 90, 181, 0, 14, 58, 4, 45]
abbrev dktJ34_transferLinks_0 : List UInt8 := dkwJ34_transferLinks_0 ++ dktJ34_transferLinks_1
theorem dksJ34_transferLinks_0 : cJ34_transferLinks.data.toList.drop 0 = dktJ34_transferLinks_0 := by decide +kernel
theorem dksJ34_transferLinks_1 : cJ34_transferLinks.data.toList.drop 22 = dktJ34_transferLinks_1 := dk_seg dksJ34_transferLinks_0 22 rfl rfl
theorem dksJ34_transferLinks_2 : cJ34_transferLinks.data.toList.drop 45 = dktJ34_transferLinks_2 := dk_seg dksJ34_transferLinks_1 23 rfl rfl
theorem dJ34_transferLinks_0 : decode cJ34_transferLinks 0 = .ok (.aload_n 2, 1) := dk_44 (dk_at dksJ34_transferLinks_0 0 rfl rfl)
theorem dJ34_transferLinks_1 : decode cJ34_transferLinks 1 = .ok (.aload_n 1, 1) := dk_43 (dk_at dksJ34_transferLinks_0 1 rfl rfl)
theorem dJ34_transferLinks_2 : decode cJ34_transferLinks 2 = .ok (.getfield 19, 3) := dk_180 0 19 (dk_at dksJ34_transferLinks_0 2 rfl rfl)
theorem dJ34_transferLinks_5 : decode cJ34_transferLinks 5 = .ok (.dup_x1, 1) := dk_90 (dk_at dksJ34_transferLinks_0 5 rfl rfl)
theorem dJ34_transferLinks_6 : decode cJ34_transferLinks 6 = .ok (.putfield 19, 3) := dk_181 0 19 (dk_at dksJ34_transferLinks_0 6 rfl rfl)
theorem dJ34_transferLinks_9 : decode cJ34_transferLinks 9 = .ok (.astore_n 3, 1) := dk_78 (dk_at dksJ34_transferLinks_0 9 rfl rfl)
theorem dJ34_transferLinks_10 : decode cJ34_transferLinks 10 = .ok (.aload_n 2, 1) := dk_44 (dk_at dksJ34_transferLinks_0 10 rfl rfl)
theorem dJ34_transferLinks_11 : decode cJ34_transferLinks 11 = .ok (.aload_n 1, 1) := dk_43 (dk_at dksJ34_transferLinks_0 11 rfl rfl)
theorem dJ34_transferLinks_12 : decode cJ34_transferLinks 12 = .ok (.getfield 14, 3) := dk_180 0 14 (dk_at dksJ34_transferLinks_0 12 rfl rfl)
theorem dJ34_transferLinks_15 : decode cJ34_transferLinks 15 = .ok (.dup_x1, 1) := dk_90 (dk_at dksJ34_transferLinks_0 15 rfl rfl)
theorem dJ34_transferLinks_16 : decode cJ34_transferLinks 16 = .ok (.putfield 14, 3) := dk_181 0 14 (dk_at dksJ34_transferLinks_0 16 rfl rfl)
theorem dJ34_transferLinks_19 : decode cJ34_transferLinks 19 = .ok (.astore 4, 2) := dk_58 4 (dk_at dksJ34_transferLinks_0 19 rfl rfl)
theorem dJ34_transferLinks_21 : decode cJ34_transferLinks 21 = .ok (.aload_n 3, 1) := dk_45 (dk_at dksJ34_transferLinks_0 21 rfl rfl)
theorem dJ34_transferLinks_22 : decode cJ34_transferLinks 22 = .ok (.ifnonnull 11, 3) := dk_199 0 11 (dk_at dksJ34_transferLinks_1 0 rfl rfl)
theorem dJ34_transferLinks_25 : decode cJ34_transferLinks 25 = .ok (.aload_n 0, 1) := dk_42 (dk_at dksJ34_transferLinks_1 3 rfl rfl)
theorem dJ34_transferLinks_26 : decode cJ34_transferLinks 26 = .ok (.aload_n 2, 1) := dk_44 (dk_at dksJ34_transferLinks_1 4 rfl rfl)
theorem dJ34_transferLinks_27 : decode cJ34_transferLinks 27 = .ok (.putfield 7, 3) := dk_181 0 7 (dk_at dksJ34_transferLinks_1 5 rfl rfl)
theorem dJ34_transferLinks_30 : decode cJ34_transferLinks 30 = .ok (.goto 8, 3) := dk_167 0 8 (dk_at dksJ34_transferLinks_1 8 rfl rfl)
theorem dJ34_transferLinks_33 : decode cJ34_transferLinks 33 = .ok (.aload_n 3, 1) := dk_45 (dk_at dksJ34_transferLinks_1 11 rfl rfl)
theorem dJ34_transferLinks_34 : decode cJ34_transferLinks 34 = .ok (.aload_n 2, 1) := dk_44 (dk_at dksJ34_transferLinks_1 12 rfl rfl)
theorem dJ34_transferLinks_35 : decode cJ34_transferLinks 35 = .ok (.putfield 14, 3) := dk_181 0 14 (dk_at dksJ34_transferLinks_1 13 rfl rfl)
theorem dJ34_transferLinks_38 : decode cJ34_transferLinks 38 = .ok (.aload 4, 2) := dk_25 4 (dk_at dksJ34_transferLinks_1 16 rfl rfl)
theorem dJ34_transferLinks_40 : decode cJ34_transferLinks 40 = .ok (.ifnonnull 11, 3) := dk_199 0 11 (dk_at dksJ34_transferLinks_1 18 rfl rfl)
theorem dJ34_transferLinks_43 : decode cJ34_transferLinks 43 = .ok (.aload_n 0, 1) := dk_42 (dk_at dksJ34_transferLinks_1 21 rfl rfl)
theorem dJ34_transferLinks_44 : decode cJ34_transferLinks 44 = .ok (.aload_n 2, 1) := dk_44 (dk_at dksJ34_transferLinks_1 22 rfl rfl)
theorem dJ34_transferLinks_45 : decode cJ34_transferLinks 45 = .ok (.putfield 11, 3) := dk_181 0 11 (dk_at dksJ34_transferLinks_2 0 rfl rfl)
theorem dJ34_transferLinks_48 : decode cJ34_transferLinks 48 = .ok (.goto 9, 3) := dk_167 0 9 (dk_at dksJ34_transferLinks_2 3 rfl rfl)
theorem dJ34_transferLinks_51 : decode cJ34_transferLinks 51 = .ok (.aload 4, 2) := dk_25 4 (dk_at dksJ34_transferLinks_2 6 rfl rfl)
theorem dJ34_transferLinks_53 : decode cJ34_transferLinks 53 = .ok (.aload_n 2, 1) := dk_44 (dk_at dksJ34_transferLinks_2 8 rfl rfl)
theorem dJ34_transferLinks_54 : decode cJ34_transferLinks 54 = .ok (.putfield 19, 3) := dk_181 0 19 (dk_at dksJ34_transferLinks_2 9 rfl rfl)
theorem dJ34_transferLinks_57 : decode cJ34_transferLinks 57 = .ok (.return_, 1) := dk_177 (dk_at dksJ34_transferLinks_2 12 rfl rfl)
abbrev cJ34_newNode : ByteArray := prog_64_method_4_code
def yJ34_newNode : MethodName := ⟨RJ34, "newNode", "(ILjava/lang/Object;Ljava/lang/Object;Ljava/util/HashMap$Node;)Ljava/util/HashMap$Node;"⟩
def dkwJ34_newNode_0 : List UInt8 := [187, 0, 15, 89, 27, 44, 45, 25, 4, 183, 0, 28, 58, 5, 42, 25, 5, 182, 0, 32, 25, 5, 176]
abbrev dktJ34_newNode_0 : List UInt8 := dkwJ34_newNode_0 ++ []
theorem dksJ34_newNode_0 : cJ34_newNode.data.toList.drop 0 = dktJ34_newNode_0 := by decide +kernel
theorem dJ34_newNode_0 : decode cJ34_newNode 0 = .ok (.new 15, 3) := dk_187 0 15 (dk_at dksJ34_newNode_0 0 rfl rfl)
theorem dJ34_newNode_3 : decode cJ34_newNode 3 = .ok (.dup, 1) := dk_89 (dk_at dksJ34_newNode_0 3 rfl rfl)
theorem dJ34_newNode_4 : decode cJ34_newNode 4 = .ok (.iload_n 1, 1) := dk_27 (dk_at dksJ34_newNode_0 4 rfl rfl)
theorem dJ34_newNode_5 : decode cJ34_newNode 5 = .ok (.aload_n 2, 1) := dk_44 (dk_at dksJ34_newNode_0 5 rfl rfl)
theorem dJ34_newNode_6 : decode cJ34_newNode 6 = .ok (.aload_n 3, 1) := dk_45 (dk_at dksJ34_newNode_0 6 rfl rfl)
theorem dJ34_newNode_7 : decode cJ34_newNode 7 = .ok (.aload 4, 2) := dk_25 4 (dk_at dksJ34_newNode_0 7 rfl rfl)
theorem dJ34_newNode_9 : decode cJ34_newNode 9 = .ok (.invokespecial 28, 3) := dk_183 0 28 (dk_at dksJ34_newNode_0 9 rfl rfl)
theorem dJ34_newNode_12 : decode cJ34_newNode 12 = .ok (.astore 5, 2) := dk_58 5 (dk_at dksJ34_newNode_0 12 rfl rfl)
theorem dJ34_newNode_14 : decode cJ34_newNode 14 = .ok (.aload_n 0, 1) := dk_42 (dk_at dksJ34_newNode_0 14 rfl rfl)
theorem dJ34_newNode_15 : decode cJ34_newNode 15 = .ok (.aload 5, 2) := dk_25 5 (dk_at dksJ34_newNode_0 15 rfl rfl)
theorem dJ34_newNode_17 : decode cJ34_newNode 17 = .ok (.invokevirtual 32, 3) := dk_182 0 32 (dk_at dksJ34_newNode_0 17 rfl rfl)
theorem dJ34_newNode_20 : decode cJ34_newNode 20 = .ok (.aload 5, 2) := dk_25 5 (dk_at dksJ34_newNode_0 20 rfl rfl)
theorem dJ34_newNode_22 : decode cJ34_newNode 22 = .ok (.areturn, 1) := dk_176 (dk_at dksJ34_newNode_0 22 rfl rfl)
abbrev cJ34_linkNodeAtEnd : ByteArray := prog_64_method_1_code
def yJ34_linkNodeAtEnd : MethodName := ⟨RJ34, "linkNodeAtEnd", "(Ljava/util/LinkedHashMap$Entry;)V"⟩
def dkwJ34_linkNodeAtEnd_3 : List UInt8 := [181, 0, 14, 177]
abbrev dktJ34_linkNodeAtEnd_3 : List UInt8 := dkwJ34_linkNodeAtEnd_3 ++ []
def dkwJ34_linkNodeAtEnd_2 : List UInt8 := [42, 43, 181, 0, 11, 44, 199, 0, 11, 42, 43, 181, 0, 7, 167, 0, 13, 43, 44, 181, 0, 19, 44, 43]
abbrev dktJ34_linkNodeAtEnd_2 : List UInt8 := dkwJ34_linkNodeAtEnd_2 ++ dktJ34_linkNodeAtEnd_3
def dkwJ34_linkNodeAtEnd_1 : List UInt8 := [181, 0, 11, 167, 0, 13, 43, 44, 181, 0, 14, 44, 43, 181, 0, 19, 167, 0, 35, 42, 180, 0, 11, 77]
abbrev dktJ34_linkNodeAtEnd_1 : List UInt8 := dkwJ34_linkNodeAtEnd_1 ++ dktJ34_linkNodeAtEnd_2
def dkwJ34_linkNodeAtEnd_0 : List UInt8 := [42, 180, 0, 1, 4, 160, 0, 38, 42, 180, 0, 7, 77, 42, 43, 181, 0, 7, 44, 199, 0, 11, 42, 43]
abbrev dktJ34_linkNodeAtEnd_0 : List UInt8 := dkwJ34_linkNodeAtEnd_0 ++ dktJ34_linkNodeAtEnd_1
theorem dksJ34_linkNodeAtEnd_0 : cJ34_linkNodeAtEnd.data.toList.drop 0 = dktJ34_linkNodeAtEnd_0 := by decide +kernel
theorem dksJ34_linkNodeAtEnd_1 : cJ34_linkNodeAtEnd.data.toList.drop 24 = dktJ34_linkNodeAtEnd_1 := dk_seg dksJ34_linkNodeAtEnd_0 24 rfl rfl
theorem dksJ34_linkNodeAtEnd_2 : cJ34_linkNodeAtEnd.data.toList.drop 48 = dktJ34_linkNodeAtEnd_2 := dk_seg dksJ34_linkNodeAtEnd_1 24 rfl rfl
theorem dksJ34_linkNodeAtEnd_3 : cJ34_linkNodeAtEnd.data.toList.drop 72 = dktJ34_linkNodeAtEnd_3 := dk_seg dksJ34_linkNodeAtEnd_2 24 rfl rfl
theorem dJ34_linkNodeAtEnd_0 : decode cJ34_linkNodeAtEnd 0 = .ok (.aload_n 0, 1) := dk_42 (dk_at dksJ34_linkNodeAtEnd_0 0 rfl rfl)
theorem dJ34_linkNodeAtEnd_1 : decode cJ34_linkNodeAtEnd 1 = .ok (.getfield 1, 3) := dk_180 0 1 (dk_at dksJ34_linkNodeAtEnd_0 1 rfl rfl)
theorem dJ34_linkNodeAtEnd_4 : decode cJ34_linkNodeAtEnd 4 = .ok (.iconst 1, 1) := dk_4 (dk_at dksJ34_linkNodeAtEnd_0 4 rfl rfl)
theorem dJ34_linkNodeAtEnd_5 : decode cJ34_linkNodeAtEnd 5 = .ok (.if_icmp .ne 38, 3) := dk_160 0 38 (dk_at dksJ34_linkNodeAtEnd_0 5 rfl rfl)
theorem dJ34_linkNodeAtEnd_8 : decode cJ34_linkNodeAtEnd 8 = .ok (.aload_n 0, 1) := dk_42 (dk_at dksJ34_linkNodeAtEnd_0 8 rfl rfl)
theorem dJ34_linkNodeAtEnd_9 : decode cJ34_linkNodeAtEnd 9 = .ok (.getfield 7, 3) := dk_180 0 7 (dk_at dksJ34_linkNodeAtEnd_0 9 rfl rfl)
theorem dJ34_linkNodeAtEnd_12 : decode cJ34_linkNodeAtEnd 12 = .ok (.astore_n 2, 1) := dk_77 (dk_at dksJ34_linkNodeAtEnd_0 12 rfl rfl)
theorem dJ34_linkNodeAtEnd_13 : decode cJ34_linkNodeAtEnd 13 = .ok (.aload_n 0, 1) := dk_42 (dk_at dksJ34_linkNodeAtEnd_0 13 rfl rfl)
theorem dJ34_linkNodeAtEnd_14 : decode cJ34_linkNodeAtEnd 14 = .ok (.aload_n 1, 1) := dk_43 (dk_at dksJ34_linkNodeAtEnd_0 14 rfl rfl)
theorem dJ34_linkNodeAtEnd_15 : decode cJ34_linkNodeAtEnd 15 = .ok (.putfield 7, 3) := dk_181 0 7 (dk_at dksJ34_linkNodeAtEnd_0 15 rfl rfl)
theorem dJ34_linkNodeAtEnd_18 : decode cJ34_linkNodeAtEnd 18 = .ok (.aload_n 2, 1) := dk_44 (dk_at dksJ34_linkNodeAtEnd_0 18 rfl rfl)
theorem dJ34_linkNodeAtEnd_19 : decode cJ34_linkNodeAtEnd 19 = .ok (.ifnonnull 11, 3) := dk_199 0 11 (dk_at dksJ34_linkNodeAtEnd_0 19 rfl rfl)
theorem dJ34_linkNodeAtEnd_22 : decode cJ34_linkNodeAtEnd 22 = .ok (.aload_n 0, 1) := dk_42 (dk_at dksJ34_linkNodeAtEnd_0 22 rfl rfl)
theorem dJ34_linkNodeAtEnd_23 : decode cJ34_linkNodeAtEnd 23 = .ok (.aload_n 1, 1) := dk_43 (dk_at dksJ34_linkNodeAtEnd_0 23 rfl rfl)
theorem dJ34_linkNodeAtEnd_24 : decode cJ34_linkNodeAtEnd 24 = .ok (.putfield 11, 3) := dk_181 0 11 (dk_at dksJ34_linkNodeAtEnd_1 0 rfl rfl)
theorem dJ34_linkNodeAtEnd_27 : decode cJ34_linkNodeAtEnd 27 = .ok (.goto 13, 3) := dk_167 0 13 (dk_at dksJ34_linkNodeAtEnd_1 3 rfl rfl)
theorem dJ34_linkNodeAtEnd_30 : decode cJ34_linkNodeAtEnd 30 = .ok (.aload_n 1, 1) := dk_43 (dk_at dksJ34_linkNodeAtEnd_1 6 rfl rfl)
theorem dJ34_linkNodeAtEnd_31 : decode cJ34_linkNodeAtEnd 31 = .ok (.aload_n 2, 1) := dk_44 (dk_at dksJ34_linkNodeAtEnd_1 7 rfl rfl)
theorem dJ34_linkNodeAtEnd_32 : decode cJ34_linkNodeAtEnd 32 = .ok (.putfield 14, 3) := dk_181 0 14 (dk_at dksJ34_linkNodeAtEnd_1 8 rfl rfl)
theorem dJ34_linkNodeAtEnd_35 : decode cJ34_linkNodeAtEnd 35 = .ok (.aload_n 2, 1) := dk_44 (dk_at dksJ34_linkNodeAtEnd_1 11 rfl rfl)
theorem dJ34_linkNodeAtEnd_36 : decode cJ34_linkNodeAtEnd 36 = .ok (.aload_n 1, 1) := dk_43 (dk_at dksJ34_linkNodeAtEnd_1 12 rfl rfl)
theorem dJ34_linkNodeAtEnd_37 : decode cJ34_linkNodeAtEnd 37 = .ok (.putfield 19, 3) := dk_181 0 19 (dk_at dksJ34_linkNodeAtEnd_1 13 rfl rfl)
theorem dJ34_linkNodeAtEnd_40 : decode cJ34_linkNodeAtEnd 40 = .ok (.goto 35, 3) := dk_167 0 35 (dk_at dksJ34_linkNodeAtEnd_1 16 rfl rfl)
theorem dJ34_linkNodeAtEnd_43 : decode cJ34_linkNodeAtEnd 43 = .ok (.aload_n 0, 1) := dk_42 (dk_at dksJ34_linkNodeAtEnd_1 19 rfl rfl)
theorem dJ34_linkNodeAtEnd_44 : decode cJ34_linkNodeAtEnd 44 = .ok (.getfield 11, 3) := dk_180 0 11 (dk_at dksJ34_linkNodeAtEnd_1 20 rfl rfl)
theorem dJ34_linkNodeAtEnd_47 : decode cJ34_linkNodeAtEnd 47 = .ok (.astore_n 2, 1) := dk_77 (dk_at dksJ34_linkNodeAtEnd_1 23 rfl rfl)
theorem dJ34_linkNodeAtEnd_48 : decode cJ34_linkNodeAtEnd 48 = .ok (.aload_n 0, 1) := dk_42 (dk_at dksJ34_linkNodeAtEnd_2 0 rfl rfl)
theorem dJ34_linkNodeAtEnd_49 : decode cJ34_linkNodeAtEnd 49 = .ok (.aload_n 1, 1) := dk_43 (dk_at dksJ34_linkNodeAtEnd_2 1 rfl rfl)
theorem dJ34_linkNodeAtEnd_50 : decode cJ34_linkNodeAtEnd 50 = .ok (.putfield 11, 3) := dk_181 0 11 (dk_at dksJ34_linkNodeAtEnd_2 2 rfl rfl)
theorem dJ34_linkNodeAtEnd_53 : decode cJ34_linkNodeAtEnd 53 = .ok (.aload_n 2, 1) := dk_44 (dk_at dksJ34_linkNodeAtEnd_2 5 rfl rfl)
theorem dJ34_linkNodeAtEnd_54 : decode cJ34_linkNodeAtEnd 54 = .ok (.ifnonnull 11, 3) := dk_199 0 11 (dk_at dksJ34_linkNodeAtEnd_2 6 rfl rfl)
theorem dJ34_linkNodeAtEnd_57 : decode cJ34_linkNodeAtEnd 57 = .ok (.aload_n 0, 1) := dk_42 (dk_at dksJ34_linkNodeAtEnd_2 9 rfl rfl)
theorem dJ34_linkNodeAtEnd_58 : decode cJ34_linkNodeAtEnd 58 = .ok (.aload_n 1, 1) := dk_43 (dk_at dksJ34_linkNodeAtEnd_2 10 rfl rfl)
theorem dJ34_linkNodeAtEnd_59 : decode cJ34_linkNodeAtEnd 59 = .ok (.putfield 7, 3) := dk_181 0 7 (dk_at dksJ34_linkNodeAtEnd_2 11 rfl rfl)
theorem dJ34_linkNodeAtEnd_62 : decode cJ34_linkNodeAtEnd 62 = .ok (.goto 13, 3) := dk_167 0 13 (dk_at dksJ34_linkNodeAtEnd_2 14 rfl rfl)
theorem dJ34_linkNodeAtEnd_65 : decode cJ34_linkNodeAtEnd 65 = .ok (.aload_n 1, 1) := dk_43 (dk_at dksJ34_linkNodeAtEnd_2 17 rfl rfl)
theorem dJ34_linkNodeAtEnd_66 : decode cJ34_linkNodeAtEnd 66 = .ok (.aload_n 2, 1) := dk_44 (dk_at dksJ34_linkNodeAtEnd_2 18 rfl rfl)
theorem dJ34_linkNodeAtEnd_67 : decode cJ34_linkNodeAtEnd 67 = .ok (.putfield 19, 3) := dk_181 0 19 (dk_at dksJ34_linkNodeAtEnd_2 19 rfl rfl)
theorem dJ34_linkNodeAtEnd_70 : decode cJ34_linkNodeAtEnd 70 = .ok (.aload_n 2, 1) := dk_44 (dk_at dksJ34_linkNodeAtEnd_2 22 rfl rfl)
theorem dJ34_linkNodeAtEnd_71 : decode cJ34_linkNodeAtEnd 71 = .ok (.aload_n 1, 1) := dk_43 (dk_at dksJ34_linkNodeAtEnd_2 23 rfl rfl)
theorem dJ34_linkNodeAtEnd_72 : decode cJ34_linkNodeAtEnd 72 = .ok (.putfield 14, 3) := dk_181 0 14 (dk_at dksJ34_linkNodeAtEnd_3 0 rfl rfl)
theorem dJ34_linkNodeAtEnd_75 : decode cJ34_linkNodeAtEnd 75 = .ok (.return_, 1) := dk_177 (dk_at dksJ34_linkNodeAtEnd_3 3 rfl rfl)
abbrev cJ34_newTreeNode : ByteArray := prog_64_method_6_code
def yJ34_newTreeNode : MethodName := ⟨RJ34, "newTreeNode", "(ILjava/lang/Object;Ljava/lang/Object;Ljava/util/HashMap$Node;)Ljava/util/HashMap$TreeNode;"⟩
def dkwJ34_newTreeNode_0 : List UInt8 := [187, 0, 50, 89, 27, 44, 45, 25, 4, 183, 0, 52, 58, 5, 42, 25, 5, 182, 0, 32, 25, 5, 176]
abbrev dktJ34_newTreeNode_0 : List UInt8 := dkwJ34_newTreeNode_0 ++ []
theorem dksJ34_newTreeNode_0 : cJ34_newTreeNode.data.toList.drop 0 = dktJ34_newTreeNode_0 := by decide +kernel
theorem dJ34_newTreeNode_0 : decode cJ34_newTreeNode 0 = .ok (.new 50, 3) := dk_187 0 50 (dk_at dksJ34_newTreeNode_0 0 rfl rfl)
theorem dJ34_newTreeNode_3 : decode cJ34_newTreeNode 3 = .ok (.dup, 1) := dk_89 (dk_at dksJ34_newTreeNode_0 3 rfl rfl)
theorem dJ34_newTreeNode_4 : decode cJ34_newTreeNode 4 = .ok (.iload_n 1, 1) := dk_27 (dk_at dksJ34_newTreeNode_0 4 rfl rfl)
theorem dJ34_newTreeNode_5 : decode cJ34_newTreeNode 5 = .ok (.aload_n 2, 1) := dk_44 (dk_at dksJ34_newTreeNode_0 5 rfl rfl)
theorem dJ34_newTreeNode_6 : decode cJ34_newTreeNode 6 = .ok (.aload_n 3, 1) := dk_45 (dk_at dksJ34_newTreeNode_0 6 rfl rfl)
theorem dJ34_newTreeNode_7 : decode cJ34_newTreeNode 7 = .ok (.aload 4, 2) := dk_25 4 (dk_at dksJ34_newTreeNode_0 7 rfl rfl)
theorem dJ34_newTreeNode_9 : decode cJ34_newTreeNode 9 = .ok (.invokespecial 52, 3) := dk_183 0 52 (dk_at dksJ34_newTreeNode_0 9 rfl rfl)
theorem dJ34_newTreeNode_12 : decode cJ34_newTreeNode 12 = .ok (.astore 5, 2) := dk_58 5 (dk_at dksJ34_newTreeNode_0 12 rfl rfl)
theorem dJ34_newTreeNode_14 : decode cJ34_newTreeNode 14 = .ok (.aload_n 0, 1) := dk_42 (dk_at dksJ34_newTreeNode_0 14 rfl rfl)
theorem dJ34_newTreeNode_15 : decode cJ34_newTreeNode 15 = .ok (.aload 5, 2) := dk_25 5 (dk_at dksJ34_newTreeNode_0 15 rfl rfl)
theorem dJ34_newTreeNode_17 : decode cJ34_newTreeNode 17 = .ok (.invokevirtual 32, 3) := dk_182 0 32 (dk_at dksJ34_newTreeNode_0 17 rfl rfl)
theorem dJ34_newTreeNode_20 : decode cJ34_newTreeNode 20 = .ok (.aload 5, 2) := dk_25 5 (dk_at dksJ34_newTreeNode_0 20 rfl rfl)
theorem dJ34_newTreeNode_22 : decode cJ34_newTreeNode 22 = .ok (.areturn, 1) := dk_176 (dk_at dksJ34_newTreeNode_0 22 rfl rfl)
abbrev cJ34_replacementTreeNode : ByteArray := prog_64_method_7_code
def yJ34_replacementTreeNode : MethodName := ⟨RJ34, "replacementTreeNode", "(Ljava/util/HashMap$Node;Ljava/util/HashMap$Node;)Ljava/util/HashMap$TreeNode;"⟩
def dkwJ34_replacementTreeNode_1 : List UInt8 := [183, 0, 52, 58, 4, 42, 45, 25, 4, 182, 0, 46, 25, 4, 176]
abbrev dktJ34_replacementTreeNode_1 : List UInt8 := dkwJ34_replacementTreeNode_1 ++ []
def dkwJ34_replacementTreeNode_0 : List UInt8 := [43, 192, 0, 15, 78, 187, 0, 50, 89, 45, 180, 0, 36, 45, 180, 0, 39, 45, 180, 0, 43, 44]
abbrev dktJ34_replacementTreeNode_0 : List UInt8 := dkwJ34_replacementTreeNode_0 ++ dktJ34_replacementTreeNode_1
theorem dksJ34_replacementTreeNode_0 : cJ34_replacementTreeNode.data.toList.drop 0 = dktJ34_replacementTreeNode_0 := by decide +kernel
theorem dksJ34_replacementTreeNode_1 : cJ34_replacementTreeNode.data.toList.drop 22 = dktJ34_replacementTreeNode_1 := dk_seg dksJ34_replacementTreeNode_0 22 rfl rfl
theorem dJ34_replacementTreeNode_0 : decode cJ34_replacementTreeNode 0 = .ok (.aload_n 1, 1) := dk_43 (dk_at dksJ34_replacementTreeNode_0 0 rfl rfl)
theorem dJ34_replacementTreeNode_1 : decode cJ34_replacementTreeNode 1 = .ok (.checkcast 15, 3) := dk_192 0 15 (dk_at dksJ34_replacementTreeNode_0 1 rfl rfl)
theorem dJ34_replacementTreeNode_4 : decode cJ34_replacementTreeNode 4 = .ok (.astore_n 3, 1) := dk_78 (dk_at dksJ34_replacementTreeNode_0 4 rfl rfl)
theorem dJ34_replacementTreeNode_5 : decode cJ34_replacementTreeNode 5 = .ok (.new 50, 3) := dk_187 0 50 (dk_at dksJ34_replacementTreeNode_0 5 rfl rfl)
theorem dJ34_replacementTreeNode_8 : decode cJ34_replacementTreeNode 8 = .ok (.dup, 1) := dk_89 (dk_at dksJ34_replacementTreeNode_0 8 rfl rfl)
theorem dJ34_replacementTreeNode_9 : decode cJ34_replacementTreeNode 9 = .ok (.aload_n 3, 1) := dk_45 (dk_at dksJ34_replacementTreeNode_0 9 rfl rfl)
theorem dJ34_replacementTreeNode_10 : decode cJ34_replacementTreeNode 10 = .ok (.getfield 36, 3) := dk_180 0 36 (dk_at dksJ34_replacementTreeNode_0 10 rfl rfl)
theorem dJ34_replacementTreeNode_13 : decode cJ34_replacementTreeNode 13 = .ok (.aload_n 3, 1) := dk_45 (dk_at dksJ34_replacementTreeNode_0 13 rfl rfl)
theorem dJ34_replacementTreeNode_14 : decode cJ34_replacementTreeNode 14 = .ok (.getfield 39, 3) := dk_180 0 39 (dk_at dksJ34_replacementTreeNode_0 14 rfl rfl)
theorem dJ34_replacementTreeNode_17 : decode cJ34_replacementTreeNode 17 = .ok (.aload_n 3, 1) := dk_45 (dk_at dksJ34_replacementTreeNode_0 17 rfl rfl)
theorem dJ34_replacementTreeNode_18 : decode cJ34_replacementTreeNode 18 = .ok (.getfield 43, 3) := dk_180 0 43 (dk_at dksJ34_replacementTreeNode_0 18 rfl rfl)
theorem dJ34_replacementTreeNode_21 : decode cJ34_replacementTreeNode 21 = .ok (.aload_n 2, 1) := dk_44 (dk_at dksJ34_replacementTreeNode_0 21 rfl rfl)
theorem dJ34_replacementTreeNode_22 : decode cJ34_replacementTreeNode 22 = .ok (.invokespecial 52, 3) := dk_183 0 52 (dk_at dksJ34_replacementTreeNode_1 0 rfl rfl)
theorem dJ34_replacementTreeNode_25 : decode cJ34_replacementTreeNode 25 = .ok (.astore 4, 2) := dk_58 4 (dk_at dksJ34_replacementTreeNode_1 3 rfl rfl)
theorem dJ34_replacementTreeNode_27 : decode cJ34_replacementTreeNode 27 = .ok (.aload_n 0, 1) := dk_42 (dk_at dksJ34_replacementTreeNode_1 5 rfl rfl)
theorem dJ34_replacementTreeNode_28 : decode cJ34_replacementTreeNode 28 = .ok (.aload_n 3, 1) := dk_45 (dk_at dksJ34_replacementTreeNode_1 6 rfl rfl)
theorem dJ34_replacementTreeNode_29 : decode cJ34_replacementTreeNode 29 = .ok (.aload 4, 2) := dk_25 4 (dk_at dksJ34_replacementTreeNode_1 7 rfl rfl)
theorem dJ34_replacementTreeNode_31 : decode cJ34_replacementTreeNode 31 = .ok (.invokevirtual 46, 3) := dk_182 0 46 (dk_at dksJ34_replacementTreeNode_1 9 rfl rfl)
theorem dJ34_replacementTreeNode_34 : decode cJ34_replacementTreeNode 34 = .ok (.aload 4, 2) := dk_25 4 (dk_at dksJ34_replacementTreeNode_1 12 rfl rfl)
theorem dJ34_replacementTreeNode_36 : decode cJ34_replacementTreeNode 36 = .ok (.areturn, 1) := dk_176 (dk_at dksJ34_replacementTreeNode_1 14 rfl rfl)
abbrev cJ34_afterNodeAccess : ByteArray := prog_64_method_10_code
def yJ34_afterNodeAccess : MethodName := ⟨RJ34, "afterNodeAccess", "(Ljava/util/HashMap$Node;)V"⟩
def dkwJ34_afterNodeAccess_11 : List UInt8 := [181, 0, 7, 42, 89, 180, 0, 68, 4, 96, 181, 0, 68, 177]
abbrev dktJ34_afterNodeAccess_11 : List UInt8 := dkwJ34_afterNodeAccess_11 ++ []
def dkwJ34_afterNodeAccess_10 : List UInt8 := [25, 4, 181, 0, 11, 167, 0, 15, 25, 4, 45, 181, 0, 14, 45, 25, 4, 181, 0, 19, 42, 25, 4]
abbrev dktJ34_afterNodeAccess_10 : List UInt8 := dkwJ34_afterNodeAccess_10 ++ dktJ34_afterNodeAccess_11
def dkwJ34_afterNodeAccess_9 : List UInt8 := [25, 5, 198, 0, 13, 25, 5, 25, 6, 181, 0, 14, 167, 0, 6, 25, 6, 78, 45, 199, 0, 12, 42]
abbrev dktJ34_afterNodeAccess_9 : List UInt8 := dkwJ34_afterNodeAccess_9 ++ dktJ34_afterNodeAccess_10
def dkwJ34_afterNodeAccess_8 : List UInt8 := [181, 0, 19, 25, 6, 199, 0, 12, 42, 25, 5, 181, 0, 11, 167, 0, 10, 25, 6, 25, 5, 181, 0, 19]
abbrev dktJ34_afterNodeAccess_8 : List UInt8 := dkwJ34_afterNodeAccess_8 ++ dktJ34_afterNodeAccess_9
def dkwJ34_afterNodeAccess_7 : List UInt8 := [43, 192, 0, 15, 58, 4, 25, 4, 180, 0, 19, 58, 5, 25, 4, 180, 0, 14, 58, 6, 25, 4, 1]
abbrev dktJ34_afterNodeAccess_7 : List UInt8 := dkwJ34_afterNodeAccess_7 ++ dktJ34_afterNodeAccess_8
def dkwJ34_afterNodeAccess_6 : List UInt8 := [181, 0, 68, 167, 0, 127, 42, 180, 0, 1, 4, 160, 0, 119, 42, 180, 0, 7, 89, 78, 43, 165, 0, 109]
abbrev dktJ34_afterNodeAccess_6 : List UInt8 := dkwJ34_afterNodeAccess_6 ++ dktJ34_afterNodeAccess_7
def dkwJ34_afterNodeAccess_5 : List UInt8 := [181, 0, 19, 44, 25, 4, 181, 0, 14, 42, 25, 4, 181, 0, 11, 42, 89, 180, 0, 68, 4, 96]
abbrev dktJ34_afterNodeAccess_5 : List UInt8 := dkwJ34_afterNodeAccess_5 ++ dktJ34_afterNodeAccess_6
def dkwJ34_afterNodeAccess_4 : List UInt8 := [167, 0, 6, 25, 5, 77, 44, 199, 0, 12, 42, 25, 4, 181, 0, 7, 167, 0, 15, 25, 4, 44]
abbrev dktJ34_afterNodeAccess_4 : List UInt8 := dkwJ34_afterNodeAccess_4 ++ dktJ34_afterNodeAccess_5
def dkwJ34_afterNodeAccess_3 : List UInt8 := [167, 0, 10, 25, 5, 25, 6, 181, 0, 14, 25, 6, 198, 0, 13, 25, 6, 25, 5, 181, 0, 19]
abbrev dktJ34_afterNodeAccess_3 : List UInt8 := dkwJ34_afterNodeAccess_3 ++ dktJ34_afterNodeAccess_4
def dkwJ34_afterNodeAccess_2 : List UInt8 := [180, 0, 14, 58, 6, 25, 4, 1, 181, 0, 14, 25, 5, 199, 0, 12, 42, 25, 6, 181, 0, 7]
abbrev dktJ34_afterNodeAccess_2 : List UInt8 := dkwJ34_afterNodeAccess_2 ++ dktJ34_afterNodeAccess_3
def dkwJ34_afterNodeAccess_1 : List UInt8 := [180, 0, 11, 89, 77, 43, 165, 0, 112, 43, 192, 0, 15, 58, 4, 25, 4, 180, 0, 19, 58, 5, 25, 4]
abbrev dktJ34_afterNodeAccess_1 : List UInt8 := dkwJ34_afterNodeAccess_1 ++ dktJ34_afterNodeAccess_2
def dkwJ34_afterNodeAccess_0 : List UInt8 := [42, 180, 0, 1, 5, 159, 0, 17, 42, 180, 0, 1, 154, 0, 129, 42, 180, 0, 64, 153, 0, 122, 42]
abbrev dktJ34_afterNodeAccess_0 : List UInt8 := dkwJ34_afterNodeAccess_0 ++ dktJ34_afterNodeAccess_1
theorem dksJ34_afterNodeAccess_0 : cJ34_afterNodeAccess.data.toList.drop 0 = dktJ34_afterNodeAccess_0 := by decide +kernel
theorem dksJ34_afterNodeAccess_1 : cJ34_afterNodeAccess.data.toList.drop 23 = dktJ34_afterNodeAccess_1 := dk_seg dksJ34_afterNodeAccess_0 23 rfl rfl
theorem dksJ34_afterNodeAccess_2 : cJ34_afterNodeAccess.data.toList.drop 47 = dktJ34_afterNodeAccess_2 := dk_seg dksJ34_afterNodeAccess_1 24 rfl rfl
theorem dksJ34_afterNodeAccess_3 : cJ34_afterNodeAccess.data.toList.drop 69 = dktJ34_afterNodeAccess_3 := dk_seg dksJ34_afterNodeAccess_2 22 rfl rfl
theorem dksJ34_afterNodeAccess_4 : cJ34_afterNodeAccess.data.toList.drop 91 = dktJ34_afterNodeAccess_4 := dk_seg dksJ34_afterNodeAccess_3 22 rfl rfl
theorem dksJ34_afterNodeAccess_5 : cJ34_afterNodeAccess.data.toList.drop 113 = dktJ34_afterNodeAccess_5 := dk_seg dksJ34_afterNodeAccess_4 22 rfl rfl
theorem dksJ34_afterNodeAccess_6 : cJ34_afterNodeAccess.data.toList.drop 135 = dktJ34_afterNodeAccess_6 := dk_seg dksJ34_afterNodeAccess_5 22 rfl rfl
theorem dksJ34_afterNodeAccess_7 : cJ34_afterNodeAccess.data.toList.drop 159 = dktJ34_afterNodeAccess_7 := dk_seg dksJ34_afterNodeAccess_6 24 rfl rfl
theorem dksJ34_afterNodeAccess_8 : cJ34_afterNodeAccess.data.toList.drop 182 = dktJ34_afterNodeAccess_8 := dk_seg dksJ34_afterNodeAccess_7 23 rfl rfl
theorem dksJ34_afterNodeAccess_9 : cJ34_afterNodeAccess.data.toList.drop 206 = dktJ34_afterNodeAccess_9 := dk_seg dksJ34_afterNodeAccess_8 24 rfl rfl
theorem dksJ34_afterNodeAccess_10 : cJ34_afterNodeAccess.data.toList.drop 229 = dktJ34_afterNodeAccess_10 := dk_seg dksJ34_afterNodeAccess_9 23 rfl rfl
theorem dksJ34_afterNodeAccess_11 : cJ34_afterNodeAccess.data.toList.drop 252 = dktJ34_afterNodeAccess_11 := dk_seg dksJ34_afterNodeAccess_10 23 rfl rfl
theorem dJ34_afterNodeAccess_0 : decode cJ34_afterNodeAccess 0 = .ok (.aload_n 0, 1) := dk_42 (dk_at dksJ34_afterNodeAccess_0 0 rfl rfl)
theorem dJ34_afterNodeAccess_1 : decode cJ34_afterNodeAccess 1 = .ok (.getfield 1, 3) := dk_180 0 1 (dk_at dksJ34_afterNodeAccess_0 1 rfl rfl)
theorem dJ34_afterNodeAccess_4 : decode cJ34_afterNodeAccess 4 = .ok (.iconst 2, 1) := dk_5 (dk_at dksJ34_afterNodeAccess_0 4 rfl rfl)
theorem dJ34_afterNodeAccess_5 : decode cJ34_afterNodeAccess 5 = .ok (.if_icmp .eq 17, 3) := dk_159 0 17 (dk_at dksJ34_afterNodeAccess_0 5 rfl rfl)
theorem dJ34_afterNodeAccess_8 : decode cJ34_afterNodeAccess 8 = .ok (.aload_n 0, 1) := dk_42 (dk_at dksJ34_afterNodeAccess_0 8 rfl rfl)
theorem dJ34_afterNodeAccess_9 : decode cJ34_afterNodeAccess 9 = .ok (.getfield 1, 3) := dk_180 0 1 (dk_at dksJ34_afterNodeAccess_0 9 rfl rfl)
theorem dJ34_afterNodeAccess_12 : decode cJ34_afterNodeAccess 12 = .ok (.ifCond .ne 129, 3) := dk_154 0 129 (dk_at dksJ34_afterNodeAccess_0 12 rfl rfl)
theorem dJ34_afterNodeAccess_15 : decode cJ34_afterNodeAccess 15 = .ok (.aload_n 0, 1) := dk_42 (dk_at dksJ34_afterNodeAccess_0 15 rfl rfl)
theorem dJ34_afterNodeAccess_16 : decode cJ34_afterNodeAccess 16 = .ok (.getfield 64, 3) := dk_180 0 64 (dk_at dksJ34_afterNodeAccess_0 16 rfl rfl)
theorem dJ34_afterNodeAccess_19 : decode cJ34_afterNodeAccess 19 = .ok (.ifCond .eq 122, 3) := dk_153 0 122 (dk_at dksJ34_afterNodeAccess_0 19 rfl rfl)
theorem dJ34_afterNodeAccess_22 : decode cJ34_afterNodeAccess 22 = .ok (.aload_n 0, 1) := dk_42 (dk_at dksJ34_afterNodeAccess_0 22 rfl rfl)
theorem dJ34_afterNodeAccess_23 : decode cJ34_afterNodeAccess 23 = .ok (.getfield 11, 3) := dk_180 0 11 (dk_at dksJ34_afterNodeAccess_1 0 rfl rfl)
theorem dJ34_afterNodeAccess_26 : decode cJ34_afterNodeAccess 26 = .ok (.dup, 1) := dk_89 (dk_at dksJ34_afterNodeAccess_1 3 rfl rfl)
theorem dJ34_afterNodeAccess_27 : decode cJ34_afterNodeAccess 27 = .ok (.astore_n 2, 1) := dk_77 (dk_at dksJ34_afterNodeAccess_1 4 rfl rfl)
theorem dJ34_afterNodeAccess_28 : decode cJ34_afterNodeAccess 28 = .ok (.aload_n 1, 1) := dk_43 (dk_at dksJ34_afterNodeAccess_1 5 rfl rfl)
theorem dJ34_afterNodeAccess_29 : decode cJ34_afterNodeAccess 29 = .ok (.if_acmp .eq 112, 3) := dk_165 0 112 (dk_at dksJ34_afterNodeAccess_1 6 rfl rfl)
theorem dJ34_afterNodeAccess_32 : decode cJ34_afterNodeAccess 32 = .ok (.aload_n 1, 1) := dk_43 (dk_at dksJ34_afterNodeAccess_1 9 rfl rfl)
theorem dJ34_afterNodeAccess_33 : decode cJ34_afterNodeAccess 33 = .ok (.checkcast 15, 3) := dk_192 0 15 (dk_at dksJ34_afterNodeAccess_1 10 rfl rfl)
theorem dJ34_afterNodeAccess_36 : decode cJ34_afterNodeAccess 36 = .ok (.astore 4, 2) := dk_58 4 (dk_at dksJ34_afterNodeAccess_1 13 rfl rfl)
theorem dJ34_afterNodeAccess_38 : decode cJ34_afterNodeAccess 38 = .ok (.aload 4, 2) := dk_25 4 (dk_at dksJ34_afterNodeAccess_1 15 rfl rfl)
theorem dJ34_afterNodeAccess_40 : decode cJ34_afterNodeAccess 40 = .ok (.getfield 19, 3) := dk_180 0 19 (dk_at dksJ34_afterNodeAccess_1 17 rfl rfl)
theorem dJ34_afterNodeAccess_43 : decode cJ34_afterNodeAccess 43 = .ok (.astore 5, 2) := dk_58 5 (dk_at dksJ34_afterNodeAccess_1 20 rfl rfl)
theorem dJ34_afterNodeAccess_45 : decode cJ34_afterNodeAccess 45 = .ok (.aload 4, 2) := dk_25 4 (dk_at dksJ34_afterNodeAccess_1 22 rfl rfl)
theorem dJ34_afterNodeAccess_47 : decode cJ34_afterNodeAccess 47 = .ok (.getfield 14, 3) := dk_180 0 14 (dk_at dksJ34_afterNodeAccess_2 0 rfl rfl)
theorem dJ34_afterNodeAccess_50 : decode cJ34_afterNodeAccess 50 = .ok (.astore 6, 2) := dk_58 6 (dk_at dksJ34_afterNodeAccess_2 3 rfl rfl)
theorem dJ34_afterNodeAccess_52 : decode cJ34_afterNodeAccess 52 = .ok (.aload 4, 2) := dk_25 4 (dk_at dksJ34_afterNodeAccess_2 5 rfl rfl)
theorem dJ34_afterNodeAccess_54 : decode cJ34_afterNodeAccess 54 = .ok (.aconst_null, 1) := dk_1 (dk_at dksJ34_afterNodeAccess_2 7 rfl rfl)
theorem dJ34_afterNodeAccess_55 : decode cJ34_afterNodeAccess 55 = .ok (.putfield 14, 3) := dk_181 0 14 (dk_at dksJ34_afterNodeAccess_2 8 rfl rfl)
theorem dJ34_afterNodeAccess_58 : decode cJ34_afterNodeAccess 58 = .ok (.aload 5, 2) := dk_25 5 (dk_at dksJ34_afterNodeAccess_2 11 rfl rfl)
theorem dJ34_afterNodeAccess_60 : decode cJ34_afterNodeAccess 60 = .ok (.ifnonnull 12, 3) := dk_199 0 12 (dk_at dksJ34_afterNodeAccess_2 13 rfl rfl)
theorem dJ34_afterNodeAccess_63 : decode cJ34_afterNodeAccess 63 = .ok (.aload_n 0, 1) := dk_42 (dk_at dksJ34_afterNodeAccess_2 16 rfl rfl)
theorem dJ34_afterNodeAccess_64 : decode cJ34_afterNodeAccess 64 = .ok (.aload 6, 2) := dk_25 6 (dk_at dksJ34_afterNodeAccess_2 17 rfl rfl)
theorem dJ34_afterNodeAccess_66 : decode cJ34_afterNodeAccess 66 = .ok (.putfield 7, 3) := dk_181 0 7 (dk_at dksJ34_afterNodeAccess_2 19 rfl rfl)
theorem dJ34_afterNodeAccess_69 : decode cJ34_afterNodeAccess 69 = .ok (.goto 10, 3) := dk_167 0 10 (dk_at dksJ34_afterNodeAccess_3 0 rfl rfl)
theorem dJ34_afterNodeAccess_72 : decode cJ34_afterNodeAccess 72 = .ok (.aload 5, 2) := dk_25 5 (dk_at dksJ34_afterNodeAccess_3 3 rfl rfl)
theorem dJ34_afterNodeAccess_74 : decode cJ34_afterNodeAccess 74 = .ok (.aload 6, 2) := dk_25 6 (dk_at dksJ34_afterNodeAccess_3 5 rfl rfl)
theorem dJ34_afterNodeAccess_76 : decode cJ34_afterNodeAccess 76 = .ok (.putfield 14, 3) := dk_181 0 14 (dk_at dksJ34_afterNodeAccess_3 7 rfl rfl)
theorem dJ34_afterNodeAccess_79 : decode cJ34_afterNodeAccess 79 = .ok (.aload 6, 2) := dk_25 6 (dk_at dksJ34_afterNodeAccess_3 10 rfl rfl)
theorem dJ34_afterNodeAccess_81 : decode cJ34_afterNodeAccess 81 = .ok (.ifnull 13, 3) := dk_198 0 13 (dk_at dksJ34_afterNodeAccess_3 12 rfl rfl)
theorem dJ34_afterNodeAccess_84 : decode cJ34_afterNodeAccess 84 = .ok (.aload 6, 2) := dk_25 6 (dk_at dksJ34_afterNodeAccess_3 15 rfl rfl)
theorem dJ34_afterNodeAccess_86 : decode cJ34_afterNodeAccess 86 = .ok (.aload 5, 2) := dk_25 5 (dk_at dksJ34_afterNodeAccess_3 17 rfl rfl)
theorem dJ34_afterNodeAccess_88 : decode cJ34_afterNodeAccess 88 = .ok (.putfield 19, 3) := dk_181 0 19 (dk_at dksJ34_afterNodeAccess_3 19 rfl rfl)
theorem dJ34_afterNodeAccess_91 : decode cJ34_afterNodeAccess 91 = .ok (.goto 6, 3) := dk_167 0 6 (dk_at dksJ34_afterNodeAccess_4 0 rfl rfl)
theorem dJ34_afterNodeAccess_94 : decode cJ34_afterNodeAccess 94 = .ok (.aload 5, 2) := dk_25 5 (dk_at dksJ34_afterNodeAccess_4 3 rfl rfl)
theorem dJ34_afterNodeAccess_96 : decode cJ34_afterNodeAccess 96 = .ok (.astore_n 2, 1) := dk_77 (dk_at dksJ34_afterNodeAccess_4 5 rfl rfl)
theorem dJ34_afterNodeAccess_97 : decode cJ34_afterNodeAccess 97 = .ok (.aload_n 2, 1) := dk_44 (dk_at dksJ34_afterNodeAccess_4 6 rfl rfl)
theorem dJ34_afterNodeAccess_98 : decode cJ34_afterNodeAccess 98 = .ok (.ifnonnull 12, 3) := dk_199 0 12 (dk_at dksJ34_afterNodeAccess_4 7 rfl rfl)
theorem dJ34_afterNodeAccess_101 : decode cJ34_afterNodeAccess 101 = .ok (.aload_n 0, 1) := dk_42 (dk_at dksJ34_afterNodeAccess_4 10 rfl rfl)
theorem dJ34_afterNodeAccess_102 : decode cJ34_afterNodeAccess 102 = .ok (.aload 4, 2) := dk_25 4 (dk_at dksJ34_afterNodeAccess_4 11 rfl rfl)
theorem dJ34_afterNodeAccess_104 : decode cJ34_afterNodeAccess 104 = .ok (.putfield 7, 3) := dk_181 0 7 (dk_at dksJ34_afterNodeAccess_4 13 rfl rfl)
theorem dJ34_afterNodeAccess_107 : decode cJ34_afterNodeAccess 107 = .ok (.goto 15, 3) := dk_167 0 15 (dk_at dksJ34_afterNodeAccess_4 16 rfl rfl)
theorem dJ34_afterNodeAccess_110 : decode cJ34_afterNodeAccess 110 = .ok (.aload 4, 2) := dk_25 4 (dk_at dksJ34_afterNodeAccess_4 19 rfl rfl)
theorem dJ34_afterNodeAccess_112 : decode cJ34_afterNodeAccess 112 = .ok (.aload_n 2, 1) := dk_44 (dk_at dksJ34_afterNodeAccess_4 21 rfl rfl)
theorem dJ34_afterNodeAccess_113 : decode cJ34_afterNodeAccess 113 = .ok (.putfield 19, 3) := dk_181 0 19 (dk_at dksJ34_afterNodeAccess_5 0 rfl rfl)
theorem dJ34_afterNodeAccess_116 : decode cJ34_afterNodeAccess 116 = .ok (.aload_n 2, 1) := dk_44 (dk_at dksJ34_afterNodeAccess_5 3 rfl rfl)
theorem dJ34_afterNodeAccess_117 : decode cJ34_afterNodeAccess 117 = .ok (.aload 4, 2) := dk_25 4 (dk_at dksJ34_afterNodeAccess_5 4 rfl rfl)
theorem dJ34_afterNodeAccess_119 : decode cJ34_afterNodeAccess 119 = .ok (.putfield 14, 3) := dk_181 0 14 (dk_at dksJ34_afterNodeAccess_5 6 rfl rfl)
theorem dJ34_afterNodeAccess_122 : decode cJ34_afterNodeAccess 122 = .ok (.aload_n 0, 1) := dk_42 (dk_at dksJ34_afterNodeAccess_5 9 rfl rfl)
theorem dJ34_afterNodeAccess_123 : decode cJ34_afterNodeAccess 123 = .ok (.aload 4, 2) := dk_25 4 (dk_at dksJ34_afterNodeAccess_5 10 rfl rfl)
theorem dJ34_afterNodeAccess_125 : decode cJ34_afterNodeAccess 125 = .ok (.putfield 11, 3) := dk_181 0 11 (dk_at dksJ34_afterNodeAccess_5 12 rfl rfl)
theorem dJ34_afterNodeAccess_128 : decode cJ34_afterNodeAccess 128 = .ok (.aload_n 0, 1) := dk_42 (dk_at dksJ34_afterNodeAccess_5 15 rfl rfl)
theorem dJ34_afterNodeAccess_129 : decode cJ34_afterNodeAccess 129 = .ok (.dup, 1) := dk_89 (dk_at dksJ34_afterNodeAccess_5 16 rfl rfl)
theorem dJ34_afterNodeAccess_130 : decode cJ34_afterNodeAccess 130 = .ok (.getfield 68, 3) := dk_180 0 68 (dk_at dksJ34_afterNodeAccess_5 17 rfl rfl)
theorem dJ34_afterNodeAccess_133 : decode cJ34_afterNodeAccess 133 = .ok (.iconst 1, 1) := dk_4 (dk_at dksJ34_afterNodeAccess_5 20 rfl rfl)
theorem dJ34_afterNodeAccess_134 : decode cJ34_afterNodeAccess 134 = .ok (.iadd, 1) := dk_96 (dk_at dksJ34_afterNodeAccess_5 21 rfl rfl)
theorem dJ34_afterNodeAccess_135 : decode cJ34_afterNodeAccess 135 = .ok (.putfield 68, 3) := dk_181 0 68 (dk_at dksJ34_afterNodeAccess_6 0 rfl rfl)
theorem dJ34_afterNodeAccess_138 : decode cJ34_afterNodeAccess 138 = .ok (.goto 127, 3) := dk_167 0 127 (dk_at dksJ34_afterNodeAccess_6 3 rfl rfl)
theorem dJ34_afterNodeAccess_141 : decode cJ34_afterNodeAccess 141 = .ok (.aload_n 0, 1) := dk_42 (dk_at dksJ34_afterNodeAccess_6 6 rfl rfl)
theorem dJ34_afterNodeAccess_142 : decode cJ34_afterNodeAccess 142 = .ok (.getfield 1, 3) := dk_180 0 1 (dk_at dksJ34_afterNodeAccess_6 7 rfl rfl)
theorem dJ34_afterNodeAccess_145 : decode cJ34_afterNodeAccess 145 = .ok (.iconst 1, 1) := dk_4 (dk_at dksJ34_afterNodeAccess_6 10 rfl rfl)
theorem dJ34_afterNodeAccess_146 : decode cJ34_afterNodeAccess 146 = .ok (.if_icmp .ne 119, 3) := dk_160 0 119 (dk_at dksJ34_afterNodeAccess_6 11 rfl rfl)
theorem dJ34_afterNodeAccess_149 : decode cJ34_afterNodeAccess 149 = .ok (.aload_n 0, 1) := dk_42 (dk_at dksJ34_afterNodeAccess_6 14 rfl rfl)
theorem dJ34_afterNodeAccess_150 : decode cJ34_afterNodeAccess 150 = .ok (.getfield 7, 3) := dk_180 0 7 (dk_at dksJ34_afterNodeAccess_6 15 rfl rfl)
theorem dJ34_afterNodeAccess_153 : decode cJ34_afterNodeAccess 153 = .ok (.dup, 1) := dk_89 (dk_at dksJ34_afterNodeAccess_6 18 rfl rfl)
theorem dJ34_afterNodeAccess_154 : decode cJ34_afterNodeAccess 154 = .ok (.astore_n 3, 1) := dk_78 (dk_at dksJ34_afterNodeAccess_6 19 rfl rfl)
theorem dJ34_afterNodeAccess_155 : decode cJ34_afterNodeAccess 155 = .ok (.aload_n 1, 1) := dk_43 (dk_at dksJ34_afterNodeAccess_6 20 rfl rfl)
theorem dJ34_afterNodeAccess_156 : decode cJ34_afterNodeAccess 156 = .ok (.if_acmp .eq 109, 3) := dk_165 0 109 (dk_at dksJ34_afterNodeAccess_6 21 rfl rfl)
theorem dJ34_afterNodeAccess_159 : decode cJ34_afterNodeAccess 159 = .ok (.aload_n 1, 1) := dk_43 (dk_at dksJ34_afterNodeAccess_7 0 rfl rfl)
theorem dJ34_afterNodeAccess_160 : decode cJ34_afterNodeAccess 160 = .ok (.checkcast 15, 3) := dk_192 0 15 (dk_at dksJ34_afterNodeAccess_7 1 rfl rfl)
theorem dJ34_afterNodeAccess_163 : decode cJ34_afterNodeAccess 163 = .ok (.astore 4, 2) := dk_58 4 (dk_at dksJ34_afterNodeAccess_7 4 rfl rfl)
theorem dJ34_afterNodeAccess_165 : decode cJ34_afterNodeAccess 165 = .ok (.aload 4, 2) := dk_25 4 (dk_at dksJ34_afterNodeAccess_7 6 rfl rfl)
theorem dJ34_afterNodeAccess_167 : decode cJ34_afterNodeAccess 167 = .ok (.getfield 19, 3) := dk_180 0 19 (dk_at dksJ34_afterNodeAccess_7 8 rfl rfl)
theorem dJ34_afterNodeAccess_170 : decode cJ34_afterNodeAccess 170 = .ok (.astore 5, 2) := dk_58 5 (dk_at dksJ34_afterNodeAccess_7 11 rfl rfl)
theorem dJ34_afterNodeAccess_172 : decode cJ34_afterNodeAccess 172 = .ok (.aload 4, 2) := dk_25 4 (dk_at dksJ34_afterNodeAccess_7 13 rfl rfl)
theorem dJ34_afterNodeAccess_174 : decode cJ34_afterNodeAccess 174 = .ok (.getfield 14, 3) := dk_180 0 14 (dk_at dksJ34_afterNodeAccess_7 15 rfl rfl)
theorem dJ34_afterNodeAccess_177 : decode cJ34_afterNodeAccess 177 = .ok (.astore 6, 2) := dk_58 6 (dk_at dksJ34_afterNodeAccess_7 18 rfl rfl)
theorem dJ34_afterNodeAccess_179 : decode cJ34_afterNodeAccess 179 = .ok (.aload 4, 2) := dk_25 4 (dk_at dksJ34_afterNodeAccess_7 20 rfl rfl)
theorem dJ34_afterNodeAccess_181 : decode cJ34_afterNodeAccess 181 = .ok (.aconst_null, 1) := dk_1 (dk_at dksJ34_afterNodeAccess_7 22 rfl rfl)
theorem dJ34_afterNodeAccess_182 : decode cJ34_afterNodeAccess 182 = .ok (.putfield 19, 3) := dk_181 0 19 (dk_at dksJ34_afterNodeAccess_8 0 rfl rfl)
theorem dJ34_afterNodeAccess_185 : decode cJ34_afterNodeAccess 185 = .ok (.aload 6, 2) := dk_25 6 (dk_at dksJ34_afterNodeAccess_8 3 rfl rfl)
theorem dJ34_afterNodeAccess_187 : decode cJ34_afterNodeAccess 187 = .ok (.ifnonnull 12, 3) := dk_199 0 12 (dk_at dksJ34_afterNodeAccess_8 5 rfl rfl)
theorem dJ34_afterNodeAccess_190 : decode cJ34_afterNodeAccess 190 = .ok (.aload_n 0, 1) := dk_42 (dk_at dksJ34_afterNodeAccess_8 8 rfl rfl)
theorem dJ34_afterNodeAccess_191 : decode cJ34_afterNodeAccess 191 = .ok (.aload 5, 2) := dk_25 5 (dk_at dksJ34_afterNodeAccess_8 9 rfl rfl)
theorem dJ34_afterNodeAccess_193 : decode cJ34_afterNodeAccess 193 = .ok (.putfield 11, 3) := dk_181 0 11 (dk_at dksJ34_afterNodeAccess_8 11 rfl rfl)
theorem dJ34_afterNodeAccess_196 : decode cJ34_afterNodeAccess 196 = .ok (.goto 10, 3) := dk_167 0 10 (dk_at dksJ34_afterNodeAccess_8 14 rfl rfl)
theorem dJ34_afterNodeAccess_199 : decode cJ34_afterNodeAccess 199 = .ok (.aload 6, 2) := dk_25 6 (dk_at dksJ34_afterNodeAccess_8 17 rfl rfl)
theorem dJ34_afterNodeAccess_201 : decode cJ34_afterNodeAccess 201 = .ok (.aload 5, 2) := dk_25 5 (dk_at dksJ34_afterNodeAccess_8 19 rfl rfl)
theorem dJ34_afterNodeAccess_203 : decode cJ34_afterNodeAccess 203 = .ok (.putfield 19, 3) := dk_181 0 19 (dk_at dksJ34_afterNodeAccess_8 21 rfl rfl)
theorem dJ34_afterNodeAccess_206 : decode cJ34_afterNodeAccess 206 = .ok (.aload 5, 2) := dk_25 5 (dk_at dksJ34_afterNodeAccess_9 0 rfl rfl)
theorem dJ34_afterNodeAccess_208 : decode cJ34_afterNodeAccess 208 = .ok (.ifnull 13, 3) := dk_198 0 13 (dk_at dksJ34_afterNodeAccess_9 2 rfl rfl)
theorem dJ34_afterNodeAccess_211 : decode cJ34_afterNodeAccess 211 = .ok (.aload 5, 2) := dk_25 5 (dk_at dksJ34_afterNodeAccess_9 5 rfl rfl)
theorem dJ34_afterNodeAccess_213 : decode cJ34_afterNodeAccess 213 = .ok (.aload 6, 2) := dk_25 6 (dk_at dksJ34_afterNodeAccess_9 7 rfl rfl)
theorem dJ34_afterNodeAccess_215 : decode cJ34_afterNodeAccess 215 = .ok (.putfield 14, 3) := dk_181 0 14 (dk_at dksJ34_afterNodeAccess_9 9 rfl rfl)
theorem dJ34_afterNodeAccess_218 : decode cJ34_afterNodeAccess 218 = .ok (.goto 6, 3) := dk_167 0 6 (dk_at dksJ34_afterNodeAccess_9 12 rfl rfl)
theorem dJ34_afterNodeAccess_221 : decode cJ34_afterNodeAccess 221 = .ok (.aload 6, 2) := dk_25 6 (dk_at dksJ34_afterNodeAccess_9 15 rfl rfl)
theorem dJ34_afterNodeAccess_223 : decode cJ34_afterNodeAccess 223 = .ok (.astore_n 3, 1) := dk_78 (dk_at dksJ34_afterNodeAccess_9 17 rfl rfl)
theorem dJ34_afterNodeAccess_224 : decode cJ34_afterNodeAccess 224 = .ok (.aload_n 3, 1) := dk_45 (dk_at dksJ34_afterNodeAccess_9 18 rfl rfl)
theorem dJ34_afterNodeAccess_225 : decode cJ34_afterNodeAccess 225 = .ok (.ifnonnull 12, 3) := dk_199 0 12 (dk_at dksJ34_afterNodeAccess_9 19 rfl rfl)
theorem dJ34_afterNodeAccess_228 : decode cJ34_afterNodeAccess 228 = .ok (.aload_n 0, 1) := dk_42 (dk_at dksJ34_afterNodeAccess_9 22 rfl rfl)
theorem dJ34_afterNodeAccess_229 : decode cJ34_afterNodeAccess 229 = .ok (.aload 4, 2) := dk_25 4 (dk_at dksJ34_afterNodeAccess_10 0 rfl rfl)
theorem dJ34_afterNodeAccess_231 : decode cJ34_afterNodeAccess 231 = .ok (.putfield 11, 3) := dk_181 0 11 (dk_at dksJ34_afterNodeAccess_10 2 rfl rfl)
theorem dJ34_afterNodeAccess_234 : decode cJ34_afterNodeAccess 234 = .ok (.goto 15, 3) := dk_167 0 15 (dk_at dksJ34_afterNodeAccess_10 5 rfl rfl)
theorem dJ34_afterNodeAccess_237 : decode cJ34_afterNodeAccess 237 = .ok (.aload 4, 2) := dk_25 4 (dk_at dksJ34_afterNodeAccess_10 8 rfl rfl)
theorem dJ34_afterNodeAccess_239 : decode cJ34_afterNodeAccess 239 = .ok (.aload_n 3, 1) := dk_45 (dk_at dksJ34_afterNodeAccess_10 10 rfl rfl)
theorem dJ34_afterNodeAccess_240 : decode cJ34_afterNodeAccess 240 = .ok (.putfield 14, 3) := dk_181 0 14 (dk_at dksJ34_afterNodeAccess_10 11 rfl rfl)
theorem dJ34_afterNodeAccess_243 : decode cJ34_afterNodeAccess 243 = .ok (.aload_n 3, 1) := dk_45 (dk_at dksJ34_afterNodeAccess_10 14 rfl rfl)
theorem dJ34_afterNodeAccess_244 : decode cJ34_afterNodeAccess 244 = .ok (.aload 4, 2) := dk_25 4 (dk_at dksJ34_afterNodeAccess_10 15 rfl rfl)
theorem dJ34_afterNodeAccess_246 : decode cJ34_afterNodeAccess 246 = .ok (.putfield 19, 3) := dk_181 0 19 (dk_at dksJ34_afterNodeAccess_10 17 rfl rfl)
theorem dJ34_afterNodeAccess_249 : decode cJ34_afterNodeAccess 249 = .ok (.aload_n 0, 1) := dk_42 (dk_at dksJ34_afterNodeAccess_10 20 rfl rfl)
theorem dJ34_afterNodeAccess_250 : decode cJ34_afterNodeAccess 250 = .ok (.aload 4, 2) := dk_25 4 (dk_at dksJ34_afterNodeAccess_10 21 rfl rfl)
theorem dJ34_afterNodeAccess_252 : decode cJ34_afterNodeAccess 252 = .ok (.putfield 7, 3) := dk_181 0 7 (dk_at dksJ34_afterNodeAccess_11 0 rfl rfl)
theorem dJ34_afterNodeAccess_255 : decode cJ34_afterNodeAccess 255 = .ok (.aload_n 0, 1) := dk_42 (dk_at dksJ34_afterNodeAccess_11 3 rfl rfl)
theorem dJ34_afterNodeAccess_256 : decode cJ34_afterNodeAccess 256 = .ok (.dup, 1) := dk_89 (dk_at dksJ34_afterNodeAccess_11 4 rfl rfl)
theorem dJ34_afterNodeAccess_257 : decode cJ34_afterNodeAccess 257 = .ok (.getfield 68, 3) := dk_180 0 68 (dk_at dksJ34_afterNodeAccess_11 5 rfl rfl)
theorem dJ34_afterNodeAccess_260 : decode cJ34_afterNodeAccess 260 = .ok (.iconst 1, 1) := dk_4 (dk_at dksJ34_afterNodeAccess_11 8 rfl rfl)
theorem dJ34_afterNodeAccess_261 : decode cJ34_afterNodeAccess 261 = .ok (.iadd, 1) := dk_96 (dk_at dksJ34_afterNodeAccess_11 9 rfl rfl)
theorem dJ34_afterNodeAccess_262 : decode cJ34_afterNodeAccess 262 = .ok (.putfield 68, 3) := dk_181 0 68 (dk_at dksJ34_afterNodeAccess_11 10 rfl rfl)
theorem dJ34_afterNodeAccess_265 : decode cJ34_afterNodeAccess 265 = .ok (.return_, 1) := dk_177 (dk_at dksJ34_afterNodeAccess_11 13 rfl rfl)
abbrev cJ34_afterNodeInsertion : ByteArray := prog_64_method_9_code
def yJ34_afterNodeInsertion : MethodName := ⟨RJ34, "afterNodeInsertion", "(Z)V"⟩
def dkwJ34_afterNodeInsertion_1 : List UInt8 := [180, 0, 39, 78, 42, 45, 184, 0, 57, 45, 1, 3, 4, 182, 0, 60, 87, 177]
abbrev dktJ34_afterNodeInsertion_1 : List UInt8 := dkwJ34_afterNodeInsertion_1 ++ []
def dkwJ34_afterNodeInsertion_0 : List UInt8 := [27, 153, 0, 38, 42, 180, 0, 7, 89, 77, 198, 0, 29, 42, 44, 182, 0, 53, 153, 0, 21, 44]
abbrev dktJ34_afterNodeInsertion_0 : List UInt8 := dkwJ34_afterNodeInsertion_0 ++ dktJ34_afterNodeInsertion_1
theorem dksJ34_afterNodeInsertion_0 : cJ34_afterNodeInsertion.data.toList.drop 0 = dktJ34_afterNodeInsertion_0 := by decide +kernel
theorem dksJ34_afterNodeInsertion_1 : cJ34_afterNodeInsertion.data.toList.drop 22 = dktJ34_afterNodeInsertion_1 := dk_seg dksJ34_afterNodeInsertion_0 22 rfl rfl
theorem dJ34_afterNodeInsertion_0 : decode cJ34_afterNodeInsertion 0 = .ok (.iload_n 1, 1) := dk_27 (dk_at dksJ34_afterNodeInsertion_0 0 rfl rfl)
theorem dJ34_afterNodeInsertion_1 : decode cJ34_afterNodeInsertion 1 = .ok (.ifCond .eq 38, 3) := dk_153 0 38 (dk_at dksJ34_afterNodeInsertion_0 1 rfl rfl)
theorem dJ34_afterNodeInsertion_4 : decode cJ34_afterNodeInsertion 4 = .ok (.aload_n 0, 1) := dk_42 (dk_at dksJ34_afterNodeInsertion_0 4 rfl rfl)
theorem dJ34_afterNodeInsertion_5 : decode cJ34_afterNodeInsertion 5 = .ok (.getfield 7, 3) := dk_180 0 7 (dk_at dksJ34_afterNodeInsertion_0 5 rfl rfl)
theorem dJ34_afterNodeInsertion_8 : decode cJ34_afterNodeInsertion 8 = .ok (.dup, 1) := dk_89 (dk_at dksJ34_afterNodeInsertion_0 8 rfl rfl)
theorem dJ34_afterNodeInsertion_9 : decode cJ34_afterNodeInsertion 9 = .ok (.astore_n 2, 1) := dk_77 (dk_at dksJ34_afterNodeInsertion_0 9 rfl rfl)
theorem dJ34_afterNodeInsertion_10 : decode cJ34_afterNodeInsertion 10 = .ok (.ifnull 29, 3) := dk_198 0 29 (dk_at dksJ34_afterNodeInsertion_0 10 rfl rfl)
theorem dJ34_afterNodeInsertion_13 : decode cJ34_afterNodeInsertion 13 = .ok (.aload_n 0, 1) := dk_42 (dk_at dksJ34_afterNodeInsertion_0 13 rfl rfl)
theorem dJ34_afterNodeInsertion_14 : decode cJ34_afterNodeInsertion 14 = .ok (.aload_n 2, 1) := dk_44 (dk_at dksJ34_afterNodeInsertion_0 14 rfl rfl)
theorem dJ34_afterNodeInsertion_15 : decode cJ34_afterNodeInsertion 15 = .ok (.invokevirtual 53, 3) := dk_182 0 53 (dk_at dksJ34_afterNodeInsertion_0 15 rfl rfl)
theorem dJ34_afterNodeInsertion_18 : decode cJ34_afterNodeInsertion 18 = .ok (.ifCond .eq 21, 3) := dk_153 0 21 (dk_at dksJ34_afterNodeInsertion_0 18 rfl rfl)
theorem dJ34_afterNodeInsertion_21 : decode cJ34_afterNodeInsertion 21 = .ok (.aload_n 2, 1) := dk_44 (dk_at dksJ34_afterNodeInsertion_0 21 rfl rfl)
theorem dJ34_afterNodeInsertion_22 : decode cJ34_afterNodeInsertion 22 = .ok (.getfield 39, 3) := dk_180 0 39 (dk_at dksJ34_afterNodeInsertion_1 0 rfl rfl)
theorem dJ34_afterNodeInsertion_25 : decode cJ34_afterNodeInsertion 25 = .ok (.astore_n 3, 1) := dk_78 (dk_at dksJ34_afterNodeInsertion_1 3 rfl rfl)
theorem dJ34_afterNodeInsertion_26 : decode cJ34_afterNodeInsertion 26 = .ok (.aload_n 0, 1) := dk_42 (dk_at dksJ34_afterNodeInsertion_1 4 rfl rfl)
theorem dJ34_afterNodeInsertion_27 : decode cJ34_afterNodeInsertion 27 = .ok (.aload_n 3, 1) := dk_45 (dk_at dksJ34_afterNodeInsertion_1 5 rfl rfl)
theorem dJ34_afterNodeInsertion_28 : decode cJ34_afterNodeInsertion 28 = .ok (.invokestatic 57, 3) := dk_184 0 57 (dk_at dksJ34_afterNodeInsertion_1 6 rfl rfl)
theorem dJ34_afterNodeInsertion_31 : decode cJ34_afterNodeInsertion 31 = .ok (.aload_n 3, 1) := dk_45 (dk_at dksJ34_afterNodeInsertion_1 9 rfl rfl)
theorem dJ34_afterNodeInsertion_32 : decode cJ34_afterNodeInsertion 32 = .ok (.aconst_null, 1) := dk_1 (dk_at dksJ34_afterNodeInsertion_1 10 rfl rfl)
theorem dJ34_afterNodeInsertion_33 : decode cJ34_afterNodeInsertion 33 = .ok (.iconst 0, 1) := dk_3 (dk_at dksJ34_afterNodeInsertion_1 11 rfl rfl)
theorem dJ34_afterNodeInsertion_34 : decode cJ34_afterNodeInsertion 34 = .ok (.iconst 1, 1) := dk_4 (dk_at dksJ34_afterNodeInsertion_1 12 rfl rfl)
theorem dJ34_afterNodeInsertion_35 : decode cJ34_afterNodeInsertion 35 = .ok (.invokevirtual 60, 3) := dk_182 0 60 (dk_at dksJ34_afterNodeInsertion_1 13 rfl rfl)
theorem dJ34_afterNodeInsertion_38 : decode cJ34_afterNodeInsertion 38 = .ok (.pop, 1) := dk_87 (dk_at dksJ34_afterNodeInsertion_1 16 rfl rfl)
theorem dJ34_afterNodeInsertion_39 : decode cJ34_afterNodeInsertion 39 = .ok (.return_, 1) := dk_177 (dk_at dksJ34_afterNodeInsertion_1 17 rfl rfl)
abbrev cJ34_removeEldestEntry : ByteArray := prog_64_method_23_code
def yJ34_removeEldestEntry : MethodName := ⟨RJ34, "removeEldestEntry", "(Ljava/util/Map$Entry;)Z"⟩
theorem dJ34_removeEldestEntry_0 : decode cJ34_removeEldestEntry 0 = .ok (.iconst 0, 1) := by decide +kernel
theorem dJ34_removeEldestEntry_1 : decode cJ34_removeEldestEntry 1 = .ok (.ireturn, 1) := by decide +kernel
abbrev cJ34_get : ByteArray := prog_64_method_20_code
def yJ34_get : MethodName := ⟨RJ34, "get", "(Ljava/lang/Object;)Ljava/lang/Object;"⟩
def dkwJ34_get_1 : List UInt8 := [44, 180, 0, 107, 176]
abbrev dktJ34_get_1 : List UInt8 := dkwJ34_get_1 ++ []
def dkwJ34_get_0 : List UInt8 := [42, 43, 182, 0, 99, 89, 77, 199, 0, 5, 1, 176, 42, 180, 0, 64, 153, 0, 8, 42, 44, 182, 0, 103]
abbrev dktJ34_get_0 : List UInt8 := dkwJ34_get_0 ++ dktJ34_get_1
theorem dksJ34_get_0 : cJ34_get.data.toList.drop 0 = dktJ34_get_0 := by decide +kernel
theorem dksJ34_get_1 : cJ34_get.data.toList.drop 24 = dktJ34_get_1 := dk_seg dksJ34_get_0 24 rfl rfl
theorem dJ34_get_0 : decode cJ34_get 0 = .ok (.aload_n 0, 1) := dk_42 (dk_at dksJ34_get_0 0 rfl rfl)
theorem dJ34_get_1 : decode cJ34_get 1 = .ok (.aload_n 1, 1) := dk_43 (dk_at dksJ34_get_0 1 rfl rfl)
theorem dJ34_get_2 : decode cJ34_get 2 = .ok (.invokevirtual 99, 3) := dk_182 0 99 (dk_at dksJ34_get_0 2 rfl rfl)
theorem dJ34_get_5 : decode cJ34_get 5 = .ok (.dup, 1) := dk_89 (dk_at dksJ34_get_0 5 rfl rfl)
theorem dJ34_get_6 : decode cJ34_get 6 = .ok (.astore_n 2, 1) := dk_77 (dk_at dksJ34_get_0 6 rfl rfl)
theorem dJ34_get_7 : decode cJ34_get 7 = .ok (.ifnonnull 5, 3) := dk_199 0 5 (dk_at dksJ34_get_0 7 rfl rfl)
theorem dJ34_get_10 : decode cJ34_get 10 = .ok (.aconst_null, 1) := dk_1 (dk_at dksJ34_get_0 10 rfl rfl)
theorem dJ34_get_11 : decode cJ34_get 11 = .ok (.areturn, 1) := dk_176 (dk_at dksJ34_get_0 11 rfl rfl)
theorem dJ34_get_12 : decode cJ34_get 12 = .ok (.aload_n 0, 1) := dk_42 (dk_at dksJ34_get_0 12 rfl rfl)
theorem dJ34_get_13 : decode cJ34_get 13 = .ok (.getfield 64, 3) := dk_180 0 64 (dk_at dksJ34_get_0 13 rfl rfl)
theorem dJ34_get_16 : decode cJ34_get 16 = .ok (.ifCond .eq 8, 3) := dk_153 0 8 (dk_at dksJ34_get_0 16 rfl rfl)
theorem dJ34_get_19 : decode cJ34_get 19 = .ok (.aload_n 0, 1) := dk_42 (dk_at dksJ34_get_0 19 rfl rfl)
theorem dJ34_get_20 : decode cJ34_get 20 = .ok (.aload_n 2, 1) := dk_44 (dk_at dksJ34_get_0 20 rfl rfl)
theorem dJ34_get_21 : decode cJ34_get 21 = .ok (.invokevirtual 103, 3) := dk_182 0 103 (dk_at dksJ34_get_0 21 rfl rfl)
theorem dJ34_get_24 : decode cJ34_get 24 = .ok (.aload_n 2, 1) := dk_44 (dk_at dksJ34_get_1 0 rfl rfl)
theorem dJ34_get_25 : decode cJ34_get 25 = .ok (.getfield 107, 3) := dk_180 0 107 (dk_at dksJ34_get_1 1 rfl rfl)
theorem dJ34_get_28 : decode cJ34_get 28 = .ok (.areturn, 1) := dk_176 (dk_at dksJ34_get_1 4 rfl rfl)
abbrev cJ34_init : ByteArray := prog_64_method_16_code
def yJ34_init : MethodName := ⟨RJ34, "<init>", "()V"⟩
def dkwJ34_init_0 : List UInt8 := [42, 183, 0, 87, 42, 3, 181, 0, 1, 42, 3, 181, 0, 64, 177]
abbrev dktJ34_init_0 : List UInt8 := dkwJ34_init_0 ++ []
theorem dksJ34_init_0 : cJ34_init.data.toList.drop 0 = dktJ34_init_0 := by decide +kernel
theorem dJ34_init_0 : decode cJ34_init 0 = .ok (.aload_n 0, 1) := dk_42 (dk_at dksJ34_init_0 0 rfl rfl)
theorem dJ34_init_1 : decode cJ34_init 1 = .ok (.invokespecial 87, 3) := dk_183 0 87 (dk_at dksJ34_init_0 1 rfl rfl)
theorem dJ34_init_4 : decode cJ34_init 4 = .ok (.aload_n 0, 1) := dk_42 (dk_at dksJ34_init_0 4 rfl rfl)
theorem dJ34_init_5 : decode cJ34_init 5 = .ok (.iconst 0, 1) := dk_3 (dk_at dksJ34_init_0 5 rfl rfl)
theorem dJ34_init_6 : decode cJ34_init 6 = .ok (.putfield 1, 3) := dk_181 0 1 (dk_at dksJ34_init_0 6 rfl rfl)
theorem dJ34_init_9 : decode cJ34_init 9 = .ok (.aload_n 0, 1) := dk_42 (dk_at dksJ34_init_0 9 rfl rfl)
theorem dJ34_init_10 : decode cJ34_init 10 = .ok (.iconst 0, 1) := dk_3 (dk_at dksJ34_init_0 10 rfl rfl)
theorem dJ34_init_11 : decode cJ34_init 11 = .ok (.putfield 64, 3) := dk_181 0 64 (dk_at dksJ34_init_0 11 rfl rfl)
theorem dJ34_init_14 : decode cJ34_init 14 = .ok (.return_, 1) := dk_177 (dk_at dksJ34_init_0 14 rfl rfl)
abbrev cJ34_values : ByteArray := prog_64_method_30_code
def yJ34_values : MethodName := ⟨RJ34, "values", "()Ljava/util/Collection;"⟩
theorem dJ34_values_0 : decode cJ34_values 0 = .ok (.aload_n 0, 1) := by decide +kernel
theorem dJ34_values_1 : decode cJ34_values 1 = .ok (.invokevirtual 135, 3) := by decide +kernel
theorem dJ34_values_4 : decode cJ34_values 4 = .ok (.areturn, 1) := by decide +kernel
abbrev cJ34_sequencedValues : ByteArray := prog_64_method_31_code
def yJ34_sequencedValues : MethodName := ⟨RJ34, "sequencedValues", "()Ljava/util/SequencedCollection;"⟩
def dkwJ34_sequencedValues_1 : List UInt8 := [44, 176, 43, 192, 0, 146, 176]
abbrev dktJ34_sequencedValues_1 : List UInt8 := dkwJ34_sequencedValues_1 ++ []
def dkwJ34_sequencedValues_0 : List UInt8 := [42, 180, 0, 139, 76, 43, 199, 0, 20, 187, 0, 143, 89, 42, 3, 183, 0, 145, 77, 42, 44, 181, 0, 139]
abbrev dktJ34_sequencedValues_0 : List UInt8 := dkwJ34_sequencedValues_0 ++ dktJ34_sequencedValues_1
theorem dksJ34_sequencedValues_0 : cJ34_sequencedValues.data.toList.drop 0 = dktJ34_sequencedValues_0 := by decide +kernel
theorem dksJ34_sequencedValues_1 : cJ34_sequencedValues.data.toList.drop 24 = dktJ34_sequencedValues_1 := dk_seg dksJ34_sequencedValues_0 24 rfl rfl
theorem dJ34_sequencedValues_0 : decode cJ34_sequencedValues 0 = .ok (.aload_n 0, 1) := dk_42 (dk_at dksJ34_sequencedValues_0 0 rfl rfl)
theorem dJ34_sequencedValues_1 : decode cJ34_sequencedValues 1 = .ok (.getfield 139, 3) := dk_180 0 139 (dk_at dksJ34_sequencedValues_0 1 rfl rfl)
theorem dJ34_sequencedValues_4 : decode cJ34_sequencedValues 4 = .ok (.astore_n 1, 1) := dk_76 (dk_at dksJ34_sequencedValues_0 4 rfl rfl)
theorem dJ34_sequencedValues_5 : decode cJ34_sequencedValues 5 = .ok (.aload_n 1, 1) := dk_43 (dk_at dksJ34_sequencedValues_0 5 rfl rfl)
theorem dJ34_sequencedValues_6 : decode cJ34_sequencedValues 6 = .ok (.ifnonnull 20, 3) := dk_199 0 20 (dk_at dksJ34_sequencedValues_0 6 rfl rfl)
theorem dJ34_sequencedValues_9 : decode cJ34_sequencedValues 9 = .ok (.new 143, 3) := dk_187 0 143 (dk_at dksJ34_sequencedValues_0 9 rfl rfl)
theorem dJ34_sequencedValues_12 : decode cJ34_sequencedValues 12 = .ok (.dup, 1) := dk_89 (dk_at dksJ34_sequencedValues_0 12 rfl rfl)
theorem dJ34_sequencedValues_13 : decode cJ34_sequencedValues 13 = .ok (.aload_n 0, 1) := dk_42 (dk_at dksJ34_sequencedValues_0 13 rfl rfl)
theorem dJ34_sequencedValues_14 : decode cJ34_sequencedValues 14 = .ok (.iconst 0, 1) := dk_3 (dk_at dksJ34_sequencedValues_0 14 rfl rfl)
theorem dJ34_sequencedValues_15 : decode cJ34_sequencedValues 15 = .ok (.invokespecial 145, 3) := dk_183 0 145 (dk_at dksJ34_sequencedValues_0 15 rfl rfl)
theorem dJ34_sequencedValues_18 : decode cJ34_sequencedValues 18 = .ok (.astore_n 2, 1) := dk_77 (dk_at dksJ34_sequencedValues_0 18 rfl rfl)
theorem dJ34_sequencedValues_19 : decode cJ34_sequencedValues 19 = .ok (.aload_n 0, 1) := dk_42 (dk_at dksJ34_sequencedValues_0 19 rfl rfl)
theorem dJ34_sequencedValues_20 : decode cJ34_sequencedValues 20 = .ok (.aload_n 2, 1) := dk_44 (dk_at dksJ34_sequencedValues_0 20 rfl rfl)
theorem dJ34_sequencedValues_21 : decode cJ34_sequencedValues 21 = .ok (.putfield 139, 3) := dk_181 0 139 (dk_at dksJ34_sequencedValues_0 21 rfl rfl)
theorem dJ34_sequencedValues_24 : decode cJ34_sequencedValues 24 = .ok (.aload_n 2, 1) := dk_44 (dk_at dksJ34_sequencedValues_1 0 rfl rfl)
theorem dJ34_sequencedValues_25 : decode cJ34_sequencedValues 25 = .ok (.areturn, 1) := dk_176 (dk_at dksJ34_sequencedValues_1 1 rfl rfl)
theorem dJ34_sequencedValues_26 : decode cJ34_sequencedValues 26 = .ok (.aload_n 1, 1) := dk_43 (dk_at dksJ34_sequencedValues_1 2 rfl rfl)
theorem dJ34_sequencedValues_27 : decode cJ34_sequencedValues 27 = .ok (.checkcast 146, 3) := dk_192 0 146 (dk_at dksJ34_sequencedValues_1 3 rfl rfl)
theorem dJ34_sequencedValues_30 : decode cJ34_sequencedValues 30 = .ok (.areturn, 1) := dk_176 (dk_at dksJ34_sequencedValues_1 6 rfl rfl)
theorem q180 : (Jvm.Cond.initialized "java/util/LinkedHashMap") ∈ lw_all := lw_g (lw_at lw_m1 47 rfl) rfl
theorem q211 : (Jvm.Cond.sameField "java/util/LinkedHashMap" "java/util/HashMap" "modCount" "I") ∈ lw_all := lw_g (lw_at lw_m1 78 rfl) rfl
theorem q212 : (Jvm.Cond.fieldLink "java/util/LinkedHashMap" (68 : Nat) "java/util/LinkedHashMap" "modCount" "I") ∈ lw_all := lw_g (lw_at lw_m1 79 rfl) rfl
theorem q216 : (Jvm.Cond.fieldLink "java/util/LinkedHashMap" (139 : Nat) "java/util/LinkedHashMap" "values" "Ljava/util/Collection;") ∈ lw_all := lw_g (lw_at lw_m1 83 rfl) rfl
theorem q217 : (Jvm.Cond.sameField "java/util/LinkedHashMap" "java/util/AbstractMap" "values" "Ljava/util/Collection;") ∈ lw_all := lw_g (lw_at lw_m1 84 rfl) rfl
theorem q282 : (Jvm.Cond.selects "java/util/LinkedHashMap" ({ cls := "java/util/HashMap", name := "put", desc := "(Ljava/lang/Object;Ljava/lang/Object;)Ljava/lang/Object;" } : Jvm.MethodName) ({ cls := "java/util/HashMap", name := "put", desc := "(Ljava/lang/Object;Ljava/lang/Object;)Ljava/lang/Object;" } : Jvm.MethodName)) ∈ lw_all := lw_g (lw_at lw_m1 149 rfl) rfl
theorem q383 : (Jvm.Cond.selects "java/util/LinkedHashMap" ({ cls := "java/util/HashMap", name := "putVal", desc := "(ILjava/lang/Object;Ljava/lang/Object;ZZ)Ljava/lang/Object;" } : Jvm.MethodName) ({ cls := "java/util/HashMap", name := "putVal", desc := "(ILjava/lang/Object;Ljava/lang/Object;ZZ)Ljava/lang/Object;" } : Jvm.MethodName)) ∈ lw_all := lw_g (lw_at lw_m2 10 rfl) rfl
theorem q389 : (Jvm.Cond.selects "java/util/LinkedHashMap" ({ cls := "java/util/HashMap", name := "resize", desc := "()[Ljava/util/HashMap$Node;" } : Jvm.MethodName) ({ cls := "java/util/HashMap", name := "resize", desc := "()[Ljava/util/HashMap$Node;" } : Jvm.MethodName)) ∈ lw_all := lw_g (lw_at lw_m2 16 rfl) rfl
theorem q410 : (Jvm.Cond.selects "java/util/LinkedHashMap" ({ cls := "java/util/HashMap", name := "replacementNode", desc := "(Ljava/util/HashMap$Node;Ljava/util/HashMap$Node;)Ljava/util/HashMap$Node;" } : Jvm.MethodName) ({ cls := "java/util/LinkedHashMap", name := "replacementNode", desc := "(Ljava/util/HashMap$Node;Ljava/util/HashMap$Node;)Ljava/util/HashMap$Node;" } : Jvm.MethodName)) ∈ lw_all := lw_g (lw_at lw_m2 37 rfl) rfl
theorem q411 : (Jvm.Cond.instanceMethod ({ cls := "java/util/LinkedHashMap", name := "replacementNode", desc := "(Ljava/util/HashMap$Node;Ljava/util/HashMap$Node;)Ljava/util/HashMap$Node;" } : Jvm.MethodName)) ∈ lw_all := lw_g (lw_at lw_m2 38 rfl) rfl
theorem q412 : (Jvm.Cond.code ({ cls := "java/util/LinkedHashMap", name := "replacementNode", desc := "(Ljava/util/HashMap$Node;Ljava/util/HashMap$Node;)Ljava/util/HashMap$Node;" } : Jvm.MethodName) prog_64_method_5_code (5 : Nat) (Option.some (Jvm.ClassFile.FieldType.object "java/util/HashMap$Node"))) ∈ lw_all := lw_g (lw_at lw_m2 39 rfl) rfl
theorem q413 : (Jvm.Cond.classLink "java/util/LinkedHashMap" (15 : Nat) "java/util/LinkedHashMap$Entry") ∈ lw_all := lw_g (lw_at lw_m2 40 rfl) rfl
theorem q415 : (Jvm.Cond.methodLink "java/util/LinkedHashMap" (28 : Nat) ({ cls := "java/util/LinkedHashMap$Entry", name := "<init>", desc := "(ILjava/lang/Object;Ljava/lang/Object;Ljava/util/HashMap$Node;)V" } : Jvm.MethodName)) ∈ lw_all := lw_g (lw_at lw_m2 42 rfl) rfl
theorem q422 : (Jvm.Cond.fieldLink "java/util/LinkedHashMap" (19 : Nat) "java/util/LinkedHashMap$Entry" "before" "Ljava/util/LinkedHashMap$Entry;") ∈ lw_all := lw_g (lw_at lw_m2 49 rfl) rfl
theorem q424 : (Jvm.Cond.fieldLink "java/util/LinkedHashMap" (14 : Nat) "java/util/LinkedHashMap$Entry" "after" "Ljava/util/LinkedHashMap$Entry;") ∈ lw_all := lw_g (lw_at lw_m2 51 rfl) rfl
theorem q429 : (Jvm.Cond.fieldLink "java/util/LinkedHashMap" (36 : Nat) "java/util/LinkedHashMap$Entry" "hash" "I") ∈ lw_all := lw_g (lw_at lw_m2 56 rfl) rfl
theorem q435 : (Jvm.Cond.fieldLink "java/util/LinkedHashMap" (39 : Nat) "java/util/LinkedHashMap$Entry" "key" "Ljava/lang/Object;") ∈ lw_all := lw_g (lw_at lw_m2 62 rfl) rfl
theorem q441 : (Jvm.Cond.fieldLink "java/util/LinkedHashMap" (43 : Nat) "java/util/LinkedHashMap$Entry" "value" "Ljava/lang/Object;") ∈ lw_all := lw_g (lw_at lw_m2 68 rfl) rfl
theorem q443 : (Jvm.Cond.fieldLink "java/util/LinkedHashMap" (107 : Nat) "java/util/HashMap$Node" "value" "Ljava/lang/Object;") ∈ lw_all := lw_g (lw_at lw_m2 70 rfl) rfl
theorem q463 : (Jvm.Cond.methodLink "java/util/LinkedHashMap" (46 : Nat) ({ cls := "java/util/LinkedHashMap", name := "transferLinks", desc := "(Ljava/util/LinkedHashMap$Entry;Ljava/util/LinkedHashMap$Entry;)V" } : Jvm.MethodName)) ∈ lw_all := lw_g (lw_at lw_m2 90 rfl) rfl
theorem q464 : (Jvm.Cond.privateMethod ({ cls := "java/util/LinkedHashMap", name := "transferLinks", desc := "(Ljava/util/LinkedHashMap$Entry;Ljava/util/LinkedHashMap$Entry;)V" } : Jvm.MethodName)) ∈ lw_tbl := lw_at lw_m2 91 rfl
theorem q465 : (Jvm.Cond.instanceMethod ({ cls := "java/util/LinkedHashMap", name := "transferLinks", desc := "(Ljava/util/LinkedHashMap$Entry;Ljava/util/LinkedHashMap$Entry;)V" } : Jvm.MethodName)) ∈ lw_all := lw_g (lw_at lw_m2 92 rfl) rfl
theorem q466 : (Jvm.Cond.instantiable "java/util/LinkedHashMap" (12 : Nat)) ∈ lw_all := lw_g (lw_at lw_m2 93 rfl) rfl
theorem q467 : (Jvm.Cond.code ({ cls := "java/util/LinkedHashMap", name := "transferLinks", desc := "(Ljava/util/LinkedHashMap$Entry;Ljava/util/LinkedHashMap$Entry;)V" } : Jvm.MethodName) prog_64_method_2_code (5 : Nat) (Option.none : Option Jvm.ClassFile.FieldType)) ∈ lw_all := lw_g (lw_at lw_m2 94 rfl) rfl
theorem q513 : (Jvm.Cond.selects "java/util/LinkedHashMap" ({ cls := "java/lang/Object", name := "getClass", desc := "()Ljava/lang/Class;" } : Jvm.MethodName) ({ cls := "java/lang/Object", name := "getClass", desc := "()Ljava/lang/Class;" } : Jvm.MethodName)) ∈ lw_all := lw_g (lw_at lw_m2 140 rfl) rfl
theorem q742 : (Jvm.Cond.selects "java/util/LinkedHashMap" ({ cls := "java/util/HashMap", name := "newNode", desc := "(ILjava/lang/Object;Ljava/lang/Object;Ljava/util/HashMap$Node;)Ljava/util/HashMap$Node;" } : Jvm.MethodName) ({ cls := "java/util/LinkedHashMap", name := "newNode", desc := "(ILjava/lang/Object;Ljava/lang/Object;Ljava/util/HashMap$Node;)Ljava/util/HashMap$Node;" } : Jvm.MethodName)) ∈ lw_all := lw_g (lw_at lw_m3 129 rfl) rfl
theorem q743 : (Jvm.Cond.instanceMethod ({ cls := "java/util/LinkedHashMap", name := "newNode", desc := "(ILjava/lang/Object;Ljava/lang/Object;Ljava/util/HashMap$Node;)Ljava/util/HashMap$Node;" } : Jvm.MethodName)) ∈ lw_all := lw_g (lw_at lw_m3 130 rfl) rfl
theorem q744 : (Jvm.Cond.code ({ cls := "java/util/LinkedHashMap", name := "newNode", desc := "(ILjava/lang/Object;Ljava/lang/Object;Ljava/util/HashMap$Node;)Ljava/util/HashMap$Node;" } : Jvm.MethodName) prog_64_method_4_code (6 : Nat) (Option.some (Jvm.ClassFile.FieldType.object "java/util/HashMap$Node"))) ∈ lw_all := lw_g (lw_at lw_m3 131 rfl) rfl
theorem q745 : (Jvm.Cond.methodLink "java/util/LinkedHashMap" (32 : Nat) ({ cls := "java/util/LinkedHashMap", name := "linkNodeAtEnd", desc := "(Ljava/util/LinkedHashMap$Entry;)V" } : Jvm.MethodName)) ∈ lw_all := lw_g (lw_at lw_m3 132 rfl) rfl
theorem q746 : (Jvm.Cond.privateMethod ({ cls := "java/util/LinkedHashMap", name := "linkNodeAtEnd", desc := "(Ljava/util/LinkedHashMap$Entry;)V" } : Jvm.MethodName)) ∈ lw_tbl := lw_at lw_m3 133 rfl
theorem q747 : (Jvm.Cond.instanceMethod ({ cls := "java/util/LinkedHashMap", name := "linkNodeAtEnd", desc := "(Ljava/util/LinkedHashMap$Entry;)V" } : Jvm.MethodName)) ∈ lw_all := lw_g (lw_at lw_m3 134 rfl) rfl
theorem q748 : (Jvm.Cond.code ({ cls := "java/util/LinkedHashMap", name := "linkNodeAtEnd", desc := "(Ljava/util/LinkedHashMap$Entry;)V" } : Jvm.MethodName) prog_64_method_1_code (3 : Nat) (Option.none : Option Jvm.ClassFile.FieldType)) ∈ lw_all := lw_g (lw_at lw_m3 135 rfl) rfl
theorem q800 : (Jvm.Cond.selects "java/util/LinkedHashMap" ({ cls := "java/util/HashMap", name := "newTreeNode", desc := "(ILjava/lang/Object;Ljava/lang/Object;Ljava/util/HashMap$Node;)Ljava/util/HashMap$TreeNode;" } : Jvm.MethodName) ({ cls := "java/util/LinkedHashMap", name := "newTreeNode", desc := "(ILjava/lang/Object;Ljava/lang/Object;Ljava/util/HashMap$Node;)Ljava/util/HashMap$TreeNode;" } : Jvm.MethodName)) ∈ lw_all := lw_g (lw_at lw_m3 187 rfl) rfl
theorem q801 : (Jvm.Cond.instanceMethod ({ cls := "java/util/LinkedHashMap", name := "newTreeNode", desc := "(ILjava/lang/Object;Ljava/lang/Object;Ljava/util/HashMap$Node;)Ljava/util/HashMap$TreeNode;" } : Jvm.MethodName)) ∈ lw_all := lw_g (lw_at lw_m3 188 rfl) rfl
theorem q802 : (Jvm.Cond.code ({ cls := "java/util/LinkedHashMap", name := "newTreeNode", desc := "(ILjava/lang/Object;Ljava/lang/Object;Ljava/util/HashMap$Node;)Ljava/util/HashMap$TreeNode;" } : Jvm.MethodName) prog_64_method_6_code (6 : Nat) (Option.some (Jvm.ClassFile.FieldType.object "java/util/HashMap$TreeNode"))) ∈ lw_all := lw_g (lw_at lw_m3 189 rfl) rfl
theorem q803 : (Jvm.Cond.classLink "java/util/LinkedHashMap" (50 : Nat) "java/util/HashMap$TreeNode") ∈ lw_all := lw_g (lw_at lw_m3 190 rfl) rfl
theorem q805 : (Jvm.Cond.methodLink "java/util/LinkedHashMap" (52 : Nat) ({ cls := "java/util/HashMap$TreeNode", name := "<init>", desc := "(ILjava/lang/Object;Ljava/lang/Object;Ljava/util/HashMap$Node;)V" } : Jvm.MethodName)) ∈ lw_all := lw_g (lw_at lw_m3 192 rfl) rfl
theorem q838 : (Jvm.Cond.selects "java/util/LinkedHashMap" ({ cls := "java/util/HashMap", name := "treeifyBin", desc := "([Ljava/util/HashMap$Node;I)V" } : Jvm.MethodName) ({ cls := "java/util/HashMap", name := "treeifyBin", desc := "([Ljava/util/HashMap$Node;I)V" } : Jvm.MethodName)) ∈ lw_all := lw_g (lw_at lw_m3 225 rfl) rfl
theorem q844 : (Jvm.Cond.selects "java/util/LinkedHashMap" ({ cls := "java/util/HashMap", name := "replacementTreeNode", desc := "(Ljava/util/HashMap$Node;Ljava/util/HashMap$Node;)Ljava/util/HashMap$TreeNode;" } : Jvm.MethodName) ({ cls := "java/util/LinkedHashMap", name := "replacementTreeNode", desc := "(Ljava/util/HashMap$Node;Ljava/util/HashMap$Node;)Ljava/util/HashMap$TreeNode;" } : Jvm.MethodName)) ∈ lw_all := lw_g (lw_at lw_m3 231 rfl) rfl
theorem q845 : (Jvm.Cond.instanceMethod ({ cls := "java/util/LinkedHashMap", name := "replacementTreeNode", desc := "(Ljava/util/HashMap$Node;Ljava/util/HashMap$Node;)Ljava/util/HashMap$TreeNode;" } : Jvm.MethodName)) ∈ lw_all := lw_g (lw_at lw_m3 232 rfl) rfl
theorem q846 : (Jvm.Cond.code ({ cls := "java/util/LinkedHashMap", name := "replacementTreeNode", desc := "(Ljava/util/HashMap$Node;Ljava/util/HashMap$Node;)Ljava/util/HashMap$TreeNode;" } : Jvm.MethodName) prog_64_method_7_code (5 : Nat) (Option.some (Jvm.ClassFile.FieldType.object "java/util/HashMap$TreeNode"))) ∈ lw_all := lw_g (lw_at lw_m3 233 rfl) rfl
theorem q853 : (Jvm.Cond.selects "java/util/LinkedHashMap" ({ cls := "java/util/HashMap", name := "afterNodeAccess", desc := "(Ljava/util/HashMap$Node;)V" } : Jvm.MethodName) ({ cls := "java/util/LinkedHashMap", name := "afterNodeAccess", desc := "(Ljava/util/HashMap$Node;)V" } : Jvm.MethodName)) ∈ lw_all := lw_g (lw_at lw_m4 0 rfl) rfl
theorem q854 : (Jvm.Cond.instanceMethod ({ cls := "java/util/LinkedHashMap", name := "afterNodeAccess", desc := "(Ljava/util/HashMap$Node;)V" } : Jvm.MethodName)) ∈ lw_all := lw_g (lw_at lw_m4 1 rfl) rfl
theorem q855 : (Jvm.Cond.code ({ cls := "java/util/LinkedHashMap", name := "afterNodeAccess", desc := "(Ljava/util/HashMap$Node;)V" } : Jvm.MethodName) prog_64_method_10_code (7 : Nat) (Option.none : Option Jvm.ClassFile.FieldType)) ∈ lw_all := lw_g (lw_at lw_m4 2 rfl) rfl
theorem q861 : (Jvm.Cond.selects "java/util/LinkedHashMap" ({ cls := "java/util/HashMap", name := "afterNodeInsertion", desc := "(Z)V" } : Jvm.MethodName) ({ cls := "java/util/LinkedHashMap", name := "afterNodeInsertion", desc := "(Z)V" } : Jvm.MethodName)) ∈ lw_all := lw_g (lw_at lw_m4 8 rfl) rfl
theorem q862 : (Jvm.Cond.instanceMethod ({ cls := "java/util/LinkedHashMap", name := "afterNodeInsertion", desc := "(Z)V" } : Jvm.MethodName)) ∈ lw_all := lw_g (lw_at lw_m4 9 rfl) rfl
theorem q863 : (Jvm.Cond.code ({ cls := "java/util/LinkedHashMap", name := "afterNodeInsertion", desc := "(Z)V" } : Jvm.MethodName) prog_64_method_9_code (4 : Nat) (Option.none : Option Jvm.ClassFile.FieldType)) ∈ lw_all := lw_g (lw_at lw_m4 10 rfl) rfl
theorem q864 : (Jvm.Cond.methodLink "java/util/LinkedHashMap" (53 : Nat) ({ cls := "java/util/LinkedHashMap", name := "removeEldestEntry", desc := "(Ljava/util/Map$Entry;)Z" } : Jvm.MethodName)) ∈ lw_all := lw_g (lw_at lw_m4 11 rfl) rfl
theorem q865 : (Jvm.Cond.instanceMethod ({ cls := "java/util/LinkedHashMap", name := "removeEldestEntry", desc := "(Ljava/util/Map$Entry;)Z" } : Jvm.MethodName)) ∈ lw_all := lw_g (lw_at lw_m4 12 rfl) rfl
theorem q866 : (Jvm.Cond.selects "java/util/LinkedHashMap" ({ cls := "java/util/LinkedHashMap", name := "removeEldestEntry", desc := "(Ljava/util/Map$Entry;)Z" } : Jvm.MethodName) ({ cls := "java/util/LinkedHashMap", name := "removeEldestEntry", desc := "(Ljava/util/Map$Entry;)Z" } : Jvm.MethodName)) ∈ lw_all := lw_g (lw_at lw_m4 13 rfl) rfl
theorem q867 : (Jvm.Cond.code ({ cls := "java/util/LinkedHashMap", name := "removeEldestEntry", desc := "(Ljava/util/Map$Entry;)Z" } : Jvm.MethodName) prog_64_method_23_code (2 : Nat) (Option.some Jvm.ClassFile.FieldType.boolean)) ∈ lw_all := lw_g (lw_at lw_m4 14 rfl) rfl
theorem q1630 : (Jvm.Cond.selects "java/util/LinkedHashMap" ({ cls := "java/util/HashMap", name := "get", desc := "(Ljava/lang/Object;)Ljava/lang/Object;" } : Jvm.MethodName) ({ cls := "java/util/LinkedHashMap", name := "get", desc := "(Ljava/lang/Object;)Ljava/lang/Object;" } : Jvm.MethodName)) ∈ lw_all := lw_g (lw_at lw_m7 57 rfl) rfl
theorem q1631 : (Jvm.Cond.instanceMethod ({ cls := "java/util/LinkedHashMap", name := "get", desc := "(Ljava/lang/Object;)Ljava/lang/Object;" } : Jvm.MethodName)) ∈ lw_all := lw_g (lw_at lw_m7 58 rfl) rfl
theorem q1632 : (Jvm.Cond.code ({ cls := "java/util/LinkedHashMap", name := "get", desc := "(Ljava/lang/Object;)Ljava/lang/Object;" } : Jvm.MethodName) prog_64_method_20_code (3 : Nat) (Option.some (Jvm.ClassFile.FieldType.object "java/lang/Object"))) ∈ lw_all := lw_g (lw_at lw_m7 59 rfl) rfl
theorem q1633 : (Jvm.Cond.methodLink "java/util/LinkedHashMap" (99 : Nat) ({ cls := "java/util/LinkedHashMap", name := "getNode", desc := "(Ljava/lang/Object;)Ljava/util/HashMap$Node;" } : Jvm.MethodName)) ∈ lw_all := lw_g (lw_at lw_m7 60 rfl) rfl
theorem q1634 : (Jvm.Cond.sameMethod "java/util/LinkedHashMap" "java/util/HashMap" "getNode" "(Ljava/lang/Object;)Ljava/util/HashMap$Node;") ∈ lw_all := lw_g (lw_at lw_m7 61 rfl) rfl
theorem q1636 : (Jvm.Cond.selects "java/util/LinkedHashMap" ({ cls := "java/util/LinkedHashMap", name := "getNode", desc := "(Ljava/lang/Object;)Ljava/util/HashMap$Node;" } : Jvm.MethodName) ({ cls := "java/util/HashMap", name := "getNode", desc := "(Ljava/lang/Object;)Ljava/util/HashMap$Node;" } : Jvm.MethodName)) ∈ lw_all := lw_g (lw_at lw_m7 63 rfl) rfl
theorem q1643 : (Jvm.Cond.methodLink "java/util/LinkedHashMap" (103 : Nat) ({ cls := "java/util/LinkedHashMap", name := "afterNodeAccess", desc := "(Ljava/util/HashMap$Node;)V" } : Jvm.MethodName)) ∈ lw_all := lw_g (lw_at lw_m7 70 rfl) rfl
theorem q1985 : (Jvm.Cond.instanceMethod ({ cls := "java/util/LinkedHashMap", name := "<init>", desc := "()V" } : Jvm.MethodName)) ∈ lw_all := lw_g (lw_at lw_m8 172 rfl) rfl
theorem q1986 : (Jvm.Cond.code ({ cls := "java/util/LinkedHashMap", name := "<init>", desc := "()V" } : Jvm.MethodName) prog_64_method_16_code (1 : Nat) (Option.none : Option Jvm.ClassFile.FieldType)) ∈ lw_all := lw_g (lw_at lw_m8 173 rfl) rfl
theorem q1987 : (Jvm.Cond.methodLink "java/util/LinkedHashMap" (87 : Nat) ({ cls := "java/util/HashMap", name := "<init>", desc := "()V" } : Jvm.MethodName)) ∈ lw_all := lw_g (lw_at lw_m8 174 rfl) rfl
theorem q1988 : (Jvm.Cond.fieldLink "java/util/LinkedHashMap" (7 : Nat) "java/util/LinkedHashMap" "head" "Ljava/util/LinkedHashMap$Entry;") ∈ lw_all := lw_g (lw_at lw_m8 175 rfl) rfl
theorem q1991 : (Jvm.Cond.fieldLink "java/util/LinkedHashMap" (11 : Nat) "java/util/LinkedHashMap" "tail" "Ljava/util/LinkedHashMap$Entry;") ∈ lw_all := lw_g (lw_at lw_m8 178 rfl) rfl
theorem q1992 : (Jvm.Cond.fieldLink "java/util/LinkedHashMap" (64 : Nat) "java/util/LinkedHashMap" "accessOrder" "Z") ∈ lw_all := lw_g (lw_at lw_m8 179 rfl) rfl
theorem q1993 : (Jvm.Cond.fieldLink "java/util/LinkedHashMap" (1 : Nat) "java/util/LinkedHashMap" "putMode" "I") ∈ lw_all := lw_g (lw_at lw_m8 180 rfl) rfl
theorem q1994 : (Jvm.Cond.lays "java/util/LinkedHashMap" "java/util/LinkedHashMap" "head" "Ljava/util/LinkedHashMap$Entry;") ∈ lw_all := lw_g (lw_at lw_m8 181 rfl) rfl
theorem q1995 : (Jvm.Cond.soleField "java/util/LinkedHashMap" "head") ∈ lw_all := lw_g (lw_at lw_m8 182 rfl) rfl
theorem q1996 : (Jvm.Cond.lays "java/util/LinkedHashMap" "java/util/LinkedHashMap" "tail" "Ljava/util/LinkedHashMap$Entry;") ∈ lw_all := lw_g (lw_at lw_m8 183 rfl) rfl
theorem q1997 : (Jvm.Cond.soleField "java/util/LinkedHashMap" "tail") ∈ lw_all := lw_g (lw_at lw_m8 184 rfl) rfl
theorem q1998 : (Jvm.Cond.laysFinal "java/util/LinkedHashMap" "java/util/LinkedHashMap" "accessOrder" "Z") ∈ lw_all := lw_g (lw_at lw_m8 185 rfl) rfl
theorem q1999 : (Jvm.Cond.soleField "java/util/LinkedHashMap" "accessOrder") ∈ lw_all := lw_g (lw_at lw_m8 186 rfl) rfl
theorem q2000 : (Jvm.Cond.lays "java/util/LinkedHashMap" "java/util/LinkedHashMap" "putMode" "I") ∈ lw_all := lw_g (lw_at lw_m8 187 rfl) rfl
theorem q2001 : (Jvm.Cond.soleField "java/util/LinkedHashMap" "putMode") ∈ lw_all := lw_g (lw_at lw_m8 188 rfl) rfl
theorem q2002 : (Jvm.Cond.lays "java/util/LinkedHashMap" "java/util/HashMap" "table" "[Ljava/util/HashMap$Node;") ∈ lw_all := lw_g (lw_at lw_m8 189 rfl) rfl
theorem q2003 : (Jvm.Cond.lays "java/util/LinkedHashMap" "java/util/HashMap" "entrySet" "Ljava/util/Set;") ∈ lw_all := lw_g (lw_at lw_m8 190 rfl) rfl
theorem q2004 : (Jvm.Cond.lays "java/util/LinkedHashMap" "java/util/HashMap" "size" "I") ∈ lw_all := lw_g (lw_at lw_m8 191 rfl) rfl
theorem q2005 : (Jvm.Cond.lays "java/util/LinkedHashMap" "java/util/HashMap" "modCount" "I") ∈ lw_all := lw_g (lw_at lw_m8 192 rfl) rfl
theorem q2006 : (Jvm.Cond.lays "java/util/LinkedHashMap" "java/util/HashMap" "threshold" "I") ∈ lw_all := lw_g (lw_at lw_m8 193 rfl) rfl
theorem q2007 : (Jvm.Cond.laysFinal "java/util/LinkedHashMap" "java/util/HashMap" "loadFactor" "F") ∈ lw_all := lw_g (lw_at lw_m8 194 rfl) rfl
theorem q2008 : (Jvm.Cond.lays "java/util/LinkedHashMap" "java/util/AbstractMap" "keySet" "Ljava/util/Set;") ∈ lw_all := lw_g (lw_at lw_m8 195 rfl) rfl
theorem q2009 : (Jvm.Cond.lays "java/util/LinkedHashMap" "java/util/AbstractMap" "values" "Ljava/util/Collection;") ∈ lw_all := lw_g (lw_at lw_m8 196 rfl) rfl
theorem q2010 : (Jvm.Cond.superclass "java/util/LinkedHashMap" "java/util/HashMap") ∈ lw_all := lw_g (lw_at lw_m8 197 rfl) rfl
theorem q2034 : (Jvm.Cond.sameMethod "java/util/LinkedHashMap" "java/util/HashMap" "put" "(Ljava/lang/Object;Ljava/lang/Object;)Ljava/lang/Object;") ∈ lw_all := lw_g (lw_at lw_m8 221 rfl) rfl
theorem q2036 : (Jvm.Cond.selects "java/util/LinkedHashMap" ({ cls := "java/util/LinkedHashMap", name := "put", desc := "(Ljava/lang/Object;Ljava/lang/Object;)Ljava/lang/Object;" } : Jvm.MethodName) ({ cls := "java/util/HashMap", name := "put", desc := "(Ljava/lang/Object;Ljava/lang/Object;)Ljava/lang/Object;" } : Jvm.MethodName)) ∈ lw_all := lw_g (lw_at lw_m8 223 rfl) rfl
theorem q2038 : (Jvm.Cond.sameMethod "java/util/LinkedHashMap" "java/util/HashMap" "size" "()I") ∈ lw_all := lw_g (lw_at lw_m8 225 rfl) rfl
theorem q2040 : (Jvm.Cond.selects "java/util/LinkedHashMap" ({ cls := "java/util/LinkedHashMap", name := "size", desc := "()I" } : Jvm.MethodName) ({ cls := "java/util/HashMap", name := "size", desc := "()I" } : Jvm.MethodName)) ∈ lw_all := lw_g (lw_at lw_m8 227 rfl) rfl
theorem q2051 : (Jvm.Cond.instanceMethod ({ cls := "java/util/LinkedHashMap", name := "values", desc := "()Ljava/util/Collection;" } : Jvm.MethodName)) ∈ lw_all := lw_g (lw_at lw_m8 238 rfl) rfl
theorem q2052 : (Jvm.Cond.selects "java/util/LinkedHashMap" ({ cls := "java/util/LinkedHashMap", name := "values", desc := "()Ljava/util/Collection;" } : Jvm.MethodName) ({ cls := "java/util/LinkedHashMap", name := "values", desc := "()Ljava/util/Collection;" } : Jvm.MethodName)) ∈ lw_all := lw_g (lw_at lw_m8 239 rfl) rfl
theorem q2053 : (Jvm.Cond.code ({ cls := "java/util/LinkedHashMap", name := "values", desc := "()Ljava/util/Collection;" } : Jvm.MethodName) prog_64_method_30_code (1 : Nat) (Option.some (Jvm.ClassFile.FieldType.object "java/util/Collection"))) ∈ lw_all := lw_g (lw_at lw_m9 0 rfl) rfl
theorem q2054 : (Jvm.Cond.methodLink "java/util/LinkedHashMap" (135 : Nat) ({ cls := "java/util/LinkedHashMap", name := "sequencedValues", desc := "()Ljava/util/SequencedCollection;" } : Jvm.MethodName)) ∈ lw_all := lw_g (lw_at lw_m9 1 rfl) rfl
theorem q2055 : (Jvm.Cond.instanceMethod ({ cls := "java/util/LinkedHashMap", name := "sequencedValues", desc := "()Ljava/util/SequencedCollection;" } : Jvm.MethodName)) ∈ lw_all := lw_g (lw_at lw_m9 2 rfl) rfl
theorem q2056 : (Jvm.Cond.selects "java/util/LinkedHashMap" ({ cls := "java/util/LinkedHashMap", name := "sequencedValues", desc := "()Ljava/util/SequencedCollection;" } : Jvm.MethodName) ({ cls := "java/util/LinkedHashMap", name := "sequencedValues", desc := "()Ljava/util/SequencedCollection;" } : Jvm.MethodName)) ∈ lw_all := lw_g (lw_at lw_m9 3 rfl) rfl
theorem q2057 : (Jvm.Cond.code ({ cls := "java/util/LinkedHashMap", name := "sequencedValues", desc := "()Ljava/util/SequencedCollection;" } : Jvm.MethodName) prog_64_method_31_code (3 : Nat) (Option.some (Jvm.ClassFile.FieldType.object "java/util/SequencedCollection"))) ∈ lw_all := lw_g (lw_at lw_m9 4 rfl) rfl
theorem q2058 : (Jvm.Cond.classLink "java/util/LinkedHashMap" (143 : Nat) "java/util/LinkedHashMap$LinkedValues") ∈ lw_all := lw_g (lw_at lw_m9 5 rfl) rfl
theorem q2060 : (Jvm.Cond.methodLink "java/util/LinkedHashMap" (145 : Nat) ({ cls := "java/util/LinkedHashMap$LinkedValues", name := "<init>", desc := "(Ljava/util/LinkedHashMap;Z)V" } : Jvm.MethodName)) ∈ lw_all := lw_g (lw_at lw_m9 7 rfl) rfl
theorem q2071 : (Jvm.Cond.classLink "java/util/LinkedHashMap" (146 : Nat) "java/util/SequencedCollection") ∈ lw_all := lw_g (lw_at lw_m9 18 rfl) rfl
theorem q3208 : (Jvm.Cond.selects "java/util/LinkedHashMap" ({ cls := "java/util/LinkedHashMap", name := "afterNodeAccess", desc := "(Ljava/util/HashMap$Node;)V" } : Jvm.MethodName) ({ cls := "java/util/LinkedHashMap", name := "afterNodeAccess", desc := "(Ljava/util/HashMap$Node;)V" } : Jvm.MethodName)) ∈ lw_all := lw_g (lw_at lw_m13 195 rfl) rfl
theorem q3211 : (Jvm.Cond.selects "java/util/LinkedHashMap" ({ cls := "java/util/HashMap", name := "getNode", desc := "(Ljava/lang/Object;)Ljava/util/HashMap$Node;" } : Jvm.MethodName) ({ cls := "java/util/HashMap", name := "getNode", desc := "(Ljava/lang/Object;)Ljava/util/HashMap$Node;" } : Jvm.MethodName)) ∈ lw_all := lw_g (lw_at lw_m13 198 rfl) rfl
theorem q3212 : (Jvm.Cond.selects "java/util/LinkedHashMap" ({ cls := "java/util/LinkedHashMap", name := "get", desc := "(Ljava/lang/Object;)Ljava/lang/Object;" } : Jvm.MethodName) ({ cls := "java/util/LinkedHashMap", name := "get", desc := "(Ljava/lang/Object;)Ljava/lang/Object;" } : Jvm.MethodName)) ∈ lw_all := lw_g (lw_at lw_m13 199 rfl) rfl
theorem q3243 : (Jvm.Cond.castable "java/util/LinkedHashMap" "java/lang/Object") ∈ lw_tbl := lw_at lw_m13 230 rfl
theorem in_J34 : ∀ w ∈ wsJ340, w ∈ lw_all := lw_in wsJ340 [2008, 2009, 2002, 2003, 2004, 2005, 2006, 2007, 1994, 1996, 1998, 2000] (by decide +kernel) (by decide +kernel)
