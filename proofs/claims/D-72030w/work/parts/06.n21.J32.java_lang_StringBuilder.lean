/-! java/lang/StringBuilder -/
set_option maxRecDepth 100000
def RJ32 : String := "java/lang/StringBuilder"
def TJ32 : u_T := fun k => match k with
  | 0 => ("java/lang/AbstractStringBuilder", "value", "[B", false)
  | 1 => ("java/lang/AbstractStringBuilder", "coder", "B", false)
  | 2 => ("java/lang/AbstractStringBuilder", "maybeLatin1", "Z", false)
  | _ => ("java/lang/AbstractStringBuilder", "count", "I", false)
def tyJ32 : Nat → FieldType := fun k => match k with
  | 0 => .array .byte
  | 1 => .byte
  | 2 => .boolean
  | _ => .int
abbrev wsJ320 : List Cond := u_ws RJ32 TJ32 4
theorem nmJ32 : ∀ a, a < 4 → ∀ b, b < 4 → a ≠ b → (TJ32 a).2.1 ≠ (TJ32 b).2.1 := by decide +kernel
theorem tyJ32_ok : ∀ k, k < 4 → parseFieldDescriptor (TJ32 k).2.2.1 = some (tyJ32 k) := by decide +kernel
abbrev cJ32_compareTo : ByteArray := prog_42_method_97_code
def yJ32_compareTo : MethodName := ⟨RJ32, "compareTo", "(Ljava/lang/Object;)I"⟩
def dkwJ32_compareTo_0 : List UInt8 := [42, 43, 192, 0, 24, 182, 1, 90, 172]
abbrev dktJ32_compareTo_0 : List UInt8 := dkwJ32_compareTo_0 ++ []
theorem dksJ32_compareTo_0 : cJ32_compareTo.data.toList.drop 0 = dktJ32_compareTo_0 := by decide +kernel
theorem dJ32_compareTo_0 : decode cJ32_compareTo 0 = .ok (.aload_n 0, 1) := dk_42 (dk_at dksJ32_compareTo_0 0 rfl rfl)
theorem dJ32_compareTo_1 : decode cJ32_compareTo 1 = .ok (.aload_n 1, 1) := dk_43 (dk_at dksJ32_compareTo_0 1 rfl rfl)
theorem dJ32_compareTo_2 : decode cJ32_compareTo 2 = .ok (.checkcast 24, 3) := dk_192 0 24 (dk_at dksJ32_compareTo_0 2 rfl rfl)
theorem dJ32_compareTo_5 : decode cJ32_compareTo 5 = .ok (.invokevirtual 346, 3) := dk_182 1 90 (dk_at dksJ32_compareTo_0 5 rfl rfl)
theorem dJ32_compareTo_8 : decode cJ32_compareTo 8 = .ok (.ireturn, 1) := dk_172 (dk_at dksJ32_compareTo_0 8 rfl rfl)
abbrev cJ32_compareTo_2 : ByteArray := prog_42_method_5_code
def yJ32_compareTo_2 : MethodName := ⟨RJ32, "compareTo", "(Ljava/lang/StringBuilder;)I"⟩
def dkwJ32_compareTo_2_0 : List UInt8 := [42, 43, 183, 0, 13, 172]
abbrev dktJ32_compareTo_2_0 : List UInt8 := dkwJ32_compareTo_2_0 ++ []
theorem dksJ32_compareTo_2_0 : cJ32_compareTo_2.data.toList.drop 0 = dktJ32_compareTo_2_0 := by decide +kernel
theorem dJ32_compareTo_2_0 : decode cJ32_compareTo_2 0 = .ok (.aload_n 0, 1) := dk_42 (dk_at dksJ32_compareTo_2_0 0 rfl rfl)
theorem dJ32_compareTo_2_1 : decode cJ32_compareTo_2 1 = .ok (.aload_n 1, 1) := dk_43 (dk_at dksJ32_compareTo_2_0 1 rfl rfl)
theorem dJ32_compareTo_2_2 : decode cJ32_compareTo_2 2 = .ok (.invokespecial 13, 3) := dk_183 0 13 (dk_at dksJ32_compareTo_2_0 2 rfl rfl)
theorem dJ32_compareTo_2_5 : decode cJ32_compareTo_2 5 = .ok (.ireturn, 1) := dk_172 (dk_at dksJ32_compareTo_2_0 5 rfl rfl)
abbrev cJ32_init : ByteArray := prog_42_method_2_code
def yJ32_init : MethodName := ⟨RJ32, "<init>", "(I)V"⟩
def dkwJ32_init_0 : List UInt8 := [42, 27, 183, 0, 1, 177]
abbrev dktJ32_init_0 : List UInt8 := dkwJ32_init_0 ++ []
theorem dksJ32_init_0 : cJ32_init.data.toList.drop 0 = dktJ32_init_0 := by decide +kernel
theorem dJ32_init_0 : decode cJ32_init 0 = .ok (.aload_n 0, 1) := dk_42 (dk_at dksJ32_init_0 0 rfl rfl)
theorem dJ32_init_1 : decode cJ32_init 1 = .ok (.iload_n 1, 1) := dk_27 (dk_at dksJ32_init_0 1 rfl rfl)
theorem dJ32_init_2 : decode cJ32_init 2 = .ok (.invokespecial 1, 3) := dk_183 0 1 (dk_at dksJ32_init_0 2 rfl rfl)
theorem dJ32_init_5 : decode cJ32_init 5 = .ok (.return_, 1) := dk_177 (dk_at dksJ32_init_0 5 rfl rfl)
abbrev cJ32_append : ByteArray := prog_42_method_14_code
def yJ32_append : MethodName := ⟨RJ32, "append", "(C)Ljava/lang/StringBuilder;"⟩
def dkwJ32_append_0 : List UInt8 := [42, 27, 183, 0, 50, 87, 42, 176]
abbrev dktJ32_append_0 : List UInt8 := dkwJ32_append_0 ++ []
theorem dksJ32_append_0 : cJ32_append.data.toList.drop 0 = dktJ32_append_0 := by decide +kernel
theorem dJ32_append_0 : decode cJ32_append 0 = .ok (.aload_n 0, 1) := dk_42 (dk_at dksJ32_append_0 0 rfl rfl)
theorem dJ32_append_1 : decode cJ32_append 1 = .ok (.iload_n 1, 1) := dk_27 (dk_at dksJ32_append_0 1 rfl rfl)
theorem dJ32_append_2 : decode cJ32_append 2 = .ok (.invokespecial 50, 3) := dk_183 0 50 (dk_at dksJ32_append_0 2 rfl rfl)
theorem dJ32_append_5 : decode cJ32_append 5 = .ok (.pop, 1) := dk_87 (dk_at dksJ32_append_0 5 rfl rfl)
theorem dJ32_append_6 : decode cJ32_append 6 = .ok (.aload_n 0, 1) := dk_42 (dk_at dksJ32_append_0 6 rfl rfl)
theorem dJ32_append_7 : decode cJ32_append 7 = .ok (.areturn, 1) := dk_176 (dk_at dksJ32_append_0 7 rfl rfl)
abbrev cJ32_toString : ByteArray := prog_42_method_42_code
def yJ32_toString : MethodName := ⟨RJ32, "toString", "()Ljava/lang/String;"⟩
def dkwJ32_toString_0 : List UInt8 := [187, 0, 18, 89, 42, 183, 0, 137, 176]
abbrev dktJ32_toString_0 : List UInt8 := dkwJ32_toString_0 ++ []
theorem dksJ32_toString_0 : cJ32_toString.data.toList.drop 0 = dktJ32_toString_0 := by decide +kernel
theorem dJ32_toString_0 : decode cJ32_toString 0 = .ok (.new 18, 3) := dk_187 0 18 (dk_at dksJ32_toString_0 0 rfl rfl)
theorem dJ32_toString_3 : decode cJ32_toString 3 = .ok (.dup, 1) := dk_89 (dk_at dksJ32_toString_0 3 rfl rfl)
theorem dJ32_toString_4 : decode cJ32_toString 4 = .ok (.aload_n 0, 1) := dk_42 (dk_at dksJ32_toString_0 4 rfl rfl)
theorem dJ32_toString_5 : decode cJ32_toString 5 = .ok (.invokespecial 137, 3) := dk_183 0 137 (dk_at dksJ32_toString_0 5 rfl rfl)
theorem dJ32_toString_8 : decode cJ32_toString 8 = .ok (.areturn, 1) := dk_176 (dk_at dksJ32_toString_0 8 rfl rfl)
abbrev cJ32_length : ByteArray := prog_42_method_93_code
def yJ32_length : MethodName := ⟨RJ32, "length", "()I"⟩
theorem dJ32_length_0 : decode cJ32_length 0 = .ok (.aload_n 0, 1) := by decide +kernel
theorem dJ32_length_1 : decode cJ32_length 1 = .ok (.invokespecial 343, 3) := by decide +kernel
theorem dJ32_length_4 : decode cJ32_length 4 = .ok (.ireturn, 1) := by decide +kernel
theorem q175 : (Jvm.Cond.initialized "java/lang/StringBuilder") ∈ lw_all := lw_g (lw_at lw_m1 42 rfl) rfl
theorem q375 : (Jvm.Cond.selects "java/lang/StringBuilder" ({ cls := "java/lang/Object", name := "hashCode", desc := "()I" } : Jvm.MethodName) ({ cls := "java/lang/Object", name := "hashCode", desc := "()I" } : Jvm.MethodName)) ∈ lw_all := lw_g (lw_at lw_m2 2 rfl) rfl
theorem q504 : (Jvm.Cond.selects "java/lang/StringBuilder" ({ cls := "java/lang/Object", name := "getClass", desc := "()Ljava/lang/Class;" } : Jvm.MethodName) ({ cls := "java/lang/Object", name := "getClass", desc := "()Ljava/lang/Class;" } : Jvm.MethodName)) ∈ lw_all := lw_g (lw_at lw_m2 131 rfl) rfl
theorem q680 : (Jvm.Cond.castable "java/lang/StringBuilder" "java/lang/Comparable") ∈ lw_tbl := lw_at lw_m3 67 rfl
theorem q681 : (Jvm.Cond.selects "java/lang/StringBuilder" ({ cls := "java/lang/Comparable", name := "compareTo", desc := "(Ljava/lang/Object;)I" } : Jvm.MethodName) ({ cls := "java/lang/StringBuilder", name := "compareTo", desc := "(Ljava/lang/Object;)I" } : Jvm.MethodName)) ∈ lw_all := lw_g (lw_at lw_m3 68 rfl) rfl
theorem q682 : (Jvm.Cond.unhidden "java/lang/StringBuilder" "compareTo" "(Ljava/lang/Object;)I") ∈ lw_tbl := lw_at lw_m3 69 rfl
theorem q683 : (Jvm.Cond.instanceMethod ({ cls := "java/lang/StringBuilder", name := "compareTo", desc := "(Ljava/lang/Object;)I" } : Jvm.MethodName)) ∈ lw_all := lw_g (lw_at lw_m3 70 rfl) rfl
theorem q684 : (Jvm.Cond.publicMethod ({ cls := "java/lang/StringBuilder", name := "compareTo", desc := "(Ljava/lang/Object;)I" } : Jvm.MethodName)) ∈ lw_tbl := lw_at lw_m3 71 rfl
theorem q685 : (Jvm.Cond.code ({ cls := "java/lang/StringBuilder", name := "compareTo", desc := "(Ljava/lang/Object;)I" } : Jvm.MethodName) prog_42_method_97_code (2 : Nat) (Option.some Jvm.ClassFile.FieldType.int)) ∈ lw_all := lw_g (lw_at lw_m3 72 rfl) rfl
theorem q686 : (Jvm.Cond.classLink "java/lang/StringBuilder" (24 : Nat) "java/lang/StringBuilder") ∈ lw_all := lw_g (lw_at lw_m3 73 rfl) rfl
theorem q687 : (Jvm.Cond.methodLink "java/lang/StringBuilder" (346 : Nat) ({ cls := "java/lang/StringBuilder", name := "compareTo", desc := "(Ljava/lang/StringBuilder;)I" } : Jvm.MethodName)) ∈ lw_all := lw_g (lw_at lw_m3 74 rfl) rfl
theorem q688 : (Jvm.Cond.instanceMethod ({ cls := "java/lang/StringBuilder", name := "compareTo", desc := "(Ljava/lang/StringBuilder;)I" } : Jvm.MethodName)) ∈ lw_all := lw_g (lw_at lw_m3 75 rfl) rfl
theorem q689 : (Jvm.Cond.selects "java/lang/StringBuilder" ({ cls := "java/lang/StringBuilder", name := "compareTo", desc := "(Ljava/lang/StringBuilder;)I" } : Jvm.MethodName) ({ cls := "java/lang/StringBuilder", name := "compareTo", desc := "(Ljava/lang/StringBuilder;)I" } : Jvm.MethodName)) ∈ lw_all := lw_g (lw_at lw_m3 76 rfl) rfl
theorem q690 : (Jvm.Cond.code ({ cls := "java/lang/StringBuilder", name := "compareTo", desc := "(Ljava/lang/StringBuilder;)I" } : Jvm.MethodName) prog_42_method_5_code (2 : Nat) (Option.some Jvm.ClassFile.FieldType.int)) ∈ lw_all := lw_g (lw_at lw_m3 77 rfl) rfl
theorem q691 : (Jvm.Cond.methodLink "java/lang/StringBuilder" (13 : Nat) ({ cls := "java/lang/AbstractStringBuilder", name := "compareTo", desc := "(Ljava/lang/AbstractStringBuilder;)I" } : Jvm.MethodName)) ∈ lw_all := lw_g (lw_at lw_m3 78 rfl) rfl
theorem q692 : (Jvm.Cond.superclass "java/lang/StringBuilder" "java/lang/AbstractStringBuilder") ∈ lw_all := lw_g (lw_at lw_m3 79 rfl) rfl
theorem q698 : (Jvm.Cond.selects "java/lang/StringBuilder" ({ cls := "java/lang/AbstractStringBuilder", name := "isLatin1", desc := "()Z" } : Jvm.MethodName) ({ cls := "java/lang/AbstractStringBuilder", name := "isLatin1", desc := "()Z" } : Jvm.MethodName)) ∈ lw_all := lw_g (lw_at lw_m3 85 rfl) rfl
theorem q779 : (Jvm.Cond.selects "java/lang/StringBuilder" ({ cls := "java/lang/Object", name := "equals", desc := "(Ljava/lang/Object;)Z" } : Jvm.MethodName) ({ cls := "java/lang/Object", name := "equals", desc := "(Ljava/lang/Object;)Z" } : Jvm.MethodName)) ∈ lw_all := lw_g (lw_at lw_m3 166 rfl) rfl
theorem q1467 : (Jvm.Cond.instantiable "java/lang/StringBuilder" (4 : Nat)) ∈ lw_all := lw_g (lw_at lw_m6 134 rfl) rfl
theorem q1469 : (Jvm.Cond.instanceMethod ({ cls := "java/lang/StringBuilder", name := "<init>", desc := "(I)V" } : Jvm.MethodName)) ∈ lw_all := lw_g (lw_at lw_m6 136 rfl) rfl
theorem q1470 : (Jvm.Cond.code ({ cls := "java/lang/StringBuilder", name := "<init>", desc := "(I)V" } : Jvm.MethodName) prog_42_method_2_code (2 : Nat) (Option.none : Option Jvm.ClassFile.FieldType)) ∈ lw_all := lw_g (lw_at lw_m6 137 rfl) rfl
theorem q1471 : (Jvm.Cond.methodLink "java/lang/StringBuilder" (1 : Nat) ({ cls := "java/lang/AbstractStringBuilder", name := "<init>", desc := "(I)V" } : Jvm.MethodName)) ∈ lw_all := lw_g (lw_at lw_m6 138 rfl) rfl
theorem q1491 : (Jvm.Cond.lays "java/lang/StringBuilder" "java/lang/AbstractStringBuilder" "value" "[B") ∈ lw_all := lw_g (lw_at lw_m6 158 rfl) rfl
theorem q1493 : (Jvm.Cond.lays "java/lang/StringBuilder" "java/lang/AbstractStringBuilder" "coder" "B") ∈ lw_all := lw_g (lw_at lw_m6 160 rfl) rfl
theorem q1495 : (Jvm.Cond.lays "java/lang/StringBuilder" "java/lang/AbstractStringBuilder" "maybeLatin1" "Z") ∈ lw_all := lw_g (lw_at lw_m6 162 rfl) rfl
theorem q1497 : (Jvm.Cond.lays "java/lang/StringBuilder" "java/lang/AbstractStringBuilder" "count" "I") ∈ lw_all := lw_g (lw_at lw_m6 164 rfl) rfl
theorem q1500 : (Jvm.Cond.instanceMethod ({ cls := "java/lang/StringBuilder", name := "append", desc := "(C)Ljava/lang/StringBuilder;" } : Jvm.MethodName)) ∈ lw_all := lw_g (lw_at lw_m6 167 rfl) rfl
theorem q1501 : (Jvm.Cond.selects "java/lang/StringBuilder" ({ cls := "java/lang/StringBuilder", name := "append", desc := "(C)Ljava/lang/StringBuilder;" } : Jvm.MethodName) ({ cls := "java/lang/StringBuilder", name := "append", desc := "(C)Ljava/lang/StringBuilder;" } : Jvm.MethodName)) ∈ lw_all := lw_g (lw_at lw_m6 168 rfl) rfl
theorem q1502 : (Jvm.Cond.code ({ cls := "java/lang/StringBuilder", name := "append", desc := "(C)Ljava/lang/StringBuilder;" } : Jvm.MethodName) prog_42_method_14_code (2 : Nat) (Option.some (Jvm.ClassFile.FieldType.object "java/lang/StringBuilder"))) ∈ lw_all := lw_g (lw_at lw_m6 169 rfl) rfl
theorem q1503 : (Jvm.Cond.methodLink "java/lang/StringBuilder" (50 : Nat) ({ cls := "java/lang/AbstractStringBuilder", name := "append", desc := "(C)Ljava/lang/AbstractStringBuilder;" } : Jvm.MethodName)) ∈ lw_all := lw_g (lw_at lw_m6 170 rfl) rfl
theorem q1573 : (Jvm.Cond.instanceMethod ({ cls := "java/lang/StringBuilder", name := "toString", desc := "()Ljava/lang/String;" } : Jvm.MethodName)) ∈ lw_all := lw_g (lw_at lw_m7 0 rfl) rfl
theorem q1574 : (Jvm.Cond.selects "java/lang/StringBuilder" ({ cls := "java/lang/StringBuilder", name := "toString", desc := "()Ljava/lang/String;" } : Jvm.MethodName) ({ cls := "java/lang/StringBuilder", name := "toString", desc := "()Ljava/lang/String;" } : Jvm.MethodName)) ∈ lw_all := lw_g (lw_at lw_m7 1 rfl) rfl
theorem q1575 : (Jvm.Cond.code ({ cls := "java/lang/StringBuilder", name := "toString", desc := "()Ljava/lang/String;" } : Jvm.MethodName) prog_42_method_42_code (1 : Nat) (Option.some (Jvm.ClassFile.FieldType.object "java/lang/String"))) ∈ lw_all := lw_g (lw_at lw_m7 2 rfl) rfl
theorem q1576 : (Jvm.Cond.classLink "java/lang/StringBuilder" (18 : Nat) "java/lang/String") ∈ lw_all := lw_g (lw_at lw_m7 3 rfl) rfl
theorem q1577 : (Jvm.Cond.methodLink "java/lang/StringBuilder" (137 : Nat) ({ cls := "java/lang/String", name := "<init>", desc := "(Ljava/lang/StringBuilder;)V" } : Jvm.MethodName)) ∈ lw_all := lw_g (lw_at lw_m7 4 rfl) rfl
theorem q1587 : (Jvm.Cond.selects "java/lang/StringBuilder" ({ cls := "java/lang/AbstractStringBuilder", name := "getValue", desc := "()[B" } : Jvm.MethodName) ({ cls := "java/lang/AbstractStringBuilder", name := "getValue", desc := "()[B" } : Jvm.MethodName)) ∈ lw_all := lw_g (lw_at lw_m7 14 rfl) rfl
theorem q1592 : (Jvm.Cond.selects "java/lang/StringBuilder" ({ cls := "java/lang/AbstractStringBuilder", name := "length", desc := "()I" } : Jvm.MethodName) ({ cls := "java/lang/StringBuilder", name := "length", desc := "()I" } : Jvm.MethodName)) ∈ lw_all := lw_g (lw_at lw_m7 19 rfl) rfl
theorem q1593 : (Jvm.Cond.instanceMethod ({ cls := "java/lang/StringBuilder", name := "length", desc := "()I" } : Jvm.MethodName)) ∈ lw_all := lw_g (lw_at lw_m7 20 rfl) rfl
theorem q1594 : (Jvm.Cond.code ({ cls := "java/lang/StringBuilder", name := "length", desc := "()I" } : Jvm.MethodName) prog_42_method_93_code (1 : Nat) (Option.some Jvm.ClassFile.FieldType.int)) ∈ lw_all := lw_g (lw_at lw_m7 21 rfl) rfl
theorem q1595 : (Jvm.Cond.methodLink "java/lang/StringBuilder" (343 : Nat) ({ cls := "java/lang/AbstractStringBuilder", name := "length", desc := "()I" } : Jvm.MethodName)) ∈ lw_all := lw_g (lw_at lw_m7 22 rfl) rfl
theorem q3239 : (Jvm.Cond.castable "java/lang/StringBuilder" "java/lang/Object") ∈ lw_tbl := lw_at lw_m13 226 rfl
theorem in_J32 : ∀ w ∈ wsJ320, w ∈ lw_all := lw_in wsJ320 [1491, 1493, 1495, 1497] (by decide +kernel) (by decide +kernel)
