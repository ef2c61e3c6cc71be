/-! java/lang/Math -/
set_option maxRecDepth 100000
def RJ8 : String := "java/lang/Math"
abbrev cJ8_min : ByteArray := prog_36_method_69_code
def yJ8_min : MethodName := ⟨RJ8, "min", "(II)I"⟩
def dkwJ8_min_0 : List UInt8 := [26, 27, 163, 0, 7, 26, 167, 0, 4, 27, 172]
abbrev dktJ8_min_0 : List UInt8 := dkwJ8_min_0 ++ []
theorem dksJ8_min_0 : cJ8_min.data.toList.drop 0 = dktJ8_min_0 := by decide +kernel
theorem dJ8_min_0 : decode cJ8_min 0 = .ok (.iload_n 0, 1) := dk_26 (dk_at dksJ8_min_0 0 rfl rfl)
theorem dJ8_min_1 : decode cJ8_min 1 = .ok (.iload_n 1, 1) := dk_27 (dk_at dksJ8_min_0 1 rfl rfl)
theorem dJ8_min_2 : decode cJ8_min 2 = .ok (.if_icmp .gt 7, 3) := dk_163 0 7 (dk_at dksJ8_min_0 2 rfl rfl)
theorem dJ8_min_5 : decode cJ8_min 5 = .ok (.iload_n 0, 1) := dk_26 (dk_at dksJ8_min_0 5 rfl rfl)
theorem dJ8_min_6 : decode cJ8_min 6 = .ok (.goto 4, 3) := dk_167 0 4 (dk_at dksJ8_min_0 6 rfl rfl)
theorem dJ8_min_9 : decode cJ8_min 9 = .ok (.iload_n 1, 1) := dk_27 (dk_at dksJ8_min_0 9 rfl rfl)
theorem dJ8_min_10 : decode cJ8_min 10 = .ok (.ireturn, 1) := dk_172 (dk_at dksJ8_min_0 10 rfl rfl)
abbrev cJ8_addExact : ByteArray := prog_36_method_24_code
def yJ8_addExact : MethodName := ⟨RJ8, "addExact", "(II)I"⟩
def dkwJ8_addExact_1 : List UInt8 := [28, 172]
abbrev dktJ8_addExact_1 : List UInt8 := dkwJ8_addExact_1 ++ []
def dkwJ8_addExact_0 : List UInt8 := [26, 27, 96, 61, 26, 28, 130, 27, 28, 130, 126, 156, 0, 13, 187, 0, 109, 89, 18, 111, 183, 0, 113, 191]
abbrev dktJ8_addExact_0 : List UInt8 := dkwJ8_addExact_0 ++ dktJ8_addExact_1
theorem dksJ8_addExact_0 : cJ8_addExact.data.toList.drop 0 = dktJ8_addExact_0 := by decide +kernel
theorem dksJ8_addExact_1 : cJ8_addExact.data.toList.drop 24 = dktJ8_addExact_1 := dk_seg dksJ8_addExact_0 24 rfl rfl
theorem dJ8_addExact_0 : decode cJ8_addExact 0 = .ok (.iload_n 0, 1) := dk_26 (dk_at dksJ8_addExact_0 0 rfl rfl)
theorem dJ8_addExact_1 : decode cJ8_addExact 1 = .ok (.iload_n 1, 1) := dk_27 (dk_at dksJ8_addExact_0 1 rfl rfl)
theorem dJ8_addExact_2 : decode cJ8_addExact 2 = .ok (.iadd, 1) := dk_96 (dk_at dksJ8_addExact_0 2 rfl rfl)
theorem dJ8_addExact_3 : decode cJ8_addExact 3 = .ok (.istore_n 2, 1) := dk_61 (dk_at dksJ8_addExact_0 3 rfl rfl)
theorem dJ8_addExact_4 : decode cJ8_addExact 4 = .ok (.iload_n 0, 1) := dk_26 (dk_at dksJ8_addExact_0 4 rfl rfl)
theorem dJ8_addExact_5 : decode cJ8_addExact 5 = .ok (.iload_n 2, 1) := dk_28 (dk_at dksJ8_addExact_0 5 rfl rfl)
theorem dJ8_addExact_6 : decode cJ8_addExact 6 = .ok (.ixor, 1) := dk_130 (dk_at dksJ8_addExact_0 6 rfl rfl)
theorem dJ8_addExact_7 : decode cJ8_addExact 7 = .ok (.iload_n 1, 1) := dk_27 (dk_at dksJ8_addExact_0 7 rfl rfl)
theorem dJ8_addExact_8 : decode cJ8_addExact 8 = .ok (.iload_n 2, 1) := dk_28 (dk_at dksJ8_addExact_0 8 rfl rfl)
theorem dJ8_addExact_9 : decode cJ8_addExact 9 = .ok (.ixor, 1) := dk_130 (dk_at dksJ8_addExact_0 9 rfl rfl)
theorem dJ8_addExact_10 : decode cJ8_addExact 10 = .ok (.iand, 1) := dk_126 (dk_at dksJ8_addExact_0 10 rfl rfl)
theorem dJ8_addExact_11 : decode cJ8_addExact 11 = .ok (.ifCond .ge 13, 3) := dk_156 0 13 (dk_at dksJ8_addExact_0 11 rfl rfl)
theorem dJ8_addExact_14 : decode cJ8_addExact 14 = .ok (.new 109, 3) := dk_187 0 109 (dk_at dksJ8_addExact_0 14 rfl rfl)
theorem dJ8_addExact_17 : decode cJ8_addExact 17 = .ok (.dup, 1) := dk_89 (dk_at dksJ8_addExact_0 17 rfl rfl)
theorem dJ8_addExact_18 : decode cJ8_addExact 18 = .ok (.ldc 111, 2) := dk_18 111 (dk_at dksJ8_addExact_0 18 rfl rfl)
theorem dJ8_addExact_20 : decode cJ8_addExact 20 = .ok (.invokespecial 113, 3) := dk_183 0 113 (dk_at dksJ8_addExact_0 20 rfl rfl)
theorem dJ8_addExact_23 : decode cJ8_addExact 23 = .ok (.athrow, 1) := dk_191 (dk_at dksJ8_addExact_0 23 rfl rfl)
theorem dJ8_addExact_24 : decode cJ8_addExact 24 = .ok (.iload_n 2, 1) := dk_28 (dk_at dksJ8_addExact_1 0 rfl rfl)
theorem dJ8_addExact_25 : decode cJ8_addExact 25 = .ok (.ireturn, 1) := dk_172 (dk_at dksJ8_addExact_1 1 rfl rfl)
abbrev cJ8_multiplyExact : ByteArray := prog_36_method_28_code
def yJ8_multiplyExact : MethodName := ⟨RJ8, "multiplyExact", "(II)I"⟩
def dkwJ8_multiplyExact_1 : List UInt8 := [32, 136, 172]
abbrev dktJ8_multiplyExact_1 : List UInt8 := dkwJ8_multiplyExact_1 ++ []
def dkwJ8_multiplyExact_0 : List UInt8 := [26, 133, 27, 133, 105, 65, 32, 136, 133, 32, 148, 153, 0, 13, 187, 0, 109, 89, 18, 111, 183, 0, 113, 191]
abbrev dktJ8_multiplyExact_0 : List UInt8 := dkwJ8_multiplyExact_0 ++ dktJ8_multiplyExact_1
theorem dksJ8_multiplyExact_0 : cJ8_multiplyExact.data.toList.drop 0 = dktJ8_multiplyExact_0 := by decide +kernel
theorem dksJ8_multiplyExact_1 : cJ8_multiplyExact.data.toList.drop 24 = dktJ8_multiplyExact_1 := dk_seg dksJ8_multiplyExact_0 24 rfl rfl
theorem dJ8_multiplyExact_0 : decode cJ8_multiplyExact 0 = .ok (.iload_n 0, 1) := dk_26 (dk_at dksJ8_multiplyExact_0 0 rfl rfl)
theorem dJ8_multiplyExact_1 : decode cJ8_multiplyExact 1 = .ok (.i2l, 1) := dk_133 (dk_at dksJ8_multiplyExact_0 1 rfl rfl)
theorem dJ8_multiplyExact_2 : decode cJ8_multiplyExact 2 = .ok (.iload_n 1, 1) := dk_27 (dk_at dksJ8_multiplyExact_0 2 rfl rfl)
theorem dJ8_multiplyExact_3 : decode cJ8_multiplyExact 3 = .ok (.i2l, 1) := dk_133 (dk_at dksJ8_multiplyExact_0 3 rfl rfl)
theorem dJ8_multiplyExact_4 : decode cJ8_multiplyExact 4 = .ok (.lmul, 1) := dk_105 (dk_at dksJ8_multiplyExact_0 4 rfl rfl)
theorem dJ8_multiplyExact_5 : decode cJ8_multiplyExact 5 = .ok (.lstore_n 2, 1) := dk_65 (dk_at dksJ8_multiplyExact_0 5 rfl rfl)
theorem dJ8_multiplyExact_6 : decode cJ8_multiplyExact 6 = .ok (.lload_n 2, 1) := dk_32 (dk_at dksJ8_multiplyExact_0 6 rfl rfl)
theorem dJ8_multiplyExact_7 : decode cJ8_multiplyExact 7 = .ok (.l2i, 1) := dk_136 (dk_at dksJ8_multiplyExact_0 7 rfl rfl)
theorem dJ8_multiplyExact_8 : decode cJ8_multiplyExact 8 = .ok (.i2l, 1) := dk_133 (dk_at dksJ8_multiplyExact_0 8 rfl rfl)
theorem dJ8_multiplyExact_9 : decode cJ8_multiplyExact 9 = .ok (.lload_n 2, 1) := dk_32 (dk_at dksJ8_multiplyExact_0 9 rfl rfl)
theorem dJ8_multiplyExact_10 : decode cJ8_multiplyExact 10 = .ok (.lcmp, 1) := dk_148 (dk_at dksJ8_multiplyExact_0 10 rfl rfl)
theorem dJ8_multiplyExact_11 : decode cJ8_multiplyExact 11 = .ok (.ifCond .eq 13, 3) := dk_153 0 13 (dk_at dksJ8_multiplyExact_0 11 rfl rfl)
theorem dJ8_multiplyExact_14 : decode cJ8_multiplyExact 14 = .ok (.new 109, 3) := dk_187 0 109 (dk_at dksJ8_multiplyExact_0 14 rfl rfl)
theorem dJ8_multiplyExact_17 : decode cJ8_multiplyExact 17 = .ok (.dup, 1) := dk_89 (dk_at dksJ8_multiplyExact_0 17 rfl rfl)
theorem dJ8_multiplyExact_18 : decode cJ8_multiplyExact 18 = .ok (.ldc 111, 2) := dk_18 111 (dk_at dksJ8_multiplyExact_0 18 rfl rfl)
theorem dJ8_multiplyExact_20 : decode cJ8_multiplyExact 20 = .ok (.invokespecial 113, 3) := dk_183 0 113 (dk_at dksJ8_multiplyExact_0 20 rfl rfl)
theorem dJ8_multiplyExact_23 : decode cJ8_multiplyExact 23 = .ok (.athrow, 1) := dk_191 (dk_at dksJ8_multiplyExact_0 23 rfl rfl)
theorem dJ8_multiplyExact_24 : decode cJ8_multiplyExact 24 = .ok (.lload_n 2, 1) := dk_32 (dk_at dksJ8_multiplyExact_1 0 rfl rfl)
theorem dJ8_multiplyExact_25 : decode cJ8_multiplyExact 25 = .ok (.l2i, 1) := dk_136 (dk_at dksJ8_multiplyExact_1 1 rfl rfl)
theorem dJ8_multiplyExact_26 : decode cJ8_multiplyExact 26 = .ok (.ireturn, 1) := dk_172 (dk_at dksJ8_multiplyExact_1 2 rfl rfl)
abbrev cJ8_max : ByteArray := prog_36_method_65_code
def yJ8_max : MethodName := ⟨RJ8, "max", "(II)I"⟩
def dkwJ8_max_0 : List UInt8 := [26, 27, 161, 0, 7, 26, 167, 0, 4, 27, 172]
abbrev dktJ8_max_0 : List UInt8 := dkwJ8_max_0 ++ []
theorem dksJ8_max_0 : cJ8_max.data.toList.drop 0 = dktJ8_max_0 := by decide +kernel
theorem dJ8_max_0 : decode cJ8_max 0 = .ok (.iload_n 0, 1) := dk_26 (dk_at dksJ8_max_0 0 rfl rfl)
theorem dJ8_max_1 : decode cJ8_max 1 = .ok (.iload_n 1, 1) := dk_27 (dk_at dksJ8_max_0 1 rfl rfl)
theorem dJ8_max_2 : decode cJ8_max 2 = .ok (.if_icmp .lt 7, 3) := dk_161 0 7 (dk_at dksJ8_max_0 2 rfl rfl)
theorem dJ8_max_5 : decode cJ8_max 5 = .ok (.iload_n 0, 1) := dk_26 (dk_at dksJ8_max_0 5 rfl rfl)
theorem dJ8_max_6 : decode cJ8_max 6 = .ok (.goto 4, 3) := dk_167 0 4 (dk_at dksJ8_max_0 6 rfl rfl)
theorem dJ8_max_9 : decode cJ8_max 9 = .ok (.iload_n 1, 1) := dk_27 (dk_at dksJ8_max_0 9 rfl rfl)
theorem dJ8_max_10 : decode cJ8_max 10 = .ok (.ireturn, 1) := dk_172 (dk_at dksJ8_max_0 10 rfl rfl)
abbrev cJ8_abs : ByteArray := prog_36_method_59_code
def yJ8_abs : MethodName := ⟨RJ8, "abs", "(I)I"⟩
def dkwJ8_abs_0 : List UInt8 := [26, 156, 0, 8, 26, 116, 167, 0, 4, 26, 172]
abbrev dktJ8_abs_0 : List UInt8 := dkwJ8_abs_0 ++ []
theorem dksJ8_abs_0 : cJ8_abs.data.toList.drop 0 = dktJ8_abs_0 := by decide +kernel
theorem dJ8_abs_0 : decode cJ8_abs 0 = .ok (.iload_n 0, 1) := dk_26 (dk_at dksJ8_abs_0 0 rfl rfl)
theorem dJ8_abs_1 : decode cJ8_abs 1 = .ok (.ifCond .ge 8, 3) := dk_156 0 8 (dk_at dksJ8_abs_0 1 rfl rfl)
theorem dJ8_abs_4 : decode cJ8_abs 4 = .ok (.iload_n 0, 1) := dk_26 (dk_at dksJ8_abs_0 4 rfl rfl)
theorem dJ8_abs_5 : decode cJ8_abs 5 = .ok (.ineg, 1) := dk_116 (dk_at dksJ8_abs_0 5 rfl rfl)
theorem dJ8_abs_6 : decode cJ8_abs 6 = .ok (.goto 4, 3) := dk_167 0 4 (dk_at dksJ8_abs_0 6 rfl rfl)
theorem dJ8_abs_9 : decode cJ8_abs 9 = .ok (.iload_n 0, 1) := dk_26 (dk_at dksJ8_abs_0 9 rfl rfl)
theorem dJ8_abs_10 : decode cJ8_abs 10 = .ok (.ireturn, 1) := dk_172 (dk_at dksJ8_abs_0 10 rfl rfl)
abbrev cJ8_floorMod : ByteArray := prog_36_method_50_code
def yJ8_floorMod : MethodName := ⟨RJ8, "floorMod", "(II)I"⟩
def dkwJ8_floorMod_0 : List UInt8 := [26, 27, 112, 61, 26, 27, 130, 156, 0, 11, 28, 153, 0, 7, 28, 27, 96, 172, 28, 172]
abbrev dktJ8_floorMod_0 : List UInt8 := dkwJ8_floorMod_0 ++ []
theorem dksJ8_floorMod_0 : cJ8_floorMod.data.toList.drop 0 = dktJ8_floorMod_0 := by decide +kernel
theorem dJ8_floorMod_0 : decode cJ8_floorMod 0 = .ok (.iload_n 0, 1) := dk_26 (dk_at dksJ8_floorMod_0 0 rfl rfl)
theorem dJ8_floorMod_1 : decode cJ8_floorMod 1 = .ok (.iload_n 1, 1) := dk_27 (dk_at dksJ8_floorMod_0 1 rfl rfl)
theorem dJ8_floorMod_2 : decode cJ8_floorMod 2 = .ok (.irem, 1) := dk_112 (dk_at dksJ8_floorMod_0 2 rfl rfl)
theorem dJ8_floorMod_3 : decode cJ8_floorMod 3 = .ok (.istore_n 2, 1) := dk_61 (dk_at dksJ8_floorMod_0 3 rfl rfl)
theorem dJ8_floorMod_4 : decode cJ8_floorMod 4 = .ok (.iload_n 0, 1) := dk_26 (dk_at dksJ8_floorMod_0 4 rfl rfl)
theorem dJ8_floorMod_5 : decode cJ8_floorMod 5 = .ok (.iload_n 1, 1) := dk_27 (dk_at dksJ8_floorMod_0 5 rfl rfl)
theorem dJ8_floorMod_6 : decode cJ8_floorMod 6 = .ok (.ixor, 1) := dk_130 (dk_at dksJ8_floorMod_0 6 rfl rfl)
theorem dJ8_floorMod_7 : decode cJ8_floorMod 7 = .ok (.ifCond .ge 11, 3) := dk_156 0 11 (dk_at dksJ8_floorMod_0 7 rfl rfl)
theorem dJ8_floorMod_10 : decode cJ8_floorMod 10 = .ok (.iload_n 2, 1) := dk_28 (dk_at dksJ8_floorMod_0 10 rfl rfl)
theorem dJ8_floorMod_11 : decode cJ8_floorMod 11 = .ok (.ifCond .eq 7, 3) := dk_153 0 7 (dk_at dksJ8_floorMod_0 11 rfl rfl)
theorem dJ8_floorMod_14 : decode cJ8_floorMod 14 = .ok (.iload_n 2, 1) := dk_28 (dk_at dksJ8_floorMod_0 14 rfl rfl)
theorem dJ8_floorMod_15 : decode cJ8_floorMod 15 = .ok (.iload_n 1, 1) := dk_27 (dk_at dksJ8_floorMod_0 15 rfl rfl)
theorem dJ8_floorMod_16 : decode cJ8_floorMod 16 = .ok (.iadd, 1) := dk_96 (dk_at dksJ8_floorMod_0 16 rfl rfl)
theorem dJ8_floorMod_17 : decode cJ8_floorMod 17 = .ok (.ireturn, 1) := dk_172 (dk_at dksJ8_floorMod_0 17 rfl rfl)
theorem dJ8_floorMod_18 : decode cJ8_floorMod 18 = .ok (.iload_n 2, 1) := dk_28 (dk_at dksJ8_floorMod_0 18 rfl rfl)
theorem dJ8_floorMod_19 : decode cJ8_floorMod 19 = .ok (.ireturn, 1) := dk_172 (dk_at dksJ8_floorMod_0 19 rfl rfl)
theorem q144 : (Jvm.Cond.initialized "java/lang/Math") ∈ lw_all := lw_g (lw_at lw_m1 11 rfl) rfl
theorem q549 : (Jvm.Cond.static ({ cls := "java/lang/Math", name := "min", desc := "(II)I" } : Jvm.MethodName)) ∈ lw_all := lw_g (lw_at lw_m2 176 rfl) rfl
theorem q550 : (Jvm.Cond.code ({ cls := "java/lang/Math", name := "min", desc := "(II)I" } : Jvm.MethodName) prog_36_method_69_code (2 : Nat) (Option.some Jvm.ClassFile.FieldType.int)) ∈ lw_all := lw_g (lw_at lw_m2 177 rfl) rfl
theorem q931 : (Jvm.Cond.static ({ cls := "java/lang/Math", name := "addExact", desc := "(II)I" } : Jvm.MethodName)) ∈ lw_all := lw_g (lw_at lw_m4 78 rfl) rfl
theorem q932 : (Jvm.Cond.code ({ cls := "java/lang/Math", name := "addExact", desc := "(II)I" } : Jvm.MethodName) prog_36_method_24_code (3 : Nat) (Option.some Jvm.ClassFile.FieldType.int)) ∈ lw_all := lw_g (lw_at lw_m4 79 rfl) rfl
theorem q933 : (Jvm.Cond.classLink "java/lang/Math" (109 : Nat) "java/lang/ArithmeticException") ∈ lw_all := lw_g (lw_at lw_m4 80 rfl) rfl
theorem q990 : (Jvm.Cond.stringRef "java/lang/Math" (111 : Nat) "integer overflow") ∈ lw_tbl := lw_at lw_m4 137 rfl
theorem q991 : (Jvm.Cond.methodLink "java/lang/Math" (113 : Nat) ({ cls := "java/lang/ArithmeticException", name := "<init>", desc := "(Ljava/lang/String;)V" } : Jvm.MethodName)) ∈ lw_all := lw_g (lw_at lw_m4 138 rfl) rfl
theorem q1020 : (Jvm.Cond.static ({ cls := "java/lang/Math", name := "multiplyExact", desc := "(II)I" } : Jvm.MethodName)) ∈ lw_all := lw_g (lw_at lw_m4 167 rfl) rfl
theorem q1021 : (Jvm.Cond.code ({ cls := "java/lang/Math", name := "multiplyExact", desc := "(II)I" } : Jvm.MethodName) prog_36_method_28_code (4 : Nat) (Option.some Jvm.ClassFile.FieldType.int)) ∈ lw_all := lw_g (lw_at lw_m4 168 rfl) rfl
theorem q1518 : (Jvm.Cond.static ({ cls := "java/lang/Math", name := "max", desc := "(II)I" } : Jvm.MethodName)) ∈ lw_all := lw_g (lw_at lw_m6 185 rfl) rfl
theorem q1519 : (Jvm.Cond.code ({ cls := "java/lang/Math", name := "max", desc := "(II)I" } : Jvm.MethodName) prog_36_method_65_code (2 : Nat) (Option.some Jvm.ClassFile.FieldType.int)) ∈ lw_all := lw_g (lw_at lw_m6 186 rfl) rfl
theorem q1933 : (Jvm.Cond.static ({ cls := "java/lang/Math", name := "abs", desc := "(I)I" } : Jvm.MethodName)) ∈ lw_all := lw_g (lw_at lw_m8 120 rfl) rfl
theorem q1934 : (Jvm.Cond.code ({ cls := "java/lang/Math", name := "abs", desc := "(I)I" } : Jvm.MethodName) prog_36_method_59_code (1 : Nat) (Option.some Jvm.ClassFile.FieldType.int)) ∈ lw_all := lw_g (lw_at lw_m8 121 rfl) rfl
theorem q1968 : (Jvm.Cond.static ({ cls := "java/lang/Math", name := "floorMod", desc := "(II)I" } : Jvm.MethodName)) ∈ lw_all := lw_g (lw_at lw_m8 155 rfl) rfl
theorem q1969 : (Jvm.Cond.code ({ cls := "java/lang/Math", name := "floorMod", desc := "(II)I" } : Jvm.MethodName) prog_36_method_50_code (3 : Nat) (Option.some Jvm.ClassFile.FieldType.int)) ∈ lw_all := lw_g (lw_at lw_m8 156 rfl) rfl
