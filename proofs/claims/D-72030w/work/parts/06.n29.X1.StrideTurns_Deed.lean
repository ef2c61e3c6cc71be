/-! StrideTurns$Deed -/
set_option maxRecDepth 100000
def RX1 : String := "StrideTurns$Deed"
def TX1 : u_T := fun k => match k with
  | 0 => ("StrideTurns$Deed", "number", "I", true)
  | 1 => ("StrideTurns$Deed", "family", "I", true)
  | 2 => ("StrideTurns$Deed", "ints", "LStrideTurns$Ints;", true)
  | 3 => ("StrideTurns$Deed", "floats", "LStrideTurns$Floats;", true)
  | _ => ("StrideTurns$Deed", "doubles", "LStrideTurns$Doubles;", true)
def tyX1 : Nat → FieldType := fun k => match k with
  | 0 => .int
  | 1 => .int
  | 2 => .object "StrideTurns$Ints"
  | 3 => .object "StrideTurns$Floats"
  | _ => .object "StrideTurns$Doubles"
abbrev wsX10 : List Cond := u_ws RX1 TX1 5
theorem nmX1 : ∀ a, a < 5 → ∀ b, b < 5 → a ≠ b → (TX1 a).2.1 ≠ (TX1 b).2.1 := by decide +kernel
theorem tyX1_ok : ∀ k, k < 5 → parseFieldDescriptor (TX1 k).2.2.1 = some (tyX1 k) := by decide +kernel
abbrev cX1_all : ByteArray := prog_4_method_11_code
def yX1_all : MethodName := ⟨RX1, "all", "()Ljava/util/HashMap;"⟩
def dkwX1_all_15 : List UInt8 := [18, 124, 187, 0, 10, 89, 16, 12, 3, 186, 0, 126, 0, 0, 1, 1, 183, 0, 70, 184, 0, 73, 42, 176]
abbrev dktX1_all_15 : List UInt8 := dkwX1_all_15 ++ []
def dkwX1_all_14 : List UInt8 := [42, 18, 121, 187, 0, 10, 89, 16, 11, 3, 186, 0, 123, 0, 0, 1, 1, 183, 0, 70, 184, 0, 73, 42]
abbrev dktX1_all_14 : List UInt8 := dkwX1_all_14 ++ dktX1_all_15
def dkwX1_all_13 : List UInt8 := [16, 10, 3, 186, 0, 118, 0, 0, 186, 0, 119, 0, 0, 186, 0, 120, 0, 0, 183, 0, 70, 184, 0, 73]
abbrev dktX1_all_13 : List UInt8 := dkwX1_all_13 ++ dktX1_all_14
def dkwX1_all_12 : List UInt8 := [186, 0, 114, 0, 0, 186, 0, 115, 0, 0, 183, 0, 70, 184, 0, 73, 42, 18, 116, 187, 0, 10, 89]
abbrev dktX1_all_12 : List UInt8 := dkwX1_all_12 ++ dktX1_all_13
def dkwX1_all_11 : List UInt8 := [183, 0, 70, 184, 0, 73, 42, 18, 111, 187, 0, 10, 89, 16, 9, 3, 186, 0, 113, 0, 0]
abbrev dktX1_all_11 : List UInt8 := dkwX1_all_11 ++ dktX1_all_12
def dkwX1_all_10 : List UInt8 := [183, 0, 70, 184, 0, 73, 42, 18, 108, 187, 0, 10, 89, 16, 8, 16, 7, 186, 0, 110, 0, 0, 1, 1]
abbrev dktX1_all_10 : List UInt8 := dkwX1_all_10 ++ dktX1_all_11
def dkwX1_all_9 : List UInt8 := [183, 0, 70, 184, 0, 73, 42, 18, 105, 187, 0, 10, 89, 16, 7, 16, 6, 186, 0, 107, 0, 0, 1, 1]
abbrev dktX1_all_9 : List UInt8 := dkwX1_all_9 ++ dktX1_all_10
def dkwX1_all_8 : List UInt8 := [183, 0, 70, 184, 0, 73, 42, 18, 102, 187, 0, 10, 89, 16, 6, 8, 186, 0, 104, 0, 0, 1, 1]
abbrev dktX1_all_8 : List UInt8 := dkwX1_all_8 ++ dktX1_all_9
def dkwX1_all_7 : List UInt8 := [18, 97, 187, 0, 10, 89, 8, 7, 186, 0, 99, 0, 0, 186, 0, 100, 0, 0, 186, 0, 101, 0, 0]
abbrev dktX1_all_7 : List UInt8 := dkwX1_all_7 ++ dktX1_all_8
def dkwX1_all_6 : List UInt8 := [6, 186, 0, 94, 0, 0, 186, 0, 95, 0, 0, 186, 0, 96, 0, 0, 183, 0, 70, 184, 0, 73, 42]
abbrev dktX1_all_6 : List UInt8 := dkwX1_all_6 ++ dktX1_all_7
def dkwX1_all_5 : List UInt8 := [186, 0, 90, 0, 0, 186, 0, 91, 0, 0, 183, 0, 70, 184, 0, 73, 42, 18, 92, 187, 0, 10, 89, 7]
abbrev dktX1_all_5 : List UInt8 := dkwX1_all_5 ++ dktX1_all_6
def dkwX1_all_4 : List UInt8 := [183, 0, 70, 184, 0, 73, 42, 18, 87, 187, 0, 10, 89, 6, 3, 186, 0, 89, 0, 0]
abbrev dktX1_all_4 : List UInt8 := dkwX1_all_4 ++ dktX1_all_5
def dkwX1_all_3 : List UInt8 := [18, 82, 187, 0, 10, 89, 5, 5, 186, 0, 84, 0, 0, 186, 0, 85, 0, 0, 186, 0, 86, 0, 0]
abbrev dktX1_all_3 : List UInt8 := dkwX1_all_3 ++ dktX1_all_4
def dkwX1_all_2 : List UInt8 := [4, 186, 0, 79, 0, 0, 186, 0, 80, 0, 0, 186, 0, 81, 0, 0, 183, 0, 70, 184, 0, 73, 42]
abbrev dktX1_all_2 : List UInt8 := dkwX1_all_2 ++ dktX1_all_3
def dkwX1_all_1 : List UInt8 := [186, 0, 64, 0, 0, 186, 0, 67, 0, 0, 183, 0, 70, 184, 0, 73, 42, 18, 77, 187, 0, 10, 89, 4]
abbrev dktX1_all_1 : List UInt8 := dkwX1_all_1 ++ dktX1_all_2
def dkwX1_all_0 : List UInt8 := [187, 0, 52, 89, 183, 0, 57, 75, 42, 18, 58, 187, 0, 10, 89, 3, 4, 186, 0, 60, 0, 0]
abbrev dktX1_all_0 : List UInt8 := dkwX1_all_0 ++ dktX1_all_1
theorem dksX1_all_0 : cX1_all.data.toList.drop 0 = dktX1_all_0 := by decide +kernel
theorem dksX1_all_1 : cX1_all.data.toList.drop 22 = dktX1_all_1 := dk_seg dksX1_all_0 22 rfl rfl
theorem dksX1_all_2 : cX1_all.data.toList.drop 46 = dktX1_all_2 := dk_seg dksX1_all_1 24 rfl rfl
theorem dksX1_all_3 : cX1_all.data.toList.drop 69 = dktX1_all_3 := dk_seg dksX1_all_2 23 rfl rfl
theorem dksX1_all_4 : cX1_all.data.toList.drop 92 = dktX1_all_4 := dk_seg dksX1_all_3 23 rfl rfl
theorem dksX1_all_5 : cX1_all.data.toList.drop 112 = dktX1_all_5 := dk_seg dksX1_all_4 20 rfl rfl
theorem dksX1_all_6 : cX1_all.data.toList.drop 136 = dktX1_all_6 := dk_seg dksX1_all_5 24 rfl rfl
theorem dksX1_all_7 : cX1_all.data.toList.drop 159 = dktX1_all_7 := dk_seg dksX1_all_6 23 rfl rfl
theorem dksX1_all_8 : cX1_all.data.toList.drop 182 = dktX1_all_8 := dk_seg dksX1_all_7 23 rfl rfl
theorem dksX1_all_9 : cX1_all.data.toList.drop 205 = dktX1_all_9 := dk_seg dksX1_all_8 23 rfl rfl
theorem dksX1_all_10 : cX1_all.data.toList.drop 229 = dktX1_all_10 := dk_seg dksX1_all_9 24 rfl rfl
theorem dksX1_all_11 : cX1_all.data.toList.drop 253 = dktX1_all_11 := dk_seg dksX1_all_10 24 rfl rfl
theorem dksX1_all_12 : cX1_all.data.toList.drop 274 = dktX1_all_12 := dk_seg dksX1_all_11 21 rfl rfl
theorem dksX1_all_13 : cX1_all.data.toList.drop 297 = dktX1_all_13 := dk_seg dksX1_all_12 23 rfl rfl
theorem dksX1_all_14 : cX1_all.data.toList.drop 321 = dktX1_all_14 := dk_seg dksX1_all_13 24 rfl rfl
theorem dksX1_all_15 : cX1_all.data.toList.drop 345 = dktX1_all_15 := dk_seg dksX1_all_14 24 rfl rfl
theorem dX1_all_0 : decode cX1_all 0 = .ok (.new 52, 3) := dk_187 0 52 (dk_at dksX1_all_0 0 rfl rfl)
theorem dX1_all_3 : decode cX1_all 3 = .ok (.dup, 1) := dk_89 (dk_at dksX1_all_0 3 rfl rfl)
theorem dX1_all_4 : decode cX1_all 4 = .ok (.invokespecial 57, 3) := dk_183 0 57 (dk_at dksX1_all_0 4 rfl rfl)
theorem dX1_all_7 : decode cX1_all 7 = .ok (.astore_n 0, 1) := dk_75 (dk_at dksX1_all_0 7 rfl rfl)
theorem dX1_all_8 : decode cX1_all 8 = .ok (.aload_n 0, 1) := dk_42 (dk_at dksX1_all_0 8 rfl rfl)
theorem dX1_all_9 : decode cX1_all 9 = .ok (.ldc 58, 2) := dk_18 58 (dk_at dksX1_all_0 9 rfl rfl)
theorem dX1_all_11 : decode cX1_all 11 = .ok (.new 10, 3) := dk_187 0 10 (dk_at dksX1_all_0 11 rfl rfl)
theorem dX1_all_14 : decode cX1_all 14 = .ok (.dup, 1) := dk_89 (dk_at dksX1_all_0 14 rfl rfl)
theorem dX1_all_15 : decode cX1_all 15 = .ok (.iconst 0, 1) := dk_3 (dk_at dksX1_all_0 15 rfl rfl)
theorem dX1_all_16 : decode cX1_all 16 = .ok (.iconst 1, 1) := dk_4 (dk_at dksX1_all_0 16 rfl rfl)
theorem dX1_all_17 : decode cX1_all 17 = .ok (.invokedynamic 60, 5) := by decide +kernel
theorem dX1_all_22 : decode cX1_all 22 = .ok (.invokedynamic 64, 5) := by decide +kernel
theorem dX1_all_27 : decode cX1_all 27 = .ok (.invokedynamic 67, 5) := by decide +kernel
theorem dX1_all_32 : decode cX1_all 32 = .ok (.invokespecial 70, 3) := dk_183 0 70 (dk_at dksX1_all_1 10 rfl rfl)
theorem dX1_all_35 : decode cX1_all 35 = .ok (.invokestatic 73, 3) := dk_184 0 73 (dk_at dksX1_all_1 13 rfl rfl)
theorem dX1_all_38 : decode cX1_all 38 = .ok (.aload_n 0, 1) := dk_42 (dk_at dksX1_all_1 16 rfl rfl)
theorem dX1_all_39 : decode cX1_all 39 = .ok (.ldc 77, 2) := dk_18 77 (dk_at dksX1_all_1 17 rfl rfl)
theorem dX1_all_41 : decode cX1_all 41 = .ok (.new 10, 3) := dk_187 0 10 (dk_at dksX1_all_1 19 rfl rfl)
theorem dX1_all_44 : decode cX1_all 44 = .ok (.dup, 1) := dk_89 (dk_at dksX1_all_1 22 rfl rfl)
theorem dX1_all_45 : decode cX1_all 45 = .ok (.iconst 1, 1) := dk_4 (dk_at dksX1_all_1 23 rfl rfl)
theorem dX1_all_46 : decode cX1_all 46 = .ok (.iconst 1, 1) := dk_4 (dk_at dksX1_all_2 0 rfl rfl)
theorem dX1_all_47 : decode cX1_all 47 = .ok (.invokedynamic 79, 5) := by decide +kernel
theorem dX1_all_52 : decode cX1_all 52 = .ok (.invokedynamic 80, 5) := by decide +kernel
theorem dX1_all_57 : decode cX1_all 57 = .ok (.invokedynamic 81, 5) := by decide +kernel
theorem dX1_all_62 : decode cX1_all 62 = .ok (.invokespecial 70, 3) := dk_183 0 70 (dk_at dksX1_all_2 16 rfl rfl)
theorem dX1_all_65 : decode cX1_all 65 = .ok (.invokestatic 73, 3) := dk_184 0 73 (dk_at dksX1_all_2 19 rfl rfl)
theorem dX1_all_68 : decode cX1_all 68 = .ok (.aload_n 0, 1) := dk_42 (dk_at dksX1_all_2 22 rfl rfl)
theorem dX1_all_69 : decode cX1_all 69 = .ok (.ldc 82, 2) := dk_18 82 (dk_at dksX1_all_3 0 rfl rfl)
theorem dX1_all_71 : decode cX1_all 71 = .ok (.new 10, 3) := dk_187 0 10 (dk_at dksX1_all_3 2 rfl rfl)
theorem dX1_all_74 : decode cX1_all 74 = .ok (.dup, 1) := dk_89 (dk_at dksX1_all_3 5 rfl rfl)
theorem dX1_all_75 : decode cX1_all 75 = .ok (.iconst 2, 1) := dk_5 (dk_at dksX1_all_3 6 rfl rfl)
theorem dX1_all_76 : decode cX1_all 76 = .ok (.iconst 2, 1) := dk_5 (dk_at dksX1_all_3 7 rfl rfl)
theorem dX1_all_77 : decode cX1_all 77 = .ok (.invokedynamic 84, 5) := by decide +kernel
theorem dX1_all_82 : decode cX1_all 82 = .ok (.invokedynamic 85, 5) := by decide +kernel
theorem dX1_all_87 : decode cX1_all 87 = .ok (.invokedynamic 86, 5) := by decide +kernel
theorem dX1_all_92 : decode cX1_all 92 = .ok (.invokespecial 70, 3) := dk_183 0 70 (dk_at dksX1_all_4 0 rfl rfl)
theorem dX1_all_95 : decode cX1_all 95 = .ok (.invokestatic 73, 3) := dk_184 0 73 (dk_at dksX1_all_4 3 rfl rfl)
theorem dX1_all_98 : decode cX1_all 98 = .ok (.aload_n 0, 1) := dk_42 (dk_at dksX1_all_4 6 rfl rfl)
theorem dX1_all_99 : decode cX1_all 99 = .ok (.ldc 87, 2) := dk_18 87 (dk_at dksX1_all_4 7 rfl rfl)
theorem dX1_all_101 : decode cX1_all 101 = .ok (.new 10, 3) := dk_187 0 10 (dk_at dksX1_all_4 9 rfl rfl)
theorem dX1_all_104 : decode cX1_all 104 = .ok (.dup, 1) := dk_89 (dk_at dksX1_all_4 12 rfl rfl)
theorem dX1_all_105 : decode cX1_all 105 = .ok (.iconst 3, 1) := dk_6 (dk_at dksX1_all_4 13 rfl rfl)
theorem dX1_all_106 : decode cX1_all 106 = .ok (.iconst 0, 1) := dk_3 (dk_at dksX1_all_4 14 rfl rfl)
theorem dX1_all_107 : decode cX1_all 107 = .ok (.invokedynamic 89, 5) := by decide +kernel
theorem dX1_all_112 : decode cX1_all 112 = .ok (.invokedynamic 90, 5) := by decide +kernel
theorem dX1_all_117 : decode cX1_all 117 = .ok (.invokedynamic 91, 5) := by decide +kernel
theorem dX1_all_122 : decode cX1_all 122 = .ok (.invokespecial 70, 3) := dk_183 0 70 (dk_at dksX1_all_5 10 rfl rfl)
theorem dX1_all_125 : decode cX1_all 125 = .ok (.invokestatic 73, 3) := dk_184 0 73 (dk_at dksX1_all_5 13 rfl rfl)
theorem dX1_all_128 : decode cX1_all 128 = .ok (.aload_n 0, 1) := dk_42 (dk_at dksX1_all_5 16 rfl rfl)
theorem dX1_all_129 : decode cX1_all 129 = .ok (.ldc 92, 2) := dk_18 92 (dk_at dksX1_all_5 17 rfl rfl)
theorem dX1_all_131 : decode cX1_all 131 = .ok (.new 10, 3) := dk_187 0 10 (dk_at dksX1_all_5 19 rfl rfl)
theorem dX1_all_134 : decode cX1_all 134 = .ok (.dup, 1) := dk_89 (dk_at dksX1_all_5 22 rfl rfl)
theorem dX1_all_135 : decode cX1_all 135 = .ok (.iconst 4, 1) := dk_7 (dk_at dksX1_all_5 23 rfl rfl)
theorem dX1_all_136 : decode cX1_all 136 = .ok (.iconst 3, 1) := dk_6 (dk_at dksX1_all_6 0 rfl rfl)
theorem dX1_all_137 : decode cX1_all 137 = .ok (.invokedynamic 94, 5) := by decide +kernel
theorem dX1_all_142 : decode cX1_all 142 = .ok (.invokedynamic 95, 5) := by decide +kernel
theorem dX1_all_147 : decode cX1_all 147 = .ok (.invokedynamic 96, 5) := by decide +kernel
theorem dX1_all_152 : decode cX1_all 152 = .ok (.invokespecial 70, 3) := dk_183 0 70 (dk_at dksX1_all_6 16 rfl rfl)
theorem dX1_all_155 : decode cX1_all 155 = .ok (.invokestatic 73, 3) := dk_184 0 73 (dk_at dksX1_all_6 19 rfl rfl)
theorem dX1_all_158 : decode cX1_all 158 = .ok (.aload_n 0, 1) := dk_42 (dk_at dksX1_all_6 22 rfl rfl)
theorem dX1_all_159 : decode cX1_all 159 = .ok (.ldc 97, 2) := dk_18 97 (dk_at dksX1_all_7 0 rfl rfl)
theorem dX1_all_161 : decode cX1_all 161 = .ok (.new 10, 3) := dk_187 0 10 (dk_at dksX1_all_7 2 rfl rfl)
theorem dX1_all_164 : decode cX1_all 164 = .ok (.dup, 1) := dk_89 (dk_at dksX1_all_7 5 rfl rfl)
theorem dX1_all_165 : decode cX1_all 165 = .ok (.iconst 5, 1) := dk_8 (dk_at dksX1_all_7 6 rfl rfl)
theorem dX1_all_166 : decode cX1_all 166 = .ok (.iconst 4, 1) := dk_7 (dk_at dksX1_all_7 7 rfl rfl)
theorem dX1_all_167 : decode cX1_all 167 = .ok (.invokedynamic 99, 5) := by decide +kernel
theorem dX1_all_172 : decode cX1_all 172 = .ok (.invokedynamic 100, 5) := by decide +kernel
theorem dX1_all_177 : decode cX1_all 177 = .ok (.invokedynamic 101, 5) := by decide +kernel
theorem dX1_all_182 : decode cX1_all 182 = .ok (.invokespecial 70, 3) := dk_183 0 70 (dk_at dksX1_all_8 0 rfl rfl)
theorem dX1_all_185 : decode cX1_all 185 = .ok (.invokestatic 73, 3) := dk_184 0 73 (dk_at dksX1_all_8 3 rfl rfl)
theorem dX1_all_188 : decode cX1_all 188 = .ok (.aload_n 0, 1) := dk_42 (dk_at dksX1_all_8 6 rfl rfl)
theorem dX1_all_189 : decode cX1_all 189 = .ok (.ldc 102, 2) := dk_18 102 (dk_at dksX1_all_8 7 rfl rfl)
theorem dX1_all_191 : decode cX1_all 191 = .ok (.new 10, 3) := dk_187 0 10 (dk_at dksX1_all_8 9 rfl rfl)
theorem dX1_all_194 : decode cX1_all 194 = .ok (.dup, 1) := dk_89 (dk_at dksX1_all_8 12 rfl rfl)
theorem dX1_all_195 : decode cX1_all 195 = .ok (.bipush 6, 2) := dk_16 6 (dk_at dksX1_all_8 13 rfl rfl)
theorem dX1_all_197 : decode cX1_all 197 = .ok (.iconst 5, 1) := dk_8 (dk_at dksX1_all_8 15 rfl rfl)
theorem dX1_all_198 : decode cX1_all 198 = .ok (.invokedynamic 104, 5) := by decide +kernel
theorem dX1_all_203 : decode cX1_all 203 = .ok (.aconst_null, 1) := dk_1 (dk_at dksX1_all_8 21 rfl rfl)
theorem dX1_all_204 : decode cX1_all 204 = .ok (.aconst_null, 1) := dk_1 (dk_at dksX1_all_8 22 rfl rfl)
theorem dX1_all_205 : decode cX1_all 205 = .ok (.invokespecial 70, 3) := dk_183 0 70 (dk_at dksX1_all_9 0 rfl rfl)
theorem dX1_all_208 : decode cX1_all 208 = .ok (.invokestatic 73, 3) := dk_184 0 73 (dk_at dksX1_all_9 3 rfl rfl)
theorem dX1_all_211 : decode cX1_all 211 = .ok (.aload_n 0, 1) := dk_42 (dk_at dksX1_all_9 6 rfl rfl)
theorem dX1_all_212 : decode cX1_all 212 = .ok (.ldc 105, 2) := dk_18 105 (dk_at dksX1_all_9 7 rfl rfl)
theorem dX1_all_214 : decode cX1_all 214 = .ok (.new 10, 3) := dk_187 0 10 (dk_at dksX1_all_9 9 rfl rfl)
theorem dX1_all_217 : decode cX1_all 217 = .ok (.dup, 1) := dk_89 (dk_at dksX1_all_9 12 rfl rfl)
theorem dX1_all_218 : decode cX1_all 218 = .ok (.bipush 7, 2) := dk_16 7 (dk_at dksX1_all_9 13 rfl rfl)
theorem dX1_all_220 : decode cX1_all 220 = .ok (.bipush 6, 2) := dk_16 6 (dk_at dksX1_all_9 15 rfl rfl)
theorem dX1_all_222 : decode cX1_all 222 = .ok (.invokedynamic 107, 5) := by decide +kernel
theorem dX1_all_227 : decode cX1_all 227 = .ok (.aconst_null, 1) := dk_1 (dk_at dksX1_all_9 22 rfl rfl)
theorem dX1_all_228 : decode cX1_all 228 = .ok (.aconst_null, 1) := dk_1 (dk_at dksX1_all_9 23 rfl rfl)
theorem dX1_all_229 : decode cX1_all 229 = .ok (.invokespecial 70, 3) := dk_183 0 70 (dk_at dksX1_all_10 0 rfl rfl)
theorem dX1_all_232 : decode cX1_all 232 = .ok (.invokestatic 73, 3) := dk_184 0 73 (dk_at dksX1_all_10 3 rfl rfl)
theorem dX1_all_235 : decode cX1_all 235 = .ok (.aload_n 0, 1) := dk_42 (dk_at dksX1_all_10 6 rfl rfl)
theorem dX1_all_236 : decode cX1_all 236 = .ok (.ldc 108, 2) := dk_18 108 (dk_at dksX1_all_10 7 rfl rfl)
theorem dX1_all_238 : decode cX1_all 238 = .ok (.new 10, 3) := dk_187 0 10 (dk_at dksX1_all_10 9 rfl rfl)
theorem dX1_all_241 : decode cX1_all 241 = .ok (.dup, 1) := dk_89 (dk_at dksX1_all_10 12 rfl rfl)
theorem dX1_all_242 : decode cX1_all 242 = .ok (.bipush 8, 2) := dk_16 8 (dk_at dksX1_all_10 13 rfl rfl)
theorem dX1_all_244 : decode cX1_all 244 = .ok (.bipush 7, 2) := dk_16 7 (dk_at dksX1_all_10 15 rfl rfl)
theorem dX1_all_246 : decode cX1_all 246 = .ok (.invokedynamic 110, 5) := by decide +kernel
theorem dX1_all_251 : decode cX1_all 251 = .ok (.aconst_null, 1) := dk_1 (dk_at dksX1_all_10 22 rfl rfl)
theorem dX1_all_252 : decode cX1_all 252 = .ok (.aconst_null, 1) := dk_1 (dk_at dksX1_all_10 23 rfl rfl)
theorem dX1_all_253 : decode cX1_all 253 = .ok (.invokespecial 70, 3) := dk_183 0 70 (dk_at dksX1_all_11 0 rfl rfl)
theorem dX1_all_256 : decode cX1_all 256 = .ok (.invokestatic 73, 3) := dk_184 0 73 (dk_at dksX1_all_11 3 rfl rfl)
theorem dX1_all_259 : decode cX1_all 259 = .ok (.aload_n 0, 1) := dk_42 (dk_at dksX1_all_11 6 rfl rfl)
theorem dX1_all_260 : decode cX1_all 260 = .ok (.ldc 111, 2) := dk_18 111 (dk_at dksX1_all_11 7 rfl rfl)
theorem dX1_all_262 : decode cX1_all 262 = .ok (.new 10, 3) := dk_187 0 10 (dk_at dksX1_all_11 9 rfl rfl)
theorem dX1_all_265 : decode cX1_all 265 = .ok (.dup, 1) := dk_89 (dk_at dksX1_all_11 12 rfl rfl)
theorem dX1_all_266 : decode cX1_all 266 = .ok (.bipush 9, 2) := dk_16 9 (dk_at dksX1_all_11 13 rfl rfl)
theorem dX1_all_268 : decode cX1_all 268 = .ok (.iconst 0, 1) := dk_3 (dk_at dksX1_all_11 15 rfl rfl)
theorem dX1_all_269 : decode cX1_all 269 = .ok (.invokedynamic 113, 5) := by decide +kernel
theorem dX1_all_274 : decode cX1_all 274 = .ok (.invokedynamic 114, 5) := by decide +kernel
theorem dX1_all_279 : decode cX1_all 279 = .ok (.invokedynamic 115, 5) := by decide +kernel
theorem dX1_all_284 : decode cX1_all 284 = .ok (.invokespecial 70, 3) := dk_183 0 70 (dk_at dksX1_all_12 10 rfl rfl)
theorem dX1_all_287 : decode cX1_all 287 = .ok (.invokestatic 73, 3) := dk_184 0 73 (dk_at dksX1_all_12 13 rfl rfl)
theorem dX1_all_290 : decode cX1_all 290 = .ok (.aload_n 0, 1) := dk_42 (dk_at dksX1_all_12 16 rfl rfl)
theorem dX1_all_291 : decode cX1_all 291 = .ok (.ldc 116, 2) := dk_18 116 (dk_at dksX1_all_12 17 rfl rfl)
theorem dX1_all_293 : decode cX1_all 293 = .ok (.new 10, 3) := dk_187 0 10 (dk_at dksX1_all_12 19 rfl rfl)
theorem dX1_all_296 : decode cX1_all 296 = .ok (.dup, 1) := dk_89 (dk_at dksX1_all_12 22 rfl rfl)
theorem dX1_all_297 : decode cX1_all 297 = .ok (.bipush 10, 2) := dk_16 10 (dk_at dksX1_all_13 0 rfl rfl)
theorem dX1_all_299 : decode cX1_all 299 = .ok (.iconst 0, 1) := dk_3 (dk_at dksX1_all_13 2 rfl rfl)
theorem dX1_all_300 : decode cX1_all 300 = .ok (.invokedynamic 118, 5) := by decide +kernel
theorem dX1_all_305 : decode cX1_all 305 = .ok (.invokedynamic 119, 5) := by decide +kernel
theorem dX1_all_310 : decode cX1_all 310 = .ok (.invokedynamic 120, 5) := by decide +kernel
theorem dX1_all_315 : decode cX1_all 315 = .ok (.invokespecial 70, 3) := dk_183 0 70 (dk_at dksX1_all_13 18 rfl rfl)
theorem dX1_all_318 : decode cX1_all 318 = .ok (.invokestatic 73, 3) := dk_184 0 73 (dk_at dksX1_all_13 21 rfl rfl)
theorem dX1_all_321 : decode cX1_all 321 = .ok (.aload_n 0, 1) := dk_42 (dk_at dksX1_all_14 0 rfl rfl)
theorem dX1_all_322 : decode cX1_all 322 = .ok (.ldc 121, 2) := dk_18 121 (dk_at dksX1_all_14 1 rfl rfl)
theorem dX1_all_324 : decode cX1_all 324 = .ok (.new 10, 3) := dk_187 0 10 (dk_at dksX1_all_14 3 rfl rfl)
theorem dX1_all_327 : decode cX1_all 327 = .ok (.dup, 1) := dk_89 (dk_at dksX1_all_14 6 rfl rfl)
theorem dX1_all_328 : decode cX1_all 328 = .ok (.bipush 11, 2) := dk_16 11 (dk_at dksX1_all_14 7 rfl rfl)
theorem dX1_all_330 : decode cX1_all 330 = .ok (.iconst 0, 1) := dk_3 (dk_at dksX1_all_14 9 rfl rfl)
theorem dX1_all_331 : decode cX1_all 331 = .ok (.invokedynamic 123, 5) := by decide +kernel
theorem dX1_all_336 : decode cX1_all 336 = .ok (.aconst_null, 1) := dk_1 (dk_at dksX1_all_14 15 rfl rfl)
theorem dX1_all_337 : decode cX1_all 337 = .ok (.aconst_null, 1) := dk_1 (dk_at dksX1_all_14 16 rfl rfl)
theorem dX1_all_338 : decode cX1_all 338 = .ok (.invokespecial 70, 3) := dk_183 0 70 (dk_at dksX1_all_14 17 rfl rfl)
theorem dX1_all_341 : decode cX1_all 341 = .ok (.invokestatic 73, 3) := dk_184 0 73 (dk_at dksX1_all_14 20 rfl rfl)
theorem dX1_all_344 : decode cX1_all 344 = .ok (.aload_n 0, 1) := dk_42 (dk_at dksX1_all_14 23 rfl rfl)
theorem dX1_all_345 : decode cX1_all 345 = .ok (.ldc 124, 2) := dk_18 124 (dk_at dksX1_all_15 0 rfl rfl)
theorem dX1_all_347 : decode cX1_all 347 = .ok (.new 10, 3) := dk_187 0 10 (dk_at dksX1_all_15 2 rfl rfl)
theorem dX1_all_350 : decode cX1_all 350 = .ok (.dup, 1) := dk_89 (dk_at dksX1_all_15 5 rfl rfl)
theorem dX1_all_351 : decode cX1_all 351 = .ok (.bipush 12, 2) := dk_16 12 (dk_at dksX1_all_15 6 rfl rfl)
theorem dX1_all_353 : decode cX1_all 353 = .ok (.iconst 0, 1) := dk_3 (dk_at dksX1_all_15 8 rfl rfl)
theorem dX1_all_354 : decode cX1_all 354 = .ok (.invokedynamic 126, 5) := by decide +kernel
theorem dX1_all_359 : decode cX1_all 359 = .ok (.aconst_null, 1) := dk_1 (dk_at dksX1_all_15 14 rfl rfl)
theorem dX1_all_360 : decode cX1_all 360 = .ok (.aconst_null, 1) := dk_1 (dk_at dksX1_all_15 15 rfl rfl)
theorem dX1_all_361 : decode cX1_all 361 = .ok (.invokespecial 70, 3) := dk_183 0 70 (dk_at dksX1_all_15 16 rfl rfl)
theorem dX1_all_364 : decode cX1_all 364 = .ok (.invokestatic 73, 3) := dk_184 0 73 (dk_at dksX1_all_15 19 rfl rfl)
theorem dX1_all_367 : decode cX1_all 367 = .ok (.aload_n 0, 1) := dk_42 (dk_at dksX1_all_15 22 rfl rfl)
theorem dX1_all_368 : decode cX1_all 368 = .ok (.areturn, 1) := dk_176 (dk_at dksX1_all_15 23 rfl rfl)
abbrev cX1_lambda_all_0 : ByteArray := prog_4_method_35_code
def yX1_lambda_all_0 : MethodName := ⟨RX1, "lambda$all$0", "(II)I"⟩
def dkwX1_lambda_all_0_0 : List UInt8 := [26, 27, 96, 172]
abbrev dktX1_lambda_all_0_0 : List UInt8 := dkwX1_lambda_all_0_0 ++ []
theorem dksX1_lambda_all_0_0 : cX1_lambda_all_0.data.toList.drop 0 = dktX1_lambda_all_0_0 := by decide +kernel
theorem dX1_lambda_all_0_0 : decode cX1_lambda_all_0 0 = .ok (.iload_n 0, 1) := dk_26 (dk_at dksX1_lambda_all_0_0 0 rfl rfl)
theorem dX1_lambda_all_0_1 : decode cX1_lambda_all_0 1 = .ok (.iload_n 1, 1) := dk_27 (dk_at dksX1_lambda_all_0_0 1 rfl rfl)
theorem dX1_lambda_all_0_2 : decode cX1_lambda_all_0 2 = .ok (.iadd, 1) := dk_96 (dk_at dksX1_lambda_all_0_0 2 rfl rfl)
theorem dX1_lambda_all_0_3 : decode cX1_lambda_all_0 3 = .ok (.ireturn, 1) := dk_172 (dk_at dksX1_lambda_all_0_0 3 rfl rfl)
abbrev cX1_lambda_all_1 : ByteArray := prog_4_method_34_code
def yX1_lambda_all_1 : MethodName := ⟨RX1, "lambda$all$1", "(FF)F"⟩
def dkwX1_lambda_all_1_0 : List UInt8 := [34, 35, 98, 18, 129, 114, 174]
abbrev dktX1_lambda_all_1_0 : List UInt8 := dkwX1_lambda_all_1_0 ++ []
theorem dksX1_lambda_all_1_0 : cX1_lambda_all_1.data.toList.drop 0 = dktX1_lambda_all_1_0 := by decide +kernel
theorem dX1_lambda_all_1_0 : decode cX1_lambda_all_1 0 = .ok (.fload_n 0, 1) := dk_34 (dk_at dksX1_lambda_all_1_0 0 rfl rfl)
theorem dX1_lambda_all_1_1 : decode cX1_lambda_all_1 1 = .ok (.fload_n 1, 1) := dk_35 (dk_at dksX1_lambda_all_1_0 1 rfl rfl)
theorem dX1_lambda_all_1_2 : decode cX1_lambda_all_1 2 = .ok (.fadd, 1) := dk_98 (dk_at dksX1_lambda_all_1_0 2 rfl rfl)
theorem dX1_lambda_all_1_3 : decode cX1_lambda_all_1 3 = .ok (.ldc 129, 2) := dk_18 129 (dk_at dksX1_lambda_all_1_0 3 rfl rfl)
theorem dX1_lambda_all_1_5 : decode cX1_lambda_all_1 5 = .ok (.frem, 1) := dk_114 (dk_at dksX1_lambda_all_1_0 5 rfl rfl)
theorem dX1_lambda_all_1_6 : decode cX1_lambda_all_1 6 = .ok (.freturn, 1) := dk_174 (dk_at dksX1_lambda_all_1_0 6 rfl rfl)
abbrev cX1_lambda_all_2 : ByteArray := prog_4_method_33_code
def yX1_lambda_all_2 : MethodName := ⟨RX1, "lambda$all$2", "(DD)D"⟩
def dkwX1_lambda_all_2_0 : List UInt8 := [38, 40, 99, 20, 0, 127, 115, 175]
abbrev dktX1_lambda_all_2_0 : List UInt8 := dkwX1_lambda_all_2_0 ++ []
theorem dksX1_lambda_all_2_0 : cX1_lambda_all_2.data.toList.drop 0 = dktX1_lambda_all_2_0 := by decide +kernel
theorem dX1_lambda_all_2_0 : decode cX1_lambda_all_2 0 = .ok (.dload_n 0, 1) := dk_38 (dk_at dksX1_lambda_all_2_0 0 rfl rfl)
theorem dX1_lambda_all_2_1 : decode cX1_lambda_all_2 1 = .ok (.dload_n 2, 1) := dk_40 (dk_at dksX1_lambda_all_2_0 1 rfl rfl)
theorem dX1_lambda_all_2_2 : decode cX1_lambda_all_2 2 = .ok (.dadd, 1) := dk_99 (dk_at dksX1_lambda_all_2_0 2 rfl rfl)
theorem dX1_lambda_all_2_3 : decode cX1_lambda_all_2 3 = .ok (.ldc2_w 127, 3) := dk_20 0 127 (dk_at dksX1_lambda_all_2_0 3 rfl rfl)
theorem dX1_lambda_all_2_6 : decode cX1_lambda_all_2 6 = .ok (.drem, 1) := dk_115 (dk_at dksX1_lambda_all_2_0 6 rfl rfl)
theorem dX1_lambda_all_2_7 : decode cX1_lambda_all_2 7 = .ok (.dreturn, 1) := dk_175 (dk_at dksX1_lambda_all_2_0 7 rfl rfl)
abbrev cX1_init : ByteArray := prog_4_method_1_code
def yX1_init : MethodName := ⟨RX1, "<init>", "(IILStrideTurns$Ints;LStrideTurns$Floats;LStrideTurns$Doubles;)V"⟩
def dkwX1_init_1 : List UInt8 := [181, 0, 22, 42, 25, 5, 181, 0, 26, 177]
abbrev dktX1_init_1 : List UInt8 := dkwX1_init_1 ++ []
def dkwX1_init_0 : List UInt8 := [42, 183, 0, 3, 42, 27, 181, 0, 9, 42, 28, 181, 0, 15, 42, 45, 181, 0, 18, 42, 25, 4]
abbrev dktX1_init_0 : List UInt8 := dkwX1_init_0 ++ dktX1_init_1
theorem dksX1_init_0 : cX1_init.data.toList.drop 0 = dktX1_init_0 := by decide +kernel
theorem dksX1_init_1 : cX1_init.data.toList.drop 22 = dktX1_init_1 := dk_seg dksX1_init_0 22 rfl rfl
theorem dX1_init_0 : decode cX1_init 0 = .ok (.aload_n 0, 1) := dk_42 (dk_at dksX1_init_0 0 rfl rfl)
theorem dX1_init_1 : decode cX1_init 1 = .ok (.invokespecial 3, 3) := dk_183 0 3 (dk_at dksX1_init_0 1 rfl rfl)
theorem dX1_init_4 : decode cX1_init 4 = .ok (.aload_n 0, 1) := dk_42 (dk_at dksX1_init_0 4 rfl rfl)
theorem dX1_init_5 : decode cX1_init 5 = .ok (.iload_n 1, 1) := dk_27 (dk_at dksX1_init_0 5 rfl rfl)
theorem dX1_init_6 : decode cX1_init 6 = .ok (.putfield 9, 3) := dk_181 0 9 (dk_at dksX1_init_0 6 rfl rfl)
theorem dX1_init_9 : decode cX1_init 9 = .ok (.aload_n 0, 1) := dk_42 (dk_at dksX1_init_0 9 rfl rfl)
theorem dX1_init_10 : decode cX1_init 10 = .ok (.iload_n 2, 1) := dk_28 (dk_at dksX1_init_0 10 rfl rfl)
theorem dX1_init_11 : decode cX1_init 11 = .ok (.putfield 15, 3) := dk_181 0 15 (dk_at dksX1_init_0 11 rfl rfl)
theorem dX1_init_14 : decode cX1_init 14 = .ok (.aload_n 0, 1) := dk_42 (dk_at dksX1_init_0 14 rfl rfl)
theorem dX1_init_15 : decode cX1_init 15 = .ok (.aload_n 3, 1) := dk_45 (dk_at dksX1_init_0 15 rfl rfl)
theorem dX1_init_16 : decode cX1_init 16 = .ok (.putfield 18, 3) := dk_181 0 18 (dk_at dksX1_init_0 16 rfl rfl)
theorem dX1_init_19 : decode cX1_init 19 = .ok (.aload_n 0, 1) := dk_42 (dk_at dksX1_init_0 19 rfl rfl)
theorem dX1_init_20 : decode cX1_init 20 = .ok (.aload 4, 2) := dk_25 4 (dk_at dksX1_init_0 20 rfl rfl)
theorem dX1_init_22 : decode cX1_init 22 = .ok (.putfield 22, 3) := dk_181 0 22 (dk_at dksX1_init_1 0 rfl rfl)
theorem dX1_init_25 : decode cX1_init 25 = .ok (.aload_n 0, 1) := dk_42 (dk_at dksX1_init_1 3 rfl rfl)
theorem dX1_init_26 : decode cX1_init 26 = .ok (.aload 5, 2) := dk_25 5 (dk_at dksX1_init_1 4 rfl rfl)
theorem dX1_init_28 : decode cX1_init 28 = .ok (.putfield 26, 3) := dk_181 0 26 (dk_at dksX1_init_1 6 rfl rfl)
theorem dX1_init_31 : decode cX1_init 31 = .ok (.return_, 1) := dk_177 (dk_at dksX1_init_1 9 rfl rfl)
abbrev cX1_puts : ByteArray := prog_4_method_10_code
def yX1_puts : MethodName := ⟨RX1, "puts", "(Ljava/util/HashMap;Ljava/lang/String;LStrideTurns$Deed;)V"⟩
def dkwX1_puts_0 : List UInt8 := [42, 43, 44, 182, 0, 51, 87, 177]
abbrev dktX1_puts_0 : List UInt8 := dkwX1_puts_0 ++ []
theorem dksX1_puts_0 : cX1_puts.data.toList.drop 0 = dktX1_puts_0 := by decide +kernel
theorem dX1_puts_0 : decode cX1_puts 0 = .ok (.aload_n 0, 1) := dk_42 (dk_at dksX1_puts_0 0 rfl rfl)
theorem dX1_puts_1 : decode cX1_puts 1 = .ok (.aload_n 1, 1) := dk_43 (dk_at dksX1_puts_0 1 rfl rfl)
theorem dX1_puts_2 : decode cX1_puts 2 = .ok (.aload_n 2, 1) := dk_44 (dk_at dksX1_puts_0 2 rfl rfl)
theorem dX1_puts_3 : decode cX1_puts 3 = .ok (.invokevirtual 51, 3) := dk_182 0 51 (dk_at dksX1_puts_0 3 rfl rfl)
theorem dX1_puts_6 : decode cX1_puts 6 = .ok (.pop, 1) := dk_87 (dk_at dksX1_puts_0 6 rfl rfl)
theorem dX1_puts_7 : decode cX1_puts 7 = .ok (.return_, 1) := dk_177 (dk_at dksX1_puts_0 7 rfl rfl)
abbrev cX1_lambda_all_3 : ByteArray := prog_4_method_32_code
def yX1_lambda_all_3 : MethodName := ⟨RX1, "lambda$all$3", "(II)I"⟩
def dkwX1_lambda_all_3_0 : List UInt8 := [26, 27, 100, 172]
abbrev dktX1_lambda_all_3_0 : List UInt8 := dkwX1_lambda_all_3_0 ++ []
theorem dksX1_lambda_all_3_0 : cX1_lambda_all_3.data.toList.drop 0 = dktX1_lambda_all_3_0 := by decide +kernel
theorem dX1_lambda_all_3_0 : decode cX1_lambda_all_3 0 = .ok (.iload_n 0, 1) := dk_26 (dk_at dksX1_lambda_all_3_0 0 rfl rfl)
theorem dX1_lambda_all_3_1 : decode cX1_lambda_all_3 1 = .ok (.iload_n 1, 1) := dk_27 (dk_at dksX1_lambda_all_3_0 1 rfl rfl)
theorem dX1_lambda_all_3_2 : decode cX1_lambda_all_3 2 = .ok (.isub, 1) := dk_100 (dk_at dksX1_lambda_all_3_0 2 rfl rfl)
theorem dX1_lambda_all_3_3 : decode cX1_lambda_all_3 3 = .ok (.ireturn, 1) := dk_172 (dk_at dksX1_lambda_all_3_0 3 rfl rfl)
abbrev cX1_lambda_all_4 : ByteArray := prog_4_method_31_code
def yX1_lambda_all_4 : MethodName := ⟨RX1, "lambda$all$4", "(FF)F"⟩
def dkwX1_lambda_all_4_0 : List UInt8 := [34, 35, 102, 18, 129, 114, 174]
abbrev dktX1_lambda_all_4_0 : List UInt8 := dkwX1_lambda_all_4_0 ++ []
theorem dksX1_lambda_all_4_0 : cX1_lambda_all_4.data.toList.drop 0 = dktX1_lambda_all_4_0 := by decide +kernel
theorem dX1_lambda_all_4_0 : decode cX1_lambda_all_4 0 = .ok (.fload_n 0, 1) := dk_34 (dk_at dksX1_lambda_all_4_0 0 rfl rfl)
theorem dX1_lambda_all_4_1 : decode cX1_lambda_all_4 1 = .ok (.fload_n 1, 1) := dk_35 (dk_at dksX1_lambda_all_4_0 1 rfl rfl)
theorem dX1_lambda_all_4_2 : decode cX1_lambda_all_4 2 = .ok (.fsub, 1) := dk_102 (dk_at dksX1_lambda_all_4_0 2 rfl rfl)
theorem dX1_lambda_all_4_3 : decode cX1_lambda_all_4 3 = .ok (.ldc 129, 2) := dk_18 129 (dk_at dksX1_lambda_all_4_0 3 rfl rfl)
theorem dX1_lambda_all_4_5 : decode cX1_lambda_all_4 5 = .ok (.frem, 1) := dk_114 (dk_at dksX1_lambda_all_4_0 5 rfl rfl)
theorem dX1_lambda_all_4_6 : decode cX1_lambda_all_4 6 = .ok (.freturn, 1) := dk_174 (dk_at dksX1_lambda_all_4_0 6 rfl rfl)
abbrev cX1_lambda_all_5 : ByteArray := prog_4_method_30_code
def yX1_lambda_all_5 : MethodName := ⟨RX1, "lambda$all$5", "(DD)D"⟩
def dkwX1_lambda_all_5_0 : List UInt8 := [38, 40, 103, 20, 0, 127, 115, 175]
abbrev dktX1_lambda_all_5_0 : List UInt8 := dkwX1_lambda_all_5_0 ++ []
theorem dksX1_lambda_all_5_0 : cX1_lambda_all_5.data.toList.drop 0 = dktX1_lambda_all_5_0 := by decide +kernel
theorem dX1_lambda_all_5_0 : decode cX1_lambda_all_5 0 = .ok (.dload_n 0, 1) := dk_38 (dk_at dksX1_lambda_all_5_0 0 rfl rfl)
theorem dX1_lambda_all_5_1 : decode cX1_lambda_all_5 1 = .ok (.dload_n 2, 1) := dk_40 (dk_at dksX1_lambda_all_5_0 1 rfl rfl)
theorem dX1_lambda_all_5_2 : decode cX1_lambda_all_5 2 = .ok (.dsub, 1) := dk_103 (dk_at dksX1_lambda_all_5_0 2 rfl rfl)
theorem dX1_lambda_all_5_3 : decode cX1_lambda_all_5 3 = .ok (.ldc2_w 127, 3) := dk_20 0 127 (dk_at dksX1_lambda_all_5_0 3 rfl rfl)
theorem dX1_lambda_all_5_6 : decode cX1_lambda_all_5 6 = .ok (.drem, 1) := dk_115 (dk_at dksX1_lambda_all_5_0 6 rfl rfl)
theorem dX1_lambda_all_5_7 : decode cX1_lambda_all_5 7 = .ok (.dreturn, 1) := dk_175 (dk_at dksX1_lambda_all_5_0 7 rfl rfl)
abbrev cX1_lambda_all_6 : ByteArray := prog_4_method_29_code
def yX1_lambda_all_6 : MethodName := ⟨RX1, "lambda$all$6", "(II)I"⟩
def dkwX1_lambda_all_6_0 : List UInt8 := [26, 27, 104, 172]
abbrev dktX1_lambda_all_6_0 : List UInt8 := dkwX1_lambda_all_6_0 ++ []
theorem dksX1_lambda_all_6_0 : cX1_lambda_all_6.data.toList.drop 0 = dktX1_lambda_all_6_0 := by decide +kernel
theorem dX1_lambda_all_6_0 : decode cX1_lambda_all_6 0 = .ok (.iload_n 0, 1) := dk_26 (dk_at dksX1_lambda_all_6_0 0 rfl rfl)
theorem dX1_lambda_all_6_1 : decode cX1_lambda_all_6 1 = .ok (.iload_n 1, 1) := dk_27 (dk_at dksX1_lambda_all_6_0 1 rfl rfl)
theorem dX1_lambda_all_6_2 : decode cX1_lambda_all_6 2 = .ok (.imul, 1) := dk_104 (dk_at dksX1_lambda_all_6_0 2 rfl rfl)
theorem dX1_lambda_all_6_3 : decode cX1_lambda_all_6 3 = .ok (.ireturn, 1) := dk_172 (dk_at dksX1_lambda_all_6_0 3 rfl rfl)
abbrev cX1_lambda_all_7 : ByteArray := prog_4_method_28_code
def yX1_lambda_all_7 : MethodName := ⟨RX1, "lambda$all$7", "(FF)F"⟩
def dkwX1_lambda_all_7_0 : List UInt8 := [34, 35, 106, 18, 129, 114, 174]
abbrev dktX1_lambda_all_7_0 : List UInt8 := dkwX1_lambda_all_7_0 ++ []
theorem dksX1_lambda_all_7_0 : cX1_lambda_all_7.data.toList.drop 0 = dktX1_lambda_all_7_0 := by decide +kernel
theorem dX1_lambda_all_7_0 : decode cX1_lambda_all_7 0 = .ok (.fload_n 0, 1) := dk_34 (dk_at dksX1_lambda_all_7_0 0 rfl rfl)
theorem dX1_lambda_all_7_1 : decode cX1_lambda_all_7 1 = .ok (.fload_n 1, 1) := dk_35 (dk_at dksX1_lambda_all_7_0 1 rfl rfl)
theorem dX1_lambda_all_7_2 : decode cX1_lambda_all_7 2 = .ok (.fmul, 1) := dk_106 (dk_at dksX1_lambda_all_7_0 2 rfl rfl)
theorem dX1_lambda_all_7_3 : decode cX1_lambda_all_7 3 = .ok (.ldc 129, 2) := dk_18 129 (dk_at dksX1_lambda_all_7_0 3 rfl rfl)
theorem dX1_lambda_all_7_5 : decode cX1_lambda_all_7 5 = .ok (.frem, 1) := dk_114 (dk_at dksX1_lambda_all_7_0 5 rfl rfl)
theorem dX1_lambda_all_7_6 : decode cX1_lambda_all_7 6 = .ok (.freturn, 1) := dk_174 (dk_at dksX1_lambda_all_7_0 6 rfl rfl)
abbrev cX1_lambda_all_8 : ByteArray := prog_4_method_27_code
def yX1_lambda_all_8 : MethodName := ⟨RX1, "lambda$all$8", "(DD)D"⟩
def dkwX1_lambda_all_8_0 : List UInt8 := [38, 40, 107, 20, 0, 127, 115, 175]
abbrev dktX1_lambda_all_8_0 : List UInt8 := dkwX1_lambda_all_8_0 ++ []
theorem dksX1_lambda_all_8_0 : cX1_lambda_all_8.data.toList.drop 0 = dktX1_lambda_all_8_0 := by decide +kernel
theorem dX1_lambda_all_8_0 : decode cX1_lambda_all_8 0 = .ok (.dload_n 0, 1) := dk_38 (dk_at dksX1_lambda_all_8_0 0 rfl rfl)
theorem dX1_lambda_all_8_1 : decode cX1_lambda_all_8 1 = .ok (.dload_n 2, 1) := dk_40 (dk_at dksX1_lambda_all_8_0 1 rfl rfl)
theorem dX1_lambda_all_8_2 : decode cX1_lambda_all_8 2 = .ok (.dmul, 1) := dk_107 (dk_at dksX1_lambda_all_8_0 2 rfl rfl)
theorem dX1_lambda_all_8_3 : decode cX1_lambda_all_8 3 = .ok (.ldc2_w 127, 3) := dk_20 0 127 (dk_at dksX1_lambda_all_8_0 3 rfl rfl)
theorem dX1_lambda_all_8_6 : decode cX1_lambda_all_8 6 = .ok (.drem, 1) := dk_115 (dk_at dksX1_lambda_all_8_0 6 rfl rfl)
theorem dX1_lambda_all_8_7 : decode cX1_lambda_all_8 7 = .ok (.dreturn, 1) := dk_175 (dk_at dksX1_lambda_all_8_0 7 rfl rfl)
abbrev cX1_rest : ByteArray := prog_4_method_2_code
def yX1_rest : MethodName := ⟨RX1, "rest", "(II)I"⟩
def dkwX1_rest_0 : List UInt8 := [27, 154, 0, 7, 3, 167, 0, 6, 26, 27, 112, 172]
abbrev dktX1_rest_0 : List UInt8 := dkwX1_rest_0 ++ []
theorem dksX1_rest_0 : cX1_rest.data.toList.drop 0 = dktX1_rest_0 := by decide +kernel
theorem dX1_rest_0 : decode cX1_rest 0 = .ok (.iload_n 1, 1) := dk_27 (dk_at dksX1_rest_0 0 rfl rfl)
theorem dX1_rest_1 : decode cX1_rest 1 = .ok (.ifCond .ne 7, 3) := dk_154 0 7 (dk_at dksX1_rest_0 1 rfl rfl)
theorem dX1_rest_4 : decode cX1_rest 4 = .ok (.iconst 0, 1) := dk_3 (dk_at dksX1_rest_0 4 rfl rfl)
theorem dX1_rest_5 : decode cX1_rest 5 = .ok (.goto 6, 3) := dk_167 0 6 (dk_at dksX1_rest_0 5 rfl rfl)
theorem dX1_rest_8 : decode cX1_rest 8 = .ok (.iload_n 0, 1) := dk_26 (dk_at dksX1_rest_0 8 rfl rfl)
theorem dX1_rest_9 : decode cX1_rest 9 = .ok (.iload_n 1, 1) := dk_27 (dk_at dksX1_rest_0 9 rfl rfl)
theorem dX1_rest_10 : decode cX1_rest 10 = .ok (.irem, 1) := dk_112 (dk_at dksX1_rest_0 10 rfl rfl)
theorem dX1_rest_11 : decode cX1_rest 11 = .ok (.ireturn, 1) := dk_172 (dk_at dksX1_rest_0 11 rfl rfl)
abbrev cX1_restOf : ByteArray := prog_4_method_3_code
def yX1_restOf : MethodName := ⟨RX1, "restOf", "(FF)F"⟩
def dkwX1_restOf_0 : List UInt8 := [35, 11, 149, 154, 0, 7, 11, 167, 0, 6, 34, 35, 114, 174]
abbrev dktX1_restOf_0 : List UInt8 := dkwX1_restOf_0 ++ []
theorem dksX1_restOf_0 : cX1_restOf.data.toList.drop 0 = dktX1_restOf_0 := by decide +kernel
theorem dX1_restOf_0 : decode cX1_restOf 0 = .ok (.fload_n 1, 1) := dk_35 (dk_at dksX1_restOf_0 0 rfl rfl)
theorem dX1_restOf_1 : decode cX1_restOf 1 = .ok (.fconst 0, 1) := dk_11 (dk_at dksX1_restOf_0 1 rfl rfl)
theorem dX1_restOf_2 : decode cX1_restOf 2 = .ok (.fcmp .l, 1) := dk_149 (dk_at dksX1_restOf_0 2 rfl rfl)
theorem dX1_restOf_3 : decode cX1_restOf 3 = .ok (.ifCond .ne 7, 3) := dk_154 0 7 (dk_at dksX1_restOf_0 3 rfl rfl)
theorem dX1_restOf_6 : decode cX1_restOf 6 = .ok (.fconst 0, 1) := dk_11 (dk_at dksX1_restOf_0 6 rfl rfl)
theorem dX1_restOf_7 : decode cX1_restOf 7 = .ok (.goto 6, 3) := dk_167 0 6 (dk_at dksX1_restOf_0 7 rfl rfl)
theorem dX1_restOf_10 : decode cX1_restOf 10 = .ok (.fload_n 0, 1) := dk_34 (dk_at dksX1_restOf_0 10 rfl rfl)
theorem dX1_restOf_11 : decode cX1_restOf 11 = .ok (.fload_n 1, 1) := dk_35 (dk_at dksX1_restOf_0 11 rfl rfl)
theorem dX1_restOf_12 : decode cX1_restOf 12 = .ok (.frem, 1) := dk_114 (dk_at dksX1_restOf_0 12 rfl rfl)
theorem dX1_restOf_13 : decode cX1_restOf 13 = .ok (.freturn, 1) := dk_174 (dk_at dksX1_restOf_0 13 rfl rfl)
abbrev cX1_restIn : ByteArray := prog_4_method_4_code
def yX1_restIn : MethodName := ⟨RX1, "restIn", "(DD)D"⟩
def dkwX1_restIn_0 : List UInt8 := [40, 14, 151, 154, 0, 7, 14, 167, 0, 6, 38, 40, 115, 175]
abbrev dktX1_restIn_0 : List UInt8 := dkwX1_restIn_0 ++ []
theorem dksX1_restIn_0 : cX1_restIn.data.toList.drop 0 = dktX1_restIn_0 := by decide +kernel
theorem dX1_restIn_0 : decode cX1_restIn 0 = .ok (.dload_n 2, 1) := dk_40 (dk_at dksX1_restIn_0 0 rfl rfl)
theorem dX1_restIn_1 : decode cX1_restIn 1 = .ok (.dconst 0, 1) := dk_14 (dk_at dksX1_restIn_0 1 rfl rfl)
theorem dX1_restIn_2 : decode cX1_restIn 2 = .ok (.dcmp .l, 1) := dk_151 (dk_at dksX1_restIn_0 2 rfl rfl)
theorem dX1_restIn_3 : decode cX1_restIn 3 = .ok (.ifCond .ne 7, 3) := dk_154 0 7 (dk_at dksX1_restIn_0 3 rfl rfl)
theorem dX1_restIn_6 : decode cX1_restIn 6 = .ok (.dconst 0, 1) := dk_14 (dk_at dksX1_restIn_0 6 rfl rfl)
theorem dX1_restIn_7 : decode cX1_restIn 7 = .ok (.goto 6, 3) := dk_167 0 6 (dk_at dksX1_restIn_0 7 rfl rfl)
theorem dX1_restIn_10 : decode cX1_restIn 10 = .ok (.dload_n 0, 1) := dk_38 (dk_at dksX1_restIn_0 10 rfl rfl)
theorem dX1_restIn_11 : decode cX1_restIn 11 = .ok (.dload_n 2, 1) := dk_40 (dk_at dksX1_restIn_0 11 rfl rfl)
theorem dX1_restIn_12 : decode cX1_restIn 12 = .ok (.drem, 1) := dk_115 (dk_at dksX1_restIn_0 12 rfl rfl)
theorem dX1_restIn_13 : decode cX1_restIn 13 = .ok (.dreturn, 1) := dk_175 (dk_at dksX1_restIn_0 13 rfl rfl)
abbrev cX1_lambda_all_9 : ByteArray := prog_4_method_26_code
def yX1_lambda_all_9 : MethodName := ⟨RX1, "lambda$all$9", "(II)I"⟩
def dkwX1_lambda_all_9_0 : List UInt8 := [26, 27, 164, 0, 7, 26, 167, 0, 4, 27, 172]
abbrev dktX1_lambda_all_9_0 : List UInt8 := dkwX1_lambda_all_9_0 ++ []
theorem dksX1_lambda_all_9_0 : cX1_lambda_all_9.data.toList.drop 0 = dktX1_lambda_all_9_0 := by decide +kernel
theorem dX1_lambda_all_9_0 : decode cX1_lambda_all_9 0 = .ok (.iload_n 0, 1) := dk_26 (dk_at dksX1_lambda_all_9_0 0 rfl rfl)
theorem dX1_lambda_all_9_1 : decode cX1_lambda_all_9 1 = .ok (.iload_n 1, 1) := dk_27 (dk_at dksX1_lambda_all_9_0 1 rfl rfl)
theorem dX1_lambda_all_9_2 : decode cX1_lambda_all_9 2 = .ok (.if_icmp .le 7, 3) := dk_164 0 7 (dk_at dksX1_lambda_all_9_0 2 rfl rfl)
theorem dX1_lambda_all_9_5 : decode cX1_lambda_all_9 5 = .ok (.iload_n 0, 1) := dk_26 (dk_at dksX1_lambda_all_9_0 5 rfl rfl)
theorem dX1_lambda_all_9_6 : decode cX1_lambda_all_9 6 = .ok (.goto 4, 3) := dk_167 0 4 (dk_at dksX1_lambda_all_9_0 6 rfl rfl)
theorem dX1_lambda_all_9_9 : decode cX1_lambda_all_9 9 = .ok (.iload_n 1, 1) := dk_27 (dk_at dksX1_lambda_all_9_0 9 rfl rfl)
theorem dX1_lambda_all_9_10 : decode cX1_lambda_all_9 10 = .ok (.ireturn, 1) := dk_172 (dk_at dksX1_lambda_all_9_0 10 rfl rfl)
abbrev cX1_lambda_all_10 : ByteArray := prog_4_method_25_code
def yX1_lambda_all_10 : MethodName := ⟨RX1, "lambda$all$10", "(FF)F"⟩
def dkwX1_lambda_all_10_0 : List UInt8 := [34, 35, 149, 158, 0, 7, 34, 167, 0, 4, 35, 174]
abbrev dktX1_lambda_all_10_0 : List UInt8 := dkwX1_lambda_all_10_0 ++ []
theorem dksX1_lambda_all_10_0 : cX1_lambda_all_10.data.toList.drop 0 = dktX1_lambda_all_10_0 := by decide +kernel
theorem dX1_lambda_all_10_0 : decode cX1_lambda_all_10 0 = .ok (.fload_n 0, 1) := dk_34 (dk_at dksX1_lambda_all_10_0 0 rfl rfl)
theorem dX1_lambda_all_10_1 : decode cX1_lambda_all_10 1 = .ok (.fload_n 1, 1) := dk_35 (dk_at dksX1_lambda_all_10_0 1 rfl rfl)
theorem dX1_lambda_all_10_2 : decode cX1_lambda_all_10 2 = .ok (.fcmp .l, 1) := dk_149 (dk_at dksX1_lambda_all_10_0 2 rfl rfl)
theorem dX1_lambda_all_10_3 : decode cX1_lambda_all_10 3 = .ok (.ifCond .le 7, 3) := dk_158 0 7 (dk_at dksX1_lambda_all_10_0 3 rfl rfl)
theorem dX1_lambda_all_10_6 : decode cX1_lambda_all_10 6 = .ok (.fload_n 0, 1) := dk_34 (dk_at dksX1_lambda_all_10_0 6 rfl rfl)
theorem dX1_lambda_all_10_7 : decode cX1_lambda_all_10 7 = .ok (.goto 4, 3) := dk_167 0 4 (dk_at dksX1_lambda_all_10_0 7 rfl rfl)
theorem dX1_lambda_all_10_10 : decode cX1_lambda_all_10 10 = .ok (.fload_n 1, 1) := dk_35 (dk_at dksX1_lambda_all_10_0 10 rfl rfl)
theorem dX1_lambda_all_10_11 : decode cX1_lambda_all_10 11 = .ok (.freturn, 1) := dk_174 (dk_at dksX1_lambda_all_10_0 11 rfl rfl)
abbrev cX1_lambda_all_11 : ByteArray := prog_4_method_24_code
def yX1_lambda_all_11 : MethodName := ⟨RX1, "lambda$all$11", "(DD)D"⟩
def dkwX1_lambda_all_11_0 : List UInt8 := [38, 40, 151, 158, 0, 7, 38, 167, 0, 4, 40, 175]
abbrev dktX1_lambda_all_11_0 : List UInt8 := dkwX1_lambda_all_11_0 ++ []
theorem dksX1_lambda_all_11_0 : cX1_lambda_all_11.data.toList.drop 0 = dktX1_lambda_all_11_0 := by decide +kernel
theorem dX1_lambda_all_11_0 : decode cX1_lambda_all_11 0 = .ok (.dload_n 0, 1) := dk_38 (dk_at dksX1_lambda_all_11_0 0 rfl rfl)
theorem dX1_lambda_all_11_1 : decode cX1_lambda_all_11 1 = .ok (.dload_n 2, 1) := dk_40 (dk_at dksX1_lambda_all_11_0 1 rfl rfl)
theorem dX1_lambda_all_11_2 : decode cX1_lambda_all_11 2 = .ok (.dcmp .l, 1) := dk_151 (dk_at dksX1_lambda_all_11_0 2 rfl rfl)
theorem dX1_lambda_all_11_3 : decode cX1_lambda_all_11 3 = .ok (.ifCond .le 7, 3) := dk_158 0 7 (dk_at dksX1_lambda_all_11_0 3 rfl rfl)
theorem dX1_lambda_all_11_6 : decode cX1_lambda_all_11 6 = .ok (.dload_n 0, 1) := dk_38 (dk_at dksX1_lambda_all_11_0 6 rfl rfl)
theorem dX1_lambda_all_11_7 : decode cX1_lambda_all_11 7 = .ok (.goto 4, 3) := dk_167 0 4 (dk_at dksX1_lambda_all_11_0 7 rfl rfl)
theorem dX1_lambda_all_11_10 : decode cX1_lambda_all_11 10 = .ok (.dload_n 2, 1) := dk_40 (dk_at dksX1_lambda_all_11_0 10 rfl rfl)
theorem dX1_lambda_all_11_11 : decode cX1_lambda_all_11 11 = .ok (.dreturn, 1) := dk_175 (dk_at dksX1_lambda_all_11_0 11 rfl rfl)
abbrev cX1_lambda_all_12 : ByteArray := prog_4_method_23_code
def yX1_lambda_all_12 : MethodName := ⟨RX1, "lambda$all$12", "(II)I"⟩
def dkwX1_lambda_all_12_0 : List UInt8 := [26, 27, 162, 0, 7, 26, 167, 0, 4, 27, 172]
abbrev dktX1_lambda_all_12_0 : List UInt8 := dkwX1_lambda_all_12_0 ++ []
theorem dksX1_lambda_all_12_0 : cX1_lambda_all_12.data.toList.drop 0 = dktX1_lambda_all_12_0 := by decide +kernel
theorem dX1_lambda_all_12_0 : decode cX1_lambda_all_12 0 = .ok (.iload_n 0, 1) := dk_26 (dk_at dksX1_lambda_all_12_0 0 rfl rfl)
theorem dX1_lambda_all_12_1 : decode cX1_lambda_all_12 1 = .ok (.iload_n 1, 1) := dk_27 (dk_at dksX1_lambda_all_12_0 1 rfl rfl)
theorem dX1_lambda_all_12_2 : decode cX1_lambda_all_12 2 = .ok (.if_icmp .ge 7, 3) := dk_162 0 7 (dk_at dksX1_lambda_all_12_0 2 rfl rfl)
theorem dX1_lambda_all_12_5 : decode cX1_lambda_all_12 5 = .ok (.iload_n 0, 1) := dk_26 (dk_at dksX1_lambda_all_12_0 5 rfl rfl)
theorem dX1_lambda_all_12_6 : decode cX1_lambda_all_12 6 = .ok (.goto 4, 3) := dk_167 0 4 (dk_at dksX1_lambda_all_12_0 6 rfl rfl)
theorem dX1_lambda_all_12_9 : decode cX1_lambda_all_12 9 = .ok (.iload_n 1, 1) := dk_27 (dk_at dksX1_lambda_all_12_0 9 rfl rfl)
theorem dX1_lambda_all_12_10 : decode cX1_lambda_all_12 10 = .ok (.ireturn, 1) := dk_172 (dk_at dksX1_lambda_all_12_0 10 rfl rfl)
abbrev cX1_lambda_all_13 : ByteArray := prog_4_method_22_code
def yX1_lambda_all_13 : MethodName := ⟨RX1, "lambda$all$13", "(FF)F"⟩
def dkwX1_lambda_all_13_0 : List UInt8 := [34, 35, 150, 156, 0, 7, 34, 167, 0, 4, 35, 174]
abbrev dktX1_lambda_all_13_0 : List UInt8 := dkwX1_lambda_all_13_0 ++ []
theorem dksX1_lambda_all_13_0 : cX1_lambda_all_13.data.toList.drop 0 = dktX1_lambda_all_13_0 := by decide +kernel
theorem dX1_lambda_all_13_0 : decode cX1_lambda_all_13 0 = .ok (.fload_n 0, 1) := dk_34 (dk_at dksX1_lambda_all_13_0 0 rfl rfl)
theorem dX1_lambda_all_13_1 : decode cX1_lambda_all_13 1 = .ok (.fload_n 1, 1) := dk_35 (dk_at dksX1_lambda_all_13_0 1 rfl rfl)
theorem dX1_lambda_all_13_2 : decode cX1_lambda_all_13 2 = .ok (.fcmp .g, 1) := dk_150 (dk_at dksX1_lambda_all_13_0 2 rfl rfl)
theorem dX1_lambda_all_13_3 : decode cX1_lambda_all_13 3 = .ok (.ifCond .ge 7, 3) := dk_156 0 7 (dk_at dksX1_lambda_all_13_0 3 rfl rfl)
theorem dX1_lambda_all_13_6 : decode cX1_lambda_all_13 6 = .ok (.fload_n 0, 1) := dk_34 (dk_at dksX1_lambda_all_13_0 6 rfl rfl)
theorem dX1_lambda_all_13_7 : decode cX1_lambda_all_13 7 = .ok (.goto 4, 3) := dk_167 0 4 (dk_at dksX1_lambda_all_13_0 7 rfl rfl)
theorem dX1_lambda_all_13_10 : decode cX1_lambda_all_13 10 = .ok (.fload_n 1, 1) := dk_35 (dk_at dksX1_lambda_all_13_0 10 rfl rfl)
theorem dX1_lambda_all_13_11 : decode cX1_lambda_all_13 11 = .ok (.freturn, 1) := dk_174 (dk_at dksX1_lambda_all_13_0 11 rfl rfl)
abbrev cX1_lambda_all_14 : ByteArray := prog_4_method_21_code
def yX1_lambda_all_14 : MethodName := ⟨RX1, "lambda$all$14", "(DD)D"⟩
def dkwX1_lambda_all_14_0 : List UInt8 := [38, 40, 152, 156, 0, 7, 38, 167, 0, 4, 40, 175]
abbrev dktX1_lambda_all_14_0 : List UInt8 := dkwX1_lambda_all_14_0 ++ []
theorem dksX1_lambda_all_14_0 : cX1_lambda_all_14.data.toList.drop 0 = dktX1_lambda_all_14_0 := by decide +kernel
theorem dX1_lambda_all_14_0 : decode cX1_lambda_all_14 0 = .ok (.dload_n 0, 1) := dk_38 (dk_at dksX1_lambda_all_14_0 0 rfl rfl)
theorem dX1_lambda_all_14_1 : decode cX1_lambda_all_14 1 = .ok (.dload_n 2, 1) := dk_40 (dk_at dksX1_lambda_all_14_0 1 rfl rfl)
theorem dX1_lambda_all_14_2 : decode cX1_lambda_all_14 2 = .ok (.dcmp .g, 1) := dk_152 (dk_at dksX1_lambda_all_14_0 2 rfl rfl)
theorem dX1_lambda_all_14_3 : decode cX1_lambda_all_14 3 = .ok (.ifCond .ge 7, 3) := dk_156 0 7 (dk_at dksX1_lambda_all_14_0 3 rfl rfl)
theorem dX1_lambda_all_14_6 : decode cX1_lambda_all_14 6 = .ok (.dload_n 0, 1) := dk_38 (dk_at dksX1_lambda_all_14_0 6 rfl rfl)
theorem dX1_lambda_all_14_7 : decode cX1_lambda_all_14 7 = .ok (.goto 4, 3) := dk_167 0 4 (dk_at dksX1_lambda_all_14_0 7 rfl rfl)
theorem dX1_lambda_all_14_10 : decode cX1_lambda_all_14 10 = .ok (.dload_n 2, 1) := dk_40 (dk_at dksX1_lambda_all_14_0 10 rfl rfl)
theorem dX1_lambda_all_14_11 : decode cX1_lambda_all_14 11 = .ok (.dreturn, 1) := dk_175 (dk_at dksX1_lambda_all_14_0 11 rfl rfl)
abbrev cX1_lambda_all_15 : ByteArray := prog_4_method_20_code
def yX1_lambda_all_15 : MethodName := ⟨RX1, "lambda$all$15", "(II)I"⟩
def dkwX1_lambda_all_15_0 : List UInt8 := [26, 27, 126, 172]
abbrev dktX1_lambda_all_15_0 : List UInt8 := dkwX1_lambda_all_15_0 ++ []
theorem dksX1_lambda_all_15_0 : cX1_lambda_all_15.data.toList.drop 0 = dktX1_lambda_all_15_0 := by decide +kernel
theorem dX1_lambda_all_15_0 : decode cX1_lambda_all_15 0 = .ok (.iload_n 0, 1) := dk_26 (dk_at dksX1_lambda_all_15_0 0 rfl rfl)
theorem dX1_lambda_all_15_1 : decode cX1_lambda_all_15 1 = .ok (.iload_n 1, 1) := dk_27 (dk_at dksX1_lambda_all_15_0 1 rfl rfl)
theorem dX1_lambda_all_15_2 : decode cX1_lambda_all_15 2 = .ok (.iand, 1) := dk_126 (dk_at dksX1_lambda_all_15_0 2 rfl rfl)
theorem dX1_lambda_all_15_3 : decode cX1_lambda_all_15 3 = .ok (.ireturn, 1) := dk_172 (dk_at dksX1_lambda_all_15_0 3 rfl rfl)
abbrev cX1_lambda_all_16 : ByteArray := prog_4_method_19_code
def yX1_lambda_all_16 : MethodName := ⟨RX1, "lambda$all$16", "(II)I"⟩
def dkwX1_lambda_all_16_0 : List UInt8 := [26, 27, 128, 172]
abbrev dktX1_lambda_all_16_0 : List UInt8 := dkwX1_lambda_all_16_0 ++ []
theorem dksX1_lambda_all_16_0 : cX1_lambda_all_16.data.toList.drop 0 = dktX1_lambda_all_16_0 := by decide +kernel
theorem dX1_lambda_all_16_0 : decode cX1_lambda_all_16 0 = .ok (.iload_n 0, 1) := dk_26 (dk_at dksX1_lambda_all_16_0 0 rfl rfl)
theorem dX1_lambda_all_16_1 : decode cX1_lambda_all_16 1 = .ok (.iload_n 1, 1) := dk_27 (dk_at dksX1_lambda_all_16_0 1 rfl rfl)
theorem dX1_lambda_all_16_2 : decode cX1_lambda_all_16 2 = .ok (.ior, 1) := dk_128 (dk_at dksX1_lambda_all_16_0 2 rfl rfl)
theorem dX1_lambda_all_16_3 : decode cX1_lambda_all_16 3 = .ok (.ireturn, 1) := dk_172 (dk_at dksX1_lambda_all_16_0 3 rfl rfl)
abbrev cX1_lambda_all_17 : ByteArray := prog_4_method_18_code
def yX1_lambda_all_17 : MethodName := ⟨RX1, "lambda$all$17", "(II)I"⟩
def dkwX1_lambda_all_17_0 : List UInt8 := [26, 27, 130, 172]
abbrev dktX1_lambda_all_17_0 : List UInt8 := dkwX1_lambda_all_17_0 ++ []
theorem dksX1_lambda_all_17_0 : cX1_lambda_all_17.data.toList.drop 0 = dktX1_lambda_all_17_0 := by decide +kernel
theorem dX1_lambda_all_17_0 : decode cX1_lambda_all_17 0 = .ok (.iload_n 0, 1) := dk_26 (dk_at dksX1_lambda_all_17_0 0 rfl rfl)
theorem dX1_lambda_all_17_1 : decode cX1_lambda_all_17 1 = .ok (.iload_n 1, 1) := dk_27 (dk_at dksX1_lambda_all_17_0 1 rfl rfl)
theorem dX1_lambda_all_17_2 : decode cX1_lambda_all_17 2 = .ok (.ixor, 1) := dk_130 (dk_at dksX1_lambda_all_17_0 2 rfl rfl)
theorem dX1_lambda_all_17_3 : decode cX1_lambda_all_17 3 = .ok (.ireturn, 1) := dk_172 (dk_at dksX1_lambda_all_17_0 3 rfl rfl)
abbrev cX1_lambda_all_18 : ByteArray := prog_4_method_17_code
def yX1_lambda_all_18 : MethodName := ⟨RX1, "lambda$all$18", "(II)I"⟩
theorem dX1_lambda_all_18_0 : decode cX1_lambda_all_18 0 = .ok (.iload_n 0, 1) := by decide +kernel
theorem dX1_lambda_all_18_1 : decode cX1_lambda_all_18 1 = .ok (.ireturn, 1) := by decide +kernel
abbrev cX1_lambda_all_19 : ByteArray := prog_4_method_16_code
def yX1_lambda_all_19 : MethodName := ⟨RX1, "lambda$all$19", "(FF)F"⟩
theorem dX1_lambda_all_19_0 : decode cX1_lambda_all_19 0 = .ok (.fload_n 0, 1) := by decide +kernel
theorem dX1_lambda_all_19_1 : decode cX1_lambda_all_19 1 = .ok (.freturn, 1) := by decide +kernel
abbrev cX1_lambda_all_20 : ByteArray := prog_4_method_15_code
def yX1_lambda_all_20 : MethodName := ⟨RX1, "lambda$all$20", "(DD)D"⟩
theorem dX1_lambda_all_20_0 : decode cX1_lambda_all_20 0 = .ok (.dload_n 0, 1) := by decide +kernel
theorem dX1_lambda_all_20_1 : decode cX1_lambda_all_20 1 = .ok (.dreturn, 1) := by decide +kernel
abbrev cX1_lambda_all_21 : ByteArray := prog_4_method_14_code
def yX1_lambda_all_21 : MethodName := ⟨RX1, "lambda$all$21", "(II)I"⟩
theorem dX1_lambda_all_21_0 : decode cX1_lambda_all_21 0 = .ok (.iload_n 0, 1) := by decide +kernel
theorem dX1_lambda_all_21_1 : decode cX1_lambda_all_21 1 = .ok (.ireturn, 1) := by decide +kernel
abbrev cX1_lambda_all_22 : ByteArray := prog_4_method_13_code
def yX1_lambda_all_22 : MethodName := ⟨RX1, "lambda$all$22", "(FF)F"⟩
theorem dX1_lambda_all_22_0 : decode cX1_lambda_all_22 0 = .ok (.fload_n 0, 1) := by decide +kernel
theorem dX1_lambda_all_22_1 : decode cX1_lambda_all_22 1 = .ok (.freturn, 1) := by decide +kernel
abbrev cX1_lambda_all_23 : ByteArray := prog_4_method_12_code
def yX1_lambda_all_23 : MethodName := ⟨RX1, "lambda$all$23", "(DD)D"⟩
theorem dX1_lambda_all_23_0 : decode cX1_lambda_all_23 0 = .ok (.dload_n 0, 1) := by decide +kernel
theorem dX1_lambda_all_23_1 : decode cX1_lambda_all_23 1 = .ok (.dreturn, 1) := by decide +kernel
abbrev cX1_sum : ByteArray := prog_4_method_5_code
def yX1_sum : MethodName := ⟨RX1, "sum", "(II)I"⟩
def dkwX1_sum_0 : List UInt8 := [26, 27, 184, 0, 30, 172]
abbrev dktX1_sum_0 : List UInt8 := dkwX1_sum_0 ++ []
theorem dksX1_sum_0 : cX1_sum.data.toList.drop 0 = dktX1_sum_0 := by decide +kernel
theorem dX1_sum_0 : decode cX1_sum 0 = .ok (.iload_n 0, 1) := dk_26 (dk_at dksX1_sum_0 0 rfl rfl)
theorem dX1_sum_1 : decode cX1_sum 1 = .ok (.iload_n 1, 1) := dk_27 (dk_at dksX1_sum_0 1 rfl rfl)
theorem dX1_sum_2 : decode cX1_sum 2 = .ok (.invokestatic 30, 3) := dk_184 0 30 (dk_at dksX1_sum_0 2 rfl rfl)
theorem dX1_sum_5 : decode cX1_sum 5 = .ok (.ireturn, 1) := dk_172 (dk_at dksX1_sum_0 5 rfl rfl)
abbrev cX1_product : ByteArray := prog_4_method_6_code
def yX1_product : MethodName := ⟨RX1, "product", "(II)I"⟩
def dkwX1_product_0 : List UInt8 := [26, 27, 184, 0, 36, 172]
abbrev dktX1_product_0 : List UInt8 := dkwX1_product_0 ++ []
theorem dksX1_product_0 : cX1_product.data.toList.drop 0 = dktX1_product_0 := by decide +kernel
theorem dX1_product_0 : decode cX1_product 0 = .ok (.iload_n 0, 1) := dk_26 (dk_at dksX1_product_0 0 rfl rfl)
theorem dX1_product_1 : decode cX1_product 1 = .ok (.iload_n 1, 1) := dk_27 (dk_at dksX1_product_0 1 rfl rfl)
theorem dX1_product_2 : decode cX1_product 2 = .ok (.invokestatic 36, 3) := dk_184 0 36 (dk_at dksX1_product_0 2 rfl rfl)
theorem dX1_product_5 : decode cX1_product 5 = .ok (.ireturn, 1) := dk_172 (dk_at dksX1_product_0 5 rfl rfl)
abbrev cX1_isFirm : ByteArray := prog_4_method_9_code
def yX1_isFirm : MethodName := ⟨RX1, "isFirm", "()Z"⟩
def dkwX1_isFirm_0 : List UInt8 := [42, 180, 0, 9, 16, 10, 159, 0, 7, 4, 167, 0, 4, 3, 172]
abbrev dktX1_isFirm_0 : List UInt8 := dkwX1_isFirm_0 ++ []
theorem dksX1_isFirm_0 : cX1_isFirm.data.toList.drop 0 = dktX1_isFirm_0 := by decide +kernel
theorem dX1_isFirm_0 : decode cX1_isFirm 0 = .ok (.aload_n 0, 1) := dk_42 (dk_at dksX1_isFirm_0 0 rfl rfl)
theorem dX1_isFirm_1 : decode cX1_isFirm 1 = .ok (.getfield 9, 3) := dk_180 0 9 (dk_at dksX1_isFirm_0 1 rfl rfl)
theorem dX1_isFirm_4 : decode cX1_isFirm 4 = .ok (.bipush 10, 2) := dk_16 10 (dk_at dksX1_isFirm_0 4 rfl rfl)
theorem dX1_isFirm_6 : decode cX1_isFirm 6 = .ok (.if_icmp .eq 7, 3) := dk_159 0 7 (dk_at dksX1_isFirm_0 6 rfl rfl)
theorem dX1_isFirm_9 : decode cX1_isFirm 9 = .ok (.iconst 1, 1) := dk_4 (dk_at dksX1_isFirm_0 9 rfl rfl)
theorem dX1_isFirm_10 : decode cX1_isFirm 10 = .ok (.goto 4, 3) := dk_167 0 4 (dk_at dksX1_isFirm_0 10 rfl rfl)
theorem dX1_isFirm_13 : decode cX1_isFirm 13 = .ok (.iconst 0, 1) := dk_3 (dk_at dksX1_isFirm_0 13 rfl rfl)
theorem dX1_isFirm_14 : decode cX1_isFirm 14 = .ok (.ireturn, 1) := dk_172 (dk_at dksX1_isFirm_0 14 rfl rfl)
abbrev cX1_isDoubtful : ByteArray := prog_4_method_8_code
def yX1_isDoubtful : MethodName := ⟨RX1, "isDoubtful", "()Z"⟩
def dkwX1_isDoubtful_0 : List UInt8 := [42, 180, 0, 9, 16, 11, 161, 0, 7, 4, 167, 0, 4, 3, 172]
abbrev dktX1_isDoubtful_0 : List UInt8 := dkwX1_isDoubtful_0 ++ []
theorem dksX1_isDoubtful_0 : cX1_isDoubtful.data.toList.drop 0 = dktX1_isDoubtful_0 := by decide +kernel
theorem dX1_isDoubtful_0 : decode cX1_isDoubtful 0 = .ok (.aload_n 0, 1) := dk_42 (dk_at dksX1_isDoubtful_0 0 rfl rfl)
theorem dX1_isDoubtful_1 : decode cX1_isDoubtful 1 = .ok (.getfield 9, 3) := dk_180 0 9 (dk_at dksX1_isDoubtful_0 1 rfl rfl)
theorem dX1_isDoubtful_4 : decode cX1_isDoubtful 4 = .ok (.bipush 11, 2) := dk_16 11 (dk_at dksX1_isDoubtful_0 4 rfl rfl)
theorem dX1_isDoubtful_6 : decode cX1_isDoubtful 6 = .ok (.if_icmp .lt 7, 3) := dk_161 0 7 (dk_at dksX1_isDoubtful_0 6 rfl rfl)
theorem dX1_isDoubtful_9 : decode cX1_isDoubtful 9 = .ok (.iconst 1, 1) := dk_4 (dk_at dksX1_isDoubtful_0 9 rfl rfl)
theorem dX1_isDoubtful_10 : decode cX1_isDoubtful 10 = .ok (.goto 4, 3) := dk_167 0 4 (dk_at dksX1_isDoubtful_0 10 rfl rfl)
theorem dX1_isDoubtful_13 : decode cX1_isDoubtful 13 = .ok (.iconst 0, 1) := dk_3 (dk_at dksX1_isDoubtful_0 13 rfl rfl)
theorem dX1_isDoubtful_14 : decode cX1_isDoubtful 14 = .ok (.ireturn, 1) := dk_172 (dk_at dksX1_isDoubtful_0 14 rfl rfl)
abbrev cX1_isWhole : ByteArray := prog_4_method_7_code
def yX1_isWhole : MethodName := ⟨RX1, "isWhole", "()Z"⟩
def dkwX1_isWhole_1 : List UInt8 := [4, 167, 0, 4, 3, 172]
abbrev dktX1_isWhole_1 : List UInt8 := dkwX1_isWhole_1 ++ []
def dkwX1_isWhole_0 : List UInt8 := [42, 180, 0, 9, 133, 20, 0, 39, 20, 0, 41, 184, 0, 43, 154, 0, 10, 42, 182, 0, 47, 153, 0, 7]
abbrev dktX1_isWhole_0 : List UInt8 := dkwX1_isWhole_0 ++ dktX1_isWhole_1
theorem dksX1_isWhole_0 : cX1_isWhole.data.toList.drop 0 = dktX1_isWhole_0 := by decide +kernel
theorem dksX1_isWhole_1 : cX1_isWhole.data.toList.drop 24 = dktX1_isWhole_1 := dk_seg dksX1_isWhole_0 24 rfl rfl
theorem dX1_isWhole_0 : decode cX1_isWhole 0 = .ok (.aload_n 0, 1) := dk_42 (dk_at dksX1_isWhole_0 0 rfl rfl)
theorem dX1_isWhole_1 : decode cX1_isWhole 1 = .ok (.getfield 9, 3) := dk_180 0 9 (dk_at dksX1_isWhole_0 1 rfl rfl)
theorem dX1_isWhole_4 : decode cX1_isWhole 4 = .ok (.i2l, 1) := dk_133 (dk_at dksX1_isWhole_0 4 rfl rfl)
theorem dX1_isWhole_5 : decode cX1_isWhole 5 = .ok (.ldc2_w 39, 3) := dk_20 0 39 (dk_at dksX1_isWhole_0 5 rfl rfl)
theorem dX1_isWhole_8 : decode cX1_isWhole 8 = .ok (.ldc2_w 41, 3) := dk_20 0 41 (dk_at dksX1_isWhole_0 8 rfl rfl)
theorem dX1_isWhole_11 : decode cX1_isWhole 11 = .ok (.invokestatic 43, 3) := dk_184 0 43 (dk_at dksX1_isWhole_0 11 rfl rfl)
theorem dX1_isWhole_14 : decode cX1_isWhole 14 = .ok (.ifCond .ne 10, 3) := dk_154 0 10 (dk_at dksX1_isWhole_0 14 rfl rfl)
theorem dX1_isWhole_17 : decode cX1_isWhole 17 = .ok (.aload_n 0, 1) := dk_42 (dk_at dksX1_isWhole_0 17 rfl rfl)
theorem dX1_isWhole_18 : decode cX1_isWhole 18 = .ok (.invokevirtual 47, 3) := dk_182 0 47 (dk_at dksX1_isWhole_0 18 rfl rfl)
theorem dX1_isWhole_21 : decode cX1_isWhole 21 = .ok (.ifCond .eq 7, 3) := dk_153 0 7 (dk_at dksX1_isWhole_0 21 rfl rfl)
theorem dX1_isWhole_24 : decode cX1_isWhole 24 = .ok (.iconst 1, 1) := dk_4 (dk_at dksX1_isWhole_1 0 rfl rfl)
theorem dX1_isWhole_25 : decode cX1_isWhole 25 = .ok (.goto 4, 3) := dk_167 0 4 (dk_at dksX1_isWhole_1 1 rfl rfl)
theorem dX1_isWhole_28 : decode cX1_isWhole 28 = .ok (.iconst 0, 1) := dk_3 (dk_at dksX1_isWhole_1 4 rfl rfl)
theorem dX1_isWhole_29 : decode cX1_isWhole 29 = .ok (.ireturn, 1) := dk_172 (dk_at dksX1_isWhole_1 5 rfl rfl)
theorem q135 : (Jvm.Cond.initialized "StrideTurns$Deed") ∈ lw_all := lw_g (lw_at lw_m1 2 rfl) rfl
theorem q196 : (Jvm.Cond.static ({ cls := "StrideTurns$Deed", name := "all", desc := "()Ljava/util/HashMap;" } : Jvm.MethodName)) ∈ lw_all := lw_g (lw_at lw_m1 63 rfl) rfl
theorem q197 : (Jvm.Cond.code ({ cls := "StrideTurns$Deed", name := "all", desc := "()Ljava/util/HashMap;" } : Jvm.MethodName) prog_4_method_11_code (1 : Nat) (Option.some (Jvm.ClassFile.FieldType.object "java/util/HashMap"))) ∈ lw_all := lw_g (lw_at lw_m1 64 rfl) rfl
theorem q198 : (Jvm.Cond.classLink "StrideTurns$Deed" (52 : Nat) "java/util/HashMap") ∈ lw_all := lw_g (lw_at lw_m1 65 rfl) rfl
theorem q200 : (Jvm.Cond.methodLink "StrideTurns$Deed" (57 : Nat) ({ cls := "java/util/HashMap", name := "<init>", desc := "()V" } : Jvm.MethodName)) ∈ lw_all := lw_g (lw_at lw_m1 67 rfl) rfl
theorem q235 : (Jvm.Cond.stringRef "StrideTurns$Deed" (58 : Nat) "add") ∈ lw_tbl := lw_at lw_m1 102 rfl
theorem q236 : (Jvm.Cond.classLink "StrideTurns$Deed" (10 : Nat) "StrideTurns$Deed") ∈ lw_all := lw_g (lw_at lw_m1 103 rfl) rfl
theorem q237 : (Jvm.Cond.instantiable "StrideTurns$Deed" (5 : Nat)) ∈ lw_all := lw_g (lw_at lw_m1 104 rfl) rfl
theorem q238 : (Jvm.Cond.static ({ cls := "StrideTurns$Deed", name := "lambda$all$0", desc := "(II)I" } : Jvm.MethodName)) ∈ lw_all := lw_g (lw_at lw_m1 105 rfl) rfl
theorem q239 : (Jvm.Cond.code ({ cls := "StrideTurns$Deed", name := "lambda$all$0", desc := "(II)I" } : Jvm.MethodName) prog_4_method_35_code (2 : Nat) (Option.some Jvm.ClassFile.FieldType.int)) ∈ lw_all := lw_g (lw_at lw_m1 106 rfl) rfl
theorem q240 : (Jvm.Cond.static ({ cls := "StrideTurns$Deed", name := "lambda$all$1", desc := "(FF)F" } : Jvm.MethodName)) ∈ lw_all := lw_g (lw_at lw_m1 107 rfl) rfl
theorem q241 : (Jvm.Cond.code ({ cls := "StrideTurns$Deed", name := "lambda$all$1", desc := "(FF)F" } : Jvm.MethodName) prog_4_method_34_code (2 : Nat) (Option.some Jvm.ClassFile.FieldType.float)) ∈ lw_all := lw_g (lw_at lw_m1 108 rfl) rfl
theorem q242 : (Jvm.Cond.constantFloat "StrideTurns$Deed" (129 : Nat) (1149239296 : UInt32)) ∈ lw_all := lw_g (lw_at lw_m1 109 rfl) rfl
theorem q243 : (Jvm.Cond.static ({ cls := "StrideTurns$Deed", name := "lambda$all$2", desc := "(DD)D" } : Jvm.MethodName)) ∈ lw_all := lw_g (lw_at lw_m1 110 rfl) rfl
theorem q244 : (Jvm.Cond.code ({ cls := "StrideTurns$Deed", name := "lambda$all$2", desc := "(DD)D" } : Jvm.MethodName) prog_4_method_33_code (4 : Nat) (Option.some Jvm.ClassFile.FieldType.double)) ∈ lw_all := lw_g (lw_at lw_m1 111 rfl) rfl
theorem q245 : (Jvm.Cond.constantDouble "StrideTurns$Deed" (127 : Nat) (4652218415073722368 : UInt64)) ∈ lw_all := lw_g (lw_at lw_m1 112 rfl) rfl
theorem q246 : (Jvm.Cond.methodLink "StrideTurns$Deed" (70 : Nat) ({ cls := "StrideTurns$Deed", name := "<init>", desc := "(IILStrideTurns$Ints;LStrideTurns$Floats;LStrideTurns$Doubles;)V" } : Jvm.MethodName)) ∈ lw_all := lw_g (lw_at lw_m1 113 rfl) rfl
theorem q247 : (Jvm.Cond.instanceMethod ({ cls := "StrideTurns$Deed", name := "<init>", desc := "(IILStrideTurns$Ints;LStrideTurns$Floats;LStrideTurns$Doubles;)V" } : Jvm.MethodName)) ∈ lw_all := lw_g (lw_at lw_m1 114 rfl) rfl
theorem q248 : (Jvm.Cond.code ({ cls := "StrideTurns$Deed", name := "<init>", desc := "(IILStrideTurns$Ints;LStrideTurns$Floats;LStrideTurns$Doubles;)V" } : Jvm.MethodName) prog_4_method_1_code (6 : Nat) (Option.none : Option Jvm.ClassFile.FieldType)) ∈ lw_all := lw_g (lw_at lw_m1 115 rfl) rfl
theorem q249 : (Jvm.Cond.methodLink "StrideTurns$Deed" (3 : Nat) ({ cls := "java/lang/Object", name := "<init>", desc := "()V" } : Jvm.MethodName)) ∈ lw_all := lw_g (lw_at lw_m1 116 rfl) rfl
theorem q250 : (Jvm.Cond.fieldLink "StrideTurns$Deed" (9 : Nat) "StrideTurns$Deed" "number" "I") ∈ lw_all := lw_g (lw_at lw_m1 117 rfl) rfl
theorem q253 : (Jvm.Cond.fieldLink "StrideTurns$Deed" (15 : Nat) "StrideTurns$Deed" "family" "I") ∈ lw_all := lw_g (lw_at lw_m1 120 rfl) rfl
theorem q257 : (Jvm.Cond.fieldLink "StrideTurns$Deed" (18 : Nat) "StrideTurns$Deed" "ints" "LStrideTurns$Ints;") ∈ lw_all := lw_g (lw_at lw_m1 124 rfl) rfl
theorem q259 : (Jvm.Cond.fieldLink "StrideTurns$Deed" (22 : Nat) "StrideTurns$Deed" "floats" "LStrideTurns$Floats;") ∈ lw_all := lw_g (lw_at lw_m1 126 rfl) rfl
theorem q261 : (Jvm.Cond.fieldLink "StrideTurns$Deed" (26 : Nat) "StrideTurns$Deed" "doubles" "LStrideTurns$Doubles;") ∈ lw_all := lw_g (lw_at lw_m1 128 rfl) rfl
theorem q263 : (Jvm.Cond.laysFinal "StrideTurns$Deed" "StrideTurns$Deed" "number" "I") ∈ lw_all := lw_g (lw_at lw_m1 130 rfl) rfl
theorem q264 : (Jvm.Cond.soleField "StrideTurns$Deed" "number") ∈ lw_all := lw_g (lw_at lw_m1 131 rfl) rfl
theorem q265 : (Jvm.Cond.laysFinal "StrideTurns$Deed" "StrideTurns$Deed" "family" "I") ∈ lw_all := lw_g (lw_at lw_m1 132 rfl) rfl
theorem q266 : (Jvm.Cond.soleField "StrideTurns$Deed" "family") ∈ lw_all := lw_g (lw_at lw_m1 133 rfl) rfl
theorem q267 : (Jvm.Cond.laysFinal "StrideTurns$Deed" "StrideTurns$Deed" "ints" "LStrideTurns$Ints;") ∈ lw_all := lw_g (lw_at lw_m1 134 rfl) rfl
theorem q268 : (Jvm.Cond.soleField "StrideTurns$Deed" "ints") ∈ lw_all := lw_g (lw_at lw_m1 135 rfl) rfl
theorem q269 : (Jvm.Cond.laysFinal "StrideTurns$Deed" "StrideTurns$Deed" "floats" "LStrideTurns$Floats;") ∈ lw_all := lw_g (lw_at lw_m1 136 rfl) rfl
theorem q270 : (Jvm.Cond.soleField "StrideTurns$Deed" "floats") ∈ lw_all := lw_g (lw_at lw_m1 137 rfl) rfl
theorem q271 : (Jvm.Cond.laysFinal "StrideTurns$Deed" "StrideTurns$Deed" "doubles" "LStrideTurns$Doubles;") ∈ lw_all := lw_g (lw_at lw_m1 138 rfl) rfl
theorem q272 : (Jvm.Cond.soleField "StrideTurns$Deed" "doubles") ∈ lw_all := lw_g (lw_at lw_m1 139 rfl) rfl
theorem q273 : (Jvm.Cond.superclass "StrideTurns$Deed" "java/lang/Object") ∈ lw_all := lw_g (lw_at lw_m1 140 rfl) rfl
theorem q275 : (Jvm.Cond.methodLink "StrideTurns$Deed" (73 : Nat) ({ cls := "StrideTurns$Deed", name := "puts", desc := "(Ljava/util/HashMap;Ljava/lang/String;LStrideTurns$Deed;)V" } : Jvm.MethodName)) ∈ lw_all := lw_g (lw_at lw_m1 142 rfl) rfl
theorem q276 : (Jvm.Cond.static ({ cls := "StrideTurns$Deed", name := "puts", desc := "(Ljava/util/HashMap;Ljava/lang/String;LStrideTurns$Deed;)V" } : Jvm.MethodName)) ∈ lw_all := lw_g (lw_at lw_m1 143 rfl) rfl
theorem q277 : (Jvm.Cond.code ({ cls := "StrideTurns$Deed", name := "puts", desc := "(Ljava/util/HashMap;Ljava/lang/String;LStrideTurns$Deed;)V" } : Jvm.MethodName) prog_4_method_10_code (3 : Nat) (Option.none : Option Jvm.ClassFile.FieldType)) ∈ lw_all := lw_g (lw_at lw_m1 144 rfl) rfl
theorem q278 : (Jvm.Cond.methodLink "StrideTurns$Deed" (51 : Nat) ({ cls := "java/util/HashMap", name := "put", desc := "(Ljava/lang/Object;Ljava/lang/Object;)Ljava/lang/Object;" } : Jvm.MethodName)) ∈ lw_all := lw_g (lw_at lw_m1 145 rfl) rfl
theorem q292 : (Jvm.Cond.selects "StrideTurns$Deed" ({ cls := "java/lang/Object", name := "hashCode", desc := "()I" } : Jvm.MethodName) ({ cls := "java/lang/Object", name := "hashCode", desc := "()I" } : Jvm.MethodName)) ∈ lw_all := lw_g (lw_at lw_m1 159 rfl) rfl
theorem q488 : (Jvm.Cond.selects "StrideTurns$Deed" ({ cls := "java/lang/Object", name := "getClass", desc := "()Ljava/lang/Class;" } : Jvm.MethodName) ({ cls := "java/lang/Object", name := "getClass", desc := "()Ljava/lang/Class;" } : Jvm.MethodName)) ∈ lw_all := lw_g (lw_at lw_m2 115 rfl) rfl
theorem q755 : (Jvm.Cond.selects "StrideTurns$Deed" ({ cls := "java/lang/Object", name := "equals", desc := "(Ljava/lang/Object;)Z" } : Jvm.MethodName) ({ cls := "java/lang/Object", name := "equals", desc := "(Ljava/lang/Object;)Z" } : Jvm.MethodName)) ∈ lw_all := lw_g (lw_at lw_m3 142 rfl) rfl
theorem q869 : (Jvm.Cond.stringRef "StrideTurns$Deed" (77 : Nat) "sub") ∈ lw_tbl := lw_at lw_m4 16 rfl
theorem q870 : (Jvm.Cond.static ({ cls := "StrideTurns$Deed", name := "lambda$all$3", desc := "(II)I" } : Jvm.MethodName)) ∈ lw_all := lw_g (lw_at lw_m4 17 rfl) rfl
theorem q871 : (Jvm.Cond.code ({ cls := "StrideTurns$Deed", name := "lambda$all$3", desc := "(II)I" } : Jvm.MethodName) prog_4_method_32_code (2 : Nat) (Option.some Jvm.ClassFile.FieldType.int)) ∈ lw_all := lw_g (lw_at lw_m4 18 rfl) rfl
theorem q872 : (Jvm.Cond.static ({ cls := "StrideTurns$Deed", name := "lambda$all$4", desc := "(FF)F" } : Jvm.MethodName)) ∈ lw_all := lw_g (lw_at lw_m4 19 rfl) rfl
theorem q873 : (Jvm.Cond.code ({ cls := "StrideTurns$Deed", name := "lambda$all$4", desc := "(FF)F" } : Jvm.MethodName) prog_4_method_31_code (2 : Nat) (Option.some Jvm.ClassFile.FieldType.float)) ∈ lw_all := lw_g (lw_at lw_m4 20 rfl) rfl
theorem q874 : (Jvm.Cond.static ({ cls := "StrideTurns$Deed", name := "lambda$all$5", desc := "(DD)D" } : Jvm.MethodName)) ∈ lw_all := lw_g (lw_at lw_m4 21 rfl) rfl
theorem q875 : (Jvm.Cond.code ({ cls := "StrideTurns$Deed", name := "lambda$all$5", desc := "(DD)D" } : Jvm.MethodName) prog_4_method_30_code (4 : Nat) (Option.some Jvm.ClassFile.FieldType.double)) ∈ lw_all := lw_g (lw_at lw_m4 22 rfl) rfl
theorem q876 : (Jvm.Cond.stringRef "StrideTurns$Deed" (82 : Nat) "mul") ∈ lw_tbl := lw_at lw_m4 23 rfl
theorem q877 : (Jvm.Cond.static ({ cls := "StrideTurns$Deed", name := "lambda$all$6", desc := "(II)I" } : Jvm.MethodName)) ∈ lw_all := lw_g (lw_at lw_m4 24 rfl) rfl
theorem q878 : (Jvm.Cond.code ({ cls := "StrideTurns$Deed", name := "lambda$all$6", desc := "(II)I" } : Jvm.MethodName) prog_4_method_29_code (2 : Nat) (Option.some Jvm.ClassFile.FieldType.int)) ∈ lw_all := lw_g (lw_at lw_m4 25 rfl) rfl
theorem q879 : (Jvm.Cond.static ({ cls := "StrideTurns$Deed", name := "lambda$all$7", desc := "(FF)F" } : Jvm.MethodName)) ∈ lw_all := lw_g (lw_at lw_m4 26 rfl) rfl
theorem q880 : (Jvm.Cond.code ({ cls := "StrideTurns$Deed", name := "lambda$all$7", desc := "(FF)F" } : Jvm.MethodName) prog_4_method_28_code (2 : Nat) (Option.some Jvm.ClassFile.FieldType.float)) ∈ lw_all := lw_g (lw_at lw_m4 27 rfl) rfl
theorem q881 : (Jvm.Cond.static ({ cls := "StrideTurns$Deed", name := "lambda$all$8", desc := "(DD)D" } : Jvm.MethodName)) ∈ lw_all := lw_g (lw_at lw_m4 28 rfl) rfl
theorem q882 : (Jvm.Cond.code ({ cls := "StrideTurns$Deed", name := "lambda$all$8", desc := "(DD)D" } : Jvm.MethodName) prog_4_method_27_code (4 : Nat) (Option.some Jvm.ClassFile.FieldType.double)) ∈ lw_all := lw_g (lw_at lw_m4 29 rfl) rfl
theorem q883 : (Jvm.Cond.stringRef "StrideTurns$Deed" (87 : Nat) "rem") ∈ lw_tbl := lw_at lw_m4 30 rfl
theorem q884 : (Jvm.Cond.static ({ cls := "StrideTurns$Deed", name := "rest", desc := "(II)I" } : Jvm.MethodName)) ∈ lw_all := lw_g (lw_at lw_m4 31 rfl) rfl
theorem q885 : (Jvm.Cond.code ({ cls := "StrideTurns$Deed", name := "rest", desc := "(II)I" } : Jvm.MethodName) prog_4_method_2_code (2 : Nat) (Option.some Jvm.ClassFile.FieldType.int)) ∈ lw_all := lw_g (lw_at lw_m4 32 rfl) rfl
theorem q886 : (Jvm.Cond.static ({ cls := "StrideTurns$Deed", name := "restOf", desc := "(FF)F" } : Jvm.MethodName)) ∈ lw_all := lw_g (lw_at lw_m4 33 rfl) rfl
theorem q887 : (Jvm.Cond.code ({ cls := "StrideTurns$Deed", name := "restOf", desc := "(FF)F" } : Jvm.MethodName) prog_4_method_3_code (2 : Nat) (Option.some Jvm.ClassFile.FieldType.float)) ∈ lw_all := lw_g (lw_at lw_m4 34 rfl) rfl
theorem q888 : (Jvm.Cond.static ({ cls := "StrideTurns$Deed", name := "restIn", desc := "(DD)D" } : Jvm.MethodName)) ∈ lw_all := lw_g (lw_at lw_m4 35 rfl) rfl
theorem q889 : (Jvm.Cond.code ({ cls := "StrideTurns$Deed", name := "restIn", desc := "(DD)D" } : Jvm.MethodName) prog_4_method_4_code (4 : Nat) (Option.some Jvm.ClassFile.FieldType.double)) ∈ lw_all := lw_g (lw_at lw_m4 36 rfl) rfl
theorem q890 : (Jvm.Cond.stringRef "StrideTurns$Deed" (92 : Nat) "max") ∈ lw_tbl := lw_at lw_m4 37 rfl
theorem q891 : (Jvm.Cond.static ({ cls := "StrideTurns$Deed", name := "lambda$all$9", desc := "(II)I" } : Jvm.MethodName)) ∈ lw_all := lw_g (lw_at lw_m4 38 rfl) rfl
theorem q892 : (Jvm.Cond.code ({ cls := "StrideTurns$Deed", name := "lambda$all$9", desc := "(II)I" } : Jvm.MethodName) prog_4_method_26_code (2 : Nat) (Option.some Jvm.ClassFile.FieldType.int)) ∈ lw_all := lw_g (lw_at lw_m4 39 rfl) rfl
theorem q893 : (Jvm.Cond.static ({ cls := "StrideTurns$Deed", name := "lambda$all$10", desc := "(FF)F" } : Jvm.MethodName)) ∈ lw_all := lw_g (lw_at lw_m4 40 rfl) rfl
theorem q894 : (Jvm.Cond.code ({ cls := "StrideTurns$Deed", name := "lambda$all$10", desc := "(FF)F" } : Jvm.MethodName) prog_4_method_25_code (2 : Nat) (Option.some Jvm.ClassFile.FieldType.float)) ∈ lw_all := lw_g (lw_at lw_m4 41 rfl) rfl
theorem q895 : (Jvm.Cond.static ({ cls := "StrideTurns$Deed", name := "lambda$all$11", desc := "(DD)D" } : Jvm.MethodName)) ∈ lw_all := lw_g (lw_at lw_m4 42 rfl) rfl
theorem q896 : (Jvm.Cond.code ({ cls := "StrideTurns$Deed", name := "lambda$all$11", desc := "(DD)D" } : Jvm.MethodName) prog_4_method_24_code (4 : Nat) (Option.some Jvm.ClassFile.FieldType.double)) ∈ lw_all := lw_g (lw_at lw_m4 43 rfl) rfl
theorem q897 : (Jvm.Cond.stringRef "StrideTurns$Deed" (97 : Nat) "min") ∈ lw_tbl := lw_at lw_m4 44 rfl
theorem q898 : (Jvm.Cond.static ({ cls := "StrideTurns$Deed", name := "lambda$all$12", desc := "(II)I" } : Jvm.MethodName)) ∈ lw_all := lw_g (lw_at lw_m4 45 rfl) rfl
theorem q899 : (Jvm.Cond.code ({ cls := "StrideTurns$Deed", name := "lambda$all$12", desc := "(II)I" } : Jvm.MethodName) prog_4_method_23_code (2 : Nat) (Option.some Jvm.ClassFile.FieldType.int)) ∈ lw_all := lw_g (lw_at lw_m4 46 rfl) rfl
theorem q900 : (Jvm.Cond.static ({ cls := "StrideTurns$Deed", name := "lambda$all$13", desc := "(FF)F" } : Jvm.MethodName)) ∈ lw_all := lw_g (lw_at lw_m4 47 rfl) rfl
theorem q901 : (Jvm.Cond.code ({ cls := "StrideTurns$Deed", name := "lambda$all$13", desc := "(FF)F" } : Jvm.MethodName) prog_4_method_22_code (2 : Nat) (Option.some Jvm.ClassFile.FieldType.float)) ∈ lw_all := lw_g (lw_at lw_m4 48 rfl) rfl
theorem q902 : (Jvm.Cond.static ({ cls := "StrideTurns$Deed", name := "lambda$all$14", desc := "(DD)D" } : Jvm.MethodName)) ∈ lw_all := lw_g (lw_at lw_m4 49 rfl) rfl
theorem q903 : (Jvm.Cond.code ({ cls := "StrideTurns$Deed", name := "lambda$all$14", desc := "(DD)D" } : Jvm.MethodName) prog_4_method_21_code (4 : Nat) (Option.some Jvm.ClassFile.FieldType.double)) ∈ lw_all := lw_g (lw_at lw_m4 50 rfl) rfl
theorem q904 : (Jvm.Cond.stringRef "StrideTurns$Deed" (102 : Nat) "and") ∈ lw_tbl := lw_at lw_m4 51 rfl
theorem q905 : (Jvm.Cond.static ({ cls := "StrideTurns$Deed", name := "lambda$all$15", desc := "(II)I" } : Jvm.MethodName)) ∈ lw_all := lw_g (lw_at lw_m4 52 rfl) rfl
theorem q906 : (Jvm.Cond.code ({ cls := "StrideTurns$Deed", name := "lambda$all$15", desc := "(II)I" } : Jvm.MethodName) prog_4_method_20_code (2 : Nat) (Option.some Jvm.ClassFile.FieldType.int)) ∈ lw_all := lw_g (lw_at lw_m4 53 rfl) rfl
theorem q907 : (Jvm.Cond.stringRef "StrideTurns$Deed" (105 : Nat) "or") ∈ lw_tbl := lw_at lw_m4 54 rfl
theorem q908 : (Jvm.Cond.static ({ cls := "StrideTurns$Deed", name := "lambda$all$16", desc := "(II)I" } : Jvm.MethodName)) ∈ lw_all := lw_g (lw_at lw_m4 55 rfl) rfl
theorem q909 : (Jvm.Cond.code ({ cls := "StrideTurns$Deed", name := "lambda$all$16", desc := "(II)I" } : Jvm.MethodName) prog_4_method_19_code (2 : Nat) (Option.some Jvm.ClassFile.FieldType.int)) ∈ lw_all := lw_g (lw_at lw_m4 56 rfl) rfl
theorem q910 : (Jvm.Cond.stringRef "StrideTurns$Deed" (108 : Nat) "xor") ∈ lw_tbl := lw_at lw_m4 57 rfl
theorem q911 : (Jvm.Cond.static ({ cls := "StrideTurns$Deed", name := "lambda$all$17", desc := "(II)I" } : Jvm.MethodName)) ∈ lw_all := lw_g (lw_at lw_m4 58 rfl) rfl
theorem q912 : (Jvm.Cond.code ({ cls := "StrideTurns$Deed", name := "lambda$all$17", desc := "(II)I" } : Jvm.MethodName) prog_4_method_18_code (2 : Nat) (Option.some Jvm.ClassFile.FieldType.int)) ∈ lw_all := lw_g (lw_at lw_m4 59 rfl) rfl
theorem q913 : (Jvm.Cond.stringRef "StrideTurns$Deed" (111 : Nat) "copy") ∈ lw_tbl := lw_at lw_m4 60 rfl
theorem q914 : (Jvm.Cond.static ({ cls := "StrideTurns$Deed", name := "lambda$all$18", desc := "(II)I" } : Jvm.MethodName)) ∈ lw_all := lw_g (lw_at lw_m4 61 rfl) rfl
theorem q915 : (Jvm.Cond.code ({ cls := "StrideTurns$Deed", name := "lambda$all$18", desc := "(II)I" } : Jvm.MethodName) prog_4_method_17_code (2 : Nat) (Option.some Jvm.ClassFile.FieldType.int)) ∈ lw_all := lw_g (lw_at lw_m4 62 rfl) rfl
theorem q916 : (Jvm.Cond.static ({ cls := "StrideTurns$Deed", name := "lambda$all$19", desc := "(FF)F" } : Jvm.MethodName)) ∈ lw_all := lw_g (lw_at lw_m4 63 rfl) rfl
theorem q917 : (Jvm.Cond.code ({ cls := "StrideTurns$Deed", name := "lambda$all$19", desc := "(FF)F" } : Jvm.MethodName) prog_4_method_16_code (2 : Nat) (Option.some Jvm.ClassFile.FieldType.float)) ∈ lw_all := lw_g (lw_at lw_m4 64 rfl) rfl
theorem q918 : (Jvm.Cond.static ({ cls := "StrideTurns$Deed", name := "lambda$all$20", desc := "(DD)D" } : Jvm.MethodName)) ∈ lw_all := lw_g (lw_at lw_m4 65 rfl) rfl
theorem q919 : (Jvm.Cond.code ({ cls := "StrideTurns$Deed", name := "lambda$all$20", desc := "(DD)D" } : Jvm.MethodName) prog_4_method_15_code (4 : Nat) (Option.some Jvm.ClassFile.FieldType.double)) ∈ lw_all := lw_g (lw_at lw_m4 66 rfl) rfl
theorem q920 : (Jvm.Cond.stringRef "StrideTurns$Deed" (116 : Nat) "pick") ∈ lw_tbl := lw_at lw_m4 67 rfl
theorem q921 : (Jvm.Cond.static ({ cls := "StrideTurns$Deed", name := "lambda$all$21", desc := "(II)I" } : Jvm.MethodName)) ∈ lw_all := lw_g (lw_at lw_m4 68 rfl) rfl
theorem q922 : (Jvm.Cond.code ({ cls := "StrideTurns$Deed", name := "lambda$all$21", desc := "(II)I" } : Jvm.MethodName) prog_4_method_14_code (2 : Nat) (Option.some Jvm.ClassFile.FieldType.int)) ∈ lw_all := lw_g (lw_at lw_m4 69 rfl) rfl
theorem q923 : (Jvm.Cond.static ({ cls := "StrideTurns$Deed", name := "lambda$all$22", desc := "(FF)F" } : Jvm.MethodName)) ∈ lw_all := lw_g (lw_at lw_m4 70 rfl) rfl
theorem q924 : (Jvm.Cond.code ({ cls := "StrideTurns$Deed", name := "lambda$all$22", desc := "(FF)F" } : Jvm.MethodName) prog_4_method_13_code (2 : Nat) (Option.some Jvm.ClassFile.FieldType.float)) ∈ lw_all := lw_g (lw_at lw_m4 71 rfl) rfl
theorem q925 : (Jvm.Cond.static ({ cls := "StrideTurns$Deed", name := "lambda$all$23", desc := "(DD)D" } : Jvm.MethodName)) ∈ lw_all := lw_g (lw_at lw_m4 72 rfl) rfl
theorem q926 : (Jvm.Cond.code ({ cls := "StrideTurns$Deed", name := "lambda$all$23", desc := "(DD)D" } : Jvm.MethodName) prog_4_method_12_code (4 : Nat) (Option.some Jvm.ClassFile.FieldType.double)) ∈ lw_all := lw_g (lw_at lw_m4 73 rfl) rfl
theorem q927 : (Jvm.Cond.stringRef "StrideTurns$Deed" (121 : Nat) "sure") ∈ lw_tbl := lw_at lw_m4 74 rfl
theorem q928 : (Jvm.Cond.static ({ cls := "StrideTurns$Deed", name := "sum", desc := "(II)I" } : Jvm.MethodName)) ∈ lw_all := lw_g (lw_at lw_m4 75 rfl) rfl
theorem q929 : (Jvm.Cond.code ({ cls := "StrideTurns$Deed", name := "sum", desc := "(II)I" } : Jvm.MethodName) prog_4_method_5_code (2 : Nat) (Option.some Jvm.ClassFile.FieldType.int)) ∈ lw_all := lw_g (lw_at lw_m4 76 rfl) rfl
theorem q930 : (Jvm.Cond.methodLink "StrideTurns$Deed" (30 : Nat) ({ cls := "java/lang/Math", name := "addExact", desc := "(II)I" } : Jvm.MethodName)) ∈ lw_all := lw_g (lw_at lw_m4 77 rfl) rfl
theorem q1016 : (Jvm.Cond.stringRef "StrideTurns$Deed" (124 : Nat) "times") ∈ lw_tbl := lw_at lw_m4 163 rfl
theorem q1017 : (Jvm.Cond.static ({ cls := "StrideTurns$Deed", name := "product", desc := "(II)I" } : Jvm.MethodName)) ∈ lw_all := lw_g (lw_at lw_m4 164 rfl) rfl
theorem q1018 : (Jvm.Cond.code ({ cls := "StrideTurns$Deed", name := "product", desc := "(II)I" } : Jvm.MethodName) prog_4_method_6_code (2 : Nat) (Option.some Jvm.ClassFile.FieldType.int)) ∈ lw_all := lw_g (lw_at lw_m4 165 rfl) rfl
theorem q1019 : (Jvm.Cond.methodLink "StrideTurns$Deed" (36 : Nat) ({ cls := "java/lang/Math", name := "multiplyExact", desc := "(II)I" } : Jvm.MethodName)) ∈ lw_all := lw_g (lw_at lw_m4 166 rfl) rfl
theorem q2250 : (Jvm.Cond.instanceMethod ({ cls := "StrideTurns$Deed", name := "isFirm", desc := "()Z" } : Jvm.MethodName)) ∈ lw_all := lw_g (lw_at lw_m9 197 rfl) rfl
theorem q2251 : (Jvm.Cond.selects "StrideTurns$Deed" ({ cls := "StrideTurns$Deed", name := "isFirm", desc := "()Z" } : Jvm.MethodName) ({ cls := "StrideTurns$Deed", name := "isFirm", desc := "()Z" } : Jvm.MethodName)) ∈ lw_all := lw_g (lw_at lw_m9 198 rfl) rfl
theorem q2252 : (Jvm.Cond.code ({ cls := "StrideTurns$Deed", name := "isFirm", desc := "()Z" } : Jvm.MethodName) prog_4_method_9_code (1 : Nat) (Option.some Jvm.ClassFile.FieldType.boolean)) ∈ lw_all := lw_g (lw_at lw_m9 199 rfl) rfl
theorem q2257 : (Jvm.Cond.instanceMethod ({ cls := "StrideTurns$Deed", name := "isDoubtful", desc := "()Z" } : Jvm.MethodName)) ∈ lw_all := lw_g (lw_at lw_m9 204 rfl) rfl
theorem q2258 : (Jvm.Cond.selects "StrideTurns$Deed" ({ cls := "StrideTurns$Deed", name := "isDoubtful", desc := "()Z" } : Jvm.MethodName) ({ cls := "StrideTurns$Deed", name := "isDoubtful", desc := "()Z" } : Jvm.MethodName)) ∈ lw_all := lw_g (lw_at lw_m9 205 rfl) rfl
theorem q2259 : (Jvm.Cond.code ({ cls := "StrideTurns$Deed", name := "isDoubtful", desc := "()Z" } : Jvm.MethodName) prog_4_method_8_code (1 : Nat) (Option.some Jvm.ClassFile.FieldType.boolean)) ∈ lw_all := lw_g (lw_at lw_m9 206 rfl) rfl
theorem q2413 : (Jvm.Cond.instanceMethod ({ cls := "StrideTurns$Deed", name := "isWhole", desc := "()Z" } : Jvm.MethodName)) ∈ lw_all := lw_g (lw_at lw_m10 120 rfl) rfl
theorem q2414 : (Jvm.Cond.selects "StrideTurns$Deed" ({ cls := "StrideTurns$Deed", name := "isWhole", desc := "()Z" } : Jvm.MethodName) ({ cls := "StrideTurns$Deed", name := "isWhole", desc := "()Z" } : Jvm.MethodName)) ∈ lw_all := lw_g (lw_at lw_m10 121 rfl) rfl
theorem q2415 : (Jvm.Cond.code ({ cls := "StrideTurns$Deed", name := "isWhole", desc := "()Z" } : Jvm.MethodName) prog_4_method_7_code (1 : Nat) (Option.some Jvm.ClassFile.FieldType.boolean)) ∈ lw_all := lw_g (lw_at lw_m10 122 rfl) rfl
theorem q2416 : (Jvm.Cond.constantLong "StrideTurns$Deed" (39 : Nat) (6 : Int64)) ∈ lw_all := lw_g (lw_at lw_m10 123 rfl) rfl
theorem q2417 : (Jvm.Cond.constantLong "StrideTurns$Deed" (41 : Nat) (8 : Int64)) ∈ lw_all := lw_g (lw_at lw_m10 124 rfl) rfl
theorem q2418 : (Jvm.Cond.methodLinkNest "StrideTurns$Deed" (43 : Nat) ({ cls := "StrideTurns", name := "in", desc := "(JJJ)Z" } : Jvm.MethodName) "StrideTurns") ∈ lw_tbl := lw_at lw_m10 125 rfl
theorem q2419 : (Jvm.Cond.methodLink "StrideTurns$Deed" (47 : Nat) ({ cls := "StrideTurns$Deed", name := "isDoubtful", desc := "()Z" } : Jvm.MethodName)) ∈ lw_all := lw_g (lw_at lw_m10 126 rfl) rfl
theorem q3225 : (Jvm.Cond.castable "StrideTurns$Deed" "java/lang/Object") ∈ lw_tbl := lw_at lw_m13 212 rfl
theorem in_X1 : ∀ w ∈ wsX10, w ∈ lw_all := lw_in wsX10 [263, 265, 267, 269, 271] (by decide +kernel) (by decide +kernel)
