/-! StrideTurns -/
set_option maxRecDepth 100000
def RX0 : String := "StrideTurns"
def TX0 : u_T := fun k => match k with
  | 0 => ("StrideTurns", "latest", "I", false)
  | 1 => ("StrideTurns", "names", "Ljava/util/HashMap;", true)
  | 2 => ("StrideTurns", "rows", "[LStrideTurns$Row;", true)
  | 3 => ("StrideTurns", "statements", "Ljava/util/ArrayList;", true)
  | 4 => ("StrideTurns", "n", "I", false)
  | 5 => ("StrideTurns", "past", "Ljava/util/ArrayDeque;", true)
  | 6 => ("StrideTurns", "text", "[B", true)
  | 7 => ("StrideTurns", "typed", "I", false)
  | 8 => ("StrideTurns", "sets", "[J", true)
  | 9 => ("StrideTurns", "firm", "[J", true)
  | 10 => ("StrideTurns", "modes", "[I", true)
  | 11 => ("StrideTurns", "ends", "[I", true)
  | 12 => ("StrideTurns", "all", "[LStrideTurns$Turn;", true)
  | 13 => ("StrideTurns", "order", "[I", true)
  | 14 => ("StrideTurns", "ended", "I", false)
  | 15 => ("StrideTurns", "items", "I", false)
  | 16 => ("StrideTurns", "lastEnds", "[I", true)
  | 17 => ("StrideTurns", "lastOrder", "[I", true)
  | 18 => ("StrideTurns", "lastEnded", "I", false)
  | 19 => ("StrideTurns", "lastItems", "I", false)
  | 20 => ("StrideTurns", "kept", "[D", true)
  | 21 => ("StrideTurns", "keptWriters", "[I", true)
  | _ => ("StrideTurns", "found", "[D", true)
def tyX0 : Nat → FieldType := fun k => match k with
  | 0 => .int
  | 1 => .object "java/util/HashMap"
  | 2 => .array (.object "StrideTurns$Row")
  | 3 => .object "java/util/ArrayList"
  | 4 => .int
  | 5 => .object "java/util/ArrayDeque"
  | 6 => .array .byte
  | 7 => .int
  | 8 => .array .long
  | 9 => .array .long
  | 10 => .array .int
  | 11 => .array .int
  | 12 => .array (.object "StrideTurns$Turn")
  | 13 => .array .int
  | 14 => .int
  | 15 => .int
  | 16 => .array .int
  | 17 => .array .int
  | 18 => .int
  | 19 => .int
  | 20 => .array .double
  | 21 => .array .int
  | _ => .array .double
abbrev wsX00 : List Cond := u_ws RX0 TX0 23
set_option maxRecDepth 100000 in
theorem nmX0 : ∀ a, a < 23 → ∀ b, b < 23 → a ≠ b → (TX0 a).2.1 ≠ (TX0 b).2.1 := by decide +kernel
set_option maxRecDepth 100000 in
theorem tyX0_ok : ∀ k, k < 23 → parseFieldDescriptor (TX0 k).2.2.1 = some (tyX0 k) := by decide +kernel
abbrev cX0_init : ByteArray := prog_1_method_1_code
def yX0_init : MethodName := ⟨RX0, "<init>", "()V"⟩
def dkwX0_init_10 : List UInt8 := [181, 0, 80, 42, 17, 0, 144, 188, 10, 181, 0, 84, 42, 17, 0, 144, 188, 7, 181, 0, 87, 177]
abbrev dktX0_init_10 : List UInt8 := dkwX0_init_10 ++ []
def dkwX0_init_9 : List UInt8 := [181, 0, 71, 42, 6, 188, 10, 181, 0, 74, 42, 16, 10, 188, 10, 181, 0, 77, 42, 17, 0, 144, 188, 7]
abbrev dktX0_init_9 : List UInt8 := dkwX0_init_9 ++ dktX0_init_10
def dkwX0_init_8 : List UInt8 := [183, 0, 65, 83, 89, 16, 9, 187, 0, 63, 89, 42, 183, 0, 65, 83, 181, 0, 68, 42, 16, 10, 188, 10]
abbrev dktX0_init_8 : List UInt8 := dkwX0_init_8 ++ dktX0_init_9
def dkwX0_init_7 : List UInt8 := [183, 0, 65, 83, 89, 16, 7, 187, 0, 63, 89, 42, 183, 0, 65, 83, 89, 16, 8, 187, 0, 63, 89, 42]
abbrev dktX0_init_7 : List UInt8 := dkwX0_init_7 ++ dktX0_init_8
def dkwX0_init_6 : List UInt8 := [183, 0, 65, 83, 89, 8, 187, 0, 63, 89, 42, 183, 0, 65, 83, 89, 16, 6, 187, 0, 63, 89, 42]
abbrev dktX0_init_6 : List UInt8 := dkwX0_init_6 ++ dktX0_init_7
def dkwX0_init_5 : List UInt8 := [183, 0, 65, 83, 89, 6, 187, 0, 63, 89, 42, 183, 0, 65, 83, 89, 7, 187, 0, 63, 89, 42]
abbrev dktX0_init_5 : List UInt8 := dkwX0_init_5 ++ dktX0_init_6
def dkwX0_init_4 : List UInt8 := [42, 183, 0, 65, 83, 89, 4, 187, 0, 63, 89, 42, 183, 0, 65, 83, 89, 5, 187, 0, 63, 89, 42]
abbrev dktX0_init_4 : List UInt8 := dkwX0_init_4 ++ dktX0_init_5
def dkwX0_init_3 : List UInt8 := [188, 10, 181, 0, 56, 42, 6, 188, 10, 181, 0, 60, 42, 16, 10, 189, 0, 63, 89, 3, 187, 0, 63, 89]
abbrev dktX0_init_3 : List UInt8 := dkwX0_init_3 ++ dktX0_init_4
def dkwX0_init_2 : List UInt8 := [181, 0, 45, 42, 17, 0, 240, 188, 11, 181, 0, 49, 42, 16, 6, 188, 11, 181, 0, 53, 42, 16, 6]
abbrev dktX0_init_2 : List UInt8 := dkwX0_init_2 ++ dktX0_init_3
def dkwX0_init_1 : List UInt8 := [89, 8, 183, 0, 31, 181, 0, 34, 42, 187, 0, 38, 89, 183, 0, 40, 181, 0, 41, 42, 8, 188, 8]
abbrev dktX0_init_1 : List UInt8 := dkwX0_init_1 ++ dktX0_init_2
def dkwX0_init_0 : List UInt8 := [42, 183, 0, 5, 42, 184, 0, 11, 181, 0, 17, 42, 16, 6, 189, 0, 23, 181, 0, 25, 42, 187, 0, 29]
abbrev dktX0_init_0 : List UInt8 := dkwX0_init_0 ++ dktX0_init_1
theorem dksX0_init_0 : cX0_init.data.toList.drop 0 = dktX0_init_0 := by decide +kernel
theorem dksX0_init_1 : cX0_init.data.toList.drop 24 = dktX0_init_1 := dk_seg dksX0_init_0 24 rfl rfl
theorem dksX0_init_2 : cX0_init.data.toList.drop 47 = dktX0_init_2 := dk_seg dksX0_init_1 23 rfl rfl
theorem dksX0_init_3 : cX0_init.data.toList.drop 70 = dktX0_init_3 := dk_seg dksX0_init_2 23 rfl rfl
theorem dksX0_init_4 : cX0_init.data.toList.drop 94 = dktX0_init_4 := dk_seg dksX0_init_3 24 rfl rfl
theorem dksX0_init_5 : cX0_init.data.toList.drop 117 = dktX0_init_5 := dk_seg dksX0_init_4 23 rfl rfl
theorem dksX0_init_6 : cX0_init.data.toList.drop 139 = dktX0_init_6 := dk_seg dksX0_init_5 22 rfl rfl
theorem dksX0_init_7 : cX0_init.data.toList.drop 162 = dktX0_init_7 := dk_seg dksX0_init_6 23 rfl rfl
theorem dksX0_init_8 : cX0_init.data.toList.drop 186 = dktX0_init_8 := dk_seg dksX0_init_7 24 rfl rfl
theorem dksX0_init_9 : cX0_init.data.toList.drop 210 = dktX0_init_9 := dk_seg dksX0_init_8 24 rfl rfl
theorem dksX0_init_10 : cX0_init.data.toList.drop 234 = dktX0_init_10 := dk_seg dksX0_init_9 24 rfl rfl
theorem dX0_init_0 : decode cX0_init 0 = .ok (.aload_n 0, 1) := dk_42 (dk_at dksX0_init_0 0 rfl rfl)
theorem dX0_init_1 : decode cX0_init 1 = .ok (.invokespecial 5, 3) := dk_183 0 5 (dk_at dksX0_init_0 1 rfl rfl)
theorem dX0_init_4 : decode cX0_init 4 = .ok (.aload_n 0, 1) := dk_42 (dk_at dksX0_init_0 4 rfl rfl)
theorem dX0_init_5 : decode cX0_init 5 = .ok (.invokestatic 11, 3) := dk_184 0 11 (dk_at dksX0_init_0 5 rfl rfl)
theorem dX0_init_8 : decode cX0_init 8 = .ok (.putfield 17, 3) := dk_181 0 17 (dk_at dksX0_init_0 8 rfl rfl)
theorem dX0_init_11 : decode cX0_init 11 = .ok (.aload_n 0, 1) := dk_42 (dk_at dksX0_init_0 11 rfl rfl)
theorem dX0_init_12 : decode cX0_init 12 = .ok (.bipush 6, 2) := dk_16 6 (dk_at dksX0_init_0 12 rfl rfl)
theorem dX0_init_14 : decode cX0_init 14 = .ok (.anewarray 23, 3) := dk_189 0 23 (dk_at dksX0_init_0 14 rfl rfl)
theorem dX0_init_17 : decode cX0_init 17 = .ok (.putfield 25, 3) := dk_181 0 25 (dk_at dksX0_init_0 17 rfl rfl)
theorem dX0_init_20 : decode cX0_init 20 = .ok (.aload_n 0, 1) := dk_42 (dk_at dksX0_init_0 20 rfl rfl)
theorem dX0_init_21 : decode cX0_init 21 = .ok (.new 29, 3) := dk_187 0 29 (dk_at dksX0_init_0 21 rfl rfl)
theorem dX0_init_24 : decode cX0_init 24 = .ok (.dup, 1) := dk_89 (dk_at dksX0_init_1 0 rfl rfl)
theorem dX0_init_25 : decode cX0_init 25 = .ok (.iconst 5, 1) := dk_8 (dk_at dksX0_init_1 1 rfl rfl)
theorem dX0_init_26 : decode cX0_init 26 = .ok (.invokespecial 31, 3) := dk_183 0 31 (dk_at dksX0_init_1 2 rfl rfl)
theorem dX0_init_29 : decode cX0_init 29 = .ok (.putfield 34, 3) := dk_181 0 34 (dk_at dksX0_init_1 5 rfl rfl)
theorem dX0_init_32 : decode cX0_init 32 = .ok (.aload_n 0, 1) := dk_42 (dk_at dksX0_init_1 8 rfl rfl)
theorem dX0_init_33 : decode cX0_init 33 = .ok (.new 38, 3) := dk_187 0 38 (dk_at dksX0_init_1 9 rfl rfl)
theorem dX0_init_36 : decode cX0_init 36 = .ok (.dup, 1) := dk_89 (dk_at dksX0_init_1 12 rfl rfl)
theorem dX0_init_37 : decode cX0_init 37 = .ok (.invokespecial 40, 3) := dk_183 0 40 (dk_at dksX0_init_1 13 rfl rfl)
theorem dX0_init_40 : decode cX0_init 40 = .ok (.putfield 41, 3) := dk_181 0 41 (dk_at dksX0_init_1 16 rfl rfl)
theorem dX0_init_43 : decode cX0_init 43 = .ok (.aload_n 0, 1) := dk_42 (dk_at dksX0_init_1 19 rfl rfl)
theorem dX0_init_44 : decode cX0_init 44 = .ok (.iconst 5, 1) := dk_8 (dk_at dksX0_init_1 20 rfl rfl)
theorem dX0_init_45 : decode cX0_init 45 = .ok (.newarray .byte, 2) := dk_188_8 (dk_at dksX0_init_1 21 rfl rfl)
theorem dX0_init_47 : decode cX0_init 47 = .ok (.putfield 45, 3) := dk_181 0 45 (dk_at dksX0_init_2 0 rfl rfl)
theorem dX0_init_50 : decode cX0_init 50 = .ok (.aload_n 0, 1) := dk_42 (dk_at dksX0_init_2 3 rfl rfl)
theorem dX0_init_51 : decode cX0_init 51 = .ok (.sipush 240, 3) := dk_17 0 240 (dk_at dksX0_init_2 4 rfl rfl)
theorem dX0_init_54 : decode cX0_init 54 = .ok (.newarray .long, 2) := dk_188_11 (dk_at dksX0_init_2 7 rfl rfl)
theorem dX0_init_56 : decode cX0_init 56 = .ok (.putfield 49, 3) := dk_181 0 49 (dk_at dksX0_init_2 9 rfl rfl)
theorem dX0_init_59 : decode cX0_init 59 = .ok (.aload_n 0, 1) := dk_42 (dk_at dksX0_init_2 12 rfl rfl)
theorem dX0_init_60 : decode cX0_init 60 = .ok (.bipush 6, 2) := dk_16 6 (dk_at dksX0_init_2 13 rfl rfl)
theorem dX0_init_62 : decode cX0_init 62 = .ok (.newarray .long, 2) := dk_188_11 (dk_at dksX0_init_2 15 rfl rfl)
theorem dX0_init_64 : decode cX0_init 64 = .ok (.putfield 53, 3) := dk_181 0 53 (dk_at dksX0_init_2 17 rfl rfl)
theorem dX0_init_67 : decode cX0_init 67 = .ok (.aload_n 0, 1) := dk_42 (dk_at dksX0_init_2 20 rfl rfl)
theorem dX0_init_68 : decode cX0_init 68 = .ok (.bipush 6, 2) := dk_16 6 (dk_at dksX0_init_2 21 rfl rfl)
theorem dX0_init_70 : decode cX0_init 70 = .ok (.newarray .int, 2) := dk_188_10 (dk_at dksX0_init_3 0 rfl rfl)
theorem dX0_init_72 : decode cX0_init 72 = .ok (.putfield 56, 3) := dk_181 0 56 (dk_at dksX0_init_3 2 rfl rfl)
theorem dX0_init_75 : decode cX0_init 75 = .ok (.aload_n 0, 1) := dk_42 (dk_at dksX0_init_3 5 rfl rfl)
theorem dX0_init_76 : decode cX0_init 76 = .ok (.iconst 3, 1) := dk_6 (dk_at dksX0_init_3 6 rfl rfl)
theorem dX0_init_77 : decode cX0_init 77 = .ok (.newarray .int, 2) := dk_188_10 (dk_at dksX0_init_3 7 rfl rfl)
theorem dX0_init_79 : decode cX0_init 79 = .ok (.putfield 60, 3) := dk_181 0 60 (dk_at dksX0_init_3 9 rfl rfl)
theorem dX0_init_82 : decode cX0_init 82 = .ok (.aload_n 0, 1) := dk_42 (dk_at dksX0_init_3 12 rfl rfl)
theorem dX0_init_83 : decode cX0_init 83 = .ok (.bipush 10, 2) := dk_16 10 (dk_at dksX0_init_3 13 rfl rfl)
theorem dX0_init_85 : decode cX0_init 85 = .ok (.anewarray 63, 3) := dk_189 0 63 (dk_at dksX0_init_3 15 rfl rfl)
theorem dX0_init_88 : decode cX0_init 88 = .ok (.dup, 1) := dk_89 (dk_at dksX0_init_3 18 rfl rfl)
theorem dX0_init_89 : decode cX0_init 89 = .ok (.iconst 0, 1) := dk_3 (dk_at dksX0_init_3 19 rfl rfl)
theorem dX0_init_90 : decode cX0_init 90 = .ok (.new 63, 3) := dk_187 0 63 (dk_at dksX0_init_3 20 rfl rfl)
theorem dX0_init_93 : decode cX0_init 93 = .ok (.dup, 1) := dk_89 (dk_at dksX0_init_3 23 rfl rfl)
theorem dX0_init_94 : decode cX0_init 94 = .ok (.aload_n 0, 1) := dk_42 (dk_at dksX0_init_4 0 rfl rfl)
theorem dX0_init_95 : decode cX0_init 95 = .ok (.invokespecial 65, 3) := dk_183 0 65 (dk_at dksX0_init_4 1 rfl rfl)
theorem dX0_init_98 : decode cX0_init 98 = .ok (.aastore, 1) := dk_83 (dk_at dksX0_init_4 4 rfl rfl)
theorem dX0_init_99 : decode cX0_init 99 = .ok (.dup, 1) := dk_89 (dk_at dksX0_init_4 5 rfl rfl)
theorem dX0_init_100 : decode cX0_init 100 = .ok (.iconst 1, 1) := dk_4 (dk_at dksX0_init_4 6 rfl rfl)
theorem dX0_init_101 : decode cX0_init 101 = .ok (.new 63, 3) := dk_187 0 63 (dk_at dksX0_init_4 7 rfl rfl)
theorem dX0_init_104 : decode cX0_init 104 = .ok (.dup, 1) := dk_89 (dk_at dksX0_init_4 10 rfl rfl)
theorem dX0_init_105 : decode cX0_init 105 = .ok (.aload_n 0, 1) := dk_42 (dk_at dksX0_init_4 11 rfl rfl)
theorem dX0_init_106 : decode cX0_init 106 = .ok (.invokespecial 65, 3) := dk_183 0 65 (dk_at dksX0_init_4 12 rfl rfl)
theorem dX0_init_109 : decode cX0_init 109 = .ok (.aastore, 1) := dk_83 (dk_at dksX0_init_4 15 rfl rfl)
theorem dX0_init_110 : decode cX0_init 110 = .ok (.dup, 1) := dk_89 (dk_at dksX0_init_4 16 rfl rfl)
theorem dX0_init_111 : decode cX0_init 111 = .ok (.iconst 2, 1) := dk_5 (dk_at dksX0_init_4 17 rfl rfl)
theorem dX0_init_112 : decode cX0_init 112 = .ok (.new 63, 3) := dk_187 0 63 (dk_at dksX0_init_4 18 rfl rfl)
theorem dX0_init_115 : decode cX0_init 115 = .ok (.dup, 1) := dk_89 (dk_at dksX0_init_4 21 rfl rfl)
theorem dX0_init_116 : decode cX0_init 116 = .ok (.aload_n 0, 1) := dk_42 (dk_at dksX0_init_4 22 rfl rfl)
theorem dX0_init_117 : decode cX0_init 117 = .ok (.invokespecial 65, 3) := dk_183 0 65 (dk_at dksX0_init_5 0 rfl rfl)
theorem dX0_init_120 : decode cX0_init 120 = .ok (.aastore, 1) := dk_83 (dk_at dksX0_init_5 3 rfl rfl)
theorem dX0_init_121 : decode cX0_init 121 = .ok (.dup, 1) := dk_89 (dk_at dksX0_init_5 4 rfl rfl)
theorem dX0_init_122 : decode cX0_init 122 = .ok (.iconst 3, 1) := dk_6 (dk_at dksX0_init_5 5 rfl rfl)
theorem dX0_init_123 : decode cX0_init 123 = .ok (.new 63, 3) := dk_187 0 63 (dk_at dksX0_init_5 6 rfl rfl)
theorem dX0_init_126 : decode cX0_init 126 = .ok (.dup, 1) := dk_89 (dk_at dksX0_init_5 9 rfl rfl)
theorem dX0_init_127 : decode cX0_init 127 = .ok (.aload_n 0, 1) := dk_42 (dk_at dksX0_init_5 10 rfl rfl)
theorem dX0_init_128 : decode cX0_init 128 = .ok (.invokespecial 65, 3) := dk_183 0 65 (dk_at dksX0_init_5 11 rfl rfl)
theorem dX0_init_131 : decode cX0_init 131 = .ok (.aastore, 1) := dk_83 (dk_at dksX0_init_5 14 rfl rfl)
theorem dX0_init_132 : decode cX0_init 132 = .ok (.dup, 1) := dk_89 (dk_at dksX0_init_5 15 rfl rfl)
theorem dX0_init_133 : decode cX0_init 133 = .ok (.iconst 4, 1) := dk_7 (dk_at dksX0_init_5 16 rfl rfl)
theorem dX0_init_134 : decode cX0_init 134 = .ok (.new 63, 3) := dk_187 0 63 (dk_at dksX0_init_5 17 rfl rfl)
theorem dX0_init_137 : decode cX0_init 137 = .ok (.dup, 1) := dk_89 (dk_at dksX0_init_5 20 rfl rfl)
theorem dX0_init_138 : decode cX0_init 138 = .ok (.aload_n 0, 1) := dk_42 (dk_at dksX0_init_5 21 rfl rfl)
theorem dX0_init_139 : decode cX0_init 139 = .ok (.invokespecial 65, 3) := dk_183 0 65 (dk_at dksX0_init_6 0 rfl rfl)
theorem dX0_init_142 : decode cX0_init 142 = .ok (.aastore, 1) := dk_83 (dk_at dksX0_init_6 3 rfl rfl)
theorem dX0_init_143 : decode cX0_init 143 = .ok (.dup, 1) := dk_89 (dk_at dksX0_init_6 4 rfl rfl)
theorem dX0_init_144 : decode cX0_init 144 = .ok (.iconst 5, 1) := dk_8 (dk_at dksX0_init_6 5 rfl rfl)
theorem dX0_init_145 : decode cX0_init 145 = .ok (.new 63, 3) := dk_187 0 63 (dk_at dksX0_init_6 6 rfl rfl)
theorem dX0_init_148 : decode cX0_init 148 = .ok (.dup, 1) := dk_89 (dk_at dksX0_init_6 9 rfl rfl)
theorem dX0_init_149 : decode cX0_init 149 = .ok (.aload_n 0, 1) := dk_42 (dk_at dksX0_init_6 10 rfl rfl)
theorem dX0_init_150 : decode cX0_init 150 = .ok (.invokespecial 65, 3) := dk_183 0 65 (dk_at dksX0_init_6 11 rfl rfl)
theorem dX0_init_153 : decode cX0_init 153 = .ok (.aastore, 1) := dk_83 (dk_at dksX0_init_6 14 rfl rfl)
theorem dX0_init_154 : decode cX0_init 154 = .ok (.dup, 1) := dk_89 (dk_at dksX0_init_6 15 rfl rfl)
theorem dX0_init_155 : decode cX0_init 155 = .ok (.bipush 6, 2) := dk_16 6 (dk_at dksX0_init_6 16 rfl rfl)
theorem dX0_init_157 : decode cX0_init 157 = .ok (.new 63, 3) := dk_187 0 63 (dk_at dksX0_init_6 18 rfl rfl)
theorem dX0_init_160 : decode cX0_init 160 = .ok (.dup, 1) := dk_89 (dk_at dksX0_init_6 21 rfl rfl)
theorem dX0_init_161 : decode cX0_init 161 = .ok (.aload_n 0, 1) := dk_42 (dk_at dksX0_init_6 22 rfl rfl)
theorem dX0_init_162 : decode cX0_init 162 = .ok (.invokespecial 65, 3) := dk_183 0 65 (dk_at dksX0_init_7 0 rfl rfl)
theorem dX0_init_165 : decode cX0_init 165 = .ok (.aastore, 1) := dk_83 (dk_at dksX0_init_7 3 rfl rfl)
theorem dX0_init_166 : decode cX0_init 166 = .ok (.dup, 1) := dk_89 (dk_at dksX0_init_7 4 rfl rfl)
theorem dX0_init_167 : decode cX0_init 167 = .ok (.bipush 7, 2) := dk_16 7 (dk_at dksX0_init_7 5 rfl rfl)
theorem dX0_init_169 : decode cX0_init 169 = .ok (.new 63, 3) := dk_187 0 63 (dk_at dksX0_init_7 7 rfl rfl)
theorem dX0_init_172 : decode cX0_init 172 = .ok (.dup, 1) := dk_89 (dk_at dksX0_init_7 10 rfl rfl)
theorem dX0_init_173 : decode cX0_init 173 = .ok (.aload_n 0, 1) := dk_42 (dk_at dksX0_init_7 11 rfl rfl)
theorem dX0_init_174 : decode cX0_init 174 = .ok (.invokespecial 65, 3) := dk_183 0 65 (dk_at dksX0_init_7 12 rfl rfl)
theorem dX0_init_177 : decode cX0_init 177 = .ok (.aastore, 1) := dk_83 (dk_at dksX0_init_7 15 rfl rfl)
theorem dX0_init_178 : decode cX0_init 178 = .ok (.dup, 1) := dk_89 (dk_at dksX0_init_7 16 rfl rfl)
theorem dX0_init_179 : decode cX0_init 179 = .ok (.bipush 8, 2) := dk_16 8 (dk_at dksX0_init_7 17 rfl rfl)
theorem dX0_init_181 : decode cX0_init 181 = .ok (.new 63, 3) := dk_187 0 63 (dk_at dksX0_init_7 19 rfl rfl)
theorem dX0_init_184 : decode cX0_init 184 = .ok (.dup, 1) := dk_89 (dk_at dksX0_init_7 22 rfl rfl)
theorem dX0_init_185 : decode cX0_init 185 = .ok (.aload_n 0, 1) := dk_42 (dk_at dksX0_init_7 23 rfl rfl)
theorem dX0_init_186 : decode cX0_init 186 = .ok (.invokespecial 65, 3) := dk_183 0 65 (dk_at dksX0_init_8 0 rfl rfl)
theorem dX0_init_189 : decode cX0_init 189 = .ok (.aastore, 1) := dk_83 (dk_at dksX0_init_8 3 rfl rfl)
theorem dX0_init_190 : decode cX0_init 190 = .ok (.dup, 1) := dk_89 (dk_at dksX0_init_8 4 rfl rfl)
theorem dX0_init_191 : decode cX0_init 191 = .ok (.bipush 9, 2) := dk_16 9 (dk_at dksX0_init_8 5 rfl rfl)
theorem dX0_init_193 : decode cX0_init 193 = .ok (.new 63, 3) := dk_187 0 63 (dk_at dksX0_init_8 7 rfl rfl)
theorem dX0_init_196 : decode cX0_init 196 = .ok (.dup, 1) := dk_89 (dk_at dksX0_init_8 10 rfl rfl)
theorem dX0_init_197 : decode cX0_init 197 = .ok (.aload_n 0, 1) := dk_42 (dk_at dksX0_init_8 11 rfl rfl)
theorem dX0_init_198 : decode cX0_init 198 = .ok (.invokespecial 65, 3) := dk_183 0 65 (dk_at dksX0_init_8 12 rfl rfl)
theorem dX0_init_201 : decode cX0_init 201 = .ok (.aastore, 1) := dk_83 (dk_at dksX0_init_8 15 rfl rfl)
theorem dX0_init_202 : decode cX0_init 202 = .ok (.putfield 68, 3) := dk_181 0 68 (dk_at dksX0_init_8 16 rfl rfl)
theorem dX0_init_205 : decode cX0_init 205 = .ok (.aload_n 0, 1) := dk_42 (dk_at dksX0_init_8 19 rfl rfl)
theorem dX0_init_206 : decode cX0_init 206 = .ok (.bipush 10, 2) := dk_16 10 (dk_at dksX0_init_8 20 rfl rfl)
theorem dX0_init_208 : decode cX0_init 208 = .ok (.newarray .int, 2) := dk_188_10 (dk_at dksX0_init_8 22 rfl rfl)
theorem dX0_init_210 : decode cX0_init 210 = .ok (.putfield 71, 3) := dk_181 0 71 (dk_at dksX0_init_9 0 rfl rfl)
theorem dX0_init_213 : decode cX0_init 213 = .ok (.aload_n 0, 1) := dk_42 (dk_at dksX0_init_9 3 rfl rfl)
theorem dX0_init_214 : decode cX0_init 214 = .ok (.iconst 3, 1) := dk_6 (dk_at dksX0_init_9 4 rfl rfl)
theorem dX0_init_215 : decode cX0_init 215 = .ok (.newarray .int, 2) := dk_188_10 (dk_at dksX0_init_9 5 rfl rfl)
theorem dX0_init_217 : decode cX0_init 217 = .ok (.putfield 74, 3) := dk_181 0 74 (dk_at dksX0_init_9 7 rfl rfl)
theorem dX0_init_220 : decode cX0_init 220 = .ok (.aload_n 0, 1) := dk_42 (dk_at dksX0_init_9 10 rfl rfl)
theorem dX0_init_221 : decode cX0_init 221 = .ok (.bipush 10, 2) := dk_16 10 (dk_at dksX0_init_9 11 rfl rfl)
theorem dX0_init_223 : decode cX0_init 223 = .ok (.newarray .int, 2) := dk_188_10 (dk_at dksX0_init_9 13 rfl rfl)
theorem dX0_init_225 : decode cX0_init 225 = .ok (.putfield 77, 3) := dk_181 0 77 (dk_at dksX0_init_9 15 rfl rfl)
theorem dX0_init_228 : decode cX0_init 228 = .ok (.aload_n 0, 1) := dk_42 (dk_at dksX0_init_9 18 rfl rfl)
theorem dX0_init_229 : decode cX0_init 229 = .ok (.sipush 144, 3) := dk_17 0 144 (dk_at dksX0_init_9 19 rfl rfl)
theorem dX0_init_232 : decode cX0_init 232 = .ok (.newarray .double, 2) := dk_188_7 (dk_at dksX0_init_9 22 rfl rfl)
theorem dX0_init_234 : decode cX0_init 234 = .ok (.putfield 80, 3) := dk_181 0 80 (dk_at dksX0_init_10 0 rfl rfl)
theorem dX0_init_237 : decode cX0_init 237 = .ok (.aload_n 0, 1) := dk_42 (dk_at dksX0_init_10 3 rfl rfl)
theorem dX0_init_238 : decode cX0_init 238 = .ok (.sipush 144, 3) := dk_17 0 144 (dk_at dksX0_init_10 4 rfl rfl)
theorem dX0_init_241 : decode cX0_init 241 = .ok (.newarray .int, 2) := dk_188_10 (dk_at dksX0_init_10 7 rfl rfl)
theorem dX0_init_243 : decode cX0_init 243 = .ok (.putfield 84, 3) := dk_181 0 84 (dk_at dksX0_init_10 9 rfl rfl)
theorem dX0_init_246 : decode cX0_init 246 = .ok (.aload_n 0, 1) := dk_42 (dk_at dksX0_init_10 12 rfl rfl)
theorem dX0_init_247 : decode cX0_init 247 = .ok (.sipush 144, 3) := dk_17 0 144 (dk_at dksX0_init_10 13 rfl rfl)
theorem dX0_init_250 : decode cX0_init 250 = .ok (.newarray .double, 2) := dk_188_7 (dk_at dksX0_init_10 16 rfl rfl)
theorem dX0_init_252 : decode cX0_init 252 = .ok (.putfield 87, 3) := dk_181 0 87 (dk_at dksX0_init_10 18 rfl rfl)
theorem dX0_init_255 : decode cX0_init 255 = .ok (.return_, 1) := dk_177 (dk_at dksX0_init_10 21 rfl rfl)
abbrev cX0_row : ByteArray := prog_1_method_8_code
def yX0_row : MethodName := ⟨RX0, "row", "(III)I"⟩
def dkwX0_row_2 : List UInt8 := [58, 4, 42, 8, 182, 0, 117, 172]
abbrev dktX0_row_2 : List UInt8 := dkwX0_row_2 ++ []
def dkwX0_row_1 : List UInt8 := [164, 0, 6, 16, 254, 172, 42, 180, 0, 25, 27, 187, 0, 23, 89, 28, 29, 183, 0, 112, 83, 29, 172]
abbrev dktX0_row_1 : List UInt8 := dkwX0_row_1 ++ dktX0_row_2
def dkwX0_row_0 : List UInt8 := [27, 184, 0, 106, 153, 0, 21, 28, 133, 9, 20, 0, 110, 184, 0, 90, 153, 0, 9, 29, 16, 24]
abbrev dktX0_row_0 : List UInt8 := dkwX0_row_0 ++ dktX0_row_1
theorem dksX0_row_0 : cX0_row.data.toList.drop 0 = dktX0_row_0 := by decide +kernel
theorem dksX0_row_1 : cX0_row.data.toList.drop 22 = dktX0_row_1 := dk_seg dksX0_row_0 22 rfl rfl
theorem dksX0_row_2 : cX0_row.data.toList.drop 45 = dktX0_row_2 := dk_seg dksX0_row_1 23 rfl rfl
theorem dX0_row_0 : decode cX0_row 0 = .ok (.iload_n 1, 1) := dk_27 (dk_at dksX0_row_0 0 rfl rfl)
theorem dX0_row_1 : decode cX0_row 1 = .ok (.invokestatic 106, 3) := dk_184 0 106 (dk_at dksX0_row_0 1 rfl rfl)
theorem dX0_row_4 : decode cX0_row 4 = .ok (.ifCond .eq 21, 3) := dk_153 0 21 (dk_at dksX0_row_0 4 rfl rfl)
theorem dX0_row_7 : decode cX0_row 7 = .ok (.iload_n 2, 1) := dk_28 (dk_at dksX0_row_0 7 rfl rfl)
theorem dX0_row_8 : decode cX0_row 8 = .ok (.i2l, 1) := dk_133 (dk_at dksX0_row_0 8 rfl rfl)
theorem dX0_row_9 : decode cX0_row 9 = .ok (.lconst 0, 1) := dk_9 (dk_at dksX0_row_0 9 rfl rfl)
theorem dX0_row_10 : decode cX0_row 10 = .ok (.ldc2_w 110, 3) := dk_20 0 110 (dk_at dksX0_row_0 10 rfl rfl)
theorem dX0_row_13 : decode cX0_row 13 = .ok (.invokestatic 90, 3) := dk_184 0 90 (dk_at dksX0_row_0 13 rfl rfl)
theorem dX0_row_16 : decode cX0_row 16 = .ok (.ifCond .eq 9, 3) := dk_153 0 9 (dk_at dksX0_row_0 16 rfl rfl)
theorem dX0_row_19 : decode cX0_row 19 = .ok (.iload_n 3, 1) := dk_29 (dk_at dksX0_row_0 19 rfl rfl)
theorem dX0_row_20 : decode cX0_row 20 = .ok (.bipush 24, 2) := dk_16 24 (dk_at dksX0_row_0 20 rfl rfl)
theorem dX0_row_22 : decode cX0_row 22 = .ok (.if_icmp .le 6, 3) := dk_164 0 6 (dk_at dksX0_row_1 0 rfl rfl)
theorem dX0_row_25 : decode cX0_row 25 = .ok (.bipush (-2), 2) := dk_16 254 (dk_at dksX0_row_1 3 rfl rfl)
theorem dX0_row_27 : decode cX0_row 27 = .ok (.ireturn, 1) := dk_172 (dk_at dksX0_row_1 5 rfl rfl)
theorem dX0_row_28 : decode cX0_row 28 = .ok (.aload_n 0, 1) := dk_42 (dk_at dksX0_row_1 6 rfl rfl)
theorem dX0_row_29 : decode cX0_row 29 = .ok (.getfield 25, 3) := dk_180 0 25 (dk_at dksX0_row_1 7 rfl rfl)
theorem dX0_row_32 : decode cX0_row 32 = .ok (.iload_n 1, 1) := dk_27 (dk_at dksX0_row_1 10 rfl rfl)
theorem dX0_row_33 : decode cX0_row 33 = .ok (.new 23, 3) := dk_187 0 23 (dk_at dksX0_row_1 11 rfl rfl)
theorem dX0_row_36 : decode cX0_row 36 = .ok (.dup, 1) := dk_89 (dk_at dksX0_row_1 14 rfl rfl)
theorem dX0_row_37 : decode cX0_row 37 = .ok (.iload_n 2, 1) := dk_28 (dk_at dksX0_row_1 15 rfl rfl)
theorem dX0_row_38 : decode cX0_row 38 = .ok (.iload_n 3, 1) := dk_29 (dk_at dksX0_row_1 16 rfl rfl)
theorem dX0_row_39 : decode cX0_row 39 = .ok (.invokespecial 112, 3) := dk_183 0 112 (dk_at dksX0_row_1 17 rfl rfl)
theorem dX0_row_42 : decode cX0_row 42 = .ok (.aastore, 1) := dk_83 (dk_at dksX0_row_1 20 rfl rfl)
theorem dX0_row_43 : decode cX0_row 43 = .ok (.iload_n 3, 1) := dk_29 (dk_at dksX0_row_1 21 rfl rfl)
theorem dX0_row_44 : decode cX0_row 44 = .ok (.ireturn, 1) := dk_172 (dk_at dksX0_row_1 22 rfl rfl)
theorem dX0_row_45 : decode cX0_row 45 = .ok (.astore 4, 2) := dk_58 4 (dk_at dksX0_row_2 0 rfl rfl)
theorem dX0_row_47 : decode cX0_row 47 = .ok (.aload_n 0, 1) := dk_42 (dk_at dksX0_row_2 2 rfl rfl)
theorem dX0_row_48 : decode cX0_row 48 = .ok (.iconst 5, 1) := dk_8 (dk_at dksX0_row_2 3 rfl rfl)
theorem dX0_row_49 : decode cX0_row 49 = .ok (.invokevirtual 117, 3) := dk_182 0 117 (dk_at dksX0_row_2 4 rfl rfl)
theorem dX0_row_52 : decode cX0_row 52 = .ok (.ireturn, 1) := dk_172 (dk_at dksX0_row_2 7 rfl rfl)
abbrev cX0_isRow : ByteArray := prog_1_method_6_code
def yX0_isRow : MethodName := ⟨RX0, "isRow", "(I)Z"⟩
def dkwX0_isRow_0 : List UInt8 := [26, 133, 9, 20, 0, 100, 184, 0, 90, 172]
abbrev dktX0_isRow_0 : List UInt8 := dkwX0_isRow_0 ++ []
theorem dksX0_isRow_0 : cX0_isRow.data.toList.drop 0 = dktX0_isRow_0 := by decide +kernel
theorem dX0_isRow_0 : decode cX0_isRow 0 = .ok (.iload_n 0, 1) := dk_26 (dk_at dksX0_isRow_0 0 rfl rfl)
theorem dX0_isRow_1 : decode cX0_isRow 1 = .ok (.i2l, 1) := dk_133 (dk_at dksX0_isRow_0 1 rfl rfl)
theorem dX0_isRow_2 : decode cX0_isRow 2 = .ok (.lconst 0, 1) := dk_9 (dk_at dksX0_isRow_0 2 rfl rfl)
theorem dX0_isRow_3 : decode cX0_isRow 3 = .ok (.ldc2_w 100, 3) := dk_20 0 100 (dk_at dksX0_isRow_0 3 rfl rfl)
theorem dX0_isRow_6 : decode cX0_isRow 6 = .ok (.invokestatic 90, 3) := dk_184 0 90 (dk_at dksX0_isRow_0 6 rfl rfl)
theorem dX0_isRow_9 : decode cX0_isRow 9 = .ok (.ireturn, 1) := dk_172 (dk_at dksX0_isRow_0 9 rfl rfl)
abbrev cX0_in : ByteArray := prog_1_method_2_code
def yX0_in : MethodName := ⟨RX0, "in", "(JJJ)Z"⟩
def dkwX0_in_0 : List UInt8 := [30, 32, 148, 155, 0, 14, 30, 22, 4, 148, 157, 0, 7, 4, 167, 0, 4, 3, 172]
abbrev dktX0_in_0 : List UInt8 := dkwX0_in_0 ++ []
theorem dksX0_in_0 : cX0_in.data.toList.drop 0 = dktX0_in_0 := by decide +kernel
theorem dX0_in_0 : decode cX0_in 0 = .ok (.lload_n 0, 1) := dk_30 (dk_at dksX0_in_0 0 rfl rfl)
theorem dX0_in_1 : decode cX0_in 1 = .ok (.lload_n 2, 1) := dk_32 (dk_at dksX0_in_0 1 rfl rfl)
theorem dX0_in_2 : decode cX0_in 2 = .ok (.lcmp, 1) := dk_148 (dk_at dksX0_in_0 2 rfl rfl)
theorem dX0_in_3 : decode cX0_in 3 = .ok (.ifCond .lt 14, 3) := dk_155 0 14 (dk_at dksX0_in_0 3 rfl rfl)
theorem dX0_in_6 : decode cX0_in 6 = .ok (.lload_n 0, 1) := dk_30 (dk_at dksX0_in_0 6 rfl rfl)
theorem dX0_in_7 : decode cX0_in 7 = .ok (.lload 4, 2) := dk_22 4 (dk_at dksX0_in_0 7 rfl rfl)
theorem dX0_in_9 : decode cX0_in 9 = .ok (.lcmp, 1) := dk_148 (dk_at dksX0_in_0 9 rfl rfl)
theorem dX0_in_10 : decode cX0_in 10 = .ok (.ifCond .gt 7, 3) := dk_157 0 7 (dk_at dksX0_in_0 10 rfl rfl)
theorem dX0_in_13 : decode cX0_in 13 = .ok (.iconst 1, 1) := dk_4 (dk_at dksX0_in_0 13 rfl rfl)
theorem dX0_in_14 : decode cX0_in 14 = .ok (.goto 4, 3) := dk_167 0 4 (dk_at dksX0_in_0 14 rfl rfl)
theorem dX0_in_17 : decode cX0_in 17 = .ok (.iconst 0, 1) := dk_3 (dk_at dksX0_in_0 17 rfl rfl)
theorem dX0_in_18 : decode cX0_in 18 = .ok (.ireturn, 1) := dk_172 (dk_at dksX0_in_0 18 rfl rfl)
abbrev cX0_finds : ByteArray := prog_1_method_5_code
def yX0_finds : MethodName := ⟨RX0, "finds", "(I)I"⟩
def dkwX0_finds_0 : List UInt8 := [42, 27, 181, 0, 96, 16, 246, 27, 100, 172]
abbrev dktX0_finds_0 : List UInt8 := dkwX0_finds_0 ++ []
theorem dksX0_finds_0 : cX0_finds.data.toList.drop 0 = dktX0_finds_0 := by decide +kernel
theorem dX0_finds_0 : decode cX0_finds 0 = .ok (.aload_n 0, 1) := dk_42 (dk_at dksX0_finds_0 0 rfl rfl)
theorem dX0_finds_1 : decode cX0_finds 1 = .ok (.iload_n 1, 1) := dk_27 (dk_at dksX0_finds_0 1 rfl rfl)
theorem dX0_finds_2 : decode cX0_finds 2 = .ok (.putfield 96, 3) := dk_181 0 96 (dk_at dksX0_finds_0 2 rfl rfl)
theorem dX0_finds_5 : decode cX0_finds 5 = .ok (.bipush (-10), 2) := dk_16 246 (dk_at dksX0_finds_0 5 rfl rfl)
theorem dX0_finds_7 : decode cX0_finds 7 = .ok (.iload_n 1, 1) := dk_27 (dk_at dksX0_finds_0 7 rfl rfl)
theorem dX0_finds_8 : decode cX0_finds 8 = .ok (.isub, 1) := dk_100 (dk_at dksX0_finds_0 8 rfl rfl)
theorem dX0_finds_9 : decode cX0_finds 9 = .ok (.ireturn, 1) := dk_172 (dk_at dksX0_finds_0 9 rfl rfl)
abbrev cX0_lose : ByteArray := prog_1_method_9_code
def yX0_lose : MethodName := ⟨RX0, "lose", "(I)I"⟩
def dkwX0_lose_1 : List UInt8 := [27, 1, 83, 28, 172, 77, 42, 4, 182, 0, 117, 172]
abbrev dktX0_lose_1 : List UInt8 := dkwX0_lose_1 ++ []
def dkwX0_lose_0 : List UInt8 := [27, 184, 0, 106, 154, 0, 6, 16, 254, 172, 42, 180, 0, 25, 27, 50, 180, 0, 121, 61, 42, 180, 0, 25]
abbrev dktX0_lose_0 : List UInt8 := dkwX0_lose_0 ++ dktX0_lose_1
theorem dksX0_lose_0 : cX0_lose.data.toList.drop 0 = dktX0_lose_0 := by decide +kernel
theorem dksX0_lose_1 : cX0_lose.data.toList.drop 24 = dktX0_lose_1 := dk_seg dksX0_lose_0 24 rfl rfl
theorem dX0_lose_0 : decode cX0_lose 0 = .ok (.iload_n 1, 1) := dk_27 (dk_at dksX0_lose_0 0 rfl rfl)
theorem dX0_lose_1 : decode cX0_lose 1 = .ok (.invokestatic 106, 3) := dk_184 0 106 (dk_at dksX0_lose_0 1 rfl rfl)
theorem dX0_lose_4 : decode cX0_lose 4 = .ok (.ifCond .ne 6, 3) := dk_154 0 6 (dk_at dksX0_lose_0 4 rfl rfl)
theorem dX0_lose_7 : decode cX0_lose 7 = .ok (.bipush (-2), 2) := dk_16 254 (dk_at dksX0_lose_0 7 rfl rfl)
theorem dX0_lose_9 : decode cX0_lose 9 = .ok (.ireturn, 1) := dk_172 (dk_at dksX0_lose_0 9 rfl rfl)
theorem dX0_lose_10 : decode cX0_lose 10 = .ok (.aload_n 0, 1) := dk_42 (dk_at dksX0_lose_0 10 rfl rfl)
theorem dX0_lose_11 : decode cX0_lose 11 = .ok (.getfield 25, 3) := dk_180 0 25 (dk_at dksX0_lose_0 11 rfl rfl)
theorem dX0_lose_14 : decode cX0_lose 14 = .ok (.iload_n 1, 1) := dk_27 (dk_at dksX0_lose_0 14 rfl rfl)
theorem dX0_lose_15 : decode cX0_lose 15 = .ok (.aaload, 1) := dk_50 (dk_at dksX0_lose_0 15 rfl rfl)
theorem dX0_lose_16 : decode cX0_lose 16 = .ok (.getfield 121, 3) := dk_180 0 121 (dk_at dksX0_lose_0 16 rfl rfl)
theorem dX0_lose_19 : decode cX0_lose 19 = .ok (.istore_n 2, 1) := dk_61 (dk_at dksX0_lose_0 19 rfl rfl)
theorem dX0_lose_20 : decode cX0_lose 20 = .ok (.aload_n 0, 1) := dk_42 (dk_at dksX0_lose_0 20 rfl rfl)
theorem dX0_lose_21 : decode cX0_lose 21 = .ok (.getfield 25, 3) := dk_180 0 25 (dk_at dksX0_lose_0 21 rfl rfl)
theorem dX0_lose_24 : decode cX0_lose 24 = .ok (.iload_n 1, 1) := dk_27 (dk_at dksX0_lose_1 0 rfl rfl)
theorem dX0_lose_25 : decode cX0_lose 25 = .ok (.aconst_null, 1) := dk_1 (dk_at dksX0_lose_1 1 rfl rfl)
theorem dX0_lose_26 : decode cX0_lose 26 = .ok (.aastore, 1) := dk_83 (dk_at dksX0_lose_1 2 rfl rfl)
theorem dX0_lose_27 : decode cX0_lose 27 = .ok (.iload_n 2, 1) := dk_28 (dk_at dksX0_lose_1 3 rfl rfl)
theorem dX0_lose_28 : decode cX0_lose 28 = .ok (.ireturn, 1) := dk_172 (dk_at dksX0_lose_1 4 rfl rfl)
theorem dX0_lose_29 : decode cX0_lose 29 = .ok (.astore_n 2, 1) := dk_77 (dk_at dksX0_lose_1 5 rfl rfl)
theorem dX0_lose_30 : decode cX0_lose 30 = .ok (.aload_n 0, 1) := dk_42 (dk_at dksX0_lose_1 6 rfl rfl)
theorem dX0_lose_31 : decode cX0_lose 31 = .ok (.iconst 1, 1) := dk_4 (dk_at dksX0_lose_1 7 rfl rfl)
theorem dX0_lose_32 : decode cX0_lose 32 = .ok (.invokevirtual 117, 3) := dk_182 0 117 (dk_at dksX0_lose_1 8 rfl rfl)
theorem dX0_lose_35 : decode cX0_lose 35 = .ok (.ireturn, 1) := dk_172 (dk_at dksX0_lose_1 11 rfl rfl)
abbrev cX0_put : ByteArray := prog_1_method_10_code
def yX0_put : MethodName := ⟨RX0, "put", "(IIII)I"⟩
def dkwX0_put_2 : List UInt8 := [42, 6, 182, 0, 117, 172, 58, 5, 42, 5, 182, 0, 117, 172]
abbrev dktX0_put_2 : List UInt8 := dkwX0_put_2 ++ []
def dkwX0_put_1 : List UInt8 := [180, 0, 25, 27, 50, 28, 29, 21, 4, 182, 0, 126, 4, 172, 58, 5, 42, 4, 182, 0, 117, 172, 58, 5]
abbrev dktX0_put_1 : List UInt8 := dkwX0_put_1 ++ dktX0_put_2
def dkwX0_put_0 : List UInt8 := [27, 184, 0, 106, 153, 0, 15, 28, 133, 9, 20, 0, 110, 184, 0, 90, 154, 0, 6, 16, 254, 172, 42]
abbrev dktX0_put_0 : List UInt8 := dkwX0_put_0 ++ dktX0_put_1
theorem dksX0_put_0 : cX0_put.data.toList.drop 0 = dktX0_put_0 := by decide +kernel
theorem dksX0_put_1 : cX0_put.data.toList.drop 23 = dktX0_put_1 := dk_seg dksX0_put_0 23 rfl rfl
theorem dksX0_put_2 : cX0_put.data.toList.drop 47 = dktX0_put_2 := dk_seg dksX0_put_1 24 rfl rfl
theorem dX0_put_0 : decode cX0_put 0 = .ok (.iload_n 1, 1) := dk_27 (dk_at dksX0_put_0 0 rfl rfl)
theorem dX0_put_1 : decode cX0_put 1 = .ok (.invokestatic 106, 3) := dk_184 0 106 (dk_at dksX0_put_0 1 rfl rfl)
theorem dX0_put_4 : decode cX0_put 4 = .ok (.ifCond .eq 15, 3) := dk_153 0 15 (dk_at dksX0_put_0 4 rfl rfl)
theorem dX0_put_7 : decode cX0_put 7 = .ok (.iload_n 2, 1) := dk_28 (dk_at dksX0_put_0 7 rfl rfl)
theorem dX0_put_8 : decode cX0_put 8 = .ok (.i2l, 1) := dk_133 (dk_at dksX0_put_0 8 rfl rfl)
theorem dX0_put_9 : decode cX0_put 9 = .ok (.lconst 0, 1) := dk_9 (dk_at dksX0_put_0 9 rfl rfl)
theorem dX0_put_10 : decode cX0_put 10 = .ok (.ldc2_w 110, 3) := dk_20 0 110 (dk_at dksX0_put_0 10 rfl rfl)
theorem dX0_put_13 : decode cX0_put 13 = .ok (.invokestatic 90, 3) := dk_184 0 90 (dk_at dksX0_put_0 13 rfl rfl)
theorem dX0_put_16 : decode cX0_put 16 = .ok (.ifCond .ne 6, 3) := dk_154 0 6 (dk_at dksX0_put_0 16 rfl rfl)
theorem dX0_put_19 : decode cX0_put 19 = .ok (.bipush (-2), 2) := dk_16 254 (dk_at dksX0_put_0 19 rfl rfl)
theorem dX0_put_21 : decode cX0_put 21 = .ok (.ireturn, 1) := dk_172 (dk_at dksX0_put_0 21 rfl rfl)
theorem dX0_put_22 : decode cX0_put 22 = .ok (.aload_n 0, 1) := dk_42 (dk_at dksX0_put_0 22 rfl rfl)
theorem dX0_put_23 : decode cX0_put 23 = .ok (.getfield 25, 3) := dk_180 0 25 (dk_at dksX0_put_1 0 rfl rfl)
theorem dX0_put_26 : decode cX0_put 26 = .ok (.iload_n 1, 1) := dk_27 (dk_at dksX0_put_1 3 rfl rfl)
theorem dX0_put_27 : decode cX0_put 27 = .ok (.aaload, 1) := dk_50 (dk_at dksX0_put_1 4 rfl rfl)
theorem dX0_put_28 : decode cX0_put 28 = .ok (.iload_n 2, 1) := dk_28 (dk_at dksX0_put_1 5 rfl rfl)
theorem dX0_put_29 : decode cX0_put 29 = .ok (.iload_n 3, 1) := dk_29 (dk_at dksX0_put_1 6 rfl rfl)
theorem dX0_put_30 : decode cX0_put 30 = .ok (.iload 4, 2) := dk_21 4 (dk_at dksX0_put_1 7 rfl rfl)
theorem dX0_put_32 : decode cX0_put 32 = .ok (.invokevirtual 126, 3) := dk_182 0 126 (dk_at dksX0_put_1 9 rfl rfl)
theorem dX0_put_35 : decode cX0_put 35 = .ok (.iconst 1, 1) := dk_4 (dk_at dksX0_put_1 12 rfl rfl)
theorem dX0_put_36 : decode cX0_put 36 = .ok (.ireturn, 1) := dk_172 (dk_at dksX0_put_1 13 rfl rfl)
theorem dX0_put_37 : decode cX0_put 37 = .ok (.astore 5, 2) := dk_58 5 (dk_at dksX0_put_1 14 rfl rfl)
theorem dX0_put_39 : decode cX0_put 39 = .ok (.aload_n 0, 1) := dk_42 (dk_at dksX0_put_1 16 rfl rfl)
theorem dX0_put_40 : decode cX0_put 40 = .ok (.iconst 1, 1) := dk_4 (dk_at dksX0_put_1 17 rfl rfl)
theorem dX0_put_41 : decode cX0_put 41 = .ok (.invokevirtual 117, 3) := dk_182 0 117 (dk_at dksX0_put_1 18 rfl rfl)
theorem dX0_put_44 : decode cX0_put 44 = .ok (.ireturn, 1) := dk_172 (dk_at dksX0_put_1 21 rfl rfl)
theorem dX0_put_45 : decode cX0_put 45 = .ok (.astore 5, 2) := dk_58 5 (dk_at dksX0_put_1 22 rfl rfl)
theorem dX0_put_47 : decode cX0_put 47 = .ok (.aload_n 0, 1) := dk_42 (dk_at dksX0_put_2 0 rfl rfl)
theorem dX0_put_48 : decode cX0_put 48 = .ok (.iconst 3, 1) := dk_6 (dk_at dksX0_put_2 1 rfl rfl)
theorem dX0_put_49 : decode cX0_put 49 = .ok (.invokevirtual 117, 3) := dk_182 0 117 (dk_at dksX0_put_2 2 rfl rfl)
theorem dX0_put_52 : decode cX0_put 52 = .ok (.ireturn, 1) := dk_172 (dk_at dksX0_put_2 5 rfl rfl)
theorem dX0_put_53 : decode cX0_put 53 = .ok (.astore 5, 2) := dk_58 5 (dk_at dksX0_put_2 6 rfl rfl)
theorem dX0_put_55 : decode cX0_put 55 = .ok (.aload_n 0, 1) := dk_42 (dk_at dksX0_put_2 8 rfl rfl)
theorem dX0_put_56 : decode cX0_put 56 = .ok (.iconst 2, 1) := dk_5 (dk_at dksX0_put_2 9 rfl rfl)
theorem dX0_put_57 : decode cX0_put 57 = .ok (.invokevirtual 117, 3) := dk_182 0 117 (dk_at dksX0_put_2 10 rfl rfl)
theorem dX0_put_60 : decode cX0_put 60 = .ok (.ireturn, 1) := dk_172 (dk_at dksX0_put_2 13 rfl rfl)
abbrev cX0_get : ByteArray := prog_1_method_11_code
def yX0_get : MethodName := ⟨RX0, "get", "(II)J"⟩
def dkwX0_get_1 : List UInt8 := [78, 42, 4, 182, 0, 117, 184, 0, 134, 173, 78, 42, 5, 182, 0, 117, 184, 0, 134, 173]
abbrev dktX0_get_1 : List UInt8 := dkwX0_get_1 ++ []
def dkwX0_get_0 : List UInt8 := [27, 184, 0, 106, 154, 0, 9, 16, 254, 184, 0, 134, 173, 42, 180, 0, 25, 27, 50, 28, 182, 0, 138, 173]
abbrev dktX0_get_0 : List UInt8 := dkwX0_get_0 ++ dktX0_get_1
theorem dksX0_get_0 : cX0_get.data.toList.drop 0 = dktX0_get_0 := by decide +kernel
theorem dksX0_get_1 : cX0_get.data.toList.drop 24 = dktX0_get_1 := dk_seg dksX0_get_0 24 rfl rfl
theorem dX0_get_0 : decode cX0_get 0 = .ok (.iload_n 1, 1) := dk_27 (dk_at dksX0_get_0 0 rfl rfl)
theorem dX0_get_1 : decode cX0_get 1 = .ok (.invokestatic 106, 3) := dk_184 0 106 (dk_at dksX0_get_0 1 rfl rfl)
theorem dX0_get_4 : decode cX0_get 4 = .ok (.ifCond .ne 9, 3) := dk_154 0 9 (dk_at dksX0_get_0 4 rfl rfl)
theorem dX0_get_7 : decode cX0_get 7 = .ok (.bipush (-2), 2) := dk_16 254 (dk_at dksX0_get_0 7 rfl rfl)
theorem dX0_get_9 : decode cX0_get 9 = .ok (.invokestatic 134, 3) := dk_184 0 134 (dk_at dksX0_get_0 9 rfl rfl)
theorem dX0_get_12 : decode cX0_get 12 = .ok (.lreturn, 1) := dk_173 (dk_at dksX0_get_0 12 rfl rfl)
theorem dX0_get_13 : decode cX0_get 13 = .ok (.aload_n 0, 1) := dk_42 (dk_at dksX0_get_0 13 rfl rfl)
theorem dX0_get_14 : decode cX0_get 14 = .ok (.getfield 25, 3) := dk_180 0 25 (dk_at dksX0_get_0 14 rfl rfl)
theorem dX0_get_17 : decode cX0_get 17 = .ok (.iload_n 1, 1) := dk_27 (dk_at dksX0_get_0 17 rfl rfl)
theorem dX0_get_18 : decode cX0_get 18 = .ok (.aaload, 1) := dk_50 (dk_at dksX0_get_0 18 rfl rfl)
theorem dX0_get_19 : decode cX0_get 19 = .ok (.iload_n 2, 1) := dk_28 (dk_at dksX0_get_0 19 rfl rfl)
theorem dX0_get_20 : decode cX0_get 20 = .ok (.invokevirtual 138, 3) := dk_182 0 138 (dk_at dksX0_get_0 20 rfl rfl)
theorem dX0_get_23 : decode cX0_get 23 = .ok (.lreturn, 1) := dk_173 (dk_at dksX0_get_0 23 rfl rfl)
theorem dX0_get_24 : decode cX0_get 24 = .ok (.astore_n 3, 1) := dk_78 (dk_at dksX0_get_1 0 rfl rfl)
theorem dX0_get_25 : decode cX0_get 25 = .ok (.aload_n 0, 1) := dk_42 (dk_at dksX0_get_1 1 rfl rfl)
theorem dX0_get_26 : decode cX0_get 26 = .ok (.iconst 1, 1) := dk_4 (dk_at dksX0_get_1 2 rfl rfl)
theorem dX0_get_27 : decode cX0_get 27 = .ok (.invokevirtual 117, 3) := dk_182 0 117 (dk_at dksX0_get_1 3 rfl rfl)
theorem dX0_get_30 : decode cX0_get 30 = .ok (.invokestatic 134, 3) := dk_184 0 134 (dk_at dksX0_get_1 6 rfl rfl)
theorem dX0_get_33 : decode cX0_get 33 = .ok (.lreturn, 1) := dk_173 (dk_at dksX0_get_1 9 rfl rfl)
theorem dX0_get_34 : decode cX0_get 34 = .ok (.astore_n 3, 1) := dk_78 (dk_at dksX0_get_1 10 rfl rfl)
theorem dX0_get_35 : decode cX0_get 35 = .ok (.aload_n 0, 1) := dk_42 (dk_at dksX0_get_1 11 rfl rfl)
theorem dX0_get_36 : decode cX0_get 36 = .ok (.iconst 2, 1) := dk_5 (dk_at dksX0_get_1 12 rfl rfl)
theorem dX0_get_37 : decode cX0_get 37 = .ok (.invokevirtual 117, 3) := dk_182 0 117 (dk_at dksX0_get_1 13 rfl rfl)
theorem dX0_get_40 : decode cX0_get 40 = .ok (.invokestatic 134, 3) := dk_184 0 134 (dk_at dksX0_get_1 16 rfl rfl)
theorem dX0_get_43 : decode cX0_get 43 = .ok (.lreturn, 1) := dk_173 (dk_at dksX0_get_1 19 rfl rfl)
abbrev cX0_no : ByteArray := prog_1_method_4_code
def yX0_no : MethodName := ⟨RX0, "no", "(I)J"⟩
def dkwX0_no_0 : List UInt8 := [20, 0, 94, 26, 133, 101, 173]
abbrev dktX0_no_0 : List UInt8 := dkwX0_no_0 ++ []
theorem dksX0_no_0 : cX0_no.data.toList.drop 0 = dktX0_no_0 := by decide +kernel
theorem dX0_no_0 : decode cX0_no 0 = .ok (.ldc2_w 94, 3) := dk_20 0 94 (dk_at dksX0_no_0 0 rfl rfl)
theorem dX0_no_3 : decode cX0_no 3 = .ok (.iload_n 0, 1) := dk_26 (dk_at dksX0_no_0 3 rfl rfl)
theorem dX0_no_4 : decode cX0_no 4 = .ok (.i2l, 1) := dk_133 (dk_at dksX0_no_0 4 rfl rfl)
theorem dX0_no_5 : decode cX0_no 5 = .ok (.lsub, 1) := dk_101 (dk_at dksX0_no_0 5 rfl rfl)
theorem dX0_no_6 : decode cX0_no 6 = .ok (.lreturn, 1) := dk_173 (dk_at dksX0_no_0 6 rfl rfl)
abbrev cX0_copy : ByteArray := prog_1_method_12_code
def yX0_copy : MethodName := ⟨RX0, "copy", "(IIIII)I"⟩
def dkwX0_copy_2 : List UInt8 := [42, 4, 182, 0, 117, 172, 58, 6, 42, 7, 182, 0, 117, 172, 58, 6, 42, 5, 182, 0, 117, 172]
abbrev dktX0_copy_2 : List UInt8 := dkwX0_copy_2 ++ []
def dkwX0_copy_1 : List UInt8 := [180, 0, 141, 28, 42, 180, 0, 25, 29, 50, 180, 0, 141, 21, 4, 21, 5, 184, 0, 145, 4, 172, 58, 6]
abbrev dktX0_copy_1 : List UInt8 := dkwX0_copy_1 ++ dktX0_copy_2
def dkwX0_copy_0 : List UInt8 := [27, 184, 0, 106, 153, 0, 10, 29, 184, 0, 106, 154, 0, 6, 16, 254, 172, 42, 180, 0, 25, 27, 50]
abbrev dktX0_copy_0 : List UInt8 := dkwX0_copy_0 ++ dktX0_copy_1
theorem dksX0_copy_0 : cX0_copy.data.toList.drop 0 = dktX0_copy_0 := by decide +kernel
theorem dksX0_copy_1 : cX0_copy.data.toList.drop 23 = dktX0_copy_1 := dk_seg dksX0_copy_0 23 rfl rfl
theorem dksX0_copy_2 : cX0_copy.data.toList.drop 47 = dktX0_copy_2 := dk_seg dksX0_copy_1 24 rfl rfl
theorem dX0_copy_0 : decode cX0_copy 0 = .ok (.iload_n 1, 1) := dk_27 (dk_at dksX0_copy_0 0 rfl rfl)
theorem dX0_copy_1 : decode cX0_copy 1 = .ok (.invokestatic 106, 3) := dk_184 0 106 (dk_at dksX0_copy_0 1 rfl rfl)
theorem dX0_copy_4 : decode cX0_copy 4 = .ok (.ifCond .eq 10, 3) := dk_153 0 10 (dk_at dksX0_copy_0 4 rfl rfl)
theorem dX0_copy_7 : decode cX0_copy 7 = .ok (.iload_n 3, 1) := dk_29 (dk_at dksX0_copy_0 7 rfl rfl)
theorem dX0_copy_8 : decode cX0_copy 8 = .ok (.invokestatic 106, 3) := dk_184 0 106 (dk_at dksX0_copy_0 8 rfl rfl)
theorem dX0_copy_11 : decode cX0_copy 11 = .ok (.ifCond .ne 6, 3) := dk_154 0 6 (dk_at dksX0_copy_0 11 rfl rfl)
theorem dX0_copy_14 : decode cX0_copy 14 = .ok (.bipush (-2), 2) := dk_16 254 (dk_at dksX0_copy_0 14 rfl rfl)
theorem dX0_copy_16 : decode cX0_copy 16 = .ok (.ireturn, 1) := dk_172 (dk_at dksX0_copy_0 16 rfl rfl)
theorem dX0_copy_17 : decode cX0_copy 17 = .ok (.aload_n 0, 1) := dk_42 (dk_at dksX0_copy_0 17 rfl rfl)
theorem dX0_copy_18 : decode cX0_copy 18 = .ok (.getfield 25, 3) := dk_180 0 25 (dk_at dksX0_copy_0 18 rfl rfl)
theorem dX0_copy_21 : decode cX0_copy 21 = .ok (.iload_n 1, 1) := dk_27 (dk_at dksX0_copy_0 21 rfl rfl)
theorem dX0_copy_22 : decode cX0_copy 22 = .ok (.aaload, 1) := dk_50 (dk_at dksX0_copy_0 22 rfl rfl)
theorem dX0_copy_23 : decode cX0_copy 23 = .ok (.getfield 141, 3) := dk_180 0 141 (dk_at dksX0_copy_1 0 rfl rfl)
theorem dX0_copy_26 : decode cX0_copy 26 = .ok (.iload_n 2, 1) := dk_28 (dk_at dksX0_copy_1 3 rfl rfl)
theorem dX0_copy_27 : decode cX0_copy 27 = .ok (.aload_n 0, 1) := dk_42 (dk_at dksX0_copy_1 4 rfl rfl)
theorem dX0_copy_28 : decode cX0_copy 28 = .ok (.getfield 25, 3) := dk_180 0 25 (dk_at dksX0_copy_1 5 rfl rfl)
theorem dX0_copy_31 : decode cX0_copy 31 = .ok (.iload_n 3, 1) := dk_29 (dk_at dksX0_copy_1 8 rfl rfl)
theorem dX0_copy_32 : decode cX0_copy 32 = .ok (.aaload, 1) := dk_50 (dk_at dksX0_copy_1 9 rfl rfl)
theorem dX0_copy_33 : decode cX0_copy 33 = .ok (.getfield 141, 3) := dk_180 0 141 (dk_at dksX0_copy_1 10 rfl rfl)
theorem dX0_copy_36 : decode cX0_copy 36 = .ok (.iload 4, 2) := dk_21 4 (dk_at dksX0_copy_1 13 rfl rfl)
theorem dX0_copy_38 : decode cX0_copy 38 = .ok (.iload 5, 2) := dk_21 5 (dk_at dksX0_copy_1 15 rfl rfl)
theorem dX0_copy_40 : decode cX0_copy 40 = .ok (.invokestatic 145, 3) := dk_184 0 145 (dk_at dksX0_copy_1 17 rfl rfl)
theorem dX0_copy_43 : decode cX0_copy 43 = .ok (.iconst 1, 1) := dk_4 (dk_at dksX0_copy_1 20 rfl rfl)
theorem dX0_copy_44 : decode cX0_copy 44 = .ok (.ireturn, 1) := dk_172 (dk_at dksX0_copy_1 21 rfl rfl)
theorem dX0_copy_45 : decode cX0_copy 45 = .ok (.astore 6, 2) := dk_58 6 (dk_at dksX0_copy_1 22 rfl rfl)
theorem dX0_copy_47 : decode cX0_copy 47 = .ok (.aload_n 0, 1) := dk_42 (dk_at dksX0_copy_2 0 rfl rfl)
theorem dX0_copy_48 : decode cX0_copy 48 = .ok (.iconst 1, 1) := dk_4 (dk_at dksX0_copy_2 1 rfl rfl)
theorem dX0_copy_49 : decode cX0_copy 49 = .ok (.invokevirtual 117, 3) := dk_182 0 117 (dk_at dksX0_copy_2 2 rfl rfl)
theorem dX0_copy_52 : decode cX0_copy 52 = .ok (.ireturn, 1) := dk_172 (dk_at dksX0_copy_2 5 rfl rfl)
theorem dX0_copy_53 : decode cX0_copy 53 = .ok (.astore 6, 2) := dk_58 6 (dk_at dksX0_copy_2 6 rfl rfl)
theorem dX0_copy_55 : decode cX0_copy 55 = .ok (.aload_n 0, 1) := dk_42 (dk_at dksX0_copy_2 8 rfl rfl)
theorem dX0_copy_56 : decode cX0_copy 56 = .ok (.iconst 4, 1) := dk_7 (dk_at dksX0_copy_2 9 rfl rfl)
theorem dX0_copy_57 : decode cX0_copy 57 = .ok (.invokevirtual 117, 3) := dk_182 0 117 (dk_at dksX0_copy_2 10 rfl rfl)
theorem dX0_copy_60 : decode cX0_copy 60 = .ok (.ireturn, 1) := dk_172 (dk_at dksX0_copy_2 13 rfl rfl)
theorem dX0_copy_61 : decode cX0_copy 61 = .ok (.astore 6, 2) := dk_58 6 (dk_at dksX0_copy_2 14 rfl rfl)
theorem dX0_copy_63 : decode cX0_copy 63 = .ok (.aload_n 0, 1) := dk_42 (dk_at dksX0_copy_2 16 rfl rfl)
theorem dX0_copy_64 : decode cX0_copy 64 = .ok (.iconst 2, 1) := dk_5 (dk_at dksX0_copy_2 17 rfl rfl)
theorem dX0_copy_65 : decode cX0_copy 65 = .ok (.invokevirtual 117, 3) := dk_182 0 117 (dk_at dksX0_copy_2 18 rfl rfl)
theorem dX0_copy_68 : decode cX0_copy 68 = .ok (.ireturn, 1) := dk_172 (dk_at dksX0_copy_2 21 rfl rfl)
abbrev cX0_turns : ByteArray := prog_1_method_14_code
def yX0_turns : MethodName := ⟨RX0, "turns", "(I)I"⟩
def dkwX0_turns_1 : List UInt8 := [181, 0, 173, 42, 42, 28, 186, 0, 176, 0, 0, 182, 0, 180, 28, 172]
abbrev dktX0_turns_1 : List UInt8 := dkwX0_turns_1 ++ []
def dkwX0_turns_0 : List UInt8 := [27, 133, 9, 20, 0, 171, 184, 0, 90, 154, 0, 6, 16, 254, 172, 42, 180, 0, 173, 61, 42, 27]
abbrev dktX0_turns_0 : List UInt8 := dkwX0_turns_0 ++ dktX0_turns_1
theorem dksX0_turns_0 : cX0_turns.data.toList.drop 0 = dktX0_turns_0 := by decide +kernel
theorem dksX0_turns_1 : cX0_turns.data.toList.drop 22 = dktX0_turns_1 := dk_seg dksX0_turns_0 22 rfl rfl
theorem dX0_turns_0 : decode cX0_turns 0 = .ok (.iload_n 1, 1) := dk_27 (dk_at dksX0_turns_0 0 rfl rfl)
theorem dX0_turns_1 : decode cX0_turns 1 = .ok (.i2l, 1) := dk_133 (dk_at dksX0_turns_0 1 rfl rfl)
theorem dX0_turns_2 : decode cX0_turns 2 = .ok (.lconst 0, 1) := dk_9 (dk_at dksX0_turns_0 2 rfl rfl)
theorem dX0_turns_3 : decode cX0_turns 3 = .ok (.ldc2_w 171, 3) := dk_20 0 171 (dk_at dksX0_turns_0 3 rfl rfl)
theorem dX0_turns_6 : decode cX0_turns 6 = .ok (.invokestatic 90, 3) := dk_184 0 90 (dk_at dksX0_turns_0 6 rfl rfl)
theorem dX0_turns_9 : decode cX0_turns 9 = .ok (.ifCond .ne 6, 3) := dk_154 0 6 (dk_at dksX0_turns_0 9 rfl rfl)
theorem dX0_turns_12 : decode cX0_turns 12 = .ok (.bipush (-2), 2) := dk_16 254 (dk_at dksX0_turns_0 12 rfl rfl)
theorem dX0_turns_14 : decode cX0_turns 14 = .ok (.ireturn, 1) := dk_172 (dk_at dksX0_turns_0 14 rfl rfl)
theorem dX0_turns_15 : decode cX0_turns 15 = .ok (.aload_n 0, 1) := dk_42 (dk_at dksX0_turns_0 15 rfl rfl)
theorem dX0_turns_16 : decode cX0_turns 16 = .ok (.getfield 173, 3) := dk_180 0 173 (dk_at dksX0_turns_0 16 rfl rfl)
theorem dX0_turns_19 : decode cX0_turns 19 = .ok (.istore_n 2, 1) := dk_61 (dk_at dksX0_turns_0 19 rfl rfl)
theorem dX0_turns_20 : decode cX0_turns 20 = .ok (.aload_n 0, 1) := dk_42 (dk_at dksX0_turns_0 20 rfl rfl)
theorem dX0_turns_21 : decode cX0_turns 21 = .ok (.iload_n 1, 1) := dk_27 (dk_at dksX0_turns_0 21 rfl rfl)
theorem dX0_turns_22 : decode cX0_turns 22 = .ok (.putfield 173, 3) := dk_181 0 173 (dk_at dksX0_turns_1 0 rfl rfl)
theorem dX0_turns_25 : decode cX0_turns 25 = .ok (.aload_n 0, 1) := dk_42 (dk_at dksX0_turns_1 3 rfl rfl)
theorem dX0_turns_26 : decode cX0_turns 26 = .ok (.aload_n 0, 1) := dk_42 (dk_at dksX0_turns_1 4 rfl rfl)
theorem dX0_turns_27 : decode cX0_turns 27 = .ok (.iload_n 2, 1) := dk_28 (dk_at dksX0_turns_1 5 rfl rfl)
theorem dX0_turns_28 : decode cX0_turns 28 = .ok (.invokedynamic 176, 5) := by decide +kernel
theorem dX0_turns_33 : decode cX0_turns 33 = .ok (.invokevirtual 180, 3) := dk_182 0 180 (dk_at dksX0_turns_1 11 rfl rfl)
theorem dX0_turns_36 : decode cX0_turns 36 = .ok (.iload_n 2, 1) := dk_28 (dk_at dksX0_turns_1 14 rfl rfl)
theorem dX0_turns_37 : decode cX0_turns 37 = .ok (.ireturn, 1) := dk_172 (dk_at dksX0_turns_1 15 rfl rfl)
abbrev cX0_lambda_turns_0 : ByteArray := prog_1_method_108_code
def yX0_lambda_turns_0 : MethodName := ⟨RX0, "lambda$turns$0", "(I)I"⟩
def dkwX0_lambda_turns_0_0 : List UInt8 := [42, 27, 181, 0, 173, 3, 172]
abbrev dktX0_lambda_turns_0_0 : List UInt8 := dkwX0_lambda_turns_0_0 ++ []
theorem dksX0_lambda_turns_0_0 : cX0_lambda_turns_0.data.toList.drop 0 = dktX0_lambda_turns_0_0 := by decide +kernel
theorem dX0_lambda_turns_0_0 : decode cX0_lambda_turns_0 0 = .ok (.aload_n 0, 1) := dk_42 (dk_at dksX0_lambda_turns_0_0 0 rfl rfl)
theorem dX0_lambda_turns_0_1 : decode cX0_lambda_turns_0 1 = .ok (.iload_n 1, 1) := dk_27 (dk_at dksX0_lambda_turns_0_0 1 rfl rfl)
theorem dX0_lambda_turns_0_2 : decode cX0_lambda_turns_0 2 = .ok (.putfield 173, 3) := dk_181 0 173 (dk_at dksX0_lambda_turns_0_0 2 rfl rfl)
theorem dX0_lambda_turns_0_5 : decode cX0_lambda_turns_0 5 = .ok (.iconst 0, 1) := dk_3 (dk_at dksX0_lambda_turns_0_0 5 rfl rfl)
theorem dX0_lambda_turns_0_6 : decode cX0_lambda_turns_0 6 = .ok (.ireturn, 1) := dk_172 (dk_at dksX0_lambda_turns_0_0 6 rfl rfl)
abbrev cX0_tells : ByteArray := prog_1_method_13_code
def yX0_tells : MethodName := ⟨RX0, "tells", "(LStrideTurns$Act;)V"⟩
def dkwX0_tells_1 : List UInt8 := [187, 0, 162, 89, 43, 183, 0, 164, 182, 0, 167, 177]
abbrev dktX0_tells_1 : List UInt8 := dkwX0_tells_1 ++ []
def dkwX0_tells_0 : List UInt8 := [42, 180, 0, 41, 182, 0, 155, 16, 20, 160, 0, 11, 42, 180, 0, 41, 182, 0, 158, 87, 42, 180, 0, 41]
abbrev dktX0_tells_0 : List UInt8 := dkwX0_tells_0 ++ dktX0_tells_1
theorem dksX0_tells_0 : cX0_tells.data.toList.drop 0 = dktX0_tells_0 := by decide +kernel
theorem dksX0_tells_1 : cX0_tells.data.toList.drop 24 = dktX0_tells_1 := dk_seg dksX0_tells_0 24 rfl rfl
theorem dX0_tells_0 : decode cX0_tells 0 = .ok (.aload_n 0, 1) := dk_42 (dk_at dksX0_tells_0 0 rfl rfl)
theorem dX0_tells_1 : decode cX0_tells 1 = .ok (.getfield 41, 3) := dk_180 0 41 (dk_at dksX0_tells_0 1 rfl rfl)
theorem dX0_tells_4 : decode cX0_tells 4 = .ok (.invokevirtual 155, 3) := dk_182 0 155 (dk_at dksX0_tells_0 4 rfl rfl)
theorem dX0_tells_7 : decode cX0_tells 7 = .ok (.bipush 20, 2) := dk_16 20 (dk_at dksX0_tells_0 7 rfl rfl)
theorem dX0_tells_9 : decode cX0_tells 9 = .ok (.if_icmp .ne 11, 3) := dk_160 0 11 (dk_at dksX0_tells_0 9 rfl rfl)
theorem dX0_tells_12 : decode cX0_tells 12 = .ok (.aload_n 0, 1) := dk_42 (dk_at dksX0_tells_0 12 rfl rfl)
theorem dX0_tells_13 : decode cX0_tells 13 = .ok (.getfield 41, 3) := dk_180 0 41 (dk_at dksX0_tells_0 13 rfl rfl)
theorem dX0_tells_16 : decode cX0_tells 16 = .ok (.invokevirtual 158, 3) := dk_182 0 158 (dk_at dksX0_tells_0 16 rfl rfl)
theorem dX0_tells_19 : decode cX0_tells 19 = .ok (.pop, 1) := dk_87 (dk_at dksX0_tells_0 19 rfl rfl)
theorem dX0_tells_20 : decode cX0_tells 20 = .ok (.aload_n 0, 1) := dk_42 (dk_at dksX0_tells_0 20 rfl rfl)
theorem dX0_tells_21 : decode cX0_tells 21 = .ok (.getfield 41, 3) := dk_180 0 41 (dk_at dksX0_tells_0 21 rfl rfl)
theorem dX0_tells_24 : decode cX0_tells 24 = .ok (.new 162, 3) := dk_187 0 162 (dk_at dksX0_tells_1 0 rfl rfl)
theorem dX0_tells_27 : decode cX0_tells 27 = .ok (.dup, 1) := dk_89 (dk_at dksX0_tells_1 3 rfl rfl)
theorem dX0_tells_28 : decode cX0_tells 28 = .ok (.aload_n 1, 1) := dk_43 (dk_at dksX0_tells_1 4 rfl rfl)
theorem dX0_tells_29 : decode cX0_tells 29 = .ok (.invokespecial 164, 3) := dk_183 0 164 (dk_at dksX0_tells_1 5 rfl rfl)
theorem dX0_tells_32 : decode cX0_tells 32 = .ok (.invokevirtual 167, 3) := dk_182 0 167 (dk_at dksX0_tells_1 8 rfl rfl)
theorem dX0_tells_35 : decode cX0_tells 35 = .ok (.return_, 1) := dk_177 (dk_at dksX0_tells_1 11 rfl rfl)
abbrev cX0_type : ByteArray := prog_1_method_15_code
def yX0_type : MethodName := ⟨RX0, "type", "(I)I"⟩
def dkwX0_type_2 : List UInt8 := [42, 180, 0, 184, 172]
abbrev dktX0_type_2 : List UInt8 := dkwX0_type_2 ++ []
def dkwX0_type_1 : List UInt8 := [16, 252, 172, 42, 180, 0, 45, 42, 180, 0, 184, 27, 145, 84, 42, 89, 180, 0, 184, 4, 96, 181, 0, 184]
abbrev dktX0_type_1 : List UInt8 := dkwX0_type_1 ++ dktX0_type_2
def dkwX0_type_0 : List UInt8 := [27, 133, 9, 20, 0, 182, 184, 0, 90, 154, 0, 6, 16, 254, 172, 42, 180, 0, 184, 8, 160, 0, 6]
abbrev dktX0_type_0 : List UInt8 := dkwX0_type_0 ++ dktX0_type_1
theorem dksX0_type_0 : cX0_type.data.toList.drop 0 = dktX0_type_0 := by decide +kernel
theorem dksX0_type_1 : cX0_type.data.toList.drop 23 = dktX0_type_1 := dk_seg dksX0_type_0 23 rfl rfl
theorem dksX0_type_2 : cX0_type.data.toList.drop 47 = dktX0_type_2 := dk_seg dksX0_type_1 24 rfl rfl
theorem dX0_type_0 : decode cX0_type 0 = .ok (.iload_n 1, 1) := dk_27 (dk_at dksX0_type_0 0 rfl rfl)
theorem dX0_type_1 : decode cX0_type 1 = .ok (.i2l, 1) := dk_133 (dk_at dksX0_type_0 1 rfl rfl)
theorem dX0_type_2 : decode cX0_type 2 = .ok (.lconst 0, 1) := dk_9 (dk_at dksX0_type_0 2 rfl rfl)
theorem dX0_type_3 : decode cX0_type 3 = .ok (.ldc2_w 182, 3) := dk_20 0 182 (dk_at dksX0_type_0 3 rfl rfl)
theorem dX0_type_6 : decode cX0_type 6 = .ok (.invokestatic 90, 3) := dk_184 0 90 (dk_at dksX0_type_0 6 rfl rfl)
theorem dX0_type_9 : decode cX0_type 9 = .ok (.ifCond .ne 6, 3) := dk_154 0 6 (dk_at dksX0_type_0 9 rfl rfl)
theorem dX0_type_12 : decode cX0_type 12 = .ok (.bipush (-2), 2) := dk_16 254 (dk_at dksX0_type_0 12 rfl rfl)
theorem dX0_type_14 : decode cX0_type 14 = .ok (.ireturn, 1) := dk_172 (dk_at dksX0_type_0 14 rfl rfl)
theorem dX0_type_15 : decode cX0_type 15 = .ok (.aload_n 0, 1) := dk_42 (dk_at dksX0_type_0 15 rfl rfl)
theorem dX0_type_16 : decode cX0_type 16 = .ok (.getfield 184, 3) := dk_180 0 184 (dk_at dksX0_type_0 16 rfl rfl)
theorem dX0_type_19 : decode cX0_type 19 = .ok (.iconst 5, 1) := dk_8 (dk_at dksX0_type_0 19 rfl rfl)
theorem dX0_type_20 : decode cX0_type 20 = .ok (.if_icmp .ne 6, 3) := dk_160 0 6 (dk_at dksX0_type_0 20 rfl rfl)
theorem dX0_type_23 : decode cX0_type 23 = .ok (.bipush (-4), 2) := dk_16 252 (dk_at dksX0_type_1 0 rfl rfl)
theorem dX0_type_25 : decode cX0_type 25 = .ok (.ireturn, 1) := dk_172 (dk_at dksX0_type_1 2 rfl rfl)
theorem dX0_type_26 : decode cX0_type 26 = .ok (.aload_n 0, 1) := dk_42 (dk_at dksX0_type_1 3 rfl rfl)
theorem dX0_type_27 : decode cX0_type 27 = .ok (.getfield 45, 3) := dk_180 0 45 (dk_at dksX0_type_1 4 rfl rfl)
theorem dX0_type_30 : decode cX0_type 30 = .ok (.aload_n 0, 1) := dk_42 (dk_at dksX0_type_1 7 rfl rfl)
theorem dX0_type_31 : decode cX0_type 31 = .ok (.getfield 184, 3) := dk_180 0 184 (dk_at dksX0_type_1 8 rfl rfl)
theorem dX0_type_34 : decode cX0_type 34 = .ok (.iload_n 1, 1) := dk_27 (dk_at dksX0_type_1 11 rfl rfl)
theorem dX0_type_35 : decode cX0_type 35 = .ok (.i2b, 1) := dk_145 (dk_at dksX0_type_1 12 rfl rfl)
theorem dX0_type_36 : decode cX0_type 36 = .ok (.bastore, 1) := dk_84 (dk_at dksX0_type_1 13 rfl rfl)
theorem dX0_type_37 : decode cX0_type 37 = .ok (.aload_n 0, 1) := dk_42 (dk_at dksX0_type_1 14 rfl rfl)
theorem dX0_type_38 : decode cX0_type 38 = .ok (.dup, 1) := dk_89 (dk_at dksX0_type_1 15 rfl rfl)
theorem dX0_type_39 : decode cX0_type 39 = .ok (.getfield 184, 3) := dk_180 0 184 (dk_at dksX0_type_1 16 rfl rfl)
theorem dX0_type_42 : decode cX0_type 42 = .ok (.iconst 1, 1) := dk_4 (dk_at dksX0_type_1 19 rfl rfl)
theorem dX0_type_43 : decode cX0_type 43 = .ok (.iadd, 1) := dk_96 (dk_at dksX0_type_1 20 rfl rfl)
theorem dX0_type_44 : decode cX0_type 44 = .ok (.putfield 184, 3) := dk_181 0 184 (dk_at dksX0_type_1 21 rfl rfl)
theorem dX0_type_47 : decode cX0_type 47 = .ok (.aload_n 0, 1) := dk_42 (dk_at dksX0_type_2 0 rfl rfl)
theorem dX0_type_48 : decode cX0_type 48 = .ok (.getfield 184, 3) := dk_180 0 184 (dk_at dksX0_type_2 1 rfl rfl)
theorem dX0_type_51 : decode cX0_type 51 = .ok (.ireturn, 1) := dk_172 (dk_at dksX0_type_2 4 rfl rfl)
abbrev cX0_wipe : ByteArray := prog_1_method_16_code
def yX0_wipe : MethodName := ⟨RX0, "wipe", "()I"⟩
def dkwX0_wipe_0 : List UInt8 := [42, 180, 0, 184, 60, 42, 3, 181, 0, 184, 27, 172]
abbrev dktX0_wipe_0 : List UInt8 := dkwX0_wipe_0 ++ []
theorem dksX0_wipe_0 : cX0_wipe.data.toList.drop 0 = dktX0_wipe_0 := by decide +kernel
theorem dX0_wipe_0 : decode cX0_wipe 0 = .ok (.aload_n 0, 1) := dk_42 (dk_at dksX0_wipe_0 0 rfl rfl)
theorem dX0_wipe_1 : decode cX0_wipe 1 = .ok (.getfield 184, 3) := dk_180 0 184 (dk_at dksX0_wipe_0 1 rfl rfl)
theorem dX0_wipe_4 : decode cX0_wipe 4 = .ok (.istore_n 1, 1) := dk_60 (dk_at dksX0_wipe_0 4 rfl rfl)
theorem dX0_wipe_5 : decode cX0_wipe 5 = .ok (.aload_n 0, 1) := dk_42 (dk_at dksX0_wipe_0 5 rfl rfl)
theorem dX0_wipe_6 : decode cX0_wipe 6 = .ok (.iconst 0, 1) := dk_3 (dk_at dksX0_wipe_0 6 rfl rfl)
theorem dX0_wipe_7 : decode cX0_wipe 7 = .ok (.putfield 184, 3) := dk_181 0 184 (dk_at dksX0_wipe_0 7 rfl rfl)
theorem dX0_wipe_10 : decode cX0_wipe 10 = .ok (.iload_n 1, 1) := dk_27 (dk_at dksX0_wipe_0 10 rfl rfl)
theorem dX0_wipe_11 : decode cX0_wipe 11 = .ok (.ireturn, 1) := dk_172 (dk_at dksX0_wipe_0 11 rfl rfl)
abbrev cX0_statement : ByteArray := prog_1_method_18_code
def yX0_statement : MethodName := ⟨RX0, "statement", "(I)I"⟩
def dkwX0_statement_3 : List UInt8 := [182, 0, 180, 42, 180, 0, 34, 182, 0, 208, 4, 100, 172]
abbrev dktX0_statement_3 : List UInt8 := dkwX0_statement_3 ++ []
def dkwX0_statement_2 : List UInt8 := [89, 42, 44, 27, 183, 0, 211, 182, 0, 214, 87, 42, 3, 181, 0, 184, 42, 42, 186, 0, 218, 0, 0]
abbrev dktX0_statement_2 : List UInt8 := dkwX0_statement_2 ++ dktX0_statement_3
def dkwX0_statement_1 : List UInt8 := [16, 253, 172, 42, 180, 0, 34, 182, 0, 208, 8, 160, 0, 6, 16, 252, 172, 42, 180, 0, 34, 187, 0, 209]
abbrev dktX0_statement_1 : List UInt8 := dkwX0_statement_1 ++ dktX0_statement_2
def dkwX0_statement_0 : List UInt8 := [27, 133, 10, 20, 0, 100, 184, 0, 90, 154, 0, 6, 16, 254, 172, 42, 182, 0, 204, 77, 44, 199, 0, 6]
abbrev dktX0_statement_0 : List UInt8 := dkwX0_statement_0 ++ dktX0_statement_1
theorem dksX0_statement_0 : cX0_statement.data.toList.drop 0 = dktX0_statement_0 := by decide +kernel
theorem dksX0_statement_1 : cX0_statement.data.toList.drop 24 = dktX0_statement_1 := dk_seg dksX0_statement_0 24 rfl rfl
theorem dksX0_statement_2 : cX0_statement.data.toList.drop 48 = dktX0_statement_2 := dk_seg dksX0_statement_1 24 rfl rfl
theorem dksX0_statement_3 : cX0_statement.data.toList.drop 71 = dktX0_statement_3 := dk_seg dksX0_statement_2 23 rfl rfl
theorem dX0_statement_0 : decode cX0_statement 0 = .ok (.iload_n 1, 1) := dk_27 (dk_at dksX0_statement_0 0 rfl rfl)
theorem dX0_statement_1 : decode cX0_statement 1 = .ok (.i2l, 1) := dk_133 (dk_at dksX0_statement_0 1 rfl rfl)
theorem dX0_statement_2 : decode cX0_statement 2 = .ok (.lconst 1, 1) := dk_10 (dk_at dksX0_statement_0 2 rfl rfl)
theorem dX0_statement_3 : decode cX0_statement 3 = .ok (.ldc2_w 100, 3) := dk_20 0 100 (dk_at dksX0_statement_0 3 rfl rfl)
theorem dX0_statement_6 : decode cX0_statement 6 = .ok (.invokestatic 90, 3) := dk_184 0 90 (dk_at dksX0_statement_0 6 rfl rfl)
theorem dX0_statement_9 : decode cX0_statement 9 = .ok (.ifCond .ne 6, 3) := dk_154 0 6 (dk_at dksX0_statement_0 9 rfl rfl)
theorem dX0_statement_12 : decode cX0_statement 12 = .ok (.bipush (-2), 2) := dk_16 254 (dk_at dksX0_statement_0 12 rfl rfl)
theorem dX0_statement_14 : decode cX0_statement 14 = .ok (.ireturn, 1) := dk_172 (dk_at dksX0_statement_0 14 rfl rfl)
theorem dX0_statement_15 : decode cX0_statement 15 = .ok (.aload_n 0, 1) := dk_42 (dk_at dksX0_statement_0 15 rfl rfl)
theorem dX0_statement_16 : decode cX0_statement 16 = .ok (.invokevirtual 204, 3) := dk_182 0 204 (dk_at dksX0_statement_0 16 rfl rfl)
theorem dX0_statement_19 : decode cX0_statement 19 = .ok (.astore_n 2, 1) := dk_77 (dk_at dksX0_statement_0 19 rfl rfl)
theorem dX0_statement_20 : decode cX0_statement 20 = .ok (.aload_n 2, 1) := dk_44 (dk_at dksX0_statement_0 20 rfl rfl)
theorem dX0_statement_21 : decode cX0_statement 21 = .ok (.ifnonnull 6, 3) := dk_199 0 6 (dk_at dksX0_statement_0 21 rfl rfl)
theorem dX0_statement_24 : decode cX0_statement 24 = .ok (.bipush (-3), 2) := dk_16 253 (dk_at dksX0_statement_1 0 rfl rfl)
theorem dX0_statement_26 : decode cX0_statement 26 = .ok (.ireturn, 1) := dk_172 (dk_at dksX0_statement_1 2 rfl rfl)
theorem dX0_statement_27 : decode cX0_statement 27 = .ok (.aload_n 0, 1) := dk_42 (dk_at dksX0_statement_1 3 rfl rfl)
theorem dX0_statement_28 : decode cX0_statement 28 = .ok (.getfield 34, 3) := dk_180 0 34 (dk_at dksX0_statement_1 4 rfl rfl)
theorem dX0_statement_31 : decode cX0_statement 31 = .ok (.invokevirtual 208, 3) := dk_182 0 208 (dk_at dksX0_statement_1 7 rfl rfl)
theorem dX0_statement_34 : decode cX0_statement 34 = .ok (.iconst 5, 1) := dk_8 (dk_at dksX0_statement_1 10 rfl rfl)
theorem dX0_statement_35 : decode cX0_statement 35 = .ok (.if_icmp .ne 6, 3) := dk_160 0 6 (dk_at dksX0_statement_1 11 rfl rfl)
theorem dX0_statement_38 : decode cX0_statement 38 = .ok (.bipush (-4), 2) := dk_16 252 (dk_at dksX0_statement_1 14 rfl rfl)
theorem dX0_statement_40 : decode cX0_statement 40 = .ok (.ireturn, 1) := dk_172 (dk_at dksX0_statement_1 16 rfl rfl)
theorem dX0_statement_41 : decode cX0_statement 41 = .ok (.aload_n 0, 1) := dk_42 (dk_at dksX0_statement_1 17 rfl rfl)
theorem dX0_statement_42 : decode cX0_statement 42 = .ok (.getfield 34, 3) := dk_180 0 34 (dk_at dksX0_statement_1 18 rfl rfl)
theorem dX0_statement_45 : decode cX0_statement 45 = .ok (.new 209, 3) := dk_187 0 209 (dk_at dksX0_statement_1 21 rfl rfl)
theorem dX0_statement_48 : decode cX0_statement 48 = .ok (.dup, 1) := dk_89 (dk_at dksX0_statement_2 0 rfl rfl)
theorem dX0_statement_49 : decode cX0_statement 49 = .ok (.aload_n 0, 1) := dk_42 (dk_at dksX0_statement_2 1 rfl rfl)
theorem dX0_statement_50 : decode cX0_statement 50 = .ok (.aload_n 2, 1) := dk_44 (dk_at dksX0_statement_2 2 rfl rfl)
theorem dX0_statement_51 : decode cX0_statement 51 = .ok (.iload_n 1, 1) := dk_27 (dk_at dksX0_statement_2 3 rfl rfl)
theorem dX0_statement_52 : decode cX0_statement 52 = .ok (.invokespecial 211, 3) := dk_183 0 211 (dk_at dksX0_statement_2 4 rfl rfl)
theorem dX0_statement_55 : decode cX0_statement 55 = .ok (.invokevirtual 214, 3) := dk_182 0 214 (dk_at dksX0_statement_2 7 rfl rfl)
theorem dX0_statement_58 : decode cX0_statement 58 = .ok (.pop, 1) := dk_87 (dk_at dksX0_statement_2 10 rfl rfl)
theorem dX0_statement_59 : decode cX0_statement 59 = .ok (.aload_n 0, 1) := dk_42 (dk_at dksX0_statement_2 11 rfl rfl)
theorem dX0_statement_60 : decode cX0_statement 60 = .ok (.iconst 0, 1) := dk_3 (dk_at dksX0_statement_2 12 rfl rfl)
theorem dX0_statement_61 : decode cX0_statement 61 = .ok (.putfield 184, 3) := dk_181 0 184 (dk_at dksX0_statement_2 13 rfl rfl)
theorem dX0_statement_64 : decode cX0_statement 64 = .ok (.aload_n 0, 1) := dk_42 (dk_at dksX0_statement_2 16 rfl rfl)
theorem dX0_statement_65 : decode cX0_statement 65 = .ok (.aload_n 0, 1) := dk_42 (dk_at dksX0_statement_2 17 rfl rfl)
theorem dX0_statement_66 : decode cX0_statement 66 = .ok (.invokedynamic 218, 5) := by decide +kernel
theorem dX0_statement_71 : decode cX0_statement 71 = .ok (.invokevirtual 180, 3) := dk_182 0 180 (dk_at dksX0_statement_3 0 rfl rfl)
theorem dX0_statement_74 : decode cX0_statement 74 = .ok (.aload_n 0, 1) := dk_42 (dk_at dksX0_statement_3 3 rfl rfl)
theorem dX0_statement_75 : decode cX0_statement 75 = .ok (.getfield 34, 3) := dk_180 0 34 (dk_at dksX0_statement_3 4 rfl rfl)
theorem dX0_statement_78 : decode cX0_statement 78 = .ok (.invokevirtual 208, 3) := dk_182 0 208 (dk_at dksX0_statement_3 7 rfl rfl)
theorem dX0_statement_81 : decode cX0_statement 81 = .ok (.iconst 1, 1) := dk_4 (dk_at dksX0_statement_3 10 rfl rfl)
theorem dX0_statement_82 : decode cX0_statement 82 = .ok (.isub, 1) := dk_100 (dk_at dksX0_statement_3 11 rfl rfl)
theorem dX0_statement_83 : decode cX0_statement 83 = .ok (.ireturn, 1) := dk_172 (dk_at dksX0_statement_3 12 rfl rfl)
abbrev cX0_named : ByteArray := prog_1_method_17_code
def yX0_named : MethodName := ⟨RX0, "named", "()LStrideTurns$Deed;"⟩
def dkwX0_named_2 : List UInt8 := [167, 255, 219, 42, 180, 0, 17, 43, 182, 0, 194, 182, 0, 198, 192, 0, 12, 176]
abbrev dktX0_named_2 : List UInt8 := dkwX0_named_2 ++ []
def dkwX0_named_1 : List UInt8 := [28, 51, 158, 0, 13, 42, 180, 0, 45, 28, 51, 146, 167, 0, 5, 16, 63, 182, 0, 190, 87, 132, 2, 1]
abbrev dktX0_named_1 : List UInt8 := dkwX0_named_1 ++ dktX0_named_2
def dkwX0_named_0 : List UInt8 := [187, 0, 187, 89, 8, 183, 0, 189, 76, 3, 61, 28, 42, 180, 0, 184, 162, 0, 35, 43, 42, 180, 0, 45]
abbrev dktX0_named_0 : List UInt8 := dkwX0_named_0 ++ dktX0_named_1
theorem dksX0_named_0 : cX0_named.data.toList.drop 0 = dktX0_named_0 := by decide +kernel
theorem dksX0_named_1 : cX0_named.data.toList.drop 24 = dktX0_named_1 := dk_seg dksX0_named_0 24 rfl rfl
theorem dksX0_named_2 : cX0_named.data.toList.drop 48 = dktX0_named_2 := dk_seg dksX0_named_1 24 rfl rfl
theorem dX0_named_0 : decode cX0_named 0 = .ok (.new 187, 3) := dk_187 0 187 (dk_at dksX0_named_0 0 rfl rfl)
theorem dX0_named_3 : decode cX0_named 3 = .ok (.dup, 1) := dk_89 (dk_at dksX0_named_0 3 rfl rfl)
theorem dX0_named_4 : decode cX0_named 4 = .ok (.iconst 5, 1) := dk_8 (dk_at dksX0_named_0 4 rfl rfl)
theorem dX0_named_5 : decode cX0_named 5 = .ok (.invokespecial 189, 3) := dk_183 0 189 (dk_at dksX0_named_0 5 rfl rfl)
theorem dX0_named_8 : decode cX0_named 8 = .ok (.astore_n 1, 1) := dk_76 (dk_at dksX0_named_0 8 rfl rfl)
theorem dX0_named_9 : decode cX0_named 9 = .ok (.iconst 0, 1) := dk_3 (dk_at dksX0_named_0 9 rfl rfl)
theorem dX0_named_10 : decode cX0_named 10 = .ok (.istore_n 2, 1) := dk_61 (dk_at dksX0_named_0 10 rfl rfl)
theorem dX0_named_11 : decode cX0_named 11 = .ok (.iload_n 2, 1) := dk_28 (dk_at dksX0_named_0 11 rfl rfl)
theorem dX0_named_12 : decode cX0_named 12 = .ok (.aload_n 0, 1) := dk_42 (dk_at dksX0_named_0 12 rfl rfl)
theorem dX0_named_13 : decode cX0_named 13 = .ok (.getfield 184, 3) := dk_180 0 184 (dk_at dksX0_named_0 13 rfl rfl)
theorem dX0_named_16 : decode cX0_named 16 = .ok (.if_icmp .ge 35, 3) := dk_162 0 35 (dk_at dksX0_named_0 16 rfl rfl)
theorem dX0_named_19 : decode cX0_named 19 = .ok (.aload_n 1, 1) := dk_43 (dk_at dksX0_named_0 19 rfl rfl)
theorem dX0_named_20 : decode cX0_named 20 = .ok (.aload_n 0, 1) := dk_42 (dk_at dksX0_named_0 20 rfl rfl)
theorem dX0_named_21 : decode cX0_named 21 = .ok (.getfield 45, 3) := dk_180 0 45 (dk_at dksX0_named_0 21 rfl rfl)
theorem dX0_named_24 : decode cX0_named 24 = .ok (.iload_n 2, 1) := dk_28 (dk_at dksX0_named_1 0 rfl rfl)
theorem dX0_named_25 : decode cX0_named 25 = .ok (.baload, 1) := dk_51 (dk_at dksX0_named_1 1 rfl rfl)
theorem dX0_named_26 : decode cX0_named 26 = .ok (.ifCond .le 13, 3) := dk_158 0 13 (dk_at dksX0_named_1 2 rfl rfl)
theorem dX0_named_29 : decode cX0_named 29 = .ok (.aload_n 0, 1) := dk_42 (dk_at dksX0_named_1 5 rfl rfl)
theorem dX0_named_30 : decode cX0_named 30 = .ok (.getfield 45, 3) := dk_180 0 45 (dk_at dksX0_named_1 6 rfl rfl)
theorem dX0_named_33 : decode cX0_named 33 = .ok (.iload_n 2, 1) := dk_28 (dk_at dksX0_named_1 9 rfl rfl)
theorem dX0_named_34 : decode cX0_named 34 = .ok (.baload, 1) := dk_51 (dk_at dksX0_named_1 10 rfl rfl)
theorem dX0_named_35 : decode cX0_named 35 = .ok (.i2c, 1) := dk_146 (dk_at dksX0_named_1 11 rfl rfl)
theorem dX0_named_36 : decode cX0_named 36 = .ok (.goto 5, 3) := dk_167 0 5 (dk_at dksX0_named_1 12 rfl rfl)
theorem dX0_named_39 : decode cX0_named 39 = .ok (.bipush 63, 2) := dk_16 63 (dk_at dksX0_named_1 15 rfl rfl)
theorem dX0_named_41 : decode cX0_named 41 = .ok (.invokevirtual 190, 3) := dk_182 0 190 (dk_at dksX0_named_1 17 rfl rfl)
theorem dX0_named_44 : decode cX0_named 44 = .ok (.pop, 1) := dk_87 (dk_at dksX0_named_1 20 rfl rfl)
theorem dX0_named_45 : decode cX0_named 45 = .ok (.iinc 2 1, 3) := dk_132 2 1 (dk_at dksX0_named_1 21 rfl rfl)
theorem dX0_named_48 : decode cX0_named 48 = .ok (.goto (-37), 3) := dk_167 255 219 (dk_at dksX0_named_2 0 rfl rfl)
theorem dX0_named_51 : decode cX0_named 51 = .ok (.aload_n 0, 1) := dk_42 (dk_at dksX0_named_2 3 rfl rfl)
theorem dX0_named_52 : decode cX0_named 52 = .ok (.getfield 17, 3) := dk_180 0 17 (dk_at dksX0_named_2 4 rfl rfl)
theorem dX0_named_55 : decode cX0_named 55 = .ok (.aload_n 1, 1) := dk_43 (dk_at dksX0_named_2 7 rfl rfl)
theorem dX0_named_56 : decode cX0_named 56 = .ok (.invokevirtual 194, 3) := dk_182 0 194 (dk_at dksX0_named_2 8 rfl rfl)
theorem dX0_named_59 : decode cX0_named 59 = .ok (.invokevirtual 198, 3) := dk_182 0 198 (dk_at dksX0_named_2 11 rfl rfl)
theorem dX0_named_62 : decode cX0_named 62 = .ok (.checkcast 12, 3) := dk_192 0 12 (dk_at dksX0_named_2 14 rfl rfl)
theorem dX0_named_65 : decode cX0_named 65 = .ok (.areturn, 1) := dk_176 (dk_at dksX0_named_2 17 rfl rfl)
abbrev cX0_lambda_statement_1 : ByteArray := prog_1_method_107_code
def yX0_lambda_statement_1 : MethodName := ⟨RX0, "lambda$statement$1", "()I"⟩
def dkwX0_lambda_statement_1_0 : List UInt8 := [42, 180, 0, 34, 42, 180, 0, 34, 182, 0, 208, 4, 100, 182, 2, 191, 87, 4, 172]
abbrev dktX0_lambda_statement_1_0 : List UInt8 := dkwX0_lambda_statement_1_0 ++ []
theorem dksX0_lambda_statement_1_0 : cX0_lambda_statement_1.data.toList.drop 0 = dktX0_lambda_statement_1_0 := by decide +kernel
theorem dX0_lambda_statement_1_0 : decode cX0_lambda_statement_1 0 = .ok (.aload_n 0, 1) := dk_42 (dk_at dksX0_lambda_statement_1_0 0 rfl rfl)
theorem dX0_lambda_statement_1_1 : decode cX0_lambda_statement_1 1 = .ok (.getfield 34, 3) := dk_180 0 34 (dk_at dksX0_lambda_statement_1_0 1 rfl rfl)
theorem dX0_lambda_statement_1_4 : decode cX0_lambda_statement_1 4 = .ok (.aload_n 0, 1) := dk_42 (dk_at dksX0_lambda_statement_1_0 4 rfl rfl)
theorem dX0_lambda_statement_1_5 : decode cX0_lambda_statement_1 5 = .ok (.getfield 34, 3) := dk_180 0 34 (dk_at dksX0_lambda_statement_1_0 5 rfl rfl)
theorem dX0_lambda_statement_1_8 : decode cX0_lambda_statement_1 8 = .ok (.invokevirtual 208, 3) := dk_182 0 208 (dk_at dksX0_lambda_statement_1_0 8 rfl rfl)
theorem dX0_lambda_statement_1_11 : decode cX0_lambda_statement_1 11 = .ok (.iconst 1, 1) := dk_4 (dk_at dksX0_lambda_statement_1_0 11 rfl rfl)
theorem dX0_lambda_statement_1_12 : decode cX0_lambda_statement_1 12 = .ok (.isub, 1) := dk_100 (dk_at dksX0_lambda_statement_1_0 12 rfl rfl)
theorem dX0_lambda_statement_1_13 : decode cX0_lambda_statement_1 13 = .ok (.invokevirtual 703, 3) := dk_182 2 191 (dk_at dksX0_lambda_statement_1_0 13 rfl rfl)
theorem dX0_lambda_statement_1_16 : decode cX0_lambda_statement_1 16 = .ok (.pop, 1) := dk_87 (dk_at dksX0_lambda_statement_1_0 16 rfl rfl)
theorem dX0_lambda_statement_1_17 : decode cX0_lambda_statement_1 17 = .ok (.iconst 1, 1) := dk_4 (dk_at dksX0_lambda_statement_1_0 17 rfl rfl)
theorem dX0_lambda_statement_1_18 : decode cX0_lambda_statement_1 18 = .ok (.ireturn, 1) := dk_172 (dk_at dksX0_lambda_statement_1_0 18 rfl rfl)
abbrev cX0_refer : ByteArray := prog_1_method_21_code
def yX0_refer : MethodName := ⟨RX0, "refer", "(III)I"⟩
def dkwX0_refer_3 : List UInt8 := [182, 0, 180, 21, 5, 172]
abbrev dktX0_refer_3 : List UInt8 := dkwX0_refer_3 ++ []
def dkwX0_refer_2 : List UInt8 := [25, 4, 180, 0, 237, 54, 5, 25, 4, 29, 181, 0, 237, 42, 25, 4, 21, 5, 186, 0, 242, 0, 0]
abbrev dktX0_refer_2 : List UInt8 := dkwX0_refer_2 ++ dktX0_refer_3
def dkwX0_refer_1 : List UInt8 := [154, 0, 6, 16, 254, 172, 42, 180, 0, 34, 27, 182, 0, 230, 192, 0, 209, 28, 182, 0, 233, 58, 4]
abbrev dktX0_refer_1 : List UInt8 := dkwX0_refer_1 ++ dktX0_refer_2
def dkwX0_refer_0 : List UInt8 := [42, 27, 28, 182, 0, 226, 153, 0, 19, 29, 184, 0, 106, 154, 0, 15, 29, 2, 160, 0, 7, 28]
abbrev dktX0_refer_0 : List UInt8 := dkwX0_refer_0 ++ dktX0_refer_1
theorem dksX0_refer_0 : cX0_refer.data.toList.drop 0 = dktX0_refer_0 := by decide +kernel
theorem dksX0_refer_1 : cX0_refer.data.toList.drop 22 = dktX0_refer_1 := dk_seg dksX0_refer_0 22 rfl rfl
theorem dksX0_refer_2 : cX0_refer.data.toList.drop 45 = dktX0_refer_2 := dk_seg dksX0_refer_1 23 rfl rfl
theorem dksX0_refer_3 : cX0_refer.data.toList.drop 68 = dktX0_refer_3 := dk_seg dksX0_refer_2 23 rfl rfl
theorem dX0_refer_0 : decode cX0_refer 0 = .ok (.aload_n 0, 1) := dk_42 (dk_at dksX0_refer_0 0 rfl rfl)
theorem dX0_refer_1 : decode cX0_refer 1 = .ok (.iload_n 1, 1) := dk_27 (dk_at dksX0_refer_0 1 rfl rfl)
theorem dX0_refer_2 : decode cX0_refer 2 = .ok (.iload_n 2, 1) := dk_28 (dk_at dksX0_refer_0 2 rfl rfl)
theorem dX0_refer_3 : decode cX0_refer 3 = .ok (.invokevirtual 226, 3) := dk_182 0 226 (dk_at dksX0_refer_0 3 rfl rfl)
theorem dX0_refer_6 : decode cX0_refer 6 = .ok (.ifCond .eq 19, 3) := dk_153 0 19 (dk_at dksX0_refer_0 6 rfl rfl)
theorem dX0_refer_9 : decode cX0_refer 9 = .ok (.iload_n 3, 1) := dk_29 (dk_at dksX0_refer_0 9 rfl rfl)
theorem dX0_refer_10 : decode cX0_refer 10 = .ok (.invokestatic 106, 3) := dk_184 0 106 (dk_at dksX0_refer_0 10 rfl rfl)
theorem dX0_refer_13 : decode cX0_refer 13 = .ok (.ifCond .ne 15, 3) := dk_154 0 15 (dk_at dksX0_refer_0 13 rfl rfl)
theorem dX0_refer_16 : decode cX0_refer 16 = .ok (.iload_n 3, 1) := dk_29 (dk_at dksX0_refer_0 16 rfl rfl)
theorem dX0_refer_17 : decode cX0_refer 17 = .ok (.iconst (-1), 1) := dk_2 (dk_at dksX0_refer_0 17 rfl rfl)
theorem dX0_refer_18 : decode cX0_refer 18 = .ok (.if_icmp .ne 7, 3) := dk_160 0 7 (dk_at dksX0_refer_0 18 rfl rfl)
theorem dX0_refer_21 : decode cX0_refer 21 = .ok (.iload_n 2, 1) := dk_28 (dk_at dksX0_refer_0 21 rfl rfl)
theorem dX0_refer_22 : decode cX0_refer 22 = .ok (.ifCond .ne 6, 3) := dk_154 0 6 (dk_at dksX0_refer_1 0 rfl rfl)
theorem dX0_refer_25 : decode cX0_refer 25 = .ok (.bipush (-2), 2) := dk_16 254 (dk_at dksX0_refer_1 3 rfl rfl)
theorem dX0_refer_27 : decode cX0_refer 27 = .ok (.ireturn, 1) := dk_172 (dk_at dksX0_refer_1 5 rfl rfl)
theorem dX0_refer_28 : decode cX0_refer 28 = .ok (.aload_n 0, 1) := dk_42 (dk_at dksX0_refer_1 6 rfl rfl)
theorem dX0_refer_29 : decode cX0_refer 29 = .ok (.getfield 34, 3) := dk_180 0 34 (dk_at dksX0_refer_1 7 rfl rfl)
theorem dX0_refer_32 : decode cX0_refer 32 = .ok (.iload_n 1, 1) := dk_27 (dk_at dksX0_refer_1 10 rfl rfl)
theorem dX0_refer_33 : decode cX0_refer 33 = .ok (.invokevirtual 230, 3) := dk_182 0 230 (dk_at dksX0_refer_1 11 rfl rfl)
theorem dX0_refer_36 : decode cX0_refer 36 = .ok (.checkcast 209, 3) := dk_192 0 209 (dk_at dksX0_refer_1 14 rfl rfl)
theorem dX0_refer_39 : decode cX0_refer 39 = .ok (.iload_n 2, 1) := dk_28 (dk_at dksX0_refer_1 17 rfl rfl)
theorem dX0_refer_40 : decode cX0_refer 40 = .ok (.invokevirtual 233, 3) := dk_182 0 233 (dk_at dksX0_refer_1 18 rfl rfl)
theorem dX0_refer_43 : decode cX0_refer 43 = .ok (.astore 4, 2) := dk_58 4 (dk_at dksX0_refer_1 21 rfl rfl)
theorem dX0_refer_45 : decode cX0_refer 45 = .ok (.aload 4, 2) := dk_25 4 (dk_at dksX0_refer_2 0 rfl rfl)
theorem dX0_refer_47 : decode cX0_refer 47 = .ok (.getfield 237, 3) := dk_180 0 237 (dk_at dksX0_refer_2 2 rfl rfl)
theorem dX0_refer_50 : decode cX0_refer 50 = .ok (.istore 5, 2) := dk_54 5 (dk_at dksX0_refer_2 5 rfl rfl)
theorem dX0_refer_52 : decode cX0_refer 52 = .ok (.aload 4, 2) := dk_25 4 (dk_at dksX0_refer_2 7 rfl rfl)
theorem dX0_refer_54 : decode cX0_refer 54 = .ok (.iload_n 3, 1) := dk_29 (dk_at dksX0_refer_2 9 rfl rfl)
theorem dX0_refer_55 : decode cX0_refer 55 = .ok (.putfield 237, 3) := dk_181 0 237 (dk_at dksX0_refer_2 10 rfl rfl)
theorem dX0_refer_58 : decode cX0_refer 58 = .ok (.aload_n 0, 1) := dk_42 (dk_at dksX0_refer_2 13 rfl rfl)
theorem dX0_refer_59 : decode cX0_refer 59 = .ok (.aload 4, 2) := dk_25 4 (dk_at dksX0_refer_2 14 rfl rfl)
theorem dX0_refer_61 : decode cX0_refer 61 = .ok (.iload 5, 2) := dk_21 5 (dk_at dksX0_refer_2 16 rfl rfl)
theorem dX0_refer_63 : decode cX0_refer 63 = .ok (.invokedynamic 242, 5) := by decide +kernel
theorem dX0_refer_68 : decode cX0_refer 68 = .ok (.invokevirtual 180, 3) := dk_182 0 180 (dk_at dksX0_refer_3 0 rfl rfl)
theorem dX0_refer_71 : decode cX0_refer 71 = .ok (.iload 5, 2) := dk_21 5 (dk_at dksX0_refer_3 3 rfl rfl)
theorem dX0_refer_73 : decode cX0_refer 73 = .ok (.ireturn, 1) := dk_172 (dk_at dksX0_refer_3 5 rfl rfl)
abbrev cX0_isReference : ByteArray := prog_1_method_20_code
def yX0_isReference : MethodName := ⟨RX0, "isReference", "(II)Z"⟩
def dkwX0_isReference_1 : List UInt8 := [3, 172]
abbrev dktX0_isReference_1 : List UInt8 := dkwX0_isReference_1 ++ []
def dkwX0_isReference_0 : List UInt8 := [42, 27, 182, 0, 221, 153, 0, 19, 28, 133, 9, 20, 0, 224, 184, 0, 90, 153, 0, 7, 4, 167, 0, 4]
abbrev dktX0_isReference_0 : List UInt8 := dkwX0_isReference_0 ++ dktX0_isReference_1
theorem dksX0_isReference_0 : cX0_isReference.data.toList.drop 0 = dktX0_isReference_0 := by decide +kernel
theorem dksX0_isReference_1 : cX0_isReference.data.toList.drop 24 = dktX0_isReference_1 := dk_seg dksX0_isReference_0 24 rfl rfl
theorem dX0_isReference_0 : decode cX0_isReference 0 = .ok (.aload_n 0, 1) := dk_42 (dk_at dksX0_isReference_0 0 rfl rfl)
theorem dX0_isReference_1 : decode cX0_isReference 1 = .ok (.iload_n 1, 1) := dk_27 (dk_at dksX0_isReference_0 1 rfl rfl)
theorem dX0_isReference_2 : decode cX0_isReference 2 = .ok (.invokevirtual 221, 3) := dk_182 0 221 (dk_at dksX0_isReference_0 2 rfl rfl)
theorem dX0_isReference_5 : decode cX0_isReference 5 = .ok (.ifCond .eq 19, 3) := dk_153 0 19 (dk_at dksX0_isReference_0 5 rfl rfl)
theorem dX0_isReference_8 : decode cX0_isReference 8 = .ok (.iload_n 2, 1) := dk_28 (dk_at dksX0_isReference_0 8 rfl rfl)
theorem dX0_isReference_9 : decode cX0_isReference 9 = .ok (.i2l, 1) := dk_133 (dk_at dksX0_isReference_0 9 rfl rfl)
theorem dX0_isReference_10 : decode cX0_isReference 10 = .ok (.lconst 0, 1) := dk_9 (dk_at dksX0_isReference_0 10 rfl rfl)
theorem dX0_isReference_11 : decode cX0_isReference 11 = .ok (.ldc2_w 224, 3) := dk_20 0 224 (dk_at dksX0_isReference_0 11 rfl rfl)
theorem dX0_isReference_14 : decode cX0_isReference 14 = .ok (.invokestatic 90, 3) := dk_184 0 90 (dk_at dksX0_isReference_0 14 rfl rfl)
theorem dX0_isReference_17 : decode cX0_isReference 17 = .ok (.ifCond .eq 7, 3) := dk_153 0 7 (dk_at dksX0_isReference_0 17 rfl rfl)
theorem dX0_isReference_20 : decode cX0_isReference 20 = .ok (.iconst 1, 1) := dk_4 (dk_at dksX0_isReference_0 20 rfl rfl)
theorem dX0_isReference_21 : decode cX0_isReference 21 = .ok (.goto 4, 3) := dk_167 0 4 (dk_at dksX0_isReference_0 21 rfl rfl)
theorem dX0_isReference_24 : decode cX0_isReference 24 = .ok (.iconst 0, 1) := dk_3 (dk_at dksX0_isReference_1 0 rfl rfl)
theorem dX0_isReference_25 : decode cX0_isReference 25 = .ok (.ireturn, 1) := dk_172 (dk_at dksX0_isReference_1 1 rfl rfl)
abbrev cX0_isStatement : ByteArray := prog_1_method_19_code
def yX0_isStatement : MethodName := ⟨RX0, "isStatement", "(I)Z"⟩
def dkwX0_isStatement_0 : List UInt8 := [27, 133, 9, 42, 180, 0, 34, 182, 0, 208, 4, 100, 133, 184, 0, 90, 172]
abbrev dktX0_isStatement_0 : List UInt8 := dkwX0_isStatement_0 ++ []
theorem dksX0_isStatement_0 : cX0_isStatement.data.toList.drop 0 = dktX0_isStatement_0 := by decide +kernel
theorem dX0_isStatement_0 : decode cX0_isStatement 0 = .ok (.iload_n 1, 1) := dk_27 (dk_at dksX0_isStatement_0 0 rfl rfl)
theorem dX0_isStatement_1 : decode cX0_isStatement 1 = .ok (.i2l, 1) := dk_133 (dk_at dksX0_isStatement_0 1 rfl rfl)
theorem dX0_isStatement_2 : decode cX0_isStatement 2 = .ok (.lconst 0, 1) := dk_9 (dk_at dksX0_isStatement_0 2 rfl rfl)
theorem dX0_isStatement_3 : decode cX0_isStatement 3 = .ok (.aload_n 0, 1) := dk_42 (dk_at dksX0_isStatement_0 3 rfl rfl)
theorem dX0_isStatement_4 : decode cX0_isStatement 4 = .ok (.getfield 34, 3) := dk_180 0 34 (dk_at dksX0_isStatement_0 4 rfl rfl)
theorem dX0_isStatement_7 : decode cX0_isStatement 7 = .ok (.invokevirtual 208, 3) := dk_182 0 208 (dk_at dksX0_isStatement_0 7 rfl rfl)
theorem dX0_isStatement_10 : decode cX0_isStatement 10 = .ok (.iconst 1, 1) := dk_4 (dk_at dksX0_isStatement_0 10 rfl rfl)
theorem dX0_isStatement_11 : decode cX0_isStatement 11 = .ok (.isub, 1) := dk_100 (dk_at dksX0_isStatement_0 11 rfl rfl)
theorem dX0_isStatement_12 : decode cX0_isStatement 12 = .ok (.i2l, 1) := dk_133 (dk_at dksX0_isStatement_0 12 rfl rfl)
theorem dX0_isStatement_13 : decode cX0_isStatement 13 = .ok (.invokestatic 90, 3) := dk_184 0 90 (dk_at dksX0_isStatement_0 13 rfl rfl)
theorem dX0_isStatement_16 : decode cX0_isStatement 16 = .ok (.ireturn, 1) := dk_172 (dk_at dksX0_isStatement_0 16 rfl rfl)
abbrev cX0_lambda_refer_2 : ByteArray := prog_1_method_106_code
def yX0_lambda_refer_2 : MethodName := ⟨RX0, "lambda$refer$2", "(LStrideTurns$Reference;I)I"⟩
def dkwX0_lambda_refer_2_0 : List UInt8 := [42, 27, 181, 0, 237, 5, 172]
abbrev dktX0_lambda_refer_2_0 : List UInt8 := dkwX0_lambda_refer_2_0 ++ []
theorem dksX0_lambda_refer_2_0 : cX0_lambda_refer_2.data.toList.drop 0 = dktX0_lambda_refer_2_0 := by decide +kernel
theorem dX0_lambda_refer_2_0 : decode cX0_lambda_refer_2 0 = .ok (.aload_n 0, 1) := dk_42 (dk_at dksX0_lambda_refer_2_0 0 rfl rfl)
theorem dX0_lambda_refer_2_1 : decode cX0_lambda_refer_2 1 = .ok (.iload_n 1, 1) := dk_27 (dk_at dksX0_lambda_refer_2_0 1 rfl rfl)
theorem dX0_lambda_refer_2_2 : decode cX0_lambda_refer_2 2 = .ok (.putfield 237, 3) := dk_181 0 237 (dk_at dksX0_lambda_refer_2_0 2 rfl rfl)
theorem dX0_lambda_refer_2_5 : decode cX0_lambda_refer_2 5 = .ok (.iconst 2, 1) := dk_5 (dk_at dksX0_lambda_refer_2_0 5 rfl rfl)
theorem dX0_lambda_refer_2_6 : decode cX0_lambda_refer_2 6 = .ok (.ireturn, 1) := dk_172 (dk_at dksX0_lambda_refer_2_0 6 rfl rfl)
abbrev cX0_place : ByteArray := prog_1_method_22_code
def yX0_place : MethodName := ⟨RX0, "place", "(IIIII)I"⟩
def dkwX0_place_5 : List UInt8 := [182, 0, 180, 4, 172]
abbrev dktX0_place_5 : List UInt8 := dkwX0_place_5 ++ []
def dkwX0_place_4 : List UInt8 := [25, 6, 29, 21, 4, 21, 5, 182, 1, 6, 42, 25, 6, 21, 7, 21, 8, 21, 9, 186, 1, 9, 0, 0]
abbrev dktX0_place_4 : List UInt8 := dkwX0_place_4 ++ dktX0_place_5
def dkwX0_place_3 : List UInt8 := [58, 6, 25, 6, 180, 0, 253, 54, 7, 25, 6, 180, 1, 0, 54, 8, 25, 6, 180, 1, 3, 54, 9]
abbrev dktX0_place_3 : List UInt8 := dkwX0_place_3 ++ dktX0_place_4
def dkwX0_place_2 : List UInt8 := [184, 0, 90, 154, 0, 6, 16, 254, 172, 42, 180, 0, 34, 27, 182, 0, 230, 192, 0, 209, 28, 182, 0, 233]
abbrev dktX0_place_2 : List UInt8 := dkwX0_place_2 ++ dktX0_place_3
def dkwX0_place_1 : List UInt8 := [21, 4, 133, 20, 0, 249, 20, 0, 251, 184, 0, 90, 153, 0, 18, 21, 5, 133, 20, 0, 249, 20, 0, 251]
abbrev dktX0_place_1 : List UInt8 := dkwX0_place_1 ++ dktX0_place_2
def dkwX0_place_0 : List UInt8 := [42, 27, 28, 182, 0, 226, 153, 0, 47, 29, 133, 20, 0, 245, 20, 0, 247, 184, 0, 90, 153, 0, 33]
abbrev dktX0_place_0 : List UInt8 := dkwX0_place_0 ++ dktX0_place_1
theorem dksX0_place_0 : cX0_place.data.toList.drop 0 = dktX0_place_0 := by decide +kernel
theorem dksX0_place_1 : cX0_place.data.toList.drop 23 = dktX0_place_1 := dk_seg dksX0_place_0 23 rfl rfl
theorem dksX0_place_2 : cX0_place.data.toList.drop 47 = dktX0_place_2 := dk_seg dksX0_place_1 24 rfl rfl
theorem dksX0_place_3 : cX0_place.data.toList.drop 71 = dktX0_place_3 := dk_seg dksX0_place_2 24 rfl rfl
theorem dksX0_place_4 : cX0_place.data.toList.drop 94 = dktX0_place_4 := dk_seg dksX0_place_3 23 rfl rfl
theorem dksX0_place_5 : cX0_place.data.toList.drop 118 = dktX0_place_5 := dk_seg dksX0_place_4 24 rfl rfl
theorem dX0_place_0 : decode cX0_place 0 = .ok (.aload_n 0, 1) := dk_42 (dk_at dksX0_place_0 0 rfl rfl)
theorem dX0_place_1 : decode cX0_place 1 = .ok (.iload_n 1, 1) := dk_27 (dk_at dksX0_place_0 1 rfl rfl)
theorem dX0_place_2 : decode cX0_place 2 = .ok (.iload_n 2, 1) := dk_28 (dk_at dksX0_place_0 2 rfl rfl)
theorem dX0_place_3 : decode cX0_place 3 = .ok (.invokevirtual 226, 3) := dk_182 0 226 (dk_at dksX0_place_0 3 rfl rfl)
theorem dX0_place_6 : decode cX0_place 6 = .ok (.ifCond .eq 47, 3) := dk_153 0 47 (dk_at dksX0_place_0 6 rfl rfl)
theorem dX0_place_9 : decode cX0_place 9 = .ok (.iload_n 3, 1) := dk_29 (dk_at dksX0_place_0 9 rfl rfl)
theorem dX0_place_10 : decode cX0_place 10 = .ok (.i2l, 1) := dk_133 (dk_at dksX0_place_0 10 rfl rfl)
theorem dX0_place_11 : decode cX0_place 11 = .ok (.ldc2_w 245, 3) := dk_20 0 245 (dk_at dksX0_place_0 11 rfl rfl)
theorem dX0_place_14 : decode cX0_place 14 = .ok (.ldc2_w 247, 3) := dk_20 0 247 (dk_at dksX0_place_0 14 rfl rfl)
theorem dX0_place_17 : decode cX0_place 17 = .ok (.invokestatic 90, 3) := dk_184 0 90 (dk_at dksX0_place_0 17 rfl rfl)
theorem dX0_place_20 : decode cX0_place 20 = .ok (.ifCond .eq 33, 3) := dk_153 0 33 (dk_at dksX0_place_0 20 rfl rfl)
theorem dX0_place_23 : decode cX0_place 23 = .ok (.iload 4, 2) := dk_21 4 (dk_at dksX0_place_1 0 rfl rfl)
theorem dX0_place_25 : decode cX0_place 25 = .ok (.i2l, 1) := dk_133 (dk_at dksX0_place_1 2 rfl rfl)
theorem dX0_place_26 : decode cX0_place 26 = .ok (.ldc2_w 249, 3) := dk_20 0 249 (dk_at dksX0_place_1 3 rfl rfl)
theorem dX0_place_29 : decode cX0_place 29 = .ok (.ldc2_w 251, 3) := dk_20 0 251 (dk_at dksX0_place_1 6 rfl rfl)
theorem dX0_place_32 : decode cX0_place 32 = .ok (.invokestatic 90, 3) := dk_184 0 90 (dk_at dksX0_place_1 9 rfl rfl)
theorem dX0_place_35 : decode cX0_place 35 = .ok (.ifCond .eq 18, 3) := dk_153 0 18 (dk_at dksX0_place_1 12 rfl rfl)
theorem dX0_place_38 : decode cX0_place 38 = .ok (.iload 5, 2) := dk_21 5 (dk_at dksX0_place_1 15 rfl rfl)
theorem dX0_place_40 : decode cX0_place 40 = .ok (.i2l, 1) := dk_133 (dk_at dksX0_place_1 17 rfl rfl)
theorem dX0_place_41 : decode cX0_place 41 = .ok (.ldc2_w 249, 3) := dk_20 0 249 (dk_at dksX0_place_1 18 rfl rfl)
theorem dX0_place_44 : decode cX0_place 44 = .ok (.ldc2_w 251, 3) := dk_20 0 251 (dk_at dksX0_place_1 21 rfl rfl)
theorem dX0_place_47 : decode cX0_place 47 = .ok (.invokestatic 90, 3) := dk_184 0 90 (dk_at dksX0_place_2 0 rfl rfl)
theorem dX0_place_50 : decode cX0_place 50 = .ok (.ifCond .ne 6, 3) := dk_154 0 6 (dk_at dksX0_place_2 3 rfl rfl)
theorem dX0_place_53 : decode cX0_place 53 = .ok (.bipush (-2), 2) := dk_16 254 (dk_at dksX0_place_2 6 rfl rfl)
theorem dX0_place_55 : decode cX0_place 55 = .ok (.ireturn, 1) := dk_172 (dk_at dksX0_place_2 8 rfl rfl)
theorem dX0_place_56 : decode cX0_place 56 = .ok (.aload_n 0, 1) := dk_42 (dk_at dksX0_place_2 9 rfl rfl)
theorem dX0_place_57 : decode cX0_place 57 = .ok (.getfield 34, 3) := dk_180 0 34 (dk_at dksX0_place_2 10 rfl rfl)
theorem dX0_place_60 : decode cX0_place 60 = .ok (.iload_n 1, 1) := dk_27 (dk_at dksX0_place_2 13 rfl rfl)
theorem dX0_place_61 : decode cX0_place 61 = .ok (.invokevirtual 230, 3) := dk_182 0 230 (dk_at dksX0_place_2 14 rfl rfl)
theorem dX0_place_64 : decode cX0_place 64 = .ok (.checkcast 209, 3) := dk_192 0 209 (dk_at dksX0_place_2 17 rfl rfl)
theorem dX0_place_67 : decode cX0_place 67 = .ok (.iload_n 2, 1) := dk_28 (dk_at dksX0_place_2 20 rfl rfl)
theorem dX0_place_68 : decode cX0_place 68 = .ok (.invokevirtual 233, 3) := dk_182 0 233 (dk_at dksX0_place_2 21 rfl rfl)
theorem dX0_place_71 : decode cX0_place 71 = .ok (.astore 6, 2) := dk_58 6 (dk_at dksX0_place_3 0 rfl rfl)
theorem dX0_place_73 : decode cX0_place 73 = .ok (.aload 6, 2) := dk_25 6 (dk_at dksX0_place_3 2 rfl rfl)
theorem dX0_place_75 : decode cX0_place 75 = .ok (.getfield 253, 3) := dk_180 0 253 (dk_at dksX0_place_3 4 rfl rfl)
theorem dX0_place_78 : decode cX0_place 78 = .ok (.istore 7, 2) := dk_54 7 (dk_at dksX0_place_3 7 rfl rfl)
theorem dX0_place_80 : decode cX0_place 80 = .ok (.aload 6, 2) := dk_25 6 (dk_at dksX0_place_3 9 rfl rfl)
theorem dX0_place_82 : decode cX0_place 82 = .ok (.getfield 256, 3) := dk_180 1 0 (dk_at dksX0_place_3 11 rfl rfl)
theorem dX0_place_85 : decode cX0_place 85 = .ok (.istore 8, 2) := dk_54 8 (dk_at dksX0_place_3 14 rfl rfl)
theorem dX0_place_87 : decode cX0_place 87 = .ok (.aload 6, 2) := dk_25 6 (dk_at dksX0_place_3 16 rfl rfl)
theorem dX0_place_89 : decode cX0_place 89 = .ok (.getfield 259, 3) := dk_180 1 3 (dk_at dksX0_place_3 18 rfl rfl)
theorem dX0_place_92 : decode cX0_place 92 = .ok (.istore 9, 2) := dk_54 9 (dk_at dksX0_place_3 21 rfl rfl)
theorem dX0_place_94 : decode cX0_place 94 = .ok (.aload 6, 2) := dk_25 6 (dk_at dksX0_place_4 0 rfl rfl)
theorem dX0_place_96 : decode cX0_place 96 = .ok (.iload_n 3, 1) := dk_29 (dk_at dksX0_place_4 2 rfl rfl)
theorem dX0_place_97 : decode cX0_place 97 = .ok (.iload 4, 2) := dk_21 4 (dk_at dksX0_place_4 3 rfl rfl)
theorem dX0_place_99 : decode cX0_place 99 = .ok (.iload 5, 2) := dk_21 5 (dk_at dksX0_place_4 5 rfl rfl)
theorem dX0_place_101 : decode cX0_place 101 = .ok (.invokevirtual 262, 3) := dk_182 1 6 (dk_at dksX0_place_4 7 rfl rfl)
theorem dX0_place_104 : decode cX0_place 104 = .ok (.aload_n 0, 1) := dk_42 (dk_at dksX0_place_4 10 rfl rfl)
theorem dX0_place_105 : decode cX0_place 105 = .ok (.aload 6, 2) := dk_25 6 (dk_at dksX0_place_4 11 rfl rfl)
theorem dX0_place_107 : decode cX0_place 107 = .ok (.iload 7, 2) := dk_21 7 (dk_at dksX0_place_4 13 rfl rfl)
theorem dX0_place_109 : decode cX0_place 109 = .ok (.iload 8, 2) := dk_21 8 (dk_at dksX0_place_4 15 rfl rfl)
theorem dX0_place_111 : decode cX0_place 111 = .ok (.iload 9, 2) := dk_21 9 (dk_at dksX0_place_4 17 rfl rfl)
theorem dX0_place_113 : decode cX0_place 113 = .ok (.invokedynamic 265, 5) := by decide +kernel
theorem dX0_place_118 : decode cX0_place 118 = .ok (.invokevirtual 180, 3) := dk_182 0 180 (dk_at dksX0_place_5 0 rfl rfl)
theorem dX0_place_121 : decode cX0_place 121 = .ok (.iconst 1, 1) := dk_4 (dk_at dksX0_place_5 3 rfl rfl)
theorem dX0_place_122 : decode cX0_place 122 = .ok (.ireturn, 1) := dk_172 (dk_at dksX0_place_5 4 rfl rfl)
abbrev cX0_lambda_place_3 : ByteArray := prog_1_method_105_code
def yX0_lambda_place_3 : MethodName := ⟨RX0, "lambda$place$3", "(LStrideTurns$Reference;III)I"⟩
def dkwX0_lambda_place_3_0 : List UInt8 := [42, 27, 28, 29, 182, 1, 6, 6, 172]
abbrev dktX0_lambda_place_3_0 : List UInt8 := dkwX0_lambda_place_3_0 ++ []
theorem dksX0_lambda_place_3_0 : cX0_lambda_place_3.data.toList.drop 0 = dktX0_lambda_place_3_0 := by decide +kernel
theorem dX0_lambda_place_3_0 : decode cX0_lambda_place_3 0 = .ok (.aload_n 0, 1) := dk_42 (dk_at dksX0_lambda_place_3_0 0 rfl rfl)
theorem dX0_lambda_place_3_1 : decode cX0_lambda_place_3 1 = .ok (.iload_n 1, 1) := dk_27 (dk_at dksX0_lambda_place_3_0 1 rfl rfl)
theorem dX0_lambda_place_3_2 : decode cX0_lambda_place_3 2 = .ok (.iload_n 2, 1) := dk_28 (dk_at dksX0_lambda_place_3_0 2 rfl rfl)
theorem dX0_lambda_place_3_3 : decode cX0_lambda_place_3 3 = .ok (.iload_n 3, 1) := dk_29 (dk_at dksX0_lambda_place_3_0 3 rfl rfl)
theorem dX0_lambda_place_3_4 : decode cX0_lambda_place_3 4 = .ok (.invokevirtual 262, 3) := dk_182 1 6 (dk_at dksX0_lambda_place_3_0 4 rfl rfl)
theorem dX0_lambda_place_3_7 : decode cX0_lambda_place_3 7 = .ok (.iconst 3, 1) := dk_6 (dk_at dksX0_lambda_place_3_0 7 rfl rfl)
theorem dX0_lambda_place_3_8 : decode cX0_lambda_place_3 8 = .ok (.ireturn, 1) := dk_172 (dk_at dksX0_lambda_place_3_0 8 rfl rfl)
abbrev cX0_guard : ByteArray := prog_1_method_23_code
def yX0_guard : MethodName := ⟨RX0, "guard", "(III)I"⟩
def dkwX0_guard_3 : List UInt8 := [25, 4, 21, 5, 21, 6, 186, 1, 21, 0, 0, 182, 0, 180, 4, 172]
abbrev dktX0_guard_3 : List UInt8 := dkwX0_guard_3 ++ []
def dkwX0_guard_2 : List UInt8 := [58, 4, 25, 4, 180, 1, 12, 54, 5, 25, 4, 180, 1, 15, 54, 6, 25, 4, 28, 29, 182, 1, 18, 42]
abbrev dktX0_guard_2 : List UInt8 := dkwX0_guard_2 ++ dktX0_guard_3
def dkwX0_guard_1 : List UInt8 := [4, 100, 133, 184, 0, 90, 154, 0, 6, 16, 254, 172, 42, 180, 0, 34, 27, 182, 0, 230, 192, 0, 209]
abbrev dktX0_guard_1 : List UInt8 := dkwX0_guard_1 ++ dktX0_guard_2
def dkwX0_guard_0 : List UInt8 := [42, 27, 182, 0, 221, 153, 0, 28, 28, 133, 10, 20, 0, 251, 184, 0, 90, 153, 0, 16, 29, 133, 9, 28]
abbrev dktX0_guard_0 : List UInt8 := dkwX0_guard_0 ++ dktX0_guard_1
theorem dksX0_guard_0 : cX0_guard.data.toList.drop 0 = dktX0_guard_0 := by decide +kernel
theorem dksX0_guard_1 : cX0_guard.data.toList.drop 24 = dktX0_guard_1 := dk_seg dksX0_guard_0 24 rfl rfl
theorem dksX0_guard_2 : cX0_guard.data.toList.drop 47 = dktX0_guard_2 := dk_seg dksX0_guard_1 23 rfl rfl
theorem dksX0_guard_3 : cX0_guard.data.toList.drop 71 = dktX0_guard_3 := dk_seg dksX0_guard_2 24 rfl rfl
theorem dX0_guard_0 : decode cX0_guard 0 = .ok (.aload_n 0, 1) := dk_42 (dk_at dksX0_guard_0 0 rfl rfl)
theorem dX0_guard_1 : decode cX0_guard 1 = .ok (.iload_n 1, 1) := dk_27 (dk_at dksX0_guard_0 1 rfl rfl)
theorem dX0_guard_2 : decode cX0_guard 2 = .ok (.invokevirtual 221, 3) := dk_182 0 221 (dk_at dksX0_guard_0 2 rfl rfl)
theorem dX0_guard_5 : decode cX0_guard 5 = .ok (.ifCond .eq 28, 3) := dk_153 0 28 (dk_at dksX0_guard_0 5 rfl rfl)
theorem dX0_guard_8 : decode cX0_guard 8 = .ok (.iload_n 2, 1) := dk_28 (dk_at dksX0_guard_0 8 rfl rfl)
theorem dX0_guard_9 : decode cX0_guard 9 = .ok (.i2l, 1) := dk_133 (dk_at dksX0_guard_0 9 rfl rfl)
theorem dX0_guard_10 : decode cX0_guard 10 = .ok (.lconst 1, 1) := dk_10 (dk_at dksX0_guard_0 10 rfl rfl)
theorem dX0_guard_11 : decode cX0_guard 11 = .ok (.ldc2_w 251, 3) := dk_20 0 251 (dk_at dksX0_guard_0 11 rfl rfl)
theorem dX0_guard_14 : decode cX0_guard 14 = .ok (.invokestatic 90, 3) := dk_184 0 90 (dk_at dksX0_guard_0 14 rfl rfl)
theorem dX0_guard_17 : decode cX0_guard 17 = .ok (.ifCond .eq 16, 3) := dk_153 0 16 (dk_at dksX0_guard_0 17 rfl rfl)
theorem dX0_guard_20 : decode cX0_guard 20 = .ok (.iload_n 3, 1) := dk_29 (dk_at dksX0_guard_0 20 rfl rfl)
theorem dX0_guard_21 : decode cX0_guard 21 = .ok (.i2l, 1) := dk_133 (dk_at dksX0_guard_0 21 rfl rfl)
theorem dX0_guard_22 : decode cX0_guard 22 = .ok (.lconst 0, 1) := dk_9 (dk_at dksX0_guard_0 22 rfl rfl)
theorem dX0_guard_23 : decode cX0_guard 23 = .ok (.iload_n 2, 1) := dk_28 (dk_at dksX0_guard_0 23 rfl rfl)
theorem dX0_guard_24 : decode cX0_guard 24 = .ok (.iconst 1, 1) := dk_4 (dk_at dksX0_guard_1 0 rfl rfl)
theorem dX0_guard_25 : decode cX0_guard 25 = .ok (.isub, 1) := dk_100 (dk_at dksX0_guard_1 1 rfl rfl)
theorem dX0_guard_26 : decode cX0_guard 26 = .ok (.i2l, 1) := dk_133 (dk_at dksX0_guard_1 2 rfl rfl)
theorem dX0_guard_27 : decode cX0_guard 27 = .ok (.invokestatic 90, 3) := dk_184 0 90 (dk_at dksX0_guard_1 3 rfl rfl)
theorem dX0_guard_30 : decode cX0_guard 30 = .ok (.ifCond .ne 6, 3) := dk_154 0 6 (dk_at dksX0_guard_1 6 rfl rfl)
theorem dX0_guard_33 : decode cX0_guard 33 = .ok (.bipush (-2), 2) := dk_16 254 (dk_at dksX0_guard_1 9 rfl rfl)
theorem dX0_guard_35 : decode cX0_guard 35 = .ok (.ireturn, 1) := dk_172 (dk_at dksX0_guard_1 11 rfl rfl)
theorem dX0_guard_36 : decode cX0_guard 36 = .ok (.aload_n 0, 1) := dk_42 (dk_at dksX0_guard_1 12 rfl rfl)
theorem dX0_guard_37 : decode cX0_guard 37 = .ok (.getfield 34, 3) := dk_180 0 34 (dk_at dksX0_guard_1 13 rfl rfl)
theorem dX0_guard_40 : decode cX0_guard 40 = .ok (.iload_n 1, 1) := dk_27 (dk_at dksX0_guard_1 16 rfl rfl)
theorem dX0_guard_41 : decode cX0_guard 41 = .ok (.invokevirtual 230, 3) := dk_182 0 230 (dk_at dksX0_guard_1 17 rfl rfl)
theorem dX0_guard_44 : decode cX0_guard 44 = .ok (.checkcast 209, 3) := dk_192 0 209 (dk_at dksX0_guard_1 20 rfl rfl)
theorem dX0_guard_47 : decode cX0_guard 47 = .ok (.astore 4, 2) := dk_58 4 (dk_at dksX0_guard_2 0 rfl rfl)
theorem dX0_guard_49 : decode cX0_guard 49 = .ok (.aload 4, 2) := dk_25 4 (dk_at dksX0_guard_2 2 rfl rfl)
theorem dX0_guard_51 : decode cX0_guard 51 = .ok (.getfield 268, 3) := dk_180 1 12 (dk_at dksX0_guard_2 4 rfl rfl)
theorem dX0_guard_54 : decode cX0_guard 54 = .ok (.istore 5, 2) := dk_54 5 (dk_at dksX0_guard_2 7 rfl rfl)
theorem dX0_guard_56 : decode cX0_guard 56 = .ok (.aload 4, 2) := dk_25 4 (dk_at dksX0_guard_2 9 rfl rfl)
theorem dX0_guard_58 : decode cX0_guard 58 = .ok (.getfield 271, 3) := dk_180 1 15 (dk_at dksX0_guard_2 11 rfl rfl)
theorem dX0_guard_61 : decode cX0_guard 61 = .ok (.istore 6, 2) := dk_54 6 (dk_at dksX0_guard_2 14 rfl rfl)
theorem dX0_guard_63 : decode cX0_guard 63 = .ok (.aload 4, 2) := dk_25 4 (dk_at dksX0_guard_2 16 rfl rfl)
theorem dX0_guard_65 : decode cX0_guard 65 = .ok (.iload_n 2, 1) := dk_28 (dk_at dksX0_guard_2 18 rfl rfl)
theorem dX0_guard_66 : decode cX0_guard 66 = .ok (.iload_n 3, 1) := dk_29 (dk_at dksX0_guard_2 19 rfl rfl)
theorem dX0_guard_67 : decode cX0_guard 67 = .ok (.invokevirtual 274, 3) := dk_182 1 18 (dk_at dksX0_guard_2 20 rfl rfl)
theorem dX0_guard_70 : decode cX0_guard 70 = .ok (.aload_n 0, 1) := dk_42 (dk_at dksX0_guard_2 23 rfl rfl)
theorem dX0_guard_71 : decode cX0_guard 71 = .ok (.aload 4, 2) := dk_25 4 (dk_at dksX0_guard_3 0 rfl rfl)
theorem dX0_guard_73 : decode cX0_guard 73 = .ok (.iload 5, 2) := dk_21 5 (dk_at dksX0_guard_3 2 rfl rfl)
theorem dX0_guard_75 : decode cX0_guard 75 = .ok (.iload 6, 2) := dk_21 6 (dk_at dksX0_guard_3 4 rfl rfl)
theorem dX0_guard_77 : decode cX0_guard 77 = .ok (.invokedynamic 277, 5) := by decide +kernel
theorem dX0_guard_82 : decode cX0_guard 82 = .ok (.invokevirtual 180, 3) := dk_182 0 180 (dk_at dksX0_guard_3 11 rfl rfl)
theorem dX0_guard_85 : decode cX0_guard 85 = .ok (.iconst 1, 1) := dk_4 (dk_at dksX0_guard_3 14 rfl rfl)
theorem dX0_guard_86 : decode cX0_guard 86 = .ok (.ireturn, 1) := dk_172 (dk_at dksX0_guard_3 15 rfl rfl)
abbrev cX0_lambda_guard_4 : ByteArray := prog_1_method_104_code
def yX0_lambda_guard_4 : MethodName := ⟨RX0, "lambda$guard$4", "(LStrideTurns$Statement;II)I"⟩
def dkwX0_lambda_guard_4_0 : List UInt8 := [42, 27, 28, 182, 1, 18, 7, 172]
abbrev dktX0_lambda_guard_4_0 : List UInt8 := dkwX0_lambda_guard_4_0 ++ []
theorem dksX0_lambda_guard_4_0 : cX0_lambda_guard_4.data.toList.drop 0 = dktX0_lambda_guard_4_0 := by decide +kernel
theorem dX0_lambda_guard_4_0 : decode cX0_lambda_guard_4 0 = .ok (.aload_n 0, 1) := dk_42 (dk_at dksX0_lambda_guard_4_0 0 rfl rfl)
theorem dX0_lambda_guard_4_1 : decode cX0_lambda_guard_4 1 = .ok (.iload_n 1, 1) := dk_27 (dk_at dksX0_lambda_guard_4_0 1 rfl rfl)
theorem dX0_lambda_guard_4_2 : decode cX0_lambda_guard_4 2 = .ok (.iload_n 2, 1) := dk_28 (dk_at dksX0_lambda_guard_4_0 2 rfl rfl)
theorem dX0_lambda_guard_4_3 : decode cX0_lambda_guard_4 3 = .ok (.invokevirtual 274, 3) := dk_182 1 18 (dk_at dksX0_lambda_guard_4_0 3 rfl rfl)
theorem dX0_lambda_guard_4_6 : decode cX0_lambda_guard_4 6 = .ok (.iconst 4, 1) := dk_7 (dk_at dksX0_lambda_guard_4_0 6 rfl rfl)
theorem dX0_lambda_guard_4_7 : decode cX0_lambda_guard_4 7 = .ok (.ireturn, 1) := dk_172 (dk_at dksX0_lambda_guard_4_0 7 rfl rfl)
abbrev cX0_mask : ByteArray := prog_1_method_24_code
def yX0_mask : MethodName := ⟨RX0, "mask", "(II)I"⟩
def dkwX0_mask_2 : List UInt8 := [42, 45, 21, 4, 186, 1, 29, 0, 0, 182, 0, 180, 21, 4, 172]
abbrev dktX0_mask_2 : List UInt8 := dkwX0_mask_2 ++ []
def dkwX0_mask_1 : List UInt8 := [172, 42, 180, 0, 34, 27, 182, 0, 230, 192, 0, 209, 78, 45, 180, 1, 26, 54, 4, 45, 28, 181, 1, 26]
abbrev dktX0_mask_1 : List UInt8 := dkwX0_mask_1 ++ dktX0_mask_2
def dkwX0_mask_0 : List UInt8 := [42, 27, 182, 0, 221, 153, 0, 17, 28, 133, 20, 1, 24, 20, 0, 100, 184, 0, 90, 154, 0, 6, 16, 254]
abbrev dktX0_mask_0 : List UInt8 := dkwX0_mask_0 ++ dktX0_mask_1
theorem dksX0_mask_0 : cX0_mask.data.toList.drop 0 = dktX0_mask_0 := by decide +kernel
theorem dksX0_mask_1 : cX0_mask.data.toList.drop 24 = dktX0_mask_1 := dk_seg dksX0_mask_0 24 rfl rfl
theorem dksX0_mask_2 : cX0_mask.data.toList.drop 48 = dktX0_mask_2 := dk_seg dksX0_mask_1 24 rfl rfl
theorem dX0_mask_0 : decode cX0_mask 0 = .ok (.aload_n 0, 1) := dk_42 (dk_at dksX0_mask_0 0 rfl rfl)
theorem dX0_mask_1 : decode cX0_mask 1 = .ok (.iload_n 1, 1) := dk_27 (dk_at dksX0_mask_0 1 rfl rfl)
theorem dX0_mask_2 : decode cX0_mask 2 = .ok (.invokevirtual 221, 3) := dk_182 0 221 (dk_at dksX0_mask_0 2 rfl rfl)
theorem dX0_mask_5 : decode cX0_mask 5 = .ok (.ifCond .eq 17, 3) := dk_153 0 17 (dk_at dksX0_mask_0 5 rfl rfl)
theorem dX0_mask_8 : decode cX0_mask 8 = .ok (.iload_n 2, 1) := dk_28 (dk_at dksX0_mask_0 8 rfl rfl)
theorem dX0_mask_9 : decode cX0_mask 9 = .ok (.i2l, 1) := dk_133 (dk_at dksX0_mask_0 9 rfl rfl)
theorem dX0_mask_10 : decode cX0_mask 10 = .ok (.ldc2_w 280, 3) := dk_20 1 24 (dk_at dksX0_mask_0 10 rfl rfl)
theorem dX0_mask_13 : decode cX0_mask 13 = .ok (.ldc2_w 100, 3) := dk_20 0 100 (dk_at dksX0_mask_0 13 rfl rfl)
theorem dX0_mask_16 : decode cX0_mask 16 = .ok (.invokestatic 90, 3) := dk_184 0 90 (dk_at dksX0_mask_0 16 rfl rfl)
theorem dX0_mask_19 : decode cX0_mask 19 = .ok (.ifCond .ne 6, 3) := dk_154 0 6 (dk_at dksX0_mask_0 19 rfl rfl)
theorem dX0_mask_22 : decode cX0_mask 22 = .ok (.bipush (-2), 2) := dk_16 254 (dk_at dksX0_mask_0 22 rfl rfl)
theorem dX0_mask_24 : decode cX0_mask 24 = .ok (.ireturn, 1) := dk_172 (dk_at dksX0_mask_1 0 rfl rfl)
theorem dX0_mask_25 : decode cX0_mask 25 = .ok (.aload_n 0, 1) := dk_42 (dk_at dksX0_mask_1 1 rfl rfl)
theorem dX0_mask_26 : decode cX0_mask 26 = .ok (.getfield 34, 3) := dk_180 0 34 (dk_at dksX0_mask_1 2 rfl rfl)
theorem dX0_mask_29 : decode cX0_mask 29 = .ok (.iload_n 1, 1) := dk_27 (dk_at dksX0_mask_1 5 rfl rfl)
theorem dX0_mask_30 : decode cX0_mask 30 = .ok (.invokevirtual 230, 3) := dk_182 0 230 (dk_at dksX0_mask_1 6 rfl rfl)
theorem dX0_mask_33 : decode cX0_mask 33 = .ok (.checkcast 209, 3) := dk_192 0 209 (dk_at dksX0_mask_1 9 rfl rfl)
theorem dX0_mask_36 : decode cX0_mask 36 = .ok (.astore_n 3, 1) := dk_78 (dk_at dksX0_mask_1 12 rfl rfl)
theorem dX0_mask_37 : decode cX0_mask 37 = .ok (.aload_n 3, 1) := dk_45 (dk_at dksX0_mask_1 13 rfl rfl)
theorem dX0_mask_38 : decode cX0_mask 38 = .ok (.getfield 282, 3) := dk_180 1 26 (dk_at dksX0_mask_1 14 rfl rfl)
theorem dX0_mask_41 : decode cX0_mask 41 = .ok (.istore 4, 2) := dk_54 4 (dk_at dksX0_mask_1 17 rfl rfl)
theorem dX0_mask_43 : decode cX0_mask 43 = .ok (.aload_n 3, 1) := dk_45 (dk_at dksX0_mask_1 19 rfl rfl)
theorem dX0_mask_44 : decode cX0_mask 44 = .ok (.iload_n 2, 1) := dk_28 (dk_at dksX0_mask_1 20 rfl rfl)
theorem dX0_mask_45 : decode cX0_mask 45 = .ok (.putfield 282, 3) := dk_181 1 26 (dk_at dksX0_mask_1 21 rfl rfl)
theorem dX0_mask_48 : decode cX0_mask 48 = .ok (.aload_n 0, 1) := dk_42 (dk_at dksX0_mask_2 0 rfl rfl)
theorem dX0_mask_49 : decode cX0_mask 49 = .ok (.aload_n 3, 1) := dk_45 (dk_at dksX0_mask_2 1 rfl rfl)
theorem dX0_mask_50 : decode cX0_mask 50 = .ok (.iload 4, 2) := dk_21 4 (dk_at dksX0_mask_2 2 rfl rfl)
theorem dX0_mask_52 : decode cX0_mask 52 = .ok (.invokedynamic 285, 5) := by decide +kernel
theorem dX0_mask_57 : decode cX0_mask 57 = .ok (.invokevirtual 180, 3) := dk_182 0 180 (dk_at dksX0_mask_2 9 rfl rfl)
theorem dX0_mask_60 : decode cX0_mask 60 = .ok (.iload 4, 2) := dk_21 4 (dk_at dksX0_mask_2 12 rfl rfl)
theorem dX0_mask_62 : decode cX0_mask 62 = .ok (.ireturn, 1) := dk_172 (dk_at dksX0_mask_2 14 rfl rfl)
abbrev cX0_lambda_mask_5 : ByteArray := prog_1_method_103_code
def yX0_lambda_mask_5 : MethodName := ⟨RX0, "lambda$mask$5", "(LStrideTurns$Statement;I)I"⟩
def dkwX0_lambda_mask_5_0 : List UInt8 := [42, 27, 181, 1, 26, 8, 172]
abbrev dktX0_lambda_mask_5_0 : List UInt8 := dkwX0_lambda_mask_5_0 ++ []
theorem dksX0_lambda_mask_5_0 : cX0_lambda_mask_5.data.toList.drop 0 = dktX0_lambda_mask_5_0 := by decide +kernel
theorem dX0_lambda_mask_5_0 : decode cX0_lambda_mask_5 0 = .ok (.aload_n 0, 1) := dk_42 (dk_at dksX0_lambda_mask_5_0 0 rfl rfl)
theorem dX0_lambda_mask_5_1 : decode cX0_lambda_mask_5 1 = .ok (.iload_n 1, 1) := dk_27 (dk_at dksX0_lambda_mask_5_0 1 rfl rfl)
theorem dX0_lambda_mask_5_2 : decode cX0_lambda_mask_5 2 = .ok (.putfield 282, 3) := dk_181 1 26 (dk_at dksX0_lambda_mask_5_0 2 rfl rfl)
theorem dX0_lambda_mask_5_5 : decode cX0_lambda_mask_5 5 = .ok (.iconst 5, 1) := dk_8 (dk_at dksX0_lambda_mask_5_0 5 rfl rfl)
theorem dX0_lambda_mask_5_6 : decode cX0_lambda_mask_5 6 = .ok (.ireturn, 1) := dk_172 (dk_at dksX0_lambda_mask_5_0 6 rfl rfl)
abbrev cX0_undo : ByteArray := prog_1_method_25_code
def yX0_undo : MethodName := ⟨RX0, "undo", "()I"⟩
def dkwX0_undo_1 : List UInt8 := [185, 1, 39, 1, 0, 172]
abbrev dktX0_undo_1 : List UInt8 := dkwX0_undo_1 ++ []
def dkwX0_undo_0 : List UInt8 := [42, 180, 0, 41, 182, 1, 32, 192, 0, 162, 76, 43, 199, 0, 8, 16, 253, 167, 0, 12, 43, 180, 1, 35]
abbrev dktX0_undo_0 : List UInt8 := dkwX0_undo_0 ++ dktX0_undo_1
theorem dksX0_undo_0 : cX0_undo.data.toList.drop 0 = dktX0_undo_0 := by decide +kernel
theorem dksX0_undo_1 : cX0_undo.data.toList.drop 24 = dktX0_undo_1 := dk_seg dksX0_undo_0 24 rfl rfl
theorem dX0_undo_0 : decode cX0_undo 0 = .ok (.aload_n 0, 1) := dk_42 (dk_at dksX0_undo_0 0 rfl rfl)
theorem dX0_undo_1 : decode cX0_undo 1 = .ok (.getfield 41, 3) := dk_180 0 41 (dk_at dksX0_undo_0 1 rfl rfl)
theorem dX0_undo_4 : decode cX0_undo 4 = .ok (.invokevirtual 288, 3) := dk_182 1 32 (dk_at dksX0_undo_0 4 rfl rfl)
theorem dX0_undo_7 : decode cX0_undo 7 = .ok (.checkcast 162, 3) := dk_192 0 162 (dk_at dksX0_undo_0 7 rfl rfl)
theorem dX0_undo_10 : decode cX0_undo 10 = .ok (.astore_n 1, 1) := dk_76 (dk_at dksX0_undo_0 10 rfl rfl)
theorem dX0_undo_11 : decode cX0_undo 11 = .ok (.aload_n 1, 1) := dk_43 (dk_at dksX0_undo_0 11 rfl rfl)
theorem dX0_undo_12 : decode cX0_undo 12 = .ok (.ifnonnull 8, 3) := dk_199 0 8 (dk_at dksX0_undo_0 12 rfl rfl)
theorem dX0_undo_15 : decode cX0_undo 15 = .ok (.bipush (-3), 2) := dk_16 253 (dk_at dksX0_undo_0 15 rfl rfl)
theorem dX0_undo_17 : decode cX0_undo 17 = .ok (.goto 12, 3) := dk_167 0 12 (dk_at dksX0_undo_0 17 rfl rfl)
theorem dX0_undo_20 : decode cX0_undo 20 = .ok (.aload_n 1, 1) := dk_43 (dk_at dksX0_undo_0 20 rfl rfl)
theorem dX0_undo_21 : decode cX0_undo 21 = .ok (.getfield 291, 3) := dk_180 1 35 (dk_at dksX0_undo_0 21 rfl rfl)
theorem dX0_undo_24 : decode cX0_undo 24 = .ok (.invokeinterface 295 1, 5) := by decide +kernel
theorem dX0_undo_29 : decode cX0_undo 29 = .ok (.ireturn, 1) := dk_172 (dk_at dksX0_undo_1 5 rfl rfl)
abbrev cX0_info : ByteArray := prog_1_method_26_code
def yX0_info : MethodName := ⟨RX0, "info", "(II)I"⟩
def dkwX0_info_1 : List UInt8 := [27, 182, 0, 230, 192, 0, 209, 28, 182, 1, 43, 167, 0, 5, 16, 254, 172]
abbrev dktX0_info_1 : List UInt8 := dkwX0_info_1 ++ []
def dkwX0_info_0 : List UInt8 := [42, 27, 182, 0, 221, 153, 0, 33, 28, 133, 9, 20, 0, 251, 184, 0, 90, 153, 0, 21, 42, 180, 0, 34]
abbrev dktX0_info_0 : List UInt8 := dkwX0_info_0 ++ dktX0_info_1
theorem dksX0_info_0 : cX0_info.data.toList.drop 0 = dktX0_info_0 := by decide +kernel
theorem dksX0_info_1 : cX0_info.data.toList.drop 24 = dktX0_info_1 := dk_seg dksX0_info_0 24 rfl rfl
theorem dX0_info_0 : decode cX0_info 0 = .ok (.aload_n 0, 1) := dk_42 (dk_at dksX0_info_0 0 rfl rfl)
theorem dX0_info_1 : decode cX0_info 1 = .ok (.iload_n 1, 1) := dk_27 (dk_at dksX0_info_0 1 rfl rfl)
theorem dX0_info_2 : decode cX0_info 2 = .ok (.invokevirtual 221, 3) := dk_182 0 221 (dk_at dksX0_info_0 2 rfl rfl)
theorem dX0_info_5 : decode cX0_info 5 = .ok (.ifCond .eq 33, 3) := dk_153 0 33 (dk_at dksX0_info_0 5 rfl rfl)
theorem dX0_info_8 : decode cX0_info 8 = .ok (.iload_n 2, 1) := dk_28 (dk_at dksX0_info_0 8 rfl rfl)
theorem dX0_info_9 : decode cX0_info 9 = .ok (.i2l, 1) := dk_133 (dk_at dksX0_info_0 9 rfl rfl)
theorem dX0_info_10 : decode cX0_info 10 = .ok (.lconst 0, 1) := dk_9 (dk_at dksX0_info_0 10 rfl rfl)
theorem dX0_info_11 : decode cX0_info 11 = .ok (.ldc2_w 251, 3) := dk_20 0 251 (dk_at dksX0_info_0 11 rfl rfl)
theorem dX0_info_14 : decode cX0_info 14 = .ok (.invokestatic 90, 3) := dk_184 0 90 (dk_at dksX0_info_0 14 rfl rfl)
theorem dX0_info_17 : decode cX0_info 17 = .ok (.ifCond .eq 21, 3) := dk_153 0 21 (dk_at dksX0_info_0 17 rfl rfl)
theorem dX0_info_20 : decode cX0_info 20 = .ok (.aload_n 0, 1) := dk_42 (dk_at dksX0_info_0 20 rfl rfl)
theorem dX0_info_21 : decode cX0_info 21 = .ok (.getfield 34, 3) := dk_180 0 34 (dk_at dksX0_info_0 21 rfl rfl)
theorem dX0_info_24 : decode cX0_info 24 = .ok (.iload_n 1, 1) := dk_27 (dk_at dksX0_info_1 0 rfl rfl)
theorem dX0_info_25 : decode cX0_info 25 = .ok (.invokevirtual 230, 3) := dk_182 0 230 (dk_at dksX0_info_1 1 rfl rfl)
theorem dX0_info_28 : decode cX0_info 28 = .ok (.checkcast 209, 3) := dk_192 0 209 (dk_at dksX0_info_1 4 rfl rfl)
theorem dX0_info_31 : decode cX0_info 31 = .ok (.iload_n 2, 1) := dk_28 (dk_at dksX0_info_1 7 rfl rfl)
theorem dX0_info_32 : decode cX0_info 32 = .ok (.invokevirtual 299, 3) := dk_182 1 43 (dk_at dksX0_info_1 8 rfl rfl)
theorem dX0_info_35 : decode cX0_info 35 = .ok (.goto 5, 3) := dk_167 0 5 (dk_at dksX0_info_1 11 rfl rfl)
theorem dX0_info_38 : decode cX0_info 38 = .ok (.bipush (-2), 2) := dk_16 254 (dk_at dksX0_info_1 14 rfl rfl)
theorem dX0_info_40 : decode cX0_info 40 = .ok (.ireturn, 1) := dk_172 (dk_at dksX0_info_1 16 rfl rfl)
abbrev cX0_numbers : ByteArray := prog_1_method_7_code
def yX0_numbers : MethodName := ⟨RX0, "numbers", "(I)LStrideTurns$Row;"⟩
def dkwX0_numbers_0 : List UInt8 := [42, 180, 0, 25, 27, 50, 77, 44, 198, 0, 14, 44, 182, 0, 102, 153, 0, 7, 44, 167, 0, 4, 1, 176]
abbrev dktX0_numbers_0 : List UInt8 := dkwX0_numbers_0 ++ []
theorem dksX0_numbers_0 : cX0_numbers.data.toList.drop 0 = dktX0_numbers_0 := by decide +kernel
theorem dX0_numbers_0 : decode cX0_numbers 0 = .ok (.aload_n 0, 1) := dk_42 (dk_at dksX0_numbers_0 0 rfl rfl)
theorem dX0_numbers_1 : decode cX0_numbers 1 = .ok (.getfield 25, 3) := dk_180 0 25 (dk_at dksX0_numbers_0 1 rfl rfl)
theorem dX0_numbers_4 : decode cX0_numbers 4 = .ok (.iload_n 1, 1) := dk_27 (dk_at dksX0_numbers_0 4 rfl rfl)
theorem dX0_numbers_5 : decode cX0_numbers 5 = .ok (.aaload, 1) := dk_50 (dk_at dksX0_numbers_0 5 rfl rfl)
theorem dX0_numbers_6 : decode cX0_numbers 6 = .ok (.astore_n 2, 1) := dk_77 (dk_at dksX0_numbers_0 6 rfl rfl)
theorem dX0_numbers_7 : decode cX0_numbers 7 = .ok (.aload_n 2, 1) := dk_44 (dk_at dksX0_numbers_0 7 rfl rfl)
theorem dX0_numbers_8 : decode cX0_numbers 8 = .ok (.ifnull 14, 3) := dk_198 0 14 (dk_at dksX0_numbers_0 8 rfl rfl)
theorem dX0_numbers_11 : decode cX0_numbers 11 = .ok (.aload_n 2, 1) := dk_44 (dk_at dksX0_numbers_0 11 rfl rfl)
theorem dX0_numbers_12 : decode cX0_numbers 12 = .ok (.invokevirtual 102, 3) := dk_182 0 102 (dk_at dksX0_numbers_0 12 rfl rfl)
theorem dX0_numbers_15 : decode cX0_numbers 15 = .ok (.ifCond .eq 7, 3) := dk_153 0 7 (dk_at dksX0_numbers_0 15 rfl rfl)
theorem dX0_numbers_18 : decode cX0_numbers 18 = .ok (.aload_n 2, 1) := dk_44 (dk_at dksX0_numbers_0 18 rfl rfl)
theorem dX0_numbers_19 : decode cX0_numbers 19 = .ok (.goto 4, 3) := dk_167 0 4 (dk_at dksX0_numbers_0 19 rfl rfl)
theorem dX0_numbers_22 : decode cX0_numbers 22 = .ok (.aconst_null, 1) := dk_1 (dk_at dksX0_numbers_0 22 rfl rfl)
theorem dX0_numbers_23 : decode cX0_numbers 23 = .ok (.areturn, 1) := dk_176 (dk_at dksX0_numbers_0 23 rfl rfl)
abbrev cX0_reference : ByteArray := prog_1_method_27_code
def yX0_reference : MethodName := ⟨RX0, "reference", "(III)I"⟩
def dkwX0_reference_2 : List UInt8 := [172]
abbrev dktX0_reference_2 : List UInt8 := dkwX0_reference_2 ++ []
def dkwX0_reference_1 : List UInt8 := [180, 0, 34, 27, 182, 0, 230, 192, 0, 209, 28, 182, 0, 233, 29, 182, 1, 47, 167, 0, 6, 19, 1, 48]
abbrev dktX0_reference_1 : List UInt8 := dkwX0_reference_1 ++ dktX0_reference_2
def dkwX0_reference_0 : List UInt8 := [42, 27, 28, 182, 0, 226, 153, 0, 37, 29, 133, 9, 20, 1, 45, 184, 0, 90, 153, 0, 25, 42]
abbrev dktX0_reference_0 : List UInt8 := dkwX0_reference_0 ++ dktX0_reference_1
theorem dksX0_reference_0 : cX0_reference.data.toList.drop 0 = dktX0_reference_0 := by decide +kernel
theorem dksX0_reference_1 : cX0_reference.data.toList.drop 22 = dktX0_reference_1 := dk_seg dksX0_reference_0 22 rfl rfl
theorem dksX0_reference_2 : cX0_reference.data.toList.drop 46 = dktX0_reference_2 := dk_seg dksX0_reference_1 24 rfl rfl
theorem dX0_reference_0 : decode cX0_reference 0 = .ok (.aload_n 0, 1) := dk_42 (dk_at dksX0_reference_0 0 rfl rfl)
theorem dX0_reference_1 : decode cX0_reference 1 = .ok (.iload_n 1, 1) := dk_27 (dk_at dksX0_reference_0 1 rfl rfl)
theorem dX0_reference_2 : decode cX0_reference 2 = .ok (.iload_n 2, 1) := dk_28 (dk_at dksX0_reference_0 2 rfl rfl)
theorem dX0_reference_3 : decode cX0_reference 3 = .ok (.invokevirtual 226, 3) := dk_182 0 226 (dk_at dksX0_reference_0 3 rfl rfl)
theorem dX0_reference_6 : decode cX0_reference 6 = .ok (.ifCond .eq 37, 3) := dk_153 0 37 (dk_at dksX0_reference_0 6 rfl rfl)
theorem dX0_reference_9 : decode cX0_reference 9 = .ok (.iload_n 3, 1) := dk_29 (dk_at dksX0_reference_0 9 rfl rfl)
theorem dX0_reference_10 : decode cX0_reference 10 = .ok (.i2l, 1) := dk_133 (dk_at dksX0_reference_0 10 rfl rfl)
theorem dX0_reference_11 : decode cX0_reference 11 = .ok (.lconst 0, 1) := dk_9 (dk_at dksX0_reference_0 11 rfl rfl)
theorem dX0_reference_12 : decode cX0_reference 12 = .ok (.ldc2_w 301, 3) := dk_20 1 45 (dk_at dksX0_reference_0 12 rfl rfl)
theorem dX0_reference_15 : decode cX0_reference 15 = .ok (.invokestatic 90, 3) := dk_184 0 90 (dk_at dksX0_reference_0 15 rfl rfl)
theorem dX0_reference_18 : decode cX0_reference 18 = .ok (.ifCond .eq 25, 3) := dk_153 0 25 (dk_at dksX0_reference_0 18 rfl rfl)
theorem dX0_reference_21 : decode cX0_reference 21 = .ok (.aload_n 0, 1) := dk_42 (dk_at dksX0_reference_0 21 rfl rfl)
theorem dX0_reference_22 : decode cX0_reference 22 = .ok (.getfield 34, 3) := dk_180 0 34 (dk_at dksX0_reference_1 0 rfl rfl)
theorem dX0_reference_25 : decode cX0_reference 25 = .ok (.iload_n 1, 1) := dk_27 (dk_at dksX0_reference_1 3 rfl rfl)
theorem dX0_reference_26 : decode cX0_reference 26 = .ok (.invokevirtual 230, 3) := dk_182 0 230 (dk_at dksX0_reference_1 4 rfl rfl)
theorem dX0_reference_29 : decode cX0_reference 29 = .ok (.checkcast 209, 3) := dk_192 0 209 (dk_at dksX0_reference_1 7 rfl rfl)
theorem dX0_reference_32 : decode cX0_reference 32 = .ok (.iload_n 2, 1) := dk_28 (dk_at dksX0_reference_1 10 rfl rfl)
theorem dX0_reference_33 : decode cX0_reference 33 = .ok (.invokevirtual 233, 3) := dk_182 0 233 (dk_at dksX0_reference_1 11 rfl rfl)
theorem dX0_reference_36 : decode cX0_reference 36 = .ok (.iload_n 3, 1) := dk_29 (dk_at dksX0_reference_1 14 rfl rfl)
theorem dX0_reference_37 : decode cX0_reference 37 = .ok (.invokevirtual 303, 3) := dk_182 1 47 (dk_at dksX0_reference_1 15 rfl rfl)
theorem dX0_reference_40 : decode cX0_reference 40 = .ok (.goto 6, 3) := dk_167 0 6 (dk_at dksX0_reference_1 18 rfl rfl)
theorem dX0_reference_43 : decode cX0_reference 43 = .ok (.ldc_w 304, 3) := dk_19 1 48 (dk_at dksX0_reference_1 21 rfl rfl)
theorem dX0_reference_46 : decode cX0_reference 46 = .ok (.ireturn, 1) := dk_172 (dk_at dksX0_reference_2 0 rfl rfl)
abbrev cX0_section : ByteArray := prog_1_method_33_code
def yX0_section : MethodName := ⟨RX0, "section", "(III)I"⟩
def dkwX0_section_1 : List UInt8 := [184, 0, 90, 153, 0, 16, 42, 27, 28, 182, 1, 67, 29, 182, 1, 71, 167, 0, 6, 19, 1, 48, 172]
abbrev dktX0_section_1 : List UInt8 := dkwX0_section_1 ++ []
def dkwX0_section_0 : List UInt8 := [42, 27, 182, 1, 61, 153, 0, 36, 42, 28, 182, 1, 64, 153, 0, 28, 29, 133, 9, 20, 0, 224]
abbrev dktX0_section_0 : List UInt8 := dkwX0_section_0 ++ dktX0_section_1
theorem dksX0_section_0 : cX0_section.data.toList.drop 0 = dktX0_section_0 := by decide +kernel
theorem dksX0_section_1 : cX0_section.data.toList.drop 22 = dktX0_section_1 := dk_seg dksX0_section_0 22 rfl rfl
theorem dX0_section_0 : decode cX0_section 0 = .ok (.aload_n 0, 1) := dk_42 (dk_at dksX0_section_0 0 rfl rfl)
theorem dX0_section_1 : decode cX0_section 1 = .ok (.iload_n 1, 1) := dk_27 (dk_at dksX0_section_0 1 rfl rfl)
theorem dX0_section_2 : decode cX0_section 2 = .ok (.invokevirtual 317, 3) := dk_182 1 61 (dk_at dksX0_section_0 2 rfl rfl)
theorem dX0_section_5 : decode cX0_section 5 = .ok (.ifCond .eq 36, 3) := dk_153 0 36 (dk_at dksX0_section_0 5 rfl rfl)
theorem dX0_section_8 : decode cX0_section 8 = .ok (.aload_n 0, 1) := dk_42 (dk_at dksX0_section_0 8 rfl rfl)
theorem dX0_section_9 : decode cX0_section 9 = .ok (.iload_n 2, 1) := dk_28 (dk_at dksX0_section_0 9 rfl rfl)
theorem dX0_section_10 : decode cX0_section 10 = .ok (.invokevirtual 320, 3) := dk_182 1 64 (dk_at dksX0_section_0 10 rfl rfl)
theorem dX0_section_13 : decode cX0_section 13 = .ok (.ifCond .eq 28, 3) := dk_153 0 28 (dk_at dksX0_section_0 13 rfl rfl)
theorem dX0_section_16 : decode cX0_section 16 = .ok (.iload_n 3, 1) := dk_29 (dk_at dksX0_section_0 16 rfl rfl)
theorem dX0_section_17 : decode cX0_section 17 = .ok (.i2l, 1) := dk_133 (dk_at dksX0_section_0 17 rfl rfl)
theorem dX0_section_18 : decode cX0_section 18 = .ok (.lconst 0, 1) := dk_9 (dk_at dksX0_section_0 18 rfl rfl)
theorem dX0_section_19 : decode cX0_section 19 = .ok (.ldc2_w 224, 3) := dk_20 0 224 (dk_at dksX0_section_0 19 rfl rfl)
theorem dX0_section_22 : decode cX0_section 22 = .ok (.invokestatic 90, 3) := dk_184 0 90 (dk_at dksX0_section_1 0 rfl rfl)
theorem dX0_section_25 : decode cX0_section 25 = .ok (.ifCond .eq 16, 3) := dk_153 0 16 (dk_at dksX0_section_1 3 rfl rfl)
theorem dX0_section_28 : decode cX0_section 28 = .ok (.aload_n 0, 1) := dk_42 (dk_at dksX0_section_1 6 rfl rfl)
theorem dX0_section_29 : decode cX0_section 29 = .ok (.iload_n 1, 1) := dk_27 (dk_at dksX0_section_1 7 rfl rfl)
theorem dX0_section_30 : decode cX0_section 30 = .ok (.iload_n 2, 1) := dk_28 (dk_at dksX0_section_1 8 rfl rfl)
theorem dX0_section_31 : decode cX0_section 31 = .ok (.invokevirtual 323, 3) := dk_182 1 67 (dk_at dksX0_section_1 9 rfl rfl)
theorem dX0_section_34 : decode cX0_section 34 = .ok (.iload_n 3, 1) := dk_29 (dk_at dksX0_section_1 12 rfl rfl)
theorem dX0_section_35 : decode cX0_section 35 = .ok (.invokevirtual 327, 3) := dk_182 1 71 (dk_at dksX0_section_1 13 rfl rfl)
theorem dX0_section_38 : decode cX0_section 38 = .ok (.goto 6, 3) := dk_167 0 6 (dk_at dksX0_section_1 16 rfl rfl)
theorem dX0_section_41 : decode cX0_section 41 = .ok (.ldc_w 304, 3) := dk_19 1 48 (dk_at dksX0_section_1 19 rfl rfl)
theorem dX0_section_44 : decode cX0_section 44 = .ok (.ireturn, 1) := dk_172 (dk_at dksX0_section_1 22 rfl rfl)
abbrev cX0_isTo : ByteArray := prog_1_method_31_code
def yX0_isTo : MethodName := ⟨RX0, "isTo", "(I)Z"⟩
def dkwX0_isTo_1 : List UInt8 := [182, 1, 49, 180, 0, 237, 2, 159, 0, 7, 4, 167, 0, 4, 3, 172]
abbrev dktX0_isTo_1 : List UInt8 := dkwX0_isTo_1 ++ []
def dkwX0_isTo_0 : List UInt8 := [27, 133, 9, 6, 42, 180, 0, 34, 182, 0, 208, 104, 4, 100, 133, 184, 0, 90, 153, 0, 19, 42, 27]
abbrev dktX0_isTo_0 : List UInt8 := dkwX0_isTo_0 ++ dktX0_isTo_1
theorem dksX0_isTo_0 : cX0_isTo.data.toList.drop 0 = dktX0_isTo_0 := by decide +kernel
theorem dksX0_isTo_1 : cX0_isTo.data.toList.drop 23 = dktX0_isTo_1 := dk_seg dksX0_isTo_0 23 rfl rfl
theorem dX0_isTo_0 : decode cX0_isTo 0 = .ok (.iload_n 1, 1) := dk_27 (dk_at dksX0_isTo_0 0 rfl rfl)
theorem dX0_isTo_1 : decode cX0_isTo 1 = .ok (.i2l, 1) := dk_133 (dk_at dksX0_isTo_0 1 rfl rfl)
theorem dX0_isTo_2 : decode cX0_isTo 2 = .ok (.lconst 0, 1) := dk_9 (dk_at dksX0_isTo_0 2 rfl rfl)
theorem dX0_isTo_3 : decode cX0_isTo 3 = .ok (.iconst 3, 1) := dk_6 (dk_at dksX0_isTo_0 3 rfl rfl)
theorem dX0_isTo_4 : decode cX0_isTo 4 = .ok (.aload_n 0, 1) := dk_42 (dk_at dksX0_isTo_0 4 rfl rfl)
theorem dX0_isTo_5 : decode cX0_isTo 5 = .ok (.getfield 34, 3) := dk_180 0 34 (dk_at dksX0_isTo_0 5 rfl rfl)
theorem dX0_isTo_8 : decode cX0_isTo 8 = .ok (.invokevirtual 208, 3) := dk_182 0 208 (dk_at dksX0_isTo_0 8 rfl rfl)
theorem dX0_isTo_11 : decode cX0_isTo 11 = .ok (.imul, 1) := dk_104 (dk_at dksX0_isTo_0 11 rfl rfl)
theorem dX0_isTo_12 : decode cX0_isTo 12 = .ok (.iconst 1, 1) := dk_4 (dk_at dksX0_isTo_0 12 rfl rfl)
theorem dX0_isTo_13 : decode cX0_isTo 13 = .ok (.isub, 1) := dk_100 (dk_at dksX0_isTo_0 13 rfl rfl)
theorem dX0_isTo_14 : decode cX0_isTo 14 = .ok (.i2l, 1) := dk_133 (dk_at dksX0_isTo_0 14 rfl rfl)
theorem dX0_isTo_15 : decode cX0_isTo 15 = .ok (.invokestatic 90, 3) := dk_184 0 90 (dk_at dksX0_isTo_0 15 rfl rfl)
theorem dX0_isTo_18 : decode cX0_isTo 18 = .ok (.ifCond .eq 19, 3) := dk_153 0 19 (dk_at dksX0_isTo_0 18 rfl rfl)
theorem dX0_isTo_21 : decode cX0_isTo 21 = .ok (.aload_n 0, 1) := dk_42 (dk_at dksX0_isTo_0 21 rfl rfl)
theorem dX0_isTo_22 : decode cX0_isTo 22 = .ok (.iload_n 1, 1) := dk_27 (dk_at dksX0_isTo_0 22 rfl rfl)
theorem dX0_isTo_23 : decode cX0_isTo 23 = .ok (.invokevirtual 305, 3) := dk_182 1 49 (dk_at dksX0_isTo_1 0 rfl rfl)
theorem dX0_isTo_26 : decode cX0_isTo 26 = .ok (.getfield 237, 3) := dk_180 0 237 (dk_at dksX0_isTo_1 3 rfl rfl)
theorem dX0_isTo_29 : decode cX0_isTo 29 = .ok (.iconst (-1), 1) := dk_2 (dk_at dksX0_isTo_1 6 rfl rfl)
theorem dX0_isTo_30 : decode cX0_isTo 30 = .ok (.if_icmp .eq 7, 3) := dk_159 0 7 (dk_at dksX0_isTo_1 7 rfl rfl)
theorem dX0_isTo_33 : decode cX0_isTo 33 = .ok (.iconst 1, 1) := dk_4 (dk_at dksX0_isTo_1 10 rfl rfl)
theorem dX0_isTo_34 : decode cX0_isTo 34 = .ok (.goto 4, 3) := dk_167 0 4 (dk_at dksX0_isTo_1 11 rfl rfl)
theorem dX0_isTo_37 : decode cX0_isTo 37 = .ok (.iconst 0, 1) := dk_3 (dk_at dksX0_isTo_1 14 rfl rfl)
theorem dX0_isTo_38 : decode cX0_isTo 38 = .ok (.ireturn, 1) := dk_172 (dk_at dksX0_isTo_1 15 rfl rfl)
abbrev cX0_referenceAt : ByteArray := prog_1_method_30_code
def yX0_referenceAt : MethodName := ⟨RX0, "referenceAt", "(I)LStrideTurns$Reference;"⟩
def dkwX0_referenceAt_0 : List UInt8 := [42, 180, 0, 34, 27, 6, 108, 182, 0, 230, 192, 0, 209, 27, 6, 112, 182, 0, 233, 176]
abbrev dktX0_referenceAt_0 : List UInt8 := dkwX0_referenceAt_0 ++ []
theorem dksX0_referenceAt_0 : cX0_referenceAt.data.toList.drop 0 = dktX0_referenceAt_0 := by decide +kernel
theorem dX0_referenceAt_0 : decode cX0_referenceAt 0 = .ok (.aload_n 0, 1) := dk_42 (dk_at dksX0_referenceAt_0 0 rfl rfl)
theorem dX0_referenceAt_1 : decode cX0_referenceAt 1 = .ok (.getfield 34, 3) := dk_180 0 34 (dk_at dksX0_referenceAt_0 1 rfl rfl)
theorem dX0_referenceAt_4 : decode cX0_referenceAt 4 = .ok (.iload_n 1, 1) := dk_27 (dk_at dksX0_referenceAt_0 4 rfl rfl)
theorem dX0_referenceAt_5 : decode cX0_referenceAt 5 = .ok (.iconst 3, 1) := dk_6 (dk_at dksX0_referenceAt_0 5 rfl rfl)
theorem dX0_referenceAt_6 : decode cX0_referenceAt 6 = .ok (.idiv, 1) := dk_108 (dk_at dksX0_referenceAt_0 6 rfl rfl)
theorem dX0_referenceAt_7 : decode cX0_referenceAt 7 = .ok (.invokevirtual 230, 3) := dk_182 0 230 (dk_at dksX0_referenceAt_0 7 rfl rfl)
theorem dX0_referenceAt_10 : decode cX0_referenceAt 10 = .ok (.checkcast 209, 3) := dk_192 0 209 (dk_at dksX0_referenceAt_0 10 rfl rfl)
theorem dX0_referenceAt_13 : decode cX0_referenceAt 13 = .ok (.iload_n 1, 1) := dk_27 (dk_at dksX0_referenceAt_0 13 rfl rfl)
theorem dX0_referenceAt_14 : decode cX0_referenceAt 14 = .ok (.iconst 3, 1) := dk_6 (dk_at dksX0_referenceAt_0 14 rfl rfl)
theorem dX0_referenceAt_15 : decode cX0_referenceAt 15 = .ok (.irem, 1) := dk_112 (dk_at dksX0_referenceAt_0 15 rfl rfl)
theorem dX0_referenceAt_16 : decode cX0_referenceAt 16 = .ok (.invokevirtual 233, 3) := dk_182 0 233 (dk_at dksX0_referenceAt_0 16 rfl rfl)
theorem dX0_referenceAt_19 : decode cX0_referenceAt 19 = .ok (.areturn, 1) := dk_176 (dk_at dksX0_referenceAt_0 19 rfl rfl)
abbrev cX0_isTurn : ByteArray := prog_1_method_29_code
def yX0_isTurn : MethodName := ⟨RX0, "isTurn", "(I)Z"⟩
def dkwX0_isTurn_0 : List UInt8 := [27, 133, 9, 42, 180, 0, 173, 4, 100, 133, 184, 0, 90, 172]
abbrev dktX0_isTurn_0 : List UInt8 := dkwX0_isTurn_0 ++ []
theorem dksX0_isTurn_0 : cX0_isTurn.data.toList.drop 0 = dktX0_isTurn_0 := by decide +kernel
theorem dX0_isTurn_0 : decode cX0_isTurn 0 = .ok (.iload_n 1, 1) := dk_27 (dk_at dksX0_isTurn_0 0 rfl rfl)
theorem dX0_isTurn_1 : decode cX0_isTurn 1 = .ok (.i2l, 1) := dk_133 (dk_at dksX0_isTurn_0 1 rfl rfl)
theorem dX0_isTurn_2 : decode cX0_isTurn 2 = .ok (.lconst 0, 1) := dk_9 (dk_at dksX0_isTurn_0 2 rfl rfl)
theorem dX0_isTurn_3 : decode cX0_isTurn 3 = .ok (.aload_n 0, 1) := dk_42 (dk_at dksX0_isTurn_0 3 rfl rfl)
theorem dX0_isTurn_4 : decode cX0_isTurn 4 = .ok (.getfield 173, 3) := dk_180 0 173 (dk_at dksX0_isTurn_0 4 rfl rfl)
theorem dX0_isTurn_7 : decode cX0_isTurn 7 = .ok (.iconst 1, 1) := dk_4 (dk_at dksX0_isTurn_0 7 rfl rfl)
theorem dX0_isTurn_8 : decode cX0_isTurn 8 = .ok (.isub, 1) := dk_100 (dk_at dksX0_isTurn_0 8 rfl rfl)
theorem dX0_isTurn_9 : decode cX0_isTurn 9 = .ok (.i2l, 1) := dk_133 (dk_at dksX0_isTurn_0 9 rfl rfl)
theorem dX0_isTurn_10 : decode cX0_isTurn 10 = .ok (.invokestatic 90, 3) := dk_184 0 90 (dk_at dksX0_isTurn_0 10 rfl rfl)
theorem dX0_isTurn_13 : decode cX0_isTurn 13 = .ok (.ireturn, 1) := dk_172 (dk_at dksX0_isTurn_0 13 rfl rfl)
abbrev cX0_sectionAt : ByteArray := prog_1_method_32_code
def yX0_sectionAt : MethodName := ⟨RX0, "sectionAt", "(II)LStrideTurns$Section;"⟩
def dkwX0_sectionAt_1 : List UInt8 := [184, 1, 55, 176]
abbrev dktX0_sectionAt_1 : List UInt8 := dkwX0_sectionAt_1 ++ []
def dkwX0_sectionAt_0 : List UInt8 := [42, 27, 182, 1, 49, 28, 42, 180, 0, 34, 27, 6, 108, 182, 0, 230, 192, 0, 209, 180, 1, 52]
abbrev dktX0_sectionAt_0 : List UInt8 := dkwX0_sectionAt_0 ++ dktX0_sectionAt_1
theorem dksX0_sectionAt_0 : cX0_sectionAt.data.toList.drop 0 = dktX0_sectionAt_0 := by decide +kernel
theorem dksX0_sectionAt_1 : cX0_sectionAt.data.toList.drop 22 = dktX0_sectionAt_1 := dk_seg dksX0_sectionAt_0 22 rfl rfl
theorem dX0_sectionAt_0 : decode cX0_sectionAt 0 = .ok (.aload_n 0, 1) := dk_42 (dk_at dksX0_sectionAt_0 0 rfl rfl)
theorem dX0_sectionAt_1 : decode cX0_sectionAt 1 = .ok (.iload_n 1, 1) := dk_27 (dk_at dksX0_sectionAt_0 1 rfl rfl)
theorem dX0_sectionAt_2 : decode cX0_sectionAt 2 = .ok (.invokevirtual 305, 3) := dk_182 1 49 (dk_at dksX0_sectionAt_0 2 rfl rfl)
theorem dX0_sectionAt_5 : decode cX0_sectionAt 5 = .ok (.iload_n 2, 1) := dk_28 (dk_at dksX0_sectionAt_0 5 rfl rfl)
theorem dX0_sectionAt_6 : decode cX0_sectionAt 6 = .ok (.aload_n 0, 1) := dk_42 (dk_at dksX0_sectionAt_0 6 rfl rfl)
theorem dX0_sectionAt_7 : decode cX0_sectionAt 7 = .ok (.getfield 34, 3) := dk_180 0 34 (dk_at dksX0_sectionAt_0 7 rfl rfl)
theorem dX0_sectionAt_10 : decode cX0_sectionAt 10 = .ok (.iload_n 1, 1) := dk_27 (dk_at dksX0_sectionAt_0 10 rfl rfl)
theorem dX0_sectionAt_11 : decode cX0_sectionAt 11 = .ok (.iconst 3, 1) := dk_6 (dk_at dksX0_sectionAt_0 11 rfl rfl)
theorem dX0_sectionAt_12 : decode cX0_sectionAt 12 = .ok (.idiv, 1) := dk_108 (dk_at dksX0_sectionAt_0 12 rfl rfl)
theorem dX0_sectionAt_13 : decode cX0_sectionAt 13 = .ok (.invokevirtual 230, 3) := dk_182 0 230 (dk_at dksX0_sectionAt_0 13 rfl rfl)
theorem dX0_sectionAt_16 : decode cX0_sectionAt 16 = .ok (.checkcast 209, 3) := dk_192 0 209 (dk_at dksX0_sectionAt_0 16 rfl rfl)
theorem dX0_sectionAt_19 : decode cX0_sectionAt 19 = .ok (.getfield 308, 3) := dk_180 1 52 (dk_at dksX0_sectionAt_0 19 rfl rfl)
theorem dX0_sectionAt_22 : decode cX0_sectionAt 22 = .ok (.invokestatic 311, 3) := dk_184 1 55 (dk_at dksX0_sectionAt_1 0 rfl rfl)
theorem dX0_sectionAt_25 : decode cX0_sectionAt 25 = .ok (.areturn, 1) := dk_176 (dk_at dksX0_sectionAt_1 3 rfl rfl)
abbrev cX0_meet : ByteArray := prog_1_method_34_code
def yX0_meet : MethodName := ⟨RX0, "meet", "(IIIII)I"⟩
def dkwX0_meet_4 : List UInt8 := [21, 5, 182, 1, 71, 172]
abbrev dktX0_meet_4 : List UInt8 := dkwX0_meet_4 ++ []
def dkwX0_meet_3 : List UInt8 := [58, 7, 21, 5, 6, 160, 0, 17, 25, 6, 180, 1, 76, 25, 7, 180, 1, 76, 100, 167, 0, 10, 25, 7]
abbrev dktX0_meet_3 : List UInt8 := dkwX0_meet_3 ++ dktX0_meet_4
def dkwX0_meet_2 : List UInt8 := [19, 1, 48, 172, 42, 27, 28, 182, 1, 67, 58, 6, 25, 6, 42, 29, 21, 4, 182, 1, 67, 182, 1, 72]
abbrev dktX0_meet_2 : List UInt8 := dkwX0_meet_2 ++ dktX0_meet_3
def dkwX0_meet_1 : List UInt8 := [42, 21, 4, 182, 1, 64, 153, 0, 16, 21, 5, 133, 9, 20, 1, 45, 184, 0, 90, 154, 0, 7]
abbrev dktX0_meet_1 : List UInt8 := dkwX0_meet_1 ++ dktX0_meet_2
def dkwX0_meet_0 : List UInt8 := [42, 27, 182, 1, 61, 153, 0, 41, 42, 28, 182, 1, 64, 153, 0, 33, 42, 29, 182, 1, 61, 153, 0, 25]
abbrev dktX0_meet_0 : List UInt8 := dkwX0_meet_0 ++ dktX0_meet_1
theorem dksX0_meet_0 : cX0_meet.data.toList.drop 0 = dktX0_meet_0 := by decide +kernel
theorem dksX0_meet_1 : cX0_meet.data.toList.drop 24 = dktX0_meet_1 := dk_seg dksX0_meet_0 24 rfl rfl
theorem dksX0_meet_2 : cX0_meet.data.toList.drop 46 = dktX0_meet_2 := dk_seg dksX0_meet_1 22 rfl rfl
theorem dksX0_meet_3 : cX0_meet.data.toList.drop 70 = dktX0_meet_3 := dk_seg dksX0_meet_2 24 rfl rfl
theorem dksX0_meet_4 : cX0_meet.data.toList.drop 94 = dktX0_meet_4 := dk_seg dksX0_meet_3 24 rfl rfl
theorem dX0_meet_0 : decode cX0_meet 0 = .ok (.aload_n 0, 1) := dk_42 (dk_at dksX0_meet_0 0 rfl rfl)
theorem dX0_meet_1 : decode cX0_meet 1 = .ok (.iload_n 1, 1) := dk_27 (dk_at dksX0_meet_0 1 rfl rfl)
theorem dX0_meet_2 : decode cX0_meet 2 = .ok (.invokevirtual 317, 3) := dk_182 1 61 (dk_at dksX0_meet_0 2 rfl rfl)
theorem dX0_meet_5 : decode cX0_meet 5 = .ok (.ifCond .eq 41, 3) := dk_153 0 41 (dk_at dksX0_meet_0 5 rfl rfl)
theorem dX0_meet_8 : decode cX0_meet 8 = .ok (.aload_n 0, 1) := dk_42 (dk_at dksX0_meet_0 8 rfl rfl)
theorem dX0_meet_9 : decode cX0_meet 9 = .ok (.iload_n 2, 1) := dk_28 (dk_at dksX0_meet_0 9 rfl rfl)
theorem dX0_meet_10 : decode cX0_meet 10 = .ok (.invokevirtual 320, 3) := dk_182 1 64 (dk_at dksX0_meet_0 10 rfl rfl)
theorem dX0_meet_13 : decode cX0_meet 13 = .ok (.ifCond .eq 33, 3) := dk_153 0 33 (dk_at dksX0_meet_0 13 rfl rfl)
theorem dX0_meet_16 : decode cX0_meet 16 = .ok (.aload_n 0, 1) := dk_42 (dk_at dksX0_meet_0 16 rfl rfl)
theorem dX0_meet_17 : decode cX0_meet 17 = .ok (.iload_n 3, 1) := dk_29 (dk_at dksX0_meet_0 17 rfl rfl)
theorem dX0_meet_18 : decode cX0_meet 18 = .ok (.invokevirtual 317, 3) := dk_182 1 61 (dk_at dksX0_meet_0 18 rfl rfl)
theorem dX0_meet_21 : decode cX0_meet 21 = .ok (.ifCond .eq 25, 3) := dk_153 0 25 (dk_at dksX0_meet_0 21 rfl rfl)
theorem dX0_meet_24 : decode cX0_meet 24 = .ok (.aload_n 0, 1) := dk_42 (dk_at dksX0_meet_1 0 rfl rfl)
theorem dX0_meet_25 : decode cX0_meet 25 = .ok (.iload 4, 2) := dk_21 4 (dk_at dksX0_meet_1 1 rfl rfl)
theorem dX0_meet_27 : decode cX0_meet 27 = .ok (.invokevirtual 320, 3) := dk_182 1 64 (dk_at dksX0_meet_1 3 rfl rfl)
theorem dX0_meet_30 : decode cX0_meet 30 = .ok (.ifCond .eq 16, 3) := dk_153 0 16 (dk_at dksX0_meet_1 6 rfl rfl)
theorem dX0_meet_33 : decode cX0_meet 33 = .ok (.iload 5, 2) := dk_21 5 (dk_at dksX0_meet_1 9 rfl rfl)
theorem dX0_meet_35 : decode cX0_meet 35 = .ok (.i2l, 1) := dk_133 (dk_at dksX0_meet_1 11 rfl rfl)
theorem dX0_meet_36 : decode cX0_meet 36 = .ok (.lconst 0, 1) := dk_9 (dk_at dksX0_meet_1 12 rfl rfl)
theorem dX0_meet_37 : decode cX0_meet 37 = .ok (.ldc2_w 301, 3) := dk_20 1 45 (dk_at dksX0_meet_1 13 rfl rfl)
theorem dX0_meet_40 : decode cX0_meet 40 = .ok (.invokestatic 90, 3) := dk_184 0 90 (dk_at dksX0_meet_1 16 rfl rfl)
theorem dX0_meet_43 : decode cX0_meet 43 = .ok (.ifCond .ne 7, 3) := dk_154 0 7 (dk_at dksX0_meet_1 19 rfl rfl)
theorem dX0_meet_46 : decode cX0_meet 46 = .ok (.ldc_w 304, 3) := dk_19 1 48 (dk_at dksX0_meet_2 0 rfl rfl)
theorem dX0_meet_49 : decode cX0_meet 49 = .ok (.ireturn, 1) := dk_172 (dk_at dksX0_meet_2 3 rfl rfl)
theorem dX0_meet_50 : decode cX0_meet 50 = .ok (.aload_n 0, 1) := dk_42 (dk_at dksX0_meet_2 4 rfl rfl)
theorem dX0_meet_51 : decode cX0_meet 51 = .ok (.iload_n 1, 1) := dk_27 (dk_at dksX0_meet_2 5 rfl rfl)
theorem dX0_meet_52 : decode cX0_meet 52 = .ok (.iload_n 2, 1) := dk_28 (dk_at dksX0_meet_2 6 rfl rfl)
theorem dX0_meet_53 : decode cX0_meet 53 = .ok (.invokevirtual 323, 3) := dk_182 1 67 (dk_at dksX0_meet_2 7 rfl rfl)
theorem dX0_meet_56 : decode cX0_meet 56 = .ok (.astore 6, 2) := dk_58 6 (dk_at dksX0_meet_2 10 rfl rfl)
theorem dX0_meet_58 : decode cX0_meet 58 = .ok (.aload 6, 2) := dk_25 6 (dk_at dksX0_meet_2 12 rfl rfl)
theorem dX0_meet_60 : decode cX0_meet 60 = .ok (.aload_n 0, 1) := dk_42 (dk_at dksX0_meet_2 14 rfl rfl)
theorem dX0_meet_61 : decode cX0_meet 61 = .ok (.iload_n 3, 1) := dk_29 (dk_at dksX0_meet_2 15 rfl rfl)
theorem dX0_meet_62 : decode cX0_meet 62 = .ok (.iload 4, 2) := dk_21 4 (dk_at dksX0_meet_2 16 rfl rfl)
theorem dX0_meet_64 : decode cX0_meet 64 = .ok (.invokevirtual 323, 3) := dk_182 1 67 (dk_at dksX0_meet_2 18 rfl rfl)
theorem dX0_meet_67 : decode cX0_meet 67 = .ok (.invokevirtual 328, 3) := dk_182 1 72 (dk_at dksX0_meet_2 21 rfl rfl)
theorem dX0_meet_70 : decode cX0_meet 70 = .ok (.astore 7, 2) := dk_58 7 (dk_at dksX0_meet_3 0 rfl rfl)
theorem dX0_meet_72 : decode cX0_meet 72 = .ok (.iload 5, 2) := dk_21 5 (dk_at dksX0_meet_3 2 rfl rfl)
theorem dX0_meet_74 : decode cX0_meet 74 = .ok (.iconst 3, 1) := dk_6 (dk_at dksX0_meet_3 4 rfl rfl)
theorem dX0_meet_75 : decode cX0_meet 75 = .ok (.if_icmp .ne 17, 3) := dk_160 0 17 (dk_at dksX0_meet_3 5 rfl rfl)
theorem dX0_meet_78 : decode cX0_meet 78 = .ok (.aload 6, 2) := dk_25 6 (dk_at dksX0_meet_3 8 rfl rfl)
theorem dX0_meet_80 : decode cX0_meet 80 = .ok (.getfield 332, 3) := dk_180 1 76 (dk_at dksX0_meet_3 10 rfl rfl)
theorem dX0_meet_83 : decode cX0_meet 83 = .ok (.aload 7, 2) := dk_25 7 (dk_at dksX0_meet_3 13 rfl rfl)
theorem dX0_meet_85 : decode cX0_meet 85 = .ok (.getfield 332, 3) := dk_180 1 76 (dk_at dksX0_meet_3 15 rfl rfl)
theorem dX0_meet_88 : decode cX0_meet 88 = .ok (.isub, 1) := dk_100 (dk_at dksX0_meet_3 18 rfl rfl)
theorem dX0_meet_89 : decode cX0_meet 89 = .ok (.goto 10, 3) := dk_167 0 10 (dk_at dksX0_meet_3 19 rfl rfl)
theorem dX0_meet_92 : decode cX0_meet 92 = .ok (.aload 7, 2) := dk_25 7 (dk_at dksX0_meet_3 22 rfl rfl)
theorem dX0_meet_94 : decode cX0_meet 94 = .ok (.iload 5, 2) := dk_21 5 (dk_at dksX0_meet_4 0 rfl rfl)
theorem dX0_meet_96 : decode cX0_meet 96 = .ok (.invokevirtual 327, 3) := dk_182 1 71 (dk_at dksX0_meet_4 2 rfl rfl)
theorem dX0_meet_99 : decode cX0_meet 99 = .ok (.ireturn, 1) := dk_172 (dk_at dksX0_meet_4 5 rfl rfl)
abbrev cX0_divisor : ByteArray := prog_1_method_28_code
def yX0_divisor : MethodName := ⟨RX0, "divisor", "(II)I"⟩
def dkwX0_divisor_0 : List UInt8 := [26, 61, 27, 62, 29, 153, 0, 16, 28, 29, 112, 54, 4, 29, 61, 21, 4, 62, 167, 255, 242, 28, 172]
abbrev dktX0_divisor_0 : List UInt8 := dkwX0_divisor_0 ++ []
theorem dksX0_divisor_0 : cX0_divisor.data.toList.drop 0 = dktX0_divisor_0 := by decide +kernel
theorem dX0_divisor_0 : decode cX0_divisor 0 = .ok (.iload_n 0, 1) := dk_26 (dk_at dksX0_divisor_0 0 rfl rfl)
theorem dX0_divisor_1 : decode cX0_divisor 1 = .ok (.istore_n 2, 1) := dk_61 (dk_at dksX0_divisor_0 1 rfl rfl)
theorem dX0_divisor_2 : decode cX0_divisor 2 = .ok (.iload_n 1, 1) := dk_27 (dk_at dksX0_divisor_0 2 rfl rfl)
theorem dX0_divisor_3 : decode cX0_divisor 3 = .ok (.istore_n 3, 1) := dk_62 (dk_at dksX0_divisor_0 3 rfl rfl)
theorem dX0_divisor_4 : decode cX0_divisor 4 = .ok (.iload_n 3, 1) := dk_29 (dk_at dksX0_divisor_0 4 rfl rfl)
theorem dX0_divisor_5 : decode cX0_divisor 5 = .ok (.ifCond .eq 16, 3) := dk_153 0 16 (dk_at dksX0_divisor_0 5 rfl rfl)
theorem dX0_divisor_8 : decode cX0_divisor 8 = .ok (.iload_n 2, 1) := dk_28 (dk_at dksX0_divisor_0 8 rfl rfl)
theorem dX0_divisor_9 : decode cX0_divisor 9 = .ok (.iload_n 3, 1) := dk_29 (dk_at dksX0_divisor_0 9 rfl rfl)
theorem dX0_divisor_10 : decode cX0_divisor 10 = .ok (.irem, 1) := dk_112 (dk_at dksX0_divisor_0 10 rfl rfl)
theorem dX0_divisor_11 : decode cX0_divisor 11 = .ok (.istore 4, 2) := dk_54 4 (dk_at dksX0_divisor_0 11 rfl rfl)
theorem dX0_divisor_13 : decode cX0_divisor 13 = .ok (.iload_n 3, 1) := dk_29 (dk_at dksX0_divisor_0 13 rfl rfl)
theorem dX0_divisor_14 : decode cX0_divisor 14 = .ok (.istore_n 2, 1) := dk_61 (dk_at dksX0_divisor_0 14 rfl rfl)
theorem dX0_divisor_15 : decode cX0_divisor 15 = .ok (.iload 4, 2) := dk_21 4 (dk_at dksX0_divisor_0 15 rfl rfl)
theorem dX0_divisor_17 : decode cX0_divisor 17 = .ok (.istore_n 3, 1) := dk_62 (dk_at dksX0_divisor_0 17 rfl rfl)
theorem dX0_divisor_18 : decode cX0_divisor 18 = .ok (.goto (-14), 3) := dk_167 255 242 (dk_at dksX0_divisor_0 18 rfl rfl)
theorem dX0_divisor_21 : decode cX0_divisor 21 = .ok (.iload_n 2, 1) := dk_28 (dk_at dksX0_divisor_0 21 rfl rfl)
theorem dX0_divisor_22 : decode cX0_divisor 22 = .ok (.ireturn, 1) := dk_172 (dk_at dksX0_divisor_0 22 rfl rfl)
abbrev cX0_kinds : ByteArray := prog_1_method_36_code
def yX0_kinds : MethodName := ⟨RX0, "kinds", "(II)I"⟩
def dkwX0_kinds_1 : List UInt8 := [167, 0, 5, 16, 254, 172]
abbrev dktX0_kinds_1 : List UInt8 := dkwX0_kinds_1 ++ []
def dkwX0_kinds_0 : List UInt8 := [42, 27, 182, 0, 221, 153, 0, 22, 28, 184, 0, 106, 153, 0, 15, 42, 27, 28, 182, 1, 104, 182, 1, 108]
abbrev dktX0_kinds_0 : List UInt8 := dkwX0_kinds_0 ++ dktX0_kinds_1
theorem dksX0_kinds_0 : cX0_kinds.data.toList.drop 0 = dktX0_kinds_0 := by decide +kernel
theorem dksX0_kinds_1 : cX0_kinds.data.toList.drop 24 = dktX0_kinds_1 := dk_seg dksX0_kinds_0 24 rfl rfl
theorem dX0_kinds_0 : decode cX0_kinds 0 = .ok (.aload_n 0, 1) := dk_42 (dk_at dksX0_kinds_0 0 rfl rfl)
theorem dX0_kinds_1 : decode cX0_kinds 1 = .ok (.iload_n 1, 1) := dk_27 (dk_at dksX0_kinds_0 1 rfl rfl)
theorem dX0_kinds_2 : decode cX0_kinds 2 = .ok (.invokevirtual 221, 3) := dk_182 0 221 (dk_at dksX0_kinds_0 2 rfl rfl)
theorem dX0_kinds_5 : decode cX0_kinds 5 = .ok (.ifCond .eq 22, 3) := dk_153 0 22 (dk_at dksX0_kinds_0 5 rfl rfl)
theorem dX0_kinds_8 : decode cX0_kinds 8 = .ok (.iload_n 2, 1) := dk_28 (dk_at dksX0_kinds_0 8 rfl rfl)
theorem dX0_kinds_9 : decode cX0_kinds 9 = .ok (.invokestatic 106, 3) := dk_184 0 106 (dk_at dksX0_kinds_0 9 rfl rfl)
theorem dX0_kinds_12 : decode cX0_kinds 12 = .ok (.ifCond .eq 15, 3) := dk_153 0 15 (dk_at dksX0_kinds_0 12 rfl rfl)
theorem dX0_kinds_15 : decode cX0_kinds 15 = .ok (.aload_n 0, 1) := dk_42 (dk_at dksX0_kinds_0 15 rfl rfl)
theorem dX0_kinds_16 : decode cX0_kinds 16 = .ok (.iload_n 1, 1) := dk_27 (dk_at dksX0_kinds_0 16 rfl rfl)
theorem dX0_kinds_17 : decode cX0_kinds 17 = .ok (.iload_n 2, 1) := dk_28 (dk_at dksX0_kinds_0 17 rfl rfl)
theorem dX0_kinds_18 : decode cX0_kinds 18 = .ok (.invokevirtual 360, 3) := dk_182 1 104 (dk_at dksX0_kinds_0 18 rfl rfl)
theorem dX0_kinds_21 : decode cX0_kinds 21 = .ok (.invokevirtual 364, 3) := dk_182 1 108 (dk_at dksX0_kinds_0 21 rfl rfl)
theorem dX0_kinds_24 : decode cX0_kinds 24 = .ok (.goto 5, 3) := dk_167 0 5 (dk_at dksX0_kinds_1 0 rfl rfl)
theorem dX0_kinds_27 : decode cX0_kinds 27 = .ok (.bipush (-2), 2) := dk_16 254 (dk_at dksX0_kinds_1 3 rfl rfl)
theorem dX0_kinds_29 : decode cX0_kinds 29 = .ok (.ireturn, 1) := dk_172 (dk_at dksX0_kinds_1 5 rfl rfl)
abbrev cX0_kindsOf : ByteArray := prog_1_method_35_code
def yX0_kindsOf : MethodName := ⟨RX0, "kindsOf", "(II)Ljava/util/LinkedHashMap;"⟩
def dkwX0_kindsOf_7 : List UInt8 := [167, 255, 151, 132, 5, 1, 167, 255, 110, 45, 176]
abbrev dktX0_kindsOf_7 : List UInt8 := dkwX0_kindsOf_7 ++ []
def dkwX0_kindsOf_6 : List UInt8 := [45, 25, 10, 25, 11, 182, 1, 97, 87, 25, 11, 89, 180, 1, 101, 4, 96, 181, 1, 101, 132, 8, 1]
abbrev dktX0_kindsOf_6 : List UInt8 := dkwX0_kindsOf_6 ++ dktX0_kindsOf_7
def dkwX0_kindsOf_5 : List UInt8 := [182, 1, 91, 192, 1, 92, 58, 11, 25, 11, 199, 0, 23, 187, 1, 92, 89, 25, 10, 183, 1, 94, 58, 11]
abbrev dktX0_kindsOf_5 : List UInt8 := dkwX0_kindsOf_5 ++ dktX0_kindsOf_6
def dkwX0_kindsOf_4 : List UInt8 := [159, 0, 6, 167, 0, 64, 42, 6, 27, 104, 21, 9, 96, 21, 5, 182, 1, 67, 58, 10, 45, 25, 10]
abbrev dktX0_kindsOf_4 : List UInt8 := dkwX0_kindsOf_4 ++ dktX0_kindsOf_5
def dkwX0_kindsOf_3 : List UInt8 := [46, 54, 9, 25, 4, 21, 9, 182, 1, 88, 153, 0, 81, 25, 4, 21, 9, 182, 0, 233, 180, 0, 237, 28]
abbrev dktX0_kindsOf_3 : List UInt8 := dkwX0_kindsOf_3 ++ dktX0_kindsOf_4
def dkwX0_kindsOf_2 : List UInt8 := [178, 1, 85, 58, 6, 25, 6, 190, 54, 7, 3, 54, 8, 21, 8, 21, 7, 162, 0, 104, 25, 6, 21, 8]
abbrev dktX0_kindsOf_2 : List UInt8 := dkwX0_kindsOf_2 ++ dktX0_kindsOf_3
def dkwX0_kindsOf_1 : List UInt8 := [21, 5, 42, 180, 0, 173, 162, 0, 143, 25, 4, 21, 5, 182, 1, 82, 154, 0, 6, 167, 0, 124]
abbrev dktX0_kindsOf_1 : List UInt8 := dkwX0_kindsOf_1 ++ dktX0_kindsOf_2
def dkwX0_kindsOf_0 : List UInt8 := [187, 1, 79, 89, 183, 1, 81, 78, 42, 180, 0, 34, 27, 182, 0, 230, 192, 0, 209, 58, 4, 3, 54, 5]
abbrev dktX0_kindsOf_0 : List UInt8 := dkwX0_kindsOf_0 ++ dktX0_kindsOf_1
theorem dksX0_kindsOf_0 : cX0_kindsOf.data.toList.drop 0 = dktX0_kindsOf_0 := by decide +kernel
theorem dksX0_kindsOf_1 : cX0_kindsOf.data.toList.drop 24 = dktX0_kindsOf_1 := dk_seg dksX0_kindsOf_0 24 rfl rfl
theorem dksX0_kindsOf_2 : cX0_kindsOf.data.toList.drop 46 = dktX0_kindsOf_2 := dk_seg dksX0_kindsOf_1 22 rfl rfl
theorem dksX0_kindsOf_3 : cX0_kindsOf.data.toList.drop 70 = dktX0_kindsOf_3 := dk_seg dksX0_kindsOf_2 24 rfl rfl
theorem dksX0_kindsOf_4 : cX0_kindsOf.data.toList.drop 94 = dktX0_kindsOf_4 := dk_seg dksX0_kindsOf_3 24 rfl rfl
theorem dksX0_kindsOf_5 : cX0_kindsOf.data.toList.drop 117 = dktX0_kindsOf_5 := dk_seg dksX0_kindsOf_4 23 rfl rfl
theorem dksX0_kindsOf_6 : cX0_kindsOf.data.toList.drop 141 = dktX0_kindsOf_6 := dk_seg dksX0_kindsOf_5 24 rfl rfl
theorem dksX0_kindsOf_7 : cX0_kindsOf.data.toList.drop 164 = dktX0_kindsOf_7 := dk_seg dksX0_kindsOf_6 23 rfl rfl
theorem dX0_kindsOf_0 : decode cX0_kindsOf 0 = .ok (.new 335, 3) := dk_187 1 79 (dk_at dksX0_kindsOf_0 0 rfl rfl)
theorem dX0_kindsOf_3 : decode cX0_kindsOf 3 = .ok (.dup, 1) := dk_89 (dk_at dksX0_kindsOf_0 3 rfl rfl)
theorem dX0_kindsOf_4 : decode cX0_kindsOf 4 = .ok (.invokespecial 337, 3) := dk_183 1 81 (dk_at dksX0_kindsOf_0 4 rfl rfl)
theorem dX0_kindsOf_7 : decode cX0_kindsOf 7 = .ok (.astore_n 3, 1) := dk_78 (dk_at dksX0_kindsOf_0 7 rfl rfl)
theorem dX0_kindsOf_8 : decode cX0_kindsOf 8 = .ok (.aload_n 0, 1) := dk_42 (dk_at dksX0_kindsOf_0 8 rfl rfl)
theorem dX0_kindsOf_9 : decode cX0_kindsOf 9 = .ok (.getfield 34, 3) := dk_180 0 34 (dk_at dksX0_kindsOf_0 9 rfl rfl)
theorem dX0_kindsOf_12 : decode cX0_kindsOf 12 = .ok (.iload_n 1, 1) := dk_27 (dk_at dksX0_kindsOf_0 12 rfl rfl)
theorem dX0_kindsOf_13 : decode cX0_kindsOf 13 = .ok (.invokevirtual 230, 3) := dk_182 0 230 (dk_at dksX0_kindsOf_0 13 rfl rfl)
theorem dX0_kindsOf_16 : decode cX0_kindsOf 16 = .ok (.checkcast 209, 3) := dk_192 0 209 (dk_at dksX0_kindsOf_0 16 rfl rfl)
theorem dX0_kindsOf_19 : decode cX0_kindsOf 19 = .ok (.astore 4, 2) := dk_58 4 (dk_at dksX0_kindsOf_0 19 rfl rfl)
theorem dX0_kindsOf_21 : decode cX0_kindsOf 21 = .ok (.iconst 0, 1) := dk_3 (dk_at dksX0_kindsOf_0 21 rfl rfl)
theorem dX0_kindsOf_22 : decode cX0_kindsOf 22 = .ok (.istore 5, 2) := dk_54 5 (dk_at dksX0_kindsOf_0 22 rfl rfl)
theorem dX0_kindsOf_24 : decode cX0_kindsOf 24 = .ok (.iload 5, 2) := dk_21 5 (dk_at dksX0_kindsOf_1 0 rfl rfl)
theorem dX0_kindsOf_26 : decode cX0_kindsOf 26 = .ok (.aload_n 0, 1) := dk_42 (dk_at dksX0_kindsOf_1 2 rfl rfl)
theorem dX0_kindsOf_27 : decode cX0_kindsOf 27 = .ok (.getfield 173, 3) := dk_180 0 173 (dk_at dksX0_kindsOf_1 3 rfl rfl)
theorem dX0_kindsOf_30 : decode cX0_kindsOf 30 = .ok (.if_icmp .ge 143, 3) := dk_162 0 143 (dk_at dksX0_kindsOf_1 6 rfl rfl)
theorem dX0_kindsOf_33 : decode cX0_kindsOf 33 = .ok (.aload 4, 2) := dk_25 4 (dk_at dksX0_kindsOf_1 9 rfl rfl)
theorem dX0_kindsOf_35 : decode cX0_kindsOf 35 = .ok (.iload 5, 2) := dk_21 5 (dk_at dksX0_kindsOf_1 11 rfl rfl)
theorem dX0_kindsOf_37 : decode cX0_kindsOf 37 = .ok (.invokevirtual 338, 3) := dk_182 1 82 (dk_at dksX0_kindsOf_1 13 rfl rfl)
theorem dX0_kindsOf_40 : decode cX0_kindsOf 40 = .ok (.ifCond .ne 6, 3) := dk_154 0 6 (dk_at dksX0_kindsOf_1 16 rfl rfl)
theorem dX0_kindsOf_43 : decode cX0_kindsOf 43 = .ok (.goto 124, 3) := dk_167 0 124 (dk_at dksX0_kindsOf_1 19 rfl rfl)
theorem dX0_kindsOf_46 : decode cX0_kindsOf 46 = .ok (.getstatic 341, 3) := dk_178 1 85 (dk_at dksX0_kindsOf_2 0 rfl rfl)
theorem dX0_kindsOf_49 : decode cX0_kindsOf 49 = .ok (.astore 6, 2) := dk_58 6 (dk_at dksX0_kindsOf_2 3 rfl rfl)
theorem dX0_kindsOf_51 : decode cX0_kindsOf 51 = .ok (.aload 6, 2) := dk_25 6 (dk_at dksX0_kindsOf_2 5 rfl rfl)
theorem dX0_kindsOf_53 : decode cX0_kindsOf 53 = .ok (.arraylength, 1) := dk_190 (dk_at dksX0_kindsOf_2 7 rfl rfl)
theorem dX0_kindsOf_54 : decode cX0_kindsOf 54 = .ok (.istore 7, 2) := dk_54 7 (dk_at dksX0_kindsOf_2 8 rfl rfl)
theorem dX0_kindsOf_56 : decode cX0_kindsOf 56 = .ok (.iconst 0, 1) := dk_3 (dk_at dksX0_kindsOf_2 10 rfl rfl)
theorem dX0_kindsOf_57 : decode cX0_kindsOf 57 = .ok (.istore 8, 2) := dk_54 8 (dk_at dksX0_kindsOf_2 11 rfl rfl)
theorem dX0_kindsOf_59 : decode cX0_kindsOf 59 = .ok (.iload 8, 2) := dk_21 8 (dk_at dksX0_kindsOf_2 13 rfl rfl)
theorem dX0_kindsOf_61 : decode cX0_kindsOf 61 = .ok (.iload 7, 2) := dk_21 7 (dk_at dksX0_kindsOf_2 15 rfl rfl)
theorem dX0_kindsOf_63 : decode cX0_kindsOf 63 = .ok (.if_icmp .ge 104, 3) := dk_162 0 104 (dk_at dksX0_kindsOf_2 17 rfl rfl)
theorem dX0_kindsOf_66 : decode cX0_kindsOf 66 = .ok (.aload 6, 2) := dk_25 6 (dk_at dksX0_kindsOf_2 20 rfl rfl)
theorem dX0_kindsOf_68 : decode cX0_kindsOf 68 = .ok (.iload 8, 2) := dk_21 8 (dk_at dksX0_kindsOf_2 22 rfl rfl)
theorem dX0_kindsOf_70 : decode cX0_kindsOf 70 = .ok (.iaload, 1) := dk_46 (dk_at dksX0_kindsOf_3 0 rfl rfl)
theorem dX0_kindsOf_71 : decode cX0_kindsOf 71 = .ok (.istore 9, 2) := dk_54 9 (dk_at dksX0_kindsOf_3 1 rfl rfl)
theorem dX0_kindsOf_73 : decode cX0_kindsOf 73 = .ok (.aload 4, 2) := dk_25 4 (dk_at dksX0_kindsOf_3 3 rfl rfl)
theorem dX0_kindsOf_75 : decode cX0_kindsOf 75 = .ok (.iload 9, 2) := dk_21 9 (dk_at dksX0_kindsOf_3 5 rfl rfl)
theorem dX0_kindsOf_77 : decode cX0_kindsOf 77 = .ok (.invokevirtual 344, 3) := dk_182 1 88 (dk_at dksX0_kindsOf_3 7 rfl rfl)
theorem dX0_kindsOf_80 : decode cX0_kindsOf 80 = .ok (.ifCond .eq 81, 3) := dk_153 0 81 (dk_at dksX0_kindsOf_3 10 rfl rfl)
theorem dX0_kindsOf_83 : decode cX0_kindsOf 83 = .ok (.aload 4, 2) := dk_25 4 (dk_at dksX0_kindsOf_3 13 rfl rfl)
theorem dX0_kindsOf_85 : decode cX0_kindsOf 85 = .ok (.iload 9, 2) := dk_21 9 (dk_at dksX0_kindsOf_3 15 rfl rfl)
theorem dX0_kindsOf_87 : decode cX0_kindsOf 87 = .ok (.invokevirtual 233, 3) := dk_182 0 233 (dk_at dksX0_kindsOf_3 17 rfl rfl)
theorem dX0_kindsOf_90 : decode cX0_kindsOf 90 = .ok (.getfield 237, 3) := dk_180 0 237 (dk_at dksX0_kindsOf_3 20 rfl rfl)
theorem dX0_kindsOf_93 : decode cX0_kindsOf 93 = .ok (.iload_n 2, 1) := dk_28 (dk_at dksX0_kindsOf_3 23 rfl rfl)
theorem dX0_kindsOf_94 : decode cX0_kindsOf 94 = .ok (.if_icmp .eq 6, 3) := dk_159 0 6 (dk_at dksX0_kindsOf_4 0 rfl rfl)
theorem dX0_kindsOf_97 : decode cX0_kindsOf 97 = .ok (.goto 64, 3) := dk_167 0 64 (dk_at dksX0_kindsOf_4 3 rfl rfl)
theorem dX0_kindsOf_100 : decode cX0_kindsOf 100 = .ok (.aload_n 0, 1) := dk_42 (dk_at dksX0_kindsOf_4 6 rfl rfl)
theorem dX0_kindsOf_101 : decode cX0_kindsOf 101 = .ok (.iconst 3, 1) := dk_6 (dk_at dksX0_kindsOf_4 7 rfl rfl)
theorem dX0_kindsOf_102 : decode cX0_kindsOf 102 = .ok (.iload_n 1, 1) := dk_27 (dk_at dksX0_kindsOf_4 8 rfl rfl)
theorem dX0_kindsOf_103 : decode cX0_kindsOf 103 = .ok (.imul, 1) := dk_104 (dk_at dksX0_kindsOf_4 9 rfl rfl)
theorem dX0_kindsOf_104 : decode cX0_kindsOf 104 = .ok (.iload 9, 2) := dk_21 9 (dk_at dksX0_kindsOf_4 10 rfl rfl)
theorem dX0_kindsOf_106 : decode cX0_kindsOf 106 = .ok (.iadd, 1) := dk_96 (dk_at dksX0_kindsOf_4 12 rfl rfl)
theorem dX0_kindsOf_107 : decode cX0_kindsOf 107 = .ok (.iload 5, 2) := dk_21 5 (dk_at dksX0_kindsOf_4 13 rfl rfl)
theorem dX0_kindsOf_109 : decode cX0_kindsOf 109 = .ok (.invokevirtual 323, 3) := dk_182 1 67 (dk_at dksX0_kindsOf_4 15 rfl rfl)
theorem dX0_kindsOf_112 : decode cX0_kindsOf 112 = .ok (.astore 10, 2) := dk_58 10 (dk_at dksX0_kindsOf_4 18 rfl rfl)
theorem dX0_kindsOf_114 : decode cX0_kindsOf 114 = .ok (.aload_n 3, 1) := dk_45 (dk_at dksX0_kindsOf_4 20 rfl rfl)
theorem dX0_kindsOf_115 : decode cX0_kindsOf 115 = .ok (.aload 10, 2) := dk_25 10 (dk_at dksX0_kindsOf_4 21 rfl rfl)
theorem dX0_kindsOf_117 : decode cX0_kindsOf 117 = .ok (.invokevirtual 347, 3) := dk_182 1 91 (dk_at dksX0_kindsOf_5 0 rfl rfl)
theorem dX0_kindsOf_120 : decode cX0_kindsOf 120 = .ok (.checkcast 348, 3) := dk_192 1 92 (dk_at dksX0_kindsOf_5 3 rfl rfl)
theorem dX0_kindsOf_123 : decode cX0_kindsOf 123 = .ok (.astore 11, 2) := dk_58 11 (dk_at dksX0_kindsOf_5 6 rfl rfl)
theorem dX0_kindsOf_125 : decode cX0_kindsOf 125 = .ok (.aload 11, 2) := dk_25 11 (dk_at dksX0_kindsOf_5 8 rfl rfl)
theorem dX0_kindsOf_127 : decode cX0_kindsOf 127 = .ok (.ifnonnull 23, 3) := dk_199 0 23 (dk_at dksX0_kindsOf_5 10 rfl rfl)
theorem dX0_kindsOf_130 : decode cX0_kindsOf 130 = .ok (.new 348, 3) := dk_187 1 92 (dk_at dksX0_kindsOf_5 13 rfl rfl)
theorem dX0_kindsOf_133 : decode cX0_kindsOf 133 = .ok (.dup, 1) := dk_89 (dk_at dksX0_kindsOf_5 16 rfl rfl)
theorem dX0_kindsOf_134 : decode cX0_kindsOf 134 = .ok (.aload 10, 2) := dk_25 10 (dk_at dksX0_kindsOf_5 17 rfl rfl)
theorem dX0_kindsOf_136 : decode cX0_kindsOf 136 = .ok (.invokespecial 350, 3) := dk_183 1 94 (dk_at dksX0_kindsOf_5 19 rfl rfl)
theorem dX0_kindsOf_139 : decode cX0_kindsOf 139 = .ok (.astore 11, 2) := dk_58 11 (dk_at dksX0_kindsOf_5 22 rfl rfl)
theorem dX0_kindsOf_141 : decode cX0_kindsOf 141 = .ok (.aload_n 3, 1) := dk_45 (dk_at dksX0_kindsOf_6 0 rfl rfl)
theorem dX0_kindsOf_142 : decode cX0_kindsOf 142 = .ok (.aload 10, 2) := dk_25 10 (dk_at dksX0_kindsOf_6 1 rfl rfl)
theorem dX0_kindsOf_144 : decode cX0_kindsOf 144 = .ok (.aload 11, 2) := dk_25 11 (dk_at dksX0_kindsOf_6 3 rfl rfl)
theorem dX0_kindsOf_146 : decode cX0_kindsOf 146 = .ok (.invokevirtual 353, 3) := dk_182 1 97 (dk_at dksX0_kindsOf_6 5 rfl rfl)
theorem dX0_kindsOf_149 : decode cX0_kindsOf 149 = .ok (.pop, 1) := dk_87 (dk_at dksX0_kindsOf_6 8 rfl rfl)
theorem dX0_kindsOf_150 : decode cX0_kindsOf 150 = .ok (.aload 11, 2) := dk_25 11 (dk_at dksX0_kindsOf_6 9 rfl rfl)
theorem dX0_kindsOf_152 : decode cX0_kindsOf 152 = .ok (.dup, 1) := dk_89 (dk_at dksX0_kindsOf_6 11 rfl rfl)
theorem dX0_kindsOf_153 : decode cX0_kindsOf 153 = .ok (.getfield 357, 3) := dk_180 1 101 (dk_at dksX0_kindsOf_6 12 rfl rfl)
theorem dX0_kindsOf_156 : decode cX0_kindsOf 156 = .ok (.iconst 1, 1) := dk_4 (dk_at dksX0_kindsOf_6 15 rfl rfl)
theorem dX0_kindsOf_157 : decode cX0_kindsOf 157 = .ok (.iadd, 1) := dk_96 (dk_at dksX0_kindsOf_6 16 rfl rfl)
theorem dX0_kindsOf_158 : decode cX0_kindsOf 158 = .ok (.putfield 357, 3) := dk_181 1 101 (dk_at dksX0_kindsOf_6 17 rfl rfl)
theorem dX0_kindsOf_161 : decode cX0_kindsOf 161 = .ok (.iinc 8 1, 3) := dk_132 8 1 (dk_at dksX0_kindsOf_6 20 rfl rfl)
theorem dX0_kindsOf_164 : decode cX0_kindsOf 164 = .ok (.goto (-105), 3) := dk_167 255 151 (dk_at dksX0_kindsOf_7 0 rfl rfl)
theorem dX0_kindsOf_167 : decode cX0_kindsOf 167 = .ok (.iinc 5 1, 3) := dk_132 5 1 (dk_at dksX0_kindsOf_7 3 rfl rfl)
theorem dX0_kindsOf_170 : decode cX0_kindsOf 170 = .ok (.goto (-146), 3) := dk_167 255 110 (dk_at dksX0_kindsOf_7 6 rfl rfl)
theorem dX0_kindsOf_173 : decode cX0_kindsOf 173 = .ok (.aload_n 3, 1) := dk_45 (dk_at dksX0_kindsOf_7 9 rfl rfl)
theorem dX0_kindsOf_174 : decode cX0_kindsOf 174 = .ok (.areturn, 1) := dk_176 (dk_at dksX0_kindsOf_7 10 rfl rfl)
abbrev cX0_kind : ByteArray := prog_1_method_38_code
def yX0_kind : MethodName := ⟨RX0, "kind", "(IIII)I"⟩
def dkwX0_kind_3 : List UInt8 := [167, 0, 13, 25, 5, 180, 1, 131, 21, 4, 182, 1, 71, 172]
abbrev dktX0_kind_3 : List UInt8 := dkwX0_kind_3 ++ []
def dkwX0_kind_2 : List UInt8 := [58, 5, 25, 5, 199, 0, 7, 19, 1, 48, 172, 21, 4, 6, 160, 0, 11, 25, 5, 180, 1, 101]
abbrev dktX0_kind_2 : List UInt8 := dkwX0_kind_2 ++ dktX0_kind_3
def dkwX0_kind_1 : List UInt8 := [20, 1, 45, 184, 0, 90, 154, 0, 7, 19, 1, 48, 172, 42, 27, 28, 182, 1, 104, 29, 184, 1, 127]
abbrev dktX0_kind_1 : List UInt8 := dkwX0_kind_1 ++ dktX0_kind_2
def dkwX0_kind_0 : List UInt8 := [42, 27, 182, 0, 221, 153, 0, 27, 28, 184, 0, 106, 153, 0, 20, 29, 155, 0, 16, 21, 4, 133, 9]
abbrev dktX0_kind_0 : List UInt8 := dkwX0_kind_0 ++ dktX0_kind_1
theorem dksX0_kind_0 : cX0_kind.data.toList.drop 0 = dktX0_kind_0 := by decide +kernel
theorem dksX0_kind_1 : cX0_kind.data.toList.drop 23 = dktX0_kind_1 := dk_seg dksX0_kind_0 23 rfl rfl
theorem dksX0_kind_2 : cX0_kind.data.toList.drop 46 = dktX0_kind_2 := dk_seg dksX0_kind_1 23 rfl rfl
theorem dksX0_kind_3 : cX0_kind.data.toList.drop 68 = dktX0_kind_3 := dk_seg dksX0_kind_2 22 rfl rfl
theorem dX0_kind_0 : decode cX0_kind 0 = .ok (.aload_n 0, 1) := dk_42 (dk_at dksX0_kind_0 0 rfl rfl)
theorem dX0_kind_1 : decode cX0_kind 1 = .ok (.iload_n 1, 1) := dk_27 (dk_at dksX0_kind_0 1 rfl rfl)
theorem dX0_kind_2 : decode cX0_kind 2 = .ok (.invokevirtual 221, 3) := dk_182 0 221 (dk_at dksX0_kind_0 2 rfl rfl)
theorem dX0_kind_5 : decode cX0_kind 5 = .ok (.ifCond .eq 27, 3) := dk_153 0 27 (dk_at dksX0_kind_0 5 rfl rfl)
theorem dX0_kind_8 : decode cX0_kind 8 = .ok (.iload_n 2, 1) := dk_28 (dk_at dksX0_kind_0 8 rfl rfl)
theorem dX0_kind_9 : decode cX0_kind 9 = .ok (.invokestatic 106, 3) := dk_184 0 106 (dk_at dksX0_kind_0 9 rfl rfl)
theorem dX0_kind_12 : decode cX0_kind 12 = .ok (.ifCond .eq 20, 3) := dk_153 0 20 (dk_at dksX0_kind_0 12 rfl rfl)
theorem dX0_kind_15 : decode cX0_kind 15 = .ok (.iload_n 3, 1) := dk_29 (dk_at dksX0_kind_0 15 rfl rfl)
theorem dX0_kind_16 : decode cX0_kind 16 = .ok (.ifCond .lt 16, 3) := dk_155 0 16 (dk_at dksX0_kind_0 16 rfl rfl)
theorem dX0_kind_19 : decode cX0_kind 19 = .ok (.iload 4, 2) := dk_21 4 (dk_at dksX0_kind_0 19 rfl rfl)
theorem dX0_kind_21 : decode cX0_kind 21 = .ok (.i2l, 1) := dk_133 (dk_at dksX0_kind_0 21 rfl rfl)
theorem dX0_kind_22 : decode cX0_kind 22 = .ok (.lconst 0, 1) := dk_9 (dk_at dksX0_kind_0 22 rfl rfl)
theorem dX0_kind_23 : decode cX0_kind 23 = .ok (.ldc2_w 301, 3) := dk_20 1 45 (dk_at dksX0_kind_1 0 rfl rfl)
theorem dX0_kind_26 : decode cX0_kind 26 = .ok (.invokestatic 90, 3) := dk_184 0 90 (dk_at dksX0_kind_1 3 rfl rfl)
theorem dX0_kind_29 : decode cX0_kind 29 = .ok (.ifCond .ne 7, 3) := dk_154 0 7 (dk_at dksX0_kind_1 6 rfl rfl)
theorem dX0_kind_32 : decode cX0_kind 32 = .ok (.ldc_w 304, 3) := dk_19 1 48 (dk_at dksX0_kind_1 9 rfl rfl)
theorem dX0_kind_35 : decode cX0_kind 35 = .ok (.ireturn, 1) := dk_172 (dk_at dksX0_kind_1 12 rfl rfl)
theorem dX0_kind_36 : decode cX0_kind 36 = .ok (.aload_n 0, 1) := dk_42 (dk_at dksX0_kind_1 13 rfl rfl)
theorem dX0_kind_37 : decode cX0_kind 37 = .ok (.iload_n 1, 1) := dk_27 (dk_at dksX0_kind_1 14 rfl rfl)
theorem dX0_kind_38 : decode cX0_kind 38 = .ok (.iload_n 2, 1) := dk_28 (dk_at dksX0_kind_1 15 rfl rfl)
theorem dX0_kind_39 : decode cX0_kind 39 = .ok (.invokevirtual 360, 3) := dk_182 1 104 (dk_at dksX0_kind_1 16 rfl rfl)
theorem dX0_kind_42 : decode cX0_kind 42 = .ok (.iload_n 3, 1) := dk_29 (dk_at dksX0_kind_1 19 rfl rfl)
theorem dX0_kind_43 : decode cX0_kind 43 = .ok (.invokestatic 383, 3) := dk_184 1 127 (dk_at dksX0_kind_1 20 rfl rfl)
theorem dX0_kind_46 : decode cX0_kind 46 = .ok (.astore 5, 2) := dk_58 5 (dk_at dksX0_kind_2 0 rfl rfl)
theorem dX0_kind_48 : decode cX0_kind 48 = .ok (.aload 5, 2) := dk_25 5 (dk_at dksX0_kind_2 2 rfl rfl)
theorem dX0_kind_50 : decode cX0_kind 50 = .ok (.ifnonnull 7, 3) := dk_199 0 7 (dk_at dksX0_kind_2 4 rfl rfl)
theorem dX0_kind_53 : decode cX0_kind 53 = .ok (.ldc_w 304, 3) := dk_19 1 48 (dk_at dksX0_kind_2 7 rfl rfl)
theorem dX0_kind_56 : decode cX0_kind 56 = .ok (.ireturn, 1) := dk_172 (dk_at dksX0_kind_2 10 rfl rfl)
theorem dX0_kind_57 : decode cX0_kind 57 = .ok (.iload 4, 2) := dk_21 4 (dk_at dksX0_kind_2 11 rfl rfl)
theorem dX0_kind_59 : decode cX0_kind 59 = .ok (.iconst 3, 1) := dk_6 (dk_at dksX0_kind_2 13 rfl rfl)
theorem dX0_kind_60 : decode cX0_kind 60 = .ok (.if_icmp .ne 11, 3) := dk_160 0 11 (dk_at dksX0_kind_2 14 rfl rfl)
theorem dX0_kind_63 : decode cX0_kind 63 = .ok (.aload 5, 2) := dk_25 5 (dk_at dksX0_kind_2 17 rfl rfl)
theorem dX0_kind_65 : decode cX0_kind 65 = .ok (.getfield 357, 3) := dk_180 1 101 (dk_at dksX0_kind_2 19 rfl rfl)
theorem dX0_kind_68 : decode cX0_kind 68 = .ok (.goto 13, 3) := dk_167 0 13 (dk_at dksX0_kind_3 0 rfl rfl)
theorem dX0_kind_71 : decode cX0_kind 71 = .ok (.aload 5, 2) := dk_25 5 (dk_at dksX0_kind_3 3 rfl rfl)
theorem dX0_kind_73 : decode cX0_kind 73 = .ok (.getfield 387, 3) := dk_180 1 131 (dk_at dksX0_kind_3 5 rfl rfl)
theorem dX0_kind_76 : decode cX0_kind 76 = .ok (.iload 4, 2) := dk_21 4 (dk_at dksX0_kind_3 8 rfl rfl)
theorem dX0_kind_78 : decode cX0_kind 78 = .ok (.invokevirtual 327, 3) := dk_182 1 71 (dk_at dksX0_kind_3 10 rfl rfl)
theorem dX0_kind_81 : decode cX0_kind 81 = .ok (.ireturn, 1) := dk_172 (dk_at dksX0_kind_3 13 rfl rfl)
abbrev cX0_nth : ByteArray := prog_1_method_37_code
def yX0_nth : MethodName := ⟨RX0, "nth", "(Ljava/util/LinkedHashMap;I)LStrideTurns$Tally;"⟩
def dkwX0_nth_2 : List UInt8 := [1, 176]
abbrev dktX0_nth_2 : List UInt8 := dkwX0_nth_2 ++ []
def dkwX0_nth_1 : List UInt8 := [185, 1, 124, 1, 0, 192, 1, 92, 58, 4, 28, 27, 160, 0, 6, 25, 4, 176, 132, 2, 1, 167, 255, 225]
abbrev dktX0_nth_1 : List UInt8 := dkwX0_nth_1 ++ dktX0_nth_2
def dkwX0_nth_0 : List UInt8 := [3, 61, 42, 182, 1, 109, 185, 1, 113, 1, 0, 78, 45, 185, 1, 119, 1, 0, 153, 0, 28, 45]
abbrev dktX0_nth_0 : List UInt8 := dkwX0_nth_0 ++ dktX0_nth_1
theorem dksX0_nth_0 : cX0_nth.data.toList.drop 0 = dktX0_nth_0 := by decide +kernel
theorem dksX0_nth_1 : cX0_nth.data.toList.drop 22 = dktX0_nth_1 := dk_seg dksX0_nth_0 22 rfl rfl
theorem dksX0_nth_2 : cX0_nth.data.toList.drop 46 = dktX0_nth_2 := dk_seg dksX0_nth_1 24 rfl rfl
theorem dX0_nth_0 : decode cX0_nth 0 = .ok (.iconst 0, 1) := dk_3 (dk_at dksX0_nth_0 0 rfl rfl)
theorem dX0_nth_1 : decode cX0_nth 1 = .ok (.istore_n 2, 1) := dk_61 (dk_at dksX0_nth_0 1 rfl rfl)
theorem dX0_nth_2 : decode cX0_nth 2 = .ok (.aload_n 0, 1) := dk_42 (dk_at dksX0_nth_0 2 rfl rfl)
theorem dX0_nth_3 : decode cX0_nth 3 = .ok (.invokevirtual 365, 3) := dk_182 1 109 (dk_at dksX0_nth_0 3 rfl rfl)
theorem dX0_nth_6 : decode cX0_nth 6 = .ok (.invokeinterface 369 1, 5) := by decide +kernel
theorem dX0_nth_11 : decode cX0_nth 11 = .ok (.astore_n 3, 1) := dk_78 (dk_at dksX0_nth_0 11 rfl rfl)
theorem dX0_nth_12 : decode cX0_nth 12 = .ok (.aload_n 3, 1) := dk_45 (dk_at dksX0_nth_0 12 rfl rfl)
theorem dX0_nth_13 : decode cX0_nth 13 = .ok (.invokeinterface 375 1, 5) := by decide +kernel
theorem dX0_nth_18 : decode cX0_nth 18 = .ok (.ifCond .eq 28, 3) := dk_153 0 28 (dk_at dksX0_nth_0 18 rfl rfl)
theorem dX0_nth_21 : decode cX0_nth 21 = .ok (.aload_n 3, 1) := dk_45 (dk_at dksX0_nth_0 21 rfl rfl)
theorem dX0_nth_22 : decode cX0_nth 22 = .ok (.invokeinterface 380 1, 5) := by decide +kernel
theorem dX0_nth_27 : decode cX0_nth 27 = .ok (.checkcast 348, 3) := dk_192 1 92 (dk_at dksX0_nth_1 5 rfl rfl)
theorem dX0_nth_30 : decode cX0_nth 30 = .ok (.astore 4, 2) := dk_58 4 (dk_at dksX0_nth_1 8 rfl rfl)
theorem dX0_nth_32 : decode cX0_nth 32 = .ok (.iload_n 2, 1) := dk_28 (dk_at dksX0_nth_1 10 rfl rfl)
theorem dX0_nth_33 : decode cX0_nth 33 = .ok (.iload_n 1, 1) := dk_27 (dk_at dksX0_nth_1 11 rfl rfl)
theorem dX0_nth_34 : decode cX0_nth 34 = .ok (.if_icmp .ne 6, 3) := dk_160 0 6 (dk_at dksX0_nth_1 12 rfl rfl)
theorem dX0_nth_37 : decode cX0_nth 37 = .ok (.aload 4, 2) := dk_25 4 (dk_at dksX0_nth_1 15 rfl rfl)
theorem dX0_nth_39 : decode cX0_nth 39 = .ok (.areturn, 1) := dk_176 (dk_at dksX0_nth_1 17 rfl rfl)
theorem dX0_nth_40 : decode cX0_nth 40 = .ok (.iinc 2 1, 3) := dk_132 2 1 (dk_at dksX0_nth_1 18 rfl rfl)
theorem dX0_nth_43 : decode cX0_nth 43 = .ok (.goto (-31), 3) := dk_167 255 225 (dk_at dksX0_nth_1 21 rfl rfl)
theorem dX0_nth_46 : decode cX0_nth 46 = .ok (.aconst_null, 1) := dk_1 (dk_at dksX0_nth_2 0 rfl rfl)
theorem dX0_nth_47 : decode cX0_nth 47 = .ok (.areturn, 1) := dk_176 (dk_at dksX0_nth_2 1 rfl rfl)
abbrev cX0_many : ByteArray := prog_1_method_48_code
def yX0_many : MethodName := ⟨RX0, "many", "(III)I"⟩
def dkwX0_many_1 : List UInt8 := [184, 1, 200, 172]
abbrev dktX0_many_1 : List UInt8 := dkwX0_many_1 ++ []
def dkwX0_many_0 : List UInt8 := [42, 27, 28, 29, 182, 1, 189, 154, 0, 6, 16, 254, 172, 42, 182, 1, 193, 42, 27, 28, 29, 182, 1, 196]
abbrev dktX0_many_0 : List UInt8 := dkwX0_many_0 ++ dktX0_many_1
theorem dksX0_many_0 : cX0_many.data.toList.drop 0 = dktX0_many_0 := by decide +kernel
theorem dksX0_many_1 : cX0_many.data.toList.drop 24 = dktX0_many_1 := dk_seg dksX0_many_0 24 rfl rfl
theorem dX0_many_0 : decode cX0_many 0 = .ok (.aload_n 0, 1) := dk_42 (dk_at dksX0_many_0 0 rfl rfl)
theorem dX0_many_1 : decode cX0_many 1 = .ok (.iload_n 1, 1) := dk_27 (dk_at dksX0_many_0 1 rfl rfl)
theorem dX0_many_2 : decode cX0_many 2 = .ok (.iload_n 2, 1) := dk_28 (dk_at dksX0_many_0 2 rfl rfl)
theorem dX0_many_3 : decode cX0_many 3 = .ok (.iload_n 3, 1) := dk_29 (dk_at dksX0_many_0 3 rfl rfl)
theorem dX0_many_4 : decode cX0_many 4 = .ok (.invokevirtual 445, 3) := dk_182 1 189 (dk_at dksX0_many_0 4 rfl rfl)
theorem dX0_many_7 : decode cX0_many 7 = .ok (.ifCond .ne 6, 3) := dk_154 0 6 (dk_at dksX0_many_0 7 rfl rfl)
theorem dX0_many_10 : decode cX0_many 10 = .ok (.bipush (-2), 2) := dk_16 254 (dk_at dksX0_many_0 10 rfl rfl)
theorem dX0_many_12 : decode cX0_many 12 = .ok (.ireturn, 1) := dk_172 (dk_at dksX0_many_0 12 rfl rfl)
theorem dX0_many_13 : decode cX0_many 13 = .ok (.aload_n 0, 1) := dk_42 (dk_at dksX0_many_0 13 rfl rfl)
theorem dX0_many_14 : decode cX0_many 14 = .ok (.invokevirtual 449, 3) := dk_182 1 193 (dk_at dksX0_many_0 14 rfl rfl)
theorem dX0_many_17 : decode cX0_many 17 = .ok (.aload_n 0, 1) := dk_42 (dk_at dksX0_many_0 17 rfl rfl)
theorem dX0_many_18 : decode cX0_many 18 = .ok (.iload_n 1, 1) := dk_27 (dk_at dksX0_many_0 18 rfl rfl)
theorem dX0_many_19 : decode cX0_many 19 = .ok (.iload_n 2, 1) := dk_28 (dk_at dksX0_many_0 19 rfl rfl)
theorem dX0_many_20 : decode cX0_many 20 = .ok (.iload_n 3, 1) := dk_29 (dk_at dksX0_many_0 20 rfl rfl)
theorem dX0_many_21 : decode cX0_many 21 = .ok (.invokevirtual 452, 3) := dk_182 1 196 (dk_at dksX0_many_0 21 rfl rfl)
theorem dX0_many_24 : decode cX0_many 24 = .ok (.invokestatic 456, 3) := dk_184 1 200 (dk_at dksX0_many_1 0 rfl rfl)
theorem dX0_many_27 : decode cX0_many 27 = .ok (.ireturn, 1) := dk_172 (dk_at dksX0_many_1 3 rfl rfl)
abbrev cX0_isSet : ByteArray := prog_1_method_47_code
def yX0_isSet : MethodName := ⟨RX0, "isSet", "(III)Z"⟩
def dkwX0_isSet_1 : List UInt8 := [42, 29, 182, 1, 64, 153, 0, 7, 4, 167, 0, 4, 3, 172]
abbrev dktX0_isSet_1 : List UInt8 := dkwX0_isSet_1 ++ []
def dkwX0_isSet_0 : List UInt8 := [27, 133, 9, 20, 1, 45, 184, 0, 90, 153, 0, 27, 28, 184, 0, 106, 153, 0, 20, 29, 2, 159, 0, 11]
abbrev dktX0_isSet_0 : List UInt8 := dkwX0_isSet_0 ++ dktX0_isSet_1
theorem dksX0_isSet_0 : cX0_isSet.data.toList.drop 0 = dktX0_isSet_0 := by decide +kernel
theorem dksX0_isSet_1 : cX0_isSet.data.toList.drop 24 = dktX0_isSet_1 := dk_seg dksX0_isSet_0 24 rfl rfl
theorem dX0_isSet_0 : decode cX0_isSet 0 = .ok (.iload_n 1, 1) := dk_27 (dk_at dksX0_isSet_0 0 rfl rfl)
theorem dX0_isSet_1 : decode cX0_isSet 1 = .ok (.i2l, 1) := dk_133 (dk_at dksX0_isSet_0 1 rfl rfl)
theorem dX0_isSet_2 : decode cX0_isSet 2 = .ok (.lconst 0, 1) := dk_9 (dk_at dksX0_isSet_0 2 rfl rfl)
theorem dX0_isSet_3 : decode cX0_isSet 3 = .ok (.ldc2_w 301, 3) := dk_20 1 45 (dk_at dksX0_isSet_0 3 rfl rfl)
theorem dX0_isSet_6 : decode cX0_isSet 6 = .ok (.invokestatic 90, 3) := dk_184 0 90 (dk_at dksX0_isSet_0 6 rfl rfl)
theorem dX0_isSet_9 : decode cX0_isSet 9 = .ok (.ifCond .eq 27, 3) := dk_153 0 27 (dk_at dksX0_isSet_0 9 rfl rfl)
theorem dX0_isSet_12 : decode cX0_isSet 12 = .ok (.iload_n 2, 1) := dk_28 (dk_at dksX0_isSet_0 12 rfl rfl)
theorem dX0_isSet_13 : decode cX0_isSet 13 = .ok (.invokestatic 106, 3) := dk_184 0 106 (dk_at dksX0_isSet_0 13 rfl rfl)
theorem dX0_isSet_16 : decode cX0_isSet 16 = .ok (.ifCond .eq 20, 3) := dk_153 0 20 (dk_at dksX0_isSet_0 16 rfl rfl)
theorem dX0_isSet_19 : decode cX0_isSet 19 = .ok (.iload_n 3, 1) := dk_29 (dk_at dksX0_isSet_0 19 rfl rfl)
theorem dX0_isSet_20 : decode cX0_isSet 20 = .ok (.iconst (-1), 1) := dk_2 (dk_at dksX0_isSet_0 20 rfl rfl)
theorem dX0_isSet_21 : decode cX0_isSet 21 = .ok (.if_icmp .eq 11, 3) := dk_159 0 11 (dk_at dksX0_isSet_0 21 rfl rfl)
theorem dX0_isSet_24 : decode cX0_isSet 24 = .ok (.aload_n 0, 1) := dk_42 (dk_at dksX0_isSet_1 0 rfl rfl)
theorem dX0_isSet_25 : decode cX0_isSet 25 = .ok (.iload_n 3, 1) := dk_29 (dk_at dksX0_isSet_1 1 rfl rfl)
theorem dX0_isSet_26 : decode cX0_isSet 26 = .ok (.invokevirtual 320, 3) := dk_182 1 64 (dk_at dksX0_isSet_1 2 rfl rfl)
theorem dX0_isSet_29 : decode cX0_isSet 29 = .ok (.ifCond .eq 7, 3) := dk_153 0 7 (dk_at dksX0_isSet_1 5 rfl rfl)
theorem dX0_isSet_32 : decode cX0_isSet 32 = .ok (.iconst 1, 1) := dk_4 (dk_at dksX0_isSet_1 8 rfl rfl)
theorem dX0_isSet_33 : decode cX0_isSet 33 = .ok (.goto 4, 3) := dk_167 0 4 (dk_at dksX0_isSet_1 9 rfl rfl)
theorem dX0_isSet_36 : decode cX0_isSet 36 = .ok (.iconst 0, 1) := dk_3 (dk_at dksX0_isSet_1 12 rfl rfl)
theorem dX0_isSet_37 : decode cX0_isSet 37 = .ok (.ireturn, 1) := dk_172 (dk_at dksX0_isSet_1 13 rfl rfl)
abbrev cX0_knows : ByteArray := prog_1_method_45_code
def yX0_knows : MethodName := ⟨RX0, "knows", "()V"⟩
def dkwX0_knows_1 : List UInt8 := [3, 60, 27, 42, 180, 0, 173, 162, 0, 14, 42, 27, 182, 1, 186, 132, 1, 1, 167, 255, 240, 177]
abbrev dktX0_knows_1 : List UInt8 := dkwX0_knows_1 ++ []
def dkwX0_knows_0 : List UInt8 := [3, 60, 27, 42, 180, 0, 49, 190, 162, 0, 16, 42, 180, 0, 49, 27, 9, 80, 132, 1, 1, 167, 255, 237]
abbrev dktX0_knows_0 : List UInt8 := dkwX0_knows_0 ++ dktX0_knows_1
theorem dksX0_knows_0 : cX0_knows.data.toList.drop 0 = dktX0_knows_0 := by decide +kernel
theorem dksX0_knows_1 : cX0_knows.data.toList.drop 24 = dktX0_knows_1 := dk_seg dksX0_knows_0 24 rfl rfl
theorem dX0_knows_0 : decode cX0_knows 0 = .ok (.iconst 0, 1) := dk_3 (dk_at dksX0_knows_0 0 rfl rfl)
theorem dX0_knows_1 : decode cX0_knows 1 = .ok (.istore_n 1, 1) := dk_60 (dk_at dksX0_knows_0 1 rfl rfl)
theorem dX0_knows_2 : decode cX0_knows 2 = .ok (.iload_n 1, 1) := dk_27 (dk_at dksX0_knows_0 2 rfl rfl)
theorem dX0_knows_3 : decode cX0_knows 3 = .ok (.aload_n 0, 1) := dk_42 (dk_at dksX0_knows_0 3 rfl rfl)
theorem dX0_knows_4 : decode cX0_knows 4 = .ok (.getfield 49, 3) := dk_180 0 49 (dk_at dksX0_knows_0 4 rfl rfl)
theorem dX0_knows_7 : decode cX0_knows 7 = .ok (.arraylength, 1) := dk_190 (dk_at dksX0_knows_0 7 rfl rfl)
theorem dX0_knows_8 : decode cX0_knows 8 = .ok (.if_icmp .ge 16, 3) := dk_162 0 16 (dk_at dksX0_knows_0 8 rfl rfl)
theorem dX0_knows_11 : decode cX0_knows 11 = .ok (.aload_n 0, 1) := dk_42 (dk_at dksX0_knows_0 11 rfl rfl)
theorem dX0_knows_12 : decode cX0_knows 12 = .ok (.getfield 49, 3) := dk_180 0 49 (dk_at dksX0_knows_0 12 rfl rfl)
theorem dX0_knows_15 : decode cX0_knows 15 = .ok (.iload_n 1, 1) := dk_27 (dk_at dksX0_knows_0 15 rfl rfl)
theorem dX0_knows_16 : decode cX0_knows 16 = .ok (.lconst 0, 1) := dk_9 (dk_at dksX0_knows_0 16 rfl rfl)
theorem dX0_knows_17 : decode cX0_knows 17 = .ok (.lastore, 1) := dk_80 (dk_at dksX0_knows_0 17 rfl rfl)
theorem dX0_knows_18 : decode cX0_knows 18 = .ok (.iinc 1 1, 3) := dk_132 1 1 (dk_at dksX0_knows_0 18 rfl rfl)
theorem dX0_knows_21 : decode cX0_knows 21 = .ok (.goto (-19), 3) := dk_167 255 237 (dk_at dksX0_knows_0 21 rfl rfl)
theorem dX0_knows_24 : decode cX0_knows 24 = .ok (.iconst 0, 1) := dk_3 (dk_at dksX0_knows_1 0 rfl rfl)
theorem dX0_knows_25 : decode cX0_knows 25 = .ok (.istore_n 1, 1) := dk_60 (dk_at dksX0_knows_1 1 rfl rfl)
theorem dX0_knows_26 : decode cX0_knows 26 = .ok (.iload_n 1, 1) := dk_27 (dk_at dksX0_knows_1 2 rfl rfl)
theorem dX0_knows_27 : decode cX0_knows 27 = .ok (.aload_n 0, 1) := dk_42 (dk_at dksX0_knows_1 3 rfl rfl)
theorem dX0_knows_28 : decode cX0_knows 28 = .ok (.getfield 173, 3) := dk_180 0 173 (dk_at dksX0_knows_1 4 rfl rfl)
theorem dX0_knows_31 : decode cX0_knows 31 = .ok (.if_icmp .ge 14, 3) := dk_162 0 14 (dk_at dksX0_knows_1 7 rfl rfl)
theorem dX0_knows_34 : decode cX0_knows 34 = .ok (.aload_n 0, 1) := dk_42 (dk_at dksX0_knows_1 10 rfl rfl)
theorem dX0_knows_35 : decode cX0_knows 35 = .ok (.iload_n 1, 1) := dk_27 (dk_at dksX0_knows_1 11 rfl rfl)
theorem dX0_knows_36 : decode cX0_knows 36 = .ok (.invokevirtual 442, 3) := dk_182 1 186 (dk_at dksX0_knows_1 12 rfl rfl)
theorem dX0_knows_39 : decode cX0_knows 39 = .ok (.iinc 1 1, 3) := dk_132 1 1 (dk_at dksX0_knows_1 15 rfl rfl)
theorem dX0_knows_42 : decode cX0_knows 42 = .ok (.goto (-16), 3) := dk_167 255 240 (dk_at dksX0_knows_1 18 rfl rfl)
theorem dX0_knows_45 : decode cX0_knows 45 = .ok (.return_, 1) := dk_177 (dk_at dksX0_knows_1 21 rfl rfl)
abbrev cX0_goes : ByteArray := prog_1_method_44_code
def yX0_goes : MethodName := ⟨RX0, "goes", "(I)V"⟩
def dkwX0_goes_15 : List UInt8 := [167, 254, 182, 177]
abbrev dktX0_goes_15 : List UInt8 := dkwX0_goes_15 ++ []
def dkwX0_goes_14 : List UInt8 := [182, 1, 168, 153, 0, 8, 22, 10, 167, 0, 4, 9, 129, 80, 21, 8, 158, 0, 4, 177, 132, 3, 1]
abbrev dktX0_goes_14 : List UInt8 := dkwX0_goes_14 ++ dktX0_goes_15
def dkwX0_goes_13 : List UInt8 := [129, 80, 42, 180, 0, 49, 5, 21, 9, 27, 184, 1, 156, 92, 47, 28, 153, 0, 19, 25, 4, 180, 1, 164]
abbrev dktX0_goes_13 : List UInt8 := dkwX0_goes_13 ++ dktX0_goes_14
def dkwX0_goes_12 : List UInt8 := [180, 0, 53, 21, 9, 92, 47, 25, 4, 180, 1, 164, 182, 1, 168, 153, 0, 8, 22, 10, 167, 0, 4, 9]
abbrev dktX0_goes_12 : List UInt8 := dkwX0_goes_12 ++ dktX0_goes_13
def dkwX0_goes_11 : List UInt8 := [167, 0, 4, 3, 126, 61, 42, 180, 0, 49, 4, 21, 9, 27, 184, 1, 156, 92, 47, 22, 10, 129, 80, 42]
abbrev dktX0_goes_11 : List UInt8 := dkwX0_goes_11 ++ dktX0_goes_12
def dkwX0_goes_10 : List UInt8 := [182, 0, 233, 27, 21, 7, 182, 1, 160, 55, 10, 28, 25, 4, 180, 1, 164, 182, 1, 183, 154, 0, 7, 4]
abbrev dktX0_goes_10 : List UInt8 := dkwX0_goes_10 ++ dktX0_goes_11
def dkwX0_goes_9 : List UInt8 := [182, 1, 179, 21, 7, 158, 0, 128, 25, 4, 3, 182, 0, 233, 180, 0, 237, 54, 9, 42, 25, 4, 3]
abbrev dktX0_goes_9 : List UInt8 := dkwX0_goes_9 ++ dktX0_goes_10
def dkwX0_goes_8 : List UInt8 := [27, 21, 6, 21, 5, 21, 7, 164, 0, 11, 21, 7, 21, 8, 96, 167, 0, 5, 21, 7, 184, 1, 151]
abbrev dktX0_goes_8 : List UInt8 := dkwX0_goes_8 ++ dktX0_goes_9
def dkwX0_goes_7 : List UInt8 := [21, 7, 21, 8, 96, 184, 1, 151, 182, 1, 179, 25, 4, 5, 182, 1, 88, 153, 0, 33, 42, 25, 4, 5]
abbrev dktX0_goes_7 : List UInt8 := dkwX0_goes_7 ++ dktX0_goes_8
def dkwX0_goes_6 : List UInt8 := [21, 7, 25, 4, 180, 1, 52, 162, 0, 7, 4, 167, 0, 4, 3, 54, 8, 42, 25, 4, 4, 27, 21, 5]
abbrev dktX0_goes_6 : List UInt8 := dkwX0_goes_6 ++ dktX0_goes_7
def dkwX0_goes_5 : List UInt8 := [184, 1, 151, 42, 25, 4, 3, 182, 0, 233, 27, 25, 4, 180, 1, 52, 182, 1, 175, 184, 1, 151, 54, 7]
abbrev dktX0_goes_5 : List UInt8 := dkwX0_goes_5 ++ dktX0_goes_6
def dkwX0_goes_4 : List UInt8 := [27, 25, 4, 180, 1, 52, 182, 1, 175, 167, 0, 8, 25, 4, 180, 1, 52, 54, 6, 21, 5, 21, 6]
abbrev dktX0_goes_4 : List UInt8 := dkwX0_goes_4 ++ dktX0_goes_5
def dkwX0_goes_3 : List UInt8 := [180, 1, 52, 182, 1, 175, 54, 5, 25, 4, 5, 182, 1, 88, 153, 0, 22, 42, 25, 4, 5, 182, 0, 233]
abbrev dktX0_goes_3 : List UInt8 := dkwX0_goes_3 ++ dktX0_goes_4
def dkwX0_goes_2 : List UInt8 := [58, 4, 25, 4, 27, 182, 1, 82, 154, 0, 6, 167, 1, 38, 42, 25, 4, 4, 182, 0, 233, 27, 25, 4]
abbrev dktX0_goes_2 : List UInt8 := dkwX0_goes_2 ++ dktX0_goes_3
def dkwX0_goes_1 : List UInt8 := [62, 29, 42, 180, 0, 34, 182, 0, 208, 162, 1, 69, 42, 180, 0, 34, 29, 182, 0, 230, 192, 0, 209]
abbrev dktX0_goes_1 : List UInt8 := dkwX0_goes_1 ++ dktX0_goes_2
def dkwX0_goes_0 : List UInt8 := [3, 61, 28, 16, 6, 162, 0, 16, 42, 180, 0, 53, 28, 9, 80, 132, 2, 1, 167, 255, 240, 4, 61, 3]
abbrev dktX0_goes_0 : List UInt8 := dkwX0_goes_0 ++ dktX0_goes_1
theorem dksX0_goes_0 : cX0_goes.data.toList.drop 0 = dktX0_goes_0 := by decide +kernel
theorem dksX0_goes_1 : cX0_goes.data.toList.drop 24 = dktX0_goes_1 := dk_seg dksX0_goes_0 24 rfl rfl
theorem dksX0_goes_2 : cX0_goes.data.toList.drop 47 = dktX0_goes_2 := dk_seg dksX0_goes_1 23 rfl rfl
theorem dksX0_goes_3 : cX0_goes.data.toList.drop 71 = dktX0_goes_3 := dk_seg dksX0_goes_2 24 rfl rfl
theorem dksX0_goes_4 : cX0_goes.data.toList.drop 95 = dktX0_goes_4 := dk_seg dksX0_goes_3 24 rfl rfl
theorem dksX0_goes_5 : cX0_goes.data.toList.drop 118 = dktX0_goes_5 := dk_seg dksX0_goes_4 23 rfl rfl
theorem dksX0_goes_6 : cX0_goes.data.toList.drop 142 = dktX0_goes_6 := dk_seg dksX0_goes_5 24 rfl rfl
theorem dksX0_goes_7 : cX0_goes.data.toList.drop 166 = dktX0_goes_7 := dk_seg dksX0_goes_6 24 rfl rfl
theorem dksX0_goes_8 : cX0_goes.data.toList.drop 190 = dktX0_goes_8 := dk_seg dksX0_goes_7 24 rfl rfl
theorem dksX0_goes_9 : cX0_goes.data.toList.drop 213 = dktX0_goes_9 := dk_seg dksX0_goes_8 23 rfl rfl
theorem dksX0_goes_10 : cX0_goes.data.toList.drop 236 = dktX0_goes_10 := dk_seg dksX0_goes_9 23 rfl rfl
theorem dksX0_goes_11 : cX0_goes.data.toList.drop 260 = dktX0_goes_11 := dk_seg dksX0_goes_10 24 rfl rfl
theorem dksX0_goes_12 : cX0_goes.data.toList.drop 284 = dktX0_goes_12 := dk_seg dksX0_goes_11 24 rfl rfl
theorem dksX0_goes_13 : cX0_goes.data.toList.drop 308 = dktX0_goes_13 := dk_seg dksX0_goes_12 24 rfl rfl
theorem dksX0_goes_14 : cX0_goes.data.toList.drop 332 = dktX0_goes_14 := dk_seg dksX0_goes_13 24 rfl rfl
theorem dksX0_goes_15 : cX0_goes.data.toList.drop 355 = dktX0_goes_15 := dk_seg dksX0_goes_14 23 rfl rfl
theorem dX0_goes_0 : decode cX0_goes 0 = .ok (.iconst 0, 1) := dk_3 (dk_at dksX0_goes_0 0 rfl rfl)
theorem dX0_goes_1 : decode cX0_goes 1 = .ok (.istore_n 2, 1) := dk_61 (dk_at dksX0_goes_0 1 rfl rfl)
theorem dX0_goes_2 : decode cX0_goes 2 = .ok (.iload_n 2, 1) := dk_28 (dk_at dksX0_goes_0 2 rfl rfl)
theorem dX0_goes_3 : decode cX0_goes 3 = .ok (.bipush 6, 2) := dk_16 6 (dk_at dksX0_goes_0 3 rfl rfl)
theorem dX0_goes_5 : decode cX0_goes 5 = .ok (.if_icmp .ge 16, 3) := dk_162 0 16 (dk_at dksX0_goes_0 5 rfl rfl)
theorem dX0_goes_8 : decode cX0_goes 8 = .ok (.aload_n 0, 1) := dk_42 (dk_at dksX0_goes_0 8 rfl rfl)
theorem dX0_goes_9 : decode cX0_goes 9 = .ok (.getfield 53, 3) := dk_180 0 53 (dk_at dksX0_goes_0 9 rfl rfl)
theorem dX0_goes_12 : decode cX0_goes 12 = .ok (.iload_n 2, 1) := dk_28 (dk_at dksX0_goes_0 12 rfl rfl)
theorem dX0_goes_13 : decode cX0_goes 13 = .ok (.lconst 0, 1) := dk_9 (dk_at dksX0_goes_0 13 rfl rfl)
theorem dX0_goes_14 : decode cX0_goes 14 = .ok (.lastore, 1) := dk_80 (dk_at dksX0_goes_0 14 rfl rfl)
theorem dX0_goes_15 : decode cX0_goes 15 = .ok (.iinc 2 1, 3) := dk_132 2 1 (dk_at dksX0_goes_0 15 rfl rfl)
theorem dX0_goes_18 : decode cX0_goes 18 = .ok (.goto (-16), 3) := dk_167 255 240 (dk_at dksX0_goes_0 18 rfl rfl)
theorem dX0_goes_21 : decode cX0_goes 21 = .ok (.iconst 1, 1) := dk_4 (dk_at dksX0_goes_0 21 rfl rfl)
theorem dX0_goes_22 : decode cX0_goes 22 = .ok (.istore_n 2, 1) := dk_61 (dk_at dksX0_goes_0 22 rfl rfl)
theorem dX0_goes_23 : decode cX0_goes 23 = .ok (.iconst 0, 1) := dk_3 (dk_at dksX0_goes_0 23 rfl rfl)
theorem dX0_goes_24 : decode cX0_goes 24 = .ok (.istore_n 3, 1) := dk_62 (dk_at dksX0_goes_1 0 rfl rfl)
theorem dX0_goes_25 : decode cX0_goes 25 = .ok (.iload_n 3, 1) := dk_29 (dk_at dksX0_goes_1 1 rfl rfl)
theorem dX0_goes_26 : decode cX0_goes 26 = .ok (.aload_n 0, 1) := dk_42 (dk_at dksX0_goes_1 2 rfl rfl)
theorem dX0_goes_27 : decode cX0_goes 27 = .ok (.getfield 34, 3) := dk_180 0 34 (dk_at dksX0_goes_1 3 rfl rfl)
theorem dX0_goes_30 : decode cX0_goes 30 = .ok (.invokevirtual 208, 3) := dk_182 0 208 (dk_at dksX0_goes_1 6 rfl rfl)
theorem dX0_goes_33 : decode cX0_goes 33 = .ok (.if_icmp .ge 325, 3) := dk_162 1 69 (dk_at dksX0_goes_1 9 rfl rfl)
theorem dX0_goes_36 : decode cX0_goes 36 = .ok (.aload_n 0, 1) := dk_42 (dk_at dksX0_goes_1 12 rfl rfl)
theorem dX0_goes_37 : decode cX0_goes 37 = .ok (.getfield 34, 3) := dk_180 0 34 (dk_at dksX0_goes_1 13 rfl rfl)
theorem dX0_goes_40 : decode cX0_goes 40 = .ok (.iload_n 3, 1) := dk_29 (dk_at dksX0_goes_1 16 rfl rfl)
theorem dX0_goes_41 : decode cX0_goes 41 = .ok (.invokevirtual 230, 3) := dk_182 0 230 (dk_at dksX0_goes_1 17 rfl rfl)
theorem dX0_goes_44 : decode cX0_goes 44 = .ok (.checkcast 209, 3) := dk_192 0 209 (dk_at dksX0_goes_1 20 rfl rfl)
theorem dX0_goes_47 : decode cX0_goes 47 = .ok (.astore 4, 2) := dk_58 4 (dk_at dksX0_goes_2 0 rfl rfl)
theorem dX0_goes_49 : decode cX0_goes 49 = .ok (.aload 4, 2) := dk_25 4 (dk_at dksX0_goes_2 2 rfl rfl)
theorem dX0_goes_51 : decode cX0_goes 51 = .ok (.iload_n 1, 1) := dk_27 (dk_at dksX0_goes_2 4 rfl rfl)
theorem dX0_goes_52 : decode cX0_goes 52 = .ok (.invokevirtual 338, 3) := dk_182 1 82 (dk_at dksX0_goes_2 5 rfl rfl)
theorem dX0_goes_55 : decode cX0_goes 55 = .ok (.ifCond .ne 6, 3) := dk_154 0 6 (dk_at dksX0_goes_2 8 rfl rfl)
theorem dX0_goes_58 : decode cX0_goes 58 = .ok (.goto 294, 3) := dk_167 1 38 (dk_at dksX0_goes_2 11 rfl rfl)
theorem dX0_goes_61 : decode cX0_goes 61 = .ok (.aload_n 0, 1) := dk_42 (dk_at dksX0_goes_2 14 rfl rfl)
theorem dX0_goes_62 : decode cX0_goes 62 = .ok (.aload 4, 2) := dk_25 4 (dk_at dksX0_goes_2 15 rfl rfl)
theorem dX0_goes_64 : decode cX0_goes 64 = .ok (.iconst 1, 1) := dk_4 (dk_at dksX0_goes_2 17 rfl rfl)
theorem dX0_goes_65 : decode cX0_goes 65 = .ok (.invokevirtual 233, 3) := dk_182 0 233 (dk_at dksX0_goes_2 18 rfl rfl)
theorem dX0_goes_68 : decode cX0_goes 68 = .ok (.iload_n 1, 1) := dk_27 (dk_at dksX0_goes_2 21 rfl rfl)
theorem dX0_goes_69 : decode cX0_goes 69 = .ok (.aload 4, 2) := dk_25 4 (dk_at dksX0_goes_2 22 rfl rfl)
theorem dX0_goes_71 : decode cX0_goes 71 = .ok (.getfield 308, 3) := dk_180 1 52 (dk_at dksX0_goes_3 0 rfl rfl)
theorem dX0_goes_74 : decode cX0_goes 74 = .ok (.invokevirtual 431, 3) := dk_182 1 175 (dk_at dksX0_goes_3 3 rfl rfl)
theorem dX0_goes_77 : decode cX0_goes 77 = .ok (.istore 5, 2) := dk_54 5 (dk_at dksX0_goes_3 6 rfl rfl)
theorem dX0_goes_79 : decode cX0_goes 79 = .ok (.aload 4, 2) := dk_25 4 (dk_at dksX0_goes_3 8 rfl rfl)
theorem dX0_goes_81 : decode cX0_goes 81 = .ok (.iconst 2, 1) := dk_5 (dk_at dksX0_goes_3 10 rfl rfl)
theorem dX0_goes_82 : decode cX0_goes 82 = .ok (.invokevirtual 344, 3) := dk_182 1 88 (dk_at dksX0_goes_3 11 rfl rfl)
theorem dX0_goes_85 : decode cX0_goes 85 = .ok (.ifCond .eq 22, 3) := dk_153 0 22 (dk_at dksX0_goes_3 14 rfl rfl)
theorem dX0_goes_88 : decode cX0_goes 88 = .ok (.aload_n 0, 1) := dk_42 (dk_at dksX0_goes_3 17 rfl rfl)
theorem dX0_goes_89 : decode cX0_goes 89 = .ok (.aload 4, 2) := dk_25 4 (dk_at dksX0_goes_3 18 rfl rfl)
theorem dX0_goes_91 : decode cX0_goes 91 = .ok (.iconst 2, 1) := dk_5 (dk_at dksX0_goes_3 20 rfl rfl)
theorem dX0_goes_92 : decode cX0_goes 92 = .ok (.invokevirtual 233, 3) := dk_182 0 233 (dk_at dksX0_goes_3 21 rfl rfl)
theorem dX0_goes_95 : decode cX0_goes 95 = .ok (.iload_n 1, 1) := dk_27 (dk_at dksX0_goes_4 0 rfl rfl)
theorem dX0_goes_96 : decode cX0_goes 96 = .ok (.aload 4, 2) := dk_25 4 (dk_at dksX0_goes_4 1 rfl rfl)
theorem dX0_goes_98 : decode cX0_goes 98 = .ok (.getfield 308, 3) := dk_180 1 52 (dk_at dksX0_goes_4 3 rfl rfl)
theorem dX0_goes_101 : decode cX0_goes 101 = .ok (.invokevirtual 431, 3) := dk_182 1 175 (dk_at dksX0_goes_4 6 rfl rfl)
theorem dX0_goes_104 : decode cX0_goes 104 = .ok (.goto 8, 3) := dk_167 0 8 (dk_at dksX0_goes_4 9 rfl rfl)
theorem dX0_goes_107 : decode cX0_goes 107 = .ok (.aload 4, 2) := dk_25 4 (dk_at dksX0_goes_4 12 rfl rfl)
theorem dX0_goes_109 : decode cX0_goes 109 = .ok (.getfield 308, 3) := dk_180 1 52 (dk_at dksX0_goes_4 14 rfl rfl)
theorem dX0_goes_112 : decode cX0_goes 112 = .ok (.istore 6, 2) := dk_54 6 (dk_at dksX0_goes_4 17 rfl rfl)
theorem dX0_goes_114 : decode cX0_goes 114 = .ok (.iload 5, 2) := dk_21 5 (dk_at dksX0_goes_4 19 rfl rfl)
theorem dX0_goes_116 : decode cX0_goes 116 = .ok (.iload 6, 2) := dk_21 6 (dk_at dksX0_goes_4 21 rfl rfl)
theorem dX0_goes_118 : decode cX0_goes 118 = .ok (.invokestatic 407, 3) := dk_184 1 151 (dk_at dksX0_goes_5 0 rfl rfl)
theorem dX0_goes_121 : decode cX0_goes 121 = .ok (.aload_n 0, 1) := dk_42 (dk_at dksX0_goes_5 3 rfl rfl)
theorem dX0_goes_122 : decode cX0_goes 122 = .ok (.aload 4, 2) := dk_25 4 (dk_at dksX0_goes_5 4 rfl rfl)
theorem dX0_goes_124 : decode cX0_goes 124 = .ok (.iconst 0, 1) := dk_3 (dk_at dksX0_goes_5 6 rfl rfl)
theorem dX0_goes_125 : decode cX0_goes 125 = .ok (.invokevirtual 233, 3) := dk_182 0 233 (dk_at dksX0_goes_5 7 rfl rfl)
theorem dX0_goes_128 : decode cX0_goes 128 = .ok (.iload_n 1, 1) := dk_27 (dk_at dksX0_goes_5 10 rfl rfl)
theorem dX0_goes_129 : decode cX0_goes 129 = .ok (.aload 4, 2) := dk_25 4 (dk_at dksX0_goes_5 11 rfl rfl)
theorem dX0_goes_131 : decode cX0_goes 131 = .ok (.getfield 308, 3) := dk_180 1 52 (dk_at dksX0_goes_5 13 rfl rfl)
theorem dX0_goes_134 : decode cX0_goes 134 = .ok (.invokevirtual 431, 3) := dk_182 1 175 (dk_at dksX0_goes_5 16 rfl rfl)
theorem dX0_goes_137 : decode cX0_goes 137 = .ok (.invokestatic 407, 3) := dk_184 1 151 (dk_at dksX0_goes_5 19 rfl rfl)
theorem dX0_goes_140 : decode cX0_goes 140 = .ok (.istore 7, 2) := dk_54 7 (dk_at dksX0_goes_5 22 rfl rfl)
theorem dX0_goes_142 : decode cX0_goes 142 = .ok (.iload 7, 2) := dk_21 7 (dk_at dksX0_goes_6 0 rfl rfl)
theorem dX0_goes_144 : decode cX0_goes 144 = .ok (.aload 4, 2) := dk_25 4 (dk_at dksX0_goes_6 2 rfl rfl)
theorem dX0_goes_146 : decode cX0_goes 146 = .ok (.getfield 308, 3) := dk_180 1 52 (dk_at dksX0_goes_6 4 rfl rfl)
theorem dX0_goes_149 : decode cX0_goes 149 = .ok (.if_icmp .ge 7, 3) := dk_162 0 7 (dk_at dksX0_goes_6 7 rfl rfl)
theorem dX0_goes_152 : decode cX0_goes 152 = .ok (.iconst 1, 1) := dk_4 (dk_at dksX0_goes_6 10 rfl rfl)
theorem dX0_goes_153 : decode cX0_goes 153 = .ok (.goto 4, 3) := dk_167 0 4 (dk_at dksX0_goes_6 11 rfl rfl)
theorem dX0_goes_156 : decode cX0_goes 156 = .ok (.iconst 0, 1) := dk_3 (dk_at dksX0_goes_6 14 rfl rfl)
theorem dX0_goes_157 : decode cX0_goes 157 = .ok (.istore 8, 2) := dk_54 8 (dk_at dksX0_goes_6 15 rfl rfl)
theorem dX0_goes_159 : decode cX0_goes 159 = .ok (.aload_n 0, 1) := dk_42 (dk_at dksX0_goes_6 17 rfl rfl)
theorem dX0_goes_160 : decode cX0_goes 160 = .ok (.aload 4, 2) := dk_25 4 (dk_at dksX0_goes_6 18 rfl rfl)
theorem dX0_goes_162 : decode cX0_goes 162 = .ok (.iconst 1, 1) := dk_4 (dk_at dksX0_goes_6 20 rfl rfl)
theorem dX0_goes_163 : decode cX0_goes 163 = .ok (.iload_n 1, 1) := dk_27 (dk_at dksX0_goes_6 21 rfl rfl)
theorem dX0_goes_164 : decode cX0_goes 164 = .ok (.iload 5, 2) := dk_21 5 (dk_at dksX0_goes_6 22 rfl rfl)
theorem dX0_goes_166 : decode cX0_goes 166 = .ok (.iload 7, 2) := dk_21 7 (dk_at dksX0_goes_7 0 rfl rfl)
theorem dX0_goes_168 : decode cX0_goes 168 = .ok (.iload 8, 2) := dk_21 8 (dk_at dksX0_goes_7 2 rfl rfl)
theorem dX0_goes_170 : decode cX0_goes 170 = .ok (.iadd, 1) := dk_96 (dk_at dksX0_goes_7 4 rfl rfl)
theorem dX0_goes_171 : decode cX0_goes 171 = .ok (.invokestatic 407, 3) := dk_184 1 151 (dk_at dksX0_goes_7 5 rfl rfl)
theorem dX0_goes_174 : decode cX0_goes 174 = .ok (.invokevirtual 435, 3) := dk_182 1 179 (dk_at dksX0_goes_7 8 rfl rfl)
theorem dX0_goes_177 : decode cX0_goes 177 = .ok (.aload 4, 2) := dk_25 4 (dk_at dksX0_goes_7 11 rfl rfl)
theorem dX0_goes_179 : decode cX0_goes 179 = .ok (.iconst 2, 1) := dk_5 (dk_at dksX0_goes_7 13 rfl rfl)
theorem dX0_goes_180 : decode cX0_goes 180 = .ok (.invokevirtual 344, 3) := dk_182 1 88 (dk_at dksX0_goes_7 14 rfl rfl)
theorem dX0_goes_183 : decode cX0_goes 183 = .ok (.ifCond .eq 33, 3) := dk_153 0 33 (dk_at dksX0_goes_7 17 rfl rfl)
theorem dX0_goes_186 : decode cX0_goes 186 = .ok (.aload_n 0, 1) := dk_42 (dk_at dksX0_goes_7 20 rfl rfl)
theorem dX0_goes_187 : decode cX0_goes 187 = .ok (.aload 4, 2) := dk_25 4 (dk_at dksX0_goes_7 21 rfl rfl)
theorem dX0_goes_189 : decode cX0_goes 189 = .ok (.iconst 2, 1) := dk_5 (dk_at dksX0_goes_7 23 rfl rfl)
theorem dX0_goes_190 : decode cX0_goes 190 = .ok (.iload_n 1, 1) := dk_27 (dk_at dksX0_goes_8 0 rfl rfl)
theorem dX0_goes_191 : decode cX0_goes 191 = .ok (.iload 6, 2) := dk_21 6 (dk_at dksX0_goes_8 1 rfl rfl)
theorem dX0_goes_193 : decode cX0_goes 193 = .ok (.iload 5, 2) := dk_21 5 (dk_at dksX0_goes_8 3 rfl rfl)
theorem dX0_goes_195 : decode cX0_goes 195 = .ok (.iload 7, 2) := dk_21 7 (dk_at dksX0_goes_8 5 rfl rfl)
theorem dX0_goes_197 : decode cX0_goes 197 = .ok (.if_icmp .le 11, 3) := dk_164 0 11 (dk_at dksX0_goes_8 7 rfl rfl)
theorem dX0_goes_200 : decode cX0_goes 200 = .ok (.iload 7, 2) := dk_21 7 (dk_at dksX0_goes_8 10 rfl rfl)
theorem dX0_goes_202 : decode cX0_goes 202 = .ok (.iload 8, 2) := dk_21 8 (dk_at dksX0_goes_8 12 rfl rfl)
theorem dX0_goes_204 : decode cX0_goes 204 = .ok (.iadd, 1) := dk_96 (dk_at dksX0_goes_8 14 rfl rfl)
theorem dX0_goes_205 : decode cX0_goes 205 = .ok (.goto 5, 3) := dk_167 0 5 (dk_at dksX0_goes_8 15 rfl rfl)
theorem dX0_goes_208 : decode cX0_goes 208 = .ok (.iload 7, 2) := dk_21 7 (dk_at dksX0_goes_8 18 rfl rfl)
theorem dX0_goes_210 : decode cX0_goes 210 = .ok (.invokestatic 407, 3) := dk_184 1 151 (dk_at dksX0_goes_8 20 rfl rfl)
theorem dX0_goes_213 : decode cX0_goes 213 = .ok (.invokevirtual 435, 3) := dk_182 1 179 (dk_at dksX0_goes_9 0 rfl rfl)
theorem dX0_goes_216 : decode cX0_goes 216 = .ok (.iload 7, 2) := dk_21 7 (dk_at dksX0_goes_9 3 rfl rfl)
theorem dX0_goes_218 : decode cX0_goes 218 = .ok (.ifCond .le 128, 3) := dk_158 0 128 (dk_at dksX0_goes_9 5 rfl rfl)
theorem dX0_goes_221 : decode cX0_goes 221 = .ok (.aload 4, 2) := dk_25 4 (dk_at dksX0_goes_9 8 rfl rfl)
theorem dX0_goes_223 : decode cX0_goes 223 = .ok (.iconst 0, 1) := dk_3 (dk_at dksX0_goes_9 10 rfl rfl)
theorem dX0_goes_224 : decode cX0_goes 224 = .ok (.invokevirtual 233, 3) := dk_182 0 233 (dk_at dksX0_goes_9 11 rfl rfl)
theorem dX0_goes_227 : decode cX0_goes 227 = .ok (.getfield 237, 3) := dk_180 0 237 (dk_at dksX0_goes_9 14 rfl rfl)
theorem dX0_goes_230 : decode cX0_goes 230 = .ok (.istore 9, 2) := dk_54 9 (dk_at dksX0_goes_9 17 rfl rfl)
theorem dX0_goes_232 : decode cX0_goes 232 = .ok (.aload_n 0, 1) := dk_42 (dk_at dksX0_goes_9 19 rfl rfl)
theorem dX0_goes_233 : decode cX0_goes 233 = .ok (.aload 4, 2) := dk_25 4 (dk_at dksX0_goes_9 20 rfl rfl)
theorem dX0_goes_235 : decode cX0_goes 235 = .ok (.iconst 0, 1) := dk_3 (dk_at dksX0_goes_9 22 rfl rfl)
theorem dX0_goes_236 : decode cX0_goes 236 = .ok (.invokevirtual 233, 3) := dk_182 0 233 (dk_at dksX0_goes_10 0 rfl rfl)
theorem dX0_goes_239 : decode cX0_goes 239 = .ok (.iload_n 1, 1) := dk_27 (dk_at dksX0_goes_10 3 rfl rfl)
theorem dX0_goes_240 : decode cX0_goes 240 = .ok (.iload 7, 2) := dk_21 7 (dk_at dksX0_goes_10 4 rfl rfl)
theorem dX0_goes_242 : decode cX0_goes 242 = .ok (.invokevirtual 416, 3) := dk_182 1 160 (dk_at dksX0_goes_10 6 rfl rfl)
theorem dX0_goes_245 : decode cX0_goes 245 = .ok (.lstore 10, 2) := dk_55 10 (dk_at dksX0_goes_10 9 rfl rfl)
theorem dX0_goes_247 : decode cX0_goes 247 = .ok (.iload_n 2, 1) := dk_28 (dk_at dksX0_goes_10 11 rfl rfl)
theorem dX0_goes_248 : decode cX0_goes 248 = .ok (.aload 4, 2) := dk_25 4 (dk_at dksX0_goes_10 12 rfl rfl)
theorem dX0_goes_250 : decode cX0_goes 250 = .ok (.getfield 420, 3) := dk_180 1 164 (dk_at dksX0_goes_10 14 rfl rfl)
theorem dX0_goes_253 : decode cX0_goes 253 = .ok (.invokevirtual 439, 3) := dk_182 1 183 (dk_at dksX0_goes_10 17 rfl rfl)
theorem dX0_goes_256 : decode cX0_goes 256 = .ok (.ifCond .ne 7, 3) := dk_154 0 7 (dk_at dksX0_goes_10 20 rfl rfl)
theorem dX0_goes_259 : decode cX0_goes 259 = .ok (.iconst 1, 1) := dk_4 (dk_at dksX0_goes_10 23 rfl rfl)
theorem dX0_goes_260 : decode cX0_goes 260 = .ok (.goto 4, 3) := dk_167 0 4 (dk_at dksX0_goes_11 0 rfl rfl)
theorem dX0_goes_263 : decode cX0_goes 263 = .ok (.iconst 0, 1) := dk_3 (dk_at dksX0_goes_11 3 rfl rfl)
theorem dX0_goes_264 : decode cX0_goes 264 = .ok (.iand, 1) := dk_126 (dk_at dksX0_goes_11 4 rfl rfl)
theorem dX0_goes_265 : decode cX0_goes 265 = .ok (.istore_n 2, 1) := dk_61 (dk_at dksX0_goes_11 5 rfl rfl)
theorem dX0_goes_266 : decode cX0_goes 266 = .ok (.aload_n 0, 1) := dk_42 (dk_at dksX0_goes_11 6 rfl rfl)
theorem dX0_goes_267 : decode cX0_goes 267 = .ok (.getfield 49, 3) := dk_180 0 49 (dk_at dksX0_goes_11 7 rfl rfl)
theorem dX0_goes_270 : decode cX0_goes 270 = .ok (.iconst 1, 1) := dk_4 (dk_at dksX0_goes_11 10 rfl rfl)
theorem dX0_goes_271 : decode cX0_goes 271 = .ok (.iload 9, 2) := dk_21 9 (dk_at dksX0_goes_11 11 rfl rfl)
theorem dX0_goes_273 : decode cX0_goes 273 = .ok (.iload_n 1, 1) := dk_27 (dk_at dksX0_goes_11 13 rfl rfl)
theorem dX0_goes_274 : decode cX0_goes 274 = .ok (.invokestatic 412, 3) := dk_184 1 156 (dk_at dksX0_goes_11 14 rfl rfl)
theorem dX0_goes_277 : decode cX0_goes 277 = .ok (.dup2, 1) := dk_92 (dk_at dksX0_goes_11 17 rfl rfl)
theorem dX0_goes_278 : decode cX0_goes 278 = .ok (.laload, 1) := dk_47 (dk_at dksX0_goes_11 18 rfl rfl)
theorem dX0_goes_279 : decode cX0_goes 279 = .ok (.lload 10, 2) := dk_22 10 (dk_at dksX0_goes_11 19 rfl rfl)
theorem dX0_goes_281 : decode cX0_goes 281 = .ok (.lor, 1) := dk_129 (dk_at dksX0_goes_11 21 rfl rfl)
theorem dX0_goes_282 : decode cX0_goes 282 = .ok (.lastore, 1) := dk_80 (dk_at dksX0_goes_11 22 rfl rfl)
theorem dX0_goes_283 : decode cX0_goes 283 = .ok (.aload_n 0, 1) := dk_42 (dk_at dksX0_goes_11 23 rfl rfl)
theorem dX0_goes_284 : decode cX0_goes 284 = .ok (.getfield 53, 3) := dk_180 0 53 (dk_at dksX0_goes_12 0 rfl rfl)
theorem dX0_goes_287 : decode cX0_goes 287 = .ok (.iload 9, 2) := dk_21 9 (dk_at dksX0_goes_12 3 rfl rfl)
theorem dX0_goes_289 : decode cX0_goes 289 = .ok (.dup2, 1) := dk_92 (dk_at dksX0_goes_12 5 rfl rfl)
theorem dX0_goes_290 : decode cX0_goes 290 = .ok (.laload, 1) := dk_47 (dk_at dksX0_goes_12 6 rfl rfl)
theorem dX0_goes_291 : decode cX0_goes 291 = .ok (.aload 4, 2) := dk_25 4 (dk_at dksX0_goes_12 7 rfl rfl)
theorem dX0_goes_293 : decode cX0_goes 293 = .ok (.getfield 420, 3) := dk_180 1 164 (dk_at dksX0_goes_12 9 rfl rfl)
theorem dX0_goes_296 : decode cX0_goes 296 = .ok (.invokevirtual 424, 3) := dk_182 1 168 (dk_at dksX0_goes_12 12 rfl rfl)
theorem dX0_goes_299 : decode cX0_goes 299 = .ok (.ifCond .eq 8, 3) := dk_153 0 8 (dk_at dksX0_goes_12 15 rfl rfl)
theorem dX0_goes_302 : decode cX0_goes 302 = .ok (.lload 10, 2) := dk_22 10 (dk_at dksX0_goes_12 18 rfl rfl)
theorem dX0_goes_304 : decode cX0_goes 304 = .ok (.goto 4, 3) := dk_167 0 4 (dk_at dksX0_goes_12 20 rfl rfl)
theorem dX0_goes_307 : decode cX0_goes 307 = .ok (.lconst 0, 1) := dk_9 (dk_at dksX0_goes_12 23 rfl rfl)
theorem dX0_goes_308 : decode cX0_goes 308 = .ok (.lor, 1) := dk_129 (dk_at dksX0_goes_13 0 rfl rfl)
theorem dX0_goes_309 : decode cX0_goes 309 = .ok (.lastore, 1) := dk_80 (dk_at dksX0_goes_13 1 rfl rfl)
theorem dX0_goes_310 : decode cX0_goes 310 = .ok (.aload_n 0, 1) := dk_42 (dk_at dksX0_goes_13 2 rfl rfl)
theorem dX0_goes_311 : decode cX0_goes 311 = .ok (.getfield 49, 3) := dk_180 0 49 (dk_at dksX0_goes_13 3 rfl rfl)
theorem dX0_goes_314 : decode cX0_goes 314 = .ok (.iconst 2, 1) := dk_5 (dk_at dksX0_goes_13 6 rfl rfl)
theorem dX0_goes_315 : decode cX0_goes 315 = .ok (.iload 9, 2) := dk_21 9 (dk_at dksX0_goes_13 7 rfl rfl)
theorem dX0_goes_317 : decode cX0_goes 317 = .ok (.iload_n 1, 1) := dk_27 (dk_at dksX0_goes_13 9 rfl rfl)
theorem dX0_goes_318 : decode cX0_goes 318 = .ok (.invokestatic 412, 3) := dk_184 1 156 (dk_at dksX0_goes_13 10 rfl rfl)
theorem dX0_goes_321 : decode cX0_goes 321 = .ok (.dup2, 1) := dk_92 (dk_at dksX0_goes_13 13 rfl rfl)
theorem dX0_goes_322 : decode cX0_goes 322 = .ok (.laload, 1) := dk_47 (dk_at dksX0_goes_13 14 rfl rfl)
theorem dX0_goes_323 : decode cX0_goes 323 = .ok (.iload_n 2, 1) := dk_28 (dk_at dksX0_goes_13 15 rfl rfl)
theorem dX0_goes_324 : decode cX0_goes 324 = .ok (.ifCond .eq 19, 3) := dk_153 0 19 (dk_at dksX0_goes_13 16 rfl rfl)
theorem dX0_goes_327 : decode cX0_goes 327 = .ok (.aload 4, 2) := dk_25 4 (dk_at dksX0_goes_13 19 rfl rfl)
theorem dX0_goes_329 : decode cX0_goes 329 = .ok (.getfield 420, 3) := dk_180 1 164 (dk_at dksX0_goes_13 21 rfl rfl)
theorem dX0_goes_332 : decode cX0_goes 332 = .ok (.invokevirtual 424, 3) := dk_182 1 168 (dk_at dksX0_goes_14 0 rfl rfl)
theorem dX0_goes_335 : decode cX0_goes 335 = .ok (.ifCond .eq 8, 3) := dk_153 0 8 (dk_at dksX0_goes_14 3 rfl rfl)
theorem dX0_goes_338 : decode cX0_goes 338 = .ok (.lload 10, 2) := dk_22 10 (dk_at dksX0_goes_14 6 rfl rfl)
theorem dX0_goes_340 : decode cX0_goes 340 = .ok (.goto 4, 3) := dk_167 0 4 (dk_at dksX0_goes_14 8 rfl rfl)
theorem dX0_goes_343 : decode cX0_goes 343 = .ok (.lconst 0, 1) := dk_9 (dk_at dksX0_goes_14 11 rfl rfl)
theorem dX0_goes_344 : decode cX0_goes 344 = .ok (.lor, 1) := dk_129 (dk_at dksX0_goes_14 12 rfl rfl)
theorem dX0_goes_345 : decode cX0_goes 345 = .ok (.lastore, 1) := dk_80 (dk_at dksX0_goes_14 13 rfl rfl)
theorem dX0_goes_346 : decode cX0_goes 346 = .ok (.iload 8, 2) := dk_21 8 (dk_at dksX0_goes_14 14 rfl rfl)
theorem dX0_goes_348 : decode cX0_goes 348 = .ok (.ifCond .le 4, 3) := dk_158 0 4 (dk_at dksX0_goes_14 16 rfl rfl)
theorem dX0_goes_351 : decode cX0_goes 351 = .ok (.return_, 1) := dk_177 (dk_at dksX0_goes_14 19 rfl rfl)
theorem dX0_goes_352 : decode cX0_goes 352 = .ok (.iinc 3 1, 3) := dk_132 3 1 (dk_at dksX0_goes_14 20 rfl rfl)
theorem dX0_goes_355 : decode cX0_goes 355 = .ok (.goto (-330), 3) := dk_167 254 182 (dk_at dksX0_goes_15 0 rfl rfl)
theorem dX0_goes_358 : decode cX0_goes 358 = .ok (.return_, 1) := dk_177 (dk_at dksX0_goes_15 3 rfl rfl)
abbrev cX0_fits : ByteArray := prog_1_method_40_code
def yX0_fits : MethodName := ⟨RX0, "fits", "(LStrideTurns$Reference;II)I"⟩
def dkwX0_fits_4 : List UInt8 := [116, 108, 4, 96, 54, 6, 21, 6, 29, 184, 1, 151, 172]
abbrev dktX0_fits_4 : List UInt8 := dkwX0_fits_4 ++ []
def dkwX0_fits_3 : List UInt8 := [180, 0, 121, 4, 100, 21, 5, 100, 43, 180, 1, 3, 108, 4, 96, 167, 0, 13, 21, 5, 43, 180, 1, 3]
abbrev dktX0_fits_3 : List UInt8 := dkwX0_fits_3 ++ dktX0_fits_4
def dkwX0_fits_2 : List UInt8 := [3, 172, 43, 180, 1, 3, 154, 0, 7, 29, 167, 0, 40, 43, 180, 1, 3, 158, 0, 23, 25, 4]
abbrev dktX0_fits_2 : List UInt8 := dkwX0_fits_2 ++ dktX0_fits_3
def dkwX0_fits_1 : List UInt8 := [28, 3, 185, 1, 143, 3, 0, 54, 5, 25, 4, 198, 0, 13, 25, 4, 21, 5, 182, 1, 148, 154, 0, 5]
abbrev dktX0_fits_1 : List UInt8 := dkwX0_fits_1 ++ dktX0_fits_2
def dkwX0_fits_0 : List UInt8 := [43, 180, 0, 237, 2, 160, 0, 5, 29, 172, 42, 43, 180, 0, 237, 182, 1, 135, 58, 4, 43, 180, 1, 139]
abbrev dktX0_fits_0 : List UInt8 := dkwX0_fits_0 ++ dktX0_fits_1
theorem dksX0_fits_0 : cX0_fits.data.toList.drop 0 = dktX0_fits_0 := by decide +kernel
theorem dksX0_fits_1 : cX0_fits.data.toList.drop 24 = dktX0_fits_1 := dk_seg dksX0_fits_0 24 rfl rfl
theorem dksX0_fits_2 : cX0_fits.data.toList.drop 48 = dktX0_fits_2 := dk_seg dksX0_fits_1 24 rfl rfl
theorem dksX0_fits_3 : cX0_fits.data.toList.drop 70 = dktX0_fits_3 := dk_seg dksX0_fits_2 22 rfl rfl
theorem dksX0_fits_4 : cX0_fits.data.toList.drop 94 = dktX0_fits_4 := dk_seg dksX0_fits_3 24 rfl rfl
theorem dX0_fits_0 : decode cX0_fits 0 = .ok (.aload_n 1, 1) := dk_43 (dk_at dksX0_fits_0 0 rfl rfl)
theorem dX0_fits_1 : decode cX0_fits 1 = .ok (.getfield 237, 3) := dk_180 0 237 (dk_at dksX0_fits_0 1 rfl rfl)
theorem dX0_fits_4 : decode cX0_fits 4 = .ok (.iconst (-1), 1) := dk_2 (dk_at dksX0_fits_0 4 rfl rfl)
theorem dX0_fits_5 : decode cX0_fits 5 = .ok (.if_icmp .ne 5, 3) := dk_160 0 5 (dk_at dksX0_fits_0 5 rfl rfl)
theorem dX0_fits_8 : decode cX0_fits 8 = .ok (.iload_n 3, 1) := dk_29 (dk_at dksX0_fits_0 8 rfl rfl)
theorem dX0_fits_9 : decode cX0_fits 9 = .ok (.ireturn, 1) := dk_172 (dk_at dksX0_fits_0 9 rfl rfl)
theorem dX0_fits_10 : decode cX0_fits 10 = .ok (.aload_n 0, 1) := dk_42 (dk_at dksX0_fits_0 10 rfl rfl)
theorem dX0_fits_11 : decode cX0_fits 11 = .ok (.aload_n 1, 1) := dk_43 (dk_at dksX0_fits_0 11 rfl rfl)
theorem dX0_fits_12 : decode cX0_fits 12 = .ok (.getfield 237, 3) := dk_180 0 237 (dk_at dksX0_fits_0 12 rfl rfl)
theorem dX0_fits_15 : decode cX0_fits 15 = .ok (.invokevirtual 391, 3) := dk_182 1 135 (dk_at dksX0_fits_0 15 rfl rfl)
theorem dX0_fits_18 : decode cX0_fits 18 = .ok (.astore 4, 2) := dk_58 4 (dk_at dksX0_fits_0 18 rfl rfl)
theorem dX0_fits_20 : decode cX0_fits 20 = .ok (.aload_n 1, 1) := dk_43 (dk_at dksX0_fits_0 20 rfl rfl)
theorem dX0_fits_21 : decode cX0_fits 21 = .ok (.getfield 395, 3) := dk_180 1 139 (dk_at dksX0_fits_0 21 rfl rfl)
theorem dX0_fits_24 : decode cX0_fits 24 = .ok (.iload_n 2, 1) := dk_28 (dk_at dksX0_fits_1 0 rfl rfl)
theorem dX0_fits_25 : decode cX0_fits 25 = .ok (.iconst 0, 1) := dk_3 (dk_at dksX0_fits_1 1 rfl rfl)
theorem dX0_fits_26 : decode cX0_fits 26 = .ok (.invokeinterface 399 3, 5) := by decide +kernel
theorem dX0_fits_31 : decode cX0_fits 31 = .ok (.istore 5, 2) := dk_54 5 (dk_at dksX0_fits_1 7 rfl rfl)
theorem dX0_fits_33 : decode cX0_fits 33 = .ok (.aload 4, 2) := dk_25 4 (dk_at dksX0_fits_1 9 rfl rfl)
theorem dX0_fits_35 : decode cX0_fits 35 = .ok (.ifnull 13, 3) := dk_198 0 13 (dk_at dksX0_fits_1 11 rfl rfl)
theorem dX0_fits_38 : decode cX0_fits 38 = .ok (.aload 4, 2) := dk_25 4 (dk_at dksX0_fits_1 14 rfl rfl)
theorem dX0_fits_40 : decode cX0_fits 40 = .ok (.iload 5, 2) := dk_21 5 (dk_at dksX0_fits_1 16 rfl rfl)
theorem dX0_fits_42 : decode cX0_fits 42 = .ok (.invokevirtual 404, 3) := dk_182 1 148 (dk_at dksX0_fits_1 18 rfl rfl)
theorem dX0_fits_45 : decode cX0_fits 45 = .ok (.ifCond .ne 5, 3) := dk_154 0 5 (dk_at dksX0_fits_1 21 rfl rfl)
theorem dX0_fits_48 : decode cX0_fits 48 = .ok (.iconst 0, 1) := dk_3 (dk_at dksX0_fits_2 0 rfl rfl)
theorem dX0_fits_49 : decode cX0_fits 49 = .ok (.ireturn, 1) := dk_172 (dk_at dksX0_fits_2 1 rfl rfl)
theorem dX0_fits_50 : decode cX0_fits 50 = .ok (.aload_n 1, 1) := dk_43 (dk_at dksX0_fits_2 2 rfl rfl)
theorem dX0_fits_51 : decode cX0_fits 51 = .ok (.getfield 259, 3) := dk_180 1 3 (dk_at dksX0_fits_2 3 rfl rfl)
theorem dX0_fits_54 : decode cX0_fits 54 = .ok (.ifCond .ne 7, 3) := dk_154 0 7 (dk_at dksX0_fits_2 6 rfl rfl)
theorem dX0_fits_57 : decode cX0_fits 57 = .ok (.iload_n 3, 1) := dk_29 (dk_at dksX0_fits_2 9 rfl rfl)
theorem dX0_fits_58 : decode cX0_fits 58 = .ok (.goto 40, 3) := dk_167 0 40 (dk_at dksX0_fits_2 10 rfl rfl)
theorem dX0_fits_61 : decode cX0_fits 61 = .ok (.aload_n 1, 1) := dk_43 (dk_at dksX0_fits_2 13 rfl rfl)
theorem dX0_fits_62 : decode cX0_fits 62 = .ok (.getfield 259, 3) := dk_180 1 3 (dk_at dksX0_fits_2 14 rfl rfl)
theorem dX0_fits_65 : decode cX0_fits 65 = .ok (.ifCond .le 23, 3) := dk_158 0 23 (dk_at dksX0_fits_2 17 rfl rfl)
theorem dX0_fits_68 : decode cX0_fits 68 = .ok (.aload 4, 2) := dk_25 4 (dk_at dksX0_fits_2 20 rfl rfl)
theorem dX0_fits_70 : decode cX0_fits 70 = .ok (.getfield 121, 3) := dk_180 0 121 (dk_at dksX0_fits_3 0 rfl rfl)
theorem dX0_fits_73 : decode cX0_fits 73 = .ok (.iconst 1, 1) := dk_4 (dk_at dksX0_fits_3 3 rfl rfl)
theorem dX0_fits_74 : decode cX0_fits 74 = .ok (.isub, 1) := dk_100 (dk_at dksX0_fits_3 4 rfl rfl)
theorem dX0_fits_75 : decode cX0_fits 75 = .ok (.iload 5, 2) := dk_21 5 (dk_at dksX0_fits_3 5 rfl rfl)
theorem dX0_fits_77 : decode cX0_fits 77 = .ok (.isub, 1) := dk_100 (dk_at dksX0_fits_3 7 rfl rfl)
theorem dX0_fits_78 : decode cX0_fits 78 = .ok (.aload_n 1, 1) := dk_43 (dk_at dksX0_fits_3 8 rfl rfl)
theorem dX0_fits_79 : decode cX0_fits 79 = .ok (.getfield 259, 3) := dk_180 1 3 (dk_at dksX0_fits_3 9 rfl rfl)
theorem dX0_fits_82 : decode cX0_fits 82 = .ok (.idiv, 1) := dk_108 (dk_at dksX0_fits_3 12 rfl rfl)
theorem dX0_fits_83 : decode cX0_fits 83 = .ok (.iconst 1, 1) := dk_4 (dk_at dksX0_fits_3 13 rfl rfl)
theorem dX0_fits_84 : decode cX0_fits 84 = .ok (.iadd, 1) := dk_96 (dk_at dksX0_fits_3 14 rfl rfl)
theorem dX0_fits_85 : decode cX0_fits 85 = .ok (.goto 13, 3) := dk_167 0 13 (dk_at dksX0_fits_3 15 rfl rfl)
theorem dX0_fits_88 : decode cX0_fits 88 = .ok (.iload 5, 2) := dk_21 5 (dk_at dksX0_fits_3 18 rfl rfl)
theorem dX0_fits_90 : decode cX0_fits 90 = .ok (.aload_n 1, 1) := dk_43 (dk_at dksX0_fits_3 20 rfl rfl)
theorem dX0_fits_91 : decode cX0_fits 91 = .ok (.getfield 259, 3) := dk_180 1 3 (dk_at dksX0_fits_3 21 rfl rfl)
theorem dX0_fits_94 : decode cX0_fits 94 = .ok (.ineg, 1) := dk_116 (dk_at dksX0_fits_4 0 rfl rfl)
theorem dX0_fits_95 : decode cX0_fits 95 = .ok (.idiv, 1) := dk_108 (dk_at dksX0_fits_4 1 rfl rfl)
theorem dX0_fits_96 : decode cX0_fits 96 = .ok (.iconst 1, 1) := dk_4 (dk_at dksX0_fits_4 2 rfl rfl)
theorem dX0_fits_97 : decode cX0_fits 97 = .ok (.iadd, 1) := dk_96 (dk_at dksX0_fits_4 3 rfl rfl)
theorem dX0_fits_98 : decode cX0_fits 98 = .ok (.istore 6, 2) := dk_54 6 (dk_at dksX0_fits_4 4 rfl rfl)
theorem dX0_fits_100 : decode cX0_fits 100 = .ok (.iload 6, 2) := dk_21 6 (dk_at dksX0_fits_4 6 rfl rfl)
theorem dX0_fits_102 : decode cX0_fits 102 = .ok (.iload_n 3, 1) := dk_29 (dk_at dksX0_fits_4 8 rfl rfl)
theorem dX0_fits_103 : decode cX0_fits 103 = .ok (.invokestatic 407, 3) := dk_184 1 151 (dk_at dksX0_fits_4 9 rfl rfl)
theorem dX0_fits_106 : decode cX0_fits 106 = .ok (.ireturn, 1) := dk_172 (dk_at dksX0_fits_4 12 rfl rfl)
abbrev cX0_reads : ByteArray := prog_1_method_43_code
def yX0_reads : MethodName := ⟨RX0, "reads", "(LStrideTurns$Statement;III)V"⟩
def dkwX0_reads_7 : List UInt8 := [25, 5, 180, 0, 237, 29, 184, 1, 156, 92, 47, 10, 21, 8, 121, 129, 80, 132, 7, 1, 167, 255, 160, 177]
abbrev dktX0_reads_7 : List UInt8 := dkwX0_reads_7 ++ []
def dkwX0_reads_6 : List UInt8 := [184, 1, 171, 153, 0, 7, 4, 167, 0, 4, 3, 54, 9, 21, 9, 154, 0, 25, 42, 180, 0, 49, 6]
abbrev dktX0_reads_6 : List UInt8 := dkwX0_reads_6 ++ dktX0_reads_7
def dkwX0_reads_5 : List UInt8 := [47, 21, 8, 123, 10, 127, 10, 148, 153, 0, 20, 21, 6, 153, 0, 19, 43, 29, 21, 8, 21, 7]
abbrev dktX0_reads_5 : List UInt8 := dkwX0_reads_5 ++ dktX0_reads_6
def dkwX0_reads_4 : List UInt8 := [25, 5, 180, 1, 139, 29, 21, 7, 185, 1, 143, 3, 0, 54, 8, 42, 180, 0, 53, 25, 5, 180, 0, 237]
abbrev dktX0_reads_4 : List UInt8 := dkwX0_reads_4 ++ dktX0_reads_5
def dkwX0_reads_3 : List UInt8 := [180, 0, 237, 160, 0, 7, 4, 167, 0, 4, 3, 54, 6, 3, 54, 7, 21, 7, 21, 4, 162, 0, 95]
abbrev dktX0_reads_3 : List UInt8 := dkwX0_reads_3 ++ dktX0_reads_4
def dkwX0_reads_2 : List UInt8 := [129, 80, 43, 180, 1, 164, 182, 1, 168, 153, 0, 23, 43, 3, 182, 0, 233, 180, 0, 237, 25, 5]
abbrev dktX0_reads_2 : List UInt8 := dkwX0_reads_2 ++ dktX0_reads_3
def dkwX0_reads_1 : List UInt8 := [180, 0, 49, 3, 25, 5, 180, 0, 237, 29, 184, 1, 156, 92, 47, 42, 25, 5, 29, 21, 4, 182, 1, 160]
abbrev dktX0_reads_1 : List UInt8 := dkwX0_reads_1 ++ dktX0_reads_2
def dkwX0_reads_0 : List UInt8 := [43, 28, 182, 0, 233, 58, 5, 25, 5, 180, 0, 237, 2, 159, 0, 8, 21, 4, 154, 0, 4, 177, 42]
abbrev dktX0_reads_0 : List UInt8 := dkwX0_reads_0 ++ dktX0_reads_1
theorem dksX0_reads_0 : cX0_reads.data.toList.drop 0 = dktX0_reads_0 := by decide +kernel
theorem dksX0_reads_1 : cX0_reads.data.toList.drop 23 = dktX0_reads_1 := dk_seg dksX0_reads_0 23 rfl rfl
theorem dksX0_reads_2 : cX0_reads.data.toList.drop 47 = dktX0_reads_2 := dk_seg dksX0_reads_1 24 rfl rfl
theorem dksX0_reads_3 : cX0_reads.data.toList.drop 69 = dktX0_reads_3 := dk_seg dksX0_reads_2 22 rfl rfl
theorem dksX0_reads_4 : cX0_reads.data.toList.drop 92 = dktX0_reads_4 := dk_seg dksX0_reads_3 23 rfl rfl
theorem dksX0_reads_5 : cX0_reads.data.toList.drop 116 = dktX0_reads_5 := dk_seg dksX0_reads_4 24 rfl rfl
theorem dksX0_reads_6 : cX0_reads.data.toList.drop 138 = dktX0_reads_6 := dk_seg dksX0_reads_5 22 rfl rfl
theorem dksX0_reads_7 : cX0_reads.data.toList.drop 161 = dktX0_reads_7 := dk_seg dksX0_reads_6 23 rfl rfl
theorem dX0_reads_0 : decode cX0_reads 0 = .ok (.aload_n 1, 1) := dk_43 (dk_at dksX0_reads_0 0 rfl rfl)
theorem dX0_reads_1 : decode cX0_reads 1 = .ok (.iload_n 2, 1) := dk_28 (dk_at dksX0_reads_0 1 rfl rfl)
theorem dX0_reads_2 : decode cX0_reads 2 = .ok (.invokevirtual 233, 3) := dk_182 0 233 (dk_at dksX0_reads_0 2 rfl rfl)
theorem dX0_reads_5 : decode cX0_reads 5 = .ok (.astore 5, 2) := dk_58 5 (dk_at dksX0_reads_0 5 rfl rfl)
theorem dX0_reads_7 : decode cX0_reads 7 = .ok (.aload 5, 2) := dk_25 5 (dk_at dksX0_reads_0 7 rfl rfl)
theorem dX0_reads_9 : decode cX0_reads 9 = .ok (.getfield 237, 3) := dk_180 0 237 (dk_at dksX0_reads_0 9 rfl rfl)
theorem dX0_reads_12 : decode cX0_reads 12 = .ok (.iconst (-1), 1) := dk_2 (dk_at dksX0_reads_0 12 rfl rfl)
theorem dX0_reads_13 : decode cX0_reads 13 = .ok (.if_icmp .eq 8, 3) := dk_159 0 8 (dk_at dksX0_reads_0 13 rfl rfl)
theorem dX0_reads_16 : decode cX0_reads 16 = .ok (.iload 4, 2) := dk_21 4 (dk_at dksX0_reads_0 16 rfl rfl)
theorem dX0_reads_18 : decode cX0_reads 18 = .ok (.ifCond .ne 4, 3) := dk_154 0 4 (dk_at dksX0_reads_0 18 rfl rfl)
theorem dX0_reads_21 : decode cX0_reads 21 = .ok (.return_, 1) := dk_177 (dk_at dksX0_reads_0 21 rfl rfl)
theorem dX0_reads_22 : decode cX0_reads 22 = .ok (.aload_n 0, 1) := dk_42 (dk_at dksX0_reads_0 22 rfl rfl)
theorem dX0_reads_23 : decode cX0_reads 23 = .ok (.getfield 49, 3) := dk_180 0 49 (dk_at dksX0_reads_1 0 rfl rfl)
theorem dX0_reads_26 : decode cX0_reads 26 = .ok (.iconst 0, 1) := dk_3 (dk_at dksX0_reads_1 3 rfl rfl)
theorem dX0_reads_27 : decode cX0_reads 27 = .ok (.aload 5, 2) := dk_25 5 (dk_at dksX0_reads_1 4 rfl rfl)
theorem dX0_reads_29 : decode cX0_reads 29 = .ok (.getfield 237, 3) := dk_180 0 237 (dk_at dksX0_reads_1 6 rfl rfl)
theorem dX0_reads_32 : decode cX0_reads 32 = .ok (.iload_n 3, 1) := dk_29 (dk_at dksX0_reads_1 9 rfl rfl)
theorem dX0_reads_33 : decode cX0_reads 33 = .ok (.invokestatic 412, 3) := dk_184 1 156 (dk_at dksX0_reads_1 10 rfl rfl)
theorem dX0_reads_36 : decode cX0_reads 36 = .ok (.dup2, 1) := dk_92 (dk_at dksX0_reads_1 13 rfl rfl)
theorem dX0_reads_37 : decode cX0_reads 37 = .ok (.laload, 1) := dk_47 (dk_at dksX0_reads_1 14 rfl rfl)
theorem dX0_reads_38 : decode cX0_reads 38 = .ok (.aload_n 0, 1) := dk_42 (dk_at dksX0_reads_1 15 rfl rfl)
theorem dX0_reads_39 : decode cX0_reads 39 = .ok (.aload 5, 2) := dk_25 5 (dk_at dksX0_reads_1 16 rfl rfl)
theorem dX0_reads_41 : decode cX0_reads 41 = .ok (.iload_n 3, 1) := dk_29 (dk_at dksX0_reads_1 18 rfl rfl)
theorem dX0_reads_42 : decode cX0_reads 42 = .ok (.iload 4, 2) := dk_21 4 (dk_at dksX0_reads_1 19 rfl rfl)
theorem dX0_reads_44 : decode cX0_reads 44 = .ok (.invokevirtual 416, 3) := dk_182 1 160 (dk_at dksX0_reads_1 21 rfl rfl)
theorem dX0_reads_47 : decode cX0_reads 47 = .ok (.lor, 1) := dk_129 (dk_at dksX0_reads_2 0 rfl rfl)
theorem dX0_reads_48 : decode cX0_reads 48 = .ok (.lastore, 1) := dk_80 (dk_at dksX0_reads_2 1 rfl rfl)
theorem dX0_reads_49 : decode cX0_reads 49 = .ok (.aload_n 1, 1) := dk_43 (dk_at dksX0_reads_2 2 rfl rfl)
theorem dX0_reads_50 : decode cX0_reads 50 = .ok (.getfield 420, 3) := dk_180 1 164 (dk_at dksX0_reads_2 3 rfl rfl)
theorem dX0_reads_53 : decode cX0_reads 53 = .ok (.invokevirtual 424, 3) := dk_182 1 168 (dk_at dksX0_reads_2 6 rfl rfl)
theorem dX0_reads_56 : decode cX0_reads 56 = .ok (.ifCond .eq 23, 3) := dk_153 0 23 (dk_at dksX0_reads_2 9 rfl rfl)
theorem dX0_reads_59 : decode cX0_reads 59 = .ok (.aload_n 1, 1) := dk_43 (dk_at dksX0_reads_2 12 rfl rfl)
theorem dX0_reads_60 : decode cX0_reads 60 = .ok (.iconst 0, 1) := dk_3 (dk_at dksX0_reads_2 13 rfl rfl)
theorem dX0_reads_61 : decode cX0_reads 61 = .ok (.invokevirtual 233, 3) := dk_182 0 233 (dk_at dksX0_reads_2 14 rfl rfl)
theorem dX0_reads_64 : decode cX0_reads 64 = .ok (.getfield 237, 3) := dk_180 0 237 (dk_at dksX0_reads_2 17 rfl rfl)
theorem dX0_reads_67 : decode cX0_reads 67 = .ok (.aload 5, 2) := dk_25 5 (dk_at dksX0_reads_2 20 rfl rfl)
theorem dX0_reads_69 : decode cX0_reads 69 = .ok (.getfield 237, 3) := dk_180 0 237 (dk_at dksX0_reads_3 0 rfl rfl)
theorem dX0_reads_72 : decode cX0_reads 72 = .ok (.if_icmp .ne 7, 3) := dk_160 0 7 (dk_at dksX0_reads_3 3 rfl rfl)
theorem dX0_reads_75 : decode cX0_reads 75 = .ok (.iconst 1, 1) := dk_4 (dk_at dksX0_reads_3 6 rfl rfl)
theorem dX0_reads_76 : decode cX0_reads 76 = .ok (.goto 4, 3) := dk_167 0 4 (dk_at dksX0_reads_3 7 rfl rfl)
theorem dX0_reads_79 : decode cX0_reads 79 = .ok (.iconst 0, 1) := dk_3 (dk_at dksX0_reads_3 10 rfl rfl)
theorem dX0_reads_80 : decode cX0_reads 80 = .ok (.istore 6, 2) := dk_54 6 (dk_at dksX0_reads_3 11 rfl rfl)
theorem dX0_reads_82 : decode cX0_reads 82 = .ok (.iconst 0, 1) := dk_3 (dk_at dksX0_reads_3 13 rfl rfl)
theorem dX0_reads_83 : decode cX0_reads 83 = .ok (.istore 7, 2) := dk_54 7 (dk_at dksX0_reads_3 14 rfl rfl)
theorem dX0_reads_85 : decode cX0_reads 85 = .ok (.iload 7, 2) := dk_21 7 (dk_at dksX0_reads_3 16 rfl rfl)
theorem dX0_reads_87 : decode cX0_reads 87 = .ok (.iload 4, 2) := dk_21 4 (dk_at dksX0_reads_3 18 rfl rfl)
theorem dX0_reads_89 : decode cX0_reads 89 = .ok (.if_icmp .ge 95, 3) := dk_162 0 95 (dk_at dksX0_reads_3 20 rfl rfl)
theorem dX0_reads_92 : decode cX0_reads 92 = .ok (.aload 5, 2) := dk_25 5 (dk_at dksX0_reads_4 0 rfl rfl)
theorem dX0_reads_94 : decode cX0_reads 94 = .ok (.getfield 395, 3) := dk_180 1 139 (dk_at dksX0_reads_4 2 rfl rfl)
theorem dX0_reads_97 : decode cX0_reads 97 = .ok (.iload_n 3, 1) := dk_29 (dk_at dksX0_reads_4 5 rfl rfl)
theorem dX0_reads_98 : decode cX0_reads 98 = .ok (.iload 7, 2) := dk_21 7 (dk_at dksX0_reads_4 6 rfl rfl)
theorem dX0_reads_100 : decode cX0_reads 100 = .ok (.invokeinterface 399 3, 5) := by decide +kernel
theorem dX0_reads_105 : decode cX0_reads 105 = .ok (.istore 8, 2) := dk_54 8 (dk_at dksX0_reads_4 13 rfl rfl)
theorem dX0_reads_107 : decode cX0_reads 107 = .ok (.aload_n 0, 1) := dk_42 (dk_at dksX0_reads_4 15 rfl rfl)
theorem dX0_reads_108 : decode cX0_reads 108 = .ok (.getfield 53, 3) := dk_180 0 53 (dk_at dksX0_reads_4 16 rfl rfl)
theorem dX0_reads_111 : decode cX0_reads 111 = .ok (.aload 5, 2) := dk_25 5 (dk_at dksX0_reads_4 19 rfl rfl)
theorem dX0_reads_113 : decode cX0_reads 113 = .ok (.getfield 237, 3) := dk_180 0 237 (dk_at dksX0_reads_4 21 rfl rfl)
theorem dX0_reads_116 : decode cX0_reads 116 = .ok (.laload, 1) := dk_47 (dk_at dksX0_reads_5 0 rfl rfl)
theorem dX0_reads_117 : decode cX0_reads 117 = .ok (.iload 8, 2) := dk_21 8 (dk_at dksX0_reads_5 1 rfl rfl)
theorem dX0_reads_119 : decode cX0_reads 119 = .ok (.lshr, 1) := dk_123 (dk_at dksX0_reads_5 3 rfl rfl)
theorem dX0_reads_120 : decode cX0_reads 120 = .ok (.lconst 1, 1) := dk_10 (dk_at dksX0_reads_5 4 rfl rfl)
theorem dX0_reads_121 : decode cX0_reads 121 = .ok (.land, 1) := dk_127 (dk_at dksX0_reads_5 5 rfl rfl)
theorem dX0_reads_122 : decode cX0_reads 122 = .ok (.lconst 1, 1) := dk_10 (dk_at dksX0_reads_5 6 rfl rfl)
theorem dX0_reads_123 : decode cX0_reads 123 = .ok (.lcmp, 1) := dk_148 (dk_at dksX0_reads_5 7 rfl rfl)
theorem dX0_reads_124 : decode cX0_reads 124 = .ok (.ifCond .eq 20, 3) := dk_153 0 20 (dk_at dksX0_reads_5 8 rfl rfl)
theorem dX0_reads_127 : decode cX0_reads 127 = .ok (.iload 6, 2) := dk_21 6 (dk_at dksX0_reads_5 11 rfl rfl)
theorem dX0_reads_129 : decode cX0_reads 129 = .ok (.ifCond .eq 19, 3) := dk_153 0 19 (dk_at dksX0_reads_5 13 rfl rfl)
theorem dX0_reads_132 : decode cX0_reads 132 = .ok (.aload_n 1, 1) := dk_43 (dk_at dksX0_reads_5 16 rfl rfl)
theorem dX0_reads_133 : decode cX0_reads 133 = .ok (.iload_n 3, 1) := dk_29 (dk_at dksX0_reads_5 17 rfl rfl)
theorem dX0_reads_134 : decode cX0_reads 134 = .ok (.iload 8, 2) := dk_21 8 (dk_at dksX0_reads_5 18 rfl rfl)
theorem dX0_reads_136 : decode cX0_reads 136 = .ok (.iload 7, 2) := dk_21 7 (dk_at dksX0_reads_5 20 rfl rfl)
theorem dX0_reads_138 : decode cX0_reads 138 = .ok (.invokestatic 427, 3) := dk_184 1 171 (dk_at dksX0_reads_6 0 rfl rfl)
theorem dX0_reads_141 : decode cX0_reads 141 = .ok (.ifCond .eq 7, 3) := dk_153 0 7 (dk_at dksX0_reads_6 3 rfl rfl)
theorem dX0_reads_144 : decode cX0_reads 144 = .ok (.iconst 1, 1) := dk_4 (dk_at dksX0_reads_6 6 rfl rfl)
theorem dX0_reads_145 : decode cX0_reads 145 = .ok (.goto 4, 3) := dk_167 0 4 (dk_at dksX0_reads_6 7 rfl rfl)
theorem dX0_reads_148 : decode cX0_reads 148 = .ok (.iconst 0, 1) := dk_3 (dk_at dksX0_reads_6 10 rfl rfl)
theorem dX0_reads_149 : decode cX0_reads 149 = .ok (.istore 9, 2) := dk_54 9 (dk_at dksX0_reads_6 11 rfl rfl)
theorem dX0_reads_151 : decode cX0_reads 151 = .ok (.iload 9, 2) := dk_21 9 (dk_at dksX0_reads_6 13 rfl rfl)
theorem dX0_reads_153 : decode cX0_reads 153 = .ok (.ifCond .ne 25, 3) := dk_154 0 25 (dk_at dksX0_reads_6 15 rfl rfl)
theorem dX0_reads_156 : decode cX0_reads 156 = .ok (.aload_n 0, 1) := dk_42 (dk_at dksX0_reads_6 18 rfl rfl)
theorem dX0_reads_157 : decode cX0_reads 157 = .ok (.getfield 49, 3) := dk_180 0 49 (dk_at dksX0_reads_6 19 rfl rfl)
theorem dX0_reads_160 : decode cX0_reads 160 = .ok (.iconst 3, 1) := dk_6 (dk_at dksX0_reads_6 22 rfl rfl)
theorem dX0_reads_161 : decode cX0_reads 161 = .ok (.aload 5, 2) := dk_25 5 (dk_at dksX0_reads_7 0 rfl rfl)
theorem dX0_reads_163 : decode cX0_reads 163 = .ok (.getfield 237, 3) := dk_180 0 237 (dk_at dksX0_reads_7 2 rfl rfl)
theorem dX0_reads_166 : decode cX0_reads 166 = .ok (.iload_n 3, 1) := dk_29 (dk_at dksX0_reads_7 5 rfl rfl)
theorem dX0_reads_167 : decode cX0_reads 167 = .ok (.invokestatic 412, 3) := dk_184 1 156 (dk_at dksX0_reads_7 6 rfl rfl)
theorem dX0_reads_170 : decode cX0_reads 170 = .ok (.dup2, 1) := dk_92 (dk_at dksX0_reads_7 9 rfl rfl)
theorem dX0_reads_171 : decode cX0_reads 171 = .ok (.laload, 1) := dk_47 (dk_at dksX0_reads_7 10 rfl rfl)
theorem dX0_reads_172 : decode cX0_reads 172 = .ok (.lconst 1, 1) := dk_10 (dk_at dksX0_reads_7 11 rfl rfl)
theorem dX0_reads_173 : decode cX0_reads 173 = .ok (.iload 8, 2) := dk_21 8 (dk_at dksX0_reads_7 12 rfl rfl)
theorem dX0_reads_175 : decode cX0_reads 175 = .ok (.lshl, 1) := dk_121 (dk_at dksX0_reads_7 14 rfl rfl)
theorem dX0_reads_176 : decode cX0_reads 176 = .ok (.lor, 1) := dk_129 (dk_at dksX0_reads_7 15 rfl rfl)
theorem dX0_reads_177 : decode cX0_reads 177 = .ok (.lastore, 1) := dk_80 (dk_at dksX0_reads_7 16 rfl rfl)
theorem dX0_reads_178 : decode cX0_reads 178 = .ok (.iinc 7 1, 3) := dk_132 7 1 (dk_at dksX0_reads_7 17 rfl rfl)
theorem dX0_reads_181 : decode cX0_reads 181 = .ok (.goto (-96), 3) := dk_167 255 160 (dk_at dksX0_reads_7 20 rfl rfl)
theorem dX0_reads_184 : decode cX0_reads 184 = .ok (.return_, 1) := dk_177 (dk_at dksX0_reads_7 23 rfl rfl)
abbrev cX0_setAt : ByteArray := prog_1_method_39_code
def yX0_setAt : MethodName := ⟨RX0, "setAt", "(III)I"⟩
def dkwX0_setAt_0 : List UInt8 := [26, 16, 6, 104, 27, 96, 16, 10, 104, 28, 96, 172]
abbrev dktX0_setAt_0 : List UInt8 := dkwX0_setAt_0 ++ []
theorem dksX0_setAt_0 : cX0_setAt.data.toList.drop 0 = dktX0_setAt_0 := by decide +kernel
theorem dX0_setAt_0 : decode cX0_setAt 0 = .ok (.iload_n 0, 1) := dk_26 (dk_at dksX0_setAt_0 0 rfl rfl)
theorem dX0_setAt_1 : decode cX0_setAt 1 = .ok (.bipush 6, 2) := dk_16 6 (dk_at dksX0_setAt_0 1 rfl rfl)
theorem dX0_setAt_3 : decode cX0_setAt 3 = .ok (.imul, 1) := dk_104 (dk_at dksX0_setAt_0 3 rfl rfl)
theorem dX0_setAt_4 : decode cX0_setAt 4 = .ok (.iload_n 1, 1) := dk_27 (dk_at dksX0_setAt_0 4 rfl rfl)
theorem dX0_setAt_5 : decode cX0_setAt 5 = .ok (.iadd, 1) := dk_96 (dk_at dksX0_setAt_0 5 rfl rfl)
theorem dX0_setAt_6 : decode cX0_setAt 6 = .ok (.bipush 10, 2) := dk_16 10 (dk_at dksX0_setAt_0 6 rfl rfl)
theorem dX0_setAt_8 : decode cX0_setAt 8 = .ok (.imul, 1) := dk_104 (dk_at dksX0_setAt_0 8 rfl rfl)
theorem dX0_setAt_9 : decode cX0_setAt 9 = .ok (.iload_n 2, 1) := dk_28 (dk_at dksX0_setAt_0 9 rfl rfl)
theorem dX0_setAt_10 : decode cX0_setAt 10 = .ok (.iadd, 1) := dk_96 (dk_at dksX0_setAt_0 10 rfl rfl)
theorem dX0_setAt_11 : decode cX0_setAt 11 = .ok (.ireturn, 1) := dk_172 (dk_at dksX0_setAt_0 11 rfl rfl)
abbrev cX0_cellsOf : ByteArray := prog_1_method_41_code
def yX0_cellsOf : MethodName := ⟨RX0, "cellsOf", "(LStrideTurns$Reference;II)J"⟩
def dkwX0_cellsOf_1 : List UInt8 := [185, 1, 143, 3, 0, 121, 129, 55, 4, 132, 6, 1, 167, 255, 228, 22, 4, 173]
abbrev dktX0_cellsOf_1 : List UInt8 := dkwX0_cellsOf_1 ++ []
def dkwX0_cellsOf_0 : List UInt8 := [9, 55, 4, 3, 54, 6, 21, 6, 29, 162, 0, 28, 22, 4, 10, 43, 180, 1, 139, 28, 21, 6]
abbrev dktX0_cellsOf_0 : List UInt8 := dkwX0_cellsOf_0 ++ dktX0_cellsOf_1
theorem dksX0_cellsOf_0 : cX0_cellsOf.data.toList.drop 0 = dktX0_cellsOf_0 := by decide +kernel
theorem dksX0_cellsOf_1 : cX0_cellsOf.data.toList.drop 22 = dktX0_cellsOf_1 := dk_seg dksX0_cellsOf_0 22 rfl rfl
theorem dX0_cellsOf_0 : decode cX0_cellsOf 0 = .ok (.lconst 0, 1) := dk_9 (dk_at dksX0_cellsOf_0 0 rfl rfl)
theorem dX0_cellsOf_1 : decode cX0_cellsOf 1 = .ok (.lstore 4, 2) := dk_55 4 (dk_at dksX0_cellsOf_0 1 rfl rfl)
theorem dX0_cellsOf_3 : decode cX0_cellsOf 3 = .ok (.iconst 0, 1) := dk_3 (dk_at dksX0_cellsOf_0 3 rfl rfl)
theorem dX0_cellsOf_4 : decode cX0_cellsOf 4 = .ok (.istore 6, 2) := dk_54 6 (dk_at dksX0_cellsOf_0 4 rfl rfl)
theorem dX0_cellsOf_6 : decode cX0_cellsOf 6 = .ok (.iload 6, 2) := dk_21 6 (dk_at dksX0_cellsOf_0 6 rfl rfl)
theorem dX0_cellsOf_8 : decode cX0_cellsOf 8 = .ok (.iload_n 3, 1) := dk_29 (dk_at dksX0_cellsOf_0 8 rfl rfl)
theorem dX0_cellsOf_9 : decode cX0_cellsOf 9 = .ok (.if_icmp .ge 28, 3) := dk_162 0 28 (dk_at dksX0_cellsOf_0 9 rfl rfl)
theorem dX0_cellsOf_12 : decode cX0_cellsOf 12 = .ok (.lload 4, 2) := dk_22 4 (dk_at dksX0_cellsOf_0 12 rfl rfl)
theorem dX0_cellsOf_14 : decode cX0_cellsOf 14 = .ok (.lconst 1, 1) := dk_10 (dk_at dksX0_cellsOf_0 14 rfl rfl)
theorem dX0_cellsOf_15 : decode cX0_cellsOf 15 = .ok (.aload_n 1, 1) := dk_43 (dk_at dksX0_cellsOf_0 15 rfl rfl)
theorem dX0_cellsOf_16 : decode cX0_cellsOf 16 = .ok (.getfield 395, 3) := dk_180 1 139 (dk_at dksX0_cellsOf_0 16 rfl rfl)
theorem dX0_cellsOf_19 : decode cX0_cellsOf 19 = .ok (.iload_n 2, 1) := dk_28 (dk_at dksX0_cellsOf_0 19 rfl rfl)
theorem dX0_cellsOf_20 : decode cX0_cellsOf 20 = .ok (.iload 6, 2) := dk_21 6 (dk_at dksX0_cellsOf_0 20 rfl rfl)
theorem dX0_cellsOf_22 : decode cX0_cellsOf 22 = .ok (.invokeinterface 399 3, 5) := by decide +kernel
theorem dX0_cellsOf_27 : decode cX0_cellsOf 27 = .ok (.lshl, 1) := dk_121 (dk_at dksX0_cellsOf_1 5 rfl rfl)
theorem dX0_cellsOf_28 : decode cX0_cellsOf 28 = .ok (.lor, 1) := dk_129 (dk_at dksX0_cellsOf_1 6 rfl rfl)
theorem dX0_cellsOf_29 : decode cX0_cellsOf 29 = .ok (.lstore 4, 2) := dk_55 4 (dk_at dksX0_cellsOf_1 7 rfl rfl)
theorem dX0_cellsOf_31 : decode cX0_cellsOf 31 = .ok (.iinc 6 1, 3) := dk_132 6 1 (dk_at dksX0_cellsOf_1 9 rfl rfl)
theorem dX0_cellsOf_34 : decode cX0_cellsOf 34 = .ok (.goto (-28), 3) := dk_167 255 228 (dk_at dksX0_cellsOf_1 12 rfl rfl)
theorem dX0_cellsOf_37 : decode cX0_cellsOf 37 = .ok (.lload 4, 2) := dk_22 4 (dk_at dksX0_cellsOf_1 15 rfl rfl)
theorem dX0_cellsOf_39 : decode cX0_cellsOf 39 = .ok (.lreturn, 1) := dk_173 (dk_at dksX0_cellsOf_1 17 rfl rfl)
abbrev cX0_isOwn : ByteArray := prog_1_method_42_code
def yX0_isOwn : MethodName := ⟨RX0, "isOwn", "(LStrideTurns$Statement;III)Z"⟩
def dkwX0_isOwn_3 : List UInt8 := [133, 184, 0, 90, 153, 0, 7, 4, 167, 0, 4, 3, 172]
abbrev dktX0_isOwn_3 : List UInt8 := dkwX0_isOwn_3 ++ []
def dkwX0_isOwn_2 : List UInt8 := [21, 5, 25, 4, 180, 1, 3, 112, 154, 0, 27, 21, 5, 25, 4, 180, 1, 3, 108, 133, 9, 29, 4, 100]
abbrev dktX0_isOwn_2 : List UInt8 := dkwX0_isOwn_2 ++ dktX0_isOwn_3
def dkwX0_isOwn_1 : List UInt8 := [25, 4, 180, 1, 3, 154, 0, 18, 21, 5, 154, 0, 11, 29, 158, 0, 7, 4, 167, 0, 4, 3, 172]
abbrev dktX0_isOwn_1 : List UInt8 := dkwX0_isOwn_1 ++ dktX0_isOwn_2
def dkwX0_isOwn_0 : List UInt8 := [42, 3, 182, 0, 233, 58, 4, 28, 25, 4, 180, 1, 139, 27, 3, 185, 1, 143, 3, 0, 100, 54, 5]
abbrev dktX0_isOwn_0 : List UInt8 := dkwX0_isOwn_0 ++ dktX0_isOwn_1
theorem dksX0_isOwn_0 : cX0_isOwn.data.toList.drop 0 = dktX0_isOwn_0 := by decide +kernel
theorem dksX0_isOwn_1 : cX0_isOwn.data.toList.drop 23 = dktX0_isOwn_1 := dk_seg dksX0_isOwn_0 23 rfl rfl
theorem dksX0_isOwn_2 : cX0_isOwn.data.toList.drop 46 = dktX0_isOwn_2 := dk_seg dksX0_isOwn_1 23 rfl rfl
theorem dksX0_isOwn_3 : cX0_isOwn.data.toList.drop 70 = dktX0_isOwn_3 := dk_seg dksX0_isOwn_2 24 rfl rfl
theorem dX0_isOwn_0 : decode cX0_isOwn 0 = .ok (.aload_n 0, 1) := dk_42 (dk_at dksX0_isOwn_0 0 rfl rfl)
theorem dX0_isOwn_1 : decode cX0_isOwn 1 = .ok (.iconst 0, 1) := dk_3 (dk_at dksX0_isOwn_0 1 rfl rfl)
theorem dX0_isOwn_2 : decode cX0_isOwn 2 = .ok (.invokevirtual 233, 3) := dk_182 0 233 (dk_at dksX0_isOwn_0 2 rfl rfl)
theorem dX0_isOwn_5 : decode cX0_isOwn 5 = .ok (.astore 4, 2) := dk_58 4 (dk_at dksX0_isOwn_0 5 rfl rfl)
theorem dX0_isOwn_7 : decode cX0_isOwn 7 = .ok (.iload_n 2, 1) := dk_28 (dk_at dksX0_isOwn_0 7 rfl rfl)
theorem dX0_isOwn_8 : decode cX0_isOwn 8 = .ok (.aload 4, 2) := dk_25 4 (dk_at dksX0_isOwn_0 8 rfl rfl)
theorem dX0_isOwn_10 : decode cX0_isOwn 10 = .ok (.getfield 395, 3) := dk_180 1 139 (dk_at dksX0_isOwn_0 10 rfl rfl)
theorem dX0_isOwn_13 : decode cX0_isOwn 13 = .ok (.iload_n 1, 1) := dk_27 (dk_at dksX0_isOwn_0 13 rfl rfl)
theorem dX0_isOwn_14 : decode cX0_isOwn 14 = .ok (.iconst 0, 1) := dk_3 (dk_at dksX0_isOwn_0 14 rfl rfl)
theorem dX0_isOwn_15 : decode cX0_isOwn 15 = .ok (.invokeinterface 399 3, 5) := by decide +kernel
theorem dX0_isOwn_20 : decode cX0_isOwn 20 = .ok (.isub, 1) := dk_100 (dk_at dksX0_isOwn_0 20 rfl rfl)
theorem dX0_isOwn_21 : decode cX0_isOwn 21 = .ok (.istore 5, 2) := dk_54 5 (dk_at dksX0_isOwn_0 21 rfl rfl)
theorem dX0_isOwn_23 : decode cX0_isOwn 23 = .ok (.aload 4, 2) := dk_25 4 (dk_at dksX0_isOwn_1 0 rfl rfl)
theorem dX0_isOwn_25 : decode cX0_isOwn 25 = .ok (.getfield 259, 3) := dk_180 1 3 (dk_at dksX0_isOwn_1 2 rfl rfl)
theorem dX0_isOwn_28 : decode cX0_isOwn 28 = .ok (.ifCond .ne 18, 3) := dk_154 0 18 (dk_at dksX0_isOwn_1 5 rfl rfl)
theorem dX0_isOwn_31 : decode cX0_isOwn 31 = .ok (.iload 5, 2) := dk_21 5 (dk_at dksX0_isOwn_1 8 rfl rfl)
theorem dX0_isOwn_33 : decode cX0_isOwn 33 = .ok (.ifCond .ne 11, 3) := dk_154 0 11 (dk_at dksX0_isOwn_1 10 rfl rfl)
theorem dX0_isOwn_36 : decode cX0_isOwn 36 = .ok (.iload_n 3, 1) := dk_29 (dk_at dksX0_isOwn_1 13 rfl rfl)
theorem dX0_isOwn_37 : decode cX0_isOwn 37 = .ok (.ifCond .le 7, 3) := dk_158 0 7 (dk_at dksX0_isOwn_1 14 rfl rfl)
theorem dX0_isOwn_40 : decode cX0_isOwn 40 = .ok (.iconst 1, 1) := dk_4 (dk_at dksX0_isOwn_1 17 rfl rfl)
theorem dX0_isOwn_41 : decode cX0_isOwn 41 = .ok (.goto 4, 3) := dk_167 0 4 (dk_at dksX0_isOwn_1 18 rfl rfl)
theorem dX0_isOwn_44 : decode cX0_isOwn 44 = .ok (.iconst 0, 1) := dk_3 (dk_at dksX0_isOwn_1 21 rfl rfl)
theorem dX0_isOwn_45 : decode cX0_isOwn 45 = .ok (.ireturn, 1) := dk_172 (dk_at dksX0_isOwn_1 22 rfl rfl)
theorem dX0_isOwn_46 : decode cX0_isOwn 46 = .ok (.iload 5, 2) := dk_21 5 (dk_at dksX0_isOwn_2 0 rfl rfl)
theorem dX0_isOwn_48 : decode cX0_isOwn 48 = .ok (.aload 4, 2) := dk_25 4 (dk_at dksX0_isOwn_2 2 rfl rfl)
theorem dX0_isOwn_50 : decode cX0_isOwn 50 = .ok (.getfield 259, 3) := dk_180 1 3 (dk_at dksX0_isOwn_2 4 rfl rfl)
theorem dX0_isOwn_53 : decode cX0_isOwn 53 = .ok (.irem, 1) := dk_112 (dk_at dksX0_isOwn_2 7 rfl rfl)
theorem dX0_isOwn_54 : decode cX0_isOwn 54 = .ok (.ifCond .ne 27, 3) := dk_154 0 27 (dk_at dksX0_isOwn_2 8 rfl rfl)
theorem dX0_isOwn_57 : decode cX0_isOwn 57 = .ok (.iload 5, 2) := dk_21 5 (dk_at dksX0_isOwn_2 11 rfl rfl)
theorem dX0_isOwn_59 : decode cX0_isOwn 59 = .ok (.aload 4, 2) := dk_25 4 (dk_at dksX0_isOwn_2 13 rfl rfl)
theorem dX0_isOwn_61 : decode cX0_isOwn 61 = .ok (.getfield 259, 3) := dk_180 1 3 (dk_at dksX0_isOwn_2 15 rfl rfl)
theorem dX0_isOwn_64 : decode cX0_isOwn 64 = .ok (.idiv, 1) := dk_108 (dk_at dksX0_isOwn_2 18 rfl rfl)
theorem dX0_isOwn_65 : decode cX0_isOwn 65 = .ok (.i2l, 1) := dk_133 (dk_at dksX0_isOwn_2 19 rfl rfl)
theorem dX0_isOwn_66 : decode cX0_isOwn 66 = .ok (.lconst 0, 1) := dk_9 (dk_at dksX0_isOwn_2 20 rfl rfl)
theorem dX0_isOwn_67 : decode cX0_isOwn 67 = .ok (.iload_n 3, 1) := dk_29 (dk_at dksX0_isOwn_2 21 rfl rfl)
theorem dX0_isOwn_68 : decode cX0_isOwn 68 = .ok (.iconst 1, 1) := dk_4 (dk_at dksX0_isOwn_2 22 rfl rfl)
theorem dX0_isOwn_69 : decode cX0_isOwn 69 = .ok (.isub, 1) := dk_100 (dk_at dksX0_isOwn_2 23 rfl rfl)
theorem dX0_isOwn_70 : decode cX0_isOwn 70 = .ok (.i2l, 1) := dk_133 (dk_at dksX0_isOwn_3 0 rfl rfl)
theorem dX0_isOwn_71 : decode cX0_isOwn 71 = .ok (.invokestatic 90, 3) := dk_184 0 90 (dk_at dksX0_isOwn_3 1 rfl rfl)
theorem dX0_isOwn_74 : decode cX0_isOwn 74 = .ok (.ifCond .eq 7, 3) := dk_153 0 7 (dk_at dksX0_isOwn_3 4 rfl rfl)
theorem dX0_isOwn_77 : decode cX0_isOwn 77 = .ok (.iconst 1, 1) := dk_4 (dk_at dksX0_isOwn_3 7 rfl rfl)
theorem dX0_isOwn_78 : decode cX0_isOwn 78 = .ok (.goto 4, 3) := dk_167 0 4 (dk_at dksX0_isOwn_3 8 rfl rfl)
theorem dX0_isOwn_81 : decode cX0_isOwn 81 = .ok (.iconst 0, 1) := dk_3 (dk_at dksX0_isOwn_3 11 rfl rfl)
theorem dX0_isOwn_82 : decode cX0_isOwn 82 = .ok (.ireturn, 1) := dk_172 (dk_at dksX0_isOwn_3 12 rfl rfl)
abbrev cX0_bitsOf : ByteArray := prog_1_method_46_code
def yX0_bitsOf : MethodName := ⟨RX0, "bitsOf", "(III)J"⟩
def dkwX0_bitsOf_2 : List UInt8 := [55, 4, 132, 6, 1, 167, 255, 227, 22, 4, 173]
abbrev dktX0_bitsOf_2 : List UInt8 := dkwX0_bitsOf_2 ++ []
def dkwX0_bitsOf_1 : List UInt8 := [21, 6, 42, 180, 0, 173, 162, 0, 26, 22, 4, 42, 180, 0, 49, 27, 28, 21, 6, 184, 1, 156, 47, 129]
abbrev dktX0_bitsOf_1 : List UInt8 := dkwX0_bitsOf_1 ++ dktX0_bitsOf_2
def dkwX0_bitsOf_0 : List UInt8 := [29, 2, 159, 0, 15, 42, 180, 0, 49, 27, 28, 29, 184, 1, 156, 47, 173, 9, 55, 4, 3, 54, 6]
abbrev dktX0_bitsOf_0 : List UInt8 := dkwX0_bitsOf_0 ++ dktX0_bitsOf_1
theorem dksX0_bitsOf_0 : cX0_bitsOf.data.toList.drop 0 = dktX0_bitsOf_0 := by decide +kernel
theorem dksX0_bitsOf_1 : cX0_bitsOf.data.toList.drop 23 = dktX0_bitsOf_1 := dk_seg dksX0_bitsOf_0 23 rfl rfl
theorem dksX0_bitsOf_2 : cX0_bitsOf.data.toList.drop 47 = dktX0_bitsOf_2 := dk_seg dksX0_bitsOf_1 24 rfl rfl
theorem dX0_bitsOf_0 : decode cX0_bitsOf 0 = .ok (.iload_n 3, 1) := dk_29 (dk_at dksX0_bitsOf_0 0 rfl rfl)
theorem dX0_bitsOf_1 : decode cX0_bitsOf 1 = .ok (.iconst (-1), 1) := dk_2 (dk_at dksX0_bitsOf_0 1 rfl rfl)
theorem dX0_bitsOf_2 : decode cX0_bitsOf 2 = .ok (.if_icmp .eq 15, 3) := dk_159 0 15 (dk_at dksX0_bitsOf_0 2 rfl rfl)
theorem dX0_bitsOf_5 : decode cX0_bitsOf 5 = .ok (.aload_n 0, 1) := dk_42 (dk_at dksX0_bitsOf_0 5 rfl rfl)
theorem dX0_bitsOf_6 : decode cX0_bitsOf 6 = .ok (.getfield 49, 3) := dk_180 0 49 (dk_at dksX0_bitsOf_0 6 rfl rfl)
theorem dX0_bitsOf_9 : decode cX0_bitsOf 9 = .ok (.iload_n 1, 1) := dk_27 (dk_at dksX0_bitsOf_0 9 rfl rfl)
theorem dX0_bitsOf_10 : decode cX0_bitsOf 10 = .ok (.iload_n 2, 1) := dk_28 (dk_at dksX0_bitsOf_0 10 rfl rfl)
theorem dX0_bitsOf_11 : decode cX0_bitsOf 11 = .ok (.iload_n 3, 1) := dk_29 (dk_at dksX0_bitsOf_0 11 rfl rfl)
theorem dX0_bitsOf_12 : decode cX0_bitsOf 12 = .ok (.invokestatic 412, 3) := dk_184 1 156 (dk_at dksX0_bitsOf_0 12 rfl rfl)
theorem dX0_bitsOf_15 : decode cX0_bitsOf 15 = .ok (.laload, 1) := dk_47 (dk_at dksX0_bitsOf_0 15 rfl rfl)
theorem dX0_bitsOf_16 : decode cX0_bitsOf 16 = .ok (.lreturn, 1) := dk_173 (dk_at dksX0_bitsOf_0 16 rfl rfl)
theorem dX0_bitsOf_17 : decode cX0_bitsOf 17 = .ok (.lconst 0, 1) := dk_9 (dk_at dksX0_bitsOf_0 17 rfl rfl)
theorem dX0_bitsOf_18 : decode cX0_bitsOf 18 = .ok (.lstore 4, 2) := dk_55 4 (dk_at dksX0_bitsOf_0 18 rfl rfl)
theorem dX0_bitsOf_20 : decode cX0_bitsOf 20 = .ok (.iconst 0, 1) := dk_3 (dk_at dksX0_bitsOf_0 20 rfl rfl)
theorem dX0_bitsOf_21 : decode cX0_bitsOf 21 = .ok (.istore 6, 2) := dk_54 6 (dk_at dksX0_bitsOf_0 21 rfl rfl)
theorem dX0_bitsOf_23 : decode cX0_bitsOf 23 = .ok (.iload 6, 2) := dk_21 6 (dk_at dksX0_bitsOf_1 0 rfl rfl)
theorem dX0_bitsOf_25 : decode cX0_bitsOf 25 = .ok (.aload_n 0, 1) := dk_42 (dk_at dksX0_bitsOf_1 2 rfl rfl)
theorem dX0_bitsOf_26 : decode cX0_bitsOf 26 = .ok (.getfield 173, 3) := dk_180 0 173 (dk_at dksX0_bitsOf_1 3 rfl rfl)
theorem dX0_bitsOf_29 : decode cX0_bitsOf 29 = .ok (.if_icmp .ge 26, 3) := dk_162 0 26 (dk_at dksX0_bitsOf_1 6 rfl rfl)
theorem dX0_bitsOf_32 : decode cX0_bitsOf 32 = .ok (.lload 4, 2) := dk_22 4 (dk_at dksX0_bitsOf_1 9 rfl rfl)
theorem dX0_bitsOf_34 : decode cX0_bitsOf 34 = .ok (.aload_n 0, 1) := dk_42 (dk_at dksX0_bitsOf_1 11 rfl rfl)
theorem dX0_bitsOf_35 : decode cX0_bitsOf 35 = .ok (.getfield 49, 3) := dk_180 0 49 (dk_at dksX0_bitsOf_1 12 rfl rfl)
theorem dX0_bitsOf_38 : decode cX0_bitsOf 38 = .ok (.iload_n 1, 1) := dk_27 (dk_at dksX0_bitsOf_1 15 rfl rfl)
theorem dX0_bitsOf_39 : decode cX0_bitsOf 39 = .ok (.iload_n 2, 1) := dk_28 (dk_at dksX0_bitsOf_1 16 rfl rfl)
theorem dX0_bitsOf_40 : decode cX0_bitsOf 40 = .ok (.iload 6, 2) := dk_21 6 (dk_at dksX0_bitsOf_1 17 rfl rfl)
theorem dX0_bitsOf_42 : decode cX0_bitsOf 42 = .ok (.invokestatic 412, 3) := dk_184 1 156 (dk_at dksX0_bitsOf_1 19 rfl rfl)
theorem dX0_bitsOf_45 : decode cX0_bitsOf 45 = .ok (.laload, 1) := dk_47 (dk_at dksX0_bitsOf_1 22 rfl rfl)
theorem dX0_bitsOf_46 : decode cX0_bitsOf 46 = .ok (.lor, 1) := dk_129 (dk_at dksX0_bitsOf_1 23 rfl rfl)
theorem dX0_bitsOf_47 : decode cX0_bitsOf 47 = .ok (.lstore 4, 2) := dk_55 4 (dk_at dksX0_bitsOf_2 0 rfl rfl)
theorem dX0_bitsOf_49 : decode cX0_bitsOf 49 = .ok (.iinc 6 1, 3) := dk_132 6 1 (dk_at dksX0_bitsOf_2 2 rfl rfl)
theorem dX0_bitsOf_52 : decode cX0_bitsOf 52 = .ok (.goto (-29), 3) := dk_167 255 227 (dk_at dksX0_bitsOf_2 5 rfl rfl)
theorem dX0_bitsOf_55 : decode cX0_bitsOf 55 = .ok (.lload 4, 2) := dk_22 4 (dk_at dksX0_bitsOf_2 8 rfl rfl)
theorem dX0_bitsOf_57 : decode cX0_bitsOf 57 = .ok (.lreturn, 1) := dk_173 (dk_at dksX0_bitsOf_2 10 rfl rfl)
abbrev cX0_pieces : ByteArray := prog_1_method_52_code
def yX0_pieces : MethodName := ⟨RX0, "pieces", "(III)I"⟩
def dkwX0_pieces_1 : List UInt8 := [184, 1, 223, 172]
abbrev dktX0_pieces_1 : List UInt8 := dkwX0_pieces_1 ++ []
def dkwX0_pieces_0 : List UInt8 := [42, 27, 28, 29, 182, 1, 189, 154, 0, 6, 16, 254, 172, 42, 182, 1, 193, 42, 27, 28, 29, 182, 1, 196]
abbrev dktX0_pieces_0 : List UInt8 := dkwX0_pieces_0 ++ dktX0_pieces_1
theorem dksX0_pieces_0 : cX0_pieces.data.toList.drop 0 = dktX0_pieces_0 := by decide +kernel
theorem dksX0_pieces_1 : cX0_pieces.data.toList.drop 24 = dktX0_pieces_1 := dk_seg dksX0_pieces_0 24 rfl rfl
theorem dX0_pieces_0 : decode cX0_pieces 0 = .ok (.aload_n 0, 1) := dk_42 (dk_at dksX0_pieces_0 0 rfl rfl)
theorem dX0_pieces_1 : decode cX0_pieces 1 = .ok (.iload_n 1, 1) := dk_27 (dk_at dksX0_pieces_0 1 rfl rfl)
theorem dX0_pieces_2 : decode cX0_pieces 2 = .ok (.iload_n 2, 1) := dk_28 (dk_at dksX0_pieces_0 2 rfl rfl)
theorem dX0_pieces_3 : decode cX0_pieces 3 = .ok (.iload_n 3, 1) := dk_29 (dk_at dksX0_pieces_0 3 rfl rfl)
theorem dX0_pieces_4 : decode cX0_pieces 4 = .ok (.invokevirtual 445, 3) := dk_182 1 189 (dk_at dksX0_pieces_0 4 rfl rfl)
theorem dX0_pieces_7 : decode cX0_pieces 7 = .ok (.ifCond .ne 6, 3) := dk_154 0 6 (dk_at dksX0_pieces_0 7 rfl rfl)
theorem dX0_pieces_10 : decode cX0_pieces 10 = .ok (.bipush (-2), 2) := dk_16 254 (dk_at dksX0_pieces_0 10 rfl rfl)
theorem dX0_pieces_12 : decode cX0_pieces 12 = .ok (.ireturn, 1) := dk_172 (dk_at dksX0_pieces_0 12 rfl rfl)
theorem dX0_pieces_13 : decode cX0_pieces 13 = .ok (.aload_n 0, 1) := dk_42 (dk_at dksX0_pieces_0 13 rfl rfl)
theorem dX0_pieces_14 : decode cX0_pieces 14 = .ok (.invokevirtual 449, 3) := dk_182 1 193 (dk_at dksX0_pieces_0 14 rfl rfl)
theorem dX0_pieces_17 : decode cX0_pieces 17 = .ok (.aload_n 0, 1) := dk_42 (dk_at dksX0_pieces_0 17 rfl rfl)
theorem dX0_pieces_18 : decode cX0_pieces 18 = .ok (.iload_n 1, 1) := dk_27 (dk_at dksX0_pieces_0 18 rfl rfl)
theorem dX0_pieces_19 : decode cX0_pieces 19 = .ok (.iload_n 2, 1) := dk_28 (dk_at dksX0_pieces_0 19 rfl rfl)
theorem dX0_pieces_20 : decode cX0_pieces 20 = .ok (.iload_n 3, 1) := dk_29 (dk_at dksX0_pieces_0 20 rfl rfl)
theorem dX0_pieces_21 : decode cX0_pieces 21 = .ok (.invokevirtual 452, 3) := dk_182 1 196 (dk_at dksX0_pieces_0 21 rfl rfl)
theorem dX0_pieces_24 : decode cX0_pieces 24 = .ok (.invokestatic 479, 3) := dk_184 1 223 (dk_at dksX0_pieces_1 0 rfl rfl)
theorem dX0_pieces_27 : decode cX0_pieces 27 = .ok (.ireturn, 1) := dk_172 (dk_at dksX0_pieces_1 3 rfl rfl)
abbrev cX0_piecesOf : ByteArray := prog_1_method_51_code
def yX0_piecesOf : MethodName := ⟨RX0, "piecesOf", "(J)I"⟩
def dkwX0_piecesOf_1 : List UInt8 := [167, 255, 238, 28, 172]
abbrev dktX0_piecesOf_1 : List UInt8 := dkwX0_piecesOf_1 ++ []
def dkwX0_piecesOf_0 : List UInt8 := [3, 61, 30, 66, 33, 9, 148, 153, 0, 18, 33, 33, 184, 1, 215, 184, 1, 219, 66, 132, 2, 1]
abbrev dktX0_piecesOf_0 : List UInt8 := dkwX0_piecesOf_0 ++ dktX0_piecesOf_1
theorem dksX0_piecesOf_0 : cX0_piecesOf.data.toList.drop 0 = dktX0_piecesOf_0 := by decide +kernel
theorem dksX0_piecesOf_1 : cX0_piecesOf.data.toList.drop 22 = dktX0_piecesOf_1 := dk_seg dksX0_piecesOf_0 22 rfl rfl
theorem dX0_piecesOf_0 : decode cX0_piecesOf 0 = .ok (.iconst 0, 1) := dk_3 (dk_at dksX0_piecesOf_0 0 rfl rfl)
theorem dX0_piecesOf_1 : decode cX0_piecesOf 1 = .ok (.istore_n 2, 1) := dk_61 (dk_at dksX0_piecesOf_0 1 rfl rfl)
theorem dX0_piecesOf_2 : decode cX0_piecesOf 2 = .ok (.lload_n 0, 1) := dk_30 (dk_at dksX0_piecesOf_0 2 rfl rfl)
theorem dX0_piecesOf_3 : decode cX0_piecesOf 3 = .ok (.lstore_n 3, 1) := dk_66 (dk_at dksX0_piecesOf_0 3 rfl rfl)
theorem dX0_piecesOf_4 : decode cX0_piecesOf 4 = .ok (.lload_n 3, 1) := dk_33 (dk_at dksX0_piecesOf_0 4 rfl rfl)
theorem dX0_piecesOf_5 : decode cX0_piecesOf 5 = .ok (.lconst 0, 1) := dk_9 (dk_at dksX0_piecesOf_0 5 rfl rfl)
theorem dX0_piecesOf_6 : decode cX0_piecesOf 6 = .ok (.lcmp, 1) := dk_148 (dk_at dksX0_piecesOf_0 6 rfl rfl)
theorem dX0_piecesOf_7 : decode cX0_piecesOf 7 = .ok (.ifCond .eq 18, 3) := dk_153 0 18 (dk_at dksX0_piecesOf_0 7 rfl rfl)
theorem dX0_piecesOf_10 : decode cX0_piecesOf 10 = .ok (.lload_n 3, 1) := dk_33 (dk_at dksX0_piecesOf_0 10 rfl rfl)
theorem dX0_piecesOf_11 : decode cX0_piecesOf 11 = .ok (.lload_n 3, 1) := dk_33 (dk_at dksX0_piecesOf_0 11 rfl rfl)
theorem dX0_piecesOf_12 : decode cX0_piecesOf 12 = .ok (.invokestatic 471, 3) := dk_184 1 215 (dk_at dksX0_piecesOf_0 12 rfl rfl)
theorem dX0_piecesOf_15 : decode cX0_piecesOf 15 = .ok (.invokestatic 475, 3) := dk_184 1 219 (dk_at dksX0_piecesOf_0 15 rfl rfl)
theorem dX0_piecesOf_18 : decode cX0_piecesOf 18 = .ok (.lstore_n 3, 1) := dk_66 (dk_at dksX0_piecesOf_0 18 rfl rfl)
theorem dX0_piecesOf_19 : decode cX0_piecesOf 19 = .ok (.iinc 2 1, 3) := dk_132 2 1 (dk_at dksX0_piecesOf_0 19 rfl rfl)
theorem dX0_piecesOf_22 : decode cX0_piecesOf 22 = .ok (.goto (-18), 3) := dk_167 255 238 (dk_at dksX0_piecesOf_1 0 rfl rfl)
theorem dX0_piecesOf_25 : decode cX0_piecesOf 25 = .ok (.iload_n 2, 1) := dk_28 (dk_at dksX0_piecesOf_1 3 rfl rfl)
theorem dX0_piecesOf_26 : decode cX0_piecesOf 26 = .ok (.ireturn, 1) := dk_172 (dk_at dksX0_piecesOf_1 4 rfl rfl)
abbrev cX0_piece : ByteArray := prog_1_method_49_code
def yX0_piece : MethodName := ⟨RX0, "piece", "(J)LStrideTurns$Section;"⟩
def dkwX0_piece_3 : List UInt8 := [167, 255, 225, 187, 1, 56, 89, 28, 21, 5, 21, 6, 183, 1, 207, 176]
abbrev dktX0_piece_3 : List UInt8 := dkwX0_piece_3 ++ []
def dkwX0_piece_2 : List UInt8 := [162, 0, 25, 30, 28, 21, 6, 21, 5, 104, 96, 123, 10, 127, 10, 148, 154, 0, 9, 132, 6, 1]
abbrev dktX0_piece_2 : List UInt8 := dkwX0_piece_2 ++ dktX0_piece_3
def dkwX0_piece_1 : List UInt8 := [183, 1, 207, 176, 33, 184, 1, 204, 28, 100, 54, 5, 3, 54, 6, 28, 21, 6, 21, 5, 104, 96, 16, 24]
abbrev dktX0_piece_1 : List UInt8 := dkwX0_piece_1 ++ dktX0_piece_2
def dkwX0_piece_0 : List UInt8 := [30, 184, 1, 204, 61, 30, 30, 10, 101, 127, 66, 33, 9, 148, 154, 0, 14, 187, 1, 56, 89, 28, 4, 4]
abbrev dktX0_piece_0 : List UInt8 := dkwX0_piece_0 ++ dktX0_piece_1
theorem dksX0_piece_0 : cX0_piece.data.toList.drop 0 = dktX0_piece_0 := by decide +kernel
theorem dksX0_piece_1 : cX0_piece.data.toList.drop 24 = dktX0_piece_1 := dk_seg dksX0_piece_0 24 rfl rfl
theorem dksX0_piece_2 : cX0_piece.data.toList.drop 48 = dktX0_piece_2 := dk_seg dksX0_piece_1 24 rfl rfl
theorem dksX0_piece_3 : cX0_piece.data.toList.drop 70 = dktX0_piece_3 := dk_seg dksX0_piece_2 22 rfl rfl
theorem dX0_piece_0 : decode cX0_piece 0 = .ok (.lload_n 0, 1) := dk_30 (dk_at dksX0_piece_0 0 rfl rfl)
theorem dX0_piece_1 : decode cX0_piece 1 = .ok (.invokestatic 460, 3) := dk_184 1 204 (dk_at dksX0_piece_0 1 rfl rfl)
theorem dX0_piece_4 : decode cX0_piece 4 = .ok (.istore_n 2, 1) := dk_61 (dk_at dksX0_piece_0 4 rfl rfl)
theorem dX0_piece_5 : decode cX0_piece 5 = .ok (.lload_n 0, 1) := dk_30 (dk_at dksX0_piece_0 5 rfl rfl)
theorem dX0_piece_6 : decode cX0_piece 6 = .ok (.lload_n 0, 1) := dk_30 (dk_at dksX0_piece_0 6 rfl rfl)
theorem dX0_piece_7 : decode cX0_piece 7 = .ok (.lconst 1, 1) := dk_10 (dk_at dksX0_piece_0 7 rfl rfl)
theorem dX0_piece_8 : decode cX0_piece 8 = .ok (.lsub, 1) := dk_101 (dk_at dksX0_piece_0 8 rfl rfl)
theorem dX0_piece_9 : decode cX0_piece 9 = .ok (.land, 1) := dk_127 (dk_at dksX0_piece_0 9 rfl rfl)
theorem dX0_piece_10 : decode cX0_piece 10 = .ok (.lstore_n 3, 1) := dk_66 (dk_at dksX0_piece_0 10 rfl rfl)
theorem dX0_piece_11 : decode cX0_piece 11 = .ok (.lload_n 3, 1) := dk_33 (dk_at dksX0_piece_0 11 rfl rfl)
theorem dX0_piece_12 : decode cX0_piece 12 = .ok (.lconst 0, 1) := dk_9 (dk_at dksX0_piece_0 12 rfl rfl)
theorem dX0_piece_13 : decode cX0_piece 13 = .ok (.lcmp, 1) := dk_148 (dk_at dksX0_piece_0 13 rfl rfl)
theorem dX0_piece_14 : decode cX0_piece 14 = .ok (.ifCond .ne 14, 3) := dk_154 0 14 (dk_at dksX0_piece_0 14 rfl rfl)
theorem dX0_piece_17 : decode cX0_piece 17 = .ok (.new 312, 3) := dk_187 1 56 (dk_at dksX0_piece_0 17 rfl rfl)
theorem dX0_piece_20 : decode cX0_piece 20 = .ok (.dup, 1) := dk_89 (dk_at dksX0_piece_0 20 rfl rfl)
theorem dX0_piece_21 : decode cX0_piece 21 = .ok (.iload_n 2, 1) := dk_28 (dk_at dksX0_piece_0 21 rfl rfl)
theorem dX0_piece_22 : decode cX0_piece 22 = .ok (.iconst 1, 1) := dk_4 (dk_at dksX0_piece_0 22 rfl rfl)
theorem dX0_piece_23 : decode cX0_piece 23 = .ok (.iconst 1, 1) := dk_4 (dk_at dksX0_piece_0 23 rfl rfl)
theorem dX0_piece_24 : decode cX0_piece 24 = .ok (.invokespecial 463, 3) := dk_183 1 207 (dk_at dksX0_piece_1 0 rfl rfl)
theorem dX0_piece_27 : decode cX0_piece 27 = .ok (.areturn, 1) := dk_176 (dk_at dksX0_piece_1 3 rfl rfl)
theorem dX0_piece_28 : decode cX0_piece 28 = .ok (.lload_n 3, 1) := dk_33 (dk_at dksX0_piece_1 4 rfl rfl)
theorem dX0_piece_29 : decode cX0_piece 29 = .ok (.invokestatic 460, 3) := dk_184 1 204 (dk_at dksX0_piece_1 5 rfl rfl)
theorem dX0_piece_32 : decode cX0_piece 32 = .ok (.iload_n 2, 1) := dk_28 (dk_at dksX0_piece_1 8 rfl rfl)
theorem dX0_piece_33 : decode cX0_piece 33 = .ok (.isub, 1) := dk_100 (dk_at dksX0_piece_1 9 rfl rfl)
theorem dX0_piece_34 : decode cX0_piece 34 = .ok (.istore 5, 2) := dk_54 5 (dk_at dksX0_piece_1 10 rfl rfl)
theorem dX0_piece_36 : decode cX0_piece 36 = .ok (.iconst 0, 1) := dk_3 (dk_at dksX0_piece_1 12 rfl rfl)
theorem dX0_piece_37 : decode cX0_piece 37 = .ok (.istore 6, 2) := dk_54 6 (dk_at dksX0_piece_1 13 rfl rfl)
theorem dX0_piece_39 : decode cX0_piece 39 = .ok (.iload_n 2, 1) := dk_28 (dk_at dksX0_piece_1 15 rfl rfl)
theorem dX0_piece_40 : decode cX0_piece 40 = .ok (.iload 6, 2) := dk_21 6 (dk_at dksX0_piece_1 16 rfl rfl)
theorem dX0_piece_42 : decode cX0_piece 42 = .ok (.iload 5, 2) := dk_21 5 (dk_at dksX0_piece_1 18 rfl rfl)
theorem dX0_piece_44 : decode cX0_piece 44 = .ok (.imul, 1) := dk_104 (dk_at dksX0_piece_1 20 rfl rfl)
theorem dX0_piece_45 : decode cX0_piece 45 = .ok (.iadd, 1) := dk_96 (dk_at dksX0_piece_1 21 rfl rfl)
theorem dX0_piece_46 : decode cX0_piece 46 = .ok (.bipush 24, 2) := dk_16 24 (dk_at dksX0_piece_1 22 rfl rfl)
theorem dX0_piece_48 : decode cX0_piece 48 = .ok (.if_icmp .ge 25, 3) := dk_162 0 25 (dk_at dksX0_piece_2 0 rfl rfl)
theorem dX0_piece_51 : decode cX0_piece 51 = .ok (.lload_n 0, 1) := dk_30 (dk_at dksX0_piece_2 3 rfl rfl)
theorem dX0_piece_52 : decode cX0_piece 52 = .ok (.iload_n 2, 1) := dk_28 (dk_at dksX0_piece_2 4 rfl rfl)
theorem dX0_piece_53 : decode cX0_piece 53 = .ok (.iload 6, 2) := dk_21 6 (dk_at dksX0_piece_2 5 rfl rfl)
theorem dX0_piece_55 : decode cX0_piece 55 = .ok (.iload 5, 2) := dk_21 5 (dk_at dksX0_piece_2 7 rfl rfl)
theorem dX0_piece_57 : decode cX0_piece 57 = .ok (.imul, 1) := dk_104 (dk_at dksX0_piece_2 9 rfl rfl)
theorem dX0_piece_58 : decode cX0_piece 58 = .ok (.iadd, 1) := dk_96 (dk_at dksX0_piece_2 10 rfl rfl)
theorem dX0_piece_59 : decode cX0_piece 59 = .ok (.lshr, 1) := dk_123 (dk_at dksX0_piece_2 11 rfl rfl)
theorem dX0_piece_60 : decode cX0_piece 60 = .ok (.lconst 1, 1) := dk_10 (dk_at dksX0_piece_2 12 rfl rfl)
theorem dX0_piece_61 : decode cX0_piece 61 = .ok (.land, 1) := dk_127 (dk_at dksX0_piece_2 13 rfl rfl)
theorem dX0_piece_62 : decode cX0_piece 62 = .ok (.lconst 1, 1) := dk_10 (dk_at dksX0_piece_2 14 rfl rfl)
theorem dX0_piece_63 : decode cX0_piece 63 = .ok (.lcmp, 1) := dk_148 (dk_at dksX0_piece_2 15 rfl rfl)
theorem dX0_piece_64 : decode cX0_piece 64 = .ok (.ifCond .ne 9, 3) := dk_154 0 9 (dk_at dksX0_piece_2 16 rfl rfl)
theorem dX0_piece_67 : decode cX0_piece 67 = .ok (.iinc 6 1, 3) := dk_132 6 1 (dk_at dksX0_piece_2 19 rfl rfl)
theorem dX0_piece_70 : decode cX0_piece 70 = .ok (.goto (-31), 3) := dk_167 255 225 (dk_at dksX0_piece_3 0 rfl rfl)
theorem dX0_piece_73 : decode cX0_piece 73 = .ok (.new 312, 3) := dk_187 1 56 (dk_at dksX0_piece_3 3 rfl rfl)
theorem dX0_piece_76 : decode cX0_piece 76 = .ok (.dup, 1) := dk_89 (dk_at dksX0_piece_3 6 rfl rfl)
theorem dX0_piece_77 : decode cX0_piece 77 = .ok (.iload_n 2, 1) := dk_28 (dk_at dksX0_piece_3 7 rfl rfl)
theorem dX0_piece_78 : decode cX0_piece 78 = .ok (.iload 5, 2) := dk_21 5 (dk_at dksX0_piece_3 8 rfl rfl)
theorem dX0_piece_80 : decode cX0_piece 80 = .ok (.iload 6, 2) := dk_21 6 (dk_at dksX0_piece_3 10 rfl rfl)
theorem dX0_piece_82 : decode cX0_piece 82 = .ok (.invokespecial 463, 3) := dk_183 1 207 (dk_at dksX0_piece_3 12 rfl rfl)
theorem dX0_piece_85 : decode cX0_piece 85 = .ok (.areturn, 1) := dk_176 (dk_at dksX0_piece_3 15 rfl rfl)
abbrev cX0_without : ByteArray := prog_1_method_50_code
def yX0_without : MethodName := ⟨RX0, "without", "(JLStrideTurns$Section;)J"⟩
def dkwX0_without_1 : List UInt8 := [180, 1, 212, 104, 96, 121, 20, 1, 24, 131, 127, 66, 132, 5, 1, 167, 255, 223, 33, 173]
abbrev dktX0_without_1 : List UInt8 := dkwX0_without_1 ++ []
def dkwX0_without_0 : List UInt8 := [30, 66, 3, 54, 5, 21, 5, 44, 180, 1, 76, 162, 0, 30, 33, 10, 44, 180, 1, 209, 21, 5, 44]
abbrev dktX0_without_0 : List UInt8 := dkwX0_without_0 ++ dktX0_without_1
theorem dksX0_without_0 : cX0_without.data.toList.drop 0 = dktX0_without_0 := by decide +kernel
theorem dksX0_without_1 : cX0_without.data.toList.drop 23 = dktX0_without_1 := dk_seg dksX0_without_0 23 rfl rfl
theorem dX0_without_0 : decode cX0_without 0 = .ok (.lload_n 0, 1) := dk_30 (dk_at dksX0_without_0 0 rfl rfl)
theorem dX0_without_1 : decode cX0_without 1 = .ok (.lstore_n 3, 1) := dk_66 (dk_at dksX0_without_0 1 rfl rfl)
theorem dX0_without_2 : decode cX0_without 2 = .ok (.iconst 0, 1) := dk_3 (dk_at dksX0_without_0 2 rfl rfl)
theorem dX0_without_3 : decode cX0_without 3 = .ok (.istore 5, 2) := dk_54 5 (dk_at dksX0_without_0 3 rfl rfl)
theorem dX0_without_5 : decode cX0_without 5 = .ok (.iload 5, 2) := dk_21 5 (dk_at dksX0_without_0 5 rfl rfl)
theorem dX0_without_7 : decode cX0_without 7 = .ok (.aload_n 2, 1) := dk_44 (dk_at dksX0_without_0 7 rfl rfl)
theorem dX0_without_8 : decode cX0_without 8 = .ok (.getfield 332, 3) := dk_180 1 76 (dk_at dksX0_without_0 8 rfl rfl)
theorem dX0_without_11 : decode cX0_without 11 = .ok (.if_icmp .ge 30, 3) := dk_162 0 30 (dk_at dksX0_without_0 11 rfl rfl)
theorem dX0_without_14 : decode cX0_without 14 = .ok (.lload_n 3, 1) := dk_33 (dk_at dksX0_without_0 14 rfl rfl)
theorem dX0_without_15 : decode cX0_without 15 = .ok (.lconst 1, 1) := dk_10 (dk_at dksX0_without_0 15 rfl rfl)
theorem dX0_without_16 : decode cX0_without 16 = .ok (.aload_n 2, 1) := dk_44 (dk_at dksX0_without_0 16 rfl rfl)
theorem dX0_without_17 : decode cX0_without 17 = .ok (.getfield 465, 3) := dk_180 1 209 (dk_at dksX0_without_0 17 rfl rfl)
theorem dX0_without_20 : decode cX0_without 20 = .ok (.iload 5, 2) := dk_21 5 (dk_at dksX0_without_0 20 rfl rfl)
theorem dX0_without_22 : decode cX0_without 22 = .ok (.aload_n 2, 1) := dk_44 (dk_at dksX0_without_0 22 rfl rfl)
theorem dX0_without_23 : decode cX0_without 23 = .ok (.getfield 468, 3) := dk_180 1 212 (dk_at dksX0_without_1 0 rfl rfl)
theorem dX0_without_26 : decode cX0_without 26 = .ok (.imul, 1) := dk_104 (dk_at dksX0_without_1 3 rfl rfl)
theorem dX0_without_27 : decode cX0_without 27 = .ok (.iadd, 1) := dk_96 (dk_at dksX0_without_1 4 rfl rfl)
theorem dX0_without_28 : decode cX0_without 28 = .ok (.lshl, 1) := dk_121 (dk_at dksX0_without_1 5 rfl rfl)
theorem dX0_without_29 : decode cX0_without 29 = .ok (.ldc2_w 280, 3) := dk_20 1 24 (dk_at dksX0_without_1 6 rfl rfl)
theorem dX0_without_32 : decode cX0_without 32 = .ok (.lxor, 1) := dk_131 (dk_at dksX0_without_1 9 rfl rfl)
theorem dX0_without_33 : decode cX0_without 33 = .ok (.land, 1) := dk_127 (dk_at dksX0_without_1 10 rfl rfl)
theorem dX0_without_34 : decode cX0_without 34 = .ok (.lstore_n 3, 1) := dk_66 (dk_at dksX0_without_1 11 rfl rfl)
theorem dX0_without_35 : decode cX0_without 35 = .ok (.iinc 5 1, 3) := dk_132 5 1 (dk_at dksX0_without_1 12 rfl rfl)
theorem dX0_without_38 : decode cX0_without 38 = .ok (.goto (-33), 3) := dk_167 255 223 (dk_at dksX0_without_1 15 rfl rfl)
theorem dX0_without_41 : decode cX0_without 41 = .ok (.lload_n 3, 1) := dk_33 (dk_at dksX0_without_1 18 rfl rfl)
theorem dX0_without_42 : decode cX0_without 42 = .ok (.lreturn, 1) := dk_173 (dk_at dksX0_without_1 19 rfl rfl)
abbrev cX0_piece_2 : ByteArray := prog_1_method_53_code
def yX0_piece_2 : MethodName := ⟨RX0, "piece", "(IIIII)I"⟩
def dkwX0_piece_2_4 : List UInt8 := [22, 6, 184, 1, 215, 21, 5, 182, 1, 71, 172]
abbrev dktX0_piece_2_4 : List UInt8 := dkwX0_piece_2_4 ++ []
def dkwX0_piece_2_3 : List UInt8 := [184, 1, 219, 55, 6, 132, 8, 1, 167, 255, 227, 22, 6, 9, 148, 154, 0, 8, 16, 254, 167, 0, 13]
abbrev dktX0_piece_2_3 : List UInt8 := dkwX0_piece_2_3 ++ dktX0_piece_2_4
def dkwX0_piece_2_2 : List UInt8 := [54, 8, 21, 8, 21, 4, 162, 0, 28, 22, 6, 9, 148, 153, 0, 21, 22, 6, 22, 6, 184, 1, 215]
abbrev dktX0_piece_2_2 : List UInt8 := dkwX0_piece_2_2 ++ dktX0_piece_2_3
def dkwX0_piece_2_1 : List UInt8 := [184, 0, 90, 154, 0, 6, 16, 254, 172, 42, 182, 1, 193, 42, 27, 28, 29, 182, 1, 196, 55, 6, 3]
abbrev dktX0_piece_2_1 : List UInt8 := dkwX0_piece_2_1 ++ dktX0_piece_2_2
def dkwX0_piece_2_0 : List UInt8 := [42, 27, 28, 29, 182, 1, 189, 153, 0, 21, 21, 4, 155, 0, 16, 21, 5, 133, 9, 20, 0, 224]
abbrev dktX0_piece_2_0 : List UInt8 := dkwX0_piece_2_0 ++ dktX0_piece_2_1
theorem dksX0_piece_2_0 : cX0_piece_2.data.toList.drop 0 = dktX0_piece_2_0 := by decide +kernel
theorem dksX0_piece_2_1 : cX0_piece_2.data.toList.drop 22 = dktX0_piece_2_1 := dk_seg dksX0_piece_2_0 22 rfl rfl
theorem dksX0_piece_2_2 : cX0_piece_2.data.toList.drop 45 = dktX0_piece_2_2 := dk_seg dksX0_piece_2_1 23 rfl rfl
theorem dksX0_piece_2_3 : cX0_piece_2.data.toList.drop 68 = dktX0_piece_2_3 := dk_seg dksX0_piece_2_2 23 rfl rfl
theorem dksX0_piece_2_4 : cX0_piece_2.data.toList.drop 91 = dktX0_piece_2_4 := dk_seg dksX0_piece_2_3 23 rfl rfl
theorem dX0_piece_2_0 : decode cX0_piece_2 0 = .ok (.aload_n 0, 1) := dk_42 (dk_at dksX0_piece_2_0 0 rfl rfl)
theorem dX0_piece_2_1 : decode cX0_piece_2 1 = .ok (.iload_n 1, 1) := dk_27 (dk_at dksX0_piece_2_0 1 rfl rfl)
theorem dX0_piece_2_2 : decode cX0_piece_2 2 = .ok (.iload_n 2, 1) := dk_28 (dk_at dksX0_piece_2_0 2 rfl rfl)
theorem dX0_piece_2_3 : decode cX0_piece_2 3 = .ok (.iload_n 3, 1) := dk_29 (dk_at dksX0_piece_2_0 3 rfl rfl)
theorem dX0_piece_2_4 : decode cX0_piece_2 4 = .ok (.invokevirtual 445, 3) := dk_182 1 189 (dk_at dksX0_piece_2_0 4 rfl rfl)
theorem dX0_piece_2_7 : decode cX0_piece_2 7 = .ok (.ifCond .eq 21, 3) := dk_153 0 21 (dk_at dksX0_piece_2_0 7 rfl rfl)
theorem dX0_piece_2_10 : decode cX0_piece_2 10 = .ok (.iload 4, 2) := dk_21 4 (dk_at dksX0_piece_2_0 10 rfl rfl)
theorem dX0_piece_2_12 : decode cX0_piece_2 12 = .ok (.ifCond .lt 16, 3) := dk_155 0 16 (dk_at dksX0_piece_2_0 12 rfl rfl)
theorem dX0_piece_2_15 : decode cX0_piece_2 15 = .ok (.iload 5, 2) := dk_21 5 (dk_at dksX0_piece_2_0 15 rfl rfl)
theorem dX0_piece_2_17 : decode cX0_piece_2 17 = .ok (.i2l, 1) := dk_133 (dk_at dksX0_piece_2_0 17 rfl rfl)
theorem dX0_piece_2_18 : decode cX0_piece_2 18 = .ok (.lconst 0, 1) := dk_9 (dk_at dksX0_piece_2_0 18 rfl rfl)
theorem dX0_piece_2_19 : decode cX0_piece_2 19 = .ok (.ldc2_w 224, 3) := dk_20 0 224 (dk_at dksX0_piece_2_0 19 rfl rfl)
theorem dX0_piece_2_22 : decode cX0_piece_2 22 = .ok (.invokestatic 90, 3) := dk_184 0 90 (dk_at dksX0_piece_2_1 0 rfl rfl)
theorem dX0_piece_2_25 : decode cX0_piece_2 25 = .ok (.ifCond .ne 6, 3) := dk_154 0 6 (dk_at dksX0_piece_2_1 3 rfl rfl)
theorem dX0_piece_2_28 : decode cX0_piece_2 28 = .ok (.bipush (-2), 2) := dk_16 254 (dk_at dksX0_piece_2_1 6 rfl rfl)
theorem dX0_piece_2_30 : decode cX0_piece_2 30 = .ok (.ireturn, 1) := dk_172 (dk_at dksX0_piece_2_1 8 rfl rfl)
theorem dX0_piece_2_31 : decode cX0_piece_2 31 = .ok (.aload_n 0, 1) := dk_42 (dk_at dksX0_piece_2_1 9 rfl rfl)
theorem dX0_piece_2_32 : decode cX0_piece_2 32 = .ok (.invokevirtual 449, 3) := dk_182 1 193 (dk_at dksX0_piece_2_1 10 rfl rfl)
theorem dX0_piece_2_35 : decode cX0_piece_2 35 = .ok (.aload_n 0, 1) := dk_42 (dk_at dksX0_piece_2_1 13 rfl rfl)
theorem dX0_piece_2_36 : decode cX0_piece_2 36 = .ok (.iload_n 1, 1) := dk_27 (dk_at dksX0_piece_2_1 14 rfl rfl)
theorem dX0_piece_2_37 : decode cX0_piece_2 37 = .ok (.iload_n 2, 1) := dk_28 (dk_at dksX0_piece_2_1 15 rfl rfl)
theorem dX0_piece_2_38 : decode cX0_piece_2 38 = .ok (.iload_n 3, 1) := dk_29 (dk_at dksX0_piece_2_1 16 rfl rfl)
theorem dX0_piece_2_39 : decode cX0_piece_2 39 = .ok (.invokevirtual 452, 3) := dk_182 1 196 (dk_at dksX0_piece_2_1 17 rfl rfl)
theorem dX0_piece_2_42 : decode cX0_piece_2 42 = .ok (.lstore 6, 2) := dk_55 6 (dk_at dksX0_piece_2_1 20 rfl rfl)
theorem dX0_piece_2_44 : decode cX0_piece_2 44 = .ok (.iconst 0, 1) := dk_3 (dk_at dksX0_piece_2_1 22 rfl rfl)
theorem dX0_piece_2_45 : decode cX0_piece_2 45 = .ok (.istore 8, 2) := dk_54 8 (dk_at dksX0_piece_2_2 0 rfl rfl)
theorem dX0_piece_2_47 : decode cX0_piece_2 47 = .ok (.iload 8, 2) := dk_21 8 (dk_at dksX0_piece_2_2 2 rfl rfl)
theorem dX0_piece_2_49 : decode cX0_piece_2 49 = .ok (.iload 4, 2) := dk_21 4 (dk_at dksX0_piece_2_2 4 rfl rfl)
theorem dX0_piece_2_51 : decode cX0_piece_2 51 = .ok (.if_icmp .ge 28, 3) := dk_162 0 28 (dk_at dksX0_piece_2_2 6 rfl rfl)
theorem dX0_piece_2_54 : decode cX0_piece_2 54 = .ok (.lload 6, 2) := dk_22 6 (dk_at dksX0_piece_2_2 9 rfl rfl)
theorem dX0_piece_2_56 : decode cX0_piece_2 56 = .ok (.lconst 0, 1) := dk_9 (dk_at dksX0_piece_2_2 11 rfl rfl)
theorem dX0_piece_2_57 : decode cX0_piece_2 57 = .ok (.lcmp, 1) := dk_148 (dk_at dksX0_piece_2_2 12 rfl rfl)
theorem dX0_piece_2_58 : decode cX0_piece_2 58 = .ok (.ifCond .eq 21, 3) := dk_153 0 21 (dk_at dksX0_piece_2_2 13 rfl rfl)
theorem dX0_piece_2_61 : decode cX0_piece_2 61 = .ok (.lload 6, 2) := dk_22 6 (dk_at dksX0_piece_2_2 16 rfl rfl)
theorem dX0_piece_2_63 : decode cX0_piece_2 63 = .ok (.lload 6, 2) := dk_22 6 (dk_at dksX0_piece_2_2 18 rfl rfl)
theorem dX0_piece_2_65 : decode cX0_piece_2 65 = .ok (.invokestatic 471, 3) := dk_184 1 215 (dk_at dksX0_piece_2_2 20 rfl rfl)
theorem dX0_piece_2_68 : decode cX0_piece_2 68 = .ok (.invokestatic 475, 3) := dk_184 1 219 (dk_at dksX0_piece_2_3 0 rfl rfl)
theorem dX0_piece_2_71 : decode cX0_piece_2 71 = .ok (.lstore 6, 2) := dk_55 6 (dk_at dksX0_piece_2_3 3 rfl rfl)
theorem dX0_piece_2_73 : decode cX0_piece_2 73 = .ok (.iinc 8 1, 3) := dk_132 8 1 (dk_at dksX0_piece_2_3 5 rfl rfl)
theorem dX0_piece_2_76 : decode cX0_piece_2 76 = .ok (.goto (-29), 3) := dk_167 255 227 (dk_at dksX0_piece_2_3 8 rfl rfl)
theorem dX0_piece_2_79 : decode cX0_piece_2 79 = .ok (.lload 6, 2) := dk_22 6 (dk_at dksX0_piece_2_3 11 rfl rfl)
theorem dX0_piece_2_81 : decode cX0_piece_2 81 = .ok (.lconst 0, 1) := dk_9 (dk_at dksX0_piece_2_3 13 rfl rfl)
theorem dX0_piece_2_82 : decode cX0_piece_2 82 = .ok (.lcmp, 1) := dk_148 (dk_at dksX0_piece_2_3 14 rfl rfl)
theorem dX0_piece_2_83 : decode cX0_piece_2 83 = .ok (.ifCond .ne 8, 3) := dk_154 0 8 (dk_at dksX0_piece_2_3 15 rfl rfl)
theorem dX0_piece_2_86 : decode cX0_piece_2 86 = .ok (.bipush (-2), 2) := dk_16 254 (dk_at dksX0_piece_2_3 18 rfl rfl)
theorem dX0_piece_2_88 : decode cX0_piece_2 88 = .ok (.goto 13, 3) := dk_167 0 13 (dk_at dksX0_piece_2_3 20 rfl rfl)
theorem dX0_piece_2_91 : decode cX0_piece_2 91 = .ok (.lload 6, 2) := dk_22 6 (dk_at dksX0_piece_2_4 0 rfl rfl)
theorem dX0_piece_2_93 : decode cX0_piece_2 93 = .ok (.invokestatic 471, 3) := dk_184 1 215 (dk_at dksX0_piece_2_4 2 rfl rfl)
theorem dX0_piece_2_96 : decode cX0_piece_2 96 = .ok (.iload 5, 2) := dk_21 5 (dk_at dksX0_piece_2_4 5 rfl rfl)
theorem dX0_piece_2_98 : decode cX0_piece_2 98 = .ok (.invokevirtual 327, 3) := dk_182 1 71 (dk_at dksX0_piece_2_4 7 rfl rfl)
theorem dX0_piece_2_101 : decode cX0_piece_2 101 = .ok (.ireturn, 1) := dk_172 (dk_at dksX0_piece_2_4 10 rfl rfl)
abbrev cX0_verdict : ByteArray := prog_1_method_59_code
def yX0_verdict : MethodName := ⟨RX0, "verdict", "(I)I"⟩
def dkwX0_verdict_0 : List UInt8 := [27, 184, 0, 106, 154, 0, 6, 16, 254, 172, 42, 182, 1, 193, 42, 27, 182, 1, 246, 172]
abbrev dktX0_verdict_0 : List UInt8 := dkwX0_verdict_0 ++ []
theorem dksX0_verdict_0 : cX0_verdict.data.toList.drop 0 = dktX0_verdict_0 := by decide +kernel
theorem dX0_verdict_0 : decode cX0_verdict 0 = .ok (.iload_n 1, 1) := dk_27 (dk_at dksX0_verdict_0 0 rfl rfl)
theorem dX0_verdict_1 : decode cX0_verdict 1 = .ok (.invokestatic 106, 3) := dk_184 0 106 (dk_at dksX0_verdict_0 1 rfl rfl)
theorem dX0_verdict_4 : decode cX0_verdict 4 = .ok (.ifCond .ne 6, 3) := dk_154 0 6 (dk_at dksX0_verdict_0 4 rfl rfl)
theorem dX0_verdict_7 : decode cX0_verdict 7 = .ok (.bipush (-2), 2) := dk_16 254 (dk_at dksX0_verdict_0 7 rfl rfl)
theorem dX0_verdict_9 : decode cX0_verdict 9 = .ok (.ireturn, 1) := dk_172 (dk_at dksX0_verdict_0 9 rfl rfl)
theorem dX0_verdict_10 : decode cX0_verdict 10 = .ok (.aload_n 0, 1) := dk_42 (dk_at dksX0_verdict_0 10 rfl rfl)
theorem dX0_verdict_11 : decode cX0_verdict 11 = .ok (.invokevirtual 449, 3) := dk_182 1 193 (dk_at dksX0_verdict_0 11 rfl rfl)
theorem dX0_verdict_14 : decode cX0_verdict 14 = .ok (.aload_n 0, 1) := dk_42 (dk_at dksX0_verdict_0 14 rfl rfl)
theorem dX0_verdict_15 : decode cX0_verdict 15 = .ok (.iload_n 1, 1) := dk_27 (dk_at dksX0_verdict_0 15 rfl rfl)
theorem dX0_verdict_16 : decode cX0_verdict 16 = .ok (.invokevirtual 502, 3) := dk_182 1 246 (dk_at dksX0_verdict_0 16 rfl rfl)
theorem dX0_verdict_19 : decode cX0_verdict 19 = .ok (.ireturn, 1) := dk_172 (dk_at dksX0_verdict_0 19 rfl rfl)
abbrev cX0_verdictOf : ByteArray := prog_1_method_58_code
def yX0_verdictOf : MethodName := ⟨RX0, "verdictOf", "(I)I"⟩
def dkwX0_verdictOf_0 : List UInt8 := [42, 27, 182, 1, 135, 77, 44, 199, 0, 7, 3, 167, 0, 12, 42, 27, 44, 180, 1, 240, 182, 1, 243, 172]
abbrev dktX0_verdictOf_0 : List UInt8 := dkwX0_verdictOf_0 ++ []
theorem dksX0_verdictOf_0 : cX0_verdictOf.data.toList.drop 0 = dktX0_verdictOf_0 := by decide +kernel
theorem dX0_verdictOf_0 : decode cX0_verdictOf 0 = .ok (.aload_n 0, 1) := dk_42 (dk_at dksX0_verdictOf_0 0 rfl rfl)
theorem dX0_verdictOf_1 : decode cX0_verdictOf 1 = .ok (.iload_n 1, 1) := dk_27 (dk_at dksX0_verdictOf_0 1 rfl rfl)
theorem dX0_verdictOf_2 : decode cX0_verdictOf 2 = .ok (.invokevirtual 391, 3) := dk_182 1 135 (dk_at dksX0_verdictOf_0 2 rfl rfl)
theorem dX0_verdictOf_5 : decode cX0_verdictOf 5 = .ok (.astore_n 2, 1) := dk_77 (dk_at dksX0_verdictOf_0 5 rfl rfl)
theorem dX0_verdictOf_6 : decode cX0_verdictOf 6 = .ok (.aload_n 2, 1) := dk_44 (dk_at dksX0_verdictOf_0 6 rfl rfl)
theorem dX0_verdictOf_7 : decode cX0_verdictOf 7 = .ok (.ifnonnull 7, 3) := dk_199 0 7 (dk_at dksX0_verdictOf_0 7 rfl rfl)
theorem dX0_verdictOf_10 : decode cX0_verdictOf 10 = .ok (.iconst 0, 1) := dk_3 (dk_at dksX0_verdictOf_0 10 rfl rfl)
theorem dX0_verdictOf_11 : decode cX0_verdictOf 11 = .ok (.goto 12, 3) := dk_167 0 12 (dk_at dksX0_verdictOf_0 11 rfl rfl)
theorem dX0_verdictOf_14 : decode cX0_verdictOf 14 = .ok (.aload_n 0, 1) := dk_42 (dk_at dksX0_verdictOf_0 14 rfl rfl)
theorem dX0_verdictOf_15 : decode cX0_verdictOf 15 = .ok (.iload_n 1, 1) := dk_27 (dk_at dksX0_verdictOf_0 15 rfl rfl)
theorem dX0_verdictOf_16 : decode cX0_verdictOf 16 = .ok (.aload_n 2, 1) := dk_44 (dk_at dksX0_verdictOf_0 16 rfl rfl)
theorem dX0_verdictOf_17 : decode cX0_verdictOf 17 = .ok (.getfield 496, 3) := dk_180 1 240 (dk_at dksX0_verdictOf_0 17 rfl rfl)
theorem dX0_verdictOf_20 : decode cX0_verdictOf 20 = .ok (.invokevirtual 499, 3) := dk_182 1 243 (dk_at dksX0_verdictOf_0 20 rfl rfl)
theorem dX0_verdictOf_23 : decode cX0_verdictOf 23 = .ok (.ireturn, 1) := dk_172 (dk_at dksX0_verdictOf_0 23 rfl rfl)
abbrev cX0_verdictBy : ByteArray := prog_1_method_57_code
def yX0_verdictBy : MethodName := ⟨RX0, "verdictBy", "(II)I"⟩
def dkwX0_verdictBy_2 : List UInt8 := [7, 172]
abbrev dktX0_verdictBy_2 : List UInt8 := dkwX0_verdictBy_2 ++ []
def dkwX0_verdictBy_1 : List UInt8 := [42, 27, 28, 182, 1, 235, 153, 0, 5, 5, 172, 42, 27, 182, 1, 238, 2, 160, 0, 7, 6, 167, 0, 4]
abbrev dktX0_verdictBy_1 : List UInt8 := dkwX0_verdictBy_1 ++ dktX0_verdictBy_2
def dkwX0_verdictBy_0 : List UInt8 := [42, 4, 27, 2, 182, 1, 196, 9, 148, 154, 0, 5, 3, 172, 42, 27, 182, 1, 232, 153, 0, 5, 4, 172]
abbrev dktX0_verdictBy_0 : List UInt8 := dkwX0_verdictBy_0 ++ dktX0_verdictBy_1
theorem dksX0_verdictBy_0 : cX0_verdictBy.data.toList.drop 0 = dktX0_verdictBy_0 := by decide +kernel
theorem dksX0_verdictBy_1 : cX0_verdictBy.data.toList.drop 24 = dktX0_verdictBy_1 := dk_seg dksX0_verdictBy_0 24 rfl rfl
theorem dksX0_verdictBy_2 : cX0_verdictBy.data.toList.drop 48 = dktX0_verdictBy_2 := dk_seg dksX0_verdictBy_1 24 rfl rfl
theorem dX0_verdictBy_0 : decode cX0_verdictBy 0 = .ok (.aload_n 0, 1) := dk_42 (dk_at dksX0_verdictBy_0 0 rfl rfl)
theorem dX0_verdictBy_1 : decode cX0_verdictBy 1 = .ok (.iconst 1, 1) := dk_4 (dk_at dksX0_verdictBy_0 1 rfl rfl)
theorem dX0_verdictBy_2 : decode cX0_verdictBy 2 = .ok (.iload_n 1, 1) := dk_27 (dk_at dksX0_verdictBy_0 2 rfl rfl)
theorem dX0_verdictBy_3 : decode cX0_verdictBy 3 = .ok (.iconst (-1), 1) := dk_2 (dk_at dksX0_verdictBy_0 3 rfl rfl)
theorem dX0_verdictBy_4 : decode cX0_verdictBy 4 = .ok (.invokevirtual 452, 3) := dk_182 1 196 (dk_at dksX0_verdictBy_0 4 rfl rfl)
theorem dX0_verdictBy_7 : decode cX0_verdictBy 7 = .ok (.lconst 0, 1) := dk_9 (dk_at dksX0_verdictBy_0 7 rfl rfl)
theorem dX0_verdictBy_8 : decode cX0_verdictBy 8 = .ok (.lcmp, 1) := dk_148 (dk_at dksX0_verdictBy_0 8 rfl rfl)
theorem dX0_verdictBy_9 : decode cX0_verdictBy 9 = .ok (.ifCond .ne 5, 3) := dk_154 0 5 (dk_at dksX0_verdictBy_0 9 rfl rfl)
theorem dX0_verdictBy_12 : decode cX0_verdictBy 12 = .ok (.iconst 0, 1) := dk_3 (dk_at dksX0_verdictBy_0 12 rfl rfl)
theorem dX0_verdictBy_13 : decode cX0_verdictBy 13 = .ok (.ireturn, 1) := dk_172 (dk_at dksX0_verdictBy_0 13 rfl rfl)
theorem dX0_verdictBy_14 : decode cX0_verdictBy 14 = .ok (.aload_n 0, 1) := dk_42 (dk_at dksX0_verdictBy_0 14 rfl rfl)
theorem dX0_verdictBy_15 : decode cX0_verdictBy 15 = .ok (.iload_n 1, 1) := dk_27 (dk_at dksX0_verdictBy_0 15 rfl rfl)
theorem dX0_verdictBy_16 : decode cX0_verdictBy 16 = .ok (.invokevirtual 488, 3) := dk_182 1 232 (dk_at dksX0_verdictBy_0 16 rfl rfl)
theorem dX0_verdictBy_19 : decode cX0_verdictBy 19 = .ok (.ifCond .eq 5, 3) := dk_153 0 5 (dk_at dksX0_verdictBy_0 19 rfl rfl)
theorem dX0_verdictBy_22 : decode cX0_verdictBy 22 = .ok (.iconst 1, 1) := dk_4 (dk_at dksX0_verdictBy_0 22 rfl rfl)
theorem dX0_verdictBy_23 : decode cX0_verdictBy 23 = .ok (.ireturn, 1) := dk_172 (dk_at dksX0_verdictBy_0 23 rfl rfl)
theorem dX0_verdictBy_24 : decode cX0_verdictBy 24 = .ok (.aload_n 0, 1) := dk_42 (dk_at dksX0_verdictBy_1 0 rfl rfl)
theorem dX0_verdictBy_25 : decode cX0_verdictBy 25 = .ok (.iload_n 1, 1) := dk_27 (dk_at dksX0_verdictBy_1 1 rfl rfl)
theorem dX0_verdictBy_26 : decode cX0_verdictBy 26 = .ok (.iload_n 2, 1) := dk_28 (dk_at dksX0_verdictBy_1 2 rfl rfl)
theorem dX0_verdictBy_27 : decode cX0_verdictBy 27 = .ok (.invokevirtual 491, 3) := dk_182 1 235 (dk_at dksX0_verdictBy_1 3 rfl rfl)
theorem dX0_verdictBy_30 : decode cX0_verdictBy 30 = .ok (.ifCond .eq 5, 3) := dk_153 0 5 (dk_at dksX0_verdictBy_1 6 rfl rfl)
theorem dX0_verdictBy_33 : decode cX0_verdictBy 33 = .ok (.iconst 2, 1) := dk_5 (dk_at dksX0_verdictBy_1 9 rfl rfl)
theorem dX0_verdictBy_34 : decode cX0_verdictBy 34 = .ok (.ireturn, 1) := dk_172 (dk_at dksX0_verdictBy_1 10 rfl rfl)
theorem dX0_verdictBy_35 : decode cX0_verdictBy 35 = .ok (.aload_n 0, 1) := dk_42 (dk_at dksX0_verdictBy_1 11 rfl rfl)
theorem dX0_verdictBy_36 : decode cX0_verdictBy 36 = .ok (.iload_n 1, 1) := dk_27 (dk_at dksX0_verdictBy_1 12 rfl rfl)
theorem dX0_verdictBy_37 : decode cX0_verdictBy 37 = .ok (.invokevirtual 494, 3) := dk_182 1 238 (dk_at dksX0_verdictBy_1 13 rfl rfl)
theorem dX0_verdictBy_40 : decode cX0_verdictBy 40 = .ok (.iconst (-1), 1) := dk_2 (dk_at dksX0_verdictBy_1 16 rfl rfl)
theorem dX0_verdictBy_41 : decode cX0_verdictBy 41 = .ok (.if_icmp .ne 7, 3) := dk_160 0 7 (dk_at dksX0_verdictBy_1 17 rfl rfl)
theorem dX0_verdictBy_44 : decode cX0_verdictBy 44 = .ok (.iconst 3, 1) := dk_6 (dk_at dksX0_verdictBy_1 20 rfl rfl)
theorem dX0_verdictBy_45 : decode cX0_verdictBy 45 = .ok (.goto 4, 3) := dk_167 0 4 (dk_at dksX0_verdictBy_1 21 rfl rfl)
theorem dX0_verdictBy_48 : decode cX0_verdictBy 48 = .ok (.iconst 4, 1) := dk_7 (dk_at dksX0_verdictBy_2 0 rfl rfl)
theorem dX0_verdictBy_49 : decode cX0_verdictBy 49 = .ok (.ireturn, 1) := dk_172 (dk_at dksX0_verdictBy_2 1 rfl rfl)
abbrev cX0_isShared : ByteArray := prog_1_method_54_code
def yX0_isShared : MethodName := ⟨RX0, "isShared", "(I)Z"⟩
def dkwX0_isShared_3 : List UInt8 := [132, 3, 1, 167, 255, 194, 132, 2, 1, 167, 255, 178, 4, 172]
abbrev dktX0_isShared_3 : List UInt8 := dkwX0_isShared_3 ++ []
def dkwX0_isShared_2 : List UInt8 := [159, 0, 24, 42, 180, 0, 49, 4, 27, 28, 184, 1, 156, 47, 22, 4, 127, 9, 148, 153, 0, 5, 3, 172]
abbrev dktX0_isShared_2 : List UInt8 := dkwX0_isShared_2 ++ dktX0_isShared_3
def dkwX0_isShared_1 : List UInt8 := [3, 27, 29, 184, 1, 156, 47, 42, 180, 0, 49, 4, 27, 29, 184, 1, 156, 47, 129, 55, 4, 28, 29]
abbrev dktX0_isShared_1 : List UInt8 := dkwX0_isShared_1 ++ dktX0_isShared_2
def dkwX0_isShared_0 : List UInt8 := [3, 61, 28, 42, 180, 0, 173, 162, 0, 76, 3, 62, 29, 42, 180, 0, 173, 162, 0, 60, 42, 180, 0, 49]
abbrev dktX0_isShared_0 : List UInt8 := dkwX0_isShared_0 ++ dktX0_isShared_1
theorem dksX0_isShared_0 : cX0_isShared.data.toList.drop 0 = dktX0_isShared_0 := by decide +kernel
theorem dksX0_isShared_1 : cX0_isShared.data.toList.drop 24 = dktX0_isShared_1 := dk_seg dksX0_isShared_0 24 rfl rfl
theorem dksX0_isShared_2 : cX0_isShared.data.toList.drop 47 = dktX0_isShared_2 := dk_seg dksX0_isShared_1 23 rfl rfl
theorem dksX0_isShared_3 : cX0_isShared.data.toList.drop 71 = dktX0_isShared_3 := dk_seg dksX0_isShared_2 24 rfl rfl
theorem dX0_isShared_0 : decode cX0_isShared 0 = .ok (.iconst 0, 1) := dk_3 (dk_at dksX0_isShared_0 0 rfl rfl)
theorem dX0_isShared_1 : decode cX0_isShared 1 = .ok (.istore_n 2, 1) := dk_61 (dk_at dksX0_isShared_0 1 rfl rfl)
theorem dX0_isShared_2 : decode cX0_isShared 2 = .ok (.iload_n 2, 1) := dk_28 (dk_at dksX0_isShared_0 2 rfl rfl)
theorem dX0_isShared_3 : decode cX0_isShared 3 = .ok (.aload_n 0, 1) := dk_42 (dk_at dksX0_isShared_0 3 rfl rfl)
theorem dX0_isShared_4 : decode cX0_isShared 4 = .ok (.getfield 173, 3) := dk_180 0 173 (dk_at dksX0_isShared_0 4 rfl rfl)
theorem dX0_isShared_7 : decode cX0_isShared 7 = .ok (.if_icmp .ge 76, 3) := dk_162 0 76 (dk_at dksX0_isShared_0 7 rfl rfl)
theorem dX0_isShared_10 : decode cX0_isShared 10 = .ok (.iconst 0, 1) := dk_3 (dk_at dksX0_isShared_0 10 rfl rfl)
theorem dX0_isShared_11 : decode cX0_isShared 11 = .ok (.istore_n 3, 1) := dk_62 (dk_at dksX0_isShared_0 11 rfl rfl)
theorem dX0_isShared_12 : decode cX0_isShared 12 = .ok (.iload_n 3, 1) := dk_29 (dk_at dksX0_isShared_0 12 rfl rfl)
theorem dX0_isShared_13 : decode cX0_isShared 13 = .ok (.aload_n 0, 1) := dk_42 (dk_at dksX0_isShared_0 13 rfl rfl)
theorem dX0_isShared_14 : decode cX0_isShared 14 = .ok (.getfield 173, 3) := dk_180 0 173 (dk_at dksX0_isShared_0 14 rfl rfl)
theorem dX0_isShared_17 : decode cX0_isShared 17 = .ok (.if_icmp .ge 60, 3) := dk_162 0 60 (dk_at dksX0_isShared_0 17 rfl rfl)
theorem dX0_isShared_20 : decode cX0_isShared 20 = .ok (.aload_n 0, 1) := dk_42 (dk_at dksX0_isShared_0 20 rfl rfl)
theorem dX0_isShared_21 : decode cX0_isShared 21 = .ok (.getfield 49, 3) := dk_180 0 49 (dk_at dksX0_isShared_0 21 rfl rfl)
theorem dX0_isShared_24 : decode cX0_isShared 24 = .ok (.iconst 0, 1) := dk_3 (dk_at dksX0_isShared_1 0 rfl rfl)
theorem dX0_isShared_25 : decode cX0_isShared 25 = .ok (.iload_n 1, 1) := dk_27 (dk_at dksX0_isShared_1 1 rfl rfl)
theorem dX0_isShared_26 : decode cX0_isShared 26 = .ok (.iload_n 3, 1) := dk_29 (dk_at dksX0_isShared_1 2 rfl rfl)
theorem dX0_isShared_27 : decode cX0_isShared 27 = .ok (.invokestatic 412, 3) := dk_184 1 156 (dk_at dksX0_isShared_1 3 rfl rfl)
theorem dX0_isShared_30 : decode cX0_isShared 30 = .ok (.laload, 1) := dk_47 (dk_at dksX0_isShared_1 6 rfl rfl)
theorem dX0_isShared_31 : decode cX0_isShared 31 = .ok (.aload_n 0, 1) := dk_42 (dk_at dksX0_isShared_1 7 rfl rfl)
theorem dX0_isShared_32 : decode cX0_isShared 32 = .ok (.getfield 49, 3) := dk_180 0 49 (dk_at dksX0_isShared_1 8 rfl rfl)
theorem dX0_isShared_35 : decode cX0_isShared 35 = .ok (.iconst 1, 1) := dk_4 (dk_at dksX0_isShared_1 11 rfl rfl)
theorem dX0_isShared_36 : decode cX0_isShared 36 = .ok (.iload_n 1, 1) := dk_27 (dk_at dksX0_isShared_1 12 rfl rfl)
theorem dX0_isShared_37 : decode cX0_isShared 37 = .ok (.iload_n 3, 1) := dk_29 (dk_at dksX0_isShared_1 13 rfl rfl)
theorem dX0_isShared_38 : decode cX0_isShared 38 = .ok (.invokestatic 412, 3) := dk_184 1 156 (dk_at dksX0_isShared_1 14 rfl rfl)
theorem dX0_isShared_41 : decode cX0_isShared 41 = .ok (.laload, 1) := dk_47 (dk_at dksX0_isShared_1 17 rfl rfl)
theorem dX0_isShared_42 : decode cX0_isShared 42 = .ok (.lor, 1) := dk_129 (dk_at dksX0_isShared_1 18 rfl rfl)
theorem dX0_isShared_43 : decode cX0_isShared 43 = .ok (.lstore 4, 2) := dk_55 4 (dk_at dksX0_isShared_1 19 rfl rfl)
theorem dX0_isShared_45 : decode cX0_isShared 45 = .ok (.iload_n 2, 1) := dk_28 (dk_at dksX0_isShared_1 21 rfl rfl)
theorem dX0_isShared_46 : decode cX0_isShared 46 = .ok (.iload_n 3, 1) := dk_29 (dk_at dksX0_isShared_1 22 rfl rfl)
theorem dX0_isShared_47 : decode cX0_isShared 47 = .ok (.if_icmp .eq 24, 3) := dk_159 0 24 (dk_at dksX0_isShared_2 0 rfl rfl)
theorem dX0_isShared_50 : decode cX0_isShared 50 = .ok (.aload_n 0, 1) := dk_42 (dk_at dksX0_isShared_2 3 rfl rfl)
theorem dX0_isShared_51 : decode cX0_isShared 51 = .ok (.getfield 49, 3) := dk_180 0 49 (dk_at dksX0_isShared_2 4 rfl rfl)
theorem dX0_isShared_54 : decode cX0_isShared 54 = .ok (.iconst 1, 1) := dk_4 (dk_at dksX0_isShared_2 7 rfl rfl)
theorem dX0_isShared_55 : decode cX0_isShared 55 = .ok (.iload_n 1, 1) := dk_27 (dk_at dksX0_isShared_2 8 rfl rfl)
theorem dX0_isShared_56 : decode cX0_isShared 56 = .ok (.iload_n 2, 1) := dk_28 (dk_at dksX0_isShared_2 9 rfl rfl)
theorem dX0_isShared_57 : decode cX0_isShared 57 = .ok (.invokestatic 412, 3) := dk_184 1 156 (dk_at dksX0_isShared_2 10 rfl rfl)
theorem dX0_isShared_60 : decode cX0_isShared 60 = .ok (.laload, 1) := dk_47 (dk_at dksX0_isShared_2 13 rfl rfl)
theorem dX0_isShared_61 : decode cX0_isShared 61 = .ok (.lload 4, 2) := dk_22 4 (dk_at dksX0_isShared_2 14 rfl rfl)
theorem dX0_isShared_63 : decode cX0_isShared 63 = .ok (.land, 1) := dk_127 (dk_at dksX0_isShared_2 16 rfl rfl)
theorem dX0_isShared_64 : decode cX0_isShared 64 = .ok (.lconst 0, 1) := dk_9 (dk_at dksX0_isShared_2 17 rfl rfl)
theorem dX0_isShared_65 : decode cX0_isShared 65 = .ok (.lcmp, 1) := dk_148 (dk_at dksX0_isShared_2 18 rfl rfl)
theorem dX0_isShared_66 : decode cX0_isShared 66 = .ok (.ifCond .eq 5, 3) := dk_153 0 5 (dk_at dksX0_isShared_2 19 rfl rfl)
theorem dX0_isShared_69 : decode cX0_isShared 69 = .ok (.iconst 0, 1) := dk_3 (dk_at dksX0_isShared_2 22 rfl rfl)
theorem dX0_isShared_70 : decode cX0_isShared 70 = .ok (.ireturn, 1) := dk_172 (dk_at dksX0_isShared_2 23 rfl rfl)
theorem dX0_isShared_71 : decode cX0_isShared 71 = .ok (.iinc 3 1, 3) := dk_132 3 1 (dk_at dksX0_isShared_3 0 rfl rfl)
theorem dX0_isShared_74 : decode cX0_isShared 74 = .ok (.goto (-62), 3) := dk_167 255 194 (dk_at dksX0_isShared_3 3 rfl rfl)
theorem dX0_isShared_77 : decode cX0_isShared 77 = .ok (.iinc 2 1, 3) := dk_132 2 1 (dk_at dksX0_isShared_3 6 rfl rfl)
theorem dX0_isShared_80 : decode cX0_isShared 80 = .ok (.goto (-78), 3) := dk_167 255 178 (dk_at dksX0_isShared_3 9 rfl rfl)
theorem dX0_isShared_83 : decode cX0_isShared 83 = .ok (.iconst 1, 1) := dk_4 (dk_at dksX0_isShared_3 12 rfl rfl)
theorem dX0_isShared_84 : decode cX0_isShared 84 = .ok (.ireturn, 1) := dk_172 (dk_at dksX0_isShared_3 13 rfl rfl)
abbrev cX0_isGathered : ByteArray := prog_1_method_55_code
def yX0_isGathered : MethodName := ⟨RX0, "isGathered", "(II)Z"⟩
def dkwX0_isGathered_4 : List UInt8 := [29, 153, 0, 7, 4, 167, 0, 4, 3, 172]
abbrev dktX0_isGathered_4 : List UInt8 := dkwX0_isGathered_4 ++ []
def dkwX0_isGathered_3 : List UInt8 := [153, 0, 13, 29, 153, 0, 11, 21, 6, 29, 159, 0, 5, 3, 172, 21, 6, 62, 132, 4, 1, 167, 255, 170]
abbrev dktX0_isGathered_3 : List UInt8 := dkwX0_isGathered_3 ++ dktX0_isGathered_4
def dkwX0_isGathered_2 : List UInt8 := [182, 0, 233, 180, 0, 237, 27, 160, 0, 12, 25, 5, 28, 182, 1, 229, 167, 0, 4, 3, 54, 6, 21, 6]
abbrev dktX0_isGathered_2 : List UInt8 := dkwX0_isGathered_2 ++ dktX0_isGathered_3
def dkwX0_isGathered_1 : List UInt8 := [182, 0, 230, 192, 0, 209, 58, 5, 25, 5, 27, 182, 1, 226, 154, 0, 6, 167, 0, 48, 25, 5, 3]
abbrev dktX0_isGathered_1 : List UInt8 := dkwX0_isGathered_1 ++ dktX0_isGathered_2
def dkwX0_isGathered_0 : List UInt8 := [3, 62, 3, 54, 4, 21, 4, 42, 180, 0, 34, 182, 0, 208, 162, 0, 80, 42, 180, 0, 34, 21, 4]
abbrev dktX0_isGathered_0 : List UInt8 := dkwX0_isGathered_0 ++ dktX0_isGathered_1
theorem dksX0_isGathered_0 : cX0_isGathered.data.toList.drop 0 = dktX0_isGathered_0 := by decide +kernel
theorem dksX0_isGathered_1 : cX0_isGathered.data.toList.drop 23 = dktX0_isGathered_1 := dk_seg dksX0_isGathered_0 23 rfl rfl
theorem dksX0_isGathered_2 : cX0_isGathered.data.toList.drop 46 = dktX0_isGathered_2 := dk_seg dksX0_isGathered_1 23 rfl rfl
theorem dksX0_isGathered_3 : cX0_isGathered.data.toList.drop 70 = dktX0_isGathered_3 := dk_seg dksX0_isGathered_2 24 rfl rfl
theorem dksX0_isGathered_4 : cX0_isGathered.data.toList.drop 94 = dktX0_isGathered_4 := dk_seg dksX0_isGathered_3 24 rfl rfl
theorem dX0_isGathered_0 : decode cX0_isGathered 0 = .ok (.iconst 0, 1) := dk_3 (dk_at dksX0_isGathered_0 0 rfl rfl)
theorem dX0_isGathered_1 : decode cX0_isGathered 1 = .ok (.istore_n 3, 1) := dk_62 (dk_at dksX0_isGathered_0 1 rfl rfl)
theorem dX0_isGathered_2 : decode cX0_isGathered 2 = .ok (.iconst 0, 1) := dk_3 (dk_at dksX0_isGathered_0 2 rfl rfl)
theorem dX0_isGathered_3 : decode cX0_isGathered 3 = .ok (.istore 4, 2) := dk_54 4 (dk_at dksX0_isGathered_0 3 rfl rfl)
theorem dX0_isGathered_5 : decode cX0_isGathered 5 = .ok (.iload 4, 2) := dk_21 4 (dk_at dksX0_isGathered_0 5 rfl rfl)
theorem dX0_isGathered_7 : decode cX0_isGathered 7 = .ok (.aload_n 0, 1) := dk_42 (dk_at dksX0_isGathered_0 7 rfl rfl)
theorem dX0_isGathered_8 : decode cX0_isGathered 8 = .ok (.getfield 34, 3) := dk_180 0 34 (dk_at dksX0_isGathered_0 8 rfl rfl)
theorem dX0_isGathered_11 : decode cX0_isGathered 11 = .ok (.invokevirtual 208, 3) := dk_182 0 208 (dk_at dksX0_isGathered_0 11 rfl rfl)
theorem dX0_isGathered_14 : decode cX0_isGathered 14 = .ok (.if_icmp .ge 80, 3) := dk_162 0 80 (dk_at dksX0_isGathered_0 14 rfl rfl)
theorem dX0_isGathered_17 : decode cX0_isGathered 17 = .ok (.aload_n 0, 1) := dk_42 (dk_at dksX0_isGathered_0 17 rfl rfl)
theorem dX0_isGathered_18 : decode cX0_isGathered 18 = .ok (.getfield 34, 3) := dk_180 0 34 (dk_at dksX0_isGathered_0 18 rfl rfl)
theorem dX0_isGathered_21 : decode cX0_isGathered 21 = .ok (.iload 4, 2) := dk_21 4 (dk_at dksX0_isGathered_0 21 rfl rfl)
theorem dX0_isGathered_23 : decode cX0_isGathered 23 = .ok (.invokevirtual 230, 3) := dk_182 0 230 (dk_at dksX0_isGathered_1 0 rfl rfl)
theorem dX0_isGathered_26 : decode cX0_isGathered 26 = .ok (.checkcast 209, 3) := dk_192 0 209 (dk_at dksX0_isGathered_1 3 rfl rfl)
theorem dX0_isGathered_29 : decode cX0_isGathered 29 = .ok (.astore 5, 2) := dk_58 5 (dk_at dksX0_isGathered_1 6 rfl rfl)
theorem dX0_isGathered_31 : decode cX0_isGathered 31 = .ok (.aload 5, 2) := dk_25 5 (dk_at dksX0_isGathered_1 8 rfl rfl)
theorem dX0_isGathered_33 : decode cX0_isGathered 33 = .ok (.iload_n 1, 1) := dk_27 (dk_at dksX0_isGathered_1 10 rfl rfl)
theorem dX0_isGathered_34 : decode cX0_isGathered 34 = .ok (.invokevirtual 482, 3) := dk_182 1 226 (dk_at dksX0_isGathered_1 11 rfl rfl)
theorem dX0_isGathered_37 : decode cX0_isGathered 37 = .ok (.ifCond .ne 6, 3) := dk_154 0 6 (dk_at dksX0_isGathered_1 14 rfl rfl)
theorem dX0_isGathered_40 : decode cX0_isGathered 40 = .ok (.goto 48, 3) := dk_167 0 48 (dk_at dksX0_isGathered_1 17 rfl rfl)
theorem dX0_isGathered_43 : decode cX0_isGathered 43 = .ok (.aload 5, 2) := dk_25 5 (dk_at dksX0_isGathered_1 20 rfl rfl)
theorem dX0_isGathered_45 : decode cX0_isGathered 45 = .ok (.iconst 0, 1) := dk_3 (dk_at dksX0_isGathered_1 22 rfl rfl)
theorem dX0_isGathered_46 : decode cX0_isGathered 46 = .ok (.invokevirtual 233, 3) := dk_182 0 233 (dk_at dksX0_isGathered_2 0 rfl rfl)
theorem dX0_isGathered_49 : decode cX0_isGathered 49 = .ok (.getfield 237, 3) := dk_180 0 237 (dk_at dksX0_isGathered_2 3 rfl rfl)
theorem dX0_isGathered_52 : decode cX0_isGathered 52 = .ok (.iload_n 1, 1) := dk_27 (dk_at dksX0_isGathered_2 6 rfl rfl)
theorem dX0_isGathered_53 : decode cX0_isGathered 53 = .ok (.if_icmp .ne 12, 3) := dk_160 0 12 (dk_at dksX0_isGathered_2 7 rfl rfl)
theorem dX0_isGathered_56 : decode cX0_isGathered 56 = .ok (.aload 5, 2) := dk_25 5 (dk_at dksX0_isGathered_2 10 rfl rfl)
theorem dX0_isGathered_58 : decode cX0_isGathered 58 = .ok (.iload_n 2, 1) := dk_28 (dk_at dksX0_isGathered_2 12 rfl rfl)
theorem dX0_isGathered_59 : decode cX0_isGathered 59 = .ok (.invokevirtual 485, 3) := dk_182 1 229 (dk_at dksX0_isGathered_2 13 rfl rfl)
theorem dX0_isGathered_62 : decode cX0_isGathered 62 = .ok (.goto 4, 3) := dk_167 0 4 (dk_at dksX0_isGathered_2 16 rfl rfl)
theorem dX0_isGathered_65 : decode cX0_isGathered 65 = .ok (.iconst 0, 1) := dk_3 (dk_at dksX0_isGathered_2 19 rfl rfl)
theorem dX0_isGathered_66 : decode cX0_isGathered 66 = .ok (.istore 6, 2) := dk_54 6 (dk_at dksX0_isGathered_2 20 rfl rfl)
theorem dX0_isGathered_68 : decode cX0_isGathered 68 = .ok (.iload 6, 2) := dk_21 6 (dk_at dksX0_isGathered_2 22 rfl rfl)
theorem dX0_isGathered_70 : decode cX0_isGathered 70 = .ok (.ifCond .eq 13, 3) := dk_153 0 13 (dk_at dksX0_isGathered_3 0 rfl rfl)
theorem dX0_isGathered_73 : decode cX0_isGathered 73 = .ok (.iload_n 3, 1) := dk_29 (dk_at dksX0_isGathered_3 3 rfl rfl)
theorem dX0_isGathered_74 : decode cX0_isGathered 74 = .ok (.ifCond .eq 11, 3) := dk_153 0 11 (dk_at dksX0_isGathered_3 4 rfl rfl)
theorem dX0_isGathered_77 : decode cX0_isGathered 77 = .ok (.iload 6, 2) := dk_21 6 (dk_at dksX0_isGathered_3 7 rfl rfl)
theorem dX0_isGathered_79 : decode cX0_isGathered 79 = .ok (.iload_n 3, 1) := dk_29 (dk_at dksX0_isGathered_3 9 rfl rfl)
theorem dX0_isGathered_80 : decode cX0_isGathered 80 = .ok (.if_icmp .eq 5, 3) := dk_159 0 5 (dk_at dksX0_isGathered_3 10 rfl rfl)
theorem dX0_isGathered_83 : decode cX0_isGathered 83 = .ok (.iconst 0, 1) := dk_3 (dk_at dksX0_isGathered_3 13 rfl rfl)
theorem dX0_isGathered_84 : decode cX0_isGathered 84 = .ok (.ireturn, 1) := dk_172 (dk_at dksX0_isGathered_3 14 rfl rfl)
theorem dX0_isGathered_85 : decode cX0_isGathered 85 = .ok (.iload 6, 2) := dk_21 6 (dk_at dksX0_isGathered_3 15 rfl rfl)
theorem dX0_isGathered_87 : decode cX0_isGathered 87 = .ok (.istore_n 3, 1) := dk_62 (dk_at dksX0_isGathered_3 17 rfl rfl)
theorem dX0_isGathered_88 : decode cX0_isGathered 88 = .ok (.iinc 4 1, 3) := dk_132 4 1 (dk_at dksX0_isGathered_3 18 rfl rfl)
theorem dX0_isGathered_91 : decode cX0_isGathered 91 = .ok (.goto (-86), 3) := dk_167 255 170 (dk_at dksX0_isGathered_3 21 rfl rfl)
theorem dX0_isGathered_94 : decode cX0_isGathered 94 = .ok (.iload_n 3, 1) := dk_29 (dk_at dksX0_isGathered_4 0 rfl rfl)
theorem dX0_isGathered_95 : decode cX0_isGathered 95 = .ok (.ifCond .eq 7, 3) := dk_153 0 7 (dk_at dksX0_isGathered_4 1 rfl rfl)
theorem dX0_isGathered_98 : decode cX0_isGathered 98 = .ok (.iconst 1, 1) := dk_4 (dk_at dksX0_isGathered_4 4 rfl rfl)
theorem dX0_isGathered_99 : decode cX0_isGathered 99 = .ok (.goto 4, 3) := dk_167 0 4 (dk_at dksX0_isGathered_4 5 rfl rfl)
theorem dX0_isGathered_102 : decode cX0_isGathered 102 = .ok (.iconst 0, 1) := dk_3 (dk_at dksX0_isGathered_4 8 rfl rfl)
theorem dX0_isGathered_103 : decode cX0_isGathered 103 = .ok (.ireturn, 1) := dk_172 (dk_at dksX0_isGathered_4 9 rfl rfl)
abbrev cX0_waits : ByteArray := prog_1_method_56_code
def yX0_waits : MethodName := ⟨RX0, "waits", "(I)I"⟩
def dkwX0_waits_2 : List UInt8 := [184, 1, 156, 47, 129, 65, 132, 4, 1, 167, 255, 207, 2, 172]
abbrev dktX0_waits_2 : List UInt8 := dkwX0_waits_2 ++ []
def dkwX0_waits_1 : List UInt8 := [184, 1, 156, 47, 127, 9, 148, 153, 0, 6, 21, 4, 172, 32, 42, 180, 0, 49, 4, 27, 21, 4]
abbrev dktX0_waits_1 : List UInt8 := dkwX0_waits_1 ++ dktX0_waits_2
def dkwX0_waits_0 : List UInt8 := [9, 65, 3, 54, 4, 21, 4, 42, 180, 0, 173, 162, 0, 46, 32, 42, 180, 0, 49, 6, 27, 21, 4]
abbrev dktX0_waits_0 : List UInt8 := dkwX0_waits_0 ++ dktX0_waits_1
theorem dksX0_waits_0 : cX0_waits.data.toList.drop 0 = dktX0_waits_0 := by decide +kernel
theorem dksX0_waits_1 : cX0_waits.data.toList.drop 23 = dktX0_waits_1 := dk_seg dksX0_waits_0 23 rfl rfl
theorem dksX0_waits_2 : cX0_waits.data.toList.drop 45 = dktX0_waits_2 := dk_seg dksX0_waits_1 22 rfl rfl
theorem dX0_waits_0 : decode cX0_waits 0 = .ok (.lconst 0, 1) := dk_9 (dk_at dksX0_waits_0 0 rfl rfl)
theorem dX0_waits_1 : decode cX0_waits 1 = .ok (.lstore_n 2, 1) := dk_65 (dk_at dksX0_waits_0 1 rfl rfl)
theorem dX0_waits_2 : decode cX0_waits 2 = .ok (.iconst 0, 1) := dk_3 (dk_at dksX0_waits_0 2 rfl rfl)
theorem dX0_waits_3 : decode cX0_waits 3 = .ok (.istore 4, 2) := dk_54 4 (dk_at dksX0_waits_0 3 rfl rfl)
theorem dX0_waits_5 : decode cX0_waits 5 = .ok (.iload 4, 2) := dk_21 4 (dk_at dksX0_waits_0 5 rfl rfl)
theorem dX0_waits_7 : decode cX0_waits 7 = .ok (.aload_n 0, 1) := dk_42 (dk_at dksX0_waits_0 7 rfl rfl)
theorem dX0_waits_8 : decode cX0_waits 8 = .ok (.getfield 173, 3) := dk_180 0 173 (dk_at dksX0_waits_0 8 rfl rfl)
theorem dX0_waits_11 : decode cX0_waits 11 = .ok (.if_icmp .ge 46, 3) := dk_162 0 46 (dk_at dksX0_waits_0 11 rfl rfl)
theorem dX0_waits_14 : decode cX0_waits 14 = .ok (.lload_n 2, 1) := dk_32 (dk_at dksX0_waits_0 14 rfl rfl)
theorem dX0_waits_15 : decode cX0_waits 15 = .ok (.aload_n 0, 1) := dk_42 (dk_at dksX0_waits_0 15 rfl rfl)
theorem dX0_waits_16 : decode cX0_waits 16 = .ok (.getfield 49, 3) := dk_180 0 49 (dk_at dksX0_waits_0 16 rfl rfl)
theorem dX0_waits_19 : decode cX0_waits 19 = .ok (.iconst 3, 1) := dk_6 (dk_at dksX0_waits_0 19 rfl rfl)
theorem dX0_waits_20 : decode cX0_waits 20 = .ok (.iload_n 1, 1) := dk_27 (dk_at dksX0_waits_0 20 rfl rfl)
theorem dX0_waits_21 : decode cX0_waits 21 = .ok (.iload 4, 2) := dk_21 4 (dk_at dksX0_waits_0 21 rfl rfl)
theorem dX0_waits_23 : decode cX0_waits 23 = .ok (.invokestatic 412, 3) := dk_184 1 156 (dk_at dksX0_waits_1 0 rfl rfl)
theorem dX0_waits_26 : decode cX0_waits 26 = .ok (.laload, 1) := dk_47 (dk_at dksX0_waits_1 3 rfl rfl)
theorem dX0_waits_27 : decode cX0_waits 27 = .ok (.land, 1) := dk_127 (dk_at dksX0_waits_1 4 rfl rfl)
theorem dX0_waits_28 : decode cX0_waits 28 = .ok (.lconst 0, 1) := dk_9 (dk_at dksX0_waits_1 5 rfl rfl)
theorem dX0_waits_29 : decode cX0_waits 29 = .ok (.lcmp, 1) := dk_148 (dk_at dksX0_waits_1 6 rfl rfl)
theorem dX0_waits_30 : decode cX0_waits 30 = .ok (.ifCond .eq 6, 3) := dk_153 0 6 (dk_at dksX0_waits_1 7 rfl rfl)
theorem dX0_waits_33 : decode cX0_waits 33 = .ok (.iload 4, 2) := dk_21 4 (dk_at dksX0_waits_1 10 rfl rfl)
theorem dX0_waits_35 : decode cX0_waits 35 = .ok (.ireturn, 1) := dk_172 (dk_at dksX0_waits_1 12 rfl rfl)
theorem dX0_waits_36 : decode cX0_waits 36 = .ok (.lload_n 2, 1) := dk_32 (dk_at dksX0_waits_1 13 rfl rfl)
theorem dX0_waits_37 : decode cX0_waits 37 = .ok (.aload_n 0, 1) := dk_42 (dk_at dksX0_waits_1 14 rfl rfl)
theorem dX0_waits_38 : decode cX0_waits 38 = .ok (.getfield 49, 3) := dk_180 0 49 (dk_at dksX0_waits_1 15 rfl rfl)
theorem dX0_waits_41 : decode cX0_waits 41 = .ok (.iconst 1, 1) := dk_4 (dk_at dksX0_waits_1 18 rfl rfl)
theorem dX0_waits_42 : decode cX0_waits 42 = .ok (.iload_n 1, 1) := dk_27 (dk_at dksX0_waits_1 19 rfl rfl)
theorem dX0_waits_43 : decode cX0_waits 43 = .ok (.iload 4, 2) := dk_21 4 (dk_at dksX0_waits_1 20 rfl rfl)
theorem dX0_waits_45 : decode cX0_waits 45 = .ok (.invokestatic 412, 3) := dk_184 1 156 (dk_at dksX0_waits_2 0 rfl rfl)
theorem dX0_waits_48 : decode cX0_waits 48 = .ok (.laload, 1) := dk_47 (dk_at dksX0_waits_2 3 rfl rfl)
theorem dX0_waits_49 : decode cX0_waits 49 = .ok (.lor, 1) := dk_129 (dk_at dksX0_waits_2 4 rfl rfl)
theorem dX0_waits_50 : decode cX0_waits 50 = .ok (.lstore_n 2, 1) := dk_65 (dk_at dksX0_waits_2 5 rfl rfl)
theorem dX0_waits_51 : decode cX0_waits 51 = .ok (.iinc 4 1, 3) := dk_132 4 1 (dk_at dksX0_waits_2 6 rfl rfl)
theorem dX0_waits_54 : decode cX0_waits 54 = .ok (.goto (-49), 3) := dk_167 255 207 (dk_at dksX0_waits_2 9 rfl rfl)
theorem dX0_waits_57 : decode cX0_waits 57 = .ok (.iconst (-1), 1) := dk_2 (dk_at dksX0_waits_2 12 rfl rfl)
theorem dX0_waits_58 : decode cX0_waits 58 = .ok (.ireturn, 1) := dk_172 (dk_at dksX0_waits_2 13 rfl rfl)
abbrev cX0_would : ByteArray := prog_1_method_60_code
def yX0_would : MethodName := ⟨RX0, "would", "(II)I"⟩
def dkwX0_would_2 : List UInt8 := [154, 0, 6, 16, 253, 172, 42, 182, 1, 193, 42, 27, 28, 182, 1, 243, 172]
abbrev dktX0_would_2 : List UInt8 := dkwX0_would_2 ++ []
def dkwX0_would_1 : List UInt8 := [180, 0, 25, 27, 50, 199, 0, 9, 42, 4, 182, 0, 117, 172, 42, 180, 0, 25, 27, 50, 182, 0, 102]
abbrev dktX0_would_1 : List UInt8 := dkwX0_would_1 ++ dktX0_would_2
def dkwX0_would_0 : List UInt8 := [27, 184, 0, 106, 153, 0, 15, 28, 133, 9, 20, 1, 45, 184, 0, 90, 154, 0, 6, 16, 254, 172, 42]
abbrev dktX0_would_0 : List UInt8 := dkwX0_would_0 ++ dktX0_would_1
theorem dksX0_would_0 : cX0_would.data.toList.drop 0 = dktX0_would_0 := by decide +kernel
theorem dksX0_would_1 : cX0_would.data.toList.drop 23 = dktX0_would_1 := dk_seg dksX0_would_0 23 rfl rfl
theorem dksX0_would_2 : cX0_would.data.toList.drop 46 = dktX0_would_2 := dk_seg dksX0_would_1 23 rfl rfl
theorem dX0_would_0 : decode cX0_would 0 = .ok (.iload_n 1, 1) := dk_27 (dk_at dksX0_would_0 0 rfl rfl)
theorem dX0_would_1 : decode cX0_would 1 = .ok (.invokestatic 106, 3) := dk_184 0 106 (dk_at dksX0_would_0 1 rfl rfl)
theorem dX0_would_4 : decode cX0_would 4 = .ok (.ifCond .eq 15, 3) := dk_153 0 15 (dk_at dksX0_would_0 4 rfl rfl)
theorem dX0_would_7 : decode cX0_would 7 = .ok (.iload_n 2, 1) := dk_28 (dk_at dksX0_would_0 7 rfl rfl)
theorem dX0_would_8 : decode cX0_would 8 = .ok (.i2l, 1) := dk_133 (dk_at dksX0_would_0 8 rfl rfl)
theorem dX0_would_9 : decode cX0_would 9 = .ok (.lconst 0, 1) := dk_9 (dk_at dksX0_would_0 9 rfl rfl)
theorem dX0_would_10 : decode cX0_would 10 = .ok (.ldc2_w 301, 3) := dk_20 1 45 (dk_at dksX0_would_0 10 rfl rfl)
theorem dX0_would_13 : decode cX0_would 13 = .ok (.invokestatic 90, 3) := dk_184 0 90 (dk_at dksX0_would_0 13 rfl rfl)
theorem dX0_would_16 : decode cX0_would 16 = .ok (.ifCond .ne 6, 3) := dk_154 0 6 (dk_at dksX0_would_0 16 rfl rfl)
theorem dX0_would_19 : decode cX0_would 19 = .ok (.bipush (-2), 2) := dk_16 254 (dk_at dksX0_would_0 19 rfl rfl)
theorem dX0_would_21 : decode cX0_would 21 = .ok (.ireturn, 1) := dk_172 (dk_at dksX0_would_0 21 rfl rfl)
theorem dX0_would_22 : decode cX0_would 22 = .ok (.aload_n 0, 1) := dk_42 (dk_at dksX0_would_0 22 rfl rfl)
theorem dX0_would_23 : decode cX0_would 23 = .ok (.getfield 25, 3) := dk_180 0 25 (dk_at dksX0_would_1 0 rfl rfl)
theorem dX0_would_26 : decode cX0_would 26 = .ok (.iload_n 1, 1) := dk_27 (dk_at dksX0_would_1 3 rfl rfl)
theorem dX0_would_27 : decode cX0_would 27 = .ok (.aaload, 1) := dk_50 (dk_at dksX0_would_1 4 rfl rfl)
theorem dX0_would_28 : decode cX0_would 28 = .ok (.ifnonnull 9, 3) := dk_199 0 9 (dk_at dksX0_would_1 5 rfl rfl)
theorem dX0_would_31 : decode cX0_would 31 = .ok (.aload_n 0, 1) := dk_42 (dk_at dksX0_would_1 8 rfl rfl)
theorem dX0_would_32 : decode cX0_would 32 = .ok (.iconst 1, 1) := dk_4 (dk_at dksX0_would_1 9 rfl rfl)
theorem dX0_would_33 : decode cX0_would 33 = .ok (.invokevirtual 117, 3) := dk_182 0 117 (dk_at dksX0_would_1 10 rfl rfl)
theorem dX0_would_36 : decode cX0_would 36 = .ok (.ireturn, 1) := dk_172 (dk_at dksX0_would_1 13 rfl rfl)
theorem dX0_would_37 : decode cX0_would 37 = .ok (.aload_n 0, 1) := dk_42 (dk_at dksX0_would_1 14 rfl rfl)
theorem dX0_would_38 : decode cX0_would 38 = .ok (.getfield 25, 3) := dk_180 0 25 (dk_at dksX0_would_1 15 rfl rfl)
theorem dX0_would_41 : decode cX0_would 41 = .ok (.iload_n 1, 1) := dk_27 (dk_at dksX0_would_1 18 rfl rfl)
theorem dX0_would_42 : decode cX0_would 42 = .ok (.aaload, 1) := dk_50 (dk_at dksX0_would_1 19 rfl rfl)
theorem dX0_would_43 : decode cX0_would 43 = .ok (.invokevirtual 102, 3) := dk_182 0 102 (dk_at dksX0_would_1 20 rfl rfl)
theorem dX0_would_46 : decode cX0_would 46 = .ok (.ifCond .ne 6, 3) := dk_154 0 6 (dk_at dksX0_would_2 0 rfl rfl)
theorem dX0_would_49 : decode cX0_would 49 = .ok (.bipush (-3), 2) := dk_16 253 (dk_at dksX0_would_2 3 rfl rfl)
theorem dX0_would_51 : decode cX0_would 51 = .ok (.ireturn, 1) := dk_172 (dk_at dksX0_would_2 5 rfl rfl)
theorem dX0_would_52 : decode cX0_would 52 = .ok (.aload_n 0, 1) := dk_42 (dk_at dksX0_would_2 6 rfl rfl)
theorem dX0_would_53 : decode cX0_would 53 = .ok (.invokevirtual 449, 3) := dk_182 1 193 (dk_at dksX0_would_2 7 rfl rfl)
theorem dX0_would_56 : decode cX0_would 56 = .ok (.aload_n 0, 1) := dk_42 (dk_at dksX0_would_2 10 rfl rfl)
theorem dX0_would_57 : decode cX0_would 57 = .ok (.iload_n 1, 1) := dk_27 (dk_at dksX0_would_2 11 rfl rfl)
theorem dX0_would_58 : decode cX0_would 58 = .ok (.iload_n 2, 1) := dk_28 (dk_at dksX0_would_2 12 rfl rfl)
theorem dX0_would_59 : decode cX0_would 59 = .ok (.invokevirtual 499, 3) := dk_182 1 243 (dk_at dksX0_would_2 13 rfl rfl)
theorem dX0_would_62 : decode cX0_would 62 = .ok (.ireturn, 1) := dk_172 (dk_at dksX0_would_2 16 rfl rfl)
abbrev cX0_witness : ByteArray := prog_1_method_62_code
def yX0_witness : MethodName := ⟨RX0, "witness", "(II)I"⟩
def dkwX0_witness_1 : List UInt8 := [182, 1, 193, 42, 27, 28, 182, 1, 253, 172]
abbrev dktX0_witness_1 : List UInt8 := dkwX0_witness_1 ++ []
def dkwX0_witness_0 : List UInt8 := [27, 184, 0, 106, 153, 0, 15, 28, 133, 9, 20, 0, 224, 184, 0, 90, 154, 0, 6, 16, 254, 172, 42]
abbrev dktX0_witness_0 : List UInt8 := dkwX0_witness_0 ++ dktX0_witness_1
theorem dksX0_witness_0 : cX0_witness.data.toList.drop 0 = dktX0_witness_0 := by decide +kernel
theorem dksX0_witness_1 : cX0_witness.data.toList.drop 23 = dktX0_witness_1 := dk_seg dksX0_witness_0 23 rfl rfl
theorem dX0_witness_0 : decode cX0_witness 0 = .ok (.iload_n 1, 1) := dk_27 (dk_at dksX0_witness_0 0 rfl rfl)
theorem dX0_witness_1 : decode cX0_witness 1 = .ok (.invokestatic 106, 3) := dk_184 0 106 (dk_at dksX0_witness_0 1 rfl rfl)
theorem dX0_witness_4 : decode cX0_witness 4 = .ok (.ifCond .eq 15, 3) := dk_153 0 15 (dk_at dksX0_witness_0 4 rfl rfl)
theorem dX0_witness_7 : decode cX0_witness 7 = .ok (.iload_n 2, 1) := dk_28 (dk_at dksX0_witness_0 7 rfl rfl)
theorem dX0_witness_8 : decode cX0_witness 8 = .ok (.i2l, 1) := dk_133 (dk_at dksX0_witness_0 8 rfl rfl)
theorem dX0_witness_9 : decode cX0_witness 9 = .ok (.lconst 0, 1) := dk_9 (dk_at dksX0_witness_0 9 rfl rfl)
theorem dX0_witness_10 : decode cX0_witness 10 = .ok (.ldc2_w 224, 3) := dk_20 0 224 (dk_at dksX0_witness_0 10 rfl rfl)
theorem dX0_witness_13 : decode cX0_witness 13 = .ok (.invokestatic 90, 3) := dk_184 0 90 (dk_at dksX0_witness_0 13 rfl rfl)
theorem dX0_witness_16 : decode cX0_witness 16 = .ok (.ifCond .ne 6, 3) := dk_154 0 6 (dk_at dksX0_witness_0 16 rfl rfl)
theorem dX0_witness_19 : decode cX0_witness 19 = .ok (.bipush (-2), 2) := dk_16 254 (dk_at dksX0_witness_0 19 rfl rfl)
theorem dX0_witness_21 : decode cX0_witness 21 = .ok (.ireturn, 1) := dk_172 (dk_at dksX0_witness_0 21 rfl rfl)
theorem dX0_witness_22 : decode cX0_witness 22 = .ok (.aload_n 0, 1) := dk_42 (dk_at dksX0_witness_0 22 rfl rfl)
theorem dX0_witness_23 : decode cX0_witness 23 = .ok (.invokevirtual 449, 3) := dk_182 1 193 (dk_at dksX0_witness_1 0 rfl rfl)
theorem dX0_witness_26 : decode cX0_witness 26 = .ok (.aload_n 0, 1) := dk_42 (dk_at dksX0_witness_1 3 rfl rfl)
theorem dX0_witness_27 : decode cX0_witness 27 = .ok (.iload_n 1, 1) := dk_27 (dk_at dksX0_witness_1 4 rfl rfl)
theorem dX0_witness_28 : decode cX0_witness 28 = .ok (.iload_n 2, 1) := dk_28 (dk_at dksX0_witness_1 5 rfl rfl)
theorem dX0_witness_29 : decode cX0_witness 29 = .ok (.invokevirtual 509, 3) := dk_182 1 253 (dk_at dksX0_witness_1 6 rfl rfl)
theorem dX0_witness_32 : decode cX0_witness 32 = .ok (.ireturn, 1) := dk_172 (dk_at dksX0_witness_1 9 rfl rfl)
abbrev cX0_witnessBy : ByteArray := prog_1_method_61_code
def yX0_witnessBy : MethodName := ⟨RX0, "witnessBy", "(II)I"⟩
def dkwX0_witnessBy_3 : List UInt8 := [54, 6, 28, 5, 160, 0, 8, 21, 6, 167, 0, 12, 42, 4, 27, 21, 6, 29, 182, 1, 249, 172]
abbrev dktX0_witnessBy_3 : List UInt8 := dkwX0_witnessBy_3 ++ []
def dkwX0_witnessBy_2 : List UInt8 := [132, 6, 1, 167, 255, 230, 22, 4, 42, 180, 0, 49, 6, 27, 29, 184, 1, 156, 47, 127, 184, 1, 204]
abbrev dktX0_witnessBy_2 : List UInt8 := dkwX0_witnessBy_2 ++ dktX0_witnessBy_3
def dkwX0_witnessBy_1 : List UInt8 := [21, 6, 29, 162, 0, 26, 22, 4, 42, 180, 0, 49, 4, 27, 21, 6, 184, 1, 156, 47, 129, 55, 4]
abbrev dktX0_witnessBy_1 : List UInt8 := dkwX0_witnessBy_1 ++ dktX0_witnessBy_2
def dkwX0_witnessBy_0 : List UInt8 := [42, 27, 182, 1, 238, 62, 29, 2, 159, 0, 8, 28, 4, 160, 0, 5, 29, 172, 9, 55, 4, 3, 54, 6]
abbrev dktX0_witnessBy_0 : List UInt8 := dkwX0_witnessBy_0 ++ dktX0_witnessBy_1
theorem dksX0_witnessBy_0 : cX0_witnessBy.data.toList.drop 0 = dktX0_witnessBy_0 := by decide +kernel
theorem dksX0_witnessBy_1 : cX0_witnessBy.data.toList.drop 24 = dktX0_witnessBy_1 := dk_seg dksX0_witnessBy_0 24 rfl rfl
theorem dksX0_witnessBy_2 : cX0_witnessBy.data.toList.drop 47 = dktX0_witnessBy_2 := dk_seg dksX0_witnessBy_1 23 rfl rfl
theorem dksX0_witnessBy_3 : cX0_witnessBy.data.toList.drop 70 = dktX0_witnessBy_3 := dk_seg dksX0_witnessBy_2 23 rfl rfl
theorem dX0_witnessBy_0 : decode cX0_witnessBy 0 = .ok (.aload_n 0, 1) := dk_42 (dk_at dksX0_witnessBy_0 0 rfl rfl)
theorem dX0_witnessBy_1 : decode cX0_witnessBy 1 = .ok (.iload_n 1, 1) := dk_27 (dk_at dksX0_witnessBy_0 1 rfl rfl)
theorem dX0_witnessBy_2 : decode cX0_witnessBy 2 = .ok (.invokevirtual 494, 3) := dk_182 1 238 (dk_at dksX0_witnessBy_0 2 rfl rfl)
theorem dX0_witnessBy_5 : decode cX0_witnessBy 5 = .ok (.istore_n 3, 1) := dk_62 (dk_at dksX0_witnessBy_0 5 rfl rfl)
theorem dX0_witnessBy_6 : decode cX0_witnessBy 6 = .ok (.iload_n 3, 1) := dk_29 (dk_at dksX0_witnessBy_0 6 rfl rfl)
theorem dX0_witnessBy_7 : decode cX0_witnessBy 7 = .ok (.iconst (-1), 1) := dk_2 (dk_at dksX0_witnessBy_0 7 rfl rfl)
theorem dX0_witnessBy_8 : decode cX0_witnessBy 8 = .ok (.if_icmp .eq 8, 3) := dk_159 0 8 (dk_at dksX0_witnessBy_0 8 rfl rfl)
theorem dX0_witnessBy_11 : decode cX0_witnessBy 11 = .ok (.iload_n 2, 1) := dk_28 (dk_at dksX0_witnessBy_0 11 rfl rfl)
theorem dX0_witnessBy_12 : decode cX0_witnessBy 12 = .ok (.iconst 1, 1) := dk_4 (dk_at dksX0_witnessBy_0 12 rfl rfl)
theorem dX0_witnessBy_13 : decode cX0_witnessBy 13 = .ok (.if_icmp .ne 5, 3) := dk_160 0 5 (dk_at dksX0_witnessBy_0 13 rfl rfl)
theorem dX0_witnessBy_16 : decode cX0_witnessBy 16 = .ok (.iload_n 3, 1) := dk_29 (dk_at dksX0_witnessBy_0 16 rfl rfl)
theorem dX0_witnessBy_17 : decode cX0_witnessBy 17 = .ok (.ireturn, 1) := dk_172 (dk_at dksX0_witnessBy_0 17 rfl rfl)
theorem dX0_witnessBy_18 : decode cX0_witnessBy 18 = .ok (.lconst 0, 1) := dk_9 (dk_at dksX0_witnessBy_0 18 rfl rfl)
theorem dX0_witnessBy_19 : decode cX0_witnessBy 19 = .ok (.lstore 4, 2) := dk_55 4 (dk_at dksX0_witnessBy_0 19 rfl rfl)
theorem dX0_witnessBy_21 : decode cX0_witnessBy 21 = .ok (.iconst 0, 1) := dk_3 (dk_at dksX0_witnessBy_0 21 rfl rfl)
theorem dX0_witnessBy_22 : decode cX0_witnessBy 22 = .ok (.istore 6, 2) := dk_54 6 (dk_at dksX0_witnessBy_0 22 rfl rfl)
theorem dX0_witnessBy_24 : decode cX0_witnessBy 24 = .ok (.iload 6, 2) := dk_21 6 (dk_at dksX0_witnessBy_1 0 rfl rfl)
theorem dX0_witnessBy_26 : decode cX0_witnessBy 26 = .ok (.iload_n 3, 1) := dk_29 (dk_at dksX0_witnessBy_1 2 rfl rfl)
theorem dX0_witnessBy_27 : decode cX0_witnessBy 27 = .ok (.if_icmp .ge 26, 3) := dk_162 0 26 (dk_at dksX0_witnessBy_1 3 rfl rfl)
theorem dX0_witnessBy_30 : decode cX0_witnessBy 30 = .ok (.lload 4, 2) := dk_22 4 (dk_at dksX0_witnessBy_1 6 rfl rfl)
theorem dX0_witnessBy_32 : decode cX0_witnessBy 32 = .ok (.aload_n 0, 1) := dk_42 (dk_at dksX0_witnessBy_1 8 rfl rfl)
theorem dX0_witnessBy_33 : decode cX0_witnessBy 33 = .ok (.getfield 49, 3) := dk_180 0 49 (dk_at dksX0_witnessBy_1 9 rfl rfl)
theorem dX0_witnessBy_36 : decode cX0_witnessBy 36 = .ok (.iconst 1, 1) := dk_4 (dk_at dksX0_witnessBy_1 12 rfl rfl)
theorem dX0_witnessBy_37 : decode cX0_witnessBy 37 = .ok (.iload_n 1, 1) := dk_27 (dk_at dksX0_witnessBy_1 13 rfl rfl)
theorem dX0_witnessBy_38 : decode cX0_witnessBy 38 = .ok (.iload 6, 2) := dk_21 6 (dk_at dksX0_witnessBy_1 14 rfl rfl)
theorem dX0_witnessBy_40 : decode cX0_witnessBy 40 = .ok (.invokestatic 412, 3) := dk_184 1 156 (dk_at dksX0_witnessBy_1 16 rfl rfl)
theorem dX0_witnessBy_43 : decode cX0_witnessBy 43 = .ok (.laload, 1) := dk_47 (dk_at dksX0_witnessBy_1 19 rfl rfl)
theorem dX0_witnessBy_44 : decode cX0_witnessBy 44 = .ok (.lor, 1) := dk_129 (dk_at dksX0_witnessBy_1 20 rfl rfl)
theorem dX0_witnessBy_45 : decode cX0_witnessBy 45 = .ok (.lstore 4, 2) := dk_55 4 (dk_at dksX0_witnessBy_1 21 rfl rfl)
theorem dX0_witnessBy_47 : decode cX0_witnessBy 47 = .ok (.iinc 6 1, 3) := dk_132 6 1 (dk_at dksX0_witnessBy_2 0 rfl rfl)
theorem dX0_witnessBy_50 : decode cX0_witnessBy 50 = .ok (.goto (-26), 3) := dk_167 255 230 (dk_at dksX0_witnessBy_2 3 rfl rfl)
theorem dX0_witnessBy_53 : decode cX0_witnessBy 53 = .ok (.lload 4, 2) := dk_22 4 (dk_at dksX0_witnessBy_2 6 rfl rfl)
theorem dX0_witnessBy_55 : decode cX0_witnessBy 55 = .ok (.aload_n 0, 1) := dk_42 (dk_at dksX0_witnessBy_2 8 rfl rfl)
theorem dX0_witnessBy_56 : decode cX0_witnessBy 56 = .ok (.getfield 49, 3) := dk_180 0 49 (dk_at dksX0_witnessBy_2 9 rfl rfl)
theorem dX0_witnessBy_59 : decode cX0_witnessBy 59 = .ok (.iconst 3, 1) := dk_6 (dk_at dksX0_witnessBy_2 12 rfl rfl)
theorem dX0_witnessBy_60 : decode cX0_witnessBy 60 = .ok (.iload_n 1, 1) := dk_27 (dk_at dksX0_witnessBy_2 13 rfl rfl)
theorem dX0_witnessBy_61 : decode cX0_witnessBy 61 = .ok (.iload_n 3, 1) := dk_29 (dk_at dksX0_witnessBy_2 14 rfl rfl)
theorem dX0_witnessBy_62 : decode cX0_witnessBy 62 = .ok (.invokestatic 412, 3) := dk_184 1 156 (dk_at dksX0_witnessBy_2 15 rfl rfl)
theorem dX0_witnessBy_65 : decode cX0_witnessBy 65 = .ok (.laload, 1) := dk_47 (dk_at dksX0_witnessBy_2 18 rfl rfl)
theorem dX0_witnessBy_66 : decode cX0_witnessBy 66 = .ok (.land, 1) := dk_127 (dk_at dksX0_witnessBy_2 19 rfl rfl)
theorem dX0_witnessBy_67 : decode cX0_witnessBy 67 = .ok (.invokestatic 460, 3) := dk_184 1 204 (dk_at dksX0_witnessBy_2 20 rfl rfl)
theorem dX0_witnessBy_70 : decode cX0_witnessBy 70 = .ok (.istore 6, 2) := dk_54 6 (dk_at dksX0_witnessBy_3 0 rfl rfl)
theorem dX0_witnessBy_72 : decode cX0_witnessBy 72 = .ok (.iload_n 2, 1) := dk_28 (dk_at dksX0_witnessBy_3 2 rfl rfl)
theorem dX0_witnessBy_73 : decode cX0_witnessBy 73 = .ok (.iconst 2, 1) := dk_5 (dk_at dksX0_witnessBy_3 3 rfl rfl)
theorem dX0_witnessBy_74 : decode cX0_witnessBy 74 = .ok (.if_icmp .ne 8, 3) := dk_160 0 8 (dk_at dksX0_witnessBy_3 4 rfl rfl)
theorem dX0_witnessBy_77 : decode cX0_witnessBy 77 = .ok (.iload 6, 2) := dk_21 6 (dk_at dksX0_witnessBy_3 7 rfl rfl)
theorem dX0_witnessBy_79 : decode cX0_witnessBy 79 = .ok (.goto 12, 3) := dk_167 0 12 (dk_at dksX0_witnessBy_3 9 rfl rfl)
theorem dX0_witnessBy_82 : decode cX0_witnessBy 82 = .ok (.aload_n 0, 1) := dk_42 (dk_at dksX0_witnessBy_3 12 rfl rfl)
theorem dX0_witnessBy_83 : decode cX0_witnessBy 83 = .ok (.iconst 1, 1) := dk_4 (dk_at dksX0_witnessBy_3 13 rfl rfl)
theorem dX0_witnessBy_84 : decode cX0_witnessBy 84 = .ok (.iload_n 1, 1) := dk_27 (dk_at dksX0_witnessBy_3 14 rfl rfl)
theorem dX0_witnessBy_85 : decode cX0_witnessBy 85 = .ok (.iload 6, 2) := dk_21 6 (dk_at dksX0_witnessBy_3 15 rfl rfl)
theorem dX0_witnessBy_87 : decode cX0_witnessBy 87 = .ok (.iload_n 3, 1) := dk_29 (dk_at dksX0_witnessBy_3 17 rfl rfl)
theorem dX0_witnessBy_88 : decode cX0_witnessBy 88 = .ok (.invokevirtual 505, 3) := dk_182 1 249 (dk_at dksX0_witnessBy_3 18 rfl rfl)
theorem dX0_witnessBy_91 : decode cX0_witnessBy 91 = .ok (.ireturn, 1) := dk_172 (dk_at dksX0_witnessBy_3 21 rfl rfl)
abbrev cX0_lastOf : ByteArray := prog_1_method_63_code
def yX0_lastOf : MethodName := ⟨RX0, "lastOf", "(IIII)I"⟩
def dkwX0_lastOf_1 : List UInt8 := [123, 10, 127, 9, 148, 154, 0, 9, 132, 5, 255, 167, 255, 227, 21, 5, 172]
abbrev dktX0_lastOf_1 : List UInt8 := dkwX0_lastOf_1 ++ []
def dkwX0_lastOf_0 : List UInt8 := [21, 4, 4, 100, 54, 5, 21, 5, 155, 0, 30, 42, 180, 0, 49, 27, 28, 21, 5, 184, 1, 156, 47, 29]
abbrev dktX0_lastOf_0 : List UInt8 := dkwX0_lastOf_0 ++ dktX0_lastOf_1
theorem dksX0_lastOf_0 : cX0_lastOf.data.toList.drop 0 = dktX0_lastOf_0 := by decide +kernel
theorem dksX0_lastOf_1 : cX0_lastOf.data.toList.drop 24 = dktX0_lastOf_1 := dk_seg dksX0_lastOf_0 24 rfl rfl
theorem dX0_lastOf_0 : decode cX0_lastOf 0 = .ok (.iload 4, 2) := dk_21 4 (dk_at dksX0_lastOf_0 0 rfl rfl)
theorem dX0_lastOf_2 : decode cX0_lastOf 2 = .ok (.iconst 1, 1) := dk_4 (dk_at dksX0_lastOf_0 2 rfl rfl)
theorem dX0_lastOf_3 : decode cX0_lastOf 3 = .ok (.isub, 1) := dk_100 (dk_at dksX0_lastOf_0 3 rfl rfl)
theorem dX0_lastOf_4 : decode cX0_lastOf 4 = .ok (.istore 5, 2) := dk_54 5 (dk_at dksX0_lastOf_0 4 rfl rfl)
theorem dX0_lastOf_6 : decode cX0_lastOf 6 = .ok (.iload 5, 2) := dk_21 5 (dk_at dksX0_lastOf_0 6 rfl rfl)
theorem dX0_lastOf_8 : decode cX0_lastOf 8 = .ok (.ifCond .lt 30, 3) := dk_155 0 30 (dk_at dksX0_lastOf_0 8 rfl rfl)
theorem dX0_lastOf_11 : decode cX0_lastOf 11 = .ok (.aload_n 0, 1) := dk_42 (dk_at dksX0_lastOf_0 11 rfl rfl)
theorem dX0_lastOf_12 : decode cX0_lastOf 12 = .ok (.getfield 49, 3) := dk_180 0 49 (dk_at dksX0_lastOf_0 12 rfl rfl)
theorem dX0_lastOf_15 : decode cX0_lastOf 15 = .ok (.iload_n 1, 1) := dk_27 (dk_at dksX0_lastOf_0 15 rfl rfl)
theorem dX0_lastOf_16 : decode cX0_lastOf 16 = .ok (.iload_n 2, 1) := dk_28 (dk_at dksX0_lastOf_0 16 rfl rfl)
theorem dX0_lastOf_17 : decode cX0_lastOf 17 = .ok (.iload 5, 2) := dk_21 5 (dk_at dksX0_lastOf_0 17 rfl rfl)
theorem dX0_lastOf_19 : decode cX0_lastOf 19 = .ok (.invokestatic 412, 3) := dk_184 1 156 (dk_at dksX0_lastOf_0 19 rfl rfl)
theorem dX0_lastOf_22 : decode cX0_lastOf 22 = .ok (.laload, 1) := dk_47 (dk_at dksX0_lastOf_0 22 rfl rfl)
theorem dX0_lastOf_23 : decode cX0_lastOf 23 = .ok (.iload_n 3, 1) := dk_29 (dk_at dksX0_lastOf_0 23 rfl rfl)
theorem dX0_lastOf_24 : decode cX0_lastOf 24 = .ok (.lshr, 1) := dk_123 (dk_at dksX0_lastOf_1 0 rfl rfl)
theorem dX0_lastOf_25 : decode cX0_lastOf 25 = .ok (.lconst 1, 1) := dk_10 (dk_at dksX0_lastOf_1 1 rfl rfl)
theorem dX0_lastOf_26 : decode cX0_lastOf 26 = .ok (.land, 1) := dk_127 (dk_at dksX0_lastOf_1 2 rfl rfl)
theorem dX0_lastOf_27 : decode cX0_lastOf 27 = .ok (.lconst 0, 1) := dk_9 (dk_at dksX0_lastOf_1 3 rfl rfl)
theorem dX0_lastOf_28 : decode cX0_lastOf 28 = .ok (.lcmp, 1) := dk_148 (dk_at dksX0_lastOf_1 4 rfl rfl)
theorem dX0_lastOf_29 : decode cX0_lastOf 29 = .ok (.ifCond .ne 9, 3) := dk_154 0 9 (dk_at dksX0_lastOf_1 5 rfl rfl)
theorem dX0_lastOf_32 : decode cX0_lastOf 32 = .ok (.iinc 5 (-1), 3) := dk_132 5 255 (dk_at dksX0_lastOf_1 8 rfl rfl)
theorem dX0_lastOf_35 : decode cX0_lastOf 35 = .ok (.goto (-29), 3) := dk_167 255 227 (dk_at dksX0_lastOf_1 11 rfl rfl)
theorem dX0_lastOf_38 : decode cX0_lastOf 38 = .ok (.iload 5, 2) := dk_21 5 (dk_at dksX0_lastOf_1 14 rfl rfl)
theorem dX0_lastOf_40 : decode cX0_lastOf 40 = .ok (.ireturn, 1) := dk_172 (dk_at dksX0_lastOf_1 16 rfl rfl)
abbrev cX0_last : ByteArray := prog_1_method_64_code
def yX0_last : MethodName := ⟨RX0, "last", "(III)I"⟩
def dkwX0_last_2 : List UInt8 := [182, 1, 249, 172]
abbrev dktX0_last_2 : List UInt8 := dkwX0_last_2 ++ []
def dkwX0_last_1 : List UInt8 := [20, 2, 0, 184, 0, 90, 154, 0, 6, 16, 254, 172, 42, 182, 1, 193, 42, 27, 28, 29, 42, 180, 0, 173]
abbrev dktX0_last_1 : List UInt8 := dkwX0_last_1 ++ dktX0_last_2
def dkwX0_last_0 : List UInt8 := [27, 133, 10, 20, 0, 224, 184, 0, 90, 153, 0, 22, 28, 184, 0, 106, 153, 0, 15, 29, 133, 9]
abbrev dktX0_last_0 : List UInt8 := dkwX0_last_0 ++ dktX0_last_1
theorem dksX0_last_0 : cX0_last.data.toList.drop 0 = dktX0_last_0 := by decide +kernel
theorem dksX0_last_1 : cX0_last.data.toList.drop 22 = dktX0_last_1 := dk_seg dksX0_last_0 22 rfl rfl
theorem dksX0_last_2 : cX0_last.data.toList.drop 46 = dktX0_last_2 := dk_seg dksX0_last_1 24 rfl rfl
theorem dX0_last_0 : decode cX0_last 0 = .ok (.iload_n 1, 1) := dk_27 (dk_at dksX0_last_0 0 rfl rfl)
theorem dX0_last_1 : decode cX0_last 1 = .ok (.i2l, 1) := dk_133 (dk_at dksX0_last_0 1 rfl rfl)
theorem dX0_last_2 : decode cX0_last 2 = .ok (.lconst 1, 1) := dk_10 (dk_at dksX0_last_0 2 rfl rfl)
theorem dX0_last_3 : decode cX0_last 3 = .ok (.ldc2_w 224, 3) := dk_20 0 224 (dk_at dksX0_last_0 3 rfl rfl)
theorem dX0_last_6 : decode cX0_last 6 = .ok (.invokestatic 90, 3) := dk_184 0 90 (dk_at dksX0_last_0 6 rfl rfl)
theorem dX0_last_9 : decode cX0_last 9 = .ok (.ifCond .eq 22, 3) := dk_153 0 22 (dk_at dksX0_last_0 9 rfl rfl)
theorem dX0_last_12 : decode cX0_last 12 = .ok (.iload_n 2, 1) := dk_28 (dk_at dksX0_last_0 12 rfl rfl)
theorem dX0_last_13 : decode cX0_last 13 = .ok (.invokestatic 106, 3) := dk_184 0 106 (dk_at dksX0_last_0 13 rfl rfl)
theorem dX0_last_16 : decode cX0_last 16 = .ok (.ifCond .eq 15, 3) := dk_153 0 15 (dk_at dksX0_last_0 16 rfl rfl)
theorem dX0_last_19 : decode cX0_last 19 = .ok (.iload_n 3, 1) := dk_29 (dk_at dksX0_last_0 19 rfl rfl)
theorem dX0_last_20 : decode cX0_last 20 = .ok (.i2l, 1) := dk_133 (dk_at dksX0_last_0 20 rfl rfl)
theorem dX0_last_21 : decode cX0_last 21 = .ok (.lconst 0, 1) := dk_9 (dk_at dksX0_last_0 21 rfl rfl)
theorem dX0_last_22 : decode cX0_last 22 = .ok (.ldc2_w 512, 3) := dk_20 2 0 (dk_at dksX0_last_1 0 rfl rfl)
theorem dX0_last_25 : decode cX0_last 25 = .ok (.invokestatic 90, 3) := dk_184 0 90 (dk_at dksX0_last_1 3 rfl rfl)
theorem dX0_last_28 : decode cX0_last 28 = .ok (.ifCond .ne 6, 3) := dk_154 0 6 (dk_at dksX0_last_1 6 rfl rfl)
theorem dX0_last_31 : decode cX0_last 31 = .ok (.bipush (-2), 2) := dk_16 254 (dk_at dksX0_last_1 9 rfl rfl)
theorem dX0_last_33 : decode cX0_last 33 = .ok (.ireturn, 1) := dk_172 (dk_at dksX0_last_1 11 rfl rfl)
theorem dX0_last_34 : decode cX0_last 34 = .ok (.aload_n 0, 1) := dk_42 (dk_at dksX0_last_1 12 rfl rfl)
theorem dX0_last_35 : decode cX0_last 35 = .ok (.invokevirtual 449, 3) := dk_182 1 193 (dk_at dksX0_last_1 13 rfl rfl)
theorem dX0_last_38 : decode cX0_last 38 = .ok (.aload_n 0, 1) := dk_42 (dk_at dksX0_last_1 16 rfl rfl)
theorem dX0_last_39 : decode cX0_last 39 = .ok (.iload_n 1, 1) := dk_27 (dk_at dksX0_last_1 17 rfl rfl)
theorem dX0_last_40 : decode cX0_last 40 = .ok (.iload_n 2, 1) := dk_28 (dk_at dksX0_last_1 18 rfl rfl)
theorem dX0_last_41 : decode cX0_last 41 = .ok (.iload_n 3, 1) := dk_29 (dk_at dksX0_last_1 19 rfl rfl)
theorem dX0_last_42 : decode cX0_last 42 = .ok (.aload_n 0, 1) := dk_42 (dk_at dksX0_last_1 20 rfl rfl)
theorem dX0_last_43 : decode cX0_last 43 = .ok (.getfield 173, 3) := dk_180 0 173 (dk_at dksX0_last_1 21 rfl rfl)
theorem dX0_last_46 : decode cX0_last 46 = .ok (.invokevirtual 505, 3) := dk_182 1 249 (dk_at dksX0_last_2 0 rfl rfl)
theorem dX0_last_49 : decode cX0_last 49 = .ok (.ireturn, 1) := dk_172 (dk_at dksX0_last_2 3 rfl rfl)
abbrev cX0_run : ByteArray := prog_1_method_80_code
def yX0_run : MethodName := ⟨RX0, "run", "()I"⟩
def dkwX0_run_0 : List UInt8 := [42, 182, 2, 124, 42, 182, 2, 127, 172]
abbrev dktX0_run_0 : List UInt8 := dkwX0_run_0 ++ []
theorem dksX0_run_0 : cX0_run.data.toList.drop 0 = dktX0_run_0 := by decide +kernel
theorem dX0_run_0 : decode cX0_run 0 = .ok (.aload_n 0, 1) := dk_42 (dk_at dksX0_run_0 0 rfl rfl)
theorem dX0_run_1 : decode cX0_run 1 = .ok (.invokevirtual 636, 3) := dk_182 2 124 (dk_at dksX0_run_0 1 rfl rfl)
theorem dX0_run_4 : decode cX0_run 4 = .ok (.aload_n 0, 1) := dk_42 (dk_at dksX0_run_0 4 rfl rfl)
theorem dX0_run_5 : decode cX0_run 5 = .ok (.invokevirtual 639, 3) := dk_182 2 127 (dk_at dksX0_run_0 5 rfl rfl)
theorem dX0_run_8 : decode cX0_run 8 = .ok (.ireturn, 1) := dk_172 (dk_at dksX0_run_0 8 rfl rfl)
abbrev cX0_runs : ByteArray := prog_1_method_72_code
def yX0_runs : MethodName := ⟨RX0, "runs", "()V"⟩
def dkwX0_runs_1 : List UInt8 := [153, 0, 16, 42, 42, 180, 0, 68, 27, 50, 182, 2, 63, 167, 255, 234, 132, 1, 1, 167, 255, 220, 177]
abbrev dktX0_runs_1 : List UInt8 := dkwX0_runs_1 ++ []
def dkwX0_runs_0 : List UInt8 := [42, 3, 182, 2, 60, 3, 60, 27, 42, 180, 0, 173, 162, 0, 34, 42, 180, 0, 68, 27, 50, 182, 2, 54]
abbrev dktX0_runs_0 : List UInt8 := dkwX0_runs_0 ++ dktX0_runs_1
theorem dksX0_runs_0 : cX0_runs.data.toList.drop 0 = dktX0_runs_0 := by decide +kernel
theorem dksX0_runs_1 : cX0_runs.data.toList.drop 24 = dktX0_runs_1 := dk_seg dksX0_runs_0 24 rfl rfl
theorem dX0_runs_0 : decode cX0_runs 0 = .ok (.aload_n 0, 1) := dk_42 (dk_at dksX0_runs_0 0 rfl rfl)
theorem dX0_runs_1 : decode cX0_runs 1 = .ok (.iconst 0, 1) := dk_3 (dk_at dksX0_runs_0 1 rfl rfl)
theorem dX0_runs_2 : decode cX0_runs 2 = .ok (.invokevirtual 572, 3) := dk_182 2 60 (dk_at dksX0_runs_0 2 rfl rfl)
theorem dX0_runs_5 : decode cX0_runs 5 = .ok (.iconst 0, 1) := dk_3 (dk_at dksX0_runs_0 5 rfl rfl)
theorem dX0_runs_6 : decode cX0_runs 6 = .ok (.istore_n 1, 1) := dk_60 (dk_at dksX0_runs_0 6 rfl rfl)
theorem dX0_runs_7 : decode cX0_runs 7 = .ok (.iload_n 1, 1) := dk_27 (dk_at dksX0_runs_0 7 rfl rfl)
theorem dX0_runs_8 : decode cX0_runs 8 = .ok (.aload_n 0, 1) := dk_42 (dk_at dksX0_runs_0 8 rfl rfl)
theorem dX0_runs_9 : decode cX0_runs 9 = .ok (.getfield 173, 3) := dk_180 0 173 (dk_at dksX0_runs_0 9 rfl rfl)
theorem dX0_runs_12 : decode cX0_runs 12 = .ok (.if_icmp .ge 34, 3) := dk_162 0 34 (dk_at dksX0_runs_0 12 rfl rfl)
theorem dX0_runs_15 : decode cX0_runs 15 = .ok (.aload_n 0, 1) := dk_42 (dk_at dksX0_runs_0 15 rfl rfl)
theorem dX0_runs_16 : decode cX0_runs 16 = .ok (.getfield 68, 3) := dk_180 0 68 (dk_at dksX0_runs_0 16 rfl rfl)
theorem dX0_runs_19 : decode cX0_runs 19 = .ok (.iload_n 1, 1) := dk_27 (dk_at dksX0_runs_0 19 rfl rfl)
theorem dX0_runs_20 : decode cX0_runs 20 = .ok (.aaload, 1) := dk_50 (dk_at dksX0_runs_0 20 rfl rfl)
theorem dX0_runs_21 : decode cX0_runs 21 = .ok (.invokevirtual 566, 3) := dk_182 2 54 (dk_at dksX0_runs_0 21 rfl rfl)
theorem dX0_runs_24 : decode cX0_runs 24 = .ok (.ifCond .eq 16, 3) := dk_153 0 16 (dk_at dksX0_runs_1 0 rfl rfl)
theorem dX0_runs_27 : decode cX0_runs 27 = .ok (.aload_n 0, 1) := dk_42 (dk_at dksX0_runs_1 3 rfl rfl)
theorem dX0_runs_28 : decode cX0_runs 28 = .ok (.aload_n 0, 1) := dk_42 (dk_at dksX0_runs_1 4 rfl rfl)
theorem dX0_runs_29 : decode cX0_runs 29 = .ok (.getfield 68, 3) := dk_180 0 68 (dk_at dksX0_runs_1 5 rfl rfl)
theorem dX0_runs_32 : decode cX0_runs 32 = .ok (.iload_n 1, 1) := dk_27 (dk_at dksX0_runs_1 8 rfl rfl)
theorem dX0_runs_33 : decode cX0_runs 33 = .ok (.aaload, 1) := dk_50 (dk_at dksX0_runs_1 9 rfl rfl)
theorem dX0_runs_34 : decode cX0_runs 34 = .ok (.invokevirtual 575, 3) := dk_182 2 63 (dk_at dksX0_runs_1 10 rfl rfl)
theorem dX0_runs_37 : decode cX0_runs 37 = .ok (.goto (-22), 3) := dk_167 255 234 (dk_at dksX0_runs_1 13 rfl rfl)
theorem dX0_runs_40 : decode cX0_runs 40 = .ok (.iinc 1 1, 3) := dk_132 1 1 (dk_at dksX0_runs_1 16 rfl rfl)
theorem dX0_runs_43 : decode cX0_runs 43 = .ok (.goto (-36), 3) := dk_167 255 220 (dk_at dksX0_runs_1 19 rfl rfl)
theorem dX0_runs_46 : decode cX0_runs 46 = .ok (.return_, 1) := dk_177 (dk_at dksX0_runs_1 22 rfl rfl)
abbrev cX0_begins : ByteArray := prog_1_method_70_code
def yX0_begins : MethodName := ⟨RX0, "begins", "(Z)V"⟩
def dkwX0_begins_6 : List UInt8 := [132, 2, 1, 167, 255, 235, 177]
abbrev dktX0_begins_6 : List UInt8 := dkwX0_begins_6 ++ []
def dkwX0_begins_5 : List UInt8 := [181, 2, 45, 3, 61, 28, 42, 180, 0, 173, 162, 0, 19, 42, 180, 0, 68, 28, 50, 28, 182, 2, 48]
abbrev dktX0_begins_5 : List UInt8 := dkwX0_begins_5 ++ dktX0_begins_6
def dkwX0_begins_4 : List UInt8 := [162, 0, 16, 42, 180, 0, 60, 28, 3, 79, 132, 2, 1, 167, 255, 241, 42, 3, 181, 2, 42, 42, 3]
abbrev dktX0_begins_4 : List UInt8 := dkwX0_begins_4 ++ dktX0_begins_5
def dkwX0_begins_3 : List UInt8 := [180, 2, 39, 21, 5, 2, 79, 132, 5, 1, 167, 255, 229, 132, 2, 1, 167, 255, 175, 3, 61, 28, 6]
abbrev dktX0_begins_3 : List UInt8 := dkwX0_begins_3 ++ dktX0_begins_4
def dkwX0_begins_2 : List UInt8 := [50, 58, 4, 3, 54, 5, 25, 4, 198, 0, 28, 21, 5, 25, 4, 180, 0, 121, 162, 0, 18, 25, 4]
abbrev dktX0_begins_2 : List UInt8 := dkwX0_begins_2 ++ dktX0_begins_3
def dkwX0_begins_1 : List UInt8 := [153, 0, 17, 29, 5, 159, 0, 8, 29, 6, 160, 0, 7, 29, 167, 0, 4, 4, 79, 42, 180, 0, 25, 28]
abbrev dktX0_begins_1 : List UInt8 := dkwX0_begins_1 ++ dktX0_begins_2
def dkwX0_begins_0 : List UInt8 := [42, 182, 1, 193, 3, 61, 28, 16, 6, 162, 0, 81, 42, 28, 182, 1, 246, 62, 42, 180, 0, 56, 28, 27]
abbrev dktX0_begins_0 : List UInt8 := dkwX0_begins_0 ++ dktX0_begins_1
theorem dksX0_begins_0 : cX0_begins.data.toList.drop 0 = dktX0_begins_0 := by decide +kernel
theorem dksX0_begins_1 : cX0_begins.data.toList.drop 24 = dktX0_begins_1 := dk_seg dksX0_begins_0 24 rfl rfl
theorem dksX0_begins_2 : cX0_begins.data.toList.drop 48 = dktX0_begins_2 := dk_seg dksX0_begins_1 24 rfl rfl
theorem dksX0_begins_3 : cX0_begins.data.toList.drop 71 = dktX0_begins_3 := dk_seg dksX0_begins_2 23 rfl rfl
theorem dksX0_begins_4 : cX0_begins.data.toList.drop 94 = dktX0_begins_4 := dk_seg dksX0_begins_3 23 rfl rfl
theorem dksX0_begins_5 : cX0_begins.data.toList.drop 117 = dktX0_begins_5 := dk_seg dksX0_begins_4 23 rfl rfl
theorem dksX0_begins_6 : cX0_begins.data.toList.drop 140 = dktX0_begins_6 := dk_seg dksX0_begins_5 23 rfl rfl
theorem dX0_begins_0 : decode cX0_begins 0 = .ok (.aload_n 0, 1) := dk_42 (dk_at dksX0_begins_0 0 rfl rfl)
theorem dX0_begins_1 : decode cX0_begins 1 = .ok (.invokevirtual 449, 3) := dk_182 1 193 (dk_at dksX0_begins_0 1 rfl rfl)
theorem dX0_begins_4 : decode cX0_begins 4 = .ok (.iconst 0, 1) := dk_3 (dk_at dksX0_begins_0 4 rfl rfl)
theorem dX0_begins_5 : decode cX0_begins 5 = .ok (.istore_n 2, 1) := dk_61 (dk_at dksX0_begins_0 5 rfl rfl)
theorem dX0_begins_6 : decode cX0_begins 6 = .ok (.iload_n 2, 1) := dk_28 (dk_at dksX0_begins_0 6 rfl rfl)
theorem dX0_begins_7 : decode cX0_begins 7 = .ok (.bipush 6, 2) := dk_16 6 (dk_at dksX0_begins_0 7 rfl rfl)
theorem dX0_begins_9 : decode cX0_begins 9 = .ok (.if_icmp .ge 81, 3) := dk_162 0 81 (dk_at dksX0_begins_0 9 rfl rfl)
theorem dX0_begins_12 : decode cX0_begins 12 = .ok (.aload_n 0, 1) := dk_42 (dk_at dksX0_begins_0 12 rfl rfl)
theorem dX0_begins_13 : decode cX0_begins 13 = .ok (.iload_n 2, 1) := dk_28 (dk_at dksX0_begins_0 13 rfl rfl)
theorem dX0_begins_14 : decode cX0_begins 14 = .ok (.invokevirtual 502, 3) := dk_182 1 246 (dk_at dksX0_begins_0 14 rfl rfl)
theorem dX0_begins_17 : decode cX0_begins 17 = .ok (.istore_n 3, 1) := dk_62 (dk_at dksX0_begins_0 17 rfl rfl)
theorem dX0_begins_18 : decode cX0_begins 18 = .ok (.aload_n 0, 1) := dk_42 (dk_at dksX0_begins_0 18 rfl rfl)
theorem dX0_begins_19 : decode cX0_begins 19 = .ok (.getfield 56, 3) := dk_180 0 56 (dk_at dksX0_begins_0 19 rfl rfl)
theorem dX0_begins_22 : decode cX0_begins 22 = .ok (.iload_n 2, 1) := dk_28 (dk_at dksX0_begins_0 22 rfl rfl)
theorem dX0_begins_23 : decode cX0_begins 23 = .ok (.iload_n 1, 1) := dk_27 (dk_at dksX0_begins_0 23 rfl rfl)
theorem dX0_begins_24 : decode cX0_begins 24 = .ok (.ifCond .eq 17, 3) := dk_153 0 17 (dk_at dksX0_begins_1 0 rfl rfl)
theorem dX0_begins_27 : decode cX0_begins 27 = .ok (.iload_n 3, 1) := dk_29 (dk_at dksX0_begins_1 3 rfl rfl)
theorem dX0_begins_28 : decode cX0_begins 28 = .ok (.iconst 2, 1) := dk_5 (dk_at dksX0_begins_1 4 rfl rfl)
theorem dX0_begins_29 : decode cX0_begins 29 = .ok (.if_icmp .eq 8, 3) := dk_159 0 8 (dk_at dksX0_begins_1 5 rfl rfl)
theorem dX0_begins_32 : decode cX0_begins 32 = .ok (.iload_n 3, 1) := dk_29 (dk_at dksX0_begins_1 8 rfl rfl)
theorem dX0_begins_33 : decode cX0_begins 33 = .ok (.iconst 3, 1) := dk_6 (dk_at dksX0_begins_1 9 rfl rfl)
theorem dX0_begins_34 : decode cX0_begins 34 = .ok (.if_icmp .ne 7, 3) := dk_160 0 7 (dk_at dksX0_begins_1 10 rfl rfl)
theorem dX0_begins_37 : decode cX0_begins 37 = .ok (.iload_n 3, 1) := dk_29 (dk_at dksX0_begins_1 13 rfl rfl)
theorem dX0_begins_38 : decode cX0_begins 38 = .ok (.goto 4, 3) := dk_167 0 4 (dk_at dksX0_begins_1 14 rfl rfl)
theorem dX0_begins_41 : decode cX0_begins 41 = .ok (.iconst 1, 1) := dk_4 (dk_at dksX0_begins_1 17 rfl rfl)
theorem dX0_begins_42 : decode cX0_begins 42 = .ok (.iastore, 1) := dk_79 (dk_at dksX0_begins_1 18 rfl rfl)
theorem dX0_begins_43 : decode cX0_begins 43 = .ok (.aload_n 0, 1) := dk_42 (dk_at dksX0_begins_1 19 rfl rfl)
theorem dX0_begins_44 : decode cX0_begins 44 = .ok (.getfield 25, 3) := dk_180 0 25 (dk_at dksX0_begins_1 20 rfl rfl)
theorem dX0_begins_47 : decode cX0_begins 47 = .ok (.iload_n 2, 1) := dk_28 (dk_at dksX0_begins_1 23 rfl rfl)
theorem dX0_begins_48 : decode cX0_begins 48 = .ok (.aaload, 1) := dk_50 (dk_at dksX0_begins_2 0 rfl rfl)
theorem dX0_begins_49 : decode cX0_begins 49 = .ok (.astore 4, 2) := dk_58 4 (dk_at dksX0_begins_2 1 rfl rfl)
theorem dX0_begins_51 : decode cX0_begins 51 = .ok (.iconst 0, 1) := dk_3 (dk_at dksX0_begins_2 3 rfl rfl)
theorem dX0_begins_52 : decode cX0_begins 52 = .ok (.istore 5, 2) := dk_54 5 (dk_at dksX0_begins_2 4 rfl rfl)
theorem dX0_begins_54 : decode cX0_begins 54 = .ok (.aload 4, 2) := dk_25 4 (dk_at dksX0_begins_2 6 rfl rfl)
theorem dX0_begins_56 : decode cX0_begins 56 = .ok (.ifnull 28, 3) := dk_198 0 28 (dk_at dksX0_begins_2 8 rfl rfl)
theorem dX0_begins_59 : decode cX0_begins 59 = .ok (.iload 5, 2) := dk_21 5 (dk_at dksX0_begins_2 11 rfl rfl)
theorem dX0_begins_61 : decode cX0_begins 61 = .ok (.aload 4, 2) := dk_25 4 (dk_at dksX0_begins_2 13 rfl rfl)
theorem dX0_begins_63 : decode cX0_begins 63 = .ok (.getfield 121, 3) := dk_180 0 121 (dk_at dksX0_begins_2 15 rfl rfl)
theorem dX0_begins_66 : decode cX0_begins 66 = .ok (.if_icmp .ge 18, 3) := dk_162 0 18 (dk_at dksX0_begins_2 18 rfl rfl)
theorem dX0_begins_69 : decode cX0_begins 69 = .ok (.aload 4, 2) := dk_25 4 (dk_at dksX0_begins_2 21 rfl rfl)
theorem dX0_begins_71 : decode cX0_begins 71 = .ok (.getfield 551, 3) := dk_180 2 39 (dk_at dksX0_begins_3 0 rfl rfl)
theorem dX0_begins_74 : decode cX0_begins 74 = .ok (.iload 5, 2) := dk_21 5 (dk_at dksX0_begins_3 3 rfl rfl)
theorem dX0_begins_76 : decode cX0_begins 76 = .ok (.iconst (-1), 1) := dk_2 (dk_at dksX0_begins_3 5 rfl rfl)
theorem dX0_begins_77 : decode cX0_begins 77 = .ok (.iastore, 1) := dk_79 (dk_at dksX0_begins_3 6 rfl rfl)
theorem dX0_begins_78 : decode cX0_begins 78 = .ok (.iinc 5 1, 3) := dk_132 5 1 (dk_at dksX0_begins_3 7 rfl rfl)
theorem dX0_begins_81 : decode cX0_begins 81 = .ok (.goto (-27), 3) := dk_167 255 229 (dk_at dksX0_begins_3 10 rfl rfl)
theorem dX0_begins_84 : decode cX0_begins 84 = .ok (.iinc 2 1, 3) := dk_132 2 1 (dk_at dksX0_begins_3 13 rfl rfl)
theorem dX0_begins_87 : decode cX0_begins 87 = .ok (.goto (-81), 3) := dk_167 255 175 (dk_at dksX0_begins_3 16 rfl rfl)
theorem dX0_begins_90 : decode cX0_begins 90 = .ok (.iconst 0, 1) := dk_3 (dk_at dksX0_begins_3 19 rfl rfl)
theorem dX0_begins_91 : decode cX0_begins 91 = .ok (.istore_n 2, 1) := dk_61 (dk_at dksX0_begins_3 20 rfl rfl)
theorem dX0_begins_92 : decode cX0_begins 92 = .ok (.iload_n 2, 1) := dk_28 (dk_at dksX0_begins_3 21 rfl rfl)
theorem dX0_begins_93 : decode cX0_begins 93 = .ok (.iconst 3, 1) := dk_6 (dk_at dksX0_begins_3 22 rfl rfl)
theorem dX0_begins_94 : decode cX0_begins 94 = .ok (.if_icmp .ge 16, 3) := dk_162 0 16 (dk_at dksX0_begins_4 0 rfl rfl)
theorem dX0_begins_97 : decode cX0_begins 97 = .ok (.aload_n 0, 1) := dk_42 (dk_at dksX0_begins_4 3 rfl rfl)
theorem dX0_begins_98 : decode cX0_begins 98 = .ok (.getfield 60, 3) := dk_180 0 60 (dk_at dksX0_begins_4 4 rfl rfl)
theorem dX0_begins_101 : decode cX0_begins 101 = .ok (.iload_n 2, 1) := dk_28 (dk_at dksX0_begins_4 7 rfl rfl)
theorem dX0_begins_102 : decode cX0_begins 102 = .ok (.iconst 0, 1) := dk_3 (dk_at dksX0_begins_4 8 rfl rfl)
theorem dX0_begins_103 : decode cX0_begins 103 = .ok (.iastore, 1) := dk_79 (dk_at dksX0_begins_4 9 rfl rfl)
theorem dX0_begins_104 : decode cX0_begins 104 = .ok (.iinc 2 1, 3) := dk_132 2 1 (dk_at dksX0_begins_4 10 rfl rfl)
theorem dX0_begins_107 : decode cX0_begins 107 = .ok (.goto (-15), 3) := dk_167 255 241 (dk_at dksX0_begins_4 13 rfl rfl)
theorem dX0_begins_110 : decode cX0_begins 110 = .ok (.aload_n 0, 1) := dk_42 (dk_at dksX0_begins_4 16 rfl rfl)
theorem dX0_begins_111 : decode cX0_begins 111 = .ok (.iconst 0, 1) := dk_3 (dk_at dksX0_begins_4 17 rfl rfl)
theorem dX0_begins_112 : decode cX0_begins 112 = .ok (.putfield 554, 3) := dk_181 2 42 (dk_at dksX0_begins_4 18 rfl rfl)
theorem dX0_begins_115 : decode cX0_begins 115 = .ok (.aload_n 0, 1) := dk_42 (dk_at dksX0_begins_4 21 rfl rfl)
theorem dX0_begins_116 : decode cX0_begins 116 = .ok (.iconst 0, 1) := dk_3 (dk_at dksX0_begins_4 22 rfl rfl)
theorem dX0_begins_117 : decode cX0_begins 117 = .ok (.putfield 557, 3) := dk_181 2 45 (dk_at dksX0_begins_5 0 rfl rfl)
theorem dX0_begins_120 : decode cX0_begins 120 = .ok (.iconst 0, 1) := dk_3 (dk_at dksX0_begins_5 3 rfl rfl)
theorem dX0_begins_121 : decode cX0_begins 121 = .ok (.istore_n 2, 1) := dk_61 (dk_at dksX0_begins_5 4 rfl rfl)
theorem dX0_begins_122 : decode cX0_begins 122 = .ok (.iload_n 2, 1) := dk_28 (dk_at dksX0_begins_5 5 rfl rfl)
theorem dX0_begins_123 : decode cX0_begins 123 = .ok (.aload_n 0, 1) := dk_42 (dk_at dksX0_begins_5 6 rfl rfl)
theorem dX0_begins_124 : decode cX0_begins 124 = .ok (.getfield 173, 3) := dk_180 0 173 (dk_at dksX0_begins_5 7 rfl rfl)
theorem dX0_begins_127 : decode cX0_begins 127 = .ok (.if_icmp .ge 19, 3) := dk_162 0 19 (dk_at dksX0_begins_5 10 rfl rfl)
theorem dX0_begins_130 : decode cX0_begins 130 = .ok (.aload_n 0, 1) := dk_42 (dk_at dksX0_begins_5 13 rfl rfl)
theorem dX0_begins_131 : decode cX0_begins 131 = .ok (.getfield 68, 3) := dk_180 0 68 (dk_at dksX0_begins_5 14 rfl rfl)
theorem dX0_begins_134 : decode cX0_begins 134 = .ok (.iload_n 2, 1) := dk_28 (dk_at dksX0_begins_5 17 rfl rfl)
theorem dX0_begins_135 : decode cX0_begins 135 = .ok (.aaload, 1) := dk_50 (dk_at dksX0_begins_5 18 rfl rfl)
theorem dX0_begins_136 : decode cX0_begins 136 = .ok (.iload_n 2, 1) := dk_28 (dk_at dksX0_begins_5 19 rfl rfl)
theorem dX0_begins_137 : decode cX0_begins 137 = .ok (.invokevirtual 560, 3) := dk_182 2 48 (dk_at dksX0_begins_5 20 rfl rfl)
theorem dX0_begins_140 : decode cX0_begins 140 = .ok (.iinc 2 1, 3) := dk_132 2 1 (dk_at dksX0_begins_6 0 rfl rfl)
theorem dX0_begins_143 : decode cX0_begins 143 = .ok (.goto (-21), 3) := dk_167 255 235 (dk_at dksX0_begins_6 3 rfl rfl)
theorem dX0_begins_146 : decode cX0_begins 146 = .ok (.return_, 1) := dk_177 (dk_at dksX0_begins_6 6 rfl rfl)
abbrev cX0_steps : ByteArray := prog_1_method_71_code
def yX0_steps : MethodName := ⟨RX0, "steps", "(LStrideTurns$Turn;)V"⟩
def dkwX0_steps_2 : List UInt8 := [180, 2, 42, 4, 96, 181, 2, 42, 177]
abbrev dktX0_steps_2 : List UInt8 := dkwX0_steps_2 ++ []
def dkwX0_steps_1 : List UInt8 := [182, 2, 54, 153, 0, 4, 177, 42, 180, 0, 71, 42, 180, 2, 42, 43, 180, 2, 57, 79, 42, 89]
abbrev dktX0_steps_1 : List UInt8 := dkwX0_steps_1 ++ dktX0_steps_2
def dkwX0_steps_0 : List UInt8 := [42, 89, 180, 2, 45, 43, 182, 2, 51, 153, 0, 7, 4, 167, 0, 4, 3, 96, 181, 2, 45, 43]
abbrev dktX0_steps_0 : List UInt8 := dkwX0_steps_0 ++ dktX0_steps_1
theorem dksX0_steps_0 : cX0_steps.data.toList.drop 0 = dktX0_steps_0 := by decide +kernel
theorem dksX0_steps_1 : cX0_steps.data.toList.drop 22 = dktX0_steps_1 := dk_seg dksX0_steps_0 22 rfl rfl
theorem dksX0_steps_2 : cX0_steps.data.toList.drop 44 = dktX0_steps_2 := dk_seg dksX0_steps_1 22 rfl rfl
theorem dX0_steps_0 : decode cX0_steps 0 = .ok (.aload_n 0, 1) := dk_42 (dk_at dksX0_steps_0 0 rfl rfl)
theorem dX0_steps_1 : decode cX0_steps 1 = .ok (.dup, 1) := dk_89 (dk_at dksX0_steps_0 1 rfl rfl)
theorem dX0_steps_2 : decode cX0_steps 2 = .ok (.getfield 557, 3) := dk_180 2 45 (dk_at dksX0_steps_0 2 rfl rfl)
theorem dX0_steps_5 : decode cX0_steps 5 = .ok (.aload_n 1, 1) := dk_43 (dk_at dksX0_steps_0 5 rfl rfl)
theorem dX0_steps_6 : decode cX0_steps 6 = .ok (.invokevirtual 563, 3) := dk_182 2 51 (dk_at dksX0_steps_0 6 rfl rfl)
theorem dX0_steps_9 : decode cX0_steps 9 = .ok (.ifCond .eq 7, 3) := dk_153 0 7 (dk_at dksX0_steps_0 9 rfl rfl)
theorem dX0_steps_12 : decode cX0_steps 12 = .ok (.iconst 1, 1) := dk_4 (dk_at dksX0_steps_0 12 rfl rfl)
theorem dX0_steps_13 : decode cX0_steps 13 = .ok (.goto 4, 3) := dk_167 0 4 (dk_at dksX0_steps_0 13 rfl rfl)
theorem dX0_steps_16 : decode cX0_steps 16 = .ok (.iconst 0, 1) := dk_3 (dk_at dksX0_steps_0 16 rfl rfl)
theorem dX0_steps_17 : decode cX0_steps 17 = .ok (.iadd, 1) := dk_96 (dk_at dksX0_steps_0 17 rfl rfl)
theorem dX0_steps_18 : decode cX0_steps 18 = .ok (.putfield 557, 3) := dk_181 2 45 (dk_at dksX0_steps_0 18 rfl rfl)
theorem dX0_steps_21 : decode cX0_steps 21 = .ok (.aload_n 1, 1) := dk_43 (dk_at dksX0_steps_0 21 rfl rfl)
theorem dX0_steps_22 : decode cX0_steps 22 = .ok (.invokevirtual 566, 3) := dk_182 2 54 (dk_at dksX0_steps_1 0 rfl rfl)
theorem dX0_steps_25 : decode cX0_steps 25 = .ok (.ifCond .eq 4, 3) := dk_153 0 4 (dk_at dksX0_steps_1 3 rfl rfl)
theorem dX0_steps_28 : decode cX0_steps 28 = .ok (.return_, 1) := dk_177 (dk_at dksX0_steps_1 6 rfl rfl)
theorem dX0_steps_29 : decode cX0_steps 29 = .ok (.aload_n 0, 1) := dk_42 (dk_at dksX0_steps_1 7 rfl rfl)
theorem dX0_steps_30 : decode cX0_steps 30 = .ok (.getfield 71, 3) := dk_180 0 71 (dk_at dksX0_steps_1 8 rfl rfl)
theorem dX0_steps_33 : decode cX0_steps 33 = .ok (.aload_n 0, 1) := dk_42 (dk_at dksX0_steps_1 11 rfl rfl)
theorem dX0_steps_34 : decode cX0_steps 34 = .ok (.getfield 554, 3) := dk_180 2 42 (dk_at dksX0_steps_1 12 rfl rfl)
theorem dX0_steps_37 : decode cX0_steps 37 = .ok (.aload_n 1, 1) := dk_43 (dk_at dksX0_steps_1 15 rfl rfl)
theorem dX0_steps_38 : decode cX0_steps 38 = .ok (.getfield 569, 3) := dk_180 2 57 (dk_at dksX0_steps_1 16 rfl rfl)
theorem dX0_steps_41 : decode cX0_steps 41 = .ok (.iastore, 1) := dk_79 (dk_at dksX0_steps_1 19 rfl rfl)
theorem dX0_steps_42 : decode cX0_steps 42 = .ok (.aload_n 0, 1) := dk_42 (dk_at dksX0_steps_1 20 rfl rfl)
theorem dX0_steps_43 : decode cX0_steps 43 = .ok (.dup, 1) := dk_89 (dk_at dksX0_steps_1 21 rfl rfl)
theorem dX0_steps_44 : decode cX0_steps 44 = .ok (.getfield 554, 3) := dk_180 2 42 (dk_at dksX0_steps_2 0 rfl rfl)
theorem dX0_steps_47 : decode cX0_steps 47 = .ok (.iconst 1, 1) := dk_4 (dk_at dksX0_steps_2 3 rfl rfl)
theorem dX0_steps_48 : decode cX0_steps 48 = .ok (.iadd, 1) := dk_96 (dk_at dksX0_steps_2 4 rfl rfl)
theorem dX0_steps_49 : decode cX0_steps 49 = .ok (.putfield 554, 3) := dk_181 2 42 (dk_at dksX0_steps_2 5 rfl rfl)
theorem dX0_steps_52 : decode cX0_steps 52 = .ok (.return_, 1) := dk_177 (dk_at dksX0_steps_2 8 rfl rfl)
abbrev cX0_widthOf : ByteArray := prog_1_method_67_code
def yX0_widthOf : MethodName := ⟨RX0, "widthOf", "(LStrideTurns$Statement;)I"⟩
def dkwX0_widthOf_2 : List UInt8 := [182, 0, 233, 182, 2, 8, 184, 2, 2, 167, 0, 4, 28, 172]
abbrev dktX0_widthOf_2 : List UInt8 := dkwX0_widthOf_2 ++ []
def dkwX0_widthOf_1 : List UInt8 := [182, 0, 233, 182, 2, 8, 184, 2, 2, 61, 43, 5, 182, 1, 88, 153, 0, 19, 28, 42, 43, 5]
abbrev dktX0_widthOf_1 : List UInt8 := dkwX0_widthOf_1 ++ dktX0_widthOf_2
def dkwX0_widthOf_0 : List UInt8 := [43, 180, 1, 164, 182, 2, 5, 153, 0, 5, 4, 172, 42, 43, 3, 182, 0, 233, 182, 2, 8, 42, 43, 4]
abbrev dktX0_widthOf_0 : List UInt8 := dkwX0_widthOf_0 ++ dktX0_widthOf_1
theorem dksX0_widthOf_0 : cX0_widthOf.data.toList.drop 0 = dktX0_widthOf_0 := by decide +kernel
theorem dksX0_widthOf_1 : cX0_widthOf.data.toList.drop 24 = dktX0_widthOf_1 := dk_seg dksX0_widthOf_0 24 rfl rfl
theorem dksX0_widthOf_2 : cX0_widthOf.data.toList.drop 46 = dktX0_widthOf_2 := dk_seg dksX0_widthOf_1 22 rfl rfl
theorem dX0_widthOf_0 : decode cX0_widthOf 0 = .ok (.aload_n 1, 1) := dk_43 (dk_at dksX0_widthOf_0 0 rfl rfl)
theorem dX0_widthOf_1 : decode cX0_widthOf 1 = .ok (.getfield 420, 3) := dk_180 1 164 (dk_at dksX0_widthOf_0 1 rfl rfl)
theorem dX0_widthOf_4 : decode cX0_widthOf 4 = .ok (.invokevirtual 517, 3) := dk_182 2 5 (dk_at dksX0_widthOf_0 4 rfl rfl)
theorem dX0_widthOf_7 : decode cX0_widthOf 7 = .ok (.ifCond .eq 5, 3) := dk_153 0 5 (dk_at dksX0_widthOf_0 7 rfl rfl)
theorem dX0_widthOf_10 : decode cX0_widthOf 10 = .ok (.iconst 1, 1) := dk_4 (dk_at dksX0_widthOf_0 10 rfl rfl)
theorem dX0_widthOf_11 : decode cX0_widthOf 11 = .ok (.ireturn, 1) := dk_172 (dk_at dksX0_widthOf_0 11 rfl rfl)
theorem dX0_widthOf_12 : decode cX0_widthOf 12 = .ok (.aload_n 0, 1) := dk_42 (dk_at dksX0_widthOf_0 12 rfl rfl)
theorem dX0_widthOf_13 : decode cX0_widthOf 13 = .ok (.aload_n 1, 1) := dk_43 (dk_at dksX0_widthOf_0 13 rfl rfl)
theorem dX0_widthOf_14 : decode cX0_widthOf 14 = .ok (.iconst 0, 1) := dk_3 (dk_at dksX0_widthOf_0 14 rfl rfl)
theorem dX0_widthOf_15 : decode cX0_widthOf 15 = .ok (.invokevirtual 233, 3) := dk_182 0 233 (dk_at dksX0_widthOf_0 15 rfl rfl)
theorem dX0_widthOf_18 : decode cX0_widthOf 18 = .ok (.invokevirtual 520, 3) := dk_182 2 8 (dk_at dksX0_widthOf_0 18 rfl rfl)
theorem dX0_widthOf_21 : decode cX0_widthOf 21 = .ok (.aload_n 0, 1) := dk_42 (dk_at dksX0_widthOf_0 21 rfl rfl)
theorem dX0_widthOf_22 : decode cX0_widthOf 22 = .ok (.aload_n 1, 1) := dk_43 (dk_at dksX0_widthOf_0 22 rfl rfl)
theorem dX0_widthOf_23 : decode cX0_widthOf 23 = .ok (.iconst 1, 1) := dk_4 (dk_at dksX0_widthOf_0 23 rfl rfl)
theorem dX0_widthOf_24 : decode cX0_widthOf 24 = .ok (.invokevirtual 233, 3) := dk_182 0 233 (dk_at dksX0_widthOf_1 0 rfl rfl)
theorem dX0_widthOf_27 : decode cX0_widthOf 27 = .ok (.invokevirtual 520, 3) := dk_182 2 8 (dk_at dksX0_widthOf_1 3 rfl rfl)
theorem dX0_widthOf_30 : decode cX0_widthOf 30 = .ok (.invokestatic 514, 3) := dk_184 2 2 (dk_at dksX0_widthOf_1 6 rfl rfl)
theorem dX0_widthOf_33 : decode cX0_widthOf 33 = .ok (.istore_n 2, 1) := dk_61 (dk_at dksX0_widthOf_1 9 rfl rfl)
theorem dX0_widthOf_34 : decode cX0_widthOf 34 = .ok (.aload_n 1, 1) := dk_43 (dk_at dksX0_widthOf_1 10 rfl rfl)
theorem dX0_widthOf_35 : decode cX0_widthOf 35 = .ok (.iconst 2, 1) := dk_5 (dk_at dksX0_widthOf_1 11 rfl rfl)
theorem dX0_widthOf_36 : decode cX0_widthOf 36 = .ok (.invokevirtual 344, 3) := dk_182 1 88 (dk_at dksX0_widthOf_1 12 rfl rfl)
theorem dX0_widthOf_39 : decode cX0_widthOf 39 = .ok (.ifCond .eq 19, 3) := dk_153 0 19 (dk_at dksX0_widthOf_1 15 rfl rfl)
theorem dX0_widthOf_42 : decode cX0_widthOf 42 = .ok (.iload_n 2, 1) := dk_28 (dk_at dksX0_widthOf_1 18 rfl rfl)
theorem dX0_widthOf_43 : decode cX0_widthOf 43 = .ok (.aload_n 0, 1) := dk_42 (dk_at dksX0_widthOf_1 19 rfl rfl)
theorem dX0_widthOf_44 : decode cX0_widthOf 44 = .ok (.aload_n 1, 1) := dk_43 (dk_at dksX0_widthOf_1 20 rfl rfl)
theorem dX0_widthOf_45 : decode cX0_widthOf 45 = .ok (.iconst 2, 1) := dk_5 (dk_at dksX0_widthOf_1 21 rfl rfl)
theorem dX0_widthOf_46 : decode cX0_widthOf 46 = .ok (.invokevirtual 233, 3) := dk_182 0 233 (dk_at dksX0_widthOf_2 0 rfl rfl)
theorem dX0_widthOf_49 : decode cX0_widthOf 49 = .ok (.invokevirtual 520, 3) := dk_182 2 8 (dk_at dksX0_widthOf_2 3 rfl rfl)
theorem dX0_widthOf_52 : decode cX0_widthOf 52 = .ok (.invokestatic 514, 3) := dk_184 2 2 (dk_at dksX0_widthOf_2 6 rfl rfl)
theorem dX0_widthOf_55 : decode cX0_widthOf 55 = .ok (.goto 4, 3) := dk_167 0 4 (dk_at dksX0_widthOf_2 9 rfl rfl)
theorem dX0_widthOf_58 : decode cX0_widthOf 58 = .ok (.iload_n 2, 1) := dk_28 (dk_at dksX0_widthOf_2 12 rfl rfl)
theorem dX0_widthOf_59 : decode cX0_widthOf 59 = .ok (.ireturn, 1) := dk_172 (dk_at dksX0_widthOf_2 13 rfl rfl)
abbrev cX0_formOf : ByteArray := prog_1_method_66_code
def yX0_formOf : MethodName := ⟨RX0, "formOf", "(LStrideTurns$Reference;)I"⟩
def dkwX0_formOf_1 : List UInt8 := [180, 1, 240, 184, 2, 2, 172]
abbrev dktX0_formOf_1 : List UInt8 := dkwX0_formOf_1 ++ []
def dkwX0_formOf_0 : List UInt8 := [43, 180, 0, 237, 2, 160, 0, 7, 4, 167, 0, 19, 4, 42, 180, 0, 25, 43, 180, 0, 237, 50]
abbrev dktX0_formOf_0 : List UInt8 := dkwX0_formOf_0 ++ dktX0_formOf_1
theorem dksX0_formOf_0 : cX0_formOf.data.toList.drop 0 = dktX0_formOf_0 := by decide +kernel
theorem dksX0_formOf_1 : cX0_formOf.data.toList.drop 22 = dktX0_formOf_1 := dk_seg dksX0_formOf_0 22 rfl rfl
theorem dX0_formOf_0 : decode cX0_formOf 0 = .ok (.aload_n 1, 1) := dk_43 (dk_at dksX0_formOf_0 0 rfl rfl)
theorem dX0_formOf_1 : decode cX0_formOf 1 = .ok (.getfield 237, 3) := dk_180 0 237 (dk_at dksX0_formOf_0 1 rfl rfl)
theorem dX0_formOf_4 : decode cX0_formOf 4 = .ok (.iconst (-1), 1) := dk_2 (dk_at dksX0_formOf_0 4 rfl rfl)
theorem dX0_formOf_5 : decode cX0_formOf 5 = .ok (.if_icmp .ne 7, 3) := dk_160 0 7 (dk_at dksX0_formOf_0 5 rfl rfl)
theorem dX0_formOf_8 : decode cX0_formOf 8 = .ok (.iconst 1, 1) := dk_4 (dk_at dksX0_formOf_0 8 rfl rfl)
theorem dX0_formOf_9 : decode cX0_formOf 9 = .ok (.goto 19, 3) := dk_167 0 19 (dk_at dksX0_formOf_0 9 rfl rfl)
theorem dX0_formOf_12 : decode cX0_formOf 12 = .ok (.iconst 1, 1) := dk_4 (dk_at dksX0_formOf_0 12 rfl rfl)
theorem dX0_formOf_13 : decode cX0_formOf 13 = .ok (.aload_n 0, 1) := dk_42 (dk_at dksX0_formOf_0 13 rfl rfl)
theorem dX0_formOf_14 : decode cX0_formOf 14 = .ok (.getfield 25, 3) := dk_180 0 25 (dk_at dksX0_formOf_0 14 rfl rfl)
theorem dX0_formOf_17 : decode cX0_formOf 17 = .ok (.aload_n 1, 1) := dk_43 (dk_at dksX0_formOf_0 17 rfl rfl)
theorem dX0_formOf_18 : decode cX0_formOf 18 = .ok (.getfield 237, 3) := dk_180 0 237 (dk_at dksX0_formOf_0 18 rfl rfl)
theorem dX0_formOf_21 : decode cX0_formOf 21 = .ok (.aaload, 1) := dk_50 (dk_at dksX0_formOf_0 21 rfl rfl)
theorem dX0_formOf_22 : decode cX0_formOf 22 = .ok (.getfield 496, 3) := dk_180 1 240 (dk_at dksX0_formOf_1 0 rfl rfl)
theorem dX0_formOf_25 : decode cX0_formOf 25 = .ok (.invokestatic 514, 3) := dk_184 2 2 (dk_at dksX0_formOf_1 3 rfl rfl)
theorem dX0_formOf_28 : decode cX0_formOf 28 = .ok (.ireturn, 1) := dk_172 (dk_at dksX0_formOf_1 6 rfl rfl)
abbrev cX0_done : ByteArray := prog_1_method_69_code
def yX0_done : MethodName := ⟨RX0, "done", "(LStrideTurns$Deed;IDD)D"⟩
def dkwX0_done_4 : List UInt8 := [175]
abbrev dktX0_done_4 : List UInt8 := dkwX0_done_4 ++ []
def dkwX0_done_3 : List UInt8 := [144, 185, 2, 25, 3, 0, 11, 98, 141, 175, 42, 180, 2, 30, 40, 24, 4, 185, 2, 34, 5, 0, 14, 99]
abbrev dktX0_done_3 : List UInt8 := dkwX0_done_3 ++ dktX0_done_4
def dkwX0_done_2 : List UInt8 := [42, 180, 2, 12, 40, 142, 24, 4, 142, 185, 2, 16, 3, 0, 135, 175, 42, 180, 2, 21, 40, 144, 24, 4]
abbrev dktX0_done_2 : List UInt8 := dkwX0_done_2 ++ dktX0_done_3
def dkwX0_done_1 : List UInt8 := [171, 0, 0, 0, 0, 0, 61, 0, 0, 0, 2, 0, 0, 0, 1, 0, 0, 0, 27, 0, 0, 0, 2, 0, 0, 0, 43]
abbrev dktX0_done_1 : List UInt8 := dkwX0_done_1 ++ dktX0_done_2
def dkwX0_done_0 : List UInt8 := [27]
abbrev dktX0_done_0 : List UInt8 := dkwX0_done_0 ++ dktX0_done_1
theorem dksX0_done_0 : cX0_done.data.toList.drop 0 = dktX0_done_0 := by decide +kernel
theorem dksX0_done_1 : cX0_done.data.toList.drop 1 = dktX0_done_1 := dk_seg dksX0_done_0 1 rfl rfl
theorem dksX0_done_2 : cX0_done.data.toList.drop 28 = dktX0_done_2 := dk_seg dksX0_done_1 27 rfl rfl
theorem dksX0_done_3 : cX0_done.data.toList.drop 52 = dktX0_done_3 := dk_seg dksX0_done_2 24 rfl rfl
theorem dksX0_done_4 : cX0_done.data.toList.drop 76 = dktX0_done_4 := dk_seg dksX0_done_3 24 rfl rfl
theorem dX0_done_0 : decode cX0_done 0 = .ok (.iload_n 1, 1) := dk_27 (dk_at dksX0_done_0 0 rfl rfl)
theorem dX0_done_1 : decode cX0_done 1 = .ok (.lookupswitch 61 #[(1, 27), (2, 43)], 27) := by decide +kernel
theorem dX0_done_28 : decode cX0_done 28 = .ok (.aload_n 0, 1) := dk_42 (dk_at dksX0_done_2 0 rfl rfl)
theorem dX0_done_29 : decode cX0_done 29 = .ok (.getfield 524, 3) := dk_180 2 12 (dk_at dksX0_done_2 1 rfl rfl)
theorem dX0_done_32 : decode cX0_done 32 = .ok (.dload_n 2, 1) := dk_40 (dk_at dksX0_done_2 4 rfl rfl)
theorem dX0_done_33 : decode cX0_done 33 = .ok (.d2i, 1) := dk_142 (dk_at dksX0_done_2 5 rfl rfl)
theorem dX0_done_34 : decode cX0_done 34 = .ok (.dload 4, 2) := dk_24 4 (dk_at dksX0_done_2 6 rfl rfl)
theorem dX0_done_36 : decode cX0_done 36 = .ok (.d2i, 1) := dk_142 (dk_at dksX0_done_2 8 rfl rfl)
theorem dX0_done_37 : decode cX0_done 37 = .ok (.invokeinterface 528 3, 5) := by decide +kernel
theorem dX0_done_42 : decode cX0_done 42 = .ok (.i2d, 1) := dk_135 (dk_at dksX0_done_2 14 rfl rfl)
theorem dX0_done_43 : decode cX0_done 43 = .ok (.dreturn, 1) := dk_175 (dk_at dksX0_done_2 15 rfl rfl)
theorem dX0_done_44 : decode cX0_done 44 = .ok (.aload_n 0, 1) := dk_42 (dk_at dksX0_done_2 16 rfl rfl)
theorem dX0_done_45 : decode cX0_done 45 = .ok (.getfield 533, 3) := dk_180 2 21 (dk_at dksX0_done_2 17 rfl rfl)
theorem dX0_done_48 : decode cX0_done 48 = .ok (.dload_n 2, 1) := dk_40 (dk_at dksX0_done_2 20 rfl rfl)
theorem dX0_done_49 : decode cX0_done 49 = .ok (.d2f, 1) := dk_144 (dk_at dksX0_done_2 21 rfl rfl)
theorem dX0_done_50 : decode cX0_done 50 = .ok (.dload 4, 2) := dk_24 4 (dk_at dksX0_done_2 22 rfl rfl)
theorem dX0_done_52 : decode cX0_done 52 = .ok (.d2f, 1) := dk_144 (dk_at dksX0_done_3 0 rfl rfl)
theorem dX0_done_53 : decode cX0_done 53 = .ok (.invokeinterface 537 3, 5) := by decide +kernel
theorem dX0_done_58 : decode cX0_done 58 = .ok (.fconst 0, 1) := dk_11 (dk_at dksX0_done_3 6 rfl rfl)
theorem dX0_done_59 : decode cX0_done 59 = .ok (.fadd, 1) := dk_98 (dk_at dksX0_done_3 7 rfl rfl)
theorem dX0_done_60 : decode cX0_done 60 = .ok (.f2d, 1) := dk_141 (dk_at dksX0_done_3 8 rfl rfl)
theorem dX0_done_61 : decode cX0_done 61 = .ok (.dreturn, 1) := dk_175 (dk_at dksX0_done_3 9 rfl rfl)
theorem dX0_done_62 : decode cX0_done 62 = .ok (.aload_n 0, 1) := dk_42 (dk_at dksX0_done_3 10 rfl rfl)
theorem dX0_done_63 : decode cX0_done 63 = .ok (.getfield 542, 3) := dk_180 2 30 (dk_at dksX0_done_3 11 rfl rfl)
theorem dX0_done_66 : decode cX0_done 66 = .ok (.dload_n 2, 1) := dk_40 (dk_at dksX0_done_3 14 rfl rfl)
theorem dX0_done_67 : decode cX0_done 67 = .ok (.dload 4, 2) := dk_24 4 (dk_at dksX0_done_3 15 rfl rfl)
theorem dX0_done_69 : decode cX0_done 69 = .ok (.invokeinterface 546 5, 5) := by decide +kernel
theorem dX0_done_74 : decode cX0_done 74 = .ok (.dconst 0, 1) := dk_14 (dk_at dksX0_done_3 22 rfl rfl)
theorem dX0_done_75 : decode cX0_done 75 = .ok (.dadd, 1) := dk_99 (dk_at dksX0_done_3 23 rfl rfl)
theorem dX0_done_76 : decode cX0_done 76 = .ok (.dreturn, 1) := dk_175 (dk_at dksX0_done_4 0 rfl rfl)
abbrev cX0_isGreater : ByteArray := prog_1_method_68_code
def yX0_isGreater : MethodName := ⟨RX0, "isGreater", "(IDD)Z"⟩
def dkwX0_isGreater_2 : List UInt8 := [158, 0, 7, 4, 167, 0, 4, 3, 172]
abbrev dktX0_isGreater_2 : List UInt8 := dkwX0_isGreater_2 ++ []
def dkwX0_isGreater_1 : List UInt8 := [160, 0, 19, 39, 144, 41, 144, 149, 158, 0, 7, 4, 167, 0, 18, 3, 167, 0, 14, 39, 41, 151]
abbrev dktX0_isGreater_1 : List UInt8 := dkwX0_isGreater_1 ++ dktX0_isGreater_2
def dkwX0_isGreater_0 : List UInt8 := [26, 4, 160, 0, 18, 39, 142, 41, 142, 164, 0, 7, 4, 167, 0, 39, 3, 167, 0, 35, 26, 5]
abbrev dktX0_isGreater_0 : List UInt8 := dkwX0_isGreater_0 ++ dktX0_isGreater_1
theorem dksX0_isGreater_0 : cX0_isGreater.data.toList.drop 0 = dktX0_isGreater_0 := by decide +kernel
theorem dksX0_isGreater_1 : cX0_isGreater.data.toList.drop 22 = dktX0_isGreater_1 := dk_seg dksX0_isGreater_0 22 rfl rfl
theorem dksX0_isGreater_2 : cX0_isGreater.data.toList.drop 44 = dktX0_isGreater_2 := dk_seg dksX0_isGreater_1 22 rfl rfl
theorem dX0_isGreater_0 : decode cX0_isGreater 0 = .ok (.iload_n 0, 1) := dk_26 (dk_at dksX0_isGreater_0 0 rfl rfl)
theorem dX0_isGreater_1 : decode cX0_isGreater 1 = .ok (.iconst 1, 1) := dk_4 (dk_at dksX0_isGreater_0 1 rfl rfl)
theorem dX0_isGreater_2 : decode cX0_isGreater 2 = .ok (.if_icmp .ne 18, 3) := dk_160 0 18 (dk_at dksX0_isGreater_0 2 rfl rfl)
theorem dX0_isGreater_5 : decode cX0_isGreater 5 = .ok (.dload_n 1, 1) := dk_39 (dk_at dksX0_isGreater_0 5 rfl rfl)
theorem dX0_isGreater_6 : decode cX0_isGreater 6 = .ok (.d2i, 1) := dk_142 (dk_at dksX0_isGreater_0 6 rfl rfl)
theorem dX0_isGreater_7 : decode cX0_isGreater 7 = .ok (.dload_n 3, 1) := dk_41 (dk_at dksX0_isGreater_0 7 rfl rfl)
theorem dX0_isGreater_8 : decode cX0_isGreater 8 = .ok (.d2i, 1) := dk_142 (dk_at dksX0_isGreater_0 8 rfl rfl)
theorem dX0_isGreater_9 : decode cX0_isGreater 9 = .ok (.if_icmp .le 7, 3) := dk_164 0 7 (dk_at dksX0_isGreater_0 9 rfl rfl)
theorem dX0_isGreater_12 : decode cX0_isGreater 12 = .ok (.iconst 1, 1) := dk_4 (dk_at dksX0_isGreater_0 12 rfl rfl)
theorem dX0_isGreater_13 : decode cX0_isGreater 13 = .ok (.goto 39, 3) := dk_167 0 39 (dk_at dksX0_isGreater_0 13 rfl rfl)
theorem dX0_isGreater_16 : decode cX0_isGreater 16 = .ok (.iconst 0, 1) := dk_3 (dk_at dksX0_isGreater_0 16 rfl rfl)
theorem dX0_isGreater_17 : decode cX0_isGreater 17 = .ok (.goto 35, 3) := dk_167 0 35 (dk_at dksX0_isGreater_0 17 rfl rfl)
theorem dX0_isGreater_20 : decode cX0_isGreater 20 = .ok (.iload_n 0, 1) := dk_26 (dk_at dksX0_isGreater_0 20 rfl rfl)
theorem dX0_isGreater_21 : decode cX0_isGreater 21 = .ok (.iconst 2, 1) := dk_5 (dk_at dksX0_isGreater_0 21 rfl rfl)
theorem dX0_isGreater_22 : decode cX0_isGreater 22 = .ok (.if_icmp .ne 19, 3) := dk_160 0 19 (dk_at dksX0_isGreater_1 0 rfl rfl)
theorem dX0_isGreater_25 : decode cX0_isGreater 25 = .ok (.dload_n 1, 1) := dk_39 (dk_at dksX0_isGreater_1 3 rfl rfl)
theorem dX0_isGreater_26 : decode cX0_isGreater 26 = .ok (.d2f, 1) := dk_144 (dk_at dksX0_isGreater_1 4 rfl rfl)
theorem dX0_isGreater_27 : decode cX0_isGreater 27 = .ok (.dload_n 3, 1) := dk_41 (dk_at dksX0_isGreater_1 5 rfl rfl)
theorem dX0_isGreater_28 : decode cX0_isGreater 28 = .ok (.d2f, 1) := dk_144 (dk_at dksX0_isGreater_1 6 rfl rfl)
theorem dX0_isGreater_29 : decode cX0_isGreater 29 = .ok (.fcmp .l, 1) := dk_149 (dk_at dksX0_isGreater_1 7 rfl rfl)
theorem dX0_isGreater_30 : decode cX0_isGreater 30 = .ok (.ifCond .le 7, 3) := dk_158 0 7 (dk_at dksX0_isGreater_1 8 rfl rfl)
theorem dX0_isGreater_33 : decode cX0_isGreater 33 = .ok (.iconst 1, 1) := dk_4 (dk_at dksX0_isGreater_1 11 rfl rfl)
theorem dX0_isGreater_34 : decode cX0_isGreater 34 = .ok (.goto 18, 3) := dk_167 0 18 (dk_at dksX0_isGreater_1 12 rfl rfl)
theorem dX0_isGreater_37 : decode cX0_isGreater 37 = .ok (.iconst 0, 1) := dk_3 (dk_at dksX0_isGreater_1 15 rfl rfl)
theorem dX0_isGreater_38 : decode cX0_isGreater 38 = .ok (.goto 14, 3) := dk_167 0 14 (dk_at dksX0_isGreater_1 16 rfl rfl)
theorem dX0_isGreater_41 : decode cX0_isGreater 41 = .ok (.dload_n 1, 1) := dk_39 (dk_at dksX0_isGreater_1 19 rfl rfl)
theorem dX0_isGreater_42 : decode cX0_isGreater 42 = .ok (.dload_n 3, 1) := dk_41 (dk_at dksX0_isGreater_1 20 rfl rfl)
theorem dX0_isGreater_43 : decode cX0_isGreater 43 = .ok (.dcmp .l, 1) := dk_151 (dk_at dksX0_isGreater_1 21 rfl rfl)
theorem dX0_isGreater_44 : decode cX0_isGreater 44 = .ok (.ifCond .le 7, 3) := dk_158 0 7 (dk_at dksX0_isGreater_2 0 rfl rfl)
theorem dX0_isGreater_47 : decode cX0_isGreater 47 = .ok (.iconst 1, 1) := dk_4 (dk_at dksX0_isGreater_2 3 rfl rfl)
theorem dX0_isGreater_48 : decode cX0_isGreater 48 = .ok (.goto 4, 3) := dk_167 0 4 (dk_at dksX0_isGreater_2 4 rfl rfl)
theorem dX0_isGreater_51 : decode cX0_isGreater 51 = .ok (.iconst 0, 1) := dk_3 (dk_at dksX0_isGreater_2 7 rfl rfl)
theorem dX0_isGreater_52 : decode cX0_isGreater 52 = .ok (.ireturn, 1) := dk_172 (dk_at dksX0_isGreater_2 8 rfl rfl)
abbrev cX0_tellsRun : ByteArray := prog_1_method_79_code
def yX0_tellsRun : MethodName := ⟨RX0, "tellsRun", "()I"⟩
def dkwX0_tellsRun_3 : List UInt8 := [180, 2, 45, 172]
abbrev dktX0_tellsRun_3 : List UInt8 := dkwX0_tellsRun_3 ++ []
def dkwX0_tellsRun_2 : List UInt8 := [132, 1, 1, 167, 255, 235, 42, 42, 180, 2, 42, 181, 2, 118, 42, 42, 180, 2, 45, 181, 2, 121, 42]
abbrev dktX0_tellsRun_2 : List UInt8 := dkwX0_tellsRun_2 ++ dktX0_tellsRun_3
def dkwX0_tellsRun_1 : List UInt8 := [167, 255, 236, 3, 60, 27, 16, 10, 162, 0, 21, 42, 180, 0, 77, 27, 42, 180, 0, 71, 27, 46, 79]
abbrev dktX0_tellsRun_1 : List UInt8 := dkwX0_tellsRun_1 ++ dktX0_tellsRun_2
def dkwX0_tellsRun_0 : List UInt8 := [3, 60, 27, 6, 162, 0, 21, 42, 180, 0, 74, 27, 42, 180, 0, 60, 27, 46, 79, 132, 1, 1]
abbrev dktX0_tellsRun_0 : List UInt8 := dkwX0_tellsRun_0 ++ dktX0_tellsRun_1
theorem dksX0_tellsRun_0 : cX0_tellsRun.data.toList.drop 0 = dktX0_tellsRun_0 := by decide +kernel
theorem dksX0_tellsRun_1 : cX0_tellsRun.data.toList.drop 22 = dktX0_tellsRun_1 := dk_seg dksX0_tellsRun_0 22 rfl rfl
theorem dksX0_tellsRun_2 : cX0_tellsRun.data.toList.drop 45 = dktX0_tellsRun_2 := dk_seg dksX0_tellsRun_1 23 rfl rfl
theorem dksX0_tellsRun_3 : cX0_tellsRun.data.toList.drop 68 = dktX0_tellsRun_3 := dk_seg dksX0_tellsRun_2 23 rfl rfl
theorem dX0_tellsRun_0 : decode cX0_tellsRun 0 = .ok (.iconst 0, 1) := dk_3 (dk_at dksX0_tellsRun_0 0 rfl rfl)
theorem dX0_tellsRun_1 : decode cX0_tellsRun 1 = .ok (.istore_n 1, 1) := dk_60 (dk_at dksX0_tellsRun_0 1 rfl rfl)
theorem dX0_tellsRun_2 : decode cX0_tellsRun 2 = .ok (.iload_n 1, 1) := dk_27 (dk_at dksX0_tellsRun_0 2 rfl rfl)
theorem dX0_tellsRun_3 : decode cX0_tellsRun 3 = .ok (.iconst 3, 1) := dk_6 (dk_at dksX0_tellsRun_0 3 rfl rfl)
theorem dX0_tellsRun_4 : decode cX0_tellsRun 4 = .ok (.if_icmp .ge 21, 3) := dk_162 0 21 (dk_at dksX0_tellsRun_0 4 rfl rfl)
theorem dX0_tellsRun_7 : decode cX0_tellsRun 7 = .ok (.aload_n 0, 1) := dk_42 (dk_at dksX0_tellsRun_0 7 rfl rfl)
theorem dX0_tellsRun_8 : decode cX0_tellsRun 8 = .ok (.getfield 74, 3) := dk_180 0 74 (dk_at dksX0_tellsRun_0 8 rfl rfl)
theorem dX0_tellsRun_11 : decode cX0_tellsRun 11 = .ok (.iload_n 1, 1) := dk_27 (dk_at dksX0_tellsRun_0 11 rfl rfl)
theorem dX0_tellsRun_12 : decode cX0_tellsRun 12 = .ok (.aload_n 0, 1) := dk_42 (dk_at dksX0_tellsRun_0 12 rfl rfl)
theorem dX0_tellsRun_13 : decode cX0_tellsRun 13 = .ok (.getfield 60, 3) := dk_180 0 60 (dk_at dksX0_tellsRun_0 13 rfl rfl)
theorem dX0_tellsRun_16 : decode cX0_tellsRun 16 = .ok (.iload_n 1, 1) := dk_27 (dk_at dksX0_tellsRun_0 16 rfl rfl)
theorem dX0_tellsRun_17 : decode cX0_tellsRun 17 = .ok (.iaload, 1) := dk_46 (dk_at dksX0_tellsRun_0 17 rfl rfl)
theorem dX0_tellsRun_18 : decode cX0_tellsRun 18 = .ok (.iastore, 1) := dk_79 (dk_at dksX0_tellsRun_0 18 rfl rfl)
theorem dX0_tellsRun_19 : decode cX0_tellsRun 19 = .ok (.iinc 1 1, 3) := dk_132 1 1 (dk_at dksX0_tellsRun_0 19 rfl rfl)
theorem dX0_tellsRun_22 : decode cX0_tellsRun 22 = .ok (.goto (-20), 3) := dk_167 255 236 (dk_at dksX0_tellsRun_1 0 rfl rfl)
theorem dX0_tellsRun_25 : decode cX0_tellsRun 25 = .ok (.iconst 0, 1) := dk_3 (dk_at dksX0_tellsRun_1 3 rfl rfl)
theorem dX0_tellsRun_26 : decode cX0_tellsRun 26 = .ok (.istore_n 1, 1) := dk_60 (dk_at dksX0_tellsRun_1 4 rfl rfl)
theorem dX0_tellsRun_27 : decode cX0_tellsRun 27 = .ok (.iload_n 1, 1) := dk_27 (dk_at dksX0_tellsRun_1 5 rfl rfl)
theorem dX0_tellsRun_28 : decode cX0_tellsRun 28 = .ok (.bipush 10, 2) := dk_16 10 (dk_at dksX0_tellsRun_1 6 rfl rfl)
theorem dX0_tellsRun_30 : decode cX0_tellsRun 30 = .ok (.if_icmp .ge 21, 3) := dk_162 0 21 (dk_at dksX0_tellsRun_1 8 rfl rfl)
theorem dX0_tellsRun_33 : decode cX0_tellsRun 33 = .ok (.aload_n 0, 1) := dk_42 (dk_at dksX0_tellsRun_1 11 rfl rfl)
theorem dX0_tellsRun_34 : decode cX0_tellsRun 34 = .ok (.getfield 77, 3) := dk_180 0 77 (dk_at dksX0_tellsRun_1 12 rfl rfl)
theorem dX0_tellsRun_37 : decode cX0_tellsRun 37 = .ok (.iload_n 1, 1) := dk_27 (dk_at dksX0_tellsRun_1 15 rfl rfl)
theorem dX0_tellsRun_38 : decode cX0_tellsRun 38 = .ok (.aload_n 0, 1) := dk_42 (dk_at dksX0_tellsRun_1 16 rfl rfl)
theorem dX0_tellsRun_39 : decode cX0_tellsRun 39 = .ok (.getfield 71, 3) := dk_180 0 71 (dk_at dksX0_tellsRun_1 17 rfl rfl)
theorem dX0_tellsRun_42 : decode cX0_tellsRun 42 = .ok (.iload_n 1, 1) := dk_27 (dk_at dksX0_tellsRun_1 20 rfl rfl)
theorem dX0_tellsRun_43 : decode cX0_tellsRun 43 = .ok (.iaload, 1) := dk_46 (dk_at dksX0_tellsRun_1 21 rfl rfl)
theorem dX0_tellsRun_44 : decode cX0_tellsRun 44 = .ok (.iastore, 1) := dk_79 (dk_at dksX0_tellsRun_1 22 rfl rfl)
theorem dX0_tellsRun_45 : decode cX0_tellsRun 45 = .ok (.iinc 1 1, 3) := dk_132 1 1 (dk_at dksX0_tellsRun_2 0 rfl rfl)
theorem dX0_tellsRun_48 : decode cX0_tellsRun 48 = .ok (.goto (-21), 3) := dk_167 255 235 (dk_at dksX0_tellsRun_2 3 rfl rfl)
theorem dX0_tellsRun_51 : decode cX0_tellsRun 51 = .ok (.aload_n 0, 1) := dk_42 (dk_at dksX0_tellsRun_2 6 rfl rfl)
theorem dX0_tellsRun_52 : decode cX0_tellsRun 52 = .ok (.aload_n 0, 1) := dk_42 (dk_at dksX0_tellsRun_2 7 rfl rfl)
theorem dX0_tellsRun_53 : decode cX0_tellsRun 53 = .ok (.getfield 554, 3) := dk_180 2 42 (dk_at dksX0_tellsRun_2 8 rfl rfl)
theorem dX0_tellsRun_56 : decode cX0_tellsRun 56 = .ok (.putfield 630, 3) := dk_181 2 118 (dk_at dksX0_tellsRun_2 11 rfl rfl)
theorem dX0_tellsRun_59 : decode cX0_tellsRun 59 = .ok (.aload_n 0, 1) := dk_42 (dk_at dksX0_tellsRun_2 14 rfl rfl)
theorem dX0_tellsRun_60 : decode cX0_tellsRun 60 = .ok (.aload_n 0, 1) := dk_42 (dk_at dksX0_tellsRun_2 15 rfl rfl)
theorem dX0_tellsRun_61 : decode cX0_tellsRun 61 = .ok (.getfield 557, 3) := dk_180 2 45 (dk_at dksX0_tellsRun_2 16 rfl rfl)
theorem dX0_tellsRun_64 : decode cX0_tellsRun 64 = .ok (.putfield 633, 3) := dk_181 2 121 (dk_at dksX0_tellsRun_2 19 rfl rfl)
theorem dX0_tellsRun_67 : decode cX0_tellsRun 67 = .ok (.aload_n 0, 1) := dk_42 (dk_at dksX0_tellsRun_2 22 rfl rfl)
theorem dX0_tellsRun_68 : decode cX0_tellsRun 68 = .ok (.getfield 557, 3) := dk_180 2 45 (dk_at dksX0_tellsRun_3 0 rfl rfl)
theorem dX0_tellsRun_71 : decode cX0_tellsRun 71 = .ok (.ireturn, 1) := dk_172 (dk_at dksX0_tellsRun_3 3 rfl rfl)
abbrev cX0_mixed : ByteArray := prog_1_method_83_code
def yX0_mixed : MethodName := ⟨RX0, "mixed", "(IIII)I"⟩
def dkwX0_mixed_1 : List UInt8 := [154, 0, 6, 16, 253, 172, 42, 27, 28, 29, 182, 2, 145, 42, 182, 2, 127, 172]
abbrev dktX0_mixed_1 : List UInt8 := dkwX0_mixed_1 ++ []
def dkwX0_mixed_0 : List UInt8 := [27, 28, 29, 21, 4, 184, 2, 138, 154, 0, 6, 16, 254, 172, 21, 4, 154, 0, 13, 42, 182, 2, 142]
abbrev dktX0_mixed_0 : List UInt8 := dkwX0_mixed_0 ++ dktX0_mixed_1
theorem dksX0_mixed_0 : cX0_mixed.data.toList.drop 0 = dktX0_mixed_0 := by decide +kernel
theorem dksX0_mixed_1 : cX0_mixed.data.toList.drop 23 = dktX0_mixed_1 := dk_seg dksX0_mixed_0 23 rfl rfl
theorem dX0_mixed_0 : decode cX0_mixed 0 = .ok (.iload_n 1, 1) := dk_27 (dk_at dksX0_mixed_0 0 rfl rfl)
theorem dX0_mixed_1 : decode cX0_mixed 1 = .ok (.iload_n 2, 1) := dk_28 (dk_at dksX0_mixed_0 1 rfl rfl)
theorem dX0_mixed_2 : decode cX0_mixed 2 = .ok (.iload_n 3, 1) := dk_29 (dk_at dksX0_mixed_0 2 rfl rfl)
theorem dX0_mixed_3 : decode cX0_mixed 3 = .ok (.iload 4, 2) := dk_21 4 (dk_at dksX0_mixed_0 3 rfl rfl)
theorem dX0_mixed_5 : decode cX0_mixed 5 = .ok (.invokestatic 650, 3) := dk_184 2 138 (dk_at dksX0_mixed_0 5 rfl rfl)
theorem dX0_mixed_8 : decode cX0_mixed 8 = .ok (.ifCond .ne 6, 3) := dk_154 0 6 (dk_at dksX0_mixed_0 8 rfl rfl)
theorem dX0_mixed_11 : decode cX0_mixed 11 = .ok (.bipush (-2), 2) := dk_16 254 (dk_at dksX0_mixed_0 11 rfl rfl)
theorem dX0_mixed_13 : decode cX0_mixed 13 = .ok (.ireturn, 1) := dk_172 (dk_at dksX0_mixed_0 13 rfl rfl)
theorem dX0_mixed_14 : decode cX0_mixed 14 = .ok (.iload 4, 2) := dk_21 4 (dk_at dksX0_mixed_0 14 rfl rfl)
theorem dX0_mixed_16 : decode cX0_mixed 16 = .ok (.ifCond .ne 13, 3) := dk_154 0 13 (dk_at dksX0_mixed_0 16 rfl rfl)
theorem dX0_mixed_19 : decode cX0_mixed 19 = .ok (.aload_n 0, 1) := dk_42 (dk_at dksX0_mixed_0 19 rfl rfl)
theorem dX0_mixed_20 : decode cX0_mixed 20 = .ok (.invokevirtual 654, 3) := dk_182 2 142 (dk_at dksX0_mixed_0 20 rfl rfl)
theorem dX0_mixed_23 : decode cX0_mixed 23 = .ok (.ifCond .ne 6, 3) := dk_154 0 6 (dk_at dksX0_mixed_1 0 rfl rfl)
theorem dX0_mixed_26 : decode cX0_mixed 26 = .ok (.bipush (-3), 2) := dk_16 253 (dk_at dksX0_mixed_1 3 rfl rfl)
theorem dX0_mixed_28 : decode cX0_mixed 28 = .ok (.ireturn, 1) := dk_172 (dk_at dksX0_mixed_1 5 rfl rfl)
theorem dX0_mixed_29 : decode cX0_mixed 29 = .ok (.aload_n 0, 1) := dk_42 (dk_at dksX0_mixed_1 6 rfl rfl)
theorem dX0_mixed_30 : decode cX0_mixed 30 = .ok (.iload_n 1, 1) := dk_27 (dk_at dksX0_mixed_1 7 rfl rfl)
theorem dX0_mixed_31 : decode cX0_mixed 31 = .ok (.iload_n 2, 1) := dk_28 (dk_at dksX0_mixed_1 8 rfl rfl)
theorem dX0_mixed_32 : decode cX0_mixed 32 = .ok (.iload_n 3, 1) := dk_29 (dk_at dksX0_mixed_1 9 rfl rfl)
theorem dX0_mixed_33 : decode cX0_mixed 33 = .ok (.invokevirtual 657, 3) := dk_182 2 145 (dk_at dksX0_mixed_1 10 rfl rfl)
theorem dX0_mixed_36 : decode cX0_mixed 36 = .ok (.aload_n 0, 1) := dk_42 (dk_at dksX0_mixed_1 13 rfl rfl)
theorem dX0_mixed_37 : decode cX0_mixed 37 = .ok (.invokevirtual 639, 3) := dk_182 2 127 (dk_at dksX0_mixed_1 14 rfl rfl)
theorem dX0_mixed_40 : decode cX0_mixed 40 = .ok (.ireturn, 1) := dk_172 (dk_at dksX0_mixed_1 17 rfl rfl)
abbrev cX0_isMix : ByteArray := prog_1_method_81_code
def yX0_isMix : MethodName := ⟨RX0, "isMix", "(IIII)Z"⟩
def dkwX0_isMix_2 : List UInt8 := [172]
abbrev dktX0_isMix_2 : List UInt8 := dkwX0_isMix_2 ++ []
def dkwX0_isMix_1 : List UInt8 := [28, 133, 9, 20, 2, 130, 184, 0, 90, 153, 0, 14, 29, 184, 2, 132, 153, 0, 7, 4, 167, 0, 4, 3]
abbrev dktX0_isMix_1 : List UInt8 := dkwX0_isMix_1 ++ dktX0_isMix_2
def dkwX0_isMix_0 : List UInt8 := [26, 133, 10, 20, 0, 110, 184, 0, 90, 153, 0, 38, 27, 133, 9, 20, 0, 224, 184, 0, 90, 153, 0, 26]
abbrev dktX0_isMix_0 : List UInt8 := dkwX0_isMix_0 ++ dktX0_isMix_1
theorem dksX0_isMix_0 : cX0_isMix.data.toList.drop 0 = dktX0_isMix_0 := by decide +kernel
theorem dksX0_isMix_1 : cX0_isMix.data.toList.drop 24 = dktX0_isMix_1 := dk_seg dksX0_isMix_0 24 rfl rfl
theorem dksX0_isMix_2 : cX0_isMix.data.toList.drop 48 = dktX0_isMix_2 := dk_seg dksX0_isMix_1 24 rfl rfl
theorem dX0_isMix_0 : decode cX0_isMix 0 = .ok (.iload_n 0, 1) := dk_26 (dk_at dksX0_isMix_0 0 rfl rfl)
theorem dX0_isMix_1 : decode cX0_isMix 1 = .ok (.i2l, 1) := dk_133 (dk_at dksX0_isMix_0 1 rfl rfl)
theorem dX0_isMix_2 : decode cX0_isMix 2 = .ok (.lconst 1, 1) := dk_10 (dk_at dksX0_isMix_0 2 rfl rfl)
theorem dX0_isMix_3 : decode cX0_isMix 3 = .ok (.ldc2_w 110, 3) := dk_20 0 110 (dk_at dksX0_isMix_0 3 rfl rfl)
theorem dX0_isMix_6 : decode cX0_isMix 6 = .ok (.invokestatic 90, 3) := dk_184 0 90 (dk_at dksX0_isMix_0 6 rfl rfl)
theorem dX0_isMix_9 : decode cX0_isMix 9 = .ok (.ifCond .eq 38, 3) := dk_153 0 38 (dk_at dksX0_isMix_0 9 rfl rfl)
theorem dX0_isMix_12 : decode cX0_isMix 12 = .ok (.iload_n 1, 1) := dk_27 (dk_at dksX0_isMix_0 12 rfl rfl)
theorem dX0_isMix_13 : decode cX0_isMix 13 = .ok (.i2l, 1) := dk_133 (dk_at dksX0_isMix_0 13 rfl rfl)
theorem dX0_isMix_14 : decode cX0_isMix 14 = .ok (.lconst 0, 1) := dk_9 (dk_at dksX0_isMix_0 14 rfl rfl)
theorem dX0_isMix_15 : decode cX0_isMix 15 = .ok (.ldc2_w 224, 3) := dk_20 0 224 (dk_at dksX0_isMix_0 15 rfl rfl)
theorem dX0_isMix_18 : decode cX0_isMix 18 = .ok (.invokestatic 90, 3) := dk_184 0 90 (dk_at dksX0_isMix_0 18 rfl rfl)
theorem dX0_isMix_21 : decode cX0_isMix 21 = .ok (.ifCond .eq 26, 3) := dk_153 0 26 (dk_at dksX0_isMix_0 21 rfl rfl)
theorem dX0_isMix_24 : decode cX0_isMix 24 = .ok (.iload_n 2, 1) := dk_28 (dk_at dksX0_isMix_1 0 rfl rfl)
theorem dX0_isMix_25 : decode cX0_isMix 25 = .ok (.i2l, 1) := dk_133 (dk_at dksX0_isMix_1 1 rfl rfl)
theorem dX0_isMix_26 : decode cX0_isMix 26 = .ok (.lconst 0, 1) := dk_9 (dk_at dksX0_isMix_1 2 rfl rfl)
theorem dX0_isMix_27 : decode cX0_isMix 27 = .ok (.ldc2_w 642, 3) := dk_20 2 130 (dk_at dksX0_isMix_1 3 rfl rfl)
theorem dX0_isMix_30 : decode cX0_isMix 30 = .ok (.invokestatic 90, 3) := dk_184 0 90 (dk_at dksX0_isMix_1 6 rfl rfl)
theorem dX0_isMix_33 : decode cX0_isMix 33 = .ok (.ifCond .eq 14, 3) := dk_153 0 14 (dk_at dksX0_isMix_1 9 rfl rfl)
theorem dX0_isMix_36 : decode cX0_isMix 36 = .ok (.iload_n 3, 1) := dk_29 (dk_at dksX0_isMix_1 12 rfl rfl)
theorem dX0_isMix_37 : decode cX0_isMix 37 = .ok (.invokestatic 644, 3) := dk_184 2 132 (dk_at dksX0_isMix_1 13 rfl rfl)
theorem dX0_isMix_40 : decode cX0_isMix 40 = .ok (.ifCond .eq 7, 3) := dk_153 0 7 (dk_at dksX0_isMix_1 16 rfl rfl)
theorem dX0_isMix_43 : decode cX0_isMix 43 = .ok (.iconst 1, 1) := dk_4 (dk_at dksX0_isMix_1 19 rfl rfl)
theorem dX0_isMix_44 : decode cX0_isMix 44 = .ok (.goto 4, 3) := dk_167 0 4 (dk_at dksX0_isMix_1 20 rfl rfl)
theorem dX0_isMix_47 : decode cX0_isMix 47 = .ok (.iconst 0, 1) := dk_3 (dk_at dksX0_isMix_1 23 rfl rfl)
theorem dX0_isMix_48 : decode cX0_isMix 48 = .ok (.ireturn, 1) := dk_172 (dk_at dksX0_isMix_2 0 rfl rfl)
abbrev cX0_isTwo : ByteArray := prog_1_method_3_code
def yX0_isTwo : MethodName := ⟨RX0, "isTwo", "(I)Z"⟩
def dkwX0_isTwo_0 : List UInt8 := [26, 133, 9, 10, 184, 0, 90, 172]
abbrev dktX0_isTwo_0 : List UInt8 := dkwX0_isTwo_0 ++ []
theorem dksX0_isTwo_0 : cX0_isTwo.data.toList.drop 0 = dktX0_isTwo_0 := by decide +kernel
theorem dX0_isTwo_0 : decode cX0_isTwo 0 = .ok (.iload_n 0, 1) := dk_26 (dk_at dksX0_isTwo_0 0 rfl rfl)
theorem dX0_isTwo_1 : decode cX0_isTwo 1 = .ok (.i2l, 1) := dk_133 (dk_at dksX0_isTwo_0 1 rfl rfl)
theorem dX0_isTwo_2 : decode cX0_isTwo 2 = .ok (.lconst 0, 1) := dk_9 (dk_at dksX0_isTwo_0 2 rfl rfl)
theorem dX0_isTwo_3 : decode cX0_isTwo 3 = .ok (.lconst 1, 1) := dk_10 (dk_at dksX0_isTwo_0 3 rfl rfl)
theorem dX0_isTwo_4 : decode cX0_isTwo 4 = .ok (.invokestatic 90, 3) := dk_184 0 90 (dk_at dksX0_isTwo_0 4 rfl rfl)
theorem dX0_isTwo_7 : decode cX0_isTwo 7 = .ok (.ireturn, 1) := dk_172 (dk_at dksX0_isTwo_0 7 rfl rfl)
abbrev cX0_isParallel : ByteArray := prog_1_method_82_code
def yX0_isParallel : MethodName := ⟨RX0, "isParallel", "()Z"⟩
def dkwX0_isParallel_0 : List UInt8 := [42, 182, 1, 193, 42, 182, 2, 135, 154, 0, 7, 4, 167, 0, 4, 3, 172]
abbrev dktX0_isParallel_0 : List UInt8 := dkwX0_isParallel_0 ++ []
theorem dksX0_isParallel_0 : cX0_isParallel.data.toList.drop 0 = dktX0_isParallel_0 := by decide +kernel
theorem dX0_isParallel_0 : decode cX0_isParallel 0 = .ok (.aload_n 0, 1) := dk_42 (dk_at dksX0_isParallel_0 0 rfl rfl)
theorem dX0_isParallel_1 : decode cX0_isParallel 1 = .ok (.invokevirtual 449, 3) := dk_182 1 193 (dk_at dksX0_isParallel_0 1 rfl rfl)
theorem dX0_isParallel_4 : decode cX0_isParallel 4 = .ok (.aload_n 0, 1) := dk_42 (dk_at dksX0_isParallel_0 4 rfl rfl)
theorem dX0_isParallel_5 : decode cX0_isParallel 5 = .ok (.invokevirtual 647, 3) := dk_182 2 135 (dk_at dksX0_isParallel_0 5 rfl rfl)
theorem dX0_isParallel_8 : decode cX0_isParallel 8 = .ok (.ifCond .ne 7, 3) := dk_154 0 7 (dk_at dksX0_isParallel_0 8 rfl rfl)
theorem dX0_isParallel_11 : decode cX0_isParallel 11 = .ok (.iconst 1, 1) := dk_4 (dk_at dksX0_isParallel_0 11 rfl rfl)
theorem dX0_isParallel_12 : decode cX0_isParallel 12 = .ok (.goto 4, 3) := dk_167 0 4 (dk_at dksX0_isParallel_0 12 rfl rfl)
theorem dX0_isParallel_15 : decode cX0_isParallel 15 = .ok (.iconst 0, 1) := dk_3 (dk_at dksX0_isParallel_0 15 rfl rfl)
theorem dX0_isParallel_16 : decode cX0_isParallel 16 = .ok (.ireturn, 1) := dk_172 (dk_at dksX0_isParallel_0 16 rfl rfl)
abbrev cX0_serialRows : ByteArray := prog_1_method_65_code
def yX0_serialRows : MethodName := ⟨RX0, "serialRows", "()I"⟩
def dkwX0_serialRows_1 : List UInt8 := [3, 96, 60, 132, 2, 1, 167, 255, 230, 27, 172]
abbrev dktX0_serialRows_1 : List UInt8 := dkwX0_serialRows_1 ++ []
def dkwX0_serialRows_0 : List UInt8 := [3, 60, 3, 61, 28, 16, 6, 162, 0, 26, 27, 42, 28, 182, 1, 246, 7, 160, 0, 7, 4, 167, 0, 4]
abbrev dktX0_serialRows_0 : List UInt8 := dkwX0_serialRows_0 ++ dktX0_serialRows_1
theorem dksX0_serialRows_0 : cX0_serialRows.data.toList.drop 0 = dktX0_serialRows_0 := by decide +kernel
theorem dksX0_serialRows_1 : cX0_serialRows.data.toList.drop 24 = dktX0_serialRows_1 := dk_seg dksX0_serialRows_0 24 rfl rfl
theorem dX0_serialRows_0 : decode cX0_serialRows 0 = .ok (.iconst 0, 1) := dk_3 (dk_at dksX0_serialRows_0 0 rfl rfl)
theorem dX0_serialRows_1 : decode cX0_serialRows 1 = .ok (.istore_n 1, 1) := dk_60 (dk_at dksX0_serialRows_0 1 rfl rfl)
theorem dX0_serialRows_2 : decode cX0_serialRows 2 = .ok (.iconst 0, 1) := dk_3 (dk_at dksX0_serialRows_0 2 rfl rfl)
theorem dX0_serialRows_3 : decode cX0_serialRows 3 = .ok (.istore_n 2, 1) := dk_61 (dk_at dksX0_serialRows_0 3 rfl rfl)
theorem dX0_serialRows_4 : decode cX0_serialRows 4 = .ok (.iload_n 2, 1) := dk_28 (dk_at dksX0_serialRows_0 4 rfl rfl)
theorem dX0_serialRows_5 : decode cX0_serialRows 5 = .ok (.bipush 6, 2) := dk_16 6 (dk_at dksX0_serialRows_0 5 rfl rfl)
theorem dX0_serialRows_7 : decode cX0_serialRows 7 = .ok (.if_icmp .ge 26, 3) := dk_162 0 26 (dk_at dksX0_serialRows_0 7 rfl rfl)
theorem dX0_serialRows_10 : decode cX0_serialRows 10 = .ok (.iload_n 1, 1) := dk_27 (dk_at dksX0_serialRows_0 10 rfl rfl)
theorem dX0_serialRows_11 : decode cX0_serialRows 11 = .ok (.aload_n 0, 1) := dk_42 (dk_at dksX0_serialRows_0 11 rfl rfl)
theorem dX0_serialRows_12 : decode cX0_serialRows 12 = .ok (.iload_n 2, 1) := dk_28 (dk_at dksX0_serialRows_0 12 rfl rfl)
theorem dX0_serialRows_13 : decode cX0_serialRows 13 = .ok (.invokevirtual 502, 3) := dk_182 1 246 (dk_at dksX0_serialRows_0 13 rfl rfl)
theorem dX0_serialRows_16 : decode cX0_serialRows 16 = .ok (.iconst 4, 1) := dk_7 (dk_at dksX0_serialRows_0 16 rfl rfl)
theorem dX0_serialRows_17 : decode cX0_serialRows 17 = .ok (.if_icmp .ne 7, 3) := dk_160 0 7 (dk_at dksX0_serialRows_0 17 rfl rfl)
theorem dX0_serialRows_20 : decode cX0_serialRows 20 = .ok (.iconst 1, 1) := dk_4 (dk_at dksX0_serialRows_0 20 rfl rfl)
theorem dX0_serialRows_21 : decode cX0_serialRows 21 = .ok (.goto 4, 3) := dk_167 0 4 (dk_at dksX0_serialRows_0 21 rfl rfl)
theorem dX0_serialRows_24 : decode cX0_serialRows 24 = .ok (.iconst 0, 1) := dk_3 (dk_at dksX0_serialRows_1 0 rfl rfl)
theorem dX0_serialRows_25 : decode cX0_serialRows 25 = .ok (.iadd, 1) := dk_96 (dk_at dksX0_serialRows_1 1 rfl rfl)
theorem dX0_serialRows_26 : decode cX0_serialRows 26 = .ok (.istore_n 1, 1) := dk_60 (dk_at dksX0_serialRows_1 2 rfl rfl)
theorem dX0_serialRows_27 : decode cX0_serialRows 27 = .ok (.iinc 2 1, 3) := dk_132 2 1 (dk_at dksX0_serialRows_1 3 rfl rfl)
theorem dX0_serialRows_30 : decode cX0_serialRows 30 = .ok (.goto (-26), 3) := dk_167 255 230 (dk_at dksX0_serialRows_1 6 rfl rfl)
theorem dX0_serialRows_33 : decode cX0_serialRows 33 = .ok (.iload_n 1, 1) := dk_27 (dk_at dksX0_serialRows_1 9 rfl rfl)
theorem dX0_serialRows_34 : decode cX0_serialRows 34 = .ok (.ireturn, 1) := dk_172 (dk_at dksX0_serialRows_1 10 rfl rfl)
abbrev cX0_mixes : ByteArray := prog_1_method_75_code
def yX0_mixes : MethodName := ⟨RX0, "mixes", "(III)V"⟩
def dkwX0_mixes_5 : List UInt8 := [54, 5, 167, 255, 162, 42, 182, 2, 82, 177]
abbrev dktX0_mixes_5 : List UInt8 := dkwX0_mixes_5 ++ []
def dkwX0_mixes_4 : List UInt8 := [42, 25, 6, 21, 5, 21, 7, 112, 50, 182, 2, 63, 16, 13, 21, 5, 104, 16, 7, 96, 16, 64, 112]
abbrev dktX0_mixes_4 : List UInt8 := dkwX0_mixes_4 ++ dktX0_mixes_5
def dkwX0_mixes_3 : List UInt8 := [25, 6, 21, 7, 25, 9, 83, 132, 7, 1, 132, 8, 1, 167, 255, 209, 21, 7, 154, 0, 6, 167, 0, 31]
abbrev dktX0_mixes_3 : List UInt8 := dkwX0_mixes_3 ++ dktX0_mixes_4
def dkwX0_mixes_2 : List UInt8 := [28, 5, 160, 0, 7, 4, 167, 0, 4, 3, 182, 2, 79, 58, 9, 25, 9, 199, 0, 6, 167, 0, 13]
abbrev dktX0_mixes_2 : List UInt8 := dkwX0_mixes_2 ++ dktX0_mixes_3
def dkwX0_mixes_1 : List UInt8 := [54, 7, 21, 7, 158, 0, 95, 3, 54, 7, 3, 54, 8, 21, 8, 27, 162, 0, 47, 42, 21, 8, 25, 4]
abbrev dktX0_mixes_1 : List UInt8 := dkwX0_mixes_1 ++ dktX0_mixes_2
def dkwX0_mixes_0 : List UInt8 := [42, 4, 182, 2, 60, 42, 28, 27, 182, 2, 75, 58, 4, 29, 54, 5, 27, 189, 0, 63, 58, 6, 27]
abbrev dktX0_mixes_0 : List UInt8 := dkwX0_mixes_0 ++ dktX0_mixes_1
theorem dksX0_mixes_0 : cX0_mixes.data.toList.drop 0 = dktX0_mixes_0 := by decide +kernel
theorem dksX0_mixes_1 : cX0_mixes.data.toList.drop 23 = dktX0_mixes_1 := dk_seg dksX0_mixes_0 23 rfl rfl
theorem dksX0_mixes_2 : cX0_mixes.data.toList.drop 47 = dktX0_mixes_2 := dk_seg dksX0_mixes_1 24 rfl rfl
theorem dksX0_mixes_3 : cX0_mixes.data.toList.drop 70 = dktX0_mixes_3 := dk_seg dksX0_mixes_2 23 rfl rfl
theorem dksX0_mixes_4 : cX0_mixes.data.toList.drop 94 = dktX0_mixes_4 := dk_seg dksX0_mixes_3 24 rfl rfl
theorem dksX0_mixes_5 : cX0_mixes.data.toList.drop 117 = dktX0_mixes_5 := dk_seg dksX0_mixes_4 23 rfl rfl
theorem dX0_mixes_0 : decode cX0_mixes 0 = .ok (.aload_n 0, 1) := dk_42 (dk_at dksX0_mixes_0 0 rfl rfl)
theorem dX0_mixes_1 : decode cX0_mixes 1 = .ok (.iconst 1, 1) := dk_4 (dk_at dksX0_mixes_0 1 rfl rfl)
theorem dX0_mixes_2 : decode cX0_mixes 2 = .ok (.invokevirtual 572, 3) := dk_182 2 60 (dk_at dksX0_mixes_0 2 rfl rfl)
theorem dX0_mixes_5 : decode cX0_mixes 5 = .ok (.aload_n 0, 1) := dk_42 (dk_at dksX0_mixes_0 5 rfl rfl)
theorem dX0_mixes_6 : decode cX0_mixes 6 = .ok (.iload_n 2, 1) := dk_28 (dk_at dksX0_mixes_0 6 rfl rfl)
theorem dX0_mixes_7 : decode cX0_mixes 7 = .ok (.iload_n 1, 1) := dk_27 (dk_at dksX0_mixes_0 7 rfl rfl)
theorem dX0_mixes_8 : decode cX0_mixes 8 = .ok (.invokevirtual 587, 3) := dk_182 2 75 (dk_at dksX0_mixes_0 8 rfl rfl)
theorem dX0_mixes_11 : decode cX0_mixes 11 = .ok (.astore 4, 2) := dk_58 4 (dk_at dksX0_mixes_0 11 rfl rfl)
theorem dX0_mixes_13 : decode cX0_mixes 13 = .ok (.iload_n 3, 1) := dk_29 (dk_at dksX0_mixes_0 13 rfl rfl)
theorem dX0_mixes_14 : decode cX0_mixes 14 = .ok (.istore 5, 2) := dk_54 5 (dk_at dksX0_mixes_0 14 rfl rfl)
theorem dX0_mixes_16 : decode cX0_mixes 16 = .ok (.iload_n 1, 1) := dk_27 (dk_at dksX0_mixes_0 16 rfl rfl)
theorem dX0_mixes_17 : decode cX0_mixes 17 = .ok (.anewarray 63, 3) := dk_189 0 63 (dk_at dksX0_mixes_0 17 rfl rfl)
theorem dX0_mixes_20 : decode cX0_mixes 20 = .ok (.astore 6, 2) := dk_58 6 (dk_at dksX0_mixes_0 20 rfl rfl)
theorem dX0_mixes_22 : decode cX0_mixes 22 = .ok (.iload_n 1, 1) := dk_27 (dk_at dksX0_mixes_0 22 rfl rfl)
theorem dX0_mixes_23 : decode cX0_mixes 23 = .ok (.istore 7, 2) := dk_54 7 (dk_at dksX0_mixes_1 0 rfl rfl)
theorem dX0_mixes_25 : decode cX0_mixes 25 = .ok (.iload 7, 2) := dk_21 7 (dk_at dksX0_mixes_1 2 rfl rfl)
theorem dX0_mixes_27 : decode cX0_mixes 27 = .ok (.ifCond .le 95, 3) := dk_158 0 95 (dk_at dksX0_mixes_1 4 rfl rfl)
theorem dX0_mixes_30 : decode cX0_mixes 30 = .ok (.iconst 0, 1) := dk_3 (dk_at dksX0_mixes_1 7 rfl rfl)
theorem dX0_mixes_31 : decode cX0_mixes 31 = .ok (.istore 7, 2) := dk_54 7 (dk_at dksX0_mixes_1 8 rfl rfl)
theorem dX0_mixes_33 : decode cX0_mixes 33 = .ok (.iconst 0, 1) := dk_3 (dk_at dksX0_mixes_1 10 rfl rfl)
theorem dX0_mixes_34 : decode cX0_mixes 34 = .ok (.istore 8, 2) := dk_54 8 (dk_at dksX0_mixes_1 11 rfl rfl)
theorem dX0_mixes_36 : decode cX0_mixes 36 = .ok (.iload 8, 2) := dk_21 8 (dk_at dksX0_mixes_1 13 rfl rfl)
theorem dX0_mixes_38 : decode cX0_mixes 38 = .ok (.iload_n 1, 1) := dk_27 (dk_at dksX0_mixes_1 15 rfl rfl)
theorem dX0_mixes_39 : decode cX0_mixes 39 = .ok (.if_icmp .ge 47, 3) := dk_162 0 47 (dk_at dksX0_mixes_1 16 rfl rfl)
theorem dX0_mixes_42 : decode cX0_mixes 42 = .ok (.aload_n 0, 1) := dk_42 (dk_at dksX0_mixes_1 19 rfl rfl)
theorem dX0_mixes_43 : decode cX0_mixes 43 = .ok (.iload 8, 2) := dk_21 8 (dk_at dksX0_mixes_1 20 rfl rfl)
theorem dX0_mixes_45 : decode cX0_mixes 45 = .ok (.aload 4, 2) := dk_25 4 (dk_at dksX0_mixes_1 22 rfl rfl)
theorem dX0_mixes_47 : decode cX0_mixes 47 = .ok (.iload_n 2, 1) := dk_28 (dk_at dksX0_mixes_2 0 rfl rfl)
theorem dX0_mixes_48 : decode cX0_mixes 48 = .ok (.iconst 2, 1) := dk_5 (dk_at dksX0_mixes_2 1 rfl rfl)
theorem dX0_mixes_49 : decode cX0_mixes 49 = .ok (.if_icmp .ne 7, 3) := dk_160 0 7 (dk_at dksX0_mixes_2 2 rfl rfl)
theorem dX0_mixes_52 : decode cX0_mixes 52 = .ok (.iconst 1, 1) := dk_4 (dk_at dksX0_mixes_2 5 rfl rfl)
theorem dX0_mixes_53 : decode cX0_mixes 53 = .ok (.goto 4, 3) := dk_167 0 4 (dk_at dksX0_mixes_2 6 rfl rfl)
theorem dX0_mixes_56 : decode cX0_mixes 56 = .ok (.iconst 0, 1) := dk_3 (dk_at dksX0_mixes_2 9 rfl rfl)
theorem dX0_mixes_57 : decode cX0_mixes 57 = .ok (.invokevirtual 591, 3) := dk_182 2 79 (dk_at dksX0_mixes_2 10 rfl rfl)
theorem dX0_mixes_60 : decode cX0_mixes 60 = .ok (.astore 9, 2) := dk_58 9 (dk_at dksX0_mixes_2 13 rfl rfl)
theorem dX0_mixes_62 : decode cX0_mixes 62 = .ok (.aload 9, 2) := dk_25 9 (dk_at dksX0_mixes_2 15 rfl rfl)
theorem dX0_mixes_64 : decode cX0_mixes 64 = .ok (.ifnonnull 6, 3) := dk_199 0 6 (dk_at dksX0_mixes_2 17 rfl rfl)
theorem dX0_mixes_67 : decode cX0_mixes 67 = .ok (.goto 13, 3) := dk_167 0 13 (dk_at dksX0_mixes_2 20 rfl rfl)
theorem dX0_mixes_70 : decode cX0_mixes 70 = .ok (.aload 6, 2) := dk_25 6 (dk_at dksX0_mixes_3 0 rfl rfl)
theorem dX0_mixes_72 : decode cX0_mixes 72 = .ok (.iload 7, 2) := dk_21 7 (dk_at dksX0_mixes_3 2 rfl rfl)
theorem dX0_mixes_74 : decode cX0_mixes 74 = .ok (.aload 9, 2) := dk_25 9 (dk_at dksX0_mixes_3 4 rfl rfl)
theorem dX0_mixes_76 : decode cX0_mixes 76 = .ok (.aastore, 1) := dk_83 (dk_at dksX0_mixes_3 6 rfl rfl)
theorem dX0_mixes_77 : decode cX0_mixes 77 = .ok (.iinc 7 1, 3) := dk_132 7 1 (dk_at dksX0_mixes_3 7 rfl rfl)
theorem dX0_mixes_80 : decode cX0_mixes 80 = .ok (.iinc 8 1, 3) := dk_132 8 1 (dk_at dksX0_mixes_3 10 rfl rfl)
theorem dX0_mixes_83 : decode cX0_mixes 83 = .ok (.goto (-47), 3) := dk_167 255 209 (dk_at dksX0_mixes_3 13 rfl rfl)
theorem dX0_mixes_86 : decode cX0_mixes 86 = .ok (.iload 7, 2) := dk_21 7 (dk_at dksX0_mixes_3 16 rfl rfl)
theorem dX0_mixes_88 : decode cX0_mixes 88 = .ok (.ifCond .ne 6, 3) := dk_154 0 6 (dk_at dksX0_mixes_3 18 rfl rfl)
theorem dX0_mixes_91 : decode cX0_mixes 91 = .ok (.goto 31, 3) := dk_167 0 31 (dk_at dksX0_mixes_3 21 rfl rfl)
theorem dX0_mixes_94 : decode cX0_mixes 94 = .ok (.aload_n 0, 1) := dk_42 (dk_at dksX0_mixes_4 0 rfl rfl)
theorem dX0_mixes_95 : decode cX0_mixes 95 = .ok (.aload 6, 2) := dk_25 6 (dk_at dksX0_mixes_4 1 rfl rfl)
theorem dX0_mixes_97 : decode cX0_mixes 97 = .ok (.iload 5, 2) := dk_21 5 (dk_at dksX0_mixes_4 3 rfl rfl)
theorem dX0_mixes_99 : decode cX0_mixes 99 = .ok (.iload 7, 2) := dk_21 7 (dk_at dksX0_mixes_4 5 rfl rfl)
theorem dX0_mixes_101 : decode cX0_mixes 101 = .ok (.irem, 1) := dk_112 (dk_at dksX0_mixes_4 7 rfl rfl)
theorem dX0_mixes_102 : decode cX0_mixes 102 = .ok (.aaload, 1) := dk_50 (dk_at dksX0_mixes_4 8 rfl rfl)
theorem dX0_mixes_103 : decode cX0_mixes 103 = .ok (.invokevirtual 575, 3) := dk_182 2 63 (dk_at dksX0_mixes_4 9 rfl rfl)
theorem dX0_mixes_106 : decode cX0_mixes 106 = .ok (.bipush 13, 2) := dk_16 13 (dk_at dksX0_mixes_4 12 rfl rfl)
theorem dX0_mixes_108 : decode cX0_mixes 108 = .ok (.iload 5, 2) := dk_21 5 (dk_at dksX0_mixes_4 14 rfl rfl)
theorem dX0_mixes_110 : decode cX0_mixes 110 = .ok (.imul, 1) := dk_104 (dk_at dksX0_mixes_4 16 rfl rfl)
theorem dX0_mixes_111 : decode cX0_mixes 111 = .ok (.bipush 7, 2) := dk_16 7 (dk_at dksX0_mixes_4 17 rfl rfl)
theorem dX0_mixes_113 : decode cX0_mixes 113 = .ok (.iadd, 1) := dk_96 (dk_at dksX0_mixes_4 19 rfl rfl)
theorem dX0_mixes_114 : decode cX0_mixes 114 = .ok (.bipush 64, 2) := dk_16 64 (dk_at dksX0_mixes_4 20 rfl rfl)
theorem dX0_mixes_116 : decode cX0_mixes 116 = .ok (.irem, 1) := dk_112 (dk_at dksX0_mixes_4 22 rfl rfl)
theorem dX0_mixes_117 : decode cX0_mixes 117 = .ok (.istore 5, 2) := dk_54 5 (dk_at dksX0_mixes_5 0 rfl rfl)
theorem dX0_mixes_119 : decode cX0_mixes 119 = .ok (.goto (-94), 3) := dk_167 255 162 (dk_at dksX0_mixes_5 2 rfl rfl)
theorem dX0_mixes_122 : decode cX0_mixes 122 = .ok (.aload_n 0, 1) := dk_42 (dk_at dksX0_mixes_5 5 rfl rfl)
theorem dX0_mixes_123 : decode cX0_mixes 123 = .ok (.invokevirtual 594, 3) := dk_182 2 82 (dk_at dksX0_mixes_5 6 rfl rfl)
theorem dX0_mixes_126 : decode cX0_mixes 126 = .ok (.return_, 1) := dk_177 (dk_at dksX0_mixes_5 9 rfl rfl)
abbrev cX0_dealOf : ByteArray := prog_1_method_73_code
def yX0_dealOf : MethodName := ⟨RX0, "dealOf", "(II)LStrideTurns$Deal;"⟩
def dkwX0_dealOf_1 : List UInt8 := [186, 2, 70, 0, 0, 176]
abbrev dktX0_dealOf_1 : List UInt8 := dkwX0_dealOf_1 ++ []
def dkwX0_dealOf_0 : List UInt8 := [27, 4, 159, 0, 10, 28, 186, 2, 66, 0, 0, 176, 42, 180, 0, 173, 28, 96, 4, 100, 28, 108, 62, 29]
abbrev dktX0_dealOf_0 : List UInt8 := dkwX0_dealOf_0 ++ dktX0_dealOf_1
theorem dksX0_dealOf_0 : cX0_dealOf.data.toList.drop 0 = dktX0_dealOf_0 := by decide +kernel
theorem dksX0_dealOf_1 : cX0_dealOf.data.toList.drop 24 = dktX0_dealOf_1 := dk_seg dksX0_dealOf_0 24 rfl rfl
theorem dX0_dealOf_0 : decode cX0_dealOf 0 = .ok (.iload_n 1, 1) := dk_27 (dk_at dksX0_dealOf_0 0 rfl rfl)
theorem dX0_dealOf_1 : decode cX0_dealOf 1 = .ok (.iconst 1, 1) := dk_4 (dk_at dksX0_dealOf_0 1 rfl rfl)
theorem dX0_dealOf_2 : decode cX0_dealOf 2 = .ok (.if_icmp .eq 10, 3) := dk_159 0 10 (dk_at dksX0_dealOf_0 2 rfl rfl)
theorem dX0_dealOf_5 : decode cX0_dealOf 5 = .ok (.iload_n 2, 1) := dk_28 (dk_at dksX0_dealOf_0 5 rfl rfl)
theorem dX0_dealOf_6 : decode cX0_dealOf 6 = .ok (.invokedynamic 578, 5) := by decide +kernel
theorem dX0_dealOf_11 : decode cX0_dealOf 11 = .ok (.areturn, 1) := dk_176 (dk_at dksX0_dealOf_0 11 rfl rfl)
theorem dX0_dealOf_12 : decode cX0_dealOf 12 = .ok (.aload_n 0, 1) := dk_42 (dk_at dksX0_dealOf_0 12 rfl rfl)
theorem dX0_dealOf_13 : decode cX0_dealOf 13 = .ok (.getfield 173, 3) := dk_180 0 173 (dk_at dksX0_dealOf_0 13 rfl rfl)
theorem dX0_dealOf_16 : decode cX0_dealOf 16 = .ok (.iload_n 2, 1) := dk_28 (dk_at dksX0_dealOf_0 16 rfl rfl)
theorem dX0_dealOf_17 : decode cX0_dealOf 17 = .ok (.iadd, 1) := dk_96 (dk_at dksX0_dealOf_0 17 rfl rfl)
theorem dX0_dealOf_18 : decode cX0_dealOf 18 = .ok (.iconst 1, 1) := dk_4 (dk_at dksX0_dealOf_0 18 rfl rfl)
theorem dX0_dealOf_19 : decode cX0_dealOf 19 = .ok (.isub, 1) := dk_100 (dk_at dksX0_dealOf_0 19 rfl rfl)
theorem dX0_dealOf_20 : decode cX0_dealOf 20 = .ok (.iload_n 2, 1) := dk_28 (dk_at dksX0_dealOf_0 20 rfl rfl)
theorem dX0_dealOf_21 : decode cX0_dealOf 21 = .ok (.idiv, 1) := dk_108 (dk_at dksX0_dealOf_0 21 rfl rfl)
theorem dX0_dealOf_22 : decode cX0_dealOf 22 = .ok (.istore_n 3, 1) := dk_62 (dk_at dksX0_dealOf_0 22 rfl rfl)
theorem dX0_dealOf_23 : decode cX0_dealOf 23 = .ok (.iload_n 3, 1) := dk_29 (dk_at dksX0_dealOf_0 23 rfl rfl)
theorem dX0_dealOf_24 : decode cX0_dealOf 24 = .ok (.invokedynamic 582, 5) := by decide +kernel
theorem dX0_dealOf_29 : decode cX0_dealOf 29 = .ok (.areturn, 1) := dk_176 (dk_at dksX0_dealOf_1 5 rfl rfl)
abbrev cX0_lambda_dealOf_6 : ByteArray := prog_1_method_102_code
def yX0_lambda_dealOf_6 : MethodName := ⟨RX0, "lambda$dealOf$6", "(II)I"⟩
def dkwX0_lambda_dealOf_6_0 : List UInt8 := [27, 26, 112, 172]
abbrev dktX0_lambda_dealOf_6_0 : List UInt8 := dkwX0_lambda_dealOf_6_0 ++ []
theorem dksX0_lambda_dealOf_6_0 : cX0_lambda_dealOf_6.data.toList.drop 0 = dktX0_lambda_dealOf_6_0 := by decide +kernel
theorem dX0_lambda_dealOf_6_0 : decode cX0_lambda_dealOf_6 0 = .ok (.iload_n 1, 1) := dk_27 (dk_at dksX0_lambda_dealOf_6_0 0 rfl rfl)
theorem dX0_lambda_dealOf_6_1 : decode cX0_lambda_dealOf_6 1 = .ok (.iload_n 0, 1) := dk_26 (dk_at dksX0_lambda_dealOf_6_0 1 rfl rfl)
theorem dX0_lambda_dealOf_6_2 : decode cX0_lambda_dealOf_6 2 = .ok (.irem, 1) := dk_112 (dk_at dksX0_lambda_dealOf_6_0 2 rfl rfl)
theorem dX0_lambda_dealOf_6_3 : decode cX0_lambda_dealOf_6 3 = .ok (.ireturn, 1) := dk_172 (dk_at dksX0_lambda_dealOf_6_0 3 rfl rfl)
abbrev cX0_lambda_dealOf_7 : ByteArray := prog_1_method_101_code
def yX0_lambda_dealOf_7 : MethodName := ⟨RX0, "lambda$dealOf$7", "(II)I"⟩
def dkwX0_lambda_dealOf_7_0 : List UInt8 := [27, 26, 108, 172]
abbrev dktX0_lambda_dealOf_7_0 : List UInt8 := dkwX0_lambda_dealOf_7_0 ++ []
theorem dksX0_lambda_dealOf_7_0 : cX0_lambda_dealOf_7.data.toList.drop 0 = dktX0_lambda_dealOf_7_0 := by decide +kernel
theorem dX0_lambda_dealOf_7_0 : decode cX0_lambda_dealOf_7 0 = .ok (.iload_n 1, 1) := dk_27 (dk_at dksX0_lambda_dealOf_7_0 0 rfl rfl)
theorem dX0_lambda_dealOf_7_1 : decode cX0_lambda_dealOf_7 1 = .ok (.iload_n 0, 1) := dk_26 (dk_at dksX0_lambda_dealOf_7_0 1 rfl rfl)
theorem dX0_lambda_dealOf_7_2 : decode cX0_lambda_dealOf_7 2 = .ok (.idiv, 1) := dk_108 (dk_at dksX0_lambda_dealOf_7_0 2 rfl rfl)
theorem dX0_lambda_dealOf_7_3 : decode cX0_lambda_dealOf_7 3 = .ok (.ireturn, 1) := dk_172 (dk_at dksX0_lambda_dealOf_7_0 3 rfl rfl)
abbrev cX0_next : ByteArray := prog_1_method_74_code
def yX0_next : MethodName := ⟨RX0, "next", "(ILStrideTurns$Deal;Z)LStrideTurns$Turn;"⟩
def dkwX0_next_3 : List UInt8 := [176]
abbrev dktX0_next_3 : List UInt8 := dkwX0_next_3 ++ []
def dkwX0_next_2 : List UInt8 := [21, 5, 50, 182, 2, 54, 153, 0, 11, 42, 180, 0, 68, 21, 5, 50, 176, 132, 4, 1, 167, 255, 191, 1]
abbrev dktX0_next_2 : List UInt8 := dkwX0_next_2 ++ dktX0_next_3
def dkwX0_next_1 : List UInt8 := [100, 167, 0, 5, 21, 4, 54, 5, 44, 21, 5, 185, 2, 71, 2, 0, 27, 160, 0, 24, 42, 180, 0, 68]
abbrev dktX0_next_1 : List UInt8 := dkwX0_next_1 ++ dktX0_next_2
def dkwX0_next_0 : List UInt8 := [3, 54, 4, 21, 4, 42, 180, 0, 173, 162, 0, 62, 29, 153, 0, 15, 42, 180, 0, 173, 4, 100, 21, 4]
abbrev dktX0_next_0 : List UInt8 := dkwX0_next_0 ++ dktX0_next_1
theorem dksX0_next_0 : cX0_next.data.toList.drop 0 = dktX0_next_0 := by decide +kernel
theorem dksX0_next_1 : cX0_next.data.toList.drop 24 = dktX0_next_1 := dk_seg dksX0_next_0 24 rfl rfl
theorem dksX0_next_2 : cX0_next.data.toList.drop 48 = dktX0_next_2 := dk_seg dksX0_next_1 24 rfl rfl
theorem dksX0_next_3 : cX0_next.data.toList.drop 72 = dktX0_next_3 := dk_seg dksX0_next_2 24 rfl rfl
theorem dX0_next_0 : decode cX0_next 0 = .ok (.iconst 0, 1) := dk_3 (dk_at dksX0_next_0 0 rfl rfl)
theorem dX0_next_1 : decode cX0_next 1 = .ok (.istore 4, 2) := dk_54 4 (dk_at dksX0_next_0 1 rfl rfl)
theorem dX0_next_3 : decode cX0_next 3 = .ok (.iload 4, 2) := dk_21 4 (dk_at dksX0_next_0 3 rfl rfl)
theorem dX0_next_5 : decode cX0_next 5 = .ok (.aload_n 0, 1) := dk_42 (dk_at dksX0_next_0 5 rfl rfl)
theorem dX0_next_6 : decode cX0_next 6 = .ok (.getfield 173, 3) := dk_180 0 173 (dk_at dksX0_next_0 6 rfl rfl)
theorem dX0_next_9 : decode cX0_next 9 = .ok (.if_icmp .ge 62, 3) := dk_162 0 62 (dk_at dksX0_next_0 9 rfl rfl)
theorem dX0_next_12 : decode cX0_next 12 = .ok (.iload_n 3, 1) := dk_29 (dk_at dksX0_next_0 12 rfl rfl)
theorem dX0_next_13 : decode cX0_next 13 = .ok (.ifCond .eq 15, 3) := dk_153 0 15 (dk_at dksX0_next_0 13 rfl rfl)
theorem dX0_next_16 : decode cX0_next 16 = .ok (.aload_n 0, 1) := dk_42 (dk_at dksX0_next_0 16 rfl rfl)
theorem dX0_next_17 : decode cX0_next 17 = .ok (.getfield 173, 3) := dk_180 0 173 (dk_at dksX0_next_0 17 rfl rfl)
theorem dX0_next_20 : decode cX0_next 20 = .ok (.iconst 1, 1) := dk_4 (dk_at dksX0_next_0 20 rfl rfl)
theorem dX0_next_21 : decode cX0_next 21 = .ok (.isub, 1) := dk_100 (dk_at dksX0_next_0 21 rfl rfl)
theorem dX0_next_22 : decode cX0_next 22 = .ok (.iload 4, 2) := dk_21 4 (dk_at dksX0_next_0 22 rfl rfl)
theorem dX0_next_24 : decode cX0_next 24 = .ok (.isub, 1) := dk_100 (dk_at dksX0_next_1 0 rfl rfl)
theorem dX0_next_25 : decode cX0_next 25 = .ok (.goto 5, 3) := dk_167 0 5 (dk_at dksX0_next_1 1 rfl rfl)
theorem dX0_next_28 : decode cX0_next 28 = .ok (.iload 4, 2) := dk_21 4 (dk_at dksX0_next_1 4 rfl rfl)
theorem dX0_next_30 : decode cX0_next 30 = .ok (.istore 5, 2) := dk_54 5 (dk_at dksX0_next_1 6 rfl rfl)
theorem dX0_next_32 : decode cX0_next 32 = .ok (.aload_n 2, 1) := dk_44 (dk_at dksX0_next_1 8 rfl rfl)
theorem dX0_next_33 : decode cX0_next 33 = .ok (.iload 5, 2) := dk_21 5 (dk_at dksX0_next_1 9 rfl rfl)
theorem dX0_next_35 : decode cX0_next 35 = .ok (.invokeinterface 583 2, 5) := by decide +kernel
theorem dX0_next_40 : decode cX0_next 40 = .ok (.iload_n 1, 1) := dk_27 (dk_at dksX0_next_1 16 rfl rfl)
theorem dX0_next_41 : decode cX0_next 41 = .ok (.if_icmp .ne 24, 3) := dk_160 0 24 (dk_at dksX0_next_1 17 rfl rfl)
theorem dX0_next_44 : decode cX0_next 44 = .ok (.aload_n 0, 1) := dk_42 (dk_at dksX0_next_1 20 rfl rfl)
theorem dX0_next_45 : decode cX0_next 45 = .ok (.getfield 68, 3) := dk_180 0 68 (dk_at dksX0_next_1 21 rfl rfl)
theorem dX0_next_48 : decode cX0_next 48 = .ok (.iload 5, 2) := dk_21 5 (dk_at dksX0_next_2 0 rfl rfl)
theorem dX0_next_50 : decode cX0_next 50 = .ok (.aaload, 1) := dk_50 (dk_at dksX0_next_2 2 rfl rfl)
theorem dX0_next_51 : decode cX0_next 51 = .ok (.invokevirtual 566, 3) := dk_182 2 54 (dk_at dksX0_next_2 3 rfl rfl)
theorem dX0_next_54 : decode cX0_next 54 = .ok (.ifCond .eq 11, 3) := dk_153 0 11 (dk_at dksX0_next_2 6 rfl rfl)
theorem dX0_next_57 : decode cX0_next 57 = .ok (.aload_n 0, 1) := dk_42 (dk_at dksX0_next_2 9 rfl rfl)
theorem dX0_next_58 : decode cX0_next 58 = .ok (.getfield 68, 3) := dk_180 0 68 (dk_at dksX0_next_2 10 rfl rfl)
theorem dX0_next_61 : decode cX0_next 61 = .ok (.iload 5, 2) := dk_21 5 (dk_at dksX0_next_2 13 rfl rfl)
theorem dX0_next_63 : decode cX0_next 63 = .ok (.aaload, 1) := dk_50 (dk_at dksX0_next_2 15 rfl rfl)
theorem dX0_next_64 : decode cX0_next 64 = .ok (.areturn, 1) := dk_176 (dk_at dksX0_next_2 16 rfl rfl)
theorem dX0_next_65 : decode cX0_next 65 = .ok (.iinc 4 1, 3) := dk_132 4 1 (dk_at dksX0_next_2 17 rfl rfl)
theorem dX0_next_68 : decode cX0_next 68 = .ok (.goto (-65), 3) := dk_167 255 191 (dk_at dksX0_next_2 20 rfl rfl)
theorem dX0_next_71 : decode cX0_next 71 = .ok (.aconst_null, 1) := dk_1 (dk_at dksX0_next_2 23 rfl rfl)
theorem dX0_next_72 : decode cX0_next 72 = .ok (.areturn, 1) := dk_176 (dk_at dksX0_next_3 0 rfl rfl)
abbrev cX0_comesOut : ByteArray := prog_1_method_76_code
def yX0_comesOut : MethodName := ⟨RX0, "comesOut", "()V"⟩
def dkwX0_comesOut_4 : List UInt8 := [167, 255, 193, 132, 1, 1, 167, 255, 157, 177]
abbrev dktX0_comesOut_4 : List UInt8 := dkwX0_comesOut_4 ++ []
def dkwX0_comesOut_3 : List UInt8 := [153, 0, 15, 42, 27, 28, 42, 180, 0, 68, 29, 50, 182, 2, 88, 132, 3, 1, 167, 255, 214, 132, 2, 1]
abbrev dktX0_comesOut_3 : List UInt8 := dkwX0_comesOut_3 ++ dktX0_comesOut_4
def dkwX0_comesOut_2 : List UInt8 := [42, 180, 0, 173, 162, 0, 40, 42, 180, 0, 68, 29, 50, 180, 2, 85, 16, 24, 27, 104, 28, 96, 51]
abbrev dktX0_comesOut_2 : List UInt8 := dkwX0_comesOut_2 ++ dktX0_comesOut_3
def dkwX0_comesOut_1 : List UInt8 := [199, 0, 6, 167, 0, 71, 3, 61, 28, 42, 180, 0, 25, 27, 50, 180, 0, 121, 162, 0, 56, 3, 62, 29]
abbrev dktX0_comesOut_1 : List UInt8 := dkwX0_comesOut_1 ++ dktX0_comesOut_2
def dkwX0_comesOut_0 : List UInt8 := [3, 60, 27, 16, 6, 162, 0, 99, 42, 180, 0, 56, 27, 46, 4, 159, 0, 83, 42, 180, 0, 25, 27, 50]
abbrev dktX0_comesOut_0 : List UInt8 := dkwX0_comesOut_0 ++ dktX0_comesOut_1
theorem dksX0_comesOut_0 : cX0_comesOut.data.toList.drop 0 = dktX0_comesOut_0 := by decide +kernel
theorem dksX0_comesOut_1 : cX0_comesOut.data.toList.drop 24 = dktX0_comesOut_1 := dk_seg dksX0_comesOut_0 24 rfl rfl
theorem dksX0_comesOut_2 : cX0_comesOut.data.toList.drop 48 = dktX0_comesOut_2 := dk_seg dksX0_comesOut_1 24 rfl rfl
theorem dksX0_comesOut_3 : cX0_comesOut.data.toList.drop 71 = dktX0_comesOut_3 := dk_seg dksX0_comesOut_2 23 rfl rfl
theorem dksX0_comesOut_4 : cX0_comesOut.data.toList.drop 95 = dktX0_comesOut_4 := dk_seg dksX0_comesOut_3 24 rfl rfl
theorem dX0_comesOut_0 : decode cX0_comesOut 0 = .ok (.iconst 0, 1) := dk_3 (dk_at dksX0_comesOut_0 0 rfl rfl)
theorem dX0_comesOut_1 : decode cX0_comesOut 1 = .ok (.istore_n 1, 1) := dk_60 (dk_at dksX0_comesOut_0 1 rfl rfl)
theorem dX0_comesOut_2 : decode cX0_comesOut 2 = .ok (.iload_n 1, 1) := dk_27 (dk_at dksX0_comesOut_0 2 rfl rfl)
theorem dX0_comesOut_3 : decode cX0_comesOut 3 = .ok (.bipush 6, 2) := dk_16 6 (dk_at dksX0_comesOut_0 3 rfl rfl)
theorem dX0_comesOut_5 : decode cX0_comesOut 5 = .ok (.if_icmp .ge 99, 3) := dk_162 0 99 (dk_at dksX0_comesOut_0 5 rfl rfl)
theorem dX0_comesOut_8 : decode cX0_comesOut 8 = .ok (.aload_n 0, 1) := dk_42 (dk_at dksX0_comesOut_0 8 rfl rfl)
theorem dX0_comesOut_9 : decode cX0_comesOut 9 = .ok (.getfield 56, 3) := dk_180 0 56 (dk_at dksX0_comesOut_0 9 rfl rfl)
theorem dX0_comesOut_12 : decode cX0_comesOut 12 = .ok (.iload_n 1, 1) := dk_27 (dk_at dksX0_comesOut_0 12 rfl rfl)
theorem dX0_comesOut_13 : decode cX0_comesOut 13 = .ok (.iaload, 1) := dk_46 (dk_at dksX0_comesOut_0 13 rfl rfl)
theorem dX0_comesOut_14 : decode cX0_comesOut 14 = .ok (.iconst 1, 1) := dk_4 (dk_at dksX0_comesOut_0 14 rfl rfl)
theorem dX0_comesOut_15 : decode cX0_comesOut 15 = .ok (.if_icmp .eq 83, 3) := dk_159 0 83 (dk_at dksX0_comesOut_0 15 rfl rfl)
theorem dX0_comesOut_18 : decode cX0_comesOut 18 = .ok (.aload_n 0, 1) := dk_42 (dk_at dksX0_comesOut_0 18 rfl rfl)
theorem dX0_comesOut_19 : decode cX0_comesOut 19 = .ok (.getfield 25, 3) := dk_180 0 25 (dk_at dksX0_comesOut_0 19 rfl rfl)
theorem dX0_comesOut_22 : decode cX0_comesOut 22 = .ok (.iload_n 1, 1) := dk_27 (dk_at dksX0_comesOut_0 22 rfl rfl)
theorem dX0_comesOut_23 : decode cX0_comesOut 23 = .ok (.aaload, 1) := dk_50 (dk_at dksX0_comesOut_0 23 rfl rfl)
theorem dX0_comesOut_24 : decode cX0_comesOut 24 = .ok (.ifnonnull 6, 3) := dk_199 0 6 (dk_at dksX0_comesOut_1 0 rfl rfl)
theorem dX0_comesOut_27 : decode cX0_comesOut 27 = .ok (.goto 71, 3) := dk_167 0 71 (dk_at dksX0_comesOut_1 3 rfl rfl)
theorem dX0_comesOut_30 : decode cX0_comesOut 30 = .ok (.iconst 0, 1) := dk_3 (dk_at dksX0_comesOut_1 6 rfl rfl)
theorem dX0_comesOut_31 : decode cX0_comesOut 31 = .ok (.istore_n 2, 1) := dk_61 (dk_at dksX0_comesOut_1 7 rfl rfl)
theorem dX0_comesOut_32 : decode cX0_comesOut 32 = .ok (.iload_n 2, 1) := dk_28 (dk_at dksX0_comesOut_1 8 rfl rfl)
theorem dX0_comesOut_33 : decode cX0_comesOut 33 = .ok (.aload_n 0, 1) := dk_42 (dk_at dksX0_comesOut_1 9 rfl rfl)
theorem dX0_comesOut_34 : decode cX0_comesOut 34 = .ok (.getfield 25, 3) := dk_180 0 25 (dk_at dksX0_comesOut_1 10 rfl rfl)
theorem dX0_comesOut_37 : decode cX0_comesOut 37 = .ok (.iload_n 1, 1) := dk_27 (dk_at dksX0_comesOut_1 13 rfl rfl)
theorem dX0_comesOut_38 : decode cX0_comesOut 38 = .ok (.aaload, 1) := dk_50 (dk_at dksX0_comesOut_1 14 rfl rfl)
theorem dX0_comesOut_39 : decode cX0_comesOut 39 = .ok (.getfield 121, 3) := dk_180 0 121 (dk_at dksX0_comesOut_1 15 rfl rfl)
theorem dX0_comesOut_42 : decode cX0_comesOut 42 = .ok (.if_icmp .ge 56, 3) := dk_162 0 56 (dk_at dksX0_comesOut_1 18 rfl rfl)
theorem dX0_comesOut_45 : decode cX0_comesOut 45 = .ok (.iconst 0, 1) := dk_3 (dk_at dksX0_comesOut_1 21 rfl rfl)
theorem dX0_comesOut_46 : decode cX0_comesOut 46 = .ok (.istore_n 3, 1) := dk_62 (dk_at dksX0_comesOut_1 22 rfl rfl)
theorem dX0_comesOut_47 : decode cX0_comesOut 47 = .ok (.iload_n 3, 1) := dk_29 (dk_at dksX0_comesOut_1 23 rfl rfl)
theorem dX0_comesOut_48 : decode cX0_comesOut 48 = .ok (.aload_n 0, 1) := dk_42 (dk_at dksX0_comesOut_2 0 rfl rfl)
theorem dX0_comesOut_49 : decode cX0_comesOut 49 = .ok (.getfield 173, 3) := dk_180 0 173 (dk_at dksX0_comesOut_2 1 rfl rfl)
theorem dX0_comesOut_52 : decode cX0_comesOut 52 = .ok (.if_icmp .ge 40, 3) := dk_162 0 40 (dk_at dksX0_comesOut_2 4 rfl rfl)
theorem dX0_comesOut_55 : decode cX0_comesOut 55 = .ok (.aload_n 0, 1) := dk_42 (dk_at dksX0_comesOut_2 7 rfl rfl)
theorem dX0_comesOut_56 : decode cX0_comesOut 56 = .ok (.getfield 68, 3) := dk_180 0 68 (dk_at dksX0_comesOut_2 8 rfl rfl)
theorem dX0_comesOut_59 : decode cX0_comesOut 59 = .ok (.iload_n 3, 1) := dk_29 (dk_at dksX0_comesOut_2 11 rfl rfl)
theorem dX0_comesOut_60 : decode cX0_comesOut 60 = .ok (.aaload, 1) := dk_50 (dk_at dksX0_comesOut_2 12 rfl rfl)
theorem dX0_comesOut_61 : decode cX0_comesOut 61 = .ok (.getfield 597, 3) := dk_180 2 85 (dk_at dksX0_comesOut_2 13 rfl rfl)
theorem dX0_comesOut_64 : decode cX0_comesOut 64 = .ok (.bipush 24, 2) := dk_16 24 (dk_at dksX0_comesOut_2 16 rfl rfl)
theorem dX0_comesOut_66 : decode cX0_comesOut 66 = .ok (.iload_n 1, 1) := dk_27 (dk_at dksX0_comesOut_2 18 rfl rfl)
theorem dX0_comesOut_67 : decode cX0_comesOut 67 = .ok (.imul, 1) := dk_104 (dk_at dksX0_comesOut_2 19 rfl rfl)
theorem dX0_comesOut_68 : decode cX0_comesOut 68 = .ok (.iload_n 2, 1) := dk_28 (dk_at dksX0_comesOut_2 20 rfl rfl)
theorem dX0_comesOut_69 : decode cX0_comesOut 69 = .ok (.iadd, 1) := dk_96 (dk_at dksX0_comesOut_2 21 rfl rfl)
theorem dX0_comesOut_70 : decode cX0_comesOut 70 = .ok (.baload, 1) := dk_51 (dk_at dksX0_comesOut_2 22 rfl rfl)
theorem dX0_comesOut_71 : decode cX0_comesOut 71 = .ok (.ifCond .eq 15, 3) := dk_153 0 15 (dk_at dksX0_comesOut_3 0 rfl rfl)
theorem dX0_comesOut_74 : decode cX0_comesOut 74 = .ok (.aload_n 0, 1) := dk_42 (dk_at dksX0_comesOut_3 3 rfl rfl)
theorem dX0_comesOut_75 : decode cX0_comesOut 75 = .ok (.iload_n 1, 1) := dk_27 (dk_at dksX0_comesOut_3 4 rfl rfl)
theorem dX0_comesOut_76 : decode cX0_comesOut 76 = .ok (.iload_n 2, 1) := dk_28 (dk_at dksX0_comesOut_3 5 rfl rfl)
theorem dX0_comesOut_77 : decode cX0_comesOut 77 = .ok (.aload_n 0, 1) := dk_42 (dk_at dksX0_comesOut_3 6 rfl rfl)
theorem dX0_comesOut_78 : decode cX0_comesOut 78 = .ok (.getfield 68, 3) := dk_180 0 68 (dk_at dksX0_comesOut_3 7 rfl rfl)
theorem dX0_comesOut_81 : decode cX0_comesOut 81 = .ok (.iload_n 3, 1) := dk_29 (dk_at dksX0_comesOut_3 10 rfl rfl)
theorem dX0_comesOut_82 : decode cX0_comesOut 82 = .ok (.aaload, 1) := dk_50 (dk_at dksX0_comesOut_3 11 rfl rfl)
theorem dX0_comesOut_83 : decode cX0_comesOut 83 = .ok (.invokevirtual 600, 3) := dk_182 2 88 (dk_at dksX0_comesOut_3 12 rfl rfl)
theorem dX0_comesOut_86 : decode cX0_comesOut 86 = .ok (.iinc 3 1, 3) := dk_132 3 1 (dk_at dksX0_comesOut_3 15 rfl rfl)
theorem dX0_comesOut_89 : decode cX0_comesOut 89 = .ok (.goto (-42), 3) := dk_167 255 214 (dk_at dksX0_comesOut_3 18 rfl rfl)
theorem dX0_comesOut_92 : decode cX0_comesOut 92 = .ok (.iinc 2 1, 3) := dk_132 2 1 (dk_at dksX0_comesOut_3 21 rfl rfl)
theorem dX0_comesOut_95 : decode cX0_comesOut 95 = .ok (.goto (-63), 3) := dk_167 255 193 (dk_at dksX0_comesOut_4 0 rfl rfl)
theorem dX0_comesOut_98 : decode cX0_comesOut 98 = .ok (.iinc 1 1, 3) := dk_132 1 1 (dk_at dksX0_comesOut_4 3 rfl rfl)
theorem dX0_comesOut_101 : decode cX0_comesOut 101 = .ok (.goto (-99), 3) := dk_167 255 157 (dk_at dksX0_comesOut_4 6 rfl rfl)
theorem dX0_comesOut_104 : decode cX0_comesOut 104 = .ok (.return_, 1) := dk_177 (dk_at dksX0_comesOut_4 9 rfl rfl)
abbrev cX0_comes : ByteArray := prog_1_method_77_code
def yX0_comes : MethodName := ⟨RX0, "comes", "(IILStrideTurns$Turn;)V"⟩
def dkwX0_comes_5 : List UInt8 := [45, 180, 2, 57, 79, 177]
abbrev dktX0_comes_5 : List UInt8 := dkwX0_comes_5 ++ []
def dkwX0_comes_4 : List UInt8 := [24, 5, 184, 2, 106, 182, 2, 110, 57, 5, 25, 4, 28, 24, 5, 182, 2, 114, 25, 4, 180, 2, 39, 28]
abbrev dktX0_comes_4 : List UInt8 := dkwX0_comes_4 ++ dktX0_comes_5
def dkwX0_comes_3 : List UInt8 := [180, 1, 164, 58, 8, 25, 4, 25, 8, 4, 25, 4, 180, 1, 240, 184, 2, 2, 25, 4, 28, 182, 2, 103]
abbrev dktX0_comes_3 : List UInt8 := dkwX0_comes_3 ++ dktX0_comes_4
def dkwX0_comes_2 : List UInt8 := [4, 160, 0, 19, 42, 180, 0, 17, 19, 2, 102, 182, 0, 198, 192, 0, 12, 167, 0, 8, 25, 7]
abbrev dktX0_comes_2 : List UInt8 := dkwX0_comes_2 ++ dktX0_comes_3
def dkwX0_comes_1 : List UInt8 := [180, 0, 56, 27, 46, 5, 160, 0, 74, 42, 27, 182, 2, 95, 58, 7, 25, 7, 180, 1, 164, 180, 2, 99]
abbrev dktX0_comes_1 : List UInt8 := dkwX0_comes_1 ++ dktX0_comes_2
def dkwX0_comes_0 : List UInt8 := [42, 180, 0, 25, 27, 50, 58, 4, 45, 180, 2, 92, 16, 24, 27, 104, 28, 96, 49, 57, 5, 42]
abbrev dktX0_comes_0 : List UInt8 := dkwX0_comes_0 ++ dktX0_comes_1
theorem dksX0_comes_0 : cX0_comes.data.toList.drop 0 = dktX0_comes_0 := by decide +kernel
theorem dksX0_comes_1 : cX0_comes.data.toList.drop 22 = dktX0_comes_1 := dk_seg dksX0_comes_0 22 rfl rfl
theorem dksX0_comes_2 : cX0_comes.data.toList.drop 46 = dktX0_comes_2 := dk_seg dksX0_comes_1 24 rfl rfl
theorem dksX0_comes_3 : cX0_comes.data.toList.drop 68 = dktX0_comes_3 := dk_seg dksX0_comes_2 22 rfl rfl
theorem dksX0_comes_4 : cX0_comes.data.toList.drop 92 = dktX0_comes_4 := dk_seg dksX0_comes_3 24 rfl rfl
theorem dksX0_comes_5 : cX0_comes.data.toList.drop 116 = dktX0_comes_5 := dk_seg dksX0_comes_4 24 rfl rfl
theorem dX0_comes_0 : decode cX0_comes 0 = .ok (.aload_n 0, 1) := dk_42 (dk_at dksX0_comes_0 0 rfl rfl)
theorem dX0_comes_1 : decode cX0_comes 1 = .ok (.getfield 25, 3) := dk_180 0 25 (dk_at dksX0_comes_0 1 rfl rfl)
theorem dX0_comes_4 : decode cX0_comes 4 = .ok (.iload_n 1, 1) := dk_27 (dk_at dksX0_comes_0 4 rfl rfl)
theorem dX0_comes_5 : decode cX0_comes 5 = .ok (.aaload, 1) := dk_50 (dk_at dksX0_comes_0 5 rfl rfl)
theorem dX0_comes_6 : decode cX0_comes 6 = .ok (.astore 4, 2) := dk_58 4 (dk_at dksX0_comes_0 6 rfl rfl)
theorem dX0_comes_8 : decode cX0_comes 8 = .ok (.aload_n 3, 1) := dk_45 (dk_at dksX0_comes_0 8 rfl rfl)
theorem dX0_comes_9 : decode cX0_comes 9 = .ok (.getfield 604, 3) := dk_180 2 92 (dk_at dksX0_comes_0 9 rfl rfl)
theorem dX0_comes_12 : decode cX0_comes 12 = .ok (.bipush 24, 2) := dk_16 24 (dk_at dksX0_comes_0 12 rfl rfl)
theorem dX0_comes_14 : decode cX0_comes 14 = .ok (.iload_n 1, 1) := dk_27 (dk_at dksX0_comes_0 14 rfl rfl)
theorem dX0_comes_15 : decode cX0_comes 15 = .ok (.imul, 1) := dk_104 (dk_at dksX0_comes_0 15 rfl rfl)
theorem dX0_comes_16 : decode cX0_comes 16 = .ok (.iload_n 2, 1) := dk_28 (dk_at dksX0_comes_0 16 rfl rfl)
theorem dX0_comes_17 : decode cX0_comes 17 = .ok (.iadd, 1) := dk_96 (dk_at dksX0_comes_0 17 rfl rfl)
theorem dX0_comes_18 : decode cX0_comes 18 = .ok (.daload, 1) := dk_49 (dk_at dksX0_comes_0 18 rfl rfl)
theorem dX0_comes_19 : decode cX0_comes 19 = .ok (.dstore 5, 2) := dk_57 5 (dk_at dksX0_comes_0 19 rfl rfl)
theorem dX0_comes_21 : decode cX0_comes 21 = .ok (.aload_n 0, 1) := dk_42 (dk_at dksX0_comes_0 21 rfl rfl)
theorem dX0_comes_22 : decode cX0_comes 22 = .ok (.getfield 56, 3) := dk_180 0 56 (dk_at dksX0_comes_1 0 rfl rfl)
theorem dX0_comes_25 : decode cX0_comes 25 = .ok (.iload_n 1, 1) := dk_27 (dk_at dksX0_comes_1 3 rfl rfl)
theorem dX0_comes_26 : decode cX0_comes 26 = .ok (.iaload, 1) := dk_46 (dk_at dksX0_comes_1 4 rfl rfl)
theorem dX0_comes_27 : decode cX0_comes 27 = .ok (.iconst 2, 1) := dk_5 (dk_at dksX0_comes_1 5 rfl rfl)
theorem dX0_comes_28 : decode cX0_comes 28 = .ok (.if_icmp .ne 74, 3) := dk_160 0 74 (dk_at dksX0_comes_1 6 rfl rfl)
theorem dX0_comes_31 : decode cX0_comes 31 = .ok (.aload_n 0, 1) := dk_42 (dk_at dksX0_comes_1 9 rfl rfl)
theorem dX0_comes_32 : decode cX0_comes 32 = .ok (.iload_n 1, 1) := dk_27 (dk_at dksX0_comes_1 10 rfl rfl)
theorem dX0_comes_33 : decode cX0_comes 33 = .ok (.invokevirtual 607, 3) := dk_182 2 95 (dk_at dksX0_comes_1 11 rfl rfl)
theorem dX0_comes_36 : decode cX0_comes 36 = .ok (.astore 7, 2) := dk_58 7 (dk_at dksX0_comes_1 14 rfl rfl)
theorem dX0_comes_38 : decode cX0_comes 38 = .ok (.aload 7, 2) := dk_25 7 (dk_at dksX0_comes_1 16 rfl rfl)
theorem dX0_comes_40 : decode cX0_comes 40 = .ok (.getfield 420, 3) := dk_180 1 164 (dk_at dksX0_comes_1 18 rfl rfl)
theorem dX0_comes_43 : decode cX0_comes 43 = .ok (.getfield 611, 3) := dk_180 2 99 (dk_at dksX0_comes_1 21 rfl rfl)
theorem dX0_comes_46 : decode cX0_comes 46 = .ok (.iconst 1, 1) := dk_4 (dk_at dksX0_comes_2 0 rfl rfl)
theorem dX0_comes_47 : decode cX0_comes 47 = .ok (.if_icmp .ne 19, 3) := dk_160 0 19 (dk_at dksX0_comes_2 1 rfl rfl)
theorem dX0_comes_50 : decode cX0_comes 50 = .ok (.aload_n 0, 1) := dk_42 (dk_at dksX0_comes_2 4 rfl rfl)
theorem dX0_comes_51 : decode cX0_comes 51 = .ok (.getfield 17, 3) := dk_180 0 17 (dk_at dksX0_comes_2 5 rfl rfl)
theorem dX0_comes_54 : decode cX0_comes 54 = .ok (.ldc_w 614, 3) := dk_19 2 102 (dk_at dksX0_comes_2 8 rfl rfl)
theorem dX0_comes_57 : decode cX0_comes 57 = .ok (.invokevirtual 198, 3) := dk_182 0 198 (dk_at dksX0_comes_2 11 rfl rfl)
theorem dX0_comes_60 : decode cX0_comes 60 = .ok (.checkcast 12, 3) := dk_192 0 12 (dk_at dksX0_comes_2 14 rfl rfl)
theorem dX0_comes_63 : decode cX0_comes 63 = .ok (.goto 8, 3) := dk_167 0 8 (dk_at dksX0_comes_2 17 rfl rfl)
theorem dX0_comes_66 : decode cX0_comes 66 = .ok (.aload 7, 2) := dk_25 7 (dk_at dksX0_comes_2 20 rfl rfl)
theorem dX0_comes_68 : decode cX0_comes 68 = .ok (.getfield 420, 3) := dk_180 1 164 (dk_at dksX0_comes_3 0 rfl rfl)
theorem dX0_comes_71 : decode cX0_comes 71 = .ok (.astore 8, 2) := dk_58 8 (dk_at dksX0_comes_3 3 rfl rfl)
theorem dX0_comes_73 : decode cX0_comes 73 = .ok (.aload 4, 2) := dk_25 4 (dk_at dksX0_comes_3 5 rfl rfl)
theorem dX0_comes_75 : decode cX0_comes 75 = .ok (.aload 8, 2) := dk_25 8 (dk_at dksX0_comes_3 7 rfl rfl)
theorem dX0_comes_77 : decode cX0_comes 77 = .ok (.iconst 1, 1) := dk_4 (dk_at dksX0_comes_3 9 rfl rfl)
theorem dX0_comes_78 : decode cX0_comes 78 = .ok (.aload 4, 2) := dk_25 4 (dk_at dksX0_comes_3 10 rfl rfl)
theorem dX0_comes_80 : decode cX0_comes 80 = .ok (.getfield 496, 3) := dk_180 1 240 (dk_at dksX0_comes_3 12 rfl rfl)
theorem dX0_comes_83 : decode cX0_comes 83 = .ok (.invokestatic 514, 3) := dk_184 2 2 (dk_at dksX0_comes_3 15 rfl rfl)
theorem dX0_comes_86 : decode cX0_comes 86 = .ok (.aload 4, 2) := dk_25 4 (dk_at dksX0_comes_3 18 rfl rfl)
theorem dX0_comes_88 : decode cX0_comes 88 = .ok (.iload_n 2, 1) := dk_28 (dk_at dksX0_comes_3 20 rfl rfl)
theorem dX0_comes_89 : decode cX0_comes 89 = .ok (.invokevirtual 615, 3) := dk_182 2 103 (dk_at dksX0_comes_3 21 rfl rfl)
theorem dX0_comes_92 : decode cX0_comes 92 = .ok (.dload 5, 2) := dk_24 5 (dk_at dksX0_comes_4 0 rfl rfl)
theorem dX0_comes_94 : decode cX0_comes 94 = .ok (.invokestatic 618, 3) := dk_184 2 106 (dk_at dksX0_comes_4 2 rfl rfl)
theorem dX0_comes_97 : decode cX0_comes 97 = .ok (.invokevirtual 622, 3) := dk_182 2 110 (dk_at dksX0_comes_4 5 rfl rfl)
theorem dX0_comes_100 : decode cX0_comes 100 = .ok (.dstore 5, 2) := dk_57 5 (dk_at dksX0_comes_4 8 rfl rfl)
theorem dX0_comes_102 : decode cX0_comes 102 = .ok (.aload 4, 2) := dk_25 4 (dk_at dksX0_comes_4 10 rfl rfl)
theorem dX0_comes_104 : decode cX0_comes 104 = .ok (.iload_n 2, 1) := dk_28 (dk_at dksX0_comes_4 12 rfl rfl)
theorem dX0_comes_105 : decode cX0_comes 105 = .ok (.dload 5, 2) := dk_24 5 (dk_at dksX0_comes_4 13 rfl rfl)
theorem dX0_comes_107 : decode cX0_comes 107 = .ok (.invokevirtual 626, 3) := dk_182 2 114 (dk_at dksX0_comes_4 15 rfl rfl)
theorem dX0_comes_110 : decode cX0_comes 110 = .ok (.aload 4, 2) := dk_25 4 (dk_at dksX0_comes_4 18 rfl rfl)
theorem dX0_comes_112 : decode cX0_comes 112 = .ok (.getfield 551, 3) := dk_180 2 39 (dk_at dksX0_comes_4 20 rfl rfl)
theorem dX0_comes_115 : decode cX0_comes 115 = .ok (.iload_n 2, 1) := dk_28 (dk_at dksX0_comes_4 23 rfl rfl)
theorem dX0_comes_116 : decode cX0_comes 116 = .ok (.aload_n 3, 1) := dk_45 (dk_at dksX0_comes_5 0 rfl rfl)
theorem dX0_comes_117 : decode cX0_comes 117 = .ok (.getfield 569, 3) := dk_180 2 57 (dk_at dksX0_comes_5 1 rfl rfl)
theorem dX0_comes_120 : decode cX0_comes 120 = .ok (.iastore, 1) := dk_79 (dk_at dksX0_comes_5 4 rfl rfl)
theorem dX0_comes_121 : decode cX0_comes 121 = .ok (.return_, 1) := dk_177 (dk_at dksX0_comes_5 5 rfl rfl)
abbrev cX0_gathererOf : ByteArray := prog_1_method_78_code
def yX0_gathererOf : MethodName := ⟨RX0, "gathererOf", "(I)LStrideTurns$Statement;"⟩
def dkwX0_gathererOf_2 : List UInt8 := [132, 2, 1, 167, 255, 208, 1, 176]
abbrev dktX0_gathererOf_2 : List UInt8 := dkwX0_gathererOf_2 ++ []
def dkwX0_gathererOf_1 : List UInt8 := [3, 182, 0, 233, 180, 0, 237, 27, 160, 0, 15, 42, 180, 0, 34, 28, 182, 0, 230, 192, 0, 209, 176]
abbrev dktX0_gathererOf_1 : List UInt8 := dkwX0_gathererOf_1 ++ dktX0_gathererOf_2
def dkwX0_gathererOf_0 : List UInt8 := [3, 61, 28, 42, 180, 0, 34, 182, 0, 208, 162, 0, 43, 42, 180, 0, 34, 28, 182, 0, 230, 192, 0, 209]
abbrev dktX0_gathererOf_0 : List UInt8 := dkwX0_gathererOf_0 ++ dktX0_gathererOf_1
theorem dksX0_gathererOf_0 : cX0_gathererOf.data.toList.drop 0 = dktX0_gathererOf_0 := by decide +kernel
theorem dksX0_gathererOf_1 : cX0_gathererOf.data.toList.drop 24 = dktX0_gathererOf_1 := dk_seg dksX0_gathererOf_0 24 rfl rfl
theorem dksX0_gathererOf_2 : cX0_gathererOf.data.toList.drop 47 = dktX0_gathererOf_2 := dk_seg dksX0_gathererOf_1 23 rfl rfl
theorem dX0_gathererOf_0 : decode cX0_gathererOf 0 = .ok (.iconst 0, 1) := dk_3 (dk_at dksX0_gathererOf_0 0 rfl rfl)
theorem dX0_gathererOf_1 : decode cX0_gathererOf 1 = .ok (.istore_n 2, 1) := dk_61 (dk_at dksX0_gathererOf_0 1 rfl rfl)
theorem dX0_gathererOf_2 : decode cX0_gathererOf 2 = .ok (.iload_n 2, 1) := dk_28 (dk_at dksX0_gathererOf_0 2 rfl rfl)
theorem dX0_gathererOf_3 : decode cX0_gathererOf 3 = .ok (.aload_n 0, 1) := dk_42 (dk_at dksX0_gathererOf_0 3 rfl rfl)
theorem dX0_gathererOf_4 : decode cX0_gathererOf 4 = .ok (.getfield 34, 3) := dk_180 0 34 (dk_at dksX0_gathererOf_0 4 rfl rfl)
theorem dX0_gathererOf_7 : decode cX0_gathererOf 7 = .ok (.invokevirtual 208, 3) := dk_182 0 208 (dk_at dksX0_gathererOf_0 7 rfl rfl)
theorem dX0_gathererOf_10 : decode cX0_gathererOf 10 = .ok (.if_icmp .ge 43, 3) := dk_162 0 43 (dk_at dksX0_gathererOf_0 10 rfl rfl)
theorem dX0_gathererOf_13 : decode cX0_gathererOf 13 = .ok (.aload_n 0, 1) := dk_42 (dk_at dksX0_gathererOf_0 13 rfl rfl)
theorem dX0_gathererOf_14 : decode cX0_gathererOf 14 = .ok (.getfield 34, 3) := dk_180 0 34 (dk_at dksX0_gathererOf_0 14 rfl rfl)
theorem dX0_gathererOf_17 : decode cX0_gathererOf 17 = .ok (.iload_n 2, 1) := dk_28 (dk_at dksX0_gathererOf_0 17 rfl rfl)
theorem dX0_gathererOf_18 : decode cX0_gathererOf 18 = .ok (.invokevirtual 230, 3) := dk_182 0 230 (dk_at dksX0_gathererOf_0 18 rfl rfl)
theorem dX0_gathererOf_21 : decode cX0_gathererOf 21 = .ok (.checkcast 209, 3) := dk_192 0 209 (dk_at dksX0_gathererOf_0 21 rfl rfl)
theorem dX0_gathererOf_24 : decode cX0_gathererOf 24 = .ok (.iconst 0, 1) := dk_3 (dk_at dksX0_gathererOf_1 0 rfl rfl)
theorem dX0_gathererOf_25 : decode cX0_gathererOf 25 = .ok (.invokevirtual 233, 3) := dk_182 0 233 (dk_at dksX0_gathererOf_1 1 rfl rfl)
theorem dX0_gathererOf_28 : decode cX0_gathererOf 28 = .ok (.getfield 237, 3) := dk_180 0 237 (dk_at dksX0_gathererOf_1 4 rfl rfl)
theorem dX0_gathererOf_31 : decode cX0_gathererOf 31 = .ok (.iload_n 1, 1) := dk_27 (dk_at dksX0_gathererOf_1 7 rfl rfl)
theorem dX0_gathererOf_32 : decode cX0_gathererOf 32 = .ok (.if_icmp .ne 15, 3) := dk_160 0 15 (dk_at dksX0_gathererOf_1 8 rfl rfl)
theorem dX0_gathererOf_35 : decode cX0_gathererOf 35 = .ok (.aload_n 0, 1) := dk_42 (dk_at dksX0_gathererOf_1 11 rfl rfl)
theorem dX0_gathererOf_36 : decode cX0_gathererOf 36 = .ok (.getfield 34, 3) := dk_180 0 34 (dk_at dksX0_gathererOf_1 12 rfl rfl)
theorem dX0_gathererOf_39 : decode cX0_gathererOf 39 = .ok (.iload_n 2, 1) := dk_28 (dk_at dksX0_gathererOf_1 15 rfl rfl)
theorem dX0_gathererOf_40 : decode cX0_gathererOf 40 = .ok (.invokevirtual 230, 3) := dk_182 0 230 (dk_at dksX0_gathererOf_1 16 rfl rfl)
theorem dX0_gathererOf_43 : decode cX0_gathererOf 43 = .ok (.checkcast 209, 3) := dk_192 0 209 (dk_at dksX0_gathererOf_1 19 rfl rfl)
theorem dX0_gathererOf_46 : decode cX0_gathererOf 46 = .ok (.areturn, 1) := dk_176 (dk_at dksX0_gathererOf_1 22 rfl rfl)
theorem dX0_gathererOf_47 : decode cX0_gathererOf 47 = .ok (.iinc 2 1, 3) := dk_132 2 1 (dk_at dksX0_gathererOf_2 0 rfl rfl)
theorem dX0_gathererOf_50 : decode cX0_gathererOf 50 = .ok (.goto (-48), 3) := dk_167 255 208 (dk_at dksX0_gathererOf_2 3 rfl rfl)
theorem dX0_gathererOf_53 : decode cX0_gathererOf 53 = .ok (.aconst_null, 1) := dk_1 (dk_at dksX0_gathererOf_2 6 rfl rfl)
theorem dX0_gathererOf_54 : decode cX0_gathererOf 54 = .ok (.areturn, 1) := dk_176 (dk_at dksX0_gathererOf_2 7 rfl rfl)
abbrev cX0_same : ByteArray := prog_1_method_89_code
def yX0_same : MethodName := ⟨RX0, "same", "(IIII)I"⟩
def dkwX0_same_1 : List UInt8 := [154, 0, 8, 16, 253, 167, 0, 10, 42, 27, 28, 29, 182, 2, 161, 172]
abbrev dktX0_same_1 : List UInt8 := dkwX0_same_1 ++ []
def dkwX0_same_0 : List UInt8 := [27, 28, 29, 21, 4, 184, 2, 138, 154, 0, 6, 16, 254, 172, 21, 4, 154, 0, 15, 42, 182, 2, 142]
abbrev dktX0_same_0 : List UInt8 := dkwX0_same_0 ++ dktX0_same_1
theorem dksX0_same_0 : cX0_same.data.toList.drop 0 = dktX0_same_0 := by decide +kernel
theorem dksX0_same_1 : cX0_same.data.toList.drop 23 = dktX0_same_1 := dk_seg dksX0_same_0 23 rfl rfl
theorem dX0_same_0 : decode cX0_same 0 = .ok (.iload_n 1, 1) := dk_27 (dk_at dksX0_same_0 0 rfl rfl)
theorem dX0_same_1 : decode cX0_same 1 = .ok (.iload_n 2, 1) := dk_28 (dk_at dksX0_same_0 1 rfl rfl)
theorem dX0_same_2 : decode cX0_same 2 = .ok (.iload_n 3, 1) := dk_29 (dk_at dksX0_same_0 2 rfl rfl)
theorem dX0_same_3 : decode cX0_same 3 = .ok (.iload 4, 2) := dk_21 4 (dk_at dksX0_same_0 3 rfl rfl)
theorem dX0_same_5 : decode cX0_same 5 = .ok (.invokestatic 650, 3) := dk_184 2 138 (dk_at dksX0_same_0 5 rfl rfl)
theorem dX0_same_8 : decode cX0_same 8 = .ok (.ifCond .ne 6, 3) := dk_154 0 6 (dk_at dksX0_same_0 8 rfl rfl)
theorem dX0_same_11 : decode cX0_same 11 = .ok (.bipush (-2), 2) := dk_16 254 (dk_at dksX0_same_0 11 rfl rfl)
theorem dX0_same_13 : decode cX0_same 13 = .ok (.ireturn, 1) := dk_172 (dk_at dksX0_same_0 13 rfl rfl)
theorem dX0_same_14 : decode cX0_same 14 = .ok (.iload 4, 2) := dk_21 4 (dk_at dksX0_same_0 14 rfl rfl)
theorem dX0_same_16 : decode cX0_same 16 = .ok (.ifCond .ne 15, 3) := dk_154 0 15 (dk_at dksX0_same_0 16 rfl rfl)
theorem dX0_same_19 : decode cX0_same 19 = .ok (.aload_n 0, 1) := dk_42 (dk_at dksX0_same_0 19 rfl rfl)
theorem dX0_same_20 : decode cX0_same 20 = .ok (.invokevirtual 654, 3) := dk_182 2 142 (dk_at dksX0_same_0 20 rfl rfl)
theorem dX0_same_23 : decode cX0_same 23 = .ok (.ifCond .ne 8, 3) := dk_154 0 8 (dk_at dksX0_same_1 0 rfl rfl)
theorem dX0_same_26 : decode cX0_same 26 = .ok (.bipush (-3), 2) := dk_16 253 (dk_at dksX0_same_1 3 rfl rfl)
theorem dX0_same_28 : decode cX0_same 28 = .ok (.goto 10, 3) := dk_167 0 10 (dk_at dksX0_same_1 5 rfl rfl)
theorem dX0_same_31 : decode cX0_same 31 = .ok (.aload_n 0, 1) := dk_42 (dk_at dksX0_same_1 8 rfl rfl)
theorem dX0_same_32 : decode cX0_same 32 = .ok (.iload_n 1, 1) := dk_27 (dk_at dksX0_same_1 9 rfl rfl)
theorem dX0_same_33 : decode cX0_same 33 = .ok (.iload_n 2, 1) := dk_28 (dk_at dksX0_same_1 10 rfl rfl)
theorem dX0_same_34 : decode cX0_same 34 = .ok (.iload_n 3, 1) := dk_29 (dk_at dksX0_same_1 11 rfl rfl)
theorem dX0_same_35 : decode cX0_same 35 = .ok (.invokevirtual 673, 3) := dk_182 2 161 (dk_at dksX0_same_1 12 rfl rfl)
theorem dX0_same_38 : decode cX0_same 38 = .ok (.ireturn, 1) := dk_172 (dk_at dksX0_same_1 15 rfl rfl)
abbrev cX0_sameBy : ByteArray := prog_1_method_88_code
def yX0_sameBy : MethodName := ⟨RX0, "sameBy", "(III)I"⟩
def dkwX0_sameBy_11 : List UInt8 := [21, 15, 96, 46, 79, 132, 15, 1, 167, 255, 217, 132, 13, 1, 167, 255, 192, 25, 12, 191]
abbrev dktX0_sameBy_11 : List UInt8 := dkwX0_sameBy_11 ++ []
def dkwX0_sameBy_10 : List UInt8 := [25, 14, 180, 0, 121, 162, 0, 30, 25, 14, 180, 2, 39, 21, 15, 42, 180, 0, 84, 16, 24, 21, 13, 104]
abbrev dktX0_sameBy_10 : List UInt8 := dkwX0_sameBy_10 ++ dktX0_sameBy_11
def dkwX0_sameBy_9 : List UInt8 := [16, 6, 162, 0, 63, 42, 180, 0, 25, 21, 13, 50, 58, 14, 3, 54, 15, 25, 14, 198, 0, 40, 21, 15]
abbrev dktX0_sameBy_9 : List UInt8 := dkwX0_sameBy_9 ++ dktX0_sameBy_10
def dkwX0_sameBy_8 : List UInt8 := [167, 255, 217, 132, 9, 1, 167, 255, 192, 21, 8, 172, 58, 12, 42, 182, 2, 155, 3, 54, 13, 21, 13]
abbrev dktX0_sameBy_8 : List UInt8 := dkwX0_sameBy_8 ++ dktX0_sameBy_9
def dkwX0_sameBy_7 : List UInt8 := [180, 2, 39, 21, 11, 42, 180, 0, 84, 16, 24, 21, 9, 104, 21, 11, 96, 46, 79, 132, 11, 1]
abbrev dktX0_sameBy_7 : List UInt8 := dkwX0_sameBy_7 ++ dktX0_sameBy_8
def dkwX0_sameBy_6 : List UInt8 := [58, 10, 3, 54, 11, 25, 10, 198, 0, 40, 21, 11, 25, 10, 180, 0, 121, 162, 0, 30, 25, 10]
abbrev dktX0_sameBy_6 : List UInt8 := dkwX0_sameBy_6 ++ dktX0_sameBy_7
def dkwX0_sameBy_5 : List UInt8 := [54, 8, 42, 182, 2, 155, 3, 54, 9, 21, 9, 16, 6, 162, 0, 63, 42, 180, 0, 25, 21, 9, 50]
abbrev dktX0_sameBy_5 : List UInt8 := dkwX0_sameBy_5 ++ dktX0_sameBy_6
def dkwX0_sameBy_4 : List UInt8 := [42, 180, 0, 60, 5, 46, 160, 0, 16, 21, 7, 42, 180, 2, 45, 160, 0, 7, 4, 167, 0, 4, 3]
abbrev dktX0_sameBy_4 : List UInt8 := dkwX0_sameBy_4 ++ dktX0_sameBy_5
def dkwX0_sameBy_3 : List UInt8 := [21, 4, 42, 180, 0, 60, 3, 46, 160, 0, 38, 21, 5, 42, 180, 0, 60, 4, 46, 160, 0, 27, 21, 6]
abbrev dktX0_sameBy_3 : List UInt8 := dkwX0_sameBy_3 ++ dktX0_sameBy_4
def dkwX0_sameBy_2 : List UInt8 := [42, 180, 2, 45, 54, 7, 42, 182, 2, 155, 42, 27, 28, 29, 182, 2, 145, 42, 182, 2, 158, 153, 0, 49]
abbrev dktX0_sameBy_2 : List UInt8 := dkwX0_sameBy_2 ++ dktX0_sameBy_3
def dkwX0_sameBy_1 : List UInt8 := [42, 180, 0, 60, 3, 46, 54, 4, 42, 180, 0, 60, 4, 46, 54, 5, 42, 180, 0, 60, 5, 46, 54, 6]
abbrev dktX0_sameBy_1 : List UInt8 := dkwX0_sameBy_1 ++ dktX0_sameBy_2
def dkwX0_sameBy_0 : List UInt8 := [42, 42, 180, 0, 80, 182, 2, 148, 42, 182, 2, 152, 42, 182, 2, 124, 42, 42, 180, 0, 87, 182, 2, 148]
abbrev dktX0_sameBy_0 : List UInt8 := dkwX0_sameBy_0 ++ dktX0_sameBy_1
theorem dksX0_sameBy_0 : cX0_sameBy.data.toList.drop 0 = dktX0_sameBy_0 := by decide +kernel
theorem dksX0_sameBy_1 : cX0_sameBy.data.toList.drop 24 = dktX0_sameBy_1 := dk_seg dksX0_sameBy_0 24 rfl rfl
theorem dksX0_sameBy_2 : cX0_sameBy.data.toList.drop 48 = dktX0_sameBy_2 := dk_seg dksX0_sameBy_1 24 rfl rfl
theorem dksX0_sameBy_3 : cX0_sameBy.data.toList.drop 72 = dktX0_sameBy_3 := dk_seg dksX0_sameBy_2 24 rfl rfl
theorem dksX0_sameBy_4 : cX0_sameBy.data.toList.drop 96 = dktX0_sameBy_4 := dk_seg dksX0_sameBy_3 24 rfl rfl
theorem dksX0_sameBy_5 : cX0_sameBy.data.toList.drop 119 = dktX0_sameBy_5 := dk_seg dksX0_sameBy_4 23 rfl rfl
theorem dksX0_sameBy_6 : cX0_sameBy.data.toList.drop 142 = dktX0_sameBy_6 := dk_seg dksX0_sameBy_5 23 rfl rfl
theorem dksX0_sameBy_7 : cX0_sameBy.data.toList.drop 164 = dktX0_sameBy_7 := dk_seg dksX0_sameBy_6 22 rfl rfl
theorem dksX0_sameBy_8 : cX0_sameBy.data.toList.drop 186 = dktX0_sameBy_8 := dk_seg dksX0_sameBy_7 22 rfl rfl
theorem dksX0_sameBy_9 : cX0_sameBy.data.toList.drop 209 = dktX0_sameBy_9 := dk_seg dksX0_sameBy_8 23 rfl rfl
theorem dksX0_sameBy_10 : cX0_sameBy.data.toList.drop 233 = dktX0_sameBy_10 := dk_seg dksX0_sameBy_9 24 rfl rfl
theorem dksX0_sameBy_11 : cX0_sameBy.data.toList.drop 257 = dktX0_sameBy_11 := dk_seg dksX0_sameBy_10 24 rfl rfl
theorem dX0_sameBy_0 : decode cX0_sameBy 0 = .ok (.aload_n 0, 1) := dk_42 (dk_at dksX0_sameBy_0 0 rfl rfl)
theorem dX0_sameBy_1 : decode cX0_sameBy 1 = .ok (.aload_n 0, 1) := dk_42 (dk_at dksX0_sameBy_0 1 rfl rfl)
theorem dX0_sameBy_2 : decode cX0_sameBy 2 = .ok (.getfield 80, 3) := dk_180 0 80 (dk_at dksX0_sameBy_0 2 rfl rfl)
theorem dX0_sameBy_5 : decode cX0_sameBy 5 = .ok (.invokevirtual 660, 3) := dk_182 2 148 (dk_at dksX0_sameBy_0 5 rfl rfl)
theorem dX0_sameBy_8 : decode cX0_sameBy 8 = .ok (.aload_n 0, 1) := dk_42 (dk_at dksX0_sameBy_0 8 rfl rfl)
theorem dX0_sameBy_9 : decode cX0_sameBy 9 = .ok (.invokevirtual 664, 3) := dk_182 2 152 (dk_at dksX0_sameBy_0 9 rfl rfl)
theorem dX0_sameBy_12 : decode cX0_sameBy 12 = .ok (.aload_n 0, 1) := dk_42 (dk_at dksX0_sameBy_0 12 rfl rfl)
theorem dX0_sameBy_13 : decode cX0_sameBy 13 = .ok (.invokevirtual 636, 3) := dk_182 2 124 (dk_at dksX0_sameBy_0 13 rfl rfl)
theorem dX0_sameBy_16 : decode cX0_sameBy 16 = .ok (.aload_n 0, 1) := dk_42 (dk_at dksX0_sameBy_0 16 rfl rfl)
theorem dX0_sameBy_17 : decode cX0_sameBy 17 = .ok (.aload_n 0, 1) := dk_42 (dk_at dksX0_sameBy_0 17 rfl rfl)
theorem dX0_sameBy_18 : decode cX0_sameBy 18 = .ok (.getfield 87, 3) := dk_180 0 87 (dk_at dksX0_sameBy_0 18 rfl rfl)
theorem dX0_sameBy_21 : decode cX0_sameBy 21 = .ok (.invokevirtual 660, 3) := dk_182 2 148 (dk_at dksX0_sameBy_0 21 rfl rfl)
theorem dX0_sameBy_24 : decode cX0_sameBy 24 = .ok (.aload_n 0, 1) := dk_42 (dk_at dksX0_sameBy_1 0 rfl rfl)
theorem dX0_sameBy_25 : decode cX0_sameBy 25 = .ok (.getfield 60, 3) := dk_180 0 60 (dk_at dksX0_sameBy_1 1 rfl rfl)
theorem dX0_sameBy_28 : decode cX0_sameBy 28 = .ok (.iconst 0, 1) := dk_3 (dk_at dksX0_sameBy_1 4 rfl rfl)
theorem dX0_sameBy_29 : decode cX0_sameBy 29 = .ok (.iaload, 1) := dk_46 (dk_at dksX0_sameBy_1 5 rfl rfl)
theorem dX0_sameBy_30 : decode cX0_sameBy 30 = .ok (.istore 4, 2) := dk_54 4 (dk_at dksX0_sameBy_1 6 rfl rfl)
theorem dX0_sameBy_32 : decode cX0_sameBy 32 = .ok (.aload_n 0, 1) := dk_42 (dk_at dksX0_sameBy_1 8 rfl rfl)
theorem dX0_sameBy_33 : decode cX0_sameBy 33 = .ok (.getfield 60, 3) := dk_180 0 60 (dk_at dksX0_sameBy_1 9 rfl rfl)
theorem dX0_sameBy_36 : decode cX0_sameBy 36 = .ok (.iconst 1, 1) := dk_4 (dk_at dksX0_sameBy_1 12 rfl rfl)
theorem dX0_sameBy_37 : decode cX0_sameBy 37 = .ok (.iaload, 1) := dk_46 (dk_at dksX0_sameBy_1 13 rfl rfl)
theorem dX0_sameBy_38 : decode cX0_sameBy 38 = .ok (.istore 5, 2) := dk_54 5 (dk_at dksX0_sameBy_1 14 rfl rfl)
theorem dX0_sameBy_40 : decode cX0_sameBy 40 = .ok (.aload_n 0, 1) := dk_42 (dk_at dksX0_sameBy_1 16 rfl rfl)
theorem dX0_sameBy_41 : decode cX0_sameBy 41 = .ok (.getfield 60, 3) := dk_180 0 60 (dk_at dksX0_sameBy_1 17 rfl rfl)
theorem dX0_sameBy_44 : decode cX0_sameBy 44 = .ok (.iconst 2, 1) := dk_5 (dk_at dksX0_sameBy_1 20 rfl rfl)
theorem dX0_sameBy_45 : decode cX0_sameBy 45 = .ok (.iaload, 1) := dk_46 (dk_at dksX0_sameBy_1 21 rfl rfl)
theorem dX0_sameBy_46 : decode cX0_sameBy 46 = .ok (.istore 6, 2) := dk_54 6 (dk_at dksX0_sameBy_1 22 rfl rfl)
theorem dX0_sameBy_48 : decode cX0_sameBy 48 = .ok (.aload_n 0, 1) := dk_42 (dk_at dksX0_sameBy_2 0 rfl rfl)
theorem dX0_sameBy_49 : decode cX0_sameBy 49 = .ok (.getfield 557, 3) := dk_180 2 45 (dk_at dksX0_sameBy_2 1 rfl rfl)
theorem dX0_sameBy_52 : decode cX0_sameBy 52 = .ok (.istore 7, 2) := dk_54 7 (dk_at dksX0_sameBy_2 4 rfl rfl)
theorem dX0_sameBy_54 : decode cX0_sameBy 54 = .ok (.aload_n 0, 1) := dk_42 (dk_at dksX0_sameBy_2 6 rfl rfl)
theorem dX0_sameBy_55 : decode cX0_sameBy 55 = .ok (.invokevirtual 667, 3) := dk_182 2 155 (dk_at dksX0_sameBy_2 7 rfl rfl)
theorem dX0_sameBy_58 : decode cX0_sameBy 58 = .ok (.aload_n 0, 1) := dk_42 (dk_at dksX0_sameBy_2 10 rfl rfl)
theorem dX0_sameBy_59 : decode cX0_sameBy 59 = .ok (.iload_n 1, 1) := dk_27 (dk_at dksX0_sameBy_2 11 rfl rfl)
theorem dX0_sameBy_60 : decode cX0_sameBy 60 = .ok (.iload_n 2, 1) := dk_28 (dk_at dksX0_sameBy_2 12 rfl rfl)
theorem dX0_sameBy_61 : decode cX0_sameBy 61 = .ok (.iload_n 3, 1) := dk_29 (dk_at dksX0_sameBy_2 13 rfl rfl)
theorem dX0_sameBy_62 : decode cX0_sameBy 62 = .ok (.invokevirtual 657, 3) := dk_182 2 145 (dk_at dksX0_sameBy_2 14 rfl rfl)
theorem dX0_sameBy_65 : decode cX0_sameBy 65 = .ok (.aload_n 0, 1) := dk_42 (dk_at dksX0_sameBy_2 17 rfl rfl)
theorem dX0_sameBy_66 : decode cX0_sameBy 66 = .ok (.invokevirtual 670, 3) := dk_182 2 158 (dk_at dksX0_sameBy_2 18 rfl rfl)
theorem dX0_sameBy_69 : decode cX0_sameBy 69 = .ok (.ifCond .eq 49, 3) := dk_153 0 49 (dk_at dksX0_sameBy_2 21 rfl rfl)
theorem dX0_sameBy_72 : decode cX0_sameBy 72 = .ok (.iload 4, 2) := dk_21 4 (dk_at dksX0_sameBy_3 0 rfl rfl)
theorem dX0_sameBy_74 : decode cX0_sameBy 74 = .ok (.aload_n 0, 1) := dk_42 (dk_at dksX0_sameBy_3 2 rfl rfl)
theorem dX0_sameBy_75 : decode cX0_sameBy 75 = .ok (.getfield 60, 3) := dk_180 0 60 (dk_at dksX0_sameBy_3 3 rfl rfl)
theorem dX0_sameBy_78 : decode cX0_sameBy 78 = .ok (.iconst 0, 1) := dk_3 (dk_at dksX0_sameBy_3 6 rfl rfl)
theorem dX0_sameBy_79 : decode cX0_sameBy 79 = .ok (.iaload, 1) := dk_46 (dk_at dksX0_sameBy_3 7 rfl rfl)
theorem dX0_sameBy_80 : decode cX0_sameBy 80 = .ok (.if_icmp .ne 38, 3) := dk_160 0 38 (dk_at dksX0_sameBy_3 8 rfl rfl)
theorem dX0_sameBy_83 : decode cX0_sameBy 83 = .ok (.iload 5, 2) := dk_21 5 (dk_at dksX0_sameBy_3 11 rfl rfl)
theorem dX0_sameBy_85 : decode cX0_sameBy 85 = .ok (.aload_n 0, 1) := dk_42 (dk_at dksX0_sameBy_3 13 rfl rfl)
theorem dX0_sameBy_86 : decode cX0_sameBy 86 = .ok (.getfield 60, 3) := dk_180 0 60 (dk_at dksX0_sameBy_3 14 rfl rfl)
theorem dX0_sameBy_89 : decode cX0_sameBy 89 = .ok (.iconst 1, 1) := dk_4 (dk_at dksX0_sameBy_3 17 rfl rfl)
theorem dX0_sameBy_90 : decode cX0_sameBy 90 = .ok (.iaload, 1) := dk_46 (dk_at dksX0_sameBy_3 18 rfl rfl)
theorem dX0_sameBy_91 : decode cX0_sameBy 91 = .ok (.if_icmp .ne 27, 3) := dk_160 0 27 (dk_at dksX0_sameBy_3 19 rfl rfl)
theorem dX0_sameBy_94 : decode cX0_sameBy 94 = .ok (.iload 6, 2) := dk_21 6 (dk_at dksX0_sameBy_3 22 rfl rfl)
theorem dX0_sameBy_96 : decode cX0_sameBy 96 = .ok (.aload_n 0, 1) := dk_42 (dk_at dksX0_sameBy_4 0 rfl rfl)
theorem dX0_sameBy_97 : decode cX0_sameBy 97 = .ok (.getfield 60, 3) := dk_180 0 60 (dk_at dksX0_sameBy_4 1 rfl rfl)
theorem dX0_sameBy_100 : decode cX0_sameBy 100 = .ok (.iconst 2, 1) := dk_5 (dk_at dksX0_sameBy_4 4 rfl rfl)
theorem dX0_sameBy_101 : decode cX0_sameBy 101 = .ok (.iaload, 1) := dk_46 (dk_at dksX0_sameBy_4 5 rfl rfl)
theorem dX0_sameBy_102 : decode cX0_sameBy 102 = .ok (.if_icmp .ne 16, 3) := dk_160 0 16 (dk_at dksX0_sameBy_4 6 rfl rfl)
theorem dX0_sameBy_105 : decode cX0_sameBy 105 = .ok (.iload 7, 2) := dk_21 7 (dk_at dksX0_sameBy_4 9 rfl rfl)
theorem dX0_sameBy_107 : decode cX0_sameBy 107 = .ok (.aload_n 0, 1) := dk_42 (dk_at dksX0_sameBy_4 11 rfl rfl)
theorem dX0_sameBy_108 : decode cX0_sameBy 108 = .ok (.getfield 557, 3) := dk_180 2 45 (dk_at dksX0_sameBy_4 12 rfl rfl)
theorem dX0_sameBy_111 : decode cX0_sameBy 111 = .ok (.if_icmp .ne 7, 3) := dk_160 0 7 (dk_at dksX0_sameBy_4 15 rfl rfl)
theorem dX0_sameBy_114 : decode cX0_sameBy 114 = .ok (.iconst 1, 1) := dk_4 (dk_at dksX0_sameBy_4 18 rfl rfl)
theorem dX0_sameBy_115 : decode cX0_sameBy 115 = .ok (.goto 4, 3) := dk_167 0 4 (dk_at dksX0_sameBy_4 19 rfl rfl)
theorem dX0_sameBy_118 : decode cX0_sameBy 118 = .ok (.iconst 0, 1) := dk_3 (dk_at dksX0_sameBy_4 22 rfl rfl)
theorem dX0_sameBy_119 : decode cX0_sameBy 119 = .ok (.istore 8, 2) := dk_54 8 (dk_at dksX0_sameBy_5 0 rfl rfl)
theorem dX0_sameBy_121 : decode cX0_sameBy 121 = .ok (.aload_n 0, 1) := dk_42 (dk_at dksX0_sameBy_5 2 rfl rfl)
theorem dX0_sameBy_122 : decode cX0_sameBy 122 = .ok (.invokevirtual 667, 3) := dk_182 2 155 (dk_at dksX0_sameBy_5 3 rfl rfl)
theorem dX0_sameBy_125 : decode cX0_sameBy 125 = .ok (.iconst 0, 1) := dk_3 (dk_at dksX0_sameBy_5 6 rfl rfl)
theorem dX0_sameBy_126 : decode cX0_sameBy 126 = .ok (.istore 9, 2) := dk_54 9 (dk_at dksX0_sameBy_5 7 rfl rfl)
theorem dX0_sameBy_128 : decode cX0_sameBy 128 = .ok (.iload 9, 2) := dk_21 9 (dk_at dksX0_sameBy_5 9 rfl rfl)
theorem dX0_sameBy_130 : decode cX0_sameBy 130 = .ok (.bipush 6, 2) := dk_16 6 (dk_at dksX0_sameBy_5 11 rfl rfl)
theorem dX0_sameBy_132 : decode cX0_sameBy 132 = .ok (.if_icmp .ge 63, 3) := dk_162 0 63 (dk_at dksX0_sameBy_5 13 rfl rfl)
theorem dX0_sameBy_135 : decode cX0_sameBy 135 = .ok (.aload_n 0, 1) := dk_42 (dk_at dksX0_sameBy_5 16 rfl rfl)
theorem dX0_sameBy_136 : decode cX0_sameBy 136 = .ok (.getfield 25, 3) := dk_180 0 25 (dk_at dksX0_sameBy_5 17 rfl rfl)
theorem dX0_sameBy_139 : decode cX0_sameBy 139 = .ok (.iload 9, 2) := dk_21 9 (dk_at dksX0_sameBy_5 20 rfl rfl)
theorem dX0_sameBy_141 : decode cX0_sameBy 141 = .ok (.aaload, 1) := dk_50 (dk_at dksX0_sameBy_5 22 rfl rfl)
theorem dX0_sameBy_142 : decode cX0_sameBy 142 = .ok (.astore 10, 2) := dk_58 10 (dk_at dksX0_sameBy_6 0 rfl rfl)
theorem dX0_sameBy_144 : decode cX0_sameBy 144 = .ok (.iconst 0, 1) := dk_3 (dk_at dksX0_sameBy_6 2 rfl rfl)
theorem dX0_sameBy_145 : decode cX0_sameBy 145 = .ok (.istore 11, 2) := dk_54 11 (dk_at dksX0_sameBy_6 3 rfl rfl)
theorem dX0_sameBy_147 : decode cX0_sameBy 147 = .ok (.aload 10, 2) := dk_25 10 (dk_at dksX0_sameBy_6 5 rfl rfl)
theorem dX0_sameBy_149 : decode cX0_sameBy 149 = .ok (.ifnull 40, 3) := dk_198 0 40 (dk_at dksX0_sameBy_6 7 rfl rfl)
theorem dX0_sameBy_152 : decode cX0_sameBy 152 = .ok (.iload 11, 2) := dk_21 11 (dk_at dksX0_sameBy_6 10 rfl rfl)
theorem dX0_sameBy_154 : decode cX0_sameBy 154 = .ok (.aload 10, 2) := dk_25 10 (dk_at dksX0_sameBy_6 12 rfl rfl)
theorem dX0_sameBy_156 : decode cX0_sameBy 156 = .ok (.getfield 121, 3) := dk_180 0 121 (dk_at dksX0_sameBy_6 14 rfl rfl)
theorem dX0_sameBy_159 : decode cX0_sameBy 159 = .ok (.if_icmp .ge 30, 3) := dk_162 0 30 (dk_at dksX0_sameBy_6 17 rfl rfl)
theorem dX0_sameBy_162 : decode cX0_sameBy 162 = .ok (.aload 10, 2) := dk_25 10 (dk_at dksX0_sameBy_6 20 rfl rfl)
theorem dX0_sameBy_164 : decode cX0_sameBy 164 = .ok (.getfield 551, 3) := dk_180 2 39 (dk_at dksX0_sameBy_7 0 rfl rfl)
theorem dX0_sameBy_167 : decode cX0_sameBy 167 = .ok (.iload 11, 2) := dk_21 11 (dk_at dksX0_sameBy_7 3 rfl rfl)
theorem dX0_sameBy_169 : decode cX0_sameBy 169 = .ok (.aload_n 0, 1) := dk_42 (dk_at dksX0_sameBy_7 5 rfl rfl)
theorem dX0_sameBy_170 : decode cX0_sameBy 170 = .ok (.getfield 84, 3) := dk_180 0 84 (dk_at dksX0_sameBy_7 6 rfl rfl)
theorem dX0_sameBy_173 : decode cX0_sameBy 173 = .ok (.bipush 24, 2) := dk_16 24 (dk_at dksX0_sameBy_7 9 rfl rfl)
theorem dX0_sameBy_175 : decode cX0_sameBy 175 = .ok (.iload 9, 2) := dk_21 9 (dk_at dksX0_sameBy_7 11 rfl rfl)
theorem dX0_sameBy_177 : decode cX0_sameBy 177 = .ok (.imul, 1) := dk_104 (dk_at dksX0_sameBy_7 13 rfl rfl)
theorem dX0_sameBy_178 : decode cX0_sameBy 178 = .ok (.iload 11, 2) := dk_21 11 (dk_at dksX0_sameBy_7 14 rfl rfl)
theorem dX0_sameBy_180 : decode cX0_sameBy 180 = .ok (.iadd, 1) := dk_96 (dk_at dksX0_sameBy_7 16 rfl rfl)
theorem dX0_sameBy_181 : decode cX0_sameBy 181 = .ok (.iaload, 1) := dk_46 (dk_at dksX0_sameBy_7 17 rfl rfl)
theorem dX0_sameBy_182 : decode cX0_sameBy 182 = .ok (.iastore, 1) := dk_79 (dk_at dksX0_sameBy_7 18 rfl rfl)
theorem dX0_sameBy_183 : decode cX0_sameBy 183 = .ok (.iinc 11 1, 3) := dk_132 11 1 (dk_at dksX0_sameBy_7 19 rfl rfl)
theorem dX0_sameBy_186 : decode cX0_sameBy 186 = .ok (.goto (-39), 3) := dk_167 255 217 (dk_at dksX0_sameBy_8 0 rfl rfl)
theorem dX0_sameBy_189 : decode cX0_sameBy 189 = .ok (.iinc 9 1, 3) := dk_132 9 1 (dk_at dksX0_sameBy_8 3 rfl rfl)
theorem dX0_sameBy_192 : decode cX0_sameBy 192 = .ok (.goto (-64), 3) := dk_167 255 192 (dk_at dksX0_sameBy_8 6 rfl rfl)
theorem dX0_sameBy_195 : decode cX0_sameBy 195 = .ok (.iload 8, 2) := dk_21 8 (dk_at dksX0_sameBy_8 9 rfl rfl)
theorem dX0_sameBy_197 : decode cX0_sameBy 197 = .ok (.ireturn, 1) := dk_172 (dk_at dksX0_sameBy_8 11 rfl rfl)
theorem dX0_sameBy_198 : decode cX0_sameBy 198 = .ok (.astore 12, 2) := dk_58 12 (dk_at dksX0_sameBy_8 12 rfl rfl)
theorem dX0_sameBy_200 : decode cX0_sameBy 200 = .ok (.aload_n 0, 1) := dk_42 (dk_at dksX0_sameBy_8 14 rfl rfl)
theorem dX0_sameBy_201 : decode cX0_sameBy 201 = .ok (.invokevirtual 667, 3) := dk_182 2 155 (dk_at dksX0_sameBy_8 15 rfl rfl)
theorem dX0_sameBy_204 : decode cX0_sameBy 204 = .ok (.iconst 0, 1) := dk_3 (dk_at dksX0_sameBy_8 18 rfl rfl)
theorem dX0_sameBy_205 : decode cX0_sameBy 205 = .ok (.istore 13, 2) := dk_54 13 (dk_at dksX0_sameBy_8 19 rfl rfl)
theorem dX0_sameBy_207 : decode cX0_sameBy 207 = .ok (.iload 13, 2) := dk_21 13 (dk_at dksX0_sameBy_8 21 rfl rfl)
theorem dX0_sameBy_209 : decode cX0_sameBy 209 = .ok (.bipush 6, 2) := dk_16 6 (dk_at dksX0_sameBy_9 0 rfl rfl)
theorem dX0_sameBy_211 : decode cX0_sameBy 211 = .ok (.if_icmp .ge 63, 3) := dk_162 0 63 (dk_at dksX0_sameBy_9 2 rfl rfl)
theorem dX0_sameBy_214 : decode cX0_sameBy 214 = .ok (.aload_n 0, 1) := dk_42 (dk_at dksX0_sameBy_9 5 rfl rfl)
theorem dX0_sameBy_215 : decode cX0_sameBy 215 = .ok (.getfield 25, 3) := dk_180 0 25 (dk_at dksX0_sameBy_9 6 rfl rfl)
theorem dX0_sameBy_218 : decode cX0_sameBy 218 = .ok (.iload 13, 2) := dk_21 13 (dk_at dksX0_sameBy_9 9 rfl rfl)
theorem dX0_sameBy_220 : decode cX0_sameBy 220 = .ok (.aaload, 1) := dk_50 (dk_at dksX0_sameBy_9 11 rfl rfl)
theorem dX0_sameBy_221 : decode cX0_sameBy 221 = .ok (.astore 14, 2) := dk_58 14 (dk_at dksX0_sameBy_9 12 rfl rfl)
theorem dX0_sameBy_223 : decode cX0_sameBy 223 = .ok (.iconst 0, 1) := dk_3 (dk_at dksX0_sameBy_9 14 rfl rfl)
theorem dX0_sameBy_224 : decode cX0_sameBy 224 = .ok (.istore 15, 2) := dk_54 15 (dk_at dksX0_sameBy_9 15 rfl rfl)
theorem dX0_sameBy_226 : decode cX0_sameBy 226 = .ok (.aload 14, 2) := dk_25 14 (dk_at dksX0_sameBy_9 17 rfl rfl)
theorem dX0_sameBy_228 : decode cX0_sameBy 228 = .ok (.ifnull 40, 3) := dk_198 0 40 (dk_at dksX0_sameBy_9 19 rfl rfl)
theorem dX0_sameBy_231 : decode cX0_sameBy 231 = .ok (.iload 15, 2) := dk_21 15 (dk_at dksX0_sameBy_9 22 rfl rfl)
theorem dX0_sameBy_233 : decode cX0_sameBy 233 = .ok (.aload 14, 2) := dk_25 14 (dk_at dksX0_sameBy_10 0 rfl rfl)
theorem dX0_sameBy_235 : decode cX0_sameBy 235 = .ok (.getfield 121, 3) := dk_180 0 121 (dk_at dksX0_sameBy_10 2 rfl rfl)
theorem dX0_sameBy_238 : decode cX0_sameBy 238 = .ok (.if_icmp .ge 30, 3) := dk_162 0 30 (dk_at dksX0_sameBy_10 5 rfl rfl)
theorem dX0_sameBy_241 : decode cX0_sameBy 241 = .ok (.aload 14, 2) := dk_25 14 (dk_at dksX0_sameBy_10 8 rfl rfl)
theorem dX0_sameBy_243 : decode cX0_sameBy 243 = .ok (.getfield 551, 3) := dk_180 2 39 (dk_at dksX0_sameBy_10 10 rfl rfl)
theorem dX0_sameBy_246 : decode cX0_sameBy 246 = .ok (.iload 15, 2) := dk_21 15 (dk_at dksX0_sameBy_10 13 rfl rfl)
theorem dX0_sameBy_248 : decode cX0_sameBy 248 = .ok (.aload_n 0, 1) := dk_42 (dk_at dksX0_sameBy_10 15 rfl rfl)
theorem dX0_sameBy_249 : decode cX0_sameBy 249 = .ok (.getfield 84, 3) := dk_180 0 84 (dk_at dksX0_sameBy_10 16 rfl rfl)
theorem dX0_sameBy_252 : decode cX0_sameBy 252 = .ok (.bipush 24, 2) := dk_16 24 (dk_at dksX0_sameBy_10 19 rfl rfl)
theorem dX0_sameBy_254 : decode cX0_sameBy 254 = .ok (.iload 13, 2) := dk_21 13 (dk_at dksX0_sameBy_10 21 rfl rfl)
theorem dX0_sameBy_256 : decode cX0_sameBy 256 = .ok (.imul, 1) := dk_104 (dk_at dksX0_sameBy_10 23 rfl rfl)
theorem dX0_sameBy_257 : decode cX0_sameBy 257 = .ok (.iload 15, 2) := dk_21 15 (dk_at dksX0_sameBy_11 0 rfl rfl)
theorem dX0_sameBy_259 : decode cX0_sameBy 259 = .ok (.iadd, 1) := dk_96 (dk_at dksX0_sameBy_11 2 rfl rfl)
theorem dX0_sameBy_260 : decode cX0_sameBy 260 = .ok (.iaload, 1) := dk_46 (dk_at dksX0_sameBy_11 3 rfl rfl)
theorem dX0_sameBy_261 : decode cX0_sameBy 261 = .ok (.iastore, 1) := dk_79 (dk_at dksX0_sameBy_11 4 rfl rfl)
theorem dX0_sameBy_262 : decode cX0_sameBy 262 = .ok (.iinc 15 1, 3) := dk_132 15 1 (dk_at dksX0_sameBy_11 5 rfl rfl)
theorem dX0_sameBy_265 : decode cX0_sameBy 265 = .ok (.goto (-39), 3) := dk_167 255 217 (dk_at dksX0_sameBy_11 8 rfl rfl)
theorem dX0_sameBy_268 : decode cX0_sameBy 268 = .ok (.iinc 13 1, 3) := dk_132 13 1 (dk_at dksX0_sameBy_11 11 rfl rfl)
theorem dX0_sameBy_271 : decode cX0_sameBy 271 = .ok (.goto (-64), 3) := dk_167 255 192 (dk_at dksX0_sameBy_11 14 rfl rfl)
theorem dX0_sameBy_274 : decode cX0_sameBy 274 = .ok (.aload 12, 2) := dk_25 12 (dk_at dksX0_sameBy_11 17 rfl rfl)
theorem dX0_sameBy_276 : decode cX0_sameBy 276 = .ok (.athrow, 1) := dk_191 (dk_at dksX0_sameBy_11 19 rfl rfl)
abbrev cX0_keeps : ByteArray := prog_1_method_84_code
def yX0_keeps : MethodName := ⟨RX0, "keeps", "([D)V"⟩
def dkwX0_keeps_2 : List UInt8 := [167, 255, 225, 132, 2, 1, 167, 255, 204, 177]
abbrev dktX0_keeps_2 : List UInt8 := dkwX0_keeps_2 ++ []
def dkwX0_keeps_1 : List UInt8 := [180, 0, 121, 162, 0, 24, 43, 16, 24, 28, 104, 21, 4, 96, 45, 21, 4, 182, 2, 103, 82, 132, 4, 1]
abbrev dktX0_keeps_1 : List UInt8 := dkwX0_keeps_1 ++ dktX0_keeps_2
def dkwX0_keeps_0 : List UInt8 := [3, 61, 28, 16, 6, 162, 0, 52, 42, 28, 182, 1, 135, 78, 3, 54, 4, 45, 198, 0, 33, 21, 4, 45]
abbrev dktX0_keeps_0 : List UInt8 := dkwX0_keeps_0 ++ dktX0_keeps_1
theorem dksX0_keeps_0 : cX0_keeps.data.toList.drop 0 = dktX0_keeps_0 := by decide +kernel
theorem dksX0_keeps_1 : cX0_keeps.data.toList.drop 24 = dktX0_keeps_1 := dk_seg dksX0_keeps_0 24 rfl rfl
theorem dksX0_keeps_2 : cX0_keeps.data.toList.drop 48 = dktX0_keeps_2 := dk_seg dksX0_keeps_1 24 rfl rfl
theorem dX0_keeps_0 : decode cX0_keeps 0 = .ok (.iconst 0, 1) := dk_3 (dk_at dksX0_keeps_0 0 rfl rfl)
theorem dX0_keeps_1 : decode cX0_keeps 1 = .ok (.istore_n 2, 1) := dk_61 (dk_at dksX0_keeps_0 1 rfl rfl)
theorem dX0_keeps_2 : decode cX0_keeps 2 = .ok (.iload_n 2, 1) := dk_28 (dk_at dksX0_keeps_0 2 rfl rfl)
theorem dX0_keeps_3 : decode cX0_keeps 3 = .ok (.bipush 6, 2) := dk_16 6 (dk_at dksX0_keeps_0 3 rfl rfl)
theorem dX0_keeps_5 : decode cX0_keeps 5 = .ok (.if_icmp .ge 52, 3) := dk_162 0 52 (dk_at dksX0_keeps_0 5 rfl rfl)
theorem dX0_keeps_8 : decode cX0_keeps 8 = .ok (.aload_n 0, 1) := dk_42 (dk_at dksX0_keeps_0 8 rfl rfl)
theorem dX0_keeps_9 : decode cX0_keeps 9 = .ok (.iload_n 2, 1) := dk_28 (dk_at dksX0_keeps_0 9 rfl rfl)
theorem dX0_keeps_10 : decode cX0_keeps 10 = .ok (.invokevirtual 391, 3) := dk_182 1 135 (dk_at dksX0_keeps_0 10 rfl rfl)
theorem dX0_keeps_13 : decode cX0_keeps 13 = .ok (.astore_n 3, 1) := dk_78 (dk_at dksX0_keeps_0 13 rfl rfl)
theorem dX0_keeps_14 : decode cX0_keeps 14 = .ok (.iconst 0, 1) := dk_3 (dk_at dksX0_keeps_0 14 rfl rfl)
theorem dX0_keeps_15 : decode cX0_keeps 15 = .ok (.istore 4, 2) := dk_54 4 (dk_at dksX0_keeps_0 15 rfl rfl)
theorem dX0_keeps_17 : decode cX0_keeps 17 = .ok (.aload_n 3, 1) := dk_45 (dk_at dksX0_keeps_0 17 rfl rfl)
theorem dX0_keeps_18 : decode cX0_keeps 18 = .ok (.ifnull 33, 3) := dk_198 0 33 (dk_at dksX0_keeps_0 18 rfl rfl)
theorem dX0_keeps_21 : decode cX0_keeps 21 = .ok (.iload 4, 2) := dk_21 4 (dk_at dksX0_keeps_0 21 rfl rfl)
theorem dX0_keeps_23 : decode cX0_keeps 23 = .ok (.aload_n 3, 1) := dk_45 (dk_at dksX0_keeps_0 23 rfl rfl)
theorem dX0_keeps_24 : decode cX0_keeps 24 = .ok (.getfield 121, 3) := dk_180 0 121 (dk_at dksX0_keeps_1 0 rfl rfl)
theorem dX0_keeps_27 : decode cX0_keeps 27 = .ok (.if_icmp .ge 24, 3) := dk_162 0 24 (dk_at dksX0_keeps_1 3 rfl rfl)
theorem dX0_keeps_30 : decode cX0_keeps 30 = .ok (.aload_n 1, 1) := dk_43 (dk_at dksX0_keeps_1 6 rfl rfl)
theorem dX0_keeps_31 : decode cX0_keeps 31 = .ok (.bipush 24, 2) := dk_16 24 (dk_at dksX0_keeps_1 7 rfl rfl)
theorem dX0_keeps_33 : decode cX0_keeps 33 = .ok (.iload_n 2, 1) := dk_28 (dk_at dksX0_keeps_1 9 rfl rfl)
theorem dX0_keeps_34 : decode cX0_keeps 34 = .ok (.imul, 1) := dk_104 (dk_at dksX0_keeps_1 10 rfl rfl)
theorem dX0_keeps_35 : decode cX0_keeps 35 = .ok (.iload 4, 2) := dk_21 4 (dk_at dksX0_keeps_1 11 rfl rfl)
theorem dX0_keeps_37 : decode cX0_keeps 37 = .ok (.iadd, 1) := dk_96 (dk_at dksX0_keeps_1 13 rfl rfl)
theorem dX0_keeps_38 : decode cX0_keeps 38 = .ok (.aload_n 3, 1) := dk_45 (dk_at dksX0_keeps_1 14 rfl rfl)
theorem dX0_keeps_39 : decode cX0_keeps 39 = .ok (.iload 4, 2) := dk_21 4 (dk_at dksX0_keeps_1 15 rfl rfl)
theorem dX0_keeps_41 : decode cX0_keeps 41 = .ok (.invokevirtual 615, 3) := dk_182 2 103 (dk_at dksX0_keeps_1 17 rfl rfl)
theorem dX0_keeps_44 : decode cX0_keeps 44 = .ok (.dastore, 1) := dk_82 (dk_at dksX0_keeps_1 20 rfl rfl)
theorem dX0_keeps_45 : decode cX0_keeps 45 = .ok (.iinc 4 1, 3) := dk_132 4 1 (dk_at dksX0_keeps_1 21 rfl rfl)
theorem dX0_keeps_48 : decode cX0_keeps 48 = .ok (.goto (-31), 3) := dk_167 255 225 (dk_at dksX0_keeps_2 0 rfl rfl)
theorem dX0_keeps_51 : decode cX0_keeps 51 = .ok (.iinc 2 1, 3) := dk_132 2 1 (dk_at dksX0_keeps_2 3 rfl rfl)
theorem dX0_keeps_54 : decode cX0_keeps 54 = .ok (.goto (-52), 3) := dk_167 255 204 (dk_at dksX0_keeps_2 6 rfl rfl)
theorem dX0_keeps_57 : decode cX0_keeps 57 = .ok (.return_, 1) := dk_177 (dk_at dksX0_keeps_2 9 rfl rfl)
abbrev cX0_keepsWriters : ByteArray := prog_1_method_85_code
def yX0_keepsWriters : MethodName := ⟨RX0, "keepsWriters", "()V"⟩
def dkwX0_keepsWriters_2 : List UInt8 := [132, 3, 1, 167, 255, 224, 132, 1, 1, 167, 255, 203, 177]
abbrev dktX0_keepsWriters_2 : List UInt8 := dkwX0_keepsWriters_2 ++ []
def dkwX0_keepsWriters_1 : List UInt8 := [180, 0, 121, 162, 0, 26, 42, 180, 0, 84, 16, 24, 27, 104, 29, 96, 44, 180, 2, 39, 29, 46, 79]
abbrev dktX0_keepsWriters_1 : List UInt8 := dkwX0_keepsWriters_1 ++ dktX0_keepsWriters_2
def dkwX0_keepsWriters_0 : List UInt8 := [3, 60, 27, 16, 6, 162, 0, 53, 42, 180, 0, 25, 27, 50, 77, 3, 62, 44, 198, 0, 34, 29, 44]
abbrev dktX0_keepsWriters_0 : List UInt8 := dkwX0_keepsWriters_0 ++ dktX0_keepsWriters_1
theorem dksX0_keepsWriters_0 : cX0_keepsWriters.data.toList.drop 0 = dktX0_keepsWriters_0 := by decide +kernel
theorem dksX0_keepsWriters_1 : cX0_keepsWriters.data.toList.drop 23 = dktX0_keepsWriters_1 := dk_seg dksX0_keepsWriters_0 23 rfl rfl
theorem dksX0_keepsWriters_2 : cX0_keepsWriters.data.toList.drop 46 = dktX0_keepsWriters_2 := dk_seg dksX0_keepsWriters_1 23 rfl rfl
theorem dX0_keepsWriters_0 : decode cX0_keepsWriters 0 = .ok (.iconst 0, 1) := dk_3 (dk_at dksX0_keepsWriters_0 0 rfl rfl)
theorem dX0_keepsWriters_1 : decode cX0_keepsWriters 1 = .ok (.istore_n 1, 1) := dk_60 (dk_at dksX0_keepsWriters_0 1 rfl rfl)
theorem dX0_keepsWriters_2 : decode cX0_keepsWriters 2 = .ok (.iload_n 1, 1) := dk_27 (dk_at dksX0_keepsWriters_0 2 rfl rfl)
theorem dX0_keepsWriters_3 : decode cX0_keepsWriters 3 = .ok (.bipush 6, 2) := dk_16 6 (dk_at dksX0_keepsWriters_0 3 rfl rfl)
theorem dX0_keepsWriters_5 : decode cX0_keepsWriters 5 = .ok (.if_icmp .ge 53, 3) := dk_162 0 53 (dk_at dksX0_keepsWriters_0 5 rfl rfl)
theorem dX0_keepsWriters_8 : decode cX0_keepsWriters 8 = .ok (.aload_n 0, 1) := dk_42 (dk_at dksX0_keepsWriters_0 8 rfl rfl)
theorem dX0_keepsWriters_9 : decode cX0_keepsWriters 9 = .ok (.getfield 25, 3) := dk_180 0 25 (dk_at dksX0_keepsWriters_0 9 rfl rfl)
theorem dX0_keepsWriters_12 : decode cX0_keepsWriters 12 = .ok (.iload_n 1, 1) := dk_27 (dk_at dksX0_keepsWriters_0 12 rfl rfl)
theorem dX0_keepsWriters_13 : decode cX0_keepsWriters 13 = .ok (.aaload, 1) := dk_50 (dk_at dksX0_keepsWriters_0 13 rfl rfl)
theorem dX0_keepsWriters_14 : decode cX0_keepsWriters 14 = .ok (.astore_n 2, 1) := dk_77 (dk_at dksX0_keepsWriters_0 14 rfl rfl)
theorem dX0_keepsWriters_15 : decode cX0_keepsWriters 15 = .ok (.iconst 0, 1) := dk_3 (dk_at dksX0_keepsWriters_0 15 rfl rfl)
theorem dX0_keepsWriters_16 : decode cX0_keepsWriters 16 = .ok (.istore_n 3, 1) := dk_62 (dk_at dksX0_keepsWriters_0 16 rfl rfl)
theorem dX0_keepsWriters_17 : decode cX0_keepsWriters 17 = .ok (.aload_n 2, 1) := dk_44 (dk_at dksX0_keepsWriters_0 17 rfl rfl)
theorem dX0_keepsWriters_18 : decode cX0_keepsWriters 18 = .ok (.ifnull 34, 3) := dk_198 0 34 (dk_at dksX0_keepsWriters_0 18 rfl rfl)
theorem dX0_keepsWriters_21 : decode cX0_keepsWriters 21 = .ok (.iload_n 3, 1) := dk_29 (dk_at dksX0_keepsWriters_0 21 rfl rfl)
theorem dX0_keepsWriters_22 : decode cX0_keepsWriters 22 = .ok (.aload_n 2, 1) := dk_44 (dk_at dksX0_keepsWriters_0 22 rfl rfl)
theorem dX0_keepsWriters_23 : decode cX0_keepsWriters 23 = .ok (.getfield 121, 3) := dk_180 0 121 (dk_at dksX0_keepsWriters_1 0 rfl rfl)
theorem dX0_keepsWriters_26 : decode cX0_keepsWriters 26 = .ok (.if_icmp .ge 26, 3) := dk_162 0 26 (dk_at dksX0_keepsWriters_1 3 rfl rfl)
theorem dX0_keepsWriters_29 : decode cX0_keepsWriters 29 = .ok (.aload_n 0, 1) := dk_42 (dk_at dksX0_keepsWriters_1 6 rfl rfl)
theorem dX0_keepsWriters_30 : decode cX0_keepsWriters 30 = .ok (.getfield 84, 3) := dk_180 0 84 (dk_at dksX0_keepsWriters_1 7 rfl rfl)
theorem dX0_keepsWriters_33 : decode cX0_keepsWriters 33 = .ok (.bipush 24, 2) := dk_16 24 (dk_at dksX0_keepsWriters_1 10 rfl rfl)
theorem dX0_keepsWriters_35 : decode cX0_keepsWriters 35 = .ok (.iload_n 1, 1) := dk_27 (dk_at dksX0_keepsWriters_1 12 rfl rfl)
theorem dX0_keepsWriters_36 : decode cX0_keepsWriters 36 = .ok (.imul, 1) := dk_104 (dk_at dksX0_keepsWriters_1 13 rfl rfl)
theorem dX0_keepsWriters_37 : decode cX0_keepsWriters 37 = .ok (.iload_n 3, 1) := dk_29 (dk_at dksX0_keepsWriters_1 14 rfl rfl)
theorem dX0_keepsWriters_38 : decode cX0_keepsWriters 38 = .ok (.iadd, 1) := dk_96 (dk_at dksX0_keepsWriters_1 15 rfl rfl)
theorem dX0_keepsWriters_39 : decode cX0_keepsWriters 39 = .ok (.aload_n 2, 1) := dk_44 (dk_at dksX0_keepsWriters_1 16 rfl rfl)
theorem dX0_keepsWriters_40 : decode cX0_keepsWriters 40 = .ok (.getfield 551, 3) := dk_180 2 39 (dk_at dksX0_keepsWriters_1 17 rfl rfl)
theorem dX0_keepsWriters_43 : decode cX0_keepsWriters 43 = .ok (.iload_n 3, 1) := dk_29 (dk_at dksX0_keepsWriters_1 20 rfl rfl)
theorem dX0_keepsWriters_44 : decode cX0_keepsWriters 44 = .ok (.iaload, 1) := dk_46 (dk_at dksX0_keepsWriters_1 21 rfl rfl)
theorem dX0_keepsWriters_45 : decode cX0_keepsWriters 45 = .ok (.iastore, 1) := dk_79 (dk_at dksX0_keepsWriters_1 22 rfl rfl)
theorem dX0_keepsWriters_46 : decode cX0_keepsWriters 46 = .ok (.iinc 3 1, 3) := dk_132 3 1 (dk_at dksX0_keepsWriters_2 0 rfl rfl)
theorem dX0_keepsWriters_49 : decode cX0_keepsWriters 49 = .ok (.goto (-32), 3) := dk_167 255 224 (dk_at dksX0_keepsWriters_2 3 rfl rfl)
theorem dX0_keepsWriters_52 : decode cX0_keepsWriters 52 = .ok (.iinc 1 1, 3) := dk_132 1 1 (dk_at dksX0_keepsWriters_2 6 rfl rfl)
theorem dX0_keepsWriters_55 : decode cX0_keepsWriters 55 = .ok (.goto (-53), 3) := dk_167 255 203 (dk_at dksX0_keepsWriters_2 9 rfl rfl)
theorem dX0_keepsWriters_58 : decode cX0_keepsWriters 58 = .ok (.return_, 1) := dk_177 (dk_at dksX0_keepsWriters_2 12 rfl rfl)
abbrev cX0_takesBack : ByteArray := prog_1_method_86_code
def yX0_takesBack : MethodName := ⟨RX0, "takesBack", "()V"⟩
def dkwX0_takesBack_2 : List UInt8 := [132, 3, 1, 167, 255, 225, 132, 1, 1, 167, 255, 205, 177]
abbrev dktX0_takesBack_2 : List UInt8 := dkwX0_takesBack_2 ++ []
def dkwX0_takesBack_1 : List UInt8 := [180, 0, 121, 162, 0, 25, 44, 29, 42, 180, 0, 80, 16, 24, 27, 104, 29, 96, 49, 182, 2, 114]
abbrev dktX0_takesBack_1 : List UInt8 := dkwX0_takesBack_1 ++ dktX0_takesBack_2
def dkwX0_takesBack_0 : List UInt8 := [3, 60, 27, 16, 6, 162, 0, 51, 42, 27, 182, 1, 135, 77, 3, 62, 44, 198, 0, 33, 29, 44]
abbrev dktX0_takesBack_0 : List UInt8 := dkwX0_takesBack_0 ++ dktX0_takesBack_1
theorem dksX0_takesBack_0 : cX0_takesBack.data.toList.drop 0 = dktX0_takesBack_0 := by decide +kernel
theorem dksX0_takesBack_1 : cX0_takesBack.data.toList.drop 22 = dktX0_takesBack_1 := dk_seg dksX0_takesBack_0 22 rfl rfl
theorem dksX0_takesBack_2 : cX0_takesBack.data.toList.drop 44 = dktX0_takesBack_2 := dk_seg dksX0_takesBack_1 22 rfl rfl
theorem dX0_takesBack_0 : decode cX0_takesBack 0 = .ok (.iconst 0, 1) := dk_3 (dk_at dksX0_takesBack_0 0 rfl rfl)
theorem dX0_takesBack_1 : decode cX0_takesBack 1 = .ok (.istore_n 1, 1) := dk_60 (dk_at dksX0_takesBack_0 1 rfl rfl)
theorem dX0_takesBack_2 : decode cX0_takesBack 2 = .ok (.iload_n 1, 1) := dk_27 (dk_at dksX0_takesBack_0 2 rfl rfl)
theorem dX0_takesBack_3 : decode cX0_takesBack 3 = .ok (.bipush 6, 2) := dk_16 6 (dk_at dksX0_takesBack_0 3 rfl rfl)
theorem dX0_takesBack_5 : decode cX0_takesBack 5 = .ok (.if_icmp .ge 51, 3) := dk_162 0 51 (dk_at dksX0_takesBack_0 5 rfl rfl)
theorem dX0_takesBack_8 : decode cX0_takesBack 8 = .ok (.aload_n 0, 1) := dk_42 (dk_at dksX0_takesBack_0 8 rfl rfl)
theorem dX0_takesBack_9 : decode cX0_takesBack 9 = .ok (.iload_n 1, 1) := dk_27 (dk_at dksX0_takesBack_0 9 rfl rfl)
theorem dX0_takesBack_10 : decode cX0_takesBack 10 = .ok (.invokevirtual 391, 3) := dk_182 1 135 (dk_at dksX0_takesBack_0 10 rfl rfl)
theorem dX0_takesBack_13 : decode cX0_takesBack 13 = .ok (.astore_n 2, 1) := dk_77 (dk_at dksX0_takesBack_0 13 rfl rfl)
theorem dX0_takesBack_14 : decode cX0_takesBack 14 = .ok (.iconst 0, 1) := dk_3 (dk_at dksX0_takesBack_0 14 rfl rfl)
theorem dX0_takesBack_15 : decode cX0_takesBack 15 = .ok (.istore_n 3, 1) := dk_62 (dk_at dksX0_takesBack_0 15 rfl rfl)
theorem dX0_takesBack_16 : decode cX0_takesBack 16 = .ok (.aload_n 2, 1) := dk_44 (dk_at dksX0_takesBack_0 16 rfl rfl)
theorem dX0_takesBack_17 : decode cX0_takesBack 17 = .ok (.ifnull 33, 3) := dk_198 0 33 (dk_at dksX0_takesBack_0 17 rfl rfl)
theorem dX0_takesBack_20 : decode cX0_takesBack 20 = .ok (.iload_n 3, 1) := dk_29 (dk_at dksX0_takesBack_0 20 rfl rfl)
theorem dX0_takesBack_21 : decode cX0_takesBack 21 = .ok (.aload_n 2, 1) := dk_44 (dk_at dksX0_takesBack_0 21 rfl rfl)
theorem dX0_takesBack_22 : decode cX0_takesBack 22 = .ok (.getfield 121, 3) := dk_180 0 121 (dk_at dksX0_takesBack_1 0 rfl rfl)
theorem dX0_takesBack_25 : decode cX0_takesBack 25 = .ok (.if_icmp .ge 25, 3) := dk_162 0 25 (dk_at dksX0_takesBack_1 3 rfl rfl)
theorem dX0_takesBack_28 : decode cX0_takesBack 28 = .ok (.aload_n 2, 1) := dk_44 (dk_at dksX0_takesBack_1 6 rfl rfl)
theorem dX0_takesBack_29 : decode cX0_takesBack 29 = .ok (.iload_n 3, 1) := dk_29 (dk_at dksX0_takesBack_1 7 rfl rfl)
theorem dX0_takesBack_30 : decode cX0_takesBack 30 = .ok (.aload_n 0, 1) := dk_42 (dk_at dksX0_takesBack_1 8 rfl rfl)
theorem dX0_takesBack_31 : decode cX0_takesBack 31 = .ok (.getfield 80, 3) := dk_180 0 80 (dk_at dksX0_takesBack_1 9 rfl rfl)
theorem dX0_takesBack_34 : decode cX0_takesBack 34 = .ok (.bipush 24, 2) := dk_16 24 (dk_at dksX0_takesBack_1 12 rfl rfl)
theorem dX0_takesBack_36 : decode cX0_takesBack 36 = .ok (.iload_n 1, 1) := dk_27 (dk_at dksX0_takesBack_1 14 rfl rfl)
theorem dX0_takesBack_37 : decode cX0_takesBack 37 = .ok (.imul, 1) := dk_104 (dk_at dksX0_takesBack_1 15 rfl rfl)
theorem dX0_takesBack_38 : decode cX0_takesBack 38 = .ok (.iload_n 3, 1) := dk_29 (dk_at dksX0_takesBack_1 16 rfl rfl)
theorem dX0_takesBack_39 : decode cX0_takesBack 39 = .ok (.iadd, 1) := dk_96 (dk_at dksX0_takesBack_1 17 rfl rfl)
theorem dX0_takesBack_40 : decode cX0_takesBack 40 = .ok (.daload, 1) := dk_49 (dk_at dksX0_takesBack_1 18 rfl rfl)
theorem dX0_takesBack_41 : decode cX0_takesBack 41 = .ok (.invokevirtual 626, 3) := dk_182 2 114 (dk_at dksX0_takesBack_1 19 rfl rfl)
theorem dX0_takesBack_44 : decode cX0_takesBack 44 = .ok (.iinc 3 1, 3) := dk_132 3 1 (dk_at dksX0_takesBack_2 0 rfl rfl)
theorem dX0_takesBack_47 : decode cX0_takesBack 47 = .ok (.goto (-31), 3) := dk_167 255 225 (dk_at dksX0_takesBack_2 3 rfl rfl)
theorem dX0_takesBack_50 : decode cX0_takesBack 50 = .ok (.iinc 1 1, 3) := dk_132 1 1 (dk_at dksX0_takesBack_2 6 rfl rfl)
theorem dX0_takesBack_53 : decode cX0_takesBack 53 = .ok (.goto (-51), 3) := dk_167 255 205 (dk_at dksX0_takesBack_2 9 rfl rfl)
theorem dX0_takesBack_56 : decode cX0_takesBack 56 = .ok (.return_, 1) := dk_177 (dk_at dksX0_takesBack_2 12 rfl rfl)
abbrev cX0_isFound : ByteArray := prog_1_method_87_code
def yX0_isFound : MethodName := ⟨RX0, "isFound", "()Z"⟩
def dkwX0_isFound_2 : List UInt8 := [153, 0, 5, 3, 172, 132, 3, 1, 167, 255, 219, 132, 1, 1, 167, 255, 199, 4, 172]
abbrev dktX0_isFound_2 : List UInt8 := dkwX0_isFound_2 ++ []
def dkwX0_isFound_1 : List UInt8 := [180, 0, 121, 162, 0, 31, 42, 180, 0, 87, 16, 24, 27, 104, 29, 96, 49, 44, 29, 182, 2, 103, 151]
abbrev dktX0_isFound_1 : List UInt8 := dkwX0_isFound_1 ++ dktX0_isFound_2
def dkwX0_isFound_0 : List UInt8 := [3, 60, 27, 16, 6, 162, 0, 57, 42, 27, 182, 1, 135, 77, 3, 62, 44, 198, 0, 39, 29, 44]
abbrev dktX0_isFound_0 : List UInt8 := dkwX0_isFound_0 ++ dktX0_isFound_1
theorem dksX0_isFound_0 : cX0_isFound.data.toList.drop 0 = dktX0_isFound_0 := by decide +kernel
theorem dksX0_isFound_1 : cX0_isFound.data.toList.drop 22 = dktX0_isFound_1 := dk_seg dksX0_isFound_0 22 rfl rfl
theorem dksX0_isFound_2 : cX0_isFound.data.toList.drop 45 = dktX0_isFound_2 := dk_seg dksX0_isFound_1 23 rfl rfl
theorem dX0_isFound_0 : decode cX0_isFound 0 = .ok (.iconst 0, 1) := dk_3 (dk_at dksX0_isFound_0 0 rfl rfl)
theorem dX0_isFound_1 : decode cX0_isFound 1 = .ok (.istore_n 1, 1) := dk_60 (dk_at dksX0_isFound_0 1 rfl rfl)
theorem dX0_isFound_2 : decode cX0_isFound 2 = .ok (.iload_n 1, 1) := dk_27 (dk_at dksX0_isFound_0 2 rfl rfl)
theorem dX0_isFound_3 : decode cX0_isFound 3 = .ok (.bipush 6, 2) := dk_16 6 (dk_at dksX0_isFound_0 3 rfl rfl)
theorem dX0_isFound_5 : decode cX0_isFound 5 = .ok (.if_icmp .ge 57, 3) := dk_162 0 57 (dk_at dksX0_isFound_0 5 rfl rfl)
theorem dX0_isFound_8 : decode cX0_isFound 8 = .ok (.aload_n 0, 1) := dk_42 (dk_at dksX0_isFound_0 8 rfl rfl)
theorem dX0_isFound_9 : decode cX0_isFound 9 = .ok (.iload_n 1, 1) := dk_27 (dk_at dksX0_isFound_0 9 rfl rfl)
theorem dX0_isFound_10 : decode cX0_isFound 10 = .ok (.invokevirtual 391, 3) := dk_182 1 135 (dk_at dksX0_isFound_0 10 rfl rfl)
theorem dX0_isFound_13 : decode cX0_isFound 13 = .ok (.astore_n 2, 1) := dk_77 (dk_at dksX0_isFound_0 13 rfl rfl)
theorem dX0_isFound_14 : decode cX0_isFound 14 = .ok (.iconst 0, 1) := dk_3 (dk_at dksX0_isFound_0 14 rfl rfl)
theorem dX0_isFound_15 : decode cX0_isFound 15 = .ok (.istore_n 3, 1) := dk_62 (dk_at dksX0_isFound_0 15 rfl rfl)
theorem dX0_isFound_16 : decode cX0_isFound 16 = .ok (.aload_n 2, 1) := dk_44 (dk_at dksX0_isFound_0 16 rfl rfl)
theorem dX0_isFound_17 : decode cX0_isFound 17 = .ok (.ifnull 39, 3) := dk_198 0 39 (dk_at dksX0_isFound_0 17 rfl rfl)
theorem dX0_isFound_20 : decode cX0_isFound 20 = .ok (.iload_n 3, 1) := dk_29 (dk_at dksX0_isFound_0 20 rfl rfl)
theorem dX0_isFound_21 : decode cX0_isFound 21 = .ok (.aload_n 2, 1) := dk_44 (dk_at dksX0_isFound_0 21 rfl rfl)
theorem dX0_isFound_22 : decode cX0_isFound 22 = .ok (.getfield 121, 3) := dk_180 0 121 (dk_at dksX0_isFound_1 0 rfl rfl)
theorem dX0_isFound_25 : decode cX0_isFound 25 = .ok (.if_icmp .ge 31, 3) := dk_162 0 31 (dk_at dksX0_isFound_1 3 rfl rfl)
theorem dX0_isFound_28 : decode cX0_isFound 28 = .ok (.aload_n 0, 1) := dk_42 (dk_at dksX0_isFound_1 6 rfl rfl)
theorem dX0_isFound_29 : decode cX0_isFound 29 = .ok (.getfield 87, 3) := dk_180 0 87 (dk_at dksX0_isFound_1 7 rfl rfl)
theorem dX0_isFound_32 : decode cX0_isFound 32 = .ok (.bipush 24, 2) := dk_16 24 (dk_at dksX0_isFound_1 10 rfl rfl)
theorem dX0_isFound_34 : decode cX0_isFound 34 = .ok (.iload_n 1, 1) := dk_27 (dk_at dksX0_isFound_1 12 rfl rfl)
theorem dX0_isFound_35 : decode cX0_isFound 35 = .ok (.imul, 1) := dk_104 (dk_at dksX0_isFound_1 13 rfl rfl)
theorem dX0_isFound_36 : decode cX0_isFound 36 = .ok (.iload_n 3, 1) := dk_29 (dk_at dksX0_isFound_1 14 rfl rfl)
theorem dX0_isFound_37 : decode cX0_isFound 37 = .ok (.iadd, 1) := dk_96 (dk_at dksX0_isFound_1 15 rfl rfl)
theorem dX0_isFound_38 : decode cX0_isFound 38 = .ok (.daload, 1) := dk_49 (dk_at dksX0_isFound_1 16 rfl rfl)
theorem dX0_isFound_39 : decode cX0_isFound 39 = .ok (.aload_n 2, 1) := dk_44 (dk_at dksX0_isFound_1 17 rfl rfl)
theorem dX0_isFound_40 : decode cX0_isFound 40 = .ok (.iload_n 3, 1) := dk_29 (dk_at dksX0_isFound_1 18 rfl rfl)
theorem dX0_isFound_41 : decode cX0_isFound 41 = .ok (.invokevirtual 615, 3) := dk_182 2 103 (dk_at dksX0_isFound_1 19 rfl rfl)
theorem dX0_isFound_44 : decode cX0_isFound 44 = .ok (.dcmp .l, 1) := dk_151 (dk_at dksX0_isFound_1 22 rfl rfl)
theorem dX0_isFound_45 : decode cX0_isFound 45 = .ok (.ifCond .eq 5, 3) := dk_153 0 5 (dk_at dksX0_isFound_2 0 rfl rfl)
theorem dX0_isFound_48 : decode cX0_isFound 48 = .ok (.iconst 0, 1) := dk_3 (dk_at dksX0_isFound_2 3 rfl rfl)
theorem dX0_isFound_49 : decode cX0_isFound 49 = .ok (.ireturn, 1) := dk_172 (dk_at dksX0_isFound_2 4 rfl rfl)
theorem dX0_isFound_50 : decode cX0_isFound 50 = .ok (.iinc 3 1, 3) := dk_132 3 1 (dk_at dksX0_isFound_2 5 rfl rfl)
theorem dX0_isFound_53 : decode cX0_isFound 53 = .ok (.goto (-37), 3) := dk_167 255 219 (dk_at dksX0_isFound_2 8 rfl rfl)
theorem dX0_isFound_56 : decode cX0_isFound 56 = .ok (.iinc 1 1, 3) := dk_132 1 1 (dk_at dksX0_isFound_2 11 rfl rfl)
theorem dX0_isFound_59 : decode cX0_isFound 59 = .ok (.goto (-57), 3) := dk_167 255 199 (dk_at dksX0_isFound_2 14 rfl rfl)
theorem dX0_isFound_62 : decode cX0_isFound 62 = .ok (.iconst 1, 1) := dk_4 (dk_at dksX0_isFound_2 17 rfl rfl)
theorem dX0_isFound_63 : decode cX0_isFound 63 = .ok (.ireturn, 1) := dk_172 (dk_at dksX0_isFound_2 18 rfl rfl)
abbrev cX0_faults : ByteArray := prog_1_method_90_code
def yX0_faults : MethodName := ⟨RX0, "faults", "(I)I"⟩
def dkwX0_faults_0 : List UInt8 := [27, 133, 9, 20, 0, 224, 184, 0, 90, 153, 0, 12, 42, 180, 0, 74, 27, 46, 167, 0, 5, 16, 254, 172]
abbrev dktX0_faults_0 : List UInt8 := dkwX0_faults_0 ++ []
theorem dksX0_faults_0 : cX0_faults.data.toList.drop 0 = dktX0_faults_0 := by decide +kernel
theorem dX0_faults_0 : decode cX0_faults 0 = .ok (.iload_n 1, 1) := dk_27 (dk_at dksX0_faults_0 0 rfl rfl)
theorem dX0_faults_1 : decode cX0_faults 1 = .ok (.i2l, 1) := dk_133 (dk_at dksX0_faults_0 1 rfl rfl)
theorem dX0_faults_2 : decode cX0_faults 2 = .ok (.lconst 0, 1) := dk_9 (dk_at dksX0_faults_0 2 rfl rfl)
theorem dX0_faults_3 : decode cX0_faults 3 = .ok (.ldc2_w 224, 3) := dk_20 0 224 (dk_at dksX0_faults_0 3 rfl rfl)
theorem dX0_faults_6 : decode cX0_faults 6 = .ok (.invokestatic 90, 3) := dk_184 0 90 (dk_at dksX0_faults_0 6 rfl rfl)
theorem dX0_faults_9 : decode cX0_faults 9 = .ok (.ifCond .eq 12, 3) := dk_153 0 12 (dk_at dksX0_faults_0 9 rfl rfl)
theorem dX0_faults_12 : decode cX0_faults 12 = .ok (.aload_n 0, 1) := dk_42 (dk_at dksX0_faults_0 12 rfl rfl)
theorem dX0_faults_13 : decode cX0_faults 13 = .ok (.getfield 74, 3) := dk_180 0 74 (dk_at dksX0_faults_0 13 rfl rfl)
theorem dX0_faults_16 : decode cX0_faults 16 = .ok (.iload_n 1, 1) := dk_27 (dk_at dksX0_faults_0 16 rfl rfl)
theorem dX0_faults_17 : decode cX0_faults 17 = .ok (.iaload, 1) := dk_46 (dk_at dksX0_faults_0 17 rfl rfl)
theorem dX0_faults_18 : decode cX0_faults 18 = .ok (.goto 5, 3) := dk_167 0 5 (dk_at dksX0_faults_0 18 rfl rfl)
theorem dX0_faults_21 : decode cX0_faults 21 = .ok (.bipush (-2), 2) := dk_16 254 (dk_at dksX0_faults_0 21 rfl rfl)
theorem dX0_faults_23 : decode cX0_faults 23 = .ok (.ireturn, 1) := dk_172 (dk_at dksX0_faults_0 23 rfl rfl)
abbrev cX0_ended : ByteArray := prog_1_method_92_code
def yX0_ended : MethodName := ⟨RX0, "ended", "(I)I"⟩
def dkwX0_ended_0 : List UInt8 := [27, 133, 9, 20, 2, 164, 184, 0, 90, 153, 0, 11, 42, 27, 182, 2, 166, 167, 0, 5, 16, 254, 172]
abbrev dktX0_ended_0 : List UInt8 := dkwX0_ended_0 ++ []
theorem dksX0_ended_0 : cX0_ended.data.toList.drop 0 = dktX0_ended_0 := by decide +kernel
theorem dX0_ended_0 : decode cX0_ended 0 = .ok (.iload_n 1, 1) := dk_27 (dk_at dksX0_ended_0 0 rfl rfl)
theorem dX0_ended_1 : decode cX0_ended 1 = .ok (.i2l, 1) := dk_133 (dk_at dksX0_ended_0 1 rfl rfl)
theorem dX0_ended_2 : decode cX0_ended 2 = .ok (.lconst 0, 1) := dk_9 (dk_at dksX0_ended_0 2 rfl rfl)
theorem dX0_ended_3 : decode cX0_ended 3 = .ok (.ldc2_w 676, 3) := dk_20 2 164 (dk_at dksX0_ended_0 3 rfl rfl)
theorem dX0_ended_6 : decode cX0_ended 6 = .ok (.invokestatic 90, 3) := dk_184 0 90 (dk_at dksX0_ended_0 6 rfl rfl)
theorem dX0_ended_9 : decode cX0_ended 9 = .ok (.ifCond .eq 11, 3) := dk_153 0 11 (dk_at dksX0_ended_0 9 rfl rfl)
theorem dX0_ended_12 : decode cX0_ended 12 = .ok (.aload_n 0, 1) := dk_42 (dk_at dksX0_ended_0 12 rfl rfl)
theorem dX0_ended_13 : decode cX0_ended 13 = .ok (.iload_n 1, 1) := dk_27 (dk_at dksX0_ended_0 13 rfl rfl)
theorem dX0_ended_14 : decode cX0_ended 14 = .ok (.invokevirtual 678, 3) := dk_182 2 166 (dk_at dksX0_ended_0 14 rfl rfl)
theorem dX0_ended_17 : decode cX0_ended 17 = .ok (.goto 5, 3) := dk_167 0 5 (dk_at dksX0_ended_0 17 rfl rfl)
theorem dX0_ended_20 : decode cX0_ended 20 = .ok (.bipush (-2), 2) := dk_16 254 (dk_at dksX0_ended_0 20 rfl rfl)
theorem dX0_ended_22 : decode cX0_ended 22 = .ok (.ireturn, 1) := dk_172 (dk_at dksX0_ended_0 22 rfl rfl)
abbrev cX0_endedBy : ByteArray := prog_1_method_91_code
def yX0_endedBy : MethodName := ⟨RX0, "endedBy", "(I)I"⟩
def dkwX0_endedBy_0 : List UInt8 := [27, 42, 180, 2, 118, 162, 0, 12, 42, 180, 0, 77, 27, 46, 167, 0, 4, 2, 172]
abbrev dktX0_endedBy_0 : List UInt8 := dkwX0_endedBy_0 ++ []
theorem dksX0_endedBy_0 : cX0_endedBy.data.toList.drop 0 = dktX0_endedBy_0 := by decide +kernel
theorem dX0_endedBy_0 : decode cX0_endedBy 0 = .ok (.iload_n 1, 1) := dk_27 (dk_at dksX0_endedBy_0 0 rfl rfl)
theorem dX0_endedBy_1 : decode cX0_endedBy 1 = .ok (.aload_n 0, 1) := dk_42 (dk_at dksX0_endedBy_0 1 rfl rfl)
theorem dX0_endedBy_2 : decode cX0_endedBy 2 = .ok (.getfield 630, 3) := dk_180 2 118 (dk_at dksX0_endedBy_0 2 rfl rfl)
theorem dX0_endedBy_5 : decode cX0_endedBy 5 = .ok (.if_icmp .ge 12, 3) := dk_162 0 12 (dk_at dksX0_endedBy_0 5 rfl rfl)
theorem dX0_endedBy_8 : decode cX0_endedBy 8 = .ok (.aload_n 0, 1) := dk_42 (dk_at dksX0_endedBy_0 8 rfl rfl)
theorem dX0_endedBy_9 : decode cX0_endedBy 9 = .ok (.getfield 77, 3) := dk_180 0 77 (dk_at dksX0_endedBy_0 9 rfl rfl)
theorem dX0_endedBy_12 : decode cX0_endedBy 12 = .ok (.iload_n 1, 1) := dk_27 (dk_at dksX0_endedBy_0 12 rfl rfl)
theorem dX0_endedBy_13 : decode cX0_endedBy 13 = .ok (.iaload, 1) := dk_46 (dk_at dksX0_endedBy_0 13 rfl rfl)
theorem dX0_endedBy_14 : decode cX0_endedBy 14 = .ok (.goto 4, 3) := dk_167 0 4 (dk_at dksX0_endedBy_0 14 rfl rfl)
theorem dX0_endedBy_17 : decode cX0_endedBy 17 = .ok (.iconst (-1), 1) := dk_2 (dk_at dksX0_endedBy_0 17 rfl rfl)
theorem dX0_endedBy_18 : decode cX0_endedBy 18 = .ok (.ireturn, 1) := dk_172 (dk_at dksX0_endedBy_0 18 rfl rfl)
abbrev cX0_writer : ByteArray := prog_1_method_93_code
def yX0_writer : MethodName := ⟨RX0, "writer", "(II)I"⟩
def dkwX0_writer_1 : List UInt8 := [4, 182, 0, 117, 172, 78, 42, 5, 182, 0, 117, 172]
abbrev dktX0_writer_1 : List UInt8 := dkwX0_writer_1 ++ []
def dkwX0_writer_0 : List UInt8 := [27, 184, 0, 106, 154, 0, 6, 16, 254, 172, 42, 180, 0, 25, 27, 50, 180, 2, 39, 28, 46, 172, 78, 42]
abbrev dktX0_writer_0 : List UInt8 := dkwX0_writer_0 ++ dktX0_writer_1
theorem dksX0_writer_0 : cX0_writer.data.toList.drop 0 = dktX0_writer_0 := by decide +kernel
theorem dksX0_writer_1 : cX0_writer.data.toList.drop 24 = dktX0_writer_1 := dk_seg dksX0_writer_0 24 rfl rfl
theorem dX0_writer_0 : decode cX0_writer 0 = .ok (.iload_n 1, 1) := dk_27 (dk_at dksX0_writer_0 0 rfl rfl)
theorem dX0_writer_1 : decode cX0_writer 1 = .ok (.invokestatic 106, 3) := dk_184 0 106 (dk_at dksX0_writer_0 1 rfl rfl)
theorem dX0_writer_4 : decode cX0_writer 4 = .ok (.ifCond .ne 6, 3) := dk_154 0 6 (dk_at dksX0_writer_0 4 rfl rfl)
theorem dX0_writer_7 : decode cX0_writer 7 = .ok (.bipush (-2), 2) := dk_16 254 (dk_at dksX0_writer_0 7 rfl rfl)
theorem dX0_writer_9 : decode cX0_writer 9 = .ok (.ireturn, 1) := dk_172 (dk_at dksX0_writer_0 9 rfl rfl)
theorem dX0_writer_10 : decode cX0_writer 10 = .ok (.aload_n 0, 1) := dk_42 (dk_at dksX0_writer_0 10 rfl rfl)
theorem dX0_writer_11 : decode cX0_writer 11 = .ok (.getfield 25, 3) := dk_180 0 25 (dk_at dksX0_writer_0 11 rfl rfl)
theorem dX0_writer_14 : decode cX0_writer 14 = .ok (.iload_n 1, 1) := dk_27 (dk_at dksX0_writer_0 14 rfl rfl)
theorem dX0_writer_15 : decode cX0_writer 15 = .ok (.aaload, 1) := dk_50 (dk_at dksX0_writer_0 15 rfl rfl)
theorem dX0_writer_16 : decode cX0_writer 16 = .ok (.getfield 551, 3) := dk_180 2 39 (dk_at dksX0_writer_0 16 rfl rfl)
theorem dX0_writer_19 : decode cX0_writer 19 = .ok (.iload_n 2, 1) := dk_28 (dk_at dksX0_writer_0 19 rfl rfl)
theorem dX0_writer_20 : decode cX0_writer 20 = .ok (.iaload, 1) := dk_46 (dk_at dksX0_writer_0 20 rfl rfl)
theorem dX0_writer_21 : decode cX0_writer 21 = .ok (.ireturn, 1) := dk_172 (dk_at dksX0_writer_0 21 rfl rfl)
theorem dX0_writer_22 : decode cX0_writer 22 = .ok (.astore_n 3, 1) := dk_78 (dk_at dksX0_writer_0 22 rfl rfl)
theorem dX0_writer_23 : decode cX0_writer 23 = .ok (.aload_n 0, 1) := dk_42 (dk_at dksX0_writer_0 23 rfl rfl)
theorem dX0_writer_24 : decode cX0_writer 24 = .ok (.iconst 1, 1) := dk_4 (dk_at dksX0_writer_1 0 rfl rfl)
theorem dX0_writer_25 : decode cX0_writer 25 = .ok (.invokevirtual 117, 3) := dk_182 0 117 (dk_at dksX0_writer_1 1 rfl rfl)
theorem dX0_writer_28 : decode cX0_writer 28 = .ok (.ireturn, 1) := dk_172 (dk_at dksX0_writer_1 4 rfl rfl)
theorem dX0_writer_29 : decode cX0_writer 29 = .ok (.astore_n 3, 1) := dk_78 (dk_at dksX0_writer_1 5 rfl rfl)
theorem dX0_writer_30 : decode cX0_writer 30 = .ok (.aload_n 0, 1) := dk_42 (dk_at dksX0_writer_1 6 rfl rfl)
theorem dX0_writer_31 : decode cX0_writer 31 = .ok (.iconst 2, 1) := dk_5 (dk_at dksX0_writer_1 7 rfl rfl)
theorem dX0_writer_32 : decode cX0_writer 32 = .ok (.invokevirtual 117, 3) := dk_182 0 117 (dk_at dksX0_writer_1 8 rfl rfl)
theorem dX0_writer_35 : decode cX0_writer 35 = .ok (.ireturn, 1) := dk_172 (dk_at dksX0_writer_1 11 rfl rfl)
abbrev cX0_count : ByteArray := prog_1_method_96_code
def yX0_count : MethodName := ⟨RX0, "count", "(I)I"⟩
def dkwX0_count_4 : List UInt8 := [180, 2, 121, 172, 42, 182, 2, 172, 172, 42, 180, 0, 96, 172, 16, 254, 172]
abbrev dktX0_count_4 : List UInt8 := dkwX0_count_4 ++ []
def dkwX0_count_3 : List UInt8 := [180, 0, 184, 172, 42, 182, 2, 142, 153, 0, 7, 4, 167, 0, 4, 3, 172, 42, 182, 2, 169, 172, 42]
abbrev dktX0_count_3 : List UInt8 := dkwX0_count_3 ++ dktX0_count_4
def dkwX0_count_2 : List UInt8 := [42, 180, 0, 173, 172, 42, 180, 0, 34, 182, 0, 208, 172, 42, 180, 0, 41, 182, 0, 155, 172, 42]
abbrev dktX0_count_2 : List UInt8 := dkwX0_count_2 ++ dktX0_count_3
def dkwX0_count_1 : List UInt8 := [170, 0, 0, 0, 0, 0, 110, 0, 0, 0, 0, 0, 0, 0, 8, 0, 0, 0, 51, 0, 0, 0, 56, 0, 0, 0, 64, 0, 0, 0, 72, 0, 0, 0, 77, 0, 0, 0, 90, 0, 0, 0, 95, 0, 0, 0, 100, 0, 0, 0, 105]
abbrev dktX0_count_1 : List UInt8 := dkwX0_count_1 ++ dktX0_count_2
def dkwX0_count_0 : List UInt8 := [27]
abbrev dktX0_count_0 : List UInt8 := dkwX0_count_0 ++ dktX0_count_1
theorem dksX0_count_0 : cX0_count.data.toList.drop 0 = dktX0_count_0 := by decide +kernel
theorem dksX0_count_1 : cX0_count.data.toList.drop 1 = dktX0_count_1 := dk_seg dksX0_count_0 1 rfl rfl
theorem dksX0_count_2 : cX0_count.data.toList.drop 52 = dktX0_count_2 := dk_seg dksX0_count_1 51 rfl rfl
theorem dksX0_count_3 : cX0_count.data.toList.drop 74 = dktX0_count_3 := dk_seg dksX0_count_2 22 rfl rfl
theorem dksX0_count_4 : cX0_count.data.toList.drop 97 = dktX0_count_4 := dk_seg dksX0_count_3 23 rfl rfl
theorem dX0_count_0 : decode cX0_count 0 = .ok (.iload_n 1, 1) := dk_27 (dk_at dksX0_count_0 0 rfl rfl)
theorem dX0_count_1 : decode cX0_count 1 = .ok (.tableswitch 110 0 8 #[51, 56, 64, 72, 77, 90, 95, 100, 105], 51) := by decide +kernel
theorem dX0_count_52 : decode cX0_count 52 = .ok (.aload_n 0, 1) := dk_42 (dk_at dksX0_count_2 0 rfl rfl)
theorem dX0_count_53 : decode cX0_count 53 = .ok (.getfield 173, 3) := dk_180 0 173 (dk_at dksX0_count_2 1 rfl rfl)
theorem dX0_count_56 : decode cX0_count 56 = .ok (.ireturn, 1) := dk_172 (dk_at dksX0_count_2 4 rfl rfl)
theorem dX0_count_57 : decode cX0_count 57 = .ok (.aload_n 0, 1) := dk_42 (dk_at dksX0_count_2 5 rfl rfl)
theorem dX0_count_58 : decode cX0_count 58 = .ok (.getfield 34, 3) := dk_180 0 34 (dk_at dksX0_count_2 6 rfl rfl)
theorem dX0_count_61 : decode cX0_count 61 = .ok (.invokevirtual 208, 3) := dk_182 0 208 (dk_at dksX0_count_2 9 rfl rfl)
theorem dX0_count_64 : decode cX0_count 64 = .ok (.ireturn, 1) := dk_172 (dk_at dksX0_count_2 12 rfl rfl)
theorem dX0_count_65 : decode cX0_count 65 = .ok (.aload_n 0, 1) := dk_42 (dk_at dksX0_count_2 13 rfl rfl)
theorem dX0_count_66 : decode cX0_count 66 = .ok (.getfield 41, 3) := dk_180 0 41 (dk_at dksX0_count_2 14 rfl rfl)
theorem dX0_count_69 : decode cX0_count 69 = .ok (.invokevirtual 155, 3) := dk_182 0 155 (dk_at dksX0_count_2 17 rfl rfl)
theorem dX0_count_72 : decode cX0_count 72 = .ok (.ireturn, 1) := dk_172 (dk_at dksX0_count_2 20 rfl rfl)
theorem dX0_count_73 : decode cX0_count 73 = .ok (.aload_n 0, 1) := dk_42 (dk_at dksX0_count_2 21 rfl rfl)
theorem dX0_count_74 : decode cX0_count 74 = .ok (.getfield 184, 3) := dk_180 0 184 (dk_at dksX0_count_3 0 rfl rfl)
theorem dX0_count_77 : decode cX0_count 77 = .ok (.ireturn, 1) := dk_172 (dk_at dksX0_count_3 3 rfl rfl)
theorem dX0_count_78 : decode cX0_count 78 = .ok (.aload_n 0, 1) := dk_42 (dk_at dksX0_count_3 4 rfl rfl)
theorem dX0_count_79 : decode cX0_count 79 = .ok (.invokevirtual 654, 3) := dk_182 2 142 (dk_at dksX0_count_3 5 rfl rfl)
theorem dX0_count_82 : decode cX0_count 82 = .ok (.ifCond .eq 7, 3) := dk_153 0 7 (dk_at dksX0_count_3 8 rfl rfl)
theorem dX0_count_85 : decode cX0_count 85 = .ok (.iconst 1, 1) := dk_4 (dk_at dksX0_count_3 11 rfl rfl)
theorem dX0_count_86 : decode cX0_count 86 = .ok (.goto 4, 3) := dk_167 0 4 (dk_at dksX0_count_3 12 rfl rfl)
theorem dX0_count_89 : decode cX0_count 89 = .ok (.iconst 0, 1) := dk_3 (dk_at dksX0_count_3 15 rfl rfl)
theorem dX0_count_90 : decode cX0_count 90 = .ok (.ireturn, 1) := dk_172 (dk_at dksX0_count_3 16 rfl rfl)
theorem dX0_count_91 : decode cX0_count 91 = .ok (.aload_n 0, 1) := dk_42 (dk_at dksX0_count_3 17 rfl rfl)
theorem dX0_count_92 : decode cX0_count 92 = .ok (.invokevirtual 681, 3) := dk_182 2 169 (dk_at dksX0_count_3 18 rfl rfl)
theorem dX0_count_95 : decode cX0_count 95 = .ok (.ireturn, 1) := dk_172 (dk_at dksX0_count_3 21 rfl rfl)
theorem dX0_count_96 : decode cX0_count 96 = .ok (.aload_n 0, 1) := dk_42 (dk_at dksX0_count_3 22 rfl rfl)
theorem dX0_count_97 : decode cX0_count 97 = .ok (.getfield 633, 3) := dk_180 2 121 (dk_at dksX0_count_4 0 rfl rfl)
theorem dX0_count_100 : decode cX0_count 100 = .ok (.ireturn, 1) := dk_172 (dk_at dksX0_count_4 3 rfl rfl)
theorem dX0_count_101 : decode cX0_count 101 = .ok (.aload_n 0, 1) := dk_42 (dk_at dksX0_count_4 4 rfl rfl)
theorem dX0_count_102 : decode cX0_count 102 = .ok (.invokevirtual 684, 3) := dk_182 2 172 (dk_at dksX0_count_4 5 rfl rfl)
theorem dX0_count_105 : decode cX0_count 105 = .ok (.ireturn, 1) := dk_172 (dk_at dksX0_count_4 8 rfl rfl)
theorem dX0_count_106 : decode cX0_count 106 = .ok (.aload_n 0, 1) := dk_42 (dk_at dksX0_count_4 9 rfl rfl)
theorem dX0_count_107 : decode cX0_count 107 = .ok (.getfield 96, 3) := dk_180 0 96 (dk_at dksX0_count_4 10 rfl rfl)
theorem dX0_count_110 : decode cX0_count 110 = .ok (.ireturn, 1) := dk_172 (dk_at dksX0_count_4 13 rfl rfl)
theorem dX0_count_111 : decode cX0_count 111 = .ok (.bipush (-2), 2) := dk_16 254 (dk_at dksX0_count_4 14 rfl rfl)
theorem dX0_count_113 : decode cX0_count 113 = .ok (.ireturn, 1) := dk_172 (dk_at dksX0_count_4 16 rfl rfl)
abbrev cX0_serialNow : ByteArray := prog_1_method_95_code
def yX0_serialNow : MethodName := ⟨RX0, "serialNow", "()I"⟩
def dkwX0_serialNow_0 : List UInt8 := [42, 182, 1, 193, 42, 182, 2, 135, 172]
abbrev dktX0_serialNow_0 : List UInt8 := dkwX0_serialNow_0 ++ []
theorem dksX0_serialNow_0 : cX0_serialNow.data.toList.drop 0 = dktX0_serialNow_0 := by decide +kernel
theorem dX0_serialNow_0 : decode cX0_serialNow 0 = .ok (.aload_n 0, 1) := dk_42 (dk_at dksX0_serialNow_0 0 rfl rfl)
theorem dX0_serialNow_1 : decode cX0_serialNow 1 = .ok (.invokevirtual 449, 3) := dk_182 1 193 (dk_at dksX0_serialNow_0 1 rfl rfl)
theorem dX0_serialNow_4 : decode cX0_serialNow 4 = .ok (.aload_n 0, 1) := dk_42 (dk_at dksX0_serialNow_0 4 rfl rfl)
theorem dX0_serialNow_5 : decode cX0_serialNow 5 = .ok (.invokevirtual 647, 3) := dk_182 2 135 (dk_at dksX0_serialNow_0 5 rfl rfl)
theorem dX0_serialNow_8 : decode cX0_serialNow 8 = .ok (.ireturn, 1) := dk_172 (dk_at dksX0_serialNow_0 8 rfl rfl)
abbrev cX0_missing : ByteArray := prog_1_method_94_code
def yX0_missing : MethodName := ⟨RX0, "missing", "()I"⟩
def dkwX0_missing_1 : List UInt8 := [58, 5, 27, 25, 5, 199, 0, 7, 4, 167, 0, 4, 3, 96, 60, 132, 4, 1, 167, 255, 228, 27, 172]
abbrev dktX0_missing_1 : List UInt8 := dkwX0_missing_1 ++ []
def dkwX0_missing_0 : List UInt8 := [3, 60, 42, 180, 0, 25, 77, 44, 190, 62, 3, 54, 4, 21, 4, 29, 162, 0, 28, 44, 21, 4, 50]
abbrev dktX0_missing_0 : List UInt8 := dkwX0_missing_0 ++ dktX0_missing_1
theorem dksX0_missing_0 : cX0_missing.data.toList.drop 0 = dktX0_missing_0 := by decide +kernel
theorem dksX0_missing_1 : cX0_missing.data.toList.drop 23 = dktX0_missing_1 := dk_seg dksX0_missing_0 23 rfl rfl
theorem dX0_missing_0 : decode cX0_missing 0 = .ok (.iconst 0, 1) := dk_3 (dk_at dksX0_missing_0 0 rfl rfl)
theorem dX0_missing_1 : decode cX0_missing 1 = .ok (.istore_n 1, 1) := dk_60 (dk_at dksX0_missing_0 1 rfl rfl)
theorem dX0_missing_2 : decode cX0_missing 2 = .ok (.aload_n 0, 1) := dk_42 (dk_at dksX0_missing_0 2 rfl rfl)
theorem dX0_missing_3 : decode cX0_missing 3 = .ok (.getfield 25, 3) := dk_180 0 25 (dk_at dksX0_missing_0 3 rfl rfl)
theorem dX0_missing_6 : decode cX0_missing 6 = .ok (.astore_n 2, 1) := dk_77 (dk_at dksX0_missing_0 6 rfl rfl)
theorem dX0_missing_7 : decode cX0_missing 7 = .ok (.aload_n 2, 1) := dk_44 (dk_at dksX0_missing_0 7 rfl rfl)
theorem dX0_missing_8 : decode cX0_missing 8 = .ok (.arraylength, 1) := dk_190 (dk_at dksX0_missing_0 8 rfl rfl)
theorem dX0_missing_9 : decode cX0_missing 9 = .ok (.istore_n 3, 1) := dk_62 (dk_at dksX0_missing_0 9 rfl rfl)
theorem dX0_missing_10 : decode cX0_missing 10 = .ok (.iconst 0, 1) := dk_3 (dk_at dksX0_missing_0 10 rfl rfl)
theorem dX0_missing_11 : decode cX0_missing 11 = .ok (.istore 4, 2) := dk_54 4 (dk_at dksX0_missing_0 11 rfl rfl)
theorem dX0_missing_13 : decode cX0_missing 13 = .ok (.iload 4, 2) := dk_21 4 (dk_at dksX0_missing_0 13 rfl rfl)
theorem dX0_missing_15 : decode cX0_missing 15 = .ok (.iload_n 3, 1) := dk_29 (dk_at dksX0_missing_0 15 rfl rfl)
theorem dX0_missing_16 : decode cX0_missing 16 = .ok (.if_icmp .ge 28, 3) := dk_162 0 28 (dk_at dksX0_missing_0 16 rfl rfl)
theorem dX0_missing_19 : decode cX0_missing 19 = .ok (.aload_n 2, 1) := dk_44 (dk_at dksX0_missing_0 19 rfl rfl)
theorem dX0_missing_20 : decode cX0_missing 20 = .ok (.iload 4, 2) := dk_21 4 (dk_at dksX0_missing_0 20 rfl rfl)
theorem dX0_missing_22 : decode cX0_missing 22 = .ok (.aaload, 1) := dk_50 (dk_at dksX0_missing_0 22 rfl rfl)
theorem dX0_missing_23 : decode cX0_missing 23 = .ok (.astore 5, 2) := dk_58 5 (dk_at dksX0_missing_1 0 rfl rfl)
theorem dX0_missing_25 : decode cX0_missing 25 = .ok (.iload_n 1, 1) := dk_27 (dk_at dksX0_missing_1 2 rfl rfl)
theorem dX0_missing_26 : decode cX0_missing 26 = .ok (.aload 5, 2) := dk_25 5 (dk_at dksX0_missing_1 3 rfl rfl)
theorem dX0_missing_28 : decode cX0_missing 28 = .ok (.ifnonnull 7, 3) := dk_199 0 7 (dk_at dksX0_missing_1 5 rfl rfl)
theorem dX0_missing_31 : decode cX0_missing 31 = .ok (.iconst 1, 1) := dk_4 (dk_at dksX0_missing_1 8 rfl rfl)
theorem dX0_missing_32 : decode cX0_missing 32 = .ok (.goto 4, 3) := dk_167 0 4 (dk_at dksX0_missing_1 9 rfl rfl)
theorem dX0_missing_35 : decode cX0_missing 35 = .ok (.iconst 0, 1) := dk_3 (dk_at dksX0_missing_1 12 rfl rfl)
theorem dX0_missing_36 : decode cX0_missing 36 = .ok (.iadd, 1) := dk_96 (dk_at dksX0_missing_1 13 rfl rfl)
theorem dX0_missing_37 : decode cX0_missing 37 = .ok (.istore_n 1, 1) := dk_60 (dk_at dksX0_missing_1 14 rfl rfl)
theorem dX0_missing_38 : decode cX0_missing 38 = .ok (.iinc 4 1, 3) := dk_132 4 1 (dk_at dksX0_missing_1 15 rfl rfl)
theorem dX0_missing_41 : decode cX0_missing 41 = .ok (.goto (-28), 3) := dk_167 255 228 (dk_at dksX0_missing_1 18 rfl rfl)
theorem dX0_missing_44 : decode cX0_missing 44 = .ok (.iload_n 1, 1) := dk_27 (dk_at dksX0_missing_1 21 rfl rfl)
theorem dX0_missing_45 : decode cX0_missing 45 = .ok (.ireturn, 1) := dk_172 (dk_at dksX0_missing_1 22 rfl rfl)
abbrev cX0_digest : ByteArray := prog_1_method_100_code
def yX0_digest : MethodName := ⟨RX0, "digest", "()J"⟩
def dkwX0_digest_7 : List UInt8 := [31, 173]
abbrev dktX0_digest_7 : List UInt8 := dkwX0_digest_7 ++ []
def dkwX0_digest_6 : List UInt8 := [16, 10, 162, 0, 22, 20, 2, 175, 31, 105, 42, 29, 182, 2, 166, 133, 97, 64, 132, 3, 1, 167, 255, 234]
abbrev dktX0_digest_6 : List UInt8 := dkwX0_digest_6 ++ dktX0_digest_7
def dkwX0_digest_5 : List UInt8 := [20, 2, 175, 31, 105, 42, 180, 0, 74, 29, 46, 133, 97, 64, 132, 3, 1, 167, 255, 234, 3, 62, 29]
abbrev dktX0_digest_5 : List UInt8 := dkwX0_digest_5 ++ dktX0_digest_6
def dkwX0_digest_4 : List UInt8 := [50, 198, 0, 10, 42, 31, 29, 182, 2, 188, 64, 132, 3, 1, 167, 255, 231, 3, 62, 29, 6, 162, 0, 23]
abbrev dktX0_digest_4 : List UInt8 := dkwX0_digest_4 ++ dktX0_digest_5
def dkwX0_digest_3 : List UInt8 := [29, 182, 2, 185, 64, 132, 3, 1, 167, 255, 240, 3, 62, 29, 16, 6, 162, 0, 25, 42, 180, 0, 25, 29]
abbrev dktX0_digest_3 : List UInt8 := dkwX0_digest_3 ++ dktX0_digest_4
def dkwX0_digest_2 : List UInt8 := [182, 2, 181, 64, 132, 3, 1, 167, 255, 235, 42, 182, 1, 193, 3, 62, 29, 16, 6, 162, 0, 16, 42, 31]
abbrev dktX0_digest_2 : List UInt8 := dkwX0_digest_2 ++ dktX0_digest_3
def dkwX0_digest_1 : List UInt8 := [64, 132, 3, 1, 167, 255, 234, 3, 62, 29, 42, 180, 0, 34, 182, 0, 208, 162, 0, 16, 42, 31, 29]
abbrev dktX0_digest_1 : List UInt8 := dkwX0_digest_1 ++ dktX0_digest_2
def dkwX0_digest_0 : List UInt8 := [20, 2, 177, 64, 3, 62, 29, 16, 8, 162, 0, 22, 20, 2, 175, 31, 105, 42, 29, 182, 2, 179, 133, 97]
abbrev dktX0_digest_0 : List UInt8 := dkwX0_digest_0 ++ dktX0_digest_1
theorem dksX0_digest_0 : cX0_digest.data.toList.drop 0 = dktX0_digest_0 := by decide +kernel
theorem dksX0_digest_1 : cX0_digest.data.toList.drop 24 = dktX0_digest_1 := dk_seg dksX0_digest_0 24 rfl rfl
theorem dksX0_digest_2 : cX0_digest.data.toList.drop 47 = dktX0_digest_2 := dk_seg dksX0_digest_1 23 rfl rfl
theorem dksX0_digest_3 : cX0_digest.data.toList.drop 71 = dktX0_digest_3 := dk_seg dksX0_digest_2 24 rfl rfl
theorem dksX0_digest_4 : cX0_digest.data.toList.drop 95 = dktX0_digest_4 := dk_seg dksX0_digest_3 24 rfl rfl
theorem dksX0_digest_5 : cX0_digest.data.toList.drop 119 = dktX0_digest_5 := dk_seg dksX0_digest_4 24 rfl rfl
theorem dksX0_digest_6 : cX0_digest.data.toList.drop 142 = dktX0_digest_6 := dk_seg dksX0_digest_5 23 rfl rfl
theorem dksX0_digest_7 : cX0_digest.data.toList.drop 166 = dktX0_digest_7 := dk_seg dksX0_digest_6 24 rfl rfl
theorem dX0_digest_0 : decode cX0_digest 0 = .ok (.ldc2_w 689, 3) := dk_20 2 177 (dk_at dksX0_digest_0 0 rfl rfl)
theorem dX0_digest_3 : decode cX0_digest 3 = .ok (.lstore_n 1, 1) := dk_64 (dk_at dksX0_digest_0 3 rfl rfl)
theorem dX0_digest_4 : decode cX0_digest 4 = .ok (.iconst 0, 1) := dk_3 (dk_at dksX0_digest_0 4 rfl rfl)
theorem dX0_digest_5 : decode cX0_digest 5 = .ok (.istore_n 3, 1) := dk_62 (dk_at dksX0_digest_0 5 rfl rfl)
theorem dX0_digest_6 : decode cX0_digest 6 = .ok (.iload_n 3, 1) := dk_29 (dk_at dksX0_digest_0 6 rfl rfl)
theorem dX0_digest_7 : decode cX0_digest 7 = .ok (.bipush 8, 2) := dk_16 8 (dk_at dksX0_digest_0 7 rfl rfl)
theorem dX0_digest_9 : decode cX0_digest 9 = .ok (.if_icmp .ge 22, 3) := dk_162 0 22 (dk_at dksX0_digest_0 9 rfl rfl)
theorem dX0_digest_12 : decode cX0_digest 12 = .ok (.ldc2_w 687, 3) := dk_20 2 175 (dk_at dksX0_digest_0 12 rfl rfl)
theorem dX0_digest_15 : decode cX0_digest 15 = .ok (.lload_n 1, 1) := dk_31 (dk_at dksX0_digest_0 15 rfl rfl)
theorem dX0_digest_16 : decode cX0_digest 16 = .ok (.lmul, 1) := dk_105 (dk_at dksX0_digest_0 16 rfl rfl)
theorem dX0_digest_17 : decode cX0_digest 17 = .ok (.aload_n 0, 1) := dk_42 (dk_at dksX0_digest_0 17 rfl rfl)
theorem dX0_digest_18 : decode cX0_digest 18 = .ok (.iload_n 3, 1) := dk_29 (dk_at dksX0_digest_0 18 rfl rfl)
theorem dX0_digest_19 : decode cX0_digest 19 = .ok (.invokevirtual 691, 3) := dk_182 2 179 (dk_at dksX0_digest_0 19 rfl rfl)
theorem dX0_digest_22 : decode cX0_digest 22 = .ok (.i2l, 1) := dk_133 (dk_at dksX0_digest_0 22 rfl rfl)
theorem dX0_digest_23 : decode cX0_digest 23 = .ok (.ladd, 1) := dk_97 (dk_at dksX0_digest_0 23 rfl rfl)
theorem dX0_digest_24 : decode cX0_digest 24 = .ok (.lstore_n 1, 1) := dk_64 (dk_at dksX0_digest_1 0 rfl rfl)
theorem dX0_digest_25 : decode cX0_digest 25 = .ok (.iinc 3 1, 3) := dk_132 3 1 (dk_at dksX0_digest_1 1 rfl rfl)
theorem dX0_digest_28 : decode cX0_digest 28 = .ok (.goto (-22), 3) := dk_167 255 234 (dk_at dksX0_digest_1 4 rfl rfl)
theorem dX0_digest_31 : decode cX0_digest 31 = .ok (.iconst 0, 1) := dk_3 (dk_at dksX0_digest_1 7 rfl rfl)
theorem dX0_digest_32 : decode cX0_digest 32 = .ok (.istore_n 3, 1) := dk_62 (dk_at dksX0_digest_1 8 rfl rfl)
theorem dX0_digest_33 : decode cX0_digest 33 = .ok (.iload_n 3, 1) := dk_29 (dk_at dksX0_digest_1 9 rfl rfl)
theorem dX0_digest_34 : decode cX0_digest 34 = .ok (.aload_n 0, 1) := dk_42 (dk_at dksX0_digest_1 10 rfl rfl)
theorem dX0_digest_35 : decode cX0_digest 35 = .ok (.getfield 34, 3) := dk_180 0 34 (dk_at dksX0_digest_1 11 rfl rfl)
theorem dX0_digest_38 : decode cX0_digest 38 = .ok (.invokevirtual 208, 3) := dk_182 0 208 (dk_at dksX0_digest_1 14 rfl rfl)
theorem dX0_digest_41 : decode cX0_digest 41 = .ok (.if_icmp .ge 16, 3) := dk_162 0 16 (dk_at dksX0_digest_1 17 rfl rfl)
theorem dX0_digest_44 : decode cX0_digest 44 = .ok (.aload_n 0, 1) := dk_42 (dk_at dksX0_digest_1 20 rfl rfl)
theorem dX0_digest_45 : decode cX0_digest 45 = .ok (.lload_n 1, 1) := dk_31 (dk_at dksX0_digest_1 21 rfl rfl)
theorem dX0_digest_46 : decode cX0_digest 46 = .ok (.iload_n 3, 1) := dk_29 (dk_at dksX0_digest_1 22 rfl rfl)
theorem dX0_digest_47 : decode cX0_digest 47 = .ok (.invokevirtual 693, 3) := dk_182 2 181 (dk_at dksX0_digest_2 0 rfl rfl)
theorem dX0_digest_50 : decode cX0_digest 50 = .ok (.lstore_n 1, 1) := dk_64 (dk_at dksX0_digest_2 3 rfl rfl)
theorem dX0_digest_51 : decode cX0_digest 51 = .ok (.iinc 3 1, 3) := dk_132 3 1 (dk_at dksX0_digest_2 4 rfl rfl)
theorem dX0_digest_54 : decode cX0_digest 54 = .ok (.goto (-21), 3) := dk_167 255 235 (dk_at dksX0_digest_2 7 rfl rfl)
theorem dX0_digest_57 : decode cX0_digest 57 = .ok (.aload_n 0, 1) := dk_42 (dk_at dksX0_digest_2 10 rfl rfl)
theorem dX0_digest_58 : decode cX0_digest 58 = .ok (.invokevirtual 449, 3) := dk_182 1 193 (dk_at dksX0_digest_2 11 rfl rfl)
theorem dX0_digest_61 : decode cX0_digest 61 = .ok (.iconst 0, 1) := dk_3 (dk_at dksX0_digest_2 14 rfl rfl)
theorem dX0_digest_62 : decode cX0_digest 62 = .ok (.istore_n 3, 1) := dk_62 (dk_at dksX0_digest_2 15 rfl rfl)
theorem dX0_digest_63 : decode cX0_digest 63 = .ok (.iload_n 3, 1) := dk_29 (dk_at dksX0_digest_2 16 rfl rfl)
theorem dX0_digest_64 : decode cX0_digest 64 = .ok (.bipush 6, 2) := dk_16 6 (dk_at dksX0_digest_2 17 rfl rfl)
theorem dX0_digest_66 : decode cX0_digest 66 = .ok (.if_icmp .ge 16, 3) := dk_162 0 16 (dk_at dksX0_digest_2 19 rfl rfl)
theorem dX0_digest_69 : decode cX0_digest 69 = .ok (.aload_n 0, 1) := dk_42 (dk_at dksX0_digest_2 22 rfl rfl)
theorem dX0_digest_70 : decode cX0_digest 70 = .ok (.lload_n 1, 1) := dk_31 (dk_at dksX0_digest_2 23 rfl rfl)
theorem dX0_digest_71 : decode cX0_digest 71 = .ok (.iload_n 3, 1) := dk_29 (dk_at dksX0_digest_3 0 rfl rfl)
theorem dX0_digest_72 : decode cX0_digest 72 = .ok (.invokevirtual 697, 3) := dk_182 2 185 (dk_at dksX0_digest_3 1 rfl rfl)
theorem dX0_digest_75 : decode cX0_digest 75 = .ok (.lstore_n 1, 1) := dk_64 (dk_at dksX0_digest_3 4 rfl rfl)
theorem dX0_digest_76 : decode cX0_digest 76 = .ok (.iinc 3 1, 3) := dk_132 3 1 (dk_at dksX0_digest_3 5 rfl rfl)
theorem dX0_digest_79 : decode cX0_digest 79 = .ok (.goto (-16), 3) := dk_167 255 240 (dk_at dksX0_digest_3 8 rfl rfl)
theorem dX0_digest_82 : decode cX0_digest 82 = .ok (.iconst 0, 1) := dk_3 (dk_at dksX0_digest_3 11 rfl rfl)
theorem dX0_digest_83 : decode cX0_digest 83 = .ok (.istore_n 3, 1) := dk_62 (dk_at dksX0_digest_3 12 rfl rfl)
theorem dX0_digest_84 : decode cX0_digest 84 = .ok (.iload_n 3, 1) := dk_29 (dk_at dksX0_digest_3 13 rfl rfl)
theorem dX0_digest_85 : decode cX0_digest 85 = .ok (.bipush 6, 2) := dk_16 6 (dk_at dksX0_digest_3 14 rfl rfl)
theorem dX0_digest_87 : decode cX0_digest 87 = .ok (.if_icmp .ge 25, 3) := dk_162 0 25 (dk_at dksX0_digest_3 16 rfl rfl)
theorem dX0_digest_90 : decode cX0_digest 90 = .ok (.aload_n 0, 1) := dk_42 (dk_at dksX0_digest_3 19 rfl rfl)
theorem dX0_digest_91 : decode cX0_digest 91 = .ok (.getfield 25, 3) := dk_180 0 25 (dk_at dksX0_digest_3 20 rfl rfl)
theorem dX0_digest_94 : decode cX0_digest 94 = .ok (.iload_n 3, 1) := dk_29 (dk_at dksX0_digest_3 23 rfl rfl)
theorem dX0_digest_95 : decode cX0_digest 95 = .ok (.aaload, 1) := dk_50 (dk_at dksX0_digest_4 0 rfl rfl)
theorem dX0_digest_96 : decode cX0_digest 96 = .ok (.ifnull 10, 3) := dk_198 0 10 (dk_at dksX0_digest_4 1 rfl rfl)
theorem dX0_digest_99 : decode cX0_digest 99 = .ok (.aload_n 0, 1) := dk_42 (dk_at dksX0_digest_4 4 rfl rfl)
theorem dX0_digest_100 : decode cX0_digest 100 = .ok (.lload_n 1, 1) := dk_31 (dk_at dksX0_digest_4 5 rfl rfl)
theorem dX0_digest_101 : decode cX0_digest 101 = .ok (.iload_n 3, 1) := dk_29 (dk_at dksX0_digest_4 6 rfl rfl)
theorem dX0_digest_102 : decode cX0_digest 102 = .ok (.invokevirtual 700, 3) := dk_182 2 188 (dk_at dksX0_digest_4 7 rfl rfl)
theorem dX0_digest_105 : decode cX0_digest 105 = .ok (.lstore_n 1, 1) := dk_64 (dk_at dksX0_digest_4 10 rfl rfl)
theorem dX0_digest_106 : decode cX0_digest 106 = .ok (.iinc 3 1, 3) := dk_132 3 1 (dk_at dksX0_digest_4 11 rfl rfl)
theorem dX0_digest_109 : decode cX0_digest 109 = .ok (.goto (-25), 3) := dk_167 255 231 (dk_at dksX0_digest_4 14 rfl rfl)
theorem dX0_digest_112 : decode cX0_digest 112 = .ok (.iconst 0, 1) := dk_3 (dk_at dksX0_digest_4 17 rfl rfl)
theorem dX0_digest_113 : decode cX0_digest 113 = .ok (.istore_n 3, 1) := dk_62 (dk_at dksX0_digest_4 18 rfl rfl)
theorem dX0_digest_114 : decode cX0_digest 114 = .ok (.iload_n 3, 1) := dk_29 (dk_at dksX0_digest_4 19 rfl rfl)
theorem dX0_digest_115 : decode cX0_digest 115 = .ok (.iconst 3, 1) := dk_6 (dk_at dksX0_digest_4 20 rfl rfl)
theorem dX0_digest_116 : decode cX0_digest 116 = .ok (.if_icmp .ge 23, 3) := dk_162 0 23 (dk_at dksX0_digest_4 21 rfl rfl)
theorem dX0_digest_119 : decode cX0_digest 119 = .ok (.ldc2_w 687, 3) := dk_20 2 175 (dk_at dksX0_digest_5 0 rfl rfl)
theorem dX0_digest_122 : decode cX0_digest 122 = .ok (.lload_n 1, 1) := dk_31 (dk_at dksX0_digest_5 3 rfl rfl)
theorem dX0_digest_123 : decode cX0_digest 123 = .ok (.lmul, 1) := dk_105 (dk_at dksX0_digest_5 4 rfl rfl)
theorem dX0_digest_124 : decode cX0_digest 124 = .ok (.aload_n 0, 1) := dk_42 (dk_at dksX0_digest_5 5 rfl rfl)
theorem dX0_digest_125 : decode cX0_digest 125 = .ok (.getfield 74, 3) := dk_180 0 74 (dk_at dksX0_digest_5 6 rfl rfl)
theorem dX0_digest_128 : decode cX0_digest 128 = .ok (.iload_n 3, 1) := dk_29 (dk_at dksX0_digest_5 9 rfl rfl)
theorem dX0_digest_129 : decode cX0_digest 129 = .ok (.iaload, 1) := dk_46 (dk_at dksX0_digest_5 10 rfl rfl)
theorem dX0_digest_130 : decode cX0_digest 130 = .ok (.i2l, 1) := dk_133 (dk_at dksX0_digest_5 11 rfl rfl)
theorem dX0_digest_131 : decode cX0_digest 131 = .ok (.ladd, 1) := dk_97 (dk_at dksX0_digest_5 12 rfl rfl)
theorem dX0_digest_132 : decode cX0_digest 132 = .ok (.lstore_n 1, 1) := dk_64 (dk_at dksX0_digest_5 13 rfl rfl)
theorem dX0_digest_133 : decode cX0_digest 133 = .ok (.iinc 3 1, 3) := dk_132 3 1 (dk_at dksX0_digest_5 14 rfl rfl)
theorem dX0_digest_136 : decode cX0_digest 136 = .ok (.goto (-22), 3) := dk_167 255 234 (dk_at dksX0_digest_5 17 rfl rfl)
theorem dX0_digest_139 : decode cX0_digest 139 = .ok (.iconst 0, 1) := dk_3 (dk_at dksX0_digest_5 20 rfl rfl)
theorem dX0_digest_140 : decode cX0_digest 140 = .ok (.istore_n 3, 1) := dk_62 (dk_at dksX0_digest_5 21 rfl rfl)
theorem dX0_digest_141 : decode cX0_digest 141 = .ok (.iload_n 3, 1) := dk_29 (dk_at dksX0_digest_5 22 rfl rfl)
theorem dX0_digest_142 : decode cX0_digest 142 = .ok (.bipush 10, 2) := dk_16 10 (dk_at dksX0_digest_6 0 rfl rfl)
theorem dX0_digest_144 : decode cX0_digest 144 = .ok (.if_icmp .ge 22, 3) := dk_162 0 22 (dk_at dksX0_digest_6 2 rfl rfl)
theorem dX0_digest_147 : decode cX0_digest 147 = .ok (.ldc2_w 687, 3) := dk_20 2 175 (dk_at dksX0_digest_6 5 rfl rfl)
theorem dX0_digest_150 : decode cX0_digest 150 = .ok (.lload_n 1, 1) := dk_31 (dk_at dksX0_digest_6 8 rfl rfl)
theorem dX0_digest_151 : decode cX0_digest 151 = .ok (.lmul, 1) := dk_105 (dk_at dksX0_digest_6 9 rfl rfl)
theorem dX0_digest_152 : decode cX0_digest 152 = .ok (.aload_n 0, 1) := dk_42 (dk_at dksX0_digest_6 10 rfl rfl)
theorem dX0_digest_153 : decode cX0_digest 153 = .ok (.iload_n 3, 1) := dk_29 (dk_at dksX0_digest_6 11 rfl rfl)
theorem dX0_digest_154 : decode cX0_digest 154 = .ok (.invokevirtual 678, 3) := dk_182 2 166 (dk_at dksX0_digest_6 12 rfl rfl)
theorem dX0_digest_157 : decode cX0_digest 157 = .ok (.i2l, 1) := dk_133 (dk_at dksX0_digest_6 15 rfl rfl)
theorem dX0_digest_158 : decode cX0_digest 158 = .ok (.ladd, 1) := dk_97 (dk_at dksX0_digest_6 16 rfl rfl)
theorem dX0_digest_159 : decode cX0_digest 159 = .ok (.lstore_n 1, 1) := dk_64 (dk_at dksX0_digest_6 17 rfl rfl)
theorem dX0_digest_160 : decode cX0_digest 160 = .ok (.iinc 3 1, 3) := dk_132 3 1 (dk_at dksX0_digest_6 18 rfl rfl)
theorem dX0_digest_163 : decode cX0_digest 163 = .ok (.goto (-22), 3) := dk_167 255 234 (dk_at dksX0_digest_6 21 rfl rfl)
theorem dX0_digest_166 : decode cX0_digest 166 = .ok (.lload_n 1, 1) := dk_31 (dk_at dksX0_digest_7 0 rfl rfl)
theorem dX0_digest_167 : decode cX0_digest 167 = .ok (.lreturn, 1) := dk_173 (dk_at dksX0_digest_7 1 rfl rfl)
abbrev cX0_tellsOf : ByteArray := prog_1_method_97_code
def yX0_tellsOf : MethodName := ⟨RX0, "tellsOf", "(JI)J"⟩
def dkwX0_tellsOf_8 : List UInt8 := [182, 1, 104, 182, 1, 108, 133, 97, 55, 4, 132, 6, 1, 167, 255, 226, 22, 4, 173]
abbrev dktX0_tellsOf_8 : List UInt8 := dkwX0_tellsOf_8 ++ []
def dkwX0_tellsOf_7 : List UInt8 := [167, 255, 140, 3, 54, 6, 21, 6, 16, 6, 162, 0, 29, 20, 2, 175, 22, 4, 105, 42, 29, 21, 6]
abbrev dktX0_tellsOf_7 : List UInt8 := dkwX0_tellsOf_7 ++ dktX0_tellsOf_8
def dkwX0_tellsOf_6 : List UInt8 := [3, 182, 1, 67, 21, 8, 182, 1, 71, 133, 97, 55, 4, 132, 8, 1, 167, 255, 209, 132, 6, 1]
abbrev dktX0_tellsOf_6 : List UInt8 := dkwX0_tellsOf_6 ++ dktX0_tellsOf_7
def dkwX0_tellsOf_5 : List UInt8 := [180, 0, 173, 158, 0, 40, 42, 21, 7, 182, 1, 61, 153, 0, 31, 20, 2, 175, 22, 4, 105, 42, 21, 7]
abbrev dktX0_tellsOf_5 : List UInt8 := dkwX0_tellsOf_5 ++ dktX0_tellsOf_6
def dkwX0_tellsOf_4 : List UInt8 := [132, 7, 1, 167, 255, 216, 6, 29, 104, 21, 6, 96, 54, 7, 3, 54, 8, 21, 8, 6, 162, 0, 47, 42]
abbrev dktX0_tellsOf_4 : List UInt8 := dkwX0_tellsOf_4 ++ dktX0_tellsOf_5
def dkwX0_tellsOf_3 : List UInt8 := [180, 0, 34, 29, 182, 0, 230, 192, 0, 209, 21, 6, 182, 0, 233, 21, 7, 182, 1, 47, 133, 97, 55, 4]
abbrev dktX0_tellsOf_3 : List UInt8 := dkwX0_tellsOf_3 ++ dktX0_tellsOf_4
def dkwX0_tellsOf_2 : List UInt8 := [21, 6, 5, 163, 0, 116, 3, 54, 7, 21, 7, 7, 162, 0, 40, 20, 2, 175, 22, 4, 105, 42]
abbrev dktX0_tellsOf_2 : List UInt8 := dkwX0_tellsOf_2 ++ dktX0_tellsOf_3
def dkwX0_tellsOf_1 : List UInt8 := [182, 0, 230, 192, 0, 209, 21, 6, 182, 1, 43, 133, 97, 55, 4, 132, 6, 1, 167, 255, 220, 3, 54, 6]
abbrev dktX0_tellsOf_1 : List UInt8 := dkwX0_tellsOf_1 ++ dktX0_tellsOf_2
def dkwX0_tellsOf_0 : List UInt8 := [31, 55, 4, 3, 54, 6, 21, 6, 16, 7, 162, 0, 35, 20, 2, 175, 22, 4, 105, 42, 180, 0, 34, 29]
abbrev dktX0_tellsOf_0 : List UInt8 := dkwX0_tellsOf_0 ++ dktX0_tellsOf_1
theorem dksX0_tellsOf_0 : cX0_tellsOf.data.toList.drop 0 = dktX0_tellsOf_0 := by decide +kernel
theorem dksX0_tellsOf_1 : cX0_tellsOf.data.toList.drop 24 = dktX0_tellsOf_1 := dk_seg dksX0_tellsOf_0 24 rfl rfl
theorem dksX0_tellsOf_2 : cX0_tellsOf.data.toList.drop 48 = dktX0_tellsOf_2 := dk_seg dksX0_tellsOf_1 24 rfl rfl
theorem dksX0_tellsOf_3 : cX0_tellsOf.data.toList.drop 70 = dktX0_tellsOf_3 := dk_seg dksX0_tellsOf_2 22 rfl rfl
theorem dksX0_tellsOf_4 : cX0_tellsOf.data.toList.drop 94 = dktX0_tellsOf_4 := dk_seg dksX0_tellsOf_3 24 rfl rfl
theorem dksX0_tellsOf_5 : cX0_tellsOf.data.toList.drop 118 = dktX0_tellsOf_5 := dk_seg dksX0_tellsOf_4 24 rfl rfl
theorem dksX0_tellsOf_6 : cX0_tellsOf.data.toList.drop 142 = dktX0_tellsOf_6 := dk_seg dksX0_tellsOf_5 24 rfl rfl
theorem dksX0_tellsOf_7 : cX0_tellsOf.data.toList.drop 164 = dktX0_tellsOf_7 := dk_seg dksX0_tellsOf_6 22 rfl rfl
theorem dksX0_tellsOf_8 : cX0_tellsOf.data.toList.drop 187 = dktX0_tellsOf_8 := dk_seg dksX0_tellsOf_7 23 rfl rfl
theorem dX0_tellsOf_0 : decode cX0_tellsOf 0 = .ok (.lload_n 1, 1) := dk_31 (dk_at dksX0_tellsOf_0 0 rfl rfl)
theorem dX0_tellsOf_1 : decode cX0_tellsOf 1 = .ok (.lstore 4, 2) := dk_55 4 (dk_at dksX0_tellsOf_0 1 rfl rfl)
theorem dX0_tellsOf_3 : decode cX0_tellsOf 3 = .ok (.iconst 0, 1) := dk_3 (dk_at dksX0_tellsOf_0 3 rfl rfl)
theorem dX0_tellsOf_4 : decode cX0_tellsOf 4 = .ok (.istore 6, 2) := dk_54 6 (dk_at dksX0_tellsOf_0 4 rfl rfl)
theorem dX0_tellsOf_6 : decode cX0_tellsOf 6 = .ok (.iload 6, 2) := dk_21 6 (dk_at dksX0_tellsOf_0 6 rfl rfl)
theorem dX0_tellsOf_8 : decode cX0_tellsOf 8 = .ok (.bipush 7, 2) := dk_16 7 (dk_at dksX0_tellsOf_0 8 rfl rfl)
theorem dX0_tellsOf_10 : decode cX0_tellsOf 10 = .ok (.if_icmp .ge 35, 3) := dk_162 0 35 (dk_at dksX0_tellsOf_0 10 rfl rfl)
theorem dX0_tellsOf_13 : decode cX0_tellsOf 13 = .ok (.ldc2_w 687, 3) := dk_20 2 175 (dk_at dksX0_tellsOf_0 13 rfl rfl)
theorem dX0_tellsOf_16 : decode cX0_tellsOf 16 = .ok (.lload 4, 2) := dk_22 4 (dk_at dksX0_tellsOf_0 16 rfl rfl)
theorem dX0_tellsOf_18 : decode cX0_tellsOf 18 = .ok (.lmul, 1) := dk_105 (dk_at dksX0_tellsOf_0 18 rfl rfl)
theorem dX0_tellsOf_19 : decode cX0_tellsOf 19 = .ok (.aload_n 0, 1) := dk_42 (dk_at dksX0_tellsOf_0 19 rfl rfl)
theorem dX0_tellsOf_20 : decode cX0_tellsOf 20 = .ok (.getfield 34, 3) := dk_180 0 34 (dk_at dksX0_tellsOf_0 20 rfl rfl)
theorem dX0_tellsOf_23 : decode cX0_tellsOf 23 = .ok (.iload_n 3, 1) := dk_29 (dk_at dksX0_tellsOf_0 23 rfl rfl)
theorem dX0_tellsOf_24 : decode cX0_tellsOf 24 = .ok (.invokevirtual 230, 3) := dk_182 0 230 (dk_at dksX0_tellsOf_1 0 rfl rfl)
theorem dX0_tellsOf_27 : decode cX0_tellsOf 27 = .ok (.checkcast 209, 3) := dk_192 0 209 (dk_at dksX0_tellsOf_1 3 rfl rfl)
theorem dX0_tellsOf_30 : decode cX0_tellsOf 30 = .ok (.iload 6, 2) := dk_21 6 (dk_at dksX0_tellsOf_1 6 rfl rfl)
theorem dX0_tellsOf_32 : decode cX0_tellsOf 32 = .ok (.invokevirtual 299, 3) := dk_182 1 43 (dk_at dksX0_tellsOf_1 8 rfl rfl)
theorem dX0_tellsOf_35 : decode cX0_tellsOf 35 = .ok (.i2l, 1) := dk_133 (dk_at dksX0_tellsOf_1 11 rfl rfl)
theorem dX0_tellsOf_36 : decode cX0_tellsOf 36 = .ok (.ladd, 1) := dk_97 (dk_at dksX0_tellsOf_1 12 rfl rfl)
theorem dX0_tellsOf_37 : decode cX0_tellsOf 37 = .ok (.lstore 4, 2) := dk_55 4 (dk_at dksX0_tellsOf_1 13 rfl rfl)
theorem dX0_tellsOf_39 : decode cX0_tellsOf 39 = .ok (.iinc 6 1, 3) := dk_132 6 1 (dk_at dksX0_tellsOf_1 15 rfl rfl)
theorem dX0_tellsOf_42 : decode cX0_tellsOf 42 = .ok (.goto (-36), 3) := dk_167 255 220 (dk_at dksX0_tellsOf_1 18 rfl rfl)
theorem dX0_tellsOf_45 : decode cX0_tellsOf 45 = .ok (.iconst 0, 1) := dk_3 (dk_at dksX0_tellsOf_1 21 rfl rfl)
theorem dX0_tellsOf_46 : decode cX0_tellsOf 46 = .ok (.istore 6, 2) := dk_54 6 (dk_at dksX0_tellsOf_1 22 rfl rfl)
theorem dX0_tellsOf_48 : decode cX0_tellsOf 48 = .ok (.iload 6, 2) := dk_21 6 (dk_at dksX0_tellsOf_2 0 rfl rfl)
theorem dX0_tellsOf_50 : decode cX0_tellsOf 50 = .ok (.iconst 2, 1) := dk_5 (dk_at dksX0_tellsOf_2 2 rfl rfl)
theorem dX0_tellsOf_51 : decode cX0_tellsOf 51 = .ok (.if_icmp .gt 116, 3) := dk_163 0 116 (dk_at dksX0_tellsOf_2 3 rfl rfl)
theorem dX0_tellsOf_54 : decode cX0_tellsOf 54 = .ok (.iconst 0, 1) := dk_3 (dk_at dksX0_tellsOf_2 6 rfl rfl)
theorem dX0_tellsOf_55 : decode cX0_tellsOf 55 = .ok (.istore 7, 2) := dk_54 7 (dk_at dksX0_tellsOf_2 7 rfl rfl)
theorem dX0_tellsOf_57 : decode cX0_tellsOf 57 = .ok (.iload 7, 2) := dk_21 7 (dk_at dksX0_tellsOf_2 9 rfl rfl)
theorem dX0_tellsOf_59 : decode cX0_tellsOf 59 = .ok (.iconst 4, 1) := dk_7 (dk_at dksX0_tellsOf_2 11 rfl rfl)
theorem dX0_tellsOf_60 : decode cX0_tellsOf 60 = .ok (.if_icmp .ge 40, 3) := dk_162 0 40 (dk_at dksX0_tellsOf_2 12 rfl rfl)
theorem dX0_tellsOf_63 : decode cX0_tellsOf 63 = .ok (.ldc2_w 687, 3) := dk_20 2 175 (dk_at dksX0_tellsOf_2 15 rfl rfl)
theorem dX0_tellsOf_66 : decode cX0_tellsOf 66 = .ok (.lload 4, 2) := dk_22 4 (dk_at dksX0_tellsOf_2 18 rfl rfl)
theorem dX0_tellsOf_68 : decode cX0_tellsOf 68 = .ok (.lmul, 1) := dk_105 (dk_at dksX0_tellsOf_2 20 rfl rfl)
theorem dX0_tellsOf_69 : decode cX0_tellsOf 69 = .ok (.aload_n 0, 1) := dk_42 (dk_at dksX0_tellsOf_2 21 rfl rfl)
theorem dX0_tellsOf_70 : decode cX0_tellsOf 70 = .ok (.getfield 34, 3) := dk_180 0 34 (dk_at dksX0_tellsOf_3 0 rfl rfl)
theorem dX0_tellsOf_73 : decode cX0_tellsOf 73 = .ok (.iload_n 3, 1) := dk_29 (dk_at dksX0_tellsOf_3 3 rfl rfl)
theorem dX0_tellsOf_74 : decode cX0_tellsOf 74 = .ok (.invokevirtual 230, 3) := dk_182 0 230 (dk_at dksX0_tellsOf_3 4 rfl rfl)
theorem dX0_tellsOf_77 : decode cX0_tellsOf 77 = .ok (.checkcast 209, 3) := dk_192 0 209 (dk_at dksX0_tellsOf_3 7 rfl rfl)
theorem dX0_tellsOf_80 : decode cX0_tellsOf 80 = .ok (.iload 6, 2) := dk_21 6 (dk_at dksX0_tellsOf_3 10 rfl rfl)
theorem dX0_tellsOf_82 : decode cX0_tellsOf 82 = .ok (.invokevirtual 233, 3) := dk_182 0 233 (dk_at dksX0_tellsOf_3 12 rfl rfl)
theorem dX0_tellsOf_85 : decode cX0_tellsOf 85 = .ok (.iload 7, 2) := dk_21 7 (dk_at dksX0_tellsOf_3 15 rfl rfl)
theorem dX0_tellsOf_87 : decode cX0_tellsOf 87 = .ok (.invokevirtual 303, 3) := dk_182 1 47 (dk_at dksX0_tellsOf_3 17 rfl rfl)
theorem dX0_tellsOf_90 : decode cX0_tellsOf 90 = .ok (.i2l, 1) := dk_133 (dk_at dksX0_tellsOf_3 20 rfl rfl)
theorem dX0_tellsOf_91 : decode cX0_tellsOf 91 = .ok (.ladd, 1) := dk_97 (dk_at dksX0_tellsOf_3 21 rfl rfl)
theorem dX0_tellsOf_92 : decode cX0_tellsOf 92 = .ok (.lstore 4, 2) := dk_55 4 (dk_at dksX0_tellsOf_3 22 rfl rfl)
theorem dX0_tellsOf_94 : decode cX0_tellsOf 94 = .ok (.iinc 7 1, 3) := dk_132 7 1 (dk_at dksX0_tellsOf_4 0 rfl rfl)
theorem dX0_tellsOf_97 : decode cX0_tellsOf 97 = .ok (.goto (-40), 3) := dk_167 255 216 (dk_at dksX0_tellsOf_4 3 rfl rfl)
theorem dX0_tellsOf_100 : decode cX0_tellsOf 100 = .ok (.iconst 3, 1) := dk_6 (dk_at dksX0_tellsOf_4 6 rfl rfl)
theorem dX0_tellsOf_101 : decode cX0_tellsOf 101 = .ok (.iload_n 3, 1) := dk_29 (dk_at dksX0_tellsOf_4 7 rfl rfl)
theorem dX0_tellsOf_102 : decode cX0_tellsOf 102 = .ok (.imul, 1) := dk_104 (dk_at dksX0_tellsOf_4 8 rfl rfl)
theorem dX0_tellsOf_103 : decode cX0_tellsOf 103 = .ok (.iload 6, 2) := dk_21 6 (dk_at dksX0_tellsOf_4 9 rfl rfl)
theorem dX0_tellsOf_105 : decode cX0_tellsOf 105 = .ok (.iadd, 1) := dk_96 (dk_at dksX0_tellsOf_4 11 rfl rfl)
theorem dX0_tellsOf_106 : decode cX0_tellsOf 106 = .ok (.istore 7, 2) := dk_54 7 (dk_at dksX0_tellsOf_4 12 rfl rfl)
theorem dX0_tellsOf_108 : decode cX0_tellsOf 108 = .ok (.iconst 0, 1) := dk_3 (dk_at dksX0_tellsOf_4 14 rfl rfl)
theorem dX0_tellsOf_109 : decode cX0_tellsOf 109 = .ok (.istore 8, 2) := dk_54 8 (dk_at dksX0_tellsOf_4 15 rfl rfl)
theorem dX0_tellsOf_111 : decode cX0_tellsOf 111 = .ok (.iload 8, 2) := dk_21 8 (dk_at dksX0_tellsOf_4 17 rfl rfl)
theorem dX0_tellsOf_113 : decode cX0_tellsOf 113 = .ok (.iconst 3, 1) := dk_6 (dk_at dksX0_tellsOf_4 19 rfl rfl)
theorem dX0_tellsOf_114 : decode cX0_tellsOf 114 = .ok (.if_icmp .ge 47, 3) := dk_162 0 47 (dk_at dksX0_tellsOf_4 20 rfl rfl)
theorem dX0_tellsOf_117 : decode cX0_tellsOf 117 = .ok (.aload_n 0, 1) := dk_42 (dk_at dksX0_tellsOf_4 23 rfl rfl)
theorem dX0_tellsOf_118 : decode cX0_tellsOf 118 = .ok (.getfield 173, 3) := dk_180 0 173 (dk_at dksX0_tellsOf_5 0 rfl rfl)
theorem dX0_tellsOf_121 : decode cX0_tellsOf 121 = .ok (.ifCond .le 40, 3) := dk_158 0 40 (dk_at dksX0_tellsOf_5 3 rfl rfl)
theorem dX0_tellsOf_124 : decode cX0_tellsOf 124 = .ok (.aload_n 0, 1) := dk_42 (dk_at dksX0_tellsOf_5 6 rfl rfl)
theorem dX0_tellsOf_125 : decode cX0_tellsOf 125 = .ok (.iload 7, 2) := dk_21 7 (dk_at dksX0_tellsOf_5 7 rfl rfl)
theorem dX0_tellsOf_127 : decode cX0_tellsOf 127 = .ok (.invokevirtual 317, 3) := dk_182 1 61 (dk_at dksX0_tellsOf_5 9 rfl rfl)
theorem dX0_tellsOf_130 : decode cX0_tellsOf 130 = .ok (.ifCond .eq 31, 3) := dk_153 0 31 (dk_at dksX0_tellsOf_5 12 rfl rfl)
theorem dX0_tellsOf_133 : decode cX0_tellsOf 133 = .ok (.ldc2_w 687, 3) := dk_20 2 175 (dk_at dksX0_tellsOf_5 15 rfl rfl)
theorem dX0_tellsOf_136 : decode cX0_tellsOf 136 = .ok (.lload 4, 2) := dk_22 4 (dk_at dksX0_tellsOf_5 18 rfl rfl)
theorem dX0_tellsOf_138 : decode cX0_tellsOf 138 = .ok (.lmul, 1) := dk_105 (dk_at dksX0_tellsOf_5 20 rfl rfl)
theorem dX0_tellsOf_139 : decode cX0_tellsOf 139 = .ok (.aload_n 0, 1) := dk_42 (dk_at dksX0_tellsOf_5 21 rfl rfl)
theorem dX0_tellsOf_140 : decode cX0_tellsOf 140 = .ok (.iload 7, 2) := dk_21 7 (dk_at dksX0_tellsOf_5 22 rfl rfl)
theorem dX0_tellsOf_142 : decode cX0_tellsOf 142 = .ok (.iconst 0, 1) := dk_3 (dk_at dksX0_tellsOf_6 0 rfl rfl)
theorem dX0_tellsOf_143 : decode cX0_tellsOf 143 = .ok (.invokevirtual 323, 3) := dk_182 1 67 (dk_at dksX0_tellsOf_6 1 rfl rfl)
theorem dX0_tellsOf_146 : decode cX0_tellsOf 146 = .ok (.iload 8, 2) := dk_21 8 (dk_at dksX0_tellsOf_6 4 rfl rfl)
theorem dX0_tellsOf_148 : decode cX0_tellsOf 148 = .ok (.invokevirtual 327, 3) := dk_182 1 71 (dk_at dksX0_tellsOf_6 6 rfl rfl)
theorem dX0_tellsOf_151 : decode cX0_tellsOf 151 = .ok (.i2l, 1) := dk_133 (dk_at dksX0_tellsOf_6 9 rfl rfl)
theorem dX0_tellsOf_152 : decode cX0_tellsOf 152 = .ok (.ladd, 1) := dk_97 (dk_at dksX0_tellsOf_6 10 rfl rfl)
theorem dX0_tellsOf_153 : decode cX0_tellsOf 153 = .ok (.lstore 4, 2) := dk_55 4 (dk_at dksX0_tellsOf_6 11 rfl rfl)
theorem dX0_tellsOf_155 : decode cX0_tellsOf 155 = .ok (.iinc 8 1, 3) := dk_132 8 1 (dk_at dksX0_tellsOf_6 13 rfl rfl)
theorem dX0_tellsOf_158 : decode cX0_tellsOf 158 = .ok (.goto (-47), 3) := dk_167 255 209 (dk_at dksX0_tellsOf_6 16 rfl rfl)
theorem dX0_tellsOf_161 : decode cX0_tellsOf 161 = .ok (.iinc 6 1, 3) := dk_132 6 1 (dk_at dksX0_tellsOf_6 19 rfl rfl)
theorem dX0_tellsOf_164 : decode cX0_tellsOf 164 = .ok (.goto (-116), 3) := dk_167 255 140 (dk_at dksX0_tellsOf_7 0 rfl rfl)
theorem dX0_tellsOf_167 : decode cX0_tellsOf 167 = .ok (.iconst 0, 1) := dk_3 (dk_at dksX0_tellsOf_7 3 rfl rfl)
theorem dX0_tellsOf_168 : decode cX0_tellsOf 168 = .ok (.istore 6, 2) := dk_54 6 (dk_at dksX0_tellsOf_7 4 rfl rfl)
theorem dX0_tellsOf_170 : decode cX0_tellsOf 170 = .ok (.iload 6, 2) := dk_21 6 (dk_at dksX0_tellsOf_7 6 rfl rfl)
theorem dX0_tellsOf_172 : decode cX0_tellsOf 172 = .ok (.bipush 6, 2) := dk_16 6 (dk_at dksX0_tellsOf_7 8 rfl rfl)
theorem dX0_tellsOf_174 : decode cX0_tellsOf 174 = .ok (.if_icmp .ge 29, 3) := dk_162 0 29 (dk_at dksX0_tellsOf_7 10 rfl rfl)
theorem dX0_tellsOf_177 : decode cX0_tellsOf 177 = .ok (.ldc2_w 687, 3) := dk_20 2 175 (dk_at dksX0_tellsOf_7 13 rfl rfl)
theorem dX0_tellsOf_180 : decode cX0_tellsOf 180 = .ok (.lload 4, 2) := dk_22 4 (dk_at dksX0_tellsOf_7 16 rfl rfl)
theorem dX0_tellsOf_182 : decode cX0_tellsOf 182 = .ok (.lmul, 1) := dk_105 (dk_at dksX0_tellsOf_7 18 rfl rfl)
theorem dX0_tellsOf_183 : decode cX0_tellsOf 183 = .ok (.aload_n 0, 1) := dk_42 (dk_at dksX0_tellsOf_7 19 rfl rfl)
theorem dX0_tellsOf_184 : decode cX0_tellsOf 184 = .ok (.iload_n 3, 1) := dk_29 (dk_at dksX0_tellsOf_7 20 rfl rfl)
theorem dX0_tellsOf_185 : decode cX0_tellsOf 185 = .ok (.iload 6, 2) := dk_21 6 (dk_at dksX0_tellsOf_7 21 rfl rfl)
theorem dX0_tellsOf_187 : decode cX0_tellsOf 187 = .ok (.invokevirtual 360, 3) := dk_182 1 104 (dk_at dksX0_tellsOf_8 0 rfl rfl)
theorem dX0_tellsOf_190 : decode cX0_tellsOf 190 = .ok (.invokevirtual 364, 3) := dk_182 1 108 (dk_at dksX0_tellsOf_8 3 rfl rfl)
theorem dX0_tellsOf_193 : decode cX0_tellsOf 193 = .ok (.i2l, 1) := dk_133 (dk_at dksX0_tellsOf_8 6 rfl rfl)
theorem dX0_tellsOf_194 : decode cX0_tellsOf 194 = .ok (.ladd, 1) := dk_97 (dk_at dksX0_tellsOf_8 7 rfl rfl)
theorem dX0_tellsOf_195 : decode cX0_tellsOf 195 = .ok (.lstore 4, 2) := dk_55 4 (dk_at dksX0_tellsOf_8 8 rfl rfl)
theorem dX0_tellsOf_197 : decode cX0_tellsOf 197 = .ok (.iinc 6 1, 3) := dk_132 6 1 (dk_at dksX0_tellsOf_8 10 rfl rfl)
theorem dX0_tellsOf_200 : decode cX0_tellsOf 200 = .ok (.goto (-30), 3) := dk_167 255 226 (dk_at dksX0_tellsOf_8 13 rfl rfl)
theorem dX0_tellsOf_203 : decode cX0_tellsOf 203 = .ok (.lload 4, 2) := dk_22 4 (dk_at dksX0_tellsOf_8 16 rfl rfl)
theorem dX0_tellsOf_205 : decode cX0_tellsOf 205 = .ok (.lreturn, 1) := dk_173 (dk_at dksX0_tellsOf_8 18 rfl rfl)
abbrev cX0_tellsRow : ByteArray := prog_1_method_98_code
def yX0_tellsRow : MethodName := ⟨RX0, "tellsRow", "(JI)J"⟩
def dkwX0_tellsRow_6 : List UInt8 := [167, 255, 165, 22, 4, 173]
abbrev dktX0_tellsRow_6 : List UInt8 := dkwX0_tellsRow_6 ++ []
def dkwX0_tellsRow_5 : List UInt8 := [21, 6, 29, 21, 7, 182, 1, 196, 184, 1, 200, 133, 97, 55, 4, 132, 7, 1, 167, 255, 222, 132, 6, 1]
abbrev dktX0_tellsRow_5 : List UInt8 := dkwX0_tellsRow_5 ++ dktX0_tellsRow_6
def dkwX0_tellsRow_4 : List UInt8 := [133, 97, 55, 4, 3, 54, 7, 21, 7, 42, 180, 0, 173, 162, 0, 31, 20, 2, 175, 22, 4, 105, 42]
abbrev dktX0_tellsRow_4 : List UInt8 := dkwX0_tellsRow_4 ++ dktX0_tellsRow_5
def dkwX0_tellsRow_3 : List UInt8 := [184, 1, 200, 133, 97, 55, 4, 20, 2, 175, 22, 4, 105, 42, 21, 6, 29, 2, 182, 1, 196, 184, 1, 223]
abbrev dktX0_tellsRow_3 : List UInt8 := dkwX0_tellsRow_3 ++ dktX0_tellsRow_4
def dkwX0_tellsRow_2 : List UInt8 := [54, 6, 21, 6, 7, 162, 0, 91, 20, 2, 175, 22, 4, 105, 42, 21, 6, 29, 2, 182, 1, 196]
abbrev dktX0_tellsRow_2 : List UInt8 := dkwX0_tellsRow_2 ++ dktX0_tellsRow_3
def dkwX0_tellsRow_1 : List UInt8 := [20, 2, 175, 22, 4, 105, 42, 29, 21, 6, 182, 1, 253, 133, 97, 55, 4, 132, 6, 1, 167, 255, 230, 3]
abbrev dktX0_tellsRow_1 : List UInt8 := dkwX0_tellsRow_1 ++ dktX0_tellsRow_2
def dkwX0_tellsRow_0 : List UInt8 := [20, 2, 175, 31, 105, 42, 29, 182, 1, 246, 133, 97, 55, 4, 3, 54, 6, 21, 6, 6, 162, 0, 26]
abbrev dktX0_tellsRow_0 : List UInt8 := dkwX0_tellsRow_0 ++ dktX0_tellsRow_1
theorem dksX0_tellsRow_0 : cX0_tellsRow.data.toList.drop 0 = dktX0_tellsRow_0 := by decide +kernel
theorem dksX0_tellsRow_1 : cX0_tellsRow.data.toList.drop 23 = dktX0_tellsRow_1 := dk_seg dksX0_tellsRow_0 23 rfl rfl
theorem dksX0_tellsRow_2 : cX0_tellsRow.data.toList.drop 47 = dktX0_tellsRow_2 := dk_seg dksX0_tellsRow_1 24 rfl rfl
theorem dksX0_tellsRow_3 : cX0_tellsRow.data.toList.drop 69 = dktX0_tellsRow_3 := dk_seg dksX0_tellsRow_2 22 rfl rfl
theorem dksX0_tellsRow_4 : cX0_tellsRow.data.toList.drop 93 = dktX0_tellsRow_4 := dk_seg dksX0_tellsRow_3 24 rfl rfl
theorem dksX0_tellsRow_5 : cX0_tellsRow.data.toList.drop 116 = dktX0_tellsRow_5 := dk_seg dksX0_tellsRow_4 23 rfl rfl
theorem dksX0_tellsRow_6 : cX0_tellsRow.data.toList.drop 140 = dktX0_tellsRow_6 := dk_seg dksX0_tellsRow_5 24 rfl rfl
theorem dX0_tellsRow_0 : decode cX0_tellsRow 0 = .ok (.ldc2_w 687, 3) := dk_20 2 175 (dk_at dksX0_tellsRow_0 0 rfl rfl)
theorem dX0_tellsRow_3 : decode cX0_tellsRow 3 = .ok (.lload_n 1, 1) := dk_31 (dk_at dksX0_tellsRow_0 3 rfl rfl)
theorem dX0_tellsRow_4 : decode cX0_tellsRow 4 = .ok (.lmul, 1) := dk_105 (dk_at dksX0_tellsRow_0 4 rfl rfl)
theorem dX0_tellsRow_5 : decode cX0_tellsRow 5 = .ok (.aload_n 0, 1) := dk_42 (dk_at dksX0_tellsRow_0 5 rfl rfl)
theorem dX0_tellsRow_6 : decode cX0_tellsRow 6 = .ok (.iload_n 3, 1) := dk_29 (dk_at dksX0_tellsRow_0 6 rfl rfl)
theorem dX0_tellsRow_7 : decode cX0_tellsRow 7 = .ok (.invokevirtual 502, 3) := dk_182 1 246 (dk_at dksX0_tellsRow_0 7 rfl rfl)
theorem dX0_tellsRow_10 : decode cX0_tellsRow 10 = .ok (.i2l, 1) := dk_133 (dk_at dksX0_tellsRow_0 10 rfl rfl)
theorem dX0_tellsRow_11 : decode cX0_tellsRow 11 = .ok (.ladd, 1) := dk_97 (dk_at dksX0_tellsRow_0 11 rfl rfl)
theorem dX0_tellsRow_12 : decode cX0_tellsRow 12 = .ok (.lstore 4, 2) := dk_55 4 (dk_at dksX0_tellsRow_0 12 rfl rfl)
theorem dX0_tellsRow_14 : decode cX0_tellsRow 14 = .ok (.iconst 0, 1) := dk_3 (dk_at dksX0_tellsRow_0 14 rfl rfl)
theorem dX0_tellsRow_15 : decode cX0_tellsRow 15 = .ok (.istore 6, 2) := dk_54 6 (dk_at dksX0_tellsRow_0 15 rfl rfl)
theorem dX0_tellsRow_17 : decode cX0_tellsRow 17 = .ok (.iload 6, 2) := dk_21 6 (dk_at dksX0_tellsRow_0 17 rfl rfl)
theorem dX0_tellsRow_19 : decode cX0_tellsRow 19 = .ok (.iconst 3, 1) := dk_6 (dk_at dksX0_tellsRow_0 19 rfl rfl)
theorem dX0_tellsRow_20 : decode cX0_tellsRow 20 = .ok (.if_icmp .ge 26, 3) := dk_162 0 26 (dk_at dksX0_tellsRow_0 20 rfl rfl)
theorem dX0_tellsRow_23 : decode cX0_tellsRow 23 = .ok (.ldc2_w 687, 3) := dk_20 2 175 (dk_at dksX0_tellsRow_1 0 rfl rfl)
theorem dX0_tellsRow_26 : decode cX0_tellsRow 26 = .ok (.lload 4, 2) := dk_22 4 (dk_at dksX0_tellsRow_1 3 rfl rfl)
theorem dX0_tellsRow_28 : decode cX0_tellsRow 28 = .ok (.lmul, 1) := dk_105 (dk_at dksX0_tellsRow_1 5 rfl rfl)
theorem dX0_tellsRow_29 : decode cX0_tellsRow 29 = .ok (.aload_n 0, 1) := dk_42 (dk_at dksX0_tellsRow_1 6 rfl rfl)
theorem dX0_tellsRow_30 : decode cX0_tellsRow 30 = .ok (.iload_n 3, 1) := dk_29 (dk_at dksX0_tellsRow_1 7 rfl rfl)
theorem dX0_tellsRow_31 : decode cX0_tellsRow 31 = .ok (.iload 6, 2) := dk_21 6 (dk_at dksX0_tellsRow_1 8 rfl rfl)
theorem dX0_tellsRow_33 : decode cX0_tellsRow 33 = .ok (.invokevirtual 509, 3) := dk_182 1 253 (dk_at dksX0_tellsRow_1 10 rfl rfl)
theorem dX0_tellsRow_36 : decode cX0_tellsRow 36 = .ok (.i2l, 1) := dk_133 (dk_at dksX0_tellsRow_1 13 rfl rfl)
theorem dX0_tellsRow_37 : decode cX0_tellsRow 37 = .ok (.ladd, 1) := dk_97 (dk_at dksX0_tellsRow_1 14 rfl rfl)
theorem dX0_tellsRow_38 : decode cX0_tellsRow 38 = .ok (.lstore 4, 2) := dk_55 4 (dk_at dksX0_tellsRow_1 15 rfl rfl)
theorem dX0_tellsRow_40 : decode cX0_tellsRow 40 = .ok (.iinc 6 1, 3) := dk_132 6 1 (dk_at dksX0_tellsRow_1 17 rfl rfl)
theorem dX0_tellsRow_43 : decode cX0_tellsRow 43 = .ok (.goto (-26), 3) := dk_167 255 230 (dk_at dksX0_tellsRow_1 20 rfl rfl)
theorem dX0_tellsRow_46 : decode cX0_tellsRow 46 = .ok (.iconst 0, 1) := dk_3 (dk_at dksX0_tellsRow_1 23 rfl rfl)
theorem dX0_tellsRow_47 : decode cX0_tellsRow 47 = .ok (.istore 6, 2) := dk_54 6 (dk_at dksX0_tellsRow_2 0 rfl rfl)
theorem dX0_tellsRow_49 : decode cX0_tellsRow 49 = .ok (.iload 6, 2) := dk_21 6 (dk_at dksX0_tellsRow_2 2 rfl rfl)
theorem dX0_tellsRow_51 : decode cX0_tellsRow 51 = .ok (.iconst 4, 1) := dk_7 (dk_at dksX0_tellsRow_2 4 rfl rfl)
theorem dX0_tellsRow_52 : decode cX0_tellsRow 52 = .ok (.if_icmp .ge 91, 3) := dk_162 0 91 (dk_at dksX0_tellsRow_2 5 rfl rfl)
theorem dX0_tellsRow_55 : decode cX0_tellsRow 55 = .ok (.ldc2_w 687, 3) := dk_20 2 175 (dk_at dksX0_tellsRow_2 8 rfl rfl)
theorem dX0_tellsRow_58 : decode cX0_tellsRow 58 = .ok (.lload 4, 2) := dk_22 4 (dk_at dksX0_tellsRow_2 11 rfl rfl)
theorem dX0_tellsRow_60 : decode cX0_tellsRow 60 = .ok (.lmul, 1) := dk_105 (dk_at dksX0_tellsRow_2 13 rfl rfl)
theorem dX0_tellsRow_61 : decode cX0_tellsRow 61 = .ok (.aload_n 0, 1) := dk_42 (dk_at dksX0_tellsRow_2 14 rfl rfl)
theorem dX0_tellsRow_62 : decode cX0_tellsRow 62 = .ok (.iload 6, 2) := dk_21 6 (dk_at dksX0_tellsRow_2 15 rfl rfl)
theorem dX0_tellsRow_64 : decode cX0_tellsRow 64 = .ok (.iload_n 3, 1) := dk_29 (dk_at dksX0_tellsRow_2 17 rfl rfl)
theorem dX0_tellsRow_65 : decode cX0_tellsRow 65 = .ok (.iconst (-1), 1) := dk_2 (dk_at dksX0_tellsRow_2 18 rfl rfl)
theorem dX0_tellsRow_66 : decode cX0_tellsRow 66 = .ok (.invokevirtual 452, 3) := dk_182 1 196 (dk_at dksX0_tellsRow_2 19 rfl rfl)
theorem dX0_tellsRow_69 : decode cX0_tellsRow 69 = .ok (.invokestatic 456, 3) := dk_184 1 200 (dk_at dksX0_tellsRow_3 0 rfl rfl)
theorem dX0_tellsRow_72 : decode cX0_tellsRow 72 = .ok (.i2l, 1) := dk_133 (dk_at dksX0_tellsRow_3 3 rfl rfl)
theorem dX0_tellsRow_73 : decode cX0_tellsRow 73 = .ok (.ladd, 1) := dk_97 (dk_at dksX0_tellsRow_3 4 rfl rfl)
theorem dX0_tellsRow_74 : decode cX0_tellsRow 74 = .ok (.lstore 4, 2) := dk_55 4 (dk_at dksX0_tellsRow_3 5 rfl rfl)
theorem dX0_tellsRow_76 : decode cX0_tellsRow 76 = .ok (.ldc2_w 687, 3) := dk_20 2 175 (dk_at dksX0_tellsRow_3 7 rfl rfl)
theorem dX0_tellsRow_79 : decode cX0_tellsRow 79 = .ok (.lload 4, 2) := dk_22 4 (dk_at dksX0_tellsRow_3 10 rfl rfl)
theorem dX0_tellsRow_81 : decode cX0_tellsRow 81 = .ok (.lmul, 1) := dk_105 (dk_at dksX0_tellsRow_3 12 rfl rfl)
theorem dX0_tellsRow_82 : decode cX0_tellsRow 82 = .ok (.aload_n 0, 1) := dk_42 (dk_at dksX0_tellsRow_3 13 rfl rfl)
theorem dX0_tellsRow_83 : decode cX0_tellsRow 83 = .ok (.iload 6, 2) := dk_21 6 (dk_at dksX0_tellsRow_3 14 rfl rfl)
theorem dX0_tellsRow_85 : decode cX0_tellsRow 85 = .ok (.iload_n 3, 1) := dk_29 (dk_at dksX0_tellsRow_3 16 rfl rfl)
theorem dX0_tellsRow_86 : decode cX0_tellsRow 86 = .ok (.iconst (-1), 1) := dk_2 (dk_at dksX0_tellsRow_3 17 rfl rfl)
theorem dX0_tellsRow_87 : decode cX0_tellsRow 87 = .ok (.invokevirtual 452, 3) := dk_182 1 196 (dk_at dksX0_tellsRow_3 18 rfl rfl)
theorem dX0_tellsRow_90 : decode cX0_tellsRow 90 = .ok (.invokestatic 479, 3) := dk_184 1 223 (dk_at dksX0_tellsRow_3 21 rfl rfl)
theorem dX0_tellsRow_93 : decode cX0_tellsRow 93 = .ok (.i2l, 1) := dk_133 (dk_at dksX0_tellsRow_4 0 rfl rfl)
theorem dX0_tellsRow_94 : decode cX0_tellsRow 94 = .ok (.ladd, 1) := dk_97 (dk_at dksX0_tellsRow_4 1 rfl rfl)
theorem dX0_tellsRow_95 : decode cX0_tellsRow 95 = .ok (.lstore 4, 2) := dk_55 4 (dk_at dksX0_tellsRow_4 2 rfl rfl)
theorem dX0_tellsRow_97 : decode cX0_tellsRow 97 = .ok (.iconst 0, 1) := dk_3 (dk_at dksX0_tellsRow_4 4 rfl rfl)
theorem dX0_tellsRow_98 : decode cX0_tellsRow 98 = .ok (.istore 7, 2) := dk_54 7 (dk_at dksX0_tellsRow_4 5 rfl rfl)
theorem dX0_tellsRow_100 : decode cX0_tellsRow 100 = .ok (.iload 7, 2) := dk_21 7 (dk_at dksX0_tellsRow_4 7 rfl rfl)
theorem dX0_tellsRow_102 : decode cX0_tellsRow 102 = .ok (.aload_n 0, 1) := dk_42 (dk_at dksX0_tellsRow_4 9 rfl rfl)
theorem dX0_tellsRow_103 : decode cX0_tellsRow 103 = .ok (.getfield 173, 3) := dk_180 0 173 (dk_at dksX0_tellsRow_4 10 rfl rfl)
theorem dX0_tellsRow_106 : decode cX0_tellsRow 106 = .ok (.if_icmp .ge 31, 3) := dk_162 0 31 (dk_at dksX0_tellsRow_4 13 rfl rfl)
theorem dX0_tellsRow_109 : decode cX0_tellsRow 109 = .ok (.ldc2_w 687, 3) := dk_20 2 175 (dk_at dksX0_tellsRow_4 16 rfl rfl)
theorem dX0_tellsRow_112 : decode cX0_tellsRow 112 = .ok (.lload 4, 2) := dk_22 4 (dk_at dksX0_tellsRow_4 19 rfl rfl)
theorem dX0_tellsRow_114 : decode cX0_tellsRow 114 = .ok (.lmul, 1) := dk_105 (dk_at dksX0_tellsRow_4 21 rfl rfl)
theorem dX0_tellsRow_115 : decode cX0_tellsRow 115 = .ok (.aload_n 0, 1) := dk_42 (dk_at dksX0_tellsRow_4 22 rfl rfl)
theorem dX0_tellsRow_116 : decode cX0_tellsRow 116 = .ok (.iload 6, 2) := dk_21 6 (dk_at dksX0_tellsRow_5 0 rfl rfl)
theorem dX0_tellsRow_118 : decode cX0_tellsRow 118 = .ok (.iload_n 3, 1) := dk_29 (dk_at dksX0_tellsRow_5 2 rfl rfl)
theorem dX0_tellsRow_119 : decode cX0_tellsRow 119 = .ok (.iload 7, 2) := dk_21 7 (dk_at dksX0_tellsRow_5 3 rfl rfl)
theorem dX0_tellsRow_121 : decode cX0_tellsRow 121 = .ok (.invokevirtual 452, 3) := dk_182 1 196 (dk_at dksX0_tellsRow_5 5 rfl rfl)
theorem dX0_tellsRow_124 : decode cX0_tellsRow 124 = .ok (.invokestatic 456, 3) := dk_184 1 200 (dk_at dksX0_tellsRow_5 8 rfl rfl)
theorem dX0_tellsRow_127 : decode cX0_tellsRow 127 = .ok (.i2l, 1) := dk_133 (dk_at dksX0_tellsRow_5 11 rfl rfl)
theorem dX0_tellsRow_128 : decode cX0_tellsRow 128 = .ok (.ladd, 1) := dk_97 (dk_at dksX0_tellsRow_5 12 rfl rfl)
theorem dX0_tellsRow_129 : decode cX0_tellsRow 129 = .ok (.lstore 4, 2) := dk_55 4 (dk_at dksX0_tellsRow_5 13 rfl rfl)
theorem dX0_tellsRow_131 : decode cX0_tellsRow 131 = .ok (.iinc 7 1, 3) := dk_132 7 1 (dk_at dksX0_tellsRow_5 15 rfl rfl)
theorem dX0_tellsRow_134 : decode cX0_tellsRow 134 = .ok (.goto (-34), 3) := dk_167 255 222 (dk_at dksX0_tellsRow_5 18 rfl rfl)
theorem dX0_tellsRow_137 : decode cX0_tellsRow 137 = .ok (.iinc 6 1, 3) := dk_132 6 1 (dk_at dksX0_tellsRow_5 21 rfl rfl)
theorem dX0_tellsRow_140 : decode cX0_tellsRow 140 = .ok (.goto (-91), 3) := dk_167 255 165 (dk_at dksX0_tellsRow_6 0 rfl rfl)
theorem dX0_tellsRow_143 : decode cX0_tellsRow 143 = .ok (.lload 4, 2) := dk_22 4 (dk_at dksX0_tellsRow_6 3 rfl rfl)
theorem dX0_tellsRow_145 : decode cX0_tellsRow 145 = .ok (.lreturn, 1) := dk_173 (dk_at dksX0_tellsRow_6 5 rfl rfl)
abbrev cX0_tellsCells : ByteArray := prog_1_method_99_code
def yX0_tellsCells : MethodName := ⟨RX0, "tellsCells", "(JI)J"⟩
def dkwX0_tellsCells_4 : List UInt8 := [42, 180, 0, 173, 182, 1, 249, 133, 97, 55, 4, 132, 6, 1, 167, 255, 153, 22, 4, 173]
abbrev dktX0_tellsCells_4 : List UInt8 := dkwX0_tellsCells_4 ++ []
def dkwX0_tellsCells_3 : List UInt8 := [21, 6, 42, 180, 0, 173, 182, 1, 249, 133, 97, 55, 4, 20, 2, 175, 22, 4, 105, 42, 5, 29, 21, 6]
abbrev dktX0_tellsCells_3 : List UInt8 := dkwX0_tellsCells_3 ++ dktX0_tellsCells_4
def dkwX0_tellsCells_2 : List UInt8 := [180, 0, 25, 29, 50, 180, 2, 39, 21, 6, 46, 133, 97, 55, 4, 20, 2, 175, 22, 4, 105, 42, 4, 29]
abbrev dktX0_tellsCells_2 : List UInt8 := dkwX0_tellsCells_2 ++ dktX0_tellsCells_3
def dkwX0_tellsCells_1 : List UInt8 := [22, 4, 105, 42, 180, 0, 25, 29, 50, 21, 6, 182, 0, 138, 97, 55, 4, 20, 2, 175, 22, 4, 105, 42]
abbrev dktX0_tellsCells_1 : List UInt8 := dkwX0_tellsCells_1 ++ dktX0_tellsCells_2
def dkwX0_tellsCells_0 : List UInt8 := [31, 55, 4, 3, 54, 6, 21, 6, 42, 180, 0, 25, 29, 50, 180, 0, 121, 162, 0, 95, 20, 2, 175]
abbrev dktX0_tellsCells_0 : List UInt8 := dkwX0_tellsCells_0 ++ dktX0_tellsCells_1
theorem dksX0_tellsCells_0 : cX0_tellsCells.data.toList.drop 0 = dktX0_tellsCells_0 := by decide +kernel
theorem dksX0_tellsCells_1 : cX0_tellsCells.data.toList.drop 23 = dktX0_tellsCells_1 := dk_seg dksX0_tellsCells_0 23 rfl rfl
theorem dksX0_tellsCells_2 : cX0_tellsCells.data.toList.drop 47 = dktX0_tellsCells_2 := dk_seg dksX0_tellsCells_1 24 rfl rfl
theorem dksX0_tellsCells_3 : cX0_tellsCells.data.toList.drop 71 = dktX0_tellsCells_3 := dk_seg dksX0_tellsCells_2 24 rfl rfl
theorem dksX0_tellsCells_4 : cX0_tellsCells.data.toList.drop 95 = dktX0_tellsCells_4 := dk_seg dksX0_tellsCells_3 24 rfl rfl
theorem dX0_tellsCells_0 : decode cX0_tellsCells 0 = .ok (.lload_n 1, 1) := dk_31 (dk_at dksX0_tellsCells_0 0 rfl rfl)
theorem dX0_tellsCells_1 : decode cX0_tellsCells 1 = .ok (.lstore 4, 2) := dk_55 4 (dk_at dksX0_tellsCells_0 1 rfl rfl)
theorem dX0_tellsCells_3 : decode cX0_tellsCells 3 = .ok (.iconst 0, 1) := dk_3 (dk_at dksX0_tellsCells_0 3 rfl rfl)
theorem dX0_tellsCells_4 : decode cX0_tellsCells 4 = .ok (.istore 6, 2) := dk_54 6 (dk_at dksX0_tellsCells_0 4 rfl rfl)
theorem dX0_tellsCells_6 : decode cX0_tellsCells 6 = .ok (.iload 6, 2) := dk_21 6 (dk_at dksX0_tellsCells_0 6 rfl rfl)
theorem dX0_tellsCells_8 : decode cX0_tellsCells 8 = .ok (.aload_n 0, 1) := dk_42 (dk_at dksX0_tellsCells_0 8 rfl rfl)
theorem dX0_tellsCells_9 : decode cX0_tellsCells 9 = .ok (.getfield 25, 3) := dk_180 0 25 (dk_at dksX0_tellsCells_0 9 rfl rfl)
theorem dX0_tellsCells_12 : decode cX0_tellsCells 12 = .ok (.iload_n 3, 1) := dk_29 (dk_at dksX0_tellsCells_0 12 rfl rfl)
theorem dX0_tellsCells_13 : decode cX0_tellsCells 13 = .ok (.aaload, 1) := dk_50 (dk_at dksX0_tellsCells_0 13 rfl rfl)
theorem dX0_tellsCells_14 : decode cX0_tellsCells 14 = .ok (.getfield 121, 3) := dk_180 0 121 (dk_at dksX0_tellsCells_0 14 rfl rfl)
theorem dX0_tellsCells_17 : decode cX0_tellsCells 17 = .ok (.if_icmp .ge 95, 3) := dk_162 0 95 (dk_at dksX0_tellsCells_0 17 rfl rfl)
theorem dX0_tellsCells_20 : decode cX0_tellsCells 20 = .ok (.ldc2_w 687, 3) := dk_20 2 175 (dk_at dksX0_tellsCells_0 20 rfl rfl)
theorem dX0_tellsCells_23 : decode cX0_tellsCells 23 = .ok (.lload 4, 2) := dk_22 4 (dk_at dksX0_tellsCells_1 0 rfl rfl)
theorem dX0_tellsCells_25 : decode cX0_tellsCells 25 = .ok (.lmul, 1) := dk_105 (dk_at dksX0_tellsCells_1 2 rfl rfl)
theorem dX0_tellsCells_26 : decode cX0_tellsCells 26 = .ok (.aload_n 0, 1) := dk_42 (dk_at dksX0_tellsCells_1 3 rfl rfl)
theorem dX0_tellsCells_27 : decode cX0_tellsCells 27 = .ok (.getfield 25, 3) := dk_180 0 25 (dk_at dksX0_tellsCells_1 4 rfl rfl)
theorem dX0_tellsCells_30 : decode cX0_tellsCells 30 = .ok (.iload_n 3, 1) := dk_29 (dk_at dksX0_tellsCells_1 7 rfl rfl)
theorem dX0_tellsCells_31 : decode cX0_tellsCells 31 = .ok (.aaload, 1) := dk_50 (dk_at dksX0_tellsCells_1 8 rfl rfl)
theorem dX0_tellsCells_32 : decode cX0_tellsCells 32 = .ok (.iload 6, 2) := dk_21 6 (dk_at dksX0_tellsCells_1 9 rfl rfl)
theorem dX0_tellsCells_34 : decode cX0_tellsCells 34 = .ok (.invokevirtual 138, 3) := dk_182 0 138 (dk_at dksX0_tellsCells_1 11 rfl rfl)
theorem dX0_tellsCells_37 : decode cX0_tellsCells 37 = .ok (.ladd, 1) := dk_97 (dk_at dksX0_tellsCells_1 14 rfl rfl)
theorem dX0_tellsCells_38 : decode cX0_tellsCells 38 = .ok (.lstore 4, 2) := dk_55 4 (dk_at dksX0_tellsCells_1 15 rfl rfl)
theorem dX0_tellsCells_40 : decode cX0_tellsCells 40 = .ok (.ldc2_w 687, 3) := dk_20 2 175 (dk_at dksX0_tellsCells_1 17 rfl rfl)
theorem dX0_tellsCells_43 : decode cX0_tellsCells 43 = .ok (.lload 4, 2) := dk_22 4 (dk_at dksX0_tellsCells_1 20 rfl rfl)
theorem dX0_tellsCells_45 : decode cX0_tellsCells 45 = .ok (.lmul, 1) := dk_105 (dk_at dksX0_tellsCells_1 22 rfl rfl)
theorem dX0_tellsCells_46 : decode cX0_tellsCells 46 = .ok (.aload_n 0, 1) := dk_42 (dk_at dksX0_tellsCells_1 23 rfl rfl)
theorem dX0_tellsCells_47 : decode cX0_tellsCells 47 = .ok (.getfield 25, 3) := dk_180 0 25 (dk_at dksX0_tellsCells_2 0 rfl rfl)
theorem dX0_tellsCells_50 : decode cX0_tellsCells 50 = .ok (.iload_n 3, 1) := dk_29 (dk_at dksX0_tellsCells_2 3 rfl rfl)
theorem dX0_tellsCells_51 : decode cX0_tellsCells 51 = .ok (.aaload, 1) := dk_50 (dk_at dksX0_tellsCells_2 4 rfl rfl)
theorem dX0_tellsCells_52 : decode cX0_tellsCells 52 = .ok (.getfield 551, 3) := dk_180 2 39 (dk_at dksX0_tellsCells_2 5 rfl rfl)
theorem dX0_tellsCells_55 : decode cX0_tellsCells 55 = .ok (.iload 6, 2) := dk_21 6 (dk_at dksX0_tellsCells_2 8 rfl rfl)
theorem dX0_tellsCells_57 : decode cX0_tellsCells 57 = .ok (.iaload, 1) := dk_46 (dk_at dksX0_tellsCells_2 10 rfl rfl)
theorem dX0_tellsCells_58 : decode cX0_tellsCells 58 = .ok (.i2l, 1) := dk_133 (dk_at dksX0_tellsCells_2 11 rfl rfl)
theorem dX0_tellsCells_59 : decode cX0_tellsCells 59 = .ok (.ladd, 1) := dk_97 (dk_at dksX0_tellsCells_2 12 rfl rfl)
theorem dX0_tellsCells_60 : decode cX0_tellsCells 60 = .ok (.lstore 4, 2) := dk_55 4 (dk_at dksX0_tellsCells_2 13 rfl rfl)
theorem dX0_tellsCells_62 : decode cX0_tellsCells 62 = .ok (.ldc2_w 687, 3) := dk_20 2 175 (dk_at dksX0_tellsCells_2 15 rfl rfl)
theorem dX0_tellsCells_65 : decode cX0_tellsCells 65 = .ok (.lload 4, 2) := dk_22 4 (dk_at dksX0_tellsCells_2 18 rfl rfl)
theorem dX0_tellsCells_67 : decode cX0_tellsCells 67 = .ok (.lmul, 1) := dk_105 (dk_at dksX0_tellsCells_2 20 rfl rfl)
theorem dX0_tellsCells_68 : decode cX0_tellsCells 68 = .ok (.aload_n 0, 1) := dk_42 (dk_at dksX0_tellsCells_2 21 rfl rfl)
theorem dX0_tellsCells_69 : decode cX0_tellsCells 69 = .ok (.iconst 1, 1) := dk_4 (dk_at dksX0_tellsCells_2 22 rfl rfl)
theorem dX0_tellsCells_70 : decode cX0_tellsCells 70 = .ok (.iload_n 3, 1) := dk_29 (dk_at dksX0_tellsCells_2 23 rfl rfl)
theorem dX0_tellsCells_71 : decode cX0_tellsCells 71 = .ok (.iload 6, 2) := dk_21 6 (dk_at dksX0_tellsCells_3 0 rfl rfl)
theorem dX0_tellsCells_73 : decode cX0_tellsCells 73 = .ok (.aload_n 0, 1) := dk_42 (dk_at dksX0_tellsCells_3 2 rfl rfl)
theorem dX0_tellsCells_74 : decode cX0_tellsCells 74 = .ok (.getfield 173, 3) := dk_180 0 173 (dk_at dksX0_tellsCells_3 3 rfl rfl)
theorem dX0_tellsCells_77 : decode cX0_tellsCells 77 = .ok (.invokevirtual 505, 3) := dk_182 1 249 (dk_at dksX0_tellsCells_3 6 rfl rfl)
theorem dX0_tellsCells_80 : decode cX0_tellsCells 80 = .ok (.i2l, 1) := dk_133 (dk_at dksX0_tellsCells_3 9 rfl rfl)
theorem dX0_tellsCells_81 : decode cX0_tellsCells 81 = .ok (.ladd, 1) := dk_97 (dk_at dksX0_tellsCells_3 10 rfl rfl)
theorem dX0_tellsCells_82 : decode cX0_tellsCells 82 = .ok (.lstore 4, 2) := dk_55 4 (dk_at dksX0_tellsCells_3 11 rfl rfl)
theorem dX0_tellsCells_84 : decode cX0_tellsCells 84 = .ok (.ldc2_w 687, 3) := dk_20 2 175 (dk_at dksX0_tellsCells_3 13 rfl rfl)
theorem dX0_tellsCells_87 : decode cX0_tellsCells 87 = .ok (.lload 4, 2) := dk_22 4 (dk_at dksX0_tellsCells_3 16 rfl rfl)
theorem dX0_tellsCells_89 : decode cX0_tellsCells 89 = .ok (.lmul, 1) := dk_105 (dk_at dksX0_tellsCells_3 18 rfl rfl)
theorem dX0_tellsCells_90 : decode cX0_tellsCells 90 = .ok (.aload_n 0, 1) := dk_42 (dk_at dksX0_tellsCells_3 19 rfl rfl)
theorem dX0_tellsCells_91 : decode cX0_tellsCells 91 = .ok (.iconst 2, 1) := dk_5 (dk_at dksX0_tellsCells_3 20 rfl rfl)
theorem dX0_tellsCells_92 : decode cX0_tellsCells 92 = .ok (.iload_n 3, 1) := dk_29 (dk_at dksX0_tellsCells_3 21 rfl rfl)
theorem dX0_tellsCells_93 : decode cX0_tellsCells 93 = .ok (.iload 6, 2) := dk_21 6 (dk_at dksX0_tellsCells_3 22 rfl rfl)
theorem dX0_tellsCells_95 : decode cX0_tellsCells 95 = .ok (.aload_n 0, 1) := dk_42 (dk_at dksX0_tellsCells_4 0 rfl rfl)
theorem dX0_tellsCells_96 : decode cX0_tellsCells 96 = .ok (.getfield 173, 3) := dk_180 0 173 (dk_at dksX0_tellsCells_4 1 rfl rfl)
theorem dX0_tellsCells_99 : decode cX0_tellsCells 99 = .ok (.invokevirtual 505, 3) := dk_182 1 249 (dk_at dksX0_tellsCells_4 4 rfl rfl)
theorem dX0_tellsCells_102 : decode cX0_tellsCells 102 = .ok (.i2l, 1) := dk_133 (dk_at dksX0_tellsCells_4 7 rfl rfl)
theorem dX0_tellsCells_103 : decode cX0_tellsCells 103 = .ok (.ladd, 1) := dk_97 (dk_at dksX0_tellsCells_4 8 rfl rfl)
theorem dX0_tellsCells_104 : decode cX0_tellsCells 104 = .ok (.lstore 4, 2) := dk_55 4 (dk_at dksX0_tellsCells_4 9 rfl rfl)
theorem dX0_tellsCells_106 : decode cX0_tellsCells 106 = .ok (.iinc 6 1, 3) := dk_132 6 1 (dk_at dksX0_tellsCells_4 11 rfl rfl)
theorem dX0_tellsCells_109 : decode cX0_tellsCells 109 = .ok (.goto (-103), 3) := dk_167 255 153 (dk_at dksX0_tellsCells_4 14 rfl rfl)
theorem dX0_tellsCells_112 : decode cX0_tellsCells 112 = .ok (.lload 4, 2) := dk_22 4 (dk_at dksX0_tellsCells_4 17 rfl rfl)
theorem dX0_tellsCells_114 : decode cX0_tellsCells 114 = .ok (.lreturn, 1) := dk_173 (dk_at dksX0_tellsCells_4 19 rfl rfl)
theorem q134 : (Jvm.Cond.initialized "StrideTurns") ∈ lw_all := lw_g (lw_at lw_m1 1 rfl) rfl
theorem q188 : (Jvm.Cond.instantiable "StrideTurns" (23 : Nat)) ∈ lw_all := lw_g (lw_at lw_m1 55 rfl) rfl
theorem q190 : (Jvm.Cond.instanceMethod ({ cls := "StrideTurns", name := "<init>", desc := "()V" } : Jvm.MethodName)) ∈ lw_all := lw_g (lw_at lw_m1 57 rfl) rfl
theorem q191 : (Jvm.Cond.code ({ cls := "StrideTurns", name := "<init>", desc := "()V" } : Jvm.MethodName) prog_1_method_1_code (1 : Nat) (Option.none : Option Jvm.ClassFile.FieldType)) ∈ lw_all := lw_g (lw_at lw_m1 58 rfl) rfl
theorem q192 : (Jvm.Cond.methodLink "StrideTurns" (5 : Nat) ({ cls := "java/lang/Object", name := "<init>", desc := "()V" } : Jvm.MethodName)) ∈ lw_all := lw_g (lw_at lw_m1 59 rfl) rfl
theorem q195 : (Jvm.Cond.methodLink "StrideTurns" (11 : Nat) ({ cls := "StrideTurns$Deed", name := "all", desc := "()Ljava/util/HashMap;" } : Jvm.MethodName)) ∈ lw_all := lw_g (lw_at lw_m1 62 rfl) rfl
theorem q256 : (Jvm.Cond.fieldLinkNest "StrideTurns" (611 : Nat) "StrideTurns$Deed" "family" "I" "StrideTurns") ∈ lw_tbl := lw_at lw_m1 123 rfl
theorem q258 : (Jvm.Cond.fieldLinkNest "StrideTurns" (524 : Nat) "StrideTurns$Deed" "ints" "LStrideTurns$Ints;" "StrideTurns") ∈ lw_tbl := lw_at lw_m1 125 rfl
theorem q260 : (Jvm.Cond.fieldLinkNest "StrideTurns" (533 : Nat) "StrideTurns$Deed" "floats" "LStrideTurns$Floats;" "StrideTurns") ∈ lw_tbl := lw_at lw_m1 127 rfl
theorem q262 : (Jvm.Cond.fieldLinkNest "StrideTurns" (542 : Nat) "StrideTurns$Deed" "doubles" "LStrideTurns$Doubles;" "StrideTurns") ∈ lw_tbl := lw_at lw_m1 129 rfl
theorem q291 : (Jvm.Cond.selects "StrideTurns" ({ cls := "java/lang/Object", name := "hashCode", desc := "()I" } : Jvm.MethodName) ({ cls := "java/lang/Object", name := "hashCode", desc := "()I" } : Jvm.MethodName)) ∈ lw_all := lw_g (lw_at lw_m1 158 rfl) rfl
theorem q487 : (Jvm.Cond.selects "StrideTurns" ({ cls := "java/lang/Object", name := "getClass", desc := "()Ljava/lang/Class;" } : Jvm.MethodName) ({ cls := "java/lang/Object", name := "getClass", desc := "()Ljava/lang/Class;" } : Jvm.MethodName)) ∈ lw_all := lw_g (lw_at lw_m2 114 rfl) rfl
theorem q754 : (Jvm.Cond.selects "StrideTurns" ({ cls := "java/lang/Object", name := "equals", desc := "(Ljava/lang/Object;)Z" } : Jvm.MethodName) ({ cls := "java/lang/Object", name := "equals", desc := "(Ljava/lang/Object;)Z" } : Jvm.MethodName)) ∈ lw_all := lw_g (lw_at lw_m3 141 rfl) rfl
theorem q1022 : (Jvm.Cond.classLink "StrideTurns" (23 : Nat) "StrideTurns$Row") ∈ lw_all := lw_g (lw_at lw_m4 169 rfl) rfl
theorem q1024 : (Jvm.Cond.classLink "StrideTurns" (29 : Nat) "java/util/ArrayList") ∈ lw_all := lw_g (lw_at lw_m4 171 rfl) rfl
theorem q1026 : (Jvm.Cond.methodLink "StrideTurns" (31 : Nat) ({ cls := "java/util/ArrayList", name := "<init>", desc := "(I)V" } : Jvm.MethodName)) ∈ lw_all := lw_g (lw_at lw_m4 173 rfl) rfl
theorem q1055 : (Jvm.Cond.classLink "StrideTurns" (38 : Nat) "java/util/ArrayDeque") ∈ lw_all := lw_g (lw_at lw_m4 202 rfl) rfl
theorem q1057 : (Jvm.Cond.methodLink "StrideTurns" (40 : Nat) ({ cls := "java/util/ArrayDeque", name := "<init>", desc := "()V" } : Jvm.MethodName)) ∈ lw_all := lw_g (lw_at lw_m4 204 rfl) rfl
theorem q1074 : (Jvm.Cond.classLink "StrideTurns" (63 : Nat) "StrideTurns$Turn") ∈ lw_all := lw_g (lw_at lw_m4 221 rfl) rfl
theorem q1077 : (Jvm.Cond.methodLinkNest "StrideTurns" (65 : Nat) ({ cls := "StrideTurns$Turn", name := "<init>", desc := "(LStrideTurns;)V" } : Jvm.MethodName) "StrideTurns") ∈ lw_tbl := lw_at lw_m4 224 rfl
theorem q1082 : (Jvm.Cond.fieldLinkNest "StrideTurns" (604 : Nat) "StrideTurns$Turn" "own" "[D" "StrideTurns") ∈ lw_tbl := lw_at lw_m4 229 rfl
theorem q1084 : (Jvm.Cond.fieldLinkNest "StrideTurns" (597 : Nat) "StrideTurns$Turn" "has" "[Z" "StrideTurns") ∈ lw_tbl := lw_at lw_m4 231 rfl
theorem q1086 : (Jvm.Cond.fieldLinkNest "StrideTurns" (569 : Nat) "StrideTurns$Turn" "number" "I" "StrideTurns") ∈ lw_tbl := lw_at lw_m4 233 rfl
theorem q1110 : (Jvm.Cond.fieldLink "StrideTurns" (96 : Nat) "StrideTurns" "latest" "I") ∈ lw_all := lw_g (lw_at lw_m5 17 rfl) rfl
theorem q1111 : (Jvm.Cond.fieldLink "StrideTurns" (17 : Nat) "StrideTurns" "names" "Ljava/util/HashMap;") ∈ lw_all := lw_g (lw_at lw_m5 18 rfl) rfl
theorem q1112 : (Jvm.Cond.fieldLink "StrideTurns" (25 : Nat) "StrideTurns" "rows" "[LStrideTurns$Row;") ∈ lw_all := lw_g (lw_at lw_m5 19 rfl) rfl
theorem q1115 : (Jvm.Cond.fieldLink "StrideTurns" (34 : Nat) "StrideTurns" "statements" "Ljava/util/ArrayList;") ∈ lw_all := lw_g (lw_at lw_m5 22 rfl) rfl
theorem q1118 : (Jvm.Cond.fieldLink "StrideTurns" (173 : Nat) "StrideTurns" "n" "I") ∈ lw_all := lw_g (lw_at lw_m5 25 rfl) rfl
theorem q1119 : (Jvm.Cond.fieldLink "StrideTurns" (41 : Nat) "StrideTurns" "past" "Ljava/util/ArrayDeque;") ∈ lw_all := lw_g (lw_at lw_m5 26 rfl) rfl
theorem q1120 : (Jvm.Cond.fieldLink "StrideTurns" (45 : Nat) "StrideTurns" "text" "[B") ∈ lw_all := lw_g (lw_at lw_m5 27 rfl) rfl
theorem q1121 : (Jvm.Cond.fieldLink "StrideTurns" (184 : Nat) "StrideTurns" "typed" "I") ∈ lw_all := lw_g (lw_at lw_m5 28 rfl) rfl
theorem q1122 : (Jvm.Cond.fieldLink "StrideTurns" (49 : Nat) "StrideTurns" "sets" "[J") ∈ lw_all := lw_g (lw_at lw_m5 29 rfl) rfl
theorem q1123 : (Jvm.Cond.fieldLink "StrideTurns" (53 : Nat) "StrideTurns" "firm" "[J") ∈ lw_all := lw_g (lw_at lw_m5 30 rfl) rfl
theorem q1124 : (Jvm.Cond.fieldLink "StrideTurns" (56 : Nat) "StrideTurns" "modes" "[I") ∈ lw_all := lw_g (lw_at lw_m5 31 rfl) rfl
theorem q1126 : (Jvm.Cond.fieldLink "StrideTurns" (60 : Nat) "StrideTurns" "ends" "[I") ∈ lw_all := lw_g (lw_at lw_m5 33 rfl) rfl
theorem q1128 : (Jvm.Cond.fieldLink "StrideTurns" (68 : Nat) "StrideTurns" "all" "[LStrideTurns$Turn;") ∈ lw_all := lw_g (lw_at lw_m5 35 rfl) rfl
theorem q1129 : (Jvm.Cond.fieldLink "StrideTurns" (71 : Nat) "StrideTurns" "order" "[I") ∈ lw_all := lw_g (lw_at lw_m5 36 rfl) rfl
theorem q1130 : (Jvm.Cond.fieldLink "StrideTurns" (554 : Nat) "StrideTurns" "ended" "I") ∈ lw_all := lw_g (lw_at lw_m5 37 rfl) rfl
theorem q1131 : (Jvm.Cond.fieldLink "StrideTurns" (557 : Nat) "StrideTurns" "items" "I") ∈ lw_all := lw_g (lw_at lw_m5 38 rfl) rfl
theorem q1132 : (Jvm.Cond.fieldLink "StrideTurns" (74 : Nat) "StrideTurns" "lastEnds" "[I") ∈ lw_all := lw_g (lw_at lw_m5 39 rfl) rfl
theorem q1133 : (Jvm.Cond.fieldLink "StrideTurns" (77 : Nat) "StrideTurns" "lastOrder" "[I") ∈ lw_all := lw_g (lw_at lw_m5 40 rfl) rfl
theorem q1134 : (Jvm.Cond.fieldLink "StrideTurns" (630 : Nat) "StrideTurns" "lastEnded" "I") ∈ lw_all := lw_g (lw_at lw_m5 41 rfl) rfl
theorem q1135 : (Jvm.Cond.fieldLink "StrideTurns" (633 : Nat) "StrideTurns" "lastItems" "I") ∈ lw_all := lw_g (lw_at lw_m5 42 rfl) rfl
theorem q1136 : (Jvm.Cond.fieldLink "StrideTurns" (80 : Nat) "StrideTurns" "kept" "[D") ∈ lw_all := lw_g (lw_at lw_m5 43 rfl) rfl
theorem q1137 : (Jvm.Cond.fieldLink "StrideTurns" (84 : Nat) "StrideTurns" "keptWriters" "[I") ∈ lw_all := lw_g (lw_at lw_m5 44 rfl) rfl
theorem q1138 : (Jvm.Cond.fieldLink "StrideTurns" (87 : Nat) "StrideTurns" "found" "[D") ∈ lw_all := lw_g (lw_at lw_m5 45 rfl) rfl
theorem q1139 : (Jvm.Cond.lays "StrideTurns" "StrideTurns" "latest" "I") ∈ lw_all := lw_g (lw_at lw_m5 46 rfl) rfl
theorem q1140 : (Jvm.Cond.soleField "StrideTurns" "latest") ∈ lw_all := lw_g (lw_at lw_m5 47 rfl) rfl
theorem q1141 : (Jvm.Cond.laysFinal "StrideTurns" "StrideTurns" "names" "Ljava/util/HashMap;") ∈ lw_all := lw_g (lw_at lw_m5 48 rfl) rfl
theorem q1142 : (Jvm.Cond.soleField "StrideTurns" "names") ∈ lw_all := lw_g (lw_at lw_m5 49 rfl) rfl
theorem q1143 : (Jvm.Cond.laysFinal "StrideTurns" "StrideTurns" "rows" "[LStrideTurns$Row;") ∈ lw_all := lw_g (lw_at lw_m5 50 rfl) rfl
theorem q1144 : (Jvm.Cond.soleField "StrideTurns" "rows") ∈ lw_all := lw_g (lw_at lw_m5 51 rfl) rfl
theorem q1145 : (Jvm.Cond.laysFinal "StrideTurns" "StrideTurns" "statements" "Ljava/util/ArrayList;") ∈ lw_all := lw_g (lw_at lw_m5 52 rfl) rfl
theorem q1146 : (Jvm.Cond.soleField "StrideTurns" "statements") ∈ lw_all := lw_g (lw_at lw_m5 53 rfl) rfl
theorem q1147 : (Jvm.Cond.lays "StrideTurns" "StrideTurns" "n" "I") ∈ lw_all := lw_g (lw_at lw_m5 54 rfl) rfl
theorem q1148 : (Jvm.Cond.soleField "StrideTurns" "n") ∈ lw_all := lw_g (lw_at lw_m5 55 rfl) rfl
theorem q1149 : (Jvm.Cond.laysFinal "StrideTurns" "StrideTurns" "past" "Ljava/util/ArrayDeque;") ∈ lw_all := lw_g (lw_at lw_m5 56 rfl) rfl
theorem q1150 : (Jvm.Cond.soleField "StrideTurns" "past") ∈ lw_all := lw_g (lw_at lw_m5 57 rfl) rfl
theorem q1151 : (Jvm.Cond.laysFinal "StrideTurns" "StrideTurns" "text" "[B") ∈ lw_all := lw_g (lw_at lw_m5 58 rfl) rfl
theorem q1152 : (Jvm.Cond.soleField "StrideTurns" "text") ∈ lw_all := lw_g (lw_at lw_m5 59 rfl) rfl
theorem q1153 : (Jvm.Cond.lays "StrideTurns" "StrideTurns" "typed" "I") ∈ lw_all := lw_g (lw_at lw_m5 60 rfl) rfl
theorem q1154 : (Jvm.Cond.soleField "StrideTurns" "typed") ∈ lw_all := lw_g (lw_at lw_m5 61 rfl) rfl
theorem q1155 : (Jvm.Cond.laysFinal "StrideTurns" "StrideTurns" "sets" "[J") ∈ lw_all := lw_g (lw_at lw_m5 62 rfl) rfl
theorem q1156 : (Jvm.Cond.soleField "StrideTurns" "sets") ∈ lw_all := lw_g (lw_at lw_m5 63 rfl) rfl
theorem q1157 : (Jvm.Cond.laysFinal "StrideTurns" "StrideTurns" "firm" "[J") ∈ lw_all := lw_g (lw_at lw_m5 64 rfl) rfl
theorem q1158 : (Jvm.Cond.soleField "StrideTurns" "firm") ∈ lw_all := lw_g (lw_at lw_m5 65 rfl) rfl
theorem q1159 : (Jvm.Cond.laysFinal "StrideTurns" "StrideTurns" "modes" "[I") ∈ lw_all := lw_g (lw_at lw_m5 66 rfl) rfl
theorem q1160 : (Jvm.Cond.soleField "StrideTurns" "modes") ∈ lw_all := lw_g (lw_at lw_m5 67 rfl) rfl
theorem q1161 : (Jvm.Cond.laysFinal "StrideTurns" "StrideTurns" "ends" "[I") ∈ lw_all := lw_g (lw_at lw_m5 68 rfl) rfl
theorem q1162 : (Jvm.Cond.soleField "StrideTurns" "ends") ∈ lw_all := lw_g (lw_at lw_m5 69 rfl) rfl
theorem q1163 : (Jvm.Cond.laysFinal "StrideTurns" "StrideTurns" "all" "[LStrideTurns$Turn;") ∈ lw_all := lw_g (lw_at lw_m5 70 rfl) rfl
theorem q1164 : (Jvm.Cond.soleField "StrideTurns" "all") ∈ lw_all := lw_g (lw_at lw_m5 71 rfl) rfl
theorem q1165 : (Jvm.Cond.laysFinal "StrideTurns" "StrideTurns" "order" "[I") ∈ lw_all := lw_g (lw_at lw_m5 72 rfl) rfl
theorem q1166 : (Jvm.Cond.soleField "StrideTurns" "order") ∈ lw_all := lw_g (lw_at lw_m5 73 rfl) rfl
theorem q1167 : (Jvm.Cond.lays "StrideTurns" "StrideTurns" "ended" "I") ∈ lw_all := lw_g (lw_at lw_m5 74 rfl) rfl
theorem q1168 : (Jvm.Cond.soleField "StrideTurns" "ended") ∈ lw_all := lw_g (lw_at lw_m5 75 rfl) rfl
theorem q1169 : (Jvm.Cond.lays "StrideTurns" "StrideTurns" "items" "I") ∈ lw_all := lw_g (lw_at lw_m5 76 rfl) rfl
theorem q1170 : (Jvm.Cond.soleField "StrideTurns" "items") ∈ lw_all := lw_g (lw_at lw_m5 77 rfl) rfl
theorem q1171 : (Jvm.Cond.laysFinal "StrideTurns" "StrideTurns" "lastEnds" "[I") ∈ lw_all := lw_g (lw_at lw_m5 78 rfl) rfl
theorem q1172 : (Jvm.Cond.soleField "StrideTurns" "lastEnds") ∈ lw_all := lw_g (lw_at lw_m5 79 rfl) rfl
theorem q1173 : (Jvm.Cond.laysFinal "StrideTurns" "StrideTurns" "lastOrder" "[I") ∈ lw_all := lw_g (lw_at lw_m5 80 rfl) rfl
theorem q1174 : (Jvm.Cond.soleField "StrideTurns" "lastOrder") ∈ lw_all := lw_g (lw_at lw_m5 81 rfl) rfl
theorem q1175 : (Jvm.Cond.lays "StrideTurns" "StrideTurns" "lastEnded" "I") ∈ lw_all := lw_g (lw_at lw_m5 82 rfl) rfl
theorem q1176 : (Jvm.Cond.soleField "StrideTurns" "lastEnded") ∈ lw_all := lw_g (lw_at lw_m5 83 rfl) rfl
theorem q1177 : (Jvm.Cond.lays "StrideTurns" "StrideTurns" "lastItems" "I") ∈ lw_all := lw_g (lw_at lw_m5 84 rfl) rfl
theorem q1178 : (Jvm.Cond.soleField "StrideTurns" "lastItems") ∈ lw_all := lw_g (lw_at lw_m5 85 rfl) rfl
theorem q1179 : (Jvm.Cond.laysFinal "StrideTurns" "StrideTurns" "kept" "[D") ∈ lw_all := lw_g (lw_at lw_m5 86 rfl) rfl
theorem q1180 : (Jvm.Cond.soleField "StrideTurns" "kept") ∈ lw_all := lw_g (lw_at lw_m5 87 rfl) rfl
theorem q1181 : (Jvm.Cond.laysFinal "StrideTurns" "StrideTurns" "keptWriters" "[I") ∈ lw_all := lw_g (lw_at lw_m5 88 rfl) rfl
theorem q1182 : (Jvm.Cond.soleField "StrideTurns" "keptWriters") ∈ lw_all := lw_g (lw_at lw_m5 89 rfl) rfl
theorem q1183 : (Jvm.Cond.laysFinal "StrideTurns" "StrideTurns" "found" "[D") ∈ lw_all := lw_g (lw_at lw_m5 90 rfl) rfl
theorem q1184 : (Jvm.Cond.soleField "StrideTurns" "found") ∈ lw_all := lw_g (lw_at lw_m5 91 rfl) rfl
theorem q1185 : (Jvm.Cond.superclass "StrideTurns" "java/lang/Object") ∈ lw_all := lw_g (lw_at lw_m5 92 rfl) rfl
theorem q1187 : (Jvm.Cond.instanceMethod ({ cls := "StrideTurns", name := "row", desc := "(III)I" } : Jvm.MethodName)) ∈ lw_all := lw_g (lw_at lw_m5 94 rfl) rfl
theorem q1188 : (Jvm.Cond.selects "StrideTurns" ({ cls := "StrideTurns", name := "row", desc := "(III)I" } : Jvm.MethodName) ({ cls := "StrideTurns", name := "row", desc := "(III)I" } : Jvm.MethodName)) ∈ lw_all := lw_g (lw_at lw_m5 95 rfl) rfl
theorem q1189 : (Jvm.Cond.codeWith ({ cls := "StrideTurns", name := "row", desc := "(III)I" } : Jvm.MethodName) prog_1_method_8_code (5 : Nat) (Option.some Jvm.ClassFile.FieldType.int) [((28 : Nat), (44 : Nat), (45 : Nat), (115 : Nat))]) ∈ lw_all := lw_g (lw_at lw_m5 96 rfl) rfl
theorem q1190 : (Jvm.Cond.classLink "StrideTurns" (115 : Nat) "java/lang/NegativeArraySizeException") ∈ lw_all := lw_g (lw_at lw_m5 97 rfl) rfl
theorem q1209 : (Jvm.Cond.methodLink "StrideTurns" (106 : Nat) ({ cls := "StrideTurns", name := "isRow", desc := "(I)Z" } : Jvm.MethodName)) ∈ lw_all := lw_g (lw_at lw_m5 116 rfl) rfl
theorem q1210 : (Jvm.Cond.static ({ cls := "StrideTurns", name := "isRow", desc := "(I)Z" } : Jvm.MethodName)) ∈ lw_all := lw_g (lw_at lw_m5 117 rfl) rfl
theorem q1211 : (Jvm.Cond.code ({ cls := "StrideTurns", name := "isRow", desc := "(I)Z" } : Jvm.MethodName) prog_1_method_6_code (1 : Nat) (Option.some Jvm.ClassFile.FieldType.boolean)) ∈ lw_all := lw_g (lw_at lw_m5 118 rfl) rfl
theorem q1212 : (Jvm.Cond.constantLong "StrideTurns" (100 : Nat) (5 : Int64)) ∈ lw_all := lw_g (lw_at lw_m5 119 rfl) rfl
theorem q1213 : (Jvm.Cond.methodLink "StrideTurns" (90 : Nat) ({ cls := "StrideTurns", name := "in", desc := "(JJJ)Z" } : Jvm.MethodName)) ∈ lw_all := lw_g (lw_at lw_m5 120 rfl) rfl
theorem q1214 : (Jvm.Cond.static ({ cls := "StrideTurns", name := "in", desc := "(JJJ)Z" } : Jvm.MethodName)) ∈ lw_all := lw_g (lw_at lw_m5 121 rfl) rfl
theorem q1215 : (Jvm.Cond.code ({ cls := "StrideTurns", name := "in", desc := "(JJJ)Z" } : Jvm.MethodName) prog_1_method_2_code (6 : Nat) (Option.some Jvm.ClassFile.FieldType.boolean)) ∈ lw_all := lw_g (lw_at lw_m5 122 rfl) rfl
theorem q1216 : (Jvm.Cond.constantLong "StrideTurns" (110 : Nat) (4 : Int64)) ∈ lw_all := lw_g (lw_at lw_m5 123 rfl) rfl
theorem q1218 : (Jvm.Cond.methodLink "StrideTurns" (112 : Nat) ({ cls := "StrideTurns$Row", name := "<init>", desc := "(II)V" } : Jvm.MethodName)) ∈ lw_all := lw_g (lw_at lw_m5 125 rfl) rfl
theorem q1226 : (Jvm.Cond.fieldLinkNest "StrideTurns" (141 : Nat) "StrideTurns$Row" "cells" "Ljava/lang/Object;" "StrideTurns") ∈ lw_tbl := lw_at lw_m5 133 rfl
theorem q1229 : (Jvm.Cond.fieldLinkNest "StrideTurns" (496 : Nat) "StrideTurns$Row" "form" "I" "StrideTurns") ∈ lw_tbl := lw_at lw_m5 136 rfl
theorem q1231 : (Jvm.Cond.fieldLinkNest "StrideTurns" (121 : Nat) "StrideTurns$Row" "size" "I" "StrideTurns") ∈ lw_tbl := lw_at lw_m5 138 rfl
theorem q1234 : (Jvm.Cond.fieldLinkNest "StrideTurns" (551 : Nat) "StrideTurns$Row" "writers" "[I" "StrideTurns") ∈ lw_tbl := lw_at lw_m5 141 rfl
theorem q1246 : (Jvm.Cond.methodLink "StrideTurns" (117 : Nat) ({ cls := "StrideTurns", name := "finds", desc := "(I)I" } : Jvm.MethodName)) ∈ lw_all := lw_g (lw_at lw_m5 153 rfl) rfl
theorem q1247 : (Jvm.Cond.privateMethod ({ cls := "StrideTurns", name := "finds", desc := "(I)I" } : Jvm.MethodName)) ∈ lw_tbl := lw_at lw_m5 154 rfl
theorem q1248 : (Jvm.Cond.instanceMethod ({ cls := "StrideTurns", name := "finds", desc := "(I)I" } : Jvm.MethodName)) ∈ lw_all := lw_g (lw_at lw_m5 155 rfl) rfl
theorem q1249 : (Jvm.Cond.code ({ cls := "StrideTurns", name := "finds", desc := "(I)I" } : Jvm.MethodName) prog_1_method_5_code (2 : Nat) (Option.some Jvm.ClassFile.FieldType.int)) ∈ lw_all := lw_g (lw_at lw_m5 156 rfl) rfl
theorem q1251 : (Jvm.Cond.instanceMethod ({ cls := "StrideTurns", name := "lose", desc := "(I)I" } : Jvm.MethodName)) ∈ lw_all := lw_g (lw_at lw_m5 158 rfl) rfl
theorem q1252 : (Jvm.Cond.selects "StrideTurns" ({ cls := "StrideTurns", name := "lose", desc := "(I)I" } : Jvm.MethodName) ({ cls := "StrideTurns", name := "lose", desc := "(I)I" } : Jvm.MethodName)) ∈ lw_all := lw_g (lw_at lw_m5 159 rfl) rfl
theorem q1253 : (Jvm.Cond.codeWith ({ cls := "StrideTurns", name := "lose", desc := "(I)I" } : Jvm.MethodName) prog_1_method_9_code (3 : Nat) (Option.some Jvm.ClassFile.FieldType.int) [((10 : Nat), (28 : Nat), (29 : Nat), (124 : Nat))]) ∈ lw_all := lw_g (lw_at lw_m5 160 rfl) rfl
theorem q1254 : (Jvm.Cond.classLink "StrideTurns" (124 : Nat) "java/lang/NullPointerException") ∈ lw_all := lw_g (lw_at lw_m5 161 rfl) rfl
theorem q1280 : (Jvm.Cond.instanceMethod ({ cls := "StrideTurns", name := "put", desc := "(IIII)I" } : Jvm.MethodName)) ∈ lw_all := lw_g (lw_at lw_m5 187 rfl) rfl
theorem q1281 : (Jvm.Cond.selects "StrideTurns" ({ cls := "StrideTurns", name := "put", desc := "(IIII)I" } : Jvm.MethodName) ({ cls := "StrideTurns", name := "put", desc := "(IIII)I" } : Jvm.MethodName)) ∈ lw_all := lw_g (lw_at lw_m5 188 rfl) rfl
theorem q1282 : (Jvm.Cond.codeWith ({ cls := "StrideTurns", name := "put", desc := "(IIII)I" } : Jvm.MethodName) prog_1_method_10_code (6 : Nat) (Option.some Jvm.ClassFile.FieldType.int) [((22 : Nat), (36 : Nat), (37 : Nat), (124 : Nat)), ((22 : Nat), (36 : Nat), (45 : Nat), (130 : Nat)), ((22 : Nat), (36 : Nat), (53 : Nat), (132 : Nat))]) ∈ lw_all := lw_g (lw_at lw_m5 189 rfl) rfl
theorem q1283 : (Jvm.Cond.classLink "StrideTurns" (130 : Nat) "java/lang/ClassCastException") ∈ lw_all := lw_g (lw_at lw_m5 190 rfl) rfl
theorem q1297 : (Jvm.Cond.classLink "StrideTurns" (132 : Nat) "java/lang/ArrayIndexOutOfBoundsException") ∈ lw_all := lw_g (lw_at lw_m5 204 rfl) rfl
theorem q1316 : (Jvm.Cond.methodLink "StrideTurns" (126 : Nat) ({ cls := "StrideTurns$Row", name := "lays", desc := "(III)V" } : Jvm.MethodName)) ∈ lw_all := lw_g (lw_at lw_m5 223 rfl) rfl
theorem q1328 : (Jvm.Cond.instanceMethod ({ cls := "StrideTurns", name := "get", desc := "(II)J" } : Jvm.MethodName)) ∈ lw_all := lw_g (lw_at lw_m5 235 rfl) rfl
theorem q1329 : (Jvm.Cond.selects "StrideTurns" ({ cls := "StrideTurns", name := "get", desc := "(II)J" } : Jvm.MethodName) ({ cls := "StrideTurns", name := "get", desc := "(II)J" } : Jvm.MethodName)) ∈ lw_all := lw_g (lw_at lw_m5 236 rfl) rfl
theorem q1330 : (Jvm.Cond.codeWith ({ cls := "StrideTurns", name := "get", desc := "(II)J" } : Jvm.MethodName) prog_1_method_11_code (4 : Nat) (Option.some Jvm.ClassFile.FieldType.long) [((13 : Nat), (23 : Nat), (24 : Nat), (124 : Nat)), ((13 : Nat), (23 : Nat), (34 : Nat), (132 : Nat))]) ∈ lw_all := lw_g (lw_at lw_m5 237 rfl) rfl
theorem q1331 : (Jvm.Cond.methodLink "StrideTurns" (134 : Nat) ({ cls := "StrideTurns", name := "no", desc := "(I)J" } : Jvm.MethodName)) ∈ lw_all := lw_g (lw_at lw_m5 238 rfl) rfl
theorem q1332 : (Jvm.Cond.static ({ cls := "StrideTurns", name := "no", desc := "(I)J" } : Jvm.MethodName)) ∈ lw_all := lw_g (lw_at lw_m5 239 rfl) rfl
theorem q1333 : (Jvm.Cond.code ({ cls := "StrideTurns", name := "no", desc := "(I)J" } : Jvm.MethodName) prog_1_method_4_code (1 : Nat) (Option.some Jvm.ClassFile.FieldType.long)) ∈ lw_all := lw_g (lw_at lw_m6 0 rfl) rfl
theorem q1334 : (Jvm.Cond.constantLong "StrideTurns" (94 : Nat) (-9223372036854775808 : Int64)) ∈ lw_all := lw_g (lw_at lw_m6 1 rfl) rfl
theorem q1335 : (Jvm.Cond.methodLink "StrideTurns" (138 : Nat) ({ cls := "StrideTurns$Row", name := "tells", desc := "(I)J" } : Jvm.MethodName)) ∈ lw_all := lw_g (lw_at lw_m6 2 rfl) rfl
theorem q1360 : (Jvm.Cond.instanceMethod ({ cls := "StrideTurns", name := "copy", desc := "(IIIII)I" } : Jvm.MethodName)) ∈ lw_all := lw_g (lw_at lw_m6 27 rfl) rfl
theorem q1361 : (Jvm.Cond.selects "StrideTurns" ({ cls := "StrideTurns", name := "copy", desc := "(IIIII)I" } : Jvm.MethodName) ({ cls := "StrideTurns", name := "copy", desc := "(IIIII)I" } : Jvm.MethodName)) ∈ lw_all := lw_g (lw_at lw_m6 28 rfl) rfl
theorem q1362 : (Jvm.Cond.codeWith ({ cls := "StrideTurns", name := "copy", desc := "(IIIII)I" } : Jvm.MethodName) prog_1_method_12_code (7 : Nat) (Option.some Jvm.ClassFile.FieldType.int) [((17 : Nat), (44 : Nat), (45 : Nat), (124 : Nat)), ((17 : Nat), (44 : Nat), (53 : Nat), (151 : Nat)), ((17 : Nat), (44 : Nat), (61 : Nat), (153 : Nat))]) ∈ lw_all := lw_g (lw_at lw_m6 29 rfl) rfl
theorem q1363 : (Jvm.Cond.classLink "StrideTurns" (151 : Nat) "java/lang/ArrayStoreException") ∈ lw_all := lw_g (lw_at lw_m6 30 rfl) rfl
theorem q1377 : (Jvm.Cond.classLink "StrideTurns" (153 : Nat) "java/lang/IndexOutOfBoundsException") ∈ lw_all := lw_g (lw_at lw_m6 44 rfl) rfl
theorem q1378 : (Jvm.Cond.methodLink "StrideTurns" (145 : Nat) ({ cls := "java/lang/System", name := "arraycopy", desc := "(Ljava/lang/Object;ILjava/lang/Object;II)V" } : Jvm.MethodName)) ∈ lw_all := lw_g (lw_at lw_m6 45 rfl) rfl
theorem q1382 : (Jvm.Cond.instanceMethod ({ cls := "StrideTurns", name := "turns", desc := "(I)I" } : Jvm.MethodName)) ∈ lw_all := lw_g (lw_at lw_m6 49 rfl) rfl
theorem q1383 : (Jvm.Cond.selects "StrideTurns" ({ cls := "StrideTurns", name := "turns", desc := "(I)I" } : Jvm.MethodName) ({ cls := "StrideTurns", name := "turns", desc := "(I)I" } : Jvm.MethodName)) ∈ lw_all := lw_g (lw_at lw_m6 50 rfl) rfl
theorem q1384 : (Jvm.Cond.code ({ cls := "StrideTurns", name := "turns", desc := "(I)I" } : Jvm.MethodName) prog_1_method_14_code (3 : Nat) (Option.some Jvm.ClassFile.FieldType.int)) ∈ lw_all := lw_g (lw_at lw_m6 51 rfl) rfl
theorem q1385 : (Jvm.Cond.constantLong "StrideTurns" (171 : Nat) (10 : Int64)) ∈ lw_all := lw_g (lw_at lw_m6 52 rfl) rfl
theorem q1386 : (Jvm.Cond.privateMethod ({ cls := "StrideTurns", name := "lambda$turns$0", desc := "(I)I" } : Jvm.MethodName)) ∈ lw_tbl := lw_at lw_m6 53 rfl
theorem q1387 : (Jvm.Cond.instanceMethod ({ cls := "StrideTurns", name := "lambda$turns$0", desc := "(I)I" } : Jvm.MethodName)) ∈ lw_all := lw_g (lw_at lw_m6 54 rfl) rfl
theorem q1388 : (Jvm.Cond.code ({ cls := "StrideTurns", name := "lambda$turns$0", desc := "(I)I" } : Jvm.MethodName) prog_1_method_108_code (2 : Nat) (Option.some Jvm.ClassFile.FieldType.int)) ∈ lw_all := lw_g (lw_at lw_m6 55 rfl) rfl
theorem q1389 : (Jvm.Cond.methodLink "StrideTurns" (180 : Nat) ({ cls := "StrideTurns", name := "tells", desc := "(LStrideTurns$Act;)V" } : Jvm.MethodName)) ∈ lw_all := lw_g (lw_at lw_m6 56 rfl) rfl
theorem q1390 : (Jvm.Cond.privateMethod ({ cls := "StrideTurns", name := "tells", desc := "(LStrideTurns$Act;)V" } : Jvm.MethodName)) ∈ lw_tbl := lw_at lw_m6 57 rfl
theorem q1391 : (Jvm.Cond.instanceMethod ({ cls := "StrideTurns", name := "tells", desc := "(LStrideTurns$Act;)V" } : Jvm.MethodName)) ∈ lw_all := lw_g (lw_at lw_m6 58 rfl) rfl
theorem q1392 : (Jvm.Cond.code ({ cls := "StrideTurns", name := "tells", desc := "(LStrideTurns$Act;)V" } : Jvm.MethodName) prog_1_method_13_code (2 : Nat) (Option.none : Option Jvm.ClassFile.FieldType)) ∈ lw_all := lw_g (lw_at lw_m6 59 rfl) rfl
theorem q1393 : (Jvm.Cond.methodLink "StrideTurns" (155 : Nat) ({ cls := "java/util/ArrayDeque", name := "size", desc := "()I" } : Jvm.MethodName)) ∈ lw_all := lw_g (lw_at lw_m6 60 rfl) rfl
theorem q1400 : (Jvm.Cond.methodLink "StrideTurns" (158 : Nat) ({ cls := "java/util/ArrayDeque", name := "pollFirst", desc := "()Ljava/lang/Object;" } : Jvm.MethodName)) ∈ lw_all := lw_g (lw_at lw_m6 67 rfl) rfl
theorem q1410 : (Jvm.Cond.classLink "StrideTurns" (162 : Nat) "StrideTurns$Told") ∈ lw_all := lw_g (lw_at lw_m6 77 rfl) rfl
theorem q1412 : (Jvm.Cond.methodLink "StrideTurns" (164 : Nat) ({ cls := "StrideTurns$Told", name := "<init>", desc := "(LStrideTurns$Act;)V" } : Jvm.MethodName)) ∈ lw_all := lw_g (lw_at lw_m6 79 rfl) rfl
theorem q1417 : (Jvm.Cond.fieldLinkNest "StrideTurns" (291 : Nat) "StrideTurns$Told" "act" "LStrideTurns$Act;" "StrideTurns") ∈ lw_tbl := lw_at lw_m6 84 rfl
theorem q1421 : (Jvm.Cond.methodLink "StrideTurns" (167 : Nat) ({ cls := "java/util/ArrayDeque", name := "addLast", desc := "(Ljava/lang/Object;)V" } : Jvm.MethodName)) ∈ lw_all := lw_g (lw_at lw_m6 88 rfl) rfl
theorem q1450 : (Jvm.Cond.instanceMethod ({ cls := "StrideTurns", name := "type", desc := "(I)I" } : Jvm.MethodName)) ∈ lw_all := lw_g (lw_at lw_m6 117 rfl) rfl
theorem q1451 : (Jvm.Cond.selects "StrideTurns" ({ cls := "StrideTurns", name := "type", desc := "(I)I" } : Jvm.MethodName) ({ cls := "StrideTurns", name := "type", desc := "(I)I" } : Jvm.MethodName)) ∈ lw_all := lw_g (lw_at lw_m6 118 rfl) rfl
theorem q1452 : (Jvm.Cond.code ({ cls := "StrideTurns", name := "type", desc := "(I)I" } : Jvm.MethodName) prog_1_method_15_code (2 : Nat) (Option.some Jvm.ClassFile.FieldType.int)) ∈ lw_all := lw_g (lw_at lw_m6 119 rfl) rfl
theorem q1453 : (Jvm.Cond.constantLong "StrideTurns" (182 : Nat) (255 : Int64)) ∈ lw_all := lw_g (lw_at lw_m6 120 rfl) rfl
theorem q1455 : (Jvm.Cond.instanceMethod ({ cls := "StrideTurns", name := "wipe", desc := "()I" } : Jvm.MethodName)) ∈ lw_all := lw_g (lw_at lw_m6 122 rfl) rfl
theorem q1456 : (Jvm.Cond.selects "StrideTurns" ({ cls := "StrideTurns", name := "wipe", desc := "()I" } : Jvm.MethodName) ({ cls := "StrideTurns", name := "wipe", desc := "()I" } : Jvm.MethodName)) ∈ lw_all := lw_g (lw_at lw_m6 123 rfl) rfl
theorem q1457 : (Jvm.Cond.code ({ cls := "StrideTurns", name := "wipe", desc := "()I" } : Jvm.MethodName) prog_1_method_16_code (2 : Nat) (Option.some Jvm.ClassFile.FieldType.int)) ∈ lw_all := lw_g (lw_at lw_m6 124 rfl) rfl
theorem q1459 : (Jvm.Cond.instanceMethod ({ cls := "StrideTurns", name := "statement", desc := "(I)I" } : Jvm.MethodName)) ∈ lw_all := lw_g (lw_at lw_m6 126 rfl) rfl
theorem q1460 : (Jvm.Cond.selects "StrideTurns" ({ cls := "StrideTurns", name := "statement", desc := "(I)I" } : Jvm.MethodName) ({ cls := "StrideTurns", name := "statement", desc := "(I)I" } : Jvm.MethodName)) ∈ lw_all := lw_g (lw_at lw_m6 127 rfl) rfl
theorem q1461 : (Jvm.Cond.code ({ cls := "StrideTurns", name := "statement", desc := "(I)I" } : Jvm.MethodName) prog_1_method_18_code (3 : Nat) (Option.some Jvm.ClassFile.FieldType.int)) ∈ lw_all := lw_g (lw_at lw_m6 128 rfl) rfl
theorem q1462 : (Jvm.Cond.methodLink "StrideTurns" (204 : Nat) ({ cls := "StrideTurns", name := "named", desc := "()LStrideTurns$Deed;" } : Jvm.MethodName)) ∈ lw_all := lw_g (lw_at lw_m6 129 rfl) rfl
theorem q1463 : (Jvm.Cond.privateMethod ({ cls := "StrideTurns", name := "named", desc := "()LStrideTurns$Deed;" } : Jvm.MethodName)) ∈ lw_tbl := lw_at lw_m6 130 rfl
theorem q1464 : (Jvm.Cond.instanceMethod ({ cls := "StrideTurns", name := "named", desc := "()LStrideTurns$Deed;" } : Jvm.MethodName)) ∈ lw_all := lw_g (lw_at lw_m6 131 rfl) rfl
theorem q1465 : (Jvm.Cond.code ({ cls := "StrideTurns", name := "named", desc := "()LStrideTurns$Deed;" } : Jvm.MethodName) prog_1_method_17_code (3 : Nat) (Option.some (Jvm.ClassFile.FieldType.object "StrideTurns$Deed"))) ∈ lw_all := lw_g (lw_at lw_m6 132 rfl) rfl
theorem q1466 : (Jvm.Cond.classLink "StrideTurns" (187 : Nat) "java/lang/StringBuilder") ∈ lw_all := lw_g (lw_at lw_m6 133 rfl) rfl
theorem q1468 : (Jvm.Cond.methodLink "StrideTurns" (189 : Nat) ({ cls := "java/lang/StringBuilder", name := "<init>", desc := "(I)V" } : Jvm.MethodName)) ∈ lw_all := lw_g (lw_at lw_m6 135 rfl) rfl
theorem q1499 : (Jvm.Cond.methodLink "StrideTurns" (190 : Nat) ({ cls := "java/lang/StringBuilder", name := "append", desc := "(C)Ljava/lang/StringBuilder;" } : Jvm.MethodName)) ∈ lw_all := lw_g (lw_at lw_m6 166 rfl) rfl
theorem q1572 : (Jvm.Cond.methodLink "StrideTurns" (194 : Nat) ({ cls := "java/lang/StringBuilder", name := "toString", desc := "()Ljava/lang/String;" } : Jvm.MethodName)) ∈ lw_all := lw_g (lw_at lw_m6 239 rfl) rfl
theorem q1626 : (Jvm.Cond.methodLink "StrideTurns" (198 : Nat) ({ cls := "java/util/HashMap", name := "get", desc := "(Ljava/lang/Object;)Ljava/lang/Object;" } : Jvm.MethodName)) ∈ lw_all := lw_g (lw_at lw_m7 53 rfl) rfl
theorem q1646 : (Jvm.Cond.classLink "StrideTurns" (12 : Nat) "StrideTurns$Deed") ∈ lw_all := lw_g (lw_at lw_m7 73 rfl) rfl
theorem q1647 : (Jvm.Cond.methodLink "StrideTurns" (208 : Nat) ({ cls := "java/util/ArrayList", name := "size", desc := "()I" } : Jvm.MethodName)) ∈ lw_all := lw_g (lw_at lw_m7 74 rfl) rfl
theorem q1651 : (Jvm.Cond.classLink "StrideTurns" (209 : Nat) "StrideTurns$Statement") ∈ lw_all := lw_g (lw_at lw_m7 78 rfl) rfl
theorem q1653 : (Jvm.Cond.methodLink "StrideTurns" (211 : Nat) ({ cls := "StrideTurns$Statement", name := "<init>", desc := "(LStrideTurns;LStrideTurns$Deed;I)V" } : Jvm.MethodName)) ∈ lw_all := lw_g (lw_at lw_m7 80 rfl) rfl
theorem q1669 : (Jvm.Cond.fieldLinkNest "StrideTurns" (237 : Nat) "StrideTurns$Reference" "row" "I" "StrideTurns") ∈ lw_tbl := lw_at lw_m7 96 rfl
theorem q1671 : (Jvm.Cond.fieldLinkNest "StrideTurns" (253 : Nat) "StrideTurns$Reference" "from" "I" "StrideTurns") ∈ lw_tbl := lw_at lw_m7 98 rfl
theorem q1673 : (Jvm.Cond.fieldLinkNest "StrideTurns" (256 : Nat) "StrideTurns$Reference" "by" "I" "StrideTurns") ∈ lw_tbl := lw_at lw_m7 100 rfl
theorem q1676 : (Jvm.Cond.fieldLinkNest "StrideTurns" (259 : Nat) "StrideTurns$Reference" "step" "I" "StrideTurns") ∈ lw_tbl := lw_at lw_m7 103 rfl
theorem q1680 : (Jvm.Cond.fieldLinkNest "StrideTurns" (395 : Nat) "StrideTurns$Reference" "where" "LStrideTurns$Where;" "StrideTurns") ∈ lw_tbl := lw_at lw_m7 107 rfl
theorem q1696 : (Jvm.Cond.fieldLinkNest "StrideTurns" (420 : Nat) "StrideTurns$Statement" "deed" "LStrideTurns$Deed;" "StrideTurns") ∈ lw_tbl := lw_at lw_m7 123 rfl
theorem q1699 : (Jvm.Cond.fieldLinkNest "StrideTurns" (308 : Nat) "StrideTurns$Statement" "count" "I" "StrideTurns") ∈ lw_tbl := lw_at lw_m7 126 rfl
theorem q1702 : (Jvm.Cond.fieldLinkNest "StrideTurns" (268 : Nat) "StrideTurns$Statement" "period" "I" "StrideTurns") ∈ lw_tbl := lw_at lw_m7 129 rfl
theorem q1704 : (Jvm.Cond.fieldLinkNest "StrideTurns" (271 : Nat) "StrideTurns$Statement" "phase" "I" "StrideTurns") ∈ lw_tbl := lw_at lw_m7 131 rfl
theorem q1706 : (Jvm.Cond.fieldLinkNest "StrideTurns" (282 : Nat) "StrideTurns$Statement" "mask" "I" "StrideTurns") ∈ lw_tbl := lw_at lw_m7 133 rfl
theorem q1726 : (Jvm.Cond.methodLink "StrideTurns" (214 : Nat) ({ cls := "java/util/ArrayList", name := "add", desc := "(Ljava/lang/Object;)Z" } : Jvm.MethodName)) ∈ lw_all := lw_g (lw_at lw_m7 153 rfl) rfl
theorem q1747 : (Jvm.Cond.privateMethod ({ cls := "StrideTurns", name := "lambda$statement$1", desc := "()I" } : Jvm.MethodName)) ∈ lw_tbl := lw_at lw_m7 174 rfl
theorem q1748 : (Jvm.Cond.instanceMethod ({ cls := "StrideTurns", name := "lambda$statement$1", desc := "()I" } : Jvm.MethodName)) ∈ lw_all := lw_g (lw_at lw_m7 175 rfl) rfl
theorem q1749 : (Jvm.Cond.code ({ cls := "StrideTurns", name := "lambda$statement$1", desc := "()I" } : Jvm.MethodName) prog_1_method_107_code (1 : Nat) (Option.some Jvm.ClassFile.FieldType.int)) ∈ lw_all := lw_g (lw_at lw_m7 176 rfl) rfl
theorem q1750 : (Jvm.Cond.methodLink "StrideTurns" (703 : Nat) ({ cls := "java/util/ArrayList", name := "remove", desc := "(I)Ljava/lang/Object;" } : Jvm.MethodName)) ∈ lw_all := lw_g (lw_at lw_m7 177 rfl) rfl
theorem q1764 : (Jvm.Cond.instanceMethod ({ cls := "StrideTurns", name := "refer", desc := "(III)I" } : Jvm.MethodName)) ∈ lw_all := lw_g (lw_at lw_m7 191 rfl) rfl
theorem q1765 : (Jvm.Cond.selects "StrideTurns" ({ cls := "StrideTurns", name := "refer", desc := "(III)I" } : Jvm.MethodName) ({ cls := "StrideTurns", name := "refer", desc := "(III)I" } : Jvm.MethodName)) ∈ lw_all := lw_g (lw_at lw_m7 192 rfl) rfl
theorem q1766 : (Jvm.Cond.code ({ cls := "StrideTurns", name := "refer", desc := "(III)I" } : Jvm.MethodName) prog_1_method_21_code (6 : Nat) (Option.some Jvm.ClassFile.FieldType.int)) ∈ lw_all := lw_g (lw_at lw_m7 193 rfl) rfl
theorem q1767 : (Jvm.Cond.methodLink "StrideTurns" (226 : Nat) ({ cls := "StrideTurns", name := "isReference", desc := "(II)Z" } : Jvm.MethodName)) ∈ lw_all := lw_g (lw_at lw_m7 194 rfl) rfl
theorem q1768 : (Jvm.Cond.privateMethod ({ cls := "StrideTurns", name := "isReference", desc := "(II)Z" } : Jvm.MethodName)) ∈ lw_tbl := lw_at lw_m7 195 rfl
theorem q1769 : (Jvm.Cond.instanceMethod ({ cls := "StrideTurns", name := "isReference", desc := "(II)Z" } : Jvm.MethodName)) ∈ lw_all := lw_g (lw_at lw_m7 196 rfl) rfl
theorem q1770 : (Jvm.Cond.code ({ cls := "StrideTurns", name := "isReference", desc := "(II)Z" } : Jvm.MethodName) prog_1_method_20_code (3 : Nat) (Option.some Jvm.ClassFile.FieldType.boolean)) ∈ lw_all := lw_g (lw_at lw_m7 197 rfl) rfl
theorem q1771 : (Jvm.Cond.methodLink "StrideTurns" (221 : Nat) ({ cls := "StrideTurns", name := "isStatement", desc := "(I)Z" } : Jvm.MethodName)) ∈ lw_all := lw_g (lw_at lw_m7 198 rfl) rfl
theorem q1772 : (Jvm.Cond.privateMethod ({ cls := "StrideTurns", name := "isStatement", desc := "(I)Z" } : Jvm.MethodName)) ∈ lw_tbl := lw_at lw_m7 199 rfl
theorem q1773 : (Jvm.Cond.instanceMethod ({ cls := "StrideTurns", name := "isStatement", desc := "(I)Z" } : Jvm.MethodName)) ∈ lw_all := lw_g (lw_at lw_m7 200 rfl) rfl
theorem q1774 : (Jvm.Cond.code ({ cls := "StrideTurns", name := "isStatement", desc := "(I)Z" } : Jvm.MethodName) prog_1_method_19_code (2 : Nat) (Option.some Jvm.ClassFile.FieldType.boolean)) ∈ lw_all := lw_g (lw_at lw_m7 201 rfl) rfl
theorem q1775 : (Jvm.Cond.constantLong "StrideTurns" (224 : Nat) (2 : Int64)) ∈ lw_all := lw_g (lw_at lw_m7 202 rfl) rfl
theorem q1776 : (Jvm.Cond.methodLink "StrideTurns" (230 : Nat) ({ cls := "java/util/ArrayList", name := "get", desc := "(I)Ljava/lang/Object;" } : Jvm.MethodName)) ∈ lw_all := lw_g (lw_at lw_m7 203 rfl) rfl
theorem q1784 : (Jvm.Cond.methodLink "StrideTurns" (233 : Nat) ({ cls := "StrideTurns$Statement", name := "at", desc := "(I)LStrideTurns$Reference;" } : Jvm.MethodName)) ∈ lw_all := lw_g (lw_at lw_m7 211 rfl) rfl
theorem q1788 : (Jvm.Cond.static ({ cls := "StrideTurns", name := "lambda$refer$2", desc := "(LStrideTurns$Reference;I)I" } : Jvm.MethodName)) ∈ lw_all := lw_g (lw_at lw_m7 215 rfl) rfl
theorem q1789 : (Jvm.Cond.code ({ cls := "StrideTurns", name := "lambda$refer$2", desc := "(LStrideTurns$Reference;I)I" } : Jvm.MethodName) prog_1_method_106_code (2 : Nat) (Option.some Jvm.ClassFile.FieldType.int)) ∈ lw_all := lw_g (lw_at lw_m7 216 rfl) rfl
theorem q1791 : (Jvm.Cond.instanceMethod ({ cls := "StrideTurns", name := "place", desc := "(IIIII)I" } : Jvm.MethodName)) ∈ lw_all := lw_g (lw_at lw_m7 218 rfl) rfl
theorem q1792 : (Jvm.Cond.selects "StrideTurns" ({ cls := "StrideTurns", name := "place", desc := "(IIIII)I" } : Jvm.MethodName) ({ cls := "StrideTurns", name := "place", desc := "(IIIII)I" } : Jvm.MethodName)) ∈ lw_all := lw_g (lw_at lw_m7 219 rfl) rfl
theorem q1793 : (Jvm.Cond.code ({ cls := "StrideTurns", name := "place", desc := "(IIIII)I" } : Jvm.MethodName) prog_1_method_22_code (10 : Nat) (Option.some Jvm.ClassFile.FieldType.int)) ∈ lw_all := lw_g (lw_at lw_m7 220 rfl) rfl
theorem q1794 : (Jvm.Cond.constantLong "StrideTurns" (245 : Nat) (-60 : Int64)) ∈ lw_all := lw_g (lw_at lw_m7 221 rfl) rfl
theorem q1795 : (Jvm.Cond.constantLong "StrideTurns" (247 : Nat) (60 : Int64)) ∈ lw_all := lw_g (lw_at lw_m7 222 rfl) rfl
theorem q1796 : (Jvm.Cond.constantLong "StrideTurns" (249 : Nat) (-6 : Int64)) ∈ lw_all := lw_g (lw_at lw_m7 223 rfl) rfl
theorem q1797 : (Jvm.Cond.constantLong "StrideTurns" (251 : Nat) (6 : Int64)) ∈ lw_all := lw_g (lw_at lw_m7 224 rfl) rfl
theorem q1798 : (Jvm.Cond.methodLink "StrideTurns" (262 : Nat) ({ cls := "StrideTurns$Reference", name := "moves", desc := "(III)V" } : Jvm.MethodName)) ∈ lw_all := lw_g (lw_at lw_m7 225 rfl) rfl
theorem q1804 : (Jvm.Cond.static ({ cls := "StrideTurns", name := "lambda$place$3", desc := "(LStrideTurns$Reference;III)I" } : Jvm.MethodName)) ∈ lw_all := lw_g (lw_at lw_m7 231 rfl) rfl
theorem q1805 : (Jvm.Cond.code ({ cls := "StrideTurns", name := "lambda$place$3", desc := "(LStrideTurns$Reference;III)I" } : Jvm.MethodName) prog_1_method_105_code (4 : Nat) (Option.some Jvm.ClassFile.FieldType.int)) ∈ lw_all := lw_g (lw_at lw_m7 232 rfl) rfl
theorem q1807 : (Jvm.Cond.instanceMethod ({ cls := "StrideTurns", name := "guard", desc := "(III)I" } : Jvm.MethodName)) ∈ lw_all := lw_g (lw_at lw_m7 234 rfl) rfl
theorem q1808 : (Jvm.Cond.selects "StrideTurns" ({ cls := "StrideTurns", name := "guard", desc := "(III)I" } : Jvm.MethodName) ({ cls := "StrideTurns", name := "guard", desc := "(III)I" } : Jvm.MethodName)) ∈ lw_all := lw_g (lw_at lw_m7 235 rfl) rfl
theorem q1809 : (Jvm.Cond.code ({ cls := "StrideTurns", name := "guard", desc := "(III)I" } : Jvm.MethodName) prog_1_method_23_code (7 : Nat) (Option.some Jvm.ClassFile.FieldType.int)) ∈ lw_all := lw_g (lw_at lw_m7 236 rfl) rfl
theorem q1810 : (Jvm.Cond.methodLink "StrideTurns" (274 : Nat) ({ cls := "StrideTurns$Statement", name := "waits", desc := "(II)V" } : Jvm.MethodName)) ∈ lw_all := lw_g (lw_at lw_m7 237 rfl) rfl
theorem q1816 : (Jvm.Cond.static ({ cls := "StrideTurns", name := "lambda$guard$4", desc := "(LStrideTurns$Statement;II)I" } : Jvm.MethodName)) ∈ lw_all := lw_g (lw_at lw_m8 3 rfl) rfl
theorem q1817 : (Jvm.Cond.code ({ cls := "StrideTurns", name := "lambda$guard$4", desc := "(LStrideTurns$Statement;II)I" } : Jvm.MethodName) prog_1_method_104_code (3 : Nat) (Option.some Jvm.ClassFile.FieldType.int)) ∈ lw_all := lw_g (lw_at lw_m8 4 rfl) rfl
theorem q1819 : (Jvm.Cond.instanceMethod ({ cls := "StrideTurns", name := "mask", desc := "(II)I" } : Jvm.MethodName)) ∈ lw_all := lw_g (lw_at lw_m8 6 rfl) rfl
theorem q1820 : (Jvm.Cond.selects "StrideTurns" ({ cls := "StrideTurns", name := "mask", desc := "(II)I" } : Jvm.MethodName) ({ cls := "StrideTurns", name := "mask", desc := "(II)I" } : Jvm.MethodName)) ∈ lw_all := lw_g (lw_at lw_m8 7 rfl) rfl
theorem q1821 : (Jvm.Cond.code ({ cls := "StrideTurns", name := "mask", desc := "(II)I" } : Jvm.MethodName) prog_1_method_24_code (5 : Nat) (Option.some Jvm.ClassFile.FieldType.int)) ∈ lw_all := lw_g (lw_at lw_m8 8 rfl) rfl
theorem q1822 : (Jvm.Cond.constantLong "StrideTurns" (280 : Nat) (-1 : Int64)) ∈ lw_all := lw_g (lw_at lw_m8 9 rfl) rfl
theorem q1823 : (Jvm.Cond.static ({ cls := "StrideTurns", name := "lambda$mask$5", desc := "(LStrideTurns$Statement;I)I" } : Jvm.MethodName)) ∈ lw_all := lw_g (lw_at lw_m8 10 rfl) rfl
theorem q1824 : (Jvm.Cond.code ({ cls := "StrideTurns", name := "lambda$mask$5", desc := "(LStrideTurns$Statement;I)I" } : Jvm.MethodName) prog_1_method_103_code (2 : Nat) (Option.some Jvm.ClassFile.FieldType.int)) ∈ lw_all := lw_g (lw_at lw_m8 11 rfl) rfl
theorem q1826 : (Jvm.Cond.instanceMethod ({ cls := "StrideTurns", name := "undo", desc := "()I" } : Jvm.MethodName)) ∈ lw_all := lw_g (lw_at lw_m8 13 rfl) rfl
theorem q1827 : (Jvm.Cond.selects "StrideTurns" ({ cls := "StrideTurns", name := "undo", desc := "()I" } : Jvm.MethodName) ({ cls := "StrideTurns", name := "undo", desc := "()I" } : Jvm.MethodName)) ∈ lw_all := lw_g (lw_at lw_m8 14 rfl) rfl
theorem q1828 : (Jvm.Cond.code ({ cls := "StrideTurns", name := "undo", desc := "()I" } : Jvm.MethodName) prog_1_method_25_code (2 : Nat) (Option.some Jvm.ClassFile.FieldType.int)) ∈ lw_all := lw_g (lw_at lw_m8 15 rfl) rfl
theorem q1829 : (Jvm.Cond.methodLink "StrideTurns" (288 : Nat) ({ cls := "java/util/ArrayDeque", name := "pollLast", desc := "()Ljava/lang/Object;" } : Jvm.MethodName)) ∈ lw_all := lw_g (lw_at lw_m8 16 rfl) rfl
theorem q1836 : (Jvm.Cond.interfaceEntry "StrideTurns" (295 : Nat)) ∈ lw_tbl := lw_at lw_m8 23 rfl
theorem q1837 : (Jvm.Cond.methodLink "StrideTurns" (295 : Nat) ({ cls := "StrideTurns$Act", name := "back", desc := "()I" } : Jvm.MethodName)) ∈ lw_all := lw_g (lw_at lw_m8 24 rfl) rfl
theorem q1841 : (Jvm.Cond.instanceMethod ({ cls := "StrideTurns", name := "info", desc := "(II)I" } : Jvm.MethodName)) ∈ lw_all := lw_g (lw_at lw_m8 28 rfl) rfl
theorem q1842 : (Jvm.Cond.selects "StrideTurns" ({ cls := "StrideTurns", name := "info", desc := "(II)I" } : Jvm.MethodName) ({ cls := "StrideTurns", name := "info", desc := "(II)I" } : Jvm.MethodName)) ∈ lw_all := lw_g (lw_at lw_m8 29 rfl) rfl
theorem q1843 : (Jvm.Cond.code ({ cls := "StrideTurns", name := "info", desc := "(II)I" } : Jvm.MethodName) prog_1_method_26_code (3 : Nat) (Option.some Jvm.ClassFile.FieldType.int)) ∈ lw_all := lw_g (lw_at lw_m8 30 rfl) rfl
theorem q1844 : (Jvm.Cond.methodLink "StrideTurns" (299 : Nat) ({ cls := "StrideTurns$Statement", name := "tells", desc := "(I)I" } : Jvm.MethodName)) ∈ lw_all := lw_g (lw_at lw_m8 31 rfl) rfl
theorem q1854 : (Jvm.Cond.privateMethod ({ cls := "StrideTurns", name := "numbers", desc := "(I)LStrideTurns$Row;" } : Jvm.MethodName)) ∈ lw_tbl := lw_at lw_m8 41 rfl
theorem q1855 : (Jvm.Cond.instanceMethod ({ cls := "StrideTurns", name := "numbers", desc := "(I)LStrideTurns$Row;" } : Jvm.MethodName)) ∈ lw_all := lw_g (lw_at lw_m8 42 rfl) rfl
theorem q1856 : (Jvm.Cond.code ({ cls := "StrideTurns", name := "numbers", desc := "(I)LStrideTurns$Row;" } : Jvm.MethodName) prog_1_method_7_code (3 : Nat) (Option.some (Jvm.ClassFile.FieldType.object "StrideTurns$Row"))) ∈ lw_all := lw_g (lw_at lw_m8 43 rfl) rfl
theorem q1857 : (Jvm.Cond.methodLink "StrideTurns" (102 : Nat) ({ cls := "StrideTurns$Row", name := "isNumbers", desc := "()Z" } : Jvm.MethodName)) ∈ lw_all := lw_g (lw_at lw_m8 44 rfl) rfl
theorem q1894 : (Jvm.Cond.instanceMethod ({ cls := "StrideTurns", name := "reference", desc := "(III)I" } : Jvm.MethodName)) ∈ lw_all := lw_g (lw_at lw_m8 81 rfl) rfl
theorem q1895 : (Jvm.Cond.selects "StrideTurns" ({ cls := "StrideTurns", name := "reference", desc := "(III)I" } : Jvm.MethodName) ({ cls := "StrideTurns", name := "reference", desc := "(III)I" } : Jvm.MethodName)) ∈ lw_all := lw_g (lw_at lw_m8 82 rfl) rfl
theorem q1896 : (Jvm.Cond.code ({ cls := "StrideTurns", name := "reference", desc := "(III)I" } : Jvm.MethodName) prog_1_method_27_code (4 : Nat) (Option.some Jvm.ClassFile.FieldType.int)) ∈ lw_all := lw_g (lw_at lw_m8 83 rfl) rfl
theorem q1897 : (Jvm.Cond.constantLong "StrideTurns" (301 : Nat) (3 : Int64)) ∈ lw_all := lw_g (lw_at lw_m8 84 rfl) rfl
theorem q1898 : (Jvm.Cond.methodLink "StrideTurns" (303 : Nat) ({ cls := "StrideTurns$Reference", name := "tells", desc := "(I)I" } : Jvm.MethodName)) ∈ lw_all := lw_g (lw_at lw_m8 85 rfl) rfl
theorem q1902 : (Jvm.Cond.constant "StrideTurns" (304 : Nat) (-2147483648 : Int32)) ∈ lw_all := lw_g (lw_at lw_m8 89 rfl) rfl
theorem q1904 : (Jvm.Cond.instanceMethod ({ cls := "StrideTurns", name := "section", desc := "(III)I" } : Jvm.MethodName)) ∈ lw_all := lw_g (lw_at lw_m8 91 rfl) rfl
theorem q1905 : (Jvm.Cond.selects "StrideTurns" ({ cls := "StrideTurns", name := "section", desc := "(III)I" } : Jvm.MethodName) ({ cls := "StrideTurns", name := "section", desc := "(III)I" } : Jvm.MethodName)) ∈ lw_all := lw_g (lw_at lw_m8 92 rfl) rfl
theorem q1906 : (Jvm.Cond.code ({ cls := "StrideTurns", name := "section", desc := "(III)I" } : Jvm.MethodName) prog_1_method_33_code (4 : Nat) (Option.some Jvm.ClassFile.FieldType.int)) ∈ lw_all := lw_g (lw_at lw_m8 93 rfl) rfl
theorem q1907 : (Jvm.Cond.methodLink "StrideTurns" (317 : Nat) ({ cls := "StrideTurns", name := "isTo", desc := "(I)Z" } : Jvm.MethodName)) ∈ lw_all := lw_g (lw_at lw_m8 94 rfl) rfl
theorem q1908 : (Jvm.Cond.privateMethod ({ cls := "StrideTurns", name := "isTo", desc := "(I)Z" } : Jvm.MethodName)) ∈ lw_tbl := lw_at lw_m8 95 rfl
theorem q1909 : (Jvm.Cond.instanceMethod ({ cls := "StrideTurns", name := "isTo", desc := "(I)Z" } : Jvm.MethodName)) ∈ lw_all := lw_g (lw_at lw_m8 96 rfl) rfl
theorem q1910 : (Jvm.Cond.code ({ cls := "StrideTurns", name := "isTo", desc := "(I)Z" } : Jvm.MethodName) prog_1_method_31_code (2 : Nat) (Option.some Jvm.ClassFile.FieldType.boolean)) ∈ lw_all := lw_g (lw_at lw_m8 97 rfl) rfl
theorem q1911 : (Jvm.Cond.methodLink "StrideTurns" (305 : Nat) ({ cls := "StrideTurns", name := "referenceAt", desc := "(I)LStrideTurns$Reference;" } : Jvm.MethodName)) ∈ lw_all := lw_g (lw_at lw_m8 98 rfl) rfl
theorem q1912 : (Jvm.Cond.privateMethod ({ cls := "StrideTurns", name := "referenceAt", desc := "(I)LStrideTurns$Reference;" } : Jvm.MethodName)) ∈ lw_tbl := lw_at lw_m8 99 rfl
theorem q1913 : (Jvm.Cond.instanceMethod ({ cls := "StrideTurns", name := "referenceAt", desc := "(I)LStrideTurns$Reference;" } : Jvm.MethodName)) ∈ lw_all := lw_g (lw_at lw_m8 100 rfl) rfl
theorem q1914 : (Jvm.Cond.code ({ cls := "StrideTurns", name := "referenceAt", desc := "(I)LStrideTurns$Reference;" } : Jvm.MethodName) prog_1_method_30_code (2 : Nat) (Option.some (Jvm.ClassFile.FieldType.object "StrideTurns$Reference"))) ∈ lw_all := lw_g (lw_at lw_m8 101 rfl) rfl
theorem q1915 : (Jvm.Cond.methodLink "StrideTurns" (320 : Nat) ({ cls := "StrideTurns", name := "isTurn", desc := "(I)Z" } : Jvm.MethodName)) ∈ lw_all := lw_g (lw_at lw_m8 102 rfl) rfl
theorem q1916 : (Jvm.Cond.privateMethod ({ cls := "StrideTurns", name := "isTurn", desc := "(I)Z" } : Jvm.MethodName)) ∈ lw_tbl := lw_at lw_m8 103 rfl
theorem q1917 : (Jvm.Cond.instanceMethod ({ cls := "StrideTurns", name := "isTurn", desc := "(I)Z" } : Jvm.MethodName)) ∈ lw_all := lw_g (lw_at lw_m8 104 rfl) rfl
theorem q1918 : (Jvm.Cond.code ({ cls := "StrideTurns", name := "isTurn", desc := "(I)Z" } : Jvm.MethodName) prog_1_method_29_code (2 : Nat) (Option.some Jvm.ClassFile.FieldType.boolean)) ∈ lw_all := lw_g (lw_at lw_m8 105 rfl) rfl
theorem q1919 : (Jvm.Cond.methodLink "StrideTurns" (323 : Nat) ({ cls := "StrideTurns", name := "sectionAt", desc := "(II)LStrideTurns$Section;" } : Jvm.MethodName)) ∈ lw_all := lw_g (lw_at lw_m8 106 rfl) rfl
theorem q1920 : (Jvm.Cond.privateMethod ({ cls := "StrideTurns", name := "sectionAt", desc := "(II)LStrideTurns$Section;" } : Jvm.MethodName)) ∈ lw_tbl := lw_at lw_m8 107 rfl
theorem q1921 : (Jvm.Cond.instanceMethod ({ cls := "StrideTurns", name := "sectionAt", desc := "(II)LStrideTurns$Section;" } : Jvm.MethodName)) ∈ lw_all := lw_g (lw_at lw_m8 108 rfl) rfl
theorem q1922 : (Jvm.Cond.code ({ cls := "StrideTurns", name := "sectionAt", desc := "(II)LStrideTurns$Section;" } : Jvm.MethodName) prog_1_method_32_code (3 : Nat) (Option.some (Jvm.ClassFile.FieldType.object "StrideTurns$Section"))) ∈ lw_all := lw_g (lw_at lw_m8 109 rfl) rfl
theorem q1923 : (Jvm.Cond.methodLink "StrideTurns" (311 : Nat) ({ cls := "StrideTurns$Section", name := "of", desc := "(LStrideTurns$Reference;II)LStrideTurns$Section;" } : Jvm.MethodName)) ∈ lw_all := lw_g (lw_at lw_m8 110 rfl) rfl
theorem q1940 : (Jvm.Cond.fieldLinkNest "StrideTurns" (465 : Nat) "StrideTurns$Section" "first" "I" "StrideTurns") ∈ lw_tbl := lw_at lw_m8 127 rfl
theorem q1942 : (Jvm.Cond.fieldLinkNest "StrideTurns" (468 : Nat) "StrideTurns$Section" "stride" "I" "StrideTurns") ∈ lw_tbl := lw_at lw_m8 129 rfl
theorem q1944 : (Jvm.Cond.fieldLinkNest "StrideTurns" (332 : Nat) "StrideTurns$Section" "many" "I" "StrideTurns") ∈ lw_tbl := lw_at lw_m8 131 rfl
theorem q1952 : (Jvm.Cond.methodLink "StrideTurns" (327 : Nat) ({ cls := "StrideTurns$Section", name := "tells", desc := "(I)I" } : Jvm.MethodName)) ∈ lw_all := lw_g (lw_at lw_m8 139 rfl) rfl
theorem q1957 : (Jvm.Cond.instanceMethod ({ cls := "StrideTurns", name := "meet", desc := "(IIIII)I" } : Jvm.MethodName)) ∈ lw_all := lw_g (lw_at lw_m8 144 rfl) rfl
theorem q1958 : (Jvm.Cond.selects "StrideTurns" ({ cls := "StrideTurns", name := "meet", desc := "(IIIII)I" } : Jvm.MethodName) ({ cls := "StrideTurns", name := "meet", desc := "(IIIII)I" } : Jvm.MethodName)) ∈ lw_all := lw_g (lw_at lw_m8 145 rfl) rfl
theorem q1959 : (Jvm.Cond.code ({ cls := "StrideTurns", name := "meet", desc := "(IIIII)I" } : Jvm.MethodName) prog_1_method_34_code (8 : Nat) (Option.some Jvm.ClassFile.FieldType.int)) ∈ lw_all := lw_g (lw_at lw_m8 146 rfl) rfl
theorem q1960 : (Jvm.Cond.methodLink "StrideTurns" (328 : Nat) ({ cls := "StrideTurns$Section", name := "meet", desc := "(LStrideTurns$Section;)LStrideTurns$Section;" } : Jvm.MethodName)) ∈ lw_all := lw_g (lw_at lw_m8 147 rfl) rfl
theorem q1965 : (Jvm.Cond.static ({ cls := "StrideTurns", name := "divisor", desc := "(II)I" } : Jvm.MethodName)) ∈ lw_all := lw_g (lw_at lw_m8 152 rfl) rfl
theorem q1966 : (Jvm.Cond.code ({ cls := "StrideTurns", name := "divisor", desc := "(II)I" } : Jvm.MethodName) prog_1_method_28_code (5 : Nat) (Option.some Jvm.ClassFile.FieldType.int)) ∈ lw_all := lw_g (lw_at lw_m8 153 rfl) rfl
theorem q1976 : (Jvm.Cond.instanceMethod ({ cls := "StrideTurns", name := "kinds", desc := "(II)I" } : Jvm.MethodName)) ∈ lw_all := lw_g (lw_at lw_m8 163 rfl) rfl
theorem q1977 : (Jvm.Cond.selects "StrideTurns" ({ cls := "StrideTurns", name := "kinds", desc := "(II)I" } : Jvm.MethodName) ({ cls := "StrideTurns", name := "kinds", desc := "(II)I" } : Jvm.MethodName)) ∈ lw_all := lw_g (lw_at lw_m8 164 rfl) rfl
theorem q1978 : (Jvm.Cond.code ({ cls := "StrideTurns", name := "kinds", desc := "(II)I" } : Jvm.MethodName) prog_1_method_36_code (3 : Nat) (Option.some Jvm.ClassFile.FieldType.int)) ∈ lw_all := lw_g (lw_at lw_m8 165 rfl) rfl
theorem q1979 : (Jvm.Cond.methodLink "StrideTurns" (360 : Nat) ({ cls := "StrideTurns", name := "kindsOf", desc := "(II)Ljava/util/LinkedHashMap;" } : Jvm.MethodName)) ∈ lw_all := lw_g (lw_at lw_m8 166 rfl) rfl
theorem q1980 : (Jvm.Cond.privateMethod ({ cls := "StrideTurns", name := "kindsOf", desc := "(II)Ljava/util/LinkedHashMap;" } : Jvm.MethodName)) ∈ lw_tbl := lw_at lw_m8 167 rfl
theorem q1981 : (Jvm.Cond.instanceMethod ({ cls := "StrideTurns", name := "kindsOf", desc := "(II)Ljava/util/LinkedHashMap;" } : Jvm.MethodName)) ∈ lw_all := lw_g (lw_at lw_m8 168 rfl) rfl
theorem q1982 : (Jvm.Cond.code ({ cls := "StrideTurns", name := "kindsOf", desc := "(II)Ljava/util/LinkedHashMap;" } : Jvm.MethodName) prog_1_method_35_code (12 : Nat) (Option.some (Jvm.ClassFile.FieldType.object "java/util/LinkedHashMap"))) ∈ lw_all := lw_g (lw_at lw_m8 169 rfl) rfl
theorem q1983 : (Jvm.Cond.classLink "StrideTurns" (335 : Nat) "java/util/LinkedHashMap") ∈ lw_all := lw_g (lw_at lw_m8 170 rfl) rfl
theorem q1984 : (Jvm.Cond.methodLink "StrideTurns" (337 : Nat) ({ cls := "java/util/LinkedHashMap", name := "<init>", desc := "()V" } : Jvm.MethodName)) ∈ lw_all := lw_g (lw_at lw_m8 171 rfl) rfl
theorem q2011 : (Jvm.Cond.methodLink "StrideTurns" (338 : Nat) ({ cls := "StrideTurns$Statement", name := "isDone", desc := "(I)Z" } : Jvm.MethodName)) ∈ lw_all := lw_g (lw_at lw_m8 198 rfl) rfl
theorem q2012 : (Jvm.Cond.fieldLink "StrideTurns" (341 : Nat) "StrideTurns" "ORDER" "[I") ∈ lw_all := lw_g (lw_at lw_m8 199 rfl) rfl
theorem q2013 : (Jvm.Cond.laysStatic "StrideTurns" "ORDER" "[I") ∈ lw_tbl := lw_at lw_m8 200 rfl
theorem q2014 : (Jvm.Cond.methodLink "StrideTurns" (344 : Nat) ({ cls := "StrideTurns$Statement", name := "looks", desc := "(I)Z" } : Jvm.MethodName)) ∈ lw_all := lw_g (lw_at lw_m8 201 rfl) rfl
theorem q2018 : (Jvm.Cond.methodLink "StrideTurns" (347 : Nat) ({ cls := "java/util/LinkedHashMap", name := "get", desc := "(Ljava/lang/Object;)Ljava/lang/Object;" } : Jvm.MethodName)) ∈ lw_all := lw_g (lw_at lw_m8 205 rfl) rfl
theorem q2019 : (Jvm.Cond.classLink "StrideTurns" (348 : Nat) "StrideTurns$Tally") ∈ lw_all := lw_g (lw_at lw_m8 206 rfl) rfl
theorem q2021 : (Jvm.Cond.methodLink "StrideTurns" (350 : Nat) ({ cls := "StrideTurns$Tally", name := "<init>", desc := "(LStrideTurns$Section;)V" } : Jvm.MethodName)) ∈ lw_all := lw_g (lw_at lw_m8 208 rfl) rfl
theorem q2026 : (Jvm.Cond.fieldLinkNest "StrideTurns" (387 : Nat) "StrideTurns$Tally" "section" "LStrideTurns$Section;" "StrideTurns") ∈ lw_tbl := lw_at lw_m8 213 rfl
theorem q2027 : (Jvm.Cond.fieldLinkNest "StrideTurns" (357 : Nat) "StrideTurns$Tally" "times" "I" "StrideTurns") ∈ lw_tbl := lw_at lw_m8 214 rfl
theorem q2033 : (Jvm.Cond.methodLink "StrideTurns" (353 : Nat) ({ cls := "java/util/LinkedHashMap", name := "put", desc := "(Ljava/lang/Object;Ljava/lang/Object;)Ljava/lang/Object;" } : Jvm.MethodName)) ∈ lw_all := lw_g (lw_at lw_m8 220 rfl) rfl
theorem q2037 : (Jvm.Cond.methodLink "StrideTurns" (364 : Nat) ({ cls := "java/util/LinkedHashMap", name := "size", desc := "()I" } : Jvm.MethodName)) ∈ lw_all := lw_g (lw_at lw_m8 224 rfl) rfl
theorem q2044 : (Jvm.Cond.instanceMethod ({ cls := "StrideTurns", name := "kind", desc := "(IIII)I" } : Jvm.MethodName)) ∈ lw_all := lw_g (lw_at lw_m8 231 rfl) rfl
theorem q2045 : (Jvm.Cond.selects "StrideTurns" ({ cls := "StrideTurns", name := "kind", desc := "(IIII)I" } : Jvm.MethodName) ({ cls := "StrideTurns", name := "kind", desc := "(IIII)I" } : Jvm.MethodName)) ∈ lw_all := lw_g (lw_at lw_m8 232 rfl) rfl
theorem q2046 : (Jvm.Cond.code ({ cls := "StrideTurns", name := "kind", desc := "(IIII)I" } : Jvm.MethodName) prog_1_method_38_code (6 : Nat) (Option.some Jvm.ClassFile.FieldType.int)) ∈ lw_all := lw_g (lw_at lw_m8 233 rfl) rfl
theorem q2047 : (Jvm.Cond.methodLink "StrideTurns" (383 : Nat) ({ cls := "StrideTurns", name := "nth", desc := "(Ljava/util/LinkedHashMap;I)LStrideTurns$Tally;" } : Jvm.MethodName)) ∈ lw_all := lw_g (lw_at lw_m8 234 rfl) rfl
theorem q2048 : (Jvm.Cond.static ({ cls := "StrideTurns", name := "nth", desc := "(Ljava/util/LinkedHashMap;I)LStrideTurns$Tally;" } : Jvm.MethodName)) ∈ lw_all := lw_g (lw_at lw_m8 235 rfl) rfl
theorem q2049 : (Jvm.Cond.code ({ cls := "StrideTurns", name := "nth", desc := "(Ljava/util/LinkedHashMap;I)LStrideTurns$Tally;" } : Jvm.MethodName) prog_1_method_37_code (5 : Nat) (Option.some (Jvm.ClassFile.FieldType.object "StrideTurns$Tally"))) ∈ lw_all := lw_g (lw_at lw_m8 236 rfl) rfl
theorem q2050 : (Jvm.Cond.methodLink "StrideTurns" (365 : Nat) ({ cls := "java/util/LinkedHashMap", name := "values", desc := "()Ljava/util/Collection;" } : Jvm.MethodName)) ∈ lw_all := lw_g (lw_at lw_m8 237 rfl) rfl
theorem q2072 : (Jvm.Cond.interfaceEntry "StrideTurns" (369 : Nat)) ∈ lw_tbl := lw_at lw_m9 19 rfl
theorem q2073 : (Jvm.Cond.methodLink "StrideTurns" (369 : Nat) ({ cls := "java/util/Collection", name := "iterator", desc := "()Ljava/util/Iterator;" } : Jvm.MethodName)) ∈ lw_all := lw_g (lw_at lw_m9 20 rfl) rfl
theorem q2158 : (Jvm.Cond.interfaceEntry "StrideTurns" (375 : Nat)) ∈ lw_tbl := lw_at lw_m9 105 rfl
theorem q2159 : (Jvm.Cond.methodLink "StrideTurns" (375 : Nat) ({ cls := "java/util/Iterator", name := "hasNext", desc := "()Z" } : Jvm.MethodName)) ∈ lw_all := lw_g (lw_at lw_m9 106 rfl) rfl
theorem q2180 : (Jvm.Cond.interfaceEntry "StrideTurns" (380 : Nat)) ∈ lw_tbl := lw_at lw_m9 127 rfl
theorem q2181 : (Jvm.Cond.methodLink "StrideTurns" (380 : Nat) ({ cls := "java/util/Iterator", name := "next", desc := "()Ljava/lang/Object;" } : Jvm.MethodName)) ∈ lw_all := lw_g (lw_at lw_m9 128 rfl) rfl
theorem q2214 : (Jvm.Cond.instanceMethod ({ cls := "StrideTurns", name := "many", desc := "(III)I" } : Jvm.MethodName)) ∈ lw_all := lw_g (lw_at lw_m9 161 rfl) rfl
theorem q2215 : (Jvm.Cond.selects "StrideTurns" ({ cls := "StrideTurns", name := "many", desc := "(III)I" } : Jvm.MethodName) ({ cls := "StrideTurns", name := "many", desc := "(III)I" } : Jvm.MethodName)) ∈ lw_all := lw_g (lw_at lw_m9 162 rfl) rfl
theorem q2216 : (Jvm.Cond.code ({ cls := "StrideTurns", name := "many", desc := "(III)I" } : Jvm.MethodName) prog_1_method_48_code (4 : Nat) (Option.some Jvm.ClassFile.FieldType.int)) ∈ lw_all := lw_g (lw_at lw_m9 163 rfl) rfl
theorem q2217 : (Jvm.Cond.methodLink "StrideTurns" (445 : Nat) ({ cls := "StrideTurns", name := "isSet", desc := "(III)Z" } : Jvm.MethodName)) ∈ lw_all := lw_g (lw_at lw_m9 164 rfl) rfl
theorem q2218 : (Jvm.Cond.privateMethod ({ cls := "StrideTurns", name := "isSet", desc := "(III)Z" } : Jvm.MethodName)) ∈ lw_tbl := lw_at lw_m9 165 rfl
theorem q2219 : (Jvm.Cond.instanceMethod ({ cls := "StrideTurns", name := "isSet", desc := "(III)Z" } : Jvm.MethodName)) ∈ lw_all := lw_g (lw_at lw_m9 166 rfl) rfl
theorem q2220 : (Jvm.Cond.code ({ cls := "StrideTurns", name := "isSet", desc := "(III)Z" } : Jvm.MethodName) prog_1_method_47_code (4 : Nat) (Option.some Jvm.ClassFile.FieldType.boolean)) ∈ lw_all := lw_g (lw_at lw_m9 167 rfl) rfl
theorem q2221 : (Jvm.Cond.methodLink "StrideTurns" (449 : Nat) ({ cls := "StrideTurns", name := "knows", desc := "()V" } : Jvm.MethodName)) ∈ lw_all := lw_g (lw_at lw_m9 168 rfl) rfl
theorem q2222 : (Jvm.Cond.privateMethod ({ cls := "StrideTurns", name := "knows", desc := "()V" } : Jvm.MethodName)) ∈ lw_tbl := lw_at lw_m9 169 rfl
theorem q2223 : (Jvm.Cond.instanceMethod ({ cls := "StrideTurns", name := "knows", desc := "()V" } : Jvm.MethodName)) ∈ lw_all := lw_g (lw_at lw_m9 170 rfl) rfl
theorem q2224 : (Jvm.Cond.code ({ cls := "StrideTurns", name := "knows", desc := "()V" } : Jvm.MethodName) prog_1_method_45_code (2 : Nat) (Option.none : Option Jvm.ClassFile.FieldType)) ∈ lw_all := lw_g (lw_at lw_m9 171 rfl) rfl
theorem q2225 : (Jvm.Cond.methodLink "StrideTurns" (442 : Nat) ({ cls := "StrideTurns", name := "goes", desc := "(I)V" } : Jvm.MethodName)) ∈ lw_all := lw_g (lw_at lw_m9 172 rfl) rfl
theorem q2226 : (Jvm.Cond.privateMethod ({ cls := "StrideTurns", name := "goes", desc := "(I)V" } : Jvm.MethodName)) ∈ lw_tbl := lw_at lw_m9 173 rfl
theorem q2227 : (Jvm.Cond.instanceMethod ({ cls := "StrideTurns", name := "goes", desc := "(I)V" } : Jvm.MethodName)) ∈ lw_all := lw_g (lw_at lw_m9 174 rfl) rfl
theorem q2228 : (Jvm.Cond.code ({ cls := "StrideTurns", name := "goes", desc := "(I)V" } : Jvm.MethodName) prog_1_method_44_code (12 : Nat) (Option.none : Option Jvm.ClassFile.FieldType)) ∈ lw_all := lw_g (lw_at lw_m9 175 rfl) rfl
theorem q2229 : (Jvm.Cond.methodLink "StrideTurns" (431 : Nat) ({ cls := "StrideTurns", name := "fits", desc := "(LStrideTurns$Reference;II)I" } : Jvm.MethodName)) ∈ lw_all := lw_g (lw_at lw_m9 176 rfl) rfl
theorem q2230 : (Jvm.Cond.privateMethod ({ cls := "StrideTurns", name := "fits", desc := "(LStrideTurns$Reference;II)I" } : Jvm.MethodName)) ∈ lw_tbl := lw_at lw_m9 177 rfl
theorem q2231 : (Jvm.Cond.instanceMethod ({ cls := "StrideTurns", name := "fits", desc := "(LStrideTurns$Reference;II)I" } : Jvm.MethodName)) ∈ lw_all := lw_g (lw_at lw_m9 178 rfl) rfl
theorem q2232 : (Jvm.Cond.code ({ cls := "StrideTurns", name := "fits", desc := "(LStrideTurns$Reference;II)I" } : Jvm.MethodName) prog_1_method_40_code (7 : Nat) (Option.some Jvm.ClassFile.FieldType.int)) ∈ lw_all := lw_g (lw_at lw_m9 179 rfl) rfl
theorem q2233 : (Jvm.Cond.methodLink "StrideTurns" (391 : Nat) ({ cls := "StrideTurns", name := "numbers", desc := "(I)LStrideTurns$Row;" } : Jvm.MethodName)) ∈ lw_all := lw_g (lw_at lw_m9 180 rfl) rfl
theorem q2234 : (Jvm.Cond.interfaceEntry "StrideTurns" (399 : Nat)) ∈ lw_tbl := lw_at lw_m9 181 rfl
theorem q2235 : (Jvm.Cond.methodLink "StrideTurns" (399 : Nat) ({ cls := "StrideTurns$Where", name := "at", desc := "(II)I" } : Jvm.MethodName)) ∈ lw_all := lw_g (lw_at lw_m9 182 rfl) rfl
theorem q2236 : (Jvm.Cond.methodLink "StrideTurns" (404 : Nat) ({ cls := "StrideTurns$Row", name := "has", desc := "(I)Z" } : Jvm.MethodName)) ∈ lw_all := lw_g (lw_at lw_m9 183 rfl) rfl
theorem q2237 : (Jvm.Cond.methodLink "StrideTurns" (407 : Nat) ({ cls := "java/lang/Math", name := "min", desc := "(II)I" } : Jvm.MethodName)) ∈ lw_all := lw_g (lw_at lw_m9 184 rfl) rfl
theorem q2238 : (Jvm.Cond.methodLink "StrideTurns" (435 : Nat) ({ cls := "StrideTurns", name := "reads", desc := "(LStrideTurns$Statement;III)V" } : Jvm.MethodName)) ∈ lw_all := lw_g (lw_at lw_m9 185 rfl) rfl
theorem q2239 : (Jvm.Cond.privateMethod ({ cls := "StrideTurns", name := "reads", desc := "(LStrideTurns$Statement;III)V" } : Jvm.MethodName)) ∈ lw_tbl := lw_at lw_m9 186 rfl
theorem q2240 : (Jvm.Cond.instanceMethod ({ cls := "StrideTurns", name := "reads", desc := "(LStrideTurns$Statement;III)V" } : Jvm.MethodName)) ∈ lw_all := lw_g (lw_at lw_m9 187 rfl) rfl
theorem q2241 : (Jvm.Cond.code ({ cls := "StrideTurns", name := "reads", desc := "(LStrideTurns$Statement;III)V" } : Jvm.MethodName) prog_1_method_43_code (10 : Nat) (Option.none : Option Jvm.ClassFile.FieldType)) ∈ lw_all := lw_g (lw_at lw_m9 188 rfl) rfl
theorem q2242 : (Jvm.Cond.methodLink "StrideTurns" (412 : Nat) ({ cls := "StrideTurns", name := "setAt", desc := "(III)I" } : Jvm.MethodName)) ∈ lw_all := lw_g (lw_at lw_m9 189 rfl) rfl
theorem q2243 : (Jvm.Cond.static ({ cls := "StrideTurns", name := "setAt", desc := "(III)I" } : Jvm.MethodName)) ∈ lw_all := lw_g (lw_at lw_m9 190 rfl) rfl
theorem q2244 : (Jvm.Cond.code ({ cls := "StrideTurns", name := "setAt", desc := "(III)I" } : Jvm.MethodName) prog_1_method_39_code (3 : Nat) (Option.some Jvm.ClassFile.FieldType.int)) ∈ lw_all := lw_g (lw_at lw_m9 191 rfl) rfl
theorem q2245 : (Jvm.Cond.methodLink "StrideTurns" (416 : Nat) ({ cls := "StrideTurns", name := "cellsOf", desc := "(LStrideTurns$Reference;II)J" } : Jvm.MethodName)) ∈ lw_all := lw_g (lw_at lw_m9 192 rfl) rfl
theorem q2246 : (Jvm.Cond.privateMethod ({ cls := "StrideTurns", name := "cellsOf", desc := "(LStrideTurns$Reference;II)J" } : Jvm.MethodName)) ∈ lw_tbl := lw_at lw_m9 193 rfl
theorem q2247 : (Jvm.Cond.instanceMethod ({ cls := "StrideTurns", name := "cellsOf", desc := "(LStrideTurns$Reference;II)J" } : Jvm.MethodName)) ∈ lw_all := lw_g (lw_at lw_m9 194 rfl) rfl
theorem q2248 : (Jvm.Cond.code ({ cls := "StrideTurns", name := "cellsOf", desc := "(LStrideTurns$Reference;II)J" } : Jvm.MethodName) prog_1_method_41_code (7 : Nat) (Option.some Jvm.ClassFile.FieldType.long)) ∈ lw_all := lw_g (lw_at lw_m9 195 rfl) rfl
theorem q2249 : (Jvm.Cond.methodLink "StrideTurns" (424 : Nat) ({ cls := "StrideTurns$Deed", name := "isFirm", desc := "()Z" } : Jvm.MethodName)) ∈ lw_all := lw_g (lw_at lw_m9 196 rfl) rfl
theorem q2253 : (Jvm.Cond.methodLink "StrideTurns" (427 : Nat) ({ cls := "StrideTurns", name := "isOwn", desc := "(LStrideTurns$Statement;III)Z" } : Jvm.MethodName)) ∈ lw_all := lw_g (lw_at lw_m9 200 rfl) rfl
theorem q2254 : (Jvm.Cond.static ({ cls := "StrideTurns", name := "isOwn", desc := "(LStrideTurns$Statement;III)Z" } : Jvm.MethodName)) ∈ lw_all := lw_g (lw_at lw_m9 201 rfl) rfl
theorem q2255 : (Jvm.Cond.code ({ cls := "StrideTurns", name := "isOwn", desc := "(LStrideTurns$Statement;III)Z" } : Jvm.MethodName) prog_1_method_42_code (6 : Nat) (Option.some Jvm.ClassFile.FieldType.boolean)) ∈ lw_all := lw_g (lw_at lw_m9 202 rfl) rfl
theorem q2256 : (Jvm.Cond.methodLink "StrideTurns" (439 : Nat) ({ cls := "StrideTurns$Deed", name := "isDoubtful", desc := "()Z" } : Jvm.MethodName)) ∈ lw_all := lw_g (lw_at lw_m9 203 rfl) rfl
theorem q2260 : (Jvm.Cond.methodLink "StrideTurns" (452 : Nat) ({ cls := "StrideTurns", name := "bitsOf", desc := "(III)J" } : Jvm.MethodName)) ∈ lw_all := lw_g (lw_at lw_m9 207 rfl) rfl
theorem q2261 : (Jvm.Cond.privateMethod ({ cls := "StrideTurns", name := "bitsOf", desc := "(III)J" } : Jvm.MethodName)) ∈ lw_tbl := lw_at lw_m9 208 rfl
theorem q2262 : (Jvm.Cond.instanceMethod ({ cls := "StrideTurns", name := "bitsOf", desc := "(III)J" } : Jvm.MethodName)) ∈ lw_all := lw_g (lw_at lw_m9 209 rfl) rfl
theorem q2263 : (Jvm.Cond.code ({ cls := "StrideTurns", name := "bitsOf", desc := "(III)J" } : Jvm.MethodName) prog_1_method_46_code (7 : Nat) (Option.some Jvm.ClassFile.FieldType.long)) ∈ lw_all := lw_g (lw_at lw_m9 210 rfl) rfl
theorem q2264 : (Jvm.Cond.methodLink "StrideTurns" (456 : Nat) ({ cls := "java/lang/Long", name := "bitCount", desc := "(J)I" } : Jvm.MethodName)) ∈ lw_all := lw_g (lw_at lw_m9 211 rfl) rfl
theorem q2271 : (Jvm.Cond.instanceMethod ({ cls := "StrideTurns", name := "pieces", desc := "(III)I" } : Jvm.MethodName)) ∈ lw_all := lw_g (lw_at lw_m9 218 rfl) rfl
theorem q2272 : (Jvm.Cond.selects "StrideTurns" ({ cls := "StrideTurns", name := "pieces", desc := "(III)I" } : Jvm.MethodName) ({ cls := "StrideTurns", name := "pieces", desc := "(III)I" } : Jvm.MethodName)) ∈ lw_all := lw_g (lw_at lw_m9 219 rfl) rfl
theorem q2273 : (Jvm.Cond.code ({ cls := "StrideTurns", name := "pieces", desc := "(III)I" } : Jvm.MethodName) prog_1_method_52_code (4 : Nat) (Option.some Jvm.ClassFile.FieldType.int)) ∈ lw_all := lw_g (lw_at lw_m9 220 rfl) rfl
theorem q2274 : (Jvm.Cond.methodLink "StrideTurns" (479 : Nat) ({ cls := "StrideTurns", name := "piecesOf", desc := "(J)I" } : Jvm.MethodName)) ∈ lw_all := lw_g (lw_at lw_m9 221 rfl) rfl
theorem q2275 : (Jvm.Cond.static ({ cls := "StrideTurns", name := "piecesOf", desc := "(J)I" } : Jvm.MethodName)) ∈ lw_all := lw_g (lw_at lw_m9 222 rfl) rfl
theorem q2276 : (Jvm.Cond.code ({ cls := "StrideTurns", name := "piecesOf", desc := "(J)I" } : Jvm.MethodName) prog_1_method_51_code (5 : Nat) (Option.some Jvm.ClassFile.FieldType.int)) ∈ lw_all := lw_g (lw_at lw_m9 223 rfl) rfl
theorem q2277 : (Jvm.Cond.methodLink "StrideTurns" (471 : Nat) ({ cls := "StrideTurns", name := "piece", desc := "(J)LStrideTurns$Section;" } : Jvm.MethodName)) ∈ lw_all := lw_g (lw_at lw_m9 224 rfl) rfl
theorem q2278 : (Jvm.Cond.static ({ cls := "StrideTurns", name := "piece", desc := "(J)LStrideTurns$Section;" } : Jvm.MethodName)) ∈ lw_all := lw_g (lw_at lw_m9 225 rfl) rfl
theorem q2279 : (Jvm.Cond.code ({ cls := "StrideTurns", name := "piece", desc := "(J)LStrideTurns$Section;" } : Jvm.MethodName) prog_1_method_49_code (7 : Nat) (Option.some (Jvm.ClassFile.FieldType.object "StrideTurns$Section"))) ∈ lw_all := lw_g (lw_at lw_m9 226 rfl) rfl
theorem q2280 : (Jvm.Cond.methodLink "StrideTurns" (460 : Nat) ({ cls := "java/lang/Long", name := "numberOfTrailingZeros", desc := "(J)I" } : Jvm.MethodName)) ∈ lw_all := lw_g (lw_at lw_m9 227 rfl) rfl
theorem q2281 : (Jvm.Cond.classLink "StrideTurns" (312 : Nat) "StrideTurns$Section") ∈ lw_all := lw_g (lw_at lw_m9 228 rfl) rfl
theorem q2282 : (Jvm.Cond.methodLink "StrideTurns" (463 : Nat) ({ cls := "StrideTurns$Section", name := "<init>", desc := "(III)V" } : Jvm.MethodName)) ∈ lw_all := lw_g (lw_at lw_m9 229 rfl) rfl
theorem q2283 : (Jvm.Cond.methodLink "StrideTurns" (475 : Nat) ({ cls := "StrideTurns", name := "without", desc := "(JLStrideTurns$Section;)J" } : Jvm.MethodName)) ∈ lw_all := lw_g (lw_at lw_m9 230 rfl) rfl
theorem q2284 : (Jvm.Cond.static ({ cls := "StrideTurns", name := "without", desc := "(JLStrideTurns$Section;)J" } : Jvm.MethodName)) ∈ lw_all := lw_g (lw_at lw_m9 231 rfl) rfl
theorem q2285 : (Jvm.Cond.code ({ cls := "StrideTurns", name := "without", desc := "(JLStrideTurns$Section;)J" } : Jvm.MethodName) prog_1_method_50_code (6 : Nat) (Option.some Jvm.ClassFile.FieldType.long)) ∈ lw_all := lw_g (lw_at lw_m9 232 rfl) rfl
theorem q2287 : (Jvm.Cond.instanceMethod ({ cls := "StrideTurns", name := "piece", desc := "(IIIII)I" } : Jvm.MethodName)) ∈ lw_all := lw_g (lw_at lw_m9 234 rfl) rfl
theorem q2288 : (Jvm.Cond.selects "StrideTurns" ({ cls := "StrideTurns", name := "piece", desc := "(IIIII)I" } : Jvm.MethodName) ({ cls := "StrideTurns", name := "piece", desc := "(IIIII)I" } : Jvm.MethodName)) ∈ lw_all := lw_g (lw_at lw_m9 235 rfl) rfl
theorem q2289 : (Jvm.Cond.code ({ cls := "StrideTurns", name := "piece", desc := "(IIIII)I" } : Jvm.MethodName) prog_1_method_53_code (9 : Nat) (Option.some Jvm.ClassFile.FieldType.int)) ∈ lw_all := lw_g (lw_at lw_m9 236 rfl) rfl
theorem q2291 : (Jvm.Cond.instanceMethod ({ cls := "StrideTurns", name := "verdict", desc := "(I)I" } : Jvm.MethodName)) ∈ lw_all := lw_g (lw_at lw_m9 238 rfl) rfl
theorem q2292 : (Jvm.Cond.selects "StrideTurns" ({ cls := "StrideTurns", name := "verdict", desc := "(I)I" } : Jvm.MethodName) ({ cls := "StrideTurns", name := "verdict", desc := "(I)I" } : Jvm.MethodName)) ∈ lw_all := lw_g (lw_at lw_m9 239 rfl) rfl
theorem q2293 : (Jvm.Cond.code ({ cls := "StrideTurns", name := "verdict", desc := "(I)I" } : Jvm.MethodName) prog_1_method_59_code (2 : Nat) (Option.some Jvm.ClassFile.FieldType.int)) ∈ lw_all := lw_g (lw_at lw_m10 0 rfl) rfl
theorem q2294 : (Jvm.Cond.methodLink "StrideTurns" (502 : Nat) ({ cls := "StrideTurns", name := "verdictOf", desc := "(I)I" } : Jvm.MethodName)) ∈ lw_all := lw_g (lw_at lw_m10 1 rfl) rfl
theorem q2295 : (Jvm.Cond.privateMethod ({ cls := "StrideTurns", name := "verdictOf", desc := "(I)I" } : Jvm.MethodName)) ∈ lw_tbl := lw_at lw_m10 2 rfl
theorem q2296 : (Jvm.Cond.instanceMethod ({ cls := "StrideTurns", name := "verdictOf", desc := "(I)I" } : Jvm.MethodName)) ∈ lw_all := lw_g (lw_at lw_m10 3 rfl) rfl
theorem q2297 : (Jvm.Cond.code ({ cls := "StrideTurns", name := "verdictOf", desc := "(I)I" } : Jvm.MethodName) prog_1_method_58_code (3 : Nat) (Option.some Jvm.ClassFile.FieldType.int)) ∈ lw_all := lw_g (lw_at lw_m10 4 rfl) rfl
theorem q2298 : (Jvm.Cond.methodLink "StrideTurns" (499 : Nat) ({ cls := "StrideTurns", name := "verdictBy", desc := "(II)I" } : Jvm.MethodName)) ∈ lw_all := lw_g (lw_at lw_m10 5 rfl) rfl
theorem q2299 : (Jvm.Cond.privateMethod ({ cls := "StrideTurns", name := "verdictBy", desc := "(II)I" } : Jvm.MethodName)) ∈ lw_tbl := lw_at lw_m10 6 rfl
theorem q2300 : (Jvm.Cond.instanceMethod ({ cls := "StrideTurns", name := "verdictBy", desc := "(II)I" } : Jvm.MethodName)) ∈ lw_all := lw_g (lw_at lw_m10 7 rfl) rfl
theorem q2301 : (Jvm.Cond.code ({ cls := "StrideTurns", name := "verdictBy", desc := "(II)I" } : Jvm.MethodName) prog_1_method_57_code (3 : Nat) (Option.some Jvm.ClassFile.FieldType.int)) ∈ lw_all := lw_g (lw_at lw_m10 8 rfl) rfl
theorem q2302 : (Jvm.Cond.methodLink "StrideTurns" (488 : Nat) ({ cls := "StrideTurns", name := "isShared", desc := "(I)Z" } : Jvm.MethodName)) ∈ lw_all := lw_g (lw_at lw_m10 9 rfl) rfl
theorem q2303 : (Jvm.Cond.privateMethod ({ cls := "StrideTurns", name := "isShared", desc := "(I)Z" } : Jvm.MethodName)) ∈ lw_tbl := lw_at lw_m10 10 rfl
theorem q2304 : (Jvm.Cond.instanceMethod ({ cls := "StrideTurns", name := "isShared", desc := "(I)Z" } : Jvm.MethodName)) ∈ lw_all := lw_g (lw_at lw_m10 11 rfl) rfl
theorem q2305 : (Jvm.Cond.code ({ cls := "StrideTurns", name := "isShared", desc := "(I)Z" } : Jvm.MethodName) prog_1_method_54_code (6 : Nat) (Option.some Jvm.ClassFile.FieldType.boolean)) ∈ lw_all := lw_g (lw_at lw_m10 12 rfl) rfl
theorem q2306 : (Jvm.Cond.methodLink "StrideTurns" (491 : Nat) ({ cls := "StrideTurns", name := "isGathered", desc := "(II)Z" } : Jvm.MethodName)) ∈ lw_all := lw_g (lw_at lw_m10 13 rfl) rfl
theorem q2307 : (Jvm.Cond.privateMethod ({ cls := "StrideTurns", name := "isGathered", desc := "(II)Z" } : Jvm.MethodName)) ∈ lw_tbl := lw_at lw_m10 14 rfl
theorem q2308 : (Jvm.Cond.instanceMethod ({ cls := "StrideTurns", name := "isGathered", desc := "(II)Z" } : Jvm.MethodName)) ∈ lw_all := lw_g (lw_at lw_m10 15 rfl) rfl
theorem q2309 : (Jvm.Cond.code ({ cls := "StrideTurns", name := "isGathered", desc := "(II)Z" } : Jvm.MethodName) prog_1_method_55_code (7 : Nat) (Option.some Jvm.ClassFile.FieldType.boolean)) ∈ lw_all := lw_g (lw_at lw_m10 16 rfl) rfl
theorem q2310 : (Jvm.Cond.methodLink "StrideTurns" (482 : Nat) ({ cls := "StrideTurns$Statement", name := "isOf", desc := "(I)Z" } : Jvm.MethodName)) ∈ lw_all := lw_g (lw_at lw_m10 17 rfl) rfl
theorem q2315 : (Jvm.Cond.methodLink "StrideTurns" (485 : Nat) ({ cls := "StrideTurns$Statement", name := "gathers", desc := "(I)I" } : Jvm.MethodName)) ∈ lw_all := lw_g (lw_at lw_m10 22 rfl) rfl
theorem q2316 : (Jvm.Cond.methodLink "StrideTurns" (494 : Nat) ({ cls := "StrideTurns", name := "waits", desc := "(I)I" } : Jvm.MethodName)) ∈ lw_all := lw_g (lw_at lw_m10 23 rfl) rfl
theorem q2317 : (Jvm.Cond.privateMethod ({ cls := "StrideTurns", name := "waits", desc := "(I)I" } : Jvm.MethodName)) ∈ lw_tbl := lw_at lw_m10 24 rfl
theorem q2318 : (Jvm.Cond.instanceMethod ({ cls := "StrideTurns", name := "waits", desc := "(I)I" } : Jvm.MethodName)) ∈ lw_all := lw_g (lw_at lw_m10 25 rfl) rfl
theorem q2319 : (Jvm.Cond.code ({ cls := "StrideTurns", name := "waits", desc := "(I)I" } : Jvm.MethodName) prog_1_method_56_code (5 : Nat) (Option.some Jvm.ClassFile.FieldType.int)) ∈ lw_all := lw_g (lw_at lw_m10 26 rfl) rfl
theorem q2321 : (Jvm.Cond.instanceMethod ({ cls := "StrideTurns", name := "would", desc := "(II)I" } : Jvm.MethodName)) ∈ lw_all := lw_g (lw_at lw_m10 28 rfl) rfl
theorem q2322 : (Jvm.Cond.selects "StrideTurns" ({ cls := "StrideTurns", name := "would", desc := "(II)I" } : Jvm.MethodName) ({ cls := "StrideTurns", name := "would", desc := "(II)I" } : Jvm.MethodName)) ∈ lw_all := lw_g (lw_at lw_m10 29 rfl) rfl
theorem q2323 : (Jvm.Cond.code ({ cls := "StrideTurns", name := "would", desc := "(II)I" } : Jvm.MethodName) prog_1_method_60_code (3 : Nat) (Option.some Jvm.ClassFile.FieldType.int)) ∈ lw_all := lw_g (lw_at lw_m10 30 rfl) rfl
theorem q2325 : (Jvm.Cond.instanceMethod ({ cls := "StrideTurns", name := "witness", desc := "(II)I" } : Jvm.MethodName)) ∈ lw_all := lw_g (lw_at lw_m10 32 rfl) rfl
theorem q2326 : (Jvm.Cond.selects "StrideTurns" ({ cls := "StrideTurns", name := "witness", desc := "(II)I" } : Jvm.MethodName) ({ cls := "StrideTurns", name := "witness", desc := "(II)I" } : Jvm.MethodName)) ∈ lw_all := lw_g (lw_at lw_m10 33 rfl) rfl
theorem q2327 : (Jvm.Cond.code ({ cls := "StrideTurns", name := "witness", desc := "(II)I" } : Jvm.MethodName) prog_1_method_62_code (3 : Nat) (Option.some Jvm.ClassFile.FieldType.int)) ∈ lw_all := lw_g (lw_at lw_m10 34 rfl) rfl
theorem q2328 : (Jvm.Cond.methodLink "StrideTurns" (509 : Nat) ({ cls := "StrideTurns", name := "witnessBy", desc := "(II)I" } : Jvm.MethodName)) ∈ lw_all := lw_g (lw_at lw_m10 35 rfl) rfl
theorem q2329 : (Jvm.Cond.privateMethod ({ cls := "StrideTurns", name := "witnessBy", desc := "(II)I" } : Jvm.MethodName)) ∈ lw_tbl := lw_at lw_m10 36 rfl
theorem q2330 : (Jvm.Cond.instanceMethod ({ cls := "StrideTurns", name := "witnessBy", desc := "(II)I" } : Jvm.MethodName)) ∈ lw_all := lw_g (lw_at lw_m10 37 rfl) rfl
theorem q2331 : (Jvm.Cond.code ({ cls := "StrideTurns", name := "witnessBy", desc := "(II)I" } : Jvm.MethodName) prog_1_method_61_code (7 : Nat) (Option.some Jvm.ClassFile.FieldType.int)) ∈ lw_all := lw_g (lw_at lw_m10 38 rfl) rfl
theorem q2332 : (Jvm.Cond.methodLink "StrideTurns" (505 : Nat) ({ cls := "StrideTurns", name := "lastOf", desc := "(IIII)I" } : Jvm.MethodName)) ∈ lw_all := lw_g (lw_at lw_m10 39 rfl) rfl
theorem q2333 : (Jvm.Cond.privateMethod ({ cls := "StrideTurns", name := "lastOf", desc := "(IIII)I" } : Jvm.MethodName)) ∈ lw_tbl := lw_at lw_m10 40 rfl
theorem q2334 : (Jvm.Cond.instanceMethod ({ cls := "StrideTurns", name := "lastOf", desc := "(IIII)I" } : Jvm.MethodName)) ∈ lw_all := lw_g (lw_at lw_m10 41 rfl) rfl
theorem q2335 : (Jvm.Cond.code ({ cls := "StrideTurns", name := "lastOf", desc := "(IIII)I" } : Jvm.MethodName) prog_1_method_63_code (6 : Nat) (Option.some Jvm.ClassFile.FieldType.int)) ∈ lw_all := lw_g (lw_at lw_m10 42 rfl) rfl
theorem q2337 : (Jvm.Cond.instanceMethod ({ cls := "StrideTurns", name := "last", desc := "(III)I" } : Jvm.MethodName)) ∈ lw_all := lw_g (lw_at lw_m10 44 rfl) rfl
theorem q2338 : (Jvm.Cond.selects "StrideTurns" ({ cls := "StrideTurns", name := "last", desc := "(III)I" } : Jvm.MethodName) ({ cls := "StrideTurns", name := "last", desc := "(III)I" } : Jvm.MethodName)) ∈ lw_all := lw_g (lw_at lw_m10 45 rfl) rfl
theorem q2339 : (Jvm.Cond.code ({ cls := "StrideTurns", name := "last", desc := "(III)I" } : Jvm.MethodName) prog_1_method_64_code (4 : Nat) (Option.some Jvm.ClassFile.FieldType.int)) ∈ lw_all := lw_g (lw_at lw_m10 46 rfl) rfl
theorem q2340 : (Jvm.Cond.constantLong "StrideTurns" (512 : Nat) (23 : Int64)) ∈ lw_all := lw_g (lw_at lw_m10 47 rfl) rfl
theorem q2342 : (Jvm.Cond.instanceMethod ({ cls := "StrideTurns", name := "run", desc := "()I" } : Jvm.MethodName)) ∈ lw_all := lw_g (lw_at lw_m10 49 rfl) rfl
theorem q2343 : (Jvm.Cond.selects "StrideTurns" ({ cls := "StrideTurns", name := "run", desc := "()I" } : Jvm.MethodName) ({ cls := "StrideTurns", name := "run", desc := "()I" } : Jvm.MethodName)) ∈ lw_all := lw_g (lw_at lw_m10 50 rfl) rfl
theorem q2344 : (Jvm.Cond.code ({ cls := "StrideTurns", name := "run", desc := "()I" } : Jvm.MethodName) prog_1_method_80_code (1 : Nat) (Option.some Jvm.ClassFile.FieldType.int)) ∈ lw_all := lw_g (lw_at lw_m10 51 rfl) rfl
theorem q2345 : (Jvm.Cond.methodLink "StrideTurns" (636 : Nat) ({ cls := "StrideTurns", name := "runs", desc := "()V" } : Jvm.MethodName)) ∈ lw_all := lw_g (lw_at lw_m10 52 rfl) rfl
theorem q2346 : (Jvm.Cond.privateMethod ({ cls := "StrideTurns", name := "runs", desc := "()V" } : Jvm.MethodName)) ∈ lw_tbl := lw_at lw_m10 53 rfl
theorem q2347 : (Jvm.Cond.instanceMethod ({ cls := "StrideTurns", name := "runs", desc := "()V" } : Jvm.MethodName)) ∈ lw_all := lw_g (lw_at lw_m10 54 rfl) rfl
theorem q2348 : (Jvm.Cond.code ({ cls := "StrideTurns", name := "runs", desc := "()V" } : Jvm.MethodName) prog_1_method_72_code (2 : Nat) (Option.none : Option Jvm.ClassFile.FieldType)) ∈ lw_all := lw_g (lw_at lw_m10 55 rfl) rfl
theorem q2349 : (Jvm.Cond.methodLink "StrideTurns" (572 : Nat) ({ cls := "StrideTurns", name := "begins", desc := "(Z)V" } : Jvm.MethodName)) ∈ lw_all := lw_g (lw_at lw_m10 56 rfl) rfl
theorem q2350 : (Jvm.Cond.privateMethod ({ cls := "StrideTurns", name := "begins", desc := "(Z)V" } : Jvm.MethodName)) ∈ lw_tbl := lw_at lw_m10 57 rfl
theorem q2351 : (Jvm.Cond.instanceMethod ({ cls := "StrideTurns", name := "begins", desc := "(Z)V" } : Jvm.MethodName)) ∈ lw_all := lw_g (lw_at lw_m10 58 rfl) rfl
theorem q2352 : (Jvm.Cond.code ({ cls := "StrideTurns", name := "begins", desc := "(Z)V" } : Jvm.MethodName) prog_1_method_70_code (6 : Nat) (Option.none : Option Jvm.ClassFile.FieldType)) ∈ lw_all := lw_g (lw_at lw_m10 59 rfl) rfl
theorem q2353 : (Jvm.Cond.methodLink "StrideTurns" (560 : Nat) ({ cls := "StrideTurns$Turn", name := "begins", desc := "(I)V" } : Jvm.MethodName)) ∈ lw_all := lw_g (lw_at lw_m10 60 rfl) rfl
theorem q2365 : (Jvm.Cond.methodLink "StrideTurns" (566 : Nat) ({ cls := "StrideTurns$Turn", name := "isLeft", desc := "()Z" } : Jvm.MethodName)) ∈ lw_all := lw_g (lw_at lw_m10 72 rfl) rfl
theorem q2369 : (Jvm.Cond.methodLink "StrideTurns" (575 : Nat) ({ cls := "StrideTurns", name := "steps", desc := "(LStrideTurns$Turn;)V" } : Jvm.MethodName)) ∈ lw_all := lw_g (lw_at lw_m10 76 rfl) rfl
theorem q2370 : (Jvm.Cond.privateMethod ({ cls := "StrideTurns", name := "steps", desc := "(LStrideTurns$Turn;)V" } : Jvm.MethodName)) ∈ lw_tbl := lw_at lw_m10 77 rfl
theorem q2371 : (Jvm.Cond.instanceMethod ({ cls := "StrideTurns", name := "steps", desc := "(LStrideTurns$Turn;)V" } : Jvm.MethodName)) ∈ lw_all := lw_g (lw_at lw_m10 78 rfl) rfl
theorem q2372 : (Jvm.Cond.code ({ cls := "StrideTurns", name := "steps", desc := "(LStrideTurns$Turn;)V" } : Jvm.MethodName) prog_1_method_71_code (2 : Nat) (Option.none : Option Jvm.ClassFile.FieldType)) ∈ lw_all := lw_g (lw_at lw_m10 79 rfl) rfl
theorem q2373 : (Jvm.Cond.methodLink "StrideTurns" (563 : Nat) ({ cls := "StrideTurns$Turn", name := "steps", desc := "()Z" } : Jvm.MethodName)) ∈ lw_all := lw_g (lw_at lw_m10 80 rfl) rfl
theorem q2409 : (Jvm.Cond.privateMethod ({ cls := "StrideTurns", name := "widthOf", desc := "(LStrideTurns$Statement;)I" } : Jvm.MethodName)) ∈ lw_tbl := lw_at lw_m10 116 rfl
theorem q2410 : (Jvm.Cond.instanceMethod ({ cls := "StrideTurns", name := "widthOf", desc := "(LStrideTurns$Statement;)I" } : Jvm.MethodName)) ∈ lw_all := lw_g (lw_at lw_m10 117 rfl) rfl
theorem q2411 : (Jvm.Cond.code ({ cls := "StrideTurns", name := "widthOf", desc := "(LStrideTurns$Statement;)I" } : Jvm.MethodName) prog_1_method_67_code (3 : Nat) (Option.some Jvm.ClassFile.FieldType.int)) ∈ lw_all := lw_g (lw_at lw_m10 118 rfl) rfl
theorem q2412 : (Jvm.Cond.methodLink "StrideTurns" (517 : Nat) ({ cls := "StrideTurns$Deed", name := "isWhole", desc := "()Z" } : Jvm.MethodName)) ∈ lw_all := lw_g (lw_at lw_m10 119 rfl) rfl
theorem q2420 : (Jvm.Cond.methodLink "StrideTurns" (520 : Nat) ({ cls := "StrideTurns", name := "formOf", desc := "(LStrideTurns$Reference;)I" } : Jvm.MethodName)) ∈ lw_all := lw_g (lw_at lw_m10 127 rfl) rfl
theorem q2421 : (Jvm.Cond.privateMethod ({ cls := "StrideTurns", name := "formOf", desc := "(LStrideTurns$Reference;)I" } : Jvm.MethodName)) ∈ lw_tbl := lw_at lw_m10 128 rfl
theorem q2422 : (Jvm.Cond.instanceMethod ({ cls := "StrideTurns", name := "formOf", desc := "(LStrideTurns$Reference;)I" } : Jvm.MethodName)) ∈ lw_all := lw_g (lw_at lw_m10 129 rfl) rfl
theorem q2423 : (Jvm.Cond.code ({ cls := "StrideTurns", name := "formOf", desc := "(LStrideTurns$Reference;)I" } : Jvm.MethodName) prog_1_method_66_code (2 : Nat) (Option.some Jvm.ClassFile.FieldType.int)) ∈ lw_all := lw_g (lw_at lw_m10 130 rfl) rfl
theorem q2424 : (Jvm.Cond.methodLink "StrideTurns" (514 : Nat) ({ cls := "java/lang/Math", name := "max", desc := "(II)I" } : Jvm.MethodName)) ∈ lw_all := lw_g (lw_at lw_m10 131 rfl) rfl
theorem q2426 : (Jvm.Cond.static ({ cls := "StrideTurns", name := "done", desc := "(LStrideTurns$Deed;IDD)D" } : Jvm.MethodName)) ∈ lw_all := lw_g (lw_at lw_m10 133 rfl) rfl
theorem q2427 : (Jvm.Cond.code ({ cls := "StrideTurns", name := "done", desc := "(LStrideTurns$Deed;IDD)D" } : Jvm.MethodName) prog_1_method_69_code (6 : Nat) (Option.some Jvm.ClassFile.FieldType.double)) ∈ lw_all := lw_g (lw_at lw_m10 134 rfl) rfl
theorem q2428 : (Jvm.Cond.interfaceEntry "StrideTurns" (528 : Nat)) ∈ lw_tbl := lw_at lw_m10 135 rfl
theorem q2429 : (Jvm.Cond.methodLink "StrideTurns" (528 : Nat) ({ cls := "StrideTurns$Ints", name := "on", desc := "(II)I" } : Jvm.MethodName)) ∈ lw_all := lw_g (lw_at lw_m10 136 rfl) rfl
theorem q2432 : (Jvm.Cond.interfaceEntry "StrideTurns" (537 : Nat)) ∈ lw_tbl := lw_at lw_m10 139 rfl
theorem q2433 : (Jvm.Cond.methodLink "StrideTurns" (537 : Nat) ({ cls := "StrideTurns$Floats", name := "on", desc := "(FF)F" } : Jvm.MethodName)) ∈ lw_all := lw_g (lw_at lw_m10 140 rfl) rfl
theorem q2436 : (Jvm.Cond.interfaceEntry "StrideTurns" (546 : Nat)) ∈ lw_tbl := lw_at lw_m10 143 rfl
theorem q2437 : (Jvm.Cond.methodLink "StrideTurns" (546 : Nat) ({ cls := "StrideTurns$Doubles", name := "on", desc := "(DD)D" } : Jvm.MethodName)) ∈ lw_all := lw_g (lw_at lw_m10 144 rfl) rfl
theorem q2445 : (Jvm.Cond.static ({ cls := "StrideTurns", name := "isGreater", desc := "(IDD)Z" } : Jvm.MethodName)) ∈ lw_all := lw_g (lw_at lw_m10 152 rfl) rfl
theorem q2446 : (Jvm.Cond.code ({ cls := "StrideTurns", name := "isGreater", desc := "(IDD)Z" } : Jvm.MethodName) prog_1_method_68_code (5 : Nat) (Option.some Jvm.ClassFile.FieldType.boolean)) ∈ lw_all := lw_g (lw_at lw_m10 153 rfl) rfl
theorem q2459 : (Jvm.Cond.methodLink "StrideTurns" (639 : Nat) ({ cls := "StrideTurns", name := "tellsRun", desc := "()I" } : Jvm.MethodName)) ∈ lw_all := lw_g (lw_at lw_m10 166 rfl) rfl
theorem q2460 : (Jvm.Cond.privateMethod ({ cls := "StrideTurns", name := "tellsRun", desc := "()I" } : Jvm.MethodName)) ∈ lw_tbl := lw_at lw_m10 167 rfl
theorem q2461 : (Jvm.Cond.instanceMethod ({ cls := "StrideTurns", name := "tellsRun", desc := "()I" } : Jvm.MethodName)) ∈ lw_all := lw_g (lw_at lw_m10 168 rfl) rfl
theorem q2462 : (Jvm.Cond.code ({ cls := "StrideTurns", name := "tellsRun", desc := "()I" } : Jvm.MethodName) prog_1_method_79_code (2 : Nat) (Option.some Jvm.ClassFile.FieldType.int)) ∈ lw_all := lw_g (lw_at lw_m10 169 rfl) rfl
theorem q2464 : (Jvm.Cond.instanceMethod ({ cls := "StrideTurns", name := "mixed", desc := "(IIII)I" } : Jvm.MethodName)) ∈ lw_all := lw_g (lw_at lw_m10 171 rfl) rfl
theorem q2465 : (Jvm.Cond.selects "StrideTurns" ({ cls := "StrideTurns", name := "mixed", desc := "(IIII)I" } : Jvm.MethodName) ({ cls := "StrideTurns", name := "mixed", desc := "(IIII)I" } : Jvm.MethodName)) ∈ lw_all := lw_g (lw_at lw_m10 172 rfl) rfl
theorem q2466 : (Jvm.Cond.code ({ cls := "StrideTurns", name := "mixed", desc := "(IIII)I" } : Jvm.MethodName) prog_1_method_83_code (5 : Nat) (Option.some Jvm.ClassFile.FieldType.int)) ∈ lw_all := lw_g (lw_at lw_m10 173 rfl) rfl
theorem q2467 : (Jvm.Cond.methodLink "StrideTurns" (650 : Nat) ({ cls := "StrideTurns", name := "isMix", desc := "(IIII)Z" } : Jvm.MethodName)) ∈ lw_all := lw_g (lw_at lw_m10 174 rfl) rfl
theorem q2468 : (Jvm.Cond.static ({ cls := "StrideTurns", name := "isMix", desc := "(IIII)Z" } : Jvm.MethodName)) ∈ lw_all := lw_g (lw_at lw_m10 175 rfl) rfl
theorem q2469 : (Jvm.Cond.code ({ cls := "StrideTurns", name := "isMix", desc := "(IIII)Z" } : Jvm.MethodName) prog_1_method_81_code (4 : Nat) (Option.some Jvm.ClassFile.FieldType.boolean)) ∈ lw_all := lw_g (lw_at lw_m10 176 rfl) rfl
theorem q2470 : (Jvm.Cond.constantLong "StrideTurns" (642 : Nat) (63 : Int64)) ∈ lw_all := lw_g (lw_at lw_m10 177 rfl) rfl
theorem q2471 : (Jvm.Cond.methodLink "StrideTurns" (644 : Nat) ({ cls := "StrideTurns", name := "isTwo", desc := "(I)Z" } : Jvm.MethodName)) ∈ lw_all := lw_g (lw_at lw_m10 178 rfl) rfl
theorem q2472 : (Jvm.Cond.static ({ cls := "StrideTurns", name := "isTwo", desc := "(I)Z" } : Jvm.MethodName)) ∈ lw_all := lw_g (lw_at lw_m10 179 rfl) rfl
theorem q2473 : (Jvm.Cond.code ({ cls := "StrideTurns", name := "isTwo", desc := "(I)Z" } : Jvm.MethodName) prog_1_method_3_code (1 : Nat) (Option.some Jvm.ClassFile.FieldType.boolean)) ∈ lw_all := lw_g (lw_at lw_m10 180 rfl) rfl
theorem q2474 : (Jvm.Cond.methodLink "StrideTurns" (654 : Nat) ({ cls := "StrideTurns", name := "isParallel", desc := "()Z" } : Jvm.MethodName)) ∈ lw_all := lw_g (lw_at lw_m10 181 rfl) rfl
theorem q2475 : (Jvm.Cond.privateMethod ({ cls := "StrideTurns", name := "isParallel", desc := "()Z" } : Jvm.MethodName)) ∈ lw_tbl := lw_at lw_m10 182 rfl
theorem q2476 : (Jvm.Cond.instanceMethod ({ cls := "StrideTurns", name := "isParallel", desc := "()Z" } : Jvm.MethodName)) ∈ lw_all := lw_g (lw_at lw_m10 183 rfl) rfl
theorem q2477 : (Jvm.Cond.code ({ cls := "StrideTurns", name := "isParallel", desc := "()Z" } : Jvm.MethodName) prog_1_method_82_code (1 : Nat) (Option.some Jvm.ClassFile.FieldType.boolean)) ∈ lw_all := lw_g (lw_at lw_m10 184 rfl) rfl
theorem q2478 : (Jvm.Cond.methodLink "StrideTurns" (647 : Nat) ({ cls := "StrideTurns", name := "serialRows", desc := "()I" } : Jvm.MethodName)) ∈ lw_all := lw_g (lw_at lw_m10 185 rfl) rfl
theorem q2479 : (Jvm.Cond.privateMethod ({ cls := "StrideTurns", name := "serialRows", desc := "()I" } : Jvm.MethodName)) ∈ lw_tbl := lw_at lw_m10 186 rfl
theorem q2480 : (Jvm.Cond.instanceMethod ({ cls := "StrideTurns", name := "serialRows", desc := "()I" } : Jvm.MethodName)) ∈ lw_all := lw_g (lw_at lw_m10 187 rfl) rfl
theorem q2481 : (Jvm.Cond.code ({ cls := "StrideTurns", name := "serialRows", desc := "()I" } : Jvm.MethodName) prog_1_method_65_code (3 : Nat) (Option.some Jvm.ClassFile.FieldType.int)) ∈ lw_all := lw_g (lw_at lw_m10 188 rfl) rfl
theorem q2482 : (Jvm.Cond.methodLink "StrideTurns" (657 : Nat) ({ cls := "StrideTurns", name := "mixes", desc := "(III)V" } : Jvm.MethodName)) ∈ lw_all := lw_g (lw_at lw_m10 189 rfl) rfl
theorem q2483 : (Jvm.Cond.privateMethod ({ cls := "StrideTurns", name := "mixes", desc := "(III)V" } : Jvm.MethodName)) ∈ lw_tbl := lw_at lw_m10 190 rfl
theorem q2484 : (Jvm.Cond.instanceMethod ({ cls := "StrideTurns", name := "mixes", desc := "(III)V" } : Jvm.MethodName)) ∈ lw_all := lw_g (lw_at lw_m10 191 rfl) rfl
theorem q2485 : (Jvm.Cond.code ({ cls := "StrideTurns", name := "mixes", desc := "(III)V" } : Jvm.MethodName) prog_1_method_75_code (10 : Nat) (Option.none : Option Jvm.ClassFile.FieldType)) ∈ lw_all := lw_g (lw_at lw_m10 192 rfl) rfl
theorem q2486 : (Jvm.Cond.methodLink "StrideTurns" (587 : Nat) ({ cls := "StrideTurns", name := "dealOf", desc := "(II)LStrideTurns$Deal;" } : Jvm.MethodName)) ∈ lw_all := lw_g (lw_at lw_m10 193 rfl) rfl
theorem q2487 : (Jvm.Cond.privateMethod ({ cls := "StrideTurns", name := "dealOf", desc := "(II)LStrideTurns$Deal;" } : Jvm.MethodName)) ∈ lw_tbl := lw_at lw_m10 194 rfl
theorem q2488 : (Jvm.Cond.instanceMethod ({ cls := "StrideTurns", name := "dealOf", desc := "(II)LStrideTurns$Deal;" } : Jvm.MethodName)) ∈ lw_all := lw_g (lw_at lw_m10 195 rfl) rfl
theorem q2489 : (Jvm.Cond.code ({ cls := "StrideTurns", name := "dealOf", desc := "(II)LStrideTurns$Deal;" } : Jvm.MethodName) prog_1_method_73_code (4 : Nat) (Option.some (Jvm.ClassFile.FieldType.object "StrideTurns$Deal"))) ∈ lw_all := lw_g (lw_at lw_m10 196 rfl) rfl
theorem q2490 : (Jvm.Cond.static ({ cls := "StrideTurns", name := "lambda$dealOf$6", desc := "(II)I" } : Jvm.MethodName)) ∈ lw_all := lw_g (lw_at lw_m10 197 rfl) rfl
theorem q2491 : (Jvm.Cond.code ({ cls := "StrideTurns", name := "lambda$dealOf$6", desc := "(II)I" } : Jvm.MethodName) prog_1_method_102_code (2 : Nat) (Option.some Jvm.ClassFile.FieldType.int)) ∈ lw_all := lw_g (lw_at lw_m10 198 rfl) rfl
theorem q2492 : (Jvm.Cond.static ({ cls := "StrideTurns", name := "lambda$dealOf$7", desc := "(II)I" } : Jvm.MethodName)) ∈ lw_all := lw_g (lw_at lw_m10 199 rfl) rfl
theorem q2493 : (Jvm.Cond.code ({ cls := "StrideTurns", name := "lambda$dealOf$7", desc := "(II)I" } : Jvm.MethodName) prog_1_method_101_code (2 : Nat) (Option.some Jvm.ClassFile.FieldType.int)) ∈ lw_all := lw_g (lw_at lw_m10 200 rfl) rfl
theorem q2494 : (Jvm.Cond.methodLink "StrideTurns" (591 : Nat) ({ cls := "StrideTurns", name := "next", desc := "(ILStrideTurns$Deal;Z)LStrideTurns$Turn;" } : Jvm.MethodName)) ∈ lw_all := lw_g (lw_at lw_m10 201 rfl) rfl
theorem q2495 : (Jvm.Cond.privateMethod ({ cls := "StrideTurns", name := "next", desc := "(ILStrideTurns$Deal;Z)LStrideTurns$Turn;" } : Jvm.MethodName)) ∈ lw_tbl := lw_at lw_m10 202 rfl
theorem q2496 : (Jvm.Cond.instanceMethod ({ cls := "StrideTurns", name := "next", desc := "(ILStrideTurns$Deal;Z)LStrideTurns$Turn;" } : Jvm.MethodName)) ∈ lw_all := lw_g (lw_at lw_m10 203 rfl) rfl
theorem q2497 : (Jvm.Cond.code ({ cls := "StrideTurns", name := "next", desc := "(ILStrideTurns$Deal;Z)LStrideTurns$Turn;" } : Jvm.MethodName) prog_1_method_74_code (6 : Nat) (Option.some (Jvm.ClassFile.FieldType.object "StrideTurns$Turn"))) ∈ lw_all := lw_g (lw_at lw_m10 204 rfl) rfl
theorem q2498 : (Jvm.Cond.interfaceEntry "StrideTurns" (583 : Nat)) ∈ lw_tbl := lw_at lw_m10 205 rfl
theorem q2499 : (Jvm.Cond.methodLink "StrideTurns" (583 : Nat) ({ cls := "StrideTurns$Deal", name := "worker", desc := "(I)I" } : Jvm.MethodName)) ∈ lw_all := lw_g (lw_at lw_m10 206 rfl) rfl
theorem q2502 : (Jvm.Cond.methodLink "StrideTurns" (594 : Nat) ({ cls := "StrideTurns", name := "comesOut", desc := "()V" } : Jvm.MethodName)) ∈ lw_all := lw_g (lw_at lw_m10 209 rfl) rfl
theorem q2503 : (Jvm.Cond.privateMethod ({ cls := "StrideTurns", name := "comesOut", desc := "()V" } : Jvm.MethodName)) ∈ lw_tbl := lw_at lw_m10 210 rfl
theorem q2504 : (Jvm.Cond.instanceMethod ({ cls := "StrideTurns", name := "comesOut", desc := "()V" } : Jvm.MethodName)) ∈ lw_all := lw_g (lw_at lw_m10 211 rfl) rfl
theorem q2505 : (Jvm.Cond.code ({ cls := "StrideTurns", name := "comesOut", desc := "()V" } : Jvm.MethodName) prog_1_method_76_code (4 : Nat) (Option.none : Option Jvm.ClassFile.FieldType)) ∈ lw_all := lw_g (lw_at lw_m10 212 rfl) rfl
theorem q2506 : (Jvm.Cond.methodLink "StrideTurns" (600 : Nat) ({ cls := "StrideTurns", name := "comes", desc := "(IILStrideTurns$Turn;)V" } : Jvm.MethodName)) ∈ lw_all := lw_g (lw_at lw_m10 213 rfl) rfl
theorem q2507 : (Jvm.Cond.privateMethod ({ cls := "StrideTurns", name := "comes", desc := "(IILStrideTurns$Turn;)V" } : Jvm.MethodName)) ∈ lw_tbl := lw_at lw_m10 214 rfl
theorem q2508 : (Jvm.Cond.instanceMethod ({ cls := "StrideTurns", name := "comes", desc := "(IILStrideTurns$Turn;)V" } : Jvm.MethodName)) ∈ lw_all := lw_g (lw_at lw_m10 215 rfl) rfl
theorem q2509 : (Jvm.Cond.code ({ cls := "StrideTurns", name := "comes", desc := "(IILStrideTurns$Turn;)V" } : Jvm.MethodName) prog_1_method_77_code (9 : Nat) (Option.none : Option Jvm.ClassFile.FieldType)) ∈ lw_all := lw_g (lw_at lw_m10 216 rfl) rfl
theorem q2510 : (Jvm.Cond.methodLink "StrideTurns" (607 : Nat) ({ cls := "StrideTurns", name := "gathererOf", desc := "(I)LStrideTurns$Statement;" } : Jvm.MethodName)) ∈ lw_all := lw_g (lw_at lw_m10 217 rfl) rfl
theorem q2511 : (Jvm.Cond.privateMethod ({ cls := "StrideTurns", name := "gathererOf", desc := "(I)LStrideTurns$Statement;" } : Jvm.MethodName)) ∈ lw_tbl := lw_at lw_m10 218 rfl
theorem q2512 : (Jvm.Cond.instanceMethod ({ cls := "StrideTurns", name := "gathererOf", desc := "(I)LStrideTurns$Statement;" } : Jvm.MethodName)) ∈ lw_all := lw_g (lw_at lw_m10 219 rfl) rfl
theorem q2513 : (Jvm.Cond.code ({ cls := "StrideTurns", name := "gathererOf", desc := "(I)LStrideTurns$Statement;" } : Jvm.MethodName) prog_1_method_78_code (3 : Nat) (Option.some (Jvm.ClassFile.FieldType.object "StrideTurns$Statement"))) ∈ lw_all := lw_g (lw_at lw_m10 220 rfl) rfl
theorem q2514 : (Jvm.Cond.stringRef "StrideTurns" (614 : Nat) "add") ∈ lw_tbl := lw_at lw_m10 221 rfl
theorem q2515 : (Jvm.Cond.methodLink "StrideTurns" (615 : Nat) ({ cls := "StrideTurns$Row", name := "at", desc := "(I)D" } : Jvm.MethodName)) ∈ lw_all := lw_g (lw_at lw_m10 222 rfl) rfl
theorem q2516 : (Jvm.Cond.methodLink "StrideTurns" (618 : Nat) ({ cls := "StrideTurns", name := "done", desc := "(LStrideTurns$Deed;IDD)D" } : Jvm.MethodName)) ∈ lw_all := lw_g (lw_at lw_m10 223 rfl) rfl
theorem q2517 : (Jvm.Cond.methodLink "StrideTurns" (622 : Nat) ({ cls := "StrideTurns$Row", name := "cast", desc := "(D)D" } : Jvm.MethodName)) ∈ lw_all := lw_g (lw_at lw_m10 224 rfl) rfl
theorem q2518 : (Jvm.Cond.methodLink "StrideTurns" (626 : Nat) ({ cls := "StrideTurns$Row", name := "becomes", desc := "(ID)V" } : Jvm.MethodName)) ∈ lw_all := lw_g (lw_at lw_m10 225 rfl) rfl
theorem q2520 : (Jvm.Cond.instanceMethod ({ cls := "StrideTurns", name := "same", desc := "(IIII)I" } : Jvm.MethodName)) ∈ lw_all := lw_g (lw_at lw_m10 227 rfl) rfl
theorem q2521 : (Jvm.Cond.selects "StrideTurns" ({ cls := "StrideTurns", name := "same", desc := "(IIII)I" } : Jvm.MethodName) ({ cls := "StrideTurns", name := "same", desc := "(IIII)I" } : Jvm.MethodName)) ∈ lw_all := lw_g (lw_at lw_m10 228 rfl) rfl
theorem q2522 : (Jvm.Cond.code ({ cls := "StrideTurns", name := "same", desc := "(IIII)I" } : Jvm.MethodName) prog_1_method_89_code (5 : Nat) (Option.some Jvm.ClassFile.FieldType.int)) ∈ lw_all := lw_g (lw_at lw_m10 229 rfl) rfl
theorem q2523 : (Jvm.Cond.methodLink "StrideTurns" (673 : Nat) ({ cls := "StrideTurns", name := "sameBy", desc := "(III)I" } : Jvm.MethodName)) ∈ lw_all := lw_g (lw_at lw_m10 230 rfl) rfl
theorem q2524 : (Jvm.Cond.privateMethod ({ cls := "StrideTurns", name := "sameBy", desc := "(III)I" } : Jvm.MethodName)) ∈ lw_tbl := lw_at lw_m10 231 rfl
theorem q2525 : (Jvm.Cond.instanceMethod ({ cls := "StrideTurns", name := "sameBy", desc := "(III)I" } : Jvm.MethodName)) ∈ lw_all := lw_g (lw_at lw_m10 232 rfl) rfl
theorem q2526 : (Jvm.Cond.codeWith ({ cls := "StrideTurns", name := "sameBy", desc := "(III)I" } : Jvm.MethodName) prog_1_method_88_code (16 : Nat) (Option.some Jvm.ClassFile.FieldType.int) [((12 : Nat), (121 : Nat), (198 : Nat), (0 : Nat)), ((198 : Nat), (200 : Nat), (198 : Nat), (0 : Nat))]) ∈ lw_all := lw_g (lw_at lw_m10 233 rfl) rfl
theorem q2527 : (Jvm.Cond.methodLink "StrideTurns" (660 : Nat) ({ cls := "StrideTurns", name := "keeps", desc := "([D)V" } : Jvm.MethodName)) ∈ lw_all := lw_g (lw_at lw_m10 234 rfl) rfl
theorem q2528 : (Jvm.Cond.privateMethod ({ cls := "StrideTurns", name := "keeps", desc := "([D)V" } : Jvm.MethodName)) ∈ lw_tbl := lw_at lw_m10 235 rfl
theorem q2529 : (Jvm.Cond.instanceMethod ({ cls := "StrideTurns", name := "keeps", desc := "([D)V" } : Jvm.MethodName)) ∈ lw_all := lw_g (lw_at lw_m10 236 rfl) rfl
theorem q2530 : (Jvm.Cond.code ({ cls := "StrideTurns", name := "keeps", desc := "([D)V" } : Jvm.MethodName) prog_1_method_84_code (5 : Nat) (Option.none : Option Jvm.ClassFile.FieldType)) ∈ lw_all := lw_g (lw_at lw_m10 237 rfl) rfl
theorem q2531 : (Jvm.Cond.methodLink "StrideTurns" (664 : Nat) ({ cls := "StrideTurns", name := "keepsWriters", desc := "()V" } : Jvm.MethodName)) ∈ lw_all := lw_g (lw_at lw_m10 238 rfl) rfl
theorem q2532 : (Jvm.Cond.privateMethod ({ cls := "StrideTurns", name := "keepsWriters", desc := "()V" } : Jvm.MethodName)) ∈ lw_tbl := lw_at lw_m10 239 rfl
theorem q2533 : (Jvm.Cond.instanceMethod ({ cls := "StrideTurns", name := "keepsWriters", desc := "()V" } : Jvm.MethodName)) ∈ lw_all := lw_g (lw_at lw_m11 0 rfl) rfl
theorem q2534 : (Jvm.Cond.code ({ cls := "StrideTurns", name := "keepsWriters", desc := "()V" } : Jvm.MethodName) prog_1_method_85_code (4 : Nat) (Option.none : Option Jvm.ClassFile.FieldType)) ∈ lw_all := lw_g (lw_at lw_m11 1 rfl) rfl
theorem q2535 : (Jvm.Cond.methodLink "StrideTurns" (667 : Nat) ({ cls := "StrideTurns", name := "takesBack", desc := "()V" } : Jvm.MethodName)) ∈ lw_all := lw_g (lw_at lw_m11 2 rfl) rfl
theorem q2536 : (Jvm.Cond.privateMethod ({ cls := "StrideTurns", name := "takesBack", desc := "()V" } : Jvm.MethodName)) ∈ lw_tbl := lw_at lw_m11 3 rfl
theorem q2537 : (Jvm.Cond.instanceMethod ({ cls := "StrideTurns", name := "takesBack", desc := "()V" } : Jvm.MethodName)) ∈ lw_all := lw_g (lw_at lw_m11 4 rfl) rfl
theorem q2538 : (Jvm.Cond.code ({ cls := "StrideTurns", name := "takesBack", desc := "()V" } : Jvm.MethodName) prog_1_method_86_code (4 : Nat) (Option.none : Option Jvm.ClassFile.FieldType)) ∈ lw_all := lw_g (lw_at lw_m11 5 rfl) rfl
theorem q2539 : (Jvm.Cond.methodLink "StrideTurns" (670 : Nat) ({ cls := "StrideTurns", name := "isFound", desc := "()Z" } : Jvm.MethodName)) ∈ lw_all := lw_g (lw_at lw_m11 6 rfl) rfl
theorem q2540 : (Jvm.Cond.privateMethod ({ cls := "StrideTurns", name := "isFound", desc := "()Z" } : Jvm.MethodName)) ∈ lw_tbl := lw_at lw_m11 7 rfl
theorem q2541 : (Jvm.Cond.instanceMethod ({ cls := "StrideTurns", name := "isFound", desc := "()Z" } : Jvm.MethodName)) ∈ lw_all := lw_g (lw_at lw_m11 8 rfl) rfl
theorem q2542 : (Jvm.Cond.code ({ cls := "StrideTurns", name := "isFound", desc := "()Z" } : Jvm.MethodName) prog_1_method_87_code (4 : Nat) (Option.some Jvm.ClassFile.FieldType.boolean)) ∈ lw_all := lw_g (lw_at lw_m11 9 rfl) rfl
theorem q2544 : (Jvm.Cond.instanceMethod ({ cls := "StrideTurns", name := "faults", desc := "(I)I" } : Jvm.MethodName)) ∈ lw_all := lw_g (lw_at lw_m11 11 rfl) rfl
theorem q2545 : (Jvm.Cond.selects "StrideTurns" ({ cls := "StrideTurns", name := "faults", desc := "(I)I" } : Jvm.MethodName) ({ cls := "StrideTurns", name := "faults", desc := "(I)I" } : Jvm.MethodName)) ∈ lw_all := lw_g (lw_at lw_m11 12 rfl) rfl
theorem q2546 : (Jvm.Cond.code ({ cls := "StrideTurns", name := "faults", desc := "(I)I" } : Jvm.MethodName) prog_1_method_90_code (2 : Nat) (Option.some Jvm.ClassFile.FieldType.int)) ∈ lw_all := lw_g (lw_at lw_m11 13 rfl) rfl
theorem q2548 : (Jvm.Cond.instanceMethod ({ cls := "StrideTurns", name := "ended", desc := "(I)I" } : Jvm.MethodName)) ∈ lw_all := lw_g (lw_at lw_m11 15 rfl) rfl
theorem q2549 : (Jvm.Cond.selects "StrideTurns" ({ cls := "StrideTurns", name := "ended", desc := "(I)I" } : Jvm.MethodName) ({ cls := "StrideTurns", name := "ended", desc := "(I)I" } : Jvm.MethodName)) ∈ lw_all := lw_g (lw_at lw_m11 16 rfl) rfl
theorem q2550 : (Jvm.Cond.code ({ cls := "StrideTurns", name := "ended", desc := "(I)I" } : Jvm.MethodName) prog_1_method_92_code (2 : Nat) (Option.some Jvm.ClassFile.FieldType.int)) ∈ lw_all := lw_g (lw_at lw_m11 17 rfl) rfl
theorem q2551 : (Jvm.Cond.constantLong "StrideTurns" (676 : Nat) (9 : Int64)) ∈ lw_all := lw_g (lw_at lw_m11 18 rfl) rfl
theorem q2552 : (Jvm.Cond.methodLink "StrideTurns" (678 : Nat) ({ cls := "StrideTurns", name := "endedBy", desc := "(I)I" } : Jvm.MethodName)) ∈ lw_all := lw_g (lw_at lw_m11 19 rfl) rfl
theorem q2553 : (Jvm.Cond.privateMethod ({ cls := "StrideTurns", name := "endedBy", desc := "(I)I" } : Jvm.MethodName)) ∈ lw_tbl := lw_at lw_m11 20 rfl
theorem q2554 : (Jvm.Cond.instanceMethod ({ cls := "StrideTurns", name := "endedBy", desc := "(I)I" } : Jvm.MethodName)) ∈ lw_all := lw_g (lw_at lw_m11 21 rfl) rfl
theorem q2555 : (Jvm.Cond.code ({ cls := "StrideTurns", name := "endedBy", desc := "(I)I" } : Jvm.MethodName) prog_1_method_91_code (2 : Nat) (Option.some Jvm.ClassFile.FieldType.int)) ∈ lw_all := lw_g (lw_at lw_m11 22 rfl) rfl
theorem q2557 : (Jvm.Cond.instanceMethod ({ cls := "StrideTurns", name := "writer", desc := "(II)I" } : Jvm.MethodName)) ∈ lw_all := lw_g (lw_at lw_m11 24 rfl) rfl
theorem q2558 : (Jvm.Cond.selects "StrideTurns" ({ cls := "StrideTurns", name := "writer", desc := "(II)I" } : Jvm.MethodName) ({ cls := "StrideTurns", name := "writer", desc := "(II)I" } : Jvm.MethodName)) ∈ lw_all := lw_g (lw_at lw_m11 25 rfl) rfl
theorem q2559 : (Jvm.Cond.codeWith ({ cls := "StrideTurns", name := "writer", desc := "(II)I" } : Jvm.MethodName) prog_1_method_93_code (4 : Nat) (Option.some Jvm.ClassFile.FieldType.int) [((10 : Nat), (21 : Nat), (22 : Nat), (124 : Nat)), ((10 : Nat), (21 : Nat), (29 : Nat), (132 : Nat))]) ∈ lw_all := lw_g (lw_at lw_m11 26 rfl) rfl
theorem q2561 : (Jvm.Cond.instanceMethod ({ cls := "StrideTurns", name := "count", desc := "(I)I" } : Jvm.MethodName)) ∈ lw_all := lw_g (lw_at lw_m11 28 rfl) rfl
theorem q2562 : (Jvm.Cond.selects "StrideTurns" ({ cls := "StrideTurns", name := "count", desc := "(I)I" } : Jvm.MethodName) ({ cls := "StrideTurns", name := "count", desc := "(I)I" } : Jvm.MethodName)) ∈ lw_all := lw_g (lw_at lw_m11 29 rfl) rfl
theorem q2563 : (Jvm.Cond.code ({ cls := "StrideTurns", name := "count", desc := "(I)I" } : Jvm.MethodName) prog_1_method_96_code (2 : Nat) (Option.some Jvm.ClassFile.FieldType.int)) ∈ lw_all := lw_g (lw_at lw_m11 30 rfl) rfl
theorem q2564 : (Jvm.Cond.methodLink "StrideTurns" (681 : Nat) ({ cls := "StrideTurns", name := "serialNow", desc := "()I" } : Jvm.MethodName)) ∈ lw_all := lw_g (lw_at lw_m11 31 rfl) rfl
theorem q2565 : (Jvm.Cond.privateMethod ({ cls := "StrideTurns", name := "serialNow", desc := "()I" } : Jvm.MethodName)) ∈ lw_tbl := lw_at lw_m11 32 rfl
theorem q2566 : (Jvm.Cond.instanceMethod ({ cls := "StrideTurns", name := "serialNow", desc := "()I" } : Jvm.MethodName)) ∈ lw_all := lw_g (lw_at lw_m11 33 rfl) rfl
theorem q2567 : (Jvm.Cond.code ({ cls := "StrideTurns", name := "serialNow", desc := "()I" } : Jvm.MethodName) prog_1_method_95_code (1 : Nat) (Option.some Jvm.ClassFile.FieldType.int)) ∈ lw_all := lw_g (lw_at lw_m11 34 rfl) rfl
theorem q2568 : (Jvm.Cond.methodLink "StrideTurns" (684 : Nat) ({ cls := "StrideTurns", name := "missing", desc := "()I" } : Jvm.MethodName)) ∈ lw_all := lw_g (lw_at lw_m11 35 rfl) rfl
theorem q2569 : (Jvm.Cond.privateMethod ({ cls := "StrideTurns", name := "missing", desc := "()I" } : Jvm.MethodName)) ∈ lw_tbl := lw_at lw_m11 36 rfl
theorem q2570 : (Jvm.Cond.instanceMethod ({ cls := "StrideTurns", name := "missing", desc := "()I" } : Jvm.MethodName)) ∈ lw_all := lw_g (lw_at lw_m11 37 rfl) rfl
theorem q2571 : (Jvm.Cond.code ({ cls := "StrideTurns", name := "missing", desc := "()I" } : Jvm.MethodName) prog_1_method_94_code (6 : Nat) (Option.some Jvm.ClassFile.FieldType.int)) ∈ lw_all := lw_g (lw_at lw_m11 38 rfl) rfl
theorem q2573 : (Jvm.Cond.instanceMethod ({ cls := "StrideTurns", name := "digest", desc := "()J" } : Jvm.MethodName)) ∈ lw_all := lw_g (lw_at lw_m11 40 rfl) rfl
theorem q2574 : (Jvm.Cond.selects "StrideTurns" ({ cls := "StrideTurns", name := "digest", desc := "()J" } : Jvm.MethodName) ({ cls := "StrideTurns", name := "digest", desc := "()J" } : Jvm.MethodName)) ∈ lw_all := lw_g (lw_at lw_m11 41 rfl) rfl
theorem q2575 : (Jvm.Cond.code ({ cls := "StrideTurns", name := "digest", desc := "()J" } : Jvm.MethodName) prog_1_method_100_code (4 : Nat) (Option.some Jvm.ClassFile.FieldType.long)) ∈ lw_all := lw_g (lw_at lw_m11 42 rfl) rfl
theorem q2576 : (Jvm.Cond.constantLong "StrideTurns" (689 : Nat) (17 : Int64)) ∈ lw_all := lw_g (lw_at lw_m11 43 rfl) rfl
theorem q2577 : (Jvm.Cond.constantLong "StrideTurns" (687 : Nat) (31 : Int64)) ∈ lw_all := lw_g (lw_at lw_m11 44 rfl) rfl
theorem q2578 : (Jvm.Cond.methodLink "StrideTurns" (691 : Nat) ({ cls := "StrideTurns", name := "count", desc := "(I)I" } : Jvm.MethodName)) ∈ lw_all := lw_g (lw_at lw_m11 45 rfl) rfl
theorem q2579 : (Jvm.Cond.methodLink "StrideTurns" (693 : Nat) ({ cls := "StrideTurns", name := "tellsOf", desc := "(JI)J" } : Jvm.MethodName)) ∈ lw_all := lw_g (lw_at lw_m11 46 rfl) rfl
theorem q2580 : (Jvm.Cond.privateMethod ({ cls := "StrideTurns", name := "tellsOf", desc := "(JI)J" } : Jvm.MethodName)) ∈ lw_tbl := lw_at lw_m11 47 rfl
theorem q2581 : (Jvm.Cond.instanceMethod ({ cls := "StrideTurns", name := "tellsOf", desc := "(JI)J" } : Jvm.MethodName)) ∈ lw_all := lw_g (lw_at lw_m11 48 rfl) rfl
theorem q2582 : (Jvm.Cond.code ({ cls := "StrideTurns", name := "tellsOf", desc := "(JI)J" } : Jvm.MethodName) prog_1_method_97_code (9 : Nat) (Option.some Jvm.ClassFile.FieldType.long)) ∈ lw_all := lw_g (lw_at lw_m11 49 rfl) rfl
theorem q2583 : (Jvm.Cond.methodLink "StrideTurns" (697 : Nat) ({ cls := "StrideTurns", name := "tellsRow", desc := "(JI)J" } : Jvm.MethodName)) ∈ lw_all := lw_g (lw_at lw_m11 50 rfl) rfl
theorem q2584 : (Jvm.Cond.privateMethod ({ cls := "StrideTurns", name := "tellsRow", desc := "(JI)J" } : Jvm.MethodName)) ∈ lw_tbl := lw_at lw_m11 51 rfl
theorem q2585 : (Jvm.Cond.instanceMethod ({ cls := "StrideTurns", name := "tellsRow", desc := "(JI)J" } : Jvm.MethodName)) ∈ lw_all := lw_g (lw_at lw_m11 52 rfl) rfl
theorem q2586 : (Jvm.Cond.code ({ cls := "StrideTurns", name := "tellsRow", desc := "(JI)J" } : Jvm.MethodName) prog_1_method_98_code (8 : Nat) (Option.some Jvm.ClassFile.FieldType.long)) ∈ lw_all := lw_g (lw_at lw_m11 53 rfl) rfl
theorem q2587 : (Jvm.Cond.methodLink "StrideTurns" (700 : Nat) ({ cls := "StrideTurns", name := "tellsCells", desc := "(JI)J" } : Jvm.MethodName)) ∈ lw_all := lw_g (lw_at lw_m11 54 rfl) rfl
theorem q2588 : (Jvm.Cond.privateMethod ({ cls := "StrideTurns", name := "tellsCells", desc := "(JI)J" } : Jvm.MethodName)) ∈ lw_tbl := lw_at lw_m11 55 rfl
theorem q2589 : (Jvm.Cond.instanceMethod ({ cls := "StrideTurns", name := "tellsCells", desc := "(JI)J" } : Jvm.MethodName)) ∈ lw_all := lw_g (lw_at lw_m11 56 rfl) rfl
theorem q2590 : (Jvm.Cond.code ({ cls := "StrideTurns", name := "tellsCells", desc := "(JI)J" } : Jvm.MethodName) prog_1_method_99_code (7 : Nat) (Option.some Jvm.ClassFile.FieldType.long)) ∈ lw_all := lw_g (lw_at lw_m11 57 rfl) rfl
theorem q3223 : (Jvm.Cond.castable "StrideTurns" "java/lang/Object") ∈ lw_tbl := lw_at lw_m13 210 rfl
theorem in_X0 : ∀ w ∈ wsX00, w ∈ lw_all := lw_in wsX00 [1139, 1141, 1143, 1145, 1147, 1149, 1151, 1153, 1155, 1157, 1159, 1161, 1163, 1165, 1167, 1169, 1171, 1173, 1175, 1177, 1179, 1181, 1183] (by decide +kernel) (by decide +kernel)
