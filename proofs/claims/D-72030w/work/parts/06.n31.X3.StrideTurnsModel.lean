/-! StrideTurnsModel -/
set_option maxRecDepth 100000
def RX3 : String := "StrideTurnsModel"
def TX3 : u_T := fun k => match k with
  | 0 => ("StrideTurnsModel", "forms", "[I", true)
  | 1 => ("StrideTurnsModel", "sizes", "[I", true)
  | 2 => ("StrideTurnsModel", "cells", "[D", true)
  | 3 => ("StrideTurnsModel", "writers", "[I", true)
  | 4 => ("StrideTurnsModel", "finding", "I", false)
  | 5 => ("StrideTurnsModel", "moved", "[D", true)
  | 6 => ("StrideTurnsModel", "many", "I", false)
  | 7 => ("StrideTurnsModel", "statements", "I", false)
  | 8 => ("StrideTurnsModel", "operations", "[I", true)
  | 9 => ("StrideTurnsModel", "counts", "[I", true)
  | 10 => ("StrideTurnsModel", "periods", "[I", true)
  | 11 => ("StrideTurnsModel", "phases", "[I", true)
  | 12 => ("StrideTurnsModel", "masks", "[I", true)
  | 13 => ("StrideTurnsModel", "goals", "[I", true)
  | 14 => ("StrideTurnsModel", "froms", "[I", true)
  | 15 => ("StrideTurnsModel", "bys", "[I", true)
  | 16 => ("StrideTurnsModel", "steps", "[I", true)
  | 17 => ("StrideTurnsModel", "log", "[I", true)
  | 18 => ("StrideTurnsModel", "logged", "I", false)
  | 19 => ("StrideTurnsModel", "typed", "[I", true)
  | 20 => ("StrideTurnsModel", "typedMany", "I", false)
  | 21 => ("StrideTurnsModel", "kindsNow", "[I", true)
  | 22 => ("StrideTurnsModel", "kindsMany", "I", false)
  | 23 => ("StrideTurnsModel", "sets", "[I", true)
  | 24 => ("StrideTurnsModel", "covered", "[I", true)
  | 25 => ("StrideTurnsModel", "isRisky", "Z", false)
  | 26 => ("StrideTurnsModel", "pieceFirst", "I", false)
  | 27 => ("StrideTurnsModel", "pieceStride", "I", false)
  | 28 => ("StrideTurnsModel", "pieceMany", "I", false)
  | 29 => ("StrideTurnsModel", "verdicts", "[I", true)
  | 30 => ("StrideTurnsModel", "before", "[D", true)
  | 31 => ("StrideTurnsModel", "owns", "[D", true)
  | 32 => ("StrideTurnsModel", "hasOwn", "[Z", true)
  | 33 => ("StrideTurnsModel", "isMixed", "Z", false)
  | 34 => ("StrideTurnsModel", "items", "I", false)
  | 35 => ("StrideTurnsModel", "faultsNow", "[I", true)
  | 36 => ("StrideTurnsModel", "order", "[I", true)
  | 37 => ("StrideTurnsModel", "orderMany", "I", false)
  | 38 => ("StrideTurnsModel", "stopped", "I", false)
  | 39 => ("StrideTurnsModel", "isKept", "Z", false)
  | 40 => ("StrideTurnsModel", "next", "[I", true)
  | 41 => ("StrideTurnsModel", "keptCells", "[D", true)
  | 42 => ("StrideTurnsModel", "inOrder", "[D", true)
  | 43 => ("StrideTurnsModel", "keptWriters", "[I", true)
  | 44 => ("StrideTurnsModel", "keptOrder", "[I", true)
  | 45 => ("StrideTurnsModel", "keptFaults", "[I", true)
  | _ => ("StrideTurnsModel", "orderFaults", "[I", true)
def tyX3 : Nat → FieldType := fun k => match k with
  | 0 => .array .int
  | 1 => .array .int
  | 2 => .array .double
  | 3 => .array .int
  | 4 => .int
  | 5 => .array .double
  | 6 => .int
  | 7 => .int
  | 8 => .array .int
  | 9 => .array .int
  | 10 => .array .int
  | 11 => .array .int
  | 12 => .array .int
  | 13 => .array .int
  | 14 => .array .int
  | 15 => .array .int
  | 16 => .array .int
  | 17 => .array .int
  | 18 => .int
  | 19 => .array .int
  | 20 => .int
  | 21 => .array .int
  | 22 => .int
  | 23 => .array .int
  | 24 => .array .int
  | 25 => .boolean
  | 26 => .int
  | 27 => .int
  | 28 => .int
  | 29 => .array .int
  | 30 => .array .double
  | 31 => .array .double
  | 32 => .array .boolean
  | 33 => .boolean
  | 34 => .int
  | 35 => .array .int
  | 36 => .array .int
  | 37 => .int
  | 38 => .int
  | 39 => .boolean
  | 40 => .array .int
  | 41 => .array .double
  | 42 => .array .double
  | 43 => .array .int
  | 44 => .array .int
  | 45 => .array .int
  | _ => .array .int
abbrev wsX30 : List Cond := u_ws RX3 TX3 47
set_option maxRecDepth 100000 in
theorem nmX3 : ∀ a, a < 47 → ∀ b, b < 47 → a ≠ b → (TX3 a).2.1 ≠ (TX3 b).2.1 := by decide +kernel
set_option maxRecDepth 100000 in
theorem tyX3_ok : ∀ k, k < 47 → parseFieldDescriptor (TX3 k).2.2.1 = some (tyX3 k) := by decide +kernel
abbrev cX3_init : ByteArray := prog_18_method_1_code
def yX3_init : MethodName := ⟨RX3, "<init>", "()V"⟩
def dkwX3_init_12 : List UInt8 := [3, 60, 27, 17, 0, 144, 162, 0, 16, 42, 180, 0, 20, 27, 2, 79, 132, 1, 1, 167, 255, 239, 177]
abbrev dktX3_init_12 : List UInt8 := dkwX3_init_12 ++ []
def dkwX3_init_11 : List UInt8 := [181, 0, 105, 3, 60, 27, 16, 6, 162, 0, 16, 42, 180, 0, 7, 27, 2, 79, 132, 1, 1, 167, 255, 240]
abbrev dktX3_init_11 : List UInt8 := dkwX3_init_11 ++ dktX3_init_12
def dkwX3_init_10 : List UInt8 := [181, 0, 96, 42, 16, 10, 188, 10, 181, 0, 99, 42, 6, 188, 10, 181, 0, 102, 42, 6, 188, 10]
abbrev dktX3_init_10 : List UInt8 := dkwX3_init_10 ++ dktX3_init_11
def dkwX3_init_9 : List UInt8 := [17, 0, 144, 188, 7, 181, 0, 90, 42, 17, 0, 144, 188, 7, 181, 0, 93, 42, 17, 0, 144, 188, 10]
abbrev dktX3_init_9 : List UInt8 := dkwX3_init_9 ++ dktX3_init_10
def dkwX3_init_8 : List UInt8 := [6, 188, 10, 181, 0, 81, 42, 16, 10, 188, 10, 181, 0, 84, 42, 16, 10, 188, 10, 181, 0, 87, 42]
abbrev dktX3_init_8 : List UInt8 := dkwX3_init_8 ++ dktX3_init_9
def dkwX3_init_7 : List UInt8 := [188, 7, 181, 0, 71, 42, 17, 5, 160, 188, 7, 181, 0, 74, 42, 17, 5, 160, 188, 4, 181, 0, 77, 42]
abbrev dktX3_init_7 : List UInt8 := dkwX3_init_7 ++ dktX3_init_8
def dkwX3_init_6 : List UInt8 := [181, 0, 62, 42, 16, 6, 188, 10, 181, 0, 65, 42, 16, 6, 188, 10, 181, 0, 68, 42, 17, 0, 144]
abbrev dktX3_init_6 : List UInt8 := dkwX3_init_6 ++ dktX3_init_7
def dkwX3_init_5 : List UInt8 := [181, 0, 53, 42, 8, 188, 10, 181, 0, 56, 42, 16, 120, 188, 10, 181, 0, 59, 42, 17, 0, 240, 188, 10]
abbrev dktX3_init_5 : List UInt8 := dkwX3_init_5 ++ dktX3_init_6
def dkwX3_init_4 : List UInt8 := [181, 0, 44, 42, 16, 15, 188, 10, 181, 0, 47, 42, 16, 15, 188, 10, 181, 0, 50, 42, 16, 120, 188, 10]
abbrev dktX3_init_4 : List UInt8 := dkwX3_init_4 ++ dktX3_init_5
def dkwX3_init_3 : List UInt8 := [181, 0, 35, 42, 8, 188, 10, 181, 0, 38, 42, 16, 15, 188, 10, 181, 0, 41, 42, 16, 15, 188, 10]
abbrev dktX3_init_3 : List UInt8 := dkwX3_init_3 ++ dktX3_init_4
def dkwX3_init_2 : List UInt8 := [188, 10, 181, 0, 26, 42, 8, 188, 10, 181, 0, 29, 42, 8, 188, 10, 181, 0, 32, 42, 8, 188, 10]
abbrev dktX3_init_2 : List UInt8 := dkwX3_init_2 ++ dktX3_init_3
def dkwX3_init_1 : List UInt8 := [188, 7, 181, 0, 16, 42, 17, 0, 144, 188, 10, 181, 0, 20, 42, 16, 24, 188, 7, 181, 0, 23, 42, 8]
abbrev dktX3_init_1 : List UInt8 := dkwX3_init_1 ++ dktX3_init_2
def dkwX3_init_0 : List UInt8 := [42, 183, 0, 1, 42, 16, 6, 188, 10, 181, 0, 7, 42, 16, 6, 188, 10, 181, 0, 13, 42, 17, 0, 144]
abbrev dktX3_init_0 : List UInt8 := dkwX3_init_0 ++ dktX3_init_1
theorem dksX3_init_0 : cX3_init.data.toList.drop 0 = dktX3_init_0 := by decide +kernel
theorem dksX3_init_1 : cX3_init.data.toList.drop 24 = dktX3_init_1 := dk_seg dksX3_init_0 24 rfl rfl
theorem dksX3_init_2 : cX3_init.data.toList.drop 48 = dktX3_init_2 := dk_seg dksX3_init_1 24 rfl rfl
theorem dksX3_init_3 : cX3_init.data.toList.drop 71 = dktX3_init_3 := dk_seg dksX3_init_2 23 rfl rfl
theorem dksX3_init_4 : cX3_init.data.toList.drop 94 = dktX3_init_4 := dk_seg dksX3_init_3 23 rfl rfl
theorem dksX3_init_5 : cX3_init.data.toList.drop 118 = dktX3_init_5 := dk_seg dksX3_init_4 24 rfl rfl
theorem dksX3_init_6 : cX3_init.data.toList.drop 142 = dktX3_init_6 := dk_seg dksX3_init_5 24 rfl rfl
theorem dksX3_init_7 : cX3_init.data.toList.drop 165 = dktX3_init_7 := dk_seg dksX3_init_6 23 rfl rfl
theorem dksX3_init_8 : cX3_init.data.toList.drop 189 = dktX3_init_8 := dk_seg dksX3_init_7 24 rfl rfl
theorem dksX3_init_9 : cX3_init.data.toList.drop 212 = dktX3_init_9 := dk_seg dksX3_init_8 23 rfl rfl
theorem dksX3_init_10 : cX3_init.data.toList.drop 235 = dktX3_init_10 := dk_seg dksX3_init_9 23 rfl rfl
theorem dksX3_init_11 : cX3_init.data.toList.drop 257 = dktX3_init_11 := dk_seg dksX3_init_10 22 rfl rfl
theorem dksX3_init_12 : cX3_init.data.toList.drop 281 = dktX3_init_12 := dk_seg dksX3_init_11 24 rfl rfl
theorem dX3_init_0 : decode cX3_init 0 = .ok (.aload_n 0, 1) := dk_42 (dk_at dksX3_init_0 0 rfl rfl)
theorem dX3_init_1 : decode cX3_init 1 = .ok (.invokespecial 1, 3) := dk_183 0 1 (dk_at dksX3_init_0 1 rfl rfl)
theorem dX3_init_4 : decode cX3_init 4 = .ok (.aload_n 0, 1) := dk_42 (dk_at dksX3_init_0 4 rfl rfl)
theorem dX3_init_5 : decode cX3_init 5 = .ok (.bipush 6, 2) := dk_16 6 (dk_at dksX3_init_0 5 rfl rfl)
theorem dX3_init_7 : decode cX3_init 7 = .ok (.newarray .int, 2) := dk_188_10 (dk_at dksX3_init_0 7 rfl rfl)
theorem dX3_init_9 : decode cX3_init 9 = .ok (.putfield 7, 3) := dk_181 0 7 (dk_at dksX3_init_0 9 rfl rfl)
theorem dX3_init_12 : decode cX3_init 12 = .ok (.aload_n 0, 1) := dk_42 (dk_at dksX3_init_0 12 rfl rfl)
theorem dX3_init_13 : decode cX3_init 13 = .ok (.bipush 6, 2) := dk_16 6 (dk_at dksX3_init_0 13 rfl rfl)
theorem dX3_init_15 : decode cX3_init 15 = .ok (.newarray .int, 2) := dk_188_10 (dk_at dksX3_init_0 15 rfl rfl)
theorem dX3_init_17 : decode cX3_init 17 = .ok (.putfield 13, 3) := dk_181 0 13 (dk_at dksX3_init_0 17 rfl rfl)
theorem dX3_init_20 : decode cX3_init 20 = .ok (.aload_n 0, 1) := dk_42 (dk_at dksX3_init_0 20 rfl rfl)
theorem dX3_init_21 : decode cX3_init 21 = .ok (.sipush 144, 3) := dk_17 0 144 (dk_at dksX3_init_0 21 rfl rfl)
theorem dX3_init_24 : decode cX3_init 24 = .ok (.newarray .double, 2) := dk_188_7 (dk_at dksX3_init_1 0 rfl rfl)
theorem dX3_init_26 : decode cX3_init 26 = .ok (.putfield 16, 3) := dk_181 0 16 (dk_at dksX3_init_1 2 rfl rfl)
theorem dX3_init_29 : decode cX3_init 29 = .ok (.aload_n 0, 1) := dk_42 (dk_at dksX3_init_1 5 rfl rfl)
theorem dX3_init_30 : decode cX3_init 30 = .ok (.sipush 144, 3) := dk_17 0 144 (dk_at dksX3_init_1 6 rfl rfl)
theorem dX3_init_33 : decode cX3_init 33 = .ok (.newarray .int, 2) := dk_188_10 (dk_at dksX3_init_1 9 rfl rfl)
theorem dX3_init_35 : decode cX3_init 35 = .ok (.putfield 20, 3) := dk_181 0 20 (dk_at dksX3_init_1 11 rfl rfl)
theorem dX3_init_38 : decode cX3_init 38 = .ok (.aload_n 0, 1) := dk_42 (dk_at dksX3_init_1 14 rfl rfl)
theorem dX3_init_39 : decode cX3_init 39 = .ok (.bipush 24, 2) := dk_16 24 (dk_at dksX3_init_1 15 rfl rfl)
theorem dX3_init_41 : decode cX3_init 41 = .ok (.newarray .double, 2) := dk_188_7 (dk_at dksX3_init_1 17 rfl rfl)
theorem dX3_init_43 : decode cX3_init 43 = .ok (.putfield 23, 3) := dk_181 0 23 (dk_at dksX3_init_1 19 rfl rfl)
theorem dX3_init_46 : decode cX3_init 46 = .ok (.aload_n 0, 1) := dk_42 (dk_at dksX3_init_1 22 rfl rfl)
theorem dX3_init_47 : decode cX3_init 47 = .ok (.iconst 5, 1) := dk_8 (dk_at dksX3_init_1 23 rfl rfl)
theorem dX3_init_48 : decode cX3_init 48 = .ok (.newarray .int, 2) := dk_188_10 (dk_at dksX3_init_2 0 rfl rfl)
theorem dX3_init_50 : decode cX3_init 50 = .ok (.putfield 26, 3) := dk_181 0 26 (dk_at dksX3_init_2 2 rfl rfl)
theorem dX3_init_53 : decode cX3_init 53 = .ok (.aload_n 0, 1) := dk_42 (dk_at dksX3_init_2 5 rfl rfl)
theorem dX3_init_54 : decode cX3_init 54 = .ok (.iconst 5, 1) := dk_8 (dk_at dksX3_init_2 6 rfl rfl)
theorem dX3_init_55 : decode cX3_init 55 = .ok (.newarray .int, 2) := dk_188_10 (dk_at dksX3_init_2 7 rfl rfl)
theorem dX3_init_57 : decode cX3_init 57 = .ok (.putfield 29, 3) := dk_181 0 29 (dk_at dksX3_init_2 9 rfl rfl)
theorem dX3_init_60 : decode cX3_init 60 = .ok (.aload_n 0, 1) := dk_42 (dk_at dksX3_init_2 12 rfl rfl)
theorem dX3_init_61 : decode cX3_init 61 = .ok (.iconst 5, 1) := dk_8 (dk_at dksX3_init_2 13 rfl rfl)
theorem dX3_init_62 : decode cX3_init 62 = .ok (.newarray .int, 2) := dk_188_10 (dk_at dksX3_init_2 14 rfl rfl)
theorem dX3_init_64 : decode cX3_init 64 = .ok (.putfield 32, 3) := dk_181 0 32 (dk_at dksX3_init_2 16 rfl rfl)
theorem dX3_init_67 : decode cX3_init 67 = .ok (.aload_n 0, 1) := dk_42 (dk_at dksX3_init_2 19 rfl rfl)
theorem dX3_init_68 : decode cX3_init 68 = .ok (.iconst 5, 1) := dk_8 (dk_at dksX3_init_2 20 rfl rfl)
theorem dX3_init_69 : decode cX3_init 69 = .ok (.newarray .int, 2) := dk_188_10 (dk_at dksX3_init_2 21 rfl rfl)
theorem dX3_init_71 : decode cX3_init 71 = .ok (.putfield 35, 3) := dk_181 0 35 (dk_at dksX3_init_3 0 rfl rfl)
theorem dX3_init_74 : decode cX3_init 74 = .ok (.aload_n 0, 1) := dk_42 (dk_at dksX3_init_3 3 rfl rfl)
theorem dX3_init_75 : decode cX3_init 75 = .ok (.iconst 5, 1) := dk_8 (dk_at dksX3_init_3 4 rfl rfl)
theorem dX3_init_76 : decode cX3_init 76 = .ok (.newarray .int, 2) := dk_188_10 (dk_at dksX3_init_3 5 rfl rfl)
theorem dX3_init_78 : decode cX3_init 78 = .ok (.putfield 38, 3) := dk_181 0 38 (dk_at dksX3_init_3 7 rfl rfl)
theorem dX3_init_81 : decode cX3_init 81 = .ok (.aload_n 0, 1) := dk_42 (dk_at dksX3_init_3 10 rfl rfl)
theorem dX3_init_82 : decode cX3_init 82 = .ok (.bipush 15, 2) := dk_16 15 (dk_at dksX3_init_3 11 rfl rfl)
theorem dX3_init_84 : decode cX3_init 84 = .ok (.newarray .int, 2) := dk_188_10 (dk_at dksX3_init_3 13 rfl rfl)
theorem dX3_init_86 : decode cX3_init 86 = .ok (.putfield 41, 3) := dk_181 0 41 (dk_at dksX3_init_3 15 rfl rfl)
theorem dX3_init_89 : decode cX3_init 89 = .ok (.aload_n 0, 1) := dk_42 (dk_at dksX3_init_3 18 rfl rfl)
theorem dX3_init_90 : decode cX3_init 90 = .ok (.bipush 15, 2) := dk_16 15 (dk_at dksX3_init_3 19 rfl rfl)
theorem dX3_init_92 : decode cX3_init 92 = .ok (.newarray .int, 2) := dk_188_10 (dk_at dksX3_init_3 21 rfl rfl)
theorem dX3_init_94 : decode cX3_init 94 = .ok (.putfield 44, 3) := dk_181 0 44 (dk_at dksX3_init_4 0 rfl rfl)
theorem dX3_init_97 : decode cX3_init 97 = .ok (.aload_n 0, 1) := dk_42 (dk_at dksX3_init_4 3 rfl rfl)
theorem dX3_init_98 : decode cX3_init 98 = .ok (.bipush 15, 2) := dk_16 15 (dk_at dksX3_init_4 4 rfl rfl)
theorem dX3_init_100 : decode cX3_init 100 = .ok (.newarray .int, 2) := dk_188_10 (dk_at dksX3_init_4 6 rfl rfl)
theorem dX3_init_102 : decode cX3_init 102 = .ok (.putfield 47, 3) := dk_181 0 47 (dk_at dksX3_init_4 8 rfl rfl)
theorem dX3_init_105 : decode cX3_init 105 = .ok (.aload_n 0, 1) := dk_42 (dk_at dksX3_init_4 11 rfl rfl)
theorem dX3_init_106 : decode cX3_init 106 = .ok (.bipush 15, 2) := dk_16 15 (dk_at dksX3_init_4 12 rfl rfl)
theorem dX3_init_108 : decode cX3_init 108 = .ok (.newarray .int, 2) := dk_188_10 (dk_at dksX3_init_4 14 rfl rfl)
theorem dX3_init_110 : decode cX3_init 110 = .ok (.putfield 50, 3) := dk_181 0 50 (dk_at dksX3_init_4 16 rfl rfl)
theorem dX3_init_113 : decode cX3_init 113 = .ok (.aload_n 0, 1) := dk_42 (dk_at dksX3_init_4 19 rfl rfl)
theorem dX3_init_114 : decode cX3_init 114 = .ok (.bipush 120, 2) := dk_16 120 (dk_at dksX3_init_4 20 rfl rfl)
theorem dX3_init_116 : decode cX3_init 116 = .ok (.newarray .int, 2) := dk_188_10 (dk_at dksX3_init_4 22 rfl rfl)
theorem dX3_init_118 : decode cX3_init 118 = .ok (.putfield 53, 3) := dk_181 0 53 (dk_at dksX3_init_5 0 rfl rfl)
theorem dX3_init_121 : decode cX3_init 121 = .ok (.aload_n 0, 1) := dk_42 (dk_at dksX3_init_5 3 rfl rfl)
theorem dX3_init_122 : decode cX3_init 122 = .ok (.iconst 5, 1) := dk_8 (dk_at dksX3_init_5 4 rfl rfl)
theorem dX3_init_123 : decode cX3_init 123 = .ok (.newarray .int, 2) := dk_188_10 (dk_at dksX3_init_5 5 rfl rfl)
theorem dX3_init_125 : decode cX3_init 125 = .ok (.putfield 56, 3) := dk_181 0 56 (dk_at dksX3_init_5 7 rfl rfl)
theorem dX3_init_128 : decode cX3_init 128 = .ok (.aload_n 0, 1) := dk_42 (dk_at dksX3_init_5 10 rfl rfl)
theorem dX3_init_129 : decode cX3_init 129 = .ok (.bipush 120, 2) := dk_16 120 (dk_at dksX3_init_5 11 rfl rfl)
theorem dX3_init_131 : decode cX3_init 131 = .ok (.newarray .int, 2) := dk_188_10 (dk_at dksX3_init_5 13 rfl rfl)
theorem dX3_init_133 : decode cX3_init 133 = .ok (.putfield 59, 3) := dk_181 0 59 (dk_at dksX3_init_5 15 rfl rfl)
theorem dX3_init_136 : decode cX3_init 136 = .ok (.aload_n 0, 1) := dk_42 (dk_at dksX3_init_5 18 rfl rfl)
theorem dX3_init_137 : decode cX3_init 137 = .ok (.sipush 240, 3) := dk_17 0 240 (dk_at dksX3_init_5 19 rfl rfl)
theorem dX3_init_140 : decode cX3_init 140 = .ok (.newarray .int, 2) := dk_188_10 (dk_at dksX3_init_5 22 rfl rfl)
theorem dX3_init_142 : decode cX3_init 142 = .ok (.putfield 62, 3) := dk_181 0 62 (dk_at dksX3_init_6 0 rfl rfl)
theorem dX3_init_145 : decode cX3_init 145 = .ok (.aload_n 0, 1) := dk_42 (dk_at dksX3_init_6 3 rfl rfl)
theorem dX3_init_146 : decode cX3_init 146 = .ok (.bipush 6, 2) := dk_16 6 (dk_at dksX3_init_6 4 rfl rfl)
theorem dX3_init_148 : decode cX3_init 148 = .ok (.newarray .int, 2) := dk_188_10 (dk_at dksX3_init_6 6 rfl rfl)
theorem dX3_init_150 : decode cX3_init 150 = .ok (.putfield 65, 3) := dk_181 0 65 (dk_at dksX3_init_6 8 rfl rfl)
theorem dX3_init_153 : decode cX3_init 153 = .ok (.aload_n 0, 1) := dk_42 (dk_at dksX3_init_6 11 rfl rfl)
theorem dX3_init_154 : decode cX3_init 154 = .ok (.bipush 6, 2) := dk_16 6 (dk_at dksX3_init_6 12 rfl rfl)
theorem dX3_init_156 : decode cX3_init 156 = .ok (.newarray .int, 2) := dk_188_10 (dk_at dksX3_init_6 14 rfl rfl)
theorem dX3_init_158 : decode cX3_init 158 = .ok (.putfield 68, 3) := dk_181 0 68 (dk_at dksX3_init_6 16 rfl rfl)
theorem dX3_init_161 : decode cX3_init 161 = .ok (.aload_n 0, 1) := dk_42 (dk_at dksX3_init_6 19 rfl rfl)
theorem dX3_init_162 : decode cX3_init 162 = .ok (.sipush 144, 3) := dk_17 0 144 (dk_at dksX3_init_6 20 rfl rfl)
theorem dX3_init_165 : decode cX3_init 165 = .ok (.newarray .double, 2) := dk_188_7 (dk_at dksX3_init_7 0 rfl rfl)
theorem dX3_init_167 : decode cX3_init 167 = .ok (.putfield 71, 3) := dk_181 0 71 (dk_at dksX3_init_7 2 rfl rfl)
theorem dX3_init_170 : decode cX3_init 170 = .ok (.aload_n 0, 1) := dk_42 (dk_at dksX3_init_7 5 rfl rfl)
theorem dX3_init_171 : decode cX3_init 171 = .ok (.sipush 1440, 3) := dk_17 5 160 (dk_at dksX3_init_7 6 rfl rfl)
theorem dX3_init_174 : decode cX3_init 174 = .ok (.newarray .double, 2) := dk_188_7 (dk_at dksX3_init_7 9 rfl rfl)
theorem dX3_init_176 : decode cX3_init 176 = .ok (.putfield 74, 3) := dk_181 0 74 (dk_at dksX3_init_7 11 rfl rfl)
theorem dX3_init_179 : decode cX3_init 179 = .ok (.aload_n 0, 1) := dk_42 (dk_at dksX3_init_7 14 rfl rfl)
theorem dX3_init_180 : decode cX3_init 180 = .ok (.sipush 1440, 3) := dk_17 5 160 (dk_at dksX3_init_7 15 rfl rfl)
theorem dX3_init_183 : decode cX3_init 183 = .ok (.newarray .boolean, 2) := dk_188_4 (dk_at dksX3_init_7 18 rfl rfl)
theorem dX3_init_185 : decode cX3_init 185 = .ok (.putfield 77, 3) := dk_181 0 77 (dk_at dksX3_init_7 20 rfl rfl)
theorem dX3_init_188 : decode cX3_init 188 = .ok (.aload_n 0, 1) := dk_42 (dk_at dksX3_init_7 23 rfl rfl)
theorem dX3_init_189 : decode cX3_init 189 = .ok (.iconst 3, 1) := dk_6 (dk_at dksX3_init_8 0 rfl rfl)
theorem dX3_init_190 : decode cX3_init 190 = .ok (.newarray .int, 2) := dk_188_10 (dk_at dksX3_init_8 1 rfl rfl)
theorem dX3_init_192 : decode cX3_init 192 = .ok (.putfield 81, 3) := dk_181 0 81 (dk_at dksX3_init_8 3 rfl rfl)
theorem dX3_init_195 : decode cX3_init 195 = .ok (.aload_n 0, 1) := dk_42 (dk_at dksX3_init_8 6 rfl rfl)
theorem dX3_init_196 : decode cX3_init 196 = .ok (.bipush 10, 2) := dk_16 10 (dk_at dksX3_init_8 7 rfl rfl)
theorem dX3_init_198 : decode cX3_init 198 = .ok (.newarray .int, 2) := dk_188_10 (dk_at dksX3_init_8 9 rfl rfl)
theorem dX3_init_200 : decode cX3_init 200 = .ok (.putfield 84, 3) := dk_181 0 84 (dk_at dksX3_init_8 11 rfl rfl)
theorem dX3_init_203 : decode cX3_init 203 = .ok (.aload_n 0, 1) := dk_42 (dk_at dksX3_init_8 14 rfl rfl)
theorem dX3_init_204 : decode cX3_init 204 = .ok (.bipush 10, 2) := dk_16 10 (dk_at dksX3_init_8 15 rfl rfl)
theorem dX3_init_206 : decode cX3_init 206 = .ok (.newarray .int, 2) := dk_188_10 (dk_at dksX3_init_8 17 rfl rfl)
theorem dX3_init_208 : decode cX3_init 208 = .ok (.putfield 87, 3) := dk_181 0 87 (dk_at dksX3_init_8 19 rfl rfl)
theorem dX3_init_211 : decode cX3_init 211 = .ok (.aload_n 0, 1) := dk_42 (dk_at dksX3_init_8 22 rfl rfl)
theorem dX3_init_212 : decode cX3_init 212 = .ok (.sipush 144, 3) := dk_17 0 144 (dk_at dksX3_init_9 0 rfl rfl)
theorem dX3_init_215 : decode cX3_init 215 = .ok (.newarray .double, 2) := dk_188_7 (dk_at dksX3_init_9 3 rfl rfl)
theorem dX3_init_217 : decode cX3_init 217 = .ok (.putfield 90, 3) := dk_181 0 90 (dk_at dksX3_init_9 5 rfl rfl)
theorem dX3_init_220 : decode cX3_init 220 = .ok (.aload_n 0, 1) := dk_42 (dk_at dksX3_init_9 8 rfl rfl)
theorem dX3_init_221 : decode cX3_init 221 = .ok (.sipush 144, 3) := dk_17 0 144 (dk_at dksX3_init_9 9 rfl rfl)
theorem dX3_init_224 : decode cX3_init 224 = .ok (.newarray .double, 2) := dk_188_7 (dk_at dksX3_init_9 12 rfl rfl)
theorem dX3_init_226 : decode cX3_init 226 = .ok (.putfield 93, 3) := dk_181 0 93 (dk_at dksX3_init_9 14 rfl rfl)
theorem dX3_init_229 : decode cX3_init 229 = .ok (.aload_n 0, 1) := dk_42 (dk_at dksX3_init_9 17 rfl rfl)
theorem dX3_init_230 : decode cX3_init 230 = .ok (.sipush 144, 3) := dk_17 0 144 (dk_at dksX3_init_9 18 rfl rfl)
theorem dX3_init_233 : decode cX3_init 233 = .ok (.newarray .int, 2) := dk_188_10 (dk_at dksX3_init_9 21 rfl rfl)
theorem dX3_init_235 : decode cX3_init 235 = .ok (.putfield 96, 3) := dk_181 0 96 (dk_at dksX3_init_10 0 rfl rfl)
theorem dX3_init_238 : decode cX3_init 238 = .ok (.aload_n 0, 1) := dk_42 (dk_at dksX3_init_10 3 rfl rfl)
theorem dX3_init_239 : decode cX3_init 239 = .ok (.bipush 10, 2) := dk_16 10 (dk_at dksX3_init_10 4 rfl rfl)
theorem dX3_init_241 : decode cX3_init 241 = .ok (.newarray .int, 2) := dk_188_10 (dk_at dksX3_init_10 6 rfl rfl)
theorem dX3_init_243 : decode cX3_init 243 = .ok (.putfield 99, 3) := dk_181 0 99 (dk_at dksX3_init_10 8 rfl rfl)
theorem dX3_init_246 : decode cX3_init 246 = .ok (.aload_n 0, 1) := dk_42 (dk_at dksX3_init_10 11 rfl rfl)
theorem dX3_init_247 : decode cX3_init 247 = .ok (.iconst 3, 1) := dk_6 (dk_at dksX3_init_10 12 rfl rfl)
theorem dX3_init_248 : decode cX3_init 248 = .ok (.newarray .int, 2) := dk_188_10 (dk_at dksX3_init_10 13 rfl rfl)
theorem dX3_init_250 : decode cX3_init 250 = .ok (.putfield 102, 3) := dk_181 0 102 (dk_at dksX3_init_10 15 rfl rfl)
theorem dX3_init_253 : decode cX3_init 253 = .ok (.aload_n 0, 1) := dk_42 (dk_at dksX3_init_10 18 rfl rfl)
theorem dX3_init_254 : decode cX3_init 254 = .ok (.iconst 3, 1) := dk_6 (dk_at dksX3_init_10 19 rfl rfl)
theorem dX3_init_255 : decode cX3_init 255 = .ok (.newarray .int, 2) := dk_188_10 (dk_at dksX3_init_10 20 rfl rfl)
theorem dX3_init_257 : decode cX3_init 257 = .ok (.putfield 105, 3) := dk_181 0 105 (dk_at dksX3_init_11 0 rfl rfl)
theorem dX3_init_260 : decode cX3_init 260 = .ok (.iconst 0, 1) := dk_3 (dk_at dksX3_init_11 3 rfl rfl)
theorem dX3_init_261 : decode cX3_init 261 = .ok (.istore_n 1, 1) := dk_60 (dk_at dksX3_init_11 4 rfl rfl)
theorem dX3_init_262 : decode cX3_init 262 = .ok (.iload_n 1, 1) := dk_27 (dk_at dksX3_init_11 5 rfl rfl)
theorem dX3_init_263 : decode cX3_init 263 = .ok (.bipush 6, 2) := dk_16 6 (dk_at dksX3_init_11 6 rfl rfl)
theorem dX3_init_265 : decode cX3_init 265 = .ok (.if_icmp .ge 16, 3) := dk_162 0 16 (dk_at dksX3_init_11 8 rfl rfl)
theorem dX3_init_268 : decode cX3_init 268 = .ok (.aload_n 0, 1) := dk_42 (dk_at dksX3_init_11 11 rfl rfl)
theorem dX3_init_269 : decode cX3_init 269 = .ok (.getfield 7, 3) := dk_180 0 7 (dk_at dksX3_init_11 12 rfl rfl)
theorem dX3_init_272 : decode cX3_init 272 = .ok (.iload_n 1, 1) := dk_27 (dk_at dksX3_init_11 15 rfl rfl)
theorem dX3_init_273 : decode cX3_init 273 = .ok (.iconst (-1), 1) := dk_2 (dk_at dksX3_init_11 16 rfl rfl)
theorem dX3_init_274 : decode cX3_init 274 = .ok (.iastore, 1) := dk_79 (dk_at dksX3_init_11 17 rfl rfl)
theorem dX3_init_275 : decode cX3_init 275 = .ok (.iinc 1 1, 3) := dk_132 1 1 (dk_at dksX3_init_11 18 rfl rfl)
theorem dX3_init_278 : decode cX3_init 278 = .ok (.goto (-16), 3) := dk_167 255 240 (dk_at dksX3_init_11 21 rfl rfl)
theorem dX3_init_281 : decode cX3_init 281 = .ok (.iconst 0, 1) := dk_3 (dk_at dksX3_init_12 0 rfl rfl)
theorem dX3_init_282 : decode cX3_init 282 = .ok (.istore_n 1, 1) := dk_60 (dk_at dksX3_init_12 1 rfl rfl)
theorem dX3_init_283 : decode cX3_init 283 = .ok (.iload_n 1, 1) := dk_27 (dk_at dksX3_init_12 2 rfl rfl)
theorem dX3_init_284 : decode cX3_init 284 = .ok (.sipush 144, 3) := dk_17 0 144 (dk_at dksX3_init_12 3 rfl rfl)
theorem dX3_init_287 : decode cX3_init 287 = .ok (.if_icmp .ge 16, 3) := dk_162 0 16 (dk_at dksX3_init_12 6 rfl rfl)
theorem dX3_init_290 : decode cX3_init 290 = .ok (.aload_n 0, 1) := dk_42 (dk_at dksX3_init_12 9 rfl rfl)
theorem dX3_init_291 : decode cX3_init 291 = .ok (.getfield 20, 3) := dk_180 0 20 (dk_at dksX3_init_12 10 rfl rfl)
theorem dX3_init_294 : decode cX3_init 294 = .ok (.iload_n 1, 1) := dk_27 (dk_at dksX3_init_12 13 rfl rfl)
theorem dX3_init_295 : decode cX3_init 295 = .ok (.iconst (-1), 1) := dk_2 (dk_at dksX3_init_12 14 rfl rfl)
theorem dX3_init_296 : decode cX3_init 296 = .ok (.iastore, 1) := dk_79 (dk_at dksX3_init_12 15 rfl rfl)
theorem dX3_init_297 : decode cX3_init 297 = .ok (.iinc 1 1, 3) := dk_132 1 1 (dk_at dksX3_init_12 16 rfl rfl)
theorem dX3_init_300 : decode cX3_init 300 = .ok (.goto (-17), 3) := dk_167 255 239 (dk_at dksX3_init_12 19 rfl rfl)
theorem dX3_init_303 : decode cX3_init 303 = .ok (.return_, 1) := dk_177 (dk_at dksX3_init_12 22 rfl rfl)
abbrev cX3_row : ByteArray := prog_18_method_9_code
def yX3_row : MethodName := ⟨RX3, "row", "(III)I"⟩
def dkwX3_row_3 : List UInt8 := [42, 180, 0, 20, 16, 24, 27, 104, 21, 4, 96, 2, 79, 132, 4, 1, 167, 255, 220, 29, 172]
abbrev dktX3_row_3 : List UInt8 := dkwX3_row_3 ++ []
def dkwX3_row_2 : List UInt8 := [79, 3, 54, 4, 21, 4, 16, 24, 162, 0, 35, 42, 180, 0, 16, 16, 24, 27, 104, 21, 4, 96, 14, 82]
abbrev dktX3_row_2 : List UInt8 := dkwX3_row_2 ++ dktX3_row_3
def dkwX3_row_1 : List UInt8 := [172, 29, 156, 0, 9, 42, 8, 182, 0, 126, 172, 42, 180, 0, 7, 27, 28, 79, 42, 180, 0, 13, 27, 29]
abbrev dktX3_row_1 : List UInt8 := dkwX3_row_1 ++ dktX3_row_2
def dkwX3_row_0 : List UInt8 := [27, 184, 0, 122, 153, 0, 18, 28, 3, 7, 184, 0, 114, 153, 0, 9, 29, 16, 24, 164, 0, 6, 16, 254]
abbrev dktX3_row_0 : List UInt8 := dkwX3_row_0 ++ dktX3_row_1
theorem dksX3_row_0 : cX3_row.data.toList.drop 0 = dktX3_row_0 := by decide +kernel
theorem dksX3_row_1 : cX3_row.data.toList.drop 24 = dktX3_row_1 := dk_seg dksX3_row_0 24 rfl rfl
theorem dksX3_row_2 : cX3_row.data.toList.drop 48 = dktX3_row_2 := dk_seg dksX3_row_1 24 rfl rfl
theorem dksX3_row_3 : cX3_row.data.toList.drop 72 = dktX3_row_3 := dk_seg dksX3_row_2 24 rfl rfl
theorem dX3_row_0 : decode cX3_row 0 = .ok (.iload_n 1, 1) := dk_27 (dk_at dksX3_row_0 0 rfl rfl)
theorem dX3_row_1 : decode cX3_row 1 = .ok (.invokestatic 122, 3) := dk_184 0 122 (dk_at dksX3_row_0 1 rfl rfl)
theorem dX3_row_4 : decode cX3_row 4 = .ok (.ifCond .eq 18, 3) := dk_153 0 18 (dk_at dksX3_row_0 4 rfl rfl)
theorem dX3_row_7 : decode cX3_row 7 = .ok (.iload_n 2, 1) := dk_28 (dk_at dksX3_row_0 7 rfl rfl)
theorem dX3_row_8 : decode cX3_row 8 = .ok (.iconst 0, 1) := dk_3 (dk_at dksX3_row_0 8 rfl rfl)
theorem dX3_row_9 : decode cX3_row 9 = .ok (.iconst 4, 1) := dk_7 (dk_at dksX3_row_0 9 rfl rfl)
theorem dX3_row_10 : decode cX3_row 10 = .ok (.invokestatic 114, 3) := dk_184 0 114 (dk_at dksX3_row_0 10 rfl rfl)
theorem dX3_row_13 : decode cX3_row 13 = .ok (.ifCond .eq 9, 3) := dk_153 0 9 (dk_at dksX3_row_0 13 rfl rfl)
theorem dX3_row_16 : decode cX3_row 16 = .ok (.iload_n 3, 1) := dk_29 (dk_at dksX3_row_0 16 rfl rfl)
theorem dX3_row_17 : decode cX3_row 17 = .ok (.bipush 24, 2) := dk_16 24 (dk_at dksX3_row_0 17 rfl rfl)
theorem dX3_row_19 : decode cX3_row 19 = .ok (.if_icmp .le 6, 3) := dk_164 0 6 (dk_at dksX3_row_0 19 rfl rfl)
theorem dX3_row_22 : decode cX3_row 22 = .ok (.bipush (-2), 2) := dk_16 254 (dk_at dksX3_row_0 22 rfl rfl)
theorem dX3_row_24 : decode cX3_row 24 = .ok (.ireturn, 1) := dk_172 (dk_at dksX3_row_1 0 rfl rfl)
theorem dX3_row_25 : decode cX3_row 25 = .ok (.iload_n 3, 1) := dk_29 (dk_at dksX3_row_1 1 rfl rfl)
theorem dX3_row_26 : decode cX3_row 26 = .ok (.ifCond .ge 9, 3) := dk_156 0 9 (dk_at dksX3_row_1 2 rfl rfl)
theorem dX3_row_29 : decode cX3_row 29 = .ok (.aload_n 0, 1) := dk_42 (dk_at dksX3_row_1 5 rfl rfl)
theorem dX3_row_30 : decode cX3_row 30 = .ok (.iconst 5, 1) := dk_8 (dk_at dksX3_row_1 6 rfl rfl)
theorem dX3_row_31 : decode cX3_row 31 = .ok (.invokevirtual 126, 3) := dk_182 0 126 (dk_at dksX3_row_1 7 rfl rfl)
theorem dX3_row_34 : decode cX3_row 34 = .ok (.ireturn, 1) := dk_172 (dk_at dksX3_row_1 10 rfl rfl)
theorem dX3_row_35 : decode cX3_row 35 = .ok (.aload_n 0, 1) := dk_42 (dk_at dksX3_row_1 11 rfl rfl)
theorem dX3_row_36 : decode cX3_row 36 = .ok (.getfield 7, 3) := dk_180 0 7 (dk_at dksX3_row_1 12 rfl rfl)
theorem dX3_row_39 : decode cX3_row 39 = .ok (.iload_n 1, 1) := dk_27 (dk_at dksX3_row_1 15 rfl rfl)
theorem dX3_row_40 : decode cX3_row 40 = .ok (.iload_n 2, 1) := dk_28 (dk_at dksX3_row_1 16 rfl rfl)
theorem dX3_row_41 : decode cX3_row 41 = .ok (.iastore, 1) := dk_79 (dk_at dksX3_row_1 17 rfl rfl)
theorem dX3_row_42 : decode cX3_row 42 = .ok (.aload_n 0, 1) := dk_42 (dk_at dksX3_row_1 18 rfl rfl)
theorem dX3_row_43 : decode cX3_row 43 = .ok (.getfield 13, 3) := dk_180 0 13 (dk_at dksX3_row_1 19 rfl rfl)
theorem dX3_row_46 : decode cX3_row 46 = .ok (.iload_n 1, 1) := dk_27 (dk_at dksX3_row_1 22 rfl rfl)
theorem dX3_row_47 : decode cX3_row 47 = .ok (.iload_n 3, 1) := dk_29 (dk_at dksX3_row_1 23 rfl rfl)
theorem dX3_row_48 : decode cX3_row 48 = .ok (.iastore, 1) := dk_79 (dk_at dksX3_row_2 0 rfl rfl)
theorem dX3_row_49 : decode cX3_row 49 = .ok (.iconst 0, 1) := dk_3 (dk_at dksX3_row_2 1 rfl rfl)
theorem dX3_row_50 : decode cX3_row 50 = .ok (.istore 4, 2) := dk_54 4 (dk_at dksX3_row_2 2 rfl rfl)
theorem dX3_row_52 : decode cX3_row 52 = .ok (.iload 4, 2) := dk_21 4 (dk_at dksX3_row_2 4 rfl rfl)
theorem dX3_row_54 : decode cX3_row 54 = .ok (.bipush 24, 2) := dk_16 24 (dk_at dksX3_row_2 6 rfl rfl)
theorem dX3_row_56 : decode cX3_row 56 = .ok (.if_icmp .ge 35, 3) := dk_162 0 35 (dk_at dksX3_row_2 8 rfl rfl)
theorem dX3_row_59 : decode cX3_row 59 = .ok (.aload_n 0, 1) := dk_42 (dk_at dksX3_row_2 11 rfl rfl)
theorem dX3_row_60 : decode cX3_row 60 = .ok (.getfield 16, 3) := dk_180 0 16 (dk_at dksX3_row_2 12 rfl rfl)
theorem dX3_row_63 : decode cX3_row 63 = .ok (.bipush 24, 2) := dk_16 24 (dk_at dksX3_row_2 15 rfl rfl)
theorem dX3_row_65 : decode cX3_row 65 = .ok (.iload_n 1, 1) := dk_27 (dk_at dksX3_row_2 17 rfl rfl)
theorem dX3_row_66 : decode cX3_row 66 = .ok (.imul, 1) := dk_104 (dk_at dksX3_row_2 18 rfl rfl)
theorem dX3_row_67 : decode cX3_row 67 = .ok (.iload 4, 2) := dk_21 4 (dk_at dksX3_row_2 19 rfl rfl)
theorem dX3_row_69 : decode cX3_row 69 = .ok (.iadd, 1) := dk_96 (dk_at dksX3_row_2 21 rfl rfl)
theorem dX3_row_70 : decode cX3_row 70 = .ok (.dconst 0, 1) := dk_14 (dk_at dksX3_row_2 22 rfl rfl)
theorem dX3_row_71 : decode cX3_row 71 = .ok (.dastore, 1) := dk_82 (dk_at dksX3_row_2 23 rfl rfl)
theorem dX3_row_72 : decode cX3_row 72 = .ok (.aload_n 0, 1) := dk_42 (dk_at dksX3_row_3 0 rfl rfl)
theorem dX3_row_73 : decode cX3_row 73 = .ok (.getfield 20, 3) := dk_180 0 20 (dk_at dksX3_row_3 1 rfl rfl)
theorem dX3_row_76 : decode cX3_row 76 = .ok (.bipush 24, 2) := dk_16 24 (dk_at dksX3_row_3 4 rfl rfl)
theorem dX3_row_78 : decode cX3_row 78 = .ok (.iload_n 1, 1) := dk_27 (dk_at dksX3_row_3 6 rfl rfl)
theorem dX3_row_79 : decode cX3_row 79 = .ok (.imul, 1) := dk_104 (dk_at dksX3_row_3 7 rfl rfl)
theorem dX3_row_80 : decode cX3_row 80 = .ok (.iload 4, 2) := dk_21 4 (dk_at dksX3_row_3 8 rfl rfl)
theorem dX3_row_82 : decode cX3_row 82 = .ok (.iadd, 1) := dk_96 (dk_at dksX3_row_3 10 rfl rfl)
theorem dX3_row_83 : decode cX3_row 83 = .ok (.iconst (-1), 1) := dk_2 (dk_at dksX3_row_3 11 rfl rfl)
theorem dX3_row_84 : decode cX3_row 84 = .ok (.iastore, 1) := dk_79 (dk_at dksX3_row_3 12 rfl rfl)
theorem dX3_row_85 : decode cX3_row 85 = .ok (.iinc 4 1, 3) := dk_132 4 1 (dk_at dksX3_row_3 13 rfl rfl)
theorem dX3_row_88 : decode cX3_row 88 = .ok (.goto (-36), 3) := dk_167 255 220 (dk_at dksX3_row_3 16 rfl rfl)
theorem dX3_row_91 : decode cX3_row 91 = .ok (.iload_n 3, 1) := dk_29 (dk_at dksX3_row_3 19 rfl rfl)
theorem dX3_row_92 : decode cX3_row 92 = .ok (.ireturn, 1) := dk_172 (dk_at dksX3_row_3 20 rfl rfl)
abbrev cX3_isRow : ByteArray := prog_18_method_6_code
def yX3_isRow : MethodName := ⟨RX3, "isRow", "(I)Z"⟩
def dkwX3_isRow_0 : List UInt8 := [26, 3, 8, 184, 0, 114, 172]
abbrev dktX3_isRow_0 : List UInt8 := dkwX3_isRow_0 ++ []
theorem dksX3_isRow_0 : cX3_isRow.data.toList.drop 0 = dktX3_isRow_0 := by decide +kernel
theorem dX3_isRow_0 : decode cX3_isRow 0 = .ok (.iload_n 0, 1) := dk_26 (dk_at dksX3_isRow_0 0 rfl rfl)
theorem dX3_isRow_1 : decode cX3_isRow 1 = .ok (.iconst 0, 1) := dk_3 (dk_at dksX3_isRow_0 1 rfl rfl)
theorem dX3_isRow_2 : decode cX3_isRow 2 = .ok (.iconst 5, 1) := dk_8 (dk_at dksX3_isRow_0 2 rfl rfl)
theorem dX3_isRow_3 : decode cX3_isRow 3 = .ok (.invokestatic 114, 3) := dk_184 0 114 (dk_at dksX3_isRow_0 3 rfl rfl)
theorem dX3_isRow_6 : decode cX3_isRow 6 = .ok (.ireturn, 1) := dk_172 (dk_at dksX3_isRow_0 6 rfl rfl)
abbrev cX3_in : ByteArray := prog_18_method_3_code
def yX3_in : MethodName := ⟨RX3, "in", "(III)Z"⟩
def dkwX3_in_0 : List UInt8 := [26, 27, 161, 0, 12, 26, 28, 163, 0, 7, 4, 167, 0, 4, 3, 172]
abbrev dktX3_in_0 : List UInt8 := dkwX3_in_0 ++ []
theorem dksX3_in_0 : cX3_in.data.toList.drop 0 = dktX3_in_0 := by decide +kernel
theorem dX3_in_0 : decode cX3_in 0 = .ok (.iload_n 0, 1) := dk_26 (dk_at dksX3_in_0 0 rfl rfl)
theorem dX3_in_1 : decode cX3_in 1 = .ok (.iload_n 1, 1) := dk_27 (dk_at dksX3_in_0 1 rfl rfl)
theorem dX3_in_2 : decode cX3_in 2 = .ok (.if_icmp .lt 12, 3) := dk_161 0 12 (dk_at dksX3_in_0 2 rfl rfl)
theorem dX3_in_5 : decode cX3_in 5 = .ok (.iload_n 0, 1) := dk_26 (dk_at dksX3_in_0 5 rfl rfl)
theorem dX3_in_6 : decode cX3_in 6 = .ok (.iload_n 2, 1) := dk_28 (dk_at dksX3_in_0 6 rfl rfl)
theorem dX3_in_7 : decode cX3_in 7 = .ok (.if_icmp .gt 7, 3) := dk_163 0 7 (dk_at dksX3_in_0 7 rfl rfl)
theorem dX3_in_10 : decode cX3_in 10 = .ok (.iconst 1, 1) := dk_4 (dk_at dksX3_in_0 10 rfl rfl)
theorem dX3_in_11 : decode cX3_in 11 = .ok (.goto 4, 3) := dk_167 0 4 (dk_at dksX3_in_0 11 rfl rfl)
theorem dX3_in_14 : decode cX3_in 14 = .ok (.iconst 0, 1) := dk_3 (dk_at dksX3_in_0 14 rfl rfl)
theorem dX3_in_15 : decode cX3_in 15 = .ok (.ireturn, 1) := dk_172 (dk_at dksX3_in_0 15 rfl rfl)
abbrev cX3_meets : ByteArray := prog_18_method_5_code
def yX3_meets : MethodName := ⟨RX3, "meets", "(I)I"⟩
def dkwX3_meets_0 : List UInt8 := [42, 27, 181, 0, 110, 16, 246, 27, 100, 172]
abbrev dktX3_meets_0 : List UInt8 := dkwX3_meets_0 ++ []
theorem dksX3_meets_0 : cX3_meets.data.toList.drop 0 = dktX3_meets_0 := by decide +kernel
theorem dX3_meets_0 : decode cX3_meets 0 = .ok (.aload_n 0, 1) := dk_42 (dk_at dksX3_meets_0 0 rfl rfl)
theorem dX3_meets_1 : decode cX3_meets 1 = .ok (.iload_n 1, 1) := dk_27 (dk_at dksX3_meets_0 1 rfl rfl)
theorem dX3_meets_2 : decode cX3_meets 2 = .ok (.putfield 110, 3) := dk_181 0 110 (dk_at dksX3_meets_0 2 rfl rfl)
theorem dX3_meets_5 : decode cX3_meets 5 = .ok (.bipush (-10), 2) := dk_16 246 (dk_at dksX3_meets_0 5 rfl rfl)
theorem dX3_meets_7 : decode cX3_meets 7 = .ok (.iload_n 1, 1) := dk_27 (dk_at dksX3_meets_0 7 rfl rfl)
theorem dX3_meets_8 : decode cX3_meets 8 = .ok (.isub, 1) := dk_100 (dk_at dksX3_meets_0 8 rfl rfl)
theorem dX3_meets_9 : decode cX3_meets 9 = .ok (.ireturn, 1) := dk_172 (dk_at dksX3_meets_0 9 rfl rfl)
abbrev cX3_lose : ByteArray := prog_18_method_10_code
def yX3_lose : MethodName := ⟨RX3, "lose", "(I)I"⟩
def dkwX3_lose_2 : List UInt8 := [16, 24, 27, 104, 28, 96, 2, 79, 132, 2, 1, 167, 255, 235, 42, 180, 0, 13, 27, 46, 172]
abbrev dktX3_lose_2 : List UInt8 := dkwX3_lose_2 ++ []
def dkwX3_lose_1 : List UInt8 := [182, 0, 126, 172, 42, 180, 0, 7, 27, 2, 79, 3, 61, 28, 16, 24, 162, 0, 21, 42, 180, 0, 20]
abbrev dktX3_lose_1 : List UInt8 := dkwX3_lose_1 ++ dktX3_lose_2
def dkwX3_lose_0 : List UInt8 := [27, 184, 0, 122, 154, 0, 6, 16, 254, 172, 42, 180, 0, 7, 27, 46, 2, 160, 0, 9, 42, 4]
abbrev dktX3_lose_0 : List UInt8 := dkwX3_lose_0 ++ dktX3_lose_1
theorem dksX3_lose_0 : cX3_lose.data.toList.drop 0 = dktX3_lose_0 := by decide +kernel
theorem dksX3_lose_1 : cX3_lose.data.toList.drop 22 = dktX3_lose_1 := dk_seg dksX3_lose_0 22 rfl rfl
theorem dksX3_lose_2 : cX3_lose.data.toList.drop 45 = dktX3_lose_2 := dk_seg dksX3_lose_1 23 rfl rfl
theorem dX3_lose_0 : decode cX3_lose 0 = .ok (.iload_n 1, 1) := dk_27 (dk_at dksX3_lose_0 0 rfl rfl)
theorem dX3_lose_1 : decode cX3_lose 1 = .ok (.invokestatic 122, 3) := dk_184 0 122 (dk_at dksX3_lose_0 1 rfl rfl)
theorem dX3_lose_4 : decode cX3_lose 4 = .ok (.ifCond .ne 6, 3) := dk_154 0 6 (dk_at dksX3_lose_0 4 rfl rfl)
theorem dX3_lose_7 : decode cX3_lose 7 = .ok (.bipush (-2), 2) := dk_16 254 (dk_at dksX3_lose_0 7 rfl rfl)
theorem dX3_lose_9 : decode cX3_lose 9 = .ok (.ireturn, 1) := dk_172 (dk_at dksX3_lose_0 9 rfl rfl)
theorem dX3_lose_10 : decode cX3_lose 10 = .ok (.aload_n 0, 1) := dk_42 (dk_at dksX3_lose_0 10 rfl rfl)
theorem dX3_lose_11 : decode cX3_lose 11 = .ok (.getfield 7, 3) := dk_180 0 7 (dk_at dksX3_lose_0 11 rfl rfl)
theorem dX3_lose_14 : decode cX3_lose 14 = .ok (.iload_n 1, 1) := dk_27 (dk_at dksX3_lose_0 14 rfl rfl)
theorem dX3_lose_15 : decode cX3_lose 15 = .ok (.iaload, 1) := dk_46 (dk_at dksX3_lose_0 15 rfl rfl)
theorem dX3_lose_16 : decode cX3_lose 16 = .ok (.iconst (-1), 1) := dk_2 (dk_at dksX3_lose_0 16 rfl rfl)
theorem dX3_lose_17 : decode cX3_lose 17 = .ok (.if_icmp .ne 9, 3) := dk_160 0 9 (dk_at dksX3_lose_0 17 rfl rfl)
theorem dX3_lose_20 : decode cX3_lose 20 = .ok (.aload_n 0, 1) := dk_42 (dk_at dksX3_lose_0 20 rfl rfl)
theorem dX3_lose_21 : decode cX3_lose 21 = .ok (.iconst 1, 1) := dk_4 (dk_at dksX3_lose_0 21 rfl rfl)
theorem dX3_lose_22 : decode cX3_lose 22 = .ok (.invokevirtual 126, 3) := dk_182 0 126 (dk_at dksX3_lose_1 0 rfl rfl)
theorem dX3_lose_25 : decode cX3_lose 25 = .ok (.ireturn, 1) := dk_172 (dk_at dksX3_lose_1 3 rfl rfl)
theorem dX3_lose_26 : decode cX3_lose 26 = .ok (.aload_n 0, 1) := dk_42 (dk_at dksX3_lose_1 4 rfl rfl)
theorem dX3_lose_27 : decode cX3_lose 27 = .ok (.getfield 7, 3) := dk_180 0 7 (dk_at dksX3_lose_1 5 rfl rfl)
theorem dX3_lose_30 : decode cX3_lose 30 = .ok (.iload_n 1, 1) := dk_27 (dk_at dksX3_lose_1 8 rfl rfl)
theorem dX3_lose_31 : decode cX3_lose 31 = .ok (.iconst (-1), 1) := dk_2 (dk_at dksX3_lose_1 9 rfl rfl)
theorem dX3_lose_32 : decode cX3_lose 32 = .ok (.iastore, 1) := dk_79 (dk_at dksX3_lose_1 10 rfl rfl)
theorem dX3_lose_33 : decode cX3_lose 33 = .ok (.iconst 0, 1) := dk_3 (dk_at dksX3_lose_1 11 rfl rfl)
theorem dX3_lose_34 : decode cX3_lose 34 = .ok (.istore_n 2, 1) := dk_61 (dk_at dksX3_lose_1 12 rfl rfl)
theorem dX3_lose_35 : decode cX3_lose 35 = .ok (.iload_n 2, 1) := dk_28 (dk_at dksX3_lose_1 13 rfl rfl)
theorem dX3_lose_36 : decode cX3_lose 36 = .ok (.bipush 24, 2) := dk_16 24 (dk_at dksX3_lose_1 14 rfl rfl)
theorem dX3_lose_38 : decode cX3_lose 38 = .ok (.if_icmp .ge 21, 3) := dk_162 0 21 (dk_at dksX3_lose_1 16 rfl rfl)
theorem dX3_lose_41 : decode cX3_lose 41 = .ok (.aload_n 0, 1) := dk_42 (dk_at dksX3_lose_1 19 rfl rfl)
theorem dX3_lose_42 : decode cX3_lose 42 = .ok (.getfield 20, 3) := dk_180 0 20 (dk_at dksX3_lose_1 20 rfl rfl)
theorem dX3_lose_45 : decode cX3_lose 45 = .ok (.bipush 24, 2) := dk_16 24 (dk_at dksX3_lose_2 0 rfl rfl)
theorem dX3_lose_47 : decode cX3_lose 47 = .ok (.iload_n 1, 1) := dk_27 (dk_at dksX3_lose_2 2 rfl rfl)
theorem dX3_lose_48 : decode cX3_lose 48 = .ok (.imul, 1) := dk_104 (dk_at dksX3_lose_2 3 rfl rfl)
theorem dX3_lose_49 : decode cX3_lose 49 = .ok (.iload_n 2, 1) := dk_28 (dk_at dksX3_lose_2 4 rfl rfl)
theorem dX3_lose_50 : decode cX3_lose 50 = .ok (.iadd, 1) := dk_96 (dk_at dksX3_lose_2 5 rfl rfl)
theorem dX3_lose_51 : decode cX3_lose 51 = .ok (.iconst (-1), 1) := dk_2 (dk_at dksX3_lose_2 6 rfl rfl)
theorem dX3_lose_52 : decode cX3_lose 52 = .ok (.iastore, 1) := dk_79 (dk_at dksX3_lose_2 7 rfl rfl)
theorem dX3_lose_53 : decode cX3_lose 53 = .ok (.iinc 2 1, 3) := dk_132 2 1 (dk_at dksX3_lose_2 8 rfl rfl)
theorem dX3_lose_56 : decode cX3_lose 56 = .ok (.goto (-21), 3) := dk_167 255 235 (dk_at dksX3_lose_2 11 rfl rfl)
theorem dX3_lose_59 : decode cX3_lose 59 = .ok (.aload_n 0, 1) := dk_42 (dk_at dksX3_lose_2 14 rfl rfl)
theorem dX3_lose_60 : decode cX3_lose 60 = .ok (.getfield 13, 3) := dk_180 0 13 (dk_at dksX3_lose_2 15 rfl rfl)
theorem dX3_lose_63 : decode cX3_lose 63 = .ok (.iload_n 1, 1) := dk_27 (dk_at dksX3_lose_2 18 rfl rfl)
theorem dX3_lose_64 : decode cX3_lose 64 = .ok (.iaload, 1) := dk_46 (dk_at dksX3_lose_2 19 rfl rfl)
theorem dX3_lose_65 : decode cX3_lose 65 = .ok (.ireturn, 1) := dk_172 (dk_at dksX3_lose_2 20 rfl rfl)
abbrev cX3_put : ByteArray := prog_18_method_11_code
def yX3_put : MethodName := ⟨RX3, "put", "(IIII)I"⟩
def dkwX3_put_6 : List UInt8 := [167, 0, 8, 21, 4, 4, 126, 135, 82, 4, 172]
abbrev dktX3_put_6 : List UInt8 := dkwX3_put_6 ++ []
def dkwX3_put_5 : List UInt8 := [21, 4, 134, 18, 130, 110, 141, 167, 0, 23, 28, 6, 160, 0, 13, 21, 4, 135, 20, 0, 131, 111]
abbrev dktX3_put_5 : List UInt8 := dkwX3_put_5 ++ dktX3_put_6
def dkwX3_put_4 : List UInt8 := [21, 4, 147, 135, 167, 0, 49, 28, 4, 160, 0, 9, 21, 4, 135, 167, 0, 38, 28, 5, 160, 0, 13]
abbrev dktX3_put_4 : List UInt8 := dkwX3_put_4 ++ dktX3_put_5
def dkwX3_put_3 : List UInt8 := [158, 0, 10, 42, 21, 5, 182, 0, 126, 172, 42, 180, 0, 16, 16, 24, 27, 104, 29, 96, 28, 154, 0, 10]
abbrev dktX3_put_3 : List UInt8 := dkwX3_put_3 ++ dktX3_put_4
def dkwX3_put_2 : List UInt8 := [3, 42, 180, 0, 13, 27, 46, 4, 100, 184, 0, 114, 153, 0, 7, 3, 167, 0, 4, 5, 54, 5, 21, 5]
abbrev dktX3_put_2 : List UInt8 := dkwX3_put_2 ++ dktX3_put_3
def dkwX3_put_1 : List UInt8 := [46, 2, 160, 0, 7, 4, 167, 0, 38, 42, 180, 0, 7, 27, 46, 28, 159, 0, 7, 6, 167, 0, 24, 29]
abbrev dktX3_put_1 : List UInt8 := dkwX3_put_1 ++ dktX3_put_2
def dkwX3_put_0 : List UInt8 := [27, 184, 0, 122, 153, 0, 12, 28, 3, 7, 184, 0, 114, 154, 0, 6, 16, 254, 172, 42, 180, 0, 7, 27]
abbrev dktX3_put_0 : List UInt8 := dkwX3_put_0 ++ dktX3_put_1
theorem dksX3_put_0 : cX3_put.data.toList.drop 0 = dktX3_put_0 := by decide +kernel
theorem dksX3_put_1 : cX3_put.data.toList.drop 24 = dktX3_put_1 := dk_seg dksX3_put_0 24 rfl rfl
theorem dksX3_put_2 : cX3_put.data.toList.drop 48 = dktX3_put_2 := dk_seg dksX3_put_1 24 rfl rfl
theorem dksX3_put_3 : cX3_put.data.toList.drop 72 = dktX3_put_3 := dk_seg dksX3_put_2 24 rfl rfl
theorem dksX3_put_4 : cX3_put.data.toList.drop 96 = dktX3_put_4 := dk_seg dksX3_put_3 24 rfl rfl
theorem dksX3_put_5 : cX3_put.data.toList.drop 119 = dktX3_put_5 := dk_seg dksX3_put_4 23 rfl rfl
theorem dksX3_put_6 : cX3_put.data.toList.drop 141 = dktX3_put_6 := dk_seg dksX3_put_5 22 rfl rfl
theorem dX3_put_0 : decode cX3_put 0 = .ok (.iload_n 1, 1) := dk_27 (dk_at dksX3_put_0 0 rfl rfl)
theorem dX3_put_1 : decode cX3_put 1 = .ok (.invokestatic 122, 3) := dk_184 0 122 (dk_at dksX3_put_0 1 rfl rfl)
theorem dX3_put_4 : decode cX3_put 4 = .ok (.ifCond .eq 12, 3) := dk_153 0 12 (dk_at dksX3_put_0 4 rfl rfl)
theorem dX3_put_7 : decode cX3_put 7 = .ok (.iload_n 2, 1) := dk_28 (dk_at dksX3_put_0 7 rfl rfl)
theorem dX3_put_8 : decode cX3_put 8 = .ok (.iconst 0, 1) := dk_3 (dk_at dksX3_put_0 8 rfl rfl)
theorem dX3_put_9 : decode cX3_put 9 = .ok (.iconst 4, 1) := dk_7 (dk_at dksX3_put_0 9 rfl rfl)
theorem dX3_put_10 : decode cX3_put 10 = .ok (.invokestatic 114, 3) := dk_184 0 114 (dk_at dksX3_put_0 10 rfl rfl)
theorem dX3_put_13 : decode cX3_put 13 = .ok (.ifCond .ne 6, 3) := dk_154 0 6 (dk_at dksX3_put_0 13 rfl rfl)
theorem dX3_put_16 : decode cX3_put 16 = .ok (.bipush (-2), 2) := dk_16 254 (dk_at dksX3_put_0 16 rfl rfl)
theorem dX3_put_18 : decode cX3_put 18 = .ok (.ireturn, 1) := dk_172 (dk_at dksX3_put_0 18 rfl rfl)
theorem dX3_put_19 : decode cX3_put 19 = .ok (.aload_n 0, 1) := dk_42 (dk_at dksX3_put_0 19 rfl rfl)
theorem dX3_put_20 : decode cX3_put 20 = .ok (.getfield 7, 3) := dk_180 0 7 (dk_at dksX3_put_0 20 rfl rfl)
theorem dX3_put_23 : decode cX3_put 23 = .ok (.iload_n 1, 1) := dk_27 (dk_at dksX3_put_0 23 rfl rfl)
theorem dX3_put_24 : decode cX3_put 24 = .ok (.iaload, 1) := dk_46 (dk_at dksX3_put_1 0 rfl rfl)
theorem dX3_put_25 : decode cX3_put 25 = .ok (.iconst (-1), 1) := dk_2 (dk_at dksX3_put_1 1 rfl rfl)
theorem dX3_put_26 : decode cX3_put 26 = .ok (.if_icmp .ne 7, 3) := dk_160 0 7 (dk_at dksX3_put_1 2 rfl rfl)
theorem dX3_put_29 : decode cX3_put 29 = .ok (.iconst 1, 1) := dk_4 (dk_at dksX3_put_1 5 rfl rfl)
theorem dX3_put_30 : decode cX3_put 30 = .ok (.goto 38, 3) := dk_167 0 38 (dk_at dksX3_put_1 6 rfl rfl)
theorem dX3_put_33 : decode cX3_put 33 = .ok (.aload_n 0, 1) := dk_42 (dk_at dksX3_put_1 9 rfl rfl)
theorem dX3_put_34 : decode cX3_put 34 = .ok (.getfield 7, 3) := dk_180 0 7 (dk_at dksX3_put_1 10 rfl rfl)
theorem dX3_put_37 : decode cX3_put 37 = .ok (.iload_n 1, 1) := dk_27 (dk_at dksX3_put_1 13 rfl rfl)
theorem dX3_put_38 : decode cX3_put 38 = .ok (.iaload, 1) := dk_46 (dk_at dksX3_put_1 14 rfl rfl)
theorem dX3_put_39 : decode cX3_put 39 = .ok (.iload_n 2, 1) := dk_28 (dk_at dksX3_put_1 15 rfl rfl)
theorem dX3_put_40 : decode cX3_put 40 = .ok (.if_icmp .eq 7, 3) := dk_159 0 7 (dk_at dksX3_put_1 16 rfl rfl)
theorem dX3_put_43 : decode cX3_put 43 = .ok (.iconst 3, 1) := dk_6 (dk_at dksX3_put_1 19 rfl rfl)
theorem dX3_put_44 : decode cX3_put 44 = .ok (.goto 24, 3) := dk_167 0 24 (dk_at dksX3_put_1 20 rfl rfl)
theorem dX3_put_47 : decode cX3_put 47 = .ok (.iload_n 3, 1) := dk_29 (dk_at dksX3_put_1 23 rfl rfl)
theorem dX3_put_48 : decode cX3_put 48 = .ok (.iconst 0, 1) := dk_3 (dk_at dksX3_put_2 0 rfl rfl)
theorem dX3_put_49 : decode cX3_put 49 = .ok (.aload_n 0, 1) := dk_42 (dk_at dksX3_put_2 1 rfl rfl)
theorem dX3_put_50 : decode cX3_put 50 = .ok (.getfield 13, 3) := dk_180 0 13 (dk_at dksX3_put_2 2 rfl rfl)
theorem dX3_put_53 : decode cX3_put 53 = .ok (.iload_n 1, 1) := dk_27 (dk_at dksX3_put_2 5 rfl rfl)
theorem dX3_put_54 : decode cX3_put 54 = .ok (.iaload, 1) := dk_46 (dk_at dksX3_put_2 6 rfl rfl)
theorem dX3_put_55 : decode cX3_put 55 = .ok (.iconst 1, 1) := dk_4 (dk_at dksX3_put_2 7 rfl rfl)
theorem dX3_put_56 : decode cX3_put 56 = .ok (.isub, 1) := dk_100 (dk_at dksX3_put_2 8 rfl rfl)
theorem dX3_put_57 : decode cX3_put 57 = .ok (.invokestatic 114, 3) := dk_184 0 114 (dk_at dksX3_put_2 9 rfl rfl)
theorem dX3_put_60 : decode cX3_put 60 = .ok (.ifCond .eq 7, 3) := dk_153 0 7 (dk_at dksX3_put_2 12 rfl rfl)
theorem dX3_put_63 : decode cX3_put 63 = .ok (.iconst 0, 1) := dk_3 (dk_at dksX3_put_2 15 rfl rfl)
theorem dX3_put_64 : decode cX3_put 64 = .ok (.goto 4, 3) := dk_167 0 4 (dk_at dksX3_put_2 16 rfl rfl)
theorem dX3_put_67 : decode cX3_put 67 = .ok (.iconst 2, 1) := dk_5 (dk_at dksX3_put_2 19 rfl rfl)
theorem dX3_put_68 : decode cX3_put 68 = .ok (.istore 5, 2) := dk_54 5 (dk_at dksX3_put_2 20 rfl rfl)
theorem dX3_put_70 : decode cX3_put 70 = .ok (.iload 5, 2) := dk_21 5 (dk_at dksX3_put_2 22 rfl rfl)
theorem dX3_put_72 : decode cX3_put 72 = .ok (.ifCond .le 10, 3) := dk_158 0 10 (dk_at dksX3_put_3 0 rfl rfl)
theorem dX3_put_75 : decode cX3_put 75 = .ok (.aload_n 0, 1) := dk_42 (dk_at dksX3_put_3 3 rfl rfl)
theorem dX3_put_76 : decode cX3_put 76 = .ok (.iload 5, 2) := dk_21 5 (dk_at dksX3_put_3 4 rfl rfl)
theorem dX3_put_78 : decode cX3_put 78 = .ok (.invokevirtual 126, 3) := dk_182 0 126 (dk_at dksX3_put_3 6 rfl rfl)
theorem dX3_put_81 : decode cX3_put 81 = .ok (.ireturn, 1) := dk_172 (dk_at dksX3_put_3 9 rfl rfl)
theorem dX3_put_82 : decode cX3_put 82 = .ok (.aload_n 0, 1) := dk_42 (dk_at dksX3_put_3 10 rfl rfl)
theorem dX3_put_83 : decode cX3_put 83 = .ok (.getfield 16, 3) := dk_180 0 16 (dk_at dksX3_put_3 11 rfl rfl)
theorem dX3_put_86 : decode cX3_put 86 = .ok (.bipush 24, 2) := dk_16 24 (dk_at dksX3_put_3 14 rfl rfl)
theorem dX3_put_88 : decode cX3_put 88 = .ok (.iload_n 1, 1) := dk_27 (dk_at dksX3_put_3 16 rfl rfl)
theorem dX3_put_89 : decode cX3_put 89 = .ok (.imul, 1) := dk_104 (dk_at dksX3_put_3 17 rfl rfl)
theorem dX3_put_90 : decode cX3_put 90 = .ok (.iload_n 3, 1) := dk_29 (dk_at dksX3_put_3 18 rfl rfl)
theorem dX3_put_91 : decode cX3_put 91 = .ok (.iadd, 1) := dk_96 (dk_at dksX3_put_3 19 rfl rfl)
theorem dX3_put_92 : decode cX3_put 92 = .ok (.iload_n 2, 1) := dk_28 (dk_at dksX3_put_3 20 rfl rfl)
theorem dX3_put_93 : decode cX3_put 93 = .ok (.ifCond .ne 10, 3) := dk_154 0 10 (dk_at dksX3_put_3 21 rfl rfl)
theorem dX3_put_96 : decode cX3_put 96 = .ok (.iload 4, 2) := dk_21 4 (dk_at dksX3_put_4 0 rfl rfl)
theorem dX3_put_98 : decode cX3_put 98 = .ok (.i2s, 1) := dk_147 (dk_at dksX3_put_4 2 rfl rfl)
theorem dX3_put_99 : decode cX3_put 99 = .ok (.i2d, 1) := dk_135 (dk_at dksX3_put_4 3 rfl rfl)
theorem dX3_put_100 : decode cX3_put 100 = .ok (.goto 49, 3) := dk_167 0 49 (dk_at dksX3_put_4 4 rfl rfl)
theorem dX3_put_103 : decode cX3_put 103 = .ok (.iload_n 2, 1) := dk_28 (dk_at dksX3_put_4 7 rfl rfl)
theorem dX3_put_104 : decode cX3_put 104 = .ok (.iconst 1, 1) := dk_4 (dk_at dksX3_put_4 8 rfl rfl)
theorem dX3_put_105 : decode cX3_put 105 = .ok (.if_icmp .ne 9, 3) := dk_160 0 9 (dk_at dksX3_put_4 9 rfl rfl)
theorem dX3_put_108 : decode cX3_put 108 = .ok (.iload 4, 2) := dk_21 4 (dk_at dksX3_put_4 12 rfl rfl)
theorem dX3_put_110 : decode cX3_put 110 = .ok (.i2d, 1) := dk_135 (dk_at dksX3_put_4 14 rfl rfl)
theorem dX3_put_111 : decode cX3_put 111 = .ok (.goto 38, 3) := dk_167 0 38 (dk_at dksX3_put_4 15 rfl rfl)
theorem dX3_put_114 : decode cX3_put 114 = .ok (.iload_n 2, 1) := dk_28 (dk_at dksX3_put_4 18 rfl rfl)
theorem dX3_put_115 : decode cX3_put 115 = .ok (.iconst 2, 1) := dk_5 (dk_at dksX3_put_4 19 rfl rfl)
theorem dX3_put_116 : decode cX3_put 116 = .ok (.if_icmp .ne 13, 3) := dk_160 0 13 (dk_at dksX3_put_4 20 rfl rfl)
theorem dX3_put_119 : decode cX3_put 119 = .ok (.iload 4, 2) := dk_21 4 (dk_at dksX3_put_5 0 rfl rfl)
theorem dX3_put_121 : decode cX3_put 121 = .ok (.i2f, 1) := dk_134 (dk_at dksX3_put_5 2 rfl rfl)
theorem dX3_put_122 : decode cX3_put 122 = .ok (.ldc 130, 2) := dk_18 130 (dk_at dksX3_put_5 3 rfl rfl)
theorem dX3_put_124 : decode cX3_put 124 = .ok (.fdiv, 1) := dk_110 (dk_at dksX3_put_5 5 rfl rfl)
theorem dX3_put_125 : decode cX3_put 125 = .ok (.f2d, 1) := dk_141 (dk_at dksX3_put_5 6 rfl rfl)
theorem dX3_put_126 : decode cX3_put 126 = .ok (.goto 23, 3) := dk_167 0 23 (dk_at dksX3_put_5 7 rfl rfl)
theorem dX3_put_129 : decode cX3_put 129 = .ok (.iload_n 2, 1) := dk_28 (dk_at dksX3_put_5 10 rfl rfl)
theorem dX3_put_130 : decode cX3_put 130 = .ok (.iconst 3, 1) := dk_6 (dk_at dksX3_put_5 11 rfl rfl)
theorem dX3_put_131 : decode cX3_put 131 = .ok (.if_icmp .ne 13, 3) := dk_160 0 13 (dk_at dksX3_put_5 12 rfl rfl)
theorem dX3_put_134 : decode cX3_put 134 = .ok (.iload 4, 2) := dk_21 4 (dk_at dksX3_put_5 15 rfl rfl)
theorem dX3_put_136 : decode cX3_put 136 = .ok (.i2d, 1) := dk_135 (dk_at dksX3_put_5 17 rfl rfl)
theorem dX3_put_137 : decode cX3_put 137 = .ok (.ldc2_w 131, 3) := dk_20 0 131 (dk_at dksX3_put_5 18 rfl rfl)
theorem dX3_put_140 : decode cX3_put 140 = .ok (.ddiv, 1) := dk_111 (dk_at dksX3_put_5 21 rfl rfl)
theorem dX3_put_141 : decode cX3_put 141 = .ok (.goto 8, 3) := dk_167 0 8 (dk_at dksX3_put_6 0 rfl rfl)
theorem dX3_put_144 : decode cX3_put 144 = .ok (.iload 4, 2) := dk_21 4 (dk_at dksX3_put_6 3 rfl rfl)
theorem dX3_put_146 : decode cX3_put 146 = .ok (.iconst 1, 1) := dk_4 (dk_at dksX3_put_6 5 rfl rfl)
theorem dX3_put_147 : decode cX3_put 147 = .ok (.iand, 1) := dk_126 (dk_at dksX3_put_6 6 rfl rfl)
theorem dX3_put_148 : decode cX3_put 148 = .ok (.i2d, 1) := dk_135 (dk_at dksX3_put_6 7 rfl rfl)
theorem dX3_put_149 : decode cX3_put 149 = .ok (.dastore, 1) := dk_82 (dk_at dksX3_put_6 8 rfl rfl)
theorem dX3_put_150 : decode cX3_put 150 = .ok (.iconst 1, 1) := dk_4 (dk_at dksX3_put_6 9 rfl rfl)
theorem dX3_put_151 : decode cX3_put 151 = .ok (.ireturn, 1) := dk_172 (dk_at dksX3_put_6 10 rfl rfl)
abbrev cX3_get : ByteArray := prog_18_method_15_code
def yX3_get : MethodName := ⟨RX3, "get", "(II)J"⟩
def dkwX3_get_1 : List UInt8 := [42, 29, 182, 0, 126, 184, 0, 140, 167, 0, 13, 42, 16, 24, 27, 104, 28, 96, 182, 0, 148, 173]
abbrev dktX3_get_1 : List UInt8 := dkwX3_get_1 ++ []
def dkwX3_get_0 : List UInt8 := [27, 184, 0, 122, 154, 0, 9, 16, 254, 184, 0, 140, 173, 42, 27, 28, 182, 0, 144, 62, 29, 158, 0, 14]
abbrev dktX3_get_0 : List UInt8 := dkwX3_get_0 ++ dktX3_get_1
theorem dksX3_get_0 : cX3_get.data.toList.drop 0 = dktX3_get_0 := by decide +kernel
theorem dksX3_get_1 : cX3_get.data.toList.drop 24 = dktX3_get_1 := dk_seg dksX3_get_0 24 rfl rfl
theorem dX3_get_0 : decode cX3_get 0 = .ok (.iload_n 1, 1) := dk_27 (dk_at dksX3_get_0 0 rfl rfl)
theorem dX3_get_1 : decode cX3_get 1 = .ok (.invokestatic 122, 3) := dk_184 0 122 (dk_at dksX3_get_0 1 rfl rfl)
theorem dX3_get_4 : decode cX3_get 4 = .ok (.ifCond .ne 9, 3) := dk_154 0 9 (dk_at dksX3_get_0 4 rfl rfl)
theorem dX3_get_7 : decode cX3_get 7 = .ok (.bipush (-2), 2) := dk_16 254 (dk_at dksX3_get_0 7 rfl rfl)
theorem dX3_get_9 : decode cX3_get 9 = .ok (.invokestatic 140, 3) := dk_184 0 140 (dk_at dksX3_get_0 9 rfl rfl)
theorem dX3_get_12 : decode cX3_get 12 = .ok (.lreturn, 1) := dk_173 (dk_at dksX3_get_0 12 rfl rfl)
theorem dX3_get_13 : decode cX3_get 13 = .ok (.aload_n 0, 1) := dk_42 (dk_at dksX3_get_0 13 rfl rfl)
theorem dX3_get_14 : decode cX3_get 14 = .ok (.iload_n 1, 1) := dk_27 (dk_at dksX3_get_0 14 rfl rfl)
theorem dX3_get_15 : decode cX3_get 15 = .ok (.iload_n 2, 1) := dk_28 (dk_at dksX3_get_0 15 rfl rfl)
theorem dX3_get_16 : decode cX3_get 16 = .ok (.invokevirtual 144, 3) := dk_182 0 144 (dk_at dksX3_get_0 16 rfl rfl)
theorem dX3_get_19 : decode cX3_get 19 = .ok (.istore_n 3, 1) := dk_62 (dk_at dksX3_get_0 19 rfl rfl)
theorem dX3_get_20 : decode cX3_get 20 = .ok (.iload_n 3, 1) := dk_29 (dk_at dksX3_get_0 20 rfl rfl)
theorem dX3_get_21 : decode cX3_get 21 = .ok (.ifCond .le 14, 3) := dk_158 0 14 (dk_at dksX3_get_0 21 rfl rfl)
theorem dX3_get_24 : decode cX3_get 24 = .ok (.aload_n 0, 1) := dk_42 (dk_at dksX3_get_1 0 rfl rfl)
theorem dX3_get_25 : decode cX3_get 25 = .ok (.iload_n 3, 1) := dk_29 (dk_at dksX3_get_1 1 rfl rfl)
theorem dX3_get_26 : decode cX3_get 26 = .ok (.invokevirtual 126, 3) := dk_182 0 126 (dk_at dksX3_get_1 2 rfl rfl)
theorem dX3_get_29 : decode cX3_get 29 = .ok (.invokestatic 140, 3) := dk_184 0 140 (dk_at dksX3_get_1 5 rfl rfl)
theorem dX3_get_32 : decode cX3_get 32 = .ok (.goto 13, 3) := dk_167 0 13 (dk_at dksX3_get_1 8 rfl rfl)
theorem dX3_get_35 : decode cX3_get 35 = .ok (.aload_n 0, 1) := dk_42 (dk_at dksX3_get_1 11 rfl rfl)
theorem dX3_get_36 : decode cX3_get 36 = .ok (.bipush 24, 2) := dk_16 24 (dk_at dksX3_get_1 12 rfl rfl)
theorem dX3_get_38 : decode cX3_get 38 = .ok (.iload_n 1, 1) := dk_27 (dk_at dksX3_get_1 14 rfl rfl)
theorem dX3_get_39 : decode cX3_get 39 = .ok (.imul, 1) := dk_104 (dk_at dksX3_get_1 15 rfl rfl)
theorem dX3_get_40 : decode cX3_get 40 = .ok (.iload_n 2, 1) := dk_28 (dk_at dksX3_get_1 16 rfl rfl)
theorem dX3_get_41 : decode cX3_get 41 = .ok (.iadd, 1) := dk_96 (dk_at dksX3_get_1 17 rfl rfl)
theorem dX3_get_42 : decode cX3_get 42 = .ok (.invokevirtual 148, 3) := dk_182 0 148 (dk_at dksX3_get_1 18 rfl rfl)
theorem dX3_get_45 : decode cX3_get 45 = .ok (.lreturn, 1) := dk_173 (dk_at dksX3_get_1 21 rfl rfl)
abbrev cX3_no : ByteArray := prog_18_method_4_code
def yX3_no : MethodName := ⟨RX3, "no", "(I)J"⟩
def dkwX3_no_0 : List UInt8 := [20, 0, 108, 26, 133, 101, 173]
abbrev dktX3_no_0 : List UInt8 := dkwX3_no_0 ++ []
theorem dksX3_no_0 : cX3_no.data.toList.drop 0 = dktX3_no_0 := by decide +kernel
theorem dX3_no_0 : decode cX3_no 0 = .ok (.ldc2_w 108, 3) := dk_20 0 108 (dk_at dksX3_no_0 0 rfl rfl)
theorem dX3_no_3 : decode cX3_no 3 = .ok (.iload_n 0, 1) := dk_26 (dk_at dksX3_no_0 3 rfl rfl)
theorem dX3_no_4 : decode cX3_no 4 = .ok (.i2l, 1) := dk_133 (dk_at dksX3_no_0 4 rfl rfl)
theorem dX3_no_5 : decode cX3_no 5 = .ok (.lsub, 1) := dk_101 (dk_at dksX3_no_0 5 rfl rfl)
theorem dX3_no_6 : decode cX3_no 6 = .ok (.lreturn, 1) := dk_173 (dk_at dksX3_no_0 6 rfl rfl)
abbrev cX3_lacks : ByteArray := prog_18_method_14_code
def yX3_lacks : MethodName := ⟨RX3, "lacks", "(II)I"⟩
def dkwX3_lacks_1 : List UInt8 := [184, 0, 114, 153, 0, 7, 3, 167, 0, 4, 5, 172]
abbrev dktX3_lacks_1 : List UInt8 := dkwX3_lacks_1 ++ []
def dkwX3_lacks_0 : List UInt8 := [42, 180, 0, 7, 27, 46, 2, 160, 0, 7, 4, 167, 0, 24, 28, 3, 42, 180, 0, 13, 27, 46, 4, 100]
abbrev dktX3_lacks_0 : List UInt8 := dkwX3_lacks_0 ++ dktX3_lacks_1
theorem dksX3_lacks_0 : cX3_lacks.data.toList.drop 0 = dktX3_lacks_0 := by decide +kernel
theorem dksX3_lacks_1 : cX3_lacks.data.toList.drop 24 = dktX3_lacks_1 := dk_seg dksX3_lacks_0 24 rfl rfl
theorem dX3_lacks_0 : decode cX3_lacks 0 = .ok (.aload_n 0, 1) := dk_42 (dk_at dksX3_lacks_0 0 rfl rfl)
theorem dX3_lacks_1 : decode cX3_lacks 1 = .ok (.getfield 7, 3) := dk_180 0 7 (dk_at dksX3_lacks_0 1 rfl rfl)
theorem dX3_lacks_4 : decode cX3_lacks 4 = .ok (.iload_n 1, 1) := dk_27 (dk_at dksX3_lacks_0 4 rfl rfl)
theorem dX3_lacks_5 : decode cX3_lacks 5 = .ok (.iaload, 1) := dk_46 (dk_at dksX3_lacks_0 5 rfl rfl)
theorem dX3_lacks_6 : decode cX3_lacks 6 = .ok (.iconst (-1), 1) := dk_2 (dk_at dksX3_lacks_0 6 rfl rfl)
theorem dX3_lacks_7 : decode cX3_lacks 7 = .ok (.if_icmp .ne 7, 3) := dk_160 0 7 (dk_at dksX3_lacks_0 7 rfl rfl)
theorem dX3_lacks_10 : decode cX3_lacks 10 = .ok (.iconst 1, 1) := dk_4 (dk_at dksX3_lacks_0 10 rfl rfl)
theorem dX3_lacks_11 : decode cX3_lacks 11 = .ok (.goto 24, 3) := dk_167 0 24 (dk_at dksX3_lacks_0 11 rfl rfl)
theorem dX3_lacks_14 : decode cX3_lacks 14 = .ok (.iload_n 2, 1) := dk_28 (dk_at dksX3_lacks_0 14 rfl rfl)
theorem dX3_lacks_15 : decode cX3_lacks 15 = .ok (.iconst 0, 1) := dk_3 (dk_at dksX3_lacks_0 15 rfl rfl)
theorem dX3_lacks_16 : decode cX3_lacks 16 = .ok (.aload_n 0, 1) := dk_42 (dk_at dksX3_lacks_0 16 rfl rfl)
theorem dX3_lacks_17 : decode cX3_lacks 17 = .ok (.getfield 13, 3) := dk_180 0 13 (dk_at dksX3_lacks_0 17 rfl rfl)
theorem dX3_lacks_20 : decode cX3_lacks 20 = .ok (.iload_n 1, 1) := dk_27 (dk_at dksX3_lacks_0 20 rfl rfl)
theorem dX3_lacks_21 : decode cX3_lacks 21 = .ok (.iaload, 1) := dk_46 (dk_at dksX3_lacks_0 21 rfl rfl)
theorem dX3_lacks_22 : decode cX3_lacks 22 = .ok (.iconst 1, 1) := dk_4 (dk_at dksX3_lacks_0 22 rfl rfl)
theorem dX3_lacks_23 : decode cX3_lacks 23 = .ok (.isub, 1) := dk_100 (dk_at dksX3_lacks_0 23 rfl rfl)
theorem dX3_lacks_24 : decode cX3_lacks 24 = .ok (.invokestatic 114, 3) := dk_184 0 114 (dk_at dksX3_lacks_1 0 rfl rfl)
theorem dX3_lacks_27 : decode cX3_lacks 27 = .ok (.ifCond .eq 7, 3) := dk_153 0 7 (dk_at dksX3_lacks_1 3 rfl rfl)
theorem dX3_lacks_30 : decode cX3_lacks 30 = .ok (.iconst 0, 1) := dk_3 (dk_at dksX3_lacks_1 6 rfl rfl)
theorem dX3_lacks_31 : decode cX3_lacks 31 = .ok (.goto 4, 3) := dk_167 0 4 (dk_at dksX3_lacks_1 7 rfl rfl)
theorem dX3_lacks_34 : decode cX3_lacks 34 = .ok (.iconst 2, 1) := dk_5 (dk_at dksX3_lacks_1 10 rfl rfl)
theorem dX3_lacks_35 : decode cX3_lacks 35 = .ok (.ireturn, 1) := dk_172 (dk_at dksX3_lacks_1 11 rfl rfl)
abbrev cX3_toldOf : ByteArray := prog_18_method_13_code
def yX3_toldOf : MethodName := ⟨RX3, "toldOf", "(I)J"⟩
def dkwX3_toldOf_3 : List UInt8 := [14, 152, 156, 0, 12, 22, 5, 20, 0, 108, 129, 167, 0, 5, 22, 5, 173, 41, 143, 173]
abbrev dktX3_toldOf_3 : List UInt8 := dkwX3_toldOf_3 ++ []
def dkwX3_toldOf_2 : List UInt8 := [167, 0, 6, 21, 5, 133, 173, 28, 6, 160, 0, 32, 41, 16, 52, 17, 252, 2, 184, 0, 135, 55, 5, 41]
abbrev dktX3_toldOf_2 : List UInt8 := dkwX3_toldOf_2 ++ dktX3_toldOf_3
def dkwX3_toldOf_1 : List UInt8 := [16, 23, 16, 130, 184, 0, 135, 136, 54, 5, 41, 14, 152, 156, 0, 12, 21, 5, 18, 139, 128, 133]
abbrev dktX3_toldOf_1 : List UInt8 := dkwX3_toldOf_1 ++ dktX3_toldOf_2
def dkwX3_toldOf_0 : List UInt8 := [42, 180, 0, 7, 27, 16, 24, 108, 46, 61, 42, 180, 0, 16, 27, 49, 74, 28, 5, 160, 0, 33, 41]
abbrev dktX3_toldOf_0 : List UInt8 := dkwX3_toldOf_0 ++ dktX3_toldOf_1
theorem dksX3_toldOf_0 : cX3_toldOf.data.toList.drop 0 = dktX3_toldOf_0 := by decide +kernel
theorem dksX3_toldOf_1 : cX3_toldOf.data.toList.drop 23 = dktX3_toldOf_1 := dk_seg dksX3_toldOf_0 23 rfl rfl
theorem dksX3_toldOf_2 : cX3_toldOf.data.toList.drop 45 = dktX3_toldOf_2 := dk_seg dksX3_toldOf_1 22 rfl rfl
theorem dksX3_toldOf_3 : cX3_toldOf.data.toList.drop 69 = dktX3_toldOf_3 := dk_seg dksX3_toldOf_2 24 rfl rfl
theorem dX3_toldOf_0 : decode cX3_toldOf 0 = .ok (.aload_n 0, 1) := dk_42 (dk_at dksX3_toldOf_0 0 rfl rfl)
theorem dX3_toldOf_1 : decode cX3_toldOf 1 = .ok (.getfield 7, 3) := dk_180 0 7 (dk_at dksX3_toldOf_0 1 rfl rfl)
theorem dX3_toldOf_4 : decode cX3_toldOf 4 = .ok (.iload_n 1, 1) := dk_27 (dk_at dksX3_toldOf_0 4 rfl rfl)
theorem dX3_toldOf_5 : decode cX3_toldOf 5 = .ok (.bipush 24, 2) := dk_16 24 (dk_at dksX3_toldOf_0 5 rfl rfl)
theorem dX3_toldOf_7 : decode cX3_toldOf 7 = .ok (.idiv, 1) := dk_108 (dk_at dksX3_toldOf_0 7 rfl rfl)
theorem dX3_toldOf_8 : decode cX3_toldOf 8 = .ok (.iaload, 1) := dk_46 (dk_at dksX3_toldOf_0 8 rfl rfl)
theorem dX3_toldOf_9 : decode cX3_toldOf 9 = .ok (.istore_n 2, 1) := dk_61 (dk_at dksX3_toldOf_0 9 rfl rfl)
theorem dX3_toldOf_10 : decode cX3_toldOf 10 = .ok (.aload_n 0, 1) := dk_42 (dk_at dksX3_toldOf_0 10 rfl rfl)
theorem dX3_toldOf_11 : decode cX3_toldOf 11 = .ok (.getfield 16, 3) := dk_180 0 16 (dk_at dksX3_toldOf_0 11 rfl rfl)
theorem dX3_toldOf_14 : decode cX3_toldOf 14 = .ok (.iload_n 1, 1) := dk_27 (dk_at dksX3_toldOf_0 14 rfl rfl)
theorem dX3_toldOf_15 : decode cX3_toldOf 15 = .ok (.daload, 1) := dk_49 (dk_at dksX3_toldOf_0 15 rfl rfl)
theorem dX3_toldOf_16 : decode cX3_toldOf 16 = .ok (.dstore_n 3, 1) := dk_74 (dk_at dksX3_toldOf_0 16 rfl rfl)
theorem dX3_toldOf_17 : decode cX3_toldOf 17 = .ok (.iload_n 2, 1) := dk_28 (dk_at dksX3_toldOf_0 17 rfl rfl)
theorem dX3_toldOf_18 : decode cX3_toldOf 18 = .ok (.iconst 2, 1) := dk_5 (dk_at dksX3_toldOf_0 18 rfl rfl)
theorem dX3_toldOf_19 : decode cX3_toldOf 19 = .ok (.if_icmp .ne 33, 3) := dk_160 0 33 (dk_at dksX3_toldOf_0 19 rfl rfl)
theorem dX3_toldOf_22 : decode cX3_toldOf 22 = .ok (.dload_n 3, 1) := dk_41 (dk_at dksX3_toldOf_0 22 rfl rfl)
theorem dX3_toldOf_23 : decode cX3_toldOf 23 = .ok (.bipush 23, 2) := dk_16 23 (dk_at dksX3_toldOf_1 0 rfl rfl)
theorem dX3_toldOf_25 : decode cX3_toldOf 25 = .ok (.bipush (-126), 2) := dk_16 130 (dk_at dksX3_toldOf_1 2 rfl rfl)
theorem dX3_toldOf_27 : decode cX3_toldOf 27 = .ok (.invokestatic 135, 3) := dk_184 0 135 (dk_at dksX3_toldOf_1 4 rfl rfl)
theorem dX3_toldOf_30 : decode cX3_toldOf 30 = .ok (.l2i, 1) := dk_136 (dk_at dksX3_toldOf_1 7 rfl rfl)
theorem dX3_toldOf_31 : decode cX3_toldOf 31 = .ok (.istore 5, 2) := dk_54 5 (dk_at dksX3_toldOf_1 8 rfl rfl)
theorem dX3_toldOf_33 : decode cX3_toldOf 33 = .ok (.dload_n 3, 1) := dk_41 (dk_at dksX3_toldOf_1 10 rfl rfl)
theorem dX3_toldOf_34 : decode cX3_toldOf 34 = .ok (.dconst 0, 1) := dk_14 (dk_at dksX3_toldOf_1 11 rfl rfl)
theorem dX3_toldOf_35 : decode cX3_toldOf 35 = .ok (.dcmp .g, 1) := dk_152 (dk_at dksX3_toldOf_1 12 rfl rfl)
theorem dX3_toldOf_36 : decode cX3_toldOf 36 = .ok (.ifCond .ge 12, 3) := dk_156 0 12 (dk_at dksX3_toldOf_1 13 rfl rfl)
theorem dX3_toldOf_39 : decode cX3_toldOf 39 = .ok (.iload 5, 2) := dk_21 5 (dk_at dksX3_toldOf_1 16 rfl rfl)
theorem dX3_toldOf_41 : decode cX3_toldOf 41 = .ok (.ldc 139, 2) := dk_18 139 (dk_at dksX3_toldOf_1 18 rfl rfl)
theorem dX3_toldOf_43 : decode cX3_toldOf 43 = .ok (.ior, 1) := dk_128 (dk_at dksX3_toldOf_1 20 rfl rfl)
theorem dX3_toldOf_44 : decode cX3_toldOf 44 = .ok (.i2l, 1) := dk_133 (dk_at dksX3_toldOf_1 21 rfl rfl)
theorem dX3_toldOf_45 : decode cX3_toldOf 45 = .ok (.goto 6, 3) := dk_167 0 6 (dk_at dksX3_toldOf_2 0 rfl rfl)
theorem dX3_toldOf_48 : decode cX3_toldOf 48 = .ok (.iload 5, 2) := dk_21 5 (dk_at dksX3_toldOf_2 3 rfl rfl)
theorem dX3_toldOf_50 : decode cX3_toldOf 50 = .ok (.i2l, 1) := dk_133 (dk_at dksX3_toldOf_2 5 rfl rfl)
theorem dX3_toldOf_51 : decode cX3_toldOf 51 = .ok (.lreturn, 1) := dk_173 (dk_at dksX3_toldOf_2 6 rfl rfl)
theorem dX3_toldOf_52 : decode cX3_toldOf 52 = .ok (.iload_n 2, 1) := dk_28 (dk_at dksX3_toldOf_2 7 rfl rfl)
theorem dX3_toldOf_53 : decode cX3_toldOf 53 = .ok (.iconst 3, 1) := dk_6 (dk_at dksX3_toldOf_2 8 rfl rfl)
theorem dX3_toldOf_54 : decode cX3_toldOf 54 = .ok (.if_icmp .ne 32, 3) := dk_160 0 32 (dk_at dksX3_toldOf_2 9 rfl rfl)
theorem dX3_toldOf_57 : decode cX3_toldOf 57 = .ok (.dload_n 3, 1) := dk_41 (dk_at dksX3_toldOf_2 12 rfl rfl)
theorem dX3_toldOf_58 : decode cX3_toldOf 58 = .ok (.bipush 52, 2) := dk_16 52 (dk_at dksX3_toldOf_2 13 rfl rfl)
theorem dX3_toldOf_60 : decode cX3_toldOf 60 = .ok (.sipush (-1022), 3) := dk_17 252 2 (dk_at dksX3_toldOf_2 15 rfl rfl)
theorem dX3_toldOf_63 : decode cX3_toldOf 63 = .ok (.invokestatic 135, 3) := dk_184 0 135 (dk_at dksX3_toldOf_2 18 rfl rfl)
theorem dX3_toldOf_66 : decode cX3_toldOf 66 = .ok (.lstore 5, 2) := dk_55 5 (dk_at dksX3_toldOf_2 21 rfl rfl)
theorem dX3_toldOf_68 : decode cX3_toldOf 68 = .ok (.dload_n 3, 1) := dk_41 (dk_at dksX3_toldOf_2 23 rfl rfl)
theorem dX3_toldOf_69 : decode cX3_toldOf 69 = .ok (.dconst 0, 1) := dk_14 (dk_at dksX3_toldOf_3 0 rfl rfl)
theorem dX3_toldOf_70 : decode cX3_toldOf 70 = .ok (.dcmp .g, 1) := dk_152 (dk_at dksX3_toldOf_3 1 rfl rfl)
theorem dX3_toldOf_71 : decode cX3_toldOf 71 = .ok (.ifCond .ge 12, 3) := dk_156 0 12 (dk_at dksX3_toldOf_3 2 rfl rfl)
theorem dX3_toldOf_74 : decode cX3_toldOf 74 = .ok (.lload 5, 2) := dk_22 5 (dk_at dksX3_toldOf_3 5 rfl rfl)
theorem dX3_toldOf_76 : decode cX3_toldOf 76 = .ok (.ldc2_w 108, 3) := dk_20 0 108 (dk_at dksX3_toldOf_3 7 rfl rfl)
theorem dX3_toldOf_79 : decode cX3_toldOf 79 = .ok (.lor, 1) := dk_129 (dk_at dksX3_toldOf_3 10 rfl rfl)
theorem dX3_toldOf_80 : decode cX3_toldOf 80 = .ok (.goto 5, 3) := dk_167 0 5 (dk_at dksX3_toldOf_3 11 rfl rfl)
theorem dX3_toldOf_83 : decode cX3_toldOf 83 = .ok (.lload 5, 2) := dk_22 5 (dk_at dksX3_toldOf_3 14 rfl rfl)
theorem dX3_toldOf_85 : decode cX3_toldOf 85 = .ok (.lreturn, 1) := dk_173 (dk_at dksX3_toldOf_3 16 rfl rfl)
theorem dX3_toldOf_86 : decode cX3_toldOf 86 = .ok (.dload_n 3, 1) := dk_41 (dk_at dksX3_toldOf_3 17 rfl rfl)
theorem dX3_toldOf_87 : decode cX3_toldOf 87 = .ok (.d2l, 1) := dk_143 (dk_at dksX3_toldOf_3 18 rfl rfl)
theorem dX3_toldOf_88 : decode cX3_toldOf 88 = .ok (.lreturn, 1) := dk_173 (dk_at dksX3_toldOf_3 19 rfl rfl)
abbrev cX3_bitsOf : ByteArray := prog_18_method_12_code
def yX3_bitsOf : MethodName := ⟨RX3, "bitsOf", "(DII)J"⟩
def dkwX3_bitsOf_5 : List UInt8 := [22, 9, 10, 28, 121, 101, 21, 6, 29, 100, 4, 96, 133, 28, 121, 97, 173]
abbrev dktX3_bitsOf_5 : List UInt8 := dkwX3_bitsOf_5 ++ []
def dkwX3_bitsOf_4 : List UInt8 := [132, 9, 1, 167, 255, 239, 24, 7, 143, 55, 9, 24, 4, 15, 152, 156, 0, 8, 22, 9, 167, 0, 19]
abbrev dktX3_bitsOf_4 : List UInt8 := dkwX3_bitsOf_4 ++ dktX3_bitsOf_5
def dkwX3_bitsOf_3 : List UInt8 := [167, 255, 225, 24, 4, 57, 7, 3, 54, 9, 21, 9, 28, 162, 0, 17, 24, 7, 20, 0, 133, 107, 57, 7]
abbrev dktX3_bitsOf_3 : List UInt8 := dkwX3_bitsOf_3 ++ dktX3_bitsOf_4
def dkwX3_bitsOf_2 : List UInt8 := [21, 6, 29, 164, 0, 24, 24, 4, 14, 151, 158, 0, 17, 24, 4, 20, 0, 133, 107, 57, 4, 132, 6, 255]
abbrev dktX3_bitsOf_2 : List UInt8 := dkwX3_bitsOf_2 ++ dktX3_bitsOf_3
def dkwX3_bitsOf_1 : List UInt8 := [155, 0, 17, 24, 4, 20, 0, 133, 111, 57, 4, 132, 6, 1, 167, 255, 236, 24, 4, 15, 152, 156, 0, 30]
abbrev dktX3_bitsOf_1 : List UInt8 := dkwX3_bitsOf_1 ++ dktX3_bitsOf_2
def dkwX3_bitsOf_0 : List UInt8 := [38, 14, 152, 156, 0, 8, 38, 119, 167, 0, 4, 38, 57, 4, 3, 54, 6, 24, 4, 20, 0, 133, 151]
abbrev dktX3_bitsOf_0 : List UInt8 := dkwX3_bitsOf_0 ++ dktX3_bitsOf_1
theorem dksX3_bitsOf_0 : cX3_bitsOf.data.toList.drop 0 = dktX3_bitsOf_0 := by decide +kernel
theorem dksX3_bitsOf_1 : cX3_bitsOf.data.toList.drop 23 = dktX3_bitsOf_1 := dk_seg dksX3_bitsOf_0 23 rfl rfl
theorem dksX3_bitsOf_2 : cX3_bitsOf.data.toList.drop 47 = dktX3_bitsOf_2 := dk_seg dksX3_bitsOf_1 24 rfl rfl
theorem dksX3_bitsOf_3 : cX3_bitsOf.data.toList.drop 71 = dktX3_bitsOf_3 := dk_seg dksX3_bitsOf_2 24 rfl rfl
theorem dksX3_bitsOf_4 : cX3_bitsOf.data.toList.drop 95 = dktX3_bitsOf_4 := dk_seg dksX3_bitsOf_3 24 rfl rfl
theorem dksX3_bitsOf_5 : cX3_bitsOf.data.toList.drop 118 = dktX3_bitsOf_5 := dk_seg dksX3_bitsOf_4 23 rfl rfl
theorem dX3_bitsOf_0 : decode cX3_bitsOf 0 = .ok (.dload_n 0, 1) := dk_38 (dk_at dksX3_bitsOf_0 0 rfl rfl)
theorem dX3_bitsOf_1 : decode cX3_bitsOf 1 = .ok (.dconst 0, 1) := dk_14 (dk_at dksX3_bitsOf_0 1 rfl rfl)
theorem dX3_bitsOf_2 : decode cX3_bitsOf 2 = .ok (.dcmp .g, 1) := dk_152 (dk_at dksX3_bitsOf_0 2 rfl rfl)
theorem dX3_bitsOf_3 : decode cX3_bitsOf 3 = .ok (.ifCond .ge 8, 3) := dk_156 0 8 (dk_at dksX3_bitsOf_0 3 rfl rfl)
theorem dX3_bitsOf_6 : decode cX3_bitsOf 6 = .ok (.dload_n 0, 1) := dk_38 (dk_at dksX3_bitsOf_0 6 rfl rfl)
theorem dX3_bitsOf_7 : decode cX3_bitsOf 7 = .ok (.dneg, 1) := dk_119 (dk_at dksX3_bitsOf_0 7 rfl rfl)
theorem dX3_bitsOf_8 : decode cX3_bitsOf 8 = .ok (.goto 4, 3) := dk_167 0 4 (dk_at dksX3_bitsOf_0 8 rfl rfl)
theorem dX3_bitsOf_11 : decode cX3_bitsOf 11 = .ok (.dload_n 0, 1) := dk_38 (dk_at dksX3_bitsOf_0 11 rfl rfl)
theorem dX3_bitsOf_12 : decode cX3_bitsOf 12 = .ok (.dstore 4, 2) := dk_57 4 (dk_at dksX3_bitsOf_0 12 rfl rfl)
theorem dX3_bitsOf_14 : decode cX3_bitsOf 14 = .ok (.iconst 0, 1) := dk_3 (dk_at dksX3_bitsOf_0 14 rfl rfl)
theorem dX3_bitsOf_15 : decode cX3_bitsOf 15 = .ok (.istore 6, 2) := dk_54 6 (dk_at dksX3_bitsOf_0 15 rfl rfl)
theorem dX3_bitsOf_17 : decode cX3_bitsOf 17 = .ok (.dload 4, 2) := dk_24 4 (dk_at dksX3_bitsOf_0 17 rfl rfl)
theorem dX3_bitsOf_19 : decode cX3_bitsOf 19 = .ok (.ldc2_w 133, 3) := dk_20 0 133 (dk_at dksX3_bitsOf_0 19 rfl rfl)
theorem dX3_bitsOf_22 : decode cX3_bitsOf 22 = .ok (.dcmp .l, 1) := dk_151 (dk_at dksX3_bitsOf_0 22 rfl rfl)
theorem dX3_bitsOf_23 : decode cX3_bitsOf 23 = .ok (.ifCond .lt 17, 3) := dk_155 0 17 (dk_at dksX3_bitsOf_1 0 rfl rfl)
theorem dX3_bitsOf_26 : decode cX3_bitsOf 26 = .ok (.dload 4, 2) := dk_24 4 (dk_at dksX3_bitsOf_1 3 rfl rfl)
theorem dX3_bitsOf_28 : decode cX3_bitsOf 28 = .ok (.ldc2_w 133, 3) := dk_20 0 133 (dk_at dksX3_bitsOf_1 5 rfl rfl)
theorem dX3_bitsOf_31 : decode cX3_bitsOf 31 = .ok (.ddiv, 1) := dk_111 (dk_at dksX3_bitsOf_1 8 rfl rfl)
theorem dX3_bitsOf_32 : decode cX3_bitsOf 32 = .ok (.dstore 4, 2) := dk_57 4 (dk_at dksX3_bitsOf_1 9 rfl rfl)
theorem dX3_bitsOf_34 : decode cX3_bitsOf 34 = .ok (.iinc 6 1, 3) := dk_132 6 1 (dk_at dksX3_bitsOf_1 11 rfl rfl)
theorem dX3_bitsOf_37 : decode cX3_bitsOf 37 = .ok (.goto (-20), 3) := dk_167 255 236 (dk_at dksX3_bitsOf_1 14 rfl rfl)
theorem dX3_bitsOf_40 : decode cX3_bitsOf 40 = .ok (.dload 4, 2) := dk_24 4 (dk_at dksX3_bitsOf_1 17 rfl rfl)
theorem dX3_bitsOf_42 : decode cX3_bitsOf 42 = .ok (.dconst 1, 1) := dk_15 (dk_at dksX3_bitsOf_1 19 rfl rfl)
theorem dX3_bitsOf_43 : decode cX3_bitsOf 43 = .ok (.dcmp .g, 1) := dk_152 (dk_at dksX3_bitsOf_1 20 rfl rfl)
theorem dX3_bitsOf_44 : decode cX3_bitsOf 44 = .ok (.ifCond .ge 30, 3) := dk_156 0 30 (dk_at dksX3_bitsOf_1 21 rfl rfl)
theorem dX3_bitsOf_47 : decode cX3_bitsOf 47 = .ok (.iload 6, 2) := dk_21 6 (dk_at dksX3_bitsOf_2 0 rfl rfl)
theorem dX3_bitsOf_49 : decode cX3_bitsOf 49 = .ok (.iload_n 3, 1) := dk_29 (dk_at dksX3_bitsOf_2 2 rfl rfl)
theorem dX3_bitsOf_50 : decode cX3_bitsOf 50 = .ok (.if_icmp .le 24, 3) := dk_164 0 24 (dk_at dksX3_bitsOf_2 3 rfl rfl)
theorem dX3_bitsOf_53 : decode cX3_bitsOf 53 = .ok (.dload 4, 2) := dk_24 4 (dk_at dksX3_bitsOf_2 6 rfl rfl)
theorem dX3_bitsOf_55 : decode cX3_bitsOf 55 = .ok (.dconst 0, 1) := dk_14 (dk_at dksX3_bitsOf_2 8 rfl rfl)
theorem dX3_bitsOf_56 : decode cX3_bitsOf 56 = .ok (.dcmp .l, 1) := dk_151 (dk_at dksX3_bitsOf_2 9 rfl rfl)
theorem dX3_bitsOf_57 : decode cX3_bitsOf 57 = .ok (.ifCond .le 17, 3) := dk_158 0 17 (dk_at dksX3_bitsOf_2 10 rfl rfl)
theorem dX3_bitsOf_60 : decode cX3_bitsOf 60 = .ok (.dload 4, 2) := dk_24 4 (dk_at dksX3_bitsOf_2 13 rfl rfl)
theorem dX3_bitsOf_62 : decode cX3_bitsOf 62 = .ok (.ldc2_w 133, 3) := dk_20 0 133 (dk_at dksX3_bitsOf_2 15 rfl rfl)
theorem dX3_bitsOf_65 : decode cX3_bitsOf 65 = .ok (.dmul, 1) := dk_107 (dk_at dksX3_bitsOf_2 18 rfl rfl)
theorem dX3_bitsOf_66 : decode cX3_bitsOf 66 = .ok (.dstore 4, 2) := dk_57 4 (dk_at dksX3_bitsOf_2 19 rfl rfl)
theorem dX3_bitsOf_68 : decode cX3_bitsOf 68 = .ok (.iinc 6 (-1), 3) := dk_132 6 255 (dk_at dksX3_bitsOf_2 21 rfl rfl)
theorem dX3_bitsOf_71 : decode cX3_bitsOf 71 = .ok (.goto (-31), 3) := dk_167 255 225 (dk_at dksX3_bitsOf_3 0 rfl rfl)
theorem dX3_bitsOf_74 : decode cX3_bitsOf 74 = .ok (.dload 4, 2) := dk_24 4 (dk_at dksX3_bitsOf_3 3 rfl rfl)
theorem dX3_bitsOf_76 : decode cX3_bitsOf 76 = .ok (.dstore 7, 2) := dk_57 7 (dk_at dksX3_bitsOf_3 5 rfl rfl)
theorem dX3_bitsOf_78 : decode cX3_bitsOf 78 = .ok (.iconst 0, 1) := dk_3 (dk_at dksX3_bitsOf_3 7 rfl rfl)
theorem dX3_bitsOf_79 : decode cX3_bitsOf 79 = .ok (.istore 9, 2) := dk_54 9 (dk_at dksX3_bitsOf_3 8 rfl rfl)
theorem dX3_bitsOf_81 : decode cX3_bitsOf 81 = .ok (.iload 9, 2) := dk_21 9 (dk_at dksX3_bitsOf_3 10 rfl rfl)
theorem dX3_bitsOf_83 : decode cX3_bitsOf 83 = .ok (.iload_n 2, 1) := dk_28 (dk_at dksX3_bitsOf_3 12 rfl rfl)
theorem dX3_bitsOf_84 : decode cX3_bitsOf 84 = .ok (.if_icmp .ge 17, 3) := dk_162 0 17 (dk_at dksX3_bitsOf_3 13 rfl rfl)
theorem dX3_bitsOf_87 : decode cX3_bitsOf 87 = .ok (.dload 7, 2) := dk_24 7 (dk_at dksX3_bitsOf_3 16 rfl rfl)
theorem dX3_bitsOf_89 : decode cX3_bitsOf 89 = .ok (.ldc2_w 133, 3) := dk_20 0 133 (dk_at dksX3_bitsOf_3 18 rfl rfl)
theorem dX3_bitsOf_92 : decode cX3_bitsOf 92 = .ok (.dmul, 1) := dk_107 (dk_at dksX3_bitsOf_3 21 rfl rfl)
theorem dX3_bitsOf_93 : decode cX3_bitsOf 93 = .ok (.dstore 7, 2) := dk_57 7 (dk_at dksX3_bitsOf_3 22 rfl rfl)
theorem dX3_bitsOf_95 : decode cX3_bitsOf 95 = .ok (.iinc 9 1, 3) := dk_132 9 1 (dk_at dksX3_bitsOf_4 0 rfl rfl)
theorem dX3_bitsOf_98 : decode cX3_bitsOf 98 = .ok (.goto (-17), 3) := dk_167 255 239 (dk_at dksX3_bitsOf_4 3 rfl rfl)
theorem dX3_bitsOf_101 : decode cX3_bitsOf 101 = .ok (.dload 7, 2) := dk_24 7 (dk_at dksX3_bitsOf_4 6 rfl rfl)
theorem dX3_bitsOf_103 : decode cX3_bitsOf 103 = .ok (.d2l, 1) := dk_143 (dk_at dksX3_bitsOf_4 8 rfl rfl)
theorem dX3_bitsOf_104 : decode cX3_bitsOf 104 = .ok (.lstore 9, 2) := dk_55 9 (dk_at dksX3_bitsOf_4 9 rfl rfl)
theorem dX3_bitsOf_106 : decode cX3_bitsOf 106 = .ok (.dload 4, 2) := dk_24 4 (dk_at dksX3_bitsOf_4 11 rfl rfl)
theorem dX3_bitsOf_108 : decode cX3_bitsOf 108 = .ok (.dconst 1, 1) := dk_15 (dk_at dksX3_bitsOf_4 13 rfl rfl)
theorem dX3_bitsOf_109 : decode cX3_bitsOf 109 = .ok (.dcmp .g, 1) := dk_152 (dk_at dksX3_bitsOf_4 14 rfl rfl)
theorem dX3_bitsOf_110 : decode cX3_bitsOf 110 = .ok (.ifCond .ge 8, 3) := dk_156 0 8 (dk_at dksX3_bitsOf_4 15 rfl rfl)
theorem dX3_bitsOf_113 : decode cX3_bitsOf 113 = .ok (.lload 9, 2) := dk_22 9 (dk_at dksX3_bitsOf_4 18 rfl rfl)
theorem dX3_bitsOf_115 : decode cX3_bitsOf 115 = .ok (.goto 19, 3) := dk_167 0 19 (dk_at dksX3_bitsOf_4 20 rfl rfl)
theorem dX3_bitsOf_118 : decode cX3_bitsOf 118 = .ok (.lload 9, 2) := dk_22 9 (dk_at dksX3_bitsOf_5 0 rfl rfl)
theorem dX3_bitsOf_120 : decode cX3_bitsOf 120 = .ok (.lconst 1, 1) := dk_10 (dk_at dksX3_bitsOf_5 2 rfl rfl)
theorem dX3_bitsOf_121 : decode cX3_bitsOf 121 = .ok (.iload_n 2, 1) := dk_28 (dk_at dksX3_bitsOf_5 3 rfl rfl)
theorem dX3_bitsOf_122 : decode cX3_bitsOf 122 = .ok (.lshl, 1) := dk_121 (dk_at dksX3_bitsOf_5 4 rfl rfl)
theorem dX3_bitsOf_123 : decode cX3_bitsOf 123 = .ok (.lsub, 1) := dk_101 (dk_at dksX3_bitsOf_5 5 rfl rfl)
theorem dX3_bitsOf_124 : decode cX3_bitsOf 124 = .ok (.iload 6, 2) := dk_21 6 (dk_at dksX3_bitsOf_5 6 rfl rfl)
theorem dX3_bitsOf_126 : decode cX3_bitsOf 126 = .ok (.iload_n 3, 1) := dk_29 (dk_at dksX3_bitsOf_5 8 rfl rfl)
theorem dX3_bitsOf_127 : decode cX3_bitsOf 127 = .ok (.isub, 1) := dk_100 (dk_at dksX3_bitsOf_5 9 rfl rfl)
theorem dX3_bitsOf_128 : decode cX3_bitsOf 128 = .ok (.iconst 1, 1) := dk_4 (dk_at dksX3_bitsOf_5 10 rfl rfl)
theorem dX3_bitsOf_129 : decode cX3_bitsOf 129 = .ok (.iadd, 1) := dk_96 (dk_at dksX3_bitsOf_5 11 rfl rfl)
theorem dX3_bitsOf_130 : decode cX3_bitsOf 130 = .ok (.i2l, 1) := dk_133 (dk_at dksX3_bitsOf_5 12 rfl rfl)
theorem dX3_bitsOf_131 : decode cX3_bitsOf 131 = .ok (.iload_n 2, 1) := dk_28 (dk_at dksX3_bitsOf_5 13 rfl rfl)
theorem dX3_bitsOf_132 : decode cX3_bitsOf 132 = .ok (.lshl, 1) := dk_121 (dk_at dksX3_bitsOf_5 14 rfl rfl)
theorem dX3_bitsOf_133 : decode cX3_bitsOf 133 = .ok (.ladd, 1) := dk_97 (dk_at dksX3_bitsOf_5 15 rfl rfl)
theorem dX3_bitsOf_134 : decode cX3_bitsOf 134 = .ok (.lreturn, 1) := dk_173 (dk_at dksX3_bitsOf_5 16 rfl rfl)
abbrev cX3_copy : ByteArray := prog_18_method_16_code
def yX3_copy : MethodName := ⟨RX3, "copy", "(IIIII)I"⟩
def dkwX3_copy_8 : List UInt8 := [82, 132, 6, 1, 167, 255, 224, 4, 172]
abbrev dktX3_copy_8 : List UInt8 := dkwX3_copy_8 ++ []
def dkwX3_copy_7 : List UInt8 := [162, 0, 31, 42, 180, 0, 16, 16, 24, 29, 104, 21, 4, 96, 21, 6, 96, 42, 180, 0, 23, 21, 6, 49]
abbrev dktX3_copy_7 : List UInt8 := dkwX3_copy_7 ++ dktX3_copy_8
def dkwX3_copy_6 : List UInt8 := [16, 24, 27, 104, 28, 96, 21, 6, 96, 49, 82, 132, 6, 1, 167, 255, 225, 3, 54, 6, 21, 6, 21, 5]
abbrev dktX3_copy_6 : List UInt8 := dkwX3_copy_6 ++ dktX3_copy_7
def dkwX3_copy_5 : List UInt8 := [182, 0, 126, 172, 3, 54, 6, 21, 6, 21, 5, 162, 0, 30, 42, 180, 0, 23, 21, 6, 42, 180, 0, 16]
abbrev dktX3_copy_5 : List UInt8 := dkwX3_copy_5 ++ dktX3_copy_6
def dkwX3_copy_4 : List UInt8 := [157, 0, 21, 21, 4, 133, 21, 5, 133, 97, 42, 180, 0, 13, 29, 46, 133, 148, 158, 0, 9, 42, 5]
abbrev dktX3_copy_4 : List UInt8 := dkwX3_copy_4 ++ dktX3_copy_5
def dkwX3_copy_3 : List UInt8 := [155, 0, 43, 21, 5, 155, 0, 38, 28, 133, 21, 5, 133, 97, 42, 180, 0, 13, 27, 46, 133, 148]
abbrev dktX3_copy_3 : List UInt8 := dkwX3_copy_3 ++ dktX3_copy_4
def dkwX3_copy_2 : List UInt8 := [46, 42, 180, 0, 7, 29, 46, 159, 0, 9, 42, 7, 182, 0, 126, 172, 28, 155, 0, 48, 21, 4]
abbrev dktX3_copy_2 : List UInt8 := dkwX3_copy_2 ++ dktX3_copy_3
def dkwX3_copy_1 : List UInt8 := [159, 0, 13, 42, 180, 0, 7, 29, 46, 2, 160, 0, 9, 42, 4, 182, 0, 126, 172, 42, 180, 0, 7, 27]
abbrev dktX3_copy_1 : List UInt8 := dkwX3_copy_1 ++ dktX3_copy_2
def dkwX3_copy_0 : List UInt8 := [27, 184, 0, 122, 153, 0, 10, 29, 184, 0, 122, 154, 0, 6, 16, 254, 172, 42, 180, 0, 7, 27, 46, 2]
abbrev dktX3_copy_0 : List UInt8 := dkwX3_copy_0 ++ dktX3_copy_1
theorem dksX3_copy_0 : cX3_copy.data.toList.drop 0 = dktX3_copy_0 := by decide +kernel
theorem dksX3_copy_1 : cX3_copy.data.toList.drop 24 = dktX3_copy_1 := dk_seg dksX3_copy_0 24 rfl rfl
theorem dksX3_copy_2 : cX3_copy.data.toList.drop 48 = dktX3_copy_2 := dk_seg dksX3_copy_1 24 rfl rfl
theorem dksX3_copy_3 : cX3_copy.data.toList.drop 70 = dktX3_copy_3 := dk_seg dksX3_copy_2 22 rfl rfl
theorem dksX3_copy_4 : cX3_copy.data.toList.drop 92 = dktX3_copy_4 := dk_seg dksX3_copy_3 22 rfl rfl
theorem dksX3_copy_5 : cX3_copy.data.toList.drop 115 = dktX3_copy_5 := dk_seg dksX3_copy_4 23 rfl rfl
theorem dksX3_copy_6 : cX3_copy.data.toList.drop 139 = dktX3_copy_6 := dk_seg dksX3_copy_5 24 rfl rfl
theorem dksX3_copy_7 : cX3_copy.data.toList.drop 163 = dktX3_copy_7 := dk_seg dksX3_copy_6 24 rfl rfl
theorem dksX3_copy_8 : cX3_copy.data.toList.drop 187 = dktX3_copy_8 := dk_seg dksX3_copy_7 24 rfl rfl
theorem dX3_copy_0 : decode cX3_copy 0 = .ok (.iload_n 1, 1) := dk_27 (dk_at dksX3_copy_0 0 rfl rfl)
theorem dX3_copy_1 : decode cX3_copy 1 = .ok (.invokestatic 122, 3) := dk_184 0 122 (dk_at dksX3_copy_0 1 rfl rfl)
theorem dX3_copy_4 : decode cX3_copy 4 = .ok (.ifCond .eq 10, 3) := dk_153 0 10 (dk_at dksX3_copy_0 4 rfl rfl)
theorem dX3_copy_7 : decode cX3_copy 7 = .ok (.iload_n 3, 1) := dk_29 (dk_at dksX3_copy_0 7 rfl rfl)
theorem dX3_copy_8 : decode cX3_copy 8 = .ok (.invokestatic 122, 3) := dk_184 0 122 (dk_at dksX3_copy_0 8 rfl rfl)
theorem dX3_copy_11 : decode cX3_copy 11 = .ok (.ifCond .ne 6, 3) := dk_154 0 6 (dk_at dksX3_copy_0 11 rfl rfl)
theorem dX3_copy_14 : decode cX3_copy 14 = .ok (.bipush (-2), 2) := dk_16 254 (dk_at dksX3_copy_0 14 rfl rfl)
theorem dX3_copy_16 : decode cX3_copy 16 = .ok (.ireturn, 1) := dk_172 (dk_at dksX3_copy_0 16 rfl rfl)
theorem dX3_copy_17 : decode cX3_copy 17 = .ok (.aload_n 0, 1) := dk_42 (dk_at dksX3_copy_0 17 rfl rfl)
theorem dX3_copy_18 : decode cX3_copy 18 = .ok (.getfield 7, 3) := dk_180 0 7 (dk_at dksX3_copy_0 18 rfl rfl)
theorem dX3_copy_21 : decode cX3_copy 21 = .ok (.iload_n 1, 1) := dk_27 (dk_at dksX3_copy_0 21 rfl rfl)
theorem dX3_copy_22 : decode cX3_copy 22 = .ok (.iaload, 1) := dk_46 (dk_at dksX3_copy_0 22 rfl rfl)
theorem dX3_copy_23 : decode cX3_copy 23 = .ok (.iconst (-1), 1) := dk_2 (dk_at dksX3_copy_0 23 rfl rfl)
theorem dX3_copy_24 : decode cX3_copy 24 = .ok (.if_icmp .eq 13, 3) := dk_159 0 13 (dk_at dksX3_copy_1 0 rfl rfl)
theorem dX3_copy_27 : decode cX3_copy 27 = .ok (.aload_n 0, 1) := dk_42 (dk_at dksX3_copy_1 3 rfl rfl)
theorem dX3_copy_28 : decode cX3_copy 28 = .ok (.getfield 7, 3) := dk_180 0 7 (dk_at dksX3_copy_1 4 rfl rfl)
theorem dX3_copy_31 : decode cX3_copy 31 = .ok (.iload_n 3, 1) := dk_29 (dk_at dksX3_copy_1 7 rfl rfl)
theorem dX3_copy_32 : decode cX3_copy 32 = .ok (.iaload, 1) := dk_46 (dk_at dksX3_copy_1 8 rfl rfl)
theorem dX3_copy_33 : decode cX3_copy 33 = .ok (.iconst (-1), 1) := dk_2 (dk_at dksX3_copy_1 9 rfl rfl)
theorem dX3_copy_34 : decode cX3_copy 34 = .ok (.if_icmp .ne 9, 3) := dk_160 0 9 (dk_at dksX3_copy_1 10 rfl rfl)
theorem dX3_copy_37 : decode cX3_copy 37 = .ok (.aload_n 0, 1) := dk_42 (dk_at dksX3_copy_1 13 rfl rfl)
theorem dX3_copy_38 : decode cX3_copy 38 = .ok (.iconst 1, 1) := dk_4 (dk_at dksX3_copy_1 14 rfl rfl)
theorem dX3_copy_39 : decode cX3_copy 39 = .ok (.invokevirtual 126, 3) := dk_182 0 126 (dk_at dksX3_copy_1 15 rfl rfl)
theorem dX3_copy_42 : decode cX3_copy 42 = .ok (.ireturn, 1) := dk_172 (dk_at dksX3_copy_1 18 rfl rfl)
theorem dX3_copy_43 : decode cX3_copy 43 = .ok (.aload_n 0, 1) := dk_42 (dk_at dksX3_copy_1 19 rfl rfl)
theorem dX3_copy_44 : decode cX3_copy 44 = .ok (.getfield 7, 3) := dk_180 0 7 (dk_at dksX3_copy_1 20 rfl rfl)
theorem dX3_copy_47 : decode cX3_copy 47 = .ok (.iload_n 1, 1) := dk_27 (dk_at dksX3_copy_1 23 rfl rfl)
theorem dX3_copy_48 : decode cX3_copy 48 = .ok (.iaload, 1) := dk_46 (dk_at dksX3_copy_2 0 rfl rfl)
theorem dX3_copy_49 : decode cX3_copy 49 = .ok (.aload_n 0, 1) := dk_42 (dk_at dksX3_copy_2 1 rfl rfl)
theorem dX3_copy_50 : decode cX3_copy 50 = .ok (.getfield 7, 3) := dk_180 0 7 (dk_at dksX3_copy_2 2 rfl rfl)
theorem dX3_copy_53 : decode cX3_copy 53 = .ok (.iload_n 3, 1) := dk_29 (dk_at dksX3_copy_2 5 rfl rfl)
theorem dX3_copy_54 : decode cX3_copy 54 = .ok (.iaload, 1) := dk_46 (dk_at dksX3_copy_2 6 rfl rfl)
theorem dX3_copy_55 : decode cX3_copy 55 = .ok (.if_icmp .eq 9, 3) := dk_159 0 9 (dk_at dksX3_copy_2 7 rfl rfl)
theorem dX3_copy_58 : decode cX3_copy 58 = .ok (.aload_n 0, 1) := dk_42 (dk_at dksX3_copy_2 10 rfl rfl)
theorem dX3_copy_59 : decode cX3_copy 59 = .ok (.iconst 4, 1) := dk_7 (dk_at dksX3_copy_2 11 rfl rfl)
theorem dX3_copy_60 : decode cX3_copy 60 = .ok (.invokevirtual 126, 3) := dk_182 0 126 (dk_at dksX3_copy_2 12 rfl rfl)
theorem dX3_copy_63 : decode cX3_copy 63 = .ok (.ireturn, 1) := dk_172 (dk_at dksX3_copy_2 15 rfl rfl)
theorem dX3_copy_64 : decode cX3_copy 64 = .ok (.iload_n 2, 1) := dk_28 (dk_at dksX3_copy_2 16 rfl rfl)
theorem dX3_copy_65 : decode cX3_copy 65 = .ok (.ifCond .lt 48, 3) := dk_155 0 48 (dk_at dksX3_copy_2 17 rfl rfl)
theorem dX3_copy_68 : decode cX3_copy 68 = .ok (.iload 4, 2) := dk_21 4 (dk_at dksX3_copy_2 20 rfl rfl)
theorem dX3_copy_70 : decode cX3_copy 70 = .ok (.ifCond .lt 43, 3) := dk_155 0 43 (dk_at dksX3_copy_3 0 rfl rfl)
theorem dX3_copy_73 : decode cX3_copy 73 = .ok (.iload 5, 2) := dk_21 5 (dk_at dksX3_copy_3 3 rfl rfl)
theorem dX3_copy_75 : decode cX3_copy 75 = .ok (.ifCond .lt 38, 3) := dk_155 0 38 (dk_at dksX3_copy_3 5 rfl rfl)
theorem dX3_copy_78 : decode cX3_copy 78 = .ok (.iload_n 2, 1) := dk_28 (dk_at dksX3_copy_3 8 rfl rfl)
theorem dX3_copy_79 : decode cX3_copy 79 = .ok (.i2l, 1) := dk_133 (dk_at dksX3_copy_3 9 rfl rfl)
theorem dX3_copy_80 : decode cX3_copy 80 = .ok (.iload 5, 2) := dk_21 5 (dk_at dksX3_copy_3 10 rfl rfl)
theorem dX3_copy_82 : decode cX3_copy 82 = .ok (.i2l, 1) := dk_133 (dk_at dksX3_copy_3 12 rfl rfl)
theorem dX3_copy_83 : decode cX3_copy 83 = .ok (.ladd, 1) := dk_97 (dk_at dksX3_copy_3 13 rfl rfl)
theorem dX3_copy_84 : decode cX3_copy 84 = .ok (.aload_n 0, 1) := dk_42 (dk_at dksX3_copy_3 14 rfl rfl)
theorem dX3_copy_85 : decode cX3_copy 85 = .ok (.getfield 13, 3) := dk_180 0 13 (dk_at dksX3_copy_3 15 rfl rfl)
theorem dX3_copy_88 : decode cX3_copy 88 = .ok (.iload_n 1, 1) := dk_27 (dk_at dksX3_copy_3 18 rfl rfl)
theorem dX3_copy_89 : decode cX3_copy 89 = .ok (.iaload, 1) := dk_46 (dk_at dksX3_copy_3 19 rfl rfl)
theorem dX3_copy_90 : decode cX3_copy 90 = .ok (.i2l, 1) := dk_133 (dk_at dksX3_copy_3 20 rfl rfl)
theorem dX3_copy_91 : decode cX3_copy 91 = .ok (.lcmp, 1) := dk_148 (dk_at dksX3_copy_3 21 rfl rfl)
theorem dX3_copy_92 : decode cX3_copy 92 = .ok (.ifCond .gt 21, 3) := dk_157 0 21 (dk_at dksX3_copy_4 0 rfl rfl)
theorem dX3_copy_95 : decode cX3_copy 95 = .ok (.iload 4, 2) := dk_21 4 (dk_at dksX3_copy_4 3 rfl rfl)
theorem dX3_copy_97 : decode cX3_copy 97 = .ok (.i2l, 1) := dk_133 (dk_at dksX3_copy_4 5 rfl rfl)
theorem dX3_copy_98 : decode cX3_copy 98 = .ok (.iload 5, 2) := dk_21 5 (dk_at dksX3_copy_4 6 rfl rfl)
theorem dX3_copy_100 : decode cX3_copy 100 = .ok (.i2l, 1) := dk_133 (dk_at dksX3_copy_4 8 rfl rfl)
theorem dX3_copy_101 : decode cX3_copy 101 = .ok (.ladd, 1) := dk_97 (dk_at dksX3_copy_4 9 rfl rfl)
theorem dX3_copy_102 : decode cX3_copy 102 = .ok (.aload_n 0, 1) := dk_42 (dk_at dksX3_copy_4 10 rfl rfl)
theorem dX3_copy_103 : decode cX3_copy 103 = .ok (.getfield 13, 3) := dk_180 0 13 (dk_at dksX3_copy_4 11 rfl rfl)
theorem dX3_copy_106 : decode cX3_copy 106 = .ok (.iload_n 3, 1) := dk_29 (dk_at dksX3_copy_4 14 rfl rfl)
theorem dX3_copy_107 : decode cX3_copy 107 = .ok (.iaload, 1) := dk_46 (dk_at dksX3_copy_4 15 rfl rfl)
theorem dX3_copy_108 : decode cX3_copy 108 = .ok (.i2l, 1) := dk_133 (dk_at dksX3_copy_4 16 rfl rfl)
theorem dX3_copy_109 : decode cX3_copy 109 = .ok (.lcmp, 1) := dk_148 (dk_at dksX3_copy_4 17 rfl rfl)
theorem dX3_copy_110 : decode cX3_copy 110 = .ok (.ifCond .le 9, 3) := dk_158 0 9 (dk_at dksX3_copy_4 18 rfl rfl)
theorem dX3_copy_113 : decode cX3_copy 113 = .ok (.aload_n 0, 1) := dk_42 (dk_at dksX3_copy_4 21 rfl rfl)
theorem dX3_copy_114 : decode cX3_copy 114 = .ok (.iconst 2, 1) := dk_5 (dk_at dksX3_copy_4 22 rfl rfl)
theorem dX3_copy_115 : decode cX3_copy 115 = .ok (.invokevirtual 126, 3) := dk_182 0 126 (dk_at dksX3_copy_5 0 rfl rfl)
theorem dX3_copy_118 : decode cX3_copy 118 = .ok (.ireturn, 1) := dk_172 (dk_at dksX3_copy_5 3 rfl rfl)
theorem dX3_copy_119 : decode cX3_copy 119 = .ok (.iconst 0, 1) := dk_3 (dk_at dksX3_copy_5 4 rfl rfl)
theorem dX3_copy_120 : decode cX3_copy 120 = .ok (.istore 6, 2) := dk_54 6 (dk_at dksX3_copy_5 5 rfl rfl)
theorem dX3_copy_122 : decode cX3_copy 122 = .ok (.iload 6, 2) := dk_21 6 (dk_at dksX3_copy_5 7 rfl rfl)
theorem dX3_copy_124 : decode cX3_copy 124 = .ok (.iload 5, 2) := dk_21 5 (dk_at dksX3_copy_5 9 rfl rfl)
theorem dX3_copy_126 : decode cX3_copy 126 = .ok (.if_icmp .ge 30, 3) := dk_162 0 30 (dk_at dksX3_copy_5 11 rfl rfl)
theorem dX3_copy_129 : decode cX3_copy 129 = .ok (.aload_n 0, 1) := dk_42 (dk_at dksX3_copy_5 14 rfl rfl)
theorem dX3_copy_130 : decode cX3_copy 130 = .ok (.getfield 23, 3) := dk_180 0 23 (dk_at dksX3_copy_5 15 rfl rfl)
theorem dX3_copy_133 : decode cX3_copy 133 = .ok (.iload 6, 2) := dk_21 6 (dk_at dksX3_copy_5 18 rfl rfl)
theorem dX3_copy_135 : decode cX3_copy 135 = .ok (.aload_n 0, 1) := dk_42 (dk_at dksX3_copy_5 20 rfl rfl)
theorem dX3_copy_136 : decode cX3_copy 136 = .ok (.getfield 16, 3) := dk_180 0 16 (dk_at dksX3_copy_5 21 rfl rfl)
theorem dX3_copy_139 : decode cX3_copy 139 = .ok (.bipush 24, 2) := dk_16 24 (dk_at dksX3_copy_6 0 rfl rfl)
theorem dX3_copy_141 : decode cX3_copy 141 = .ok (.iload_n 1, 1) := dk_27 (dk_at dksX3_copy_6 2 rfl rfl)
theorem dX3_copy_142 : decode cX3_copy 142 = .ok (.imul, 1) := dk_104 (dk_at dksX3_copy_6 3 rfl rfl)
theorem dX3_copy_143 : decode cX3_copy 143 = .ok (.iload_n 2, 1) := dk_28 (dk_at dksX3_copy_6 4 rfl rfl)
theorem dX3_copy_144 : decode cX3_copy 144 = .ok (.iadd, 1) := dk_96 (dk_at dksX3_copy_6 5 rfl rfl)
theorem dX3_copy_145 : decode cX3_copy 145 = .ok (.iload 6, 2) := dk_21 6 (dk_at dksX3_copy_6 6 rfl rfl)
theorem dX3_copy_147 : decode cX3_copy 147 = .ok (.iadd, 1) := dk_96 (dk_at dksX3_copy_6 8 rfl rfl)
theorem dX3_copy_148 : decode cX3_copy 148 = .ok (.daload, 1) := dk_49 (dk_at dksX3_copy_6 9 rfl rfl)
theorem dX3_copy_149 : decode cX3_copy 149 = .ok (.dastore, 1) := dk_82 (dk_at dksX3_copy_6 10 rfl rfl)
theorem dX3_copy_150 : decode cX3_copy 150 = .ok (.iinc 6 1, 3) := dk_132 6 1 (dk_at dksX3_copy_6 11 rfl rfl)
theorem dX3_copy_153 : decode cX3_copy 153 = .ok (.goto (-31), 3) := dk_167 255 225 (dk_at dksX3_copy_6 14 rfl rfl)
theorem dX3_copy_156 : decode cX3_copy 156 = .ok (.iconst 0, 1) := dk_3 (dk_at dksX3_copy_6 17 rfl rfl)
theorem dX3_copy_157 : decode cX3_copy 157 = .ok (.istore 6, 2) := dk_54 6 (dk_at dksX3_copy_6 18 rfl rfl)
theorem dX3_copy_159 : decode cX3_copy 159 = .ok (.iload 6, 2) := dk_21 6 (dk_at dksX3_copy_6 20 rfl rfl)
theorem dX3_copy_161 : decode cX3_copy 161 = .ok (.iload 5, 2) := dk_21 5 (dk_at dksX3_copy_6 22 rfl rfl)
theorem dX3_copy_163 : decode cX3_copy 163 = .ok (.if_icmp .ge 31, 3) := dk_162 0 31 (dk_at dksX3_copy_7 0 rfl rfl)
theorem dX3_copy_166 : decode cX3_copy 166 = .ok (.aload_n 0, 1) := dk_42 (dk_at dksX3_copy_7 3 rfl rfl)
theorem dX3_copy_167 : decode cX3_copy 167 = .ok (.getfield 16, 3) := dk_180 0 16 (dk_at dksX3_copy_7 4 rfl rfl)
theorem dX3_copy_170 : decode cX3_copy 170 = .ok (.bipush 24, 2) := dk_16 24 (dk_at dksX3_copy_7 7 rfl rfl)
theorem dX3_copy_172 : decode cX3_copy 172 = .ok (.iload_n 3, 1) := dk_29 (dk_at dksX3_copy_7 9 rfl rfl)
theorem dX3_copy_173 : decode cX3_copy 173 = .ok (.imul, 1) := dk_104 (dk_at dksX3_copy_7 10 rfl rfl)
theorem dX3_copy_174 : decode cX3_copy 174 = .ok (.iload 4, 2) := dk_21 4 (dk_at dksX3_copy_7 11 rfl rfl)
theorem dX3_copy_176 : decode cX3_copy 176 = .ok (.iadd, 1) := dk_96 (dk_at dksX3_copy_7 13 rfl rfl)
theorem dX3_copy_177 : decode cX3_copy 177 = .ok (.iload 6, 2) := dk_21 6 (dk_at dksX3_copy_7 14 rfl rfl)
theorem dX3_copy_179 : decode cX3_copy 179 = .ok (.iadd, 1) := dk_96 (dk_at dksX3_copy_7 16 rfl rfl)
theorem dX3_copy_180 : decode cX3_copy 180 = .ok (.aload_n 0, 1) := dk_42 (dk_at dksX3_copy_7 17 rfl rfl)
theorem dX3_copy_181 : decode cX3_copy 181 = .ok (.getfield 23, 3) := dk_180 0 23 (dk_at dksX3_copy_7 18 rfl rfl)
theorem dX3_copy_184 : decode cX3_copy 184 = .ok (.iload 6, 2) := dk_21 6 (dk_at dksX3_copy_7 21 rfl rfl)
theorem dX3_copy_186 : decode cX3_copy 186 = .ok (.daload, 1) := dk_49 (dk_at dksX3_copy_7 23 rfl rfl)
theorem dX3_copy_187 : decode cX3_copy 187 = .ok (.dastore, 1) := dk_82 (dk_at dksX3_copy_8 0 rfl rfl)
theorem dX3_copy_188 : decode cX3_copy 188 = .ok (.iinc 6 1, 3) := dk_132 6 1 (dk_at dksX3_copy_8 1 rfl rfl)
theorem dX3_copy_191 : decode cX3_copy 191 = .ok (.goto (-32), 3) := dk_167 255 224 (dk_at dksX3_copy_8 4 rfl rfl)
theorem dX3_copy_194 : decode cX3_copy 194 = .ok (.iconst 1, 1) := dk_4 (dk_at dksX3_copy_8 7 rfl rfl)
theorem dX3_copy_195 : decode cX3_copy 195 = .ok (.ireturn, 1) := dk_172 (dk_at dksX3_copy_8 8 rfl rfl)
abbrev cX3_turns : ByteArray := prog_18_method_18_code
def yX3_turns : MethodName := ⟨RX3, "turns", "(I)I"⟩
def dkwX3_turns_1 : List UInt8 := [180, 0, 154, 3, 3, 182, 0, 157, 42, 27, 181, 0, 154, 28, 172]
abbrev dktX3_turns_1 : List UInt8 := dkwX3_turns_1 ++ []
def dkwX3_turns_0 : List UInt8 := [27, 3, 16, 10, 184, 0, 114, 154, 0, 6, 16, 254, 172, 42, 180, 0, 154, 61, 42, 3, 3, 42]
abbrev dktX3_turns_0 : List UInt8 := dkwX3_turns_0 ++ dktX3_turns_1
theorem dksX3_turns_0 : cX3_turns.data.toList.drop 0 = dktX3_turns_0 := by decide +kernel
theorem dksX3_turns_1 : cX3_turns.data.toList.drop 22 = dktX3_turns_1 := dk_seg dksX3_turns_0 22 rfl rfl
theorem dX3_turns_0 : decode cX3_turns 0 = .ok (.iload_n 1, 1) := dk_27 (dk_at dksX3_turns_0 0 rfl rfl)
theorem dX3_turns_1 : decode cX3_turns 1 = .ok (.iconst 0, 1) := dk_3 (dk_at dksX3_turns_0 1 rfl rfl)
theorem dX3_turns_2 : decode cX3_turns 2 = .ok (.bipush 10, 2) := dk_16 10 (dk_at dksX3_turns_0 2 rfl rfl)
theorem dX3_turns_4 : decode cX3_turns 4 = .ok (.invokestatic 114, 3) := dk_184 0 114 (dk_at dksX3_turns_0 4 rfl rfl)
theorem dX3_turns_7 : decode cX3_turns 7 = .ok (.ifCond .ne 6, 3) := dk_154 0 6 (dk_at dksX3_turns_0 7 rfl rfl)
theorem dX3_turns_10 : decode cX3_turns 10 = .ok (.bipush (-2), 2) := dk_16 254 (dk_at dksX3_turns_0 10 rfl rfl)
theorem dX3_turns_12 : decode cX3_turns 12 = .ok (.ireturn, 1) := dk_172 (dk_at dksX3_turns_0 12 rfl rfl)
theorem dX3_turns_13 : decode cX3_turns 13 = .ok (.aload_n 0, 1) := dk_42 (dk_at dksX3_turns_0 13 rfl rfl)
theorem dX3_turns_14 : decode cX3_turns 14 = .ok (.getfield 154, 3) := dk_180 0 154 (dk_at dksX3_turns_0 14 rfl rfl)
theorem dX3_turns_17 : decode cX3_turns 17 = .ok (.istore_n 2, 1) := dk_61 (dk_at dksX3_turns_0 17 rfl rfl)
theorem dX3_turns_18 : decode cX3_turns 18 = .ok (.aload_n 0, 1) := dk_42 (dk_at dksX3_turns_0 18 rfl rfl)
theorem dX3_turns_19 : decode cX3_turns 19 = .ok (.iconst 0, 1) := dk_3 (dk_at dksX3_turns_0 19 rfl rfl)
theorem dX3_turns_20 : decode cX3_turns 20 = .ok (.iconst 0, 1) := dk_3 (dk_at dksX3_turns_0 20 rfl rfl)
theorem dX3_turns_21 : decode cX3_turns 21 = .ok (.aload_n 0, 1) := dk_42 (dk_at dksX3_turns_0 21 rfl rfl)
theorem dX3_turns_22 : decode cX3_turns 22 = .ok (.getfield 154, 3) := dk_180 0 154 (dk_at dksX3_turns_1 0 rfl rfl)
theorem dX3_turns_25 : decode cX3_turns 25 = .ok (.iconst 0, 1) := dk_3 (dk_at dksX3_turns_1 3 rfl rfl)
theorem dX3_turns_26 : decode cX3_turns 26 = .ok (.iconst 0, 1) := dk_3 (dk_at dksX3_turns_1 4 rfl rfl)
theorem dX3_turns_27 : decode cX3_turns 27 = .ok (.invokevirtual 157, 3) := dk_182 0 157 (dk_at dksX3_turns_1 5 rfl rfl)
theorem dX3_turns_30 : decode cX3_turns 30 = .ok (.aload_n 0, 1) := dk_42 (dk_at dksX3_turns_1 8 rfl rfl)
theorem dX3_turns_31 : decode cX3_turns 31 = .ok (.iload_n 1, 1) := dk_27 (dk_at dksX3_turns_1 9 rfl rfl)
theorem dX3_turns_32 : decode cX3_turns 32 = .ok (.putfield 154, 3) := dk_181 0 154 (dk_at dksX3_turns_1 10 rfl rfl)
theorem dX3_turns_35 : decode cX3_turns 35 = .ok (.iload_n 2, 1) := dk_28 (dk_at dksX3_turns_1 13 rfl rfl)
theorem dX3_turns_36 : decode cX3_turns 36 = .ok (.ireturn, 1) := dk_172 (dk_at dksX3_turns_1 14 rfl rfl)
abbrev cX3_logs : ByteArray := prog_18_method_17_code
def yX3_logs : MethodName := ⟨RX3, "logs", "(IIIII)V"⟩
def dkwX3_logs_5 : List UInt8 := [180, 0, 151, 104, 7, 96, 21, 5, 79, 42, 89, 180, 0, 151, 4, 96, 181, 0, 151, 177]
abbrev dktX3_logs_5 : List UInt8 := dkwX3_logs_5 ++ []
def dkwX3_logs_4 : List UInt8 := [42, 180, 0, 53, 16, 6, 42, 180, 0, 151, 104, 6, 96, 21, 4, 79, 42, 180, 0, 53, 16, 6, 42]
abbrev dktX3_logs_4 : List UInt8 := dkwX3_logs_4 ++ dktX3_logs_5
def dkwX3_logs_3 : List UInt8 := [42, 180, 0, 151, 104, 4, 96, 28, 79, 42, 180, 0, 53, 16, 6, 42, 180, 0, 151, 104, 5, 96, 29, 79]
abbrev dktX3_logs_3 : List UInt8 := dkwX3_logs_3 ++ dktX3_logs_4
def dkwX3_logs_2 : List UInt8 := [4, 100, 181, 0, 151, 42, 180, 0, 53, 16, 6, 42, 180, 0, 151, 104, 27, 79, 42, 180, 0, 53, 16, 6]
abbrev dktX3_logs_2 : List UInt8 := dkwX3_logs_2 ++ dktX3_logs_3
def dkwX3_logs_1 : List UInt8 := [21, 6, 16, 6, 100, 42, 180, 0, 53, 21, 6, 46, 79, 132, 6, 1, 167, 255, 229, 42, 89, 180, 0, 151]
abbrev dktX3_logs_1 : List UInt8 := dkwX3_logs_1 ++ dktX3_logs_2
def dkwX3_logs_0 : List UInt8 := [42, 180, 0, 151, 16, 20, 160, 0, 47, 16, 6, 54, 6, 21, 6, 16, 120, 162, 0, 26, 42, 180, 0, 53]
abbrev dktX3_logs_0 : List UInt8 := dkwX3_logs_0 ++ dktX3_logs_1
theorem dksX3_logs_0 : cX3_logs.data.toList.drop 0 = dktX3_logs_0 := by decide +kernel
theorem dksX3_logs_1 : cX3_logs.data.toList.drop 24 = dktX3_logs_1 := dk_seg dksX3_logs_0 24 rfl rfl
theorem dksX3_logs_2 : cX3_logs.data.toList.drop 48 = dktX3_logs_2 := dk_seg dksX3_logs_1 24 rfl rfl
theorem dksX3_logs_3 : cX3_logs.data.toList.drop 72 = dktX3_logs_3 := dk_seg dksX3_logs_2 24 rfl rfl
theorem dksX3_logs_4 : cX3_logs.data.toList.drop 96 = dktX3_logs_4 := dk_seg dksX3_logs_3 24 rfl rfl
theorem dksX3_logs_5 : cX3_logs.data.toList.drop 119 = dktX3_logs_5 := dk_seg dksX3_logs_4 23 rfl rfl
theorem dX3_logs_0 : decode cX3_logs 0 = .ok (.aload_n 0, 1) := dk_42 (dk_at dksX3_logs_0 0 rfl rfl)
theorem dX3_logs_1 : decode cX3_logs 1 = .ok (.getfield 151, 3) := dk_180 0 151 (dk_at dksX3_logs_0 1 rfl rfl)
theorem dX3_logs_4 : decode cX3_logs 4 = .ok (.bipush 20, 2) := dk_16 20 (dk_at dksX3_logs_0 4 rfl rfl)
theorem dX3_logs_6 : decode cX3_logs 6 = .ok (.if_icmp .ne 47, 3) := dk_160 0 47 (dk_at dksX3_logs_0 6 rfl rfl)
theorem dX3_logs_9 : decode cX3_logs 9 = .ok (.bipush 6, 2) := dk_16 6 (dk_at dksX3_logs_0 9 rfl rfl)
theorem dX3_logs_11 : decode cX3_logs 11 = .ok (.istore 6, 2) := dk_54 6 (dk_at dksX3_logs_0 11 rfl rfl)
theorem dX3_logs_13 : decode cX3_logs 13 = .ok (.iload 6, 2) := dk_21 6 (dk_at dksX3_logs_0 13 rfl rfl)
theorem dX3_logs_15 : decode cX3_logs 15 = .ok (.bipush 120, 2) := dk_16 120 (dk_at dksX3_logs_0 15 rfl rfl)
theorem dX3_logs_17 : decode cX3_logs 17 = .ok (.if_icmp .ge 26, 3) := dk_162 0 26 (dk_at dksX3_logs_0 17 rfl rfl)
theorem dX3_logs_20 : decode cX3_logs 20 = .ok (.aload_n 0, 1) := dk_42 (dk_at dksX3_logs_0 20 rfl rfl)
theorem dX3_logs_21 : decode cX3_logs 21 = .ok (.getfield 53, 3) := dk_180 0 53 (dk_at dksX3_logs_0 21 rfl rfl)
theorem dX3_logs_24 : decode cX3_logs 24 = .ok (.iload 6, 2) := dk_21 6 (dk_at dksX3_logs_1 0 rfl rfl)
theorem dX3_logs_26 : decode cX3_logs 26 = .ok (.bipush 6, 2) := dk_16 6 (dk_at dksX3_logs_1 2 rfl rfl)
theorem dX3_logs_28 : decode cX3_logs 28 = .ok (.isub, 1) := dk_100 (dk_at dksX3_logs_1 4 rfl rfl)
theorem dX3_logs_29 : decode cX3_logs 29 = .ok (.aload_n 0, 1) := dk_42 (dk_at dksX3_logs_1 5 rfl rfl)
theorem dX3_logs_30 : decode cX3_logs 30 = .ok (.getfield 53, 3) := dk_180 0 53 (dk_at dksX3_logs_1 6 rfl rfl)
theorem dX3_logs_33 : decode cX3_logs 33 = .ok (.iload 6, 2) := dk_21 6 (dk_at dksX3_logs_1 9 rfl rfl)
theorem dX3_logs_35 : decode cX3_logs 35 = .ok (.iaload, 1) := dk_46 (dk_at dksX3_logs_1 11 rfl rfl)
theorem dX3_logs_36 : decode cX3_logs 36 = .ok (.iastore, 1) := dk_79 (dk_at dksX3_logs_1 12 rfl rfl)
theorem dX3_logs_37 : decode cX3_logs 37 = .ok (.iinc 6 1, 3) := dk_132 6 1 (dk_at dksX3_logs_1 13 rfl rfl)
theorem dX3_logs_40 : decode cX3_logs 40 = .ok (.goto (-27), 3) := dk_167 255 229 (dk_at dksX3_logs_1 16 rfl rfl)
theorem dX3_logs_43 : decode cX3_logs 43 = .ok (.aload_n 0, 1) := dk_42 (dk_at dksX3_logs_1 19 rfl rfl)
theorem dX3_logs_44 : decode cX3_logs 44 = .ok (.dup, 1) := dk_89 (dk_at dksX3_logs_1 20 rfl rfl)
theorem dX3_logs_45 : decode cX3_logs 45 = .ok (.getfield 151, 3) := dk_180 0 151 (dk_at dksX3_logs_1 21 rfl rfl)
theorem dX3_logs_48 : decode cX3_logs 48 = .ok (.iconst 1, 1) := dk_4 (dk_at dksX3_logs_2 0 rfl rfl)
theorem dX3_logs_49 : decode cX3_logs 49 = .ok (.isub, 1) := dk_100 (dk_at dksX3_logs_2 1 rfl rfl)
theorem dX3_logs_50 : decode cX3_logs 50 = .ok (.putfield 151, 3) := dk_181 0 151 (dk_at dksX3_logs_2 2 rfl rfl)
theorem dX3_logs_53 : decode cX3_logs 53 = .ok (.aload_n 0, 1) := dk_42 (dk_at dksX3_logs_2 5 rfl rfl)
theorem dX3_logs_54 : decode cX3_logs 54 = .ok (.getfield 53, 3) := dk_180 0 53 (dk_at dksX3_logs_2 6 rfl rfl)
theorem dX3_logs_57 : decode cX3_logs 57 = .ok (.bipush 6, 2) := dk_16 6 (dk_at dksX3_logs_2 9 rfl rfl)
theorem dX3_logs_59 : decode cX3_logs 59 = .ok (.aload_n 0, 1) := dk_42 (dk_at dksX3_logs_2 11 rfl rfl)
theorem dX3_logs_60 : decode cX3_logs 60 = .ok (.getfield 151, 3) := dk_180 0 151 (dk_at dksX3_logs_2 12 rfl rfl)
theorem dX3_logs_63 : decode cX3_logs 63 = .ok (.imul, 1) := dk_104 (dk_at dksX3_logs_2 15 rfl rfl)
theorem dX3_logs_64 : decode cX3_logs 64 = .ok (.iload_n 1, 1) := dk_27 (dk_at dksX3_logs_2 16 rfl rfl)
theorem dX3_logs_65 : decode cX3_logs 65 = .ok (.iastore, 1) := dk_79 (dk_at dksX3_logs_2 17 rfl rfl)
theorem dX3_logs_66 : decode cX3_logs 66 = .ok (.aload_n 0, 1) := dk_42 (dk_at dksX3_logs_2 18 rfl rfl)
theorem dX3_logs_67 : decode cX3_logs 67 = .ok (.getfield 53, 3) := dk_180 0 53 (dk_at dksX3_logs_2 19 rfl rfl)
theorem dX3_logs_70 : decode cX3_logs 70 = .ok (.bipush 6, 2) := dk_16 6 (dk_at dksX3_logs_2 22 rfl rfl)
theorem dX3_logs_72 : decode cX3_logs 72 = .ok (.aload_n 0, 1) := dk_42 (dk_at dksX3_logs_3 0 rfl rfl)
theorem dX3_logs_73 : decode cX3_logs 73 = .ok (.getfield 151, 3) := dk_180 0 151 (dk_at dksX3_logs_3 1 rfl rfl)
theorem dX3_logs_76 : decode cX3_logs 76 = .ok (.imul, 1) := dk_104 (dk_at dksX3_logs_3 4 rfl rfl)
theorem dX3_logs_77 : decode cX3_logs 77 = .ok (.iconst 1, 1) := dk_4 (dk_at dksX3_logs_3 5 rfl rfl)
theorem dX3_logs_78 : decode cX3_logs 78 = .ok (.iadd, 1) := dk_96 (dk_at dksX3_logs_3 6 rfl rfl)
theorem dX3_logs_79 : decode cX3_logs 79 = .ok (.iload_n 2, 1) := dk_28 (dk_at dksX3_logs_3 7 rfl rfl)
theorem dX3_logs_80 : decode cX3_logs 80 = .ok (.iastore, 1) := dk_79 (dk_at dksX3_logs_3 8 rfl rfl)
theorem dX3_logs_81 : decode cX3_logs 81 = .ok (.aload_n 0, 1) := dk_42 (dk_at dksX3_logs_3 9 rfl rfl)
theorem dX3_logs_82 : decode cX3_logs 82 = .ok (.getfield 53, 3) := dk_180 0 53 (dk_at dksX3_logs_3 10 rfl rfl)
theorem dX3_logs_85 : decode cX3_logs 85 = .ok (.bipush 6, 2) := dk_16 6 (dk_at dksX3_logs_3 13 rfl rfl)
theorem dX3_logs_87 : decode cX3_logs 87 = .ok (.aload_n 0, 1) := dk_42 (dk_at dksX3_logs_3 15 rfl rfl)
theorem dX3_logs_88 : decode cX3_logs 88 = .ok (.getfield 151, 3) := dk_180 0 151 (dk_at dksX3_logs_3 16 rfl rfl)
theorem dX3_logs_91 : decode cX3_logs 91 = .ok (.imul, 1) := dk_104 (dk_at dksX3_logs_3 19 rfl rfl)
theorem dX3_logs_92 : decode cX3_logs 92 = .ok (.iconst 2, 1) := dk_5 (dk_at dksX3_logs_3 20 rfl rfl)
theorem dX3_logs_93 : decode cX3_logs 93 = .ok (.iadd, 1) := dk_96 (dk_at dksX3_logs_3 21 rfl rfl)
theorem dX3_logs_94 : decode cX3_logs 94 = .ok (.iload_n 3, 1) := dk_29 (dk_at dksX3_logs_3 22 rfl rfl)
theorem dX3_logs_95 : decode cX3_logs 95 = .ok (.iastore, 1) := dk_79 (dk_at dksX3_logs_3 23 rfl rfl)
theorem dX3_logs_96 : decode cX3_logs 96 = .ok (.aload_n 0, 1) := dk_42 (dk_at dksX3_logs_4 0 rfl rfl)
theorem dX3_logs_97 : decode cX3_logs 97 = .ok (.getfield 53, 3) := dk_180 0 53 (dk_at dksX3_logs_4 1 rfl rfl)
theorem dX3_logs_100 : decode cX3_logs 100 = .ok (.bipush 6, 2) := dk_16 6 (dk_at dksX3_logs_4 4 rfl rfl)
theorem dX3_logs_102 : decode cX3_logs 102 = .ok (.aload_n 0, 1) := dk_42 (dk_at dksX3_logs_4 6 rfl rfl)
theorem dX3_logs_103 : decode cX3_logs 103 = .ok (.getfield 151, 3) := dk_180 0 151 (dk_at dksX3_logs_4 7 rfl rfl)
theorem dX3_logs_106 : decode cX3_logs 106 = .ok (.imul, 1) := dk_104 (dk_at dksX3_logs_4 10 rfl rfl)
theorem dX3_logs_107 : decode cX3_logs 107 = .ok (.iconst 3, 1) := dk_6 (dk_at dksX3_logs_4 11 rfl rfl)
theorem dX3_logs_108 : decode cX3_logs 108 = .ok (.iadd, 1) := dk_96 (dk_at dksX3_logs_4 12 rfl rfl)
theorem dX3_logs_109 : decode cX3_logs 109 = .ok (.iload 4, 2) := dk_21 4 (dk_at dksX3_logs_4 13 rfl rfl)
theorem dX3_logs_111 : decode cX3_logs 111 = .ok (.iastore, 1) := dk_79 (dk_at dksX3_logs_4 15 rfl rfl)
theorem dX3_logs_112 : decode cX3_logs 112 = .ok (.aload_n 0, 1) := dk_42 (dk_at dksX3_logs_4 16 rfl rfl)
theorem dX3_logs_113 : decode cX3_logs 113 = .ok (.getfield 53, 3) := dk_180 0 53 (dk_at dksX3_logs_4 17 rfl rfl)
theorem dX3_logs_116 : decode cX3_logs 116 = .ok (.bipush 6, 2) := dk_16 6 (dk_at dksX3_logs_4 20 rfl rfl)
theorem dX3_logs_118 : decode cX3_logs 118 = .ok (.aload_n 0, 1) := dk_42 (dk_at dksX3_logs_4 22 rfl rfl)
theorem dX3_logs_119 : decode cX3_logs 119 = .ok (.getfield 151, 3) := dk_180 0 151 (dk_at dksX3_logs_5 0 rfl rfl)
theorem dX3_logs_122 : decode cX3_logs 122 = .ok (.imul, 1) := dk_104 (dk_at dksX3_logs_5 3 rfl rfl)
theorem dX3_logs_123 : decode cX3_logs 123 = .ok (.iconst 4, 1) := dk_7 (dk_at dksX3_logs_5 4 rfl rfl)
theorem dX3_logs_124 : decode cX3_logs 124 = .ok (.iadd, 1) := dk_96 (dk_at dksX3_logs_5 5 rfl rfl)
theorem dX3_logs_125 : decode cX3_logs 125 = .ok (.iload 5, 2) := dk_21 5 (dk_at dksX3_logs_5 6 rfl rfl)
theorem dX3_logs_127 : decode cX3_logs 127 = .ok (.iastore, 1) := dk_79 (dk_at dksX3_logs_5 8 rfl rfl)
theorem dX3_logs_128 : decode cX3_logs 128 = .ok (.aload_n 0, 1) := dk_42 (dk_at dksX3_logs_5 9 rfl rfl)
theorem dX3_logs_129 : decode cX3_logs 129 = .ok (.dup, 1) := dk_89 (dk_at dksX3_logs_5 10 rfl rfl)
theorem dX3_logs_130 : decode cX3_logs 130 = .ok (.getfield 151, 3) := dk_180 0 151 (dk_at dksX3_logs_5 11 rfl rfl)
theorem dX3_logs_133 : decode cX3_logs 133 = .ok (.iconst 1, 1) := dk_4 (dk_at dksX3_logs_5 14 rfl rfl)
theorem dX3_logs_134 : decode cX3_logs 134 = .ok (.iadd, 1) := dk_96 (dk_at dksX3_logs_5 15 rfl rfl)
theorem dX3_logs_135 : decode cX3_logs 135 = .ok (.putfield 151, 3) := dk_181 0 151 (dk_at dksX3_logs_5 16 rfl rfl)
theorem dX3_logs_138 : decode cX3_logs 138 = .ok (.return_, 1) := dk_177 (dk_at dksX3_logs_5 19 rfl rfl)
abbrev cX3_type : ByteArray := prog_18_method_19_code
def yX3_type : MethodName := ⟨RX3, "type", "(I)I"⟩
def dkwX3_type_2 : List UInt8 := [180, 0, 161, 172]
abbrev dktX3_type_2 : List UInt8 := dkwX3_type_2 ++ []
def dkwX3_type_1 : List UInt8 := [172, 42, 180, 0, 56, 42, 180, 0, 161, 27, 79, 42, 89, 180, 0, 161, 4, 96, 181, 0, 161, 42]
abbrev dktX3_type_1 : List UInt8 := dkwX3_type_1 ++ dktX3_type_2
def dkwX3_type_0 : List UInt8 := [27, 3, 17, 0, 255, 184, 0, 114, 154, 0, 6, 16, 254, 172, 42, 180, 0, 161, 8, 160, 0, 6, 16, 252]
abbrev dktX3_type_0 : List UInt8 := dkwX3_type_0 ++ dktX3_type_1
theorem dksX3_type_0 : cX3_type.data.toList.drop 0 = dktX3_type_0 := by decide +kernel
theorem dksX3_type_1 : cX3_type.data.toList.drop 24 = dktX3_type_1 := dk_seg dksX3_type_0 24 rfl rfl
theorem dksX3_type_2 : cX3_type.data.toList.drop 46 = dktX3_type_2 := dk_seg dksX3_type_1 22 rfl rfl
theorem dX3_type_0 : decode cX3_type 0 = .ok (.iload_n 1, 1) := dk_27 (dk_at dksX3_type_0 0 rfl rfl)
theorem dX3_type_1 : decode cX3_type 1 = .ok (.iconst 0, 1) := dk_3 (dk_at dksX3_type_0 1 rfl rfl)
theorem dX3_type_2 : decode cX3_type 2 = .ok (.sipush 255, 3) := dk_17 0 255 (dk_at dksX3_type_0 2 rfl rfl)
theorem dX3_type_5 : decode cX3_type 5 = .ok (.invokestatic 114, 3) := dk_184 0 114 (dk_at dksX3_type_0 5 rfl rfl)
theorem dX3_type_8 : decode cX3_type 8 = .ok (.ifCond .ne 6, 3) := dk_154 0 6 (dk_at dksX3_type_0 8 rfl rfl)
theorem dX3_type_11 : decode cX3_type 11 = .ok (.bipush (-2), 2) := dk_16 254 (dk_at dksX3_type_0 11 rfl rfl)
theorem dX3_type_13 : decode cX3_type 13 = .ok (.ireturn, 1) := dk_172 (dk_at dksX3_type_0 13 rfl rfl)
theorem dX3_type_14 : decode cX3_type 14 = .ok (.aload_n 0, 1) := dk_42 (dk_at dksX3_type_0 14 rfl rfl)
theorem dX3_type_15 : decode cX3_type 15 = .ok (.getfield 161, 3) := dk_180 0 161 (dk_at dksX3_type_0 15 rfl rfl)
theorem dX3_type_18 : decode cX3_type 18 = .ok (.iconst 5, 1) := dk_8 (dk_at dksX3_type_0 18 rfl rfl)
theorem dX3_type_19 : decode cX3_type 19 = .ok (.if_icmp .ne 6, 3) := dk_160 0 6 (dk_at dksX3_type_0 19 rfl rfl)
theorem dX3_type_22 : decode cX3_type 22 = .ok (.bipush (-4), 2) := dk_16 252 (dk_at dksX3_type_0 22 rfl rfl)
theorem dX3_type_24 : decode cX3_type 24 = .ok (.ireturn, 1) := dk_172 (dk_at dksX3_type_1 0 rfl rfl)
theorem dX3_type_25 : decode cX3_type 25 = .ok (.aload_n 0, 1) := dk_42 (dk_at dksX3_type_1 1 rfl rfl)
theorem dX3_type_26 : decode cX3_type 26 = .ok (.getfield 56, 3) := dk_180 0 56 (dk_at dksX3_type_1 2 rfl rfl)
theorem dX3_type_29 : decode cX3_type 29 = .ok (.aload_n 0, 1) := dk_42 (dk_at dksX3_type_1 5 rfl rfl)
theorem dX3_type_30 : decode cX3_type 30 = .ok (.getfield 161, 3) := dk_180 0 161 (dk_at dksX3_type_1 6 rfl rfl)
theorem dX3_type_33 : decode cX3_type 33 = .ok (.iload_n 1, 1) := dk_27 (dk_at dksX3_type_1 9 rfl rfl)
theorem dX3_type_34 : decode cX3_type 34 = .ok (.iastore, 1) := dk_79 (dk_at dksX3_type_1 10 rfl rfl)
theorem dX3_type_35 : decode cX3_type 35 = .ok (.aload_n 0, 1) := dk_42 (dk_at dksX3_type_1 11 rfl rfl)
theorem dX3_type_36 : decode cX3_type 36 = .ok (.dup, 1) := dk_89 (dk_at dksX3_type_1 12 rfl rfl)
theorem dX3_type_37 : decode cX3_type 37 = .ok (.getfield 161, 3) := dk_180 0 161 (dk_at dksX3_type_1 13 rfl rfl)
theorem dX3_type_40 : decode cX3_type 40 = .ok (.iconst 1, 1) := dk_4 (dk_at dksX3_type_1 16 rfl rfl)
theorem dX3_type_41 : decode cX3_type 41 = .ok (.iadd, 1) := dk_96 (dk_at dksX3_type_1 17 rfl rfl)
theorem dX3_type_42 : decode cX3_type 42 = .ok (.putfield 161, 3) := dk_181 0 161 (dk_at dksX3_type_1 18 rfl rfl)
theorem dX3_type_45 : decode cX3_type 45 = .ok (.aload_n 0, 1) := dk_42 (dk_at dksX3_type_1 21 rfl rfl)
theorem dX3_type_46 : decode cX3_type 46 = .ok (.getfield 161, 3) := dk_180 0 161 (dk_at dksX3_type_2 0 rfl rfl)
theorem dX3_type_49 : decode cX3_type 49 = .ok (.ireturn, 1) := dk_172 (dk_at dksX3_type_2 3 rfl rfl)
abbrev cX3_wipe : ByteArray := prog_18_method_20_code
def yX3_wipe : MethodName := ⟨RX3, "wipe", "()I"⟩
def dkwX3_wipe_0 : List UInt8 := [42, 180, 0, 161, 60, 42, 3, 181, 0, 161, 27, 172]
abbrev dktX3_wipe_0 : List UInt8 := dkwX3_wipe_0 ++ []
theorem dksX3_wipe_0 : cX3_wipe.data.toList.drop 0 = dktX3_wipe_0 := by decide +kernel
theorem dX3_wipe_0 : decode cX3_wipe 0 = .ok (.aload_n 0, 1) := dk_42 (dk_at dksX3_wipe_0 0 rfl rfl)
theorem dX3_wipe_1 : decode cX3_wipe 1 = .ok (.getfield 161, 3) := dk_180 0 161 (dk_at dksX3_wipe_0 1 rfl rfl)
theorem dX3_wipe_4 : decode cX3_wipe 4 = .ok (.istore_n 1, 1) := dk_60 (dk_at dksX3_wipe_0 4 rfl rfl)
theorem dX3_wipe_5 : decode cX3_wipe 5 = .ok (.aload_n 0, 1) := dk_42 (dk_at dksX3_wipe_0 5 rfl rfl)
theorem dX3_wipe_6 : decode cX3_wipe 6 = .ok (.iconst 0, 1) := dk_3 (dk_at dksX3_wipe_0 6 rfl rfl)
theorem dX3_wipe_7 : decode cX3_wipe 7 = .ok (.putfield 161, 3) := dk_181 0 161 (dk_at dksX3_wipe_0 7 rfl rfl)
theorem dX3_wipe_10 : decode cX3_wipe 10 = .ok (.iload_n 1, 1) := dk_27 (dk_at dksX3_wipe_0 10 rfl rfl)
theorem dX3_wipe_11 : decode cX3_wipe 11 = .ok (.ireturn, 1) := dk_172 (dk_at dksX3_wipe_0 11 rfl rfl)
abbrev cX3_statement : ByteArray := prog_18_method_23_code
def yX3_statement : MethodName := ⟨RX3, "statement", "(I)I"⟩
def dkwX3_statement_8 : List UInt8 := [167, 255, 203, 42, 89, 180, 0, 171, 4, 96, 181, 0, 171, 42, 180, 0, 171, 4, 100, 172]
abbrev dktX3_statement_8 : List UInt8 := dkwX3_statement_8 ++ []
def dkwX3_statement_7 : List UInt8 := [180, 0, 44, 29, 3, 79, 42, 180, 0, 47, 29, 3, 79, 42, 180, 0, 50, 29, 3, 79, 132, 3, 1]
abbrev dktX3_statement_7 : List UInt8 := dkwX3_statement_7 ++ dktX3_statement_8
def dkwX3_statement_6 : List UInt8 := [104, 6, 96, 162, 0, 47, 42, 180, 0, 41, 29, 29, 6, 112, 154, 0, 7, 3, 167, 0, 4, 2, 79, 42]
abbrev dktX3_statement_6 : List UInt8 := dkwX3_statement_6 ++ dktX3_statement_7
def dkwX3_statement_5 : List UInt8 := [79, 42, 180, 0, 38, 42, 180, 0, 171, 2, 79, 6, 42, 180, 0, 171, 104, 62, 29, 6, 42, 180, 0, 171]
abbrev dktX3_statement_5 : List UInt8 := dkwX3_statement_5 ++ dktX3_statement_6
def dkwX3_statement_4 : List UInt8 := [180, 0, 171, 27, 79, 42, 180, 0, 32, 42, 180, 0, 171, 4, 79, 42, 180, 0, 35, 42, 180, 0, 171, 3]
abbrev dktX3_statement_4 : List UInt8 := dkwX3_statement_4 ++ dktX3_statement_5
def dkwX3_statement_3 : List UInt8 := [180, 0, 171, 3, 3, 3, 182, 0, 157, 42, 180, 0, 26, 42, 180, 0, 171, 28, 79, 42, 180, 0, 29, 42]
abbrev dktX3_statement_3 : List UInt8 := dkwX3_statement_3 ++ dktX3_statement_4
def dkwX3_statement_2 : List UInt8 := [16, 253, 172, 42, 180, 0, 171, 8, 160, 0, 6, 16, 252, 172, 42, 3, 181, 0, 161, 42, 4, 42]
abbrev dktX3_statement_2 : List UInt8 := dkwX3_statement_2 ++ dktX3_statement_3
def dkwX3_statement_1 : List UInt8 := [182, 0, 168, 153, 0, 7, 29, 167, 0, 4, 28, 61, 132, 3, 1, 167, 255, 233, 28, 2, 160, 0, 6]
abbrev dktX3_statement_1 : List UInt8 := dkwX3_statement_1 ++ dktX3_statement_2
def dkwX3_statement_0 : List UInt8 := [27, 4, 8, 184, 0, 114, 154, 0, 6, 16, 254, 172, 2, 61, 3, 62, 29, 16, 13, 162, 0, 23, 42, 29]
abbrev dktX3_statement_0 : List UInt8 := dkwX3_statement_0 ++ dktX3_statement_1
theorem dksX3_statement_0 : cX3_statement.data.toList.drop 0 = dktX3_statement_0 := by decide +kernel
theorem dksX3_statement_1 : cX3_statement.data.toList.drop 24 = dktX3_statement_1 := dk_seg dksX3_statement_0 24 rfl rfl
theorem dksX3_statement_2 : cX3_statement.data.toList.drop 47 = dktX3_statement_2 := dk_seg dksX3_statement_1 23 rfl rfl
theorem dksX3_statement_3 : cX3_statement.data.toList.drop 69 = dktX3_statement_3 := dk_seg dksX3_statement_2 22 rfl rfl
theorem dksX3_statement_4 : cX3_statement.data.toList.drop 93 = dktX3_statement_4 := dk_seg dksX3_statement_3 24 rfl rfl
theorem dksX3_statement_5 : cX3_statement.data.toList.drop 117 = dktX3_statement_5 := dk_seg dksX3_statement_4 24 rfl rfl
theorem dksX3_statement_6 : cX3_statement.data.toList.drop 141 = dktX3_statement_6 := dk_seg dksX3_statement_5 24 rfl rfl
theorem dksX3_statement_7 : cX3_statement.data.toList.drop 165 = dktX3_statement_7 := dk_seg dksX3_statement_6 24 rfl rfl
theorem dksX3_statement_8 : cX3_statement.data.toList.drop 188 = dktX3_statement_8 := dk_seg dksX3_statement_7 23 rfl rfl
theorem dX3_statement_0 : decode cX3_statement 0 = .ok (.iload_n 1, 1) := dk_27 (dk_at dksX3_statement_0 0 rfl rfl)
theorem dX3_statement_1 : decode cX3_statement 1 = .ok (.iconst 1, 1) := dk_4 (dk_at dksX3_statement_0 1 rfl rfl)
theorem dX3_statement_2 : decode cX3_statement 2 = .ok (.iconst 5, 1) := dk_8 (dk_at dksX3_statement_0 2 rfl rfl)
theorem dX3_statement_3 : decode cX3_statement 3 = .ok (.invokestatic 114, 3) := dk_184 0 114 (dk_at dksX3_statement_0 3 rfl rfl)
theorem dX3_statement_6 : decode cX3_statement 6 = .ok (.ifCond .ne 6, 3) := dk_154 0 6 (dk_at dksX3_statement_0 6 rfl rfl)
theorem dX3_statement_9 : decode cX3_statement 9 = .ok (.bipush (-2), 2) := dk_16 254 (dk_at dksX3_statement_0 9 rfl rfl)
theorem dX3_statement_11 : decode cX3_statement 11 = .ok (.ireturn, 1) := dk_172 (dk_at dksX3_statement_0 11 rfl rfl)
theorem dX3_statement_12 : decode cX3_statement 12 = .ok (.iconst (-1), 1) := dk_2 (dk_at dksX3_statement_0 12 rfl rfl)
theorem dX3_statement_13 : decode cX3_statement 13 = .ok (.istore_n 2, 1) := dk_61 (dk_at dksX3_statement_0 13 rfl rfl)
theorem dX3_statement_14 : decode cX3_statement 14 = .ok (.iconst 0, 1) := dk_3 (dk_at dksX3_statement_0 14 rfl rfl)
theorem dX3_statement_15 : decode cX3_statement 15 = .ok (.istore_n 3, 1) := dk_62 (dk_at dksX3_statement_0 15 rfl rfl)
theorem dX3_statement_16 : decode cX3_statement 16 = .ok (.iload_n 3, 1) := dk_29 (dk_at dksX3_statement_0 16 rfl rfl)
theorem dX3_statement_17 : decode cX3_statement 17 = .ok (.bipush 13, 2) := dk_16 13 (dk_at dksX3_statement_0 17 rfl rfl)
theorem dX3_statement_19 : decode cX3_statement 19 = .ok (.if_icmp .ge 23, 3) := dk_162 0 23 (dk_at dksX3_statement_0 19 rfl rfl)
theorem dX3_statement_22 : decode cX3_statement 22 = .ok (.aload_n 0, 1) := dk_42 (dk_at dksX3_statement_0 22 rfl rfl)
theorem dX3_statement_23 : decode cX3_statement 23 = .ok (.iload_n 3, 1) := dk_29 (dk_at dksX3_statement_0 23 rfl rfl)
theorem dX3_statement_24 : decode cX3_statement 24 = .ok (.invokevirtual 168, 3) := dk_182 0 168 (dk_at dksX3_statement_1 0 rfl rfl)
theorem dX3_statement_27 : decode cX3_statement 27 = .ok (.ifCond .eq 7, 3) := dk_153 0 7 (dk_at dksX3_statement_1 3 rfl rfl)
theorem dX3_statement_30 : decode cX3_statement 30 = .ok (.iload_n 3, 1) := dk_29 (dk_at dksX3_statement_1 6 rfl rfl)
theorem dX3_statement_31 : decode cX3_statement 31 = .ok (.goto 4, 3) := dk_167 0 4 (dk_at dksX3_statement_1 7 rfl rfl)
theorem dX3_statement_34 : decode cX3_statement 34 = .ok (.iload_n 2, 1) := dk_28 (dk_at dksX3_statement_1 10 rfl rfl)
theorem dX3_statement_35 : decode cX3_statement 35 = .ok (.istore_n 2, 1) := dk_61 (dk_at dksX3_statement_1 11 rfl rfl)
theorem dX3_statement_36 : decode cX3_statement 36 = .ok (.iinc 3 1, 3) := dk_132 3 1 (dk_at dksX3_statement_1 12 rfl rfl)
theorem dX3_statement_39 : decode cX3_statement 39 = .ok (.goto (-23), 3) := dk_167 255 233 (dk_at dksX3_statement_1 15 rfl rfl)
theorem dX3_statement_42 : decode cX3_statement 42 = .ok (.iload_n 2, 1) := dk_28 (dk_at dksX3_statement_1 18 rfl rfl)
theorem dX3_statement_43 : decode cX3_statement 43 = .ok (.iconst (-1), 1) := dk_2 (dk_at dksX3_statement_1 19 rfl rfl)
theorem dX3_statement_44 : decode cX3_statement 44 = .ok (.if_icmp .ne 6, 3) := dk_160 0 6 (dk_at dksX3_statement_1 20 rfl rfl)
theorem dX3_statement_47 : decode cX3_statement 47 = .ok (.bipush (-3), 2) := dk_16 253 (dk_at dksX3_statement_2 0 rfl rfl)
theorem dX3_statement_49 : decode cX3_statement 49 = .ok (.ireturn, 1) := dk_172 (dk_at dksX3_statement_2 2 rfl rfl)
theorem dX3_statement_50 : decode cX3_statement 50 = .ok (.aload_n 0, 1) := dk_42 (dk_at dksX3_statement_2 3 rfl rfl)
theorem dX3_statement_51 : decode cX3_statement 51 = .ok (.getfield 171, 3) := dk_180 0 171 (dk_at dksX3_statement_2 4 rfl rfl)
theorem dX3_statement_54 : decode cX3_statement 54 = .ok (.iconst 5, 1) := dk_8 (dk_at dksX3_statement_2 7 rfl rfl)
theorem dX3_statement_55 : decode cX3_statement 55 = .ok (.if_icmp .ne 6, 3) := dk_160 0 6 (dk_at dksX3_statement_2 8 rfl rfl)
theorem dX3_statement_58 : decode cX3_statement 58 = .ok (.bipush (-4), 2) := dk_16 252 (dk_at dksX3_statement_2 11 rfl rfl)
theorem dX3_statement_60 : decode cX3_statement 60 = .ok (.ireturn, 1) := dk_172 (dk_at dksX3_statement_2 13 rfl rfl)
theorem dX3_statement_61 : decode cX3_statement 61 = .ok (.aload_n 0, 1) := dk_42 (dk_at dksX3_statement_2 14 rfl rfl)
theorem dX3_statement_62 : decode cX3_statement 62 = .ok (.iconst 0, 1) := dk_3 (dk_at dksX3_statement_2 15 rfl rfl)
theorem dX3_statement_63 : decode cX3_statement 63 = .ok (.putfield 161, 3) := dk_181 0 161 (dk_at dksX3_statement_2 16 rfl rfl)
theorem dX3_statement_66 : decode cX3_statement 66 = .ok (.aload_n 0, 1) := dk_42 (dk_at dksX3_statement_2 19 rfl rfl)
theorem dX3_statement_67 : decode cX3_statement 67 = .ok (.iconst 1, 1) := dk_4 (dk_at dksX3_statement_2 20 rfl rfl)
theorem dX3_statement_68 : decode cX3_statement 68 = .ok (.aload_n 0, 1) := dk_42 (dk_at dksX3_statement_2 21 rfl rfl)
theorem dX3_statement_69 : decode cX3_statement 69 = .ok (.getfield 171, 3) := dk_180 0 171 (dk_at dksX3_statement_3 0 rfl rfl)
theorem dX3_statement_72 : decode cX3_statement 72 = .ok (.iconst 0, 1) := dk_3 (dk_at dksX3_statement_3 3 rfl rfl)
theorem dX3_statement_73 : decode cX3_statement 73 = .ok (.iconst 0, 1) := dk_3 (dk_at dksX3_statement_3 4 rfl rfl)
theorem dX3_statement_74 : decode cX3_statement 74 = .ok (.iconst 0, 1) := dk_3 (dk_at dksX3_statement_3 5 rfl rfl)
theorem dX3_statement_75 : decode cX3_statement 75 = .ok (.invokevirtual 157, 3) := dk_182 0 157 (dk_at dksX3_statement_3 6 rfl rfl)
theorem dX3_statement_78 : decode cX3_statement 78 = .ok (.aload_n 0, 1) := dk_42 (dk_at dksX3_statement_3 9 rfl rfl)
theorem dX3_statement_79 : decode cX3_statement 79 = .ok (.getfield 26, 3) := dk_180 0 26 (dk_at dksX3_statement_3 10 rfl rfl)
theorem dX3_statement_82 : decode cX3_statement 82 = .ok (.aload_n 0, 1) := dk_42 (dk_at dksX3_statement_3 13 rfl rfl)
theorem dX3_statement_83 : decode cX3_statement 83 = .ok (.getfield 171, 3) := dk_180 0 171 (dk_at dksX3_statement_3 14 rfl rfl)
theorem dX3_statement_86 : decode cX3_statement 86 = .ok (.iload_n 2, 1) := dk_28 (dk_at dksX3_statement_3 17 rfl rfl)
theorem dX3_statement_87 : decode cX3_statement 87 = .ok (.iastore, 1) := dk_79 (dk_at dksX3_statement_3 18 rfl rfl)
theorem dX3_statement_88 : decode cX3_statement 88 = .ok (.aload_n 0, 1) := dk_42 (dk_at dksX3_statement_3 19 rfl rfl)
theorem dX3_statement_89 : decode cX3_statement 89 = .ok (.getfield 29, 3) := dk_180 0 29 (dk_at dksX3_statement_3 20 rfl rfl)
theorem dX3_statement_92 : decode cX3_statement 92 = .ok (.aload_n 0, 1) := dk_42 (dk_at dksX3_statement_3 23 rfl rfl)
theorem dX3_statement_93 : decode cX3_statement 93 = .ok (.getfield 171, 3) := dk_180 0 171 (dk_at dksX3_statement_4 0 rfl rfl)
theorem dX3_statement_96 : decode cX3_statement 96 = .ok (.iload_n 1, 1) := dk_27 (dk_at dksX3_statement_4 3 rfl rfl)
theorem dX3_statement_97 : decode cX3_statement 97 = .ok (.iastore, 1) := dk_79 (dk_at dksX3_statement_4 4 rfl rfl)
theorem dX3_statement_98 : decode cX3_statement 98 = .ok (.aload_n 0, 1) := dk_42 (dk_at dksX3_statement_4 5 rfl rfl)
theorem dX3_statement_99 : decode cX3_statement 99 = .ok (.getfield 32, 3) := dk_180 0 32 (dk_at dksX3_statement_4 6 rfl rfl)
theorem dX3_statement_102 : decode cX3_statement 102 = .ok (.aload_n 0, 1) := dk_42 (dk_at dksX3_statement_4 9 rfl rfl)
theorem dX3_statement_103 : decode cX3_statement 103 = .ok (.getfield 171, 3) := dk_180 0 171 (dk_at dksX3_statement_4 10 rfl rfl)
theorem dX3_statement_106 : decode cX3_statement 106 = .ok (.iconst 1, 1) := dk_4 (dk_at dksX3_statement_4 13 rfl rfl)
theorem dX3_statement_107 : decode cX3_statement 107 = .ok (.iastore, 1) := dk_79 (dk_at dksX3_statement_4 14 rfl rfl)
theorem dX3_statement_108 : decode cX3_statement 108 = .ok (.aload_n 0, 1) := dk_42 (dk_at dksX3_statement_4 15 rfl rfl)
theorem dX3_statement_109 : decode cX3_statement 109 = .ok (.getfield 35, 3) := dk_180 0 35 (dk_at dksX3_statement_4 16 rfl rfl)
theorem dX3_statement_112 : decode cX3_statement 112 = .ok (.aload_n 0, 1) := dk_42 (dk_at dksX3_statement_4 19 rfl rfl)
theorem dX3_statement_113 : decode cX3_statement 113 = .ok (.getfield 171, 3) := dk_180 0 171 (dk_at dksX3_statement_4 20 rfl rfl)
theorem dX3_statement_116 : decode cX3_statement 116 = .ok (.iconst 0, 1) := dk_3 (dk_at dksX3_statement_4 23 rfl rfl)
theorem dX3_statement_117 : decode cX3_statement 117 = .ok (.iastore, 1) := dk_79 (dk_at dksX3_statement_5 0 rfl rfl)
theorem dX3_statement_118 : decode cX3_statement 118 = .ok (.aload_n 0, 1) := dk_42 (dk_at dksX3_statement_5 1 rfl rfl)
theorem dX3_statement_119 : decode cX3_statement 119 = .ok (.getfield 38, 3) := dk_180 0 38 (dk_at dksX3_statement_5 2 rfl rfl)
theorem dX3_statement_122 : decode cX3_statement 122 = .ok (.aload_n 0, 1) := dk_42 (dk_at dksX3_statement_5 5 rfl rfl)
theorem dX3_statement_123 : decode cX3_statement 123 = .ok (.getfield 171, 3) := dk_180 0 171 (dk_at dksX3_statement_5 6 rfl rfl)
theorem dX3_statement_126 : decode cX3_statement 126 = .ok (.iconst (-1), 1) := dk_2 (dk_at dksX3_statement_5 9 rfl rfl)
theorem dX3_statement_127 : decode cX3_statement 127 = .ok (.iastore, 1) := dk_79 (dk_at dksX3_statement_5 10 rfl rfl)
theorem dX3_statement_128 : decode cX3_statement 128 = .ok (.iconst 3, 1) := dk_6 (dk_at dksX3_statement_5 11 rfl rfl)
theorem dX3_statement_129 : decode cX3_statement 129 = .ok (.aload_n 0, 1) := dk_42 (dk_at dksX3_statement_5 12 rfl rfl)
theorem dX3_statement_130 : decode cX3_statement 130 = .ok (.getfield 171, 3) := dk_180 0 171 (dk_at dksX3_statement_5 13 rfl rfl)
theorem dX3_statement_133 : decode cX3_statement 133 = .ok (.imul, 1) := dk_104 (dk_at dksX3_statement_5 16 rfl rfl)
theorem dX3_statement_134 : decode cX3_statement 134 = .ok (.istore_n 3, 1) := dk_62 (dk_at dksX3_statement_5 17 rfl rfl)
theorem dX3_statement_135 : decode cX3_statement 135 = .ok (.iload_n 3, 1) := dk_29 (dk_at dksX3_statement_5 18 rfl rfl)
theorem dX3_statement_136 : decode cX3_statement 136 = .ok (.iconst 3, 1) := dk_6 (dk_at dksX3_statement_5 19 rfl rfl)
theorem dX3_statement_137 : decode cX3_statement 137 = .ok (.aload_n 0, 1) := dk_42 (dk_at dksX3_statement_5 20 rfl rfl)
theorem dX3_statement_138 : decode cX3_statement 138 = .ok (.getfield 171, 3) := dk_180 0 171 (dk_at dksX3_statement_5 21 rfl rfl)
theorem dX3_statement_141 : decode cX3_statement 141 = .ok (.imul, 1) := dk_104 (dk_at dksX3_statement_6 0 rfl rfl)
theorem dX3_statement_142 : decode cX3_statement 142 = .ok (.iconst 3, 1) := dk_6 (dk_at dksX3_statement_6 1 rfl rfl)
theorem dX3_statement_143 : decode cX3_statement 143 = .ok (.iadd, 1) := dk_96 (dk_at dksX3_statement_6 2 rfl rfl)
theorem dX3_statement_144 : decode cX3_statement 144 = .ok (.if_icmp .ge 47, 3) := dk_162 0 47 (dk_at dksX3_statement_6 3 rfl rfl)
theorem dX3_statement_147 : decode cX3_statement 147 = .ok (.aload_n 0, 1) := dk_42 (dk_at dksX3_statement_6 6 rfl rfl)
theorem dX3_statement_148 : decode cX3_statement 148 = .ok (.getfield 41, 3) := dk_180 0 41 (dk_at dksX3_statement_6 7 rfl rfl)
theorem dX3_statement_151 : decode cX3_statement 151 = .ok (.iload_n 3, 1) := dk_29 (dk_at dksX3_statement_6 10 rfl rfl)
theorem dX3_statement_152 : decode cX3_statement 152 = .ok (.iload_n 3, 1) := dk_29 (dk_at dksX3_statement_6 11 rfl rfl)
theorem dX3_statement_153 : decode cX3_statement 153 = .ok (.iconst 3, 1) := dk_6 (dk_at dksX3_statement_6 12 rfl rfl)
theorem dX3_statement_154 : decode cX3_statement 154 = .ok (.irem, 1) := dk_112 (dk_at dksX3_statement_6 13 rfl rfl)
theorem dX3_statement_155 : decode cX3_statement 155 = .ok (.ifCond .ne 7, 3) := dk_154 0 7 (dk_at dksX3_statement_6 14 rfl rfl)
theorem dX3_statement_158 : decode cX3_statement 158 = .ok (.iconst 0, 1) := dk_3 (dk_at dksX3_statement_6 17 rfl rfl)
theorem dX3_statement_159 : decode cX3_statement 159 = .ok (.goto 4, 3) := dk_167 0 4 (dk_at dksX3_statement_6 18 rfl rfl)
theorem dX3_statement_162 : decode cX3_statement 162 = .ok (.iconst (-1), 1) := dk_2 (dk_at dksX3_statement_6 21 rfl rfl)
theorem dX3_statement_163 : decode cX3_statement 163 = .ok (.iastore, 1) := dk_79 (dk_at dksX3_statement_6 22 rfl rfl)
theorem dX3_statement_164 : decode cX3_statement 164 = .ok (.aload_n 0, 1) := dk_42 (dk_at dksX3_statement_6 23 rfl rfl)
theorem dX3_statement_165 : decode cX3_statement 165 = .ok (.getfield 44, 3) := dk_180 0 44 (dk_at dksX3_statement_7 0 rfl rfl)
theorem dX3_statement_168 : decode cX3_statement 168 = .ok (.iload_n 3, 1) := dk_29 (dk_at dksX3_statement_7 3 rfl rfl)
theorem dX3_statement_169 : decode cX3_statement 169 = .ok (.iconst 0, 1) := dk_3 (dk_at dksX3_statement_7 4 rfl rfl)
theorem dX3_statement_170 : decode cX3_statement 170 = .ok (.iastore, 1) := dk_79 (dk_at dksX3_statement_7 5 rfl rfl)
theorem dX3_statement_171 : decode cX3_statement 171 = .ok (.aload_n 0, 1) := dk_42 (dk_at dksX3_statement_7 6 rfl rfl)
theorem dX3_statement_172 : decode cX3_statement 172 = .ok (.getfield 47, 3) := dk_180 0 47 (dk_at dksX3_statement_7 7 rfl rfl)
theorem dX3_statement_175 : decode cX3_statement 175 = .ok (.iload_n 3, 1) := dk_29 (dk_at dksX3_statement_7 10 rfl rfl)
theorem dX3_statement_176 : decode cX3_statement 176 = .ok (.iconst 0, 1) := dk_3 (dk_at dksX3_statement_7 11 rfl rfl)
theorem dX3_statement_177 : decode cX3_statement 177 = .ok (.iastore, 1) := dk_79 (dk_at dksX3_statement_7 12 rfl rfl)
theorem dX3_statement_178 : decode cX3_statement 178 = .ok (.aload_n 0, 1) := dk_42 (dk_at dksX3_statement_7 13 rfl rfl)
theorem dX3_statement_179 : decode cX3_statement 179 = .ok (.getfield 50, 3) := dk_180 0 50 (dk_at dksX3_statement_7 14 rfl rfl)
theorem dX3_statement_182 : decode cX3_statement 182 = .ok (.iload_n 3, 1) := dk_29 (dk_at dksX3_statement_7 17 rfl rfl)
theorem dX3_statement_183 : decode cX3_statement 183 = .ok (.iconst 0, 1) := dk_3 (dk_at dksX3_statement_7 18 rfl rfl)
theorem dX3_statement_184 : decode cX3_statement 184 = .ok (.iastore, 1) := dk_79 (dk_at dksX3_statement_7 19 rfl rfl)
theorem dX3_statement_185 : decode cX3_statement 185 = .ok (.iinc 3 1, 3) := dk_132 3 1 (dk_at dksX3_statement_7 20 rfl rfl)
theorem dX3_statement_188 : decode cX3_statement 188 = .ok (.goto (-53), 3) := dk_167 255 203 (dk_at dksX3_statement_8 0 rfl rfl)
theorem dX3_statement_191 : decode cX3_statement 191 = .ok (.aload_n 0, 1) := dk_42 (dk_at dksX3_statement_8 3 rfl rfl)
theorem dX3_statement_192 : decode cX3_statement 192 = .ok (.dup, 1) := dk_89 (dk_at dksX3_statement_8 4 rfl rfl)
theorem dX3_statement_193 : decode cX3_statement 193 = .ok (.getfield 171, 3) := dk_180 0 171 (dk_at dksX3_statement_8 5 rfl rfl)
theorem dX3_statement_196 : decode cX3_statement 196 = .ok (.iconst 1, 1) := dk_4 (dk_at dksX3_statement_8 8 rfl rfl)
theorem dX3_statement_197 : decode cX3_statement 197 = .ok (.iadd, 1) := dk_96 (dk_at dksX3_statement_8 9 rfl rfl)
theorem dX3_statement_198 : decode cX3_statement 198 = .ok (.putfield 171, 3) := dk_181 0 171 (dk_at dksX3_statement_8 10 rfl rfl)
theorem dX3_statement_201 : decode cX3_statement 201 = .ok (.aload_n 0, 1) := dk_42 (dk_at dksX3_statement_8 13 rfl rfl)
theorem dX3_statement_202 : decode cX3_statement 202 = .ok (.getfield 171, 3) := dk_180 0 171 (dk_at dksX3_statement_8 14 rfl rfl)
theorem dX3_statement_205 : decode cX3_statement 205 = .ok (.iconst 1, 1) := dk_4 (dk_at dksX3_statement_8 17 rfl rfl)
theorem dX3_statement_206 : decode cX3_statement 206 = .ok (.isub, 1) := dk_100 (dk_at dksX3_statement_8 18 rfl rfl)
theorem dX3_statement_207 : decode cX3_statement 207 = .ok (.ireturn, 1) := dk_172 (dk_at dksX3_statement_8 19 rfl rfl)
abbrev cX3_isName : ByteArray := prog_18_method_22_code
def yX3_isName : MethodName := ⟨RX3, "isName", "(I)Z"⟩
def dkwX3_isName_9 : List UInt8 := [16, 109, 16, 101, 16, 115, 182, 0, 164, 172]
abbrev dktX3_isName_9 : List UInt8 := dkwX3_isName_9 ++ []
def dkwX3_isName_8 : List UInt8 := [182, 0, 164, 172, 42, 16, 115, 16, 117, 16, 114, 16, 101, 3, 182, 0, 164, 172, 42, 16, 116, 16, 105]
abbrev dktX3_isName_8 : List UInt8 := dkwX3_isName_8 ++ dktX3_isName_9
def dkwX3_isName_7 : List UInt8 := [16, 99, 16, 111, 16, 112, 16, 121, 3, 182, 0, 164, 172, 42, 16, 112, 16, 105, 16, 99, 16, 107, 3]
abbrev dktX3_isName_7 : List UInt8 := dkwX3_isName_7 ++ dktX3_isName_8
def dkwX3_isName_6 : List UInt8 := [16, 114, 3, 3, 3, 182, 0, 164, 172, 42, 16, 120, 16, 111, 16, 114, 3, 3, 182, 0, 164, 172, 42]
abbrev dktX3_isName_6 : List UInt8 := dkwX3_isName_6 ++ dktX3_isName_7
def dkwX3_isName_5 : List UInt8 := [16, 110, 3, 3, 182, 0, 164, 172, 42, 16, 97, 16, 110, 16, 100, 3, 3, 182, 0, 164, 172, 42, 16, 111]
abbrev dktX3_isName_5 : List UInt8 := dkwX3_isName_5 ++ dktX3_isName_6
def dkwX3_isName_4 : List UInt8 := [3, 3, 182, 0, 164, 172, 42, 16, 109, 16, 97, 16, 120, 3, 3, 182, 0, 164, 172, 42, 16, 109, 16, 105]
abbrev dktX3_isName_4 : List UInt8 := dkwX3_isName_4 ++ dktX3_isName_5
def dkwX3_isName_3 : List UInt8 := [182, 0, 164, 172, 42, 16, 109, 16, 117, 16, 108, 3, 3, 182, 0, 164, 172, 42, 16, 114, 16, 101, 16, 109]
abbrev dktX3_isName_3 : List UInt8 := dkwX3_isName_3 ++ dktX3_isName_4
def dkwX3_isName_2 : List UInt8 := [42, 16, 97, 16, 100, 16, 100, 3, 3, 182, 0, 164, 172, 42, 16, 115, 16, 117, 16, 98, 3, 3]
abbrev dktX3_isName_2 : List UInt8 := dkwX3_isName_2 ++ dktX3_isName_3
def dkwX3_isName_1 : List UInt8 := [170, 0, 0, 0, 0, 0, 221, 0, 0, 0, 0, 0, 0, 0, 11, 0, 0, 0, 63, 0, 0, 0, 76, 0, 0, 0, 89, 0, 0, 0, 102, 0, 0, 0, 115, 0, 0, 0, 128, 0, 0, 0, 141, 0, 0, 0, 154, 0, 0, 0, 166, 0, 0, 0, 179, 0, 0, 0, 193, 0, 0, 0, 207]
abbrev dktX3_isName_1 : List UInt8 := dkwX3_isName_1 ++ dktX3_isName_2
def dkwX3_isName_0 : List UInt8 := [27]
abbrev dktX3_isName_0 : List UInt8 := dkwX3_isName_0 ++ dktX3_isName_1
theorem dksX3_isName_0 : cX3_isName.data.toList.drop 0 = dktX3_isName_0 := by decide +kernel
theorem dksX3_isName_1 : cX3_isName.data.toList.drop 1 = dktX3_isName_1 := dk_seg dksX3_isName_0 1 rfl rfl
theorem dksX3_isName_2 : cX3_isName.data.toList.drop 64 = dktX3_isName_2 := dk_seg dksX3_isName_1 63 rfl rfl
theorem dksX3_isName_3 : cX3_isName.data.toList.drop 86 = dktX3_isName_3 := dk_seg dksX3_isName_2 22 rfl rfl
theorem dksX3_isName_4 : cX3_isName.data.toList.drop 110 = dktX3_isName_4 := dk_seg dksX3_isName_3 24 rfl rfl
theorem dksX3_isName_5 : cX3_isName.data.toList.drop 134 = dktX3_isName_5 := dk_seg dksX3_isName_4 24 rfl rfl
theorem dksX3_isName_6 : cX3_isName.data.toList.drop 158 = dktX3_isName_6 := dk_seg dksX3_isName_5 24 rfl rfl
theorem dksX3_isName_7 : cX3_isName.data.toList.drop 181 = dktX3_isName_7 := dk_seg dksX3_isName_6 23 rfl rfl
theorem dksX3_isName_8 : cX3_isName.data.toList.drop 204 = dktX3_isName_8 := dk_seg dksX3_isName_7 23 rfl rfl
theorem dksX3_isName_9 : cX3_isName.data.toList.drop 227 = dktX3_isName_9 := dk_seg dksX3_isName_8 23 rfl rfl
theorem dX3_isName_0 : decode cX3_isName 0 = .ok (.iload_n 1, 1) := dk_27 (dk_at dksX3_isName_0 0 rfl rfl)
theorem dX3_isName_1 : decode cX3_isName 1 = .ok (.tableswitch 221 0 11 #[63, 76, 89, 102, 115, 128, 141, 154, 166, 179, 193, 207], 63) := by decide +kernel
theorem dX3_isName_64 : decode cX3_isName 64 = .ok (.aload_n 0, 1) := dk_42 (dk_at dksX3_isName_2 0 rfl rfl)
theorem dX3_isName_65 : decode cX3_isName 65 = .ok (.bipush 97, 2) := dk_16 97 (dk_at dksX3_isName_2 1 rfl rfl)
theorem dX3_isName_67 : decode cX3_isName 67 = .ok (.bipush 100, 2) := dk_16 100 (dk_at dksX3_isName_2 3 rfl rfl)
theorem dX3_isName_69 : decode cX3_isName 69 = .ok (.bipush 100, 2) := dk_16 100 (dk_at dksX3_isName_2 5 rfl rfl)
theorem dX3_isName_71 : decode cX3_isName 71 = .ok (.iconst 0, 1) := dk_3 (dk_at dksX3_isName_2 7 rfl rfl)
theorem dX3_isName_72 : decode cX3_isName 72 = .ok (.iconst 0, 1) := dk_3 (dk_at dksX3_isName_2 8 rfl rfl)
theorem dX3_isName_73 : decode cX3_isName 73 = .ok (.invokevirtual 164, 3) := dk_182 0 164 (dk_at dksX3_isName_2 9 rfl rfl)
theorem dX3_isName_76 : decode cX3_isName 76 = .ok (.ireturn, 1) := dk_172 (dk_at dksX3_isName_2 12 rfl rfl)
theorem dX3_isName_77 : decode cX3_isName 77 = .ok (.aload_n 0, 1) := dk_42 (dk_at dksX3_isName_2 13 rfl rfl)
theorem dX3_isName_78 : decode cX3_isName 78 = .ok (.bipush 115, 2) := dk_16 115 (dk_at dksX3_isName_2 14 rfl rfl)
theorem dX3_isName_80 : decode cX3_isName 80 = .ok (.bipush 117, 2) := dk_16 117 (dk_at dksX3_isName_2 16 rfl rfl)
theorem dX3_isName_82 : decode cX3_isName 82 = .ok (.bipush 98, 2) := dk_16 98 (dk_at dksX3_isName_2 18 rfl rfl)
theorem dX3_isName_84 : decode cX3_isName 84 = .ok (.iconst 0, 1) := dk_3 (dk_at dksX3_isName_2 20 rfl rfl)
theorem dX3_isName_85 : decode cX3_isName 85 = .ok (.iconst 0, 1) := dk_3 (dk_at dksX3_isName_2 21 rfl rfl)
theorem dX3_isName_86 : decode cX3_isName 86 = .ok (.invokevirtual 164, 3) := dk_182 0 164 (dk_at dksX3_isName_3 0 rfl rfl)
theorem dX3_isName_89 : decode cX3_isName 89 = .ok (.ireturn, 1) := dk_172 (dk_at dksX3_isName_3 3 rfl rfl)
theorem dX3_isName_90 : decode cX3_isName 90 = .ok (.aload_n 0, 1) := dk_42 (dk_at dksX3_isName_3 4 rfl rfl)
theorem dX3_isName_91 : decode cX3_isName 91 = .ok (.bipush 109, 2) := dk_16 109 (dk_at dksX3_isName_3 5 rfl rfl)
theorem dX3_isName_93 : decode cX3_isName 93 = .ok (.bipush 117, 2) := dk_16 117 (dk_at dksX3_isName_3 7 rfl rfl)
theorem dX3_isName_95 : decode cX3_isName 95 = .ok (.bipush 108, 2) := dk_16 108 (dk_at dksX3_isName_3 9 rfl rfl)
theorem dX3_isName_97 : decode cX3_isName 97 = .ok (.iconst 0, 1) := dk_3 (dk_at dksX3_isName_3 11 rfl rfl)
theorem dX3_isName_98 : decode cX3_isName 98 = .ok (.iconst 0, 1) := dk_3 (dk_at dksX3_isName_3 12 rfl rfl)
theorem dX3_isName_99 : decode cX3_isName 99 = .ok (.invokevirtual 164, 3) := dk_182 0 164 (dk_at dksX3_isName_3 13 rfl rfl)
theorem dX3_isName_102 : decode cX3_isName 102 = .ok (.ireturn, 1) := dk_172 (dk_at dksX3_isName_3 16 rfl rfl)
theorem dX3_isName_103 : decode cX3_isName 103 = .ok (.aload_n 0, 1) := dk_42 (dk_at dksX3_isName_3 17 rfl rfl)
theorem dX3_isName_104 : decode cX3_isName 104 = .ok (.bipush 114, 2) := dk_16 114 (dk_at dksX3_isName_3 18 rfl rfl)
theorem dX3_isName_106 : decode cX3_isName 106 = .ok (.bipush 101, 2) := dk_16 101 (dk_at dksX3_isName_3 20 rfl rfl)
theorem dX3_isName_108 : decode cX3_isName 108 = .ok (.bipush 109, 2) := dk_16 109 (dk_at dksX3_isName_3 22 rfl rfl)
theorem dX3_isName_110 : decode cX3_isName 110 = .ok (.iconst 0, 1) := dk_3 (dk_at dksX3_isName_4 0 rfl rfl)
theorem dX3_isName_111 : decode cX3_isName 111 = .ok (.iconst 0, 1) := dk_3 (dk_at dksX3_isName_4 1 rfl rfl)
theorem dX3_isName_112 : decode cX3_isName 112 = .ok (.invokevirtual 164, 3) := dk_182 0 164 (dk_at dksX3_isName_4 2 rfl rfl)
theorem dX3_isName_115 : decode cX3_isName 115 = .ok (.ireturn, 1) := dk_172 (dk_at dksX3_isName_4 5 rfl rfl)
theorem dX3_isName_116 : decode cX3_isName 116 = .ok (.aload_n 0, 1) := dk_42 (dk_at dksX3_isName_4 6 rfl rfl)
theorem dX3_isName_117 : decode cX3_isName 117 = .ok (.bipush 109, 2) := dk_16 109 (dk_at dksX3_isName_4 7 rfl rfl)
theorem dX3_isName_119 : decode cX3_isName 119 = .ok (.bipush 97, 2) := dk_16 97 (dk_at dksX3_isName_4 9 rfl rfl)
theorem dX3_isName_121 : decode cX3_isName 121 = .ok (.bipush 120, 2) := dk_16 120 (dk_at dksX3_isName_4 11 rfl rfl)
theorem dX3_isName_123 : decode cX3_isName 123 = .ok (.iconst 0, 1) := dk_3 (dk_at dksX3_isName_4 13 rfl rfl)
theorem dX3_isName_124 : decode cX3_isName 124 = .ok (.iconst 0, 1) := dk_3 (dk_at dksX3_isName_4 14 rfl rfl)
theorem dX3_isName_125 : decode cX3_isName 125 = .ok (.invokevirtual 164, 3) := dk_182 0 164 (dk_at dksX3_isName_4 15 rfl rfl)
theorem dX3_isName_128 : decode cX3_isName 128 = .ok (.ireturn, 1) := dk_172 (dk_at dksX3_isName_4 18 rfl rfl)
theorem dX3_isName_129 : decode cX3_isName 129 = .ok (.aload_n 0, 1) := dk_42 (dk_at dksX3_isName_4 19 rfl rfl)
theorem dX3_isName_130 : decode cX3_isName 130 = .ok (.bipush 109, 2) := dk_16 109 (dk_at dksX3_isName_4 20 rfl rfl)
theorem dX3_isName_132 : decode cX3_isName 132 = .ok (.bipush 105, 2) := dk_16 105 (dk_at dksX3_isName_4 22 rfl rfl)
theorem dX3_isName_134 : decode cX3_isName 134 = .ok (.bipush 110, 2) := dk_16 110 (dk_at dksX3_isName_5 0 rfl rfl)
theorem dX3_isName_136 : decode cX3_isName 136 = .ok (.iconst 0, 1) := dk_3 (dk_at dksX3_isName_5 2 rfl rfl)
theorem dX3_isName_137 : decode cX3_isName 137 = .ok (.iconst 0, 1) := dk_3 (dk_at dksX3_isName_5 3 rfl rfl)
theorem dX3_isName_138 : decode cX3_isName 138 = .ok (.invokevirtual 164, 3) := dk_182 0 164 (dk_at dksX3_isName_5 4 rfl rfl)
theorem dX3_isName_141 : decode cX3_isName 141 = .ok (.ireturn, 1) := dk_172 (dk_at dksX3_isName_5 7 rfl rfl)
theorem dX3_isName_142 : decode cX3_isName 142 = .ok (.aload_n 0, 1) := dk_42 (dk_at dksX3_isName_5 8 rfl rfl)
theorem dX3_isName_143 : decode cX3_isName 143 = .ok (.bipush 97, 2) := dk_16 97 (dk_at dksX3_isName_5 9 rfl rfl)
theorem dX3_isName_145 : decode cX3_isName 145 = .ok (.bipush 110, 2) := dk_16 110 (dk_at dksX3_isName_5 11 rfl rfl)
theorem dX3_isName_147 : decode cX3_isName 147 = .ok (.bipush 100, 2) := dk_16 100 (dk_at dksX3_isName_5 13 rfl rfl)
theorem dX3_isName_149 : decode cX3_isName 149 = .ok (.iconst 0, 1) := dk_3 (dk_at dksX3_isName_5 15 rfl rfl)
theorem dX3_isName_150 : decode cX3_isName 150 = .ok (.iconst 0, 1) := dk_3 (dk_at dksX3_isName_5 16 rfl rfl)
theorem dX3_isName_151 : decode cX3_isName 151 = .ok (.invokevirtual 164, 3) := dk_182 0 164 (dk_at dksX3_isName_5 17 rfl rfl)
theorem dX3_isName_154 : decode cX3_isName 154 = .ok (.ireturn, 1) := dk_172 (dk_at dksX3_isName_5 20 rfl rfl)
theorem dX3_isName_155 : decode cX3_isName 155 = .ok (.aload_n 0, 1) := dk_42 (dk_at dksX3_isName_5 21 rfl rfl)
theorem dX3_isName_156 : decode cX3_isName 156 = .ok (.bipush 111, 2) := dk_16 111 (dk_at dksX3_isName_5 22 rfl rfl)
theorem dX3_isName_158 : decode cX3_isName 158 = .ok (.bipush 114, 2) := dk_16 114 (dk_at dksX3_isName_6 0 rfl rfl)
theorem dX3_isName_160 : decode cX3_isName 160 = .ok (.iconst 0, 1) := dk_3 (dk_at dksX3_isName_6 2 rfl rfl)
theorem dX3_isName_161 : decode cX3_isName 161 = .ok (.iconst 0, 1) := dk_3 (dk_at dksX3_isName_6 3 rfl rfl)
theorem dX3_isName_162 : decode cX3_isName 162 = .ok (.iconst 0, 1) := dk_3 (dk_at dksX3_isName_6 4 rfl rfl)
theorem dX3_isName_163 : decode cX3_isName 163 = .ok (.invokevirtual 164, 3) := dk_182 0 164 (dk_at dksX3_isName_6 5 rfl rfl)
theorem dX3_isName_166 : decode cX3_isName 166 = .ok (.ireturn, 1) := dk_172 (dk_at dksX3_isName_6 8 rfl rfl)
theorem dX3_isName_167 : decode cX3_isName 167 = .ok (.aload_n 0, 1) := dk_42 (dk_at dksX3_isName_6 9 rfl rfl)
theorem dX3_isName_168 : decode cX3_isName 168 = .ok (.bipush 120, 2) := dk_16 120 (dk_at dksX3_isName_6 10 rfl rfl)
theorem dX3_isName_170 : decode cX3_isName 170 = .ok (.bipush 111, 2) := dk_16 111 (dk_at dksX3_isName_6 12 rfl rfl)
theorem dX3_isName_172 : decode cX3_isName 172 = .ok (.bipush 114, 2) := dk_16 114 (dk_at dksX3_isName_6 14 rfl rfl)
theorem dX3_isName_174 : decode cX3_isName 174 = .ok (.iconst 0, 1) := dk_3 (dk_at dksX3_isName_6 16 rfl rfl)
theorem dX3_isName_175 : decode cX3_isName 175 = .ok (.iconst 0, 1) := dk_3 (dk_at dksX3_isName_6 17 rfl rfl)
theorem dX3_isName_176 : decode cX3_isName 176 = .ok (.invokevirtual 164, 3) := dk_182 0 164 (dk_at dksX3_isName_6 18 rfl rfl)
theorem dX3_isName_179 : decode cX3_isName 179 = .ok (.ireturn, 1) := dk_172 (dk_at dksX3_isName_6 21 rfl rfl)
theorem dX3_isName_180 : decode cX3_isName 180 = .ok (.aload_n 0, 1) := dk_42 (dk_at dksX3_isName_6 22 rfl rfl)
theorem dX3_isName_181 : decode cX3_isName 181 = .ok (.bipush 99, 2) := dk_16 99 (dk_at dksX3_isName_7 0 rfl rfl)
theorem dX3_isName_183 : decode cX3_isName 183 = .ok (.bipush 111, 2) := dk_16 111 (dk_at dksX3_isName_7 2 rfl rfl)
theorem dX3_isName_185 : decode cX3_isName 185 = .ok (.bipush 112, 2) := dk_16 112 (dk_at dksX3_isName_7 4 rfl rfl)
theorem dX3_isName_187 : decode cX3_isName 187 = .ok (.bipush 121, 2) := dk_16 121 (dk_at dksX3_isName_7 6 rfl rfl)
theorem dX3_isName_189 : decode cX3_isName 189 = .ok (.iconst 0, 1) := dk_3 (dk_at dksX3_isName_7 8 rfl rfl)
theorem dX3_isName_190 : decode cX3_isName 190 = .ok (.invokevirtual 164, 3) := dk_182 0 164 (dk_at dksX3_isName_7 9 rfl rfl)
theorem dX3_isName_193 : decode cX3_isName 193 = .ok (.ireturn, 1) := dk_172 (dk_at dksX3_isName_7 12 rfl rfl)
theorem dX3_isName_194 : decode cX3_isName 194 = .ok (.aload_n 0, 1) := dk_42 (dk_at dksX3_isName_7 13 rfl rfl)
theorem dX3_isName_195 : decode cX3_isName 195 = .ok (.bipush 112, 2) := dk_16 112 (dk_at dksX3_isName_7 14 rfl rfl)
theorem dX3_isName_197 : decode cX3_isName 197 = .ok (.bipush 105, 2) := dk_16 105 (dk_at dksX3_isName_7 16 rfl rfl)
theorem dX3_isName_199 : decode cX3_isName 199 = .ok (.bipush 99, 2) := dk_16 99 (dk_at dksX3_isName_7 18 rfl rfl)
theorem dX3_isName_201 : decode cX3_isName 201 = .ok (.bipush 107, 2) := dk_16 107 (dk_at dksX3_isName_7 20 rfl rfl)
theorem dX3_isName_203 : decode cX3_isName 203 = .ok (.iconst 0, 1) := dk_3 (dk_at dksX3_isName_7 22 rfl rfl)
theorem dX3_isName_204 : decode cX3_isName 204 = .ok (.invokevirtual 164, 3) := dk_182 0 164 (dk_at dksX3_isName_8 0 rfl rfl)
theorem dX3_isName_207 : decode cX3_isName 207 = .ok (.ireturn, 1) := dk_172 (dk_at dksX3_isName_8 3 rfl rfl)
theorem dX3_isName_208 : decode cX3_isName 208 = .ok (.aload_n 0, 1) := dk_42 (dk_at dksX3_isName_8 4 rfl rfl)
theorem dX3_isName_209 : decode cX3_isName 209 = .ok (.bipush 115, 2) := dk_16 115 (dk_at dksX3_isName_8 5 rfl rfl)
theorem dX3_isName_211 : decode cX3_isName 211 = .ok (.bipush 117, 2) := dk_16 117 (dk_at dksX3_isName_8 7 rfl rfl)
theorem dX3_isName_213 : decode cX3_isName 213 = .ok (.bipush 114, 2) := dk_16 114 (dk_at dksX3_isName_8 9 rfl rfl)
theorem dX3_isName_215 : decode cX3_isName 215 = .ok (.bipush 101, 2) := dk_16 101 (dk_at dksX3_isName_8 11 rfl rfl)
theorem dX3_isName_217 : decode cX3_isName 217 = .ok (.iconst 0, 1) := dk_3 (dk_at dksX3_isName_8 13 rfl rfl)
theorem dX3_isName_218 : decode cX3_isName 218 = .ok (.invokevirtual 164, 3) := dk_182 0 164 (dk_at dksX3_isName_8 14 rfl rfl)
theorem dX3_isName_221 : decode cX3_isName 221 = .ok (.ireturn, 1) := dk_172 (dk_at dksX3_isName_8 17 rfl rfl)
theorem dX3_isName_222 : decode cX3_isName 222 = .ok (.aload_n 0, 1) := dk_42 (dk_at dksX3_isName_8 18 rfl rfl)
theorem dX3_isName_223 : decode cX3_isName 223 = .ok (.bipush 116, 2) := dk_16 116 (dk_at dksX3_isName_8 19 rfl rfl)
theorem dX3_isName_225 : decode cX3_isName 225 = .ok (.bipush 105, 2) := dk_16 105 (dk_at dksX3_isName_8 21 rfl rfl)
theorem dX3_isName_227 : decode cX3_isName 227 = .ok (.bipush 109, 2) := dk_16 109 (dk_at dksX3_isName_9 0 rfl rfl)
theorem dX3_isName_229 : decode cX3_isName 229 = .ok (.bipush 101, 2) := dk_16 101 (dk_at dksX3_isName_9 2 rfl rfl)
theorem dX3_isName_231 : decode cX3_isName 231 = .ok (.bipush 115, 2) := dk_16 115 (dk_at dksX3_isName_9 4 rfl rfl)
theorem dX3_isName_233 : decode cX3_isName 233 = .ok (.invokevirtual 164, 3) := dk_182 0 164 (dk_at dksX3_isName_9 6 rfl rfl)
theorem dX3_isName_236 : decode cX3_isName 236 = .ok (.ireturn, 1) := dk_172 (dk_at dksX3_isName_9 9 rfl rfl)
abbrev cX3_isTyped : ByteArray := prog_18_method_21_code
def yX3_isTyped : MethodName := ⟨RX3, "isTyped", "(IIIII)Z"⟩
def dkwX3_isTyped_6 : List UInt8 := [3, 172]
abbrev dktX3_isTyped_6 : List UInt8 := dkwX3_isTyped_6 ++ []
def dkwX3_isTyped_5 : List UInt8 := [153, 0, 24, 21, 6, 8, 161, 0, 14, 42, 180, 0, 56, 7, 46, 21, 5, 160, 0, 7, 4, 167, 0, 4]
abbrev dktX3_isTyped_5 : List UInt8 := dkwX3_isTyped_5 ++ dktX3_isTyped_6
def dkwX3_isTyped_4 : List UInt8 := [161, 0, 14, 42, 180, 0, 56, 6, 46, 21, 4, 160, 0, 7, 4, 167, 0, 4, 3, 54, 7, 21, 7]
abbrev dktX3_isTyped_4 : List UInt8 := dkwX3_isTyped_4 ++ dktX3_isTyped_5
def dkwX3_isTyped_3 : List UInt8 := [153, 0, 40, 21, 6, 6, 161, 0, 13, 42, 180, 0, 56, 5, 46, 29, 160, 0, 24, 21, 6, 7]
abbrev dktX3_isTyped_3 : List UInt8 := dkwX3_isTyped_3 ++ dktX3_isTyped_4
def dkwX3_isTyped_2 : List UInt8 := [160, 0, 17, 42, 180, 0, 56, 4, 46, 28, 160, 0, 7, 4, 167, 0, 4, 3, 54, 7, 21, 7]
abbrev dktX3_isTyped_2 : List UInt8 := dkwX3_isTyped_2 ++ dktX3_isTyped_3
def dkwX3_isTyped_1 : List UInt8 := [167, 0, 4, 5, 54, 6, 42, 180, 0, 161, 21, 6, 160, 0, 27, 42, 180, 0, 56, 3, 46, 27]
abbrev dktX3_isTyped_1 : List UInt8 := dkwX3_isTyped_1 ++ dktX3_isTyped_2
def dkwX3_isTyped_0 : List UInt8 := [21, 5, 158, 0, 7, 8, 167, 0, 21, 21, 4, 158, 0, 7, 7, 167, 0, 12, 29, 158, 0, 7, 6]
abbrev dktX3_isTyped_0 : List UInt8 := dkwX3_isTyped_0 ++ dktX3_isTyped_1
theorem dksX3_isTyped_0 : cX3_isTyped.data.toList.drop 0 = dktX3_isTyped_0 := by decide +kernel
theorem dksX3_isTyped_1 : cX3_isTyped.data.toList.drop 23 = dktX3_isTyped_1 := dk_seg dksX3_isTyped_0 23 rfl rfl
theorem dksX3_isTyped_2 : cX3_isTyped.data.toList.drop 45 = dktX3_isTyped_2 := dk_seg dksX3_isTyped_1 22 rfl rfl
theorem dksX3_isTyped_3 : cX3_isTyped.data.toList.drop 67 = dktX3_isTyped_3 := dk_seg dksX3_isTyped_2 22 rfl rfl
theorem dksX3_isTyped_4 : cX3_isTyped.data.toList.drop 89 = dktX3_isTyped_4 := dk_seg dksX3_isTyped_3 22 rfl rfl
theorem dksX3_isTyped_5 : cX3_isTyped.data.toList.drop 112 = dktX3_isTyped_5 := dk_seg dksX3_isTyped_4 23 rfl rfl
theorem dksX3_isTyped_6 : cX3_isTyped.data.toList.drop 136 = dktX3_isTyped_6 := dk_seg dksX3_isTyped_5 24 rfl rfl
theorem dX3_isTyped_0 : decode cX3_isTyped 0 = .ok (.iload 5, 2) := dk_21 5 (dk_at dksX3_isTyped_0 0 rfl rfl)
theorem dX3_isTyped_2 : decode cX3_isTyped 2 = .ok (.ifCond .le 7, 3) := dk_158 0 7 (dk_at dksX3_isTyped_0 2 rfl rfl)
theorem dX3_isTyped_5 : decode cX3_isTyped 5 = .ok (.iconst 5, 1) := dk_8 (dk_at dksX3_isTyped_0 5 rfl rfl)
theorem dX3_isTyped_6 : decode cX3_isTyped 6 = .ok (.goto 21, 3) := dk_167 0 21 (dk_at dksX3_isTyped_0 6 rfl rfl)
theorem dX3_isTyped_9 : decode cX3_isTyped 9 = .ok (.iload 4, 2) := dk_21 4 (dk_at dksX3_isTyped_0 9 rfl rfl)
theorem dX3_isTyped_11 : decode cX3_isTyped 11 = .ok (.ifCond .le 7, 3) := dk_158 0 7 (dk_at dksX3_isTyped_0 11 rfl rfl)
theorem dX3_isTyped_14 : decode cX3_isTyped 14 = .ok (.iconst 4, 1) := dk_7 (dk_at dksX3_isTyped_0 14 rfl rfl)
theorem dX3_isTyped_15 : decode cX3_isTyped 15 = .ok (.goto 12, 3) := dk_167 0 12 (dk_at dksX3_isTyped_0 15 rfl rfl)
theorem dX3_isTyped_18 : decode cX3_isTyped 18 = .ok (.iload_n 3, 1) := dk_29 (dk_at dksX3_isTyped_0 18 rfl rfl)
theorem dX3_isTyped_19 : decode cX3_isTyped 19 = .ok (.ifCond .le 7, 3) := dk_158 0 7 (dk_at dksX3_isTyped_0 19 rfl rfl)
theorem dX3_isTyped_22 : decode cX3_isTyped 22 = .ok (.iconst 3, 1) := dk_6 (dk_at dksX3_isTyped_0 22 rfl rfl)
theorem dX3_isTyped_23 : decode cX3_isTyped 23 = .ok (.goto 4, 3) := dk_167 0 4 (dk_at dksX3_isTyped_1 0 rfl rfl)
theorem dX3_isTyped_26 : decode cX3_isTyped 26 = .ok (.iconst 2, 1) := dk_5 (dk_at dksX3_isTyped_1 3 rfl rfl)
theorem dX3_isTyped_27 : decode cX3_isTyped 27 = .ok (.istore 6, 2) := dk_54 6 (dk_at dksX3_isTyped_1 4 rfl rfl)
theorem dX3_isTyped_29 : decode cX3_isTyped 29 = .ok (.aload_n 0, 1) := dk_42 (dk_at dksX3_isTyped_1 6 rfl rfl)
theorem dX3_isTyped_30 : decode cX3_isTyped 30 = .ok (.getfield 161, 3) := dk_180 0 161 (dk_at dksX3_isTyped_1 7 rfl rfl)
theorem dX3_isTyped_33 : decode cX3_isTyped 33 = .ok (.iload 6, 2) := dk_21 6 (dk_at dksX3_isTyped_1 10 rfl rfl)
theorem dX3_isTyped_35 : decode cX3_isTyped 35 = .ok (.if_icmp .ne 27, 3) := dk_160 0 27 (dk_at dksX3_isTyped_1 12 rfl rfl)
theorem dX3_isTyped_38 : decode cX3_isTyped 38 = .ok (.aload_n 0, 1) := dk_42 (dk_at dksX3_isTyped_1 15 rfl rfl)
theorem dX3_isTyped_39 : decode cX3_isTyped 39 = .ok (.getfield 56, 3) := dk_180 0 56 (dk_at dksX3_isTyped_1 16 rfl rfl)
theorem dX3_isTyped_42 : decode cX3_isTyped 42 = .ok (.iconst 0, 1) := dk_3 (dk_at dksX3_isTyped_1 19 rfl rfl)
theorem dX3_isTyped_43 : decode cX3_isTyped 43 = .ok (.iaload, 1) := dk_46 (dk_at dksX3_isTyped_1 20 rfl rfl)
theorem dX3_isTyped_44 : decode cX3_isTyped 44 = .ok (.iload_n 1, 1) := dk_27 (dk_at dksX3_isTyped_1 21 rfl rfl)
theorem dX3_isTyped_45 : decode cX3_isTyped 45 = .ok (.if_icmp .ne 17, 3) := dk_160 0 17 (dk_at dksX3_isTyped_2 0 rfl rfl)
theorem dX3_isTyped_48 : decode cX3_isTyped 48 = .ok (.aload_n 0, 1) := dk_42 (dk_at dksX3_isTyped_2 3 rfl rfl)
theorem dX3_isTyped_49 : decode cX3_isTyped 49 = .ok (.getfield 56, 3) := dk_180 0 56 (dk_at dksX3_isTyped_2 4 rfl rfl)
theorem dX3_isTyped_52 : decode cX3_isTyped 52 = .ok (.iconst 1, 1) := dk_4 (dk_at dksX3_isTyped_2 7 rfl rfl)
theorem dX3_isTyped_53 : decode cX3_isTyped 53 = .ok (.iaload, 1) := dk_46 (dk_at dksX3_isTyped_2 8 rfl rfl)
theorem dX3_isTyped_54 : decode cX3_isTyped 54 = .ok (.iload_n 2, 1) := dk_28 (dk_at dksX3_isTyped_2 9 rfl rfl)
theorem dX3_isTyped_55 : decode cX3_isTyped 55 = .ok (.if_icmp .ne 7, 3) := dk_160 0 7 (dk_at dksX3_isTyped_2 10 rfl rfl)
theorem dX3_isTyped_58 : decode cX3_isTyped 58 = .ok (.iconst 1, 1) := dk_4 (dk_at dksX3_isTyped_2 13 rfl rfl)
theorem dX3_isTyped_59 : decode cX3_isTyped 59 = .ok (.goto 4, 3) := dk_167 0 4 (dk_at dksX3_isTyped_2 14 rfl rfl)
theorem dX3_isTyped_62 : decode cX3_isTyped 62 = .ok (.iconst 0, 1) := dk_3 (dk_at dksX3_isTyped_2 17 rfl rfl)
theorem dX3_isTyped_63 : decode cX3_isTyped 63 = .ok (.istore 7, 2) := dk_54 7 (dk_at dksX3_isTyped_2 18 rfl rfl)
theorem dX3_isTyped_65 : decode cX3_isTyped 65 = .ok (.iload 7, 2) := dk_21 7 (dk_at dksX3_isTyped_2 20 rfl rfl)
theorem dX3_isTyped_67 : decode cX3_isTyped 67 = .ok (.ifCond .eq 40, 3) := dk_153 0 40 (dk_at dksX3_isTyped_3 0 rfl rfl)
theorem dX3_isTyped_70 : decode cX3_isTyped 70 = .ok (.iload 6, 2) := dk_21 6 (dk_at dksX3_isTyped_3 3 rfl rfl)
theorem dX3_isTyped_72 : decode cX3_isTyped 72 = .ok (.iconst 3, 1) := dk_6 (dk_at dksX3_isTyped_3 5 rfl rfl)
theorem dX3_isTyped_73 : decode cX3_isTyped 73 = .ok (.if_icmp .lt 13, 3) := dk_161 0 13 (dk_at dksX3_isTyped_3 6 rfl rfl)
theorem dX3_isTyped_76 : decode cX3_isTyped 76 = .ok (.aload_n 0, 1) := dk_42 (dk_at dksX3_isTyped_3 9 rfl rfl)
theorem dX3_isTyped_77 : decode cX3_isTyped 77 = .ok (.getfield 56, 3) := dk_180 0 56 (dk_at dksX3_isTyped_3 10 rfl rfl)
theorem dX3_isTyped_80 : decode cX3_isTyped 80 = .ok (.iconst 2, 1) := dk_5 (dk_at dksX3_isTyped_3 13 rfl rfl)
theorem dX3_isTyped_81 : decode cX3_isTyped 81 = .ok (.iaload, 1) := dk_46 (dk_at dksX3_isTyped_3 14 rfl rfl)
theorem dX3_isTyped_82 : decode cX3_isTyped 82 = .ok (.iload_n 3, 1) := dk_29 (dk_at dksX3_isTyped_3 15 rfl rfl)
theorem dX3_isTyped_83 : decode cX3_isTyped 83 = .ok (.if_icmp .ne 24, 3) := dk_160 0 24 (dk_at dksX3_isTyped_3 16 rfl rfl)
theorem dX3_isTyped_86 : decode cX3_isTyped 86 = .ok (.iload 6, 2) := dk_21 6 (dk_at dksX3_isTyped_3 19 rfl rfl)
theorem dX3_isTyped_88 : decode cX3_isTyped 88 = .ok (.iconst 4, 1) := dk_7 (dk_at dksX3_isTyped_3 21 rfl rfl)
theorem dX3_isTyped_89 : decode cX3_isTyped 89 = .ok (.if_icmp .lt 14, 3) := dk_161 0 14 (dk_at dksX3_isTyped_4 0 rfl rfl)
theorem dX3_isTyped_92 : decode cX3_isTyped 92 = .ok (.aload_n 0, 1) := dk_42 (dk_at dksX3_isTyped_4 3 rfl rfl)
theorem dX3_isTyped_93 : decode cX3_isTyped 93 = .ok (.getfield 56, 3) := dk_180 0 56 (dk_at dksX3_isTyped_4 4 rfl rfl)
theorem dX3_isTyped_96 : decode cX3_isTyped 96 = .ok (.iconst 3, 1) := dk_6 (dk_at dksX3_isTyped_4 7 rfl rfl)
theorem dX3_isTyped_97 : decode cX3_isTyped 97 = .ok (.iaload, 1) := dk_46 (dk_at dksX3_isTyped_4 8 rfl rfl)
theorem dX3_isTyped_98 : decode cX3_isTyped 98 = .ok (.iload 4, 2) := dk_21 4 (dk_at dksX3_isTyped_4 9 rfl rfl)
theorem dX3_isTyped_100 : decode cX3_isTyped 100 = .ok (.if_icmp .ne 7, 3) := dk_160 0 7 (dk_at dksX3_isTyped_4 11 rfl rfl)
theorem dX3_isTyped_103 : decode cX3_isTyped 103 = .ok (.iconst 1, 1) := dk_4 (dk_at dksX3_isTyped_4 14 rfl rfl)
theorem dX3_isTyped_104 : decode cX3_isTyped 104 = .ok (.goto 4, 3) := dk_167 0 4 (dk_at dksX3_isTyped_4 15 rfl rfl)
theorem dX3_isTyped_107 : decode cX3_isTyped 107 = .ok (.iconst 0, 1) := dk_3 (dk_at dksX3_isTyped_4 18 rfl rfl)
theorem dX3_isTyped_108 : decode cX3_isTyped 108 = .ok (.istore 7, 2) := dk_54 7 (dk_at dksX3_isTyped_4 19 rfl rfl)
theorem dX3_isTyped_110 : decode cX3_isTyped 110 = .ok (.iload 7, 2) := dk_21 7 (dk_at dksX3_isTyped_4 21 rfl rfl)
theorem dX3_isTyped_112 : decode cX3_isTyped 112 = .ok (.ifCond .eq 24, 3) := dk_153 0 24 (dk_at dksX3_isTyped_5 0 rfl rfl)
theorem dX3_isTyped_115 : decode cX3_isTyped 115 = .ok (.iload 6, 2) := dk_21 6 (dk_at dksX3_isTyped_5 3 rfl rfl)
theorem dX3_isTyped_117 : decode cX3_isTyped 117 = .ok (.iconst 5, 1) := dk_8 (dk_at dksX3_isTyped_5 5 rfl rfl)
theorem dX3_isTyped_118 : decode cX3_isTyped 118 = .ok (.if_icmp .lt 14, 3) := dk_161 0 14 (dk_at dksX3_isTyped_5 6 rfl rfl)
theorem dX3_isTyped_121 : decode cX3_isTyped 121 = .ok (.aload_n 0, 1) := dk_42 (dk_at dksX3_isTyped_5 9 rfl rfl)
theorem dX3_isTyped_122 : decode cX3_isTyped 122 = .ok (.getfield 56, 3) := dk_180 0 56 (dk_at dksX3_isTyped_5 10 rfl rfl)
theorem dX3_isTyped_125 : decode cX3_isTyped 125 = .ok (.iconst 4, 1) := dk_7 (dk_at dksX3_isTyped_5 13 rfl rfl)
theorem dX3_isTyped_126 : decode cX3_isTyped 126 = .ok (.iaload, 1) := dk_46 (dk_at dksX3_isTyped_5 14 rfl rfl)
theorem dX3_isTyped_127 : decode cX3_isTyped 127 = .ok (.iload 5, 2) := dk_21 5 (dk_at dksX3_isTyped_5 15 rfl rfl)
theorem dX3_isTyped_129 : decode cX3_isTyped 129 = .ok (.if_icmp .ne 7, 3) := dk_160 0 7 (dk_at dksX3_isTyped_5 17 rfl rfl)
theorem dX3_isTyped_132 : decode cX3_isTyped 132 = .ok (.iconst 1, 1) := dk_4 (dk_at dksX3_isTyped_5 20 rfl rfl)
theorem dX3_isTyped_133 : decode cX3_isTyped 133 = .ok (.goto 4, 3) := dk_167 0 4 (dk_at dksX3_isTyped_5 21 rfl rfl)
theorem dX3_isTyped_136 : decode cX3_isTyped 136 = .ok (.iconst 0, 1) := dk_3 (dk_at dksX3_isTyped_6 0 rfl rfl)
theorem dX3_isTyped_137 : decode cX3_isTyped 137 = .ok (.ireturn, 1) := dk_172 (dk_at dksX3_isTyped_6 1 rfl rfl)
abbrev cX3_refer : ByteArray := prog_18_method_25_code
def yX3_refer : MethodName := ⟨RX3, "refer", "(III)I"⟩
def dkwX3_refer_3 : List UInt8 := [96, 29, 79, 21, 4, 172]
abbrev dktX3_refer_3 : List UInt8 := dkwX3_refer_3 ++ []
def dkwX3_refer_2 : List UInt8 := [54, 4, 42, 5, 6, 27, 104, 28, 96, 21, 4, 3, 3, 182, 0, 157, 42, 180, 0, 41, 6, 27, 104, 28]
abbrev dktX3_refer_2 : List UInt8 := dkwX3_refer_2 ++ dktX3_refer_3
def dkwX3_refer_1 : List UInt8 := [167, 0, 4, 2, 8, 184, 0, 114, 154, 0, 6, 16, 254, 172, 42, 180, 0, 41, 6, 27, 104, 28, 96, 46]
abbrev dktX3_refer_1 : List UInt8 := dkwX3_refer_1 ++ dktX3_refer_2
def dkwX3_refer_0 : List UInt8 := [42, 27, 182, 0, 174, 153, 0, 29, 28, 3, 5, 184, 0, 114, 153, 0, 20, 29, 28, 154, 0, 7, 3]
abbrev dktX3_refer_0 : List UInt8 := dkwX3_refer_0 ++ dktX3_refer_1
theorem dksX3_refer_0 : cX3_refer.data.toList.drop 0 = dktX3_refer_0 := by decide +kernel
theorem dksX3_refer_1 : cX3_refer.data.toList.drop 23 = dktX3_refer_1 := dk_seg dksX3_refer_0 23 rfl rfl
theorem dksX3_refer_2 : cX3_refer.data.toList.drop 47 = dktX3_refer_2 := dk_seg dksX3_refer_1 24 rfl rfl
theorem dksX3_refer_3 : cX3_refer.data.toList.drop 71 = dktX3_refer_3 := dk_seg dksX3_refer_2 24 rfl rfl
theorem dX3_refer_0 : decode cX3_refer 0 = .ok (.aload_n 0, 1) := dk_42 (dk_at dksX3_refer_0 0 rfl rfl)
theorem dX3_refer_1 : decode cX3_refer 1 = .ok (.iload_n 1, 1) := dk_27 (dk_at dksX3_refer_0 1 rfl rfl)
theorem dX3_refer_2 : decode cX3_refer 2 = .ok (.invokevirtual 174, 3) := dk_182 0 174 (dk_at dksX3_refer_0 2 rfl rfl)
theorem dX3_refer_5 : decode cX3_refer 5 = .ok (.ifCond .eq 29, 3) := dk_153 0 29 (dk_at dksX3_refer_0 5 rfl rfl)
theorem dX3_refer_8 : decode cX3_refer 8 = .ok (.iload_n 2, 1) := dk_28 (dk_at dksX3_refer_0 8 rfl rfl)
theorem dX3_refer_9 : decode cX3_refer 9 = .ok (.iconst 0, 1) := dk_3 (dk_at dksX3_refer_0 9 rfl rfl)
theorem dX3_refer_10 : decode cX3_refer 10 = .ok (.iconst 2, 1) := dk_5 (dk_at dksX3_refer_0 10 rfl rfl)
theorem dX3_refer_11 : decode cX3_refer 11 = .ok (.invokestatic 114, 3) := dk_184 0 114 (dk_at dksX3_refer_0 11 rfl rfl)
theorem dX3_refer_14 : decode cX3_refer 14 = .ok (.ifCond .eq 20, 3) := dk_153 0 20 (dk_at dksX3_refer_0 14 rfl rfl)
theorem dX3_refer_17 : decode cX3_refer 17 = .ok (.iload_n 3, 1) := dk_29 (dk_at dksX3_refer_0 17 rfl rfl)
theorem dX3_refer_18 : decode cX3_refer 18 = .ok (.iload_n 2, 1) := dk_28 (dk_at dksX3_refer_0 18 rfl rfl)
theorem dX3_refer_19 : decode cX3_refer 19 = .ok (.ifCond .ne 7, 3) := dk_154 0 7 (dk_at dksX3_refer_0 19 rfl rfl)
theorem dX3_refer_22 : decode cX3_refer 22 = .ok (.iconst 0, 1) := dk_3 (dk_at dksX3_refer_0 22 rfl rfl)
theorem dX3_refer_23 : decode cX3_refer 23 = .ok (.goto 4, 3) := dk_167 0 4 (dk_at dksX3_refer_1 0 rfl rfl)
theorem dX3_refer_26 : decode cX3_refer 26 = .ok (.iconst (-1), 1) := dk_2 (dk_at dksX3_refer_1 3 rfl rfl)
theorem dX3_refer_27 : decode cX3_refer 27 = .ok (.iconst 5, 1) := dk_8 (dk_at dksX3_refer_1 4 rfl rfl)
theorem dX3_refer_28 : decode cX3_refer 28 = .ok (.invokestatic 114, 3) := dk_184 0 114 (dk_at dksX3_refer_1 5 rfl rfl)
theorem dX3_refer_31 : decode cX3_refer 31 = .ok (.ifCond .ne 6, 3) := dk_154 0 6 (dk_at dksX3_refer_1 8 rfl rfl)
theorem dX3_refer_34 : decode cX3_refer 34 = .ok (.bipush (-2), 2) := dk_16 254 (dk_at dksX3_refer_1 11 rfl rfl)
theorem dX3_refer_36 : decode cX3_refer 36 = .ok (.ireturn, 1) := dk_172 (dk_at dksX3_refer_1 13 rfl rfl)
theorem dX3_refer_37 : decode cX3_refer 37 = .ok (.aload_n 0, 1) := dk_42 (dk_at dksX3_refer_1 14 rfl rfl)
theorem dX3_refer_38 : decode cX3_refer 38 = .ok (.getfield 41, 3) := dk_180 0 41 (dk_at dksX3_refer_1 15 rfl rfl)
theorem dX3_refer_41 : decode cX3_refer 41 = .ok (.iconst 3, 1) := dk_6 (dk_at dksX3_refer_1 18 rfl rfl)
theorem dX3_refer_42 : decode cX3_refer 42 = .ok (.iload_n 1, 1) := dk_27 (dk_at dksX3_refer_1 19 rfl rfl)
theorem dX3_refer_43 : decode cX3_refer 43 = .ok (.imul, 1) := dk_104 (dk_at dksX3_refer_1 20 rfl rfl)
theorem dX3_refer_44 : decode cX3_refer 44 = .ok (.iload_n 2, 1) := dk_28 (dk_at dksX3_refer_1 21 rfl rfl)
theorem dX3_refer_45 : decode cX3_refer 45 = .ok (.iadd, 1) := dk_96 (dk_at dksX3_refer_1 22 rfl rfl)
theorem dX3_refer_46 : decode cX3_refer 46 = .ok (.iaload, 1) := dk_46 (dk_at dksX3_refer_1 23 rfl rfl)
theorem dX3_refer_47 : decode cX3_refer 47 = .ok (.istore 4, 2) := dk_54 4 (dk_at dksX3_refer_2 0 rfl rfl)
theorem dX3_refer_49 : decode cX3_refer 49 = .ok (.aload_n 0, 1) := dk_42 (dk_at dksX3_refer_2 2 rfl rfl)
theorem dX3_refer_50 : decode cX3_refer 50 = .ok (.iconst 2, 1) := dk_5 (dk_at dksX3_refer_2 3 rfl rfl)
theorem dX3_refer_51 : decode cX3_refer 51 = .ok (.iconst 3, 1) := dk_6 (dk_at dksX3_refer_2 4 rfl rfl)
theorem dX3_refer_52 : decode cX3_refer 52 = .ok (.iload_n 1, 1) := dk_27 (dk_at dksX3_refer_2 5 rfl rfl)
theorem dX3_refer_53 : decode cX3_refer 53 = .ok (.imul, 1) := dk_104 (dk_at dksX3_refer_2 6 rfl rfl)
theorem dX3_refer_54 : decode cX3_refer 54 = .ok (.iload_n 2, 1) := dk_28 (dk_at dksX3_refer_2 7 rfl rfl)
theorem dX3_refer_55 : decode cX3_refer 55 = .ok (.iadd, 1) := dk_96 (dk_at dksX3_refer_2 8 rfl rfl)
theorem dX3_refer_56 : decode cX3_refer 56 = .ok (.iload 4, 2) := dk_21 4 (dk_at dksX3_refer_2 9 rfl rfl)
theorem dX3_refer_58 : decode cX3_refer 58 = .ok (.iconst 0, 1) := dk_3 (dk_at dksX3_refer_2 11 rfl rfl)
theorem dX3_refer_59 : decode cX3_refer 59 = .ok (.iconst 0, 1) := dk_3 (dk_at dksX3_refer_2 12 rfl rfl)
theorem dX3_refer_60 : decode cX3_refer 60 = .ok (.invokevirtual 157, 3) := dk_182 0 157 (dk_at dksX3_refer_2 13 rfl rfl)
theorem dX3_refer_63 : decode cX3_refer 63 = .ok (.aload_n 0, 1) := dk_42 (dk_at dksX3_refer_2 16 rfl rfl)
theorem dX3_refer_64 : decode cX3_refer 64 = .ok (.getfield 41, 3) := dk_180 0 41 (dk_at dksX3_refer_2 17 rfl rfl)
theorem dX3_refer_67 : decode cX3_refer 67 = .ok (.iconst 3, 1) := dk_6 (dk_at dksX3_refer_2 20 rfl rfl)
theorem dX3_refer_68 : decode cX3_refer 68 = .ok (.iload_n 1, 1) := dk_27 (dk_at dksX3_refer_2 21 rfl rfl)
theorem dX3_refer_69 : decode cX3_refer 69 = .ok (.imul, 1) := dk_104 (dk_at dksX3_refer_2 22 rfl rfl)
theorem dX3_refer_70 : decode cX3_refer 70 = .ok (.iload_n 2, 1) := dk_28 (dk_at dksX3_refer_2 23 rfl rfl)
theorem dX3_refer_71 : decode cX3_refer 71 = .ok (.iadd, 1) := dk_96 (dk_at dksX3_refer_3 0 rfl rfl)
theorem dX3_refer_72 : decode cX3_refer 72 = .ok (.iload_n 3, 1) := dk_29 (dk_at dksX3_refer_3 1 rfl rfl)
theorem dX3_refer_73 : decode cX3_refer 73 = .ok (.iastore, 1) := dk_79 (dk_at dksX3_refer_3 2 rfl rfl)
theorem dX3_refer_74 : decode cX3_refer 74 = .ok (.iload 4, 2) := dk_21 4 (dk_at dksX3_refer_3 3 rfl rfl)
theorem dX3_refer_76 : decode cX3_refer 76 = .ok (.ireturn, 1) := dk_172 (dk_at dksX3_refer_3 5 rfl rfl)
abbrev cX3_isStatement : ByteArray := prog_18_method_24_code
def yX3_isStatement : MethodName := ⟨RX3, "isStatement", "(I)Z"⟩
def dkwX3_isStatement_0 : List UInt8 := [27, 3, 42, 180, 0, 171, 4, 100, 184, 0, 114, 172]
abbrev dktX3_isStatement_0 : List UInt8 := dkwX3_isStatement_0 ++ []
theorem dksX3_isStatement_0 : cX3_isStatement.data.toList.drop 0 = dktX3_isStatement_0 := by decide +kernel
theorem dX3_isStatement_0 : decode cX3_isStatement 0 = .ok (.iload_n 1, 1) := dk_27 (dk_at dksX3_isStatement_0 0 rfl rfl)
theorem dX3_isStatement_1 : decode cX3_isStatement 1 = .ok (.iconst 0, 1) := dk_3 (dk_at dksX3_isStatement_0 1 rfl rfl)
theorem dX3_isStatement_2 : decode cX3_isStatement 2 = .ok (.aload_n 0, 1) := dk_42 (dk_at dksX3_isStatement_0 2 rfl rfl)
theorem dX3_isStatement_3 : decode cX3_isStatement 3 = .ok (.getfield 171, 3) := dk_180 0 171 (dk_at dksX3_isStatement_0 3 rfl rfl)
theorem dX3_isStatement_6 : decode cX3_isStatement 6 = .ok (.iconst 1, 1) := dk_4 (dk_at dksX3_isStatement_0 6 rfl rfl)
theorem dX3_isStatement_7 : decode cX3_isStatement 7 = .ok (.isub, 1) := dk_100 (dk_at dksX3_isStatement_0 7 rfl rfl)
theorem dX3_isStatement_8 : decode cX3_isStatement 8 = .ok (.invokestatic 114, 3) := dk_184 0 114 (dk_at dksX3_isStatement_0 8 rfl rfl)
theorem dX3_isStatement_11 : decode cX3_isStatement 11 = .ok (.ireturn, 1) := dk_172 (dk_at dksX3_isStatement_0 11 rfl rfl)
abbrev cX3_place : ByteArray := prog_18_method_26_code
def yX3_place : MethodName := ⟨RX3, "place", "(IIIII)I"⟩
def dkwX3_place_4 : List UInt8 := [21, 6, 29, 79, 42, 180, 0, 47, 21, 6, 21, 4, 79, 42, 180, 0, 50, 21, 6, 21, 5, 79, 4, 172]
abbrev dktX3_place_4 : List UInt8 := dkwX3_place_4 ++ []
def dkwX3_place_3 : List UInt8 := [21, 6, 46, 42, 180, 0, 47, 21, 6, 46, 42, 180, 0, 50, 21, 6, 46, 182, 0, 157, 42, 180, 0, 44]
abbrev dktX3_place_3 : List UInt8 := dkwX3_place_3 ++ dktX3_place_4
def dkwX3_place_2 : List UInt8 := [184, 0, 114, 154, 0, 6, 16, 254, 172, 6, 27, 104, 28, 96, 54, 6, 42, 6, 21, 6, 42, 180, 0, 44]
abbrev dktX3_place_2 : List UInt8 := dkwX3_place_2 ++ dktX3_place_3
def dkwX3_place_1 : List UInt8 := [184, 0, 114, 153, 0, 27, 21, 4, 16, 250, 16, 6, 184, 0, 114, 153, 0, 15, 21, 5, 16, 250, 16, 6]
abbrev dktX3_place_1 : List UInt8 := dkwX3_place_1 ++ dktX3_place_2
def dkwX3_place_0 : List UInt8 := [42, 27, 182, 0, 174, 153, 0, 47, 28, 3, 5, 184, 0, 114, 153, 0, 38, 29, 16, 196, 16, 60]
abbrev dktX3_place_0 : List UInt8 := dkwX3_place_0 ++ dktX3_place_1
theorem dksX3_place_0 : cX3_place.data.toList.drop 0 = dktX3_place_0 := by decide +kernel
theorem dksX3_place_1 : cX3_place.data.toList.drop 22 = dktX3_place_1 := dk_seg dksX3_place_0 22 rfl rfl
theorem dksX3_place_2 : cX3_place.data.toList.drop 46 = dktX3_place_2 := dk_seg dksX3_place_1 24 rfl rfl
theorem dksX3_place_3 : cX3_place.data.toList.drop 70 = dktX3_place_3 := dk_seg dksX3_place_2 24 rfl rfl
theorem dksX3_place_4 : cX3_place.data.toList.drop 94 = dktX3_place_4 := dk_seg dksX3_place_3 24 rfl rfl
theorem dX3_place_0 : decode cX3_place 0 = .ok (.aload_n 0, 1) := dk_42 (dk_at dksX3_place_0 0 rfl rfl)
theorem dX3_place_1 : decode cX3_place 1 = .ok (.iload_n 1, 1) := dk_27 (dk_at dksX3_place_0 1 rfl rfl)
theorem dX3_place_2 : decode cX3_place 2 = .ok (.invokevirtual 174, 3) := dk_182 0 174 (dk_at dksX3_place_0 2 rfl rfl)
theorem dX3_place_5 : decode cX3_place 5 = .ok (.ifCond .eq 47, 3) := dk_153 0 47 (dk_at dksX3_place_0 5 rfl rfl)
theorem dX3_place_8 : decode cX3_place 8 = .ok (.iload_n 2, 1) := dk_28 (dk_at dksX3_place_0 8 rfl rfl)
theorem dX3_place_9 : decode cX3_place 9 = .ok (.iconst 0, 1) := dk_3 (dk_at dksX3_place_0 9 rfl rfl)
theorem dX3_place_10 : decode cX3_place 10 = .ok (.iconst 2, 1) := dk_5 (dk_at dksX3_place_0 10 rfl rfl)
theorem dX3_place_11 : decode cX3_place 11 = .ok (.invokestatic 114, 3) := dk_184 0 114 (dk_at dksX3_place_0 11 rfl rfl)
theorem dX3_place_14 : decode cX3_place 14 = .ok (.ifCond .eq 38, 3) := dk_153 0 38 (dk_at dksX3_place_0 14 rfl rfl)
theorem dX3_place_17 : decode cX3_place 17 = .ok (.iload_n 3, 1) := dk_29 (dk_at dksX3_place_0 17 rfl rfl)
theorem dX3_place_18 : decode cX3_place 18 = .ok (.bipush (-60), 2) := dk_16 196 (dk_at dksX3_place_0 18 rfl rfl)
theorem dX3_place_20 : decode cX3_place 20 = .ok (.bipush 60, 2) := dk_16 60 (dk_at dksX3_place_0 20 rfl rfl)
theorem dX3_place_22 : decode cX3_place 22 = .ok (.invokestatic 114, 3) := dk_184 0 114 (dk_at dksX3_place_1 0 rfl rfl)
theorem dX3_place_25 : decode cX3_place 25 = .ok (.ifCond .eq 27, 3) := dk_153 0 27 (dk_at dksX3_place_1 3 rfl rfl)
theorem dX3_place_28 : decode cX3_place 28 = .ok (.iload 4, 2) := dk_21 4 (dk_at dksX3_place_1 6 rfl rfl)
theorem dX3_place_30 : decode cX3_place 30 = .ok (.bipush (-6), 2) := dk_16 250 (dk_at dksX3_place_1 8 rfl rfl)
theorem dX3_place_32 : decode cX3_place 32 = .ok (.bipush 6, 2) := dk_16 6 (dk_at dksX3_place_1 10 rfl rfl)
theorem dX3_place_34 : decode cX3_place 34 = .ok (.invokestatic 114, 3) := dk_184 0 114 (dk_at dksX3_place_1 12 rfl rfl)
theorem dX3_place_37 : decode cX3_place 37 = .ok (.ifCond .eq 15, 3) := dk_153 0 15 (dk_at dksX3_place_1 15 rfl rfl)
theorem dX3_place_40 : decode cX3_place 40 = .ok (.iload 5, 2) := dk_21 5 (dk_at dksX3_place_1 18 rfl rfl)
theorem dX3_place_42 : decode cX3_place 42 = .ok (.bipush (-6), 2) := dk_16 250 (dk_at dksX3_place_1 20 rfl rfl)
theorem dX3_place_44 : decode cX3_place 44 = .ok (.bipush 6, 2) := dk_16 6 (dk_at dksX3_place_1 22 rfl rfl)
theorem dX3_place_46 : decode cX3_place 46 = .ok (.invokestatic 114, 3) := dk_184 0 114 (dk_at dksX3_place_2 0 rfl rfl)
theorem dX3_place_49 : decode cX3_place 49 = .ok (.ifCond .ne 6, 3) := dk_154 0 6 (dk_at dksX3_place_2 3 rfl rfl)
theorem dX3_place_52 : decode cX3_place 52 = .ok (.bipush (-2), 2) := dk_16 254 (dk_at dksX3_place_2 6 rfl rfl)
theorem dX3_place_54 : decode cX3_place 54 = .ok (.ireturn, 1) := dk_172 (dk_at dksX3_place_2 8 rfl rfl)
theorem dX3_place_55 : decode cX3_place 55 = .ok (.iconst 3, 1) := dk_6 (dk_at dksX3_place_2 9 rfl rfl)
theorem dX3_place_56 : decode cX3_place 56 = .ok (.iload_n 1, 1) := dk_27 (dk_at dksX3_place_2 10 rfl rfl)
theorem dX3_place_57 : decode cX3_place 57 = .ok (.imul, 1) := dk_104 (dk_at dksX3_place_2 11 rfl rfl)
theorem dX3_place_58 : decode cX3_place 58 = .ok (.iload_n 2, 1) := dk_28 (dk_at dksX3_place_2 12 rfl rfl)
theorem dX3_place_59 : decode cX3_place 59 = .ok (.iadd, 1) := dk_96 (dk_at dksX3_place_2 13 rfl rfl)
theorem dX3_place_60 : decode cX3_place 60 = .ok (.istore 6, 2) := dk_54 6 (dk_at dksX3_place_2 14 rfl rfl)
theorem dX3_place_62 : decode cX3_place 62 = .ok (.aload_n 0, 1) := dk_42 (dk_at dksX3_place_2 16 rfl rfl)
theorem dX3_place_63 : decode cX3_place 63 = .ok (.iconst 3, 1) := dk_6 (dk_at dksX3_place_2 17 rfl rfl)
theorem dX3_place_64 : decode cX3_place 64 = .ok (.iload 6, 2) := dk_21 6 (dk_at dksX3_place_2 18 rfl rfl)
theorem dX3_place_66 : decode cX3_place 66 = .ok (.aload_n 0, 1) := dk_42 (dk_at dksX3_place_2 20 rfl rfl)
theorem dX3_place_67 : decode cX3_place 67 = .ok (.getfield 44, 3) := dk_180 0 44 (dk_at dksX3_place_2 21 rfl rfl)
theorem dX3_place_70 : decode cX3_place 70 = .ok (.iload 6, 2) := dk_21 6 (dk_at dksX3_place_3 0 rfl rfl)
theorem dX3_place_72 : decode cX3_place 72 = .ok (.iaload, 1) := dk_46 (dk_at dksX3_place_3 2 rfl rfl)
theorem dX3_place_73 : decode cX3_place 73 = .ok (.aload_n 0, 1) := dk_42 (dk_at dksX3_place_3 3 rfl rfl)
theorem dX3_place_74 : decode cX3_place 74 = .ok (.getfield 47, 3) := dk_180 0 47 (dk_at dksX3_place_3 4 rfl rfl)
theorem dX3_place_77 : decode cX3_place 77 = .ok (.iload 6, 2) := dk_21 6 (dk_at dksX3_place_3 7 rfl rfl)
theorem dX3_place_79 : decode cX3_place 79 = .ok (.iaload, 1) := dk_46 (dk_at dksX3_place_3 9 rfl rfl)
theorem dX3_place_80 : decode cX3_place 80 = .ok (.aload_n 0, 1) := dk_42 (dk_at dksX3_place_3 10 rfl rfl)
theorem dX3_place_81 : decode cX3_place 81 = .ok (.getfield 50, 3) := dk_180 0 50 (dk_at dksX3_place_3 11 rfl rfl)
theorem dX3_place_84 : decode cX3_place 84 = .ok (.iload 6, 2) := dk_21 6 (dk_at dksX3_place_3 14 rfl rfl)
theorem dX3_place_86 : decode cX3_place 86 = .ok (.iaload, 1) := dk_46 (dk_at dksX3_place_3 16 rfl rfl)
theorem dX3_place_87 : decode cX3_place 87 = .ok (.invokevirtual 157, 3) := dk_182 0 157 (dk_at dksX3_place_3 17 rfl rfl)
theorem dX3_place_90 : decode cX3_place 90 = .ok (.aload_n 0, 1) := dk_42 (dk_at dksX3_place_3 20 rfl rfl)
theorem dX3_place_91 : decode cX3_place 91 = .ok (.getfield 44, 3) := dk_180 0 44 (dk_at dksX3_place_3 21 rfl rfl)
theorem dX3_place_94 : decode cX3_place 94 = .ok (.iload 6, 2) := dk_21 6 (dk_at dksX3_place_4 0 rfl rfl)
theorem dX3_place_96 : decode cX3_place 96 = .ok (.iload_n 3, 1) := dk_29 (dk_at dksX3_place_4 2 rfl rfl)
theorem dX3_place_97 : decode cX3_place 97 = .ok (.iastore, 1) := dk_79 (dk_at dksX3_place_4 3 rfl rfl)
theorem dX3_place_98 : decode cX3_place 98 = .ok (.aload_n 0, 1) := dk_42 (dk_at dksX3_place_4 4 rfl rfl)
theorem dX3_place_99 : decode cX3_place 99 = .ok (.getfield 47, 3) := dk_180 0 47 (dk_at dksX3_place_4 5 rfl rfl)
theorem dX3_place_102 : decode cX3_place 102 = .ok (.iload 6, 2) := dk_21 6 (dk_at dksX3_place_4 8 rfl rfl)
theorem dX3_place_104 : decode cX3_place 104 = .ok (.iload 4, 2) := dk_21 4 (dk_at dksX3_place_4 10 rfl rfl)
theorem dX3_place_106 : decode cX3_place 106 = .ok (.iastore, 1) := dk_79 (dk_at dksX3_place_4 12 rfl rfl)
theorem dX3_place_107 : decode cX3_place 107 = .ok (.aload_n 0, 1) := dk_42 (dk_at dksX3_place_4 13 rfl rfl)
theorem dX3_place_108 : decode cX3_place 108 = .ok (.getfield 50, 3) := dk_180 0 50 (dk_at dksX3_place_4 14 rfl rfl)
theorem dX3_place_111 : decode cX3_place 111 = .ok (.iload 6, 2) := dk_21 6 (dk_at dksX3_place_4 17 rfl rfl)
theorem dX3_place_113 : decode cX3_place 113 = .ok (.iload 5, 2) := dk_21 5 (dk_at dksX3_place_4 19 rfl rfl)
theorem dX3_place_115 : decode cX3_place 115 = .ok (.iastore, 1) := dk_79 (dk_at dksX3_place_4 21 rfl rfl)
theorem dX3_place_116 : decode cX3_place 116 = .ok (.iconst 1, 1) := dk_4 (dk_at dksX3_place_4 22 rfl rfl)
theorem dX3_place_117 : decode cX3_place 117 = .ok (.ireturn, 1) := dk_172 (dk_at dksX3_place_4 23 rfl rfl)
abbrev cX3_guard : ByteArray := prog_18_method_27_code
def yX3_guard : MethodName := ⟨RX3, "guard", "(III)I"⟩
def dkwX3_guard_2 : List UInt8 := [3, 182, 0, 157, 42, 180, 0, 32, 27, 28, 79, 42, 180, 0, 35, 27, 29, 79, 4, 172]
abbrev dktX3_guard_2 : List UInt8 := dkwX3_guard_2 ++ []
def dkwX3_guard_1 : List UInt8 := [184, 0, 114, 154, 0, 6, 16, 254, 172, 42, 7, 27, 42, 180, 0, 32, 27, 46, 42, 180, 0, 35, 27, 46]
abbrev dktX3_guard_1 : List UInt8 := dkwX3_guard_1 ++ dktX3_guard_2
def dkwX3_guard_0 : List UInt8 := [42, 27, 182, 0, 174, 153, 0, 24, 28, 4, 16, 6, 184, 0, 114, 153, 0, 14, 29, 3, 28, 4, 100]
abbrev dktX3_guard_0 : List UInt8 := dkwX3_guard_0 ++ dktX3_guard_1
theorem dksX3_guard_0 : cX3_guard.data.toList.drop 0 = dktX3_guard_0 := by decide +kernel
theorem dksX3_guard_1 : cX3_guard.data.toList.drop 23 = dktX3_guard_1 := dk_seg dksX3_guard_0 23 rfl rfl
theorem dksX3_guard_2 : cX3_guard.data.toList.drop 47 = dktX3_guard_2 := dk_seg dksX3_guard_1 24 rfl rfl
theorem dX3_guard_0 : decode cX3_guard 0 = .ok (.aload_n 0, 1) := dk_42 (dk_at dksX3_guard_0 0 rfl rfl)
theorem dX3_guard_1 : decode cX3_guard 1 = .ok (.iload_n 1, 1) := dk_27 (dk_at dksX3_guard_0 1 rfl rfl)
theorem dX3_guard_2 : decode cX3_guard 2 = .ok (.invokevirtual 174, 3) := dk_182 0 174 (dk_at dksX3_guard_0 2 rfl rfl)
theorem dX3_guard_5 : decode cX3_guard 5 = .ok (.ifCond .eq 24, 3) := dk_153 0 24 (dk_at dksX3_guard_0 5 rfl rfl)
theorem dX3_guard_8 : decode cX3_guard 8 = .ok (.iload_n 2, 1) := dk_28 (dk_at dksX3_guard_0 8 rfl rfl)
theorem dX3_guard_9 : decode cX3_guard 9 = .ok (.iconst 1, 1) := dk_4 (dk_at dksX3_guard_0 9 rfl rfl)
theorem dX3_guard_10 : decode cX3_guard 10 = .ok (.bipush 6, 2) := dk_16 6 (dk_at dksX3_guard_0 10 rfl rfl)
theorem dX3_guard_12 : decode cX3_guard 12 = .ok (.invokestatic 114, 3) := dk_184 0 114 (dk_at dksX3_guard_0 12 rfl rfl)
theorem dX3_guard_15 : decode cX3_guard 15 = .ok (.ifCond .eq 14, 3) := dk_153 0 14 (dk_at dksX3_guard_0 15 rfl rfl)
theorem dX3_guard_18 : decode cX3_guard 18 = .ok (.iload_n 3, 1) := dk_29 (dk_at dksX3_guard_0 18 rfl rfl)
theorem dX3_guard_19 : decode cX3_guard 19 = .ok (.iconst 0, 1) := dk_3 (dk_at dksX3_guard_0 19 rfl rfl)
theorem dX3_guard_20 : decode cX3_guard 20 = .ok (.iload_n 2, 1) := dk_28 (dk_at dksX3_guard_0 20 rfl rfl)
theorem dX3_guard_21 : decode cX3_guard 21 = .ok (.iconst 1, 1) := dk_4 (dk_at dksX3_guard_0 21 rfl rfl)
theorem dX3_guard_22 : decode cX3_guard 22 = .ok (.isub, 1) := dk_100 (dk_at dksX3_guard_0 22 rfl rfl)
theorem dX3_guard_23 : decode cX3_guard 23 = .ok (.invokestatic 114, 3) := dk_184 0 114 (dk_at dksX3_guard_1 0 rfl rfl)
theorem dX3_guard_26 : decode cX3_guard 26 = .ok (.ifCond .ne 6, 3) := dk_154 0 6 (dk_at dksX3_guard_1 3 rfl rfl)
theorem dX3_guard_29 : decode cX3_guard 29 = .ok (.bipush (-2), 2) := dk_16 254 (dk_at dksX3_guard_1 6 rfl rfl)
theorem dX3_guard_31 : decode cX3_guard 31 = .ok (.ireturn, 1) := dk_172 (dk_at dksX3_guard_1 8 rfl rfl)
theorem dX3_guard_32 : decode cX3_guard 32 = .ok (.aload_n 0, 1) := dk_42 (dk_at dksX3_guard_1 9 rfl rfl)
theorem dX3_guard_33 : decode cX3_guard 33 = .ok (.iconst 4, 1) := dk_7 (dk_at dksX3_guard_1 10 rfl rfl)
theorem dX3_guard_34 : decode cX3_guard 34 = .ok (.iload_n 1, 1) := dk_27 (dk_at dksX3_guard_1 11 rfl rfl)
theorem dX3_guard_35 : decode cX3_guard 35 = .ok (.aload_n 0, 1) := dk_42 (dk_at dksX3_guard_1 12 rfl rfl)
theorem dX3_guard_36 : decode cX3_guard 36 = .ok (.getfield 32, 3) := dk_180 0 32 (dk_at dksX3_guard_1 13 rfl rfl)
theorem dX3_guard_39 : decode cX3_guard 39 = .ok (.iload_n 1, 1) := dk_27 (dk_at dksX3_guard_1 16 rfl rfl)
theorem dX3_guard_40 : decode cX3_guard 40 = .ok (.iaload, 1) := dk_46 (dk_at dksX3_guard_1 17 rfl rfl)
theorem dX3_guard_41 : decode cX3_guard 41 = .ok (.aload_n 0, 1) := dk_42 (dk_at dksX3_guard_1 18 rfl rfl)
theorem dX3_guard_42 : decode cX3_guard 42 = .ok (.getfield 35, 3) := dk_180 0 35 (dk_at dksX3_guard_1 19 rfl rfl)
theorem dX3_guard_45 : decode cX3_guard 45 = .ok (.iload_n 1, 1) := dk_27 (dk_at dksX3_guard_1 22 rfl rfl)
theorem dX3_guard_46 : decode cX3_guard 46 = .ok (.iaload, 1) := dk_46 (dk_at dksX3_guard_1 23 rfl rfl)
theorem dX3_guard_47 : decode cX3_guard 47 = .ok (.iconst 0, 1) := dk_3 (dk_at dksX3_guard_2 0 rfl rfl)
theorem dX3_guard_48 : decode cX3_guard 48 = .ok (.invokevirtual 157, 3) := dk_182 0 157 (dk_at dksX3_guard_2 1 rfl rfl)
theorem dX3_guard_51 : decode cX3_guard 51 = .ok (.aload_n 0, 1) := dk_42 (dk_at dksX3_guard_2 4 rfl rfl)
theorem dX3_guard_52 : decode cX3_guard 52 = .ok (.getfield 32, 3) := dk_180 0 32 (dk_at dksX3_guard_2 5 rfl rfl)
theorem dX3_guard_55 : decode cX3_guard 55 = .ok (.iload_n 1, 1) := dk_27 (dk_at dksX3_guard_2 8 rfl rfl)
theorem dX3_guard_56 : decode cX3_guard 56 = .ok (.iload_n 2, 1) := dk_28 (dk_at dksX3_guard_2 9 rfl rfl)
theorem dX3_guard_57 : decode cX3_guard 57 = .ok (.iastore, 1) := dk_79 (dk_at dksX3_guard_2 10 rfl rfl)
theorem dX3_guard_58 : decode cX3_guard 58 = .ok (.aload_n 0, 1) := dk_42 (dk_at dksX3_guard_2 11 rfl rfl)
theorem dX3_guard_59 : decode cX3_guard 59 = .ok (.getfield 35, 3) := dk_180 0 35 (dk_at dksX3_guard_2 12 rfl rfl)
theorem dX3_guard_62 : decode cX3_guard 62 = .ok (.iload_n 1, 1) := dk_27 (dk_at dksX3_guard_2 15 rfl rfl)
theorem dX3_guard_63 : decode cX3_guard 63 = .ok (.iload_n 3, 1) := dk_29 (dk_at dksX3_guard_2 16 rfl rfl)
theorem dX3_guard_64 : decode cX3_guard 64 = .ok (.iastore, 1) := dk_79 (dk_at dksX3_guard_2 17 rfl rfl)
theorem dX3_guard_65 : decode cX3_guard 65 = .ok (.iconst 1, 1) := dk_4 (dk_at dksX3_guard_2 18 rfl rfl)
theorem dX3_guard_66 : decode cX3_guard 66 = .ok (.ireturn, 1) := dk_172 (dk_at dksX3_guard_2 19 rfl rfl)
abbrev cX3_mask : ByteArray := prog_18_method_28_code
def yX3_mask : MethodName := ⟨RX3, "mask", "(II)I"⟩
def dkwX3_mask_1 : List UInt8 := [27, 46, 62, 42, 8, 27, 29, 3, 3, 182, 0, 157, 42, 180, 0, 38, 27, 28, 79, 29, 172]
abbrev dktX3_mask_1 : List UInt8 := dkwX3_mask_1 ++ []
def dkwX3_mask_0 : List UInt8 := [42, 27, 182, 0, 174, 153, 0, 12, 28, 2, 8, 184, 0, 114, 154, 0, 6, 16, 254, 172, 42, 180, 0, 38]
abbrev dktX3_mask_0 : List UInt8 := dkwX3_mask_0 ++ dktX3_mask_1
theorem dksX3_mask_0 : cX3_mask.data.toList.drop 0 = dktX3_mask_0 := by decide +kernel
theorem dksX3_mask_1 : cX3_mask.data.toList.drop 24 = dktX3_mask_1 := dk_seg dksX3_mask_0 24 rfl rfl
theorem dX3_mask_0 : decode cX3_mask 0 = .ok (.aload_n 0, 1) := dk_42 (dk_at dksX3_mask_0 0 rfl rfl)
theorem dX3_mask_1 : decode cX3_mask 1 = .ok (.iload_n 1, 1) := dk_27 (dk_at dksX3_mask_0 1 rfl rfl)
theorem dX3_mask_2 : decode cX3_mask 2 = .ok (.invokevirtual 174, 3) := dk_182 0 174 (dk_at dksX3_mask_0 2 rfl rfl)
theorem dX3_mask_5 : decode cX3_mask 5 = .ok (.ifCond .eq 12, 3) := dk_153 0 12 (dk_at dksX3_mask_0 5 rfl rfl)
theorem dX3_mask_8 : decode cX3_mask 8 = .ok (.iload_n 2, 1) := dk_28 (dk_at dksX3_mask_0 8 rfl rfl)
theorem dX3_mask_9 : decode cX3_mask 9 = .ok (.iconst (-1), 1) := dk_2 (dk_at dksX3_mask_0 9 rfl rfl)
theorem dX3_mask_10 : decode cX3_mask 10 = .ok (.iconst 5, 1) := dk_8 (dk_at dksX3_mask_0 10 rfl rfl)
theorem dX3_mask_11 : decode cX3_mask 11 = .ok (.invokestatic 114, 3) := dk_184 0 114 (dk_at dksX3_mask_0 11 rfl rfl)
theorem dX3_mask_14 : decode cX3_mask 14 = .ok (.ifCond .ne 6, 3) := dk_154 0 6 (dk_at dksX3_mask_0 14 rfl rfl)
theorem dX3_mask_17 : decode cX3_mask 17 = .ok (.bipush (-2), 2) := dk_16 254 (dk_at dksX3_mask_0 17 rfl rfl)
theorem dX3_mask_19 : decode cX3_mask 19 = .ok (.ireturn, 1) := dk_172 (dk_at dksX3_mask_0 19 rfl rfl)
theorem dX3_mask_20 : decode cX3_mask 20 = .ok (.aload_n 0, 1) := dk_42 (dk_at dksX3_mask_0 20 rfl rfl)
theorem dX3_mask_21 : decode cX3_mask 21 = .ok (.getfield 38, 3) := dk_180 0 38 (dk_at dksX3_mask_0 21 rfl rfl)
theorem dX3_mask_24 : decode cX3_mask 24 = .ok (.iload_n 1, 1) := dk_27 (dk_at dksX3_mask_1 0 rfl rfl)
theorem dX3_mask_25 : decode cX3_mask 25 = .ok (.iaload, 1) := dk_46 (dk_at dksX3_mask_1 1 rfl rfl)
theorem dX3_mask_26 : decode cX3_mask 26 = .ok (.istore_n 3, 1) := dk_62 (dk_at dksX3_mask_1 2 rfl rfl)
theorem dX3_mask_27 : decode cX3_mask 27 = .ok (.aload_n 0, 1) := dk_42 (dk_at dksX3_mask_1 3 rfl rfl)
theorem dX3_mask_28 : decode cX3_mask 28 = .ok (.iconst 5, 1) := dk_8 (dk_at dksX3_mask_1 4 rfl rfl)
theorem dX3_mask_29 : decode cX3_mask 29 = .ok (.iload_n 1, 1) := dk_27 (dk_at dksX3_mask_1 5 rfl rfl)
theorem dX3_mask_30 : decode cX3_mask 30 = .ok (.iload_n 3, 1) := dk_29 (dk_at dksX3_mask_1 6 rfl rfl)
theorem dX3_mask_31 : decode cX3_mask 31 = .ok (.iconst 0, 1) := dk_3 (dk_at dksX3_mask_1 7 rfl rfl)
theorem dX3_mask_32 : decode cX3_mask 32 = .ok (.iconst 0, 1) := dk_3 (dk_at dksX3_mask_1 8 rfl rfl)
theorem dX3_mask_33 : decode cX3_mask 33 = .ok (.invokevirtual 157, 3) := dk_182 0 157 (dk_at dksX3_mask_1 9 rfl rfl)
theorem dX3_mask_36 : decode cX3_mask 36 = .ok (.aload_n 0, 1) := dk_42 (dk_at dksX3_mask_1 12 rfl rfl)
theorem dX3_mask_37 : decode cX3_mask 37 = .ok (.getfield 38, 3) := dk_180 0 38 (dk_at dksX3_mask_1 13 rfl rfl)
theorem dX3_mask_40 : decode cX3_mask 40 = .ok (.iload_n 1, 1) := dk_27 (dk_at dksX3_mask_1 16 rfl rfl)
theorem dX3_mask_41 : decode cX3_mask 41 = .ok (.iload_n 2, 1) := dk_28 (dk_at dksX3_mask_1 17 rfl rfl)
theorem dX3_mask_42 : decode cX3_mask 42 = .ok (.iastore, 1) := dk_79 (dk_at dksX3_mask_1 18 rfl rfl)
theorem dX3_mask_43 : decode cX3_mask 43 = .ok (.iload_n 3, 1) := dk_29 (dk_at dksX3_mask_1 19 rfl rfl)
theorem dX3_mask_44 : decode cX3_mask 44 = .ok (.ireturn, 1) := dk_172 (dk_at dksX3_mask_1 20 rfl rfl)
abbrev cX3_undo : ByteArray := prog_18_method_29_code
def yX3_undo : MethodName := ⟨RX3, "undo", "()I"⟩
def dkwX3_undo_9 : List UInt8 := [27, 172]
abbrev dktX3_undo_9 : List UInt8 := dkwX3_undo_9 ++ []
def dkwX3_undo_8 : List UInt8 := [180, 0, 32, 28, 29, 79, 42, 180, 0, 35, 28, 21, 4, 79, 167, 0, 10, 42, 180, 0, 38, 28, 29, 79]
abbrev dktX3_undo_8 : List UInt8 := dkwX3_undo_8 ++ dktX3_undo_9
def dkwX3_undo_7 : List UInt8 := [42, 180, 0, 50, 28, 42, 180, 0, 53, 16, 6, 42, 180, 0, 151, 104, 7, 96, 46, 79, 167, 0, 28, 42]
abbrev dktX3_undo_7 : List UInt8 := dkwX3_undo_7 ++ dktX3_undo_8
def dkwX3_undo_6 : List UInt8 := [180, 0, 41, 28, 29, 79, 167, 0, 66, 42, 180, 0, 44, 28, 29, 79, 42, 180, 0, 47, 28, 21, 4, 79]
abbrev dktX3_undo_6 : List UInt8 := dkwX3_undo_6 ++ dktX3_undo_7
def dkwX3_undo_5 : List UInt8 := [42, 29, 181, 0, 154, 167, 0, 89, 42, 89, 180, 0, 171, 4, 100, 181, 0, 171, 167, 0, 76, 42]
abbrev dktX3_undo_5 : List UInt8 := dkwX3_undo_5 ++ dktX3_undo_6
def dkwX3_undo_4 : List UInt8 := [170, 0, 0, 0, 0, 0, 0, 123, 0, 0, 0, 0, 0, 0, 0, 4, 0, 0, 0, 36, 0, 0, 0, 44, 0, 0, 0, 57, 0, 0, 0, 67, 0, 0, 0, 105]
abbrev dktX3_undo_4 : List UInt8 := dkwX3_undo_4 ++ dktX3_undo_5
def dkwX3_undo_3 : List UInt8 := [180, 0, 151, 104, 6, 96, 46, 54, 4, 27]
abbrev dktX3_undo_3 : List UInt8 := dkwX3_undo_3 ++ dktX3_undo_4
def dkwX3_undo_2 : List UInt8 := [42, 180, 0, 53, 16, 6, 42, 180, 0, 151, 104, 5, 96, 46, 62, 42, 180, 0, 53, 16, 6, 42]
abbrev dktX3_undo_2 : List UInt8 := dkwX3_undo_2 ++ dktX3_undo_3
def dkwX3_undo_1 : List UInt8 := [16, 6, 42, 180, 0, 151, 104, 46, 60, 42, 180, 0, 53, 16, 6, 42, 180, 0, 151, 104, 4, 96, 46, 61]
abbrev dktX3_undo_1 : List UInt8 := dkwX3_undo_1 ++ dktX3_undo_2
def dkwX3_undo_0 : List UInt8 := [42, 180, 0, 151, 154, 0, 6, 16, 253, 172, 42, 89, 180, 0, 151, 4, 100, 181, 0, 151, 42, 180, 0, 53]
abbrev dktX3_undo_0 : List UInt8 := dkwX3_undo_0 ++ dktX3_undo_1
theorem dksX3_undo_0 : cX3_undo.data.toList.drop 0 = dktX3_undo_0 := by decide +kernel
theorem dksX3_undo_1 : cX3_undo.data.toList.drop 24 = dktX3_undo_1 := dk_seg dksX3_undo_0 24 rfl rfl
theorem dksX3_undo_2 : cX3_undo.data.toList.drop 48 = dktX3_undo_2 := dk_seg dksX3_undo_1 24 rfl rfl
theorem dksX3_undo_3 : cX3_undo.data.toList.drop 70 = dktX3_undo_3 := dk_seg dksX3_undo_2 22 rfl rfl
theorem dksX3_undo_4 : cX3_undo.data.toList.drop 80 = dktX3_undo_4 := dk_seg dksX3_undo_3 10 rfl rfl
theorem dksX3_undo_5 : cX3_undo.data.toList.drop 116 = dktX3_undo_5 := dk_seg dksX3_undo_4 36 rfl rfl
theorem dksX3_undo_6 : cX3_undo.data.toList.drop 138 = dktX3_undo_6 := dk_seg dksX3_undo_5 22 rfl rfl
theorem dksX3_undo_7 : cX3_undo.data.toList.drop 162 = dktX3_undo_7 := dk_seg dksX3_undo_6 24 rfl rfl
theorem dksX3_undo_8 : cX3_undo.data.toList.drop 186 = dktX3_undo_8 := dk_seg dksX3_undo_7 24 rfl rfl
theorem dksX3_undo_9 : cX3_undo.data.toList.drop 210 = dktX3_undo_9 := dk_seg dksX3_undo_8 24 rfl rfl
theorem dX3_undo_0 : decode cX3_undo 0 = .ok (.aload_n 0, 1) := dk_42 (dk_at dksX3_undo_0 0 rfl rfl)
theorem dX3_undo_1 : decode cX3_undo 1 = .ok (.getfield 151, 3) := dk_180 0 151 (dk_at dksX3_undo_0 1 rfl rfl)
theorem dX3_undo_4 : decode cX3_undo 4 = .ok (.ifCond .ne 6, 3) := dk_154 0 6 (dk_at dksX3_undo_0 4 rfl rfl)
theorem dX3_undo_7 : decode cX3_undo 7 = .ok (.bipush (-3), 2) := dk_16 253 (dk_at dksX3_undo_0 7 rfl rfl)
theorem dX3_undo_9 : decode cX3_undo 9 = .ok (.ireturn, 1) := dk_172 (dk_at dksX3_undo_0 9 rfl rfl)
theorem dX3_undo_10 : decode cX3_undo 10 = .ok (.aload_n 0, 1) := dk_42 (dk_at dksX3_undo_0 10 rfl rfl)
theorem dX3_undo_11 : decode cX3_undo 11 = .ok (.dup, 1) := dk_89 (dk_at dksX3_undo_0 11 rfl rfl)
theorem dX3_undo_12 : decode cX3_undo 12 = .ok (.getfield 151, 3) := dk_180 0 151 (dk_at dksX3_undo_0 12 rfl rfl)
theorem dX3_undo_15 : decode cX3_undo 15 = .ok (.iconst 1, 1) := dk_4 (dk_at dksX3_undo_0 15 rfl rfl)
theorem dX3_undo_16 : decode cX3_undo 16 = .ok (.isub, 1) := dk_100 (dk_at dksX3_undo_0 16 rfl rfl)
theorem dX3_undo_17 : decode cX3_undo 17 = .ok (.putfield 151, 3) := dk_181 0 151 (dk_at dksX3_undo_0 17 rfl rfl)
theorem dX3_undo_20 : decode cX3_undo 20 = .ok (.aload_n 0, 1) := dk_42 (dk_at dksX3_undo_0 20 rfl rfl)
theorem dX3_undo_21 : decode cX3_undo 21 = .ok (.getfield 53, 3) := dk_180 0 53 (dk_at dksX3_undo_0 21 rfl rfl)
theorem dX3_undo_24 : decode cX3_undo 24 = .ok (.bipush 6, 2) := dk_16 6 (dk_at dksX3_undo_1 0 rfl rfl)
theorem dX3_undo_26 : decode cX3_undo 26 = .ok (.aload_n 0, 1) := dk_42 (dk_at dksX3_undo_1 2 rfl rfl)
theorem dX3_undo_27 : decode cX3_undo 27 = .ok (.getfield 151, 3) := dk_180 0 151 (dk_at dksX3_undo_1 3 rfl rfl)
theorem dX3_undo_30 : decode cX3_undo 30 = .ok (.imul, 1) := dk_104 (dk_at dksX3_undo_1 6 rfl rfl)
theorem dX3_undo_31 : decode cX3_undo 31 = .ok (.iaload, 1) := dk_46 (dk_at dksX3_undo_1 7 rfl rfl)
theorem dX3_undo_32 : decode cX3_undo 32 = .ok (.istore_n 1, 1) := dk_60 (dk_at dksX3_undo_1 8 rfl rfl)
theorem dX3_undo_33 : decode cX3_undo 33 = .ok (.aload_n 0, 1) := dk_42 (dk_at dksX3_undo_1 9 rfl rfl)
theorem dX3_undo_34 : decode cX3_undo 34 = .ok (.getfield 53, 3) := dk_180 0 53 (dk_at dksX3_undo_1 10 rfl rfl)
theorem dX3_undo_37 : decode cX3_undo 37 = .ok (.bipush 6, 2) := dk_16 6 (dk_at dksX3_undo_1 13 rfl rfl)
theorem dX3_undo_39 : decode cX3_undo 39 = .ok (.aload_n 0, 1) := dk_42 (dk_at dksX3_undo_1 15 rfl rfl)
theorem dX3_undo_40 : decode cX3_undo 40 = .ok (.getfield 151, 3) := dk_180 0 151 (dk_at dksX3_undo_1 16 rfl rfl)
theorem dX3_undo_43 : decode cX3_undo 43 = .ok (.imul, 1) := dk_104 (dk_at dksX3_undo_1 19 rfl rfl)
theorem dX3_undo_44 : decode cX3_undo 44 = .ok (.iconst 1, 1) := dk_4 (dk_at dksX3_undo_1 20 rfl rfl)
theorem dX3_undo_45 : decode cX3_undo 45 = .ok (.iadd, 1) := dk_96 (dk_at dksX3_undo_1 21 rfl rfl)
theorem dX3_undo_46 : decode cX3_undo 46 = .ok (.iaload, 1) := dk_46 (dk_at dksX3_undo_1 22 rfl rfl)
theorem dX3_undo_47 : decode cX3_undo 47 = .ok (.istore_n 2, 1) := dk_61 (dk_at dksX3_undo_1 23 rfl rfl)
theorem dX3_undo_48 : decode cX3_undo 48 = .ok (.aload_n 0, 1) := dk_42 (dk_at dksX3_undo_2 0 rfl rfl)
theorem dX3_undo_49 : decode cX3_undo 49 = .ok (.getfield 53, 3) := dk_180 0 53 (dk_at dksX3_undo_2 1 rfl rfl)
theorem dX3_undo_52 : decode cX3_undo 52 = .ok (.bipush 6, 2) := dk_16 6 (dk_at dksX3_undo_2 4 rfl rfl)
theorem dX3_undo_54 : decode cX3_undo 54 = .ok (.aload_n 0, 1) := dk_42 (dk_at dksX3_undo_2 6 rfl rfl)
theorem dX3_undo_55 : decode cX3_undo 55 = .ok (.getfield 151, 3) := dk_180 0 151 (dk_at dksX3_undo_2 7 rfl rfl)
theorem dX3_undo_58 : decode cX3_undo 58 = .ok (.imul, 1) := dk_104 (dk_at dksX3_undo_2 10 rfl rfl)
theorem dX3_undo_59 : decode cX3_undo 59 = .ok (.iconst 2, 1) := dk_5 (dk_at dksX3_undo_2 11 rfl rfl)
theorem dX3_undo_60 : decode cX3_undo 60 = .ok (.iadd, 1) := dk_96 (dk_at dksX3_undo_2 12 rfl rfl)
theorem dX3_undo_61 : decode cX3_undo 61 = .ok (.iaload, 1) := dk_46 (dk_at dksX3_undo_2 13 rfl rfl)
theorem dX3_undo_62 : decode cX3_undo 62 = .ok (.istore_n 3, 1) := dk_62 (dk_at dksX3_undo_2 14 rfl rfl)
theorem dX3_undo_63 : decode cX3_undo 63 = .ok (.aload_n 0, 1) := dk_42 (dk_at dksX3_undo_2 15 rfl rfl)
theorem dX3_undo_64 : decode cX3_undo 64 = .ok (.getfield 53, 3) := dk_180 0 53 (dk_at dksX3_undo_2 16 rfl rfl)
theorem dX3_undo_67 : decode cX3_undo 67 = .ok (.bipush 6, 2) := dk_16 6 (dk_at dksX3_undo_2 19 rfl rfl)
theorem dX3_undo_69 : decode cX3_undo 69 = .ok (.aload_n 0, 1) := dk_42 (dk_at dksX3_undo_2 21 rfl rfl)
theorem dX3_undo_70 : decode cX3_undo 70 = .ok (.getfield 151, 3) := dk_180 0 151 (dk_at dksX3_undo_3 0 rfl rfl)
theorem dX3_undo_73 : decode cX3_undo 73 = .ok (.imul, 1) := dk_104 (dk_at dksX3_undo_3 3 rfl rfl)
theorem dX3_undo_74 : decode cX3_undo 74 = .ok (.iconst 3, 1) := dk_6 (dk_at dksX3_undo_3 4 rfl rfl)
theorem dX3_undo_75 : decode cX3_undo 75 = .ok (.iadd, 1) := dk_96 (dk_at dksX3_undo_3 5 rfl rfl)
theorem dX3_undo_76 : decode cX3_undo 76 = .ok (.iaload, 1) := dk_46 (dk_at dksX3_undo_3 6 rfl rfl)
theorem dX3_undo_77 : decode cX3_undo 77 = .ok (.istore 4, 2) := dk_54 4 (dk_at dksX3_undo_3 7 rfl rfl)
theorem dX3_undo_79 : decode cX3_undo 79 = .ok (.iload_n 1, 1) := dk_27 (dk_at dksX3_undo_3 9 rfl rfl)
theorem dX3_undo_80 : decode cX3_undo 80 = .ok (.tableswitch 123 0 4 #[36, 44, 57, 67, 105], 36) := by decide +kernel
theorem dX3_undo_116 : decode cX3_undo 116 = .ok (.aload_n 0, 1) := dk_42 (dk_at dksX3_undo_5 0 rfl rfl)
theorem dX3_undo_117 : decode cX3_undo 117 = .ok (.iload_n 3, 1) := dk_29 (dk_at dksX3_undo_5 1 rfl rfl)
theorem dX3_undo_118 : decode cX3_undo 118 = .ok (.putfield 154, 3) := dk_181 0 154 (dk_at dksX3_undo_5 2 rfl rfl)
theorem dX3_undo_121 : decode cX3_undo 121 = .ok (.goto 89, 3) := dk_167 0 89 (dk_at dksX3_undo_5 5 rfl rfl)
theorem dX3_undo_124 : decode cX3_undo 124 = .ok (.aload_n 0, 1) := dk_42 (dk_at dksX3_undo_5 8 rfl rfl)
theorem dX3_undo_125 : decode cX3_undo 125 = .ok (.dup, 1) := dk_89 (dk_at dksX3_undo_5 9 rfl rfl)
theorem dX3_undo_126 : decode cX3_undo 126 = .ok (.getfield 171, 3) := dk_180 0 171 (dk_at dksX3_undo_5 10 rfl rfl)
theorem dX3_undo_129 : decode cX3_undo 129 = .ok (.iconst 1, 1) := dk_4 (dk_at dksX3_undo_5 13 rfl rfl)
theorem dX3_undo_130 : decode cX3_undo 130 = .ok (.isub, 1) := dk_100 (dk_at dksX3_undo_5 14 rfl rfl)
theorem dX3_undo_131 : decode cX3_undo 131 = .ok (.putfield 171, 3) := dk_181 0 171 (dk_at dksX3_undo_5 15 rfl rfl)
theorem dX3_undo_134 : decode cX3_undo 134 = .ok (.goto 76, 3) := dk_167 0 76 (dk_at dksX3_undo_5 18 rfl rfl)
theorem dX3_undo_137 : decode cX3_undo 137 = .ok (.aload_n 0, 1) := dk_42 (dk_at dksX3_undo_5 21 rfl rfl)
theorem dX3_undo_138 : decode cX3_undo 138 = .ok (.getfield 41, 3) := dk_180 0 41 (dk_at dksX3_undo_6 0 rfl rfl)
theorem dX3_undo_141 : decode cX3_undo 141 = .ok (.iload_n 2, 1) := dk_28 (dk_at dksX3_undo_6 3 rfl rfl)
theorem dX3_undo_142 : decode cX3_undo 142 = .ok (.iload_n 3, 1) := dk_29 (dk_at dksX3_undo_6 4 rfl rfl)
theorem dX3_undo_143 : decode cX3_undo 143 = .ok (.iastore, 1) := dk_79 (dk_at dksX3_undo_6 5 rfl rfl)
theorem dX3_undo_144 : decode cX3_undo 144 = .ok (.goto 66, 3) := dk_167 0 66 (dk_at dksX3_undo_6 6 rfl rfl)
theorem dX3_undo_147 : decode cX3_undo 147 = .ok (.aload_n 0, 1) := dk_42 (dk_at dksX3_undo_6 9 rfl rfl)
theorem dX3_undo_148 : decode cX3_undo 148 = .ok (.getfield 44, 3) := dk_180 0 44 (dk_at dksX3_undo_6 10 rfl rfl)
theorem dX3_undo_151 : decode cX3_undo 151 = .ok (.iload_n 2, 1) := dk_28 (dk_at dksX3_undo_6 13 rfl rfl)
theorem dX3_undo_152 : decode cX3_undo 152 = .ok (.iload_n 3, 1) := dk_29 (dk_at dksX3_undo_6 14 rfl rfl)
theorem dX3_undo_153 : decode cX3_undo 153 = .ok (.iastore, 1) := dk_79 (dk_at dksX3_undo_6 15 rfl rfl)
theorem dX3_undo_154 : decode cX3_undo 154 = .ok (.aload_n 0, 1) := dk_42 (dk_at dksX3_undo_6 16 rfl rfl)
theorem dX3_undo_155 : decode cX3_undo 155 = .ok (.getfield 47, 3) := dk_180 0 47 (dk_at dksX3_undo_6 17 rfl rfl)
theorem dX3_undo_158 : decode cX3_undo 158 = .ok (.iload_n 2, 1) := dk_28 (dk_at dksX3_undo_6 20 rfl rfl)
theorem dX3_undo_159 : decode cX3_undo 159 = .ok (.iload 4, 2) := dk_21 4 (dk_at dksX3_undo_6 21 rfl rfl)
theorem dX3_undo_161 : decode cX3_undo 161 = .ok (.iastore, 1) := dk_79 (dk_at dksX3_undo_6 23 rfl rfl)
theorem dX3_undo_162 : decode cX3_undo 162 = .ok (.aload_n 0, 1) := dk_42 (dk_at dksX3_undo_7 0 rfl rfl)
theorem dX3_undo_163 : decode cX3_undo 163 = .ok (.getfield 50, 3) := dk_180 0 50 (dk_at dksX3_undo_7 1 rfl rfl)
theorem dX3_undo_166 : decode cX3_undo 166 = .ok (.iload_n 2, 1) := dk_28 (dk_at dksX3_undo_7 4 rfl rfl)
theorem dX3_undo_167 : decode cX3_undo 167 = .ok (.aload_n 0, 1) := dk_42 (dk_at dksX3_undo_7 5 rfl rfl)
theorem dX3_undo_168 : decode cX3_undo 168 = .ok (.getfield 53, 3) := dk_180 0 53 (dk_at dksX3_undo_7 6 rfl rfl)
theorem dX3_undo_171 : decode cX3_undo 171 = .ok (.bipush 6, 2) := dk_16 6 (dk_at dksX3_undo_7 9 rfl rfl)
theorem dX3_undo_173 : decode cX3_undo 173 = .ok (.aload_n 0, 1) := dk_42 (dk_at dksX3_undo_7 11 rfl rfl)
theorem dX3_undo_174 : decode cX3_undo 174 = .ok (.getfield 151, 3) := dk_180 0 151 (dk_at dksX3_undo_7 12 rfl rfl)
theorem dX3_undo_177 : decode cX3_undo 177 = .ok (.imul, 1) := dk_104 (dk_at dksX3_undo_7 15 rfl rfl)
theorem dX3_undo_178 : decode cX3_undo 178 = .ok (.iconst 4, 1) := dk_7 (dk_at dksX3_undo_7 16 rfl rfl)
theorem dX3_undo_179 : decode cX3_undo 179 = .ok (.iadd, 1) := dk_96 (dk_at dksX3_undo_7 17 rfl rfl)
theorem dX3_undo_180 : decode cX3_undo 180 = .ok (.iaload, 1) := dk_46 (dk_at dksX3_undo_7 18 rfl rfl)
theorem dX3_undo_181 : decode cX3_undo 181 = .ok (.iastore, 1) := dk_79 (dk_at dksX3_undo_7 19 rfl rfl)
theorem dX3_undo_182 : decode cX3_undo 182 = .ok (.goto 28, 3) := dk_167 0 28 (dk_at dksX3_undo_7 20 rfl rfl)
theorem dX3_undo_185 : decode cX3_undo 185 = .ok (.aload_n 0, 1) := dk_42 (dk_at dksX3_undo_7 23 rfl rfl)
theorem dX3_undo_186 : decode cX3_undo 186 = .ok (.getfield 32, 3) := dk_180 0 32 (dk_at dksX3_undo_8 0 rfl rfl)
theorem dX3_undo_189 : decode cX3_undo 189 = .ok (.iload_n 2, 1) := dk_28 (dk_at dksX3_undo_8 3 rfl rfl)
theorem dX3_undo_190 : decode cX3_undo 190 = .ok (.iload_n 3, 1) := dk_29 (dk_at dksX3_undo_8 4 rfl rfl)
theorem dX3_undo_191 : decode cX3_undo 191 = .ok (.iastore, 1) := dk_79 (dk_at dksX3_undo_8 5 rfl rfl)
theorem dX3_undo_192 : decode cX3_undo 192 = .ok (.aload_n 0, 1) := dk_42 (dk_at dksX3_undo_8 6 rfl rfl)
theorem dX3_undo_193 : decode cX3_undo 193 = .ok (.getfield 35, 3) := dk_180 0 35 (dk_at dksX3_undo_8 7 rfl rfl)
theorem dX3_undo_196 : decode cX3_undo 196 = .ok (.iload_n 2, 1) := dk_28 (dk_at dksX3_undo_8 10 rfl rfl)
theorem dX3_undo_197 : decode cX3_undo 197 = .ok (.iload 4, 2) := dk_21 4 (dk_at dksX3_undo_8 11 rfl rfl)
theorem dX3_undo_199 : decode cX3_undo 199 = .ok (.iastore, 1) := dk_79 (dk_at dksX3_undo_8 13 rfl rfl)
theorem dX3_undo_200 : decode cX3_undo 200 = .ok (.goto 10, 3) := dk_167 0 10 (dk_at dksX3_undo_8 14 rfl rfl)
theorem dX3_undo_203 : decode cX3_undo 203 = .ok (.aload_n 0, 1) := dk_42 (dk_at dksX3_undo_8 17 rfl rfl)
theorem dX3_undo_204 : decode cX3_undo 204 = .ok (.getfield 38, 3) := dk_180 0 38 (dk_at dksX3_undo_8 18 rfl rfl)
theorem dX3_undo_207 : decode cX3_undo 207 = .ok (.iload_n 2, 1) := dk_28 (dk_at dksX3_undo_8 21 rfl rfl)
theorem dX3_undo_208 : decode cX3_undo 208 = .ok (.iload_n 3, 1) := dk_29 (dk_at dksX3_undo_8 22 rfl rfl)
theorem dX3_undo_209 : decode cX3_undo 209 = .ok (.iastore, 1) := dk_79 (dk_at dksX3_undo_8 23 rfl rfl)
theorem dX3_undo_210 : decode cX3_undo 210 = .ok (.iload_n 1, 1) := dk_27 (dk_at dksX3_undo_9 0 rfl rfl)
theorem dX3_undo_211 : decode cX3_undo 211 = .ok (.ireturn, 1) := dk_172 (dk_at dksX3_undo_9 1 rfl rfl)
abbrev cX3_info : ByteArray := prog_18_method_37_code
def yX3_info : MethodName := ⟨RX3, "info", "(II)I"⟩
def dkwX3_info_1 : List UInt8 := [167, 0, 5, 16, 254, 172]
abbrev dktX3_info_1 : List UInt8 := dkwX3_info_1 ++ []
def dkwX3_info_0 : List UInt8 := [42, 27, 182, 0, 174, 153, 0, 22, 28, 3, 16, 6, 184, 0, 114, 153, 0, 12, 42, 27, 28, 182, 0, 194]
abbrev dktX3_info_0 : List UInt8 := dkwX3_info_0 ++ dktX3_info_1
theorem dksX3_info_0 : cX3_info.data.toList.drop 0 = dktX3_info_0 := by decide +kernel
theorem dksX3_info_1 : cX3_info.data.toList.drop 24 = dktX3_info_1 := dk_seg dksX3_info_0 24 rfl rfl
theorem dX3_info_0 : decode cX3_info 0 = .ok (.aload_n 0, 1) := dk_42 (dk_at dksX3_info_0 0 rfl rfl)
theorem dX3_info_1 : decode cX3_info 1 = .ok (.iload_n 1, 1) := dk_27 (dk_at dksX3_info_0 1 rfl rfl)
theorem dX3_info_2 : decode cX3_info 2 = .ok (.invokevirtual 174, 3) := dk_182 0 174 (dk_at dksX3_info_0 2 rfl rfl)
theorem dX3_info_5 : decode cX3_info 5 = .ok (.ifCond .eq 22, 3) := dk_153 0 22 (dk_at dksX3_info_0 5 rfl rfl)
theorem dX3_info_8 : decode cX3_info 8 = .ok (.iload_n 2, 1) := dk_28 (dk_at dksX3_info_0 8 rfl rfl)
theorem dX3_info_9 : decode cX3_info 9 = .ok (.iconst 0, 1) := dk_3 (dk_at dksX3_info_0 9 rfl rfl)
theorem dX3_info_10 : decode cX3_info 10 = .ok (.bipush 6, 2) := dk_16 6 (dk_at dksX3_info_0 10 rfl rfl)
theorem dX3_info_12 : decode cX3_info 12 = .ok (.invokestatic 114, 3) := dk_184 0 114 (dk_at dksX3_info_0 12 rfl rfl)
theorem dX3_info_15 : decode cX3_info 15 = .ok (.ifCond .eq 12, 3) := dk_153 0 12 (dk_at dksX3_info_0 15 rfl rfl)
theorem dX3_info_18 : decode cX3_info 18 = .ok (.aload_n 0, 1) := dk_42 (dk_at dksX3_info_0 18 rfl rfl)
theorem dX3_info_19 : decode cX3_info 19 = .ok (.iload_n 1, 1) := dk_27 (dk_at dksX3_info_0 19 rfl rfl)
theorem dX3_info_20 : decode cX3_info 20 = .ok (.iload_n 2, 1) := dk_28 (dk_at dksX3_info_0 20 rfl rfl)
theorem dX3_info_21 : decode cX3_info 21 = .ok (.invokevirtual 194, 3) := dk_182 0 194 (dk_at dksX3_info_0 21 rfl rfl)
theorem dX3_info_24 : decode cX3_info 24 = .ok (.goto 5, 3) := dk_167 0 5 (dk_at dksX3_info_1 0 rfl rfl)
theorem dX3_info_27 : decode cX3_info 27 = .ok (.bipush (-2), 2) := dk_16 254 (dk_at dksX3_info_1 3 rfl rfl)
theorem dX3_info_29 : decode cX3_info 29 = .ok (.ireturn, 1) := dk_172 (dk_at dksX3_info_1 5 rfl rfl)
abbrev cX3_infoOf : ByteArray := prog_18_method_36_code
def yX3_infoOf : MethodName := ⟨RX3, "infoOf", "(II)I"⟩
def dkwX3_infoOf_4 : List UInt8 := [182, 0, 191, 172]
abbrev dktX3_infoOf_4 : List UInt8 := dkwX3_infoOf_4 ++ []
def dkwX3_infoOf_3 : List UInt8 := [180, 0, 35, 27, 46, 172, 42, 180, 0, 38, 27, 46, 172, 42, 27, 2, 3, 182, 0, 188, 172, 42, 27]
abbrev dktX3_infoOf_3 : List UInt8 := dkwX3_infoOf_3 ++ dktX3_infoOf_4
def dkwX3_infoOf_2 : List UInt8 := [42, 180, 0, 26, 27, 46, 172, 42, 180, 0, 29, 27, 46, 172, 42, 180, 0, 32, 27, 46, 172, 42]
abbrev dktX3_infoOf_2 : List UInt8 := dkwX3_infoOf_2 ++ dktX3_infoOf_3
def dkwX3_infoOf_1 : List UInt8 := [170, 0, 0, 0, 0, 0, 82, 0, 0, 0, 0, 0, 0, 0, 5, 0, 0, 0, 39, 0, 0, 0, 46, 0, 0, 0, 53, 0, 0, 0, 60, 0, 0, 0, 67, 0, 0, 0, 74]
abbrev dktX3_infoOf_1 : List UInt8 := dkwX3_infoOf_1 ++ dktX3_infoOf_2
def dkwX3_infoOf_0 : List UInt8 := [28]
abbrev dktX3_infoOf_0 : List UInt8 := dkwX3_infoOf_0 ++ dktX3_infoOf_1
theorem dksX3_infoOf_0 : cX3_infoOf.data.toList.drop 0 = dktX3_infoOf_0 := by decide +kernel
theorem dksX3_infoOf_1 : cX3_infoOf.data.toList.drop 1 = dktX3_infoOf_1 := dk_seg dksX3_infoOf_0 1 rfl rfl
theorem dksX3_infoOf_2 : cX3_infoOf.data.toList.drop 40 = dktX3_infoOf_2 := dk_seg dksX3_infoOf_1 39 rfl rfl
theorem dksX3_infoOf_3 : cX3_infoOf.data.toList.drop 62 = dktX3_infoOf_3 := dk_seg dksX3_infoOf_2 22 rfl rfl
theorem dksX3_infoOf_4 : cX3_infoOf.data.toList.drop 85 = dktX3_infoOf_4 := dk_seg dksX3_infoOf_3 23 rfl rfl
theorem dX3_infoOf_0 : decode cX3_infoOf 0 = .ok (.iload_n 2, 1) := dk_28 (dk_at dksX3_infoOf_0 0 rfl rfl)
theorem dX3_infoOf_1 : decode cX3_infoOf 1 = .ok (.tableswitch 82 0 5 #[39, 46, 53, 60, 67, 74], 39) := by decide +kernel
theorem dX3_infoOf_40 : decode cX3_infoOf 40 = .ok (.aload_n 0, 1) := dk_42 (dk_at dksX3_infoOf_2 0 rfl rfl)
theorem dX3_infoOf_41 : decode cX3_infoOf 41 = .ok (.getfield 26, 3) := dk_180 0 26 (dk_at dksX3_infoOf_2 1 rfl rfl)
theorem dX3_infoOf_44 : decode cX3_infoOf 44 = .ok (.iload_n 1, 1) := dk_27 (dk_at dksX3_infoOf_2 4 rfl rfl)
theorem dX3_infoOf_45 : decode cX3_infoOf 45 = .ok (.iaload, 1) := dk_46 (dk_at dksX3_infoOf_2 5 rfl rfl)
theorem dX3_infoOf_46 : decode cX3_infoOf 46 = .ok (.ireturn, 1) := dk_172 (dk_at dksX3_infoOf_2 6 rfl rfl)
theorem dX3_infoOf_47 : decode cX3_infoOf 47 = .ok (.aload_n 0, 1) := dk_42 (dk_at dksX3_infoOf_2 7 rfl rfl)
theorem dX3_infoOf_48 : decode cX3_infoOf 48 = .ok (.getfield 29, 3) := dk_180 0 29 (dk_at dksX3_infoOf_2 8 rfl rfl)
theorem dX3_infoOf_51 : decode cX3_infoOf 51 = .ok (.iload_n 1, 1) := dk_27 (dk_at dksX3_infoOf_2 11 rfl rfl)
theorem dX3_infoOf_52 : decode cX3_infoOf 52 = .ok (.iaload, 1) := dk_46 (dk_at dksX3_infoOf_2 12 rfl rfl)
theorem dX3_infoOf_53 : decode cX3_infoOf 53 = .ok (.ireturn, 1) := dk_172 (dk_at dksX3_infoOf_2 13 rfl rfl)
theorem dX3_infoOf_54 : decode cX3_infoOf 54 = .ok (.aload_n 0, 1) := dk_42 (dk_at dksX3_infoOf_2 14 rfl rfl)
theorem dX3_infoOf_55 : decode cX3_infoOf 55 = .ok (.getfield 32, 3) := dk_180 0 32 (dk_at dksX3_infoOf_2 15 rfl rfl)
theorem dX3_infoOf_58 : decode cX3_infoOf 58 = .ok (.iload_n 1, 1) := dk_27 (dk_at dksX3_infoOf_2 18 rfl rfl)
theorem dX3_infoOf_59 : decode cX3_infoOf 59 = .ok (.iaload, 1) := dk_46 (dk_at dksX3_infoOf_2 19 rfl rfl)
theorem dX3_infoOf_60 : decode cX3_infoOf 60 = .ok (.ireturn, 1) := dk_172 (dk_at dksX3_infoOf_2 20 rfl rfl)
theorem dX3_infoOf_61 : decode cX3_infoOf 61 = .ok (.aload_n 0, 1) := dk_42 (dk_at dksX3_infoOf_2 21 rfl rfl)
theorem dX3_infoOf_62 : decode cX3_infoOf 62 = .ok (.getfield 35, 3) := dk_180 0 35 (dk_at dksX3_infoOf_3 0 rfl rfl)
theorem dX3_infoOf_65 : decode cX3_infoOf 65 = .ok (.iload_n 1, 1) := dk_27 (dk_at dksX3_infoOf_3 3 rfl rfl)
theorem dX3_infoOf_66 : decode cX3_infoOf 66 = .ok (.iaload, 1) := dk_46 (dk_at dksX3_infoOf_3 4 rfl rfl)
theorem dX3_infoOf_67 : decode cX3_infoOf 67 = .ok (.ireturn, 1) := dk_172 (dk_at dksX3_infoOf_3 5 rfl rfl)
theorem dX3_infoOf_68 : decode cX3_infoOf 68 = .ok (.aload_n 0, 1) := dk_42 (dk_at dksX3_infoOf_3 6 rfl rfl)
theorem dX3_infoOf_69 : decode cX3_infoOf 69 = .ok (.getfield 38, 3) := dk_180 0 38 (dk_at dksX3_infoOf_3 7 rfl rfl)
theorem dX3_infoOf_72 : decode cX3_infoOf 72 = .ok (.iload_n 1, 1) := dk_27 (dk_at dksX3_infoOf_3 10 rfl rfl)
theorem dX3_infoOf_73 : decode cX3_infoOf 73 = .ok (.iaload, 1) := dk_46 (dk_at dksX3_infoOf_3 11 rfl rfl)
theorem dX3_infoOf_74 : decode cX3_infoOf 74 = .ok (.ireturn, 1) := dk_172 (dk_at dksX3_infoOf_3 12 rfl rfl)
theorem dX3_infoOf_75 : decode cX3_infoOf 75 = .ok (.aload_n 0, 1) := dk_42 (dk_at dksX3_infoOf_3 13 rfl rfl)
theorem dX3_infoOf_76 : decode cX3_infoOf 76 = .ok (.iload_n 1, 1) := dk_27 (dk_at dksX3_infoOf_3 14 rfl rfl)
theorem dX3_infoOf_77 : decode cX3_infoOf 77 = .ok (.iconst (-1), 1) := dk_2 (dk_at dksX3_infoOf_3 15 rfl rfl)
theorem dX3_infoOf_78 : decode cX3_infoOf 78 = .ok (.iconst 0, 1) := dk_3 (dk_at dksX3_infoOf_3 16 rfl rfl)
theorem dX3_infoOf_79 : decode cX3_infoOf 79 = .ok (.invokevirtual 188, 3) := dk_182 0 188 (dk_at dksX3_infoOf_3 17 rfl rfl)
theorem dX3_infoOf_82 : decode cX3_infoOf 82 = .ok (.ireturn, 1) := dk_172 (dk_at dksX3_infoOf_3 20 rfl rfl)
theorem dX3_infoOf_83 : decode cX3_infoOf 83 = .ok (.aload_n 0, 1) := dk_42 (dk_at dksX3_infoOf_3 21 rfl rfl)
theorem dX3_infoOf_84 : decode cX3_infoOf 84 = .ok (.iload_n 1, 1) := dk_27 (dk_at dksX3_infoOf_3 22 rfl rfl)
theorem dX3_infoOf_85 : decode cX3_infoOf 85 = .ok (.invokevirtual 191, 3) := dk_182 0 191 (dk_at dksX3_infoOf_4 0 rfl rfl)
theorem dX3_infoOf_88 : decode cX3_infoOf 88 = .ok (.ireturn, 1) := dk_172 (dk_at dksX3_infoOf_4 3 rfl rfl)
abbrev cX3_familyAs : ByteArray := prog_18_method_35_code
def yX3_familyAs : MethodName := ⟨RX3, "familyAs", "(III)I"⟩
def dkwX3_familyAs_13 : List UInt8 := [4, 172, 5, 172, 21, 9, 4, 100, 172, 21, 9, 4, 100, 172, 3, 172]
abbrev dktX3_familyAs_13 : List UInt8 := dkwX3_familyAs_13 ++ []
def dkwX3_familyAs_12 : List UInt8 := [170, 0, 0, 0, 0, 64, 0, 0, 0, 0, 0, 0, 0, 8, 0, 0, 0, 50, 0, 0, 0, 50, 0, 0, 0, 52, 0, 0, 0, 64, 0, 0, 0, 54, 0, 0, 0, 54, 0, 0, 0, 59, 0, 0, 0, 59, 0, 0, 0, 59]
abbrev dktX3_familyAs_12 : List UInt8 := dkwX3_familyAs_12 ++ dktX3_familyAs_13
def dkwX3_familyAs_11 : List UInt8 := [21, 9]
abbrev dktX3_familyAs_11 : List UInt8 := dkwX3_familyAs_11 ++ dktX3_familyAs_12
def dkwX3_familyAs_10 : List UInt8 := [21, 10, 153, 0, 22, 21, 7, 154, 0, 17, 21, 8, 4, 160, 0, 11, 21, 5, 2, 159, 0, 5, 3, 172]
abbrev dktX3_familyAs_10 : List UInt8 := dkwX3_familyAs_10 ++ dktX3_familyAs_11
def dkwX3_familyAs_9 : List UInt8 := [159, 0, 9, 21, 8, 6, 159, 0, 10, 21, 9, 4, 100, 167, 0, 4, 3, 172, 21, 8, 4, 163, 0, 25]
abbrev dktX3_familyAs_9 : List UInt8 := dkwX3_familyAs_9 ++ dktX3_familyAs_10
def dkwX3_familyAs_8 : List UInt8 := [160, 0, 7, 4, 167, 0, 4, 3, 54, 10, 21, 7, 4, 164, 0, 29, 21, 10, 153, 0, 22, 21, 7, 6]
abbrev dktX3_familyAs_8 : List UInt8 := dkwX3_familyAs_8 ++ dktX3_familyAs_9
def dkwX3_familyAs_7 : List UInt8 := [160, 0, 5, 3, 172, 42, 180, 0, 26, 27, 46, 54, 9, 21, 9, 7, 159, 0, 9, 21, 9, 8]
abbrev dktX3_familyAs_7 : List UInt8 := dkwX3_familyAs_7 ++ dktX3_familyAs_8
def dkwX3_familyAs_6 : List UInt8 := [153, 0, 26, 21, 7, 184, 0, 185, 153, 0, 18, 21, 8, 184, 0, 185, 153, 0, 10, 21, 5, 21, 4]
abbrev dktX3_familyAs_6 : List UInt8 := dkwX3_familyAs_6 ++ dktX3_familyAs_7
def dkwX3_familyAs_5 : List UInt8 := [21, 5, 2, 160, 0, 7, 4, 167, 0, 11, 42, 21, 5, 28, 29, 182, 0, 181, 54, 8, 21, 6]
abbrev dktX3_familyAs_5 : List UInt8 := dkwX3_familyAs_5 ++ dktX3_familyAs_6
def dkwX3_familyAs_4 : List UInt8 := [4, 96, 46, 160, 0, 7, 4, 167, 0, 4, 3, 54, 6, 42, 21, 4, 28, 29, 182, 0, 181, 54, 7]
abbrev dktX3_familyAs_4 : List UInt8 := dkwX3_familyAs_4 ++ dktX3_familyAs_5
def dkwX3_familyAs_3 : List UInt8 := [6, 27, 104, 4, 96, 46, 160, 0, 28, 42, 180, 0, 50, 6, 27, 104, 46, 42, 180, 0, 50, 6, 27, 104]
abbrev dktX3_familyAs_3 : List UInt8 := dkwX3_familyAs_3 ++ dktX3_familyAs_4
def dkwX3_familyAs_2 : List UInt8 := [180, 0, 44, 6, 27, 104, 4, 96, 46, 160, 0, 49, 42, 180, 0, 47, 6, 27, 104, 46, 42, 180, 0, 47]
abbrev dktX3_familyAs_2 : List UInt8 := dkwX3_familyAs_2 ++ dktX3_familyAs_3
def dkwX3_familyAs_1 : List UInt8 := [180, 0, 41, 6, 27, 104, 4, 96, 46, 21, 4, 160, 0, 70, 42, 180, 0, 44, 6, 27, 104, 46, 42]
abbrev dktX3_familyAs_1 : List UInt8 := dkwX3_familyAs_1 ++ dktX3_familyAs_2
def dkwX3_familyAs_0 : List UInt8 := [42, 180, 0, 41, 6, 27, 104, 46, 54, 4, 42, 180, 0, 41, 6, 27, 104, 5, 96, 46, 54, 5, 42]
abbrev dktX3_familyAs_0 : List UInt8 := dkwX3_familyAs_0 ++ dktX3_familyAs_1
theorem dksX3_familyAs_0 : cX3_familyAs.data.toList.drop 0 = dktX3_familyAs_0 := by decide +kernel
theorem dksX3_familyAs_1 : cX3_familyAs.data.toList.drop 23 = dktX3_familyAs_1 := dk_seg dksX3_familyAs_0 23 rfl rfl
theorem dksX3_familyAs_2 : cX3_familyAs.data.toList.drop 46 = dktX3_familyAs_2 := dk_seg dksX3_familyAs_1 23 rfl rfl
theorem dksX3_familyAs_3 : cX3_familyAs.data.toList.drop 70 = dktX3_familyAs_3 := dk_seg dksX3_familyAs_2 24 rfl rfl
theorem dksX3_familyAs_4 : cX3_familyAs.data.toList.drop 94 = dktX3_familyAs_4 := dk_seg dksX3_familyAs_3 24 rfl rfl
theorem dksX3_familyAs_5 : cX3_familyAs.data.toList.drop 117 = dktX3_familyAs_5 := dk_seg dksX3_familyAs_4 23 rfl rfl
theorem dksX3_familyAs_6 : cX3_familyAs.data.toList.drop 139 = dktX3_familyAs_6 := dk_seg dksX3_familyAs_5 22 rfl rfl
theorem dksX3_familyAs_7 : cX3_familyAs.data.toList.drop 162 = dktX3_familyAs_7 := dk_seg dksX3_familyAs_6 23 rfl rfl
theorem dksX3_familyAs_8 : cX3_familyAs.data.toList.drop 184 = dktX3_familyAs_8 := dk_seg dksX3_familyAs_7 22 rfl rfl
theorem dksX3_familyAs_9 : cX3_familyAs.data.toList.drop 208 = dktX3_familyAs_9 := dk_seg dksX3_familyAs_8 24 rfl rfl
theorem dksX3_familyAs_10 : cX3_familyAs.data.toList.drop 232 = dktX3_familyAs_10 := dk_seg dksX3_familyAs_9 24 rfl rfl
theorem dksX3_familyAs_11 : cX3_familyAs.data.toList.drop 256 = dktX3_familyAs_11 := dk_seg dksX3_familyAs_10 24 rfl rfl
theorem dksX3_familyAs_12 : cX3_familyAs.data.toList.drop 258 = dktX3_familyAs_12 := dk_seg dksX3_familyAs_11 2 rfl rfl
theorem dksX3_familyAs_13 : cX3_familyAs.data.toList.drop 308 = dktX3_familyAs_13 := dk_seg dksX3_familyAs_12 50 rfl rfl
theorem dX3_familyAs_0 : decode cX3_familyAs 0 = .ok (.aload_n 0, 1) := dk_42 (dk_at dksX3_familyAs_0 0 rfl rfl)
theorem dX3_familyAs_1 : decode cX3_familyAs 1 = .ok (.getfield 41, 3) := dk_180 0 41 (dk_at dksX3_familyAs_0 1 rfl rfl)
theorem dX3_familyAs_4 : decode cX3_familyAs 4 = .ok (.iconst 3, 1) := dk_6 (dk_at dksX3_familyAs_0 4 rfl rfl)
theorem dX3_familyAs_5 : decode cX3_familyAs 5 = .ok (.iload_n 1, 1) := dk_27 (dk_at dksX3_familyAs_0 5 rfl rfl)
theorem dX3_familyAs_6 : decode cX3_familyAs 6 = .ok (.imul, 1) := dk_104 (dk_at dksX3_familyAs_0 6 rfl rfl)
theorem dX3_familyAs_7 : decode cX3_familyAs 7 = .ok (.iaload, 1) := dk_46 (dk_at dksX3_familyAs_0 7 rfl rfl)
theorem dX3_familyAs_8 : decode cX3_familyAs 8 = .ok (.istore 4, 2) := dk_54 4 (dk_at dksX3_familyAs_0 8 rfl rfl)
theorem dX3_familyAs_10 : decode cX3_familyAs 10 = .ok (.aload_n 0, 1) := dk_42 (dk_at dksX3_familyAs_0 10 rfl rfl)
theorem dX3_familyAs_11 : decode cX3_familyAs 11 = .ok (.getfield 41, 3) := dk_180 0 41 (dk_at dksX3_familyAs_0 11 rfl rfl)
theorem dX3_familyAs_14 : decode cX3_familyAs 14 = .ok (.iconst 3, 1) := dk_6 (dk_at dksX3_familyAs_0 14 rfl rfl)
theorem dX3_familyAs_15 : decode cX3_familyAs 15 = .ok (.iload_n 1, 1) := dk_27 (dk_at dksX3_familyAs_0 15 rfl rfl)
theorem dX3_familyAs_16 : decode cX3_familyAs 16 = .ok (.imul, 1) := dk_104 (dk_at dksX3_familyAs_0 16 rfl rfl)
theorem dX3_familyAs_17 : decode cX3_familyAs 17 = .ok (.iconst 2, 1) := dk_5 (dk_at dksX3_familyAs_0 17 rfl rfl)
theorem dX3_familyAs_18 : decode cX3_familyAs 18 = .ok (.iadd, 1) := dk_96 (dk_at dksX3_familyAs_0 18 rfl rfl)
theorem dX3_familyAs_19 : decode cX3_familyAs 19 = .ok (.iaload, 1) := dk_46 (dk_at dksX3_familyAs_0 19 rfl rfl)
theorem dX3_familyAs_20 : decode cX3_familyAs 20 = .ok (.istore 5, 2) := dk_54 5 (dk_at dksX3_familyAs_0 20 rfl rfl)
theorem dX3_familyAs_22 : decode cX3_familyAs 22 = .ok (.aload_n 0, 1) := dk_42 (dk_at dksX3_familyAs_0 22 rfl rfl)
theorem dX3_familyAs_23 : decode cX3_familyAs 23 = .ok (.getfield 41, 3) := dk_180 0 41 (dk_at dksX3_familyAs_1 0 rfl rfl)
theorem dX3_familyAs_26 : decode cX3_familyAs 26 = .ok (.iconst 3, 1) := dk_6 (dk_at dksX3_familyAs_1 3 rfl rfl)
theorem dX3_familyAs_27 : decode cX3_familyAs 27 = .ok (.iload_n 1, 1) := dk_27 (dk_at dksX3_familyAs_1 4 rfl rfl)
theorem dX3_familyAs_28 : decode cX3_familyAs 28 = .ok (.imul, 1) := dk_104 (dk_at dksX3_familyAs_1 5 rfl rfl)
theorem dX3_familyAs_29 : decode cX3_familyAs 29 = .ok (.iconst 1, 1) := dk_4 (dk_at dksX3_familyAs_1 6 rfl rfl)
theorem dX3_familyAs_30 : decode cX3_familyAs 30 = .ok (.iadd, 1) := dk_96 (dk_at dksX3_familyAs_1 7 rfl rfl)
theorem dX3_familyAs_31 : decode cX3_familyAs 31 = .ok (.iaload, 1) := dk_46 (dk_at dksX3_familyAs_1 8 rfl rfl)
theorem dX3_familyAs_32 : decode cX3_familyAs 32 = .ok (.iload 4, 2) := dk_21 4 (dk_at dksX3_familyAs_1 9 rfl rfl)
theorem dX3_familyAs_34 : decode cX3_familyAs 34 = .ok (.if_icmp .ne 70, 3) := dk_160 0 70 (dk_at dksX3_familyAs_1 11 rfl rfl)
theorem dX3_familyAs_37 : decode cX3_familyAs 37 = .ok (.aload_n 0, 1) := dk_42 (dk_at dksX3_familyAs_1 14 rfl rfl)
theorem dX3_familyAs_38 : decode cX3_familyAs 38 = .ok (.getfield 44, 3) := dk_180 0 44 (dk_at dksX3_familyAs_1 15 rfl rfl)
theorem dX3_familyAs_41 : decode cX3_familyAs 41 = .ok (.iconst 3, 1) := dk_6 (dk_at dksX3_familyAs_1 18 rfl rfl)
theorem dX3_familyAs_42 : decode cX3_familyAs 42 = .ok (.iload_n 1, 1) := dk_27 (dk_at dksX3_familyAs_1 19 rfl rfl)
theorem dX3_familyAs_43 : decode cX3_familyAs 43 = .ok (.imul, 1) := dk_104 (dk_at dksX3_familyAs_1 20 rfl rfl)
theorem dX3_familyAs_44 : decode cX3_familyAs 44 = .ok (.iaload, 1) := dk_46 (dk_at dksX3_familyAs_1 21 rfl rfl)
theorem dX3_familyAs_45 : decode cX3_familyAs 45 = .ok (.aload_n 0, 1) := dk_42 (dk_at dksX3_familyAs_1 22 rfl rfl)
theorem dX3_familyAs_46 : decode cX3_familyAs 46 = .ok (.getfield 44, 3) := dk_180 0 44 (dk_at dksX3_familyAs_2 0 rfl rfl)
theorem dX3_familyAs_49 : decode cX3_familyAs 49 = .ok (.iconst 3, 1) := dk_6 (dk_at dksX3_familyAs_2 3 rfl rfl)
theorem dX3_familyAs_50 : decode cX3_familyAs 50 = .ok (.iload_n 1, 1) := dk_27 (dk_at dksX3_familyAs_2 4 rfl rfl)
theorem dX3_familyAs_51 : decode cX3_familyAs 51 = .ok (.imul, 1) := dk_104 (dk_at dksX3_familyAs_2 5 rfl rfl)
theorem dX3_familyAs_52 : decode cX3_familyAs 52 = .ok (.iconst 1, 1) := dk_4 (dk_at dksX3_familyAs_2 6 rfl rfl)
theorem dX3_familyAs_53 : decode cX3_familyAs 53 = .ok (.iadd, 1) := dk_96 (dk_at dksX3_familyAs_2 7 rfl rfl)
theorem dX3_familyAs_54 : decode cX3_familyAs 54 = .ok (.iaload, 1) := dk_46 (dk_at dksX3_familyAs_2 8 rfl rfl)
theorem dX3_familyAs_55 : decode cX3_familyAs 55 = .ok (.if_icmp .ne 49, 3) := dk_160 0 49 (dk_at dksX3_familyAs_2 9 rfl rfl)
theorem dX3_familyAs_58 : decode cX3_familyAs 58 = .ok (.aload_n 0, 1) := dk_42 (dk_at dksX3_familyAs_2 12 rfl rfl)
theorem dX3_familyAs_59 : decode cX3_familyAs 59 = .ok (.getfield 47, 3) := dk_180 0 47 (dk_at dksX3_familyAs_2 13 rfl rfl)
theorem dX3_familyAs_62 : decode cX3_familyAs 62 = .ok (.iconst 3, 1) := dk_6 (dk_at dksX3_familyAs_2 16 rfl rfl)
theorem dX3_familyAs_63 : decode cX3_familyAs 63 = .ok (.iload_n 1, 1) := dk_27 (dk_at dksX3_familyAs_2 17 rfl rfl)
theorem dX3_familyAs_64 : decode cX3_familyAs 64 = .ok (.imul, 1) := dk_104 (dk_at dksX3_familyAs_2 18 rfl rfl)
theorem dX3_familyAs_65 : decode cX3_familyAs 65 = .ok (.iaload, 1) := dk_46 (dk_at dksX3_familyAs_2 19 rfl rfl)
theorem dX3_familyAs_66 : decode cX3_familyAs 66 = .ok (.aload_n 0, 1) := dk_42 (dk_at dksX3_familyAs_2 20 rfl rfl)
theorem dX3_familyAs_67 : decode cX3_familyAs 67 = .ok (.getfield 47, 3) := dk_180 0 47 (dk_at dksX3_familyAs_2 21 rfl rfl)
theorem dX3_familyAs_70 : decode cX3_familyAs 70 = .ok (.iconst 3, 1) := dk_6 (dk_at dksX3_familyAs_3 0 rfl rfl)
theorem dX3_familyAs_71 : decode cX3_familyAs 71 = .ok (.iload_n 1, 1) := dk_27 (dk_at dksX3_familyAs_3 1 rfl rfl)
theorem dX3_familyAs_72 : decode cX3_familyAs 72 = .ok (.imul, 1) := dk_104 (dk_at dksX3_familyAs_3 2 rfl rfl)
theorem dX3_familyAs_73 : decode cX3_familyAs 73 = .ok (.iconst 1, 1) := dk_4 (dk_at dksX3_familyAs_3 3 rfl rfl)
theorem dX3_familyAs_74 : decode cX3_familyAs 74 = .ok (.iadd, 1) := dk_96 (dk_at dksX3_familyAs_3 4 rfl rfl)
theorem dX3_familyAs_75 : decode cX3_familyAs 75 = .ok (.iaload, 1) := dk_46 (dk_at dksX3_familyAs_3 5 rfl rfl)
theorem dX3_familyAs_76 : decode cX3_familyAs 76 = .ok (.if_icmp .ne 28, 3) := dk_160 0 28 (dk_at dksX3_familyAs_3 6 rfl rfl)
theorem dX3_familyAs_79 : decode cX3_familyAs 79 = .ok (.aload_n 0, 1) := dk_42 (dk_at dksX3_familyAs_3 9 rfl rfl)
theorem dX3_familyAs_80 : decode cX3_familyAs 80 = .ok (.getfield 50, 3) := dk_180 0 50 (dk_at dksX3_familyAs_3 10 rfl rfl)
theorem dX3_familyAs_83 : decode cX3_familyAs 83 = .ok (.iconst 3, 1) := dk_6 (dk_at dksX3_familyAs_3 13 rfl rfl)
theorem dX3_familyAs_84 : decode cX3_familyAs 84 = .ok (.iload_n 1, 1) := dk_27 (dk_at dksX3_familyAs_3 14 rfl rfl)
theorem dX3_familyAs_85 : decode cX3_familyAs 85 = .ok (.imul, 1) := dk_104 (dk_at dksX3_familyAs_3 15 rfl rfl)
theorem dX3_familyAs_86 : decode cX3_familyAs 86 = .ok (.iaload, 1) := dk_46 (dk_at dksX3_familyAs_3 16 rfl rfl)
theorem dX3_familyAs_87 : decode cX3_familyAs 87 = .ok (.aload_n 0, 1) := dk_42 (dk_at dksX3_familyAs_3 17 rfl rfl)
theorem dX3_familyAs_88 : decode cX3_familyAs 88 = .ok (.getfield 50, 3) := dk_180 0 50 (dk_at dksX3_familyAs_3 18 rfl rfl)
theorem dX3_familyAs_91 : decode cX3_familyAs 91 = .ok (.iconst 3, 1) := dk_6 (dk_at dksX3_familyAs_3 21 rfl rfl)
theorem dX3_familyAs_92 : decode cX3_familyAs 92 = .ok (.iload_n 1, 1) := dk_27 (dk_at dksX3_familyAs_3 22 rfl rfl)
theorem dX3_familyAs_93 : decode cX3_familyAs 93 = .ok (.imul, 1) := dk_104 (dk_at dksX3_familyAs_3 23 rfl rfl)
theorem dX3_familyAs_94 : decode cX3_familyAs 94 = .ok (.iconst 1, 1) := dk_4 (dk_at dksX3_familyAs_4 0 rfl rfl)
theorem dX3_familyAs_95 : decode cX3_familyAs 95 = .ok (.iadd, 1) := dk_96 (dk_at dksX3_familyAs_4 1 rfl rfl)
theorem dX3_familyAs_96 : decode cX3_familyAs 96 = .ok (.iaload, 1) := dk_46 (dk_at dksX3_familyAs_4 2 rfl rfl)
theorem dX3_familyAs_97 : decode cX3_familyAs 97 = .ok (.if_icmp .ne 7, 3) := dk_160 0 7 (dk_at dksX3_familyAs_4 3 rfl rfl)
theorem dX3_familyAs_100 : decode cX3_familyAs 100 = .ok (.iconst 1, 1) := dk_4 (dk_at dksX3_familyAs_4 6 rfl rfl)
theorem dX3_familyAs_101 : decode cX3_familyAs 101 = .ok (.goto 4, 3) := dk_167 0 4 (dk_at dksX3_familyAs_4 7 rfl rfl)
theorem dX3_familyAs_104 : decode cX3_familyAs 104 = .ok (.iconst 0, 1) := dk_3 (dk_at dksX3_familyAs_4 10 rfl rfl)
theorem dX3_familyAs_105 : decode cX3_familyAs 105 = .ok (.istore 6, 2) := dk_54 6 (dk_at dksX3_familyAs_4 11 rfl rfl)
theorem dX3_familyAs_107 : decode cX3_familyAs 107 = .ok (.aload_n 0, 1) := dk_42 (dk_at dksX3_familyAs_4 13 rfl rfl)
theorem dX3_familyAs_108 : decode cX3_familyAs 108 = .ok (.iload 4, 2) := dk_21 4 (dk_at dksX3_familyAs_4 14 rfl rfl)
theorem dX3_familyAs_110 : decode cX3_familyAs 110 = .ok (.iload_n 2, 1) := dk_28 (dk_at dksX3_familyAs_4 16 rfl rfl)
theorem dX3_familyAs_111 : decode cX3_familyAs 111 = .ok (.iload_n 3, 1) := dk_29 (dk_at dksX3_familyAs_4 17 rfl rfl)
theorem dX3_familyAs_112 : decode cX3_familyAs 112 = .ok (.invokevirtual 181, 3) := dk_182 0 181 (dk_at dksX3_familyAs_4 18 rfl rfl)
theorem dX3_familyAs_115 : decode cX3_familyAs 115 = .ok (.istore 7, 2) := dk_54 7 (dk_at dksX3_familyAs_4 21 rfl rfl)
theorem dX3_familyAs_117 : decode cX3_familyAs 117 = .ok (.iload 5, 2) := dk_21 5 (dk_at dksX3_familyAs_5 0 rfl rfl)
theorem dX3_familyAs_119 : decode cX3_familyAs 119 = .ok (.iconst (-1), 1) := dk_2 (dk_at dksX3_familyAs_5 2 rfl rfl)
theorem dX3_familyAs_120 : decode cX3_familyAs 120 = .ok (.if_icmp .ne 7, 3) := dk_160 0 7 (dk_at dksX3_familyAs_5 3 rfl rfl)
theorem dX3_familyAs_123 : decode cX3_familyAs 123 = .ok (.iconst 1, 1) := dk_4 (dk_at dksX3_familyAs_5 6 rfl rfl)
theorem dX3_familyAs_124 : decode cX3_familyAs 124 = .ok (.goto 11, 3) := dk_167 0 11 (dk_at dksX3_familyAs_5 7 rfl rfl)
theorem dX3_familyAs_127 : decode cX3_familyAs 127 = .ok (.aload_n 0, 1) := dk_42 (dk_at dksX3_familyAs_5 10 rfl rfl)
theorem dX3_familyAs_128 : decode cX3_familyAs 128 = .ok (.iload 5, 2) := dk_21 5 (dk_at dksX3_familyAs_5 11 rfl rfl)
theorem dX3_familyAs_130 : decode cX3_familyAs 130 = .ok (.iload_n 2, 1) := dk_28 (dk_at dksX3_familyAs_5 13 rfl rfl)
theorem dX3_familyAs_131 : decode cX3_familyAs 131 = .ok (.iload_n 3, 1) := dk_29 (dk_at dksX3_familyAs_5 14 rfl rfl)
theorem dX3_familyAs_132 : decode cX3_familyAs 132 = .ok (.invokevirtual 181, 3) := dk_182 0 181 (dk_at dksX3_familyAs_5 15 rfl rfl)
theorem dX3_familyAs_135 : decode cX3_familyAs 135 = .ok (.istore 8, 2) := dk_54 8 (dk_at dksX3_familyAs_5 18 rfl rfl)
theorem dX3_familyAs_137 : decode cX3_familyAs 137 = .ok (.iload 6, 2) := dk_21 6 (dk_at dksX3_familyAs_5 20 rfl rfl)
theorem dX3_familyAs_139 : decode cX3_familyAs 139 = .ok (.ifCond .eq 26, 3) := dk_153 0 26 (dk_at dksX3_familyAs_6 0 rfl rfl)
theorem dX3_familyAs_142 : decode cX3_familyAs 142 = .ok (.iload 7, 2) := dk_21 7 (dk_at dksX3_familyAs_6 3 rfl rfl)
theorem dX3_familyAs_144 : decode cX3_familyAs 144 = .ok (.invokestatic 185, 3) := dk_184 0 185 (dk_at dksX3_familyAs_6 5 rfl rfl)
theorem dX3_familyAs_147 : decode cX3_familyAs 147 = .ok (.ifCond .eq 18, 3) := dk_153 0 18 (dk_at dksX3_familyAs_6 8 rfl rfl)
theorem dX3_familyAs_150 : decode cX3_familyAs 150 = .ok (.iload 8, 2) := dk_21 8 (dk_at dksX3_familyAs_6 11 rfl rfl)
theorem dX3_familyAs_152 : decode cX3_familyAs 152 = .ok (.invokestatic 185, 3) := dk_184 0 185 (dk_at dksX3_familyAs_6 13 rfl rfl)
theorem dX3_familyAs_155 : decode cX3_familyAs 155 = .ok (.ifCond .eq 10, 3) := dk_153 0 10 (dk_at dksX3_familyAs_6 16 rfl rfl)
theorem dX3_familyAs_158 : decode cX3_familyAs 158 = .ok (.iload 5, 2) := dk_21 5 (dk_at dksX3_familyAs_6 19 rfl rfl)
theorem dX3_familyAs_160 : decode cX3_familyAs 160 = .ok (.iload 4, 2) := dk_21 4 (dk_at dksX3_familyAs_6 21 rfl rfl)
theorem dX3_familyAs_162 : decode cX3_familyAs 162 = .ok (.if_icmp .ne 5, 3) := dk_160 0 5 (dk_at dksX3_familyAs_7 0 rfl rfl)
theorem dX3_familyAs_165 : decode cX3_familyAs 165 = .ok (.iconst 0, 1) := dk_3 (dk_at dksX3_familyAs_7 3 rfl rfl)
theorem dX3_familyAs_166 : decode cX3_familyAs 166 = .ok (.ireturn, 1) := dk_172 (dk_at dksX3_familyAs_7 4 rfl rfl)
theorem dX3_familyAs_167 : decode cX3_familyAs 167 = .ok (.aload_n 0, 1) := dk_42 (dk_at dksX3_familyAs_7 5 rfl rfl)
theorem dX3_familyAs_168 : decode cX3_familyAs 168 = .ok (.getfield 26, 3) := dk_180 0 26 (dk_at dksX3_familyAs_7 6 rfl rfl)
theorem dX3_familyAs_171 : decode cX3_familyAs 171 = .ok (.iload_n 1, 1) := dk_27 (dk_at dksX3_familyAs_7 9 rfl rfl)
theorem dX3_familyAs_172 : decode cX3_familyAs 172 = .ok (.iaload, 1) := dk_46 (dk_at dksX3_familyAs_7 10 rfl rfl)
theorem dX3_familyAs_173 : decode cX3_familyAs 173 = .ok (.istore 9, 2) := dk_54 9 (dk_at dksX3_familyAs_7 11 rfl rfl)
theorem dX3_familyAs_175 : decode cX3_familyAs 175 = .ok (.iload 9, 2) := dk_21 9 (dk_at dksX3_familyAs_7 13 rfl rfl)
theorem dX3_familyAs_177 : decode cX3_familyAs 177 = .ok (.iconst 4, 1) := dk_7 (dk_at dksX3_familyAs_7 15 rfl rfl)
theorem dX3_familyAs_178 : decode cX3_familyAs 178 = .ok (.if_icmp .eq 9, 3) := dk_159 0 9 (dk_at dksX3_familyAs_7 16 rfl rfl)
theorem dX3_familyAs_181 : decode cX3_familyAs 181 = .ok (.iload 9, 2) := dk_21 9 (dk_at dksX3_familyAs_7 19 rfl rfl)
theorem dX3_familyAs_183 : decode cX3_familyAs 183 = .ok (.iconst 5, 1) := dk_8 (dk_at dksX3_familyAs_7 21 rfl rfl)
theorem dX3_familyAs_184 : decode cX3_familyAs 184 = .ok (.if_icmp .ne 7, 3) := dk_160 0 7 (dk_at dksX3_familyAs_8 0 rfl rfl)
theorem dX3_familyAs_187 : decode cX3_familyAs 187 = .ok (.iconst 1, 1) := dk_4 (dk_at dksX3_familyAs_8 3 rfl rfl)
theorem dX3_familyAs_188 : decode cX3_familyAs 188 = .ok (.goto 4, 3) := dk_167 0 4 (dk_at dksX3_familyAs_8 4 rfl rfl)
theorem dX3_familyAs_191 : decode cX3_familyAs 191 = .ok (.iconst 0, 1) := dk_3 (dk_at dksX3_familyAs_8 7 rfl rfl)
theorem dX3_familyAs_192 : decode cX3_familyAs 192 = .ok (.istore 10, 2) := dk_54 10 (dk_at dksX3_familyAs_8 8 rfl rfl)
theorem dX3_familyAs_194 : decode cX3_familyAs 194 = .ok (.iload 7, 2) := dk_21 7 (dk_at dksX3_familyAs_8 10 rfl rfl)
theorem dX3_familyAs_196 : decode cX3_familyAs 196 = .ok (.iconst 1, 1) := dk_4 (dk_at dksX3_familyAs_8 12 rfl rfl)
theorem dX3_familyAs_197 : decode cX3_familyAs 197 = .ok (.if_icmp .le 29, 3) := dk_164 0 29 (dk_at dksX3_familyAs_8 13 rfl rfl)
theorem dX3_familyAs_200 : decode cX3_familyAs 200 = .ok (.iload 10, 2) := dk_21 10 (dk_at dksX3_familyAs_8 16 rfl rfl)
theorem dX3_familyAs_202 : decode cX3_familyAs 202 = .ok (.ifCond .eq 22, 3) := dk_153 0 22 (dk_at dksX3_familyAs_8 18 rfl rfl)
theorem dX3_familyAs_205 : decode cX3_familyAs 205 = .ok (.iload 7, 2) := dk_21 7 (dk_at dksX3_familyAs_8 21 rfl rfl)
theorem dX3_familyAs_207 : decode cX3_familyAs 207 = .ok (.iconst 3, 1) := dk_6 (dk_at dksX3_familyAs_8 23 rfl rfl)
theorem dX3_familyAs_208 : decode cX3_familyAs 208 = .ok (.if_icmp .eq 9, 3) := dk_159 0 9 (dk_at dksX3_familyAs_9 0 rfl rfl)
theorem dX3_familyAs_211 : decode cX3_familyAs 211 = .ok (.iload 8, 2) := dk_21 8 (dk_at dksX3_familyAs_9 3 rfl rfl)
theorem dX3_familyAs_213 : decode cX3_familyAs 213 = .ok (.iconst 3, 1) := dk_6 (dk_at dksX3_familyAs_9 5 rfl rfl)
theorem dX3_familyAs_214 : decode cX3_familyAs 214 = .ok (.if_icmp .eq 10, 3) := dk_159 0 10 (dk_at dksX3_familyAs_9 6 rfl rfl)
theorem dX3_familyAs_217 : decode cX3_familyAs 217 = .ok (.iload 9, 2) := dk_21 9 (dk_at dksX3_familyAs_9 9 rfl rfl)
theorem dX3_familyAs_219 : decode cX3_familyAs 219 = .ok (.iconst 1, 1) := dk_4 (dk_at dksX3_familyAs_9 11 rfl rfl)
theorem dX3_familyAs_220 : decode cX3_familyAs 220 = .ok (.isub, 1) := dk_100 (dk_at dksX3_familyAs_9 12 rfl rfl)
theorem dX3_familyAs_221 : decode cX3_familyAs 221 = .ok (.goto 4, 3) := dk_167 0 4 (dk_at dksX3_familyAs_9 13 rfl rfl)
theorem dX3_familyAs_224 : decode cX3_familyAs 224 = .ok (.iconst 0, 1) := dk_3 (dk_at dksX3_familyAs_9 16 rfl rfl)
theorem dX3_familyAs_225 : decode cX3_familyAs 225 = .ok (.ireturn, 1) := dk_172 (dk_at dksX3_familyAs_9 17 rfl rfl)
theorem dX3_familyAs_226 : decode cX3_familyAs 226 = .ok (.iload 8, 2) := dk_21 8 (dk_at dksX3_familyAs_9 18 rfl rfl)
theorem dX3_familyAs_228 : decode cX3_familyAs 228 = .ok (.iconst 1, 1) := dk_4 (dk_at dksX3_familyAs_9 20 rfl rfl)
theorem dX3_familyAs_229 : decode cX3_familyAs 229 = .ok (.if_icmp .gt 25, 3) := dk_163 0 25 (dk_at dksX3_familyAs_9 21 rfl rfl)
theorem dX3_familyAs_232 : decode cX3_familyAs 232 = .ok (.iload 10, 2) := dk_21 10 (dk_at dksX3_familyAs_10 0 rfl rfl)
theorem dX3_familyAs_234 : decode cX3_familyAs 234 = .ok (.ifCond .eq 22, 3) := dk_153 0 22 (dk_at dksX3_familyAs_10 2 rfl rfl)
theorem dX3_familyAs_237 : decode cX3_familyAs 237 = .ok (.iload 7, 2) := dk_21 7 (dk_at dksX3_familyAs_10 5 rfl rfl)
theorem dX3_familyAs_239 : decode cX3_familyAs 239 = .ok (.ifCond .ne 17, 3) := dk_154 0 17 (dk_at dksX3_familyAs_10 7 rfl rfl)
theorem dX3_familyAs_242 : decode cX3_familyAs 242 = .ok (.iload 8, 2) := dk_21 8 (dk_at dksX3_familyAs_10 10 rfl rfl)
theorem dX3_familyAs_244 : decode cX3_familyAs 244 = .ok (.iconst 1, 1) := dk_4 (dk_at dksX3_familyAs_10 12 rfl rfl)
theorem dX3_familyAs_245 : decode cX3_familyAs 245 = .ok (.if_icmp .ne 11, 3) := dk_160 0 11 (dk_at dksX3_familyAs_10 13 rfl rfl)
theorem dX3_familyAs_248 : decode cX3_familyAs 248 = .ok (.iload 5, 2) := dk_21 5 (dk_at dksX3_familyAs_10 16 rfl rfl)
theorem dX3_familyAs_250 : decode cX3_familyAs 250 = .ok (.iconst (-1), 1) := dk_2 (dk_at dksX3_familyAs_10 18 rfl rfl)
theorem dX3_familyAs_251 : decode cX3_familyAs 251 = .ok (.if_icmp .eq 5, 3) := dk_159 0 5 (dk_at dksX3_familyAs_10 19 rfl rfl)
theorem dX3_familyAs_254 : decode cX3_familyAs 254 = .ok (.iconst 0, 1) := dk_3 (dk_at dksX3_familyAs_10 22 rfl rfl)
theorem dX3_familyAs_255 : decode cX3_familyAs 255 = .ok (.ireturn, 1) := dk_172 (dk_at dksX3_familyAs_10 23 rfl rfl)
theorem dX3_familyAs_256 : decode cX3_familyAs 256 = .ok (.iload 9, 2) := dk_21 9 (dk_at dksX3_familyAs_11 0 rfl rfl)
theorem dX3_familyAs_258 : decode cX3_familyAs 258 = .ok (.tableswitch 64 0 8 #[50, 50, 52, 64, 54, 54, 59, 59, 59], 50) := by decide +kernel
theorem dX3_familyAs_308 : decode cX3_familyAs 308 = .ok (.iconst 1, 1) := dk_4 (dk_at dksX3_familyAs_13 0 rfl rfl)
theorem dX3_familyAs_309 : decode cX3_familyAs 309 = .ok (.ireturn, 1) := dk_172 (dk_at dksX3_familyAs_13 1 rfl rfl)
theorem dX3_familyAs_310 : decode cX3_familyAs 310 = .ok (.iconst 2, 1) := dk_5 (dk_at dksX3_familyAs_13 2 rfl rfl)
theorem dX3_familyAs_311 : decode cX3_familyAs 311 = .ok (.ireturn, 1) := dk_172 (dk_at dksX3_familyAs_13 3 rfl rfl)
theorem dX3_familyAs_312 : decode cX3_familyAs 312 = .ok (.iload 9, 2) := dk_21 9 (dk_at dksX3_familyAs_13 4 rfl rfl)
theorem dX3_familyAs_314 : decode cX3_familyAs 314 = .ok (.iconst 1, 1) := dk_4 (dk_at dksX3_familyAs_13 6 rfl rfl)
theorem dX3_familyAs_315 : decode cX3_familyAs 315 = .ok (.isub, 1) := dk_100 (dk_at dksX3_familyAs_13 7 rfl rfl)
theorem dX3_familyAs_316 : decode cX3_familyAs 316 = .ok (.ireturn, 1) := dk_172 (dk_at dksX3_familyAs_13 8 rfl rfl)
theorem dX3_familyAs_317 : decode cX3_familyAs 317 = .ok (.iload 9, 2) := dk_21 9 (dk_at dksX3_familyAs_13 9 rfl rfl)
theorem dX3_familyAs_319 : decode cX3_familyAs 319 = .ok (.iconst 1, 1) := dk_4 (dk_at dksX3_familyAs_13 11 rfl rfl)
theorem dX3_familyAs_320 : decode cX3_familyAs 320 = .ok (.isub, 1) := dk_100 (dk_at dksX3_familyAs_13 12 rfl rfl)
theorem dX3_familyAs_321 : decode cX3_familyAs 321 = .ok (.ireturn, 1) := dk_172 (dk_at dksX3_familyAs_13 13 rfl rfl)
theorem dX3_familyAs_322 : decode cX3_familyAs 322 = .ok (.iconst 0, 1) := dk_3 (dk_at dksX3_familyAs_13 14 rfl rfl)
theorem dX3_familyAs_323 : decode cX3_familyAs 323 = .ok (.ireturn, 1) := dk_172 (dk_at dksX3_familyAs_13 15 rfl rfl)
abbrev cX3_formAs : ByteArray := prog_18_method_34_code
def yX3_formAs : MethodName := ⟨RX3, "formAs", "(III)I"⟩
def dkwX3_formAs_0 : List UInt8 := [27, 28, 160, 0, 7, 29, 167, 0, 9, 42, 180, 0, 7, 27, 46, 172]
abbrev dktX3_formAs_0 : List UInt8 := dkwX3_formAs_0 ++ []
theorem dksX3_formAs_0 : cX3_formAs.data.toList.drop 0 = dktX3_formAs_0 := by decide +kernel
theorem dX3_formAs_0 : decode cX3_formAs 0 = .ok (.iload_n 1, 1) := dk_27 (dk_at dksX3_formAs_0 0 rfl rfl)
theorem dX3_formAs_1 : decode cX3_formAs 1 = .ok (.iload_n 2, 1) := dk_28 (dk_at dksX3_formAs_0 1 rfl rfl)
theorem dX3_formAs_2 : decode cX3_formAs 2 = .ok (.if_icmp .ne 7, 3) := dk_160 0 7 (dk_at dksX3_formAs_0 2 rfl rfl)
theorem dX3_formAs_5 : decode cX3_formAs 5 = .ok (.iload_n 3, 1) := dk_29 (dk_at dksX3_formAs_0 5 rfl rfl)
theorem dX3_formAs_6 : decode cX3_formAs 6 = .ok (.goto 9, 3) := dk_167 0 9 (dk_at dksX3_formAs_0 6 rfl rfl)
theorem dX3_formAs_9 : decode cX3_formAs 9 = .ok (.aload_n 0, 1) := dk_42 (dk_at dksX3_formAs_0 9 rfl rfl)
theorem dX3_formAs_10 : decode cX3_formAs 10 = .ok (.getfield 7, 3) := dk_180 0 7 (dk_at dksX3_formAs_0 10 rfl rfl)
theorem dX3_formAs_13 : decode cX3_formAs 13 = .ok (.iload_n 1, 1) := dk_27 (dk_at dksX3_formAs_0 13 rfl rfl)
theorem dX3_formAs_14 : decode cX3_formAs 14 = .ok (.iaload, 1) := dk_46 (dk_at dksX3_formAs_0 14 rfl rfl)
theorem dX3_formAs_15 : decode cX3_formAs 15 = .ok (.ireturn, 1) := dk_172 (dk_at dksX3_formAs_0 15 rfl rfl)
abbrev cX3_isNumbers : ByteArray := prog_18_method_33_code
def yX3_isNumbers : MethodName := ⟨RX3, "isNumbers", "(I)Z"⟩
def dkwX3_isNumbers_0 : List UInt8 := [26, 3, 6, 184, 0, 114, 172]
abbrev dktX3_isNumbers_0 : List UInt8 := dkwX3_isNumbers_0 ++ []
theorem dksX3_isNumbers_0 : cX3_isNumbers.data.toList.drop 0 = dktX3_isNumbers_0 := by decide +kernel
theorem dX3_isNumbers_0 : decode cX3_isNumbers 0 = .ok (.iload_n 0, 1) := dk_26 (dk_at dksX3_isNumbers_0 0 rfl rfl)
theorem dX3_isNumbers_1 : decode cX3_isNumbers 1 = .ok (.iconst 0, 1) := dk_3 (dk_at dksX3_isNumbers_0 1 rfl rfl)
theorem dX3_isNumbers_2 : decode cX3_isNumbers 2 = .ok (.iconst 3, 1) := dk_6 (dk_at dksX3_isNumbers_0 2 rfl rfl)
theorem dX3_isNumbers_3 : decode cX3_isNumbers 3 = .ok (.invokestatic 114, 3) := dk_184 0 114 (dk_at dksX3_isNumbers_0 3 rfl rfl)
theorem dX3_isNumbers_6 : decode cX3_isNumbers 6 = .ok (.ireturn, 1) := dk_172 (dk_at dksX3_isNumbers_0 6 rfl rfl)
abbrev cX3_doneMany : ByteArray := prog_18_method_31_code
def yX3_doneMany : MethodName := ⟨RX3, "doneMany", "(I)I"⟩
def dkwX3_doneMany_1 : List UInt8 := [167, 0, 4, 3, 96, 61, 132, 3, 1, 167, 255, 228, 28, 172]
abbrev dktX3_doneMany_1 : List UInt8 := dkwX3_doneMany_1 ++ []
def dkwX3_doneMany_0 : List UInt8 := [3, 61, 3, 62, 29, 42, 180, 0, 154, 162, 0, 26, 28, 42, 27, 29, 182, 0, 177, 153, 0, 7, 4]
abbrev dktX3_doneMany_0 : List UInt8 := dkwX3_doneMany_0 ++ dktX3_doneMany_1
theorem dksX3_doneMany_0 : cX3_doneMany.data.toList.drop 0 = dktX3_doneMany_0 := by decide +kernel
theorem dksX3_doneMany_1 : cX3_doneMany.data.toList.drop 23 = dktX3_doneMany_1 := dk_seg dksX3_doneMany_0 23 rfl rfl
theorem dX3_doneMany_0 : decode cX3_doneMany 0 = .ok (.iconst 0, 1) := dk_3 (dk_at dksX3_doneMany_0 0 rfl rfl)
theorem dX3_doneMany_1 : decode cX3_doneMany 1 = .ok (.istore_n 2, 1) := dk_61 (dk_at dksX3_doneMany_0 1 rfl rfl)
theorem dX3_doneMany_2 : decode cX3_doneMany 2 = .ok (.iconst 0, 1) := dk_3 (dk_at dksX3_doneMany_0 2 rfl rfl)
theorem dX3_doneMany_3 : decode cX3_doneMany 3 = .ok (.istore_n 3, 1) := dk_62 (dk_at dksX3_doneMany_0 3 rfl rfl)
theorem dX3_doneMany_4 : decode cX3_doneMany 4 = .ok (.iload_n 3, 1) := dk_29 (dk_at dksX3_doneMany_0 4 rfl rfl)
theorem dX3_doneMany_5 : decode cX3_doneMany 5 = .ok (.aload_n 0, 1) := dk_42 (dk_at dksX3_doneMany_0 5 rfl rfl)
theorem dX3_doneMany_6 : decode cX3_doneMany 6 = .ok (.getfield 154, 3) := dk_180 0 154 (dk_at dksX3_doneMany_0 6 rfl rfl)
theorem dX3_doneMany_9 : decode cX3_doneMany 9 = .ok (.if_icmp .ge 26, 3) := dk_162 0 26 (dk_at dksX3_doneMany_0 9 rfl rfl)
theorem dX3_doneMany_12 : decode cX3_doneMany 12 = .ok (.iload_n 2, 1) := dk_28 (dk_at dksX3_doneMany_0 12 rfl rfl)
theorem dX3_doneMany_13 : decode cX3_doneMany 13 = .ok (.aload_n 0, 1) := dk_42 (dk_at dksX3_doneMany_0 13 rfl rfl)
theorem dX3_doneMany_14 : decode cX3_doneMany 14 = .ok (.iload_n 1, 1) := dk_27 (dk_at dksX3_doneMany_0 14 rfl rfl)
theorem dX3_doneMany_15 : decode cX3_doneMany 15 = .ok (.iload_n 3, 1) := dk_29 (dk_at dksX3_doneMany_0 15 rfl rfl)
theorem dX3_doneMany_16 : decode cX3_doneMany 16 = .ok (.invokevirtual 177, 3) := dk_182 0 177 (dk_at dksX3_doneMany_0 16 rfl rfl)
theorem dX3_doneMany_19 : decode cX3_doneMany 19 = .ok (.ifCond .eq 7, 3) := dk_153 0 7 (dk_at dksX3_doneMany_0 19 rfl rfl)
theorem dX3_doneMany_22 : decode cX3_doneMany 22 = .ok (.iconst 1, 1) := dk_4 (dk_at dksX3_doneMany_0 22 rfl rfl)
theorem dX3_doneMany_23 : decode cX3_doneMany 23 = .ok (.goto 4, 3) := dk_167 0 4 (dk_at dksX3_doneMany_1 0 rfl rfl)
theorem dX3_doneMany_26 : decode cX3_doneMany 26 = .ok (.iconst 0, 1) := dk_3 (dk_at dksX3_doneMany_1 3 rfl rfl)
theorem dX3_doneMany_27 : decode cX3_doneMany 27 = .ok (.iadd, 1) := dk_96 (dk_at dksX3_doneMany_1 4 rfl rfl)
theorem dX3_doneMany_28 : decode cX3_doneMany 28 = .ok (.istore_n 2, 1) := dk_61 (dk_at dksX3_doneMany_1 5 rfl rfl)
theorem dX3_doneMany_29 : decode cX3_doneMany 29 = .ok (.iinc 3 1, 3) := dk_132 3 1 (dk_at dksX3_doneMany_1 6 rfl rfl)
theorem dX3_doneMany_32 : decode cX3_doneMany 32 = .ok (.goto (-28), 3) := dk_167 255 228 (dk_at dksX3_doneMany_1 9 rfl rfl)
theorem dX3_doneMany_35 : decode cX3_doneMany 35 = .ok (.iload_n 2, 1) := dk_28 (dk_at dksX3_doneMany_1 12 rfl rfl)
theorem dX3_doneMany_36 : decode cX3_doneMany 36 = .ok (.ireturn, 1) := dk_172 (dk_at dksX3_doneMany_1 13 rfl rfl)
abbrev cX3_isDone : ByteArray := prog_18_method_30_code
def yX3_isDone : MethodName := ⟨RX3, "isDone", "(II)Z"⟩
def dkwX3_isDone_3 : List UInt8 := [27, 46, 160, 0, 7, 4, 167, 0, 4, 3, 172]
abbrev dktX3_isDone_3 : List UInt8 := dkwX3_isDone_3 ++ []
def dkwX3_isDone_2 : List UInt8 := [4, 167, 0, 4, 3, 54, 4, 21, 4, 153, 0, 24, 28, 42, 180, 0, 32, 27, 46, 112, 42, 180, 0, 35]
abbrev dktX3_isDone_2 : List UInt8 := dkwX3_isDone_2 ++ dktX3_isDone_3
def dkwX3_isDone_1 : List UInt8 := [180, 0, 13, 29, 46, 162, 0, 23, 42, 180, 0, 16, 16, 24, 29, 104, 28, 96, 49, 14, 151, 153, 0, 7]
abbrev dktX3_isDone_1 : List UInt8 := dkwX3_isDone_1 ++ dktX3_isDone_2
def dkwX3_isDone_0 : List UInt8 := [42, 180, 0, 38, 27, 46, 62, 29, 2, 159, 0, 39, 42, 180, 0, 7, 29, 46, 7, 160, 0, 33, 28, 42]
abbrev dktX3_isDone_0 : List UInt8 := dkwX3_isDone_0 ++ dktX3_isDone_1
theorem dksX3_isDone_0 : cX3_isDone.data.toList.drop 0 = dktX3_isDone_0 := by decide +kernel
theorem dksX3_isDone_1 : cX3_isDone.data.toList.drop 24 = dktX3_isDone_1 := dk_seg dksX3_isDone_0 24 rfl rfl
theorem dksX3_isDone_2 : cX3_isDone.data.toList.drop 48 = dktX3_isDone_2 := dk_seg dksX3_isDone_1 24 rfl rfl
theorem dksX3_isDone_3 : cX3_isDone.data.toList.drop 72 = dktX3_isDone_3 := dk_seg dksX3_isDone_2 24 rfl rfl
theorem dX3_isDone_0 : decode cX3_isDone 0 = .ok (.aload_n 0, 1) := dk_42 (dk_at dksX3_isDone_0 0 rfl rfl)
theorem dX3_isDone_1 : decode cX3_isDone 1 = .ok (.getfield 38, 3) := dk_180 0 38 (dk_at dksX3_isDone_0 1 rfl rfl)
theorem dX3_isDone_4 : decode cX3_isDone 4 = .ok (.iload_n 1, 1) := dk_27 (dk_at dksX3_isDone_0 4 rfl rfl)
theorem dX3_isDone_5 : decode cX3_isDone 5 = .ok (.iaload, 1) := dk_46 (dk_at dksX3_isDone_0 5 rfl rfl)
theorem dX3_isDone_6 : decode cX3_isDone 6 = .ok (.istore_n 3, 1) := dk_62 (dk_at dksX3_isDone_0 6 rfl rfl)
theorem dX3_isDone_7 : decode cX3_isDone 7 = .ok (.iload_n 3, 1) := dk_29 (dk_at dksX3_isDone_0 7 rfl rfl)
theorem dX3_isDone_8 : decode cX3_isDone 8 = .ok (.iconst (-1), 1) := dk_2 (dk_at dksX3_isDone_0 8 rfl rfl)
theorem dX3_isDone_9 : decode cX3_isDone 9 = .ok (.if_icmp .eq 39, 3) := dk_159 0 39 (dk_at dksX3_isDone_0 9 rfl rfl)
theorem dX3_isDone_12 : decode cX3_isDone 12 = .ok (.aload_n 0, 1) := dk_42 (dk_at dksX3_isDone_0 12 rfl rfl)
theorem dX3_isDone_13 : decode cX3_isDone 13 = .ok (.getfield 7, 3) := dk_180 0 7 (dk_at dksX3_isDone_0 13 rfl rfl)
theorem dX3_isDone_16 : decode cX3_isDone 16 = .ok (.iload_n 3, 1) := dk_29 (dk_at dksX3_isDone_0 16 rfl rfl)
theorem dX3_isDone_17 : decode cX3_isDone 17 = .ok (.iaload, 1) := dk_46 (dk_at dksX3_isDone_0 17 rfl rfl)
theorem dX3_isDone_18 : decode cX3_isDone 18 = .ok (.iconst 4, 1) := dk_7 (dk_at dksX3_isDone_0 18 rfl rfl)
theorem dX3_isDone_19 : decode cX3_isDone 19 = .ok (.if_icmp .ne 33, 3) := dk_160 0 33 (dk_at dksX3_isDone_0 19 rfl rfl)
theorem dX3_isDone_22 : decode cX3_isDone 22 = .ok (.iload_n 2, 1) := dk_28 (dk_at dksX3_isDone_0 22 rfl rfl)
theorem dX3_isDone_23 : decode cX3_isDone 23 = .ok (.aload_n 0, 1) := dk_42 (dk_at dksX3_isDone_0 23 rfl rfl)
theorem dX3_isDone_24 : decode cX3_isDone 24 = .ok (.getfield 13, 3) := dk_180 0 13 (dk_at dksX3_isDone_1 0 rfl rfl)
theorem dX3_isDone_27 : decode cX3_isDone 27 = .ok (.iload_n 3, 1) := dk_29 (dk_at dksX3_isDone_1 3 rfl rfl)
theorem dX3_isDone_28 : decode cX3_isDone 28 = .ok (.iaload, 1) := dk_46 (dk_at dksX3_isDone_1 4 rfl rfl)
theorem dX3_isDone_29 : decode cX3_isDone 29 = .ok (.if_icmp .ge 23, 3) := dk_162 0 23 (dk_at dksX3_isDone_1 5 rfl rfl)
theorem dX3_isDone_32 : decode cX3_isDone 32 = .ok (.aload_n 0, 1) := dk_42 (dk_at dksX3_isDone_1 8 rfl rfl)
theorem dX3_isDone_33 : decode cX3_isDone 33 = .ok (.getfield 16, 3) := dk_180 0 16 (dk_at dksX3_isDone_1 9 rfl rfl)
theorem dX3_isDone_36 : decode cX3_isDone 36 = .ok (.bipush 24, 2) := dk_16 24 (dk_at dksX3_isDone_1 12 rfl rfl)
theorem dX3_isDone_38 : decode cX3_isDone 38 = .ok (.iload_n 3, 1) := dk_29 (dk_at dksX3_isDone_1 14 rfl rfl)
theorem dX3_isDone_39 : decode cX3_isDone 39 = .ok (.imul, 1) := dk_104 (dk_at dksX3_isDone_1 15 rfl rfl)
theorem dX3_isDone_40 : decode cX3_isDone 40 = .ok (.iload_n 2, 1) := dk_28 (dk_at dksX3_isDone_1 16 rfl rfl)
theorem dX3_isDone_41 : decode cX3_isDone 41 = .ok (.iadd, 1) := dk_96 (dk_at dksX3_isDone_1 17 rfl rfl)
theorem dX3_isDone_42 : decode cX3_isDone 42 = .ok (.daload, 1) := dk_49 (dk_at dksX3_isDone_1 18 rfl rfl)
theorem dX3_isDone_43 : decode cX3_isDone 43 = .ok (.dconst 0, 1) := dk_14 (dk_at dksX3_isDone_1 19 rfl rfl)
theorem dX3_isDone_44 : decode cX3_isDone 44 = .ok (.dcmp .l, 1) := dk_151 (dk_at dksX3_isDone_1 20 rfl rfl)
theorem dX3_isDone_45 : decode cX3_isDone 45 = .ok (.ifCond .eq 7, 3) := dk_153 0 7 (dk_at dksX3_isDone_1 21 rfl rfl)
theorem dX3_isDone_48 : decode cX3_isDone 48 = .ok (.iconst 1, 1) := dk_4 (dk_at dksX3_isDone_2 0 rfl rfl)
theorem dX3_isDone_49 : decode cX3_isDone 49 = .ok (.goto 4, 3) := dk_167 0 4 (dk_at dksX3_isDone_2 1 rfl rfl)
theorem dX3_isDone_52 : decode cX3_isDone 52 = .ok (.iconst 0, 1) := dk_3 (dk_at dksX3_isDone_2 4 rfl rfl)
theorem dX3_isDone_53 : decode cX3_isDone 53 = .ok (.istore 4, 2) := dk_54 4 (dk_at dksX3_isDone_2 5 rfl rfl)
theorem dX3_isDone_55 : decode cX3_isDone 55 = .ok (.iload 4, 2) := dk_21 4 (dk_at dksX3_isDone_2 7 rfl rfl)
theorem dX3_isDone_57 : decode cX3_isDone 57 = .ok (.ifCond .eq 24, 3) := dk_153 0 24 (dk_at dksX3_isDone_2 9 rfl rfl)
theorem dX3_isDone_60 : decode cX3_isDone 60 = .ok (.iload_n 2, 1) := dk_28 (dk_at dksX3_isDone_2 12 rfl rfl)
theorem dX3_isDone_61 : decode cX3_isDone 61 = .ok (.aload_n 0, 1) := dk_42 (dk_at dksX3_isDone_2 13 rfl rfl)
theorem dX3_isDone_62 : decode cX3_isDone 62 = .ok (.getfield 32, 3) := dk_180 0 32 (dk_at dksX3_isDone_2 14 rfl rfl)
theorem dX3_isDone_65 : decode cX3_isDone 65 = .ok (.iload_n 1, 1) := dk_27 (dk_at dksX3_isDone_2 17 rfl rfl)
theorem dX3_isDone_66 : decode cX3_isDone 66 = .ok (.iaload, 1) := dk_46 (dk_at dksX3_isDone_2 18 rfl rfl)
theorem dX3_isDone_67 : decode cX3_isDone 67 = .ok (.irem, 1) := dk_112 (dk_at dksX3_isDone_2 19 rfl rfl)
theorem dX3_isDone_68 : decode cX3_isDone 68 = .ok (.aload_n 0, 1) := dk_42 (dk_at dksX3_isDone_2 20 rfl rfl)
theorem dX3_isDone_69 : decode cX3_isDone 69 = .ok (.getfield 35, 3) := dk_180 0 35 (dk_at dksX3_isDone_2 21 rfl rfl)
theorem dX3_isDone_72 : decode cX3_isDone 72 = .ok (.iload_n 1, 1) := dk_27 (dk_at dksX3_isDone_3 0 rfl rfl)
theorem dX3_isDone_73 : decode cX3_isDone 73 = .ok (.iaload, 1) := dk_46 (dk_at dksX3_isDone_3 1 rfl rfl)
theorem dX3_isDone_74 : decode cX3_isDone 74 = .ok (.if_icmp .ne 7, 3) := dk_160 0 7 (dk_at dksX3_isDone_3 2 rfl rfl)
theorem dX3_isDone_77 : decode cX3_isDone 77 = .ok (.iconst 1, 1) := dk_4 (dk_at dksX3_isDone_3 5 rfl rfl)
theorem dX3_isDone_78 : decode cX3_isDone 78 = .ok (.goto 4, 3) := dk_167 0 4 (dk_at dksX3_isDone_3 6 rfl rfl)
theorem dX3_isDone_81 : decode cX3_isDone 81 = .ok (.iconst 0, 1) := dk_3 (dk_at dksX3_isDone_3 9 rfl rfl)
theorem dX3_isDone_82 : decode cX3_isDone 82 = .ok (.ireturn, 1) := dk_172 (dk_at dksX3_isDone_3 10 rfl rfl)
abbrev cX3_reference : ByteArray := prog_18_method_39_code
def yX3_reference : MethodName := ⟨RX3, "reference", "(III)I"⟩
def dkwX3_reference_1 : List UInt8 := [153, 0, 16, 42, 6, 27, 104, 28, 96, 29, 182, 0, 197, 167, 0, 5, 18, 139, 172]
abbrev dktX3_reference_1 : List UInt8 := dkwX3_reference_1 ++ []
def dkwX3_reference_0 : List UInt8 := [42, 27, 182, 0, 174, 153, 0, 34, 28, 3, 5, 184, 0, 114, 153, 0, 25, 29, 3, 6, 184, 0, 114]
abbrev dktX3_reference_0 : List UInt8 := dkwX3_reference_0 ++ dktX3_reference_1
theorem dksX3_reference_0 : cX3_reference.data.toList.drop 0 = dktX3_reference_0 := by decide +kernel
theorem dksX3_reference_1 : cX3_reference.data.toList.drop 23 = dktX3_reference_1 := dk_seg dksX3_reference_0 23 rfl rfl
theorem dX3_reference_0 : decode cX3_reference 0 = .ok (.aload_n 0, 1) := dk_42 (dk_at dksX3_reference_0 0 rfl rfl)
theorem dX3_reference_1 : decode cX3_reference 1 = .ok (.iload_n 1, 1) := dk_27 (dk_at dksX3_reference_0 1 rfl rfl)
theorem dX3_reference_2 : decode cX3_reference 2 = .ok (.invokevirtual 174, 3) := dk_182 0 174 (dk_at dksX3_reference_0 2 rfl rfl)
theorem dX3_reference_5 : decode cX3_reference 5 = .ok (.ifCond .eq 34, 3) := dk_153 0 34 (dk_at dksX3_reference_0 5 rfl rfl)
theorem dX3_reference_8 : decode cX3_reference 8 = .ok (.iload_n 2, 1) := dk_28 (dk_at dksX3_reference_0 8 rfl rfl)
theorem dX3_reference_9 : decode cX3_reference 9 = .ok (.iconst 0, 1) := dk_3 (dk_at dksX3_reference_0 9 rfl rfl)
theorem dX3_reference_10 : decode cX3_reference 10 = .ok (.iconst 2, 1) := dk_5 (dk_at dksX3_reference_0 10 rfl rfl)
theorem dX3_reference_11 : decode cX3_reference 11 = .ok (.invokestatic 114, 3) := dk_184 0 114 (dk_at dksX3_reference_0 11 rfl rfl)
theorem dX3_reference_14 : decode cX3_reference 14 = .ok (.ifCond .eq 25, 3) := dk_153 0 25 (dk_at dksX3_reference_0 14 rfl rfl)
theorem dX3_reference_17 : decode cX3_reference 17 = .ok (.iload_n 3, 1) := dk_29 (dk_at dksX3_reference_0 17 rfl rfl)
theorem dX3_reference_18 : decode cX3_reference 18 = .ok (.iconst 0, 1) := dk_3 (dk_at dksX3_reference_0 18 rfl rfl)
theorem dX3_reference_19 : decode cX3_reference 19 = .ok (.iconst 3, 1) := dk_6 (dk_at dksX3_reference_0 19 rfl rfl)
theorem dX3_reference_20 : decode cX3_reference 20 = .ok (.invokestatic 114, 3) := dk_184 0 114 (dk_at dksX3_reference_0 20 rfl rfl)
theorem dX3_reference_23 : decode cX3_reference 23 = .ok (.ifCond .eq 16, 3) := dk_153 0 16 (dk_at dksX3_reference_1 0 rfl rfl)
theorem dX3_reference_26 : decode cX3_reference 26 = .ok (.aload_n 0, 1) := dk_42 (dk_at dksX3_reference_1 3 rfl rfl)
theorem dX3_reference_27 : decode cX3_reference 27 = .ok (.iconst 3, 1) := dk_6 (dk_at dksX3_reference_1 4 rfl rfl)
theorem dX3_reference_28 : decode cX3_reference 28 = .ok (.iload_n 1, 1) := dk_27 (dk_at dksX3_reference_1 5 rfl rfl)
theorem dX3_reference_29 : decode cX3_reference 29 = .ok (.imul, 1) := dk_104 (dk_at dksX3_reference_1 6 rfl rfl)
theorem dX3_reference_30 : decode cX3_reference 30 = .ok (.iload_n 2, 1) := dk_28 (dk_at dksX3_reference_1 7 rfl rfl)
theorem dX3_reference_31 : decode cX3_reference 31 = .ok (.iadd, 1) := dk_96 (dk_at dksX3_reference_1 8 rfl rfl)
theorem dX3_reference_32 : decode cX3_reference 32 = .ok (.iload_n 3, 1) := dk_29 (dk_at dksX3_reference_1 9 rfl rfl)
theorem dX3_reference_33 : decode cX3_reference 33 = .ok (.invokevirtual 197, 3) := dk_182 0 197 (dk_at dksX3_reference_1 10 rfl rfl)
theorem dX3_reference_36 : decode cX3_reference 36 = .ok (.goto 5, 3) := dk_167 0 5 (dk_at dksX3_reference_1 13 rfl rfl)
theorem dX3_reference_39 : decode cX3_reference 39 = .ok (.ldc 139, 2) := dk_18 139 (dk_at dksX3_reference_1 16 rfl rfl)
theorem dX3_reference_41 : decode cX3_reference 41 = .ok (.ireturn, 1) := dk_172 (dk_at dksX3_reference_1 18 rfl rfl)
abbrev cX3_referenceOf : ByteArray := prog_18_method_38_code
def yX3_referenceOf : MethodName := ⟨RX3, "referenceOf", "(II)I"⟩
def dkwX3_referenceOf_1 : List UInt8 := [167, 0, 23, 28, 5, 160, 0, 12, 42, 180, 0, 47, 27, 46, 167, 0, 9, 42, 180, 0, 50, 27, 46, 172]
abbrev dktX3_referenceOf_1 : List UInt8 := dkwX3_referenceOf_1 ++ []
def dkwX3_referenceOf_0 : List UInt8 := [28, 154, 0, 12, 42, 180, 0, 41, 27, 46, 167, 0, 37, 28, 4, 160, 0, 12, 42, 180, 0, 44, 27, 46]
abbrev dktX3_referenceOf_0 : List UInt8 := dkwX3_referenceOf_0 ++ dktX3_referenceOf_1
theorem dksX3_referenceOf_0 : cX3_referenceOf.data.toList.drop 0 = dktX3_referenceOf_0 := by decide +kernel
theorem dksX3_referenceOf_1 : cX3_referenceOf.data.toList.drop 24 = dktX3_referenceOf_1 := dk_seg dksX3_referenceOf_0 24 rfl rfl
theorem dX3_referenceOf_0 : decode cX3_referenceOf 0 = .ok (.iload_n 2, 1) := dk_28 (dk_at dksX3_referenceOf_0 0 rfl rfl)
theorem dX3_referenceOf_1 : decode cX3_referenceOf 1 = .ok (.ifCond .ne 12, 3) := dk_154 0 12 (dk_at dksX3_referenceOf_0 1 rfl rfl)
theorem dX3_referenceOf_4 : decode cX3_referenceOf 4 = .ok (.aload_n 0, 1) := dk_42 (dk_at dksX3_referenceOf_0 4 rfl rfl)
theorem dX3_referenceOf_5 : decode cX3_referenceOf 5 = .ok (.getfield 41, 3) := dk_180 0 41 (dk_at dksX3_referenceOf_0 5 rfl rfl)
theorem dX3_referenceOf_8 : decode cX3_referenceOf 8 = .ok (.iload_n 1, 1) := dk_27 (dk_at dksX3_referenceOf_0 8 rfl rfl)
theorem dX3_referenceOf_9 : decode cX3_referenceOf 9 = .ok (.iaload, 1) := dk_46 (dk_at dksX3_referenceOf_0 9 rfl rfl)
theorem dX3_referenceOf_10 : decode cX3_referenceOf 10 = .ok (.goto 37, 3) := dk_167 0 37 (dk_at dksX3_referenceOf_0 10 rfl rfl)
theorem dX3_referenceOf_13 : decode cX3_referenceOf 13 = .ok (.iload_n 2, 1) := dk_28 (dk_at dksX3_referenceOf_0 13 rfl rfl)
theorem dX3_referenceOf_14 : decode cX3_referenceOf 14 = .ok (.iconst 1, 1) := dk_4 (dk_at dksX3_referenceOf_0 14 rfl rfl)
theorem dX3_referenceOf_15 : decode cX3_referenceOf 15 = .ok (.if_icmp .ne 12, 3) := dk_160 0 12 (dk_at dksX3_referenceOf_0 15 rfl rfl)
theorem dX3_referenceOf_18 : decode cX3_referenceOf 18 = .ok (.aload_n 0, 1) := dk_42 (dk_at dksX3_referenceOf_0 18 rfl rfl)
theorem dX3_referenceOf_19 : decode cX3_referenceOf 19 = .ok (.getfield 44, 3) := dk_180 0 44 (dk_at dksX3_referenceOf_0 19 rfl rfl)
theorem dX3_referenceOf_22 : decode cX3_referenceOf 22 = .ok (.iload_n 1, 1) := dk_27 (dk_at dksX3_referenceOf_0 22 rfl rfl)
theorem dX3_referenceOf_23 : decode cX3_referenceOf 23 = .ok (.iaload, 1) := dk_46 (dk_at dksX3_referenceOf_0 23 rfl rfl)
theorem dX3_referenceOf_24 : decode cX3_referenceOf 24 = .ok (.goto 23, 3) := dk_167 0 23 (dk_at dksX3_referenceOf_1 0 rfl rfl)
theorem dX3_referenceOf_27 : decode cX3_referenceOf 27 = .ok (.iload_n 2, 1) := dk_28 (dk_at dksX3_referenceOf_1 3 rfl rfl)
theorem dX3_referenceOf_28 : decode cX3_referenceOf 28 = .ok (.iconst 2, 1) := dk_5 (dk_at dksX3_referenceOf_1 4 rfl rfl)
theorem dX3_referenceOf_29 : decode cX3_referenceOf 29 = .ok (.if_icmp .ne 12, 3) := dk_160 0 12 (dk_at dksX3_referenceOf_1 5 rfl rfl)
theorem dX3_referenceOf_32 : decode cX3_referenceOf 32 = .ok (.aload_n 0, 1) := dk_42 (dk_at dksX3_referenceOf_1 8 rfl rfl)
theorem dX3_referenceOf_33 : decode cX3_referenceOf 33 = .ok (.getfield 47, 3) := dk_180 0 47 (dk_at dksX3_referenceOf_1 9 rfl rfl)
theorem dX3_referenceOf_36 : decode cX3_referenceOf 36 = .ok (.iload_n 1, 1) := dk_27 (dk_at dksX3_referenceOf_1 12 rfl rfl)
theorem dX3_referenceOf_37 : decode cX3_referenceOf 37 = .ok (.iaload, 1) := dk_46 (dk_at dksX3_referenceOf_1 13 rfl rfl)
theorem dX3_referenceOf_38 : decode cX3_referenceOf 38 = .ok (.goto 9, 3) := dk_167 0 9 (dk_at dksX3_referenceOf_1 14 rfl rfl)
theorem dX3_referenceOf_41 : decode cX3_referenceOf 41 = .ok (.aload_n 0, 1) := dk_42 (dk_at dksX3_referenceOf_1 17 rfl rfl)
theorem dX3_referenceOf_42 : decode cX3_referenceOf 42 = .ok (.getfield 50, 3) := dk_180 0 50 (dk_at dksX3_referenceOf_1 18 rfl rfl)
theorem dX3_referenceOf_45 : decode cX3_referenceOf 45 = .ok (.iload_n 1, 1) := dk_27 (dk_at dksX3_referenceOf_1 21 rfl rfl)
theorem dX3_referenceOf_46 : decode cX3_referenceOf 46 = .ok (.iaload, 1) := dk_46 (dk_at dksX3_referenceOf_1 22 rfl rfl)
theorem dX3_referenceOf_47 : decode cX3_referenceOf 47 = .ok (.ireturn, 1) := dk_172 (dk_at dksX3_referenceOf_1 23 rfl rfl)
abbrev cX3_section : ByteArray := prog_18_method_46_code
def yX3_section : MethodName := ⟨RX3, "section", "(III)I"⟩
def dkwX3_section_1 : List UInt8 := [182, 0, 215, 167, 0, 5, 18, 139, 172]
abbrev dktX3_section_1 : List UInt8 := dkwX3_section_1 ++ []
def dkwX3_section_0 : List UInt8 := [42, 27, 28, 182, 0, 212, 153, 0, 22, 29, 3, 5, 184, 0, 114, 153, 0, 13, 42, 27, 28, 29]
abbrev dktX3_section_0 : List UInt8 := dkwX3_section_0 ++ dktX3_section_1
theorem dksX3_section_0 : cX3_section.data.toList.drop 0 = dktX3_section_0 := by decide +kernel
theorem dksX3_section_1 : cX3_section.data.toList.drop 22 = dktX3_section_1 := dk_seg dksX3_section_0 22 rfl rfl
theorem dX3_section_0 : decode cX3_section 0 = .ok (.aload_n 0, 1) := dk_42 (dk_at dksX3_section_0 0 rfl rfl)
theorem dX3_section_1 : decode cX3_section 1 = .ok (.iload_n 1, 1) := dk_27 (dk_at dksX3_section_0 1 rfl rfl)
theorem dX3_section_2 : decode cX3_section 2 = .ok (.iload_n 2, 1) := dk_28 (dk_at dksX3_section_0 2 rfl rfl)
theorem dX3_section_3 : decode cX3_section 3 = .ok (.invokevirtual 212, 3) := dk_182 0 212 (dk_at dksX3_section_0 3 rfl rfl)
theorem dX3_section_6 : decode cX3_section 6 = .ok (.ifCond .eq 22, 3) := dk_153 0 22 (dk_at dksX3_section_0 6 rfl rfl)
theorem dX3_section_9 : decode cX3_section 9 = .ok (.iload_n 3, 1) := dk_29 (dk_at dksX3_section_0 9 rfl rfl)
theorem dX3_section_10 : decode cX3_section 10 = .ok (.iconst 0, 1) := dk_3 (dk_at dksX3_section_0 10 rfl rfl)
theorem dX3_section_11 : decode cX3_section 11 = .ok (.iconst 2, 1) := dk_5 (dk_at dksX3_section_0 11 rfl rfl)
theorem dX3_section_12 : decode cX3_section 12 = .ok (.invokestatic 114, 3) := dk_184 0 114 (dk_at dksX3_section_0 12 rfl rfl)
theorem dX3_section_15 : decode cX3_section 15 = .ok (.ifCond .eq 13, 3) := dk_153 0 13 (dk_at dksX3_section_0 15 rfl rfl)
theorem dX3_section_18 : decode cX3_section 18 = .ok (.aload_n 0, 1) := dk_42 (dk_at dksX3_section_0 18 rfl rfl)
theorem dX3_section_19 : decode cX3_section 19 = .ok (.iload_n 1, 1) := dk_27 (dk_at dksX3_section_0 19 rfl rfl)
theorem dX3_section_20 : decode cX3_section 20 = .ok (.iload_n 2, 1) := dk_28 (dk_at dksX3_section_0 20 rfl rfl)
theorem dX3_section_21 : decode cX3_section 21 = .ok (.iload_n 3, 1) := dk_29 (dk_at dksX3_section_0 21 rfl rfl)
theorem dX3_section_22 : decode cX3_section 22 = .ok (.invokevirtual 215, 3) := dk_182 0 215 (dk_at dksX3_section_1 0 rfl rfl)
theorem dX3_section_25 : decode cX3_section 25 = .ok (.goto 5, 3) := dk_167 0 5 (dk_at dksX3_section_1 3 rfl rfl)
theorem dX3_section_28 : decode cX3_section 28 = .ok (.ldc 139, 2) := dk_18 139 (dk_at dksX3_section_1 6 rfl rfl)
theorem dX3_section_30 : decode cX3_section 30 = .ok (.ireturn, 1) := dk_172 (dk_at dksX3_section_1 8 rfl rfl)
abbrev cX3_isSection : ByteArray := prog_18_method_45_code
def yX3_isSection : MethodName := ⟨RX3, "isSection", "(II)Z"⟩
def dkwX3_isSection_1 : List UInt8 := [184, 0, 114, 153, 0, 17, 42, 180, 0, 41, 27, 46, 2, 159, 0, 7, 4, 167, 0, 4, 3, 172]
abbrev dktX3_isSection_1 : List UInt8 := dkwX3_isSection_1 ++ []
def dkwX3_isSection_0 : List UInt8 := [27, 3, 6, 42, 180, 0, 171, 104, 4, 100, 184, 0, 114, 153, 0, 31, 28, 3, 42, 180, 0, 154, 4, 100]
abbrev dktX3_isSection_0 : List UInt8 := dkwX3_isSection_0 ++ dktX3_isSection_1
theorem dksX3_isSection_0 : cX3_isSection.data.toList.drop 0 = dktX3_isSection_0 := by decide +kernel
theorem dksX3_isSection_1 : cX3_isSection.data.toList.drop 24 = dktX3_isSection_1 := dk_seg dksX3_isSection_0 24 rfl rfl
theorem dX3_isSection_0 : decode cX3_isSection 0 = .ok (.iload_n 1, 1) := dk_27 (dk_at dksX3_isSection_0 0 rfl rfl)
theorem dX3_isSection_1 : decode cX3_isSection 1 = .ok (.iconst 0, 1) := dk_3 (dk_at dksX3_isSection_0 1 rfl rfl)
theorem dX3_isSection_2 : decode cX3_isSection 2 = .ok (.iconst 3, 1) := dk_6 (dk_at dksX3_isSection_0 2 rfl rfl)
theorem dX3_isSection_3 : decode cX3_isSection 3 = .ok (.aload_n 0, 1) := dk_42 (dk_at dksX3_isSection_0 3 rfl rfl)
theorem dX3_isSection_4 : decode cX3_isSection 4 = .ok (.getfield 171, 3) := dk_180 0 171 (dk_at dksX3_isSection_0 4 rfl rfl)
theorem dX3_isSection_7 : decode cX3_isSection 7 = .ok (.imul, 1) := dk_104 (dk_at dksX3_isSection_0 7 rfl rfl)
theorem dX3_isSection_8 : decode cX3_isSection 8 = .ok (.iconst 1, 1) := dk_4 (dk_at dksX3_isSection_0 8 rfl rfl)
theorem dX3_isSection_9 : decode cX3_isSection 9 = .ok (.isub, 1) := dk_100 (dk_at dksX3_isSection_0 9 rfl rfl)
theorem dX3_isSection_10 : decode cX3_isSection 10 = .ok (.invokestatic 114, 3) := dk_184 0 114 (dk_at dksX3_isSection_0 10 rfl rfl)
theorem dX3_isSection_13 : decode cX3_isSection 13 = .ok (.ifCond .eq 31, 3) := dk_153 0 31 (dk_at dksX3_isSection_0 13 rfl rfl)
theorem dX3_isSection_16 : decode cX3_isSection 16 = .ok (.iload_n 2, 1) := dk_28 (dk_at dksX3_isSection_0 16 rfl rfl)
theorem dX3_isSection_17 : decode cX3_isSection 17 = .ok (.iconst 0, 1) := dk_3 (dk_at dksX3_isSection_0 17 rfl rfl)
theorem dX3_isSection_18 : decode cX3_isSection 18 = .ok (.aload_n 0, 1) := dk_42 (dk_at dksX3_isSection_0 18 rfl rfl)
theorem dX3_isSection_19 : decode cX3_isSection 19 = .ok (.getfield 154, 3) := dk_180 0 154 (dk_at dksX3_isSection_0 19 rfl rfl)
theorem dX3_isSection_22 : decode cX3_isSection 22 = .ok (.iconst 1, 1) := dk_4 (dk_at dksX3_isSection_0 22 rfl rfl)
theorem dX3_isSection_23 : decode cX3_isSection 23 = .ok (.isub, 1) := dk_100 (dk_at dksX3_isSection_0 23 rfl rfl)
theorem dX3_isSection_24 : decode cX3_isSection 24 = .ok (.invokestatic 114, 3) := dk_184 0 114 (dk_at dksX3_isSection_1 0 rfl rfl)
theorem dX3_isSection_27 : decode cX3_isSection 27 = .ok (.ifCond .eq 17, 3) := dk_153 0 17 (dk_at dksX3_isSection_1 3 rfl rfl)
theorem dX3_isSection_30 : decode cX3_isSection 30 = .ok (.aload_n 0, 1) := dk_42 (dk_at dksX3_isSection_1 6 rfl rfl)
theorem dX3_isSection_31 : decode cX3_isSection 31 = .ok (.getfield 41, 3) := dk_180 0 41 (dk_at dksX3_isSection_1 7 rfl rfl)
theorem dX3_isSection_34 : decode cX3_isSection 34 = .ok (.iload_n 1, 1) := dk_27 (dk_at dksX3_isSection_1 10 rfl rfl)
theorem dX3_isSection_35 : decode cX3_isSection 35 = .ok (.iaload, 1) := dk_46 (dk_at dksX3_isSection_1 11 rfl rfl)
theorem dX3_isSection_36 : decode cX3_isSection 36 = .ok (.iconst (-1), 1) := dk_2 (dk_at dksX3_isSection_1 12 rfl rfl)
theorem dX3_isSection_37 : decode cX3_isSection 37 = .ok (.if_icmp .eq 7, 3) := dk_159 0 7 (dk_at dksX3_isSection_1 13 rfl rfl)
theorem dX3_isSection_40 : decode cX3_isSection 40 = .ok (.iconst 1, 1) := dk_4 (dk_at dksX3_isSection_1 16 rfl rfl)
theorem dX3_isSection_41 : decode cX3_isSection 41 = .ok (.goto 4, 3) := dk_167 0 4 (dk_at dksX3_isSection_1 17 rfl rfl)
theorem dX3_isSection_44 : decode cX3_isSection 44 = .ok (.iconst 0, 1) := dk_3 (dk_at dksX3_isSection_1 20 rfl rfl)
theorem dX3_isSection_45 : decode cX3_isSection 45 = .ok (.ireturn, 1) := dk_172 (dk_at dksX3_isSection_1 21 rfl rfl)
abbrev cX3_sectionOf : ByteArray := prog_18_method_44_code
def yX3_sectionOf : MethodName := ⟨RX3, "sectionOf", "(III)I"⟩
def dkwX3_sectionOf_1 : List UInt8 := [167, 0, 8, 42, 27, 182, 0, 203, 172]
abbrev dktX3_sectionOf_1 : List UInt8 := dkwX3_sectionOf_1 ++ []
def dkwX3_sectionOf_0 : List UInt8 := [29, 154, 0, 12, 42, 27, 28, 182, 0, 206, 167, 0, 21, 29, 4, 160, 0, 11, 42, 27, 182, 0, 209]
abbrev dktX3_sectionOf_0 : List UInt8 := dkwX3_sectionOf_0 ++ dktX3_sectionOf_1
theorem dksX3_sectionOf_0 : cX3_sectionOf.data.toList.drop 0 = dktX3_sectionOf_0 := by decide +kernel
theorem dksX3_sectionOf_1 : cX3_sectionOf.data.toList.drop 23 = dktX3_sectionOf_1 := dk_seg dksX3_sectionOf_0 23 rfl rfl
theorem dX3_sectionOf_0 : decode cX3_sectionOf 0 = .ok (.iload_n 3, 1) := dk_29 (dk_at dksX3_sectionOf_0 0 rfl rfl)
theorem dX3_sectionOf_1 : decode cX3_sectionOf 1 = .ok (.ifCond .ne 12, 3) := dk_154 0 12 (dk_at dksX3_sectionOf_0 1 rfl rfl)
theorem dX3_sectionOf_4 : decode cX3_sectionOf 4 = .ok (.aload_n 0, 1) := dk_42 (dk_at dksX3_sectionOf_0 4 rfl rfl)
theorem dX3_sectionOf_5 : decode cX3_sectionOf 5 = .ok (.iload_n 1, 1) := dk_27 (dk_at dksX3_sectionOf_0 5 rfl rfl)
theorem dX3_sectionOf_6 : decode cX3_sectionOf 6 = .ok (.iload_n 2, 1) := dk_28 (dk_at dksX3_sectionOf_0 6 rfl rfl)
theorem dX3_sectionOf_7 : decode cX3_sectionOf 7 = .ok (.invokevirtual 206, 3) := dk_182 0 206 (dk_at dksX3_sectionOf_0 7 rfl rfl)
theorem dX3_sectionOf_10 : decode cX3_sectionOf 10 = .ok (.goto 21, 3) := dk_167 0 21 (dk_at dksX3_sectionOf_0 10 rfl rfl)
theorem dX3_sectionOf_13 : decode cX3_sectionOf 13 = .ok (.iload_n 3, 1) := dk_29 (dk_at dksX3_sectionOf_0 13 rfl rfl)
theorem dX3_sectionOf_14 : decode cX3_sectionOf 14 = .ok (.iconst 1, 1) := dk_4 (dk_at dksX3_sectionOf_0 14 rfl rfl)
theorem dX3_sectionOf_15 : decode cX3_sectionOf 15 = .ok (.if_icmp .ne 11, 3) := dk_160 0 11 (dk_at dksX3_sectionOf_0 15 rfl rfl)
theorem dX3_sectionOf_18 : decode cX3_sectionOf 18 = .ok (.aload_n 0, 1) := dk_42 (dk_at dksX3_sectionOf_0 18 rfl rfl)
theorem dX3_sectionOf_19 : decode cX3_sectionOf 19 = .ok (.iload_n 1, 1) := dk_27 (dk_at dksX3_sectionOf_0 19 rfl rfl)
theorem dX3_sectionOf_20 : decode cX3_sectionOf 20 = .ok (.invokevirtual 209, 3) := dk_182 0 209 (dk_at dksX3_sectionOf_0 20 rfl rfl)
theorem dX3_sectionOf_23 : decode cX3_sectionOf 23 = .ok (.goto 8, 3) := dk_167 0 8 (dk_at dksX3_sectionOf_1 0 rfl rfl)
theorem dX3_sectionOf_26 : decode cX3_sectionOf 26 = .ok (.aload_n 0, 1) := dk_42 (dk_at dksX3_sectionOf_1 3 rfl rfl)
theorem dX3_sectionOf_27 : decode cX3_sectionOf 27 = .ok (.iload_n 1, 1) := dk_27 (dk_at dksX3_sectionOf_1 4 rfl rfl)
theorem dX3_sectionOf_28 : decode cX3_sectionOf 28 = .ok (.invokevirtual 203, 3) := dk_182 0 203 (dk_at dksX3_sectionOf_1 5 rfl rfl)
theorem dX3_sectionOf_31 : decode cX3_sectionOf 31 = .ok (.ireturn, 1) := dk_172 (dk_at dksX3_sectionOf_1 8 rfl rfl)
abbrev cX3_firstOf : ByteArray := prog_18_method_41_code
def yX3_firstOf : MethodName := ⟨RX3, "firstOf", "(II)I"⟩
def dkwX3_firstOf_1 : List UInt8 := [54, 4, 21, 4, 29, 162, 0, 8, 21, 4, 167, 0, 4, 29, 172]
abbrev dktX3_firstOf_1 : List UInt8 := dkwX3_firstOf_1 ++ []
def dkwX3_firstOf_0 : List UInt8 := [42, 27, 28, 42, 180, 0, 29, 27, 6, 108, 46, 4, 100, 182, 0, 200, 62, 42, 27, 28, 3, 182, 0, 200]
abbrev dktX3_firstOf_0 : List UInt8 := dkwX3_firstOf_0 ++ dktX3_firstOf_1
theorem dksX3_firstOf_0 : cX3_firstOf.data.toList.drop 0 = dktX3_firstOf_0 := by decide +kernel
theorem dksX3_firstOf_1 : cX3_firstOf.data.toList.drop 24 = dktX3_firstOf_1 := dk_seg dksX3_firstOf_0 24 rfl rfl
theorem dX3_firstOf_0 : decode cX3_firstOf 0 = .ok (.aload_n 0, 1) := dk_42 (dk_at dksX3_firstOf_0 0 rfl rfl)
theorem dX3_firstOf_1 : decode cX3_firstOf 1 = .ok (.iload_n 1, 1) := dk_27 (dk_at dksX3_firstOf_0 1 rfl rfl)
theorem dX3_firstOf_2 : decode cX3_firstOf 2 = .ok (.iload_n 2, 1) := dk_28 (dk_at dksX3_firstOf_0 2 rfl rfl)
theorem dX3_firstOf_3 : decode cX3_firstOf 3 = .ok (.aload_n 0, 1) := dk_42 (dk_at dksX3_firstOf_0 3 rfl rfl)
theorem dX3_firstOf_4 : decode cX3_firstOf 4 = .ok (.getfield 29, 3) := dk_180 0 29 (dk_at dksX3_firstOf_0 4 rfl rfl)
theorem dX3_firstOf_7 : decode cX3_firstOf 7 = .ok (.iload_n 1, 1) := dk_27 (dk_at dksX3_firstOf_0 7 rfl rfl)
theorem dX3_firstOf_8 : decode cX3_firstOf 8 = .ok (.iconst 3, 1) := dk_6 (dk_at dksX3_firstOf_0 8 rfl rfl)
theorem dX3_firstOf_9 : decode cX3_firstOf 9 = .ok (.idiv, 1) := dk_108 (dk_at dksX3_firstOf_0 9 rfl rfl)
theorem dX3_firstOf_10 : decode cX3_firstOf 10 = .ok (.iaload, 1) := dk_46 (dk_at dksX3_firstOf_0 10 rfl rfl)
theorem dX3_firstOf_11 : decode cX3_firstOf 11 = .ok (.iconst 1, 1) := dk_4 (dk_at dksX3_firstOf_0 11 rfl rfl)
theorem dX3_firstOf_12 : decode cX3_firstOf 12 = .ok (.isub, 1) := dk_100 (dk_at dksX3_firstOf_0 12 rfl rfl)
theorem dX3_firstOf_13 : decode cX3_firstOf 13 = .ok (.invokevirtual 200, 3) := dk_182 0 200 (dk_at dksX3_firstOf_0 13 rfl rfl)
theorem dX3_firstOf_16 : decode cX3_firstOf 16 = .ok (.istore_n 3, 1) := dk_62 (dk_at dksX3_firstOf_0 16 rfl rfl)
theorem dX3_firstOf_17 : decode cX3_firstOf 17 = .ok (.aload_n 0, 1) := dk_42 (dk_at dksX3_firstOf_0 17 rfl rfl)
theorem dX3_firstOf_18 : decode cX3_firstOf 18 = .ok (.iload_n 1, 1) := dk_27 (dk_at dksX3_firstOf_0 18 rfl rfl)
theorem dX3_firstOf_19 : decode cX3_firstOf 19 = .ok (.iload_n 2, 1) := dk_28 (dk_at dksX3_firstOf_0 19 rfl rfl)
theorem dX3_firstOf_20 : decode cX3_firstOf 20 = .ok (.iconst 0, 1) := dk_3 (dk_at dksX3_firstOf_0 20 rfl rfl)
theorem dX3_firstOf_21 : decode cX3_firstOf 21 = .ok (.invokevirtual 200, 3) := dk_182 0 200 (dk_at dksX3_firstOf_0 21 rfl rfl)
theorem dX3_firstOf_24 : decode cX3_firstOf 24 = .ok (.istore 4, 2) := dk_54 4 (dk_at dksX3_firstOf_1 0 rfl rfl)
theorem dX3_firstOf_26 : decode cX3_firstOf 26 = .ok (.iload 4, 2) := dk_21 4 (dk_at dksX3_firstOf_1 2 rfl rfl)
theorem dX3_firstOf_28 : decode cX3_firstOf 28 = .ok (.iload_n 3, 1) := dk_29 (dk_at dksX3_firstOf_1 4 rfl rfl)
theorem dX3_firstOf_29 : decode cX3_firstOf 29 = .ok (.if_icmp .ge 8, 3) := dk_162 0 8 (dk_at dksX3_firstOf_1 5 rfl rfl)
theorem dX3_firstOf_32 : decode cX3_firstOf 32 = .ok (.iload 4, 2) := dk_21 4 (dk_at dksX3_firstOf_1 8 rfl rfl)
theorem dX3_firstOf_34 : decode cX3_firstOf 34 = .ok (.goto 4, 3) := dk_167 0 4 (dk_at dksX3_firstOf_1 10 rfl rfl)
theorem dX3_firstOf_37 : decode cX3_firstOf 37 = .ok (.iload_n 3, 1) := dk_29 (dk_at dksX3_firstOf_1 13 rfl rfl)
theorem dX3_firstOf_38 : decode cX3_firstOf 38 = .ok (.ireturn, 1) := dk_172 (dk_at dksX3_firstOf_1 14 rfl rfl)
abbrev cX3_placeOf : ByteArray := prog_18_method_40_code
def yX3_placeOf : MethodName := ⟨RX3, "placeOf", "(III)I"⟩
def dkwX3_placeOf_1 : List UInt8 := [172]
abbrev dktX3_placeOf_1 : List UInt8 := dkwX3_placeOf_1 ++ []
def dkwX3_placeOf_0 : List UInt8 := [42, 180, 0, 44, 27, 46, 42, 180, 0, 47, 27, 46, 28, 104, 96, 42, 180, 0, 50, 27, 46, 29, 104, 96]
abbrev dktX3_placeOf_0 : List UInt8 := dkwX3_placeOf_0 ++ dktX3_placeOf_1
theorem dksX3_placeOf_0 : cX3_placeOf.data.toList.drop 0 = dktX3_placeOf_0 := by decide +kernel
theorem dksX3_placeOf_1 : cX3_placeOf.data.toList.drop 24 = dktX3_placeOf_1 := dk_seg dksX3_placeOf_0 24 rfl rfl
theorem dX3_placeOf_0 : decode cX3_placeOf 0 = .ok (.aload_n 0, 1) := dk_42 (dk_at dksX3_placeOf_0 0 rfl rfl)
theorem dX3_placeOf_1 : decode cX3_placeOf 1 = .ok (.getfield 44, 3) := dk_180 0 44 (dk_at dksX3_placeOf_0 1 rfl rfl)
theorem dX3_placeOf_4 : decode cX3_placeOf 4 = .ok (.iload_n 1, 1) := dk_27 (dk_at dksX3_placeOf_0 4 rfl rfl)
theorem dX3_placeOf_5 : decode cX3_placeOf 5 = .ok (.iaload, 1) := dk_46 (dk_at dksX3_placeOf_0 5 rfl rfl)
theorem dX3_placeOf_6 : decode cX3_placeOf 6 = .ok (.aload_n 0, 1) := dk_42 (dk_at dksX3_placeOf_0 6 rfl rfl)
theorem dX3_placeOf_7 : decode cX3_placeOf 7 = .ok (.getfield 47, 3) := dk_180 0 47 (dk_at dksX3_placeOf_0 7 rfl rfl)
theorem dX3_placeOf_10 : decode cX3_placeOf 10 = .ok (.iload_n 1, 1) := dk_27 (dk_at dksX3_placeOf_0 10 rfl rfl)
theorem dX3_placeOf_11 : decode cX3_placeOf 11 = .ok (.iaload, 1) := dk_46 (dk_at dksX3_placeOf_0 11 rfl rfl)
theorem dX3_placeOf_12 : decode cX3_placeOf 12 = .ok (.iload_n 2, 1) := dk_28 (dk_at dksX3_placeOf_0 12 rfl rfl)
theorem dX3_placeOf_13 : decode cX3_placeOf 13 = .ok (.imul, 1) := dk_104 (dk_at dksX3_placeOf_0 13 rfl rfl)
theorem dX3_placeOf_14 : decode cX3_placeOf 14 = .ok (.iadd, 1) := dk_96 (dk_at dksX3_placeOf_0 14 rfl rfl)
theorem dX3_placeOf_15 : decode cX3_placeOf 15 = .ok (.aload_n 0, 1) := dk_42 (dk_at dksX3_placeOf_0 15 rfl rfl)
theorem dX3_placeOf_16 : decode cX3_placeOf 16 = .ok (.getfield 50, 3) := dk_180 0 50 (dk_at dksX3_placeOf_0 16 rfl rfl)
theorem dX3_placeOf_19 : decode cX3_placeOf 19 = .ok (.iload_n 1, 1) := dk_27 (dk_at dksX3_placeOf_0 19 rfl rfl)
theorem dX3_placeOf_20 : decode cX3_placeOf 20 = .ok (.iaload, 1) := dk_46 (dk_at dksX3_placeOf_0 20 rfl rfl)
theorem dX3_placeOf_21 : decode cX3_placeOf 21 = .ok (.iload_n 3, 1) := dk_29 (dk_at dksX3_placeOf_0 21 rfl rfl)
theorem dX3_placeOf_22 : decode cX3_placeOf 22 = .ok (.imul, 1) := dk_104 (dk_at dksX3_placeOf_0 22 rfl rfl)
theorem dX3_placeOf_23 : decode cX3_placeOf 23 = .ok (.iadd, 1) := dk_96 (dk_at dksX3_placeOf_0 23 rfl rfl)
theorem dX3_placeOf_24 : decode cX3_placeOf 24 = .ok (.ireturn, 1) := dk_172 (dk_at dksX3_placeOf_1 0 rfl rfl)
abbrev cX3_strideOf : ByteArray := prog_18_method_43_code
def yX3_strideOf : MethodName := ⟨RX3, "strideOf", "(I)I"⟩
def dkwX3_strideOf_1 : List UInt8 := [180, 0, 50, 27, 46, 116, 167, 0, 9, 42, 180, 0, 50, 27, 46, 172]
abbrev dktX3_strideOf_1 : List UInt8 := dkwX3_strideOf_1 ++ []
def dkwX3_strideOf_0 : List UInt8 := [42, 27, 182, 0, 203, 4, 160, 0, 7, 4, 167, 0, 28, 42, 180, 0, 50, 27, 46, 156, 0, 13, 42]
abbrev dktX3_strideOf_0 : List UInt8 := dkwX3_strideOf_0 ++ dktX3_strideOf_1
theorem dksX3_strideOf_0 : cX3_strideOf.data.toList.drop 0 = dktX3_strideOf_0 := by decide +kernel
theorem dksX3_strideOf_1 : cX3_strideOf.data.toList.drop 23 = dktX3_strideOf_1 := dk_seg dksX3_strideOf_0 23 rfl rfl
theorem dX3_strideOf_0 : decode cX3_strideOf 0 = .ok (.aload_n 0, 1) := dk_42 (dk_at dksX3_strideOf_0 0 rfl rfl)
theorem dX3_strideOf_1 : decode cX3_strideOf 1 = .ok (.iload_n 1, 1) := dk_27 (dk_at dksX3_strideOf_0 1 rfl rfl)
theorem dX3_strideOf_2 : decode cX3_strideOf 2 = .ok (.invokevirtual 203, 3) := dk_182 0 203 (dk_at dksX3_strideOf_0 2 rfl rfl)
theorem dX3_strideOf_5 : decode cX3_strideOf 5 = .ok (.iconst 1, 1) := dk_4 (dk_at dksX3_strideOf_0 5 rfl rfl)
theorem dX3_strideOf_6 : decode cX3_strideOf 6 = .ok (.if_icmp .ne 7, 3) := dk_160 0 7 (dk_at dksX3_strideOf_0 6 rfl rfl)
theorem dX3_strideOf_9 : decode cX3_strideOf 9 = .ok (.iconst 1, 1) := dk_4 (dk_at dksX3_strideOf_0 9 rfl rfl)
theorem dX3_strideOf_10 : decode cX3_strideOf 10 = .ok (.goto 28, 3) := dk_167 0 28 (dk_at dksX3_strideOf_0 10 rfl rfl)
theorem dX3_strideOf_13 : decode cX3_strideOf 13 = .ok (.aload_n 0, 1) := dk_42 (dk_at dksX3_strideOf_0 13 rfl rfl)
theorem dX3_strideOf_14 : decode cX3_strideOf 14 = .ok (.getfield 50, 3) := dk_180 0 50 (dk_at dksX3_strideOf_0 14 rfl rfl)
theorem dX3_strideOf_17 : decode cX3_strideOf 17 = .ok (.iload_n 1, 1) := dk_27 (dk_at dksX3_strideOf_0 17 rfl rfl)
theorem dX3_strideOf_18 : decode cX3_strideOf 18 = .ok (.iaload, 1) := dk_46 (dk_at dksX3_strideOf_0 18 rfl rfl)
theorem dX3_strideOf_19 : decode cX3_strideOf 19 = .ok (.ifCond .ge 13, 3) := dk_156 0 13 (dk_at dksX3_strideOf_0 19 rfl rfl)
theorem dX3_strideOf_22 : decode cX3_strideOf 22 = .ok (.aload_n 0, 1) := dk_42 (dk_at dksX3_strideOf_0 22 rfl rfl)
theorem dX3_strideOf_23 : decode cX3_strideOf 23 = .ok (.getfield 50, 3) := dk_180 0 50 (dk_at dksX3_strideOf_1 0 rfl rfl)
theorem dX3_strideOf_26 : decode cX3_strideOf 26 = .ok (.iload_n 1, 1) := dk_27 (dk_at dksX3_strideOf_1 3 rfl rfl)
theorem dX3_strideOf_27 : decode cX3_strideOf 27 = .ok (.iaload, 1) := dk_46 (dk_at dksX3_strideOf_1 4 rfl rfl)
theorem dX3_strideOf_28 : decode cX3_strideOf 28 = .ok (.ineg, 1) := dk_116 (dk_at dksX3_strideOf_1 5 rfl rfl)
theorem dX3_strideOf_29 : decode cX3_strideOf 29 = .ok (.goto 9, 3) := dk_167 0 9 (dk_at dksX3_strideOf_1 6 rfl rfl)
theorem dX3_strideOf_32 : decode cX3_strideOf 32 = .ok (.aload_n 0, 1) := dk_42 (dk_at dksX3_strideOf_1 9 rfl rfl)
theorem dX3_strideOf_33 : decode cX3_strideOf 33 = .ok (.getfield 50, 3) := dk_180 0 50 (dk_at dksX3_strideOf_1 10 rfl rfl)
theorem dX3_strideOf_36 : decode cX3_strideOf 36 = .ok (.iload_n 1, 1) := dk_27 (dk_at dksX3_strideOf_1 13 rfl rfl)
theorem dX3_strideOf_37 : decode cX3_strideOf 37 = .ok (.iaload, 1) := dk_46 (dk_at dksX3_strideOf_1 14 rfl rfl)
theorem dX3_strideOf_38 : decode cX3_strideOf 38 = .ok (.ireturn, 1) := dk_172 (dk_at dksX3_strideOf_1 15 rfl rfl)
abbrev cX3_manyOf : ByteArray := prog_18_method_42_code
def yX3_manyOf : MethodName := ⟨RX3, "manyOf", "(I)I"⟩
def dkwX3_manyOf_0 : List UInt8 := [42, 180, 0, 50, 27, 46, 154, 0, 7, 4, 167, 0, 11, 42, 180, 0, 29, 27, 6, 108, 46, 172]
abbrev dktX3_manyOf_0 : List UInt8 := dkwX3_manyOf_0 ++ []
theorem dksX3_manyOf_0 : cX3_manyOf.data.toList.drop 0 = dktX3_manyOf_0 := by decide +kernel
theorem dX3_manyOf_0 : decode cX3_manyOf 0 = .ok (.aload_n 0, 1) := dk_42 (dk_at dksX3_manyOf_0 0 rfl rfl)
theorem dX3_manyOf_1 : decode cX3_manyOf 1 = .ok (.getfield 50, 3) := dk_180 0 50 (dk_at dksX3_manyOf_0 1 rfl rfl)
theorem dX3_manyOf_4 : decode cX3_manyOf 4 = .ok (.iload_n 1, 1) := dk_27 (dk_at dksX3_manyOf_0 4 rfl rfl)
theorem dX3_manyOf_5 : decode cX3_manyOf 5 = .ok (.iaload, 1) := dk_46 (dk_at dksX3_manyOf_0 5 rfl rfl)
theorem dX3_manyOf_6 : decode cX3_manyOf 6 = .ok (.ifCond .ne 7, 3) := dk_154 0 7 (dk_at dksX3_manyOf_0 6 rfl rfl)
theorem dX3_manyOf_9 : decode cX3_manyOf 9 = .ok (.iconst 1, 1) := dk_4 (dk_at dksX3_manyOf_0 9 rfl rfl)
theorem dX3_manyOf_10 : decode cX3_manyOf 10 = .ok (.goto 11, 3) := dk_167 0 11 (dk_at dksX3_manyOf_0 10 rfl rfl)
theorem dX3_manyOf_13 : decode cX3_manyOf 13 = .ok (.aload_n 0, 1) := dk_42 (dk_at dksX3_manyOf_0 13 rfl rfl)
theorem dX3_manyOf_14 : decode cX3_manyOf 14 = .ok (.getfield 29, 3) := dk_180 0 29 (dk_at dksX3_manyOf_0 14 rfl rfl)
theorem dX3_manyOf_17 : decode cX3_manyOf 17 = .ok (.iload_n 1, 1) := dk_27 (dk_at dksX3_manyOf_0 17 rfl rfl)
theorem dX3_manyOf_18 : decode cX3_manyOf 18 = .ok (.iconst 3, 1) := dk_6 (dk_at dksX3_manyOf_0 18 rfl rfl)
theorem dX3_manyOf_19 : decode cX3_manyOf 19 = .ok (.idiv, 1) := dk_108 (dk_at dksX3_manyOf_0 19 rfl rfl)
theorem dX3_manyOf_20 : decode cX3_manyOf 20 = .ok (.iaload, 1) := dk_46 (dk_at dksX3_manyOf_0 20 rfl rfl)
theorem dX3_manyOf_21 : decode cX3_manyOf 21 = .ok (.ireturn, 1) := dk_172 (dk_at dksX3_manyOf_0 21 rfl rfl)
abbrev cX3_meet : ByteArray := prog_18_method_49_code
def yX3_meet : MethodName := ⟨RX3, "meet", "(IIIII)I"⟩
def dkwX3_meet_1 : List UInt8 := [184, 0, 114, 153, 0, 17, 42, 27, 28, 29, 21, 4, 21, 5, 182, 0, 221, 167, 0, 5, 18, 139, 172]
abbrev dktX3_meet_1 : List UInt8 := dkwX3_meet_1 ++ []
def dkwX3_meet_0 : List UInt8 := [42, 27, 28, 182, 0, 212, 153, 0, 37, 42, 29, 21, 4, 182, 0, 212, 153, 0, 27, 21, 5, 3, 6]
abbrev dktX3_meet_0 : List UInt8 := dkwX3_meet_0 ++ dktX3_meet_1
theorem dksX3_meet_0 : cX3_meet.data.toList.drop 0 = dktX3_meet_0 := by decide +kernel
theorem dksX3_meet_1 : cX3_meet.data.toList.drop 23 = dktX3_meet_1 := dk_seg dksX3_meet_0 23 rfl rfl
theorem dX3_meet_0 : decode cX3_meet 0 = .ok (.aload_n 0, 1) := dk_42 (dk_at dksX3_meet_0 0 rfl rfl)
theorem dX3_meet_1 : decode cX3_meet 1 = .ok (.iload_n 1, 1) := dk_27 (dk_at dksX3_meet_0 1 rfl rfl)
theorem dX3_meet_2 : decode cX3_meet 2 = .ok (.iload_n 2, 1) := dk_28 (dk_at dksX3_meet_0 2 rfl rfl)
theorem dX3_meet_3 : decode cX3_meet 3 = .ok (.invokevirtual 212, 3) := dk_182 0 212 (dk_at dksX3_meet_0 3 rfl rfl)
theorem dX3_meet_6 : decode cX3_meet 6 = .ok (.ifCond .eq 37, 3) := dk_153 0 37 (dk_at dksX3_meet_0 6 rfl rfl)
theorem dX3_meet_9 : decode cX3_meet 9 = .ok (.aload_n 0, 1) := dk_42 (dk_at dksX3_meet_0 9 rfl rfl)
theorem dX3_meet_10 : decode cX3_meet 10 = .ok (.iload_n 3, 1) := dk_29 (dk_at dksX3_meet_0 10 rfl rfl)
theorem dX3_meet_11 : decode cX3_meet 11 = .ok (.iload 4, 2) := dk_21 4 (dk_at dksX3_meet_0 11 rfl rfl)
theorem dX3_meet_13 : decode cX3_meet 13 = .ok (.invokevirtual 212, 3) := dk_182 0 212 (dk_at dksX3_meet_0 13 rfl rfl)
theorem dX3_meet_16 : decode cX3_meet 16 = .ok (.ifCond .eq 27, 3) := dk_153 0 27 (dk_at dksX3_meet_0 16 rfl rfl)
theorem dX3_meet_19 : decode cX3_meet 19 = .ok (.iload 5, 2) := dk_21 5 (dk_at dksX3_meet_0 19 rfl rfl)
theorem dX3_meet_21 : decode cX3_meet 21 = .ok (.iconst 0, 1) := dk_3 (dk_at dksX3_meet_0 21 rfl rfl)
theorem dX3_meet_22 : decode cX3_meet 22 = .ok (.iconst 3, 1) := dk_6 (dk_at dksX3_meet_0 22 rfl rfl)
theorem dX3_meet_23 : decode cX3_meet 23 = .ok (.invokestatic 114, 3) := dk_184 0 114 (dk_at dksX3_meet_1 0 rfl rfl)
theorem dX3_meet_26 : decode cX3_meet 26 = .ok (.ifCond .eq 17, 3) := dk_153 0 17 (dk_at dksX3_meet_1 3 rfl rfl)
theorem dX3_meet_29 : decode cX3_meet 29 = .ok (.aload_n 0, 1) := dk_42 (dk_at dksX3_meet_1 6 rfl rfl)
theorem dX3_meet_30 : decode cX3_meet 30 = .ok (.iload_n 1, 1) := dk_27 (dk_at dksX3_meet_1 7 rfl rfl)
theorem dX3_meet_31 : decode cX3_meet 31 = .ok (.iload_n 2, 1) := dk_28 (dk_at dksX3_meet_1 8 rfl rfl)
theorem dX3_meet_32 : decode cX3_meet 32 = .ok (.iload_n 3, 1) := dk_29 (dk_at dksX3_meet_1 9 rfl rfl)
theorem dX3_meet_33 : decode cX3_meet 33 = .ok (.iload 4, 2) := dk_21 4 (dk_at dksX3_meet_1 10 rfl rfl)
theorem dX3_meet_35 : decode cX3_meet 35 = .ok (.iload 5, 2) := dk_21 5 (dk_at dksX3_meet_1 12 rfl rfl)
theorem dX3_meet_37 : decode cX3_meet 37 = .ok (.invokevirtual 221, 3) := dk_182 0 221 (dk_at dksX3_meet_1 14 rfl rfl)
theorem dX3_meet_40 : decode cX3_meet 40 = .ok (.goto 5, 3) := dk_167 0 5 (dk_at dksX3_meet_1 17 rfl rfl)
theorem dX3_meet_43 : decode cX3_meet 43 = .ok (.ldc 139, 2) := dk_18 139 (dk_at dksX3_meet_1 20 rfl rfl)
theorem dX3_meet_45 : decode cX3_meet 45 = .ok (.ireturn, 1) := dk_172 (dk_at dksX3_meet_1 22 rfl rfl)
abbrev cX3_meetOf : ByteArray := prog_18_method_48_code
def yX3_meetOf : MethodName := ⟨RX3, "meetOf", "(IIIII)I"⟩
def dkwX3_meetOf_5 : List UInt8 := [160, 0, 8, 21, 8, 167, 0, 11, 42, 27, 182, 0, 203, 21, 8, 100, 172]
abbrev dktX3_meetOf_5 : List UInt8 := dkwX3_meetOf_5 ++ []
def dkwX3_meetOf_4 : List UInt8 := [154, 0, 8, 21, 6, 167, 0, 33, 21, 5, 4, 160, 0, 8, 21, 7, 167, 0, 22, 21, 5, 5]
abbrev dktX3_meetOf_4 : List UInt8 := dkwX3_meetOf_4 ++ dktX3_meetOf_5
def dkwX3_meetOf_3 : List UInt8 := [154, 0, 8, 21, 10, 167, 0, 5, 21, 6, 54, 6, 132, 8, 1, 132, 9, 1, 167, 255, 179, 21, 5]
abbrev dktX3_meetOf_3 : List UInt8 := dkwX3_meetOf_3 ++ dktX3_meetOf_4
def dkwX3_meetOf_2 : List UInt8 := [153, 0, 38, 21, 8, 4, 160, 0, 11, 21, 10, 21, 6, 100, 167, 0, 5, 21, 7, 54, 7, 21, 8]
abbrev dktX3_meetOf_2 : List UInt8 := dkwX3_meetOf_2 ++ dktX3_meetOf_3
def dkwX3_meetOf_1 : List UInt8 := [28, 182, 0, 206, 42, 27, 182, 0, 209, 21, 9, 104, 96, 54, 10, 42, 29, 21, 4, 21, 10, 182, 0, 218]
abbrev dktX3_meetOf_1 : List UInt8 := dkwX3_meetOf_1 ++ dktX3_meetOf_2
def dkwX3_meetOf_0 : List UInt8 := [3, 54, 6, 4, 54, 7, 3, 54, 8, 3, 54, 9, 21, 9, 42, 27, 182, 0, 203, 162, 0, 73, 42, 27]
abbrev dktX3_meetOf_0 : List UInt8 := dkwX3_meetOf_0 ++ dktX3_meetOf_1
theorem dksX3_meetOf_0 : cX3_meetOf.data.toList.drop 0 = dktX3_meetOf_0 := by decide +kernel
theorem dksX3_meetOf_1 : cX3_meetOf.data.toList.drop 24 = dktX3_meetOf_1 := dk_seg dksX3_meetOf_0 24 rfl rfl
theorem dksX3_meetOf_2 : cX3_meetOf.data.toList.drop 48 = dktX3_meetOf_2 := dk_seg dksX3_meetOf_1 24 rfl rfl
theorem dksX3_meetOf_3 : cX3_meetOf.data.toList.drop 71 = dktX3_meetOf_3 := dk_seg dksX3_meetOf_2 23 rfl rfl
theorem dksX3_meetOf_4 : cX3_meetOf.data.toList.drop 94 = dktX3_meetOf_4 := dk_seg dksX3_meetOf_3 23 rfl rfl
theorem dksX3_meetOf_5 : cX3_meetOf.data.toList.drop 116 = dktX3_meetOf_5 := dk_seg dksX3_meetOf_4 22 rfl rfl
theorem dX3_meetOf_0 : decode cX3_meetOf 0 = .ok (.iconst 0, 1) := dk_3 (dk_at dksX3_meetOf_0 0 rfl rfl)
theorem dX3_meetOf_1 : decode cX3_meetOf 1 = .ok (.istore 6, 2) := dk_54 6 (dk_at dksX3_meetOf_0 1 rfl rfl)
theorem dX3_meetOf_3 : decode cX3_meetOf 3 = .ok (.iconst 1, 1) := dk_4 (dk_at dksX3_meetOf_0 3 rfl rfl)
theorem dX3_meetOf_4 : decode cX3_meetOf 4 = .ok (.istore 7, 2) := dk_54 7 (dk_at dksX3_meetOf_0 4 rfl rfl)
theorem dX3_meetOf_6 : decode cX3_meetOf 6 = .ok (.iconst 0, 1) := dk_3 (dk_at dksX3_meetOf_0 6 rfl rfl)
theorem dX3_meetOf_7 : decode cX3_meetOf 7 = .ok (.istore 8, 2) := dk_54 8 (dk_at dksX3_meetOf_0 7 rfl rfl)
theorem dX3_meetOf_9 : decode cX3_meetOf 9 = .ok (.iconst 0, 1) := dk_3 (dk_at dksX3_meetOf_0 9 rfl rfl)
theorem dX3_meetOf_10 : decode cX3_meetOf 10 = .ok (.istore 9, 2) := dk_54 9 (dk_at dksX3_meetOf_0 10 rfl rfl)
theorem dX3_meetOf_12 : decode cX3_meetOf 12 = .ok (.iload 9, 2) := dk_21 9 (dk_at dksX3_meetOf_0 12 rfl rfl)
theorem dX3_meetOf_14 : decode cX3_meetOf 14 = .ok (.aload_n 0, 1) := dk_42 (dk_at dksX3_meetOf_0 14 rfl rfl)
theorem dX3_meetOf_15 : decode cX3_meetOf 15 = .ok (.iload_n 1, 1) := dk_27 (dk_at dksX3_meetOf_0 15 rfl rfl)
theorem dX3_meetOf_16 : decode cX3_meetOf 16 = .ok (.invokevirtual 203, 3) := dk_182 0 203 (dk_at dksX3_meetOf_0 16 rfl rfl)
theorem dX3_meetOf_19 : decode cX3_meetOf 19 = .ok (.if_icmp .ge 73, 3) := dk_162 0 73 (dk_at dksX3_meetOf_0 19 rfl rfl)
theorem dX3_meetOf_22 : decode cX3_meetOf 22 = .ok (.aload_n 0, 1) := dk_42 (dk_at dksX3_meetOf_0 22 rfl rfl)
theorem dX3_meetOf_23 : decode cX3_meetOf 23 = .ok (.iload_n 1, 1) := dk_27 (dk_at dksX3_meetOf_0 23 rfl rfl)
theorem dX3_meetOf_24 : decode cX3_meetOf 24 = .ok (.iload_n 2, 1) := dk_28 (dk_at dksX3_meetOf_1 0 rfl rfl)
theorem dX3_meetOf_25 : decode cX3_meetOf 25 = .ok (.invokevirtual 206, 3) := dk_182 0 206 (dk_at dksX3_meetOf_1 1 rfl rfl)
theorem dX3_meetOf_28 : decode cX3_meetOf 28 = .ok (.aload_n 0, 1) := dk_42 (dk_at dksX3_meetOf_1 4 rfl rfl)
theorem dX3_meetOf_29 : decode cX3_meetOf 29 = .ok (.iload_n 1, 1) := dk_27 (dk_at dksX3_meetOf_1 5 rfl rfl)
theorem dX3_meetOf_30 : decode cX3_meetOf 30 = .ok (.invokevirtual 209, 3) := dk_182 0 209 (dk_at dksX3_meetOf_1 6 rfl rfl)
theorem dX3_meetOf_33 : decode cX3_meetOf 33 = .ok (.iload 9, 2) := dk_21 9 (dk_at dksX3_meetOf_1 9 rfl rfl)
theorem dX3_meetOf_35 : decode cX3_meetOf 35 = .ok (.imul, 1) := dk_104 (dk_at dksX3_meetOf_1 11 rfl rfl)
theorem dX3_meetOf_36 : decode cX3_meetOf 36 = .ok (.iadd, 1) := dk_96 (dk_at dksX3_meetOf_1 12 rfl rfl)
theorem dX3_meetOf_37 : decode cX3_meetOf 37 = .ok (.istore 10, 2) := dk_54 10 (dk_at dksX3_meetOf_1 13 rfl rfl)
theorem dX3_meetOf_39 : decode cX3_meetOf 39 = .ok (.aload_n 0, 1) := dk_42 (dk_at dksX3_meetOf_1 15 rfl rfl)
theorem dX3_meetOf_40 : decode cX3_meetOf 40 = .ok (.iload_n 3, 1) := dk_29 (dk_at dksX3_meetOf_1 16 rfl rfl)
theorem dX3_meetOf_41 : decode cX3_meetOf 41 = .ok (.iload 4, 2) := dk_21 4 (dk_at dksX3_meetOf_1 17 rfl rfl)
theorem dX3_meetOf_43 : decode cX3_meetOf 43 = .ok (.iload 10, 2) := dk_21 10 (dk_at dksX3_meetOf_1 19 rfl rfl)
theorem dX3_meetOf_45 : decode cX3_meetOf 45 = .ok (.invokevirtual 218, 3) := dk_182 0 218 (dk_at dksX3_meetOf_1 21 rfl rfl)
theorem dX3_meetOf_48 : decode cX3_meetOf 48 = .ok (.ifCond .eq 38, 3) := dk_153 0 38 (dk_at dksX3_meetOf_2 0 rfl rfl)
theorem dX3_meetOf_51 : decode cX3_meetOf 51 = .ok (.iload 8, 2) := dk_21 8 (dk_at dksX3_meetOf_2 3 rfl rfl)
theorem dX3_meetOf_53 : decode cX3_meetOf 53 = .ok (.iconst 1, 1) := dk_4 (dk_at dksX3_meetOf_2 5 rfl rfl)
theorem dX3_meetOf_54 : decode cX3_meetOf 54 = .ok (.if_icmp .ne 11, 3) := dk_160 0 11 (dk_at dksX3_meetOf_2 6 rfl rfl)
theorem dX3_meetOf_57 : decode cX3_meetOf 57 = .ok (.iload 10, 2) := dk_21 10 (dk_at dksX3_meetOf_2 9 rfl rfl)
theorem dX3_meetOf_59 : decode cX3_meetOf 59 = .ok (.iload 6, 2) := dk_21 6 (dk_at dksX3_meetOf_2 11 rfl rfl)
theorem dX3_meetOf_61 : decode cX3_meetOf 61 = .ok (.isub, 1) := dk_100 (dk_at dksX3_meetOf_2 13 rfl rfl)
theorem dX3_meetOf_62 : decode cX3_meetOf 62 = .ok (.goto 5, 3) := dk_167 0 5 (dk_at dksX3_meetOf_2 14 rfl rfl)
theorem dX3_meetOf_65 : decode cX3_meetOf 65 = .ok (.iload 7, 2) := dk_21 7 (dk_at dksX3_meetOf_2 17 rfl rfl)
theorem dX3_meetOf_67 : decode cX3_meetOf 67 = .ok (.istore 7, 2) := dk_54 7 (dk_at dksX3_meetOf_2 19 rfl rfl)
theorem dX3_meetOf_69 : decode cX3_meetOf 69 = .ok (.iload 8, 2) := dk_21 8 (dk_at dksX3_meetOf_2 21 rfl rfl)
theorem dX3_meetOf_71 : decode cX3_meetOf 71 = .ok (.ifCond .ne 8, 3) := dk_154 0 8 (dk_at dksX3_meetOf_3 0 rfl rfl)
theorem dX3_meetOf_74 : decode cX3_meetOf 74 = .ok (.iload 10, 2) := dk_21 10 (dk_at dksX3_meetOf_3 3 rfl rfl)
theorem dX3_meetOf_76 : decode cX3_meetOf 76 = .ok (.goto 5, 3) := dk_167 0 5 (dk_at dksX3_meetOf_3 5 rfl rfl)
theorem dX3_meetOf_79 : decode cX3_meetOf 79 = .ok (.iload 6, 2) := dk_21 6 (dk_at dksX3_meetOf_3 8 rfl rfl)
theorem dX3_meetOf_81 : decode cX3_meetOf 81 = .ok (.istore 6, 2) := dk_54 6 (dk_at dksX3_meetOf_3 10 rfl rfl)
theorem dX3_meetOf_83 : decode cX3_meetOf 83 = .ok (.iinc 8 1, 3) := dk_132 8 1 (dk_at dksX3_meetOf_3 12 rfl rfl)
theorem dX3_meetOf_86 : decode cX3_meetOf 86 = .ok (.iinc 9 1, 3) := dk_132 9 1 (dk_at dksX3_meetOf_3 15 rfl rfl)
theorem dX3_meetOf_89 : decode cX3_meetOf 89 = .ok (.goto (-77), 3) := dk_167 255 179 (dk_at dksX3_meetOf_3 18 rfl rfl)
theorem dX3_meetOf_92 : decode cX3_meetOf 92 = .ok (.iload 5, 2) := dk_21 5 (dk_at dksX3_meetOf_3 21 rfl rfl)
theorem dX3_meetOf_94 : decode cX3_meetOf 94 = .ok (.ifCond .ne 8, 3) := dk_154 0 8 (dk_at dksX3_meetOf_4 0 rfl rfl)
theorem dX3_meetOf_97 : decode cX3_meetOf 97 = .ok (.iload 6, 2) := dk_21 6 (dk_at dksX3_meetOf_4 3 rfl rfl)
theorem dX3_meetOf_99 : decode cX3_meetOf 99 = .ok (.goto 33, 3) := dk_167 0 33 (dk_at dksX3_meetOf_4 5 rfl rfl)
theorem dX3_meetOf_102 : decode cX3_meetOf 102 = .ok (.iload 5, 2) := dk_21 5 (dk_at dksX3_meetOf_4 8 rfl rfl)
theorem dX3_meetOf_104 : decode cX3_meetOf 104 = .ok (.iconst 1, 1) := dk_4 (dk_at dksX3_meetOf_4 10 rfl rfl)
theorem dX3_meetOf_105 : decode cX3_meetOf 105 = .ok (.if_icmp .ne 8, 3) := dk_160 0 8 (dk_at dksX3_meetOf_4 11 rfl rfl)
theorem dX3_meetOf_108 : decode cX3_meetOf 108 = .ok (.iload 7, 2) := dk_21 7 (dk_at dksX3_meetOf_4 14 rfl rfl)
theorem dX3_meetOf_110 : decode cX3_meetOf 110 = .ok (.goto 22, 3) := dk_167 0 22 (dk_at dksX3_meetOf_4 16 rfl rfl)
theorem dX3_meetOf_113 : decode cX3_meetOf 113 = .ok (.iload 5, 2) := dk_21 5 (dk_at dksX3_meetOf_4 19 rfl rfl)
theorem dX3_meetOf_115 : decode cX3_meetOf 115 = .ok (.iconst 2, 1) := dk_5 (dk_at dksX3_meetOf_4 21 rfl rfl)
theorem dX3_meetOf_116 : decode cX3_meetOf 116 = .ok (.if_icmp .ne 8, 3) := dk_160 0 8 (dk_at dksX3_meetOf_5 0 rfl rfl)
theorem dX3_meetOf_119 : decode cX3_meetOf 119 = .ok (.iload 8, 2) := dk_21 8 (dk_at dksX3_meetOf_5 3 rfl rfl)
theorem dX3_meetOf_121 : decode cX3_meetOf 121 = .ok (.goto 11, 3) := dk_167 0 11 (dk_at dksX3_meetOf_5 5 rfl rfl)
theorem dX3_meetOf_124 : decode cX3_meetOf 124 = .ok (.aload_n 0, 1) := dk_42 (dk_at dksX3_meetOf_5 8 rfl rfl)
theorem dX3_meetOf_125 : decode cX3_meetOf 125 = .ok (.iload_n 1, 1) := dk_27 (dk_at dksX3_meetOf_5 9 rfl rfl)
theorem dX3_meetOf_126 : decode cX3_meetOf 126 = .ok (.invokevirtual 203, 3) := dk_182 0 203 (dk_at dksX3_meetOf_5 10 rfl rfl)
theorem dX3_meetOf_129 : decode cX3_meetOf 129 = .ok (.iload 8, 2) := dk_21 8 (dk_at dksX3_meetOf_5 13 rfl rfl)
theorem dX3_meetOf_131 : decode cX3_meetOf 131 = .ok (.isub, 1) := dk_100 (dk_at dksX3_meetOf_5 15 rfl rfl)
theorem dX3_meetOf_132 : decode cX3_meetOf 132 = .ok (.ireturn, 1) := dk_172 (dk_at dksX3_meetOf_5 16 rfl rfl)
abbrev cX3_hasPlace : ByteArray := prog_18_method_47_code
def yX3_hasPlace : MethodName := ⟨RX3, "hasPlace", "(III)Z"⟩
def dkwX3_hasPlace_2 : List UInt8 := [167, 255, 216, 21, 4, 172]
abbrev dktX3_hasPlace_2 : List UInt8 := dkwX3_hasPlace_2 ++ []
def dkwX3_hasPlace_1 : List UInt8 := [42, 27, 28, 21, 5, 182, 0, 200, 29, 160, 0, 7, 4, 167, 0, 4, 3, 54, 4, 132, 5, 1]
abbrev dktX3_hasPlace_1 : List UInt8 := dkwX3_hasPlace_1 ++ dktX3_hasPlace_2
def dkwX3_hasPlace_0 : List UInt8 := [3, 54, 4, 3, 54, 5, 21, 5, 42, 180, 0, 29, 27, 6, 108, 46, 162, 0, 33, 21, 4, 154, 0, 15]
abbrev dktX3_hasPlace_0 : List UInt8 := dkwX3_hasPlace_0 ++ dktX3_hasPlace_1
theorem dksX3_hasPlace_0 : cX3_hasPlace.data.toList.drop 0 = dktX3_hasPlace_0 := by decide +kernel
theorem dksX3_hasPlace_1 : cX3_hasPlace.data.toList.drop 24 = dktX3_hasPlace_1 := dk_seg dksX3_hasPlace_0 24 rfl rfl
theorem dksX3_hasPlace_2 : cX3_hasPlace.data.toList.drop 46 = dktX3_hasPlace_2 := dk_seg dksX3_hasPlace_1 22 rfl rfl
theorem dX3_hasPlace_0 : decode cX3_hasPlace 0 = .ok (.iconst 0, 1) := dk_3 (dk_at dksX3_hasPlace_0 0 rfl rfl)
theorem dX3_hasPlace_1 : decode cX3_hasPlace 1 = .ok (.istore 4, 2) := dk_54 4 (dk_at dksX3_hasPlace_0 1 rfl rfl)
theorem dX3_hasPlace_3 : decode cX3_hasPlace 3 = .ok (.iconst 0, 1) := dk_3 (dk_at dksX3_hasPlace_0 3 rfl rfl)
theorem dX3_hasPlace_4 : decode cX3_hasPlace 4 = .ok (.istore 5, 2) := dk_54 5 (dk_at dksX3_hasPlace_0 4 rfl rfl)
theorem dX3_hasPlace_6 : decode cX3_hasPlace 6 = .ok (.iload 5, 2) := dk_21 5 (dk_at dksX3_hasPlace_0 6 rfl rfl)
theorem dX3_hasPlace_8 : decode cX3_hasPlace 8 = .ok (.aload_n 0, 1) := dk_42 (dk_at dksX3_hasPlace_0 8 rfl rfl)
theorem dX3_hasPlace_9 : decode cX3_hasPlace 9 = .ok (.getfield 29, 3) := dk_180 0 29 (dk_at dksX3_hasPlace_0 9 rfl rfl)
theorem dX3_hasPlace_12 : decode cX3_hasPlace 12 = .ok (.iload_n 1, 1) := dk_27 (dk_at dksX3_hasPlace_0 12 rfl rfl)
theorem dX3_hasPlace_13 : decode cX3_hasPlace 13 = .ok (.iconst 3, 1) := dk_6 (dk_at dksX3_hasPlace_0 13 rfl rfl)
theorem dX3_hasPlace_14 : decode cX3_hasPlace 14 = .ok (.idiv, 1) := dk_108 (dk_at dksX3_hasPlace_0 14 rfl rfl)
theorem dX3_hasPlace_15 : decode cX3_hasPlace 15 = .ok (.iaload, 1) := dk_46 (dk_at dksX3_hasPlace_0 15 rfl rfl)
theorem dX3_hasPlace_16 : decode cX3_hasPlace 16 = .ok (.if_icmp .ge 33, 3) := dk_162 0 33 (dk_at dksX3_hasPlace_0 16 rfl rfl)
theorem dX3_hasPlace_19 : decode cX3_hasPlace 19 = .ok (.iload 4, 2) := dk_21 4 (dk_at dksX3_hasPlace_0 19 rfl rfl)
theorem dX3_hasPlace_21 : decode cX3_hasPlace 21 = .ok (.ifCond .ne 15, 3) := dk_154 0 15 (dk_at dksX3_hasPlace_0 21 rfl rfl)
theorem dX3_hasPlace_24 : decode cX3_hasPlace 24 = .ok (.aload_n 0, 1) := dk_42 (dk_at dksX3_hasPlace_1 0 rfl rfl)
theorem dX3_hasPlace_25 : decode cX3_hasPlace 25 = .ok (.iload_n 1, 1) := dk_27 (dk_at dksX3_hasPlace_1 1 rfl rfl)
theorem dX3_hasPlace_26 : decode cX3_hasPlace 26 = .ok (.iload_n 2, 1) := dk_28 (dk_at dksX3_hasPlace_1 2 rfl rfl)
theorem dX3_hasPlace_27 : decode cX3_hasPlace 27 = .ok (.iload 5, 2) := dk_21 5 (dk_at dksX3_hasPlace_1 3 rfl rfl)
theorem dX3_hasPlace_29 : decode cX3_hasPlace 29 = .ok (.invokevirtual 200, 3) := dk_182 0 200 (dk_at dksX3_hasPlace_1 5 rfl rfl)
theorem dX3_hasPlace_32 : decode cX3_hasPlace 32 = .ok (.iload_n 3, 1) := dk_29 (dk_at dksX3_hasPlace_1 8 rfl rfl)
theorem dX3_hasPlace_33 : decode cX3_hasPlace 33 = .ok (.if_icmp .ne 7, 3) := dk_160 0 7 (dk_at dksX3_hasPlace_1 9 rfl rfl)
theorem dX3_hasPlace_36 : decode cX3_hasPlace 36 = .ok (.iconst 1, 1) := dk_4 (dk_at dksX3_hasPlace_1 12 rfl rfl)
theorem dX3_hasPlace_37 : decode cX3_hasPlace 37 = .ok (.goto 4, 3) := dk_167 0 4 (dk_at dksX3_hasPlace_1 13 rfl rfl)
theorem dX3_hasPlace_40 : decode cX3_hasPlace 40 = .ok (.iconst 0, 1) := dk_3 (dk_at dksX3_hasPlace_1 16 rfl rfl)
theorem dX3_hasPlace_41 : decode cX3_hasPlace 41 = .ok (.istore 4, 2) := dk_54 4 (dk_at dksX3_hasPlace_1 17 rfl rfl)
theorem dX3_hasPlace_43 : decode cX3_hasPlace 43 = .ok (.iinc 5 1, 3) := dk_132 5 1 (dk_at dksX3_hasPlace_1 19 rfl rfl)
theorem dX3_hasPlace_46 : decode cX3_hasPlace 46 = .ok (.goto (-40), 3) := dk_167 255 216 (dk_at dksX3_hasPlace_2 0 rfl rfl)
theorem dX3_hasPlace_49 : decode cX3_hasPlace 49 = .ok (.iload 4, 2) := dk_21 4 (dk_at dksX3_hasPlace_2 3 rfl rfl)
theorem dX3_hasPlace_51 : decode cX3_hasPlace 51 = .ok (.ireturn, 1) := dk_172 (dk_at dksX3_hasPlace_2 5 rfl rfl)
abbrev cX3_kinds : ByteArray := prog_18_method_53_code
def yX3_kinds : MethodName := ⟨RX3, "kinds", "(II)I"⟩
def dkwX3_kinds_1 : List UInt8 := [16, 254, 172]
abbrev dktX3_kinds_1 : List UInt8 := dkwX3_kinds_1 ++ []
def dkwX3_kinds_0 : List UInt8 := [42, 27, 182, 0, 174, 153, 0, 19, 28, 184, 0, 122, 153, 0, 12, 42, 27, 28, 182, 0, 239, 167, 0, 5]
abbrev dktX3_kinds_0 : List UInt8 := dkwX3_kinds_0 ++ dktX3_kinds_1
theorem dksX3_kinds_0 : cX3_kinds.data.toList.drop 0 = dktX3_kinds_0 := by decide +kernel
theorem dksX3_kinds_1 : cX3_kinds.data.toList.drop 24 = dktX3_kinds_1 := dk_seg dksX3_kinds_0 24 rfl rfl
theorem dX3_kinds_0 : decode cX3_kinds 0 = .ok (.aload_n 0, 1) := dk_42 (dk_at dksX3_kinds_0 0 rfl rfl)
theorem dX3_kinds_1 : decode cX3_kinds 1 = .ok (.iload_n 1, 1) := dk_27 (dk_at dksX3_kinds_0 1 rfl rfl)
theorem dX3_kinds_2 : decode cX3_kinds 2 = .ok (.invokevirtual 174, 3) := dk_182 0 174 (dk_at dksX3_kinds_0 2 rfl rfl)
theorem dX3_kinds_5 : decode cX3_kinds 5 = .ok (.ifCond .eq 19, 3) := dk_153 0 19 (dk_at dksX3_kinds_0 5 rfl rfl)
theorem dX3_kinds_8 : decode cX3_kinds 8 = .ok (.iload_n 2, 1) := dk_28 (dk_at dksX3_kinds_0 8 rfl rfl)
theorem dX3_kinds_9 : decode cX3_kinds 9 = .ok (.invokestatic 122, 3) := dk_184 0 122 (dk_at dksX3_kinds_0 9 rfl rfl)
theorem dX3_kinds_12 : decode cX3_kinds 12 = .ok (.ifCond .eq 12, 3) := dk_153 0 12 (dk_at dksX3_kinds_0 12 rfl rfl)
theorem dX3_kinds_15 : decode cX3_kinds 15 = .ok (.aload_n 0, 1) := dk_42 (dk_at dksX3_kinds_0 15 rfl rfl)
theorem dX3_kinds_16 : decode cX3_kinds 16 = .ok (.iload_n 1, 1) := dk_27 (dk_at dksX3_kinds_0 16 rfl rfl)
theorem dX3_kinds_17 : decode cX3_kinds 17 = .ok (.iload_n 2, 1) := dk_28 (dk_at dksX3_kinds_0 17 rfl rfl)
theorem dX3_kinds_18 : decode cX3_kinds 18 = .ok (.invokevirtual 239, 3) := dk_182 0 239 (dk_at dksX3_kinds_0 18 rfl rfl)
theorem dX3_kinds_21 : decode cX3_kinds 21 = .ok (.goto 5, 3) := dk_167 0 5 (dk_at dksX3_kinds_0 21 rfl rfl)
theorem dX3_kinds_24 : decode cX3_kinds 24 = .ok (.bipush (-2), 2) := dk_16 254 (dk_at dksX3_kinds_1 0 rfl rfl)
theorem dX3_kinds_26 : decode cX3_kinds 26 = .ok (.ireturn, 1) := dk_172 (dk_at dksX3_kinds_1 2 rfl rfl)
abbrev cX3_findsKinds : ByteArray := prog_18_method_52_code
def yX3_findsKinds : MethodName := ⟨RX3, "findsKinds", "(II)I"⟩
def dkwX3_findsKinds_2 : List UInt8 := [27, 104, 29, 28, 182, 0, 235, 132, 3, 1, 167, 255, 205, 42, 180, 0, 225, 172]
abbrev dktX3_findsKinds_2 : List UInt8 := dkwX3_findsKinds_2 ++ []
def dkwX3_findsKinds_1 : List UInt8 := [42, 6, 27, 104, 4, 96, 29, 28, 182, 0, 235, 42, 6, 27, 104, 5, 96, 29, 28, 182, 0, 235, 42, 6]
abbrev dktX3_findsKinds_1 : List UInt8 := dkwX3_findsKinds_1 ++ dktX3_findsKinds_2
def dkwX3_findsKinds_0 : List UInt8 := [42, 3, 181, 0, 225, 3, 62, 29, 42, 180, 0, 154, 162, 0, 49, 42, 27, 29, 182, 0, 177, 153, 0, 34]
abbrev dktX3_findsKinds_0 : List UInt8 := dkwX3_findsKinds_0 ++ dktX3_findsKinds_1
theorem dksX3_findsKinds_0 : cX3_findsKinds.data.toList.drop 0 = dktX3_findsKinds_0 := by decide +kernel
theorem dksX3_findsKinds_1 : cX3_findsKinds.data.toList.drop 24 = dktX3_findsKinds_1 := dk_seg dksX3_findsKinds_0 24 rfl rfl
theorem dksX3_findsKinds_2 : cX3_findsKinds.data.toList.drop 48 = dktX3_findsKinds_2 := dk_seg dksX3_findsKinds_1 24 rfl rfl
theorem dX3_findsKinds_0 : decode cX3_findsKinds 0 = .ok (.aload_n 0, 1) := dk_42 (dk_at dksX3_findsKinds_0 0 rfl rfl)
theorem dX3_findsKinds_1 : decode cX3_findsKinds 1 = .ok (.iconst 0, 1) := dk_3 (dk_at dksX3_findsKinds_0 1 rfl rfl)
theorem dX3_findsKinds_2 : decode cX3_findsKinds 2 = .ok (.putfield 225, 3) := dk_181 0 225 (dk_at dksX3_findsKinds_0 2 rfl rfl)
theorem dX3_findsKinds_5 : decode cX3_findsKinds 5 = .ok (.iconst 0, 1) := dk_3 (dk_at dksX3_findsKinds_0 5 rfl rfl)
theorem dX3_findsKinds_6 : decode cX3_findsKinds 6 = .ok (.istore_n 3, 1) := dk_62 (dk_at dksX3_findsKinds_0 6 rfl rfl)
theorem dX3_findsKinds_7 : decode cX3_findsKinds 7 = .ok (.iload_n 3, 1) := dk_29 (dk_at dksX3_findsKinds_0 7 rfl rfl)
theorem dX3_findsKinds_8 : decode cX3_findsKinds 8 = .ok (.aload_n 0, 1) := dk_42 (dk_at dksX3_findsKinds_0 8 rfl rfl)
theorem dX3_findsKinds_9 : decode cX3_findsKinds 9 = .ok (.getfield 154, 3) := dk_180 0 154 (dk_at dksX3_findsKinds_0 9 rfl rfl)
theorem dX3_findsKinds_12 : decode cX3_findsKinds 12 = .ok (.if_icmp .ge 49, 3) := dk_162 0 49 (dk_at dksX3_findsKinds_0 12 rfl rfl)
theorem dX3_findsKinds_15 : decode cX3_findsKinds 15 = .ok (.aload_n 0, 1) := dk_42 (dk_at dksX3_findsKinds_0 15 rfl rfl)
theorem dX3_findsKinds_16 : decode cX3_findsKinds 16 = .ok (.iload_n 1, 1) := dk_27 (dk_at dksX3_findsKinds_0 16 rfl rfl)
theorem dX3_findsKinds_17 : decode cX3_findsKinds 17 = .ok (.iload_n 3, 1) := dk_29 (dk_at dksX3_findsKinds_0 17 rfl rfl)
theorem dX3_findsKinds_18 : decode cX3_findsKinds 18 = .ok (.invokevirtual 177, 3) := dk_182 0 177 (dk_at dksX3_findsKinds_0 18 rfl rfl)
theorem dX3_findsKinds_21 : decode cX3_findsKinds 21 = .ok (.ifCond .eq 34, 3) := dk_153 0 34 (dk_at dksX3_findsKinds_0 21 rfl rfl)
theorem dX3_findsKinds_24 : decode cX3_findsKinds 24 = .ok (.aload_n 0, 1) := dk_42 (dk_at dksX3_findsKinds_1 0 rfl rfl)
theorem dX3_findsKinds_25 : decode cX3_findsKinds 25 = .ok (.iconst 3, 1) := dk_6 (dk_at dksX3_findsKinds_1 1 rfl rfl)
theorem dX3_findsKinds_26 : decode cX3_findsKinds 26 = .ok (.iload_n 1, 1) := dk_27 (dk_at dksX3_findsKinds_1 2 rfl rfl)
theorem dX3_findsKinds_27 : decode cX3_findsKinds 27 = .ok (.imul, 1) := dk_104 (dk_at dksX3_findsKinds_1 3 rfl rfl)
theorem dX3_findsKinds_28 : decode cX3_findsKinds 28 = .ok (.iconst 1, 1) := dk_4 (dk_at dksX3_findsKinds_1 4 rfl rfl)
theorem dX3_findsKinds_29 : decode cX3_findsKinds 29 = .ok (.iadd, 1) := dk_96 (dk_at dksX3_findsKinds_1 5 rfl rfl)
theorem dX3_findsKinds_30 : decode cX3_findsKinds 30 = .ok (.iload_n 3, 1) := dk_29 (dk_at dksX3_findsKinds_1 6 rfl rfl)
theorem dX3_findsKinds_31 : decode cX3_findsKinds 31 = .ok (.iload_n 2, 1) := dk_28 (dk_at dksX3_findsKinds_1 7 rfl rfl)
theorem dX3_findsKinds_32 : decode cX3_findsKinds 32 = .ok (.invokevirtual 235, 3) := dk_182 0 235 (dk_at dksX3_findsKinds_1 8 rfl rfl)
theorem dX3_findsKinds_35 : decode cX3_findsKinds 35 = .ok (.aload_n 0, 1) := dk_42 (dk_at dksX3_findsKinds_1 11 rfl rfl)
theorem dX3_findsKinds_36 : decode cX3_findsKinds 36 = .ok (.iconst 3, 1) := dk_6 (dk_at dksX3_findsKinds_1 12 rfl rfl)
theorem dX3_findsKinds_37 : decode cX3_findsKinds 37 = .ok (.iload_n 1, 1) := dk_27 (dk_at dksX3_findsKinds_1 13 rfl rfl)
theorem dX3_findsKinds_38 : decode cX3_findsKinds 38 = .ok (.imul, 1) := dk_104 (dk_at dksX3_findsKinds_1 14 rfl rfl)
theorem dX3_findsKinds_39 : decode cX3_findsKinds 39 = .ok (.iconst 2, 1) := dk_5 (dk_at dksX3_findsKinds_1 15 rfl rfl)
theorem dX3_findsKinds_40 : decode cX3_findsKinds 40 = .ok (.iadd, 1) := dk_96 (dk_at dksX3_findsKinds_1 16 rfl rfl)
theorem dX3_findsKinds_41 : decode cX3_findsKinds 41 = .ok (.iload_n 3, 1) := dk_29 (dk_at dksX3_findsKinds_1 17 rfl rfl)
theorem dX3_findsKinds_42 : decode cX3_findsKinds 42 = .ok (.iload_n 2, 1) := dk_28 (dk_at dksX3_findsKinds_1 18 rfl rfl)
theorem dX3_findsKinds_43 : decode cX3_findsKinds 43 = .ok (.invokevirtual 235, 3) := dk_182 0 235 (dk_at dksX3_findsKinds_1 19 rfl rfl)
theorem dX3_findsKinds_46 : decode cX3_findsKinds 46 = .ok (.aload_n 0, 1) := dk_42 (dk_at dksX3_findsKinds_1 22 rfl rfl)
theorem dX3_findsKinds_47 : decode cX3_findsKinds 47 = .ok (.iconst 3, 1) := dk_6 (dk_at dksX3_findsKinds_1 23 rfl rfl)
theorem dX3_findsKinds_48 : decode cX3_findsKinds 48 = .ok (.iload_n 1, 1) := dk_27 (dk_at dksX3_findsKinds_2 0 rfl rfl)
theorem dX3_findsKinds_49 : decode cX3_findsKinds 49 = .ok (.imul, 1) := dk_104 (dk_at dksX3_findsKinds_2 1 rfl rfl)
theorem dX3_findsKinds_50 : decode cX3_findsKinds 50 = .ok (.iload_n 3, 1) := dk_29 (dk_at dksX3_findsKinds_2 2 rfl rfl)
theorem dX3_findsKinds_51 : decode cX3_findsKinds 51 = .ok (.iload_n 2, 1) := dk_28 (dk_at dksX3_findsKinds_2 3 rfl rfl)
theorem dX3_findsKinds_52 : decode cX3_findsKinds 52 = .ok (.invokevirtual 235, 3) := dk_182 0 235 (dk_at dksX3_findsKinds_2 4 rfl rfl)
theorem dX3_findsKinds_55 : decode cX3_findsKinds 55 = .ok (.iinc 3 1, 3) := dk_132 3 1 (dk_at dksX3_findsKinds_2 7 rfl rfl)
theorem dX3_findsKinds_58 : decode cX3_findsKinds 58 = .ok (.goto (-51), 3) := dk_167 255 205 (dk_at dksX3_findsKinds_2 10 rfl rfl)
theorem dX3_findsKinds_61 : decode cX3_findsKinds 61 = .ok (.aload_n 0, 1) := dk_42 (dk_at dksX3_findsKinds_2 13 rfl rfl)
theorem dX3_findsKinds_62 : decode cX3_findsKinds 62 = .ok (.getfield 225, 3) := dk_180 0 225 (dk_at dksX3_findsKinds_2 14 rfl rfl)
theorem dX3_findsKinds_65 : decode cX3_findsKinds 65 = .ok (.ireturn, 1) := dk_172 (dk_at dksX3_findsKinds_2 17 rfl rfl)
abbrev cX3_addsIf : ByteArray := prog_18_method_51_code
def yX3_addsIf : MethodName := ⟨RX3, "addsIf", "(III)V"⟩
def dkwX3_addsIf_1 : List UInt8 := [177]
abbrev dktX3_addsIf_1 : List UInt8 := dkwX3_addsIf_1 ++ []
def dkwX3_addsIf_0 : List UInt8 := [42, 27, 182, 0, 228, 153, 0, 19, 42, 180, 0, 41, 27, 46, 29, 160, 0, 9, 42, 27, 28, 182, 0, 231]
abbrev dktX3_addsIf_0 : List UInt8 := dkwX3_addsIf_0 ++ dktX3_addsIf_1
theorem dksX3_addsIf_0 : cX3_addsIf.data.toList.drop 0 = dktX3_addsIf_0 := by decide +kernel
theorem dksX3_addsIf_1 : cX3_addsIf.data.toList.drop 24 = dktX3_addsIf_1 := dk_seg dksX3_addsIf_0 24 rfl rfl
theorem dX3_addsIf_0 : decode cX3_addsIf 0 = .ok (.aload_n 0, 1) := dk_42 (dk_at dksX3_addsIf_0 0 rfl rfl)
theorem dX3_addsIf_1 : decode cX3_addsIf 1 = .ok (.iload_n 1, 1) := dk_27 (dk_at dksX3_addsIf_0 1 rfl rfl)
theorem dX3_addsIf_2 : decode cX3_addsIf 2 = .ok (.invokevirtual 228, 3) := dk_182 0 228 (dk_at dksX3_addsIf_0 2 rfl rfl)
theorem dX3_addsIf_5 : decode cX3_addsIf 5 = .ok (.ifCond .eq 19, 3) := dk_153 0 19 (dk_at dksX3_addsIf_0 5 rfl rfl)
theorem dX3_addsIf_8 : decode cX3_addsIf 8 = .ok (.aload_n 0, 1) := dk_42 (dk_at dksX3_addsIf_0 8 rfl rfl)
theorem dX3_addsIf_9 : decode cX3_addsIf 9 = .ok (.getfield 41, 3) := dk_180 0 41 (dk_at dksX3_addsIf_0 9 rfl rfl)
theorem dX3_addsIf_12 : decode cX3_addsIf 12 = .ok (.iload_n 1, 1) := dk_27 (dk_at dksX3_addsIf_0 12 rfl rfl)
theorem dX3_addsIf_13 : decode cX3_addsIf 13 = .ok (.iaload, 1) := dk_46 (dk_at dksX3_addsIf_0 13 rfl rfl)
theorem dX3_addsIf_14 : decode cX3_addsIf 14 = .ok (.iload_n 3, 1) := dk_29 (dk_at dksX3_addsIf_0 14 rfl rfl)
theorem dX3_addsIf_15 : decode cX3_addsIf 15 = .ok (.if_icmp .ne 9, 3) := dk_160 0 9 (dk_at dksX3_addsIf_0 15 rfl rfl)
theorem dX3_addsIf_18 : decode cX3_addsIf 18 = .ok (.aload_n 0, 1) := dk_42 (dk_at dksX3_addsIf_0 18 rfl rfl)
theorem dX3_addsIf_19 : decode cX3_addsIf 19 = .ok (.iload_n 1, 1) := dk_27 (dk_at dksX3_addsIf_0 19 rfl rfl)
theorem dX3_addsIf_20 : decode cX3_addsIf 20 = .ok (.iload_n 2, 1) := dk_28 (dk_at dksX3_addsIf_0 20 rfl rfl)
theorem dX3_addsIf_21 : decode cX3_addsIf 21 = .ok (.invokevirtual 231, 3) := dk_182 0 231 (dk_at dksX3_addsIf_0 21 rfl rfl)
theorem dX3_addsIf_24 : decode cX3_addsIf 24 = .ok (.return_, 1) := dk_177 (dk_at dksX3_addsIf_1 0 rfl rfl)
abbrev cX3_isLooked : ByteArray := prog_18_method_32_code
def yX3_isLooked : MethodName := ⟨RX3, "isLooked", "(I)Z"⟩
def dkwX3_isLooked_1 : List UInt8 := [46, 16, 9, 159, 0, 7, 4, 167, 0, 4, 3, 172]
abbrev dktX3_isLooked_1 : List UInt8 := dkwX3_isLooked_1 ++ []
def dkwX3_isLooked_0 : List UInt8 := [42, 180, 0, 41, 27, 46, 2, 159, 0, 27, 27, 6, 112, 5, 161, 0, 16, 42, 180, 0, 26, 27, 6, 108]
abbrev dktX3_isLooked_0 : List UInt8 := dkwX3_isLooked_0 ++ dktX3_isLooked_1
theorem dksX3_isLooked_0 : cX3_isLooked.data.toList.drop 0 = dktX3_isLooked_0 := by decide +kernel
theorem dksX3_isLooked_1 : cX3_isLooked.data.toList.drop 24 = dktX3_isLooked_1 := dk_seg dksX3_isLooked_0 24 rfl rfl
theorem dX3_isLooked_0 : decode cX3_isLooked 0 = .ok (.aload_n 0, 1) := dk_42 (dk_at dksX3_isLooked_0 0 rfl rfl)
theorem dX3_isLooked_1 : decode cX3_isLooked 1 = .ok (.getfield 41, 3) := dk_180 0 41 (dk_at dksX3_isLooked_0 1 rfl rfl)
theorem dX3_isLooked_4 : decode cX3_isLooked 4 = .ok (.iload_n 1, 1) := dk_27 (dk_at dksX3_isLooked_0 4 rfl rfl)
theorem dX3_isLooked_5 : decode cX3_isLooked 5 = .ok (.iaload, 1) := dk_46 (dk_at dksX3_isLooked_0 5 rfl rfl)
theorem dX3_isLooked_6 : decode cX3_isLooked 6 = .ok (.iconst (-1), 1) := dk_2 (dk_at dksX3_isLooked_0 6 rfl rfl)
theorem dX3_isLooked_7 : decode cX3_isLooked 7 = .ok (.if_icmp .eq 27, 3) := dk_159 0 27 (dk_at dksX3_isLooked_0 7 rfl rfl)
theorem dX3_isLooked_10 : decode cX3_isLooked 10 = .ok (.iload_n 1, 1) := dk_27 (dk_at dksX3_isLooked_0 10 rfl rfl)
theorem dX3_isLooked_11 : decode cX3_isLooked 11 = .ok (.iconst 3, 1) := dk_6 (dk_at dksX3_isLooked_0 11 rfl rfl)
theorem dX3_isLooked_12 : decode cX3_isLooked 12 = .ok (.irem, 1) := dk_112 (dk_at dksX3_isLooked_0 12 rfl rfl)
theorem dX3_isLooked_13 : decode cX3_isLooked 13 = .ok (.iconst 2, 1) := dk_5 (dk_at dksX3_isLooked_0 13 rfl rfl)
theorem dX3_isLooked_14 : decode cX3_isLooked 14 = .ok (.if_icmp .lt 16, 3) := dk_161 0 16 (dk_at dksX3_isLooked_0 14 rfl rfl)
theorem dX3_isLooked_17 : decode cX3_isLooked 17 = .ok (.aload_n 0, 1) := dk_42 (dk_at dksX3_isLooked_0 17 rfl rfl)
theorem dX3_isLooked_18 : decode cX3_isLooked 18 = .ok (.getfield 26, 3) := dk_180 0 26 (dk_at dksX3_isLooked_0 18 rfl rfl)
theorem dX3_isLooked_21 : decode cX3_isLooked 21 = .ok (.iload_n 1, 1) := dk_27 (dk_at dksX3_isLooked_0 21 rfl rfl)
theorem dX3_isLooked_22 : decode cX3_isLooked 22 = .ok (.iconst 3, 1) := dk_6 (dk_at dksX3_isLooked_0 22 rfl rfl)
theorem dX3_isLooked_23 : decode cX3_isLooked 23 = .ok (.idiv, 1) := dk_108 (dk_at dksX3_isLooked_0 23 rfl rfl)
theorem dX3_isLooked_24 : decode cX3_isLooked 24 = .ok (.iaload, 1) := dk_46 (dk_at dksX3_isLooked_1 0 rfl rfl)
theorem dX3_isLooked_25 : decode cX3_isLooked 25 = .ok (.bipush 9, 2) := dk_16 9 (dk_at dksX3_isLooked_1 1 rfl rfl)
theorem dX3_isLooked_27 : decode cX3_isLooked 27 = .ok (.if_icmp .eq 7, 3) := dk_159 0 7 (dk_at dksX3_isLooked_1 3 rfl rfl)
theorem dX3_isLooked_30 : decode cX3_isLooked 30 = .ok (.iconst 1, 1) := dk_4 (dk_at dksX3_isLooked_1 6 rfl rfl)
theorem dX3_isLooked_31 : decode cX3_isLooked 31 = .ok (.goto 4, 3) := dk_167 0 4 (dk_at dksX3_isLooked_1 7 rfl rfl)
theorem dX3_isLooked_34 : decode cX3_isLooked 34 = .ok (.iconst 0, 1) := dk_3 (dk_at dksX3_isLooked_1 10 rfl rfl)
theorem dX3_isLooked_35 : decode cX3_isLooked 35 = .ok (.ireturn, 1) := dk_172 (dk_at dksX3_isLooked_1 11 rfl rfl)
abbrev cX3_addsKind : ByteArray := prog_18_method_50_code
def yX3_addsKind : MethodName := ⟨RX3, "addsKind", "(II)V"⟩
def dkwX3_addsKind_7 : List UInt8 := [181, 0, 225, 42, 180, 0, 59, 7, 29, 104, 6, 96, 92, 46, 4, 96, 79, 177]
abbrev dktX3_addsKind_7 : List UInt8 := dkwX3_addsKind_7 ++ []
def dkwX3_addsKind_6 : List UInt8 := [42, 27, 182, 0, 203, 79, 42, 180, 0, 59, 7, 29, 104, 6, 96, 3, 79, 42, 89, 180, 0, 225, 4, 96]
abbrev dktX3_addsKind_6 : List UInt8 := dkwX3_addsKind_6 ++ dktX3_addsKind_7
def dkwX3_addsKind_5 : List UInt8 := [42, 180, 0, 59, 7, 29, 104, 4, 96, 42, 27, 182, 0, 209, 79, 42, 180, 0, 59, 7, 29, 104, 5, 96]
abbrev dktX3_addsKind_5 : List UInt8 := dkwX3_addsKind_5 ++ dktX3_addsKind_6
def dkwX3_addsKind_4 : List UInt8 := [29, 2, 160, 0, 73, 42, 180, 0, 225, 62, 42, 180, 0, 59, 7, 29, 104, 42, 27, 28, 182, 0, 206, 79]
abbrev dktX3_addsKind_4 : List UInt8 := dkwX3_addsKind_4 ++ dktX3_addsKind_5
def dkwX3_addsKind_3 : List UInt8 := [167, 0, 4, 3, 54, 5, 21, 5, 153, 0, 8, 21, 4, 167, 0, 4, 29, 62, 132, 4, 1, 167, 255, 169]
abbrev dktX3_addsKind_3 : List UInt8 := dkwX3_addsKind_3 ++ dktX3_addsKind_4
def dkwX3_addsKind_2 : List UInt8 := [160, 0, 26, 42, 180, 0, 59, 7, 21, 4, 104, 5, 96, 46, 42, 27, 182, 0, 203, 160, 0, 7, 4]
abbrev dktX3_addsKind_2 : List UInt8 := dkwX3_addsKind_2 ++ dktX3_addsKind_3
def dkwX3_addsKind_1 : List UInt8 := [27, 28, 182, 0, 206, 160, 0, 45, 42, 180, 0, 59, 7, 21, 4, 104, 4, 96, 46, 42, 27, 182, 0, 209]
abbrev dktX3_addsKind_1 : List UInt8 := dkwX3_addsKind_1 ++ dktX3_addsKind_2
def dkwX3_addsKind_0 : List UInt8 := [2, 62, 3, 54, 4, 21, 4, 42, 180, 0, 225, 162, 0, 84, 42, 180, 0, 59, 7, 21, 4, 104, 46, 42]
abbrev dktX3_addsKind_0 : List UInt8 := dkwX3_addsKind_0 ++ dktX3_addsKind_1
theorem dksX3_addsKind_0 : cX3_addsKind.data.toList.drop 0 = dktX3_addsKind_0 := by decide +kernel
theorem dksX3_addsKind_1 : cX3_addsKind.data.toList.drop 24 = dktX3_addsKind_1 := dk_seg dksX3_addsKind_0 24 rfl rfl
theorem dksX3_addsKind_2 : cX3_addsKind.data.toList.drop 48 = dktX3_addsKind_2 := dk_seg dksX3_addsKind_1 24 rfl rfl
theorem dksX3_addsKind_3 : cX3_addsKind.data.toList.drop 71 = dktX3_addsKind_3 := dk_seg dksX3_addsKind_2 23 rfl rfl
theorem dksX3_addsKind_4 : cX3_addsKind.data.toList.drop 95 = dktX3_addsKind_4 := dk_seg dksX3_addsKind_3 24 rfl rfl
theorem dksX3_addsKind_5 : cX3_addsKind.data.toList.drop 119 = dktX3_addsKind_5 := dk_seg dksX3_addsKind_4 24 rfl rfl
theorem dksX3_addsKind_6 : cX3_addsKind.data.toList.drop 143 = dktX3_addsKind_6 := dk_seg dksX3_addsKind_5 24 rfl rfl
theorem dksX3_addsKind_7 : cX3_addsKind.data.toList.drop 167 = dktX3_addsKind_7 := dk_seg dksX3_addsKind_6 24 rfl rfl
theorem dX3_addsKind_0 : decode cX3_addsKind 0 = .ok (.iconst (-1), 1) := dk_2 (dk_at dksX3_addsKind_0 0 rfl rfl)
theorem dX3_addsKind_1 : decode cX3_addsKind 1 = .ok (.istore_n 3, 1) := dk_62 (dk_at dksX3_addsKind_0 1 rfl rfl)
theorem dX3_addsKind_2 : decode cX3_addsKind 2 = .ok (.iconst 0, 1) := dk_3 (dk_at dksX3_addsKind_0 2 rfl rfl)
theorem dX3_addsKind_3 : decode cX3_addsKind 3 = .ok (.istore 4, 2) := dk_54 4 (dk_at dksX3_addsKind_0 3 rfl rfl)
theorem dX3_addsKind_5 : decode cX3_addsKind 5 = .ok (.iload 4, 2) := dk_21 4 (dk_at dksX3_addsKind_0 5 rfl rfl)
theorem dX3_addsKind_7 : decode cX3_addsKind 7 = .ok (.aload_n 0, 1) := dk_42 (dk_at dksX3_addsKind_0 7 rfl rfl)
theorem dX3_addsKind_8 : decode cX3_addsKind 8 = .ok (.getfield 225, 3) := dk_180 0 225 (dk_at dksX3_addsKind_0 8 rfl rfl)
theorem dX3_addsKind_11 : decode cX3_addsKind 11 = .ok (.if_icmp .ge 84, 3) := dk_162 0 84 (dk_at dksX3_addsKind_0 11 rfl rfl)
theorem dX3_addsKind_14 : decode cX3_addsKind 14 = .ok (.aload_n 0, 1) := dk_42 (dk_at dksX3_addsKind_0 14 rfl rfl)
theorem dX3_addsKind_15 : decode cX3_addsKind 15 = .ok (.getfield 59, 3) := dk_180 0 59 (dk_at dksX3_addsKind_0 15 rfl rfl)
theorem dX3_addsKind_18 : decode cX3_addsKind 18 = .ok (.iconst 4, 1) := dk_7 (dk_at dksX3_addsKind_0 18 rfl rfl)
theorem dX3_addsKind_19 : decode cX3_addsKind 19 = .ok (.iload 4, 2) := dk_21 4 (dk_at dksX3_addsKind_0 19 rfl rfl)
theorem dX3_addsKind_21 : decode cX3_addsKind 21 = .ok (.imul, 1) := dk_104 (dk_at dksX3_addsKind_0 21 rfl rfl)
theorem dX3_addsKind_22 : decode cX3_addsKind 22 = .ok (.iaload, 1) := dk_46 (dk_at dksX3_addsKind_0 22 rfl rfl)
theorem dX3_addsKind_23 : decode cX3_addsKind 23 = .ok (.aload_n 0, 1) := dk_42 (dk_at dksX3_addsKind_0 23 rfl rfl)
theorem dX3_addsKind_24 : decode cX3_addsKind 24 = .ok (.iload_n 1, 1) := dk_27 (dk_at dksX3_addsKind_1 0 rfl rfl)
theorem dX3_addsKind_25 : decode cX3_addsKind 25 = .ok (.iload_n 2, 1) := dk_28 (dk_at dksX3_addsKind_1 1 rfl rfl)
theorem dX3_addsKind_26 : decode cX3_addsKind 26 = .ok (.invokevirtual 206, 3) := dk_182 0 206 (dk_at dksX3_addsKind_1 2 rfl rfl)
theorem dX3_addsKind_29 : decode cX3_addsKind 29 = .ok (.if_icmp .ne 45, 3) := dk_160 0 45 (dk_at dksX3_addsKind_1 5 rfl rfl)
theorem dX3_addsKind_32 : decode cX3_addsKind 32 = .ok (.aload_n 0, 1) := dk_42 (dk_at dksX3_addsKind_1 8 rfl rfl)
theorem dX3_addsKind_33 : decode cX3_addsKind 33 = .ok (.getfield 59, 3) := dk_180 0 59 (dk_at dksX3_addsKind_1 9 rfl rfl)
theorem dX3_addsKind_36 : decode cX3_addsKind 36 = .ok (.iconst 4, 1) := dk_7 (dk_at dksX3_addsKind_1 12 rfl rfl)
theorem dX3_addsKind_37 : decode cX3_addsKind 37 = .ok (.iload 4, 2) := dk_21 4 (dk_at dksX3_addsKind_1 13 rfl rfl)
theorem dX3_addsKind_39 : decode cX3_addsKind 39 = .ok (.imul, 1) := dk_104 (dk_at dksX3_addsKind_1 15 rfl rfl)
theorem dX3_addsKind_40 : decode cX3_addsKind 40 = .ok (.iconst 1, 1) := dk_4 (dk_at dksX3_addsKind_1 16 rfl rfl)
theorem dX3_addsKind_41 : decode cX3_addsKind 41 = .ok (.iadd, 1) := dk_96 (dk_at dksX3_addsKind_1 17 rfl rfl)
theorem dX3_addsKind_42 : decode cX3_addsKind 42 = .ok (.iaload, 1) := dk_46 (dk_at dksX3_addsKind_1 18 rfl rfl)
theorem dX3_addsKind_43 : decode cX3_addsKind 43 = .ok (.aload_n 0, 1) := dk_42 (dk_at dksX3_addsKind_1 19 rfl rfl)
theorem dX3_addsKind_44 : decode cX3_addsKind 44 = .ok (.iload_n 1, 1) := dk_27 (dk_at dksX3_addsKind_1 20 rfl rfl)
theorem dX3_addsKind_45 : decode cX3_addsKind 45 = .ok (.invokevirtual 209, 3) := dk_182 0 209 (dk_at dksX3_addsKind_1 21 rfl rfl)
theorem dX3_addsKind_48 : decode cX3_addsKind 48 = .ok (.if_icmp .ne 26, 3) := dk_160 0 26 (dk_at dksX3_addsKind_2 0 rfl rfl)
theorem dX3_addsKind_51 : decode cX3_addsKind 51 = .ok (.aload_n 0, 1) := dk_42 (dk_at dksX3_addsKind_2 3 rfl rfl)
theorem dX3_addsKind_52 : decode cX3_addsKind 52 = .ok (.getfield 59, 3) := dk_180 0 59 (dk_at dksX3_addsKind_2 4 rfl rfl)
theorem dX3_addsKind_55 : decode cX3_addsKind 55 = .ok (.iconst 4, 1) := dk_7 (dk_at dksX3_addsKind_2 7 rfl rfl)
theorem dX3_addsKind_56 : decode cX3_addsKind 56 = .ok (.iload 4, 2) := dk_21 4 (dk_at dksX3_addsKind_2 8 rfl rfl)
theorem dX3_addsKind_58 : decode cX3_addsKind 58 = .ok (.imul, 1) := dk_104 (dk_at dksX3_addsKind_2 10 rfl rfl)
theorem dX3_addsKind_59 : decode cX3_addsKind 59 = .ok (.iconst 2, 1) := dk_5 (dk_at dksX3_addsKind_2 11 rfl rfl)
theorem dX3_addsKind_60 : decode cX3_addsKind 60 = .ok (.iadd, 1) := dk_96 (dk_at dksX3_addsKind_2 12 rfl rfl)
theorem dX3_addsKind_61 : decode cX3_addsKind 61 = .ok (.iaload, 1) := dk_46 (dk_at dksX3_addsKind_2 13 rfl rfl)
theorem dX3_addsKind_62 : decode cX3_addsKind 62 = .ok (.aload_n 0, 1) := dk_42 (dk_at dksX3_addsKind_2 14 rfl rfl)
theorem dX3_addsKind_63 : decode cX3_addsKind 63 = .ok (.iload_n 1, 1) := dk_27 (dk_at dksX3_addsKind_2 15 rfl rfl)
theorem dX3_addsKind_64 : decode cX3_addsKind 64 = .ok (.invokevirtual 203, 3) := dk_182 0 203 (dk_at dksX3_addsKind_2 16 rfl rfl)
theorem dX3_addsKind_67 : decode cX3_addsKind 67 = .ok (.if_icmp .ne 7, 3) := dk_160 0 7 (dk_at dksX3_addsKind_2 19 rfl rfl)
theorem dX3_addsKind_70 : decode cX3_addsKind 70 = .ok (.iconst 1, 1) := dk_4 (dk_at dksX3_addsKind_2 22 rfl rfl)
theorem dX3_addsKind_71 : decode cX3_addsKind 71 = .ok (.goto 4, 3) := dk_167 0 4 (dk_at dksX3_addsKind_3 0 rfl rfl)
theorem dX3_addsKind_74 : decode cX3_addsKind 74 = .ok (.iconst 0, 1) := dk_3 (dk_at dksX3_addsKind_3 3 rfl rfl)
theorem dX3_addsKind_75 : decode cX3_addsKind 75 = .ok (.istore 5, 2) := dk_54 5 (dk_at dksX3_addsKind_3 4 rfl rfl)
theorem dX3_addsKind_77 : decode cX3_addsKind 77 = .ok (.iload 5, 2) := dk_21 5 (dk_at dksX3_addsKind_3 6 rfl rfl)
theorem dX3_addsKind_79 : decode cX3_addsKind 79 = .ok (.ifCond .eq 8, 3) := dk_153 0 8 (dk_at dksX3_addsKind_3 8 rfl rfl)
theorem dX3_addsKind_82 : decode cX3_addsKind 82 = .ok (.iload 4, 2) := dk_21 4 (dk_at dksX3_addsKind_3 11 rfl rfl)
theorem dX3_addsKind_84 : decode cX3_addsKind 84 = .ok (.goto 4, 3) := dk_167 0 4 (dk_at dksX3_addsKind_3 13 rfl rfl)
theorem dX3_addsKind_87 : decode cX3_addsKind 87 = .ok (.iload_n 3, 1) := dk_29 (dk_at dksX3_addsKind_3 16 rfl rfl)
theorem dX3_addsKind_88 : decode cX3_addsKind 88 = .ok (.istore_n 3, 1) := dk_62 (dk_at dksX3_addsKind_3 17 rfl rfl)
theorem dX3_addsKind_89 : decode cX3_addsKind 89 = .ok (.iinc 4 1, 3) := dk_132 4 1 (dk_at dksX3_addsKind_3 18 rfl rfl)
theorem dX3_addsKind_92 : decode cX3_addsKind 92 = .ok (.goto (-87), 3) := dk_167 255 169 (dk_at dksX3_addsKind_3 21 rfl rfl)
theorem dX3_addsKind_95 : decode cX3_addsKind 95 = .ok (.iload_n 3, 1) := dk_29 (dk_at dksX3_addsKind_4 0 rfl rfl)
theorem dX3_addsKind_96 : decode cX3_addsKind 96 = .ok (.iconst (-1), 1) := dk_2 (dk_at dksX3_addsKind_4 1 rfl rfl)
theorem dX3_addsKind_97 : decode cX3_addsKind 97 = .ok (.if_icmp .ne 73, 3) := dk_160 0 73 (dk_at dksX3_addsKind_4 2 rfl rfl)
theorem dX3_addsKind_100 : decode cX3_addsKind 100 = .ok (.aload_n 0, 1) := dk_42 (dk_at dksX3_addsKind_4 5 rfl rfl)
theorem dX3_addsKind_101 : decode cX3_addsKind 101 = .ok (.getfield 225, 3) := dk_180 0 225 (dk_at dksX3_addsKind_4 6 rfl rfl)
theorem dX3_addsKind_104 : decode cX3_addsKind 104 = .ok (.istore_n 3, 1) := dk_62 (dk_at dksX3_addsKind_4 9 rfl rfl)
theorem dX3_addsKind_105 : decode cX3_addsKind 105 = .ok (.aload_n 0, 1) := dk_42 (dk_at dksX3_addsKind_4 10 rfl rfl)
theorem dX3_addsKind_106 : decode cX3_addsKind 106 = .ok (.getfield 59, 3) := dk_180 0 59 (dk_at dksX3_addsKind_4 11 rfl rfl)
theorem dX3_addsKind_109 : decode cX3_addsKind 109 = .ok (.iconst 4, 1) := dk_7 (dk_at dksX3_addsKind_4 14 rfl rfl)
theorem dX3_addsKind_110 : decode cX3_addsKind 110 = .ok (.iload_n 3, 1) := dk_29 (dk_at dksX3_addsKind_4 15 rfl rfl)
theorem dX3_addsKind_111 : decode cX3_addsKind 111 = .ok (.imul, 1) := dk_104 (dk_at dksX3_addsKind_4 16 rfl rfl)
theorem dX3_addsKind_112 : decode cX3_addsKind 112 = .ok (.aload_n 0, 1) := dk_42 (dk_at dksX3_addsKind_4 17 rfl rfl)
theorem dX3_addsKind_113 : decode cX3_addsKind 113 = .ok (.iload_n 1, 1) := dk_27 (dk_at dksX3_addsKind_4 18 rfl rfl)
theorem dX3_addsKind_114 : decode cX3_addsKind 114 = .ok (.iload_n 2, 1) := dk_28 (dk_at dksX3_addsKind_4 19 rfl rfl)
theorem dX3_addsKind_115 : decode cX3_addsKind 115 = .ok (.invokevirtual 206, 3) := dk_182 0 206 (dk_at dksX3_addsKind_4 20 rfl rfl)
theorem dX3_addsKind_118 : decode cX3_addsKind 118 = .ok (.iastore, 1) := dk_79 (dk_at dksX3_addsKind_4 23 rfl rfl)
theorem dX3_addsKind_119 : decode cX3_addsKind 119 = .ok (.aload_n 0, 1) := dk_42 (dk_at dksX3_addsKind_5 0 rfl rfl)
theorem dX3_addsKind_120 : decode cX3_addsKind 120 = .ok (.getfield 59, 3) := dk_180 0 59 (dk_at dksX3_addsKind_5 1 rfl rfl)
theorem dX3_addsKind_123 : decode cX3_addsKind 123 = .ok (.iconst 4, 1) := dk_7 (dk_at dksX3_addsKind_5 4 rfl rfl)
theorem dX3_addsKind_124 : decode cX3_addsKind 124 = .ok (.iload_n 3, 1) := dk_29 (dk_at dksX3_addsKind_5 5 rfl rfl)
theorem dX3_addsKind_125 : decode cX3_addsKind 125 = .ok (.imul, 1) := dk_104 (dk_at dksX3_addsKind_5 6 rfl rfl)
theorem dX3_addsKind_126 : decode cX3_addsKind 126 = .ok (.iconst 1, 1) := dk_4 (dk_at dksX3_addsKind_5 7 rfl rfl)
theorem dX3_addsKind_127 : decode cX3_addsKind 127 = .ok (.iadd, 1) := dk_96 (dk_at dksX3_addsKind_5 8 rfl rfl)
theorem dX3_addsKind_128 : decode cX3_addsKind 128 = .ok (.aload_n 0, 1) := dk_42 (dk_at dksX3_addsKind_5 9 rfl rfl)
theorem dX3_addsKind_129 : decode cX3_addsKind 129 = .ok (.iload_n 1, 1) := dk_27 (dk_at dksX3_addsKind_5 10 rfl rfl)
theorem dX3_addsKind_130 : decode cX3_addsKind 130 = .ok (.invokevirtual 209, 3) := dk_182 0 209 (dk_at dksX3_addsKind_5 11 rfl rfl)
theorem dX3_addsKind_133 : decode cX3_addsKind 133 = .ok (.iastore, 1) := dk_79 (dk_at dksX3_addsKind_5 14 rfl rfl)
theorem dX3_addsKind_134 : decode cX3_addsKind 134 = .ok (.aload_n 0, 1) := dk_42 (dk_at dksX3_addsKind_5 15 rfl rfl)
theorem dX3_addsKind_135 : decode cX3_addsKind 135 = .ok (.getfield 59, 3) := dk_180 0 59 (dk_at dksX3_addsKind_5 16 rfl rfl)
theorem dX3_addsKind_138 : decode cX3_addsKind 138 = .ok (.iconst 4, 1) := dk_7 (dk_at dksX3_addsKind_5 19 rfl rfl)
theorem dX3_addsKind_139 : decode cX3_addsKind 139 = .ok (.iload_n 3, 1) := dk_29 (dk_at dksX3_addsKind_5 20 rfl rfl)
theorem dX3_addsKind_140 : decode cX3_addsKind 140 = .ok (.imul, 1) := dk_104 (dk_at dksX3_addsKind_5 21 rfl rfl)
theorem dX3_addsKind_141 : decode cX3_addsKind 141 = .ok (.iconst 2, 1) := dk_5 (dk_at dksX3_addsKind_5 22 rfl rfl)
theorem dX3_addsKind_142 : decode cX3_addsKind 142 = .ok (.iadd, 1) := dk_96 (dk_at dksX3_addsKind_5 23 rfl rfl)
theorem dX3_addsKind_143 : decode cX3_addsKind 143 = .ok (.aload_n 0, 1) := dk_42 (dk_at dksX3_addsKind_6 0 rfl rfl)
theorem dX3_addsKind_144 : decode cX3_addsKind 144 = .ok (.iload_n 1, 1) := dk_27 (dk_at dksX3_addsKind_6 1 rfl rfl)
theorem dX3_addsKind_145 : decode cX3_addsKind 145 = .ok (.invokevirtual 203, 3) := dk_182 0 203 (dk_at dksX3_addsKind_6 2 rfl rfl)
theorem dX3_addsKind_148 : decode cX3_addsKind 148 = .ok (.iastore, 1) := dk_79 (dk_at dksX3_addsKind_6 5 rfl rfl)
theorem dX3_addsKind_149 : decode cX3_addsKind 149 = .ok (.aload_n 0, 1) := dk_42 (dk_at dksX3_addsKind_6 6 rfl rfl)
theorem dX3_addsKind_150 : decode cX3_addsKind 150 = .ok (.getfield 59, 3) := dk_180 0 59 (dk_at dksX3_addsKind_6 7 rfl rfl)
theorem dX3_addsKind_153 : decode cX3_addsKind 153 = .ok (.iconst 4, 1) := dk_7 (dk_at dksX3_addsKind_6 10 rfl rfl)
theorem dX3_addsKind_154 : decode cX3_addsKind 154 = .ok (.iload_n 3, 1) := dk_29 (dk_at dksX3_addsKind_6 11 rfl rfl)
theorem dX3_addsKind_155 : decode cX3_addsKind 155 = .ok (.imul, 1) := dk_104 (dk_at dksX3_addsKind_6 12 rfl rfl)
theorem dX3_addsKind_156 : decode cX3_addsKind 156 = .ok (.iconst 3, 1) := dk_6 (dk_at dksX3_addsKind_6 13 rfl rfl)
theorem dX3_addsKind_157 : decode cX3_addsKind 157 = .ok (.iadd, 1) := dk_96 (dk_at dksX3_addsKind_6 14 rfl rfl)
theorem dX3_addsKind_158 : decode cX3_addsKind 158 = .ok (.iconst 0, 1) := dk_3 (dk_at dksX3_addsKind_6 15 rfl rfl)
theorem dX3_addsKind_159 : decode cX3_addsKind 159 = .ok (.iastore, 1) := dk_79 (dk_at dksX3_addsKind_6 16 rfl rfl)
theorem dX3_addsKind_160 : decode cX3_addsKind 160 = .ok (.aload_n 0, 1) := dk_42 (dk_at dksX3_addsKind_6 17 rfl rfl)
theorem dX3_addsKind_161 : decode cX3_addsKind 161 = .ok (.dup, 1) := dk_89 (dk_at dksX3_addsKind_6 18 rfl rfl)
theorem dX3_addsKind_162 : decode cX3_addsKind 162 = .ok (.getfield 225, 3) := dk_180 0 225 (dk_at dksX3_addsKind_6 19 rfl rfl)
theorem dX3_addsKind_165 : decode cX3_addsKind 165 = .ok (.iconst 1, 1) := dk_4 (dk_at dksX3_addsKind_6 22 rfl rfl)
theorem dX3_addsKind_166 : decode cX3_addsKind 166 = .ok (.iadd, 1) := dk_96 (dk_at dksX3_addsKind_6 23 rfl rfl)
theorem dX3_addsKind_167 : decode cX3_addsKind 167 = .ok (.putfield 225, 3) := dk_181 0 225 (dk_at dksX3_addsKind_7 0 rfl rfl)
theorem dX3_addsKind_170 : decode cX3_addsKind 170 = .ok (.aload_n 0, 1) := dk_42 (dk_at dksX3_addsKind_7 3 rfl rfl)
theorem dX3_addsKind_171 : decode cX3_addsKind 171 = .ok (.getfield 59, 3) := dk_180 0 59 (dk_at dksX3_addsKind_7 4 rfl rfl)
theorem dX3_addsKind_174 : decode cX3_addsKind 174 = .ok (.iconst 4, 1) := dk_7 (dk_at dksX3_addsKind_7 7 rfl rfl)
theorem dX3_addsKind_175 : decode cX3_addsKind 175 = .ok (.iload_n 3, 1) := dk_29 (dk_at dksX3_addsKind_7 8 rfl rfl)
theorem dX3_addsKind_176 : decode cX3_addsKind 176 = .ok (.imul, 1) := dk_104 (dk_at dksX3_addsKind_7 9 rfl rfl)
theorem dX3_addsKind_177 : decode cX3_addsKind 177 = .ok (.iconst 3, 1) := dk_6 (dk_at dksX3_addsKind_7 10 rfl rfl)
theorem dX3_addsKind_178 : decode cX3_addsKind 178 = .ok (.iadd, 1) := dk_96 (dk_at dksX3_addsKind_7 11 rfl rfl)
theorem dX3_addsKind_179 : decode cX3_addsKind 179 = .ok (.dup2, 1) := dk_92 (dk_at dksX3_addsKind_7 12 rfl rfl)
theorem dX3_addsKind_180 : decode cX3_addsKind 180 = .ok (.iaload, 1) := dk_46 (dk_at dksX3_addsKind_7 13 rfl rfl)
theorem dX3_addsKind_181 : decode cX3_addsKind 181 = .ok (.iconst 1, 1) := dk_4 (dk_at dksX3_addsKind_7 14 rfl rfl)
theorem dX3_addsKind_182 : decode cX3_addsKind 182 = .ok (.iadd, 1) := dk_96 (dk_at dksX3_addsKind_7 15 rfl rfl)
theorem dX3_addsKind_183 : decode cX3_addsKind 183 = .ok (.iastore, 1) := dk_79 (dk_at dksX3_addsKind_7 16 rfl rfl)
theorem dX3_addsKind_184 : decode cX3_addsKind 184 = .ok (.return_, 1) := dk_177 (dk_at dksX3_addsKind_7 17 rfl rfl)
abbrev cX3_kind : ByteArray := prog_18_method_54_code
def yX3_kind : MethodName := ⟨RX3, "kind", "(IIII)I"⟩
def dkwX3_kind_2 : List UInt8 := [180, 0, 59, 7, 29, 104, 21, 4, 96, 46, 167, 0, 5, 18, 139, 172]
abbrev dktX3_kind_2 : List UInt8 := dkwX3_kind_2 ++ []
def dkwX3_kind_1 : List UInt8 := [154, 0, 6, 18, 139, 172, 29, 3, 42, 27, 28, 182, 0, 239, 4, 100, 184, 0, 114, 153, 0, 17, 42]
abbrev dktX3_kind_1 : List UInt8 := dkwX3_kind_1 ++ dktX3_kind_2
def dkwX3_kind_0 : List UInt8 := [42, 27, 182, 0, 174, 153, 0, 20, 28, 184, 0, 122, 153, 0, 13, 21, 4, 3, 6, 184, 0, 114]
abbrev dktX3_kind_0 : List UInt8 := dkwX3_kind_0 ++ dktX3_kind_1
theorem dksX3_kind_0 : cX3_kind.data.toList.drop 0 = dktX3_kind_0 := by decide +kernel
theorem dksX3_kind_1 : cX3_kind.data.toList.drop 22 = dktX3_kind_1 := dk_seg dksX3_kind_0 22 rfl rfl
theorem dksX3_kind_2 : cX3_kind.data.toList.drop 45 = dktX3_kind_2 := dk_seg dksX3_kind_1 23 rfl rfl
theorem dX3_kind_0 : decode cX3_kind 0 = .ok (.aload_n 0, 1) := dk_42 (dk_at dksX3_kind_0 0 rfl rfl)
theorem dX3_kind_1 : decode cX3_kind 1 = .ok (.iload_n 1, 1) := dk_27 (dk_at dksX3_kind_0 1 rfl rfl)
theorem dX3_kind_2 : decode cX3_kind 2 = .ok (.invokevirtual 174, 3) := dk_182 0 174 (dk_at dksX3_kind_0 2 rfl rfl)
theorem dX3_kind_5 : decode cX3_kind 5 = .ok (.ifCond .eq 20, 3) := dk_153 0 20 (dk_at dksX3_kind_0 5 rfl rfl)
theorem dX3_kind_8 : decode cX3_kind 8 = .ok (.iload_n 2, 1) := dk_28 (dk_at dksX3_kind_0 8 rfl rfl)
theorem dX3_kind_9 : decode cX3_kind 9 = .ok (.invokestatic 122, 3) := dk_184 0 122 (dk_at dksX3_kind_0 9 rfl rfl)
theorem dX3_kind_12 : decode cX3_kind 12 = .ok (.ifCond .eq 13, 3) := dk_153 0 13 (dk_at dksX3_kind_0 12 rfl rfl)
theorem dX3_kind_15 : decode cX3_kind 15 = .ok (.iload 4, 2) := dk_21 4 (dk_at dksX3_kind_0 15 rfl rfl)
theorem dX3_kind_17 : decode cX3_kind 17 = .ok (.iconst 0, 1) := dk_3 (dk_at dksX3_kind_0 17 rfl rfl)
theorem dX3_kind_18 : decode cX3_kind 18 = .ok (.iconst 3, 1) := dk_6 (dk_at dksX3_kind_0 18 rfl rfl)
theorem dX3_kind_19 : decode cX3_kind 19 = .ok (.invokestatic 114, 3) := dk_184 0 114 (dk_at dksX3_kind_0 19 rfl rfl)
theorem dX3_kind_22 : decode cX3_kind 22 = .ok (.ifCond .ne 6, 3) := dk_154 0 6 (dk_at dksX3_kind_1 0 rfl rfl)
theorem dX3_kind_25 : decode cX3_kind 25 = .ok (.ldc 139, 2) := dk_18 139 (dk_at dksX3_kind_1 3 rfl rfl)
theorem dX3_kind_27 : decode cX3_kind 27 = .ok (.ireturn, 1) := dk_172 (dk_at dksX3_kind_1 5 rfl rfl)
theorem dX3_kind_28 : decode cX3_kind 28 = .ok (.iload_n 3, 1) := dk_29 (dk_at dksX3_kind_1 6 rfl rfl)
theorem dX3_kind_29 : decode cX3_kind 29 = .ok (.iconst 0, 1) := dk_3 (dk_at dksX3_kind_1 7 rfl rfl)
theorem dX3_kind_30 : decode cX3_kind 30 = .ok (.aload_n 0, 1) := dk_42 (dk_at dksX3_kind_1 8 rfl rfl)
theorem dX3_kind_31 : decode cX3_kind 31 = .ok (.iload_n 1, 1) := dk_27 (dk_at dksX3_kind_1 9 rfl rfl)
theorem dX3_kind_32 : decode cX3_kind 32 = .ok (.iload_n 2, 1) := dk_28 (dk_at dksX3_kind_1 10 rfl rfl)
theorem dX3_kind_33 : decode cX3_kind 33 = .ok (.invokevirtual 239, 3) := dk_182 0 239 (dk_at dksX3_kind_1 11 rfl rfl)
theorem dX3_kind_36 : decode cX3_kind 36 = .ok (.iconst 1, 1) := dk_4 (dk_at dksX3_kind_1 14 rfl rfl)
theorem dX3_kind_37 : decode cX3_kind 37 = .ok (.isub, 1) := dk_100 (dk_at dksX3_kind_1 15 rfl rfl)
theorem dX3_kind_38 : decode cX3_kind 38 = .ok (.invokestatic 114, 3) := dk_184 0 114 (dk_at dksX3_kind_1 16 rfl rfl)
theorem dX3_kind_41 : decode cX3_kind 41 = .ok (.ifCond .eq 17, 3) := dk_153 0 17 (dk_at dksX3_kind_1 19 rfl rfl)
theorem dX3_kind_44 : decode cX3_kind 44 = .ok (.aload_n 0, 1) := dk_42 (dk_at dksX3_kind_1 22 rfl rfl)
theorem dX3_kind_45 : decode cX3_kind 45 = .ok (.getfield 59, 3) := dk_180 0 59 (dk_at dksX3_kind_2 0 rfl rfl)
theorem dX3_kind_48 : decode cX3_kind 48 = .ok (.iconst 4, 1) := dk_7 (dk_at dksX3_kind_2 3 rfl rfl)
theorem dX3_kind_49 : decode cX3_kind 49 = .ok (.iload_n 3, 1) := dk_29 (dk_at dksX3_kind_2 4 rfl rfl)
theorem dX3_kind_50 : decode cX3_kind 50 = .ok (.imul, 1) := dk_104 (dk_at dksX3_kind_2 5 rfl rfl)
theorem dX3_kind_51 : decode cX3_kind 51 = .ok (.iload 4, 2) := dk_21 4 (dk_at dksX3_kind_2 6 rfl rfl)
theorem dX3_kind_53 : decode cX3_kind 53 = .ok (.iadd, 1) := dk_96 (dk_at dksX3_kind_2 8 rfl rfl)
theorem dX3_kind_54 : decode cX3_kind 54 = .ok (.iaload, 1) := dk_46 (dk_at dksX3_kind_2 9 rfl rfl)
theorem dX3_kind_55 : decode cX3_kind 55 = .ok (.goto 5, 3) := dk_167 0 5 (dk_at dksX3_kind_2 10 rfl rfl)
theorem dX3_kind_58 : decode cX3_kind 58 = .ok (.ldc 139, 2) := dk_18 139 (dk_at dksX3_kind_2 13 rfl rfl)
theorem dX3_kind_60 : decode cX3_kind 60 = .ok (.ireturn, 1) := dk_172 (dk_at dksX3_kind_2 15 rfl rfl)
abbrev cX3_many : ByteArray := prog_18_method_64_code
def yX3_many : MethodName := ⟨RX3, "many", "(III)I"⟩
def dkwX3_many_1 : List UInt8 := [16, 254, 172]
abbrev dktX3_many_1 : List UInt8 := dkwX3_many_1 ++ []
def dkwX3_many_0 : List UInt8 := [42, 27, 28, 29, 182, 1, 9, 153, 0, 16, 42, 27, 28, 29, 182, 1, 12, 184, 1, 15, 167, 0, 5]
abbrev dktX3_many_0 : List UInt8 := dkwX3_many_0 ++ dktX3_many_1
theorem dksX3_many_0 : cX3_many.data.toList.drop 0 = dktX3_many_0 := by decide +kernel
theorem dksX3_many_1 : cX3_many.data.toList.drop 23 = dktX3_many_1 := dk_seg dksX3_many_0 23 rfl rfl
theorem dX3_many_0 : decode cX3_many 0 = .ok (.aload_n 0, 1) := dk_42 (dk_at dksX3_many_0 0 rfl rfl)
theorem dX3_many_1 : decode cX3_many 1 = .ok (.iload_n 1, 1) := dk_27 (dk_at dksX3_many_0 1 rfl rfl)
theorem dX3_many_2 : decode cX3_many 2 = .ok (.iload_n 2, 1) := dk_28 (dk_at dksX3_many_0 2 rfl rfl)
theorem dX3_many_3 : decode cX3_many 3 = .ok (.iload_n 3, 1) := dk_29 (dk_at dksX3_many_0 3 rfl rfl)
theorem dX3_many_4 : decode cX3_many 4 = .ok (.invokevirtual 265, 3) := dk_182 1 9 (dk_at dksX3_many_0 4 rfl rfl)
theorem dX3_many_7 : decode cX3_many 7 = .ok (.ifCond .eq 16, 3) := dk_153 0 16 (dk_at dksX3_many_0 7 rfl rfl)
theorem dX3_many_10 : decode cX3_many 10 = .ok (.aload_n 0, 1) := dk_42 (dk_at dksX3_many_0 10 rfl rfl)
theorem dX3_many_11 : decode cX3_many 11 = .ok (.iload_n 1, 1) := dk_27 (dk_at dksX3_many_0 11 rfl rfl)
theorem dX3_many_12 : decode cX3_many 12 = .ok (.iload_n 2, 1) := dk_28 (dk_at dksX3_many_0 12 rfl rfl)
theorem dX3_many_13 : decode cX3_many 13 = .ok (.iload_n 3, 1) := dk_29 (dk_at dksX3_many_0 13 rfl rfl)
theorem dX3_many_14 : decode cX3_many 14 = .ok (.invokevirtual 268, 3) := dk_182 1 12 (dk_at dksX3_many_0 14 rfl rfl)
theorem dX3_many_17 : decode cX3_many 17 = .ok (.invokestatic 271, 3) := dk_184 1 15 (dk_at dksX3_many_0 17 rfl rfl)
theorem dX3_many_20 : decode cX3_many 20 = .ok (.goto 5, 3) := dk_167 0 5 (dk_at dksX3_many_0 20 rfl rfl)
theorem dX3_many_23 : decode cX3_many 23 = .ok (.bipush (-2), 2) := dk_16 254 (dk_at dksX3_many_1 0 rfl rfl)
theorem dX3_many_25 : decode cX3_many 25 = .ok (.ireturn, 1) := dk_172 (dk_at dksX3_many_1 2 rfl rfl)
abbrev cX3_isSet : ByteArray := prog_18_method_63_code
def yX3_isSet : MethodName := ⟨RX3, "isSet", "(III)Z"⟩
def dkwX3_isSet_1 : List UInt8 := [184, 0, 114, 153, 0, 7, 4, 167, 0, 4, 3, 172]
abbrev dktX3_isSet_1 : List UInt8 := dkwX3_isSet_1 ++ []
def dkwX3_isSet_0 : List UInt8 := [27, 3, 6, 184, 0, 114, 153, 0, 28, 28, 184, 0, 122, 153, 0, 21, 29, 2, 42, 180, 0, 154, 4, 100]
abbrev dktX3_isSet_0 : List UInt8 := dkwX3_isSet_0 ++ dktX3_isSet_1
theorem dksX3_isSet_0 : cX3_isSet.data.toList.drop 0 = dktX3_isSet_0 := by decide +kernel
theorem dksX3_isSet_1 : cX3_isSet.data.toList.drop 24 = dktX3_isSet_1 := dk_seg dksX3_isSet_0 24 rfl rfl
theorem dX3_isSet_0 : decode cX3_isSet 0 = .ok (.iload_n 1, 1) := dk_27 (dk_at dksX3_isSet_0 0 rfl rfl)
theorem dX3_isSet_1 : decode cX3_isSet 1 = .ok (.iconst 0, 1) := dk_3 (dk_at dksX3_isSet_0 1 rfl rfl)
theorem dX3_isSet_2 : decode cX3_isSet 2 = .ok (.iconst 3, 1) := dk_6 (dk_at dksX3_isSet_0 2 rfl rfl)
theorem dX3_isSet_3 : decode cX3_isSet 3 = .ok (.invokestatic 114, 3) := dk_184 0 114 (dk_at dksX3_isSet_0 3 rfl rfl)
theorem dX3_isSet_6 : decode cX3_isSet 6 = .ok (.ifCond .eq 28, 3) := dk_153 0 28 (dk_at dksX3_isSet_0 6 rfl rfl)
theorem dX3_isSet_9 : decode cX3_isSet 9 = .ok (.iload_n 2, 1) := dk_28 (dk_at dksX3_isSet_0 9 rfl rfl)
theorem dX3_isSet_10 : decode cX3_isSet 10 = .ok (.invokestatic 122, 3) := dk_184 0 122 (dk_at dksX3_isSet_0 10 rfl rfl)
theorem dX3_isSet_13 : decode cX3_isSet 13 = .ok (.ifCond .eq 21, 3) := dk_153 0 21 (dk_at dksX3_isSet_0 13 rfl rfl)
theorem dX3_isSet_16 : decode cX3_isSet 16 = .ok (.iload_n 3, 1) := dk_29 (dk_at dksX3_isSet_0 16 rfl rfl)
theorem dX3_isSet_17 : decode cX3_isSet 17 = .ok (.iconst (-1), 1) := dk_2 (dk_at dksX3_isSet_0 17 rfl rfl)
theorem dX3_isSet_18 : decode cX3_isSet 18 = .ok (.aload_n 0, 1) := dk_42 (dk_at dksX3_isSet_0 18 rfl rfl)
theorem dX3_isSet_19 : decode cX3_isSet 19 = .ok (.getfield 154, 3) := dk_180 0 154 (dk_at dksX3_isSet_0 19 rfl rfl)
theorem dX3_isSet_22 : decode cX3_isSet 22 = .ok (.iconst 1, 1) := dk_4 (dk_at dksX3_isSet_0 22 rfl rfl)
theorem dX3_isSet_23 : decode cX3_isSet 23 = .ok (.isub, 1) := dk_100 (dk_at dksX3_isSet_0 23 rfl rfl)
theorem dX3_isSet_24 : decode cX3_isSet 24 = .ok (.invokestatic 114, 3) := dk_184 0 114 (dk_at dksX3_isSet_1 0 rfl rfl)
theorem dX3_isSet_27 : decode cX3_isSet 27 = .ok (.ifCond .eq 7, 3) := dk_153 0 7 (dk_at dksX3_isSet_1 3 rfl rfl)
theorem dX3_isSet_30 : decode cX3_isSet 30 = .ok (.iconst 1, 1) := dk_4 (dk_at dksX3_isSet_1 6 rfl rfl)
theorem dX3_isSet_31 : decode cX3_isSet 31 = .ok (.goto 4, 3) := dk_167 0 4 (dk_at dksX3_isSet_1 7 rfl rfl)
theorem dX3_isSet_34 : decode cX3_isSet 34 = .ok (.iconst 0, 1) := dk_3 (dk_at dksX3_isSet_1 10 rfl rfl)
theorem dX3_isSet_35 : decode cX3_isSet 35 = .ok (.ireturn, 1) := dk_172 (dk_at dksX3_isSet_1 11 rfl rfl)
abbrev cX3_bitsOfSet : ByteArray := prog_18_method_61_code
def yX3_bitsOfSet : MethodName := ⟨RX3, "bitsOfSet", "(III)I"⟩
def dkwX3_bitsOfSet_2 : List UInt8 := [132, 5, 1, 167, 255, 216, 21, 4, 172]
abbrev dktX3_bitsOfSet_2 : List UInt8 := dkwX3_bitsOfSet_2 ++ []
def dkwX3_bitsOfSet_1 : List UInt8 := [159, 0, 9, 29, 21, 5, 160, 0, 14, 42, 27, 28, 21, 5, 182, 1, 6, 167, 0, 4, 3, 128, 54, 4]
abbrev dktX3_bitsOfSet_1 : List UInt8 := dkwX3_bitsOfSet_1 ++ dktX3_bitsOfSet_2
def dkwX3_bitsOfSet_0 : List UInt8 := [42, 182, 1, 3, 3, 54, 4, 3, 54, 5, 21, 5, 42, 180, 0, 154, 162, 0, 37, 21, 4, 29, 2]
abbrev dktX3_bitsOfSet_0 : List UInt8 := dkwX3_bitsOfSet_0 ++ dktX3_bitsOfSet_1
theorem dksX3_bitsOfSet_0 : cX3_bitsOfSet.data.toList.drop 0 = dktX3_bitsOfSet_0 := by decide +kernel
theorem dksX3_bitsOfSet_1 : cX3_bitsOfSet.data.toList.drop 23 = dktX3_bitsOfSet_1 := dk_seg dksX3_bitsOfSet_0 23 rfl rfl
theorem dksX3_bitsOfSet_2 : cX3_bitsOfSet.data.toList.drop 47 = dktX3_bitsOfSet_2 := dk_seg dksX3_bitsOfSet_1 24 rfl rfl
theorem dX3_bitsOfSet_0 : decode cX3_bitsOfSet 0 = .ok (.aload_n 0, 1) := dk_42 (dk_at dksX3_bitsOfSet_0 0 rfl rfl)
theorem dX3_bitsOfSet_1 : decode cX3_bitsOfSet 1 = .ok (.invokevirtual 259, 3) := dk_182 1 3 (dk_at dksX3_bitsOfSet_0 1 rfl rfl)
theorem dX3_bitsOfSet_4 : decode cX3_bitsOfSet 4 = .ok (.iconst 0, 1) := dk_3 (dk_at dksX3_bitsOfSet_0 4 rfl rfl)
theorem dX3_bitsOfSet_5 : decode cX3_bitsOfSet 5 = .ok (.istore 4, 2) := dk_54 4 (dk_at dksX3_bitsOfSet_0 5 rfl rfl)
theorem dX3_bitsOfSet_7 : decode cX3_bitsOfSet 7 = .ok (.iconst 0, 1) := dk_3 (dk_at dksX3_bitsOfSet_0 7 rfl rfl)
theorem dX3_bitsOfSet_8 : decode cX3_bitsOfSet 8 = .ok (.istore 5, 2) := dk_54 5 (dk_at dksX3_bitsOfSet_0 8 rfl rfl)
theorem dX3_bitsOfSet_10 : decode cX3_bitsOfSet 10 = .ok (.iload 5, 2) := dk_21 5 (dk_at dksX3_bitsOfSet_0 10 rfl rfl)
theorem dX3_bitsOfSet_12 : decode cX3_bitsOfSet 12 = .ok (.aload_n 0, 1) := dk_42 (dk_at dksX3_bitsOfSet_0 12 rfl rfl)
theorem dX3_bitsOfSet_13 : decode cX3_bitsOfSet 13 = .ok (.getfield 154, 3) := dk_180 0 154 (dk_at dksX3_bitsOfSet_0 13 rfl rfl)
theorem dX3_bitsOfSet_16 : decode cX3_bitsOfSet 16 = .ok (.if_icmp .ge 37, 3) := dk_162 0 37 (dk_at dksX3_bitsOfSet_0 16 rfl rfl)
theorem dX3_bitsOfSet_19 : decode cX3_bitsOfSet 19 = .ok (.iload 4, 2) := dk_21 4 (dk_at dksX3_bitsOfSet_0 19 rfl rfl)
theorem dX3_bitsOfSet_21 : decode cX3_bitsOfSet 21 = .ok (.iload_n 3, 1) := dk_29 (dk_at dksX3_bitsOfSet_0 21 rfl rfl)
theorem dX3_bitsOfSet_22 : decode cX3_bitsOfSet 22 = .ok (.iconst (-1), 1) := dk_2 (dk_at dksX3_bitsOfSet_0 22 rfl rfl)
theorem dX3_bitsOfSet_23 : decode cX3_bitsOfSet 23 = .ok (.if_icmp .eq 9, 3) := dk_159 0 9 (dk_at dksX3_bitsOfSet_1 0 rfl rfl)
theorem dX3_bitsOfSet_26 : decode cX3_bitsOfSet 26 = .ok (.iload_n 3, 1) := dk_29 (dk_at dksX3_bitsOfSet_1 3 rfl rfl)
theorem dX3_bitsOfSet_27 : decode cX3_bitsOfSet 27 = .ok (.iload 5, 2) := dk_21 5 (dk_at dksX3_bitsOfSet_1 4 rfl rfl)
theorem dX3_bitsOfSet_29 : decode cX3_bitsOfSet 29 = .ok (.if_icmp .ne 14, 3) := dk_160 0 14 (dk_at dksX3_bitsOfSet_1 6 rfl rfl)
theorem dX3_bitsOfSet_32 : decode cX3_bitsOfSet 32 = .ok (.aload_n 0, 1) := dk_42 (dk_at dksX3_bitsOfSet_1 9 rfl rfl)
theorem dX3_bitsOfSet_33 : decode cX3_bitsOfSet 33 = .ok (.iload_n 1, 1) := dk_27 (dk_at dksX3_bitsOfSet_1 10 rfl rfl)
theorem dX3_bitsOfSet_34 : decode cX3_bitsOfSet 34 = .ok (.iload_n 2, 1) := dk_28 (dk_at dksX3_bitsOfSet_1 11 rfl rfl)
theorem dX3_bitsOfSet_35 : decode cX3_bitsOfSet 35 = .ok (.iload 5, 2) := dk_21 5 (dk_at dksX3_bitsOfSet_1 12 rfl rfl)
theorem dX3_bitsOfSet_37 : decode cX3_bitsOfSet 37 = .ok (.invokevirtual 262, 3) := dk_182 1 6 (dk_at dksX3_bitsOfSet_1 14 rfl rfl)
theorem dX3_bitsOfSet_40 : decode cX3_bitsOfSet 40 = .ok (.goto 4, 3) := dk_167 0 4 (dk_at dksX3_bitsOfSet_1 17 rfl rfl)
theorem dX3_bitsOfSet_43 : decode cX3_bitsOfSet 43 = .ok (.iconst 0, 1) := dk_3 (dk_at dksX3_bitsOfSet_1 20 rfl rfl)
theorem dX3_bitsOfSet_44 : decode cX3_bitsOfSet 44 = .ok (.ior, 1) := dk_128 (dk_at dksX3_bitsOfSet_1 21 rfl rfl)
theorem dX3_bitsOfSet_45 : decode cX3_bitsOfSet 45 = .ok (.istore 4, 2) := dk_54 4 (dk_at dksX3_bitsOfSet_1 22 rfl rfl)
theorem dX3_bitsOfSet_47 : decode cX3_bitsOfSet 47 = .ok (.iinc 5 1, 3) := dk_132 5 1 (dk_at dksX3_bitsOfSet_2 0 rfl rfl)
theorem dX3_bitsOfSet_50 : decode cX3_bitsOfSet 50 = .ok (.goto (-40), 3) := dk_167 255 216 (dk_at dksX3_bitsOfSet_2 3 rfl rfl)
theorem dX3_bitsOfSet_53 : decode cX3_bitsOfSet 53 = .ok (.iload 4, 2) := dk_21 4 (dk_at dksX3_bitsOfSet_2 6 rfl rfl)
theorem dX3_bitsOfSet_55 : decode cX3_bitsOfSet 55 = .ok (.ireturn, 1) := dk_172 (dk_at dksX3_bitsOfSet_2 8 rfl rfl)
abbrev cX3_findsSets : ByteArray := prog_18_method_59_code
def yX3_findsSets : MethodName := ⟨RX3, "findsSets", "()V"⟩
def dkwX3_findsSets_1 : List UInt8 := [27, 42, 180, 0, 154, 162, 0, 14, 42, 27, 182, 0, 255, 132, 1, 1, 167, 255, 240, 177]
abbrev dktX3_findsSets_1 : List UInt8 := dkwX3_findsSets_1 ++ []
def dkwX3_findsSets_0 : List UInt8 := [3, 60, 27, 17, 0, 240, 162, 0, 16, 42, 180, 0, 62, 27, 3, 79, 132, 1, 1, 167, 255, 239, 3, 60]
abbrev dktX3_findsSets_0 : List UInt8 := dkwX3_findsSets_0 ++ dktX3_findsSets_1
theorem dksX3_findsSets_0 : cX3_findsSets.data.toList.drop 0 = dktX3_findsSets_0 := by decide +kernel
theorem dksX3_findsSets_1 : cX3_findsSets.data.toList.drop 24 = dktX3_findsSets_1 := dk_seg dksX3_findsSets_0 24 rfl rfl
theorem dX3_findsSets_0 : decode cX3_findsSets 0 = .ok (.iconst 0, 1) := dk_3 (dk_at dksX3_findsSets_0 0 rfl rfl)
theorem dX3_findsSets_1 : decode cX3_findsSets 1 = .ok (.istore_n 1, 1) := dk_60 (dk_at dksX3_findsSets_0 1 rfl rfl)
theorem dX3_findsSets_2 : decode cX3_findsSets 2 = .ok (.iload_n 1, 1) := dk_27 (dk_at dksX3_findsSets_0 2 rfl rfl)
theorem dX3_findsSets_3 : decode cX3_findsSets 3 = .ok (.sipush 240, 3) := dk_17 0 240 (dk_at dksX3_findsSets_0 3 rfl rfl)
theorem dX3_findsSets_6 : decode cX3_findsSets 6 = .ok (.if_icmp .ge 16, 3) := dk_162 0 16 (dk_at dksX3_findsSets_0 6 rfl rfl)
theorem dX3_findsSets_9 : decode cX3_findsSets 9 = .ok (.aload_n 0, 1) := dk_42 (dk_at dksX3_findsSets_0 9 rfl rfl)
theorem dX3_findsSets_10 : decode cX3_findsSets 10 = .ok (.getfield 62, 3) := dk_180 0 62 (dk_at dksX3_findsSets_0 10 rfl rfl)
theorem dX3_findsSets_13 : decode cX3_findsSets 13 = .ok (.iload_n 1, 1) := dk_27 (dk_at dksX3_findsSets_0 13 rfl rfl)
theorem dX3_findsSets_14 : decode cX3_findsSets 14 = .ok (.iconst 0, 1) := dk_3 (dk_at dksX3_findsSets_0 14 rfl rfl)
theorem dX3_findsSets_15 : decode cX3_findsSets 15 = .ok (.iastore, 1) := dk_79 (dk_at dksX3_findsSets_0 15 rfl rfl)
theorem dX3_findsSets_16 : decode cX3_findsSets 16 = .ok (.iinc 1 1, 3) := dk_132 1 1 (dk_at dksX3_findsSets_0 16 rfl rfl)
theorem dX3_findsSets_19 : decode cX3_findsSets 19 = .ok (.goto (-17), 3) := dk_167 255 239 (dk_at dksX3_findsSets_0 19 rfl rfl)
theorem dX3_findsSets_22 : decode cX3_findsSets 22 = .ok (.iconst 0, 1) := dk_3 (dk_at dksX3_findsSets_0 22 rfl rfl)
theorem dX3_findsSets_23 : decode cX3_findsSets 23 = .ok (.istore_n 1, 1) := dk_60 (dk_at dksX3_findsSets_0 23 rfl rfl)
theorem dX3_findsSets_24 : decode cX3_findsSets 24 = .ok (.iload_n 1, 1) := dk_27 (dk_at dksX3_findsSets_1 0 rfl rfl)
theorem dX3_findsSets_25 : decode cX3_findsSets 25 = .ok (.aload_n 0, 1) := dk_42 (dk_at dksX3_findsSets_1 1 rfl rfl)
theorem dX3_findsSets_26 : decode cX3_findsSets 26 = .ok (.getfield 154, 3) := dk_180 0 154 (dk_at dksX3_findsSets_1 2 rfl rfl)
theorem dX3_findsSets_29 : decode cX3_findsSets 29 = .ok (.if_icmp .ge 14, 3) := dk_162 0 14 (dk_at dksX3_findsSets_1 5 rfl rfl)
theorem dX3_findsSets_32 : decode cX3_findsSets 32 = .ok (.aload_n 0, 1) := dk_42 (dk_at dksX3_findsSets_1 8 rfl rfl)
theorem dX3_findsSets_33 : decode cX3_findsSets 33 = .ok (.iload_n 1, 1) := dk_27 (dk_at dksX3_findsSets_1 9 rfl rfl)
theorem dX3_findsSets_34 : decode cX3_findsSets 34 = .ok (.invokevirtual 255, 3) := dk_182 0 255 (dk_at dksX3_findsSets_1 10 rfl rfl)
theorem dX3_findsSets_37 : decode cX3_findsSets 37 = .ok (.iinc 1 1, 3) := dk_132 1 1 (dk_at dksX3_findsSets_1 13 rfl rfl)
theorem dX3_findsSets_40 : decode cX3_findsSets 40 = .ok (.goto (-16), 3) := dk_167 255 240 (dk_at dksX3_findsSets_1 16 rfl rfl)
theorem dX3_findsSets_43 : decode cX3_findsSets 43 = .ok (.return_, 1) := dk_177 (dk_at dksX3_findsSets_1 19 rfl rfl)
abbrev cX3_findsTurn : ByteArray := prog_18_method_58_code
def yX3_findsTurn : MethodName := ⟨RX3, "findsTurn", "(I)V"⟩
def dkwX3_findsTurn_3 : List UInt8 := [27, 21, 4, 182, 0, 252, 61, 132, 4, 1, 167, 255, 220, 132, 3, 1, 167, 255, 199, 177]
abbrev dktX3_findsTurn_3 : List UInt8 := dkwX3_findsTurn_3 ++ []
def dkwX3_findsTurn_2 : List UInt8 := [42, 180, 0, 29, 29, 46, 162, 0, 31, 28, 153, 0, 27, 42, 29, 27, 182, 0, 177, 153, 0, 18, 42, 29]
abbrev dktX3_findsTurn_2 : List UInt8 := dkwX3_findsTurn_2 ++ dktX3_findsTurn_3
def dkwX3_findsTurn_1 : List UInt8 := [167, 255, 240, 4, 61, 3, 62, 29, 42, 180, 0, 171, 162, 0, 55, 28, 153, 0, 51, 3, 54, 4, 21, 4]
abbrev dktX3_findsTurn_1 : List UInt8 := dkwX3_findsTurn_1 ++ dktX3_findsTurn_2
def dkwX3_findsTurn_0 : List UInt8 := [42, 3, 181, 0, 248, 3, 61, 28, 16, 6, 162, 0, 16, 42, 180, 0, 65, 28, 3, 79, 132, 2, 1]
abbrev dktX3_findsTurn_0 : List UInt8 := dkwX3_findsTurn_0 ++ dktX3_findsTurn_1
theorem dksX3_findsTurn_0 : cX3_findsTurn.data.toList.drop 0 = dktX3_findsTurn_0 := by decide +kernel
theorem dksX3_findsTurn_1 : cX3_findsTurn.data.toList.drop 23 = dktX3_findsTurn_1 := dk_seg dksX3_findsTurn_0 23 rfl rfl
theorem dksX3_findsTurn_2 : cX3_findsTurn.data.toList.drop 47 = dktX3_findsTurn_2 := dk_seg dksX3_findsTurn_1 24 rfl rfl
theorem dksX3_findsTurn_3 : cX3_findsTurn.data.toList.drop 71 = dktX3_findsTurn_3 := dk_seg dksX3_findsTurn_2 24 rfl rfl
theorem dX3_findsTurn_0 : decode cX3_findsTurn 0 = .ok (.aload_n 0, 1) := dk_42 (dk_at dksX3_findsTurn_0 0 rfl rfl)
theorem dX3_findsTurn_1 : decode cX3_findsTurn 1 = .ok (.iconst 0, 1) := dk_3 (dk_at dksX3_findsTurn_0 1 rfl rfl)
theorem dX3_findsTurn_2 : decode cX3_findsTurn 2 = .ok (.putfield 248, 3) := dk_181 0 248 (dk_at dksX3_findsTurn_0 2 rfl rfl)
theorem dX3_findsTurn_5 : decode cX3_findsTurn 5 = .ok (.iconst 0, 1) := dk_3 (dk_at dksX3_findsTurn_0 5 rfl rfl)
theorem dX3_findsTurn_6 : decode cX3_findsTurn 6 = .ok (.istore_n 2, 1) := dk_61 (dk_at dksX3_findsTurn_0 6 rfl rfl)
theorem dX3_findsTurn_7 : decode cX3_findsTurn 7 = .ok (.iload_n 2, 1) := dk_28 (dk_at dksX3_findsTurn_0 7 rfl rfl)
theorem dX3_findsTurn_8 : decode cX3_findsTurn 8 = .ok (.bipush 6, 2) := dk_16 6 (dk_at dksX3_findsTurn_0 8 rfl rfl)
theorem dX3_findsTurn_10 : decode cX3_findsTurn 10 = .ok (.if_icmp .ge 16, 3) := dk_162 0 16 (dk_at dksX3_findsTurn_0 10 rfl rfl)
theorem dX3_findsTurn_13 : decode cX3_findsTurn 13 = .ok (.aload_n 0, 1) := dk_42 (dk_at dksX3_findsTurn_0 13 rfl rfl)
theorem dX3_findsTurn_14 : decode cX3_findsTurn 14 = .ok (.getfield 65, 3) := dk_180 0 65 (dk_at dksX3_findsTurn_0 14 rfl rfl)
theorem dX3_findsTurn_17 : decode cX3_findsTurn 17 = .ok (.iload_n 2, 1) := dk_28 (dk_at dksX3_findsTurn_0 17 rfl rfl)
theorem dX3_findsTurn_18 : decode cX3_findsTurn 18 = .ok (.iconst 0, 1) := dk_3 (dk_at dksX3_findsTurn_0 18 rfl rfl)
theorem dX3_findsTurn_19 : decode cX3_findsTurn 19 = .ok (.iastore, 1) := dk_79 (dk_at dksX3_findsTurn_0 19 rfl rfl)
theorem dX3_findsTurn_20 : decode cX3_findsTurn 20 = .ok (.iinc 2 1, 3) := dk_132 2 1 (dk_at dksX3_findsTurn_0 20 rfl rfl)
theorem dX3_findsTurn_23 : decode cX3_findsTurn 23 = .ok (.goto (-16), 3) := dk_167 255 240 (dk_at dksX3_findsTurn_1 0 rfl rfl)
theorem dX3_findsTurn_26 : decode cX3_findsTurn 26 = .ok (.iconst 1, 1) := dk_4 (dk_at dksX3_findsTurn_1 3 rfl rfl)
theorem dX3_findsTurn_27 : decode cX3_findsTurn 27 = .ok (.istore_n 2, 1) := dk_61 (dk_at dksX3_findsTurn_1 4 rfl rfl)
theorem dX3_findsTurn_28 : decode cX3_findsTurn 28 = .ok (.iconst 0, 1) := dk_3 (dk_at dksX3_findsTurn_1 5 rfl rfl)
theorem dX3_findsTurn_29 : decode cX3_findsTurn 29 = .ok (.istore_n 3, 1) := dk_62 (dk_at dksX3_findsTurn_1 6 rfl rfl)
theorem dX3_findsTurn_30 : decode cX3_findsTurn 30 = .ok (.iload_n 3, 1) := dk_29 (dk_at dksX3_findsTurn_1 7 rfl rfl)
theorem dX3_findsTurn_31 : decode cX3_findsTurn 31 = .ok (.aload_n 0, 1) := dk_42 (dk_at dksX3_findsTurn_1 8 rfl rfl)
theorem dX3_findsTurn_32 : decode cX3_findsTurn 32 = .ok (.getfield 171, 3) := dk_180 0 171 (dk_at dksX3_findsTurn_1 9 rfl rfl)
theorem dX3_findsTurn_35 : decode cX3_findsTurn 35 = .ok (.if_icmp .ge 55, 3) := dk_162 0 55 (dk_at dksX3_findsTurn_1 12 rfl rfl)
theorem dX3_findsTurn_38 : decode cX3_findsTurn 38 = .ok (.iload_n 2, 1) := dk_28 (dk_at dksX3_findsTurn_1 15 rfl rfl)
theorem dX3_findsTurn_39 : decode cX3_findsTurn 39 = .ok (.ifCond .eq 51, 3) := dk_153 0 51 (dk_at dksX3_findsTurn_1 16 rfl rfl)
theorem dX3_findsTurn_42 : decode cX3_findsTurn 42 = .ok (.iconst 0, 1) := dk_3 (dk_at dksX3_findsTurn_1 19 rfl rfl)
theorem dX3_findsTurn_43 : decode cX3_findsTurn 43 = .ok (.istore 4, 2) := dk_54 4 (dk_at dksX3_findsTurn_1 20 rfl rfl)
theorem dX3_findsTurn_45 : decode cX3_findsTurn 45 = .ok (.iload 4, 2) := dk_21 4 (dk_at dksX3_findsTurn_1 22 rfl rfl)
theorem dX3_findsTurn_47 : decode cX3_findsTurn 47 = .ok (.aload_n 0, 1) := dk_42 (dk_at dksX3_findsTurn_2 0 rfl rfl)
theorem dX3_findsTurn_48 : decode cX3_findsTurn 48 = .ok (.getfield 29, 3) := dk_180 0 29 (dk_at dksX3_findsTurn_2 1 rfl rfl)
theorem dX3_findsTurn_51 : decode cX3_findsTurn 51 = .ok (.iload_n 3, 1) := dk_29 (dk_at dksX3_findsTurn_2 4 rfl rfl)
theorem dX3_findsTurn_52 : decode cX3_findsTurn 52 = .ok (.iaload, 1) := dk_46 (dk_at dksX3_findsTurn_2 5 rfl rfl)
theorem dX3_findsTurn_53 : decode cX3_findsTurn 53 = .ok (.if_icmp .ge 31, 3) := dk_162 0 31 (dk_at dksX3_findsTurn_2 6 rfl rfl)
theorem dX3_findsTurn_56 : decode cX3_findsTurn 56 = .ok (.iload_n 2, 1) := dk_28 (dk_at dksX3_findsTurn_2 9 rfl rfl)
theorem dX3_findsTurn_57 : decode cX3_findsTurn 57 = .ok (.ifCond .eq 27, 3) := dk_153 0 27 (dk_at dksX3_findsTurn_2 10 rfl rfl)
theorem dX3_findsTurn_60 : decode cX3_findsTurn 60 = .ok (.aload_n 0, 1) := dk_42 (dk_at dksX3_findsTurn_2 13 rfl rfl)
theorem dX3_findsTurn_61 : decode cX3_findsTurn 61 = .ok (.iload_n 3, 1) := dk_29 (dk_at dksX3_findsTurn_2 14 rfl rfl)
theorem dX3_findsTurn_62 : decode cX3_findsTurn 62 = .ok (.iload_n 1, 1) := dk_27 (dk_at dksX3_findsTurn_2 15 rfl rfl)
theorem dX3_findsTurn_63 : decode cX3_findsTurn 63 = .ok (.invokevirtual 177, 3) := dk_182 0 177 (dk_at dksX3_findsTurn_2 16 rfl rfl)
theorem dX3_findsTurn_66 : decode cX3_findsTurn 66 = .ok (.ifCond .eq 18, 3) := dk_153 0 18 (dk_at dksX3_findsTurn_2 19 rfl rfl)
theorem dX3_findsTurn_69 : decode cX3_findsTurn 69 = .ok (.aload_n 0, 1) := dk_42 (dk_at dksX3_findsTurn_2 22 rfl rfl)
theorem dX3_findsTurn_70 : decode cX3_findsTurn 70 = .ok (.iload_n 3, 1) := dk_29 (dk_at dksX3_findsTurn_2 23 rfl rfl)
theorem dX3_findsTurn_71 : decode cX3_findsTurn 71 = .ok (.iload_n 1, 1) := dk_27 (dk_at dksX3_findsTurn_3 0 rfl rfl)
theorem dX3_findsTurn_72 : decode cX3_findsTurn 72 = .ok (.iload 4, 2) := dk_21 4 (dk_at dksX3_findsTurn_3 1 rfl rfl)
theorem dX3_findsTurn_74 : decode cX3_findsTurn 74 = .ok (.invokevirtual 252, 3) := dk_182 0 252 (dk_at dksX3_findsTurn_3 3 rfl rfl)
theorem dX3_findsTurn_77 : decode cX3_findsTurn 77 = .ok (.istore_n 2, 1) := dk_61 (dk_at dksX3_findsTurn_3 6 rfl rfl)
theorem dX3_findsTurn_78 : decode cX3_findsTurn 78 = .ok (.iinc 4 1, 3) := dk_132 4 1 (dk_at dksX3_findsTurn_3 7 rfl rfl)
theorem dX3_findsTurn_81 : decode cX3_findsTurn 81 = .ok (.goto (-36), 3) := dk_167 255 220 (dk_at dksX3_findsTurn_3 10 rfl rfl)
theorem dX3_findsTurn_84 : decode cX3_findsTurn 84 = .ok (.iinc 3 1, 3) := dk_132 3 1 (dk_at dksX3_findsTurn_3 13 rfl rfl)
theorem dX3_findsTurn_87 : decode cX3_findsTurn 87 = .ok (.goto (-57), 3) := dk_167 255 199 (dk_at dksX3_findsTurn_3 16 rfl rfl)
theorem dX3_findsTurn_90 : decode cX3_findsTurn 90 = .ok (.return_, 1) := dk_177 (dk_at dksX3_findsTurn_3 19 rfl rfl)
abbrev cX3_knows : ByteArray := prog_18_method_57_code
def yX3_knows : MethodName := ⟨RX3, "knows", "(III)Z"⟩
def dkwX3_knows_7 : List UInt8 := [21, 4, 128, 79, 21, 4, 153, 0, 7, 4, 167, 0, 4, 3, 172]
abbrev dktX3_knows_7 : List UInt8 := dkwX3_knows_7 ++ []
def dkwX3_knows_6 : List UInt8 := [21, 4, 128, 79, 42, 180, 0, 65, 21, 5, 92, 46, 21, 6, 16, 10, 160, 0, 7, 3, 167, 0, 5]
abbrev dktX3_knows_6 : List UInt8 := dkwX3_knows_6 ++ dktX3_knows_7
def dkwX3_knows_5 : List UInt8 := [96, 21, 5, 96, 92, 46, 21, 6, 16, 10, 159, 0, 10, 42, 180, 0, 248, 153, 0, 7, 3, 167, 0, 5]
abbrev dktX3_knows_5 : List UInt8 := dkwX3_knows_5 ++ dktX3_knows_6
def dkwX3_knows_4 : List UInt8 := [28, 104, 16, 6, 96, 21, 5, 96, 92, 46, 21, 4, 128, 79, 42, 180, 0, 62, 16, 24, 28, 104, 16, 12]
abbrev dktX3_knows_4 : List UInt8 := dkwX3_knows_4 ++ dktX3_knows_5
def dkwX3_knows_3 : List UInt8 := [153, 0, 14, 21, 6, 16, 11, 161, 0, 7, 4, 167, 0, 4, 3, 181, 0, 248, 42, 180, 0, 62, 16, 24]
abbrev dktX3_knows_3 : List UInt8 := dkwX3_knows_3 ++ dktX3_knows_4
def dkwX3_knows_2 : List UInt8 := [27, 104, 46, 54, 5, 42, 180, 0, 26, 27, 46, 54, 6, 42, 42, 180, 0, 248, 154, 0, 15, 21, 4]
abbrev dktX3_knows_2 : List UInt8 := dkwX3_knows_2 ++ dktX3_knows_3
def dkwX3_knows_1 : List UInt8 := [182, 0, 245, 154, 0, 5, 3, 172, 42, 6, 27, 104, 28, 29, 182, 0, 242, 54, 4, 42, 180, 0, 41, 6]
abbrev dktX3_knows_1 : List UInt8 := dkwX3_knows_1 ++ dktX3_knows_2
def dkwX3_knows_0 : List UInt8 := [42, 6, 27, 104, 4, 96, 28, 29, 182, 0, 245, 153, 0, 17, 42, 6, 27, 104, 5, 96, 28, 29]
abbrev dktX3_knows_0 : List UInt8 := dkwX3_knows_0 ++ dktX3_knows_1
theorem dksX3_knows_0 : cX3_knows.data.toList.drop 0 = dktX3_knows_0 := by decide +kernel
theorem dksX3_knows_1 : cX3_knows.data.toList.drop 22 = dktX3_knows_1 := dk_seg dksX3_knows_0 22 rfl rfl
theorem dksX3_knows_2 : cX3_knows.data.toList.drop 46 = dktX3_knows_2 := dk_seg dksX3_knows_1 24 rfl rfl
theorem dksX3_knows_3 : cX3_knows.data.toList.drop 69 = dktX3_knows_3 := dk_seg dksX3_knows_2 23 rfl rfl
theorem dksX3_knows_4 : cX3_knows.data.toList.drop 93 = dktX3_knows_4 := dk_seg dksX3_knows_3 24 rfl rfl
theorem dksX3_knows_5 : cX3_knows.data.toList.drop 117 = dktX3_knows_5 := dk_seg dksX3_knows_4 24 rfl rfl
theorem dksX3_knows_6 : cX3_knows.data.toList.drop 141 = dktX3_knows_6 := dk_seg dksX3_knows_5 24 rfl rfl
theorem dksX3_knows_7 : cX3_knows.data.toList.drop 164 = dktX3_knows_7 := dk_seg dksX3_knows_6 23 rfl rfl
theorem dX3_knows_0 : decode cX3_knows 0 = .ok (.aload_n 0, 1) := dk_42 (dk_at dksX3_knows_0 0 rfl rfl)
theorem dX3_knows_1 : decode cX3_knows 1 = .ok (.iconst 3, 1) := dk_6 (dk_at dksX3_knows_0 1 rfl rfl)
theorem dX3_knows_2 : decode cX3_knows 2 = .ok (.iload_n 1, 1) := dk_27 (dk_at dksX3_knows_0 2 rfl rfl)
theorem dX3_knows_3 : decode cX3_knows 3 = .ok (.imul, 1) := dk_104 (dk_at dksX3_knows_0 3 rfl rfl)
theorem dX3_knows_4 : decode cX3_knows 4 = .ok (.iconst 1, 1) := dk_4 (dk_at dksX3_knows_0 4 rfl rfl)
theorem dX3_knows_5 : decode cX3_knows 5 = .ok (.iadd, 1) := dk_96 (dk_at dksX3_knows_0 5 rfl rfl)
theorem dX3_knows_6 : decode cX3_knows 6 = .ok (.iload_n 2, 1) := dk_28 (dk_at dksX3_knows_0 6 rfl rfl)
theorem dX3_knows_7 : decode cX3_knows 7 = .ok (.iload_n 3, 1) := dk_29 (dk_at dksX3_knows_0 7 rfl rfl)
theorem dX3_knows_8 : decode cX3_knows 8 = .ok (.invokevirtual 245, 3) := dk_182 0 245 (dk_at dksX3_knows_0 8 rfl rfl)
theorem dX3_knows_11 : decode cX3_knows 11 = .ok (.ifCond .eq 17, 3) := dk_153 0 17 (dk_at dksX3_knows_0 11 rfl rfl)
theorem dX3_knows_14 : decode cX3_knows 14 = .ok (.aload_n 0, 1) := dk_42 (dk_at dksX3_knows_0 14 rfl rfl)
theorem dX3_knows_15 : decode cX3_knows 15 = .ok (.iconst 3, 1) := dk_6 (dk_at dksX3_knows_0 15 rfl rfl)
theorem dX3_knows_16 : decode cX3_knows 16 = .ok (.iload_n 1, 1) := dk_27 (dk_at dksX3_knows_0 16 rfl rfl)
theorem dX3_knows_17 : decode cX3_knows 17 = .ok (.imul, 1) := dk_104 (dk_at dksX3_knows_0 17 rfl rfl)
theorem dX3_knows_18 : decode cX3_knows 18 = .ok (.iconst 2, 1) := dk_5 (dk_at dksX3_knows_0 18 rfl rfl)
theorem dX3_knows_19 : decode cX3_knows 19 = .ok (.iadd, 1) := dk_96 (dk_at dksX3_knows_0 19 rfl rfl)
theorem dX3_knows_20 : decode cX3_knows 20 = .ok (.iload_n 2, 1) := dk_28 (dk_at dksX3_knows_0 20 rfl rfl)
theorem dX3_knows_21 : decode cX3_knows 21 = .ok (.iload_n 3, 1) := dk_29 (dk_at dksX3_knows_0 21 rfl rfl)
theorem dX3_knows_22 : decode cX3_knows 22 = .ok (.invokevirtual 245, 3) := dk_182 0 245 (dk_at dksX3_knows_1 0 rfl rfl)
theorem dX3_knows_25 : decode cX3_knows 25 = .ok (.ifCond .ne 5, 3) := dk_154 0 5 (dk_at dksX3_knows_1 3 rfl rfl)
theorem dX3_knows_28 : decode cX3_knows 28 = .ok (.iconst 0, 1) := dk_3 (dk_at dksX3_knows_1 6 rfl rfl)
theorem dX3_knows_29 : decode cX3_knows 29 = .ok (.ireturn, 1) := dk_172 (dk_at dksX3_knows_1 7 rfl rfl)
theorem dX3_knows_30 : decode cX3_knows 30 = .ok (.aload_n 0, 1) := dk_42 (dk_at dksX3_knows_1 8 rfl rfl)
theorem dX3_knows_31 : decode cX3_knows 31 = .ok (.iconst 3, 1) := dk_6 (dk_at dksX3_knows_1 9 rfl rfl)
theorem dX3_knows_32 : decode cX3_knows 32 = .ok (.iload_n 1, 1) := dk_27 (dk_at dksX3_knows_1 10 rfl rfl)
theorem dX3_knows_33 : decode cX3_knows 33 = .ok (.imul, 1) := dk_104 (dk_at dksX3_knows_1 11 rfl rfl)
theorem dX3_knows_34 : decode cX3_knows 34 = .ok (.iload_n 2, 1) := dk_28 (dk_at dksX3_knows_1 12 rfl rfl)
theorem dX3_knows_35 : decode cX3_knows 35 = .ok (.iload_n 3, 1) := dk_29 (dk_at dksX3_knows_1 13 rfl rfl)
theorem dX3_knows_36 : decode cX3_knows 36 = .ok (.invokevirtual 242, 3) := dk_182 0 242 (dk_at dksX3_knows_1 14 rfl rfl)
theorem dX3_knows_39 : decode cX3_knows 39 = .ok (.istore 4, 2) := dk_54 4 (dk_at dksX3_knows_1 17 rfl rfl)
theorem dX3_knows_41 : decode cX3_knows 41 = .ok (.aload_n 0, 1) := dk_42 (dk_at dksX3_knows_1 19 rfl rfl)
theorem dX3_knows_42 : decode cX3_knows 42 = .ok (.getfield 41, 3) := dk_180 0 41 (dk_at dksX3_knows_1 20 rfl rfl)
theorem dX3_knows_45 : decode cX3_knows 45 = .ok (.iconst 3, 1) := dk_6 (dk_at dksX3_knows_1 23 rfl rfl)
theorem dX3_knows_46 : decode cX3_knows 46 = .ok (.iload_n 1, 1) := dk_27 (dk_at dksX3_knows_2 0 rfl rfl)
theorem dX3_knows_47 : decode cX3_knows 47 = .ok (.imul, 1) := dk_104 (dk_at dksX3_knows_2 1 rfl rfl)
theorem dX3_knows_48 : decode cX3_knows 48 = .ok (.iaload, 1) := dk_46 (dk_at dksX3_knows_2 2 rfl rfl)
theorem dX3_knows_49 : decode cX3_knows 49 = .ok (.istore 5, 2) := dk_54 5 (dk_at dksX3_knows_2 3 rfl rfl)
theorem dX3_knows_51 : decode cX3_knows 51 = .ok (.aload_n 0, 1) := dk_42 (dk_at dksX3_knows_2 5 rfl rfl)
theorem dX3_knows_52 : decode cX3_knows 52 = .ok (.getfield 26, 3) := dk_180 0 26 (dk_at dksX3_knows_2 6 rfl rfl)
theorem dX3_knows_55 : decode cX3_knows 55 = .ok (.iload_n 1, 1) := dk_27 (dk_at dksX3_knows_2 9 rfl rfl)
theorem dX3_knows_56 : decode cX3_knows 56 = .ok (.iaload, 1) := dk_46 (dk_at dksX3_knows_2 10 rfl rfl)
theorem dX3_knows_57 : decode cX3_knows 57 = .ok (.istore 6, 2) := dk_54 6 (dk_at dksX3_knows_2 11 rfl rfl)
theorem dX3_knows_59 : decode cX3_knows 59 = .ok (.aload_n 0, 1) := dk_42 (dk_at dksX3_knows_2 13 rfl rfl)
theorem dX3_knows_60 : decode cX3_knows 60 = .ok (.aload_n 0, 1) := dk_42 (dk_at dksX3_knows_2 14 rfl rfl)
theorem dX3_knows_61 : decode cX3_knows 61 = .ok (.getfield 248, 3) := dk_180 0 248 (dk_at dksX3_knows_2 15 rfl rfl)
theorem dX3_knows_64 : decode cX3_knows 64 = .ok (.ifCond .ne 15, 3) := dk_154 0 15 (dk_at dksX3_knows_2 18 rfl rfl)
theorem dX3_knows_67 : decode cX3_knows 67 = .ok (.iload 4, 2) := dk_21 4 (dk_at dksX3_knows_2 21 rfl rfl)
theorem dX3_knows_69 : decode cX3_knows 69 = .ok (.ifCond .eq 14, 3) := dk_153 0 14 (dk_at dksX3_knows_3 0 rfl rfl)
theorem dX3_knows_72 : decode cX3_knows 72 = .ok (.iload 6, 2) := dk_21 6 (dk_at dksX3_knows_3 3 rfl rfl)
theorem dX3_knows_74 : decode cX3_knows 74 = .ok (.bipush 11, 2) := dk_16 11 (dk_at dksX3_knows_3 5 rfl rfl)
theorem dX3_knows_76 : decode cX3_knows 76 = .ok (.if_icmp .lt 7, 3) := dk_161 0 7 (dk_at dksX3_knows_3 7 rfl rfl)
theorem dX3_knows_79 : decode cX3_knows 79 = .ok (.iconst 1, 1) := dk_4 (dk_at dksX3_knows_3 10 rfl rfl)
theorem dX3_knows_80 : decode cX3_knows 80 = .ok (.goto 4, 3) := dk_167 0 4 (dk_at dksX3_knows_3 11 rfl rfl)
theorem dX3_knows_83 : decode cX3_knows 83 = .ok (.iconst 0, 1) := dk_3 (dk_at dksX3_knows_3 14 rfl rfl)
theorem dX3_knows_84 : decode cX3_knows 84 = .ok (.putfield 248, 3) := dk_181 0 248 (dk_at dksX3_knows_3 15 rfl rfl)
theorem dX3_knows_87 : decode cX3_knows 87 = .ok (.aload_n 0, 1) := dk_42 (dk_at dksX3_knows_3 18 rfl rfl)
theorem dX3_knows_88 : decode cX3_knows 88 = .ok (.getfield 62, 3) := dk_180 0 62 (dk_at dksX3_knows_3 19 rfl rfl)
theorem dX3_knows_91 : decode cX3_knows 91 = .ok (.bipush 24, 2) := dk_16 24 (dk_at dksX3_knows_3 22 rfl rfl)
theorem dX3_knows_93 : decode cX3_knows 93 = .ok (.iload_n 2, 1) := dk_28 (dk_at dksX3_knows_4 0 rfl rfl)
theorem dX3_knows_94 : decode cX3_knows 94 = .ok (.imul, 1) := dk_104 (dk_at dksX3_knows_4 1 rfl rfl)
theorem dX3_knows_95 : decode cX3_knows 95 = .ok (.bipush 6, 2) := dk_16 6 (dk_at dksX3_knows_4 2 rfl rfl)
theorem dX3_knows_97 : decode cX3_knows 97 = .ok (.iadd, 1) := dk_96 (dk_at dksX3_knows_4 4 rfl rfl)
theorem dX3_knows_98 : decode cX3_knows 98 = .ok (.iload 5, 2) := dk_21 5 (dk_at dksX3_knows_4 5 rfl rfl)
theorem dX3_knows_100 : decode cX3_knows 100 = .ok (.iadd, 1) := dk_96 (dk_at dksX3_knows_4 7 rfl rfl)
theorem dX3_knows_101 : decode cX3_knows 101 = .ok (.dup2, 1) := dk_92 (dk_at dksX3_knows_4 8 rfl rfl)
theorem dX3_knows_102 : decode cX3_knows 102 = .ok (.iaload, 1) := dk_46 (dk_at dksX3_knows_4 9 rfl rfl)
theorem dX3_knows_103 : decode cX3_knows 103 = .ok (.iload 4, 2) := dk_21 4 (dk_at dksX3_knows_4 10 rfl rfl)
theorem dX3_knows_105 : decode cX3_knows 105 = .ok (.ior, 1) := dk_128 (dk_at dksX3_knows_4 12 rfl rfl)
theorem dX3_knows_106 : decode cX3_knows 106 = .ok (.iastore, 1) := dk_79 (dk_at dksX3_knows_4 13 rfl rfl)
theorem dX3_knows_107 : decode cX3_knows 107 = .ok (.aload_n 0, 1) := dk_42 (dk_at dksX3_knows_4 14 rfl rfl)
theorem dX3_knows_108 : decode cX3_knows 108 = .ok (.getfield 62, 3) := dk_180 0 62 (dk_at dksX3_knows_4 15 rfl rfl)
theorem dX3_knows_111 : decode cX3_knows 111 = .ok (.bipush 24, 2) := dk_16 24 (dk_at dksX3_knows_4 18 rfl rfl)
theorem dX3_knows_113 : decode cX3_knows 113 = .ok (.iload_n 2, 1) := dk_28 (dk_at dksX3_knows_4 20 rfl rfl)
theorem dX3_knows_114 : decode cX3_knows 114 = .ok (.imul, 1) := dk_104 (dk_at dksX3_knows_4 21 rfl rfl)
theorem dX3_knows_115 : decode cX3_knows 115 = .ok (.bipush 12, 2) := dk_16 12 (dk_at dksX3_knows_4 22 rfl rfl)
theorem dX3_knows_117 : decode cX3_knows 117 = .ok (.iadd, 1) := dk_96 (dk_at dksX3_knows_5 0 rfl rfl)
theorem dX3_knows_118 : decode cX3_knows 118 = .ok (.iload 5, 2) := dk_21 5 (dk_at dksX3_knows_5 1 rfl rfl)
theorem dX3_knows_120 : decode cX3_knows 120 = .ok (.iadd, 1) := dk_96 (dk_at dksX3_knows_5 3 rfl rfl)
theorem dX3_knows_121 : decode cX3_knows 121 = .ok (.dup2, 1) := dk_92 (dk_at dksX3_knows_5 4 rfl rfl)
theorem dX3_knows_122 : decode cX3_knows 122 = .ok (.iaload, 1) := dk_46 (dk_at dksX3_knows_5 5 rfl rfl)
theorem dX3_knows_123 : decode cX3_knows 123 = .ok (.iload 6, 2) := dk_21 6 (dk_at dksX3_knows_5 6 rfl rfl)
theorem dX3_knows_125 : decode cX3_knows 125 = .ok (.bipush 10, 2) := dk_16 10 (dk_at dksX3_knows_5 8 rfl rfl)
theorem dX3_knows_127 : decode cX3_knows 127 = .ok (.if_icmp .eq 10, 3) := dk_159 0 10 (dk_at dksX3_knows_5 10 rfl rfl)
theorem dX3_knows_130 : decode cX3_knows 130 = .ok (.aload_n 0, 1) := dk_42 (dk_at dksX3_knows_5 13 rfl rfl)
theorem dX3_knows_131 : decode cX3_knows 131 = .ok (.getfield 248, 3) := dk_180 0 248 (dk_at dksX3_knows_5 14 rfl rfl)
theorem dX3_knows_134 : decode cX3_knows 134 = .ok (.ifCond .eq 7, 3) := dk_153 0 7 (dk_at dksX3_knows_5 17 rfl rfl)
theorem dX3_knows_137 : decode cX3_knows 137 = .ok (.iconst 0, 1) := dk_3 (dk_at dksX3_knows_5 20 rfl rfl)
theorem dX3_knows_138 : decode cX3_knows 138 = .ok (.goto 5, 3) := dk_167 0 5 (dk_at dksX3_knows_5 21 rfl rfl)
theorem dX3_knows_141 : decode cX3_knows 141 = .ok (.iload 4, 2) := dk_21 4 (dk_at dksX3_knows_6 0 rfl rfl)
theorem dX3_knows_143 : decode cX3_knows 143 = .ok (.ior, 1) := dk_128 (dk_at dksX3_knows_6 2 rfl rfl)
theorem dX3_knows_144 : decode cX3_knows 144 = .ok (.iastore, 1) := dk_79 (dk_at dksX3_knows_6 3 rfl rfl)
theorem dX3_knows_145 : decode cX3_knows 145 = .ok (.aload_n 0, 1) := dk_42 (dk_at dksX3_knows_6 4 rfl rfl)
theorem dX3_knows_146 : decode cX3_knows 146 = .ok (.getfield 65, 3) := dk_180 0 65 (dk_at dksX3_knows_6 5 rfl rfl)
theorem dX3_knows_149 : decode cX3_knows 149 = .ok (.iload 5, 2) := dk_21 5 (dk_at dksX3_knows_6 8 rfl rfl)
theorem dX3_knows_151 : decode cX3_knows 151 = .ok (.dup2, 1) := dk_92 (dk_at dksX3_knows_6 10 rfl rfl)
theorem dX3_knows_152 : decode cX3_knows 152 = .ok (.iaload, 1) := dk_46 (dk_at dksX3_knows_6 11 rfl rfl)
theorem dX3_knows_153 : decode cX3_knows 153 = .ok (.iload 6, 2) := dk_21 6 (dk_at dksX3_knows_6 12 rfl rfl)
theorem dX3_knows_155 : decode cX3_knows 155 = .ok (.bipush 10, 2) := dk_16 10 (dk_at dksX3_knows_6 14 rfl rfl)
theorem dX3_knows_157 : decode cX3_knows 157 = .ok (.if_icmp .ne 7, 3) := dk_160 0 7 (dk_at dksX3_knows_6 16 rfl rfl)
theorem dX3_knows_160 : decode cX3_knows 160 = .ok (.iconst 0, 1) := dk_3 (dk_at dksX3_knows_6 19 rfl rfl)
theorem dX3_knows_161 : decode cX3_knows 161 = .ok (.goto 5, 3) := dk_167 0 5 (dk_at dksX3_knows_6 20 rfl rfl)
theorem dX3_knows_164 : decode cX3_knows 164 = .ok (.iload 4, 2) := dk_21 4 (dk_at dksX3_knows_7 0 rfl rfl)
theorem dX3_knows_166 : decode cX3_knows 166 = .ok (.ior, 1) := dk_128 (dk_at dksX3_knows_7 2 rfl rfl)
theorem dX3_knows_167 : decode cX3_knows 167 = .ok (.iastore, 1) := dk_79 (dk_at dksX3_knows_7 3 rfl rfl)
theorem dX3_knows_168 : decode cX3_knows 168 = .ok (.iload 4, 2) := dk_21 4 (dk_at dksX3_knows_7 4 rfl rfl)
theorem dX3_knows_170 : decode cX3_knows 170 = .ok (.ifCond .eq 7, 3) := dk_153 0 7 (dk_at dksX3_knows_7 6 rfl rfl)
theorem dX3_knows_173 : decode cX3_knows 173 = .ok (.iconst 1, 1) := dk_4 (dk_at dksX3_knows_7 9 rfl rfl)
theorem dX3_knows_174 : decode cX3_knows 174 = .ok (.goto 4, 3) := dk_167 0 4 (dk_at dksX3_knows_7 10 rfl rfl)
theorem dX3_knows_177 : decode cX3_knows 177 = .ok (.iconst 0, 1) := dk_3 (dk_at dksX3_knows_7 13 rfl rfl)
theorem dX3_knows_178 : decode cX3_knows 178 = .ok (.ireturn, 1) := dk_172 (dk_at dksX3_knows_7 14 rfl rfl)
abbrev cX3_reads : ByteArray := prog_18_method_56_code
def yX3_reads : MethodName := ⟨RX3, "reads", "(III)Z"⟩
def dkwX3_reads_3 : List UInt8 := [128, 79, 21, 4, 153, 0, 7, 4, 167, 0, 4, 3, 172]
abbrev dktX3_reads_3 : List UInt8 := dkwX3_reads_3 ++ []
def dkwX3_reads_2 : List UInt8 := [16, 24, 28, 104, 16, 18, 96, 21, 5, 96, 92, 46, 21, 4, 42, 180, 0, 65, 21, 5, 46, 2, 130, 126]
abbrev dktX3_reads_2 : List UInt8 := dkwX3_reads_2 ++ dktX3_reads_3
def dkwX3_reads_1 : List UInt8 := [46, 54, 5, 42, 180, 0, 62, 16, 24, 28, 104, 21, 5, 96, 92, 46, 21, 4, 128, 79, 42, 180, 0, 62]
abbrev dktX3_reads_1 : List UInt8 := dkwX3_reads_1 ++ dktX3_reads_2
def dkwX3_reads_0 : List UInt8 := [42, 27, 182, 0, 228, 154, 0, 5, 4, 172, 42, 27, 28, 29, 182, 0, 242, 54, 4, 42, 180, 0, 41, 27]
abbrev dktX3_reads_0 : List UInt8 := dkwX3_reads_0 ++ dktX3_reads_1
theorem dksX3_reads_0 : cX3_reads.data.toList.drop 0 = dktX3_reads_0 := by decide +kernel
theorem dksX3_reads_1 : cX3_reads.data.toList.drop 24 = dktX3_reads_1 := dk_seg dksX3_reads_0 24 rfl rfl
theorem dksX3_reads_2 : cX3_reads.data.toList.drop 48 = dktX3_reads_2 := dk_seg dksX3_reads_1 24 rfl rfl
theorem dksX3_reads_3 : cX3_reads.data.toList.drop 72 = dktX3_reads_3 := dk_seg dksX3_reads_2 24 rfl rfl
theorem dX3_reads_0 : decode cX3_reads 0 = .ok (.aload_n 0, 1) := dk_42 (dk_at dksX3_reads_0 0 rfl rfl)
theorem dX3_reads_1 : decode cX3_reads 1 = .ok (.iload_n 1, 1) := dk_27 (dk_at dksX3_reads_0 1 rfl rfl)
theorem dX3_reads_2 : decode cX3_reads 2 = .ok (.invokevirtual 228, 3) := dk_182 0 228 (dk_at dksX3_reads_0 2 rfl rfl)
theorem dX3_reads_5 : decode cX3_reads 5 = .ok (.ifCond .ne 5, 3) := dk_154 0 5 (dk_at dksX3_reads_0 5 rfl rfl)
theorem dX3_reads_8 : decode cX3_reads 8 = .ok (.iconst 1, 1) := dk_4 (dk_at dksX3_reads_0 8 rfl rfl)
theorem dX3_reads_9 : decode cX3_reads 9 = .ok (.ireturn, 1) := dk_172 (dk_at dksX3_reads_0 9 rfl rfl)
theorem dX3_reads_10 : decode cX3_reads 10 = .ok (.aload_n 0, 1) := dk_42 (dk_at dksX3_reads_0 10 rfl rfl)
theorem dX3_reads_11 : decode cX3_reads 11 = .ok (.iload_n 1, 1) := dk_27 (dk_at dksX3_reads_0 11 rfl rfl)
theorem dX3_reads_12 : decode cX3_reads 12 = .ok (.iload_n 2, 1) := dk_28 (dk_at dksX3_reads_0 12 rfl rfl)
theorem dX3_reads_13 : decode cX3_reads 13 = .ok (.iload_n 3, 1) := dk_29 (dk_at dksX3_reads_0 13 rfl rfl)
theorem dX3_reads_14 : decode cX3_reads 14 = .ok (.invokevirtual 242, 3) := dk_182 0 242 (dk_at dksX3_reads_0 14 rfl rfl)
theorem dX3_reads_17 : decode cX3_reads 17 = .ok (.istore 4, 2) := dk_54 4 (dk_at dksX3_reads_0 17 rfl rfl)
theorem dX3_reads_19 : decode cX3_reads 19 = .ok (.aload_n 0, 1) := dk_42 (dk_at dksX3_reads_0 19 rfl rfl)
theorem dX3_reads_20 : decode cX3_reads 20 = .ok (.getfield 41, 3) := dk_180 0 41 (dk_at dksX3_reads_0 20 rfl rfl)
theorem dX3_reads_23 : decode cX3_reads 23 = .ok (.iload_n 1, 1) := dk_27 (dk_at dksX3_reads_0 23 rfl rfl)
theorem dX3_reads_24 : decode cX3_reads 24 = .ok (.iaload, 1) := dk_46 (dk_at dksX3_reads_1 0 rfl rfl)
theorem dX3_reads_25 : decode cX3_reads 25 = .ok (.istore 5, 2) := dk_54 5 (dk_at dksX3_reads_1 1 rfl rfl)
theorem dX3_reads_27 : decode cX3_reads 27 = .ok (.aload_n 0, 1) := dk_42 (dk_at dksX3_reads_1 3 rfl rfl)
theorem dX3_reads_28 : decode cX3_reads 28 = .ok (.getfield 62, 3) := dk_180 0 62 (dk_at dksX3_reads_1 4 rfl rfl)
theorem dX3_reads_31 : decode cX3_reads 31 = .ok (.bipush 24, 2) := dk_16 24 (dk_at dksX3_reads_1 7 rfl rfl)
theorem dX3_reads_33 : decode cX3_reads 33 = .ok (.iload_n 2, 1) := dk_28 (dk_at dksX3_reads_1 9 rfl rfl)
theorem dX3_reads_34 : decode cX3_reads 34 = .ok (.imul, 1) := dk_104 (dk_at dksX3_reads_1 10 rfl rfl)
theorem dX3_reads_35 : decode cX3_reads 35 = .ok (.iload 5, 2) := dk_21 5 (dk_at dksX3_reads_1 11 rfl rfl)
theorem dX3_reads_37 : decode cX3_reads 37 = .ok (.iadd, 1) := dk_96 (dk_at dksX3_reads_1 13 rfl rfl)
theorem dX3_reads_38 : decode cX3_reads 38 = .ok (.dup2, 1) := dk_92 (dk_at dksX3_reads_1 14 rfl rfl)
theorem dX3_reads_39 : decode cX3_reads 39 = .ok (.iaload, 1) := dk_46 (dk_at dksX3_reads_1 15 rfl rfl)
theorem dX3_reads_40 : decode cX3_reads 40 = .ok (.iload 4, 2) := dk_21 4 (dk_at dksX3_reads_1 16 rfl rfl)
theorem dX3_reads_42 : decode cX3_reads 42 = .ok (.ior, 1) := dk_128 (dk_at dksX3_reads_1 18 rfl rfl)
theorem dX3_reads_43 : decode cX3_reads 43 = .ok (.iastore, 1) := dk_79 (dk_at dksX3_reads_1 19 rfl rfl)
theorem dX3_reads_44 : decode cX3_reads 44 = .ok (.aload_n 0, 1) := dk_42 (dk_at dksX3_reads_1 20 rfl rfl)
theorem dX3_reads_45 : decode cX3_reads 45 = .ok (.getfield 62, 3) := dk_180 0 62 (dk_at dksX3_reads_1 21 rfl rfl)
theorem dX3_reads_48 : decode cX3_reads 48 = .ok (.bipush 24, 2) := dk_16 24 (dk_at dksX3_reads_2 0 rfl rfl)
theorem dX3_reads_50 : decode cX3_reads 50 = .ok (.iload_n 2, 1) := dk_28 (dk_at dksX3_reads_2 2 rfl rfl)
theorem dX3_reads_51 : decode cX3_reads 51 = .ok (.imul, 1) := dk_104 (dk_at dksX3_reads_2 3 rfl rfl)
theorem dX3_reads_52 : decode cX3_reads 52 = .ok (.bipush 18, 2) := dk_16 18 (dk_at dksX3_reads_2 4 rfl rfl)
theorem dX3_reads_54 : decode cX3_reads 54 = .ok (.iadd, 1) := dk_96 (dk_at dksX3_reads_2 6 rfl rfl)
theorem dX3_reads_55 : decode cX3_reads 55 = .ok (.iload 5, 2) := dk_21 5 (dk_at dksX3_reads_2 7 rfl rfl)
theorem dX3_reads_57 : decode cX3_reads 57 = .ok (.iadd, 1) := dk_96 (dk_at dksX3_reads_2 9 rfl rfl)
theorem dX3_reads_58 : decode cX3_reads 58 = .ok (.dup2, 1) := dk_92 (dk_at dksX3_reads_2 10 rfl rfl)
theorem dX3_reads_59 : decode cX3_reads 59 = .ok (.iaload, 1) := dk_46 (dk_at dksX3_reads_2 11 rfl rfl)
theorem dX3_reads_60 : decode cX3_reads 60 = .ok (.iload 4, 2) := dk_21 4 (dk_at dksX3_reads_2 12 rfl rfl)
theorem dX3_reads_62 : decode cX3_reads 62 = .ok (.aload_n 0, 1) := dk_42 (dk_at dksX3_reads_2 14 rfl rfl)
theorem dX3_reads_63 : decode cX3_reads 63 = .ok (.getfield 65, 3) := dk_180 0 65 (dk_at dksX3_reads_2 15 rfl rfl)
theorem dX3_reads_66 : decode cX3_reads 66 = .ok (.iload 5, 2) := dk_21 5 (dk_at dksX3_reads_2 18 rfl rfl)
theorem dX3_reads_68 : decode cX3_reads 68 = .ok (.iaload, 1) := dk_46 (dk_at dksX3_reads_2 20 rfl rfl)
theorem dX3_reads_69 : decode cX3_reads 69 = .ok (.iconst (-1), 1) := dk_2 (dk_at dksX3_reads_2 21 rfl rfl)
theorem dX3_reads_70 : decode cX3_reads 70 = .ok (.ixor, 1) := dk_130 (dk_at dksX3_reads_2 22 rfl rfl)
theorem dX3_reads_71 : decode cX3_reads 71 = .ok (.iand, 1) := dk_126 (dk_at dksX3_reads_2 23 rfl rfl)
theorem dX3_reads_72 : decode cX3_reads 72 = .ok (.ior, 1) := dk_128 (dk_at dksX3_reads_3 0 rfl rfl)
theorem dX3_reads_73 : decode cX3_reads 73 = .ok (.iastore, 1) := dk_79 (dk_at dksX3_reads_3 1 rfl rfl)
theorem dX3_reads_74 : decode cX3_reads 74 = .ok (.iload 4, 2) := dk_21 4 (dk_at dksX3_reads_3 2 rfl rfl)
theorem dX3_reads_76 : decode cX3_reads 76 = .ok (.ifCond .eq 7, 3) := dk_153 0 7 (dk_at dksX3_reads_3 4 rfl rfl)
theorem dX3_reads_79 : decode cX3_reads 79 = .ok (.iconst 1, 1) := dk_4 (dk_at dksX3_reads_3 7 rfl rfl)
theorem dX3_reads_80 : decode cX3_reads 80 = .ok (.goto 4, 3) := dk_167 0 4 (dk_at dksX3_reads_3 8 rfl rfl)
theorem dX3_reads_83 : decode cX3_reads 83 = .ok (.iconst 0, 1) := dk_3 (dk_at dksX3_reads_3 11 rfl rfl)
theorem dX3_reads_84 : decode cX3_reads 84 = .ok (.ireturn, 1) := dk_172 (dk_at dksX3_reads_3 12 rfl rfl)
abbrev cX3_bitAt : ByteArray := prog_18_method_55_code
def yX3_bitAt : MethodName := ⟨RX3, "bitAt", "(III)I"⟩
def dkwX3_bitAt_2 : List UInt8 := [4, 21, 5, 120, 167, 0, 4, 3, 172]
abbrev dktX3_bitAt_2 : List UInt8 := dkwX3_bitAt_2 ++ []
def dkwX3_bitAt_1 : List UInt8 := [184, 0, 185, 153, 0, 28, 21, 5, 3, 42, 180, 0, 13, 21, 4, 46, 4, 100, 184, 0, 114, 153, 0, 10]
abbrev dktX3_bitAt_1 : List UInt8 := dkwX3_bitAt_1 ++ dktX3_bitAt_2
def dkwX3_bitAt_0 : List UInt8 := [42, 180, 0, 41, 27, 46, 54, 4, 42, 27, 28, 29, 182, 0, 200, 54, 5, 42, 180, 0, 7, 21, 4, 46]
abbrev dktX3_bitAt_0 : List UInt8 := dkwX3_bitAt_0 ++ dktX3_bitAt_1
theorem dksX3_bitAt_0 : cX3_bitAt.data.toList.drop 0 = dktX3_bitAt_0 := by decide +kernel
theorem dksX3_bitAt_1 : cX3_bitAt.data.toList.drop 24 = dktX3_bitAt_1 := dk_seg dksX3_bitAt_0 24 rfl rfl
theorem dksX3_bitAt_2 : cX3_bitAt.data.toList.drop 48 = dktX3_bitAt_2 := dk_seg dksX3_bitAt_1 24 rfl rfl
theorem dX3_bitAt_0 : decode cX3_bitAt 0 = .ok (.aload_n 0, 1) := dk_42 (dk_at dksX3_bitAt_0 0 rfl rfl)
theorem dX3_bitAt_1 : decode cX3_bitAt 1 = .ok (.getfield 41, 3) := dk_180 0 41 (dk_at dksX3_bitAt_0 1 rfl rfl)
theorem dX3_bitAt_4 : decode cX3_bitAt 4 = .ok (.iload_n 1, 1) := dk_27 (dk_at dksX3_bitAt_0 4 rfl rfl)
theorem dX3_bitAt_5 : decode cX3_bitAt 5 = .ok (.iaload, 1) := dk_46 (dk_at dksX3_bitAt_0 5 rfl rfl)
theorem dX3_bitAt_6 : decode cX3_bitAt 6 = .ok (.istore 4, 2) := dk_54 4 (dk_at dksX3_bitAt_0 6 rfl rfl)
theorem dX3_bitAt_8 : decode cX3_bitAt 8 = .ok (.aload_n 0, 1) := dk_42 (dk_at dksX3_bitAt_0 8 rfl rfl)
theorem dX3_bitAt_9 : decode cX3_bitAt 9 = .ok (.iload_n 1, 1) := dk_27 (dk_at dksX3_bitAt_0 9 rfl rfl)
theorem dX3_bitAt_10 : decode cX3_bitAt 10 = .ok (.iload_n 2, 1) := dk_28 (dk_at dksX3_bitAt_0 10 rfl rfl)
theorem dX3_bitAt_11 : decode cX3_bitAt 11 = .ok (.iload_n 3, 1) := dk_29 (dk_at dksX3_bitAt_0 11 rfl rfl)
theorem dX3_bitAt_12 : decode cX3_bitAt 12 = .ok (.invokevirtual 200, 3) := dk_182 0 200 (dk_at dksX3_bitAt_0 12 rfl rfl)
theorem dX3_bitAt_15 : decode cX3_bitAt 15 = .ok (.istore 5, 2) := dk_54 5 (dk_at dksX3_bitAt_0 15 rfl rfl)
theorem dX3_bitAt_17 : decode cX3_bitAt 17 = .ok (.aload_n 0, 1) := dk_42 (dk_at dksX3_bitAt_0 17 rfl rfl)
theorem dX3_bitAt_18 : decode cX3_bitAt 18 = .ok (.getfield 7, 3) := dk_180 0 7 (dk_at dksX3_bitAt_0 18 rfl rfl)
theorem dX3_bitAt_21 : decode cX3_bitAt 21 = .ok (.iload 4, 2) := dk_21 4 (dk_at dksX3_bitAt_0 21 rfl rfl)
theorem dX3_bitAt_23 : decode cX3_bitAt 23 = .ok (.iaload, 1) := dk_46 (dk_at dksX3_bitAt_0 23 rfl rfl)
theorem dX3_bitAt_24 : decode cX3_bitAt 24 = .ok (.invokestatic 185, 3) := dk_184 0 185 (dk_at dksX3_bitAt_1 0 rfl rfl)
theorem dX3_bitAt_27 : decode cX3_bitAt 27 = .ok (.ifCond .eq 28, 3) := dk_153 0 28 (dk_at dksX3_bitAt_1 3 rfl rfl)
theorem dX3_bitAt_30 : decode cX3_bitAt 30 = .ok (.iload 5, 2) := dk_21 5 (dk_at dksX3_bitAt_1 6 rfl rfl)
theorem dX3_bitAt_32 : decode cX3_bitAt 32 = .ok (.iconst 0, 1) := dk_3 (dk_at dksX3_bitAt_1 8 rfl rfl)
theorem dX3_bitAt_33 : decode cX3_bitAt 33 = .ok (.aload_n 0, 1) := dk_42 (dk_at dksX3_bitAt_1 9 rfl rfl)
theorem dX3_bitAt_34 : decode cX3_bitAt 34 = .ok (.getfield 13, 3) := dk_180 0 13 (dk_at dksX3_bitAt_1 10 rfl rfl)
theorem dX3_bitAt_37 : decode cX3_bitAt 37 = .ok (.iload 4, 2) := dk_21 4 (dk_at dksX3_bitAt_1 13 rfl rfl)
theorem dX3_bitAt_39 : decode cX3_bitAt 39 = .ok (.iaload, 1) := dk_46 (dk_at dksX3_bitAt_1 15 rfl rfl)
theorem dX3_bitAt_40 : decode cX3_bitAt 40 = .ok (.iconst 1, 1) := dk_4 (dk_at dksX3_bitAt_1 16 rfl rfl)
theorem dX3_bitAt_41 : decode cX3_bitAt 41 = .ok (.isub, 1) := dk_100 (dk_at dksX3_bitAt_1 17 rfl rfl)
theorem dX3_bitAt_42 : decode cX3_bitAt 42 = .ok (.invokestatic 114, 3) := dk_184 0 114 (dk_at dksX3_bitAt_1 18 rfl rfl)
theorem dX3_bitAt_45 : decode cX3_bitAt 45 = .ok (.ifCond .eq 10, 3) := dk_153 0 10 (dk_at dksX3_bitAt_1 21 rfl rfl)
theorem dX3_bitAt_48 : decode cX3_bitAt 48 = .ok (.iconst 1, 1) := dk_4 (dk_at dksX3_bitAt_2 0 rfl rfl)
theorem dX3_bitAt_49 : decode cX3_bitAt 49 = .ok (.iload 5, 2) := dk_21 5 (dk_at dksX3_bitAt_2 1 rfl rfl)
theorem dX3_bitAt_51 : decode cX3_bitAt 51 = .ok (.ishl, 1) := dk_120 (dk_at dksX3_bitAt_2 3 rfl rfl)
theorem dX3_bitAt_52 : decode cX3_bitAt 52 = .ok (.goto 4, 3) := dk_167 0 4 (dk_at dksX3_bitAt_2 4 rfl rfl)
theorem dX3_bitAt_55 : decode cX3_bitAt 55 = .ok (.iconst 0, 1) := dk_3 (dk_at dksX3_bitAt_2 7 rfl rfl)
theorem dX3_bitAt_56 : decode cX3_bitAt 56 = .ok (.ireturn, 1) := dk_172 (dk_at dksX3_bitAt_2 8 rfl rfl)
abbrev cX3_bitsOfTurn : ByteArray := prog_18_method_60_code
def yX3_bitsOfTurn : MethodName := ⟨RX3, "bitsOfTurn", "(III)I"⟩
def dkwX3_bitsOfTurn_0 : List UInt8 := [42, 180, 0, 62, 16, 24, 29, 104, 16, 6, 27, 104, 96, 28, 96, 46, 172]
abbrev dktX3_bitsOfTurn_0 : List UInt8 := dkwX3_bitsOfTurn_0 ++ []
theorem dksX3_bitsOfTurn_0 : cX3_bitsOfTurn.data.toList.drop 0 = dktX3_bitsOfTurn_0 := by decide +kernel
theorem dX3_bitsOfTurn_0 : decode cX3_bitsOfTurn 0 = .ok (.aload_n 0, 1) := dk_42 (dk_at dksX3_bitsOfTurn_0 0 rfl rfl)
theorem dX3_bitsOfTurn_1 : decode cX3_bitsOfTurn 1 = .ok (.getfield 62, 3) := dk_180 0 62 (dk_at dksX3_bitsOfTurn_0 1 rfl rfl)
theorem dX3_bitsOfTurn_4 : decode cX3_bitsOfTurn 4 = .ok (.bipush 24, 2) := dk_16 24 (dk_at dksX3_bitsOfTurn_0 4 rfl rfl)
theorem dX3_bitsOfTurn_6 : decode cX3_bitsOfTurn 6 = .ok (.iload_n 3, 1) := dk_29 (dk_at dksX3_bitsOfTurn_0 6 rfl rfl)
theorem dX3_bitsOfTurn_7 : decode cX3_bitsOfTurn 7 = .ok (.imul, 1) := dk_104 (dk_at dksX3_bitsOfTurn_0 7 rfl rfl)
theorem dX3_bitsOfTurn_8 : decode cX3_bitsOfTurn 8 = .ok (.bipush 6, 2) := dk_16 6 (dk_at dksX3_bitsOfTurn_0 8 rfl rfl)
theorem dX3_bitsOfTurn_10 : decode cX3_bitsOfTurn 10 = .ok (.iload_n 1, 1) := dk_27 (dk_at dksX3_bitsOfTurn_0 10 rfl rfl)
theorem dX3_bitsOfTurn_11 : decode cX3_bitsOfTurn 11 = .ok (.imul, 1) := dk_104 (dk_at dksX3_bitsOfTurn_0 11 rfl rfl)
theorem dX3_bitsOfTurn_12 : decode cX3_bitsOfTurn 12 = .ok (.iadd, 1) := dk_96 (dk_at dksX3_bitsOfTurn_0 12 rfl rfl)
theorem dX3_bitsOfTurn_13 : decode cX3_bitsOfTurn 13 = .ok (.iload_n 2, 1) := dk_28 (dk_at dksX3_bitsOfTurn_0 13 rfl rfl)
theorem dX3_bitsOfTurn_14 : decode cX3_bitsOfTurn 14 = .ok (.iadd, 1) := dk_96 (dk_at dksX3_bitsOfTurn_0 14 rfl rfl)
theorem dX3_bitsOfTurn_15 : decode cX3_bitsOfTurn 15 = .ok (.iaload, 1) := dk_46 (dk_at dksX3_bitsOfTurn_0 15 rfl rfl)
theorem dX3_bitsOfTurn_16 : decode cX3_bitsOfTurn 16 = .ok (.ireturn, 1) := dk_172 (dk_at dksX3_bitsOfTurn_0 16 rfl rfl)
abbrev cX3_size : ByteArray := prog_18_method_62_code
def yX3_size : MethodName := ⟨RX3, "size", "(I)I"⟩
def dkwX3_size_1 : List UInt8 := [27, 172]
abbrev dktX3_size_1 : List UInt8 := dkwX3_size_1 ++ []
def dkwX3_size_0 : List UInt8 := [3, 60, 3, 61, 28, 16, 24, 162, 0, 17, 27, 26, 28, 122, 4, 126, 96, 60, 132, 2, 1, 167, 255, 239]
abbrev dktX3_size_0 : List UInt8 := dkwX3_size_0 ++ dktX3_size_1
theorem dksX3_size_0 : cX3_size.data.toList.drop 0 = dktX3_size_0 := by decide +kernel
theorem dksX3_size_1 : cX3_size.data.toList.drop 24 = dktX3_size_1 := dk_seg dksX3_size_0 24 rfl rfl
theorem dX3_size_0 : decode cX3_size 0 = .ok (.iconst 0, 1) := dk_3 (dk_at dksX3_size_0 0 rfl rfl)
theorem dX3_size_1 : decode cX3_size 1 = .ok (.istore_n 1, 1) := dk_60 (dk_at dksX3_size_0 1 rfl rfl)
theorem dX3_size_2 : decode cX3_size 2 = .ok (.iconst 0, 1) := dk_3 (dk_at dksX3_size_0 2 rfl rfl)
theorem dX3_size_3 : decode cX3_size 3 = .ok (.istore_n 2, 1) := dk_61 (dk_at dksX3_size_0 3 rfl rfl)
theorem dX3_size_4 : decode cX3_size 4 = .ok (.iload_n 2, 1) := dk_28 (dk_at dksX3_size_0 4 rfl rfl)
theorem dX3_size_5 : decode cX3_size 5 = .ok (.bipush 24, 2) := dk_16 24 (dk_at dksX3_size_0 5 rfl rfl)
theorem dX3_size_7 : decode cX3_size 7 = .ok (.if_icmp .ge 17, 3) := dk_162 0 17 (dk_at dksX3_size_0 7 rfl rfl)
theorem dX3_size_10 : decode cX3_size 10 = .ok (.iload_n 1, 1) := dk_27 (dk_at dksX3_size_0 10 rfl rfl)
theorem dX3_size_11 : decode cX3_size 11 = .ok (.iload_n 0, 1) := dk_26 (dk_at dksX3_size_0 11 rfl rfl)
theorem dX3_size_12 : decode cX3_size 12 = .ok (.iload_n 2, 1) := dk_28 (dk_at dksX3_size_0 12 rfl rfl)
theorem dX3_size_13 : decode cX3_size 13 = .ok (.ishr, 1) := dk_122 (dk_at dksX3_size_0 13 rfl rfl)
theorem dX3_size_14 : decode cX3_size 14 = .ok (.iconst 1, 1) := dk_4 (dk_at dksX3_size_0 14 rfl rfl)
theorem dX3_size_15 : decode cX3_size 15 = .ok (.iand, 1) := dk_126 (dk_at dksX3_size_0 15 rfl rfl)
theorem dX3_size_16 : decode cX3_size 16 = .ok (.iadd, 1) := dk_96 (dk_at dksX3_size_0 16 rfl rfl)
theorem dX3_size_17 : decode cX3_size 17 = .ok (.istore_n 1, 1) := dk_60 (dk_at dksX3_size_0 17 rfl rfl)
theorem dX3_size_18 : decode cX3_size 18 = .ok (.iinc 2 1, 3) := dk_132 2 1 (dk_at dksX3_size_0 18 rfl rfl)
theorem dX3_size_21 : decode cX3_size 21 = .ok (.goto (-17), 3) := dk_167 255 239 (dk_at dksX3_size_0 21 rfl rfl)
theorem dX3_size_24 : decode cX3_size 24 = .ok (.iload_n 1, 1) := dk_27 (dk_at dksX3_size_1 0 rfl rfl)
theorem dX3_size_25 : decode cX3_size 25 = .ok (.ireturn, 1) := dk_172 (dk_at dksX3_size_1 1 rfl rfl)
abbrev cX3_pieces : ByteArray := prog_18_method_68_code
def yX3_pieces : MethodName := ⟨RX3, "pieces", "(III)I"⟩
def dkwX3_pieces_1 : List UInt8 := [16, 254, 172]
abbrev dktX3_pieces_1 : List UInt8 := dkwX3_pieces_1 ++ []
def dkwX3_pieces_0 : List UInt8 := [42, 27, 28, 29, 182, 1, 9, 153, 0, 17, 42, 42, 27, 28, 29, 182, 1, 12, 182, 1, 33, 167, 0, 5]
abbrev dktX3_pieces_0 : List UInt8 := dkwX3_pieces_0 ++ dktX3_pieces_1
theorem dksX3_pieces_0 : cX3_pieces.data.toList.drop 0 = dktX3_pieces_0 := by decide +kernel
theorem dksX3_pieces_1 : cX3_pieces.data.toList.drop 24 = dktX3_pieces_1 := dk_seg dksX3_pieces_0 24 rfl rfl
theorem dX3_pieces_0 : decode cX3_pieces 0 = .ok (.aload_n 0, 1) := dk_42 (dk_at dksX3_pieces_0 0 rfl rfl)
theorem dX3_pieces_1 : decode cX3_pieces 1 = .ok (.iload_n 1, 1) := dk_27 (dk_at dksX3_pieces_0 1 rfl rfl)
theorem dX3_pieces_2 : decode cX3_pieces 2 = .ok (.iload_n 2, 1) := dk_28 (dk_at dksX3_pieces_0 2 rfl rfl)
theorem dX3_pieces_3 : decode cX3_pieces 3 = .ok (.iload_n 3, 1) := dk_29 (dk_at dksX3_pieces_0 3 rfl rfl)
theorem dX3_pieces_4 : decode cX3_pieces 4 = .ok (.invokevirtual 265, 3) := dk_182 1 9 (dk_at dksX3_pieces_0 4 rfl rfl)
theorem dX3_pieces_7 : decode cX3_pieces 7 = .ok (.ifCond .eq 17, 3) := dk_153 0 17 (dk_at dksX3_pieces_0 7 rfl rfl)
theorem dX3_pieces_10 : decode cX3_pieces 10 = .ok (.aload_n 0, 1) := dk_42 (dk_at dksX3_pieces_0 10 rfl rfl)
theorem dX3_pieces_11 : decode cX3_pieces 11 = .ok (.aload_n 0, 1) := dk_42 (dk_at dksX3_pieces_0 11 rfl rfl)
theorem dX3_pieces_12 : decode cX3_pieces 12 = .ok (.iload_n 1, 1) := dk_27 (dk_at dksX3_pieces_0 12 rfl rfl)
theorem dX3_pieces_13 : decode cX3_pieces 13 = .ok (.iload_n 2, 1) := dk_28 (dk_at dksX3_pieces_0 13 rfl rfl)
theorem dX3_pieces_14 : decode cX3_pieces 14 = .ok (.iload_n 3, 1) := dk_29 (dk_at dksX3_pieces_0 14 rfl rfl)
theorem dX3_pieces_15 : decode cX3_pieces 15 = .ok (.invokevirtual 268, 3) := dk_182 1 12 (dk_at dksX3_pieces_0 15 rfl rfl)
theorem dX3_pieces_18 : decode cX3_pieces 18 = .ok (.invokevirtual 289, 3) := dk_182 1 33 (dk_at dksX3_pieces_0 18 rfl rfl)
theorem dX3_pieces_21 : decode cX3_pieces 21 = .ok (.goto 5, 3) := dk_167 0 5 (dk_at dksX3_pieces_0 21 rfl rfl)
theorem dX3_pieces_24 : decode cX3_pieces 24 = .ok (.bipush (-2), 2) := dk_16 254 (dk_at dksX3_pieces_1 0 rfl rfl)
theorem dX3_pieces_26 : decode cX3_pieces 26 = .ok (.ireturn, 1) := dk_172 (dk_at dksX3_pieces_1 2 rfl rfl)
abbrev cX3_piecesOf : ByteArray := prog_18_method_67_code
def yX3_piecesOf : MethodName := ⟨RX3, "piecesOf", "(I)I"⟩
def dkwX3_piecesOf_0 : List UInt8 := [3, 61, 27, 62, 29, 153, 0, 15, 42, 29, 182, 1, 30, 62, 132, 2, 1, 167, 255, 243, 28, 172]
abbrev dktX3_piecesOf_0 : List UInt8 := dkwX3_piecesOf_0 ++ []
theorem dksX3_piecesOf_0 : cX3_piecesOf.data.toList.drop 0 = dktX3_piecesOf_0 := by decide +kernel
theorem dX3_piecesOf_0 : decode cX3_piecesOf 0 = .ok (.iconst 0, 1) := dk_3 (dk_at dksX3_piecesOf_0 0 rfl rfl)
theorem dX3_piecesOf_1 : decode cX3_piecesOf 1 = .ok (.istore_n 2, 1) := dk_61 (dk_at dksX3_piecesOf_0 1 rfl rfl)
theorem dX3_piecesOf_2 : decode cX3_piecesOf 2 = .ok (.iload_n 1, 1) := dk_27 (dk_at dksX3_piecesOf_0 2 rfl rfl)
theorem dX3_piecesOf_3 : decode cX3_piecesOf 3 = .ok (.istore_n 3, 1) := dk_62 (dk_at dksX3_piecesOf_0 3 rfl rfl)
theorem dX3_piecesOf_4 : decode cX3_piecesOf 4 = .ok (.iload_n 3, 1) := dk_29 (dk_at dksX3_piecesOf_0 4 rfl rfl)
theorem dX3_piecesOf_5 : decode cX3_piecesOf 5 = .ok (.ifCond .eq 15, 3) := dk_153 0 15 (dk_at dksX3_piecesOf_0 5 rfl rfl)
theorem dX3_piecesOf_8 : decode cX3_piecesOf 8 = .ok (.aload_n 0, 1) := dk_42 (dk_at dksX3_piecesOf_0 8 rfl rfl)
theorem dX3_piecesOf_9 : decode cX3_piecesOf 9 = .ok (.iload_n 3, 1) := dk_29 (dk_at dksX3_piecesOf_0 9 rfl rfl)
theorem dX3_piecesOf_10 : decode cX3_piecesOf 10 = .ok (.invokevirtual 286, 3) := dk_182 1 30 (dk_at dksX3_piecesOf_0 10 rfl rfl)
theorem dX3_piecesOf_13 : decode cX3_piecesOf 13 = .ok (.istore_n 3, 1) := dk_62 (dk_at dksX3_piecesOf_0 13 rfl rfl)
theorem dX3_piecesOf_14 : decode cX3_piecesOf 14 = .ok (.iinc 2 1, 3) := dk_132 2 1 (dk_at dksX3_piecesOf_0 14 rfl rfl)
theorem dX3_piecesOf_17 : decode cX3_piecesOf 17 = .ok (.goto (-13), 3) := dk_167 255 243 (dk_at dksX3_piecesOf_0 17 rfl rfl)
theorem dX3_piecesOf_20 : decode cX3_piecesOf 20 = .ok (.iload_n 2, 1) := dk_28 (dk_at dksX3_piecesOf_0 20 rfl rfl)
theorem dX3_piecesOf_21 : decode cX3_piecesOf 21 = .ok (.ireturn, 1) := dk_172 (dk_at dksX3_piecesOf_0 21 rfl rfl)
abbrev cX3_without : ByteArray := prog_18_method_66_code
def yX3_without : MethodName := ⟨RX3, "without", "(I)I"⟩
def dkwX3_without_4 : List UInt8 := [54, 4, 167, 255, 211, 29, 172]
abbrev dktX3_without_4 : List UInt8 := dkwX3_without_4 ++ []
def dkwX3_without_3 : List UInt8 := [21, 4, 120, 2, 130, 126, 62, 42, 89, 180, 1, 27, 4, 96, 181, 1, 27, 21, 4, 42, 180, 1, 24, 96]
abbrev dktX3_without_3 : List UInt8 := dkwX3_without_3 ++ dktX3_without_4
def dkwX3_without_2 : List UInt8 := [180, 1, 21, 54, 4, 21, 4, 16, 24, 162, 0, 44, 27, 21, 4, 122, 4, 126, 4, 160, 0, 34, 29, 4]
abbrev dktX3_without_2 : List UInt8 := dkwX3_without_2 ++ dktX3_without_3
def dkwX3_without_1 : List UInt8 := [160, 0, 7, 4, 167, 0, 9, 28, 42, 180, 1, 21, 100, 181, 1, 24, 42, 3, 181, 1, 27, 27, 62, 42]
abbrev dktX3_without_1 : List UInt8 := dkwX3_without_1 ++ dktX3_without_2
def dkwX3_without_0 : List UInt8 := [42, 27, 3, 184, 1, 18, 181, 1, 21, 27, 42, 180, 1, 21, 4, 96, 184, 1, 18, 61, 42, 28, 2]
abbrev dktX3_without_0 : List UInt8 := dkwX3_without_0 ++ dktX3_without_1
theorem dksX3_without_0 : cX3_without.data.toList.drop 0 = dktX3_without_0 := by decide +kernel
theorem dksX3_without_1 : cX3_without.data.toList.drop 23 = dktX3_without_1 := dk_seg dksX3_without_0 23 rfl rfl
theorem dksX3_without_2 : cX3_without.data.toList.drop 47 = dktX3_without_2 := dk_seg dksX3_without_1 24 rfl rfl
theorem dksX3_without_3 : cX3_without.data.toList.drop 71 = dktX3_without_3 := dk_seg dksX3_without_2 24 rfl rfl
theorem dksX3_without_4 : cX3_without.data.toList.drop 95 = dktX3_without_4 := dk_seg dksX3_without_3 24 rfl rfl
theorem dX3_without_0 : decode cX3_without 0 = .ok (.aload_n 0, 1) := dk_42 (dk_at dksX3_without_0 0 rfl rfl)
theorem dX3_without_1 : decode cX3_without 1 = .ok (.iload_n 1, 1) := dk_27 (dk_at dksX3_without_0 1 rfl rfl)
theorem dX3_without_2 : decode cX3_without 2 = .ok (.iconst 0, 1) := dk_3 (dk_at dksX3_without_0 2 rfl rfl)
theorem dX3_without_3 : decode cX3_without 3 = .ok (.invokestatic 274, 3) := dk_184 1 18 (dk_at dksX3_without_0 3 rfl rfl)
theorem dX3_without_6 : decode cX3_without 6 = .ok (.putfield 277, 3) := dk_181 1 21 (dk_at dksX3_without_0 6 rfl rfl)
theorem dX3_without_9 : decode cX3_without 9 = .ok (.iload_n 1, 1) := dk_27 (dk_at dksX3_without_0 9 rfl rfl)
theorem dX3_without_10 : decode cX3_without 10 = .ok (.aload_n 0, 1) := dk_42 (dk_at dksX3_without_0 10 rfl rfl)
theorem dX3_without_11 : decode cX3_without 11 = .ok (.getfield 277, 3) := dk_180 1 21 (dk_at dksX3_without_0 11 rfl rfl)
theorem dX3_without_14 : decode cX3_without 14 = .ok (.iconst 1, 1) := dk_4 (dk_at dksX3_without_0 14 rfl rfl)
theorem dX3_without_15 : decode cX3_without 15 = .ok (.iadd, 1) := dk_96 (dk_at dksX3_without_0 15 rfl rfl)
theorem dX3_without_16 : decode cX3_without 16 = .ok (.invokestatic 274, 3) := dk_184 1 18 (dk_at dksX3_without_0 16 rfl rfl)
theorem dX3_without_19 : decode cX3_without 19 = .ok (.istore_n 2, 1) := dk_61 (dk_at dksX3_without_0 19 rfl rfl)
theorem dX3_without_20 : decode cX3_without 20 = .ok (.aload_n 0, 1) := dk_42 (dk_at dksX3_without_0 20 rfl rfl)
theorem dX3_without_21 : decode cX3_without 21 = .ok (.iload_n 2, 1) := dk_28 (dk_at dksX3_without_0 21 rfl rfl)
theorem dX3_without_22 : decode cX3_without 22 = .ok (.iconst (-1), 1) := dk_2 (dk_at dksX3_without_0 22 rfl rfl)
theorem dX3_without_23 : decode cX3_without 23 = .ok (.if_icmp .ne 7, 3) := dk_160 0 7 (dk_at dksX3_without_1 0 rfl rfl)
theorem dX3_without_26 : decode cX3_without 26 = .ok (.iconst 1, 1) := dk_4 (dk_at dksX3_without_1 3 rfl rfl)
theorem dX3_without_27 : decode cX3_without 27 = .ok (.goto 9, 3) := dk_167 0 9 (dk_at dksX3_without_1 4 rfl rfl)
theorem dX3_without_30 : decode cX3_without 30 = .ok (.iload_n 2, 1) := dk_28 (dk_at dksX3_without_1 7 rfl rfl)
theorem dX3_without_31 : decode cX3_without 31 = .ok (.aload_n 0, 1) := dk_42 (dk_at dksX3_without_1 8 rfl rfl)
theorem dX3_without_32 : decode cX3_without 32 = .ok (.getfield 277, 3) := dk_180 1 21 (dk_at dksX3_without_1 9 rfl rfl)
theorem dX3_without_35 : decode cX3_without 35 = .ok (.isub, 1) := dk_100 (dk_at dksX3_without_1 12 rfl rfl)
theorem dX3_without_36 : decode cX3_without 36 = .ok (.putfield 280, 3) := dk_181 1 24 (dk_at dksX3_without_1 13 rfl rfl)
theorem dX3_without_39 : decode cX3_without 39 = .ok (.aload_n 0, 1) := dk_42 (dk_at dksX3_without_1 16 rfl rfl)
theorem dX3_without_40 : decode cX3_without 40 = .ok (.iconst 0, 1) := dk_3 (dk_at dksX3_without_1 17 rfl rfl)
theorem dX3_without_41 : decode cX3_without 41 = .ok (.putfield 283, 3) := dk_181 1 27 (dk_at dksX3_without_1 18 rfl rfl)
theorem dX3_without_44 : decode cX3_without 44 = .ok (.iload_n 1, 1) := dk_27 (dk_at dksX3_without_1 21 rfl rfl)
theorem dX3_without_45 : decode cX3_without 45 = .ok (.istore_n 3, 1) := dk_62 (dk_at dksX3_without_1 22 rfl rfl)
theorem dX3_without_46 : decode cX3_without 46 = .ok (.aload_n 0, 1) := dk_42 (dk_at dksX3_without_1 23 rfl rfl)
theorem dX3_without_47 : decode cX3_without 47 = .ok (.getfield 277, 3) := dk_180 1 21 (dk_at dksX3_without_2 0 rfl rfl)
theorem dX3_without_50 : decode cX3_without 50 = .ok (.istore 4, 2) := dk_54 4 (dk_at dksX3_without_2 3 rfl rfl)
theorem dX3_without_52 : decode cX3_without 52 = .ok (.iload 4, 2) := dk_21 4 (dk_at dksX3_without_2 5 rfl rfl)
theorem dX3_without_54 : decode cX3_without 54 = .ok (.bipush 24, 2) := dk_16 24 (dk_at dksX3_without_2 7 rfl rfl)
theorem dX3_without_56 : decode cX3_without 56 = .ok (.if_icmp .ge 44, 3) := dk_162 0 44 (dk_at dksX3_without_2 9 rfl rfl)
theorem dX3_without_59 : decode cX3_without 59 = .ok (.iload_n 1, 1) := dk_27 (dk_at dksX3_without_2 12 rfl rfl)
theorem dX3_without_60 : decode cX3_without 60 = .ok (.iload 4, 2) := dk_21 4 (dk_at dksX3_without_2 13 rfl rfl)
theorem dX3_without_62 : decode cX3_without 62 = .ok (.ishr, 1) := dk_122 (dk_at dksX3_without_2 15 rfl rfl)
theorem dX3_without_63 : decode cX3_without 63 = .ok (.iconst 1, 1) := dk_4 (dk_at dksX3_without_2 16 rfl rfl)
theorem dX3_without_64 : decode cX3_without 64 = .ok (.iand, 1) := dk_126 (dk_at dksX3_without_2 17 rfl rfl)
theorem dX3_without_65 : decode cX3_without 65 = .ok (.iconst 1, 1) := dk_4 (dk_at dksX3_without_2 18 rfl rfl)
theorem dX3_without_66 : decode cX3_without 66 = .ok (.if_icmp .ne 34, 3) := dk_160 0 34 (dk_at dksX3_without_2 19 rfl rfl)
theorem dX3_without_69 : decode cX3_without 69 = .ok (.iload_n 3, 1) := dk_29 (dk_at dksX3_without_2 22 rfl rfl)
theorem dX3_without_70 : decode cX3_without 70 = .ok (.iconst 1, 1) := dk_4 (dk_at dksX3_without_2 23 rfl rfl)
theorem dX3_without_71 : decode cX3_without 71 = .ok (.iload 4, 2) := dk_21 4 (dk_at dksX3_without_3 0 rfl rfl)
theorem dX3_without_73 : decode cX3_without 73 = .ok (.ishl, 1) := dk_120 (dk_at dksX3_without_3 2 rfl rfl)
theorem dX3_without_74 : decode cX3_without 74 = .ok (.iconst (-1), 1) := dk_2 (dk_at dksX3_without_3 3 rfl rfl)
theorem dX3_without_75 : decode cX3_without 75 = .ok (.ixor, 1) := dk_130 (dk_at dksX3_without_3 4 rfl rfl)
theorem dX3_without_76 : decode cX3_without 76 = .ok (.iand, 1) := dk_126 (dk_at dksX3_without_3 5 rfl rfl)
theorem dX3_without_77 : decode cX3_without 77 = .ok (.istore_n 3, 1) := dk_62 (dk_at dksX3_without_3 6 rfl rfl)
theorem dX3_without_78 : decode cX3_without 78 = .ok (.aload_n 0, 1) := dk_42 (dk_at dksX3_without_3 7 rfl rfl)
theorem dX3_without_79 : decode cX3_without 79 = .ok (.dup, 1) := dk_89 (dk_at dksX3_without_3 8 rfl rfl)
theorem dX3_without_80 : decode cX3_without 80 = .ok (.getfield 283, 3) := dk_180 1 27 (dk_at dksX3_without_3 9 rfl rfl)
theorem dX3_without_83 : decode cX3_without 83 = .ok (.iconst 1, 1) := dk_4 (dk_at dksX3_without_3 12 rfl rfl)
theorem dX3_without_84 : decode cX3_without 84 = .ok (.iadd, 1) := dk_96 (dk_at dksX3_without_3 13 rfl rfl)
theorem dX3_without_85 : decode cX3_without 85 = .ok (.putfield 283, 3) := dk_181 1 27 (dk_at dksX3_without_3 14 rfl rfl)
theorem dX3_without_88 : decode cX3_without 88 = .ok (.iload 4, 2) := dk_21 4 (dk_at dksX3_without_3 17 rfl rfl)
theorem dX3_without_90 : decode cX3_without 90 = .ok (.aload_n 0, 1) := dk_42 (dk_at dksX3_without_3 19 rfl rfl)
theorem dX3_without_91 : decode cX3_without 91 = .ok (.getfield 280, 3) := dk_180 1 24 (dk_at dksX3_without_3 20 rfl rfl)
theorem dX3_without_94 : decode cX3_without 94 = .ok (.iadd, 1) := dk_96 (dk_at dksX3_without_3 23 rfl rfl)
theorem dX3_without_95 : decode cX3_without 95 = .ok (.istore 4, 2) := dk_54 4 (dk_at dksX3_without_4 0 rfl rfl)
theorem dX3_without_97 : decode cX3_without 97 = .ok (.goto (-45), 3) := dk_167 255 211 (dk_at dksX3_without_4 2 rfl rfl)
theorem dX3_without_100 : decode cX3_without 100 = .ok (.iload_n 3, 1) := dk_29 (dk_at dksX3_without_4 5 rfl rfl)
theorem dX3_without_101 : decode cX3_without 101 = .ok (.ireturn, 1) := dk_172 (dk_at dksX3_without_4 6 rfl rfl)
abbrev cX3_nextBit : ByteArray := prog_18_method_65_code
def yX3_nextBit : MethodName := ⟨RX3, "nextBit", "(II)I"⟩
def dkwX3_nextBit_1 : List UInt8 := [61, 132, 3, 255, 167, 255, 233, 28, 172]
abbrev dktX3_nextBit_1 : List UInt8 := dkwX3_nextBit_1 ++ []
def dkwX3_nextBit_0 : List UInt8 := [2, 61, 16, 23, 62, 29, 27, 161, 0, 24, 26, 29, 122, 4, 126, 4, 160, 0, 7, 29, 167, 0, 4, 28]
abbrev dktX3_nextBit_0 : List UInt8 := dkwX3_nextBit_0 ++ dktX3_nextBit_1
theorem dksX3_nextBit_0 : cX3_nextBit.data.toList.drop 0 = dktX3_nextBit_0 := by decide +kernel
theorem dksX3_nextBit_1 : cX3_nextBit.data.toList.drop 24 = dktX3_nextBit_1 := dk_seg dksX3_nextBit_0 24 rfl rfl
theorem dX3_nextBit_0 : decode cX3_nextBit 0 = .ok (.iconst (-1), 1) := dk_2 (dk_at dksX3_nextBit_0 0 rfl rfl)
theorem dX3_nextBit_1 : decode cX3_nextBit 1 = .ok (.istore_n 2, 1) := dk_61 (dk_at dksX3_nextBit_0 1 rfl rfl)
theorem dX3_nextBit_2 : decode cX3_nextBit 2 = .ok (.bipush 23, 2) := dk_16 23 (dk_at dksX3_nextBit_0 2 rfl rfl)
theorem dX3_nextBit_4 : decode cX3_nextBit 4 = .ok (.istore_n 3, 1) := dk_62 (dk_at dksX3_nextBit_0 4 rfl rfl)
theorem dX3_nextBit_5 : decode cX3_nextBit 5 = .ok (.iload_n 3, 1) := dk_29 (dk_at dksX3_nextBit_0 5 rfl rfl)
theorem dX3_nextBit_6 : decode cX3_nextBit 6 = .ok (.iload_n 1, 1) := dk_27 (dk_at dksX3_nextBit_0 6 rfl rfl)
theorem dX3_nextBit_7 : decode cX3_nextBit 7 = .ok (.if_icmp .lt 24, 3) := dk_161 0 24 (dk_at dksX3_nextBit_0 7 rfl rfl)
theorem dX3_nextBit_10 : decode cX3_nextBit 10 = .ok (.iload_n 0, 1) := dk_26 (dk_at dksX3_nextBit_0 10 rfl rfl)
theorem dX3_nextBit_11 : decode cX3_nextBit 11 = .ok (.iload_n 3, 1) := dk_29 (dk_at dksX3_nextBit_0 11 rfl rfl)
theorem dX3_nextBit_12 : decode cX3_nextBit 12 = .ok (.ishr, 1) := dk_122 (dk_at dksX3_nextBit_0 12 rfl rfl)
theorem dX3_nextBit_13 : decode cX3_nextBit 13 = .ok (.iconst 1, 1) := dk_4 (dk_at dksX3_nextBit_0 13 rfl rfl)
theorem dX3_nextBit_14 : decode cX3_nextBit 14 = .ok (.iand, 1) := dk_126 (dk_at dksX3_nextBit_0 14 rfl rfl)
theorem dX3_nextBit_15 : decode cX3_nextBit 15 = .ok (.iconst 1, 1) := dk_4 (dk_at dksX3_nextBit_0 15 rfl rfl)
theorem dX3_nextBit_16 : decode cX3_nextBit 16 = .ok (.if_icmp .ne 7, 3) := dk_160 0 7 (dk_at dksX3_nextBit_0 16 rfl rfl)
theorem dX3_nextBit_19 : decode cX3_nextBit 19 = .ok (.iload_n 3, 1) := dk_29 (dk_at dksX3_nextBit_0 19 rfl rfl)
theorem dX3_nextBit_20 : decode cX3_nextBit 20 = .ok (.goto 4, 3) := dk_167 0 4 (dk_at dksX3_nextBit_0 20 rfl rfl)
theorem dX3_nextBit_23 : decode cX3_nextBit 23 = .ok (.iload_n 2, 1) := dk_28 (dk_at dksX3_nextBit_0 23 rfl rfl)
theorem dX3_nextBit_24 : decode cX3_nextBit 24 = .ok (.istore_n 2, 1) := dk_61 (dk_at dksX3_nextBit_1 0 rfl rfl)
theorem dX3_nextBit_25 : decode cX3_nextBit 25 = .ok (.iinc 3 (-1), 3) := dk_132 3 255 (dk_at dksX3_nextBit_1 1 rfl rfl)
theorem dX3_nextBit_28 : decode cX3_nextBit 28 = .ok (.goto (-23), 3) := dk_167 255 233 (dk_at dksX3_nextBit_1 4 rfl rfl)
theorem dX3_nextBit_31 : decode cX3_nextBit 31 = .ok (.iload_n 2, 1) := dk_28 (dk_at dksX3_nextBit_1 7 rfl rfl)
theorem dX3_nextBit_32 : decode cX3_nextBit 32 = .ok (.ireturn, 1) := dk_172 (dk_at dksX3_nextBit_1 8 rfl rfl)
abbrev cX3_piece : ByteArray := prog_18_method_70_code
def yX3_piece : MethodName := ⟨RX3, "piece", "(IIIII)I"⟩
def dkwX3_piece_1 : List UInt8 := [153, 0, 21, 42, 42, 27, 28, 29, 182, 1, 12, 21, 4, 21, 5, 182, 1, 36, 167, 0, 5, 16, 254, 172]
abbrev dktX3_piece_1 : List UInt8 := dkwX3_piece_1 ++ []
def dkwX3_piece_0 : List UInt8 := [42, 27, 28, 29, 182, 1, 9, 153, 0, 36, 21, 4, 155, 0, 31, 21, 5, 3, 5, 184, 0, 114]
abbrev dktX3_piece_0 : List UInt8 := dkwX3_piece_0 ++ dktX3_piece_1
theorem dksX3_piece_0 : cX3_piece.data.toList.drop 0 = dktX3_piece_0 := by decide +kernel
theorem dksX3_piece_1 : cX3_piece.data.toList.drop 22 = dktX3_piece_1 := dk_seg dksX3_piece_0 22 rfl rfl
theorem dX3_piece_0 : decode cX3_piece 0 = .ok (.aload_n 0, 1) := dk_42 (dk_at dksX3_piece_0 0 rfl rfl)
theorem dX3_piece_1 : decode cX3_piece 1 = .ok (.iload_n 1, 1) := dk_27 (dk_at dksX3_piece_0 1 rfl rfl)
theorem dX3_piece_2 : decode cX3_piece 2 = .ok (.iload_n 2, 1) := dk_28 (dk_at dksX3_piece_0 2 rfl rfl)
theorem dX3_piece_3 : decode cX3_piece 3 = .ok (.iload_n 3, 1) := dk_29 (dk_at dksX3_piece_0 3 rfl rfl)
theorem dX3_piece_4 : decode cX3_piece 4 = .ok (.invokevirtual 265, 3) := dk_182 1 9 (dk_at dksX3_piece_0 4 rfl rfl)
theorem dX3_piece_7 : decode cX3_piece 7 = .ok (.ifCond .eq 36, 3) := dk_153 0 36 (dk_at dksX3_piece_0 7 rfl rfl)
theorem dX3_piece_10 : decode cX3_piece 10 = .ok (.iload 4, 2) := dk_21 4 (dk_at dksX3_piece_0 10 rfl rfl)
theorem dX3_piece_12 : decode cX3_piece 12 = .ok (.ifCond .lt 31, 3) := dk_155 0 31 (dk_at dksX3_piece_0 12 rfl rfl)
theorem dX3_piece_15 : decode cX3_piece 15 = .ok (.iload 5, 2) := dk_21 5 (dk_at dksX3_piece_0 15 rfl rfl)
theorem dX3_piece_17 : decode cX3_piece 17 = .ok (.iconst 0, 1) := dk_3 (dk_at dksX3_piece_0 17 rfl rfl)
theorem dX3_piece_18 : decode cX3_piece 18 = .ok (.iconst 2, 1) := dk_5 (dk_at dksX3_piece_0 18 rfl rfl)
theorem dX3_piece_19 : decode cX3_piece 19 = .ok (.invokestatic 114, 3) := dk_184 0 114 (dk_at dksX3_piece_0 19 rfl rfl)
theorem dX3_piece_22 : decode cX3_piece 22 = .ok (.ifCond .eq 21, 3) := dk_153 0 21 (dk_at dksX3_piece_1 0 rfl rfl)
theorem dX3_piece_25 : decode cX3_piece 25 = .ok (.aload_n 0, 1) := dk_42 (dk_at dksX3_piece_1 3 rfl rfl)
theorem dX3_piece_26 : decode cX3_piece 26 = .ok (.aload_n 0, 1) := dk_42 (dk_at dksX3_piece_1 4 rfl rfl)
theorem dX3_piece_27 : decode cX3_piece 27 = .ok (.iload_n 1, 1) := dk_27 (dk_at dksX3_piece_1 5 rfl rfl)
theorem dX3_piece_28 : decode cX3_piece 28 = .ok (.iload_n 2, 1) := dk_28 (dk_at dksX3_piece_1 6 rfl rfl)
theorem dX3_piece_29 : decode cX3_piece 29 = .ok (.iload_n 3, 1) := dk_29 (dk_at dksX3_piece_1 7 rfl rfl)
theorem dX3_piece_30 : decode cX3_piece 30 = .ok (.invokevirtual 268, 3) := dk_182 1 12 (dk_at dksX3_piece_1 8 rfl rfl)
theorem dX3_piece_33 : decode cX3_piece 33 = .ok (.iload 4, 2) := dk_21 4 (dk_at dksX3_piece_1 11 rfl rfl)
theorem dX3_piece_35 : decode cX3_piece 35 = .ok (.iload 5, 2) := dk_21 5 (dk_at dksX3_piece_1 13 rfl rfl)
theorem dX3_piece_37 : decode cX3_piece 37 = .ok (.invokevirtual 292, 3) := dk_182 1 36 (dk_at dksX3_piece_1 15 rfl rfl)
theorem dX3_piece_40 : decode cX3_piece 40 = .ok (.goto 5, 3) := dk_167 0 5 (dk_at dksX3_piece_1 18 rfl rfl)
theorem dX3_piece_43 : decode cX3_piece 43 = .ok (.bipush (-2), 2) := dk_16 254 (dk_at dksX3_piece_1 21 rfl rfl)
theorem dX3_piece_45 : decode cX3_piece 45 = .ok (.ireturn, 1) := dk_172 (dk_at dksX3_piece_1 23 rfl rfl)
abbrev cX3_pieceOf : ByteArray := prog_18_method_69_code
def yX3_pieceOf : MethodName := ⟨RX3, "pieceOf", "(III)I"⟩
def dkwX3_pieceOf_2 : List UInt8 := [42, 180, 1, 24, 167, 0, 7, 42, 180, 1, 27, 172, 132, 5, 1, 167, 255, 200, 16, 254, 172]
abbrev dktX3_pieceOf_2 : List UInt8 := dkwX3_pieceOf_2 ++ []
def dkwX3_pieceOf_1 : List UInt8 := [54, 4, 21, 5, 28, 160, 0, 31, 29, 154, 0, 10, 42, 180, 1, 21, 167, 0, 19, 29, 4, 160, 0, 10]
abbrev dktX3_pieceOf_1 : List UInt8 := dkwX3_pieceOf_1 ++ dktX3_pieceOf_2
def dkwX3_pieceOf_0 : List UInt8 := [27, 54, 4, 3, 54, 5, 21, 5, 28, 163, 0, 56, 21, 4, 153, 0, 51, 42, 21, 4, 182, 1, 30]
abbrev dktX3_pieceOf_0 : List UInt8 := dkwX3_pieceOf_0 ++ dktX3_pieceOf_1
theorem dksX3_pieceOf_0 : cX3_pieceOf.data.toList.drop 0 = dktX3_pieceOf_0 := by decide +kernel
theorem dksX3_pieceOf_1 : cX3_pieceOf.data.toList.drop 23 = dktX3_pieceOf_1 := dk_seg dksX3_pieceOf_0 23 rfl rfl
theorem dksX3_pieceOf_2 : cX3_pieceOf.data.toList.drop 47 = dktX3_pieceOf_2 := dk_seg dksX3_pieceOf_1 24 rfl rfl
theorem dX3_pieceOf_0 : decode cX3_pieceOf 0 = .ok (.iload_n 1, 1) := dk_27 (dk_at dksX3_pieceOf_0 0 rfl rfl)
theorem dX3_pieceOf_1 : decode cX3_pieceOf 1 = .ok (.istore 4, 2) := dk_54 4 (dk_at dksX3_pieceOf_0 1 rfl rfl)
theorem dX3_pieceOf_3 : decode cX3_pieceOf 3 = .ok (.iconst 0, 1) := dk_3 (dk_at dksX3_pieceOf_0 3 rfl rfl)
theorem dX3_pieceOf_4 : decode cX3_pieceOf 4 = .ok (.istore 5, 2) := dk_54 5 (dk_at dksX3_pieceOf_0 4 rfl rfl)
theorem dX3_pieceOf_6 : decode cX3_pieceOf 6 = .ok (.iload 5, 2) := dk_21 5 (dk_at dksX3_pieceOf_0 6 rfl rfl)
theorem dX3_pieceOf_8 : decode cX3_pieceOf 8 = .ok (.iload_n 2, 1) := dk_28 (dk_at dksX3_pieceOf_0 8 rfl rfl)
theorem dX3_pieceOf_9 : decode cX3_pieceOf 9 = .ok (.if_icmp .gt 56, 3) := dk_163 0 56 (dk_at dksX3_pieceOf_0 9 rfl rfl)
theorem dX3_pieceOf_12 : decode cX3_pieceOf 12 = .ok (.iload 4, 2) := dk_21 4 (dk_at dksX3_pieceOf_0 12 rfl rfl)
theorem dX3_pieceOf_14 : decode cX3_pieceOf 14 = .ok (.ifCond .eq 51, 3) := dk_153 0 51 (dk_at dksX3_pieceOf_0 14 rfl rfl)
theorem dX3_pieceOf_17 : decode cX3_pieceOf 17 = .ok (.aload_n 0, 1) := dk_42 (dk_at dksX3_pieceOf_0 17 rfl rfl)
theorem dX3_pieceOf_18 : decode cX3_pieceOf 18 = .ok (.iload 4, 2) := dk_21 4 (dk_at dksX3_pieceOf_0 18 rfl rfl)
theorem dX3_pieceOf_20 : decode cX3_pieceOf 20 = .ok (.invokevirtual 286, 3) := dk_182 1 30 (dk_at dksX3_pieceOf_0 20 rfl rfl)
theorem dX3_pieceOf_23 : decode cX3_pieceOf 23 = .ok (.istore 4, 2) := dk_54 4 (dk_at dksX3_pieceOf_1 0 rfl rfl)
theorem dX3_pieceOf_25 : decode cX3_pieceOf 25 = .ok (.iload 5, 2) := dk_21 5 (dk_at dksX3_pieceOf_1 2 rfl rfl)
theorem dX3_pieceOf_27 : decode cX3_pieceOf 27 = .ok (.iload_n 2, 1) := dk_28 (dk_at dksX3_pieceOf_1 4 rfl rfl)
theorem dX3_pieceOf_28 : decode cX3_pieceOf 28 = .ok (.if_icmp .ne 31, 3) := dk_160 0 31 (dk_at dksX3_pieceOf_1 5 rfl rfl)
theorem dX3_pieceOf_31 : decode cX3_pieceOf 31 = .ok (.iload_n 3, 1) := dk_29 (dk_at dksX3_pieceOf_1 8 rfl rfl)
theorem dX3_pieceOf_32 : decode cX3_pieceOf 32 = .ok (.ifCond .ne 10, 3) := dk_154 0 10 (dk_at dksX3_pieceOf_1 9 rfl rfl)
theorem dX3_pieceOf_35 : decode cX3_pieceOf 35 = .ok (.aload_n 0, 1) := dk_42 (dk_at dksX3_pieceOf_1 12 rfl rfl)
theorem dX3_pieceOf_36 : decode cX3_pieceOf 36 = .ok (.getfield 277, 3) := dk_180 1 21 (dk_at dksX3_pieceOf_1 13 rfl rfl)
theorem dX3_pieceOf_39 : decode cX3_pieceOf 39 = .ok (.goto 19, 3) := dk_167 0 19 (dk_at dksX3_pieceOf_1 16 rfl rfl)
theorem dX3_pieceOf_42 : decode cX3_pieceOf 42 = .ok (.iload_n 3, 1) := dk_29 (dk_at dksX3_pieceOf_1 19 rfl rfl)
theorem dX3_pieceOf_43 : decode cX3_pieceOf 43 = .ok (.iconst 1, 1) := dk_4 (dk_at dksX3_pieceOf_1 20 rfl rfl)
theorem dX3_pieceOf_44 : decode cX3_pieceOf 44 = .ok (.if_icmp .ne 10, 3) := dk_160 0 10 (dk_at dksX3_pieceOf_1 21 rfl rfl)
theorem dX3_pieceOf_47 : decode cX3_pieceOf 47 = .ok (.aload_n 0, 1) := dk_42 (dk_at dksX3_pieceOf_2 0 rfl rfl)
theorem dX3_pieceOf_48 : decode cX3_pieceOf 48 = .ok (.getfield 280, 3) := dk_180 1 24 (dk_at dksX3_pieceOf_2 1 rfl rfl)
theorem dX3_pieceOf_51 : decode cX3_pieceOf 51 = .ok (.goto 7, 3) := dk_167 0 7 (dk_at dksX3_pieceOf_2 4 rfl rfl)
theorem dX3_pieceOf_54 : decode cX3_pieceOf 54 = .ok (.aload_n 0, 1) := dk_42 (dk_at dksX3_pieceOf_2 7 rfl rfl)
theorem dX3_pieceOf_55 : decode cX3_pieceOf 55 = .ok (.getfield 283, 3) := dk_180 1 27 (dk_at dksX3_pieceOf_2 8 rfl rfl)
theorem dX3_pieceOf_58 : decode cX3_pieceOf 58 = .ok (.ireturn, 1) := dk_172 (dk_at dksX3_pieceOf_2 11 rfl rfl)
theorem dX3_pieceOf_59 : decode cX3_pieceOf 59 = .ok (.iinc 5 1, 3) := dk_132 5 1 (dk_at dksX3_pieceOf_2 12 rfl rfl)
theorem dX3_pieceOf_62 : decode cX3_pieceOf 62 = .ok (.goto (-56), 3) := dk_167 255 200 (dk_at dksX3_pieceOf_2 15 rfl rfl)
theorem dX3_pieceOf_65 : decode cX3_pieceOf 65 = .ok (.bipush (-2), 2) := dk_16 254 (dk_at dksX3_pieceOf_2 18 rfl rfl)
theorem dX3_pieceOf_67 : decode cX3_pieceOf 67 = .ok (.ireturn, 1) := dk_172 (dk_at dksX3_pieceOf_2 20 rfl rfl)
abbrev cX3_verdict : ByteArray := prog_18_method_78_code
def yX3_verdict : MethodName := ⟨RX3, "verdict", "(I)I"⟩
def dkwX3_verdict_0 : List UInt8 := [27, 184, 0, 122, 153, 0, 11, 42, 27, 182, 1, 57, 167, 0, 5, 16, 254, 172]
abbrev dktX3_verdict_0 : List UInt8 := dkwX3_verdict_0 ++ []
theorem dksX3_verdict_0 : cX3_verdict.data.toList.drop 0 = dktX3_verdict_0 := by decide +kernel
theorem dX3_verdict_0 : decode cX3_verdict 0 = .ok (.iload_n 1, 1) := dk_27 (dk_at dksX3_verdict_0 0 rfl rfl)
theorem dX3_verdict_1 : decode cX3_verdict 1 = .ok (.invokestatic 122, 3) := dk_184 0 122 (dk_at dksX3_verdict_0 1 rfl rfl)
theorem dX3_verdict_4 : decode cX3_verdict 4 = .ok (.ifCond .eq 11, 3) := dk_153 0 11 (dk_at dksX3_verdict_0 4 rfl rfl)
theorem dX3_verdict_7 : decode cX3_verdict 7 = .ok (.aload_n 0, 1) := dk_42 (dk_at dksX3_verdict_0 7 rfl rfl)
theorem dX3_verdict_8 : decode cX3_verdict 8 = .ok (.iload_n 1, 1) := dk_27 (dk_at dksX3_verdict_0 8 rfl rfl)
theorem dX3_verdict_9 : decode cX3_verdict 9 = .ok (.invokevirtual 313, 3) := dk_182 1 57 (dk_at dksX3_verdict_0 9 rfl rfl)
theorem dX3_verdict_12 : decode cX3_verdict 12 = .ok (.goto 5, 3) := dk_167 0 5 (dk_at dksX3_verdict_0 12 rfl rfl)
theorem dX3_verdict_15 : decode cX3_verdict 15 = .ok (.bipush (-2), 2) := dk_16 254 (dk_at dksX3_verdict_0 15 rfl rfl)
theorem dX3_verdict_17 : decode cX3_verdict 17 = .ok (.ireturn, 1) := dk_172 (dk_at dksX3_verdict_0 17 rfl rfl)
abbrev cX3_verdictOf : ByteArray := prog_18_method_77_code
def yX3_verdictOf : MethodName := ⟨RX3, "verdictOf", "(I)I"⟩
def dkwX3_verdictOf_0 : List UInt8 := [42, 27, 2, 3, 182, 1, 54, 172]
abbrev dktX3_verdictOf_0 : List UInt8 := dkwX3_verdictOf_0 ++ []
theorem dksX3_verdictOf_0 : cX3_verdictOf.data.toList.drop 0 = dktX3_verdictOf_0 := by decide +kernel
theorem dX3_verdictOf_0 : decode cX3_verdictOf 0 = .ok (.aload_n 0, 1) := dk_42 (dk_at dksX3_verdictOf_0 0 rfl rfl)
theorem dX3_verdictOf_1 : decode cX3_verdictOf 1 = .ok (.iload_n 1, 1) := dk_27 (dk_at dksX3_verdictOf_0 1 rfl rfl)
theorem dX3_verdictOf_2 : decode cX3_verdictOf 2 = .ok (.iconst (-1), 1) := dk_2 (dk_at dksX3_verdictOf_0 2 rfl rfl)
theorem dX3_verdictOf_3 : decode cX3_verdictOf 3 = .ok (.iconst 0, 1) := dk_3 (dk_at dksX3_verdictOf_0 3 rfl rfl)
theorem dX3_verdictOf_4 : decode cX3_verdictOf 4 = .ok (.invokevirtual 310, 3) := dk_182 1 54 (dk_at dksX3_verdictOf_0 4 rfl rfl)
theorem dX3_verdictOf_7 : decode cX3_verdictOf 7 = .ok (.ireturn, 1) := dk_172 (dk_at dksX3_verdictOf_0 7 rfl rfl)
abbrev cX3_verdictAs : ByteArray := prog_18_method_76_code
def yX3_verdictAs : MethodName := ⟨RX3, "verdictAs", "(III)I"⟩
def dkwX3_verdictAs_2 : List UInt8 := [153, 0, 7, 6, 167, 0, 4, 7, 172]
abbrev dktX3_verdictAs_2 : List UInt8 := dkwX3_verdictAs_2 ++ []
def dkwX3_verdictAs_1 : List UInt8 := [4, 167, 0, 30, 42, 27, 28, 29, 182, 1, 48, 153, 0, 7, 5, 167, 0, 16, 42, 27, 182, 1, 51]
abbrev dktX3_verdictAs_1 : List UInt8 := dkwX3_verdictAs_1 ++ dktX3_verdictAs_2
def dkwX3_verdictAs_0 : List UInt8 := [42, 182, 1, 3, 42, 27, 182, 1, 42, 154, 0, 7, 3, 167, 0, 42, 42, 27, 182, 1, 45, 153, 0, 7]
abbrev dktX3_verdictAs_0 : List UInt8 := dkwX3_verdictAs_0 ++ dktX3_verdictAs_1
theorem dksX3_verdictAs_0 : cX3_verdictAs.data.toList.drop 0 = dktX3_verdictAs_0 := by decide +kernel
theorem dksX3_verdictAs_1 : cX3_verdictAs.data.toList.drop 24 = dktX3_verdictAs_1 := dk_seg dksX3_verdictAs_0 24 rfl rfl
theorem dksX3_verdictAs_2 : cX3_verdictAs.data.toList.drop 47 = dktX3_verdictAs_2 := dk_seg dksX3_verdictAs_1 23 rfl rfl
theorem dX3_verdictAs_0 : decode cX3_verdictAs 0 = .ok (.aload_n 0, 1) := dk_42 (dk_at dksX3_verdictAs_0 0 rfl rfl)
theorem dX3_verdictAs_1 : decode cX3_verdictAs 1 = .ok (.invokevirtual 259, 3) := dk_182 1 3 (dk_at dksX3_verdictAs_0 1 rfl rfl)
theorem dX3_verdictAs_4 : decode cX3_verdictAs 4 = .ok (.aload_n 0, 1) := dk_42 (dk_at dksX3_verdictAs_0 4 rfl rfl)
theorem dX3_verdictAs_5 : decode cX3_verdictAs 5 = .ok (.iload_n 1, 1) := dk_27 (dk_at dksX3_verdictAs_0 5 rfl rfl)
theorem dX3_verdictAs_6 : decode cX3_verdictAs 6 = .ok (.invokevirtual 298, 3) := dk_182 1 42 (dk_at dksX3_verdictAs_0 6 rfl rfl)
theorem dX3_verdictAs_9 : decode cX3_verdictAs 9 = .ok (.ifCond .ne 7, 3) := dk_154 0 7 (dk_at dksX3_verdictAs_0 9 rfl rfl)
theorem dX3_verdictAs_12 : decode cX3_verdictAs 12 = .ok (.iconst 0, 1) := dk_3 (dk_at dksX3_verdictAs_0 12 rfl rfl)
theorem dX3_verdictAs_13 : decode cX3_verdictAs 13 = .ok (.goto 42, 3) := dk_167 0 42 (dk_at dksX3_verdictAs_0 13 rfl rfl)
theorem dX3_verdictAs_16 : decode cX3_verdictAs 16 = .ok (.aload_n 0, 1) := dk_42 (dk_at dksX3_verdictAs_0 16 rfl rfl)
theorem dX3_verdictAs_17 : decode cX3_verdictAs 17 = .ok (.iload_n 1, 1) := dk_27 (dk_at dksX3_verdictAs_0 17 rfl rfl)
theorem dX3_verdictAs_18 : decode cX3_verdictAs 18 = .ok (.invokevirtual 301, 3) := dk_182 1 45 (dk_at dksX3_verdictAs_0 18 rfl rfl)
theorem dX3_verdictAs_21 : decode cX3_verdictAs 21 = .ok (.ifCond .eq 7, 3) := dk_153 0 7 (dk_at dksX3_verdictAs_0 21 rfl rfl)
theorem dX3_verdictAs_24 : decode cX3_verdictAs 24 = .ok (.iconst 1, 1) := dk_4 (dk_at dksX3_verdictAs_1 0 rfl rfl)
theorem dX3_verdictAs_25 : decode cX3_verdictAs 25 = .ok (.goto 30, 3) := dk_167 0 30 (dk_at dksX3_verdictAs_1 1 rfl rfl)
theorem dX3_verdictAs_28 : decode cX3_verdictAs 28 = .ok (.aload_n 0, 1) := dk_42 (dk_at dksX3_verdictAs_1 4 rfl rfl)
theorem dX3_verdictAs_29 : decode cX3_verdictAs 29 = .ok (.iload_n 1, 1) := dk_27 (dk_at dksX3_verdictAs_1 5 rfl rfl)
theorem dX3_verdictAs_30 : decode cX3_verdictAs 30 = .ok (.iload_n 2, 1) := dk_28 (dk_at dksX3_verdictAs_1 6 rfl rfl)
theorem dX3_verdictAs_31 : decode cX3_verdictAs 31 = .ok (.iload_n 3, 1) := dk_29 (dk_at dksX3_verdictAs_1 7 rfl rfl)
theorem dX3_verdictAs_32 : decode cX3_verdictAs 32 = .ok (.invokevirtual 304, 3) := dk_182 1 48 (dk_at dksX3_verdictAs_1 8 rfl rfl)
theorem dX3_verdictAs_35 : decode cX3_verdictAs 35 = .ok (.ifCond .eq 7, 3) := dk_153 0 7 (dk_at dksX3_verdictAs_1 11 rfl rfl)
theorem dX3_verdictAs_38 : decode cX3_verdictAs 38 = .ok (.iconst 2, 1) := dk_5 (dk_at dksX3_verdictAs_1 14 rfl rfl)
theorem dX3_verdictAs_39 : decode cX3_verdictAs 39 = .ok (.goto 16, 3) := dk_167 0 16 (dk_at dksX3_verdictAs_1 15 rfl rfl)
theorem dX3_verdictAs_42 : decode cX3_verdictAs 42 = .ok (.aload_n 0, 1) := dk_42 (dk_at dksX3_verdictAs_1 18 rfl rfl)
theorem dX3_verdictAs_43 : decode cX3_verdictAs 43 = .ok (.iload_n 1, 1) := dk_27 (dk_at dksX3_verdictAs_1 19 rfl rfl)
theorem dX3_verdictAs_44 : decode cX3_verdictAs 44 = .ok (.invokevirtual 307, 3) := dk_182 1 51 (dk_at dksX3_verdictAs_1 20 rfl rfl)
theorem dX3_verdictAs_47 : decode cX3_verdictAs 47 = .ok (.ifCond .eq 7, 3) := dk_153 0 7 (dk_at dksX3_verdictAs_2 0 rfl rfl)
theorem dX3_verdictAs_50 : decode cX3_verdictAs 50 = .ok (.iconst 3, 1) := dk_6 (dk_at dksX3_verdictAs_2 3 rfl rfl)
theorem dX3_verdictAs_51 : decode cX3_verdictAs 51 = .ok (.goto 4, 3) := dk_167 0 4 (dk_at dksX3_verdictAs_2 4 rfl rfl)
theorem dX3_verdictAs_54 : decode cX3_verdictAs 54 = .ok (.iconst 4, 1) := dk_7 (dk_at dksX3_verdictAs_2 7 rfl rfl)
theorem dX3_verdictAs_55 : decode cX3_verdictAs 55 = .ok (.ireturn, 1) := dk_172 (dk_at dksX3_verdictAs_2 8 rfl rfl)
abbrev cX3_isWritten : ByteArray := prog_18_method_71_code
def yX3_isWritten : MethodName := ⟨RX3, "isWritten", "(I)Z"⟩
def dkwX3_isWritten_1 : List UInt8 := [132, 3, 1, 167, 255, 235, 28, 153, 0, 7, 4, 167, 0, 4, 3, 172]
abbrev dktX3_isWritten_1 : List UInt8 := dkwX3_isWritten_1 ++ []
def dkwX3_isWritten_0 : List UInt8 := [3, 61, 3, 62, 29, 42, 180, 0, 154, 162, 0, 19, 28, 42, 4, 27, 29, 182, 1, 6, 128, 61]
abbrev dktX3_isWritten_0 : List UInt8 := dkwX3_isWritten_0 ++ dktX3_isWritten_1
theorem dksX3_isWritten_0 : cX3_isWritten.data.toList.drop 0 = dktX3_isWritten_0 := by decide +kernel
theorem dksX3_isWritten_1 : cX3_isWritten.data.toList.drop 22 = dktX3_isWritten_1 := dk_seg dksX3_isWritten_0 22 rfl rfl
theorem dX3_isWritten_0 : decode cX3_isWritten 0 = .ok (.iconst 0, 1) := dk_3 (dk_at dksX3_isWritten_0 0 rfl rfl)
theorem dX3_isWritten_1 : decode cX3_isWritten 1 = .ok (.istore_n 2, 1) := dk_61 (dk_at dksX3_isWritten_0 1 rfl rfl)
theorem dX3_isWritten_2 : decode cX3_isWritten 2 = .ok (.iconst 0, 1) := dk_3 (dk_at dksX3_isWritten_0 2 rfl rfl)
theorem dX3_isWritten_3 : decode cX3_isWritten 3 = .ok (.istore_n 3, 1) := dk_62 (dk_at dksX3_isWritten_0 3 rfl rfl)
theorem dX3_isWritten_4 : decode cX3_isWritten 4 = .ok (.iload_n 3, 1) := dk_29 (dk_at dksX3_isWritten_0 4 rfl rfl)
theorem dX3_isWritten_5 : decode cX3_isWritten 5 = .ok (.aload_n 0, 1) := dk_42 (dk_at dksX3_isWritten_0 5 rfl rfl)
theorem dX3_isWritten_6 : decode cX3_isWritten 6 = .ok (.getfield 154, 3) := dk_180 0 154 (dk_at dksX3_isWritten_0 6 rfl rfl)
theorem dX3_isWritten_9 : decode cX3_isWritten 9 = .ok (.if_icmp .ge 19, 3) := dk_162 0 19 (dk_at dksX3_isWritten_0 9 rfl rfl)
theorem dX3_isWritten_12 : decode cX3_isWritten 12 = .ok (.iload_n 2, 1) := dk_28 (dk_at dksX3_isWritten_0 12 rfl rfl)
theorem dX3_isWritten_13 : decode cX3_isWritten 13 = .ok (.aload_n 0, 1) := dk_42 (dk_at dksX3_isWritten_0 13 rfl rfl)
theorem dX3_isWritten_14 : decode cX3_isWritten 14 = .ok (.iconst 1, 1) := dk_4 (dk_at dksX3_isWritten_0 14 rfl rfl)
theorem dX3_isWritten_15 : decode cX3_isWritten 15 = .ok (.iload_n 1, 1) := dk_27 (dk_at dksX3_isWritten_0 15 rfl rfl)
theorem dX3_isWritten_16 : decode cX3_isWritten 16 = .ok (.iload_n 3, 1) := dk_29 (dk_at dksX3_isWritten_0 16 rfl rfl)
theorem dX3_isWritten_17 : decode cX3_isWritten 17 = .ok (.invokevirtual 262, 3) := dk_182 1 6 (dk_at dksX3_isWritten_0 17 rfl rfl)
theorem dX3_isWritten_20 : decode cX3_isWritten 20 = .ok (.ior, 1) := dk_128 (dk_at dksX3_isWritten_0 20 rfl rfl)
theorem dX3_isWritten_21 : decode cX3_isWritten 21 = .ok (.istore_n 2, 1) := dk_61 (dk_at dksX3_isWritten_0 21 rfl rfl)
theorem dX3_isWritten_22 : decode cX3_isWritten 22 = .ok (.iinc 3 1, 3) := dk_132 3 1 (dk_at dksX3_isWritten_1 0 rfl rfl)
theorem dX3_isWritten_25 : decode cX3_isWritten 25 = .ok (.goto (-21), 3) := dk_167 255 235 (dk_at dksX3_isWritten_1 3 rfl rfl)
theorem dX3_isWritten_28 : decode cX3_isWritten 28 = .ok (.iload_n 2, 1) := dk_28 (dk_at dksX3_isWritten_1 6 rfl rfl)
theorem dX3_isWritten_29 : decode cX3_isWritten 29 = .ok (.ifCond .eq 7, 3) := dk_153 0 7 (dk_at dksX3_isWritten_1 7 rfl rfl)
theorem dX3_isWritten_32 : decode cX3_isWritten 32 = .ok (.iconst 1, 1) := dk_4 (dk_at dksX3_isWritten_1 10 rfl rfl)
theorem dX3_isWritten_33 : decode cX3_isWritten 33 = .ok (.goto 4, 3) := dk_167 0 4 (dk_at dksX3_isWritten_1 11 rfl rfl)
theorem dX3_isWritten_36 : decode cX3_isWritten 36 = .ok (.iconst 0, 1) := dk_3 (dk_at dksX3_isWritten_1 14 rfl rfl)
theorem dX3_isWritten_37 : decode cX3_isWritten 37 = .ok (.ireturn, 1) := dk_172 (dk_at dksX3_isWritten_1 15 rfl rfl)
abbrev cX3_isShared : ByteArray := prog_18_method_72_code
def yX3_isShared : MethodName := ⟨RX3, "isShared", "(I)Z"⟩
def dkwX3_isShared_3 : List UInt8 := [132, 4, 1, 167, 255, 196, 132, 3, 1, 167, 255, 179, 28, 172]
abbrev dktX3_isShared_3 : List UInt8 := dkwX3_isShared_3 ++ []
def dkwX3_isShared_2 : List UInt8 := [21, 4, 159, 0, 16, 42, 4, 27, 29, 182, 1, 6, 21, 5, 126, 154, 0, 7, 4, 167, 0, 4, 3, 61]
abbrev dktX3_isShared_2 : List UInt8 := dkwX3_isShared_2 ++ dktX3_isShared_3
def dkwX3_isShared_1 : List UInt8 := [42, 3, 27, 21, 4, 182, 1, 6, 42, 4, 27, 21, 4, 182, 1, 6, 128, 54, 5, 28, 153, 0, 26, 29]
abbrev dktX3_isShared_1 : List UInt8 := dkwX3_isShared_1 ++ dktX3_isShared_2
def dkwX3_isShared_0 : List UInt8 := [4, 61, 3, 62, 29, 42, 180, 0, 154, 162, 0, 75, 3, 54, 4, 21, 4, 42, 180, 0, 154, 162, 0, 57]
abbrev dktX3_isShared_0 : List UInt8 := dkwX3_isShared_0 ++ dktX3_isShared_1
theorem dksX3_isShared_0 : cX3_isShared.data.toList.drop 0 = dktX3_isShared_0 := by decide +kernel
theorem dksX3_isShared_1 : cX3_isShared.data.toList.drop 24 = dktX3_isShared_1 := dk_seg dksX3_isShared_0 24 rfl rfl
theorem dksX3_isShared_2 : cX3_isShared.data.toList.drop 48 = dktX3_isShared_2 := dk_seg dksX3_isShared_1 24 rfl rfl
theorem dksX3_isShared_3 : cX3_isShared.data.toList.drop 72 = dktX3_isShared_3 := dk_seg dksX3_isShared_2 24 rfl rfl
theorem dX3_isShared_0 : decode cX3_isShared 0 = .ok (.iconst 1, 1) := dk_4 (dk_at dksX3_isShared_0 0 rfl rfl)
theorem dX3_isShared_1 : decode cX3_isShared 1 = .ok (.istore_n 2, 1) := dk_61 (dk_at dksX3_isShared_0 1 rfl rfl)
theorem dX3_isShared_2 : decode cX3_isShared 2 = .ok (.iconst 0, 1) := dk_3 (dk_at dksX3_isShared_0 2 rfl rfl)
theorem dX3_isShared_3 : decode cX3_isShared 3 = .ok (.istore_n 3, 1) := dk_62 (dk_at dksX3_isShared_0 3 rfl rfl)
theorem dX3_isShared_4 : decode cX3_isShared 4 = .ok (.iload_n 3, 1) := dk_29 (dk_at dksX3_isShared_0 4 rfl rfl)
theorem dX3_isShared_5 : decode cX3_isShared 5 = .ok (.aload_n 0, 1) := dk_42 (dk_at dksX3_isShared_0 5 rfl rfl)
theorem dX3_isShared_6 : decode cX3_isShared 6 = .ok (.getfield 154, 3) := dk_180 0 154 (dk_at dksX3_isShared_0 6 rfl rfl)
theorem dX3_isShared_9 : decode cX3_isShared 9 = .ok (.if_icmp .ge 75, 3) := dk_162 0 75 (dk_at dksX3_isShared_0 9 rfl rfl)
theorem dX3_isShared_12 : decode cX3_isShared 12 = .ok (.iconst 0, 1) := dk_3 (dk_at dksX3_isShared_0 12 rfl rfl)
theorem dX3_isShared_13 : decode cX3_isShared 13 = .ok (.istore 4, 2) := dk_54 4 (dk_at dksX3_isShared_0 13 rfl rfl)
theorem dX3_isShared_15 : decode cX3_isShared 15 = .ok (.iload 4, 2) := dk_21 4 (dk_at dksX3_isShared_0 15 rfl rfl)
theorem dX3_isShared_17 : decode cX3_isShared 17 = .ok (.aload_n 0, 1) := dk_42 (dk_at dksX3_isShared_0 17 rfl rfl)
theorem dX3_isShared_18 : decode cX3_isShared 18 = .ok (.getfield 154, 3) := dk_180 0 154 (dk_at dksX3_isShared_0 18 rfl rfl)
theorem dX3_isShared_21 : decode cX3_isShared 21 = .ok (.if_icmp .ge 57, 3) := dk_162 0 57 (dk_at dksX3_isShared_0 21 rfl rfl)
theorem dX3_isShared_24 : decode cX3_isShared 24 = .ok (.aload_n 0, 1) := dk_42 (dk_at dksX3_isShared_1 0 rfl rfl)
theorem dX3_isShared_25 : decode cX3_isShared 25 = .ok (.iconst 0, 1) := dk_3 (dk_at dksX3_isShared_1 1 rfl rfl)
theorem dX3_isShared_26 : decode cX3_isShared 26 = .ok (.iload_n 1, 1) := dk_27 (dk_at dksX3_isShared_1 2 rfl rfl)
theorem dX3_isShared_27 : decode cX3_isShared 27 = .ok (.iload 4, 2) := dk_21 4 (dk_at dksX3_isShared_1 3 rfl rfl)
theorem dX3_isShared_29 : decode cX3_isShared 29 = .ok (.invokevirtual 262, 3) := dk_182 1 6 (dk_at dksX3_isShared_1 5 rfl rfl)
theorem dX3_isShared_32 : decode cX3_isShared 32 = .ok (.aload_n 0, 1) := dk_42 (dk_at dksX3_isShared_1 8 rfl rfl)
theorem dX3_isShared_33 : decode cX3_isShared 33 = .ok (.iconst 1, 1) := dk_4 (dk_at dksX3_isShared_1 9 rfl rfl)
theorem dX3_isShared_34 : decode cX3_isShared 34 = .ok (.iload_n 1, 1) := dk_27 (dk_at dksX3_isShared_1 10 rfl rfl)
theorem dX3_isShared_35 : decode cX3_isShared 35 = .ok (.iload 4, 2) := dk_21 4 (dk_at dksX3_isShared_1 11 rfl rfl)
theorem dX3_isShared_37 : decode cX3_isShared 37 = .ok (.invokevirtual 262, 3) := dk_182 1 6 (dk_at dksX3_isShared_1 13 rfl rfl)
theorem dX3_isShared_40 : decode cX3_isShared 40 = .ok (.ior, 1) := dk_128 (dk_at dksX3_isShared_1 16 rfl rfl)
theorem dX3_isShared_41 : decode cX3_isShared 41 = .ok (.istore 5, 2) := dk_54 5 (dk_at dksX3_isShared_1 17 rfl rfl)
theorem dX3_isShared_43 : decode cX3_isShared 43 = .ok (.iload_n 2, 1) := dk_28 (dk_at dksX3_isShared_1 19 rfl rfl)
theorem dX3_isShared_44 : decode cX3_isShared 44 = .ok (.ifCond .eq 26, 3) := dk_153 0 26 (dk_at dksX3_isShared_1 20 rfl rfl)
theorem dX3_isShared_47 : decode cX3_isShared 47 = .ok (.iload_n 3, 1) := dk_29 (dk_at dksX3_isShared_1 23 rfl rfl)
theorem dX3_isShared_48 : decode cX3_isShared 48 = .ok (.iload 4, 2) := dk_21 4 (dk_at dksX3_isShared_2 0 rfl rfl)
theorem dX3_isShared_50 : decode cX3_isShared 50 = .ok (.if_icmp .eq 16, 3) := dk_159 0 16 (dk_at dksX3_isShared_2 2 rfl rfl)
theorem dX3_isShared_53 : decode cX3_isShared 53 = .ok (.aload_n 0, 1) := dk_42 (dk_at dksX3_isShared_2 5 rfl rfl)
theorem dX3_isShared_54 : decode cX3_isShared 54 = .ok (.iconst 1, 1) := dk_4 (dk_at dksX3_isShared_2 6 rfl rfl)
theorem dX3_isShared_55 : decode cX3_isShared 55 = .ok (.iload_n 1, 1) := dk_27 (dk_at dksX3_isShared_2 7 rfl rfl)
theorem dX3_isShared_56 : decode cX3_isShared 56 = .ok (.iload_n 3, 1) := dk_29 (dk_at dksX3_isShared_2 8 rfl rfl)
theorem dX3_isShared_57 : decode cX3_isShared 57 = .ok (.invokevirtual 262, 3) := dk_182 1 6 (dk_at dksX3_isShared_2 9 rfl rfl)
theorem dX3_isShared_60 : decode cX3_isShared 60 = .ok (.iload 5, 2) := dk_21 5 (dk_at dksX3_isShared_2 12 rfl rfl)
theorem dX3_isShared_62 : decode cX3_isShared 62 = .ok (.iand, 1) := dk_126 (dk_at dksX3_isShared_2 14 rfl rfl)
theorem dX3_isShared_63 : decode cX3_isShared 63 = .ok (.ifCond .ne 7, 3) := dk_154 0 7 (dk_at dksX3_isShared_2 15 rfl rfl)
theorem dX3_isShared_66 : decode cX3_isShared 66 = .ok (.iconst 1, 1) := dk_4 (dk_at dksX3_isShared_2 18 rfl rfl)
theorem dX3_isShared_67 : decode cX3_isShared 67 = .ok (.goto 4, 3) := dk_167 0 4 (dk_at dksX3_isShared_2 19 rfl rfl)
theorem dX3_isShared_70 : decode cX3_isShared 70 = .ok (.iconst 0, 1) := dk_3 (dk_at dksX3_isShared_2 22 rfl rfl)
theorem dX3_isShared_71 : decode cX3_isShared 71 = .ok (.istore_n 2, 1) := dk_61 (dk_at dksX3_isShared_2 23 rfl rfl)
theorem dX3_isShared_72 : decode cX3_isShared 72 = .ok (.iinc 4 1, 3) := dk_132 4 1 (dk_at dksX3_isShared_3 0 rfl rfl)
theorem dX3_isShared_75 : decode cX3_isShared 75 = .ok (.goto (-60), 3) := dk_167 255 196 (dk_at dksX3_isShared_3 3 rfl rfl)
theorem dX3_isShared_78 : decode cX3_isShared 78 = .ok (.iinc 3 1, 3) := dk_132 3 1 (dk_at dksX3_isShared_3 6 rfl rfl)
theorem dX3_isShared_81 : decode cX3_isShared 81 = .ok (.goto (-77), 3) := dk_167 255 179 (dk_at dksX3_isShared_3 9 rfl rfl)
theorem dX3_isShared_84 : decode cX3_isShared 84 = .ok (.iload_n 2, 1) := dk_28 (dk_at dksX3_isShared_3 12 rfl rfl)
theorem dX3_isShared_85 : decode cX3_isShared 85 = .ok (.ireturn, 1) := dk_172 (dk_at dksX3_isShared_3 13 rfl rfl)
abbrev cX3_isGathered : ByteArray := prog_18_method_74_code
def yX3_isGathered : MethodName := ⟨RX3, "isGathered", "(III)Z"⟩
def dkwX3_isGathered_4 : List UInt8 := [153, 0, 12, 21, 4, 158, 0, 7, 4, 167, 0, 4, 3, 172]
abbrev dktX3_isGathered_4 : List UInt8 := dkwX3_isGathered_4 ++ []
def dkwX3_isGathered_3 : List UInt8 := [21, 7, 160, 0, 7, 4, 167, 0, 4, 3, 54, 5, 21, 7, 54, 4, 132, 6, 1, 167, 255, 178, 21, 5]
abbrev dktX3_isGathered_3 : List UInt8 := dkwX3_isGathered_3 ++ dktX3_isGathered_4
def dkwX3_isGathered_2 : List UInt8 := [180, 0, 41, 6, 21, 6, 104, 46, 27, 160, 0, 24, 21, 7, 158, 0, 19, 21, 4, 153, 0, 10, 21, 4]
abbrev dktX3_isGathered_2 : List UInt8 := dkwX3_isGathered_2 ++ dktX3_isGathered_3
def dkwX3_isGathered_1 : List UInt8 := [182, 1, 39, 153, 0, 59, 42, 21, 6, 28, 29, 182, 0, 188, 54, 7, 21, 5, 153, 0, 37, 42]
abbrev dktX3_isGathered_1 : List UInt8 := dkwX3_isGathered_1 ++ dktX3_isGathered_2
def dkwX3_isGathered_0 : List UInt8 := [3, 54, 4, 4, 54, 5, 3, 54, 6, 21, 6, 42, 180, 0, 171, 162, 0, 75, 42, 21, 6, 27]
abbrev dktX3_isGathered_0 : List UInt8 := dkwX3_isGathered_0 ++ dktX3_isGathered_1
theorem dksX3_isGathered_0 : cX3_isGathered.data.toList.drop 0 = dktX3_isGathered_0 := by decide +kernel
theorem dksX3_isGathered_1 : cX3_isGathered.data.toList.drop 22 = dktX3_isGathered_1 := dk_seg dksX3_isGathered_0 22 rfl rfl
theorem dksX3_isGathered_2 : cX3_isGathered.data.toList.drop 44 = dktX3_isGathered_2 := dk_seg dksX3_isGathered_1 22 rfl rfl
theorem dksX3_isGathered_3 : cX3_isGathered.data.toList.drop 68 = dktX3_isGathered_3 := dk_seg dksX3_isGathered_2 24 rfl rfl
theorem dksX3_isGathered_4 : cX3_isGathered.data.toList.drop 92 = dktX3_isGathered_4 := dk_seg dksX3_isGathered_3 24 rfl rfl
theorem dX3_isGathered_0 : decode cX3_isGathered 0 = .ok (.iconst 0, 1) := dk_3 (dk_at dksX3_isGathered_0 0 rfl rfl)
theorem dX3_isGathered_1 : decode cX3_isGathered 1 = .ok (.istore 4, 2) := dk_54 4 (dk_at dksX3_isGathered_0 1 rfl rfl)
theorem dX3_isGathered_3 : decode cX3_isGathered 3 = .ok (.iconst 1, 1) := dk_4 (dk_at dksX3_isGathered_0 3 rfl rfl)
theorem dX3_isGathered_4 : decode cX3_isGathered 4 = .ok (.istore 5, 2) := dk_54 5 (dk_at dksX3_isGathered_0 4 rfl rfl)
theorem dX3_isGathered_6 : decode cX3_isGathered 6 = .ok (.iconst 0, 1) := dk_3 (dk_at dksX3_isGathered_0 6 rfl rfl)
theorem dX3_isGathered_7 : decode cX3_isGathered 7 = .ok (.istore 6, 2) := dk_54 6 (dk_at dksX3_isGathered_0 7 rfl rfl)
theorem dX3_isGathered_9 : decode cX3_isGathered 9 = .ok (.iload 6, 2) := dk_21 6 (dk_at dksX3_isGathered_0 9 rfl rfl)
theorem dX3_isGathered_11 : decode cX3_isGathered 11 = .ok (.aload_n 0, 1) := dk_42 (dk_at dksX3_isGathered_0 11 rfl rfl)
theorem dX3_isGathered_12 : decode cX3_isGathered 12 = .ok (.getfield 171, 3) := dk_180 0 171 (dk_at dksX3_isGathered_0 12 rfl rfl)
theorem dX3_isGathered_15 : decode cX3_isGathered 15 = .ok (.if_icmp .ge 75, 3) := dk_162 0 75 (dk_at dksX3_isGathered_0 15 rfl rfl)
theorem dX3_isGathered_18 : decode cX3_isGathered 18 = .ok (.aload_n 0, 1) := dk_42 (dk_at dksX3_isGathered_0 18 rfl rfl)
theorem dX3_isGathered_19 : decode cX3_isGathered 19 = .ok (.iload 6, 2) := dk_21 6 (dk_at dksX3_isGathered_0 19 rfl rfl)
theorem dX3_isGathered_21 : decode cX3_isGathered 21 = .ok (.iload_n 1, 1) := dk_27 (dk_at dksX3_isGathered_0 21 rfl rfl)
theorem dX3_isGathered_22 : decode cX3_isGathered 22 = .ok (.invokevirtual 295, 3) := dk_182 1 39 (dk_at dksX3_isGathered_1 0 rfl rfl)
theorem dX3_isGathered_25 : decode cX3_isGathered 25 = .ok (.ifCond .eq 59, 3) := dk_153 0 59 (dk_at dksX3_isGathered_1 3 rfl rfl)
theorem dX3_isGathered_28 : decode cX3_isGathered 28 = .ok (.aload_n 0, 1) := dk_42 (dk_at dksX3_isGathered_1 6 rfl rfl)
theorem dX3_isGathered_29 : decode cX3_isGathered 29 = .ok (.iload 6, 2) := dk_21 6 (dk_at dksX3_isGathered_1 7 rfl rfl)
theorem dX3_isGathered_31 : decode cX3_isGathered 31 = .ok (.iload_n 2, 1) := dk_28 (dk_at dksX3_isGathered_1 9 rfl rfl)
theorem dX3_isGathered_32 : decode cX3_isGathered 32 = .ok (.iload_n 3, 1) := dk_29 (dk_at dksX3_isGathered_1 10 rfl rfl)
theorem dX3_isGathered_33 : decode cX3_isGathered 33 = .ok (.invokevirtual 188, 3) := dk_182 0 188 (dk_at dksX3_isGathered_1 11 rfl rfl)
theorem dX3_isGathered_36 : decode cX3_isGathered 36 = .ok (.istore 7, 2) := dk_54 7 (dk_at dksX3_isGathered_1 14 rfl rfl)
theorem dX3_isGathered_38 : decode cX3_isGathered 38 = .ok (.iload 5, 2) := dk_21 5 (dk_at dksX3_isGathered_1 16 rfl rfl)
theorem dX3_isGathered_40 : decode cX3_isGathered 40 = .ok (.ifCond .eq 37, 3) := dk_153 0 37 (dk_at dksX3_isGathered_1 18 rfl rfl)
theorem dX3_isGathered_43 : decode cX3_isGathered 43 = .ok (.aload_n 0, 1) := dk_42 (dk_at dksX3_isGathered_1 21 rfl rfl)
theorem dX3_isGathered_44 : decode cX3_isGathered 44 = .ok (.getfield 41, 3) := dk_180 0 41 (dk_at dksX3_isGathered_2 0 rfl rfl)
theorem dX3_isGathered_47 : decode cX3_isGathered 47 = .ok (.iconst 3, 1) := dk_6 (dk_at dksX3_isGathered_2 3 rfl rfl)
theorem dX3_isGathered_48 : decode cX3_isGathered 48 = .ok (.iload 6, 2) := dk_21 6 (dk_at dksX3_isGathered_2 4 rfl rfl)
theorem dX3_isGathered_50 : decode cX3_isGathered 50 = .ok (.imul, 1) := dk_104 (dk_at dksX3_isGathered_2 6 rfl rfl)
theorem dX3_isGathered_51 : decode cX3_isGathered 51 = .ok (.iaload, 1) := dk_46 (dk_at dksX3_isGathered_2 7 rfl rfl)
theorem dX3_isGathered_52 : decode cX3_isGathered 52 = .ok (.iload_n 1, 1) := dk_27 (dk_at dksX3_isGathered_2 8 rfl rfl)
theorem dX3_isGathered_53 : decode cX3_isGathered 53 = .ok (.if_icmp .ne 24, 3) := dk_160 0 24 (dk_at dksX3_isGathered_2 9 rfl rfl)
theorem dX3_isGathered_56 : decode cX3_isGathered 56 = .ok (.iload 7, 2) := dk_21 7 (dk_at dksX3_isGathered_2 12 rfl rfl)
theorem dX3_isGathered_58 : decode cX3_isGathered 58 = .ok (.ifCond .le 19, 3) := dk_158 0 19 (dk_at dksX3_isGathered_2 14 rfl rfl)
theorem dX3_isGathered_61 : decode cX3_isGathered 61 = .ok (.iload 4, 2) := dk_21 4 (dk_at dksX3_isGathered_2 17 rfl rfl)
theorem dX3_isGathered_63 : decode cX3_isGathered 63 = .ok (.ifCond .eq 10, 3) := dk_153 0 10 (dk_at dksX3_isGathered_2 19 rfl rfl)
theorem dX3_isGathered_66 : decode cX3_isGathered 66 = .ok (.iload 4, 2) := dk_21 4 (dk_at dksX3_isGathered_2 22 rfl rfl)
theorem dX3_isGathered_68 : decode cX3_isGathered 68 = .ok (.iload 7, 2) := dk_21 7 (dk_at dksX3_isGathered_3 0 rfl rfl)
theorem dX3_isGathered_70 : decode cX3_isGathered 70 = .ok (.if_icmp .ne 7, 3) := dk_160 0 7 (dk_at dksX3_isGathered_3 2 rfl rfl)
theorem dX3_isGathered_73 : decode cX3_isGathered 73 = .ok (.iconst 1, 1) := dk_4 (dk_at dksX3_isGathered_3 5 rfl rfl)
theorem dX3_isGathered_74 : decode cX3_isGathered 74 = .ok (.goto 4, 3) := dk_167 0 4 (dk_at dksX3_isGathered_3 6 rfl rfl)
theorem dX3_isGathered_77 : decode cX3_isGathered 77 = .ok (.iconst 0, 1) := dk_3 (dk_at dksX3_isGathered_3 9 rfl rfl)
theorem dX3_isGathered_78 : decode cX3_isGathered 78 = .ok (.istore 5, 2) := dk_54 5 (dk_at dksX3_isGathered_3 10 rfl rfl)
theorem dX3_isGathered_80 : decode cX3_isGathered 80 = .ok (.iload 7, 2) := dk_21 7 (dk_at dksX3_isGathered_3 12 rfl rfl)
theorem dX3_isGathered_82 : decode cX3_isGathered 82 = .ok (.istore 4, 2) := dk_54 4 (dk_at dksX3_isGathered_3 14 rfl rfl)
theorem dX3_isGathered_84 : decode cX3_isGathered 84 = .ok (.iinc 6 1, 3) := dk_132 6 1 (dk_at dksX3_isGathered_3 16 rfl rfl)
theorem dX3_isGathered_87 : decode cX3_isGathered 87 = .ok (.goto (-78), 3) := dk_167 255 178 (dk_at dksX3_isGathered_3 19 rfl rfl)
theorem dX3_isGathered_90 : decode cX3_isGathered 90 = .ok (.iload 5, 2) := dk_21 5 (dk_at dksX3_isGathered_3 22 rfl rfl)
theorem dX3_isGathered_92 : decode cX3_isGathered 92 = .ok (.ifCond .eq 12, 3) := dk_153 0 12 (dk_at dksX3_isGathered_4 0 rfl rfl)
theorem dX3_isGathered_95 : decode cX3_isGathered 95 = .ok (.iload 4, 2) := dk_21 4 (dk_at dksX3_isGathered_4 3 rfl rfl)
theorem dX3_isGathered_97 : decode cX3_isGathered 97 = .ok (.ifCond .le 7, 3) := dk_158 0 7 (dk_at dksX3_isGathered_4 5 rfl rfl)
theorem dX3_isGathered_100 : decode cX3_isGathered 100 = .ok (.iconst 1, 1) := dk_4 (dk_at dksX3_isGathered_4 8 rfl rfl)
theorem dX3_isGathered_101 : decode cX3_isGathered 101 = .ok (.goto 4, 3) := dk_167 0 4 (dk_at dksX3_isGathered_4 9 rfl rfl)
theorem dX3_isGathered_104 : decode cX3_isGathered 104 = .ok (.iconst 0, 1) := dk_3 (dk_at dksX3_isGathered_4 12 rfl rfl)
theorem dX3_isGathered_105 : decode cX3_isGathered 105 = .ok (.ireturn, 1) := dk_172 (dk_at dksX3_isGathered_4 13 rfl rfl)
abbrev cX3_isAbout : ByteArray := prog_18_method_73_code
def yX3_isAbout : MethodName := ⟨RX3, "isAbout", "(II)Z"⟩
def dkwX3_isAbout_2 : List UInt8 := [16, 9, 159, 0, 7, 4, 167, 0, 4, 3, 172]
abbrev dktX3_isAbout_2 : List UInt8 := dkwX3_isAbout_2 ++ []
def dkwX3_isAbout_1 : List UInt8 := [159, 0, 28, 42, 180, 0, 41, 6, 27, 104, 5, 96, 46, 28, 160, 0, 18, 42, 180, 0, 26, 27, 46]
abbrev dktX3_isAbout_1 : List UInt8 := dkwX3_isAbout_1 ++ dktX3_isAbout_2
def dkwX3_isAbout_0 : List UInt8 := [42, 180, 0, 41, 6, 27, 104, 46, 28, 159, 0, 42, 42, 180, 0, 41, 6, 27, 104, 4, 96, 46, 28]
abbrev dktX3_isAbout_0 : List UInt8 := dkwX3_isAbout_0 ++ dktX3_isAbout_1
theorem dksX3_isAbout_0 : cX3_isAbout.data.toList.drop 0 = dktX3_isAbout_0 := by decide +kernel
theorem dksX3_isAbout_1 : cX3_isAbout.data.toList.drop 23 = dktX3_isAbout_1 := dk_seg dksX3_isAbout_0 23 rfl rfl
theorem dksX3_isAbout_2 : cX3_isAbout.data.toList.drop 46 = dktX3_isAbout_2 := dk_seg dksX3_isAbout_1 23 rfl rfl
theorem dX3_isAbout_0 : decode cX3_isAbout 0 = .ok (.aload_n 0, 1) := dk_42 (dk_at dksX3_isAbout_0 0 rfl rfl)
theorem dX3_isAbout_1 : decode cX3_isAbout 1 = .ok (.getfield 41, 3) := dk_180 0 41 (dk_at dksX3_isAbout_0 1 rfl rfl)
theorem dX3_isAbout_4 : decode cX3_isAbout 4 = .ok (.iconst 3, 1) := dk_6 (dk_at dksX3_isAbout_0 4 rfl rfl)
theorem dX3_isAbout_5 : decode cX3_isAbout 5 = .ok (.iload_n 1, 1) := dk_27 (dk_at dksX3_isAbout_0 5 rfl rfl)
theorem dX3_isAbout_6 : decode cX3_isAbout 6 = .ok (.imul, 1) := dk_104 (dk_at dksX3_isAbout_0 6 rfl rfl)
theorem dX3_isAbout_7 : decode cX3_isAbout 7 = .ok (.iaload, 1) := dk_46 (dk_at dksX3_isAbout_0 7 rfl rfl)
theorem dX3_isAbout_8 : decode cX3_isAbout 8 = .ok (.iload_n 2, 1) := dk_28 (dk_at dksX3_isAbout_0 8 rfl rfl)
theorem dX3_isAbout_9 : decode cX3_isAbout 9 = .ok (.if_icmp .eq 42, 3) := dk_159 0 42 (dk_at dksX3_isAbout_0 9 rfl rfl)
theorem dX3_isAbout_12 : decode cX3_isAbout 12 = .ok (.aload_n 0, 1) := dk_42 (dk_at dksX3_isAbout_0 12 rfl rfl)
theorem dX3_isAbout_13 : decode cX3_isAbout 13 = .ok (.getfield 41, 3) := dk_180 0 41 (dk_at dksX3_isAbout_0 13 rfl rfl)
theorem dX3_isAbout_16 : decode cX3_isAbout 16 = .ok (.iconst 3, 1) := dk_6 (dk_at dksX3_isAbout_0 16 rfl rfl)
theorem dX3_isAbout_17 : decode cX3_isAbout 17 = .ok (.iload_n 1, 1) := dk_27 (dk_at dksX3_isAbout_0 17 rfl rfl)
theorem dX3_isAbout_18 : decode cX3_isAbout 18 = .ok (.imul, 1) := dk_104 (dk_at dksX3_isAbout_0 18 rfl rfl)
theorem dX3_isAbout_19 : decode cX3_isAbout 19 = .ok (.iconst 1, 1) := dk_4 (dk_at dksX3_isAbout_0 19 rfl rfl)
theorem dX3_isAbout_20 : decode cX3_isAbout 20 = .ok (.iadd, 1) := dk_96 (dk_at dksX3_isAbout_0 20 rfl rfl)
theorem dX3_isAbout_21 : decode cX3_isAbout 21 = .ok (.iaload, 1) := dk_46 (dk_at dksX3_isAbout_0 21 rfl rfl)
theorem dX3_isAbout_22 : decode cX3_isAbout 22 = .ok (.iload_n 2, 1) := dk_28 (dk_at dksX3_isAbout_0 22 rfl rfl)
theorem dX3_isAbout_23 : decode cX3_isAbout 23 = .ok (.if_icmp .eq 28, 3) := dk_159 0 28 (dk_at dksX3_isAbout_1 0 rfl rfl)
theorem dX3_isAbout_26 : decode cX3_isAbout 26 = .ok (.aload_n 0, 1) := dk_42 (dk_at dksX3_isAbout_1 3 rfl rfl)
theorem dX3_isAbout_27 : decode cX3_isAbout 27 = .ok (.getfield 41, 3) := dk_180 0 41 (dk_at dksX3_isAbout_1 4 rfl rfl)
theorem dX3_isAbout_30 : decode cX3_isAbout 30 = .ok (.iconst 3, 1) := dk_6 (dk_at dksX3_isAbout_1 7 rfl rfl)
theorem dX3_isAbout_31 : decode cX3_isAbout 31 = .ok (.iload_n 1, 1) := dk_27 (dk_at dksX3_isAbout_1 8 rfl rfl)
theorem dX3_isAbout_32 : decode cX3_isAbout 32 = .ok (.imul, 1) := dk_104 (dk_at dksX3_isAbout_1 9 rfl rfl)
theorem dX3_isAbout_33 : decode cX3_isAbout 33 = .ok (.iconst 2, 1) := dk_5 (dk_at dksX3_isAbout_1 10 rfl rfl)
theorem dX3_isAbout_34 : decode cX3_isAbout 34 = .ok (.iadd, 1) := dk_96 (dk_at dksX3_isAbout_1 11 rfl rfl)
theorem dX3_isAbout_35 : decode cX3_isAbout 35 = .ok (.iaload, 1) := dk_46 (dk_at dksX3_isAbout_1 12 rfl rfl)
theorem dX3_isAbout_36 : decode cX3_isAbout 36 = .ok (.iload_n 2, 1) := dk_28 (dk_at dksX3_isAbout_1 13 rfl rfl)
theorem dX3_isAbout_37 : decode cX3_isAbout 37 = .ok (.if_icmp .ne 18, 3) := dk_160 0 18 (dk_at dksX3_isAbout_1 14 rfl rfl)
theorem dX3_isAbout_40 : decode cX3_isAbout 40 = .ok (.aload_n 0, 1) := dk_42 (dk_at dksX3_isAbout_1 17 rfl rfl)
theorem dX3_isAbout_41 : decode cX3_isAbout 41 = .ok (.getfield 26, 3) := dk_180 0 26 (dk_at dksX3_isAbout_1 18 rfl rfl)
theorem dX3_isAbout_44 : decode cX3_isAbout 44 = .ok (.iload_n 1, 1) := dk_27 (dk_at dksX3_isAbout_1 21 rfl rfl)
theorem dX3_isAbout_45 : decode cX3_isAbout 45 = .ok (.iaload, 1) := dk_46 (dk_at dksX3_isAbout_1 22 rfl rfl)
theorem dX3_isAbout_46 : decode cX3_isAbout 46 = .ok (.bipush 9, 2) := dk_16 9 (dk_at dksX3_isAbout_2 0 rfl rfl)
theorem dX3_isAbout_48 : decode cX3_isAbout 48 = .ok (.if_icmp .eq 7, 3) := dk_159 0 7 (dk_at dksX3_isAbout_2 2 rfl rfl)
theorem dX3_isAbout_51 : decode cX3_isAbout 51 = .ok (.iconst 1, 1) := dk_4 (dk_at dksX3_isAbout_2 5 rfl rfl)
theorem dX3_isAbout_52 : decode cX3_isAbout 52 = .ok (.goto 4, 3) := dk_167 0 4 (dk_at dksX3_isAbout_2 6 rfl rfl)
theorem dX3_isAbout_55 : decode cX3_isAbout 55 = .ok (.iconst 0, 1) := dk_3 (dk_at dksX3_isAbout_2 9 rfl rfl)
theorem dX3_isAbout_56 : decode cX3_isAbout 56 = .ok (.ireturn, 1) := dk_172 (dk_at dksX3_isAbout_2 10 rfl rfl)
abbrev cX3_isCopied : ByteArray := prog_18_method_75_code
def yX3_isCopied : MethodName := ⟨RX3, "isCopied", "(I)Z"⟩
def dkwX3_isCopied_2 : List UInt8 := [182, 1, 6, 128, 62, 132, 4, 1, 167, 255, 210, 28, 172]
abbrev dktX3_isCopied_2 : List UInt8 := dkwX3_isCopied_2 ++ []
def dkwX3_isCopied_1 : List UInt8 := [21, 4, 182, 1, 6, 29, 126, 154, 0, 7, 4, 167, 0, 4, 3, 61, 29, 42, 4, 27, 21, 4]
abbrev dktX3_isCopied_1 : List UInt8 := dkwX3_isCopied_1 ++ dktX3_isCopied_2
def dkwX3_isCopied_0 : List UInt8 := [4, 61, 3, 62, 3, 54, 4, 21, 4, 42, 180, 0, 154, 162, 0, 43, 28, 153, 0, 20, 42, 6, 27]
abbrev dktX3_isCopied_0 : List UInt8 := dkwX3_isCopied_0 ++ dktX3_isCopied_1
theorem dksX3_isCopied_0 : cX3_isCopied.data.toList.drop 0 = dktX3_isCopied_0 := by decide +kernel
theorem dksX3_isCopied_1 : cX3_isCopied.data.toList.drop 23 = dktX3_isCopied_1 := dk_seg dksX3_isCopied_0 23 rfl rfl
theorem dksX3_isCopied_2 : cX3_isCopied.data.toList.drop 45 = dktX3_isCopied_2 := dk_seg dksX3_isCopied_1 22 rfl rfl
theorem dX3_isCopied_0 : decode cX3_isCopied 0 = .ok (.iconst 1, 1) := dk_4 (dk_at dksX3_isCopied_0 0 rfl rfl)
theorem dX3_isCopied_1 : decode cX3_isCopied 1 = .ok (.istore_n 2, 1) := dk_61 (dk_at dksX3_isCopied_0 1 rfl rfl)
theorem dX3_isCopied_2 : decode cX3_isCopied 2 = .ok (.iconst 0, 1) := dk_3 (dk_at dksX3_isCopied_0 2 rfl rfl)
theorem dX3_isCopied_3 : decode cX3_isCopied 3 = .ok (.istore_n 3, 1) := dk_62 (dk_at dksX3_isCopied_0 3 rfl rfl)
theorem dX3_isCopied_4 : decode cX3_isCopied 4 = .ok (.iconst 0, 1) := dk_3 (dk_at dksX3_isCopied_0 4 rfl rfl)
theorem dX3_isCopied_5 : decode cX3_isCopied 5 = .ok (.istore 4, 2) := dk_54 4 (dk_at dksX3_isCopied_0 5 rfl rfl)
theorem dX3_isCopied_7 : decode cX3_isCopied 7 = .ok (.iload 4, 2) := dk_21 4 (dk_at dksX3_isCopied_0 7 rfl rfl)
theorem dX3_isCopied_9 : decode cX3_isCopied 9 = .ok (.aload_n 0, 1) := dk_42 (dk_at dksX3_isCopied_0 9 rfl rfl)
theorem dX3_isCopied_10 : decode cX3_isCopied 10 = .ok (.getfield 154, 3) := dk_180 0 154 (dk_at dksX3_isCopied_0 10 rfl rfl)
theorem dX3_isCopied_13 : decode cX3_isCopied 13 = .ok (.if_icmp .ge 43, 3) := dk_162 0 43 (dk_at dksX3_isCopied_0 13 rfl rfl)
theorem dX3_isCopied_16 : decode cX3_isCopied 16 = .ok (.iload_n 2, 1) := dk_28 (dk_at dksX3_isCopied_0 16 rfl rfl)
theorem dX3_isCopied_17 : decode cX3_isCopied 17 = .ok (.ifCond .eq 20, 3) := dk_153 0 20 (dk_at dksX3_isCopied_0 17 rfl rfl)
theorem dX3_isCopied_20 : decode cX3_isCopied 20 = .ok (.aload_n 0, 1) := dk_42 (dk_at dksX3_isCopied_0 20 rfl rfl)
theorem dX3_isCopied_21 : decode cX3_isCopied 21 = .ok (.iconst 3, 1) := dk_6 (dk_at dksX3_isCopied_0 21 rfl rfl)
theorem dX3_isCopied_22 : decode cX3_isCopied 22 = .ok (.iload_n 1, 1) := dk_27 (dk_at dksX3_isCopied_0 22 rfl rfl)
theorem dX3_isCopied_23 : decode cX3_isCopied 23 = .ok (.iload 4, 2) := dk_21 4 (dk_at dksX3_isCopied_1 0 rfl rfl)
theorem dX3_isCopied_25 : decode cX3_isCopied 25 = .ok (.invokevirtual 262, 3) := dk_182 1 6 (dk_at dksX3_isCopied_1 2 rfl rfl)
theorem dX3_isCopied_28 : decode cX3_isCopied 28 = .ok (.iload_n 3, 1) := dk_29 (dk_at dksX3_isCopied_1 5 rfl rfl)
theorem dX3_isCopied_29 : decode cX3_isCopied 29 = .ok (.iand, 1) := dk_126 (dk_at dksX3_isCopied_1 6 rfl rfl)
theorem dX3_isCopied_30 : decode cX3_isCopied 30 = .ok (.ifCond .ne 7, 3) := dk_154 0 7 (dk_at dksX3_isCopied_1 7 rfl rfl)
theorem dX3_isCopied_33 : decode cX3_isCopied 33 = .ok (.iconst 1, 1) := dk_4 (dk_at dksX3_isCopied_1 10 rfl rfl)
theorem dX3_isCopied_34 : decode cX3_isCopied 34 = .ok (.goto 4, 3) := dk_167 0 4 (dk_at dksX3_isCopied_1 11 rfl rfl)
theorem dX3_isCopied_37 : decode cX3_isCopied 37 = .ok (.iconst 0, 1) := dk_3 (dk_at dksX3_isCopied_1 14 rfl rfl)
theorem dX3_isCopied_38 : decode cX3_isCopied 38 = .ok (.istore_n 2, 1) := dk_61 (dk_at dksX3_isCopied_1 15 rfl rfl)
theorem dX3_isCopied_39 : decode cX3_isCopied 39 = .ok (.iload_n 3, 1) := dk_29 (dk_at dksX3_isCopied_1 16 rfl rfl)
theorem dX3_isCopied_40 : decode cX3_isCopied 40 = .ok (.aload_n 0, 1) := dk_42 (dk_at dksX3_isCopied_1 17 rfl rfl)
theorem dX3_isCopied_41 : decode cX3_isCopied 41 = .ok (.iconst 1, 1) := dk_4 (dk_at dksX3_isCopied_1 18 rfl rfl)
theorem dX3_isCopied_42 : decode cX3_isCopied 42 = .ok (.iload_n 1, 1) := dk_27 (dk_at dksX3_isCopied_1 19 rfl rfl)
theorem dX3_isCopied_43 : decode cX3_isCopied 43 = .ok (.iload 4, 2) := dk_21 4 (dk_at dksX3_isCopied_1 20 rfl rfl)
theorem dX3_isCopied_45 : decode cX3_isCopied 45 = .ok (.invokevirtual 262, 3) := dk_182 1 6 (dk_at dksX3_isCopied_2 0 rfl rfl)
theorem dX3_isCopied_48 : decode cX3_isCopied 48 = .ok (.ior, 1) := dk_128 (dk_at dksX3_isCopied_2 3 rfl rfl)
theorem dX3_isCopied_49 : decode cX3_isCopied 49 = .ok (.istore_n 3, 1) := dk_62 (dk_at dksX3_isCopied_2 4 rfl rfl)
theorem dX3_isCopied_50 : decode cX3_isCopied 50 = .ok (.iinc 4 1, 3) := dk_132 4 1 (dk_at dksX3_isCopied_2 5 rfl rfl)
theorem dX3_isCopied_53 : decode cX3_isCopied 53 = .ok (.goto (-46), 3) := dk_167 255 210 (dk_at dksX3_isCopied_2 8 rfl rfl)
theorem dX3_isCopied_56 : decode cX3_isCopied 56 = .ok (.iload_n 2, 1) := dk_28 (dk_at dksX3_isCopied_2 11 rfl rfl)
theorem dX3_isCopied_57 : decode cX3_isCopied 57 = .ok (.ireturn, 1) := dk_172 (dk_at dksX3_isCopied_2 12 rfl rfl)
abbrev cX3_would : ByteArray := prog_18_method_79_code
def yX3_would : MethodName := ⟨RX3, "would", "(II)I"⟩
def dkwX3_would_2 : List UInt8 := [16, 253, 167, 0, 10, 42, 27, 27, 28, 182, 1, 54, 172]
abbrev dktX3_would_2 : List UInt8 := dkwX3_would_2 ++ []
def dkwX3_would_1 : List UInt8 := [46, 2, 160, 0, 11, 42, 4, 182, 0, 126, 167, 0, 25, 42, 180, 0, 7, 27, 46, 7, 160, 0, 8]
abbrev dktX3_would_1 : List UInt8 := dkwX3_would_1 ++ dktX3_would_2
def dkwX3_would_0 : List UInt8 := [27, 184, 0, 122, 153, 0, 12, 28, 3, 6, 184, 0, 114, 154, 0, 6, 16, 254, 172, 42, 180, 0, 7, 27]
abbrev dktX3_would_0 : List UInt8 := dkwX3_would_0 ++ dktX3_would_1
theorem dksX3_would_0 : cX3_would.data.toList.drop 0 = dktX3_would_0 := by decide +kernel
theorem dksX3_would_1 : cX3_would.data.toList.drop 24 = dktX3_would_1 := dk_seg dksX3_would_0 24 rfl rfl
theorem dksX3_would_2 : cX3_would.data.toList.drop 47 = dktX3_would_2 := dk_seg dksX3_would_1 23 rfl rfl
theorem dX3_would_0 : decode cX3_would 0 = .ok (.iload_n 1, 1) := dk_27 (dk_at dksX3_would_0 0 rfl rfl)
theorem dX3_would_1 : decode cX3_would 1 = .ok (.invokestatic 122, 3) := dk_184 0 122 (dk_at dksX3_would_0 1 rfl rfl)
theorem dX3_would_4 : decode cX3_would 4 = .ok (.ifCond .eq 12, 3) := dk_153 0 12 (dk_at dksX3_would_0 4 rfl rfl)
theorem dX3_would_7 : decode cX3_would 7 = .ok (.iload_n 2, 1) := dk_28 (dk_at dksX3_would_0 7 rfl rfl)
theorem dX3_would_8 : decode cX3_would 8 = .ok (.iconst 0, 1) := dk_3 (dk_at dksX3_would_0 8 rfl rfl)
theorem dX3_would_9 : decode cX3_would 9 = .ok (.iconst 3, 1) := dk_6 (dk_at dksX3_would_0 9 rfl rfl)
theorem dX3_would_10 : decode cX3_would 10 = .ok (.invokestatic 114, 3) := dk_184 0 114 (dk_at dksX3_would_0 10 rfl rfl)
theorem dX3_would_13 : decode cX3_would 13 = .ok (.ifCond .ne 6, 3) := dk_154 0 6 (dk_at dksX3_would_0 13 rfl rfl)
theorem dX3_would_16 : decode cX3_would 16 = .ok (.bipush (-2), 2) := dk_16 254 (dk_at dksX3_would_0 16 rfl rfl)
theorem dX3_would_18 : decode cX3_would 18 = .ok (.ireturn, 1) := dk_172 (dk_at dksX3_would_0 18 rfl rfl)
theorem dX3_would_19 : decode cX3_would 19 = .ok (.aload_n 0, 1) := dk_42 (dk_at dksX3_would_0 19 rfl rfl)
theorem dX3_would_20 : decode cX3_would 20 = .ok (.getfield 7, 3) := dk_180 0 7 (dk_at dksX3_would_0 20 rfl rfl)
theorem dX3_would_23 : decode cX3_would 23 = .ok (.iload_n 1, 1) := dk_27 (dk_at dksX3_would_0 23 rfl rfl)
theorem dX3_would_24 : decode cX3_would 24 = .ok (.iaload, 1) := dk_46 (dk_at dksX3_would_1 0 rfl rfl)
theorem dX3_would_25 : decode cX3_would 25 = .ok (.iconst (-1), 1) := dk_2 (dk_at dksX3_would_1 1 rfl rfl)
theorem dX3_would_26 : decode cX3_would 26 = .ok (.if_icmp .ne 11, 3) := dk_160 0 11 (dk_at dksX3_would_1 2 rfl rfl)
theorem dX3_would_29 : decode cX3_would 29 = .ok (.aload_n 0, 1) := dk_42 (dk_at dksX3_would_1 5 rfl rfl)
theorem dX3_would_30 : decode cX3_would 30 = .ok (.iconst 1, 1) := dk_4 (dk_at dksX3_would_1 6 rfl rfl)
theorem dX3_would_31 : decode cX3_would 31 = .ok (.invokevirtual 126, 3) := dk_182 0 126 (dk_at dksX3_would_1 7 rfl rfl)
theorem dX3_would_34 : decode cX3_would 34 = .ok (.goto 25, 3) := dk_167 0 25 (dk_at dksX3_would_1 10 rfl rfl)
theorem dX3_would_37 : decode cX3_would 37 = .ok (.aload_n 0, 1) := dk_42 (dk_at dksX3_would_1 13 rfl rfl)
theorem dX3_would_38 : decode cX3_would 38 = .ok (.getfield 7, 3) := dk_180 0 7 (dk_at dksX3_would_1 14 rfl rfl)
theorem dX3_would_41 : decode cX3_would 41 = .ok (.iload_n 1, 1) := dk_27 (dk_at dksX3_would_1 17 rfl rfl)
theorem dX3_would_42 : decode cX3_would 42 = .ok (.iaload, 1) := dk_46 (dk_at dksX3_would_1 18 rfl rfl)
theorem dX3_would_43 : decode cX3_would 43 = .ok (.iconst 4, 1) := dk_7 (dk_at dksX3_would_1 19 rfl rfl)
theorem dX3_would_44 : decode cX3_would 44 = .ok (.if_icmp .ne 8, 3) := dk_160 0 8 (dk_at dksX3_would_1 20 rfl rfl)
theorem dX3_would_47 : decode cX3_would 47 = .ok (.bipush (-3), 2) := dk_16 253 (dk_at dksX3_would_2 0 rfl rfl)
theorem dX3_would_49 : decode cX3_would 49 = .ok (.goto 10, 3) := dk_167 0 10 (dk_at dksX3_would_2 2 rfl rfl)
theorem dX3_would_52 : decode cX3_would 52 = .ok (.aload_n 0, 1) := dk_42 (dk_at dksX3_would_2 5 rfl rfl)
theorem dX3_would_53 : decode cX3_would 53 = .ok (.iload_n 1, 1) := dk_27 (dk_at dksX3_would_2 6 rfl rfl)
theorem dX3_would_54 : decode cX3_would 54 = .ok (.iload_n 1, 1) := dk_27 (dk_at dksX3_would_2 7 rfl rfl)
theorem dX3_would_55 : decode cX3_would 55 = .ok (.iload_n 2, 1) := dk_28 (dk_at dksX3_would_2 8 rfl rfl)
theorem dX3_would_56 : decode cX3_would 56 = .ok (.invokevirtual 310, 3) := dk_182 1 54 (dk_at dksX3_would_2 9 rfl rfl)
theorem dX3_would_59 : decode cX3_would 59 = .ok (.ireturn, 1) := dk_172 (dk_at dksX3_would_2 12 rfl rfl)
abbrev cX3_witness : ByteArray := prog_18_method_82_code
def yX3_witness : MethodName := ⟨RX3, "witness", "(II)I"⟩
def dkwX3_witness_1 : List UInt8 := [167, 0, 5, 16, 254, 172]
abbrev dktX3_witness_1 : List UInt8 := dkwX3_witness_1 ++ []
def dkwX3_witness_0 : List UInt8 := [27, 184, 0, 122, 153, 0, 21, 28, 3, 5, 184, 0, 114, 153, 0, 12, 42, 27, 28, 182, 1, 60]
abbrev dktX3_witness_0 : List UInt8 := dkwX3_witness_0 ++ dktX3_witness_1
theorem dksX3_witness_0 : cX3_witness.data.toList.drop 0 = dktX3_witness_0 := by decide +kernel
theorem dksX3_witness_1 : cX3_witness.data.toList.drop 22 = dktX3_witness_1 := dk_seg dksX3_witness_0 22 rfl rfl
theorem dX3_witness_0 : decode cX3_witness 0 = .ok (.iload_n 1, 1) := dk_27 (dk_at dksX3_witness_0 0 rfl rfl)
theorem dX3_witness_1 : decode cX3_witness 1 = .ok (.invokestatic 122, 3) := dk_184 0 122 (dk_at dksX3_witness_0 1 rfl rfl)
theorem dX3_witness_4 : decode cX3_witness 4 = .ok (.ifCond .eq 21, 3) := dk_153 0 21 (dk_at dksX3_witness_0 4 rfl rfl)
theorem dX3_witness_7 : decode cX3_witness 7 = .ok (.iload_n 2, 1) := dk_28 (dk_at dksX3_witness_0 7 rfl rfl)
theorem dX3_witness_8 : decode cX3_witness 8 = .ok (.iconst 0, 1) := dk_3 (dk_at dksX3_witness_0 8 rfl rfl)
theorem dX3_witness_9 : decode cX3_witness 9 = .ok (.iconst 2, 1) := dk_5 (dk_at dksX3_witness_0 9 rfl rfl)
theorem dX3_witness_10 : decode cX3_witness 10 = .ok (.invokestatic 114, 3) := dk_184 0 114 (dk_at dksX3_witness_0 10 rfl rfl)
theorem dX3_witness_13 : decode cX3_witness 13 = .ok (.ifCond .eq 12, 3) := dk_153 0 12 (dk_at dksX3_witness_0 13 rfl rfl)
theorem dX3_witness_16 : decode cX3_witness 16 = .ok (.aload_n 0, 1) := dk_42 (dk_at dksX3_witness_0 16 rfl rfl)
theorem dX3_witness_17 : decode cX3_witness 17 = .ok (.iload_n 1, 1) := dk_27 (dk_at dksX3_witness_0 17 rfl rfl)
theorem dX3_witness_18 : decode cX3_witness 18 = .ok (.iload_n 2, 1) := dk_28 (dk_at dksX3_witness_0 18 rfl rfl)
theorem dX3_witness_19 : decode cX3_witness 19 = .ok (.invokevirtual 316, 3) := dk_182 1 60 (dk_at dksX3_witness_0 19 rfl rfl)
theorem dX3_witness_22 : decode cX3_witness 22 = .ok (.goto 5, 3) := dk_167 0 5 (dk_at dksX3_witness_1 0 rfl rfl)
theorem dX3_witness_25 : decode cX3_witness 25 = .ok (.bipush (-2), 2) := dk_16 254 (dk_at dksX3_witness_1 3 rfl rfl)
theorem dX3_witness_27 : decode cX3_witness 27 = .ok (.ireturn, 1) := dk_172 (dk_at dksX3_witness_1 5 rfl rfl)
abbrev cX3_witnessOf : ByteArray := prog_18_method_81_code
def yX3_witnessOf : MethodName := ⟨RX3, "witnessOf", "(II)I"⟩
def dkwX3_witnessOf_5 : List UInt8 := [132, 4, 1, 167, 255, 144, 2, 172]
abbrev dktX3_witnessOf_5 : List UInt8 := dkwX3_witnessOf_5 ++ []
def dkwX3_witnessOf_4 : List UInt8 := [28, 4, 160, 0, 8, 21, 4, 167, 0, 5, 21, 5, 172, 29, 42, 4, 27, 21, 4, 182, 1, 6, 128, 62]
abbrev dktX3_witnessOf_4 : List UInt8 := dkwX3_witnessOf_4 ++ dktX3_witnessOf_5
def dkwX3_witnessOf_3 : List UInt8 := [21, 7, 167, 0, 5, 21, 6, 54, 6, 132, 7, 1, 167, 255, 220, 28, 154, 0, 8, 21, 6, 167, 0, 15]
abbrev dktX3_witnessOf_3 : List UInt8 := dkwX3_witnessOf_3 ++ dktX3_witnessOf_4
def dkwX3_witnessOf_2 : List UInt8 := [21, 7, 21, 4, 162, 0, 35, 42, 4, 27, 21, 7, 182, 1, 6, 21, 5, 122, 4, 126, 4, 160, 0, 8]
abbrev dktX3_witnessOf_2 : List UInt8 := dkwX3_witnessOf_2 ++ dktX3_witnessOf_3
def dkwX3_witnessOf_1 : List UInt8 := [182, 1, 6, 29, 126, 3, 184, 1, 18, 54, 5, 21, 5, 2, 159, 0, 70, 2, 54, 6, 3, 54, 7]
abbrev dktX3_witnessOf_1 : List UInt8 := dkwX3_witnessOf_1 ++ dktX3_witnessOf_2
def dkwX3_witnessOf_0 : List UInt8 := [42, 182, 1, 3, 3, 62, 3, 54, 4, 21, 4, 42, 180, 0, 154, 162, 0, 109, 42, 6, 27, 21, 4]
abbrev dktX3_witnessOf_0 : List UInt8 := dkwX3_witnessOf_0 ++ dktX3_witnessOf_1
theorem dksX3_witnessOf_0 : cX3_witnessOf.data.toList.drop 0 = dktX3_witnessOf_0 := by decide +kernel
theorem dksX3_witnessOf_1 : cX3_witnessOf.data.toList.drop 23 = dktX3_witnessOf_1 := dk_seg dksX3_witnessOf_0 23 rfl rfl
theorem dksX3_witnessOf_2 : cX3_witnessOf.data.toList.drop 46 = dktX3_witnessOf_2 := dk_seg dksX3_witnessOf_1 23 rfl rfl
theorem dksX3_witnessOf_3 : cX3_witnessOf.data.toList.drop 70 = dktX3_witnessOf_3 := dk_seg dksX3_witnessOf_2 24 rfl rfl
theorem dksX3_witnessOf_4 : cX3_witnessOf.data.toList.drop 94 = dktX3_witnessOf_4 := dk_seg dksX3_witnessOf_3 24 rfl rfl
theorem dksX3_witnessOf_5 : cX3_witnessOf.data.toList.drop 118 = dktX3_witnessOf_5 := dk_seg dksX3_witnessOf_4 24 rfl rfl
theorem dX3_witnessOf_0 : decode cX3_witnessOf 0 = .ok (.aload_n 0, 1) := dk_42 (dk_at dksX3_witnessOf_0 0 rfl rfl)
theorem dX3_witnessOf_1 : decode cX3_witnessOf 1 = .ok (.invokevirtual 259, 3) := dk_182 1 3 (dk_at dksX3_witnessOf_0 1 rfl rfl)
theorem dX3_witnessOf_4 : decode cX3_witnessOf 4 = .ok (.iconst 0, 1) := dk_3 (dk_at dksX3_witnessOf_0 4 rfl rfl)
theorem dX3_witnessOf_5 : decode cX3_witnessOf 5 = .ok (.istore_n 3, 1) := dk_62 (dk_at dksX3_witnessOf_0 5 rfl rfl)
theorem dX3_witnessOf_6 : decode cX3_witnessOf 6 = .ok (.iconst 0, 1) := dk_3 (dk_at dksX3_witnessOf_0 6 rfl rfl)
theorem dX3_witnessOf_7 : decode cX3_witnessOf 7 = .ok (.istore 4, 2) := dk_54 4 (dk_at dksX3_witnessOf_0 7 rfl rfl)
theorem dX3_witnessOf_9 : decode cX3_witnessOf 9 = .ok (.iload 4, 2) := dk_21 4 (dk_at dksX3_witnessOf_0 9 rfl rfl)
theorem dX3_witnessOf_11 : decode cX3_witnessOf 11 = .ok (.aload_n 0, 1) := dk_42 (dk_at dksX3_witnessOf_0 11 rfl rfl)
theorem dX3_witnessOf_12 : decode cX3_witnessOf 12 = .ok (.getfield 154, 3) := dk_180 0 154 (dk_at dksX3_witnessOf_0 12 rfl rfl)
theorem dX3_witnessOf_15 : decode cX3_witnessOf 15 = .ok (.if_icmp .ge 109, 3) := dk_162 0 109 (dk_at dksX3_witnessOf_0 15 rfl rfl)
theorem dX3_witnessOf_18 : decode cX3_witnessOf 18 = .ok (.aload_n 0, 1) := dk_42 (dk_at dksX3_witnessOf_0 18 rfl rfl)
theorem dX3_witnessOf_19 : decode cX3_witnessOf 19 = .ok (.iconst 3, 1) := dk_6 (dk_at dksX3_witnessOf_0 19 rfl rfl)
theorem dX3_witnessOf_20 : decode cX3_witnessOf 20 = .ok (.iload_n 1, 1) := dk_27 (dk_at dksX3_witnessOf_0 20 rfl rfl)
theorem dX3_witnessOf_21 : decode cX3_witnessOf 21 = .ok (.iload 4, 2) := dk_21 4 (dk_at dksX3_witnessOf_0 21 rfl rfl)
theorem dX3_witnessOf_23 : decode cX3_witnessOf 23 = .ok (.invokevirtual 262, 3) := dk_182 1 6 (dk_at dksX3_witnessOf_1 0 rfl rfl)
theorem dX3_witnessOf_26 : decode cX3_witnessOf 26 = .ok (.iload_n 3, 1) := dk_29 (dk_at dksX3_witnessOf_1 3 rfl rfl)
theorem dX3_witnessOf_27 : decode cX3_witnessOf 27 = .ok (.iand, 1) := dk_126 (dk_at dksX3_witnessOf_1 4 rfl rfl)
theorem dX3_witnessOf_28 : decode cX3_witnessOf 28 = .ok (.iconst 0, 1) := dk_3 (dk_at dksX3_witnessOf_1 5 rfl rfl)
theorem dX3_witnessOf_29 : decode cX3_witnessOf 29 = .ok (.invokestatic 274, 3) := dk_184 1 18 (dk_at dksX3_witnessOf_1 6 rfl rfl)
theorem dX3_witnessOf_32 : decode cX3_witnessOf 32 = .ok (.istore 5, 2) := dk_54 5 (dk_at dksX3_witnessOf_1 9 rfl rfl)
theorem dX3_witnessOf_34 : decode cX3_witnessOf 34 = .ok (.iload 5, 2) := dk_21 5 (dk_at dksX3_witnessOf_1 11 rfl rfl)
theorem dX3_witnessOf_36 : decode cX3_witnessOf 36 = .ok (.iconst (-1), 1) := dk_2 (dk_at dksX3_witnessOf_1 13 rfl rfl)
theorem dX3_witnessOf_37 : decode cX3_witnessOf 37 = .ok (.if_icmp .eq 70, 3) := dk_159 0 70 (dk_at dksX3_witnessOf_1 14 rfl rfl)
theorem dX3_witnessOf_40 : decode cX3_witnessOf 40 = .ok (.iconst (-1), 1) := dk_2 (dk_at dksX3_witnessOf_1 17 rfl rfl)
theorem dX3_witnessOf_41 : decode cX3_witnessOf 41 = .ok (.istore 6, 2) := dk_54 6 (dk_at dksX3_witnessOf_1 18 rfl rfl)
theorem dX3_witnessOf_43 : decode cX3_witnessOf 43 = .ok (.iconst 0, 1) := dk_3 (dk_at dksX3_witnessOf_1 20 rfl rfl)
theorem dX3_witnessOf_44 : decode cX3_witnessOf 44 = .ok (.istore 7, 2) := dk_54 7 (dk_at dksX3_witnessOf_1 21 rfl rfl)
theorem dX3_witnessOf_46 : decode cX3_witnessOf 46 = .ok (.iload 7, 2) := dk_21 7 (dk_at dksX3_witnessOf_2 0 rfl rfl)
theorem dX3_witnessOf_48 : decode cX3_witnessOf 48 = .ok (.iload 4, 2) := dk_21 4 (dk_at dksX3_witnessOf_2 2 rfl rfl)
theorem dX3_witnessOf_50 : decode cX3_witnessOf 50 = .ok (.if_icmp .ge 35, 3) := dk_162 0 35 (dk_at dksX3_witnessOf_2 4 rfl rfl)
theorem dX3_witnessOf_53 : decode cX3_witnessOf 53 = .ok (.aload_n 0, 1) := dk_42 (dk_at dksX3_witnessOf_2 7 rfl rfl)
theorem dX3_witnessOf_54 : decode cX3_witnessOf 54 = .ok (.iconst 1, 1) := dk_4 (dk_at dksX3_witnessOf_2 8 rfl rfl)
theorem dX3_witnessOf_55 : decode cX3_witnessOf 55 = .ok (.iload_n 1, 1) := dk_27 (dk_at dksX3_witnessOf_2 9 rfl rfl)
theorem dX3_witnessOf_56 : decode cX3_witnessOf 56 = .ok (.iload 7, 2) := dk_21 7 (dk_at dksX3_witnessOf_2 10 rfl rfl)
theorem dX3_witnessOf_58 : decode cX3_witnessOf 58 = .ok (.invokevirtual 262, 3) := dk_182 1 6 (dk_at dksX3_witnessOf_2 12 rfl rfl)
theorem dX3_witnessOf_61 : decode cX3_witnessOf 61 = .ok (.iload 5, 2) := dk_21 5 (dk_at dksX3_witnessOf_2 15 rfl rfl)
theorem dX3_witnessOf_63 : decode cX3_witnessOf 63 = .ok (.ishr, 1) := dk_122 (dk_at dksX3_witnessOf_2 17 rfl rfl)
theorem dX3_witnessOf_64 : decode cX3_witnessOf 64 = .ok (.iconst 1, 1) := dk_4 (dk_at dksX3_witnessOf_2 18 rfl rfl)
theorem dX3_witnessOf_65 : decode cX3_witnessOf 65 = .ok (.iand, 1) := dk_126 (dk_at dksX3_witnessOf_2 19 rfl rfl)
theorem dX3_witnessOf_66 : decode cX3_witnessOf 66 = .ok (.iconst 1, 1) := dk_4 (dk_at dksX3_witnessOf_2 20 rfl rfl)
theorem dX3_witnessOf_67 : decode cX3_witnessOf 67 = .ok (.if_icmp .ne 8, 3) := dk_160 0 8 (dk_at dksX3_witnessOf_2 21 rfl rfl)
theorem dX3_witnessOf_70 : decode cX3_witnessOf 70 = .ok (.iload 7, 2) := dk_21 7 (dk_at dksX3_witnessOf_3 0 rfl rfl)
theorem dX3_witnessOf_72 : decode cX3_witnessOf 72 = .ok (.goto 5, 3) := dk_167 0 5 (dk_at dksX3_witnessOf_3 2 rfl rfl)
theorem dX3_witnessOf_75 : decode cX3_witnessOf 75 = .ok (.iload 6, 2) := dk_21 6 (dk_at dksX3_witnessOf_3 5 rfl rfl)
theorem dX3_witnessOf_77 : decode cX3_witnessOf 77 = .ok (.istore 6, 2) := dk_54 6 (dk_at dksX3_witnessOf_3 7 rfl rfl)
theorem dX3_witnessOf_79 : decode cX3_witnessOf 79 = .ok (.iinc 7 1, 3) := dk_132 7 1 (dk_at dksX3_witnessOf_3 9 rfl rfl)
theorem dX3_witnessOf_82 : decode cX3_witnessOf 82 = .ok (.goto (-36), 3) := dk_167 255 220 (dk_at dksX3_witnessOf_3 12 rfl rfl)
theorem dX3_witnessOf_85 : decode cX3_witnessOf 85 = .ok (.iload_n 2, 1) := dk_28 (dk_at dksX3_witnessOf_3 15 rfl rfl)
theorem dX3_witnessOf_86 : decode cX3_witnessOf 86 = .ok (.ifCond .ne 8, 3) := dk_154 0 8 (dk_at dksX3_witnessOf_3 16 rfl rfl)
theorem dX3_witnessOf_89 : decode cX3_witnessOf 89 = .ok (.iload 6, 2) := dk_21 6 (dk_at dksX3_witnessOf_3 19 rfl rfl)
theorem dX3_witnessOf_91 : decode cX3_witnessOf 91 = .ok (.goto 15, 3) := dk_167 0 15 (dk_at dksX3_witnessOf_3 21 rfl rfl)
theorem dX3_witnessOf_94 : decode cX3_witnessOf 94 = .ok (.iload_n 2, 1) := dk_28 (dk_at dksX3_witnessOf_4 0 rfl rfl)
theorem dX3_witnessOf_95 : decode cX3_witnessOf 95 = .ok (.iconst 1, 1) := dk_4 (dk_at dksX3_witnessOf_4 1 rfl rfl)
theorem dX3_witnessOf_96 : decode cX3_witnessOf 96 = .ok (.if_icmp .ne 8, 3) := dk_160 0 8 (dk_at dksX3_witnessOf_4 2 rfl rfl)
theorem dX3_witnessOf_99 : decode cX3_witnessOf 99 = .ok (.iload 4, 2) := dk_21 4 (dk_at dksX3_witnessOf_4 5 rfl rfl)
theorem dX3_witnessOf_101 : decode cX3_witnessOf 101 = .ok (.goto 5, 3) := dk_167 0 5 (dk_at dksX3_witnessOf_4 7 rfl rfl)
theorem dX3_witnessOf_104 : decode cX3_witnessOf 104 = .ok (.iload 5, 2) := dk_21 5 (dk_at dksX3_witnessOf_4 10 rfl rfl)
theorem dX3_witnessOf_106 : decode cX3_witnessOf 106 = .ok (.ireturn, 1) := dk_172 (dk_at dksX3_witnessOf_4 12 rfl rfl)
theorem dX3_witnessOf_107 : decode cX3_witnessOf 107 = .ok (.iload_n 3, 1) := dk_29 (dk_at dksX3_witnessOf_4 13 rfl rfl)
theorem dX3_witnessOf_108 : decode cX3_witnessOf 108 = .ok (.aload_n 0, 1) := dk_42 (dk_at dksX3_witnessOf_4 14 rfl rfl)
theorem dX3_witnessOf_109 : decode cX3_witnessOf 109 = .ok (.iconst 1, 1) := dk_4 (dk_at dksX3_witnessOf_4 15 rfl rfl)
theorem dX3_witnessOf_110 : decode cX3_witnessOf 110 = .ok (.iload_n 1, 1) := dk_27 (dk_at dksX3_witnessOf_4 16 rfl rfl)
theorem dX3_witnessOf_111 : decode cX3_witnessOf 111 = .ok (.iload 4, 2) := dk_21 4 (dk_at dksX3_witnessOf_4 17 rfl rfl)
theorem dX3_witnessOf_113 : decode cX3_witnessOf 113 = .ok (.invokevirtual 262, 3) := dk_182 1 6 (dk_at dksX3_witnessOf_4 19 rfl rfl)
theorem dX3_witnessOf_116 : decode cX3_witnessOf 116 = .ok (.ior, 1) := dk_128 (dk_at dksX3_witnessOf_4 22 rfl rfl)
theorem dX3_witnessOf_117 : decode cX3_witnessOf 117 = .ok (.istore_n 3, 1) := dk_62 (dk_at dksX3_witnessOf_4 23 rfl rfl)
theorem dX3_witnessOf_118 : decode cX3_witnessOf 118 = .ok (.iinc 4 1, 3) := dk_132 4 1 (dk_at dksX3_witnessOf_5 0 rfl rfl)
theorem dX3_witnessOf_121 : decode cX3_witnessOf 121 = .ok (.goto (-112), 3) := dk_167 255 144 (dk_at dksX3_witnessOf_5 3 rfl rfl)
theorem dX3_witnessOf_124 : decode cX3_witnessOf 124 = .ok (.iconst (-1), 1) := dk_2 (dk_at dksX3_witnessOf_5 6 rfl rfl)
theorem dX3_witnessOf_125 : decode cX3_witnessOf 125 = .ok (.ireturn, 1) := dk_172 (dk_at dksX3_witnessOf_5 7 rfl rfl)
abbrev cX3_last : ByteArray := prog_18_method_84_code
def yX3_last : MethodName := ⟨RX3, "last", "(III)I"⟩
def dkwX3_last_1 : List UInt8 := [153, 0, 13, 42, 27, 28, 29, 182, 1, 63, 167, 0, 5, 16, 254, 172]
abbrev dktX3_last_1 : List UInt8 := dkwX3_last_1 ++ []
def dkwX3_last_0 : List UInt8 := [27, 4, 5, 184, 0, 114, 153, 0, 30, 28, 184, 0, 122, 153, 0, 23, 29, 3, 16, 23, 184, 0, 114]
abbrev dktX3_last_0 : List UInt8 := dkwX3_last_0 ++ dktX3_last_1
theorem dksX3_last_0 : cX3_last.data.toList.drop 0 = dktX3_last_0 := by decide +kernel
theorem dksX3_last_1 : cX3_last.data.toList.drop 23 = dktX3_last_1 := dk_seg dksX3_last_0 23 rfl rfl
theorem dX3_last_0 : decode cX3_last 0 = .ok (.iload_n 1, 1) := dk_27 (dk_at dksX3_last_0 0 rfl rfl)
theorem dX3_last_1 : decode cX3_last 1 = .ok (.iconst 1, 1) := dk_4 (dk_at dksX3_last_0 1 rfl rfl)
theorem dX3_last_2 : decode cX3_last 2 = .ok (.iconst 2, 1) := dk_5 (dk_at dksX3_last_0 2 rfl rfl)
theorem dX3_last_3 : decode cX3_last 3 = .ok (.invokestatic 114, 3) := dk_184 0 114 (dk_at dksX3_last_0 3 rfl rfl)
theorem dX3_last_6 : decode cX3_last 6 = .ok (.ifCond .eq 30, 3) := dk_153 0 30 (dk_at dksX3_last_0 6 rfl rfl)
theorem dX3_last_9 : decode cX3_last 9 = .ok (.iload_n 2, 1) := dk_28 (dk_at dksX3_last_0 9 rfl rfl)
theorem dX3_last_10 : decode cX3_last 10 = .ok (.invokestatic 122, 3) := dk_184 0 122 (dk_at dksX3_last_0 10 rfl rfl)
theorem dX3_last_13 : decode cX3_last 13 = .ok (.ifCond .eq 23, 3) := dk_153 0 23 (dk_at dksX3_last_0 13 rfl rfl)
theorem dX3_last_16 : decode cX3_last 16 = .ok (.iload_n 3, 1) := dk_29 (dk_at dksX3_last_0 16 rfl rfl)
theorem dX3_last_17 : decode cX3_last 17 = .ok (.iconst 0, 1) := dk_3 (dk_at dksX3_last_0 17 rfl rfl)
theorem dX3_last_18 : decode cX3_last 18 = .ok (.bipush 23, 2) := dk_16 23 (dk_at dksX3_last_0 18 rfl rfl)
theorem dX3_last_20 : decode cX3_last 20 = .ok (.invokestatic 114, 3) := dk_184 0 114 (dk_at dksX3_last_0 20 rfl rfl)
theorem dX3_last_23 : decode cX3_last 23 = .ok (.ifCond .eq 13, 3) := dk_153 0 13 (dk_at dksX3_last_1 0 rfl rfl)
theorem dX3_last_26 : decode cX3_last 26 = .ok (.aload_n 0, 1) := dk_42 (dk_at dksX3_last_1 3 rfl rfl)
theorem dX3_last_27 : decode cX3_last 27 = .ok (.iload_n 1, 1) := dk_27 (dk_at dksX3_last_1 4 rfl rfl)
theorem dX3_last_28 : decode cX3_last 28 = .ok (.iload_n 2, 1) := dk_28 (dk_at dksX3_last_1 5 rfl rfl)
theorem dX3_last_29 : decode cX3_last 29 = .ok (.iload_n 3, 1) := dk_29 (dk_at dksX3_last_1 6 rfl rfl)
theorem dX3_last_30 : decode cX3_last 30 = .ok (.invokevirtual 319, 3) := dk_182 1 63 (dk_at dksX3_last_1 7 rfl rfl)
theorem dX3_last_33 : decode cX3_last 33 = .ok (.goto 5, 3) := dk_167 0 5 (dk_at dksX3_last_1 10 rfl rfl)
theorem dX3_last_36 : decode cX3_last 36 = .ok (.bipush (-2), 2) := dk_16 254 (dk_at dksX3_last_1 13 rfl rfl)
theorem dX3_last_38 : decode cX3_last 38 = .ok (.ireturn, 1) := dk_172 (dk_at dksX3_last_1 15 rfl rfl)
abbrev cX3_lastOf : ByteArray := prog_18_method_83_code
def yX3_lastOf : MethodName := ⟨RX3, "lastOf", "(III)I"⟩
def dkwX3_lastOf_2 : List UInt8 := [167, 255, 219, 21, 4, 172]
abbrev dktX3_lastOf_2 : List UInt8 := dkwX3_lastOf_2 ++ []
def dkwX3_lastOf_1 : List UInt8 := [182, 1, 6, 29, 122, 4, 126, 4, 160, 0, 8, 21, 5, 167, 0, 5, 21, 4, 54, 4, 132, 5, 1]
abbrev dktX3_lastOf_1 : List UInt8 := dkwX3_lastOf_1 ++ dktX3_lastOf_2
def dkwX3_lastOf_0 : List UInt8 := [42, 182, 1, 3, 2, 54, 4, 3, 54, 5, 21, 5, 42, 180, 0, 154, 162, 0, 34, 42, 27, 28, 21, 5]
abbrev dktX3_lastOf_0 : List UInt8 := dkwX3_lastOf_0 ++ dktX3_lastOf_1
theorem dksX3_lastOf_0 : cX3_lastOf.data.toList.drop 0 = dktX3_lastOf_0 := by decide +kernel
theorem dksX3_lastOf_1 : cX3_lastOf.data.toList.drop 24 = dktX3_lastOf_1 := dk_seg dksX3_lastOf_0 24 rfl rfl
theorem dksX3_lastOf_2 : cX3_lastOf.data.toList.drop 47 = dktX3_lastOf_2 := dk_seg dksX3_lastOf_1 23 rfl rfl
theorem dX3_lastOf_0 : decode cX3_lastOf 0 = .ok (.aload_n 0, 1) := dk_42 (dk_at dksX3_lastOf_0 0 rfl rfl)
theorem dX3_lastOf_1 : decode cX3_lastOf 1 = .ok (.invokevirtual 259, 3) := dk_182 1 3 (dk_at dksX3_lastOf_0 1 rfl rfl)
theorem dX3_lastOf_4 : decode cX3_lastOf 4 = .ok (.iconst (-1), 1) := dk_2 (dk_at dksX3_lastOf_0 4 rfl rfl)
theorem dX3_lastOf_5 : decode cX3_lastOf 5 = .ok (.istore 4, 2) := dk_54 4 (dk_at dksX3_lastOf_0 5 rfl rfl)
theorem dX3_lastOf_7 : decode cX3_lastOf 7 = .ok (.iconst 0, 1) := dk_3 (dk_at dksX3_lastOf_0 7 rfl rfl)
theorem dX3_lastOf_8 : decode cX3_lastOf 8 = .ok (.istore 5, 2) := dk_54 5 (dk_at dksX3_lastOf_0 8 rfl rfl)
theorem dX3_lastOf_10 : decode cX3_lastOf 10 = .ok (.iload 5, 2) := dk_21 5 (dk_at dksX3_lastOf_0 10 rfl rfl)
theorem dX3_lastOf_12 : decode cX3_lastOf 12 = .ok (.aload_n 0, 1) := dk_42 (dk_at dksX3_lastOf_0 12 rfl rfl)
theorem dX3_lastOf_13 : decode cX3_lastOf 13 = .ok (.getfield 154, 3) := dk_180 0 154 (dk_at dksX3_lastOf_0 13 rfl rfl)
theorem dX3_lastOf_16 : decode cX3_lastOf 16 = .ok (.if_icmp .ge 34, 3) := dk_162 0 34 (dk_at dksX3_lastOf_0 16 rfl rfl)
theorem dX3_lastOf_19 : decode cX3_lastOf 19 = .ok (.aload_n 0, 1) := dk_42 (dk_at dksX3_lastOf_0 19 rfl rfl)
theorem dX3_lastOf_20 : decode cX3_lastOf 20 = .ok (.iload_n 1, 1) := dk_27 (dk_at dksX3_lastOf_0 20 rfl rfl)
theorem dX3_lastOf_21 : decode cX3_lastOf 21 = .ok (.iload_n 2, 1) := dk_28 (dk_at dksX3_lastOf_0 21 rfl rfl)
theorem dX3_lastOf_22 : decode cX3_lastOf 22 = .ok (.iload 5, 2) := dk_21 5 (dk_at dksX3_lastOf_0 22 rfl rfl)
theorem dX3_lastOf_24 : decode cX3_lastOf 24 = .ok (.invokevirtual 262, 3) := dk_182 1 6 (dk_at dksX3_lastOf_1 0 rfl rfl)
theorem dX3_lastOf_27 : decode cX3_lastOf 27 = .ok (.iload_n 3, 1) := dk_29 (dk_at dksX3_lastOf_1 3 rfl rfl)
theorem dX3_lastOf_28 : decode cX3_lastOf 28 = .ok (.ishr, 1) := dk_122 (dk_at dksX3_lastOf_1 4 rfl rfl)
theorem dX3_lastOf_29 : decode cX3_lastOf 29 = .ok (.iconst 1, 1) := dk_4 (dk_at dksX3_lastOf_1 5 rfl rfl)
theorem dX3_lastOf_30 : decode cX3_lastOf 30 = .ok (.iand, 1) := dk_126 (dk_at dksX3_lastOf_1 6 rfl rfl)
theorem dX3_lastOf_31 : decode cX3_lastOf 31 = .ok (.iconst 1, 1) := dk_4 (dk_at dksX3_lastOf_1 7 rfl rfl)
theorem dX3_lastOf_32 : decode cX3_lastOf 32 = .ok (.if_icmp .ne 8, 3) := dk_160 0 8 (dk_at dksX3_lastOf_1 8 rfl rfl)
theorem dX3_lastOf_35 : decode cX3_lastOf 35 = .ok (.iload 5, 2) := dk_21 5 (dk_at dksX3_lastOf_1 11 rfl rfl)
theorem dX3_lastOf_37 : decode cX3_lastOf 37 = .ok (.goto 5, 3) := dk_167 0 5 (dk_at dksX3_lastOf_1 13 rfl rfl)
theorem dX3_lastOf_40 : decode cX3_lastOf 40 = .ok (.iload 4, 2) := dk_21 4 (dk_at dksX3_lastOf_1 16 rfl rfl)
theorem dX3_lastOf_42 : decode cX3_lastOf 42 = .ok (.istore 4, 2) := dk_54 4 (dk_at dksX3_lastOf_1 18 rfl rfl)
theorem dX3_lastOf_44 : decode cX3_lastOf 44 = .ok (.iinc 5 1, 3) := dk_132 5 1 (dk_at dksX3_lastOf_1 20 rfl rfl)
theorem dX3_lastOf_47 : decode cX3_lastOf 47 = .ok (.goto (-37), 3) := dk_167 255 219 (dk_at dksX3_lastOf_2 0 rfl rfl)
theorem dX3_lastOf_50 : decode cX3_lastOf 50 = .ok (.iload 4, 2) := dk_21 4 (dk_at dksX3_lastOf_2 3 rfl rfl)
theorem dX3_lastOf_52 : decode cX3_lastOf 52 = .ok (.ireturn, 1) := dk_172 (dk_at dksX3_lastOf_2 5 rfl rfl)
abbrev cX3_run : ByteArray := prog_18_method_101_code
def yX3_run : MethodName := ⟨RX3, "run", "()I"⟩
theorem dX3_run_0 : decode cX3_run 0 = .ok (.aload_n 0, 1) := by decide +kernel
theorem dX3_run_1 : decode cX3_run 1 = .ok (.invokevirtual 394, 3) := by decide +kernel
theorem dX3_run_4 : decode cX3_run 4 = .ok (.ireturn, 1) := by decide +kernel
abbrev cX3_runNow : ByteArray := prog_18_method_100_code
def yX3_runNow : MethodName := ⟨RX3, "runNow", "()I"⟩
def dkwX3_runNow_1 : List UInt8 := [46, 2, 159, 0, 11, 42, 27, 182, 1, 136, 167, 255, 241, 132, 1, 1, 167, 255, 227, 42, 180, 1, 121, 172]
abbrev dktX3_runNow_1 : List UInt8 := dkwX3_runNow_1 ++ []
def dkwX3_runNow_0 : List UInt8 := [42, 3, 181, 1, 103, 42, 182, 1, 133, 3, 60, 27, 42, 180, 0, 154, 162, 0, 27, 42, 180, 0, 87, 27]
abbrev dktX3_runNow_0 : List UInt8 := dkwX3_runNow_0 ++ dktX3_runNow_1
theorem dksX3_runNow_0 : cX3_runNow.data.toList.drop 0 = dktX3_runNow_0 := by decide +kernel
theorem dksX3_runNow_1 : cX3_runNow.data.toList.drop 24 = dktX3_runNow_1 := dk_seg dksX3_runNow_0 24 rfl rfl
theorem dX3_runNow_0 : decode cX3_runNow 0 = .ok (.aload_n 0, 1) := dk_42 (dk_at dksX3_runNow_0 0 rfl rfl)
theorem dX3_runNow_1 : decode cX3_runNow 1 = .ok (.iconst 0, 1) := dk_3 (dk_at dksX3_runNow_0 1 rfl rfl)
theorem dX3_runNow_2 : decode cX3_runNow 2 = .ok (.putfield 359, 3) := dk_181 1 103 (dk_at dksX3_runNow_0 2 rfl rfl)
theorem dX3_runNow_5 : decode cX3_runNow 5 = .ok (.aload_n 0, 1) := dk_42 (dk_at dksX3_runNow_0 5 rfl rfl)
theorem dX3_runNow_6 : decode cX3_runNow 6 = .ok (.invokevirtual 389, 3) := dk_182 1 133 (dk_at dksX3_runNow_0 6 rfl rfl)
theorem dX3_runNow_9 : decode cX3_runNow 9 = .ok (.iconst 0, 1) := dk_3 (dk_at dksX3_runNow_0 9 rfl rfl)
theorem dX3_runNow_10 : decode cX3_runNow 10 = .ok (.istore_n 1, 1) := dk_60 (dk_at dksX3_runNow_0 10 rfl rfl)
theorem dX3_runNow_11 : decode cX3_runNow 11 = .ok (.iload_n 1, 1) := dk_27 (dk_at dksX3_runNow_0 11 rfl rfl)
theorem dX3_runNow_12 : decode cX3_runNow 12 = .ok (.aload_n 0, 1) := dk_42 (dk_at dksX3_runNow_0 12 rfl rfl)
theorem dX3_runNow_13 : decode cX3_runNow 13 = .ok (.getfield 154, 3) := dk_180 0 154 (dk_at dksX3_runNow_0 13 rfl rfl)
theorem dX3_runNow_16 : decode cX3_runNow 16 = .ok (.if_icmp .ge 27, 3) := dk_162 0 27 (dk_at dksX3_runNow_0 16 rfl rfl)
theorem dX3_runNow_19 : decode cX3_runNow 19 = .ok (.aload_n 0, 1) := dk_42 (dk_at dksX3_runNow_0 19 rfl rfl)
theorem dX3_runNow_20 : decode cX3_runNow 20 = .ok (.getfield 87, 3) := dk_180 0 87 (dk_at dksX3_runNow_0 20 rfl rfl)
theorem dX3_runNow_23 : decode cX3_runNow 23 = .ok (.iload_n 1, 1) := dk_27 (dk_at dksX3_runNow_0 23 rfl rfl)
theorem dX3_runNow_24 : decode cX3_runNow 24 = .ok (.iaload, 1) := dk_46 (dk_at dksX3_runNow_1 0 rfl rfl)
theorem dX3_runNow_25 : decode cX3_runNow 25 = .ok (.iconst (-1), 1) := dk_2 (dk_at dksX3_runNow_1 1 rfl rfl)
theorem dX3_runNow_26 : decode cX3_runNow 26 = .ok (.if_icmp .eq 11, 3) := dk_159 0 11 (dk_at dksX3_runNow_1 2 rfl rfl)
theorem dX3_runNow_29 : decode cX3_runNow 29 = .ok (.aload_n 0, 1) := dk_42 (dk_at dksX3_runNow_1 5 rfl rfl)
theorem dX3_runNow_30 : decode cX3_runNow 30 = .ok (.iload_n 1, 1) := dk_27 (dk_at dksX3_runNow_1 6 rfl rfl)
theorem dX3_runNow_31 : decode cX3_runNow 31 = .ok (.invokevirtual 392, 3) := dk_182 1 136 (dk_at dksX3_runNow_1 7 rfl rfl)
theorem dX3_runNow_34 : decode cX3_runNow 34 = .ok (.goto (-15), 3) := dk_167 255 241 (dk_at dksX3_runNow_1 10 rfl rfl)
theorem dX3_runNow_37 : decode cX3_runNow 37 = .ok (.iinc 1 1, 3) := dk_132 1 1 (dk_at dksX3_runNow_1 13 rfl rfl)
theorem dX3_runNow_40 : decode cX3_runNow 40 = .ok (.goto (-29), 3) := dk_167 255 227 (dk_at dksX3_runNow_1 16 rfl rfl)
theorem dX3_runNow_43 : decode cX3_runNow 43 = .ok (.aload_n 0, 1) := dk_42 (dk_at dksX3_runNow_1 19 rfl rfl)
theorem dX3_runNow_44 : decode cX3_runNow 44 = .ok (.getfield 377, 3) := dk_180 1 121 (dk_at dksX3_runNow_1 20 rfl rfl)
theorem dX3_runNow_47 : decode cX3_runNow 47 = .ok (.ireturn, 1) := dk_172 (dk_at dksX3_runNow_1 23 rfl rfl)
abbrev cX3_begins : ByteArray := prog_18_method_98_code
def yX3_begins : MethodName := ⟨RX3, "begins", "()V"⟩
def dkwX3_begins_4 : List UInt8 := [162, 0, 21, 42, 180, 0, 87, 27, 42, 3, 27, 182, 1, 127, 79, 132, 1, 1, 167, 255, 233, 177]
abbrev dktX3_begins_4 : List UInt8 := dkwX3_begins_4 ++ []
def dkwX3_begins_3 : List UInt8 := [162, 0, 16, 42, 180, 0, 77, 27, 3, 84, 132, 1, 1, 167, 255, 239, 3, 60, 27, 42, 180, 0, 154]
abbrev dktX3_begins_3 : List UInt8 := dkwX3_begins_3 ++ dktX3_begins_4
def dkwX3_begins_2 : List UInt8 := [180, 0, 71, 27, 42, 180, 0, 16, 27, 49, 82, 132, 1, 1, 167, 255, 227, 3, 60, 27, 17, 5, 160]
abbrev dktX3_begins_2 : List UInt8 := dkwX3_begins_2 ++ dktX3_begins_3
def dkwX3_begins_1 : List UInt8 := [132, 1, 1, 167, 255, 241, 3, 60, 27, 17, 0, 144, 162, 0, 28, 42, 180, 0, 20, 27, 2, 79, 42]
abbrev dktX3_begins_1 : List UInt8 := dkwX3_begins_1 ++ dktX3_begins_2
def dkwX3_begins_0 : List UInt8 := [42, 3, 181, 1, 121, 42, 3, 181, 1, 124, 3, 60, 27, 6, 162, 0, 16, 42, 180, 0, 81, 27, 3, 79]
abbrev dktX3_begins_0 : List UInt8 := dkwX3_begins_0 ++ dktX3_begins_1
theorem dksX3_begins_0 : cX3_begins.data.toList.drop 0 = dktX3_begins_0 := by decide +kernel
theorem dksX3_begins_1 : cX3_begins.data.toList.drop 24 = dktX3_begins_1 := dk_seg dksX3_begins_0 24 rfl rfl
theorem dksX3_begins_2 : cX3_begins.data.toList.drop 47 = dktX3_begins_2 := dk_seg dksX3_begins_1 23 rfl rfl
theorem dksX3_begins_3 : cX3_begins.data.toList.drop 70 = dktX3_begins_3 := dk_seg dksX3_begins_2 23 rfl rfl
theorem dksX3_begins_4 : cX3_begins.data.toList.drop 93 = dktX3_begins_4 := dk_seg dksX3_begins_3 23 rfl rfl
theorem dX3_begins_0 : decode cX3_begins 0 = .ok (.aload_n 0, 1) := dk_42 (dk_at dksX3_begins_0 0 rfl rfl)
theorem dX3_begins_1 : decode cX3_begins 1 = .ok (.iconst 0, 1) := dk_3 (dk_at dksX3_begins_0 1 rfl rfl)
theorem dX3_begins_2 : decode cX3_begins 2 = .ok (.putfield 377, 3) := dk_181 1 121 (dk_at dksX3_begins_0 2 rfl rfl)
theorem dX3_begins_5 : decode cX3_begins 5 = .ok (.aload_n 0, 1) := dk_42 (dk_at dksX3_begins_0 5 rfl rfl)
theorem dX3_begins_6 : decode cX3_begins 6 = .ok (.iconst 0, 1) := dk_3 (dk_at dksX3_begins_0 6 rfl rfl)
theorem dX3_begins_7 : decode cX3_begins 7 = .ok (.putfield 380, 3) := dk_181 1 124 (dk_at dksX3_begins_0 7 rfl rfl)
theorem dX3_begins_10 : decode cX3_begins 10 = .ok (.iconst 0, 1) := dk_3 (dk_at dksX3_begins_0 10 rfl rfl)
theorem dX3_begins_11 : decode cX3_begins 11 = .ok (.istore_n 1, 1) := dk_60 (dk_at dksX3_begins_0 11 rfl rfl)
theorem dX3_begins_12 : decode cX3_begins 12 = .ok (.iload_n 1, 1) := dk_27 (dk_at dksX3_begins_0 12 rfl rfl)
theorem dX3_begins_13 : decode cX3_begins 13 = .ok (.iconst 3, 1) := dk_6 (dk_at dksX3_begins_0 13 rfl rfl)
theorem dX3_begins_14 : decode cX3_begins 14 = .ok (.if_icmp .ge 16, 3) := dk_162 0 16 (dk_at dksX3_begins_0 14 rfl rfl)
theorem dX3_begins_17 : decode cX3_begins 17 = .ok (.aload_n 0, 1) := dk_42 (dk_at dksX3_begins_0 17 rfl rfl)
theorem dX3_begins_18 : decode cX3_begins 18 = .ok (.getfield 81, 3) := dk_180 0 81 (dk_at dksX3_begins_0 18 rfl rfl)
theorem dX3_begins_21 : decode cX3_begins 21 = .ok (.iload_n 1, 1) := dk_27 (dk_at dksX3_begins_0 21 rfl rfl)
theorem dX3_begins_22 : decode cX3_begins 22 = .ok (.iconst 0, 1) := dk_3 (dk_at dksX3_begins_0 22 rfl rfl)
theorem dX3_begins_23 : decode cX3_begins 23 = .ok (.iastore, 1) := dk_79 (dk_at dksX3_begins_0 23 rfl rfl)
theorem dX3_begins_24 : decode cX3_begins 24 = .ok (.iinc 1 1, 3) := dk_132 1 1 (dk_at dksX3_begins_1 0 rfl rfl)
theorem dX3_begins_27 : decode cX3_begins 27 = .ok (.goto (-15), 3) := dk_167 255 241 (dk_at dksX3_begins_1 3 rfl rfl)
theorem dX3_begins_30 : decode cX3_begins 30 = .ok (.iconst 0, 1) := dk_3 (dk_at dksX3_begins_1 6 rfl rfl)
theorem dX3_begins_31 : decode cX3_begins 31 = .ok (.istore_n 1, 1) := dk_60 (dk_at dksX3_begins_1 7 rfl rfl)
theorem dX3_begins_32 : decode cX3_begins 32 = .ok (.iload_n 1, 1) := dk_27 (dk_at dksX3_begins_1 8 rfl rfl)
theorem dX3_begins_33 : decode cX3_begins 33 = .ok (.sipush 144, 3) := dk_17 0 144 (dk_at dksX3_begins_1 9 rfl rfl)
theorem dX3_begins_36 : decode cX3_begins 36 = .ok (.if_icmp .ge 28, 3) := dk_162 0 28 (dk_at dksX3_begins_1 12 rfl rfl)
theorem dX3_begins_39 : decode cX3_begins 39 = .ok (.aload_n 0, 1) := dk_42 (dk_at dksX3_begins_1 15 rfl rfl)
theorem dX3_begins_40 : decode cX3_begins 40 = .ok (.getfield 20, 3) := dk_180 0 20 (dk_at dksX3_begins_1 16 rfl rfl)
theorem dX3_begins_43 : decode cX3_begins 43 = .ok (.iload_n 1, 1) := dk_27 (dk_at dksX3_begins_1 19 rfl rfl)
theorem dX3_begins_44 : decode cX3_begins 44 = .ok (.iconst (-1), 1) := dk_2 (dk_at dksX3_begins_1 20 rfl rfl)
theorem dX3_begins_45 : decode cX3_begins 45 = .ok (.iastore, 1) := dk_79 (dk_at dksX3_begins_1 21 rfl rfl)
theorem dX3_begins_46 : decode cX3_begins 46 = .ok (.aload_n 0, 1) := dk_42 (dk_at dksX3_begins_1 22 rfl rfl)
theorem dX3_begins_47 : decode cX3_begins 47 = .ok (.getfield 71, 3) := dk_180 0 71 (dk_at dksX3_begins_2 0 rfl rfl)
theorem dX3_begins_50 : decode cX3_begins 50 = .ok (.iload_n 1, 1) := dk_27 (dk_at dksX3_begins_2 3 rfl rfl)
theorem dX3_begins_51 : decode cX3_begins 51 = .ok (.aload_n 0, 1) := dk_42 (dk_at dksX3_begins_2 4 rfl rfl)
theorem dX3_begins_52 : decode cX3_begins 52 = .ok (.getfield 16, 3) := dk_180 0 16 (dk_at dksX3_begins_2 5 rfl rfl)
theorem dX3_begins_55 : decode cX3_begins 55 = .ok (.iload_n 1, 1) := dk_27 (dk_at dksX3_begins_2 8 rfl rfl)
theorem dX3_begins_56 : decode cX3_begins 56 = .ok (.daload, 1) := dk_49 (dk_at dksX3_begins_2 9 rfl rfl)
theorem dX3_begins_57 : decode cX3_begins 57 = .ok (.dastore, 1) := dk_82 (dk_at dksX3_begins_2 10 rfl rfl)
theorem dX3_begins_58 : decode cX3_begins 58 = .ok (.iinc 1 1, 3) := dk_132 1 1 (dk_at dksX3_begins_2 11 rfl rfl)
theorem dX3_begins_61 : decode cX3_begins 61 = .ok (.goto (-29), 3) := dk_167 255 227 (dk_at dksX3_begins_2 14 rfl rfl)
theorem dX3_begins_64 : decode cX3_begins 64 = .ok (.iconst 0, 1) := dk_3 (dk_at dksX3_begins_2 17 rfl rfl)
theorem dX3_begins_65 : decode cX3_begins 65 = .ok (.istore_n 1, 1) := dk_60 (dk_at dksX3_begins_2 18 rfl rfl)
theorem dX3_begins_66 : decode cX3_begins 66 = .ok (.iload_n 1, 1) := dk_27 (dk_at dksX3_begins_2 19 rfl rfl)
theorem dX3_begins_67 : decode cX3_begins 67 = .ok (.sipush 1440, 3) := dk_17 5 160 (dk_at dksX3_begins_2 20 rfl rfl)
theorem dX3_begins_70 : decode cX3_begins 70 = .ok (.if_icmp .ge 16, 3) := dk_162 0 16 (dk_at dksX3_begins_3 0 rfl rfl)
theorem dX3_begins_73 : decode cX3_begins 73 = .ok (.aload_n 0, 1) := dk_42 (dk_at dksX3_begins_3 3 rfl rfl)
theorem dX3_begins_74 : decode cX3_begins 74 = .ok (.getfield 77, 3) := dk_180 0 77 (dk_at dksX3_begins_3 4 rfl rfl)
theorem dX3_begins_77 : decode cX3_begins 77 = .ok (.iload_n 1, 1) := dk_27 (dk_at dksX3_begins_3 7 rfl rfl)
theorem dX3_begins_78 : decode cX3_begins 78 = .ok (.iconst 0, 1) := dk_3 (dk_at dksX3_begins_3 8 rfl rfl)
theorem dX3_begins_79 : decode cX3_begins 79 = .ok (.bastore, 1) := dk_84 (dk_at dksX3_begins_3 9 rfl rfl)
theorem dX3_begins_80 : decode cX3_begins 80 = .ok (.iinc 1 1, 3) := dk_132 1 1 (dk_at dksX3_begins_3 10 rfl rfl)
theorem dX3_begins_83 : decode cX3_begins 83 = .ok (.goto (-17), 3) := dk_167 255 239 (dk_at dksX3_begins_3 13 rfl rfl)
theorem dX3_begins_86 : decode cX3_begins 86 = .ok (.iconst 0, 1) := dk_3 (dk_at dksX3_begins_3 16 rfl rfl)
theorem dX3_begins_87 : decode cX3_begins 87 = .ok (.istore_n 1, 1) := dk_60 (dk_at dksX3_begins_3 17 rfl rfl)
theorem dX3_begins_88 : decode cX3_begins 88 = .ok (.iload_n 1, 1) := dk_27 (dk_at dksX3_begins_3 18 rfl rfl)
theorem dX3_begins_89 : decode cX3_begins 89 = .ok (.aload_n 0, 1) := dk_42 (dk_at dksX3_begins_3 19 rfl rfl)
theorem dX3_begins_90 : decode cX3_begins 90 = .ok (.getfield 154, 3) := dk_180 0 154 (dk_at dksX3_begins_3 20 rfl rfl)
theorem dX3_begins_93 : decode cX3_begins 93 = .ok (.if_icmp .ge 21, 3) := dk_162 0 21 (dk_at dksX3_begins_4 0 rfl rfl)
theorem dX3_begins_96 : decode cX3_begins 96 = .ok (.aload_n 0, 1) := dk_42 (dk_at dksX3_begins_4 3 rfl rfl)
theorem dX3_begins_97 : decode cX3_begins 97 = .ok (.getfield 87, 3) := dk_180 0 87 (dk_at dksX3_begins_4 4 rfl rfl)
theorem dX3_begins_100 : decode cX3_begins 100 = .ok (.iload_n 1, 1) := dk_27 (dk_at dksX3_begins_4 7 rfl rfl)
theorem dX3_begins_101 : decode cX3_begins 101 = .ok (.aload_n 0, 1) := dk_42 (dk_at dksX3_begins_4 8 rfl rfl)
theorem dX3_begins_102 : decode cX3_begins 102 = .ok (.iconst 0, 1) := dk_3 (dk_at dksX3_begins_4 9 rfl rfl)
theorem dX3_begins_103 : decode cX3_begins 103 = .ok (.iload_n 1, 1) := dk_27 (dk_at dksX3_begins_4 10 rfl rfl)
theorem dX3_begins_104 : decode cX3_begins 104 = .ok (.invokevirtual 383, 3) := dk_182 1 127 (dk_at dksX3_begins_4 11 rfl rfl)
theorem dX3_begins_107 : decode cX3_begins 107 = .ok (.iastore, 1) := dk_79 (dk_at dksX3_begins_4 14 rfl rfl)
theorem dX3_begins_108 : decode cX3_begins 108 = .ok (.iinc 1 1, 3) := dk_132 1 1 (dk_at dksX3_begins_4 15 rfl rfl)
theorem dX3_begins_111 : decode cX3_begins 111 = .ok (.goto (-23), 3) := dk_167 255 233 (dk_at dksX3_begins_4 18 rfl rfl)
theorem dX3_begins_114 : decode cX3_begins 114 = .ok (.return_, 1) := dk_177 (dk_at dksX3_begins_4 21 rfl rfl)
abbrev cX3_firstFrom : ByteArray := prog_18_method_97_code
def yX3_firstFrom : MethodName := ⟨RX3, "firstFrom", "(II)I"⟩
def dkwX3_firstFrom_1 : List UInt8 := [153, 0, 11, 16, 10, 21, 4, 104, 167, 0, 4, 29, 62, 132, 4, 255, 167, 255, 227, 29, 172]
abbrev dktX3_firstFrom_1 : List UInt8 := dkwX3_firstFrom_1 ++ []
def dkwX3_firstFrom_0 : List UInt8 := [2, 62, 42, 180, 0, 171, 4, 100, 54, 4, 21, 4, 27, 161, 0, 29, 42, 21, 4, 28, 182, 0, 177]
abbrev dktX3_firstFrom_0 : List UInt8 := dkwX3_firstFrom_0 ++ dktX3_firstFrom_1
theorem dksX3_firstFrom_0 : cX3_firstFrom.data.toList.drop 0 = dktX3_firstFrom_0 := by decide +kernel
theorem dksX3_firstFrom_1 : cX3_firstFrom.data.toList.drop 23 = dktX3_firstFrom_1 := dk_seg dksX3_firstFrom_0 23 rfl rfl
theorem dX3_firstFrom_0 : decode cX3_firstFrom 0 = .ok (.iconst (-1), 1) := dk_2 (dk_at dksX3_firstFrom_0 0 rfl rfl)
theorem dX3_firstFrom_1 : decode cX3_firstFrom 1 = .ok (.istore_n 3, 1) := dk_62 (dk_at dksX3_firstFrom_0 1 rfl rfl)
theorem dX3_firstFrom_2 : decode cX3_firstFrom 2 = .ok (.aload_n 0, 1) := dk_42 (dk_at dksX3_firstFrom_0 2 rfl rfl)
theorem dX3_firstFrom_3 : decode cX3_firstFrom 3 = .ok (.getfield 171, 3) := dk_180 0 171 (dk_at dksX3_firstFrom_0 3 rfl rfl)
theorem dX3_firstFrom_6 : decode cX3_firstFrom 6 = .ok (.iconst 1, 1) := dk_4 (dk_at dksX3_firstFrom_0 6 rfl rfl)
theorem dX3_firstFrom_7 : decode cX3_firstFrom 7 = .ok (.isub, 1) := dk_100 (dk_at dksX3_firstFrom_0 7 rfl rfl)
theorem dX3_firstFrom_8 : decode cX3_firstFrom 8 = .ok (.istore 4, 2) := dk_54 4 (dk_at dksX3_firstFrom_0 8 rfl rfl)
theorem dX3_firstFrom_10 : decode cX3_firstFrom 10 = .ok (.iload 4, 2) := dk_21 4 (dk_at dksX3_firstFrom_0 10 rfl rfl)
theorem dX3_firstFrom_12 : decode cX3_firstFrom 12 = .ok (.iload_n 1, 1) := dk_27 (dk_at dksX3_firstFrom_0 12 rfl rfl)
theorem dX3_firstFrom_13 : decode cX3_firstFrom 13 = .ok (.if_icmp .lt 29, 3) := dk_161 0 29 (dk_at dksX3_firstFrom_0 13 rfl rfl)
theorem dX3_firstFrom_16 : decode cX3_firstFrom 16 = .ok (.aload_n 0, 1) := dk_42 (dk_at dksX3_firstFrom_0 16 rfl rfl)
theorem dX3_firstFrom_17 : decode cX3_firstFrom 17 = .ok (.iload 4, 2) := dk_21 4 (dk_at dksX3_firstFrom_0 17 rfl rfl)
theorem dX3_firstFrom_19 : decode cX3_firstFrom 19 = .ok (.iload_n 2, 1) := dk_28 (dk_at dksX3_firstFrom_0 19 rfl rfl)
theorem dX3_firstFrom_20 : decode cX3_firstFrom 20 = .ok (.invokevirtual 177, 3) := dk_182 0 177 (dk_at dksX3_firstFrom_0 20 rfl rfl)
theorem dX3_firstFrom_23 : decode cX3_firstFrom 23 = .ok (.ifCond .eq 11, 3) := dk_153 0 11 (dk_at dksX3_firstFrom_1 0 rfl rfl)
theorem dX3_firstFrom_26 : decode cX3_firstFrom 26 = .ok (.bipush 10, 2) := dk_16 10 (dk_at dksX3_firstFrom_1 3 rfl rfl)
theorem dX3_firstFrom_28 : decode cX3_firstFrom 28 = .ok (.iload 4, 2) := dk_21 4 (dk_at dksX3_firstFrom_1 5 rfl rfl)
theorem dX3_firstFrom_30 : decode cX3_firstFrom 30 = .ok (.imul, 1) := dk_104 (dk_at dksX3_firstFrom_1 7 rfl rfl)
theorem dX3_firstFrom_31 : decode cX3_firstFrom 31 = .ok (.goto 4, 3) := dk_167 0 4 (dk_at dksX3_firstFrom_1 8 rfl rfl)
theorem dX3_firstFrom_34 : decode cX3_firstFrom 34 = .ok (.iload_n 3, 1) := dk_29 (dk_at dksX3_firstFrom_1 11 rfl rfl)
theorem dX3_firstFrom_35 : decode cX3_firstFrom 35 = .ok (.istore_n 3, 1) := dk_62 (dk_at dksX3_firstFrom_1 12 rfl rfl)
theorem dX3_firstFrom_36 : decode cX3_firstFrom 36 = .ok (.iinc 4 (-1), 3) := dk_132 4 255 (dk_at dksX3_firstFrom_1 13 rfl rfl)
theorem dX3_firstFrom_39 : decode cX3_firstFrom 39 = .ok (.goto (-29), 3) := dk_167 255 227 (dk_at dksX3_firstFrom_1 16 rfl rfl)
theorem dX3_firstFrom_42 : decode cX3_firstFrom 42 = .ok (.iload_n 3, 1) := dk_29 (dk_at dksX3_firstFrom_1 19 rfl rfl)
theorem dX3_firstFrom_43 : decode cX3_firstFrom 43 = .ok (.ireturn, 1) := dk_172 (dk_at dksX3_firstFrom_1 20 rfl rfl)
abbrev cX3_steps : ByteArray := prog_18_method_99_code
def yX3_steps : MethodName := ⟨RX3, "steps", "(I)V"⟩
def dkwX3_steps_4 : List UInt8 := [42, 89, 180, 1, 124, 4, 96, 181, 1, 124, 177]
abbrev dktX3_steps_4 : List UInt8 := dkwX3_steps_4 ++ []
def dkwX3_steps_3 : List UInt8 := [182, 1, 127, 79, 42, 180, 0, 87, 27, 46, 2, 160, 0, 23, 42, 180, 0, 84, 42, 180, 1, 124, 27, 79]
abbrev dktX3_steps_3 : List UInt8 := dkwX3_steps_3 ++ dktX3_steps_4
def dkwX3_steps_2 : List UInt8 := [180, 0, 29, 28, 46, 162, 0, 14, 42, 180, 0, 87, 27, 46, 4, 96, 167, 0, 11, 42, 28, 4, 96, 27]
abbrev dktX3_steps_2 : List UInt8 := dkwX3_steps_2 ++ dktX3_steps_3
def dkwX3_steps_1 : List UInt8 := [182, 1, 130, 54, 4, 42, 180, 0, 87, 27, 21, 4, 154, 0, 7, 2, 167, 0, 34, 29, 4, 96, 42]
abbrev dktX3_steps_1 : List UInt8 := dkwX3_steps_1 ++ dktX3_steps_2
def dkwX3_steps_0 : List UInt8 := [42, 180, 0, 87, 27, 46, 16, 10, 108, 61, 42, 180, 0, 87, 27, 46, 16, 10, 112, 62, 42, 28, 27, 29]
abbrev dktX3_steps_0 : List UInt8 := dkwX3_steps_0 ++ dktX3_steps_1
theorem dksX3_steps_0 : cX3_steps.data.toList.drop 0 = dktX3_steps_0 := by decide +kernel
theorem dksX3_steps_1 : cX3_steps.data.toList.drop 24 = dktX3_steps_1 := dk_seg dksX3_steps_0 24 rfl rfl
theorem dksX3_steps_2 : cX3_steps.data.toList.drop 47 = dktX3_steps_2 := dk_seg dksX3_steps_1 23 rfl rfl
theorem dksX3_steps_3 : cX3_steps.data.toList.drop 71 = dktX3_steps_3 := dk_seg dksX3_steps_2 24 rfl rfl
theorem dksX3_steps_4 : cX3_steps.data.toList.drop 95 = dktX3_steps_4 := dk_seg dksX3_steps_3 24 rfl rfl
theorem dX3_steps_0 : decode cX3_steps 0 = .ok (.aload_n 0, 1) := dk_42 (dk_at dksX3_steps_0 0 rfl rfl)
theorem dX3_steps_1 : decode cX3_steps 1 = .ok (.getfield 87, 3) := dk_180 0 87 (dk_at dksX3_steps_0 1 rfl rfl)
theorem dX3_steps_4 : decode cX3_steps 4 = .ok (.iload_n 1, 1) := dk_27 (dk_at dksX3_steps_0 4 rfl rfl)
theorem dX3_steps_5 : decode cX3_steps 5 = .ok (.iaload, 1) := dk_46 (dk_at dksX3_steps_0 5 rfl rfl)
theorem dX3_steps_6 : decode cX3_steps 6 = .ok (.bipush 10, 2) := dk_16 10 (dk_at dksX3_steps_0 6 rfl rfl)
theorem dX3_steps_8 : decode cX3_steps 8 = .ok (.idiv, 1) := dk_108 (dk_at dksX3_steps_0 8 rfl rfl)
theorem dX3_steps_9 : decode cX3_steps 9 = .ok (.istore_n 2, 1) := dk_61 (dk_at dksX3_steps_0 9 rfl rfl)
theorem dX3_steps_10 : decode cX3_steps 10 = .ok (.aload_n 0, 1) := dk_42 (dk_at dksX3_steps_0 10 rfl rfl)
theorem dX3_steps_11 : decode cX3_steps 11 = .ok (.getfield 87, 3) := dk_180 0 87 (dk_at dksX3_steps_0 11 rfl rfl)
theorem dX3_steps_14 : decode cX3_steps 14 = .ok (.iload_n 1, 1) := dk_27 (dk_at dksX3_steps_0 14 rfl rfl)
theorem dX3_steps_15 : decode cX3_steps 15 = .ok (.iaload, 1) := dk_46 (dk_at dksX3_steps_0 15 rfl rfl)
theorem dX3_steps_16 : decode cX3_steps 16 = .ok (.bipush 10, 2) := dk_16 10 (dk_at dksX3_steps_0 16 rfl rfl)
theorem dX3_steps_18 : decode cX3_steps 18 = .ok (.irem, 1) := dk_112 (dk_at dksX3_steps_0 18 rfl rfl)
theorem dX3_steps_19 : decode cX3_steps 19 = .ok (.istore_n 3, 1) := dk_62 (dk_at dksX3_steps_0 19 rfl rfl)
theorem dX3_steps_20 : decode cX3_steps 20 = .ok (.aload_n 0, 1) := dk_42 (dk_at dksX3_steps_0 20 rfl rfl)
theorem dX3_steps_21 : decode cX3_steps 21 = .ok (.iload_n 2, 1) := dk_28 (dk_at dksX3_steps_0 21 rfl rfl)
theorem dX3_steps_22 : decode cX3_steps 22 = .ok (.iload_n 1, 1) := dk_27 (dk_at dksX3_steps_0 22 rfl rfl)
theorem dX3_steps_23 : decode cX3_steps 23 = .ok (.iload_n 3, 1) := dk_29 (dk_at dksX3_steps_0 23 rfl rfl)
theorem dX3_steps_24 : decode cX3_steps 24 = .ok (.invokevirtual 386, 3) := dk_182 1 130 (dk_at dksX3_steps_1 0 rfl rfl)
theorem dX3_steps_27 : decode cX3_steps 27 = .ok (.istore 4, 2) := dk_54 4 (dk_at dksX3_steps_1 3 rfl rfl)
theorem dX3_steps_29 : decode cX3_steps 29 = .ok (.aload_n 0, 1) := dk_42 (dk_at dksX3_steps_1 5 rfl rfl)
theorem dX3_steps_30 : decode cX3_steps 30 = .ok (.getfield 87, 3) := dk_180 0 87 (dk_at dksX3_steps_1 6 rfl rfl)
theorem dX3_steps_33 : decode cX3_steps 33 = .ok (.iload_n 1, 1) := dk_27 (dk_at dksX3_steps_1 9 rfl rfl)
theorem dX3_steps_34 : decode cX3_steps 34 = .ok (.iload 4, 2) := dk_21 4 (dk_at dksX3_steps_1 10 rfl rfl)
theorem dX3_steps_36 : decode cX3_steps 36 = .ok (.ifCond .ne 7, 3) := dk_154 0 7 (dk_at dksX3_steps_1 12 rfl rfl)
theorem dX3_steps_39 : decode cX3_steps 39 = .ok (.iconst (-1), 1) := dk_2 (dk_at dksX3_steps_1 15 rfl rfl)
theorem dX3_steps_40 : decode cX3_steps 40 = .ok (.goto 34, 3) := dk_167 0 34 (dk_at dksX3_steps_1 16 rfl rfl)
theorem dX3_steps_43 : decode cX3_steps 43 = .ok (.iload_n 3, 1) := dk_29 (dk_at dksX3_steps_1 19 rfl rfl)
theorem dX3_steps_44 : decode cX3_steps 44 = .ok (.iconst 1, 1) := dk_4 (dk_at dksX3_steps_1 20 rfl rfl)
theorem dX3_steps_45 : decode cX3_steps 45 = .ok (.iadd, 1) := dk_96 (dk_at dksX3_steps_1 21 rfl rfl)
theorem dX3_steps_46 : decode cX3_steps 46 = .ok (.aload_n 0, 1) := dk_42 (dk_at dksX3_steps_1 22 rfl rfl)
theorem dX3_steps_47 : decode cX3_steps 47 = .ok (.getfield 29, 3) := dk_180 0 29 (dk_at dksX3_steps_2 0 rfl rfl)
theorem dX3_steps_50 : decode cX3_steps 50 = .ok (.iload_n 2, 1) := dk_28 (dk_at dksX3_steps_2 3 rfl rfl)
theorem dX3_steps_51 : decode cX3_steps 51 = .ok (.iaload, 1) := dk_46 (dk_at dksX3_steps_2 4 rfl rfl)
theorem dX3_steps_52 : decode cX3_steps 52 = .ok (.if_icmp .ge 14, 3) := dk_162 0 14 (dk_at dksX3_steps_2 5 rfl rfl)
theorem dX3_steps_55 : decode cX3_steps 55 = .ok (.aload_n 0, 1) := dk_42 (dk_at dksX3_steps_2 8 rfl rfl)
theorem dX3_steps_56 : decode cX3_steps 56 = .ok (.getfield 87, 3) := dk_180 0 87 (dk_at dksX3_steps_2 9 rfl rfl)
theorem dX3_steps_59 : decode cX3_steps 59 = .ok (.iload_n 1, 1) := dk_27 (dk_at dksX3_steps_2 12 rfl rfl)
theorem dX3_steps_60 : decode cX3_steps 60 = .ok (.iaload, 1) := dk_46 (dk_at dksX3_steps_2 13 rfl rfl)
theorem dX3_steps_61 : decode cX3_steps 61 = .ok (.iconst 1, 1) := dk_4 (dk_at dksX3_steps_2 14 rfl rfl)
theorem dX3_steps_62 : decode cX3_steps 62 = .ok (.iadd, 1) := dk_96 (dk_at dksX3_steps_2 15 rfl rfl)
theorem dX3_steps_63 : decode cX3_steps 63 = .ok (.goto 11, 3) := dk_167 0 11 (dk_at dksX3_steps_2 16 rfl rfl)
theorem dX3_steps_66 : decode cX3_steps 66 = .ok (.aload_n 0, 1) := dk_42 (dk_at dksX3_steps_2 19 rfl rfl)
theorem dX3_steps_67 : decode cX3_steps 67 = .ok (.iload_n 2, 1) := dk_28 (dk_at dksX3_steps_2 20 rfl rfl)
theorem dX3_steps_68 : decode cX3_steps 68 = .ok (.iconst 1, 1) := dk_4 (dk_at dksX3_steps_2 21 rfl rfl)
theorem dX3_steps_69 : decode cX3_steps 69 = .ok (.iadd, 1) := dk_96 (dk_at dksX3_steps_2 22 rfl rfl)
theorem dX3_steps_70 : decode cX3_steps 70 = .ok (.iload_n 1, 1) := dk_27 (dk_at dksX3_steps_2 23 rfl rfl)
theorem dX3_steps_71 : decode cX3_steps 71 = .ok (.invokevirtual 383, 3) := dk_182 1 127 (dk_at dksX3_steps_3 0 rfl rfl)
theorem dX3_steps_74 : decode cX3_steps 74 = .ok (.iastore, 1) := dk_79 (dk_at dksX3_steps_3 3 rfl rfl)
theorem dX3_steps_75 : decode cX3_steps 75 = .ok (.aload_n 0, 1) := dk_42 (dk_at dksX3_steps_3 4 rfl rfl)
theorem dX3_steps_76 : decode cX3_steps 76 = .ok (.getfield 87, 3) := dk_180 0 87 (dk_at dksX3_steps_3 5 rfl rfl)
theorem dX3_steps_79 : decode cX3_steps 79 = .ok (.iload_n 1, 1) := dk_27 (dk_at dksX3_steps_3 8 rfl rfl)
theorem dX3_steps_80 : decode cX3_steps 80 = .ok (.iaload, 1) := dk_46 (dk_at dksX3_steps_3 9 rfl rfl)
theorem dX3_steps_81 : decode cX3_steps 81 = .ok (.iconst (-1), 1) := dk_2 (dk_at dksX3_steps_3 10 rfl rfl)
theorem dX3_steps_82 : decode cX3_steps 82 = .ok (.if_icmp .ne 23, 3) := dk_160 0 23 (dk_at dksX3_steps_3 11 rfl rfl)
theorem dX3_steps_85 : decode cX3_steps 85 = .ok (.aload_n 0, 1) := dk_42 (dk_at dksX3_steps_3 14 rfl rfl)
theorem dX3_steps_86 : decode cX3_steps 86 = .ok (.getfield 84, 3) := dk_180 0 84 (dk_at dksX3_steps_3 15 rfl rfl)
theorem dX3_steps_89 : decode cX3_steps 89 = .ok (.aload_n 0, 1) := dk_42 (dk_at dksX3_steps_3 18 rfl rfl)
theorem dX3_steps_90 : decode cX3_steps 90 = .ok (.getfield 380, 3) := dk_180 1 124 (dk_at dksX3_steps_3 19 rfl rfl)
theorem dX3_steps_93 : decode cX3_steps 93 = .ok (.iload_n 1, 1) := dk_27 (dk_at dksX3_steps_3 22 rfl rfl)
theorem dX3_steps_94 : decode cX3_steps 94 = .ok (.iastore, 1) := dk_79 (dk_at dksX3_steps_3 23 rfl rfl)
theorem dX3_steps_95 : decode cX3_steps 95 = .ok (.aload_n 0, 1) := dk_42 (dk_at dksX3_steps_4 0 rfl rfl)
theorem dX3_steps_96 : decode cX3_steps 96 = .ok (.dup, 1) := dk_89 (dk_at dksX3_steps_4 1 rfl rfl)
theorem dX3_steps_97 : decode cX3_steps 97 = .ok (.getfield 380, 3) := dk_180 1 124 (dk_at dksX3_steps_4 2 rfl rfl)
theorem dX3_steps_100 : decode cX3_steps 100 = .ok (.iconst 1, 1) := dk_4 (dk_at dksX3_steps_4 5 rfl rfl)
theorem dX3_steps_101 : decode cX3_steps 101 = .ok (.iadd, 1) := dk_96 (dk_at dksX3_steps_4 6 rfl rfl)
theorem dX3_steps_102 : decode cX3_steps 102 = .ok (.putfield 380, 3) := dk_181 1 124 (dk_at dksX3_steps_4 7 rfl rfl)
theorem dX3_steps_105 : decode cX3_steps 105 = .ok (.return_, 1) := dk_177 (dk_at dksX3_steps_4 10 rfl rfl)
abbrev cX3_item : ByteArray := prog_18_method_96_code
def yX3_item : MethodName := ⟨RX3, "item", "(III)Z"⟩
def dkwX3_item_7 : List UInt8 := [24, 8, 184, 1, 113, 182, 1, 117, 42, 89, 180, 1, 121, 4, 96, 181, 1, 121, 4, 172]
abbrev dktX3_item_7 : List UInt8 := dkwX3_item_7 ++ []
def dkwX3_item_6 : List UInt8 := [29, 182, 0, 200, 96, 54, 10, 42, 21, 10, 28, 42, 180, 0, 7, 42, 180, 0, 41, 6, 27, 104, 46, 46]
abbrev dktX3_item_6 : List UInt8 := dkwX3_item_6 ++ dktX3_item_7
def dkwX3_item_5 : List UInt8 := [172, 42, 180, 1, 75, 154, 0, 51, 16, 24, 42, 180, 0, 41, 6, 27, 104, 46, 104, 42, 6, 27, 104, 28]
abbrev dktX3_item_5 : List UInt8 := dkwX3_item_5 ++ dktX3_item_6
def dkwX3_item_4 : List UInt8 := [57, 8, 42, 180, 1, 82, 2, 159, 0, 18, 42, 180, 0, 81, 42, 180, 1, 82, 92, 46, 4, 96, 79, 3]
abbrev dktX3_item_4 : List UInt8 := dkwX3_item_4 ++ dktX3_item_5
def dkwX3_item_3 : List UInt8 := [181, 1, 82, 42, 180, 1, 82, 2, 160, 0, 15, 42, 27, 24, 4, 24, 6, 182, 1, 110, 167, 0, 4, 14]
abbrev dktX3_item_3 : List UInt8 := dkwX3_item_3 ++ dktX3_item_4
def dkwX3_item_2 : List UInt8 := [180, 1, 82, 2, 160, 0, 15, 42, 6, 27, 104, 28, 29, 182, 1, 100, 167, 0, 7, 42, 180, 1, 82]
abbrev dktX3_item_2 : List UInt8 := dkwX3_item_2 ++ dktX3_item_3
def dkwX3_item_1 : List UInt8 := [160, 0, 17, 42, 6, 27, 104, 5, 96, 28, 29, 182, 1, 106, 167, 0, 4, 14, 57, 6, 42, 42]
abbrev dktX3_item_1 : List UInt8 := dkwX3_item_1 ++ dktX3_item_2
def dkwX3_item_0 : List UInt8 := [42, 2, 181, 1, 82, 42, 6, 27, 104, 4, 96, 28, 29, 182, 1, 106, 57, 4, 42, 180, 1, 82, 2]
abbrev dktX3_item_0 : List UInt8 := dkwX3_item_0 ++ dktX3_item_1
theorem dksX3_item_0 : cX3_item.data.toList.drop 0 = dktX3_item_0 := by decide +kernel
theorem dksX3_item_1 : cX3_item.data.toList.drop 23 = dktX3_item_1 := dk_seg dksX3_item_0 23 rfl rfl
theorem dksX3_item_2 : cX3_item.data.toList.drop 45 = dktX3_item_2 := dk_seg dksX3_item_1 22 rfl rfl
theorem dksX3_item_3 : cX3_item.data.toList.drop 68 = dktX3_item_3 := dk_seg dksX3_item_2 23 rfl rfl
theorem dksX3_item_4 : cX3_item.data.toList.drop 92 = dktX3_item_4 := dk_seg dksX3_item_3 24 rfl rfl
theorem dksX3_item_5 : cX3_item.data.toList.drop 116 = dktX3_item_5 := dk_seg dksX3_item_4 24 rfl rfl
theorem dksX3_item_6 : cX3_item.data.toList.drop 140 = dktX3_item_6 := dk_seg dksX3_item_5 24 rfl rfl
theorem dksX3_item_7 : cX3_item.data.toList.drop 164 = dktX3_item_7 := dk_seg dksX3_item_6 24 rfl rfl
theorem dX3_item_0 : decode cX3_item 0 = .ok (.aload_n 0, 1) := dk_42 (dk_at dksX3_item_0 0 rfl rfl)
theorem dX3_item_1 : decode cX3_item 1 = .ok (.iconst (-1), 1) := dk_2 (dk_at dksX3_item_0 1 rfl rfl)
theorem dX3_item_2 : decode cX3_item 2 = .ok (.putfield 338, 3) := dk_181 1 82 (dk_at dksX3_item_0 2 rfl rfl)
theorem dX3_item_5 : decode cX3_item 5 = .ok (.aload_n 0, 1) := dk_42 (dk_at dksX3_item_0 5 rfl rfl)
theorem dX3_item_6 : decode cX3_item 6 = .ok (.iconst 3, 1) := dk_6 (dk_at dksX3_item_0 6 rfl rfl)
theorem dX3_item_7 : decode cX3_item 7 = .ok (.iload_n 1, 1) := dk_27 (dk_at dksX3_item_0 7 rfl rfl)
theorem dX3_item_8 : decode cX3_item 8 = .ok (.imul, 1) := dk_104 (dk_at dksX3_item_0 8 rfl rfl)
theorem dX3_item_9 : decode cX3_item 9 = .ok (.iconst 1, 1) := dk_4 (dk_at dksX3_item_0 9 rfl rfl)
theorem dX3_item_10 : decode cX3_item 10 = .ok (.iadd, 1) := dk_96 (dk_at dksX3_item_0 10 rfl rfl)
theorem dX3_item_11 : decode cX3_item 11 = .ok (.iload_n 2, 1) := dk_28 (dk_at dksX3_item_0 11 rfl rfl)
theorem dX3_item_12 : decode cX3_item 12 = .ok (.iload_n 3, 1) := dk_29 (dk_at dksX3_item_0 12 rfl rfl)
theorem dX3_item_13 : decode cX3_item 13 = .ok (.invokevirtual 362, 3) := dk_182 1 106 (dk_at dksX3_item_0 13 rfl rfl)
theorem dX3_item_16 : decode cX3_item 16 = .ok (.dstore 4, 2) := dk_57 4 (dk_at dksX3_item_0 16 rfl rfl)
theorem dX3_item_18 : decode cX3_item 18 = .ok (.aload_n 0, 1) := dk_42 (dk_at dksX3_item_0 18 rfl rfl)
theorem dX3_item_19 : decode cX3_item 19 = .ok (.getfield 338, 3) := dk_180 1 82 (dk_at dksX3_item_0 19 rfl rfl)
theorem dX3_item_22 : decode cX3_item 22 = .ok (.iconst (-1), 1) := dk_2 (dk_at dksX3_item_0 22 rfl rfl)
theorem dX3_item_23 : decode cX3_item 23 = .ok (.if_icmp .ne 17, 3) := dk_160 0 17 (dk_at dksX3_item_1 0 rfl rfl)
theorem dX3_item_26 : decode cX3_item 26 = .ok (.aload_n 0, 1) := dk_42 (dk_at dksX3_item_1 3 rfl rfl)
theorem dX3_item_27 : decode cX3_item 27 = .ok (.iconst 3, 1) := dk_6 (dk_at dksX3_item_1 4 rfl rfl)
theorem dX3_item_28 : decode cX3_item 28 = .ok (.iload_n 1, 1) := dk_27 (dk_at dksX3_item_1 5 rfl rfl)
theorem dX3_item_29 : decode cX3_item 29 = .ok (.imul, 1) := dk_104 (dk_at dksX3_item_1 6 rfl rfl)
theorem dX3_item_30 : decode cX3_item 30 = .ok (.iconst 2, 1) := dk_5 (dk_at dksX3_item_1 7 rfl rfl)
theorem dX3_item_31 : decode cX3_item 31 = .ok (.iadd, 1) := dk_96 (dk_at dksX3_item_1 8 rfl rfl)
theorem dX3_item_32 : decode cX3_item 32 = .ok (.iload_n 2, 1) := dk_28 (dk_at dksX3_item_1 9 rfl rfl)
theorem dX3_item_33 : decode cX3_item 33 = .ok (.iload_n 3, 1) := dk_29 (dk_at dksX3_item_1 10 rfl rfl)
theorem dX3_item_34 : decode cX3_item 34 = .ok (.invokevirtual 362, 3) := dk_182 1 106 (dk_at dksX3_item_1 11 rfl rfl)
theorem dX3_item_37 : decode cX3_item 37 = .ok (.goto 4, 3) := dk_167 0 4 (dk_at dksX3_item_1 14 rfl rfl)
theorem dX3_item_40 : decode cX3_item 40 = .ok (.dconst 0, 1) := dk_14 (dk_at dksX3_item_1 17 rfl rfl)
theorem dX3_item_41 : decode cX3_item 41 = .ok (.dstore 6, 2) := dk_57 6 (dk_at dksX3_item_1 18 rfl rfl)
theorem dX3_item_43 : decode cX3_item 43 = .ok (.aload_n 0, 1) := dk_42 (dk_at dksX3_item_1 20 rfl rfl)
theorem dX3_item_44 : decode cX3_item 44 = .ok (.aload_n 0, 1) := dk_42 (dk_at dksX3_item_1 21 rfl rfl)
theorem dX3_item_45 : decode cX3_item 45 = .ok (.getfield 338, 3) := dk_180 1 82 (dk_at dksX3_item_2 0 rfl rfl)
theorem dX3_item_48 : decode cX3_item 48 = .ok (.iconst (-1), 1) := dk_2 (dk_at dksX3_item_2 3 rfl rfl)
theorem dX3_item_49 : decode cX3_item 49 = .ok (.if_icmp .ne 15, 3) := dk_160 0 15 (dk_at dksX3_item_2 4 rfl rfl)
theorem dX3_item_52 : decode cX3_item 52 = .ok (.aload_n 0, 1) := dk_42 (dk_at dksX3_item_2 7 rfl rfl)
theorem dX3_item_53 : decode cX3_item 53 = .ok (.iconst 3, 1) := dk_6 (dk_at dksX3_item_2 8 rfl rfl)
theorem dX3_item_54 : decode cX3_item 54 = .ok (.iload_n 1, 1) := dk_27 (dk_at dksX3_item_2 9 rfl rfl)
theorem dX3_item_55 : decode cX3_item 55 = .ok (.imul, 1) := dk_104 (dk_at dksX3_item_2 10 rfl rfl)
theorem dX3_item_56 : decode cX3_item 56 = .ok (.iload_n 2, 1) := dk_28 (dk_at dksX3_item_2 11 rfl rfl)
theorem dX3_item_57 : decode cX3_item 57 = .ok (.iload_n 3, 1) := dk_29 (dk_at dksX3_item_2 12 rfl rfl)
theorem dX3_item_58 : decode cX3_item 58 = .ok (.invokevirtual 356, 3) := dk_182 1 100 (dk_at dksX3_item_2 13 rfl rfl)
theorem dX3_item_61 : decode cX3_item 61 = .ok (.goto 7, 3) := dk_167 0 7 (dk_at dksX3_item_2 16 rfl rfl)
theorem dX3_item_64 : decode cX3_item 64 = .ok (.aload_n 0, 1) := dk_42 (dk_at dksX3_item_2 19 rfl rfl)
theorem dX3_item_65 : decode cX3_item 65 = .ok (.getfield 338, 3) := dk_180 1 82 (dk_at dksX3_item_2 20 rfl rfl)
theorem dX3_item_68 : decode cX3_item 68 = .ok (.putfield 338, 3) := dk_181 1 82 (dk_at dksX3_item_3 0 rfl rfl)
theorem dX3_item_71 : decode cX3_item 71 = .ok (.aload_n 0, 1) := dk_42 (dk_at dksX3_item_3 3 rfl rfl)
theorem dX3_item_72 : decode cX3_item 72 = .ok (.getfield 338, 3) := dk_180 1 82 (dk_at dksX3_item_3 4 rfl rfl)
theorem dX3_item_75 : decode cX3_item 75 = .ok (.iconst (-1), 1) := dk_2 (dk_at dksX3_item_3 7 rfl rfl)
theorem dX3_item_76 : decode cX3_item 76 = .ok (.if_icmp .ne 15, 3) := dk_160 0 15 (dk_at dksX3_item_3 8 rfl rfl)
theorem dX3_item_79 : decode cX3_item 79 = .ok (.aload_n 0, 1) := dk_42 (dk_at dksX3_item_3 11 rfl rfl)
theorem dX3_item_80 : decode cX3_item 80 = .ok (.iload_n 1, 1) := dk_27 (dk_at dksX3_item_3 12 rfl rfl)
theorem dX3_item_81 : decode cX3_item 81 = .ok (.dload 4, 2) := dk_24 4 (dk_at dksX3_item_3 13 rfl rfl)
theorem dX3_item_83 : decode cX3_item 83 = .ok (.dload 6, 2) := dk_24 6 (dk_at dksX3_item_3 15 rfl rfl)
theorem dX3_item_85 : decode cX3_item 85 = .ok (.invokevirtual 366, 3) := dk_182 1 110 (dk_at dksX3_item_3 17 rfl rfl)
theorem dX3_item_88 : decode cX3_item 88 = .ok (.goto 4, 3) := dk_167 0 4 (dk_at dksX3_item_3 20 rfl rfl)
theorem dX3_item_91 : decode cX3_item 91 = .ok (.dconst 0, 1) := dk_14 (dk_at dksX3_item_3 23 rfl rfl)
theorem dX3_item_92 : decode cX3_item 92 = .ok (.dstore 8, 2) := dk_57 8 (dk_at dksX3_item_4 0 rfl rfl)
theorem dX3_item_94 : decode cX3_item 94 = .ok (.aload_n 0, 1) := dk_42 (dk_at dksX3_item_4 2 rfl rfl)
theorem dX3_item_95 : decode cX3_item 95 = .ok (.getfield 338, 3) := dk_180 1 82 (dk_at dksX3_item_4 3 rfl rfl)
theorem dX3_item_98 : decode cX3_item 98 = .ok (.iconst (-1), 1) := dk_2 (dk_at dksX3_item_4 6 rfl rfl)
theorem dX3_item_99 : decode cX3_item 99 = .ok (.if_icmp .eq 18, 3) := dk_159 0 18 (dk_at dksX3_item_4 7 rfl rfl)
theorem dX3_item_102 : decode cX3_item 102 = .ok (.aload_n 0, 1) := dk_42 (dk_at dksX3_item_4 10 rfl rfl)
theorem dX3_item_103 : decode cX3_item 103 = .ok (.getfield 81, 3) := dk_180 0 81 (dk_at dksX3_item_4 11 rfl rfl)
theorem dX3_item_106 : decode cX3_item 106 = .ok (.aload_n 0, 1) := dk_42 (dk_at dksX3_item_4 14 rfl rfl)
theorem dX3_item_107 : decode cX3_item 107 = .ok (.getfield 338, 3) := dk_180 1 82 (dk_at dksX3_item_4 15 rfl rfl)
theorem dX3_item_110 : decode cX3_item 110 = .ok (.dup2, 1) := dk_92 (dk_at dksX3_item_4 18 rfl rfl)
theorem dX3_item_111 : decode cX3_item 111 = .ok (.iaload, 1) := dk_46 (dk_at dksX3_item_4 19 rfl rfl)
theorem dX3_item_112 : decode cX3_item 112 = .ok (.iconst 1, 1) := dk_4 (dk_at dksX3_item_4 20 rfl rfl)
theorem dX3_item_113 : decode cX3_item 113 = .ok (.iadd, 1) := dk_96 (dk_at dksX3_item_4 21 rfl rfl)
theorem dX3_item_114 : decode cX3_item 114 = .ok (.iastore, 1) := dk_79 (dk_at dksX3_item_4 22 rfl rfl)
theorem dX3_item_115 : decode cX3_item 115 = .ok (.iconst 0, 1) := dk_3 (dk_at dksX3_item_4 23 rfl rfl)
theorem dX3_item_116 : decode cX3_item 116 = .ok (.ireturn, 1) := dk_172 (dk_at dksX3_item_5 0 rfl rfl)
theorem dX3_item_117 : decode cX3_item 117 = .ok (.aload_n 0, 1) := dk_42 (dk_at dksX3_item_5 1 rfl rfl)
theorem dX3_item_118 : decode cX3_item 118 = .ok (.getfield 331, 3) := dk_180 1 75 (dk_at dksX3_item_5 2 rfl rfl)
theorem dX3_item_121 : decode cX3_item 121 = .ok (.ifCond .ne 51, 3) := dk_154 0 51 (dk_at dksX3_item_5 5 rfl rfl)
theorem dX3_item_124 : decode cX3_item 124 = .ok (.bipush 24, 2) := dk_16 24 (dk_at dksX3_item_5 8 rfl rfl)
theorem dX3_item_126 : decode cX3_item 126 = .ok (.aload_n 0, 1) := dk_42 (dk_at dksX3_item_5 10 rfl rfl)
theorem dX3_item_127 : decode cX3_item 127 = .ok (.getfield 41, 3) := dk_180 0 41 (dk_at dksX3_item_5 11 rfl rfl)
theorem dX3_item_130 : decode cX3_item 130 = .ok (.iconst 3, 1) := dk_6 (dk_at dksX3_item_5 14 rfl rfl)
theorem dX3_item_131 : decode cX3_item 131 = .ok (.iload_n 1, 1) := dk_27 (dk_at dksX3_item_5 15 rfl rfl)
theorem dX3_item_132 : decode cX3_item 132 = .ok (.imul, 1) := dk_104 (dk_at dksX3_item_5 16 rfl rfl)
theorem dX3_item_133 : decode cX3_item 133 = .ok (.iaload, 1) := dk_46 (dk_at dksX3_item_5 17 rfl rfl)
theorem dX3_item_134 : decode cX3_item 134 = .ok (.imul, 1) := dk_104 (dk_at dksX3_item_5 18 rfl rfl)
theorem dX3_item_135 : decode cX3_item 135 = .ok (.aload_n 0, 1) := dk_42 (dk_at dksX3_item_5 19 rfl rfl)
theorem dX3_item_136 : decode cX3_item 136 = .ok (.iconst 3, 1) := dk_6 (dk_at dksX3_item_5 20 rfl rfl)
theorem dX3_item_137 : decode cX3_item 137 = .ok (.iload_n 1, 1) := dk_27 (dk_at dksX3_item_5 21 rfl rfl)
theorem dX3_item_138 : decode cX3_item 138 = .ok (.imul, 1) := dk_104 (dk_at dksX3_item_5 22 rfl rfl)
theorem dX3_item_139 : decode cX3_item 139 = .ok (.iload_n 2, 1) := dk_28 (dk_at dksX3_item_5 23 rfl rfl)
theorem dX3_item_140 : decode cX3_item 140 = .ok (.iload_n 3, 1) := dk_29 (dk_at dksX3_item_6 0 rfl rfl)
theorem dX3_item_141 : decode cX3_item 141 = .ok (.invokevirtual 200, 3) := dk_182 0 200 (dk_at dksX3_item_6 1 rfl rfl)
theorem dX3_item_144 : decode cX3_item 144 = .ok (.iadd, 1) := dk_96 (dk_at dksX3_item_6 4 rfl rfl)
theorem dX3_item_145 : decode cX3_item 145 = .ok (.istore 10, 2) := dk_54 10 (dk_at dksX3_item_6 5 rfl rfl)
theorem dX3_item_147 : decode cX3_item 147 = .ok (.aload_n 0, 1) := dk_42 (dk_at dksX3_item_6 7 rfl rfl)
theorem dX3_item_148 : decode cX3_item 148 = .ok (.iload 10, 2) := dk_21 10 (dk_at dksX3_item_6 8 rfl rfl)
theorem dX3_item_150 : decode cX3_item 150 = .ok (.iload_n 2, 1) := dk_28 (dk_at dksX3_item_6 10 rfl rfl)
theorem dX3_item_151 : decode cX3_item 151 = .ok (.aload_n 0, 1) := dk_42 (dk_at dksX3_item_6 11 rfl rfl)
theorem dX3_item_152 : decode cX3_item 152 = .ok (.getfield 7, 3) := dk_180 0 7 (dk_at dksX3_item_6 12 rfl rfl)
theorem dX3_item_155 : decode cX3_item 155 = .ok (.aload_n 0, 1) := dk_42 (dk_at dksX3_item_6 15 rfl rfl)
theorem dX3_item_156 : decode cX3_item 156 = .ok (.getfield 41, 3) := dk_180 0 41 (dk_at dksX3_item_6 16 rfl rfl)
theorem dX3_item_159 : decode cX3_item 159 = .ok (.iconst 3, 1) := dk_6 (dk_at dksX3_item_6 19 rfl rfl)
theorem dX3_item_160 : decode cX3_item 160 = .ok (.iload_n 1, 1) := dk_27 (dk_at dksX3_item_6 20 rfl rfl)
theorem dX3_item_161 : decode cX3_item 161 = .ok (.imul, 1) := dk_104 (dk_at dksX3_item_6 21 rfl rfl)
theorem dX3_item_162 : decode cX3_item 162 = .ok (.iaload, 1) := dk_46 (dk_at dksX3_item_6 22 rfl rfl)
theorem dX3_item_163 : decode cX3_item 163 = .ok (.iaload, 1) := dk_46 (dk_at dksX3_item_6 23 rfl rfl)
theorem dX3_item_164 : decode cX3_item 164 = .ok (.dload 8, 2) := dk_24 8 (dk_at dksX3_item_7 0 rfl rfl)
theorem dX3_item_166 : decode cX3_item 166 = .ok (.invokestatic 369, 3) := dk_184 1 113 (dk_at dksX3_item_7 2 rfl rfl)
theorem dX3_item_169 : decode cX3_item 169 = .ok (.invokevirtual 373, 3) := dk_182 1 117 (dk_at dksX3_item_7 5 rfl rfl)
theorem dX3_item_172 : decode cX3_item 172 = .ok (.aload_n 0, 1) := dk_42 (dk_at dksX3_item_7 8 rfl rfl)
theorem dX3_item_173 : decode cX3_item 173 = .ok (.dup, 1) := dk_89 (dk_at dksX3_item_7 9 rfl rfl)
theorem dX3_item_174 : decode cX3_item 174 = .ok (.getfield 377, 3) := dk_180 1 121 (dk_at dksX3_item_7 10 rfl rfl)
theorem dX3_item_177 : decode cX3_item 177 = .ok (.iconst 1, 1) := dk_4 (dk_at dksX3_item_7 13 rfl rfl)
theorem dX3_item_178 : decode cX3_item 178 = .ok (.iadd, 1) := dk_96 (dk_at dksX3_item_7 14 rfl rfl)
theorem dX3_item_179 : decode cX3_item 179 = .ok (.putfield 377, 3) := dk_181 1 121 (dk_at dksX3_item_7 15 rfl rfl)
theorem dX3_item_182 : decode cX3_item 182 = .ok (.iconst 1, 1) := dk_4 (dk_at dksX3_item_7 18 rfl rfl)
theorem dX3_item_183 : decode cX3_item 183 = .ok (.ireturn, 1) := dk_172 (dk_at dksX3_item_7 19 rfl rfl)
abbrev cX3_read : ByteArray := prog_18_method_94_code
def yX3_read : MethodName := ⟨RX3, "read", "(III)D"⟩
def dkwX3_read_5 : List UInt8 := [180, 0, 71, 21, 4, 49, 175]
abbrev dktX3_read_5 : List UInt8 := dkwX3_read_5 ++ []
def dkwX3_read_4 : List UInt8 := [21, 4, 96, 51, 153, 0, 19, 42, 180, 0, 74, 17, 0, 144, 28, 104, 21, 4, 96, 49, 167, 0, 10, 42]
abbrev dktX3_read_4 : List UInt8 := dkwX3_read_4 ++ dktX3_read_5
def dkwX3_read_3 : List UInt8 := [46, 46, 6, 159, 0, 11, 42, 180, 0, 16, 21, 4, 49, 175, 42, 180, 0, 77, 17, 0, 144, 28, 104]
abbrev dktX3_read_3 : List UInt8 := dkwX3_read_3 ++ dktX3_read_4
def dkwX3_read_2 : List UInt8 := [28, 29, 182, 0, 200, 96, 54, 4, 42, 180, 1, 103, 153, 0, 18, 42, 180, 0, 68, 42, 180, 0, 41, 27]
abbrev dktX3_read_2 : List UInt8 := dkwX3_read_2 ++ dktX3_read_3
def dkwX3_read_1 : List UInt8 := [181, 1, 82, 42, 180, 1, 82, 2, 159, 0, 5, 14, 175, 16, 24, 42, 180, 0, 41, 27, 46, 104, 42, 27]
abbrev dktX3_read_1 : List UInt8 := dkwX3_read_1 ++ dktX3_read_2
def dkwX3_read_0 : List UInt8 := [42, 27, 182, 0, 228, 154, 0, 11, 42, 180, 0, 44, 27, 46, 135, 175, 42, 42, 27, 28, 29, 182, 1, 100]
abbrev dktX3_read_0 : List UInt8 := dkwX3_read_0 ++ dktX3_read_1
theorem dksX3_read_0 : cX3_read.data.toList.drop 0 = dktX3_read_0 := by decide +kernel
theorem dksX3_read_1 : cX3_read.data.toList.drop 24 = dktX3_read_1 := dk_seg dksX3_read_0 24 rfl rfl
theorem dksX3_read_2 : cX3_read.data.toList.drop 48 = dktX3_read_2 := dk_seg dksX3_read_1 24 rfl rfl
theorem dksX3_read_3 : cX3_read.data.toList.drop 72 = dktX3_read_3 := dk_seg dksX3_read_2 24 rfl rfl
theorem dksX3_read_4 : cX3_read.data.toList.drop 95 = dktX3_read_4 := dk_seg dksX3_read_3 23 rfl rfl
theorem dksX3_read_5 : cX3_read.data.toList.drop 119 = dktX3_read_5 := dk_seg dksX3_read_4 24 rfl rfl
theorem dX3_read_0 : decode cX3_read 0 = .ok (.aload_n 0, 1) := dk_42 (dk_at dksX3_read_0 0 rfl rfl)
theorem dX3_read_1 : decode cX3_read 1 = .ok (.iload_n 1, 1) := dk_27 (dk_at dksX3_read_0 1 rfl rfl)
theorem dX3_read_2 : decode cX3_read 2 = .ok (.invokevirtual 228, 3) := dk_182 0 228 (dk_at dksX3_read_0 2 rfl rfl)
theorem dX3_read_5 : decode cX3_read 5 = .ok (.ifCond .ne 11, 3) := dk_154 0 11 (dk_at dksX3_read_0 5 rfl rfl)
theorem dX3_read_8 : decode cX3_read 8 = .ok (.aload_n 0, 1) := dk_42 (dk_at dksX3_read_0 8 rfl rfl)
theorem dX3_read_9 : decode cX3_read 9 = .ok (.getfield 44, 3) := dk_180 0 44 (dk_at dksX3_read_0 9 rfl rfl)
theorem dX3_read_12 : decode cX3_read 12 = .ok (.iload_n 1, 1) := dk_27 (dk_at dksX3_read_0 12 rfl rfl)
theorem dX3_read_13 : decode cX3_read 13 = .ok (.iaload, 1) := dk_46 (dk_at dksX3_read_0 13 rfl rfl)
theorem dX3_read_14 : decode cX3_read 14 = .ok (.i2d, 1) := dk_135 (dk_at dksX3_read_0 14 rfl rfl)
theorem dX3_read_15 : decode cX3_read 15 = .ok (.dreturn, 1) := dk_175 (dk_at dksX3_read_0 15 rfl rfl)
theorem dX3_read_16 : decode cX3_read 16 = .ok (.aload_n 0, 1) := dk_42 (dk_at dksX3_read_0 16 rfl rfl)
theorem dX3_read_17 : decode cX3_read 17 = .ok (.aload_n 0, 1) := dk_42 (dk_at dksX3_read_0 17 rfl rfl)
theorem dX3_read_18 : decode cX3_read 18 = .ok (.iload_n 1, 1) := dk_27 (dk_at dksX3_read_0 18 rfl rfl)
theorem dX3_read_19 : decode cX3_read 19 = .ok (.iload_n 2, 1) := dk_28 (dk_at dksX3_read_0 19 rfl rfl)
theorem dX3_read_20 : decode cX3_read 20 = .ok (.iload_n 3, 1) := dk_29 (dk_at dksX3_read_0 20 rfl rfl)
theorem dX3_read_21 : decode cX3_read 21 = .ok (.invokevirtual 356, 3) := dk_182 1 100 (dk_at dksX3_read_0 21 rfl rfl)
theorem dX3_read_24 : decode cX3_read 24 = .ok (.putfield 338, 3) := dk_181 1 82 (dk_at dksX3_read_1 0 rfl rfl)
theorem dX3_read_27 : decode cX3_read 27 = .ok (.aload_n 0, 1) := dk_42 (dk_at dksX3_read_1 3 rfl rfl)
theorem dX3_read_28 : decode cX3_read 28 = .ok (.getfield 338, 3) := dk_180 1 82 (dk_at dksX3_read_1 4 rfl rfl)
theorem dX3_read_31 : decode cX3_read 31 = .ok (.iconst (-1), 1) := dk_2 (dk_at dksX3_read_1 7 rfl rfl)
theorem dX3_read_32 : decode cX3_read 32 = .ok (.if_icmp .eq 5, 3) := dk_159 0 5 (dk_at dksX3_read_1 8 rfl rfl)
theorem dX3_read_35 : decode cX3_read 35 = .ok (.dconst 0, 1) := dk_14 (dk_at dksX3_read_1 11 rfl rfl)
theorem dX3_read_36 : decode cX3_read 36 = .ok (.dreturn, 1) := dk_175 (dk_at dksX3_read_1 12 rfl rfl)
theorem dX3_read_37 : decode cX3_read 37 = .ok (.bipush 24, 2) := dk_16 24 (dk_at dksX3_read_1 13 rfl rfl)
theorem dX3_read_39 : decode cX3_read 39 = .ok (.aload_n 0, 1) := dk_42 (dk_at dksX3_read_1 15 rfl rfl)
theorem dX3_read_40 : decode cX3_read 40 = .ok (.getfield 41, 3) := dk_180 0 41 (dk_at dksX3_read_1 16 rfl rfl)
theorem dX3_read_43 : decode cX3_read 43 = .ok (.iload_n 1, 1) := dk_27 (dk_at dksX3_read_1 19 rfl rfl)
theorem dX3_read_44 : decode cX3_read 44 = .ok (.iaload, 1) := dk_46 (dk_at dksX3_read_1 20 rfl rfl)
theorem dX3_read_45 : decode cX3_read 45 = .ok (.imul, 1) := dk_104 (dk_at dksX3_read_1 21 rfl rfl)
theorem dX3_read_46 : decode cX3_read 46 = .ok (.aload_n 0, 1) := dk_42 (dk_at dksX3_read_1 22 rfl rfl)
theorem dX3_read_47 : decode cX3_read 47 = .ok (.iload_n 1, 1) := dk_27 (dk_at dksX3_read_1 23 rfl rfl)
theorem dX3_read_48 : decode cX3_read 48 = .ok (.iload_n 2, 1) := dk_28 (dk_at dksX3_read_2 0 rfl rfl)
theorem dX3_read_49 : decode cX3_read 49 = .ok (.iload_n 3, 1) := dk_29 (dk_at dksX3_read_2 1 rfl rfl)
theorem dX3_read_50 : decode cX3_read 50 = .ok (.invokevirtual 200, 3) := dk_182 0 200 (dk_at dksX3_read_2 2 rfl rfl)
theorem dX3_read_53 : decode cX3_read 53 = .ok (.iadd, 1) := dk_96 (dk_at dksX3_read_2 5 rfl rfl)
theorem dX3_read_54 : decode cX3_read 54 = .ok (.istore 4, 2) := dk_54 4 (dk_at dksX3_read_2 6 rfl rfl)
theorem dX3_read_56 : decode cX3_read 56 = .ok (.aload_n 0, 1) := dk_42 (dk_at dksX3_read_2 8 rfl rfl)
theorem dX3_read_57 : decode cX3_read 57 = .ok (.getfield 359, 3) := dk_180 1 103 (dk_at dksX3_read_2 9 rfl rfl)
theorem dX3_read_60 : decode cX3_read 60 = .ok (.ifCond .eq 18, 3) := dk_153 0 18 (dk_at dksX3_read_2 12 rfl rfl)
theorem dX3_read_63 : decode cX3_read 63 = .ok (.aload_n 0, 1) := dk_42 (dk_at dksX3_read_2 15 rfl rfl)
theorem dX3_read_64 : decode cX3_read 64 = .ok (.getfield 68, 3) := dk_180 0 68 (dk_at dksX3_read_2 16 rfl rfl)
theorem dX3_read_67 : decode cX3_read 67 = .ok (.aload_n 0, 1) := dk_42 (dk_at dksX3_read_2 19 rfl rfl)
theorem dX3_read_68 : decode cX3_read 68 = .ok (.getfield 41, 3) := dk_180 0 41 (dk_at dksX3_read_2 20 rfl rfl)
theorem dX3_read_71 : decode cX3_read 71 = .ok (.iload_n 1, 1) := dk_27 (dk_at dksX3_read_2 23 rfl rfl)
theorem dX3_read_72 : decode cX3_read 72 = .ok (.iaload, 1) := dk_46 (dk_at dksX3_read_3 0 rfl rfl)
theorem dX3_read_73 : decode cX3_read 73 = .ok (.iaload, 1) := dk_46 (dk_at dksX3_read_3 1 rfl rfl)
theorem dX3_read_74 : decode cX3_read 74 = .ok (.iconst 3, 1) := dk_6 (dk_at dksX3_read_3 2 rfl rfl)
theorem dX3_read_75 : decode cX3_read 75 = .ok (.if_icmp .eq 11, 3) := dk_159 0 11 (dk_at dksX3_read_3 3 rfl rfl)
theorem dX3_read_78 : decode cX3_read 78 = .ok (.aload_n 0, 1) := dk_42 (dk_at dksX3_read_3 6 rfl rfl)
theorem dX3_read_79 : decode cX3_read 79 = .ok (.getfield 16, 3) := dk_180 0 16 (dk_at dksX3_read_3 7 rfl rfl)
theorem dX3_read_82 : decode cX3_read 82 = .ok (.iload 4, 2) := dk_21 4 (dk_at dksX3_read_3 10 rfl rfl)
theorem dX3_read_84 : decode cX3_read 84 = .ok (.daload, 1) := dk_49 (dk_at dksX3_read_3 12 rfl rfl)
theorem dX3_read_85 : decode cX3_read 85 = .ok (.dreturn, 1) := dk_175 (dk_at dksX3_read_3 13 rfl rfl)
theorem dX3_read_86 : decode cX3_read 86 = .ok (.aload_n 0, 1) := dk_42 (dk_at dksX3_read_3 14 rfl rfl)
theorem dX3_read_87 : decode cX3_read 87 = .ok (.getfield 77, 3) := dk_180 0 77 (dk_at dksX3_read_3 15 rfl rfl)
theorem dX3_read_90 : decode cX3_read 90 = .ok (.sipush 144, 3) := dk_17 0 144 (dk_at dksX3_read_3 18 rfl rfl)
theorem dX3_read_93 : decode cX3_read 93 = .ok (.iload_n 2, 1) := dk_28 (dk_at dksX3_read_3 21 rfl rfl)
theorem dX3_read_94 : decode cX3_read 94 = .ok (.imul, 1) := dk_104 (dk_at dksX3_read_3 22 rfl rfl)
theorem dX3_read_95 : decode cX3_read 95 = .ok (.iload 4, 2) := dk_21 4 (dk_at dksX3_read_4 0 rfl rfl)
theorem dX3_read_97 : decode cX3_read 97 = .ok (.iadd, 1) := dk_96 (dk_at dksX3_read_4 2 rfl rfl)
theorem dX3_read_98 : decode cX3_read 98 = .ok (.baload, 1) := dk_51 (dk_at dksX3_read_4 3 rfl rfl)
theorem dX3_read_99 : decode cX3_read 99 = .ok (.ifCond .eq 19, 3) := dk_153 0 19 (dk_at dksX3_read_4 4 rfl rfl)
theorem dX3_read_102 : decode cX3_read 102 = .ok (.aload_n 0, 1) := dk_42 (dk_at dksX3_read_4 7 rfl rfl)
theorem dX3_read_103 : decode cX3_read 103 = .ok (.getfield 74, 3) := dk_180 0 74 (dk_at dksX3_read_4 8 rfl rfl)
theorem dX3_read_106 : decode cX3_read 106 = .ok (.sipush 144, 3) := dk_17 0 144 (dk_at dksX3_read_4 11 rfl rfl)
theorem dX3_read_109 : decode cX3_read 109 = .ok (.iload_n 2, 1) := dk_28 (dk_at dksX3_read_4 14 rfl rfl)
theorem dX3_read_110 : decode cX3_read 110 = .ok (.imul, 1) := dk_104 (dk_at dksX3_read_4 15 rfl rfl)
theorem dX3_read_111 : decode cX3_read 111 = .ok (.iload 4, 2) := dk_21 4 (dk_at dksX3_read_4 16 rfl rfl)
theorem dX3_read_113 : decode cX3_read 113 = .ok (.iadd, 1) := dk_96 (dk_at dksX3_read_4 18 rfl rfl)
theorem dX3_read_114 : decode cX3_read 114 = .ok (.daload, 1) := dk_49 (dk_at dksX3_read_4 19 rfl rfl)
theorem dX3_read_115 : decode cX3_read 115 = .ok (.goto 10, 3) := dk_167 0 10 (dk_at dksX3_read_4 20 rfl rfl)
theorem dX3_read_118 : decode cX3_read 118 = .ok (.aload_n 0, 1) := dk_42 (dk_at dksX3_read_4 23 rfl rfl)
theorem dX3_read_119 : decode cX3_read 119 = .ok (.getfield 71, 3) := dk_180 0 71 (dk_at dksX3_read_5 0 rfl rfl)
theorem dX3_read_122 : decode cX3_read 122 = .ok (.iload 4, 2) := dk_21 4 (dk_at dksX3_read_5 3 rfl rfl)
theorem dX3_read_124 : decode cX3_read 124 = .ok (.daload, 1) := dk_49 (dk_at dksX3_read_5 5 rfl rfl)
theorem dX3_read_125 : decode cX3_read 125 = .ok (.dreturn, 1) := dk_175 (dk_at dksX3_read_5 6 rfl rfl)
abbrev cX3_lacksPlace : ByteArray := prog_18_method_93_code
def yX3_lacksPlace : MethodName := ⟨RX3, "lacksPlace", "(III)I"⟩
def dkwX3_lacksPlace_2 : List UInt8 := [153, 0, 7, 2, 167, 0, 4, 4, 172]
abbrev dktX3_lacksPlace_2 : List UInt8 := dkwX3_lacksPlace_2 ++ []
def dkwX3_lacksPlace_1 : List UInt8 := [167, 0, 31, 42, 27, 28, 29, 182, 0, 200, 3, 42, 180, 0, 13, 21, 4, 46, 4, 100, 184, 0, 114]
abbrev dktX3_lacksPlace_1 : List UInt8 := dkwX3_lacksPlace_1 ++ dktX3_lacksPlace_2
def dkwX3_lacksPlace_0 : List UInt8 := [42, 180, 0, 41, 27, 46, 54, 4, 42, 180, 0, 7, 21, 4, 46, 184, 0, 185, 154, 0, 7, 3]
abbrev dktX3_lacksPlace_0 : List UInt8 := dkwX3_lacksPlace_0 ++ dktX3_lacksPlace_1
theorem dksX3_lacksPlace_0 : cX3_lacksPlace.data.toList.drop 0 = dktX3_lacksPlace_0 := by decide +kernel
theorem dksX3_lacksPlace_1 : cX3_lacksPlace.data.toList.drop 22 = dktX3_lacksPlace_1 := dk_seg dksX3_lacksPlace_0 22 rfl rfl
theorem dksX3_lacksPlace_2 : cX3_lacksPlace.data.toList.drop 45 = dktX3_lacksPlace_2 := dk_seg dksX3_lacksPlace_1 23 rfl rfl
theorem dX3_lacksPlace_0 : decode cX3_lacksPlace 0 = .ok (.aload_n 0, 1) := dk_42 (dk_at dksX3_lacksPlace_0 0 rfl rfl)
theorem dX3_lacksPlace_1 : decode cX3_lacksPlace 1 = .ok (.getfield 41, 3) := dk_180 0 41 (dk_at dksX3_lacksPlace_0 1 rfl rfl)
theorem dX3_lacksPlace_4 : decode cX3_lacksPlace 4 = .ok (.iload_n 1, 1) := dk_27 (dk_at dksX3_lacksPlace_0 4 rfl rfl)
theorem dX3_lacksPlace_5 : decode cX3_lacksPlace 5 = .ok (.iaload, 1) := dk_46 (dk_at dksX3_lacksPlace_0 5 rfl rfl)
theorem dX3_lacksPlace_6 : decode cX3_lacksPlace 6 = .ok (.istore 4, 2) := dk_54 4 (dk_at dksX3_lacksPlace_0 6 rfl rfl)
theorem dX3_lacksPlace_8 : decode cX3_lacksPlace 8 = .ok (.aload_n 0, 1) := dk_42 (dk_at dksX3_lacksPlace_0 8 rfl rfl)
theorem dX3_lacksPlace_9 : decode cX3_lacksPlace 9 = .ok (.getfield 7, 3) := dk_180 0 7 (dk_at dksX3_lacksPlace_0 9 rfl rfl)
theorem dX3_lacksPlace_12 : decode cX3_lacksPlace 12 = .ok (.iload 4, 2) := dk_21 4 (dk_at dksX3_lacksPlace_0 12 rfl rfl)
theorem dX3_lacksPlace_14 : decode cX3_lacksPlace 14 = .ok (.iaload, 1) := dk_46 (dk_at dksX3_lacksPlace_0 14 rfl rfl)
theorem dX3_lacksPlace_15 : decode cX3_lacksPlace 15 = .ok (.invokestatic 185, 3) := dk_184 0 185 (dk_at dksX3_lacksPlace_0 15 rfl rfl)
theorem dX3_lacksPlace_18 : decode cX3_lacksPlace 18 = .ok (.ifCond .ne 7, 3) := dk_154 0 7 (dk_at dksX3_lacksPlace_0 18 rfl rfl)
theorem dX3_lacksPlace_21 : decode cX3_lacksPlace 21 = .ok (.iconst 0, 1) := dk_3 (dk_at dksX3_lacksPlace_0 21 rfl rfl)
theorem dX3_lacksPlace_22 : decode cX3_lacksPlace 22 = .ok (.goto 31, 3) := dk_167 0 31 (dk_at dksX3_lacksPlace_1 0 rfl rfl)
theorem dX3_lacksPlace_25 : decode cX3_lacksPlace 25 = .ok (.aload_n 0, 1) := dk_42 (dk_at dksX3_lacksPlace_1 3 rfl rfl)
theorem dX3_lacksPlace_26 : decode cX3_lacksPlace 26 = .ok (.iload_n 1, 1) := dk_27 (dk_at dksX3_lacksPlace_1 4 rfl rfl)
theorem dX3_lacksPlace_27 : decode cX3_lacksPlace 27 = .ok (.iload_n 2, 1) := dk_28 (dk_at dksX3_lacksPlace_1 5 rfl rfl)
theorem dX3_lacksPlace_28 : decode cX3_lacksPlace 28 = .ok (.iload_n 3, 1) := dk_29 (dk_at dksX3_lacksPlace_1 6 rfl rfl)
theorem dX3_lacksPlace_29 : decode cX3_lacksPlace 29 = .ok (.invokevirtual 200, 3) := dk_182 0 200 (dk_at dksX3_lacksPlace_1 7 rfl rfl)
theorem dX3_lacksPlace_32 : decode cX3_lacksPlace 32 = .ok (.iconst 0, 1) := dk_3 (dk_at dksX3_lacksPlace_1 10 rfl rfl)
theorem dX3_lacksPlace_33 : decode cX3_lacksPlace 33 = .ok (.aload_n 0, 1) := dk_42 (dk_at dksX3_lacksPlace_1 11 rfl rfl)
theorem dX3_lacksPlace_34 : decode cX3_lacksPlace 34 = .ok (.getfield 13, 3) := dk_180 0 13 (dk_at dksX3_lacksPlace_1 12 rfl rfl)
theorem dX3_lacksPlace_37 : decode cX3_lacksPlace 37 = .ok (.iload 4, 2) := dk_21 4 (dk_at dksX3_lacksPlace_1 15 rfl rfl)
theorem dX3_lacksPlace_39 : decode cX3_lacksPlace 39 = .ok (.iaload, 1) := dk_46 (dk_at dksX3_lacksPlace_1 17 rfl rfl)
theorem dX3_lacksPlace_40 : decode cX3_lacksPlace 40 = .ok (.iconst 1, 1) := dk_4 (dk_at dksX3_lacksPlace_1 18 rfl rfl)
theorem dX3_lacksPlace_41 : decode cX3_lacksPlace 41 = .ok (.isub, 1) := dk_100 (dk_at dksX3_lacksPlace_1 19 rfl rfl)
theorem dX3_lacksPlace_42 : decode cX3_lacksPlace 42 = .ok (.invokestatic 114, 3) := dk_184 0 114 (dk_at dksX3_lacksPlace_1 20 rfl rfl)
theorem dX3_lacksPlace_45 : decode cX3_lacksPlace 45 = .ok (.ifCond .eq 7, 3) := dk_153 0 7 (dk_at dksX3_lacksPlace_2 0 rfl rfl)
theorem dX3_lacksPlace_48 : decode cX3_lacksPlace 48 = .ok (.iconst (-1), 1) := dk_2 (dk_at dksX3_lacksPlace_2 3 rfl rfl)
theorem dX3_lacksPlace_49 : decode cX3_lacksPlace 49 = .ok (.goto 4, 3) := dk_167 0 4 (dk_at dksX3_lacksPlace_2 4 rfl rfl)
theorem dX3_lacksPlace_52 : decode cX3_lacksPlace 52 = .ok (.iconst 1, 1) := dk_4 (dk_at dksX3_lacksPlace_2 7 rfl rfl)
theorem dX3_lacksPlace_53 : decode cX3_lacksPlace 53 = .ok (.ireturn, 1) := dk_172 (dk_at dksX3_lacksPlace_2 8 rfl rfl)
abbrev cX3_does : ByteArray := prog_18_method_92_code
def yX3_does : MethodName := ⟨RX3, "does", "(IDD)D"⟩
def dkwX3_does_3 : List UInt8 := [141, 184, 0, 118, 175, 42, 21, 6, 40, 24, 4, 182, 1, 96, 184, 0, 118, 175]
abbrev dktX3_does_3 : List UInt8 := dkwX3_does_3 ++ []
def dkwX3_does_2 : List UInt8 := [42, 21, 6, 40, 142, 24, 4, 142, 182, 1, 89, 135, 175, 42, 21, 6, 40, 144, 24, 4, 144, 182, 1, 92]
abbrev dktX3_does_2 : List UInt8 := dkwX3_does_2 ++ dktX3_does_3
def dkwX3_does_1 : List UInt8 := [171, 0, 0, 0, 0, 55, 0, 0, 0, 2, 0, 0, 0, 1, 0, 0, 0, 26, 0, 0, 0, 2, 0, 0, 0, 39]
abbrev dktX3_does_1 : List UInt8 := dkwX3_does_1 ++ dktX3_does_2
def dkwX3_does_0 : List UInt8 := [42, 3, 181, 1, 75, 42, 180, 0, 26, 27, 46, 54, 6, 42, 27, 182, 1, 86]
abbrev dktX3_does_0 : List UInt8 := dkwX3_does_0 ++ dktX3_does_1
theorem dksX3_does_0 : cX3_does.data.toList.drop 0 = dktX3_does_0 := by decide +kernel
theorem dksX3_does_1 : cX3_does.data.toList.drop 18 = dktX3_does_1 := dk_seg dksX3_does_0 18 rfl rfl
theorem dksX3_does_2 : cX3_does.data.toList.drop 44 = dktX3_does_2 := dk_seg dksX3_does_1 26 rfl rfl
theorem dksX3_does_3 : cX3_does.data.toList.drop 68 = dktX3_does_3 := dk_seg dksX3_does_2 24 rfl rfl
theorem dX3_does_0 : decode cX3_does 0 = .ok (.aload_n 0, 1) := dk_42 (dk_at dksX3_does_0 0 rfl rfl)
theorem dX3_does_1 : decode cX3_does 1 = .ok (.iconst 0, 1) := dk_3 (dk_at dksX3_does_0 1 rfl rfl)
theorem dX3_does_2 : decode cX3_does 2 = .ok (.putfield 331, 3) := dk_181 1 75 (dk_at dksX3_does_0 2 rfl rfl)
theorem dX3_does_5 : decode cX3_does 5 = .ok (.aload_n 0, 1) := dk_42 (dk_at dksX3_does_0 5 rfl rfl)
theorem dX3_does_6 : decode cX3_does 6 = .ok (.getfield 26, 3) := dk_180 0 26 (dk_at dksX3_does_0 6 rfl rfl)
theorem dX3_does_9 : decode cX3_does 9 = .ok (.iload_n 1, 1) := dk_27 (dk_at dksX3_does_0 9 rfl rfl)
theorem dX3_does_10 : decode cX3_does 10 = .ok (.iaload, 1) := dk_46 (dk_at dksX3_does_0 10 rfl rfl)
theorem dX3_does_11 : decode cX3_does 11 = .ok (.istore 6, 2) := dk_54 6 (dk_at dksX3_does_0 11 rfl rfl)
theorem dX3_does_13 : decode cX3_does 13 = .ok (.aload_n 0, 1) := dk_42 (dk_at dksX3_does_0 13 rfl rfl)
theorem dX3_does_14 : decode cX3_does 14 = .ok (.iload_n 1, 1) := dk_27 (dk_at dksX3_does_0 14 rfl rfl)
theorem dX3_does_15 : decode cX3_does 15 = .ok (.invokevirtual 342, 3) := dk_182 1 86 (dk_at dksX3_does_0 15 rfl rfl)
theorem dX3_does_18 : decode cX3_does 18 = .ok (.lookupswitch 55 #[(1, 26), (2, 39)], 26) := by decide +kernel
theorem dX3_does_44 : decode cX3_does 44 = .ok (.aload_n 0, 1) := dk_42 (dk_at dksX3_does_2 0 rfl rfl)
theorem dX3_does_45 : decode cX3_does 45 = .ok (.iload 6, 2) := dk_21 6 (dk_at dksX3_does_2 1 rfl rfl)
theorem dX3_does_47 : decode cX3_does 47 = .ok (.dload_n 2, 1) := dk_40 (dk_at dksX3_does_2 3 rfl rfl)
theorem dX3_does_48 : decode cX3_does 48 = .ok (.d2i, 1) := dk_142 (dk_at dksX3_does_2 4 rfl rfl)
theorem dX3_does_49 : decode cX3_does 49 = .ok (.dload 4, 2) := dk_24 4 (dk_at dksX3_does_2 5 rfl rfl)
theorem dX3_does_51 : decode cX3_does 51 = .ok (.d2i, 1) := dk_142 (dk_at dksX3_does_2 7 rfl rfl)
theorem dX3_does_52 : decode cX3_does 52 = .ok (.invokevirtual 345, 3) := dk_182 1 89 (dk_at dksX3_does_2 8 rfl rfl)
theorem dX3_does_55 : decode cX3_does 55 = .ok (.i2d, 1) := dk_135 (dk_at dksX3_does_2 11 rfl rfl)
theorem dX3_does_56 : decode cX3_does 56 = .ok (.dreturn, 1) := dk_175 (dk_at dksX3_does_2 12 rfl rfl)
theorem dX3_does_57 : decode cX3_does 57 = .ok (.aload_n 0, 1) := dk_42 (dk_at dksX3_does_2 13 rfl rfl)
theorem dX3_does_58 : decode cX3_does 58 = .ok (.iload 6, 2) := dk_21 6 (dk_at dksX3_does_2 14 rfl rfl)
theorem dX3_does_60 : decode cX3_does 60 = .ok (.dload_n 2, 1) := dk_40 (dk_at dksX3_does_2 16 rfl rfl)
theorem dX3_does_61 : decode cX3_does 61 = .ok (.d2f, 1) := dk_144 (dk_at dksX3_does_2 17 rfl rfl)
theorem dX3_does_62 : decode cX3_does 62 = .ok (.dload 4, 2) := dk_24 4 (dk_at dksX3_does_2 18 rfl rfl)
theorem dX3_does_64 : decode cX3_does 64 = .ok (.d2f, 1) := dk_144 (dk_at dksX3_does_2 20 rfl rfl)
theorem dX3_does_65 : decode cX3_does 65 = .ok (.invokevirtual 348, 3) := dk_182 1 92 (dk_at dksX3_does_2 21 rfl rfl)
theorem dX3_does_68 : decode cX3_does 68 = .ok (.f2d, 1) := dk_141 (dk_at dksX3_does_3 0 rfl rfl)
theorem dX3_does_69 : decode cX3_does 69 = .ok (.invokestatic 118, 3) := dk_184 0 118 (dk_at dksX3_does_3 1 rfl rfl)
theorem dX3_does_72 : decode cX3_does 72 = .ok (.dreturn, 1) := dk_175 (dk_at dksX3_does_3 4 rfl rfl)
theorem dX3_does_73 : decode cX3_does 73 = .ok (.aload_n 0, 1) := dk_42 (dk_at dksX3_does_3 5 rfl rfl)
theorem dX3_does_74 : decode cX3_does 74 = .ok (.iload 6, 2) := dk_21 6 (dk_at dksX3_does_3 6 rfl rfl)
theorem dX3_does_76 : decode cX3_does 76 = .ok (.dload_n 2, 1) := dk_40 (dk_at dksX3_does_3 8 rfl rfl)
theorem dX3_does_77 : decode cX3_does 77 = .ok (.dload 4, 2) := dk_24 4 (dk_at dksX3_does_3 9 rfl rfl)
theorem dX3_does_79 : decode cX3_does 79 = .ok (.invokevirtual 352, 3) := dk_182 1 96 (dk_at dksX3_does_3 11 rfl rfl)
theorem dX3_does_82 : decode cX3_does 82 = .ok (.invokestatic 118, 3) := dk_184 0 118 (dk_at dksX3_does_3 14 rfl rfl)
theorem dX3_does_85 : decode cX3_does 85 = .ok (.dreturn, 1) := dk_175 (dk_at dksX3_does_3 17 rfl rfl)
abbrev cX3_widthOf : ByteArray := prog_18_method_88_code
def yX3_widthOf : MethodName := ⟨RX3, "widthOf", "(I)I"⟩
def dkwX3_widthOf_4 : List UInt8 := [167, 0, 4, 29, 172]
abbrev dktX3_widthOf_4 : List UInt8 := dkwX3_widthOf_4 ++ []
def dkwX3_widthOf_3 : List UInt8 := [132, 4, 1, 167, 255, 196, 28, 16, 6, 16, 8, 184, 0, 114, 154, 0, 9, 28, 16, 11, 161, 0, 7, 4]
abbrev dktX3_widthOf_3 : List UInt8 := dkwX3_widthOf_3 ++ dktX3_widthOf_4
def dkwX3_widthOf_2 : List UInt8 := [153, 0, 22, 42, 21, 4, 182, 1, 72, 29, 164, 0, 12, 42, 21, 4, 182, 1, 72, 167, 0, 4, 29, 62]
abbrev dktX3_widthOf_2 : List UInt8 := dkwX3_widthOf_2 ++ dktX3_widthOf_3
def dkwX3_widthOf_1 : List UInt8 := [21, 4, 6, 112, 5, 161, 0, 9, 28, 16, 9, 159, 0, 7, 4, 167, 0, 4, 3, 54, 5, 21, 5]
abbrev dktX3_widthOf_1 : List UInt8 := dkwX3_widthOf_1 ++ dktX3_widthOf_2
def dkwX3_widthOf_0 : List UInt8 := [42, 180, 0, 26, 27, 46, 61, 4, 62, 6, 27, 104, 54, 4, 21, 4, 6, 27, 104, 6, 96, 162, 0, 56]
abbrev dktX3_widthOf_0 : List UInt8 := dkwX3_widthOf_0 ++ dktX3_widthOf_1
theorem dksX3_widthOf_0 : cX3_widthOf.data.toList.drop 0 = dktX3_widthOf_0 := by decide +kernel
theorem dksX3_widthOf_1 : cX3_widthOf.data.toList.drop 24 = dktX3_widthOf_1 := dk_seg dksX3_widthOf_0 24 rfl rfl
theorem dksX3_widthOf_2 : cX3_widthOf.data.toList.drop 47 = dktX3_widthOf_2 := dk_seg dksX3_widthOf_1 23 rfl rfl
theorem dksX3_widthOf_3 : cX3_widthOf.data.toList.drop 71 = dktX3_widthOf_3 := dk_seg dksX3_widthOf_2 24 rfl rfl
theorem dksX3_widthOf_4 : cX3_widthOf.data.toList.drop 95 = dktX3_widthOf_4 := dk_seg dksX3_widthOf_3 24 rfl rfl
theorem dX3_widthOf_0 : decode cX3_widthOf 0 = .ok (.aload_n 0, 1) := dk_42 (dk_at dksX3_widthOf_0 0 rfl rfl)
theorem dX3_widthOf_1 : decode cX3_widthOf 1 = .ok (.getfield 26, 3) := dk_180 0 26 (dk_at dksX3_widthOf_0 1 rfl rfl)
theorem dX3_widthOf_4 : decode cX3_widthOf 4 = .ok (.iload_n 1, 1) := dk_27 (dk_at dksX3_widthOf_0 4 rfl rfl)
theorem dX3_widthOf_5 : decode cX3_widthOf 5 = .ok (.iaload, 1) := dk_46 (dk_at dksX3_widthOf_0 5 rfl rfl)
theorem dX3_widthOf_6 : decode cX3_widthOf 6 = .ok (.istore_n 2, 1) := dk_61 (dk_at dksX3_widthOf_0 6 rfl rfl)
theorem dX3_widthOf_7 : decode cX3_widthOf 7 = .ok (.iconst 1, 1) := dk_4 (dk_at dksX3_widthOf_0 7 rfl rfl)
theorem dX3_widthOf_8 : decode cX3_widthOf 8 = .ok (.istore_n 3, 1) := dk_62 (dk_at dksX3_widthOf_0 8 rfl rfl)
theorem dX3_widthOf_9 : decode cX3_widthOf 9 = .ok (.iconst 3, 1) := dk_6 (dk_at dksX3_widthOf_0 9 rfl rfl)
theorem dX3_widthOf_10 : decode cX3_widthOf 10 = .ok (.iload_n 1, 1) := dk_27 (dk_at dksX3_widthOf_0 10 rfl rfl)
theorem dX3_widthOf_11 : decode cX3_widthOf 11 = .ok (.imul, 1) := dk_104 (dk_at dksX3_widthOf_0 11 rfl rfl)
theorem dX3_widthOf_12 : decode cX3_widthOf 12 = .ok (.istore 4, 2) := dk_54 4 (dk_at dksX3_widthOf_0 12 rfl rfl)
theorem dX3_widthOf_14 : decode cX3_widthOf 14 = .ok (.iload 4, 2) := dk_21 4 (dk_at dksX3_widthOf_0 14 rfl rfl)
theorem dX3_widthOf_16 : decode cX3_widthOf 16 = .ok (.iconst 3, 1) := dk_6 (dk_at dksX3_widthOf_0 16 rfl rfl)
theorem dX3_widthOf_17 : decode cX3_widthOf 17 = .ok (.iload_n 1, 1) := dk_27 (dk_at dksX3_widthOf_0 17 rfl rfl)
theorem dX3_widthOf_18 : decode cX3_widthOf 18 = .ok (.imul, 1) := dk_104 (dk_at dksX3_widthOf_0 18 rfl rfl)
theorem dX3_widthOf_19 : decode cX3_widthOf 19 = .ok (.iconst 3, 1) := dk_6 (dk_at dksX3_widthOf_0 19 rfl rfl)
theorem dX3_widthOf_20 : decode cX3_widthOf 20 = .ok (.iadd, 1) := dk_96 (dk_at dksX3_widthOf_0 20 rfl rfl)
theorem dX3_widthOf_21 : decode cX3_widthOf 21 = .ok (.if_icmp .ge 56, 3) := dk_162 0 56 (dk_at dksX3_widthOf_0 21 rfl rfl)
theorem dX3_widthOf_24 : decode cX3_widthOf 24 = .ok (.iload 4, 2) := dk_21 4 (dk_at dksX3_widthOf_1 0 rfl rfl)
theorem dX3_widthOf_26 : decode cX3_widthOf 26 = .ok (.iconst 3, 1) := dk_6 (dk_at dksX3_widthOf_1 2 rfl rfl)
theorem dX3_widthOf_27 : decode cX3_widthOf 27 = .ok (.irem, 1) := dk_112 (dk_at dksX3_widthOf_1 3 rfl rfl)
theorem dX3_widthOf_28 : decode cX3_widthOf 28 = .ok (.iconst 2, 1) := dk_5 (dk_at dksX3_widthOf_1 4 rfl rfl)
theorem dX3_widthOf_29 : decode cX3_widthOf 29 = .ok (.if_icmp .lt 9, 3) := dk_161 0 9 (dk_at dksX3_widthOf_1 5 rfl rfl)
theorem dX3_widthOf_32 : decode cX3_widthOf 32 = .ok (.iload_n 2, 1) := dk_28 (dk_at dksX3_widthOf_1 8 rfl rfl)
theorem dX3_widthOf_33 : decode cX3_widthOf 33 = .ok (.bipush 9, 2) := dk_16 9 (dk_at dksX3_widthOf_1 9 rfl rfl)
theorem dX3_widthOf_35 : decode cX3_widthOf 35 = .ok (.if_icmp .eq 7, 3) := dk_159 0 7 (dk_at dksX3_widthOf_1 11 rfl rfl)
theorem dX3_widthOf_38 : decode cX3_widthOf 38 = .ok (.iconst 1, 1) := dk_4 (dk_at dksX3_widthOf_1 14 rfl rfl)
theorem dX3_widthOf_39 : decode cX3_widthOf 39 = .ok (.goto 4, 3) := dk_167 0 4 (dk_at dksX3_widthOf_1 15 rfl rfl)
theorem dX3_widthOf_42 : decode cX3_widthOf 42 = .ok (.iconst 0, 1) := dk_3 (dk_at dksX3_widthOf_1 18 rfl rfl)
theorem dX3_widthOf_43 : decode cX3_widthOf 43 = .ok (.istore 5, 2) := dk_54 5 (dk_at dksX3_widthOf_1 19 rfl rfl)
theorem dX3_widthOf_45 : decode cX3_widthOf 45 = .ok (.iload 5, 2) := dk_21 5 (dk_at dksX3_widthOf_1 21 rfl rfl)
theorem dX3_widthOf_47 : decode cX3_widthOf 47 = .ok (.ifCond .eq 22, 3) := dk_153 0 22 (dk_at dksX3_widthOf_2 0 rfl rfl)
theorem dX3_widthOf_50 : decode cX3_widthOf 50 = .ok (.aload_n 0, 1) := dk_42 (dk_at dksX3_widthOf_2 3 rfl rfl)
theorem dX3_widthOf_51 : decode cX3_widthOf 51 = .ok (.iload 4, 2) := dk_21 4 (dk_at dksX3_widthOf_2 4 rfl rfl)
theorem dX3_widthOf_53 : decode cX3_widthOf 53 = .ok (.invokevirtual 328, 3) := dk_182 1 72 (dk_at dksX3_widthOf_2 6 rfl rfl)
theorem dX3_widthOf_56 : decode cX3_widthOf 56 = .ok (.iload_n 3, 1) := dk_29 (dk_at dksX3_widthOf_2 9 rfl rfl)
theorem dX3_widthOf_57 : decode cX3_widthOf 57 = .ok (.if_icmp .le 12, 3) := dk_164 0 12 (dk_at dksX3_widthOf_2 10 rfl rfl)
theorem dX3_widthOf_60 : decode cX3_widthOf 60 = .ok (.aload_n 0, 1) := dk_42 (dk_at dksX3_widthOf_2 13 rfl rfl)
theorem dX3_widthOf_61 : decode cX3_widthOf 61 = .ok (.iload 4, 2) := dk_21 4 (dk_at dksX3_widthOf_2 14 rfl rfl)
theorem dX3_widthOf_63 : decode cX3_widthOf 63 = .ok (.invokevirtual 328, 3) := dk_182 1 72 (dk_at dksX3_widthOf_2 16 rfl rfl)
theorem dX3_widthOf_66 : decode cX3_widthOf 66 = .ok (.goto 4, 3) := dk_167 0 4 (dk_at dksX3_widthOf_2 19 rfl rfl)
theorem dX3_widthOf_69 : decode cX3_widthOf 69 = .ok (.iload_n 3, 1) := dk_29 (dk_at dksX3_widthOf_2 22 rfl rfl)
theorem dX3_widthOf_70 : decode cX3_widthOf 70 = .ok (.istore_n 3, 1) := dk_62 (dk_at dksX3_widthOf_2 23 rfl rfl)
theorem dX3_widthOf_71 : decode cX3_widthOf 71 = .ok (.iinc 4 1, 3) := dk_132 4 1 (dk_at dksX3_widthOf_3 0 rfl rfl)
theorem dX3_widthOf_74 : decode cX3_widthOf 74 = .ok (.goto (-60), 3) := dk_167 255 196 (dk_at dksX3_widthOf_3 3 rfl rfl)
theorem dX3_widthOf_77 : decode cX3_widthOf 77 = .ok (.iload_n 2, 1) := dk_28 (dk_at dksX3_widthOf_3 6 rfl rfl)
theorem dX3_widthOf_78 : decode cX3_widthOf 78 = .ok (.bipush 6, 2) := dk_16 6 (dk_at dksX3_widthOf_3 7 rfl rfl)
theorem dX3_widthOf_80 : decode cX3_widthOf 80 = .ok (.bipush 8, 2) := dk_16 8 (dk_at dksX3_widthOf_3 9 rfl rfl)
theorem dX3_widthOf_82 : decode cX3_widthOf 82 = .ok (.invokestatic 114, 3) := dk_184 0 114 (dk_at dksX3_widthOf_3 11 rfl rfl)
theorem dX3_widthOf_85 : decode cX3_widthOf 85 = .ok (.ifCond .ne 9, 3) := dk_154 0 9 (dk_at dksX3_widthOf_3 14 rfl rfl)
theorem dX3_widthOf_88 : decode cX3_widthOf 88 = .ok (.iload_n 2, 1) := dk_28 (dk_at dksX3_widthOf_3 17 rfl rfl)
theorem dX3_widthOf_89 : decode cX3_widthOf 89 = .ok (.bipush 11, 2) := dk_16 11 (dk_at dksX3_widthOf_3 18 rfl rfl)
theorem dX3_widthOf_91 : decode cX3_widthOf 91 = .ok (.if_icmp .lt 7, 3) := dk_161 0 7 (dk_at dksX3_widthOf_3 20 rfl rfl)
theorem dX3_widthOf_94 : decode cX3_widthOf 94 = .ok (.iconst 1, 1) := dk_4 (dk_at dksX3_widthOf_3 23 rfl rfl)
theorem dX3_widthOf_95 : decode cX3_widthOf 95 = .ok (.goto 4, 3) := dk_167 0 4 (dk_at dksX3_widthOf_4 0 rfl rfl)
theorem dX3_widthOf_98 : decode cX3_widthOf 98 = .ok (.iload_n 3, 1) := dk_29 (dk_at dksX3_widthOf_4 3 rfl rfl)
theorem dX3_widthOf_99 : decode cX3_widthOf 99 = .ok (.ireturn, 1) := dk_172 (dk_at dksX3_widthOf_4 4 rfl rfl)
abbrev cX3_formBy : ByteArray := prog_18_method_87_code
def yX3_formBy : MethodName := ⟨RX3, "formBy", "(I)I"⟩
def dkwX3_formBy_1 : List UInt8 := [46, 172]
abbrev dktX3_formBy_1 : List UInt8 := dkwX3_formBy_1 ++ []
def dkwX3_formBy_0 : List UInt8 := [42, 180, 0, 41, 27, 46, 2, 160, 0, 7, 4, 167, 0, 14, 42, 180, 0, 7, 42, 180, 0, 41, 27, 46]
abbrev dktX3_formBy_0 : List UInt8 := dkwX3_formBy_0 ++ dktX3_formBy_1
theorem dksX3_formBy_0 : cX3_formBy.data.toList.drop 0 = dktX3_formBy_0 := by decide +kernel
theorem dksX3_formBy_1 : cX3_formBy.data.toList.drop 24 = dktX3_formBy_1 := dk_seg dksX3_formBy_0 24 rfl rfl
theorem dX3_formBy_0 : decode cX3_formBy 0 = .ok (.aload_n 0, 1) := dk_42 (dk_at dksX3_formBy_0 0 rfl rfl)
theorem dX3_formBy_1 : decode cX3_formBy 1 = .ok (.getfield 41, 3) := dk_180 0 41 (dk_at dksX3_formBy_0 1 rfl rfl)
theorem dX3_formBy_4 : decode cX3_formBy 4 = .ok (.iload_n 1, 1) := dk_27 (dk_at dksX3_formBy_0 4 rfl rfl)
theorem dX3_formBy_5 : decode cX3_formBy 5 = .ok (.iaload, 1) := dk_46 (dk_at dksX3_formBy_0 5 rfl rfl)
theorem dX3_formBy_6 : decode cX3_formBy 6 = .ok (.iconst (-1), 1) := dk_2 (dk_at dksX3_formBy_0 6 rfl rfl)
theorem dX3_formBy_7 : decode cX3_formBy 7 = .ok (.if_icmp .ne 7, 3) := dk_160 0 7 (dk_at dksX3_formBy_0 7 rfl rfl)
theorem dX3_formBy_10 : decode cX3_formBy 10 = .ok (.iconst 1, 1) := dk_4 (dk_at dksX3_formBy_0 10 rfl rfl)
theorem dX3_formBy_11 : decode cX3_formBy 11 = .ok (.goto 14, 3) := dk_167 0 14 (dk_at dksX3_formBy_0 11 rfl rfl)
theorem dX3_formBy_14 : decode cX3_formBy 14 = .ok (.aload_n 0, 1) := dk_42 (dk_at dksX3_formBy_0 14 rfl rfl)
theorem dX3_formBy_15 : decode cX3_formBy 15 = .ok (.getfield 7, 3) := dk_180 0 7 (dk_at dksX3_formBy_0 15 rfl rfl)
theorem dX3_formBy_18 : decode cX3_formBy 18 = .ok (.aload_n 0, 1) := dk_42 (dk_at dksX3_formBy_0 18 rfl rfl)
theorem dX3_formBy_19 : decode cX3_formBy 19 = .ok (.getfield 41, 3) := dk_180 0 41 (dk_at dksX3_formBy_0 19 rfl rfl)
theorem dX3_formBy_22 : decode cX3_formBy 22 = .ok (.iload_n 1, 1) := dk_27 (dk_at dksX3_formBy_0 22 rfl rfl)
theorem dX3_formBy_23 : decode cX3_formBy 23 = .ok (.iaload, 1) := dk_46 (dk_at dksX3_formBy_0 23 rfl rfl)
theorem dX3_formBy_24 : decode cX3_formBy 24 = .ok (.iaload, 1) := dk_46 (dk_at dksX3_formBy_1 0 rfl rfl)
theorem dX3_formBy_25 : decode cX3_formBy 25 = .ok (.ireturn, 1) := dk_172 (dk_at dksX3_formBy_1 1 rfl rfl)
abbrev cX3_byInts : ByteArray := prog_18_method_89_code
def yX3_byInts : MethodName := ⟨RX3, "byInts", "(III)I"⟩
def dkwX3_byInts_6 : List UInt8 := [136, 172]
abbrev dktX3_byInts_6 : List UInt8 := dkwX3_byInts_6 ++ []
def dkwX3_byInts_5 : List UInt8 := [181, 1, 75, 28, 172, 42, 22, 4, 184, 1, 78, 153, 0, 7, 2, 167, 0, 4, 5, 181, 1, 82, 22, 4]
abbrev dktX3_byInts_5 : List UInt8 := dkwX3_byInts_5 ++ dktX3_byInts_6
def dkwX3_byInts_4 : List UInt8 := [126, 172, 28, 29, 128, 172, 28, 29, 130, 172, 28, 172, 42, 28, 29, 163, 0, 7, 4, 167, 0, 4, 3]
abbrev dktX3_byInts_4 : List UInt8 := dkwX3_byInts_4 ++ dktX3_byInts_5
def dkwX3_byInts_3 : List UInt8 := [28, 29, 164, 0, 7, 28, 167, 0, 4, 29, 172, 28, 29, 162, 0, 7, 28, 167, 0, 4, 29, 172, 28, 29]
abbrev dktX3_byInts_3 : List UInt8 := dkwX3_byInts_3 ++ dktX3_byInts_4
def dkwX3_byInts_2 : List UInt8 := [28, 29, 96, 172, 28, 29, 100, 172, 28, 29, 104, 172, 29, 154, 0, 7, 3, 167, 0, 6, 28, 29, 112, 172]
abbrev dktX3_byInts_2 : List UInt8 := dkwX3_byInts_2 ++ dktX3_byInts_3
def dkwX3_byInts_1 : List UInt8 := [170, 0, 0, 0, 0, 134, 0, 0, 0, 0, 0, 0, 0, 10, 0, 0, 0, 58, 0, 0, 0, 62, 0, 0, 0, 66, 0, 0, 0, 70, 0, 0, 0, 82, 0, 0, 0, 93, 0, 0, 0, 104, 0, 0, 0, 108, 0, 0, 0, 112, 0, 0, 0, 116, 0, 0, 0, 118]
abbrev dktX3_byInts_1 : List UInt8 := dkwX3_byInts_1 ++ dktX3_byInts_2
def dkwX3_byInts_0 : List UInt8 := [27, 16, 12, 160, 0, 11, 28, 133, 29, 133, 105, 167, 0, 8, 28, 133, 29, 133, 97, 55, 4, 27]
abbrev dktX3_byInts_0 : List UInt8 := dkwX3_byInts_0 ++ dktX3_byInts_1
theorem dksX3_byInts_0 : cX3_byInts.data.toList.drop 0 = dktX3_byInts_0 := by decide +kernel
theorem dksX3_byInts_1 : cX3_byInts.data.toList.drop 22 = dktX3_byInts_1 := dk_seg dksX3_byInts_0 22 rfl rfl
theorem dksX3_byInts_2 : cX3_byInts.data.toList.drop 80 = dktX3_byInts_2 := dk_seg dksX3_byInts_1 58 rfl rfl
theorem dksX3_byInts_3 : cX3_byInts.data.toList.drop 104 = dktX3_byInts_3 := dk_seg dksX3_byInts_2 24 rfl rfl
theorem dksX3_byInts_4 : cX3_byInts.data.toList.drop 128 = dktX3_byInts_4 := dk_seg dksX3_byInts_3 24 rfl rfl
theorem dksX3_byInts_5 : cX3_byInts.data.toList.drop 151 = dktX3_byInts_5 := dk_seg dksX3_byInts_4 23 rfl rfl
theorem dksX3_byInts_6 : cX3_byInts.data.toList.drop 175 = dktX3_byInts_6 := dk_seg dksX3_byInts_5 24 rfl rfl
theorem dX3_byInts_0 : decode cX3_byInts 0 = .ok (.iload_n 1, 1) := dk_27 (dk_at dksX3_byInts_0 0 rfl rfl)
theorem dX3_byInts_1 : decode cX3_byInts 1 = .ok (.bipush 12, 2) := dk_16 12 (dk_at dksX3_byInts_0 1 rfl rfl)
theorem dX3_byInts_3 : decode cX3_byInts 3 = .ok (.if_icmp .ne 11, 3) := dk_160 0 11 (dk_at dksX3_byInts_0 3 rfl rfl)
theorem dX3_byInts_6 : decode cX3_byInts 6 = .ok (.iload_n 2, 1) := dk_28 (dk_at dksX3_byInts_0 6 rfl rfl)
theorem dX3_byInts_7 : decode cX3_byInts 7 = .ok (.i2l, 1) := dk_133 (dk_at dksX3_byInts_0 7 rfl rfl)
theorem dX3_byInts_8 : decode cX3_byInts 8 = .ok (.iload_n 3, 1) := dk_29 (dk_at dksX3_byInts_0 8 rfl rfl)
theorem dX3_byInts_9 : decode cX3_byInts 9 = .ok (.i2l, 1) := dk_133 (dk_at dksX3_byInts_0 9 rfl rfl)
theorem dX3_byInts_10 : decode cX3_byInts 10 = .ok (.lmul, 1) := dk_105 (dk_at dksX3_byInts_0 10 rfl rfl)
theorem dX3_byInts_11 : decode cX3_byInts 11 = .ok (.goto 8, 3) := dk_167 0 8 (dk_at dksX3_byInts_0 11 rfl rfl)
theorem dX3_byInts_14 : decode cX3_byInts 14 = .ok (.iload_n 2, 1) := dk_28 (dk_at dksX3_byInts_0 14 rfl rfl)
theorem dX3_byInts_15 : decode cX3_byInts 15 = .ok (.i2l, 1) := dk_133 (dk_at dksX3_byInts_0 15 rfl rfl)
theorem dX3_byInts_16 : decode cX3_byInts 16 = .ok (.iload_n 3, 1) := dk_29 (dk_at dksX3_byInts_0 16 rfl rfl)
theorem dX3_byInts_17 : decode cX3_byInts 17 = .ok (.i2l, 1) := dk_133 (dk_at dksX3_byInts_0 17 rfl rfl)
theorem dX3_byInts_18 : decode cX3_byInts 18 = .ok (.ladd, 1) := dk_97 (dk_at dksX3_byInts_0 18 rfl rfl)
theorem dX3_byInts_19 : decode cX3_byInts 19 = .ok (.lstore 4, 2) := dk_55 4 (dk_at dksX3_byInts_0 19 rfl rfl)
theorem dX3_byInts_21 : decode cX3_byInts 21 = .ok (.iload_n 1, 1) := dk_27 (dk_at dksX3_byInts_0 21 rfl rfl)
theorem dX3_byInts_22 : decode cX3_byInts 22 = .ok (.tableswitch 134 0 10 #[58, 62, 66, 70, 82, 93, 104, 108, 112, 116, 118], 58) := by decide +kernel
theorem dX3_byInts_80 : decode cX3_byInts 80 = .ok (.iload_n 2, 1) := dk_28 (dk_at dksX3_byInts_2 0 rfl rfl)
theorem dX3_byInts_81 : decode cX3_byInts 81 = .ok (.iload_n 3, 1) := dk_29 (dk_at dksX3_byInts_2 1 rfl rfl)
theorem dX3_byInts_82 : decode cX3_byInts 82 = .ok (.iadd, 1) := dk_96 (dk_at dksX3_byInts_2 2 rfl rfl)
theorem dX3_byInts_83 : decode cX3_byInts 83 = .ok (.ireturn, 1) := dk_172 (dk_at dksX3_byInts_2 3 rfl rfl)
theorem dX3_byInts_84 : decode cX3_byInts 84 = .ok (.iload_n 2, 1) := dk_28 (dk_at dksX3_byInts_2 4 rfl rfl)
theorem dX3_byInts_85 : decode cX3_byInts 85 = .ok (.iload_n 3, 1) := dk_29 (dk_at dksX3_byInts_2 5 rfl rfl)
theorem dX3_byInts_86 : decode cX3_byInts 86 = .ok (.isub, 1) := dk_100 (dk_at dksX3_byInts_2 6 rfl rfl)
theorem dX3_byInts_87 : decode cX3_byInts 87 = .ok (.ireturn, 1) := dk_172 (dk_at dksX3_byInts_2 7 rfl rfl)
theorem dX3_byInts_88 : decode cX3_byInts 88 = .ok (.iload_n 2, 1) := dk_28 (dk_at dksX3_byInts_2 8 rfl rfl)
theorem dX3_byInts_89 : decode cX3_byInts 89 = .ok (.iload_n 3, 1) := dk_29 (dk_at dksX3_byInts_2 9 rfl rfl)
theorem dX3_byInts_90 : decode cX3_byInts 90 = .ok (.imul, 1) := dk_104 (dk_at dksX3_byInts_2 10 rfl rfl)
theorem dX3_byInts_91 : decode cX3_byInts 91 = .ok (.ireturn, 1) := dk_172 (dk_at dksX3_byInts_2 11 rfl rfl)
theorem dX3_byInts_92 : decode cX3_byInts 92 = .ok (.iload_n 3, 1) := dk_29 (dk_at dksX3_byInts_2 12 rfl rfl)
theorem dX3_byInts_93 : decode cX3_byInts 93 = .ok (.ifCond .ne 7, 3) := dk_154 0 7 (dk_at dksX3_byInts_2 13 rfl rfl)
theorem dX3_byInts_96 : decode cX3_byInts 96 = .ok (.iconst 0, 1) := dk_3 (dk_at dksX3_byInts_2 16 rfl rfl)
theorem dX3_byInts_97 : decode cX3_byInts 97 = .ok (.goto 6, 3) := dk_167 0 6 (dk_at dksX3_byInts_2 17 rfl rfl)
theorem dX3_byInts_100 : decode cX3_byInts 100 = .ok (.iload_n 2, 1) := dk_28 (dk_at dksX3_byInts_2 20 rfl rfl)
theorem dX3_byInts_101 : decode cX3_byInts 101 = .ok (.iload_n 3, 1) := dk_29 (dk_at dksX3_byInts_2 21 rfl rfl)
theorem dX3_byInts_102 : decode cX3_byInts 102 = .ok (.irem, 1) := dk_112 (dk_at dksX3_byInts_2 22 rfl rfl)
theorem dX3_byInts_103 : decode cX3_byInts 103 = .ok (.ireturn, 1) := dk_172 (dk_at dksX3_byInts_2 23 rfl rfl)
theorem dX3_byInts_104 : decode cX3_byInts 104 = .ok (.iload_n 2, 1) := dk_28 (dk_at dksX3_byInts_3 0 rfl rfl)
theorem dX3_byInts_105 : decode cX3_byInts 105 = .ok (.iload_n 3, 1) := dk_29 (dk_at dksX3_byInts_3 1 rfl rfl)
theorem dX3_byInts_106 : decode cX3_byInts 106 = .ok (.if_icmp .le 7, 3) := dk_164 0 7 (dk_at dksX3_byInts_3 2 rfl rfl)
theorem dX3_byInts_109 : decode cX3_byInts 109 = .ok (.iload_n 2, 1) := dk_28 (dk_at dksX3_byInts_3 5 rfl rfl)
theorem dX3_byInts_110 : decode cX3_byInts 110 = .ok (.goto 4, 3) := dk_167 0 4 (dk_at dksX3_byInts_3 6 rfl rfl)
theorem dX3_byInts_113 : decode cX3_byInts 113 = .ok (.iload_n 3, 1) := dk_29 (dk_at dksX3_byInts_3 9 rfl rfl)
theorem dX3_byInts_114 : decode cX3_byInts 114 = .ok (.ireturn, 1) := dk_172 (dk_at dksX3_byInts_3 10 rfl rfl)
theorem dX3_byInts_115 : decode cX3_byInts 115 = .ok (.iload_n 2, 1) := dk_28 (dk_at dksX3_byInts_3 11 rfl rfl)
theorem dX3_byInts_116 : decode cX3_byInts 116 = .ok (.iload_n 3, 1) := dk_29 (dk_at dksX3_byInts_3 12 rfl rfl)
theorem dX3_byInts_117 : decode cX3_byInts 117 = .ok (.if_icmp .ge 7, 3) := dk_162 0 7 (dk_at dksX3_byInts_3 13 rfl rfl)
theorem dX3_byInts_120 : decode cX3_byInts 120 = .ok (.iload_n 2, 1) := dk_28 (dk_at dksX3_byInts_3 16 rfl rfl)
theorem dX3_byInts_121 : decode cX3_byInts 121 = .ok (.goto 4, 3) := dk_167 0 4 (dk_at dksX3_byInts_3 17 rfl rfl)
theorem dX3_byInts_124 : decode cX3_byInts 124 = .ok (.iload_n 3, 1) := dk_29 (dk_at dksX3_byInts_3 20 rfl rfl)
theorem dX3_byInts_125 : decode cX3_byInts 125 = .ok (.ireturn, 1) := dk_172 (dk_at dksX3_byInts_3 21 rfl rfl)
theorem dX3_byInts_126 : decode cX3_byInts 126 = .ok (.iload_n 2, 1) := dk_28 (dk_at dksX3_byInts_3 22 rfl rfl)
theorem dX3_byInts_127 : decode cX3_byInts 127 = .ok (.iload_n 3, 1) := dk_29 (dk_at dksX3_byInts_3 23 rfl rfl)
theorem dX3_byInts_128 : decode cX3_byInts 128 = .ok (.iand, 1) := dk_126 (dk_at dksX3_byInts_4 0 rfl rfl)
theorem dX3_byInts_129 : decode cX3_byInts 129 = .ok (.ireturn, 1) := dk_172 (dk_at dksX3_byInts_4 1 rfl rfl)
theorem dX3_byInts_130 : decode cX3_byInts 130 = .ok (.iload_n 2, 1) := dk_28 (dk_at dksX3_byInts_4 2 rfl rfl)
theorem dX3_byInts_131 : decode cX3_byInts 131 = .ok (.iload_n 3, 1) := dk_29 (dk_at dksX3_byInts_4 3 rfl rfl)
theorem dX3_byInts_132 : decode cX3_byInts 132 = .ok (.ior, 1) := dk_128 (dk_at dksX3_byInts_4 4 rfl rfl)
theorem dX3_byInts_133 : decode cX3_byInts 133 = .ok (.ireturn, 1) := dk_172 (dk_at dksX3_byInts_4 5 rfl rfl)
theorem dX3_byInts_134 : decode cX3_byInts 134 = .ok (.iload_n 2, 1) := dk_28 (dk_at dksX3_byInts_4 6 rfl rfl)
theorem dX3_byInts_135 : decode cX3_byInts 135 = .ok (.iload_n 3, 1) := dk_29 (dk_at dksX3_byInts_4 7 rfl rfl)
theorem dX3_byInts_136 : decode cX3_byInts 136 = .ok (.ixor, 1) := dk_130 (dk_at dksX3_byInts_4 8 rfl rfl)
theorem dX3_byInts_137 : decode cX3_byInts 137 = .ok (.ireturn, 1) := dk_172 (dk_at dksX3_byInts_4 9 rfl rfl)
theorem dX3_byInts_138 : decode cX3_byInts 138 = .ok (.iload_n 2, 1) := dk_28 (dk_at dksX3_byInts_4 10 rfl rfl)
theorem dX3_byInts_139 : decode cX3_byInts 139 = .ok (.ireturn, 1) := dk_172 (dk_at dksX3_byInts_4 11 rfl rfl)
theorem dX3_byInts_140 : decode cX3_byInts 140 = .ok (.aload_n 0, 1) := dk_42 (dk_at dksX3_byInts_4 12 rfl rfl)
theorem dX3_byInts_141 : decode cX3_byInts 141 = .ok (.iload_n 2, 1) := dk_28 (dk_at dksX3_byInts_4 13 rfl rfl)
theorem dX3_byInts_142 : decode cX3_byInts 142 = .ok (.iload_n 3, 1) := dk_29 (dk_at dksX3_byInts_4 14 rfl rfl)
theorem dX3_byInts_143 : decode cX3_byInts 143 = .ok (.if_icmp .gt 7, 3) := dk_163 0 7 (dk_at dksX3_byInts_4 15 rfl rfl)
theorem dX3_byInts_146 : decode cX3_byInts 146 = .ok (.iconst 1, 1) := dk_4 (dk_at dksX3_byInts_4 18 rfl rfl)
theorem dX3_byInts_147 : decode cX3_byInts 147 = .ok (.goto 4, 3) := dk_167 0 4 (dk_at dksX3_byInts_4 19 rfl rfl)
theorem dX3_byInts_150 : decode cX3_byInts 150 = .ok (.iconst 0, 1) := dk_3 (dk_at dksX3_byInts_4 22 rfl rfl)
theorem dX3_byInts_151 : decode cX3_byInts 151 = .ok (.putfield 331, 3) := dk_181 1 75 (dk_at dksX3_byInts_5 0 rfl rfl)
theorem dX3_byInts_154 : decode cX3_byInts 154 = .ok (.iload_n 2, 1) := dk_28 (dk_at dksX3_byInts_5 3 rfl rfl)
theorem dX3_byInts_155 : decode cX3_byInts 155 = .ok (.ireturn, 1) := dk_172 (dk_at dksX3_byInts_5 4 rfl rfl)
theorem dX3_byInts_156 : decode cX3_byInts 156 = .ok (.aload_n 0, 1) := dk_42 (dk_at dksX3_byInts_5 5 rfl rfl)
theorem dX3_byInts_157 : decode cX3_byInts 157 = .ok (.lload 4, 2) := dk_22 4 (dk_at dksX3_byInts_5 6 rfl rfl)
theorem dX3_byInts_159 : decode cX3_byInts 159 = .ok (.invokestatic 334, 3) := dk_184 1 78 (dk_at dksX3_byInts_5 8 rfl rfl)
theorem dX3_byInts_162 : decode cX3_byInts 162 = .ok (.ifCond .eq 7, 3) := dk_153 0 7 (dk_at dksX3_byInts_5 11 rfl rfl)
theorem dX3_byInts_165 : decode cX3_byInts 165 = .ok (.iconst (-1), 1) := dk_2 (dk_at dksX3_byInts_5 14 rfl rfl)
theorem dX3_byInts_166 : decode cX3_byInts 166 = .ok (.goto 4, 3) := dk_167 0 4 (dk_at dksX3_byInts_5 15 rfl rfl)
theorem dX3_byInts_169 : decode cX3_byInts 169 = .ok (.iconst 2, 1) := dk_5 (dk_at dksX3_byInts_5 18 rfl rfl)
theorem dX3_byInts_170 : decode cX3_byInts 170 = .ok (.putfield 338, 3) := dk_181 1 82 (dk_at dksX3_byInts_5 19 rfl rfl)
theorem dX3_byInts_173 : decode cX3_byInts 173 = .ok (.lload 4, 2) := dk_22 4 (dk_at dksX3_byInts_5 22 rfl rfl)
theorem dX3_byInts_175 : decode cX3_byInts 175 = .ok (.l2i, 1) := dk_136 (dk_at dksX3_byInts_6 0 rfl rfl)
theorem dX3_byInts_176 : decode cX3_byInts 176 = .ok (.ireturn, 1) := dk_172 (dk_at dksX3_byInts_6 1 rfl rfl)
abbrev cX3_isInt : ByteArray := prog_18_method_86_code
def yX3_isInt : MethodName := ⟨RX3, "isInt", "(J)Z"⟩
def dkwX3_isInt_0 : List UInt8 := [30, 20, 1, 68, 148, 155, 0, 15, 30, 20, 1, 70, 148, 157, 0, 7, 4, 167, 0, 4, 3, 172]
abbrev dktX3_isInt_0 : List UInt8 := dkwX3_isInt_0 ++ []
theorem dksX3_isInt_0 : cX3_isInt.data.toList.drop 0 = dktX3_isInt_0 := by decide +kernel
theorem dX3_isInt_0 : decode cX3_isInt 0 = .ok (.lload_n 0, 1) := dk_30 (dk_at dksX3_isInt_0 0 rfl rfl)
theorem dX3_isInt_1 : decode cX3_isInt 1 = .ok (.ldc2_w 324, 3) := dk_20 1 68 (dk_at dksX3_isInt_0 1 rfl rfl)
theorem dX3_isInt_4 : decode cX3_isInt 4 = .ok (.lcmp, 1) := dk_148 (dk_at dksX3_isInt_0 4 rfl rfl)
theorem dX3_isInt_5 : decode cX3_isInt 5 = .ok (.ifCond .lt 15, 3) := dk_155 0 15 (dk_at dksX3_isInt_0 5 rfl rfl)
theorem dX3_isInt_8 : decode cX3_isInt 8 = .ok (.lload_n 0, 1) := dk_30 (dk_at dksX3_isInt_0 8 rfl rfl)
theorem dX3_isInt_9 : decode cX3_isInt 9 = .ok (.ldc2_w 326, 3) := dk_20 1 70 (dk_at dksX3_isInt_0 9 rfl rfl)
theorem dX3_isInt_12 : decode cX3_isInt 12 = .ok (.lcmp, 1) := dk_148 (dk_at dksX3_isInt_0 12 rfl rfl)
theorem dX3_isInt_13 : decode cX3_isInt 13 = .ok (.ifCond .gt 7, 3) := dk_157 0 7 (dk_at dksX3_isInt_0 13 rfl rfl)
theorem dX3_isInt_16 : decode cX3_isInt 16 = .ok (.iconst 1, 1) := dk_4 (dk_at dksX3_isInt_0 16 rfl rfl)
theorem dX3_isInt_17 : decode cX3_isInt 17 = .ok (.goto 4, 3) := dk_167 0 4 (dk_at dksX3_isInt_0 17 rfl rfl)
theorem dX3_isInt_20 : decode cX3_isInt 20 = .ok (.iconst 0, 1) := dk_3 (dk_at dksX3_isInt_0 20 rfl rfl)
theorem dX3_isInt_21 : decode cX3_isInt 21 = .ok (.ireturn, 1) := dk_172 (dk_at dksX3_isInt_0 21 rfl rfl)
abbrev cX3_byFloats : ByteArray := prog_18_method_90_code
def yX3_byFloats : MethodName := ⟨RX3, "byFloats", "(IFF)F"⟩
def dkwX3_byFloats_5 : List UInt8 := [167, 0, 4, 3, 181, 1, 75, 36, 174, 36, 174]
abbrev dktX3_byFloats_5 : List UInt8 := dkwX3_byFloats_5 ++ []
def dkwX3_byFloats_4 : List UInt8 := [37, 174, 36, 37, 150, 156, 0, 7, 36, 167, 0, 4, 37, 174, 42, 36, 37, 150, 157, 0, 7, 4]
abbrev dktX3_byFloats_4 : List UInt8 := dkwX3_byFloats_4 ++ dktX3_byFloats_5
def dkwX3_byFloats_3 : List UInt8 := [37, 11, 149, 154, 0, 7, 11, 167, 0, 6, 36, 37, 114, 174, 36, 37, 149, 158, 0, 7, 36, 167, 0, 4]
abbrev dktX3_byFloats_3 : List UInt8 := dkwX3_byFloats_3 ++ dktX3_byFloats_4
def dkwX3_byFloats_2 : List UInt8 := [36, 37, 98, 19, 1, 85, 114, 174, 36, 37, 102, 19, 1, 85, 114, 174, 36, 37, 106, 19, 1, 85, 114, 174]
abbrev dktX3_byFloats_2 : List UInt8 := dkwX3_byFloats_2 ++ dktX3_byFloats_3
def dkwX3_byFloats_1 : List UInt8 := [170, 0, 0, 0, 0, 0, 138, 0, 0, 0, 0, 0, 0, 0, 10, 0, 0, 0, 59, 0, 0, 0, 67, 0, 0, 0, 75, 0, 0, 0, 83, 0, 0, 0, 97, 0, 0, 0, 109, 0, 0, 0, 138, 0, 0, 0, 138, 0, 0, 0, 138, 0, 0, 0, 138, 0, 0, 0, 121]
abbrev dktX3_byFloats_1 : List UInt8 := dkwX3_byFloats_1 ++ dktX3_byFloats_2
def dkwX3_byFloats_0 : List UInt8 := [27]
abbrev dktX3_byFloats_0 : List UInt8 := dkwX3_byFloats_0 ++ dktX3_byFloats_1
theorem dksX3_byFloats_0 : cX3_byFloats.data.toList.drop 0 = dktX3_byFloats_0 := by decide +kernel
theorem dksX3_byFloats_1 : cX3_byFloats.data.toList.drop 1 = dktX3_byFloats_1 := dk_seg dksX3_byFloats_0 1 rfl rfl
theorem dksX3_byFloats_2 : cX3_byFloats.data.toList.drop 60 = dktX3_byFloats_2 := dk_seg dksX3_byFloats_1 59 rfl rfl
theorem dksX3_byFloats_3 : cX3_byFloats.data.toList.drop 84 = dktX3_byFloats_3 := dk_seg dksX3_byFloats_2 24 rfl rfl
theorem dksX3_byFloats_4 : cX3_byFloats.data.toList.drop 108 = dktX3_byFloats_4 := dk_seg dksX3_byFloats_3 24 rfl rfl
theorem dksX3_byFloats_5 : cX3_byFloats.data.toList.drop 130 = dktX3_byFloats_5 := dk_seg dksX3_byFloats_4 22 rfl rfl
theorem dX3_byFloats_0 : decode cX3_byFloats 0 = .ok (.iload_n 1, 1) := dk_27 (dk_at dksX3_byFloats_0 0 rfl rfl)
theorem dX3_byFloats_1 : decode cX3_byFloats 1 = .ok (.tableswitch 138 0 10 #[59, 67, 75, 83, 97, 109, 138, 138, 138, 138, 121], 59) := by decide +kernel
theorem dX3_byFloats_60 : decode cX3_byFloats 60 = .ok (.fload_n 2, 1) := dk_36 (dk_at dksX3_byFloats_2 0 rfl rfl)
theorem dX3_byFloats_61 : decode cX3_byFloats 61 = .ok (.fload_n 3, 1) := dk_37 (dk_at dksX3_byFloats_2 1 rfl rfl)
theorem dX3_byFloats_62 : decode cX3_byFloats 62 = .ok (.fadd, 1) := dk_98 (dk_at dksX3_byFloats_2 2 rfl rfl)
theorem dX3_byFloats_63 : decode cX3_byFloats 63 = .ok (.ldc_w 341, 3) := dk_19 1 85 (dk_at dksX3_byFloats_2 3 rfl rfl)
theorem dX3_byFloats_66 : decode cX3_byFloats 66 = .ok (.frem, 1) := dk_114 (dk_at dksX3_byFloats_2 6 rfl rfl)
theorem dX3_byFloats_67 : decode cX3_byFloats 67 = .ok (.freturn, 1) := dk_174 (dk_at dksX3_byFloats_2 7 rfl rfl)
theorem dX3_byFloats_68 : decode cX3_byFloats 68 = .ok (.fload_n 2, 1) := dk_36 (dk_at dksX3_byFloats_2 8 rfl rfl)
theorem dX3_byFloats_69 : decode cX3_byFloats 69 = .ok (.fload_n 3, 1) := dk_37 (dk_at dksX3_byFloats_2 9 rfl rfl)
theorem dX3_byFloats_70 : decode cX3_byFloats 70 = .ok (.fsub, 1) := dk_102 (dk_at dksX3_byFloats_2 10 rfl rfl)
theorem dX3_byFloats_71 : decode cX3_byFloats 71 = .ok (.ldc_w 341, 3) := dk_19 1 85 (dk_at dksX3_byFloats_2 11 rfl rfl)
theorem dX3_byFloats_74 : decode cX3_byFloats 74 = .ok (.frem, 1) := dk_114 (dk_at dksX3_byFloats_2 14 rfl rfl)
theorem dX3_byFloats_75 : decode cX3_byFloats 75 = .ok (.freturn, 1) := dk_174 (dk_at dksX3_byFloats_2 15 rfl rfl)
theorem dX3_byFloats_76 : decode cX3_byFloats 76 = .ok (.fload_n 2, 1) := dk_36 (dk_at dksX3_byFloats_2 16 rfl rfl)
theorem dX3_byFloats_77 : decode cX3_byFloats 77 = .ok (.fload_n 3, 1) := dk_37 (dk_at dksX3_byFloats_2 17 rfl rfl)
theorem dX3_byFloats_78 : decode cX3_byFloats 78 = .ok (.fmul, 1) := dk_106 (dk_at dksX3_byFloats_2 18 rfl rfl)
theorem dX3_byFloats_79 : decode cX3_byFloats 79 = .ok (.ldc_w 341, 3) := dk_19 1 85 (dk_at dksX3_byFloats_2 19 rfl rfl)
theorem dX3_byFloats_82 : decode cX3_byFloats 82 = .ok (.frem, 1) := dk_114 (dk_at dksX3_byFloats_2 22 rfl rfl)
theorem dX3_byFloats_83 : decode cX3_byFloats 83 = .ok (.freturn, 1) := dk_174 (dk_at dksX3_byFloats_2 23 rfl rfl)
theorem dX3_byFloats_84 : decode cX3_byFloats 84 = .ok (.fload_n 3, 1) := dk_37 (dk_at dksX3_byFloats_3 0 rfl rfl)
theorem dX3_byFloats_85 : decode cX3_byFloats 85 = .ok (.fconst 0, 1) := dk_11 (dk_at dksX3_byFloats_3 1 rfl rfl)
theorem dX3_byFloats_86 : decode cX3_byFloats 86 = .ok (.fcmp .l, 1) := dk_149 (dk_at dksX3_byFloats_3 2 rfl rfl)
theorem dX3_byFloats_87 : decode cX3_byFloats 87 = .ok (.ifCond .ne 7, 3) := dk_154 0 7 (dk_at dksX3_byFloats_3 3 rfl rfl)
theorem dX3_byFloats_90 : decode cX3_byFloats 90 = .ok (.fconst 0, 1) := dk_11 (dk_at dksX3_byFloats_3 6 rfl rfl)
theorem dX3_byFloats_91 : decode cX3_byFloats 91 = .ok (.goto 6, 3) := dk_167 0 6 (dk_at dksX3_byFloats_3 7 rfl rfl)
theorem dX3_byFloats_94 : decode cX3_byFloats 94 = .ok (.fload_n 2, 1) := dk_36 (dk_at dksX3_byFloats_3 10 rfl rfl)
theorem dX3_byFloats_95 : decode cX3_byFloats 95 = .ok (.fload_n 3, 1) := dk_37 (dk_at dksX3_byFloats_3 11 rfl rfl)
theorem dX3_byFloats_96 : decode cX3_byFloats 96 = .ok (.frem, 1) := dk_114 (dk_at dksX3_byFloats_3 12 rfl rfl)
theorem dX3_byFloats_97 : decode cX3_byFloats 97 = .ok (.freturn, 1) := dk_174 (dk_at dksX3_byFloats_3 13 rfl rfl)
theorem dX3_byFloats_98 : decode cX3_byFloats 98 = .ok (.fload_n 2, 1) := dk_36 (dk_at dksX3_byFloats_3 14 rfl rfl)
theorem dX3_byFloats_99 : decode cX3_byFloats 99 = .ok (.fload_n 3, 1) := dk_37 (dk_at dksX3_byFloats_3 15 rfl rfl)
theorem dX3_byFloats_100 : decode cX3_byFloats 100 = .ok (.fcmp .l, 1) := dk_149 (dk_at dksX3_byFloats_3 16 rfl rfl)
theorem dX3_byFloats_101 : decode cX3_byFloats 101 = .ok (.ifCond .le 7, 3) := dk_158 0 7 (dk_at dksX3_byFloats_3 17 rfl rfl)
theorem dX3_byFloats_104 : decode cX3_byFloats 104 = .ok (.fload_n 2, 1) := dk_36 (dk_at dksX3_byFloats_3 20 rfl rfl)
theorem dX3_byFloats_105 : decode cX3_byFloats 105 = .ok (.goto 4, 3) := dk_167 0 4 (dk_at dksX3_byFloats_3 21 rfl rfl)
theorem dX3_byFloats_108 : decode cX3_byFloats 108 = .ok (.fload_n 3, 1) := dk_37 (dk_at dksX3_byFloats_4 0 rfl rfl)
theorem dX3_byFloats_109 : decode cX3_byFloats 109 = .ok (.freturn, 1) := dk_174 (dk_at dksX3_byFloats_4 1 rfl rfl)
theorem dX3_byFloats_110 : decode cX3_byFloats 110 = .ok (.fload_n 2, 1) := dk_36 (dk_at dksX3_byFloats_4 2 rfl rfl)
theorem dX3_byFloats_111 : decode cX3_byFloats 111 = .ok (.fload_n 3, 1) := dk_37 (dk_at dksX3_byFloats_4 3 rfl rfl)
theorem dX3_byFloats_112 : decode cX3_byFloats 112 = .ok (.fcmp .g, 1) := dk_150 (dk_at dksX3_byFloats_4 4 rfl rfl)
theorem dX3_byFloats_113 : decode cX3_byFloats 113 = .ok (.ifCond .ge 7, 3) := dk_156 0 7 (dk_at dksX3_byFloats_4 5 rfl rfl)
theorem dX3_byFloats_116 : decode cX3_byFloats 116 = .ok (.fload_n 2, 1) := dk_36 (dk_at dksX3_byFloats_4 8 rfl rfl)
theorem dX3_byFloats_117 : decode cX3_byFloats 117 = .ok (.goto 4, 3) := dk_167 0 4 (dk_at dksX3_byFloats_4 9 rfl rfl)
theorem dX3_byFloats_120 : decode cX3_byFloats 120 = .ok (.fload_n 3, 1) := dk_37 (dk_at dksX3_byFloats_4 12 rfl rfl)
theorem dX3_byFloats_121 : decode cX3_byFloats 121 = .ok (.freturn, 1) := dk_174 (dk_at dksX3_byFloats_4 13 rfl rfl)
theorem dX3_byFloats_122 : decode cX3_byFloats 122 = .ok (.aload_n 0, 1) := dk_42 (dk_at dksX3_byFloats_4 14 rfl rfl)
theorem dX3_byFloats_123 : decode cX3_byFloats 123 = .ok (.fload_n 2, 1) := dk_36 (dk_at dksX3_byFloats_4 15 rfl rfl)
theorem dX3_byFloats_124 : decode cX3_byFloats 124 = .ok (.fload_n 3, 1) := dk_37 (dk_at dksX3_byFloats_4 16 rfl rfl)
theorem dX3_byFloats_125 : decode cX3_byFloats 125 = .ok (.fcmp .g, 1) := dk_150 (dk_at dksX3_byFloats_4 17 rfl rfl)
theorem dX3_byFloats_126 : decode cX3_byFloats 126 = .ok (.ifCond .gt 7, 3) := dk_157 0 7 (dk_at dksX3_byFloats_4 18 rfl rfl)
theorem dX3_byFloats_129 : decode cX3_byFloats 129 = .ok (.iconst 1, 1) := dk_4 (dk_at dksX3_byFloats_4 21 rfl rfl)
theorem dX3_byFloats_130 : decode cX3_byFloats 130 = .ok (.goto 4, 3) := dk_167 0 4 (dk_at dksX3_byFloats_5 0 rfl rfl)
theorem dX3_byFloats_133 : decode cX3_byFloats 133 = .ok (.iconst 0, 1) := dk_3 (dk_at dksX3_byFloats_5 3 rfl rfl)
theorem dX3_byFloats_134 : decode cX3_byFloats 134 = .ok (.putfield 331, 3) := dk_181 1 75 (dk_at dksX3_byFloats_5 4 rfl rfl)
theorem dX3_byFloats_137 : decode cX3_byFloats 137 = .ok (.fload_n 2, 1) := dk_36 (dk_at dksX3_byFloats_5 7 rfl rfl)
theorem dX3_byFloats_138 : decode cX3_byFloats 138 = .ok (.freturn, 1) := dk_174 (dk_at dksX3_byFloats_5 8 rfl rfl)
theorem dX3_byFloats_139 : decode cX3_byFloats 139 = .ok (.fload_n 2, 1) := dk_36 (dk_at dksX3_byFloats_5 9 rfl rfl)
theorem dX3_byFloats_140 : decode cX3_byFloats 140 = .ok (.freturn, 1) := dk_174 (dk_at dksX3_byFloats_5 10 rfl rfl)
abbrev cX3_zeroed : ByteArray := prog_18_method_7_code
def yX3_zeroed : MethodName := ⟨RX3, "zeroed", "(D)D"⟩
def dkwX3_zeroed_0 : List UInt8 := [38, 14, 151, 154, 0, 7, 14, 167, 0, 4, 38, 175]
abbrev dktX3_zeroed_0 : List UInt8 := dkwX3_zeroed_0 ++ []
theorem dksX3_zeroed_0 : cX3_zeroed.data.toList.drop 0 = dktX3_zeroed_0 := by decide +kernel
theorem dX3_zeroed_0 : decode cX3_zeroed 0 = .ok (.dload_n 0, 1) := dk_38 (dk_at dksX3_zeroed_0 0 rfl rfl)
theorem dX3_zeroed_1 : decode cX3_zeroed 1 = .ok (.dconst 0, 1) := dk_14 (dk_at dksX3_zeroed_0 1 rfl rfl)
theorem dX3_zeroed_2 : decode cX3_zeroed 2 = .ok (.dcmp .l, 1) := dk_151 (dk_at dksX3_zeroed_0 2 rfl rfl)
theorem dX3_zeroed_3 : decode cX3_zeroed 3 = .ok (.ifCond .ne 7, 3) := dk_154 0 7 (dk_at dksX3_zeroed_0 3 rfl rfl)
theorem dX3_zeroed_6 : decode cX3_zeroed 6 = .ok (.dconst 0, 1) := dk_14 (dk_at dksX3_zeroed_0 6 rfl rfl)
theorem dX3_zeroed_7 : decode cX3_zeroed 7 = .ok (.goto 4, 3) := dk_167 0 4 (dk_at dksX3_zeroed_0 7 rfl rfl)
theorem dX3_zeroed_10 : decode cX3_zeroed 10 = .ok (.dload_n 0, 1) := dk_38 (dk_at dksX3_zeroed_0 10 rfl rfl)
theorem dX3_zeroed_11 : decode cX3_zeroed 11 = .ok (.dreturn, 1) := dk_175 (dk_at dksX3_zeroed_0 11 rfl rfl)
abbrev cX3_byDoubles : ByteArray := prog_18_method_91_code
def yX3_byDoubles : MethodName := ⟨RX3, "byDoubles", "(IDD)D"⟩
def dkwX3_byDoubles_5 : List UInt8 := [175, 42, 40, 24, 4, 152, 157, 0, 7, 4, 167, 0, 4, 3, 181, 1, 75, 40, 175, 40, 175]
abbrev dktX3_byDoubles_5 : List UInt8 := dkwX3_byDoubles_5 ++ []
def dkwX3_byDoubles_4 : List UInt8 := [151, 158, 0, 7, 40, 167, 0, 5, 24, 4, 175, 40, 24, 4, 152, 156, 0, 7, 40, 167, 0, 5, 24, 4]
abbrev dktX3_byDoubles_4 : List UInt8 := dkwX3_byDoubles_4 ++ dktX3_byDoubles_5
def dkwX3_byDoubles_3 : List UInt8 := [20, 1, 66, 115, 175, 24, 4, 14, 151, 154, 0, 7, 14, 167, 0, 7, 40, 24, 4, 115, 175, 40, 24, 4]
abbrev dktX3_byDoubles_3 : List UInt8 := dkwX3_byDoubles_3 ++ dktX3_byDoubles_4
def dkwX3_byDoubles_2 : List UInt8 := [40, 24, 4, 99, 20, 1, 66, 115, 175, 40, 24, 4, 103, 20, 1, 66, 115, 175, 40, 24, 4, 107]
abbrev dktX3_byDoubles_2 : List UInt8 := dkwX3_byDoubles_2 ++ dktX3_byDoubles_3
def dkwX3_byDoubles_1 : List UInt8 := [170, 0, 0, 0, 0, 0, 148, 0, 0, 0, 0, 0, 0, 0, 10, 0, 0, 0, 59, 0, 0, 0, 68, 0, 0, 0, 77, 0, 0, 0, 86, 0, 0, 0, 102, 0, 0, 0, 116, 0, 0, 0, 148, 0, 0, 0, 148, 0, 0, 0, 148, 0, 0, 0, 148, 0, 0, 0, 130]
abbrev dktX3_byDoubles_1 : List UInt8 := dkwX3_byDoubles_1 ++ dktX3_byDoubles_2
def dkwX3_byDoubles_0 : List UInt8 := [27]
abbrev dktX3_byDoubles_0 : List UInt8 := dkwX3_byDoubles_0 ++ dktX3_byDoubles_1
theorem dksX3_byDoubles_0 : cX3_byDoubles.data.toList.drop 0 = dktX3_byDoubles_0 := by decide +kernel
theorem dksX3_byDoubles_1 : cX3_byDoubles.data.toList.drop 1 = dktX3_byDoubles_1 := dk_seg dksX3_byDoubles_0 1 rfl rfl
theorem dksX3_byDoubles_2 : cX3_byDoubles.data.toList.drop 60 = dktX3_byDoubles_2 := dk_seg dksX3_byDoubles_1 59 rfl rfl
theorem dksX3_byDoubles_3 : cX3_byDoubles.data.toList.drop 82 = dktX3_byDoubles_3 := dk_seg dksX3_byDoubles_2 22 rfl rfl
theorem dksX3_byDoubles_4 : cX3_byDoubles.data.toList.drop 106 = dktX3_byDoubles_4 := dk_seg dksX3_byDoubles_3 24 rfl rfl
theorem dksX3_byDoubles_5 : cX3_byDoubles.data.toList.drop 130 = dktX3_byDoubles_5 := dk_seg dksX3_byDoubles_4 24 rfl rfl
theorem dX3_byDoubles_0 : decode cX3_byDoubles 0 = .ok (.iload_n 1, 1) := dk_27 (dk_at dksX3_byDoubles_0 0 rfl rfl)
theorem dX3_byDoubles_1 : decode cX3_byDoubles 1 = .ok (.tableswitch 148 0 10 #[59, 68, 77, 86, 102, 116, 148, 148, 148, 148, 130], 59) := by decide +kernel
theorem dX3_byDoubles_60 : decode cX3_byDoubles 60 = .ok (.dload_n 2, 1) := dk_40 (dk_at dksX3_byDoubles_2 0 rfl rfl)
theorem dX3_byDoubles_61 : decode cX3_byDoubles 61 = .ok (.dload 4, 2) := dk_24 4 (dk_at dksX3_byDoubles_2 1 rfl rfl)
theorem dX3_byDoubles_63 : decode cX3_byDoubles 63 = .ok (.dadd, 1) := dk_99 (dk_at dksX3_byDoubles_2 3 rfl rfl)
theorem dX3_byDoubles_64 : decode cX3_byDoubles 64 = .ok (.ldc2_w 322, 3) := dk_20 1 66 (dk_at dksX3_byDoubles_2 4 rfl rfl)
theorem dX3_byDoubles_67 : decode cX3_byDoubles 67 = .ok (.drem, 1) := dk_115 (dk_at dksX3_byDoubles_2 7 rfl rfl)
theorem dX3_byDoubles_68 : decode cX3_byDoubles 68 = .ok (.dreturn, 1) := dk_175 (dk_at dksX3_byDoubles_2 8 rfl rfl)
theorem dX3_byDoubles_69 : decode cX3_byDoubles 69 = .ok (.dload_n 2, 1) := dk_40 (dk_at dksX3_byDoubles_2 9 rfl rfl)
theorem dX3_byDoubles_70 : decode cX3_byDoubles 70 = .ok (.dload 4, 2) := dk_24 4 (dk_at dksX3_byDoubles_2 10 rfl rfl)
theorem dX3_byDoubles_72 : decode cX3_byDoubles 72 = .ok (.dsub, 1) := dk_103 (dk_at dksX3_byDoubles_2 12 rfl rfl)
theorem dX3_byDoubles_73 : decode cX3_byDoubles 73 = .ok (.ldc2_w 322, 3) := dk_20 1 66 (dk_at dksX3_byDoubles_2 13 rfl rfl)
theorem dX3_byDoubles_76 : decode cX3_byDoubles 76 = .ok (.drem, 1) := dk_115 (dk_at dksX3_byDoubles_2 16 rfl rfl)
theorem dX3_byDoubles_77 : decode cX3_byDoubles 77 = .ok (.dreturn, 1) := dk_175 (dk_at dksX3_byDoubles_2 17 rfl rfl)
theorem dX3_byDoubles_78 : decode cX3_byDoubles 78 = .ok (.dload_n 2, 1) := dk_40 (dk_at dksX3_byDoubles_2 18 rfl rfl)
theorem dX3_byDoubles_79 : decode cX3_byDoubles 79 = .ok (.dload 4, 2) := dk_24 4 (dk_at dksX3_byDoubles_2 19 rfl rfl)
theorem dX3_byDoubles_81 : decode cX3_byDoubles 81 = .ok (.dmul, 1) := dk_107 (dk_at dksX3_byDoubles_2 21 rfl rfl)
theorem dX3_byDoubles_82 : decode cX3_byDoubles 82 = .ok (.ldc2_w 322, 3) := dk_20 1 66 (dk_at dksX3_byDoubles_3 0 rfl rfl)
theorem dX3_byDoubles_85 : decode cX3_byDoubles 85 = .ok (.drem, 1) := dk_115 (dk_at dksX3_byDoubles_3 3 rfl rfl)
theorem dX3_byDoubles_86 : decode cX3_byDoubles 86 = .ok (.dreturn, 1) := dk_175 (dk_at dksX3_byDoubles_3 4 rfl rfl)
theorem dX3_byDoubles_87 : decode cX3_byDoubles 87 = .ok (.dload 4, 2) := dk_24 4 (dk_at dksX3_byDoubles_3 5 rfl rfl)
theorem dX3_byDoubles_89 : decode cX3_byDoubles 89 = .ok (.dconst 0, 1) := dk_14 (dk_at dksX3_byDoubles_3 7 rfl rfl)
theorem dX3_byDoubles_90 : decode cX3_byDoubles 90 = .ok (.dcmp .l, 1) := dk_151 (dk_at dksX3_byDoubles_3 8 rfl rfl)
theorem dX3_byDoubles_91 : decode cX3_byDoubles 91 = .ok (.ifCond .ne 7, 3) := dk_154 0 7 (dk_at dksX3_byDoubles_3 9 rfl rfl)
theorem dX3_byDoubles_94 : decode cX3_byDoubles 94 = .ok (.dconst 0, 1) := dk_14 (dk_at dksX3_byDoubles_3 12 rfl rfl)
theorem dX3_byDoubles_95 : decode cX3_byDoubles 95 = .ok (.goto 7, 3) := dk_167 0 7 (dk_at dksX3_byDoubles_3 13 rfl rfl)
theorem dX3_byDoubles_98 : decode cX3_byDoubles 98 = .ok (.dload_n 2, 1) := dk_40 (dk_at dksX3_byDoubles_3 16 rfl rfl)
theorem dX3_byDoubles_99 : decode cX3_byDoubles 99 = .ok (.dload 4, 2) := dk_24 4 (dk_at dksX3_byDoubles_3 17 rfl rfl)
theorem dX3_byDoubles_101 : decode cX3_byDoubles 101 = .ok (.drem, 1) := dk_115 (dk_at dksX3_byDoubles_3 19 rfl rfl)
theorem dX3_byDoubles_102 : decode cX3_byDoubles 102 = .ok (.dreturn, 1) := dk_175 (dk_at dksX3_byDoubles_3 20 rfl rfl)
theorem dX3_byDoubles_103 : decode cX3_byDoubles 103 = .ok (.dload_n 2, 1) := dk_40 (dk_at dksX3_byDoubles_3 21 rfl rfl)
theorem dX3_byDoubles_104 : decode cX3_byDoubles 104 = .ok (.dload 4, 2) := dk_24 4 (dk_at dksX3_byDoubles_3 22 rfl rfl)
theorem dX3_byDoubles_106 : decode cX3_byDoubles 106 = .ok (.dcmp .l, 1) := dk_151 (dk_at dksX3_byDoubles_4 0 rfl rfl)
theorem dX3_byDoubles_107 : decode cX3_byDoubles 107 = .ok (.ifCond .le 7, 3) := dk_158 0 7 (dk_at dksX3_byDoubles_4 1 rfl rfl)
theorem dX3_byDoubles_110 : decode cX3_byDoubles 110 = .ok (.dload_n 2, 1) := dk_40 (dk_at dksX3_byDoubles_4 4 rfl rfl)
theorem dX3_byDoubles_111 : decode cX3_byDoubles 111 = .ok (.goto 5, 3) := dk_167 0 5 (dk_at dksX3_byDoubles_4 5 rfl rfl)
theorem dX3_byDoubles_114 : decode cX3_byDoubles 114 = .ok (.dload 4, 2) := dk_24 4 (dk_at dksX3_byDoubles_4 8 rfl rfl)
theorem dX3_byDoubles_116 : decode cX3_byDoubles 116 = .ok (.dreturn, 1) := dk_175 (dk_at dksX3_byDoubles_4 10 rfl rfl)
theorem dX3_byDoubles_117 : decode cX3_byDoubles 117 = .ok (.dload_n 2, 1) := dk_40 (dk_at dksX3_byDoubles_4 11 rfl rfl)
theorem dX3_byDoubles_118 : decode cX3_byDoubles 118 = .ok (.dload 4, 2) := dk_24 4 (dk_at dksX3_byDoubles_4 12 rfl rfl)
theorem dX3_byDoubles_120 : decode cX3_byDoubles 120 = .ok (.dcmp .g, 1) := dk_152 (dk_at dksX3_byDoubles_4 14 rfl rfl)
theorem dX3_byDoubles_121 : decode cX3_byDoubles 121 = .ok (.ifCond .ge 7, 3) := dk_156 0 7 (dk_at dksX3_byDoubles_4 15 rfl rfl)
theorem dX3_byDoubles_124 : decode cX3_byDoubles 124 = .ok (.dload_n 2, 1) := dk_40 (dk_at dksX3_byDoubles_4 18 rfl rfl)
theorem dX3_byDoubles_125 : decode cX3_byDoubles 125 = .ok (.goto 5, 3) := dk_167 0 5 (dk_at dksX3_byDoubles_4 19 rfl rfl)
theorem dX3_byDoubles_128 : decode cX3_byDoubles 128 = .ok (.dload 4, 2) := dk_24 4 (dk_at dksX3_byDoubles_4 22 rfl rfl)
theorem dX3_byDoubles_130 : decode cX3_byDoubles 130 = .ok (.dreturn, 1) := dk_175 (dk_at dksX3_byDoubles_5 0 rfl rfl)
theorem dX3_byDoubles_131 : decode cX3_byDoubles 131 = .ok (.aload_n 0, 1) := dk_42 (dk_at dksX3_byDoubles_5 1 rfl rfl)
theorem dX3_byDoubles_132 : decode cX3_byDoubles 132 = .ok (.dload_n 2, 1) := dk_40 (dk_at dksX3_byDoubles_5 2 rfl rfl)
theorem dX3_byDoubles_133 : decode cX3_byDoubles 133 = .ok (.dload 4, 2) := dk_24 4 (dk_at dksX3_byDoubles_5 3 rfl rfl)
theorem dX3_byDoubles_135 : decode cX3_byDoubles 135 = .ok (.dcmp .g, 1) := dk_152 (dk_at dksX3_byDoubles_5 5 rfl rfl)
theorem dX3_byDoubles_136 : decode cX3_byDoubles 136 = .ok (.ifCond .gt 7, 3) := dk_157 0 7 (dk_at dksX3_byDoubles_5 6 rfl rfl)
theorem dX3_byDoubles_139 : decode cX3_byDoubles 139 = .ok (.iconst 1, 1) := dk_4 (dk_at dksX3_byDoubles_5 9 rfl rfl)
theorem dX3_byDoubles_140 : decode cX3_byDoubles 140 = .ok (.goto 4, 3) := dk_167 0 4 (dk_at dksX3_byDoubles_5 10 rfl rfl)
theorem dX3_byDoubles_143 : decode cX3_byDoubles 143 = .ok (.iconst 0, 1) := dk_3 (dk_at dksX3_byDoubles_5 13 rfl rfl)
theorem dX3_byDoubles_144 : decode cX3_byDoubles 144 = .ok (.putfield 331, 3) := dk_181 1 75 (dk_at dksX3_byDoubles_5 14 rfl rfl)
theorem dX3_byDoubles_147 : decode cX3_byDoubles 147 = .ok (.dload_n 2, 1) := dk_40 (dk_at dksX3_byDoubles_5 17 rfl rfl)
theorem dX3_byDoubles_148 : decode cX3_byDoubles 148 = .ok (.dreturn, 1) := dk_175 (dk_at dksX3_byDoubles_5 18 rfl rfl)
theorem dX3_byDoubles_149 : decode cX3_byDoubles 149 = .ok (.dload_n 2, 1) := dk_40 (dk_at dksX3_byDoubles_5 19 rfl rfl)
theorem dX3_byDoubles_150 : decode cX3_byDoubles 150 = .ok (.dreturn, 1) := dk_175 (dk_at dksX3_byDoubles_5 20 rfl rfl)
abbrev cX3_castTo : ByteArray := prog_18_method_8_code
def yX3_castTo : MethodName := ⟨RX3, "castTo", "(ID)D"⟩
def dkwX3_castTo_2 : List UInt8 := [39, 142, 147, 135, 175, 39, 142, 135, 175, 39, 144, 141, 184, 0, 118, 175, 39, 175]
abbrev dktX3_castTo_2 : List UInt8 := dkwX3_castTo_2 ++ []
def dkwX3_castTo_1 : List UInt8 := [170, 0, 0, 0, 0, 0, 43, 0, 0, 0, 0, 0, 0, 0, 2, 0, 0, 0, 27, 0, 0, 0, 32, 0, 0, 0, 36]
abbrev dktX3_castTo_1 : List UInt8 := dkwX3_castTo_1 ++ dktX3_castTo_2
def dkwX3_castTo_0 : List UInt8 := [26]
abbrev dktX3_castTo_0 : List UInt8 := dkwX3_castTo_0 ++ dktX3_castTo_1
theorem dksX3_castTo_0 : cX3_castTo.data.toList.drop 0 = dktX3_castTo_0 := by decide +kernel
theorem dksX3_castTo_1 : cX3_castTo.data.toList.drop 1 = dktX3_castTo_1 := dk_seg dksX3_castTo_0 1 rfl rfl
theorem dksX3_castTo_2 : cX3_castTo.data.toList.drop 28 = dktX3_castTo_2 := dk_seg dksX3_castTo_1 27 rfl rfl
theorem dX3_castTo_0 : decode cX3_castTo 0 = .ok (.iload_n 0, 1) := dk_26 (dk_at dksX3_castTo_0 0 rfl rfl)
theorem dX3_castTo_1 : decode cX3_castTo 1 = .ok (.tableswitch 43 0 2 #[27, 32, 36], 27) := by decide +kernel
theorem dX3_castTo_28 : decode cX3_castTo 28 = .ok (.dload_n 1, 1) := dk_39 (dk_at dksX3_castTo_2 0 rfl rfl)
theorem dX3_castTo_29 : decode cX3_castTo 29 = .ok (.d2i, 1) := dk_142 (dk_at dksX3_castTo_2 1 rfl rfl)
theorem dX3_castTo_30 : decode cX3_castTo 30 = .ok (.i2s, 1) := dk_147 (dk_at dksX3_castTo_2 2 rfl rfl)
theorem dX3_castTo_31 : decode cX3_castTo 31 = .ok (.i2d, 1) := dk_135 (dk_at dksX3_castTo_2 3 rfl rfl)
theorem dX3_castTo_32 : decode cX3_castTo 32 = .ok (.dreturn, 1) := dk_175 (dk_at dksX3_castTo_2 4 rfl rfl)
theorem dX3_castTo_33 : decode cX3_castTo 33 = .ok (.dload_n 1, 1) := dk_39 (dk_at dksX3_castTo_2 5 rfl rfl)
theorem dX3_castTo_34 : decode cX3_castTo 34 = .ok (.d2i, 1) := dk_142 (dk_at dksX3_castTo_2 6 rfl rfl)
theorem dX3_castTo_35 : decode cX3_castTo 35 = .ok (.i2d, 1) := dk_135 (dk_at dksX3_castTo_2 7 rfl rfl)
theorem dX3_castTo_36 : decode cX3_castTo 36 = .ok (.dreturn, 1) := dk_175 (dk_at dksX3_castTo_2 8 rfl rfl)
theorem dX3_castTo_37 : decode cX3_castTo 37 = .ok (.dload_n 1, 1) := dk_39 (dk_at dksX3_castTo_2 9 rfl rfl)
theorem dX3_castTo_38 : decode cX3_castTo 38 = .ok (.d2f, 1) := dk_144 (dk_at dksX3_castTo_2 10 rfl rfl)
theorem dX3_castTo_39 : decode cX3_castTo 39 = .ok (.f2d, 1) := dk_141 (dk_at dksX3_castTo_2 11 rfl rfl)
theorem dX3_castTo_40 : decode cX3_castTo 40 = .ok (.invokestatic 118, 3) := dk_184 0 118 (dk_at dksX3_castTo_2 12 rfl rfl)
theorem dX3_castTo_43 : decode cX3_castTo 43 = .ok (.dreturn, 1) := dk_175 (dk_at dksX3_castTo_2 15 rfl rfl)
theorem dX3_castTo_44 : decode cX3_castTo 44 = .ok (.dload_n 1, 1) := dk_39 (dk_at dksX3_castTo_2 16 rfl rfl)
theorem dX3_castTo_45 : decode cX3_castTo 45 = .ok (.dreturn, 1) := dk_175 (dk_at dksX3_castTo_2 17 rfl rfl)
abbrev cX3_writes : ByteArray := prog_18_method_95_code
def yX3_writes : MethodName := ⟨RX3, "writes", "(IID)V"⟩
def dkwX3_writes_4 : List UInt8 := [177]
abbrev dktX3_writes_4 : List UInt8 := dkwX3_writes_4 ++ []
def dkwX3_writes_3 : List UInt8 := [160, 0, 22, 42, 180, 0, 20, 27, 46, 28, 164, 0, 12, 42, 180, 0, 20, 27, 46, 167, 0, 4, 28, 79]
abbrev dktX3_writes_3 : List UInt8 := dkwX3_writes_3 ++ dktX3_writes_4
def dkwX3_writes_2 : List UInt8 := [28, 104, 27, 96, 4, 84, 167, 0, 42, 42, 180, 0, 16, 27, 41, 82, 42, 180, 0, 20, 27, 21, 5, 5]
abbrev dktX3_writes_2 : List UInt8 := dkwX3_writes_2 ++ dktX3_writes_3
def dkwX3_writes_1 : List UInt8 := [6, 160, 0, 32, 42, 180, 0, 74, 17, 0, 144, 28, 104, 27, 96, 41, 82, 42, 180, 0, 77, 17, 0, 144]
abbrev dktX3_writes_1 : List UInt8 := dkwX3_writes_1 ++ dktX3_writes_2
def dkwX3_writes_0 : List UInt8 := [42, 180, 1, 103, 153, 0, 15, 42, 180, 0, 68, 27, 16, 24, 108, 46, 167, 0, 4, 2, 54, 5, 21, 5]
abbrev dktX3_writes_0 : List UInt8 := dkwX3_writes_0 ++ dktX3_writes_1
theorem dksX3_writes_0 : cX3_writes.data.toList.drop 0 = dktX3_writes_0 := by decide +kernel
theorem dksX3_writes_1 : cX3_writes.data.toList.drop 24 = dktX3_writes_1 := dk_seg dksX3_writes_0 24 rfl rfl
theorem dksX3_writes_2 : cX3_writes.data.toList.drop 48 = dktX3_writes_2 := dk_seg dksX3_writes_1 24 rfl rfl
theorem dksX3_writes_3 : cX3_writes.data.toList.drop 72 = dktX3_writes_3 := dk_seg dksX3_writes_2 24 rfl rfl
theorem dksX3_writes_4 : cX3_writes.data.toList.drop 96 = dktX3_writes_4 := dk_seg dksX3_writes_3 24 rfl rfl
theorem dX3_writes_0 : decode cX3_writes 0 = .ok (.aload_n 0, 1) := dk_42 (dk_at dksX3_writes_0 0 rfl rfl)
theorem dX3_writes_1 : decode cX3_writes 1 = .ok (.getfield 359, 3) := dk_180 1 103 (dk_at dksX3_writes_0 1 rfl rfl)
theorem dX3_writes_4 : decode cX3_writes 4 = .ok (.ifCond .eq 15, 3) := dk_153 0 15 (dk_at dksX3_writes_0 4 rfl rfl)
theorem dX3_writes_7 : decode cX3_writes 7 = .ok (.aload_n 0, 1) := dk_42 (dk_at dksX3_writes_0 7 rfl rfl)
theorem dX3_writes_8 : decode cX3_writes 8 = .ok (.getfield 68, 3) := dk_180 0 68 (dk_at dksX3_writes_0 8 rfl rfl)
theorem dX3_writes_11 : decode cX3_writes 11 = .ok (.iload_n 1, 1) := dk_27 (dk_at dksX3_writes_0 11 rfl rfl)
theorem dX3_writes_12 : decode cX3_writes 12 = .ok (.bipush 24, 2) := dk_16 24 (dk_at dksX3_writes_0 12 rfl rfl)
theorem dX3_writes_14 : decode cX3_writes 14 = .ok (.idiv, 1) := dk_108 (dk_at dksX3_writes_0 14 rfl rfl)
theorem dX3_writes_15 : decode cX3_writes 15 = .ok (.iaload, 1) := dk_46 (dk_at dksX3_writes_0 15 rfl rfl)
theorem dX3_writes_16 : decode cX3_writes 16 = .ok (.goto 4, 3) := dk_167 0 4 (dk_at dksX3_writes_0 16 rfl rfl)
theorem dX3_writes_19 : decode cX3_writes 19 = .ok (.iconst (-1), 1) := dk_2 (dk_at dksX3_writes_0 19 rfl rfl)
theorem dX3_writes_20 : decode cX3_writes 20 = .ok (.istore 5, 2) := dk_54 5 (dk_at dksX3_writes_0 20 rfl rfl)
theorem dX3_writes_22 : decode cX3_writes 22 = .ok (.iload 5, 2) := dk_21 5 (dk_at dksX3_writes_0 22 rfl rfl)
theorem dX3_writes_24 : decode cX3_writes 24 = .ok (.iconst 3, 1) := dk_6 (dk_at dksX3_writes_1 0 rfl rfl)
theorem dX3_writes_25 : decode cX3_writes 25 = .ok (.if_icmp .ne 32, 3) := dk_160 0 32 (dk_at dksX3_writes_1 1 rfl rfl)
theorem dX3_writes_28 : decode cX3_writes 28 = .ok (.aload_n 0, 1) := dk_42 (dk_at dksX3_writes_1 4 rfl rfl)
theorem dX3_writes_29 : decode cX3_writes 29 = .ok (.getfield 74, 3) := dk_180 0 74 (dk_at dksX3_writes_1 5 rfl rfl)
theorem dX3_writes_32 : decode cX3_writes 32 = .ok (.sipush 144, 3) := dk_17 0 144 (dk_at dksX3_writes_1 8 rfl rfl)
theorem dX3_writes_35 : decode cX3_writes 35 = .ok (.iload_n 2, 1) := dk_28 (dk_at dksX3_writes_1 11 rfl rfl)
theorem dX3_writes_36 : decode cX3_writes 36 = .ok (.imul, 1) := dk_104 (dk_at dksX3_writes_1 12 rfl rfl)
theorem dX3_writes_37 : decode cX3_writes 37 = .ok (.iload_n 1, 1) := dk_27 (dk_at dksX3_writes_1 13 rfl rfl)
theorem dX3_writes_38 : decode cX3_writes 38 = .ok (.iadd, 1) := dk_96 (dk_at dksX3_writes_1 14 rfl rfl)
theorem dX3_writes_39 : decode cX3_writes 39 = .ok (.dload_n 3, 1) := dk_41 (dk_at dksX3_writes_1 15 rfl rfl)
theorem dX3_writes_40 : decode cX3_writes 40 = .ok (.dastore, 1) := dk_82 (dk_at dksX3_writes_1 16 rfl rfl)
theorem dX3_writes_41 : decode cX3_writes 41 = .ok (.aload_n 0, 1) := dk_42 (dk_at dksX3_writes_1 17 rfl rfl)
theorem dX3_writes_42 : decode cX3_writes 42 = .ok (.getfield 77, 3) := dk_180 0 77 (dk_at dksX3_writes_1 18 rfl rfl)
theorem dX3_writes_45 : decode cX3_writes 45 = .ok (.sipush 144, 3) := dk_17 0 144 (dk_at dksX3_writes_1 21 rfl rfl)
theorem dX3_writes_48 : decode cX3_writes 48 = .ok (.iload_n 2, 1) := dk_28 (dk_at dksX3_writes_2 0 rfl rfl)
theorem dX3_writes_49 : decode cX3_writes 49 = .ok (.imul, 1) := dk_104 (dk_at dksX3_writes_2 1 rfl rfl)
theorem dX3_writes_50 : decode cX3_writes 50 = .ok (.iload_n 1, 1) := dk_27 (dk_at dksX3_writes_2 2 rfl rfl)
theorem dX3_writes_51 : decode cX3_writes 51 = .ok (.iadd, 1) := dk_96 (dk_at dksX3_writes_2 3 rfl rfl)
theorem dX3_writes_52 : decode cX3_writes 52 = .ok (.iconst 1, 1) := dk_4 (dk_at dksX3_writes_2 4 rfl rfl)
theorem dX3_writes_53 : decode cX3_writes 53 = .ok (.bastore, 1) := dk_84 (dk_at dksX3_writes_2 5 rfl rfl)
theorem dX3_writes_54 : decode cX3_writes 54 = .ok (.goto 42, 3) := dk_167 0 42 (dk_at dksX3_writes_2 6 rfl rfl)
theorem dX3_writes_57 : decode cX3_writes 57 = .ok (.aload_n 0, 1) := dk_42 (dk_at dksX3_writes_2 9 rfl rfl)
theorem dX3_writes_58 : decode cX3_writes 58 = .ok (.getfield 16, 3) := dk_180 0 16 (dk_at dksX3_writes_2 10 rfl rfl)
theorem dX3_writes_61 : decode cX3_writes 61 = .ok (.iload_n 1, 1) := dk_27 (dk_at dksX3_writes_2 13 rfl rfl)
theorem dX3_writes_62 : decode cX3_writes 62 = .ok (.dload_n 3, 1) := dk_41 (dk_at dksX3_writes_2 14 rfl rfl)
theorem dX3_writes_63 : decode cX3_writes 63 = .ok (.dastore, 1) := dk_82 (dk_at dksX3_writes_2 15 rfl rfl)
theorem dX3_writes_64 : decode cX3_writes 64 = .ok (.aload_n 0, 1) := dk_42 (dk_at dksX3_writes_2 16 rfl rfl)
theorem dX3_writes_65 : decode cX3_writes 65 = .ok (.getfield 20, 3) := dk_180 0 20 (dk_at dksX3_writes_2 17 rfl rfl)
theorem dX3_writes_68 : decode cX3_writes 68 = .ok (.iload_n 1, 1) := dk_27 (dk_at dksX3_writes_2 20 rfl rfl)
theorem dX3_writes_69 : decode cX3_writes 69 = .ok (.iload 5, 2) := dk_21 5 (dk_at dksX3_writes_2 21 rfl rfl)
theorem dX3_writes_71 : decode cX3_writes 71 = .ok (.iconst 2, 1) := dk_5 (dk_at dksX3_writes_2 23 rfl rfl)
theorem dX3_writes_72 : decode cX3_writes 72 = .ok (.if_icmp .ne 22, 3) := dk_160 0 22 (dk_at dksX3_writes_3 0 rfl rfl)
theorem dX3_writes_75 : decode cX3_writes 75 = .ok (.aload_n 0, 1) := dk_42 (dk_at dksX3_writes_3 3 rfl rfl)
theorem dX3_writes_76 : decode cX3_writes 76 = .ok (.getfield 20, 3) := dk_180 0 20 (dk_at dksX3_writes_3 4 rfl rfl)
theorem dX3_writes_79 : decode cX3_writes 79 = .ok (.iload_n 1, 1) := dk_27 (dk_at dksX3_writes_3 7 rfl rfl)
theorem dX3_writes_80 : decode cX3_writes 80 = .ok (.iaload, 1) := dk_46 (dk_at dksX3_writes_3 8 rfl rfl)
theorem dX3_writes_81 : decode cX3_writes 81 = .ok (.iload_n 2, 1) := dk_28 (dk_at dksX3_writes_3 9 rfl rfl)
theorem dX3_writes_82 : decode cX3_writes 82 = .ok (.if_icmp .le 12, 3) := dk_164 0 12 (dk_at dksX3_writes_3 10 rfl rfl)
theorem dX3_writes_85 : decode cX3_writes 85 = .ok (.aload_n 0, 1) := dk_42 (dk_at dksX3_writes_3 13 rfl rfl)
theorem dX3_writes_86 : decode cX3_writes 86 = .ok (.getfield 20, 3) := dk_180 0 20 (dk_at dksX3_writes_3 14 rfl rfl)
theorem dX3_writes_89 : decode cX3_writes 89 = .ok (.iload_n 1, 1) := dk_27 (dk_at dksX3_writes_3 17 rfl rfl)
theorem dX3_writes_90 : decode cX3_writes 90 = .ok (.iaload, 1) := dk_46 (dk_at dksX3_writes_3 18 rfl rfl)
theorem dX3_writes_91 : decode cX3_writes 91 = .ok (.goto 4, 3) := dk_167 0 4 (dk_at dksX3_writes_3 19 rfl rfl)
theorem dX3_writes_94 : decode cX3_writes 94 = .ok (.iload_n 2, 1) := dk_28 (dk_at dksX3_writes_3 22 rfl rfl)
theorem dX3_writes_95 : decode cX3_writes 95 = .ok (.iastore, 1) := dk_79 (dk_at dksX3_writes_3 23 rfl rfl)
theorem dX3_writes_96 : decode cX3_writes 96 = .ok (.return_, 1) := dk_177 (dk_at dksX3_writes_4 0 rfl rfl)
abbrev cX3_mixed : ByteArray := prog_18_method_107_code
def yX3_mixed : MethodName := ⟨RX3, "mixed", "(IIII)I"⟩
def dkwX3_mixed_1 : List UInt8 := [29, 182, 1, 158, 172]
abbrev dktX3_mixed_1 : List UInt8 := dkwX3_mixed_1 ++ []
def dkwX3_mixed_0 : List UInt8 := [42, 27, 28, 29, 21, 4, 182, 1, 154, 54, 5, 21, 5, 156, 0, 8, 21, 5, 167, 0, 10, 42, 27, 28]
abbrev dktX3_mixed_0 : List UInt8 := dkwX3_mixed_0 ++ dktX3_mixed_1
theorem dksX3_mixed_0 : cX3_mixed.data.toList.drop 0 = dktX3_mixed_0 := by decide +kernel
theorem dksX3_mixed_1 : cX3_mixed.data.toList.drop 24 = dktX3_mixed_1 := dk_seg dksX3_mixed_0 24 rfl rfl
theorem dX3_mixed_0 : decode cX3_mixed 0 = .ok (.aload_n 0, 1) := dk_42 (dk_at dksX3_mixed_0 0 rfl rfl)
theorem dX3_mixed_1 : decode cX3_mixed 1 = .ok (.iload_n 1, 1) := dk_27 (dk_at dksX3_mixed_0 1 rfl rfl)
theorem dX3_mixed_2 : decode cX3_mixed 2 = .ok (.iload_n 2, 1) := dk_28 (dk_at dksX3_mixed_0 2 rfl rfl)
theorem dX3_mixed_3 : decode cX3_mixed 3 = .ok (.iload_n 3, 1) := dk_29 (dk_at dksX3_mixed_0 3 rfl rfl)
theorem dX3_mixed_4 : decode cX3_mixed 4 = .ok (.iload 4, 2) := dk_21 4 (dk_at dksX3_mixed_0 4 rfl rfl)
theorem dX3_mixed_6 : decode cX3_mixed 6 = .ok (.invokevirtual 410, 3) := dk_182 1 154 (dk_at dksX3_mixed_0 6 rfl rfl)
theorem dX3_mixed_9 : decode cX3_mixed 9 = .ok (.istore 5, 2) := dk_54 5 (dk_at dksX3_mixed_0 9 rfl rfl)
theorem dX3_mixed_11 : decode cX3_mixed 11 = .ok (.iload 5, 2) := dk_21 5 (dk_at dksX3_mixed_0 11 rfl rfl)
theorem dX3_mixed_13 : decode cX3_mixed 13 = .ok (.ifCond .ge 8, 3) := dk_156 0 8 (dk_at dksX3_mixed_0 13 rfl rfl)
theorem dX3_mixed_16 : decode cX3_mixed 16 = .ok (.iload 5, 2) := dk_21 5 (dk_at dksX3_mixed_0 16 rfl rfl)
theorem dX3_mixed_18 : decode cX3_mixed 18 = .ok (.goto 10, 3) := dk_167 0 10 (dk_at dksX3_mixed_0 18 rfl rfl)
theorem dX3_mixed_21 : decode cX3_mixed 21 = .ok (.aload_n 0, 1) := dk_42 (dk_at dksX3_mixed_0 21 rfl rfl)
theorem dX3_mixed_22 : decode cX3_mixed 22 = .ok (.iload_n 1, 1) := dk_27 (dk_at dksX3_mixed_0 22 rfl rfl)
theorem dX3_mixed_23 : decode cX3_mixed 23 = .ok (.iload_n 2, 1) := dk_28 (dk_at dksX3_mixed_0 23 rfl rfl)
theorem dX3_mixed_24 : decode cX3_mixed 24 = .ok (.iload_n 3, 1) := dk_29 (dk_at dksX3_mixed_1 0 rfl rfl)
theorem dX3_mixed_25 : decode cX3_mixed 25 = .ok (.invokevirtual 414, 3) := dk_182 1 158 (dk_at dksX3_mixed_1 1 rfl rfl)
theorem dX3_mixed_28 : decode cX3_mixed 28 = .ok (.ireturn, 1) := dk_172 (dk_at dksX3_mixed_1 4 rfl rfl)
abbrev cX3_mayMix : ByteArray := prog_18_method_106_code
def yX3_mayMix : MethodName := ⟨RX3, "mayMix", "(IIII)I"⟩
def dkwX3_mayMix_2 : List UInt8 := [42, 182, 1, 151, 158, 0, 8, 16, 253, 167, 0, 4, 3, 172]
abbrev dktX3_mayMix_2 : List UInt8 := dkwX3_mayMix_2 ++ []
def dkwX3_mayMix_1 : List UInt8 := [184, 0, 114, 153, 0, 13, 21, 4, 3, 4, 184, 0, 114, 154, 0, 6, 16, 254, 172, 21, 4, 154, 0, 15]
abbrev dktX3_mayMix_1 : List UInt8 := dkwX3_mayMix_1 ++ dktX3_mayMix_2
def dkwX3_mayMix_0 : List UInt8 := [27, 4, 7, 184, 0, 114, 153, 0, 32, 28, 3, 5, 184, 0, 114, 153, 0, 23, 29, 3, 16, 63]
abbrev dktX3_mayMix_0 : List UInt8 := dkwX3_mayMix_0 ++ dktX3_mayMix_1
theorem dksX3_mayMix_0 : cX3_mayMix.data.toList.drop 0 = dktX3_mayMix_0 := by decide +kernel
theorem dksX3_mayMix_1 : cX3_mayMix.data.toList.drop 22 = dktX3_mayMix_1 := dk_seg dksX3_mayMix_0 22 rfl rfl
theorem dksX3_mayMix_2 : cX3_mayMix.data.toList.drop 46 = dktX3_mayMix_2 := dk_seg dksX3_mayMix_1 24 rfl rfl
theorem dX3_mayMix_0 : decode cX3_mayMix 0 = .ok (.iload_n 1, 1) := dk_27 (dk_at dksX3_mayMix_0 0 rfl rfl)
theorem dX3_mayMix_1 : decode cX3_mayMix 1 = .ok (.iconst 1, 1) := dk_4 (dk_at dksX3_mayMix_0 1 rfl rfl)
theorem dX3_mayMix_2 : decode cX3_mayMix 2 = .ok (.iconst 4, 1) := dk_7 (dk_at dksX3_mayMix_0 2 rfl rfl)
theorem dX3_mayMix_3 : decode cX3_mayMix 3 = .ok (.invokestatic 114, 3) := dk_184 0 114 (dk_at dksX3_mayMix_0 3 rfl rfl)
theorem dX3_mayMix_6 : decode cX3_mayMix 6 = .ok (.ifCond .eq 32, 3) := dk_153 0 32 (dk_at dksX3_mayMix_0 6 rfl rfl)
theorem dX3_mayMix_9 : decode cX3_mayMix 9 = .ok (.iload_n 2, 1) := dk_28 (dk_at dksX3_mayMix_0 9 rfl rfl)
theorem dX3_mayMix_10 : decode cX3_mayMix 10 = .ok (.iconst 0, 1) := dk_3 (dk_at dksX3_mayMix_0 10 rfl rfl)
theorem dX3_mayMix_11 : decode cX3_mayMix 11 = .ok (.iconst 2, 1) := dk_5 (dk_at dksX3_mayMix_0 11 rfl rfl)
theorem dX3_mayMix_12 : decode cX3_mayMix 12 = .ok (.invokestatic 114, 3) := dk_184 0 114 (dk_at dksX3_mayMix_0 12 rfl rfl)
theorem dX3_mayMix_15 : decode cX3_mayMix 15 = .ok (.ifCond .eq 23, 3) := dk_153 0 23 (dk_at dksX3_mayMix_0 15 rfl rfl)
theorem dX3_mayMix_18 : decode cX3_mayMix 18 = .ok (.iload_n 3, 1) := dk_29 (dk_at dksX3_mayMix_0 18 rfl rfl)
theorem dX3_mayMix_19 : decode cX3_mayMix 19 = .ok (.iconst 0, 1) := dk_3 (dk_at dksX3_mayMix_0 19 rfl rfl)
theorem dX3_mayMix_20 : decode cX3_mayMix 20 = .ok (.bipush 63, 2) := dk_16 63 (dk_at dksX3_mayMix_0 20 rfl rfl)
theorem dX3_mayMix_22 : decode cX3_mayMix 22 = .ok (.invokestatic 114, 3) := dk_184 0 114 (dk_at dksX3_mayMix_1 0 rfl rfl)
theorem dX3_mayMix_25 : decode cX3_mayMix 25 = .ok (.ifCond .eq 13, 3) := dk_153 0 13 (dk_at dksX3_mayMix_1 3 rfl rfl)
theorem dX3_mayMix_28 : decode cX3_mayMix 28 = .ok (.iload 4, 2) := dk_21 4 (dk_at dksX3_mayMix_1 6 rfl rfl)
theorem dX3_mayMix_30 : decode cX3_mayMix 30 = .ok (.iconst 0, 1) := dk_3 (dk_at dksX3_mayMix_1 8 rfl rfl)
theorem dX3_mayMix_31 : decode cX3_mayMix 31 = .ok (.iconst 1, 1) := dk_4 (dk_at dksX3_mayMix_1 9 rfl rfl)
theorem dX3_mayMix_32 : decode cX3_mayMix 32 = .ok (.invokestatic 114, 3) := dk_184 0 114 (dk_at dksX3_mayMix_1 10 rfl rfl)
theorem dX3_mayMix_35 : decode cX3_mayMix 35 = .ok (.ifCond .ne 6, 3) := dk_154 0 6 (dk_at dksX3_mayMix_1 13 rfl rfl)
theorem dX3_mayMix_38 : decode cX3_mayMix 38 = .ok (.bipush (-2), 2) := dk_16 254 (dk_at dksX3_mayMix_1 16 rfl rfl)
theorem dX3_mayMix_40 : decode cX3_mayMix 40 = .ok (.ireturn, 1) := dk_172 (dk_at dksX3_mayMix_1 18 rfl rfl)
theorem dX3_mayMix_41 : decode cX3_mayMix 41 = .ok (.iload 4, 2) := dk_21 4 (dk_at dksX3_mayMix_1 19 rfl rfl)
theorem dX3_mayMix_43 : decode cX3_mayMix 43 = .ok (.ifCond .ne 15, 3) := dk_154 0 15 (dk_at dksX3_mayMix_1 21 rfl rfl)
theorem dX3_mayMix_46 : decode cX3_mayMix 46 = .ok (.aload_n 0, 1) := dk_42 (dk_at dksX3_mayMix_2 0 rfl rfl)
theorem dX3_mayMix_47 : decode cX3_mayMix 47 = .ok (.invokevirtual 407, 3) := dk_182 1 151 (dk_at dksX3_mayMix_2 1 rfl rfl)
theorem dX3_mayMix_50 : decode cX3_mayMix 50 = .ok (.ifCond .le 8, 3) := dk_158 0 8 (dk_at dksX3_mayMix_2 4 rfl rfl)
theorem dX3_mayMix_53 : decode cX3_mayMix 53 = .ok (.bipush (-3), 2) := dk_16 253 (dk_at dksX3_mayMix_2 7 rfl rfl)
theorem dX3_mayMix_55 : decode cX3_mayMix 55 = .ok (.goto 4, 3) := dk_167 0 4 (dk_at dksX3_mayMix_2 9 rfl rfl)
theorem dX3_mayMix_58 : decode cX3_mayMix 58 = .ok (.iconst 0, 1) := dk_3 (dk_at dksX3_mayMix_2 12 rfl rfl)
theorem dX3_mayMix_59 : decode cX3_mayMix 59 = .ok (.ireturn, 1) := dk_172 (dk_at dksX3_mayMix_2 13 rfl rfl)
abbrev cX3_serials : ByteArray := prog_18_method_80_code
def yX3_serials : MethodName := ⟨RX3, "serials", "()I"⟩
def dkwX3_serials_1 : List UInt8 := [3, 96, 60, 132, 2, 1, 167, 255, 230, 27, 172]
abbrev dktX3_serials_1 : List UInt8 := dkwX3_serials_1 ++ []
def dkwX3_serials_0 : List UInt8 := [3, 60, 3, 61, 28, 16, 6, 162, 0, 26, 27, 42, 28, 182, 1, 57, 7, 160, 0, 7, 4, 167, 0, 4]
abbrev dktX3_serials_0 : List UInt8 := dkwX3_serials_0 ++ dktX3_serials_1
theorem dksX3_serials_0 : cX3_serials.data.toList.drop 0 = dktX3_serials_0 := by decide +kernel
theorem dksX3_serials_1 : cX3_serials.data.toList.drop 24 = dktX3_serials_1 := dk_seg dksX3_serials_0 24 rfl rfl
theorem dX3_serials_0 : decode cX3_serials 0 = .ok (.iconst 0, 1) := dk_3 (dk_at dksX3_serials_0 0 rfl rfl)
theorem dX3_serials_1 : decode cX3_serials 1 = .ok (.istore_n 1, 1) := dk_60 (dk_at dksX3_serials_0 1 rfl rfl)
theorem dX3_serials_2 : decode cX3_serials 2 = .ok (.iconst 0, 1) := dk_3 (dk_at dksX3_serials_0 2 rfl rfl)
theorem dX3_serials_3 : decode cX3_serials 3 = .ok (.istore_n 2, 1) := dk_61 (dk_at dksX3_serials_0 3 rfl rfl)
theorem dX3_serials_4 : decode cX3_serials 4 = .ok (.iload_n 2, 1) := dk_28 (dk_at dksX3_serials_0 4 rfl rfl)
theorem dX3_serials_5 : decode cX3_serials 5 = .ok (.bipush 6, 2) := dk_16 6 (dk_at dksX3_serials_0 5 rfl rfl)
theorem dX3_serials_7 : decode cX3_serials 7 = .ok (.if_icmp .ge 26, 3) := dk_162 0 26 (dk_at dksX3_serials_0 7 rfl rfl)
theorem dX3_serials_10 : decode cX3_serials 10 = .ok (.iload_n 1, 1) := dk_27 (dk_at dksX3_serials_0 10 rfl rfl)
theorem dX3_serials_11 : decode cX3_serials 11 = .ok (.aload_n 0, 1) := dk_42 (dk_at dksX3_serials_0 11 rfl rfl)
theorem dX3_serials_12 : decode cX3_serials 12 = .ok (.iload_n 2, 1) := dk_28 (dk_at dksX3_serials_0 12 rfl rfl)
theorem dX3_serials_13 : decode cX3_serials 13 = .ok (.invokevirtual 313, 3) := dk_182 1 57 (dk_at dksX3_serials_0 13 rfl rfl)
theorem dX3_serials_16 : decode cX3_serials 16 = .ok (.iconst 4, 1) := dk_7 (dk_at dksX3_serials_0 16 rfl rfl)
theorem dX3_serials_17 : decode cX3_serials 17 = .ok (.if_icmp .ne 7, 3) := dk_160 0 7 (dk_at dksX3_serials_0 17 rfl rfl)
theorem dX3_serials_20 : decode cX3_serials 20 = .ok (.iconst 1, 1) := dk_4 (dk_at dksX3_serials_0 20 rfl rfl)
theorem dX3_serials_21 : decode cX3_serials 21 = .ok (.goto 4, 3) := dk_167 0 4 (dk_at dksX3_serials_0 21 rfl rfl)
theorem dX3_serials_24 : decode cX3_serials 24 = .ok (.iconst 0, 1) := dk_3 (dk_at dksX3_serials_1 0 rfl rfl)
theorem dX3_serials_25 : decode cX3_serials 25 = .ok (.iadd, 1) := dk_96 (dk_at dksX3_serials_1 1 rfl rfl)
theorem dX3_serials_26 : decode cX3_serials 26 = .ok (.istore_n 1, 1) := dk_60 (dk_at dksX3_serials_1 2 rfl rfl)
theorem dX3_serials_27 : decode cX3_serials 27 = .ok (.iinc 2 1, 3) := dk_132 2 1 (dk_at dksX3_serials_1 3 rfl rfl)
theorem dX3_serials_30 : decode cX3_serials 30 = .ok (.goto (-26), 3) := dk_167 255 230 (dk_at dksX3_serials_1 6 rfl rfl)
theorem dX3_serials_33 : decode cX3_serials 33 = .ok (.iload_n 1, 1) := dk_27 (dk_at dksX3_serials_1 9 rfl rfl)
theorem dX3_serials_34 : decode cX3_serials 34 = .ok (.ireturn, 1) := dk_172 (dk_at dksX3_serials_1 10 rfl rfl)
abbrev cX3_mixes : ByteArray := prog_18_method_105_code
def yX3_mixes : MethodName := ⟨RX3, "mixes", "(III)I"⟩
def dkwX3_mixes_6 : List UInt8 := [112, 54, 4, 42, 27, 28, 182, 1, 145, 54, 5, 167, 255, 153, 42, 182, 1, 148, 42, 180, 1, 121, 172]
abbrev dktX3_mixes_6 : List UInt8 := dkwX3_mixes_6 ++ []
def dkwX3_mixes_5 : List UInt8 := [54, 6, 132, 8, 1, 167, 255, 201, 42, 21, 7, 182, 1, 136, 16, 13, 21, 4, 104, 16, 7, 96, 16, 64]
abbrev dktX3_mixes_5 : List UInt8 := dkwX3_mixes_5 ++ dktX3_mixes_6
def dkwX3_mixes_4 : List UInt8 := [21, 9, 167, 0, 5, 21, 7, 54, 7, 21, 6, 21, 9, 2, 160, 0, 7, 3, 167, 0, 4, 4, 100]
abbrev dktX3_mixes_4 : List UInt8 := dkwX3_mixes_4 ++ dktX3_mixes_5
def dkwX3_mixes_3 : List UInt8 := [162, 0, 55, 42, 21, 8, 27, 28, 182, 1, 142, 54, 9, 21, 9, 2, 159, 0, 13, 21, 6, 154, 0, 8]
abbrev dktX3_mixes_3 : List UInt8 := dkwX3_mixes_3 ++ dktX3_mixes_4
def dkwX3_mixes_2 : List UInt8 := [54, 5, 21, 5, 158, 0, 104, 21, 4, 21, 5, 112, 54, 6, 2, 54, 7, 3, 54, 8, 21, 8, 27]
abbrev dktX3_mixes_2 : List UInt8 := dkwX3_mixes_2 ++ dktX3_mixes_3
def dkwX3_mixes_1 : List UInt8 := [132, 4, 1, 167, 255, 233, 42, 4, 181, 1, 103, 42, 182, 1, 133, 29, 54, 4, 42, 27, 28, 182, 1, 145]
abbrev dktX3_mixes_1 : List UInt8 := dkwX3_mixes_1 ++ dktX3_mixes_2
def dkwX3_mixes_0 : List UInt8 := [3, 54, 4, 21, 4, 16, 6, 162, 0, 22, 42, 180, 0, 68, 21, 4, 42, 21, 4, 182, 1, 57, 79]
abbrev dktX3_mixes_0 : List UInt8 := dkwX3_mixes_0 ++ dktX3_mixes_1
theorem dksX3_mixes_0 : cX3_mixes.data.toList.drop 0 = dktX3_mixes_0 := by decide +kernel
theorem dksX3_mixes_1 : cX3_mixes.data.toList.drop 23 = dktX3_mixes_1 := dk_seg dksX3_mixes_0 23 rfl rfl
theorem dksX3_mixes_2 : cX3_mixes.data.toList.drop 47 = dktX3_mixes_2 := dk_seg dksX3_mixes_1 24 rfl rfl
theorem dksX3_mixes_3 : cX3_mixes.data.toList.drop 70 = dktX3_mixes_3 := dk_seg dksX3_mixes_2 23 rfl rfl
theorem dksX3_mixes_4 : cX3_mixes.data.toList.drop 94 = dktX3_mixes_4 := dk_seg dksX3_mixes_3 24 rfl rfl
theorem dksX3_mixes_5 : cX3_mixes.data.toList.drop 117 = dktX3_mixes_5 := dk_seg dksX3_mixes_4 23 rfl rfl
theorem dksX3_mixes_6 : cX3_mixes.data.toList.drop 141 = dktX3_mixes_6 := dk_seg dksX3_mixes_5 24 rfl rfl
theorem dX3_mixes_0 : decode cX3_mixes 0 = .ok (.iconst 0, 1) := dk_3 (dk_at dksX3_mixes_0 0 rfl rfl)
theorem dX3_mixes_1 : decode cX3_mixes 1 = .ok (.istore 4, 2) := dk_54 4 (dk_at dksX3_mixes_0 1 rfl rfl)
theorem dX3_mixes_3 : decode cX3_mixes 3 = .ok (.iload 4, 2) := dk_21 4 (dk_at dksX3_mixes_0 3 rfl rfl)
theorem dX3_mixes_5 : decode cX3_mixes 5 = .ok (.bipush 6, 2) := dk_16 6 (dk_at dksX3_mixes_0 5 rfl rfl)
theorem dX3_mixes_7 : decode cX3_mixes 7 = .ok (.if_icmp .ge 22, 3) := dk_162 0 22 (dk_at dksX3_mixes_0 7 rfl rfl)
theorem dX3_mixes_10 : decode cX3_mixes 10 = .ok (.aload_n 0, 1) := dk_42 (dk_at dksX3_mixes_0 10 rfl rfl)
theorem dX3_mixes_11 : decode cX3_mixes 11 = .ok (.getfield 68, 3) := dk_180 0 68 (dk_at dksX3_mixes_0 11 rfl rfl)
theorem dX3_mixes_14 : decode cX3_mixes 14 = .ok (.iload 4, 2) := dk_21 4 (dk_at dksX3_mixes_0 14 rfl rfl)
theorem dX3_mixes_16 : decode cX3_mixes 16 = .ok (.aload_n 0, 1) := dk_42 (dk_at dksX3_mixes_0 16 rfl rfl)
theorem dX3_mixes_17 : decode cX3_mixes 17 = .ok (.iload 4, 2) := dk_21 4 (dk_at dksX3_mixes_0 17 rfl rfl)
theorem dX3_mixes_19 : decode cX3_mixes 19 = .ok (.invokevirtual 313, 3) := dk_182 1 57 (dk_at dksX3_mixes_0 19 rfl rfl)
theorem dX3_mixes_22 : decode cX3_mixes 22 = .ok (.iastore, 1) := dk_79 (dk_at dksX3_mixes_0 22 rfl rfl)
theorem dX3_mixes_23 : decode cX3_mixes 23 = .ok (.iinc 4 1, 3) := dk_132 4 1 (dk_at dksX3_mixes_1 0 rfl rfl)
theorem dX3_mixes_26 : decode cX3_mixes 26 = .ok (.goto (-23), 3) := dk_167 255 233 (dk_at dksX3_mixes_1 3 rfl rfl)
theorem dX3_mixes_29 : decode cX3_mixes 29 = .ok (.aload_n 0, 1) := dk_42 (dk_at dksX3_mixes_1 6 rfl rfl)
theorem dX3_mixes_30 : decode cX3_mixes 30 = .ok (.iconst 1, 1) := dk_4 (dk_at dksX3_mixes_1 7 rfl rfl)
theorem dX3_mixes_31 : decode cX3_mixes 31 = .ok (.putfield 359, 3) := dk_181 1 103 (dk_at dksX3_mixes_1 8 rfl rfl)
theorem dX3_mixes_34 : decode cX3_mixes 34 = .ok (.aload_n 0, 1) := dk_42 (dk_at dksX3_mixes_1 11 rfl rfl)
theorem dX3_mixes_35 : decode cX3_mixes 35 = .ok (.invokevirtual 389, 3) := dk_182 1 133 (dk_at dksX3_mixes_1 12 rfl rfl)
theorem dX3_mixes_38 : decode cX3_mixes 38 = .ok (.iload_n 3, 1) := dk_29 (dk_at dksX3_mixes_1 15 rfl rfl)
theorem dX3_mixes_39 : decode cX3_mixes 39 = .ok (.istore 4, 2) := dk_54 4 (dk_at dksX3_mixes_1 16 rfl rfl)
theorem dX3_mixes_41 : decode cX3_mixes 41 = .ok (.aload_n 0, 1) := dk_42 (dk_at dksX3_mixes_1 18 rfl rfl)
theorem dX3_mixes_42 : decode cX3_mixes 42 = .ok (.iload_n 1, 1) := dk_27 (dk_at dksX3_mixes_1 19 rfl rfl)
theorem dX3_mixes_43 : decode cX3_mixes 43 = .ok (.iload_n 2, 1) := dk_28 (dk_at dksX3_mixes_1 20 rfl rfl)
theorem dX3_mixes_44 : decode cX3_mixes 44 = .ok (.invokevirtual 401, 3) := dk_182 1 145 (dk_at dksX3_mixes_1 21 rfl rfl)
theorem dX3_mixes_47 : decode cX3_mixes 47 = .ok (.istore 5, 2) := dk_54 5 (dk_at dksX3_mixes_2 0 rfl rfl)
theorem dX3_mixes_49 : decode cX3_mixes 49 = .ok (.iload 5, 2) := dk_21 5 (dk_at dksX3_mixes_2 2 rfl rfl)
theorem dX3_mixes_51 : decode cX3_mixes 51 = .ok (.ifCond .le 104, 3) := dk_158 0 104 (dk_at dksX3_mixes_2 4 rfl rfl)
theorem dX3_mixes_54 : decode cX3_mixes 54 = .ok (.iload 4, 2) := dk_21 4 (dk_at dksX3_mixes_2 7 rfl rfl)
theorem dX3_mixes_56 : decode cX3_mixes 56 = .ok (.iload 5, 2) := dk_21 5 (dk_at dksX3_mixes_2 9 rfl rfl)
theorem dX3_mixes_58 : decode cX3_mixes 58 = .ok (.irem, 1) := dk_112 (dk_at dksX3_mixes_2 11 rfl rfl)
theorem dX3_mixes_59 : decode cX3_mixes 59 = .ok (.istore 6, 2) := dk_54 6 (dk_at dksX3_mixes_2 12 rfl rfl)
theorem dX3_mixes_61 : decode cX3_mixes 61 = .ok (.iconst (-1), 1) := dk_2 (dk_at dksX3_mixes_2 14 rfl rfl)
theorem dX3_mixes_62 : decode cX3_mixes 62 = .ok (.istore 7, 2) := dk_54 7 (dk_at dksX3_mixes_2 15 rfl rfl)
theorem dX3_mixes_64 : decode cX3_mixes 64 = .ok (.iconst 0, 1) := dk_3 (dk_at dksX3_mixes_2 17 rfl rfl)
theorem dX3_mixes_65 : decode cX3_mixes 65 = .ok (.istore 8, 2) := dk_54 8 (dk_at dksX3_mixes_2 18 rfl rfl)
theorem dX3_mixes_67 : decode cX3_mixes 67 = .ok (.iload 8, 2) := dk_21 8 (dk_at dksX3_mixes_2 20 rfl rfl)
theorem dX3_mixes_69 : decode cX3_mixes 69 = .ok (.iload_n 1, 1) := dk_27 (dk_at dksX3_mixes_2 22 rfl rfl)
theorem dX3_mixes_70 : decode cX3_mixes 70 = .ok (.if_icmp .ge 55, 3) := dk_162 0 55 (dk_at dksX3_mixes_3 0 rfl rfl)
theorem dX3_mixes_73 : decode cX3_mixes 73 = .ok (.aload_n 0, 1) := dk_42 (dk_at dksX3_mixes_3 3 rfl rfl)
theorem dX3_mixes_74 : decode cX3_mixes 74 = .ok (.iload 8, 2) := dk_21 8 (dk_at dksX3_mixes_3 4 rfl rfl)
theorem dX3_mixes_76 : decode cX3_mixes 76 = .ok (.iload_n 1, 1) := dk_27 (dk_at dksX3_mixes_3 6 rfl rfl)
theorem dX3_mixes_77 : decode cX3_mixes 77 = .ok (.iload_n 2, 1) := dk_28 (dk_at dksX3_mixes_3 7 rfl rfl)
theorem dX3_mixes_78 : decode cX3_mixes 78 = .ok (.invokevirtual 398, 3) := dk_182 1 142 (dk_at dksX3_mixes_3 8 rfl rfl)
theorem dX3_mixes_81 : decode cX3_mixes 81 = .ok (.istore 9, 2) := dk_54 9 (dk_at dksX3_mixes_3 11 rfl rfl)
theorem dX3_mixes_83 : decode cX3_mixes 83 = .ok (.iload 9, 2) := dk_21 9 (dk_at dksX3_mixes_3 13 rfl rfl)
theorem dX3_mixes_85 : decode cX3_mixes 85 = .ok (.iconst (-1), 1) := dk_2 (dk_at dksX3_mixes_3 15 rfl rfl)
theorem dX3_mixes_86 : decode cX3_mixes 86 = .ok (.if_icmp .eq 13, 3) := dk_159 0 13 (dk_at dksX3_mixes_3 16 rfl rfl)
theorem dX3_mixes_89 : decode cX3_mixes 89 = .ok (.iload 6, 2) := dk_21 6 (dk_at dksX3_mixes_3 19 rfl rfl)
theorem dX3_mixes_91 : decode cX3_mixes 91 = .ok (.ifCond .ne 8, 3) := dk_154 0 8 (dk_at dksX3_mixes_3 21 rfl rfl)
theorem dX3_mixes_94 : decode cX3_mixes 94 = .ok (.iload 9, 2) := dk_21 9 (dk_at dksX3_mixes_4 0 rfl rfl)
theorem dX3_mixes_96 : decode cX3_mixes 96 = .ok (.goto 5, 3) := dk_167 0 5 (dk_at dksX3_mixes_4 2 rfl rfl)
theorem dX3_mixes_99 : decode cX3_mixes 99 = .ok (.iload 7, 2) := dk_21 7 (dk_at dksX3_mixes_4 5 rfl rfl)
theorem dX3_mixes_101 : decode cX3_mixes 101 = .ok (.istore 7, 2) := dk_54 7 (dk_at dksX3_mixes_4 7 rfl rfl)
theorem dX3_mixes_103 : decode cX3_mixes 103 = .ok (.iload 6, 2) := dk_21 6 (dk_at dksX3_mixes_4 9 rfl rfl)
theorem dX3_mixes_105 : decode cX3_mixes 105 = .ok (.iload 9, 2) := dk_21 9 (dk_at dksX3_mixes_4 11 rfl rfl)
theorem dX3_mixes_107 : decode cX3_mixes 107 = .ok (.iconst (-1), 1) := dk_2 (dk_at dksX3_mixes_4 13 rfl rfl)
theorem dX3_mixes_108 : decode cX3_mixes 108 = .ok (.if_icmp .ne 7, 3) := dk_160 0 7 (dk_at dksX3_mixes_4 14 rfl rfl)
theorem dX3_mixes_111 : decode cX3_mixes 111 = .ok (.iconst 0, 1) := dk_3 (dk_at dksX3_mixes_4 17 rfl rfl)
theorem dX3_mixes_112 : decode cX3_mixes 112 = .ok (.goto 4, 3) := dk_167 0 4 (dk_at dksX3_mixes_4 18 rfl rfl)
theorem dX3_mixes_115 : decode cX3_mixes 115 = .ok (.iconst 1, 1) := dk_4 (dk_at dksX3_mixes_4 21 rfl rfl)
theorem dX3_mixes_116 : decode cX3_mixes 116 = .ok (.isub, 1) := dk_100 (dk_at dksX3_mixes_4 22 rfl rfl)
theorem dX3_mixes_117 : decode cX3_mixes 117 = .ok (.istore 6, 2) := dk_54 6 (dk_at dksX3_mixes_5 0 rfl rfl)
theorem dX3_mixes_119 : decode cX3_mixes 119 = .ok (.iinc 8 1, 3) := dk_132 8 1 (dk_at dksX3_mixes_5 2 rfl rfl)
theorem dX3_mixes_122 : decode cX3_mixes 122 = .ok (.goto (-55), 3) := dk_167 255 201 (dk_at dksX3_mixes_5 5 rfl rfl)
theorem dX3_mixes_125 : decode cX3_mixes 125 = .ok (.aload_n 0, 1) := dk_42 (dk_at dksX3_mixes_5 8 rfl rfl)
theorem dX3_mixes_126 : decode cX3_mixes 126 = .ok (.iload 7, 2) := dk_21 7 (dk_at dksX3_mixes_5 9 rfl rfl)
theorem dX3_mixes_128 : decode cX3_mixes 128 = .ok (.invokevirtual 392, 3) := dk_182 1 136 (dk_at dksX3_mixes_5 11 rfl rfl)
theorem dX3_mixes_131 : decode cX3_mixes 131 = .ok (.bipush 13, 2) := dk_16 13 (dk_at dksX3_mixes_5 14 rfl rfl)
theorem dX3_mixes_133 : decode cX3_mixes 133 = .ok (.iload 4, 2) := dk_21 4 (dk_at dksX3_mixes_5 16 rfl rfl)
theorem dX3_mixes_135 : decode cX3_mixes 135 = .ok (.imul, 1) := dk_104 (dk_at dksX3_mixes_5 18 rfl rfl)
theorem dX3_mixes_136 : decode cX3_mixes 136 = .ok (.bipush 7, 2) := dk_16 7 (dk_at dksX3_mixes_5 19 rfl rfl)
theorem dX3_mixes_138 : decode cX3_mixes 138 = .ok (.iadd, 1) := dk_96 (dk_at dksX3_mixes_5 21 rfl rfl)
theorem dX3_mixes_139 : decode cX3_mixes 139 = .ok (.bipush 64, 2) := dk_16 64 (dk_at dksX3_mixes_5 22 rfl rfl)
theorem dX3_mixes_141 : decode cX3_mixes 141 = .ok (.irem, 1) := dk_112 (dk_at dksX3_mixes_6 0 rfl rfl)
theorem dX3_mixes_142 : decode cX3_mixes 142 = .ok (.istore 4, 2) := dk_54 4 (dk_at dksX3_mixes_6 1 rfl rfl)
theorem dX3_mixes_144 : decode cX3_mixes 144 = .ok (.aload_n 0, 1) := dk_42 (dk_at dksX3_mixes_6 3 rfl rfl)
theorem dX3_mixes_145 : decode cX3_mixes 145 = .ok (.iload_n 1, 1) := dk_27 (dk_at dksX3_mixes_6 4 rfl rfl)
theorem dX3_mixes_146 : decode cX3_mixes 146 = .ok (.iload_n 2, 1) := dk_28 (dk_at dksX3_mixes_6 5 rfl rfl)
theorem dX3_mixes_147 : decode cX3_mixes 147 = .ok (.invokevirtual 401, 3) := dk_182 1 145 (dk_at dksX3_mixes_6 6 rfl rfl)
theorem dX3_mixes_150 : decode cX3_mixes 150 = .ok (.istore 5, 2) := dk_54 5 (dk_at dksX3_mixes_6 9 rfl rfl)
theorem dX3_mixes_152 : decode cX3_mixes 152 = .ok (.goto (-103), 3) := dk_167 255 153 (dk_at dksX3_mixes_6 11 rfl rfl)
theorem dX3_mixes_155 : decode cX3_mixes 155 = .ok (.aload_n 0, 1) := dk_42 (dk_at dksX3_mixes_6 14 rfl rfl)
theorem dX3_mixes_156 : decode cX3_mixes 156 = .ok (.invokevirtual 404, 3) := dk_182 1 148 (dk_at dksX3_mixes_6 15 rfl rfl)
theorem dX3_mixes_159 : decode cX3_mixes 159 = .ok (.aload_n 0, 1) := dk_42 (dk_at dksX3_mixes_6 18 rfl rfl)
theorem dX3_mixes_160 : decode cX3_mixes 160 = .ok (.getfield 377, 3) := dk_180 1 121 (dk_at dksX3_mixes_6 19 rfl rfl)
theorem dX3_mixes_163 : decode cX3_mixes 163 = .ok (.ireturn, 1) := dk_172 (dk_at dksX3_mixes_6 22 rfl rfl)
abbrev cX3_left : ByteArray := prog_18_method_103_code
def yX3_left : MethodName := ⟨RX3, "left", "(II)I"⟩
def dkwX3_left_1 : List UInt8 := [3, 167, 0, 4, 4, 96, 62, 132, 4, 1, 167, 255, 227, 29, 172]
abbrev dktX3_left_1 : List UInt8 := dkwX3_left_1 ++ []
def dkwX3_left_0 : List UInt8 := [3, 62, 3, 54, 4, 21, 4, 27, 162, 0, 29, 29, 42, 21, 4, 27, 28, 182, 1, 142, 2, 160, 0, 7]
abbrev dktX3_left_0 : List UInt8 := dkwX3_left_0 ++ dktX3_left_1
theorem dksX3_left_0 : cX3_left.data.toList.drop 0 = dktX3_left_0 := by decide +kernel
theorem dksX3_left_1 : cX3_left.data.toList.drop 24 = dktX3_left_1 := dk_seg dksX3_left_0 24 rfl rfl
theorem dX3_left_0 : decode cX3_left 0 = .ok (.iconst 0, 1) := dk_3 (dk_at dksX3_left_0 0 rfl rfl)
theorem dX3_left_1 : decode cX3_left 1 = .ok (.istore_n 3, 1) := dk_62 (dk_at dksX3_left_0 1 rfl rfl)
theorem dX3_left_2 : decode cX3_left 2 = .ok (.iconst 0, 1) := dk_3 (dk_at dksX3_left_0 2 rfl rfl)
theorem dX3_left_3 : decode cX3_left 3 = .ok (.istore 4, 2) := dk_54 4 (dk_at dksX3_left_0 3 rfl rfl)
theorem dX3_left_5 : decode cX3_left 5 = .ok (.iload 4, 2) := dk_21 4 (dk_at dksX3_left_0 5 rfl rfl)
theorem dX3_left_7 : decode cX3_left 7 = .ok (.iload_n 1, 1) := dk_27 (dk_at dksX3_left_0 7 rfl rfl)
theorem dX3_left_8 : decode cX3_left 8 = .ok (.if_icmp .ge 29, 3) := dk_162 0 29 (dk_at dksX3_left_0 8 rfl rfl)
theorem dX3_left_11 : decode cX3_left 11 = .ok (.iload_n 3, 1) := dk_29 (dk_at dksX3_left_0 11 rfl rfl)
theorem dX3_left_12 : decode cX3_left 12 = .ok (.aload_n 0, 1) := dk_42 (dk_at dksX3_left_0 12 rfl rfl)
theorem dX3_left_13 : decode cX3_left 13 = .ok (.iload 4, 2) := dk_21 4 (dk_at dksX3_left_0 13 rfl rfl)
theorem dX3_left_15 : decode cX3_left 15 = .ok (.iload_n 1, 1) := dk_27 (dk_at dksX3_left_0 15 rfl rfl)
theorem dX3_left_16 : decode cX3_left 16 = .ok (.iload_n 2, 1) := dk_28 (dk_at dksX3_left_0 16 rfl rfl)
theorem dX3_left_17 : decode cX3_left 17 = .ok (.invokevirtual 398, 3) := dk_182 1 142 (dk_at dksX3_left_0 17 rfl rfl)
theorem dX3_left_20 : decode cX3_left 20 = .ok (.iconst (-1), 1) := dk_2 (dk_at dksX3_left_0 20 rfl rfl)
theorem dX3_left_21 : decode cX3_left 21 = .ok (.if_icmp .ne 7, 3) := dk_160 0 7 (dk_at dksX3_left_0 21 rfl rfl)
theorem dX3_left_24 : decode cX3_left 24 = .ok (.iconst 0, 1) := dk_3 (dk_at dksX3_left_1 0 rfl rfl)
theorem dX3_left_25 : decode cX3_left 25 = .ok (.goto 4, 3) := dk_167 0 4 (dk_at dksX3_left_1 1 rfl rfl)
theorem dX3_left_28 : decode cX3_left 28 = .ok (.iconst 1, 1) := dk_4 (dk_at dksX3_left_1 4 rfl rfl)
theorem dX3_left_29 : decode cX3_left 29 = .ok (.iadd, 1) := dk_96 (dk_at dksX3_left_1 5 rfl rfl)
theorem dX3_left_30 : decode cX3_left 30 = .ok (.istore_n 3, 1) := dk_62 (dk_at dksX3_left_1 6 rfl rfl)
theorem dX3_left_31 : decode cX3_left 31 = .ok (.iinc 4 1, 3) := dk_132 4 1 (dk_at dksX3_left_1 7 rfl rfl)
theorem dX3_left_34 : decode cX3_left 34 = .ok (.goto (-29), 3) := dk_167 255 227 (dk_at dksX3_left_1 10 rfl rfl)
theorem dX3_left_37 : decode cX3_left 37 = .ok (.iload_n 3, 1) := dk_29 (dk_at dksX3_left_1 13 rfl rfl)
theorem dX3_left_38 : decode cX3_left 38 = .ok (.ireturn, 1) := dk_172 (dk_at dksX3_left_1 14 rfl rfl)
abbrev cX3_turnOf : ByteArray := prog_18_method_102_code
def yX3_turnOf : MethodName := ⟨RX3, "turnOf", "(III)I"⟩
def dkwX3_turnOf_4 : List UInt8 := [46, 2, 159, 0, 8, 21, 7, 167, 0, 5, 21, 5, 54, 5, 132, 6, 1, 167, 255, 161, 21, 5, 172]
abbrev dktX3_turnOf_4 : List UInt8 := dkwX3_turnOf_4 ++ []
def dkwX3_turnOf_3 : List UInt8 := [28, 112, 27, 160, 0, 7, 4, 167, 0, 4, 3, 54, 8, 21, 8, 153, 0, 19, 42, 180, 0, 87, 21, 7]
abbrev dktX3_turnOf_3 : List UInt8 := dkwX3_turnOf_3 ++ dktX3_turnOf_4
def dkwX3_turnOf_2 : List UInt8 := [29, 4, 160, 0, 20, 21, 7, 21, 4, 108, 27, 160, 0, 7, 4, 167, 0, 20, 3, 167, 0, 16, 21, 7]
abbrev dktX3_turnOf_2 : List UInt8 := dkwX3_turnOf_2 ++ dktX3_turnOf_3
def dkwX3_turnOf_1 : List UInt8 := [162, 0, 92, 29, 5, 160, 0, 8, 21, 6, 167, 0, 12, 42, 180, 0, 154, 4, 100, 21, 6, 100, 54, 7]
abbrev dktX3_turnOf_1 : List UInt8 := dkwX3_turnOf_1 ++ dktX3_turnOf_2
def dkwX3_turnOf_0 : List UInt8 := [42, 180, 0, 154, 28, 96, 4, 100, 28, 108, 54, 4, 2, 54, 5, 3, 54, 6, 21, 6, 42, 180, 0, 154]
abbrev dktX3_turnOf_0 : List UInt8 := dkwX3_turnOf_0 ++ dktX3_turnOf_1
theorem dksX3_turnOf_0 : cX3_turnOf.data.toList.drop 0 = dktX3_turnOf_0 := by decide +kernel
theorem dksX3_turnOf_1 : cX3_turnOf.data.toList.drop 24 = dktX3_turnOf_1 := dk_seg dksX3_turnOf_0 24 rfl rfl
theorem dksX3_turnOf_2 : cX3_turnOf.data.toList.drop 48 = dktX3_turnOf_2 := dk_seg dksX3_turnOf_1 24 rfl rfl
theorem dksX3_turnOf_3 : cX3_turnOf.data.toList.drop 72 = dktX3_turnOf_3 := dk_seg dksX3_turnOf_2 24 rfl rfl
theorem dksX3_turnOf_4 : cX3_turnOf.data.toList.drop 96 = dktX3_turnOf_4 := dk_seg dksX3_turnOf_3 24 rfl rfl
theorem dX3_turnOf_0 : decode cX3_turnOf 0 = .ok (.aload_n 0, 1) := dk_42 (dk_at dksX3_turnOf_0 0 rfl rfl)
theorem dX3_turnOf_1 : decode cX3_turnOf 1 = .ok (.getfield 154, 3) := dk_180 0 154 (dk_at dksX3_turnOf_0 1 rfl rfl)
theorem dX3_turnOf_4 : decode cX3_turnOf 4 = .ok (.iload_n 2, 1) := dk_28 (dk_at dksX3_turnOf_0 4 rfl rfl)
theorem dX3_turnOf_5 : decode cX3_turnOf 5 = .ok (.iadd, 1) := dk_96 (dk_at dksX3_turnOf_0 5 rfl rfl)
theorem dX3_turnOf_6 : decode cX3_turnOf 6 = .ok (.iconst 1, 1) := dk_4 (dk_at dksX3_turnOf_0 6 rfl rfl)
theorem dX3_turnOf_7 : decode cX3_turnOf 7 = .ok (.isub, 1) := dk_100 (dk_at dksX3_turnOf_0 7 rfl rfl)
theorem dX3_turnOf_8 : decode cX3_turnOf 8 = .ok (.iload_n 2, 1) := dk_28 (dk_at dksX3_turnOf_0 8 rfl rfl)
theorem dX3_turnOf_9 : decode cX3_turnOf 9 = .ok (.idiv, 1) := dk_108 (dk_at dksX3_turnOf_0 9 rfl rfl)
theorem dX3_turnOf_10 : decode cX3_turnOf 10 = .ok (.istore 4, 2) := dk_54 4 (dk_at dksX3_turnOf_0 10 rfl rfl)
theorem dX3_turnOf_12 : decode cX3_turnOf 12 = .ok (.iconst (-1), 1) := dk_2 (dk_at dksX3_turnOf_0 12 rfl rfl)
theorem dX3_turnOf_13 : decode cX3_turnOf 13 = .ok (.istore 5, 2) := dk_54 5 (dk_at dksX3_turnOf_0 13 rfl rfl)
theorem dX3_turnOf_15 : decode cX3_turnOf 15 = .ok (.iconst 0, 1) := dk_3 (dk_at dksX3_turnOf_0 15 rfl rfl)
theorem dX3_turnOf_16 : decode cX3_turnOf 16 = .ok (.istore 6, 2) := dk_54 6 (dk_at dksX3_turnOf_0 16 rfl rfl)
theorem dX3_turnOf_18 : decode cX3_turnOf 18 = .ok (.iload 6, 2) := dk_21 6 (dk_at dksX3_turnOf_0 18 rfl rfl)
theorem dX3_turnOf_20 : decode cX3_turnOf 20 = .ok (.aload_n 0, 1) := dk_42 (dk_at dksX3_turnOf_0 20 rfl rfl)
theorem dX3_turnOf_21 : decode cX3_turnOf 21 = .ok (.getfield 154, 3) := dk_180 0 154 (dk_at dksX3_turnOf_0 21 rfl rfl)
theorem dX3_turnOf_24 : decode cX3_turnOf 24 = .ok (.if_icmp .ge 92, 3) := dk_162 0 92 (dk_at dksX3_turnOf_1 0 rfl rfl)
theorem dX3_turnOf_27 : decode cX3_turnOf 27 = .ok (.iload_n 3, 1) := dk_29 (dk_at dksX3_turnOf_1 3 rfl rfl)
theorem dX3_turnOf_28 : decode cX3_turnOf 28 = .ok (.iconst 2, 1) := dk_5 (dk_at dksX3_turnOf_1 4 rfl rfl)
theorem dX3_turnOf_29 : decode cX3_turnOf 29 = .ok (.if_icmp .ne 8, 3) := dk_160 0 8 (dk_at dksX3_turnOf_1 5 rfl rfl)
theorem dX3_turnOf_32 : decode cX3_turnOf 32 = .ok (.iload 6, 2) := dk_21 6 (dk_at dksX3_turnOf_1 8 rfl rfl)
theorem dX3_turnOf_34 : decode cX3_turnOf 34 = .ok (.goto 12, 3) := dk_167 0 12 (dk_at dksX3_turnOf_1 10 rfl rfl)
theorem dX3_turnOf_37 : decode cX3_turnOf 37 = .ok (.aload_n 0, 1) := dk_42 (dk_at dksX3_turnOf_1 13 rfl rfl)
theorem dX3_turnOf_38 : decode cX3_turnOf 38 = .ok (.getfield 154, 3) := dk_180 0 154 (dk_at dksX3_turnOf_1 14 rfl rfl)
theorem dX3_turnOf_41 : decode cX3_turnOf 41 = .ok (.iconst 1, 1) := dk_4 (dk_at dksX3_turnOf_1 17 rfl rfl)
theorem dX3_turnOf_42 : decode cX3_turnOf 42 = .ok (.isub, 1) := dk_100 (dk_at dksX3_turnOf_1 18 rfl rfl)
theorem dX3_turnOf_43 : decode cX3_turnOf 43 = .ok (.iload 6, 2) := dk_21 6 (dk_at dksX3_turnOf_1 19 rfl rfl)
theorem dX3_turnOf_45 : decode cX3_turnOf 45 = .ok (.isub, 1) := dk_100 (dk_at dksX3_turnOf_1 21 rfl rfl)
theorem dX3_turnOf_46 : decode cX3_turnOf 46 = .ok (.istore 7, 2) := dk_54 7 (dk_at dksX3_turnOf_1 22 rfl rfl)
theorem dX3_turnOf_48 : decode cX3_turnOf 48 = .ok (.iload_n 3, 1) := dk_29 (dk_at dksX3_turnOf_2 0 rfl rfl)
theorem dX3_turnOf_49 : decode cX3_turnOf 49 = .ok (.iconst 1, 1) := dk_4 (dk_at dksX3_turnOf_2 1 rfl rfl)
theorem dX3_turnOf_50 : decode cX3_turnOf 50 = .ok (.if_icmp .ne 20, 3) := dk_160 0 20 (dk_at dksX3_turnOf_2 2 rfl rfl)
theorem dX3_turnOf_53 : decode cX3_turnOf 53 = .ok (.iload 7, 2) := dk_21 7 (dk_at dksX3_turnOf_2 5 rfl rfl)
theorem dX3_turnOf_55 : decode cX3_turnOf 55 = .ok (.iload 4, 2) := dk_21 4 (dk_at dksX3_turnOf_2 7 rfl rfl)
theorem dX3_turnOf_57 : decode cX3_turnOf 57 = .ok (.idiv, 1) := dk_108 (dk_at dksX3_turnOf_2 9 rfl rfl)
theorem dX3_turnOf_58 : decode cX3_turnOf 58 = .ok (.iload_n 1, 1) := dk_27 (dk_at dksX3_turnOf_2 10 rfl rfl)
theorem dX3_turnOf_59 : decode cX3_turnOf 59 = .ok (.if_icmp .ne 7, 3) := dk_160 0 7 (dk_at dksX3_turnOf_2 11 rfl rfl)
theorem dX3_turnOf_62 : decode cX3_turnOf 62 = .ok (.iconst 1, 1) := dk_4 (dk_at dksX3_turnOf_2 14 rfl rfl)
theorem dX3_turnOf_63 : decode cX3_turnOf 63 = .ok (.goto 20, 3) := dk_167 0 20 (dk_at dksX3_turnOf_2 15 rfl rfl)
theorem dX3_turnOf_66 : decode cX3_turnOf 66 = .ok (.iconst 0, 1) := dk_3 (dk_at dksX3_turnOf_2 18 rfl rfl)
theorem dX3_turnOf_67 : decode cX3_turnOf 67 = .ok (.goto 16, 3) := dk_167 0 16 (dk_at dksX3_turnOf_2 19 rfl rfl)
theorem dX3_turnOf_70 : decode cX3_turnOf 70 = .ok (.iload 7, 2) := dk_21 7 (dk_at dksX3_turnOf_2 22 rfl rfl)
theorem dX3_turnOf_72 : decode cX3_turnOf 72 = .ok (.iload_n 2, 1) := dk_28 (dk_at dksX3_turnOf_3 0 rfl rfl)
theorem dX3_turnOf_73 : decode cX3_turnOf 73 = .ok (.irem, 1) := dk_112 (dk_at dksX3_turnOf_3 1 rfl rfl)
theorem dX3_turnOf_74 : decode cX3_turnOf 74 = .ok (.iload_n 1, 1) := dk_27 (dk_at dksX3_turnOf_3 2 rfl rfl)
theorem dX3_turnOf_75 : decode cX3_turnOf 75 = .ok (.if_icmp .ne 7, 3) := dk_160 0 7 (dk_at dksX3_turnOf_3 3 rfl rfl)
theorem dX3_turnOf_78 : decode cX3_turnOf 78 = .ok (.iconst 1, 1) := dk_4 (dk_at dksX3_turnOf_3 6 rfl rfl)
theorem dX3_turnOf_79 : decode cX3_turnOf 79 = .ok (.goto 4, 3) := dk_167 0 4 (dk_at dksX3_turnOf_3 7 rfl rfl)
theorem dX3_turnOf_82 : decode cX3_turnOf 82 = .ok (.iconst 0, 1) := dk_3 (dk_at dksX3_turnOf_3 10 rfl rfl)
theorem dX3_turnOf_83 : decode cX3_turnOf 83 = .ok (.istore 8, 2) := dk_54 8 (dk_at dksX3_turnOf_3 11 rfl rfl)
theorem dX3_turnOf_85 : decode cX3_turnOf 85 = .ok (.iload 8, 2) := dk_21 8 (dk_at dksX3_turnOf_3 13 rfl rfl)
theorem dX3_turnOf_87 : decode cX3_turnOf 87 = .ok (.ifCond .eq 19, 3) := dk_153 0 19 (dk_at dksX3_turnOf_3 15 rfl rfl)
theorem dX3_turnOf_90 : decode cX3_turnOf 90 = .ok (.aload_n 0, 1) := dk_42 (dk_at dksX3_turnOf_3 18 rfl rfl)
theorem dX3_turnOf_91 : decode cX3_turnOf 91 = .ok (.getfield 87, 3) := dk_180 0 87 (dk_at dksX3_turnOf_3 19 rfl rfl)
theorem dX3_turnOf_94 : decode cX3_turnOf 94 = .ok (.iload 7, 2) := dk_21 7 (dk_at dksX3_turnOf_3 22 rfl rfl)
theorem dX3_turnOf_96 : decode cX3_turnOf 96 = .ok (.iaload, 1) := dk_46 (dk_at dksX3_turnOf_4 0 rfl rfl)
theorem dX3_turnOf_97 : decode cX3_turnOf 97 = .ok (.iconst (-1), 1) := dk_2 (dk_at dksX3_turnOf_4 1 rfl rfl)
theorem dX3_turnOf_98 : decode cX3_turnOf 98 = .ok (.if_icmp .eq 8, 3) := dk_159 0 8 (dk_at dksX3_turnOf_4 2 rfl rfl)
theorem dX3_turnOf_101 : decode cX3_turnOf 101 = .ok (.iload 7, 2) := dk_21 7 (dk_at dksX3_turnOf_4 5 rfl rfl)
theorem dX3_turnOf_103 : decode cX3_turnOf 103 = .ok (.goto 5, 3) := dk_167 0 5 (dk_at dksX3_turnOf_4 7 rfl rfl)
theorem dX3_turnOf_106 : decode cX3_turnOf 106 = .ok (.iload 5, 2) := dk_21 5 (dk_at dksX3_turnOf_4 10 rfl rfl)
theorem dX3_turnOf_108 : decode cX3_turnOf 108 = .ok (.istore 5, 2) := dk_54 5 (dk_at dksX3_turnOf_4 12 rfl rfl)
theorem dX3_turnOf_110 : decode cX3_turnOf 110 = .ok (.iinc 6 1, 3) := dk_132 6 1 (dk_at dksX3_turnOf_4 14 rfl rfl)
theorem dX3_turnOf_113 : decode cX3_turnOf 113 = .ok (.goto (-95), 3) := dk_167 255 161 (dk_at dksX3_turnOf_4 17 rfl rfl)
theorem dX3_turnOf_116 : decode cX3_turnOf 116 = .ok (.iload 5, 2) := dk_21 5 (dk_at dksX3_turnOf_4 20 rfl rfl)
theorem dX3_turnOf_118 : decode cX3_turnOf 118 = .ok (.ireturn, 1) := dk_172 (dk_at dksX3_turnOf_4 22 rfl rfl)
abbrev cX3_copiesOut : ByteArray := prog_18_method_104_code
def yX3_copiesOut : MethodName := ⟨RX3, "copiesOut", "()V"⟩
def dkwX3_copiesOut_3 : List UInt8 := [177]
abbrev dktX3_copiesOut_3 : List UInt8 := dkwX3_copiesOut_3 ++ []
def dkwX3_copiesOut_2 : List UInt8 := [104, 27, 96, 49, 82, 42, 180, 0, 20, 27, 28, 79, 132, 2, 1, 167, 255, 205, 132, 1, 1, 167, 255, 190]
abbrev dktX3_copiesOut_2 : List UInt8 := dkwX3_copiesOut_2 ++ dktX3_copiesOut_3
def dkwX3_copiesOut_1 : List UInt8 := [17, 0, 144, 28, 104, 27, 96, 51, 153, 0, 28, 42, 180, 0, 16, 27, 42, 180, 0, 74, 17, 0, 144, 28]
abbrev dktX3_copiesOut_1 : List UInt8 := dkwX3_copiesOut_1 ++ dktX3_copiesOut_2
def dkwX3_copiesOut_0 : List UInt8 := [3, 60, 27, 17, 0, 144, 162, 0, 65, 3, 61, 28, 42, 180, 0, 154, 162, 0, 49, 42, 180, 0, 77]
abbrev dktX3_copiesOut_0 : List UInt8 := dkwX3_copiesOut_0 ++ dktX3_copiesOut_1
theorem dksX3_copiesOut_0 : cX3_copiesOut.data.toList.drop 0 = dktX3_copiesOut_0 := by decide +kernel
theorem dksX3_copiesOut_1 : cX3_copiesOut.data.toList.drop 23 = dktX3_copiesOut_1 := dk_seg dksX3_copiesOut_0 23 rfl rfl
theorem dksX3_copiesOut_2 : cX3_copiesOut.data.toList.drop 47 = dktX3_copiesOut_2 := dk_seg dksX3_copiesOut_1 24 rfl rfl
theorem dksX3_copiesOut_3 : cX3_copiesOut.data.toList.drop 71 = dktX3_copiesOut_3 := dk_seg dksX3_copiesOut_2 24 rfl rfl
theorem dX3_copiesOut_0 : decode cX3_copiesOut 0 = .ok (.iconst 0, 1) := dk_3 (dk_at dksX3_copiesOut_0 0 rfl rfl)
theorem dX3_copiesOut_1 : decode cX3_copiesOut 1 = .ok (.istore_n 1, 1) := dk_60 (dk_at dksX3_copiesOut_0 1 rfl rfl)
theorem dX3_copiesOut_2 : decode cX3_copiesOut 2 = .ok (.iload_n 1, 1) := dk_27 (dk_at dksX3_copiesOut_0 2 rfl rfl)
theorem dX3_copiesOut_3 : decode cX3_copiesOut 3 = .ok (.sipush 144, 3) := dk_17 0 144 (dk_at dksX3_copiesOut_0 3 rfl rfl)
theorem dX3_copiesOut_6 : decode cX3_copiesOut 6 = .ok (.if_icmp .ge 65, 3) := dk_162 0 65 (dk_at dksX3_copiesOut_0 6 rfl rfl)
theorem dX3_copiesOut_9 : decode cX3_copiesOut 9 = .ok (.iconst 0, 1) := dk_3 (dk_at dksX3_copiesOut_0 9 rfl rfl)
theorem dX3_copiesOut_10 : decode cX3_copiesOut 10 = .ok (.istore_n 2, 1) := dk_61 (dk_at dksX3_copiesOut_0 10 rfl rfl)
theorem dX3_copiesOut_11 : decode cX3_copiesOut 11 = .ok (.iload_n 2, 1) := dk_28 (dk_at dksX3_copiesOut_0 11 rfl rfl)
theorem dX3_copiesOut_12 : decode cX3_copiesOut 12 = .ok (.aload_n 0, 1) := dk_42 (dk_at dksX3_copiesOut_0 12 rfl rfl)
theorem dX3_copiesOut_13 : decode cX3_copiesOut 13 = .ok (.getfield 154, 3) := dk_180 0 154 (dk_at dksX3_copiesOut_0 13 rfl rfl)
theorem dX3_copiesOut_16 : decode cX3_copiesOut 16 = .ok (.if_icmp .ge 49, 3) := dk_162 0 49 (dk_at dksX3_copiesOut_0 16 rfl rfl)
theorem dX3_copiesOut_19 : decode cX3_copiesOut 19 = .ok (.aload_n 0, 1) := dk_42 (dk_at dksX3_copiesOut_0 19 rfl rfl)
theorem dX3_copiesOut_20 : decode cX3_copiesOut 20 = .ok (.getfield 77, 3) := dk_180 0 77 (dk_at dksX3_copiesOut_0 20 rfl rfl)
theorem dX3_copiesOut_23 : decode cX3_copiesOut 23 = .ok (.sipush 144, 3) := dk_17 0 144 (dk_at dksX3_copiesOut_1 0 rfl rfl)
theorem dX3_copiesOut_26 : decode cX3_copiesOut 26 = .ok (.iload_n 2, 1) := dk_28 (dk_at dksX3_copiesOut_1 3 rfl rfl)
theorem dX3_copiesOut_27 : decode cX3_copiesOut 27 = .ok (.imul, 1) := dk_104 (dk_at dksX3_copiesOut_1 4 rfl rfl)
theorem dX3_copiesOut_28 : decode cX3_copiesOut 28 = .ok (.iload_n 1, 1) := dk_27 (dk_at dksX3_copiesOut_1 5 rfl rfl)
theorem dX3_copiesOut_29 : decode cX3_copiesOut 29 = .ok (.iadd, 1) := dk_96 (dk_at dksX3_copiesOut_1 6 rfl rfl)
theorem dX3_copiesOut_30 : decode cX3_copiesOut 30 = .ok (.baload, 1) := dk_51 (dk_at dksX3_copiesOut_1 7 rfl rfl)
theorem dX3_copiesOut_31 : decode cX3_copiesOut 31 = .ok (.ifCond .eq 28, 3) := dk_153 0 28 (dk_at dksX3_copiesOut_1 8 rfl rfl)
theorem dX3_copiesOut_34 : decode cX3_copiesOut 34 = .ok (.aload_n 0, 1) := dk_42 (dk_at dksX3_copiesOut_1 11 rfl rfl)
theorem dX3_copiesOut_35 : decode cX3_copiesOut 35 = .ok (.getfield 16, 3) := dk_180 0 16 (dk_at dksX3_copiesOut_1 12 rfl rfl)
theorem dX3_copiesOut_38 : decode cX3_copiesOut 38 = .ok (.iload_n 1, 1) := dk_27 (dk_at dksX3_copiesOut_1 15 rfl rfl)
theorem dX3_copiesOut_39 : decode cX3_copiesOut 39 = .ok (.aload_n 0, 1) := dk_42 (dk_at dksX3_copiesOut_1 16 rfl rfl)
theorem dX3_copiesOut_40 : decode cX3_copiesOut 40 = .ok (.getfield 74, 3) := dk_180 0 74 (dk_at dksX3_copiesOut_1 17 rfl rfl)
theorem dX3_copiesOut_43 : decode cX3_copiesOut 43 = .ok (.sipush 144, 3) := dk_17 0 144 (dk_at dksX3_copiesOut_1 20 rfl rfl)
theorem dX3_copiesOut_46 : decode cX3_copiesOut 46 = .ok (.iload_n 2, 1) := dk_28 (dk_at dksX3_copiesOut_1 23 rfl rfl)
theorem dX3_copiesOut_47 : decode cX3_copiesOut 47 = .ok (.imul, 1) := dk_104 (dk_at dksX3_copiesOut_2 0 rfl rfl)
theorem dX3_copiesOut_48 : decode cX3_copiesOut 48 = .ok (.iload_n 1, 1) := dk_27 (dk_at dksX3_copiesOut_2 1 rfl rfl)
theorem dX3_copiesOut_49 : decode cX3_copiesOut 49 = .ok (.iadd, 1) := dk_96 (dk_at dksX3_copiesOut_2 2 rfl rfl)
theorem dX3_copiesOut_50 : decode cX3_copiesOut 50 = .ok (.daload, 1) := dk_49 (dk_at dksX3_copiesOut_2 3 rfl rfl)
theorem dX3_copiesOut_51 : decode cX3_copiesOut 51 = .ok (.dastore, 1) := dk_82 (dk_at dksX3_copiesOut_2 4 rfl rfl)
theorem dX3_copiesOut_52 : decode cX3_copiesOut 52 = .ok (.aload_n 0, 1) := dk_42 (dk_at dksX3_copiesOut_2 5 rfl rfl)
theorem dX3_copiesOut_53 : decode cX3_copiesOut 53 = .ok (.getfield 20, 3) := dk_180 0 20 (dk_at dksX3_copiesOut_2 6 rfl rfl)
theorem dX3_copiesOut_56 : decode cX3_copiesOut 56 = .ok (.iload_n 1, 1) := dk_27 (dk_at dksX3_copiesOut_2 9 rfl rfl)
theorem dX3_copiesOut_57 : decode cX3_copiesOut 57 = .ok (.iload_n 2, 1) := dk_28 (dk_at dksX3_copiesOut_2 10 rfl rfl)
theorem dX3_copiesOut_58 : decode cX3_copiesOut 58 = .ok (.iastore, 1) := dk_79 (dk_at dksX3_copiesOut_2 11 rfl rfl)
theorem dX3_copiesOut_59 : decode cX3_copiesOut 59 = .ok (.iinc 2 1, 3) := dk_132 2 1 (dk_at dksX3_copiesOut_2 12 rfl rfl)
theorem dX3_copiesOut_62 : decode cX3_copiesOut 62 = .ok (.goto (-51), 3) := dk_167 255 205 (dk_at dksX3_copiesOut_2 15 rfl rfl)
theorem dX3_copiesOut_65 : decode cX3_copiesOut 65 = .ok (.iinc 1 1, 3) := dk_132 1 1 (dk_at dksX3_copiesOut_2 18 rfl rfl)
theorem dX3_copiesOut_68 : decode cX3_copiesOut 68 = .ok (.goto (-66), 3) := dk_167 255 190 (dk_at dksX3_copiesOut_2 21 rfl rfl)
theorem dX3_copiesOut_71 : decode cX3_copiesOut 71 = .ok (.return_, 1) := dk_177 (dk_at dksX3_copiesOut_3 0 rfl rfl)
abbrev cX3_same : ByteArray := prog_18_method_109_code
def yX3_same : MethodName := ⟨RX3, "same", "(IIII)I"⟩
def dkwX3_same_1 : List UInt8 := [29, 182, 1, 161, 172]
abbrev dktX3_same_1 : List UInt8 := dkwX3_same_1 ++ []
def dkwX3_same_0 : List UInt8 := [42, 27, 28, 29, 21, 4, 182, 1, 154, 54, 5, 21, 5, 156, 0, 8, 21, 5, 167, 0, 10, 42, 27, 28]
abbrev dktX3_same_0 : List UInt8 := dkwX3_same_0 ++ dktX3_same_1
theorem dksX3_same_0 : cX3_same.data.toList.drop 0 = dktX3_same_0 := by decide +kernel
theorem dksX3_same_1 : cX3_same.data.toList.drop 24 = dktX3_same_1 := dk_seg dksX3_same_0 24 rfl rfl
theorem dX3_same_0 : decode cX3_same 0 = .ok (.aload_n 0, 1) := dk_42 (dk_at dksX3_same_0 0 rfl rfl)
theorem dX3_same_1 : decode cX3_same 1 = .ok (.iload_n 1, 1) := dk_27 (dk_at dksX3_same_0 1 rfl rfl)
theorem dX3_same_2 : decode cX3_same 2 = .ok (.iload_n 2, 1) := dk_28 (dk_at dksX3_same_0 2 rfl rfl)
theorem dX3_same_3 : decode cX3_same 3 = .ok (.iload_n 3, 1) := dk_29 (dk_at dksX3_same_0 3 rfl rfl)
theorem dX3_same_4 : decode cX3_same 4 = .ok (.iload 4, 2) := dk_21 4 (dk_at dksX3_same_0 4 rfl rfl)
theorem dX3_same_6 : decode cX3_same 6 = .ok (.invokevirtual 410, 3) := dk_182 1 154 (dk_at dksX3_same_0 6 rfl rfl)
theorem dX3_same_9 : decode cX3_same 9 = .ok (.istore 5, 2) := dk_54 5 (dk_at dksX3_same_0 9 rfl rfl)
theorem dX3_same_11 : decode cX3_same 11 = .ok (.iload 5, 2) := dk_21 5 (dk_at dksX3_same_0 11 rfl rfl)
theorem dX3_same_13 : decode cX3_same 13 = .ok (.ifCond .ge 8, 3) := dk_156 0 8 (dk_at dksX3_same_0 13 rfl rfl)
theorem dX3_same_16 : decode cX3_same 16 = .ok (.iload 5, 2) := dk_21 5 (dk_at dksX3_same_0 16 rfl rfl)
theorem dX3_same_18 : decode cX3_same 18 = .ok (.goto 10, 3) := dk_167 0 10 (dk_at dksX3_same_0 18 rfl rfl)
theorem dX3_same_21 : decode cX3_same 21 = .ok (.aload_n 0, 1) := dk_42 (dk_at dksX3_same_0 21 rfl rfl)
theorem dX3_same_22 : decode cX3_same 22 = .ok (.iload_n 1, 1) := dk_27 (dk_at dksX3_same_0 22 rfl rfl)
theorem dX3_same_23 : decode cX3_same 23 = .ok (.iload_n 2, 1) := dk_28 (dk_at dksX3_same_0 23 rfl rfl)
theorem dX3_same_24 : decode cX3_same 24 = .ok (.iload_n 3, 1) := dk_29 (dk_at dksX3_same_1 0 rfl rfl)
theorem dX3_same_25 : decode cX3_same 25 = .ok (.invokevirtual 417, 3) := dk_182 1 161 (dk_at dksX3_same_1 1 rfl rfl)
theorem dX3_same_28 : decode cX3_same 28 = .ok (.ireturn, 1) := dk_172 (dk_at dksX3_same_1 4 rfl rfl)
abbrev cX3_sameNow : ByteArray := prog_18_method_108_code
def yX3_sameNow : MethodName := ⟨RX3, "sameNow", "(III)I"⟩
def dkwX3_sameNow_17 : List UInt8 := [3, 172]
abbrev dktX3_sameNow_17 : List UInt8 := dkwX3_sameNow_17 ++ []
def dkwX3_sameNow_16 : List UInt8 := [167, 255, 232, 42, 21, 4, 181, 1, 121, 42, 21, 5, 181, 1, 124, 21, 7, 153, 0, 7, 4, 167, 0, 4]
abbrev dktX3_sameNow_16 : List UInt8 := dkwX3_sameNow_16 ++ dktX3_sameNow_17
def dkwX3_sameNow_15 : List UInt8 := [21, 8, 16, 10, 162, 0, 23, 42, 180, 0, 84, 21, 8, 42, 180, 0, 99, 21, 8, 46, 79, 132, 8, 1]
abbrev dktX3_sameNow_15 : List UInt8 := dkwX3_sameNow_15 ++ dktX3_sameNow_16
def dkwX3_sameNow_14 : List UInt8 := [42, 180, 0, 20, 21, 8, 42, 180, 0, 96, 21, 8, 46, 79, 132, 8, 1, 167, 255, 187, 3, 54, 8]
abbrev dktX3_sameNow_14 : List UInt8 := dkwX3_sameNow_14 ++ dktX3_sameNow_15
def dkwX3_sameNow_13 : List UInt8 := [154, 0, 7, 4, 167, 0, 4, 3, 54, 7, 42, 180, 0, 16, 21, 8, 42, 180, 0, 90, 21, 8, 49, 82]
abbrev dktX3_sameNow_13 : List UInt8 := dkwX3_sameNow_13 ++ dktX3_sameNow_14
def dkwX3_sameNow_12 : List UInt8 := [162, 0, 67, 21, 7, 153, 0, 25, 42, 180, 0, 16, 21, 8, 49, 42, 180, 0, 93, 21, 8, 49, 151]
abbrev dktX3_sameNow_12 : List UInt8 := dkwX3_sameNow_12 ++ dktX3_sameNow_13
def dkwX3_sameNow_11 : List UInt8 := [21, 8, 42, 180, 0, 102, 21, 8, 46, 79, 132, 8, 1, 167, 255, 204, 3, 54, 8, 21, 8, 17, 0, 144]
abbrev dktX3_sameNow_11 : List UInt8 := dkwX3_sameNow_11 ++ dktX3_sameNow_12
def dkwX3_sameNow_10 : List UInt8 := [21, 8, 46, 42, 180, 0, 81, 21, 8, 46, 160, 0, 7, 4, 167, 0, 4, 3, 54, 7, 42, 180, 0, 81]
abbrev dktX3_sameNow_10 : List UInt8 := dkwX3_sameNow_10 ++ dktX3_sameNow_11
def dkwX3_sameNow_9 : List UInt8 := [167, 0, 4, 3, 54, 7, 3, 54, 8, 21, 8, 6, 162, 0, 52, 21, 7, 153, 0, 24, 42, 180, 0, 105]
abbrev dktX3_sameNow_9 : List UInt8 := dkwX3_sameNow_9 ++ dktX3_sameNow_10
def dkwX3_sameNow_8 : List UInt8 := [21, 7, 49, 82, 132, 7, 1, 167, 255, 217, 42, 27, 28, 29, 182, 1, 158, 21, 6, 160, 0, 7, 4]
abbrev dktX3_sameNow_8 : List UInt8 := dkwX3_sameNow_8 ++ dktX3_sameNow_9
def dkwX3_sameNow_7 : List UInt8 := [180, 0, 93, 21, 7, 42, 180, 0, 16, 21, 7, 49, 82, 42, 180, 0, 16, 21, 7, 42, 180, 0, 90]
abbrev dktX3_sameNow_7 : List UInt8 := dkwX3_sameNow_7 ++ dktX3_sameNow_8
def dkwX3_sameNow_6 : List UInt8 := [21, 7, 46, 79, 132, 7, 1, 167, 255, 233, 3, 54, 7, 21, 7, 17, 0, 144, 162, 0, 37, 42]
abbrev dktX3_sameNow_6 : List UInt8 := dkwX3_sameNow_6 ++ dktX3_sameNow_7
def dkwX3_sameNow_5 : List UInt8 := [182, 1, 138, 54, 6, 3, 54, 7, 21, 7, 6, 162, 0, 23, 42, 180, 0, 105, 21, 7, 42, 180, 0, 81]
abbrev dktX3_sameNow_5 : List UInt8 := dkwX3_sameNow_5 ++ dktX3_sameNow_6
def dkwX3_sameNow_4 : List UInt8 := [162, 0, 23, 42, 180, 0, 102, 21, 6, 42, 180, 0, 81, 21, 6, 46, 79, 132, 6, 1, 167, 255, 233, 42]
abbrev dktX3_sameNow_4 : List UInt8 := dkwX3_sameNow_4 ++ dktX3_sameNow_5
def dkwX3_sameNow_3 : List UInt8 := [21, 6, 42, 180, 0, 84, 21, 6, 46, 79, 132, 6, 1, 167, 255, 232, 3, 54, 6, 21, 6, 6]
abbrev dktX3_sameNow_3 : List UInt8 := dkwX3_sameNow_3 ++ dktX3_sameNow_4
def dkwX3_sameNow_2 : List UInt8 := [21, 6, 46, 79, 132, 6, 1, 167, 255, 217, 3, 54, 6, 21, 6, 16, 10, 162, 0, 23, 42, 180, 0, 99]
abbrev dktX3_sameNow_2 : List UInt8 := dkwX3_sameNow_2 ++ dktX3_sameNow_3
def dkwX3_sameNow_1 : List UInt8 := [180, 0, 90, 21, 6, 42, 180, 0, 16, 21, 6, 49, 82, 42, 180, 0, 96, 21, 6, 42, 180, 0, 20]
abbrev dktX3_sameNow_1 : List UInt8 := dkwX3_sameNow_1 ++ dktX3_sameNow_2
def dkwX3_sameNow_0 : List UInt8 := [42, 180, 1, 121, 54, 4, 42, 180, 1, 124, 54, 5, 3, 54, 6, 21, 6, 17, 0, 144, 162, 0, 37, 42]
abbrev dktX3_sameNow_0 : List UInt8 := dkwX3_sameNow_0 ++ dktX3_sameNow_1
theorem dksX3_sameNow_0 : cX3_sameNow.data.toList.drop 0 = dktX3_sameNow_0 := by decide +kernel
theorem dksX3_sameNow_1 : cX3_sameNow.data.toList.drop 24 = dktX3_sameNow_1 := dk_seg dksX3_sameNow_0 24 rfl rfl
theorem dksX3_sameNow_2 : cX3_sameNow.data.toList.drop 47 = dktX3_sameNow_2 := dk_seg dksX3_sameNow_1 23 rfl rfl
theorem dksX3_sameNow_3 : cX3_sameNow.data.toList.drop 71 = dktX3_sameNow_3 := dk_seg dksX3_sameNow_2 24 rfl rfl
theorem dksX3_sameNow_4 : cX3_sameNow.data.toList.drop 93 = dktX3_sameNow_4 := dk_seg dksX3_sameNow_3 22 rfl rfl
theorem dksX3_sameNow_5 : cX3_sameNow.data.toList.drop 117 = dktX3_sameNow_5 := dk_seg dksX3_sameNow_4 24 rfl rfl
theorem dksX3_sameNow_6 : cX3_sameNow.data.toList.drop 141 = dktX3_sameNow_6 := dk_seg dksX3_sameNow_5 24 rfl rfl
theorem dksX3_sameNow_7 : cX3_sameNow.data.toList.drop 163 = dktX3_sameNow_7 := dk_seg dksX3_sameNow_6 22 rfl rfl
theorem dksX3_sameNow_8 : cX3_sameNow.data.toList.drop 186 = dktX3_sameNow_8 := dk_seg dksX3_sameNow_7 23 rfl rfl
theorem dksX3_sameNow_9 : cX3_sameNow.data.toList.drop 209 = dktX3_sameNow_9 := dk_seg dksX3_sameNow_8 23 rfl rfl
theorem dksX3_sameNow_10 : cX3_sameNow.data.toList.drop 233 = dktX3_sameNow_10 := dk_seg dksX3_sameNow_9 24 rfl rfl
theorem dksX3_sameNow_11 : cX3_sameNow.data.toList.drop 257 = dktX3_sameNow_11 := dk_seg dksX3_sameNow_10 24 rfl rfl
theorem dksX3_sameNow_12 : cX3_sameNow.data.toList.drop 281 = dktX3_sameNow_12 := dk_seg dksX3_sameNow_11 24 rfl rfl
theorem dksX3_sameNow_13 : cX3_sameNow.data.toList.drop 304 = dktX3_sameNow_13 := dk_seg dksX3_sameNow_12 23 rfl rfl
theorem dksX3_sameNow_14 : cX3_sameNow.data.toList.drop 328 = dktX3_sameNow_14 := dk_seg dksX3_sameNow_13 24 rfl rfl
theorem dksX3_sameNow_15 : cX3_sameNow.data.toList.drop 351 = dktX3_sameNow_15 := dk_seg dksX3_sameNow_14 23 rfl rfl
theorem dksX3_sameNow_16 : cX3_sameNow.data.toList.drop 375 = dktX3_sameNow_16 := dk_seg dksX3_sameNow_15 24 rfl rfl
theorem dksX3_sameNow_17 : cX3_sameNow.data.toList.drop 399 = dktX3_sameNow_17 := dk_seg dksX3_sameNow_16 24 rfl rfl
theorem dX3_sameNow_0 : decode cX3_sameNow 0 = .ok (.aload_n 0, 1) := dk_42 (dk_at dksX3_sameNow_0 0 rfl rfl)
theorem dX3_sameNow_1 : decode cX3_sameNow 1 = .ok (.getfield 377, 3) := dk_180 1 121 (dk_at dksX3_sameNow_0 1 rfl rfl)
theorem dX3_sameNow_4 : decode cX3_sameNow 4 = .ok (.istore 4, 2) := dk_54 4 (dk_at dksX3_sameNow_0 4 rfl rfl)
theorem dX3_sameNow_6 : decode cX3_sameNow 6 = .ok (.aload_n 0, 1) := dk_42 (dk_at dksX3_sameNow_0 6 rfl rfl)
theorem dX3_sameNow_7 : decode cX3_sameNow 7 = .ok (.getfield 380, 3) := dk_180 1 124 (dk_at dksX3_sameNow_0 7 rfl rfl)
theorem dX3_sameNow_10 : decode cX3_sameNow 10 = .ok (.istore 5, 2) := dk_54 5 (dk_at dksX3_sameNow_0 10 rfl rfl)
theorem dX3_sameNow_12 : decode cX3_sameNow 12 = .ok (.iconst 0, 1) := dk_3 (dk_at dksX3_sameNow_0 12 rfl rfl)
theorem dX3_sameNow_13 : decode cX3_sameNow 13 = .ok (.istore 6, 2) := dk_54 6 (dk_at dksX3_sameNow_0 13 rfl rfl)
theorem dX3_sameNow_15 : decode cX3_sameNow 15 = .ok (.iload 6, 2) := dk_21 6 (dk_at dksX3_sameNow_0 15 rfl rfl)
theorem dX3_sameNow_17 : decode cX3_sameNow 17 = .ok (.sipush 144, 3) := dk_17 0 144 (dk_at dksX3_sameNow_0 17 rfl rfl)
theorem dX3_sameNow_20 : decode cX3_sameNow 20 = .ok (.if_icmp .ge 37, 3) := dk_162 0 37 (dk_at dksX3_sameNow_0 20 rfl rfl)
theorem dX3_sameNow_23 : decode cX3_sameNow 23 = .ok (.aload_n 0, 1) := dk_42 (dk_at dksX3_sameNow_0 23 rfl rfl)
theorem dX3_sameNow_24 : decode cX3_sameNow 24 = .ok (.getfield 90, 3) := dk_180 0 90 (dk_at dksX3_sameNow_1 0 rfl rfl)
theorem dX3_sameNow_27 : decode cX3_sameNow 27 = .ok (.iload 6, 2) := dk_21 6 (dk_at dksX3_sameNow_1 3 rfl rfl)
theorem dX3_sameNow_29 : decode cX3_sameNow 29 = .ok (.aload_n 0, 1) := dk_42 (dk_at dksX3_sameNow_1 5 rfl rfl)
theorem dX3_sameNow_30 : decode cX3_sameNow 30 = .ok (.getfield 16, 3) := dk_180 0 16 (dk_at dksX3_sameNow_1 6 rfl rfl)
theorem dX3_sameNow_33 : decode cX3_sameNow 33 = .ok (.iload 6, 2) := dk_21 6 (dk_at dksX3_sameNow_1 9 rfl rfl)
theorem dX3_sameNow_35 : decode cX3_sameNow 35 = .ok (.daload, 1) := dk_49 (dk_at dksX3_sameNow_1 11 rfl rfl)
theorem dX3_sameNow_36 : decode cX3_sameNow 36 = .ok (.dastore, 1) := dk_82 (dk_at dksX3_sameNow_1 12 rfl rfl)
theorem dX3_sameNow_37 : decode cX3_sameNow 37 = .ok (.aload_n 0, 1) := dk_42 (dk_at dksX3_sameNow_1 13 rfl rfl)
theorem dX3_sameNow_38 : decode cX3_sameNow 38 = .ok (.getfield 96, 3) := dk_180 0 96 (dk_at dksX3_sameNow_1 14 rfl rfl)
theorem dX3_sameNow_41 : decode cX3_sameNow 41 = .ok (.iload 6, 2) := dk_21 6 (dk_at dksX3_sameNow_1 17 rfl rfl)
theorem dX3_sameNow_43 : decode cX3_sameNow 43 = .ok (.aload_n 0, 1) := dk_42 (dk_at dksX3_sameNow_1 19 rfl rfl)
theorem dX3_sameNow_44 : decode cX3_sameNow 44 = .ok (.getfield 20, 3) := dk_180 0 20 (dk_at dksX3_sameNow_1 20 rfl rfl)
theorem dX3_sameNow_47 : decode cX3_sameNow 47 = .ok (.iload 6, 2) := dk_21 6 (dk_at dksX3_sameNow_2 0 rfl rfl)
theorem dX3_sameNow_49 : decode cX3_sameNow 49 = .ok (.iaload, 1) := dk_46 (dk_at dksX3_sameNow_2 2 rfl rfl)
theorem dX3_sameNow_50 : decode cX3_sameNow 50 = .ok (.iastore, 1) := dk_79 (dk_at dksX3_sameNow_2 3 rfl rfl)
theorem dX3_sameNow_51 : decode cX3_sameNow 51 = .ok (.iinc 6 1, 3) := dk_132 6 1 (dk_at dksX3_sameNow_2 4 rfl rfl)
theorem dX3_sameNow_54 : decode cX3_sameNow 54 = .ok (.goto (-39), 3) := dk_167 255 217 (dk_at dksX3_sameNow_2 7 rfl rfl)
theorem dX3_sameNow_57 : decode cX3_sameNow 57 = .ok (.iconst 0, 1) := dk_3 (dk_at dksX3_sameNow_2 10 rfl rfl)
theorem dX3_sameNow_58 : decode cX3_sameNow 58 = .ok (.istore 6, 2) := dk_54 6 (dk_at dksX3_sameNow_2 11 rfl rfl)
theorem dX3_sameNow_60 : decode cX3_sameNow 60 = .ok (.iload 6, 2) := dk_21 6 (dk_at dksX3_sameNow_2 13 rfl rfl)
theorem dX3_sameNow_62 : decode cX3_sameNow 62 = .ok (.bipush 10, 2) := dk_16 10 (dk_at dksX3_sameNow_2 15 rfl rfl)
theorem dX3_sameNow_64 : decode cX3_sameNow 64 = .ok (.if_icmp .ge 23, 3) := dk_162 0 23 (dk_at dksX3_sameNow_2 17 rfl rfl)
theorem dX3_sameNow_67 : decode cX3_sameNow 67 = .ok (.aload_n 0, 1) := dk_42 (dk_at dksX3_sameNow_2 20 rfl rfl)
theorem dX3_sameNow_68 : decode cX3_sameNow 68 = .ok (.getfield 99, 3) := dk_180 0 99 (dk_at dksX3_sameNow_2 21 rfl rfl)
theorem dX3_sameNow_71 : decode cX3_sameNow 71 = .ok (.iload 6, 2) := dk_21 6 (dk_at dksX3_sameNow_3 0 rfl rfl)
theorem dX3_sameNow_73 : decode cX3_sameNow 73 = .ok (.aload_n 0, 1) := dk_42 (dk_at dksX3_sameNow_3 2 rfl rfl)
theorem dX3_sameNow_74 : decode cX3_sameNow 74 = .ok (.getfield 84, 3) := dk_180 0 84 (dk_at dksX3_sameNow_3 3 rfl rfl)
theorem dX3_sameNow_77 : decode cX3_sameNow 77 = .ok (.iload 6, 2) := dk_21 6 (dk_at dksX3_sameNow_3 6 rfl rfl)
theorem dX3_sameNow_79 : decode cX3_sameNow 79 = .ok (.iaload, 1) := dk_46 (dk_at dksX3_sameNow_3 8 rfl rfl)
theorem dX3_sameNow_80 : decode cX3_sameNow 80 = .ok (.iastore, 1) := dk_79 (dk_at dksX3_sameNow_3 9 rfl rfl)
theorem dX3_sameNow_81 : decode cX3_sameNow 81 = .ok (.iinc 6 1, 3) := dk_132 6 1 (dk_at dksX3_sameNow_3 10 rfl rfl)
theorem dX3_sameNow_84 : decode cX3_sameNow 84 = .ok (.goto (-24), 3) := dk_167 255 232 (dk_at dksX3_sameNow_3 13 rfl rfl)
theorem dX3_sameNow_87 : decode cX3_sameNow 87 = .ok (.iconst 0, 1) := dk_3 (dk_at dksX3_sameNow_3 16 rfl rfl)
theorem dX3_sameNow_88 : decode cX3_sameNow 88 = .ok (.istore 6, 2) := dk_54 6 (dk_at dksX3_sameNow_3 17 rfl rfl)
theorem dX3_sameNow_90 : decode cX3_sameNow 90 = .ok (.iload 6, 2) := dk_21 6 (dk_at dksX3_sameNow_3 19 rfl rfl)
theorem dX3_sameNow_92 : decode cX3_sameNow 92 = .ok (.iconst 3, 1) := dk_6 (dk_at dksX3_sameNow_3 21 rfl rfl)
theorem dX3_sameNow_93 : decode cX3_sameNow 93 = .ok (.if_icmp .ge 23, 3) := dk_162 0 23 (dk_at dksX3_sameNow_4 0 rfl rfl)
theorem dX3_sameNow_96 : decode cX3_sameNow 96 = .ok (.aload_n 0, 1) := dk_42 (dk_at dksX3_sameNow_4 3 rfl rfl)
theorem dX3_sameNow_97 : decode cX3_sameNow 97 = .ok (.getfield 102, 3) := dk_180 0 102 (dk_at dksX3_sameNow_4 4 rfl rfl)
theorem dX3_sameNow_100 : decode cX3_sameNow 100 = .ok (.iload 6, 2) := dk_21 6 (dk_at dksX3_sameNow_4 7 rfl rfl)
theorem dX3_sameNow_102 : decode cX3_sameNow 102 = .ok (.aload_n 0, 1) := dk_42 (dk_at dksX3_sameNow_4 9 rfl rfl)
theorem dX3_sameNow_103 : decode cX3_sameNow 103 = .ok (.getfield 81, 3) := dk_180 0 81 (dk_at dksX3_sameNow_4 10 rfl rfl)
theorem dX3_sameNow_106 : decode cX3_sameNow 106 = .ok (.iload 6, 2) := dk_21 6 (dk_at dksX3_sameNow_4 13 rfl rfl)
theorem dX3_sameNow_108 : decode cX3_sameNow 108 = .ok (.iaload, 1) := dk_46 (dk_at dksX3_sameNow_4 15 rfl rfl)
theorem dX3_sameNow_109 : decode cX3_sameNow 109 = .ok (.iastore, 1) := dk_79 (dk_at dksX3_sameNow_4 16 rfl rfl)
theorem dX3_sameNow_110 : decode cX3_sameNow 110 = .ok (.iinc 6 1, 3) := dk_132 6 1 (dk_at dksX3_sameNow_4 17 rfl rfl)
theorem dX3_sameNow_113 : decode cX3_sameNow 113 = .ok (.goto (-23), 3) := dk_167 255 233 (dk_at dksX3_sameNow_4 20 rfl rfl)
theorem dX3_sameNow_116 : decode cX3_sameNow 116 = .ok (.aload_n 0, 1) := dk_42 (dk_at dksX3_sameNow_4 23 rfl rfl)
theorem dX3_sameNow_117 : decode cX3_sameNow 117 = .ok (.invokevirtual 394, 3) := dk_182 1 138 (dk_at dksX3_sameNow_5 0 rfl rfl)
theorem dX3_sameNow_120 : decode cX3_sameNow 120 = .ok (.istore 6, 2) := dk_54 6 (dk_at dksX3_sameNow_5 3 rfl rfl)
theorem dX3_sameNow_122 : decode cX3_sameNow 122 = .ok (.iconst 0, 1) := dk_3 (dk_at dksX3_sameNow_5 5 rfl rfl)
theorem dX3_sameNow_123 : decode cX3_sameNow 123 = .ok (.istore 7, 2) := dk_54 7 (dk_at dksX3_sameNow_5 6 rfl rfl)
theorem dX3_sameNow_125 : decode cX3_sameNow 125 = .ok (.iload 7, 2) := dk_21 7 (dk_at dksX3_sameNow_5 8 rfl rfl)
theorem dX3_sameNow_127 : decode cX3_sameNow 127 = .ok (.iconst 3, 1) := dk_6 (dk_at dksX3_sameNow_5 10 rfl rfl)
theorem dX3_sameNow_128 : decode cX3_sameNow 128 = .ok (.if_icmp .ge 23, 3) := dk_162 0 23 (dk_at dksX3_sameNow_5 11 rfl rfl)
theorem dX3_sameNow_131 : decode cX3_sameNow 131 = .ok (.aload_n 0, 1) := dk_42 (dk_at dksX3_sameNow_5 14 rfl rfl)
theorem dX3_sameNow_132 : decode cX3_sameNow 132 = .ok (.getfield 105, 3) := dk_180 0 105 (dk_at dksX3_sameNow_5 15 rfl rfl)
theorem dX3_sameNow_135 : decode cX3_sameNow 135 = .ok (.iload 7, 2) := dk_21 7 (dk_at dksX3_sameNow_5 18 rfl rfl)
theorem dX3_sameNow_137 : decode cX3_sameNow 137 = .ok (.aload_n 0, 1) := dk_42 (dk_at dksX3_sameNow_5 20 rfl rfl)
theorem dX3_sameNow_138 : decode cX3_sameNow 138 = .ok (.getfield 81, 3) := dk_180 0 81 (dk_at dksX3_sameNow_5 21 rfl rfl)
theorem dX3_sameNow_141 : decode cX3_sameNow 141 = .ok (.iload 7, 2) := dk_21 7 (dk_at dksX3_sameNow_6 0 rfl rfl)
theorem dX3_sameNow_143 : decode cX3_sameNow 143 = .ok (.iaload, 1) := dk_46 (dk_at dksX3_sameNow_6 2 rfl rfl)
theorem dX3_sameNow_144 : decode cX3_sameNow 144 = .ok (.iastore, 1) := dk_79 (dk_at dksX3_sameNow_6 3 rfl rfl)
theorem dX3_sameNow_145 : decode cX3_sameNow 145 = .ok (.iinc 7 1, 3) := dk_132 7 1 (dk_at dksX3_sameNow_6 4 rfl rfl)
theorem dX3_sameNow_148 : decode cX3_sameNow 148 = .ok (.goto (-23), 3) := dk_167 255 233 (dk_at dksX3_sameNow_6 7 rfl rfl)
theorem dX3_sameNow_151 : decode cX3_sameNow 151 = .ok (.iconst 0, 1) := dk_3 (dk_at dksX3_sameNow_6 10 rfl rfl)
theorem dX3_sameNow_152 : decode cX3_sameNow 152 = .ok (.istore 7, 2) := dk_54 7 (dk_at dksX3_sameNow_6 11 rfl rfl)
theorem dX3_sameNow_154 : decode cX3_sameNow 154 = .ok (.iload 7, 2) := dk_21 7 (dk_at dksX3_sameNow_6 13 rfl rfl)
theorem dX3_sameNow_156 : decode cX3_sameNow 156 = .ok (.sipush 144, 3) := dk_17 0 144 (dk_at dksX3_sameNow_6 15 rfl rfl)
theorem dX3_sameNow_159 : decode cX3_sameNow 159 = .ok (.if_icmp .ge 37, 3) := dk_162 0 37 (dk_at dksX3_sameNow_6 18 rfl rfl)
theorem dX3_sameNow_162 : decode cX3_sameNow 162 = .ok (.aload_n 0, 1) := dk_42 (dk_at dksX3_sameNow_6 21 rfl rfl)
theorem dX3_sameNow_163 : decode cX3_sameNow 163 = .ok (.getfield 93, 3) := dk_180 0 93 (dk_at dksX3_sameNow_7 0 rfl rfl)
theorem dX3_sameNow_166 : decode cX3_sameNow 166 = .ok (.iload 7, 2) := dk_21 7 (dk_at dksX3_sameNow_7 3 rfl rfl)
theorem dX3_sameNow_168 : decode cX3_sameNow 168 = .ok (.aload_n 0, 1) := dk_42 (dk_at dksX3_sameNow_7 5 rfl rfl)
theorem dX3_sameNow_169 : decode cX3_sameNow 169 = .ok (.getfield 16, 3) := dk_180 0 16 (dk_at dksX3_sameNow_7 6 rfl rfl)
theorem dX3_sameNow_172 : decode cX3_sameNow 172 = .ok (.iload 7, 2) := dk_21 7 (dk_at dksX3_sameNow_7 9 rfl rfl)
theorem dX3_sameNow_174 : decode cX3_sameNow 174 = .ok (.daload, 1) := dk_49 (dk_at dksX3_sameNow_7 11 rfl rfl)
theorem dX3_sameNow_175 : decode cX3_sameNow 175 = .ok (.dastore, 1) := dk_82 (dk_at dksX3_sameNow_7 12 rfl rfl)
theorem dX3_sameNow_176 : decode cX3_sameNow 176 = .ok (.aload_n 0, 1) := dk_42 (dk_at dksX3_sameNow_7 13 rfl rfl)
theorem dX3_sameNow_177 : decode cX3_sameNow 177 = .ok (.getfield 16, 3) := dk_180 0 16 (dk_at dksX3_sameNow_7 14 rfl rfl)
theorem dX3_sameNow_180 : decode cX3_sameNow 180 = .ok (.iload 7, 2) := dk_21 7 (dk_at dksX3_sameNow_7 17 rfl rfl)
theorem dX3_sameNow_182 : decode cX3_sameNow 182 = .ok (.aload_n 0, 1) := dk_42 (dk_at dksX3_sameNow_7 19 rfl rfl)
theorem dX3_sameNow_183 : decode cX3_sameNow 183 = .ok (.getfield 90, 3) := dk_180 0 90 (dk_at dksX3_sameNow_7 20 rfl rfl)
theorem dX3_sameNow_186 : decode cX3_sameNow 186 = .ok (.iload 7, 2) := dk_21 7 (dk_at dksX3_sameNow_8 0 rfl rfl)
theorem dX3_sameNow_188 : decode cX3_sameNow 188 = .ok (.daload, 1) := dk_49 (dk_at dksX3_sameNow_8 2 rfl rfl)
theorem dX3_sameNow_189 : decode cX3_sameNow 189 = .ok (.dastore, 1) := dk_82 (dk_at dksX3_sameNow_8 3 rfl rfl)
theorem dX3_sameNow_190 : decode cX3_sameNow 190 = .ok (.iinc 7 1, 3) := dk_132 7 1 (dk_at dksX3_sameNow_8 4 rfl rfl)
theorem dX3_sameNow_193 : decode cX3_sameNow 193 = .ok (.goto (-39), 3) := dk_167 255 217 (dk_at dksX3_sameNow_8 7 rfl rfl)
theorem dX3_sameNow_196 : decode cX3_sameNow 196 = .ok (.aload_n 0, 1) := dk_42 (dk_at dksX3_sameNow_8 10 rfl rfl)
theorem dX3_sameNow_197 : decode cX3_sameNow 197 = .ok (.iload_n 1, 1) := dk_27 (dk_at dksX3_sameNow_8 11 rfl rfl)
theorem dX3_sameNow_198 : decode cX3_sameNow 198 = .ok (.iload_n 2, 1) := dk_28 (dk_at dksX3_sameNow_8 12 rfl rfl)
theorem dX3_sameNow_199 : decode cX3_sameNow 199 = .ok (.iload_n 3, 1) := dk_29 (dk_at dksX3_sameNow_8 13 rfl rfl)
theorem dX3_sameNow_200 : decode cX3_sameNow 200 = .ok (.invokevirtual 414, 3) := dk_182 1 158 (dk_at dksX3_sameNow_8 14 rfl rfl)
theorem dX3_sameNow_203 : decode cX3_sameNow 203 = .ok (.iload 6, 2) := dk_21 6 (dk_at dksX3_sameNow_8 17 rfl rfl)
theorem dX3_sameNow_205 : decode cX3_sameNow 205 = .ok (.if_icmp .ne 7, 3) := dk_160 0 7 (dk_at dksX3_sameNow_8 19 rfl rfl)
theorem dX3_sameNow_208 : decode cX3_sameNow 208 = .ok (.iconst 1, 1) := dk_4 (dk_at dksX3_sameNow_8 22 rfl rfl)
theorem dX3_sameNow_209 : decode cX3_sameNow 209 = .ok (.goto 4, 3) := dk_167 0 4 (dk_at dksX3_sameNow_9 0 rfl rfl)
theorem dX3_sameNow_212 : decode cX3_sameNow 212 = .ok (.iconst 0, 1) := dk_3 (dk_at dksX3_sameNow_9 3 rfl rfl)
theorem dX3_sameNow_213 : decode cX3_sameNow 213 = .ok (.istore 7, 2) := dk_54 7 (dk_at dksX3_sameNow_9 4 rfl rfl)
theorem dX3_sameNow_215 : decode cX3_sameNow 215 = .ok (.iconst 0, 1) := dk_3 (dk_at dksX3_sameNow_9 6 rfl rfl)
theorem dX3_sameNow_216 : decode cX3_sameNow 216 = .ok (.istore 8, 2) := dk_54 8 (dk_at dksX3_sameNow_9 7 rfl rfl)
theorem dX3_sameNow_218 : decode cX3_sameNow 218 = .ok (.iload 8, 2) := dk_21 8 (dk_at dksX3_sameNow_9 9 rfl rfl)
theorem dX3_sameNow_220 : decode cX3_sameNow 220 = .ok (.iconst 3, 1) := dk_6 (dk_at dksX3_sameNow_9 11 rfl rfl)
theorem dX3_sameNow_221 : decode cX3_sameNow 221 = .ok (.if_icmp .ge 52, 3) := dk_162 0 52 (dk_at dksX3_sameNow_9 12 rfl rfl)
theorem dX3_sameNow_224 : decode cX3_sameNow 224 = .ok (.iload 7, 2) := dk_21 7 (dk_at dksX3_sameNow_9 15 rfl rfl)
theorem dX3_sameNow_226 : decode cX3_sameNow 226 = .ok (.ifCond .eq 24, 3) := dk_153 0 24 (dk_at dksX3_sameNow_9 17 rfl rfl)
theorem dX3_sameNow_229 : decode cX3_sameNow 229 = .ok (.aload_n 0, 1) := dk_42 (dk_at dksX3_sameNow_9 20 rfl rfl)
theorem dX3_sameNow_230 : decode cX3_sameNow 230 = .ok (.getfield 105, 3) := dk_180 0 105 (dk_at dksX3_sameNow_9 21 rfl rfl)
theorem dX3_sameNow_233 : decode cX3_sameNow 233 = .ok (.iload 8, 2) := dk_21 8 (dk_at dksX3_sameNow_10 0 rfl rfl)
theorem dX3_sameNow_235 : decode cX3_sameNow 235 = .ok (.iaload, 1) := dk_46 (dk_at dksX3_sameNow_10 2 rfl rfl)
theorem dX3_sameNow_236 : decode cX3_sameNow 236 = .ok (.aload_n 0, 1) := dk_42 (dk_at dksX3_sameNow_10 3 rfl rfl)
theorem dX3_sameNow_237 : decode cX3_sameNow 237 = .ok (.getfield 81, 3) := dk_180 0 81 (dk_at dksX3_sameNow_10 4 rfl rfl)
theorem dX3_sameNow_240 : decode cX3_sameNow 240 = .ok (.iload 8, 2) := dk_21 8 (dk_at dksX3_sameNow_10 7 rfl rfl)
theorem dX3_sameNow_242 : decode cX3_sameNow 242 = .ok (.iaload, 1) := dk_46 (dk_at dksX3_sameNow_10 9 rfl rfl)
theorem dX3_sameNow_243 : decode cX3_sameNow 243 = .ok (.if_icmp .ne 7, 3) := dk_160 0 7 (dk_at dksX3_sameNow_10 10 rfl rfl)
theorem dX3_sameNow_246 : decode cX3_sameNow 246 = .ok (.iconst 1, 1) := dk_4 (dk_at dksX3_sameNow_10 13 rfl rfl)
theorem dX3_sameNow_247 : decode cX3_sameNow 247 = .ok (.goto 4, 3) := dk_167 0 4 (dk_at dksX3_sameNow_10 14 rfl rfl)
theorem dX3_sameNow_250 : decode cX3_sameNow 250 = .ok (.iconst 0, 1) := dk_3 (dk_at dksX3_sameNow_10 17 rfl rfl)
theorem dX3_sameNow_251 : decode cX3_sameNow 251 = .ok (.istore 7, 2) := dk_54 7 (dk_at dksX3_sameNow_10 18 rfl rfl)
theorem dX3_sameNow_253 : decode cX3_sameNow 253 = .ok (.aload_n 0, 1) := dk_42 (dk_at dksX3_sameNow_10 20 rfl rfl)
theorem dX3_sameNow_254 : decode cX3_sameNow 254 = .ok (.getfield 81, 3) := dk_180 0 81 (dk_at dksX3_sameNow_10 21 rfl rfl)
theorem dX3_sameNow_257 : decode cX3_sameNow 257 = .ok (.iload 8, 2) := dk_21 8 (dk_at dksX3_sameNow_11 0 rfl rfl)
theorem dX3_sameNow_259 : decode cX3_sameNow 259 = .ok (.aload_n 0, 1) := dk_42 (dk_at dksX3_sameNow_11 2 rfl rfl)
theorem dX3_sameNow_260 : decode cX3_sameNow 260 = .ok (.getfield 102, 3) := dk_180 0 102 (dk_at dksX3_sameNow_11 3 rfl rfl)
theorem dX3_sameNow_263 : decode cX3_sameNow 263 = .ok (.iload 8, 2) := dk_21 8 (dk_at dksX3_sameNow_11 6 rfl rfl)
theorem dX3_sameNow_265 : decode cX3_sameNow 265 = .ok (.iaload, 1) := dk_46 (dk_at dksX3_sameNow_11 8 rfl rfl)
theorem dX3_sameNow_266 : decode cX3_sameNow 266 = .ok (.iastore, 1) := dk_79 (dk_at dksX3_sameNow_11 9 rfl rfl)
theorem dX3_sameNow_267 : decode cX3_sameNow 267 = .ok (.iinc 8 1, 3) := dk_132 8 1 (dk_at dksX3_sameNow_11 10 rfl rfl)
theorem dX3_sameNow_270 : decode cX3_sameNow 270 = .ok (.goto (-52), 3) := dk_167 255 204 (dk_at dksX3_sameNow_11 13 rfl rfl)
theorem dX3_sameNow_273 : decode cX3_sameNow 273 = .ok (.iconst 0, 1) := dk_3 (dk_at dksX3_sameNow_11 16 rfl rfl)
theorem dX3_sameNow_274 : decode cX3_sameNow 274 = .ok (.istore 8, 2) := dk_54 8 (dk_at dksX3_sameNow_11 17 rfl rfl)
theorem dX3_sameNow_276 : decode cX3_sameNow 276 = .ok (.iload 8, 2) := dk_21 8 (dk_at dksX3_sameNow_11 19 rfl rfl)
theorem dX3_sameNow_278 : decode cX3_sameNow 278 = .ok (.sipush 144, 3) := dk_17 0 144 (dk_at dksX3_sameNow_11 21 rfl rfl)
theorem dX3_sameNow_281 : decode cX3_sameNow 281 = .ok (.if_icmp .ge 67, 3) := dk_162 0 67 (dk_at dksX3_sameNow_12 0 rfl rfl)
theorem dX3_sameNow_284 : decode cX3_sameNow 284 = .ok (.iload 7, 2) := dk_21 7 (dk_at dksX3_sameNow_12 3 rfl rfl)
theorem dX3_sameNow_286 : decode cX3_sameNow 286 = .ok (.ifCond .eq 25, 3) := dk_153 0 25 (dk_at dksX3_sameNow_12 5 rfl rfl)
theorem dX3_sameNow_289 : decode cX3_sameNow 289 = .ok (.aload_n 0, 1) := dk_42 (dk_at dksX3_sameNow_12 8 rfl rfl)
theorem dX3_sameNow_290 : decode cX3_sameNow 290 = .ok (.getfield 16, 3) := dk_180 0 16 (dk_at dksX3_sameNow_12 9 rfl rfl)
theorem dX3_sameNow_293 : decode cX3_sameNow 293 = .ok (.iload 8, 2) := dk_21 8 (dk_at dksX3_sameNow_12 12 rfl rfl)
theorem dX3_sameNow_295 : decode cX3_sameNow 295 = .ok (.daload, 1) := dk_49 (dk_at dksX3_sameNow_12 14 rfl rfl)
theorem dX3_sameNow_296 : decode cX3_sameNow 296 = .ok (.aload_n 0, 1) := dk_42 (dk_at dksX3_sameNow_12 15 rfl rfl)
theorem dX3_sameNow_297 : decode cX3_sameNow 297 = .ok (.getfield 93, 3) := dk_180 0 93 (dk_at dksX3_sameNow_12 16 rfl rfl)
theorem dX3_sameNow_300 : decode cX3_sameNow 300 = .ok (.iload 8, 2) := dk_21 8 (dk_at dksX3_sameNow_12 19 rfl rfl)
theorem dX3_sameNow_302 : decode cX3_sameNow 302 = .ok (.daload, 1) := dk_49 (dk_at dksX3_sameNow_12 21 rfl rfl)
theorem dX3_sameNow_303 : decode cX3_sameNow 303 = .ok (.dcmp .l, 1) := dk_151 (dk_at dksX3_sameNow_12 22 rfl rfl)
theorem dX3_sameNow_304 : decode cX3_sameNow 304 = .ok (.ifCond .ne 7, 3) := dk_154 0 7 (dk_at dksX3_sameNow_13 0 rfl rfl)
theorem dX3_sameNow_307 : decode cX3_sameNow 307 = .ok (.iconst 1, 1) := dk_4 (dk_at dksX3_sameNow_13 3 rfl rfl)
theorem dX3_sameNow_308 : decode cX3_sameNow 308 = .ok (.goto 4, 3) := dk_167 0 4 (dk_at dksX3_sameNow_13 4 rfl rfl)
theorem dX3_sameNow_311 : decode cX3_sameNow 311 = .ok (.iconst 0, 1) := dk_3 (dk_at dksX3_sameNow_13 7 rfl rfl)
theorem dX3_sameNow_312 : decode cX3_sameNow 312 = .ok (.istore 7, 2) := dk_54 7 (dk_at dksX3_sameNow_13 8 rfl rfl)
theorem dX3_sameNow_314 : decode cX3_sameNow 314 = .ok (.aload_n 0, 1) := dk_42 (dk_at dksX3_sameNow_13 10 rfl rfl)
theorem dX3_sameNow_315 : decode cX3_sameNow 315 = .ok (.getfield 16, 3) := dk_180 0 16 (dk_at dksX3_sameNow_13 11 rfl rfl)
theorem dX3_sameNow_318 : decode cX3_sameNow 318 = .ok (.iload 8, 2) := dk_21 8 (dk_at dksX3_sameNow_13 14 rfl rfl)
theorem dX3_sameNow_320 : decode cX3_sameNow 320 = .ok (.aload_n 0, 1) := dk_42 (dk_at dksX3_sameNow_13 16 rfl rfl)
theorem dX3_sameNow_321 : decode cX3_sameNow 321 = .ok (.getfield 90, 3) := dk_180 0 90 (dk_at dksX3_sameNow_13 17 rfl rfl)
theorem dX3_sameNow_324 : decode cX3_sameNow 324 = .ok (.iload 8, 2) := dk_21 8 (dk_at dksX3_sameNow_13 20 rfl rfl)
theorem dX3_sameNow_326 : decode cX3_sameNow 326 = .ok (.daload, 1) := dk_49 (dk_at dksX3_sameNow_13 22 rfl rfl)
theorem dX3_sameNow_327 : decode cX3_sameNow 327 = .ok (.dastore, 1) := dk_82 (dk_at dksX3_sameNow_13 23 rfl rfl)
theorem dX3_sameNow_328 : decode cX3_sameNow 328 = .ok (.aload_n 0, 1) := dk_42 (dk_at dksX3_sameNow_14 0 rfl rfl)
theorem dX3_sameNow_329 : decode cX3_sameNow 329 = .ok (.getfield 20, 3) := dk_180 0 20 (dk_at dksX3_sameNow_14 1 rfl rfl)
theorem dX3_sameNow_332 : decode cX3_sameNow 332 = .ok (.iload 8, 2) := dk_21 8 (dk_at dksX3_sameNow_14 4 rfl rfl)
theorem dX3_sameNow_334 : decode cX3_sameNow 334 = .ok (.aload_n 0, 1) := dk_42 (dk_at dksX3_sameNow_14 6 rfl rfl)
theorem dX3_sameNow_335 : decode cX3_sameNow 335 = .ok (.getfield 96, 3) := dk_180 0 96 (dk_at dksX3_sameNow_14 7 rfl rfl)
theorem dX3_sameNow_338 : decode cX3_sameNow 338 = .ok (.iload 8, 2) := dk_21 8 (dk_at dksX3_sameNow_14 10 rfl rfl)
theorem dX3_sameNow_340 : decode cX3_sameNow 340 = .ok (.iaload, 1) := dk_46 (dk_at dksX3_sameNow_14 12 rfl rfl)
theorem dX3_sameNow_341 : decode cX3_sameNow 341 = .ok (.iastore, 1) := dk_79 (dk_at dksX3_sameNow_14 13 rfl rfl)
theorem dX3_sameNow_342 : decode cX3_sameNow 342 = .ok (.iinc 8 1, 3) := dk_132 8 1 (dk_at dksX3_sameNow_14 14 rfl rfl)
theorem dX3_sameNow_345 : decode cX3_sameNow 345 = .ok (.goto (-69), 3) := dk_167 255 187 (dk_at dksX3_sameNow_14 17 rfl rfl)
theorem dX3_sameNow_348 : decode cX3_sameNow 348 = .ok (.iconst 0, 1) := dk_3 (dk_at dksX3_sameNow_14 20 rfl rfl)
theorem dX3_sameNow_349 : decode cX3_sameNow 349 = .ok (.istore 8, 2) := dk_54 8 (dk_at dksX3_sameNow_14 21 rfl rfl)
theorem dX3_sameNow_351 : decode cX3_sameNow 351 = .ok (.iload 8, 2) := dk_21 8 (dk_at dksX3_sameNow_15 0 rfl rfl)
theorem dX3_sameNow_353 : decode cX3_sameNow 353 = .ok (.bipush 10, 2) := dk_16 10 (dk_at dksX3_sameNow_15 2 rfl rfl)
theorem dX3_sameNow_355 : decode cX3_sameNow 355 = .ok (.if_icmp .ge 23, 3) := dk_162 0 23 (dk_at dksX3_sameNow_15 4 rfl rfl)
theorem dX3_sameNow_358 : decode cX3_sameNow 358 = .ok (.aload_n 0, 1) := dk_42 (dk_at dksX3_sameNow_15 7 rfl rfl)
theorem dX3_sameNow_359 : decode cX3_sameNow 359 = .ok (.getfield 84, 3) := dk_180 0 84 (dk_at dksX3_sameNow_15 8 rfl rfl)
theorem dX3_sameNow_362 : decode cX3_sameNow 362 = .ok (.iload 8, 2) := dk_21 8 (dk_at dksX3_sameNow_15 11 rfl rfl)
theorem dX3_sameNow_364 : decode cX3_sameNow 364 = .ok (.aload_n 0, 1) := dk_42 (dk_at dksX3_sameNow_15 13 rfl rfl)
theorem dX3_sameNow_365 : decode cX3_sameNow 365 = .ok (.getfield 99, 3) := dk_180 0 99 (dk_at dksX3_sameNow_15 14 rfl rfl)
theorem dX3_sameNow_368 : decode cX3_sameNow 368 = .ok (.iload 8, 2) := dk_21 8 (dk_at dksX3_sameNow_15 17 rfl rfl)
theorem dX3_sameNow_370 : decode cX3_sameNow 370 = .ok (.iaload, 1) := dk_46 (dk_at dksX3_sameNow_15 19 rfl rfl)
theorem dX3_sameNow_371 : decode cX3_sameNow 371 = .ok (.iastore, 1) := dk_79 (dk_at dksX3_sameNow_15 20 rfl rfl)
theorem dX3_sameNow_372 : decode cX3_sameNow 372 = .ok (.iinc 8 1, 3) := dk_132 8 1 (dk_at dksX3_sameNow_15 21 rfl rfl)
theorem dX3_sameNow_375 : decode cX3_sameNow 375 = .ok (.goto (-24), 3) := dk_167 255 232 (dk_at dksX3_sameNow_16 0 rfl rfl)
theorem dX3_sameNow_378 : decode cX3_sameNow 378 = .ok (.aload_n 0, 1) := dk_42 (dk_at dksX3_sameNow_16 3 rfl rfl)
theorem dX3_sameNow_379 : decode cX3_sameNow 379 = .ok (.iload 4, 2) := dk_21 4 (dk_at dksX3_sameNow_16 4 rfl rfl)
theorem dX3_sameNow_381 : decode cX3_sameNow 381 = .ok (.putfield 377, 3) := dk_181 1 121 (dk_at dksX3_sameNow_16 6 rfl rfl)
theorem dX3_sameNow_384 : decode cX3_sameNow 384 = .ok (.aload_n 0, 1) := dk_42 (dk_at dksX3_sameNow_16 9 rfl rfl)
theorem dX3_sameNow_385 : decode cX3_sameNow 385 = .ok (.iload 5, 2) := dk_21 5 (dk_at dksX3_sameNow_16 10 rfl rfl)
theorem dX3_sameNow_387 : decode cX3_sameNow 387 = .ok (.putfield 380, 3) := dk_181 1 124 (dk_at dksX3_sameNow_16 12 rfl rfl)
theorem dX3_sameNow_390 : decode cX3_sameNow 390 = .ok (.iload 7, 2) := dk_21 7 (dk_at dksX3_sameNow_16 15 rfl rfl)
theorem dX3_sameNow_392 : decode cX3_sameNow 392 = .ok (.ifCond .eq 7, 3) := dk_153 0 7 (dk_at dksX3_sameNow_16 17 rfl rfl)
theorem dX3_sameNow_395 : decode cX3_sameNow 395 = .ok (.iconst 1, 1) := dk_4 (dk_at dksX3_sameNow_16 20 rfl rfl)
theorem dX3_sameNow_396 : decode cX3_sameNow 396 = .ok (.goto 4, 3) := dk_167 0 4 (dk_at dksX3_sameNow_16 21 rfl rfl)
theorem dX3_sameNow_399 : decode cX3_sameNow 399 = .ok (.iconst 0, 1) := dk_3 (dk_at dksX3_sameNow_17 0 rfl rfl)
theorem dX3_sameNow_400 : decode cX3_sameNow 400 = .ok (.ireturn, 1) := dk_172 (dk_at dksX3_sameNow_17 1 rfl rfl)
abbrev cX3_faults : ByteArray := prog_18_method_110_code
def yX3_faults : MethodName := ⟨RX3, "faults", "(I)I"⟩
def dkwX3_faults_0 : List UInt8 := [27, 3, 5, 184, 0, 114, 153, 0, 12, 42, 180, 0, 81, 27, 46, 167, 0, 5, 16, 254, 172]
abbrev dktX3_faults_0 : List UInt8 := dkwX3_faults_0 ++ []
theorem dksX3_faults_0 : cX3_faults.data.toList.drop 0 = dktX3_faults_0 := by decide +kernel
theorem dX3_faults_0 : decode cX3_faults 0 = .ok (.iload_n 1, 1) := dk_27 (dk_at dksX3_faults_0 0 rfl rfl)
theorem dX3_faults_1 : decode cX3_faults 1 = .ok (.iconst 0, 1) := dk_3 (dk_at dksX3_faults_0 1 rfl rfl)
theorem dX3_faults_2 : decode cX3_faults 2 = .ok (.iconst 2, 1) := dk_5 (dk_at dksX3_faults_0 2 rfl rfl)
theorem dX3_faults_3 : decode cX3_faults 3 = .ok (.invokestatic 114, 3) := dk_184 0 114 (dk_at dksX3_faults_0 3 rfl rfl)
theorem dX3_faults_6 : decode cX3_faults 6 = .ok (.ifCond .eq 12, 3) := dk_153 0 12 (dk_at dksX3_faults_0 6 rfl rfl)
theorem dX3_faults_9 : decode cX3_faults 9 = .ok (.aload_n 0, 1) := dk_42 (dk_at dksX3_faults_0 9 rfl rfl)
theorem dX3_faults_10 : decode cX3_faults 10 = .ok (.getfield 81, 3) := dk_180 0 81 (dk_at dksX3_faults_0 10 rfl rfl)
theorem dX3_faults_13 : decode cX3_faults 13 = .ok (.iload_n 1, 1) := dk_27 (dk_at dksX3_faults_0 13 rfl rfl)
theorem dX3_faults_14 : decode cX3_faults 14 = .ok (.iaload, 1) := dk_46 (dk_at dksX3_faults_0 14 rfl rfl)
theorem dX3_faults_15 : decode cX3_faults 15 = .ok (.goto 5, 3) := dk_167 0 5 (dk_at dksX3_faults_0 15 rfl rfl)
theorem dX3_faults_18 : decode cX3_faults 18 = .ok (.bipush (-2), 2) := dk_16 254 (dk_at dksX3_faults_0 18 rfl rfl)
theorem dX3_faults_20 : decode cX3_faults 20 = .ok (.ireturn, 1) := dk_172 (dk_at dksX3_faults_0 20 rfl rfl)
abbrev cX3_ended : ByteArray := prog_18_method_111_code
def yX3_ended : MethodName := ⟨RX3, "ended", "(I)I"⟩
def dkwX3_ended_1 : List UInt8 := [180, 0, 84, 27, 46, 167, 0, 4, 2, 172]
abbrev dktX3_ended_1 : List UInt8 := dkwX3_ended_1 ++ []
def dkwX3_ended_0 : List UInt8 := [27, 3, 16, 9, 184, 0, 114, 154, 0, 8, 16, 254, 167, 0, 21, 27, 42, 180, 1, 124, 162, 0, 12, 42]
abbrev dktX3_ended_0 : List UInt8 := dkwX3_ended_0 ++ dktX3_ended_1
theorem dksX3_ended_0 : cX3_ended.data.toList.drop 0 = dktX3_ended_0 := by decide +kernel
theorem dksX3_ended_1 : cX3_ended.data.toList.drop 24 = dktX3_ended_1 := dk_seg dksX3_ended_0 24 rfl rfl
theorem dX3_ended_0 : decode cX3_ended 0 = .ok (.iload_n 1, 1) := dk_27 (dk_at dksX3_ended_0 0 rfl rfl)
theorem dX3_ended_1 : decode cX3_ended 1 = .ok (.iconst 0, 1) := dk_3 (dk_at dksX3_ended_0 1 rfl rfl)
theorem dX3_ended_2 : decode cX3_ended 2 = .ok (.bipush 9, 2) := dk_16 9 (dk_at dksX3_ended_0 2 rfl rfl)
theorem dX3_ended_4 : decode cX3_ended 4 = .ok (.invokestatic 114, 3) := dk_184 0 114 (dk_at dksX3_ended_0 4 rfl rfl)
theorem dX3_ended_7 : decode cX3_ended 7 = .ok (.ifCond .ne 8, 3) := dk_154 0 8 (dk_at dksX3_ended_0 7 rfl rfl)
theorem dX3_ended_10 : decode cX3_ended 10 = .ok (.bipush (-2), 2) := dk_16 254 (dk_at dksX3_ended_0 10 rfl rfl)
theorem dX3_ended_12 : decode cX3_ended 12 = .ok (.goto 21, 3) := dk_167 0 21 (dk_at dksX3_ended_0 12 rfl rfl)
theorem dX3_ended_15 : decode cX3_ended 15 = .ok (.iload_n 1, 1) := dk_27 (dk_at dksX3_ended_0 15 rfl rfl)
theorem dX3_ended_16 : decode cX3_ended 16 = .ok (.aload_n 0, 1) := dk_42 (dk_at dksX3_ended_0 16 rfl rfl)
theorem dX3_ended_17 : decode cX3_ended 17 = .ok (.getfield 380, 3) := dk_180 1 124 (dk_at dksX3_ended_0 17 rfl rfl)
theorem dX3_ended_20 : decode cX3_ended 20 = .ok (.if_icmp .ge 12, 3) := dk_162 0 12 (dk_at dksX3_ended_0 20 rfl rfl)
theorem dX3_ended_23 : decode cX3_ended 23 = .ok (.aload_n 0, 1) := dk_42 (dk_at dksX3_ended_0 23 rfl rfl)
theorem dX3_ended_24 : decode cX3_ended 24 = .ok (.getfield 84, 3) := dk_180 0 84 (dk_at dksX3_ended_1 0 rfl rfl)
theorem dX3_ended_27 : decode cX3_ended 27 = .ok (.iload_n 1, 1) := dk_27 (dk_at dksX3_ended_1 3 rfl rfl)
theorem dX3_ended_28 : decode cX3_ended 28 = .ok (.iaload, 1) := dk_46 (dk_at dksX3_ended_1 4 rfl rfl)
theorem dX3_ended_29 : decode cX3_ended 29 = .ok (.goto 4, 3) := dk_167 0 4 (dk_at dksX3_ended_1 5 rfl rfl)
theorem dX3_ended_32 : decode cX3_ended 32 = .ok (.iconst (-1), 1) := dk_2 (dk_at dksX3_ended_1 8 rfl rfl)
theorem dX3_ended_33 : decode cX3_ended 33 = .ok (.ireturn, 1) := dk_172 (dk_at dksX3_ended_1 9 rfl rfl)
abbrev cX3_writer : ByteArray := prog_18_method_112_code
def yX3_writer : MethodName := ⟨RX3, "writer", "(II)I"⟩
def dkwX3_writer_1 : List UInt8 := [182, 0, 126, 167, 0, 14, 42, 180, 0, 20, 16, 24, 27, 104, 28, 96, 46, 172]
abbrev dktX3_writer_1 : List UInt8 := dkwX3_writer_1 ++ []
def dkwX3_writer_0 : List UInt8 := [27, 184, 0, 122, 154, 0, 6, 16, 254, 172, 42, 27, 28, 182, 0, 144, 62, 29, 158, 0, 11, 42, 29]
abbrev dktX3_writer_0 : List UInt8 := dkwX3_writer_0 ++ dktX3_writer_1
theorem dksX3_writer_0 : cX3_writer.data.toList.drop 0 = dktX3_writer_0 := by decide +kernel
theorem dksX3_writer_1 : cX3_writer.data.toList.drop 23 = dktX3_writer_1 := dk_seg dksX3_writer_0 23 rfl rfl
theorem dX3_writer_0 : decode cX3_writer 0 = .ok (.iload_n 1, 1) := dk_27 (dk_at dksX3_writer_0 0 rfl rfl)
theorem dX3_writer_1 : decode cX3_writer 1 = .ok (.invokestatic 122, 3) := dk_184 0 122 (dk_at dksX3_writer_0 1 rfl rfl)
theorem dX3_writer_4 : decode cX3_writer 4 = .ok (.ifCond .ne 6, 3) := dk_154 0 6 (dk_at dksX3_writer_0 4 rfl rfl)
theorem dX3_writer_7 : decode cX3_writer 7 = .ok (.bipush (-2), 2) := dk_16 254 (dk_at dksX3_writer_0 7 rfl rfl)
theorem dX3_writer_9 : decode cX3_writer 9 = .ok (.ireturn, 1) := dk_172 (dk_at dksX3_writer_0 9 rfl rfl)
theorem dX3_writer_10 : decode cX3_writer 10 = .ok (.aload_n 0, 1) := dk_42 (dk_at dksX3_writer_0 10 rfl rfl)
theorem dX3_writer_11 : decode cX3_writer 11 = .ok (.iload_n 1, 1) := dk_27 (dk_at dksX3_writer_0 11 rfl rfl)
theorem dX3_writer_12 : decode cX3_writer 12 = .ok (.iload_n 2, 1) := dk_28 (dk_at dksX3_writer_0 12 rfl rfl)
theorem dX3_writer_13 : decode cX3_writer 13 = .ok (.invokevirtual 144, 3) := dk_182 0 144 (dk_at dksX3_writer_0 13 rfl rfl)
theorem dX3_writer_16 : decode cX3_writer 16 = .ok (.istore_n 3, 1) := dk_62 (dk_at dksX3_writer_0 16 rfl rfl)
theorem dX3_writer_17 : decode cX3_writer 17 = .ok (.iload_n 3, 1) := dk_29 (dk_at dksX3_writer_0 17 rfl rfl)
theorem dX3_writer_18 : decode cX3_writer 18 = .ok (.ifCond .le 11, 3) := dk_158 0 11 (dk_at dksX3_writer_0 18 rfl rfl)
theorem dX3_writer_21 : decode cX3_writer 21 = .ok (.aload_n 0, 1) := dk_42 (dk_at dksX3_writer_0 21 rfl rfl)
theorem dX3_writer_22 : decode cX3_writer 22 = .ok (.iload_n 3, 1) := dk_29 (dk_at dksX3_writer_0 22 rfl rfl)
theorem dX3_writer_23 : decode cX3_writer 23 = .ok (.invokevirtual 126, 3) := dk_182 0 126 (dk_at dksX3_writer_1 0 rfl rfl)
theorem dX3_writer_26 : decode cX3_writer 26 = .ok (.goto 14, 3) := dk_167 0 14 (dk_at dksX3_writer_1 3 rfl rfl)
theorem dX3_writer_29 : decode cX3_writer 29 = .ok (.aload_n 0, 1) := dk_42 (dk_at dksX3_writer_1 6 rfl rfl)
theorem dX3_writer_30 : decode cX3_writer 30 = .ok (.getfield 20, 3) := dk_180 0 20 (dk_at dksX3_writer_1 7 rfl rfl)
theorem dX3_writer_33 : decode cX3_writer 33 = .ok (.bipush 24, 2) := dk_16 24 (dk_at dksX3_writer_1 10 rfl rfl)
theorem dX3_writer_35 : decode cX3_writer 35 = .ok (.iload_n 1, 1) := dk_27 (dk_at dksX3_writer_1 12 rfl rfl)
theorem dX3_writer_36 : decode cX3_writer 36 = .ok (.imul, 1) := dk_104 (dk_at dksX3_writer_1 13 rfl rfl)
theorem dX3_writer_37 : decode cX3_writer 37 = .ok (.iload_n 2, 1) := dk_28 (dk_at dksX3_writer_1 14 rfl rfl)
theorem dX3_writer_38 : decode cX3_writer 38 = .ok (.iadd, 1) := dk_96 (dk_at dksX3_writer_1 15 rfl rfl)
theorem dX3_writer_39 : decode cX3_writer 39 = .ok (.iaload, 1) := dk_46 (dk_at dksX3_writer_1 16 rfl rfl)
theorem dX3_writer_40 : decode cX3_writer 40 = .ok (.ireturn, 1) := dk_172 (dk_at dksX3_writer_1 17 rfl rfl)
abbrev cX3_count : ByteArray := prog_18_method_114_code
def yX3_count : MethodName := ⟨RX3, "count", "(I)I"⟩
def dkwX3_count_4 : List UInt8 := [42, 180, 0, 110, 172, 16, 254, 172]
abbrev dktX3_count_4 : List UInt8 := dkwX3_count_4 ++ []
def dkwX3_count_3 : List UInt8 := [154, 0, 7, 4, 167, 0, 4, 3, 172, 42, 182, 1, 151, 172, 42, 180, 1, 121, 172, 42, 182, 1, 164, 172]
abbrev dktX3_count_3 : List UInt8 := dkwX3_count_3 ++ dktX3_count_4
def dkwX3_count_2 : List UInt8 := [42, 180, 0, 154, 172, 42, 180, 0, 171, 172, 42, 180, 0, 151, 172, 42, 180, 0, 161, 172, 42, 182, 1, 151]
abbrev dktX3_count_2 : List UInt8 := dkwX3_count_2 ++ dktX3_count_3
def dkwX3_count_1 : List UInt8 := [170, 0, 0, 0, 0, 0, 104, 0, 0, 0, 0, 0, 0, 0, 8, 0, 0, 0, 51, 0, 0, 0, 56, 0, 0, 0, 61, 0, 0, 0, 66, 0, 0, 0, 71, 0, 0, 0, 84, 0, 0, 0, 89, 0, 0, 0, 94, 0, 0, 0, 99]
abbrev dktX3_count_1 : List UInt8 := dkwX3_count_1 ++ dktX3_count_2
def dkwX3_count_0 : List UInt8 := [27]
abbrev dktX3_count_0 : List UInt8 := dkwX3_count_0 ++ dktX3_count_1
theorem dksX3_count_0 : cX3_count.data.toList.drop 0 = dktX3_count_0 := by decide +kernel
theorem dksX3_count_1 : cX3_count.data.toList.drop 1 = dktX3_count_1 := dk_seg dksX3_count_0 1 rfl rfl
theorem dksX3_count_2 : cX3_count.data.toList.drop 52 = dktX3_count_2 := dk_seg dksX3_count_1 51 rfl rfl
theorem dksX3_count_3 : cX3_count.data.toList.drop 76 = dktX3_count_3 := dk_seg dksX3_count_2 24 rfl rfl
theorem dksX3_count_4 : cX3_count.data.toList.drop 100 = dktX3_count_4 := dk_seg dksX3_count_3 24 rfl rfl
theorem dX3_count_0 : decode cX3_count 0 = .ok (.iload_n 1, 1) := dk_27 (dk_at dksX3_count_0 0 rfl rfl)
theorem dX3_count_1 : decode cX3_count 1 = .ok (.tableswitch 104 0 8 #[51, 56, 61, 66, 71, 84, 89, 94, 99], 51) := by decide +kernel
theorem dX3_count_52 : decode cX3_count 52 = .ok (.aload_n 0, 1) := dk_42 (dk_at dksX3_count_2 0 rfl rfl)
theorem dX3_count_53 : decode cX3_count 53 = .ok (.getfield 154, 3) := dk_180 0 154 (dk_at dksX3_count_2 1 rfl rfl)
theorem dX3_count_56 : decode cX3_count 56 = .ok (.ireturn, 1) := dk_172 (dk_at dksX3_count_2 4 rfl rfl)
theorem dX3_count_57 : decode cX3_count 57 = .ok (.aload_n 0, 1) := dk_42 (dk_at dksX3_count_2 5 rfl rfl)
theorem dX3_count_58 : decode cX3_count 58 = .ok (.getfield 171, 3) := dk_180 0 171 (dk_at dksX3_count_2 6 rfl rfl)
theorem dX3_count_61 : decode cX3_count 61 = .ok (.ireturn, 1) := dk_172 (dk_at dksX3_count_2 9 rfl rfl)
theorem dX3_count_62 : decode cX3_count 62 = .ok (.aload_n 0, 1) := dk_42 (dk_at dksX3_count_2 10 rfl rfl)
theorem dX3_count_63 : decode cX3_count 63 = .ok (.getfield 151, 3) := dk_180 0 151 (dk_at dksX3_count_2 11 rfl rfl)
theorem dX3_count_66 : decode cX3_count 66 = .ok (.ireturn, 1) := dk_172 (dk_at dksX3_count_2 14 rfl rfl)
theorem dX3_count_67 : decode cX3_count 67 = .ok (.aload_n 0, 1) := dk_42 (dk_at dksX3_count_2 15 rfl rfl)
theorem dX3_count_68 : decode cX3_count 68 = .ok (.getfield 161, 3) := dk_180 0 161 (dk_at dksX3_count_2 16 rfl rfl)
theorem dX3_count_71 : decode cX3_count 71 = .ok (.ireturn, 1) := dk_172 (dk_at dksX3_count_2 19 rfl rfl)
theorem dX3_count_72 : decode cX3_count 72 = .ok (.aload_n 0, 1) := dk_42 (dk_at dksX3_count_2 20 rfl rfl)
theorem dX3_count_73 : decode cX3_count 73 = .ok (.invokevirtual 407, 3) := dk_182 1 151 (dk_at dksX3_count_2 21 rfl rfl)
theorem dX3_count_76 : decode cX3_count 76 = .ok (.ifCond .ne 7, 3) := dk_154 0 7 (dk_at dksX3_count_3 0 rfl rfl)
theorem dX3_count_79 : decode cX3_count 79 = .ok (.iconst 1, 1) := dk_4 (dk_at dksX3_count_3 3 rfl rfl)
theorem dX3_count_80 : decode cX3_count 80 = .ok (.goto 4, 3) := dk_167 0 4 (dk_at dksX3_count_3 4 rfl rfl)
theorem dX3_count_83 : decode cX3_count 83 = .ok (.iconst 0, 1) := dk_3 (dk_at dksX3_count_3 7 rfl rfl)
theorem dX3_count_84 : decode cX3_count 84 = .ok (.ireturn, 1) := dk_172 (dk_at dksX3_count_3 8 rfl rfl)
theorem dX3_count_85 : decode cX3_count 85 = .ok (.aload_n 0, 1) := dk_42 (dk_at dksX3_count_3 9 rfl rfl)
theorem dX3_count_86 : decode cX3_count 86 = .ok (.invokevirtual 407, 3) := dk_182 1 151 (dk_at dksX3_count_3 10 rfl rfl)
theorem dX3_count_89 : decode cX3_count 89 = .ok (.ireturn, 1) := dk_172 (dk_at dksX3_count_3 13 rfl rfl)
theorem dX3_count_90 : decode cX3_count 90 = .ok (.aload_n 0, 1) := dk_42 (dk_at dksX3_count_3 14 rfl rfl)
theorem dX3_count_91 : decode cX3_count 91 = .ok (.getfield 377, 3) := dk_180 1 121 (dk_at dksX3_count_3 15 rfl rfl)
theorem dX3_count_94 : decode cX3_count 94 = .ok (.ireturn, 1) := dk_172 (dk_at dksX3_count_3 18 rfl rfl)
theorem dX3_count_95 : decode cX3_count 95 = .ok (.aload_n 0, 1) := dk_42 (dk_at dksX3_count_3 19 rfl rfl)
theorem dX3_count_96 : decode cX3_count 96 = .ok (.invokevirtual 420, 3) := dk_182 1 164 (dk_at dksX3_count_3 20 rfl rfl)
theorem dX3_count_99 : decode cX3_count 99 = .ok (.ireturn, 1) := dk_172 (dk_at dksX3_count_3 23 rfl rfl)
theorem dX3_count_100 : decode cX3_count 100 = .ok (.aload_n 0, 1) := dk_42 (dk_at dksX3_count_4 0 rfl rfl)
theorem dX3_count_101 : decode cX3_count 101 = .ok (.getfield 110, 3) := dk_180 0 110 (dk_at dksX3_count_4 1 rfl rfl)
theorem dX3_count_104 : decode cX3_count 104 = .ok (.ireturn, 1) := dk_172 (dk_at dksX3_count_4 4 rfl rfl)
theorem dX3_count_105 : decode cX3_count 105 = .ok (.bipush (-2), 2) := dk_16 254 (dk_at dksX3_count_4 5 rfl rfl)
theorem dX3_count_107 : decode cX3_count 107 = .ok (.ireturn, 1) := dk_172 (dk_at dksX3_count_4 7 rfl rfl)
abbrev cX3_missing : ByteArray := prog_18_method_113_code
def yX3_missing : MethodName := ⟨RX3, "missing", "()I"⟩
def dkwX3_missing_1 : List UInt8 := [167, 0, 4, 3, 96, 60, 132, 2, 1, 167, 255, 229, 27, 172]
abbrev dktX3_missing_1 : List UInt8 := dkwX3_missing_1 ++ []
def dkwX3_missing_0 : List UInt8 := [3, 60, 3, 61, 28, 16, 6, 162, 0, 27, 27, 42, 180, 0, 7, 28, 46, 2, 160, 0, 7, 4]
abbrev dktX3_missing_0 : List UInt8 := dkwX3_missing_0 ++ dktX3_missing_1
theorem dksX3_missing_0 : cX3_missing.data.toList.drop 0 = dktX3_missing_0 := by decide +kernel
theorem dksX3_missing_1 : cX3_missing.data.toList.drop 22 = dktX3_missing_1 := dk_seg dksX3_missing_0 22 rfl rfl
theorem dX3_missing_0 : decode cX3_missing 0 = .ok (.iconst 0, 1) := dk_3 (dk_at dksX3_missing_0 0 rfl rfl)
theorem dX3_missing_1 : decode cX3_missing 1 = .ok (.istore_n 1, 1) := dk_60 (dk_at dksX3_missing_0 1 rfl rfl)
theorem dX3_missing_2 : decode cX3_missing 2 = .ok (.iconst 0, 1) := dk_3 (dk_at dksX3_missing_0 2 rfl rfl)
theorem dX3_missing_3 : decode cX3_missing 3 = .ok (.istore_n 2, 1) := dk_61 (dk_at dksX3_missing_0 3 rfl rfl)
theorem dX3_missing_4 : decode cX3_missing 4 = .ok (.iload_n 2, 1) := dk_28 (dk_at dksX3_missing_0 4 rfl rfl)
theorem dX3_missing_5 : decode cX3_missing 5 = .ok (.bipush 6, 2) := dk_16 6 (dk_at dksX3_missing_0 5 rfl rfl)
theorem dX3_missing_7 : decode cX3_missing 7 = .ok (.if_icmp .ge 27, 3) := dk_162 0 27 (dk_at dksX3_missing_0 7 rfl rfl)
theorem dX3_missing_10 : decode cX3_missing 10 = .ok (.iload_n 1, 1) := dk_27 (dk_at dksX3_missing_0 10 rfl rfl)
theorem dX3_missing_11 : decode cX3_missing 11 = .ok (.aload_n 0, 1) := dk_42 (dk_at dksX3_missing_0 11 rfl rfl)
theorem dX3_missing_12 : decode cX3_missing 12 = .ok (.getfield 7, 3) := dk_180 0 7 (dk_at dksX3_missing_0 12 rfl rfl)
theorem dX3_missing_15 : decode cX3_missing 15 = .ok (.iload_n 2, 1) := dk_28 (dk_at dksX3_missing_0 15 rfl rfl)
theorem dX3_missing_16 : decode cX3_missing 16 = .ok (.iaload, 1) := dk_46 (dk_at dksX3_missing_0 16 rfl rfl)
theorem dX3_missing_17 : decode cX3_missing 17 = .ok (.iconst (-1), 1) := dk_2 (dk_at dksX3_missing_0 17 rfl rfl)
theorem dX3_missing_18 : decode cX3_missing 18 = .ok (.if_icmp .ne 7, 3) := dk_160 0 7 (dk_at dksX3_missing_0 18 rfl rfl)
theorem dX3_missing_21 : decode cX3_missing 21 = .ok (.iconst 1, 1) := dk_4 (dk_at dksX3_missing_0 21 rfl rfl)
theorem dX3_missing_22 : decode cX3_missing 22 = .ok (.goto 4, 3) := dk_167 0 4 (dk_at dksX3_missing_1 0 rfl rfl)
theorem dX3_missing_25 : decode cX3_missing 25 = .ok (.iconst 0, 1) := dk_3 (dk_at dksX3_missing_1 3 rfl rfl)
theorem dX3_missing_26 : decode cX3_missing 26 = .ok (.iadd, 1) := dk_96 (dk_at dksX3_missing_1 4 rfl rfl)
theorem dX3_missing_27 : decode cX3_missing 27 = .ok (.istore_n 1, 1) := dk_60 (dk_at dksX3_missing_1 5 rfl rfl)
theorem dX3_missing_28 : decode cX3_missing 28 = .ok (.iinc 2 1, 3) := dk_132 2 1 (dk_at dksX3_missing_1 6 rfl rfl)
theorem dX3_missing_31 : decode cX3_missing 31 = .ok (.goto (-27), 3) := dk_167 255 229 (dk_at dksX3_missing_1 9 rfl rfl)
theorem dX3_missing_34 : decode cX3_missing 34 = .ok (.iload_n 1, 1) := dk_27 (dk_at dksX3_missing_1 12 rfl rfl)
theorem dX3_missing_35 : decode cX3_missing 35 = .ok (.ireturn, 1) := dk_172 (dk_at dksX3_missing_1 13 rfl rfl)
abbrev cX3_digest : ByteArray := prog_18_method_118_code
def yX3_digest : MethodName := ⟨RX3, "digest", "()J"⟩
def dkwX3_digest_6 : List UInt8 := [132, 3, 1, 167, 255, 234, 31, 173]
abbrev dktX3_digest_6 : List UInt8 := dkwX3_digest_6 ++ []
def dkwX3_digest_5 : List UInt8 := [167, 255, 234, 3, 62, 29, 16, 10, 162, 0, 22, 20, 1, 167, 31, 105, 42, 29, 182, 1, 184, 133, 97, 64]
abbrev dktX3_digest_5 : List UInt8 := dkwX3_digest_5 ++ dktX3_digest_6
def dkwX3_digest_4 : List UInt8 := [3, 62, 29, 6, 162, 0, 23, 20, 1, 167, 31, 105, 42, 180, 0, 81, 29, 46, 133, 97, 64, 132, 3, 1]
abbrev dktX3_digest_4 : List UInt8 := dkwX3_digest_4 ++ dktX3_digest_5
def dkwX3_digest_3 : List UInt8 := [167, 255, 240, 3, 62, 29, 16, 6, 162, 0, 16, 42, 31, 29, 182, 1, 181, 64, 132, 3, 1, 167, 255, 240]
abbrev dktX3_digest_3 : List UInt8 := dkwX3_digest_3 ++ dktX3_digest_4
def dkwX3_digest_2 : List UInt8 := [132, 3, 1, 167, 255, 238, 3, 62, 29, 16, 6, 162, 0, 16, 42, 31, 29, 182, 1, 178, 64, 132, 3, 1]
abbrev dktX3_digest_2 : List UInt8 := dkwX3_digest_2 ++ dktX3_digest_3
def dkwX3_digest_1 : List UInt8 := [64, 132, 3, 1, 167, 255, 234, 3, 62, 29, 42, 180, 0, 171, 162, 0, 16, 42, 31, 29, 182, 1, 174, 64]
abbrev dktX3_digest_1 : List UInt8 := dkwX3_digest_1 ++ dktX3_digest_2
def dkwX3_digest_0 : List UInt8 := [20, 1, 169, 64, 3, 62, 29, 16, 8, 162, 0, 22, 20, 1, 167, 31, 105, 42, 29, 182, 1, 171, 133, 97]
abbrev dktX3_digest_0 : List UInt8 := dkwX3_digest_0 ++ dktX3_digest_1
theorem dksX3_digest_0 : cX3_digest.data.toList.drop 0 = dktX3_digest_0 := by decide +kernel
theorem dksX3_digest_1 : cX3_digest.data.toList.drop 24 = dktX3_digest_1 := dk_seg dksX3_digest_0 24 rfl rfl
theorem dksX3_digest_2 : cX3_digest.data.toList.drop 48 = dktX3_digest_2 := dk_seg dksX3_digest_1 24 rfl rfl
theorem dksX3_digest_3 : cX3_digest.data.toList.drop 72 = dktX3_digest_3 := dk_seg dksX3_digest_2 24 rfl rfl
theorem dksX3_digest_4 : cX3_digest.data.toList.drop 96 = dktX3_digest_4 := dk_seg dksX3_digest_3 24 rfl rfl
theorem dksX3_digest_5 : cX3_digest.data.toList.drop 120 = dktX3_digest_5 := dk_seg dksX3_digest_4 24 rfl rfl
theorem dksX3_digest_6 : cX3_digest.data.toList.drop 144 = dktX3_digest_6 := dk_seg dksX3_digest_5 24 rfl rfl
theorem dX3_digest_0 : decode cX3_digest 0 = .ok (.ldc2_w 425, 3) := dk_20 1 169 (dk_at dksX3_digest_0 0 rfl rfl)
theorem dX3_digest_3 : decode cX3_digest 3 = .ok (.lstore_n 1, 1) := dk_64 (dk_at dksX3_digest_0 3 rfl rfl)
theorem dX3_digest_4 : decode cX3_digest 4 = .ok (.iconst 0, 1) := dk_3 (dk_at dksX3_digest_0 4 rfl rfl)
theorem dX3_digest_5 : decode cX3_digest 5 = .ok (.istore_n 3, 1) := dk_62 (dk_at dksX3_digest_0 5 rfl rfl)
theorem dX3_digest_6 : decode cX3_digest 6 = .ok (.iload_n 3, 1) := dk_29 (dk_at dksX3_digest_0 6 rfl rfl)
theorem dX3_digest_7 : decode cX3_digest 7 = .ok (.bipush 8, 2) := dk_16 8 (dk_at dksX3_digest_0 7 rfl rfl)
theorem dX3_digest_9 : decode cX3_digest 9 = .ok (.if_icmp .ge 22, 3) := dk_162 0 22 (dk_at dksX3_digest_0 9 rfl rfl)
theorem dX3_digest_12 : decode cX3_digest 12 = .ok (.ldc2_w 423, 3) := dk_20 1 167 (dk_at dksX3_digest_0 12 rfl rfl)
theorem dX3_digest_15 : decode cX3_digest 15 = .ok (.lload_n 1, 1) := dk_31 (dk_at dksX3_digest_0 15 rfl rfl)
theorem dX3_digest_16 : decode cX3_digest 16 = .ok (.lmul, 1) := dk_105 (dk_at dksX3_digest_0 16 rfl rfl)
theorem dX3_digest_17 : decode cX3_digest 17 = .ok (.aload_n 0, 1) := dk_42 (dk_at dksX3_digest_0 17 rfl rfl)
theorem dX3_digest_18 : decode cX3_digest 18 = .ok (.iload_n 3, 1) := dk_29 (dk_at dksX3_digest_0 18 rfl rfl)
theorem dX3_digest_19 : decode cX3_digest 19 = .ok (.invokevirtual 427, 3) := dk_182 1 171 (dk_at dksX3_digest_0 19 rfl rfl)
theorem dX3_digest_22 : decode cX3_digest 22 = .ok (.i2l, 1) := dk_133 (dk_at dksX3_digest_0 22 rfl rfl)
theorem dX3_digest_23 : decode cX3_digest 23 = .ok (.ladd, 1) := dk_97 (dk_at dksX3_digest_0 23 rfl rfl)
theorem dX3_digest_24 : decode cX3_digest 24 = .ok (.lstore_n 1, 1) := dk_64 (dk_at dksX3_digest_1 0 rfl rfl)
theorem dX3_digest_25 : decode cX3_digest 25 = .ok (.iinc 3 1, 3) := dk_132 3 1 (dk_at dksX3_digest_1 1 rfl rfl)
theorem dX3_digest_28 : decode cX3_digest 28 = .ok (.goto (-22), 3) := dk_167 255 234 (dk_at dksX3_digest_1 4 rfl rfl)
theorem dX3_digest_31 : decode cX3_digest 31 = .ok (.iconst 0, 1) := dk_3 (dk_at dksX3_digest_1 7 rfl rfl)
theorem dX3_digest_32 : decode cX3_digest 32 = .ok (.istore_n 3, 1) := dk_62 (dk_at dksX3_digest_1 8 rfl rfl)
theorem dX3_digest_33 : decode cX3_digest 33 = .ok (.iload_n 3, 1) := dk_29 (dk_at dksX3_digest_1 9 rfl rfl)
theorem dX3_digest_34 : decode cX3_digest 34 = .ok (.aload_n 0, 1) := dk_42 (dk_at dksX3_digest_1 10 rfl rfl)
theorem dX3_digest_35 : decode cX3_digest 35 = .ok (.getfield 171, 3) := dk_180 0 171 (dk_at dksX3_digest_1 11 rfl rfl)
theorem dX3_digest_38 : decode cX3_digest 38 = .ok (.if_icmp .ge 16, 3) := dk_162 0 16 (dk_at dksX3_digest_1 14 rfl rfl)
theorem dX3_digest_41 : decode cX3_digest 41 = .ok (.aload_n 0, 1) := dk_42 (dk_at dksX3_digest_1 17 rfl rfl)
theorem dX3_digest_42 : decode cX3_digest 42 = .ok (.lload_n 1, 1) := dk_31 (dk_at dksX3_digest_1 18 rfl rfl)
theorem dX3_digest_43 : decode cX3_digest 43 = .ok (.iload_n 3, 1) := dk_29 (dk_at dksX3_digest_1 19 rfl rfl)
theorem dX3_digest_44 : decode cX3_digest 44 = .ok (.invokevirtual 430, 3) := dk_182 1 174 (dk_at dksX3_digest_1 20 rfl rfl)
theorem dX3_digest_47 : decode cX3_digest 47 = .ok (.lstore_n 1, 1) := dk_64 (dk_at dksX3_digest_1 23 rfl rfl)
theorem dX3_digest_48 : decode cX3_digest 48 = .ok (.iinc 3 1, 3) := dk_132 3 1 (dk_at dksX3_digest_2 0 rfl rfl)
theorem dX3_digest_51 : decode cX3_digest 51 = .ok (.goto (-18), 3) := dk_167 255 238 (dk_at dksX3_digest_2 3 rfl rfl)
theorem dX3_digest_54 : decode cX3_digest 54 = .ok (.iconst 0, 1) := dk_3 (dk_at dksX3_digest_2 6 rfl rfl)
theorem dX3_digest_55 : decode cX3_digest 55 = .ok (.istore_n 3, 1) := dk_62 (dk_at dksX3_digest_2 7 rfl rfl)
theorem dX3_digest_56 : decode cX3_digest 56 = .ok (.iload_n 3, 1) := dk_29 (dk_at dksX3_digest_2 8 rfl rfl)
theorem dX3_digest_57 : decode cX3_digest 57 = .ok (.bipush 6, 2) := dk_16 6 (dk_at dksX3_digest_2 9 rfl rfl)
theorem dX3_digest_59 : decode cX3_digest 59 = .ok (.if_icmp .ge 16, 3) := dk_162 0 16 (dk_at dksX3_digest_2 11 rfl rfl)
theorem dX3_digest_62 : decode cX3_digest 62 = .ok (.aload_n 0, 1) := dk_42 (dk_at dksX3_digest_2 14 rfl rfl)
theorem dX3_digest_63 : decode cX3_digest 63 = .ok (.lload_n 1, 1) := dk_31 (dk_at dksX3_digest_2 15 rfl rfl)
theorem dX3_digest_64 : decode cX3_digest 64 = .ok (.iload_n 3, 1) := dk_29 (dk_at dksX3_digest_2 16 rfl rfl)
theorem dX3_digest_65 : decode cX3_digest 65 = .ok (.invokevirtual 434, 3) := dk_182 1 178 (dk_at dksX3_digest_2 17 rfl rfl)
theorem dX3_digest_68 : decode cX3_digest 68 = .ok (.lstore_n 1, 1) := dk_64 (dk_at dksX3_digest_2 20 rfl rfl)
theorem dX3_digest_69 : decode cX3_digest 69 = .ok (.iinc 3 1, 3) := dk_132 3 1 (dk_at dksX3_digest_2 21 rfl rfl)
theorem dX3_digest_72 : decode cX3_digest 72 = .ok (.goto (-16), 3) := dk_167 255 240 (dk_at dksX3_digest_3 0 rfl rfl)
theorem dX3_digest_75 : decode cX3_digest 75 = .ok (.iconst 0, 1) := dk_3 (dk_at dksX3_digest_3 3 rfl rfl)
theorem dX3_digest_76 : decode cX3_digest 76 = .ok (.istore_n 3, 1) := dk_62 (dk_at dksX3_digest_3 4 rfl rfl)
theorem dX3_digest_77 : decode cX3_digest 77 = .ok (.iload_n 3, 1) := dk_29 (dk_at dksX3_digest_3 5 rfl rfl)
theorem dX3_digest_78 : decode cX3_digest 78 = .ok (.bipush 6, 2) := dk_16 6 (dk_at dksX3_digest_3 6 rfl rfl)
theorem dX3_digest_80 : decode cX3_digest 80 = .ok (.if_icmp .ge 16, 3) := dk_162 0 16 (dk_at dksX3_digest_3 8 rfl rfl)
theorem dX3_digest_83 : decode cX3_digest 83 = .ok (.aload_n 0, 1) := dk_42 (dk_at dksX3_digest_3 11 rfl rfl)
theorem dX3_digest_84 : decode cX3_digest 84 = .ok (.lload_n 1, 1) := dk_31 (dk_at dksX3_digest_3 12 rfl rfl)
theorem dX3_digest_85 : decode cX3_digest 85 = .ok (.iload_n 3, 1) := dk_29 (dk_at dksX3_digest_3 13 rfl rfl)
theorem dX3_digest_86 : decode cX3_digest 86 = .ok (.invokevirtual 437, 3) := dk_182 1 181 (dk_at dksX3_digest_3 14 rfl rfl)
theorem dX3_digest_89 : decode cX3_digest 89 = .ok (.lstore_n 1, 1) := dk_64 (dk_at dksX3_digest_3 17 rfl rfl)
theorem dX3_digest_90 : decode cX3_digest 90 = .ok (.iinc 3 1, 3) := dk_132 3 1 (dk_at dksX3_digest_3 18 rfl rfl)
theorem dX3_digest_93 : decode cX3_digest 93 = .ok (.goto (-16), 3) := dk_167 255 240 (dk_at dksX3_digest_3 21 rfl rfl)
theorem dX3_digest_96 : decode cX3_digest 96 = .ok (.iconst 0, 1) := dk_3 (dk_at dksX3_digest_4 0 rfl rfl)
theorem dX3_digest_97 : decode cX3_digest 97 = .ok (.istore_n 3, 1) := dk_62 (dk_at dksX3_digest_4 1 rfl rfl)
theorem dX3_digest_98 : decode cX3_digest 98 = .ok (.iload_n 3, 1) := dk_29 (dk_at dksX3_digest_4 2 rfl rfl)
theorem dX3_digest_99 : decode cX3_digest 99 = .ok (.iconst 3, 1) := dk_6 (dk_at dksX3_digest_4 3 rfl rfl)
theorem dX3_digest_100 : decode cX3_digest 100 = .ok (.if_icmp .ge 23, 3) := dk_162 0 23 (dk_at dksX3_digest_4 4 rfl rfl)
theorem dX3_digest_103 : decode cX3_digest 103 = .ok (.ldc2_w 423, 3) := dk_20 1 167 (dk_at dksX3_digest_4 7 rfl rfl)
theorem dX3_digest_106 : decode cX3_digest 106 = .ok (.lload_n 1, 1) := dk_31 (dk_at dksX3_digest_4 10 rfl rfl)
theorem dX3_digest_107 : decode cX3_digest 107 = .ok (.lmul, 1) := dk_105 (dk_at dksX3_digest_4 11 rfl rfl)
theorem dX3_digest_108 : decode cX3_digest 108 = .ok (.aload_n 0, 1) := dk_42 (dk_at dksX3_digest_4 12 rfl rfl)
theorem dX3_digest_109 : decode cX3_digest 109 = .ok (.getfield 81, 3) := dk_180 0 81 (dk_at dksX3_digest_4 13 rfl rfl)
theorem dX3_digest_112 : decode cX3_digest 112 = .ok (.iload_n 3, 1) := dk_29 (dk_at dksX3_digest_4 16 rfl rfl)
theorem dX3_digest_113 : decode cX3_digest 113 = .ok (.iaload, 1) := dk_46 (dk_at dksX3_digest_4 17 rfl rfl)
theorem dX3_digest_114 : decode cX3_digest 114 = .ok (.i2l, 1) := dk_133 (dk_at dksX3_digest_4 18 rfl rfl)
theorem dX3_digest_115 : decode cX3_digest 115 = .ok (.ladd, 1) := dk_97 (dk_at dksX3_digest_4 19 rfl rfl)
theorem dX3_digest_116 : decode cX3_digest 116 = .ok (.lstore_n 1, 1) := dk_64 (dk_at dksX3_digest_4 20 rfl rfl)
theorem dX3_digest_117 : decode cX3_digest 117 = .ok (.iinc 3 1, 3) := dk_132 3 1 (dk_at dksX3_digest_4 21 rfl rfl)
theorem dX3_digest_120 : decode cX3_digest 120 = .ok (.goto (-22), 3) := dk_167 255 234 (dk_at dksX3_digest_5 0 rfl rfl)
theorem dX3_digest_123 : decode cX3_digest 123 = .ok (.iconst 0, 1) := dk_3 (dk_at dksX3_digest_5 3 rfl rfl)
theorem dX3_digest_124 : decode cX3_digest 124 = .ok (.istore_n 3, 1) := dk_62 (dk_at dksX3_digest_5 4 rfl rfl)
theorem dX3_digest_125 : decode cX3_digest 125 = .ok (.iload_n 3, 1) := dk_29 (dk_at dksX3_digest_5 5 rfl rfl)
theorem dX3_digest_126 : decode cX3_digest 126 = .ok (.bipush 10, 2) := dk_16 10 (dk_at dksX3_digest_5 6 rfl rfl)
theorem dX3_digest_128 : decode cX3_digest 128 = .ok (.if_icmp .ge 22, 3) := dk_162 0 22 (dk_at dksX3_digest_5 8 rfl rfl)
theorem dX3_digest_131 : decode cX3_digest 131 = .ok (.ldc2_w 423, 3) := dk_20 1 167 (dk_at dksX3_digest_5 11 rfl rfl)
theorem dX3_digest_134 : decode cX3_digest 134 = .ok (.lload_n 1, 1) := dk_31 (dk_at dksX3_digest_5 14 rfl rfl)
theorem dX3_digest_135 : decode cX3_digest 135 = .ok (.lmul, 1) := dk_105 (dk_at dksX3_digest_5 15 rfl rfl)
theorem dX3_digest_136 : decode cX3_digest 136 = .ok (.aload_n 0, 1) := dk_42 (dk_at dksX3_digest_5 16 rfl rfl)
theorem dX3_digest_137 : decode cX3_digest 137 = .ok (.iload_n 3, 1) := dk_29 (dk_at dksX3_digest_5 17 rfl rfl)
theorem dX3_digest_138 : decode cX3_digest 138 = .ok (.invokevirtual 440, 3) := dk_182 1 184 (dk_at dksX3_digest_5 18 rfl rfl)
theorem dX3_digest_141 : decode cX3_digest 141 = .ok (.i2l, 1) := dk_133 (dk_at dksX3_digest_5 21 rfl rfl)
theorem dX3_digest_142 : decode cX3_digest 142 = .ok (.ladd, 1) := dk_97 (dk_at dksX3_digest_5 22 rfl rfl)
theorem dX3_digest_143 : decode cX3_digest 143 = .ok (.lstore_n 1, 1) := dk_64 (dk_at dksX3_digest_5 23 rfl rfl)
theorem dX3_digest_144 : decode cX3_digest 144 = .ok (.iinc 3 1, 3) := dk_132 3 1 (dk_at dksX3_digest_6 0 rfl rfl)
theorem dX3_digest_147 : decode cX3_digest 147 = .ok (.goto (-22), 3) := dk_167 255 234 (dk_at dksX3_digest_6 3 rfl rfl)
theorem dX3_digest_150 : decode cX3_digest 150 = .ok (.lload_n 1, 1) := dk_31 (dk_at dksX3_digest_6 6 rfl rfl)
theorem dX3_digest_151 : decode cX3_digest 151 = .ok (.lreturn, 1) := dk_173 (dk_at dksX3_digest_6 7 rfl rfl)
abbrev cX3_statementDigest : ByteArray := prog_18_method_115_code
def yX3_statementDigest : MethodName := ⟨RX3, "statementDigest", "(JI)J"⟩
def dkwX3_statementDigest_7 : List UInt8 := [97, 55, 4, 132, 6, 1, 167, 255, 229, 22, 4, 173]
abbrev dktX3_statementDigest_7 : List UInt8 := dkwX3_statementDigest_7 ++ []
def dkwX3_statementDigest_6 : List UInt8 := [3, 54, 6, 21, 6, 16, 6, 162, 0, 26, 20, 1, 167, 22, 4, 105, 42, 29, 21, 6, 182, 0, 239, 133]
abbrev dktX3_statementDigest_6 : List UInt8 := dkwX3_statementDigest_6 ++ dktX3_statementDigest_7
def dkwX3_statementDigest_5 : List UInt8 := [21, 6, 3, 21, 7, 182, 0, 215, 133, 97, 55, 4, 132, 7, 1, 167, 255, 210, 132, 6, 1, 167, 255, 158]
abbrev dktX3_statementDigest_5 : List UInt8 := dkwX3_statementDigest_5 ++ dktX3_statementDigest_6
def dkwX3_statementDigest_4 : List UInt8 := [180, 0, 41, 21, 6, 46, 2, 159, 0, 35, 42, 180, 0, 154, 158, 0, 28, 20, 1, 167, 22, 4, 105, 42]
abbrev dktX3_statementDigest_4 : List UInt8 := dkwX3_statementDigest_4 ++ dktX3_statementDigest_5
def dkwX3_statementDigest_3 : List UInt8 := [182, 0, 197, 133, 97, 55, 4, 132, 7, 1, 167, 255, 229, 3, 54, 7, 21, 7, 6, 162, 0, 46, 42]
abbrev dktX3_statementDigest_3 : List UInt8 := dkwX3_statementDigest_3 ++ dktX3_statementDigest_4
def dkwX3_statementDigest_2 : List UInt8 := [96, 162, 0, 94, 3, 54, 7, 21, 7, 7, 162, 0, 27, 20, 1, 167, 22, 4, 105, 42, 21, 6, 21, 7]
abbrev dktX3_statementDigest_2 : List UInt8 := dkwX3_statementDigest_2 ++ dktX3_statementDigest_3
def dkwX3_statementDigest_1 : List UInt8 := [182, 0, 194, 133, 97, 55, 4, 132, 6, 1, 167, 255, 229, 6, 29, 104, 54, 6, 21, 6, 6, 29, 104, 6]
abbrev dktX3_statementDigest_1 : List UInt8 := dkwX3_statementDigest_1 ++ dktX3_statementDigest_2
def dkwX3_statementDigest_0 : List UInt8 := [31, 55, 4, 3, 54, 6, 21, 6, 16, 7, 162, 0, 26, 20, 1, 167, 22, 4, 105, 42, 29, 21, 6]
abbrev dktX3_statementDigest_0 : List UInt8 := dkwX3_statementDigest_0 ++ dktX3_statementDigest_1
theorem dksX3_statementDigest_0 : cX3_statementDigest.data.toList.drop 0 = dktX3_statementDigest_0 := by decide +kernel
theorem dksX3_statementDigest_1 : cX3_statementDigest.data.toList.drop 23 = dktX3_statementDigest_1 := dk_seg dksX3_statementDigest_0 23 rfl rfl
theorem dksX3_statementDigest_2 : cX3_statementDigest.data.toList.drop 47 = dktX3_statementDigest_2 := dk_seg dksX3_statementDigest_1 24 rfl rfl
theorem dksX3_statementDigest_3 : cX3_statementDigest.data.toList.drop 71 = dktX3_statementDigest_3 := dk_seg dksX3_statementDigest_2 24 rfl rfl
theorem dksX3_statementDigest_4 : cX3_statementDigest.data.toList.drop 94 = dktX3_statementDigest_4 := dk_seg dksX3_statementDigest_3 23 rfl rfl
theorem dksX3_statementDigest_5 : cX3_statementDigest.data.toList.drop 118 = dktX3_statementDigest_5 := dk_seg dksX3_statementDigest_4 24 rfl rfl
theorem dksX3_statementDigest_6 : cX3_statementDigest.data.toList.drop 142 = dktX3_statementDigest_6 := dk_seg dksX3_statementDigest_5 24 rfl rfl
theorem dksX3_statementDigest_7 : cX3_statementDigest.data.toList.drop 166 = dktX3_statementDigest_7 := dk_seg dksX3_statementDigest_6 24 rfl rfl
theorem dX3_statementDigest_0 : decode cX3_statementDigest 0 = .ok (.lload_n 1, 1) := dk_31 (dk_at dksX3_statementDigest_0 0 rfl rfl)
theorem dX3_statementDigest_1 : decode cX3_statementDigest 1 = .ok (.lstore 4, 2) := dk_55 4 (dk_at dksX3_statementDigest_0 1 rfl rfl)
theorem dX3_statementDigest_3 : decode cX3_statementDigest 3 = .ok (.iconst 0, 1) := dk_3 (dk_at dksX3_statementDigest_0 3 rfl rfl)
theorem dX3_statementDigest_4 : decode cX3_statementDigest 4 = .ok (.istore 6, 2) := dk_54 6 (dk_at dksX3_statementDigest_0 4 rfl rfl)
theorem dX3_statementDigest_6 : decode cX3_statementDigest 6 = .ok (.iload 6, 2) := dk_21 6 (dk_at dksX3_statementDigest_0 6 rfl rfl)
theorem dX3_statementDigest_8 : decode cX3_statementDigest 8 = .ok (.bipush 7, 2) := dk_16 7 (dk_at dksX3_statementDigest_0 8 rfl rfl)
theorem dX3_statementDigest_10 : decode cX3_statementDigest 10 = .ok (.if_icmp .ge 26, 3) := dk_162 0 26 (dk_at dksX3_statementDigest_0 10 rfl rfl)
theorem dX3_statementDigest_13 : decode cX3_statementDigest 13 = .ok (.ldc2_w 423, 3) := dk_20 1 167 (dk_at dksX3_statementDigest_0 13 rfl rfl)
theorem dX3_statementDigest_16 : decode cX3_statementDigest 16 = .ok (.lload 4, 2) := dk_22 4 (dk_at dksX3_statementDigest_0 16 rfl rfl)
theorem dX3_statementDigest_18 : decode cX3_statementDigest 18 = .ok (.lmul, 1) := dk_105 (dk_at dksX3_statementDigest_0 18 rfl rfl)
theorem dX3_statementDigest_19 : decode cX3_statementDigest 19 = .ok (.aload_n 0, 1) := dk_42 (dk_at dksX3_statementDigest_0 19 rfl rfl)
theorem dX3_statementDigest_20 : decode cX3_statementDigest 20 = .ok (.iload_n 3, 1) := dk_29 (dk_at dksX3_statementDigest_0 20 rfl rfl)
theorem dX3_statementDigest_21 : decode cX3_statementDigest 21 = .ok (.iload 6, 2) := dk_21 6 (dk_at dksX3_statementDigest_0 21 rfl rfl)
theorem dX3_statementDigest_23 : decode cX3_statementDigest 23 = .ok (.invokevirtual 194, 3) := dk_182 0 194 (dk_at dksX3_statementDigest_1 0 rfl rfl)
theorem dX3_statementDigest_26 : decode cX3_statementDigest 26 = .ok (.i2l, 1) := dk_133 (dk_at dksX3_statementDigest_1 3 rfl rfl)
theorem dX3_statementDigest_27 : decode cX3_statementDigest 27 = .ok (.ladd, 1) := dk_97 (dk_at dksX3_statementDigest_1 4 rfl rfl)
theorem dX3_statementDigest_28 : decode cX3_statementDigest 28 = .ok (.lstore 4, 2) := dk_55 4 (dk_at dksX3_statementDigest_1 5 rfl rfl)
theorem dX3_statementDigest_30 : decode cX3_statementDigest 30 = .ok (.iinc 6 1, 3) := dk_132 6 1 (dk_at dksX3_statementDigest_1 7 rfl rfl)
theorem dX3_statementDigest_33 : decode cX3_statementDigest 33 = .ok (.goto (-27), 3) := dk_167 255 229 (dk_at dksX3_statementDigest_1 10 rfl rfl)
theorem dX3_statementDigest_36 : decode cX3_statementDigest 36 = .ok (.iconst 3, 1) := dk_6 (dk_at dksX3_statementDigest_1 13 rfl rfl)
theorem dX3_statementDigest_37 : decode cX3_statementDigest 37 = .ok (.iload_n 3, 1) := dk_29 (dk_at dksX3_statementDigest_1 14 rfl rfl)
theorem dX3_statementDigest_38 : decode cX3_statementDigest 38 = .ok (.imul, 1) := dk_104 (dk_at dksX3_statementDigest_1 15 rfl rfl)
theorem dX3_statementDigest_39 : decode cX3_statementDigest 39 = .ok (.istore 6, 2) := dk_54 6 (dk_at dksX3_statementDigest_1 16 rfl rfl)
theorem dX3_statementDigest_41 : decode cX3_statementDigest 41 = .ok (.iload 6, 2) := dk_21 6 (dk_at dksX3_statementDigest_1 18 rfl rfl)
theorem dX3_statementDigest_43 : decode cX3_statementDigest 43 = .ok (.iconst 3, 1) := dk_6 (dk_at dksX3_statementDigest_1 20 rfl rfl)
theorem dX3_statementDigest_44 : decode cX3_statementDigest 44 = .ok (.iload_n 3, 1) := dk_29 (dk_at dksX3_statementDigest_1 21 rfl rfl)
theorem dX3_statementDigest_45 : decode cX3_statementDigest 45 = .ok (.imul, 1) := dk_104 (dk_at dksX3_statementDigest_1 22 rfl rfl)
theorem dX3_statementDigest_46 : decode cX3_statementDigest 46 = .ok (.iconst 3, 1) := dk_6 (dk_at dksX3_statementDigest_1 23 rfl rfl)
theorem dX3_statementDigest_47 : decode cX3_statementDigest 47 = .ok (.iadd, 1) := dk_96 (dk_at dksX3_statementDigest_2 0 rfl rfl)
theorem dX3_statementDigest_48 : decode cX3_statementDigest 48 = .ok (.if_icmp .ge 94, 3) := dk_162 0 94 (dk_at dksX3_statementDigest_2 1 rfl rfl)
theorem dX3_statementDigest_51 : decode cX3_statementDigest 51 = .ok (.iconst 0, 1) := dk_3 (dk_at dksX3_statementDigest_2 4 rfl rfl)
theorem dX3_statementDigest_52 : decode cX3_statementDigest 52 = .ok (.istore 7, 2) := dk_54 7 (dk_at dksX3_statementDigest_2 5 rfl rfl)
theorem dX3_statementDigest_54 : decode cX3_statementDigest 54 = .ok (.iload 7, 2) := dk_21 7 (dk_at dksX3_statementDigest_2 7 rfl rfl)
theorem dX3_statementDigest_56 : decode cX3_statementDigest 56 = .ok (.iconst 4, 1) := dk_7 (dk_at dksX3_statementDigest_2 9 rfl rfl)
theorem dX3_statementDigest_57 : decode cX3_statementDigest 57 = .ok (.if_icmp .ge 27, 3) := dk_162 0 27 (dk_at dksX3_statementDigest_2 10 rfl rfl)
theorem dX3_statementDigest_60 : decode cX3_statementDigest 60 = .ok (.ldc2_w 423, 3) := dk_20 1 167 (dk_at dksX3_statementDigest_2 13 rfl rfl)
theorem dX3_statementDigest_63 : decode cX3_statementDigest 63 = .ok (.lload 4, 2) := dk_22 4 (dk_at dksX3_statementDigest_2 16 rfl rfl)
theorem dX3_statementDigest_65 : decode cX3_statementDigest 65 = .ok (.lmul, 1) := dk_105 (dk_at dksX3_statementDigest_2 18 rfl rfl)
theorem dX3_statementDigest_66 : decode cX3_statementDigest 66 = .ok (.aload_n 0, 1) := dk_42 (dk_at dksX3_statementDigest_2 19 rfl rfl)
theorem dX3_statementDigest_67 : decode cX3_statementDigest 67 = .ok (.iload 6, 2) := dk_21 6 (dk_at dksX3_statementDigest_2 20 rfl rfl)
theorem dX3_statementDigest_69 : decode cX3_statementDigest 69 = .ok (.iload 7, 2) := dk_21 7 (dk_at dksX3_statementDigest_2 22 rfl rfl)
theorem dX3_statementDigest_71 : decode cX3_statementDigest 71 = .ok (.invokevirtual 197, 3) := dk_182 0 197 (dk_at dksX3_statementDigest_3 0 rfl rfl)
theorem dX3_statementDigest_74 : decode cX3_statementDigest 74 = .ok (.i2l, 1) := dk_133 (dk_at dksX3_statementDigest_3 3 rfl rfl)
theorem dX3_statementDigest_75 : decode cX3_statementDigest 75 = .ok (.ladd, 1) := dk_97 (dk_at dksX3_statementDigest_3 4 rfl rfl)
theorem dX3_statementDigest_76 : decode cX3_statementDigest 76 = .ok (.lstore 4, 2) := dk_55 4 (dk_at dksX3_statementDigest_3 5 rfl rfl)
theorem dX3_statementDigest_78 : decode cX3_statementDigest 78 = .ok (.iinc 7 1, 3) := dk_132 7 1 (dk_at dksX3_statementDigest_3 7 rfl rfl)
theorem dX3_statementDigest_81 : decode cX3_statementDigest 81 = .ok (.goto (-27), 3) := dk_167 255 229 (dk_at dksX3_statementDigest_3 10 rfl rfl)
theorem dX3_statementDigest_84 : decode cX3_statementDigest 84 = .ok (.iconst 0, 1) := dk_3 (dk_at dksX3_statementDigest_3 13 rfl rfl)
theorem dX3_statementDigest_85 : decode cX3_statementDigest 85 = .ok (.istore 7, 2) := dk_54 7 (dk_at dksX3_statementDigest_3 14 rfl rfl)
theorem dX3_statementDigest_87 : decode cX3_statementDigest 87 = .ok (.iload 7, 2) := dk_21 7 (dk_at dksX3_statementDigest_3 16 rfl rfl)
theorem dX3_statementDigest_89 : decode cX3_statementDigest 89 = .ok (.iconst 3, 1) := dk_6 (dk_at dksX3_statementDigest_3 18 rfl rfl)
theorem dX3_statementDigest_90 : decode cX3_statementDigest 90 = .ok (.if_icmp .ge 46, 3) := dk_162 0 46 (dk_at dksX3_statementDigest_3 19 rfl rfl)
theorem dX3_statementDigest_93 : decode cX3_statementDigest 93 = .ok (.aload_n 0, 1) := dk_42 (dk_at dksX3_statementDigest_3 22 rfl rfl)
theorem dX3_statementDigest_94 : decode cX3_statementDigest 94 = .ok (.getfield 41, 3) := dk_180 0 41 (dk_at dksX3_statementDigest_4 0 rfl rfl)
theorem dX3_statementDigest_97 : decode cX3_statementDigest 97 = .ok (.iload 6, 2) := dk_21 6 (dk_at dksX3_statementDigest_4 3 rfl rfl)
theorem dX3_statementDigest_99 : decode cX3_statementDigest 99 = .ok (.iaload, 1) := dk_46 (dk_at dksX3_statementDigest_4 5 rfl rfl)
theorem dX3_statementDigest_100 : decode cX3_statementDigest 100 = .ok (.iconst (-1), 1) := dk_2 (dk_at dksX3_statementDigest_4 6 rfl rfl)
theorem dX3_statementDigest_101 : decode cX3_statementDigest 101 = .ok (.if_icmp .eq 35, 3) := dk_159 0 35 (dk_at dksX3_statementDigest_4 7 rfl rfl)
theorem dX3_statementDigest_104 : decode cX3_statementDigest 104 = .ok (.aload_n 0, 1) := dk_42 (dk_at dksX3_statementDigest_4 10 rfl rfl)
theorem dX3_statementDigest_105 : decode cX3_statementDigest 105 = .ok (.getfield 154, 3) := dk_180 0 154 (dk_at dksX3_statementDigest_4 11 rfl rfl)
theorem dX3_statementDigest_108 : decode cX3_statementDigest 108 = .ok (.ifCond .le 28, 3) := dk_158 0 28 (dk_at dksX3_statementDigest_4 14 rfl rfl)
theorem dX3_statementDigest_111 : decode cX3_statementDigest 111 = .ok (.ldc2_w 423, 3) := dk_20 1 167 (dk_at dksX3_statementDigest_4 17 rfl rfl)
theorem dX3_statementDigest_114 : decode cX3_statementDigest 114 = .ok (.lload 4, 2) := dk_22 4 (dk_at dksX3_statementDigest_4 20 rfl rfl)
theorem dX3_statementDigest_116 : decode cX3_statementDigest 116 = .ok (.lmul, 1) := dk_105 (dk_at dksX3_statementDigest_4 22 rfl rfl)
theorem dX3_statementDigest_117 : decode cX3_statementDigest 117 = .ok (.aload_n 0, 1) := dk_42 (dk_at dksX3_statementDigest_4 23 rfl rfl)
theorem dX3_statementDigest_118 : decode cX3_statementDigest 118 = .ok (.iload 6, 2) := dk_21 6 (dk_at dksX3_statementDigest_5 0 rfl rfl)
theorem dX3_statementDigest_120 : decode cX3_statementDigest 120 = .ok (.iconst 0, 1) := dk_3 (dk_at dksX3_statementDigest_5 2 rfl rfl)
theorem dX3_statementDigest_121 : decode cX3_statementDigest 121 = .ok (.iload 7, 2) := dk_21 7 (dk_at dksX3_statementDigest_5 3 rfl rfl)
theorem dX3_statementDigest_123 : decode cX3_statementDigest 123 = .ok (.invokevirtual 215, 3) := dk_182 0 215 (dk_at dksX3_statementDigest_5 5 rfl rfl)
theorem dX3_statementDigest_126 : decode cX3_statementDigest 126 = .ok (.i2l, 1) := dk_133 (dk_at dksX3_statementDigest_5 8 rfl rfl)
theorem dX3_statementDigest_127 : decode cX3_statementDigest 127 = .ok (.ladd, 1) := dk_97 (dk_at dksX3_statementDigest_5 9 rfl rfl)
theorem dX3_statementDigest_128 : decode cX3_statementDigest 128 = .ok (.lstore 4, 2) := dk_55 4 (dk_at dksX3_statementDigest_5 10 rfl rfl)
theorem dX3_statementDigest_130 : decode cX3_statementDigest 130 = .ok (.iinc 7 1, 3) := dk_132 7 1 (dk_at dksX3_statementDigest_5 12 rfl rfl)
theorem dX3_statementDigest_133 : decode cX3_statementDigest 133 = .ok (.goto (-46), 3) := dk_167 255 210 (dk_at dksX3_statementDigest_5 15 rfl rfl)
theorem dX3_statementDigest_136 : decode cX3_statementDigest 136 = .ok (.iinc 6 1, 3) := dk_132 6 1 (dk_at dksX3_statementDigest_5 18 rfl rfl)
theorem dX3_statementDigest_139 : decode cX3_statementDigest 139 = .ok (.goto (-98), 3) := dk_167 255 158 (dk_at dksX3_statementDigest_5 21 rfl rfl)
theorem dX3_statementDigest_142 : decode cX3_statementDigest 142 = .ok (.iconst 0, 1) := dk_3 (dk_at dksX3_statementDigest_6 0 rfl rfl)
theorem dX3_statementDigest_143 : decode cX3_statementDigest 143 = .ok (.istore 6, 2) := dk_54 6 (dk_at dksX3_statementDigest_6 1 rfl rfl)
theorem dX3_statementDigest_145 : decode cX3_statementDigest 145 = .ok (.iload 6, 2) := dk_21 6 (dk_at dksX3_statementDigest_6 3 rfl rfl)
theorem dX3_statementDigest_147 : decode cX3_statementDigest 147 = .ok (.bipush 6, 2) := dk_16 6 (dk_at dksX3_statementDigest_6 5 rfl rfl)
theorem dX3_statementDigest_149 : decode cX3_statementDigest 149 = .ok (.if_icmp .ge 26, 3) := dk_162 0 26 (dk_at dksX3_statementDigest_6 7 rfl rfl)
theorem dX3_statementDigest_152 : decode cX3_statementDigest 152 = .ok (.ldc2_w 423, 3) := dk_20 1 167 (dk_at dksX3_statementDigest_6 10 rfl rfl)
theorem dX3_statementDigest_155 : decode cX3_statementDigest 155 = .ok (.lload 4, 2) := dk_22 4 (dk_at dksX3_statementDigest_6 13 rfl rfl)
theorem dX3_statementDigest_157 : decode cX3_statementDigest 157 = .ok (.lmul, 1) := dk_105 (dk_at dksX3_statementDigest_6 15 rfl rfl)
theorem dX3_statementDigest_158 : decode cX3_statementDigest 158 = .ok (.aload_n 0, 1) := dk_42 (dk_at dksX3_statementDigest_6 16 rfl rfl)
theorem dX3_statementDigest_159 : decode cX3_statementDigest 159 = .ok (.iload_n 3, 1) := dk_29 (dk_at dksX3_statementDigest_6 17 rfl rfl)
theorem dX3_statementDigest_160 : decode cX3_statementDigest 160 = .ok (.iload 6, 2) := dk_21 6 (dk_at dksX3_statementDigest_6 18 rfl rfl)
theorem dX3_statementDigest_162 : decode cX3_statementDigest 162 = .ok (.invokevirtual 239, 3) := dk_182 0 239 (dk_at dksX3_statementDigest_6 20 rfl rfl)
theorem dX3_statementDigest_165 : decode cX3_statementDigest 165 = .ok (.i2l, 1) := dk_133 (dk_at dksX3_statementDigest_6 23 rfl rfl)
theorem dX3_statementDigest_166 : decode cX3_statementDigest 166 = .ok (.ladd, 1) := dk_97 (dk_at dksX3_statementDigest_7 0 rfl rfl)
theorem dX3_statementDigest_167 : decode cX3_statementDigest 167 = .ok (.lstore 4, 2) := dk_55 4 (dk_at dksX3_statementDigest_7 1 rfl rfl)
theorem dX3_statementDigest_169 : decode cX3_statementDigest 169 = .ok (.iinc 6 1, 3) := dk_132 6 1 (dk_at dksX3_statementDigest_7 3 rfl rfl)
theorem dX3_statementDigest_172 : decode cX3_statementDigest 172 = .ok (.goto (-27), 3) := dk_167 255 229 (dk_at dksX3_statementDigest_7 6 rfl rfl)
theorem dX3_statementDigest_175 : decode cX3_statementDigest 175 = .ok (.lload 4, 2) := dk_22 4 (dk_at dksX3_statementDigest_7 9 rfl rfl)
theorem dX3_statementDigest_177 : decode cX3_statementDigest 177 = .ok (.lreturn, 1) := dk_173 (dk_at dksX3_statementDigest_7 11 rfl rfl)
abbrev cX3_rowDigest : ByteArray := prog_18_method_116_code
def yX3_rowDigest : MethodName := ⟨RX3, "rowDigest", "(JI)J"⟩
def dkwX3_rowDigest_6 : List UInt8 := [22, 4, 173]
abbrev dktX3_rowDigest_6 : List UInt8 := dkwX3_rowDigest_6 ++ []
def dkwX3_rowDigest_5 : List UInt8 := [21, 8, 182, 1, 6, 184, 1, 15, 133, 97, 55, 4, 132, 8, 1, 167, 255, 222, 132, 6, 1, 167, 255, 166]
abbrev dktX3_rowDigest_5 : List UInt8 := dkwX3_rowDigest_5 ++ dktX3_rowDigest_6
def dkwX3_rowDigest_4 : List UInt8 := [55, 4, 3, 54, 8, 21, 8, 42, 180, 0, 154, 162, 0, 31, 20, 1, 167, 22, 4, 105, 42, 21, 6, 29]
abbrev dktX3_rowDigest_4 : List UInt8 := dkwX3_rowDigest_4 ++ dktX3_rowDigest_5
def dkwX3_rowDigest_3 : List UInt8 := [21, 7, 184, 1, 15, 133, 97, 55, 4, 20, 1, 167, 22, 4, 105, 42, 21, 7, 182, 1, 33, 133, 97]
abbrev dktX3_rowDigest_3 : List UInt8 := dkwX3_rowDigest_3 ++ dktX3_rowDigest_4
def dkwX3_rowDigest_2 : List UInt8 := [54, 6, 21, 6, 7, 162, 0, 90, 42, 21, 6, 29, 2, 182, 1, 12, 54, 7, 20, 1, 167, 22, 4, 105]
abbrev dktX3_rowDigest_2 : List UInt8 := dkwX3_rowDigest_2 ++ dktX3_rowDigest_3
def dkwX3_rowDigest_1 : List UInt8 := [20, 1, 167, 22, 4, 105, 42, 29, 21, 6, 182, 1, 60, 133, 97, 55, 4, 132, 6, 1, 167, 255, 230, 3]
abbrev dktX3_rowDigest_1 : List UInt8 := dkwX3_rowDigest_1 ++ dktX3_rowDigest_2
def dkwX3_rowDigest_0 : List UInt8 := [20, 1, 167, 31, 105, 42, 29, 182, 1, 57, 133, 97, 55, 4, 3, 54, 6, 21, 6, 6, 162, 0, 26]
abbrev dktX3_rowDigest_0 : List UInt8 := dkwX3_rowDigest_0 ++ dktX3_rowDigest_1
theorem dksX3_rowDigest_0 : cX3_rowDigest.data.toList.drop 0 = dktX3_rowDigest_0 := by decide +kernel
theorem dksX3_rowDigest_1 : cX3_rowDigest.data.toList.drop 23 = dktX3_rowDigest_1 := dk_seg dksX3_rowDigest_0 23 rfl rfl
theorem dksX3_rowDigest_2 : cX3_rowDigest.data.toList.drop 47 = dktX3_rowDigest_2 := dk_seg dksX3_rowDigest_1 24 rfl rfl
theorem dksX3_rowDigest_3 : cX3_rowDigest.data.toList.drop 71 = dktX3_rowDigest_3 := dk_seg dksX3_rowDigest_2 24 rfl rfl
theorem dksX3_rowDigest_4 : cX3_rowDigest.data.toList.drop 94 = dktX3_rowDigest_4 := dk_seg dksX3_rowDigest_3 23 rfl rfl
theorem dksX3_rowDigest_5 : cX3_rowDigest.data.toList.drop 118 = dktX3_rowDigest_5 := dk_seg dksX3_rowDigest_4 24 rfl rfl
theorem dksX3_rowDigest_6 : cX3_rowDigest.data.toList.drop 142 = dktX3_rowDigest_6 := dk_seg dksX3_rowDigest_5 24 rfl rfl
theorem dX3_rowDigest_0 : decode cX3_rowDigest 0 = .ok (.ldc2_w 423, 3) := dk_20 1 167 (dk_at dksX3_rowDigest_0 0 rfl rfl)
theorem dX3_rowDigest_3 : decode cX3_rowDigest 3 = .ok (.lload_n 1, 1) := dk_31 (dk_at dksX3_rowDigest_0 3 rfl rfl)
theorem dX3_rowDigest_4 : decode cX3_rowDigest 4 = .ok (.lmul, 1) := dk_105 (dk_at dksX3_rowDigest_0 4 rfl rfl)
theorem dX3_rowDigest_5 : decode cX3_rowDigest 5 = .ok (.aload_n 0, 1) := dk_42 (dk_at dksX3_rowDigest_0 5 rfl rfl)
theorem dX3_rowDigest_6 : decode cX3_rowDigest 6 = .ok (.iload_n 3, 1) := dk_29 (dk_at dksX3_rowDigest_0 6 rfl rfl)
theorem dX3_rowDigest_7 : decode cX3_rowDigest 7 = .ok (.invokevirtual 313, 3) := dk_182 1 57 (dk_at dksX3_rowDigest_0 7 rfl rfl)
theorem dX3_rowDigest_10 : decode cX3_rowDigest 10 = .ok (.i2l, 1) := dk_133 (dk_at dksX3_rowDigest_0 10 rfl rfl)
theorem dX3_rowDigest_11 : decode cX3_rowDigest 11 = .ok (.ladd, 1) := dk_97 (dk_at dksX3_rowDigest_0 11 rfl rfl)
theorem dX3_rowDigest_12 : decode cX3_rowDigest 12 = .ok (.lstore 4, 2) := dk_55 4 (dk_at dksX3_rowDigest_0 12 rfl rfl)
theorem dX3_rowDigest_14 : decode cX3_rowDigest 14 = .ok (.iconst 0, 1) := dk_3 (dk_at dksX3_rowDigest_0 14 rfl rfl)
theorem dX3_rowDigest_15 : decode cX3_rowDigest 15 = .ok (.istore 6, 2) := dk_54 6 (dk_at dksX3_rowDigest_0 15 rfl rfl)
theorem dX3_rowDigest_17 : decode cX3_rowDigest 17 = .ok (.iload 6, 2) := dk_21 6 (dk_at dksX3_rowDigest_0 17 rfl rfl)
theorem dX3_rowDigest_19 : decode cX3_rowDigest 19 = .ok (.iconst 3, 1) := dk_6 (dk_at dksX3_rowDigest_0 19 rfl rfl)
theorem dX3_rowDigest_20 : decode cX3_rowDigest 20 = .ok (.if_icmp .ge 26, 3) := dk_162 0 26 (dk_at dksX3_rowDigest_0 20 rfl rfl)
theorem dX3_rowDigest_23 : decode cX3_rowDigest 23 = .ok (.ldc2_w 423, 3) := dk_20 1 167 (dk_at dksX3_rowDigest_1 0 rfl rfl)
theorem dX3_rowDigest_26 : decode cX3_rowDigest 26 = .ok (.lload 4, 2) := dk_22 4 (dk_at dksX3_rowDigest_1 3 rfl rfl)
theorem dX3_rowDigest_28 : decode cX3_rowDigest 28 = .ok (.lmul, 1) := dk_105 (dk_at dksX3_rowDigest_1 5 rfl rfl)
theorem dX3_rowDigest_29 : decode cX3_rowDigest 29 = .ok (.aload_n 0, 1) := dk_42 (dk_at dksX3_rowDigest_1 6 rfl rfl)
theorem dX3_rowDigest_30 : decode cX3_rowDigest 30 = .ok (.iload_n 3, 1) := dk_29 (dk_at dksX3_rowDigest_1 7 rfl rfl)
theorem dX3_rowDigest_31 : decode cX3_rowDigest 31 = .ok (.iload 6, 2) := dk_21 6 (dk_at dksX3_rowDigest_1 8 rfl rfl)
theorem dX3_rowDigest_33 : decode cX3_rowDigest 33 = .ok (.invokevirtual 316, 3) := dk_182 1 60 (dk_at dksX3_rowDigest_1 10 rfl rfl)
theorem dX3_rowDigest_36 : decode cX3_rowDigest 36 = .ok (.i2l, 1) := dk_133 (dk_at dksX3_rowDigest_1 13 rfl rfl)
theorem dX3_rowDigest_37 : decode cX3_rowDigest 37 = .ok (.ladd, 1) := dk_97 (dk_at dksX3_rowDigest_1 14 rfl rfl)
theorem dX3_rowDigest_38 : decode cX3_rowDigest 38 = .ok (.lstore 4, 2) := dk_55 4 (dk_at dksX3_rowDigest_1 15 rfl rfl)
theorem dX3_rowDigest_40 : decode cX3_rowDigest 40 = .ok (.iinc 6 1, 3) := dk_132 6 1 (dk_at dksX3_rowDigest_1 17 rfl rfl)
theorem dX3_rowDigest_43 : decode cX3_rowDigest 43 = .ok (.goto (-26), 3) := dk_167 255 230 (dk_at dksX3_rowDigest_1 20 rfl rfl)
theorem dX3_rowDigest_46 : decode cX3_rowDigest 46 = .ok (.iconst 0, 1) := dk_3 (dk_at dksX3_rowDigest_1 23 rfl rfl)
theorem dX3_rowDigest_47 : decode cX3_rowDigest 47 = .ok (.istore 6, 2) := dk_54 6 (dk_at dksX3_rowDigest_2 0 rfl rfl)
theorem dX3_rowDigest_49 : decode cX3_rowDigest 49 = .ok (.iload 6, 2) := dk_21 6 (dk_at dksX3_rowDigest_2 2 rfl rfl)
theorem dX3_rowDigest_51 : decode cX3_rowDigest 51 = .ok (.iconst 4, 1) := dk_7 (dk_at dksX3_rowDigest_2 4 rfl rfl)
theorem dX3_rowDigest_52 : decode cX3_rowDigest 52 = .ok (.if_icmp .ge 90, 3) := dk_162 0 90 (dk_at dksX3_rowDigest_2 5 rfl rfl)
theorem dX3_rowDigest_55 : decode cX3_rowDigest 55 = .ok (.aload_n 0, 1) := dk_42 (dk_at dksX3_rowDigest_2 8 rfl rfl)
theorem dX3_rowDigest_56 : decode cX3_rowDigest 56 = .ok (.iload 6, 2) := dk_21 6 (dk_at dksX3_rowDigest_2 9 rfl rfl)
theorem dX3_rowDigest_58 : decode cX3_rowDigest 58 = .ok (.iload_n 3, 1) := dk_29 (dk_at dksX3_rowDigest_2 11 rfl rfl)
theorem dX3_rowDigest_59 : decode cX3_rowDigest 59 = .ok (.iconst (-1), 1) := dk_2 (dk_at dksX3_rowDigest_2 12 rfl rfl)
theorem dX3_rowDigest_60 : decode cX3_rowDigest 60 = .ok (.invokevirtual 268, 3) := dk_182 1 12 (dk_at dksX3_rowDigest_2 13 rfl rfl)
theorem dX3_rowDigest_63 : decode cX3_rowDigest 63 = .ok (.istore 7, 2) := dk_54 7 (dk_at dksX3_rowDigest_2 16 rfl rfl)
theorem dX3_rowDigest_65 : decode cX3_rowDigest 65 = .ok (.ldc2_w 423, 3) := dk_20 1 167 (dk_at dksX3_rowDigest_2 18 rfl rfl)
theorem dX3_rowDigest_68 : decode cX3_rowDigest 68 = .ok (.lload 4, 2) := dk_22 4 (dk_at dksX3_rowDigest_2 21 rfl rfl)
theorem dX3_rowDigest_70 : decode cX3_rowDigest 70 = .ok (.lmul, 1) := dk_105 (dk_at dksX3_rowDigest_2 23 rfl rfl)
theorem dX3_rowDigest_71 : decode cX3_rowDigest 71 = .ok (.iload 7, 2) := dk_21 7 (dk_at dksX3_rowDigest_3 0 rfl rfl)
theorem dX3_rowDigest_73 : decode cX3_rowDigest 73 = .ok (.invokestatic 271, 3) := dk_184 1 15 (dk_at dksX3_rowDigest_3 2 rfl rfl)
theorem dX3_rowDigest_76 : decode cX3_rowDigest 76 = .ok (.i2l, 1) := dk_133 (dk_at dksX3_rowDigest_3 5 rfl rfl)
theorem dX3_rowDigest_77 : decode cX3_rowDigest 77 = .ok (.ladd, 1) := dk_97 (dk_at dksX3_rowDigest_3 6 rfl rfl)
theorem dX3_rowDigest_78 : decode cX3_rowDigest 78 = .ok (.lstore 4, 2) := dk_55 4 (dk_at dksX3_rowDigest_3 7 rfl rfl)
theorem dX3_rowDigest_80 : decode cX3_rowDigest 80 = .ok (.ldc2_w 423, 3) := dk_20 1 167 (dk_at dksX3_rowDigest_3 9 rfl rfl)
theorem dX3_rowDigest_83 : decode cX3_rowDigest 83 = .ok (.lload 4, 2) := dk_22 4 (dk_at dksX3_rowDigest_3 12 rfl rfl)
theorem dX3_rowDigest_85 : decode cX3_rowDigest 85 = .ok (.lmul, 1) := dk_105 (dk_at dksX3_rowDigest_3 14 rfl rfl)
theorem dX3_rowDigest_86 : decode cX3_rowDigest 86 = .ok (.aload_n 0, 1) := dk_42 (dk_at dksX3_rowDigest_3 15 rfl rfl)
theorem dX3_rowDigest_87 : decode cX3_rowDigest 87 = .ok (.iload 7, 2) := dk_21 7 (dk_at dksX3_rowDigest_3 16 rfl rfl)
theorem dX3_rowDigest_89 : decode cX3_rowDigest 89 = .ok (.invokevirtual 289, 3) := dk_182 1 33 (dk_at dksX3_rowDigest_3 18 rfl rfl)
theorem dX3_rowDigest_92 : decode cX3_rowDigest 92 = .ok (.i2l, 1) := dk_133 (dk_at dksX3_rowDigest_3 21 rfl rfl)
theorem dX3_rowDigest_93 : decode cX3_rowDigest 93 = .ok (.ladd, 1) := dk_97 (dk_at dksX3_rowDigest_3 22 rfl rfl)
theorem dX3_rowDigest_94 : decode cX3_rowDigest 94 = .ok (.lstore 4, 2) := dk_55 4 (dk_at dksX3_rowDigest_4 0 rfl rfl)
theorem dX3_rowDigest_96 : decode cX3_rowDigest 96 = .ok (.iconst 0, 1) := dk_3 (dk_at dksX3_rowDigest_4 2 rfl rfl)
theorem dX3_rowDigest_97 : decode cX3_rowDigest 97 = .ok (.istore 8, 2) := dk_54 8 (dk_at dksX3_rowDigest_4 3 rfl rfl)
theorem dX3_rowDigest_99 : decode cX3_rowDigest 99 = .ok (.iload 8, 2) := dk_21 8 (dk_at dksX3_rowDigest_4 5 rfl rfl)
theorem dX3_rowDigest_101 : decode cX3_rowDigest 101 = .ok (.aload_n 0, 1) := dk_42 (dk_at dksX3_rowDigest_4 7 rfl rfl)
theorem dX3_rowDigest_102 : decode cX3_rowDigest 102 = .ok (.getfield 154, 3) := dk_180 0 154 (dk_at dksX3_rowDigest_4 8 rfl rfl)
theorem dX3_rowDigest_105 : decode cX3_rowDigest 105 = .ok (.if_icmp .ge 31, 3) := dk_162 0 31 (dk_at dksX3_rowDigest_4 11 rfl rfl)
theorem dX3_rowDigest_108 : decode cX3_rowDigest 108 = .ok (.ldc2_w 423, 3) := dk_20 1 167 (dk_at dksX3_rowDigest_4 14 rfl rfl)
theorem dX3_rowDigest_111 : decode cX3_rowDigest 111 = .ok (.lload 4, 2) := dk_22 4 (dk_at dksX3_rowDigest_4 17 rfl rfl)
theorem dX3_rowDigest_113 : decode cX3_rowDigest 113 = .ok (.lmul, 1) := dk_105 (dk_at dksX3_rowDigest_4 19 rfl rfl)
theorem dX3_rowDigest_114 : decode cX3_rowDigest 114 = .ok (.aload_n 0, 1) := dk_42 (dk_at dksX3_rowDigest_4 20 rfl rfl)
theorem dX3_rowDigest_115 : decode cX3_rowDigest 115 = .ok (.iload 6, 2) := dk_21 6 (dk_at dksX3_rowDigest_4 21 rfl rfl)
theorem dX3_rowDigest_117 : decode cX3_rowDigest 117 = .ok (.iload_n 3, 1) := dk_29 (dk_at dksX3_rowDigest_4 23 rfl rfl)
theorem dX3_rowDigest_118 : decode cX3_rowDigest 118 = .ok (.iload 8, 2) := dk_21 8 (dk_at dksX3_rowDigest_5 0 rfl rfl)
theorem dX3_rowDigest_120 : decode cX3_rowDigest 120 = .ok (.invokevirtual 262, 3) := dk_182 1 6 (dk_at dksX3_rowDigest_5 2 rfl rfl)
theorem dX3_rowDigest_123 : decode cX3_rowDigest 123 = .ok (.invokestatic 271, 3) := dk_184 1 15 (dk_at dksX3_rowDigest_5 5 rfl rfl)
theorem dX3_rowDigest_126 : decode cX3_rowDigest 126 = .ok (.i2l, 1) := dk_133 (dk_at dksX3_rowDigest_5 8 rfl rfl)
theorem dX3_rowDigest_127 : decode cX3_rowDigest 127 = .ok (.ladd, 1) := dk_97 (dk_at dksX3_rowDigest_5 9 rfl rfl)
theorem dX3_rowDigest_128 : decode cX3_rowDigest 128 = .ok (.lstore 4, 2) := dk_55 4 (dk_at dksX3_rowDigest_5 10 rfl rfl)
theorem dX3_rowDigest_130 : decode cX3_rowDigest 130 = .ok (.iinc 8 1, 3) := dk_132 8 1 (dk_at dksX3_rowDigest_5 12 rfl rfl)
theorem dX3_rowDigest_133 : decode cX3_rowDigest 133 = .ok (.goto (-34), 3) := dk_167 255 222 (dk_at dksX3_rowDigest_5 15 rfl rfl)
theorem dX3_rowDigest_136 : decode cX3_rowDigest 136 = .ok (.iinc 6 1, 3) := dk_132 6 1 (dk_at dksX3_rowDigest_5 18 rfl rfl)
theorem dX3_rowDigest_139 : decode cX3_rowDigest 139 = .ok (.goto (-90), 3) := dk_167 255 166 (dk_at dksX3_rowDigest_5 21 rfl rfl)
theorem dX3_rowDigest_142 : decode cX3_rowDigest 142 = .ok (.lload 4, 2) := dk_22 4 (dk_at dksX3_rowDigest_6 0 rfl rfl)
theorem dX3_rowDigest_144 : decode cX3_rowDigest 144 = .ok (.lreturn, 1) := dk_173 (dk_at dksX3_rowDigest_6 2 rfl rfl)
abbrev cX3_cellsDigest : ByteArray := prog_18_method_117_code
def yX3_cellsDigest : MethodName := ⟨RX3, "cellsDigest", "(JI)J"⟩
def dkwX3_cellsDigest_4 : List UInt8 := [42, 5, 29, 21, 6, 182, 1, 63, 133, 97, 55, 4, 132, 6, 1, 167, 255, 154, 22, 4, 173]
abbrev dktX3_cellsDigest_4 : List UInt8 := dkwX3_cellsDigest_4 ++ []
def dkwX3_cellsDigest_3 : List UInt8 := [20, 1, 167, 22, 4, 105, 42, 4, 29, 21, 6, 182, 1, 63, 133, 97, 55, 4, 20, 1, 167, 22, 4, 105]
abbrev dktX3_cellsDigest_3 : List UInt8 := dkwX3_cellsDigest_3 ++ dktX3_cellsDigest_4
def dkwX3_cellsDigest_2 : List UInt8 := [20, 1, 167, 22, 4, 105, 42, 180, 0, 20, 16, 24, 29, 104, 21, 6, 96, 46, 133, 97, 55, 4]
abbrev dktX3_cellsDigest_2 : List UInt8 := dkwX3_cellsDigest_2 ++ dktX3_cellsDigest_3
def dkwX3_cellsDigest_1 : List UInt8 := [159, 0, 87, 20, 1, 167, 22, 4, 105, 42, 16, 24, 29, 104, 21, 6, 96, 182, 0, 148, 97, 55, 4]
abbrev dktX3_cellsDigest_1 : List UInt8 := dkwX3_cellsDigest_1 ++ dktX3_cellsDigest_2
def dkwX3_cellsDigest_0 : List UInt8 := [31, 55, 4, 3, 54, 6, 21, 6, 42, 180, 0, 13, 29, 46, 162, 0, 97, 42, 180, 0, 7, 29, 46, 2]
abbrev dktX3_cellsDigest_0 : List UInt8 := dkwX3_cellsDigest_0 ++ dktX3_cellsDigest_1
theorem dksX3_cellsDigest_0 : cX3_cellsDigest.data.toList.drop 0 = dktX3_cellsDigest_0 := by decide +kernel
theorem dksX3_cellsDigest_1 : cX3_cellsDigest.data.toList.drop 24 = dktX3_cellsDigest_1 := dk_seg dksX3_cellsDigest_0 24 rfl rfl
theorem dksX3_cellsDigest_2 : cX3_cellsDigest.data.toList.drop 47 = dktX3_cellsDigest_2 := dk_seg dksX3_cellsDigest_1 23 rfl rfl
theorem dksX3_cellsDigest_3 : cX3_cellsDigest.data.toList.drop 69 = dktX3_cellsDigest_3 := dk_seg dksX3_cellsDigest_2 22 rfl rfl
theorem dksX3_cellsDigest_4 : cX3_cellsDigest.data.toList.drop 93 = dktX3_cellsDigest_4 := dk_seg dksX3_cellsDigest_3 24 rfl rfl
theorem dX3_cellsDigest_0 : decode cX3_cellsDigest 0 = .ok (.lload_n 1, 1) := dk_31 (dk_at dksX3_cellsDigest_0 0 rfl rfl)
theorem dX3_cellsDigest_1 : decode cX3_cellsDigest 1 = .ok (.lstore 4, 2) := dk_55 4 (dk_at dksX3_cellsDigest_0 1 rfl rfl)
theorem dX3_cellsDigest_3 : decode cX3_cellsDigest 3 = .ok (.iconst 0, 1) := dk_3 (dk_at dksX3_cellsDigest_0 3 rfl rfl)
theorem dX3_cellsDigest_4 : decode cX3_cellsDigest 4 = .ok (.istore 6, 2) := dk_54 6 (dk_at dksX3_cellsDigest_0 4 rfl rfl)
theorem dX3_cellsDigest_6 : decode cX3_cellsDigest 6 = .ok (.iload 6, 2) := dk_21 6 (dk_at dksX3_cellsDigest_0 6 rfl rfl)
theorem dX3_cellsDigest_8 : decode cX3_cellsDigest 8 = .ok (.aload_n 0, 1) := dk_42 (dk_at dksX3_cellsDigest_0 8 rfl rfl)
theorem dX3_cellsDigest_9 : decode cX3_cellsDigest 9 = .ok (.getfield 13, 3) := dk_180 0 13 (dk_at dksX3_cellsDigest_0 9 rfl rfl)
theorem dX3_cellsDigest_12 : decode cX3_cellsDigest 12 = .ok (.iload_n 3, 1) := dk_29 (dk_at dksX3_cellsDigest_0 12 rfl rfl)
theorem dX3_cellsDigest_13 : decode cX3_cellsDigest 13 = .ok (.iaload, 1) := dk_46 (dk_at dksX3_cellsDigest_0 13 rfl rfl)
theorem dX3_cellsDigest_14 : decode cX3_cellsDigest 14 = .ok (.if_icmp .ge 97, 3) := dk_162 0 97 (dk_at dksX3_cellsDigest_0 14 rfl rfl)
theorem dX3_cellsDigest_17 : decode cX3_cellsDigest 17 = .ok (.aload_n 0, 1) := dk_42 (dk_at dksX3_cellsDigest_0 17 rfl rfl)
theorem dX3_cellsDigest_18 : decode cX3_cellsDigest 18 = .ok (.getfield 7, 3) := dk_180 0 7 (dk_at dksX3_cellsDigest_0 18 rfl rfl)
theorem dX3_cellsDigest_21 : decode cX3_cellsDigest 21 = .ok (.iload_n 3, 1) := dk_29 (dk_at dksX3_cellsDigest_0 21 rfl rfl)
theorem dX3_cellsDigest_22 : decode cX3_cellsDigest 22 = .ok (.iaload, 1) := dk_46 (dk_at dksX3_cellsDigest_0 22 rfl rfl)
theorem dX3_cellsDigest_23 : decode cX3_cellsDigest 23 = .ok (.iconst (-1), 1) := dk_2 (dk_at dksX3_cellsDigest_0 23 rfl rfl)
theorem dX3_cellsDigest_24 : decode cX3_cellsDigest 24 = .ok (.if_icmp .eq 87, 3) := dk_159 0 87 (dk_at dksX3_cellsDigest_1 0 rfl rfl)
theorem dX3_cellsDigest_27 : decode cX3_cellsDigest 27 = .ok (.ldc2_w 423, 3) := dk_20 1 167 (dk_at dksX3_cellsDigest_1 3 rfl rfl)
theorem dX3_cellsDigest_30 : decode cX3_cellsDigest 30 = .ok (.lload 4, 2) := dk_22 4 (dk_at dksX3_cellsDigest_1 6 rfl rfl)
theorem dX3_cellsDigest_32 : decode cX3_cellsDigest 32 = .ok (.lmul, 1) := dk_105 (dk_at dksX3_cellsDigest_1 8 rfl rfl)
theorem dX3_cellsDigest_33 : decode cX3_cellsDigest 33 = .ok (.aload_n 0, 1) := dk_42 (dk_at dksX3_cellsDigest_1 9 rfl rfl)
theorem dX3_cellsDigest_34 : decode cX3_cellsDigest 34 = .ok (.bipush 24, 2) := dk_16 24 (dk_at dksX3_cellsDigest_1 10 rfl rfl)
theorem dX3_cellsDigest_36 : decode cX3_cellsDigest 36 = .ok (.iload_n 3, 1) := dk_29 (dk_at dksX3_cellsDigest_1 12 rfl rfl)
theorem dX3_cellsDigest_37 : decode cX3_cellsDigest 37 = .ok (.imul, 1) := dk_104 (dk_at dksX3_cellsDigest_1 13 rfl rfl)
theorem dX3_cellsDigest_38 : decode cX3_cellsDigest 38 = .ok (.iload 6, 2) := dk_21 6 (dk_at dksX3_cellsDigest_1 14 rfl rfl)
theorem dX3_cellsDigest_40 : decode cX3_cellsDigest 40 = .ok (.iadd, 1) := dk_96 (dk_at dksX3_cellsDigest_1 16 rfl rfl)
theorem dX3_cellsDigest_41 : decode cX3_cellsDigest 41 = .ok (.invokevirtual 148, 3) := dk_182 0 148 (dk_at dksX3_cellsDigest_1 17 rfl rfl)
theorem dX3_cellsDigest_44 : decode cX3_cellsDigest 44 = .ok (.ladd, 1) := dk_97 (dk_at dksX3_cellsDigest_1 20 rfl rfl)
theorem dX3_cellsDigest_45 : decode cX3_cellsDigest 45 = .ok (.lstore 4, 2) := dk_55 4 (dk_at dksX3_cellsDigest_1 21 rfl rfl)
theorem dX3_cellsDigest_47 : decode cX3_cellsDigest 47 = .ok (.ldc2_w 423, 3) := dk_20 1 167 (dk_at dksX3_cellsDigest_2 0 rfl rfl)
theorem dX3_cellsDigest_50 : decode cX3_cellsDigest 50 = .ok (.lload 4, 2) := dk_22 4 (dk_at dksX3_cellsDigest_2 3 rfl rfl)
theorem dX3_cellsDigest_52 : decode cX3_cellsDigest 52 = .ok (.lmul, 1) := dk_105 (dk_at dksX3_cellsDigest_2 5 rfl rfl)
theorem dX3_cellsDigest_53 : decode cX3_cellsDigest 53 = .ok (.aload_n 0, 1) := dk_42 (dk_at dksX3_cellsDigest_2 6 rfl rfl)
theorem dX3_cellsDigest_54 : decode cX3_cellsDigest 54 = .ok (.getfield 20, 3) := dk_180 0 20 (dk_at dksX3_cellsDigest_2 7 rfl rfl)
theorem dX3_cellsDigest_57 : decode cX3_cellsDigest 57 = .ok (.bipush 24, 2) := dk_16 24 (dk_at dksX3_cellsDigest_2 10 rfl rfl)
theorem dX3_cellsDigest_59 : decode cX3_cellsDigest 59 = .ok (.iload_n 3, 1) := dk_29 (dk_at dksX3_cellsDigest_2 12 rfl rfl)
theorem dX3_cellsDigest_60 : decode cX3_cellsDigest 60 = .ok (.imul, 1) := dk_104 (dk_at dksX3_cellsDigest_2 13 rfl rfl)
theorem dX3_cellsDigest_61 : decode cX3_cellsDigest 61 = .ok (.iload 6, 2) := dk_21 6 (dk_at dksX3_cellsDigest_2 14 rfl rfl)
theorem dX3_cellsDigest_63 : decode cX3_cellsDigest 63 = .ok (.iadd, 1) := dk_96 (dk_at dksX3_cellsDigest_2 16 rfl rfl)
theorem dX3_cellsDigest_64 : decode cX3_cellsDigest 64 = .ok (.iaload, 1) := dk_46 (dk_at dksX3_cellsDigest_2 17 rfl rfl)
theorem dX3_cellsDigest_65 : decode cX3_cellsDigest 65 = .ok (.i2l, 1) := dk_133 (dk_at dksX3_cellsDigest_2 18 rfl rfl)
theorem dX3_cellsDigest_66 : decode cX3_cellsDigest 66 = .ok (.ladd, 1) := dk_97 (dk_at dksX3_cellsDigest_2 19 rfl rfl)
theorem dX3_cellsDigest_67 : decode cX3_cellsDigest 67 = .ok (.lstore 4, 2) := dk_55 4 (dk_at dksX3_cellsDigest_2 20 rfl rfl)
theorem dX3_cellsDigest_69 : decode cX3_cellsDigest 69 = .ok (.ldc2_w 423, 3) := dk_20 1 167 (dk_at dksX3_cellsDigest_3 0 rfl rfl)
theorem dX3_cellsDigest_72 : decode cX3_cellsDigest 72 = .ok (.lload 4, 2) := dk_22 4 (dk_at dksX3_cellsDigest_3 3 rfl rfl)
theorem dX3_cellsDigest_74 : decode cX3_cellsDigest 74 = .ok (.lmul, 1) := dk_105 (dk_at dksX3_cellsDigest_3 5 rfl rfl)
theorem dX3_cellsDigest_75 : decode cX3_cellsDigest 75 = .ok (.aload_n 0, 1) := dk_42 (dk_at dksX3_cellsDigest_3 6 rfl rfl)
theorem dX3_cellsDigest_76 : decode cX3_cellsDigest 76 = .ok (.iconst 1, 1) := dk_4 (dk_at dksX3_cellsDigest_3 7 rfl rfl)
theorem dX3_cellsDigest_77 : decode cX3_cellsDigest 77 = .ok (.iload_n 3, 1) := dk_29 (dk_at dksX3_cellsDigest_3 8 rfl rfl)
theorem dX3_cellsDigest_78 : decode cX3_cellsDigest 78 = .ok (.iload 6, 2) := dk_21 6 (dk_at dksX3_cellsDigest_3 9 rfl rfl)
theorem dX3_cellsDigest_80 : decode cX3_cellsDigest 80 = .ok (.invokevirtual 319, 3) := dk_182 1 63 (dk_at dksX3_cellsDigest_3 11 rfl rfl)
theorem dX3_cellsDigest_83 : decode cX3_cellsDigest 83 = .ok (.i2l, 1) := dk_133 (dk_at dksX3_cellsDigest_3 14 rfl rfl)
theorem dX3_cellsDigest_84 : decode cX3_cellsDigest 84 = .ok (.ladd, 1) := dk_97 (dk_at dksX3_cellsDigest_3 15 rfl rfl)
theorem dX3_cellsDigest_85 : decode cX3_cellsDigest 85 = .ok (.lstore 4, 2) := dk_55 4 (dk_at dksX3_cellsDigest_3 16 rfl rfl)
theorem dX3_cellsDigest_87 : decode cX3_cellsDigest 87 = .ok (.ldc2_w 423, 3) := dk_20 1 167 (dk_at dksX3_cellsDigest_3 18 rfl rfl)
theorem dX3_cellsDigest_90 : decode cX3_cellsDigest 90 = .ok (.lload 4, 2) := dk_22 4 (dk_at dksX3_cellsDigest_3 21 rfl rfl)
theorem dX3_cellsDigest_92 : decode cX3_cellsDigest 92 = .ok (.lmul, 1) := dk_105 (dk_at dksX3_cellsDigest_3 23 rfl rfl)
theorem dX3_cellsDigest_93 : decode cX3_cellsDigest 93 = .ok (.aload_n 0, 1) := dk_42 (dk_at dksX3_cellsDigest_4 0 rfl rfl)
theorem dX3_cellsDigest_94 : decode cX3_cellsDigest 94 = .ok (.iconst 2, 1) := dk_5 (dk_at dksX3_cellsDigest_4 1 rfl rfl)
theorem dX3_cellsDigest_95 : decode cX3_cellsDigest 95 = .ok (.iload_n 3, 1) := dk_29 (dk_at dksX3_cellsDigest_4 2 rfl rfl)
theorem dX3_cellsDigest_96 : decode cX3_cellsDigest 96 = .ok (.iload 6, 2) := dk_21 6 (dk_at dksX3_cellsDigest_4 3 rfl rfl)
theorem dX3_cellsDigest_98 : decode cX3_cellsDigest 98 = .ok (.invokevirtual 319, 3) := dk_182 1 63 (dk_at dksX3_cellsDigest_4 5 rfl rfl)
theorem dX3_cellsDigest_101 : decode cX3_cellsDigest 101 = .ok (.i2l, 1) := dk_133 (dk_at dksX3_cellsDigest_4 8 rfl rfl)
theorem dX3_cellsDigest_102 : decode cX3_cellsDigest 102 = .ok (.ladd, 1) := dk_97 (dk_at dksX3_cellsDigest_4 9 rfl rfl)
theorem dX3_cellsDigest_103 : decode cX3_cellsDigest 103 = .ok (.lstore 4, 2) := dk_55 4 (dk_at dksX3_cellsDigest_4 10 rfl rfl)
theorem dX3_cellsDigest_105 : decode cX3_cellsDigest 105 = .ok (.iinc 6 1, 3) := dk_132 6 1 (dk_at dksX3_cellsDigest_4 12 rfl rfl)
theorem dX3_cellsDigest_108 : decode cX3_cellsDigest 108 = .ok (.goto (-102), 3) := dk_167 255 154 (dk_at dksX3_cellsDigest_4 15 rfl rfl)
theorem dX3_cellsDigest_111 : decode cX3_cellsDigest 111 = .ok (.lload 4, 2) := dk_22 4 (dk_at dksX3_cellsDigest_4 18 rfl rfl)
theorem dX3_cellsDigest_113 : decode cX3_cellsDigest 113 = .ok (.lreturn, 1) := dk_173 (dk_at dksX3_cellsDigest_4 20 rfl rfl)
theorem q161 : (Jvm.Cond.initialized "StrideTurnsModel") ∈ lw_all := lw_g (lw_at lw_m1 28 rfl) rfl
theorem q302 : (Jvm.Cond.selects "StrideTurnsModel" ({ cls := "java/lang/Object", name := "hashCode", desc := "()I" } : Jvm.MethodName) ({ cls := "java/lang/Object", name := "hashCode", desc := "()I" } : Jvm.MethodName)) ∈ lw_all := lw_g (lw_at lw_m1 169 rfl) rfl
theorem q496 : (Jvm.Cond.selects "StrideTurnsModel" ({ cls := "java/lang/Object", name := "getClass", desc := "()Ljava/lang/Class;" } : Jvm.MethodName) ({ cls := "java/lang/Object", name := "getClass", desc := "()Ljava/lang/Class;" } : Jvm.MethodName)) ∈ lw_all := lw_g (lw_at lw_m2 123 rfl) rfl
theorem q766 : (Jvm.Cond.selects "StrideTurnsModel" ({ cls := "java/lang/Object", name := "equals", desc := "(Ljava/lang/Object;)Z" } : Jvm.MethodName) ({ cls := "java/lang/Object", name := "equals", desc := "(Ljava/lang/Object;)Z" } : Jvm.MethodName)) ∈ lw_all := lw_g (lw_at lw_m3 153 rfl) rfl
theorem q2592 : (Jvm.Cond.instantiable "StrideTurnsModel" (47 : Nat)) ∈ lw_all := lw_g (lw_at lw_m11 59 rfl) rfl
theorem q2594 : (Jvm.Cond.instanceMethod ({ cls := "StrideTurnsModel", name := "<init>", desc := "()V" } : Jvm.MethodName)) ∈ lw_all := lw_g (lw_at lw_m11 61 rfl) rfl
theorem q2595 : (Jvm.Cond.code ({ cls := "StrideTurnsModel", name := "<init>", desc := "()V" } : Jvm.MethodName) prog_18_method_1_code (2 : Nat) (Option.none : Option Jvm.ClassFile.FieldType)) ∈ lw_all := lw_g (lw_at lw_m11 62 rfl) rfl
theorem q2596 : (Jvm.Cond.methodLink "StrideTurnsModel" (1 : Nat) ({ cls := "java/lang/Object", name := "<init>", desc := "()V" } : Jvm.MethodName)) ∈ lw_all := lw_g (lw_at lw_m11 63 rfl) rfl
theorem q2597 : (Jvm.Cond.fieldLink "StrideTurnsModel" (7 : Nat) "StrideTurnsModel" "forms" "[I") ∈ lw_all := lw_g (lw_at lw_m11 64 rfl) rfl
theorem q2598 : (Jvm.Cond.fieldLink "StrideTurnsModel" (13 : Nat) "StrideTurnsModel" "sizes" "[I") ∈ lw_all := lw_g (lw_at lw_m11 65 rfl) rfl
theorem q2599 : (Jvm.Cond.fieldLink "StrideTurnsModel" (16 : Nat) "StrideTurnsModel" "cells" "[D") ∈ lw_all := lw_g (lw_at lw_m11 66 rfl) rfl
theorem q2600 : (Jvm.Cond.fieldLink "StrideTurnsModel" (20 : Nat) "StrideTurnsModel" "writers" "[I") ∈ lw_all := lw_g (lw_at lw_m11 67 rfl) rfl
theorem q2601 : (Jvm.Cond.fieldLink "StrideTurnsModel" (110 : Nat) "StrideTurnsModel" "finding" "I") ∈ lw_all := lw_g (lw_at lw_m11 68 rfl) rfl
theorem q2602 : (Jvm.Cond.fieldLink "StrideTurnsModel" (23 : Nat) "StrideTurnsModel" "moved" "[D") ∈ lw_all := lw_g (lw_at lw_m11 69 rfl) rfl
theorem q2603 : (Jvm.Cond.fieldLink "StrideTurnsModel" (154 : Nat) "StrideTurnsModel" "many" "I") ∈ lw_all := lw_g (lw_at lw_m11 70 rfl) rfl
theorem q2604 : (Jvm.Cond.fieldLink "StrideTurnsModel" (171 : Nat) "StrideTurnsModel" "statements" "I") ∈ lw_all := lw_g (lw_at lw_m11 71 rfl) rfl
theorem q2605 : (Jvm.Cond.fieldLink "StrideTurnsModel" (26 : Nat) "StrideTurnsModel" "operations" "[I") ∈ lw_all := lw_g (lw_at lw_m11 72 rfl) rfl
theorem q2606 : (Jvm.Cond.fieldLink "StrideTurnsModel" (29 : Nat) "StrideTurnsModel" "counts" "[I") ∈ lw_all := lw_g (lw_at lw_m11 73 rfl) rfl
theorem q2607 : (Jvm.Cond.fieldLink "StrideTurnsModel" (32 : Nat) "StrideTurnsModel" "periods" "[I") ∈ lw_all := lw_g (lw_at lw_m11 74 rfl) rfl
theorem q2608 : (Jvm.Cond.fieldLink "StrideTurnsModel" (35 : Nat) "StrideTurnsModel" "phases" "[I") ∈ lw_all := lw_g (lw_at lw_m11 75 rfl) rfl
theorem q2609 : (Jvm.Cond.fieldLink "StrideTurnsModel" (38 : Nat) "StrideTurnsModel" "masks" "[I") ∈ lw_all := lw_g (lw_at lw_m11 76 rfl) rfl
theorem q2610 : (Jvm.Cond.fieldLink "StrideTurnsModel" (41 : Nat) "StrideTurnsModel" "goals" "[I") ∈ lw_all := lw_g (lw_at lw_m11 77 rfl) rfl
theorem q2611 : (Jvm.Cond.fieldLink "StrideTurnsModel" (44 : Nat) "StrideTurnsModel" "froms" "[I") ∈ lw_all := lw_g (lw_at lw_m11 78 rfl) rfl
theorem q2612 : (Jvm.Cond.fieldLink "StrideTurnsModel" (47 : Nat) "StrideTurnsModel" "bys" "[I") ∈ lw_all := lw_g (lw_at lw_m11 79 rfl) rfl
theorem q2613 : (Jvm.Cond.fieldLink "StrideTurnsModel" (50 : Nat) "StrideTurnsModel" "steps" "[I") ∈ lw_all := lw_g (lw_at lw_m11 80 rfl) rfl
theorem q2614 : (Jvm.Cond.fieldLink "StrideTurnsModel" (53 : Nat) "StrideTurnsModel" "log" "[I") ∈ lw_all := lw_g (lw_at lw_m11 81 rfl) rfl
theorem q2615 : (Jvm.Cond.fieldLink "StrideTurnsModel" (151 : Nat) "StrideTurnsModel" "logged" "I") ∈ lw_all := lw_g (lw_at lw_m11 82 rfl) rfl
theorem q2616 : (Jvm.Cond.fieldLink "StrideTurnsModel" (56 : Nat) "StrideTurnsModel" "typed" "[I") ∈ lw_all := lw_g (lw_at lw_m11 83 rfl) rfl
theorem q2617 : (Jvm.Cond.fieldLink "StrideTurnsModel" (161 : Nat) "StrideTurnsModel" "typedMany" "I") ∈ lw_all := lw_g (lw_at lw_m11 84 rfl) rfl
theorem q2618 : (Jvm.Cond.fieldLink "StrideTurnsModel" (59 : Nat) "StrideTurnsModel" "kindsNow" "[I") ∈ lw_all := lw_g (lw_at lw_m11 85 rfl) rfl
theorem q2619 : (Jvm.Cond.fieldLink "StrideTurnsModel" (225 : Nat) "StrideTurnsModel" "kindsMany" "I") ∈ lw_all := lw_g (lw_at lw_m11 86 rfl) rfl
theorem q2620 : (Jvm.Cond.fieldLink "StrideTurnsModel" (62 : Nat) "StrideTurnsModel" "sets" "[I") ∈ lw_all := lw_g (lw_at lw_m11 87 rfl) rfl
theorem q2621 : (Jvm.Cond.fieldLink "StrideTurnsModel" (65 : Nat) "StrideTurnsModel" "covered" "[I") ∈ lw_all := lw_g (lw_at lw_m11 88 rfl) rfl
theorem q2622 : (Jvm.Cond.fieldLink "StrideTurnsModel" (248 : Nat) "StrideTurnsModel" "isRisky" "Z") ∈ lw_all := lw_g (lw_at lw_m11 89 rfl) rfl
theorem q2623 : (Jvm.Cond.fieldLink "StrideTurnsModel" (277 : Nat) "StrideTurnsModel" "pieceFirst" "I") ∈ lw_all := lw_g (lw_at lw_m11 90 rfl) rfl
theorem q2624 : (Jvm.Cond.fieldLink "StrideTurnsModel" (280 : Nat) "StrideTurnsModel" "pieceStride" "I") ∈ lw_all := lw_g (lw_at lw_m11 91 rfl) rfl
theorem q2625 : (Jvm.Cond.fieldLink "StrideTurnsModel" (283 : Nat) "StrideTurnsModel" "pieceMany" "I") ∈ lw_all := lw_g (lw_at lw_m11 92 rfl) rfl
theorem q2626 : (Jvm.Cond.fieldLink "StrideTurnsModel" (68 : Nat) "StrideTurnsModel" "verdicts" "[I") ∈ lw_all := lw_g (lw_at lw_m11 93 rfl) rfl
theorem q2627 : (Jvm.Cond.fieldLink "StrideTurnsModel" (71 : Nat) "StrideTurnsModel" "before" "[D") ∈ lw_all := lw_g (lw_at lw_m11 94 rfl) rfl
theorem q2628 : (Jvm.Cond.fieldLink "StrideTurnsModel" (74 : Nat) "StrideTurnsModel" "owns" "[D") ∈ lw_all := lw_g (lw_at lw_m11 95 rfl) rfl
theorem q2629 : (Jvm.Cond.fieldLink "StrideTurnsModel" (77 : Nat) "StrideTurnsModel" "hasOwn" "[Z") ∈ lw_all := lw_g (lw_at lw_m11 96 rfl) rfl
theorem q2630 : (Jvm.Cond.fieldLink "StrideTurnsModel" (359 : Nat) "StrideTurnsModel" "isMixed" "Z") ∈ lw_all := lw_g (lw_at lw_m11 97 rfl) rfl
theorem q2631 : (Jvm.Cond.fieldLink "StrideTurnsModel" (377 : Nat) "StrideTurnsModel" "items" "I") ∈ lw_all := lw_g (lw_at lw_m11 98 rfl) rfl
theorem q2632 : (Jvm.Cond.fieldLink "StrideTurnsModel" (81 : Nat) "StrideTurnsModel" "faultsNow" "[I") ∈ lw_all := lw_g (lw_at lw_m11 99 rfl) rfl
theorem q2633 : (Jvm.Cond.fieldLink "StrideTurnsModel" (84 : Nat) "StrideTurnsModel" "order" "[I") ∈ lw_all := lw_g (lw_at lw_m11 100 rfl) rfl
theorem q2634 : (Jvm.Cond.fieldLink "StrideTurnsModel" (380 : Nat) "StrideTurnsModel" "orderMany" "I") ∈ lw_all := lw_g (lw_at lw_m11 101 rfl) rfl
theorem q2635 : (Jvm.Cond.fieldLink "StrideTurnsModel" (338 : Nat) "StrideTurnsModel" "stopped" "I") ∈ lw_all := lw_g (lw_at lw_m11 102 rfl) rfl
theorem q2636 : (Jvm.Cond.fieldLink "StrideTurnsModel" (331 : Nat) "StrideTurnsModel" "isKept" "Z") ∈ lw_all := lw_g (lw_at lw_m11 103 rfl) rfl
theorem q2637 : (Jvm.Cond.fieldLink "StrideTurnsModel" (87 : Nat) "StrideTurnsModel" "next" "[I") ∈ lw_all := lw_g (lw_at lw_m11 104 rfl) rfl
theorem q2638 : (Jvm.Cond.fieldLink "StrideTurnsModel" (90 : Nat) "StrideTurnsModel" "keptCells" "[D") ∈ lw_all := lw_g (lw_at lw_m11 105 rfl) rfl
theorem q2639 : (Jvm.Cond.fieldLink "StrideTurnsModel" (93 : Nat) "StrideTurnsModel" "inOrder" "[D") ∈ lw_all := lw_g (lw_at lw_m11 106 rfl) rfl
theorem q2640 : (Jvm.Cond.fieldLink "StrideTurnsModel" (96 : Nat) "StrideTurnsModel" "keptWriters" "[I") ∈ lw_all := lw_g (lw_at lw_m11 107 rfl) rfl
theorem q2641 : (Jvm.Cond.fieldLink "StrideTurnsModel" (99 : Nat) "StrideTurnsModel" "keptOrder" "[I") ∈ lw_all := lw_g (lw_at lw_m11 108 rfl) rfl
theorem q2642 : (Jvm.Cond.fieldLink "StrideTurnsModel" (102 : Nat) "StrideTurnsModel" "keptFaults" "[I") ∈ lw_all := lw_g (lw_at lw_m11 109 rfl) rfl
theorem q2643 : (Jvm.Cond.fieldLink "StrideTurnsModel" (105 : Nat) "StrideTurnsModel" "orderFaults" "[I") ∈ lw_all := lw_g (lw_at lw_m11 110 rfl) rfl
theorem q2644 : (Jvm.Cond.laysFinal "StrideTurnsModel" "StrideTurnsModel" "forms" "[I") ∈ lw_all := lw_g (lw_at lw_m11 111 rfl) rfl
theorem q2645 : (Jvm.Cond.soleField "StrideTurnsModel" "forms") ∈ lw_all := lw_g (lw_at lw_m11 112 rfl) rfl
theorem q2646 : (Jvm.Cond.laysFinal "StrideTurnsModel" "StrideTurnsModel" "sizes" "[I") ∈ lw_all := lw_g (lw_at lw_m11 113 rfl) rfl
theorem q2647 : (Jvm.Cond.soleField "StrideTurnsModel" "sizes") ∈ lw_all := lw_g (lw_at lw_m11 114 rfl) rfl
theorem q2648 : (Jvm.Cond.laysFinal "StrideTurnsModel" "StrideTurnsModel" "cells" "[D") ∈ lw_all := lw_g (lw_at lw_m11 115 rfl) rfl
theorem q2649 : (Jvm.Cond.soleField "StrideTurnsModel" "cells") ∈ lw_all := lw_g (lw_at lw_m11 116 rfl) rfl
theorem q2650 : (Jvm.Cond.laysFinal "StrideTurnsModel" "StrideTurnsModel" "writers" "[I") ∈ lw_all := lw_g (lw_at lw_m11 117 rfl) rfl
theorem q2651 : (Jvm.Cond.soleField "StrideTurnsModel" "writers") ∈ lw_all := lw_g (lw_at lw_m11 118 rfl) rfl
theorem q2652 : (Jvm.Cond.lays "StrideTurnsModel" "StrideTurnsModel" "finding" "I") ∈ lw_all := lw_g (lw_at lw_m11 119 rfl) rfl
theorem q2653 : (Jvm.Cond.soleField "StrideTurnsModel" "finding") ∈ lw_all := lw_g (lw_at lw_m11 120 rfl) rfl
theorem q2654 : (Jvm.Cond.laysFinal "StrideTurnsModel" "StrideTurnsModel" "moved" "[D") ∈ lw_all := lw_g (lw_at lw_m11 121 rfl) rfl
theorem q2655 : (Jvm.Cond.soleField "StrideTurnsModel" "moved") ∈ lw_all := lw_g (lw_at lw_m11 122 rfl) rfl
theorem q2656 : (Jvm.Cond.lays "StrideTurnsModel" "StrideTurnsModel" "many" "I") ∈ lw_all := lw_g (lw_at lw_m11 123 rfl) rfl
theorem q2657 : (Jvm.Cond.soleField "StrideTurnsModel" "many") ∈ lw_all := lw_g (lw_at lw_m11 124 rfl) rfl
theorem q2658 : (Jvm.Cond.lays "StrideTurnsModel" "StrideTurnsModel" "statements" "I") ∈ lw_all := lw_g (lw_at lw_m11 125 rfl) rfl
theorem q2659 : (Jvm.Cond.soleField "StrideTurnsModel" "statements") ∈ lw_all := lw_g (lw_at lw_m11 126 rfl) rfl
theorem q2660 : (Jvm.Cond.laysFinal "StrideTurnsModel" "StrideTurnsModel" "operations" "[I") ∈ lw_all := lw_g (lw_at lw_m11 127 rfl) rfl
theorem q2661 : (Jvm.Cond.soleField "StrideTurnsModel" "operations") ∈ lw_all := lw_g (lw_at lw_m11 128 rfl) rfl
theorem q2662 : (Jvm.Cond.laysFinal "StrideTurnsModel" "StrideTurnsModel" "counts" "[I") ∈ lw_all := lw_g (lw_at lw_m11 129 rfl) rfl
theorem q2663 : (Jvm.Cond.soleField "StrideTurnsModel" "counts") ∈ lw_all := lw_g (lw_at lw_m11 130 rfl) rfl
theorem q2664 : (Jvm.Cond.laysFinal "StrideTurnsModel" "StrideTurnsModel" "periods" "[I") ∈ lw_all := lw_g (lw_at lw_m11 131 rfl) rfl
theorem q2665 : (Jvm.Cond.soleField "StrideTurnsModel" "periods") ∈ lw_all := lw_g (lw_at lw_m11 132 rfl) rfl
theorem q2666 : (Jvm.Cond.laysFinal "StrideTurnsModel" "StrideTurnsModel" "phases" "[I") ∈ lw_all := lw_g (lw_at lw_m11 133 rfl) rfl
theorem q2667 : (Jvm.Cond.soleField "StrideTurnsModel" "phases") ∈ lw_all := lw_g (lw_at lw_m11 134 rfl) rfl
theorem q2668 : (Jvm.Cond.laysFinal "StrideTurnsModel" "StrideTurnsModel" "masks" "[I") ∈ lw_all := lw_g (lw_at lw_m11 135 rfl) rfl
theorem q2669 : (Jvm.Cond.soleField "StrideTurnsModel" "masks") ∈ lw_all := lw_g (lw_at lw_m11 136 rfl) rfl
theorem q2670 : (Jvm.Cond.laysFinal "StrideTurnsModel" "StrideTurnsModel" "goals" "[I") ∈ lw_all := lw_g (lw_at lw_m11 137 rfl) rfl
theorem q2671 : (Jvm.Cond.soleField "StrideTurnsModel" "goals") ∈ lw_all := lw_g (lw_at lw_m11 138 rfl) rfl
theorem q2672 : (Jvm.Cond.laysFinal "StrideTurnsModel" "StrideTurnsModel" "froms" "[I") ∈ lw_all := lw_g (lw_at lw_m11 139 rfl) rfl
theorem q2673 : (Jvm.Cond.soleField "StrideTurnsModel" "froms") ∈ lw_all := lw_g (lw_at lw_m11 140 rfl) rfl
theorem q2674 : (Jvm.Cond.laysFinal "StrideTurnsModel" "StrideTurnsModel" "bys" "[I") ∈ lw_all := lw_g (lw_at lw_m11 141 rfl) rfl
theorem q2675 : (Jvm.Cond.soleField "StrideTurnsModel" "bys") ∈ lw_all := lw_g (lw_at lw_m11 142 rfl) rfl
theorem q2676 : (Jvm.Cond.laysFinal "StrideTurnsModel" "StrideTurnsModel" "steps" "[I") ∈ lw_all := lw_g (lw_at lw_m11 143 rfl) rfl
theorem q2677 : (Jvm.Cond.soleField "StrideTurnsModel" "steps") ∈ lw_all := lw_g (lw_at lw_m11 144 rfl) rfl
theorem q2678 : (Jvm.Cond.laysFinal "StrideTurnsModel" "StrideTurnsModel" "log" "[I") ∈ lw_all := lw_g (lw_at lw_m11 145 rfl) rfl
theorem q2679 : (Jvm.Cond.soleField "StrideTurnsModel" "log") ∈ lw_all := lw_g (lw_at lw_m11 146 rfl) rfl
theorem q2680 : (Jvm.Cond.lays "StrideTurnsModel" "StrideTurnsModel" "logged" "I") ∈ lw_all := lw_g (lw_at lw_m11 147 rfl) rfl
theorem q2681 : (Jvm.Cond.soleField "StrideTurnsModel" "logged") ∈ lw_all := lw_g (lw_at lw_m11 148 rfl) rfl
theorem q2682 : (Jvm.Cond.laysFinal "StrideTurnsModel" "StrideTurnsModel" "typed" "[I") ∈ lw_all := lw_g (lw_at lw_m11 149 rfl) rfl
theorem q2683 : (Jvm.Cond.soleField "StrideTurnsModel" "typed") ∈ lw_all := lw_g (lw_at lw_m11 150 rfl) rfl
theorem q2684 : (Jvm.Cond.lays "StrideTurnsModel" "StrideTurnsModel" "typedMany" "I") ∈ lw_all := lw_g (lw_at lw_m11 151 rfl) rfl
theorem q2685 : (Jvm.Cond.soleField "StrideTurnsModel" "typedMany") ∈ lw_all := lw_g (lw_at lw_m11 152 rfl) rfl
theorem q2686 : (Jvm.Cond.laysFinal "StrideTurnsModel" "StrideTurnsModel" "kindsNow" "[I") ∈ lw_all := lw_g (lw_at lw_m11 153 rfl) rfl
theorem q2687 : (Jvm.Cond.soleField "StrideTurnsModel" "kindsNow") ∈ lw_all := lw_g (lw_at lw_m11 154 rfl) rfl
theorem q2688 : (Jvm.Cond.lays "StrideTurnsModel" "StrideTurnsModel" "kindsMany" "I") ∈ lw_all := lw_g (lw_at lw_m11 155 rfl) rfl
theorem q2689 : (Jvm.Cond.soleField "StrideTurnsModel" "kindsMany") ∈ lw_all := lw_g (lw_at lw_m11 156 rfl) rfl
theorem q2690 : (Jvm.Cond.laysFinal "StrideTurnsModel" "StrideTurnsModel" "sets" "[I") ∈ lw_all := lw_g (lw_at lw_m11 157 rfl) rfl
theorem q2691 : (Jvm.Cond.soleField "StrideTurnsModel" "sets") ∈ lw_all := lw_g (lw_at lw_m11 158 rfl) rfl
theorem q2692 : (Jvm.Cond.laysFinal "StrideTurnsModel" "StrideTurnsModel" "covered" "[I") ∈ lw_all := lw_g (lw_at lw_m11 159 rfl) rfl
theorem q2693 : (Jvm.Cond.soleField "StrideTurnsModel" "covered") ∈ lw_all := lw_g (lw_at lw_m11 160 rfl) rfl
theorem q2694 : (Jvm.Cond.lays "StrideTurnsModel" "StrideTurnsModel" "isRisky" "Z") ∈ lw_all := lw_g (lw_at lw_m11 161 rfl) rfl
theorem q2695 : (Jvm.Cond.soleField "StrideTurnsModel" "isRisky") ∈ lw_all := lw_g (lw_at lw_m11 162 rfl) rfl
theorem q2696 : (Jvm.Cond.lays "StrideTurnsModel" "StrideTurnsModel" "pieceFirst" "I") ∈ lw_all := lw_g (lw_at lw_m11 163 rfl) rfl
theorem q2697 : (Jvm.Cond.soleField "StrideTurnsModel" "pieceFirst") ∈ lw_all := lw_g (lw_at lw_m11 164 rfl) rfl
theorem q2698 : (Jvm.Cond.lays "StrideTurnsModel" "StrideTurnsModel" "pieceStride" "I") ∈ lw_all := lw_g (lw_at lw_m11 165 rfl) rfl
theorem q2699 : (Jvm.Cond.soleField "StrideTurnsModel" "pieceStride") ∈ lw_all := lw_g (lw_at lw_m11 166 rfl) rfl
theorem q2700 : (Jvm.Cond.lays "StrideTurnsModel" "StrideTurnsModel" "pieceMany" "I") ∈ lw_all := lw_g (lw_at lw_m11 167 rfl) rfl
theorem q2701 : (Jvm.Cond.soleField "StrideTurnsModel" "pieceMany") ∈ lw_all := lw_g (lw_at lw_m11 168 rfl) rfl
theorem q2702 : (Jvm.Cond.laysFinal "StrideTurnsModel" "StrideTurnsModel" "verdicts" "[I") ∈ lw_all := lw_g (lw_at lw_m11 169 rfl) rfl
theorem q2703 : (Jvm.Cond.soleField "StrideTurnsModel" "verdicts") ∈ lw_all := lw_g (lw_at lw_m11 170 rfl) rfl
theorem q2704 : (Jvm.Cond.laysFinal "StrideTurnsModel" "StrideTurnsModel" "before" "[D") ∈ lw_all := lw_g (lw_at lw_m11 171 rfl) rfl
theorem q2705 : (Jvm.Cond.soleField "StrideTurnsModel" "before") ∈ lw_all := lw_g (lw_at lw_m11 172 rfl) rfl
theorem q2706 : (Jvm.Cond.laysFinal "StrideTurnsModel" "StrideTurnsModel" "owns" "[D") ∈ lw_all := lw_g (lw_at lw_m11 173 rfl) rfl
theorem q2707 : (Jvm.Cond.soleField "StrideTurnsModel" "owns") ∈ lw_all := lw_g (lw_at lw_m11 174 rfl) rfl
theorem q2708 : (Jvm.Cond.laysFinal "StrideTurnsModel" "StrideTurnsModel" "hasOwn" "[Z") ∈ lw_all := lw_g (lw_at lw_m11 175 rfl) rfl
theorem q2709 : (Jvm.Cond.soleField "StrideTurnsModel" "hasOwn") ∈ lw_all := lw_g (lw_at lw_m11 176 rfl) rfl
theorem q2710 : (Jvm.Cond.lays "StrideTurnsModel" "StrideTurnsModel" "isMixed" "Z") ∈ lw_all := lw_g (lw_at lw_m11 177 rfl) rfl
theorem q2711 : (Jvm.Cond.soleField "StrideTurnsModel" "isMixed") ∈ lw_all := lw_g (lw_at lw_m11 178 rfl) rfl
theorem q2712 : (Jvm.Cond.lays "StrideTurnsModel" "StrideTurnsModel" "items" "I") ∈ lw_all := lw_g (lw_at lw_m11 179 rfl) rfl
theorem q2713 : (Jvm.Cond.soleField "StrideTurnsModel" "items") ∈ lw_all := lw_g (lw_at lw_m11 180 rfl) rfl
theorem q2714 : (Jvm.Cond.laysFinal "StrideTurnsModel" "StrideTurnsModel" "faultsNow" "[I") ∈ lw_all := lw_g (lw_at lw_m11 181 rfl) rfl
theorem q2715 : (Jvm.Cond.soleField "StrideTurnsModel" "faultsNow") ∈ lw_all := lw_g (lw_at lw_m11 182 rfl) rfl
theorem q2716 : (Jvm.Cond.laysFinal "StrideTurnsModel" "StrideTurnsModel" "order" "[I") ∈ lw_all := lw_g (lw_at lw_m11 183 rfl) rfl
theorem q2717 : (Jvm.Cond.soleField "StrideTurnsModel" "order") ∈ lw_all := lw_g (lw_at lw_m11 184 rfl) rfl
theorem q2718 : (Jvm.Cond.lays "StrideTurnsModel" "StrideTurnsModel" "orderMany" "I") ∈ lw_all := lw_g (lw_at lw_m11 185 rfl) rfl
theorem q2719 : (Jvm.Cond.soleField "StrideTurnsModel" "orderMany") ∈ lw_all := lw_g (lw_at lw_m11 186 rfl) rfl
theorem q2720 : (Jvm.Cond.lays "StrideTurnsModel" "StrideTurnsModel" "stopped" "I") ∈ lw_all := lw_g (lw_at lw_m11 187 rfl) rfl
theorem q2721 : (Jvm.Cond.soleField "StrideTurnsModel" "stopped") ∈ lw_all := lw_g (lw_at lw_m11 188 rfl) rfl
theorem q2722 : (Jvm.Cond.lays "StrideTurnsModel" "StrideTurnsModel" "isKept" "Z") ∈ lw_all := lw_g (lw_at lw_m11 189 rfl) rfl
theorem q2723 : (Jvm.Cond.soleField "StrideTurnsModel" "isKept") ∈ lw_all := lw_g (lw_at lw_m11 190 rfl) rfl
theorem q2724 : (Jvm.Cond.laysFinal "StrideTurnsModel" "StrideTurnsModel" "next" "[I") ∈ lw_all := lw_g (lw_at lw_m11 191 rfl) rfl
theorem q2725 : (Jvm.Cond.soleField "StrideTurnsModel" "next") ∈ lw_all := lw_g (lw_at lw_m11 192 rfl) rfl
theorem q2726 : (Jvm.Cond.laysFinal "StrideTurnsModel" "StrideTurnsModel" "keptCells" "[D") ∈ lw_all := lw_g (lw_at lw_m11 193 rfl) rfl
theorem q2727 : (Jvm.Cond.soleField "StrideTurnsModel" "keptCells") ∈ lw_all := lw_g (lw_at lw_m11 194 rfl) rfl
theorem q2728 : (Jvm.Cond.laysFinal "StrideTurnsModel" "StrideTurnsModel" "inOrder" "[D") ∈ lw_all := lw_g (lw_at lw_m11 195 rfl) rfl
theorem q2729 : (Jvm.Cond.soleField "StrideTurnsModel" "inOrder") ∈ lw_all := lw_g (lw_at lw_m11 196 rfl) rfl
theorem q2730 : (Jvm.Cond.laysFinal "StrideTurnsModel" "StrideTurnsModel" "keptWriters" "[I") ∈ lw_all := lw_g (lw_at lw_m11 197 rfl) rfl
theorem q2731 : (Jvm.Cond.soleField "StrideTurnsModel" "keptWriters") ∈ lw_all := lw_g (lw_at lw_m11 198 rfl) rfl
theorem q2732 : (Jvm.Cond.laysFinal "StrideTurnsModel" "StrideTurnsModel" "keptOrder" "[I") ∈ lw_all := lw_g (lw_at lw_m11 199 rfl) rfl
theorem q2733 : (Jvm.Cond.soleField "StrideTurnsModel" "keptOrder") ∈ lw_all := lw_g (lw_at lw_m11 200 rfl) rfl
theorem q2734 : (Jvm.Cond.laysFinal "StrideTurnsModel" "StrideTurnsModel" "keptFaults" "[I") ∈ lw_all := lw_g (lw_at lw_m11 201 rfl) rfl
theorem q2735 : (Jvm.Cond.soleField "StrideTurnsModel" "keptFaults") ∈ lw_all := lw_g (lw_at lw_m11 202 rfl) rfl
theorem q2736 : (Jvm.Cond.laysFinal "StrideTurnsModel" "StrideTurnsModel" "orderFaults" "[I") ∈ lw_all := lw_g (lw_at lw_m11 203 rfl) rfl
theorem q2737 : (Jvm.Cond.soleField "StrideTurnsModel" "orderFaults") ∈ lw_all := lw_g (lw_at lw_m11 204 rfl) rfl
theorem q2738 : (Jvm.Cond.superclass "StrideTurnsModel" "java/lang/Object") ∈ lw_all := lw_g (lw_at lw_m11 205 rfl) rfl
theorem q2740 : (Jvm.Cond.instanceMethod ({ cls := "StrideTurnsModel", name := "row", desc := "(III)I" } : Jvm.MethodName)) ∈ lw_all := lw_g (lw_at lw_m11 207 rfl) rfl
theorem q2741 : (Jvm.Cond.selects "StrideTurnsModel" ({ cls := "StrideTurnsModel", name := "row", desc := "(III)I" } : Jvm.MethodName) ({ cls := "StrideTurnsModel", name := "row", desc := "(III)I" } : Jvm.MethodName)) ∈ lw_all := lw_g (lw_at lw_m11 208 rfl) rfl
theorem q2742 : (Jvm.Cond.code ({ cls := "StrideTurnsModel", name := "row", desc := "(III)I" } : Jvm.MethodName) prog_18_method_9_code (5 : Nat) (Option.some Jvm.ClassFile.FieldType.int)) ∈ lw_all := lw_g (lw_at lw_m11 209 rfl) rfl
theorem q2743 : (Jvm.Cond.methodLink "StrideTurnsModel" (122 : Nat) ({ cls := "StrideTurnsModel", name := "isRow", desc := "(I)Z" } : Jvm.MethodName)) ∈ lw_all := lw_g (lw_at lw_m11 210 rfl) rfl
theorem q2744 : (Jvm.Cond.static ({ cls := "StrideTurnsModel", name := "isRow", desc := "(I)Z" } : Jvm.MethodName)) ∈ lw_all := lw_g (lw_at lw_m11 211 rfl) rfl
theorem q2745 : (Jvm.Cond.code ({ cls := "StrideTurnsModel", name := "isRow", desc := "(I)Z" } : Jvm.MethodName) prog_18_method_6_code (1 : Nat) (Option.some Jvm.ClassFile.FieldType.boolean)) ∈ lw_all := lw_g (lw_at lw_m11 212 rfl) rfl
theorem q2746 : (Jvm.Cond.methodLink "StrideTurnsModel" (114 : Nat) ({ cls := "StrideTurnsModel", name := "in", desc := "(III)Z" } : Jvm.MethodName)) ∈ lw_all := lw_g (lw_at lw_m11 213 rfl) rfl
theorem q2747 : (Jvm.Cond.static ({ cls := "StrideTurnsModel", name := "in", desc := "(III)Z" } : Jvm.MethodName)) ∈ lw_all := lw_g (lw_at lw_m11 214 rfl) rfl
theorem q2748 : (Jvm.Cond.code ({ cls := "StrideTurnsModel", name := "in", desc := "(III)Z" } : Jvm.MethodName) prog_18_method_3_code (3 : Nat) (Option.some Jvm.ClassFile.FieldType.boolean)) ∈ lw_all := lw_g (lw_at lw_m11 215 rfl) rfl
theorem q2749 : (Jvm.Cond.methodLink "StrideTurnsModel" (126 : Nat) ({ cls := "StrideTurnsModel", name := "meets", desc := "(I)I" } : Jvm.MethodName)) ∈ lw_all := lw_g (lw_at lw_m11 216 rfl) rfl
theorem q2750 : (Jvm.Cond.privateMethod ({ cls := "StrideTurnsModel", name := "meets", desc := "(I)I" } : Jvm.MethodName)) ∈ lw_tbl := lw_at lw_m11 217 rfl
theorem q2751 : (Jvm.Cond.instanceMethod ({ cls := "StrideTurnsModel", name := "meets", desc := "(I)I" } : Jvm.MethodName)) ∈ lw_all := lw_g (lw_at lw_m11 218 rfl) rfl
theorem q2752 : (Jvm.Cond.code ({ cls := "StrideTurnsModel", name := "meets", desc := "(I)I" } : Jvm.MethodName) prog_18_method_5_code (2 : Nat) (Option.some Jvm.ClassFile.FieldType.int)) ∈ lw_all := lw_g (lw_at lw_m11 219 rfl) rfl
theorem q2754 : (Jvm.Cond.instanceMethod ({ cls := "StrideTurnsModel", name := "lose", desc := "(I)I" } : Jvm.MethodName)) ∈ lw_all := lw_g (lw_at lw_m11 221 rfl) rfl
theorem q2755 : (Jvm.Cond.selects "StrideTurnsModel" ({ cls := "StrideTurnsModel", name := "lose", desc := "(I)I" } : Jvm.MethodName) ({ cls := "StrideTurnsModel", name := "lose", desc := "(I)I" } : Jvm.MethodName)) ∈ lw_all := lw_g (lw_at lw_m11 222 rfl) rfl
theorem q2756 : (Jvm.Cond.code ({ cls := "StrideTurnsModel", name := "lose", desc := "(I)I" } : Jvm.MethodName) prog_18_method_10_code (3 : Nat) (Option.some Jvm.ClassFile.FieldType.int)) ∈ lw_all := lw_g (lw_at lw_m11 223 rfl) rfl
theorem q2758 : (Jvm.Cond.instanceMethod ({ cls := "StrideTurnsModel", name := "put", desc := "(IIII)I" } : Jvm.MethodName)) ∈ lw_all := lw_g (lw_at lw_m11 225 rfl) rfl
theorem q2759 : (Jvm.Cond.selects "StrideTurnsModel" ({ cls := "StrideTurnsModel", name := "put", desc := "(IIII)I" } : Jvm.MethodName) ({ cls := "StrideTurnsModel", name := "put", desc := "(IIII)I" } : Jvm.MethodName)) ∈ lw_all := lw_g (lw_at lw_m11 226 rfl) rfl
theorem q2760 : (Jvm.Cond.code ({ cls := "StrideTurnsModel", name := "put", desc := "(IIII)I" } : Jvm.MethodName) prog_18_method_11_code (6 : Nat) (Option.some Jvm.ClassFile.FieldType.int)) ∈ lw_all := lw_g (lw_at lw_m11 227 rfl) rfl
theorem q2761 : (Jvm.Cond.constantFloat "StrideTurnsModel" (130 : Nat) (1090519040 : UInt32)) ∈ lw_all := lw_g (lw_at lw_m11 228 rfl) rfl
theorem q2762 : (Jvm.Cond.constantDouble "StrideTurnsModel" (131 : Nat) (4620693217682128896 : UInt64)) ∈ lw_all := lw_g (lw_at lw_m11 229 rfl) rfl
theorem q2764 : (Jvm.Cond.instanceMethod ({ cls := "StrideTurnsModel", name := "get", desc := "(II)J" } : Jvm.MethodName)) ∈ lw_all := lw_g (lw_at lw_m11 231 rfl) rfl
theorem q2765 : (Jvm.Cond.selects "StrideTurnsModel" ({ cls := "StrideTurnsModel", name := "get", desc := "(II)J" } : Jvm.MethodName) ({ cls := "StrideTurnsModel", name := "get", desc := "(II)J" } : Jvm.MethodName)) ∈ lw_all := lw_g (lw_at lw_m11 232 rfl) rfl
theorem q2766 : (Jvm.Cond.code ({ cls := "StrideTurnsModel", name := "get", desc := "(II)J" } : Jvm.MethodName) prog_18_method_15_code (4 : Nat) (Option.some Jvm.ClassFile.FieldType.long)) ∈ lw_all := lw_g (lw_at lw_m11 233 rfl) rfl
theorem q2767 : (Jvm.Cond.methodLink "StrideTurnsModel" (140 : Nat) ({ cls := "StrideTurnsModel", name := "no", desc := "(I)J" } : Jvm.MethodName)) ∈ lw_all := lw_g (lw_at lw_m11 234 rfl) rfl
theorem q2768 : (Jvm.Cond.static ({ cls := "StrideTurnsModel", name := "no", desc := "(I)J" } : Jvm.MethodName)) ∈ lw_all := lw_g (lw_at lw_m11 235 rfl) rfl
theorem q2769 : (Jvm.Cond.code ({ cls := "StrideTurnsModel", name := "no", desc := "(I)J" } : Jvm.MethodName) prog_18_method_4_code (1 : Nat) (Option.some Jvm.ClassFile.FieldType.long)) ∈ lw_all := lw_g (lw_at lw_m11 236 rfl) rfl
theorem q2770 : (Jvm.Cond.constantLong "StrideTurnsModel" (108 : Nat) (-9223372036854775808 : Int64)) ∈ lw_all := lw_g (lw_at lw_m11 237 rfl) rfl
theorem q2771 : (Jvm.Cond.methodLink "StrideTurnsModel" (144 : Nat) ({ cls := "StrideTurnsModel", name := "lacks", desc := "(II)I" } : Jvm.MethodName)) ∈ lw_all := lw_g (lw_at lw_m11 238 rfl) rfl
theorem q2772 : (Jvm.Cond.privateMethod ({ cls := "StrideTurnsModel", name := "lacks", desc := "(II)I" } : Jvm.MethodName)) ∈ lw_tbl := lw_at lw_m11 239 rfl
theorem q2773 : (Jvm.Cond.instanceMethod ({ cls := "StrideTurnsModel", name := "lacks", desc := "(II)I" } : Jvm.MethodName)) ∈ lw_all := lw_g (lw_at lw_m12 0 rfl) rfl
theorem q2774 : (Jvm.Cond.code ({ cls := "StrideTurnsModel", name := "lacks", desc := "(II)I" } : Jvm.MethodName) prog_18_method_14_code (3 : Nat) (Option.some Jvm.ClassFile.FieldType.int)) ∈ lw_all := lw_g (lw_at lw_m12 1 rfl) rfl
theorem q2775 : (Jvm.Cond.methodLink "StrideTurnsModel" (148 : Nat) ({ cls := "StrideTurnsModel", name := "toldOf", desc := "(I)J" } : Jvm.MethodName)) ∈ lw_all := lw_g (lw_at lw_m12 2 rfl) rfl
theorem q2776 : (Jvm.Cond.privateMethod ({ cls := "StrideTurnsModel", name := "toldOf", desc := "(I)J" } : Jvm.MethodName)) ∈ lw_tbl := lw_at lw_m12 3 rfl
theorem q2777 : (Jvm.Cond.instanceMethod ({ cls := "StrideTurnsModel", name := "toldOf", desc := "(I)J" } : Jvm.MethodName)) ∈ lw_all := lw_g (lw_at lw_m12 4 rfl) rfl
theorem q2778 : (Jvm.Cond.code ({ cls := "StrideTurnsModel", name := "toldOf", desc := "(I)J" } : Jvm.MethodName) prog_18_method_13_code (7 : Nat) (Option.some Jvm.ClassFile.FieldType.long)) ∈ lw_all := lw_g (lw_at lw_m12 5 rfl) rfl
theorem q2779 : (Jvm.Cond.methodLink "StrideTurnsModel" (135 : Nat) ({ cls := "StrideTurnsModel", name := "bitsOf", desc := "(DII)J" } : Jvm.MethodName)) ∈ lw_all := lw_g (lw_at lw_m12 6 rfl) rfl
theorem q2780 : (Jvm.Cond.static ({ cls := "StrideTurnsModel", name := "bitsOf", desc := "(DII)J" } : Jvm.MethodName)) ∈ lw_all := lw_g (lw_at lw_m12 7 rfl) rfl
theorem q2781 : (Jvm.Cond.code ({ cls := "StrideTurnsModel", name := "bitsOf", desc := "(DII)J" } : Jvm.MethodName) prog_18_method_12_code (11 : Nat) (Option.some Jvm.ClassFile.FieldType.long)) ∈ lw_all := lw_g (lw_at lw_m12 8 rfl) rfl
theorem q2782 : (Jvm.Cond.constantDouble "StrideTurnsModel" (133 : Nat) (4611686018427387904 : UInt64)) ∈ lw_all := lw_g (lw_at lw_m12 9 rfl) rfl
theorem q2783 : (Jvm.Cond.constant "StrideTurnsModel" (139 : Nat) (-2147483648 : Int32)) ∈ lw_all := lw_g (lw_at lw_m12 10 rfl) rfl
theorem q2785 : (Jvm.Cond.instanceMethod ({ cls := "StrideTurnsModel", name := "copy", desc := "(IIIII)I" } : Jvm.MethodName)) ∈ lw_all := lw_g (lw_at lw_m12 12 rfl) rfl
theorem q2786 : (Jvm.Cond.selects "StrideTurnsModel" ({ cls := "StrideTurnsModel", name := "copy", desc := "(IIIII)I" } : Jvm.MethodName) ({ cls := "StrideTurnsModel", name := "copy", desc := "(IIIII)I" } : Jvm.MethodName)) ∈ lw_all := lw_g (lw_at lw_m12 13 rfl) rfl
theorem q2787 : (Jvm.Cond.code ({ cls := "StrideTurnsModel", name := "copy", desc := "(IIIII)I" } : Jvm.MethodName) prog_18_method_16_code (7 : Nat) (Option.some Jvm.ClassFile.FieldType.int)) ∈ lw_all := lw_g (lw_at lw_m12 14 rfl) rfl
theorem q2789 : (Jvm.Cond.instanceMethod ({ cls := "StrideTurnsModel", name := "turns", desc := "(I)I" } : Jvm.MethodName)) ∈ lw_all := lw_g (lw_at lw_m12 16 rfl) rfl
theorem q2790 : (Jvm.Cond.selects "StrideTurnsModel" ({ cls := "StrideTurnsModel", name := "turns", desc := "(I)I" } : Jvm.MethodName) ({ cls := "StrideTurnsModel", name := "turns", desc := "(I)I" } : Jvm.MethodName)) ∈ lw_all := lw_g (lw_at lw_m12 17 rfl) rfl
theorem q2791 : (Jvm.Cond.code ({ cls := "StrideTurnsModel", name := "turns", desc := "(I)I" } : Jvm.MethodName) prog_18_method_18_code (3 : Nat) (Option.some Jvm.ClassFile.FieldType.int)) ∈ lw_all := lw_g (lw_at lw_m12 18 rfl) rfl
theorem q2792 : (Jvm.Cond.methodLink "StrideTurnsModel" (157 : Nat) ({ cls := "StrideTurnsModel", name := "logs", desc := "(IIIII)V" } : Jvm.MethodName)) ∈ lw_all := lw_g (lw_at lw_m12 19 rfl) rfl
theorem q2793 : (Jvm.Cond.privateMethod ({ cls := "StrideTurnsModel", name := "logs", desc := "(IIIII)V" } : Jvm.MethodName)) ∈ lw_tbl := lw_at lw_m12 20 rfl
theorem q2794 : (Jvm.Cond.instanceMethod ({ cls := "StrideTurnsModel", name := "logs", desc := "(IIIII)V" } : Jvm.MethodName)) ∈ lw_all := lw_g (lw_at lw_m12 21 rfl) rfl
theorem q2795 : (Jvm.Cond.code ({ cls := "StrideTurnsModel", name := "logs", desc := "(IIIII)V" } : Jvm.MethodName) prog_18_method_17_code (7 : Nat) (Option.none : Option Jvm.ClassFile.FieldType)) ∈ lw_all := lw_g (lw_at lw_m12 22 rfl) rfl
theorem q2797 : (Jvm.Cond.instanceMethod ({ cls := "StrideTurnsModel", name := "type", desc := "(I)I" } : Jvm.MethodName)) ∈ lw_all := lw_g (lw_at lw_m12 24 rfl) rfl
theorem q2798 : (Jvm.Cond.selects "StrideTurnsModel" ({ cls := "StrideTurnsModel", name := "type", desc := "(I)I" } : Jvm.MethodName) ({ cls := "StrideTurnsModel", name := "type", desc := "(I)I" } : Jvm.MethodName)) ∈ lw_all := lw_g (lw_at lw_m12 25 rfl) rfl
theorem q2799 : (Jvm.Cond.code ({ cls := "StrideTurnsModel", name := "type", desc := "(I)I" } : Jvm.MethodName) prog_18_method_19_code (2 : Nat) (Option.some Jvm.ClassFile.FieldType.int)) ∈ lw_all := lw_g (lw_at lw_m12 26 rfl) rfl
theorem q2801 : (Jvm.Cond.instanceMethod ({ cls := "StrideTurnsModel", name := "wipe", desc := "()I" } : Jvm.MethodName)) ∈ lw_all := lw_g (lw_at lw_m12 28 rfl) rfl
theorem q2802 : (Jvm.Cond.selects "StrideTurnsModel" ({ cls := "StrideTurnsModel", name := "wipe", desc := "()I" } : Jvm.MethodName) ({ cls := "StrideTurnsModel", name := "wipe", desc := "()I" } : Jvm.MethodName)) ∈ lw_all := lw_g (lw_at lw_m12 29 rfl) rfl
theorem q2803 : (Jvm.Cond.code ({ cls := "StrideTurnsModel", name := "wipe", desc := "()I" } : Jvm.MethodName) prog_18_method_20_code (2 : Nat) (Option.some Jvm.ClassFile.FieldType.int)) ∈ lw_all := lw_g (lw_at lw_m12 30 rfl) rfl
theorem q2805 : (Jvm.Cond.instanceMethod ({ cls := "StrideTurnsModel", name := "statement", desc := "(I)I" } : Jvm.MethodName)) ∈ lw_all := lw_g (lw_at lw_m12 32 rfl) rfl
theorem q2806 : (Jvm.Cond.selects "StrideTurnsModel" ({ cls := "StrideTurnsModel", name := "statement", desc := "(I)I" } : Jvm.MethodName) ({ cls := "StrideTurnsModel", name := "statement", desc := "(I)I" } : Jvm.MethodName)) ∈ lw_all := lw_g (lw_at lw_m12 33 rfl) rfl
theorem q2807 : (Jvm.Cond.code ({ cls := "StrideTurnsModel", name := "statement", desc := "(I)I" } : Jvm.MethodName) prog_18_method_23_code (4 : Nat) (Option.some Jvm.ClassFile.FieldType.int)) ∈ lw_all := lw_g (lw_at lw_m12 34 rfl) rfl
theorem q2808 : (Jvm.Cond.methodLink "StrideTurnsModel" (168 : Nat) ({ cls := "StrideTurnsModel", name := "isName", desc := "(I)Z" } : Jvm.MethodName)) ∈ lw_all := lw_g (lw_at lw_m12 35 rfl) rfl
theorem q2809 : (Jvm.Cond.privateMethod ({ cls := "StrideTurnsModel", name := "isName", desc := "(I)Z" } : Jvm.MethodName)) ∈ lw_tbl := lw_at lw_m12 36 rfl
theorem q2810 : (Jvm.Cond.instanceMethod ({ cls := "StrideTurnsModel", name := "isName", desc := "(I)Z" } : Jvm.MethodName)) ∈ lw_all := lw_g (lw_at lw_m12 37 rfl) rfl
theorem q2811 : (Jvm.Cond.code ({ cls := "StrideTurnsModel", name := "isName", desc := "(I)Z" } : Jvm.MethodName) prog_18_method_22_code (2 : Nat) (Option.some Jvm.ClassFile.FieldType.boolean)) ∈ lw_all := lw_g (lw_at lw_m12 38 rfl) rfl
theorem q2812 : (Jvm.Cond.methodLink "StrideTurnsModel" (164 : Nat) ({ cls := "StrideTurnsModel", name := "isTyped", desc := "(IIIII)Z" } : Jvm.MethodName)) ∈ lw_all := lw_g (lw_at lw_m12 39 rfl) rfl
theorem q2813 : (Jvm.Cond.privateMethod ({ cls := "StrideTurnsModel", name := "isTyped", desc := "(IIIII)Z" } : Jvm.MethodName)) ∈ lw_tbl := lw_at lw_m12 40 rfl
theorem q2814 : (Jvm.Cond.instanceMethod ({ cls := "StrideTurnsModel", name := "isTyped", desc := "(IIIII)Z" } : Jvm.MethodName)) ∈ lw_all := lw_g (lw_at lw_m12 41 rfl) rfl
theorem q2815 : (Jvm.Cond.code ({ cls := "StrideTurnsModel", name := "isTyped", desc := "(IIIII)Z" } : Jvm.MethodName) prog_18_method_21_code (8 : Nat) (Option.some Jvm.ClassFile.FieldType.boolean)) ∈ lw_all := lw_g (lw_at lw_m12 42 rfl) rfl
theorem q2817 : (Jvm.Cond.instanceMethod ({ cls := "StrideTurnsModel", name := "refer", desc := "(III)I" } : Jvm.MethodName)) ∈ lw_all := lw_g (lw_at lw_m12 44 rfl) rfl
theorem q2818 : (Jvm.Cond.selects "StrideTurnsModel" ({ cls := "StrideTurnsModel", name := "refer", desc := "(III)I" } : Jvm.MethodName) ({ cls := "StrideTurnsModel", name := "refer", desc := "(III)I" } : Jvm.MethodName)) ∈ lw_all := lw_g (lw_at lw_m12 45 rfl) rfl
theorem q2819 : (Jvm.Cond.code ({ cls := "StrideTurnsModel", name := "refer", desc := "(III)I" } : Jvm.MethodName) prog_18_method_25_code (5 : Nat) (Option.some Jvm.ClassFile.FieldType.int)) ∈ lw_all := lw_g (lw_at lw_m12 46 rfl) rfl
theorem q2820 : (Jvm.Cond.methodLink "StrideTurnsModel" (174 : Nat) ({ cls := "StrideTurnsModel", name := "isStatement", desc := "(I)Z" } : Jvm.MethodName)) ∈ lw_all := lw_g (lw_at lw_m12 47 rfl) rfl
theorem q2821 : (Jvm.Cond.privateMethod ({ cls := "StrideTurnsModel", name := "isStatement", desc := "(I)Z" } : Jvm.MethodName)) ∈ lw_tbl := lw_at lw_m12 48 rfl
theorem q2822 : (Jvm.Cond.instanceMethod ({ cls := "StrideTurnsModel", name := "isStatement", desc := "(I)Z" } : Jvm.MethodName)) ∈ lw_all := lw_g (lw_at lw_m12 49 rfl) rfl
theorem q2823 : (Jvm.Cond.code ({ cls := "StrideTurnsModel", name := "isStatement", desc := "(I)Z" } : Jvm.MethodName) prog_18_method_24_code (2 : Nat) (Option.some Jvm.ClassFile.FieldType.boolean)) ∈ lw_all := lw_g (lw_at lw_m12 50 rfl) rfl
theorem q2825 : (Jvm.Cond.instanceMethod ({ cls := "StrideTurnsModel", name := "place", desc := "(IIIII)I" } : Jvm.MethodName)) ∈ lw_all := lw_g (lw_at lw_m12 52 rfl) rfl
theorem q2826 : (Jvm.Cond.selects "StrideTurnsModel" ({ cls := "StrideTurnsModel", name := "place", desc := "(IIIII)I" } : Jvm.MethodName) ({ cls := "StrideTurnsModel", name := "place", desc := "(IIIII)I" } : Jvm.MethodName)) ∈ lw_all := lw_g (lw_at lw_m12 53 rfl) rfl
theorem q2827 : (Jvm.Cond.code ({ cls := "StrideTurnsModel", name := "place", desc := "(IIIII)I" } : Jvm.MethodName) prog_18_method_26_code (7 : Nat) (Option.some Jvm.ClassFile.FieldType.int)) ∈ lw_all := lw_g (lw_at lw_m12 54 rfl) rfl
theorem q2829 : (Jvm.Cond.instanceMethod ({ cls := "StrideTurnsModel", name := "guard", desc := "(III)I" } : Jvm.MethodName)) ∈ lw_all := lw_g (lw_at lw_m12 56 rfl) rfl
theorem q2830 : (Jvm.Cond.selects "StrideTurnsModel" ({ cls := "StrideTurnsModel", name := "guard", desc := "(III)I" } : Jvm.MethodName) ({ cls := "StrideTurnsModel", name := "guard", desc := "(III)I" } : Jvm.MethodName)) ∈ lw_all := lw_g (lw_at lw_m12 57 rfl) rfl
theorem q2831 : (Jvm.Cond.code ({ cls := "StrideTurnsModel", name := "guard", desc := "(III)I" } : Jvm.MethodName) prog_18_method_27_code (4 : Nat) (Option.some Jvm.ClassFile.FieldType.int)) ∈ lw_all := lw_g (lw_at lw_m12 58 rfl) rfl
theorem q2833 : (Jvm.Cond.instanceMethod ({ cls := "StrideTurnsModel", name := "mask", desc := "(II)I" } : Jvm.MethodName)) ∈ lw_all := lw_g (lw_at lw_m12 60 rfl) rfl
theorem q2834 : (Jvm.Cond.selects "StrideTurnsModel" ({ cls := "StrideTurnsModel", name := "mask", desc := "(II)I" } : Jvm.MethodName) ({ cls := "StrideTurnsModel", name := "mask", desc := "(II)I" } : Jvm.MethodName)) ∈ lw_all := lw_g (lw_at lw_m12 61 rfl) rfl
theorem q2835 : (Jvm.Cond.code ({ cls := "StrideTurnsModel", name := "mask", desc := "(II)I" } : Jvm.MethodName) prog_18_method_28_code (4 : Nat) (Option.some Jvm.ClassFile.FieldType.int)) ∈ lw_all := lw_g (lw_at lw_m12 62 rfl) rfl
theorem q2837 : (Jvm.Cond.instanceMethod ({ cls := "StrideTurnsModel", name := "undo", desc := "()I" } : Jvm.MethodName)) ∈ lw_all := lw_g (lw_at lw_m12 64 rfl) rfl
theorem q2838 : (Jvm.Cond.selects "StrideTurnsModel" ({ cls := "StrideTurnsModel", name := "undo", desc := "()I" } : Jvm.MethodName) ({ cls := "StrideTurnsModel", name := "undo", desc := "()I" } : Jvm.MethodName)) ∈ lw_all := lw_g (lw_at lw_m12 65 rfl) rfl
theorem q2839 : (Jvm.Cond.code ({ cls := "StrideTurnsModel", name := "undo", desc := "()I" } : Jvm.MethodName) prog_18_method_29_code (5 : Nat) (Option.some Jvm.ClassFile.FieldType.int)) ∈ lw_all := lw_g (lw_at lw_m12 66 rfl) rfl
theorem q2841 : (Jvm.Cond.instanceMethod ({ cls := "StrideTurnsModel", name := "info", desc := "(II)I" } : Jvm.MethodName)) ∈ lw_all := lw_g (lw_at lw_m12 68 rfl) rfl
theorem q2842 : (Jvm.Cond.selects "StrideTurnsModel" ({ cls := "StrideTurnsModel", name := "info", desc := "(II)I" } : Jvm.MethodName) ({ cls := "StrideTurnsModel", name := "info", desc := "(II)I" } : Jvm.MethodName)) ∈ lw_all := lw_g (lw_at lw_m12 69 rfl) rfl
theorem q2843 : (Jvm.Cond.code ({ cls := "StrideTurnsModel", name := "info", desc := "(II)I" } : Jvm.MethodName) prog_18_method_37_code (3 : Nat) (Option.some Jvm.ClassFile.FieldType.int)) ∈ lw_all := lw_g (lw_at lw_m12 70 rfl) rfl
theorem q2844 : (Jvm.Cond.methodLink "StrideTurnsModel" (194 : Nat) ({ cls := "StrideTurnsModel", name := "infoOf", desc := "(II)I" } : Jvm.MethodName)) ∈ lw_all := lw_g (lw_at lw_m12 71 rfl) rfl
theorem q2845 : (Jvm.Cond.privateMethod ({ cls := "StrideTurnsModel", name := "infoOf", desc := "(II)I" } : Jvm.MethodName)) ∈ lw_tbl := lw_at lw_m12 72 rfl
theorem q2846 : (Jvm.Cond.instanceMethod ({ cls := "StrideTurnsModel", name := "infoOf", desc := "(II)I" } : Jvm.MethodName)) ∈ lw_all := lw_g (lw_at lw_m12 73 rfl) rfl
theorem q2847 : (Jvm.Cond.code ({ cls := "StrideTurnsModel", name := "infoOf", desc := "(II)I" } : Jvm.MethodName) prog_18_method_36_code (3 : Nat) (Option.some Jvm.ClassFile.FieldType.int)) ∈ lw_all := lw_g (lw_at lw_m12 74 rfl) rfl
theorem q2848 : (Jvm.Cond.methodLink "StrideTurnsModel" (188 : Nat) ({ cls := "StrideTurnsModel", name := "familyAs", desc := "(III)I" } : Jvm.MethodName)) ∈ lw_all := lw_g (lw_at lw_m12 75 rfl) rfl
theorem q2849 : (Jvm.Cond.privateMethod ({ cls := "StrideTurnsModel", name := "familyAs", desc := "(III)I" } : Jvm.MethodName)) ∈ lw_tbl := lw_at lw_m12 76 rfl
theorem q2850 : (Jvm.Cond.instanceMethod ({ cls := "StrideTurnsModel", name := "familyAs", desc := "(III)I" } : Jvm.MethodName)) ∈ lw_all := lw_g (lw_at lw_m12 77 rfl) rfl
theorem q2851 : (Jvm.Cond.code ({ cls := "StrideTurnsModel", name := "familyAs", desc := "(III)I" } : Jvm.MethodName) prog_18_method_35_code (11 : Nat) (Option.some Jvm.ClassFile.FieldType.int)) ∈ lw_all := lw_g (lw_at lw_m12 78 rfl) rfl
theorem q2852 : (Jvm.Cond.methodLink "StrideTurnsModel" (181 : Nat) ({ cls := "StrideTurnsModel", name := "formAs", desc := "(III)I" } : Jvm.MethodName)) ∈ lw_all := lw_g (lw_at lw_m12 79 rfl) rfl
theorem q2853 : (Jvm.Cond.privateMethod ({ cls := "StrideTurnsModel", name := "formAs", desc := "(III)I" } : Jvm.MethodName)) ∈ lw_tbl := lw_at lw_m12 80 rfl
theorem q2854 : (Jvm.Cond.instanceMethod ({ cls := "StrideTurnsModel", name := "formAs", desc := "(III)I" } : Jvm.MethodName)) ∈ lw_all := lw_g (lw_at lw_m12 81 rfl) rfl
theorem q2855 : (Jvm.Cond.code ({ cls := "StrideTurnsModel", name := "formAs", desc := "(III)I" } : Jvm.MethodName) prog_18_method_34_code (4 : Nat) (Option.some Jvm.ClassFile.FieldType.int)) ∈ lw_all := lw_g (lw_at lw_m12 82 rfl) rfl
theorem q2856 : (Jvm.Cond.methodLink "StrideTurnsModel" (185 : Nat) ({ cls := "StrideTurnsModel", name := "isNumbers", desc := "(I)Z" } : Jvm.MethodName)) ∈ lw_all := lw_g (lw_at lw_m12 83 rfl) rfl
theorem q2857 : (Jvm.Cond.static ({ cls := "StrideTurnsModel", name := "isNumbers", desc := "(I)Z" } : Jvm.MethodName)) ∈ lw_all := lw_g (lw_at lw_m12 84 rfl) rfl
theorem q2858 : (Jvm.Cond.code ({ cls := "StrideTurnsModel", name := "isNumbers", desc := "(I)Z" } : Jvm.MethodName) prog_18_method_33_code (1 : Nat) (Option.some Jvm.ClassFile.FieldType.boolean)) ∈ lw_all := lw_g (lw_at lw_m12 85 rfl) rfl
theorem q2859 : (Jvm.Cond.methodLink "StrideTurnsModel" (191 : Nat) ({ cls := "StrideTurnsModel", name := "doneMany", desc := "(I)I" } : Jvm.MethodName)) ∈ lw_all := lw_g (lw_at lw_m12 86 rfl) rfl
theorem q2860 : (Jvm.Cond.privateMethod ({ cls := "StrideTurnsModel", name := "doneMany", desc := "(I)I" } : Jvm.MethodName)) ∈ lw_tbl := lw_at lw_m12 87 rfl
theorem q2861 : (Jvm.Cond.instanceMethod ({ cls := "StrideTurnsModel", name := "doneMany", desc := "(I)I" } : Jvm.MethodName)) ∈ lw_all := lw_g (lw_at lw_m12 88 rfl) rfl
theorem q2862 : (Jvm.Cond.code ({ cls := "StrideTurnsModel", name := "doneMany", desc := "(I)I" } : Jvm.MethodName) prog_18_method_31_code (4 : Nat) (Option.some Jvm.ClassFile.FieldType.int)) ∈ lw_all := lw_g (lw_at lw_m12 89 rfl) rfl
theorem q2863 : (Jvm.Cond.methodLink "StrideTurnsModel" (177 : Nat) ({ cls := "StrideTurnsModel", name := "isDone", desc := "(II)Z" } : Jvm.MethodName)) ∈ lw_all := lw_g (lw_at lw_m12 90 rfl) rfl
theorem q2864 : (Jvm.Cond.privateMethod ({ cls := "StrideTurnsModel", name := "isDone", desc := "(II)Z" } : Jvm.MethodName)) ∈ lw_tbl := lw_at lw_m12 91 rfl
theorem q2865 : (Jvm.Cond.instanceMethod ({ cls := "StrideTurnsModel", name := "isDone", desc := "(II)Z" } : Jvm.MethodName)) ∈ lw_all := lw_g (lw_at lw_m12 92 rfl) rfl
theorem q2866 : (Jvm.Cond.code ({ cls := "StrideTurnsModel", name := "isDone", desc := "(II)Z" } : Jvm.MethodName) prog_18_method_30_code (5 : Nat) (Option.some Jvm.ClassFile.FieldType.boolean)) ∈ lw_all := lw_g (lw_at lw_m12 93 rfl) rfl
theorem q2868 : (Jvm.Cond.instanceMethod ({ cls := "StrideTurnsModel", name := "reference", desc := "(III)I" } : Jvm.MethodName)) ∈ lw_all := lw_g (lw_at lw_m12 95 rfl) rfl
theorem q2869 : (Jvm.Cond.selects "StrideTurnsModel" ({ cls := "StrideTurnsModel", name := "reference", desc := "(III)I" } : Jvm.MethodName) ({ cls := "StrideTurnsModel", name := "reference", desc := "(III)I" } : Jvm.MethodName)) ∈ lw_all := lw_g (lw_at lw_m12 96 rfl) rfl
theorem q2870 : (Jvm.Cond.code ({ cls := "StrideTurnsModel", name := "reference", desc := "(III)I" } : Jvm.MethodName) prog_18_method_39_code (4 : Nat) (Option.some Jvm.ClassFile.FieldType.int)) ∈ lw_all := lw_g (lw_at lw_m12 97 rfl) rfl
theorem q2871 : (Jvm.Cond.methodLink "StrideTurnsModel" (197 : Nat) ({ cls := "StrideTurnsModel", name := "referenceOf", desc := "(II)I" } : Jvm.MethodName)) ∈ lw_all := lw_g (lw_at lw_m12 98 rfl) rfl
theorem q2872 : (Jvm.Cond.privateMethod ({ cls := "StrideTurnsModel", name := "referenceOf", desc := "(II)I" } : Jvm.MethodName)) ∈ lw_tbl := lw_at lw_m12 99 rfl
theorem q2873 : (Jvm.Cond.instanceMethod ({ cls := "StrideTurnsModel", name := "referenceOf", desc := "(II)I" } : Jvm.MethodName)) ∈ lw_all := lw_g (lw_at lw_m12 100 rfl) rfl
theorem q2874 : (Jvm.Cond.code ({ cls := "StrideTurnsModel", name := "referenceOf", desc := "(II)I" } : Jvm.MethodName) prog_18_method_38_code (3 : Nat) (Option.some Jvm.ClassFile.FieldType.int)) ∈ lw_all := lw_g (lw_at lw_m12 101 rfl) rfl
theorem q2876 : (Jvm.Cond.instanceMethod ({ cls := "StrideTurnsModel", name := "section", desc := "(III)I" } : Jvm.MethodName)) ∈ lw_all := lw_g (lw_at lw_m12 103 rfl) rfl
theorem q2877 : (Jvm.Cond.selects "StrideTurnsModel" ({ cls := "StrideTurnsModel", name := "section", desc := "(III)I" } : Jvm.MethodName) ({ cls := "StrideTurnsModel", name := "section", desc := "(III)I" } : Jvm.MethodName)) ∈ lw_all := lw_g (lw_at lw_m12 104 rfl) rfl
theorem q2878 : (Jvm.Cond.code ({ cls := "StrideTurnsModel", name := "section", desc := "(III)I" } : Jvm.MethodName) prog_18_method_46_code (4 : Nat) (Option.some Jvm.ClassFile.FieldType.int)) ∈ lw_all := lw_g (lw_at lw_m12 105 rfl) rfl
theorem q2879 : (Jvm.Cond.methodLink "StrideTurnsModel" (212 : Nat) ({ cls := "StrideTurnsModel", name := "isSection", desc := "(II)Z" } : Jvm.MethodName)) ∈ lw_all := lw_g (lw_at lw_m12 106 rfl) rfl
theorem q2880 : (Jvm.Cond.privateMethod ({ cls := "StrideTurnsModel", name := "isSection", desc := "(II)Z" } : Jvm.MethodName)) ∈ lw_tbl := lw_at lw_m12 107 rfl
theorem q2881 : (Jvm.Cond.instanceMethod ({ cls := "StrideTurnsModel", name := "isSection", desc := "(II)Z" } : Jvm.MethodName)) ∈ lw_all := lw_g (lw_at lw_m12 108 rfl) rfl
theorem q2882 : (Jvm.Cond.code ({ cls := "StrideTurnsModel", name := "isSection", desc := "(II)Z" } : Jvm.MethodName) prog_18_method_45_code (3 : Nat) (Option.some Jvm.ClassFile.FieldType.boolean)) ∈ lw_all := lw_g (lw_at lw_m12 109 rfl) rfl
theorem q2883 : (Jvm.Cond.methodLink "StrideTurnsModel" (215 : Nat) ({ cls := "StrideTurnsModel", name := "sectionOf", desc := "(III)I" } : Jvm.MethodName)) ∈ lw_all := lw_g (lw_at lw_m12 110 rfl) rfl
theorem q2884 : (Jvm.Cond.privateMethod ({ cls := "StrideTurnsModel", name := "sectionOf", desc := "(III)I" } : Jvm.MethodName)) ∈ lw_tbl := lw_at lw_m12 111 rfl
theorem q2885 : (Jvm.Cond.instanceMethod ({ cls := "StrideTurnsModel", name := "sectionOf", desc := "(III)I" } : Jvm.MethodName)) ∈ lw_all := lw_g (lw_at lw_m12 112 rfl) rfl
theorem q2886 : (Jvm.Cond.code ({ cls := "StrideTurnsModel", name := "sectionOf", desc := "(III)I" } : Jvm.MethodName) prog_18_method_44_code (4 : Nat) (Option.some Jvm.ClassFile.FieldType.int)) ∈ lw_all := lw_g (lw_at lw_m12 113 rfl) rfl
theorem q2887 : (Jvm.Cond.methodLink "StrideTurnsModel" (206 : Nat) ({ cls := "StrideTurnsModel", name := "firstOf", desc := "(II)I" } : Jvm.MethodName)) ∈ lw_all := lw_g (lw_at lw_m12 114 rfl) rfl
theorem q2888 : (Jvm.Cond.privateMethod ({ cls := "StrideTurnsModel", name := "firstOf", desc := "(II)I" } : Jvm.MethodName)) ∈ lw_tbl := lw_at lw_m12 115 rfl
theorem q2889 : (Jvm.Cond.instanceMethod ({ cls := "StrideTurnsModel", name := "firstOf", desc := "(II)I" } : Jvm.MethodName)) ∈ lw_all := lw_g (lw_at lw_m12 116 rfl) rfl
theorem q2890 : (Jvm.Cond.code ({ cls := "StrideTurnsModel", name := "firstOf", desc := "(II)I" } : Jvm.MethodName) prog_18_method_41_code (5 : Nat) (Option.some Jvm.ClassFile.FieldType.int)) ∈ lw_all := lw_g (lw_at lw_m12 117 rfl) rfl
theorem q2891 : (Jvm.Cond.methodLink "StrideTurnsModel" (200 : Nat) ({ cls := "StrideTurnsModel", name := "placeOf", desc := "(III)I" } : Jvm.MethodName)) ∈ lw_all := lw_g (lw_at lw_m12 118 rfl) rfl
theorem q2892 : (Jvm.Cond.privateMethod ({ cls := "StrideTurnsModel", name := "placeOf", desc := "(III)I" } : Jvm.MethodName)) ∈ lw_tbl := lw_at lw_m12 119 rfl
theorem q2893 : (Jvm.Cond.instanceMethod ({ cls := "StrideTurnsModel", name := "placeOf", desc := "(III)I" } : Jvm.MethodName)) ∈ lw_all := lw_g (lw_at lw_m12 120 rfl) rfl
theorem q2894 : (Jvm.Cond.code ({ cls := "StrideTurnsModel", name := "placeOf", desc := "(III)I" } : Jvm.MethodName) prog_18_method_40_code (4 : Nat) (Option.some Jvm.ClassFile.FieldType.int)) ∈ lw_all := lw_g (lw_at lw_m12 121 rfl) rfl
theorem q2895 : (Jvm.Cond.methodLink "StrideTurnsModel" (209 : Nat) ({ cls := "StrideTurnsModel", name := "strideOf", desc := "(I)I" } : Jvm.MethodName)) ∈ lw_all := lw_g (lw_at lw_m12 122 rfl) rfl
theorem q2896 : (Jvm.Cond.privateMethod ({ cls := "StrideTurnsModel", name := "strideOf", desc := "(I)I" } : Jvm.MethodName)) ∈ lw_tbl := lw_at lw_m12 123 rfl
theorem q2897 : (Jvm.Cond.instanceMethod ({ cls := "StrideTurnsModel", name := "strideOf", desc := "(I)I" } : Jvm.MethodName)) ∈ lw_all := lw_g (lw_at lw_m12 124 rfl) rfl
theorem q2898 : (Jvm.Cond.code ({ cls := "StrideTurnsModel", name := "strideOf", desc := "(I)I" } : Jvm.MethodName) prog_18_method_43_code (2 : Nat) (Option.some Jvm.ClassFile.FieldType.int)) ∈ lw_all := lw_g (lw_at lw_m12 125 rfl) rfl
theorem q2899 : (Jvm.Cond.methodLink "StrideTurnsModel" (203 : Nat) ({ cls := "StrideTurnsModel", name := "manyOf", desc := "(I)I" } : Jvm.MethodName)) ∈ lw_all := lw_g (lw_at lw_m12 126 rfl) rfl
theorem q2900 : (Jvm.Cond.privateMethod ({ cls := "StrideTurnsModel", name := "manyOf", desc := "(I)I" } : Jvm.MethodName)) ∈ lw_tbl := lw_at lw_m12 127 rfl
theorem q2901 : (Jvm.Cond.instanceMethod ({ cls := "StrideTurnsModel", name := "manyOf", desc := "(I)I" } : Jvm.MethodName)) ∈ lw_all := lw_g (lw_at lw_m12 128 rfl) rfl
theorem q2902 : (Jvm.Cond.code ({ cls := "StrideTurnsModel", name := "manyOf", desc := "(I)I" } : Jvm.MethodName) prog_18_method_42_code (2 : Nat) (Option.some Jvm.ClassFile.FieldType.int)) ∈ lw_all := lw_g (lw_at lw_m12 129 rfl) rfl
theorem q2904 : (Jvm.Cond.instanceMethod ({ cls := "StrideTurnsModel", name := "meet", desc := "(IIIII)I" } : Jvm.MethodName)) ∈ lw_all := lw_g (lw_at lw_m12 131 rfl) rfl
theorem q2905 : (Jvm.Cond.selects "StrideTurnsModel" ({ cls := "StrideTurnsModel", name := "meet", desc := "(IIIII)I" } : Jvm.MethodName) ({ cls := "StrideTurnsModel", name := "meet", desc := "(IIIII)I" } : Jvm.MethodName)) ∈ lw_all := lw_g (lw_at lw_m12 132 rfl) rfl
theorem q2906 : (Jvm.Cond.code ({ cls := "StrideTurnsModel", name := "meet", desc := "(IIIII)I" } : Jvm.MethodName) prog_18_method_49_code (6 : Nat) (Option.some Jvm.ClassFile.FieldType.int)) ∈ lw_all := lw_g (lw_at lw_m12 133 rfl) rfl
theorem q2907 : (Jvm.Cond.methodLink "StrideTurnsModel" (221 : Nat) ({ cls := "StrideTurnsModel", name := "meetOf", desc := "(IIIII)I" } : Jvm.MethodName)) ∈ lw_all := lw_g (lw_at lw_m12 134 rfl) rfl
theorem q2908 : (Jvm.Cond.privateMethod ({ cls := "StrideTurnsModel", name := "meetOf", desc := "(IIIII)I" } : Jvm.MethodName)) ∈ lw_tbl := lw_at lw_m12 135 rfl
theorem q2909 : (Jvm.Cond.instanceMethod ({ cls := "StrideTurnsModel", name := "meetOf", desc := "(IIIII)I" } : Jvm.MethodName)) ∈ lw_all := lw_g (lw_at lw_m12 136 rfl) rfl
theorem q2910 : (Jvm.Cond.code ({ cls := "StrideTurnsModel", name := "meetOf", desc := "(IIIII)I" } : Jvm.MethodName) prog_18_method_48_code (11 : Nat) (Option.some Jvm.ClassFile.FieldType.int)) ∈ lw_all := lw_g (lw_at lw_m12 137 rfl) rfl
theorem q2911 : (Jvm.Cond.methodLink "StrideTurnsModel" (218 : Nat) ({ cls := "StrideTurnsModel", name := "hasPlace", desc := "(III)Z" } : Jvm.MethodName)) ∈ lw_all := lw_g (lw_at lw_m12 138 rfl) rfl
theorem q2912 : (Jvm.Cond.privateMethod ({ cls := "StrideTurnsModel", name := "hasPlace", desc := "(III)Z" } : Jvm.MethodName)) ∈ lw_tbl := lw_at lw_m12 139 rfl
theorem q2913 : (Jvm.Cond.instanceMethod ({ cls := "StrideTurnsModel", name := "hasPlace", desc := "(III)Z" } : Jvm.MethodName)) ∈ lw_all := lw_g (lw_at lw_m12 140 rfl) rfl
theorem q2914 : (Jvm.Cond.code ({ cls := "StrideTurnsModel", name := "hasPlace", desc := "(III)Z" } : Jvm.MethodName) prog_18_method_47_code (6 : Nat) (Option.some Jvm.ClassFile.FieldType.boolean)) ∈ lw_all := lw_g (lw_at lw_m12 141 rfl) rfl
theorem q2916 : (Jvm.Cond.instanceMethod ({ cls := "StrideTurnsModel", name := "kinds", desc := "(II)I" } : Jvm.MethodName)) ∈ lw_all := lw_g (lw_at lw_m12 143 rfl) rfl
theorem q2917 : (Jvm.Cond.selects "StrideTurnsModel" ({ cls := "StrideTurnsModel", name := "kinds", desc := "(II)I" } : Jvm.MethodName) ({ cls := "StrideTurnsModel", name := "kinds", desc := "(II)I" } : Jvm.MethodName)) ∈ lw_all := lw_g (lw_at lw_m12 144 rfl) rfl
theorem q2918 : (Jvm.Cond.code ({ cls := "StrideTurnsModel", name := "kinds", desc := "(II)I" } : Jvm.MethodName) prog_18_method_53_code (3 : Nat) (Option.some Jvm.ClassFile.FieldType.int)) ∈ lw_all := lw_g (lw_at lw_m12 145 rfl) rfl
theorem q2919 : (Jvm.Cond.methodLink "StrideTurnsModel" (239 : Nat) ({ cls := "StrideTurnsModel", name := "findsKinds", desc := "(II)I" } : Jvm.MethodName)) ∈ lw_all := lw_g (lw_at lw_m12 146 rfl) rfl
theorem q2920 : (Jvm.Cond.privateMethod ({ cls := "StrideTurnsModel", name := "findsKinds", desc := "(II)I" } : Jvm.MethodName)) ∈ lw_tbl := lw_at lw_m12 147 rfl
theorem q2921 : (Jvm.Cond.instanceMethod ({ cls := "StrideTurnsModel", name := "findsKinds", desc := "(II)I" } : Jvm.MethodName)) ∈ lw_all := lw_g (lw_at lw_m12 148 rfl) rfl
theorem q2922 : (Jvm.Cond.code ({ cls := "StrideTurnsModel", name := "findsKinds", desc := "(II)I" } : Jvm.MethodName) prog_18_method_52_code (4 : Nat) (Option.some Jvm.ClassFile.FieldType.int)) ∈ lw_all := lw_g (lw_at lw_m12 149 rfl) rfl
theorem q2923 : (Jvm.Cond.methodLink "StrideTurnsModel" (235 : Nat) ({ cls := "StrideTurnsModel", name := "addsIf", desc := "(III)V" } : Jvm.MethodName)) ∈ lw_all := lw_g (lw_at lw_m12 150 rfl) rfl
theorem q2924 : (Jvm.Cond.privateMethod ({ cls := "StrideTurnsModel", name := "addsIf", desc := "(III)V" } : Jvm.MethodName)) ∈ lw_tbl := lw_at lw_m12 151 rfl
theorem q2925 : (Jvm.Cond.instanceMethod ({ cls := "StrideTurnsModel", name := "addsIf", desc := "(III)V" } : Jvm.MethodName)) ∈ lw_all := lw_g (lw_at lw_m12 152 rfl) rfl
theorem q2926 : (Jvm.Cond.code ({ cls := "StrideTurnsModel", name := "addsIf", desc := "(III)V" } : Jvm.MethodName) prog_18_method_51_code (4 : Nat) (Option.none : Option Jvm.ClassFile.FieldType)) ∈ lw_all := lw_g (lw_at lw_m12 153 rfl) rfl
theorem q2927 : (Jvm.Cond.methodLink "StrideTurnsModel" (228 : Nat) ({ cls := "StrideTurnsModel", name := "isLooked", desc := "(I)Z" } : Jvm.MethodName)) ∈ lw_all := lw_g (lw_at lw_m12 154 rfl) rfl
theorem q2928 : (Jvm.Cond.privateMethod ({ cls := "StrideTurnsModel", name := "isLooked", desc := "(I)Z" } : Jvm.MethodName)) ∈ lw_tbl := lw_at lw_m12 155 rfl
theorem q2929 : (Jvm.Cond.instanceMethod ({ cls := "StrideTurnsModel", name := "isLooked", desc := "(I)Z" } : Jvm.MethodName)) ∈ lw_all := lw_g (lw_at lw_m12 156 rfl) rfl
theorem q2930 : (Jvm.Cond.code ({ cls := "StrideTurnsModel", name := "isLooked", desc := "(I)Z" } : Jvm.MethodName) prog_18_method_32_code (2 : Nat) (Option.some Jvm.ClassFile.FieldType.boolean)) ∈ lw_all := lw_g (lw_at lw_m12 157 rfl) rfl
theorem q2931 : (Jvm.Cond.methodLink "StrideTurnsModel" (231 : Nat) ({ cls := "StrideTurnsModel", name := "addsKind", desc := "(II)V" } : Jvm.MethodName)) ∈ lw_all := lw_g (lw_at lw_m12 158 rfl) rfl
theorem q2932 : (Jvm.Cond.privateMethod ({ cls := "StrideTurnsModel", name := "addsKind", desc := "(II)V" } : Jvm.MethodName)) ∈ lw_tbl := lw_at lw_m12 159 rfl
theorem q2933 : (Jvm.Cond.instanceMethod ({ cls := "StrideTurnsModel", name := "addsKind", desc := "(II)V" } : Jvm.MethodName)) ∈ lw_all := lw_g (lw_at lw_m12 160 rfl) rfl
theorem q2934 : (Jvm.Cond.code ({ cls := "StrideTurnsModel", name := "addsKind", desc := "(II)V" } : Jvm.MethodName) prog_18_method_50_code (6 : Nat) (Option.none : Option Jvm.ClassFile.FieldType)) ∈ lw_all := lw_g (lw_at lw_m12 161 rfl) rfl
theorem q2936 : (Jvm.Cond.instanceMethod ({ cls := "StrideTurnsModel", name := "kind", desc := "(IIII)I" } : Jvm.MethodName)) ∈ lw_all := lw_g (lw_at lw_m12 163 rfl) rfl
theorem q2937 : (Jvm.Cond.selects "StrideTurnsModel" ({ cls := "StrideTurnsModel", name := "kind", desc := "(IIII)I" } : Jvm.MethodName) ({ cls := "StrideTurnsModel", name := "kind", desc := "(IIII)I" } : Jvm.MethodName)) ∈ lw_all := lw_g (lw_at lw_m12 164 rfl) rfl
theorem q2938 : (Jvm.Cond.code ({ cls := "StrideTurnsModel", name := "kind", desc := "(IIII)I" } : Jvm.MethodName) prog_18_method_54_code (5 : Nat) (Option.some Jvm.ClassFile.FieldType.int)) ∈ lw_all := lw_g (lw_at lw_m12 165 rfl) rfl
theorem q2940 : (Jvm.Cond.instanceMethod ({ cls := "StrideTurnsModel", name := "many", desc := "(III)I" } : Jvm.MethodName)) ∈ lw_all := lw_g (lw_at lw_m12 167 rfl) rfl
theorem q2941 : (Jvm.Cond.selects "StrideTurnsModel" ({ cls := "StrideTurnsModel", name := "many", desc := "(III)I" } : Jvm.MethodName) ({ cls := "StrideTurnsModel", name := "many", desc := "(III)I" } : Jvm.MethodName)) ∈ lw_all := lw_g (lw_at lw_m12 168 rfl) rfl
theorem q2942 : (Jvm.Cond.code ({ cls := "StrideTurnsModel", name := "many", desc := "(III)I" } : Jvm.MethodName) prog_18_method_64_code (4 : Nat) (Option.some Jvm.ClassFile.FieldType.int)) ∈ lw_all := lw_g (lw_at lw_m12 169 rfl) rfl
theorem q2943 : (Jvm.Cond.methodLink "StrideTurnsModel" (265 : Nat) ({ cls := "StrideTurnsModel", name := "isSet", desc := "(III)Z" } : Jvm.MethodName)) ∈ lw_all := lw_g (lw_at lw_m12 170 rfl) rfl
theorem q2944 : (Jvm.Cond.privateMethod ({ cls := "StrideTurnsModel", name := "isSet", desc := "(III)Z" } : Jvm.MethodName)) ∈ lw_tbl := lw_at lw_m12 171 rfl
theorem q2945 : (Jvm.Cond.instanceMethod ({ cls := "StrideTurnsModel", name := "isSet", desc := "(III)Z" } : Jvm.MethodName)) ∈ lw_all := lw_g (lw_at lw_m12 172 rfl) rfl
theorem q2946 : (Jvm.Cond.code ({ cls := "StrideTurnsModel", name := "isSet", desc := "(III)Z" } : Jvm.MethodName) prog_18_method_63_code (4 : Nat) (Option.some Jvm.ClassFile.FieldType.boolean)) ∈ lw_all := lw_g (lw_at lw_m12 173 rfl) rfl
theorem q2947 : (Jvm.Cond.methodLink "StrideTurnsModel" (268 : Nat) ({ cls := "StrideTurnsModel", name := "bitsOfSet", desc := "(III)I" } : Jvm.MethodName)) ∈ lw_all := lw_g (lw_at lw_m12 174 rfl) rfl
theorem q2948 : (Jvm.Cond.privateMethod ({ cls := "StrideTurnsModel", name := "bitsOfSet", desc := "(III)I" } : Jvm.MethodName)) ∈ lw_tbl := lw_at lw_m12 175 rfl
theorem q2949 : (Jvm.Cond.instanceMethod ({ cls := "StrideTurnsModel", name := "bitsOfSet", desc := "(III)I" } : Jvm.MethodName)) ∈ lw_all := lw_g (lw_at lw_m12 176 rfl) rfl
theorem q2950 : (Jvm.Cond.code ({ cls := "StrideTurnsModel", name := "bitsOfSet", desc := "(III)I" } : Jvm.MethodName) prog_18_method_61_code (6 : Nat) (Option.some Jvm.ClassFile.FieldType.int)) ∈ lw_all := lw_g (lw_at lw_m12 177 rfl) rfl
theorem q2951 : (Jvm.Cond.methodLink "StrideTurnsModel" (259 : Nat) ({ cls := "StrideTurnsModel", name := "findsSets", desc := "()V" } : Jvm.MethodName)) ∈ lw_all := lw_g (lw_at lw_m12 178 rfl) rfl
theorem q2952 : (Jvm.Cond.privateMethod ({ cls := "StrideTurnsModel", name := "findsSets", desc := "()V" } : Jvm.MethodName)) ∈ lw_tbl := lw_at lw_m12 179 rfl
theorem q2953 : (Jvm.Cond.instanceMethod ({ cls := "StrideTurnsModel", name := "findsSets", desc := "()V" } : Jvm.MethodName)) ∈ lw_all := lw_g (lw_at lw_m12 180 rfl) rfl
theorem q2954 : (Jvm.Cond.code ({ cls := "StrideTurnsModel", name := "findsSets", desc := "()V" } : Jvm.MethodName) prog_18_method_59_code (2 : Nat) (Option.none : Option Jvm.ClassFile.FieldType)) ∈ lw_all := lw_g (lw_at lw_m12 181 rfl) rfl
theorem q2955 : (Jvm.Cond.methodLink "StrideTurnsModel" (255 : Nat) ({ cls := "StrideTurnsModel", name := "findsTurn", desc := "(I)V" } : Jvm.MethodName)) ∈ lw_all := lw_g (lw_at lw_m12 182 rfl) rfl
theorem q2956 : (Jvm.Cond.privateMethod ({ cls := "StrideTurnsModel", name := "findsTurn", desc := "(I)V" } : Jvm.MethodName)) ∈ lw_tbl := lw_at lw_m12 183 rfl
theorem q2957 : (Jvm.Cond.instanceMethod ({ cls := "StrideTurnsModel", name := "findsTurn", desc := "(I)V" } : Jvm.MethodName)) ∈ lw_all := lw_g (lw_at lw_m12 184 rfl) rfl
theorem q2958 : (Jvm.Cond.code ({ cls := "StrideTurnsModel", name := "findsTurn", desc := "(I)V" } : Jvm.MethodName) prog_18_method_58_code (5 : Nat) (Option.none : Option Jvm.ClassFile.FieldType)) ∈ lw_all := lw_g (lw_at lw_m12 185 rfl) rfl
theorem q2959 : (Jvm.Cond.methodLink "StrideTurnsModel" (252 : Nat) ({ cls := "StrideTurnsModel", name := "knows", desc := "(III)Z" } : Jvm.MethodName)) ∈ lw_all := lw_g (lw_at lw_m12 186 rfl) rfl
theorem q2960 : (Jvm.Cond.privateMethod ({ cls := "StrideTurnsModel", name := "knows", desc := "(III)Z" } : Jvm.MethodName)) ∈ lw_tbl := lw_at lw_m12 187 rfl
theorem q2961 : (Jvm.Cond.instanceMethod ({ cls := "StrideTurnsModel", name := "knows", desc := "(III)Z" } : Jvm.MethodName)) ∈ lw_all := lw_g (lw_at lw_m12 188 rfl) rfl
theorem q2962 : (Jvm.Cond.code ({ cls := "StrideTurnsModel", name := "knows", desc := "(III)Z" } : Jvm.MethodName) prog_18_method_57_code (7 : Nat) (Option.some Jvm.ClassFile.FieldType.boolean)) ∈ lw_all := lw_g (lw_at lw_m12 189 rfl) rfl
theorem q2963 : (Jvm.Cond.methodLink "StrideTurnsModel" (245 : Nat) ({ cls := "StrideTurnsModel", name := "reads", desc := "(III)Z" } : Jvm.MethodName)) ∈ lw_all := lw_g (lw_at lw_m12 190 rfl) rfl
theorem q2964 : (Jvm.Cond.privateMethod ({ cls := "StrideTurnsModel", name := "reads", desc := "(III)Z" } : Jvm.MethodName)) ∈ lw_tbl := lw_at lw_m12 191 rfl
theorem q2965 : (Jvm.Cond.instanceMethod ({ cls := "StrideTurnsModel", name := "reads", desc := "(III)Z" } : Jvm.MethodName)) ∈ lw_all := lw_g (lw_at lw_m12 192 rfl) rfl
theorem q2966 : (Jvm.Cond.code ({ cls := "StrideTurnsModel", name := "reads", desc := "(III)Z" } : Jvm.MethodName) prog_18_method_56_code (6 : Nat) (Option.some Jvm.ClassFile.FieldType.boolean)) ∈ lw_all := lw_g (lw_at lw_m12 193 rfl) rfl
theorem q2967 : (Jvm.Cond.methodLink "StrideTurnsModel" (242 : Nat) ({ cls := "StrideTurnsModel", name := "bitAt", desc := "(III)I" } : Jvm.MethodName)) ∈ lw_all := lw_g (lw_at lw_m12 194 rfl) rfl
theorem q2968 : (Jvm.Cond.privateMethod ({ cls := "StrideTurnsModel", name := "bitAt", desc := "(III)I" } : Jvm.MethodName)) ∈ lw_tbl := lw_at lw_m12 195 rfl
theorem q2969 : (Jvm.Cond.instanceMethod ({ cls := "StrideTurnsModel", name := "bitAt", desc := "(III)I" } : Jvm.MethodName)) ∈ lw_all := lw_g (lw_at lw_m12 196 rfl) rfl
theorem q2970 : (Jvm.Cond.code ({ cls := "StrideTurnsModel", name := "bitAt", desc := "(III)I" } : Jvm.MethodName) prog_18_method_55_code (6 : Nat) (Option.some Jvm.ClassFile.FieldType.int)) ∈ lw_all := lw_g (lw_at lw_m12 197 rfl) rfl
theorem q2971 : (Jvm.Cond.methodLink "StrideTurnsModel" (262 : Nat) ({ cls := "StrideTurnsModel", name := "bitsOfTurn", desc := "(III)I" } : Jvm.MethodName)) ∈ lw_all := lw_g (lw_at lw_m12 198 rfl) rfl
theorem q2972 : (Jvm.Cond.privateMethod ({ cls := "StrideTurnsModel", name := "bitsOfTurn", desc := "(III)I" } : Jvm.MethodName)) ∈ lw_tbl := lw_at lw_m12 199 rfl
theorem q2973 : (Jvm.Cond.instanceMethod ({ cls := "StrideTurnsModel", name := "bitsOfTurn", desc := "(III)I" } : Jvm.MethodName)) ∈ lw_all := lw_g (lw_at lw_m12 200 rfl) rfl
theorem q2974 : (Jvm.Cond.code ({ cls := "StrideTurnsModel", name := "bitsOfTurn", desc := "(III)I" } : Jvm.MethodName) prog_18_method_60_code (4 : Nat) (Option.some Jvm.ClassFile.FieldType.int)) ∈ lw_all := lw_g (lw_at lw_m12 201 rfl) rfl
theorem q2975 : (Jvm.Cond.methodLink "StrideTurnsModel" (271 : Nat) ({ cls := "StrideTurnsModel", name := "size", desc := "(I)I" } : Jvm.MethodName)) ∈ lw_all := lw_g (lw_at lw_m12 202 rfl) rfl
theorem q2976 : (Jvm.Cond.static ({ cls := "StrideTurnsModel", name := "size", desc := "(I)I" } : Jvm.MethodName)) ∈ lw_all := lw_g (lw_at lw_m12 203 rfl) rfl
theorem q2977 : (Jvm.Cond.code ({ cls := "StrideTurnsModel", name := "size", desc := "(I)I" } : Jvm.MethodName) prog_18_method_62_code (3 : Nat) (Option.some Jvm.ClassFile.FieldType.int)) ∈ lw_all := lw_g (lw_at lw_m12 204 rfl) rfl
theorem q2979 : (Jvm.Cond.instanceMethod ({ cls := "StrideTurnsModel", name := "pieces", desc := "(III)I" } : Jvm.MethodName)) ∈ lw_all := lw_g (lw_at lw_m12 206 rfl) rfl
theorem q2980 : (Jvm.Cond.selects "StrideTurnsModel" ({ cls := "StrideTurnsModel", name := "pieces", desc := "(III)I" } : Jvm.MethodName) ({ cls := "StrideTurnsModel", name := "pieces", desc := "(III)I" } : Jvm.MethodName)) ∈ lw_all := lw_g (lw_at lw_m12 207 rfl) rfl
theorem q2981 : (Jvm.Cond.code ({ cls := "StrideTurnsModel", name := "pieces", desc := "(III)I" } : Jvm.MethodName) prog_18_method_68_code (4 : Nat) (Option.some Jvm.ClassFile.FieldType.int)) ∈ lw_all := lw_g (lw_at lw_m12 208 rfl) rfl
theorem q2982 : (Jvm.Cond.methodLink "StrideTurnsModel" (289 : Nat) ({ cls := "StrideTurnsModel", name := "piecesOf", desc := "(I)I" } : Jvm.MethodName)) ∈ lw_all := lw_g (lw_at lw_m12 209 rfl) rfl
theorem q2983 : (Jvm.Cond.privateMethod ({ cls := "StrideTurnsModel", name := "piecesOf", desc := "(I)I" } : Jvm.MethodName)) ∈ lw_tbl := lw_at lw_m12 210 rfl
theorem q2984 : (Jvm.Cond.instanceMethod ({ cls := "StrideTurnsModel", name := "piecesOf", desc := "(I)I" } : Jvm.MethodName)) ∈ lw_all := lw_g (lw_at lw_m12 211 rfl) rfl
theorem q2985 : (Jvm.Cond.code ({ cls := "StrideTurnsModel", name := "piecesOf", desc := "(I)I" } : Jvm.MethodName) prog_18_method_67_code (4 : Nat) (Option.some Jvm.ClassFile.FieldType.int)) ∈ lw_all := lw_g (lw_at lw_m12 212 rfl) rfl
theorem q2986 : (Jvm.Cond.methodLink "StrideTurnsModel" (286 : Nat) ({ cls := "StrideTurnsModel", name := "without", desc := "(I)I" } : Jvm.MethodName)) ∈ lw_all := lw_g (lw_at lw_m12 213 rfl) rfl
theorem q2987 : (Jvm.Cond.privateMethod ({ cls := "StrideTurnsModel", name := "without", desc := "(I)I" } : Jvm.MethodName)) ∈ lw_tbl := lw_at lw_m12 214 rfl
theorem q2988 : (Jvm.Cond.instanceMethod ({ cls := "StrideTurnsModel", name := "without", desc := "(I)I" } : Jvm.MethodName)) ∈ lw_all := lw_g (lw_at lw_m12 215 rfl) rfl
theorem q2989 : (Jvm.Cond.code ({ cls := "StrideTurnsModel", name := "without", desc := "(I)I" } : Jvm.MethodName) prog_18_method_66_code (5 : Nat) (Option.some Jvm.ClassFile.FieldType.int)) ∈ lw_all := lw_g (lw_at lw_m12 216 rfl) rfl
theorem q2990 : (Jvm.Cond.methodLink "StrideTurnsModel" (274 : Nat) ({ cls := "StrideTurnsModel", name := "nextBit", desc := "(II)I" } : Jvm.MethodName)) ∈ lw_all := lw_g (lw_at lw_m12 217 rfl) rfl
theorem q2991 : (Jvm.Cond.static ({ cls := "StrideTurnsModel", name := "nextBit", desc := "(II)I" } : Jvm.MethodName)) ∈ lw_all := lw_g (lw_at lw_m12 218 rfl) rfl
theorem q2992 : (Jvm.Cond.code ({ cls := "StrideTurnsModel", name := "nextBit", desc := "(II)I" } : Jvm.MethodName) prog_18_method_65_code (4 : Nat) (Option.some Jvm.ClassFile.FieldType.int)) ∈ lw_all := lw_g (lw_at lw_m12 219 rfl) rfl
theorem q2994 : (Jvm.Cond.instanceMethod ({ cls := "StrideTurnsModel", name := "piece", desc := "(IIIII)I" } : Jvm.MethodName)) ∈ lw_all := lw_g (lw_at lw_m12 221 rfl) rfl
theorem q2995 : (Jvm.Cond.selects "StrideTurnsModel" ({ cls := "StrideTurnsModel", name := "piece", desc := "(IIIII)I" } : Jvm.MethodName) ({ cls := "StrideTurnsModel", name := "piece", desc := "(IIIII)I" } : Jvm.MethodName)) ∈ lw_all := lw_g (lw_at lw_m12 222 rfl) rfl
theorem q2996 : (Jvm.Cond.code ({ cls := "StrideTurnsModel", name := "piece", desc := "(IIIII)I" } : Jvm.MethodName) prog_18_method_70_code (6 : Nat) (Option.some Jvm.ClassFile.FieldType.int)) ∈ lw_all := lw_g (lw_at lw_m12 223 rfl) rfl
theorem q2997 : (Jvm.Cond.methodLink "StrideTurnsModel" (292 : Nat) ({ cls := "StrideTurnsModel", name := "pieceOf", desc := "(III)I" } : Jvm.MethodName)) ∈ lw_all := lw_g (lw_at lw_m12 224 rfl) rfl
theorem q2998 : (Jvm.Cond.privateMethod ({ cls := "StrideTurnsModel", name := "pieceOf", desc := "(III)I" } : Jvm.MethodName)) ∈ lw_tbl := lw_at lw_m12 225 rfl
theorem q2999 : (Jvm.Cond.instanceMethod ({ cls := "StrideTurnsModel", name := "pieceOf", desc := "(III)I" } : Jvm.MethodName)) ∈ lw_all := lw_g (lw_at lw_m12 226 rfl) rfl
theorem q3000 : (Jvm.Cond.code ({ cls := "StrideTurnsModel", name := "pieceOf", desc := "(III)I" } : Jvm.MethodName) prog_18_method_69_code (6 : Nat) (Option.some Jvm.ClassFile.FieldType.int)) ∈ lw_all := lw_g (lw_at lw_m12 227 rfl) rfl
theorem q3002 : (Jvm.Cond.instanceMethod ({ cls := "StrideTurnsModel", name := "verdict", desc := "(I)I" } : Jvm.MethodName)) ∈ lw_all := lw_g (lw_at lw_m12 229 rfl) rfl
theorem q3003 : (Jvm.Cond.selects "StrideTurnsModel" ({ cls := "StrideTurnsModel", name := "verdict", desc := "(I)I" } : Jvm.MethodName) ({ cls := "StrideTurnsModel", name := "verdict", desc := "(I)I" } : Jvm.MethodName)) ∈ lw_all := lw_g (lw_at lw_m12 230 rfl) rfl
theorem q3004 : (Jvm.Cond.code ({ cls := "StrideTurnsModel", name := "verdict", desc := "(I)I" } : Jvm.MethodName) prog_18_method_78_code (2 : Nat) (Option.some Jvm.ClassFile.FieldType.int)) ∈ lw_all := lw_g (lw_at lw_m12 231 rfl) rfl
theorem q3005 : (Jvm.Cond.methodLink "StrideTurnsModel" (313 : Nat) ({ cls := "StrideTurnsModel", name := "verdictOf", desc := "(I)I" } : Jvm.MethodName)) ∈ lw_all := lw_g (lw_at lw_m12 232 rfl) rfl
theorem q3006 : (Jvm.Cond.privateMethod ({ cls := "StrideTurnsModel", name := "verdictOf", desc := "(I)I" } : Jvm.MethodName)) ∈ lw_tbl := lw_at lw_m12 233 rfl
theorem q3007 : (Jvm.Cond.instanceMethod ({ cls := "StrideTurnsModel", name := "verdictOf", desc := "(I)I" } : Jvm.MethodName)) ∈ lw_all := lw_g (lw_at lw_m12 234 rfl) rfl
theorem q3008 : (Jvm.Cond.code ({ cls := "StrideTurnsModel", name := "verdictOf", desc := "(I)I" } : Jvm.MethodName) prog_18_method_77_code (2 : Nat) (Option.some Jvm.ClassFile.FieldType.int)) ∈ lw_all := lw_g (lw_at lw_m12 235 rfl) rfl
theorem q3009 : (Jvm.Cond.methodLink "StrideTurnsModel" (310 : Nat) ({ cls := "StrideTurnsModel", name := "verdictAs", desc := "(III)I" } : Jvm.MethodName)) ∈ lw_all := lw_g (lw_at lw_m12 236 rfl) rfl
theorem q3010 : (Jvm.Cond.privateMethod ({ cls := "StrideTurnsModel", name := "verdictAs", desc := "(III)I" } : Jvm.MethodName)) ∈ lw_tbl := lw_at lw_m12 237 rfl
theorem q3011 : (Jvm.Cond.instanceMethod ({ cls := "StrideTurnsModel", name := "verdictAs", desc := "(III)I" } : Jvm.MethodName)) ∈ lw_all := lw_g (lw_at lw_m12 238 rfl) rfl
theorem q3012 : (Jvm.Cond.code ({ cls := "StrideTurnsModel", name := "verdictAs", desc := "(III)I" } : Jvm.MethodName) prog_18_method_76_code (4 : Nat) (Option.some Jvm.ClassFile.FieldType.int)) ∈ lw_all := lw_g (lw_at lw_m12 239 rfl) rfl
theorem q3013 : (Jvm.Cond.methodLink "StrideTurnsModel" (298 : Nat) ({ cls := "StrideTurnsModel", name := "isWritten", desc := "(I)Z" } : Jvm.MethodName)) ∈ lw_all := lw_g (lw_at lw_m13 0 rfl) rfl
theorem q3014 : (Jvm.Cond.privateMethod ({ cls := "StrideTurnsModel", name := "isWritten", desc := "(I)Z" } : Jvm.MethodName)) ∈ lw_tbl := lw_at lw_m13 1 rfl
theorem q3015 : (Jvm.Cond.instanceMethod ({ cls := "StrideTurnsModel", name := "isWritten", desc := "(I)Z" } : Jvm.MethodName)) ∈ lw_all := lw_g (lw_at lw_m13 2 rfl) rfl
theorem q3016 : (Jvm.Cond.code ({ cls := "StrideTurnsModel", name := "isWritten", desc := "(I)Z" } : Jvm.MethodName) prog_18_method_71_code (4 : Nat) (Option.some Jvm.ClassFile.FieldType.boolean)) ∈ lw_all := lw_g (lw_at lw_m13 3 rfl) rfl
theorem q3017 : (Jvm.Cond.methodLink "StrideTurnsModel" (301 : Nat) ({ cls := "StrideTurnsModel", name := "isShared", desc := "(I)Z" } : Jvm.MethodName)) ∈ lw_all := lw_g (lw_at lw_m13 4 rfl) rfl
theorem q3018 : (Jvm.Cond.privateMethod ({ cls := "StrideTurnsModel", name := "isShared", desc := "(I)Z" } : Jvm.MethodName)) ∈ lw_tbl := lw_at lw_m13 5 rfl
theorem q3019 : (Jvm.Cond.instanceMethod ({ cls := "StrideTurnsModel", name := "isShared", desc := "(I)Z" } : Jvm.MethodName)) ∈ lw_all := lw_g (lw_at lw_m13 6 rfl) rfl
theorem q3020 : (Jvm.Cond.code ({ cls := "StrideTurnsModel", name := "isShared", desc := "(I)Z" } : Jvm.MethodName) prog_18_method_72_code (6 : Nat) (Option.some Jvm.ClassFile.FieldType.boolean)) ∈ lw_all := lw_g (lw_at lw_m13 7 rfl) rfl
theorem q3021 : (Jvm.Cond.methodLink "StrideTurnsModel" (304 : Nat) ({ cls := "StrideTurnsModel", name := "isGathered", desc := "(III)Z" } : Jvm.MethodName)) ∈ lw_all := lw_g (lw_at lw_m13 8 rfl) rfl
theorem q3022 : (Jvm.Cond.privateMethod ({ cls := "StrideTurnsModel", name := "isGathered", desc := "(III)Z" } : Jvm.MethodName)) ∈ lw_tbl := lw_at lw_m13 9 rfl
theorem q3023 : (Jvm.Cond.instanceMethod ({ cls := "StrideTurnsModel", name := "isGathered", desc := "(III)Z" } : Jvm.MethodName)) ∈ lw_all := lw_g (lw_at lw_m13 10 rfl) rfl
theorem q3024 : (Jvm.Cond.code ({ cls := "StrideTurnsModel", name := "isGathered", desc := "(III)Z" } : Jvm.MethodName) prog_18_method_74_code (8 : Nat) (Option.some Jvm.ClassFile.FieldType.boolean)) ∈ lw_all := lw_g (lw_at lw_m13 11 rfl) rfl
theorem q3025 : (Jvm.Cond.methodLink "StrideTurnsModel" (295 : Nat) ({ cls := "StrideTurnsModel", name := "isAbout", desc := "(II)Z" } : Jvm.MethodName)) ∈ lw_all := lw_g (lw_at lw_m13 12 rfl) rfl
theorem q3026 : (Jvm.Cond.privateMethod ({ cls := "StrideTurnsModel", name := "isAbout", desc := "(II)Z" } : Jvm.MethodName)) ∈ lw_tbl := lw_at lw_m13 13 rfl
theorem q3027 : (Jvm.Cond.instanceMethod ({ cls := "StrideTurnsModel", name := "isAbout", desc := "(II)Z" } : Jvm.MethodName)) ∈ lw_all := lw_g (lw_at lw_m13 14 rfl) rfl
theorem q3028 : (Jvm.Cond.code ({ cls := "StrideTurnsModel", name := "isAbout", desc := "(II)Z" } : Jvm.MethodName) prog_18_method_73_code (3 : Nat) (Option.some Jvm.ClassFile.FieldType.boolean)) ∈ lw_all := lw_g (lw_at lw_m13 15 rfl) rfl
theorem q3029 : (Jvm.Cond.methodLink "StrideTurnsModel" (307 : Nat) ({ cls := "StrideTurnsModel", name := "isCopied", desc := "(I)Z" } : Jvm.MethodName)) ∈ lw_all := lw_g (lw_at lw_m13 16 rfl) rfl
theorem q3030 : (Jvm.Cond.privateMethod ({ cls := "StrideTurnsModel", name := "isCopied", desc := "(I)Z" } : Jvm.MethodName)) ∈ lw_tbl := lw_at lw_m13 17 rfl
theorem q3031 : (Jvm.Cond.instanceMethod ({ cls := "StrideTurnsModel", name := "isCopied", desc := "(I)Z" } : Jvm.MethodName)) ∈ lw_all := lw_g (lw_at lw_m13 18 rfl) rfl
theorem q3032 : (Jvm.Cond.code ({ cls := "StrideTurnsModel", name := "isCopied", desc := "(I)Z" } : Jvm.MethodName) prog_18_method_75_code (5 : Nat) (Option.some Jvm.ClassFile.FieldType.boolean)) ∈ lw_all := lw_g (lw_at lw_m13 19 rfl) rfl
theorem q3034 : (Jvm.Cond.instanceMethod ({ cls := "StrideTurnsModel", name := "would", desc := "(II)I" } : Jvm.MethodName)) ∈ lw_all := lw_g (lw_at lw_m13 21 rfl) rfl
theorem q3035 : (Jvm.Cond.selects "StrideTurnsModel" ({ cls := "StrideTurnsModel", name := "would", desc := "(II)I" } : Jvm.MethodName) ({ cls := "StrideTurnsModel", name := "would", desc := "(II)I" } : Jvm.MethodName)) ∈ lw_all := lw_g (lw_at lw_m13 22 rfl) rfl
theorem q3036 : (Jvm.Cond.code ({ cls := "StrideTurnsModel", name := "would", desc := "(II)I" } : Jvm.MethodName) prog_18_method_79_code (3 : Nat) (Option.some Jvm.ClassFile.FieldType.int)) ∈ lw_all := lw_g (lw_at lw_m13 23 rfl) rfl
theorem q3038 : (Jvm.Cond.instanceMethod ({ cls := "StrideTurnsModel", name := "witness", desc := "(II)I" } : Jvm.MethodName)) ∈ lw_all := lw_g (lw_at lw_m13 25 rfl) rfl
theorem q3039 : (Jvm.Cond.selects "StrideTurnsModel" ({ cls := "StrideTurnsModel", name := "witness", desc := "(II)I" } : Jvm.MethodName) ({ cls := "StrideTurnsModel", name := "witness", desc := "(II)I" } : Jvm.MethodName)) ∈ lw_all := lw_g (lw_at lw_m13 26 rfl) rfl
theorem q3040 : (Jvm.Cond.code ({ cls := "StrideTurnsModel", name := "witness", desc := "(II)I" } : Jvm.MethodName) prog_18_method_82_code (3 : Nat) (Option.some Jvm.ClassFile.FieldType.int)) ∈ lw_all := lw_g (lw_at lw_m13 27 rfl) rfl
theorem q3041 : (Jvm.Cond.methodLink "StrideTurnsModel" (316 : Nat) ({ cls := "StrideTurnsModel", name := "witnessOf", desc := "(II)I" } : Jvm.MethodName)) ∈ lw_all := lw_g (lw_at lw_m13 28 rfl) rfl
theorem q3042 : (Jvm.Cond.privateMethod ({ cls := "StrideTurnsModel", name := "witnessOf", desc := "(II)I" } : Jvm.MethodName)) ∈ lw_tbl := lw_at lw_m13 29 rfl
theorem q3043 : (Jvm.Cond.instanceMethod ({ cls := "StrideTurnsModel", name := "witnessOf", desc := "(II)I" } : Jvm.MethodName)) ∈ lw_all := lw_g (lw_at lw_m13 30 rfl) rfl
theorem q3044 : (Jvm.Cond.code ({ cls := "StrideTurnsModel", name := "witnessOf", desc := "(II)I" } : Jvm.MethodName) prog_18_method_81_code (8 : Nat) (Option.some Jvm.ClassFile.FieldType.int)) ∈ lw_all := lw_g (lw_at lw_m13 31 rfl) rfl
theorem q3046 : (Jvm.Cond.instanceMethod ({ cls := "StrideTurnsModel", name := "last", desc := "(III)I" } : Jvm.MethodName)) ∈ lw_all := lw_g (lw_at lw_m13 33 rfl) rfl
theorem q3047 : (Jvm.Cond.selects "StrideTurnsModel" ({ cls := "StrideTurnsModel", name := "last", desc := "(III)I" } : Jvm.MethodName) ({ cls := "StrideTurnsModel", name := "last", desc := "(III)I" } : Jvm.MethodName)) ∈ lw_all := lw_g (lw_at lw_m13 34 rfl) rfl
theorem q3048 : (Jvm.Cond.code ({ cls := "StrideTurnsModel", name := "last", desc := "(III)I" } : Jvm.MethodName) prog_18_method_84_code (4 : Nat) (Option.some Jvm.ClassFile.FieldType.int)) ∈ lw_all := lw_g (lw_at lw_m13 35 rfl) rfl
theorem q3049 : (Jvm.Cond.methodLink "StrideTurnsModel" (319 : Nat) ({ cls := "StrideTurnsModel", name := "lastOf", desc := "(III)I" } : Jvm.MethodName)) ∈ lw_all := lw_g (lw_at lw_m13 36 rfl) rfl
theorem q3050 : (Jvm.Cond.privateMethod ({ cls := "StrideTurnsModel", name := "lastOf", desc := "(III)I" } : Jvm.MethodName)) ∈ lw_tbl := lw_at lw_m13 37 rfl
theorem q3051 : (Jvm.Cond.instanceMethod ({ cls := "StrideTurnsModel", name := "lastOf", desc := "(III)I" } : Jvm.MethodName)) ∈ lw_all := lw_g (lw_at lw_m13 38 rfl) rfl
theorem q3052 : (Jvm.Cond.code ({ cls := "StrideTurnsModel", name := "lastOf", desc := "(III)I" } : Jvm.MethodName) prog_18_method_83_code (6 : Nat) (Option.some Jvm.ClassFile.FieldType.int)) ∈ lw_all := lw_g (lw_at lw_m13 39 rfl) rfl
theorem q3054 : (Jvm.Cond.instanceMethod ({ cls := "StrideTurnsModel", name := "run", desc := "()I" } : Jvm.MethodName)) ∈ lw_all := lw_g (lw_at lw_m13 41 rfl) rfl
theorem q3055 : (Jvm.Cond.selects "StrideTurnsModel" ({ cls := "StrideTurnsModel", name := "run", desc := "()I" } : Jvm.MethodName) ({ cls := "StrideTurnsModel", name := "run", desc := "()I" } : Jvm.MethodName)) ∈ lw_all := lw_g (lw_at lw_m13 42 rfl) rfl
theorem q3056 : (Jvm.Cond.code ({ cls := "StrideTurnsModel", name := "run", desc := "()I" } : Jvm.MethodName) prog_18_method_101_code (1 : Nat) (Option.some Jvm.ClassFile.FieldType.int)) ∈ lw_all := lw_g (lw_at lw_m13 43 rfl) rfl
theorem q3057 : (Jvm.Cond.methodLink "StrideTurnsModel" (394 : Nat) ({ cls := "StrideTurnsModel", name := "runNow", desc := "()I" } : Jvm.MethodName)) ∈ lw_all := lw_g (lw_at lw_m13 44 rfl) rfl
theorem q3058 : (Jvm.Cond.privateMethod ({ cls := "StrideTurnsModel", name := "runNow", desc := "()I" } : Jvm.MethodName)) ∈ lw_tbl := lw_at lw_m13 45 rfl
theorem q3059 : (Jvm.Cond.instanceMethod ({ cls := "StrideTurnsModel", name := "runNow", desc := "()I" } : Jvm.MethodName)) ∈ lw_all := lw_g (lw_at lw_m13 46 rfl) rfl
theorem q3060 : (Jvm.Cond.code ({ cls := "StrideTurnsModel", name := "runNow", desc := "()I" } : Jvm.MethodName) prog_18_method_100_code (2 : Nat) (Option.some Jvm.ClassFile.FieldType.int)) ∈ lw_all := lw_g (lw_at lw_m13 47 rfl) rfl
theorem q3061 : (Jvm.Cond.methodLink "StrideTurnsModel" (389 : Nat) ({ cls := "StrideTurnsModel", name := "begins", desc := "()V" } : Jvm.MethodName)) ∈ lw_all := lw_g (lw_at lw_m13 48 rfl) rfl
theorem q3062 : (Jvm.Cond.privateMethod ({ cls := "StrideTurnsModel", name := "begins", desc := "()V" } : Jvm.MethodName)) ∈ lw_tbl := lw_at lw_m13 49 rfl
theorem q3063 : (Jvm.Cond.instanceMethod ({ cls := "StrideTurnsModel", name := "begins", desc := "()V" } : Jvm.MethodName)) ∈ lw_all := lw_g (lw_at lw_m13 50 rfl) rfl
theorem q3064 : (Jvm.Cond.code ({ cls := "StrideTurnsModel", name := "begins", desc := "()V" } : Jvm.MethodName) prog_18_method_98_code (2 : Nat) (Option.none : Option Jvm.ClassFile.FieldType)) ∈ lw_all := lw_g (lw_at lw_m13 51 rfl) rfl
theorem q3065 : (Jvm.Cond.methodLink "StrideTurnsModel" (383 : Nat) ({ cls := "StrideTurnsModel", name := "firstFrom", desc := "(II)I" } : Jvm.MethodName)) ∈ lw_all := lw_g (lw_at lw_m13 52 rfl) rfl
theorem q3066 : (Jvm.Cond.privateMethod ({ cls := "StrideTurnsModel", name := "firstFrom", desc := "(II)I" } : Jvm.MethodName)) ∈ lw_tbl := lw_at lw_m13 53 rfl
theorem q3067 : (Jvm.Cond.instanceMethod ({ cls := "StrideTurnsModel", name := "firstFrom", desc := "(II)I" } : Jvm.MethodName)) ∈ lw_all := lw_g (lw_at lw_m13 54 rfl) rfl
theorem q3068 : (Jvm.Cond.code ({ cls := "StrideTurnsModel", name := "firstFrom", desc := "(II)I" } : Jvm.MethodName) prog_18_method_97_code (5 : Nat) (Option.some Jvm.ClassFile.FieldType.int)) ∈ lw_all := lw_g (lw_at lw_m13 55 rfl) rfl
theorem q3069 : (Jvm.Cond.methodLink "StrideTurnsModel" (392 : Nat) ({ cls := "StrideTurnsModel", name := "steps", desc := "(I)V" } : Jvm.MethodName)) ∈ lw_all := lw_g (lw_at lw_m13 56 rfl) rfl
theorem q3070 : (Jvm.Cond.privateMethod ({ cls := "StrideTurnsModel", name := "steps", desc := "(I)V" } : Jvm.MethodName)) ∈ lw_tbl := lw_at lw_m13 57 rfl
theorem q3071 : (Jvm.Cond.instanceMethod ({ cls := "StrideTurnsModel", name := "steps", desc := "(I)V" } : Jvm.MethodName)) ∈ lw_all := lw_g (lw_at lw_m13 58 rfl) rfl
theorem q3072 : (Jvm.Cond.code ({ cls := "StrideTurnsModel", name := "steps", desc := "(I)V" } : Jvm.MethodName) prog_18_method_99_code (5 : Nat) (Option.none : Option Jvm.ClassFile.FieldType)) ∈ lw_all := lw_g (lw_at lw_m13 59 rfl) rfl
theorem q3073 : (Jvm.Cond.methodLink "StrideTurnsModel" (386 : Nat) ({ cls := "StrideTurnsModel", name := "item", desc := "(III)Z" } : Jvm.MethodName)) ∈ lw_all := lw_g (lw_at lw_m13 60 rfl) rfl
theorem q3074 : (Jvm.Cond.privateMethod ({ cls := "StrideTurnsModel", name := "item", desc := "(III)Z" } : Jvm.MethodName)) ∈ lw_tbl := lw_at lw_m13 61 rfl
theorem q3075 : (Jvm.Cond.instanceMethod ({ cls := "StrideTurnsModel", name := "item", desc := "(III)Z" } : Jvm.MethodName)) ∈ lw_all := lw_g (lw_at lw_m13 62 rfl) rfl
theorem q3076 : (Jvm.Cond.code ({ cls := "StrideTurnsModel", name := "item", desc := "(III)Z" } : Jvm.MethodName) prog_18_method_96_code (11 : Nat) (Option.some Jvm.ClassFile.FieldType.boolean)) ∈ lw_all := lw_g (lw_at lw_m13 63 rfl) rfl
theorem q3077 : (Jvm.Cond.methodLink "StrideTurnsModel" (362 : Nat) ({ cls := "StrideTurnsModel", name := "read", desc := "(III)D" } : Jvm.MethodName)) ∈ lw_all := lw_g (lw_at lw_m13 64 rfl) rfl
theorem q3078 : (Jvm.Cond.privateMethod ({ cls := "StrideTurnsModel", name := "read", desc := "(III)D" } : Jvm.MethodName)) ∈ lw_tbl := lw_at lw_m13 65 rfl
theorem q3079 : (Jvm.Cond.instanceMethod ({ cls := "StrideTurnsModel", name := "read", desc := "(III)D" } : Jvm.MethodName)) ∈ lw_all := lw_g (lw_at lw_m13 66 rfl) rfl
theorem q3080 : (Jvm.Cond.code ({ cls := "StrideTurnsModel", name := "read", desc := "(III)D" } : Jvm.MethodName) prog_18_method_94_code (5 : Nat) (Option.some Jvm.ClassFile.FieldType.double)) ∈ lw_all := lw_g (lw_at lw_m13 67 rfl) rfl
theorem q3081 : (Jvm.Cond.methodLink "StrideTurnsModel" (356 : Nat) ({ cls := "StrideTurnsModel", name := "lacksPlace", desc := "(III)I" } : Jvm.MethodName)) ∈ lw_all := lw_g (lw_at lw_m13 68 rfl) rfl
theorem q3082 : (Jvm.Cond.privateMethod ({ cls := "StrideTurnsModel", name := "lacksPlace", desc := "(III)I" } : Jvm.MethodName)) ∈ lw_tbl := lw_at lw_m13 69 rfl
theorem q3083 : (Jvm.Cond.instanceMethod ({ cls := "StrideTurnsModel", name := "lacksPlace", desc := "(III)I" } : Jvm.MethodName)) ∈ lw_all := lw_g (lw_at lw_m13 70 rfl) rfl
theorem q3084 : (Jvm.Cond.code ({ cls := "StrideTurnsModel", name := "lacksPlace", desc := "(III)I" } : Jvm.MethodName) prog_18_method_93_code (5 : Nat) (Option.some Jvm.ClassFile.FieldType.int)) ∈ lw_all := lw_g (lw_at lw_m13 71 rfl) rfl
theorem q3085 : (Jvm.Cond.methodLink "StrideTurnsModel" (366 : Nat) ({ cls := "StrideTurnsModel", name := "does", desc := "(IDD)D" } : Jvm.MethodName)) ∈ lw_all := lw_g (lw_at lw_m13 72 rfl) rfl
theorem q3086 : (Jvm.Cond.privateMethod ({ cls := "StrideTurnsModel", name := "does", desc := "(IDD)D" } : Jvm.MethodName)) ∈ lw_tbl := lw_at lw_m13 73 rfl
theorem q3087 : (Jvm.Cond.instanceMethod ({ cls := "StrideTurnsModel", name := "does", desc := "(IDD)D" } : Jvm.MethodName)) ∈ lw_all := lw_g (lw_at lw_m13 74 rfl) rfl
theorem q3088 : (Jvm.Cond.code ({ cls := "StrideTurnsModel", name := "does", desc := "(IDD)D" } : Jvm.MethodName) prog_18_method_92_code (7 : Nat) (Option.some Jvm.ClassFile.FieldType.double)) ∈ lw_all := lw_g (lw_at lw_m13 75 rfl) rfl
theorem q3089 : (Jvm.Cond.methodLink "StrideTurnsModel" (342 : Nat) ({ cls := "StrideTurnsModel", name := "widthOf", desc := "(I)I" } : Jvm.MethodName)) ∈ lw_all := lw_g (lw_at lw_m13 76 rfl) rfl
theorem q3090 : (Jvm.Cond.privateMethod ({ cls := "StrideTurnsModel", name := "widthOf", desc := "(I)I" } : Jvm.MethodName)) ∈ lw_tbl := lw_at lw_m13 77 rfl
theorem q3091 : (Jvm.Cond.instanceMethod ({ cls := "StrideTurnsModel", name := "widthOf", desc := "(I)I" } : Jvm.MethodName)) ∈ lw_all := lw_g (lw_at lw_m13 78 rfl) rfl
theorem q3092 : (Jvm.Cond.code ({ cls := "StrideTurnsModel", name := "widthOf", desc := "(I)I" } : Jvm.MethodName) prog_18_method_88_code (6 : Nat) (Option.some Jvm.ClassFile.FieldType.int)) ∈ lw_all := lw_g (lw_at lw_m13 79 rfl) rfl
theorem q3093 : (Jvm.Cond.methodLink "StrideTurnsModel" (328 : Nat) ({ cls := "StrideTurnsModel", name := "formBy", desc := "(I)I" } : Jvm.MethodName)) ∈ lw_all := lw_g (lw_at lw_m13 80 rfl) rfl
theorem q3094 : (Jvm.Cond.privateMethod ({ cls := "StrideTurnsModel", name := "formBy", desc := "(I)I" } : Jvm.MethodName)) ∈ lw_tbl := lw_at lw_m13 81 rfl
theorem q3095 : (Jvm.Cond.instanceMethod ({ cls := "StrideTurnsModel", name := "formBy", desc := "(I)I" } : Jvm.MethodName)) ∈ lw_all := lw_g (lw_at lw_m13 82 rfl) rfl
theorem q3096 : (Jvm.Cond.code ({ cls := "StrideTurnsModel", name := "formBy", desc := "(I)I" } : Jvm.MethodName) prog_18_method_87_code (2 : Nat) (Option.some Jvm.ClassFile.FieldType.int)) ∈ lw_all := lw_g (lw_at lw_m13 83 rfl) rfl
theorem q3097 : (Jvm.Cond.methodLink "StrideTurnsModel" (345 : Nat) ({ cls := "StrideTurnsModel", name := "byInts", desc := "(III)I" } : Jvm.MethodName)) ∈ lw_all := lw_g (lw_at lw_m13 84 rfl) rfl
theorem q3098 : (Jvm.Cond.privateMethod ({ cls := "StrideTurnsModel", name := "byInts", desc := "(III)I" } : Jvm.MethodName)) ∈ lw_tbl := lw_at lw_m13 85 rfl
theorem q3099 : (Jvm.Cond.instanceMethod ({ cls := "StrideTurnsModel", name := "byInts", desc := "(III)I" } : Jvm.MethodName)) ∈ lw_all := lw_g (lw_at lw_m13 86 rfl) rfl
theorem q3100 : (Jvm.Cond.code ({ cls := "StrideTurnsModel", name := "byInts", desc := "(III)I" } : Jvm.MethodName) prog_18_method_89_code (6 : Nat) (Option.some Jvm.ClassFile.FieldType.int)) ∈ lw_all := lw_g (lw_at lw_m13 87 rfl) rfl
theorem q3101 : (Jvm.Cond.methodLink "StrideTurnsModel" (334 : Nat) ({ cls := "StrideTurnsModel", name := "isInt", desc := "(J)Z" } : Jvm.MethodName)) ∈ lw_all := lw_g (lw_at lw_m13 88 rfl) rfl
theorem q3102 : (Jvm.Cond.static ({ cls := "StrideTurnsModel", name := "isInt", desc := "(J)Z" } : Jvm.MethodName)) ∈ lw_all := lw_g (lw_at lw_m13 89 rfl) rfl
theorem q3103 : (Jvm.Cond.code ({ cls := "StrideTurnsModel", name := "isInt", desc := "(J)Z" } : Jvm.MethodName) prog_18_method_86_code (2 : Nat) (Option.some Jvm.ClassFile.FieldType.boolean)) ∈ lw_all := lw_g (lw_at lw_m13 90 rfl) rfl
theorem q3104 : (Jvm.Cond.constantLong "StrideTurnsModel" (324 : Nat) (-2147483648 : Int64)) ∈ lw_all := lw_g (lw_at lw_m13 91 rfl) rfl
theorem q3105 : (Jvm.Cond.constantLong "StrideTurnsModel" (326 : Nat) (2147483647 : Int64)) ∈ lw_all := lw_g (lw_at lw_m13 92 rfl) rfl
theorem q3106 : (Jvm.Cond.methodLink "StrideTurnsModel" (348 : Nat) ({ cls := "StrideTurnsModel", name := "byFloats", desc := "(IFF)F" } : Jvm.MethodName)) ∈ lw_all := lw_g (lw_at lw_m13 93 rfl) rfl
theorem q3107 : (Jvm.Cond.privateMethod ({ cls := "StrideTurnsModel", name := "byFloats", desc := "(IFF)F" } : Jvm.MethodName)) ∈ lw_tbl := lw_at lw_m13 94 rfl
theorem q3108 : (Jvm.Cond.instanceMethod ({ cls := "StrideTurnsModel", name := "byFloats", desc := "(IFF)F" } : Jvm.MethodName)) ∈ lw_all := lw_g (lw_at lw_m13 95 rfl) rfl
theorem q3109 : (Jvm.Cond.code ({ cls := "StrideTurnsModel", name := "byFloats", desc := "(IFF)F" } : Jvm.MethodName) prog_18_method_90_code (4 : Nat) (Option.some Jvm.ClassFile.FieldType.float)) ∈ lw_all := lw_g (lw_at lw_m13 96 rfl) rfl
theorem q3110 : (Jvm.Cond.constantFloat "StrideTurnsModel" (341 : Nat) (1149239296 : UInt32)) ∈ lw_all := lw_g (lw_at lw_m13 97 rfl) rfl
theorem q3111 : (Jvm.Cond.methodLink "StrideTurnsModel" (118 : Nat) ({ cls := "StrideTurnsModel", name := "zeroed", desc := "(D)D" } : Jvm.MethodName)) ∈ lw_all := lw_g (lw_at lw_m13 98 rfl) rfl
theorem q3112 : (Jvm.Cond.static ({ cls := "StrideTurnsModel", name := "zeroed", desc := "(D)D" } : Jvm.MethodName)) ∈ lw_all := lw_g (lw_at lw_m13 99 rfl) rfl
theorem q3113 : (Jvm.Cond.code ({ cls := "StrideTurnsModel", name := "zeroed", desc := "(D)D" } : Jvm.MethodName) prog_18_method_7_code (2 : Nat) (Option.some Jvm.ClassFile.FieldType.double)) ∈ lw_all := lw_g (lw_at lw_m13 100 rfl) rfl
theorem q3114 : (Jvm.Cond.methodLink "StrideTurnsModel" (352 : Nat) ({ cls := "StrideTurnsModel", name := "byDoubles", desc := "(IDD)D" } : Jvm.MethodName)) ∈ lw_all := lw_g (lw_at lw_m13 101 rfl) rfl
theorem q3115 : (Jvm.Cond.privateMethod ({ cls := "StrideTurnsModel", name := "byDoubles", desc := "(IDD)D" } : Jvm.MethodName)) ∈ lw_tbl := lw_at lw_m13 102 rfl
theorem q3116 : (Jvm.Cond.instanceMethod ({ cls := "StrideTurnsModel", name := "byDoubles", desc := "(IDD)D" } : Jvm.MethodName)) ∈ lw_all := lw_g (lw_at lw_m13 103 rfl) rfl
theorem q3117 : (Jvm.Cond.code ({ cls := "StrideTurnsModel", name := "byDoubles", desc := "(IDD)D" } : Jvm.MethodName) prog_18_method_91_code (6 : Nat) (Option.some Jvm.ClassFile.FieldType.double)) ∈ lw_all := lw_g (lw_at lw_m13 104 rfl) rfl
theorem q3118 : (Jvm.Cond.constantDouble "StrideTurnsModel" (322 : Nat) (4652218415073722368 : UInt64)) ∈ lw_all := lw_g (lw_at lw_m13 105 rfl) rfl
theorem q3119 : (Jvm.Cond.methodLink "StrideTurnsModel" (369 : Nat) ({ cls := "StrideTurnsModel", name := "castTo", desc := "(ID)D" } : Jvm.MethodName)) ∈ lw_all := lw_g (lw_at lw_m13 106 rfl) rfl
theorem q3120 : (Jvm.Cond.static ({ cls := "StrideTurnsModel", name := "castTo", desc := "(ID)D" } : Jvm.MethodName)) ∈ lw_all := lw_g (lw_at lw_m13 107 rfl) rfl
theorem q3121 : (Jvm.Cond.code ({ cls := "StrideTurnsModel", name := "castTo", desc := "(ID)D" } : Jvm.MethodName) prog_18_method_8_code (3 : Nat) (Option.some Jvm.ClassFile.FieldType.double)) ∈ lw_all := lw_g (lw_at lw_m13 108 rfl) rfl
theorem q3122 : (Jvm.Cond.methodLink "StrideTurnsModel" (373 : Nat) ({ cls := "StrideTurnsModel", name := "writes", desc := "(IID)V" } : Jvm.MethodName)) ∈ lw_all := lw_g (lw_at lw_m13 109 rfl) rfl
theorem q3123 : (Jvm.Cond.privateMethod ({ cls := "StrideTurnsModel", name := "writes", desc := "(IID)V" } : Jvm.MethodName)) ∈ lw_tbl := lw_at lw_m13 110 rfl
theorem q3124 : (Jvm.Cond.instanceMethod ({ cls := "StrideTurnsModel", name := "writes", desc := "(IID)V" } : Jvm.MethodName)) ∈ lw_all := lw_g (lw_at lw_m13 111 rfl) rfl
theorem q3125 : (Jvm.Cond.code ({ cls := "StrideTurnsModel", name := "writes", desc := "(IID)V" } : Jvm.MethodName) prog_18_method_95_code (6 : Nat) (Option.none : Option Jvm.ClassFile.FieldType)) ∈ lw_all := lw_g (lw_at lw_m13 112 rfl) rfl
theorem q3127 : (Jvm.Cond.instanceMethod ({ cls := "StrideTurnsModel", name := "mixed", desc := "(IIII)I" } : Jvm.MethodName)) ∈ lw_all := lw_g (lw_at lw_m13 114 rfl) rfl
theorem q3128 : (Jvm.Cond.selects "StrideTurnsModel" ({ cls := "StrideTurnsModel", name := "mixed", desc := "(IIII)I" } : Jvm.MethodName) ({ cls := "StrideTurnsModel", name := "mixed", desc := "(IIII)I" } : Jvm.MethodName)) ∈ lw_all := lw_g (lw_at lw_m13 115 rfl) rfl
theorem q3129 : (Jvm.Cond.code ({ cls := "StrideTurnsModel", name := "mixed", desc := "(IIII)I" } : Jvm.MethodName) prog_18_method_107_code (6 : Nat) (Option.some Jvm.ClassFile.FieldType.int)) ∈ lw_all := lw_g (lw_at lw_m13 116 rfl) rfl
theorem q3130 : (Jvm.Cond.methodLink "StrideTurnsModel" (410 : Nat) ({ cls := "StrideTurnsModel", name := "mayMix", desc := "(IIII)I" } : Jvm.MethodName)) ∈ lw_all := lw_g (lw_at lw_m13 117 rfl) rfl
theorem q3131 : (Jvm.Cond.privateMethod ({ cls := "StrideTurnsModel", name := "mayMix", desc := "(IIII)I" } : Jvm.MethodName)) ∈ lw_tbl := lw_at lw_m13 118 rfl
theorem q3132 : (Jvm.Cond.instanceMethod ({ cls := "StrideTurnsModel", name := "mayMix", desc := "(IIII)I" } : Jvm.MethodName)) ∈ lw_all := lw_g (lw_at lw_m13 119 rfl) rfl
theorem q3133 : (Jvm.Cond.code ({ cls := "StrideTurnsModel", name := "mayMix", desc := "(IIII)I" } : Jvm.MethodName) prog_18_method_106_code (5 : Nat) (Option.some Jvm.ClassFile.FieldType.int)) ∈ lw_all := lw_g (lw_at lw_m13 120 rfl) rfl
theorem q3134 : (Jvm.Cond.methodLink "StrideTurnsModel" (407 : Nat) ({ cls := "StrideTurnsModel", name := "serials", desc := "()I" } : Jvm.MethodName)) ∈ lw_all := lw_g (lw_at lw_m13 121 rfl) rfl
theorem q3135 : (Jvm.Cond.privateMethod ({ cls := "StrideTurnsModel", name := "serials", desc := "()I" } : Jvm.MethodName)) ∈ lw_tbl := lw_at lw_m13 122 rfl
theorem q3136 : (Jvm.Cond.instanceMethod ({ cls := "StrideTurnsModel", name := "serials", desc := "()I" } : Jvm.MethodName)) ∈ lw_all := lw_g (lw_at lw_m13 123 rfl) rfl
theorem q3137 : (Jvm.Cond.code ({ cls := "StrideTurnsModel", name := "serials", desc := "()I" } : Jvm.MethodName) prog_18_method_80_code (3 : Nat) (Option.some Jvm.ClassFile.FieldType.int)) ∈ lw_all := lw_g (lw_at lw_m13 124 rfl) rfl
theorem q3138 : (Jvm.Cond.methodLink "StrideTurnsModel" (414 : Nat) ({ cls := "StrideTurnsModel", name := "mixes", desc := "(III)I" } : Jvm.MethodName)) ∈ lw_all := lw_g (lw_at lw_m13 125 rfl) rfl
theorem q3139 : (Jvm.Cond.privateMethod ({ cls := "StrideTurnsModel", name := "mixes", desc := "(III)I" } : Jvm.MethodName)) ∈ lw_tbl := lw_at lw_m13 126 rfl
theorem q3140 : (Jvm.Cond.instanceMethod ({ cls := "StrideTurnsModel", name := "mixes", desc := "(III)I" } : Jvm.MethodName)) ∈ lw_all := lw_g (lw_at lw_m13 127 rfl) rfl
theorem q3141 : (Jvm.Cond.code ({ cls := "StrideTurnsModel", name := "mixes", desc := "(III)I" } : Jvm.MethodName) prog_18_method_105_code (10 : Nat) (Option.some Jvm.ClassFile.FieldType.int)) ∈ lw_all := lw_g (lw_at lw_m13 128 rfl) rfl
theorem q3142 : (Jvm.Cond.methodLink "StrideTurnsModel" (401 : Nat) ({ cls := "StrideTurnsModel", name := "left", desc := "(II)I" } : Jvm.MethodName)) ∈ lw_all := lw_g (lw_at lw_m13 129 rfl) rfl
theorem q3143 : (Jvm.Cond.privateMethod ({ cls := "StrideTurnsModel", name := "left", desc := "(II)I" } : Jvm.MethodName)) ∈ lw_tbl := lw_at lw_m13 130 rfl
theorem q3144 : (Jvm.Cond.instanceMethod ({ cls := "StrideTurnsModel", name := "left", desc := "(II)I" } : Jvm.MethodName)) ∈ lw_all := lw_g (lw_at lw_m13 131 rfl) rfl
theorem q3145 : (Jvm.Cond.code ({ cls := "StrideTurnsModel", name := "left", desc := "(II)I" } : Jvm.MethodName) prog_18_method_103_code (5 : Nat) (Option.some Jvm.ClassFile.FieldType.int)) ∈ lw_all := lw_g (lw_at lw_m13 132 rfl) rfl
theorem q3146 : (Jvm.Cond.methodLink "StrideTurnsModel" (398 : Nat) ({ cls := "StrideTurnsModel", name := "turnOf", desc := "(III)I" } : Jvm.MethodName)) ∈ lw_all := lw_g (lw_at lw_m13 133 rfl) rfl
theorem q3147 : (Jvm.Cond.privateMethod ({ cls := "StrideTurnsModel", name := "turnOf", desc := "(III)I" } : Jvm.MethodName)) ∈ lw_tbl := lw_at lw_m13 134 rfl
theorem q3148 : (Jvm.Cond.instanceMethod ({ cls := "StrideTurnsModel", name := "turnOf", desc := "(III)I" } : Jvm.MethodName)) ∈ lw_all := lw_g (lw_at lw_m13 135 rfl) rfl
theorem q3149 : (Jvm.Cond.code ({ cls := "StrideTurnsModel", name := "turnOf", desc := "(III)I" } : Jvm.MethodName) prog_18_method_102_code (9 : Nat) (Option.some Jvm.ClassFile.FieldType.int)) ∈ lw_all := lw_g (lw_at lw_m13 136 rfl) rfl
theorem q3150 : (Jvm.Cond.methodLink "StrideTurnsModel" (404 : Nat) ({ cls := "StrideTurnsModel", name := "copiesOut", desc := "()V" } : Jvm.MethodName)) ∈ lw_all := lw_g (lw_at lw_m13 137 rfl) rfl
theorem q3151 : (Jvm.Cond.privateMethod ({ cls := "StrideTurnsModel", name := "copiesOut", desc := "()V" } : Jvm.MethodName)) ∈ lw_tbl := lw_at lw_m13 138 rfl
theorem q3152 : (Jvm.Cond.instanceMethod ({ cls := "StrideTurnsModel", name := "copiesOut", desc := "()V" } : Jvm.MethodName)) ∈ lw_all := lw_g (lw_at lw_m13 139 rfl) rfl
theorem q3153 : (Jvm.Cond.code ({ cls := "StrideTurnsModel", name := "copiesOut", desc := "()V" } : Jvm.MethodName) prog_18_method_104_code (3 : Nat) (Option.none : Option Jvm.ClassFile.FieldType)) ∈ lw_all := lw_g (lw_at lw_m13 140 rfl) rfl
theorem q3155 : (Jvm.Cond.instanceMethod ({ cls := "StrideTurnsModel", name := "same", desc := "(IIII)I" } : Jvm.MethodName)) ∈ lw_all := lw_g (lw_at lw_m13 142 rfl) rfl
theorem q3156 : (Jvm.Cond.selects "StrideTurnsModel" ({ cls := "StrideTurnsModel", name := "same", desc := "(IIII)I" } : Jvm.MethodName) ({ cls := "StrideTurnsModel", name := "same", desc := "(IIII)I" } : Jvm.MethodName)) ∈ lw_all := lw_g (lw_at lw_m13 143 rfl) rfl
theorem q3157 : (Jvm.Cond.code ({ cls := "StrideTurnsModel", name := "same", desc := "(IIII)I" } : Jvm.MethodName) prog_18_method_109_code (6 : Nat) (Option.some Jvm.ClassFile.FieldType.int)) ∈ lw_all := lw_g (lw_at lw_m13 144 rfl) rfl
theorem q3158 : (Jvm.Cond.methodLink "StrideTurnsModel" (417 : Nat) ({ cls := "StrideTurnsModel", name := "sameNow", desc := "(III)I" } : Jvm.MethodName)) ∈ lw_all := lw_g (lw_at lw_m13 145 rfl) rfl
theorem q3159 : (Jvm.Cond.privateMethod ({ cls := "StrideTurnsModel", name := "sameNow", desc := "(III)I" } : Jvm.MethodName)) ∈ lw_tbl := lw_at lw_m13 146 rfl
theorem q3160 : (Jvm.Cond.instanceMethod ({ cls := "StrideTurnsModel", name := "sameNow", desc := "(III)I" } : Jvm.MethodName)) ∈ lw_all := lw_g (lw_at lw_m13 147 rfl) rfl
theorem q3161 : (Jvm.Cond.code ({ cls := "StrideTurnsModel", name := "sameNow", desc := "(III)I" } : Jvm.MethodName) prog_18_method_108_code (9 : Nat) (Option.some Jvm.ClassFile.FieldType.int)) ∈ lw_all := lw_g (lw_at lw_m13 148 rfl) rfl
theorem q3163 : (Jvm.Cond.instanceMethod ({ cls := "StrideTurnsModel", name := "faults", desc := "(I)I" } : Jvm.MethodName)) ∈ lw_all := lw_g (lw_at lw_m13 150 rfl) rfl
theorem q3164 : (Jvm.Cond.selects "StrideTurnsModel" ({ cls := "StrideTurnsModel", name := "faults", desc := "(I)I" } : Jvm.MethodName) ({ cls := "StrideTurnsModel", name := "faults", desc := "(I)I" } : Jvm.MethodName)) ∈ lw_all := lw_g (lw_at lw_m13 151 rfl) rfl
theorem q3165 : (Jvm.Cond.code ({ cls := "StrideTurnsModel", name := "faults", desc := "(I)I" } : Jvm.MethodName) prog_18_method_110_code (2 : Nat) (Option.some Jvm.ClassFile.FieldType.int)) ∈ lw_all := lw_g (lw_at lw_m13 152 rfl) rfl
theorem q3167 : (Jvm.Cond.instanceMethod ({ cls := "StrideTurnsModel", name := "ended", desc := "(I)I" } : Jvm.MethodName)) ∈ lw_all := lw_g (lw_at lw_m13 154 rfl) rfl
theorem q3168 : (Jvm.Cond.selects "StrideTurnsModel" ({ cls := "StrideTurnsModel", name := "ended", desc := "(I)I" } : Jvm.MethodName) ({ cls := "StrideTurnsModel", name := "ended", desc := "(I)I" } : Jvm.MethodName)) ∈ lw_all := lw_g (lw_at lw_m13 155 rfl) rfl
theorem q3169 : (Jvm.Cond.code ({ cls := "StrideTurnsModel", name := "ended", desc := "(I)I" } : Jvm.MethodName) prog_18_method_111_code (2 : Nat) (Option.some Jvm.ClassFile.FieldType.int)) ∈ lw_all := lw_g (lw_at lw_m13 156 rfl) rfl
theorem q3171 : (Jvm.Cond.instanceMethod ({ cls := "StrideTurnsModel", name := "writer", desc := "(II)I" } : Jvm.MethodName)) ∈ lw_all := lw_g (lw_at lw_m13 158 rfl) rfl
theorem q3172 : (Jvm.Cond.selects "StrideTurnsModel" ({ cls := "StrideTurnsModel", name := "writer", desc := "(II)I" } : Jvm.MethodName) ({ cls := "StrideTurnsModel", name := "writer", desc := "(II)I" } : Jvm.MethodName)) ∈ lw_all := lw_g (lw_at lw_m13 159 rfl) rfl
theorem q3173 : (Jvm.Cond.code ({ cls := "StrideTurnsModel", name := "writer", desc := "(II)I" } : Jvm.MethodName) prog_18_method_112_code (4 : Nat) (Option.some Jvm.ClassFile.FieldType.int)) ∈ lw_all := lw_g (lw_at lw_m13 160 rfl) rfl
theorem q3175 : (Jvm.Cond.instanceMethod ({ cls := "StrideTurnsModel", name := "count", desc := "(I)I" } : Jvm.MethodName)) ∈ lw_all := lw_g (lw_at lw_m13 162 rfl) rfl
theorem q3176 : (Jvm.Cond.selects "StrideTurnsModel" ({ cls := "StrideTurnsModel", name := "count", desc := "(I)I" } : Jvm.MethodName) ({ cls := "StrideTurnsModel", name := "count", desc := "(I)I" } : Jvm.MethodName)) ∈ lw_all := lw_g (lw_at lw_m13 163 rfl) rfl
theorem q3177 : (Jvm.Cond.code ({ cls := "StrideTurnsModel", name := "count", desc := "(I)I" } : Jvm.MethodName) prog_18_method_114_code (2 : Nat) (Option.some Jvm.ClassFile.FieldType.int)) ∈ lw_all := lw_g (lw_at lw_m13 164 rfl) rfl
theorem q3178 : (Jvm.Cond.methodLink "StrideTurnsModel" (420 : Nat) ({ cls := "StrideTurnsModel", name := "missing", desc := "()I" } : Jvm.MethodName)) ∈ lw_all := lw_g (lw_at lw_m13 165 rfl) rfl
theorem q3179 : (Jvm.Cond.privateMethod ({ cls := "StrideTurnsModel", name := "missing", desc := "()I" } : Jvm.MethodName)) ∈ lw_tbl := lw_at lw_m13 166 rfl
theorem q3180 : (Jvm.Cond.instanceMethod ({ cls := "StrideTurnsModel", name := "missing", desc := "()I" } : Jvm.MethodName)) ∈ lw_all := lw_g (lw_at lw_m13 167 rfl) rfl
theorem q3181 : (Jvm.Cond.code ({ cls := "StrideTurnsModel", name := "missing", desc := "()I" } : Jvm.MethodName) prog_18_method_113_code (3 : Nat) (Option.some Jvm.ClassFile.FieldType.int)) ∈ lw_all := lw_g (lw_at lw_m13 168 rfl) rfl
theorem q3183 : (Jvm.Cond.instanceMethod ({ cls := "StrideTurnsModel", name := "digest", desc := "()J" } : Jvm.MethodName)) ∈ lw_all := lw_g (lw_at lw_m13 170 rfl) rfl
theorem q3184 : (Jvm.Cond.selects "StrideTurnsModel" ({ cls := "StrideTurnsModel", name := "digest", desc := "()J" } : Jvm.MethodName) ({ cls := "StrideTurnsModel", name := "digest", desc := "()J" } : Jvm.MethodName)) ∈ lw_all := lw_g (lw_at lw_m13 171 rfl) rfl
theorem q3185 : (Jvm.Cond.code ({ cls := "StrideTurnsModel", name := "digest", desc := "()J" } : Jvm.MethodName) prog_18_method_118_code (4 : Nat) (Option.some Jvm.ClassFile.FieldType.long)) ∈ lw_all := lw_g (lw_at lw_m13 172 rfl) rfl
theorem q3186 : (Jvm.Cond.constantLong "StrideTurnsModel" (425 : Nat) (17 : Int64)) ∈ lw_all := lw_g (lw_at lw_m13 173 rfl) rfl
theorem q3187 : (Jvm.Cond.constantLong "StrideTurnsModel" (423 : Nat) (31 : Int64)) ∈ lw_all := lw_g (lw_at lw_m13 174 rfl) rfl
theorem q3188 : (Jvm.Cond.methodLink "StrideTurnsModel" (427 : Nat) ({ cls := "StrideTurnsModel", name := "count", desc := "(I)I" } : Jvm.MethodName)) ∈ lw_all := lw_g (lw_at lw_m13 175 rfl) rfl
theorem q3189 : (Jvm.Cond.methodLink "StrideTurnsModel" (430 : Nat) ({ cls := "StrideTurnsModel", name := "statementDigest", desc := "(JI)J" } : Jvm.MethodName)) ∈ lw_all := lw_g (lw_at lw_m13 176 rfl) rfl
theorem q3190 : (Jvm.Cond.privateMethod ({ cls := "StrideTurnsModel", name := "statementDigest", desc := "(JI)J" } : Jvm.MethodName)) ∈ lw_tbl := lw_at lw_m13 177 rfl
theorem q3191 : (Jvm.Cond.instanceMethod ({ cls := "StrideTurnsModel", name := "statementDigest", desc := "(JI)J" } : Jvm.MethodName)) ∈ lw_all := lw_g (lw_at lw_m13 178 rfl) rfl
theorem q3192 : (Jvm.Cond.code ({ cls := "StrideTurnsModel", name := "statementDigest", desc := "(JI)J" } : Jvm.MethodName) prog_18_method_115_code (8 : Nat) (Option.some Jvm.ClassFile.FieldType.long)) ∈ lw_all := lw_g (lw_at lw_m13 179 rfl) rfl
theorem q3193 : (Jvm.Cond.methodLink "StrideTurnsModel" (434 : Nat) ({ cls := "StrideTurnsModel", name := "rowDigest", desc := "(JI)J" } : Jvm.MethodName)) ∈ lw_all := lw_g (lw_at lw_m13 180 rfl) rfl
theorem q3194 : (Jvm.Cond.privateMethod ({ cls := "StrideTurnsModel", name := "rowDigest", desc := "(JI)J" } : Jvm.MethodName)) ∈ lw_tbl := lw_at lw_m13 181 rfl
theorem q3195 : (Jvm.Cond.instanceMethod ({ cls := "StrideTurnsModel", name := "rowDigest", desc := "(JI)J" } : Jvm.MethodName)) ∈ lw_all := lw_g (lw_at lw_m13 182 rfl) rfl
theorem q3196 : (Jvm.Cond.code ({ cls := "StrideTurnsModel", name := "rowDigest", desc := "(JI)J" } : Jvm.MethodName) prog_18_method_116_code (9 : Nat) (Option.some Jvm.ClassFile.FieldType.long)) ∈ lw_all := lw_g (lw_at lw_m13 183 rfl) rfl
theorem q3197 : (Jvm.Cond.methodLink "StrideTurnsModel" (437 : Nat) ({ cls := "StrideTurnsModel", name := "cellsDigest", desc := "(JI)J" } : Jvm.MethodName)) ∈ lw_all := lw_g (lw_at lw_m13 184 rfl) rfl
theorem q3198 : (Jvm.Cond.privateMethod ({ cls := "StrideTurnsModel", name := "cellsDigest", desc := "(JI)J" } : Jvm.MethodName)) ∈ lw_tbl := lw_at lw_m13 185 rfl
theorem q3199 : (Jvm.Cond.instanceMethod ({ cls := "StrideTurnsModel", name := "cellsDigest", desc := "(JI)J" } : Jvm.MethodName)) ∈ lw_all := lw_g (lw_at lw_m13 186 rfl) rfl
theorem q3200 : (Jvm.Cond.code ({ cls := "StrideTurnsModel", name := "cellsDigest", desc := "(JI)J" } : Jvm.MethodName) prog_18_method_117_code (7 : Nat) (Option.some Jvm.ClassFile.FieldType.long)) ∈ lw_all := lw_g (lw_at lw_m13 187 rfl) rfl
theorem q3201 : (Jvm.Cond.methodLink "StrideTurnsModel" (440 : Nat) ({ cls := "StrideTurnsModel", name := "ended", desc := "(I)I" } : Jvm.MethodName)) ∈ lw_all := lw_g (lw_at lw_m13 188 rfl) rfl
theorem q3232 : (Jvm.Cond.castable "StrideTurnsModel" "java/lang/Object") ∈ lw_tbl := lw_at lw_m13 219 rfl
theorem in_X3 : ∀ w ∈ wsX30, w ∈ lw_all := lw_in wsX30 [2644, 2646, 2648, 2650, 2652, 2654, 2656, 2658, 2660, 2662, 2664, 2666, 2668, 2670, 2672, 2674, 2676, 2678, 2680, 2682, 2684, 2686, 2688, 2690, 2692, 2694, 2696, 2698, 2700, 2702, 2704, 2706, 2708, 2710, 2712, 2714, 2716, 2718, 2720, 2722, 2724, 2726, 2728, 2730, 2732, 2734, 2736] (by decide +kernel) (by decide +kernel)
