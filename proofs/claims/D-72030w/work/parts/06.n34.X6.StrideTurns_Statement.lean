/-! StrideTurns$Statement -/
set_option maxRecDepth 100000
def RX6 : String := "StrideTurns$Statement"
def TX6 : u_T := fun k => match k with
  | 0 => ("StrideTurns$Statement", "deed", "LStrideTurns$Deed;", true)
  | 1 => ("StrideTurns$Statement", "count", "I", true)
  | 2 => ("StrideTurns$Statement", "references", "[LStrideTurns$Reference;", true)
  | 3 => ("StrideTurns$Statement", "period", "I", false)
  | 4 => ("StrideTurns$Statement", "phase", "I", false)
  | 5 => ("StrideTurns$Statement", "mask", "I", false)
  | 6 => ("StrideTurns$Statement", "when", "LStrideTurns$When;", false)
  | _ => ("StrideTurns$Statement", "this$0", "LStrideTurns;", true)
def tyX6 : Nat → FieldType := fun k => match k with
  | 0 => .object "StrideTurns$Deed"
  | 1 => .int
  | 2 => .array (.object "StrideTurns$Reference")
  | 3 => .int
  | 4 => .int
  | 5 => .int
  | 6 => .object "StrideTurns$When"
  | _ => .object "StrideTurns"
abbrev wsX60 : List Cond := u_ws RX6 TX6 8
theorem nmX6 : ∀ a, a < 8 → ∀ b, b < 8 → a ≠ b → (TX6 a).2.1 ≠ (TX6 b).2.1 := by decide +kernel
theorem tyX6_ok : ∀ k, k < 8 → parseFieldDescriptor (TX6 k).2.2.1 = some (tyX6 k) := by decide +kernel
abbrev cX6_init : ByteArray := prog_11_method_1_code
def yX6_init : MethodName := ⟨RX6, "<init>", "(LStrideTurns;LStrideTurns$Deed;I)V"⟩
def dkwX6_init_3 : List UInt8 := [181, 0, 39, 42, 29, 181, 0, 43, 177]
abbrev dktX6_init_3 : List UInt8 := dkwX6_init_3 ++ []
def dkwX6_init_2 : List UInt8 := [181, 0, 20, 42, 4, 181, 0, 24, 42, 2, 181, 0, 28, 42, 186, 0, 31, 0, 0, 181, 0, 35, 42, 44]
abbrev dktX6_init_2 : List UInt8 := dkwX6_init_2 ++ dktX6_init_3
def dkwX6_init_1 : List UInt8 := [83, 89, 4, 187, 0, 15, 89, 2, 183, 0, 17, 83, 89, 5, 187, 0, 15, 89, 2, 183, 0, 17, 83]
abbrev dktX6_init_1 : List UInt8 := dkwX6_init_1 ++ dktX6_init_2
def dkwX6_init_0 : List UInt8 := [42, 43, 181, 0, 3, 42, 183, 0, 9, 42, 6, 189, 0, 15, 89, 3, 187, 0, 15, 89, 3, 183, 0, 17]
abbrev dktX6_init_0 : List UInt8 := dkwX6_init_0 ++ dktX6_init_1
theorem dksX6_init_0 : cX6_init.data.toList.drop 0 = dktX6_init_0 := by decide +kernel
theorem dksX6_init_1 : cX6_init.data.toList.drop 24 = dktX6_init_1 := dk_seg dksX6_init_0 24 rfl rfl
theorem dksX6_init_2 : cX6_init.data.toList.drop 47 = dktX6_init_2 := dk_seg dksX6_init_1 23 rfl rfl
theorem dksX6_init_3 : cX6_init.data.toList.drop 71 = dktX6_init_3 := dk_seg dksX6_init_2 24 rfl rfl
theorem dX6_init_0 : decode cX6_init 0 = .ok (.aload_n 0, 1) := dk_42 (dk_at dksX6_init_0 0 rfl rfl)
theorem dX6_init_1 : decode cX6_init 1 = .ok (.aload_n 1, 1) := dk_43 (dk_at dksX6_init_0 1 rfl rfl)
theorem dX6_init_2 : decode cX6_init 2 = .ok (.putfield 3, 3) := dk_181 0 3 (dk_at dksX6_init_0 2 rfl rfl)
theorem dX6_init_5 : decode cX6_init 5 = .ok (.aload_n 0, 1) := dk_42 (dk_at dksX6_init_0 5 rfl rfl)
theorem dX6_init_6 : decode cX6_init 6 = .ok (.invokespecial 9, 3) := dk_183 0 9 (dk_at dksX6_init_0 6 rfl rfl)
theorem dX6_init_9 : decode cX6_init 9 = .ok (.aload_n 0, 1) := dk_42 (dk_at dksX6_init_0 9 rfl rfl)
theorem dX6_init_10 : decode cX6_init 10 = .ok (.iconst 3, 1) := dk_6 (dk_at dksX6_init_0 10 rfl rfl)
theorem dX6_init_11 : decode cX6_init 11 = .ok (.anewarray 15, 3) := dk_189 0 15 (dk_at dksX6_init_0 11 rfl rfl)
theorem dX6_init_14 : decode cX6_init 14 = .ok (.dup, 1) := dk_89 (dk_at dksX6_init_0 14 rfl rfl)
theorem dX6_init_15 : decode cX6_init 15 = .ok (.iconst 0, 1) := dk_3 (dk_at dksX6_init_0 15 rfl rfl)
theorem dX6_init_16 : decode cX6_init 16 = .ok (.new 15, 3) := dk_187 0 15 (dk_at dksX6_init_0 16 rfl rfl)
theorem dX6_init_19 : decode cX6_init 19 = .ok (.dup, 1) := dk_89 (dk_at dksX6_init_0 19 rfl rfl)
theorem dX6_init_20 : decode cX6_init 20 = .ok (.iconst 0, 1) := dk_3 (dk_at dksX6_init_0 20 rfl rfl)
theorem dX6_init_21 : decode cX6_init 21 = .ok (.invokespecial 17, 3) := dk_183 0 17 (dk_at dksX6_init_0 21 rfl rfl)
theorem dX6_init_24 : decode cX6_init 24 = .ok (.aastore, 1) := dk_83 (dk_at dksX6_init_1 0 rfl rfl)
theorem dX6_init_25 : decode cX6_init 25 = .ok (.dup, 1) := dk_89 (dk_at dksX6_init_1 1 rfl rfl)
theorem dX6_init_26 : decode cX6_init 26 = .ok (.iconst 1, 1) := dk_4 (dk_at dksX6_init_1 2 rfl rfl)
theorem dX6_init_27 : decode cX6_init 27 = .ok (.new 15, 3) := dk_187 0 15 (dk_at dksX6_init_1 3 rfl rfl)
theorem dX6_init_30 : decode cX6_init 30 = .ok (.dup, 1) := dk_89 (dk_at dksX6_init_1 6 rfl rfl)
theorem dX6_init_31 : decode cX6_init 31 = .ok (.iconst (-1), 1) := dk_2 (dk_at dksX6_init_1 7 rfl rfl)
theorem dX6_init_32 : decode cX6_init 32 = .ok (.invokespecial 17, 3) := dk_183 0 17 (dk_at dksX6_init_1 8 rfl rfl)
theorem dX6_init_35 : decode cX6_init 35 = .ok (.aastore, 1) := dk_83 (dk_at dksX6_init_1 11 rfl rfl)
theorem dX6_init_36 : decode cX6_init 36 = .ok (.dup, 1) := dk_89 (dk_at dksX6_init_1 12 rfl rfl)
theorem dX6_init_37 : decode cX6_init 37 = .ok (.iconst 2, 1) := dk_5 (dk_at dksX6_init_1 13 rfl rfl)
theorem dX6_init_38 : decode cX6_init 38 = .ok (.new 15, 3) := dk_187 0 15 (dk_at dksX6_init_1 14 rfl rfl)
theorem dX6_init_41 : decode cX6_init 41 = .ok (.dup, 1) := dk_89 (dk_at dksX6_init_1 17 rfl rfl)
theorem dX6_init_42 : decode cX6_init 42 = .ok (.iconst (-1), 1) := dk_2 (dk_at dksX6_init_1 18 rfl rfl)
theorem dX6_init_43 : decode cX6_init 43 = .ok (.invokespecial 17, 3) := dk_183 0 17 (dk_at dksX6_init_1 19 rfl rfl)
theorem dX6_init_46 : decode cX6_init 46 = .ok (.aastore, 1) := dk_83 (dk_at dksX6_init_1 22 rfl rfl)
theorem dX6_init_47 : decode cX6_init 47 = .ok (.putfield 20, 3) := dk_181 0 20 (dk_at dksX6_init_2 0 rfl rfl)
theorem dX6_init_50 : decode cX6_init 50 = .ok (.aload_n 0, 1) := dk_42 (dk_at dksX6_init_2 3 rfl rfl)
theorem dX6_init_51 : decode cX6_init 51 = .ok (.iconst 1, 1) := dk_4 (dk_at dksX6_init_2 4 rfl rfl)
theorem dX6_init_52 : decode cX6_init 52 = .ok (.putfield 24, 3) := dk_181 0 24 (dk_at dksX6_init_2 5 rfl rfl)
theorem dX6_init_55 : decode cX6_init 55 = .ok (.aload_n 0, 1) := dk_42 (dk_at dksX6_init_2 8 rfl rfl)
theorem dX6_init_56 : decode cX6_init 56 = .ok (.iconst (-1), 1) := dk_2 (dk_at dksX6_init_2 9 rfl rfl)
theorem dX6_init_57 : decode cX6_init 57 = .ok (.putfield 28, 3) := dk_181 0 28 (dk_at dksX6_init_2 10 rfl rfl)
theorem dX6_init_60 : decode cX6_init 60 = .ok (.aload_n 0, 1) := dk_42 (dk_at dksX6_init_2 13 rfl rfl)
theorem dX6_init_61 : decode cX6_init 61 = .ok (.invokedynamic 31, 5) := by decide +kernel
theorem dX6_init_66 : decode cX6_init 66 = .ok (.putfield 35, 3) := dk_181 0 35 (dk_at dksX6_init_2 19 rfl rfl)
theorem dX6_init_69 : decode cX6_init 69 = .ok (.aload_n 0, 1) := dk_42 (dk_at dksX6_init_2 22 rfl rfl)
theorem dX6_init_70 : decode cX6_init 70 = .ok (.aload_n 2, 1) := dk_44 (dk_at dksX6_init_2 23 rfl rfl)
theorem dX6_init_71 : decode cX6_init 71 = .ok (.putfield 39, 3) := dk_181 0 39 (dk_at dksX6_init_3 0 rfl rfl)
theorem dX6_init_74 : decode cX6_init 74 = .ok (.aload_n 0, 1) := dk_42 (dk_at dksX6_init_3 3 rfl rfl)
theorem dX6_init_75 : decode cX6_init 75 = .ok (.iload_n 3, 1) := dk_29 (dk_at dksX6_init_3 4 rfl rfl)
theorem dX6_init_76 : decode cX6_init 76 = .ok (.putfield 43, 3) := dk_181 0 43 (dk_at dksX6_init_3 5 rfl rfl)
theorem dX6_init_79 : decode cX6_init 79 = .ok (.return_, 1) := dk_177 (dk_at dksX6_init_3 8 rfl rfl)
abbrev cX6_lambda_new_0 : ByteArray := prog_11_method_12_code
def yX6_lambda_new_0 : MethodName := ⟨RX6, "lambda$new$0", "(I)Z"⟩
theorem dX6_lambda_new_0_0 : decode cX6_lambda_new_0 0 = .ok (.iconst 1, 1) := by decide +kernel
theorem dX6_lambda_new_0_1 : decode cX6_lambda_new_0 1 = .ok (.ireturn, 1) := by decide +kernel
abbrev cX6_at : ByteArray := prog_11_method_2_code
def yX6_at : MethodName := ⟨RX6, "at", "(I)LStrideTurns$Reference;"⟩
def dkwX6_at_0 : List UInt8 := [42, 180, 0, 20, 27, 50, 176]
abbrev dktX6_at_0 : List UInt8 := dkwX6_at_0 ++ []
theorem dksX6_at_0 : cX6_at.data.toList.drop 0 = dktX6_at_0 := by decide +kernel
theorem dX6_at_0 : decode cX6_at 0 = .ok (.aload_n 0, 1) := dk_42 (dk_at dksX6_at_0 0 rfl rfl)
theorem dX6_at_1 : decode cX6_at 1 = .ok (.getfield 20, 3) := dk_180 0 20 (dk_at dksX6_at_0 1 rfl rfl)
theorem dX6_at_4 : decode cX6_at 4 = .ok (.iload_n 1, 1) := dk_27 (dk_at dksX6_at_0 4 rfl rfl)
theorem dX6_at_5 : decode cX6_at 5 = .ok (.aaload, 1) := dk_50 (dk_at dksX6_at_0 5 rfl rfl)
theorem dX6_at_6 : decode cX6_at 6 = .ok (.areturn, 1) := dk_176 (dk_at dksX6_at_0 6 rfl rfl)
abbrev cX6_waits : ByteArray := prog_11_method_3_code
def yX6_waits : MethodName := ⟨RX6, "waits", "(II)V"⟩
def dkwX6_waits_0 : List UInt8 := [42, 27, 181, 0, 24, 42, 28, 181, 0, 46, 42, 27, 28, 186, 0, 49, 0, 0, 181, 0, 35, 177]
abbrev dktX6_waits_0 : List UInt8 := dkwX6_waits_0 ++ []
theorem dksX6_waits_0 : cX6_waits.data.toList.drop 0 = dktX6_waits_0 := by decide +kernel
theorem dX6_waits_0 : decode cX6_waits 0 = .ok (.aload_n 0, 1) := dk_42 (dk_at dksX6_waits_0 0 rfl rfl)
theorem dX6_waits_1 : decode cX6_waits 1 = .ok (.iload_n 1, 1) := dk_27 (dk_at dksX6_waits_0 1 rfl rfl)
theorem dX6_waits_2 : decode cX6_waits 2 = .ok (.putfield 24, 3) := dk_181 0 24 (dk_at dksX6_waits_0 2 rfl rfl)
theorem dX6_waits_5 : decode cX6_waits 5 = .ok (.aload_n 0, 1) := dk_42 (dk_at dksX6_waits_0 5 rfl rfl)
theorem dX6_waits_6 : decode cX6_waits 6 = .ok (.iload_n 2, 1) := dk_28 (dk_at dksX6_waits_0 6 rfl rfl)
theorem dX6_waits_7 : decode cX6_waits 7 = .ok (.putfield 46, 3) := dk_181 0 46 (dk_at dksX6_waits_0 7 rfl rfl)
theorem dX6_waits_10 : decode cX6_waits 10 = .ok (.aload_n 0, 1) := dk_42 (dk_at dksX6_waits_0 10 rfl rfl)
theorem dX6_waits_11 : decode cX6_waits 11 = .ok (.iload_n 1, 1) := dk_27 (dk_at dksX6_waits_0 11 rfl rfl)
theorem dX6_waits_12 : decode cX6_waits 12 = .ok (.iload_n 2, 1) := dk_28 (dk_at dksX6_waits_0 12 rfl rfl)
theorem dX6_waits_13 : decode cX6_waits 13 = .ok (.invokedynamic 49, 5) := by decide +kernel
theorem dX6_waits_18 : decode cX6_waits 18 = .ok (.putfield 35, 3) := dk_181 0 35 (dk_at dksX6_waits_0 18 rfl rfl)
theorem dX6_waits_21 : decode cX6_waits 21 = .ok (.return_, 1) := dk_177 (dk_at dksX6_waits_0 21 rfl rfl)
abbrev cX6_lambda_waits_1 : ByteArray := prog_11_method_11_code
def yX6_lambda_waits_1 : MethodName := ⟨RX6, "lambda$waits$1", "(III)Z"⟩
def dkwX6_lambda_waits_1_0 : List UInt8 := [28, 26, 112, 27, 160, 0, 7, 4, 167, 0, 4, 3, 172]
abbrev dktX6_lambda_waits_1_0 : List UInt8 := dkwX6_lambda_waits_1_0 ++ []
theorem dksX6_lambda_waits_1_0 : cX6_lambda_waits_1.data.toList.drop 0 = dktX6_lambda_waits_1_0 := by decide +kernel
theorem dX6_lambda_waits_1_0 : decode cX6_lambda_waits_1 0 = .ok (.iload_n 2, 1) := dk_28 (dk_at dksX6_lambda_waits_1_0 0 rfl rfl)
theorem dX6_lambda_waits_1_1 : decode cX6_lambda_waits_1 1 = .ok (.iload_n 0, 1) := dk_26 (dk_at dksX6_lambda_waits_1_0 1 rfl rfl)
theorem dX6_lambda_waits_1_2 : decode cX6_lambda_waits_1 2 = .ok (.irem, 1) := dk_112 (dk_at dksX6_lambda_waits_1_0 2 rfl rfl)
theorem dX6_lambda_waits_1_3 : decode cX6_lambda_waits_1 3 = .ok (.iload_n 1, 1) := dk_27 (dk_at dksX6_lambda_waits_1_0 3 rfl rfl)
theorem dX6_lambda_waits_1_4 : decode cX6_lambda_waits_1 4 = .ok (.if_icmp .ne 7, 3) := dk_160 0 7 (dk_at dksX6_lambda_waits_1_0 4 rfl rfl)
theorem dX6_lambda_waits_1_7 : decode cX6_lambda_waits_1 7 = .ok (.iconst 1, 1) := dk_4 (dk_at dksX6_lambda_waits_1_0 7 rfl rfl)
theorem dX6_lambda_waits_1_8 : decode cX6_lambda_waits_1 8 = .ok (.goto 4, 3) := dk_167 0 4 (dk_at dksX6_lambda_waits_1_0 8 rfl rfl)
theorem dX6_lambda_waits_1_11 : decode cX6_lambda_waits_1 11 = .ok (.iconst 0, 1) := dk_3 (dk_at dksX6_lambda_waits_1_0 11 rfl rfl)
theorem dX6_lambda_waits_1_12 : decode cX6_lambda_waits_1 12 = .ok (.ireturn, 1) := dk_172 (dk_at dksX6_lambda_waits_1_0 12 rfl rfl)
abbrev cX6_tells : ByteArray := prog_11_method_10_code
def yX6_tells : MethodName := ⟨RX6, "tells", "(I)I"⟩
def dkwX6_tells_4 : List UInt8 := [182, 0, 116, 172]
abbrev dktX6_tells_4 : List UInt8 := dkwX6_tells_4 ++ []
def dkwX6_tells_3 : List UInt8 := [42, 180, 0, 46, 167, 0, 21, 42, 180, 0, 28, 167, 0, 14, 42, 182, 0, 113, 167, 0, 7, 42]
abbrev dktX6_tells_3 : List UInt8 := dkwX6_tells_3 ++ dktX6_tells_4
def dkwX6_tells_2 : List UInt8 := [42, 180, 0, 39, 180, 0, 52, 167, 0, 42, 42, 180, 0, 43, 167, 0, 35, 42, 180, 0, 24, 167, 0, 28]
abbrev dktX6_tells_2 : List UInt8 := dkwX6_tells_2 ++ dktX6_tells_3
def dkwX6_tells_1 : List UInt8 := [170, 0, 0, 0, 0, 0, 84, 0, 0, 0, 0, 0, 0, 0, 5, 0, 0, 0, 39, 0, 0, 0, 49, 0, 0, 0, 56, 0, 0, 0, 63, 0, 0, 0, 70, 0, 0, 0, 77]
abbrev dktX6_tells_1 : List UInt8 := dkwX6_tells_1 ++ dktX6_tells_2
def dkwX6_tells_0 : List UInt8 := [27]
abbrev dktX6_tells_0 : List UInt8 := dkwX6_tells_0 ++ dktX6_tells_1
theorem dksX6_tells_0 : cX6_tells.data.toList.drop 0 = dktX6_tells_0 := by decide +kernel
theorem dksX6_tells_1 : cX6_tells.data.toList.drop 1 = dktX6_tells_1 := dk_seg dksX6_tells_0 1 rfl rfl
theorem dksX6_tells_2 : cX6_tells.data.toList.drop 40 = dktX6_tells_2 := dk_seg dksX6_tells_1 39 rfl rfl
theorem dksX6_tells_3 : cX6_tells.data.toList.drop 64 = dktX6_tells_3 := dk_seg dksX6_tells_2 24 rfl rfl
theorem dksX6_tells_4 : cX6_tells.data.toList.drop 86 = dktX6_tells_4 := dk_seg dksX6_tells_3 22 rfl rfl
theorem dX6_tells_0 : decode cX6_tells 0 = .ok (.iload_n 1, 1) := dk_27 (dk_at dksX6_tells_0 0 rfl rfl)
theorem dX6_tells_1 : decode cX6_tells 1 = .ok (.tableswitch 84 0 5 #[39, 49, 56, 63, 70, 77], 39) := by decide +kernel
theorem dX6_tells_40 : decode cX6_tells 40 = .ok (.aload_n 0, 1) := dk_42 (dk_at dksX6_tells_2 0 rfl rfl)
theorem dX6_tells_41 : decode cX6_tells 41 = .ok (.getfield 39, 3) := dk_180 0 39 (dk_at dksX6_tells_2 1 rfl rfl)
theorem dX6_tells_44 : decode cX6_tells 44 = .ok (.getfield 52, 3) := dk_180 0 52 (dk_at dksX6_tells_2 4 rfl rfl)
theorem dX6_tells_47 : decode cX6_tells 47 = .ok (.goto 42, 3) := dk_167 0 42 (dk_at dksX6_tells_2 7 rfl rfl)
theorem dX6_tells_50 : decode cX6_tells 50 = .ok (.aload_n 0, 1) := dk_42 (dk_at dksX6_tells_2 10 rfl rfl)
theorem dX6_tells_51 : decode cX6_tells 51 = .ok (.getfield 43, 3) := dk_180 0 43 (dk_at dksX6_tells_2 11 rfl rfl)
theorem dX6_tells_54 : decode cX6_tells 54 = .ok (.goto 35, 3) := dk_167 0 35 (dk_at dksX6_tells_2 14 rfl rfl)
theorem dX6_tells_57 : decode cX6_tells 57 = .ok (.aload_n 0, 1) := dk_42 (dk_at dksX6_tells_2 17 rfl rfl)
theorem dX6_tells_58 : decode cX6_tells 58 = .ok (.getfield 24, 3) := dk_180 0 24 (dk_at dksX6_tells_2 18 rfl rfl)
theorem dX6_tells_61 : decode cX6_tells 61 = .ok (.goto 28, 3) := dk_167 0 28 (dk_at dksX6_tells_2 21 rfl rfl)
theorem dX6_tells_64 : decode cX6_tells 64 = .ok (.aload_n 0, 1) := dk_42 (dk_at dksX6_tells_3 0 rfl rfl)
theorem dX6_tells_65 : decode cX6_tells 65 = .ok (.getfield 46, 3) := dk_180 0 46 (dk_at dksX6_tells_3 1 rfl rfl)
theorem dX6_tells_68 : decode cX6_tells 68 = .ok (.goto 21, 3) := dk_167 0 21 (dk_at dksX6_tells_3 4 rfl rfl)
theorem dX6_tells_71 : decode cX6_tells 71 = .ok (.aload_n 0, 1) := dk_42 (dk_at dksX6_tells_3 7 rfl rfl)
theorem dX6_tells_72 : decode cX6_tells 72 = .ok (.getfield 28, 3) := dk_180 0 28 (dk_at dksX6_tells_3 8 rfl rfl)
theorem dX6_tells_75 : decode cX6_tells 75 = .ok (.goto 14, 3) := dk_167 0 14 (dk_at dksX6_tells_3 11 rfl rfl)
theorem dX6_tells_78 : decode cX6_tells 78 = .ok (.aload_n 0, 1) := dk_42 (dk_at dksX6_tells_3 14 rfl rfl)
theorem dX6_tells_79 : decode cX6_tells 79 = .ok (.invokevirtual 113, 3) := dk_182 0 113 (dk_at dksX6_tells_3 15 rfl rfl)
theorem dX6_tells_82 : decode cX6_tells 82 = .ok (.goto 7, 3) := dk_167 0 7 (dk_at dksX6_tells_3 18 rfl rfl)
theorem dX6_tells_85 : decode cX6_tells 85 = .ok (.aload_n 0, 1) := dk_42 (dk_at dksX6_tells_3 21 rfl rfl)
theorem dX6_tells_86 : decode cX6_tells 86 = .ok (.invokevirtual 116, 3) := dk_182 0 116 (dk_at dksX6_tells_4 0 rfl rfl)
theorem dX6_tells_89 : decode cX6_tells 89 = .ok (.ireturn, 1) := dk_172 (dk_at dksX6_tells_4 3 rfl rfl)
abbrev cX6_family : ByteArray := prog_11_method_8_code
def yX6_family : MethodName := ⟨RX6, "family", "()I"⟩
def dkwX6_family_1 : List UInt8 := [42, 43, 180, 0, 92, 182, 0, 103, 172]
abbrev dktX6_family_1 : List UInt8 := dkwX6_family_1 ++ []
def dkwX6_family_0 : List UInt8 := [42, 180, 0, 3, 42, 3, 182, 0, 74, 180, 0, 78, 182, 0, 88, 76, 43, 199, 0, 7, 3, 167, 0, 11]
abbrev dktX6_family_0 : List UInt8 := dkwX6_family_0 ++ dktX6_family_1
theorem dksX6_family_0 : cX6_family.data.toList.drop 0 = dktX6_family_0 := by decide +kernel
theorem dksX6_family_1 : cX6_family.data.toList.drop 24 = dktX6_family_1 := dk_seg dksX6_family_0 24 rfl rfl
theorem dX6_family_0 : decode cX6_family 0 = .ok (.aload_n 0, 1) := dk_42 (dk_at dksX6_family_0 0 rfl rfl)
theorem dX6_family_1 : decode cX6_family 1 = .ok (.getfield 3, 3) := dk_180 0 3 (dk_at dksX6_family_0 1 rfl rfl)
theorem dX6_family_4 : decode cX6_family 4 = .ok (.aload_n 0, 1) := dk_42 (dk_at dksX6_family_0 4 rfl rfl)
theorem dX6_family_5 : decode cX6_family 5 = .ok (.iconst 0, 1) := dk_3 (dk_at dksX6_family_0 5 rfl rfl)
theorem dX6_family_6 : decode cX6_family 6 = .ok (.invokevirtual 74, 3) := dk_182 0 74 (dk_at dksX6_family_0 6 rfl rfl)
theorem dX6_family_9 : decode cX6_family 9 = .ok (.getfield 78, 3) := dk_180 0 78 (dk_at dksX6_family_0 9 rfl rfl)
theorem dX6_family_12 : decode cX6_family 12 = .ok (.invokevirtual 88, 3) := dk_182 0 88 (dk_at dksX6_family_0 12 rfl rfl)
theorem dX6_family_15 : decode cX6_family 15 = .ok (.astore_n 1, 1) := dk_76 (dk_at dksX6_family_0 15 rfl rfl)
theorem dX6_family_16 : decode cX6_family 16 = .ok (.aload_n 1, 1) := dk_43 (dk_at dksX6_family_0 16 rfl rfl)
theorem dX6_family_17 : decode cX6_family 17 = .ok (.ifnonnull 7, 3) := dk_199 0 7 (dk_at dksX6_family_0 17 rfl rfl)
theorem dX6_family_20 : decode cX6_family 20 = .ok (.iconst 0, 1) := dk_3 (dk_at dksX6_family_0 20 rfl rfl)
theorem dX6_family_21 : decode cX6_family 21 = .ok (.goto 11, 3) := dk_167 0 11 (dk_at dksX6_family_0 21 rfl rfl)
theorem dX6_family_24 : decode cX6_family 24 = .ok (.aload_n 0, 1) := dk_42 (dk_at dksX6_family_1 0 rfl rfl)
theorem dX6_family_25 : decode cX6_family 25 = .ok (.aload_n 1, 1) := dk_43 (dk_at dksX6_family_1 1 rfl rfl)
theorem dX6_family_26 : decode cX6_family 26 = .ok (.getfield 92, 3) := dk_180 0 92 (dk_at dksX6_family_1 2 rfl rfl)
theorem dX6_family_29 : decode cX6_family 29 = .ok (.invokevirtual 103, 3) := dk_182 0 103 (dk_at dksX6_family_1 5 rfl rfl)
theorem dX6_family_32 : decode cX6_family 32 = .ok (.ireturn, 1) := dk_172 (dk_at dksX6_family_1 8 rfl rfl)
abbrev cX6_gathers : ByteArray := prog_11_method_7_code
def yX6_gathers : MethodName := ⟨RX6, "gathers", "(I)I"⟩
def dkwX6_gathers_7 : List UInt8 := [180, 0, 39, 180, 0, 81, 167, 0, 4, 3, 172]
abbrev dktX6_gathers_7 : List UInt8 := dkwX6_gathers_7 ++ []
def dkwX6_gathers_6 : List UInt8 := [153, 0, 13, 21, 4, 27, 163, 0, 7, 4, 167, 0, 4, 3, 54, 6, 21, 6, 153, 0, 13, 42]
abbrev dktX6_gathers_6 : List UInt8 := dkwX6_gathers_6 ++ dktX6_gathers_7
def dkwX6_gathers_5 : List UInt8 := [163, 0, 18, 21, 5, 153, 0, 9, 21, 4, 27, 163, 0, 7, 4, 167, 0, 23, 3, 167, 0, 19, 21, 5]
abbrev dktX6_gathers_5 : List UInt8 := dkwX6_gathers_5 ++ dktX6_gathers_6
def dkwX6_gathers_4 : List UInt8 := [180, 0, 81, 133, 20, 0, 95, 20, 0, 97, 184, 0, 99, 54, 5, 27, 4, 163, 0, 28, 21, 4, 4]
abbrev dktX6_gathers_4 : List UInt8 := dkwX6_gathers_4 ++ dktX6_gathers_5
def dkwX6_gathers_3 : List UInt8 := [3, 172, 42, 180, 0, 3, 180, 0, 62, 45, 180, 0, 78, 50, 180, 0, 92, 54, 4, 42, 180, 0, 39]
abbrev dktX6_gathers_3 : List UInt8 := dkwX6_gathers_3 ++ dktX6_gathers_4
def dkwX6_gathers_2 : List UInt8 := [54, 4, 45, 180, 0, 78, 2, 159, 0, 36, 42, 180, 0, 3, 45, 180, 0, 78, 182, 0, 88, 199, 0, 5]
abbrev dktX6_gathers_2 : List UInt8 := dkwX6_gathers_2 ++ dktX6_gathers_3
def dkwX6_gathers_1 : List UInt8 := [4, 182, 0, 74, 182, 0, 84, 153, 0, 14, 45, 180, 0, 78, 44, 180, 0, 78, 160, 0, 5, 3, 172, 3]
abbrev dktX6_gathers_1 : List UInt8 := dkwX6_gathers_1 ++ dktX6_gathers_2
def dkwX6_gathers_0 : List UInt8 := [42, 3, 182, 0, 74, 77, 42, 5, 182, 0, 74, 78, 42, 180, 0, 39, 180, 0, 81, 153, 0, 26, 44, 42]
abbrev dktX6_gathers_0 : List UInt8 := dkwX6_gathers_0 ++ dktX6_gathers_1
theorem dksX6_gathers_0 : cX6_gathers.data.toList.drop 0 = dktX6_gathers_0 := by decide +kernel
theorem dksX6_gathers_1 : cX6_gathers.data.toList.drop 24 = dktX6_gathers_1 := dk_seg dksX6_gathers_0 24 rfl rfl
theorem dksX6_gathers_2 : cX6_gathers.data.toList.drop 48 = dktX6_gathers_2 := dk_seg dksX6_gathers_1 24 rfl rfl
theorem dksX6_gathers_3 : cX6_gathers.data.toList.drop 72 = dktX6_gathers_3 := dk_seg dksX6_gathers_2 24 rfl rfl
theorem dksX6_gathers_4 : cX6_gathers.data.toList.drop 95 = dktX6_gathers_4 := dk_seg dksX6_gathers_3 23 rfl rfl
theorem dksX6_gathers_5 : cX6_gathers.data.toList.drop 118 = dktX6_gathers_5 := dk_seg dksX6_gathers_4 23 rfl rfl
theorem dksX6_gathers_6 : cX6_gathers.data.toList.drop 142 = dktX6_gathers_6 := dk_seg dksX6_gathers_5 24 rfl rfl
theorem dksX6_gathers_7 : cX6_gathers.data.toList.drop 164 = dktX6_gathers_7 := dk_seg dksX6_gathers_6 22 rfl rfl
theorem dX6_gathers_0 : decode cX6_gathers 0 = .ok (.aload_n 0, 1) := dk_42 (dk_at dksX6_gathers_0 0 rfl rfl)
theorem dX6_gathers_1 : decode cX6_gathers 1 = .ok (.iconst 0, 1) := dk_3 (dk_at dksX6_gathers_0 1 rfl rfl)
theorem dX6_gathers_2 : decode cX6_gathers 2 = .ok (.invokevirtual 74, 3) := dk_182 0 74 (dk_at dksX6_gathers_0 2 rfl rfl)
theorem dX6_gathers_5 : decode cX6_gathers 5 = .ok (.astore_n 2, 1) := dk_77 (dk_at dksX6_gathers_0 5 rfl rfl)
theorem dX6_gathers_6 : decode cX6_gathers 6 = .ok (.aload_n 0, 1) := dk_42 (dk_at dksX6_gathers_0 6 rfl rfl)
theorem dX6_gathers_7 : decode cX6_gathers 7 = .ok (.iconst 2, 1) := dk_5 (dk_at dksX6_gathers_0 7 rfl rfl)
theorem dX6_gathers_8 : decode cX6_gathers 8 = .ok (.invokevirtual 74, 3) := dk_182 0 74 (dk_at dksX6_gathers_0 8 rfl rfl)
theorem dX6_gathers_11 : decode cX6_gathers 11 = .ok (.astore_n 3, 1) := dk_78 (dk_at dksX6_gathers_0 11 rfl rfl)
theorem dX6_gathers_12 : decode cX6_gathers 12 = .ok (.aload_n 0, 1) := dk_42 (dk_at dksX6_gathers_0 12 rfl rfl)
theorem dX6_gathers_13 : decode cX6_gathers 13 = .ok (.getfield 39, 3) := dk_180 0 39 (dk_at dksX6_gathers_0 13 rfl rfl)
theorem dX6_gathers_16 : decode cX6_gathers 16 = .ok (.getfield 81, 3) := dk_180 0 81 (dk_at dksX6_gathers_0 16 rfl rfl)
theorem dX6_gathers_19 : decode cX6_gathers 19 = .ok (.ifCond .eq 26, 3) := dk_153 0 26 (dk_at dksX6_gathers_0 19 rfl rfl)
theorem dX6_gathers_22 : decode cX6_gathers 22 = .ok (.aload_n 2, 1) := dk_44 (dk_at dksX6_gathers_0 22 rfl rfl)
theorem dX6_gathers_23 : decode cX6_gathers 23 = .ok (.aload_n 0, 1) := dk_42 (dk_at dksX6_gathers_0 23 rfl rfl)
theorem dX6_gathers_24 : decode cX6_gathers 24 = .ok (.iconst 1, 1) := dk_4 (dk_at dksX6_gathers_1 0 rfl rfl)
theorem dX6_gathers_25 : decode cX6_gathers 25 = .ok (.invokevirtual 74, 3) := dk_182 0 74 (dk_at dksX6_gathers_1 1 rfl rfl)
theorem dX6_gathers_28 : decode cX6_gathers 28 = .ok (.invokevirtual 84, 3) := dk_182 0 84 (dk_at dksX6_gathers_1 4 rfl rfl)
theorem dX6_gathers_31 : decode cX6_gathers 31 = .ok (.ifCond .eq 14, 3) := dk_153 0 14 (dk_at dksX6_gathers_1 7 rfl rfl)
theorem dX6_gathers_34 : decode cX6_gathers 34 = .ok (.aload_n 3, 1) := dk_45 (dk_at dksX6_gathers_1 10 rfl rfl)
theorem dX6_gathers_35 : decode cX6_gathers 35 = .ok (.getfield 78, 3) := dk_180 0 78 (dk_at dksX6_gathers_1 11 rfl rfl)
theorem dX6_gathers_38 : decode cX6_gathers 38 = .ok (.aload_n 2, 1) := dk_44 (dk_at dksX6_gathers_1 14 rfl rfl)
theorem dX6_gathers_39 : decode cX6_gathers 39 = .ok (.getfield 78, 3) := dk_180 0 78 (dk_at dksX6_gathers_1 15 rfl rfl)
theorem dX6_gathers_42 : decode cX6_gathers 42 = .ok (.if_icmp .ne 5, 3) := dk_160 0 5 (dk_at dksX6_gathers_1 18 rfl rfl)
theorem dX6_gathers_45 : decode cX6_gathers 45 = .ok (.iconst 0, 1) := dk_3 (dk_at dksX6_gathers_1 21 rfl rfl)
theorem dX6_gathers_46 : decode cX6_gathers 46 = .ok (.ireturn, 1) := dk_172 (dk_at dksX6_gathers_1 22 rfl rfl)
theorem dX6_gathers_47 : decode cX6_gathers 47 = .ok (.iconst 0, 1) := dk_3 (dk_at dksX6_gathers_1 23 rfl rfl)
theorem dX6_gathers_48 : decode cX6_gathers 48 = .ok (.istore 4, 2) := dk_54 4 (dk_at dksX6_gathers_2 0 rfl rfl)
theorem dX6_gathers_50 : decode cX6_gathers 50 = .ok (.aload_n 3, 1) := dk_45 (dk_at dksX6_gathers_2 2 rfl rfl)
theorem dX6_gathers_51 : decode cX6_gathers 51 = .ok (.getfield 78, 3) := dk_180 0 78 (dk_at dksX6_gathers_2 3 rfl rfl)
theorem dX6_gathers_54 : decode cX6_gathers 54 = .ok (.iconst (-1), 1) := dk_2 (dk_at dksX6_gathers_2 6 rfl rfl)
theorem dX6_gathers_55 : decode cX6_gathers 55 = .ok (.if_icmp .eq 36, 3) := dk_159 0 36 (dk_at dksX6_gathers_2 7 rfl rfl)
theorem dX6_gathers_58 : decode cX6_gathers 58 = .ok (.aload_n 0, 1) := dk_42 (dk_at dksX6_gathers_2 10 rfl rfl)
theorem dX6_gathers_59 : decode cX6_gathers 59 = .ok (.getfield 3, 3) := dk_180 0 3 (dk_at dksX6_gathers_2 11 rfl rfl)
theorem dX6_gathers_62 : decode cX6_gathers 62 = .ok (.aload_n 3, 1) := dk_45 (dk_at dksX6_gathers_2 14 rfl rfl)
theorem dX6_gathers_63 : decode cX6_gathers 63 = .ok (.getfield 78, 3) := dk_180 0 78 (dk_at dksX6_gathers_2 15 rfl rfl)
theorem dX6_gathers_66 : decode cX6_gathers 66 = .ok (.invokevirtual 88, 3) := dk_182 0 88 (dk_at dksX6_gathers_2 18 rfl rfl)
theorem dX6_gathers_69 : decode cX6_gathers 69 = .ok (.ifnonnull 5, 3) := dk_199 0 5 (dk_at dksX6_gathers_2 21 rfl rfl)
theorem dX6_gathers_72 : decode cX6_gathers 72 = .ok (.iconst 0, 1) := dk_3 (dk_at dksX6_gathers_3 0 rfl rfl)
theorem dX6_gathers_73 : decode cX6_gathers 73 = .ok (.ireturn, 1) := dk_172 (dk_at dksX6_gathers_3 1 rfl rfl)
theorem dX6_gathers_74 : decode cX6_gathers 74 = .ok (.aload_n 0, 1) := dk_42 (dk_at dksX6_gathers_3 2 rfl rfl)
theorem dX6_gathers_75 : decode cX6_gathers 75 = .ok (.getfield 3, 3) := dk_180 0 3 (dk_at dksX6_gathers_3 3 rfl rfl)
theorem dX6_gathers_78 : decode cX6_gathers 78 = .ok (.getfield 62, 3) := dk_180 0 62 (dk_at dksX6_gathers_3 6 rfl rfl)
theorem dX6_gathers_81 : decode cX6_gathers 81 = .ok (.aload_n 3, 1) := dk_45 (dk_at dksX6_gathers_3 9 rfl rfl)
theorem dX6_gathers_82 : decode cX6_gathers 82 = .ok (.getfield 78, 3) := dk_180 0 78 (dk_at dksX6_gathers_3 10 rfl rfl)
theorem dX6_gathers_85 : decode cX6_gathers 85 = .ok (.aaload, 1) := dk_50 (dk_at dksX6_gathers_3 13 rfl rfl)
theorem dX6_gathers_86 : decode cX6_gathers 86 = .ok (.getfield 92, 3) := dk_180 0 92 (dk_at dksX6_gathers_3 14 rfl rfl)
theorem dX6_gathers_89 : decode cX6_gathers 89 = .ok (.istore 4, 2) := dk_54 4 (dk_at dksX6_gathers_3 17 rfl rfl)
theorem dX6_gathers_91 : decode cX6_gathers 91 = .ok (.aload_n 0, 1) := dk_42 (dk_at dksX6_gathers_3 19 rfl rfl)
theorem dX6_gathers_92 : decode cX6_gathers 92 = .ok (.getfield 39, 3) := dk_180 0 39 (dk_at dksX6_gathers_3 20 rfl rfl)
theorem dX6_gathers_95 : decode cX6_gathers 95 = .ok (.getfield 81, 3) := dk_180 0 81 (dk_at dksX6_gathers_4 0 rfl rfl)
theorem dX6_gathers_98 : decode cX6_gathers 98 = .ok (.i2l, 1) := dk_133 (dk_at dksX6_gathers_4 3 rfl rfl)
theorem dX6_gathers_99 : decode cX6_gathers 99 = .ok (.ldc2_w 95, 3) := dk_20 0 95 (dk_at dksX6_gathers_4 4 rfl rfl)
theorem dX6_gathers_102 : decode cX6_gathers 102 = .ok (.ldc2_w 97, 3) := dk_20 0 97 (dk_at dksX6_gathers_4 7 rfl rfl)
theorem dX6_gathers_105 : decode cX6_gathers 105 = .ok (.invokestatic 99, 3) := dk_184 0 99 (dk_at dksX6_gathers_4 10 rfl rfl)
theorem dX6_gathers_108 : decode cX6_gathers 108 = .ok (.istore 5, 2) := dk_54 5 (dk_at dksX6_gathers_4 13 rfl rfl)
theorem dX6_gathers_110 : decode cX6_gathers 110 = .ok (.iload_n 1, 1) := dk_27 (dk_at dksX6_gathers_4 15 rfl rfl)
theorem dX6_gathers_111 : decode cX6_gathers 111 = .ok (.iconst 1, 1) := dk_4 (dk_at dksX6_gathers_4 16 rfl rfl)
theorem dX6_gathers_112 : decode cX6_gathers 112 = .ok (.if_icmp .gt 28, 3) := dk_163 0 28 (dk_at dksX6_gathers_4 17 rfl rfl)
theorem dX6_gathers_115 : decode cX6_gathers 115 = .ok (.iload 4, 2) := dk_21 4 (dk_at dksX6_gathers_4 20 rfl rfl)
theorem dX6_gathers_117 : decode cX6_gathers 117 = .ok (.iconst 1, 1) := dk_4 (dk_at dksX6_gathers_4 22 rfl rfl)
theorem dX6_gathers_118 : decode cX6_gathers 118 = .ok (.if_icmp .gt 18, 3) := dk_163 0 18 (dk_at dksX6_gathers_5 0 rfl rfl)
theorem dX6_gathers_121 : decode cX6_gathers 121 = .ok (.iload 5, 2) := dk_21 5 (dk_at dksX6_gathers_5 3 rfl rfl)
theorem dX6_gathers_123 : decode cX6_gathers 123 = .ok (.ifCond .eq 9, 3) := dk_153 0 9 (dk_at dksX6_gathers_5 5 rfl rfl)
theorem dX6_gathers_126 : decode cX6_gathers 126 = .ok (.iload 4, 2) := dk_21 4 (dk_at dksX6_gathers_5 8 rfl rfl)
theorem dX6_gathers_128 : decode cX6_gathers 128 = .ok (.iload_n 1, 1) := dk_27 (dk_at dksX6_gathers_5 10 rfl rfl)
theorem dX6_gathers_129 : decode cX6_gathers 129 = .ok (.if_icmp .gt 7, 3) := dk_163 0 7 (dk_at dksX6_gathers_5 11 rfl rfl)
theorem dX6_gathers_132 : decode cX6_gathers 132 = .ok (.iconst 1, 1) := dk_4 (dk_at dksX6_gathers_5 14 rfl rfl)
theorem dX6_gathers_133 : decode cX6_gathers 133 = .ok (.goto 23, 3) := dk_167 0 23 (dk_at dksX6_gathers_5 15 rfl rfl)
theorem dX6_gathers_136 : decode cX6_gathers 136 = .ok (.iconst 0, 1) := dk_3 (dk_at dksX6_gathers_5 18 rfl rfl)
theorem dX6_gathers_137 : decode cX6_gathers 137 = .ok (.goto 19, 3) := dk_167 0 19 (dk_at dksX6_gathers_5 19 rfl rfl)
theorem dX6_gathers_140 : decode cX6_gathers 140 = .ok (.iload 5, 2) := dk_21 5 (dk_at dksX6_gathers_5 22 rfl rfl)
theorem dX6_gathers_142 : decode cX6_gathers 142 = .ok (.ifCond .eq 13, 3) := dk_153 0 13 (dk_at dksX6_gathers_6 0 rfl rfl)
theorem dX6_gathers_145 : decode cX6_gathers 145 = .ok (.iload 4, 2) := dk_21 4 (dk_at dksX6_gathers_6 3 rfl rfl)
theorem dX6_gathers_147 : decode cX6_gathers 147 = .ok (.iload_n 1, 1) := dk_27 (dk_at dksX6_gathers_6 5 rfl rfl)
theorem dX6_gathers_148 : decode cX6_gathers 148 = .ok (.if_icmp .gt 7, 3) := dk_163 0 7 (dk_at dksX6_gathers_6 6 rfl rfl)
theorem dX6_gathers_151 : decode cX6_gathers 151 = .ok (.iconst 1, 1) := dk_4 (dk_at dksX6_gathers_6 9 rfl rfl)
theorem dX6_gathers_152 : decode cX6_gathers 152 = .ok (.goto 4, 3) := dk_167 0 4 (dk_at dksX6_gathers_6 10 rfl rfl)
theorem dX6_gathers_155 : decode cX6_gathers 155 = .ok (.iconst 0, 1) := dk_3 (dk_at dksX6_gathers_6 13 rfl rfl)
theorem dX6_gathers_156 : decode cX6_gathers 156 = .ok (.istore 6, 2) := dk_54 6 (dk_at dksX6_gathers_6 14 rfl rfl)
theorem dX6_gathers_158 : decode cX6_gathers 158 = .ok (.iload 6, 2) := dk_21 6 (dk_at dksX6_gathers_6 16 rfl rfl)
theorem dX6_gathers_160 : decode cX6_gathers 160 = .ok (.ifCond .eq 13, 3) := dk_153 0 13 (dk_at dksX6_gathers_6 18 rfl rfl)
theorem dX6_gathers_163 : decode cX6_gathers 163 = .ok (.aload_n 0, 1) := dk_42 (dk_at dksX6_gathers_6 21 rfl rfl)
theorem dX6_gathers_164 : decode cX6_gathers 164 = .ok (.getfield 39, 3) := dk_180 0 39 (dk_at dksX6_gathers_7 0 rfl rfl)
theorem dX6_gathers_167 : decode cX6_gathers 167 = .ok (.getfield 81, 3) := dk_180 0 81 (dk_at dksX6_gathers_7 3 rfl rfl)
theorem dX6_gathers_170 : decode cX6_gathers 170 = .ok (.goto 4, 3) := dk_167 0 4 (dk_at dksX6_gathers_7 6 rfl rfl)
theorem dX6_gathers_173 : decode cX6_gathers 173 = .ok (.iconst 0, 1) := dk_3 (dk_at dksX6_gathers_7 9 rfl rfl)
theorem dX6_gathers_174 : decode cX6_gathers 174 = .ok (.ireturn, 1) := dk_172 (dk_at dksX6_gathers_7 10 rfl rfl)
abbrev cX6_doneIn : ByteArray := prog_11_method_9_code
def yX6_doneIn : MethodName := ⟨RX6, "doneIn", "()I"⟩
def dkwX6_doneIn_1 : List UInt8 := [4, 167, 0, 4, 3, 96, 60, 132, 2, 1, 167, 255, 226, 27, 172]
abbrev dktX6_doneIn_1 : List UInt8 := dkwX6_doneIn_1 ++ []
def dkwX6_doneIn_0 : List UInt8 := [3, 60, 3, 61, 28, 42, 180, 0, 3, 180, 0, 107, 162, 0, 25, 27, 42, 28, 182, 0, 110, 153, 0, 7]
abbrev dktX6_doneIn_0 : List UInt8 := dkwX6_doneIn_0 ++ dktX6_doneIn_1
theorem dksX6_doneIn_0 : cX6_doneIn.data.toList.drop 0 = dktX6_doneIn_0 := by decide +kernel
theorem dksX6_doneIn_1 : cX6_doneIn.data.toList.drop 24 = dktX6_doneIn_1 := dk_seg dksX6_doneIn_0 24 rfl rfl
theorem dX6_doneIn_0 : decode cX6_doneIn 0 = .ok (.iconst 0, 1) := dk_3 (dk_at dksX6_doneIn_0 0 rfl rfl)
theorem dX6_doneIn_1 : decode cX6_doneIn 1 = .ok (.istore_n 1, 1) := dk_60 (dk_at dksX6_doneIn_0 1 rfl rfl)
theorem dX6_doneIn_2 : decode cX6_doneIn 2 = .ok (.iconst 0, 1) := dk_3 (dk_at dksX6_doneIn_0 2 rfl rfl)
theorem dX6_doneIn_3 : decode cX6_doneIn 3 = .ok (.istore_n 2, 1) := dk_61 (dk_at dksX6_doneIn_0 3 rfl rfl)
theorem dX6_doneIn_4 : decode cX6_doneIn 4 = .ok (.iload_n 2, 1) := dk_28 (dk_at dksX6_doneIn_0 4 rfl rfl)
theorem dX6_doneIn_5 : decode cX6_doneIn 5 = .ok (.aload_n 0, 1) := dk_42 (dk_at dksX6_doneIn_0 5 rfl rfl)
theorem dX6_doneIn_6 : decode cX6_doneIn 6 = .ok (.getfield 3, 3) := dk_180 0 3 (dk_at dksX6_doneIn_0 6 rfl rfl)
theorem dX6_doneIn_9 : decode cX6_doneIn 9 = .ok (.getfield 107, 3) := dk_180 0 107 (dk_at dksX6_doneIn_0 9 rfl rfl)
theorem dX6_doneIn_12 : decode cX6_doneIn 12 = .ok (.if_icmp .ge 25, 3) := dk_162 0 25 (dk_at dksX6_doneIn_0 12 rfl rfl)
theorem dX6_doneIn_15 : decode cX6_doneIn 15 = .ok (.iload_n 1, 1) := dk_27 (dk_at dksX6_doneIn_0 15 rfl rfl)
theorem dX6_doneIn_16 : decode cX6_doneIn 16 = .ok (.aload_n 0, 1) := dk_42 (dk_at dksX6_doneIn_0 16 rfl rfl)
theorem dX6_doneIn_17 : decode cX6_doneIn 17 = .ok (.iload_n 2, 1) := dk_28 (dk_at dksX6_doneIn_0 17 rfl rfl)
theorem dX6_doneIn_18 : decode cX6_doneIn 18 = .ok (.invokevirtual 110, 3) := dk_182 0 110 (dk_at dksX6_doneIn_0 18 rfl rfl)
theorem dX6_doneIn_21 : decode cX6_doneIn 21 = .ok (.ifCond .eq 7, 3) := dk_153 0 7 (dk_at dksX6_doneIn_0 21 rfl rfl)
theorem dX6_doneIn_24 : decode cX6_doneIn 24 = .ok (.iconst 1, 1) := dk_4 (dk_at dksX6_doneIn_1 0 rfl rfl)
theorem dX6_doneIn_25 : decode cX6_doneIn 25 = .ok (.goto 4, 3) := dk_167 0 4 (dk_at dksX6_doneIn_1 1 rfl rfl)
theorem dX6_doneIn_28 : decode cX6_doneIn 28 = .ok (.iconst 0, 1) := dk_3 (dk_at dksX6_doneIn_1 4 rfl rfl)
theorem dX6_doneIn_29 : decode cX6_doneIn 29 = .ok (.iadd, 1) := dk_96 (dk_at dksX6_doneIn_1 5 rfl rfl)
theorem dX6_doneIn_30 : decode cX6_doneIn 30 = .ok (.istore_n 1, 1) := dk_60 (dk_at dksX6_doneIn_1 6 rfl rfl)
theorem dX6_doneIn_31 : decode cX6_doneIn 31 = .ok (.iinc 2 1, 3) := dk_132 2 1 (dk_at dksX6_doneIn_1 7 rfl rfl)
theorem dX6_doneIn_34 : decode cX6_doneIn 34 = .ok (.goto (-30), 3) := dk_167 255 226 (dk_at dksX6_doneIn_1 10 rfl rfl)
theorem dX6_doneIn_37 : decode cX6_doneIn 37 = .ok (.iload_n 1, 1) := dk_27 (dk_at dksX6_doneIn_1 13 rfl rfl)
theorem dX6_doneIn_38 : decode cX6_doneIn 38 = .ok (.ireturn, 1) := dk_172 (dk_at dksX6_doneIn_1 14 rfl rfl)
abbrev cX6_isDone : ByteArray := prog_11_method_5_code
def yX6_isDone : MethodName := ⟨RX6, "isDone", "(I)Z"⟩
def dkwX6_isDone_2 : List UInt8 := [180, 0, 28, 50, 27, 182, 0, 66, 153, 0, 7, 4, 167, 0, 4, 3, 172]
abbrev dktX6_isDone_2 : List UInt8 := dkwX6_isDone_2 ++ []
def dkwX6_isDone_1 : List UInt8 := [180, 0, 3, 180, 0, 62, 42, 180, 0, 28, 50, 198, 0, 26, 42, 180, 0, 3, 180, 0, 62, 42]
abbrev dktX6_isDone_1 : List UInt8 := dkwX6_isDone_1 ++ dktX6_isDone_2
def dkwX6_isDone_0 : List UInt8 := [42, 180, 0, 35, 27, 185, 0, 57, 2, 0, 153, 0, 49, 42, 180, 0, 28, 2, 159, 0, 37, 42]
abbrev dktX6_isDone_0 : List UInt8 := dkwX6_isDone_0 ++ dktX6_isDone_1
theorem dksX6_isDone_0 : cX6_isDone.data.toList.drop 0 = dktX6_isDone_0 := by decide +kernel
theorem dksX6_isDone_1 : cX6_isDone.data.toList.drop 22 = dktX6_isDone_1 := dk_seg dksX6_isDone_0 22 rfl rfl
theorem dksX6_isDone_2 : cX6_isDone.data.toList.drop 44 = dktX6_isDone_2 := dk_seg dksX6_isDone_1 22 rfl rfl
theorem dX6_isDone_0 : decode cX6_isDone 0 = .ok (.aload_n 0, 1) := dk_42 (dk_at dksX6_isDone_0 0 rfl rfl)
theorem dX6_isDone_1 : decode cX6_isDone 1 = .ok (.getfield 35, 3) := dk_180 0 35 (dk_at dksX6_isDone_0 1 rfl rfl)
theorem dX6_isDone_4 : decode cX6_isDone 4 = .ok (.iload_n 1, 1) := dk_27 (dk_at dksX6_isDone_0 4 rfl rfl)
theorem dX6_isDone_5 : decode cX6_isDone 5 = .ok (.invokeinterface 57 2, 5) := by decide +kernel
theorem dX6_isDone_10 : decode cX6_isDone 10 = .ok (.ifCond .eq 49, 3) := dk_153 0 49 (dk_at dksX6_isDone_0 10 rfl rfl)
theorem dX6_isDone_13 : decode cX6_isDone 13 = .ok (.aload_n 0, 1) := dk_42 (dk_at dksX6_isDone_0 13 rfl rfl)
theorem dX6_isDone_14 : decode cX6_isDone 14 = .ok (.getfield 28, 3) := dk_180 0 28 (dk_at dksX6_isDone_0 14 rfl rfl)
theorem dX6_isDone_17 : decode cX6_isDone 17 = .ok (.iconst (-1), 1) := dk_2 (dk_at dksX6_isDone_0 17 rfl rfl)
theorem dX6_isDone_18 : decode cX6_isDone 18 = .ok (.if_icmp .eq 37, 3) := dk_159 0 37 (dk_at dksX6_isDone_0 18 rfl rfl)
theorem dX6_isDone_21 : decode cX6_isDone 21 = .ok (.aload_n 0, 1) := dk_42 (dk_at dksX6_isDone_0 21 rfl rfl)
theorem dX6_isDone_22 : decode cX6_isDone 22 = .ok (.getfield 3, 3) := dk_180 0 3 (dk_at dksX6_isDone_1 0 rfl rfl)
theorem dX6_isDone_25 : decode cX6_isDone 25 = .ok (.getfield 62, 3) := dk_180 0 62 (dk_at dksX6_isDone_1 3 rfl rfl)
theorem dX6_isDone_28 : decode cX6_isDone 28 = .ok (.aload_n 0, 1) := dk_42 (dk_at dksX6_isDone_1 6 rfl rfl)
theorem dX6_isDone_29 : decode cX6_isDone 29 = .ok (.getfield 28, 3) := dk_180 0 28 (dk_at dksX6_isDone_1 7 rfl rfl)
theorem dX6_isDone_32 : decode cX6_isDone 32 = .ok (.aaload, 1) := dk_50 (dk_at dksX6_isDone_1 10 rfl rfl)
theorem dX6_isDone_33 : decode cX6_isDone 33 = .ok (.ifnull 26, 3) := dk_198 0 26 (dk_at dksX6_isDone_1 11 rfl rfl)
theorem dX6_isDone_36 : decode cX6_isDone 36 = .ok (.aload_n 0, 1) := dk_42 (dk_at dksX6_isDone_1 14 rfl rfl)
theorem dX6_isDone_37 : decode cX6_isDone 37 = .ok (.getfield 3, 3) := dk_180 0 3 (dk_at dksX6_isDone_1 15 rfl rfl)
theorem dX6_isDone_40 : decode cX6_isDone 40 = .ok (.getfield 62, 3) := dk_180 0 62 (dk_at dksX6_isDone_1 18 rfl rfl)
theorem dX6_isDone_43 : decode cX6_isDone 43 = .ok (.aload_n 0, 1) := dk_42 (dk_at dksX6_isDone_1 21 rfl rfl)
theorem dX6_isDone_44 : decode cX6_isDone 44 = .ok (.getfield 28, 3) := dk_180 0 28 (dk_at dksX6_isDone_2 0 rfl rfl)
theorem dX6_isDone_47 : decode cX6_isDone 47 = .ok (.aaload, 1) := dk_50 (dk_at dksX6_isDone_2 3 rfl rfl)
theorem dX6_isDone_48 : decode cX6_isDone 48 = .ok (.iload_n 1, 1) := dk_27 (dk_at dksX6_isDone_2 4 rfl rfl)
theorem dX6_isDone_49 : decode cX6_isDone 49 = .ok (.invokevirtual 66, 3) := dk_182 0 66 (dk_at dksX6_isDone_2 5 rfl rfl)
theorem dX6_isDone_52 : decode cX6_isDone 52 = .ok (.ifCond .eq 7, 3) := dk_153 0 7 (dk_at dksX6_isDone_2 8 rfl rfl)
theorem dX6_isDone_55 : decode cX6_isDone 55 = .ok (.iconst 1, 1) := dk_4 (dk_at dksX6_isDone_2 11 rfl rfl)
theorem dX6_isDone_56 : decode cX6_isDone 56 = .ok (.goto 4, 3) := dk_167 0 4 (dk_at dksX6_isDone_2 12 rfl rfl)
theorem dX6_isDone_59 : decode cX6_isDone 59 = .ok (.iconst 0, 1) := dk_3 (dk_at dksX6_isDone_2 15 rfl rfl)
theorem dX6_isDone_60 : decode cX6_isDone 60 = .ok (.ireturn, 1) := dk_172 (dk_at dksX6_isDone_2 16 rfl rfl)
abbrev cX6_looks : ByteArray := prog_11_method_4_code
def yX6_looks : MethodName := ⟨RX6, "looks", "(I)Z"⟩
def dkwX6_looks_0 : List UInt8 := [27, 5, 160, 0, 15, 42, 180, 0, 39, 180, 0, 52, 16, 9, 159, 0, 7, 4, 167, 0, 4, 3, 172]
abbrev dktX6_looks_0 : List UInt8 := dkwX6_looks_0 ++ []
theorem dksX6_looks_0 : cX6_looks.data.toList.drop 0 = dktX6_looks_0 := by decide +kernel
theorem dX6_looks_0 : decode cX6_looks 0 = .ok (.iload_n 1, 1) := dk_27 (dk_at dksX6_looks_0 0 rfl rfl)
theorem dX6_looks_1 : decode cX6_looks 1 = .ok (.iconst 2, 1) := dk_5 (dk_at dksX6_looks_0 1 rfl rfl)
theorem dX6_looks_2 : decode cX6_looks 2 = .ok (.if_icmp .ne 15, 3) := dk_160 0 15 (dk_at dksX6_looks_0 2 rfl rfl)
theorem dX6_looks_5 : decode cX6_looks 5 = .ok (.aload_n 0, 1) := dk_42 (dk_at dksX6_looks_0 5 rfl rfl)
theorem dX6_looks_6 : decode cX6_looks 6 = .ok (.getfield 39, 3) := dk_180 0 39 (dk_at dksX6_looks_0 6 rfl rfl)
theorem dX6_looks_9 : decode cX6_looks 9 = .ok (.getfield 52, 3) := dk_180 0 52 (dk_at dksX6_looks_0 9 rfl rfl)
theorem dX6_looks_12 : decode cX6_looks 12 = .ok (.bipush 9, 2) := dk_16 9 (dk_at dksX6_looks_0 12 rfl rfl)
theorem dX6_looks_14 : decode cX6_looks 14 = .ok (.if_icmp .eq 7, 3) := dk_159 0 7 (dk_at dksX6_looks_0 14 rfl rfl)
theorem dX6_looks_17 : decode cX6_looks 17 = .ok (.iconst 1, 1) := dk_4 (dk_at dksX6_looks_0 17 rfl rfl)
theorem dX6_looks_18 : decode cX6_looks 18 = .ok (.goto 4, 3) := dk_167 0 4 (dk_at dksX6_looks_0 18 rfl rfl)
theorem dX6_looks_21 : decode cX6_looks 21 = .ok (.iconst 0, 1) := dk_3 (dk_at dksX6_looks_0 21 rfl rfl)
theorem dX6_looks_22 : decode cX6_looks 22 = .ok (.ireturn, 1) := dk_172 (dk_at dksX6_looks_0 22 rfl rfl)
abbrev cX6_isOf : ByteArray := prog_11_method_6_code
def yX6_isOf : MethodName := ⟨RX6, "isOf", "(I)Z"⟩
def dkwX6_isOf_1 : List UInt8 := [160, 0, 5, 4, 172, 132, 2, 1, 167, 255, 226, 3, 172]
abbrev dktX6_isOf_1 : List UInt8 := dkwX6_isOf_1 ++ []
def dkwX6_isOf_0 : List UInt8 := [3, 61, 28, 5, 163, 0, 31, 42, 28, 182, 0, 71, 153, 0, 17, 42, 28, 182, 0, 74, 180, 0, 78, 27]
abbrev dktX6_isOf_0 : List UInt8 := dkwX6_isOf_0 ++ dktX6_isOf_1
theorem dksX6_isOf_0 : cX6_isOf.data.toList.drop 0 = dktX6_isOf_0 := by decide +kernel
theorem dksX6_isOf_1 : cX6_isOf.data.toList.drop 24 = dktX6_isOf_1 := dk_seg dksX6_isOf_0 24 rfl rfl
theorem dX6_isOf_0 : decode cX6_isOf 0 = .ok (.iconst 0, 1) := dk_3 (dk_at dksX6_isOf_0 0 rfl rfl)
theorem dX6_isOf_1 : decode cX6_isOf 1 = .ok (.istore_n 2, 1) := dk_61 (dk_at dksX6_isOf_0 1 rfl rfl)
theorem dX6_isOf_2 : decode cX6_isOf 2 = .ok (.iload_n 2, 1) := dk_28 (dk_at dksX6_isOf_0 2 rfl rfl)
theorem dX6_isOf_3 : decode cX6_isOf 3 = .ok (.iconst 2, 1) := dk_5 (dk_at dksX6_isOf_0 3 rfl rfl)
theorem dX6_isOf_4 : decode cX6_isOf 4 = .ok (.if_icmp .gt 31, 3) := dk_163 0 31 (dk_at dksX6_isOf_0 4 rfl rfl)
theorem dX6_isOf_7 : decode cX6_isOf 7 = .ok (.aload_n 0, 1) := dk_42 (dk_at dksX6_isOf_0 7 rfl rfl)
theorem dX6_isOf_8 : decode cX6_isOf 8 = .ok (.iload_n 2, 1) := dk_28 (dk_at dksX6_isOf_0 8 rfl rfl)
theorem dX6_isOf_9 : decode cX6_isOf 9 = .ok (.invokevirtual 71, 3) := dk_182 0 71 (dk_at dksX6_isOf_0 9 rfl rfl)
theorem dX6_isOf_12 : decode cX6_isOf 12 = .ok (.ifCond .eq 17, 3) := dk_153 0 17 (dk_at dksX6_isOf_0 12 rfl rfl)
theorem dX6_isOf_15 : decode cX6_isOf 15 = .ok (.aload_n 0, 1) := dk_42 (dk_at dksX6_isOf_0 15 rfl rfl)
theorem dX6_isOf_16 : decode cX6_isOf 16 = .ok (.iload_n 2, 1) := dk_28 (dk_at dksX6_isOf_0 16 rfl rfl)
theorem dX6_isOf_17 : decode cX6_isOf 17 = .ok (.invokevirtual 74, 3) := dk_182 0 74 (dk_at dksX6_isOf_0 17 rfl rfl)
theorem dX6_isOf_20 : decode cX6_isOf 20 = .ok (.getfield 78, 3) := dk_180 0 78 (dk_at dksX6_isOf_0 20 rfl rfl)
theorem dX6_isOf_23 : decode cX6_isOf 23 = .ok (.iload_n 1, 1) := dk_27 (dk_at dksX6_isOf_0 23 rfl rfl)
theorem dX6_isOf_24 : decode cX6_isOf 24 = .ok (.if_icmp .ne 5, 3) := dk_160 0 5 (dk_at dksX6_isOf_1 0 rfl rfl)
theorem dX6_isOf_27 : decode cX6_isOf 27 = .ok (.iconst 1, 1) := dk_4 (dk_at dksX6_isOf_1 3 rfl rfl)
theorem dX6_isOf_28 : decode cX6_isOf 28 = .ok (.ireturn, 1) := dk_172 (dk_at dksX6_isOf_1 4 rfl rfl)
theorem dX6_isOf_29 : decode cX6_isOf 29 = .ok (.iinc 2 1, 3) := dk_132 2 1 (dk_at dksX6_isOf_1 5 rfl rfl)
theorem dX6_isOf_32 : decode cX6_isOf 32 = .ok (.goto (-30), 3) := dk_167 255 226 (dk_at dksX6_isOf_1 8 rfl rfl)
theorem dX6_isOf_35 : decode cX6_isOf 35 = .ok (.iconst 0, 1) := dk_3 (dk_at dksX6_isOf_1 11 rfl rfl)
theorem dX6_isOf_36 : decode cX6_isOf 36 = .ok (.ireturn, 1) := dk_172 (dk_at dksX6_isOf_1 12 rfl rfl)
theorem q176 : (Jvm.Cond.initialized "StrideTurns$Statement") ∈ lw_all := lw_g (lw_at lw_m1 43 rfl) rfl
theorem q251 : (Jvm.Cond.fieldLinkNest "StrideTurns$Statement" (52 : Nat) "StrideTurns$Deed" "number" "I" "StrideTurns") ∈ lw_tbl := lw_at lw_m1 118 rfl
theorem q254 : (Jvm.Cond.fieldLinkNest "StrideTurns$Statement" (81 : Nat) "StrideTurns$Deed" "family" "I" "StrideTurns") ∈ lw_tbl := lw_at lw_m1 121 rfl
theorem q298 : (Jvm.Cond.selects "StrideTurns$Statement" ({ cls := "java/lang/Object", name := "hashCode", desc := "()I" } : Jvm.MethodName) ({ cls := "java/lang/Object", name := "hashCode", desc := "()I" } : Jvm.MethodName)) ∈ lw_all := lw_g (lw_at lw_m1 165 rfl) rfl
theorem q492 : (Jvm.Cond.selects "StrideTurns$Statement" ({ cls := "java/lang/Object", name := "getClass", desc := "()Ljava/lang/Class;" } : Jvm.MethodName) ({ cls := "java/lang/Object", name := "getClass", desc := "()Ljava/lang/Class;" } : Jvm.MethodName)) ∈ lw_all := lw_g (lw_at lw_m2 119 rfl) rfl
theorem q762 : (Jvm.Cond.selects "StrideTurns$Statement" ({ cls := "java/lang/Object", name := "equals", desc := "(Ljava/lang/Object;)Z" } : Jvm.MethodName) ({ cls := "java/lang/Object", name := "equals", desc := "(Ljava/lang/Object;)Z" } : Jvm.MethodName)) ∈ lw_all := lw_g (lw_at lw_m3 149 rfl) rfl
theorem q1113 : (Jvm.Cond.fieldLinkNest "StrideTurns$Statement" (62 : Nat) "StrideTurns" "rows" "[LStrideTurns$Row;" "StrideTurns") ∈ lw_tbl := lw_at lw_m5 20 rfl
theorem q1117 : (Jvm.Cond.fieldLinkNest "StrideTurns$Statement" (107 : Nat) "StrideTurns" "n" "I" "StrideTurns") ∈ lw_tbl := lw_at lw_m5 24 rfl
theorem q1228 : (Jvm.Cond.fieldLinkNest "StrideTurns$Statement" (92 : Nat) "StrideTurns$Row" "form" "I" "StrideTurns") ∈ lw_tbl := lw_at lw_m5 135 rfl
theorem q1652 : (Jvm.Cond.instantiable "StrideTurns$Statement" (8 : Nat)) ∈ lw_all := lw_g (lw_at lw_m7 79 rfl) rfl
theorem q1654 : (Jvm.Cond.instanceMethod ({ cls := "StrideTurns$Statement", name := "<init>", desc := "(LStrideTurns;LStrideTurns$Deed;I)V" } : Jvm.MethodName)) ∈ lw_all := lw_g (lw_at lw_m7 81 rfl) rfl
theorem q1655 : (Jvm.Cond.code ({ cls := "StrideTurns$Statement", name := "<init>", desc := "(LStrideTurns;LStrideTurns$Deed;I)V" } : Jvm.MethodName) prog_11_method_1_code (4 : Nat) (Option.none : Option Jvm.ClassFile.FieldType)) ∈ lw_all := lw_g (lw_at lw_m7 82 rfl) rfl
theorem q1656 : (Jvm.Cond.methodLink "StrideTurns$Statement" (9 : Nat) ({ cls := "java/lang/Object", name := "<init>", desc := "()V" } : Jvm.MethodName)) ∈ lw_all := lw_g (lw_at lw_m7 83 rfl) rfl
theorem q1657 : (Jvm.Cond.classLink "StrideTurns$Statement" (15 : Nat) "StrideTurns$Reference") ∈ lw_all := lw_g (lw_at lw_m7 84 rfl) rfl
theorem q1660 : (Jvm.Cond.methodLink "StrideTurns$Statement" (17 : Nat) ({ cls := "StrideTurns$Reference", name := "<init>", desc := "(I)V" } : Jvm.MethodName)) ∈ lw_all := lw_g (lw_at lw_m7 87 rfl) rfl
theorem q1668 : (Jvm.Cond.fieldLinkNest "StrideTurns$Statement" (78 : Nat) "StrideTurns$Reference" "row" "I" "StrideTurns") ∈ lw_tbl := lw_at lw_m7 95 rfl
theorem q1692 : (Jvm.Cond.static ({ cls := "StrideTurns$Statement", name := "lambda$new$0", desc := "(I)Z" } : Jvm.MethodName)) ∈ lw_all := lw_g (lw_at lw_m7 119 rfl) rfl
theorem q1693 : (Jvm.Cond.code ({ cls := "StrideTurns$Statement", name := "lambda$new$0", desc := "(I)Z" } : Jvm.MethodName) prog_11_method_12_code (1 : Nat) (Option.some Jvm.ClassFile.FieldType.boolean)) ∈ lw_all := lw_g (lw_at lw_m7 120 rfl) rfl
theorem q1694 : (Jvm.Cond.fieldLink "StrideTurns$Statement" (39 : Nat) "StrideTurns$Statement" "deed" "LStrideTurns$Deed;") ∈ lw_all := lw_g (lw_at lw_m7 121 rfl) rfl
theorem q1697 : (Jvm.Cond.fieldLink "StrideTurns$Statement" (43 : Nat) "StrideTurns$Statement" "count" "I") ∈ lw_all := lw_g (lw_at lw_m7 124 rfl) rfl
theorem q1700 : (Jvm.Cond.fieldLink "StrideTurns$Statement" (20 : Nat) "StrideTurns$Statement" "references" "[LStrideTurns$Reference;") ∈ lw_all := lw_g (lw_at lw_m7 127 rfl) rfl
theorem q1701 : (Jvm.Cond.fieldLink "StrideTurns$Statement" (24 : Nat) "StrideTurns$Statement" "period" "I") ∈ lw_all := lw_g (lw_at lw_m7 128 rfl) rfl
theorem q1703 : (Jvm.Cond.fieldLink "StrideTurns$Statement" (46 : Nat) "StrideTurns$Statement" "phase" "I") ∈ lw_all := lw_g (lw_at lw_m7 130 rfl) rfl
theorem q1705 : (Jvm.Cond.fieldLink "StrideTurns$Statement" (28 : Nat) "StrideTurns$Statement" "mask" "I") ∈ lw_all := lw_g (lw_at lw_m7 132 rfl) rfl
theorem q1707 : (Jvm.Cond.fieldLink "StrideTurns$Statement" (35 : Nat) "StrideTurns$Statement" "when" "LStrideTurns$When;") ∈ lw_all := lw_g (lw_at lw_m7 134 rfl) rfl
theorem q1708 : (Jvm.Cond.fieldLink "StrideTurns$Statement" (3 : Nat) "StrideTurns$Statement" "this$0" "LStrideTurns;") ∈ lw_all := lw_g (lw_at lw_m7 135 rfl) rfl
theorem q1709 : (Jvm.Cond.laysFinal "StrideTurns$Statement" "StrideTurns$Statement" "deed" "LStrideTurns$Deed;") ∈ lw_all := lw_g (lw_at lw_m7 136 rfl) rfl
theorem q1710 : (Jvm.Cond.soleField "StrideTurns$Statement" "deed") ∈ lw_all := lw_g (lw_at lw_m7 137 rfl) rfl
theorem q1711 : (Jvm.Cond.laysFinal "StrideTurns$Statement" "StrideTurns$Statement" "count" "I") ∈ lw_all := lw_g (lw_at lw_m7 138 rfl) rfl
theorem q1712 : (Jvm.Cond.soleField "StrideTurns$Statement" "count") ∈ lw_all := lw_g (lw_at lw_m7 139 rfl) rfl
theorem q1713 : (Jvm.Cond.laysFinal "StrideTurns$Statement" "StrideTurns$Statement" "references" "[LStrideTurns$Reference;") ∈ lw_all := lw_g (lw_at lw_m7 140 rfl) rfl
theorem q1714 : (Jvm.Cond.soleField "StrideTurns$Statement" "references") ∈ lw_all := lw_g (lw_at lw_m7 141 rfl) rfl
theorem q1715 : (Jvm.Cond.lays "StrideTurns$Statement" "StrideTurns$Statement" "period" "I") ∈ lw_all := lw_g (lw_at lw_m7 142 rfl) rfl
theorem q1716 : (Jvm.Cond.soleField "StrideTurns$Statement" "period") ∈ lw_all := lw_g (lw_at lw_m7 143 rfl) rfl
theorem q1717 : (Jvm.Cond.lays "StrideTurns$Statement" "StrideTurns$Statement" "phase" "I") ∈ lw_all := lw_g (lw_at lw_m7 144 rfl) rfl
theorem q1718 : (Jvm.Cond.soleField "StrideTurns$Statement" "phase") ∈ lw_all := lw_g (lw_at lw_m7 145 rfl) rfl
theorem q1719 : (Jvm.Cond.lays "StrideTurns$Statement" "StrideTurns$Statement" "mask" "I") ∈ lw_all := lw_g (lw_at lw_m7 146 rfl) rfl
theorem q1720 : (Jvm.Cond.soleField "StrideTurns$Statement" "mask") ∈ lw_all := lw_g (lw_at lw_m7 147 rfl) rfl
theorem q1721 : (Jvm.Cond.lays "StrideTurns$Statement" "StrideTurns$Statement" "when" "LStrideTurns$When;") ∈ lw_all := lw_g (lw_at lw_m7 148 rfl) rfl
theorem q1722 : (Jvm.Cond.soleField "StrideTurns$Statement" "when") ∈ lw_all := lw_g (lw_at lw_m7 149 rfl) rfl
theorem q1723 : (Jvm.Cond.laysFinal "StrideTurns$Statement" "StrideTurns$Statement" "this$0" "LStrideTurns;") ∈ lw_all := lw_g (lw_at lw_m7 150 rfl) rfl
theorem q1724 : (Jvm.Cond.soleField "StrideTurns$Statement" "this$0") ∈ lw_all := lw_g (lw_at lw_m7 151 rfl) rfl
theorem q1725 : (Jvm.Cond.superclass "StrideTurns$Statement" "java/lang/Object") ∈ lw_all := lw_g (lw_at lw_m7 152 rfl) rfl
theorem q1785 : (Jvm.Cond.instanceMethod ({ cls := "StrideTurns$Statement", name := "at", desc := "(I)LStrideTurns$Reference;" } : Jvm.MethodName)) ∈ lw_all := lw_g (lw_at lw_m7 212 rfl) rfl
theorem q1786 : (Jvm.Cond.selects "StrideTurns$Statement" ({ cls := "StrideTurns$Statement", name := "at", desc := "(I)LStrideTurns$Reference;" } : Jvm.MethodName) ({ cls := "StrideTurns$Statement", name := "at", desc := "(I)LStrideTurns$Reference;" } : Jvm.MethodName)) ∈ lw_all := lw_g (lw_at lw_m7 213 rfl) rfl
theorem q1787 : (Jvm.Cond.code ({ cls := "StrideTurns$Statement", name := "at", desc := "(I)LStrideTurns$Reference;" } : Jvm.MethodName) prog_11_method_2_code (2 : Nat) (Option.some (Jvm.ClassFile.FieldType.object "StrideTurns$Reference"))) ∈ lw_all := lw_g (lw_at lw_m7 214 rfl) rfl
theorem q1811 : (Jvm.Cond.instanceMethod ({ cls := "StrideTurns$Statement", name := "waits", desc := "(II)V" } : Jvm.MethodName)) ∈ lw_all := lw_g (lw_at lw_m7 238 rfl) rfl
theorem q1812 : (Jvm.Cond.selects "StrideTurns$Statement" ({ cls := "StrideTurns$Statement", name := "waits", desc := "(II)V" } : Jvm.MethodName) ({ cls := "StrideTurns$Statement", name := "waits", desc := "(II)V" } : Jvm.MethodName)) ∈ lw_all := lw_g (lw_at lw_m7 239 rfl) rfl
theorem q1813 : (Jvm.Cond.code ({ cls := "StrideTurns$Statement", name := "waits", desc := "(II)V" } : Jvm.MethodName) prog_11_method_3_code (3 : Nat) (Option.none : Option Jvm.ClassFile.FieldType)) ∈ lw_all := lw_g (lw_at lw_m8 0 rfl) rfl
theorem q1814 : (Jvm.Cond.static ({ cls := "StrideTurns$Statement", name := "lambda$waits$1", desc := "(III)Z" } : Jvm.MethodName)) ∈ lw_all := lw_g (lw_at lw_m8 1 rfl) rfl
theorem q1815 : (Jvm.Cond.code ({ cls := "StrideTurns$Statement", name := "lambda$waits$1", desc := "(III)Z" } : Jvm.MethodName) prog_11_method_11_code (3 : Nat) (Option.some Jvm.ClassFile.FieldType.boolean)) ∈ lw_all := lw_g (lw_at lw_m8 2 rfl) rfl
theorem q1845 : (Jvm.Cond.instanceMethod ({ cls := "StrideTurns$Statement", name := "tells", desc := "(I)I" } : Jvm.MethodName)) ∈ lw_all := lw_g (lw_at lw_m8 32 rfl) rfl
theorem q1846 : (Jvm.Cond.selects "StrideTurns$Statement" ({ cls := "StrideTurns$Statement", name := "tells", desc := "(I)I" } : Jvm.MethodName) ({ cls := "StrideTurns$Statement", name := "tells", desc := "(I)I" } : Jvm.MethodName)) ∈ lw_all := lw_g (lw_at lw_m8 33 rfl) rfl
theorem q1847 : (Jvm.Cond.code ({ cls := "StrideTurns$Statement", name := "tells", desc := "(I)I" } : Jvm.MethodName) prog_11_method_10_code (2 : Nat) (Option.some Jvm.ClassFile.FieldType.int)) ∈ lw_all := lw_g (lw_at lw_m8 34 rfl) rfl
theorem q1848 : (Jvm.Cond.methodLink "StrideTurns$Statement" (113 : Nat) ({ cls := "StrideTurns$Statement", name := "family", desc := "()I" } : Jvm.MethodName)) ∈ lw_all := lw_g (lw_at lw_m8 35 rfl) rfl
theorem q1849 : (Jvm.Cond.instanceMethod ({ cls := "StrideTurns$Statement", name := "family", desc := "()I" } : Jvm.MethodName)) ∈ lw_all := lw_g (lw_at lw_m8 36 rfl) rfl
theorem q1850 : (Jvm.Cond.selects "StrideTurns$Statement" ({ cls := "StrideTurns$Statement", name := "family", desc := "()I" } : Jvm.MethodName) ({ cls := "StrideTurns$Statement", name := "family", desc := "()I" } : Jvm.MethodName)) ∈ lw_all := lw_g (lw_at lw_m8 37 rfl) rfl
theorem q1851 : (Jvm.Cond.code ({ cls := "StrideTurns$Statement", name := "family", desc := "()I" } : Jvm.MethodName) prog_11_method_8_code (2 : Nat) (Option.some Jvm.ClassFile.FieldType.int)) ∈ lw_all := lw_g (lw_at lw_m8 38 rfl) rfl
theorem q1852 : (Jvm.Cond.methodLink "StrideTurns$Statement" (74 : Nat) ({ cls := "StrideTurns$Statement", name := "at", desc := "(I)LStrideTurns$Reference;" } : Jvm.MethodName)) ∈ lw_all := lw_g (lw_at lw_m8 39 rfl) rfl
theorem q1853 : (Jvm.Cond.methodLinkNest "StrideTurns$Statement" (88 : Nat) ({ cls := "StrideTurns", name := "numbers", desc := "(I)LStrideTurns$Row;" } : Jvm.MethodName) "StrideTurns") ∈ lw_tbl := lw_at lw_m8 40 rfl
theorem q1861 : (Jvm.Cond.methodLink "StrideTurns$Statement" (103 : Nat) ({ cls := "StrideTurns$Statement", name := "gathers", desc := "(I)I" } : Jvm.MethodName)) ∈ lw_all := lw_g (lw_at lw_m8 48 rfl) rfl
theorem q1862 : (Jvm.Cond.instanceMethod ({ cls := "StrideTurns$Statement", name := "gathers", desc := "(I)I" } : Jvm.MethodName)) ∈ lw_all := lw_g (lw_at lw_m8 49 rfl) rfl
theorem q1863 : (Jvm.Cond.selects "StrideTurns$Statement" ({ cls := "StrideTurns$Statement", name := "gathers", desc := "(I)I" } : Jvm.MethodName) ({ cls := "StrideTurns$Statement", name := "gathers", desc := "(I)I" } : Jvm.MethodName)) ∈ lw_all := lw_g (lw_at lw_m8 50 rfl) rfl
theorem q1864 : (Jvm.Cond.code ({ cls := "StrideTurns$Statement", name := "gathers", desc := "(I)I" } : Jvm.MethodName) prog_11_method_7_code (7 : Nat) (Option.some Jvm.ClassFile.FieldType.int)) ∈ lw_all := lw_g (lw_at lw_m8 51 rfl) rfl
theorem q1865 : (Jvm.Cond.methodLink "StrideTurns$Statement" (84 : Nat) ({ cls := "StrideTurns$Reference", name := "isAlike", desc := "(LStrideTurns$Reference;)Z" } : Jvm.MethodName)) ∈ lw_all := lw_g (lw_at lw_m8 52 rfl) rfl
theorem q1869 : (Jvm.Cond.constantLong "StrideTurns$Statement" (95 : Nat) (3 : Int64)) ∈ lw_all := lw_g (lw_at lw_m8 56 rfl) rfl
theorem q1870 : (Jvm.Cond.constantLong "StrideTurns$Statement" (97 : Nat) (4 : Int64)) ∈ lw_all := lw_g (lw_at lw_m8 57 rfl) rfl
theorem q1871 : (Jvm.Cond.methodLinkNest "StrideTurns$Statement" (99 : Nat) ({ cls := "StrideTurns", name := "in", desc := "(JJJ)Z" } : Jvm.MethodName) "StrideTurns") ∈ lw_tbl := lw_at lw_m8 58 rfl
theorem q1872 : (Jvm.Cond.methodLink "StrideTurns$Statement" (116 : Nat) ({ cls := "StrideTurns$Statement", name := "doneIn", desc := "()I" } : Jvm.MethodName)) ∈ lw_all := lw_g (lw_at lw_m8 59 rfl) rfl
theorem q1873 : (Jvm.Cond.instanceMethod ({ cls := "StrideTurns$Statement", name := "doneIn", desc := "()I" } : Jvm.MethodName)) ∈ lw_all := lw_g (lw_at lw_m8 60 rfl) rfl
theorem q1874 : (Jvm.Cond.selects "StrideTurns$Statement" ({ cls := "StrideTurns$Statement", name := "doneIn", desc := "()I" } : Jvm.MethodName) ({ cls := "StrideTurns$Statement", name := "doneIn", desc := "()I" } : Jvm.MethodName)) ∈ lw_all := lw_g (lw_at lw_m8 61 rfl) rfl
theorem q1875 : (Jvm.Cond.code ({ cls := "StrideTurns$Statement", name := "doneIn", desc := "()I" } : Jvm.MethodName) prog_11_method_9_code (3 : Nat) (Option.some Jvm.ClassFile.FieldType.int)) ∈ lw_all := lw_g (lw_at lw_m8 62 rfl) rfl
theorem q1876 : (Jvm.Cond.methodLink "StrideTurns$Statement" (110 : Nat) ({ cls := "StrideTurns$Statement", name := "isDone", desc := "(I)Z" } : Jvm.MethodName)) ∈ lw_all := lw_g (lw_at lw_m8 63 rfl) rfl
theorem q1877 : (Jvm.Cond.instanceMethod ({ cls := "StrideTurns$Statement", name := "isDone", desc := "(I)Z" } : Jvm.MethodName)) ∈ lw_all := lw_g (lw_at lw_m8 64 rfl) rfl
theorem q1878 : (Jvm.Cond.selects "StrideTurns$Statement" ({ cls := "StrideTurns$Statement", name := "isDone", desc := "(I)Z" } : Jvm.MethodName) ({ cls := "StrideTurns$Statement", name := "isDone", desc := "(I)Z" } : Jvm.MethodName)) ∈ lw_all := lw_g (lw_at lw_m8 65 rfl) rfl
theorem q1879 : (Jvm.Cond.code ({ cls := "StrideTurns$Statement", name := "isDone", desc := "(I)Z" } : Jvm.MethodName) prog_11_method_5_code (2 : Nat) (Option.some Jvm.ClassFile.FieldType.boolean)) ∈ lw_all := lw_g (lw_at lw_m8 66 rfl) rfl
theorem q1880 : (Jvm.Cond.interfaceEntry "StrideTurns$Statement" (57 : Nat)) ∈ lw_tbl := lw_at lw_m8 67 rfl
theorem q1881 : (Jvm.Cond.methodLink "StrideTurns$Statement" (57 : Nat) ({ cls := "StrideTurns$When", name := "is", desc := "(I)Z" } : Jvm.MethodName)) ∈ lw_all := lw_g (lw_at lw_m8 68 rfl) rfl
theorem q1884 : (Jvm.Cond.methodLink "StrideTurns$Statement" (66 : Nat) ({ cls := "StrideTurns$Row", name := "isTrue", desc := "(I)Z" } : Jvm.MethodName)) ∈ lw_all := lw_g (lw_at lw_m8 71 rfl) rfl
theorem q2015 : (Jvm.Cond.instanceMethod ({ cls := "StrideTurns$Statement", name := "looks", desc := "(I)Z" } : Jvm.MethodName)) ∈ lw_all := lw_g (lw_at lw_m8 202 rfl) rfl
theorem q2016 : (Jvm.Cond.selects "StrideTurns$Statement" ({ cls := "StrideTurns$Statement", name := "looks", desc := "(I)Z" } : Jvm.MethodName) ({ cls := "StrideTurns$Statement", name := "looks", desc := "(I)Z" } : Jvm.MethodName)) ∈ lw_all := lw_g (lw_at lw_m8 203 rfl) rfl
theorem q2017 : (Jvm.Cond.code ({ cls := "StrideTurns$Statement", name := "looks", desc := "(I)Z" } : Jvm.MethodName) prog_11_method_4_code (2 : Nat) (Option.some Jvm.ClassFile.FieldType.boolean)) ∈ lw_all := lw_g (lw_at lw_m8 204 rfl) rfl
theorem q2311 : (Jvm.Cond.instanceMethod ({ cls := "StrideTurns$Statement", name := "isOf", desc := "(I)Z" } : Jvm.MethodName)) ∈ lw_all := lw_g (lw_at lw_m10 18 rfl) rfl
theorem q2312 : (Jvm.Cond.selects "StrideTurns$Statement" ({ cls := "StrideTurns$Statement", name := "isOf", desc := "(I)Z" } : Jvm.MethodName) ({ cls := "StrideTurns$Statement", name := "isOf", desc := "(I)Z" } : Jvm.MethodName)) ∈ lw_all := lw_g (lw_at lw_m10 19 rfl) rfl
theorem q2313 : (Jvm.Cond.code ({ cls := "StrideTurns$Statement", name := "isOf", desc := "(I)Z" } : Jvm.MethodName) prog_11_method_6_code (3 : Nat) (Option.some Jvm.ClassFile.FieldType.boolean)) ∈ lw_all := lw_g (lw_at lw_m10 20 rfl) rfl
theorem q2314 : (Jvm.Cond.methodLink "StrideTurns$Statement" (71 : Nat) ({ cls := "StrideTurns$Statement", name := "looks", desc := "(I)Z" } : Jvm.MethodName)) ∈ lw_all := lw_g (lw_at lw_m10 21 rfl) rfl
theorem q3241 : (Jvm.Cond.castable "StrideTurns$Statement" "java/lang/Object") ∈ lw_tbl := lw_at lw_m13 228 rfl
theorem in_X6 : ∀ w ∈ wsX60, w ∈ lw_all := lw_in wsX60 [1709, 1711, 1713, 1715, 1717, 1719, 1721, 1723] (by decide +kernel) (by decide +kernel)
