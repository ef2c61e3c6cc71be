/-! StrideTurns$Turn -/
set_option maxRecDepth 100000
def RX2 : String := "StrideTurns$Turn"
def TX2 : u_T := fun k => match k with
  | 0 => ("StrideTurns$Turn", "own", "[D", true)
  | 1 => ("StrideTurns$Turn", "has", "[Z", true)
  | 2 => ("StrideTurns$Turn", "number", "I", false)
  | 3 => ("StrideTurns$Turn", "statement", "I", false)
  | 4 => ("StrideTurns$Turn", "item", "I", false)
  | 5 => ("StrideTurns$Turn", "isOver", "Z", false)
  | _ => ("StrideTurns$Turn", "this$0", "LStrideTurns;", true)
def tyX2 : Nat → FieldType := fun k => match k with
  | 0 => .array .double
  | 1 => .array .boolean
  | 2 => .int
  | 3 => .int
  | 4 => .int
  | 5 => .boolean
  | _ => .object "StrideTurns"
abbrev wsX20 : List Cond := u_ws RX2 TX2 7
theorem nmX2 : ∀ a, a < 7 → ∀ b, b < 7 → a ≠ b → (TX2 a).2.1 ≠ (TX2 b).2.1 := by decide +kernel
theorem tyX2_ok : ∀ k, k < 7 → parseFieldDescriptor (TX2 k).2.2.1 = some (tyX2 k) := by decide +kernel
abbrev cX2_init : ByteArray := prog_14_method_1_code
def yX2_init : MethodName := ⟨RX2, "<init>", "(LStrideTurns;)V"⟩
def dkwX2_init_1 : List UInt8 := [181, 0, 19, 177]
abbrev dktX2_init_1 : List UInt8 := dkwX2_init_1 ++ []
def dkwX2_init_0 : List UInt8 := [42, 43, 181, 0, 3, 42, 183, 0, 9, 42, 17, 0, 144, 188, 7, 181, 0, 15, 42, 17, 0, 144, 188, 4]
abbrev dktX2_init_0 : List UInt8 := dkwX2_init_0 ++ dktX2_init_1
theorem dksX2_init_0 : cX2_init.data.toList.drop 0 = dktX2_init_0 := by decide +kernel
theorem dksX2_init_1 : cX2_init.data.toList.drop 24 = dktX2_init_1 := dk_seg dksX2_init_0 24 rfl rfl
theorem dX2_init_0 : decode cX2_init 0 = .ok (.aload_n 0, 1) := dk_42 (dk_at dksX2_init_0 0 rfl rfl)
theorem dX2_init_1 : decode cX2_init 1 = .ok (.aload_n 1, 1) := dk_43 (dk_at dksX2_init_0 1 rfl rfl)
theorem dX2_init_2 : decode cX2_init 2 = .ok (.putfield 3, 3) := dk_181 0 3 (dk_at dksX2_init_0 2 rfl rfl)
theorem dX2_init_5 : decode cX2_init 5 = .ok (.aload_n 0, 1) := dk_42 (dk_at dksX2_init_0 5 rfl rfl)
theorem dX2_init_6 : decode cX2_init 6 = .ok (.invokespecial 9, 3) := dk_183 0 9 (dk_at dksX2_init_0 6 rfl rfl)
theorem dX2_init_9 : decode cX2_init 9 = .ok (.aload_n 0, 1) := dk_42 (dk_at dksX2_init_0 9 rfl rfl)
theorem dX2_init_10 : decode cX2_init 10 = .ok (.sipush 144, 3) := dk_17 0 144 (dk_at dksX2_init_0 10 rfl rfl)
theorem dX2_init_13 : decode cX2_init 13 = .ok (.newarray .double, 2) := dk_188_7 (dk_at dksX2_init_0 13 rfl rfl)
theorem dX2_init_15 : decode cX2_init 15 = .ok (.putfield 15, 3) := dk_181 0 15 (dk_at dksX2_init_0 15 rfl rfl)
theorem dX2_init_18 : decode cX2_init 18 = .ok (.aload_n 0, 1) := dk_42 (dk_at dksX2_init_0 18 rfl rfl)
theorem dX2_init_19 : decode cX2_init 19 = .ok (.sipush 144, 3) := dk_17 0 144 (dk_at dksX2_init_0 19 rfl rfl)
theorem dX2_init_22 : decode cX2_init 22 = .ok (.newarray .boolean, 2) := dk_188_4 (dk_at dksX2_init_0 22 rfl rfl)
theorem dX2_init_24 : decode cX2_init 24 = .ok (.putfield 19, 3) := dk_181 0 19 (dk_at dksX2_init_1 0 rfl rfl)
theorem dX2_init_27 : decode cX2_init 27 = .ok (.return_, 1) := dk_177 (dk_at dksX2_init_1 3 rfl rfl)
abbrev cX2_begins : ByteArray := prog_14_method_2_code
def yX2_begins : MethodName := ⟨RX2, "begins", "(I)V"⟩
def dkwX2_begins_1 : List UInt8 := [162, 0, 16, 42, 180, 0, 19, 28, 3, 84, 132, 2, 1, 167, 255, 237, 42, 182, 0, 34, 177]
abbrev dktX2_begins_1 : List UInt8 := dkwX2_begins_1 ++ []
def dkwX2_begins_0 : List UInt8 := [42, 27, 181, 0, 23, 42, 2, 181, 0, 27, 42, 3, 181, 0, 30, 3, 61, 28, 42, 180, 0, 19, 190]
abbrev dktX2_begins_0 : List UInt8 := dkwX2_begins_0 ++ dktX2_begins_1
theorem dksX2_begins_0 : cX2_begins.data.toList.drop 0 = dktX2_begins_0 := by decide +kernel
theorem dksX2_begins_1 : cX2_begins.data.toList.drop 23 = dktX2_begins_1 := dk_seg dksX2_begins_0 23 rfl rfl
theorem dX2_begins_0 : decode cX2_begins 0 = .ok (.aload_n 0, 1) := dk_42 (dk_at dksX2_begins_0 0 rfl rfl)
theorem dX2_begins_1 : decode cX2_begins 1 = .ok (.iload_n 1, 1) := dk_27 (dk_at dksX2_begins_0 1 rfl rfl)
theorem dX2_begins_2 : decode cX2_begins 2 = .ok (.putfield 23, 3) := dk_181 0 23 (dk_at dksX2_begins_0 2 rfl rfl)
theorem dX2_begins_5 : decode cX2_begins 5 = .ok (.aload_n 0, 1) := dk_42 (dk_at dksX2_begins_0 5 rfl rfl)
theorem dX2_begins_6 : decode cX2_begins 6 = .ok (.iconst (-1), 1) := dk_2 (dk_at dksX2_begins_0 6 rfl rfl)
theorem dX2_begins_7 : decode cX2_begins 7 = .ok (.putfield 27, 3) := dk_181 0 27 (dk_at dksX2_begins_0 7 rfl rfl)
theorem dX2_begins_10 : decode cX2_begins 10 = .ok (.aload_n 0, 1) := dk_42 (dk_at dksX2_begins_0 10 rfl rfl)
theorem dX2_begins_11 : decode cX2_begins 11 = .ok (.iconst 0, 1) := dk_3 (dk_at dksX2_begins_0 11 rfl rfl)
theorem dX2_begins_12 : decode cX2_begins 12 = .ok (.putfield 30, 3) := dk_181 0 30 (dk_at dksX2_begins_0 12 rfl rfl)
theorem dX2_begins_15 : decode cX2_begins 15 = .ok (.iconst 0, 1) := dk_3 (dk_at dksX2_begins_0 15 rfl rfl)
theorem dX2_begins_16 : decode cX2_begins 16 = .ok (.istore_n 2, 1) := dk_61 (dk_at dksX2_begins_0 16 rfl rfl)
theorem dX2_begins_17 : decode cX2_begins 17 = .ok (.iload_n 2, 1) := dk_28 (dk_at dksX2_begins_0 17 rfl rfl)
theorem dX2_begins_18 : decode cX2_begins 18 = .ok (.aload_n 0, 1) := dk_42 (dk_at dksX2_begins_0 18 rfl rfl)
theorem dX2_begins_19 : decode cX2_begins 19 = .ok (.getfield 19, 3) := dk_180 0 19 (dk_at dksX2_begins_0 19 rfl rfl)
theorem dX2_begins_22 : decode cX2_begins 22 = .ok (.arraylength, 1) := dk_190 (dk_at dksX2_begins_0 22 rfl rfl)
theorem dX2_begins_23 : decode cX2_begins 23 = .ok (.if_icmp .ge 16, 3) := dk_162 0 16 (dk_at dksX2_begins_1 0 rfl rfl)
theorem dX2_begins_26 : decode cX2_begins 26 = .ok (.aload_n 0, 1) := dk_42 (dk_at dksX2_begins_1 3 rfl rfl)
theorem dX2_begins_27 : decode cX2_begins 27 = .ok (.getfield 19, 3) := dk_180 0 19 (dk_at dksX2_begins_1 4 rfl rfl)
theorem dX2_begins_30 : decode cX2_begins 30 = .ok (.iload_n 2, 1) := dk_28 (dk_at dksX2_begins_1 7 rfl rfl)
theorem dX2_begins_31 : decode cX2_begins 31 = .ok (.iconst 0, 1) := dk_3 (dk_at dksX2_begins_1 8 rfl rfl)
theorem dX2_begins_32 : decode cX2_begins 32 = .ok (.bastore, 1) := dk_84 (dk_at dksX2_begins_1 9 rfl rfl)
theorem dX2_begins_33 : decode cX2_begins 33 = .ok (.iinc 2 1, 3) := dk_132 2 1 (dk_at dksX2_begins_1 10 rfl rfl)
theorem dX2_begins_36 : decode cX2_begins 36 = .ok (.goto (-19), 3) := dk_167 255 237 (dk_at dksX2_begins_1 13 rfl rfl)
theorem dX2_begins_39 : decode cX2_begins 39 = .ok (.aload_n 0, 1) := dk_42 (dk_at dksX2_begins_1 16 rfl rfl)
theorem dX2_begins_40 : decode cX2_begins 40 = .ok (.invokevirtual 34, 3) := dk_182 0 34 (dk_at dksX2_begins_1 17 rfl rfl)
theorem dX2_begins_43 : decode cX2_begins 43 = .ok (.return_, 1) := dk_177 (dk_at dksX2_begins_1 20 rfl rfl)
abbrev cX2_passes : ByteArray := prog_14_method_3_code
def yX2_passes : MethodName := ⟨RX2, "passes", "()V"⟩
def dkwX2_passes_3 : List UInt8 := [167, 255, 202, 177]
abbrev dktX2_passes_3 : List UInt8 := dkwX2_passes_3 ++ []
def dkwX2_passes_2 : List UInt8 := [192, 0, 54, 42, 180, 0, 23, 182, 0, 56, 154, 0, 16, 42, 89, 180, 0, 27, 4, 96, 181, 0, 27]
abbrev dktX2_passes_2 : List UInt8 := dkwX2_passes_2 ++ dktX2_passes_3
def dkwX2_passes_1 : List UInt8 := [180, 0, 40, 182, 0, 44, 162, 0, 43, 42, 180, 0, 3, 180, 0, 40, 42, 180, 0, 27, 182, 0, 50]
abbrev dktX2_passes_1 : List UInt8 := dkwX2_passes_1 ++ dktX2_passes_2
def dkwX2_passes_0 : List UInt8 := [42, 3, 181, 0, 37, 42, 89, 180, 0, 27, 4, 96, 181, 0, 27, 42, 180, 0, 27, 42, 180, 0, 3]
abbrev dktX2_passes_0 : List UInt8 := dkwX2_passes_0 ++ dktX2_passes_1
theorem dksX2_passes_0 : cX2_passes.data.toList.drop 0 = dktX2_passes_0 := by decide +kernel
theorem dksX2_passes_1 : cX2_passes.data.toList.drop 23 = dktX2_passes_1 := dk_seg dksX2_passes_0 23 rfl rfl
theorem dksX2_passes_2 : cX2_passes.data.toList.drop 46 = dktX2_passes_2 := dk_seg dksX2_passes_1 23 rfl rfl
theorem dksX2_passes_3 : cX2_passes.data.toList.drop 69 = dktX2_passes_3 := dk_seg dksX2_passes_2 23 rfl rfl
theorem dX2_passes_0 : decode cX2_passes 0 = .ok (.aload_n 0, 1) := dk_42 (dk_at dksX2_passes_0 0 rfl rfl)
theorem dX2_passes_1 : decode cX2_passes 1 = .ok (.iconst 0, 1) := dk_3 (dk_at dksX2_passes_0 1 rfl rfl)
theorem dX2_passes_2 : decode cX2_passes 2 = .ok (.putfield 37, 3) := dk_181 0 37 (dk_at dksX2_passes_0 2 rfl rfl)
theorem dX2_passes_5 : decode cX2_passes 5 = .ok (.aload_n 0, 1) := dk_42 (dk_at dksX2_passes_0 5 rfl rfl)
theorem dX2_passes_6 : decode cX2_passes 6 = .ok (.dup, 1) := dk_89 (dk_at dksX2_passes_0 6 rfl rfl)
theorem dX2_passes_7 : decode cX2_passes 7 = .ok (.getfield 27, 3) := dk_180 0 27 (dk_at dksX2_passes_0 7 rfl rfl)
theorem dX2_passes_10 : decode cX2_passes 10 = .ok (.iconst 1, 1) := dk_4 (dk_at dksX2_passes_0 10 rfl rfl)
theorem dX2_passes_11 : decode cX2_passes 11 = .ok (.iadd, 1) := dk_96 (dk_at dksX2_passes_0 11 rfl rfl)
theorem dX2_passes_12 : decode cX2_passes 12 = .ok (.putfield 27, 3) := dk_181 0 27 (dk_at dksX2_passes_0 12 rfl rfl)
theorem dX2_passes_15 : decode cX2_passes 15 = .ok (.aload_n 0, 1) := dk_42 (dk_at dksX2_passes_0 15 rfl rfl)
theorem dX2_passes_16 : decode cX2_passes 16 = .ok (.getfield 27, 3) := dk_180 0 27 (dk_at dksX2_passes_0 16 rfl rfl)
theorem dX2_passes_19 : decode cX2_passes 19 = .ok (.aload_n 0, 1) := dk_42 (dk_at dksX2_passes_0 19 rfl rfl)
theorem dX2_passes_20 : decode cX2_passes 20 = .ok (.getfield 3, 3) := dk_180 0 3 (dk_at dksX2_passes_0 20 rfl rfl)
theorem dX2_passes_23 : decode cX2_passes 23 = .ok (.getfield 40, 3) := dk_180 0 40 (dk_at dksX2_passes_1 0 rfl rfl)
theorem dX2_passes_26 : decode cX2_passes 26 = .ok (.invokevirtual 44, 3) := dk_182 0 44 (dk_at dksX2_passes_1 3 rfl rfl)
theorem dX2_passes_29 : decode cX2_passes 29 = .ok (.if_icmp .ge 43, 3) := dk_162 0 43 (dk_at dksX2_passes_1 6 rfl rfl)
theorem dX2_passes_32 : decode cX2_passes 32 = .ok (.aload_n 0, 1) := dk_42 (dk_at dksX2_passes_1 9 rfl rfl)
theorem dX2_passes_33 : decode cX2_passes 33 = .ok (.getfield 3, 3) := dk_180 0 3 (dk_at dksX2_passes_1 10 rfl rfl)
theorem dX2_passes_36 : decode cX2_passes 36 = .ok (.getfield 40, 3) := dk_180 0 40 (dk_at dksX2_passes_1 13 rfl rfl)
theorem dX2_passes_39 : decode cX2_passes 39 = .ok (.aload_n 0, 1) := dk_42 (dk_at dksX2_passes_1 16 rfl rfl)
theorem dX2_passes_40 : decode cX2_passes 40 = .ok (.getfield 27, 3) := dk_180 0 27 (dk_at dksX2_passes_1 17 rfl rfl)
theorem dX2_passes_43 : decode cX2_passes 43 = .ok (.invokevirtual 50, 3) := dk_182 0 50 (dk_at dksX2_passes_1 20 rfl rfl)
theorem dX2_passes_46 : decode cX2_passes 46 = .ok (.checkcast 54, 3) := dk_192 0 54 (dk_at dksX2_passes_2 0 rfl rfl)
theorem dX2_passes_49 : decode cX2_passes 49 = .ok (.aload_n 0, 1) := dk_42 (dk_at dksX2_passes_2 3 rfl rfl)
theorem dX2_passes_50 : decode cX2_passes 50 = .ok (.getfield 23, 3) := dk_180 0 23 (dk_at dksX2_passes_2 4 rfl rfl)
theorem dX2_passes_53 : decode cX2_passes 53 = .ok (.invokevirtual 56, 3) := dk_182 0 56 (dk_at dksX2_passes_2 7 rfl rfl)
theorem dX2_passes_56 : decode cX2_passes 56 = .ok (.ifCond .ne 16, 3) := dk_154 0 16 (dk_at dksX2_passes_2 10 rfl rfl)
theorem dX2_passes_59 : decode cX2_passes 59 = .ok (.aload_n 0, 1) := dk_42 (dk_at dksX2_passes_2 13 rfl rfl)
theorem dX2_passes_60 : decode cX2_passes 60 = .ok (.dup, 1) := dk_89 (dk_at dksX2_passes_2 14 rfl rfl)
theorem dX2_passes_61 : decode cX2_passes 61 = .ok (.getfield 27, 3) := dk_180 0 27 (dk_at dksX2_passes_2 15 rfl rfl)
theorem dX2_passes_64 : decode cX2_passes 64 = .ok (.iconst 1, 1) := dk_4 (dk_at dksX2_passes_2 18 rfl rfl)
theorem dX2_passes_65 : decode cX2_passes 65 = .ok (.iadd, 1) := dk_96 (dk_at dksX2_passes_2 19 rfl rfl)
theorem dX2_passes_66 : decode cX2_passes 66 = .ok (.putfield 27, 3) := dk_181 0 27 (dk_at dksX2_passes_2 20 rfl rfl)
theorem dX2_passes_69 : decode cX2_passes 69 = .ok (.goto (-54), 3) := dk_167 255 202 (dk_at dksX2_passes_3 0 rfl rfl)
theorem dX2_passes_72 : decode cX2_passes 72 = .ok (.return_, 1) := dk_177 (dk_at dksX2_passes_3 3 rfl rfl)
abbrev cX2_isLeft : ByteArray := prog_14_method_4_code
def yX2_isLeft : MethodName := ⟨RX2, "isLeft", "()Z"⟩
def dkwX2_isLeft_1 : List UInt8 := [4, 167, 0, 4, 3, 172]
abbrev dktX2_isLeft_1 : List UInt8 := dkwX2_isLeft_1 ++ []
def dkwX2_isLeft_0 : List UInt8 := [42, 180, 0, 30, 154, 0, 24, 42, 180, 0, 27, 42, 180, 0, 3, 180, 0, 40, 182, 0, 44, 162, 0, 7]
abbrev dktX2_isLeft_0 : List UInt8 := dkwX2_isLeft_0 ++ dktX2_isLeft_1
theorem dksX2_isLeft_0 : cX2_isLeft.data.toList.drop 0 = dktX2_isLeft_0 := by decide +kernel
theorem dksX2_isLeft_1 : cX2_isLeft.data.toList.drop 24 = dktX2_isLeft_1 := dk_seg dksX2_isLeft_0 24 rfl rfl
theorem dX2_isLeft_0 : decode cX2_isLeft 0 = .ok (.aload_n 0, 1) := dk_42 (dk_at dksX2_isLeft_0 0 rfl rfl)
theorem dX2_isLeft_1 : decode cX2_isLeft 1 = .ok (.getfield 30, 3) := dk_180 0 30 (dk_at dksX2_isLeft_0 1 rfl rfl)
theorem dX2_isLeft_4 : decode cX2_isLeft 4 = .ok (.ifCond .ne 24, 3) := dk_154 0 24 (dk_at dksX2_isLeft_0 4 rfl rfl)
theorem dX2_isLeft_7 : decode cX2_isLeft 7 = .ok (.aload_n 0, 1) := dk_42 (dk_at dksX2_isLeft_0 7 rfl rfl)
theorem dX2_isLeft_8 : decode cX2_isLeft 8 = .ok (.getfield 27, 3) := dk_180 0 27 (dk_at dksX2_isLeft_0 8 rfl rfl)
theorem dX2_isLeft_11 : decode cX2_isLeft 11 = .ok (.aload_n 0, 1) := dk_42 (dk_at dksX2_isLeft_0 11 rfl rfl)
theorem dX2_isLeft_12 : decode cX2_isLeft 12 = .ok (.getfield 3, 3) := dk_180 0 3 (dk_at dksX2_isLeft_0 12 rfl rfl)
theorem dX2_isLeft_15 : decode cX2_isLeft 15 = .ok (.getfield 40, 3) := dk_180 0 40 (dk_at dksX2_isLeft_0 15 rfl rfl)
theorem dX2_isLeft_18 : decode cX2_isLeft 18 = .ok (.invokevirtual 44, 3) := dk_182 0 44 (dk_at dksX2_isLeft_0 18 rfl rfl)
theorem dX2_isLeft_21 : decode cX2_isLeft 21 = .ok (.if_icmp .ge 7, 3) := dk_162 0 7 (dk_at dksX2_isLeft_0 21 rfl rfl)
theorem dX2_isLeft_24 : decode cX2_isLeft 24 = .ok (.iconst 1, 1) := dk_4 (dk_at dksX2_isLeft_1 0 rfl rfl)
theorem dX2_isLeft_25 : decode cX2_isLeft 25 = .ok (.goto 4, 3) := dk_167 0 4 (dk_at dksX2_isLeft_1 1 rfl rfl)
theorem dX2_isLeft_28 : decode cX2_isLeft 28 = .ok (.iconst 0, 1) := dk_3 (dk_at dksX2_isLeft_1 4 rfl rfl)
theorem dX2_isLeft_29 : decode cX2_isLeft 29 = .ok (.ireturn, 1) := dk_172 (dk_at dksX2_isLeft_1 5 rfl rfl)
abbrev cX2_steps : ByteArray := prog_14_method_11_code
def yX2_steps : MethodName := ⟨RX2, "steps", "()Z"⟩
def dkwX2_steps_2 : List UInt8 := [4, 172, 42, 4, 181, 0, 30, 42, 180, 0, 3, 180, 0, 145, 28, 92, 46, 4, 96, 79, 3, 172]
abbrev dktX2_steps_2 : List UInt8 := dkwX2_steps_2 ++ []
def dkwX2_steps_1 : List UInt8 := [28, 2, 160, 0, 9, 42, 43, 182, 0, 135, 61, 28, 2, 160, 0, 13, 42, 43, 180, 0, 138, 182, 0, 141]
abbrev dktX2_steps_1 : List UInt8 := dkwX2_steps_1 ++ dktX2_steps_2
def dkwX2_steps_0 : List UInt8 := [42, 180, 0, 3, 180, 0, 40, 42, 180, 0, 27, 182, 0, 50, 192, 0, 54, 76, 42, 43, 182, 0, 132, 61]
abbrev dktX2_steps_0 : List UInt8 := dkwX2_steps_0 ++ dktX2_steps_1
theorem dksX2_steps_0 : cX2_steps.data.toList.drop 0 = dktX2_steps_0 := by decide +kernel
theorem dksX2_steps_1 : cX2_steps.data.toList.drop 24 = dktX2_steps_1 := dk_seg dksX2_steps_0 24 rfl rfl
theorem dksX2_steps_2 : cX2_steps.data.toList.drop 48 = dktX2_steps_2 := dk_seg dksX2_steps_1 24 rfl rfl
theorem dX2_steps_0 : decode cX2_steps 0 = .ok (.aload_n 0, 1) := dk_42 (dk_at dksX2_steps_0 0 rfl rfl)
theorem dX2_steps_1 : decode cX2_steps 1 = .ok (.getfield 3, 3) := dk_180 0 3 (dk_at dksX2_steps_0 1 rfl rfl)
theorem dX2_steps_4 : decode cX2_steps 4 = .ok (.getfield 40, 3) := dk_180 0 40 (dk_at dksX2_steps_0 4 rfl rfl)
theorem dX2_steps_7 : decode cX2_steps 7 = .ok (.aload_n 0, 1) := dk_42 (dk_at dksX2_steps_0 7 rfl rfl)
theorem dX2_steps_8 : decode cX2_steps 8 = .ok (.getfield 27, 3) := dk_180 0 27 (dk_at dksX2_steps_0 8 rfl rfl)
theorem dX2_steps_11 : decode cX2_steps 11 = .ok (.invokevirtual 50, 3) := dk_182 0 50 (dk_at dksX2_steps_0 11 rfl rfl)
theorem dX2_steps_14 : decode cX2_steps 14 = .ok (.checkcast 54, 3) := dk_192 0 54 (dk_at dksX2_steps_0 14 rfl rfl)
theorem dX2_steps_17 : decode cX2_steps 17 = .ok (.astore_n 1, 1) := dk_76 (dk_at dksX2_steps_0 17 rfl rfl)
theorem dX2_steps_18 : decode cX2_steps 18 = .ok (.aload_n 0, 1) := dk_42 (dk_at dksX2_steps_0 18 rfl rfl)
theorem dX2_steps_19 : decode cX2_steps 19 = .ok (.aload_n 1, 1) := dk_43 (dk_at dksX2_steps_0 19 rfl rfl)
theorem dX2_steps_20 : decode cX2_steps 20 = .ok (.invokevirtual 132, 3) := dk_182 0 132 (dk_at dksX2_steps_0 20 rfl rfl)
theorem dX2_steps_23 : decode cX2_steps 23 = .ok (.istore_n 2, 1) := dk_61 (dk_at dksX2_steps_0 23 rfl rfl)
theorem dX2_steps_24 : decode cX2_steps 24 = .ok (.iload_n 2, 1) := dk_28 (dk_at dksX2_steps_1 0 rfl rfl)
theorem dX2_steps_25 : decode cX2_steps 25 = .ok (.iconst (-1), 1) := dk_2 (dk_at dksX2_steps_1 1 rfl rfl)
theorem dX2_steps_26 : decode cX2_steps 26 = .ok (.if_icmp .ne 9, 3) := dk_160 0 9 (dk_at dksX2_steps_1 2 rfl rfl)
theorem dX2_steps_29 : decode cX2_steps 29 = .ok (.aload_n 0, 1) := dk_42 (dk_at dksX2_steps_1 5 rfl rfl)
theorem dX2_steps_30 : decode cX2_steps 30 = .ok (.aload_n 1, 1) := dk_43 (dk_at dksX2_steps_1 6 rfl rfl)
theorem dX2_steps_31 : decode cX2_steps 31 = .ok (.invokevirtual 135, 3) := dk_182 0 135 (dk_at dksX2_steps_1 7 rfl rfl)
theorem dX2_steps_34 : decode cX2_steps 34 = .ok (.istore_n 2, 1) := dk_61 (dk_at dksX2_steps_1 10 rfl rfl)
theorem dX2_steps_35 : decode cX2_steps 35 = .ok (.iload_n 2, 1) := dk_28 (dk_at dksX2_steps_1 11 rfl rfl)
theorem dX2_steps_36 : decode cX2_steps 36 = .ok (.iconst (-1), 1) := dk_2 (dk_at dksX2_steps_1 12 rfl rfl)
theorem dX2_steps_37 : decode cX2_steps 37 = .ok (.if_icmp .ne 13, 3) := dk_160 0 13 (dk_at dksX2_steps_1 13 rfl rfl)
theorem dX2_steps_40 : decode cX2_steps 40 = .ok (.aload_n 0, 1) := dk_42 (dk_at dksX2_steps_1 16 rfl rfl)
theorem dX2_steps_41 : decode cX2_steps 41 = .ok (.aload_n 1, 1) := dk_43 (dk_at dksX2_steps_1 17 rfl rfl)
theorem dX2_steps_42 : decode cX2_steps 42 = .ok (.getfield 138, 3) := dk_180 0 138 (dk_at dksX2_steps_1 18 rfl rfl)
theorem dX2_steps_45 : decode cX2_steps 45 = .ok (.invokevirtual 141, 3) := dk_182 0 141 (dk_at dksX2_steps_1 21 rfl rfl)
theorem dX2_steps_48 : decode cX2_steps 48 = .ok (.iconst 1, 1) := dk_4 (dk_at dksX2_steps_2 0 rfl rfl)
theorem dX2_steps_49 : decode cX2_steps 49 = .ok (.ireturn, 1) := dk_172 (dk_at dksX2_steps_2 1 rfl rfl)
theorem dX2_steps_50 : decode cX2_steps 50 = .ok (.aload_n 0, 1) := dk_42 (dk_at dksX2_steps_2 2 rfl rfl)
theorem dX2_steps_51 : decode cX2_steps 51 = .ok (.iconst 1, 1) := dk_4 (dk_at dksX2_steps_2 3 rfl rfl)
theorem dX2_steps_52 : decode cX2_steps 52 = .ok (.putfield 30, 3) := dk_181 0 30 (dk_at dksX2_steps_2 4 rfl rfl)
theorem dX2_steps_55 : decode cX2_steps 55 = .ok (.aload_n 0, 1) := dk_42 (dk_at dksX2_steps_2 7 rfl rfl)
theorem dX2_steps_56 : decode cX2_steps 56 = .ok (.getfield 3, 3) := dk_180 0 3 (dk_at dksX2_steps_2 8 rfl rfl)
theorem dX2_steps_59 : decode cX2_steps 59 = .ok (.getfield 145, 3) := dk_180 0 145 (dk_at dksX2_steps_2 11 rfl rfl)
theorem dX2_steps_62 : decode cX2_steps 62 = .ok (.iload_n 2, 1) := dk_28 (dk_at dksX2_steps_2 14 rfl rfl)
theorem dX2_steps_63 : decode cX2_steps 63 = .ok (.dup2, 1) := dk_92 (dk_at dksX2_steps_2 15 rfl rfl)
theorem dX2_steps_64 : decode cX2_steps 64 = .ok (.iaload, 1) := dk_46 (dk_at dksX2_steps_2 16 rfl rfl)
theorem dX2_steps_65 : decode cX2_steps 65 = .ok (.iconst 1, 1) := dk_4 (dk_at dksX2_steps_2 17 rfl rfl)
theorem dX2_steps_66 : decode cX2_steps 66 = .ok (.iadd, 1) := dk_96 (dk_at dksX2_steps_2 18 rfl rfl)
theorem dX2_steps_67 : decode cX2_steps 67 = .ok (.iastore, 1) := dk_79 (dk_at dksX2_steps_2 19 rfl rfl)
theorem dX2_steps_68 : decode cX2_steps 68 = .ok (.iconst 0, 1) := dk_3 (dk_at dksX2_steps_2 20 rfl rfl)
theorem dX2_steps_69 : decode cX2_steps 69 = .ok (.ireturn, 1) := dk_172 (dk_at dksX2_steps_2 21 rfl rfl)
abbrev cX2_against : ByteArray := prog_14_method_8_code
def yX2_against : MethodName := ⟨RX2, "against", "(LStrideTurns$Statement;)I"⟩
def dkwX2_against_2 : List UInt8 := [167, 0, 4, 28, 172]
abbrev dktX2_against_2 : List UInt8 := dkwX2_against_2 ++ []
def dkwX2_against_1 : List UInt8 := [43, 5, 182, 0, 94, 182, 0, 97, 61, 28, 2, 160, 0, 15, 42, 43, 3, 182, 0, 94, 182, 0, 97]
abbrev dktX2_against_1 : List UInt8 := dkwX2_against_1 ++ dktX2_against_2
def dkwX2_against_0 : List UInt8 := [42, 43, 4, 182, 0, 94, 182, 0, 97, 61, 28, 2, 160, 0, 21, 43, 5, 182, 0, 101, 153, 0, 13, 42]
abbrev dktX2_against_0 : List UInt8 := dkwX2_against_0 ++ dktX2_against_1
theorem dksX2_against_0 : cX2_against.data.toList.drop 0 = dktX2_against_0 := by decide +kernel
theorem dksX2_against_1 : cX2_against.data.toList.drop 24 = dktX2_against_1 := dk_seg dksX2_against_0 24 rfl rfl
theorem dksX2_against_2 : cX2_against.data.toList.drop 47 = dktX2_against_2 := dk_seg dksX2_against_1 23 rfl rfl
theorem dX2_against_0 : decode cX2_against 0 = .ok (.aload_n 0, 1) := dk_42 (dk_at dksX2_against_0 0 rfl rfl)
theorem dX2_against_1 : decode cX2_against 1 = .ok (.aload_n 1, 1) := dk_43 (dk_at dksX2_against_0 1 rfl rfl)
theorem dX2_against_2 : decode cX2_against 2 = .ok (.iconst 1, 1) := dk_4 (dk_at dksX2_against_0 2 rfl rfl)
theorem dX2_against_3 : decode cX2_against 3 = .ok (.invokevirtual 94, 3) := dk_182 0 94 (dk_at dksX2_against_0 3 rfl rfl)
theorem dX2_against_6 : decode cX2_against 6 = .ok (.invokevirtual 97, 3) := dk_182 0 97 (dk_at dksX2_against_0 6 rfl rfl)
theorem dX2_against_9 : decode cX2_against 9 = .ok (.istore_n 2, 1) := dk_61 (dk_at dksX2_against_0 9 rfl rfl)
theorem dX2_against_10 : decode cX2_against 10 = .ok (.iload_n 2, 1) := dk_28 (dk_at dksX2_against_0 10 rfl rfl)
theorem dX2_against_11 : decode cX2_against 11 = .ok (.iconst (-1), 1) := dk_2 (dk_at dksX2_against_0 11 rfl rfl)
theorem dX2_against_12 : decode cX2_against 12 = .ok (.if_icmp .ne 21, 3) := dk_160 0 21 (dk_at dksX2_against_0 12 rfl rfl)
theorem dX2_against_15 : decode cX2_against 15 = .ok (.aload_n 1, 1) := dk_43 (dk_at dksX2_against_0 15 rfl rfl)
theorem dX2_against_16 : decode cX2_against 16 = .ok (.iconst 2, 1) := dk_5 (dk_at dksX2_against_0 16 rfl rfl)
theorem dX2_against_17 : decode cX2_against 17 = .ok (.invokevirtual 101, 3) := dk_182 0 101 (dk_at dksX2_against_0 17 rfl rfl)
theorem dX2_against_20 : decode cX2_against 20 = .ok (.ifCond .eq 13, 3) := dk_153 0 13 (dk_at dksX2_against_0 20 rfl rfl)
theorem dX2_against_23 : decode cX2_against 23 = .ok (.aload_n 0, 1) := dk_42 (dk_at dksX2_against_0 23 rfl rfl)
theorem dX2_against_24 : decode cX2_against 24 = .ok (.aload_n 1, 1) := dk_43 (dk_at dksX2_against_1 0 rfl rfl)
theorem dX2_against_25 : decode cX2_against 25 = .ok (.iconst 2, 1) := dk_5 (dk_at dksX2_against_1 1 rfl rfl)
theorem dX2_against_26 : decode cX2_against 26 = .ok (.invokevirtual 94, 3) := dk_182 0 94 (dk_at dksX2_against_1 2 rfl rfl)
theorem dX2_against_29 : decode cX2_against 29 = .ok (.invokevirtual 97, 3) := dk_182 0 97 (dk_at dksX2_against_1 5 rfl rfl)
theorem dX2_against_32 : decode cX2_against 32 = .ok (.istore_n 2, 1) := dk_61 (dk_at dksX2_against_1 8 rfl rfl)
theorem dX2_against_33 : decode cX2_against 33 = .ok (.iload_n 2, 1) := dk_28 (dk_at dksX2_against_1 9 rfl rfl)
theorem dX2_against_34 : decode cX2_against 34 = .ok (.iconst (-1), 1) := dk_2 (dk_at dksX2_against_1 10 rfl rfl)
theorem dX2_against_35 : decode cX2_against 35 = .ok (.if_icmp .ne 15, 3) := dk_160 0 15 (dk_at dksX2_against_1 11 rfl rfl)
theorem dX2_against_38 : decode cX2_against 38 = .ok (.aload_n 0, 1) := dk_42 (dk_at dksX2_against_1 14 rfl rfl)
theorem dX2_against_39 : decode cX2_against 39 = .ok (.aload_n 1, 1) := dk_43 (dk_at dksX2_against_1 15 rfl rfl)
theorem dX2_against_40 : decode cX2_against 40 = .ok (.iconst 0, 1) := dk_3 (dk_at dksX2_against_1 16 rfl rfl)
theorem dX2_against_41 : decode cX2_against 41 = .ok (.invokevirtual 94, 3) := dk_182 0 94 (dk_at dksX2_against_1 17 rfl rfl)
theorem dX2_against_44 : decode cX2_against 44 = .ok (.invokevirtual 97, 3) := dk_182 0 97 (dk_at dksX2_against_1 20 rfl rfl)
theorem dX2_against_47 : decode cX2_against 47 = .ok (.goto 4, 3) := dk_167 0 4 (dk_at dksX2_against_2 0 rfl rfl)
theorem dX2_against_50 : decode cX2_against 50 = .ok (.iload_n 2, 1) := dk_28 (dk_at dksX2_against_2 3 rfl rfl)
theorem dX2_against_51 : decode cX2_against 51 = .ok (.ireturn, 1) := dk_172 (dk_at dksX2_against_2 4 rfl rfl)
abbrev cX2_wrong : ByteArray := prog_14_method_7_code
def yX2_wrong : MethodName := ⟨RX2, "wrong", "(LStrideTurns$Reference;)I"⟩
def dkwX2_wrong_2 : List UInt8 := [185, 0, 69, 3, 0, 182, 0, 92, 153, 0, 7, 2, 167, 0, 4, 4, 172]
abbrev dktX2_wrong_2 : List UInt8 := dkwX2_wrong_2 ++ []
def dkwX2_wrong_1 : List UInt8 := [199, 0, 7, 3, 167, 0, 32, 44, 43, 180, 0, 65, 42, 180, 0, 23, 42, 180, 0, 37]
abbrev dktX2_wrong_1 : List UInt8 := dkwX2_wrong_1 ++ dktX2_wrong_2
def dkwX2_wrong_0 : List UInt8 := [43, 180, 0, 60, 2, 160, 0, 5, 2, 172, 42, 180, 0, 3, 43, 180, 0, 60, 182, 0, 88, 77, 44]
abbrev dktX2_wrong_0 : List UInt8 := dkwX2_wrong_0 ++ dktX2_wrong_1
theorem dksX2_wrong_0 : cX2_wrong.data.toList.drop 0 = dktX2_wrong_0 := by decide +kernel
theorem dksX2_wrong_1 : cX2_wrong.data.toList.drop 23 = dktX2_wrong_1 := dk_seg dksX2_wrong_0 23 rfl rfl
theorem dksX2_wrong_2 : cX2_wrong.data.toList.drop 43 = dktX2_wrong_2 := dk_seg dksX2_wrong_1 20 rfl rfl
theorem dX2_wrong_0 : decode cX2_wrong 0 = .ok (.aload_n 1, 1) := dk_43 (dk_at dksX2_wrong_0 0 rfl rfl)
theorem dX2_wrong_1 : decode cX2_wrong 1 = .ok (.getfield 60, 3) := dk_180 0 60 (dk_at dksX2_wrong_0 1 rfl rfl)
theorem dX2_wrong_4 : decode cX2_wrong 4 = .ok (.iconst (-1), 1) := dk_2 (dk_at dksX2_wrong_0 4 rfl rfl)
theorem dX2_wrong_5 : decode cX2_wrong 5 = .ok (.if_icmp .ne 5, 3) := dk_160 0 5 (dk_at dksX2_wrong_0 5 rfl rfl)
theorem dX2_wrong_8 : decode cX2_wrong 8 = .ok (.iconst (-1), 1) := dk_2 (dk_at dksX2_wrong_0 8 rfl rfl)
theorem dX2_wrong_9 : decode cX2_wrong 9 = .ok (.ireturn, 1) := dk_172 (dk_at dksX2_wrong_0 9 rfl rfl)
theorem dX2_wrong_10 : decode cX2_wrong 10 = .ok (.aload_n 0, 1) := dk_42 (dk_at dksX2_wrong_0 10 rfl rfl)
theorem dX2_wrong_11 : decode cX2_wrong 11 = .ok (.getfield 3, 3) := dk_180 0 3 (dk_at dksX2_wrong_0 11 rfl rfl)
theorem dX2_wrong_14 : decode cX2_wrong 14 = .ok (.aload_n 1, 1) := dk_43 (dk_at dksX2_wrong_0 14 rfl rfl)
theorem dX2_wrong_15 : decode cX2_wrong 15 = .ok (.getfield 60, 3) := dk_180 0 60 (dk_at dksX2_wrong_0 15 rfl rfl)
theorem dX2_wrong_18 : decode cX2_wrong 18 = .ok (.invokevirtual 88, 3) := dk_182 0 88 (dk_at dksX2_wrong_0 18 rfl rfl)
theorem dX2_wrong_21 : decode cX2_wrong 21 = .ok (.astore_n 2, 1) := dk_77 (dk_at dksX2_wrong_0 21 rfl rfl)
theorem dX2_wrong_22 : decode cX2_wrong 22 = .ok (.aload_n 2, 1) := dk_44 (dk_at dksX2_wrong_0 22 rfl rfl)
theorem dX2_wrong_23 : decode cX2_wrong 23 = .ok (.ifnonnull 7, 3) := dk_199 0 7 (dk_at dksX2_wrong_1 0 rfl rfl)
theorem dX2_wrong_26 : decode cX2_wrong 26 = .ok (.iconst 0, 1) := dk_3 (dk_at dksX2_wrong_1 3 rfl rfl)
theorem dX2_wrong_27 : decode cX2_wrong 27 = .ok (.goto 32, 3) := dk_167 0 32 (dk_at dksX2_wrong_1 4 rfl rfl)
theorem dX2_wrong_30 : decode cX2_wrong 30 = .ok (.aload_n 2, 1) := dk_44 (dk_at dksX2_wrong_1 7 rfl rfl)
theorem dX2_wrong_31 : decode cX2_wrong 31 = .ok (.aload_n 1, 1) := dk_43 (dk_at dksX2_wrong_1 8 rfl rfl)
theorem dX2_wrong_32 : decode cX2_wrong 32 = .ok (.getfield 65, 3) := dk_180 0 65 (dk_at dksX2_wrong_1 9 rfl rfl)
theorem dX2_wrong_35 : decode cX2_wrong 35 = .ok (.aload_n 0, 1) := dk_42 (dk_at dksX2_wrong_1 12 rfl rfl)
theorem dX2_wrong_36 : decode cX2_wrong 36 = .ok (.getfield 23, 3) := dk_180 0 23 (dk_at dksX2_wrong_1 13 rfl rfl)
theorem dX2_wrong_39 : decode cX2_wrong 39 = .ok (.aload_n 0, 1) := dk_42 (dk_at dksX2_wrong_1 16 rfl rfl)
theorem dX2_wrong_40 : decode cX2_wrong 40 = .ok (.getfield 37, 3) := dk_180 0 37 (dk_at dksX2_wrong_1 17 rfl rfl)
theorem dX2_wrong_43 : decode cX2_wrong 43 = .ok (.invokeinterface 69 3, 5) := by decide +kernel
theorem dX2_wrong_48 : decode cX2_wrong 48 = .ok (.invokevirtual 92, 3) := dk_182 0 92 (dk_at dksX2_wrong_2 5 rfl rfl)
theorem dX2_wrong_51 : decode cX2_wrong 51 = .ok (.ifCond .eq 7, 3) := dk_153 0 7 (dk_at dksX2_wrong_2 8 rfl rfl)
theorem dX2_wrong_54 : decode cX2_wrong 54 = .ok (.iconst (-1), 1) := dk_2 (dk_at dksX2_wrong_2 11 rfl rfl)
theorem dX2_wrong_55 : decode cX2_wrong 55 = .ok (.goto 4, 3) := dk_167 0 4 (dk_at dksX2_wrong_2 12 rfl rfl)
theorem dX2_wrong_58 : decode cX2_wrong 58 = .ok (.iconst 1, 1) := dk_4 (dk_at dksX2_wrong_2 15 rfl rfl)
theorem dX2_wrong_59 : decode cX2_wrong 59 = .ok (.ireturn, 1) := dk_172 (dk_at dksX2_wrong_2 16 rfl rfl)
abbrev cX2_acts : ByteArray := prog_14_method_12_code
def yX2_acts : MethodName := ⟨RX2, "acts", "(LStrideTurns$Statement;)I"⟩
def dkwX2_acts_5 : List UInt8 := [21, 7, 24, 5, 41, 184, 0, 124, 182, 0, 128, 182, 0, 161, 2, 172, 58, 8, 5, 172]
abbrev dktX2_acts_5 : List UInt8 := dkwX2_acts_5 ++ []
def dkwX2_acts_4 : List UInt8 := [154, 0, 5, 2, 172, 42, 44, 42, 180, 0, 3, 180, 0, 79, 44, 180, 0, 60, 50, 43, 180, 0, 111]
abbrev dktX2_acts_4 : List UInt8 := dkwX2_acts_4 ++ dktX2_acts_5
def dkwX2_acts_3 : List UInt8 := [54, 7, 43, 180, 0, 111, 180, 0, 156, 16, 10, 160, 0, 16, 21, 7, 24, 5, 41, 184, 0, 157]
abbrev dktX2_acts_3 : List UInt8 := dkwX2_acts_3 ++ dktX2_acts_4
def dkwX2_acts_2 : List UInt8 := [182, 0, 152, 2, 172, 42, 43, 4, 182, 0, 94, 182, 0, 148, 57, 5, 42, 180, 0, 3, 43, 182, 0, 120]
abbrev dktX2_acts_2 : List UInt8 := dkwX2_acts_2 ++ dktX2_acts_3
def dkwX2_acts_1 : List UInt8 := [167, 0, 4, 14, 74, 42, 180, 0, 3, 180, 0, 75, 44, 180, 0, 60, 46, 5, 160, 0, 11, 42, 43, 41]
abbrev dktX2_acts_1 : List UInt8 := dkwX2_acts_1 ++ dktX2_acts_2
def dkwX2_acts_0 : List UInt8 := [43, 3, 182, 0, 94, 77, 43, 5, 182, 0, 101, 153, 0, 15, 42, 43, 5, 182, 0, 94, 182, 0, 148]
abbrev dktX2_acts_0 : List UInt8 := dkwX2_acts_0 ++ dktX2_acts_1
theorem dksX2_acts_0 : cX2_acts.data.toList.drop 0 = dktX2_acts_0 := by decide +kernel
theorem dksX2_acts_1 : cX2_acts.data.toList.drop 23 = dktX2_acts_1 := dk_seg dksX2_acts_0 23 rfl rfl
theorem dksX2_acts_2 : cX2_acts.data.toList.drop 47 = dktX2_acts_2 := dk_seg dksX2_acts_1 24 rfl rfl
theorem dksX2_acts_3 : cX2_acts.data.toList.drop 71 = dktX2_acts_3 := dk_seg dksX2_acts_2 24 rfl rfl
theorem dksX2_acts_4 : cX2_acts.data.toList.drop 93 = dktX2_acts_4 := dk_seg dksX2_acts_3 22 rfl rfl
theorem dksX2_acts_5 : cX2_acts.data.toList.drop 116 = dktX2_acts_5 := dk_seg dksX2_acts_4 23 rfl rfl
theorem dX2_acts_0 : decode cX2_acts 0 = .ok (.aload_n 1, 1) := dk_43 (dk_at dksX2_acts_0 0 rfl rfl)
theorem dX2_acts_1 : decode cX2_acts 1 = .ok (.iconst 0, 1) := dk_3 (dk_at dksX2_acts_0 1 rfl rfl)
theorem dX2_acts_2 : decode cX2_acts 2 = .ok (.invokevirtual 94, 3) := dk_182 0 94 (dk_at dksX2_acts_0 2 rfl rfl)
theorem dX2_acts_5 : decode cX2_acts 5 = .ok (.astore_n 2, 1) := dk_77 (dk_at dksX2_acts_0 5 rfl rfl)
theorem dX2_acts_6 : decode cX2_acts 6 = .ok (.aload_n 1, 1) := dk_43 (dk_at dksX2_acts_0 6 rfl rfl)
theorem dX2_acts_7 : decode cX2_acts 7 = .ok (.iconst 2, 1) := dk_5 (dk_at dksX2_acts_0 7 rfl rfl)
theorem dX2_acts_8 : decode cX2_acts 8 = .ok (.invokevirtual 101, 3) := dk_182 0 101 (dk_at dksX2_acts_0 8 rfl rfl)
theorem dX2_acts_11 : decode cX2_acts 11 = .ok (.ifCond .eq 15, 3) := dk_153 0 15 (dk_at dksX2_acts_0 11 rfl rfl)
theorem dX2_acts_14 : decode cX2_acts 14 = .ok (.aload_n 0, 1) := dk_42 (dk_at dksX2_acts_0 14 rfl rfl)
theorem dX2_acts_15 : decode cX2_acts 15 = .ok (.aload_n 1, 1) := dk_43 (dk_at dksX2_acts_0 15 rfl rfl)
theorem dX2_acts_16 : decode cX2_acts 16 = .ok (.iconst 2, 1) := dk_5 (dk_at dksX2_acts_0 16 rfl rfl)
theorem dX2_acts_17 : decode cX2_acts 17 = .ok (.invokevirtual 94, 3) := dk_182 0 94 (dk_at dksX2_acts_0 17 rfl rfl)
theorem dX2_acts_20 : decode cX2_acts 20 = .ok (.invokevirtual 148, 3) := dk_182 0 148 (dk_at dksX2_acts_0 20 rfl rfl)
theorem dX2_acts_23 : decode cX2_acts 23 = .ok (.goto 4, 3) := dk_167 0 4 (dk_at dksX2_acts_1 0 rfl rfl)
theorem dX2_acts_26 : decode cX2_acts 26 = .ok (.dconst 0, 1) := dk_14 (dk_at dksX2_acts_1 3 rfl rfl)
theorem dX2_acts_27 : decode cX2_acts 27 = .ok (.dstore_n 3, 1) := dk_74 (dk_at dksX2_acts_1 4 rfl rfl)
theorem dX2_acts_28 : decode cX2_acts 28 = .ok (.aload_n 0, 1) := dk_42 (dk_at dksX2_acts_1 5 rfl rfl)
theorem dX2_acts_29 : decode cX2_acts 29 = .ok (.getfield 3, 3) := dk_180 0 3 (dk_at dksX2_acts_1 6 rfl rfl)
theorem dX2_acts_32 : decode cX2_acts 32 = .ok (.getfield 75, 3) := dk_180 0 75 (dk_at dksX2_acts_1 9 rfl rfl)
theorem dX2_acts_35 : decode cX2_acts 35 = .ok (.aload_n 2, 1) := dk_44 (dk_at dksX2_acts_1 12 rfl rfl)
theorem dX2_acts_36 : decode cX2_acts 36 = .ok (.getfield 60, 3) := dk_180 0 60 (dk_at dksX2_acts_1 13 rfl rfl)
theorem dX2_acts_39 : decode cX2_acts 39 = .ok (.iaload, 1) := dk_46 (dk_at dksX2_acts_1 16 rfl rfl)
theorem dX2_acts_40 : decode cX2_acts 40 = .ok (.iconst 2, 1) := dk_5 (dk_at dksX2_acts_1 17 rfl rfl)
theorem dX2_acts_41 : decode cX2_acts 41 = .ok (.if_icmp .ne 11, 3) := dk_160 0 11 (dk_at dksX2_acts_1 18 rfl rfl)
theorem dX2_acts_44 : decode cX2_acts 44 = .ok (.aload_n 0, 1) := dk_42 (dk_at dksX2_acts_1 21 rfl rfl)
theorem dX2_acts_45 : decode cX2_acts 45 = .ok (.aload_n 1, 1) := dk_43 (dk_at dksX2_acts_1 22 rfl rfl)
theorem dX2_acts_46 : decode cX2_acts 46 = .ok (.dload_n 3, 1) := dk_41 (dk_at dksX2_acts_1 23 rfl rfl)
theorem dX2_acts_47 : decode cX2_acts 47 = .ok (.invokevirtual 152, 3) := dk_182 0 152 (dk_at dksX2_acts_2 0 rfl rfl)
theorem dX2_acts_50 : decode cX2_acts 50 = .ok (.iconst (-1), 1) := dk_2 (dk_at dksX2_acts_2 3 rfl rfl)
theorem dX2_acts_51 : decode cX2_acts 51 = .ok (.ireturn, 1) := dk_172 (dk_at dksX2_acts_2 4 rfl rfl)
theorem dX2_acts_52 : decode cX2_acts 52 = .ok (.aload_n 0, 1) := dk_42 (dk_at dksX2_acts_2 5 rfl rfl)
theorem dX2_acts_53 : decode cX2_acts 53 = .ok (.aload_n 1, 1) := dk_43 (dk_at dksX2_acts_2 6 rfl rfl)
theorem dX2_acts_54 : decode cX2_acts 54 = .ok (.iconst 1, 1) := dk_4 (dk_at dksX2_acts_2 7 rfl rfl)
theorem dX2_acts_55 : decode cX2_acts 55 = .ok (.invokevirtual 94, 3) := dk_182 0 94 (dk_at dksX2_acts_2 8 rfl rfl)
theorem dX2_acts_58 : decode cX2_acts 58 = .ok (.invokevirtual 148, 3) := dk_182 0 148 (dk_at dksX2_acts_2 11 rfl rfl)
theorem dX2_acts_61 : decode cX2_acts 61 = .ok (.dstore 5, 2) := dk_57 5 (dk_at dksX2_acts_2 14 rfl rfl)
theorem dX2_acts_63 : decode cX2_acts 63 = .ok (.aload_n 0, 1) := dk_42 (dk_at dksX2_acts_2 16 rfl rfl)
theorem dX2_acts_64 : decode cX2_acts 64 = .ok (.getfield 3, 3) := dk_180 0 3 (dk_at dksX2_acts_2 17 rfl rfl)
theorem dX2_acts_67 : decode cX2_acts 67 = .ok (.aload_n 1, 1) := dk_43 (dk_at dksX2_acts_2 20 rfl rfl)
theorem dX2_acts_68 : decode cX2_acts 68 = .ok (.invokevirtual 120, 3) := dk_182 0 120 (dk_at dksX2_acts_2 21 rfl rfl)
theorem dX2_acts_71 : decode cX2_acts 71 = .ok (.istore 7, 2) := dk_54 7 (dk_at dksX2_acts_3 0 rfl rfl)
theorem dX2_acts_73 : decode cX2_acts 73 = .ok (.aload_n 1, 1) := dk_43 (dk_at dksX2_acts_3 2 rfl rfl)
theorem dX2_acts_74 : decode cX2_acts 74 = .ok (.getfield 111, 3) := dk_180 0 111 (dk_at dksX2_acts_3 3 rfl rfl)
theorem dX2_acts_77 : decode cX2_acts 77 = .ok (.getfield 156, 3) := dk_180 0 156 (dk_at dksX2_acts_3 6 rfl rfl)
theorem dX2_acts_80 : decode cX2_acts 80 = .ok (.bipush 10, 2) := dk_16 10 (dk_at dksX2_acts_3 9 rfl rfl)
theorem dX2_acts_82 : decode cX2_acts 82 = .ok (.if_icmp .ne 16, 3) := dk_160 0 16 (dk_at dksX2_acts_3 11 rfl rfl)
theorem dX2_acts_85 : decode cX2_acts 85 = .ok (.iload 7, 2) := dk_21 7 (dk_at dksX2_acts_3 14 rfl rfl)
theorem dX2_acts_87 : decode cX2_acts 87 = .ok (.dload 5, 2) := dk_24 5 (dk_at dksX2_acts_3 16 rfl rfl)
theorem dX2_acts_89 : decode cX2_acts 89 = .ok (.dload_n 3, 1) := dk_41 (dk_at dksX2_acts_3 18 rfl rfl)
theorem dX2_acts_90 : decode cX2_acts 90 = .ok (.invokestatic 157, 3) := dk_184 0 157 (dk_at dksX2_acts_3 19 rfl rfl)
theorem dX2_acts_93 : decode cX2_acts 93 = .ok (.ifCond .ne 5, 3) := dk_154 0 5 (dk_at dksX2_acts_4 0 rfl rfl)
theorem dX2_acts_96 : decode cX2_acts 96 = .ok (.iconst (-1), 1) := dk_2 (dk_at dksX2_acts_4 3 rfl rfl)
theorem dX2_acts_97 : decode cX2_acts 97 = .ok (.ireturn, 1) := dk_172 (dk_at dksX2_acts_4 4 rfl rfl)
theorem dX2_acts_98 : decode cX2_acts 98 = .ok (.aload_n 0, 1) := dk_42 (dk_at dksX2_acts_4 5 rfl rfl)
theorem dX2_acts_99 : decode cX2_acts 99 = .ok (.aload_n 2, 1) := dk_44 (dk_at dksX2_acts_4 6 rfl rfl)
theorem dX2_acts_100 : decode cX2_acts 100 = .ok (.aload_n 0, 1) := dk_42 (dk_at dksX2_acts_4 7 rfl rfl)
theorem dX2_acts_101 : decode cX2_acts 101 = .ok (.getfield 3, 3) := dk_180 0 3 (dk_at dksX2_acts_4 8 rfl rfl)
theorem dX2_acts_104 : decode cX2_acts 104 = .ok (.getfield 79, 3) := dk_180 0 79 (dk_at dksX2_acts_4 11 rfl rfl)
theorem dX2_acts_107 : decode cX2_acts 107 = .ok (.aload_n 2, 1) := dk_44 (dk_at dksX2_acts_4 14 rfl rfl)
theorem dX2_acts_108 : decode cX2_acts 108 = .ok (.getfield 60, 3) := dk_180 0 60 (dk_at dksX2_acts_4 15 rfl rfl)
theorem dX2_acts_111 : decode cX2_acts 111 = .ok (.aaload, 1) := dk_50 (dk_at dksX2_acts_4 18 rfl rfl)
theorem dX2_acts_112 : decode cX2_acts 112 = .ok (.aload_n 1, 1) := dk_43 (dk_at dksX2_acts_4 19 rfl rfl)
theorem dX2_acts_113 : decode cX2_acts 113 = .ok (.getfield 111, 3) := dk_180 0 111 (dk_at dksX2_acts_4 20 rfl rfl)
theorem dX2_acts_116 : decode cX2_acts 116 = .ok (.iload 7, 2) := dk_21 7 (dk_at dksX2_acts_5 0 rfl rfl)
theorem dX2_acts_118 : decode cX2_acts 118 = .ok (.dload 5, 2) := dk_24 5 (dk_at dksX2_acts_5 2 rfl rfl)
theorem dX2_acts_120 : decode cX2_acts 120 = .ok (.dload_n 3, 1) := dk_41 (dk_at dksX2_acts_5 4 rfl rfl)
theorem dX2_acts_121 : decode cX2_acts 121 = .ok (.invokestatic 124, 3) := dk_184 0 124 (dk_at dksX2_acts_5 5 rfl rfl)
theorem dX2_acts_124 : decode cX2_acts 124 = .ok (.invokevirtual 128, 3) := dk_182 0 128 (dk_at dksX2_acts_5 8 rfl rfl)
theorem dX2_acts_127 : decode cX2_acts 127 = .ok (.invokevirtual 161, 3) := dk_182 0 161 (dk_at dksX2_acts_5 11 rfl rfl)
theorem dX2_acts_130 : decode cX2_acts 130 = .ok (.iconst (-1), 1) := dk_2 (dk_at dksX2_acts_5 14 rfl rfl)
theorem dX2_acts_131 : decode cX2_acts 131 = .ok (.ireturn, 1) := dk_172 (dk_at dksX2_acts_5 15 rfl rfl)
theorem dX2_acts_132 : decode cX2_acts 132 = .ok (.astore 8, 2) := dk_58 8 (dk_at dksX2_acts_5 16 rfl rfl)
theorem dX2_acts_134 : decode cX2_acts 134 = .ok (.iconst 2, 1) := dk_5 (dk_at dksX2_acts_5 18 rfl rfl)
theorem dX2_acts_135 : decode cX2_acts 135 = .ok (.ireturn, 1) := dk_172 (dk_at dksX2_acts_5 19 rfl rfl)
abbrev cX2_value : ByteArray := prog_14_method_6_code
def yX2_value : MethodName := ⟨RX2, "value", "(LStrideTurns$Reference;)D"⟩
def dkwX2_value_4 : List UInt8 := [50, 28, 182, 0, 83, 175]
abbrev dktX2_value_4 : List UInt8 := dkwX2_value_4 ++ []
def dkwX2_value_3 : List UInt8 := [51, 153, 0, 12, 42, 180, 0, 15, 29, 49, 167, 0, 19, 42, 180, 0, 3, 180, 0, 79, 43, 180, 0, 60]
abbrev dktX2_value_3 : List UInt8 := dkwX2_value_3 ++ dktX2_value_4
def dkwX2_value_2 : List UInt8 := [28, 96, 62, 42, 180, 0, 3, 180, 0, 75, 43, 180, 0, 60, 46, 6, 160, 0, 21, 42, 180, 0, 19, 29]
abbrev dktX2_value_2 : List UInt8 := dkwX2_value_2 ++ dktX2_value_3
def dkwX2_value_1 : List UInt8 := [180, 0, 65, 42, 180, 0, 23, 42, 180, 0, 37, 185, 0, 69, 3, 0, 61, 16, 24, 43, 180, 0, 60, 104]
abbrev dktX2_value_1 : List UInt8 := dkwX2_value_1 ++ dktX2_value_2
def dkwX2_value_0 : List UInt8 := [43, 180, 0, 60, 2, 160, 0, 16, 43, 180, 0, 65, 3, 3, 185, 0, 69, 3, 0, 135, 175, 43]
abbrev dktX2_value_0 : List UInt8 := dkwX2_value_0 ++ dktX2_value_1
theorem dksX2_value_0 : cX2_value.data.toList.drop 0 = dktX2_value_0 := by decide +kernel
theorem dksX2_value_1 : cX2_value.data.toList.drop 22 = dktX2_value_1 := dk_seg dksX2_value_0 22 rfl rfl
theorem dksX2_value_2 : cX2_value.data.toList.drop 46 = dktX2_value_2 := dk_seg dksX2_value_1 24 rfl rfl
theorem dksX2_value_3 : cX2_value.data.toList.drop 70 = dktX2_value_3 := dk_seg dksX2_value_2 24 rfl rfl
theorem dksX2_value_4 : cX2_value.data.toList.drop 94 = dktX2_value_4 := dk_seg dksX2_value_3 24 rfl rfl
theorem dX2_value_0 : decode cX2_value 0 = .ok (.aload_n 1, 1) := dk_43 (dk_at dksX2_value_0 0 rfl rfl)
theorem dX2_value_1 : decode cX2_value 1 = .ok (.getfield 60, 3) := dk_180 0 60 (dk_at dksX2_value_0 1 rfl rfl)
theorem dX2_value_4 : decode cX2_value 4 = .ok (.iconst (-1), 1) := dk_2 (dk_at dksX2_value_0 4 rfl rfl)
theorem dX2_value_5 : decode cX2_value 5 = .ok (.if_icmp .ne 16, 3) := dk_160 0 16 (dk_at dksX2_value_0 5 rfl rfl)
theorem dX2_value_8 : decode cX2_value 8 = .ok (.aload_n 1, 1) := dk_43 (dk_at dksX2_value_0 8 rfl rfl)
theorem dX2_value_9 : decode cX2_value 9 = .ok (.getfield 65, 3) := dk_180 0 65 (dk_at dksX2_value_0 9 rfl rfl)
theorem dX2_value_12 : decode cX2_value 12 = .ok (.iconst 0, 1) := dk_3 (dk_at dksX2_value_0 12 rfl rfl)
theorem dX2_value_13 : decode cX2_value 13 = .ok (.iconst 0, 1) := dk_3 (dk_at dksX2_value_0 13 rfl rfl)
theorem dX2_value_14 : decode cX2_value 14 = .ok (.invokeinterface 69 3, 5) := by decide +kernel
theorem dX2_value_19 : decode cX2_value 19 = .ok (.i2d, 1) := dk_135 (dk_at dksX2_value_0 19 rfl rfl)
theorem dX2_value_20 : decode cX2_value 20 = .ok (.dreturn, 1) := dk_175 (dk_at dksX2_value_0 20 rfl rfl)
theorem dX2_value_21 : decode cX2_value 21 = .ok (.aload_n 1, 1) := dk_43 (dk_at dksX2_value_0 21 rfl rfl)
theorem dX2_value_22 : decode cX2_value 22 = .ok (.getfield 65, 3) := dk_180 0 65 (dk_at dksX2_value_1 0 rfl rfl)
theorem dX2_value_25 : decode cX2_value 25 = .ok (.aload_n 0, 1) := dk_42 (dk_at dksX2_value_1 3 rfl rfl)
theorem dX2_value_26 : decode cX2_value 26 = .ok (.getfield 23, 3) := dk_180 0 23 (dk_at dksX2_value_1 4 rfl rfl)
theorem dX2_value_29 : decode cX2_value 29 = .ok (.aload_n 0, 1) := dk_42 (dk_at dksX2_value_1 7 rfl rfl)
theorem dX2_value_30 : decode cX2_value 30 = .ok (.getfield 37, 3) := dk_180 0 37 (dk_at dksX2_value_1 8 rfl rfl)
theorem dX2_value_33 : decode cX2_value 33 = .ok (.invokeinterface 69 3, 5) := by decide +kernel
theorem dX2_value_38 : decode cX2_value 38 = .ok (.istore_n 2, 1) := dk_61 (dk_at dksX2_value_1 16 rfl rfl)
theorem dX2_value_39 : decode cX2_value 39 = .ok (.bipush 24, 2) := dk_16 24 (dk_at dksX2_value_1 17 rfl rfl)
theorem dX2_value_41 : decode cX2_value 41 = .ok (.aload_n 1, 1) := dk_43 (dk_at dksX2_value_1 19 rfl rfl)
theorem dX2_value_42 : decode cX2_value 42 = .ok (.getfield 60, 3) := dk_180 0 60 (dk_at dksX2_value_1 20 rfl rfl)
theorem dX2_value_45 : decode cX2_value 45 = .ok (.imul, 1) := dk_104 (dk_at dksX2_value_1 23 rfl rfl)
theorem dX2_value_46 : decode cX2_value 46 = .ok (.iload_n 2, 1) := dk_28 (dk_at dksX2_value_2 0 rfl rfl)
theorem dX2_value_47 : decode cX2_value 47 = .ok (.iadd, 1) := dk_96 (dk_at dksX2_value_2 1 rfl rfl)
theorem dX2_value_48 : decode cX2_value 48 = .ok (.istore_n 3, 1) := dk_62 (dk_at dksX2_value_2 2 rfl rfl)
theorem dX2_value_49 : decode cX2_value 49 = .ok (.aload_n 0, 1) := dk_42 (dk_at dksX2_value_2 3 rfl rfl)
theorem dX2_value_50 : decode cX2_value 50 = .ok (.getfield 3, 3) := dk_180 0 3 (dk_at dksX2_value_2 4 rfl rfl)
theorem dX2_value_53 : decode cX2_value 53 = .ok (.getfield 75, 3) := dk_180 0 75 (dk_at dksX2_value_2 7 rfl rfl)
theorem dX2_value_56 : decode cX2_value 56 = .ok (.aload_n 1, 1) := dk_43 (dk_at dksX2_value_2 10 rfl rfl)
theorem dX2_value_57 : decode cX2_value 57 = .ok (.getfield 60, 3) := dk_180 0 60 (dk_at dksX2_value_2 11 rfl rfl)
theorem dX2_value_60 : decode cX2_value 60 = .ok (.iaload, 1) := dk_46 (dk_at dksX2_value_2 14 rfl rfl)
theorem dX2_value_61 : decode cX2_value 61 = .ok (.iconst 3, 1) := dk_6 (dk_at dksX2_value_2 15 rfl rfl)
theorem dX2_value_62 : decode cX2_value 62 = .ok (.if_icmp .ne 21, 3) := dk_160 0 21 (dk_at dksX2_value_2 16 rfl rfl)
theorem dX2_value_65 : decode cX2_value 65 = .ok (.aload_n 0, 1) := dk_42 (dk_at dksX2_value_2 19 rfl rfl)
theorem dX2_value_66 : decode cX2_value 66 = .ok (.getfield 19, 3) := dk_180 0 19 (dk_at dksX2_value_2 20 rfl rfl)
theorem dX2_value_69 : decode cX2_value 69 = .ok (.iload_n 3, 1) := dk_29 (dk_at dksX2_value_2 23 rfl rfl)
theorem dX2_value_70 : decode cX2_value 70 = .ok (.baload, 1) := dk_51 (dk_at dksX2_value_3 0 rfl rfl)
theorem dX2_value_71 : decode cX2_value 71 = .ok (.ifCond .eq 12, 3) := dk_153 0 12 (dk_at dksX2_value_3 1 rfl rfl)
theorem dX2_value_74 : decode cX2_value 74 = .ok (.aload_n 0, 1) := dk_42 (dk_at dksX2_value_3 4 rfl rfl)
theorem dX2_value_75 : decode cX2_value 75 = .ok (.getfield 15, 3) := dk_180 0 15 (dk_at dksX2_value_3 5 rfl rfl)
theorem dX2_value_78 : decode cX2_value 78 = .ok (.iload_n 3, 1) := dk_29 (dk_at dksX2_value_3 8 rfl rfl)
theorem dX2_value_79 : decode cX2_value 79 = .ok (.daload, 1) := dk_49 (dk_at dksX2_value_3 9 rfl rfl)
theorem dX2_value_80 : decode cX2_value 80 = .ok (.goto 19, 3) := dk_167 0 19 (dk_at dksX2_value_3 10 rfl rfl)
theorem dX2_value_83 : decode cX2_value 83 = .ok (.aload_n 0, 1) := dk_42 (dk_at dksX2_value_3 13 rfl rfl)
theorem dX2_value_84 : decode cX2_value 84 = .ok (.getfield 3, 3) := dk_180 0 3 (dk_at dksX2_value_3 14 rfl rfl)
theorem dX2_value_87 : decode cX2_value 87 = .ok (.getfield 79, 3) := dk_180 0 79 (dk_at dksX2_value_3 17 rfl rfl)
theorem dX2_value_90 : decode cX2_value 90 = .ok (.aload_n 1, 1) := dk_43 (dk_at dksX2_value_3 20 rfl rfl)
theorem dX2_value_91 : decode cX2_value 91 = .ok (.getfield 60, 3) := dk_180 0 60 (dk_at dksX2_value_3 21 rfl rfl)
theorem dX2_value_94 : decode cX2_value 94 = .ok (.aaload, 1) := dk_50 (dk_at dksX2_value_4 0 rfl rfl)
theorem dX2_value_95 : decode cX2_value 95 = .ok (.iload_n 2, 1) := dk_28 (dk_at dksX2_value_4 1 rfl rfl)
theorem dX2_value_96 : decode cX2_value 96 = .ok (.invokevirtual 83, 3) := dk_182 0 83 (dk_at dksX2_value_4 2 rfl rfl)
theorem dX2_value_99 : decode cX2_value 99 = .ok (.dreturn, 1) := dk_175 (dk_at dksX2_value_4 5 rfl rfl)
abbrev cX2_brings : ByteArray := prog_14_method_10_code
def yX2_brings : MethodName := ⟨RX2, "brings", "(LStrideTurns$Statement;D)V"⟩
def dkwX2_brings_6 : List UInt8 := [182, 0, 128, 167, 0, 9, 25, 6, 40, 182, 0, 128, 82, 42, 180, 0, 19, 21, 5, 4, 84, 177]
abbrev dktX2_brings_6 : List UInt8 := dkwX2_brings_6 ++ []
def dkwX2_brings_5 : List UInt8 := [180, 0, 111, 42, 180, 0, 3, 43, 182, 0, 120, 42, 180, 0, 15, 21, 5, 49, 40, 184, 0, 124]
abbrev dktX2_brings_5 : List UInt8 := dkwX2_brings_5 ++ dktX2_brings_6
def dkwX2_brings_4 : List UInt8 := [180, 0, 15, 21, 5, 42, 180, 0, 19, 21, 5, 51, 154, 0, 8, 21, 7, 153, 0, 34, 25, 6, 43]
abbrev dktX2_brings_4 : List UInt8 := dkwX2_brings_4 ++ dktX2_brings_5
def dkwX2_brings_3 : List UInt8 := [153, 0, 21, 42, 180, 0, 19, 21, 5, 51, 154, 0, 11, 42, 180, 0, 15, 21, 5, 14, 82, 42]
abbrev dktX2_brings_3 : List UInt8 := dkwX2_brings_3 ++ dktX2_brings_4
def dkwX2_brings_2 : List UInt8 := [50, 58, 6, 43, 180, 0, 111, 180, 0, 115, 4, 160, 0, 7, 4, 167, 0, 4, 3, 54, 7, 21, 7]
abbrev dktX2_brings_2 : List UInt8 := dkwX2_brings_2 ++ dktX2_brings_3
def dkwX2_brings_1 : List UInt8 := [42, 180, 0, 37, 185, 0, 69, 3, 0, 96, 54, 5, 42, 180, 0, 3, 180, 0, 79, 25, 4, 180, 0, 60]
abbrev dktX2_brings_1 : List UInt8 := dkwX2_brings_1 ++ dktX2_brings_2
def dkwX2_brings_0 : List UInt8 := [43, 3, 182, 0, 94, 58, 4, 16, 24, 25, 4, 180, 0, 60, 104, 25, 4, 180, 0, 65, 42, 180, 0, 23]
abbrev dktX2_brings_0 : List UInt8 := dkwX2_brings_0 ++ dktX2_brings_1
theorem dksX2_brings_0 : cX2_brings.data.toList.drop 0 = dktX2_brings_0 := by decide +kernel
theorem dksX2_brings_1 : cX2_brings.data.toList.drop 24 = dktX2_brings_1 := dk_seg dksX2_brings_0 24 rfl rfl
theorem dksX2_brings_2 : cX2_brings.data.toList.drop 48 = dktX2_brings_2 := dk_seg dksX2_brings_1 24 rfl rfl
theorem dksX2_brings_3 : cX2_brings.data.toList.drop 71 = dktX2_brings_3 := dk_seg dksX2_brings_2 23 rfl rfl
theorem dksX2_brings_4 : cX2_brings.data.toList.drop 93 = dktX2_brings_4 := dk_seg dksX2_brings_3 22 rfl rfl
theorem dksX2_brings_5 : cX2_brings.data.toList.drop 116 = dktX2_brings_5 := dk_seg dksX2_brings_4 23 rfl rfl
theorem dksX2_brings_6 : cX2_brings.data.toList.drop 138 = dktX2_brings_6 := dk_seg dksX2_brings_5 22 rfl rfl
theorem dX2_brings_0 : decode cX2_brings 0 = .ok (.aload_n 1, 1) := dk_43 (dk_at dksX2_brings_0 0 rfl rfl)
theorem dX2_brings_1 : decode cX2_brings 1 = .ok (.iconst 0, 1) := dk_3 (dk_at dksX2_brings_0 1 rfl rfl)
theorem dX2_brings_2 : decode cX2_brings 2 = .ok (.invokevirtual 94, 3) := dk_182 0 94 (dk_at dksX2_brings_0 2 rfl rfl)
theorem dX2_brings_5 : decode cX2_brings 5 = .ok (.astore 4, 2) := dk_58 4 (dk_at dksX2_brings_0 5 rfl rfl)
theorem dX2_brings_7 : decode cX2_brings 7 = .ok (.bipush 24, 2) := dk_16 24 (dk_at dksX2_brings_0 7 rfl rfl)
theorem dX2_brings_9 : decode cX2_brings 9 = .ok (.aload 4, 2) := dk_25 4 (dk_at dksX2_brings_0 9 rfl rfl)
theorem dX2_brings_11 : decode cX2_brings 11 = .ok (.getfield 60, 3) := dk_180 0 60 (dk_at dksX2_brings_0 11 rfl rfl)
theorem dX2_brings_14 : decode cX2_brings 14 = .ok (.imul, 1) := dk_104 (dk_at dksX2_brings_0 14 rfl rfl)
theorem dX2_brings_15 : decode cX2_brings 15 = .ok (.aload 4, 2) := dk_25 4 (dk_at dksX2_brings_0 15 rfl rfl)
theorem dX2_brings_17 : decode cX2_brings 17 = .ok (.getfield 65, 3) := dk_180 0 65 (dk_at dksX2_brings_0 17 rfl rfl)
theorem dX2_brings_20 : decode cX2_brings 20 = .ok (.aload_n 0, 1) := dk_42 (dk_at dksX2_brings_0 20 rfl rfl)
theorem dX2_brings_21 : decode cX2_brings 21 = .ok (.getfield 23, 3) := dk_180 0 23 (dk_at dksX2_brings_0 21 rfl rfl)
theorem dX2_brings_24 : decode cX2_brings 24 = .ok (.aload_n 0, 1) := dk_42 (dk_at dksX2_brings_1 0 rfl rfl)
theorem dX2_brings_25 : decode cX2_brings 25 = .ok (.getfield 37, 3) := dk_180 0 37 (dk_at dksX2_brings_1 1 rfl rfl)
theorem dX2_brings_28 : decode cX2_brings 28 = .ok (.invokeinterface 69 3, 5) := by decide +kernel
theorem dX2_brings_33 : decode cX2_brings 33 = .ok (.iadd, 1) := dk_96 (dk_at dksX2_brings_1 9 rfl rfl)
theorem dX2_brings_34 : decode cX2_brings 34 = .ok (.istore 5, 2) := dk_54 5 (dk_at dksX2_brings_1 10 rfl rfl)
theorem dX2_brings_36 : decode cX2_brings 36 = .ok (.aload_n 0, 1) := dk_42 (dk_at dksX2_brings_1 12 rfl rfl)
theorem dX2_brings_37 : decode cX2_brings 37 = .ok (.getfield 3, 3) := dk_180 0 3 (dk_at dksX2_brings_1 13 rfl rfl)
theorem dX2_brings_40 : decode cX2_brings 40 = .ok (.getfield 79, 3) := dk_180 0 79 (dk_at dksX2_brings_1 16 rfl rfl)
theorem dX2_brings_43 : decode cX2_brings 43 = .ok (.aload 4, 2) := dk_25 4 (dk_at dksX2_brings_1 19 rfl rfl)
theorem dX2_brings_45 : decode cX2_brings 45 = .ok (.getfield 60, 3) := dk_180 0 60 (dk_at dksX2_brings_1 21 rfl rfl)
theorem dX2_brings_48 : decode cX2_brings 48 = .ok (.aaload, 1) := dk_50 (dk_at dksX2_brings_2 0 rfl rfl)
theorem dX2_brings_49 : decode cX2_brings 49 = .ok (.astore 6, 2) := dk_58 6 (dk_at dksX2_brings_2 1 rfl rfl)
theorem dX2_brings_51 : decode cX2_brings 51 = .ok (.aload_n 1, 1) := dk_43 (dk_at dksX2_brings_2 3 rfl rfl)
theorem dX2_brings_52 : decode cX2_brings 52 = .ok (.getfield 111, 3) := dk_180 0 111 (dk_at dksX2_brings_2 4 rfl rfl)
theorem dX2_brings_55 : decode cX2_brings 55 = .ok (.getfield 115, 3) := dk_180 0 115 (dk_at dksX2_brings_2 7 rfl rfl)
theorem dX2_brings_58 : decode cX2_brings 58 = .ok (.iconst 1, 1) := dk_4 (dk_at dksX2_brings_2 10 rfl rfl)
theorem dX2_brings_59 : decode cX2_brings 59 = .ok (.if_icmp .ne 7, 3) := dk_160 0 7 (dk_at dksX2_brings_2 11 rfl rfl)
theorem dX2_brings_62 : decode cX2_brings 62 = .ok (.iconst 1, 1) := dk_4 (dk_at dksX2_brings_2 14 rfl rfl)
theorem dX2_brings_63 : decode cX2_brings 63 = .ok (.goto 4, 3) := dk_167 0 4 (dk_at dksX2_brings_2 15 rfl rfl)
theorem dX2_brings_66 : decode cX2_brings 66 = .ok (.iconst 0, 1) := dk_3 (dk_at dksX2_brings_2 18 rfl rfl)
theorem dX2_brings_67 : decode cX2_brings 67 = .ok (.istore 7, 2) := dk_54 7 (dk_at dksX2_brings_2 19 rfl rfl)
theorem dX2_brings_69 : decode cX2_brings 69 = .ok (.iload 7, 2) := dk_21 7 (dk_at dksX2_brings_2 21 rfl rfl)
theorem dX2_brings_71 : decode cX2_brings 71 = .ok (.ifCond .eq 21, 3) := dk_153 0 21 (dk_at dksX2_brings_3 0 rfl rfl)
theorem dX2_brings_74 : decode cX2_brings 74 = .ok (.aload_n 0, 1) := dk_42 (dk_at dksX2_brings_3 3 rfl rfl)
theorem dX2_brings_75 : decode cX2_brings 75 = .ok (.getfield 19, 3) := dk_180 0 19 (dk_at dksX2_brings_3 4 rfl rfl)
theorem dX2_brings_78 : decode cX2_brings 78 = .ok (.iload 5, 2) := dk_21 5 (dk_at dksX2_brings_3 7 rfl rfl)
theorem dX2_brings_80 : decode cX2_brings 80 = .ok (.baload, 1) := dk_51 (dk_at dksX2_brings_3 9 rfl rfl)
theorem dX2_brings_81 : decode cX2_brings 81 = .ok (.ifCond .ne 11, 3) := dk_154 0 11 (dk_at dksX2_brings_3 10 rfl rfl)
theorem dX2_brings_84 : decode cX2_brings 84 = .ok (.aload_n 0, 1) := dk_42 (dk_at dksX2_brings_3 13 rfl rfl)
theorem dX2_brings_85 : decode cX2_brings 85 = .ok (.getfield 15, 3) := dk_180 0 15 (dk_at dksX2_brings_3 14 rfl rfl)
theorem dX2_brings_88 : decode cX2_brings 88 = .ok (.iload 5, 2) := dk_21 5 (dk_at dksX2_brings_3 17 rfl rfl)
theorem dX2_brings_90 : decode cX2_brings 90 = .ok (.dconst 0, 1) := dk_14 (dk_at dksX2_brings_3 19 rfl rfl)
theorem dX2_brings_91 : decode cX2_brings 91 = .ok (.dastore, 1) := dk_82 (dk_at dksX2_brings_3 20 rfl rfl)
theorem dX2_brings_92 : decode cX2_brings 92 = .ok (.aload_n 0, 1) := dk_42 (dk_at dksX2_brings_3 21 rfl rfl)
theorem dX2_brings_93 : decode cX2_brings 93 = .ok (.getfield 15, 3) := dk_180 0 15 (dk_at dksX2_brings_4 0 rfl rfl)
theorem dX2_brings_96 : decode cX2_brings 96 = .ok (.iload 5, 2) := dk_21 5 (dk_at dksX2_brings_4 3 rfl rfl)
theorem dX2_brings_98 : decode cX2_brings 98 = .ok (.aload_n 0, 1) := dk_42 (dk_at dksX2_brings_4 5 rfl rfl)
theorem dX2_brings_99 : decode cX2_brings 99 = .ok (.getfield 19, 3) := dk_180 0 19 (dk_at dksX2_brings_4 6 rfl rfl)
theorem dX2_brings_102 : decode cX2_brings 102 = .ok (.iload 5, 2) := dk_21 5 (dk_at dksX2_brings_4 9 rfl rfl)
theorem dX2_brings_104 : decode cX2_brings 104 = .ok (.baload, 1) := dk_51 (dk_at dksX2_brings_4 11 rfl rfl)
theorem dX2_brings_105 : decode cX2_brings 105 = .ok (.ifCond .ne 8, 3) := dk_154 0 8 (dk_at dksX2_brings_4 12 rfl rfl)
theorem dX2_brings_108 : decode cX2_brings 108 = .ok (.iload 7, 2) := dk_21 7 (dk_at dksX2_brings_4 15 rfl rfl)
theorem dX2_brings_110 : decode cX2_brings 110 = .ok (.ifCond .eq 34, 3) := dk_153 0 34 (dk_at dksX2_brings_4 17 rfl rfl)
theorem dX2_brings_113 : decode cX2_brings 113 = .ok (.aload 6, 2) := dk_25 6 (dk_at dksX2_brings_4 20 rfl rfl)
theorem dX2_brings_115 : decode cX2_brings 115 = .ok (.aload_n 1, 1) := dk_43 (dk_at dksX2_brings_4 22 rfl rfl)
theorem dX2_brings_116 : decode cX2_brings 116 = .ok (.getfield 111, 3) := dk_180 0 111 (dk_at dksX2_brings_5 0 rfl rfl)
theorem dX2_brings_119 : decode cX2_brings 119 = .ok (.aload_n 0, 1) := dk_42 (dk_at dksX2_brings_5 3 rfl rfl)
theorem dX2_brings_120 : decode cX2_brings 120 = .ok (.getfield 3, 3) := dk_180 0 3 (dk_at dksX2_brings_5 4 rfl rfl)
theorem dX2_brings_123 : decode cX2_brings 123 = .ok (.aload_n 1, 1) := dk_43 (dk_at dksX2_brings_5 7 rfl rfl)
theorem dX2_brings_124 : decode cX2_brings 124 = .ok (.invokevirtual 120, 3) := dk_182 0 120 (dk_at dksX2_brings_5 8 rfl rfl)
theorem dX2_brings_127 : decode cX2_brings 127 = .ok (.aload_n 0, 1) := dk_42 (dk_at dksX2_brings_5 11 rfl rfl)
theorem dX2_brings_128 : decode cX2_brings 128 = .ok (.getfield 15, 3) := dk_180 0 15 (dk_at dksX2_brings_5 12 rfl rfl)
theorem dX2_brings_131 : decode cX2_brings 131 = .ok (.iload 5, 2) := dk_21 5 (dk_at dksX2_brings_5 15 rfl rfl)
theorem dX2_brings_133 : decode cX2_brings 133 = .ok (.daload, 1) := dk_49 (dk_at dksX2_brings_5 17 rfl rfl)
theorem dX2_brings_134 : decode cX2_brings 134 = .ok (.dload_n 2, 1) := dk_40 (dk_at dksX2_brings_5 18 rfl rfl)
theorem dX2_brings_135 : decode cX2_brings 135 = .ok (.invokestatic 124, 3) := dk_184 0 124 (dk_at dksX2_brings_5 19 rfl rfl)
theorem dX2_brings_138 : decode cX2_brings 138 = .ok (.invokevirtual 128, 3) := dk_182 0 128 (dk_at dksX2_brings_6 0 rfl rfl)
theorem dX2_brings_141 : decode cX2_brings 141 = .ok (.goto 9, 3) := dk_167 0 9 (dk_at dksX2_brings_6 3 rfl rfl)
theorem dX2_brings_144 : decode cX2_brings 144 = .ok (.aload 6, 2) := dk_25 6 (dk_at dksX2_brings_6 6 rfl rfl)
theorem dX2_brings_146 : decode cX2_brings 146 = .ok (.dload_n 2, 1) := dk_40 (dk_at dksX2_brings_6 8 rfl rfl)
theorem dX2_brings_147 : decode cX2_brings 147 = .ok (.invokevirtual 128, 3) := dk_182 0 128 (dk_at dksX2_brings_6 9 rfl rfl)
theorem dX2_brings_150 : decode cX2_brings 150 = .ok (.dastore, 1) := dk_82 (dk_at dksX2_brings_6 12 rfl rfl)
theorem dX2_brings_151 : decode cX2_brings 151 = .ok (.aload_n 0, 1) := dk_42 (dk_at dksX2_brings_6 13 rfl rfl)
theorem dX2_brings_152 : decode cX2_brings 152 = .ok (.getfield 19, 3) := dk_180 0 19 (dk_at dksX2_brings_6 14 rfl rfl)
theorem dX2_brings_155 : decode cX2_brings 155 = .ok (.iload 5, 2) := dk_21 5 (dk_at dksX2_brings_6 17 rfl rfl)
theorem dX2_brings_157 : decode cX2_brings 157 = .ok (.iconst 1, 1) := dk_4 (dk_at dksX2_brings_6 19 rfl rfl)
theorem dX2_brings_158 : decode cX2_brings 158 = .ok (.bastore, 1) := dk_84 (dk_at dksX2_brings_6 20 rfl rfl)
theorem dX2_brings_159 : decode cX2_brings 159 = .ok (.return_, 1) := dk_177 (dk_at dksX2_brings_6 21 rfl rfl)
abbrev cX2_writes : ByteArray := prog_14_method_9_code
def yX2_writes : MethodName := ⟨RX2, "writes", "(LStrideTurns$Reference;D)V"⟩
def dkwX2_writes_4 : List UInt8 := [43, 180, 0, 60, 50, 180, 0, 108, 21, 4, 42, 180, 0, 23, 79, 177]
abbrev dktX2_writes_4 : List UInt8 := dkwX2_writes_4 ++ []
def dkwX2_writes_3 : List UInt8 := [180, 0, 3, 180, 0, 79, 43, 180, 0, 60, 50, 21, 4, 40, 182, 0, 104, 42, 180, 0, 3, 180, 0, 79]
abbrev dktX2_writes_3 : List UInt8 := dkwX2_writes_3 ++ dktX2_writes_4
def dkwX2_writes_2 : List UInt8 := [160, 0, 22, 42, 180, 0, 15, 21, 5, 40, 82, 42, 180, 0, 19, 21, 5, 4, 84, 167, 0, 43, 42]
abbrev dktX2_writes_2 : List UInt8 := dkwX2_writes_2 ++ dktX2_writes_3
def dkwX2_writes_1 : List UInt8 := [180, 0, 60, 104, 21, 4, 96, 54, 5, 42, 180, 0, 3, 180, 0, 75, 43, 180, 0, 60, 46, 6]
abbrev dktX2_writes_1 : List UInt8 := dkwX2_writes_1 ++ dktX2_writes_2
def dkwX2_writes_0 : List UInt8 := [43, 180, 0, 65, 42, 180, 0, 23, 42, 180, 0, 37, 185, 0, 69, 3, 0, 54, 4, 16, 24, 43]
abbrev dktX2_writes_0 : List UInt8 := dkwX2_writes_0 ++ dktX2_writes_1
theorem dksX2_writes_0 : cX2_writes.data.toList.drop 0 = dktX2_writes_0 := by decide +kernel
theorem dksX2_writes_1 : cX2_writes.data.toList.drop 22 = dktX2_writes_1 := dk_seg dksX2_writes_0 22 rfl rfl
theorem dksX2_writes_2 : cX2_writes.data.toList.drop 44 = dktX2_writes_2 := dk_seg dksX2_writes_1 22 rfl rfl
theorem dksX2_writes_3 : cX2_writes.data.toList.drop 67 = dktX2_writes_3 := dk_seg dksX2_writes_2 23 rfl rfl
theorem dksX2_writes_4 : cX2_writes.data.toList.drop 91 = dktX2_writes_4 := dk_seg dksX2_writes_3 24 rfl rfl
theorem dX2_writes_0 : decode cX2_writes 0 = .ok (.aload_n 1, 1) := dk_43 (dk_at dksX2_writes_0 0 rfl rfl)
theorem dX2_writes_1 : decode cX2_writes 1 = .ok (.getfield 65, 3) := dk_180 0 65 (dk_at dksX2_writes_0 1 rfl rfl)
theorem dX2_writes_4 : decode cX2_writes 4 = .ok (.aload_n 0, 1) := dk_42 (dk_at dksX2_writes_0 4 rfl rfl)
theorem dX2_writes_5 : decode cX2_writes 5 = .ok (.getfield 23, 3) := dk_180 0 23 (dk_at dksX2_writes_0 5 rfl rfl)
theorem dX2_writes_8 : decode cX2_writes 8 = .ok (.aload_n 0, 1) := dk_42 (dk_at dksX2_writes_0 8 rfl rfl)
theorem dX2_writes_9 : decode cX2_writes 9 = .ok (.getfield 37, 3) := dk_180 0 37 (dk_at dksX2_writes_0 9 rfl rfl)
theorem dX2_writes_12 : decode cX2_writes 12 = .ok (.invokeinterface 69 3, 5) := by decide +kernel
theorem dX2_writes_17 : decode cX2_writes 17 = .ok (.istore 4, 2) := dk_54 4 (dk_at dksX2_writes_0 17 rfl rfl)
theorem dX2_writes_19 : decode cX2_writes 19 = .ok (.bipush 24, 2) := dk_16 24 (dk_at dksX2_writes_0 19 rfl rfl)
theorem dX2_writes_21 : decode cX2_writes 21 = .ok (.aload_n 1, 1) := dk_43 (dk_at dksX2_writes_0 21 rfl rfl)
theorem dX2_writes_22 : decode cX2_writes 22 = .ok (.getfield 60, 3) := dk_180 0 60 (dk_at dksX2_writes_1 0 rfl rfl)
theorem dX2_writes_25 : decode cX2_writes 25 = .ok (.imul, 1) := dk_104 (dk_at dksX2_writes_1 3 rfl rfl)
theorem dX2_writes_26 : decode cX2_writes 26 = .ok (.iload 4, 2) := dk_21 4 (dk_at dksX2_writes_1 4 rfl rfl)
theorem dX2_writes_28 : decode cX2_writes 28 = .ok (.iadd, 1) := dk_96 (dk_at dksX2_writes_1 6 rfl rfl)
theorem dX2_writes_29 : decode cX2_writes 29 = .ok (.istore 5, 2) := dk_54 5 (dk_at dksX2_writes_1 7 rfl rfl)
theorem dX2_writes_31 : decode cX2_writes 31 = .ok (.aload_n 0, 1) := dk_42 (dk_at dksX2_writes_1 9 rfl rfl)
theorem dX2_writes_32 : decode cX2_writes 32 = .ok (.getfield 3, 3) := dk_180 0 3 (dk_at dksX2_writes_1 10 rfl rfl)
theorem dX2_writes_35 : decode cX2_writes 35 = .ok (.getfield 75, 3) := dk_180 0 75 (dk_at dksX2_writes_1 13 rfl rfl)
theorem dX2_writes_38 : decode cX2_writes 38 = .ok (.aload_n 1, 1) := dk_43 (dk_at dksX2_writes_1 16 rfl rfl)
theorem dX2_writes_39 : decode cX2_writes 39 = .ok (.getfield 60, 3) := dk_180 0 60 (dk_at dksX2_writes_1 17 rfl rfl)
theorem dX2_writes_42 : decode cX2_writes 42 = .ok (.iaload, 1) := dk_46 (dk_at dksX2_writes_1 20 rfl rfl)
theorem dX2_writes_43 : decode cX2_writes 43 = .ok (.iconst 3, 1) := dk_6 (dk_at dksX2_writes_1 21 rfl rfl)
theorem dX2_writes_44 : decode cX2_writes 44 = .ok (.if_icmp .ne 22, 3) := dk_160 0 22 (dk_at dksX2_writes_2 0 rfl rfl)
theorem dX2_writes_47 : decode cX2_writes 47 = .ok (.aload_n 0, 1) := dk_42 (dk_at dksX2_writes_2 3 rfl rfl)
theorem dX2_writes_48 : decode cX2_writes 48 = .ok (.getfield 15, 3) := dk_180 0 15 (dk_at dksX2_writes_2 4 rfl rfl)
theorem dX2_writes_51 : decode cX2_writes 51 = .ok (.iload 5, 2) := dk_21 5 (dk_at dksX2_writes_2 7 rfl rfl)
theorem dX2_writes_53 : decode cX2_writes 53 = .ok (.dload_n 2, 1) := dk_40 (dk_at dksX2_writes_2 9 rfl rfl)
theorem dX2_writes_54 : decode cX2_writes 54 = .ok (.dastore, 1) := dk_82 (dk_at dksX2_writes_2 10 rfl rfl)
theorem dX2_writes_55 : decode cX2_writes 55 = .ok (.aload_n 0, 1) := dk_42 (dk_at dksX2_writes_2 11 rfl rfl)
theorem dX2_writes_56 : decode cX2_writes 56 = .ok (.getfield 19, 3) := dk_180 0 19 (dk_at dksX2_writes_2 12 rfl rfl)
theorem dX2_writes_59 : decode cX2_writes 59 = .ok (.iload 5, 2) := dk_21 5 (dk_at dksX2_writes_2 15 rfl rfl)
theorem dX2_writes_61 : decode cX2_writes 61 = .ok (.iconst 1, 1) := dk_4 (dk_at dksX2_writes_2 17 rfl rfl)
theorem dX2_writes_62 : decode cX2_writes 62 = .ok (.bastore, 1) := dk_84 (dk_at dksX2_writes_2 18 rfl rfl)
theorem dX2_writes_63 : decode cX2_writes 63 = .ok (.goto 43, 3) := dk_167 0 43 (dk_at dksX2_writes_2 19 rfl rfl)
theorem dX2_writes_66 : decode cX2_writes 66 = .ok (.aload_n 0, 1) := dk_42 (dk_at dksX2_writes_2 22 rfl rfl)
theorem dX2_writes_67 : decode cX2_writes 67 = .ok (.getfield 3, 3) := dk_180 0 3 (dk_at dksX2_writes_3 0 rfl rfl)
theorem dX2_writes_70 : decode cX2_writes 70 = .ok (.getfield 79, 3) := dk_180 0 79 (dk_at dksX2_writes_3 3 rfl rfl)
theorem dX2_writes_73 : decode cX2_writes 73 = .ok (.aload_n 1, 1) := dk_43 (dk_at dksX2_writes_3 6 rfl rfl)
theorem dX2_writes_74 : decode cX2_writes 74 = .ok (.getfield 60, 3) := dk_180 0 60 (dk_at dksX2_writes_3 7 rfl rfl)
theorem dX2_writes_77 : decode cX2_writes 77 = .ok (.aaload, 1) := dk_50 (dk_at dksX2_writes_3 10 rfl rfl)
theorem dX2_writes_78 : decode cX2_writes 78 = .ok (.iload 4, 2) := dk_21 4 (dk_at dksX2_writes_3 11 rfl rfl)
theorem dX2_writes_80 : decode cX2_writes 80 = .ok (.dload_n 2, 1) := dk_40 (dk_at dksX2_writes_3 13 rfl rfl)
theorem dX2_writes_81 : decode cX2_writes 81 = .ok (.invokevirtual 104, 3) := dk_182 0 104 (dk_at dksX2_writes_3 14 rfl rfl)
theorem dX2_writes_84 : decode cX2_writes 84 = .ok (.aload_n 0, 1) := dk_42 (dk_at dksX2_writes_3 17 rfl rfl)
theorem dX2_writes_85 : decode cX2_writes 85 = .ok (.getfield 3, 3) := dk_180 0 3 (dk_at dksX2_writes_3 18 rfl rfl)
theorem dX2_writes_88 : decode cX2_writes 88 = .ok (.getfield 79, 3) := dk_180 0 79 (dk_at dksX2_writes_3 21 rfl rfl)
theorem dX2_writes_91 : decode cX2_writes 91 = .ok (.aload_n 1, 1) := dk_43 (dk_at dksX2_writes_4 0 rfl rfl)
theorem dX2_writes_92 : decode cX2_writes 92 = .ok (.getfield 60, 3) := dk_180 0 60 (dk_at dksX2_writes_4 1 rfl rfl)
theorem dX2_writes_95 : decode cX2_writes 95 = .ok (.aaload, 1) := dk_50 (dk_at dksX2_writes_4 4 rfl rfl)
theorem dX2_writes_96 : decode cX2_writes 96 = .ok (.getfield 108, 3) := dk_180 0 108 (dk_at dksX2_writes_4 5 rfl rfl)
theorem dX2_writes_99 : decode cX2_writes 99 = .ok (.iload 4, 2) := dk_21 4 (dk_at dksX2_writes_4 8 rfl rfl)
theorem dX2_writes_101 : decode cX2_writes 101 = .ok (.aload_n 0, 1) := dk_42 (dk_at dksX2_writes_4 10 rfl rfl)
theorem dX2_writes_102 : decode cX2_writes 102 = .ok (.getfield 23, 3) := dk_180 0 23 (dk_at dksX2_writes_4 11 rfl rfl)
theorem dX2_writes_105 : decode cX2_writes 105 = .ok (.iastore, 1) := dk_79 (dk_at dksX2_writes_4 14 rfl rfl)
theorem dX2_writes_106 : decode cX2_writes 106 = .ok (.return_, 1) := dk_177 (dk_at dksX2_writes_4 15 rfl rfl)
abbrev cX2_goesOn : ByteArray := prog_14_method_5_code
def yX2_goesOn : MethodName := ⟨RX2, "goesOn", "(I)V"⟩
def dkwX2_goesOn_0 : List UInt8 := [42, 89, 180, 0, 37, 4, 96, 181, 0, 37, 42, 180, 0, 37, 27, 160, 0, 7, 42, 182, 0, 34, 177]
abbrev dktX2_goesOn_0 : List UInt8 := dkwX2_goesOn_0 ++ []
theorem dksX2_goesOn_0 : cX2_goesOn.data.toList.drop 0 = dktX2_goesOn_0 := by decide +kernel
theorem dX2_goesOn_0 : decode cX2_goesOn 0 = .ok (.aload_n 0, 1) := dk_42 (dk_at dksX2_goesOn_0 0 rfl rfl)
theorem dX2_goesOn_1 : decode cX2_goesOn 1 = .ok (.dup, 1) := dk_89 (dk_at dksX2_goesOn_0 1 rfl rfl)
theorem dX2_goesOn_2 : decode cX2_goesOn 2 = .ok (.getfield 37, 3) := dk_180 0 37 (dk_at dksX2_goesOn_0 2 rfl rfl)
theorem dX2_goesOn_5 : decode cX2_goesOn 5 = .ok (.iconst 1, 1) := dk_4 (dk_at dksX2_goesOn_0 5 rfl rfl)
theorem dX2_goesOn_6 : decode cX2_goesOn 6 = .ok (.iadd, 1) := dk_96 (dk_at dksX2_goesOn_0 6 rfl rfl)
theorem dX2_goesOn_7 : decode cX2_goesOn 7 = .ok (.putfield 37, 3) := dk_181 0 37 (dk_at dksX2_goesOn_0 7 rfl rfl)
theorem dX2_goesOn_10 : decode cX2_goesOn 10 = .ok (.aload_n 0, 1) := dk_42 (dk_at dksX2_goesOn_0 10 rfl rfl)
theorem dX2_goesOn_11 : decode cX2_goesOn 11 = .ok (.getfield 37, 3) := dk_180 0 37 (dk_at dksX2_goesOn_0 11 rfl rfl)
theorem dX2_goesOn_14 : decode cX2_goesOn 14 = .ok (.iload_n 1, 1) := dk_27 (dk_at dksX2_goesOn_0 14 rfl rfl)
theorem dX2_goesOn_15 : decode cX2_goesOn 15 = .ok (.if_icmp .ne 7, 3) := dk_160 0 7 (dk_at dksX2_goesOn_0 15 rfl rfl)
theorem dX2_goesOn_18 : decode cX2_goesOn 18 = .ok (.aload_n 0, 1) := dk_42 (dk_at dksX2_goesOn_0 18 rfl rfl)
theorem dX2_goesOn_19 : decode cX2_goesOn 19 = .ok (.invokevirtual 34, 3) := dk_182 0 34 (dk_at dksX2_goesOn_0 19 rfl rfl)
theorem dX2_goesOn_22 : decode cX2_goesOn 22 = .ok (.return_, 1) := dk_177 (dk_at dksX2_goesOn_0 22 rfl rfl)
theorem q160 : (Jvm.Cond.initialized "StrideTurns$Turn") ∈ lw_all := lw_g (lw_at lw_m1 27 rfl) rfl
theorem q252 : (Jvm.Cond.fieldLinkNest "StrideTurns$Turn" (156 : Nat) "StrideTurns$Deed" "number" "I" "StrideTurns") ∈ lw_tbl := lw_at lw_m1 119 rfl
theorem q255 : (Jvm.Cond.fieldLinkNest "StrideTurns$Turn" (115 : Nat) "StrideTurns$Deed" "family" "I" "StrideTurns") ∈ lw_tbl := lw_at lw_m1 122 rfl
theorem q301 : (Jvm.Cond.selects "StrideTurns$Turn" ({ cls := "java/lang/Object", name := "hashCode", desc := "()I" } : Jvm.MethodName) ({ cls := "java/lang/Object", name := "hashCode", desc := "()I" } : Jvm.MethodName)) ∈ lw_all := lw_g (lw_at lw_m1 168 rfl) rfl
theorem q495 : (Jvm.Cond.selects "StrideTurns$Turn" ({ cls := "java/lang/Object", name := "getClass", desc := "()Ljava/lang/Class;" } : Jvm.MethodName) ({ cls := "java/lang/Object", name := "getClass", desc := "()Ljava/lang/Class;" } : Jvm.MethodName)) ∈ lw_all := lw_g (lw_at lw_m2 122 rfl) rfl
theorem q765 : (Jvm.Cond.selects "StrideTurns$Turn" ({ cls := "java/lang/Object", name := "equals", desc := "(Ljava/lang/Object;)Z" } : Jvm.MethodName) ({ cls := "java/lang/Object", name := "equals", desc := "(Ljava/lang/Object;)Z" } : Jvm.MethodName)) ∈ lw_all := lw_g (lw_at lw_m3 152 rfl) rfl
theorem q1076 : (Jvm.Cond.instantiable "StrideTurns$Turn" (7 : Nat)) ∈ lw_all := lw_g (lw_at lw_m4 223 rfl) rfl
theorem q1078 : (Jvm.Cond.instanceMethod ({ cls := "StrideTurns$Turn", name := "<init>", desc := "(LStrideTurns;)V" } : Jvm.MethodName)) ∈ lw_all := lw_g (lw_at lw_m4 225 rfl) rfl
theorem q1079 : (Jvm.Cond.code ({ cls := "StrideTurns$Turn", name := "<init>", desc := "(LStrideTurns;)V" } : Jvm.MethodName) prog_14_method_1_code (2 : Nat) (Option.none : Option Jvm.ClassFile.FieldType)) ∈ lw_all := lw_g (lw_at lw_m4 226 rfl) rfl
theorem q1080 : (Jvm.Cond.methodLink "StrideTurns$Turn" (9 : Nat) ({ cls := "java/lang/Object", name := "<init>", desc := "()V" } : Jvm.MethodName)) ∈ lw_all := lw_g (lw_at lw_m4 227 rfl) rfl
theorem q1081 : (Jvm.Cond.fieldLink "StrideTurns$Turn" (15 : Nat) "StrideTurns$Turn" "own" "[D") ∈ lw_all := lw_g (lw_at lw_m4 228 rfl) rfl
theorem q1083 : (Jvm.Cond.fieldLink "StrideTurns$Turn" (19 : Nat) "StrideTurns$Turn" "has" "[Z") ∈ lw_all := lw_g (lw_at lw_m4 230 rfl) rfl
theorem q1085 : (Jvm.Cond.fieldLink "StrideTurns$Turn" (23 : Nat) "StrideTurns$Turn" "number" "I") ∈ lw_all := lw_g (lw_at lw_m4 232 rfl) rfl
theorem q1087 : (Jvm.Cond.fieldLink "StrideTurns$Turn" (27 : Nat) "StrideTurns$Turn" "statement" "I") ∈ lw_all := lw_g (lw_at lw_m4 234 rfl) rfl
theorem q1088 : (Jvm.Cond.fieldLink "StrideTurns$Turn" (37 : Nat) "StrideTurns$Turn" "item" "I") ∈ lw_all := lw_g (lw_at lw_m4 235 rfl) rfl
theorem q1089 : (Jvm.Cond.fieldLink "StrideTurns$Turn" (30 : Nat) "StrideTurns$Turn" "isOver" "Z") ∈ lw_all := lw_g (lw_at lw_m4 236 rfl) rfl
theorem q1090 : (Jvm.Cond.fieldLink "StrideTurns$Turn" (3 : Nat) "StrideTurns$Turn" "this$0" "LStrideTurns;") ∈ lw_all := lw_g (lw_at lw_m4 237 rfl) rfl
theorem q1091 : (Jvm.Cond.laysFinal "StrideTurns$Turn" "StrideTurns$Turn" "own" "[D") ∈ lw_all := lw_g (lw_at lw_m4 238 rfl) rfl
theorem q1092 : (Jvm.Cond.soleField "StrideTurns$Turn" "own") ∈ lw_all := lw_g (lw_at lw_m4 239 rfl) rfl
theorem q1093 : (Jvm.Cond.laysFinal "StrideTurns$Turn" "StrideTurns$Turn" "has" "[Z") ∈ lw_all := lw_g (lw_at lw_m5 0 rfl) rfl
theorem q1094 : (Jvm.Cond.soleField "StrideTurns$Turn" "has") ∈ lw_all := lw_g (lw_at lw_m5 1 rfl) rfl
theorem q1095 : (Jvm.Cond.lays "StrideTurns$Turn" "StrideTurns$Turn" "number" "I") ∈ lw_all := lw_g (lw_at lw_m5 2 rfl) rfl
theorem q1096 : (Jvm.Cond.soleField "StrideTurns$Turn" "number") ∈ lw_all := lw_g (lw_at lw_m5 3 rfl) rfl
theorem q1097 : (Jvm.Cond.lays "StrideTurns$Turn" "StrideTurns$Turn" "statement" "I") ∈ lw_all := lw_g (lw_at lw_m5 4 rfl) rfl
theorem q1098 : (Jvm.Cond.soleField "StrideTurns$Turn" "statement") ∈ lw_all := lw_g (lw_at lw_m5 5 rfl) rfl
theorem q1099 : (Jvm.Cond.lays "StrideTurns$Turn" "StrideTurns$Turn" "item" "I") ∈ lw_all := lw_g (lw_at lw_m5 6 rfl) rfl
theorem q1100 : (Jvm.Cond.soleField "StrideTurns$Turn" "item") ∈ lw_all := lw_g (lw_at lw_m5 7 rfl) rfl
theorem q1101 : (Jvm.Cond.lays "StrideTurns$Turn" "StrideTurns$Turn" "isOver" "Z") ∈ lw_all := lw_g (lw_at lw_m5 8 rfl) rfl
theorem q1102 : (Jvm.Cond.soleField "StrideTurns$Turn" "isOver") ∈ lw_all := lw_g (lw_at lw_m5 9 rfl) rfl
theorem q1103 : (Jvm.Cond.laysFinal "StrideTurns$Turn" "StrideTurns$Turn" "this$0" "LStrideTurns;") ∈ lw_all := lw_g (lw_at lw_m5 10 rfl) rfl
theorem q1104 : (Jvm.Cond.soleField "StrideTurns$Turn" "this$0") ∈ lw_all := lw_g (lw_at lw_m5 11 rfl) rfl
theorem q1105 : (Jvm.Cond.superclass "StrideTurns$Turn" "java/lang/Object") ∈ lw_all := lw_g (lw_at lw_m5 12 rfl) rfl
theorem q1114 : (Jvm.Cond.fieldLinkNest "StrideTurns$Turn" (79 : Nat) "StrideTurns" "rows" "[LStrideTurns$Row;" "StrideTurns") ∈ lw_tbl := lw_at lw_m5 21 rfl
theorem q1116 : (Jvm.Cond.fieldLinkNest "StrideTurns$Turn" (40 : Nat) "StrideTurns" "statements" "Ljava/util/ArrayList;" "StrideTurns") ∈ lw_tbl := lw_at lw_m5 23 rfl
theorem q1125 : (Jvm.Cond.fieldLinkNest "StrideTurns$Turn" (75 : Nat) "StrideTurns" "modes" "[I" "StrideTurns") ∈ lw_tbl := lw_at lw_m5 32 rfl
theorem q1127 : (Jvm.Cond.fieldLinkNest "StrideTurns$Turn" (145 : Nat) "StrideTurns" "ends" "[I" "StrideTurns") ∈ lw_tbl := lw_at lw_m5 34 rfl
theorem q1233 : (Jvm.Cond.fieldLinkNest "StrideTurns$Turn" (108 : Nat) "StrideTurns$Row" "writers" "[I" "StrideTurns") ∈ lw_tbl := lw_at lw_m5 140 rfl
theorem q1667 : (Jvm.Cond.fieldLinkNest "StrideTurns$Turn" (60 : Nat) "StrideTurns$Reference" "row" "I" "StrideTurns") ∈ lw_tbl := lw_at lw_m7 94 rfl
theorem q1679 : (Jvm.Cond.fieldLinkNest "StrideTurns$Turn" (65 : Nat) "StrideTurns$Reference" "where" "LStrideTurns$Where;" "StrideTurns") ∈ lw_tbl := lw_at lw_m7 106 rfl
theorem q1695 : (Jvm.Cond.fieldLinkNest "StrideTurns$Turn" (111 : Nat) "StrideTurns$Statement" "deed" "LStrideTurns$Deed;" "StrideTurns") ∈ lw_tbl := lw_at lw_m7 122 rfl
theorem q1698 : (Jvm.Cond.fieldLinkNest "StrideTurns$Turn" (138 : Nat) "StrideTurns$Statement" "count" "I" "StrideTurns") ∈ lw_tbl := lw_at lw_m7 125 rfl
theorem q2354 : (Jvm.Cond.instanceMethod ({ cls := "StrideTurns$Turn", name := "begins", desc := "(I)V" } : Jvm.MethodName)) ∈ lw_all := lw_g (lw_at lw_m10 61 rfl) rfl
theorem q2355 : (Jvm.Cond.selects "StrideTurns$Turn" ({ cls := "StrideTurns$Turn", name := "begins", desc := "(I)V" } : Jvm.MethodName) ({ cls := "StrideTurns$Turn", name := "begins", desc := "(I)V" } : Jvm.MethodName)) ∈ lw_all := lw_g (lw_at lw_m10 62 rfl) rfl
theorem q2356 : (Jvm.Cond.code ({ cls := "StrideTurns$Turn", name := "begins", desc := "(I)V" } : Jvm.MethodName) prog_14_method_2_code (3 : Nat) (Option.none : Option Jvm.ClassFile.FieldType)) ∈ lw_all := lw_g (lw_at lw_m10 63 rfl) rfl
theorem q2357 : (Jvm.Cond.methodLink "StrideTurns$Turn" (34 : Nat) ({ cls := "StrideTurns$Turn", name := "passes", desc := "()V" } : Jvm.MethodName)) ∈ lw_all := lw_g (lw_at lw_m10 64 rfl) rfl
theorem q2358 : (Jvm.Cond.instanceMethod ({ cls := "StrideTurns$Turn", name := "passes", desc := "()V" } : Jvm.MethodName)) ∈ lw_all := lw_g (lw_at lw_m10 65 rfl) rfl
theorem q2359 : (Jvm.Cond.selects "StrideTurns$Turn" ({ cls := "StrideTurns$Turn", name := "passes", desc := "()V" } : Jvm.MethodName) ({ cls := "StrideTurns$Turn", name := "passes", desc := "()V" } : Jvm.MethodName)) ∈ lw_all := lw_g (lw_at lw_m10 66 rfl) rfl
theorem q2360 : (Jvm.Cond.code ({ cls := "StrideTurns$Turn", name := "passes", desc := "()V" } : Jvm.MethodName) prog_14_method_3_code (1 : Nat) (Option.none : Option Jvm.ClassFile.FieldType)) ∈ lw_all := lw_g (lw_at lw_m10 67 rfl) rfl
theorem q2361 : (Jvm.Cond.methodLink "StrideTurns$Turn" (44 : Nat) ({ cls := "java/util/ArrayList", name := "size", desc := "()I" } : Jvm.MethodName)) ∈ lw_all := lw_g (lw_at lw_m10 68 rfl) rfl
theorem q2362 : (Jvm.Cond.methodLink "StrideTurns$Turn" (50 : Nat) ({ cls := "java/util/ArrayList", name := "get", desc := "(I)Ljava/lang/Object;" } : Jvm.MethodName)) ∈ lw_all := lw_g (lw_at lw_m10 69 rfl) rfl
theorem q2363 : (Jvm.Cond.classLink "StrideTurns$Turn" (54 : Nat) "StrideTurns$Statement") ∈ lw_all := lw_g (lw_at lw_m10 70 rfl) rfl
theorem q2364 : (Jvm.Cond.methodLink "StrideTurns$Turn" (56 : Nat) ({ cls := "StrideTurns$Statement", name := "isDone", desc := "(I)Z" } : Jvm.MethodName)) ∈ lw_all := lw_g (lw_at lw_m10 71 rfl) rfl
theorem q2366 : (Jvm.Cond.instanceMethod ({ cls := "StrideTurns$Turn", name := "isLeft", desc := "()Z" } : Jvm.MethodName)) ∈ lw_all := lw_g (lw_at lw_m10 73 rfl) rfl
theorem q2367 : (Jvm.Cond.selects "StrideTurns$Turn" ({ cls := "StrideTurns$Turn", name := "isLeft", desc := "()Z" } : Jvm.MethodName) ({ cls := "StrideTurns$Turn", name := "isLeft", desc := "()Z" } : Jvm.MethodName)) ∈ lw_all := lw_g (lw_at lw_m10 74 rfl) rfl
theorem q2368 : (Jvm.Cond.code ({ cls := "StrideTurns$Turn", name := "isLeft", desc := "()Z" } : Jvm.MethodName) prog_14_method_4_code (1 : Nat) (Option.some Jvm.ClassFile.FieldType.boolean)) ∈ lw_all := lw_g (lw_at lw_m10 75 rfl) rfl
theorem q2374 : (Jvm.Cond.instanceMethod ({ cls := "StrideTurns$Turn", name := "steps", desc := "()Z" } : Jvm.MethodName)) ∈ lw_all := lw_g (lw_at lw_m10 81 rfl) rfl
theorem q2375 : (Jvm.Cond.selects "StrideTurns$Turn" ({ cls := "StrideTurns$Turn", name := "steps", desc := "()Z" } : Jvm.MethodName) ({ cls := "StrideTurns$Turn", name := "steps", desc := "()Z" } : Jvm.MethodName)) ∈ lw_all := lw_g (lw_at lw_m10 82 rfl) rfl
theorem q2376 : (Jvm.Cond.code ({ cls := "StrideTurns$Turn", name := "steps", desc := "()Z" } : Jvm.MethodName) prog_14_method_11_code (3 : Nat) (Option.some Jvm.ClassFile.FieldType.boolean)) ∈ lw_all := lw_g (lw_at lw_m10 83 rfl) rfl
theorem q2377 : (Jvm.Cond.methodLink "StrideTurns$Turn" (132 : Nat) ({ cls := "StrideTurns$Turn", name := "against", desc := "(LStrideTurns$Statement;)I" } : Jvm.MethodName)) ∈ lw_all := lw_g (lw_at lw_m10 84 rfl) rfl
theorem q2378 : (Jvm.Cond.instanceMethod ({ cls := "StrideTurns$Turn", name := "against", desc := "(LStrideTurns$Statement;)I" } : Jvm.MethodName)) ∈ lw_all := lw_g (lw_at lw_m10 85 rfl) rfl
theorem q2379 : (Jvm.Cond.selects "StrideTurns$Turn" ({ cls := "StrideTurns$Turn", name := "against", desc := "(LStrideTurns$Statement;)I" } : Jvm.MethodName) ({ cls := "StrideTurns$Turn", name := "against", desc := "(LStrideTurns$Statement;)I" } : Jvm.MethodName)) ∈ lw_all := lw_g (lw_at lw_m10 86 rfl) rfl
theorem q2380 : (Jvm.Cond.code ({ cls := "StrideTurns$Turn", name := "against", desc := "(LStrideTurns$Statement;)I" } : Jvm.MethodName) prog_14_method_8_code (3 : Nat) (Option.some Jvm.ClassFile.FieldType.int)) ∈ lw_all := lw_g (lw_at lw_m10 87 rfl) rfl
theorem q2381 : (Jvm.Cond.methodLink "StrideTurns$Turn" (94 : Nat) ({ cls := "StrideTurns$Statement", name := "at", desc := "(I)LStrideTurns$Reference;" } : Jvm.MethodName)) ∈ lw_all := lw_g (lw_at lw_m10 88 rfl) rfl
theorem q2382 : (Jvm.Cond.methodLink "StrideTurns$Turn" (97 : Nat) ({ cls := "StrideTurns$Turn", name := "wrong", desc := "(LStrideTurns$Reference;)I" } : Jvm.MethodName)) ∈ lw_all := lw_g (lw_at lw_m10 89 rfl) rfl
theorem q2383 : (Jvm.Cond.instanceMethod ({ cls := "StrideTurns$Turn", name := "wrong", desc := "(LStrideTurns$Reference;)I" } : Jvm.MethodName)) ∈ lw_all := lw_g (lw_at lw_m10 90 rfl) rfl
theorem q2384 : (Jvm.Cond.selects "StrideTurns$Turn" ({ cls := "StrideTurns$Turn", name := "wrong", desc := "(LStrideTurns$Reference;)I" } : Jvm.MethodName) ({ cls := "StrideTurns$Turn", name := "wrong", desc := "(LStrideTurns$Reference;)I" } : Jvm.MethodName)) ∈ lw_all := lw_g (lw_at lw_m10 91 rfl) rfl
theorem q2385 : (Jvm.Cond.code ({ cls := "StrideTurns$Turn", name := "wrong", desc := "(LStrideTurns$Reference;)I" } : Jvm.MethodName) prog_14_method_7_code (3 : Nat) (Option.some Jvm.ClassFile.FieldType.int)) ∈ lw_all := lw_g (lw_at lw_m10 92 rfl) rfl
theorem q2386 : (Jvm.Cond.methodLinkNest "StrideTurns$Turn" (88 : Nat) ({ cls := "StrideTurns", name := "numbers", desc := "(I)LStrideTurns$Row;" } : Jvm.MethodName) "StrideTurns") ∈ lw_tbl := lw_at lw_m10 93 rfl
theorem q2387 : (Jvm.Cond.interfaceEntry "StrideTurns$Turn" (69 : Nat)) ∈ lw_tbl := lw_at lw_m10 94 rfl
theorem q2388 : (Jvm.Cond.methodLink "StrideTurns$Turn" (69 : Nat) ({ cls := "StrideTurns$Where", name := "at", desc := "(II)I" } : Jvm.MethodName)) ∈ lw_all := lw_g (lw_at lw_m10 95 rfl) rfl
theorem q2389 : (Jvm.Cond.methodLink "StrideTurns$Turn" (92 : Nat) ({ cls := "StrideTurns$Row", name := "has", desc := "(I)Z" } : Jvm.MethodName)) ∈ lw_all := lw_g (lw_at lw_m10 96 rfl) rfl
theorem q2390 : (Jvm.Cond.methodLink "StrideTurns$Turn" (101 : Nat) ({ cls := "StrideTurns$Statement", name := "looks", desc := "(I)Z" } : Jvm.MethodName)) ∈ lw_all := lw_g (lw_at lw_m10 97 rfl) rfl
theorem q2391 : (Jvm.Cond.methodLink "StrideTurns$Turn" (135 : Nat) ({ cls := "StrideTurns$Turn", name := "acts", desc := "(LStrideTurns$Statement;)I" } : Jvm.MethodName)) ∈ lw_all := lw_g (lw_at lw_m10 98 rfl) rfl
theorem q2392 : (Jvm.Cond.privateMethod ({ cls := "StrideTurns$Turn", name := "acts", desc := "(LStrideTurns$Statement;)I" } : Jvm.MethodName)) ∈ lw_tbl := lw_at lw_m10 99 rfl
theorem q2393 : (Jvm.Cond.instanceMethod ({ cls := "StrideTurns$Turn", name := "acts", desc := "(LStrideTurns$Statement;)I" } : Jvm.MethodName)) ∈ lw_all := lw_g (lw_at lw_m10 100 rfl) rfl
theorem q2394 : (Jvm.Cond.codeWith ({ cls := "StrideTurns$Turn", name := "acts", desc := "(LStrideTurns$Statement;)I" } : Jvm.MethodName) prog_14_method_12_code (9 : Nat) (Option.some Jvm.ClassFile.FieldType.int) [((98 : Nat), (131 : Nat), (132 : Nat), (165 : Nat))]) ∈ lw_all := lw_g (lw_at lw_m10 101 rfl) rfl
theorem q2395 : (Jvm.Cond.classLink "StrideTurns$Turn" (165 : Nat) "java/lang/ArithmeticException") ∈ lw_all := lw_g (lw_at lw_m10 102 rfl) rfl
theorem q2396 : (Jvm.Cond.methodLink "StrideTurns$Turn" (148 : Nat) ({ cls := "StrideTurns$Turn", name := "value", desc := "(LStrideTurns$Reference;)D" } : Jvm.MethodName)) ∈ lw_all := lw_g (lw_at lw_m10 103 rfl) rfl
theorem q2397 : (Jvm.Cond.instanceMethod ({ cls := "StrideTurns$Turn", name := "value", desc := "(LStrideTurns$Reference;)D" } : Jvm.MethodName)) ∈ lw_all := lw_g (lw_at lw_m10 104 rfl) rfl
theorem q2398 : (Jvm.Cond.selects "StrideTurns$Turn" ({ cls := "StrideTurns$Turn", name := "value", desc := "(LStrideTurns$Reference;)D" } : Jvm.MethodName) ({ cls := "StrideTurns$Turn", name := "value", desc := "(LStrideTurns$Reference;)D" } : Jvm.MethodName)) ∈ lw_all := lw_g (lw_at lw_m10 105 rfl) rfl
theorem q2399 : (Jvm.Cond.code ({ cls := "StrideTurns$Turn", name := "value", desc := "(LStrideTurns$Reference;)D" } : Jvm.MethodName) prog_14_method_6_code (4 : Nat) (Option.some Jvm.ClassFile.FieldType.double)) ∈ lw_all := lw_g (lw_at lw_m10 106 rfl) rfl
theorem q2400 : (Jvm.Cond.methodLink "StrideTurns$Turn" (83 : Nat) ({ cls := "StrideTurns$Row", name := "at", desc := "(I)D" } : Jvm.MethodName)) ∈ lw_all := lw_g (lw_at lw_m10 107 rfl) rfl
theorem q2404 : (Jvm.Cond.methodLink "StrideTurns$Turn" (152 : Nat) ({ cls := "StrideTurns$Turn", name := "brings", desc := "(LStrideTurns$Statement;D)V" } : Jvm.MethodName)) ∈ lw_all := lw_g (lw_at lw_m10 111 rfl) rfl
theorem q2405 : (Jvm.Cond.instanceMethod ({ cls := "StrideTurns$Turn", name := "brings", desc := "(LStrideTurns$Statement;D)V" } : Jvm.MethodName)) ∈ lw_all := lw_g (lw_at lw_m10 112 rfl) rfl
theorem q2406 : (Jvm.Cond.selects "StrideTurns$Turn" ({ cls := "StrideTurns$Turn", name := "brings", desc := "(LStrideTurns$Statement;D)V" } : Jvm.MethodName) ({ cls := "StrideTurns$Turn", name := "brings", desc := "(LStrideTurns$Statement;D)V" } : Jvm.MethodName)) ∈ lw_all := lw_g (lw_at lw_m10 113 rfl) rfl
theorem q2407 : (Jvm.Cond.code ({ cls := "StrideTurns$Turn", name := "brings", desc := "(LStrideTurns$Statement;D)V" } : Jvm.MethodName) prog_14_method_10_code (8 : Nat) (Option.none : Option Jvm.ClassFile.FieldType)) ∈ lw_all := lw_g (lw_at lw_m10 114 rfl) rfl
theorem q2408 : (Jvm.Cond.methodLinkNest "StrideTurns$Turn" (120 : Nat) ({ cls := "StrideTurns", name := "widthOf", desc := "(LStrideTurns$Statement;)I" } : Jvm.MethodName) "StrideTurns") ∈ lw_tbl := lw_at lw_m10 115 rfl
theorem q2425 : (Jvm.Cond.methodLinkNest "StrideTurns$Turn" (124 : Nat) ({ cls := "StrideTurns", name := "done", desc := "(LStrideTurns$Deed;IDD)D" } : Jvm.MethodName) "StrideTurns") ∈ lw_tbl := lw_at lw_m10 132 rfl
theorem q2440 : (Jvm.Cond.methodLink "StrideTurns$Turn" (128 : Nat) ({ cls := "StrideTurns$Row", name := "cast", desc := "(D)D" } : Jvm.MethodName)) ∈ lw_all := lw_g (lw_at lw_m10 147 rfl) rfl
theorem q2444 : (Jvm.Cond.methodLinkNest "StrideTurns$Turn" (157 : Nat) ({ cls := "StrideTurns", name := "isGreater", desc := "(IDD)Z" } : Jvm.MethodName) "StrideTurns") ∈ lw_tbl := lw_at lw_m10 151 rfl
theorem q2447 : (Jvm.Cond.methodLink "StrideTurns$Turn" (161 : Nat) ({ cls := "StrideTurns$Turn", name := "writes", desc := "(LStrideTurns$Reference;D)V" } : Jvm.MethodName)) ∈ lw_all := lw_g (lw_at lw_m10 154 rfl) rfl
theorem q2448 : (Jvm.Cond.instanceMethod ({ cls := "StrideTurns$Turn", name := "writes", desc := "(LStrideTurns$Reference;D)V" } : Jvm.MethodName)) ∈ lw_all := lw_g (lw_at lw_m10 155 rfl) rfl
theorem q2449 : (Jvm.Cond.selects "StrideTurns$Turn" ({ cls := "StrideTurns$Turn", name := "writes", desc := "(LStrideTurns$Reference;D)V" } : Jvm.MethodName) ({ cls := "StrideTurns$Turn", name := "writes", desc := "(LStrideTurns$Reference;D)V" } : Jvm.MethodName)) ∈ lw_all := lw_g (lw_at lw_m10 156 rfl) rfl
theorem q2450 : (Jvm.Cond.code ({ cls := "StrideTurns$Turn", name := "writes", desc := "(LStrideTurns$Reference;D)V" } : Jvm.MethodName) prog_14_method_9_code (6 : Nat) (Option.none : Option Jvm.ClassFile.FieldType)) ∈ lw_all := lw_g (lw_at lw_m10 157 rfl) rfl
theorem q2451 : (Jvm.Cond.methodLink "StrideTurns$Turn" (104 : Nat) ({ cls := "StrideTurns$Row", name := "becomes", desc := "(ID)V" } : Jvm.MethodName)) ∈ lw_all := lw_g (lw_at lw_m10 158 rfl) rfl
theorem q2455 : (Jvm.Cond.methodLink "StrideTurns$Turn" (141 : Nat) ({ cls := "StrideTurns$Turn", name := "goesOn", desc := "(I)V" } : Jvm.MethodName)) ∈ lw_all := lw_g (lw_at lw_m10 162 rfl) rfl
theorem q2456 : (Jvm.Cond.instanceMethod ({ cls := "StrideTurns$Turn", name := "goesOn", desc := "(I)V" } : Jvm.MethodName)) ∈ lw_all := lw_g (lw_at lw_m10 163 rfl) rfl
theorem q2457 : (Jvm.Cond.selects "StrideTurns$Turn" ({ cls := "StrideTurns$Turn", name := "goesOn", desc := "(I)V" } : Jvm.MethodName) ({ cls := "StrideTurns$Turn", name := "goesOn", desc := "(I)V" } : Jvm.MethodName)) ∈ lw_all := lw_g (lw_at lw_m10 164 rfl) rfl
theorem q2458 : (Jvm.Cond.code ({ cls := "StrideTurns$Turn", name := "goesOn", desc := "(I)V" } : Jvm.MethodName) prog_14_method_5_code (2 : Nat) (Option.none : Option Jvm.ClassFile.FieldType)) ∈ lw_all := lw_g (lw_at lw_m10 165 rfl) rfl
theorem q3221 : (Jvm.Cond.castable "StrideTurns$Turn" "java/lang/Object") ∈ lw_tbl := lw_at lw_m13 208 rfl
theorem in_X2 : ∀ w ∈ wsX20, w ∈ lw_all := lw_in wsX20 [1091, 1093, 1095, 1097, 1099, 1101, 1103] (by decide +kernel) (by decide +kernel)
