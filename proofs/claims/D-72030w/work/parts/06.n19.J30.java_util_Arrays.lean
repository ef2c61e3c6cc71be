/-! java/util/Arrays -/
set_option maxRecDepth 100000
def RJ30 : String := "java/util/Arrays"
abbrev cJ30_copyOf : ByteArray := prog_57_method_119_code
def yJ30_copyOf : MethodName := ⟨RJ30, "copyOf", "([Ljava/lang/Object;I)[Ljava/lang/Object;"⟩
def dkwJ30_copyOf_0 : List UInt8 := [42, 27, 42, 182, 0, 86, 184, 1, 44, 176]
abbrev dktJ30_copyOf_0 : List UInt8 := dkwJ30_copyOf_0 ++ []
theorem dksJ30_copyOf_0 : cJ30_copyOf.data.toList.drop 0 = dktJ30_copyOf_0 := by decide +kernel
theorem dJ30_copyOf_0 : decode cJ30_copyOf 0 = .ok (.aload_n 0, 1) := dk_42 (dk_at dksJ30_copyOf_0 0 rfl rfl)
theorem dJ30_copyOf_1 : decode cJ30_copyOf 1 = .ok (.iload_n 1, 1) := dk_27 (dk_at dksJ30_copyOf_0 1 rfl rfl)
theorem dJ30_copyOf_2 : decode cJ30_copyOf 2 = .ok (.aload_n 0, 1) := dk_42 (dk_at dksJ30_copyOf_0 2 rfl rfl)
theorem dJ30_copyOf_3 : decode cJ30_copyOf 3 = .ok (.invokevirtual 86, 3) := dk_182 0 86 (dk_at dksJ30_copyOf_0 3 rfl rfl)
theorem dJ30_copyOf_6 : decode cJ30_copyOf 6 = .ok (.invokestatic 300, 3) := dk_184 1 44 (dk_at dksJ30_copyOf_0 6 rfl rfl)
theorem dJ30_copyOf_9 : decode cJ30_copyOf 9 = .ok (.areturn, 1) := dk_176 (dk_at dksJ30_copyOf_0 9 rfl rfl)
abbrev cJ30_copyOf_2 : ByteArray := prog_57_method_120_code
def yJ30_copyOf_2 : MethodName := ⟨RJ30, "copyOf", "([Ljava/lang/Object;ILjava/lang/Class;)[Ljava/lang/Object;"⟩
def dkwJ30_copyOf_2_1 : List UInt8 := [78, 42, 3, 45, 3, 42, 190, 27, 184, 1, 48, 184, 0, 150, 45, 176]
abbrev dktJ30_copyOf_2_1 : List UInt8 := dkwJ30_copyOf_2_1 ++ []
def dkwJ30_copyOf_2_0 : List UInt8 := [44, 18, 110, 166, 0, 10, 27, 189, 0, 2, 167, 0, 14, 44, 182, 0, 90, 27, 184, 0, 95, 192, 0, 110]
abbrev dktJ30_copyOf_2_0 : List UInt8 := dkwJ30_copyOf_2_0 ++ dktJ30_copyOf_2_1
theorem dksJ30_copyOf_2_0 : cJ30_copyOf_2.data.toList.drop 0 = dktJ30_copyOf_2_0 := by decide +kernel
theorem dksJ30_copyOf_2_1 : cJ30_copyOf_2.data.toList.drop 24 = dktJ30_copyOf_2_1 := dk_seg dksJ30_copyOf_2_0 24 rfl rfl
theorem dJ30_copyOf_2_0 : decode cJ30_copyOf_2 0 = .ok (.aload_n 2, 1) := dk_44 (dk_at dksJ30_copyOf_2_0 0 rfl rfl)
theorem dJ30_copyOf_2_1 : decode cJ30_copyOf_2 1 = .ok (.ldc 110, 2) := dk_18 110 (dk_at dksJ30_copyOf_2_0 1 rfl rfl)
theorem dJ30_copyOf_2_3 : decode cJ30_copyOf_2 3 = .ok (.if_acmp .ne 10, 3) := dk_166 0 10 (dk_at dksJ30_copyOf_2_0 3 rfl rfl)
theorem dJ30_copyOf_2_6 : decode cJ30_copyOf_2 6 = .ok (.iload_n 1, 1) := dk_27 (dk_at dksJ30_copyOf_2_0 6 rfl rfl)
theorem dJ30_copyOf_2_7 : decode cJ30_copyOf_2 7 = .ok (.anewarray 2, 3) := dk_189 0 2 (dk_at dksJ30_copyOf_2_0 7 rfl rfl)
theorem dJ30_copyOf_2_10 : decode cJ30_copyOf_2 10 = .ok (.goto 14, 3) := dk_167 0 14 (dk_at dksJ30_copyOf_2_0 10 rfl rfl)
theorem dJ30_copyOf_2_13 : decode cJ30_copyOf_2 13 = .ok (.aload_n 2, 1) := dk_44 (dk_at dksJ30_copyOf_2_0 13 rfl rfl)
theorem dJ30_copyOf_2_14 : decode cJ30_copyOf_2 14 = .ok (.invokevirtual 90, 3) := dk_182 0 90 (dk_at dksJ30_copyOf_2_0 14 rfl rfl)
theorem dJ30_copyOf_2_17 : decode cJ30_copyOf_2 17 = .ok (.iload_n 1, 1) := dk_27 (dk_at dksJ30_copyOf_2_0 17 rfl rfl)
theorem dJ30_copyOf_2_18 : decode cJ30_copyOf_2 18 = .ok (.invokestatic 95, 3) := dk_184 0 95 (dk_at dksJ30_copyOf_2_0 18 rfl rfl)
theorem dJ30_copyOf_2_21 : decode cJ30_copyOf_2 21 = .ok (.checkcast 110, 3) := dk_192 0 110 (dk_at dksJ30_copyOf_2_0 21 rfl rfl)
theorem dJ30_copyOf_2_24 : decode cJ30_copyOf_2 24 = .ok (.astore_n 3, 1) := dk_78 (dk_at dksJ30_copyOf_2_1 0 rfl rfl)
theorem dJ30_copyOf_2_25 : decode cJ30_copyOf_2 25 = .ok (.aload_n 0, 1) := dk_42 (dk_at dksJ30_copyOf_2_1 1 rfl rfl)
theorem dJ30_copyOf_2_26 : decode cJ30_copyOf_2 26 = .ok (.iconst 0, 1) := dk_3 (dk_at dksJ30_copyOf_2_1 2 rfl rfl)
theorem dJ30_copyOf_2_27 : decode cJ30_copyOf_2 27 = .ok (.aload_n 3, 1) := dk_45 (dk_at dksJ30_copyOf_2_1 3 rfl rfl)
theorem dJ30_copyOf_2_28 : decode cJ30_copyOf_2 28 = .ok (.iconst 0, 1) := dk_3 (dk_at dksJ30_copyOf_2_1 4 rfl rfl)
theorem dJ30_copyOf_2_29 : decode cJ30_copyOf_2 29 = .ok (.aload_n 0, 1) := dk_42 (dk_at dksJ30_copyOf_2_1 5 rfl rfl)
theorem dJ30_copyOf_2_30 : decode cJ30_copyOf_2 30 = .ok (.arraylength, 1) := dk_190 (dk_at dksJ30_copyOf_2_1 6 rfl rfl)
theorem dJ30_copyOf_2_31 : decode cJ30_copyOf_2 31 = .ok (.iload_n 1, 1) := dk_27 (dk_at dksJ30_copyOf_2_1 7 rfl rfl)
theorem dJ30_copyOf_2_32 : decode cJ30_copyOf_2 32 = .ok (.invokestatic 304, 3) := dk_184 1 48 (dk_at dksJ30_copyOf_2_1 8 rfl rfl)
theorem dJ30_copyOf_2_35 : decode cJ30_copyOf_2 35 = .ok (.invokestatic 150, 3) := dk_184 0 150 (dk_at dksJ30_copyOf_2_1 11 rfl rfl)
theorem dJ30_copyOf_2_38 : decode cJ30_copyOf_2 38 = .ok (.aload_n 3, 1) := dk_45 (dk_at dksJ30_copyOf_2_1 14 rfl rfl)
theorem dJ30_copyOf_2_39 : decode cJ30_copyOf_2 39 = .ok (.areturn, 1) := dk_176 (dk_at dksJ30_copyOf_2_1 15 rfl rfl)
abbrev cJ30_copyOf_3 : ByteArray := prog_57_method_121_code
def yJ30_copyOf_3 : MethodName := ⟨RJ30, "copyOf", "([BI)[B"⟩
def dkwJ30_copyOf_3_1 : List UInt8 := [27, 184, 1, 48, 184, 0, 150, 44, 176]
abbrev dktJ30_copyOf_3_1 : List UInt8 := dkwJ30_copyOf_3_1 ++ []
def dkwJ30_copyOf_3_0 : List UInt8 := [27, 42, 190, 160, 0, 11, 42, 182, 1, 54, 192, 1, 55, 176, 27, 188, 8, 77, 42, 3, 44, 3, 42, 190]
abbrev dktJ30_copyOf_3_0 : List UInt8 := dkwJ30_copyOf_3_0 ++ dktJ30_copyOf_3_1
theorem dksJ30_copyOf_3_0 : cJ30_copyOf_3.data.toList.drop 0 = dktJ30_copyOf_3_0 := by decide +kernel
theorem dksJ30_copyOf_3_1 : cJ30_copyOf_3.data.toList.drop 24 = dktJ30_copyOf_3_1 := dk_seg dksJ30_copyOf_3_0 24 rfl rfl
theorem dJ30_copyOf_3_0 : decode cJ30_copyOf_3 0 = .ok (.iload_n 1, 1) := dk_27 (dk_at dksJ30_copyOf_3_0 0 rfl rfl)
theorem dJ30_copyOf_3_1 : decode cJ30_copyOf_3 1 = .ok (.aload_n 0, 1) := dk_42 (dk_at dksJ30_copyOf_3_0 1 rfl rfl)
theorem dJ30_copyOf_3_2 : decode cJ30_copyOf_3 2 = .ok (.arraylength, 1) := dk_190 (dk_at dksJ30_copyOf_3_0 2 rfl rfl)
theorem dJ30_copyOf_3_3 : decode cJ30_copyOf_3 3 = .ok (.if_icmp .ne 11, 3) := dk_160 0 11 (dk_at dksJ30_copyOf_3_0 3 rfl rfl)
theorem dJ30_copyOf_3_6 : decode cJ30_copyOf_3 6 = .ok (.aload_n 0, 1) := dk_42 (dk_at dksJ30_copyOf_3_0 6 rfl rfl)
theorem dJ30_copyOf_3_7 : decode cJ30_copyOf_3 7 = .ok (.invokevirtual 310, 3) := dk_182 1 54 (dk_at dksJ30_copyOf_3_0 7 rfl rfl)
theorem dJ30_copyOf_3_10 : decode cJ30_copyOf_3 10 = .ok (.checkcast 311, 3) := dk_192 1 55 (dk_at dksJ30_copyOf_3_0 10 rfl rfl)
theorem dJ30_copyOf_3_13 : decode cJ30_copyOf_3 13 = .ok (.areturn, 1) := dk_176 (dk_at dksJ30_copyOf_3_0 13 rfl rfl)
theorem dJ30_copyOf_3_14 : decode cJ30_copyOf_3 14 = .ok (.iload_n 1, 1) := dk_27 (dk_at dksJ30_copyOf_3_0 14 rfl rfl)
theorem dJ30_copyOf_3_15 : decode cJ30_copyOf_3 15 = .ok (.newarray .byte, 2) := dk_188_8 (dk_at dksJ30_copyOf_3_0 15 rfl rfl)
theorem dJ30_copyOf_3_17 : decode cJ30_copyOf_3 17 = .ok (.astore_n 2, 1) := dk_77 (dk_at dksJ30_copyOf_3_0 17 rfl rfl)
theorem dJ30_copyOf_3_18 : decode cJ30_copyOf_3 18 = .ok (.aload_n 0, 1) := dk_42 (dk_at dksJ30_copyOf_3_0 18 rfl rfl)
theorem dJ30_copyOf_3_19 : decode cJ30_copyOf_3 19 = .ok (.iconst 0, 1) := dk_3 (dk_at dksJ30_copyOf_3_0 19 rfl rfl)
theorem dJ30_copyOf_3_20 : decode cJ30_copyOf_3 20 = .ok (.aload_n 2, 1) := dk_44 (dk_at dksJ30_copyOf_3_0 20 rfl rfl)
theorem dJ30_copyOf_3_21 : decode cJ30_copyOf_3 21 = .ok (.iconst 0, 1) := dk_3 (dk_at dksJ30_copyOf_3_0 21 rfl rfl)
theorem dJ30_copyOf_3_22 : decode cJ30_copyOf_3 22 = .ok (.aload_n 0, 1) := dk_42 (dk_at dksJ30_copyOf_3_0 22 rfl rfl)
theorem dJ30_copyOf_3_23 : decode cJ30_copyOf_3 23 = .ok (.arraylength, 1) := dk_190 (dk_at dksJ30_copyOf_3_0 23 rfl rfl)
theorem dJ30_copyOf_3_24 : decode cJ30_copyOf_3 24 = .ok (.iload_n 1, 1) := dk_27 (dk_at dksJ30_copyOf_3_1 0 rfl rfl)
theorem dJ30_copyOf_3_25 : decode cJ30_copyOf_3 25 = .ok (.invokestatic 304, 3) := dk_184 1 48 (dk_at dksJ30_copyOf_3_1 1 rfl rfl)
theorem dJ30_copyOf_3_28 : decode cJ30_copyOf_3 28 = .ok (.invokestatic 150, 3) := dk_184 0 150 (dk_at dksJ30_copyOf_3_1 4 rfl rfl)
theorem dJ30_copyOf_3_31 : decode cJ30_copyOf_3 31 = .ok (.aload_n 2, 1) := dk_44 (dk_at dksJ30_copyOf_3_1 7 rfl rfl)
theorem dJ30_copyOf_3_32 : decode cJ30_copyOf_3 32 = .ok (.areturn, 1) := dk_176 (dk_at dksJ30_copyOf_3_1 8 rfl rfl)
abbrev cJ30_copyOfRange : ByteArray := prog_57_method_132_code
def yJ30_copyOfRange : MethodName := ⟨RJ30, "copyOfRange", "([BII)[B"⟩
def dkwJ30_copyOfRange_1 : List UInt8 := [176]
abbrev dktJ30_copyOfRange_1 : List UInt8 := dkwJ30_copyOfRange_1 ++ []
def dkwJ30_copyOfRange_0 : List UInt8 := [27, 154, 0, 9, 28, 42, 190, 159, 0, 10, 42, 27, 28, 184, 1, 83, 176, 42, 182, 1, 54, 192, 1, 55]
abbrev dktJ30_copyOfRange_0 : List UInt8 := dkwJ30_copyOfRange_0 ++ dktJ30_copyOfRange_1
theorem dksJ30_copyOfRange_0 : cJ30_copyOfRange.data.toList.drop 0 = dktJ30_copyOfRange_0 := by decide +kernel
theorem dksJ30_copyOfRange_1 : cJ30_copyOfRange.data.toList.drop 24 = dktJ30_copyOfRange_1 := dk_seg dksJ30_copyOfRange_0 24 rfl rfl
theorem dJ30_copyOfRange_0 : decode cJ30_copyOfRange 0 = .ok (.iload_n 1, 1) := dk_27 (dk_at dksJ30_copyOfRange_0 0 rfl rfl)
theorem dJ30_copyOfRange_1 : decode cJ30_copyOfRange 1 = .ok (.ifCond .ne 9, 3) := dk_154 0 9 (dk_at dksJ30_copyOfRange_0 1 rfl rfl)
theorem dJ30_copyOfRange_4 : decode cJ30_copyOfRange 4 = .ok (.iload_n 2, 1) := dk_28 (dk_at dksJ30_copyOfRange_0 4 rfl rfl)
theorem dJ30_copyOfRange_5 : decode cJ30_copyOfRange 5 = .ok (.aload_n 0, 1) := dk_42 (dk_at dksJ30_copyOfRange_0 5 rfl rfl)
theorem dJ30_copyOfRange_6 : decode cJ30_copyOfRange 6 = .ok (.arraylength, 1) := dk_190 (dk_at dksJ30_copyOfRange_0 6 rfl rfl)
theorem dJ30_copyOfRange_7 : decode cJ30_copyOfRange 7 = .ok (.if_icmp .eq 10, 3) := dk_159 0 10 (dk_at dksJ30_copyOfRange_0 7 rfl rfl)
theorem dJ30_copyOfRange_10 : decode cJ30_copyOfRange 10 = .ok (.aload_n 0, 1) := dk_42 (dk_at dksJ30_copyOfRange_0 10 rfl rfl)
theorem dJ30_copyOfRange_11 : decode cJ30_copyOfRange 11 = .ok (.iload_n 1, 1) := dk_27 (dk_at dksJ30_copyOfRange_0 11 rfl rfl)
theorem dJ30_copyOfRange_12 : decode cJ30_copyOfRange 12 = .ok (.iload_n 2, 1) := dk_28 (dk_at dksJ30_copyOfRange_0 12 rfl rfl)
theorem dJ30_copyOfRange_13 : decode cJ30_copyOfRange 13 = .ok (.invokestatic 339, 3) := dk_184 1 83 (dk_at dksJ30_copyOfRange_0 13 rfl rfl)
theorem dJ30_copyOfRange_16 : decode cJ30_copyOfRange 16 = .ok (.areturn, 1) := dk_176 (dk_at dksJ30_copyOfRange_0 16 rfl rfl)
theorem dJ30_copyOfRange_17 : decode cJ30_copyOfRange 17 = .ok (.aload_n 0, 1) := dk_42 (dk_at dksJ30_copyOfRange_0 17 rfl rfl)
theorem dJ30_copyOfRange_18 : decode cJ30_copyOfRange 18 = .ok (.invokevirtual 310, 3) := dk_182 1 54 (dk_at dksJ30_copyOfRange_0 18 rfl rfl)
theorem dJ30_copyOfRange_21 : decode cJ30_copyOfRange 21 = .ok (.checkcast 311, 3) := dk_192 1 55 (dk_at dksJ30_copyOfRange_0 21 rfl rfl)
theorem dJ30_copyOfRange_24 : decode cJ30_copyOfRange 24 = .ok (.areturn, 1) := dk_176 (dk_at dksJ30_copyOfRange_1 0 rfl rfl)
abbrev cJ30_copyOfRangeByte : ByteArray := prog_57_method_133_code
def yJ30_copyOfRangeByte : MethodName := ⟨RJ30, "copyOfRangeByte", "([BII)[B"⟩
def dkwJ30_copyOfRangeByte_1 : List UInt8 := [184, 1, 48, 184, 0, 150, 25, 4, 176]
abbrev dktJ30_copyOfRangeByte_1 : List UInt8 := dkwJ30_copyOfRangeByte_1 ++ []
def dkwJ30_copyOfRangeByte_0 : List UInt8 := [27, 28, 184, 1, 87, 28, 27, 100, 62, 29, 188, 8, 58, 4, 42, 27, 25, 4, 3, 42, 190, 27, 100, 29]
abbrev dktJ30_copyOfRangeByte_0 : List UInt8 := dkwJ30_copyOfRangeByte_0 ++ dktJ30_copyOfRangeByte_1
theorem dksJ30_copyOfRangeByte_0 : cJ30_copyOfRangeByte.data.toList.drop 0 = dktJ30_copyOfRangeByte_0 := by decide +kernel
theorem dksJ30_copyOfRangeByte_1 : cJ30_copyOfRangeByte.data.toList.drop 24 = dktJ30_copyOfRangeByte_1 := dk_seg dksJ30_copyOfRangeByte_0 24 rfl rfl
theorem dJ30_copyOfRangeByte_0 : decode cJ30_copyOfRangeByte 0 = .ok (.iload_n 1, 1) := dk_27 (dk_at dksJ30_copyOfRangeByte_0 0 rfl rfl)
theorem dJ30_copyOfRangeByte_1 : decode cJ30_copyOfRangeByte 1 = .ok (.iload_n 2, 1) := dk_28 (dk_at dksJ30_copyOfRangeByte_0 1 rfl rfl)
theorem dJ30_copyOfRangeByte_2 : decode cJ30_copyOfRangeByte 2 = .ok (.invokestatic 343, 3) := dk_184 1 87 (dk_at dksJ30_copyOfRangeByte_0 2 rfl rfl)
theorem dJ30_copyOfRangeByte_5 : decode cJ30_copyOfRangeByte 5 = .ok (.iload_n 2, 1) := dk_28 (dk_at dksJ30_copyOfRangeByte_0 5 rfl rfl)
theorem dJ30_copyOfRangeByte_6 : decode cJ30_copyOfRangeByte 6 = .ok (.iload_n 1, 1) := dk_27 (dk_at dksJ30_copyOfRangeByte_0 6 rfl rfl)
theorem dJ30_copyOfRangeByte_7 : decode cJ30_copyOfRangeByte 7 = .ok (.isub, 1) := dk_100 (dk_at dksJ30_copyOfRangeByte_0 7 rfl rfl)
theorem dJ30_copyOfRangeByte_8 : decode cJ30_copyOfRangeByte 8 = .ok (.istore_n 3, 1) := dk_62 (dk_at dksJ30_copyOfRangeByte_0 8 rfl rfl)
theorem dJ30_copyOfRangeByte_9 : decode cJ30_copyOfRangeByte 9 = .ok (.iload_n 3, 1) := dk_29 (dk_at dksJ30_copyOfRangeByte_0 9 rfl rfl)
theorem dJ30_copyOfRangeByte_10 : decode cJ30_copyOfRangeByte 10 = .ok (.newarray .byte, 2) := dk_188_8 (dk_at dksJ30_copyOfRangeByte_0 10 rfl rfl)
theorem dJ30_copyOfRangeByte_12 : decode cJ30_copyOfRangeByte 12 = .ok (.astore 4, 2) := dk_58 4 (dk_at dksJ30_copyOfRangeByte_0 12 rfl rfl)
theorem dJ30_copyOfRangeByte_14 : decode cJ30_copyOfRangeByte 14 = .ok (.aload_n 0, 1) := dk_42 (dk_at dksJ30_copyOfRangeByte_0 14 rfl rfl)
theorem dJ30_copyOfRangeByte_15 : decode cJ30_copyOfRangeByte 15 = .ok (.iload_n 1, 1) := dk_27 (dk_at dksJ30_copyOfRangeByte_0 15 rfl rfl)
theorem dJ30_copyOfRangeByte_16 : decode cJ30_copyOfRangeByte 16 = .ok (.aload 4, 2) := dk_25 4 (dk_at dksJ30_copyOfRangeByte_0 16 rfl rfl)
theorem dJ30_copyOfRangeByte_18 : decode cJ30_copyOfRangeByte 18 = .ok (.iconst 0, 1) := dk_3 (dk_at dksJ30_copyOfRangeByte_0 18 rfl rfl)
theorem dJ30_copyOfRangeByte_19 : decode cJ30_copyOfRangeByte 19 = .ok (.aload_n 0, 1) := dk_42 (dk_at dksJ30_copyOfRangeByte_0 19 rfl rfl)
theorem dJ30_copyOfRangeByte_20 : decode cJ30_copyOfRangeByte 20 = .ok (.arraylength, 1) := dk_190 (dk_at dksJ30_copyOfRangeByte_0 20 rfl rfl)
theorem dJ30_copyOfRangeByte_21 : decode cJ30_copyOfRangeByte 21 = .ok (.iload_n 1, 1) := dk_27 (dk_at dksJ30_copyOfRangeByte_0 21 rfl rfl)
theorem dJ30_copyOfRangeByte_22 : decode cJ30_copyOfRangeByte 22 = .ok (.isub, 1) := dk_100 (dk_at dksJ30_copyOfRangeByte_0 22 rfl rfl)
theorem dJ30_copyOfRangeByte_23 : decode cJ30_copyOfRangeByte 23 = .ok (.iload_n 3, 1) := dk_29 (dk_at dksJ30_copyOfRangeByte_0 23 rfl rfl)
theorem dJ30_copyOfRangeByte_24 : decode cJ30_copyOfRangeByte 24 = .ok (.invokestatic 304, 3) := dk_184 1 48 (dk_at dksJ30_copyOfRangeByte_1 0 rfl rfl)
theorem dJ30_copyOfRangeByte_27 : decode cJ30_copyOfRangeByte 27 = .ok (.invokestatic 150, 3) := dk_184 0 150 (dk_at dksJ30_copyOfRangeByte_1 3 rfl rfl)
theorem dJ30_copyOfRangeByte_30 : decode cJ30_copyOfRangeByte 30 = .ok (.aload 4, 2) := dk_25 4 (dk_at dksJ30_copyOfRangeByte_1 6 rfl rfl)
theorem dJ30_copyOfRangeByte_32 : decode cJ30_copyOfRangeByte 32 = .ok (.areturn, 1) := dk_176 (dk_at dksJ30_copyOfRangeByte_1 8 rfl rfl)
abbrev cJ30_checkLength : ByteArray := prog_57_method_131_code
def yJ30_checkLength : MethodName := ⟨RJ30, "checkLength", "(II)V"⟩
def dkwJ30_checkLength_1 : List UInt8 := [182, 0, 50, 27, 182, 0, 54, 182, 0, 61, 183, 0, 65, 191, 177]
abbrev dktJ30_checkLength_1 : List UInt8 := dkwJ30_checkLength_1 ++ []
def dkwJ30_checkLength_0 : List UInt8 := [27, 26, 162, 0, 35, 187, 0, 43, 89, 187, 0, 45, 89, 183, 0, 47, 26, 182, 0, 54, 19, 1, 81]
abbrev dktJ30_checkLength_0 : List UInt8 := dkwJ30_checkLength_0 ++ dktJ30_checkLength_1
theorem dksJ30_checkLength_0 : cJ30_checkLength.data.toList.drop 0 = dktJ30_checkLength_0 := by decide +kernel
theorem dksJ30_checkLength_1 : cJ30_checkLength.data.toList.drop 23 = dktJ30_checkLength_1 := dk_seg dksJ30_checkLength_0 23 rfl rfl
theorem dJ30_checkLength_0 : decode cJ30_checkLength 0 = .ok (.iload_n 1, 1) := dk_27 (dk_at dksJ30_checkLength_0 0 rfl rfl)
theorem dJ30_checkLength_1 : decode cJ30_checkLength 1 = .ok (.iload_n 0, 1) := dk_26 (dk_at dksJ30_checkLength_0 1 rfl rfl)
theorem dJ30_checkLength_2 : decode cJ30_checkLength 2 = .ok (.if_icmp .ge 35, 3) := dk_162 0 35 (dk_at dksJ30_checkLength_0 2 rfl rfl)
theorem dJ30_checkLength_5 : decode cJ30_checkLength 5 = .ok (.new 43, 3) := dk_187 0 43 (dk_at dksJ30_checkLength_0 5 rfl rfl)
theorem dJ30_checkLength_8 : decode cJ30_checkLength 8 = .ok (.dup, 1) := dk_89 (dk_at dksJ30_checkLength_0 8 rfl rfl)
theorem dJ30_checkLength_9 : decode cJ30_checkLength 9 = .ok (.new 45, 3) := dk_187 0 45 (dk_at dksJ30_checkLength_0 9 rfl rfl)
theorem dJ30_checkLength_12 : decode cJ30_checkLength 12 = .ok (.dup, 1) := dk_89 (dk_at dksJ30_checkLength_0 12 rfl rfl)
theorem dJ30_checkLength_13 : decode cJ30_checkLength 13 = .ok (.invokespecial 47, 3) := dk_183 0 47 (dk_at dksJ30_checkLength_0 13 rfl rfl)
theorem dJ30_checkLength_16 : decode cJ30_checkLength 16 = .ok (.iload_n 0, 1) := dk_26 (dk_at dksJ30_checkLength_0 16 rfl rfl)
theorem dJ30_checkLength_17 : decode cJ30_checkLength 17 = .ok (.invokevirtual 54, 3) := dk_182 0 54 (dk_at dksJ30_checkLength_0 17 rfl rfl)
theorem dJ30_checkLength_20 : decode cJ30_checkLength 20 = .ok (.ldc_w 337, 3) := dk_19 1 81 (dk_at dksJ30_checkLength_0 20 rfl rfl)
theorem dJ30_checkLength_23 : decode cJ30_checkLength 23 = .ok (.invokevirtual 50, 3) := dk_182 0 50 (dk_at dksJ30_checkLength_1 0 rfl rfl)
theorem dJ30_checkLength_26 : decode cJ30_checkLength 26 = .ok (.iload_n 1, 1) := dk_27 (dk_at dksJ30_checkLength_1 3 rfl rfl)
theorem dJ30_checkLength_27 : decode cJ30_checkLength 27 = .ok (.invokevirtual 54, 3) := dk_182 0 54 (dk_at dksJ30_checkLength_1 4 rfl rfl)
theorem dJ30_checkLength_30 : decode cJ30_checkLength 30 = .ok (.invokevirtual 61, 3) := dk_182 0 61 (dk_at dksJ30_checkLength_1 7 rfl rfl)
theorem dJ30_checkLength_33 : decode cJ30_checkLength 33 = .ok (.invokespecial 65, 3) := dk_183 0 65 (dk_at dksJ30_checkLength_1 10 rfl rfl)
theorem dJ30_checkLength_36 : decode cJ30_checkLength 36 = .ok (.athrow, 1) := dk_191 (dk_at dksJ30_checkLength_1 13 rfl rfl)
theorem dJ30_checkLength_37 : decode cJ30_checkLength 37 = .ok (.return_, 1) := dk_177 (dk_at dksJ30_checkLength_1 14 rfl rfl)
theorem q173 : (Jvm.Cond.initialized "java/util/Arrays") ∈ lw_all := lw_g (lw_at lw_m1 40 rfl) rfl
theorem q1438 : (Jvm.Cond.static ({ cls := "java/util/Arrays", name := "copyOf", desc := "([Ljava/lang/Object;I)[Ljava/lang/Object;" } : Jvm.MethodName)) ∈ lw_all := lw_g (lw_at lw_m6 105 rfl) rfl
theorem q1439 : (Jvm.Cond.code ({ cls := "java/util/Arrays", name := "copyOf", desc := "([Ljava/lang/Object;I)[Ljava/lang/Object;" } : Jvm.MethodName) prog_57_method_119_code (2 : Nat) (Option.some (Jvm.ClassFile.FieldType.array (Jvm.ClassFile.FieldType.object "java/lang/Object")))) ∈ lw_all := lw_g (lw_at lw_m6 106 rfl) rfl
theorem q1440 : (Jvm.Cond.methodLink "java/util/Arrays" (86 : Nat) ({ cls := "java/lang/Object", name := "getClass", desc := "()Ljava/lang/Class;" } : Jvm.MethodName)) ∈ lw_all := lw_g (lw_at lw_m6 107 rfl) rfl
theorem q1441 : (Jvm.Cond.methodLink "java/util/Arrays" (300 : Nat) ({ cls := "java/util/Arrays", name := "copyOf", desc := "([Ljava/lang/Object;ILjava/lang/Class;)[Ljava/lang/Object;" } : Jvm.MethodName)) ∈ lw_all := lw_g (lw_at lw_m6 108 rfl) rfl
theorem q1442 : (Jvm.Cond.static ({ cls := "java/util/Arrays", name := "copyOf", desc := "([Ljava/lang/Object;ILjava/lang/Class;)[Ljava/lang/Object;" } : Jvm.MethodName)) ∈ lw_all := lw_g (lw_at lw_m6 109 rfl) rfl
theorem q1443 : (Jvm.Cond.code ({ cls := "java/util/Arrays", name := "copyOf", desc := "([Ljava/lang/Object;ILjava/lang/Class;)[Ljava/lang/Object;" } : Jvm.MethodName) prog_57_method_120_code (4 : Nat) (Option.some (Jvm.ClassFile.FieldType.array (Jvm.ClassFile.FieldType.object "java/lang/Object")))) ∈ lw_all := lw_g (lw_at lw_m6 110 rfl) rfl
theorem q1444 : (Jvm.Cond.classLink "java/util/Arrays" (110 : Nat) "[Ljava/lang/Object;") ∈ lw_all := lw_g (lw_at lw_m6 111 rfl) rfl
theorem q1445 : (Jvm.Cond.classLink "java/util/Arrays" (2 : Nat) "java/lang/Object") ∈ lw_all := lw_g (lw_at lw_m6 112 rfl) rfl
theorem q1446 : (Jvm.Cond.methodLink "java/util/Arrays" (304 : Nat) ({ cls := "java/lang/Math", name := "min", desc := "(II)I" } : Jvm.MethodName)) ∈ lw_all := lw_g (lw_at lw_m6 113 rfl) rfl
theorem q1447 : (Jvm.Cond.methodLink "java/util/Arrays" (150 : Nat) ({ cls := "java/lang/System", name := "arraycopy", desc := "(Ljava/lang/Object;ILjava/lang/Object;II)V" } : Jvm.MethodName)) ∈ lw_all := lw_g (lw_at lw_m6 114 rfl) rfl
theorem q1526 : (Jvm.Cond.static ({ cls := "java/util/Arrays", name := "copyOf", desc := "([BI)[B" } : Jvm.MethodName)) ∈ lw_all := lw_g (lw_at lw_m6 193 rfl) rfl
theorem q1527 : (Jvm.Cond.code ({ cls := "java/util/Arrays", name := "copyOf", desc := "([BI)[B" } : Jvm.MethodName) prog_57_method_121_code (3 : Nat) (Option.some (Jvm.ClassFile.FieldType.array Jvm.ClassFile.FieldType.byte))) ∈ lw_all := lw_g (lw_at lw_m6 194 rfl) rfl
theorem q1528 : (Jvm.Cond.methodLink "java/util/Arrays" (310 : Nat) ({ cls := "[B", name := "clone", desc := "()Ljava/lang/Object;" } : Jvm.MethodName)) ∈ lw_all := lw_g (lw_at lw_m6 195 rfl) rfl
theorem q1534 : (Jvm.Cond.classLink "java/util/Arrays" (311 : Nat) "[B") ∈ lw_all := lw_g (lw_at lw_m6 201 rfl) rfl
theorem q1599 : (Jvm.Cond.static ({ cls := "java/util/Arrays", name := "copyOfRange", desc := "([BII)[B" } : Jvm.MethodName)) ∈ lw_all := lw_g (lw_at lw_m7 26 rfl) rfl
theorem q1600 : (Jvm.Cond.code ({ cls := "java/util/Arrays", name := "copyOfRange", desc := "([BII)[B" } : Jvm.MethodName) prog_57_method_132_code (3 : Nat) (Option.some (Jvm.ClassFile.FieldType.array Jvm.ClassFile.FieldType.byte))) ∈ lw_all := lw_g (lw_at lw_m7 27 rfl) rfl
theorem q1601 : (Jvm.Cond.methodLink "java/util/Arrays" (339 : Nat) ({ cls := "java/util/Arrays", name := "copyOfRangeByte", desc := "([BII)[B" } : Jvm.MethodName)) ∈ lw_all := lw_g (lw_at lw_m7 28 rfl) rfl
theorem q1602 : (Jvm.Cond.static ({ cls := "java/util/Arrays", name := "copyOfRangeByte", desc := "([BII)[B" } : Jvm.MethodName)) ∈ lw_all := lw_g (lw_at lw_m7 29 rfl) rfl
theorem q1603 : (Jvm.Cond.code ({ cls := "java/util/Arrays", name := "copyOfRangeByte", desc := "([BII)[B" } : Jvm.MethodName) prog_57_method_133_code (5 : Nat) (Option.some (Jvm.ClassFile.FieldType.array Jvm.ClassFile.FieldType.byte))) ∈ lw_all := lw_g (lw_at lw_m7 30 rfl) rfl
theorem q1604 : (Jvm.Cond.methodLink "java/util/Arrays" (343 : Nat) ({ cls := "java/util/Arrays", name := "checkLength", desc := "(II)V" } : Jvm.MethodName)) ∈ lw_all := lw_g (lw_at lw_m7 31 rfl) rfl
theorem q1605 : (Jvm.Cond.static ({ cls := "java/util/Arrays", name := "checkLength", desc := "(II)V" } : Jvm.MethodName)) ∈ lw_all := lw_g (lw_at lw_m7 32 rfl) rfl
theorem q1606 : (Jvm.Cond.code ({ cls := "java/util/Arrays", name := "checkLength", desc := "(II)V" } : Jvm.MethodName) prog_57_method_131_code (2 : Nat) (Option.none : Option Jvm.ClassFile.FieldType)) ∈ lw_all := lw_g (lw_at lw_m7 33 rfl) rfl
