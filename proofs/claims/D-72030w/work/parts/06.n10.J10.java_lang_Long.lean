/-! java/lang/Long -/
set_option maxRecDepth 100000
def RJ10 : String := "java/lang/Long"
abbrev cJ10_numberOfLeadingZeros : ByteArray := prog_35_method_48_code
def yJ10_numberOfLeadingZeros : MethodName := ⟨RJ10, "numberOfLeadingZeros", "(J)I"⟩
def dkwJ10_numberOfLeadingZeros_1 : List UInt8 := [184, 1, 52, 172]
abbrev dktJ10_numberOfLeadingZeros_1 : List UInt8 := dkwJ10_numberOfLeadingZeros_1 ++ []
def dkwJ10_numberOfLeadingZeros_0 : List UInt8 := [30, 16, 32, 125, 136, 61, 28, 154, 0, 14, 16, 32, 30, 136, 184, 1, 52, 96, 167, 0, 7, 28]
abbrev dktJ10_numberOfLeadingZeros_0 : List UInt8 := dkwJ10_numberOfLeadingZeros_0 ++ dktJ10_numberOfLeadingZeros_1
theorem dksJ10_numberOfLeadingZeros_0 : cJ10_numberOfLeadingZeros.data.toList.drop 0 = dktJ10_numberOfLeadingZeros_0 := by decide +kernel
theorem dksJ10_numberOfLeadingZeros_1 : cJ10_numberOfLeadingZeros.data.toList.drop 22 = dktJ10_numberOfLeadingZeros_1 := dk_seg dksJ10_numberOfLeadingZeros_0 22 rfl rfl
theorem dJ10_numberOfLeadingZeros_0 : decode cJ10_numberOfLeadingZeros 0 = .ok (.lload_n 0, 1) := dk_30 (dk_at dksJ10_numberOfLeadingZeros_0 0 rfl rfl)
theorem dJ10_numberOfLeadingZeros_1 : decode cJ10_numberOfLeadingZeros 1 = .ok (.bipush 32, 2) := dk_16 32 (dk_at dksJ10_numberOfLeadingZeros_0 1 rfl rfl)
theorem dJ10_numberOfLeadingZeros_3 : decode cJ10_numberOfLeadingZeros 3 = .ok (.lushr, 1) := dk_125 (dk_at dksJ10_numberOfLeadingZeros_0 3 rfl rfl)
theorem dJ10_numberOfLeadingZeros_4 : decode cJ10_numberOfLeadingZeros 4 = .ok (.l2i, 1) := dk_136 (dk_at dksJ10_numberOfLeadingZeros_0 4 rfl rfl)
theorem dJ10_numberOfLeadingZeros_5 : decode cJ10_numberOfLeadingZeros 5 = .ok (.istore_n 2, 1) := dk_61 (dk_at dksJ10_numberOfLeadingZeros_0 5 rfl rfl)
theorem dJ10_numberOfLeadingZeros_6 : decode cJ10_numberOfLeadingZeros 6 = .ok (.iload_n 2, 1) := dk_28 (dk_at dksJ10_numberOfLeadingZeros_0 6 rfl rfl)
theorem dJ10_numberOfLeadingZeros_7 : decode cJ10_numberOfLeadingZeros 7 = .ok (.ifCond .ne 14, 3) := dk_154 0 14 (dk_at dksJ10_numberOfLeadingZeros_0 7 rfl rfl)
theorem dJ10_numberOfLeadingZeros_10 : decode cJ10_numberOfLeadingZeros 10 = .ok (.bipush 32, 2) := dk_16 32 (dk_at dksJ10_numberOfLeadingZeros_0 10 rfl rfl)
theorem dJ10_numberOfLeadingZeros_12 : decode cJ10_numberOfLeadingZeros 12 = .ok (.lload_n 0, 1) := dk_30 (dk_at dksJ10_numberOfLeadingZeros_0 12 rfl rfl)
theorem dJ10_numberOfLeadingZeros_13 : decode cJ10_numberOfLeadingZeros 13 = .ok (.l2i, 1) := dk_136 (dk_at dksJ10_numberOfLeadingZeros_0 13 rfl rfl)
theorem dJ10_numberOfLeadingZeros_14 : decode cJ10_numberOfLeadingZeros 14 = .ok (.invokestatic 308, 3) := dk_184 1 52 (dk_at dksJ10_numberOfLeadingZeros_0 14 rfl rfl)
theorem dJ10_numberOfLeadingZeros_17 : decode cJ10_numberOfLeadingZeros 17 = .ok (.iadd, 1) := dk_96 (dk_at dksJ10_numberOfLeadingZeros_0 17 rfl rfl)
theorem dJ10_numberOfLeadingZeros_18 : decode cJ10_numberOfLeadingZeros 18 = .ok (.goto 7, 3) := dk_167 0 7 (dk_at dksJ10_numberOfLeadingZeros_0 18 rfl rfl)
theorem dJ10_numberOfLeadingZeros_21 : decode cJ10_numberOfLeadingZeros 21 = .ok (.iload_n 2, 1) := dk_28 (dk_at dksJ10_numberOfLeadingZeros_0 21 rfl rfl)
theorem dJ10_numberOfLeadingZeros_22 : decode cJ10_numberOfLeadingZeros 22 = .ok (.invokestatic 308, 3) := dk_184 1 52 (dk_at dksJ10_numberOfLeadingZeros_1 0 rfl rfl)
theorem dJ10_numberOfLeadingZeros_25 : decode cJ10_numberOfLeadingZeros 25 = .ok (.ireturn, 1) := dk_172 (dk_at dksJ10_numberOfLeadingZeros_1 3 rfl rfl)
abbrev cJ10_numberOfTrailingZeros : ByteArray := prog_35_method_49_code
def yJ10_numberOfTrailingZeros : MethodName := ⟨RJ10, "numberOfTrailingZeros", "(J)I"⟩
def dkwJ10_numberOfTrailingZeros_1 : List UInt8 := [184, 1, 55, 172]
abbrev dktJ10_numberOfTrailingZeros_1 : List UInt8 := dkwJ10_numberOfTrailingZeros_1 ++ []
def dkwJ10_numberOfTrailingZeros_0 : List UInt8 := [30, 136, 61, 28, 154, 0, 17, 16, 32, 30, 16, 32, 125, 136, 184, 1, 55, 96, 167, 0, 7, 28]
abbrev dktJ10_numberOfTrailingZeros_0 : List UInt8 := dkwJ10_numberOfTrailingZeros_0 ++ dktJ10_numberOfTrailingZeros_1
theorem dksJ10_numberOfTrailingZeros_0 : cJ10_numberOfTrailingZeros.data.toList.drop 0 = dktJ10_numberOfTrailingZeros_0 := by decide +kernel
theorem dksJ10_numberOfTrailingZeros_1 : cJ10_numberOfTrailingZeros.data.toList.drop 22 = dktJ10_numberOfTrailingZeros_1 := dk_seg dksJ10_numberOfTrailingZeros_0 22 rfl rfl
theorem dJ10_numberOfTrailingZeros_0 : decode cJ10_numberOfTrailingZeros 0 = .ok (.lload_n 0, 1) := dk_30 (dk_at dksJ10_numberOfTrailingZeros_0 0 rfl rfl)
theorem dJ10_numberOfTrailingZeros_1 : decode cJ10_numberOfTrailingZeros 1 = .ok (.l2i, 1) := dk_136 (dk_at dksJ10_numberOfTrailingZeros_0 1 rfl rfl)
theorem dJ10_numberOfTrailingZeros_2 : decode cJ10_numberOfTrailingZeros 2 = .ok (.istore_n 2, 1) := dk_61 (dk_at dksJ10_numberOfTrailingZeros_0 2 rfl rfl)
theorem dJ10_numberOfTrailingZeros_3 : decode cJ10_numberOfTrailingZeros 3 = .ok (.iload_n 2, 1) := dk_28 (dk_at dksJ10_numberOfTrailingZeros_0 3 rfl rfl)
theorem dJ10_numberOfTrailingZeros_4 : decode cJ10_numberOfTrailingZeros 4 = .ok (.ifCond .ne 17, 3) := dk_154 0 17 (dk_at dksJ10_numberOfTrailingZeros_0 4 rfl rfl)
theorem dJ10_numberOfTrailingZeros_7 : decode cJ10_numberOfTrailingZeros 7 = .ok (.bipush 32, 2) := dk_16 32 (dk_at dksJ10_numberOfTrailingZeros_0 7 rfl rfl)
theorem dJ10_numberOfTrailingZeros_9 : decode cJ10_numberOfTrailingZeros 9 = .ok (.lload_n 0, 1) := dk_30 (dk_at dksJ10_numberOfTrailingZeros_0 9 rfl rfl)
theorem dJ10_numberOfTrailingZeros_10 : decode cJ10_numberOfTrailingZeros 10 = .ok (.bipush 32, 2) := dk_16 32 (dk_at dksJ10_numberOfTrailingZeros_0 10 rfl rfl)
theorem dJ10_numberOfTrailingZeros_12 : decode cJ10_numberOfTrailingZeros 12 = .ok (.lushr, 1) := dk_125 (dk_at dksJ10_numberOfTrailingZeros_0 12 rfl rfl)
theorem dJ10_numberOfTrailingZeros_13 : decode cJ10_numberOfTrailingZeros 13 = .ok (.l2i, 1) := dk_136 (dk_at dksJ10_numberOfTrailingZeros_0 13 rfl rfl)
theorem dJ10_numberOfTrailingZeros_14 : decode cJ10_numberOfTrailingZeros 14 = .ok (.invokestatic 311, 3) := dk_184 1 55 (dk_at dksJ10_numberOfTrailingZeros_0 14 rfl rfl)
theorem dJ10_numberOfTrailingZeros_17 : decode cJ10_numberOfTrailingZeros 17 = .ok (.iadd, 1) := dk_96 (dk_at dksJ10_numberOfTrailingZeros_0 17 rfl rfl)
theorem dJ10_numberOfTrailingZeros_18 : decode cJ10_numberOfTrailingZeros 18 = .ok (.goto 7, 3) := dk_167 0 7 (dk_at dksJ10_numberOfTrailingZeros_0 18 rfl rfl)
theorem dJ10_numberOfTrailingZeros_21 : decode cJ10_numberOfTrailingZeros 21 = .ok (.iload_n 2, 1) := dk_28 (dk_at dksJ10_numberOfTrailingZeros_0 21 rfl rfl)
theorem dJ10_numberOfTrailingZeros_22 : decode cJ10_numberOfTrailingZeros 22 = .ok (.invokestatic 311, 3) := dk_184 1 55 (dk_at dksJ10_numberOfTrailingZeros_1 0 rfl rfl)
theorem dJ10_numberOfTrailingZeros_25 : decode cJ10_numberOfTrailingZeros 25 = .ok (.ireturn, 1) := dk_172 (dk_at dksJ10_numberOfTrailingZeros_1 3 rfl rfl)
abbrev cJ10_bitCount : ByteArray := prog_35_method_50_code
def yJ10_bitCount : MethodName := ⟨RJ10, "bitCount", "(J)I"⟩
def dkwJ10_bitCount_2 : List UInt8 := [30, 30, 16, 32, 125, 97, 63, 30, 136, 16, 127, 126, 172]
abbrev dktJ10_bitCount_2 : List UInt8 := dkwJ10_bitCount_2 ++ []
def dkwJ10_bitCount_1 : List UInt8 := [30, 30, 7, 125, 97, 20, 1, 62, 127, 63, 30, 30, 16, 8, 125, 97, 63, 30, 30, 16, 16, 125, 97, 63]
abbrev dktJ10_bitCount_1 : List UInt8 := dkwJ10_bitCount_1 ++ dktJ10_bitCount_2
def dkwJ10_bitCount_0 : List UInt8 := [30, 30, 4, 125, 20, 1, 58, 127, 101, 63, 30, 20, 1, 60, 127, 30, 5, 125, 20, 1, 60, 127, 97, 63]
abbrev dktJ10_bitCount_0 : List UInt8 := dkwJ10_bitCount_0 ++ dktJ10_bitCount_1
theorem dksJ10_bitCount_0 : cJ10_bitCount.data.toList.drop 0 = dktJ10_bitCount_0 := by decide +kernel
theorem dksJ10_bitCount_1 : cJ10_bitCount.data.toList.drop 24 = dktJ10_bitCount_1 := dk_seg dksJ10_bitCount_0 24 rfl rfl
theorem dksJ10_bitCount_2 : cJ10_bitCount.data.toList.drop 48 = dktJ10_bitCount_2 := dk_seg dksJ10_bitCount_1 24 rfl rfl
theorem dJ10_bitCount_0 : decode cJ10_bitCount 0 = .ok (.lload_n 0, 1) := dk_30 (dk_at dksJ10_bitCount_0 0 rfl rfl)
theorem dJ10_bitCount_1 : decode cJ10_bitCount 1 = .ok (.lload_n 0, 1) := dk_30 (dk_at dksJ10_bitCount_0 1 rfl rfl)
theorem dJ10_bitCount_2 : decode cJ10_bitCount 2 = .ok (.iconst 1, 1) := dk_4 (dk_at dksJ10_bitCount_0 2 rfl rfl)
theorem dJ10_bitCount_3 : decode cJ10_bitCount 3 = .ok (.lushr, 1) := dk_125 (dk_at dksJ10_bitCount_0 3 rfl rfl)
theorem dJ10_bitCount_4 : decode cJ10_bitCount 4 = .ok (.ldc2_w 314, 3) := dk_20 1 58 (dk_at dksJ10_bitCount_0 4 rfl rfl)
theorem dJ10_bitCount_7 : decode cJ10_bitCount 7 = .ok (.land, 1) := dk_127 (dk_at dksJ10_bitCount_0 7 rfl rfl)
theorem dJ10_bitCount_8 : decode cJ10_bitCount 8 = .ok (.lsub, 1) := dk_101 (dk_at dksJ10_bitCount_0 8 rfl rfl)
theorem dJ10_bitCount_9 : decode cJ10_bitCount 9 = .ok (.lstore_n 0, 1) := dk_63 (dk_at dksJ10_bitCount_0 9 rfl rfl)
theorem dJ10_bitCount_10 : decode cJ10_bitCount 10 = .ok (.lload_n 0, 1) := dk_30 (dk_at dksJ10_bitCount_0 10 rfl rfl)
theorem dJ10_bitCount_11 : decode cJ10_bitCount 11 = .ok (.ldc2_w 316, 3) := dk_20 1 60 (dk_at dksJ10_bitCount_0 11 rfl rfl)
theorem dJ10_bitCount_14 : decode cJ10_bitCount 14 = .ok (.land, 1) := dk_127 (dk_at dksJ10_bitCount_0 14 rfl rfl)
theorem dJ10_bitCount_15 : decode cJ10_bitCount 15 = .ok (.lload_n 0, 1) := dk_30 (dk_at dksJ10_bitCount_0 15 rfl rfl)
theorem dJ10_bitCount_16 : decode cJ10_bitCount 16 = .ok (.iconst 2, 1) := dk_5 (dk_at dksJ10_bitCount_0 16 rfl rfl)
theorem dJ10_bitCount_17 : decode cJ10_bitCount 17 = .ok (.lushr, 1) := dk_125 (dk_at dksJ10_bitCount_0 17 rfl rfl)
theorem dJ10_bitCount_18 : decode cJ10_bitCount 18 = .ok (.ldc2_w 316, 3) := dk_20 1 60 (dk_at dksJ10_bitCount_0 18 rfl rfl)
theorem dJ10_bitCount_21 : decode cJ10_bitCount 21 = .ok (.land, 1) := dk_127 (dk_at dksJ10_bitCount_0 21 rfl rfl)
theorem dJ10_bitCount_22 : decode cJ10_bitCount 22 = .ok (.ladd, 1) := dk_97 (dk_at dksJ10_bitCount_0 22 rfl rfl)
theorem dJ10_bitCount_23 : decode cJ10_bitCount 23 = .ok (.lstore_n 0, 1) := dk_63 (dk_at dksJ10_bitCount_0 23 rfl rfl)
theorem dJ10_bitCount_24 : decode cJ10_bitCount 24 = .ok (.lload_n 0, 1) := dk_30 (dk_at dksJ10_bitCount_1 0 rfl rfl)
theorem dJ10_bitCount_25 : decode cJ10_bitCount 25 = .ok (.lload_n 0, 1) := dk_30 (dk_at dksJ10_bitCount_1 1 rfl rfl)
theorem dJ10_bitCount_26 : decode cJ10_bitCount 26 = .ok (.iconst 4, 1) := dk_7 (dk_at dksJ10_bitCount_1 2 rfl rfl)
theorem dJ10_bitCount_27 : decode cJ10_bitCount 27 = .ok (.lushr, 1) := dk_125 (dk_at dksJ10_bitCount_1 3 rfl rfl)
theorem dJ10_bitCount_28 : decode cJ10_bitCount 28 = .ok (.ladd, 1) := dk_97 (dk_at dksJ10_bitCount_1 4 rfl rfl)
theorem dJ10_bitCount_29 : decode cJ10_bitCount 29 = .ok (.ldc2_w 318, 3) := dk_20 1 62 (dk_at dksJ10_bitCount_1 5 rfl rfl)
theorem dJ10_bitCount_32 : decode cJ10_bitCount 32 = .ok (.land, 1) := dk_127 (dk_at dksJ10_bitCount_1 8 rfl rfl)
theorem dJ10_bitCount_33 : decode cJ10_bitCount 33 = .ok (.lstore_n 0, 1) := dk_63 (dk_at dksJ10_bitCount_1 9 rfl rfl)
theorem dJ10_bitCount_34 : decode cJ10_bitCount 34 = .ok (.lload_n 0, 1) := dk_30 (dk_at dksJ10_bitCount_1 10 rfl rfl)
theorem dJ10_bitCount_35 : decode cJ10_bitCount 35 = .ok (.lload_n 0, 1) := dk_30 (dk_at dksJ10_bitCount_1 11 rfl rfl)
theorem dJ10_bitCount_36 : decode cJ10_bitCount 36 = .ok (.bipush 8, 2) := dk_16 8 (dk_at dksJ10_bitCount_1 12 rfl rfl)
theorem dJ10_bitCount_38 : decode cJ10_bitCount 38 = .ok (.lushr, 1) := dk_125 (dk_at dksJ10_bitCount_1 14 rfl rfl)
theorem dJ10_bitCount_39 : decode cJ10_bitCount 39 = .ok (.ladd, 1) := dk_97 (dk_at dksJ10_bitCount_1 15 rfl rfl)
theorem dJ10_bitCount_40 : decode cJ10_bitCount 40 = .ok (.lstore_n 0, 1) := dk_63 (dk_at dksJ10_bitCount_1 16 rfl rfl)
theorem dJ10_bitCount_41 : decode cJ10_bitCount 41 = .ok (.lload_n 0, 1) := dk_30 (dk_at dksJ10_bitCount_1 17 rfl rfl)
theorem dJ10_bitCount_42 : decode cJ10_bitCount 42 = .ok (.lload_n 0, 1) := dk_30 (dk_at dksJ10_bitCount_1 18 rfl rfl)
theorem dJ10_bitCount_43 : decode cJ10_bitCount 43 = .ok (.bipush 16, 2) := dk_16 16 (dk_at dksJ10_bitCount_1 19 rfl rfl)
theorem dJ10_bitCount_45 : decode cJ10_bitCount 45 = .ok (.lushr, 1) := dk_125 (dk_at dksJ10_bitCount_1 21 rfl rfl)
theorem dJ10_bitCount_46 : decode cJ10_bitCount 46 = .ok (.ladd, 1) := dk_97 (dk_at dksJ10_bitCount_1 22 rfl rfl)
theorem dJ10_bitCount_47 : decode cJ10_bitCount 47 = .ok (.lstore_n 0, 1) := dk_63 (dk_at dksJ10_bitCount_1 23 rfl rfl)
theorem dJ10_bitCount_48 : decode cJ10_bitCount 48 = .ok (.lload_n 0, 1) := dk_30 (dk_at dksJ10_bitCount_2 0 rfl rfl)
theorem dJ10_bitCount_49 : decode cJ10_bitCount 49 = .ok (.lload_n 0, 1) := dk_30 (dk_at dksJ10_bitCount_2 1 rfl rfl)
theorem dJ10_bitCount_50 : decode cJ10_bitCount 50 = .ok (.bipush 32, 2) := dk_16 32 (dk_at dksJ10_bitCount_2 2 rfl rfl)
theorem dJ10_bitCount_52 : decode cJ10_bitCount 52 = .ok (.lushr, 1) := dk_125 (dk_at dksJ10_bitCount_2 4 rfl rfl)
theorem dJ10_bitCount_53 : decode cJ10_bitCount 53 = .ok (.ladd, 1) := dk_97 (dk_at dksJ10_bitCount_2 5 rfl rfl)
theorem dJ10_bitCount_54 : decode cJ10_bitCount 54 = .ok (.lstore_n 0, 1) := dk_63 (dk_at dksJ10_bitCount_2 6 rfl rfl)
theorem dJ10_bitCount_55 : decode cJ10_bitCount 55 = .ok (.lload_n 0, 1) := dk_30 (dk_at dksJ10_bitCount_2 7 rfl rfl)
theorem dJ10_bitCount_56 : decode cJ10_bitCount 56 = .ok (.l2i, 1) := dk_136 (dk_at dksJ10_bitCount_2 8 rfl rfl)
theorem dJ10_bitCount_57 : decode cJ10_bitCount 57 = .ok (.bipush 127, 2) := dk_16 127 (dk_at dksJ10_bitCount_2 9 rfl rfl)
theorem dJ10_bitCount_59 : decode cJ10_bitCount 59 = .ok (.iand, 1) := dk_126 (dk_at dksJ10_bitCount_2 11 rfl rfl)
theorem dJ10_bitCount_60 : decode cJ10_bitCount 60 = .ok (.ireturn, 1) := dk_172 (dk_at dksJ10_bitCount_2 12 rfl rfl)
theorem q148 : (Jvm.Cond.initialized "java/lang/Long") ∈ lw_all := lw_g (lw_at lw_m1 15 rfl) rfl
theorem q620 : (Jvm.Cond.static ({ cls := "java/lang/Long", name := "numberOfLeadingZeros", desc := "(J)I" } : Jvm.MethodName)) ∈ lw_all := lw_g (lw_at lw_m3 7 rfl) rfl
theorem q621 : (Jvm.Cond.code ({ cls := "java/lang/Long", name := "numberOfLeadingZeros", desc := "(J)I" } : Jvm.MethodName) prog_35_method_48_code (3 : Nat) (Option.some Jvm.ClassFile.FieldType.int)) ∈ lw_all := lw_g (lw_at lw_m3 8 rfl) rfl
theorem q622 : (Jvm.Cond.methodLink "java/lang/Long" (308 : Nat) ({ cls := "java/lang/Integer", name := "numberOfLeadingZeros", desc := "(I)I" } : Jvm.MethodName)) ∈ lw_all := lw_g (lw_at lw_m3 9 rfl) rfl
theorem q629 : (Jvm.Cond.static ({ cls := "java/lang/Long", name := "numberOfTrailingZeros", desc := "(J)I" } : Jvm.MethodName)) ∈ lw_all := lw_g (lw_at lw_m3 16 rfl) rfl
theorem q630 : (Jvm.Cond.code ({ cls := "java/lang/Long", name := "numberOfTrailingZeros", desc := "(J)I" } : Jvm.MethodName) prog_35_method_49_code (3 : Nat) (Option.some Jvm.ClassFile.FieldType.int)) ∈ lw_all := lw_g (lw_at lw_m3 17 rfl) rfl
theorem q631 : (Jvm.Cond.methodLink "java/lang/Long" (311 : Nat) ({ cls := "java/lang/Integer", name := "numberOfTrailingZeros", desc := "(I)I" } : Jvm.MethodName)) ∈ lw_all := lw_g (lw_at lw_m3 18 rfl) rfl
theorem q2265 : (Jvm.Cond.static ({ cls := "java/lang/Long", name := "bitCount", desc := "(J)I" } : Jvm.MethodName)) ∈ lw_all := lw_g (lw_at lw_m9 212 rfl) rfl
theorem q2266 : (Jvm.Cond.code ({ cls := "java/lang/Long", name := "bitCount", desc := "(J)I" } : Jvm.MethodName) prog_35_method_50_code (2 : Nat) (Option.some Jvm.ClassFile.FieldType.int)) ∈ lw_all := lw_g (lw_at lw_m9 213 rfl) rfl
theorem q2267 : (Jvm.Cond.constantLong "java/lang/Long" (314 : Nat) (6148914691236517205 : Int64)) ∈ lw_all := lw_g (lw_at lw_m9 214 rfl) rfl
theorem q2268 : (Jvm.Cond.constantLong "java/lang/Long" (316 : Nat) (3689348814741910323 : Int64)) ∈ lw_all := lw_g (lw_at lw_m9 215 rfl) rfl
theorem q2269 : (Jvm.Cond.constantLong "java/lang/Long" (318 : Nat) (1085102592571150095 : Int64)) ∈ lw_all := lw_g (lw_at lw_m9 216 rfl) rfl
