/-! jdk/internal/util/ArraysSupport -/
set_option maxRecDepth 100000
def RJ4 : String := "jdk/internal/util/ArraysSupport"
abbrev cJ4_vectorizedHashCode : ByteArray := prog_80_method_4_code
def yJ4_vectorizedHashCode : MethodName := ⟨RJ4, "vectorizedHashCode", "(Ljava/lang/Object;IIII)I"⟩
def dkwJ4_vectorizedHashCode_6 : List UInt8 := [183, 0, 91, 18, 92, 182, 0, 94, 21, 4, 182, 0, 98, 182, 0, 101, 183, 0, 105, 191, 172]
abbrev dktJ4_vectorizedHashCode_6 : List UInt8 := dkwJ4_vectorizedHashCode_6 ++ []
def dkwJ4_vectorizedHashCode_5 : List UInt8 := [167, 0, 44, 29, 42, 192, 0, 82, 27, 28, 184, 0, 84, 167, 0, 31, 187, 0, 87, 89, 187, 0, 89, 89]
abbrev dktJ4_vectorizedHashCode_5 : List UInt8 := dkwJ4_vectorizedHashCode_5 ++ dktJ4_vectorizedHashCode_6
def dkwJ4_vectorizedHashCode_4 : List UInt8 := [29, 42, 192, 0, 60, 27, 28, 184, 0, 75, 167, 0, 57, 29, 42, 192, 0, 77, 27, 28, 184, 0, 79]
abbrev dktJ4_vectorizedHashCode_4 : List UInt8 := dkwJ4_vectorizedHashCode_4 ++ dktJ4_vectorizedHashCode_5
def dkwJ4_vectorizedHashCode_3 : List UInt8 := [192, 0, 60, 27, 28, 184, 0, 66, 167, 0, 83, 29, 42, 192, 0, 69, 27, 28, 184, 0, 71, 167, 0, 70]
abbrev dktJ4_vectorizedHashCode_3 : List UInt8 := dkwJ4_vectorizedHashCode_3 ++ dktJ4_vectorizedHashCode_4
def dkwJ4_vectorizedHashCode_2 : List UInt8 := [29, 42, 192, 0, 60, 27, 28, 184, 0, 62, 167, 0, 103, 42, 193, 0, 60, 153, 0, 16, 29, 42]
abbrev dktJ4_vectorizedHashCode_2 : List UInt8 := dkwJ4_vectorizedHashCode_2 ++ dktJ4_vectorizedHashCode_3
def dkwJ4_vectorizedHashCode_1 : List UInt8 := [170, 0, 0, 0, 0, 127, 0, 0, 0, 4, 0, 0, 0, 10, 0, 0, 0, 42, 0, 0, 0, 55, 0, 0, 0, 127, 0, 0, 0, 127, 0, 0, 0, 88, 0, 0, 0, 101, 0, 0, 0, 114]
abbrev dktJ4_vectorizedHashCode_1 : List UInt8 := dkwJ4_vectorizedHashCode_1 ++ dktJ4_vectorizedHashCode_2
def dkwJ4_vectorizedHashCode_0 : List UInt8 := [21, 4]
abbrev dktJ4_vectorizedHashCode_0 : List UInt8 := dkwJ4_vectorizedHashCode_0 ++ dktJ4_vectorizedHashCode_1
theorem dksJ4_vectorizedHashCode_0 : cJ4_vectorizedHashCode.data.toList.drop 0 = dktJ4_vectorizedHashCode_0 := by decide +kernel
theorem dksJ4_vectorizedHashCode_1 : cJ4_vectorizedHashCode.data.toList.drop 2 = dktJ4_vectorizedHashCode_1 := dk_seg dksJ4_vectorizedHashCode_0 2 rfl rfl
theorem dksJ4_vectorizedHashCode_2 : cJ4_vectorizedHashCode.data.toList.drop 44 = dktJ4_vectorizedHashCode_2 := dk_seg dksJ4_vectorizedHashCode_1 42 rfl rfl
theorem dksJ4_vectorizedHashCode_3 : cJ4_vectorizedHashCode.data.toList.drop 66 = dktJ4_vectorizedHashCode_3 := dk_seg dksJ4_vectorizedHashCode_2 22 rfl rfl
theorem dksJ4_vectorizedHashCode_4 : cJ4_vectorizedHashCode.data.toList.drop 90 = dktJ4_vectorizedHashCode_4 := dk_seg dksJ4_vectorizedHashCode_3 24 rfl rfl
theorem dksJ4_vectorizedHashCode_5 : cJ4_vectorizedHashCode.data.toList.drop 113 = dktJ4_vectorizedHashCode_5 := dk_seg dksJ4_vectorizedHashCode_4 23 rfl rfl
theorem dksJ4_vectorizedHashCode_6 : cJ4_vectorizedHashCode.data.toList.drop 137 = dktJ4_vectorizedHashCode_6 := dk_seg dksJ4_vectorizedHashCode_5 24 rfl rfl
theorem dJ4_vectorizedHashCode_0 : decode cJ4_vectorizedHashCode 0 = .ok (.iload 4, 2) := dk_21 4 (dk_at dksJ4_vectorizedHashCode_0 0 rfl rfl)
theorem dJ4_vectorizedHashCode_2 : decode cJ4_vectorizedHashCode 2 = .ok (.tableswitch 127 4 10 #[42, 55, 127, 127, 88, 101, 114], 42) := by decide +kernel
theorem dJ4_vectorizedHashCode_44 : decode cJ4_vectorizedHashCode 44 = .ok (.iload_n 3, 1) := dk_29 (dk_at dksJ4_vectorizedHashCode_2 0 rfl rfl)
theorem dJ4_vectorizedHashCode_45 : decode cJ4_vectorizedHashCode 45 = .ok (.aload_n 0, 1) := dk_42 (dk_at dksJ4_vectorizedHashCode_2 1 rfl rfl)
theorem dJ4_vectorizedHashCode_46 : decode cJ4_vectorizedHashCode 46 = .ok (.checkcast 60, 3) := dk_192 0 60 (dk_at dksJ4_vectorizedHashCode_2 2 rfl rfl)
theorem dJ4_vectorizedHashCode_49 : decode cJ4_vectorizedHashCode 49 = .ok (.iload_n 1, 1) := dk_27 (dk_at dksJ4_vectorizedHashCode_2 5 rfl rfl)
theorem dJ4_vectorizedHashCode_50 : decode cJ4_vectorizedHashCode 50 = .ok (.iload_n 2, 1) := dk_28 (dk_at dksJ4_vectorizedHashCode_2 6 rfl rfl)
theorem dJ4_vectorizedHashCode_51 : decode cJ4_vectorizedHashCode 51 = .ok (.invokestatic 62, 3) := dk_184 0 62 (dk_at dksJ4_vectorizedHashCode_2 7 rfl rfl)
theorem dJ4_vectorizedHashCode_54 : decode cJ4_vectorizedHashCode 54 = .ok (.goto 103, 3) := dk_167 0 103 (dk_at dksJ4_vectorizedHashCode_2 10 rfl rfl)
theorem dJ4_vectorizedHashCode_57 : decode cJ4_vectorizedHashCode 57 = .ok (.aload_n 0, 1) := dk_42 (dk_at dksJ4_vectorizedHashCode_2 13 rfl rfl)
theorem dJ4_vectorizedHashCode_58 : decode cJ4_vectorizedHashCode 58 = .ok (.instanceof 60, 3) := dk_193 0 60 (dk_at dksJ4_vectorizedHashCode_2 14 rfl rfl)
theorem dJ4_vectorizedHashCode_61 : decode cJ4_vectorizedHashCode 61 = .ok (.ifCond .eq 16, 3) := dk_153 0 16 (dk_at dksJ4_vectorizedHashCode_2 17 rfl rfl)
theorem dJ4_vectorizedHashCode_64 : decode cJ4_vectorizedHashCode 64 = .ok (.iload_n 3, 1) := dk_29 (dk_at dksJ4_vectorizedHashCode_2 20 rfl rfl)
theorem dJ4_vectorizedHashCode_65 : decode cJ4_vectorizedHashCode 65 = .ok (.aload_n 0, 1) := dk_42 (dk_at dksJ4_vectorizedHashCode_2 21 rfl rfl)
theorem dJ4_vectorizedHashCode_66 : decode cJ4_vectorizedHashCode 66 = .ok (.checkcast 60, 3) := dk_192 0 60 (dk_at dksJ4_vectorizedHashCode_3 0 rfl rfl)
theorem dJ4_vectorizedHashCode_69 : decode cJ4_vectorizedHashCode 69 = .ok (.iload_n 1, 1) := dk_27 (dk_at dksJ4_vectorizedHashCode_3 3 rfl rfl)
theorem dJ4_vectorizedHashCode_70 : decode cJ4_vectorizedHashCode 70 = .ok (.iload_n 2, 1) := dk_28 (dk_at dksJ4_vectorizedHashCode_3 4 rfl rfl)
theorem dJ4_vectorizedHashCode_71 : decode cJ4_vectorizedHashCode 71 = .ok (.invokestatic 66, 3) := dk_184 0 66 (dk_at dksJ4_vectorizedHashCode_3 5 rfl rfl)
theorem dJ4_vectorizedHashCode_74 : decode cJ4_vectorizedHashCode 74 = .ok (.goto 83, 3) := dk_167 0 83 (dk_at dksJ4_vectorizedHashCode_3 8 rfl rfl)
theorem dJ4_vectorizedHashCode_77 : decode cJ4_vectorizedHashCode 77 = .ok (.iload_n 3, 1) := dk_29 (dk_at dksJ4_vectorizedHashCode_3 11 rfl rfl)
theorem dJ4_vectorizedHashCode_78 : decode cJ4_vectorizedHashCode 78 = .ok (.aload_n 0, 1) := dk_42 (dk_at dksJ4_vectorizedHashCode_3 12 rfl rfl)
theorem dJ4_vectorizedHashCode_79 : decode cJ4_vectorizedHashCode 79 = .ok (.checkcast 69, 3) := dk_192 0 69 (dk_at dksJ4_vectorizedHashCode_3 13 rfl rfl)
theorem dJ4_vectorizedHashCode_82 : decode cJ4_vectorizedHashCode 82 = .ok (.iload_n 1, 1) := dk_27 (dk_at dksJ4_vectorizedHashCode_3 16 rfl rfl)
theorem dJ4_vectorizedHashCode_83 : decode cJ4_vectorizedHashCode 83 = .ok (.iload_n 2, 1) := dk_28 (dk_at dksJ4_vectorizedHashCode_3 17 rfl rfl)
theorem dJ4_vectorizedHashCode_84 : decode cJ4_vectorizedHashCode 84 = .ok (.invokestatic 71, 3) := dk_184 0 71 (dk_at dksJ4_vectorizedHashCode_3 18 rfl rfl)
theorem dJ4_vectorizedHashCode_87 : decode cJ4_vectorizedHashCode 87 = .ok (.goto 70, 3) := dk_167 0 70 (dk_at dksJ4_vectorizedHashCode_3 21 rfl rfl)
theorem dJ4_vectorizedHashCode_90 : decode cJ4_vectorizedHashCode 90 = .ok (.iload_n 3, 1) := dk_29 (dk_at dksJ4_vectorizedHashCode_4 0 rfl rfl)
theorem dJ4_vectorizedHashCode_91 : decode cJ4_vectorizedHashCode 91 = .ok (.aload_n 0, 1) := dk_42 (dk_at dksJ4_vectorizedHashCode_4 1 rfl rfl)
theorem dJ4_vectorizedHashCode_92 : decode cJ4_vectorizedHashCode 92 = .ok (.checkcast 60, 3) := dk_192 0 60 (dk_at dksJ4_vectorizedHashCode_4 2 rfl rfl)
theorem dJ4_vectorizedHashCode_95 : decode cJ4_vectorizedHashCode 95 = .ok (.iload_n 1, 1) := dk_27 (dk_at dksJ4_vectorizedHashCode_4 5 rfl rfl)
theorem dJ4_vectorizedHashCode_96 : decode cJ4_vectorizedHashCode 96 = .ok (.iload_n 2, 1) := dk_28 (dk_at dksJ4_vectorizedHashCode_4 6 rfl rfl)
theorem dJ4_vectorizedHashCode_97 : decode cJ4_vectorizedHashCode 97 = .ok (.invokestatic 75, 3) := dk_184 0 75 (dk_at dksJ4_vectorizedHashCode_4 7 rfl rfl)
theorem dJ4_vectorizedHashCode_100 : decode cJ4_vectorizedHashCode 100 = .ok (.goto 57, 3) := dk_167 0 57 (dk_at dksJ4_vectorizedHashCode_4 10 rfl rfl)
theorem dJ4_vectorizedHashCode_103 : decode cJ4_vectorizedHashCode 103 = .ok (.iload_n 3, 1) := dk_29 (dk_at dksJ4_vectorizedHashCode_4 13 rfl rfl)
theorem dJ4_vectorizedHashCode_104 : decode cJ4_vectorizedHashCode 104 = .ok (.aload_n 0, 1) := dk_42 (dk_at dksJ4_vectorizedHashCode_4 14 rfl rfl)
theorem dJ4_vectorizedHashCode_105 : decode cJ4_vectorizedHashCode 105 = .ok (.checkcast 77, 3) := dk_192 0 77 (dk_at dksJ4_vectorizedHashCode_4 15 rfl rfl)
theorem dJ4_vectorizedHashCode_108 : decode cJ4_vectorizedHashCode 108 = .ok (.iload_n 1, 1) := dk_27 (dk_at dksJ4_vectorizedHashCode_4 18 rfl rfl)
theorem dJ4_vectorizedHashCode_109 : decode cJ4_vectorizedHashCode 109 = .ok (.iload_n 2, 1) := dk_28 (dk_at dksJ4_vectorizedHashCode_4 19 rfl rfl)
theorem dJ4_vectorizedHashCode_110 : decode cJ4_vectorizedHashCode 110 = .ok (.invokestatic 79, 3) := dk_184 0 79 (dk_at dksJ4_vectorizedHashCode_4 20 rfl rfl)
theorem dJ4_vectorizedHashCode_113 : decode cJ4_vectorizedHashCode 113 = .ok (.goto 44, 3) := dk_167 0 44 (dk_at dksJ4_vectorizedHashCode_5 0 rfl rfl)
theorem dJ4_vectorizedHashCode_116 : decode cJ4_vectorizedHashCode 116 = .ok (.iload_n 3, 1) := dk_29 (dk_at dksJ4_vectorizedHashCode_5 3 rfl rfl)
theorem dJ4_vectorizedHashCode_117 : decode cJ4_vectorizedHashCode 117 = .ok (.aload_n 0, 1) := dk_42 (dk_at dksJ4_vectorizedHashCode_5 4 rfl rfl)
theorem dJ4_vectorizedHashCode_118 : decode cJ4_vectorizedHashCode 118 = .ok (.checkcast 82, 3) := dk_192 0 82 (dk_at dksJ4_vectorizedHashCode_5 5 rfl rfl)
theorem dJ4_vectorizedHashCode_121 : decode cJ4_vectorizedHashCode 121 = .ok (.iload_n 1, 1) := dk_27 (dk_at dksJ4_vectorizedHashCode_5 8 rfl rfl)
theorem dJ4_vectorizedHashCode_122 : decode cJ4_vectorizedHashCode 122 = .ok (.iload_n 2, 1) := dk_28 (dk_at dksJ4_vectorizedHashCode_5 9 rfl rfl)
theorem dJ4_vectorizedHashCode_123 : decode cJ4_vectorizedHashCode 123 = .ok (.invokestatic 84, 3) := dk_184 0 84 (dk_at dksJ4_vectorizedHashCode_5 10 rfl rfl)
theorem dJ4_vectorizedHashCode_126 : decode cJ4_vectorizedHashCode 126 = .ok (.goto 31, 3) := dk_167 0 31 (dk_at dksJ4_vectorizedHashCode_5 13 rfl rfl)
theorem dJ4_vectorizedHashCode_129 : decode cJ4_vectorizedHashCode 129 = .ok (.new 87, 3) := dk_187 0 87 (dk_at dksJ4_vectorizedHashCode_5 16 rfl rfl)
theorem dJ4_vectorizedHashCode_132 : decode cJ4_vectorizedHashCode 132 = .ok (.dup, 1) := dk_89 (dk_at dksJ4_vectorizedHashCode_5 19 rfl rfl)
theorem dJ4_vectorizedHashCode_133 : decode cJ4_vectorizedHashCode 133 = .ok (.new 89, 3) := dk_187 0 89 (dk_at dksJ4_vectorizedHashCode_5 20 rfl rfl)
theorem dJ4_vectorizedHashCode_136 : decode cJ4_vectorizedHashCode 136 = .ok (.dup, 1) := dk_89 (dk_at dksJ4_vectorizedHashCode_5 23 rfl rfl)
theorem dJ4_vectorizedHashCode_137 : decode cJ4_vectorizedHashCode 137 = .ok (.invokespecial 91, 3) := dk_183 0 91 (dk_at dksJ4_vectorizedHashCode_6 0 rfl rfl)
theorem dJ4_vectorizedHashCode_140 : decode cJ4_vectorizedHashCode 140 = .ok (.ldc 92, 2) := dk_18 92 (dk_at dksJ4_vectorizedHashCode_6 3 rfl rfl)
theorem dJ4_vectorizedHashCode_142 : decode cJ4_vectorizedHashCode 142 = .ok (.invokevirtual 94, 3) := dk_182 0 94 (dk_at dksJ4_vectorizedHashCode_6 5 rfl rfl)
theorem dJ4_vectorizedHashCode_145 : decode cJ4_vectorizedHashCode 145 = .ok (.iload 4, 2) := dk_21 4 (dk_at dksJ4_vectorizedHashCode_6 8 rfl rfl)
theorem dJ4_vectorizedHashCode_147 : decode cJ4_vectorizedHashCode 147 = .ok (.invokevirtual 98, 3) := dk_182 0 98 (dk_at dksJ4_vectorizedHashCode_6 10 rfl rfl)
theorem dJ4_vectorizedHashCode_150 : decode cJ4_vectorizedHashCode 150 = .ok (.invokevirtual 101, 3) := dk_182 0 101 (dk_at dksJ4_vectorizedHashCode_6 13 rfl rfl)
theorem dJ4_vectorizedHashCode_153 : decode cJ4_vectorizedHashCode 153 = .ok (.invokespecial 105, 3) := dk_183 0 105 (dk_at dksJ4_vectorizedHashCode_6 16 rfl rfl)
theorem dJ4_vectorizedHashCode_156 : decode cJ4_vectorizedHashCode 156 = .ok (.athrow, 1) := dk_191 (dk_at dksJ4_vectorizedHashCode_6 19 rfl rfl)
theorem dJ4_vectorizedHashCode_157 : decode cJ4_vectorizedHashCode 157 = .ok (.ireturn, 1) := dk_172 (dk_at dksJ4_vectorizedHashCode_6 20 rfl rfl)
abbrev cJ4_signedHashCode : ByteArray := prog_80_method_5_code
def yJ4_signedHashCode : MethodName := ⟨RJ4, "signedHashCode", "(I[BII)I"⟩
def dkwJ4_signedHashCode_1 : List UInt8 := [17, 0, 255, 126, 96, 59, 132, 5, 1, 167, 255, 232, 26, 172]
abbrev dktJ4_signedHashCode_1 : List UInt8 := dkwJ4_signedHashCode_1 ++ []
def dkwJ4_signedHashCode_0 : List UInt8 := [28, 29, 96, 54, 4, 28, 54, 5, 21, 5, 21, 4, 162, 0, 23, 16, 31, 26, 104, 43, 21, 5, 51]
abbrev dktJ4_signedHashCode_0 : List UInt8 := dkwJ4_signedHashCode_0 ++ dktJ4_signedHashCode_1
theorem dksJ4_signedHashCode_0 : cJ4_signedHashCode.data.toList.drop 0 = dktJ4_signedHashCode_0 := by decide +kernel
theorem dksJ4_signedHashCode_1 : cJ4_signedHashCode.data.toList.drop 23 = dktJ4_signedHashCode_1 := dk_seg dksJ4_signedHashCode_0 23 rfl rfl
theorem dJ4_signedHashCode_0 : decode cJ4_signedHashCode 0 = .ok (.iload_n 2, 1) := dk_28 (dk_at dksJ4_signedHashCode_0 0 rfl rfl)
theorem dJ4_signedHashCode_1 : decode cJ4_signedHashCode 1 = .ok (.iload_n 3, 1) := dk_29 (dk_at dksJ4_signedHashCode_0 1 rfl rfl)
theorem dJ4_signedHashCode_2 : decode cJ4_signedHashCode 2 = .ok (.iadd, 1) := dk_96 (dk_at dksJ4_signedHashCode_0 2 rfl rfl)
theorem dJ4_signedHashCode_3 : decode cJ4_signedHashCode 3 = .ok (.istore 4, 2) := dk_54 4 (dk_at dksJ4_signedHashCode_0 3 rfl rfl)
theorem dJ4_signedHashCode_5 : decode cJ4_signedHashCode 5 = .ok (.iload_n 2, 1) := dk_28 (dk_at dksJ4_signedHashCode_0 5 rfl rfl)
theorem dJ4_signedHashCode_6 : decode cJ4_signedHashCode 6 = .ok (.istore 5, 2) := dk_54 5 (dk_at dksJ4_signedHashCode_0 6 rfl rfl)
theorem dJ4_signedHashCode_8 : decode cJ4_signedHashCode 8 = .ok (.iload 5, 2) := dk_21 5 (dk_at dksJ4_signedHashCode_0 8 rfl rfl)
theorem dJ4_signedHashCode_10 : decode cJ4_signedHashCode 10 = .ok (.iload 4, 2) := dk_21 4 (dk_at dksJ4_signedHashCode_0 10 rfl rfl)
theorem dJ4_signedHashCode_12 : decode cJ4_signedHashCode 12 = .ok (.if_icmp .ge 23, 3) := dk_162 0 23 (dk_at dksJ4_signedHashCode_0 12 rfl rfl)
theorem dJ4_signedHashCode_15 : decode cJ4_signedHashCode 15 = .ok (.bipush 31, 2) := dk_16 31 (dk_at dksJ4_signedHashCode_0 15 rfl rfl)
theorem dJ4_signedHashCode_17 : decode cJ4_signedHashCode 17 = .ok (.iload_n 0, 1) := dk_26 (dk_at dksJ4_signedHashCode_0 17 rfl rfl)
theorem dJ4_signedHashCode_18 : decode cJ4_signedHashCode 18 = .ok (.imul, 1) := dk_104 (dk_at dksJ4_signedHashCode_0 18 rfl rfl)
theorem dJ4_signedHashCode_19 : decode cJ4_signedHashCode 19 = .ok (.aload_n 1, 1) := dk_43 (dk_at dksJ4_signedHashCode_0 19 rfl rfl)
theorem dJ4_signedHashCode_20 : decode cJ4_signedHashCode 20 = .ok (.iload 5, 2) := dk_21 5 (dk_at dksJ4_signedHashCode_0 20 rfl rfl)
theorem dJ4_signedHashCode_22 : decode cJ4_signedHashCode 22 = .ok (.baload, 1) := dk_51 (dk_at dksJ4_signedHashCode_0 22 rfl rfl)
theorem dJ4_signedHashCode_23 : decode cJ4_signedHashCode 23 = .ok (.sipush 255, 3) := dk_17 0 255 (dk_at dksJ4_signedHashCode_1 0 rfl rfl)
theorem dJ4_signedHashCode_26 : decode cJ4_signedHashCode 26 = .ok (.iand, 1) := dk_126 (dk_at dksJ4_signedHashCode_1 3 rfl rfl)
theorem dJ4_signedHashCode_27 : decode cJ4_signedHashCode 27 = .ok (.iadd, 1) := dk_96 (dk_at dksJ4_signedHashCode_1 4 rfl rfl)
theorem dJ4_signedHashCode_28 : decode cJ4_signedHashCode 28 = .ok (.istore_n 0, 1) := dk_59 (dk_at dksJ4_signedHashCode_1 5 rfl rfl)
theorem dJ4_signedHashCode_29 : decode cJ4_signedHashCode 29 = .ok (.iinc 5 1, 3) := dk_132 5 1 (dk_at dksJ4_signedHashCode_1 6 rfl rfl)
theorem dJ4_signedHashCode_32 : decode cJ4_signedHashCode 32 = .ok (.goto (-24), 3) := dk_167 255 232 (dk_at dksJ4_signedHashCode_1 9 rfl rfl)
theorem dJ4_signedHashCode_35 : decode cJ4_signedHashCode 35 = .ok (.iload_n 0, 1) := dk_26 (dk_at dksJ4_signedHashCode_1 12 rfl rfl)
theorem dJ4_signedHashCode_36 : decode cJ4_signedHashCode 36 = .ok (.ireturn, 1) := dk_172 (dk_at dksJ4_signedHashCode_1 13 rfl rfl)
abbrev cJ4_utf16hashCode : ByteArray := prog_80_method_10_code
def yJ4_utf16hashCode : MethodName := ⟨RJ4, "utf16hashCode", "(I[BII)I"⟩
def dkwJ4_utf16hashCode_1 : List UInt8 := [21, 5, 185, 0, 110, 3, 0, 96, 59, 132, 5, 1, 167, 255, 229, 26, 172]
abbrev dktJ4_utf16hashCode_1 : List UInt8 := dkwJ4_utf16hashCode_1 ++ []
def dkwJ4_utf16hashCode_0 : List UInt8 := [28, 29, 96, 54, 4, 28, 54, 5, 21, 5, 21, 4, 162, 0, 26, 16, 31, 26, 104, 178, 0, 106, 43]
abbrev dktJ4_utf16hashCode_0 : List UInt8 := dkwJ4_utf16hashCode_0 ++ dktJ4_utf16hashCode_1
theorem dksJ4_utf16hashCode_0 : cJ4_utf16hashCode.data.toList.drop 0 = dktJ4_utf16hashCode_0 := by decide +kernel
theorem dksJ4_utf16hashCode_1 : cJ4_utf16hashCode.data.toList.drop 23 = dktJ4_utf16hashCode_1 := dk_seg dksJ4_utf16hashCode_0 23 rfl rfl
theorem dJ4_utf16hashCode_0 : decode cJ4_utf16hashCode 0 = .ok (.iload_n 2, 1) := dk_28 (dk_at dksJ4_utf16hashCode_0 0 rfl rfl)
theorem dJ4_utf16hashCode_1 : decode cJ4_utf16hashCode 1 = .ok (.iload_n 3, 1) := dk_29 (dk_at dksJ4_utf16hashCode_0 1 rfl rfl)
theorem dJ4_utf16hashCode_2 : decode cJ4_utf16hashCode 2 = .ok (.iadd, 1) := dk_96 (dk_at dksJ4_utf16hashCode_0 2 rfl rfl)
theorem dJ4_utf16hashCode_3 : decode cJ4_utf16hashCode 3 = .ok (.istore 4, 2) := dk_54 4 (dk_at dksJ4_utf16hashCode_0 3 rfl rfl)
theorem dJ4_utf16hashCode_5 : decode cJ4_utf16hashCode 5 = .ok (.iload_n 2, 1) := dk_28 (dk_at dksJ4_utf16hashCode_0 5 rfl rfl)
theorem dJ4_utf16hashCode_6 : decode cJ4_utf16hashCode 6 = .ok (.istore 5, 2) := dk_54 5 (dk_at dksJ4_utf16hashCode_0 6 rfl rfl)
theorem dJ4_utf16hashCode_8 : decode cJ4_utf16hashCode 8 = .ok (.iload 5, 2) := dk_21 5 (dk_at dksJ4_utf16hashCode_0 8 rfl rfl)
theorem dJ4_utf16hashCode_10 : decode cJ4_utf16hashCode 10 = .ok (.iload 4, 2) := dk_21 4 (dk_at dksJ4_utf16hashCode_0 10 rfl rfl)
theorem dJ4_utf16hashCode_12 : decode cJ4_utf16hashCode 12 = .ok (.if_icmp .ge 26, 3) := dk_162 0 26 (dk_at dksJ4_utf16hashCode_0 12 rfl rfl)
theorem dJ4_utf16hashCode_15 : decode cJ4_utf16hashCode 15 = .ok (.bipush 31, 2) := dk_16 31 (dk_at dksJ4_utf16hashCode_0 15 rfl rfl)
theorem dJ4_utf16hashCode_17 : decode cJ4_utf16hashCode 17 = .ok (.iload_n 0, 1) := dk_26 (dk_at dksJ4_utf16hashCode_0 17 rfl rfl)
theorem dJ4_utf16hashCode_18 : decode cJ4_utf16hashCode 18 = .ok (.imul, 1) := dk_104 (dk_at dksJ4_utf16hashCode_0 18 rfl rfl)
theorem dJ4_utf16hashCode_19 : decode cJ4_utf16hashCode 19 = .ok (.getstatic 106, 3) := dk_178 0 106 (dk_at dksJ4_utf16hashCode_0 19 rfl rfl)
theorem dJ4_utf16hashCode_22 : decode cJ4_utf16hashCode 22 = .ok (.aload_n 1, 1) := dk_43 (dk_at dksJ4_utf16hashCode_0 22 rfl rfl)
theorem dJ4_utf16hashCode_23 : decode cJ4_utf16hashCode 23 = .ok (.iload 5, 2) := dk_21 5 (dk_at dksJ4_utf16hashCode_1 0 rfl rfl)
theorem dJ4_utf16hashCode_25 : decode cJ4_utf16hashCode 25 = .ok (.invokeinterface 110 3, 5) := by decide +kernel
theorem dJ4_utf16hashCode_30 : decode cJ4_utf16hashCode 30 = .ok (.iadd, 1) := dk_96 (dk_at dksJ4_utf16hashCode_1 7 rfl rfl)
theorem dJ4_utf16hashCode_31 : decode cJ4_utf16hashCode 31 = .ok (.istore_n 0, 1) := dk_59 (dk_at dksJ4_utf16hashCode_1 8 rfl rfl)
theorem dJ4_utf16hashCode_32 : decode cJ4_utf16hashCode 32 = .ok (.iinc 5 1, 3) := dk_132 5 1 (dk_at dksJ4_utf16hashCode_1 9 rfl rfl)
theorem dJ4_utf16hashCode_35 : decode cJ4_utf16hashCode 35 = .ok (.goto (-27), 3) := dk_167 255 229 (dk_at dksJ4_utf16hashCode_1 12 rfl rfl)
theorem dJ4_utf16hashCode_38 : decode cJ4_utf16hashCode 38 = .ok (.iload_n 0, 1) := dk_26 (dk_at dksJ4_utf16hashCode_1 15 rfl rfl)
theorem dJ4_utf16hashCode_39 : decode cJ4_utf16hashCode 39 = .ok (.ireturn, 1) := dk_172 (dk_at dksJ4_utf16hashCode_1 16 rfl rfl)
abbrev cJ4_hashCode : ByteArray := prog_80_method_7_code
def yJ4_hashCode : MethodName := ⟨RJ4, "hashCode", "(I[CII)I"⟩
def dkwJ4_hashCode_1 : List UInt8 := [59, 132, 5, 1, 167, 255, 236, 26, 172]
abbrev dktJ4_hashCode_1 : List UInt8 := dkwJ4_hashCode_1 ++ []
def dkwJ4_hashCode_0 : List UInt8 := [28, 29, 96, 54, 4, 28, 54, 5, 21, 5, 21, 4, 162, 0, 19, 16, 31, 26, 104, 43, 21, 5, 52, 96]
abbrev dktJ4_hashCode_0 : List UInt8 := dkwJ4_hashCode_0 ++ dktJ4_hashCode_1
theorem dksJ4_hashCode_0 : cJ4_hashCode.data.toList.drop 0 = dktJ4_hashCode_0 := by decide +kernel
theorem dksJ4_hashCode_1 : cJ4_hashCode.data.toList.drop 24 = dktJ4_hashCode_1 := dk_seg dksJ4_hashCode_0 24 rfl rfl
theorem dJ4_hashCode_0 : decode cJ4_hashCode 0 = .ok (.iload_n 2, 1) := dk_28 (dk_at dksJ4_hashCode_0 0 rfl rfl)
theorem dJ4_hashCode_1 : decode cJ4_hashCode 1 = .ok (.iload_n 3, 1) := dk_29 (dk_at dksJ4_hashCode_0 1 rfl rfl)
theorem dJ4_hashCode_2 : decode cJ4_hashCode 2 = .ok (.iadd, 1) := dk_96 (dk_at dksJ4_hashCode_0 2 rfl rfl)
theorem dJ4_hashCode_3 : decode cJ4_hashCode 3 = .ok (.istore 4, 2) := dk_54 4 (dk_at dksJ4_hashCode_0 3 rfl rfl)
theorem dJ4_hashCode_5 : decode cJ4_hashCode 5 = .ok (.iload_n 2, 1) := dk_28 (dk_at dksJ4_hashCode_0 5 rfl rfl)
theorem dJ4_hashCode_6 : decode cJ4_hashCode 6 = .ok (.istore 5, 2) := dk_54 5 (dk_at dksJ4_hashCode_0 6 rfl rfl)
theorem dJ4_hashCode_8 : decode cJ4_hashCode 8 = .ok (.iload 5, 2) := dk_21 5 (dk_at dksJ4_hashCode_0 8 rfl rfl)
theorem dJ4_hashCode_10 : decode cJ4_hashCode 10 = .ok (.iload 4, 2) := dk_21 4 (dk_at dksJ4_hashCode_0 10 rfl rfl)
theorem dJ4_hashCode_12 : decode cJ4_hashCode 12 = .ok (.if_icmp .ge 19, 3) := dk_162 0 19 (dk_at dksJ4_hashCode_0 12 rfl rfl)
theorem dJ4_hashCode_15 : decode cJ4_hashCode 15 = .ok (.bipush 31, 2) := dk_16 31 (dk_at dksJ4_hashCode_0 15 rfl rfl)
theorem dJ4_hashCode_17 : decode cJ4_hashCode 17 = .ok (.iload_n 0, 1) := dk_26 (dk_at dksJ4_hashCode_0 17 rfl rfl)
theorem dJ4_hashCode_18 : decode cJ4_hashCode 18 = .ok (.imul, 1) := dk_104 (dk_at dksJ4_hashCode_0 18 rfl rfl)
theorem dJ4_hashCode_19 : decode cJ4_hashCode 19 = .ok (.aload_n 1, 1) := dk_43 (dk_at dksJ4_hashCode_0 19 rfl rfl)
theorem dJ4_hashCode_20 : decode cJ4_hashCode 20 = .ok (.iload 5, 2) := dk_21 5 (dk_at dksJ4_hashCode_0 20 rfl rfl)
theorem dJ4_hashCode_22 : decode cJ4_hashCode 22 = .ok (.caload, 1) := dk_52 (dk_at dksJ4_hashCode_0 22 rfl rfl)
theorem dJ4_hashCode_23 : decode cJ4_hashCode 23 = .ok (.iadd, 1) := dk_96 (dk_at dksJ4_hashCode_0 23 rfl rfl)
theorem dJ4_hashCode_24 : decode cJ4_hashCode 24 = .ok (.istore_n 0, 1) := dk_59 (dk_at dksJ4_hashCode_1 0 rfl rfl)
theorem dJ4_hashCode_25 : decode cJ4_hashCode 25 = .ok (.iinc 5 1, 3) := dk_132 5 1 (dk_at dksJ4_hashCode_1 1 rfl rfl)
theorem dJ4_hashCode_28 : decode cJ4_hashCode 28 = .ok (.goto (-20), 3) := dk_167 255 236 (dk_at dksJ4_hashCode_1 4 rfl rfl)
theorem dJ4_hashCode_31 : decode cJ4_hashCode 31 = .ok (.iload_n 0, 1) := dk_26 (dk_at dksJ4_hashCode_1 7 rfl rfl)
theorem dJ4_hashCode_32 : decode cJ4_hashCode 32 = .ok (.ireturn, 1) := dk_172 (dk_at dksJ4_hashCode_1 8 rfl rfl)
abbrev cJ4_hashCode_2 : ByteArray := prog_80_method_6_code
def yJ4_hashCode_2 : MethodName := ⟨RJ4, "hashCode", "(I[BII)I"⟩
def dkwJ4_hashCode_2_1 : List UInt8 := [59, 132, 5, 1, 167, 255, 236, 26, 172]
abbrev dktJ4_hashCode_2_1 : List UInt8 := dkwJ4_hashCode_2_1 ++ []
def dkwJ4_hashCode_2_0 : List UInt8 := [28, 29, 96, 54, 4, 28, 54, 5, 21, 5, 21, 4, 162, 0, 19, 16, 31, 26, 104, 43, 21, 5, 51, 96]
abbrev dktJ4_hashCode_2_0 : List UInt8 := dkwJ4_hashCode_2_0 ++ dktJ4_hashCode_2_1
theorem dksJ4_hashCode_2_0 : cJ4_hashCode_2.data.toList.drop 0 = dktJ4_hashCode_2_0 := by decide +kernel
theorem dksJ4_hashCode_2_1 : cJ4_hashCode_2.data.toList.drop 24 = dktJ4_hashCode_2_1 := dk_seg dksJ4_hashCode_2_0 24 rfl rfl
theorem dJ4_hashCode_2_0 : decode cJ4_hashCode_2 0 = .ok (.iload_n 2, 1) := dk_28 (dk_at dksJ4_hashCode_2_0 0 rfl rfl)
theorem dJ4_hashCode_2_1 : decode cJ4_hashCode_2 1 = .ok (.iload_n 3, 1) := dk_29 (dk_at dksJ4_hashCode_2_0 1 rfl rfl)
theorem dJ4_hashCode_2_2 : decode cJ4_hashCode_2 2 = .ok (.iadd, 1) := dk_96 (dk_at dksJ4_hashCode_2_0 2 rfl rfl)
theorem dJ4_hashCode_2_3 : decode cJ4_hashCode_2 3 = .ok (.istore 4, 2) := dk_54 4 (dk_at dksJ4_hashCode_2_0 3 rfl rfl)
theorem dJ4_hashCode_2_5 : decode cJ4_hashCode_2 5 = .ok (.iload_n 2, 1) := dk_28 (dk_at dksJ4_hashCode_2_0 5 rfl rfl)
theorem dJ4_hashCode_2_6 : decode cJ4_hashCode_2 6 = .ok (.istore 5, 2) := dk_54 5 (dk_at dksJ4_hashCode_2_0 6 rfl rfl)
theorem dJ4_hashCode_2_8 : decode cJ4_hashCode_2 8 = .ok (.iload 5, 2) := dk_21 5 (dk_at dksJ4_hashCode_2_0 8 rfl rfl)
theorem dJ4_hashCode_2_10 : decode cJ4_hashCode_2 10 = .ok (.iload 4, 2) := dk_21 4 (dk_at dksJ4_hashCode_2_0 10 rfl rfl)
theorem dJ4_hashCode_2_12 : decode cJ4_hashCode_2 12 = .ok (.if_icmp .ge 19, 3) := dk_162 0 19 (dk_at dksJ4_hashCode_2_0 12 rfl rfl)
theorem dJ4_hashCode_2_15 : decode cJ4_hashCode_2 15 = .ok (.bipush 31, 2) := dk_16 31 (dk_at dksJ4_hashCode_2_0 15 rfl rfl)
theorem dJ4_hashCode_2_17 : decode cJ4_hashCode_2 17 = .ok (.iload_n 0, 1) := dk_26 (dk_at dksJ4_hashCode_2_0 17 rfl rfl)
theorem dJ4_hashCode_2_18 : decode cJ4_hashCode_2 18 = .ok (.imul, 1) := dk_104 (dk_at dksJ4_hashCode_2_0 18 rfl rfl)
theorem dJ4_hashCode_2_19 : decode cJ4_hashCode_2 19 = .ok (.aload_n 1, 1) := dk_43 (dk_at dksJ4_hashCode_2_0 19 rfl rfl)
theorem dJ4_hashCode_2_20 : decode cJ4_hashCode_2 20 = .ok (.iload 5, 2) := dk_21 5 (dk_at dksJ4_hashCode_2_0 20 rfl rfl)
theorem dJ4_hashCode_2_22 : decode cJ4_hashCode_2 22 = .ok (.baload, 1) := dk_51 (dk_at dksJ4_hashCode_2_0 22 rfl rfl)
theorem dJ4_hashCode_2_23 : decode cJ4_hashCode_2 23 = .ok (.iadd, 1) := dk_96 (dk_at dksJ4_hashCode_2_0 23 rfl rfl)
theorem dJ4_hashCode_2_24 : decode cJ4_hashCode_2 24 = .ok (.istore_n 0, 1) := dk_59 (dk_at dksJ4_hashCode_2_1 0 rfl rfl)
theorem dJ4_hashCode_2_25 : decode cJ4_hashCode_2 25 = .ok (.iinc 5 1, 3) := dk_132 5 1 (dk_at dksJ4_hashCode_2_1 1 rfl rfl)
theorem dJ4_hashCode_2_28 : decode cJ4_hashCode_2 28 = .ok (.goto (-20), 3) := dk_167 255 236 (dk_at dksJ4_hashCode_2_1 4 rfl rfl)
theorem dJ4_hashCode_2_31 : decode cJ4_hashCode_2 31 = .ok (.iload_n 0, 1) := dk_26 (dk_at dksJ4_hashCode_2_1 7 rfl rfl)
theorem dJ4_hashCode_2_32 : decode cJ4_hashCode_2 32 = .ok (.ireturn, 1) := dk_172 (dk_at dksJ4_hashCode_2_1 8 rfl rfl)
abbrev cJ4_hashCode_3 : ByteArray := prog_80_method_8_code
def yJ4_hashCode_3 : MethodName := ⟨RJ4, "hashCode", "(I[SII)I"⟩
def dkwJ4_hashCode_3_1 : List UInt8 := [59, 132, 5, 1, 167, 255, 236, 26, 172]
abbrev dktJ4_hashCode_3_1 : List UInt8 := dkwJ4_hashCode_3_1 ++ []
def dkwJ4_hashCode_3_0 : List UInt8 := [28, 29, 96, 54, 4, 28, 54, 5, 21, 5, 21, 4, 162, 0, 19, 16, 31, 26, 104, 43, 21, 5, 53, 96]
abbrev dktJ4_hashCode_3_0 : List UInt8 := dkwJ4_hashCode_3_0 ++ dktJ4_hashCode_3_1
theorem dksJ4_hashCode_3_0 : cJ4_hashCode_3.data.toList.drop 0 = dktJ4_hashCode_3_0 := by decide +kernel
theorem dksJ4_hashCode_3_1 : cJ4_hashCode_3.data.toList.drop 24 = dktJ4_hashCode_3_1 := dk_seg dksJ4_hashCode_3_0 24 rfl rfl
theorem dJ4_hashCode_3_0 : decode cJ4_hashCode_3 0 = .ok (.iload_n 2, 1) := dk_28 (dk_at dksJ4_hashCode_3_0 0 rfl rfl)
theorem dJ4_hashCode_3_1 : decode cJ4_hashCode_3 1 = .ok (.iload_n 3, 1) := dk_29 (dk_at dksJ4_hashCode_3_0 1 rfl rfl)
theorem dJ4_hashCode_3_2 : decode cJ4_hashCode_3 2 = .ok (.iadd, 1) := dk_96 (dk_at dksJ4_hashCode_3_0 2 rfl rfl)
theorem dJ4_hashCode_3_3 : decode cJ4_hashCode_3 3 = .ok (.istore 4, 2) := dk_54 4 (dk_at dksJ4_hashCode_3_0 3 rfl rfl)
theorem dJ4_hashCode_3_5 : decode cJ4_hashCode_3 5 = .ok (.iload_n 2, 1) := dk_28 (dk_at dksJ4_hashCode_3_0 5 rfl rfl)
theorem dJ4_hashCode_3_6 : decode cJ4_hashCode_3 6 = .ok (.istore 5, 2) := dk_54 5 (dk_at dksJ4_hashCode_3_0 6 rfl rfl)
theorem dJ4_hashCode_3_8 : decode cJ4_hashCode_3 8 = .ok (.iload 5, 2) := dk_21 5 (dk_at dksJ4_hashCode_3_0 8 rfl rfl)
theorem dJ4_hashCode_3_10 : decode cJ4_hashCode_3 10 = .ok (.iload 4, 2) := dk_21 4 (dk_at dksJ4_hashCode_3_0 10 rfl rfl)
theorem dJ4_hashCode_3_12 : decode cJ4_hashCode_3 12 = .ok (.if_icmp .ge 19, 3) := dk_162 0 19 (dk_at dksJ4_hashCode_3_0 12 rfl rfl)
theorem dJ4_hashCode_3_15 : decode cJ4_hashCode_3 15 = .ok (.bipush 31, 2) := dk_16 31 (dk_at dksJ4_hashCode_3_0 15 rfl rfl)
theorem dJ4_hashCode_3_17 : decode cJ4_hashCode_3 17 = .ok (.iload_n 0, 1) := dk_26 (dk_at dksJ4_hashCode_3_0 17 rfl rfl)
theorem dJ4_hashCode_3_18 : decode cJ4_hashCode_3 18 = .ok (.imul, 1) := dk_104 (dk_at dksJ4_hashCode_3_0 18 rfl rfl)
theorem dJ4_hashCode_3_19 : decode cJ4_hashCode_3 19 = .ok (.aload_n 1, 1) := dk_43 (dk_at dksJ4_hashCode_3_0 19 rfl rfl)
theorem dJ4_hashCode_3_20 : decode cJ4_hashCode_3 20 = .ok (.iload 5, 2) := dk_21 5 (dk_at dksJ4_hashCode_3_0 20 rfl rfl)
theorem dJ4_hashCode_3_22 : decode cJ4_hashCode_3 22 = .ok (.saload, 1) := dk_53 (dk_at dksJ4_hashCode_3_0 22 rfl rfl)
theorem dJ4_hashCode_3_23 : decode cJ4_hashCode_3 23 = .ok (.iadd, 1) := dk_96 (dk_at dksJ4_hashCode_3_0 23 rfl rfl)
theorem dJ4_hashCode_3_24 : decode cJ4_hashCode_3 24 = .ok (.istore_n 0, 1) := dk_59 (dk_at dksJ4_hashCode_3_1 0 rfl rfl)
theorem dJ4_hashCode_3_25 : decode cJ4_hashCode_3 25 = .ok (.iinc 5 1, 3) := dk_132 5 1 (dk_at dksJ4_hashCode_3_1 1 rfl rfl)
theorem dJ4_hashCode_3_28 : decode cJ4_hashCode_3 28 = .ok (.goto (-20), 3) := dk_167 255 236 (dk_at dksJ4_hashCode_3_1 4 rfl rfl)
theorem dJ4_hashCode_3_31 : decode cJ4_hashCode_3 31 = .ok (.iload_n 0, 1) := dk_26 (dk_at dksJ4_hashCode_3_1 7 rfl rfl)
theorem dJ4_hashCode_3_32 : decode cJ4_hashCode_3 32 = .ok (.ireturn, 1) := dk_172 (dk_at dksJ4_hashCode_3_1 8 rfl rfl)
abbrev cJ4_hashCode_4 : ByteArray := prog_80_method_9_code
def yJ4_hashCode_4 : MethodName := ⟨RJ4, "hashCode", "(I[III)I"⟩
def dkwJ4_hashCode_4_1 : List UInt8 := [59, 132, 5, 1, 167, 255, 236, 26, 172]
abbrev dktJ4_hashCode_4_1 : List UInt8 := dkwJ4_hashCode_4_1 ++ []
def dkwJ4_hashCode_4_0 : List UInt8 := [28, 29, 96, 54, 4, 28, 54, 5, 21, 5, 21, 4, 162, 0, 19, 16, 31, 26, 104, 43, 21, 5, 46, 96]
abbrev dktJ4_hashCode_4_0 : List UInt8 := dkwJ4_hashCode_4_0 ++ dktJ4_hashCode_4_1
theorem dksJ4_hashCode_4_0 : cJ4_hashCode_4.data.toList.drop 0 = dktJ4_hashCode_4_0 := by decide +kernel
theorem dksJ4_hashCode_4_1 : cJ4_hashCode_4.data.toList.drop 24 = dktJ4_hashCode_4_1 := dk_seg dksJ4_hashCode_4_0 24 rfl rfl
theorem dJ4_hashCode_4_0 : decode cJ4_hashCode_4 0 = .ok (.iload_n 2, 1) := dk_28 (dk_at dksJ4_hashCode_4_0 0 rfl rfl)
theorem dJ4_hashCode_4_1 : decode cJ4_hashCode_4 1 = .ok (.iload_n 3, 1) := dk_29 (dk_at dksJ4_hashCode_4_0 1 rfl rfl)
theorem dJ4_hashCode_4_2 : decode cJ4_hashCode_4 2 = .ok (.iadd, 1) := dk_96 (dk_at dksJ4_hashCode_4_0 2 rfl rfl)
theorem dJ4_hashCode_4_3 : decode cJ4_hashCode_4 3 = .ok (.istore 4, 2) := dk_54 4 (dk_at dksJ4_hashCode_4_0 3 rfl rfl)
theorem dJ4_hashCode_4_5 : decode cJ4_hashCode_4 5 = .ok (.iload_n 2, 1) := dk_28 (dk_at dksJ4_hashCode_4_0 5 rfl rfl)
theorem dJ4_hashCode_4_6 : decode cJ4_hashCode_4 6 = .ok (.istore 5, 2) := dk_54 5 (dk_at dksJ4_hashCode_4_0 6 rfl rfl)
theorem dJ4_hashCode_4_8 : decode cJ4_hashCode_4 8 = .ok (.iload 5, 2) := dk_21 5 (dk_at dksJ4_hashCode_4_0 8 rfl rfl)
theorem dJ4_hashCode_4_10 : decode cJ4_hashCode_4 10 = .ok (.iload 4, 2) := dk_21 4 (dk_at dksJ4_hashCode_4_0 10 rfl rfl)
theorem dJ4_hashCode_4_12 : decode cJ4_hashCode_4 12 = .ok (.if_icmp .ge 19, 3) := dk_162 0 19 (dk_at dksJ4_hashCode_4_0 12 rfl rfl)
theorem dJ4_hashCode_4_15 : decode cJ4_hashCode_4 15 = .ok (.bipush 31, 2) := dk_16 31 (dk_at dksJ4_hashCode_4_0 15 rfl rfl)
theorem dJ4_hashCode_4_17 : decode cJ4_hashCode_4 17 = .ok (.iload_n 0, 1) := dk_26 (dk_at dksJ4_hashCode_4_0 17 rfl rfl)
theorem dJ4_hashCode_4_18 : decode cJ4_hashCode_4 18 = .ok (.imul, 1) := dk_104 (dk_at dksJ4_hashCode_4_0 18 rfl rfl)
theorem dJ4_hashCode_4_19 : decode cJ4_hashCode_4 19 = .ok (.aload_n 1, 1) := dk_43 (dk_at dksJ4_hashCode_4_0 19 rfl rfl)
theorem dJ4_hashCode_4_20 : decode cJ4_hashCode_4 20 = .ok (.iload 5, 2) := dk_21 5 (dk_at dksJ4_hashCode_4_0 20 rfl rfl)
theorem dJ4_hashCode_4_22 : decode cJ4_hashCode_4 22 = .ok (.iaload, 1) := dk_46 (dk_at dksJ4_hashCode_4_0 22 rfl rfl)
theorem dJ4_hashCode_4_23 : decode cJ4_hashCode_4 23 = .ok (.iadd, 1) := dk_96 (dk_at dksJ4_hashCode_4_0 23 rfl rfl)
theorem dJ4_hashCode_4_24 : decode cJ4_hashCode_4 24 = .ok (.istore_n 0, 1) := dk_59 (dk_at dksJ4_hashCode_4_1 0 rfl rfl)
theorem dJ4_hashCode_4_25 : decode cJ4_hashCode_4 25 = .ok (.iinc 5 1, 3) := dk_132 5 1 (dk_at dksJ4_hashCode_4_1 1 rfl rfl)
theorem dJ4_hashCode_4_28 : decode cJ4_hashCode_4 28 = .ok (.goto (-20), 3) := dk_167 255 236 (dk_at dksJ4_hashCode_4_1 4 rfl rfl)
theorem dJ4_hashCode_4_31 : decode cJ4_hashCode_4 31 = .ok (.iload_n 0, 1) := dk_26 (dk_at dksJ4_hashCode_4_1 7 rfl rfl)
theorem dJ4_hashCode_4_32 : decode cJ4_hashCode_4 32 = .ok (.ireturn, 1) := dk_172 (dk_at dksJ4_hashCode_4_1 8 rfl rfl)
abbrev cJ4_mismatch : ByteArray := prog_80_method_13_code
def yJ4_mismatch : MethodName := ⟨RJ4, "mismatch", "([B[BI)I"⟩
def dkwJ4_mismatch_3 : List UInt8 := [172]
abbrev dktJ4_mismatch_3 : List UInt8 := dkwJ4_mismatch_3 ++ []
def dkwJ4_mismatch_2 : List UInt8 := [62, 29, 28, 162, 0, 20, 42, 29, 51, 43, 29, 51, 159, 0, 5, 29, 172, 132, 3, 1, 167, 255, 237, 2]
abbrev dktJ4_mismatch_2 : List UInt8 := dkwJ4_mismatch_2 ++ dktJ4_mismatch_3
def dkwJ4_mismatch_1 : List UInt8 := [43, 178, 0, 126, 133, 28, 178, 0, 129, 184, 0, 122, 62, 29, 155, 0, 5, 29, 172, 28, 29, 2, 130, 100]
abbrev dktJ4_mismatch_1 : List UInt8 := dkwJ4_mismatch_1 ++ dktJ4_mismatch_2
def dkwJ4_mismatch_0 : List UInt8 := [3, 62, 28, 16, 7, 164, 0, 44, 42, 3, 51, 43, 3, 51, 159, 0, 5, 3, 172, 42, 178, 0, 126, 133]
abbrev dktJ4_mismatch_0 : List UInt8 := dkwJ4_mismatch_0 ++ dktJ4_mismatch_1
theorem dksJ4_mismatch_0 : cJ4_mismatch.data.toList.drop 0 = dktJ4_mismatch_0 := by decide +kernel
theorem dksJ4_mismatch_1 : cJ4_mismatch.data.toList.drop 24 = dktJ4_mismatch_1 := dk_seg dksJ4_mismatch_0 24 rfl rfl
theorem dksJ4_mismatch_2 : cJ4_mismatch.data.toList.drop 48 = dktJ4_mismatch_2 := dk_seg dksJ4_mismatch_1 24 rfl rfl
theorem dksJ4_mismatch_3 : cJ4_mismatch.data.toList.drop 72 = dktJ4_mismatch_3 := dk_seg dksJ4_mismatch_2 24 rfl rfl
theorem dJ4_mismatch_0 : decode cJ4_mismatch 0 = .ok (.iconst 0, 1) := dk_3 (dk_at dksJ4_mismatch_0 0 rfl rfl)
theorem dJ4_mismatch_1 : decode cJ4_mismatch 1 = .ok (.istore_n 3, 1) := dk_62 (dk_at dksJ4_mismatch_0 1 rfl rfl)
theorem dJ4_mismatch_2 : decode cJ4_mismatch 2 = .ok (.iload_n 2, 1) := dk_28 (dk_at dksJ4_mismatch_0 2 rfl rfl)
theorem dJ4_mismatch_3 : decode cJ4_mismatch 3 = .ok (.bipush 7, 2) := dk_16 7 (dk_at dksJ4_mismatch_0 3 rfl rfl)
theorem dJ4_mismatch_5 : decode cJ4_mismatch 5 = .ok (.if_icmp .le 44, 3) := dk_164 0 44 (dk_at dksJ4_mismatch_0 5 rfl rfl)
theorem dJ4_mismatch_8 : decode cJ4_mismatch 8 = .ok (.aload_n 0, 1) := dk_42 (dk_at dksJ4_mismatch_0 8 rfl rfl)
theorem dJ4_mismatch_9 : decode cJ4_mismatch 9 = .ok (.iconst 0, 1) := dk_3 (dk_at dksJ4_mismatch_0 9 rfl rfl)
theorem dJ4_mismatch_10 : decode cJ4_mismatch 10 = .ok (.baload, 1) := dk_51 (dk_at dksJ4_mismatch_0 10 rfl rfl)
theorem dJ4_mismatch_11 : decode cJ4_mismatch 11 = .ok (.aload_n 1, 1) := dk_43 (dk_at dksJ4_mismatch_0 11 rfl rfl)
theorem dJ4_mismatch_12 : decode cJ4_mismatch 12 = .ok (.iconst 0, 1) := dk_3 (dk_at dksJ4_mismatch_0 12 rfl rfl)
theorem dJ4_mismatch_13 : decode cJ4_mismatch 13 = .ok (.baload, 1) := dk_51 (dk_at dksJ4_mismatch_0 13 rfl rfl)
theorem dJ4_mismatch_14 : decode cJ4_mismatch 14 = .ok (.if_icmp .eq 5, 3) := dk_159 0 5 (dk_at dksJ4_mismatch_0 14 rfl rfl)
theorem dJ4_mismatch_17 : decode cJ4_mismatch 17 = .ok (.iconst 0, 1) := dk_3 (dk_at dksJ4_mismatch_0 17 rfl rfl)
theorem dJ4_mismatch_18 : decode cJ4_mismatch 18 = .ok (.ireturn, 1) := dk_172 (dk_at dksJ4_mismatch_0 18 rfl rfl)
theorem dJ4_mismatch_19 : decode cJ4_mismatch 19 = .ok (.aload_n 0, 1) := dk_42 (dk_at dksJ4_mismatch_0 19 rfl rfl)
theorem dJ4_mismatch_20 : decode cJ4_mismatch 20 = .ok (.getstatic 126, 3) := dk_178 0 126 (dk_at dksJ4_mismatch_0 20 rfl rfl)
theorem dJ4_mismatch_23 : decode cJ4_mismatch 23 = .ok (.i2l, 1) := dk_133 (dk_at dksJ4_mismatch_0 23 rfl rfl)
theorem dJ4_mismatch_24 : decode cJ4_mismatch 24 = .ok (.aload_n 1, 1) := dk_43 (dk_at dksJ4_mismatch_1 0 rfl rfl)
theorem dJ4_mismatch_25 : decode cJ4_mismatch 25 = .ok (.getstatic 126, 3) := dk_178 0 126 (dk_at dksJ4_mismatch_1 1 rfl rfl)
theorem dJ4_mismatch_28 : decode cJ4_mismatch 28 = .ok (.i2l, 1) := dk_133 (dk_at dksJ4_mismatch_1 4 rfl rfl)
theorem dJ4_mismatch_29 : decode cJ4_mismatch 29 = .ok (.iload_n 2, 1) := dk_28 (dk_at dksJ4_mismatch_1 5 rfl rfl)
theorem dJ4_mismatch_30 : decode cJ4_mismatch 30 = .ok (.getstatic 129, 3) := dk_178 0 129 (dk_at dksJ4_mismatch_1 6 rfl rfl)
theorem dJ4_mismatch_33 : decode cJ4_mismatch 33 = .ok (.invokestatic 122, 3) := dk_184 0 122 (dk_at dksJ4_mismatch_1 9 rfl rfl)
theorem dJ4_mismatch_36 : decode cJ4_mismatch 36 = .ok (.istore_n 3, 1) := dk_62 (dk_at dksJ4_mismatch_1 12 rfl rfl)
theorem dJ4_mismatch_37 : decode cJ4_mismatch 37 = .ok (.iload_n 3, 1) := dk_29 (dk_at dksJ4_mismatch_1 13 rfl rfl)
theorem dJ4_mismatch_38 : decode cJ4_mismatch 38 = .ok (.ifCond .lt 5, 3) := dk_155 0 5 (dk_at dksJ4_mismatch_1 14 rfl rfl)
theorem dJ4_mismatch_41 : decode cJ4_mismatch 41 = .ok (.iload_n 3, 1) := dk_29 (dk_at dksJ4_mismatch_1 17 rfl rfl)
theorem dJ4_mismatch_42 : decode cJ4_mismatch 42 = .ok (.ireturn, 1) := dk_172 (dk_at dksJ4_mismatch_1 18 rfl rfl)
theorem dJ4_mismatch_43 : decode cJ4_mismatch 43 = .ok (.iload_n 2, 1) := dk_28 (dk_at dksJ4_mismatch_1 19 rfl rfl)
theorem dJ4_mismatch_44 : decode cJ4_mismatch 44 = .ok (.iload_n 3, 1) := dk_29 (dk_at dksJ4_mismatch_1 20 rfl rfl)
theorem dJ4_mismatch_45 : decode cJ4_mismatch 45 = .ok (.iconst (-1), 1) := dk_2 (dk_at dksJ4_mismatch_1 21 rfl rfl)
theorem dJ4_mismatch_46 : decode cJ4_mismatch 46 = .ok (.ixor, 1) := dk_130 (dk_at dksJ4_mismatch_1 22 rfl rfl)
theorem dJ4_mismatch_47 : decode cJ4_mismatch 47 = .ok (.isub, 1) := dk_100 (dk_at dksJ4_mismatch_1 23 rfl rfl)
theorem dJ4_mismatch_48 : decode cJ4_mismatch 48 = .ok (.istore_n 3, 1) := dk_62 (dk_at dksJ4_mismatch_2 0 rfl rfl)
theorem dJ4_mismatch_49 : decode cJ4_mismatch 49 = .ok (.iload_n 3, 1) := dk_29 (dk_at dksJ4_mismatch_2 1 rfl rfl)
theorem dJ4_mismatch_50 : decode cJ4_mismatch 50 = .ok (.iload_n 2, 1) := dk_28 (dk_at dksJ4_mismatch_2 2 rfl rfl)
theorem dJ4_mismatch_51 : decode cJ4_mismatch 51 = .ok (.if_icmp .ge 20, 3) := dk_162 0 20 (dk_at dksJ4_mismatch_2 3 rfl rfl)
theorem dJ4_mismatch_54 : decode cJ4_mismatch 54 = .ok (.aload_n 0, 1) := dk_42 (dk_at dksJ4_mismatch_2 6 rfl rfl)
theorem dJ4_mismatch_55 : decode cJ4_mismatch 55 = .ok (.iload_n 3, 1) := dk_29 (dk_at dksJ4_mismatch_2 7 rfl rfl)
theorem dJ4_mismatch_56 : decode cJ4_mismatch 56 = .ok (.baload, 1) := dk_51 (dk_at dksJ4_mismatch_2 8 rfl rfl)
theorem dJ4_mismatch_57 : decode cJ4_mismatch 57 = .ok (.aload_n 1, 1) := dk_43 (dk_at dksJ4_mismatch_2 9 rfl rfl)
theorem dJ4_mismatch_58 : decode cJ4_mismatch 58 = .ok (.iload_n 3, 1) := dk_29 (dk_at dksJ4_mismatch_2 10 rfl rfl)
theorem dJ4_mismatch_59 : decode cJ4_mismatch 59 = .ok (.baload, 1) := dk_51 (dk_at dksJ4_mismatch_2 11 rfl rfl)
theorem dJ4_mismatch_60 : decode cJ4_mismatch 60 = .ok (.if_icmp .eq 5, 3) := dk_159 0 5 (dk_at dksJ4_mismatch_2 12 rfl rfl)
theorem dJ4_mismatch_63 : decode cJ4_mismatch 63 = .ok (.iload_n 3, 1) := dk_29 (dk_at dksJ4_mismatch_2 15 rfl rfl)
theorem dJ4_mismatch_64 : decode cJ4_mismatch 64 = .ok (.ireturn, 1) := dk_172 (dk_at dksJ4_mismatch_2 16 rfl rfl)
theorem dJ4_mismatch_65 : decode cJ4_mismatch 65 = .ok (.iinc 3 1, 3) := dk_132 3 1 (dk_at dksJ4_mismatch_2 17 rfl rfl)
theorem dJ4_mismatch_68 : decode cJ4_mismatch 68 = .ok (.goto (-19), 3) := dk_167 255 237 (dk_at dksJ4_mismatch_2 20 rfl rfl)
theorem dJ4_mismatch_71 : decode cJ4_mismatch 71 = .ok (.iconst (-1), 1) := dk_2 (dk_at dksJ4_mismatch_2 23 rfl rfl)
theorem dJ4_mismatch_72 : decode cJ4_mismatch 72 = .ok (.ireturn, 1) := dk_172 (dk_at dksJ4_mismatch_3 0 rfl rfl)
abbrev cJ4_vectorizedMismatch : ByteArray := prog_80_method_3_code
def yJ4_vectorizedMismatch : MethodName := ⟨RJ4, "vectorizedMismatch", "(Ljava/lang/Object;JLjava/lang/Object;JII)I"⟩
def dkwJ4_vectorizedMismatch_11 : List UInt8 := [54, 10, 21, 10, 2, 130, 172, 21, 10, 2, 130, 172]
abbrev dktJ4_vectorizedMismatch_11 : List UInt8 := dkwJ4_vectorizedMismatch_11 ++ []
def dkwJ4_vectorizedMismatch_10 : List UInt8 := [178, 0, 46, 21, 7, 96, 122, 54, 17, 21, 9, 21, 8, 120, 21, 17, 96, 172, 21, 10, 21, 11, 100]
abbrev dktJ4_vectorizedMismatch_10 : List UInt8 := dkwJ4_vectorizedMismatch_10 ++ dktJ4_vectorizedMismatch_11
def dkwJ4_vectorizedMismatch_9 : List UInt8 := [153, 0, 18, 21, 16, 184, 0, 58, 178, 0, 46, 21, 7, 96, 122, 167, 0, 15, 21, 16, 184, 0, 11]
abbrev dktJ4_vectorizedMismatch_9 : List UInt8 := dkwJ4_vectorizedMismatch_9 ++ dktJ4_vectorizedMismatch_10
def dkwJ4_vectorizedMismatch_8 : List UInt8 := [182, 0, 54, 54, 15, 21, 14, 21, 15, 159, 0, 54, 21, 14, 21, 15, 130, 54, 16, 178, 0, 36]
abbrev dktJ4_vectorizedMismatch_8 : List UInt8 := dkwJ4_vectorizedMismatch_8 ++ dktJ4_vectorizedMismatch_9
def dkwJ4_vectorizedMismatch_7 : List UInt8 := [55, 12, 178, 0, 26, 42, 31, 22, 12, 97, 182, 0, 54, 54, 14, 178, 0, 26, 45, 22, 4, 22, 12, 97]
abbrev dktJ4_vectorizedMismatch_7 : List UInt8 := dkwJ4_vectorizedMismatch_7 ++ dktJ4_vectorizedMismatch_8
def dkwJ4_vectorizedMismatch_6 : List UInt8 := [4, 178, 0, 51, 21, 7, 100, 120, 54, 11, 21, 10, 21, 11, 161, 0, 104, 21, 9, 133, 178, 0, 20, 121]
abbrev dktJ4_vectorizedMismatch_6 : List UInt8 := dkwJ4_vectorizedMismatch_6 ++ dktJ4_vectorizedMismatch_7
def dkwJ4_vectorizedMismatch_5 : List UInt8 := [132, 9, 1, 167, 255, 148, 21, 6, 21, 9, 21, 8, 120, 100, 54, 10, 21, 7, 178, 0, 51, 162, 0, 126]
abbrev dktJ4_vectorizedMismatch_5 : List UInt8 := dkwJ4_vectorizedMismatch_5 ++ dktJ4_vectorizedMismatch_6
def dkwJ4_vectorizedMismatch_4 : List UInt8 := [22, 16, 184, 0, 49, 178, 0, 46, 21, 7, 96, 122, 54, 18, 21, 9, 21, 8, 120, 21, 18, 96, 172]
abbrev dktJ4_vectorizedMismatch_4 : List UInt8 := dkwJ4_vectorizedMismatch_4 ++ dktJ4_vectorizedMismatch_5
def dkwJ4_vectorizedMismatch_3 : List UInt8 := [55, 16, 178, 0, 36, 153, 0, 18, 22, 16, 184, 0, 40, 178, 0, 46, 21, 7, 96, 122, 167, 0, 15]
abbrev dktJ4_vectorizedMismatch_3 : List UInt8 := dkwJ4_vectorizedMismatch_3 ++ dktJ4_vectorizedMismatch_4
def dkwJ4_vectorizedMismatch_2 : List UInt8 := [22, 4, 22, 10, 97, 182, 0, 30, 55, 14, 22, 12, 22, 14, 148, 153, 0, 54, 22, 12, 22, 14, 131]
abbrev dktJ4_vectorizedMismatch_2 : List UInt8 := dkwJ4_vectorizedMismatch_2 ++ dktJ4_vectorizedMismatch_3
def dkwJ4_vectorizedMismatch_1 : List UInt8 := [178, 0, 20, 121, 55, 10, 178, 0, 26, 42, 31, 22, 10, 97, 182, 0, 30, 55, 12, 178, 0, 26, 45]
abbrev dktJ4_vectorizedMismatch_1 : List UInt8 := dkwJ4_vectorizedMismatch_1 ++ dktJ4_vectorizedMismatch_2
def dkwJ4_vectorizedMismatch_0 : List UInt8 := [178, 0, 20, 21, 7, 100, 54, 8, 3, 54, 9, 21, 9, 21, 6, 21, 8, 122, 162, 0, 104, 21, 9, 133]
abbrev dktJ4_vectorizedMismatch_0 : List UInt8 := dkwJ4_vectorizedMismatch_0 ++ dktJ4_vectorizedMismatch_1
theorem dksJ4_vectorizedMismatch_0 : cJ4_vectorizedMismatch.data.toList.drop 0 = dktJ4_vectorizedMismatch_0 := by decide +kernel
theorem dksJ4_vectorizedMismatch_1 : cJ4_vectorizedMismatch.data.toList.drop 24 = dktJ4_vectorizedMismatch_1 := dk_seg dksJ4_vectorizedMismatch_0 24 rfl rfl
theorem dksJ4_vectorizedMismatch_2 : cJ4_vectorizedMismatch.data.toList.drop 47 = dktJ4_vectorizedMismatch_2 := dk_seg dksJ4_vectorizedMismatch_1 23 rfl rfl
theorem dksJ4_vectorizedMismatch_3 : cJ4_vectorizedMismatch.data.toList.drop 70 = dktJ4_vectorizedMismatch_3 := dk_seg dksJ4_vectorizedMismatch_2 23 rfl rfl
theorem dksJ4_vectorizedMismatch_4 : cJ4_vectorizedMismatch.data.toList.drop 93 = dktJ4_vectorizedMismatch_4 := dk_seg dksJ4_vectorizedMismatch_3 23 rfl rfl
theorem dksJ4_vectorizedMismatch_5 : cJ4_vectorizedMismatch.data.toList.drop 116 = dktJ4_vectorizedMismatch_5 := dk_seg dksJ4_vectorizedMismatch_4 23 rfl rfl
theorem dksJ4_vectorizedMismatch_6 : cJ4_vectorizedMismatch.data.toList.drop 140 = dktJ4_vectorizedMismatch_6 := dk_seg dksJ4_vectorizedMismatch_5 24 rfl rfl
theorem dksJ4_vectorizedMismatch_7 : cJ4_vectorizedMismatch.data.toList.drop 164 = dktJ4_vectorizedMismatch_7 := dk_seg dksJ4_vectorizedMismatch_6 24 rfl rfl
theorem dksJ4_vectorizedMismatch_8 : cJ4_vectorizedMismatch.data.toList.drop 188 = dktJ4_vectorizedMismatch_8 := dk_seg dksJ4_vectorizedMismatch_7 24 rfl rfl
theorem dksJ4_vectorizedMismatch_9 : cJ4_vectorizedMismatch.data.toList.drop 210 = dktJ4_vectorizedMismatch_9 := dk_seg dksJ4_vectorizedMismatch_8 22 rfl rfl
theorem dksJ4_vectorizedMismatch_10 : cJ4_vectorizedMismatch.data.toList.drop 233 = dktJ4_vectorizedMismatch_10 := dk_seg dksJ4_vectorizedMismatch_9 23 rfl rfl
theorem dksJ4_vectorizedMismatch_11 : cJ4_vectorizedMismatch.data.toList.drop 256 = dktJ4_vectorizedMismatch_11 := dk_seg dksJ4_vectorizedMismatch_10 23 rfl rfl
theorem dJ4_vectorizedMismatch_0 : decode cJ4_vectorizedMismatch 0 = .ok (.getstatic 20, 3) := dk_178 0 20 (dk_at dksJ4_vectorizedMismatch_0 0 rfl rfl)
theorem dJ4_vectorizedMismatch_3 : decode cJ4_vectorizedMismatch 3 = .ok (.iload 7, 2) := dk_21 7 (dk_at dksJ4_vectorizedMismatch_0 3 rfl rfl)
theorem dJ4_vectorizedMismatch_5 : decode cJ4_vectorizedMismatch 5 = .ok (.isub, 1) := dk_100 (dk_at dksJ4_vectorizedMismatch_0 5 rfl rfl)
theorem dJ4_vectorizedMismatch_6 : decode cJ4_vectorizedMismatch 6 = .ok (.istore 8, 2) := dk_54 8 (dk_at dksJ4_vectorizedMismatch_0 6 rfl rfl)
theorem dJ4_vectorizedMismatch_8 : decode cJ4_vectorizedMismatch 8 = .ok (.iconst 0, 1) := dk_3 (dk_at dksJ4_vectorizedMismatch_0 8 rfl rfl)
theorem dJ4_vectorizedMismatch_9 : decode cJ4_vectorizedMismatch 9 = .ok (.istore 9, 2) := dk_54 9 (dk_at dksJ4_vectorizedMismatch_0 9 rfl rfl)
theorem dJ4_vectorizedMismatch_11 : decode cJ4_vectorizedMismatch 11 = .ok (.iload 9, 2) := dk_21 9 (dk_at dksJ4_vectorizedMismatch_0 11 rfl rfl)
theorem dJ4_vectorizedMismatch_13 : decode cJ4_vectorizedMismatch 13 = .ok (.iload 6, 2) := dk_21 6 (dk_at dksJ4_vectorizedMismatch_0 13 rfl rfl)
theorem dJ4_vectorizedMismatch_15 : decode cJ4_vectorizedMismatch 15 = .ok (.iload 8, 2) := dk_21 8 (dk_at dksJ4_vectorizedMismatch_0 15 rfl rfl)
theorem dJ4_vectorizedMismatch_17 : decode cJ4_vectorizedMismatch 17 = .ok (.ishr, 1) := dk_122 (dk_at dksJ4_vectorizedMismatch_0 17 rfl rfl)
theorem dJ4_vectorizedMismatch_18 : decode cJ4_vectorizedMismatch 18 = .ok (.if_icmp .ge 104, 3) := dk_162 0 104 (dk_at dksJ4_vectorizedMismatch_0 18 rfl rfl)
theorem dJ4_vectorizedMismatch_21 : decode cJ4_vectorizedMismatch 21 = .ok (.iload 9, 2) := dk_21 9 (dk_at dksJ4_vectorizedMismatch_0 21 rfl rfl)
theorem dJ4_vectorizedMismatch_23 : decode cJ4_vectorizedMismatch 23 = .ok (.i2l, 1) := dk_133 (dk_at dksJ4_vectorizedMismatch_0 23 rfl rfl)
theorem dJ4_vectorizedMismatch_24 : decode cJ4_vectorizedMismatch 24 = .ok (.getstatic 20, 3) := dk_178 0 20 (dk_at dksJ4_vectorizedMismatch_1 0 rfl rfl)
theorem dJ4_vectorizedMismatch_27 : decode cJ4_vectorizedMismatch 27 = .ok (.lshl, 1) := dk_121 (dk_at dksJ4_vectorizedMismatch_1 3 rfl rfl)
theorem dJ4_vectorizedMismatch_28 : decode cJ4_vectorizedMismatch 28 = .ok (.lstore 10, 2) := dk_55 10 (dk_at dksJ4_vectorizedMismatch_1 4 rfl rfl)
theorem dJ4_vectorizedMismatch_30 : decode cJ4_vectorizedMismatch 30 = .ok (.getstatic 26, 3) := dk_178 0 26 (dk_at dksJ4_vectorizedMismatch_1 6 rfl rfl)
theorem dJ4_vectorizedMismatch_33 : decode cJ4_vectorizedMismatch 33 = .ok (.aload_n 0, 1) := dk_42 (dk_at dksJ4_vectorizedMismatch_1 9 rfl rfl)
theorem dJ4_vectorizedMismatch_34 : decode cJ4_vectorizedMismatch 34 = .ok (.lload_n 1, 1) := dk_31 (dk_at dksJ4_vectorizedMismatch_1 10 rfl rfl)
theorem dJ4_vectorizedMismatch_35 : decode cJ4_vectorizedMismatch 35 = .ok (.lload 10, 2) := dk_22 10 (dk_at dksJ4_vectorizedMismatch_1 11 rfl rfl)
theorem dJ4_vectorizedMismatch_37 : decode cJ4_vectorizedMismatch 37 = .ok (.ladd, 1) := dk_97 (dk_at dksJ4_vectorizedMismatch_1 13 rfl rfl)
theorem dJ4_vectorizedMismatch_38 : decode cJ4_vectorizedMismatch 38 = .ok (.invokevirtual 30, 3) := dk_182 0 30 (dk_at dksJ4_vectorizedMismatch_1 14 rfl rfl)
theorem dJ4_vectorizedMismatch_41 : decode cJ4_vectorizedMismatch 41 = .ok (.lstore 12, 2) := dk_55 12 (dk_at dksJ4_vectorizedMismatch_1 17 rfl rfl)
theorem dJ4_vectorizedMismatch_43 : decode cJ4_vectorizedMismatch 43 = .ok (.getstatic 26, 3) := dk_178 0 26 (dk_at dksJ4_vectorizedMismatch_1 19 rfl rfl)
theorem dJ4_vectorizedMismatch_46 : decode cJ4_vectorizedMismatch 46 = .ok (.aload_n 3, 1) := dk_45 (dk_at dksJ4_vectorizedMismatch_1 22 rfl rfl)
theorem dJ4_vectorizedMismatch_47 : decode cJ4_vectorizedMismatch 47 = .ok (.lload 4, 2) := dk_22 4 (dk_at dksJ4_vectorizedMismatch_2 0 rfl rfl)
theorem dJ4_vectorizedMismatch_49 : decode cJ4_vectorizedMismatch 49 = .ok (.lload 10, 2) := dk_22 10 (dk_at dksJ4_vectorizedMismatch_2 2 rfl rfl)
theorem dJ4_vectorizedMismatch_51 : decode cJ4_vectorizedMismatch 51 = .ok (.ladd, 1) := dk_97 (dk_at dksJ4_vectorizedMismatch_2 4 rfl rfl)
theorem dJ4_vectorizedMismatch_52 : decode cJ4_vectorizedMismatch 52 = .ok (.invokevirtual 30, 3) := dk_182 0 30 (dk_at dksJ4_vectorizedMismatch_2 5 rfl rfl)
theorem dJ4_vectorizedMismatch_55 : decode cJ4_vectorizedMismatch 55 = .ok (.lstore 14, 2) := dk_55 14 (dk_at dksJ4_vectorizedMismatch_2 8 rfl rfl)
theorem dJ4_vectorizedMismatch_57 : decode cJ4_vectorizedMismatch 57 = .ok (.lload 12, 2) := dk_22 12 (dk_at dksJ4_vectorizedMismatch_2 10 rfl rfl)
theorem dJ4_vectorizedMismatch_59 : decode cJ4_vectorizedMismatch 59 = .ok (.lload 14, 2) := dk_22 14 (dk_at dksJ4_vectorizedMismatch_2 12 rfl rfl)
theorem dJ4_vectorizedMismatch_61 : decode cJ4_vectorizedMismatch 61 = .ok (.lcmp, 1) := dk_148 (dk_at dksJ4_vectorizedMismatch_2 14 rfl rfl)
theorem dJ4_vectorizedMismatch_62 : decode cJ4_vectorizedMismatch 62 = .ok (.ifCond .eq 54, 3) := dk_153 0 54 (dk_at dksJ4_vectorizedMismatch_2 15 rfl rfl)
theorem dJ4_vectorizedMismatch_65 : decode cJ4_vectorizedMismatch 65 = .ok (.lload 12, 2) := dk_22 12 (dk_at dksJ4_vectorizedMismatch_2 18 rfl rfl)
theorem dJ4_vectorizedMismatch_67 : decode cJ4_vectorizedMismatch 67 = .ok (.lload 14, 2) := dk_22 14 (dk_at dksJ4_vectorizedMismatch_2 20 rfl rfl)
theorem dJ4_vectorizedMismatch_69 : decode cJ4_vectorizedMismatch 69 = .ok (.lxor, 1) := dk_131 (dk_at dksJ4_vectorizedMismatch_2 22 rfl rfl)
theorem dJ4_vectorizedMismatch_70 : decode cJ4_vectorizedMismatch 70 = .ok (.lstore 16, 2) := dk_55 16 (dk_at dksJ4_vectorizedMismatch_3 0 rfl rfl)
theorem dJ4_vectorizedMismatch_72 : decode cJ4_vectorizedMismatch 72 = .ok (.getstatic 36, 3) := dk_178 0 36 (dk_at dksJ4_vectorizedMismatch_3 2 rfl rfl)
theorem dJ4_vectorizedMismatch_75 : decode cJ4_vectorizedMismatch 75 = .ok (.ifCond .eq 18, 3) := dk_153 0 18 (dk_at dksJ4_vectorizedMismatch_3 5 rfl rfl)
theorem dJ4_vectorizedMismatch_78 : decode cJ4_vectorizedMismatch 78 = .ok (.lload 16, 2) := dk_22 16 (dk_at dksJ4_vectorizedMismatch_3 8 rfl rfl)
theorem dJ4_vectorizedMismatch_80 : decode cJ4_vectorizedMismatch 80 = .ok (.invokestatic 40, 3) := dk_184 0 40 (dk_at dksJ4_vectorizedMismatch_3 10 rfl rfl)
theorem dJ4_vectorizedMismatch_83 : decode cJ4_vectorizedMismatch 83 = .ok (.getstatic 46, 3) := dk_178 0 46 (dk_at dksJ4_vectorizedMismatch_3 13 rfl rfl)
theorem dJ4_vectorizedMismatch_86 : decode cJ4_vectorizedMismatch 86 = .ok (.iload 7, 2) := dk_21 7 (dk_at dksJ4_vectorizedMismatch_3 16 rfl rfl)
theorem dJ4_vectorizedMismatch_88 : decode cJ4_vectorizedMismatch 88 = .ok (.iadd, 1) := dk_96 (dk_at dksJ4_vectorizedMismatch_3 18 rfl rfl)
theorem dJ4_vectorizedMismatch_89 : decode cJ4_vectorizedMismatch 89 = .ok (.ishr, 1) := dk_122 (dk_at dksJ4_vectorizedMismatch_3 19 rfl rfl)
theorem dJ4_vectorizedMismatch_90 : decode cJ4_vectorizedMismatch 90 = .ok (.goto 15, 3) := dk_167 0 15 (dk_at dksJ4_vectorizedMismatch_3 20 rfl rfl)
theorem dJ4_vectorizedMismatch_93 : decode cJ4_vectorizedMismatch 93 = .ok (.lload 16, 2) := dk_22 16 (dk_at dksJ4_vectorizedMismatch_4 0 rfl rfl)
theorem dJ4_vectorizedMismatch_95 : decode cJ4_vectorizedMismatch 95 = .ok (.invokestatic 49, 3) := dk_184 0 49 (dk_at dksJ4_vectorizedMismatch_4 2 rfl rfl)
theorem dJ4_vectorizedMismatch_98 : decode cJ4_vectorizedMismatch 98 = .ok (.getstatic 46, 3) := dk_178 0 46 (dk_at dksJ4_vectorizedMismatch_4 5 rfl rfl)
theorem dJ4_vectorizedMismatch_101 : decode cJ4_vectorizedMismatch 101 = .ok (.iload 7, 2) := dk_21 7 (dk_at dksJ4_vectorizedMismatch_4 8 rfl rfl)
theorem dJ4_vectorizedMismatch_103 : decode cJ4_vectorizedMismatch 103 = .ok (.iadd, 1) := dk_96 (dk_at dksJ4_vectorizedMismatch_4 10 rfl rfl)
theorem dJ4_vectorizedMismatch_104 : decode cJ4_vectorizedMismatch 104 = .ok (.ishr, 1) := dk_122 (dk_at dksJ4_vectorizedMismatch_4 11 rfl rfl)
theorem dJ4_vectorizedMismatch_105 : decode cJ4_vectorizedMismatch 105 = .ok (.istore 18, 2) := dk_54 18 (dk_at dksJ4_vectorizedMismatch_4 12 rfl rfl)
theorem dJ4_vectorizedMismatch_107 : decode cJ4_vectorizedMismatch 107 = .ok (.iload 9, 2) := dk_21 9 (dk_at dksJ4_vectorizedMismatch_4 14 rfl rfl)
theorem dJ4_vectorizedMismatch_109 : decode cJ4_vectorizedMismatch 109 = .ok (.iload 8, 2) := dk_21 8 (dk_at dksJ4_vectorizedMismatch_4 16 rfl rfl)
theorem dJ4_vectorizedMismatch_111 : decode cJ4_vectorizedMismatch 111 = .ok (.ishl, 1) := dk_120 (dk_at dksJ4_vectorizedMismatch_4 18 rfl rfl)
theorem dJ4_vectorizedMismatch_112 : decode cJ4_vectorizedMismatch 112 = .ok (.iload 18, 2) := dk_21 18 (dk_at dksJ4_vectorizedMismatch_4 19 rfl rfl)
theorem dJ4_vectorizedMismatch_114 : decode cJ4_vectorizedMismatch 114 = .ok (.iadd, 1) := dk_96 (dk_at dksJ4_vectorizedMismatch_4 21 rfl rfl)
theorem dJ4_vectorizedMismatch_115 : decode cJ4_vectorizedMismatch 115 = .ok (.ireturn, 1) := dk_172 (dk_at dksJ4_vectorizedMismatch_4 22 rfl rfl)
theorem dJ4_vectorizedMismatch_116 : decode cJ4_vectorizedMismatch 116 = .ok (.iinc 9 1, 3) := dk_132 9 1 (dk_at dksJ4_vectorizedMismatch_5 0 rfl rfl)
theorem dJ4_vectorizedMismatch_119 : decode cJ4_vectorizedMismatch 119 = .ok (.goto (-108), 3) := dk_167 255 148 (dk_at dksJ4_vectorizedMismatch_5 3 rfl rfl)
theorem dJ4_vectorizedMismatch_122 : decode cJ4_vectorizedMismatch 122 = .ok (.iload 6, 2) := dk_21 6 (dk_at dksJ4_vectorizedMismatch_5 6 rfl rfl)
theorem dJ4_vectorizedMismatch_124 : decode cJ4_vectorizedMismatch 124 = .ok (.iload 9, 2) := dk_21 9 (dk_at dksJ4_vectorizedMismatch_5 8 rfl rfl)
theorem dJ4_vectorizedMismatch_126 : decode cJ4_vectorizedMismatch 126 = .ok (.iload 8, 2) := dk_21 8 (dk_at dksJ4_vectorizedMismatch_5 10 rfl rfl)
theorem dJ4_vectorizedMismatch_128 : decode cJ4_vectorizedMismatch 128 = .ok (.ishl, 1) := dk_120 (dk_at dksJ4_vectorizedMismatch_5 12 rfl rfl)
theorem dJ4_vectorizedMismatch_129 : decode cJ4_vectorizedMismatch 129 = .ok (.isub, 1) := dk_100 (dk_at dksJ4_vectorizedMismatch_5 13 rfl rfl)
theorem dJ4_vectorizedMismatch_130 : decode cJ4_vectorizedMismatch 130 = .ok (.istore 10, 2) := dk_54 10 (dk_at dksJ4_vectorizedMismatch_5 14 rfl rfl)
theorem dJ4_vectorizedMismatch_132 : decode cJ4_vectorizedMismatch 132 = .ok (.iload 7, 2) := dk_21 7 (dk_at dksJ4_vectorizedMismatch_5 16 rfl rfl)
theorem dJ4_vectorizedMismatch_134 : decode cJ4_vectorizedMismatch 134 = .ok (.getstatic 51, 3) := dk_178 0 51 (dk_at dksJ4_vectorizedMismatch_5 18 rfl rfl)
theorem dJ4_vectorizedMismatch_137 : decode cJ4_vectorizedMismatch 137 = .ok (.if_icmp .ge 126, 3) := dk_162 0 126 (dk_at dksJ4_vectorizedMismatch_5 21 rfl rfl)
theorem dJ4_vectorizedMismatch_140 : decode cJ4_vectorizedMismatch 140 = .ok (.iconst 1, 1) := dk_4 (dk_at dksJ4_vectorizedMismatch_6 0 rfl rfl)
theorem dJ4_vectorizedMismatch_141 : decode cJ4_vectorizedMismatch 141 = .ok (.getstatic 51, 3) := dk_178 0 51 (dk_at dksJ4_vectorizedMismatch_6 1 rfl rfl)
theorem dJ4_vectorizedMismatch_144 : decode cJ4_vectorizedMismatch 144 = .ok (.iload 7, 2) := dk_21 7 (dk_at dksJ4_vectorizedMismatch_6 4 rfl rfl)
theorem dJ4_vectorizedMismatch_146 : decode cJ4_vectorizedMismatch 146 = .ok (.isub, 1) := dk_100 (dk_at dksJ4_vectorizedMismatch_6 6 rfl rfl)
theorem dJ4_vectorizedMismatch_147 : decode cJ4_vectorizedMismatch 147 = .ok (.ishl, 1) := dk_120 (dk_at dksJ4_vectorizedMismatch_6 7 rfl rfl)
theorem dJ4_vectorizedMismatch_148 : decode cJ4_vectorizedMismatch 148 = .ok (.istore 11, 2) := dk_54 11 (dk_at dksJ4_vectorizedMismatch_6 8 rfl rfl)
theorem dJ4_vectorizedMismatch_150 : decode cJ4_vectorizedMismatch 150 = .ok (.iload 10, 2) := dk_21 10 (dk_at dksJ4_vectorizedMismatch_6 10 rfl rfl)
theorem dJ4_vectorizedMismatch_152 : decode cJ4_vectorizedMismatch 152 = .ok (.iload 11, 2) := dk_21 11 (dk_at dksJ4_vectorizedMismatch_6 12 rfl rfl)
theorem dJ4_vectorizedMismatch_154 : decode cJ4_vectorizedMismatch 154 = .ok (.if_icmp .lt 104, 3) := dk_161 0 104 (dk_at dksJ4_vectorizedMismatch_6 14 rfl rfl)
theorem dJ4_vectorizedMismatch_157 : decode cJ4_vectorizedMismatch 157 = .ok (.iload 9, 2) := dk_21 9 (dk_at dksJ4_vectorizedMismatch_6 17 rfl rfl)
theorem dJ4_vectorizedMismatch_159 : decode cJ4_vectorizedMismatch 159 = .ok (.i2l, 1) := dk_133 (dk_at dksJ4_vectorizedMismatch_6 19 rfl rfl)
theorem dJ4_vectorizedMismatch_160 : decode cJ4_vectorizedMismatch 160 = .ok (.getstatic 20, 3) := dk_178 0 20 (dk_at dksJ4_vectorizedMismatch_6 20 rfl rfl)
theorem dJ4_vectorizedMismatch_163 : decode cJ4_vectorizedMismatch 163 = .ok (.lshl, 1) := dk_121 (dk_at dksJ4_vectorizedMismatch_6 23 rfl rfl)
theorem dJ4_vectorizedMismatch_164 : decode cJ4_vectorizedMismatch 164 = .ok (.lstore 12, 2) := dk_55 12 (dk_at dksJ4_vectorizedMismatch_7 0 rfl rfl)
theorem dJ4_vectorizedMismatch_166 : decode cJ4_vectorizedMismatch 166 = .ok (.getstatic 26, 3) := dk_178 0 26 (dk_at dksJ4_vectorizedMismatch_7 2 rfl rfl)
theorem dJ4_vectorizedMismatch_169 : decode cJ4_vectorizedMismatch 169 = .ok (.aload_n 0, 1) := dk_42 (dk_at dksJ4_vectorizedMismatch_7 5 rfl rfl)
theorem dJ4_vectorizedMismatch_170 : decode cJ4_vectorizedMismatch 170 = .ok (.lload_n 1, 1) := dk_31 (dk_at dksJ4_vectorizedMismatch_7 6 rfl rfl)
theorem dJ4_vectorizedMismatch_171 : decode cJ4_vectorizedMismatch 171 = .ok (.lload 12, 2) := dk_22 12 (dk_at dksJ4_vectorizedMismatch_7 7 rfl rfl)
theorem dJ4_vectorizedMismatch_173 : decode cJ4_vectorizedMismatch 173 = .ok (.ladd, 1) := dk_97 (dk_at dksJ4_vectorizedMismatch_7 9 rfl rfl)
theorem dJ4_vectorizedMismatch_174 : decode cJ4_vectorizedMismatch 174 = .ok (.invokevirtual 54, 3) := dk_182 0 54 (dk_at dksJ4_vectorizedMismatch_7 10 rfl rfl)
theorem dJ4_vectorizedMismatch_177 : decode cJ4_vectorizedMismatch 177 = .ok (.istore 14, 2) := dk_54 14 (dk_at dksJ4_vectorizedMismatch_7 13 rfl rfl)
theorem dJ4_vectorizedMismatch_179 : decode cJ4_vectorizedMismatch 179 = .ok (.getstatic 26, 3) := dk_178 0 26 (dk_at dksJ4_vectorizedMismatch_7 15 rfl rfl)
theorem dJ4_vectorizedMismatch_182 : decode cJ4_vectorizedMismatch 182 = .ok (.aload_n 3, 1) := dk_45 (dk_at dksJ4_vectorizedMismatch_7 18 rfl rfl)
theorem dJ4_vectorizedMismatch_183 : decode cJ4_vectorizedMismatch 183 = .ok (.lload 4, 2) := dk_22 4 (dk_at dksJ4_vectorizedMismatch_7 19 rfl rfl)
theorem dJ4_vectorizedMismatch_185 : decode cJ4_vectorizedMismatch 185 = .ok (.lload 12, 2) := dk_22 12 (dk_at dksJ4_vectorizedMismatch_7 21 rfl rfl)
theorem dJ4_vectorizedMismatch_187 : decode cJ4_vectorizedMismatch 187 = .ok (.ladd, 1) := dk_97 (dk_at dksJ4_vectorizedMismatch_7 23 rfl rfl)
theorem dJ4_vectorizedMismatch_188 : decode cJ4_vectorizedMismatch 188 = .ok (.invokevirtual 54, 3) := dk_182 0 54 (dk_at dksJ4_vectorizedMismatch_8 0 rfl rfl)
theorem dJ4_vectorizedMismatch_191 : decode cJ4_vectorizedMismatch 191 = .ok (.istore 15, 2) := dk_54 15 (dk_at dksJ4_vectorizedMismatch_8 3 rfl rfl)
theorem dJ4_vectorizedMismatch_193 : decode cJ4_vectorizedMismatch 193 = .ok (.iload 14, 2) := dk_21 14 (dk_at dksJ4_vectorizedMismatch_8 5 rfl rfl)
theorem dJ4_vectorizedMismatch_195 : decode cJ4_vectorizedMismatch 195 = .ok (.iload 15, 2) := dk_21 15 (dk_at dksJ4_vectorizedMismatch_8 7 rfl rfl)
theorem dJ4_vectorizedMismatch_197 : decode cJ4_vectorizedMismatch 197 = .ok (.if_icmp .eq 54, 3) := dk_159 0 54 (dk_at dksJ4_vectorizedMismatch_8 9 rfl rfl)
theorem dJ4_vectorizedMismatch_200 : decode cJ4_vectorizedMismatch 200 = .ok (.iload 14, 2) := dk_21 14 (dk_at dksJ4_vectorizedMismatch_8 12 rfl rfl)
theorem dJ4_vectorizedMismatch_202 : decode cJ4_vectorizedMismatch 202 = .ok (.iload 15, 2) := dk_21 15 (dk_at dksJ4_vectorizedMismatch_8 14 rfl rfl)
theorem dJ4_vectorizedMismatch_204 : decode cJ4_vectorizedMismatch 204 = .ok (.ixor, 1) := dk_130 (dk_at dksJ4_vectorizedMismatch_8 16 rfl rfl)
theorem dJ4_vectorizedMismatch_205 : decode cJ4_vectorizedMismatch 205 = .ok (.istore 16, 2) := dk_54 16 (dk_at dksJ4_vectorizedMismatch_8 17 rfl rfl)
theorem dJ4_vectorizedMismatch_207 : decode cJ4_vectorizedMismatch 207 = .ok (.getstatic 36, 3) := dk_178 0 36 (dk_at dksJ4_vectorizedMismatch_8 19 rfl rfl)
theorem dJ4_vectorizedMismatch_210 : decode cJ4_vectorizedMismatch 210 = .ok (.ifCond .eq 18, 3) := dk_153 0 18 (dk_at dksJ4_vectorizedMismatch_9 0 rfl rfl)
theorem dJ4_vectorizedMismatch_213 : decode cJ4_vectorizedMismatch 213 = .ok (.iload 16, 2) := dk_21 16 (dk_at dksJ4_vectorizedMismatch_9 3 rfl rfl)
theorem dJ4_vectorizedMismatch_215 : decode cJ4_vectorizedMismatch 215 = .ok (.invokestatic 58, 3) := dk_184 0 58 (dk_at dksJ4_vectorizedMismatch_9 5 rfl rfl)
theorem dJ4_vectorizedMismatch_218 : decode cJ4_vectorizedMismatch 218 = .ok (.getstatic 46, 3) := dk_178 0 46 (dk_at dksJ4_vectorizedMismatch_9 8 rfl rfl)
theorem dJ4_vectorizedMismatch_221 : decode cJ4_vectorizedMismatch 221 = .ok (.iload 7, 2) := dk_21 7 (dk_at dksJ4_vectorizedMismatch_9 11 rfl rfl)
theorem dJ4_vectorizedMismatch_223 : decode cJ4_vectorizedMismatch 223 = .ok (.iadd, 1) := dk_96 (dk_at dksJ4_vectorizedMismatch_9 13 rfl rfl)
theorem dJ4_vectorizedMismatch_224 : decode cJ4_vectorizedMismatch 224 = .ok (.ishr, 1) := dk_122 (dk_at dksJ4_vectorizedMismatch_9 14 rfl rfl)
theorem dJ4_vectorizedMismatch_225 : decode cJ4_vectorizedMismatch 225 = .ok (.goto 15, 3) := dk_167 0 15 (dk_at dksJ4_vectorizedMismatch_9 15 rfl rfl)
theorem dJ4_vectorizedMismatch_228 : decode cJ4_vectorizedMismatch 228 = .ok (.iload 16, 2) := dk_21 16 (dk_at dksJ4_vectorizedMismatch_9 18 rfl rfl)
theorem dJ4_vectorizedMismatch_230 : decode cJ4_vectorizedMismatch 230 = .ok (.invokestatic 11, 3) := dk_184 0 11 (dk_at dksJ4_vectorizedMismatch_9 20 rfl rfl)
theorem dJ4_vectorizedMismatch_233 : decode cJ4_vectorizedMismatch 233 = .ok (.getstatic 46, 3) := dk_178 0 46 (dk_at dksJ4_vectorizedMismatch_10 0 rfl rfl)
theorem dJ4_vectorizedMismatch_236 : decode cJ4_vectorizedMismatch 236 = .ok (.iload 7, 2) := dk_21 7 (dk_at dksJ4_vectorizedMismatch_10 3 rfl rfl)
theorem dJ4_vectorizedMismatch_238 : decode cJ4_vectorizedMismatch 238 = .ok (.iadd, 1) := dk_96 (dk_at dksJ4_vectorizedMismatch_10 5 rfl rfl)
theorem dJ4_vectorizedMismatch_239 : decode cJ4_vectorizedMismatch 239 = .ok (.ishr, 1) := dk_122 (dk_at dksJ4_vectorizedMismatch_10 6 rfl rfl)
theorem dJ4_vectorizedMismatch_240 : decode cJ4_vectorizedMismatch 240 = .ok (.istore 17, 2) := dk_54 17 (dk_at dksJ4_vectorizedMismatch_10 7 rfl rfl)
theorem dJ4_vectorizedMismatch_242 : decode cJ4_vectorizedMismatch 242 = .ok (.iload 9, 2) := dk_21 9 (dk_at dksJ4_vectorizedMismatch_10 9 rfl rfl)
theorem dJ4_vectorizedMismatch_244 : decode cJ4_vectorizedMismatch 244 = .ok (.iload 8, 2) := dk_21 8 (dk_at dksJ4_vectorizedMismatch_10 11 rfl rfl)
theorem dJ4_vectorizedMismatch_246 : decode cJ4_vectorizedMismatch 246 = .ok (.ishl, 1) := dk_120 (dk_at dksJ4_vectorizedMismatch_10 13 rfl rfl)
theorem dJ4_vectorizedMismatch_247 : decode cJ4_vectorizedMismatch 247 = .ok (.iload 17, 2) := dk_21 17 (dk_at dksJ4_vectorizedMismatch_10 14 rfl rfl)
theorem dJ4_vectorizedMismatch_249 : decode cJ4_vectorizedMismatch 249 = .ok (.iadd, 1) := dk_96 (dk_at dksJ4_vectorizedMismatch_10 16 rfl rfl)
theorem dJ4_vectorizedMismatch_250 : decode cJ4_vectorizedMismatch 250 = .ok (.ireturn, 1) := dk_172 (dk_at dksJ4_vectorizedMismatch_10 17 rfl rfl)
theorem dJ4_vectorizedMismatch_251 : decode cJ4_vectorizedMismatch 251 = .ok (.iload 10, 2) := dk_21 10 (dk_at dksJ4_vectorizedMismatch_10 18 rfl rfl)
theorem dJ4_vectorizedMismatch_253 : decode cJ4_vectorizedMismatch 253 = .ok (.iload 11, 2) := dk_21 11 (dk_at dksJ4_vectorizedMismatch_10 20 rfl rfl)
theorem dJ4_vectorizedMismatch_255 : decode cJ4_vectorizedMismatch 255 = .ok (.isub, 1) := dk_100 (dk_at dksJ4_vectorizedMismatch_10 22 rfl rfl)
theorem dJ4_vectorizedMismatch_256 : decode cJ4_vectorizedMismatch 256 = .ok (.istore 10, 2) := dk_54 10 (dk_at dksJ4_vectorizedMismatch_11 0 rfl rfl)
theorem dJ4_vectorizedMismatch_258 : decode cJ4_vectorizedMismatch 258 = .ok (.iload 10, 2) := dk_21 10 (dk_at dksJ4_vectorizedMismatch_11 2 rfl rfl)
theorem dJ4_vectorizedMismatch_260 : decode cJ4_vectorizedMismatch 260 = .ok (.iconst (-1), 1) := dk_2 (dk_at dksJ4_vectorizedMismatch_11 4 rfl rfl)
theorem dJ4_vectorizedMismatch_261 : decode cJ4_vectorizedMismatch 261 = .ok (.ixor, 1) := dk_130 (dk_at dksJ4_vectorizedMismatch_11 5 rfl rfl)
theorem dJ4_vectorizedMismatch_262 : decode cJ4_vectorizedMismatch 262 = .ok (.ireturn, 1) := dk_172 (dk_at dksJ4_vectorizedMismatch_11 6 rfl rfl)
theorem dJ4_vectorizedMismatch_263 : decode cJ4_vectorizedMismatch 263 = .ok (.iload 10, 2) := dk_21 10 (dk_at dksJ4_vectorizedMismatch_11 7 rfl rfl)
theorem dJ4_vectorizedMismatch_265 : decode cJ4_vectorizedMismatch 265 = .ok (.iconst (-1), 1) := dk_2 (dk_at dksJ4_vectorizedMismatch_11 9 rfl rfl)
theorem dJ4_vectorizedMismatch_266 : decode cJ4_vectorizedMismatch 266 = .ok (.ixor, 1) := dk_130 (dk_at dksJ4_vectorizedMismatch_11 10 rfl rfl)
theorem dJ4_vectorizedMismatch_267 : decode cJ4_vectorizedMismatch 267 = .ok (.ireturn, 1) := dk_172 (dk_at dksJ4_vectorizedMismatch_11 11 rfl rfl)
abbrev cJ4_newLength : ByteArray := prog_80_method_27_code
def yJ4_newLength : MethodName := ⟨RJ4, "newLength", "(III)I"⟩
def dkwJ4_newLength_1 : List UInt8 := [184, 0, 201, 172]
abbrev dktJ4_newLength_1 : List UInt8 := dkwJ4_newLength_1 ++ []
def dkwJ4_newLength_0 : List UInt8 := [26, 27, 28, 184, 0, 194, 96, 62, 3, 29, 162, 0, 11, 29, 18, 200, 163, 0, 5, 29, 172, 26, 27]
abbrev dktJ4_newLength_0 : List UInt8 := dkwJ4_newLength_0 ++ dktJ4_newLength_1
theorem dksJ4_newLength_0 : cJ4_newLength.data.toList.drop 0 = dktJ4_newLength_0 := by decide +kernel
theorem dksJ4_newLength_1 : cJ4_newLength.data.toList.drop 23 = dktJ4_newLength_1 := dk_seg dksJ4_newLength_0 23 rfl rfl
theorem dJ4_newLength_0 : decode cJ4_newLength 0 = .ok (.iload_n 0, 1) := dk_26 (dk_at dksJ4_newLength_0 0 rfl rfl)
theorem dJ4_newLength_1 : decode cJ4_newLength 1 = .ok (.iload_n 1, 1) := dk_27 (dk_at dksJ4_newLength_0 1 rfl rfl)
theorem dJ4_newLength_2 : decode cJ4_newLength 2 = .ok (.iload_n 2, 1) := dk_28 (dk_at dksJ4_newLength_0 2 rfl rfl)
theorem dJ4_newLength_3 : decode cJ4_newLength 3 = .ok (.invokestatic 194, 3) := dk_184 0 194 (dk_at dksJ4_newLength_0 3 rfl rfl)
theorem dJ4_newLength_6 : decode cJ4_newLength 6 = .ok (.iadd, 1) := dk_96 (dk_at dksJ4_newLength_0 6 rfl rfl)
theorem dJ4_newLength_7 : decode cJ4_newLength 7 = .ok (.istore_n 3, 1) := dk_62 (dk_at dksJ4_newLength_0 7 rfl rfl)
theorem dJ4_newLength_8 : decode cJ4_newLength 8 = .ok (.iconst 0, 1) := dk_3 (dk_at dksJ4_newLength_0 8 rfl rfl)
theorem dJ4_newLength_9 : decode cJ4_newLength 9 = .ok (.iload_n 3, 1) := dk_29 (dk_at dksJ4_newLength_0 9 rfl rfl)
theorem dJ4_newLength_10 : decode cJ4_newLength 10 = .ok (.if_icmp .ge 11, 3) := dk_162 0 11 (dk_at dksJ4_newLength_0 10 rfl rfl)
theorem dJ4_newLength_13 : decode cJ4_newLength 13 = .ok (.iload_n 3, 1) := dk_29 (dk_at dksJ4_newLength_0 13 rfl rfl)
theorem dJ4_newLength_14 : decode cJ4_newLength 14 = .ok (.ldc 200, 2) := dk_18 200 (dk_at dksJ4_newLength_0 14 rfl rfl)
theorem dJ4_newLength_16 : decode cJ4_newLength 16 = .ok (.if_icmp .gt 5, 3) := dk_163 0 5 (dk_at dksJ4_newLength_0 16 rfl rfl)
theorem dJ4_newLength_19 : decode cJ4_newLength 19 = .ok (.iload_n 3, 1) := dk_29 (dk_at dksJ4_newLength_0 19 rfl rfl)
theorem dJ4_newLength_20 : decode cJ4_newLength 20 = .ok (.ireturn, 1) := dk_172 (dk_at dksJ4_newLength_0 20 rfl rfl)
theorem dJ4_newLength_21 : decode cJ4_newLength 21 = .ok (.iload_n 0, 1) := dk_26 (dk_at dksJ4_newLength_0 21 rfl rfl)
theorem dJ4_newLength_22 : decode cJ4_newLength 22 = .ok (.iload_n 1, 1) := dk_27 (dk_at dksJ4_newLength_0 22 rfl rfl)
theorem dJ4_newLength_23 : decode cJ4_newLength 23 = .ok (.invokestatic 201, 3) := dk_184 0 201 (dk_at dksJ4_newLength_1 0 rfl rfl)
theorem dJ4_newLength_26 : decode cJ4_newLength 26 = .ok (.ireturn, 1) := dk_172 (dk_at dksJ4_newLength_1 3 rfl rfl)
abbrev cJ4_hugeLength : ByteArray := prog_80_method_28_code
def yJ4_hugeLength : MethodName := ⟨RJ4, "hugeLength", "(II)I"⟩
def dkwJ4_hugeLength_2 : List UInt8 := [191, 28, 18, 200, 163, 0, 6, 18, 200, 172, 28, 172]
abbrev dktJ4_hugeLength_2 : List UInt8 := dkwJ4_hugeLength_2 ++ []
def dkwJ4_hugeLength_1 : List UInt8 := [26, 182, 0, 98, 18, 208, 182, 0, 94, 27, 182, 0, 98, 18, 210, 182, 0, 94, 182, 0, 101, 183, 0, 212]
abbrev dktJ4_hugeLength_1 : List UInt8 := dkwJ4_hugeLength_1 ++ dktJ4_hugeLength_2
def dkwJ4_hugeLength_0 : List UInt8 := [26, 27, 96, 61, 28, 156, 0, 44, 187, 0, 204, 89, 187, 0, 89, 89, 183, 0, 91, 18, 206, 182, 0, 94]
abbrev dktJ4_hugeLength_0 : List UInt8 := dkwJ4_hugeLength_0 ++ dktJ4_hugeLength_1
theorem dksJ4_hugeLength_0 : cJ4_hugeLength.data.toList.drop 0 = dktJ4_hugeLength_0 := by decide +kernel
theorem dksJ4_hugeLength_1 : cJ4_hugeLength.data.toList.drop 24 = dktJ4_hugeLength_1 := dk_seg dksJ4_hugeLength_0 24 rfl rfl
theorem dksJ4_hugeLength_2 : cJ4_hugeLength.data.toList.drop 48 = dktJ4_hugeLength_2 := dk_seg dksJ4_hugeLength_1 24 rfl rfl
theorem dJ4_hugeLength_0 : decode cJ4_hugeLength 0 = .ok (.iload_n 0, 1) := dk_26 (dk_at dksJ4_hugeLength_0 0 rfl rfl)
theorem dJ4_hugeLength_1 : decode cJ4_hugeLength 1 = .ok (.iload_n 1, 1) := dk_27 (dk_at dksJ4_hugeLength_0 1 rfl rfl)
theorem dJ4_hugeLength_2 : decode cJ4_hugeLength 2 = .ok (.iadd, 1) := dk_96 (dk_at dksJ4_hugeLength_0 2 rfl rfl)
theorem dJ4_hugeLength_3 : decode cJ4_hugeLength 3 = .ok (.istore_n 2, 1) := dk_61 (dk_at dksJ4_hugeLength_0 3 rfl rfl)
theorem dJ4_hugeLength_4 : decode cJ4_hugeLength 4 = .ok (.iload_n 2, 1) := dk_28 (dk_at dksJ4_hugeLength_0 4 rfl rfl)
theorem dJ4_hugeLength_5 : decode cJ4_hugeLength 5 = .ok (.ifCond .ge 44, 3) := dk_156 0 44 (dk_at dksJ4_hugeLength_0 5 rfl rfl)
theorem dJ4_hugeLength_8 : decode cJ4_hugeLength 8 = .ok (.new 204, 3) := dk_187 0 204 (dk_at dksJ4_hugeLength_0 8 rfl rfl)
theorem dJ4_hugeLength_11 : decode cJ4_hugeLength 11 = .ok (.dup, 1) := dk_89 (dk_at dksJ4_hugeLength_0 11 rfl rfl)
theorem dJ4_hugeLength_12 : decode cJ4_hugeLength 12 = .ok (.new 89, 3) := dk_187 0 89 (dk_at dksJ4_hugeLength_0 12 rfl rfl)
theorem dJ4_hugeLength_15 : decode cJ4_hugeLength 15 = .ok (.dup, 1) := dk_89 (dk_at dksJ4_hugeLength_0 15 rfl rfl)
theorem dJ4_hugeLength_16 : decode cJ4_hugeLength 16 = .ok (.invokespecial 91, 3) := dk_183 0 91 (dk_at dksJ4_hugeLength_0 16 rfl rfl)
theorem dJ4_hugeLength_19 : decode cJ4_hugeLength 19 = .ok (.ldc 206, 2) := dk_18 206 (dk_at dksJ4_hugeLength_0 19 rfl rfl)
theorem dJ4_hugeLength_21 : decode cJ4_hugeLength 21 = .ok (.invokevirtual 94, 3) := dk_182 0 94 (dk_at dksJ4_hugeLength_0 21 rfl rfl)
theorem dJ4_hugeLength_24 : decode cJ4_hugeLength 24 = .ok (.iload_n 0, 1) := dk_26 (dk_at dksJ4_hugeLength_1 0 rfl rfl)
theorem dJ4_hugeLength_25 : decode cJ4_hugeLength 25 = .ok (.invokevirtual 98, 3) := dk_182 0 98 (dk_at dksJ4_hugeLength_1 1 rfl rfl)
theorem dJ4_hugeLength_28 : decode cJ4_hugeLength 28 = .ok (.ldc 208, 2) := dk_18 208 (dk_at dksJ4_hugeLength_1 4 rfl rfl)
theorem dJ4_hugeLength_30 : decode cJ4_hugeLength 30 = .ok (.invokevirtual 94, 3) := dk_182 0 94 (dk_at dksJ4_hugeLength_1 6 rfl rfl)
theorem dJ4_hugeLength_33 : decode cJ4_hugeLength 33 = .ok (.iload_n 1, 1) := dk_27 (dk_at dksJ4_hugeLength_1 9 rfl rfl)
theorem dJ4_hugeLength_34 : decode cJ4_hugeLength 34 = .ok (.invokevirtual 98, 3) := dk_182 0 98 (dk_at dksJ4_hugeLength_1 10 rfl rfl)
theorem dJ4_hugeLength_37 : decode cJ4_hugeLength 37 = .ok (.ldc 210, 2) := dk_18 210 (dk_at dksJ4_hugeLength_1 13 rfl rfl)
theorem dJ4_hugeLength_39 : decode cJ4_hugeLength 39 = .ok (.invokevirtual 94, 3) := dk_182 0 94 (dk_at dksJ4_hugeLength_1 15 rfl rfl)
theorem dJ4_hugeLength_42 : decode cJ4_hugeLength 42 = .ok (.invokevirtual 101, 3) := dk_182 0 101 (dk_at dksJ4_hugeLength_1 18 rfl rfl)
theorem dJ4_hugeLength_45 : decode cJ4_hugeLength 45 = .ok (.invokespecial 212, 3) := dk_183 0 212 (dk_at dksJ4_hugeLength_1 21 rfl rfl)
theorem dJ4_hugeLength_48 : decode cJ4_hugeLength 48 = .ok (.athrow, 1) := dk_191 (dk_at dksJ4_hugeLength_2 0 rfl rfl)
theorem dJ4_hugeLength_49 : decode cJ4_hugeLength 49 = .ok (.iload_n 2, 1) := dk_28 (dk_at dksJ4_hugeLength_2 1 rfl rfl)
theorem dJ4_hugeLength_50 : decode cJ4_hugeLength 50 = .ok (.ldc 200, 2) := dk_18 200 (dk_at dksJ4_hugeLength_2 2 rfl rfl)
theorem dJ4_hugeLength_52 : decode cJ4_hugeLength 52 = .ok (.if_icmp .gt 6, 3) := dk_163 0 6 (dk_at dksJ4_hugeLength_2 4 rfl rfl)
theorem dJ4_hugeLength_55 : decode cJ4_hugeLength 55 = .ok (.ldc 200, 2) := dk_18 200 (dk_at dksJ4_hugeLength_2 7 rfl rfl)
theorem dJ4_hugeLength_57 : decode cJ4_hugeLength 57 = .ok (.ireturn, 1) := dk_172 (dk_at dksJ4_hugeLength_2 9 rfl rfl)
theorem dJ4_hugeLength_58 : decode cJ4_hugeLength 58 = .ok (.iload_n 2, 1) := dk_28 (dk_at dksJ4_hugeLength_2 10 rfl rfl)
theorem dJ4_hugeLength_59 : decode cJ4_hugeLength 59 = .ok (.ireturn, 1) := dk_172 (dk_at dksJ4_hugeLength_2 11 rfl rfl)
theorem q140 : (Jvm.Cond.initialized "jdk/internal/util/ArraysSupport") ∈ lw_all := lw_g (lw_at lw_m1 7 rfl) rfl
theorem q322 : (Jvm.Cond.static ({ cls := "jdk/internal/util/ArraysSupport", name := "vectorizedHashCode", desc := "(Ljava/lang/Object;IIII)I" } : Jvm.MethodName)) ∈ lw_all := lw_g (lw_at lw_m1 189 rfl) rfl
theorem q323 : (Jvm.Cond.code ({ cls := "jdk/internal/util/ArraysSupport", name := "vectorizedHashCode", desc := "(Ljava/lang/Object;IIII)I" } : Jvm.MethodName) prog_80_method_4_code (5 : Nat) (Option.some Jvm.ClassFile.FieldType.int)) ∈ lw_all := lw_g (lw_at lw_m1 190 rfl) rfl
theorem q324 : (Jvm.Cond.classLink "jdk/internal/util/ArraysSupport" (60 : Nat) "[B") ∈ lw_all := lw_g (lw_at lw_m1 191 rfl) rfl
theorem q325 : (Jvm.Cond.methodLink "jdk/internal/util/ArraysSupport" (62 : Nat) ({ cls := "jdk/internal/util/ArraysSupport", name := "signedHashCode", desc := "(I[BII)I" } : Jvm.MethodName)) ∈ lw_all := lw_g (lw_at lw_m1 192 rfl) rfl
theorem q326 : (Jvm.Cond.static ({ cls := "jdk/internal/util/ArraysSupport", name := "signedHashCode", desc := "(I[BII)I" } : Jvm.MethodName)) ∈ lw_all := lw_g (lw_at lw_m1 193 rfl) rfl
theorem q327 : (Jvm.Cond.code ({ cls := "jdk/internal/util/ArraysSupport", name := "signedHashCode", desc := "(I[BII)I" } : Jvm.MethodName) prog_80_method_5_code (6 : Nat) (Option.some Jvm.ClassFile.FieldType.int)) ∈ lw_all := lw_g (lw_at lw_m1 194 rfl) rfl
theorem q328 : (Jvm.Cond.methodLink "jdk/internal/util/ArraysSupport" (66 : Nat) ({ cls := "jdk/internal/util/ArraysSupport", name := "utf16hashCode", desc := "(I[BII)I" } : Jvm.MethodName)) ∈ lw_all := lw_g (lw_at lw_m1 195 rfl) rfl
theorem q329 : (Jvm.Cond.static ({ cls := "jdk/internal/util/ArraysSupport", name := "utf16hashCode", desc := "(I[BII)I" } : Jvm.MethodName)) ∈ lw_all := lw_g (lw_at lw_m1 196 rfl) rfl
theorem q330 : (Jvm.Cond.code ({ cls := "jdk/internal/util/ArraysSupport", name := "utf16hashCode", desc := "(I[BII)I" } : Jvm.MethodName) prog_80_method_10_code (6 : Nat) (Option.some Jvm.ClassFile.FieldType.int)) ∈ lw_all := lw_g (lw_at lw_m1 197 rfl) rfl
theorem q331 : (Jvm.Cond.fieldLink "jdk/internal/util/ArraysSupport" (106 : Nat) "jdk/internal/util/ArraysSupport" "JLA" "Ljdk/internal/access/JavaLangAccess;") ∈ lw_all := lw_g (lw_at lw_m1 198 rfl) rfl
theorem q332 : (Jvm.Cond.laysStatic "jdk/internal/util/ArraysSupport" "JLA" "Ljdk/internal/access/JavaLangAccess;") ∈ lw_tbl := lw_at lw_m1 199 rfl
theorem q333 : (Jvm.Cond.interfaceEntry "jdk/internal/util/ArraysSupport" (110 : Nat)) ∈ lw_tbl := lw_at lw_m1 200 rfl
theorem q334 : (Jvm.Cond.methodLink "jdk/internal/util/ArraysSupport" (110 : Nat) ({ cls := "jdk/internal/access/JavaLangAccess", name := "getUTF16Char", desc := "([BI)C" } : Jvm.MethodName)) ∈ lw_all := lw_g (lw_at lw_m1 201 rfl) rfl
theorem q355 : (Jvm.Cond.classLink "jdk/internal/util/ArraysSupport" (69 : Nat) "[C") ∈ lw_all := lw_g (lw_at lw_m1 222 rfl) rfl
theorem q356 : (Jvm.Cond.methodLink "jdk/internal/util/ArraysSupport" (71 : Nat) ({ cls := "jdk/internal/util/ArraysSupport", name := "hashCode", desc := "(I[CII)I" } : Jvm.MethodName)) ∈ lw_all := lw_g (lw_at lw_m1 223 rfl) rfl
theorem q357 : (Jvm.Cond.static ({ cls := "jdk/internal/util/ArraysSupport", name := "hashCode", desc := "(I[CII)I" } : Jvm.MethodName)) ∈ lw_all := lw_g (lw_at lw_m1 224 rfl) rfl
theorem q358 : (Jvm.Cond.code ({ cls := "jdk/internal/util/ArraysSupport", name := "hashCode", desc := "(I[CII)I" } : Jvm.MethodName) prog_80_method_7_code (6 : Nat) (Option.some Jvm.ClassFile.FieldType.int)) ∈ lw_all := lw_g (lw_at lw_m1 225 rfl) rfl
theorem q359 : (Jvm.Cond.methodLink "jdk/internal/util/ArraysSupport" (75 : Nat) ({ cls := "jdk/internal/util/ArraysSupport", name := "hashCode", desc := "(I[BII)I" } : Jvm.MethodName)) ∈ lw_all := lw_g (lw_at lw_m1 226 rfl) rfl
theorem q360 : (Jvm.Cond.static ({ cls := "jdk/internal/util/ArraysSupport", name := "hashCode", desc := "(I[BII)I" } : Jvm.MethodName)) ∈ lw_all := lw_g (lw_at lw_m1 227 rfl) rfl
theorem q361 : (Jvm.Cond.code ({ cls := "jdk/internal/util/ArraysSupport", name := "hashCode", desc := "(I[BII)I" } : Jvm.MethodName) prog_80_method_6_code (6 : Nat) (Option.some Jvm.ClassFile.FieldType.int)) ∈ lw_all := lw_g (lw_at lw_m1 228 rfl) rfl
theorem q362 : (Jvm.Cond.classLink "jdk/internal/util/ArraysSupport" (77 : Nat) "[S") ∈ lw_all := lw_g (lw_at lw_m1 229 rfl) rfl
theorem q363 : (Jvm.Cond.methodLink "jdk/internal/util/ArraysSupport" (79 : Nat) ({ cls := "jdk/internal/util/ArraysSupport", name := "hashCode", desc := "(I[SII)I" } : Jvm.MethodName)) ∈ lw_all := lw_g (lw_at lw_m1 230 rfl) rfl
theorem q364 : (Jvm.Cond.static ({ cls := "jdk/internal/util/ArraysSupport", name := "hashCode", desc := "(I[SII)I" } : Jvm.MethodName)) ∈ lw_all := lw_g (lw_at lw_m1 231 rfl) rfl
theorem q365 : (Jvm.Cond.code ({ cls := "jdk/internal/util/ArraysSupport", name := "hashCode", desc := "(I[SII)I" } : Jvm.MethodName) prog_80_method_8_code (6 : Nat) (Option.some Jvm.ClassFile.FieldType.int)) ∈ lw_all := lw_g (lw_at lw_m1 232 rfl) rfl
theorem q366 : (Jvm.Cond.classLink "jdk/internal/util/ArraysSupport" (82 : Nat) "[I") ∈ lw_all := lw_g (lw_at lw_m1 233 rfl) rfl
theorem q367 : (Jvm.Cond.methodLink "jdk/internal/util/ArraysSupport" (84 : Nat) ({ cls := "jdk/internal/util/ArraysSupport", name := "hashCode", desc := "(I[III)I" } : Jvm.MethodName)) ∈ lw_all := lw_g (lw_at lw_m1 234 rfl) rfl
theorem q368 : (Jvm.Cond.static ({ cls := "jdk/internal/util/ArraysSupport", name := "hashCode", desc := "(I[III)I" } : Jvm.MethodName)) ∈ lw_all := lw_g (lw_at lw_m1 235 rfl) rfl
theorem q369 : (Jvm.Cond.code ({ cls := "jdk/internal/util/ArraysSupport", name := "hashCode", desc := "(I[III)I" } : Jvm.MethodName) prog_80_method_9_code (6 : Nat) (Option.some Jvm.ClassFile.FieldType.int)) ∈ lw_all := lw_g (lw_at lw_m1 236 rfl) rfl
theorem q552 : (Jvm.Cond.static ({ cls := "jdk/internal/util/ArraysSupport", name := "mismatch", desc := "([B[BI)I" } : Jvm.MethodName)) ∈ lw_all := lw_g (lw_at lw_m2 179 rfl) rfl
theorem q553 : (Jvm.Cond.code ({ cls := "jdk/internal/util/ArraysSupport", name := "mismatch", desc := "([B[BI)I" } : Jvm.MethodName) prog_80_method_13_code (4 : Nat) (Option.some Jvm.ClassFile.FieldType.int)) ∈ lw_all := lw_g (lw_at lw_m2 180 rfl) rfl
theorem q554 : (Jvm.Cond.fieldLink "jdk/internal/util/ArraysSupport" (126 : Nat) "jdk/internal/misc/Unsafe" "ARRAY_BYTE_BASE_OFFSET" "I") ∈ lw_all := lw_g (lw_at lw_m2 181 rfl) rfl
theorem q556 : (Jvm.Cond.fieldLink "jdk/internal/util/ArraysSupport" (129 : Nat) "jdk/internal/util/ArraysSupport" "LOG2_ARRAY_BYTE_INDEX_SCALE" "I") ∈ lw_all := lw_g (lw_at lw_m2 183 rfl) rfl
theorem q557 : (Jvm.Cond.laysStatic "jdk/internal/util/ArraysSupport" "LOG2_ARRAY_BYTE_INDEX_SCALE" "I") ∈ lw_tbl := lw_at lw_m2 184 rfl
theorem q558 : (Jvm.Cond.methodLink "jdk/internal/util/ArraysSupport" (122 : Nat) ({ cls := "jdk/internal/util/ArraysSupport", name := "vectorizedMismatch", desc := "(Ljava/lang/Object;JLjava/lang/Object;JII)I" } : Jvm.MethodName)) ∈ lw_all := lw_g (lw_at lw_m2 185 rfl) rfl
theorem q559 : (Jvm.Cond.static ({ cls := "jdk/internal/util/ArraysSupport", name := "vectorizedMismatch", desc := "(Ljava/lang/Object;JLjava/lang/Object;JII)I" } : Jvm.MethodName)) ∈ lw_all := lw_g (lw_at lw_m2 186 rfl) rfl
theorem q560 : (Jvm.Cond.code ({ cls := "jdk/internal/util/ArraysSupport", name := "vectorizedMismatch", desc := "(Ljava/lang/Object;JLjava/lang/Object;JII)I" } : Jvm.MethodName) prog_80_method_3_code (19 : Nat) (Option.some Jvm.ClassFile.FieldType.int)) ∈ lw_all := lw_g (lw_at lw_m2 187 rfl) rfl
theorem q561 : (Jvm.Cond.fieldLink "jdk/internal/util/ArraysSupport" (20 : Nat) "jdk/internal/util/ArraysSupport" "LOG2_ARRAY_LONG_INDEX_SCALE" "I") ∈ lw_all := lw_g (lw_at lw_m2 188 rfl) rfl
theorem q562 : (Jvm.Cond.laysStatic "jdk/internal/util/ArraysSupport" "LOG2_ARRAY_LONG_INDEX_SCALE" "I") ∈ lw_tbl := lw_at lw_m2 189 rfl
theorem q563 : (Jvm.Cond.fieldLink "jdk/internal/util/ArraysSupport" (26 : Nat) "jdk/internal/util/ArraysSupport" "U" "Ljdk/internal/misc/Unsafe;") ∈ lw_all := lw_g (lw_at lw_m2 190 rfl) rfl
theorem q564 : (Jvm.Cond.laysStatic "jdk/internal/util/ArraysSupport" "U" "Ljdk/internal/misc/Unsafe;") ∈ lw_tbl := lw_at lw_m2 191 rfl
theorem q565 : (Jvm.Cond.methodLink "jdk/internal/util/ArraysSupport" (30 : Nat) ({ cls := "jdk/internal/misc/Unsafe", name := "getLongUnaligned", desc := "(Ljava/lang/Object;J)J" } : Jvm.MethodName)) ∈ lw_all := lw_g (lw_at lw_m2 192 rfl) rfl
theorem q617 : (Jvm.Cond.fieldLink "jdk/internal/util/ArraysSupport" (36 : Nat) "jdk/internal/util/ArraysSupport" "BIG_ENDIAN" "Z") ∈ lw_all := lw_g (lw_at lw_m3 4 rfl) rfl
theorem q618 : (Jvm.Cond.laysStatic "jdk/internal/util/ArraysSupport" "BIG_ENDIAN" "Z") ∈ lw_tbl := lw_at lw_m3 5 rfl
theorem q619 : (Jvm.Cond.methodLink "jdk/internal/util/ArraysSupport" (40 : Nat) ({ cls := "java/lang/Long", name := "numberOfLeadingZeros", desc := "(J)I" } : Jvm.MethodName)) ∈ lw_all := lw_g (lw_at lw_m3 6 rfl) rfl
theorem q626 : (Jvm.Cond.fieldLink "jdk/internal/util/ArraysSupport" (46 : Nat) "jdk/internal/util/ArraysSupport" "LOG2_BYTE_BIT_SIZE" "I") ∈ lw_all := lw_g (lw_at lw_m3 13 rfl) rfl
theorem q627 : (Jvm.Cond.laysStatic "jdk/internal/util/ArraysSupport" "LOG2_BYTE_BIT_SIZE" "I") ∈ lw_tbl := lw_at lw_m3 14 rfl
theorem q628 : (Jvm.Cond.methodLink "jdk/internal/util/ArraysSupport" (49 : Nat) ({ cls := "java/lang/Long", name := "numberOfTrailingZeros", desc := "(J)I" } : Jvm.MethodName)) ∈ lw_all := lw_g (lw_at lw_m3 15 rfl) rfl
theorem q634 : (Jvm.Cond.fieldLink "jdk/internal/util/ArraysSupport" (51 : Nat) "jdk/internal/util/ArraysSupport" "LOG2_ARRAY_INT_INDEX_SCALE" "I") ∈ lw_all := lw_g (lw_at lw_m3 21 rfl) rfl
theorem q635 : (Jvm.Cond.laysStatic "jdk/internal/util/ArraysSupport" "LOG2_ARRAY_INT_INDEX_SCALE" "I") ∈ lw_tbl := lw_at lw_m3 22 rfl
theorem q636 : (Jvm.Cond.methodLink "jdk/internal/util/ArraysSupport" (54 : Nat) ({ cls := "jdk/internal/misc/Unsafe", name := "getIntUnaligned", desc := "(Ljava/lang/Object;J)I" } : Jvm.MethodName)) ∈ lw_all := lw_g (lw_at lw_m3 23 rfl) rfl
theorem q653 : (Jvm.Cond.methodLink "jdk/internal/util/ArraysSupport" (58 : Nat) ({ cls := "java/lang/Integer", name := "numberOfLeadingZeros", desc := "(I)I" } : Jvm.MethodName)) ∈ lw_all := lw_g (lw_at lw_m3 40 rfl) rfl
theorem q654 : (Jvm.Cond.methodLink "jdk/internal/util/ArraysSupport" (11 : Nat) ({ cls := "java/lang/Integer", name := "numberOfTrailingZeros", desc := "(I)I" } : Jvm.MethodName)) ∈ lw_all := lw_g (lw_at lw_m3 41 rfl) rfl
theorem q1515 : (Jvm.Cond.static ({ cls := "jdk/internal/util/ArraysSupport", name := "newLength", desc := "(III)I" } : Jvm.MethodName)) ∈ lw_all := lw_g (lw_at lw_m6 182 rfl) rfl
theorem q1516 : (Jvm.Cond.code ({ cls := "jdk/internal/util/ArraysSupport", name := "newLength", desc := "(III)I" } : Jvm.MethodName) prog_80_method_27_code (4 : Nat) (Option.some Jvm.ClassFile.FieldType.int)) ∈ lw_all := lw_g (lw_at lw_m6 183 rfl) rfl
theorem q1517 : (Jvm.Cond.methodLink "jdk/internal/util/ArraysSupport" (194 : Nat) ({ cls := "java/lang/Math", name := "max", desc := "(II)I" } : Jvm.MethodName)) ∈ lw_all := lw_g (lw_at lw_m6 184 rfl) rfl
theorem q1520 : (Jvm.Cond.constant "jdk/internal/util/ArraysSupport" (200 : Nat) (2147483639 : Int32)) ∈ lw_all := lw_g (lw_at lw_m6 187 rfl) rfl
theorem q1521 : (Jvm.Cond.methodLink "jdk/internal/util/ArraysSupport" (201 : Nat) ({ cls := "jdk/internal/util/ArraysSupport", name := "hugeLength", desc := "(II)I" } : Jvm.MethodName)) ∈ lw_all := lw_g (lw_at lw_m6 188 rfl) rfl
theorem q1522 : (Jvm.Cond.static ({ cls := "jdk/internal/util/ArraysSupport", name := "hugeLength", desc := "(II)I" } : Jvm.MethodName)) ∈ lw_all := lw_g (lw_at lw_m6 189 rfl) rfl
theorem q1523 : (Jvm.Cond.code ({ cls := "jdk/internal/util/ArraysSupport", name := "hugeLength", desc := "(II)I" } : Jvm.MethodName) prog_80_method_28_code (3 : Nat) (Option.some Jvm.ClassFile.FieldType.int)) ∈ lw_all := lw_g (lw_at lw_m6 190 rfl) rfl
