/-! java/lang/AbstractStringBuilder -/
set_option maxRecDepth 100000
def RJ31 : String := "java/lang/AbstractStringBuilder"
abbrev cJ31_compareTo : ByteArray := prog_20_method_5_code
def yJ31_compareTo : MethodName := ⟨RJ31, "compareTo", "(Ljava/lang/AbstractStringBuilder;)I"⟩
def dkwJ31_compareTo_4 : List UInt8 := [184, 0, 97, 172]
abbrev dktJ31_compareTo_4 : List UInt8 := dkwJ31_compareTo_4 ++ []
def dkwJ31_compareTo_3 : List UInt8 := [182, 0, 83, 153, 0, 15, 44, 45, 21, 4, 21, 5, 184, 0, 94, 167, 0, 12, 44, 45, 21, 4, 21, 5]
abbrev dktJ31_compareTo_3 : List UInt8 := dkwJ31_compareTo_3 ++ dktJ31_compareTo_4
def dkwJ31_compareTo_2 : List UInt8 := [45, 21, 4, 21, 5, 184, 0, 87, 167, 0, 12, 44, 45, 21, 4, 21, 5, 184, 0, 93, 172, 42]
abbrev dktJ31_compareTo_2 : List UInt8 := dkwJ31_compareTo_2 ++ dktJ31_compareTo_3
def dkwJ31_compareTo_1 : List UInt8 := [180, 0, 79, 54, 5, 42, 180, 0, 22, 43, 180, 0, 22, 160, 0, 32, 42, 182, 0, 83, 153, 0, 15, 44]
abbrev dktJ31_compareTo_1 : List UInt8 := dkwJ31_compareTo_1 ++ dktJ31_compareTo_2
def dkwJ31_compareTo_0 : List UInt8 := [42, 43, 166, 0, 5, 3, 172, 42, 180, 0, 15, 77, 43, 180, 0, 15, 78, 42, 180, 0, 79, 54, 4, 43]
abbrev dktJ31_compareTo_0 : List UInt8 := dkwJ31_compareTo_0 ++ dktJ31_compareTo_1
theorem dksJ31_compareTo_0 : cJ31_compareTo.data.toList.drop 0 = dktJ31_compareTo_0 := by decide +kernel
theorem dksJ31_compareTo_1 : cJ31_compareTo.data.toList.drop 24 = dktJ31_compareTo_1 := dk_seg dksJ31_compareTo_0 24 rfl rfl
theorem dksJ31_compareTo_2 : cJ31_compareTo.data.toList.drop 48 = dktJ31_compareTo_2 := dk_seg dksJ31_compareTo_1 24 rfl rfl
theorem dksJ31_compareTo_3 : cJ31_compareTo.data.toList.drop 70 = dktJ31_compareTo_3 := dk_seg dksJ31_compareTo_2 22 rfl rfl
theorem dksJ31_compareTo_4 : cJ31_compareTo.data.toList.drop 94 = dktJ31_compareTo_4 := dk_seg dksJ31_compareTo_3 24 rfl rfl
theorem dJ31_compareTo_0 : decode cJ31_compareTo 0 = .ok (.aload_n 0, 1) := dk_42 (dk_at dksJ31_compareTo_0 0 rfl rfl)
theorem dJ31_compareTo_1 : decode cJ31_compareTo 1 = .ok (.aload_n 1, 1) := dk_43 (dk_at dksJ31_compareTo_0 1 rfl rfl)
theorem dJ31_compareTo_2 : decode cJ31_compareTo 2 = .ok (.if_acmp .ne 5, 3) := dk_166 0 5 (dk_at dksJ31_compareTo_0 2 rfl rfl)
theorem dJ31_compareTo_5 : decode cJ31_compareTo 5 = .ok (.iconst 0, 1) := dk_3 (dk_at dksJ31_compareTo_0 5 rfl rfl)
theorem dJ31_compareTo_6 : decode cJ31_compareTo 6 = .ok (.ireturn, 1) := dk_172 (dk_at dksJ31_compareTo_0 6 rfl rfl)
theorem dJ31_compareTo_7 : decode cJ31_compareTo 7 = .ok (.aload_n 0, 1) := dk_42 (dk_at dksJ31_compareTo_0 7 rfl rfl)
theorem dJ31_compareTo_8 : decode cJ31_compareTo 8 = .ok (.getfield 15, 3) := dk_180 0 15 (dk_at dksJ31_compareTo_0 8 rfl rfl)
theorem dJ31_compareTo_11 : decode cJ31_compareTo 11 = .ok (.astore_n 2, 1) := dk_77 (dk_at dksJ31_compareTo_0 11 rfl rfl)
theorem dJ31_compareTo_12 : decode cJ31_compareTo 12 = .ok (.aload_n 1, 1) := dk_43 (dk_at dksJ31_compareTo_0 12 rfl rfl)
theorem dJ31_compareTo_13 : decode cJ31_compareTo 13 = .ok (.getfield 15, 3) := dk_180 0 15 (dk_at dksJ31_compareTo_0 13 rfl rfl)
theorem dJ31_compareTo_16 : decode cJ31_compareTo 16 = .ok (.astore_n 3, 1) := dk_78 (dk_at dksJ31_compareTo_0 16 rfl rfl)
theorem dJ31_compareTo_17 : decode cJ31_compareTo 17 = .ok (.aload_n 0, 1) := dk_42 (dk_at dksJ31_compareTo_0 17 rfl rfl)
theorem dJ31_compareTo_18 : decode cJ31_compareTo 18 = .ok (.getfield 79, 3) := dk_180 0 79 (dk_at dksJ31_compareTo_0 18 rfl rfl)
theorem dJ31_compareTo_21 : decode cJ31_compareTo 21 = .ok (.istore 4, 2) := dk_54 4 (dk_at dksJ31_compareTo_0 21 rfl rfl)
theorem dJ31_compareTo_23 : decode cJ31_compareTo 23 = .ok (.aload_n 1, 1) := dk_43 (dk_at dksJ31_compareTo_0 23 rfl rfl)
theorem dJ31_compareTo_24 : decode cJ31_compareTo 24 = .ok (.getfield 79, 3) := dk_180 0 79 (dk_at dksJ31_compareTo_1 0 rfl rfl)
theorem dJ31_compareTo_27 : decode cJ31_compareTo 27 = .ok (.istore 5, 2) := dk_54 5 (dk_at dksJ31_compareTo_1 3 rfl rfl)
theorem dJ31_compareTo_29 : decode cJ31_compareTo 29 = .ok (.aload_n 0, 1) := dk_42 (dk_at dksJ31_compareTo_1 5 rfl rfl)
theorem dJ31_compareTo_30 : decode cJ31_compareTo 30 = .ok (.getfield 22, 3) := dk_180 0 22 (dk_at dksJ31_compareTo_1 6 rfl rfl)
theorem dJ31_compareTo_33 : decode cJ31_compareTo 33 = .ok (.aload_n 1, 1) := dk_43 (dk_at dksJ31_compareTo_1 9 rfl rfl)
theorem dJ31_compareTo_34 : decode cJ31_compareTo 34 = .ok (.getfield 22, 3) := dk_180 0 22 (dk_at dksJ31_compareTo_1 10 rfl rfl)
theorem dJ31_compareTo_37 : decode cJ31_compareTo 37 = .ok (.if_icmp .ne 32, 3) := dk_160 0 32 (dk_at dksJ31_compareTo_1 13 rfl rfl)
theorem dJ31_compareTo_40 : decode cJ31_compareTo 40 = .ok (.aload_n 0, 1) := dk_42 (dk_at dksJ31_compareTo_1 16 rfl rfl)
theorem dJ31_compareTo_41 : decode cJ31_compareTo 41 = .ok (.invokevirtual 83, 3) := dk_182 0 83 (dk_at dksJ31_compareTo_1 17 rfl rfl)
theorem dJ31_compareTo_44 : decode cJ31_compareTo 44 = .ok (.ifCond .eq 15, 3) := dk_153 0 15 (dk_at dksJ31_compareTo_1 20 rfl rfl)
theorem dJ31_compareTo_47 : decode cJ31_compareTo 47 = .ok (.aload_n 2, 1) := dk_44 (dk_at dksJ31_compareTo_1 23 rfl rfl)
theorem dJ31_compareTo_48 : decode cJ31_compareTo 48 = .ok (.aload_n 3, 1) := dk_45 (dk_at dksJ31_compareTo_2 0 rfl rfl)
theorem dJ31_compareTo_49 : decode cJ31_compareTo 49 = .ok (.iload 4, 2) := dk_21 4 (dk_at dksJ31_compareTo_2 1 rfl rfl)
theorem dJ31_compareTo_51 : decode cJ31_compareTo 51 = .ok (.iload 5, 2) := dk_21 5 (dk_at dksJ31_compareTo_2 3 rfl rfl)
theorem dJ31_compareTo_53 : decode cJ31_compareTo 53 = .ok (.invokestatic 87, 3) := dk_184 0 87 (dk_at dksJ31_compareTo_2 5 rfl rfl)
theorem dJ31_compareTo_56 : decode cJ31_compareTo 56 = .ok (.goto 12, 3) := dk_167 0 12 (dk_at dksJ31_compareTo_2 8 rfl rfl)
theorem dJ31_compareTo_59 : decode cJ31_compareTo 59 = .ok (.aload_n 2, 1) := dk_44 (dk_at dksJ31_compareTo_2 11 rfl rfl)
theorem dJ31_compareTo_60 : decode cJ31_compareTo 60 = .ok (.aload_n 3, 1) := dk_45 (dk_at dksJ31_compareTo_2 12 rfl rfl)
theorem dJ31_compareTo_61 : decode cJ31_compareTo 61 = .ok (.iload 4, 2) := dk_21 4 (dk_at dksJ31_compareTo_2 13 rfl rfl)
theorem dJ31_compareTo_63 : decode cJ31_compareTo 63 = .ok (.iload 5, 2) := dk_21 5 (dk_at dksJ31_compareTo_2 15 rfl rfl)
theorem dJ31_compareTo_65 : decode cJ31_compareTo 65 = .ok (.invokestatic 93, 3) := dk_184 0 93 (dk_at dksJ31_compareTo_2 17 rfl rfl)
theorem dJ31_compareTo_68 : decode cJ31_compareTo 68 = .ok (.ireturn, 1) := dk_172 (dk_at dksJ31_compareTo_2 20 rfl rfl)
theorem dJ31_compareTo_69 : decode cJ31_compareTo 69 = .ok (.aload_n 0, 1) := dk_42 (dk_at dksJ31_compareTo_2 21 rfl rfl)
theorem dJ31_compareTo_70 : decode cJ31_compareTo 70 = .ok (.invokevirtual 83, 3) := dk_182 0 83 (dk_at dksJ31_compareTo_3 0 rfl rfl)
theorem dJ31_compareTo_73 : decode cJ31_compareTo 73 = .ok (.ifCond .eq 15, 3) := dk_153 0 15 (dk_at dksJ31_compareTo_3 3 rfl rfl)
theorem dJ31_compareTo_76 : decode cJ31_compareTo 76 = .ok (.aload_n 2, 1) := dk_44 (dk_at dksJ31_compareTo_3 6 rfl rfl)
theorem dJ31_compareTo_77 : decode cJ31_compareTo 77 = .ok (.aload_n 3, 1) := dk_45 (dk_at dksJ31_compareTo_3 7 rfl rfl)
theorem dJ31_compareTo_78 : decode cJ31_compareTo 78 = .ok (.iload 4, 2) := dk_21 4 (dk_at dksJ31_compareTo_3 8 rfl rfl)
theorem dJ31_compareTo_80 : decode cJ31_compareTo 80 = .ok (.iload 5, 2) := dk_21 5 (dk_at dksJ31_compareTo_3 10 rfl rfl)
theorem dJ31_compareTo_82 : decode cJ31_compareTo 82 = .ok (.invokestatic 94, 3) := dk_184 0 94 (dk_at dksJ31_compareTo_3 12 rfl rfl)
theorem dJ31_compareTo_85 : decode cJ31_compareTo 85 = .ok (.goto 12, 3) := dk_167 0 12 (dk_at dksJ31_compareTo_3 15 rfl rfl)
theorem dJ31_compareTo_88 : decode cJ31_compareTo 88 = .ok (.aload_n 2, 1) := dk_44 (dk_at dksJ31_compareTo_3 18 rfl rfl)
theorem dJ31_compareTo_89 : decode cJ31_compareTo 89 = .ok (.aload_n 3, 1) := dk_45 (dk_at dksJ31_compareTo_3 19 rfl rfl)
theorem dJ31_compareTo_90 : decode cJ31_compareTo 90 = .ok (.iload 4, 2) := dk_21 4 (dk_at dksJ31_compareTo_3 20 rfl rfl)
theorem dJ31_compareTo_92 : decode cJ31_compareTo 92 = .ok (.iload 5, 2) := dk_21 5 (dk_at dksJ31_compareTo_3 22 rfl rfl)
theorem dJ31_compareTo_94 : decode cJ31_compareTo 94 = .ok (.invokestatic 97, 3) := dk_184 0 97 (dk_at dksJ31_compareTo_4 0 rfl rfl)
theorem dJ31_compareTo_97 : decode cJ31_compareTo 97 = .ok (.ireturn, 1) := dk_172 (dk_at dksJ31_compareTo_4 3 rfl rfl)
abbrev cJ31_isLatin1 : ByteArray := prog_20_method_68_code
def yJ31_isLatin1 : MethodName := ⟨RJ31, "isLatin1", "()Z"⟩
def dkwJ31_isLatin1_0 : List UInt8 := [178, 0, 18, 153, 0, 14, 42, 180, 0, 22, 154, 0, 7, 4, 167, 0, 4, 3, 172]
abbrev dktJ31_isLatin1_0 : List UInt8 := dkwJ31_isLatin1_0 ++ []
theorem dksJ31_isLatin1_0 : cJ31_isLatin1.data.toList.drop 0 = dktJ31_isLatin1_0 := by decide +kernel
theorem dJ31_isLatin1_0 : decode cJ31_isLatin1 0 = .ok (.getstatic 18, 3) := dk_178 0 18 (dk_at dksJ31_isLatin1_0 0 rfl rfl)
theorem dJ31_isLatin1_3 : decode cJ31_isLatin1 3 = .ok (.ifCond .eq 14, 3) := dk_153 0 14 (dk_at dksJ31_isLatin1_0 3 rfl rfl)
theorem dJ31_isLatin1_6 : decode cJ31_isLatin1 6 = .ok (.aload_n 0, 1) := dk_42 (dk_at dksJ31_isLatin1_0 6 rfl rfl)
theorem dJ31_isLatin1_7 : decode cJ31_isLatin1 7 = .ok (.getfield 22, 3) := dk_180 0 22 (dk_at dksJ31_isLatin1_0 7 rfl rfl)
theorem dJ31_isLatin1_10 : decode cJ31_isLatin1 10 = .ok (.ifCond .ne 7, 3) := dk_154 0 7 (dk_at dksJ31_isLatin1_0 10 rfl rfl)
theorem dJ31_isLatin1_13 : decode cJ31_isLatin1 13 = .ok (.iconst 1, 1) := dk_4 (dk_at dksJ31_isLatin1_0 13 rfl rfl)
theorem dJ31_isLatin1_14 : decode cJ31_isLatin1 14 = .ok (.goto 4, 3) := dk_167 0 4 (dk_at dksJ31_isLatin1_0 14 rfl rfl)
theorem dJ31_isLatin1_17 : decode cJ31_isLatin1 17 = .ok (.iconst 0, 1) := dk_3 (dk_at dksJ31_isLatin1_0 17 rfl rfl)
theorem dJ31_isLatin1_18 : decode cJ31_isLatin1 18 = .ok (.ireturn, 1) := dk_172 (dk_at dksJ31_isLatin1_0 18 rfl rfl)
abbrev cJ31_init : ByteArray := prog_20_method_2_code
def yJ31_init : MethodName := ⟨RJ31, "<init>", "(I)V"⟩
def dkwJ31_init_1 : List UInt8 := [167, 0, 16, 42, 27, 184, 0, 26, 181, 0, 15, 42, 4, 181, 0, 22, 177]
abbrev dktJ31_init_1 : List UInt8 := dkwJ31_init_1 ++ []
def dkwJ31_init_0 : List UInt8 := [42, 183, 0, 3, 178, 0, 18, 153, 0, 18, 42, 27, 188, 8, 181, 0, 15, 42, 3, 181, 0, 22]
abbrev dktJ31_init_0 : List UInt8 := dkwJ31_init_0 ++ dktJ31_init_1
theorem dksJ31_init_0 : cJ31_init.data.toList.drop 0 = dktJ31_init_0 := by decide +kernel
theorem dksJ31_init_1 : cJ31_init.data.toList.drop 22 = dktJ31_init_1 := dk_seg dksJ31_init_0 22 rfl rfl
theorem dJ31_init_0 : decode cJ31_init 0 = .ok (.aload_n 0, 1) := dk_42 (dk_at dksJ31_init_0 0 rfl rfl)
theorem dJ31_init_1 : decode cJ31_init 1 = .ok (.invokespecial 3, 3) := dk_183 0 3 (dk_at dksJ31_init_0 1 rfl rfl)
theorem dJ31_init_4 : decode cJ31_init 4 = .ok (.getstatic 18, 3) := dk_178 0 18 (dk_at dksJ31_init_0 4 rfl rfl)
theorem dJ31_init_7 : decode cJ31_init 7 = .ok (.ifCond .eq 18, 3) := dk_153 0 18 (dk_at dksJ31_init_0 7 rfl rfl)
theorem dJ31_init_10 : decode cJ31_init 10 = .ok (.aload_n 0, 1) := dk_42 (dk_at dksJ31_init_0 10 rfl rfl)
theorem dJ31_init_11 : decode cJ31_init 11 = .ok (.iload_n 1, 1) := dk_27 (dk_at dksJ31_init_0 11 rfl rfl)
theorem dJ31_init_12 : decode cJ31_init 12 = .ok (.newarray .byte, 2) := dk_188_8 (dk_at dksJ31_init_0 12 rfl rfl)
theorem dJ31_init_14 : decode cJ31_init 14 = .ok (.putfield 15, 3) := dk_181 0 15 (dk_at dksJ31_init_0 14 rfl rfl)
theorem dJ31_init_17 : decode cJ31_init 17 = .ok (.aload_n 0, 1) := dk_42 (dk_at dksJ31_init_0 17 rfl rfl)
theorem dJ31_init_18 : decode cJ31_init 18 = .ok (.iconst 0, 1) := dk_3 (dk_at dksJ31_init_0 18 rfl rfl)
theorem dJ31_init_19 : decode cJ31_init 19 = .ok (.putfield 22, 3) := dk_181 0 22 (dk_at dksJ31_init_0 19 rfl rfl)
theorem dJ31_init_22 : decode cJ31_init 22 = .ok (.goto 16, 3) := dk_167 0 16 (dk_at dksJ31_init_1 0 rfl rfl)
theorem dJ31_init_25 : decode cJ31_init 25 = .ok (.aload_n 0, 1) := dk_42 (dk_at dksJ31_init_1 3 rfl rfl)
theorem dJ31_init_26 : decode cJ31_init 26 = .ok (.iload_n 1, 1) := dk_27 (dk_at dksJ31_init_1 4 rfl rfl)
theorem dJ31_init_27 : decode cJ31_init 27 = .ok (.invokestatic 26, 3) := dk_184 0 26 (dk_at dksJ31_init_1 5 rfl rfl)
theorem dJ31_init_30 : decode cJ31_init 30 = .ok (.putfield 15, 3) := dk_181 0 15 (dk_at dksJ31_init_1 8 rfl rfl)
theorem dJ31_init_33 : decode cJ31_init 33 = .ok (.aload_n 0, 1) := dk_42 (dk_at dksJ31_init_1 11 rfl rfl)
theorem dJ31_init_34 : decode cJ31_init 34 = .ok (.iconst 1, 1) := dk_4 (dk_at dksJ31_init_1 12 rfl rfl)
theorem dJ31_init_35 : decode cJ31_init 35 = .ok (.putfield 22, 3) := dk_181 0 22 (dk_at dksJ31_init_1 13 rfl rfl)
theorem dJ31_init_38 : decode cJ31_init 38 = .ok (.return_, 1) := dk_177 (dk_at dksJ31_init_1 16 rfl rfl)
abbrev cJ31_append : ByteArray := prog_20_method_31_code
def yJ31_append : MethodName := ⟨RJ31, "append", "(C)Ljava/lang/AbstractStringBuilder;"⟩
def dkwJ31_append_3 : List UInt8 := [181, 0, 79, 27, 184, 0, 197, 42, 176]
abbrev dktJ31_append_3 : List UInt8 := dkwJ31_append_3 ++ []
def dkwJ31_append_2 : List UInt8 := [182, 0, 83, 153, 0, 7, 42, 182, 0, 195, 42, 180, 0, 15, 42, 89, 180, 0, 79, 90, 4, 96]
abbrev dktJ31_append_2 : List UInt8 := dkwJ31_append_2 ++ dktJ31_append_3
def dkwJ31_append_1 : List UInt8 := [42, 180, 0, 15, 42, 89, 180, 0, 79, 90, 4, 96, 181, 0, 79, 27, 145, 84, 167, 0, 33, 42]
abbrev dktJ31_append_1 : List UInt8 := dkwJ31_append_1 ++ dktJ31_append_2
def dkwJ31_append_0 : List UInt8 := [42, 42, 180, 0, 79, 4, 96, 182, 0, 100, 42, 182, 0, 83, 153, 0, 31, 27, 184, 0, 191, 153, 0, 24]
abbrev dktJ31_append_0 : List UInt8 := dkwJ31_append_0 ++ dktJ31_append_1
theorem dksJ31_append_0 : cJ31_append.data.toList.drop 0 = dktJ31_append_0 := by decide +kernel
theorem dksJ31_append_1 : cJ31_append.data.toList.drop 24 = dktJ31_append_1 := dk_seg dksJ31_append_0 24 rfl rfl
theorem dksJ31_append_2 : cJ31_append.data.toList.drop 46 = dktJ31_append_2 := dk_seg dksJ31_append_1 22 rfl rfl
theorem dksJ31_append_3 : cJ31_append.data.toList.drop 68 = dktJ31_append_3 := dk_seg dksJ31_append_2 22 rfl rfl
theorem dJ31_append_0 : decode cJ31_append 0 = .ok (.aload_n 0, 1) := dk_42 (dk_at dksJ31_append_0 0 rfl rfl)
theorem dJ31_append_1 : decode cJ31_append 1 = .ok (.aload_n 0, 1) := dk_42 (dk_at dksJ31_append_0 1 rfl rfl)
theorem dJ31_append_2 : decode cJ31_append 2 = .ok (.getfield 79, 3) := dk_180 0 79 (dk_at dksJ31_append_0 2 rfl rfl)
theorem dJ31_append_5 : decode cJ31_append 5 = .ok (.iconst 1, 1) := dk_4 (dk_at dksJ31_append_0 5 rfl rfl)
theorem dJ31_append_6 : decode cJ31_append 6 = .ok (.iadd, 1) := dk_96 (dk_at dksJ31_append_0 6 rfl rfl)
theorem dJ31_append_7 : decode cJ31_append 7 = .ok (.invokevirtual 100, 3) := dk_182 0 100 (dk_at dksJ31_append_0 7 rfl rfl)
theorem dJ31_append_10 : decode cJ31_append 10 = .ok (.aload_n 0, 1) := dk_42 (dk_at dksJ31_append_0 10 rfl rfl)
theorem dJ31_append_11 : decode cJ31_append 11 = .ok (.invokevirtual 83, 3) := dk_182 0 83 (dk_at dksJ31_append_0 11 rfl rfl)
theorem dJ31_append_14 : decode cJ31_append 14 = .ok (.ifCond .eq 31, 3) := dk_153 0 31 (dk_at dksJ31_append_0 14 rfl rfl)
theorem dJ31_append_17 : decode cJ31_append 17 = .ok (.iload_n 1, 1) := dk_27 (dk_at dksJ31_append_0 17 rfl rfl)
theorem dJ31_append_18 : decode cJ31_append 18 = .ok (.invokestatic 191, 3) := dk_184 0 191 (dk_at dksJ31_append_0 18 rfl rfl)
theorem dJ31_append_21 : decode cJ31_append 21 = .ok (.ifCond .eq 24, 3) := dk_153 0 24 (dk_at dksJ31_append_0 21 rfl rfl)
theorem dJ31_append_24 : decode cJ31_append 24 = .ok (.aload_n 0, 1) := dk_42 (dk_at dksJ31_append_1 0 rfl rfl)
theorem dJ31_append_25 : decode cJ31_append 25 = .ok (.getfield 15, 3) := dk_180 0 15 (dk_at dksJ31_append_1 1 rfl rfl)
theorem dJ31_append_28 : decode cJ31_append 28 = .ok (.aload_n 0, 1) := dk_42 (dk_at dksJ31_append_1 4 rfl rfl)
theorem dJ31_append_29 : decode cJ31_append 29 = .ok (.dup, 1) := dk_89 (dk_at dksJ31_append_1 5 rfl rfl)
theorem dJ31_append_30 : decode cJ31_append 30 = .ok (.getfield 79, 3) := dk_180 0 79 (dk_at dksJ31_append_1 6 rfl rfl)
theorem dJ31_append_33 : decode cJ31_append 33 = .ok (.dup_x1, 1) := dk_90 (dk_at dksJ31_append_1 9 rfl rfl)
theorem dJ31_append_34 : decode cJ31_append 34 = .ok (.iconst 1, 1) := dk_4 (dk_at dksJ31_append_1 10 rfl rfl)
theorem dJ31_append_35 : decode cJ31_append 35 = .ok (.iadd, 1) := dk_96 (dk_at dksJ31_append_1 11 rfl rfl)
theorem dJ31_append_36 : decode cJ31_append 36 = .ok (.putfield 79, 3) := dk_181 0 79 (dk_at dksJ31_append_1 12 rfl rfl)
theorem dJ31_append_39 : decode cJ31_append 39 = .ok (.iload_n 1, 1) := dk_27 (dk_at dksJ31_append_1 15 rfl rfl)
theorem dJ31_append_40 : decode cJ31_append 40 = .ok (.i2b, 1) := dk_145 (dk_at dksJ31_append_1 16 rfl rfl)
theorem dJ31_append_41 : decode cJ31_append 41 = .ok (.bastore, 1) := dk_84 (dk_at dksJ31_append_1 17 rfl rfl)
theorem dJ31_append_42 : decode cJ31_append 42 = .ok (.goto 33, 3) := dk_167 0 33 (dk_at dksJ31_append_1 18 rfl rfl)
theorem dJ31_append_45 : decode cJ31_append 45 = .ok (.aload_n 0, 1) := dk_42 (dk_at dksJ31_append_1 21 rfl rfl)
theorem dJ31_append_46 : decode cJ31_append 46 = .ok (.invokevirtual 83, 3) := dk_182 0 83 (dk_at dksJ31_append_2 0 rfl rfl)
theorem dJ31_append_49 : decode cJ31_append 49 = .ok (.ifCond .eq 7, 3) := dk_153 0 7 (dk_at dksJ31_append_2 3 rfl rfl)
theorem dJ31_append_52 : decode cJ31_append 52 = .ok (.aload_n 0, 1) := dk_42 (dk_at dksJ31_append_2 6 rfl rfl)
theorem dJ31_append_53 : decode cJ31_append 53 = .ok (.invokevirtual 195, 3) := dk_182 0 195 (dk_at dksJ31_append_2 7 rfl rfl)
theorem dJ31_append_56 : decode cJ31_append 56 = .ok (.aload_n 0, 1) := dk_42 (dk_at dksJ31_append_2 10 rfl rfl)
theorem dJ31_append_57 : decode cJ31_append 57 = .ok (.getfield 15, 3) := dk_180 0 15 (dk_at dksJ31_append_2 11 rfl rfl)
theorem dJ31_append_60 : decode cJ31_append 60 = .ok (.aload_n 0, 1) := dk_42 (dk_at dksJ31_append_2 14 rfl rfl)
theorem dJ31_append_61 : decode cJ31_append 61 = .ok (.dup, 1) := dk_89 (dk_at dksJ31_append_2 15 rfl rfl)
theorem dJ31_append_62 : decode cJ31_append 62 = .ok (.getfield 79, 3) := dk_180 0 79 (dk_at dksJ31_append_2 16 rfl rfl)
theorem dJ31_append_65 : decode cJ31_append 65 = .ok (.dup_x1, 1) := dk_90 (dk_at dksJ31_append_2 19 rfl rfl)
theorem dJ31_append_66 : decode cJ31_append 66 = .ok (.iconst 1, 1) := dk_4 (dk_at dksJ31_append_2 20 rfl rfl)
theorem dJ31_append_67 : decode cJ31_append 67 = .ok (.iadd, 1) := dk_96 (dk_at dksJ31_append_2 21 rfl rfl)
theorem dJ31_append_68 : decode cJ31_append 68 = .ok (.putfield 79, 3) := dk_181 0 79 (dk_at dksJ31_append_3 0 rfl rfl)
theorem dJ31_append_71 : decode cJ31_append 71 = .ok (.iload_n 1, 1) := dk_27 (dk_at dksJ31_append_3 3 rfl rfl)
theorem dJ31_append_72 : decode cJ31_append 72 = .ok (.invokestatic 197, 3) := dk_184 0 197 (dk_at dksJ31_append_3 4 rfl rfl)
theorem dJ31_append_75 : decode cJ31_append 75 = .ok (.aload_n 0, 1) := dk_42 (dk_at dksJ31_append_3 7 rfl rfl)
theorem dJ31_append_76 : decode cJ31_append 76 = .ok (.areturn, 1) := dk_176 (dk_at dksJ31_append_3 8 rfl rfl)
abbrev cJ31_ensureCapacityInternal : ByteArray := prog_20_method_9_code
def yJ31_ensureCapacityInternal : MethodName := ⟨RJ31, "ensureCapacityInternal", "(I)V"⟩
def dkwJ31_ensureCapacityInternal_1 : List UInt8 := [182, 0, 104, 42, 180, 0, 22, 120, 184, 0, 108, 181, 0, 15, 177]
abbrev dktJ31_ensureCapacityInternal_1 : List UInt8 := dkwJ31_ensureCapacityInternal_1 ++ []
def dkwJ31_ensureCapacityInternal_0 : List UInt8 := [42, 180, 0, 15, 190, 42, 180, 0, 22, 122, 61, 27, 28, 100, 158, 0, 24, 42, 42, 180, 0, 15, 42, 27]
abbrev dktJ31_ensureCapacityInternal_0 : List UInt8 := dkwJ31_ensureCapacityInternal_0 ++ dktJ31_ensureCapacityInternal_1
theorem dksJ31_ensureCapacityInternal_0 : cJ31_ensureCapacityInternal.data.toList.drop 0 = dktJ31_ensureCapacityInternal_0 := by decide +kernel
theorem dksJ31_ensureCapacityInternal_1 : cJ31_ensureCapacityInternal.data.toList.drop 24 = dktJ31_ensureCapacityInternal_1 := dk_seg dksJ31_ensureCapacityInternal_0 24 rfl rfl
theorem dJ31_ensureCapacityInternal_0 : decode cJ31_ensureCapacityInternal 0 = .ok (.aload_n 0, 1) := dk_42 (dk_at dksJ31_ensureCapacityInternal_0 0 rfl rfl)
theorem dJ31_ensureCapacityInternal_1 : decode cJ31_ensureCapacityInternal 1 = .ok (.getfield 15, 3) := dk_180 0 15 (dk_at dksJ31_ensureCapacityInternal_0 1 rfl rfl)
theorem dJ31_ensureCapacityInternal_4 : decode cJ31_ensureCapacityInternal 4 = .ok (.arraylength, 1) := dk_190 (dk_at dksJ31_ensureCapacityInternal_0 4 rfl rfl)
theorem dJ31_ensureCapacityInternal_5 : decode cJ31_ensureCapacityInternal 5 = .ok (.aload_n 0, 1) := dk_42 (dk_at dksJ31_ensureCapacityInternal_0 5 rfl rfl)
theorem dJ31_ensureCapacityInternal_6 : decode cJ31_ensureCapacityInternal 6 = .ok (.getfield 22, 3) := dk_180 0 22 (dk_at dksJ31_ensureCapacityInternal_0 6 rfl rfl)
theorem dJ31_ensureCapacityInternal_9 : decode cJ31_ensureCapacityInternal 9 = .ok (.ishr, 1) := dk_122 (dk_at dksJ31_ensureCapacityInternal_0 9 rfl rfl)
theorem dJ31_ensureCapacityInternal_10 : decode cJ31_ensureCapacityInternal 10 = .ok (.istore_n 2, 1) := dk_61 (dk_at dksJ31_ensureCapacityInternal_0 10 rfl rfl)
theorem dJ31_ensureCapacityInternal_11 : decode cJ31_ensureCapacityInternal 11 = .ok (.iload_n 1, 1) := dk_27 (dk_at dksJ31_ensureCapacityInternal_0 11 rfl rfl)
theorem dJ31_ensureCapacityInternal_12 : decode cJ31_ensureCapacityInternal 12 = .ok (.iload_n 2, 1) := dk_28 (dk_at dksJ31_ensureCapacityInternal_0 12 rfl rfl)
theorem dJ31_ensureCapacityInternal_13 : decode cJ31_ensureCapacityInternal 13 = .ok (.isub, 1) := dk_100 (dk_at dksJ31_ensureCapacityInternal_0 13 rfl rfl)
theorem dJ31_ensureCapacityInternal_14 : decode cJ31_ensureCapacityInternal 14 = .ok (.ifCond .le 24, 3) := dk_158 0 24 (dk_at dksJ31_ensureCapacityInternal_0 14 rfl rfl)
theorem dJ31_ensureCapacityInternal_17 : decode cJ31_ensureCapacityInternal 17 = .ok (.aload_n 0, 1) := dk_42 (dk_at dksJ31_ensureCapacityInternal_0 17 rfl rfl)
theorem dJ31_ensureCapacityInternal_18 : decode cJ31_ensureCapacityInternal 18 = .ok (.aload_n 0, 1) := dk_42 (dk_at dksJ31_ensureCapacityInternal_0 18 rfl rfl)
theorem dJ31_ensureCapacityInternal_19 : decode cJ31_ensureCapacityInternal 19 = .ok (.getfield 15, 3) := dk_180 0 15 (dk_at dksJ31_ensureCapacityInternal_0 19 rfl rfl)
theorem dJ31_ensureCapacityInternal_22 : decode cJ31_ensureCapacityInternal 22 = .ok (.aload_n 0, 1) := dk_42 (dk_at dksJ31_ensureCapacityInternal_0 22 rfl rfl)
theorem dJ31_ensureCapacityInternal_23 : decode cJ31_ensureCapacityInternal 23 = .ok (.iload_n 1, 1) := dk_27 (dk_at dksJ31_ensureCapacityInternal_0 23 rfl rfl)
theorem dJ31_ensureCapacityInternal_24 : decode cJ31_ensureCapacityInternal 24 = .ok (.invokevirtual 104, 3) := dk_182 0 104 (dk_at dksJ31_ensureCapacityInternal_1 0 rfl rfl)
theorem dJ31_ensureCapacityInternal_27 : decode cJ31_ensureCapacityInternal 27 = .ok (.aload_n 0, 1) := dk_42 (dk_at dksJ31_ensureCapacityInternal_1 3 rfl rfl)
theorem dJ31_ensureCapacityInternal_28 : decode cJ31_ensureCapacityInternal 28 = .ok (.getfield 22, 3) := dk_180 0 22 (dk_at dksJ31_ensureCapacityInternal_1 4 rfl rfl)
theorem dJ31_ensureCapacityInternal_31 : decode cJ31_ensureCapacityInternal 31 = .ok (.ishl, 1) := dk_120 (dk_at dksJ31_ensureCapacityInternal_1 7 rfl rfl)
theorem dJ31_ensureCapacityInternal_32 : decode cJ31_ensureCapacityInternal 32 = .ok (.invokestatic 108, 3) := dk_184 0 108 (dk_at dksJ31_ensureCapacityInternal_1 8 rfl rfl)
theorem dJ31_ensureCapacityInternal_35 : decode cJ31_ensureCapacityInternal 35 = .ok (.putfield 15, 3) := dk_181 0 15 (dk_at dksJ31_ensureCapacityInternal_1 11 rfl rfl)
theorem dJ31_ensureCapacityInternal_38 : decode cJ31_ensureCapacityInternal 38 = .ok (.return_, 1) := dk_177 (dk_at dksJ31_ensureCapacityInternal_1 14 rfl rfl)
abbrev cJ31_newCapacity : ByteArray := prog_20_method_10_code
def yJ31_newCapacity : MethodName := ⟨RJ31, "newCapacity", "(I)I"⟩
def dkwJ31_newCapacity_2 : List UInt8 := [183, 0, 124, 191, 21, 5, 42, 180, 0, 22, 122, 172]
abbrev dktJ31_newCapacity_2 : List UInt8 := dkwJ31_newCapacity_2 ++ []
def dkwJ31_newCapacity_1 : List UInt8 := [180, 0, 22, 120, 96, 184, 0, 114, 54, 5, 21, 5, 18, 39, 160, 0, 13, 187, 0, 120, 89, 18, 122]
abbrev dktJ31_newCapacity_1 : List UInt8 := dkwJ31_newCapacity_1 ++ dktJ31_newCapacity_2
def dkwJ31_newCapacity_0 : List UInt8 := [42, 180, 0, 15, 190, 61, 27, 42, 180, 0, 22, 120, 62, 29, 28, 100, 54, 4, 28, 21, 4, 28, 5, 42]
abbrev dktJ31_newCapacity_0 : List UInt8 := dkwJ31_newCapacity_0 ++ dktJ31_newCapacity_1
theorem dksJ31_newCapacity_0 : cJ31_newCapacity.data.toList.drop 0 = dktJ31_newCapacity_0 := by decide +kernel
theorem dksJ31_newCapacity_1 : cJ31_newCapacity.data.toList.drop 24 = dktJ31_newCapacity_1 := dk_seg dksJ31_newCapacity_0 24 rfl rfl
theorem dksJ31_newCapacity_2 : cJ31_newCapacity.data.toList.drop 47 = dktJ31_newCapacity_2 := dk_seg dksJ31_newCapacity_1 23 rfl rfl
theorem dJ31_newCapacity_0 : decode cJ31_newCapacity 0 = .ok (.aload_n 0, 1) := dk_42 (dk_at dksJ31_newCapacity_0 0 rfl rfl)
theorem dJ31_newCapacity_1 : decode cJ31_newCapacity 1 = .ok (.getfield 15, 3) := dk_180 0 15 (dk_at dksJ31_newCapacity_0 1 rfl rfl)
theorem dJ31_newCapacity_4 : decode cJ31_newCapacity 4 = .ok (.arraylength, 1) := dk_190 (dk_at dksJ31_newCapacity_0 4 rfl rfl)
theorem dJ31_newCapacity_5 : decode cJ31_newCapacity 5 = .ok (.istore_n 2, 1) := dk_61 (dk_at dksJ31_newCapacity_0 5 rfl rfl)
theorem dJ31_newCapacity_6 : decode cJ31_newCapacity 6 = .ok (.iload_n 1, 1) := dk_27 (dk_at dksJ31_newCapacity_0 6 rfl rfl)
theorem dJ31_newCapacity_7 : decode cJ31_newCapacity 7 = .ok (.aload_n 0, 1) := dk_42 (dk_at dksJ31_newCapacity_0 7 rfl rfl)
theorem dJ31_newCapacity_8 : decode cJ31_newCapacity 8 = .ok (.getfield 22, 3) := dk_180 0 22 (dk_at dksJ31_newCapacity_0 8 rfl rfl)
theorem dJ31_newCapacity_11 : decode cJ31_newCapacity 11 = .ok (.ishl, 1) := dk_120 (dk_at dksJ31_newCapacity_0 11 rfl rfl)
theorem dJ31_newCapacity_12 : decode cJ31_newCapacity 12 = .ok (.istore_n 3, 1) := dk_62 (dk_at dksJ31_newCapacity_0 12 rfl rfl)
theorem dJ31_newCapacity_13 : decode cJ31_newCapacity 13 = .ok (.iload_n 3, 1) := dk_29 (dk_at dksJ31_newCapacity_0 13 rfl rfl)
theorem dJ31_newCapacity_14 : decode cJ31_newCapacity 14 = .ok (.iload_n 2, 1) := dk_28 (dk_at dksJ31_newCapacity_0 14 rfl rfl)
theorem dJ31_newCapacity_15 : decode cJ31_newCapacity 15 = .ok (.isub, 1) := dk_100 (dk_at dksJ31_newCapacity_0 15 rfl rfl)
theorem dJ31_newCapacity_16 : decode cJ31_newCapacity 16 = .ok (.istore 4, 2) := dk_54 4 (dk_at dksJ31_newCapacity_0 16 rfl rfl)
theorem dJ31_newCapacity_18 : decode cJ31_newCapacity 18 = .ok (.iload_n 2, 1) := dk_28 (dk_at dksJ31_newCapacity_0 18 rfl rfl)
theorem dJ31_newCapacity_19 : decode cJ31_newCapacity 19 = .ok (.iload 4, 2) := dk_21 4 (dk_at dksJ31_newCapacity_0 19 rfl rfl)
theorem dJ31_newCapacity_21 : decode cJ31_newCapacity 21 = .ok (.iload_n 2, 1) := dk_28 (dk_at dksJ31_newCapacity_0 21 rfl rfl)
theorem dJ31_newCapacity_22 : decode cJ31_newCapacity 22 = .ok (.iconst 2, 1) := dk_5 (dk_at dksJ31_newCapacity_0 22 rfl rfl)
theorem dJ31_newCapacity_23 : decode cJ31_newCapacity 23 = .ok (.aload_n 0, 1) := dk_42 (dk_at dksJ31_newCapacity_0 23 rfl rfl)
theorem dJ31_newCapacity_24 : decode cJ31_newCapacity 24 = .ok (.getfield 22, 3) := dk_180 0 22 (dk_at dksJ31_newCapacity_1 0 rfl rfl)
theorem dJ31_newCapacity_27 : decode cJ31_newCapacity 27 = .ok (.ishl, 1) := dk_120 (dk_at dksJ31_newCapacity_1 3 rfl rfl)
theorem dJ31_newCapacity_28 : decode cJ31_newCapacity 28 = .ok (.iadd, 1) := dk_96 (dk_at dksJ31_newCapacity_1 4 rfl rfl)
theorem dJ31_newCapacity_29 : decode cJ31_newCapacity 29 = .ok (.invokestatic 114, 3) := dk_184 0 114 (dk_at dksJ31_newCapacity_1 5 rfl rfl)
theorem dJ31_newCapacity_32 : decode cJ31_newCapacity 32 = .ok (.istore 5, 2) := dk_54 5 (dk_at dksJ31_newCapacity_1 8 rfl rfl)
theorem dJ31_newCapacity_34 : decode cJ31_newCapacity 34 = .ok (.iload 5, 2) := dk_21 5 (dk_at dksJ31_newCapacity_1 10 rfl rfl)
theorem dJ31_newCapacity_36 : decode cJ31_newCapacity 36 = .ok (.ldc 39, 2) := dk_18 39 (dk_at dksJ31_newCapacity_1 12 rfl rfl)
theorem dJ31_newCapacity_38 : decode cJ31_newCapacity 38 = .ok (.if_icmp .ne 13, 3) := dk_160 0 13 (dk_at dksJ31_newCapacity_1 14 rfl rfl)
theorem dJ31_newCapacity_41 : decode cJ31_newCapacity 41 = .ok (.new 120, 3) := dk_187 0 120 (dk_at dksJ31_newCapacity_1 17 rfl rfl)
theorem dJ31_newCapacity_44 : decode cJ31_newCapacity 44 = .ok (.dup, 1) := dk_89 (dk_at dksJ31_newCapacity_1 20 rfl rfl)
theorem dJ31_newCapacity_45 : decode cJ31_newCapacity 45 = .ok (.ldc 122, 2) := dk_18 122 (dk_at dksJ31_newCapacity_1 21 rfl rfl)
theorem dJ31_newCapacity_47 : decode cJ31_newCapacity 47 = .ok (.invokespecial 124, 3) := dk_183 0 124 (dk_at dksJ31_newCapacity_2 0 rfl rfl)
theorem dJ31_newCapacity_50 : decode cJ31_newCapacity 50 = .ok (.athrow, 1) := dk_191 (dk_at dksJ31_newCapacity_2 3 rfl rfl)
theorem dJ31_newCapacity_51 : decode cJ31_newCapacity 51 = .ok (.iload 5, 2) := dk_21 5 (dk_at dksJ31_newCapacity_2 4 rfl rfl)
theorem dJ31_newCapacity_53 : decode cJ31_newCapacity 53 = .ok (.aload_n 0, 1) := dk_42 (dk_at dksJ31_newCapacity_2 6 rfl rfl)
theorem dJ31_newCapacity_54 : decode cJ31_newCapacity 54 = .ok (.getfield 22, 3) := dk_180 0 22 (dk_at dksJ31_newCapacity_2 7 rfl rfl)
theorem dJ31_newCapacity_57 : decode cJ31_newCapacity 57 = .ok (.ishr, 1) := dk_122 (dk_at dksJ31_newCapacity_2 10 rfl rfl)
theorem dJ31_newCapacity_58 : decode cJ31_newCapacity 58 = .ok (.ireturn, 1) := dk_172 (dk_at dksJ31_newCapacity_2 11 rfl rfl)
abbrev cJ31_inflate : ByteArray := prog_20_method_11_code
def yJ31_inflate : MethodName := ⟨RJ31, "inflate", "()V"⟩
def dkwJ31_inflate_1 : List UInt8 := [42, 180, 0, 79, 184, 0, 125, 42, 43, 181, 0, 15, 42, 4, 181, 0, 22, 177]
abbrev dktJ31_inflate_1 : List UInt8 := dkwJ31_inflate_1 ++ []
def dkwJ31_inflate_0 : List UInt8 := [42, 182, 0, 83, 154, 0, 4, 177, 42, 180, 0, 15, 190, 184, 0, 26, 76, 42, 180, 0, 15, 3, 43, 3]
abbrev dktJ31_inflate_0 : List UInt8 := dkwJ31_inflate_0 ++ dktJ31_inflate_1
theorem dksJ31_inflate_0 : cJ31_inflate.data.toList.drop 0 = dktJ31_inflate_0 := by decide +kernel
theorem dksJ31_inflate_1 : cJ31_inflate.data.toList.drop 24 = dktJ31_inflate_1 := dk_seg dksJ31_inflate_0 24 rfl rfl
theorem dJ31_inflate_0 : decode cJ31_inflate 0 = .ok (.aload_n 0, 1) := dk_42 (dk_at dksJ31_inflate_0 0 rfl rfl)
theorem dJ31_inflate_1 : decode cJ31_inflate 1 = .ok (.invokevirtual 83, 3) := dk_182 0 83 (dk_at dksJ31_inflate_0 1 rfl rfl)
theorem dJ31_inflate_4 : decode cJ31_inflate 4 = .ok (.ifCond .ne 4, 3) := dk_154 0 4 (dk_at dksJ31_inflate_0 4 rfl rfl)
theorem dJ31_inflate_7 : decode cJ31_inflate 7 = .ok (.return_, 1) := dk_177 (dk_at dksJ31_inflate_0 7 rfl rfl)
theorem dJ31_inflate_8 : decode cJ31_inflate 8 = .ok (.aload_n 0, 1) := dk_42 (dk_at dksJ31_inflate_0 8 rfl rfl)
theorem dJ31_inflate_9 : decode cJ31_inflate 9 = .ok (.getfield 15, 3) := dk_180 0 15 (dk_at dksJ31_inflate_0 9 rfl rfl)
theorem dJ31_inflate_12 : decode cJ31_inflate 12 = .ok (.arraylength, 1) := dk_190 (dk_at dksJ31_inflate_0 12 rfl rfl)
theorem dJ31_inflate_13 : decode cJ31_inflate 13 = .ok (.invokestatic 26, 3) := dk_184 0 26 (dk_at dksJ31_inflate_0 13 rfl rfl)
theorem dJ31_inflate_16 : decode cJ31_inflate 16 = .ok (.astore_n 1, 1) := dk_76 (dk_at dksJ31_inflate_0 16 rfl rfl)
theorem dJ31_inflate_17 : decode cJ31_inflate 17 = .ok (.aload_n 0, 1) := dk_42 (dk_at dksJ31_inflate_0 17 rfl rfl)
theorem dJ31_inflate_18 : decode cJ31_inflate 18 = .ok (.getfield 15, 3) := dk_180 0 15 (dk_at dksJ31_inflate_0 18 rfl rfl)
theorem dJ31_inflate_21 : decode cJ31_inflate 21 = .ok (.iconst 0, 1) := dk_3 (dk_at dksJ31_inflate_0 21 rfl rfl)
theorem dJ31_inflate_22 : decode cJ31_inflate 22 = .ok (.aload_n 1, 1) := dk_43 (dk_at dksJ31_inflate_0 22 rfl rfl)
theorem dJ31_inflate_23 : decode cJ31_inflate 23 = .ok (.iconst 0, 1) := dk_3 (dk_at dksJ31_inflate_0 23 rfl rfl)
theorem dJ31_inflate_24 : decode cJ31_inflate 24 = .ok (.aload_n 0, 1) := dk_42 (dk_at dksJ31_inflate_1 0 rfl rfl)
theorem dJ31_inflate_25 : decode cJ31_inflate 25 = .ok (.getfield 79, 3) := dk_180 0 79 (dk_at dksJ31_inflate_1 1 rfl rfl)
theorem dJ31_inflate_28 : decode cJ31_inflate 28 = .ok (.invokestatic 125, 3) := dk_184 0 125 (dk_at dksJ31_inflate_1 4 rfl rfl)
theorem dJ31_inflate_31 : decode cJ31_inflate 31 = .ok (.aload_n 0, 1) := dk_42 (dk_at dksJ31_inflate_1 7 rfl rfl)
theorem dJ31_inflate_32 : decode cJ31_inflate 32 = .ok (.aload_n 1, 1) := dk_43 (dk_at dksJ31_inflate_1 8 rfl rfl)
theorem dJ31_inflate_33 : decode cJ31_inflate 33 = .ok (.putfield 15, 3) := dk_181 0 15 (dk_at dksJ31_inflate_1 9 rfl rfl)
theorem dJ31_inflate_36 : decode cJ31_inflate 36 = .ok (.aload_n 0, 1) := dk_42 (dk_at dksJ31_inflate_1 12 rfl rfl)
theorem dJ31_inflate_37 : decode cJ31_inflate 37 = .ok (.iconst 1, 1) := dk_4 (dk_at dksJ31_inflate_1 13 rfl rfl)
theorem dJ31_inflate_38 : decode cJ31_inflate 38 = .ok (.putfield 22, 3) := dk_181 0 22 (dk_at dksJ31_inflate_1 14 rfl rfl)
theorem dJ31_inflate_41 : decode cJ31_inflate 41 = .ok (.return_, 1) := dk_177 (dk_at dksJ31_inflate_1 17 rfl rfl)
abbrev cJ31_getValue : ByteArray := prog_20_method_64_code
def yJ31_getValue : MethodName := ⟨RJ31, "getValue", "()[B"⟩
theorem dJ31_getValue_0 : decode cJ31_getValue 0 = .ok (.aload_n 0, 1) := by decide +kernel
theorem dJ31_getValue_1 : decode cJ31_getValue 1 = .ok (.getfield 15, 3) := by decide +kernel
theorem dJ31_getValue_4 : decode cJ31_getValue 4 = .ok (.areturn, 1) := by decide +kernel
abbrev cJ31_length : ByteArray := prog_20_method_6_code
def yJ31_length : MethodName := ⟨RJ31, "length", "()I"⟩
theorem dJ31_length_0 : decode cJ31_length 0 = .ok (.aload_n 0, 1) := by decide +kernel
theorem dJ31_length_1 : decode cJ31_length 1 = .ok (.getfield 79, 3) := by decide +kernel
theorem dJ31_length_4 : decode cJ31_length 4 = .ok (.ireturn, 1) := by decide +kernel
theorem q174 : (Jvm.Cond.initialized "java/lang/AbstractStringBuilder") ∈ lw_all := lw_g (lw_at lw_m1 41 rfl) rfl
theorem q693 : (Jvm.Cond.instanceMethod ({ cls := "java/lang/AbstractStringBuilder", name := "compareTo", desc := "(Ljava/lang/AbstractStringBuilder;)I" } : Jvm.MethodName)) ∈ lw_all := lw_g (lw_at lw_m3 80 rfl) rfl
theorem q694 : (Jvm.Cond.code ({ cls := "java/lang/AbstractStringBuilder", name := "compareTo", desc := "(Ljava/lang/AbstractStringBuilder;)I" } : Jvm.MethodName) prog_20_method_5_code (6 : Nat) (Option.some Jvm.ClassFile.FieldType.int)) ∈ lw_all := lw_g (lw_at lw_m3 81 rfl) rfl
theorem q695 : (Jvm.Cond.methodLink "java/lang/AbstractStringBuilder" (83 : Nat) ({ cls := "java/lang/AbstractStringBuilder", name := "isLatin1", desc := "()Z" } : Jvm.MethodName)) ∈ lw_all := lw_g (lw_at lw_m3 82 rfl) rfl
theorem q696 : (Jvm.Cond.instanceMethod ({ cls := "java/lang/AbstractStringBuilder", name := "isLatin1", desc := "()Z" } : Jvm.MethodName)) ∈ lw_all := lw_g (lw_at lw_m3 83 rfl) rfl
theorem q697 : (Jvm.Cond.sameMethod "java/lang/AbstractStringBuilder" "java/lang/AbstractStringBuilder" "isLatin1" "()Z") ∈ lw_all := lw_g (lw_at lw_m3 84 rfl) rfl
theorem q699 : (Jvm.Cond.code ({ cls := "java/lang/AbstractStringBuilder", name := "isLatin1", desc := "()Z" } : Jvm.MethodName) prog_20_method_68_code (1 : Nat) (Option.some Jvm.ClassFile.FieldType.boolean)) ∈ lw_all := lw_g (lw_at lw_m3 86 rfl) rfl
theorem q700 : (Jvm.Cond.fieldLink "java/lang/AbstractStringBuilder" (18 : Nat) "java/lang/String" "COMPACT_STRINGS" "Z") ∈ lw_all := lw_g (lw_at lw_m3 87 rfl) rfl
theorem q701 : (Jvm.Cond.methodLink "java/lang/AbstractStringBuilder" (87 : Nat) ({ cls := "java/lang/StringLatin1", name := "compareTo", desc := "([B[BII)I" } : Jvm.MethodName)) ∈ lw_all := lw_g (lw_at lw_m3 88 rfl) rfl
theorem q702 : (Jvm.Cond.methodLink "java/lang/AbstractStringBuilder" (93 : Nat) ({ cls := "java/lang/StringUTF16", name := "compareTo", desc := "([B[BII)I" } : Jvm.MethodName)) ∈ lw_all := lw_g (lw_at lw_m3 89 rfl) rfl
theorem q716 : (Jvm.Cond.methodLink "java/lang/AbstractStringBuilder" (94 : Nat) ({ cls := "java/lang/StringLatin1", name := "compareToUTF16", desc := "([B[BII)I" } : Jvm.MethodName)) ∈ lw_all := lw_g (lw_at lw_m3 103 rfl) rfl
theorem q720 : (Jvm.Cond.methodLink "java/lang/AbstractStringBuilder" (97 : Nat) ({ cls := "java/lang/StringUTF16", name := "compareToLatin1", desc := "([B[BII)I" } : Jvm.MethodName)) ∈ lw_all := lw_g (lw_at lw_m3 107 rfl) rfl
theorem q1472 : (Jvm.Cond.instanceMethod ({ cls := "java/lang/AbstractStringBuilder", name := "<init>", desc := "(I)V" } : Jvm.MethodName)) ∈ lw_all := lw_g (lw_at lw_m6 139 rfl) rfl
theorem q1473 : (Jvm.Cond.code ({ cls := "java/lang/AbstractStringBuilder", name := "<init>", desc := "(I)V" } : Jvm.MethodName) prog_20_method_2_code (2 : Nat) (Option.none : Option Jvm.ClassFile.FieldType)) ∈ lw_all := lw_g (lw_at lw_m6 140 rfl) rfl
theorem q1474 : (Jvm.Cond.methodLink "java/lang/AbstractStringBuilder" (3 : Nat) ({ cls := "java/lang/Object", name := "<init>", desc := "()V" } : Jvm.MethodName)) ∈ lw_all := lw_g (lw_at lw_m6 141 rfl) rfl
theorem q1475 : (Jvm.Cond.methodLink "java/lang/AbstractStringBuilder" (26 : Nat) ({ cls := "java/lang/StringUTF16", name := "newBytesFor", desc := "(I)[B" } : Jvm.MethodName)) ∈ lw_all := lw_g (lw_at lw_m6 142 rfl) rfl
theorem q1487 : (Jvm.Cond.fieldLink "java/lang/AbstractStringBuilder" (15 : Nat) "java/lang/AbstractStringBuilder" "value" "[B") ∈ lw_all := lw_g (lw_at lw_m6 154 rfl) rfl
theorem q1488 : (Jvm.Cond.fieldLink "java/lang/AbstractStringBuilder" (22 : Nat) "java/lang/AbstractStringBuilder" "coder" "B") ∈ lw_all := lw_g (lw_at lw_m6 155 rfl) rfl
theorem q1490 : (Jvm.Cond.fieldLink "java/lang/AbstractStringBuilder" (79 : Nat) "java/lang/AbstractStringBuilder" "count" "I") ∈ lw_all := lw_g (lw_at lw_m6 157 rfl) rfl
theorem q1492 : (Jvm.Cond.soleField "java/lang/AbstractStringBuilder" "value") ∈ lw_all := lw_g (lw_at lw_m6 159 rfl) rfl
theorem q1494 : (Jvm.Cond.soleField "java/lang/AbstractStringBuilder" "coder") ∈ lw_all := lw_g (lw_at lw_m6 161 rfl) rfl
theorem q1496 : (Jvm.Cond.soleField "java/lang/AbstractStringBuilder" "maybeLatin1") ∈ lw_all := lw_g (lw_at lw_m6 163 rfl) rfl
theorem q1498 : (Jvm.Cond.soleField "java/lang/AbstractStringBuilder" "count") ∈ lw_all := lw_g (lw_at lw_m6 165 rfl) rfl
theorem q1504 : (Jvm.Cond.instanceMethod ({ cls := "java/lang/AbstractStringBuilder", name := "append", desc := "(C)Ljava/lang/AbstractStringBuilder;" } : Jvm.MethodName)) ∈ lw_all := lw_g (lw_at lw_m6 171 rfl) rfl
theorem q1505 : (Jvm.Cond.code ({ cls := "java/lang/AbstractStringBuilder", name := "append", desc := "(C)Ljava/lang/AbstractStringBuilder;" } : Jvm.MethodName) prog_20_method_31_code (2 : Nat) (Option.some (Jvm.ClassFile.FieldType.object "java/lang/AbstractStringBuilder"))) ∈ lw_all := lw_g (lw_at lw_m6 172 rfl) rfl
theorem q1506 : (Jvm.Cond.methodLink "java/lang/AbstractStringBuilder" (100 : Nat) ({ cls := "java/lang/AbstractStringBuilder", name := "ensureCapacityInternal", desc := "(I)V" } : Jvm.MethodName)) ∈ lw_all := lw_g (lw_at lw_m6 173 rfl) rfl
theorem q1507 : (Jvm.Cond.privateMethod ({ cls := "java/lang/AbstractStringBuilder", name := "ensureCapacityInternal", desc := "(I)V" } : Jvm.MethodName)) ∈ lw_tbl := lw_at lw_m6 174 rfl
theorem q1508 : (Jvm.Cond.instanceMethod ({ cls := "java/lang/AbstractStringBuilder", name := "ensureCapacityInternal", desc := "(I)V" } : Jvm.MethodName)) ∈ lw_all := lw_g (lw_at lw_m6 175 rfl) rfl
theorem q1509 : (Jvm.Cond.code ({ cls := "java/lang/AbstractStringBuilder", name := "ensureCapacityInternal", desc := "(I)V" } : Jvm.MethodName) prog_20_method_9_code (3 : Nat) (Option.none : Option Jvm.ClassFile.FieldType)) ∈ lw_all := lw_g (lw_at lw_m6 176 rfl) rfl
theorem q1510 : (Jvm.Cond.methodLink "java/lang/AbstractStringBuilder" (104 : Nat) ({ cls := "java/lang/AbstractStringBuilder", name := "newCapacity", desc := "(I)I" } : Jvm.MethodName)) ∈ lw_all := lw_g (lw_at lw_m6 177 rfl) rfl
theorem q1511 : (Jvm.Cond.privateMethod ({ cls := "java/lang/AbstractStringBuilder", name := "newCapacity", desc := "(I)I" } : Jvm.MethodName)) ∈ lw_tbl := lw_at lw_m6 178 rfl
theorem q1512 : (Jvm.Cond.instanceMethod ({ cls := "java/lang/AbstractStringBuilder", name := "newCapacity", desc := "(I)I" } : Jvm.MethodName)) ∈ lw_all := lw_g (lw_at lw_m6 179 rfl) rfl
theorem q1513 : (Jvm.Cond.code ({ cls := "java/lang/AbstractStringBuilder", name := "newCapacity", desc := "(I)I" } : Jvm.MethodName) prog_20_method_10_code (6 : Nat) (Option.some Jvm.ClassFile.FieldType.int)) ∈ lw_all := lw_g (lw_at lw_m6 180 rfl) rfl
theorem q1514 : (Jvm.Cond.methodLink "java/lang/AbstractStringBuilder" (114 : Nat) ({ cls := "jdk/internal/util/ArraysSupport", name := "newLength", desc := "(III)I" } : Jvm.MethodName)) ∈ lw_all := lw_g (lw_at lw_m6 181 rfl) rfl
theorem q1524 : (Jvm.Cond.constant "java/lang/AbstractStringBuilder" (39 : Nat) (2147483647 : Int32)) ∈ lw_all := lw_g (lw_at lw_m6 191 rfl) rfl
theorem q1525 : (Jvm.Cond.methodLink "java/lang/AbstractStringBuilder" (108 : Nat) ({ cls := "java/util/Arrays", name := "copyOf", desc := "([BI)[B" } : Jvm.MethodName)) ∈ lw_all := lw_g (lw_at lw_m6 192 rfl) rfl
theorem q1535 : (Jvm.Cond.methodLink "java/lang/AbstractStringBuilder" (191 : Nat) ({ cls := "java/lang/StringLatin1", name := "canEncode", desc := "(C)Z" } : Jvm.MethodName)) ∈ lw_all := lw_g (lw_at lw_m6 202 rfl) rfl
theorem q1538 : (Jvm.Cond.methodLink "java/lang/AbstractStringBuilder" (195 : Nat) ({ cls := "java/lang/AbstractStringBuilder", name := "inflate", desc := "()V" } : Jvm.MethodName)) ∈ lw_all := lw_g (lw_at lw_m6 205 rfl) rfl
theorem q1539 : (Jvm.Cond.privateMethod ({ cls := "java/lang/AbstractStringBuilder", name := "inflate", desc := "()V" } : Jvm.MethodName)) ∈ lw_tbl := lw_at lw_m6 206 rfl
theorem q1540 : (Jvm.Cond.instanceMethod ({ cls := "java/lang/AbstractStringBuilder", name := "inflate", desc := "()V" } : Jvm.MethodName)) ∈ lw_all := lw_g (lw_at lw_m6 207 rfl) rfl
theorem q1541 : (Jvm.Cond.code ({ cls := "java/lang/AbstractStringBuilder", name := "inflate", desc := "()V" } : Jvm.MethodName) prog_20_method_11_code (2 : Nat) (Option.none : Option Jvm.ClassFile.FieldType)) ∈ lw_all := lw_g (lw_at lw_m6 208 rfl) rfl
theorem q1542 : (Jvm.Cond.methodLink "java/lang/AbstractStringBuilder" (125 : Nat) ({ cls := "java/lang/StringLatin1", name := "inflate", desc := "([BI[BII)V" } : Jvm.MethodName)) ∈ lw_all := lw_g (lw_at lw_m6 209 rfl) rfl
theorem q1560 : (Jvm.Cond.methodLink "java/lang/AbstractStringBuilder" (197 : Nat) ({ cls := "java/lang/StringUTF16", name := "putCharSB", desc := "([BII)V" } : Jvm.MethodName)) ∈ lw_all := lw_g (lw_at lw_m6 227 rfl) rfl
theorem q1585 : (Jvm.Cond.instanceMethod ({ cls := "java/lang/AbstractStringBuilder", name := "getValue", desc := "()[B" } : Jvm.MethodName)) ∈ lw_all := lw_g (lw_at lw_m7 12 rfl) rfl
theorem q1586 : (Jvm.Cond.sameMethod "java/lang/AbstractStringBuilder" "java/lang/AbstractStringBuilder" "getValue" "()[B") ∈ lw_all := lw_g (lw_at lw_m7 13 rfl) rfl
theorem q1588 : (Jvm.Cond.code ({ cls := "java/lang/AbstractStringBuilder", name := "getValue", desc := "()[B" } : Jvm.MethodName) prog_20_method_64_code (1 : Nat) (Option.some (Jvm.ClassFile.FieldType.array Jvm.ClassFile.FieldType.byte))) ∈ lw_all := lw_g (lw_at lw_m7 15 rfl) rfl
theorem q1590 : (Jvm.Cond.instanceMethod ({ cls := "java/lang/AbstractStringBuilder", name := "length", desc := "()I" } : Jvm.MethodName)) ∈ lw_all := lw_g (lw_at lw_m7 17 rfl) rfl
theorem q1591 : (Jvm.Cond.sameMethod "java/lang/AbstractStringBuilder" "java/lang/AbstractStringBuilder" "length" "()I") ∈ lw_all := lw_g (lw_at lw_m7 18 rfl) rfl
theorem q1596 : (Jvm.Cond.code ({ cls := "java/lang/AbstractStringBuilder", name := "length", desc := "()I" } : Jvm.MethodName) prog_20_method_6_code (1 : Nat) (Option.some Jvm.ClassFile.FieldType.int)) ∈ lw_all := lw_g (lw_at lw_m7 23 rfl) rfl
theorem q3202 : (Jvm.Cond.sameMethod "java/lang/AbstractStringBuilder" "java/lang/AbstractStringBuilder" "compareTo" "(Ljava/lang/AbstractStringBuilder;)I") ∈ lw_all := lw_g (lw_at lw_m13 189 rfl) rfl
theorem q3204 : (Jvm.Cond.sameMethod "java/lang/AbstractStringBuilder" "java/lang/AbstractStringBuilder" "append" "(C)Ljava/lang/AbstractStringBuilder;") ∈ lw_all := lw_g (lw_at lw_m13 191 rfl) rfl
theorem q3205 : (Jvm.Cond.sameMethod "java/lang/AbstractStringBuilder" "java/lang/AbstractStringBuilder" "ensureCapacityInternal" "(I)V") ∈ lw_all := lw_g (lw_at lw_m13 192 rfl) rfl
theorem q3206 : (Jvm.Cond.sameMethod "java/lang/AbstractStringBuilder" "java/lang/AbstractStringBuilder" "newCapacity" "(I)I") ∈ lw_all := lw_g (lw_at lw_m13 193 rfl) rfl
theorem q3207 : (Jvm.Cond.sameMethod "java/lang/AbstractStringBuilder" "java/lang/AbstractStringBuilder" "inflate" "()V") ∈ lw_all := lw_g (lw_at lw_m13 194 rfl) rfl
