/-! THE JDK's strings, 4 -/
set_option maxRecDepth 100000
abbrev cJ18_signedHashCode : ByteArray := prog_72_method_5_code
def yJ18_signedHashCode : MethodName := ⟨RJ18, "signedHashCode", "(I[BII)I"⟩
def dkwJ18_signedHashCode_1 : List UInt8 := [17, 0, 255, 126, 96, 59, 132, 5, 1, 167, 255, 232, 26, 172]
abbrev dktJ18_signedHashCode_1 : List UInt8 := dkwJ18_signedHashCode_1 ++ []
def dkwJ18_signedHashCode_0 : List UInt8 := [28, 29, 96, 54, 4, 28, 54, 5, 21, 5, 21, 4, 162, 0, 23, 16, 31, 26, 104, 43, 21, 5, 51]
abbrev dktJ18_signedHashCode_0 : List UInt8 := dkwJ18_signedHashCode_0 ++ dktJ18_signedHashCode_1
theorem dksJ18_signedHashCode_0 : cJ18_signedHashCode.data.toList.drop 0 = dktJ18_signedHashCode_0 := by decide +kernel
theorem dksJ18_signedHashCode_1 : cJ18_signedHashCode.data.toList.drop 23 = dktJ18_signedHashCode_1 := dk_seg dksJ18_signedHashCode_0 23 rfl rfl
theorem dJ18_signedHashCode_0 : decode cJ18_signedHashCode 0 = .ok (.iload_n 2, 1) := dk_28 (dk_at dksJ18_signedHashCode_0 0 rfl rfl)
theorem dJ18_signedHashCode_1 : decode cJ18_signedHashCode 1 = .ok (.iload_n 3, 1) := dk_29 (dk_at dksJ18_signedHashCode_0 1 rfl rfl)
theorem dJ18_signedHashCode_2 : decode cJ18_signedHashCode 2 = .ok (.iadd, 1) := dk_96 (dk_at dksJ18_signedHashCode_0 2 rfl rfl)
theorem dJ18_signedHashCode_3 : decode cJ18_signedHashCode 3 = .ok (.istore 4, 2) := dk_54 4 (dk_at dksJ18_signedHashCode_0 3 rfl rfl)
theorem dJ18_signedHashCode_5 : decode cJ18_signedHashCode 5 = .ok (.iload_n 2, 1) := dk_28 (dk_at dksJ18_signedHashCode_0 5 rfl rfl)
theorem dJ18_signedHashCode_6 : decode cJ18_signedHashCode 6 = .ok (.istore 5, 2) := dk_54 5 (dk_at dksJ18_signedHashCode_0 6 rfl rfl)
theorem dJ18_signedHashCode_8 : decode cJ18_signedHashCode 8 = .ok (.iload 5, 2) := dk_21 5 (dk_at dksJ18_signedHashCode_0 8 rfl rfl)
theorem dJ18_signedHashCode_10 : decode cJ18_signedHashCode 10 = .ok (.iload 4, 2) := dk_21 4 (dk_at dksJ18_signedHashCode_0 10 rfl rfl)
theorem dJ18_signedHashCode_12 : decode cJ18_signedHashCode 12 = .ok (.if_icmp .ge 23, 3) := dk_162 0 23 (dk_at dksJ18_signedHashCode_0 12 rfl rfl)
theorem dJ18_signedHashCode_15 : decode cJ18_signedHashCode 15 = .ok (.bipush 31, 2) := dk_16 31 (dk_at dksJ18_signedHashCode_0 15 rfl rfl)
theorem dJ18_signedHashCode_17 : decode cJ18_signedHashCode 17 = .ok (.iload_n 0, 1) := dk_26 (dk_at dksJ18_signedHashCode_0 17 rfl rfl)
theorem dJ18_signedHashCode_18 : decode cJ18_signedHashCode 18 = .ok (.imul, 1) := dk_104 (dk_at dksJ18_signedHashCode_0 18 rfl rfl)
theorem dJ18_signedHashCode_19 : decode cJ18_signedHashCode 19 = .ok (.aload_n 1, 1) := dk_43 (dk_at dksJ18_signedHashCode_0 19 rfl rfl)
theorem dJ18_signedHashCode_20 : decode cJ18_signedHashCode 20 = .ok (.iload 5, 2) := dk_21 5 (dk_at dksJ18_signedHashCode_0 20 rfl rfl)
theorem dJ18_signedHashCode_22 : decode cJ18_signedHashCode 22 = .ok (.baload, 1) := dk_51 (dk_at dksJ18_signedHashCode_0 22 rfl rfl)
theorem dJ18_signedHashCode_23 : decode cJ18_signedHashCode 23 = .ok (.sipush 255, 3) := dk_17 0 255 (dk_at dksJ18_signedHashCode_1 0 rfl rfl)
theorem dJ18_signedHashCode_26 : decode cJ18_signedHashCode 26 = .ok (.iand, 1) := dk_126 (dk_at dksJ18_signedHashCode_1 3 rfl rfl)
theorem dJ18_signedHashCode_27 : decode cJ18_signedHashCode 27 = .ok (.iadd, 1) := dk_96 (dk_at dksJ18_signedHashCode_1 4 rfl rfl)
theorem dJ18_signedHashCode_28 : decode cJ18_signedHashCode 28 = .ok (.istore_n 0, 1) := dk_59 (dk_at dksJ18_signedHashCode_1 5 rfl rfl)
theorem dJ18_signedHashCode_29 : decode cJ18_signedHashCode 29 = .ok (.iinc 5 1, 3) := dk_132 5 1 (dk_at dksJ18_signedHashCode_1 6 rfl rfl)
theorem dJ18_signedHashCode_32 : decode cJ18_signedHashCode 32 = .ok (.goto (-24), 3) := dk_167 255 232 (dk_at dksJ18_signedHashCode_1 9 rfl rfl)
theorem dJ18_signedHashCode_35 : decode cJ18_signedHashCode 35 = .ok (.iload_n 0, 1) := dk_26 (dk_at dksJ18_signedHashCode_1 12 rfl rfl)
theorem dJ18_signedHashCode_36 : decode cJ18_signedHashCode 36 = .ok (.ireturn, 1) := dk_172 (dk_at dksJ18_signedHashCode_1 13 rfl rfl)
abbrev cJ18_vectorizedHashCode : ByteArray := prog_72_method_4_code
def yJ18_vectorizedHashCode : MethodName := ⟨RJ18, "vectorizedHashCode", "(Ljava/lang/Object;IIII)I"⟩
def dkwJ18_vectorizedHashCode_6 : List UInt8 := [183, 0, 91, 18, 92, 182, 0, 94, 21, 4, 182, 0, 98, 182, 0, 101, 183, 0, 105, 191, 172]
abbrev dktJ18_vectorizedHashCode_6 : List UInt8 := dkwJ18_vectorizedHashCode_6 ++ []
def dkwJ18_vectorizedHashCode_5 : List UInt8 := [167, 0, 44, 29, 42, 192, 0, 82, 27, 28, 184, 0, 84, 167, 0, 31, 187, 0, 87, 89, 187, 0, 89, 89]
abbrev dktJ18_vectorizedHashCode_5 : List UInt8 := dkwJ18_vectorizedHashCode_5 ++ dktJ18_vectorizedHashCode_6
def dkwJ18_vectorizedHashCode_4 : List UInt8 := [29, 42, 192, 0, 60, 27, 28, 184, 0, 75, 167, 0, 57, 29, 42, 192, 0, 77, 27, 28, 184, 0, 79]
abbrev dktJ18_vectorizedHashCode_4 : List UInt8 := dkwJ18_vectorizedHashCode_4 ++ dktJ18_vectorizedHashCode_5
def dkwJ18_vectorizedHashCode_3 : List UInt8 := [192, 0, 60, 27, 28, 184, 0, 66, 167, 0, 83, 29, 42, 192, 0, 69, 27, 28, 184, 0, 71, 167, 0, 70]
abbrev dktJ18_vectorizedHashCode_3 : List UInt8 := dkwJ18_vectorizedHashCode_3 ++ dktJ18_vectorizedHashCode_4
def dkwJ18_vectorizedHashCode_2 : List UInt8 := [29, 42, 192, 0, 60, 27, 28, 184, 0, 62, 167, 0, 103, 42, 193, 0, 60, 153, 0, 16, 29, 42]
abbrev dktJ18_vectorizedHashCode_2 : List UInt8 := dkwJ18_vectorizedHashCode_2 ++ dktJ18_vectorizedHashCode_3
def dkwJ18_vectorizedHashCode_1 : List UInt8 := [170, 0, 0, 0, 0, 127, 0, 0, 0, 4, 0, 0, 0, 10, 0, 0, 0, 42, 0, 0, 0, 55, 0, 0, 0, 127, 0, 0, 0, 127, 0, 0, 0, 88, 0, 0, 0, 101, 0, 0, 0, 114]
abbrev dktJ18_vectorizedHashCode_1 : List UInt8 := dkwJ18_vectorizedHashCode_1 ++ dktJ18_vectorizedHashCode_2
def dkwJ18_vectorizedHashCode_0 : List UInt8 := [21, 4]
abbrev dktJ18_vectorizedHashCode_0 : List UInt8 := dkwJ18_vectorizedHashCode_0 ++ dktJ18_vectorizedHashCode_1
theorem dksJ18_vectorizedHashCode_0 : cJ18_vectorizedHashCode.data.toList.drop 0 = dktJ18_vectorizedHashCode_0 := by decide +kernel
theorem dksJ18_vectorizedHashCode_1 : cJ18_vectorizedHashCode.data.toList.drop 2 = dktJ18_vectorizedHashCode_1 := dk_seg dksJ18_vectorizedHashCode_0 2 rfl rfl
theorem dksJ18_vectorizedHashCode_2 : cJ18_vectorizedHashCode.data.toList.drop 44 = dktJ18_vectorizedHashCode_2 := dk_seg dksJ18_vectorizedHashCode_1 42 rfl rfl
theorem dksJ18_vectorizedHashCode_3 : cJ18_vectorizedHashCode.data.toList.drop 66 = dktJ18_vectorizedHashCode_3 := dk_seg dksJ18_vectorizedHashCode_2 22 rfl rfl
theorem dksJ18_vectorizedHashCode_4 : cJ18_vectorizedHashCode.data.toList.drop 90 = dktJ18_vectorizedHashCode_4 := dk_seg dksJ18_vectorizedHashCode_3 24 rfl rfl
theorem dksJ18_vectorizedHashCode_5 : cJ18_vectorizedHashCode.data.toList.drop 113 = dktJ18_vectorizedHashCode_5 := dk_seg dksJ18_vectorizedHashCode_4 23 rfl rfl
theorem dksJ18_vectorizedHashCode_6 : cJ18_vectorizedHashCode.data.toList.drop 137 = dktJ18_vectorizedHashCode_6 := dk_seg dksJ18_vectorizedHashCode_5 24 rfl rfl
theorem dJ18_vectorizedHashCode_0 : decode cJ18_vectorizedHashCode 0 = .ok (.iload 4, 2) := dk_21 4 (dk_at dksJ18_vectorizedHashCode_0 0 rfl rfl)
theorem dJ18_vectorizedHashCode_2 : decode cJ18_vectorizedHashCode 2 = .ok (.tableswitch 127 4 10 #[42, 55, 127, 127, 88, 101, 114], 42) := by decide +kernel
theorem dJ18_vectorizedHashCode_44 : decode cJ18_vectorizedHashCode 44 = .ok (.iload_n 3, 1) := dk_29 (dk_at dksJ18_vectorizedHashCode_2 0 rfl rfl)
theorem dJ18_vectorizedHashCode_45 : decode cJ18_vectorizedHashCode 45 = .ok (.aload_n 0, 1) := dk_42 (dk_at dksJ18_vectorizedHashCode_2 1 rfl rfl)
theorem dJ18_vectorizedHashCode_46 : decode cJ18_vectorizedHashCode 46 = .ok (.checkcast 60, 3) := dk_192 0 60 (dk_at dksJ18_vectorizedHashCode_2 2 rfl rfl)
theorem dJ18_vectorizedHashCode_49 : decode cJ18_vectorizedHashCode 49 = .ok (.iload_n 1, 1) := dk_27 (dk_at dksJ18_vectorizedHashCode_2 5 rfl rfl)
theorem dJ18_vectorizedHashCode_50 : decode cJ18_vectorizedHashCode 50 = .ok (.iload_n 2, 1) := dk_28 (dk_at dksJ18_vectorizedHashCode_2 6 rfl rfl)
theorem dJ18_vectorizedHashCode_51 : decode cJ18_vectorizedHashCode 51 = .ok (.invokestatic 62, 3) := dk_184 0 62 (dk_at dksJ18_vectorizedHashCode_2 7 rfl rfl)
theorem dJ18_vectorizedHashCode_54 : decode cJ18_vectorizedHashCode 54 = .ok (.goto 103, 3) := dk_167 0 103 (dk_at dksJ18_vectorizedHashCode_2 10 rfl rfl)
theorem dJ18_vectorizedHashCode_57 : decode cJ18_vectorizedHashCode 57 = .ok (.aload_n 0, 1) := dk_42 (dk_at dksJ18_vectorizedHashCode_2 13 rfl rfl)
theorem dJ18_vectorizedHashCode_58 : decode cJ18_vectorizedHashCode 58 = .ok (.instanceof 60, 3) := dk_193 0 60 (dk_at dksJ18_vectorizedHashCode_2 14 rfl rfl)
theorem dJ18_vectorizedHashCode_61 : decode cJ18_vectorizedHashCode 61 = .ok (.ifCond .eq 16, 3) := dk_153 0 16 (dk_at dksJ18_vectorizedHashCode_2 17 rfl rfl)
theorem dJ18_vectorizedHashCode_64 : decode cJ18_vectorizedHashCode 64 = .ok (.iload_n 3, 1) := dk_29 (dk_at dksJ18_vectorizedHashCode_2 20 rfl rfl)
theorem dJ18_vectorizedHashCode_65 : decode cJ18_vectorizedHashCode 65 = .ok (.aload_n 0, 1) := dk_42 (dk_at dksJ18_vectorizedHashCode_2 21 rfl rfl)
theorem dJ18_vectorizedHashCode_66 : decode cJ18_vectorizedHashCode 66 = .ok (.checkcast 60, 3) := dk_192 0 60 (dk_at dksJ18_vectorizedHashCode_3 0 rfl rfl)
theorem dJ18_vectorizedHashCode_69 : decode cJ18_vectorizedHashCode 69 = .ok (.iload_n 1, 1) := dk_27 (dk_at dksJ18_vectorizedHashCode_3 3 rfl rfl)
theorem dJ18_vectorizedHashCode_70 : decode cJ18_vectorizedHashCode 70 = .ok (.iload_n 2, 1) := dk_28 (dk_at dksJ18_vectorizedHashCode_3 4 rfl rfl)
theorem dJ18_vectorizedHashCode_71 : decode cJ18_vectorizedHashCode 71 = .ok (.invokestatic 66, 3) := dk_184 0 66 (dk_at dksJ18_vectorizedHashCode_3 5 rfl rfl)
theorem dJ18_vectorizedHashCode_74 : decode cJ18_vectorizedHashCode 74 = .ok (.goto 83, 3) := dk_167 0 83 (dk_at dksJ18_vectorizedHashCode_3 8 rfl rfl)
theorem dJ18_vectorizedHashCode_77 : decode cJ18_vectorizedHashCode 77 = .ok (.iload_n 3, 1) := dk_29 (dk_at dksJ18_vectorizedHashCode_3 11 rfl rfl)
theorem dJ18_vectorizedHashCode_78 : decode cJ18_vectorizedHashCode 78 = .ok (.aload_n 0, 1) := dk_42 (dk_at dksJ18_vectorizedHashCode_3 12 rfl rfl)
theorem dJ18_vectorizedHashCode_79 : decode cJ18_vectorizedHashCode 79 = .ok (.checkcast 69, 3) := dk_192 0 69 (dk_at dksJ18_vectorizedHashCode_3 13 rfl rfl)
theorem dJ18_vectorizedHashCode_82 : decode cJ18_vectorizedHashCode 82 = .ok (.iload_n 1, 1) := dk_27 (dk_at dksJ18_vectorizedHashCode_3 16 rfl rfl)
theorem dJ18_vectorizedHashCode_83 : decode cJ18_vectorizedHashCode 83 = .ok (.iload_n 2, 1) := dk_28 (dk_at dksJ18_vectorizedHashCode_3 17 rfl rfl)
theorem dJ18_vectorizedHashCode_84 : decode cJ18_vectorizedHashCode 84 = .ok (.invokestatic 71, 3) := dk_184 0 71 (dk_at dksJ18_vectorizedHashCode_3 18 rfl rfl)
theorem dJ18_vectorizedHashCode_87 : decode cJ18_vectorizedHashCode 87 = .ok (.goto 70, 3) := dk_167 0 70 (dk_at dksJ18_vectorizedHashCode_3 21 rfl rfl)
theorem dJ18_vectorizedHashCode_90 : decode cJ18_vectorizedHashCode 90 = .ok (.iload_n 3, 1) := dk_29 (dk_at dksJ18_vectorizedHashCode_4 0 rfl rfl)
theorem dJ18_vectorizedHashCode_91 : decode cJ18_vectorizedHashCode 91 = .ok (.aload_n 0, 1) := dk_42 (dk_at dksJ18_vectorizedHashCode_4 1 rfl rfl)
theorem dJ18_vectorizedHashCode_92 : decode cJ18_vectorizedHashCode 92 = .ok (.checkcast 60, 3) := dk_192 0 60 (dk_at dksJ18_vectorizedHashCode_4 2 rfl rfl)
theorem dJ18_vectorizedHashCode_95 : decode cJ18_vectorizedHashCode 95 = .ok (.iload_n 1, 1) := dk_27 (dk_at dksJ18_vectorizedHashCode_4 5 rfl rfl)
theorem dJ18_vectorizedHashCode_96 : decode cJ18_vectorizedHashCode 96 = .ok (.iload_n 2, 1) := dk_28 (dk_at dksJ18_vectorizedHashCode_4 6 rfl rfl)
theorem dJ18_vectorizedHashCode_97 : decode cJ18_vectorizedHashCode 97 = .ok (.invokestatic 75, 3) := dk_184 0 75 (dk_at dksJ18_vectorizedHashCode_4 7 rfl rfl)
theorem dJ18_vectorizedHashCode_100 : decode cJ18_vectorizedHashCode 100 = .ok (.goto 57, 3) := dk_167 0 57 (dk_at dksJ18_vectorizedHashCode_4 10 rfl rfl)
theorem dJ18_vectorizedHashCode_103 : decode cJ18_vectorizedHashCode 103 = .ok (.iload_n 3, 1) := dk_29 (dk_at dksJ18_vectorizedHashCode_4 13 rfl rfl)
theorem dJ18_vectorizedHashCode_104 : decode cJ18_vectorizedHashCode 104 = .ok (.aload_n 0, 1) := dk_42 (dk_at dksJ18_vectorizedHashCode_4 14 rfl rfl)
theorem dJ18_vectorizedHashCode_105 : decode cJ18_vectorizedHashCode 105 = .ok (.checkcast 77, 3) := dk_192 0 77 (dk_at dksJ18_vectorizedHashCode_4 15 rfl rfl)
theorem dJ18_vectorizedHashCode_108 : decode cJ18_vectorizedHashCode 108 = .ok (.iload_n 1, 1) := dk_27 (dk_at dksJ18_vectorizedHashCode_4 18 rfl rfl)
theorem dJ18_vectorizedHashCode_109 : decode cJ18_vectorizedHashCode 109 = .ok (.iload_n 2, 1) := dk_28 (dk_at dksJ18_vectorizedHashCode_4 19 rfl rfl)
theorem dJ18_vectorizedHashCode_110 : decode cJ18_vectorizedHashCode 110 = .ok (.invokestatic 79, 3) := dk_184 0 79 (dk_at dksJ18_vectorizedHashCode_4 20 rfl rfl)
theorem dJ18_vectorizedHashCode_113 : decode cJ18_vectorizedHashCode 113 = .ok (.goto 44, 3) := dk_167 0 44 (dk_at dksJ18_vectorizedHashCode_5 0 rfl rfl)
theorem dJ18_vectorizedHashCode_116 : decode cJ18_vectorizedHashCode 116 = .ok (.iload_n 3, 1) := dk_29 (dk_at dksJ18_vectorizedHashCode_5 3 rfl rfl)
theorem dJ18_vectorizedHashCode_117 : decode cJ18_vectorizedHashCode 117 = .ok (.aload_n 0, 1) := dk_42 (dk_at dksJ18_vectorizedHashCode_5 4 rfl rfl)
theorem dJ18_vectorizedHashCode_118 : decode cJ18_vectorizedHashCode 118 = .ok (.checkcast 82, 3) := dk_192 0 82 (dk_at dksJ18_vectorizedHashCode_5 5 rfl rfl)
theorem dJ18_vectorizedHashCode_121 : decode cJ18_vectorizedHashCode 121 = .ok (.iload_n 1, 1) := dk_27 (dk_at dksJ18_vectorizedHashCode_5 8 rfl rfl)
theorem dJ18_vectorizedHashCode_122 : decode cJ18_vectorizedHashCode 122 = .ok (.iload_n 2, 1) := dk_28 (dk_at dksJ18_vectorizedHashCode_5 9 rfl rfl)
theorem dJ18_vectorizedHashCode_123 : decode cJ18_vectorizedHashCode 123 = .ok (.invokestatic 84, 3) := dk_184 0 84 (dk_at dksJ18_vectorizedHashCode_5 10 rfl rfl)
theorem dJ18_vectorizedHashCode_126 : decode cJ18_vectorizedHashCode 126 = .ok (.goto 31, 3) := dk_167 0 31 (dk_at dksJ18_vectorizedHashCode_5 13 rfl rfl)
theorem dJ18_vectorizedHashCode_129 : decode cJ18_vectorizedHashCode 129 = .ok (.new 87, 3) := dk_187 0 87 (dk_at dksJ18_vectorizedHashCode_5 16 rfl rfl)
theorem dJ18_vectorizedHashCode_132 : decode cJ18_vectorizedHashCode 132 = .ok (.dup, 1) := dk_89 (dk_at dksJ18_vectorizedHashCode_5 19 rfl rfl)
theorem dJ18_vectorizedHashCode_133 : decode cJ18_vectorizedHashCode 133 = .ok (.new 89, 3) := dk_187 0 89 (dk_at dksJ18_vectorizedHashCode_5 20 rfl rfl)
theorem dJ18_vectorizedHashCode_136 : decode cJ18_vectorizedHashCode 136 = .ok (.dup, 1) := dk_89 (dk_at dksJ18_vectorizedHashCode_5 23 rfl rfl)
theorem dJ18_vectorizedHashCode_137 : decode cJ18_vectorizedHashCode 137 = .ok (.invokespecial 91, 3) := dk_183 0 91 (dk_at dksJ18_vectorizedHashCode_6 0 rfl rfl)
theorem dJ18_vectorizedHashCode_140 : decode cJ18_vectorizedHashCode 140 = .ok (.ldc 92, 2) := dk_18 92 (dk_at dksJ18_vectorizedHashCode_6 3 rfl rfl)
theorem dJ18_vectorizedHashCode_142 : decode cJ18_vectorizedHashCode 142 = .ok (.invokevirtual 94, 3) := dk_182 0 94 (dk_at dksJ18_vectorizedHashCode_6 5 rfl rfl)
theorem dJ18_vectorizedHashCode_145 : decode cJ18_vectorizedHashCode 145 = .ok (.iload 4, 2) := dk_21 4 (dk_at dksJ18_vectorizedHashCode_6 8 rfl rfl)
theorem dJ18_vectorizedHashCode_147 : decode cJ18_vectorizedHashCode 147 = .ok (.invokevirtual 98, 3) := dk_182 0 98 (dk_at dksJ18_vectorizedHashCode_6 10 rfl rfl)
theorem dJ18_vectorizedHashCode_150 : decode cJ18_vectorizedHashCode 150 = .ok (.invokevirtual 101, 3) := dk_182 0 101 (dk_at dksJ18_vectorizedHashCode_6 13 rfl rfl)
theorem dJ18_vectorizedHashCode_153 : decode cJ18_vectorizedHashCode 153 = .ok (.invokespecial 105, 3) := dk_183 0 105 (dk_at dksJ18_vectorizedHashCode_6 16 rfl rfl)
theorem dJ18_vectorizedHashCode_156 : decode cJ18_vectorizedHashCode 156 = .ok (.athrow, 1) := dk_191 (dk_at dksJ18_vectorizedHashCode_6 19 rfl rfl)
theorem dJ18_vectorizedHashCode_157 : decode cJ18_vectorizedHashCode 157 = .ok (.ireturn, 1) := dk_172 (dk_at dksJ18_vectorizedHashCode_6 20 rfl rfl)
abbrev cJ21_hashCode : ByteArray := prog_42_method_21_code
def yJ21_hashCode : MethodName := ⟨RJ21, "hashCode", "([B)I"⟩
def dkwJ21_hashCode_2 : List UInt8 := [3, 167, 0, 22, 42, 3, 51, 17, 0, 255, 126, 167, 0, 12, 42, 3, 42, 190, 3, 7, 184, 0, 84, 172]
abbrev dktJ21_hashCode_2 : List UInt8 := dkwJ21_hashCode_2 ++ []
def dkwJ21_hashCode_1 : List UInt8 := [171, 0, 0, 0, 0, 40, 0, 0, 0, 2, 0, 0, 0, 0, 0, 0, 0, 26, 0, 0, 0, 1, 0, 0, 0, 30]
abbrev dktJ21_hashCode_1 : List UInt8 := dkwJ21_hashCode_1 ++ dktJ21_hashCode_2
def dkwJ21_hashCode_0 : List UInt8 := [42, 190]
abbrev dktJ21_hashCode_0 : List UInt8 := dkwJ21_hashCode_0 ++ dktJ21_hashCode_1
theorem dksJ21_hashCode_0 : cJ21_hashCode.data.toList.drop 0 = dktJ21_hashCode_0 := by decide +kernel
theorem dksJ21_hashCode_1 : cJ21_hashCode.data.toList.drop 2 = dktJ21_hashCode_1 := dk_seg dksJ21_hashCode_0 2 rfl rfl
theorem dksJ21_hashCode_2 : cJ21_hashCode.data.toList.drop 28 = dktJ21_hashCode_2 := dk_seg dksJ21_hashCode_1 26 rfl rfl
theorem dJ21_hashCode_0 : decode cJ21_hashCode 0 = .ok (.aload_n 0, 1) := dk_42 (dk_at dksJ21_hashCode_0 0 rfl rfl)
theorem dJ21_hashCode_1 : decode cJ21_hashCode 1 = .ok (.arraylength, 1) := dk_190 (dk_at dksJ21_hashCode_0 1 rfl rfl)
theorem dJ21_hashCode_2 : decode cJ21_hashCode 2 = .ok (.lookupswitch 40 #[(0, 26), (1, 30)], 26) := by decide +kernel
theorem dJ21_hashCode_28 : decode cJ21_hashCode 28 = .ok (.iconst 0, 1) := dk_3 (dk_at dksJ21_hashCode_2 0 rfl rfl)
theorem dJ21_hashCode_29 : decode cJ21_hashCode 29 = .ok (.goto 22, 3) := dk_167 0 22 (dk_at dksJ21_hashCode_2 1 rfl rfl)
theorem dJ21_hashCode_32 : decode cJ21_hashCode 32 = .ok (.aload_n 0, 1) := dk_42 (dk_at dksJ21_hashCode_2 4 rfl rfl)
theorem dJ21_hashCode_33 : decode cJ21_hashCode 33 = .ok (.iconst 0, 1) := dk_3 (dk_at dksJ21_hashCode_2 5 rfl rfl)
theorem dJ21_hashCode_34 : decode cJ21_hashCode 34 = .ok (.baload, 1) := dk_51 (dk_at dksJ21_hashCode_2 6 rfl rfl)
theorem dJ21_hashCode_35 : decode cJ21_hashCode 35 = .ok (.sipush 255, 3) := dk_17 0 255 (dk_at dksJ21_hashCode_2 7 rfl rfl)
theorem dJ21_hashCode_38 : decode cJ21_hashCode 38 = .ok (.iand, 1) := dk_126 (dk_at dksJ21_hashCode_2 10 rfl rfl)
theorem dJ21_hashCode_39 : decode cJ21_hashCode 39 = .ok (.goto 12, 3) := dk_167 0 12 (dk_at dksJ21_hashCode_2 11 rfl rfl)
theorem dJ21_hashCode_42 : decode cJ21_hashCode 42 = .ok (.aload_n 0, 1) := dk_42 (dk_at dksJ21_hashCode_2 14 rfl rfl)
theorem dJ21_hashCode_43 : decode cJ21_hashCode 43 = .ok (.iconst 0, 1) := dk_3 (dk_at dksJ21_hashCode_2 15 rfl rfl)
theorem dJ21_hashCode_44 : decode cJ21_hashCode 44 = .ok (.aload_n 0, 1) := dk_42 (dk_at dksJ21_hashCode_2 16 rfl rfl)
theorem dJ21_hashCode_45 : decode cJ21_hashCode 45 = .ok (.arraylength, 1) := dk_190 (dk_at dksJ21_hashCode_2 17 rfl rfl)
theorem dJ21_hashCode_46 : decode cJ21_hashCode 46 = .ok (.iconst 0, 1) := dk_3 (dk_at dksJ21_hashCode_2 18 rfl rfl)
theorem dJ21_hashCode_47 : decode cJ21_hashCode 47 = .ok (.iconst 4, 1) := dk_7 (dk_at dksJ21_hashCode_2 19 rfl rfl)
theorem dJ21_hashCode_48 : decode cJ21_hashCode 48 = .ok (.invokestatic 84, 3) := dk_184 0 84 (dk_at dksJ21_hashCode_2 20 rfl rfl)
theorem dJ21_hashCode_51 : decode cJ21_hashCode 51 = .ok (.ireturn, 1) := dk_172 (dk_at dksJ21_hashCode_2 23 rfl rfl)
abbrev cJ5_hashCode : ByteArray := prog_39_method_78_code
def yJ5_hashCode : MethodName := ⟨RJ5, "hashCode", "()I"⟩
def dkwJ5_hashCode_2 : List UInt8 := [181, 0, 23, 167, 0, 8, 42, 27, 181, 0, 19, 27, 172]
abbrev dktJ5_hashCode_2 : List UInt8 := dkwJ5_hashCode_2 ++ []
def dkwJ5_hashCode_1 : List UInt8 := [180, 0, 9, 184, 2, 116, 167, 0, 10, 42, 180, 0, 9, 184, 2, 120, 60, 27, 154, 0, 11, 42, 4]
abbrev dktJ5_hashCode_1 : List UInt8 := dkwJ5_hashCode_1 ++ dktJ5_hashCode_2
def dkwJ5_hashCode_0 : List UInt8 := [42, 180, 0, 19, 60, 27, 154, 0, 52, 42, 180, 0, 23, 154, 0, 45, 42, 182, 1, 236, 153, 0, 13, 42]
abbrev dktJ5_hashCode_0 : List UInt8 := dkwJ5_hashCode_0 ++ dktJ5_hashCode_1
theorem dksJ5_hashCode_0 : cJ5_hashCode.data.toList.drop 0 = dktJ5_hashCode_0 := by decide +kernel
theorem dksJ5_hashCode_1 : cJ5_hashCode.data.toList.drop 24 = dktJ5_hashCode_1 := dk_seg dksJ5_hashCode_0 24 rfl rfl
theorem dksJ5_hashCode_2 : cJ5_hashCode.data.toList.drop 47 = dktJ5_hashCode_2 := dk_seg dksJ5_hashCode_1 23 rfl rfl
theorem dJ5_hashCode_0 : decode cJ5_hashCode 0 = .ok (.aload_n 0, 1) := dk_42 (dk_at dksJ5_hashCode_0 0 rfl rfl)
theorem dJ5_hashCode_1 : decode cJ5_hashCode 1 = .ok (.getfield 19, 3) := dk_180 0 19 (dk_at dksJ5_hashCode_0 1 rfl rfl)
theorem dJ5_hashCode_4 : decode cJ5_hashCode 4 = .ok (.istore_n 1, 1) := dk_60 (dk_at dksJ5_hashCode_0 4 rfl rfl)
theorem dJ5_hashCode_5 : decode cJ5_hashCode 5 = .ok (.iload_n 1, 1) := dk_27 (dk_at dksJ5_hashCode_0 5 rfl rfl)
theorem dJ5_hashCode_6 : decode cJ5_hashCode 6 = .ok (.ifCond .ne 52, 3) := dk_154 0 52 (dk_at dksJ5_hashCode_0 6 rfl rfl)
theorem dJ5_hashCode_9 : decode cJ5_hashCode 9 = .ok (.aload_n 0, 1) := dk_42 (dk_at dksJ5_hashCode_0 9 rfl rfl)
theorem dJ5_hashCode_10 : decode cJ5_hashCode 10 = .ok (.getfield 23, 3) := dk_180 0 23 (dk_at dksJ5_hashCode_0 10 rfl rfl)
theorem dJ5_hashCode_13 : decode cJ5_hashCode 13 = .ok (.ifCond .ne 45, 3) := dk_154 0 45 (dk_at dksJ5_hashCode_0 13 rfl rfl)
theorem dJ5_hashCode_16 : decode cJ5_hashCode 16 = .ok (.aload_n 0, 1) := dk_42 (dk_at dksJ5_hashCode_0 16 rfl rfl)
theorem dJ5_hashCode_17 : decode cJ5_hashCode 17 = .ok (.invokevirtual 492, 3) := dk_182 1 236 (dk_at dksJ5_hashCode_0 17 rfl rfl)
theorem dJ5_hashCode_20 : decode cJ5_hashCode 20 = .ok (.ifCond .eq 13, 3) := dk_153 0 13 (dk_at dksJ5_hashCode_0 20 rfl rfl)
theorem dJ5_hashCode_23 : decode cJ5_hashCode 23 = .ok (.aload_n 0, 1) := dk_42 (dk_at dksJ5_hashCode_0 23 rfl rfl)
theorem dJ5_hashCode_24 : decode cJ5_hashCode 24 = .ok (.getfield 9, 3) := dk_180 0 9 (dk_at dksJ5_hashCode_1 0 rfl rfl)
theorem dJ5_hashCode_27 : decode cJ5_hashCode 27 = .ok (.invokestatic 628, 3) := dk_184 2 116 (dk_at dksJ5_hashCode_1 3 rfl rfl)
theorem dJ5_hashCode_30 : decode cJ5_hashCode 30 = .ok (.goto 10, 3) := dk_167 0 10 (dk_at dksJ5_hashCode_1 6 rfl rfl)
theorem dJ5_hashCode_33 : decode cJ5_hashCode 33 = .ok (.aload_n 0, 1) := dk_42 (dk_at dksJ5_hashCode_1 9 rfl rfl)
theorem dJ5_hashCode_34 : decode cJ5_hashCode 34 = .ok (.getfield 9, 3) := dk_180 0 9 (dk_at dksJ5_hashCode_1 10 rfl rfl)
theorem dJ5_hashCode_37 : decode cJ5_hashCode 37 = .ok (.invokestatic 632, 3) := dk_184 2 120 (dk_at dksJ5_hashCode_1 13 rfl rfl)
theorem dJ5_hashCode_40 : decode cJ5_hashCode 40 = .ok (.istore_n 1, 1) := dk_60 (dk_at dksJ5_hashCode_1 16 rfl rfl)
theorem dJ5_hashCode_41 : decode cJ5_hashCode 41 = .ok (.iload_n 1, 1) := dk_27 (dk_at dksJ5_hashCode_1 17 rfl rfl)
theorem dJ5_hashCode_42 : decode cJ5_hashCode 42 = .ok (.ifCond .ne 11, 3) := dk_154 0 11 (dk_at dksJ5_hashCode_1 18 rfl rfl)
theorem dJ5_hashCode_45 : decode cJ5_hashCode 45 = .ok (.aload_n 0, 1) := dk_42 (dk_at dksJ5_hashCode_1 21 rfl rfl)
theorem dJ5_hashCode_46 : decode cJ5_hashCode 46 = .ok (.iconst 1, 1) := dk_4 (dk_at dksJ5_hashCode_1 22 rfl rfl)
theorem dJ5_hashCode_47 : decode cJ5_hashCode 47 = .ok (.putfield 23, 3) := dk_181 0 23 (dk_at dksJ5_hashCode_2 0 rfl rfl)
theorem dJ5_hashCode_50 : decode cJ5_hashCode 50 = .ok (.goto 8, 3) := dk_167 0 8 (dk_at dksJ5_hashCode_2 3 rfl rfl)
theorem dJ5_hashCode_53 : decode cJ5_hashCode 53 = .ok (.aload_n 0, 1) := dk_42 (dk_at dksJ5_hashCode_2 6 rfl rfl)
theorem dJ5_hashCode_54 : decode cJ5_hashCode 54 = .ok (.iload_n 1, 1) := dk_27 (dk_at dksJ5_hashCode_2 7 rfl rfl)
theorem dJ5_hashCode_55 : decode cJ5_hashCode 55 = .ok (.putfield 19, 3) := dk_181 0 19 (dk_at dksJ5_hashCode_2 8 rfl rfl)
theorem dJ5_hashCode_58 : decode cJ5_hashCode 58 = .ok (.iload_n 1, 1) := dk_27 (dk_at dksJ5_hashCode_2 11 rfl rfl)
theorem dJ5_hashCode_59 : decode cJ5_hashCode 59 = .ok (.ireturn, 1) := dk_172 (dk_at dksJ5_hashCode_2 12 rfl rfl)
abbrev cJ18_mismatch : ByteArray := prog_72_method_14_code
def yJ18_mismatch : MethodName := ⟨RJ18, "mismatch", "([BI[BII)I"⟩
def dkwJ18_mismatch_4 : List UInt8 := [132, 5, 1, 167, 255, 228, 2, 172]
abbrev dktJ18_mismatch_4 : List UInt8 := dkwJ18_mismatch_4 ++ []
def dkwJ18_mismatch_3 : List UInt8 := [21, 4, 162, 0, 27, 42, 27, 21, 5, 96, 51, 44, 29, 21, 5, 96, 51, 159, 0, 6, 21, 5, 172]
abbrev dktJ18_mismatch_3 : List UInt8 := dkwJ18_mismatch_3 ++ dktJ18_mismatch_4
def dkwJ18_mismatch_2 : List UInt8 := [184, 0, 122, 54, 5, 21, 5, 155, 0, 6, 21, 5, 172, 21, 4, 21, 5, 2, 130, 100, 54, 5, 21, 5]
abbrev dktJ18_mismatch_2 : List UInt8 := dkwJ18_mismatch_2 ++ dktJ18_mismatch_3
def dkwJ18_mismatch_1 : List UInt8 := [27, 96, 54, 6, 178, 0, 126, 29, 96, 54, 7, 42, 21, 6, 133, 44, 21, 7, 133, 21, 4, 178, 0, 129]
abbrev dktJ18_mismatch_1 : List UInt8 := dkwJ18_mismatch_1 ++ dktJ18_mismatch_2
def dkwJ18_mismatch_0 : List UInt8 := [3, 54, 5, 21, 4, 16, 7, 164, 0, 63, 42, 27, 51, 44, 29, 51, 159, 0, 5, 3, 172, 178, 0, 126]
abbrev dktJ18_mismatch_0 : List UInt8 := dkwJ18_mismatch_0 ++ dktJ18_mismatch_1
theorem dksJ18_mismatch_0 : cJ18_mismatch.data.toList.drop 0 = dktJ18_mismatch_0 := by decide +kernel
theorem dksJ18_mismatch_1 : cJ18_mismatch.data.toList.drop 24 = dktJ18_mismatch_1 := dk_seg dksJ18_mismatch_0 24 rfl rfl
theorem dksJ18_mismatch_2 : cJ18_mismatch.data.toList.drop 48 = dktJ18_mismatch_2 := dk_seg dksJ18_mismatch_1 24 rfl rfl
theorem dksJ18_mismatch_3 : cJ18_mismatch.data.toList.drop 72 = dktJ18_mismatch_3 := dk_seg dksJ18_mismatch_2 24 rfl rfl
theorem dksJ18_mismatch_4 : cJ18_mismatch.data.toList.drop 95 = dktJ18_mismatch_4 := dk_seg dksJ18_mismatch_3 23 rfl rfl
theorem dJ18_mismatch_0 : decode cJ18_mismatch 0 = .ok (.iconst 0, 1) := dk_3 (dk_at dksJ18_mismatch_0 0 rfl rfl)
theorem dJ18_mismatch_1 : decode cJ18_mismatch 1 = .ok (.istore 5, 2) := dk_54 5 (dk_at dksJ18_mismatch_0 1 rfl rfl)
theorem dJ18_mismatch_3 : decode cJ18_mismatch 3 = .ok (.iload 4, 2) := dk_21 4 (dk_at dksJ18_mismatch_0 3 rfl rfl)
theorem dJ18_mismatch_5 : decode cJ18_mismatch 5 = .ok (.bipush 7, 2) := dk_16 7 (dk_at dksJ18_mismatch_0 5 rfl rfl)
theorem dJ18_mismatch_7 : decode cJ18_mismatch 7 = .ok (.if_icmp .le 63, 3) := dk_164 0 63 (dk_at dksJ18_mismatch_0 7 rfl rfl)
theorem dJ18_mismatch_10 : decode cJ18_mismatch 10 = .ok (.aload_n 0, 1) := dk_42 (dk_at dksJ18_mismatch_0 10 rfl rfl)
theorem dJ18_mismatch_11 : decode cJ18_mismatch 11 = .ok (.iload_n 1, 1) := dk_27 (dk_at dksJ18_mismatch_0 11 rfl rfl)
theorem dJ18_mismatch_12 : decode cJ18_mismatch 12 = .ok (.baload, 1) := dk_51 (dk_at dksJ18_mismatch_0 12 rfl rfl)
theorem dJ18_mismatch_13 : decode cJ18_mismatch 13 = .ok (.aload_n 2, 1) := dk_44 (dk_at dksJ18_mismatch_0 13 rfl rfl)
theorem dJ18_mismatch_14 : decode cJ18_mismatch 14 = .ok (.iload_n 3, 1) := dk_29 (dk_at dksJ18_mismatch_0 14 rfl rfl)
theorem dJ18_mismatch_15 : decode cJ18_mismatch 15 = .ok (.baload, 1) := dk_51 (dk_at dksJ18_mismatch_0 15 rfl rfl)
theorem dJ18_mismatch_16 : decode cJ18_mismatch 16 = .ok (.if_icmp .eq 5, 3) := dk_159 0 5 (dk_at dksJ18_mismatch_0 16 rfl rfl)
theorem dJ18_mismatch_19 : decode cJ18_mismatch 19 = .ok (.iconst 0, 1) := dk_3 (dk_at dksJ18_mismatch_0 19 rfl rfl)
theorem dJ18_mismatch_20 : decode cJ18_mismatch 20 = .ok (.ireturn, 1) := dk_172 (dk_at dksJ18_mismatch_0 20 rfl rfl)
theorem dJ18_mismatch_21 : decode cJ18_mismatch 21 = .ok (.getstatic 126, 3) := dk_178 0 126 (dk_at dksJ18_mismatch_0 21 rfl rfl)
theorem dJ18_mismatch_24 : decode cJ18_mismatch 24 = .ok (.iload_n 1, 1) := dk_27 (dk_at dksJ18_mismatch_1 0 rfl rfl)
theorem dJ18_mismatch_25 : decode cJ18_mismatch 25 = .ok (.iadd, 1) := dk_96 (dk_at dksJ18_mismatch_1 1 rfl rfl)
theorem dJ18_mismatch_26 : decode cJ18_mismatch 26 = .ok (.istore 6, 2) := dk_54 6 (dk_at dksJ18_mismatch_1 2 rfl rfl)
theorem dJ18_mismatch_28 : decode cJ18_mismatch 28 = .ok (.getstatic 126, 3) := dk_178 0 126 (dk_at dksJ18_mismatch_1 4 rfl rfl)
theorem dJ18_mismatch_31 : decode cJ18_mismatch 31 = .ok (.iload_n 3, 1) := dk_29 (dk_at dksJ18_mismatch_1 7 rfl rfl)
theorem dJ18_mismatch_32 : decode cJ18_mismatch 32 = .ok (.iadd, 1) := dk_96 (dk_at dksJ18_mismatch_1 8 rfl rfl)
theorem dJ18_mismatch_33 : decode cJ18_mismatch 33 = .ok (.istore 7, 2) := dk_54 7 (dk_at dksJ18_mismatch_1 9 rfl rfl)
theorem dJ18_mismatch_35 : decode cJ18_mismatch 35 = .ok (.aload_n 0, 1) := dk_42 (dk_at dksJ18_mismatch_1 11 rfl rfl)
theorem dJ18_mismatch_36 : decode cJ18_mismatch 36 = .ok (.iload 6, 2) := dk_21 6 (dk_at dksJ18_mismatch_1 12 rfl rfl)
theorem dJ18_mismatch_38 : decode cJ18_mismatch 38 = .ok (.i2l, 1) := dk_133 (dk_at dksJ18_mismatch_1 14 rfl rfl)
theorem dJ18_mismatch_39 : decode cJ18_mismatch 39 = .ok (.aload_n 2, 1) := dk_44 (dk_at dksJ18_mismatch_1 15 rfl rfl)
theorem dJ18_mismatch_40 : decode cJ18_mismatch 40 = .ok (.iload 7, 2) := dk_21 7 (dk_at dksJ18_mismatch_1 16 rfl rfl)
theorem dJ18_mismatch_42 : decode cJ18_mismatch 42 = .ok (.i2l, 1) := dk_133 (dk_at dksJ18_mismatch_1 18 rfl rfl)
theorem dJ18_mismatch_43 : decode cJ18_mismatch 43 = .ok (.iload 4, 2) := dk_21 4 (dk_at dksJ18_mismatch_1 19 rfl rfl)
theorem dJ18_mismatch_45 : decode cJ18_mismatch 45 = .ok (.getstatic 129, 3) := dk_178 0 129 (dk_at dksJ18_mismatch_1 21 rfl rfl)
theorem dJ18_mismatch_48 : decode cJ18_mismatch 48 = .ok (.invokestatic 122, 3) := dk_184 0 122 (dk_at dksJ18_mismatch_2 0 rfl rfl)
theorem dJ18_mismatch_51 : decode cJ18_mismatch 51 = .ok (.istore 5, 2) := dk_54 5 (dk_at dksJ18_mismatch_2 3 rfl rfl)
theorem dJ18_mismatch_53 : decode cJ18_mismatch 53 = .ok (.iload 5, 2) := dk_21 5 (dk_at dksJ18_mismatch_2 5 rfl rfl)
theorem dJ18_mismatch_55 : decode cJ18_mismatch 55 = .ok (.ifCond .lt 6, 3) := dk_155 0 6 (dk_at dksJ18_mismatch_2 7 rfl rfl)
theorem dJ18_mismatch_58 : decode cJ18_mismatch 58 = .ok (.iload 5, 2) := dk_21 5 (dk_at dksJ18_mismatch_2 10 rfl rfl)
theorem dJ18_mismatch_60 : decode cJ18_mismatch 60 = .ok (.ireturn, 1) := dk_172 (dk_at dksJ18_mismatch_2 12 rfl rfl)
theorem dJ18_mismatch_61 : decode cJ18_mismatch 61 = .ok (.iload 4, 2) := dk_21 4 (dk_at dksJ18_mismatch_2 13 rfl rfl)
theorem dJ18_mismatch_63 : decode cJ18_mismatch 63 = .ok (.iload 5, 2) := dk_21 5 (dk_at dksJ18_mismatch_2 15 rfl rfl)
theorem dJ18_mismatch_65 : decode cJ18_mismatch 65 = .ok (.iconst (-1), 1) := dk_2 (dk_at dksJ18_mismatch_2 17 rfl rfl)
theorem dJ18_mismatch_66 : decode cJ18_mismatch 66 = .ok (.ixor, 1) := dk_130 (dk_at dksJ18_mismatch_2 18 rfl rfl)
theorem dJ18_mismatch_67 : decode cJ18_mismatch 67 = .ok (.isub, 1) := dk_100 (dk_at dksJ18_mismatch_2 19 rfl rfl)
theorem dJ18_mismatch_68 : decode cJ18_mismatch 68 = .ok (.istore 5, 2) := dk_54 5 (dk_at dksJ18_mismatch_2 20 rfl rfl)
theorem dJ18_mismatch_70 : decode cJ18_mismatch 70 = .ok (.iload 5, 2) := dk_21 5 (dk_at dksJ18_mismatch_2 22 rfl rfl)
theorem dJ18_mismatch_72 : decode cJ18_mismatch 72 = .ok (.iload 4, 2) := dk_21 4 (dk_at dksJ18_mismatch_3 0 rfl rfl)
theorem dJ18_mismatch_74 : decode cJ18_mismatch 74 = .ok (.if_icmp .ge 27, 3) := dk_162 0 27 (dk_at dksJ18_mismatch_3 2 rfl rfl)
theorem dJ18_mismatch_77 : decode cJ18_mismatch 77 = .ok (.aload_n 0, 1) := dk_42 (dk_at dksJ18_mismatch_3 5 rfl rfl)
theorem dJ18_mismatch_78 : decode cJ18_mismatch 78 = .ok (.iload_n 1, 1) := dk_27 (dk_at dksJ18_mismatch_3 6 rfl rfl)
theorem dJ18_mismatch_79 : decode cJ18_mismatch 79 = .ok (.iload 5, 2) := dk_21 5 (dk_at dksJ18_mismatch_3 7 rfl rfl)
theorem dJ18_mismatch_81 : decode cJ18_mismatch 81 = .ok (.iadd, 1) := dk_96 (dk_at dksJ18_mismatch_3 9 rfl rfl)
theorem dJ18_mismatch_82 : decode cJ18_mismatch 82 = .ok (.baload, 1) := dk_51 (dk_at dksJ18_mismatch_3 10 rfl rfl)
theorem dJ18_mismatch_83 : decode cJ18_mismatch 83 = .ok (.aload_n 2, 1) := dk_44 (dk_at dksJ18_mismatch_3 11 rfl rfl)
theorem dJ18_mismatch_84 : decode cJ18_mismatch 84 = .ok (.iload_n 3, 1) := dk_29 (dk_at dksJ18_mismatch_3 12 rfl rfl)
theorem dJ18_mismatch_85 : decode cJ18_mismatch 85 = .ok (.iload 5, 2) := dk_21 5 (dk_at dksJ18_mismatch_3 13 rfl rfl)
theorem dJ18_mismatch_87 : decode cJ18_mismatch 87 = .ok (.iadd, 1) := dk_96 (dk_at dksJ18_mismatch_3 15 rfl rfl)
theorem dJ18_mismatch_88 : decode cJ18_mismatch 88 = .ok (.baload, 1) := dk_51 (dk_at dksJ18_mismatch_3 16 rfl rfl)
theorem dJ18_mismatch_89 : decode cJ18_mismatch 89 = .ok (.if_icmp .eq 6, 3) := dk_159 0 6 (dk_at dksJ18_mismatch_3 17 rfl rfl)
theorem dJ18_mismatch_92 : decode cJ18_mismatch 92 = .ok (.iload 5, 2) := dk_21 5 (dk_at dksJ18_mismatch_3 20 rfl rfl)
theorem dJ18_mismatch_94 : decode cJ18_mismatch 94 = .ok (.ireturn, 1) := dk_172 (dk_at dksJ18_mismatch_3 22 rfl rfl)
theorem dJ18_mismatch_95 : decode cJ18_mismatch 95 = .ok (.iinc 5 1, 3) := dk_132 5 1 (dk_at dksJ18_mismatch_4 0 rfl rfl)
theorem dJ18_mismatch_98 : decode cJ18_mismatch 98 = .ok (.goto (-28), 3) := dk_167 255 228 (dk_at dksJ18_mismatch_4 3 rfl rfl)
theorem dJ18_mismatch_101 : decode cJ18_mismatch 101 = .ok (.iconst (-1), 1) := dk_2 (dk_at dksJ18_mismatch_4 6 rfl rfl)
theorem dJ18_mismatch_102 : decode cJ18_mismatch 102 = .ok (.ireturn, 1) := dk_172 (dk_at dksJ18_mismatch_4 7 rfl rfl)
abbrev cJ5_startsWith_2 : ByteArray := prog_39_method_75_code
def yJ5_startsWith_2 : MethodName := ⟨RJ5, "startsWith", "(Ljava/lang/String;I)Z"⟩
def dkwJ5_startsWith_2_5 : List UInt8 := [159, 255, 229, 3, 172, 4, 172]
abbrev dktJ5_startsWith_2_5 : List UInt8 := dkwJ5_startsWith_2_5 ++ []
def dkwJ5_startsWith_2_4 : List UInt8 := [162, 0, 28, 45, 28, 132, 2, 1, 184, 1, 104, 25, 4, 21, 5, 132, 5, 1, 51, 17, 0, 255, 126]
abbrev dktJ5_startsWith_2_4 : List UInt8 := dkwJ5_startsWith_2_4 ++ dktJ5_startsWith_2_5
def dkwJ5_startsWith_2_3 : List UInt8 := [184, 2, 95, 156, 0, 7, 4, 167, 0, 4, 3, 172, 21, 7, 154, 0, 5, 3, 172, 21, 5, 21, 6]
abbrev dktJ5_startsWith_2_3 : List UInt8 := dkwJ5_startsWith_2_3 ++ dktJ5_startsWith_2_4
def dkwJ5_startsWith_2_2 : List UInt8 := [182, 1, 79, 160, 0, 32, 21, 7, 4, 160, 0, 7, 28, 4, 120, 61, 45, 28, 25, 4, 3, 21, 6]
abbrev dktJ5_startsWith_2_2 : List UInt8 := dkwJ5_startsWith_2_2 ++ dktJ5_startsWith_2_3
def dkwJ5_startsWith_2_1 : List UInt8 := [43, 180, 0, 9, 58, 4, 3, 54, 5, 25, 4, 190, 54, 6, 42, 182, 1, 79, 54, 7, 21, 7, 43]
abbrev dktJ5_startsWith_2_1 : List UInt8 := dkwJ5_startsWith_2_1 ++ dktJ5_startsWith_2_2
def dkwJ5_startsWith_2_0 : List UInt8 := [28, 155, 0, 16, 28, 42, 182, 1, 249, 43, 182, 1, 249, 100, 164, 0, 5, 3, 172, 42, 180, 0, 9, 78]
abbrev dktJ5_startsWith_2_0 : List UInt8 := dkwJ5_startsWith_2_0 ++ dktJ5_startsWith_2_1
theorem dksJ5_startsWith_2_0 : cJ5_startsWith_2.data.toList.drop 0 = dktJ5_startsWith_2_0 := by decide +kernel
theorem dksJ5_startsWith_2_1 : cJ5_startsWith_2.data.toList.drop 24 = dktJ5_startsWith_2_1 := dk_seg dksJ5_startsWith_2_0 24 rfl rfl
theorem dksJ5_startsWith_2_2 : cJ5_startsWith_2.data.toList.drop 47 = dktJ5_startsWith_2_2 := dk_seg dksJ5_startsWith_2_1 23 rfl rfl
theorem dksJ5_startsWith_2_3 : cJ5_startsWith_2.data.toList.drop 70 = dktJ5_startsWith_2_3 := dk_seg dksJ5_startsWith_2_2 23 rfl rfl
theorem dksJ5_startsWith_2_4 : cJ5_startsWith_2.data.toList.drop 93 = dktJ5_startsWith_2_4 := dk_seg dksJ5_startsWith_2_3 23 rfl rfl
theorem dksJ5_startsWith_2_5 : cJ5_startsWith_2.data.toList.drop 116 = dktJ5_startsWith_2_5 := dk_seg dksJ5_startsWith_2_4 23 rfl rfl
theorem dJ5_startsWith_2_0 : decode cJ5_startsWith_2 0 = .ok (.iload_n 2, 1) := dk_28 (dk_at dksJ5_startsWith_2_0 0 rfl rfl)
theorem dJ5_startsWith_2_1 : decode cJ5_startsWith_2 1 = .ok (.ifCond .lt 16, 3) := dk_155 0 16 (dk_at dksJ5_startsWith_2_0 1 rfl rfl)
theorem dJ5_startsWith_2_4 : decode cJ5_startsWith_2 4 = .ok (.iload_n 2, 1) := dk_28 (dk_at dksJ5_startsWith_2_0 4 rfl rfl)
theorem dJ5_startsWith_2_5 : decode cJ5_startsWith_2 5 = .ok (.aload_n 0, 1) := dk_42 (dk_at dksJ5_startsWith_2_0 5 rfl rfl)
theorem dJ5_startsWith_2_6 : decode cJ5_startsWith_2 6 = .ok (.invokevirtual 505, 3) := dk_182 1 249 (dk_at dksJ5_startsWith_2_0 6 rfl rfl)
theorem dJ5_startsWith_2_9 : decode cJ5_startsWith_2 9 = .ok (.aload_n 1, 1) := dk_43 (dk_at dksJ5_startsWith_2_0 9 rfl rfl)
theorem dJ5_startsWith_2_10 : decode cJ5_startsWith_2 10 = .ok (.invokevirtual 505, 3) := dk_182 1 249 (dk_at dksJ5_startsWith_2_0 10 rfl rfl)
theorem dJ5_startsWith_2_13 : decode cJ5_startsWith_2 13 = .ok (.isub, 1) := dk_100 (dk_at dksJ5_startsWith_2_0 13 rfl rfl)
theorem dJ5_startsWith_2_14 : decode cJ5_startsWith_2 14 = .ok (.if_icmp .le 5, 3) := dk_164 0 5 (dk_at dksJ5_startsWith_2_0 14 rfl rfl)
theorem dJ5_startsWith_2_17 : decode cJ5_startsWith_2 17 = .ok (.iconst 0, 1) := dk_3 (dk_at dksJ5_startsWith_2_0 17 rfl rfl)
theorem dJ5_startsWith_2_18 : decode cJ5_startsWith_2 18 = .ok (.ireturn, 1) := dk_172 (dk_at dksJ5_startsWith_2_0 18 rfl rfl)
theorem dJ5_startsWith_2_19 : decode cJ5_startsWith_2 19 = .ok (.aload_n 0, 1) := dk_42 (dk_at dksJ5_startsWith_2_0 19 rfl rfl)
theorem dJ5_startsWith_2_20 : decode cJ5_startsWith_2 20 = .ok (.getfield 9, 3) := dk_180 0 9 (dk_at dksJ5_startsWith_2_0 20 rfl rfl)
theorem dJ5_startsWith_2_23 : decode cJ5_startsWith_2 23 = .ok (.astore_n 3, 1) := dk_78 (dk_at dksJ5_startsWith_2_0 23 rfl rfl)
theorem dJ5_startsWith_2_24 : decode cJ5_startsWith_2 24 = .ok (.aload_n 1, 1) := dk_43 (dk_at dksJ5_startsWith_2_1 0 rfl rfl)
theorem dJ5_startsWith_2_25 : decode cJ5_startsWith_2 25 = .ok (.getfield 9, 3) := dk_180 0 9 (dk_at dksJ5_startsWith_2_1 1 rfl rfl)
theorem dJ5_startsWith_2_28 : decode cJ5_startsWith_2 28 = .ok (.astore 4, 2) := dk_58 4 (dk_at dksJ5_startsWith_2_1 4 rfl rfl)
theorem dJ5_startsWith_2_30 : decode cJ5_startsWith_2 30 = .ok (.iconst 0, 1) := dk_3 (dk_at dksJ5_startsWith_2_1 6 rfl rfl)
theorem dJ5_startsWith_2_31 : decode cJ5_startsWith_2 31 = .ok (.istore 5, 2) := dk_54 5 (dk_at dksJ5_startsWith_2_1 7 rfl rfl)
theorem dJ5_startsWith_2_33 : decode cJ5_startsWith_2 33 = .ok (.aload 4, 2) := dk_25 4 (dk_at dksJ5_startsWith_2_1 9 rfl rfl)
theorem dJ5_startsWith_2_35 : decode cJ5_startsWith_2 35 = .ok (.arraylength, 1) := dk_190 (dk_at dksJ5_startsWith_2_1 11 rfl rfl)
theorem dJ5_startsWith_2_36 : decode cJ5_startsWith_2 36 = .ok (.istore 6, 2) := dk_54 6 (dk_at dksJ5_startsWith_2_1 12 rfl rfl)
theorem dJ5_startsWith_2_38 : decode cJ5_startsWith_2 38 = .ok (.aload_n 0, 1) := dk_42 (dk_at dksJ5_startsWith_2_1 14 rfl rfl)
theorem dJ5_startsWith_2_39 : decode cJ5_startsWith_2 39 = .ok (.invokevirtual 335, 3) := dk_182 1 79 (dk_at dksJ5_startsWith_2_1 15 rfl rfl)
theorem dJ5_startsWith_2_42 : decode cJ5_startsWith_2 42 = .ok (.istore 7, 2) := dk_54 7 (dk_at dksJ5_startsWith_2_1 18 rfl rfl)
theorem dJ5_startsWith_2_44 : decode cJ5_startsWith_2 44 = .ok (.iload 7, 2) := dk_21 7 (dk_at dksJ5_startsWith_2_1 20 rfl rfl)
theorem dJ5_startsWith_2_46 : decode cJ5_startsWith_2 46 = .ok (.aload_n 1, 1) := dk_43 (dk_at dksJ5_startsWith_2_1 22 rfl rfl)
theorem dJ5_startsWith_2_47 : decode cJ5_startsWith_2 47 = .ok (.invokevirtual 335, 3) := dk_182 1 79 (dk_at dksJ5_startsWith_2_2 0 rfl rfl)
theorem dJ5_startsWith_2_50 : decode cJ5_startsWith_2 50 = .ok (.if_icmp .ne 32, 3) := dk_160 0 32 (dk_at dksJ5_startsWith_2_2 3 rfl rfl)
theorem dJ5_startsWith_2_53 : decode cJ5_startsWith_2 53 = .ok (.iload 7, 2) := dk_21 7 (dk_at dksJ5_startsWith_2_2 6 rfl rfl)
theorem dJ5_startsWith_2_55 : decode cJ5_startsWith_2 55 = .ok (.iconst 1, 1) := dk_4 (dk_at dksJ5_startsWith_2_2 8 rfl rfl)
theorem dJ5_startsWith_2_56 : decode cJ5_startsWith_2 56 = .ok (.if_icmp .ne 7, 3) := dk_160 0 7 (dk_at dksJ5_startsWith_2_2 9 rfl rfl)
theorem dJ5_startsWith_2_59 : decode cJ5_startsWith_2 59 = .ok (.iload_n 2, 1) := dk_28 (dk_at dksJ5_startsWith_2_2 12 rfl rfl)
theorem dJ5_startsWith_2_60 : decode cJ5_startsWith_2 60 = .ok (.iconst 1, 1) := dk_4 (dk_at dksJ5_startsWith_2_2 13 rfl rfl)
theorem dJ5_startsWith_2_61 : decode cJ5_startsWith_2 61 = .ok (.ishl, 1) := dk_120 (dk_at dksJ5_startsWith_2_2 14 rfl rfl)
theorem dJ5_startsWith_2_62 : decode cJ5_startsWith_2 62 = .ok (.istore_n 2, 1) := dk_61 (dk_at dksJ5_startsWith_2_2 15 rfl rfl)
theorem dJ5_startsWith_2_63 : decode cJ5_startsWith_2 63 = .ok (.aload_n 3, 1) := dk_45 (dk_at dksJ5_startsWith_2_2 16 rfl rfl)
theorem dJ5_startsWith_2_64 : decode cJ5_startsWith_2 64 = .ok (.iload_n 2, 1) := dk_28 (dk_at dksJ5_startsWith_2_2 17 rfl rfl)
theorem dJ5_startsWith_2_65 : decode cJ5_startsWith_2 65 = .ok (.aload 4, 2) := dk_25 4 (dk_at dksJ5_startsWith_2_2 18 rfl rfl)
theorem dJ5_startsWith_2_67 : decode cJ5_startsWith_2 67 = .ok (.iconst 0, 1) := dk_3 (dk_at dksJ5_startsWith_2_2 20 rfl rfl)
theorem dJ5_startsWith_2_68 : decode cJ5_startsWith_2 68 = .ok (.iload 6, 2) := dk_21 6 (dk_at dksJ5_startsWith_2_2 21 rfl rfl)
theorem dJ5_startsWith_2_70 : decode cJ5_startsWith_2 70 = .ok (.invokestatic 607, 3) := dk_184 2 95 (dk_at dksJ5_startsWith_2_3 0 rfl rfl)
theorem dJ5_startsWith_2_73 : decode cJ5_startsWith_2 73 = .ok (.ifCond .ge 7, 3) := dk_156 0 7 (dk_at dksJ5_startsWith_2_3 3 rfl rfl)
theorem dJ5_startsWith_2_76 : decode cJ5_startsWith_2 76 = .ok (.iconst 1, 1) := dk_4 (dk_at dksJ5_startsWith_2_3 6 rfl rfl)
theorem dJ5_startsWith_2_77 : decode cJ5_startsWith_2 77 = .ok (.goto 4, 3) := dk_167 0 4 (dk_at dksJ5_startsWith_2_3 7 rfl rfl)
theorem dJ5_startsWith_2_80 : decode cJ5_startsWith_2 80 = .ok (.iconst 0, 1) := dk_3 (dk_at dksJ5_startsWith_2_3 10 rfl rfl)
theorem dJ5_startsWith_2_81 : decode cJ5_startsWith_2 81 = .ok (.ireturn, 1) := dk_172 (dk_at dksJ5_startsWith_2_3 11 rfl rfl)
theorem dJ5_startsWith_2_82 : decode cJ5_startsWith_2 82 = .ok (.iload 7, 2) := dk_21 7 (dk_at dksJ5_startsWith_2_3 12 rfl rfl)
theorem dJ5_startsWith_2_84 : decode cJ5_startsWith_2 84 = .ok (.ifCond .ne 5, 3) := dk_154 0 5 (dk_at dksJ5_startsWith_2_3 14 rfl rfl)
theorem dJ5_startsWith_2_87 : decode cJ5_startsWith_2 87 = .ok (.iconst 0, 1) := dk_3 (dk_at dksJ5_startsWith_2_3 17 rfl rfl)
theorem dJ5_startsWith_2_88 : decode cJ5_startsWith_2 88 = .ok (.ireturn, 1) := dk_172 (dk_at dksJ5_startsWith_2_3 18 rfl rfl)
theorem dJ5_startsWith_2_89 : decode cJ5_startsWith_2 89 = .ok (.iload 5, 2) := dk_21 5 (dk_at dksJ5_startsWith_2_3 19 rfl rfl)
theorem dJ5_startsWith_2_91 : decode cJ5_startsWith_2 91 = .ok (.iload 6, 2) := dk_21 6 (dk_at dksJ5_startsWith_2_3 21 rfl rfl)
theorem dJ5_startsWith_2_93 : decode cJ5_startsWith_2 93 = .ok (.if_icmp .ge 28, 3) := dk_162 0 28 (dk_at dksJ5_startsWith_2_4 0 rfl rfl)
theorem dJ5_startsWith_2_96 : decode cJ5_startsWith_2 96 = .ok (.aload_n 3, 1) := dk_45 (dk_at dksJ5_startsWith_2_4 3 rfl rfl)
theorem dJ5_startsWith_2_97 : decode cJ5_startsWith_2 97 = .ok (.iload_n 2, 1) := dk_28 (dk_at dksJ5_startsWith_2_4 4 rfl rfl)
theorem dJ5_startsWith_2_98 : decode cJ5_startsWith_2 98 = .ok (.iinc 2 1, 3) := dk_132 2 1 (dk_at dksJ5_startsWith_2_4 5 rfl rfl)
theorem dJ5_startsWith_2_101 : decode cJ5_startsWith_2 101 = .ok (.invokestatic 360, 3) := dk_184 1 104 (dk_at dksJ5_startsWith_2_4 8 rfl rfl)
theorem dJ5_startsWith_2_104 : decode cJ5_startsWith_2 104 = .ok (.aload 4, 2) := dk_25 4 (dk_at dksJ5_startsWith_2_4 11 rfl rfl)
theorem dJ5_startsWith_2_106 : decode cJ5_startsWith_2 106 = .ok (.iload 5, 2) := dk_21 5 (dk_at dksJ5_startsWith_2_4 13 rfl rfl)
theorem dJ5_startsWith_2_108 : decode cJ5_startsWith_2 108 = .ok (.iinc 5 1, 3) := dk_132 5 1 (dk_at dksJ5_startsWith_2_4 15 rfl rfl)
theorem dJ5_startsWith_2_111 : decode cJ5_startsWith_2 111 = .ok (.baload, 1) := dk_51 (dk_at dksJ5_startsWith_2_4 18 rfl rfl)
theorem dJ5_startsWith_2_112 : decode cJ5_startsWith_2 112 = .ok (.sipush 255, 3) := dk_17 0 255 (dk_at dksJ5_startsWith_2_4 19 rfl rfl)
theorem dJ5_startsWith_2_115 : decode cJ5_startsWith_2 115 = .ok (.iand, 1) := dk_126 (dk_at dksJ5_startsWith_2_4 22 rfl rfl)
theorem dJ5_startsWith_2_116 : decode cJ5_startsWith_2 116 = .ok (.if_icmp .eq (-27), 3) := dk_159 255 229 (dk_at dksJ5_startsWith_2_5 0 rfl rfl)
theorem dJ5_startsWith_2_119 : decode cJ5_startsWith_2 119 = .ok (.iconst 0, 1) := dk_3 (dk_at dksJ5_startsWith_2_5 3 rfl rfl)
theorem dJ5_startsWith_2_120 : decode cJ5_startsWith_2 120 = .ok (.ireturn, 1) := dk_172 (dk_at dksJ5_startsWith_2_5 4 rfl rfl)
theorem dJ5_startsWith_2_121 : decode cJ5_startsWith_2 121 = .ok (.iconst 1, 1) := dk_4 (dk_at dksJ5_startsWith_2_5 5 rfl rfl)
theorem dJ5_startsWith_2_122 : decode cJ5_startsWith_2 122 = .ok (.ireturn, 1) := dk_172 (dk_at dksJ5_startsWith_2_5 6 rfl rfl)
abbrev cJ5_startsWith : ByteArray := prog_39_method_76_code
def yJ5_startsWith : MethodName := ⟨RJ5, "startsWith", "(Ljava/lang/String;)Z"⟩
def dkwJ5_startsWith_0 : List UInt8 := [42, 43, 3, 182, 2, 112, 172]
abbrev dktJ5_startsWith_0 : List UInt8 := dkwJ5_startsWith_0 ++ []
theorem dksJ5_startsWith_0 : cJ5_startsWith.data.toList.drop 0 = dktJ5_startsWith_0 := by decide +kernel
theorem dJ5_startsWith_0 : decode cJ5_startsWith 0 = .ok (.aload_n 0, 1) := dk_42 (dk_at dksJ5_startsWith_0 0 rfl rfl)
theorem dJ5_startsWith_1 : decode cJ5_startsWith 1 = .ok (.aload_n 1, 1) := dk_43 (dk_at dksJ5_startsWith_0 1 rfl rfl)
theorem dJ5_startsWith_2 : decode cJ5_startsWith 2 = .ok (.iconst 0, 1) := dk_3 (dk_at dksJ5_startsWith_0 2 rfl rfl)
theorem dJ5_startsWith_3 : decode cJ5_startsWith 3 = .ok (.invokevirtual 624, 3) := dk_182 2 112 (dk_at dksJ5_startsWith_0 3 rfl rfl)
theorem dJ5_startsWith_6 : decode cJ5_startsWith 6 = .ok (.ireturn, 1) := dk_172 (dk_at dksJ5_startsWith_0 6 rfl rfl)
theorem q2063 : (Jvm.Cond.classLink "jdk/internal/util/ArraysSupport" (60 : Nat) "[B") ∈ lw_all := lw_g (lw_at lw_m9 83 rfl) rfl
theorem q2064 : (Jvm.Cond.methodLink "jdk/internal/util/ArraysSupport" (62 : Nat) ({ cls := "jdk/internal/util/ArraysSupport", name := "signedHashCode", desc := "(I[BII)I" } : Jvm.MethodName)) ∈ lw_all := lw_g (lw_at lw_m9 84 rfl) rfl
theorem q89 : (Jvm.Cond.initialized "jdk/internal/util/ArraysSupport") ∈ lw_all := lw_g (lw_at lw_m1 29 rfl) rfl
theorem q2066 : (Jvm.Cond.code ({ cls := "jdk/internal/util/ArraysSupport", name := "signedHashCode", desc := "(I[BII)I" } : Jvm.MethodName) prog_72_method_5_code (6 : Nat) (Option.some Jvm.ClassFile.FieldType.int)) ∈ lw_all := lw_g (lw_at lw_m9 86 rfl) rfl
theorem q2065 : (Jvm.Cond.static ({ cls := "jdk/internal/util/ArraysSupport", name := "signedHashCode", desc := "(I[BII)I" } : Jvm.MethodName)) ∈ lw_all := lw_g (lw_at lw_m9 85 rfl) rfl
theorem q2060 : (Jvm.Cond.methodLink "java/lang/StringLatin1" (84 : Nat) ({ cls := "jdk/internal/util/ArraysSupport", name := "vectorizedHashCode", desc := "(Ljava/lang/Object;IIII)I" } : Jvm.MethodName)) ∈ lw_all := lw_g (lw_at lw_m9 80 rfl) rfl
theorem q2062 : (Jvm.Cond.code ({ cls := "jdk/internal/util/ArraysSupport", name := "vectorizedHashCode", desc := "(Ljava/lang/Object;IIII)I" } : Jvm.MethodName) prog_72_method_4_code (5 : Nat) (Option.some Jvm.ClassFile.FieldType.int)) ∈ lw_all := lw_g (lw_at lw_m9 82 rfl) rfl
theorem q2061 : (Jvm.Cond.static ({ cls := "jdk/internal/util/ArraysSupport", name := "vectorizedHashCode", desc := "(Ljava/lang/Object;IIII)I" } : Jvm.MethodName)) ∈ lw_all := lw_g (lw_at lw_m9 81 rfl) rfl
theorem q786 : (Jvm.Cond.fieldLink "java/lang/String" (19 : Nat) "java/lang/String" "hash" "I") ∈ lw_all := lw_g (lw_at lw_m4 6 rfl) rfl
theorem q787 : (Jvm.Cond.fieldLink "java/lang/String" (23 : Nat) "java/lang/String" "hashIsZero" "Z") ∈ lw_all := lw_g (lw_at lw_m4 7 rfl) rfl
theorem q2057 : (Jvm.Cond.methodLink "java/lang/String" (628 : Nat) ({ cls := "java/lang/StringLatin1", name := "hashCode", desc := "([B)I" } : Jvm.MethodName)) ∈ lw_all := lw_g (lw_at lw_m9 77 rfl) rfl
theorem q2059 : (Jvm.Cond.code ({ cls := "java/lang/StringLatin1", name := "hashCode", desc := "([B)I" } : Jvm.MethodName) prog_42_method_21_code (1 : Nat) (Option.some Jvm.ClassFile.FieldType.int)) ∈ lw_all := lw_g (lw_at lw_m9 79 rfl) rfl
theorem q2058 : (Jvm.Cond.static ({ cls := "java/lang/StringLatin1", name := "hashCode", desc := "([B)I" } : Jvm.MethodName)) ∈ lw_all := lw_g (lw_at lw_m9 78 rfl) rfl
theorem q1925 : (Jvm.Cond.methodLink "java/lang/String" (607 : Nat) ({ cls := "jdk/internal/util/ArraysSupport", name := "mismatch", desc := "([BI[BII)I" } : Jvm.MethodName)) ∈ lw_all := lw_g (lw_at lw_m8 185 rfl) rfl
theorem q1927 : (Jvm.Cond.code ({ cls := "jdk/internal/util/ArraysSupport", name := "mismatch", desc := "([BI[BII)I" } : Jvm.MethodName) prog_72_method_14_code (8 : Nat) (Option.some Jvm.ClassFile.FieldType.int)) ∈ lw_all := lw_g (lw_at lw_m8 187 rfl) rfl
theorem q1926 : (Jvm.Cond.static ({ cls := "jdk/internal/util/ArraysSupport", name := "mismatch", desc := "([BI[BII)I" } : Jvm.MethodName)) ∈ lw_all := lw_g (lw_at lw_m8 186 rfl) rfl
theorem q1920 : (Jvm.Cond.methodLink "java/lang/String" (624 : Nat) ({ cls := "java/lang/String", name := "startsWith", desc := "(Ljava/lang/String;I)Z" } : Jvm.MethodName)) ∈ lw_all := lw_g (lw_at lw_m8 180 rfl) rfl
theorem q1923 : (Jvm.Cond.code ({ cls := "java/lang/String", name := "startsWith", desc := "(Ljava/lang/String;I)Z" } : Jvm.MethodName) prog_39_method_75_code (8 : Nat) (Option.some Jvm.ClassFile.FieldType.boolean)) ∈ lw_all := lw_g (lw_at lw_m8 183 rfl) rfl
theorem q1921 : (Jvm.Cond.instanceMethod ({ cls := "java/lang/String", name := "startsWith", desc := "(Ljava/lang/String;I)Z" } : Jvm.MethodName)) ∈ lw_all := lw_g (lw_at lw_m8 181 rfl) rfl
theorem q1922 : (Jvm.Cond.selects "java/lang/String" ({ cls := "java/lang/String", name := "startsWith", desc := "(Ljava/lang/String;I)Z" } : Jvm.MethodName) ({ cls := "java/lang/String", name := "startsWith", desc := "(Ljava/lang/String;I)Z" } : Jvm.MethodName)) ∈ lw_all := lw_g (lw_at lw_m8 182 rfl) rfl
def misL (f g : Nat → Int32) : Nat → Nat → Int32
  | 0, _ => -1
  | m + 1, j => if f j = g j then misL f g m (j + 1) else nI j
theorem misL_t {f g : Nat → Int32} {m j : Nat} {F : Int32} (h : f j = g j) (z : misL f g (m + 1) j = F) : misL f g m (j + 1) = F := by
  rw [misL, if_pos h] at z; exact z
theorem misL_f {f g : Nat → Int32} {m j : Nat} {F : Int32} (h : ¬ f j = g j) (z : misL f g (m + 1) j = F) : nI j = F := by
  rw [misL, if_neg h] at z; exact z
theorem misL_eq {f g : Nat → Int32} : ∀ m j, j + m < 2 ^ 31 → (eqL f g m j = true → misL f g m j = -1) ∧ (eqL f g m j = false → 0 ≤ misL f g m j) := by
  intro m
  induction m with
  | zero => intro j _; exact ⟨fun _ => rfl, fun h => (by cases h)⟩
  | succ m ih =>
    intro j hj
    rw [misL, eqL]
    by_cases e : f j = g j
    · rw [if_pos e, if_pos e]; exact ih (j + 1) (by omega)
    · rw [if_neg e, if_neg e]; exact ⟨fun h => (by cases h), fun _ => nI_pos' (by omega)⟩
def stW (n : Nat) (f : Nat → Int32) (m : Nat) (g : Nat → Int32) : Bool := decide (m ≤ n) && eqL f g m 0
theorem a_signedHash (l : Launch) (G : GE) (h : AH) (b n : Nat) (f : Nat → Int32) (r2 : Rd G h b (aB G n f)) (r3 : n < 1000) (v : Int32) : GM l G yJ18_signedHashCode (ws_ yJ18_signedHashCode cJ18_signedHashCode 6 (some .int)) 1 [.int v, .ref b, .int 0, .int (nI n)] (h) (0) (PV (.int (haL f n 0 v)) h) := by
  refine GM.of (by decide) (dk rfl) ?_
  intro X eL eG eh ok fn
  subst eL; subst eG
  show GW X _ 0 0 [some (.int v), some (.ref b), some (.int 0), some (.int (nI n)), none, none] []
  refine g_iload_n ok dJ18_signedHashCode_0 rfl ?_
  refine g_iload_n ok dJ18_signedHashCode_1 rfl ?_
  refine g_iaddN ok dJ18_signedHashCode_2 (c := n) (a := 0) (b := n) rfl rfl (by omega) ?_
  refine g_istore ok dJ18_signedHashCode_3 (ls1 := [some (.int v), some (.ref b), some (.int 0), some (.int (nI n)), some (.int (nI n)), none]) (dl rfl) rfl ?_
  refine g_iload_n ok dJ18_signedHashCode_5 rfl ?_
  refine g_istore ok dJ18_signedHashCode_6 (ls1 := [some (.int v), some (.ref b), some (.int 0), some (.int (nI n)), some (.int (nI n)), some (.int 0)]) (dl rfl) rfl ?_
  obtain ⟨F, hF⟩ : ∃ F : Int32, haL f n 0 v = F := ⟨_, rfl⟩
  rw [hF] at fn
  have lp : ∀ (k : Nat) (j : Nat) (u : Int32), (j + k = n) → (haL f k j u = F) → GW X h 0 8 [some (.int u), some (.ref b), some (.int 0), some (.int (nI n)), some (.int (nI n)), some (.int (nI j))] [] := by
    intro k
    induction k with
    | zero =>
      intro j u g0 g1
      refine g_iload ok dJ18_signedHashCode_8 rfl ?_
      refine g_iload ok dJ18_signedHashCode_10 rfl ?_
      refine g_icmp_ge ok (tgt := 35) dJ18_signedHashCode_12 (by decide) (fun _ => ?_) (fun c_ => absurd (nI_le (a := n) (b := j) (by omega) (by omega)) c_)
      refine g_iload_n ok dJ18_signedHashCode_35 rfl ?_
      exact g_iret ok fn rfl dJ18_signedHashCode_36 (pv_h g1) (by omega)
    | succ k ih =>
      intro j u g0 g1
      refine g_iload ok dJ18_signedHashCode_8 rfl ?_
      refine g_iload ok dJ18_signedHashCode_10 rfl ?_
      refine g_icmp_ge ok (tgt := 35) dJ18_signedHashCode_12 (by decide) (fun c_ => absurd c_ (nI_ge (a := j) (b := n) (by omega) (by omega))) (fun _ => ?_)
      refine g_bipush ok (v := 31) dJ18_signedHashCode_15 rfl ?_
      refine g_iload_n ok dJ18_signedHashCode_17 rfl ?_
      refine g_imul ok dJ18_signedHashCode_18 ?_
      refine g_aload_n ok dJ18_signedHashCode_19 rfl ?_
      refine g_iload ok dJ18_signedHashCode_20 rfl ?_
      refine g_bald ok (j := j) dJ18_signedHashCode_22 (r2) rfl (by omega) (by omega) ?_
      refine g_sipush ok (v := 255) dJ18_signedHashCode_23 rfl ?_
      refine g_iand ok dJ18_signedHashCode_26 ?_
      refine g_iadd ok dJ18_signedHashCode_27 ?_
      refine g_istore_n ok dJ18_signedHashCode_28 (ls1 := [some (.int ((31 * u) + ((f j) &&& 255))), some (.ref b), some (.int 0), some (.int (nI n)), some (.int (nI n)), some (.int (nI j))]) (dl rfl) rfl ?_
      refine g_iincN ok dJ18_signedHashCode_29 (c := j) rfl rfl (ls1 := [some (.int ((31 * u) + ((f j) &&& 255))), some (.ref b), some (.int 0), some (.int (nI n)), some (.int (nI n)), some (.int (nI (j + 1)))]) rfl ?_
      refine g_goto ok dJ18_signedHashCode_32 (tgt := 8) (by decide) ?_
      exact ih _ _ (by omega) g1
  exact lp n 0 v (by omega) hF
theorem a_vecHash (l : Launch) (G : GE) (h : AH) (b n : Nat) (f : Nat → Int32) (r2 : h b = some (aB G n f)) (r3 : n < 1000) : GM l G yJ18_vectorizedHashCode (ws_ yJ18_vectorizedHashCode cJ18_vectorizedHashCode 5 (some .int)) 2 [.ref b, .int 0, .int (nI n), .int 0, .int 4] (h) (0) (PV (.int (haL f n 0 0)) h) := by
  refine GM.of (by decide) (dk rfl) ?_
  intro X eL eG eh ok fn
  subst eL; subst eG
  show GW X _ 0 0 [some (.ref b), some (.int 0), some (.int (nI n)), some (.int 0), some (.int 4)] []
  refine g_iload ok dJ18_vectorizedHashCode_0 rfl ?_
  refine g_tableIn ok (tgt := 44) (off := 42) dJ18_vectorizedHashCode_2 (by decide) (by decide) rfl (by decide) ?_
  refine g_iload_n ok dJ18_vectorizedHashCode_44 rfl ?_
  refine g_aload_n ok dJ18_vectorizedHashCode_45 rfl ?_
  refine g_castB ok q2063 dJ18_vectorizedHashCode_46 (r2) ?_
  refine g_iload_n ok dJ18_vectorizedHashCode_49 rfl ?_
  refine g_iload_n ok dJ18_vectorizedHashCode_50 rfl ?_
  refine g_callS ok q2064 q2065 q89 q2066 dJ18_vectorizedHashCode_51 (a_signedHash X.l X.G _ b n f (Rd.h (r2)) (by omega) 0) (nm_ (by decide : nmb _ 4 = true)) (dl rfl) (dk rfl) rfl rfl (dk rfl) (by omega) (kV ?_) xV
  refine g_goto ok dJ18_vectorizedHashCode_54 (tgt := 157) (by decide) ?_
  exact g_iret ok fn rfl dJ18_vectorizedHashCode_157 (pv_h rfl) (by omega)
theorem l_hash (l : Launch) (G : GE) (h : AH) (b n : Nat) (f : Nat → Int32) (r2 : h b = some (aB G n f)) (r3 : n < 1000) (hn : n = 3 ∨ n = 4 ∨ n = 5) : GM l G yJ21_hashCode (ws_ yJ21_hashCode cJ21_hashCode 1 (some .int)) 3 [.ref b] (h) (0) (PV (.int (haL f n 0 0)) h) := by
  refine GM.of (by decide) (dk rfl) ?_
  intro X eL eG eh ok fn
  subst eL; subst eG
  show GW X _ 0 0 [some (.ref b)] []
  refine g_aload_n ok dJ21_hashCode_0 rfl ?_
  refine g_alen ok dJ21_hashCode_1 (Rd.h (r2)) (gt_b _) ?_
  refine g_lookup ok (tgt := 42) (off := 40) dJ21_hashCode_2 (by decide) ?_ (by decide) ?_
  · rcases hn with e | e | e <;> subst e <;> first | exact (by decide : Op.lookupswitch.offset [(0, 26), (1, 30)] 40 (nI 3).toInt = 40) | exact (by decide : Op.lookupswitch.offset [(0, 26), (1, 30)] 40 (nI 4).toInt = 40) | exact (by decide : Op.lookupswitch.offset [(0, 26), (1, 30)] 40 (nI 5).toInt = 40)
  refine g_aload_n ok dJ21_hashCode_42 rfl ?_
  refine g_iconst ok (v := 0) dJ21_hashCode_43 rfl ?_
  refine g_aload_n ok dJ21_hashCode_44 rfl ?_
  refine g_alen ok dJ21_hashCode_45 (Rd.h (r2)) (gt_b _) ?_
  refine g_iconst ok (v := 0) dJ21_hashCode_46 rfl ?_
  refine g_iconst ok (v := 4) dJ21_hashCode_47 rfl ?_
  refine g_callS ok q2060 q2061 q89 q2062 dJ21_hashCode_48 (a_vecHash X.l X.G _ b n f (r2) (by omega)) (nm_ (by decide : nmb _ 5 = true)) (dl rfl) (dk rfl) rfl rfl (dk rfl) (by omega) (kV ?_) xV
  exact g_iret ok fn rfl dJ21_hashCode_51 (pv_h rfl) (by omega)
theorem s_hash (l : Launch) (G : GE) (h : AH) (a b n : Nat) (f : Nat → Int32) (ra : h a = some (ob 15 [.ref b, .int 0, .int 0, .int 0])) (r2 : h b = some (aB G n f)) (r3 : n < 1000) (hn : n = 3 ∨ n = 4 ∨ n = 5) (hv : ¬ haL f n 0 0 = 0) : GM l G yJ5_hashCode (ws_ yJ5_hashCode cJ5_hashCode 2 (some .int)) 4 [.ref a] (h) (0) (PV (.int (haL f n 0 0)) (up h a (ob 15 [.ref b, .int 0, .int (haL f n 0 0), .int 0]))) := by
  refine GM.of (by decide) (dk rfl) ?_
  intro X eL eG eh ok fn
  subst eL; subst eG
  show GW X _ 0 0 [some (.ref a), none] []
  have y0 : StrA X.G h a b n f := ⟨⟨0, 0, Or.inl ra⟩, Or.inl r2, r3⟩
  have nab : a ≠ b := fun e => by subst e; rw [ra] at r2; cases r2
  refine g_aload_n ok dJ5_hashCode_0 rfl ?_
  refine g_get ok ck_J5 2 q786 (Or.inl rfl) (by decide) dJ5_hashCode_1 (Rd.h (ra)) rfl ?_
  refine g_istore_n ok dJ5_hashCode_4 (ls1 := [some (.ref a), some (.int 0)]) (dl rfl) rfl ?_
  refine g_iload_n ok dJ5_hashCode_5 rfl ?_
  refine g_if_ne ok (tgt := 58) dJ5_hashCode_6 (by decide) (fun c_ => absurd (congrArg nI (by omega : 0 = 0)) c_) (fun _ => ?_)
  refine g_aload_n ok dJ5_hashCode_9 rfl ?_
  refine g_get ok ck_J5 3 q787 (Or.inl rfl) (by decide) dJ5_hashCode_10 (Rd.h (ra)) rfl ?_
  refine g_if_ne ok (tgt := 58) dJ5_hashCode_13 (by decide) (fun c_ => absurd (congrArg nI (by omega : 0 = 0)) c_) (fun _ => ?_)
  refine g_aload_n ok dJ5_hashCode_16 rfl ?_
  refine g_callV ok q2053 q2054 q2055 q73 q2056 (Recv.ob ok gc_J5 (Rd.h (ra))) dJ5_hashCode_17 (s_latin X.l X.G _ a b n f y0) (nm_ (by decide : nmb _ 0 = true)) (dl rfl) (dk rfl) rfl rfl (dk rfl) (by omega) (kV ?_) xV
  refine g_if_eq ok (tgt := 33) dJ5_hashCode_20 (by decide) (fun c_ => absurd c_ (fun e_ => by have := (nI_eq (a := 1) (b := 0) (by omega) (by omega)).mp e_; omega)) (fun _ => ?_)
  refine g_aload_n ok dJ5_hashCode_23 rfl ?_
  refine g_get ok ck_J5 0 q784 (Or.inl rfl) (by decide) dJ5_hashCode_24 (Rd.h (ra)) rfl ?_
  refine g_callS ok q2057 q2058 q92 q2059 dJ5_hashCode_27 (l_hash X.l X.G _ b n f (r2) (by omega) (by assumption)) (nm_ (by decide : nmb _ 1 = true)) (dl rfl) (dk rfl) rfl rfl (dk rfl) (by omega) (kV ?_) xV
  refine g_goto ok dJ5_hashCode_30 (tgt := 40) (by decide) ?_
  refine g_istore_n ok dJ5_hashCode_40 (ls1 := [some (.ref a), some (.int (haL f n 0 0))]) (dl rfl) rfl ?_
  refine g_iload_n ok dJ5_hashCode_41 rfl ?_
  refine g_if_ne ok (tgt := 53) dJ5_hashCode_42 (by decide) (fun _ => ?_) (fun c => absurd c hv)
  refine g_aload_n ok dJ5_hashCode_53 rfl ?_
  refine g_iload_n ok dJ5_hashCode_54 rfl ?_
  refine g_put ok ck_J5 2 q786 (Or.inl rfl) (by decide) rfl dJ5_hashCode_55 (ra) (dl rfl) rfl rfl (fs1 := [.ref b, .int 0, .int (haL f n 0 0), .int 0]) rfl (?_)
  refine g_iload_n ok dJ5_hashCode_58 rfl ?_
  exact g_iret ok fn rfl dJ5_hashCode_59 (pv_h rfl) (by omega)
theorem s_hashK (l : Launch) (G : GE) (h : AH) (a b : Nat) (hs hz : Int32) (ra : Rd G h a (ob 15 [.ref b, .int 0, .int hs, .int hz])) (hv : ¬ hs = 0) : GM l G yJ5_hashCode (ws_ yJ5_hashCode cJ5_hashCode 2 (some .int)) 4 [.ref a] (h) (0) (PV (.int hs) h) := by
  refine GM.of (by decide) (dk rfl) ?_
  intro X eL eG eh ok fn
  subst eL; subst eG
  show GW X _ 0 0 [some (.ref a), none] []
  refine g_aload_n ok dJ5_hashCode_0 rfl ?_
  refine g_get ok ck_J5 2 q786 (Or.inl rfl) (by decide) dJ5_hashCode_1 (ra) rfl ?_
  refine g_istore_n ok dJ5_hashCode_4 (ls1 := [some (.ref a), some (.int hs)]) (dl rfl) rfl ?_
  refine g_iload_n ok dJ5_hashCode_5 rfl ?_
  refine g_if_ne ok (tgt := 58) dJ5_hashCode_6 (by decide) (fun _ => ?_) (fun c => absurd c hv)
  refine g_iload_n ok dJ5_hashCode_58 rfl ?_
  exact g_iret ok fn rfl dJ5_hashCode_59 (pv_h rfl) (by omega)
theorem a_mismatch (l : Launch) (G : GE) (h : AH) (b n : Nat) (f : Nat → Int32) (r2 : Rd G h b (aB G n f)) (r3 : n < 1000) (c p : Nat) (g : Nat → Int32) (s2 : Rd G h c (aB G p g)) (m : Nat) (hm : m ≤ 7) (h1 : m ≤ n) (h2 : m ≤ p) (hp : p < 1000) : GM l G yJ18_mismatch (ws_ yJ18_mismatch cJ18_mismatch 8 (some .int)) 1 [.ref b, .int 0, .ref c, .int 0, .int (nI m)] (h) (0) (PV (.int (misL f g m 0)) h) := by
  refine GM.of (by decide) (dk rfl) ?_
  intro X eL eG eh ok fn
  subst eL; subst eG
  show GW X _ 0 0 [some (.ref b), some (.int 0), some (.ref c), some (.int 0), some (.int (nI m)), none, none, none] []
  refine g_iconst ok (v := 0) dJ18_mismatch_0 rfl ?_
  refine g_istore ok dJ18_mismatch_1 (ls1 := [some (.ref b), some (.int 0), some (.ref c), some (.int 0), some (.int (nI m)), some (.int 0), none, none]) (dl rfl) rfl ?_
  refine g_iload ok dJ18_mismatch_3 rfl ?_
  refine g_bipush ok (v := 7) dJ18_mismatch_5 rfl ?_
  refine g_icmp_le ok (tgt := 70) dJ18_mismatch_7 (by decide) (fun _ => ?_) (fun c_ => absurd (nI_le (a := m) (b := 7) (by omega) (by omega)) c_)
  obtain ⟨F, hF⟩ : ∃ F : Int32, misL f g m 0 = F := ⟨_, rfl⟩
  rw [hF] at fn
  have lp : ∀ (k : Nat) (j : Nat), (j + k = m) → (misL f g k j = F) → GW X h 0 70 [some (.ref b), some (.int 0), some (.ref c), some (.int 0), some (.int (nI m)), some (.int (nI j)), none, none] [] := by
    intro k
    induction k with
    | zero =>
      intro j g0 g1
      refine g_iload ok dJ18_mismatch_70 rfl ?_
      refine g_iload ok dJ18_mismatch_72 rfl ?_
      refine g_icmp_ge ok (tgt := 101) dJ18_mismatch_74 (by decide) (fun _ => ?_) (fun c_ => absurd (nI_le (a := m) (b := j) (by omega) (by omega)) c_)
      refine g_iconst ok (v := -1) dJ18_mismatch_101 rfl ?_
      exact g_iret ok fn rfl dJ18_mismatch_102 (pv_h g1) (by omega)
    | succ k ih =>
      intro j g0 g1
      refine g_iload ok dJ18_mismatch_70 rfl ?_
      refine g_iload ok dJ18_mismatch_72 rfl ?_
      refine g_icmp_ge ok (tgt := 101) dJ18_mismatch_74 (by decide) (fun c_ => absurd c_ (nI_ge (a := j) (b := m) (by omega) (by omega))) (fun _ => ?_)
      refine g_aload_n ok dJ18_mismatch_77 rfl ?_
      refine g_iload_n ok dJ18_mismatch_78 rfl ?_
      refine g_iload ok dJ18_mismatch_79 rfl ?_
      refine g_iaddN ok dJ18_mismatch_81 (c := j) (a := 0) (b := j) rfl rfl (by omega) ?_
      refine g_bald ok (j := j) dJ18_mismatch_82 (r2) rfl (by omega) (by omega) ?_
      refine g_aload_n ok dJ18_mismatch_83 rfl ?_
      refine g_iload_n ok dJ18_mismatch_84 rfl ?_
      refine g_iload ok dJ18_mismatch_85 rfl ?_
      refine g_iaddN ok dJ18_mismatch_87 (c := j) (a := 0) (b := j) rfl rfl (by omega) ?_
      refine g_bald ok (j := j) dJ18_mismatch_88 (s2) rfl (by omega) (by omega) ?_
      refine g_icmp_eq ok (tgt := 95) dJ18_mismatch_89 (by decide) (fun c89 => ?_) (fun c89 => ?_)
      · refine g_iincN ok dJ18_mismatch_95 (c := j) rfl rfl (ls1 := [some (.ref b), some (.int 0), some (.ref c), some (.int 0), some (.int (nI m)), some (.int (nI (j + 1))), none, none]) rfl ?_
        refine g_goto ok dJ18_mismatch_98 (tgt := 70) (by decide) ?_
        exact ih _ (by omega) (misL_t c89 g1)
      · refine g_iload ok dJ18_mismatch_92 rfl ?_
        exact g_iret ok fn rfl dJ18_mismatch_94 (pv_h (misL_f c89 g1)) (by omega)
  exact lp m 0 (by omega) hF
theorem s_starts2 (l : Launch) (G : GE) (h : AH) (a b n : Nat) (f : Nat → Int32) (y0 : StrA G h a b n f) (c d m : Nat) (g : Nat → Int32) (y1 : StrA G h c d m g) (hm : m ≤ 7) : GM l G yJ5_startsWith_2 (ws_ yJ5_startsWith_2 cJ5_startsWith_2 8 (some .boolean)) 3 [.ref a, .ref c, .int 0] (h) (0) (PV (.int (bI (stW n f m g))) h) := by
  refine GM.of (by decide) (dk rfl) ?_
  intro X eL eG eh ok fn
  subst eL; subst eG
  show GW X _ 0 0 [some (.ref a), some (.ref c), some (.int 0), none, none, none, none, none] []
  obtain ⟨⟨hsa, hza, r1a⟩, r2a, r3a⟩ := id y0
  obtain ⟨⟨hsc, hzc, r1c⟩, r2c, r3c⟩ := id y1
  refine g_iload_n ok dJ5_startsWith_2_0 rfl ?_
  refine g_if_lt ok (tgt := 17) dJ5_startsWith_2_1 (by decide) (fun c_ => absurd c_ (nI_nlt (a := 0) (b := 0) (by omega) (by omega))) (fun _ => ?_)
  by_cases hmn : m ≤ n
  · refine g_iload_n ok dJ5_startsWith_2_4 rfl ?_
    refine g_aload_n ok dJ5_startsWith_2_5 rfl ?_
    refine g_callV ok q1924 q629 q630 q73 q631 (Recv.ob ok gc_J5 (r1a)) dJ5_startsWith_2_6 (s_length X.l X.G _ a b n f y0) (nm_ (by decide : nmb _ 0 = true)) (dl rfl) (dk rfl) rfl rfl (dk rfl) (by omega) (kV ?_) xV
    refine g_aload_n ok dJ5_startsWith_2_9 rfl ?_
    refine g_callV ok q1924 q629 q630 q73 q631 (Recv.ob ok gc_J5 (r1c)) dJ5_startsWith_2_10 (s_length X.l X.G _ c d m g y1) (nm_ (by decide : nmb _ 0 = true)) (dl rfl) (dk rfl) rfl rfl (dk rfl) (by omega) (kV ?_) xV
    refine g_isubN ok dJ5_startsWith_2_13 (c := (n - m)) (a := n) (b := m) rfl rfl (by omega) (by omega) ?_
    refine g_icmp_le ok (tgt := 19) dJ5_startsWith_2_14 (by decide) (fun _ => ?_) (fun c_ => absurd (nI_le (a := 0) (b := (n - m)) (by omega) (by omega)) c_)
    refine g_aload_n ok dJ5_startsWith_2_19 rfl ?_
    refine g_get ok ck_J5 0 q784 (Or.inl rfl) (by decide) dJ5_startsWith_2_20 (r1a) rfl ?_
    refine g_astore_n ok dJ5_startsWith_2_23 (ls1 := [some (.ref a), some (.ref c), some (.int 0), some (.ref b), none, none, none, none]) (dl rfl) rfl ?_
    refine g_aload_n ok dJ5_startsWith_2_24 rfl ?_
    refine g_get ok ck_J5 0 q784 (Or.inl rfl) (by decide) dJ5_startsWith_2_25 (r1c) rfl ?_
    refine g_astore ok dJ5_startsWith_2_28 (ls1 := [some (.ref a), some (.ref c), some (.int 0), some (.ref b), some (.ref d), none, none, none]) (dl rfl) rfl ?_
    refine g_iconst ok (v := 0) dJ5_startsWith_2_30 rfl ?_
    refine g_istore ok dJ5_startsWith_2_31 (ls1 := [some (.ref a), some (.ref c), some (.int 0), some (.ref b), some (.ref d), some (.int 0), none, none]) (dl rfl) rfl ?_
    refine g_aload ok dJ5_startsWith_2_33 rfl ?_
    refine g_alen ok dJ5_startsWith_2_35 (r2c) (gt_b _) ?_
    refine g_istore ok dJ5_startsWith_2_36 (ls1 := [some (.ref a), some (.ref c), some (.int 0), some (.ref b), some (.ref d), some (.int 0), some (.int (nI m)), none]) (dl rfl) rfl ?_
    refine g_aload_n ok dJ5_startsWith_2_38 rfl ?_
    refine g_callV ok q632 q633 q634 q73 q635 (Recv.ob ok gc_J5 (r1a)) dJ5_startsWith_2_39 (s_coder X.l X.G _ a b n f y0) (nm_ (by decide : nmb _ 0 = true)) (dl rfl) (dk rfl) rfl rfl (dk rfl) (by omega) (kV ?_) xV
    refine g_istore ok dJ5_startsWith_2_42 (ls1 := [some (.ref a), some (.ref c), some (.int 0), some (.ref b), some (.ref d), some (.int 0), some (.int (nI m)), some (.int 0)]) (dl rfl) rfl ?_
    refine g_iload ok dJ5_startsWith_2_44 rfl ?_
    refine g_aload_n ok dJ5_startsWith_2_46 rfl ?_
    refine g_callV ok q632 q633 q634 q73 q635 (Recv.ob ok gc_J5 (r1c)) dJ5_startsWith_2_47 (s_coder X.l X.G _ c d m g y1) (nm_ (by decide : nmb _ 0 = true)) (dl rfl) (dk rfl) rfl rfl (dk rfl) (by omega) (kV ?_) xV
    refine g_icmp_ne ok (tgt := 82) dJ5_startsWith_2_50 (by decide) (fun c_ => absurd (congrArg nI (by omega : 0 = 0)) c_) (fun _ => ?_)
    refine g_iload ok dJ5_startsWith_2_53 rfl ?_
    refine g_iconst ok (v := 1) dJ5_startsWith_2_55 rfl ?_
    refine g_icmp_ne ok (tgt := 63) dJ5_startsWith_2_56 (by decide) (fun _ => ?_) (fun c_ => absurd c_ (fun e_ => by have := (nI_eq (a := 0) (b := 1) (by omega) (by omega)).mp e_; omega))
    refine g_aload_n ok dJ5_startsWith_2_63 rfl ?_
    refine g_iload_n ok dJ5_startsWith_2_64 rfl ?_
    refine g_aload ok dJ5_startsWith_2_65 rfl ?_
    refine g_iconst ok (v := 0) dJ5_startsWith_2_67 rfl ?_
    refine g_iload ok dJ5_startsWith_2_68 rfl ?_
    refine g_callS ok q1925 q1926 q89 q1927 dJ5_startsWith_2_70 (a_mismatch X.l X.G _ b n f (r2a) (by omega) d m g (r2c) m (by omega) (by omega) (by omega) (by omega)) (nm_ (by decide : nmb _ 5 = true)) (dl rfl) (dk rfl) rfl rfl (dk rfl) (by omega) (kV ?_) xV
    cases e : eqL f g m 0 with
    | true =>
      rw [(misL_eq m 0 (by omega)).1 e]
      refine g_if_ge ok (tgt := 80) dJ5_startsWith_2_73 (by decide) (fun c => absurd c (by decide)) (fun _ => ?_)
      refine g_iconst ok (v := 1) dJ5_startsWith_2_76 rfl ?_
      refine g_goto ok dJ5_startsWith_2_77 (tgt := 81) (by decide) ?_
      exact g_zret ok fn rfl rfl dJ5_startsWith_2_81 (pv_h (by unfold stW; rw [decide_eq_true hmn, e]; rfl)) (by omega)
    | false =>
      refine g_if_ge ok (tgt := 80) dJ5_startsWith_2_73 (by decide) (fun _ => ?_) (fun c => absurd ((misL_eq m 0 (by omega)).2 e) c)
      refine g_iconst ok (v := 0) dJ5_startsWith_2_80 rfl ?_
      exact g_zret ok fn rfl rfl dJ5_startsWith_2_81 (pv_h (by unfold stW; rw [decide_eq_true hmn, e]; rfl)) (by omega)
  · refine g_iload_n ok dJ5_startsWith_2_4 rfl ?_
    refine g_aload_n ok dJ5_startsWith_2_5 rfl ?_
    refine g_callV ok q1924 q629 q630 q73 q631 (Recv.ob ok gc_J5 (r1a)) dJ5_startsWith_2_6 (s_length X.l X.G _ a b n f y0) (nm_ (by decide : nmb _ 0 = true)) (dl rfl) (dk rfl) rfl rfl (dk rfl) (by omega) (kV ?_) xV
    refine g_aload_n ok dJ5_startsWith_2_9 rfl ?_
    refine g_callV ok q1924 q629 q630 q73 q631 (Recv.ob ok gc_J5 (r1c)) dJ5_startsWith_2_10 (s_length X.l X.G _ c d m g y1) (nm_ (by decide : nmb _ 0 = true)) (dl rfl) (dk rfl) rfl rfl (dk rfl) (by omega) (kV ?_) xV
    refine g_isub ok dJ5_startsWith_2_13 ?_
    refine g_icmp_le ok (tgt := 19) dJ5_startsWith_2_14 (by decide) (fun c => absurd c (Int32.not_le.mpr (pk_sneg (by omega) (by omega)))) (fun _ => ?_)
    refine g_iconst ok (v := 0) dJ5_startsWith_2_17 rfl ?_
    exact g_zret ok fn rfl rfl dJ5_startsWith_2_18 (pv_h (by unfold stW; rw [decide_eq_false hmn]; rfl)) (by omega)
theorem s_starts (l : Launch) (G : GE) (h : AH) (a b n : Nat) (f : Nat → Int32) (y0 : StrA G h a b n f) (c d m : Nat) (g : Nat → Int32) (y1 : StrA G h c d m g) (hm : m ≤ 7) : GM l G yJ5_startsWith (ws_ yJ5_startsWith cJ5_startsWith 2 (some .boolean)) 4 [.ref a, .ref c] (h) (0) (PV (.int (bI (stW n f m g))) h) := by
  refine GM.of (by decide) (dk rfl) ?_
  intro X eL eG eh ok fn
  subst eL; subst eG
  show GW X _ 0 0 [some (.ref a), some (.ref c)] []
  obtain ⟨⟨hsa, hza, r1a⟩, r2a, r3a⟩ := id y0
  obtain ⟨⟨hsc, hzc, r1c⟩, r2c, r3c⟩ := id y1
  refine g_aload_n ok dJ5_startsWith_0 rfl ?_
  refine g_aload_n ok dJ5_startsWith_1 rfl ?_
  refine g_iconst ok (v := 0) dJ5_startsWith_2 rfl ?_
  refine g_callV ok q1920 q1921 q1922 q73 q1923 (Recv.ob ok gc_J5 (r1a)) dJ5_startsWith_3 (s_starts2 X.l X.G _ a b n f y0 c d m g y1 (by omega)) (nm_ (by decide : nmb _ 2 = true)) (dl rfl) (dk rfl) rfl rfl (dk rfl) (by omega) (kV ?_) xV
  exact g_zret ok fn rfl (bI_z _) dJ5_startsWith_6 (pv_h rfl) (by omega)
