/-! THE JDK's strings, 3 -/
set_option maxRecDepth 100000
abbrev cJ21_canEncode : ByteArray := prog_42_method_3_code
def yJ21_canEncode : MethodName := ⟨RJ21, "canEncode", "(C)Z"⟩
def dkwJ21_canEncode_0 : List UInt8 := [26, 17, 0, 255, 163, 0, 7, 4, 167, 0, 4, 3, 172]
abbrev dktJ21_canEncode_0 : List UInt8 := dkwJ21_canEncode_0 ++ []
theorem dksJ21_canEncode_0 : cJ21_canEncode.data.toList.drop 0 = dktJ21_canEncode_0 := by decide +kernel
theorem dJ21_canEncode_0 : decode cJ21_canEncode 0 = .ok (.iload_n 0, 1) := dk_26 (dk_at dksJ21_canEncode_0 0 rfl rfl)
theorem dJ21_canEncode_1 : decode cJ21_canEncode 1 = .ok (.sipush 255, 3) := dk_17 0 255 (dk_at dksJ21_canEncode_0 1 rfl rfl)
theorem dJ21_canEncode_4 : decode cJ21_canEncode 4 = .ok (.if_icmp .gt 7, 3) := dk_163 0 7 (dk_at dksJ21_canEncode_0 4 rfl rfl)
theorem dJ21_canEncode_7 : decode cJ21_canEncode 7 = .ok (.iconst 1, 1) := dk_4 (dk_at dksJ21_canEncode_0 7 rfl rfl)
theorem dJ21_canEncode_8 : decode cJ21_canEncode 8 = .ok (.goto 4, 3) := dk_167 0 4 (dk_at dksJ21_canEncode_0 8 rfl rfl)
theorem dJ21_canEncode_11 : decode cJ21_canEncode 11 = .ok (.iconst 0, 1) := dk_3 (dk_at dksJ21_canEncode_0 11 rfl rfl)
theorem dJ21_canEncode_12 : decode cJ21_canEncode 12 = .ok (.ireturn, 1) := dk_172 (dk_at dksJ21_canEncode_0 12 rfl rfl)
abbrev cJ21_canEncode_2 : ByteArray := prog_42_method_4_code
def yJ21_canEncode_2 : MethodName := ⟨RJ21, "canEncode", "(I)Z"⟩
def dkwJ21_canEncode_2_0 : List UInt8 := [26, 155, 0, 14, 26, 17, 0, 255, 163, 0, 7, 4, 167, 0, 4, 3, 172]
abbrev dktJ21_canEncode_2_0 : List UInt8 := dkwJ21_canEncode_2_0 ++ []
theorem dksJ21_canEncode_2_0 : cJ21_canEncode_2.data.toList.drop 0 = dktJ21_canEncode_2_0 := by decide +kernel
theorem dJ21_canEncode_2_0 : decode cJ21_canEncode_2 0 = .ok (.iload_n 0, 1) := dk_26 (dk_at dksJ21_canEncode_2_0 0 rfl rfl)
theorem dJ21_canEncode_2_1 : decode cJ21_canEncode_2 1 = .ok (.ifCond .lt 14, 3) := dk_155 0 14 (dk_at dksJ21_canEncode_2_0 1 rfl rfl)
theorem dJ21_canEncode_2_4 : decode cJ21_canEncode_2 4 = .ok (.iload_n 0, 1) := dk_26 (dk_at dksJ21_canEncode_2_0 4 rfl rfl)
theorem dJ21_canEncode_2_5 : decode cJ21_canEncode_2 5 = .ok (.sipush 255, 3) := dk_17 0 255 (dk_at dksJ21_canEncode_2_0 5 rfl rfl)
theorem dJ21_canEncode_2_8 : decode cJ21_canEncode_2 8 = .ok (.if_icmp .gt 7, 3) := dk_163 0 7 (dk_at dksJ21_canEncode_2_0 8 rfl rfl)
theorem dJ21_canEncode_2_11 : decode cJ21_canEncode_2 11 = .ok (.iconst 1, 1) := dk_4 (dk_at dksJ21_canEncode_2_0 11 rfl rfl)
theorem dJ21_canEncode_2_12 : decode cJ21_canEncode_2 12 = .ok (.goto 4, 3) := dk_167 0 4 (dk_at dksJ21_canEncode_2_0 12 rfl rfl)
theorem dJ21_canEncode_2_15 : decode cJ21_canEncode_2 15 = .ok (.iconst 0, 1) := dk_3 (dk_at dksJ21_canEncode_2_0 15 rfl rfl)
theorem dJ21_canEncode_2_16 : decode cJ21_canEncode_2 16 = .ok (.ireturn, 1) := dk_172 (dk_at dksJ21_canEncode_2_0 16 rfl rfl)
abbrev cJ21_indexOfChar : ByteArray := prog_42_method_23_code
def yJ21_indexOfChar : MethodName := ⟨RJ21, "indexOfChar", "([BIII)I"⟩
def dkwJ21_indexOfChar_1 : List UInt8 := [172, 132, 5, 1, 167, 255, 235, 2, 172]
abbrev dktJ21_indexOfChar_1 : List UInt8 := dkwJ21_indexOfChar_1 ++ []
def dkwJ21_indexOfChar_0 : List UInt8 := [27, 145, 54, 4, 28, 54, 5, 21, 5, 29, 162, 0, 21, 42, 21, 5, 51, 21, 4, 160, 0, 6, 21, 5]
abbrev dktJ21_indexOfChar_0 : List UInt8 := dkwJ21_indexOfChar_0 ++ dktJ21_indexOfChar_1
theorem dksJ21_indexOfChar_0 : cJ21_indexOfChar.data.toList.drop 0 = dktJ21_indexOfChar_0 := by decide +kernel
theorem dksJ21_indexOfChar_1 : cJ21_indexOfChar.data.toList.drop 24 = dktJ21_indexOfChar_1 := dk_seg dksJ21_indexOfChar_0 24 rfl rfl
theorem dJ21_indexOfChar_0 : decode cJ21_indexOfChar 0 = .ok (.iload_n 1, 1) := dk_27 (dk_at dksJ21_indexOfChar_0 0 rfl rfl)
theorem dJ21_indexOfChar_1 : decode cJ21_indexOfChar 1 = .ok (.i2b, 1) := dk_145 (dk_at dksJ21_indexOfChar_0 1 rfl rfl)
theorem dJ21_indexOfChar_2 : decode cJ21_indexOfChar 2 = .ok (.istore 4, 2) := dk_54 4 (dk_at dksJ21_indexOfChar_0 2 rfl rfl)
theorem dJ21_indexOfChar_4 : decode cJ21_indexOfChar 4 = .ok (.iload_n 2, 1) := dk_28 (dk_at dksJ21_indexOfChar_0 4 rfl rfl)
theorem dJ21_indexOfChar_5 : decode cJ21_indexOfChar 5 = .ok (.istore 5, 2) := dk_54 5 (dk_at dksJ21_indexOfChar_0 5 rfl rfl)
theorem dJ21_indexOfChar_7 : decode cJ21_indexOfChar 7 = .ok (.iload 5, 2) := dk_21 5 (dk_at dksJ21_indexOfChar_0 7 rfl rfl)
theorem dJ21_indexOfChar_9 : decode cJ21_indexOfChar 9 = .ok (.iload_n 3, 1) := dk_29 (dk_at dksJ21_indexOfChar_0 9 rfl rfl)
theorem dJ21_indexOfChar_10 : decode cJ21_indexOfChar 10 = .ok (.if_icmp .ge 21, 3) := dk_162 0 21 (dk_at dksJ21_indexOfChar_0 10 rfl rfl)
theorem dJ21_indexOfChar_13 : decode cJ21_indexOfChar 13 = .ok (.aload_n 0, 1) := dk_42 (dk_at dksJ21_indexOfChar_0 13 rfl rfl)
theorem dJ21_indexOfChar_14 : decode cJ21_indexOfChar 14 = .ok (.iload 5, 2) := dk_21 5 (dk_at dksJ21_indexOfChar_0 14 rfl rfl)
theorem dJ21_indexOfChar_16 : decode cJ21_indexOfChar 16 = .ok (.baload, 1) := dk_51 (dk_at dksJ21_indexOfChar_0 16 rfl rfl)
theorem dJ21_indexOfChar_17 : decode cJ21_indexOfChar 17 = .ok (.iload 4, 2) := dk_21 4 (dk_at dksJ21_indexOfChar_0 17 rfl rfl)
theorem dJ21_indexOfChar_19 : decode cJ21_indexOfChar 19 = .ok (.if_icmp .ne 6, 3) := dk_160 0 6 (dk_at dksJ21_indexOfChar_0 19 rfl rfl)
theorem dJ21_indexOfChar_22 : decode cJ21_indexOfChar 22 = .ok (.iload 5, 2) := dk_21 5 (dk_at dksJ21_indexOfChar_0 22 rfl rfl)
theorem dJ21_indexOfChar_24 : decode cJ21_indexOfChar 24 = .ok (.ireturn, 1) := dk_172 (dk_at dksJ21_indexOfChar_1 0 rfl rfl)
theorem dJ21_indexOfChar_25 : decode cJ21_indexOfChar 25 = .ok (.iinc 5 1, 3) := dk_132 5 1 (dk_at dksJ21_indexOfChar_1 1 rfl rfl)
theorem dJ21_indexOfChar_28 : decode cJ21_indexOfChar 28 = .ok (.goto (-21), 3) := dk_167 255 235 (dk_at dksJ21_indexOfChar_1 4 rfl rfl)
theorem dJ21_indexOfChar_31 : decode cJ21_indexOfChar 31 = .ok (.iconst (-1), 1) := dk_2 (dk_at dksJ21_indexOfChar_1 7 rfl rfl)
theorem dJ21_indexOfChar_32 : decode cJ21_indexOfChar 32 = .ok (.ireturn, 1) := dk_172 (dk_at dksJ21_indexOfChar_1 8 rfl rfl)
abbrev cJ21_indexOf : ByteArray := prog_42_method_22_code
def yJ21_indexOf : MethodName := ⟨RJ21, "indexOf", "([BIII)I"⟩
def dkwJ21_indexOf_1 : List UInt8 := [161, 0, 5, 2, 172, 42, 27, 28, 29, 184, 0, 95, 172]
abbrev dktJ21_indexOf_1 : List UInt8 := dkwJ21_indexOf_1 ++ []
def dkwJ21_indexOf_0 : List UInt8 := [27, 184, 0, 88, 154, 0, 5, 2, 172, 28, 3, 184, 0, 92, 61, 29, 42, 190, 184, 0, 38, 62, 28, 29]
abbrev dktJ21_indexOf_0 : List UInt8 := dkwJ21_indexOf_0 ++ dktJ21_indexOf_1
theorem dksJ21_indexOf_0 : cJ21_indexOf.data.toList.drop 0 = dktJ21_indexOf_0 := by decide +kernel
theorem dksJ21_indexOf_1 : cJ21_indexOf.data.toList.drop 24 = dktJ21_indexOf_1 := dk_seg dksJ21_indexOf_0 24 rfl rfl
theorem dJ21_indexOf_0 : decode cJ21_indexOf 0 = .ok (.iload_n 1, 1) := dk_27 (dk_at dksJ21_indexOf_0 0 rfl rfl)
theorem dJ21_indexOf_1 : decode cJ21_indexOf 1 = .ok (.invokestatic 88, 3) := dk_184 0 88 (dk_at dksJ21_indexOf_0 1 rfl rfl)
theorem dJ21_indexOf_4 : decode cJ21_indexOf 4 = .ok (.ifCond .ne 5, 3) := dk_154 0 5 (dk_at dksJ21_indexOf_0 4 rfl rfl)
theorem dJ21_indexOf_7 : decode cJ21_indexOf 7 = .ok (.iconst (-1), 1) := dk_2 (dk_at dksJ21_indexOf_0 7 rfl rfl)
theorem dJ21_indexOf_8 : decode cJ21_indexOf 8 = .ok (.ireturn, 1) := dk_172 (dk_at dksJ21_indexOf_0 8 rfl rfl)
theorem dJ21_indexOf_9 : decode cJ21_indexOf 9 = .ok (.iload_n 2, 1) := dk_28 (dk_at dksJ21_indexOf_0 9 rfl rfl)
theorem dJ21_indexOf_10 : decode cJ21_indexOf 10 = .ok (.iconst 0, 1) := dk_3 (dk_at dksJ21_indexOf_0 10 rfl rfl)
theorem dJ21_indexOf_11 : decode cJ21_indexOf 11 = .ok (.invokestatic 92, 3) := dk_184 0 92 (dk_at dksJ21_indexOf_0 11 rfl rfl)
theorem dJ21_indexOf_14 : decode cJ21_indexOf 14 = .ok (.istore_n 2, 1) := dk_61 (dk_at dksJ21_indexOf_0 14 rfl rfl)
theorem dJ21_indexOf_15 : decode cJ21_indexOf 15 = .ok (.iload_n 3, 1) := dk_29 (dk_at dksJ21_indexOf_0 15 rfl rfl)
theorem dJ21_indexOf_16 : decode cJ21_indexOf 16 = .ok (.aload_n 0, 1) := dk_42 (dk_at dksJ21_indexOf_0 16 rfl rfl)
theorem dJ21_indexOf_17 : decode cJ21_indexOf 17 = .ok (.arraylength, 1) := dk_190 (dk_at dksJ21_indexOf_0 17 rfl rfl)
theorem dJ21_indexOf_18 : decode cJ21_indexOf 18 = .ok (.invokestatic 38, 3) := dk_184 0 38 (dk_at dksJ21_indexOf_0 18 rfl rfl)
theorem dJ21_indexOf_21 : decode cJ21_indexOf 21 = .ok (.istore_n 3, 1) := dk_62 (dk_at dksJ21_indexOf_0 21 rfl rfl)
theorem dJ21_indexOf_22 : decode cJ21_indexOf 22 = .ok (.iload_n 2, 1) := dk_28 (dk_at dksJ21_indexOf_0 22 rfl rfl)
theorem dJ21_indexOf_23 : decode cJ21_indexOf 23 = .ok (.iload_n 3, 1) := dk_29 (dk_at dksJ21_indexOf_0 23 rfl rfl)
theorem dJ21_indexOf_24 : decode cJ21_indexOf 24 = .ok (.if_icmp .lt 5, 3) := dk_161 0 5 (dk_at dksJ21_indexOf_1 0 rfl rfl)
theorem dJ21_indexOf_27 : decode cJ21_indexOf 27 = .ok (.iconst (-1), 1) := dk_2 (dk_at dksJ21_indexOf_1 3 rfl rfl)
theorem dJ21_indexOf_28 : decode cJ21_indexOf 28 = .ok (.ireturn, 1) := dk_172 (dk_at dksJ21_indexOf_1 4 rfl rfl)
theorem dJ21_indexOf_29 : decode cJ21_indexOf 29 = .ok (.aload_n 0, 1) := dk_42 (dk_at dksJ21_indexOf_1 5 rfl rfl)
theorem dJ21_indexOf_30 : decode cJ21_indexOf 30 = .ok (.iload_n 1, 1) := dk_27 (dk_at dksJ21_indexOf_1 6 rfl rfl)
theorem dJ21_indexOf_31 : decode cJ21_indexOf 31 = .ok (.iload_n 2, 1) := dk_28 (dk_at dksJ21_indexOf_1 7 rfl rfl)
theorem dJ21_indexOf_32 : decode cJ21_indexOf 32 = .ok (.iload_n 3, 1) := dk_29 (dk_at dksJ21_indexOf_1 8 rfl rfl)
theorem dJ21_indexOf_33 : decode cJ21_indexOf 33 = .ok (.invokestatic 95, 3) := dk_184 0 95 (dk_at dksJ21_indexOf_1 9 rfl rfl)
theorem dJ21_indexOf_36 : decode cJ21_indexOf 36 = .ok (.ireturn, 1) := dk_172 (dk_at dksJ21_indexOf_1 12 rfl rfl)
abbrev cJ5_indexOf : ByteArray := prog_39_method_80_code
def yJ5_indexOf : MethodName := ⟨RJ5, "indexOf", "(II)I"⟩
def dkwJ5_indexOf_1 : List UInt8 := [180, 0, 9, 27, 28, 42, 182, 1, 249, 184, 2, 128, 172]
abbrev dktJ5_indexOf_1 : List UInt8 := dkwJ5_indexOf_1 ++ []
def dkwJ5_indexOf_0 : List UInt8 := [42, 182, 1, 236, 153, 0, 19, 42, 180, 0, 9, 27, 28, 42, 182, 1, 249, 184, 2, 125, 167, 0, 16, 42]
abbrev dktJ5_indexOf_0 : List UInt8 := dkwJ5_indexOf_0 ++ dktJ5_indexOf_1
theorem dksJ5_indexOf_0 : cJ5_indexOf.data.toList.drop 0 = dktJ5_indexOf_0 := by decide +kernel
theorem dksJ5_indexOf_1 : cJ5_indexOf.data.toList.drop 24 = dktJ5_indexOf_1 := dk_seg dksJ5_indexOf_0 24 rfl rfl
theorem dJ5_indexOf_0 : decode cJ5_indexOf 0 = .ok (.aload_n 0, 1) := dk_42 (dk_at dksJ5_indexOf_0 0 rfl rfl)
theorem dJ5_indexOf_1 : decode cJ5_indexOf 1 = .ok (.invokevirtual 492, 3) := dk_182 1 236 (dk_at dksJ5_indexOf_0 1 rfl rfl)
theorem dJ5_indexOf_4 : decode cJ5_indexOf 4 = .ok (.ifCond .eq 19, 3) := dk_153 0 19 (dk_at dksJ5_indexOf_0 4 rfl rfl)
theorem dJ5_indexOf_7 : decode cJ5_indexOf 7 = .ok (.aload_n 0, 1) := dk_42 (dk_at dksJ5_indexOf_0 7 rfl rfl)
theorem dJ5_indexOf_8 : decode cJ5_indexOf 8 = .ok (.getfield 9, 3) := dk_180 0 9 (dk_at dksJ5_indexOf_0 8 rfl rfl)
theorem dJ5_indexOf_11 : decode cJ5_indexOf 11 = .ok (.iload_n 1, 1) := dk_27 (dk_at dksJ5_indexOf_0 11 rfl rfl)
theorem dJ5_indexOf_12 : decode cJ5_indexOf 12 = .ok (.iload_n 2, 1) := dk_28 (dk_at dksJ5_indexOf_0 12 rfl rfl)
theorem dJ5_indexOf_13 : decode cJ5_indexOf 13 = .ok (.aload_n 0, 1) := dk_42 (dk_at dksJ5_indexOf_0 13 rfl rfl)
theorem dJ5_indexOf_14 : decode cJ5_indexOf 14 = .ok (.invokevirtual 505, 3) := dk_182 1 249 (dk_at dksJ5_indexOf_0 14 rfl rfl)
theorem dJ5_indexOf_17 : decode cJ5_indexOf 17 = .ok (.invokestatic 637, 3) := dk_184 2 125 (dk_at dksJ5_indexOf_0 17 rfl rfl)
theorem dJ5_indexOf_20 : decode cJ5_indexOf 20 = .ok (.goto 16, 3) := dk_167 0 16 (dk_at dksJ5_indexOf_0 20 rfl rfl)
theorem dJ5_indexOf_23 : decode cJ5_indexOf 23 = .ok (.aload_n 0, 1) := dk_42 (dk_at dksJ5_indexOf_0 23 rfl rfl)
theorem dJ5_indexOf_24 : decode cJ5_indexOf 24 = .ok (.getfield 9, 3) := dk_180 0 9 (dk_at dksJ5_indexOf_1 0 rfl rfl)
theorem dJ5_indexOf_27 : decode cJ5_indexOf 27 = .ok (.iload_n 1, 1) := dk_27 (dk_at dksJ5_indexOf_1 3 rfl rfl)
theorem dJ5_indexOf_28 : decode cJ5_indexOf 28 = .ok (.iload_n 2, 1) := dk_28 (dk_at dksJ5_indexOf_1 4 rfl rfl)
theorem dJ5_indexOf_29 : decode cJ5_indexOf 29 = .ok (.aload_n 0, 1) := dk_42 (dk_at dksJ5_indexOf_1 5 rfl rfl)
theorem dJ5_indexOf_30 : decode cJ5_indexOf 30 = .ok (.invokevirtual 505, 3) := dk_182 1 249 (dk_at dksJ5_indexOf_1 6 rfl rfl)
theorem dJ5_indexOf_33 : decode cJ5_indexOf 33 = .ok (.invokestatic 640, 3) := dk_184 2 128 (dk_at dksJ5_indexOf_1 9 rfl rfl)
theorem dJ5_indexOf_36 : decode cJ5_indexOf 36 = .ok (.ireturn, 1) := dk_172 (dk_at dksJ5_indexOf_1 12 rfl rfl)
abbrev cJ20_checkLength : ByteArray := prog_54_method_131_code
def yJ20_checkLength : MethodName := ⟨RJ20, "checkLength", "(II)V"⟩
def dkwJ20_checkLength_1 : List UInt8 := [182, 0, 50, 27, 182, 0, 54, 182, 0, 61, 183, 0, 65, 191, 177]
abbrev dktJ20_checkLength_1 : List UInt8 := dkwJ20_checkLength_1 ++ []
def dkwJ20_checkLength_0 : List UInt8 := [27, 26, 162, 0, 35, 187, 0, 43, 89, 187, 0, 45, 89, 183, 0, 47, 26, 182, 0, 54, 19, 1, 81]
abbrev dktJ20_checkLength_0 : List UInt8 := dkwJ20_checkLength_0 ++ dktJ20_checkLength_1
theorem dksJ20_checkLength_0 : cJ20_checkLength.data.toList.drop 0 = dktJ20_checkLength_0 := by decide +kernel
theorem dksJ20_checkLength_1 : cJ20_checkLength.data.toList.drop 23 = dktJ20_checkLength_1 := dk_seg dksJ20_checkLength_0 23 rfl rfl
theorem dJ20_checkLength_0 : decode cJ20_checkLength 0 = .ok (.iload_n 1, 1) := dk_27 (dk_at dksJ20_checkLength_0 0 rfl rfl)
theorem dJ20_checkLength_1 : decode cJ20_checkLength 1 = .ok (.iload_n 0, 1) := dk_26 (dk_at dksJ20_checkLength_0 1 rfl rfl)
theorem dJ20_checkLength_2 : decode cJ20_checkLength 2 = .ok (.if_icmp .ge 35, 3) := dk_162 0 35 (dk_at dksJ20_checkLength_0 2 rfl rfl)
theorem dJ20_checkLength_5 : decode cJ20_checkLength 5 = .ok (.new 43, 3) := dk_187 0 43 (dk_at dksJ20_checkLength_0 5 rfl rfl)
theorem dJ20_checkLength_8 : decode cJ20_checkLength 8 = .ok (.dup, 1) := dk_89 (dk_at dksJ20_checkLength_0 8 rfl rfl)
theorem dJ20_checkLength_9 : decode cJ20_checkLength 9 = .ok (.new 45, 3) := dk_187 0 45 (dk_at dksJ20_checkLength_0 9 rfl rfl)
theorem dJ20_checkLength_12 : decode cJ20_checkLength 12 = .ok (.dup, 1) := dk_89 (dk_at dksJ20_checkLength_0 12 rfl rfl)
theorem dJ20_checkLength_13 : decode cJ20_checkLength 13 = .ok (.invokespecial 47, 3) := dk_183 0 47 (dk_at dksJ20_checkLength_0 13 rfl rfl)
theorem dJ20_checkLength_16 : decode cJ20_checkLength 16 = .ok (.iload_n 0, 1) := dk_26 (dk_at dksJ20_checkLength_0 16 rfl rfl)
theorem dJ20_checkLength_17 : decode cJ20_checkLength 17 = .ok (.invokevirtual 54, 3) := dk_182 0 54 (dk_at dksJ20_checkLength_0 17 rfl rfl)
theorem dJ20_checkLength_20 : decode cJ20_checkLength 20 = .ok (.ldc_w 337, 3) := dk_19 1 81 (dk_at dksJ20_checkLength_0 20 rfl rfl)
theorem dJ20_checkLength_23 : decode cJ20_checkLength 23 = .ok (.invokevirtual 50, 3) := dk_182 0 50 (dk_at dksJ20_checkLength_1 0 rfl rfl)
theorem dJ20_checkLength_26 : decode cJ20_checkLength 26 = .ok (.iload_n 1, 1) := dk_27 (dk_at dksJ20_checkLength_1 3 rfl rfl)
theorem dJ20_checkLength_27 : decode cJ20_checkLength 27 = .ok (.invokevirtual 54, 3) := dk_182 0 54 (dk_at dksJ20_checkLength_1 4 rfl rfl)
theorem dJ20_checkLength_30 : decode cJ20_checkLength 30 = .ok (.invokevirtual 61, 3) := dk_182 0 61 (dk_at dksJ20_checkLength_1 7 rfl rfl)
theorem dJ20_checkLength_33 : decode cJ20_checkLength 33 = .ok (.invokespecial 65, 3) := dk_183 0 65 (dk_at dksJ20_checkLength_1 10 rfl rfl)
theorem dJ20_checkLength_36 : decode cJ20_checkLength 36 = .ok (.athrow, 1) := dk_191 (dk_at dksJ20_checkLength_1 13 rfl rfl)
theorem dJ20_checkLength_37 : decode cJ20_checkLength 37 = .ok (.return_, 1) := dk_177 (dk_at dksJ20_checkLength_1 14 rfl rfl)
abbrev cJ20_copyOfRangeByte : ByteArray := prog_54_method_133_code
def yJ20_copyOfRangeByte : MethodName := ⟨RJ20, "copyOfRangeByte", "([BII)[B"⟩
def dkwJ20_copyOfRangeByte_1 : List UInt8 := [184, 1, 48, 184, 0, 150, 25, 4, 176]
abbrev dktJ20_copyOfRangeByte_1 : List UInt8 := dkwJ20_copyOfRangeByte_1 ++ []
def dkwJ20_copyOfRangeByte_0 : List UInt8 := [27, 28, 184, 1, 87, 28, 27, 100, 62, 29, 188, 8, 58, 4, 42, 27, 25, 4, 3, 42, 190, 27, 100, 29]
abbrev dktJ20_copyOfRangeByte_0 : List UInt8 := dkwJ20_copyOfRangeByte_0 ++ dktJ20_copyOfRangeByte_1
theorem dksJ20_copyOfRangeByte_0 : cJ20_copyOfRangeByte.data.toList.drop 0 = dktJ20_copyOfRangeByte_0 := by decide +kernel
theorem dksJ20_copyOfRangeByte_1 : cJ20_copyOfRangeByte.data.toList.drop 24 = dktJ20_copyOfRangeByte_1 := dk_seg dksJ20_copyOfRangeByte_0 24 rfl rfl
theorem dJ20_copyOfRangeByte_0 : decode cJ20_copyOfRangeByte 0 = .ok (.iload_n 1, 1) := dk_27 (dk_at dksJ20_copyOfRangeByte_0 0 rfl rfl)
theorem dJ20_copyOfRangeByte_1 : decode cJ20_copyOfRangeByte 1 = .ok (.iload_n 2, 1) := dk_28 (dk_at dksJ20_copyOfRangeByte_0 1 rfl rfl)
theorem dJ20_copyOfRangeByte_2 : decode cJ20_copyOfRangeByte 2 = .ok (.invokestatic 343, 3) := dk_184 1 87 (dk_at dksJ20_copyOfRangeByte_0 2 rfl rfl)
theorem dJ20_copyOfRangeByte_5 : decode cJ20_copyOfRangeByte 5 = .ok (.iload_n 2, 1) := dk_28 (dk_at dksJ20_copyOfRangeByte_0 5 rfl rfl)
theorem dJ20_copyOfRangeByte_6 : decode cJ20_copyOfRangeByte 6 = .ok (.iload_n 1, 1) := dk_27 (dk_at dksJ20_copyOfRangeByte_0 6 rfl rfl)
theorem dJ20_copyOfRangeByte_7 : decode cJ20_copyOfRangeByte 7 = .ok (.isub, 1) := dk_100 (dk_at dksJ20_copyOfRangeByte_0 7 rfl rfl)
theorem dJ20_copyOfRangeByte_8 : decode cJ20_copyOfRangeByte 8 = .ok (.istore_n 3, 1) := dk_62 (dk_at dksJ20_copyOfRangeByte_0 8 rfl rfl)
theorem dJ20_copyOfRangeByte_9 : decode cJ20_copyOfRangeByte 9 = .ok (.iload_n 3, 1) := dk_29 (dk_at dksJ20_copyOfRangeByte_0 9 rfl rfl)
theorem dJ20_copyOfRangeByte_10 : decode cJ20_copyOfRangeByte 10 = .ok (.newarray .byte, 2) := dk_188_8 (dk_at dksJ20_copyOfRangeByte_0 10 rfl rfl)
theorem dJ20_copyOfRangeByte_12 : decode cJ20_copyOfRangeByte 12 = .ok (.astore 4, 2) := dk_58 4 (dk_at dksJ20_copyOfRangeByte_0 12 rfl rfl)
theorem dJ20_copyOfRangeByte_14 : decode cJ20_copyOfRangeByte 14 = .ok (.aload_n 0, 1) := dk_42 (dk_at dksJ20_copyOfRangeByte_0 14 rfl rfl)
theorem dJ20_copyOfRangeByte_15 : decode cJ20_copyOfRangeByte 15 = .ok (.iload_n 1, 1) := dk_27 (dk_at dksJ20_copyOfRangeByte_0 15 rfl rfl)
theorem dJ20_copyOfRangeByte_16 : decode cJ20_copyOfRangeByte 16 = .ok (.aload 4, 2) := dk_25 4 (dk_at dksJ20_copyOfRangeByte_0 16 rfl rfl)
theorem dJ20_copyOfRangeByte_18 : decode cJ20_copyOfRangeByte 18 = .ok (.iconst 0, 1) := dk_3 (dk_at dksJ20_copyOfRangeByte_0 18 rfl rfl)
theorem dJ20_copyOfRangeByte_19 : decode cJ20_copyOfRangeByte 19 = .ok (.aload_n 0, 1) := dk_42 (dk_at dksJ20_copyOfRangeByte_0 19 rfl rfl)
theorem dJ20_copyOfRangeByte_20 : decode cJ20_copyOfRangeByte 20 = .ok (.arraylength, 1) := dk_190 (dk_at dksJ20_copyOfRangeByte_0 20 rfl rfl)
theorem dJ20_copyOfRangeByte_21 : decode cJ20_copyOfRangeByte 21 = .ok (.iload_n 1, 1) := dk_27 (dk_at dksJ20_copyOfRangeByte_0 21 rfl rfl)
theorem dJ20_copyOfRangeByte_22 : decode cJ20_copyOfRangeByte 22 = .ok (.isub, 1) := dk_100 (dk_at dksJ20_copyOfRangeByte_0 22 rfl rfl)
theorem dJ20_copyOfRangeByte_23 : decode cJ20_copyOfRangeByte 23 = .ok (.iload_n 3, 1) := dk_29 (dk_at dksJ20_copyOfRangeByte_0 23 rfl rfl)
theorem dJ20_copyOfRangeByte_24 : decode cJ20_copyOfRangeByte 24 = .ok (.invokestatic 304, 3) := dk_184 1 48 (dk_at dksJ20_copyOfRangeByte_1 0 rfl rfl)
theorem dJ20_copyOfRangeByte_27 : decode cJ20_copyOfRangeByte 27 = .ok (.invokestatic 150, 3) := dk_184 0 150 (dk_at dksJ20_copyOfRangeByte_1 3 rfl rfl)
theorem dJ20_copyOfRangeByte_30 : decode cJ20_copyOfRangeByte 30 = .ok (.aload 4, 2) := dk_25 4 (dk_at dksJ20_copyOfRangeByte_1 6 rfl rfl)
theorem dJ20_copyOfRangeByte_32 : decode cJ20_copyOfRangeByte 32 = .ok (.areturn, 1) := dk_176 (dk_at dksJ20_copyOfRangeByte_1 8 rfl rfl)
abbrev cJ20_copyOfRange : ByteArray := prog_54_method_132_code
def yJ20_copyOfRange : MethodName := ⟨RJ20, "copyOfRange", "([BII)[B"⟩
def dkwJ20_copyOfRange_1 : List UInt8 := [176]
abbrev dktJ20_copyOfRange_1 : List UInt8 := dkwJ20_copyOfRange_1 ++ []
def dkwJ20_copyOfRange_0 : List UInt8 := [27, 154, 0, 9, 28, 42, 190, 159, 0, 10, 42, 27, 28, 184, 1, 83, 176, 42, 182, 1, 54, 192, 1, 55]
abbrev dktJ20_copyOfRange_0 : List UInt8 := dkwJ20_copyOfRange_0 ++ dktJ20_copyOfRange_1
theorem dksJ20_copyOfRange_0 : cJ20_copyOfRange.data.toList.drop 0 = dktJ20_copyOfRange_0 := by decide +kernel
theorem dksJ20_copyOfRange_1 : cJ20_copyOfRange.data.toList.drop 24 = dktJ20_copyOfRange_1 := dk_seg dksJ20_copyOfRange_0 24 rfl rfl
theorem dJ20_copyOfRange_0 : decode cJ20_copyOfRange 0 = .ok (.iload_n 1, 1) := dk_27 (dk_at dksJ20_copyOfRange_0 0 rfl rfl)
theorem dJ20_copyOfRange_1 : decode cJ20_copyOfRange 1 = .ok (.ifCond .ne 9, 3) := dk_154 0 9 (dk_at dksJ20_copyOfRange_0 1 rfl rfl)
theorem dJ20_copyOfRange_4 : decode cJ20_copyOfRange 4 = .ok (.iload_n 2, 1) := dk_28 (dk_at dksJ20_copyOfRange_0 4 rfl rfl)
theorem dJ20_copyOfRange_5 : decode cJ20_copyOfRange 5 = .ok (.aload_n 0, 1) := dk_42 (dk_at dksJ20_copyOfRange_0 5 rfl rfl)
theorem dJ20_copyOfRange_6 : decode cJ20_copyOfRange 6 = .ok (.arraylength, 1) := dk_190 (dk_at dksJ20_copyOfRange_0 6 rfl rfl)
theorem dJ20_copyOfRange_7 : decode cJ20_copyOfRange 7 = .ok (.if_icmp .eq 10, 3) := dk_159 0 10 (dk_at dksJ20_copyOfRange_0 7 rfl rfl)
theorem dJ20_copyOfRange_10 : decode cJ20_copyOfRange 10 = .ok (.aload_n 0, 1) := dk_42 (dk_at dksJ20_copyOfRange_0 10 rfl rfl)
theorem dJ20_copyOfRange_11 : decode cJ20_copyOfRange 11 = .ok (.iload_n 1, 1) := dk_27 (dk_at dksJ20_copyOfRange_0 11 rfl rfl)
theorem dJ20_copyOfRange_12 : decode cJ20_copyOfRange 12 = .ok (.iload_n 2, 1) := dk_28 (dk_at dksJ20_copyOfRange_0 12 rfl rfl)
theorem dJ20_copyOfRange_13 : decode cJ20_copyOfRange 13 = .ok (.invokestatic 339, 3) := dk_184 1 83 (dk_at dksJ20_copyOfRange_0 13 rfl rfl)
theorem dJ20_copyOfRange_16 : decode cJ20_copyOfRange 16 = .ok (.areturn, 1) := dk_176 (dk_at dksJ20_copyOfRange_0 16 rfl rfl)
theorem dJ20_copyOfRange_17 : decode cJ20_copyOfRange 17 = .ok (.aload_n 0, 1) := dk_42 (dk_at dksJ20_copyOfRange_0 17 rfl rfl)
theorem dJ20_copyOfRange_18 : decode cJ20_copyOfRange 18 = .ok (.invokevirtual 310, 3) := dk_182 1 54 (dk_at dksJ20_copyOfRange_0 18 rfl rfl)
theorem dJ20_copyOfRange_21 : decode cJ20_copyOfRange 21 = .ok (.checkcast 311, 3) := dk_192 1 55 (dk_at dksJ20_copyOfRange_0 21 rfl rfl)
theorem dJ20_copyOfRange_24 : decode cJ20_copyOfRange 24 = .ok (.areturn, 1) := dk_176 (dk_at dksJ20_copyOfRange_1 0 rfl rfl)
abbrev cJ5_init_3 : ByteArray := prog_39_method_151_code
def yJ5_init_3 : MethodName := ⟨RJ5, "<init>", "([BB)V"⟩
def dkwJ5_init_3_0 : List UInt8 := [42, 183, 0, 1, 42, 43, 181, 0, 9, 42, 28, 181, 0, 15, 177]
abbrev dktJ5_init_3_0 : List UInt8 := dkwJ5_init_3_0 ++ []
theorem dksJ5_init_3_0 : cJ5_init_3.data.toList.drop 0 = dktJ5_init_3_0 := by decide +kernel
theorem dJ5_init_3_0 : decode cJ5_init_3 0 = .ok (.aload_n 0, 1) := dk_42 (dk_at dksJ5_init_3_0 0 rfl rfl)
theorem dJ5_init_3_1 : decode cJ5_init_3 1 = .ok (.invokespecial 1, 3) := dk_183 0 1 (dk_at dksJ5_init_3_0 1 rfl rfl)
theorem dJ5_init_3_4 : decode cJ5_init_3 4 = .ok (.aload_n 0, 1) := dk_42 (dk_at dksJ5_init_3_0 4 rfl rfl)
theorem dJ5_init_3_5 : decode cJ5_init_3 5 = .ok (.aload_n 1, 1) := dk_43 (dk_at dksJ5_init_3_0 5 rfl rfl)
theorem dJ5_init_3_6 : decode cJ5_init_3 6 = .ok (.putfield 9, 3) := dk_181 0 9 (dk_at dksJ5_init_3_0 6 rfl rfl)
theorem dJ5_init_3_9 : decode cJ5_init_3 9 = .ok (.aload_n 0, 1) := dk_42 (dk_at dksJ5_init_3_0 9 rfl rfl)
theorem dJ5_init_3_10 : decode cJ5_init_3 10 = .ok (.iload_n 2, 1) := dk_28 (dk_at dksJ5_init_3_0 10 rfl rfl)
theorem dJ5_init_3_11 : decode cJ5_init_3 11 = .ok (.putfield 15, 3) := dk_181 0 15 (dk_at dksJ5_init_3_0 11 rfl rfl)
theorem dJ5_init_3_14 : decode cJ5_init_3 14 = .ok (.return_, 1) := dk_177 (dk_at dksJ5_init_3_0 14 rfl rfl)
abbrev cJ21_newString : ByteArray := prog_42_method_47_code
def yJ21_newString : MethodName := ⟨RJ21, "newString", "([BII)Ljava/lang/String;"⟩
def dkwJ21_newString_0 : List UInt8 := [28, 154, 0, 6, 18, 151, 176, 187, 0, 1, 89, 42, 27, 27, 28, 96, 184, 0, 232, 3, 183, 0, 112, 176]
abbrev dktJ21_newString_0 : List UInt8 := dkwJ21_newString_0 ++ []
theorem dksJ21_newString_0 : cJ21_newString.data.toList.drop 0 = dktJ21_newString_0 := by decide +kernel
theorem dJ21_newString_0 : decode cJ21_newString 0 = .ok (.iload_n 2, 1) := dk_28 (dk_at dksJ21_newString_0 0 rfl rfl)
theorem dJ21_newString_1 : decode cJ21_newString 1 = .ok (.ifCond .ne 6, 3) := dk_154 0 6 (dk_at dksJ21_newString_0 1 rfl rfl)
theorem dJ21_newString_4 : decode cJ21_newString 4 = .ok (.ldc 151, 2) := dk_18 151 (dk_at dksJ21_newString_0 4 rfl rfl)
theorem dJ21_newString_6 : decode cJ21_newString 6 = .ok (.areturn, 1) := dk_176 (dk_at dksJ21_newString_0 6 rfl rfl)
theorem dJ21_newString_7 : decode cJ21_newString 7 = .ok (.new 1, 3) := dk_187 0 1 (dk_at dksJ21_newString_0 7 rfl rfl)
theorem dJ21_newString_10 : decode cJ21_newString 10 = .ok (.dup, 1) := dk_89 (dk_at dksJ21_newString_0 10 rfl rfl)
theorem dJ21_newString_11 : decode cJ21_newString 11 = .ok (.aload_n 0, 1) := dk_42 (dk_at dksJ21_newString_0 11 rfl rfl)
theorem dJ21_newString_12 : decode cJ21_newString 12 = .ok (.iload_n 1, 1) := dk_27 (dk_at dksJ21_newString_0 12 rfl rfl)
theorem dJ21_newString_13 : decode cJ21_newString 13 = .ok (.iload_n 1, 1) := dk_27 (dk_at dksJ21_newString_0 13 rfl rfl)
theorem dJ21_newString_14 : decode cJ21_newString 14 = .ok (.iload_n 2, 1) := dk_28 (dk_at dksJ21_newString_0 14 rfl rfl)
theorem dJ21_newString_15 : decode cJ21_newString 15 = .ok (.iadd, 1) := dk_96 (dk_at dksJ21_newString_0 15 rfl rfl)
theorem dJ21_newString_16 : decode cJ21_newString 16 = .ok (.invokestatic 232, 3) := dk_184 0 232 (dk_at dksJ21_newString_0 16 rfl rfl)
theorem dJ21_newString_19 : decode cJ21_newString 19 = .ok (.iconst 0, 1) := dk_3 (dk_at dksJ21_newString_0 19 rfl rfl)
theorem dJ21_newString_20 : decode cJ21_newString 20 = .ok (.invokespecial 112, 3) := dk_183 0 112 (dk_at dksJ21_newString_0 20 rfl rfl)
theorem dJ21_newString_23 : decode cJ21_newString 23 = .ok (.areturn, 1) := dk_176 (dk_at dksJ21_newString_0 23 rfl rfl)
abbrev cJ5_substring : ByteArray := prog_39_method_92_code
def yJ5_substring : MethodName := ⟨RJ5, "substring", "(II)Ljava/lang/String;"⟩
def dkwJ5_substring_2 : List UInt8 := [180, 0, 9, 27, 21, 4, 184, 2, 177, 176]
abbrev dktJ5_substring_2 : List UInt8 := dkwJ5_substring_2 ++ []
def dkwJ5_substring_1 : List UInt8 := [100, 54, 4, 42, 182, 1, 236, 153, 0, 16, 42, 180, 0, 9, 27, 21, 4, 184, 2, 173, 167, 0, 13, 42]
abbrev dktJ5_substring_1 : List UInt8 := dkwJ5_substring_1 ++ dktJ5_substring_2
def dkwJ5_substring_0 : List UInt8 := [42, 182, 1, 249, 62, 27, 28, 29, 184, 2, 9, 27, 154, 0, 10, 28, 29, 160, 0, 5, 42, 176, 28, 27]
abbrev dktJ5_substring_0 : List UInt8 := dkwJ5_substring_0 ++ dktJ5_substring_1
theorem dksJ5_substring_0 : cJ5_substring.data.toList.drop 0 = dktJ5_substring_0 := by decide +kernel
theorem dksJ5_substring_1 : cJ5_substring.data.toList.drop 24 = dktJ5_substring_1 := dk_seg dksJ5_substring_0 24 rfl rfl
theorem dksJ5_substring_2 : cJ5_substring.data.toList.drop 48 = dktJ5_substring_2 := dk_seg dksJ5_substring_1 24 rfl rfl
theorem dJ5_substring_0 : decode cJ5_substring 0 = .ok (.aload_n 0, 1) := dk_42 (dk_at dksJ5_substring_0 0 rfl rfl)
theorem dJ5_substring_1 : decode cJ5_substring 1 = .ok (.invokevirtual 505, 3) := dk_182 1 249 (dk_at dksJ5_substring_0 1 rfl rfl)
theorem dJ5_substring_4 : decode cJ5_substring 4 = .ok (.istore_n 3, 1) := dk_62 (dk_at dksJ5_substring_0 4 rfl rfl)
theorem dJ5_substring_5 : decode cJ5_substring 5 = .ok (.iload_n 1, 1) := dk_27 (dk_at dksJ5_substring_0 5 rfl rfl)
theorem dJ5_substring_6 : decode cJ5_substring 6 = .ok (.iload_n 2, 1) := dk_28 (dk_at dksJ5_substring_0 6 rfl rfl)
theorem dJ5_substring_7 : decode cJ5_substring 7 = .ok (.iload_n 3, 1) := dk_29 (dk_at dksJ5_substring_0 7 rfl rfl)
theorem dJ5_substring_8 : decode cJ5_substring 8 = .ok (.invokestatic 521, 3) := dk_184 2 9 (dk_at dksJ5_substring_0 8 rfl rfl)
theorem dJ5_substring_11 : decode cJ5_substring 11 = .ok (.iload_n 1, 1) := dk_27 (dk_at dksJ5_substring_0 11 rfl rfl)
theorem dJ5_substring_12 : decode cJ5_substring 12 = .ok (.ifCond .ne 10, 3) := dk_154 0 10 (dk_at dksJ5_substring_0 12 rfl rfl)
theorem dJ5_substring_15 : decode cJ5_substring 15 = .ok (.iload_n 2, 1) := dk_28 (dk_at dksJ5_substring_0 15 rfl rfl)
theorem dJ5_substring_16 : decode cJ5_substring 16 = .ok (.iload_n 3, 1) := dk_29 (dk_at dksJ5_substring_0 16 rfl rfl)
theorem dJ5_substring_17 : decode cJ5_substring 17 = .ok (.if_icmp .ne 5, 3) := dk_160 0 5 (dk_at dksJ5_substring_0 17 rfl rfl)
theorem dJ5_substring_20 : decode cJ5_substring 20 = .ok (.aload_n 0, 1) := dk_42 (dk_at dksJ5_substring_0 20 rfl rfl)
theorem dJ5_substring_21 : decode cJ5_substring 21 = .ok (.areturn, 1) := dk_176 (dk_at dksJ5_substring_0 21 rfl rfl)
theorem dJ5_substring_22 : decode cJ5_substring 22 = .ok (.iload_n 2, 1) := dk_28 (dk_at dksJ5_substring_0 22 rfl rfl)
theorem dJ5_substring_23 : decode cJ5_substring 23 = .ok (.iload_n 1, 1) := dk_27 (dk_at dksJ5_substring_0 23 rfl rfl)
theorem dJ5_substring_24 : decode cJ5_substring 24 = .ok (.isub, 1) := dk_100 (dk_at dksJ5_substring_1 0 rfl rfl)
theorem dJ5_substring_25 : decode cJ5_substring 25 = .ok (.istore 4, 2) := dk_54 4 (dk_at dksJ5_substring_1 1 rfl rfl)
theorem dJ5_substring_27 : decode cJ5_substring 27 = .ok (.aload_n 0, 1) := dk_42 (dk_at dksJ5_substring_1 3 rfl rfl)
theorem dJ5_substring_28 : decode cJ5_substring 28 = .ok (.invokevirtual 492, 3) := dk_182 1 236 (dk_at dksJ5_substring_1 4 rfl rfl)
theorem dJ5_substring_31 : decode cJ5_substring 31 = .ok (.ifCond .eq 16, 3) := dk_153 0 16 (dk_at dksJ5_substring_1 7 rfl rfl)
theorem dJ5_substring_34 : decode cJ5_substring 34 = .ok (.aload_n 0, 1) := dk_42 (dk_at dksJ5_substring_1 10 rfl rfl)
theorem dJ5_substring_35 : decode cJ5_substring 35 = .ok (.getfield 9, 3) := dk_180 0 9 (dk_at dksJ5_substring_1 11 rfl rfl)
theorem dJ5_substring_38 : decode cJ5_substring 38 = .ok (.iload_n 1, 1) := dk_27 (dk_at dksJ5_substring_1 14 rfl rfl)
theorem dJ5_substring_39 : decode cJ5_substring 39 = .ok (.iload 4, 2) := dk_21 4 (dk_at dksJ5_substring_1 15 rfl rfl)
theorem dJ5_substring_41 : decode cJ5_substring 41 = .ok (.invokestatic 685, 3) := dk_184 2 173 (dk_at dksJ5_substring_1 17 rfl rfl)
theorem dJ5_substring_44 : decode cJ5_substring 44 = .ok (.goto 13, 3) := dk_167 0 13 (dk_at dksJ5_substring_1 20 rfl rfl)
theorem dJ5_substring_47 : decode cJ5_substring 47 = .ok (.aload_n 0, 1) := dk_42 (dk_at dksJ5_substring_1 23 rfl rfl)
theorem dJ5_substring_48 : decode cJ5_substring 48 = .ok (.getfield 9, 3) := dk_180 0 9 (dk_at dksJ5_substring_2 0 rfl rfl)
theorem dJ5_substring_51 : decode cJ5_substring 51 = .ok (.iload_n 1, 1) := dk_27 (dk_at dksJ5_substring_2 3 rfl rfl)
theorem dJ5_substring_52 : decode cJ5_substring 52 = .ok (.iload 4, 2) := dk_21 4 (dk_at dksJ5_substring_2 4 rfl rfl)
theorem dJ5_substring_54 : decode cJ5_substring 54 = .ok (.invokestatic 689, 3) := dk_184 2 177 (dk_at dksJ5_substring_2 6 rfl rfl)
theorem dJ5_substring_57 : decode cJ5_substring 57 = .ok (.areturn, 1) := dk_176 (dk_at dksJ5_substring_2 9 rfl rfl)
theorem q2602 : (Jvm.Cond.methodLink "java/lang/StringLatin1" (88 : Nat) ({ cls := "java/lang/StringLatin1", name := "canEncode", desc := "(I)Z" } : Jvm.MethodName)) ∈ lw_all := lw_g (lw_at lw_m11 142 rfl) rfl
theorem q2604 : (Jvm.Cond.code ({ cls := "java/lang/StringLatin1", name := "canEncode", desc := "(I)Z" } : Jvm.MethodName) prog_42_method_4_code (1 : Nat) (Option.some Jvm.ClassFile.FieldType.boolean)) ∈ lw_all := lw_g (lw_at lw_m11 144 rfl) rfl
theorem q2603 : (Jvm.Cond.static ({ cls := "java/lang/StringLatin1", name := "canEncode", desc := "(I)Z" } : Jvm.MethodName)) ∈ lw_all := lw_g (lw_at lw_m11 143 rfl) rfl
theorem q2605 : (Jvm.Cond.methodLink "java/lang/StringLatin1" (92 : Nat) ({ cls := "java/lang/Math", name := "max", desc := "(II)I" } : Jvm.MethodName)) ∈ lw_all := lw_g (lw_at lw_m11 145 rfl) rfl
theorem q2606 : (Jvm.Cond.methodLink "java/lang/StringLatin1" (38 : Nat) ({ cls := "java/lang/Math", name := "min", desc := "(II)I" } : Jvm.MethodName)) ∈ lw_all := lw_g (lw_at lw_m11 146 rfl) rfl
theorem q594 : (Jvm.Cond.static ({ cls := "java/lang/Math", name := "min", desc := "(II)I" } : Jvm.MethodName)) ∈ lw_all := lw_g (lw_at lw_m3 54 rfl) rfl
theorem q595 : (Jvm.Cond.code ({ cls := "java/lang/Math", name := "min", desc := "(II)I" } : Jvm.MethodName) prog_36_method_69_code (2 : Nat) (Option.some Jvm.ClassFile.FieldType.int)) ∈ lw_all := lw_g (lw_at lw_m3 55 rfl) rfl
theorem q2607 : (Jvm.Cond.methodLink "java/lang/StringLatin1" (95 : Nat) ({ cls := "java/lang/StringLatin1", name := "indexOfChar", desc := "([BIII)I" } : Jvm.MethodName)) ∈ lw_all := lw_g (lw_at lw_m11 147 rfl) rfl
theorem q2609 : (Jvm.Cond.code ({ cls := "java/lang/StringLatin1", name := "indexOfChar", desc := "([BIII)I" } : Jvm.MethodName) prog_42_method_23_code (6 : Nat) (Option.some Jvm.ClassFile.FieldType.int)) ∈ lw_all := lw_g (lw_at lw_m11 149 rfl) rfl
theorem q2608 : (Jvm.Cond.static ({ cls := "java/lang/StringLatin1", name := "indexOfChar", desc := "([BIII)I" } : Jvm.MethodName)) ∈ lw_all := lw_g (lw_at lw_m11 148 rfl) rfl
theorem q1924 : (Jvm.Cond.methodLink "java/lang/String" (505 : Nat) ({ cls := "java/lang/String", name := "length", desc := "()I" } : Jvm.MethodName)) ∈ lw_all := lw_g (lw_at lw_m8 184 rfl) rfl
theorem q631 : (Jvm.Cond.code ({ cls := "java/lang/String", name := "length", desc := "()I" } : Jvm.MethodName) prog_39_method_54_code (1 : Nat) (Option.some Jvm.ClassFile.FieldType.int)) ∈ lw_all := lw_g (lw_at lw_m3 91 rfl) rfl
theorem q629 : (Jvm.Cond.instanceMethod ({ cls := "java/lang/String", name := "length", desc := "()I" } : Jvm.MethodName)) ∈ lw_all := lw_g (lw_at lw_m3 89 rfl) rfl
theorem q630 : (Jvm.Cond.selects "java/lang/String" ({ cls := "java/lang/String", name := "length", desc := "()I" } : Jvm.MethodName) ({ cls := "java/lang/String", name := "length", desc := "()I" } : Jvm.MethodName)) ∈ lw_all := lw_g (lw_at lw_m3 90 rfl) rfl
theorem q2599 : (Jvm.Cond.methodLink "java/lang/String" (637 : Nat) ({ cls := "java/lang/StringLatin1", name := "indexOf", desc := "([BIII)I" } : Jvm.MethodName)) ∈ lw_all := lw_g (lw_at lw_m11 139 rfl) rfl
theorem q2601 : (Jvm.Cond.code ({ cls := "java/lang/StringLatin1", name := "indexOf", desc := "([BIII)I" } : Jvm.MethodName) prog_42_method_22_code (4 : Nat) (Option.some Jvm.ClassFile.FieldType.int)) ∈ lw_all := lw_g (lw_at lw_m11 141 rfl) rfl
theorem q2600 : (Jvm.Cond.static ({ cls := "java/lang/StringLatin1", name := "indexOf", desc := "([BIII)I" } : Jvm.MethodName)) ∈ lw_all := lw_g (lw_at lw_m11 140 rfl) rfl
theorem q739 : (Jvm.Cond.methodLink "java/util/Arrays" (343 : Nat) ({ cls := "java/util/Arrays", name := "checkLength", desc := "(II)V" } : Jvm.MethodName)) ∈ lw_all := lw_g (lw_at lw_m3 199 rfl) rfl
theorem q91 : (Jvm.Cond.initialized "java/util/Arrays") ∈ lw_all := lw_g (lw_at lw_m1 31 rfl) rfl
theorem q741 : (Jvm.Cond.code ({ cls := "java/util/Arrays", name := "checkLength", desc := "(II)V" } : Jvm.MethodName) prog_54_method_131_code (2 : Nat) (Option.none : Option Jvm.ClassFile.FieldType)) ∈ lw_all := lw_g (lw_at lw_m3 201 rfl) rfl
theorem q740 : (Jvm.Cond.static ({ cls := "java/util/Arrays", name := "checkLength", desc := "(II)V" } : Jvm.MethodName)) ∈ lw_all := lw_g (lw_at lw_m3 200 rfl) rfl
theorem q318 : (Jvm.Cond.arrayClass Jvm.ClassFile.FieldType.byte) ∈ lw_all := lw_g (lw_at lw_m2 18 rfl) rfl
theorem q593 : (Jvm.Cond.methodLink "java/util/Arrays" (304 : Nat) ({ cls := "java/lang/Math", name := "min", desc := "(II)I" } : Jvm.MethodName)) ∈ lw_all := lw_g (lw_at lw_m3 53 rfl) rfl
theorem q596 : (Jvm.Cond.methodLink "java/util/Arrays" (150 : Nat) ({ cls := "java/lang/System", name := "arraycopy", desc := "(Ljava/lang/Object;ILjava/lang/Object;II)V" } : Jvm.MethodName)) ∈ lw_all := lw_g (lw_at lw_m3 56 rfl) rfl
theorem q379 : (Jvm.Cond.native ({ cls := "java/lang/System", name := "arraycopy", desc := "(Ljava/lang/Object;ILjava/lang/Object;II)V" } : Jvm.MethodName)) ∈ lw_all := lw_g (lw_at lw_m2 79 rfl) rfl
theorem q378 : (Jvm.Cond.static ({ cls := "java/lang/System", name := "arraycopy", desc := "(Ljava/lang/Object;ILjava/lang/Object;II)V" } : Jvm.MethodName)) ∈ lw_all := lw_g (lw_at lw_m2 78 rfl) rfl
theorem q82 : (Jvm.Cond.initialized "java/lang/System") ∈ lw_all := lw_g (lw_at lw_m1 22 rfl) rfl
theorem q736 : (Jvm.Cond.methodLink "java/util/Arrays" (339 : Nat) ({ cls := "java/util/Arrays", name := "copyOfRangeByte", desc := "([BII)[B" } : Jvm.MethodName)) ∈ lw_all := lw_g (lw_at lw_m3 196 rfl) rfl
theorem q738 : (Jvm.Cond.code ({ cls := "java/util/Arrays", name := "copyOfRangeByte", desc := "([BII)[B" } : Jvm.MethodName) prog_54_method_133_code (5 : Nat) (Option.some (Jvm.ClassFile.FieldType.array Jvm.ClassFile.FieldType.byte))) ∈ lw_all := lw_g (lw_at lw_m3 198 rfl) rfl
theorem q737 : (Jvm.Cond.static ({ cls := "java/util/Arrays", name := "copyOfRangeByte", desc := "([BII)[B" } : Jvm.MethodName)) ∈ lw_all := lw_g (lw_at lw_m3 197 rfl) rfl
theorem q718 : (Jvm.Cond.methodLink "java/lang/String" (1 : Nat) ({ cls := "java/lang/Object", name := "<init>", desc := "()V" } : Jvm.MethodName)) ∈ lw_all := lw_g (lw_at lw_m3 178 rfl) rfl
theorem q121 : (Jvm.Cond.instanceMethod ({ cls := "java/lang/Object", name := "<init>", desc := "()V" } : Jvm.MethodName)) ∈ lw_all := lw_g (lw_at lw_m1 61 rfl) rfl
theorem q122 : (Jvm.Cond.code ({ cls := "java/lang/Object", name := "<init>", desc := "()V" } : Jvm.MethodName) object_method_1_code (1 : Nat) (Option.none : Option Jvm.ClassFile.FieldType)) ∈ lw_all := lw_g (lw_at lw_m1 62 rfl) rfl
theorem q711 : (Jvm.Cond.instantiable "java/lang/String" (4 : Nat)) ∈ lw_all := lw_g (lw_at lw_m3 171 rfl) rfl
theorem q2656 : (Jvm.Cond.classLink "java/lang/StringLatin1" (1 : Nat) "java/lang/String") ∈ lw_all := lw_g (lw_at lw_m11 196 rfl) rfl
theorem q2657 : (Jvm.Cond.methodLink "java/lang/StringLatin1" (232 : Nat) ({ cls := "java/util/Arrays", name := "copyOfRange", desc := "([BII)[B" } : Jvm.MethodName)) ∈ lw_all := lw_g (lw_at lw_m11 197 rfl) rfl
theorem q735 : (Jvm.Cond.code ({ cls := "java/util/Arrays", name := "copyOfRange", desc := "([BII)[B" } : Jvm.MethodName) prog_54_method_132_code (3 : Nat) (Option.some (Jvm.ClassFile.FieldType.array Jvm.ClassFile.FieldType.byte))) ∈ lw_all := lw_g (lw_at lw_m3 195 rfl) rfl
theorem q734 : (Jvm.Cond.static ({ cls := "java/util/Arrays", name := "copyOfRange", desc := "([BII)[B" } : Jvm.MethodName)) ∈ lw_all := lw_g (lw_at lw_m3 194 rfl) rfl
theorem q2658 : (Jvm.Cond.methodLink "java/lang/StringLatin1" (112 : Nat) ({ cls := "java/lang/String", name := "<init>", desc := "([BB)V" } : Jvm.MethodName)) ∈ lw_all := lw_g (lw_at lw_m11 198 rfl) rfl
theorem q2660 : (Jvm.Cond.code ({ cls := "java/lang/String", name := "<init>", desc := "([BB)V" } : Jvm.MethodName) prog_39_method_151_code (3 : Nat) (Option.none : Option Jvm.ClassFile.FieldType)) ∈ lw_all := lw_g (lw_at lw_m11 200 rfl) rfl
theorem q2659 : (Jvm.Cond.instanceMethod ({ cls := "java/lang/String", name := "<init>", desc := "([BB)V" } : Jvm.MethodName)) ∈ lw_all := lw_g (lw_at lw_m11 199 rfl) rfl
theorem q2651 : (Jvm.Cond.methodLink "java/lang/String" (521 : Nat) ({ cls := "java/lang/String", name := "checkBoundsBeginEnd", desc := "(III)V" } : Jvm.MethodName)) ∈ lw_all := lw_g (lw_at lw_m11 191 rfl) rfl
theorem q613 : (Jvm.Cond.code ({ cls := "java/lang/String", name := "checkBoundsBeginEnd", desc := "(III)V" } : Jvm.MethodName) prog_39_method_158_code (3 : Nat) (Option.none : Option Jvm.ClassFile.FieldType)) ∈ lw_all := lw_g (lw_at lw_m3 73 rfl) rfl
theorem q612 : (Jvm.Cond.static ({ cls := "java/lang/String", name := "checkBoundsBeginEnd", desc := "(III)V" } : Jvm.MethodName)) ∈ lw_all := lw_g (lw_at lw_m3 72 rfl) rfl
theorem q2652 : (Jvm.Cond.methodLink "java/lang/String" (685 : Nat) ({ cls := "java/lang/StringLatin1", name := "newString", desc := "([BII)Ljava/lang/String;" } : Jvm.MethodName)) ∈ lw_all := lw_g (lw_at lw_m11 192 rfl) rfl
theorem q2654 : (Jvm.Cond.code ({ cls := "java/lang/StringLatin1", name := "newString", desc := "([BII)Ljava/lang/String;" } : Jvm.MethodName) prog_42_method_47_code (3 : Nat) (Option.some (Jvm.ClassFile.FieldType.object "java/lang/String"))) ∈ lw_all := lw_g (lw_at lw_m11 194 rfl) rfl
theorem q2653 : (Jvm.Cond.static ({ cls := "java/lang/StringLatin1", name := "newString", desc := "([BII)Ljava/lang/String;" } : Jvm.MethodName)) ∈ lw_all := lw_g (lw_at lw_m11 193 rfl) rfl
theorem Rd.ne {G : GE} {h : AH} {a b : Nat} {e : va_E} (r : Rd G h b e) (ha : h a = none) (hk : G.kh a = none) : b ≠ a := by
  intro z
  subst z
  rcases r with r | r
  · rw [r] at ha; cases ha
  · rw [r] at hk; cases hk
theorem Rd.up {G : GE} {h : AH} {a b : Nat} {e x : va_E} (r : Rd G h b e) (n : b ≠ a) : Rd G (up h a x) b e := by
  rcases r with r | r
  · exact Or.inl ((up_ne n).trans r)
  · exact Or.inr r
theorem fitB {q : Nat} (h : q < 128) : fits .byte (.int (nI q)) = true := by
  revert h; revert q
  decide +kernel
theorem fitBA {n i m x : Nat} {f : Nat → Int32} (ha : Asc n f) (h : i + m ≤ n) (hx : x < m) : fits .byte (.int (f (i + x))) = true := by
  obtain ⟨q, q1, q2⟩ := ha (i + x) (by omega)
  rw [q2]; exact fitB q1
theorem mnL {a b : Nat} (h : b ≤ a) (ha : a < 2 ^ 31) : (if nI b < nI a then nI b else nI a) = nI b := by
  by_cases e : b = a
  · subst e; rw [if_neg (nI_nlt (Nat.le_refl _) ha)]
  · rw [if_pos (nI_lt (by omega) ha)]
theorem mnR {a b : Nat} (h : a ≤ b) (hb : b < 2 ^ 31) : (if nI b < nI a then nI b else nI a) = nI a := if_neg (nI_nlt h hb)
theorem up_up {h : AH} {a : Nat} {x y : va_E} : up (up h a x) a y = up h a y := by
  funext q
  unfold up
  split <;> rfl
theorem StrA.up {G : GE} {h : AH} {a b n c : Nat} {f : Nat → Int32} {x : va_E} (y : StrA G h a b n f) (n1 : a ≠ c) (n2 : b ≠ c) : StrA G (up h c x) a b n f := by
  obtain ⟨⟨hs, hz, r1⟩, r2, r3⟩ := y
  exact ⟨⟨hs, hz, r1.up n1⟩, r2.up n2, r3⟩
theorem l_canEncode (l : Launch) (G : GE) (h : AH) (c : Nat) (hc : c < 128) : GM l G yJ21_canEncode (ws_ yJ21_canEncode cJ21_canEncode 1 (some .boolean)) 1 [.int (nI c)] (h) (0) (PV (.int 1) h) := by
  refine GM.of (by decide) (dk rfl) ?_
  intro X eL eG eh ok fn
  subst eL; subst eG
  show GW X _ 0 0 [some (.int (nI c))] []
  refine g_iload_n ok dJ21_canEncode_0 rfl ?_
  refine g_sipush ok (v := 255) dJ21_canEncode_1 rfl ?_
  refine g_icmp_gt ok (tgt := 11) dJ21_canEncode_4 (by decide) (fun c_ => absurd c_ (nI_nlt (a := 255) (b := c) (by omega) (by omega))) (fun _ => ?_)
  refine g_iconst ok (v := 1) dJ21_canEncode_7 rfl ?_
  refine g_goto ok dJ21_canEncode_8 (tgt := 12) (by decide) ?_
  exact g_zret ok fn rfl rfl dJ21_canEncode_12 (pv_h rfl) (by omega)
theorem l_canEncode_2 (l : Launch) (G : GE) (h : AH) (c : Nat) (hc : c < 128) : GM l G yJ21_canEncode_2 (ws_ yJ21_canEncode_2 cJ21_canEncode_2 1 (some .boolean)) 1 [.int (nI c)] (h) (0) (PV (.int 1) h) := by
  refine GM.of (by decide) (dk rfl) ?_
  intro X eL eG eh ok fn
  subst eL; subst eG
  show GW X _ 0 0 [some (.int (nI c))] []
  refine g_iload_n ok dJ21_canEncode_2_0 rfl ?_
  refine g_if_lt ok (tgt := 15) dJ21_canEncode_2_1 (by decide) (fun c_ => absurd c_ (nI_nlt (a := c) (b := 0) (by omega) (by omega))) (fun _ => ?_)
  refine g_iload_n ok dJ21_canEncode_2_4 rfl ?_
  refine g_sipush ok (v := 255) dJ21_canEncode_2_5 rfl ?_
  refine g_icmp_gt ok (tgt := 15) dJ21_canEncode_2_8 (by decide) (fun c_ => absurd c_ (nI_nlt (a := 255) (b := c) (by omega) (by omega))) (fun _ => ?_)
  refine g_iconst ok (v := 1) dJ21_canEncode_2_11 rfl ?_
  refine g_goto ok dJ21_canEncode_2_12 (tgt := 16) (by decide) ?_
  exact g_zret ok fn rfl rfl dJ21_canEncode_2_16 (pv_h rfl) (by omega)
theorem l_indexOfChar (l : Launch) (G : GE) (h : AH) (b n : Nat) (f : Nat → Int32) (r2 : Rd G h b (aB G n f)) (r3 : n < 1000) (c i t : Nat) (hc : c < 128) (hi : i ≤ t) (ht : t ≤ n) : GM l G yJ21_indexOfChar (ws_ yJ21_indexOfChar cJ21_indexOfChar 6 (some .int)) 1 [.ref b, .int (nI c), .int (nI i), .int (nI t)] (h) (0) (PV (.int (ixL f (nI c) (t - i) i)) h) := by
  refine GM.of (by decide) (dk rfl) ?_
  intro X eL eG eh ok fn
  subst eL; subst eG
  show GW X _ 0 0 [some (.ref b), some (.int (nI c)), some (.int (nI i)), some (.int (nI t)), none, none] []
  refine g_iload_n ok dJ21_indexOfChar_0 rfl ?_
  refine g_i2b ok dJ21_indexOfChar_1 (v := nI c) (i2bN hc) ?_
  refine g_istore ok dJ21_indexOfChar_2 (ls1 := [some (.ref b), some (.int (nI c)), some (.int (nI i)), some (.int (nI t)), some (.int (nI c)), none]) (dl rfl) rfl ?_
  refine g_iload_n ok dJ21_indexOfChar_4 rfl ?_
  refine g_istore ok dJ21_indexOfChar_5 (ls1 := [some (.ref b), some (.int (nI c)), some (.int (nI i)), some (.int (nI t)), some (.int (nI c)), some (.int (nI i))]) (dl rfl) rfl ?_
  obtain ⟨F, hF⟩ : ∃ F : Int32, ixL f (nI c) (t - i) i = F := ⟨_, rfl⟩
  rw [hF] at fn
  have lp : ∀ (k : Nat) (j : Nat), (j + k = t) → (ixL f (nI c) k j = F) → GW X h 0 7 [some (.ref b), some (.int (nI c)), some (.int (nI i)), some (.int (nI t)), some (.int (nI c)), some (.int (nI j))] [] := by
    intro k
    induction k with
    | zero =>
      intro j g0 g1
      refine g_iload ok dJ21_indexOfChar_7 rfl ?_
      refine g_iload_n ok dJ21_indexOfChar_9 rfl ?_
      refine g_icmp_ge ok (tgt := 31) dJ21_indexOfChar_10 (by decide) (fun _ => ?_) (fun c_ => absurd (nI_le (a := t) (b := j) (by omega) (by omega)) c_)
      refine g_iconst ok (v := -1) dJ21_indexOfChar_31 rfl ?_
      exact g_iret ok fn rfl dJ21_indexOfChar_32 (pv_h g1) (by omega)
    | succ k ih =>
      intro j g0 g1
      refine g_iload ok dJ21_indexOfChar_7 rfl ?_
      refine g_iload_n ok dJ21_indexOfChar_9 rfl ?_
      refine g_icmp_ge ok (tgt := 31) dJ21_indexOfChar_10 (by decide) (fun c_ => absurd c_ (nI_ge (a := j) (b := t) (by omega) (by omega))) (fun _ => ?_)
      refine g_aload_n ok dJ21_indexOfChar_13 rfl ?_
      refine g_iload ok dJ21_indexOfChar_14 rfl ?_
      refine g_bald ok (j := j) dJ21_indexOfChar_16 (r2) rfl (by omega) (by omega) ?_
      refine g_iload ok dJ21_indexOfChar_17 rfl ?_
      refine g_icmp_ne ok (tgt := 25) dJ21_indexOfChar_19 (by decide) (fun c19 => ?_) (fun c19 => ?_)
      · refine g_iincN ok dJ21_indexOfChar_25 (c := j) rfl rfl (ls1 := [some (.ref b), some (.int (nI c)), some (.int (nI i)), some (.int (nI t)), some (.int (nI c)), some (.int (nI (j + 1)))]) rfl ?_
        refine g_goto ok dJ21_indexOfChar_28 (tgt := 7) (by decide) ?_
        exact ih _ (by omega) (ixL_f c19 g1)
      · refine g_iload ok dJ21_indexOfChar_22 rfl ?_
        exact g_iret ok fn rfl dJ21_indexOfChar_24 (pv_h (ixL_t c19 g1)) (by omega)
  exact lp (t - i) i (by omega) hF
theorem l_indexOf (l : Launch) (G : GE) (h : AH) (b n : Nat) (f : Nat → Int32) (r2 : Rd G h b (aB G n f)) (r3 : n < 1000) (c i : Nat) (hc : c < 128) (hi : i < 1000) : GM l G yJ21_indexOf (ws_ yJ21_indexOf cJ21_indexOf 4 (some .int)) 2 [.ref b, .int (nI c), .int (nI i), .int (nI n)] (h) (0) (PV (.int (ixL f (nI c) (n - i) i)) h) := by
  refine GM.of (by decide) (dk rfl) ?_
  intro X eL eG eh ok fn
  subst eL; subst eG
  show GW X _ 0 0 [some (.ref b), some (.int (nI c)), some (.int (nI i)), some (.int (nI n))] []
  refine g_iload_n ok dJ21_indexOf_0 rfl ?_
  refine g_callS ok q2602 q2603 q92 q2604 dJ21_indexOf_1 (l_canEncode_2 X.l X.G _ c (by omega)) (nm_ (by decide : nmb _ 1 = true)) (dl rfl) (dk rfl) rfl rfl (dk rfl) (by omega) (kV ?_) xV
  refine g_if_ne ok (tgt := 9) dJ21_indexOf_4 (by decide) (fun _ => ?_) (fun c_ => absurd c_ (fun e_ => by have := (nI_eq (a := 1) (b := 0) (by omega) (by omega)).mp e_; omega))
  refine g_iload_n ok dJ21_indexOf_9 rfl ?_
  refine g_iconst ok (v := 0) dJ21_indexOf_10 rfl ?_
  refine g_max ok q2605 q576 q90 q577 dJ21_indexOf_11 (dk rfl) rfl (dk rfl) (by omega) ?_
  rw [if_neg (nI_pos (by omega))]
  refine g_istore_n ok dJ21_indexOf_14 (ls1 := [some (.ref b), some (.int (nI c)), some (.int (nI i)), some (.int (nI n))]) (dl rfl) rfl ?_
  refine g_iload_n ok dJ21_indexOf_15 rfl ?_
  refine g_aload_n ok dJ21_indexOf_16 rfl ?_
  refine g_alen ok dJ21_indexOf_17 (r2) (gt_b _) ?_
  refine g_min ok q2606 q594 q90 q595 dJ21_indexOf_18 (dk rfl) rfl (dk rfl) (by omega) ?_
  rw [if_neg (nI_nlt (a := n) (b := n) (Nat.le_refl _) (by omega))]
  refine g_istore_n ok dJ21_indexOf_21 (ls1 := [some (.ref b), some (.int (nI c)), some (.int (nI i)), some (.int (nI n))]) (dl rfl) rfl ?_
  refine g_iload_n ok dJ21_indexOf_22 rfl ?_
  refine g_iload_n ok dJ21_indexOf_23 rfl ?_
  by_cases hin : i < n
  · refine g_icmp_lt ok (tgt := 29) dJ21_indexOf_24 (by decide) (fun _ => ?_) (fun c_ => absurd (nI_lt (a := i) (b := n) (by omega) (by omega)) c_)
    refine g_aload_n ok dJ21_indexOf_29 rfl ?_
    refine g_iload_n ok dJ21_indexOf_30 rfl ?_
    refine g_iload_n ok dJ21_indexOf_31 rfl ?_
    refine g_iload_n ok dJ21_indexOf_32 rfl ?_
    refine g_callS ok q2607 q2608 q92 q2609 dJ21_indexOf_33 (l_indexOfChar X.l X.G _ b n f (r2) (by omega) c i n (by omega) (by omega) (by omega)) (nm_ (by decide : nmb _ 4 = true)) (dl rfl) (dk rfl) rfl rfl (dk rfl) (by omega) (kV ?_) xV
    exact g_iret ok fn rfl dJ21_indexOf_36 (pv_h rfl) (by omega)
  · refine g_icmp_lt ok (tgt := 29) dJ21_indexOf_24 (by decide) (fun c_ => absurd c_ (nI_nlt (a := i) (b := n) (by omega) (by omega))) (fun _ => ?_)
    refine g_iconst ok (v := -1) dJ21_indexOf_27 rfl ?_
    exact g_iret ok fn rfl dJ21_indexOf_28 (pv_h (by rw [show n - i = 0 by omega]; rfl)) (by omega)
theorem s_indexOf (l : Launch) (G : GE) (h : AH) (a b n : Nat) (f : Nat → Int32) (y0 : StrA G h a b n f) (c i : Nat) (hc : c < 128) (hi : i < 1000) : GM l G yJ5_indexOf (ws_ yJ5_indexOf cJ5_indexOf 3 (some .int)) 3 [.ref a, .int (nI c), .int (nI i)] (h) (0) (PV (.int (ixL f (nI c) (n - i) i)) h) := by
  refine GM.of (by decide) (dk rfl) ?_
  intro X eL eG eh ok fn
  subst eL; subst eG
  show GW X _ 0 0 [some (.ref a), some (.int (nI c)), some (.int (nI i))] []
  obtain ⟨⟨hsa, hza, r1a⟩, r2a, r3a⟩ := id y0
  refine g_aload_n ok dJ5_indexOf_0 rfl ?_
  refine g_callV ok q2053 q2054 q2055 q73 q2056 (Recv.ob ok gc_J5 (r1a)) dJ5_indexOf_1 (s_latin X.l X.G _ a b n f y0) (nm_ (by decide : nmb _ 0 = true)) (dl rfl) (dk rfl) rfl rfl (dk rfl) (by omega) (kV ?_) xV
  refine g_if_eq ok (tgt := 23) dJ5_indexOf_4 (by decide) (fun c_ => absurd c_ (fun e_ => by have := (nI_eq (a := 1) (b := 0) (by omega) (by omega)).mp e_; omega)) (fun _ => ?_)
  refine g_aload_n ok dJ5_indexOf_7 rfl ?_
  refine g_get ok ck_J5 0 q784 (Or.inl rfl) (by decide) dJ5_indexOf_8 (r1a) rfl ?_
  refine g_iload_n ok dJ5_indexOf_11 rfl ?_
  refine g_iload_n ok dJ5_indexOf_12 rfl ?_
  refine g_aload_n ok dJ5_indexOf_13 rfl ?_
  refine g_callV ok q1924 q629 q630 q73 q631 (Recv.ob ok gc_J5 (r1a)) dJ5_indexOf_14 (s_length X.l X.G _ a b n f y0) (nm_ (by decide : nmb _ 0 = true)) (dl rfl) (dk rfl) rfl rfl (dk rfl) (by omega) (kV ?_) xV
  refine g_callS ok q2599 q2600 q92 q2601 dJ5_indexOf_17 (l_indexOf X.l X.G _ b n f (r2a) (by omega) c i (by omega) (by omega)) (nm_ (by decide : nmb _ 4 = true)) (dl rfl) (dk rfl) rfl rfl (dk rfl) (by omega) (kV ?_) xV
  refine g_goto ok dJ5_indexOf_20 (tgt := 36) (by decide) ?_
  exact g_iret ok fn rfl dJ5_indexOf_36 (pv_h rfl) (by omega)
theorem a_checkLength (l : Launch) (G : GE) (h : AH) (i j : Nat) (hij : i ≤ j) (hj : j < 2 ^ 31) : GM l G yJ20_checkLength (ws_ yJ20_checkLength cJ20_checkLength 2 none) 1 [.int (nI i), .int (nI j)] (h) (0) (PN h) := by
  refine GM.of (by decide) (dk rfl) ?_
  intro X eL eG eh ok fn
  subst eL; subst eG
  show GW X _ 0 0 [some (.int (nI i)), some (.int (nI j))] []
  refine g_iload_n ok dJ20_checkLength_0 rfl ?_
  refine g_iload_n ok dJ20_checkLength_1 rfl ?_
  refine g_icmp_ge ok (tgt := 37) dJ20_checkLength_2 (by decide) (fun _ => ?_) (fun c_ => absurd (nI_le (a := i) (b := j) (by omega) (by omega)) c_)
  exact g_vret ok fn rfl dJ20_checkLength_37 ⟨rfl, rfl⟩ (by omega)
theorem a_copyRangeB (l : Launch) (G : GE) (h : AH) (b n : Nat) (f : Nat → Int32) (r2 : Rd G h b (aB G n f)) (r3 : n < 1000) (i j : Nat) (ha : Asc n f) (hij : i ≤ j) (hj : j ≤ n) : GM l G yJ20_copyOfRangeByte (ws_ yJ20_copyOfRangeByte cJ20_copyOfRangeByte 5 (some (.array .byte))) 2 [.ref b, .int (nI i), .int (nI j)] (h) (j - i + 1) (PR fun v h' => ∃ a, v = .ref a ∧ h a = none ∧ G.kh a = none ∧ h' = up h a (aB G (j - i) (va_cpy f (fun _ => 0) i 0 (j - i)))) := by
  refine GM.of (by decide) (dk rfl) ?_
  intro X eL eG eh ok fn
  subst eL; subst eG
  show GW X _ 0 0 [some (.ref b), some (.int (nI i)), some (.int (nI j)), none, none] []
  refine g_iload_n ok dJ20_copyOfRangeByte_0 rfl ?_
  refine g_iload_n ok dJ20_copyOfRangeByte_1 rfl ?_
  refine g_callS ok q739 q740 q91 q741 dJ20_copyOfRangeByte_2 (a_checkLength X.l X.G _ i j (by omega) (by omega)) (nm_ (by decide : nmb _ 2 = true)) (dl rfl) (dk rfl) rfl rfl (dk rfl) (by omega) (kN ?_) xN
  refine g_iload_n ok dJ20_copyOfRangeByte_5 rfl ?_
  refine g_iload_n ok dJ20_copyOfRangeByte_6 rfl ?_
  refine g_isubN ok dJ20_copyOfRangeByte_7 (c := (j - i)) (a := j) (b := i) rfl rfl (by omega) (by omega) ?_
  refine g_istore_n ok dJ20_copyOfRangeByte_8 (ls1 := [some (.ref b), some (.int (nI i)), some (.int (nI j)), some (.int (nI (j - i))), none]) (dl rfl) rfl ?_
  refine g_iload_n ok dJ20_copyOfRangeByte_9 rfl ?_
  refine g_newa ok (atype := .byte) (n := (j - i)) (ai := 2) (y := (.inl (fun _ => 0))) q318 (gt_b _) (fun C h => by cases h) (fun _ => rfl) dJ20_copyOfRangeByte_10 rfl (by omega) (by omega) (fun a haa hka h0a => ?_)
  have ne0 := Rd.ne (r2) haa hka
  refine g_astore ok dJ20_copyOfRangeByte_12 (ls1 := [some (.ref b), some (.int (nI i)), some (.int (nI j)), some (.int (nI (j - i))), some (.ref a)]) (dl rfl) rfl ?_
  refine g_aload_n ok dJ20_copyOfRangeByte_14 rfl ?_
  refine g_iload_n ok dJ20_copyOfRangeByte_15 rfl ?_
  refine g_aload ok dJ20_copyOfRangeByte_16 rfl ?_
  refine g_iconst ok (v := 0) dJ20_copyOfRangeByte_18 rfl ?_
  refine g_aload_n ok dJ20_copyOfRangeByte_19 rfl ?_
  refine g_alen ok dJ20_copyOfRangeByte_20 (Rd.up (r2) ne0) (gt_b _) ?_
  refine g_iload_n ok dJ20_copyOfRangeByte_21 rfl ?_
  refine g_isubN ok dJ20_copyOfRangeByte_22 (c := (n - i)) (a := n) (b := i) rfl rfl (by omega) (by omega) ?_
  refine g_iload_n ok dJ20_copyOfRangeByte_23 rfl ?_
  refine g_min ok q593 q594 q90 q595 dJ20_copyOfRangeByte_24 (dk rfl) rfl (dk rfl) (by omega) ?_
  rw [mnL (by omega) (by omega)]
  refine g_copyi ok (sp := i) (dp := 0) (n := (j - i)) q596 q379 q378 q82 (gt_b _) rfl dJ20_copyOfRangeByte_27 (Rd.up (r2) ne0) (up_self) (fun x hx => fitBA (m := j - i) ha (by omega) hx) rfl rfl rfl (by omega) (by omega) (by omega) (by omega) (dl rfl) rfl (dk rfl) ?_
  refine g_aload ok dJ20_copyOfRangeByte_30 rfl ?_
  exact g_aret ok fn rfl (Or.inr ⟨_, rfl⟩) (Or.inr ⟨_, rfl⟩) dJ20_copyOfRangeByte_32 ⟨_, rfl, a, rfl, haa, hka, up_up⟩ (by omega)
theorem a_copyRange (l : Launch) (G : GE) (h : AH) (b n : Nat) (f : Nat → Int32) (r2 : Rd G h b (aB G n f)) (r3 : n < 1000) (i j : Nat) (ha : Asc n f) (hij : i ≤ j) (hj : j ≤ n) (hne : i ≠ 0 ∨ j < n) : GM l G yJ20_copyOfRange (ws_ yJ20_copyOfRange cJ20_copyOfRange 3 (some (.array .byte))) 3 [.ref b, .int (nI i), .int (nI j)] (h) (j - i + 1) (PR fun v h' => ∃ a, v = .ref a ∧ h a = none ∧ G.kh a = none ∧ h' = up h a (aB G (j - i) (va_cpy f (fun _ => 0) i 0 (j - i)))) := by
  refine GM.of (by decide) (dk rfl) ?_
  intro X eL eG eh ok fn
  subst eL; subst eG
  show GW X _ 0 0 [some (.ref b), some (.int (nI i)), some (.int (nI j))] []
  refine g_iload_n ok dJ20_copyOfRange_0 rfl ?_
  by_cases i0 : i = 0
  · refine g_if_ne ok (tgt := 10) dJ20_copyOfRange_1 (by decide) (fun c_ => absurd (congrArg nI (by omega : i = 0)) c_) (fun _ => ?_)
    refine g_iload_n ok dJ20_copyOfRange_4 rfl ?_
    refine g_aload_n ok dJ20_copyOfRange_5 rfl ?_
    refine g_alen ok dJ20_copyOfRange_6 (r2) (gt_b _) ?_
    refine g_icmp_eq ok (tgt := 17) dJ20_copyOfRange_7 (by decide) (fun c_ => absurd c_ (fun e_ => by have := (nI_eq (a := j) (b := n) (by omega) (by omega)).mp e_; omega)) (fun _ => ?_)
    refine g_aload_n ok dJ20_copyOfRange_10 rfl ?_
    refine g_iload_n ok dJ20_copyOfRange_11 rfl ?_
    refine g_iload_n ok dJ20_copyOfRange_12 rfl ?_
    refine g_callS ok q736 q737 q91 q738 dJ20_copyOfRange_13 (a_copyRangeB X.l X.G _ b n f (r2) (by omega) i j (by assumption) (by omega) (by omega)) (nm_ (by decide : nmb _ 3 = true)) (dl rfl) (dk rfl) rfl rfl (dk rfl) (by omega) (kR fun v hh ⟨q13, z1, z2, z3, z4⟩ => ?_) xR
    subst z1; subst z4
    have ne0 := Rd.ne (r2) z2 z3
    exact g_aret ok fn rfl (Or.inr ⟨_, rfl⟩) (Or.inr ⟨_, rfl⟩) dJ20_copyOfRange_16 ⟨_, rfl, q13, rfl, z2, z3, rfl⟩ (by omega)
  · refine g_if_ne ok (tgt := 10) dJ20_copyOfRange_1 (by decide) (fun _ => ?_) (fun c_ => absurd c_ (fun e_ => by have := (nI_eq (a := i) (b := 0) (by omega) (by omega)).mp e_; omega))
    refine g_aload_n ok dJ20_copyOfRange_10 rfl ?_
    refine g_iload_n ok dJ20_copyOfRange_11 rfl ?_
    refine g_iload_n ok dJ20_copyOfRange_12 rfl ?_
    refine g_callS ok q736 q737 q91 q738 dJ20_copyOfRange_13 (a_copyRangeB X.l X.G _ b n f (r2) (by omega) i j (by assumption) (by omega) (by omega)) (nm_ (by decide : nmb _ 3 = true)) (dl rfl) (dk rfl) rfl rfl (dk rfl) (by omega) (kR fun v hh ⟨q13, z1, z2, z3, z4⟩ => ?_) xR
    subst z1; subst z4
    have ne0 := Rd.ne (r2) z2 z3
    exact g_aret ok fn rfl (Or.inr ⟨_, rfl⟩) (Or.inr ⟨_, rfl⟩) dJ20_copyOfRange_16 ⟨_, rfl, q13, rfl, z2, z3, rfl⟩ (by omega)
theorem s_init3 (l : Launch) (G : GE) (h : AH) (a b : Nat) (v0 : Value) (c0 hs hz : Int32) (ra : h a = some (ob 15 [v0, .int c0, .int hs, .int hz])) : GM l G yJ5_init_3 (ws_ yJ5_init_3 cJ5_init_3 3 none) 2 [.ref a, .ref b, .int 0] (h) (0) (PN (up h a (ob 15 [.ref b, .int 0, .int hs, .int hz]))) := by
  refine GM.of (by decide) (dk rfl) ?_
  intro X eL eG eh ok fn
  subst eL; subst eG
  show GW X _ 0 0 [some (.ref a), some (.ref b), some (.int 0)] []
  refine g_aload_n ok dJ5_init_3_0 rfl ?_
  refine g_objInit ok q718 q121 q122 dJ5_init_3_1 (dk rfl) rfl (dk rfl) ?_
  refine g_aload_n ok dJ5_init_3_4 rfl ?_
  refine g_aload_n ok dJ5_init_3_5 rfl ?_
  refine g_putF ok ck_J5 0 q784 rfl (by decide) rfl rfl rfl dJ5_init_3_6 (ra) (dl rfl) rfl rfl (fs1 := [.ref b, .int c0, .int hs, .int hz]) rfl (?_)
  refine g_aload_n ok dJ5_init_3_9 rfl ?_
  refine g_iload_n ok dJ5_init_3_10 rfl ?_
  refine g_putF ok ck_J5 1 q785 rfl (by decide) rfl rfl rfl dJ5_init_3_11 (up_self) (dl rfl) rfl rfl (fs1 := [.ref b, .int 0, .int hs, .int hz]) rfl (?_)
  exact g_vret ok fn rfl dJ5_init_3_14 ⟨rfl, by rw [up_up]⟩ (by omega)
theorem up_xyx {h : AH} {a b : Nat} {x y z : va_E} (n : a ≠ b) : up (up (up h a x) b y) a z = up (up h b y) a z := by
  funext q
  unfold up
  by_cases e : q = a
  · rw [if_pos e, if_pos e]
  · rw [if_neg e, if_neg e]
    split
    · rfl
    · rfl
theorem l_newString (l : Launch) (G : GE) (h : AH) (b n : Nat) (f : Nat → Int32) (r2 : Rd G h b (aB G n f)) (r3 : n < 1000) (i m : Nat) (ha : Asc n f) (hm : 0 < m) (him : i + m ≤ n) (hne : i ≠ 0 ∨ m < n) : GM l G yJ21_newString (ws_ yJ21_newString cJ21_newString 3 (some (.object "java/lang/String"))) 4 [.ref b, .int (nI i), .int (nI m)] (h) (m + 6) (PR fun v h' => ∃ a b, v = .ref a ∧ a ≠ b ∧ h a = none ∧ G.kh a = none ∧ h b = none ∧ G.kh b = none ∧ h' = up (up h b (aB G (m) (va_cpy f (fun _ => 0) (i) 0 (m)))) a (ob 15 [.ref b, .int 0, .int 0, .int 0])) := by
  refine GM.of (by decide) (dk rfl) ?_
  intro X eL eG eh ok fn
  subst eL; subst eG
  show GW X _ 0 0 [some (.ref b), some (.int (nI i)), some (.int (nI m))] []
  refine g_iload_n ok dJ21_newString_0 rfl ?_
  refine g_if_ne ok (tgt := 7) dJ21_newString_1 (by decide) (fun _ => ?_) (fun c_ => absurd c_ (fun e_ => by have := (nI_eq (a := m) (b := 0) (by omega) (by omega)).mp e_; omega))
  refine g_new ok ck_J5 q2656 q711 q73 dJ21_newString_7 (fs := [.null, .int 0, .int 0, .int 0]) (by intro j hj; rcases (by omega : j = 0 ∨ j = 1 ∨ j = 2 ∨ j = 3) with rfl | rfl | rfl | rfl <;> rfl) (by omega) (fun a haa hka h0a => ?_)
  have ne0 := Rd.ne (r2) haa hka
  refine g_dup ok dJ21_newString_10 rfl ?_
  refine g_aload_n ok dJ21_newString_11 rfl ?_
  refine g_iload_n ok dJ21_newString_12 rfl ?_
  refine g_iload_n ok dJ21_newString_13 rfl ?_
  refine g_iload_n ok dJ21_newString_14 rfl ?_
  refine g_iaddN ok dJ21_newString_15 (c := (i + m)) (a := i) (b := m) rfl rfl rfl ?_
  refine g_callS ok q2657 q734 q91 q735 dJ21_newString_16 (a_copyRange X.l X.G _ b n f (Rd.up (r2) ne0) (by omega) i (i + m) (by assumption) (by omega) (by omega) (by omega)) (nm_ (by decide : nmb _ 3 = true)) (dl rfl) (dk rfl) rfl rfl (dk rfl) (by omega) (kR fun v hh ⟨q16, z1, z2, z3, z4⟩ => ?_) xR
  subst z1; subst z4
  have ne1 := Rd.ne (Rd.h (up_self)) z2 z3
  have ne2 := Rd.ne (Rd.up (r2) ne0) z2 z3
  rw [show i + m - i = m by omega]
  refine g_iconst ok (v := 0) dJ21_newString_19 rfl ?_
  refine g_callI ok q2658 q2659 q73 q2660 rfl dJ21_newString_20 (s_init3 X.l X.G _ a q16 _ _ _ _ ((up_ne ne1).trans (up_self))) (nm_ (by decide : nmb _ 2 = true)) (dl rfl) (dk rfl) rfl rfl (dk rfl) (by omega) (kN ?_) xN
  have z5 : h q16 = none := (up_ne (Ne.symm ne1)).symm.trans z2
  exact g_aret ok fn rfl (Or.inl ⟨_, rfl⟩) (Or.inr ⟨_, rfl⟩) dJ21_newString_23 ⟨_, rfl, a, q16, rfl, ne1, haa, hka, z5, z3, up_xyx ne1⟩ (by omega)
theorem s_substring (l : Launch) (G : GE) (h : AH) (a b n : Nat) (f : Nat → Int32) (y0 : StrA G h a b n f) (i j : Nat) (ha : Asc n f) (hij : i < j) (hj : j ≤ n) (hne : i ≠ 0 ∨ j < n) : GM l G yJ5_substring (ws_ yJ5_substring cJ5_substring 5 (some (.object "java/lang/String"))) 5 [.ref a, .int (nI i), .int (nI j)] (h) (j - i + 6) (PR fun v h' => ∃ c d, v = .ref c ∧ c ≠ d ∧ h c = none ∧ G.kh c = none ∧ h d = none ∧ G.kh d = none ∧ h' = up (up h d (aB G (j - i) (va_cpy f (fun _ => 0) (i) 0 (j - i)))) c (ob 15 [.ref d, .int 0, .int 0, .int 0])) := by
  refine GM.of (by decide) (dk rfl) ?_
  intro X eL eG eh ok fn
  subst eL; subst eG
  show GW X _ 0 0 [some (.ref a), some (.int (nI i)), some (.int (nI j)), none, none] []
  obtain ⟨⟨hsa, hza, r1a⟩, r2a, r3a⟩ := id y0
  refine g_aload_n ok dJ5_substring_0 rfl ?_
  refine g_callV ok q1924 q629 q630 q73 q631 (Recv.ob ok gc_J5 (r1a)) dJ5_substring_1 (s_length X.l X.G _ a b n f y0) (nm_ (by decide : nmb _ 0 = true)) (dl rfl) (dk rfl) rfl rfl (dk rfl) (by omega) (kV ?_) xV
  refine g_istore_n ok dJ5_substring_4 (ls1 := [some (.ref a), some (.int (nI i)), some (.int (nI j)), some (.int (nI n)), none]) (dl rfl) rfl ?_
  refine g_iload_n ok dJ5_substring_5 rfl ?_
  refine g_iload_n ok dJ5_substring_6 rfl ?_
  refine g_iload_n ok dJ5_substring_7 rfl ?_
  refine g_callS ok q2651 q612 q73 q613 dJ5_substring_8 (s_checkBE X.l X.G _ i j n (by omega) (by omega) (by omega)) (nm_ (by decide : nmb _ 3 = true)) (dl rfl) (dk rfl) rfl rfl (dk rfl) (by omega) (kN ?_) xN
  refine g_iload_n ok dJ5_substring_11 rfl ?_
  by_cases i0 : i = 0
  · refine g_if_ne ok (tgt := 22) dJ5_substring_12 (by decide) (fun c_ => absurd (congrArg nI (by omega : i = 0)) c_) (fun _ => ?_)
    refine g_iload_n ok dJ5_substring_15 rfl ?_
    refine g_iload_n ok dJ5_substring_16 rfl ?_
    refine g_icmp_ne ok (tgt := 22) dJ5_substring_17 (by decide) (fun _ => ?_) (fun c_ => absurd c_ (fun e_ => by have := (nI_eq (a := j) (b := n) (by omega) (by omega)).mp e_; omega))
    refine g_iload_n ok dJ5_substring_22 rfl ?_
    refine g_iload_n ok dJ5_substring_23 rfl ?_
    refine g_isubN ok dJ5_substring_24 (c := (j - i)) (a := j) (b := i) rfl rfl (by omega) (by omega) ?_
    refine g_istore ok dJ5_substring_25 (ls1 := [some (.ref a), some (.int (nI i)), some (.int (nI j)), some (.int (nI n)), some (.int (nI (j - i)))]) (dl rfl) rfl ?_
    refine g_aload_n ok dJ5_substring_27 rfl ?_
    refine g_callV ok q2053 q2054 q2055 q73 q2056 (Recv.ob ok gc_J5 (r1a)) dJ5_substring_28 (s_latin X.l X.G _ a b n f y0) (nm_ (by decide : nmb _ 0 = true)) (dl rfl) (dk rfl) rfl rfl (dk rfl) (by omega) (kV ?_) xV
    refine g_if_eq ok (tgt := 47) dJ5_substring_31 (by decide) (fun c_ => absurd c_ (fun e_ => by have := (nI_eq (a := 1) (b := 0) (by omega) (by omega)).mp e_; omega)) (fun _ => ?_)
    refine g_aload_n ok dJ5_substring_34 rfl ?_
    refine g_get ok ck_J5 0 q784 (Or.inl rfl) (by decide) dJ5_substring_35 (r1a) rfl ?_
    refine g_iload_n ok dJ5_substring_38 rfl ?_
    refine g_iload ok dJ5_substring_39 rfl ?_
    refine g_callS ok q2652 q2653 q92 q2654 dJ5_substring_41 (l_newString X.l X.G _ b n f (r2a) (by omega) i (j - i) (by assumption) (by omega) (by omega) (by omega)) (nm_ (by decide : nmb _ 3 = true)) (dl rfl) (dk rfl) rfl rfl (dk rfl) (by omega) (kR fun v hh ⟨sa41, sb41, z1, z2, z3, z4, z5, z6, z7⟩ => ?_) xR
    subst z1; subst z7
    have ne0 := Rd.ne (r1a) z5 z6
    have ne1 := Rd.ne (r2a) z5 z6
    have ne2 := Rd.ne (r1a) z3 z4
    have ne3 := Rd.ne (r2a) z3 z4
    refine g_goto ok dJ5_substring_44 (tgt := 57) (by decide) ?_
    exact g_aret ok fn rfl (Or.inl ⟨_, rfl⟩) (Or.inr ⟨_, rfl⟩) dJ5_substring_57 ⟨_, rfl, sa41, sb41, rfl, z2, z3, z4, z5, z6, rfl⟩ (by omega)
  · refine g_if_ne ok (tgt := 22) dJ5_substring_12 (by decide) (fun _ => ?_) (fun c_ => absurd c_ (fun e_ => by have := (nI_eq (a := i) (b := 0) (by omega) (by omega)).mp e_; omega))
    refine g_iload_n ok dJ5_substring_22 rfl ?_
    refine g_iload_n ok dJ5_substring_23 rfl ?_
    refine g_isubN ok dJ5_substring_24 (c := (j - i)) (a := j) (b := i) rfl rfl (by omega) (by omega) ?_
    refine g_istore ok dJ5_substring_25 (ls1 := [some (.ref a), some (.int (nI i)), some (.int (nI j)), some (.int (nI n)), some (.int (nI (j - i)))]) (dl rfl) rfl ?_
    refine g_aload_n ok dJ5_substring_27 rfl ?_
    refine g_callV ok q2053 q2054 q2055 q73 q2056 (Recv.ob ok gc_J5 (r1a)) dJ5_substring_28 (s_latin X.l X.G _ a b n f y0) (nm_ (by decide : nmb _ 0 = true)) (dl rfl) (dk rfl) rfl rfl (dk rfl) (by omega) (kV ?_) xV
    refine g_if_eq ok (tgt := 47) dJ5_substring_31 (by decide) (fun c_ => absurd c_ (fun e_ => by have := (nI_eq (a := 1) (b := 0) (by omega) (by omega)).mp e_; omega)) (fun _ => ?_)
    refine g_aload_n ok dJ5_substring_34 rfl ?_
    refine g_get ok ck_J5 0 q784 (Or.inl rfl) (by decide) dJ5_substring_35 (r1a) rfl ?_
    refine g_iload_n ok dJ5_substring_38 rfl ?_
    refine g_iload ok dJ5_substring_39 rfl ?_
    refine g_callS ok q2652 q2653 q92 q2654 dJ5_substring_41 (l_newString X.l X.G _ b n f (r2a) (by omega) i (j - i) (by assumption) (by omega) (by omega) (by omega)) (nm_ (by decide : nmb _ 3 = true)) (dl rfl) (dk rfl) rfl rfl (dk rfl) (by omega) (kR fun v hh ⟨sa41, sb41, z1, z2, z3, z4, z5, z6, z7⟩ => ?_) xR
    subst z1; subst z7
    have ne0 := Rd.ne (r1a) z5 z6
    have ne1 := Rd.ne (r2a) z5 z6
    have ne2 := Rd.ne (r1a) z3 z4
    have ne3 := Rd.ne (r2a) z3 z4
    refine g_goto ok dJ5_substring_44 (tgt := 57) (by decide) ?_
    exact g_aret ok fn rfl (Or.inl ⟨_, rfl⟩) (Or.inr ⟨_, rfl⟩) dJ5_substring_57 ⟨_, rfl, sa41, sb41, rfl, z2, z3, z4, z5, z6, rfl⟩ (by omega)
