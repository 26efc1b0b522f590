/-! THE MODEL: its commands, 2 -/
set_option maxRecDepth 100000
abbrev cX8_isCommand : ByteArray := prog_19_method_78_code
def yX8_isCommand : MethodName := ⟨RX8, "isCommand", "()Z"⟩
def dkwX8_isCommand_8 : List UInt8 := [182, 0, 234, 172, 42, 182, 1, 13, 172, 42, 3, 3, 182, 0, 231, 172, 4, 172]
abbrev dktX8_isCommand_8 : List UInt8 := dkwX8_isCommand_8 ++ []
def dkwX8_isCommand_7 : List UInt8 := [42, 182, 0, 234, 153, 0, 16, 42, 5, 4, 182, 0, 231, 153, 0, 7, 4, 167, 0, 4, 3, 172, 42]
abbrev dktX8_isCommand_7 : List UInt8 := dkwX8_isCommand_7 ++ dktX8_isCommand_8
def dkwX8_isCommand_6 : List UInt8 := [170, 0, 0, 0, 0, 0, 0, 75, 0, 0, 0, 0, 0, 0, 0, 4, 0, 0, 0, 36, 0, 0, 0, 36, 0, 0, 0, 58, 0, 0, 0, 63, 0, 0, 0, 68]
abbrev dktX8_isCommand_6 : List UInt8 := dkwX8_isCommand_6 ++ dktX8_isCommand_7
def dkwX8_isCommand_5 : List UInt8 := [61, 28]
abbrev dktX8_isCommand_5 : List UInt8 := dkwX8_isCommand_5 ++ dktX8_isCommand_6
def dkwX8_isCommand_4 : List UInt8 := [18, 254, 182, 0, 246, 153, 0, 20, 6, 61, 167, 0, 15, 43, 19, 1, 11, 182, 0, 246, 153, 0, 5, 7]
abbrev dktX8_isCommand_4 : List UInt8 := dkwX8_isCommand_4 ++ dktX8_isCommand_5
def dkwX8_isCommand_3 : List UInt8 := [153, 0, 49, 4, 61, 167, 0, 44, 43, 19, 1, 9, 182, 0, 246, 153, 0, 34, 5, 61, 167, 0, 29, 43]
abbrev dktX8_isCommand_3 : List UInt8 := dkwX8_isCommand_3 ++ dktX8_isCommand_4
def dkwX8_isCommand_2 : List UInt8 := [43, 19, 1, 5, 182, 0, 246, 153, 0, 64, 3, 61, 167, 0, 59, 43, 19, 1, 7, 182, 0, 246]
abbrev dktX8_isCommand_2 : List UInt8 := dkwX8_isCommand_2 ++ dktX8_isCommand_3
def dkwX8_isCommand_1 : List UInt8 := [171, 0, 0, 0, 120, 0, 0, 0, 5, 0, 1, 120, 161, 0, 0, 0, 49, 0, 1, 188, 98, 0, 0, 0, 64, 0, 54, 81, 157, 0, 0, 0, 108, 0, 54, 128, 125, 0, 0, 0, 79, 6, 87, 248, 94, 0, 0, 0, 94]
abbrev dktX8_isCommand_1 : List UInt8 := dkwX8_isCommand_1 ++ dktX8_isCommand_2
def dkwX8_isCommand_0 : List UInt8 := [42, 19, 1, 0, 182, 0, 240, 154, 0, 5, 3, 172, 42, 180, 0, 34, 76, 2, 61, 43, 182, 1, 2]
abbrev dktX8_isCommand_0 : List UInt8 := dkwX8_isCommand_0 ++ dktX8_isCommand_1
theorem dksX8_isCommand_0 : cX8_isCommand.data.toList.drop 0 = dktX8_isCommand_0 := by decide +kernel
theorem dksX8_isCommand_1 : cX8_isCommand.data.toList.drop 23 = dktX8_isCommand_1 := dk_seg dksX8_isCommand_0 23 rfl rfl
theorem dksX8_isCommand_2 : cX8_isCommand.data.toList.drop 72 = dktX8_isCommand_2 := dk_seg dksX8_isCommand_1 49 rfl rfl
theorem dksX8_isCommand_3 : cX8_isCommand.data.toList.drop 94 = dktX8_isCommand_3 := dk_seg dksX8_isCommand_2 22 rfl rfl
theorem dksX8_isCommand_4 : cX8_isCommand.data.toList.drop 118 = dktX8_isCommand_4 := dk_seg dksX8_isCommand_3 24 rfl rfl
theorem dksX8_isCommand_5 : cX8_isCommand.data.toList.drop 142 = dktX8_isCommand_5 := dk_seg dksX8_isCommand_4 24 rfl rfl
theorem dksX8_isCommand_6 : cX8_isCommand.data.toList.drop 144 = dktX8_isCommand_6 := dk_seg dksX8_isCommand_5 2 rfl rfl
theorem dksX8_isCommand_7 : cX8_isCommand.data.toList.drop 180 = dktX8_isCommand_7 := dk_seg dksX8_isCommand_6 36 rfl rfl
theorem dksX8_isCommand_8 : cX8_isCommand.data.toList.drop 203 = dktX8_isCommand_8 := dk_seg dksX8_isCommand_7 23 rfl rfl
theorem dX8_isCommand_0 : decode cX8_isCommand 0 = .ok (.aload_n 0, 1) := dk_42 (dk_at dksX8_isCommand_0 0 rfl rfl)
theorem dX8_isCommand_1 : decode cX8_isCommand 1 = .ok (.ldc_w 256, 3) := dk_19 1 0 (dk_at dksX8_isCommand_0 1 rfl rfl)
theorem dX8_isCommand_4 : decode cX8_isCommand 4 = .ok (.invokevirtual 240, 3) := dk_182 0 240 (dk_at dksX8_isCommand_0 4 rfl rfl)
theorem dX8_isCommand_7 : decode cX8_isCommand 7 = .ok (.ifCond .ne 5, 3) := dk_154 0 5 (dk_at dksX8_isCommand_0 7 rfl rfl)
theorem dX8_isCommand_10 : decode cX8_isCommand 10 = .ok (.iconst 0, 1) := dk_3 (dk_at dksX8_isCommand_0 10 rfl rfl)
theorem dX8_isCommand_11 : decode cX8_isCommand 11 = .ok (.ireturn, 1) := dk_172 (dk_at dksX8_isCommand_0 11 rfl rfl)
theorem dX8_isCommand_12 : decode cX8_isCommand 12 = .ok (.aload_n 0, 1) := dk_42 (dk_at dksX8_isCommand_0 12 rfl rfl)
theorem dX8_isCommand_13 : decode cX8_isCommand 13 = .ok (.getfield 34, 3) := dk_180 0 34 (dk_at dksX8_isCommand_0 13 rfl rfl)
theorem dX8_isCommand_16 : decode cX8_isCommand 16 = .ok (.astore_n 1, 1) := dk_76 (dk_at dksX8_isCommand_0 16 rfl rfl)
theorem dX8_isCommand_17 : decode cX8_isCommand 17 = .ok (.iconst (-1), 1) := dk_2 (dk_at dksX8_isCommand_0 17 rfl rfl)
theorem dX8_isCommand_18 : decode cX8_isCommand 18 = .ok (.istore_n 2, 1) := dk_61 (dk_at dksX8_isCommand_0 18 rfl rfl)
theorem dX8_isCommand_19 : decode cX8_isCommand 19 = .ok (.aload_n 1, 1) := dk_43 (dk_at dksX8_isCommand_0 19 rfl rfl)
theorem dX8_isCommand_20 : decode cX8_isCommand 20 = .ok (.invokevirtual 258, 3) := dk_182 1 2 (dk_at dksX8_isCommand_0 20 rfl rfl)
theorem dX8_isCommand_23 : decode cX8_isCommand 23 = .ok (.lookupswitch 120 #[(96417, 49), (113762, 64), (3559837, 108), (3571837, 79), (106428510, 94)], 49) := by decide +kernel
theorem dX8_isCommand_72 : decode cX8_isCommand 72 = .ok (.aload_n 1, 1) := dk_43 (dk_at dksX8_isCommand_2 0 rfl rfl)
theorem dX8_isCommand_73 : decode cX8_isCommand 73 = .ok (.ldc_w 261, 3) := dk_19 1 5 (dk_at dksX8_isCommand_2 1 rfl rfl)
theorem dX8_isCommand_76 : decode cX8_isCommand 76 = .ok (.invokevirtual 246, 3) := dk_182 0 246 (dk_at dksX8_isCommand_2 4 rfl rfl)
theorem dX8_isCommand_79 : decode cX8_isCommand 79 = .ok (.ifCond .eq 64, 3) := dk_153 0 64 (dk_at dksX8_isCommand_2 7 rfl rfl)
theorem dX8_isCommand_82 : decode cX8_isCommand 82 = .ok (.iconst 0, 1) := dk_3 (dk_at dksX8_isCommand_2 10 rfl rfl)
theorem dX8_isCommand_83 : decode cX8_isCommand 83 = .ok (.istore_n 2, 1) := dk_61 (dk_at dksX8_isCommand_2 11 rfl rfl)
theorem dX8_isCommand_84 : decode cX8_isCommand 84 = .ok (.goto 59, 3) := dk_167 0 59 (dk_at dksX8_isCommand_2 12 rfl rfl)
theorem dX8_isCommand_87 : decode cX8_isCommand 87 = .ok (.aload_n 1, 1) := dk_43 (dk_at dksX8_isCommand_2 15 rfl rfl)
theorem dX8_isCommand_88 : decode cX8_isCommand 88 = .ok (.ldc_w 263, 3) := dk_19 1 7 (dk_at dksX8_isCommand_2 16 rfl rfl)
theorem dX8_isCommand_91 : decode cX8_isCommand 91 = .ok (.invokevirtual 246, 3) := dk_182 0 246 (dk_at dksX8_isCommand_2 19 rfl rfl)
theorem dX8_isCommand_94 : decode cX8_isCommand 94 = .ok (.ifCond .eq 49, 3) := dk_153 0 49 (dk_at dksX8_isCommand_3 0 rfl rfl)
theorem dX8_isCommand_97 : decode cX8_isCommand 97 = .ok (.iconst 1, 1) := dk_4 (dk_at dksX8_isCommand_3 3 rfl rfl)
theorem dX8_isCommand_98 : decode cX8_isCommand 98 = .ok (.istore_n 2, 1) := dk_61 (dk_at dksX8_isCommand_3 4 rfl rfl)
theorem dX8_isCommand_99 : decode cX8_isCommand 99 = .ok (.goto 44, 3) := dk_167 0 44 (dk_at dksX8_isCommand_3 5 rfl rfl)
theorem dX8_isCommand_102 : decode cX8_isCommand 102 = .ok (.aload_n 1, 1) := dk_43 (dk_at dksX8_isCommand_3 8 rfl rfl)
theorem dX8_isCommand_103 : decode cX8_isCommand 103 = .ok (.ldc_w 265, 3) := dk_19 1 9 (dk_at dksX8_isCommand_3 9 rfl rfl)
theorem dX8_isCommand_106 : decode cX8_isCommand 106 = .ok (.invokevirtual 246, 3) := dk_182 0 246 (dk_at dksX8_isCommand_3 12 rfl rfl)
theorem dX8_isCommand_109 : decode cX8_isCommand 109 = .ok (.ifCond .eq 34, 3) := dk_153 0 34 (dk_at dksX8_isCommand_3 15 rfl rfl)
theorem dX8_isCommand_112 : decode cX8_isCommand 112 = .ok (.iconst 2, 1) := dk_5 (dk_at dksX8_isCommand_3 18 rfl rfl)
theorem dX8_isCommand_113 : decode cX8_isCommand 113 = .ok (.istore_n 2, 1) := dk_61 (dk_at dksX8_isCommand_3 19 rfl rfl)
theorem dX8_isCommand_114 : decode cX8_isCommand 114 = .ok (.goto 29, 3) := dk_167 0 29 (dk_at dksX8_isCommand_3 20 rfl rfl)
theorem dX8_isCommand_117 : decode cX8_isCommand 117 = .ok (.aload_n 1, 1) := dk_43 (dk_at dksX8_isCommand_3 23 rfl rfl)
theorem dX8_isCommand_118 : decode cX8_isCommand 118 = .ok (.ldc 254, 2) := dk_18 254 (dk_at dksX8_isCommand_4 0 rfl rfl)
theorem dX8_isCommand_120 : decode cX8_isCommand 120 = .ok (.invokevirtual 246, 3) := dk_182 0 246 (dk_at dksX8_isCommand_4 2 rfl rfl)
theorem dX8_isCommand_123 : decode cX8_isCommand 123 = .ok (.ifCond .eq 20, 3) := dk_153 0 20 (dk_at dksX8_isCommand_4 5 rfl rfl)
theorem dX8_isCommand_126 : decode cX8_isCommand 126 = .ok (.iconst 3, 1) := dk_6 (dk_at dksX8_isCommand_4 8 rfl rfl)
theorem dX8_isCommand_127 : decode cX8_isCommand 127 = .ok (.istore_n 2, 1) := dk_61 (dk_at dksX8_isCommand_4 9 rfl rfl)
theorem dX8_isCommand_128 : decode cX8_isCommand 128 = .ok (.goto 15, 3) := dk_167 0 15 (dk_at dksX8_isCommand_4 10 rfl rfl)
theorem dX8_isCommand_131 : decode cX8_isCommand 131 = .ok (.aload_n 1, 1) := dk_43 (dk_at dksX8_isCommand_4 13 rfl rfl)
theorem dX8_isCommand_132 : decode cX8_isCommand 132 = .ok (.ldc_w 267, 3) := dk_19 1 11 (dk_at dksX8_isCommand_4 14 rfl rfl)
theorem dX8_isCommand_135 : decode cX8_isCommand 135 = .ok (.invokevirtual 246, 3) := dk_182 0 246 (dk_at dksX8_isCommand_4 17 rfl rfl)
theorem dX8_isCommand_138 : decode cX8_isCommand 138 = .ok (.ifCond .eq 5, 3) := dk_153 0 5 (dk_at dksX8_isCommand_4 20 rfl rfl)
theorem dX8_isCommand_141 : decode cX8_isCommand 141 = .ok (.iconst 4, 1) := dk_7 (dk_at dksX8_isCommand_4 23 rfl rfl)
theorem dX8_isCommand_142 : decode cX8_isCommand 142 = .ok (.istore_n 2, 1) := dk_61 (dk_at dksX8_isCommand_5 0 rfl rfl)
theorem dX8_isCommand_143 : decode cX8_isCommand 143 = .ok (.iload_n 2, 1) := dk_28 (dk_at dksX8_isCommand_5 1 rfl rfl)
theorem dX8_isCommand_144 : decode cX8_isCommand 144 = .ok (.tableswitch 75 0 4 #[36, 36, 58, 63, 68], 36) := by decide +kernel
theorem dX8_isCommand_180 : decode cX8_isCommand 180 = .ok (.aload_n 0, 1) := dk_42 (dk_at dksX8_isCommand_7 0 rfl rfl)
theorem dX8_isCommand_181 : decode cX8_isCommand 181 = .ok (.invokevirtual 234, 3) := dk_182 0 234 (dk_at dksX8_isCommand_7 1 rfl rfl)
theorem dX8_isCommand_184 : decode cX8_isCommand 184 = .ok (.ifCond .eq 16, 3) := dk_153 0 16 (dk_at dksX8_isCommand_7 4 rfl rfl)
theorem dX8_isCommand_187 : decode cX8_isCommand 187 = .ok (.aload_n 0, 1) := dk_42 (dk_at dksX8_isCommand_7 7 rfl rfl)
theorem dX8_isCommand_188 : decode cX8_isCommand 188 = .ok (.iconst 2, 1) := dk_5 (dk_at dksX8_isCommand_7 8 rfl rfl)
theorem dX8_isCommand_189 : decode cX8_isCommand 189 = .ok (.iconst 1, 1) := dk_4 (dk_at dksX8_isCommand_7 9 rfl rfl)
theorem dX8_isCommand_190 : decode cX8_isCommand 190 = .ok (.invokevirtual 231, 3) := dk_182 0 231 (dk_at dksX8_isCommand_7 10 rfl rfl)
theorem dX8_isCommand_193 : decode cX8_isCommand 193 = .ok (.ifCond .eq 7, 3) := dk_153 0 7 (dk_at dksX8_isCommand_7 13 rfl rfl)
theorem dX8_isCommand_196 : decode cX8_isCommand 196 = .ok (.iconst 1, 1) := dk_4 (dk_at dksX8_isCommand_7 16 rfl rfl)
theorem dX8_isCommand_197 : decode cX8_isCommand 197 = .ok (.goto 4, 3) := dk_167 0 4 (dk_at dksX8_isCommand_7 17 rfl rfl)
theorem dX8_isCommand_200 : decode cX8_isCommand 200 = .ok (.iconst 0, 1) := dk_3 (dk_at dksX8_isCommand_7 20 rfl rfl)
theorem dX8_isCommand_201 : decode cX8_isCommand 201 = .ok (.ireturn, 1) := dk_172 (dk_at dksX8_isCommand_7 21 rfl rfl)
theorem dX8_isCommand_202 : decode cX8_isCommand 202 = .ok (.aload_n 0, 1) := dk_42 (dk_at dksX8_isCommand_7 22 rfl rfl)
theorem dX8_isCommand_203 : decode cX8_isCommand 203 = .ok (.invokevirtual 234, 3) := dk_182 0 234 (dk_at dksX8_isCommand_8 0 rfl rfl)
theorem dX8_isCommand_206 : decode cX8_isCommand 206 = .ok (.ireturn, 1) := dk_172 (dk_at dksX8_isCommand_8 3 rfl rfl)
theorem dX8_isCommand_207 : decode cX8_isCommand 207 = .ok (.aload_n 0, 1) := dk_42 (dk_at dksX8_isCommand_8 4 rfl rfl)
theorem dX8_isCommand_208 : decode cX8_isCommand 208 = .ok (.invokevirtual 269, 3) := dk_182 1 13 (dk_at dksX8_isCommand_8 5 rfl rfl)
theorem dX8_isCommand_211 : decode cX8_isCommand 211 = .ok (.ireturn, 1) := dk_172 (dk_at dksX8_isCommand_8 8 rfl rfl)
theorem dX8_isCommand_212 : decode cX8_isCommand 212 = .ok (.aload_n 0, 1) := dk_42 (dk_at dksX8_isCommand_8 9 rfl rfl)
theorem dX8_isCommand_213 : decode cX8_isCommand 213 = .ok (.iconst 0, 1) := dk_3 (dk_at dksX8_isCommand_8 10 rfl rfl)
theorem dX8_isCommand_214 : decode cX8_isCommand 214 = .ok (.iconst 0, 1) := dk_3 (dk_at dksX8_isCommand_8 11 rfl rfl)
theorem dX8_isCommand_215 : decode cX8_isCommand 215 = .ok (.invokevirtual 231, 3) := dk_182 0 231 (dk_at dksX8_isCommand_8 12 rfl rfl)
theorem dX8_isCommand_218 : decode cX8_isCommand 218 = .ok (.ireturn, 1) := dk_172 (dk_at dksX8_isCommand_8 15 rfl rfl)
theorem dX8_isCommand_219 : decode cX8_isCommand 219 = .ok (.iconst 1, 1) := dk_4 (dk_at dksX8_isCommand_8 16 rfl rfl)
theorem dX8_isCommand_220 : decode cX8_isCommand 220 = .ok (.ireturn, 1) := dk_172 (dk_at dksX8_isCommand_8 17 rfl rfl)
abbrev cX8_carries : ByteArray := prog_19_method_79_code
def yX8_carries : MethodName := ⟨RX8, "carries", "()I"⟩
def dkwX8_carries_11 : List UInt8 := [182, 0, 145, 172, 42, 182, 0, 182, 172]
abbrev dktX8_carries_11 : List UInt8 := dkwX8_carries_11 ++ []
def dkwX8_carries_10 : List UInt8 := [180, 0, 38, 4, 46, 42, 180, 0, 38, 5, 46, 182, 0, 128, 172, 42, 42, 180, 0, 38, 3, 46]
abbrev dktX8_carries_10 : List UInt8 := dkwX8_carries_10 ++ dktX8_carries_11
def dkwX8_carries_9 : List UInt8 := [180, 0, 38, 3, 46, 42, 180, 0, 38, 4, 46, 182, 0, 119, 172, 42, 42, 180, 0, 38, 3, 46, 42]
abbrev dktX8_carries_9 : List UInt8 := dkwX8_carries_9 ++ dktX8_carries_10
def dkwX8_carries_8 : List UInt8 := [42, 180, 0, 38, 3, 46, 42, 180, 0, 38, 4, 46, 42, 180, 0, 38, 5, 46, 182, 0, 116, 172, 42, 42]
abbrev dktX8_carries_8 : List UInt8 := dkwX8_carries_8 ++ dktX8_carries_9
def dkwX8_carries_7 : List UInt8 := [42, 42, 180, 0, 38, 3, 46, 42, 180, 0, 38, 4, 46, 42, 180, 0, 38, 5, 46, 182, 0, 110, 172, 42]
abbrev dktX8_carries_7 : List UInt8 := dkwX8_carries_7 ++ dktX8_carries_8
def dkwX8_carries_6 : List UInt8 := [170, 0, 0, 0, 0, 0, 0, 133, 0, 0, 0, 0, 0, 0, 0, 4, 0, 0, 0, 36, 0, 0, 0, 59, 0, 0, 0, 82, 0, 0, 0, 99, 0, 0, 0, 122]
abbrev dktX8_carries_6 : List UInt8 := dkwX8_carries_6 ++ dktX8_carries_7
def dkwX8_carries_5 : List UInt8 := [61, 28]
abbrev dktX8_carries_5 : List UInt8 := dkwX8_carries_5 ++ dktX8_carries_6
def dkwX8_carries_4 : List UInt8 := [18, 254, 182, 0, 246, 153, 0, 20, 6, 61, 167, 0, 15, 43, 19, 1, 11, 182, 0, 246, 153, 0, 5, 7]
abbrev dktX8_carries_4 : List UInt8 := dkwX8_carries_4 ++ dktX8_carries_5
def dkwX8_carries_3 : List UInt8 := [153, 0, 49, 4, 61, 167, 0, 44, 43, 19, 1, 9, 182, 0, 246, 153, 0, 34, 5, 61, 167, 0, 29, 43]
abbrev dktX8_carries_3 : List UInt8 := dkwX8_carries_3 ++ dktX8_carries_4
def dkwX8_carries_2 : List UInt8 := [43, 19, 1, 5, 182, 0, 246, 153, 0, 64, 3, 61, 167, 0, 59, 43, 19, 1, 7, 182, 0, 246]
abbrev dktX8_carries_2 : List UInt8 := dkwX8_carries_2 ++ dktX8_carries_3
def dkwX8_carries_1 : List UInt8 := [171, 0, 0, 0, 120, 0, 0, 0, 5, 0, 1, 120, 161, 0, 0, 0, 49, 0, 1, 188, 98, 0, 0, 0, 64, 0, 54, 81, 157, 0, 0, 0, 108, 0, 54, 128, 125, 0, 0, 0, 79, 6, 87, 248, 94, 0, 0, 0, 94]
abbrev dktX8_carries_1 : List UInt8 := dkwX8_carries_1 ++ dktX8_carries_2
def dkwX8_carries_0 : List UInt8 := [42, 180, 0, 34, 76, 2, 61, 43, 182, 1, 2]
abbrev dktX8_carries_0 : List UInt8 := dkwX8_carries_0 ++ dktX8_carries_1
theorem dksX8_carries_0 : cX8_carries.data.toList.drop 0 = dktX8_carries_0 := by decide +kernel
theorem dksX8_carries_1 : cX8_carries.data.toList.drop 11 = dktX8_carries_1 := dk_seg dksX8_carries_0 11 rfl rfl
theorem dksX8_carries_2 : cX8_carries.data.toList.drop 60 = dktX8_carries_2 := dk_seg dksX8_carries_1 49 rfl rfl
theorem dksX8_carries_3 : cX8_carries.data.toList.drop 82 = dktX8_carries_3 := dk_seg dksX8_carries_2 22 rfl rfl
theorem dksX8_carries_4 : cX8_carries.data.toList.drop 106 = dktX8_carries_4 := dk_seg dksX8_carries_3 24 rfl rfl
theorem dksX8_carries_5 : cX8_carries.data.toList.drop 130 = dktX8_carries_5 := dk_seg dksX8_carries_4 24 rfl rfl
theorem dksX8_carries_6 : cX8_carries.data.toList.drop 132 = dktX8_carries_6 := dk_seg dksX8_carries_5 2 rfl rfl
theorem dksX8_carries_7 : cX8_carries.data.toList.drop 168 = dktX8_carries_7 := dk_seg dksX8_carries_6 36 rfl rfl
theorem dksX8_carries_8 : cX8_carries.data.toList.drop 192 = dktX8_carries_8 := dk_seg dksX8_carries_7 24 rfl rfl
theorem dksX8_carries_9 : cX8_carries.data.toList.drop 216 = dktX8_carries_9 := dk_seg dksX8_carries_8 24 rfl rfl
theorem dksX8_carries_10 : cX8_carries.data.toList.drop 239 = dktX8_carries_10 := dk_seg dksX8_carries_9 23 rfl rfl
theorem dksX8_carries_11 : cX8_carries.data.toList.drop 261 = dktX8_carries_11 := dk_seg dksX8_carries_10 22 rfl rfl
theorem dX8_carries_0 : decode cX8_carries 0 = .ok (.aload_n 0, 1) := dk_42 (dk_at dksX8_carries_0 0 rfl rfl)
theorem dX8_carries_1 : decode cX8_carries 1 = .ok (.getfield 34, 3) := dk_180 0 34 (dk_at dksX8_carries_0 1 rfl rfl)
theorem dX8_carries_4 : decode cX8_carries 4 = .ok (.astore_n 1, 1) := dk_76 (dk_at dksX8_carries_0 4 rfl rfl)
theorem dX8_carries_5 : decode cX8_carries 5 = .ok (.iconst (-1), 1) := dk_2 (dk_at dksX8_carries_0 5 rfl rfl)
theorem dX8_carries_6 : decode cX8_carries 6 = .ok (.istore_n 2, 1) := dk_61 (dk_at dksX8_carries_0 6 rfl rfl)
theorem dX8_carries_7 : decode cX8_carries 7 = .ok (.aload_n 1, 1) := dk_43 (dk_at dksX8_carries_0 7 rfl rfl)
theorem dX8_carries_8 : decode cX8_carries 8 = .ok (.invokevirtual 258, 3) := dk_182 1 2 (dk_at dksX8_carries_0 8 rfl rfl)
theorem dX8_carries_11 : decode cX8_carries 11 = .ok (.lookupswitch 120 #[(96417, 49), (113762, 64), (3559837, 108), (3571837, 79), (106428510, 94)], 49) := by decide +kernel
theorem dX8_carries_60 : decode cX8_carries 60 = .ok (.aload_n 1, 1) := dk_43 (dk_at dksX8_carries_2 0 rfl rfl)
theorem dX8_carries_61 : decode cX8_carries 61 = .ok (.ldc_w 261, 3) := dk_19 1 5 (dk_at dksX8_carries_2 1 rfl rfl)
theorem dX8_carries_64 : decode cX8_carries 64 = .ok (.invokevirtual 246, 3) := dk_182 0 246 (dk_at dksX8_carries_2 4 rfl rfl)
theorem dX8_carries_67 : decode cX8_carries 67 = .ok (.ifCond .eq 64, 3) := dk_153 0 64 (dk_at dksX8_carries_2 7 rfl rfl)
theorem dX8_carries_70 : decode cX8_carries 70 = .ok (.iconst 0, 1) := dk_3 (dk_at dksX8_carries_2 10 rfl rfl)
theorem dX8_carries_71 : decode cX8_carries 71 = .ok (.istore_n 2, 1) := dk_61 (dk_at dksX8_carries_2 11 rfl rfl)
theorem dX8_carries_72 : decode cX8_carries 72 = .ok (.goto 59, 3) := dk_167 0 59 (dk_at dksX8_carries_2 12 rfl rfl)
theorem dX8_carries_75 : decode cX8_carries 75 = .ok (.aload_n 1, 1) := dk_43 (dk_at dksX8_carries_2 15 rfl rfl)
theorem dX8_carries_76 : decode cX8_carries 76 = .ok (.ldc_w 263, 3) := dk_19 1 7 (dk_at dksX8_carries_2 16 rfl rfl)
theorem dX8_carries_79 : decode cX8_carries 79 = .ok (.invokevirtual 246, 3) := dk_182 0 246 (dk_at dksX8_carries_2 19 rfl rfl)
theorem dX8_carries_82 : decode cX8_carries 82 = .ok (.ifCond .eq 49, 3) := dk_153 0 49 (dk_at dksX8_carries_3 0 rfl rfl)
theorem dX8_carries_85 : decode cX8_carries 85 = .ok (.iconst 1, 1) := dk_4 (dk_at dksX8_carries_3 3 rfl rfl)
theorem dX8_carries_86 : decode cX8_carries 86 = .ok (.istore_n 2, 1) := dk_61 (dk_at dksX8_carries_3 4 rfl rfl)
theorem dX8_carries_87 : decode cX8_carries 87 = .ok (.goto 44, 3) := dk_167 0 44 (dk_at dksX8_carries_3 5 rfl rfl)
theorem dX8_carries_90 : decode cX8_carries 90 = .ok (.aload_n 1, 1) := dk_43 (dk_at dksX8_carries_3 8 rfl rfl)
theorem dX8_carries_91 : decode cX8_carries 91 = .ok (.ldc_w 265, 3) := dk_19 1 9 (dk_at dksX8_carries_3 9 rfl rfl)
theorem dX8_carries_94 : decode cX8_carries 94 = .ok (.invokevirtual 246, 3) := dk_182 0 246 (dk_at dksX8_carries_3 12 rfl rfl)
theorem dX8_carries_97 : decode cX8_carries 97 = .ok (.ifCond .eq 34, 3) := dk_153 0 34 (dk_at dksX8_carries_3 15 rfl rfl)
theorem dX8_carries_100 : decode cX8_carries 100 = .ok (.iconst 2, 1) := dk_5 (dk_at dksX8_carries_3 18 rfl rfl)
theorem dX8_carries_101 : decode cX8_carries 101 = .ok (.istore_n 2, 1) := dk_61 (dk_at dksX8_carries_3 19 rfl rfl)
theorem dX8_carries_102 : decode cX8_carries 102 = .ok (.goto 29, 3) := dk_167 0 29 (dk_at dksX8_carries_3 20 rfl rfl)
theorem dX8_carries_105 : decode cX8_carries 105 = .ok (.aload_n 1, 1) := dk_43 (dk_at dksX8_carries_3 23 rfl rfl)
theorem dX8_carries_106 : decode cX8_carries 106 = .ok (.ldc 254, 2) := dk_18 254 (dk_at dksX8_carries_4 0 rfl rfl)
theorem dX8_carries_108 : decode cX8_carries 108 = .ok (.invokevirtual 246, 3) := dk_182 0 246 (dk_at dksX8_carries_4 2 rfl rfl)
theorem dX8_carries_111 : decode cX8_carries 111 = .ok (.ifCond .eq 20, 3) := dk_153 0 20 (dk_at dksX8_carries_4 5 rfl rfl)
theorem dX8_carries_114 : decode cX8_carries 114 = .ok (.iconst 3, 1) := dk_6 (dk_at dksX8_carries_4 8 rfl rfl)
theorem dX8_carries_115 : decode cX8_carries 115 = .ok (.istore_n 2, 1) := dk_61 (dk_at dksX8_carries_4 9 rfl rfl)
theorem dX8_carries_116 : decode cX8_carries 116 = .ok (.goto 15, 3) := dk_167 0 15 (dk_at dksX8_carries_4 10 rfl rfl)
theorem dX8_carries_119 : decode cX8_carries 119 = .ok (.aload_n 1, 1) := dk_43 (dk_at dksX8_carries_4 13 rfl rfl)
theorem dX8_carries_120 : decode cX8_carries 120 = .ok (.ldc_w 267, 3) := dk_19 1 11 (dk_at dksX8_carries_4 14 rfl rfl)
theorem dX8_carries_123 : decode cX8_carries 123 = .ok (.invokevirtual 246, 3) := dk_182 0 246 (dk_at dksX8_carries_4 17 rfl rfl)
theorem dX8_carries_126 : decode cX8_carries 126 = .ok (.ifCond .eq 5, 3) := dk_153 0 5 (dk_at dksX8_carries_4 20 rfl rfl)
theorem dX8_carries_129 : decode cX8_carries 129 = .ok (.iconst 4, 1) := dk_7 (dk_at dksX8_carries_4 23 rfl rfl)
theorem dX8_carries_130 : decode cX8_carries 130 = .ok (.istore_n 2, 1) := dk_61 (dk_at dksX8_carries_5 0 rfl rfl)
theorem dX8_carries_131 : decode cX8_carries 131 = .ok (.iload_n 2, 1) := dk_28 (dk_at dksX8_carries_5 1 rfl rfl)
theorem dX8_carries_132 : decode cX8_carries 132 = .ok (.tableswitch 133 0 4 #[36, 59, 82, 99, 122], 36) := by decide +kernel
theorem dX8_carries_168 : decode cX8_carries 168 = .ok (.aload_n 0, 1) := dk_42 (dk_at dksX8_carries_7 0 rfl rfl)
theorem dX8_carries_169 : decode cX8_carries 169 = .ok (.aload_n 0, 1) := dk_42 (dk_at dksX8_carries_7 1 rfl rfl)
theorem dX8_carries_170 : decode cX8_carries 170 = .ok (.getfield 38, 3) := dk_180 0 38 (dk_at dksX8_carries_7 2 rfl rfl)
theorem dX8_carries_173 : decode cX8_carries 173 = .ok (.iconst 0, 1) := dk_3 (dk_at dksX8_carries_7 5 rfl rfl)
theorem dX8_carries_174 : decode cX8_carries 174 = .ok (.iaload, 1) := dk_46 (dk_at dksX8_carries_7 6 rfl rfl)
theorem dX8_carries_175 : decode cX8_carries 175 = .ok (.aload_n 0, 1) := dk_42 (dk_at dksX8_carries_7 7 rfl rfl)
theorem dX8_carries_176 : decode cX8_carries 176 = .ok (.getfield 38, 3) := dk_180 0 38 (dk_at dksX8_carries_7 8 rfl rfl)
theorem dX8_carries_179 : decode cX8_carries 179 = .ok (.iconst 1, 1) := dk_4 (dk_at dksX8_carries_7 11 rfl rfl)
theorem dX8_carries_180 : decode cX8_carries 180 = .ok (.iaload, 1) := dk_46 (dk_at dksX8_carries_7 12 rfl rfl)
theorem dX8_carries_181 : decode cX8_carries 181 = .ok (.aload_n 0, 1) := dk_42 (dk_at dksX8_carries_7 13 rfl rfl)
theorem dX8_carries_182 : decode cX8_carries 182 = .ok (.getfield 38, 3) := dk_180 0 38 (dk_at dksX8_carries_7 14 rfl rfl)
theorem dX8_carries_185 : decode cX8_carries 185 = .ok (.iconst 2, 1) := dk_5 (dk_at dksX8_carries_7 17 rfl rfl)
theorem dX8_carries_186 : decode cX8_carries 186 = .ok (.iaload, 1) := dk_46 (dk_at dksX8_carries_7 18 rfl rfl)
theorem dX8_carries_187 : decode cX8_carries 187 = .ok (.invokevirtual 110, 3) := dk_182 0 110 (dk_at dksX8_carries_7 19 rfl rfl)
theorem dX8_carries_190 : decode cX8_carries 190 = .ok (.ireturn, 1) := dk_172 (dk_at dksX8_carries_7 22 rfl rfl)
theorem dX8_carries_191 : decode cX8_carries 191 = .ok (.aload_n 0, 1) := dk_42 (dk_at dksX8_carries_7 23 rfl rfl)
theorem dX8_carries_192 : decode cX8_carries 192 = .ok (.aload_n 0, 1) := dk_42 (dk_at dksX8_carries_8 0 rfl rfl)
theorem dX8_carries_193 : decode cX8_carries 193 = .ok (.getfield 38, 3) := dk_180 0 38 (dk_at dksX8_carries_8 1 rfl rfl)
theorem dX8_carries_196 : decode cX8_carries 196 = .ok (.iconst 0, 1) := dk_3 (dk_at dksX8_carries_8 4 rfl rfl)
theorem dX8_carries_197 : decode cX8_carries 197 = .ok (.iaload, 1) := dk_46 (dk_at dksX8_carries_8 5 rfl rfl)
theorem dX8_carries_198 : decode cX8_carries 198 = .ok (.aload_n 0, 1) := dk_42 (dk_at dksX8_carries_8 6 rfl rfl)
theorem dX8_carries_199 : decode cX8_carries 199 = .ok (.getfield 38, 3) := dk_180 0 38 (dk_at dksX8_carries_8 7 rfl rfl)
theorem dX8_carries_202 : decode cX8_carries 202 = .ok (.iconst 1, 1) := dk_4 (dk_at dksX8_carries_8 10 rfl rfl)
theorem dX8_carries_203 : decode cX8_carries 203 = .ok (.iaload, 1) := dk_46 (dk_at dksX8_carries_8 11 rfl rfl)
theorem dX8_carries_204 : decode cX8_carries 204 = .ok (.aload_n 0, 1) := dk_42 (dk_at dksX8_carries_8 12 rfl rfl)
theorem dX8_carries_205 : decode cX8_carries 205 = .ok (.getfield 38, 3) := dk_180 0 38 (dk_at dksX8_carries_8 13 rfl rfl)
theorem dX8_carries_208 : decode cX8_carries 208 = .ok (.iconst 2, 1) := dk_5 (dk_at dksX8_carries_8 16 rfl rfl)
theorem dX8_carries_209 : decode cX8_carries 209 = .ok (.iaload, 1) := dk_46 (dk_at dksX8_carries_8 17 rfl rfl)
theorem dX8_carries_210 : decode cX8_carries 210 = .ok (.invokevirtual 116, 3) := dk_182 0 116 (dk_at dksX8_carries_8 18 rfl rfl)
theorem dX8_carries_213 : decode cX8_carries 213 = .ok (.ireturn, 1) := dk_172 (dk_at dksX8_carries_8 21 rfl rfl)
theorem dX8_carries_214 : decode cX8_carries 214 = .ok (.aload_n 0, 1) := dk_42 (dk_at dksX8_carries_8 22 rfl rfl)
theorem dX8_carries_215 : decode cX8_carries 215 = .ok (.aload_n 0, 1) := dk_42 (dk_at dksX8_carries_8 23 rfl rfl)
theorem dX8_carries_216 : decode cX8_carries 216 = .ok (.getfield 38, 3) := dk_180 0 38 (dk_at dksX8_carries_9 0 rfl rfl)
theorem dX8_carries_219 : decode cX8_carries 219 = .ok (.iconst 0, 1) := dk_3 (dk_at dksX8_carries_9 3 rfl rfl)
theorem dX8_carries_220 : decode cX8_carries 220 = .ok (.iaload, 1) := dk_46 (dk_at dksX8_carries_9 4 rfl rfl)
theorem dX8_carries_221 : decode cX8_carries 221 = .ok (.aload_n 0, 1) := dk_42 (dk_at dksX8_carries_9 5 rfl rfl)
theorem dX8_carries_222 : decode cX8_carries 222 = .ok (.getfield 38, 3) := dk_180 0 38 (dk_at dksX8_carries_9 6 rfl rfl)
theorem dX8_carries_225 : decode cX8_carries 225 = .ok (.iconst 1, 1) := dk_4 (dk_at dksX8_carries_9 9 rfl rfl)
theorem dX8_carries_226 : decode cX8_carries 226 = .ok (.iaload, 1) := dk_46 (dk_at dksX8_carries_9 10 rfl rfl)
theorem dX8_carries_227 : decode cX8_carries 227 = .ok (.invokevirtual 119, 3) := dk_182 0 119 (dk_at dksX8_carries_9 11 rfl rfl)
theorem dX8_carries_230 : decode cX8_carries 230 = .ok (.ireturn, 1) := dk_172 (dk_at dksX8_carries_9 14 rfl rfl)
theorem dX8_carries_231 : decode cX8_carries 231 = .ok (.aload_n 0, 1) := dk_42 (dk_at dksX8_carries_9 15 rfl rfl)
theorem dX8_carries_232 : decode cX8_carries 232 = .ok (.aload_n 0, 1) := dk_42 (dk_at dksX8_carries_9 16 rfl rfl)
theorem dX8_carries_233 : decode cX8_carries 233 = .ok (.getfield 38, 3) := dk_180 0 38 (dk_at dksX8_carries_9 17 rfl rfl)
theorem dX8_carries_236 : decode cX8_carries 236 = .ok (.iconst 0, 1) := dk_3 (dk_at dksX8_carries_9 20 rfl rfl)
theorem dX8_carries_237 : decode cX8_carries 237 = .ok (.iaload, 1) := dk_46 (dk_at dksX8_carries_9 21 rfl rfl)
theorem dX8_carries_238 : decode cX8_carries 238 = .ok (.aload_n 0, 1) := dk_42 (dk_at dksX8_carries_9 22 rfl rfl)
theorem dX8_carries_239 : decode cX8_carries 239 = .ok (.getfield 38, 3) := dk_180 0 38 (dk_at dksX8_carries_10 0 rfl rfl)
theorem dX8_carries_242 : decode cX8_carries 242 = .ok (.iconst 1, 1) := dk_4 (dk_at dksX8_carries_10 3 rfl rfl)
theorem dX8_carries_243 : decode cX8_carries 243 = .ok (.iaload, 1) := dk_46 (dk_at dksX8_carries_10 4 rfl rfl)
theorem dX8_carries_244 : decode cX8_carries 244 = .ok (.aload_n 0, 1) := dk_42 (dk_at dksX8_carries_10 5 rfl rfl)
theorem dX8_carries_245 : decode cX8_carries 245 = .ok (.getfield 38, 3) := dk_180 0 38 (dk_at dksX8_carries_10 6 rfl rfl)
theorem dX8_carries_248 : decode cX8_carries 248 = .ok (.iconst 2, 1) := dk_5 (dk_at dksX8_carries_10 9 rfl rfl)
theorem dX8_carries_249 : decode cX8_carries 249 = .ok (.iaload, 1) := dk_46 (dk_at dksX8_carries_10 10 rfl rfl)
theorem dX8_carries_250 : decode cX8_carries 250 = .ok (.invokevirtual 128, 3) := dk_182 0 128 (dk_at dksX8_carries_10 11 rfl rfl)
theorem dX8_carries_253 : decode cX8_carries 253 = .ok (.ireturn, 1) := dk_172 (dk_at dksX8_carries_10 14 rfl rfl)
theorem dX8_carries_254 : decode cX8_carries 254 = .ok (.aload_n 0, 1) := dk_42 (dk_at dksX8_carries_10 15 rfl rfl)
theorem dX8_carries_255 : decode cX8_carries 255 = .ok (.aload_n 0, 1) := dk_42 (dk_at dksX8_carries_10 16 rfl rfl)
theorem dX8_carries_256 : decode cX8_carries 256 = .ok (.getfield 38, 3) := dk_180 0 38 (dk_at dksX8_carries_10 17 rfl rfl)
theorem dX8_carries_259 : decode cX8_carries 259 = .ok (.iconst 0, 1) := dk_3 (dk_at dksX8_carries_10 20 rfl rfl)
theorem dX8_carries_260 : decode cX8_carries 260 = .ok (.iaload, 1) := dk_46 (dk_at dksX8_carries_10 21 rfl rfl)
theorem dX8_carries_261 : decode cX8_carries 261 = .ok (.invokevirtual 145, 3) := dk_182 0 145 (dk_at dksX8_carries_11 0 rfl rfl)
theorem dX8_carries_264 : decode cX8_carries 264 = .ok (.ireturn, 1) := dk_172 (dk_at dksX8_carries_11 3 rfl rfl)
theorem dX8_carries_265 : decode cX8_carries 265 = .ok (.aload_n 0, 1) := dk_42 (dk_at dksX8_carries_11 4 rfl rfl)
theorem dX8_carries_266 : decode cX8_carries 266 = .ok (.invokevirtual 182, 3) := dk_182 0 182 (dk_at dksX8_carries_11 5 rfl rfl)
theorem dX8_carries_269 : decode cX8_carries 269 = .ok (.ireturn, 1) := dk_172 (dk_at dksX8_carries_11 8 rfl rfl)
theorem q2670 : (Jvm.Cond.methodLink "SpanRulerModel" (258 : Nat) ({ cls := "java/lang/String", name := "hashCode", desc := "()I" } : Jvm.MethodName)) ∈ lw_all := lw_g (lw_at lw_m11 210 rfl) rfl
theorem q2052 : (Jvm.Cond.code ({ cls := "java/lang/String", name := "hashCode", desc := "()I" } : Jvm.MethodName) prog_39_method_78_code (2 : Nat) (Option.some Jvm.ClassFile.FieldType.int)) ∈ lw_all := lw_g (lw_at lw_m9 72 rfl) rfl
theorem q2050 : (Jvm.Cond.instanceMethod ({ cls := "java/lang/String", name := "hashCode", desc := "()I" } : Jvm.MethodName)) ∈ lw_all := lw_g (lw_at lw_m9 70 rfl) rfl
theorem q2051 : (Jvm.Cond.selects "java/lang/String" ({ cls := "java/lang/String", name := "hashCode", desc := "()I" } : Jvm.MethodName) ({ cls := "java/lang/String", name := "hashCode", desc := "()I" } : Jvm.MethodName)) ∈ lw_all := lw_g (lw_at lw_m9 71 rfl) rfl
theorem q2689 : (Jvm.Cond.methodLink "SpanRulerModel" (269 : Nat) ({ cls := "SpanRulerModel", name := "isPainted", desc := "()Z" } : Jvm.MethodName)) ∈ lw_all := lw_g (lw_at lw_m11 229 rfl) rfl
theorem q2692 : (Jvm.Cond.code ({ cls := "SpanRulerModel", name := "isPainted", desc := "()Z" } : Jvm.MethodName) prog_19_method_77_code (1 : Nat) (Option.some Jvm.ClassFile.FieldType.boolean)) ∈ lw_all := lw_g (lw_at lw_m11 232 rfl) rfl
theorem q2691 : (Jvm.Cond.instanceMethod ({ cls := "SpanRulerModel", name := "isPainted", desc := "()Z" } : Jvm.MethodName)) ∈ lw_all := lw_g (lw_at lw_m11 231 rfl) rfl
theorem cmdX_0 (s : MS) : cmdX (0, 3) s = if (mSpTold s).1 = true then mIsNum (mSpTold s).2 2 1 else (false, (mSpTold s).2) := by unfold cmdX; rw [if_pos (by decide)]
theorem cmdX_1 (s : MS) : cmdX (4, 7) s = if (mSpTold s).1 = true then mIsNum (mSpTold s).2 2 1 else (false, (mSpTold s).2) := by unfold cmdX; rw [if_pos (by decide)]
theorem cmdX_2 (s : MS) : cmdX (8, 12) s = mSpTold s := by unfold cmdX; rw [if_neg (by decide), if_pos (by decide)]
theorem cmdX_3 (s : MS) : cmdX (13, 18) s = mPaintd s := by unfold cmdX; rw [if_neg (by decide), if_neg (by decide), if_pos (by decide)]
theorem cmdX_4 (s : MS) : cmdX (19, 23) s = mIsNum s 0 0 := by unfold cmdX; rw [if_neg (by decide), if_neg (by decide), if_neg (by decide), if_pos (by decide)]
theorem cmdX_5 (s : MS) : cmdX (24, 28) s = (true, s) := by unfold cmdX; rw [if_neg (by decide), if_neg (by decide), if_neg (by decide), if_neg (by decide)]
theorem mput_upX {G : GE} {h0 : AH} {ad : Nat → Nat} {s : MS} {c : Nat} {e : va_E} (hA : MAd ad) (off : ∀ k ∈ mks, ad k ≠ c) : up (mput G h0 ad s) c e = mput G (up h0 c e) ad s := by
  funext q
  by_cases z : q = c
  · subst z; rw [up_self, mput_off off, up_self]
  · rw [up_ne z]
    by_cases y : ∃ j ∈ mks, ad j = q
    · obtain ⟨j, hj, ej⟩ := y
      subst ej
      rw [mput_at hA hj, mput_at hA hj]
    · have y' : ∀ j ∈ mks, ad j ≠ q := fun j hj e => y ⟨j, hj, e⟩
      rw [mput_off y', mput_off y', up_ne z]
theorem WordR.paint {G : GE} {U : State} (T : Tab G U) (h : AH) : WordR G h (G.ga ("L:" ++ "paint")) "paint" := by
  obtain ⟨h1, h2⟩ := T.kst.1 "paint" (by decide)
  exact ⟨_, _, _, _, Rd.k h1, Rd.k h2, by decide +kernel, by decide +kernel⟩
theorem WordR.mono {G : GE} {h h' : AH} {w : Nat} {t : String} (x : WordR G h w t) (y : Sub h h') : WordR G h' w t := by
  obtain ⟨d, n, f, hz, r1, r2, r3, r4⟩ := x
  have m : ∀ {q : Nat} {e : va_E}, Rd G h q e → Rd G h' q e := fun r => r.elim (fun z => Or.inl (y _ _ z)) Or.inr
  exact ⟨d, n, f, hz, m r1, m r2, r3, r4⟩
theorem m_cmd (l : Launch) (G : GE) {h0 : AH} {ad : Nat → Nat} (hA : MAd ad) (s : MS) (y0 : mPo s) : GM l G yX8_isCommand (ws_ yX8_isCommand cX8_isCommand 3 (some .boolean)) 8 [.ref (ad 20)] (mput G h0 ad s) (22) (PR fun v h' => ∃ h0' w, h' = mput G h0' ad (mW (mCmd s).2 w) ∧ Sub h0 h0' ∧ v = .int (bI (mCmd s).1) ∧ ((mCmd s).1 = true → ∀ S : MS, WordR G (mput G h0' ad S) w (wtx ((ooS s (tch tW) W6).1.getD (0, 0))))) := by
  refine GM.of (by decide) (dk rfl) ?_
  intro X eL eG eh ok fn
  subst eL; subst eG
  show GW X _ 0 0 [some (.ref (ad 20)), none, none] []
  refine g_aload_n ok dX8_isCommand_0 rfl ?_
  refine g_ldcSw ok (tx := "add set turn paint tick keep ") (by decide) dX8_isCommand_1 ?_
  refine g_callV ok q2590 q2592 qs53 q75 q2593 (m_recv ok hA) dX8_isCommand_4 (m_oneOf X.l X.G hA (h0 := h0) s (X.G.ga ("L:" ++ tW)) (X.G.ga ("V:" ++ tW)) 29 (tch tW) W6 y0 (strk ok.tab tW 29 (by decide) (by decide +kernel) _) tW_asc W6_ok) (nm_ (by decide : nmb _ 1 = true)) (dl rfl) (dk rfl) rfl rfl (dk rfl) (by omega) (kR fun v hh ⟨h1, w, e1, e2, e3⟩ => ?_) xR
  subst e1
  have pA := ooS_po (g := tch tW) (W := W6) y0
  cases ho : (ooS s (tch tW) W6).1 with
  | none =>
    rw [ho] at e3
    have e3 : v = .int 0 := e3
    subst e3
    have hp : mCmd s = (false, adv s (ooS s (tch tW) W6).2) := by unfold mCmd; rw [ho]
    refine g_if_ne ok (tgt := 12) dX8_isCommand_7 (by decide) (fun c_ => absurd (congrArg nI (by omega : 0 = 0)) c_) (fun _ => ?_)
    refine g_iconst ok (v := 0) dX8_isCommand_10 rfl ?_
    exact g_zret ok fn rfl rfl dX8_isCommand_11 ⟨_, rfl, h1, w, by rw [hp], e2, by rw [hp]; rfl, by intro z; rw [hp] at z; cases z⟩ (by omega)
  | some x =>
    rw [ho] at e3
    obtain ⟨e3, nw⟩ := e3
    subst e3
    have hp : mCmd s = cmdX x (adv s (ooS s (tch tW) W6).2) := by unfold mCmd; rw [ho]
    have hx := ooL_mem W6 0 x ho
    simp only [W6, List.mem_cons, List.not_mem_nil, or_false] at hx
    obtain ⟨A, hS⟩ : ∃ A : MS, adv s (ooS s (tch tW) W6).2 = A := ⟨_, rfl⟩
    rw [hS] at hp pA ⊢
    refine g_if_ne ok (tgt := 12) dX8_isCommand_7 (by decide) (fun _ => ?_) (fun c_ => absurd c_ (fun e_ => by have := (nI_eq (a := 1) (b := 0) (by omega) (by omega)).mp e_; omega))
    rcases hx with e | e | e | e | e | e
    · subst e
      obtain ⟨d, sw, s1, s2, s3⟩ := nw.str (s := mW A w) (n := 3) rfl (by decide)
      have sw : StrA X.G (mput X.G h1 ad (mW A w)) w d 3 (va_cpy (tch tW) (fun _ => 0) 0 0 3) := sw
      obtain ⟨d_, t1, t2, t3, t4, t5⟩ := nw
      have hh : haL (va_cpy (tch tW) (fun _ => 0) 0 0 3) 3 0 0 = 96417 := by decide +kernel
      have hw9 : wtx ((ooS s (tch tW) W6).1.getD (0, 0)) = "add" := by rw [ho]; decide
      clear ho
      refine g_aload_n ok dX8_isCommand_12 rfl ?_
      refine m_get ok hA 12 q2247 (by decide) dX8_isCommand_13 (v := .ref w) rfl ?_
      refine g_astore_n ok dX8_isCommand_16 (ls1 := [some (.ref (ad 20)), some (.ref w), none]) (dl rfl) rfl ?_
      refine g_iconst ok (v := -1) dX8_isCommand_17 rfl ?_
      refine g_istore_n ok dX8_isCommand_18 (ls1 := [some (.ref (ad 20)), some (.ref w), some (.int (-1))]) (dl rfl) rfl ?_
      refine g_aload_n ok dX8_isCommand_19 rfl ?_
      refine g_callV ok q2670 q2050 q2051 q73 q2052 (Recv.ob ok gc_J5 (Rd.h s1)) dX8_isCommand_20 (s_hash X.l X.G _ w d 3 (va_cpy (tch tW) (fun _ => 0) 0 0 3) s1 s2 (by decide) (by decide) (by rw [hh]; decide)) (nm_ (by decide : nmb _ 0 = true)) (dl rfl) (dk rfl) rfl rfl (dk rfl) (by omega) (kV ?_) xV
      rw [hh, mput_upX hA (fun k hk => (t5 k hk).1)]
      obtain ⟨h2, hh2⟩ : ∃ h2 : AH, up h1 w (ob 15 [.ref d, .int 0, .int 96417, .int 0]) = h2 := ⟨_, rfl⟩
      have sb : Sub h0 h2 := by rw [← hh2]; exact e2.up t4
      have q1 : h2 w = some (ob 15 [.ref d, .int 0, .int 96417, .int 0]) := by rw [← hh2]; exact up_self
      have ed : d = d_ := by have z := s1.symm.trans ((mput_off (fun k hk => (t5 k hk).1)).trans t1); simpa using z
      have q2 : h2 d = some (aB X.G 3 (va_cpy (tch tW) (fun _ => 0) 0 0 3)) := by rw [← hh2, up_ne (Ne.symm s3)]; exact (mput_off (fun k hk => by rw [ed]; exact (t5 k hk).2)).symm.trans s2
      have offw : ∀ k ∈ mks, ad k ≠ w := fun k hk => (t5 k hk).1
      have offd : ∀ k ∈ mks, ad k ≠ d := fun k hk => by rw [ed]; exact (t5 k hk).2
      have sw2 : ∀ S : MS, StrA X.G (mput X.G h2 ad S) w d 3 (va_cpy (tch tW) (fun _ => 0) 0 0 3) := fun S => ⟨⟨_, _, Rd.h ((mput_off offw).trans q1)⟩, Rd.h ((mput_off offd).trans q2), by decide⟩
      have wr : ∀ S : MS, WordR X.G (mput X.G h2 ad S) w "add" := fun S => ⟨d, 3, (va_cpy (tch tW) (fun _ => 0) 0 0 3), 0, Or.inl (by rw [show thash "add" = 96417 from by decide +kernel]; exact (mput_off offw).trans q1), Or.inl ((mput_off offd).trans q2), by decide, by decide +kernel⟩
      rw [hh2]
      refine g_lookup ok (tgt := 72) (off := 49) dX8_isCommand_23 (by decide) (by decide) (by decide) ?_
      refine g_aload_n ok dX8_isCommand_72 rfl ?_
      refine g_ldcSw ok (tx := "add") (by decide) dX8_isCommand_73 ?_
      refine g_callV ok q2672 q1822 q2744 q73 q1823 (Recv.ob ok gc_J5 (Rd.h ((mput_off offw).trans q1))) dX8_isCommand_76 (s_equals X.l X.G _ w d 3 (va_cpy (tch tW) (fun _ => 0) 0 0 3) (sw2 _) (X.G.ga ("L:" ++ "add")) (X.G.ga ("V:" ++ "add")) 3 (tch "add") (strk ok.tab "add" 3 (by decide) (by decide +kernel) _)) (nm_ (by decide : nmb _ 1 = true)) (dl rfl) (dk rfl) rfl rfl (dk rfl) (by omega) (kV ?_) xV
      rw [show bI (eqS 3 (va_cpy (tch tW) (fun _ => 0) 0 0 3) 3 (tch "add")) = 1 from by decide +kernel]
      refine g_if_eq ok (tgt := 143) dX8_isCommand_79 (by decide) (fun c_ => absurd c_ (fun e_ => by have := (nI_eq (a := 1) (b := 0) (by omega) (by omega)).mp e_; omega)) (fun _ => ?_)
      refine g_iconst ok (v := 0) dX8_isCommand_82 rfl ?_
      refine g_istore_n ok dX8_isCommand_83 (ls1 := [some (.ref (ad 20)), some (.ref w), some (.int 0)]) (dl rfl) rfl ?_
      refine g_goto ok dX8_isCommand_84 (tgt := 143) (by decide) ?_
      refine g_iload_n ok dX8_isCommand_143 rfl ?_
      refine g_tableIn ok (tgt := 180) (off := 36) dX8_isCommand_144 (by decide) (by decide) rfl (by decide) ?_
      refine g_aload_n ok dX8_isCommand_180 rfl ?_
      refine g_callV ok q2677 q2679 qs54 q75 q2680 (m_recv ok hA) dX8_isCommand_181 (m_spTold X.l X.G hA (h0 := h2) (mW A w) pA) (nm_ (by decide : nmb _ 0 = true)) (dl rfl) (dk rfl) rfl rfl (dk rfl) (dk rfl) (kV ?_) xV
      refine g_if_eq ok (tgt := 200) dX8_isCommand_184 (by decide) (fun c184 => ?_) (fun c184 => ?_)
      · have c184' := bI_e c184
        have d184 : (mSpTold A).1 = false := by have z := c184'; rw [mSpTold_W] at z; exact z
        refine g_iconst ok (v := 0) dX8_isCommand_200 rfl ?_
        exact g_zret ok fn rfl rfl dX8_isCommand_201 ⟨_, rfl, h2, w, by rw [hp, cmdX_0]; simp [mSpTold_W, mIsNum_W, d184], sb, by rw [hp, cmdX_0]; simp [bI, mSpTold_W, mIsNum_W, d184], fun _ S => by rw [hw9]; exact wr S⟩ (by omega)
      · have c184' := bI_n c184
        have d184 : (mSpTold A).1 = true := by have z := c184'; rw [mSpTold_W] at z; exact z
        refine g_aload_n ok dX8_isCommand_187 rfl ?_
        refine g_iconst ok (v := 2) dX8_isCommand_188 rfl ?_
        refine g_iconst ok (v := 1) dX8_isCommand_189 rfl ?_
        refine g_callV ok q2681 q2683 qs55 q75 q2684 (m_recv ok hA) dX8_isCommand_190 (m_isNum X.l X.G hA (h0 := h2) (mSpTold (mW A w) ).2 2 1 (mSpTold_po (s := mW A w) pA) (by decide)) (nm_ (by decide : nmb _ 2 = true)) (dl rfl) (dk rfl) rfl rfl (dk rfl) (dk rfl) (kV ?_) xV
        refine g_if_eq ok (tgt := 200) dX8_isCommand_193 (by decide) (fun c193 => ?_) (fun c193 => ?_)
        · have c193' := bI_e c193
          have d193 : (mIsNum (mSpTold A).2 2 1).1 = false := by have z := c193'; rw [mSpTold_W, mIsNum_W] at z; exact z
          refine g_iconst ok (v := 0) dX8_isCommand_200 rfl ?_
          exact g_zret ok fn rfl rfl dX8_isCommand_201 ⟨_, rfl, h2, w, by rw [hp, cmdX_0]; simp [mSpTold_W, mIsNum_W, d184, d193], sb, by rw [hp, cmdX_0]; simp [bI, mSpTold_W, mIsNum_W, d184, d193], fun _ S => by rw [hw9]; exact wr S⟩ (by omega)
        · have c193' := bI_n c193
          have d193 : (mIsNum (mSpTold A).2 2 1).1 = true := by have z := c193'; rw [mSpTold_W, mIsNum_W] at z; exact z
          refine g_iconst ok (v := 1) dX8_isCommand_196 rfl ?_
          refine g_goto ok dX8_isCommand_197 (tgt := 201) (by decide) ?_
          exact g_zret ok fn rfl rfl dX8_isCommand_201 ⟨_, rfl, h2, w, by rw [hp, cmdX_0]; simp [mSpTold_W, mIsNum_W, d184, d193], sb, by rw [hp, cmdX_0]; simp [bI, mSpTold_W, mIsNum_W, d184, d193], fun _ S => by rw [hw9]; exact wr S⟩ (by omega)
    · subst e
      obtain ⟨d, sw, s1, s2, s3⟩ := nw.str (s := mW A w) (n := 3) rfl (by decide)
      have sw : StrA X.G (mput X.G h1 ad (mW A w)) w d 3 (va_cpy (tch tW) (fun _ => 0) 4 0 3) := sw
      obtain ⟨d_, t1, t2, t3, t4, t5⟩ := nw
      have hh : haL (va_cpy (tch tW) (fun _ => 0) 4 0 3) 3 0 0 = 113762 := by decide +kernel
      have hw9 : wtx ((ooS s (tch tW) W6).1.getD (0, 0)) = "set" := by rw [ho]; decide
      clear ho
      refine g_aload_n ok dX8_isCommand_12 rfl ?_
      refine m_get ok hA 12 q2247 (by decide) dX8_isCommand_13 (v := .ref w) rfl ?_
      refine g_astore_n ok dX8_isCommand_16 (ls1 := [some (.ref (ad 20)), some (.ref w), none]) (dl rfl) rfl ?_
      refine g_iconst ok (v := -1) dX8_isCommand_17 rfl ?_
      refine g_istore_n ok dX8_isCommand_18 (ls1 := [some (.ref (ad 20)), some (.ref w), some (.int (-1))]) (dl rfl) rfl ?_
      refine g_aload_n ok dX8_isCommand_19 rfl ?_
      refine g_callV ok q2670 q2050 q2051 q73 q2052 (Recv.ob ok gc_J5 (Rd.h s1)) dX8_isCommand_20 (s_hash X.l X.G _ w d 3 (va_cpy (tch tW) (fun _ => 0) 4 0 3) s1 s2 (by decide) (by decide) (by rw [hh]; decide)) (nm_ (by decide : nmb _ 0 = true)) (dl rfl) (dk rfl) rfl rfl (dk rfl) (by omega) (kV ?_) xV
      rw [hh, mput_upX hA (fun k hk => (t5 k hk).1)]
      obtain ⟨h2, hh2⟩ : ∃ h2 : AH, up h1 w (ob 15 [.ref d, .int 0, .int 113762, .int 0]) = h2 := ⟨_, rfl⟩
      have sb : Sub h0 h2 := by rw [← hh2]; exact e2.up t4
      have q1 : h2 w = some (ob 15 [.ref d, .int 0, .int 113762, .int 0]) := by rw [← hh2]; exact up_self
      have ed : d = d_ := by have z := s1.symm.trans ((mput_off (fun k hk => (t5 k hk).1)).trans t1); simpa using z
      have q2 : h2 d = some (aB X.G 3 (va_cpy (tch tW) (fun _ => 0) 4 0 3)) := by rw [← hh2, up_ne (Ne.symm s3)]; exact (mput_off (fun k hk => by rw [ed]; exact (t5 k hk).2)).symm.trans s2
      have offw : ∀ k ∈ mks, ad k ≠ w := fun k hk => (t5 k hk).1
      have offd : ∀ k ∈ mks, ad k ≠ d := fun k hk => by rw [ed]; exact (t5 k hk).2
      have sw2 : ∀ S : MS, StrA X.G (mput X.G h2 ad S) w d 3 (va_cpy (tch tW) (fun _ => 0) 4 0 3) := fun S => ⟨⟨_, _, Rd.h ((mput_off offw).trans q1)⟩, Rd.h ((mput_off offd).trans q2), by decide⟩
      have wr : ∀ S : MS, WordR X.G (mput X.G h2 ad S) w "set" := fun S => ⟨d, 3, (va_cpy (tch tW) (fun _ => 0) 4 0 3), 0, Or.inl (by rw [show thash "set" = 113762 from by decide +kernel]; exact (mput_off offw).trans q1), Or.inl ((mput_off offd).trans q2), by decide, by decide +kernel⟩
      rw [hh2]
      refine g_lookup ok (tgt := 87) (off := 64) dX8_isCommand_23 (by decide) (by decide) (by decide) ?_
      refine g_aload_n ok dX8_isCommand_87 rfl ?_
      refine g_ldcSw ok (tx := "set") (by decide) dX8_isCommand_88 ?_
      refine g_callV ok q2672 q1822 q2744 q73 q1823 (Recv.ob ok gc_J5 (Rd.h ((mput_off offw).trans q1))) dX8_isCommand_91 (s_equals X.l X.G _ w d 3 (va_cpy (tch tW) (fun _ => 0) 4 0 3) (sw2 _) (X.G.ga ("L:" ++ "set")) (X.G.ga ("V:" ++ "set")) 3 (tch "set") (strk ok.tab "set" 3 (by decide) (by decide +kernel) _)) (nm_ (by decide : nmb _ 1 = true)) (dl rfl) (dk rfl) rfl rfl (dk rfl) (by omega) (kV ?_) xV
      rw [show bI (eqS 3 (va_cpy (tch tW) (fun _ => 0) 4 0 3) 3 (tch "set")) = 1 from by decide +kernel]
      refine g_if_eq ok (tgt := 143) dX8_isCommand_94 (by decide) (fun c_ => absurd c_ (fun e_ => by have := (nI_eq (a := 1) (b := 0) (by omega) (by omega)).mp e_; omega)) (fun _ => ?_)
      refine g_iconst ok (v := 1) dX8_isCommand_97 rfl ?_
      refine g_istore_n ok dX8_isCommand_98 (ls1 := [some (.ref (ad 20)), some (.ref w), some (.int 1)]) (dl rfl) rfl ?_
      refine g_goto ok dX8_isCommand_99 (tgt := 143) (by decide) ?_
      refine g_iload_n ok dX8_isCommand_143 rfl ?_
      refine g_tableIn ok (tgt := 180) (off := 36) dX8_isCommand_144 (by decide) (by decide) rfl (by decide) ?_
      refine g_aload_n ok dX8_isCommand_180 rfl ?_
      refine g_callV ok q2677 q2679 qs54 q75 q2680 (m_recv ok hA) dX8_isCommand_181 (m_spTold X.l X.G hA (h0 := h2) (mW A w) pA) (nm_ (by decide : nmb _ 0 = true)) (dl rfl) (dk rfl) rfl rfl (dk rfl) (dk rfl) (kV ?_) xV
      refine g_if_eq ok (tgt := 200) dX8_isCommand_184 (by decide) (fun c184 => ?_) (fun c184 => ?_)
      · have c184' := bI_e c184
        have d184 : (mSpTold A).1 = false := by have z := c184'; rw [mSpTold_W] at z; exact z
        refine g_iconst ok (v := 0) dX8_isCommand_200 rfl ?_
        exact g_zret ok fn rfl rfl dX8_isCommand_201 ⟨_, rfl, h2, w, by rw [hp, cmdX_1]; simp [mSpTold_W, mIsNum_W, d184], sb, by rw [hp, cmdX_1]; simp [bI, mSpTold_W, mIsNum_W, d184], fun _ S => by rw [hw9]; exact wr S⟩ (by omega)
      · have c184' := bI_n c184
        have d184 : (mSpTold A).1 = true := by have z := c184'; rw [mSpTold_W] at z; exact z
        refine g_aload_n ok dX8_isCommand_187 rfl ?_
        refine g_iconst ok (v := 2) dX8_isCommand_188 rfl ?_
        refine g_iconst ok (v := 1) dX8_isCommand_189 rfl ?_
        refine g_callV ok q2681 q2683 qs55 q75 q2684 (m_recv ok hA) dX8_isCommand_190 (m_isNum X.l X.G hA (h0 := h2) (mSpTold (mW A w) ).2 2 1 (mSpTold_po (s := mW A w) pA) (by decide)) (nm_ (by decide : nmb _ 2 = true)) (dl rfl) (dk rfl) rfl rfl (dk rfl) (dk rfl) (kV ?_) xV
        refine g_if_eq ok (tgt := 200) dX8_isCommand_193 (by decide) (fun c193 => ?_) (fun c193 => ?_)
        · have c193' := bI_e c193
          have d193 : (mIsNum (mSpTold A).2 2 1).1 = false := by have z := c193'; rw [mSpTold_W, mIsNum_W] at z; exact z
          refine g_iconst ok (v := 0) dX8_isCommand_200 rfl ?_
          exact g_zret ok fn rfl rfl dX8_isCommand_201 ⟨_, rfl, h2, w, by rw [hp, cmdX_1]; simp [mSpTold_W, mIsNum_W, d184, d193], sb, by rw [hp, cmdX_1]; simp [bI, mSpTold_W, mIsNum_W, d184, d193], fun _ S => by rw [hw9]; exact wr S⟩ (by omega)
        · have c193' := bI_n c193
          have d193 : (mIsNum (mSpTold A).2 2 1).1 = true := by have z := c193'; rw [mSpTold_W, mIsNum_W] at z; exact z
          refine g_iconst ok (v := 1) dX8_isCommand_196 rfl ?_
          refine g_goto ok dX8_isCommand_197 (tgt := 201) (by decide) ?_
          exact g_zret ok fn rfl rfl dX8_isCommand_201 ⟨_, rfl, h2, w, by rw [hp, cmdX_1]; simp [mSpTold_W, mIsNum_W, d184, d193], sb, by rw [hp, cmdX_1]; simp [bI, mSpTold_W, mIsNum_W, d184, d193], fun _ S => by rw [hw9]; exact wr S⟩ (by omega)
    · subst e
      obtain ⟨d, sw, s1, s2, s3⟩ := nw.str (s := mW A w) (n := 4) rfl (by decide)
      have sw : StrA X.G (mput X.G h1 ad (mW A w)) w d 4 (va_cpy (tch tW) (fun _ => 0) 8 0 4) := sw
      obtain ⟨d_, t1, t2, t3, t4, t5⟩ := nw
      have hh : haL (va_cpy (tch tW) (fun _ => 0) 8 0 4) 4 0 0 = 3571837 := by decide +kernel
      have hw9 : wtx ((ooS s (tch tW) W6).1.getD (0, 0)) = "turn" := by rw [ho]; decide
      clear ho
      refine g_aload_n ok dX8_isCommand_12 rfl ?_
      refine m_get ok hA 12 q2247 (by decide) dX8_isCommand_13 (v := .ref w) rfl ?_
      refine g_astore_n ok dX8_isCommand_16 (ls1 := [some (.ref (ad 20)), some (.ref w), none]) (dl rfl) rfl ?_
      refine g_iconst ok (v := -1) dX8_isCommand_17 rfl ?_
      refine g_istore_n ok dX8_isCommand_18 (ls1 := [some (.ref (ad 20)), some (.ref w), some (.int (-1))]) (dl rfl) rfl ?_
      refine g_aload_n ok dX8_isCommand_19 rfl ?_
      refine g_callV ok q2670 q2050 q2051 q73 q2052 (Recv.ob ok gc_J5 (Rd.h s1)) dX8_isCommand_20 (s_hash X.l X.G _ w d 4 (va_cpy (tch tW) (fun _ => 0) 8 0 4) s1 s2 (by decide) (by decide) (by rw [hh]; decide)) (nm_ (by decide : nmb _ 0 = true)) (dl rfl) (dk rfl) rfl rfl (dk rfl) (by omega) (kV ?_) xV
      rw [hh, mput_upX hA (fun k hk => (t5 k hk).1)]
      obtain ⟨h2, hh2⟩ : ∃ h2 : AH, up h1 w (ob 15 [.ref d, .int 0, .int 3571837, .int 0]) = h2 := ⟨_, rfl⟩
      have sb : Sub h0 h2 := by rw [← hh2]; exact e2.up t4
      have q1 : h2 w = some (ob 15 [.ref d, .int 0, .int 3571837, .int 0]) := by rw [← hh2]; exact up_self
      have ed : d = d_ := by have z := s1.symm.trans ((mput_off (fun k hk => (t5 k hk).1)).trans t1); simpa using z
      have q2 : h2 d = some (aB X.G 4 (va_cpy (tch tW) (fun _ => 0) 8 0 4)) := by rw [← hh2, up_ne (Ne.symm s3)]; exact (mput_off (fun k hk => by rw [ed]; exact (t5 k hk).2)).symm.trans s2
      have offw : ∀ k ∈ mks, ad k ≠ w := fun k hk => (t5 k hk).1
      have offd : ∀ k ∈ mks, ad k ≠ d := fun k hk => by rw [ed]; exact (t5 k hk).2
      have sw2 : ∀ S : MS, StrA X.G (mput X.G h2 ad S) w d 4 (va_cpy (tch tW) (fun _ => 0) 8 0 4) := fun S => ⟨⟨_, _, Rd.h ((mput_off offw).trans q1)⟩, Rd.h ((mput_off offd).trans q2), by decide⟩
      have wr : ∀ S : MS, WordR X.G (mput X.G h2 ad S) w "turn" := fun S => ⟨d, 4, (va_cpy (tch tW) (fun _ => 0) 8 0 4), 0, Or.inl (by rw [show thash "turn" = 3571837 from by decide +kernel]; exact (mput_off offw).trans q1), Or.inl ((mput_off offd).trans q2), by decide, by decide +kernel⟩
      rw [hh2]
      refine g_lookup ok (tgt := 102) (off := 79) dX8_isCommand_23 (by decide) (by decide) (by decide) ?_
      refine g_aload_n ok dX8_isCommand_102 rfl ?_
      refine g_ldcSw ok (tx := "turn") (by decide) dX8_isCommand_103 ?_
      refine g_callV ok q2672 q1822 q2744 q73 q1823 (Recv.ob ok gc_J5 (Rd.h ((mput_off offw).trans q1))) dX8_isCommand_106 (s_equals X.l X.G _ w d 4 (va_cpy (tch tW) (fun _ => 0) 8 0 4) (sw2 _) (X.G.ga ("L:" ++ "turn")) (X.G.ga ("V:" ++ "turn")) 4 (tch "turn") (strk ok.tab "turn" 4 (by decide) (by decide +kernel) _)) (nm_ (by decide : nmb _ 1 = true)) (dl rfl) (dk rfl) rfl rfl (dk rfl) (by omega) (kV ?_) xV
      rw [show bI (eqS 4 (va_cpy (tch tW) (fun _ => 0) 8 0 4) 4 (tch "turn")) = 1 from by decide +kernel]
      refine g_if_eq ok (tgt := 143) dX8_isCommand_109 (by decide) (fun c_ => absurd c_ (fun e_ => by have := (nI_eq (a := 1) (b := 0) (by omega) (by omega)).mp e_; omega)) (fun _ => ?_)
      refine g_iconst ok (v := 2) dX8_isCommand_112 rfl ?_
      refine g_istore_n ok dX8_isCommand_113 (ls1 := [some (.ref (ad 20)), some (.ref w), some (.int 2)]) (dl rfl) rfl ?_
      refine g_goto ok dX8_isCommand_114 (tgt := 143) (by decide) ?_
      refine g_iload_n ok dX8_isCommand_143 rfl ?_
      refine g_tableIn ok (tgt := 202) (off := 58) dX8_isCommand_144 (by decide) (by decide) rfl (by decide) ?_
      refine g_aload_n ok dX8_isCommand_202 rfl ?_
      refine g_callV ok q2677 q2679 qs54 q75 q2680 (m_recv ok hA) dX8_isCommand_203 (m_spTold X.l X.G hA (h0 := h2) (mW A w) pA) (nm_ (by decide : nmb _ 0 = true)) (dl rfl) (dk rfl) rfl rfl (dk rfl) (dk rfl) (kV ?_) xV
      exact g_zret ok fn rfl (bI_z _) dX8_isCommand_206 ⟨_, rfl, h2, w, by rw [hp, cmdX_2]; simp [mSpTold_W], sb, by rw [hp, cmdX_2]; simp [mSpTold_W], fun _ S => by rw [hw9]; exact wr S⟩ (by omega)
    · subst e
      obtain ⟨d, sw, s1, s2, s3⟩ := nw.str (s := mW A w) (n := 5) rfl (by decide)
      have sw : StrA X.G (mput X.G h1 ad (mW A w)) w d 5 (va_cpy (tch tW) (fun _ => 0) 13 0 5) := sw
      obtain ⟨d_, t1, t2, t3, t4, t5⟩ := nw
      have hh : haL (va_cpy (tch tW) (fun _ => 0) 13 0 5) 5 0 0 = 106428510 := by decide +kernel
      have hw9 : wtx ((ooS s (tch tW) W6).1.getD (0, 0)) = "paint" := by rw [ho]; decide
      clear ho
      refine g_aload_n ok dX8_isCommand_12 rfl ?_
      refine m_get ok hA 12 q2247 (by decide) dX8_isCommand_13 (v := .ref w) rfl ?_
      refine g_astore_n ok dX8_isCommand_16 (ls1 := [some (.ref (ad 20)), some (.ref w), none]) (dl rfl) rfl ?_
      refine g_iconst ok (v := -1) dX8_isCommand_17 rfl ?_
      refine g_istore_n ok dX8_isCommand_18 (ls1 := [some (.ref (ad 20)), some (.ref w), some (.int (-1))]) (dl rfl) rfl ?_
      refine g_aload_n ok dX8_isCommand_19 rfl ?_
      refine g_callV ok q2670 q2050 q2051 q73 q2052 (Recv.ob ok gc_J5 (Rd.h s1)) dX8_isCommand_20 (s_hash X.l X.G _ w d 5 (va_cpy (tch tW) (fun _ => 0) 13 0 5) s1 s2 (by decide) (by decide) (by rw [hh]; decide)) (nm_ (by decide : nmb _ 0 = true)) (dl rfl) (dk rfl) rfl rfl (dk rfl) (by omega) (kV ?_) xV
      rw [hh, mput_upX hA (fun k hk => (t5 k hk).1)]
      obtain ⟨h2, hh2⟩ : ∃ h2 : AH, up h1 w (ob 15 [.ref d, .int 0, .int 106428510, .int 0]) = h2 := ⟨_, rfl⟩
      have sb : Sub h0 h2 := by rw [← hh2]; exact e2.up t4
      have q1 : h2 w = some (ob 15 [.ref d, .int 0, .int 106428510, .int 0]) := by rw [← hh2]; exact up_self
      have ed : d = d_ := by have z := s1.symm.trans ((mput_off (fun k hk => (t5 k hk).1)).trans t1); simpa using z
      have q2 : h2 d = some (aB X.G 5 (va_cpy (tch tW) (fun _ => 0) 13 0 5)) := by rw [← hh2, up_ne (Ne.symm s3)]; exact (mput_off (fun k hk => by rw [ed]; exact (t5 k hk).2)).symm.trans s2
      have offw : ∀ k ∈ mks, ad k ≠ w := fun k hk => (t5 k hk).1
      have offd : ∀ k ∈ mks, ad k ≠ d := fun k hk => by rw [ed]; exact (t5 k hk).2
      have sw2 : ∀ S : MS, StrA X.G (mput X.G h2 ad S) w d 5 (va_cpy (tch tW) (fun _ => 0) 13 0 5) := fun S => ⟨⟨_, _, Rd.h ((mput_off offw).trans q1)⟩, Rd.h ((mput_off offd).trans q2), by decide⟩
      have wr : ∀ S : MS, WordR X.G (mput X.G h2 ad S) w "paint" := fun S => ⟨d, 5, (va_cpy (tch tW) (fun _ => 0) 13 0 5), 0, Or.inl (by rw [show thash "paint" = 106428510 from by decide +kernel]; exact (mput_off offw).trans q1), Or.inl ((mput_off offd).trans q2), by decide, by decide +kernel⟩
      rw [hh2]
      refine g_lookup ok (tgt := 117) (off := 94) dX8_isCommand_23 (by decide) (by decide) (by decide) ?_
      refine g_aload_n ok dX8_isCommand_117 rfl ?_
      refine g_ldcS ok (tx := "paint") (by decide) dX8_isCommand_118 ?_
      refine g_callV ok q2672 q1822 q2744 q73 q1823 (Recv.ob ok gc_J5 (Rd.h ((mput_off offw).trans q1))) dX8_isCommand_120 (s_equals X.l X.G _ w d 5 (va_cpy (tch tW) (fun _ => 0) 13 0 5) (sw2 _) (X.G.ga ("L:" ++ "paint")) (X.G.ga ("V:" ++ "paint")) 5 (tch "paint") (strk ok.tab "paint" 5 (by decide) (by decide +kernel) _)) (nm_ (by decide : nmb _ 1 = true)) (dl rfl) (dk rfl) rfl rfl (dk rfl) (by omega) (kV ?_) xV
      rw [show bI (eqS 5 (va_cpy (tch tW) (fun _ => 0) 13 0 5) 5 (tch "paint")) = 1 from by decide +kernel]
      refine g_if_eq ok (tgt := 143) dX8_isCommand_123 (by decide) (fun c_ => absurd c_ (fun e_ => by have := (nI_eq (a := 1) (b := 0) (by omega) (by omega)).mp e_; omega)) (fun _ => ?_)
      refine g_iconst ok (v := 3) dX8_isCommand_126 rfl ?_
      refine g_istore_n ok dX8_isCommand_127 (ls1 := [some (.ref (ad 20)), some (.ref w), some (.int 3)]) (dl rfl) rfl ?_
      refine g_goto ok dX8_isCommand_128 (tgt := 143) (by decide) ?_
      refine g_iload_n ok dX8_isCommand_143 rfl ?_
      refine g_tableIn ok (tgt := 207) (off := 63) dX8_isCommand_144 (by decide) (by decide) rfl (by decide) ?_
      refine g_aload_n ok dX8_isCommand_207 rfl ?_
      refine g_callV ok q2689 q2691 qs57 q75 q2692 (m_recv ok hA) dX8_isCommand_208 (m_painted X.l X.G hA (h0 := h2) (mW A w) pA) (nm_ (by decide : nmb _ 0 = true)) (dl rfl) (dk rfl) rfl rfl (dk rfl) (by omega) (kR fun v hh ⟨h3, w3, u1, u2, u3, u4⟩ => ?_) xR
      subst u1; subst u3
      exact g_zret ok fn rfl (bI_z _) dX8_isCommand_211 ⟨_, rfl, h3, w3, by rw [hp, cmdX_3, mPaintd_W]; rfl, sb.trans u2, by rw [hp, cmdX_3, mPaintd_W], fun z S => by rw [u4 (by rw [mPaintd_W]; rw [hp, cmdX_3] at z; exact z)]; rw [hw9]; exact WordR.paint ok.tab _⟩ (by omega)
    · subst e
      obtain ⟨d, sw, s1, s2, s3⟩ := nw.str (s := mW A w) (n := 4) rfl (by decide)
      have sw : StrA X.G (mput X.G h1 ad (mW A w)) w d 4 (va_cpy (tch tW) (fun _ => 0) 19 0 4) := sw
      obtain ⟨d_, t1, t2, t3, t4, t5⟩ := nw
      have hh : haL (va_cpy (tch tW) (fun _ => 0) 19 0 4) 4 0 0 = 3559837 := by decide +kernel
      have hw9 : wtx ((ooS s (tch tW) W6).1.getD (0, 0)) = "tick" := by rw [ho]; decide
      clear ho
      refine g_aload_n ok dX8_isCommand_12 rfl ?_
      refine m_get ok hA 12 q2247 (by decide) dX8_isCommand_13 (v := .ref w) rfl ?_
      refine g_astore_n ok dX8_isCommand_16 (ls1 := [some (.ref (ad 20)), some (.ref w), none]) (dl rfl) rfl ?_
      refine g_iconst ok (v := -1) dX8_isCommand_17 rfl ?_
      refine g_istore_n ok dX8_isCommand_18 (ls1 := [some (.ref (ad 20)), some (.ref w), some (.int (-1))]) (dl rfl) rfl ?_
      refine g_aload_n ok dX8_isCommand_19 rfl ?_
      refine g_callV ok q2670 q2050 q2051 q73 q2052 (Recv.ob ok gc_J5 (Rd.h s1)) dX8_isCommand_20 (s_hash X.l X.G _ w d 4 (va_cpy (tch tW) (fun _ => 0) 19 0 4) s1 s2 (by decide) (by decide) (by rw [hh]; decide)) (nm_ (by decide : nmb _ 0 = true)) (dl rfl) (dk rfl) rfl rfl (dk rfl) (by omega) (kV ?_) xV
      rw [hh, mput_upX hA (fun k hk => (t5 k hk).1)]
      obtain ⟨h2, hh2⟩ : ∃ h2 : AH, up h1 w (ob 15 [.ref d, .int 0, .int 3559837, .int 0]) = h2 := ⟨_, rfl⟩
      have sb : Sub h0 h2 := by rw [← hh2]; exact e2.up t4
      have q1 : h2 w = some (ob 15 [.ref d, .int 0, .int 3559837, .int 0]) := by rw [← hh2]; exact up_self
      have ed : d = d_ := by have z := s1.symm.trans ((mput_off (fun k hk => (t5 k hk).1)).trans t1); simpa using z
      have q2 : h2 d = some (aB X.G 4 (va_cpy (tch tW) (fun _ => 0) 19 0 4)) := by rw [← hh2, up_ne (Ne.symm s3)]; exact (mput_off (fun k hk => by rw [ed]; exact (t5 k hk).2)).symm.trans s2
      have offw : ∀ k ∈ mks, ad k ≠ w := fun k hk => (t5 k hk).1
      have offd : ∀ k ∈ mks, ad k ≠ d := fun k hk => by rw [ed]; exact (t5 k hk).2
      have sw2 : ∀ S : MS, StrA X.G (mput X.G h2 ad S) w d 4 (va_cpy (tch tW) (fun _ => 0) 19 0 4) := fun S => ⟨⟨_, _, Rd.h ((mput_off offw).trans q1)⟩, Rd.h ((mput_off offd).trans q2), by decide⟩
      have wr : ∀ S : MS, WordR X.G (mput X.G h2 ad S) w "tick" := fun S => ⟨d, 4, (va_cpy (tch tW) (fun _ => 0) 19 0 4), 0, Or.inl (by rw [show thash "tick" = 3559837 from by decide +kernel]; exact (mput_off offw).trans q1), Or.inl ((mput_off offd).trans q2), by decide, by decide +kernel⟩
      rw [hh2]
      refine g_lookup ok (tgt := 131) (off := 108) dX8_isCommand_23 (by decide) (by decide) (by decide) ?_
      refine g_aload_n ok dX8_isCommand_131 rfl ?_
      refine g_ldcSw ok (tx := "tick") (by decide) dX8_isCommand_132 ?_
      refine g_callV ok q2672 q1822 q2744 q73 q1823 (Recv.ob ok gc_J5 (Rd.h ((mput_off offw).trans q1))) dX8_isCommand_135 (s_equals X.l X.G _ w d 4 (va_cpy (tch tW) (fun _ => 0) 19 0 4) (sw2 _) (X.G.ga ("L:" ++ "tick")) (X.G.ga ("V:" ++ "tick")) 4 (tch "tick") (strk ok.tab "tick" 4 (by decide) (by decide +kernel) _)) (nm_ (by decide : nmb _ 1 = true)) (dl rfl) (dk rfl) rfl rfl (dk rfl) (by omega) (kV ?_) xV
      rw [show bI (eqS 4 (va_cpy (tch tW) (fun _ => 0) 19 0 4) 4 (tch "tick")) = 1 from by decide +kernel]
      refine g_if_eq ok (tgt := 143) dX8_isCommand_138 (by decide) (fun c_ => absurd c_ (fun e_ => by have := (nI_eq (a := 1) (b := 0) (by omega) (by omega)).mp e_; omega)) (fun _ => ?_)
      refine g_iconst ok (v := 4) dX8_isCommand_141 rfl ?_
      refine g_istore_n ok dX8_isCommand_142 (ls1 := [some (.ref (ad 20)), some (.ref w), some (.int 4)]) (dl rfl) rfl ?_
      refine g_iload_n ok dX8_isCommand_143 rfl ?_
      refine g_tableIn ok (tgt := 212) (off := 68) dX8_isCommand_144 (by decide) (by decide) rfl (by decide) ?_
      refine g_aload_n ok dX8_isCommand_212 rfl ?_
      refine g_iconst ok (v := 0) dX8_isCommand_213 rfl ?_
      refine g_iconst ok (v := 0) dX8_isCommand_214 rfl ?_
      refine g_callV ok q2681 q2683 qs55 q75 q2684 (m_recv ok hA) dX8_isCommand_215 (m_isNum X.l X.G hA (h0 := h2) (mW A w) 0 0 pA (by decide)) (nm_ (by decide : nmb _ 2 = true)) (dl rfl) (dk rfl) rfl rfl (dk rfl) (dk rfl) (kV ?_) xV
      exact g_zret ok fn rfl (bI_z _) dX8_isCommand_218 ⟨_, rfl, h2, w, by rw [hp, cmdX_4]; simp [mIsNum_W], sb, by rw [hp, cmdX_4]; simp [mIsNum_W], fun _ S => by rw [hw9]; exact wr S⟩ (by omega)
    · subst e
      obtain ⟨d, sw, s1, s2, s3⟩ := nw.str (s := mW A w) (n := 4) rfl (by decide)
      have sw : StrA X.G (mput X.G h1 ad (mW A w)) w d 4 (va_cpy (tch tW) (fun _ => 0) 24 0 4) := sw
      obtain ⟨d_, t1, t2, t3, t4, t5⟩ := nw
      have hh : haL (va_cpy (tch tW) (fun _ => 0) 24 0 4) 4 0 0 = 3287941 := by decide +kernel
      have hw9 : wtx ((ooS s (tch tW) W6).1.getD (0, 0)) = "keep" := by rw [ho]; decide
      clear ho
      refine g_aload_n ok dX8_isCommand_12 rfl ?_
      refine m_get ok hA 12 q2247 (by decide) dX8_isCommand_13 (v := .ref w) rfl ?_
      refine g_astore_n ok dX8_isCommand_16 (ls1 := [some (.ref (ad 20)), some (.ref w), none]) (dl rfl) rfl ?_
      refine g_iconst ok (v := -1) dX8_isCommand_17 rfl ?_
      refine g_istore_n ok dX8_isCommand_18 (ls1 := [some (.ref (ad 20)), some (.ref w), some (.int (-1))]) (dl rfl) rfl ?_
      refine g_aload_n ok dX8_isCommand_19 rfl ?_
      refine g_callV ok q2670 q2050 q2051 q73 q2052 (Recv.ob ok gc_J5 (Rd.h s1)) dX8_isCommand_20 (s_hash X.l X.G _ w d 4 (va_cpy (tch tW) (fun _ => 0) 24 0 4) s1 s2 (by decide) (by decide) (by rw [hh]; decide)) (nm_ (by decide : nmb _ 0 = true)) (dl rfl) (dk rfl) rfl rfl (dk rfl) (by omega) (kV ?_) xV
      rw [hh, mput_upX hA (fun k hk => (t5 k hk).1)]
      obtain ⟨h2, hh2⟩ : ∃ h2 : AH, up h1 w (ob 15 [.ref d, .int 0, .int 3287941, .int 0]) = h2 := ⟨_, rfl⟩
      have sb : Sub h0 h2 := by rw [← hh2]; exact e2.up t4
      have q1 : h2 w = some (ob 15 [.ref d, .int 0, .int 3287941, .int 0]) := by rw [← hh2]; exact up_self
      have ed : d = d_ := by have z := s1.symm.trans ((mput_off (fun k hk => (t5 k hk).1)).trans t1); simpa using z
      have q2 : h2 d = some (aB X.G 4 (va_cpy (tch tW) (fun _ => 0) 24 0 4)) := by rw [← hh2, up_ne (Ne.symm s3)]; exact (mput_off (fun k hk => by rw [ed]; exact (t5 k hk).2)).symm.trans s2
      have offw : ∀ k ∈ mks, ad k ≠ w := fun k hk => (t5 k hk).1
      have offd : ∀ k ∈ mks, ad k ≠ d := fun k hk => by rw [ed]; exact (t5 k hk).2
      have sw2 : ∀ S : MS, StrA X.G (mput X.G h2 ad S) w d 4 (va_cpy (tch tW) (fun _ => 0) 24 0 4) := fun S => ⟨⟨_, _, Rd.h ((mput_off offw).trans q1)⟩, Rd.h ((mput_off offd).trans q2), by decide⟩
      have wr : ∀ S : MS, WordR X.G (mput X.G h2 ad S) w "keep" := fun S => ⟨d, 4, (va_cpy (tch tW) (fun _ => 0) 24 0 4), 0, Or.inl (by rw [show thash "keep" = 3287941 from by decide +kernel]; exact (mput_off offw).trans q1), Or.inl ((mput_off offd).trans q2), by decide, by decide +kernel⟩
      rw [hh2]
      refine g_lookup ok (tgt := 143) (off := 120) dX8_isCommand_23 (by decide) (by decide) (by decide) ?_
      refine g_iload_n ok dX8_isCommand_143 rfl ?_
      refine g_tableOut ok (tgt := 219) dX8_isCommand_144 (by decide) (by decide) ?_
      refine g_iconst ok (v := 1) dX8_isCommand_219 rfl ?_
      exact g_zret ok fn rfl rfl dX8_isCommand_220 ⟨_, rfl, h2, w, by rw [hp, cmdX_5]; try rfl, sb, by rw [hp, cmdX_5]; try rfl, fun _ S => by rw [hw9]; exact wr S⟩ (by omega)
def mCarry (x : Nat × Nat) (s : MS) : Int32 × MS := if x = (0, 3) then mAdds s (s.A 13 0) (s.A 13 1) (s.A 13 2) else if x = (4, 7) then mSets s (s.A 13 0) (s.A 13 1) (s.A 13 2) else if x = (8, 12) then mTurns s (s.A 13 0) (s.A 13 1) else if x = (13, 18) then mPaints s (s.A 13 0) (s.A 13 1) (s.A 13 2) else if x = (19, 23) then mTicks s (s.A 13 0) else mKV s
theorem mCarry_0 (s : MS) : mCarry (0, 3) s = mAdds s (s.A 13 0) (s.A 13 1) (s.A 13 2) := by unfold mCarry; rw [if_pos (by decide)]
theorem mCarry_1 (s : MS) : mCarry (4, 7) s = mSets s (s.A 13 0) (s.A 13 1) (s.A 13 2) := by unfold mCarry; rw [if_neg (by decide), if_pos (by decide)]
theorem mCarry_2 (s : MS) : mCarry (8, 12) s = mTurns s (s.A 13 0) (s.A 13 1) := by unfold mCarry; rw [if_neg (by decide), if_neg (by decide), if_pos (by decide)]
theorem mCarry_3 (s : MS) : mCarry (13, 18) s = mPaints s (s.A 13 0) (s.A 13 1) (s.A 13 2) := by unfold mCarry; rw [if_neg (by decide), if_neg (by decide), if_neg (by decide), if_pos (by decide)]
theorem mCarry_4 (s : MS) : mCarry (19, 23) s = mTicks s (s.A 13 0) := by unfold mCarry; rw [if_neg (by decide), if_neg (by decide), if_neg (by decide), if_neg (by decide), if_pos (by decide)]
theorem mCarry_5 (s : MS) : mCarry (24, 28) s = mKV s := by unfold mCarry; rw [if_neg (by decide), if_neg (by decide), if_neg (by decide), if_neg (by decide), if_neg (by decide)]
theorem m_carries (l : Launch) (G : GE) {h0 : AH} {ad : Nat → Nat} (hA : MAd ad) (s : MS) (x : Nat × Nat) (hx : x ∈ W6) (y0 : mOk s) (y1 : mVo s) (y2 : ∀ S : MS, WordR G (mput G h0 ad S) s.w (wtx x)) : GM l G yX8_carries (ws_ yX8_carries cX8_carries 3 (some .int)) 5 [.ref (ad 20)] (mput G h0 ad s) (0) (PV (.int (mCarry x s).1) (mput G h0 ad (mCarry x s).2)) := by
  refine GM.of (by decide) (dk rfl) ?_
  intro X eL eG eh ok fn
  subst eL; subst eG
  show GW X _ 0 0 [some (.ref (ad 20)), none, none] []
  obtain ⟨wd, hwd⟩ : ∃ wd : Nat, MS.w s = wd := ⟨_, rfl⟩
  rw [hwd] at y2
  simp only [W6, List.mem_cons, List.not_mem_nil, or_false] at hx
  rcases hx with e | e | e | e | e | e
  · subst e
    rw [mCarry_0] at fn
    obtain ⟨d, n, f, hz, r1, r2, r3, r4⟩ : WordR X.G (mput X.G h0 ad s) wd "add" := y2 s
    refine g_aload_n ok dX8_carries_0 rfl ?_
    refine m_get ok hA 12 q2247 (by decide) dX8_carries_1 (v := .ref wd) (by rw [← hwd]; rfl) ?_
    refine g_astore_n ok dX8_carries_4 (ls1 := [some (.ref (ad 20)), some (.ref wd), none]) (dl rfl) rfl ?_
    refine g_iconst ok (v := -1) dX8_carries_5 rfl ?_
    refine g_istore_n ok dX8_carries_6 (ls1 := [some (.ref (ad 20)), some (.ref wd), some (.int (-1))]) (dl rfl) rfl ?_
    refine g_aload_n ok dX8_carries_7 rfl ?_
    refine g_callV ok q2670 q2050 q2051 q73 q2052 (Recv.ob ok gc_J5 r1) dX8_carries_8 (s_hashK X.l X.G _ wd d _ hz r1 (by decide +kernel)) (nm_ (by decide : nmb _ 0 = true)) (dl rfl) (dk rfl) rfl rfl (dk rfl) (by omega) (kV ?_) xV
    rw [show thash "add" = 96417 from by decide +kernel]
    refine g_lookup ok (tgt := 60) (off := 49) dX8_carries_11 (by decide) (by decide) (by decide) ?_
    refine g_aload_n ok dX8_carries_60 rfl ?_
    refine g_ldcSw ok (tx := "add") (by decide) dX8_carries_61 ?_
    refine g_callV ok q2672 q1822 q2744 q73 q1823 (Recv.ob ok gc_J5 r1) dX8_carries_64 (s_equals X.l X.G _ wd d n f ⟨⟨_, _, r1⟩, r2, r3⟩ (X.G.ga ("L:" ++ "add")) (X.G.ga ("V:" ++ "add")) 3 (tch "add") (strk ok.tab "add" 3 (by decide) (by decide +kernel) _)) (nm_ (by decide : nmb _ 1 = true)) (dl rfl) (dk rfl) rfl rfl (dk rfl) (by omega) (kV ?_) xV
    rw [show eqS n f 3 (tch "add") = true from r4, show bI true = 1 from rfl]
    refine g_if_eq ok (tgt := 131) dX8_carries_67 (by decide) (fun c_ => absurd c_ (fun e_ => by have := (nI_eq (a := 1) (b := 0) (by omega) (by omega)).mp e_; omega)) (fun _ => ?_)
    refine g_iconst ok (v := 0) dX8_carries_70 rfl ?_
    refine g_istore_n ok dX8_carries_71 (ls1 := [some (.ref (ad 20)), some (.ref wd), some (.int 0)]) (dl rfl) rfl ?_
    refine g_goto ok dX8_carries_72 (tgt := 131) (by decide) ?_
    refine g_iload_n ok dX8_carries_131 rfl ?_
    refine g_tableIn ok (tgt := 168) (off := 36) dX8_carries_132 (by decide) (by decide) rfl (by decide) ?_
    refine g_aload_n ok dX8_carries_168 rfl ?_
    refine g_aload_n ok dX8_carries_169 rfl ?_
    refine m_get ok hA 13 q2248 (by decide) dX8_carries_170 (v := .ref (ad 13)) rfl ?_
    refine g_iconst ok (v := 0) dX8_carries_173 rfl ?_
    refine m_ald ok hA 13 0 (v := (MS.A s 13 0)) (by decide) dX8_carries_174 rfl (by decide) rfl ?_
    refine g_aload_n ok dX8_carries_175 rfl ?_
    refine m_get ok hA 13 q2248 (by decide) dX8_carries_176 (v := .ref (ad 13)) rfl ?_
    refine g_iconst ok (v := 1) dX8_carries_179 rfl ?_
    refine m_ald ok hA 13 1 (v := (MS.A s 13 1)) (by decide) dX8_carries_180 rfl (by decide) rfl ?_
    refine g_aload_n ok dX8_carries_181 rfl ?_
    refine m_get ok hA 13 q2248 (by decide) dX8_carries_182 (v := .ref (ad 13)) rfl ?_
    refine g_iconst ok (v := 2) dX8_carries_185 rfl ?_
    refine m_ald ok hA 13 2 (v := (MS.A s 13 2)) (by decide) dX8_carries_186 rfl (by decide) rfl ?_
    refine g_callV ok q2311 q2313 qs24 q75 q2314 (m_recv ok hA) dX8_carries_187 (m_adds X.l X.G hA (h0 := h0) s (MS.A s 13 0) (MS.A s 13 1) (MS.A s 13 2)) (nm_ (by decide : nmb _ 3 = true)) (dl rfl) (dk rfl) rfl rfl (dk rfl) (dk rfl) (kV ?_) xV
    exact g_iret ok fn rfl dX8_carries_190 (pv_i rfl rfl) (dk rfl)
  · subst e
    rw [mCarry_1] at fn
    obtain ⟨d, n, f, hz, r1, r2, r3, r4⟩ : WordR X.G (mput X.G h0 ad s) wd "set" := y2 s
    refine g_aload_n ok dX8_carries_0 rfl ?_
    refine m_get ok hA 12 q2247 (by decide) dX8_carries_1 (v := .ref wd) (by rw [← hwd]; rfl) ?_
    refine g_astore_n ok dX8_carries_4 (ls1 := [some (.ref (ad 20)), some (.ref wd), none]) (dl rfl) rfl ?_
    refine g_iconst ok (v := -1) dX8_carries_5 rfl ?_
    refine g_istore_n ok dX8_carries_6 (ls1 := [some (.ref (ad 20)), some (.ref wd), some (.int (-1))]) (dl rfl) rfl ?_
    refine g_aload_n ok dX8_carries_7 rfl ?_
    refine g_callV ok q2670 q2050 q2051 q73 q2052 (Recv.ob ok gc_J5 r1) dX8_carries_8 (s_hashK X.l X.G _ wd d _ hz r1 (by decide +kernel)) (nm_ (by decide : nmb _ 0 = true)) (dl rfl) (dk rfl) rfl rfl (dk rfl) (by omega) (kV ?_) xV
    rw [show thash "set" = 113762 from by decide +kernel]
    refine g_lookup ok (tgt := 75) (off := 64) dX8_carries_11 (by decide) (by decide) (by decide) ?_
    refine g_aload_n ok dX8_carries_75 rfl ?_
    refine g_ldcSw ok (tx := "set") (by decide) dX8_carries_76 ?_
    refine g_callV ok q2672 q1822 q2744 q73 q1823 (Recv.ob ok gc_J5 r1) dX8_carries_79 (s_equals X.l X.G _ wd d n f ⟨⟨_, _, r1⟩, r2, r3⟩ (X.G.ga ("L:" ++ "set")) (X.G.ga ("V:" ++ "set")) 3 (tch "set") (strk ok.tab "set" 3 (by decide) (by decide +kernel) _)) (nm_ (by decide : nmb _ 1 = true)) (dl rfl) (dk rfl) rfl rfl (dk rfl) (by omega) (kV ?_) xV
    rw [show eqS n f 3 (tch "set") = true from r4, show bI true = 1 from rfl]
    refine g_if_eq ok (tgt := 131) dX8_carries_82 (by decide) (fun c_ => absurd c_ (fun e_ => by have := (nI_eq (a := 1) (b := 0) (by omega) (by omega)).mp e_; omega)) (fun _ => ?_)
    refine g_iconst ok (v := 1) dX8_carries_85 rfl ?_
    refine g_istore_n ok dX8_carries_86 (ls1 := [some (.ref (ad 20)), some (.ref wd), some (.int 1)]) (dl rfl) rfl ?_
    refine g_goto ok dX8_carries_87 (tgt := 131) (by decide) ?_
    refine g_iload_n ok dX8_carries_131 rfl ?_
    refine g_tableIn ok (tgt := 191) (off := 59) dX8_carries_132 (by decide) (by decide) rfl (by decide) ?_
    refine g_aload_n ok dX8_carries_191 rfl ?_
    refine g_aload_n ok dX8_carries_192 rfl ?_
    refine m_get ok hA 13 q2248 (by decide) dX8_carries_193 (v := .ref (ad 13)) rfl ?_
    refine g_iconst ok (v := 0) dX8_carries_196 rfl ?_
    refine m_ald ok hA 13 0 (v := (MS.A s 13 0)) (by decide) dX8_carries_197 rfl (by decide) rfl ?_
    refine g_aload_n ok dX8_carries_198 rfl ?_
    refine m_get ok hA 13 q2248 (by decide) dX8_carries_199 (v := .ref (ad 13)) rfl ?_
    refine g_iconst ok (v := 1) dX8_carries_202 rfl ?_
    refine m_ald ok hA 13 1 (v := (MS.A s 13 1)) (by decide) dX8_carries_203 rfl (by decide) rfl ?_
    refine g_aload_n ok dX8_carries_204 rfl ?_
    refine m_get ok hA 13 q2248 (by decide) dX8_carries_205 (v := .ref (ad 13)) rfl ?_
    refine g_iconst ok (v := 2) dX8_carries_208 rfl ?_
    refine m_ald ok hA 13 2 (v := (MS.A s 13 2)) (by decide) dX8_carries_209 rfl (by decide) rfl ?_
    refine g_callV ok q2370 q2372 qs34 q75 q2373 (m_recv ok hA) dX8_carries_210 (m_sets X.l X.G hA (h0 := h0) s (MS.A s 13 0) (MS.A s 13 1) (MS.A s 13 2)) (nm_ (by decide : nmb _ 3 = true)) (dl rfl) (dk rfl) rfl rfl (dk rfl) (dk rfl) (kV ?_) xV
    exact g_iret ok fn rfl dX8_carries_213 (pv_i rfl rfl) (dk rfl)
  · subst e
    rw [mCarry_2] at fn
    obtain ⟨d, n, f, hz, r1, r2, r3, r4⟩ : WordR X.G (mput X.G h0 ad s) wd "turn" := y2 s
    refine g_aload_n ok dX8_carries_0 rfl ?_
    refine m_get ok hA 12 q2247 (by decide) dX8_carries_1 (v := .ref wd) (by rw [← hwd]; rfl) ?_
    refine g_astore_n ok dX8_carries_4 (ls1 := [some (.ref (ad 20)), some (.ref wd), none]) (dl rfl) rfl ?_
    refine g_iconst ok (v := -1) dX8_carries_5 rfl ?_
    refine g_istore_n ok dX8_carries_6 (ls1 := [some (.ref (ad 20)), some (.ref wd), some (.int (-1))]) (dl rfl) rfl ?_
    refine g_aload_n ok dX8_carries_7 rfl ?_
    refine g_callV ok q2670 q2050 q2051 q73 q2052 (Recv.ob ok gc_J5 r1) dX8_carries_8 (s_hashK X.l X.G _ wd d _ hz r1 (by decide +kernel)) (nm_ (by decide : nmb _ 0 = true)) (dl rfl) (dk rfl) rfl rfl (dk rfl) (by omega) (kV ?_) xV
    rw [show thash "turn" = 3571837 from by decide +kernel]
    refine g_lookup ok (tgt := 90) (off := 79) dX8_carries_11 (by decide) (by decide) (by decide) ?_
    refine g_aload_n ok dX8_carries_90 rfl ?_
    refine g_ldcSw ok (tx := "turn") (by decide) dX8_carries_91 ?_
    refine g_callV ok q2672 q1822 q2744 q73 q1823 (Recv.ob ok gc_J5 r1) dX8_carries_94 (s_equals X.l X.G _ wd d n f ⟨⟨_, _, r1⟩, r2, r3⟩ (X.G.ga ("L:" ++ "turn")) (X.G.ga ("V:" ++ "turn")) 4 (tch "turn") (strk ok.tab "turn" 4 (by decide) (by decide +kernel) _)) (nm_ (by decide : nmb _ 1 = true)) (dl rfl) (dk rfl) rfl rfl (dk rfl) (by omega) (kV ?_) xV
    rw [show eqS n f 4 (tch "turn") = true from r4, show bI true = 1 from rfl]
    refine g_if_eq ok (tgt := 131) dX8_carries_97 (by decide) (fun c_ => absurd c_ (fun e_ => by have := (nI_eq (a := 1) (b := 0) (by omega) (by omega)).mp e_; omega)) (fun _ => ?_)
    refine g_iconst ok (v := 2) dX8_carries_100 rfl ?_
    refine g_istore_n ok dX8_carries_101 (ls1 := [some (.ref (ad 20)), some (.ref wd), some (.int 2)]) (dl rfl) rfl ?_
    refine g_goto ok dX8_carries_102 (tgt := 131) (by decide) ?_
    refine g_iload_n ok dX8_carries_131 rfl ?_
    refine g_tableIn ok (tgt := 214) (off := 82) dX8_carries_132 (by decide) (by decide) rfl (by decide) ?_
    refine g_aload_n ok dX8_carries_214 rfl ?_
    refine g_aload_n ok dX8_carries_215 rfl ?_
    refine m_get ok hA 13 q2248 (by decide) dX8_carries_216 (v := .ref (ad 13)) rfl ?_
    refine g_iconst ok (v := 0) dX8_carries_219 rfl ?_
    refine m_ald ok hA 13 0 (v := (MS.A s 13 0)) (by decide) dX8_carries_220 rfl (by decide) rfl ?_
    refine g_aload_n ok dX8_carries_221 rfl ?_
    refine m_get ok hA 13 q2248 (by decide) dX8_carries_222 (v := .ref (ad 13)) rfl ?_
    refine g_iconst ok (v := 1) dX8_carries_225 rfl ?_
    refine m_ald ok hA 13 1 (v := (MS.A s 13 1)) (by decide) dX8_carries_226 rfl (by decide) rfl ?_
    refine g_callV ok q2378 q2380 qs35 q75 q2381 (m_recv ok hA) dX8_carries_227 (m_turns X.l X.G hA (h0 := h0) s (MS.A s 13 0) (MS.A s 13 1)) (nm_ (by decide : nmb _ 2 = true)) (dl rfl) (dk rfl) rfl rfl (dk rfl) (dk rfl) (kV ?_) xV
    exact g_iret ok fn rfl dX8_carries_230 (pv_i rfl rfl) (dk rfl)
  · subst e
    rw [mCarry_3] at fn
    obtain ⟨d, n, f, hz, r1, r2, r3, r4⟩ : WordR X.G (mput X.G h0 ad s) wd "paint" := y2 s
    refine g_aload_n ok dX8_carries_0 rfl ?_
    refine m_get ok hA 12 q2247 (by decide) dX8_carries_1 (v := .ref wd) (by rw [← hwd]; rfl) ?_
    refine g_astore_n ok dX8_carries_4 (ls1 := [some (.ref (ad 20)), some (.ref wd), none]) (dl rfl) rfl ?_
    refine g_iconst ok (v := -1) dX8_carries_5 rfl ?_
    refine g_istore_n ok dX8_carries_6 (ls1 := [some (.ref (ad 20)), some (.ref wd), some (.int (-1))]) (dl rfl) rfl ?_
    refine g_aload_n ok dX8_carries_7 rfl ?_
    refine g_callV ok q2670 q2050 q2051 q73 q2052 (Recv.ob ok gc_J5 r1) dX8_carries_8 (s_hashK X.l X.G _ wd d _ hz r1 (by decide +kernel)) (nm_ (by decide : nmb _ 0 = true)) (dl rfl) (dk rfl) rfl rfl (dk rfl) (by omega) (kV ?_) xV
    rw [show thash "paint" = 106428510 from by decide +kernel]
    refine g_lookup ok (tgt := 105) (off := 94) dX8_carries_11 (by decide) (by decide) (by decide) ?_
    refine g_aload_n ok dX8_carries_105 rfl ?_
    refine g_ldcS ok (tx := "paint") (by decide) dX8_carries_106 ?_
    refine g_callV ok q2672 q1822 q2744 q73 q1823 (Recv.ob ok gc_J5 r1) dX8_carries_108 (s_equals X.l X.G _ wd d n f ⟨⟨_, _, r1⟩, r2, r3⟩ (X.G.ga ("L:" ++ "paint")) (X.G.ga ("V:" ++ "paint")) 5 (tch "paint") (strk ok.tab "paint" 5 (by decide) (by decide +kernel) _)) (nm_ (by decide : nmb _ 1 = true)) (dl rfl) (dk rfl) rfl rfl (dk rfl) (by omega) (kV ?_) xV
    rw [show eqS n f 5 (tch "paint") = true from r4, show bI true = 1 from rfl]
    refine g_if_eq ok (tgt := 131) dX8_carries_111 (by decide) (fun c_ => absurd c_ (fun e_ => by have := (nI_eq (a := 1) (b := 0) (by omega) (by omega)).mp e_; omega)) (fun _ => ?_)
    refine g_iconst ok (v := 3) dX8_carries_114 rfl ?_
    refine g_istore_n ok dX8_carries_115 (ls1 := [some (.ref (ad 20)), some (.ref wd), some (.int 3)]) (dl rfl) rfl ?_
    refine g_goto ok dX8_carries_116 (tgt := 131) (by decide) ?_
    refine g_iload_n ok dX8_carries_131 rfl ?_
    refine g_tableIn ok (tgt := 231) (off := 99) dX8_carries_132 (by decide) (by decide) rfl (by decide) ?_
    refine g_aload_n ok dX8_carries_231 rfl ?_
    refine g_aload_n ok dX8_carries_232 rfl ?_
    refine m_get ok hA 13 q2248 (by decide) dX8_carries_233 (v := .ref (ad 13)) rfl ?_
    refine g_iconst ok (v := 0) dX8_carries_236 rfl ?_
    refine m_ald ok hA 13 0 (v := (MS.A s 13 0)) (by decide) dX8_carries_237 rfl (by decide) rfl ?_
    refine g_aload_n ok dX8_carries_238 rfl ?_
    refine m_get ok hA 13 q2248 (by decide) dX8_carries_239 (v := .ref (ad 13)) rfl ?_
    refine g_iconst ok (v := 1) dX8_carries_242 rfl ?_
    refine m_ald ok hA 13 1 (v := (MS.A s 13 1)) (by decide) dX8_carries_243 rfl (by decide) rfl ?_
    refine g_aload_n ok dX8_carries_244 rfl ?_
    refine m_get ok hA 13 q2248 (by decide) dX8_carries_245 (v := .ref (ad 13)) rfl ?_
    refine g_iconst ok (v := 2) dX8_carries_248 rfl ?_
    refine m_ald ok hA 13 2 (v := (MS.A s 13 2)) (by decide) dX8_carries_249 rfl (by decide) rfl ?_
    refine g_callV ok q2386 q2388 qs36 q75 q2389 (m_recv ok hA) dX8_carries_250 (m_paints X.l X.G hA (h0 := h0) s (MS.A s 13 0) (MS.A s 13 1) (MS.A s 13 2)) (nm_ (by decide : nmb _ 3 = true)) (dl rfl) (dk rfl) rfl rfl (dk rfl) (dk rfl) (kV ?_) xV
    exact g_iret ok fn rfl dX8_carries_253 (pv_i rfl rfl) (dk rfl)
  · subst e
    rw [mCarry_4] at fn
    obtain ⟨d, n, f, hz, r1, r2, r3, r4⟩ : WordR X.G (mput X.G h0 ad s) wd "tick" := y2 s
    refine g_aload_n ok dX8_carries_0 rfl ?_
    refine m_get ok hA 12 q2247 (by decide) dX8_carries_1 (v := .ref wd) (by rw [← hwd]; rfl) ?_
    refine g_astore_n ok dX8_carries_4 (ls1 := [some (.ref (ad 20)), some (.ref wd), none]) (dl rfl) rfl ?_
    refine g_iconst ok (v := -1) dX8_carries_5 rfl ?_
    refine g_istore_n ok dX8_carries_6 (ls1 := [some (.ref (ad 20)), some (.ref wd), some (.int (-1))]) (dl rfl) rfl ?_
    refine g_aload_n ok dX8_carries_7 rfl ?_
    refine g_callV ok q2670 q2050 q2051 q73 q2052 (Recv.ob ok gc_J5 r1) dX8_carries_8 (s_hashK X.l X.G _ wd d _ hz r1 (by decide +kernel)) (nm_ (by decide : nmb _ 0 = true)) (dl rfl) (dk rfl) rfl rfl (dk rfl) (by omega) (kV ?_) xV
    rw [show thash "tick" = 3559837 from by decide +kernel]
    refine g_lookup ok (tgt := 119) (off := 108) dX8_carries_11 (by decide) (by decide) (by decide) ?_
    refine g_aload_n ok dX8_carries_119 rfl ?_
    refine g_ldcSw ok (tx := "tick") (by decide) dX8_carries_120 ?_
    refine g_callV ok q2672 q1822 q2744 q73 q1823 (Recv.ob ok gc_J5 r1) dX8_carries_123 (s_equals X.l X.G _ wd d n f ⟨⟨_, _, r1⟩, r2, r3⟩ (X.G.ga ("L:" ++ "tick")) (X.G.ga ("V:" ++ "tick")) 4 (tch "tick") (strk ok.tab "tick" 4 (by decide) (by decide +kernel) _)) (nm_ (by decide : nmb _ 1 = true)) (dl rfl) (dk rfl) rfl rfl (dk rfl) (by omega) (kV ?_) xV
    rw [show eqS n f 4 (tch "tick") = true from r4, show bI true = 1 from rfl]
    refine g_if_eq ok (tgt := 131) dX8_carries_126 (by decide) (fun c_ => absurd c_ (fun e_ => by have := (nI_eq (a := 1) (b := 0) (by omega) (by omega)).mp e_; omega)) (fun _ => ?_)
    refine g_iconst ok (v := 4) dX8_carries_129 rfl ?_
    refine g_istore_n ok dX8_carries_130 (ls1 := [some (.ref (ad 20)), some (.ref wd), some (.int 4)]) (dl rfl) rfl ?_
    refine g_iload_n ok dX8_carries_131 rfl ?_
    refine g_tableIn ok (tgt := 254) (off := 122) dX8_carries_132 (by decide) (by decide) rfl (by decide) ?_
    refine g_aload_n ok dX8_carries_254 rfl ?_
    refine g_aload_n ok dX8_carries_255 rfl ?_
    refine m_get ok hA 13 q2248 (by decide) dX8_carries_256 (v := .ref (ad 13)) rfl ?_
    refine g_iconst ok (v := 0) dX8_carries_259 rfl ?_
    refine m_ald ok hA 13 0 (v := (MS.A s 13 0)) (by decide) dX8_carries_260 rfl (by decide) rfl ?_
    refine g_callV ok q2425 q2427 qs41 q75 q2428 (m_recv ok hA) dX8_carries_261 (m_ticks X.l X.G hA (h0 := h0) s (MS.A s 13 0) y0) (nm_ (by decide : nmb _ 1 = true)) (dl rfl) (dk rfl) rfl rfl (dk rfl) (dk rfl) (kV ?_) xV
    exact g_iret ok fn rfl dX8_carries_264 (pv_i rfl rfl) (dk rfl)
  · subst e
    rw [mCarry_5] at fn
    obtain ⟨d, n, f, hz, r1, r2, r3, r4⟩ : WordR X.G (mput X.G h0 ad s) wd "keep" := y2 s
    refine g_aload_n ok dX8_carries_0 rfl ?_
    refine m_get ok hA 12 q2247 (by decide) dX8_carries_1 (v := .ref wd) (by rw [← hwd]; rfl) ?_
    refine g_astore_n ok dX8_carries_4 (ls1 := [some (.ref (ad 20)), some (.ref wd), none]) (dl rfl) rfl ?_
    refine g_iconst ok (v := -1) dX8_carries_5 rfl ?_
    refine g_istore_n ok dX8_carries_6 (ls1 := [some (.ref (ad 20)), some (.ref wd), some (.int (-1))]) (dl rfl) rfl ?_
    refine g_aload_n ok dX8_carries_7 rfl ?_
    refine g_callV ok q2670 q2050 q2051 q73 q2052 (Recv.ob ok gc_J5 r1) dX8_carries_8 (s_hashK X.l X.G _ wd d _ hz r1 (by decide +kernel)) (nm_ (by decide : nmb _ 0 = true)) (dl rfl) (dk rfl) rfl rfl (dk rfl) (by omega) (kV ?_) xV
    rw [show thash "keep" = 3287941 from by decide +kernel]
    refine g_lookup ok (tgt := 131) (off := 120) dX8_carries_11 (by decide) (by decide) (by decide) ?_
    refine g_iload_n ok dX8_carries_131 rfl ?_
    refine g_tableOut ok (tgt := 265) dX8_carries_132 (by decide) (by decide) ?_
    refine g_aload_n ok dX8_carries_265 rfl ?_
    refine g_callV ok q2517 q2519 qs47 q75 q2520 (m_recv ok hA) dX8_carries_266 (m_keepsVersion X.l X.G hA (h0 := h0) s y1) (nm_ (by decide : nmb _ 0 = true)) (dl rfl) (dk rfl) rfl rfl (dk rfl) (dk rfl) (kV ?_) xV
    exact g_iret ok fn rfl dX8_carries_269 (pv_i rfl rfl) (dk rfl)
