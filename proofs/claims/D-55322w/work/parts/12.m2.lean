/-! THE MODEL: what its methods compute, 2 -/
set_option maxRecDepth 100000
abbrev cX8_does : ByteArray := prog_19_method_8_code
def yX8_does : MethodName := ⟨RX8, "does", "(I)I"⟩
def dkwX8_does_0 : List UInt8 := [42, 27, 181, 0, 51, 3, 172]
abbrev dktX8_does_0 : List UInt8 := dkwX8_does_0 ++ []
theorem dksX8_does_0 : cX8_does.data.toList.drop 0 = dktX8_does_0 := by decide +kernel
theorem dX8_does_0 : decode cX8_does 0 = .ok (.aload_n 0, 1) := dk_42 (dk_at dksX8_does_0 0 rfl rfl)
theorem dX8_does_1 : decode cX8_does 1 = .ok (.iload_n 1, 1) := dk_27 (dk_at dksX8_does_0 1 rfl rfl)
theorem dX8_does_2 : decode cX8_does 2 = .ok (.putfield 51, 3) := dk_181 0 51 (dk_at dksX8_does_0 2 rfl rfl)
theorem dX8_does_5 : decode cX8_does 5 = .ok (.iconst 0, 1) := dk_3 (dk_at dksX8_does_0 5 rfl rfl)
theorem dX8_does_6 : decode cX8_does 6 = .ok (.ireturn, 1) := dk_172 (dk_at dksX8_does_0 6 rfl rfl)
abbrev cX8_refuses : ByteArray := prog_19_method_10_code
def yX8_refuses : MethodName := ⟨RX8, "refuses", "(II)I"⟩
def dkwX8_refuses_0 : List UInt8 := [42, 27, 181, 0, 61, 42, 28, 181, 0, 64, 5, 172]
abbrev dktX8_refuses_0 : List UInt8 := dkwX8_refuses_0 ++ []
theorem dksX8_refuses_0 : cX8_refuses.data.toList.drop 0 = dktX8_refuses_0 := by decide +kernel
theorem dX8_refuses_0 : decode cX8_refuses 0 = .ok (.aload_n 0, 1) := dk_42 (dk_at dksX8_refuses_0 0 rfl rfl)
theorem dX8_refuses_1 : decode cX8_refuses 1 = .ok (.iload_n 1, 1) := dk_27 (dk_at dksX8_refuses_0 1 rfl rfl)
theorem dX8_refuses_2 : decode cX8_refuses 2 = .ok (.putfield 61, 3) := dk_181 0 61 (dk_at dksX8_refuses_0 2 rfl rfl)
theorem dX8_refuses_5 : decode cX8_refuses 5 = .ok (.aload_n 0, 1) := dk_42 (dk_at dksX8_refuses_0 5 rfl rfl)
theorem dX8_refuses_6 : decode cX8_refuses 6 = .ok (.iload_n 2, 1) := dk_28 (dk_at dksX8_refuses_0 6 rfl rfl)
theorem dX8_refuses_7 : decode cX8_refuses 7 = .ok (.putfield 64, 3) := dk_181 0 64 (dk_at dksX8_refuses_0 7 rfl rfl)
theorem dX8_refuses_10 : decode cX8_refuses 10 = .ok (.iconst 2, 1) := dk_5 (dk_at dksX8_refuses_0 10 rfl rfl)
theorem dX8_refuses_11 : decode cX8_refuses 11 = .ok (.ireturn, 1) := dk_172 (dk_at dksX8_refuses_0 11 rfl rfl)
abbrev cX8_isCell : ByteArray := prog_19_method_11_code
def yX8_isCell : MethodName := ⟨RX8, "isCell", "(I)Z"⟩
def dkwX8_isCell_0 : List UInt8 := [26, 3, 16, 31, 184, 0, 67, 172]
abbrev dktX8_isCell_0 : List UInt8 := dkwX8_isCell_0 ++ []
theorem dksX8_isCell_0 : cX8_isCell.data.toList.drop 0 = dktX8_isCell_0 := by decide +kernel
theorem dX8_isCell_0 : decode cX8_isCell 0 = .ok (.iload_n 0, 1) := dk_26 (dk_at dksX8_isCell_0 0 rfl rfl)
theorem dX8_isCell_1 : decode cX8_isCell 1 = .ok (.iconst 0, 1) := dk_3 (dk_at dksX8_isCell_0 1 rfl rfl)
theorem dX8_isCell_2 : decode cX8_isCell 2 = .ok (.bipush 31, 2) := dk_16 31 (dk_at dksX8_isCell_0 2 rfl rfl)
theorem dX8_isCell_4 : decode cX8_isCell 4 = .ok (.invokestatic 67, 3) := dk_184 0 67 (dk_at dksX8_isCell_0 4 rfl rfl)
theorem dX8_isCell_7 : decode cX8_isCell 7 = .ok (.ireturn, 1) := dk_172 (dk_at dksX8_isCell_0 7 rfl rfl)
abbrev cX8_isSpan : ByteArray := prog_19_method_12_code
def yX8_isSpan : MethodName := ⟨RX8, "isSpan", "(II)Z"⟩
def dkwX8_isSpan_1 : List UInt8 := [172]
abbrev dktX8_isSpan_1 : List UInt8 := dkwX8_isSpan_1 ++ []
def dkwX8_isSpan_0 : List UInt8 := [26, 184, 0, 71, 153, 0, 19, 27, 184, 0, 71, 153, 0, 12, 26, 27, 163, 0, 7, 4, 167, 0, 4, 3]
abbrev dktX8_isSpan_0 : List UInt8 := dkwX8_isSpan_0 ++ dktX8_isSpan_1
theorem dksX8_isSpan_0 : cX8_isSpan.data.toList.drop 0 = dktX8_isSpan_0 := by decide +kernel
theorem dksX8_isSpan_1 : cX8_isSpan.data.toList.drop 24 = dktX8_isSpan_1 := dk_seg dksX8_isSpan_0 24 rfl rfl
theorem dX8_isSpan_0 : decode cX8_isSpan 0 = .ok (.iload_n 0, 1) := dk_26 (dk_at dksX8_isSpan_0 0 rfl rfl)
theorem dX8_isSpan_1 : decode cX8_isSpan 1 = .ok (.invokestatic 71, 3) := dk_184 0 71 (dk_at dksX8_isSpan_0 1 rfl rfl)
theorem dX8_isSpan_4 : decode cX8_isSpan 4 = .ok (.ifCond .eq 19, 3) := dk_153 0 19 (dk_at dksX8_isSpan_0 4 rfl rfl)
theorem dX8_isSpan_7 : decode cX8_isSpan 7 = .ok (.iload_n 1, 1) := dk_27 (dk_at dksX8_isSpan_0 7 rfl rfl)
theorem dX8_isSpan_8 : decode cX8_isSpan 8 = .ok (.invokestatic 71, 3) := dk_184 0 71 (dk_at dksX8_isSpan_0 8 rfl rfl)
theorem dX8_isSpan_11 : decode cX8_isSpan 11 = .ok (.ifCond .eq 12, 3) := dk_153 0 12 (dk_at dksX8_isSpan_0 11 rfl rfl)
theorem dX8_isSpan_14 : decode cX8_isSpan 14 = .ok (.iload_n 0, 1) := dk_26 (dk_at dksX8_isSpan_0 14 rfl rfl)
theorem dX8_isSpan_15 : decode cX8_isSpan 15 = .ok (.iload_n 1, 1) := dk_27 (dk_at dksX8_isSpan_0 15 rfl rfl)
theorem dX8_isSpan_16 : decode cX8_isSpan 16 = .ok (.if_icmp .gt 7, 3) := dk_163 0 7 (dk_at dksX8_isSpan_0 16 rfl rfl)
theorem dX8_isSpan_19 : decode cX8_isSpan 19 = .ok (.iconst 1, 1) := dk_4 (dk_at dksX8_isSpan_0 19 rfl rfl)
theorem dX8_isSpan_20 : decode cX8_isSpan 20 = .ok (.goto 4, 3) := dk_167 0 4 (dk_at dksX8_isSpan_0 20 rfl rfl)
theorem dX8_isSpan_23 : decode cX8_isSpan 23 = .ok (.iconst 0, 1) := dk_3 (dk_at dksX8_isSpan_0 23 rfl rfl)
theorem dX8_isSpan_24 : decode cX8_isSpan 24 = .ok (.ireturn, 1) := dk_172 (dk_at dksX8_isSpan_1 0 rfl rfl)
abbrev cX8_isColour : ByteArray := prog_19_method_13_code
def yX8_isColour : MethodName := ⟨RX8, "isColour", "(I)Z"⟩
def dkwX8_isColour_0 : List UInt8 := [26, 3, 6, 184, 0, 67, 172]
abbrev dktX8_isColour_0 : List UInt8 := dkwX8_isColour_0 ++ []
theorem dksX8_isColour_0 : cX8_isColour.data.toList.drop 0 = dktX8_isColour_0 := by decide +kernel
theorem dX8_isColour_0 : decode cX8_isColour 0 = .ok (.iload_n 0, 1) := dk_26 (dk_at dksX8_isColour_0 0 rfl rfl)
theorem dX8_isColour_1 : decode cX8_isColour 1 = .ok (.iconst 0, 1) := dk_3 (dk_at dksX8_isColour_0 1 rfl rfl)
theorem dX8_isColour_2 : decode cX8_isColour 2 = .ok (.iconst 3, 1) := dk_6 (dk_at dksX8_isColour_0 2 rfl rfl)
theorem dX8_isColour_3 : decode cX8_isColour 3 = .ok (.invokestatic 67, 3) := dk_184 0 67 (dk_at dksX8_isColour_0 3 rfl rfl)
theorem dX8_isColour_6 : decode cX8_isColour 6 = .ok (.ireturn, 1) := dk_172 (dk_at dksX8_isColour_0 6 rfl rfl)
abbrev cX8_isNumber : ByteArray := prog_19_method_20_code
def yX8_isNumber : MethodName := ⟨RX8, "isNumber", "(II)Z"⟩
def dkwX8_isNumber_1 : List UInt8 := [17, 3, 231, 184, 0, 67, 167, 0, 12, 27, 154, 0, 7, 4, 167, 0, 4, 3, 172]
abbrev dktX8_isNumber_1 : List UInt8 := dkwX8_isNumber_1 ++ []
def dkwX8_isNumber_0 : List UInt8 := [26, 154, 0, 14, 27, 16, 157, 16, 99, 184, 0, 67, 167, 0, 30, 26, 4, 160, 0, 16, 27, 17, 252, 25]
abbrev dktX8_isNumber_0 : List UInt8 := dkwX8_isNumber_0 ++ dktX8_isNumber_1
theorem dksX8_isNumber_0 : cX8_isNumber.data.toList.drop 0 = dktX8_isNumber_0 := by decide +kernel
theorem dksX8_isNumber_1 : cX8_isNumber.data.toList.drop 24 = dktX8_isNumber_1 := dk_seg dksX8_isNumber_0 24 rfl rfl
theorem dX8_isNumber_0 : decode cX8_isNumber 0 = .ok (.iload_n 0, 1) := dk_26 (dk_at dksX8_isNumber_0 0 rfl rfl)
theorem dX8_isNumber_1 : decode cX8_isNumber 1 = .ok (.ifCond .ne 14, 3) := dk_154 0 14 (dk_at dksX8_isNumber_0 1 rfl rfl)
theorem dX8_isNumber_4 : decode cX8_isNumber 4 = .ok (.iload_n 1, 1) := dk_27 (dk_at dksX8_isNumber_0 4 rfl rfl)
theorem dX8_isNumber_5 : decode cX8_isNumber 5 = .ok (.bipush (-99), 2) := dk_16 157 (dk_at dksX8_isNumber_0 5 rfl rfl)
theorem dX8_isNumber_7 : decode cX8_isNumber 7 = .ok (.bipush 99, 2) := dk_16 99 (dk_at dksX8_isNumber_0 7 rfl rfl)
theorem dX8_isNumber_9 : decode cX8_isNumber 9 = .ok (.invokestatic 67, 3) := dk_184 0 67 (dk_at dksX8_isNumber_0 9 rfl rfl)
theorem dX8_isNumber_12 : decode cX8_isNumber 12 = .ok (.goto 30, 3) := dk_167 0 30 (dk_at dksX8_isNumber_0 12 rfl rfl)
theorem dX8_isNumber_15 : decode cX8_isNumber 15 = .ok (.iload_n 0, 1) := dk_26 (dk_at dksX8_isNumber_0 15 rfl rfl)
theorem dX8_isNumber_16 : decode cX8_isNumber 16 = .ok (.iconst 1, 1) := dk_4 (dk_at dksX8_isNumber_0 16 rfl rfl)
theorem dX8_isNumber_17 : decode cX8_isNumber 17 = .ok (.if_icmp .ne 16, 3) := dk_160 0 16 (dk_at dksX8_isNumber_0 17 rfl rfl)
theorem dX8_isNumber_20 : decode cX8_isNumber 20 = .ok (.iload_n 1, 1) := dk_27 (dk_at dksX8_isNumber_0 20 rfl rfl)
theorem dX8_isNumber_21 : decode cX8_isNumber 21 = .ok (.sipush (-999), 3) := dk_17 252 25 (dk_at dksX8_isNumber_0 21 rfl rfl)
theorem dX8_isNumber_24 : decode cX8_isNumber 24 = .ok (.sipush 999, 3) := dk_17 3 231 (dk_at dksX8_isNumber_1 0 rfl rfl)
theorem dX8_isNumber_27 : decode cX8_isNumber 27 = .ok (.invokestatic 67, 3) := dk_184 0 67 (dk_at dksX8_isNumber_1 3 rfl rfl)
theorem dX8_isNumber_30 : decode cX8_isNumber 30 = .ok (.goto 12, 3) := dk_167 0 12 (dk_at dksX8_isNumber_1 6 rfl rfl)
theorem dX8_isNumber_33 : decode cX8_isNumber 33 = .ok (.iload_n 1, 1) := dk_27 (dk_at dksX8_isNumber_1 9 rfl rfl)
theorem dX8_isNumber_34 : decode cX8_isNumber 34 = .ok (.ifCond .ne 7, 3) := dk_154 0 7 (dk_at dksX8_isNumber_1 10 rfl rfl)
theorem dX8_isNumber_37 : decode cX8_isNumber 37 = .ok (.iconst 1, 1) := dk_4 (dk_at dksX8_isNumber_1 13 rfl rfl)
theorem dX8_isNumber_38 : decode cX8_isNumber 38 = .ok (.goto 4, 3) := dk_167 0 4 (dk_at dksX8_isNumber_1 14 rfl rfl)
theorem dX8_isNumber_41 : decode cX8_isNumber 41 = .ok (.iconst 0, 1) := dk_3 (dk_at dksX8_isNumber_1 17 rfl rfl)
theorem dX8_isNumber_42 : decode cX8_isNumber 42 = .ok (.ireturn, 1) := dk_172 (dk_at dksX8_isNumber_1 18 rfl rfl)
abbrev cX8_number : ByteArray := prog_19_method_14_code
def yX8_number : MethodName := ⟨RX8, "number", "(I)I"⟩
def dkwX8_number_0 : List UInt8 := [42, 180, 0, 9, 16, 8, 27, 96, 46, 172]
abbrev dktX8_number_0 : List UInt8 := dkwX8_number_0 ++ []
theorem dksX8_number_0 : cX8_number.data.toList.drop 0 = dktX8_number_0 := by decide +kernel
theorem dX8_number_0 : decode cX8_number 0 = .ok (.aload_n 0, 1) := dk_42 (dk_at dksX8_number_0 0 rfl rfl)
theorem dX8_number_1 : decode cX8_number 1 = .ok (.getfield 9, 3) := dk_180 0 9 (dk_at dksX8_number_0 1 rfl rfl)
theorem dX8_number_4 : decode cX8_number 4 = .ok (.bipush 8, 2) := dk_16 8 (dk_at dksX8_number_0 4 rfl rfl)
theorem dX8_number_6 : decode cX8_number 6 = .ok (.iload_n 1, 1) := dk_27 (dk_at dksX8_number_0 6 rfl rfl)
theorem dX8_number_7 : decode cX8_number 7 = .ok (.iadd, 1) := dk_96 (dk_at dksX8_number_0 7 rfl rfl)
theorem dX8_number_8 : decode cX8_number 8 = .ok (.iaload, 1) := dk_46 (dk_at dksX8_number_0 8 rfl rfl)
theorem dX8_number_9 : decode cX8_number 9 = .ok (.ireturn, 1) := dk_172 (dk_at dksX8_number_0 9 rfl rfl)
abbrev cX8_colour : ByteArray := prog_19_method_15_code
def yX8_colour : MethodName := ⟨RX8, "colour", "(I)I"⟩
def dkwX8_colour_0 : List UInt8 := [42, 180, 0, 9, 16, 40, 27, 96, 46, 172]
abbrev dktX8_colour_0 : List UInt8 := dkwX8_colour_0 ++ []
theorem dksX8_colour_0 : cX8_colour.data.toList.drop 0 = dktX8_colour_0 := by decide +kernel
theorem dX8_colour_0 : decode cX8_colour 0 = .ok (.aload_n 0, 1) := dk_42 (dk_at dksX8_colour_0 0 rfl rfl)
theorem dX8_colour_1 : decode cX8_colour 1 = .ok (.getfield 9, 3) := dk_180 0 9 (dk_at dksX8_colour_0 1 rfl rfl)
theorem dX8_colour_4 : decode cX8_colour 4 = .ok (.bipush 40, 2) := dk_16 40 (dk_at dksX8_colour_0 4 rfl rfl)
theorem dX8_colour_6 : decode cX8_colour 6 = .ok (.iload_n 1, 1) := dk_27 (dk_at dksX8_colour_0 6 rfl rfl)
theorem dX8_colour_7 : decode cX8_colour 7 = .ok (.iadd, 1) := dk_96 (dk_at dksX8_colour_0 7 rfl rfl)
theorem dX8_colour_8 : decode cX8_colour 8 = .ok (.iaload, 1) := dk_46 (dk_at dksX8_colour_0 8 rfl rfl)
theorem dX8_colour_9 : decode cX8_colour 9 = .ok (.ireturn, 1) := dk_172 (dk_at dksX8_colour_0 9 rfl rfl)
abbrev cX8_by : ByteArray := prog_19_method_17_code
def yX8_by : MethodName := ⟨RX8, "by", "(III)I"⟩
def dkwX8_by_0 : List UInt8 := [26, 154, 0, 9, 27, 28, 96, 167, 0, 14, 26, 4, 160, 0, 7, 28, 167, 0, 5, 27, 116, 172]
abbrev dktX8_by_0 : List UInt8 := dkwX8_by_0 ++ []
theorem dksX8_by_0 : cX8_by.data.toList.drop 0 = dktX8_by_0 := by decide +kernel
theorem dX8_by_0 : decode cX8_by 0 = .ok (.iload_n 0, 1) := dk_26 (dk_at dksX8_by_0 0 rfl rfl)
theorem dX8_by_1 : decode cX8_by 1 = .ok (.ifCond .ne 9, 3) := dk_154 0 9 (dk_at dksX8_by_0 1 rfl rfl)
theorem dX8_by_4 : decode cX8_by 4 = .ok (.iload_n 1, 1) := dk_27 (dk_at dksX8_by_0 4 rfl rfl)
theorem dX8_by_5 : decode cX8_by 5 = .ok (.iload_n 2, 1) := dk_28 (dk_at dksX8_by_0 5 rfl rfl)
theorem dX8_by_6 : decode cX8_by 6 = .ok (.iadd, 1) := dk_96 (dk_at dksX8_by_0 6 rfl rfl)
theorem dX8_by_7 : decode cX8_by 7 = .ok (.goto 14, 3) := dk_167 0 14 (dk_at dksX8_by_0 7 rfl rfl)
theorem dX8_by_10 : decode cX8_by 10 = .ok (.iload_n 0, 1) := dk_26 (dk_at dksX8_by_0 10 rfl rfl)
theorem dX8_by_11 : decode cX8_by 11 = .ok (.iconst 1, 1) := dk_4 (dk_at dksX8_by_0 11 rfl rfl)
theorem dX8_by_12 : decode cX8_by 12 = .ok (.if_icmp .ne 7, 3) := dk_160 0 7 (dk_at dksX8_by_0 12 rfl rfl)
theorem dX8_by_15 : decode cX8_by 15 = .ok (.iload_n 2, 1) := dk_28 (dk_at dksX8_by_0 15 rfl rfl)
theorem dX8_by_16 : decode cX8_by 16 = .ok (.goto 5, 3) := dk_167 0 5 (dk_at dksX8_by_0 16 rfl rfl)
theorem dX8_by_19 : decode cX8_by 19 = .ok (.iload_n 1, 1) := dk_27 (dk_at dksX8_by_0 19 rfl rfl)
theorem dX8_by_20 : decode cX8_by 20 = .ok (.ineg, 1) := dk_116 (dk_at dksX8_by_0 20 rfl rfl)
theorem dX8_by_21 : decode cX8_by 21 = .ok (.ireturn, 1) := dk_172 (dk_at dksX8_by_0 21 rfl rfl)
abbrev cX8_sumOfSpan : ByteArray := prog_19_method_16_code
def yX8_sumOfSpan : MethodName := ⟨RX8, "sumOfSpan", "(II)I"⟩
def dkwX8_sumOfSpan_1 : List UInt8 := [167, 255, 238, 29, 172]
abbrev dktX8_sumOfSpan_1 : List UInt8 := dkwX8_sumOfSpan_1 ++ []
def dkwX8_sumOfSpan_0 : List UInt8 := [3, 62, 27, 54, 4, 21, 4, 28, 163, 0, 18, 29, 42, 21, 4, 182, 0, 75, 96, 62, 132, 4, 1]
abbrev dktX8_sumOfSpan_0 : List UInt8 := dkwX8_sumOfSpan_0 ++ dktX8_sumOfSpan_1
theorem dksX8_sumOfSpan_0 : cX8_sumOfSpan.data.toList.drop 0 = dktX8_sumOfSpan_0 := by decide +kernel
theorem dksX8_sumOfSpan_1 : cX8_sumOfSpan.data.toList.drop 23 = dktX8_sumOfSpan_1 := dk_seg dksX8_sumOfSpan_0 23 rfl rfl
theorem dX8_sumOfSpan_0 : decode cX8_sumOfSpan 0 = .ok (.iconst 0, 1) := dk_3 (dk_at dksX8_sumOfSpan_0 0 rfl rfl)
theorem dX8_sumOfSpan_1 : decode cX8_sumOfSpan 1 = .ok (.istore_n 3, 1) := dk_62 (dk_at dksX8_sumOfSpan_0 1 rfl rfl)
theorem dX8_sumOfSpan_2 : decode cX8_sumOfSpan 2 = .ok (.iload_n 1, 1) := dk_27 (dk_at dksX8_sumOfSpan_0 2 rfl rfl)
theorem dX8_sumOfSpan_3 : decode cX8_sumOfSpan 3 = .ok (.istore 4, 2) := dk_54 4 (dk_at dksX8_sumOfSpan_0 3 rfl rfl)
theorem dX8_sumOfSpan_5 : decode cX8_sumOfSpan 5 = .ok (.iload 4, 2) := dk_21 4 (dk_at dksX8_sumOfSpan_0 5 rfl rfl)
theorem dX8_sumOfSpan_7 : decode cX8_sumOfSpan 7 = .ok (.iload_n 2, 1) := dk_28 (dk_at dksX8_sumOfSpan_0 7 rfl rfl)
theorem dX8_sumOfSpan_8 : decode cX8_sumOfSpan 8 = .ok (.if_icmp .gt 18, 3) := dk_163 0 18 (dk_at dksX8_sumOfSpan_0 8 rfl rfl)
theorem dX8_sumOfSpan_11 : decode cX8_sumOfSpan 11 = .ok (.iload_n 3, 1) := dk_29 (dk_at dksX8_sumOfSpan_0 11 rfl rfl)
theorem dX8_sumOfSpan_12 : decode cX8_sumOfSpan 12 = .ok (.aload_n 0, 1) := dk_42 (dk_at dksX8_sumOfSpan_0 12 rfl rfl)
theorem dX8_sumOfSpan_13 : decode cX8_sumOfSpan 13 = .ok (.iload 4, 2) := dk_21 4 (dk_at dksX8_sumOfSpan_0 13 rfl rfl)
theorem dX8_sumOfSpan_15 : decode cX8_sumOfSpan 15 = .ok (.invokevirtual 75, 3) := dk_182 0 75 (dk_at dksX8_sumOfSpan_0 15 rfl rfl)
theorem dX8_sumOfSpan_18 : decode cX8_sumOfSpan 18 = .ok (.iadd, 1) := dk_96 (dk_at dksX8_sumOfSpan_0 18 rfl rfl)
theorem dX8_sumOfSpan_19 : decode cX8_sumOfSpan 19 = .ok (.istore_n 3, 1) := dk_62 (dk_at dksX8_sumOfSpan_0 19 rfl rfl)
theorem dX8_sumOfSpan_20 : decode cX8_sumOfSpan 20 = .ok (.iinc 4 1, 3) := dk_132 4 1 (dk_at dksX8_sumOfSpan_0 20 rfl rfl)
theorem dX8_sumOfSpan_23 : decode cX8_sumOfSpan 23 = .ok (.goto (-18), 3) := dk_167 255 238 (dk_at dksX8_sumOfSpan_1 0 rfl rfl)
theorem dX8_sumOfSpan_26 : decode cX8_sumOfSpan 26 = .ok (.iload_n 3, 1) := dk_29 (dk_at dksX8_sumOfSpan_1 3 rfl rfl)
theorem dX8_sumOfSpan_27 : decode cX8_sumOfSpan 27 = .ok (.ireturn, 1) := dk_172 (dk_at dksX8_sumOfSpan_1 4 rfl rfl)
theorem q2254 : (Jvm.Cond.fieldLink "SpanRulerModel" (51 : Nat) "SpanRulerModel" "answer" "I") ∈ lw_all := lw_g (lw_at lw_m10 34 rfl) rfl
theorem q2250 : (Jvm.Cond.fieldLink "SpanRulerModel" (61 : Nat) "SpanRulerModel" "reason" "I") ∈ lw_all := lw_g (lw_at lw_m10 30 rfl) rfl
theorem q2251 : (Jvm.Cond.fieldLink "SpanRulerModel" (64 : Nat) "SpanRulerModel" "detail" "I") ∈ lw_all := lw_g (lw_at lw_m10 31 rfl) rfl
theorem q2321 : (Jvm.Cond.methodLink "SpanRulerModel" (67 : Nat) ({ cls := "SpanRulerModel", name := "in", desc := "(III)Z" } : Jvm.MethodName)) ∈ lw_all := lw_g (lw_at lw_m10 101 rfl) rfl
theorem q75 : (Jvm.Cond.initialized "SpanRulerModel") ∈ lw_all := lw_g (lw_at lw_m1 15 rfl) rfl
theorem q2323 : (Jvm.Cond.code ({ cls := "SpanRulerModel", name := "in", desc := "(III)Z" } : Jvm.MethodName) prog_19_method_4_code (3 : Nat) (Option.some Jvm.ClassFile.FieldType.boolean)) ∈ lw_all := lw_g (lw_at lw_m10 103 rfl) rfl
theorem q2322 : (Jvm.Cond.static ({ cls := "SpanRulerModel", name := "in", desc := "(III)Z" } : Jvm.MethodName)) ∈ lw_all := lw_g (lw_at lw_m10 102 rfl) rfl
theorem q2318 : (Jvm.Cond.methodLink "SpanRulerModel" (71 : Nat) ({ cls := "SpanRulerModel", name := "isCell", desc := "(I)Z" } : Jvm.MethodName)) ∈ lw_all := lw_g (lw_at lw_m10 98 rfl) rfl
theorem q2320 : (Jvm.Cond.code ({ cls := "SpanRulerModel", name := "isCell", desc := "(I)Z" } : Jvm.MethodName) prog_19_method_11_code (1 : Nat) (Option.some Jvm.ClassFile.FieldType.boolean)) ∈ lw_all := lw_g (lw_at lw_m10 100 rfl) rfl
theorem q2319 : (Jvm.Cond.static ({ cls := "SpanRulerModel", name := "isCell", desc := "(I)Z" } : Jvm.MethodName)) ∈ lw_all := lw_g (lw_at lw_m10 99 rfl) rfl
theorem q2331 : (Jvm.Cond.methodLink "SpanRulerModel" (75 : Nat) ({ cls := "SpanRulerModel", name := "number", desc := "(I)I" } : Jvm.MethodName)) ∈ lw_all := lw_g (lw_at lw_m10 111 rfl) rfl
theorem q2334 : (Jvm.Cond.code ({ cls := "SpanRulerModel", name := "number", desc := "(I)I" } : Jvm.MethodName) prog_19_method_14_code (2 : Nat) (Option.some Jvm.ClassFile.FieldType.int)) ∈ lw_all := lw_g (lw_at lw_m10 114 rfl) rfl
theorem q2333 : (Jvm.Cond.instanceMethod ({ cls := "SpanRulerModel", name := "number", desc := "(I)I" } : Jvm.MethodName)) ∈ lw_all := lw_g (lw_at lw_m10 113 rfl) rfl
theorem m_does (l : Launch) (G : GE) {h0 : AH} {ad : Nat → Nat} (hA : MAd ad) (s : MS) (v : Int32) : GM l G yX8_does (ws_ yX8_does cX8_does 2 (some .int)) 1 [.ref (ad 20), .int v] (mput G h0 ad s) (0) (PV (.int 0) (mput G h0 ad (mI s 19 v))) := by
  refine GM.of (by decide) (dk rfl) ?_
  intro X eL eG eh ok fn
  subst eL; subst eG
  show GW X _ 0 0 [some (.ref (ad 20)), some (.int v)] []
  refine g_aload_n ok dX8_does_0 rfl ?_
  refine g_iload_n ok dX8_does_1 rfl ?_
  refine m_put ok hA 19 q2254 (by decide) dX8_does_2 ⟨rfl, rfl⟩ ?_
  refine g_iconst ok (v := 0) dX8_does_5 rfl ?_
  exact g_iret ok fn rfl dX8_does_6 (pv_i rfl rfl) (dk rfl)
theorem m_refuses (l : Launch) (G : GE) {h0 : AH} {ad : Nat → Nat} (hA : MAd ad) (s : MS) (v : Int32) (x : Int32) : GM l G yX8_refuses (ws_ yX8_refuses cX8_refuses 3 (some .int)) 1 [.ref (ad 20), .int v, .int x] (mput G h0 ad s) (0) (PV (.int 2) (mput G h0 ad (mRef s v x))) := by
  refine GM.of (by decide) (dk rfl) ?_
  intro X eL eG eh ok fn
  subst eL; subst eG
  show GW X _ 0 0 [some (.ref (ad 20)), some (.int v), some (.int x)] []
  refine g_aload_n ok dX8_refuses_0 rfl ?_
  refine g_iload_n ok dX8_refuses_1 rfl ?_
  refine m_put ok hA 15 q2250 (by decide) dX8_refuses_2 ⟨rfl, rfl⟩ ?_
  refine g_aload_n ok dX8_refuses_5 rfl ?_
  refine g_iload_n ok dX8_refuses_6 rfl ?_
  refine m_put ok hA 16 q2251 (by decide) dX8_refuses_7 ⟨rfl, rfl⟩ ?_
  refine g_iconst ok (v := 2) dX8_refuses_10 rfl ?_
  exact g_iret ok fn rfl dX8_refuses_11 (pv_i rfl rfl) (dk rfl)
theorem m_isCell (l : Launch) (G : GE) (h : AH) (c : Int32) : GM l G yX8_isCell (ws_ yX8_isCell cX8_isCell 1 (some .boolean)) 2 [.int c] (h) (0) (PV (.int (bI (isC c))) h) := by
  refine GM.of (by decide) (dk rfl) ?_
  intro X eL eG eh ok fn
  subst eL; subst eG
  show GW X _ 0 0 [some (.int c)] []
  refine g_iload_n ok dX8_isCell_0 rfl ?_
  refine g_iconst ok (v := 0) dX8_isCell_1 rfl ?_
  refine g_bipush ok (v := 31) dX8_isCell_2 rfl ?_
  refine g_callS ok q2321 q2322 q75 q2323 dX8_isCell_4 (m_in X.l X.G _ c 0 31) (nm_ (by decide : nmb _ 3 = true)) (dl rfl) (dk rfl) rfl rfl (dk rfl) (dk rfl) (kV ?_) xV
  exact g_zret ok fn rfl (bI_z _) dX8_isCell_7 (pv_h rfl) (dk rfl)
theorem m_isSpan (l : Launch) (G : GE) (h : AH) (a : Int32) (b : Int32) : GM l G yX8_isSpan (ws_ yX8_isSpan cX8_isSpan 2 (some .boolean)) 3 [.int a, .int b] (h) (0) (PV (.int (bI (isSp a b))) h) := by
  refine GM.of (by decide) (dk rfl) ?_
  intro X eL eG eh ok fn
  subst eL; subst eG
  show GW X _ 0 0 [some (.int a), some (.int b)] []
  refine g_iload_n ok dX8_isSpan_0 rfl ?_
  refine g_callS ok q2318 q2319 q75 q2320 dX8_isSpan_1 (m_isCell X.l X.G _ a) (nm_ (by decide : nmb _ 1 = true)) (dl rfl) (dk rfl) rfl rfl (dk rfl) (dk rfl) (kV ?_) xV
  refine g_if_eq ok (tgt := 23) dX8_isSpan_4 (by decide) (fun c4 => ?_) (fun c4 => ?_)
  · have c4' := bI_e c4
    refine g_iconst ok (v := 0) dX8_isSpan_23 rfl ?_
    exact g_zret ok fn rfl rfl dX8_isSpan_24 (pv_h (by simp [bI, isSp, c4'])) (dk rfl)
  · have c4' := bI_n c4
    refine g_iload_n ok dX8_isSpan_7 rfl ?_
    refine g_callS ok q2318 q2319 q75 q2320 dX8_isSpan_8 (m_isCell X.l X.G _ b) (nm_ (by decide : nmb _ 1 = true)) (dl rfl) (dk rfl) rfl rfl (dk rfl) (dk rfl) (kV ?_) xV
    refine g_if_eq ok (tgt := 23) dX8_isSpan_11 (by decide) (fun c11 => ?_) (fun c11 => ?_)
    · have c11' := bI_e c11
      refine g_iconst ok (v := 0) dX8_isSpan_23 rfl ?_
      exact g_zret ok fn rfl rfl dX8_isSpan_24 (pv_h (by simp [bI, isSp, c4', c11'])) (dk rfl)
    · have c11' := bI_n c11
      refine g_iload_n ok dX8_isSpan_14 rfl ?_
      refine g_iload_n ok dX8_isSpan_15 rfl ?_
      refine g_icmp_gt ok (tgt := 23) dX8_isSpan_16 (by decide) (fun c16 => ?_) (fun c16 => ?_)
      · have c16' := Int32.not_le.mpr c16
        refine g_iconst ok (v := 0) dX8_isSpan_23 rfl ?_
        exact g_zret ok fn rfl rfl dX8_isSpan_24 (pv_h (by simp [bI, isSp, c4', c11', c16, c16'])) (dk rfl)
      · have c16' := Int32.not_lt.mp c16
        refine g_iconst ok (v := 1) dX8_isSpan_19 rfl ?_
        refine g_goto ok dX8_isSpan_20 (tgt := 24) (by decide) ?_
        exact g_zret ok fn rfl rfl dX8_isSpan_24 (pv_h (by simp [bI, isSp, c4', c11', c16, c16'])) (dk rfl)
theorem m_isColour (l : Launch) (G : GE) (h : AH) (c : Int32) : GM l G yX8_isColour (ws_ yX8_isColour cX8_isColour 1 (some .boolean)) 2 [.int c] (h) (0) (PV (.int (bI (isCo c))) h) := by
  refine GM.of (by decide) (dk rfl) ?_
  intro X eL eG eh ok fn
  subst eL; subst eG
  show GW X _ 0 0 [some (.int c)] []
  refine g_iload_n ok dX8_isColour_0 rfl ?_
  refine g_iconst ok (v := 0) dX8_isColour_1 rfl ?_
  refine g_iconst ok (v := 3) dX8_isColour_2 rfl ?_
  refine g_callS ok q2321 q2322 q75 q2323 dX8_isColour_3 (m_in X.l X.G _ c 0 3) (nm_ (by decide : nmb _ 3 = true)) (dl rfl) (dk rfl) rfl rfl (dk rfl) (dk rfl) (kV ?_) xV
  exact g_zret ok fn rfl (bI_z _) dX8_isColour_6 (pv_h rfl) (dk rfl)
theorem m_isNumber (l : Launch) (G : GE) (h : AH) (k : Int32) (x : Int32) : GM l G yX8_isNumber (ws_ yX8_isNumber cX8_isNumber 2 (some .boolean)) 2 [.int k, .int x] (h) (0) (PV (.int (bI (isNu k x))) h) := by
  refine GM.of (by decide) (dk rfl) ?_
  intro X eL eG eh ok fn
  subst eL; subst eG
  show GW X _ 0 0 [some (.int k), some (.int x)] []
  refine g_iload_n ok dX8_isNumber_0 rfl ?_
  refine g_if_ne ok (tgt := 15) dX8_isNumber_1 (by decide) (fun c1 => ?_) (fun c1 => ?_)
  · refine g_iload_n ok dX8_isNumber_15 rfl ?_
    refine g_iconst ok (v := 1) dX8_isNumber_16 rfl ?_
    refine g_icmp_ne ok (tgt := 33) dX8_isNumber_17 (by decide) (fun c17 => ?_) (fun c17 => ?_)
    · refine g_iload_n ok dX8_isNumber_33 rfl ?_
      refine g_if_ne ok (tgt := 41) dX8_isNumber_34 (by decide) (fun c34 => ?_) (fun c34 => ?_)
      · refine g_iconst ok (v := 0) dX8_isNumber_41 rfl ?_
        exact g_zret ok fn rfl rfl dX8_isNumber_42 (pv_h (by simp [bI, isNu, c1, c17, c34])) (dk rfl)
      · refine g_iconst ok (v := 1) dX8_isNumber_37 rfl ?_
        refine g_goto ok dX8_isNumber_38 (tgt := 42) (by decide) ?_
        exact g_zret ok fn rfl rfl dX8_isNumber_42 (pv_h (by simp [bI, isNu, c1, c17, c34])) (dk rfl)
    · refine g_iload_n ok dX8_isNumber_20 rfl ?_
      refine g_sipush ok (v := -999) dX8_isNumber_21 rfl ?_
      refine g_sipush ok (v := 999) dX8_isNumber_24 rfl ?_
      refine g_callS ok q2321 q2322 q75 q2323 dX8_isNumber_27 (m_in X.l X.G _ x (-999) 999) (nm_ (by decide : nmb _ 3 = true)) (dl rfl) (dk rfl) rfl rfl (dk rfl) (dk rfl) (kV ?_) xV
      refine g_goto ok dX8_isNumber_30 (tgt := 42) (by decide) ?_
      exact g_zret ok fn rfl (bI_z _) dX8_isNumber_42 (pv_h (by simp [bI, isNu, c1, c17])) (dk rfl)
  · refine g_iload_n ok dX8_isNumber_4 rfl ?_
    refine g_bipush ok (v := -99) dX8_isNumber_5 rfl ?_
    refine g_bipush ok (v := 99) dX8_isNumber_7 rfl ?_
    refine g_callS ok q2321 q2322 q75 q2323 dX8_isNumber_9 (m_in X.l X.G _ x (-99) 99) (nm_ (by decide : nmb _ 3 = true)) (dl rfl) (dk rfl) rfl rfl (dk rfl) (dk rfl) (kV ?_) xV
    refine g_goto ok dX8_isNumber_12 (tgt := 42) (by decide) ?_
    exact g_zret ok fn rfl (bI_z _) dX8_isNumber_42 (pv_h (by simp [bI, isNu, c1])) (dk rfl)
theorem m_number (l : Launch) (G : GE) {h0 : AH} {ad : Nat → Nat} (hA : MAd ad) (s : MS) (c : Nat) (y0 : c < 434) : GM l G yX8_number (ws_ yX8_number cX8_number 2 (some .int)) 1 [.ref (ad 20), .int (nI c)] (mput G h0 ad s) (0) (PV (.int (MS.A s 0 (8 + c))) (mput G h0 ad s)) := by
  refine GM.of (by decide) (dk rfl) ?_
  intro X eL eG eh ok fn
  subst eL; subst eG
  show GW X _ 0 0 [some (.ref (ad 20)), some (.int (nI c))] []
  refine g_aload_n ok dX8_number_0 rfl ?_
  refine m_get ok hA 0 q2235 (by decide) dX8_number_1 (v := .ref (ad 0)) rfl ?_
  refine g_bipush ok (v := 8) dX8_number_4 rfl ?_
  refine g_iload_n ok dX8_number_6 rfl ?_
  refine g_iaddN ok dX8_number_7 (c := (8 + c)) (a := 8) (b := c) rfl rfl rfl ?_
  refine m_ald ok hA 0 (8 + c) (v := (MS.A s 0 (8 + c))) (by decide) dX8_number_8 rfl (by simp only [mlen]; omega) rfl ?_
  exact g_iret ok fn rfl dX8_number_9 (pv_i rfl rfl) (dk rfl)
theorem m_colour (l : Launch) (G : GE) {h0 : AH} {ad : Nat → Nat} (hA : MAd ad) (s : MS) (c : Nat) (y0 : c < 402) : GM l G yX8_colour (ws_ yX8_colour cX8_colour 2 (some .int)) 1 [.ref (ad 20), .int (nI c)] (mput G h0 ad s) (0) (PV (.int (MS.A s 0 (40 + c))) (mput G h0 ad s)) := by
  refine GM.of (by decide) (dk rfl) ?_
  intro X eL eG eh ok fn
  subst eL; subst eG
  show GW X _ 0 0 [some (.ref (ad 20)), some (.int (nI c))] []
  refine g_aload_n ok dX8_colour_0 rfl ?_
  refine m_get ok hA 0 q2235 (by decide) dX8_colour_1 (v := .ref (ad 0)) rfl ?_
  refine g_bipush ok (v := 40) dX8_colour_4 rfl ?_
  refine g_iload_n ok dX8_colour_6 rfl ?_
  refine g_iaddN ok dX8_colour_7 (c := (40 + c)) (a := 40) (b := c) rfl rfl rfl ?_
  refine m_ald ok hA 0 (40 + c) (v := (MS.A s 0 (40 + c))) (by decide) dX8_colour_8 rfl (by simp only [mlen]; omega) rfl ?_
  exact g_iret ok fn rfl dX8_colour_9 (pv_i rfl rfl) (dk rfl)
theorem m_by (l : Launch) (G : GE) (h : AH) (k : Int32) (v : Int32) (x : Int32) : GM l G yX8_by (ws_ yX8_by cX8_by 3 (some .int)) 1 [.int k, .int v, .int x] (h) (0) (PV (.int (mby k v x)) h) := by
  refine GM.of (by decide) (dk rfl) ?_
  intro X eL eG eh ok fn
  subst eL; subst eG
  show GW X _ 0 0 [some (.int k), some (.int v), some (.int x)] []
  refine g_iload_n ok dX8_by_0 rfl ?_
  refine g_if_ne ok (tgt := 10) dX8_by_1 (by decide) (fun c1 => ?_) (fun c1 => ?_)
  · refine g_iload_n ok dX8_by_10 rfl ?_
    refine g_iconst ok (v := 1) dX8_by_11 rfl ?_
    refine g_icmp_ne ok (tgt := 19) dX8_by_12 (by decide) (fun c12 => ?_) (fun c12 => ?_)
    · refine g_iload_n ok dX8_by_19 rfl ?_
      refine g_ineg ok dX8_by_20 ?_
      exact g_iret ok fn rfl dX8_by_21 (pv_h (by simp [mby, c1, c12])) (dk rfl)
    · refine g_iload_n ok dX8_by_15 rfl ?_
      refine g_goto ok dX8_by_16 (tgt := 21) (by decide) ?_
      exact g_iret ok fn rfl dX8_by_21 (pv_h (by simp [mby, c1, c12])) (dk rfl)
  · refine g_iload_n ok dX8_by_4 rfl ?_
    refine g_iload_n ok dX8_by_5 rfl ?_
    refine g_iadd ok dX8_by_6 ?_
    refine g_goto ok dX8_by_7 (tgt := 21) (by decide) ?_
    exact g_iret ok fn rfl dX8_by_21 (pv_h (by simp [mby, c1])) (dk rfl)
theorem m_sumN (l : Launch) (G : GE) {h0 : AH} {ad : Nat → Nat} (hA : MAd ad) (s : MS) (a : Nat) (b : Nat) (y0 : a ≤ b + 1) (y1 : b < 32) : GM l G yX8_sumOfSpan (ws_ yX8_sumOfSpan cX8_sumOfSpan 5 (some .int)) 2 [.ref (ad 20), .int (nI a), .int (nI b)] (mput G h0 ad s) (0) (PV (.int (sm (MS.A s 0) (b + 1 - a) a 0)) (mput G h0 ad s)) := by
  refine GM.of (by decide) (dk rfl) ?_
  intro X eL eG eh ok fn
  subst eL; subst eG
  show GW X _ 0 0 [some (.ref (ad 20)), some (.int (nI a)), some (.int (nI b)), none, none] []
  refine g_iconst ok (v := 0) dX8_sumOfSpan_0 rfl ?_
  refine g_istore_n ok dX8_sumOfSpan_1 (ls1 := [some (.ref (ad 20)), some (.int (nI a)), some (.int (nI b)), some (.int 0), none]) (dl rfl) rfl ?_
  refine g_iload_n ok dX8_sumOfSpan_2 rfl ?_
  refine g_istore ok dX8_sumOfSpan_3 (ls1 := [some (.ref (ad 20)), some (.int (nI a)), some (.int (nI b)), some (.int 0), some (.int (nI a))]) (dl rfl) rfl ?_
  obtain ⟨F, hF⟩ : ∃ F : Int32, sm (MS.A s 0) (b + 1 - a) a 0 = F := ⟨_, rfl⟩
  rw [hF] at fn
  have lp : ∀ (n : Nat) (c : Nat) (v : Int32), (c + n = b + 1 ∧ c ≤ b + 1) → (sm (MS.A s 0) n c v = F) → GW X (mput X.G h0 ad s) 0 5 [some (.ref (ad 20)), some (.int (nI a)), some (.int (nI b)), some (.int v), some (.int (nI c))] [] := by
    intro n
    induction n with
    | zero =>
      intro c v g0 g1
      refine g_iload ok dX8_sumOfSpan_5 rfl ?_
      refine g_iload_n ok dX8_sumOfSpan_7 rfl ?_
      refine g_icmp_gt ok (tgt := 26) dX8_sumOfSpan_8 (by decide) (fun _ => ?_) (fun c_ => absurd (nI_lt (a := b) (b := c) (by omega) (by omega)) c_)
      refine g_iload_n ok dX8_sumOfSpan_26 rfl ?_
      exact g_iret ok fn rfl dX8_sumOfSpan_27 (pv_i g1 rfl) (dk rfl)
    | succ n ih =>
      intro c v g0 g1
      refine g_iload ok dX8_sumOfSpan_5 rfl ?_
      refine g_iload_n ok dX8_sumOfSpan_7 rfl ?_
      refine g_icmp_gt ok (tgt := 26) dX8_sumOfSpan_8 (by decide) (fun c_ => absurd c_ (nI_nlt (a := b) (b := c) (by omega) (by omega))) (fun _ => ?_)
      refine g_iload_n ok dX8_sumOfSpan_11 rfl ?_
      refine g_aload_n ok dX8_sumOfSpan_12 rfl ?_
      refine g_iload ok dX8_sumOfSpan_13 rfl ?_
      refine g_callV ok q2331 q2333 qs26 q75 q2334 (m_recv ok hA) dX8_sumOfSpan_15 (m_number X.l X.G hA (h0 := h0) s c (by omega)) (nm_ (by decide : nmb _ 1 = true)) (dl rfl) (dk rfl) rfl rfl (dk rfl) (dk rfl) (kV ?_) xV
      refine g_iadd ok dX8_sumOfSpan_18 ?_
      refine g_istore_n ok dX8_sumOfSpan_19 (ls1 := [some (.ref (ad 20)), some (.int (nI a)), some (.int (nI b)), some (.int (v + (MS.A s 0 (8 + c)))), some (.int (nI c))]) (dl rfl) rfl ?_
      refine g_iincN ok dX8_sumOfSpan_20 (c := c) rfl rfl (ls1 := [some (.ref (ad 20)), some (.int (nI a)), some (.int (nI b)), some (.int (v + (MS.A s 0 (8 + c)))), some (.int (nI (c + 1)))]) rfl ?_
      refine g_goto ok dX8_sumOfSpan_23 (tgt := 5) (by decide) ?_
      exact ih _ _ (by omega) g1
  exact lp (b + 1 - a) a 0 (by omega) hF
