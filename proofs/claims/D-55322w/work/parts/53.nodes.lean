/-! acts, kinds, nodes -/
set_option maxRecDepth 100000
abbrev cX7_init : ByteArray := prog_2_method_1_code
def yX7_init : MethodName := ⟨RX7, "<init>", "(II)V"⟩
def dkwX7_init_0 : List UInt8 := [42, 183, 0, 1, 42, 27, 181, 0, 7, 42, 28, 181, 0, 13, 177]
abbrev dktX7_init_0 : List UInt8 := dkwX7_init_0 ++ []
theorem dksX7_init_0 : cX7_init.data.toList.drop 0 = dktX7_init_0 := by decide +kernel
theorem dX7_init_0 : decode cX7_init 0 = .ok (.aload_n 0, 1) := dk_42 (dk_at dksX7_init_0 0 rfl rfl)
theorem dX7_init_1 : decode cX7_init 1 = .ok (.invokespecial 1, 3) := dk_183 0 1 (dk_at dksX7_init_0 1 rfl rfl)
theorem dX7_init_4 : decode cX7_init 4 = .ok (.aload_n 0, 1) := dk_42 (dk_at dksX7_init_0 4 rfl rfl)
theorem dX7_init_5 : decode cX7_init 5 = .ok (.iload_n 1, 1) := dk_27 (dk_at dksX7_init_0 5 rfl rfl)
theorem dX7_init_6 : decode cX7_init 6 = .ok (.putfield 7, 3) := dk_181 0 7 (dk_at dksX7_init_0 6 rfl rfl)
theorem dX7_init_9 : decode cX7_init 9 = .ok (.aload_n 0, 1) := dk_42 (dk_at dksX7_init_0 9 rfl rfl)
theorem dX7_init_10 : decode cX7_init 10 = .ok (.iload_n 2, 1) := dk_28 (dk_at dksX7_init_0 10 rfl rfl)
theorem dX7_init_11 : decode cX7_init 11 = .ok (.putfield 13, 3) := dk_181 0 13 (dk_at dksX7_init_0 11 rfl rfl)
theorem dX7_init_14 : decode cX7_init 14 = .ok (.return_, 1) := dk_177 (dk_at dksX7_init_0 14 rfl rfl)
abbrev cX7_on : ByteArray := prog_2_method_3_code
def yX7_on : MethodName := ⟨RX7, "on", "(I)I"⟩
def dkwX7_on_0 : List UInt8 := [42, 180, 0, 7, 27, 104, 42, 180, 0, 13, 96, 172]
abbrev dktX7_on_0 : List UInt8 := dkwX7_on_0 ++ []
theorem dksX7_on_0 : cX7_on.data.toList.drop 0 = dktX7_on_0 := by decide +kernel
theorem dX7_on_0 : decode cX7_on 0 = .ok (.aload_n 0, 1) := dk_42 (dk_at dksX7_on_0 0 rfl rfl)
theorem dX7_on_1 : decode cX7_on 1 = .ok (.getfield 7, 3) := dk_180 0 7 (dk_at dksX7_on_0 1 rfl rfl)
theorem dX7_on_4 : decode cX7_on 4 = .ok (.iload_n 1, 1) := dk_27 (dk_at dksX7_on_0 4 rfl rfl)
theorem dX7_on_5 : decode cX7_on 5 = .ok (.imul, 1) := dk_104 (dk_at dksX7_on_0 5 rfl rfl)
theorem dX7_on_6 : decode cX7_on 6 = .ok (.aload_n 0, 1) := dk_42 (dk_at dksX7_on_0 6 rfl rfl)
theorem dX7_on_7 : decode cX7_on 7 = .ok (.getfield 13, 3) := dk_180 0 13 (dk_at dksX7_on_0 7 rfl rfl)
theorem dX7_on_10 : decode cX7_on 10 = .ok (.iadd, 1) := dk_96 (dk_at dksX7_on_0 10 rfl rfl)
theorem dX7_on_11 : decode cX7_on 11 = .ok (.ireturn, 1) := dk_172 (dk_at dksX7_on_0 11 rfl rfl)
abbrev cX7_onSum : ByteArray := prog_2_method_4_code
def yX7_onSum : MethodName := ⟨RX7, "onSum", "(II)I"⟩
def dkwX7_onSum_0 : List UInt8 := [42, 180, 0, 7, 27, 104, 42, 180, 0, 13, 28, 104, 96, 172]
abbrev dktX7_onSum_0 : List UInt8 := dkwX7_onSum_0 ++ []
theorem dksX7_onSum_0 : cX7_onSum.data.toList.drop 0 = dktX7_onSum_0 := by decide +kernel
theorem dX7_onSum_0 : decode cX7_onSum 0 = .ok (.aload_n 0, 1) := dk_42 (dk_at dksX7_onSum_0 0 rfl rfl)
theorem dX7_onSum_1 : decode cX7_onSum 1 = .ok (.getfield 7, 3) := dk_180 0 7 (dk_at dksX7_onSum_0 1 rfl rfl)
theorem dX7_onSum_4 : decode cX7_onSum 4 = .ok (.iload_n 1, 1) := dk_27 (dk_at dksX7_onSum_0 4 rfl rfl)
theorem dX7_onSum_5 : decode cX7_onSum 5 = .ok (.imul, 1) := dk_104 (dk_at dksX7_onSum_0 5 rfl rfl)
theorem dX7_onSum_6 : decode cX7_onSum 6 = .ok (.aload_n 0, 1) := dk_42 (dk_at dksX7_onSum_0 6 rfl rfl)
theorem dX7_onSum_7 : decode cX7_onSum 7 = .ok (.getfield 13, 3) := dk_180 0 13 (dk_at dksX7_onSum_0 7 rfl rfl)
theorem dX7_onSum_10 : decode cX7_onSum 10 = .ok (.iload_n 2, 1) := dk_28 (dk_at dksX7_onSum_0 10 rfl rfl)
theorem dX7_onSum_11 : decode cX7_onSum 11 = .ok (.imul, 1) := dk_104 (dk_at dksX7_onSum_0 11 rfl rfl)
theorem dX7_onSum_12 : decode cX7_onSum 12 = .ok (.iadd, 1) := dk_96 (dk_at dksX7_onSum_0 12 rfl rfl)
theorem dX7_onSum_13 : decode cX7_onSum 13 = .ok (.ireturn, 1) := dk_172 (dk_at dksX7_onSum_0 13 rfl rfl)
abbrev cX7_turnsRound : ByteArray := prog_2_method_5_code
def yX7_turnsRound : MethodName := ⟨RX7, "turnsRound", "()Z"⟩
def dkwX7_turnsRound_0 : List UInt8 := [42, 180, 0, 7, 156, 0, 7, 4, 167, 0, 4, 3, 172]
abbrev dktX7_turnsRound_0 : List UInt8 := dkwX7_turnsRound_0 ++ []
theorem dksX7_turnsRound_0 : cX7_turnsRound.data.toList.drop 0 = dktX7_turnsRound_0 := by decide +kernel
theorem dX7_turnsRound_0 : decode cX7_turnsRound 0 = .ok (.aload_n 0, 1) := dk_42 (dk_at dksX7_turnsRound_0 0 rfl rfl)
theorem dX7_turnsRound_1 : decode cX7_turnsRound 1 = .ok (.getfield 7, 3) := dk_180 0 7 (dk_at dksX7_turnsRound_0 1 rfl rfl)
theorem dX7_turnsRound_4 : decode cX7_turnsRound 4 = .ok (.ifCond .ge 7, 3) := dk_156 0 7 (dk_at dksX7_turnsRound_0 4 rfl rfl)
theorem dX7_turnsRound_7 : decode cX7_turnsRound 7 = .ok (.iconst 1, 1) := dk_4 (dk_at dksX7_turnsRound_0 7 rfl rfl)
theorem dX7_turnsRound_8 : decode cX7_turnsRound 8 = .ok (.goto 4, 3) := dk_167 0 4 (dk_at dksX7_turnsRound_0 8 rfl rfl)
theorem dX7_turnsRound_11 : decode cX7_turnsRound 11 = .ok (.iconst 0, 1) := dk_3 (dk_at dksX7_turnsRound_0 11 rfl rfl)
theorem dX7_turnsRound_12 : decode cX7_turnsRound 12 = .ok (.ireturn, 1) := dk_172 (dk_at dksX7_turnsRound_0 12 rfl rfl)
abbrev cX7_isNothing : ByteArray := prog_2_method_6_code
def yX7_isNothing : MethodName := ⟨RX7, "isNothing", "()Z"⟩
def dkwX7_isNothing_0 : List UInt8 := [42, 180, 0, 7, 4, 160, 0, 14, 42, 180, 0, 13, 154, 0, 7, 4, 167, 0, 4, 3, 172]
abbrev dktX7_isNothing_0 : List UInt8 := dkwX7_isNothing_0 ++ []
theorem dksX7_isNothing_0 : cX7_isNothing.data.toList.drop 0 = dktX7_isNothing_0 := by decide +kernel
theorem dX7_isNothing_0 : decode cX7_isNothing 0 = .ok (.aload_n 0, 1) := dk_42 (dk_at dksX7_isNothing_0 0 rfl rfl)
theorem dX7_isNothing_1 : decode cX7_isNothing 1 = .ok (.getfield 7, 3) := dk_180 0 7 (dk_at dksX7_isNothing_0 1 rfl rfl)
theorem dX7_isNothing_4 : decode cX7_isNothing 4 = .ok (.iconst 1, 1) := dk_4 (dk_at dksX7_isNothing_0 4 rfl rfl)
theorem dX7_isNothing_5 : decode cX7_isNothing 5 = .ok (.if_icmp .ne 14, 3) := dk_160 0 14 (dk_at dksX7_isNothing_0 5 rfl rfl)
theorem dX7_isNothing_8 : decode cX7_isNothing 8 = .ok (.aload_n 0, 1) := dk_42 (dk_at dksX7_isNothing_0 8 rfl rfl)
theorem dX7_isNothing_9 : decode cX7_isNothing 9 = .ok (.getfield 13, 3) := dk_180 0 13 (dk_at dksX7_isNothing_0 9 rfl rfl)
theorem dX7_isNothing_12 : decode cX7_isNothing 12 = .ok (.ifCond .ne 7, 3) := dk_154 0 7 (dk_at dksX7_isNothing_0 12 rfl rfl)
theorem dX7_isNothing_15 : decode cX7_isNothing 15 = .ok (.iconst 1, 1) := dk_4 (dk_at dksX7_isNothing_0 15 rfl rfl)
theorem dX7_isNothing_16 : decode cX7_isNothing 16 = .ok (.goto 4, 3) := dk_167 0 4 (dk_at dksX7_isNothing_0 16 rfl rfl)
theorem dX7_isNothing_19 : decode cX7_isNothing 19 = .ok (.iconst 0, 1) := dk_3 (dk_at dksX7_isNothing_0 19 rfl rfl)
theorem dX7_isNothing_20 : decode cX7_isNothing 20 = .ok (.ireturn, 1) := dk_172 (dk_at dksX7_isNothing_0 20 rfl rfl)
abbrev cX7_then : ByteArray := prog_2_method_2_code
def yX7_then : MethodName := ⟨RX7, "then", "(LSpanRuler$Act;)LSpanRuler$Act;"⟩
def dkwX7_then_1 : List UInt8 := [180, 0, 13, 96, 183, 0, 16, 176]
abbrev dktX7_then_1 : List UInt8 := dkwX7_then_1 ++ []
def dkwX7_then_0 : List UInt8 := [187, 0, 8, 89, 42, 180, 0, 7, 43, 180, 0, 7, 104, 42, 180, 0, 13, 43, 180, 0, 7, 104, 43]
abbrev dktX7_then_0 : List UInt8 := dkwX7_then_0 ++ dktX7_then_1
theorem dksX7_then_0 : cX7_then.data.toList.drop 0 = dktX7_then_0 := by decide +kernel
theorem dksX7_then_1 : cX7_then.data.toList.drop 23 = dktX7_then_1 := dk_seg dksX7_then_0 23 rfl rfl
theorem dX7_then_0 : decode cX7_then 0 = .ok (.new 8, 3) := dk_187 0 8 (dk_at dksX7_then_0 0 rfl rfl)
theorem dX7_then_3 : decode cX7_then 3 = .ok (.dup, 1) := dk_89 (dk_at dksX7_then_0 3 rfl rfl)
theorem dX7_then_4 : decode cX7_then 4 = .ok (.aload_n 0, 1) := dk_42 (dk_at dksX7_then_0 4 rfl rfl)
theorem dX7_then_5 : decode cX7_then 5 = .ok (.getfield 7, 3) := dk_180 0 7 (dk_at dksX7_then_0 5 rfl rfl)
theorem dX7_then_8 : decode cX7_then 8 = .ok (.aload_n 1, 1) := dk_43 (dk_at dksX7_then_0 8 rfl rfl)
theorem dX7_then_9 : decode cX7_then 9 = .ok (.getfield 7, 3) := dk_180 0 7 (dk_at dksX7_then_0 9 rfl rfl)
theorem dX7_then_12 : decode cX7_then 12 = .ok (.imul, 1) := dk_104 (dk_at dksX7_then_0 12 rfl rfl)
theorem dX7_then_13 : decode cX7_then 13 = .ok (.aload_n 0, 1) := dk_42 (dk_at dksX7_then_0 13 rfl rfl)
theorem dX7_then_14 : decode cX7_then 14 = .ok (.getfield 13, 3) := dk_180 0 13 (dk_at dksX7_then_0 14 rfl rfl)
theorem dX7_then_17 : decode cX7_then 17 = .ok (.aload_n 1, 1) := dk_43 (dk_at dksX7_then_0 17 rfl rfl)
theorem dX7_then_18 : decode cX7_then 18 = .ok (.getfield 7, 3) := dk_180 0 7 (dk_at dksX7_then_0 18 rfl rfl)
theorem dX7_then_21 : decode cX7_then 21 = .ok (.imul, 1) := dk_104 (dk_at dksX7_then_0 21 rfl rfl)
theorem dX7_then_22 : decode cX7_then 22 = .ok (.aload_n 1, 1) := dk_43 (dk_at dksX7_then_0 22 rfl rfl)
theorem dX7_then_23 : decode cX7_then 23 = .ok (.getfield 13, 3) := dk_180 0 13 (dk_at dksX7_then_1 0 rfl rfl)
theorem dX7_then_26 : decode cX7_then 26 = .ok (.iadd, 1) := dk_96 (dk_at dksX7_then_1 3 rfl rfl)
theorem dX7_then_27 : decode cX7_then 27 = .ok (.invokespecial 16, 3) := dk_183 0 16 (dk_at dksX7_then_1 4 rfl rfl)
theorem dX7_then_30 : decode cX7_then 30 = .ok (.areturn, 1) := dk_176 (dk_at dksX7_then_1 7 rfl rfl)
abbrev cX16_with : ByteArray := prog_8_method_2_code
def yX16_with : MethodName := ⟨RX16, "with", "(I)LSpanRuler$Act;"⟩
def dkwX16_with_0 : List UInt8 := [187, 0, 9, 89, 4, 27, 183, 0, 11, 176]
abbrev dktX16_with_0 : List UInt8 := dkwX16_with_0 ++ []
theorem dksX16_with_0 : cX16_with.data.toList.drop 0 = dktX16_with_0 := by decide +kernel
theorem dX16_with_0 : decode cX16_with 0 = .ok (.new 9, 3) := dk_187 0 9 (dk_at dksX16_with_0 0 rfl rfl)
theorem dX16_with_3 : decode cX16_with 3 = .ok (.dup, 1) := dk_89 (dk_at dksX16_with_0 3 rfl rfl)
theorem dX16_with_4 : decode cX16_with 4 = .ok (.iconst 1, 1) := dk_4 (dk_at dksX16_with_0 4 rfl rfl)
theorem dX16_with_5 : decode cX16_with 5 = .ok (.iload_n 1, 1) := dk_27 (dk_at dksX16_with_0 5 rfl rfl)
theorem dX16_with_6 : decode cX16_with 6 = .ok (.invokespecial 11, 3) := dk_183 0 11 (dk_at dksX16_with_0 6 rfl rfl)
theorem dX16_with_9 : decode cX16_with 9 = .ok (.areturn, 1) := dk_176 (dk_at dksX16_with_0 9 rfl rfl)
abbrev cX17_with : ByteArray := prog_9_method_2_code
def yX17_with : MethodName := ⟨RX17, "with", "(I)LSpanRuler$Act;"⟩
def dkwX17_with_0 : List UInt8 := [187, 0, 9, 89, 3, 27, 183, 0, 11, 176]
abbrev dktX17_with_0 : List UInt8 := dkwX17_with_0 ++ []
theorem dksX17_with_0 : cX17_with.data.toList.drop 0 = dktX17_with_0 := by decide +kernel
theorem dX17_with_0 : decode cX17_with 0 = .ok (.new 9, 3) := dk_187 0 9 (dk_at dksX17_with_0 0 rfl rfl)
theorem dX17_with_3 : decode cX17_with 3 = .ok (.dup, 1) := dk_89 (dk_at dksX17_with_0 3 rfl rfl)
theorem dX17_with_4 : decode cX17_with 4 = .ok (.iconst 0, 1) := dk_3 (dk_at dksX17_with_0 4 rfl rfl)
theorem dX17_with_5 : decode cX17_with 5 = .ok (.iload_n 1, 1) := dk_27 (dk_at dksX17_with_0 5 rfl rfl)
theorem dX17_with_6 : decode cX17_with 6 = .ok (.invokespecial 11, 3) := dk_183 0 11 (dk_at dksX17_with_0 6 rfl rfl)
theorem dX17_with_9 : decode cX17_with 9 = .ok (.areturn, 1) := dk_176 (dk_at dksX17_with_0 9 rfl rfl)
abbrev cX18_with : ByteArray := prog_10_method_2_code
def yX18_with : MethodName := ⟨RX18, "with", "(I)LSpanRuler$Act;"⟩
def dkwX18_with_0 : List UInt8 := [187, 0, 7, 89, 2, 3, 183, 0, 9, 176]
abbrev dktX18_with_0 : List UInt8 := dkwX18_with_0 ++ []
theorem dksX18_with_0 : cX18_with.data.toList.drop 0 = dktX18_with_0 := by decide +kernel
theorem dX18_with_0 : decode cX18_with 0 = .ok (.new 7, 3) := dk_187 0 7 (dk_at dksX18_with_0 0 rfl rfl)
theorem dX18_with_3 : decode cX18_with 3 = .ok (.dup, 1) := dk_89 (dk_at dksX18_with_0 3 rfl rfl)
theorem dX18_with_4 : decode cX18_with 4 = .ok (.iconst (-1), 1) := dk_2 (dk_at dksX18_with_0 4 rfl rfl)
theorem dX18_with_5 : decode cX18_with 5 = .ok (.iconst 0, 1) := dk_3 (dk_at dksX18_with_0 5 rfl rfl)
theorem dX18_with_6 : decode cX18_with 6 = .ok (.invokespecial 9, 3) := dk_183 0 9 (dk_at dksX18_with_0 6 rfl rfl)
theorem dX18_with_9 : decode cX18_with 9 = .ok (.areturn, 1) := dk_176 (dk_at dksX18_with_0 9 rfl rfl)
abbrev cX1_isIn : ByteArray := prog_1_method_1_code
def yX1_isIn : MethodName := ⟨RX1, "isIn", "(III)Z"⟩
def dkwX1_isIn_0 : List UInt8 := [26, 27, 161, 0, 12, 26, 28, 163, 0, 7, 4, 167, 0, 4, 3, 172]
abbrev dktX1_isIn_0 : List UInt8 := dkwX1_isIn_0 ++ []
theorem dksX1_isIn_0 : cX1_isIn.data.toList.drop 0 = dktX1_isIn_0 := by decide +kernel
theorem dX1_isIn_0 : decode cX1_isIn 0 = .ok (.iload_n 0, 1) := dk_26 (dk_at dksX1_isIn_0 0 rfl rfl)
theorem dX1_isIn_1 : decode cX1_isIn 1 = .ok (.iload_n 1, 1) := dk_27 (dk_at dksX1_isIn_0 1 rfl rfl)
theorem dX1_isIn_2 : decode cX1_isIn 2 = .ok (.if_icmp .lt 12, 3) := dk_161 0 12 (dk_at dksX1_isIn_0 2 rfl rfl)
theorem dX1_isIn_5 : decode cX1_isIn 5 = .ok (.iload_n 0, 1) := dk_26 (dk_at dksX1_isIn_0 5 rfl rfl)
theorem dX1_isIn_6 : decode cX1_isIn 6 = .ok (.iload_n 2, 1) := dk_28 (dk_at dksX1_isIn_0 6 rfl rfl)
theorem dX1_isIn_7 : decode cX1_isIn 7 = .ok (.if_icmp .gt 7, 3) := dk_163 0 7 (dk_at dksX1_isIn_0 7 rfl rfl)
theorem dX1_isIn_10 : decode cX1_isIn 10 = .ok (.iconst 1, 1) := dk_4 (dk_at dksX1_isIn_0 10 rfl rfl)
theorem dX1_isIn_11 : decode cX1_isIn 11 = .ok (.goto 4, 3) := dk_167 0 4 (dk_at dksX1_isIn_0 11 rfl rfl)
theorem dX1_isIn_14 : decode cX1_isIn 14 = .ok (.iconst 0, 1) := dk_3 (dk_at dksX1_isIn_0 14 rfl rfl)
theorem dX1_isIn_15 : decode cX1_isIn 15 = .ok (.ireturn, 1) := dk_172 (dk_at dksX1_isIn_0 15 rfl rfl)
abbrev cX1_isCell : ByteArray := prog_1_method_2_code
def yX1_isCell : MethodName := ⟨RX1, "isCell", "(I)Z"⟩
def dkwX1_isCell_0 : List UInt8 := [26, 3, 16, 31, 184, 0, 3, 172]
abbrev dktX1_isCell_0 : List UInt8 := dkwX1_isCell_0 ++ []
theorem dksX1_isCell_0 : cX1_isCell.data.toList.drop 0 = dktX1_isCell_0 := by decide +kernel
theorem dX1_isCell_0 : decode cX1_isCell 0 = .ok (.iload_n 0, 1) := dk_26 (dk_at dksX1_isCell_0 0 rfl rfl)
theorem dX1_isCell_1 : decode cX1_isCell 1 = .ok (.iconst 0, 1) := dk_3 (dk_at dksX1_isCell_0 1 rfl rfl)
theorem dX1_isCell_2 : decode cX1_isCell 2 = .ok (.bipush 31, 2) := dk_16 31 (dk_at dksX1_isCell_0 2 rfl rfl)
theorem dX1_isCell_4 : decode cX1_isCell 4 = .ok (.invokestatic 3, 3) := dk_184 0 3 (dk_at dksX1_isCell_0 4 rfl rfl)
theorem dX1_isCell_7 : decode cX1_isCell 7 = .ok (.ireturn, 1) := dk_172 (dk_at dksX1_isCell_0 7 rfl rfl)
abbrev cX1_isSpan : ByteArray := prog_1_method_3_code
def yX1_isSpan : MethodName := ⟨RX1, "isSpan", "(II)Z"⟩
def dkwX1_isSpan_1 : List UInt8 := [172]
abbrev dktX1_isSpan_1 : List UInt8 := dkwX1_isSpan_1 ++ []
def dkwX1_isSpan_0 : List UInt8 := [26, 184, 0, 7, 153, 0, 19, 27, 184, 0, 7, 153, 0, 12, 26, 27, 163, 0, 7, 4, 167, 0, 4, 3]
abbrev dktX1_isSpan_0 : List UInt8 := dkwX1_isSpan_0 ++ dktX1_isSpan_1
theorem dksX1_isSpan_0 : cX1_isSpan.data.toList.drop 0 = dktX1_isSpan_0 := by decide +kernel
theorem dksX1_isSpan_1 : cX1_isSpan.data.toList.drop 24 = dktX1_isSpan_1 := dk_seg dksX1_isSpan_0 24 rfl rfl
theorem dX1_isSpan_0 : decode cX1_isSpan 0 = .ok (.iload_n 0, 1) := dk_26 (dk_at dksX1_isSpan_0 0 rfl rfl)
theorem dX1_isSpan_1 : decode cX1_isSpan 1 = .ok (.invokestatic 7, 3) := dk_184 0 7 (dk_at dksX1_isSpan_0 1 rfl rfl)
theorem dX1_isSpan_4 : decode cX1_isSpan 4 = .ok (.ifCond .eq 19, 3) := dk_153 0 19 (dk_at dksX1_isSpan_0 4 rfl rfl)
theorem dX1_isSpan_7 : decode cX1_isSpan 7 = .ok (.iload_n 1, 1) := dk_27 (dk_at dksX1_isSpan_0 7 rfl rfl)
theorem dX1_isSpan_8 : decode cX1_isSpan 8 = .ok (.invokestatic 7, 3) := dk_184 0 7 (dk_at dksX1_isSpan_0 8 rfl rfl)
theorem dX1_isSpan_11 : decode cX1_isSpan 11 = .ok (.ifCond .eq 12, 3) := dk_153 0 12 (dk_at dksX1_isSpan_0 11 rfl rfl)
theorem dX1_isSpan_14 : decode cX1_isSpan 14 = .ok (.iload_n 0, 1) := dk_26 (dk_at dksX1_isSpan_0 14 rfl rfl)
theorem dX1_isSpan_15 : decode cX1_isSpan 15 = .ok (.iload_n 1, 1) := dk_27 (dk_at dksX1_isSpan_0 15 rfl rfl)
theorem dX1_isSpan_16 : decode cX1_isSpan 16 = .ok (.if_icmp .gt 7, 3) := dk_163 0 7 (dk_at dksX1_isSpan_0 16 rfl rfl)
theorem dX1_isSpan_19 : decode cX1_isSpan 19 = .ok (.iconst 1, 1) := dk_4 (dk_at dksX1_isSpan_0 19 rfl rfl)
theorem dX1_isSpan_20 : decode cX1_isSpan 20 = .ok (.goto 4, 3) := dk_167 0 4 (dk_at dksX1_isSpan_0 20 rfl rfl)
theorem dX1_isSpan_23 : decode cX1_isSpan 23 = .ok (.iconst 0, 1) := dk_3 (dk_at dksX1_isSpan_0 23 rfl rfl)
theorem dX1_isSpan_24 : decode cX1_isSpan 24 = .ok (.ireturn, 1) := dk_172 (dk_at dksX1_isSpan_1 0 rfl rfl)
abbrev cX1_isColour : ByteArray := prog_1_method_4_code
def yX1_isColour : MethodName := ⟨RX1, "isColour", "(I)Z"⟩
def dkwX1_isColour_0 : List UInt8 := [26, 3, 6, 184, 0, 3, 172]
abbrev dktX1_isColour_0 : List UInt8 := dkwX1_isColour_0 ++ []
theorem dksX1_isColour_0 : cX1_isColour.data.toList.drop 0 = dktX1_isColour_0 := by decide +kernel
theorem dX1_isColour_0 : decode cX1_isColour 0 = .ok (.iload_n 0, 1) := dk_26 (dk_at dksX1_isColour_0 0 rfl rfl)
theorem dX1_isColour_1 : decode cX1_isColour 1 = .ok (.iconst 0, 1) := dk_3 (dk_at dksX1_isColour_0 1 rfl rfl)
theorem dX1_isColour_2 : decode cX1_isColour 2 = .ok (.iconst 3, 1) := dk_6 (dk_at dksX1_isColour_0 2 rfl rfl)
theorem dX1_isColour_3 : decode cX1_isColour 3 = .ok (.invokestatic 3, 3) := dk_184 0 3 (dk_at dksX1_isColour_0 3 rfl rfl)
theorem dX1_isColour_6 : decode cX1_isColour 6 = .ok (.ireturn, 1) := dk_172 (dk_at dksX1_isColour_0 6 rfl rfl)
abbrev cX16_may : ByteArray := prog_8_method_3_code
def yX16_may : MethodName := ⟨RX16, "may", "(I)Z"⟩
def dkwX16_may_0 : List UInt8 := [27, 16, 157, 16, 99, 184, 0, 14, 172]
abbrev dktX16_may_0 : List UInt8 := dkwX16_may_0 ++ []
theorem dksX16_may_0 : cX16_may.data.toList.drop 0 = dktX16_may_0 := by decide +kernel
theorem dX16_may_0 : decode cX16_may 0 = .ok (.iload_n 1, 1) := dk_27 (dk_at dksX16_may_0 0 rfl rfl)
theorem dX16_may_1 : decode cX16_may 1 = .ok (.bipush (-99), 2) := dk_16 157 (dk_at dksX16_may_0 1 rfl rfl)
theorem dX16_may_3 : decode cX16_may 3 = .ok (.bipush 99, 2) := dk_16 99 (dk_at dksX16_may_0 3 rfl rfl)
theorem dX16_may_5 : decode cX16_may 5 = .ok (.invokestatic 14, 3) := dk_184 0 14 (dk_at dksX16_may_0 5 rfl rfl)
theorem dX16_may_8 : decode cX16_may 8 = .ok (.ireturn, 1) := dk_172 (dk_at dksX16_may_0 8 rfl rfl)
abbrev cX17_may : ByteArray := prog_9_method_3_code
def yX17_may : MethodName := ⟨RX17, "may", "(I)Z"⟩
def dkwX17_may_0 : List UInt8 := [27, 17, 252, 25, 17, 3, 231, 184, 0, 14, 172]
abbrev dktX17_may_0 : List UInt8 := dkwX17_may_0 ++ []
theorem dksX17_may_0 : cX17_may.data.toList.drop 0 = dktX17_may_0 := by decide +kernel
theorem dX17_may_0 : decode cX17_may 0 = .ok (.iload_n 1, 1) := dk_27 (dk_at dksX17_may_0 0 rfl rfl)
theorem dX17_may_1 : decode cX17_may 1 = .ok (.sipush (-999), 3) := dk_17 252 25 (dk_at dksX17_may_0 1 rfl rfl)
theorem dX17_may_4 : decode cX17_may 4 = .ok (.sipush 999, 3) := dk_17 3 231 (dk_at dksX17_may_0 4 rfl rfl)
theorem dX17_may_7 : decode cX17_may 7 = .ok (.invokestatic 14, 3) := dk_184 0 14 (dk_at dksX17_may_0 7 rfl rfl)
theorem dX17_may_10 : decode cX17_may 10 = .ok (.ireturn, 1) := dk_172 (dk_at dksX17_may_0 10 rfl rfl)
abbrev cX9_may : ByteArray := prog_7_method_5_code
def yX9_may : MethodName := ⟨RX9, "may", "(I)Z"⟩
def dkwX9_may_0 : List UInt8 := [27, 154, 0, 7, 4, 167, 0, 4, 3, 172]
abbrev dktX9_may_0 : List UInt8 := dkwX9_may_0 ++ []
theorem dksX9_may_0 : cX9_may.data.toList.drop 0 = dktX9_may_0 := by decide +kernel
theorem dX9_may_0 : decode cX9_may 0 = .ok (.iload_n 1, 1) := dk_27 (dk_at dksX9_may_0 0 rfl rfl)
theorem dX9_may_1 : decode cX9_may 1 = .ok (.ifCond .ne 7, 3) := dk_154 0 7 (dk_at dksX9_may_0 1 rfl rfl)
theorem dX9_may_4 : decode cX9_may 4 = .ok (.iconst 1, 1) := dk_4 (dk_at dksX9_may_0 4 rfl rfl)
theorem dX9_may_5 : decode cX9_may 5 = .ok (.goto 4, 3) := dk_167 0 4 (dk_at dksX9_may_0 5 rfl rfl)
theorem dX9_may_8 : decode cX9_may 8 = .ok (.iconst 0, 1) := dk_3 (dk_at dksX9_may_0 8 rfl rfl)
theorem dX9_may_9 : decode cX9_may 9 = .ok (.ireturn, 1) := dk_172 (dk_at dksX9_may_0 9 rfl rfl)
abbrev cX3_isApart : ByteArray := prog_12_method_6_code
def yX3_isApart : MethodName := ⟨RX3, "isApart", "(II)Z"⟩
def dkwX3_isApart_0 : List UInt8 := [42, 180, 0, 13, 27, 161, 0, 11, 28, 42, 180, 0, 7, 162, 0, 7, 4, 167, 0, 4, 3, 172]
abbrev dktX3_isApart_0 : List UInt8 := dkwX3_isApart_0 ++ []
theorem dksX3_isApart_0 : cX3_isApart.data.toList.drop 0 = dktX3_isApart_0 := by decide +kernel
theorem dX3_isApart_0 : decode cX3_isApart 0 = .ok (.aload_n 0, 1) := dk_42 (dk_at dksX3_isApart_0 0 rfl rfl)
theorem dX3_isApart_1 : decode cX3_isApart 1 = .ok (.getfield 13, 3) := dk_180 0 13 (dk_at dksX3_isApart_0 1 rfl rfl)
theorem dX3_isApart_4 : decode cX3_isApart 4 = .ok (.iload_n 1, 1) := dk_27 (dk_at dksX3_isApart_0 4 rfl rfl)
theorem dX3_isApart_5 : decode cX3_isApart 5 = .ok (.if_icmp .lt 11, 3) := dk_161 0 11 (dk_at dksX3_isApart_0 5 rfl rfl)
theorem dX3_isApart_8 : decode cX3_isApart 8 = .ok (.iload_n 2, 1) := dk_28 (dk_at dksX3_isApart_0 8 rfl rfl)
theorem dX3_isApart_9 : decode cX3_isApart 9 = .ok (.aload_n 0, 1) := dk_42 (dk_at dksX3_isApart_0 9 rfl rfl)
theorem dX3_isApart_10 : decode cX3_isApart 10 = .ok (.getfield 7, 3) := dk_180 0 7 (dk_at dksX3_isApart_0 10 rfl rfl)
theorem dX3_isApart_13 : decode cX3_isApart 13 = .ok (.if_icmp .ge 7, 3) := dk_162 0 7 (dk_at dksX3_isApart_0 13 rfl rfl)
theorem dX3_isApart_16 : decode cX3_isApart 16 = .ok (.iconst 1, 1) := dk_4 (dk_at dksX3_isApart_0 16 rfl rfl)
theorem dX3_isApart_17 : decode cX3_isApart 17 = .ok (.goto 4, 3) := dk_167 0 4 (dk_at dksX3_isApart_0 17 rfl rfl)
theorem dX3_isApart_20 : decode cX3_isApart 20 = .ok (.iconst 0, 1) := dk_3 (dk_at dksX3_isApart_0 20 rfl rfl)
theorem dX3_isApart_21 : decode cX3_isApart 21 = .ok (.ireturn, 1) := dk_172 (dk_at dksX3_isApart_0 21 rfl rfl)
abbrev cX3_isIn : ByteArray := prog_12_method_5_code
def yX3_isIn : MethodName := ⟨RX3, "isIn", "(II)Z"⟩
def dkwX3_isIn_0 : List UInt8 := [27, 42, 180, 0, 7, 163, 0, 15, 42, 180, 0, 13, 28, 163, 0, 7, 4, 167, 0, 4, 3, 172]
abbrev dktX3_isIn_0 : List UInt8 := dkwX3_isIn_0 ++ []
theorem dksX3_isIn_0 : cX3_isIn.data.toList.drop 0 = dktX3_isIn_0 := by decide +kernel
theorem dX3_isIn_0 : decode cX3_isIn 0 = .ok (.iload_n 1, 1) := dk_27 (dk_at dksX3_isIn_0 0 rfl rfl)
theorem dX3_isIn_1 : decode cX3_isIn 1 = .ok (.aload_n 0, 1) := dk_42 (dk_at dksX3_isIn_0 1 rfl rfl)
theorem dX3_isIn_2 : decode cX3_isIn 2 = .ok (.getfield 7, 3) := dk_180 0 7 (dk_at dksX3_isIn_0 2 rfl rfl)
theorem dX3_isIn_5 : decode cX3_isIn 5 = .ok (.if_icmp .gt 15, 3) := dk_163 0 15 (dk_at dksX3_isIn_0 5 rfl rfl)
theorem dX3_isIn_8 : decode cX3_isIn 8 = .ok (.aload_n 0, 1) := dk_42 (dk_at dksX3_isIn_0 8 rfl rfl)
theorem dX3_isIn_9 : decode cX3_isIn 9 = .ok (.getfield 13, 3) := dk_180 0 13 (dk_at dksX3_isIn_0 9 rfl rfl)
theorem dX3_isIn_12 : decode cX3_isIn 12 = .ok (.iload_n 2, 1) := dk_28 (dk_at dksX3_isIn_0 12 rfl rfl)
theorem dX3_isIn_13 : decode cX3_isIn 13 = .ok (.if_icmp .gt 7, 3) := dk_163 0 7 (dk_at dksX3_isIn_0 13 rfl rfl)
theorem dX3_isIn_16 : decode cX3_isIn 16 = .ok (.iconst 1, 1) := dk_4 (dk_at dksX3_isIn_0 16 rfl rfl)
theorem dX3_isIn_17 : decode cX3_isIn 17 = .ok (.goto 4, 3) := dk_167 0 4 (dk_at dksX3_isIn_0 17 rfl rfl)
theorem dX3_isIn_20 : decode cX3_isIn 20 = .ok (.iconst 0, 1) := dk_3 (dk_at dksX3_isIn_0 20 rfl rfl)
theorem dX3_isIn_21 : decode cX3_isIn 21 = .ok (.ireturn, 1) := dk_172 (dk_at dksX3_isIn_0 21 rfl rfl)
abbrev cX3_takes : ByteArray := prog_12_method_4_code
def yX3_takes : MethodName := ⟨RX3, "takes", "(LSpanRuler$Act;)V"⟩
def dkwX3_takes_3 : List UInt8 := [96, 182, 0, 35, 181, 0, 16, 177]
abbrev dktX3_takes_3 : List UInt8 := dkwX3_takes_3 ++ []
def dkwX3_takes_2 : List UInt8 := [181, 0, 22, 42, 28, 181, 0, 19, 42, 43, 42, 180, 0, 16, 42, 180, 0, 13, 42, 180, 0, 7, 100, 4]
abbrev dktX3_takes_2 : List UInt8 := dkwX3_takes_2 ++ dktX3_takes_3
def dkwX3_takes_1 : List UInt8 := [43, 43, 182, 0, 25, 153, 0, 10, 42, 180, 0, 19, 167, 0, 7, 42, 180, 0, 22, 182, 0, 31]
abbrev dktX3_takes_1 : List UInt8 := dkwX3_takes_1 ++ dktX3_takes_2
def dkwX3_takes_0 : List UInt8 := [43, 43, 182, 0, 25, 153, 0, 10, 42, 180, 0, 22, 167, 0, 7, 42, 180, 0, 19, 182, 0, 31, 61, 42]
abbrev dktX3_takes_0 : List UInt8 := dkwX3_takes_0 ++ dktX3_takes_1
theorem dksX3_takes_0 : cX3_takes.data.toList.drop 0 = dktX3_takes_0 := by decide +kernel
theorem dksX3_takes_1 : cX3_takes.data.toList.drop 24 = dktX3_takes_1 := dk_seg dksX3_takes_0 24 rfl rfl
theorem dksX3_takes_2 : cX3_takes.data.toList.drop 46 = dktX3_takes_2 := dk_seg dksX3_takes_1 22 rfl rfl
theorem dksX3_takes_3 : cX3_takes.data.toList.drop 70 = dktX3_takes_3 := dk_seg dksX3_takes_2 24 rfl rfl
theorem dX3_takes_0 : decode cX3_takes 0 = .ok (.aload_n 1, 1) := dk_43 (dk_at dksX3_takes_0 0 rfl rfl)
theorem dX3_takes_1 : decode cX3_takes 1 = .ok (.aload_n 1, 1) := dk_43 (dk_at dksX3_takes_0 1 rfl rfl)
theorem dX3_takes_2 : decode cX3_takes 2 = .ok (.invokevirtual 25, 3) := dk_182 0 25 (dk_at dksX3_takes_0 2 rfl rfl)
theorem dX3_takes_5 : decode cX3_takes 5 = .ok (.ifCond .eq 10, 3) := dk_153 0 10 (dk_at dksX3_takes_0 5 rfl rfl)
theorem dX3_takes_8 : decode cX3_takes 8 = .ok (.aload_n 0, 1) := dk_42 (dk_at dksX3_takes_0 8 rfl rfl)
theorem dX3_takes_9 : decode cX3_takes 9 = .ok (.getfield 22, 3) := dk_180 0 22 (dk_at dksX3_takes_0 9 rfl rfl)
theorem dX3_takes_12 : decode cX3_takes 12 = .ok (.goto 7, 3) := dk_167 0 7 (dk_at dksX3_takes_0 12 rfl rfl)
theorem dX3_takes_15 : decode cX3_takes 15 = .ok (.aload_n 0, 1) := dk_42 (dk_at dksX3_takes_0 15 rfl rfl)
theorem dX3_takes_16 : decode cX3_takes 16 = .ok (.getfield 19, 3) := dk_180 0 19 (dk_at dksX3_takes_0 16 rfl rfl)
theorem dX3_takes_19 : decode cX3_takes 19 = .ok (.invokevirtual 31, 3) := dk_182 0 31 (dk_at dksX3_takes_0 19 rfl rfl)
theorem dX3_takes_22 : decode cX3_takes 22 = .ok (.istore_n 2, 1) := dk_61 (dk_at dksX3_takes_0 22 rfl rfl)
theorem dX3_takes_23 : decode cX3_takes 23 = .ok (.aload_n 0, 1) := dk_42 (dk_at dksX3_takes_0 23 rfl rfl)
theorem dX3_takes_24 : decode cX3_takes 24 = .ok (.aload_n 1, 1) := dk_43 (dk_at dksX3_takes_1 0 rfl rfl)
theorem dX3_takes_25 : decode cX3_takes 25 = .ok (.aload_n 1, 1) := dk_43 (dk_at dksX3_takes_1 1 rfl rfl)
theorem dX3_takes_26 : decode cX3_takes 26 = .ok (.invokevirtual 25, 3) := dk_182 0 25 (dk_at dksX3_takes_1 2 rfl rfl)
theorem dX3_takes_29 : decode cX3_takes 29 = .ok (.ifCond .eq 10, 3) := dk_153 0 10 (dk_at dksX3_takes_1 5 rfl rfl)
theorem dX3_takes_32 : decode cX3_takes 32 = .ok (.aload_n 0, 1) := dk_42 (dk_at dksX3_takes_1 8 rfl rfl)
theorem dX3_takes_33 : decode cX3_takes 33 = .ok (.getfield 19, 3) := dk_180 0 19 (dk_at dksX3_takes_1 9 rfl rfl)
theorem dX3_takes_36 : decode cX3_takes 36 = .ok (.goto 7, 3) := dk_167 0 7 (dk_at dksX3_takes_1 12 rfl rfl)
theorem dX3_takes_39 : decode cX3_takes 39 = .ok (.aload_n 0, 1) := dk_42 (dk_at dksX3_takes_1 15 rfl rfl)
theorem dX3_takes_40 : decode cX3_takes 40 = .ok (.getfield 22, 3) := dk_180 0 22 (dk_at dksX3_takes_1 16 rfl rfl)
theorem dX3_takes_43 : decode cX3_takes 43 = .ok (.invokevirtual 31, 3) := dk_182 0 31 (dk_at dksX3_takes_1 19 rfl rfl)
theorem dX3_takes_46 : decode cX3_takes 46 = .ok (.putfield 22, 3) := dk_181 0 22 (dk_at dksX3_takes_2 0 rfl rfl)
theorem dX3_takes_49 : decode cX3_takes 49 = .ok (.aload_n 0, 1) := dk_42 (dk_at dksX3_takes_2 3 rfl rfl)
theorem dX3_takes_50 : decode cX3_takes 50 = .ok (.iload_n 2, 1) := dk_28 (dk_at dksX3_takes_2 4 rfl rfl)
theorem dX3_takes_51 : decode cX3_takes 51 = .ok (.putfield 19, 3) := dk_181 0 19 (dk_at dksX3_takes_2 5 rfl rfl)
theorem dX3_takes_54 : decode cX3_takes 54 = .ok (.aload_n 0, 1) := dk_42 (dk_at dksX3_takes_2 8 rfl rfl)
theorem dX3_takes_55 : decode cX3_takes 55 = .ok (.aload_n 1, 1) := dk_43 (dk_at dksX3_takes_2 9 rfl rfl)
theorem dX3_takes_56 : decode cX3_takes 56 = .ok (.aload_n 0, 1) := dk_42 (dk_at dksX3_takes_2 10 rfl rfl)
theorem dX3_takes_57 : decode cX3_takes 57 = .ok (.getfield 16, 3) := dk_180 0 16 (dk_at dksX3_takes_2 11 rfl rfl)
theorem dX3_takes_60 : decode cX3_takes 60 = .ok (.aload_n 0, 1) := dk_42 (dk_at dksX3_takes_2 14 rfl rfl)
theorem dX3_takes_61 : decode cX3_takes 61 = .ok (.getfield 13, 3) := dk_180 0 13 (dk_at dksX3_takes_2 15 rfl rfl)
theorem dX3_takes_64 : decode cX3_takes 64 = .ok (.aload_n 0, 1) := dk_42 (dk_at dksX3_takes_2 18 rfl rfl)
theorem dX3_takes_65 : decode cX3_takes 65 = .ok (.getfield 7, 3) := dk_180 0 7 (dk_at dksX3_takes_2 19 rfl rfl)
theorem dX3_takes_68 : decode cX3_takes 68 = .ok (.isub, 1) := dk_100 (dk_at dksX3_takes_2 22 rfl rfl)
theorem dX3_takes_69 : decode cX3_takes 69 = .ok (.iconst 1, 1) := dk_4 (dk_at dksX3_takes_2 23 rfl rfl)
theorem dX3_takes_70 : decode cX3_takes 70 = .ok (.iadd, 1) := dk_96 (dk_at dksX3_takes_3 0 rfl rfl)
theorem dX3_takes_71 : decode cX3_takes 71 = .ok (.invokevirtual 35, 3) := dk_182 0 35 (dk_at dksX3_takes_3 1 rfl rfl)
theorem dX3_takes_74 : decode cX3_takes 74 = .ok (.putfield 16, 3) := dk_181 0 16 (dk_at dksX3_takes_3 4 rfl rfl)
theorem dX3_takes_77 : decode cX3_takes 77 = .ok (.return_, 1) := dk_177 (dk_at dksX3_takes_3 7 rfl rfl)
abbrev cX6_takes : ByteArray := prog_4_method_3_code
def yX6_takes : MethodName := ⟨RX6, "takes", "(LSpanRuler$Act;)V"⟩
def dkwX6_takes_0 : List UInt8 := [42, 43, 183, 0, 43, 42, 42, 180, 0, 10, 43, 182, 0, 47, 181, 0, 10, 177]
abbrev dktX6_takes_0 : List UInt8 := dkwX6_takes_0 ++ []
theorem dksX6_takes_0 : cX6_takes.data.toList.drop 0 = dktX6_takes_0 := by decide +kernel
theorem dX6_takes_0 : decode cX6_takes 0 = .ok (.aload_n 0, 1) := dk_42 (dk_at dksX6_takes_0 0 rfl rfl)
theorem dX6_takes_1 : decode cX6_takes 1 = .ok (.aload_n 1, 1) := dk_43 (dk_at dksX6_takes_0 1 rfl rfl)
theorem dX6_takes_2 : decode cX6_takes 2 = .ok (.invokespecial 43, 3) := dk_183 0 43 (dk_at dksX6_takes_0 2 rfl rfl)
theorem dX6_takes_5 : decode cX6_takes 5 = .ok (.aload_n 0, 1) := dk_42 (dk_at dksX6_takes_0 5 rfl rfl)
theorem dX6_takes_6 : decode cX6_takes 6 = .ok (.aload_n 0, 1) := dk_42 (dk_at dksX6_takes_0 6 rfl rfl)
theorem dX6_takes_7 : decode cX6_takes 7 = .ok (.getfield 10, 3) := dk_180 0 10 (dk_at dksX6_takes_0 7 rfl rfl)
theorem dX6_takes_10 : decode cX6_takes 10 = .ok (.aload_n 1, 1) := dk_43 (dk_at dksX6_takes_0 10 rfl rfl)
theorem dX6_takes_11 : decode cX6_takes 11 = .ok (.invokevirtual 47, 3) := dk_182 0 47 (dk_at dksX6_takes_0 11 rfl rfl)
theorem dX6_takes_14 : decode cX6_takes 14 = .ok (.putfield 10, 3) := dk_181 0 10 (dk_at dksX6_takes_0 14 rfl rfl)
theorem dX6_takes_17 : decode cX6_takes 17 = .ok (.return_, 1) := dk_177 (dk_at dksX6_takes_0 17 rfl rfl)
theorem q190 : (Jvm.Cond.methodLink "SpanRuler$Act" (1 : Nat) ({ cls := "java/lang/Object", name := "<init>", desc := "()V" } : Jvm.MethodName)) ∈ lw_all := lw_g (lw_at lw_m1 130 rfl) rfl
theorem q191 : (Jvm.Cond.fieldLink "SpanRuler$Act" (7 : Nat) "SpanRuler$Act" "factor" "I") ∈ lw_all := lw_g (lw_at lw_m1 131 rfl) rfl
theorem q192 : (Jvm.Cond.fieldLink "SpanRuler$Act" (13 : Nat) "SpanRuler$Act" "shift" "I") ∈ lw_all := lw_g (lw_at lw_m1 132 rfl) rfl
theorem q186 : (Jvm.Cond.instantiable "SpanRuler$Act" (2 : Nat)) ∈ lw_all := lw_g (lw_at lw_m1 126 rfl) rfl
theorem q67 : (Jvm.Cond.initialized "SpanRuler$Act") ∈ lw_all := lw_g (lw_at lw_m1 7 rfl) rfl
theorem q969 : (Jvm.Cond.classLink "SpanRuler$Act" (8 : Nat) "SpanRuler$Act") ∈ lw_all := lw_g (lw_at lw_m4 189 rfl) rfl
theorem q970 : (Jvm.Cond.methodLink "SpanRuler$Act" (16 : Nat) ({ cls := "SpanRuler$Act", name := "<init>", desc := "(II)V" } : Jvm.MethodName)) ∈ lw_all := lw_g (lw_at lw_m4 190 rfl) rfl
theorem q189 : (Jvm.Cond.code ({ cls := "SpanRuler$Act", name := "<init>", desc := "(II)V" } : Jvm.MethodName) prog_2_method_1_code (3 : Nat) (Option.none : Option Jvm.ClassFile.FieldType)) ∈ lw_all := lw_g (lw_at lw_m1 129 rfl) rfl
theorem q188 : (Jvm.Cond.instanceMethod ({ cls := "SpanRuler$Act", name := "<init>", desc := "(II)V" } : Jvm.MethodName)) ∈ lw_all := lw_g (lw_at lw_m1 128 rfl) rfl
theorem q1038 : (Jvm.Cond.classLink "SpanRuler$Kind$1" (9 : Nat) "SpanRuler$Act") ∈ lw_all := lw_g (lw_at lw_m5 18 rfl) rfl
theorem q1039 : (Jvm.Cond.methodLink "SpanRuler$Kind$1" (11 : Nat) ({ cls := "SpanRuler$Act", name := "<init>", desc := "(II)V" } : Jvm.MethodName)) ∈ lw_all := lw_g (lw_at lw_m5 19 rfl) rfl
theorem q1043 : (Jvm.Cond.classLink "SpanRuler$Kind$2" (9 : Nat) "SpanRuler$Act") ∈ lw_all := lw_g (lw_at lw_m5 23 rfl) rfl
theorem q1044 : (Jvm.Cond.methodLink "SpanRuler$Kind$2" (11 : Nat) ({ cls := "SpanRuler$Act", name := "<init>", desc := "(II)V" } : Jvm.MethodName)) ∈ lw_all := lw_g (lw_at lw_m5 24 rfl) rfl
theorem q1048 : (Jvm.Cond.classLink "SpanRuler$Kind$3" (7 : Nat) "SpanRuler$Act") ∈ lw_all := lw_g (lw_at lw_m5 28 rfl) rfl
theorem q1049 : (Jvm.Cond.methodLink "SpanRuler$Kind$3" (9 : Nat) ({ cls := "SpanRuler$Act", name := "<init>", desc := "(II)V" } : Jvm.MethodName)) ∈ lw_all := lw_g (lw_at lw_m5 29 rfl) rfl
theorem q1001 : (Jvm.Cond.methodLink "SpanRuler" (3 : Nat) ({ cls := "SpanRuler", name := "isIn", desc := "(III)Z" } : Jvm.MethodName)) ∈ lw_all := lw_g (lw_at lw_m4 221 rfl) rfl
theorem q61 : (Jvm.Cond.initialized "SpanRuler") ∈ lw_all := lw_g (lw_at lw_m1 1 rfl) rfl
theorem q1003 : (Jvm.Cond.code ({ cls := "SpanRuler", name := "isIn", desc := "(III)Z" } : Jvm.MethodName) prog_1_method_1_code (3 : Nat) (Option.some Jvm.ClassFile.FieldType.boolean)) ∈ lw_all := lw_g (lw_at lw_m4 223 rfl) rfl
theorem q1002 : (Jvm.Cond.static ({ cls := "SpanRuler", name := "isIn", desc := "(III)Z" } : Jvm.MethodName)) ∈ lw_all := lw_g (lw_at lw_m4 222 rfl) rfl
theorem q998 : (Jvm.Cond.methodLink "SpanRuler" (7 : Nat) ({ cls := "SpanRuler", name := "isCell", desc := "(I)Z" } : Jvm.MethodName)) ∈ lw_all := lw_g (lw_at lw_m4 218 rfl) rfl
theorem q1000 : (Jvm.Cond.code ({ cls := "SpanRuler", name := "isCell", desc := "(I)Z" } : Jvm.MethodName) prog_1_method_2_code (1 : Nat) (Option.some Jvm.ClassFile.FieldType.boolean)) ∈ lw_all := lw_g (lw_at lw_m4 220 rfl) rfl
theorem q999 : (Jvm.Cond.static ({ cls := "SpanRuler", name := "isCell", desc := "(I)Z" } : Jvm.MethodName)) ∈ lw_all := lw_g (lw_at lw_m4 219 rfl) rfl
theorem q1012 : (Jvm.Cond.methodLinkNest "SpanRuler$Kind$1" (14 : Nat) ({ cls := "SpanRuler", name := "isIn", desc := "(III)Z" } : Jvm.MethodName) "SpanRuler") ∈ lw_tbl := lw_at lw_m4 232 rfl
theorem q1016 : (Jvm.Cond.methodLinkNest "SpanRuler$Kind$2" (14 : Nat) ({ cls := "SpanRuler", name := "isIn", desc := "(III)Z" } : Jvm.MethodName) "SpanRuler") ∈ lw_tbl := lw_at lw_m4 236 rfl
theorem q146 : (Jvm.Cond.fieldLink "SpanRuler$Node" (13 : Nat) "SpanRuler$Node" "to" "I") ∈ lw_all := lw_g (lw_at lw_m1 86 rfl) rfl
theorem q141 : (Jvm.Cond.fieldLink "SpanRuler$Node" (7 : Nat) "SpanRuler$Node" "from" "I") ∈ lw_all := lw_g (lw_at lw_m1 81 rfl) rfl
theorem q953 : (Jvm.Cond.methodLink "SpanRuler$Node" (25 : Nat) ({ cls := "SpanRuler$Act", name := "turnsRound", desc := "()Z" } : Jvm.MethodName)) ∈ lw_all := lw_g (lw_at lw_m4 173 rfl) rfl
theorem q956 : (Jvm.Cond.code ({ cls := "SpanRuler$Act", name := "turnsRound", desc := "()Z" } : Jvm.MethodName) prog_2_method_5_code (1 : Nat) (Option.some Jvm.ClassFile.FieldType.boolean)) ∈ lw_all := lw_g (lw_at lw_m4 176 rfl) rfl
theorem q954 : (Jvm.Cond.instanceMethod ({ cls := "SpanRuler$Act", name := "turnsRound", desc := "()Z" } : Jvm.MethodName)) ∈ lw_all := lw_g (lw_at lw_m4 174 rfl) rfl
theorem q955 : (Jvm.Cond.selects "SpanRuler$Act" ({ cls := "SpanRuler$Act", name := "turnsRound", desc := "()Z" } : Jvm.MethodName) ({ cls := "SpanRuler$Act", name := "turnsRound", desc := "()Z" } : Jvm.MethodName)) ∈ lw_all := lw_g (lw_at lw_m4 175 rfl) rfl
theorem q159 : (Jvm.Cond.fieldLink "SpanRuler$Node" (22 : Nat) "SpanRuler$Node" "least" "I") ∈ lw_all := lw_g (lw_at lw_m1 99 rfl) rfl
theorem q957 : (Jvm.Cond.methodLink "SpanRuler$Node" (31 : Nat) ({ cls := "SpanRuler$Act", name := "on", desc := "(I)I" } : Jvm.MethodName)) ∈ lw_all := lw_g (lw_at lw_m4 177 rfl) rfl
theorem q960 : (Jvm.Cond.code ({ cls := "SpanRuler$Act", name := "on", desc := "(I)I" } : Jvm.MethodName) prog_2_method_3_code (2 : Nat) (Option.some Jvm.ClassFile.FieldType.int)) ∈ lw_all := lw_g (lw_at lw_m4 180 rfl) rfl
theorem q958 : (Jvm.Cond.instanceMethod ({ cls := "SpanRuler$Act", name := "on", desc := "(I)I" } : Jvm.MethodName)) ∈ lw_all := lw_g (lw_at lw_m4 178 rfl) rfl
theorem q959 : (Jvm.Cond.selects "SpanRuler$Act" ({ cls := "SpanRuler$Act", name := "on", desc := "(I)I" } : Jvm.MethodName) ({ cls := "SpanRuler$Act", name := "on", desc := "(I)I" } : Jvm.MethodName)) ∈ lw_all := lw_g (lw_at lw_m4 179 rfl) rfl
theorem q154 : (Jvm.Cond.fieldLink "SpanRuler$Node" (19 : Nat) "SpanRuler$Node" "greatest" "I") ∈ lw_all := lw_g (lw_at lw_m1 94 rfl) rfl
theorem q149 : (Jvm.Cond.fieldLink "SpanRuler$Node" (16 : Nat) "SpanRuler$Node" "sum" "I") ∈ lw_all := lw_g (lw_at lw_m1 89 rfl) rfl
theorem q961 : (Jvm.Cond.methodLink "SpanRuler$Node" (35 : Nat) ({ cls := "SpanRuler$Act", name := "onSum", desc := "(II)I" } : Jvm.MethodName)) ∈ lw_all := lw_g (lw_at lw_m4 181 rfl) rfl
theorem q964 : (Jvm.Cond.code ({ cls := "SpanRuler$Act", name := "onSum", desc := "(II)I" } : Jvm.MethodName) prog_2_method_4_code (3 : Nat) (Option.some Jvm.ClassFile.FieldType.int)) ∈ lw_all := lw_g (lw_at lw_m4 184 rfl) rfl
theorem q962 : (Jvm.Cond.instanceMethod ({ cls := "SpanRuler$Act", name := "onSum", desc := "(II)I" } : Jvm.MethodName)) ∈ lw_all := lw_g (lw_at lw_m4 182 rfl) rfl
theorem q963 : (Jvm.Cond.selects "SpanRuler$Act" ({ cls := "SpanRuler$Act", name := "onSum", desc := "(II)I" } : Jvm.MethodName) ({ cls := "SpanRuler$Act", name := "onSum", desc := "(II)I" } : Jvm.MethodName)) ∈ lw_all := lw_g (lw_at lw_m4 183 rfl) rfl
theorem q948 : (Jvm.Cond.methodLink "SpanRuler$Branch" (43 : Nat) ({ cls := "SpanRuler$Inner", name := "takes", desc := "(LSpanRuler$Act;)V" } : Jvm.MethodName)) ∈ lw_all := lw_g (lw_at lw_m4 168 rfl) rfl
theorem q949 : (Jvm.Cond.sameMethod "SpanRuler$Inner" "SpanRuler$Node" "takes" "(LSpanRuler$Act;)V") ∈ lw_all := lw_g (lw_at lw_m4 169 rfl) rfl
theorem q212 : (Jvm.Cond.superclass "SpanRuler$Branch" "SpanRuler$Inner") ∈ lw_all := lw_g (lw_at lw_m1 152 rfl) rfl
theorem q951 : (Jvm.Cond.superclass "SpanRuler$Inner" "SpanRuler$Node") ∈ lw_all := lw_g (lw_at lw_m4 171 rfl) rfl
theorem q943 : (Jvm.Cond.instanceMethod ({ cls := "SpanRuler$Node", name := "takes", desc := "(LSpanRuler$Act;)V" } : Jvm.MethodName)) ∈ lw_all := lw_g (lw_at lw_m4 163 rfl) rfl
theorem q63 : (Jvm.Cond.initialized "SpanRuler$Node") ∈ lw_all := lw_g (lw_at lw_m1 3 rfl) rfl
theorem q952 : (Jvm.Cond.code ({ cls := "SpanRuler$Node", name := "takes", desc := "(LSpanRuler$Act;)V" } : Jvm.MethodName) prog_12_method_4_code (3 : Nat) (Option.none : Option Jvm.ClassFile.FieldType)) ∈ lw_all := lw_g (lw_at lw_m4 172 rfl) rfl
theorem q200 : (Jvm.Cond.fieldLink "SpanRuler$Branch" (10 : Nat) "SpanRuler$Branch" "late" "LSpanRuler$Act;") ∈ lw_all := lw_g (lw_at lw_m1 140 rfl) rfl
theorem q965 : (Jvm.Cond.methodLink "SpanRuler$Branch" (47 : Nat) ({ cls := "SpanRuler$Act", name := "then", desc := "(LSpanRuler$Act;)LSpanRuler$Act;" } : Jvm.MethodName)) ∈ lw_all := lw_g (lw_at lw_m4 185 rfl) rfl
theorem q968 : (Jvm.Cond.code ({ cls := "SpanRuler$Act", name := "then", desc := "(LSpanRuler$Act;)LSpanRuler$Act;" } : Jvm.MethodName) prog_2_method_2_code (2 : Nat) (Option.some (Jvm.ClassFile.FieldType.object "SpanRuler$Act"))) ∈ lw_all := lw_g (lw_at lw_m4 188 rfl) rfl
theorem q966 : (Jvm.Cond.instanceMethod ({ cls := "SpanRuler$Act", name := "then", desc := "(LSpanRuler$Act;)LSpanRuler$Act;" } : Jvm.MethodName)) ∈ lw_all := lw_g (lw_at lw_m4 186 rfl) rfl
theorem q967 : (Jvm.Cond.selects "SpanRuler$Act" ({ cls := "SpanRuler$Act", name := "then", desc := "(LSpanRuler$Act;)LSpanRuler$Act;" } : Jvm.MethodName) ({ cls := "SpanRuler$Act", name := "then", desc := "(LSpanRuler$Act;)LSpanRuler$Act;" } : Jvm.MethodName)) ∈ lw_all := lw_g (lw_at lw_m4 187 rfl) rfl
/-! super.x(..) that stands in a class above the superclass -/
section
variable {p : Program} {l : Launch} {e : Env} {R : Room} {s : State} {m : MethodId} {args : Array Value} {below : List Frame} {meth : Method} {c : Code}
theorem sub_up {s : State} {C D : String} {cn dn : ClassId} (hc : s.vm.findClass C = some cn) (hd : s.vm.findClass D = some dn) (h : (Cond.superclass C D).before args s = true) : s.vm.isSubclass cn dn = true := by
  obtain ⟨ps, dk, kp, hps, hdk, hkp, hsuper, -, -, -⟩ := Cond.superclass_spec hc h
  have e1 : ps = dn := Option.some.inj (hps.symm.trans hd)
  subst e1
  have hl := (Array.getElem?_eq_some_iff.mp hdk).1
  obtain ⟨n, hn⟩ : ∃ n, s.vm.classes.size = n + 1 := ⟨s.vm.classes.size - 1, by omega⟩
  unfold Vm.isSubclass
  rw [hn]
  simp [Vm.isSubclassAux, hdk, hsuper]
theorem vx_callSU2 {T : State} {locs : List Loc} {cells slots : Nat} (X : Stand p l e R s m args below meth c T locs cells slots) (hexec : p.tables.exec = Jvm.exec) {own xc : String} {index : Nat} {y : MethodName} {bytes : ByteArray} {maxL : Nat} {ret : Option FieldType}
    (hown : s.vm.findClass own = some m.cls) (hlink : (Cond.methodLink own index ⟨xc, y.name, y.desc⟩).before args s = true) (hsame : (Cond.sameMethod xc y.cls y.name y.desc).before args s = true) (hsup : (Cond.superclass own xc).before args s = true) (hup : (Cond.superclass xc y.cls).before args s = true)
    (hinst : (Cond.instanceMethod y).before args s = true) (hcode : (Cond.code y bytes maxL ret).before args s = true) (hno : y.name ≠ "<init>")
    {W : Nat} {Pre : Pt → Array Value → Prop} {Post : Pt → Array Value → Option Value → Pt → Prop} {PostX : Pt → Array Value → Addr → Pt → Prop} (hK : vx_Back l R p e below s args y 3 W Pre Post PostX)
    {b : Addr} {cellB : Cell} {kB : Class} (hcell : T.heap[b]? = some cellB) (hobj : cellB.vm.isStatics = false) (hkB : s.vm.classes[cellB.cls]? = some kB)
    {g : JFrame} (hg : g.method = m) (hsize : g.locals.size = c.maxLocals) {argsL rest : List Value} (hlen : ∀ sig, parseMethodDescriptor y.desc = some sig → argsL.length = sig.parameters.length)
    (hstack : g.stack = argsL.reverse ++ .ref b :: rest) (hW : 2 * g.monitorRoom + (rest.map fun v => v.category).sum ≤ W) (hdg : decode c.code g.pc = .ok (.invokespecial index, 3))
    (hpre : ∀ vm₁, s.WarmedH vm₁ → Pre ⟨T.setVm vm₁, locs, cells, slots⟩ (Value.ref b :: argsL).toArray) :
    (∃ (v : Option Value) (vm₁ : Vm) (B : Pt), s.WarmedH vm₁ ∧ Stand p l e R s m args below meth c B.U B.locs B.cells B.slots ∧ Post ⟨T.setVm vm₁, locs, cells, slots⟩ (Value.ref b :: argsL).toArray v B ∧
      ∀ target, Steps p.tables e below (B.U.setTop { g with pc := g.pc + 3, stack := v.toList ++ rest }) target → Steps p.tables e below (T.setTop g) target) ∨
    (∃ (q : Addr) (vm₁ : Vm) (B : Pt), s.WarmedH vm₁ ∧ Stand p l e R s m args below meth c B.U B.locs B.cells B.slots ∧ PostX ⟨T.setVm vm₁, locs, cells, slots⟩ (Value.ref b :: argsL).toArray q B ∧
      Steps p.tables e below (T.setTop g) ((B.U.setTop { g with stack := rest }).pushFrame (.throwing q))) := by
  obtain ⟨mk, methM, hnamed, hmethM, hstM, habM⟩ := Cond.instanceMethod_spec hinst
  obtain ⟨methM', cM, hmethM', -, -, -, -, -, -, hsigM⟩ := Cond.code_spec hnamed hcode
  cases hmethM.symm.trans hmethM'
  obtain ⟨ps, dk, kp, hps, hdk, hkp, hsuper, -, -, hnid⟩ := Cond.superclass_spec hown hsup
  have hn : s.methodNamed? ⟨y.cls, y.name, y.desc⟩ = some mk := hnamed
  have hsub : s.vm.isSubclass ps mk.cls = true := sub_up hps (findClass_of_methodNamed hnamed) hup
  obtain ⟨vm₁, X₁, hstep₁⟩ := X.invokespecialUp hexec hown hlink hsame hn hmethM hstM habM hno hdk hnid hps hsuper hsub (a := b) (cell := cellB) hcell
    (fun z h => by rw [h] at hobj; cases hobj) hkB (g := g) hg (argsL := argsL) (rest := rest) (hlen _ hsigM) hstack hdg
  rcases hK m meth c ⟨T.setVm vm₁, locs, cells, slots⟩ { g with stack := rest } (.invokespecial index) mk (Value.ref b :: argsL).toArray X₁ hg hsize hdg hW (X₁.named hnamed) (hpre vm₁ X₁.warmed) with ⟨v, B, X', hpost, hsteps⟩ | ⟨q, B, X', hpost, hsteps⟩
  · exact Or.inl ⟨v, vm₁, B, X₁.warmed, X', hpost, fun target h => hstep₁ _ (by rw [doInvoke_state]; exact hsteps.trans h)⟩
  · exact Or.inr ⟨q, vm₁, B, X₁.warmed, X', hpost, hstep₁ _ (by rw [doInvoke_state]; exact hsteps)⟩
theorem vx_runSU2 {H : Heap} {locs : List Loc} {cells slots : Nat} {y : MethodName} {bytes cc : ByteArray} {maxL nL mc ms n index : Nat} {ret : Option FieldType} {ws : List Cond} {rm : Room} {Pc : Array Value → State → Prop} {Qc : Array Value → State → Outcome → State → Prop} {XC : String → Addr → State → State → Prop} {free : Addr → Prop} {Ts : List Cond} {own C xc : String} {cC : ClassId} {b : Addr} {As rest : List Value} {g : JFrame}
    (hat : ClassAt s C cC) (S : CallFix p m c cc nL s args Ts own) (hM : vx_Met l y ws rm Pc Qc XC mc ms free) (cb : CallB R s args own index y bytes maxL ret ws rm mc ms n ∨ True)
    (hl1 : (Cond.methodLink own index ⟨xc, y.name, y.desc⟩).before args s = true) (hl2 : (Cond.sameMethod xc y.cls y.name y.desc).before args s = true) (hl3 : (Cond.superclass own xc).before args s = true) (hl3' : (Cond.superclass xc y.cls).before args s = true) (hl4 : (Cond.instanceMethod y).before args s = true)
    (hrc : rm.cells = mc) (hrs : rm.slots = ms) (hfr : rm.frames + 1 ≤ R.frames) (hlo : 8 + (maxL + 11) + rm.locals ≤ R.locals) (hws : ∀ w ∈ ws, ∀ (a' : Array Value) (U : State), s.WarmedH U.vm → w.before a' U = true) (hcw : Cond.code y bytes maxL ret ∈ ws)
    (hini : (Cond.initialized y.cls).before args s = true) (hcode : (Cond.code y bytes maxL ret).before args s = true) (hno : y.name ≠ "<init>") (hlen : ∀ sig, parseMethodDescriptor y.desc = some sig → n = sig.parameters.length) (hp : PreV s H C b Pc As)
    (hg : g.method = m) (hn : As.length = n) (hsize : g.locals.size = nL) (hstack : g.stack = As.reverse ++ .ref b :: rest) (hW : 2 * g.monitorRoom + (rest.map fun v => v.category).sum ≤ 8) (hdg : decode cc g.pc = .ok (.invokespecial index, 3)) (hf : cells + mc ≤ R.cells ∧ slots + ms ≤ R.slots) :
    vx_Run p l e R s m args below meth c H locs cells slots mc ms g rest (Qc (Value.ref b :: As).toArray) XC free := by
  have hK : vx_Back l R p e below s args y 3 8 (PreOf R mc ms Pc) (PostOf Qc mc ms free) (vx_Post XC mc ms free) := vx_back (bytes := bytes) (maxL := maxL) (ret := ret) hM hp.1 hrc hrs hfr hlo hws hcw (fun a' U hW => word_at hW (Or.inl (by first | rfl | simp [Cond.onTables, Cond.keeps, Cond.steady])) hini)
  obtain ⟨hx, hb, hml, ho, -⟩ := S
  obtain ⟨-, ⟨cellB, hcB, hoB, hclB⟩, hPc⟩ := hp
  obtain ⟨hfc, kB, hkB, -⟩ := hat
  cases hfc.symm.trans hclB
  intro T hT X
  rcases vx_callSU2 X hx (bytes := bytes) (maxL := maxL) (ret := ret) ho hl1 hl2 hl3 hl3' hl4 hcode hno hK (by rw [hT]; exact hcB) hoB hkB hg (hsize.trans hml.symm) (argsL := As) (rest := rest) (fun sig h => hn.trans (hlen sig h)) hstack hW (by rw [hb]; exact hdg)
    (fun vm₁ hW₁ => ⟨hf.1, hf.2, hPc (T.setVm vm₁) hT hW₁⟩) with ⟨v, vm₁, ⟨U', l2, c2, s2⟩, hW₁, X', ⟨g', mk, t, L, e1, e2, hq, h1, hL, h2, h3⟩, st⟩ | ⟨q, vm₁, ⟨U', l2, c2, s2⟩, hW₁, X', ⟨g', mk, t, L, E, ce, e1, e2, hq, hce, hcv, hcl, h1, hL, h2, h3⟩, st⟩
  · dsimp only [Pt.U, Pt.locs, Pt.cells, Pt.slots] at X' e1 e2 h1 h2 h3 st
    subst h1; subst h2; subst h3
    exact Or.inl ⟨v, (T.setVm vm₁).calling g' mk (Value.ref b :: As).toArray, t, U', L, hT, X', hL, e1, e2, hq, st⟩
  · dsimp only [Pt.U, Pt.locs, Pt.cells, Pt.slots] at X' e1 e2 h1 h2 h3 st hcl
    subst h1; subst h2; subst h3
    exact Or.inr ⟨q, (T.setVm vm₁).calling g' mk (Value.ref b :: As).toArray, t, U', L, E, ce, hT, X', hL, e1, e2, hq, hce, hcv, vx_cls hW₁ hcl, st⟩
end
section
variable {X : GX} {yM : MethodName} {cc : ByteArray} {nL : Nat} {rT : Option FieldType} {hH : List (Nat × Nat × Nat × Nat)} {lV kB : Nat} {hA : AH} {kc pc : Nat} {ls : List (Option Value)} {st : List Value}
theorem g_callSU2 (ok : Ok X yM cc nL rT hH lV kB) {ci : Nat} {r : vw_C} {fs : List Value} {y : MethodName} {b : Nat} {xc : String} {bytes : ByteArray} {maxL Lc Kc index : Nat} {ret : Option FieldType} {av st0 : List Value} {Pc : Out → AH → Prop}
    (w1 : Cond.methodLink yM.cls index ⟨xc, y.name, y.desc⟩ ∈ lw_all) (w2 : Cond.sameMethod xc y.cls y.name y.desc ∈ lw_all) (w3 : Cond.superclass yM.cls xc ∈ lw_all) (w3' : Cond.superclass xc y.cls ∈ lw_all) (w4 : Cond.instanceMethod y ∈ lw_all) (w5 : Cond.initialized y.cls ∈ lw_all) (w6 : Cond.code y bytes maxL ret ∈ lw_all) (hno : y.name ≠ "<init>") (hci : gcl[ci]? = some r) (hr : Rd X.G hA b (ob ci fs)) (hd : decode cc pc = .ok (.invokespecial index, 3)) (hM : GM X.l X.G y (ws_ y bytes maxL ret) Lc (.ref b :: av) hA Kc Pc)
    (hn : Nm y av.length) (hLv : Lc < lV) (hml : maxL ≤ 100) (hln : ls.length = nL) (hst : av.reverse ++ .ref b :: st = st0) (hs : (st.map fun v => v.category).sum ≤ 8) (hk : kc + Kc ≤ kB)
    (kk : ∀ v h', Pc (.inl v) h' → GW X h' (kc + Kc) (pc + 3) ls (v.toList ++ st)) (kx : ∀ E q h', Pc (.inr (E, q)) h' → GWX X h' (kc + Kc) pc ls st E q) : GW X hA kc pc ls st0 := by
  obtain ⟨r1, r2, r3, r4⟩ := ok.rm
  refine g_callR (a := (Value.ref b :: av).toArray) (fun H locs la hP hL => ?_) kk kx
  exact vx_runSU2 (ok.k.1 ci r hci).2 ok.1 (hM ok.tr H.size) (Or.inr trivial) (ok.ts _ w1) (ok.ts _ w2) (ok.ts _ w3) (ok.ts _ w3') (ok.ts _ w4) rfl rfl (g_rm ok hLv hml).1 (g_rm ok hLv hml).2 (pay_in ok.ts (lw_meth w6)) List.mem_cons_self (ok.ts _ w5) (ok.ts _ w6) hno (fun sig h => by have h2 := hn.2.2; rw [h] at h2; exact (Option.some.inj h2).symm) (g_preV ok hP (Recv.ob ok hci hr)) rfl rfl (hL.1.trans hln) hst.symm (lv_room hs) hd ⟨by omega, by omega⟩
end
theorem x_actInit (l : Launch) (G : GE) (h : AH) (a : Nat) (f s : Int32) (ra : h a = some (ob 4 [.int 0, .int 0])) : GM l G yX7_init (ws_ yX7_init cX7_init 3 none) 1 [.ref a, .int f, .int s] (h) (0) (PN (up h a (ob 4 [.int f, .int s]))) := by
  refine GM.of (by decide) (dk rfl) ?_
  intro X eL eG eh ok fn
  subst eL; subst eG
  show GW X _ 0 0 [some (.ref a), some (.int f), some (.int s)] []
  refine g_aload_n ok dX7_init_0 rfl ?_
  refine g_objInit ok q190 q121 q122 dX7_init_1 (dk rfl) rfl (dk rfl) ?_
  refine g_aload_n ok dX7_init_4 rfl ?_
  refine g_iload_n ok dX7_init_5 rfl ?_
  refine g_putF ok ck_X7 0 q191 rfl (by decide) rfl rfl rfl dX7_init_6 (ra) (dl rfl) rfl rfl (fs1 := [.int f, .int 0]) rfl (?_)
  refine g_aload_n ok dX7_init_9 rfl ?_
  refine g_iload_n ok dX7_init_10 rfl ?_
  refine g_putF ok ck_X7 1 q192 rfl (by decide) rfl rfl rfl dX7_init_11 (up_self) (dl rfl) rfl rfl (fs1 := [.int f, .int s]) rfl (?_)
  exact g_vret ok fn rfl dX7_init_14 ⟨rfl, up_up⟩ (by omega)
theorem x_on (l : Launch) (G : GE) (h : AH) (a : Nat) (f s : Int32) (ra : Rd G h a (ob 4 [.int f, .int s])) (x : Int32) : GM l G yX7_on (ws_ yX7_on cX7_on 2 (some .int)) 1 [.ref a, .int x] (h) (0) (PV (.int (f * x + s)) h) := by
  refine GM.of (by decide) (dk rfl) ?_
  intro X eL eG eh ok fn
  subst eL; subst eG
  show GW X _ 0 0 [some (.ref a), some (.int x)] []
  refine g_aload_n ok dX7_on_0 rfl ?_
  refine g_get ok ck_X7 0 q191 (Or.inl rfl) (by decide) dX7_on_1 (ra) rfl ?_
  refine g_iload_n ok dX7_on_4 rfl ?_
  refine g_imul ok dX7_on_5 ?_
  refine g_aload_n ok dX7_on_6 rfl ?_
  refine g_get ok ck_X7 1 q192 (Or.inl rfl) (by decide) dX7_on_7 (ra) rfl ?_
  refine g_iadd ok dX7_on_10 ?_
  exact g_iret ok fn rfl dX7_on_11 (pv_h rfl) (by omega)
theorem x_onSum (l : Launch) (G : GE) (h : AH) (a : Nat) (f s : Int32) (ra : Rd G h a (ob 4 [.int f, .int s])) (x y : Int32) : GM l G yX7_onSum (ws_ yX7_onSum cX7_onSum 3 (some .int)) 1 [.ref a, .int x, .int y] (h) (0) (PV (.int (f * x + s * y)) h) := by
  refine GM.of (by decide) (dk rfl) ?_
  intro X eL eG eh ok fn
  subst eL; subst eG
  show GW X _ 0 0 [some (.ref a), some (.int x), some (.int y)] []
  refine g_aload_n ok dX7_onSum_0 rfl ?_
  refine g_get ok ck_X7 0 q191 (Or.inl rfl) (by decide) dX7_onSum_1 (ra) rfl ?_
  refine g_iload_n ok dX7_onSum_4 rfl ?_
  refine g_imul ok dX7_onSum_5 ?_
  refine g_aload_n ok dX7_onSum_6 rfl ?_
  refine g_get ok ck_X7 1 q192 (Or.inl rfl) (by decide) dX7_onSum_7 (ra) rfl ?_
  refine g_iload_n ok dX7_onSum_10 rfl ?_
  refine g_imul ok dX7_onSum_11 ?_
  refine g_iadd ok dX7_onSum_12 ?_
  exact g_iret ok fn rfl dX7_onSum_13 (pv_h rfl) (by omega)
theorem x_round (l : Launch) (G : GE) (h : AH) (a : Nat) (f s : Int32) (ra : Rd G h a (ob 4 [.int f, .int s])) : GM l G yX7_turnsRound (ws_ yX7_turnsRound cX7_turnsRound 1 (some .boolean)) 1 [.ref a] (h) (0) (PV (.int (bI (decide (f < 0)))) h) := by
  refine GM.of (by decide) (dk rfl) ?_
  intro X eL eG eh ok fn
  subst eL; subst eG
  show GW X _ 0 0 [some (.ref a)] []
  refine g_aload_n ok dX7_turnsRound_0 rfl ?_
  refine g_get ok ck_X7 0 q191 (Or.inl rfl) (by decide) dX7_turnsRound_1 (ra) rfl ?_
  refine g_if_ge ok (tgt := 11) dX7_turnsRound_4 (by decide) (fun c4 => ?_) (fun c4 => ?_)
  · have c4' := Int32.not_lt.mpr c4
    refine g_iconst ok (v := 0) dX7_turnsRound_11 rfl ?_
    exact g_zret ok fn rfl rfl dX7_turnsRound_12 (pv_h (by simp [bI, c4, c4'])) (by omega)
  · have c4' := Int32.not_le.mp c4
    refine g_iconst ok (v := 1) dX7_turnsRound_7 rfl ?_
    refine g_goto ok dX7_turnsRound_8 (tgt := 12) (by decide) ?_
    exact g_zret ok fn rfl rfl dX7_turnsRound_12 (pv_h (by simp [bI, c4, c4'])) (by omega)
theorem x_nothing (l : Launch) (G : GE) (h : AH) (a : Nat) (f s : Int32) (ra : Rd G h a (ob 4 [.int f, .int s])) : GM l G yX7_isNothing (ws_ yX7_isNothing cX7_isNothing 1 (some .boolean)) 1 [.ref a] (h) (0) (PV (.int (bI (decide (f = 1) && decide (s = 0)))) h) := by
  refine GM.of (by decide) (dk rfl) ?_
  intro X eL eG eh ok fn
  subst eL; subst eG
  show GW X _ 0 0 [some (.ref a)] []
  refine g_aload_n ok dX7_isNothing_0 rfl ?_
  refine g_get ok ck_X7 0 q191 (Or.inl rfl) (by decide) dX7_isNothing_1 (ra) rfl ?_
  refine g_iconst ok (v := 1) dX7_isNothing_4 rfl ?_
  refine g_icmp_ne ok (tgt := 19) dX7_isNothing_5 (by decide) (fun c5 => ?_) (fun c5 => ?_)
  · refine g_iconst ok (v := 0) dX7_isNothing_19 rfl ?_
    exact g_zret ok fn rfl rfl dX7_isNothing_20 (pv_h (by simp [bI, c5])) (by omega)
  · refine g_aload_n ok dX7_isNothing_8 rfl ?_
    refine g_get ok ck_X7 1 q192 (Or.inl rfl) (by decide) dX7_isNothing_9 (ra) rfl ?_
    refine g_if_ne ok (tgt := 19) dX7_isNothing_12 (by decide) (fun c12 => ?_) (fun c12 => ?_)
    · refine g_iconst ok (v := 0) dX7_isNothing_19 rfl ?_
      exact g_zret ok fn rfl rfl dX7_isNothing_20 (pv_h (by simp [bI, c5, c12])) (by omega)
    · refine g_iconst ok (v := 1) dX7_isNothing_15 rfl ?_
      refine g_goto ok dX7_isNothing_16 (tgt := 20) (by decide) ?_
      exact g_zret ok fn rfl rfl dX7_isNothing_20 (pv_h (by simp [bI, c5, c12])) (by omega)
theorem x_then (l : Launch) (G : GE) (h : AH) (a b : Nat) (f s f2 s2 : Int32) (ra : Rd G h a (ob 4 [.int f, .int s])) (rb : Rd G h b (ob 4 [.int f2, .int s2])) : GM l G yX7_then (ws_ yX7_then cX7_then 2 (some (.object "SpanRuler$Act"))) 2 [.ref a, .ref b] (h) (3) (PR fun v h' => ∃ t, v = .ref t ∧ h t = none ∧ G.kh t = none ∧ h' = up h t (ob 4 [.int (f * f2), .int (s * f2 + s2)])) := by
  refine GM.of (by decide) (dk rfl) ?_
  intro X eL eG eh ok fn
  subst eL; subst eG
  show GW X _ 0 0 [some (.ref a), some (.ref b)] []
  refine g_new ok ck_X7 q969 q186 q67 dX7_then_0 (fs := [.int 0, .int 0]) (by intro j hj; rcases (by omega : j = 0 ∨ j = 1) with rfl | rfl <;> rfl) (by omega) (fun t hat hkt h0t => ?_)
  have ne0 := Rd.ne (ra) hat hkt
  have ne1 := Rd.ne (rb) hat hkt
  refine g_dup ok dX7_then_3 rfl ?_
  refine g_aload_n ok dX7_then_4 rfl ?_
  refine g_get ok ck_X7 0 q191 (Or.inl rfl) (by decide) dX7_then_5 (Rd.up (ra) ne0) rfl ?_
  refine g_aload_n ok dX7_then_8 rfl ?_
  refine g_get ok ck_X7 0 q191 (Or.inl rfl) (by decide) dX7_then_9 (Rd.up (rb) ne1) rfl ?_
  refine g_imul ok dX7_then_12 ?_
  refine g_aload_n ok dX7_then_13 rfl ?_
  refine g_get ok ck_X7 1 q192 (Or.inl rfl) (by decide) dX7_then_14 (Rd.up (ra) ne0) rfl ?_
  refine g_aload_n ok dX7_then_17 rfl ?_
  refine g_get ok ck_X7 0 q191 (Or.inl rfl) (by decide) dX7_then_18 (Rd.up (rb) ne1) rfl ?_
  refine g_imul ok dX7_then_21 ?_
  refine g_aload_n ok dX7_then_22 rfl ?_
  refine g_get ok ck_X7 1 q192 (Or.inl rfl) (by decide) dX7_then_23 (Rd.up (rb) ne1) rfl ?_
  refine g_iadd ok dX7_then_26 ?_
  refine g_callI ok q970 q188 q67 q189 rfl dX7_then_27 (x_actInit X.l X.G _ t (f * f2) ((s * f2) + s2) up_self) (nm_ (by decide : nmb _ 2 = true)) (dl rfl) (dk rfl) rfl rfl (dk rfl) (by omega) (kN ?_) xN
  simp only [up_up]
  exact g_aret ok fn rfl (Or.inl ⟨_, rfl⟩) (Or.inr ⟨_, rfl⟩) dX7_then_30 ⟨_, rfl, t, rfl, hat, hkt, rfl⟩ (by omega)
theorem x_withX16 (l : Launch) (G : GE) (h : AH) (a : Nat) (x : Int32) : GM l G yX16_with (ws_ yX16_with cX16_with 2 (some (.object "SpanRuler$Act"))) 2 [.ref a, .int x] (h) (3) (PR fun v h' => ∃ t, v = .ref t ∧ h t = none ∧ G.kh t = none ∧ h' = up h t (ob 4 [.int 1, .int x])) := by
  refine GM.of (by decide) (dk rfl) ?_
  intro X eL eG eh ok fn
  subst eL; subst eG
  show GW X _ 0 0 [some (.ref a), some (.int x)] []
  refine g_new ok ck_X7 q1038 q186 q67 dX16_with_0 (fs := [.int 0, .int 0]) (by intro j hj; rcases (by omega : j = 0 ∨ j = 1) with rfl | rfl <;> rfl) (by omega) (fun t hat hkt h0t => ?_)
  refine g_dup ok dX16_with_3 rfl ?_
  refine g_iconst ok (v := 1) dX16_with_4 rfl ?_
  refine g_iload_n ok dX16_with_5 rfl ?_
  refine g_callI ok q1039 q188 q67 q189 rfl dX16_with_6 (x_actInit X.l X.G _ t 1 x up_self) (nm_ (by decide : nmb _ 2 = true)) (dl rfl) (dk rfl) rfl rfl (dk rfl) (by omega) (kN ?_) xN
  simp only [up_up]
  exact g_aret ok fn rfl (Or.inl ⟨_, rfl⟩) (Or.inr ⟨_, rfl⟩) dX16_with_9 ⟨_, rfl, t, rfl, hat, hkt, rfl⟩ (by omega)
theorem x_withX17 (l : Launch) (G : GE) (h : AH) (a : Nat) (x : Int32) : GM l G yX17_with (ws_ yX17_with cX17_with 2 (some (.object "SpanRuler$Act"))) 2 [.ref a, .int x] (h) (3) (PR fun v h' => ∃ t, v = .ref t ∧ h t = none ∧ G.kh t = none ∧ h' = up h t (ob 4 [.int 0, .int x])) := by
  refine GM.of (by decide) (dk rfl) ?_
  intro X eL eG eh ok fn
  subst eL; subst eG
  show GW X _ 0 0 [some (.ref a), some (.int x)] []
  refine g_new ok ck_X7 q1043 q186 q67 dX17_with_0 (fs := [.int 0, .int 0]) (by intro j hj; rcases (by omega : j = 0 ∨ j = 1) with rfl | rfl <;> rfl) (by omega) (fun t hat hkt h0t => ?_)
  refine g_dup ok dX17_with_3 rfl ?_
  refine g_iconst ok (v := 0) dX17_with_4 rfl ?_
  refine g_iload_n ok dX17_with_5 rfl ?_
  refine g_callI ok q1044 q188 q67 q189 rfl dX17_with_6 (x_actInit X.l X.G _ t 0 x up_self) (nm_ (by decide : nmb _ 2 = true)) (dl rfl) (dk rfl) rfl rfl (dk rfl) (by omega) (kN ?_) xN
  simp only [up_up]
  exact g_aret ok fn rfl (Or.inl ⟨_, rfl⟩) (Or.inr ⟨_, rfl⟩) dX17_with_9 ⟨_, rfl, t, rfl, hat, hkt, rfl⟩ (by omega)
theorem x_withX18 (l : Launch) (G : GE) (h : AH) (a : Nat) (x : Int32) : GM l G yX18_with (ws_ yX18_with cX18_with 2 (some (.object "SpanRuler$Act"))) 2 [.ref a, .int x] (h) (3) (PR fun v h' => ∃ t, v = .ref t ∧ h t = none ∧ G.kh t = none ∧ h' = up h t (ob 4 [.int (-1), .int 0])) := by
  refine GM.of (by decide) (dk rfl) ?_
  intro X eL eG eh ok fn
  subst eL; subst eG
  show GW X _ 0 0 [some (.ref a), some (.int x)] []
  refine g_new ok ck_X7 q1048 q186 q67 dX18_with_0 (fs := [.int 0, .int 0]) (by intro j hj; rcases (by omega : j = 0 ∨ j = 1) with rfl | rfl <;> rfl) (by omega) (fun t hat hkt h0t => ?_)
  refine g_dup ok dX18_with_3 rfl ?_
  refine g_iconst ok (v := -1) dX18_with_4 rfl ?_
  refine g_iconst ok (v := 0) dX18_with_5 rfl ?_
  refine g_callI ok q1049 q188 q67 q189 rfl dX18_with_6 (x_actInit X.l X.G _ t (-1) 0 up_self) (nm_ (by decide : nmb _ 2 = true)) (dl rfl) (dk rfl) rfl rfl (dk rfl) (by omega) (kN ?_) xN
  simp only [up_up]
  exact g_aret ok fn rfl (Or.inl ⟨_, rfl⟩) (Or.inr ⟨_, rfl⟩) dX18_with_9 ⟨_, rfl, t, rfl, hat, hkt, rfl⟩ (by omega)
theorem x_isIn (l : Launch) (G : GE) (h : AH) (v lo hi : Int32) : GM l G yX1_isIn (ws_ yX1_isIn cX1_isIn 3 (some .boolean)) 1 [.int v, .int lo, .int hi] (h) (0) (PV (.int (bI (inR v lo hi))) h) := by
  refine GM.of (by decide) (dk rfl) ?_
  intro X eL eG eh ok fn
  subst eL; subst eG
  show GW X _ 0 0 [some (.int v), some (.int lo), some (.int hi)] []
  refine g_iload_n ok dX1_isIn_0 rfl ?_
  refine g_iload_n ok dX1_isIn_1 rfl ?_
  refine g_icmp_lt ok (tgt := 14) dX1_isIn_2 (by decide) (fun c2 => ?_) (fun c2 => ?_)
  · have c2' := Int32.not_le.mpr c2
    refine g_iconst ok (v := 0) dX1_isIn_14 rfl ?_
    exact g_zret ok fn rfl rfl dX1_isIn_15 (pv_h (by simp [bI, inR, c2, c2'])) (by omega)
  · have c2' := Int32.not_lt.mp c2
    refine g_iload_n ok dX1_isIn_5 rfl ?_
    refine g_iload_n ok dX1_isIn_6 rfl ?_
    refine g_icmp_gt ok (tgt := 14) dX1_isIn_7 (by decide) (fun c7 => ?_) (fun c7 => ?_)
    · have c7' := Int32.not_le.mpr c7
      refine g_iconst ok (v := 0) dX1_isIn_14 rfl ?_
      exact g_zret ok fn rfl rfl dX1_isIn_15 (pv_h (by simp [bI, inR, c2, c2', c7, c7'])) (by omega)
    · have c7' := Int32.not_lt.mp c7
      refine g_iconst ok (v := 1) dX1_isIn_10 rfl ?_
      refine g_goto ok dX1_isIn_11 (tgt := 15) (by decide) ?_
      exact g_zret ok fn rfl rfl dX1_isIn_15 (pv_h (by simp [bI, inR, c2, c2', c7, c7'])) (by omega)
theorem x_isCell (l : Launch) (G : GE) (h : AH) (c : Int32) : GM l G yX1_isCell (ws_ yX1_isCell cX1_isCell 1 (some .boolean)) 2 [.int c] (h) (0) (PV (.int (bI (isC c))) h) := by
  refine GM.of (by decide) (dk rfl) ?_
  intro X eL eG eh ok fn
  subst eL; subst eG
  show GW X _ 0 0 [some (.int c)] []
  refine g_iload_n ok dX1_isCell_0 rfl ?_
  refine g_iconst ok (v := 0) dX1_isCell_1 rfl ?_
  refine g_bipush ok (v := 31) dX1_isCell_2 rfl ?_
  refine g_callS ok q1001 q1002 q61 q1003 dX1_isCell_4 (x_isIn X.l X.G _ c 0 31) (nm_ (by decide : nmb _ 3 = true)) (dl rfl) (dk rfl) rfl rfl (dk rfl) (by omega) (kV ?_) xV
  exact g_zret ok fn rfl (bI_z _) dX1_isCell_7 (pv_h rfl) (by omega)
theorem x_isSpan (l : Launch) (G : GE) (h : AH) (a b : Int32) : GM l G yX1_isSpan (ws_ yX1_isSpan cX1_isSpan 2 (some .boolean)) 3 [.int a, .int b] (h) (0) (PV (.int (bI (isSp a b))) h) := by
  refine GM.of (by decide) (dk rfl) ?_
  intro X eL eG eh ok fn
  subst eL; subst eG
  show GW X _ 0 0 [some (.int a), some (.int b)] []
  refine g_iload_n ok dX1_isSpan_0 rfl ?_
  refine g_callS ok q998 q999 q61 q1000 dX1_isSpan_1 (x_isCell X.l X.G _ a) (nm_ (by decide : nmb _ 1 = true)) (dl rfl) (dk rfl) rfl rfl (dk rfl) (by omega) (kV ?_) xV
  refine g_if_eq ok (tgt := 23) dX1_isSpan_4 (by decide) (fun c4 => ?_) (fun c4 => ?_)
  · have c4' := bI_e c4
    refine g_iconst ok (v := 0) dX1_isSpan_23 rfl ?_
    exact g_zret ok fn rfl rfl dX1_isSpan_24 (pv_h (by simp [bI, isSp, c4'])) (by omega)
  · have c4' := bI_n c4
    refine g_iload_n ok dX1_isSpan_7 rfl ?_
    refine g_callS ok q998 q999 q61 q1000 dX1_isSpan_8 (x_isCell X.l X.G _ b) (nm_ (by decide : nmb _ 1 = true)) (dl rfl) (dk rfl) rfl rfl (dk rfl) (by omega) (kV ?_) xV
    refine g_if_eq ok (tgt := 23) dX1_isSpan_11 (by decide) (fun c11 => ?_) (fun c11 => ?_)
    · have c11' := bI_e c11
      refine g_iconst ok (v := 0) dX1_isSpan_23 rfl ?_
      exact g_zret ok fn rfl rfl dX1_isSpan_24 (pv_h (by simp [bI, isSp, c4', c11'])) (by omega)
    · have c11' := bI_n c11
      refine g_iload_n ok dX1_isSpan_14 rfl ?_
      refine g_iload_n ok dX1_isSpan_15 rfl ?_
      refine g_icmp_gt ok (tgt := 23) dX1_isSpan_16 (by decide) (fun c16 => ?_) (fun c16 => ?_)
      · have c16' := Int32.not_le.mpr c16
        refine g_iconst ok (v := 0) dX1_isSpan_23 rfl ?_
        exact g_zret ok fn rfl rfl dX1_isSpan_24 (pv_h (by simp [bI, isSp, c4', c11', c16, c16'])) (by omega)
      · have c16' := Int32.not_lt.mp c16
        refine g_iconst ok (v := 1) dX1_isSpan_19 rfl ?_
        refine g_goto ok dX1_isSpan_20 (tgt := 24) (by decide) ?_
        exact g_zret ok fn rfl rfl dX1_isSpan_24 (pv_h (by simp [bI, isSp, c4', c11', c16, c16'])) (by omega)
theorem x_isColour (l : Launch) (G : GE) (h : AH) (c : Int32) : GM l G yX1_isColour (ws_ yX1_isColour cX1_isColour 1 (some .boolean)) 2 [.int c] (h) (0) (PV (.int (bI (isCo c))) h) := by
  refine GM.of (by decide) (dk rfl) ?_
  intro X eL eG eh ok fn
  subst eL; subst eG
  show GW X _ 0 0 [some (.int c)] []
  refine g_iload_n ok dX1_isColour_0 rfl ?_
  refine g_iconst ok (v := 0) dX1_isColour_1 rfl ?_
  refine g_iconst ok (v := 3) dX1_isColour_2 rfl ?_
  refine g_callS ok q1001 q1002 q61 q1003 dX1_isColour_3 (x_isIn X.l X.G _ c 0 3) (nm_ (by decide : nmb _ 3 = true)) (dl rfl) (dk rfl) rfl rfl (dk rfl) (by omega) (kV ?_) xV
  exact g_zret ok fn rfl (bI_z _) dX1_isColour_6 (pv_h rfl) (by omega)
theorem x_may16 (l : Launch) (G : GE) (h : AH) (a : Nat) (x : Int32) : GM l G yX16_may (ws_ yX16_may cX16_may 2 (some .boolean)) 2 [.ref a, .int x] (h) (0) (PV (.int (bI (isNu 0 x))) h) := by
  refine GM.of (by decide) (dk rfl) ?_
  intro X eL eG eh ok fn
  subst eL; subst eG
  show GW X _ 0 0 [some (.ref a), some (.int x)] []
  refine g_iload_n ok dX16_may_0 rfl ?_
  refine g_bipush ok (v := -99) dX16_may_1 rfl ?_
  refine g_bipush ok (v := 99) dX16_may_3 rfl ?_
  refine g_callSN ok q1012 q1002 q61 q1003 dX16_may_5 (x_isIn X.l X.G _ x (-99) 99) (nm_ (by decide : nmb _ 3 = true)) (dl rfl) (dk rfl) rfl rfl (dk rfl) (by omega) (kV ?_) xV
  exact g_zret ok fn rfl (bI_z _) dX16_may_8 (pv_h rfl) (by omega)
theorem x_may17 (l : Launch) (G : GE) (h : AH) (a : Nat) (x : Int32) : GM l G yX17_may (ws_ yX17_may cX17_may 2 (some .boolean)) 2 [.ref a, .int x] (h) (0) (PV (.int (bI (isNu 1 x))) h) := by
  refine GM.of (by decide) (dk rfl) ?_
  intro X eL eG eh ok fn
  subst eL; subst eG
  show GW X _ 0 0 [some (.ref a), some (.int x)] []
  refine g_iload_n ok dX17_may_0 rfl ?_
  refine g_sipush ok (v := -999) dX17_may_1 rfl ?_
  refine g_sipush ok (v := 999) dX17_may_4 rfl ?_
  refine g_callSN ok q1016 q1002 q61 q1003 dX17_may_7 (x_isIn X.l X.G _ x (-999) 999) (nm_ (by decide : nmb _ 3 = true)) (dl rfl) (dk rfl) rfl rfl (dk rfl) (by omega) (kV ?_) xV
  exact g_zret ok fn rfl (bI_z _) dX17_may_10 (pv_h rfl) (by omega)
theorem x_may18 (l : Launch) (G : GE) (h : AH) (a : Nat) (x : Int32) : GM l G yX9_may (ws_ yX9_may cX9_may 2 (some .boolean)) 2 [.ref a, .int x] (h) (0) (PV (.int (bI (isNu 2 x))) h) := by
  refine GM.of (by decide) (dk rfl) ?_
  intro X eL eG eh ok fn
  subst eL; subst eG
  show GW X _ 0 0 [some (.ref a), some (.int x)] []
  refine g_iload_n ok dX9_may_0 rfl ?_
  refine g_if_ne ok (tgt := 8) dX9_may_1 (by decide) (fun c1 => ?_) (fun c1 => ?_)
  · refine g_iconst ok (v := 0) dX9_may_8 rfl ?_
    exact g_zret ok fn rfl rfl dX9_may_9 (pv_h (by simp [bI, isNu, c1])) (by omega)
  · refine g_iconst ok (v := 1) dX9_may_4 rfl ?_
    refine g_goto ok dX9_may_5 (tgt := 9) (by decide) ?_
    exact g_zret ok fn rfl rfl dX9_may_9 (pv_h (by simp [bI, isNu, c1])) (by omega)
theorem x_apartX4 (l : Launch) (G : GE) (h : AH) (a i j : Nat) (s g m : Int32) (ra : Rd G h a (ob 2 [.int (nI i), .int (nI j), .int s, .int g, .int m])) (x y : Int32) : GM l G yX3_isApart (ws_ yX3_isApart cX3_isApart 3 (some .boolean)) 1 [.ref a, .int x, .int y] (h) (0) (PV (.int (bI (decide (nI j < x) || decide (y < nI i)))) h) := by
  refine GM.of (by decide) (dk rfl) ?_
  intro X eL eG eh ok fn
  subst eL; subst eG
  show GW X _ 0 0 [some (.ref a), some (.int x), some (.int y)] []
  refine g_aload_n ok dX3_isApart_0 rfl ?_
  refine g_get ok ck_X4 1 q146 (Or.inl rfl) (by decide) dX3_isApart_1 (ra) rfl ?_
  refine g_iload_n ok dX3_isApart_4 rfl ?_
  refine g_icmp_lt ok (tgt := 16) dX3_isApart_5 (by decide) (fun c5 => ?_) (fun c5 => ?_)
  · have c5' := Int32.not_le.mpr c5
    refine g_iconst ok (v := 1) dX3_isApart_16 rfl ?_
    refine g_goto ok dX3_isApart_17 (tgt := 21) (by decide) ?_
    exact g_zret ok fn rfl rfl dX3_isApart_21 (pv_h (by simp [bI, c5, c5'])) (by omega)
  · have c5' := Int32.not_lt.mp c5
    refine g_iload_n ok dX3_isApart_8 rfl ?_
    refine g_aload_n ok dX3_isApart_9 rfl ?_
    refine g_get ok ck_X4 0 q141 (Or.inl rfl) (by decide) dX3_isApart_10 (ra) rfl ?_
    refine g_icmp_ge ok (tgt := 20) dX3_isApart_13 (by decide) (fun c13 => ?_) (fun c13 => ?_)
    · have c13' := Int32.not_lt.mpr c13
      refine g_iconst ok (v := 0) dX3_isApart_20 rfl ?_
      exact g_zret ok fn rfl rfl dX3_isApart_21 (pv_h (by simp [bI, c5, c5', c13, c13'])) (by omega)
    · have c13' := Int32.not_le.mp c13
      refine g_iconst ok (v := 1) dX3_isApart_16 rfl ?_
      refine g_goto ok dX3_isApart_17 (tgt := 21) (by decide) ?_
      exact g_zret ok fn rfl rfl dX3_isApart_21 (pv_h (by simp [bI, c5, c5', c13, c13'])) (by omega)
theorem x_withinX4 (l : Launch) (G : GE) (h : AH) (a i j : Nat) (s g m : Int32) (ra : Rd G h a (ob 2 [.int (nI i), .int (nI j), .int s, .int g, .int m])) (x y : Int32) : GM l G yX3_isIn (ws_ yX3_isIn cX3_isIn 3 (some .boolean)) 1 [.ref a, .int x, .int y] (h) (0) (PV (.int (bI (decide (x ≤ nI i) && decide (nI j ≤ y)))) h) := by
  refine GM.of (by decide) (dk rfl) ?_
  intro X eL eG eh ok fn
  subst eL; subst eG
  show GW X _ 0 0 [some (.ref a), some (.int x), some (.int y)] []
  refine g_iload_n ok dX3_isIn_0 rfl ?_
  refine g_aload_n ok dX3_isIn_1 rfl ?_
  refine g_get ok ck_X4 0 q141 (Or.inl rfl) (by decide) dX3_isIn_2 (ra) rfl ?_
  refine g_icmp_gt ok (tgt := 20) dX3_isIn_5 (by decide) (fun c5 => ?_) (fun c5 => ?_)
  · have c5' := Int32.not_le.mpr c5
    refine g_iconst ok (v := 0) dX3_isIn_20 rfl ?_
    exact g_zret ok fn rfl rfl dX3_isIn_21 (pv_h (by simp [bI, c5, c5'])) (by omega)
  · have c5' := Int32.not_lt.mp c5
    refine g_aload_n ok dX3_isIn_8 rfl ?_
    refine g_get ok ck_X4 1 q146 (Or.inl rfl) (by decide) dX3_isIn_9 (ra) rfl ?_
    refine g_iload_n ok dX3_isIn_12 rfl ?_
    refine g_icmp_gt ok (tgt := 20) dX3_isIn_13 (by decide) (fun c13 => ?_) (fun c13 => ?_)
    · have c13' := Int32.not_le.mpr c13
      refine g_iconst ok (v := 0) dX3_isIn_20 rfl ?_
      exact g_zret ok fn rfl rfl dX3_isIn_21 (pv_h (by simp [bI, c5, c5', c13, c13'])) (by omega)
    · have c13' := Int32.not_lt.mp c13
      refine g_iconst ok (v := 1) dX3_isIn_16 rfl ?_
      refine g_goto ok dX3_isIn_17 (tgt := 21) (by decide) ?_
      exact g_zret ok fn rfl rfl dX3_isIn_21 (pv_h (by simp [bI, c5, c5', c13, c13'])) (by omega)
theorem x_ntakesX4 (l : Launch) (G : GE) (h : AH) (a i j : Nat) (s g m : Int32) (u : Nat) (f x : Int32) (ra : h a = some (ob 2 [.int (nI i), .int (nI j), .int s, .int g, .int m])) (ru : Rd G h u (ob 4 [.int f, .int x])) (nua0 : u ≠ a) : GM l G yX3_takes (ws_ yX3_takes cX3_takes 3 none) 2 [.ref a, .ref u] (h) (0) (PN (up h a (ob 2 [.int (nI i), .int (nI j), .int (f * s + x * (nI j - nI i + 1)), .int (f * (if f < 0 then m else g) + x), .int (f * (if f < 0 then g else m) + x)]))) := by
  refine GM.of (by decide) (dk rfl) ?_
  intro X eL eG eh ok fn
  subst eL; subst eG
  show GW X _ 0 0 [some (.ref a), some (.ref u), none] []
  have nua : u ≠ a := nua0
  by_cases c0 : f < 0
  · refine g_aload_n ok dX3_takes_0 rfl ?_
    refine g_aload_n ok dX3_takes_1 rfl ?_
    refine g_callV ok q953 q954 q955 q67 q956 (Recv.ob ok gc_X7 (ru)) dX3_takes_2 (x_round X.l X.G _ u f x (ru) ) (nm_ (by decide : nmb _ 0 = true)) (dl rfl) (dk rfl) rfl rfl (dk rfl) (by omega) (kV ?_) xV
    rw [decide_eq_true c0]
    refine g_if_eq ok (tgt := 15) dX3_takes_5 (by decide) (fun c_ => absurd c_ (by decide)) (fun _ => ?_)
    refine g_aload_n ok dX3_takes_8 rfl ?_
    refine g_get ok ck_X4 4 q159 (Or.inl rfl) (by decide) dX3_takes_9 (Rd.h (ra)) rfl ?_
    refine g_goto ok dX3_takes_12 (tgt := 19) (by decide) ?_
    refine g_callV ok q957 q958 q959 q67 q960 (Recv.ob ok gc_X7 (ru)) dX3_takes_19 (x_on X.l X.G _ u f x (ru) m) (nm_ (by decide : nmb _ 1 = true)) (dl rfl) (dk rfl) rfl rfl (dk rfl) (by omega) (kV ?_) xV
    refine g_istore_n ok dX3_takes_22 (ls1 := [some (.ref a), some (.ref u), some (.int (f * m + x))]) (dl rfl) rfl ?_
    refine g_aload_n ok dX3_takes_23 rfl ?_
    refine g_aload_n ok dX3_takes_24 rfl ?_
    refine g_aload_n ok dX3_takes_25 rfl ?_
    refine g_callV ok q953 q954 q955 q67 q956 (Recv.ob ok gc_X7 (ru)) dX3_takes_26 (x_round X.l X.G _ u f x (ru) ) (nm_ (by decide : nmb _ 0 = true)) (dl rfl) (dk rfl) rfl rfl (dk rfl) (by omega) (kV ?_) xV
    rw [decide_eq_true c0]
    refine g_if_eq ok (tgt := 39) dX3_takes_29 (by decide) (fun c_ => absurd c_ (by decide)) (fun _ => ?_)
    refine g_aload_n ok dX3_takes_32 rfl ?_
    refine g_get ok ck_X4 3 q154 (Or.inl rfl) (by decide) dX3_takes_33 (Rd.h (ra)) rfl ?_
    refine g_goto ok dX3_takes_36 (tgt := 43) (by decide) ?_
    refine g_callV ok q957 q958 q959 q67 q960 (Recv.ob ok gc_X7 (ru)) dX3_takes_43 (x_on X.l X.G _ u f x (ru) g) (nm_ (by decide : nmb _ 1 = true)) (dl rfl) (dk rfl) rfl rfl (dk rfl) (by omega) (kV ?_) xV
    refine g_put ok ck_X4 4 q159 (Or.inl rfl) (by decide) rfl dX3_takes_46 (ra) (dl rfl) rfl rfl (fs1 := [.int (nI i), .int (nI j), .int s, .int g, .int (f * g + x)]) rfl (?_)
    refine g_aload_n ok dX3_takes_49 rfl ?_
    refine g_iload_n ok dX3_takes_50 rfl ?_
    refine g_put ok ck_X4 3 q154 (Or.inl rfl) (by decide) rfl dX3_takes_51 (up_self) (dl rfl) rfl rfl (fs1 := [.int (nI i), .int (nI j), .int s, .int (f * m + x), .int (f * g + x)]) rfl (?_)
    refine g_aload_n ok dX3_takes_54 rfl ?_
    refine g_aload_n ok dX3_takes_55 rfl ?_
    refine g_aload_n ok dX3_takes_56 rfl ?_
    refine g_get ok ck_X4 2 q149 (Or.inl rfl) (by decide) dX3_takes_57 (Rd.h (up_self)) rfl ?_
    refine g_aload_n ok dX3_takes_60 rfl ?_
    refine g_get ok ck_X4 1 q146 (Or.inl rfl) (by decide) dX3_takes_61 (Rd.h (up_self)) rfl ?_
    refine g_aload_n ok dX3_takes_64 rfl ?_
    refine g_get ok ck_X4 0 q141 (Or.inl rfl) (by decide) dX3_takes_65 (Rd.h (up_self)) rfl ?_
    refine g_isub ok dX3_takes_68 ?_
    refine g_iconst ok (v := 1) dX3_takes_69 rfl ?_
    refine g_iadd ok dX3_takes_70 ?_
    refine g_callV ok q961 q962 q963 q67 q964 (Recv.ob ok gc_X7 (Rd.up (Rd.up (ru) nua) nua)) dX3_takes_71 (x_onSum X.l X.G _ u f x (Rd.up (Rd.up (ru) nua) nua) s (((nI j) - (nI i)) + 1)) (nm_ (by decide : nmb _ 2 = true)) (dl rfl) (dk rfl) rfl rfl (dk rfl) (by omega) (kV ?_) xV
    refine g_put ok ck_X4 2 q149 (Or.inl rfl) (by decide) rfl dX3_takes_74 (up_self) (dl rfl) rfl rfl (fs1 := [.int (nI i), .int (nI j), .int (f * s + x * (((nI j) - (nI i)) + 1)), .int (f * m + x), .int (f * g + x)]) rfl (?_)
    exact g_vret ok fn rfl dX3_takes_77 ⟨rfl, by rw [if_pos c0, if_pos c0]; simp only [up_up]⟩ (by omega)
  · refine g_aload_n ok dX3_takes_0 rfl ?_
    refine g_aload_n ok dX3_takes_1 rfl ?_
    refine g_callV ok q953 q954 q955 q67 q956 (Recv.ob ok gc_X7 (ru)) dX3_takes_2 (x_round X.l X.G _ u f x (ru) ) (nm_ (by decide : nmb _ 0 = true)) (dl rfl) (dk rfl) rfl rfl (dk rfl) (by omega) (kV ?_) xV
    rw [decide_eq_false c0]
    refine g_if_eq ok (tgt := 15) dX3_takes_5 (by decide) (fun _ => ?_) (fun c_ => absurd rfl c_)
    refine g_aload_n ok dX3_takes_15 rfl ?_
    refine g_get ok ck_X4 3 q154 (Or.inl rfl) (by decide) dX3_takes_16 (Rd.h (ra)) rfl ?_
    refine g_callV ok q957 q958 q959 q67 q960 (Recv.ob ok gc_X7 (ru)) dX3_takes_19 (x_on X.l X.G _ u f x (ru) g) (nm_ (by decide : nmb _ 1 = true)) (dl rfl) (dk rfl) rfl rfl (dk rfl) (by omega) (kV ?_) xV
    refine g_istore_n ok dX3_takes_22 (ls1 := [some (.ref a), some (.ref u), some (.int (f * g + x))]) (dl rfl) rfl ?_
    refine g_aload_n ok dX3_takes_23 rfl ?_
    refine g_aload_n ok dX3_takes_24 rfl ?_
    refine g_aload_n ok dX3_takes_25 rfl ?_
    refine g_callV ok q953 q954 q955 q67 q956 (Recv.ob ok gc_X7 (ru)) dX3_takes_26 (x_round X.l X.G _ u f x (ru) ) (nm_ (by decide : nmb _ 0 = true)) (dl rfl) (dk rfl) rfl rfl (dk rfl) (by omega) (kV ?_) xV
    rw [decide_eq_false c0]
    refine g_if_eq ok (tgt := 39) dX3_takes_29 (by decide) (fun _ => ?_) (fun c_ => absurd rfl c_)
    refine g_aload_n ok dX3_takes_39 rfl ?_
    refine g_get ok ck_X4 4 q159 (Or.inl rfl) (by decide) dX3_takes_40 (Rd.h (ra)) rfl ?_
    refine g_callV ok q957 q958 q959 q67 q960 (Recv.ob ok gc_X7 (ru)) dX3_takes_43 (x_on X.l X.G _ u f x (ru) m) (nm_ (by decide : nmb _ 1 = true)) (dl rfl) (dk rfl) rfl rfl (dk rfl) (by omega) (kV ?_) xV
    refine g_put ok ck_X4 4 q159 (Or.inl rfl) (by decide) rfl dX3_takes_46 (ra) (dl rfl) rfl rfl (fs1 := [.int (nI i), .int (nI j), .int s, .int g, .int (f * m + x)]) rfl (?_)
    refine g_aload_n ok dX3_takes_49 rfl ?_
    refine g_iload_n ok dX3_takes_50 rfl ?_
    refine g_put ok ck_X4 3 q154 (Or.inl rfl) (by decide) rfl dX3_takes_51 (up_self) (dl rfl) rfl rfl (fs1 := [.int (nI i), .int (nI j), .int s, .int (f * g + x), .int (f * m + x)]) rfl (?_)
    refine g_aload_n ok dX3_takes_54 rfl ?_
    refine g_aload_n ok dX3_takes_55 rfl ?_
    refine g_aload_n ok dX3_takes_56 rfl ?_
    refine g_get ok ck_X4 2 q149 (Or.inl rfl) (by decide) dX3_takes_57 (Rd.h (up_self)) rfl ?_
    refine g_aload_n ok dX3_takes_60 rfl ?_
    refine g_get ok ck_X4 1 q146 (Or.inl rfl) (by decide) dX3_takes_61 (Rd.h (up_self)) rfl ?_
    refine g_aload_n ok dX3_takes_64 rfl ?_
    refine g_get ok ck_X4 0 q141 (Or.inl rfl) (by decide) dX3_takes_65 (Rd.h (up_self)) rfl ?_
    refine g_isub ok dX3_takes_68 ?_
    refine g_iconst ok (v := 1) dX3_takes_69 rfl ?_
    refine g_iadd ok dX3_takes_70 ?_
    refine g_callV ok q961 q962 q963 q67 q964 (Recv.ob ok gc_X7 (Rd.up (Rd.up (ru) nua) nua)) dX3_takes_71 (x_onSum X.l X.G _ u f x (Rd.up (Rd.up (ru) nua) nua) s (((nI j) - (nI i)) + 1)) (nm_ (by decide : nmb _ 2 = true)) (dl rfl) (dk rfl) rfl rfl (dk rfl) (by omega) (kV ?_) xV
    refine g_put ok ck_X4 2 q149 (Or.inl rfl) (by decide) rfl dX3_takes_74 (up_self) (dl rfl) rfl rfl (fs1 := [.int (nI i), .int (nI j), .int (f * s + x * (((nI j) - (nI i)) + 1)), .int (f * g + x), .int (f * m + x)]) rfl (?_)
    exact g_vret ok fn rfl dX3_takes_77 ⟨rfl, by rw [if_neg c0, if_neg c0]; simp only [up_up]⟩ (by omega)
theorem x_apartX6 (l : Launch) (G : GE) (h : AH) (a i j : Nat) (s g m : Int32) (kl kr kt : Nat) (ra : Rd G h a (ob 3 [.int (nI i), .int (nI j), .int s, .int g, .int m, .ref kl, .ref kr, .ref kt])) (x y : Int32) : GM l G yX3_isApart (ws_ yX3_isApart cX3_isApart 3 (some .boolean)) 1 [.ref a, .int x, .int y] (h) (0) (PV (.int (bI (decide (nI j < x) || decide (y < nI i)))) h) := by
  refine GM.of (by decide) (dk rfl) ?_
  intro X eL eG eh ok fn
  subst eL; subst eG
  show GW X _ 0 0 [some (.ref a), some (.int x), some (.int y)] []
  refine g_aload_n ok dX3_isApart_0 rfl ?_
  refine g_get ok ck_X6 1 q146 (Or.inl rfl) (by decide) dX3_isApart_1 (ra) rfl ?_
  refine g_iload_n ok dX3_isApart_4 rfl ?_
  refine g_icmp_lt ok (tgt := 16) dX3_isApart_5 (by decide) (fun c5 => ?_) (fun c5 => ?_)
  · have c5' := Int32.not_le.mpr c5
    refine g_iconst ok (v := 1) dX3_isApart_16 rfl ?_
    refine g_goto ok dX3_isApart_17 (tgt := 21) (by decide) ?_
    exact g_zret ok fn rfl rfl dX3_isApart_21 (pv_h (by simp [bI, c5, c5'])) (by omega)
  · have c5' := Int32.not_lt.mp c5
    refine g_iload_n ok dX3_isApart_8 rfl ?_
    refine g_aload_n ok dX3_isApart_9 rfl ?_
    refine g_get ok ck_X6 0 q141 (Or.inl rfl) (by decide) dX3_isApart_10 (ra) rfl ?_
    refine g_icmp_ge ok (tgt := 20) dX3_isApart_13 (by decide) (fun c13 => ?_) (fun c13 => ?_)
    · have c13' := Int32.not_lt.mpr c13
      refine g_iconst ok (v := 0) dX3_isApart_20 rfl ?_
      exact g_zret ok fn rfl rfl dX3_isApart_21 (pv_h (by simp [bI, c5, c5', c13, c13'])) (by omega)
    · have c13' := Int32.not_le.mp c13
      refine g_iconst ok (v := 1) dX3_isApart_16 rfl ?_
      refine g_goto ok dX3_isApart_17 (tgt := 21) (by decide) ?_
      exact g_zret ok fn rfl rfl dX3_isApart_21 (pv_h (by simp [bI, c5, c5', c13, c13'])) (by omega)
theorem x_withinX6 (l : Launch) (G : GE) (h : AH) (a i j : Nat) (s g m : Int32) (kl kr kt : Nat) (ra : Rd G h a (ob 3 [.int (nI i), .int (nI j), .int s, .int g, .int m, .ref kl, .ref kr, .ref kt])) (x y : Int32) : GM l G yX3_isIn (ws_ yX3_isIn cX3_isIn 3 (some .boolean)) 1 [.ref a, .int x, .int y] (h) (0) (PV (.int (bI (decide (x ≤ nI i) && decide (nI j ≤ y)))) h) := by
  refine GM.of (by decide) (dk rfl) ?_
  intro X eL eG eh ok fn
  subst eL; subst eG
  show GW X _ 0 0 [some (.ref a), some (.int x), some (.int y)] []
  refine g_iload_n ok dX3_isIn_0 rfl ?_
  refine g_aload_n ok dX3_isIn_1 rfl ?_
  refine g_get ok ck_X6 0 q141 (Or.inl rfl) (by decide) dX3_isIn_2 (ra) rfl ?_
  refine g_icmp_gt ok (tgt := 20) dX3_isIn_5 (by decide) (fun c5 => ?_) (fun c5 => ?_)
  · have c5' := Int32.not_le.mpr c5
    refine g_iconst ok (v := 0) dX3_isIn_20 rfl ?_
    exact g_zret ok fn rfl rfl dX3_isIn_21 (pv_h (by simp [bI, c5, c5'])) (by omega)
  · have c5' := Int32.not_lt.mp c5
    refine g_aload_n ok dX3_isIn_8 rfl ?_
    refine g_get ok ck_X6 1 q146 (Or.inl rfl) (by decide) dX3_isIn_9 (ra) rfl ?_
    refine g_iload_n ok dX3_isIn_12 rfl ?_
    refine g_icmp_gt ok (tgt := 20) dX3_isIn_13 (by decide) (fun c13 => ?_) (fun c13 => ?_)
    · have c13' := Int32.not_le.mpr c13
      refine g_iconst ok (v := 0) dX3_isIn_20 rfl ?_
      exact g_zret ok fn rfl rfl dX3_isIn_21 (pv_h (by simp [bI, c5, c5', c13, c13'])) (by omega)
    · have c13' := Int32.not_lt.mp c13
      refine g_iconst ok (v := 1) dX3_isIn_16 rfl ?_
      refine g_goto ok dX3_isIn_17 (tgt := 21) (by decide) ?_
      exact g_zret ok fn rfl rfl dX3_isIn_21 (pv_h (by simp [bI, c5, c5', c13, c13'])) (by omega)
theorem x_ntakesX6 (l : Launch) (G : GE) (h : AH) (a i j : Nat) (s g m : Int32) (kl kr kt : Nat) (u : Nat) (f x : Int32) (ra : h a = some (ob 3 [.int (nI i), .int (nI j), .int s, .int g, .int m, .ref kl, .ref kr, .ref kt])) (ru : Rd G h u (ob 4 [.int f, .int x])) (nua0 : u ≠ a) : GM l G yX3_takes (ws_ yX3_takes cX3_takes 3 none) 2 [.ref a, .ref u] (h) (0) (PN (up h a (ob 3 [.int (nI i), .int (nI j), .int (f * s + x * (nI j - nI i + 1)), .int (f * (if f < 0 then m else g) + x), .int (f * (if f < 0 then g else m) + x), .ref kl, .ref kr, .ref kt]))) := by
  refine GM.of (by decide) (dk rfl) ?_
  intro X eL eG eh ok fn
  subst eL; subst eG
  show GW X _ 0 0 [some (.ref a), some (.ref u), none] []
  have nua : u ≠ a := nua0
  by_cases c0 : f < 0
  · refine g_aload_n ok dX3_takes_0 rfl ?_
    refine g_aload_n ok dX3_takes_1 rfl ?_
    refine g_callV ok q953 q954 q955 q67 q956 (Recv.ob ok gc_X7 (ru)) dX3_takes_2 (x_round X.l X.G _ u f x (ru) ) (nm_ (by decide : nmb _ 0 = true)) (dl rfl) (dk rfl) rfl rfl (dk rfl) (by omega) (kV ?_) xV
    rw [decide_eq_true c0]
    refine g_if_eq ok (tgt := 15) dX3_takes_5 (by decide) (fun c_ => absurd c_ (by decide)) (fun _ => ?_)
    refine g_aload_n ok dX3_takes_8 rfl ?_
    refine g_get ok ck_X6 4 q159 (Or.inl rfl) (by decide) dX3_takes_9 (Rd.h (ra)) rfl ?_
    refine g_goto ok dX3_takes_12 (tgt := 19) (by decide) ?_
    refine g_callV ok q957 q958 q959 q67 q960 (Recv.ob ok gc_X7 (ru)) dX3_takes_19 (x_on X.l X.G _ u f x (ru) m) (nm_ (by decide : nmb _ 1 = true)) (dl rfl) (dk rfl) rfl rfl (dk rfl) (by omega) (kV ?_) xV
    refine g_istore_n ok dX3_takes_22 (ls1 := [some (.ref a), some (.ref u), some (.int (f * m + x))]) (dl rfl) rfl ?_
    refine g_aload_n ok dX3_takes_23 rfl ?_
    refine g_aload_n ok dX3_takes_24 rfl ?_
    refine g_aload_n ok dX3_takes_25 rfl ?_
    refine g_callV ok q953 q954 q955 q67 q956 (Recv.ob ok gc_X7 (ru)) dX3_takes_26 (x_round X.l X.G _ u f x (ru) ) (nm_ (by decide : nmb _ 0 = true)) (dl rfl) (dk rfl) rfl rfl (dk rfl) (by omega) (kV ?_) xV
    rw [decide_eq_true c0]
    refine g_if_eq ok (tgt := 39) dX3_takes_29 (by decide) (fun c_ => absurd c_ (by decide)) (fun _ => ?_)
    refine g_aload_n ok dX3_takes_32 rfl ?_
    refine g_get ok ck_X6 3 q154 (Or.inl rfl) (by decide) dX3_takes_33 (Rd.h (ra)) rfl ?_
    refine g_goto ok dX3_takes_36 (tgt := 43) (by decide) ?_
    refine g_callV ok q957 q958 q959 q67 q960 (Recv.ob ok gc_X7 (ru)) dX3_takes_43 (x_on X.l X.G _ u f x (ru) g) (nm_ (by decide : nmb _ 1 = true)) (dl rfl) (dk rfl) rfl rfl (dk rfl) (by omega) (kV ?_) xV
    refine g_put ok ck_X6 4 q159 (Or.inl rfl) (by decide) rfl dX3_takes_46 (ra) (dl rfl) rfl rfl (fs1 := [.int (nI i), .int (nI j), .int s, .int g, .int (f * g + x), .ref kl, .ref kr, .ref kt]) rfl (?_)
    refine g_aload_n ok dX3_takes_49 rfl ?_
    refine g_iload_n ok dX3_takes_50 rfl ?_
    refine g_put ok ck_X6 3 q154 (Or.inl rfl) (by decide) rfl dX3_takes_51 (up_self) (dl rfl) rfl rfl (fs1 := [.int (nI i), .int (nI j), .int s, .int (f * m + x), .int (f * g + x), .ref kl, .ref kr, .ref kt]) rfl (?_)
    refine g_aload_n ok dX3_takes_54 rfl ?_
    refine g_aload_n ok dX3_takes_55 rfl ?_
    refine g_aload_n ok dX3_takes_56 rfl ?_
    refine g_get ok ck_X6 2 q149 (Or.inl rfl) (by decide) dX3_takes_57 (Rd.h (up_self)) rfl ?_
    refine g_aload_n ok dX3_takes_60 rfl ?_
    refine g_get ok ck_X6 1 q146 (Or.inl rfl) (by decide) dX3_takes_61 (Rd.h (up_self)) rfl ?_
    refine g_aload_n ok dX3_takes_64 rfl ?_
    refine g_get ok ck_X6 0 q141 (Or.inl rfl) (by decide) dX3_takes_65 (Rd.h (up_self)) rfl ?_
    refine g_isub ok dX3_takes_68 ?_
    refine g_iconst ok (v := 1) dX3_takes_69 rfl ?_
    refine g_iadd ok dX3_takes_70 ?_
    refine g_callV ok q961 q962 q963 q67 q964 (Recv.ob ok gc_X7 (Rd.up (Rd.up (ru) nua) nua)) dX3_takes_71 (x_onSum X.l X.G _ u f x (Rd.up (Rd.up (ru) nua) nua) s (((nI j) - (nI i)) + 1)) (nm_ (by decide : nmb _ 2 = true)) (dl rfl) (dk rfl) rfl rfl (dk rfl) (by omega) (kV ?_) xV
    refine g_put ok ck_X6 2 q149 (Or.inl rfl) (by decide) rfl dX3_takes_74 (up_self) (dl rfl) rfl rfl (fs1 := [.int (nI i), .int (nI j), .int (f * s + x * (((nI j) - (nI i)) + 1)), .int (f * m + x), .int (f * g + x), .ref kl, .ref kr, .ref kt]) rfl (?_)
    exact g_vret ok fn rfl dX3_takes_77 ⟨rfl, by rw [if_pos c0, if_pos c0]; simp only [up_up]⟩ (by omega)
  · refine g_aload_n ok dX3_takes_0 rfl ?_
    refine g_aload_n ok dX3_takes_1 rfl ?_
    refine g_callV ok q953 q954 q955 q67 q956 (Recv.ob ok gc_X7 (ru)) dX3_takes_2 (x_round X.l X.G _ u f x (ru) ) (nm_ (by decide : nmb _ 0 = true)) (dl rfl) (dk rfl) rfl rfl (dk rfl) (by omega) (kV ?_) xV
    rw [decide_eq_false c0]
    refine g_if_eq ok (tgt := 15) dX3_takes_5 (by decide) (fun _ => ?_) (fun c_ => absurd rfl c_)
    refine g_aload_n ok dX3_takes_15 rfl ?_
    refine g_get ok ck_X6 3 q154 (Or.inl rfl) (by decide) dX3_takes_16 (Rd.h (ra)) rfl ?_
    refine g_callV ok q957 q958 q959 q67 q960 (Recv.ob ok gc_X7 (ru)) dX3_takes_19 (x_on X.l X.G _ u f x (ru) g) (nm_ (by decide : nmb _ 1 = true)) (dl rfl) (dk rfl) rfl rfl (dk rfl) (by omega) (kV ?_) xV
    refine g_istore_n ok dX3_takes_22 (ls1 := [some (.ref a), some (.ref u), some (.int (f * g + x))]) (dl rfl) rfl ?_
    refine g_aload_n ok dX3_takes_23 rfl ?_
    refine g_aload_n ok dX3_takes_24 rfl ?_
    refine g_aload_n ok dX3_takes_25 rfl ?_
    refine g_callV ok q953 q954 q955 q67 q956 (Recv.ob ok gc_X7 (ru)) dX3_takes_26 (x_round X.l X.G _ u f x (ru) ) (nm_ (by decide : nmb _ 0 = true)) (dl rfl) (dk rfl) rfl rfl (dk rfl) (by omega) (kV ?_) xV
    rw [decide_eq_false c0]
    refine g_if_eq ok (tgt := 39) dX3_takes_29 (by decide) (fun _ => ?_) (fun c_ => absurd rfl c_)
    refine g_aload_n ok dX3_takes_39 rfl ?_
    refine g_get ok ck_X6 4 q159 (Or.inl rfl) (by decide) dX3_takes_40 (Rd.h (ra)) rfl ?_
    refine g_callV ok q957 q958 q959 q67 q960 (Recv.ob ok gc_X7 (ru)) dX3_takes_43 (x_on X.l X.G _ u f x (ru) m) (nm_ (by decide : nmb _ 1 = true)) (dl rfl) (dk rfl) rfl rfl (dk rfl) (by omega) (kV ?_) xV
    refine g_put ok ck_X6 4 q159 (Or.inl rfl) (by decide) rfl dX3_takes_46 (ra) (dl rfl) rfl rfl (fs1 := [.int (nI i), .int (nI j), .int s, .int g, .int (f * m + x), .ref kl, .ref kr, .ref kt]) rfl (?_)
    refine g_aload_n ok dX3_takes_49 rfl ?_
    refine g_iload_n ok dX3_takes_50 rfl ?_
    refine g_put ok ck_X6 3 q154 (Or.inl rfl) (by decide) rfl dX3_takes_51 (up_self) (dl rfl) rfl rfl (fs1 := [.int (nI i), .int (nI j), .int s, .int (f * g + x), .int (f * m + x), .ref kl, .ref kr, .ref kt]) rfl (?_)
    refine g_aload_n ok dX3_takes_54 rfl ?_
    refine g_aload_n ok dX3_takes_55 rfl ?_
    refine g_aload_n ok dX3_takes_56 rfl ?_
    refine g_get ok ck_X6 2 q149 (Or.inl rfl) (by decide) dX3_takes_57 (Rd.h (up_self)) rfl ?_
    refine g_aload_n ok dX3_takes_60 rfl ?_
    refine g_get ok ck_X6 1 q146 (Or.inl rfl) (by decide) dX3_takes_61 (Rd.h (up_self)) rfl ?_
    refine g_aload_n ok dX3_takes_64 rfl ?_
    refine g_get ok ck_X6 0 q141 (Or.inl rfl) (by decide) dX3_takes_65 (Rd.h (up_self)) rfl ?_
    refine g_isub ok dX3_takes_68 ?_
    refine g_iconst ok (v := 1) dX3_takes_69 rfl ?_
    refine g_iadd ok dX3_takes_70 ?_
    refine g_callV ok q961 q962 q963 q67 q964 (Recv.ob ok gc_X7 (Rd.up (Rd.up (ru) nua) nua)) dX3_takes_71 (x_onSum X.l X.G _ u f x (Rd.up (Rd.up (ru) nua) nua) s (((nI j) - (nI i)) + 1)) (nm_ (by decide : nmb _ 2 = true)) (dl rfl) (dk rfl) rfl rfl (dk rfl) (by omega) (kV ?_) xV
    refine g_put ok ck_X6 2 q149 (Or.inl rfl) (by decide) rfl dX3_takes_74 (up_self) (dl rfl) rfl rfl (fs1 := [.int (nI i), .int (nI j), .int (f * s + x * (((nI j) - (nI i)) + 1)), .int (f * g + x), .int (f * m + x), .ref kl, .ref kr, .ref kt]) rfl (?_)
    exact g_vret ok fn rfl dX3_takes_77 ⟨rfl, by rw [if_neg c0, if_neg c0]; simp only [up_up]⟩ (by omega)
theorem up_none {h : AH} {a q : Nat} {e : va_E} (x : up h a e q = none) : h q = none := by
  by_cases z : q = a
  · subst z; rw [up_self] at x; cases x
  · rw [up_ne z] at x; exact x
theorem x_btakes (l : Launch) (G : GE) (h : AH) (a i j : Nat) (s g m : Int32) (kl kr kt : Nat) (u : Nat) (f x f0 x0 : Int32) (ra : h a = some (ob 3 [.int (nI i), .int (nI j), .int s, .int g, .int m, .ref kl, .ref kr, .ref kt])) (ru : h u = some (ob 4 [.int f, .int x])) (rt : h kt = some (ob 4 [.int f0, .int x0])) : GM l G yX6_takes (ws_ yX6_takes cX6_takes 2 none) 3 [.ref a, .ref u] (h) (3) (PQ fun h' => ∃ t2, h t2 = none ∧ G.kh t2 = none ∧ h' = up (up h t2 (ob 4 [.int (f0 * f), .int (x0 * f + x)])) a (ob 3 [.int (nI i), .int (nI j), .int (f * s + x * (nI j - nI i + 1)), .int (f * (if f < 0 then m else g) + x), .int (f * (if f < 0 then g else m) + x), .ref kl, .ref kr, .ref t2])) := by
  refine GM.of (by decide) (dk rfl) ?_
  intro X eL eG eh ok fn
  subst eL; subst eG
  show GW X _ 0 0 [some (.ref a), some (.ref u)] []
  have nua : u ≠ a := fun z => by subst z; rw [ra] at ru; cases ru
  have nta : kt ≠ a := fun z => by subst z; rw [ra] at rt; cases rt
  refine g_aload_n ok dX6_takes_0 rfl ?_
  refine g_aload_n ok dX6_takes_1 rfl ?_
  refine g_callSU2 ok (y := yX3_takes) (xc := "SpanRuler$Inner") q948 q949 q212 q951 q943 q63 q952 (by decide) gc_X6 (Rd.h (ra)) dX6_takes_2 (x_ntakesX6 X.l X.G _ a i j s g m kl kr kt u f x ra (Rd.h ru) nua) (nm_ (by decide : nmb _ 1 = true)) (dl rfl) (dk rfl) rfl rfl (dk rfl) (by omega) (kN ?_) xN
  refine g_aload_n ok dX6_takes_5 rfl ?_
  refine g_aload_n ok dX6_takes_6 rfl ?_
  refine g_get ok ck_X6 7 q200 (Or.inl rfl) (by decide) dX6_takes_7 (Rd.h (up_self)) rfl ?_
  refine g_aload_n ok dX6_takes_10 rfl ?_
  refine g_callV ok q965 q966 q967 q67 q968 (Recv.ob ok gc_X7 (Rd.h ((up_ne nta).trans (rt)))) dX6_takes_11 (x_then X.l X.G _ kt u f0 x0 f x (Rd.h ((up_ne nta).trans (rt))) (Rd.h ((up_ne nua).trans (ru)))) (nm_ (by decide : nmb _ 1 = true)) (dl rfl) (dk rfl) rfl rfl (dk rfl) (by omega) (kR fun v h2 ⟨t2, u0, u1, u2, u3⟩ => ?_) xR
  subst u0; subst u3
  have ne0 := Rd.ne (Rd.h (up_self)) u1 u2
  have ne1 := Rd.ne (Rd.h ((up_ne nua).trans (ru))) u1 u2
  have ne2 := Rd.ne (Rd.h ((up_ne nta).trans (rt))) u1 u2
  refine g_put ok ck_X6 7 q200 (Or.inl rfl) (by decide) rfl dX6_takes_14 ((up_ne ne0).trans (up_self)) (dl rfl) rfl rfl (fs1 := [.int (nI i), .int (nI j), .int (f * s + x * (nI j - nI i + 1)), .int (f * (if f < 0 then m else g) + x), .int (f * (if f < 0 then g else m) + x), .ref kl, .ref kr, .ref t2]) rfl (?_)
  exact g_vret ok fn rfl dX6_takes_17 ⟨rfl, t2, (up_none u1), u2, by rw [up_xyx ne0]⟩ (by omega)
