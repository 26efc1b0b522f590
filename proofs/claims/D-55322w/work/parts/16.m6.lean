/-! THE MODEL: what its methods compute, 6 -/
set_option maxRecDepth 100000
abbrev cX8_cell : ByteArray := prog_19_method_38_code
def yX8_cell : MethodName := ⟨RX8, "cell", "(I)I"⟩
def dkwX8_cell_1 : List UInt8 := [182, 0, 58, 172]
abbrev dktX8_cell_1 : List UInt8 := dkwX8_cell_1 ++ []
def dkwX8_cell_0 : List UInt8 := [42, 3, 181, 0, 45, 27, 184, 0, 71, 153, 0, 11, 42, 27, 182, 0, 75, 167, 0, 8, 42, 4]
abbrev dktX8_cell_0 : List UInt8 := dkwX8_cell_0 ++ dktX8_cell_1
theorem dksX8_cell_0 : cX8_cell.data.toList.drop 0 = dktX8_cell_0 := by decide +kernel
theorem dksX8_cell_1 : cX8_cell.data.toList.drop 22 = dktX8_cell_1 := dk_seg dksX8_cell_0 22 rfl rfl
theorem dX8_cell_0 : decode cX8_cell 0 = .ok (.aload_n 0, 1) := dk_42 (dk_at dksX8_cell_0 0 rfl rfl)
theorem dX8_cell_1 : decode cX8_cell 1 = .ok (.iconst 0, 1) := dk_3 (dk_at dksX8_cell_0 1 rfl rfl)
theorem dX8_cell_2 : decode cX8_cell 2 = .ok (.putfield 45, 3) := dk_181 0 45 (dk_at dksX8_cell_0 2 rfl rfl)
theorem dX8_cell_5 : decode cX8_cell 5 = .ok (.iload_n 1, 1) := dk_27 (dk_at dksX8_cell_0 5 rfl rfl)
theorem dX8_cell_6 : decode cX8_cell 6 = .ok (.invokestatic 71, 3) := dk_184 0 71 (dk_at dksX8_cell_0 6 rfl rfl)
theorem dX8_cell_9 : decode cX8_cell 9 = .ok (.ifCond .eq 11, 3) := dk_153 0 11 (dk_at dksX8_cell_0 9 rfl rfl)
theorem dX8_cell_12 : decode cX8_cell 12 = .ok (.aload_n 0, 1) := dk_42 (dk_at dksX8_cell_0 12 rfl rfl)
theorem dX8_cell_13 : decode cX8_cell 13 = .ok (.iload_n 1, 1) := dk_27 (dk_at dksX8_cell_0 13 rfl rfl)
theorem dX8_cell_14 : decode cX8_cell 14 = .ok (.invokevirtual 75, 3) := dk_182 0 75 (dk_at dksX8_cell_0 14 rfl rfl)
theorem dX8_cell_17 : decode cX8_cell 17 = .ok (.goto 8, 3) := dk_167 0 8 (dk_at dksX8_cell_0 17 rfl rfl)
theorem dX8_cell_20 : decode cX8_cell 20 = .ok (.aload_n 0, 1) := dk_42 (dk_at dksX8_cell_0 20 rfl rfl)
theorem dX8_cell_21 : decode cX8_cell 21 = .ok (.iconst 1, 1) := dk_4 (dk_at dksX8_cell_0 21 rfl rfl)
theorem dX8_cell_22 : decode cX8_cell 22 = .ok (.invokevirtual 58, 3) := dk_182 0 58 (dk_at dksX8_cell_1 0 rfl rfl)
theorem dX8_cell_25 : decode cX8_cell 25 = .ok (.ireturn, 1) := dk_172 (dk_at dksX8_cell_1 3 rfl rfl)
abbrev cX8_sum : ByteArray := prog_19_method_39_code
def yX8_sum : MethodName := ⟨RX8, "sum", "(II)I"⟩
def dkwX8_sum_1 : List UInt8 := [182, 0, 58, 172]
abbrev dktX8_sum_1 : List UInt8 := dkwX8_sum_1 ++ []
def dkwX8_sum_0 : List UInt8 := [42, 3, 181, 0, 45, 27, 28, 184, 0, 82, 153, 0, 12, 42, 27, 28, 182, 0, 101, 167, 0, 8, 42, 4]
abbrev dktX8_sum_0 : List UInt8 := dkwX8_sum_0 ++ dktX8_sum_1
theorem dksX8_sum_0 : cX8_sum.data.toList.drop 0 = dktX8_sum_0 := by decide +kernel
theorem dksX8_sum_1 : cX8_sum.data.toList.drop 24 = dktX8_sum_1 := dk_seg dksX8_sum_0 24 rfl rfl
theorem dX8_sum_0 : decode cX8_sum 0 = .ok (.aload_n 0, 1) := dk_42 (dk_at dksX8_sum_0 0 rfl rfl)
theorem dX8_sum_1 : decode cX8_sum 1 = .ok (.iconst 0, 1) := dk_3 (dk_at dksX8_sum_0 1 rfl rfl)
theorem dX8_sum_2 : decode cX8_sum 2 = .ok (.putfield 45, 3) := dk_181 0 45 (dk_at dksX8_sum_0 2 rfl rfl)
theorem dX8_sum_5 : decode cX8_sum 5 = .ok (.iload_n 1, 1) := dk_27 (dk_at dksX8_sum_0 5 rfl rfl)
theorem dX8_sum_6 : decode cX8_sum 6 = .ok (.iload_n 2, 1) := dk_28 (dk_at dksX8_sum_0 6 rfl rfl)
theorem dX8_sum_7 : decode cX8_sum 7 = .ok (.invokestatic 82, 3) := dk_184 0 82 (dk_at dksX8_sum_0 7 rfl rfl)
theorem dX8_sum_10 : decode cX8_sum 10 = .ok (.ifCond .eq 12, 3) := dk_153 0 12 (dk_at dksX8_sum_0 10 rfl rfl)
theorem dX8_sum_13 : decode cX8_sum 13 = .ok (.aload_n 0, 1) := dk_42 (dk_at dksX8_sum_0 13 rfl rfl)
theorem dX8_sum_14 : decode cX8_sum 14 = .ok (.iload_n 1, 1) := dk_27 (dk_at dksX8_sum_0 14 rfl rfl)
theorem dX8_sum_15 : decode cX8_sum 15 = .ok (.iload_n 2, 1) := dk_28 (dk_at dksX8_sum_0 15 rfl rfl)
theorem dX8_sum_16 : decode cX8_sum 16 = .ok (.invokevirtual 101, 3) := dk_182 0 101 (dk_at dksX8_sum_0 16 rfl rfl)
theorem dX8_sum_19 : decode cX8_sum 19 = .ok (.goto 8, 3) := dk_167 0 8 (dk_at dksX8_sum_0 19 rfl rfl)
theorem dX8_sum_22 : decode cX8_sum 22 = .ok (.aload_n 0, 1) := dk_42 (dk_at dksX8_sum_0 22 rfl rfl)
theorem dX8_sum_23 : decode cX8_sum 23 = .ok (.iconst 1, 1) := dk_4 (dk_at dksX8_sum_0 23 rfl rfl)
theorem dX8_sum_24 : decode cX8_sum 24 = .ok (.invokevirtual 58, 3) := dk_182 0 58 (dk_at dksX8_sum_1 0 rfl rfl)
theorem dX8_sum_27 : decode cX8_sum 27 = .ok (.ireturn, 1) := dk_172 (dk_at dksX8_sum_1 3 rfl rfl)
abbrev cX8_sumAgain : ByteArray := prog_19_method_40_code
def yX8_sumAgain : MethodName := ⟨RX8, "sumAgain", "(II)I"⟩
def dkwX8_sumAgain_0 : List UInt8 := [42, 27, 28, 182, 0, 148, 172]
abbrev dktX8_sumAgain_0 : List UInt8 := dkwX8_sumAgain_0 ++ []
theorem dksX8_sumAgain_0 : cX8_sumAgain.data.toList.drop 0 = dktX8_sumAgain_0 := by decide +kernel
theorem dX8_sumAgain_0 : decode cX8_sumAgain 0 = .ok (.aload_n 0, 1) := dk_42 (dk_at dksX8_sumAgain_0 0 rfl rfl)
theorem dX8_sumAgain_1 : decode cX8_sumAgain 1 = .ok (.iload_n 1, 1) := dk_27 (dk_at dksX8_sumAgain_0 1 rfl rfl)
theorem dX8_sumAgain_2 : decode cX8_sumAgain 2 = .ok (.iload_n 2, 1) := dk_28 (dk_at dksX8_sumAgain_0 2 rfl rfl)
theorem dX8_sumAgain_3 : decode cX8_sumAgain 3 = .ok (.invokevirtual 148, 3) := dk_182 0 148 (dk_at dksX8_sumAgain_0 3 rfl rfl)
theorem dX8_sumAgain_6 : decode cX8_sumAgain 6 = .ok (.ireturn, 1) := dk_172 (dk_at dksX8_sumAgain_0 6 rfl rfl)
abbrev cX8_finds : ByteArray := prog_19_method_41_code
def yX8_finds : MethodName := ⟨RX8, "finds", "(II)I"⟩
def dkwX8_finds_3 : List UInt8 := [132, 5, 1, 167, 255, 213, 132, 4, 1, 167, 255, 197, 29, 172]
abbrev dktX8_finds_3 : List UInt8 := dkwX8_finds_3 ++ []
def dkwX8_finds_2 : List UInt8 := [21, 6, 29, 163, 0, 6, 167, 0, 18, 21, 6, 62, 42, 21, 4, 181, 0, 151, 42, 21, 5, 181, 0, 154]
abbrev dktX8_finds_2 : List UInt8 := dkwX8_finds_2 ++ dktX8_finds_3
def dkwX8_finds_1 : List UInt8 := [163, 0, 59, 21, 4, 54, 5, 21, 5, 28, 163, 0, 43, 42, 21, 4, 21, 5, 182, 0, 101, 54, 6]
abbrev dktX8_finds_1 : List UInt8 := dkwX8_finds_1 ++ dktX8_finds_2
def dkwX8_finds_0 : List UInt8 := [42, 27, 182, 0, 75, 62, 42, 27, 181, 0, 151, 42, 27, 181, 0, 154, 27, 54, 4, 21, 4, 28]
abbrev dktX8_finds_0 : List UInt8 := dkwX8_finds_0 ++ dktX8_finds_1
theorem dksX8_finds_0 : cX8_finds.data.toList.drop 0 = dktX8_finds_0 := by decide +kernel
theorem dksX8_finds_1 : cX8_finds.data.toList.drop 22 = dktX8_finds_1 := dk_seg dksX8_finds_0 22 rfl rfl
theorem dksX8_finds_2 : cX8_finds.data.toList.drop 45 = dktX8_finds_2 := dk_seg dksX8_finds_1 23 rfl rfl
theorem dksX8_finds_3 : cX8_finds.data.toList.drop 69 = dktX8_finds_3 := dk_seg dksX8_finds_2 24 rfl rfl
theorem dX8_finds_0 : decode cX8_finds 0 = .ok (.aload_n 0, 1) := dk_42 (dk_at dksX8_finds_0 0 rfl rfl)
theorem dX8_finds_1 : decode cX8_finds 1 = .ok (.iload_n 1, 1) := dk_27 (dk_at dksX8_finds_0 1 rfl rfl)
theorem dX8_finds_2 : decode cX8_finds 2 = .ok (.invokevirtual 75, 3) := dk_182 0 75 (dk_at dksX8_finds_0 2 rfl rfl)
theorem dX8_finds_5 : decode cX8_finds 5 = .ok (.istore_n 3, 1) := dk_62 (dk_at dksX8_finds_0 5 rfl rfl)
theorem dX8_finds_6 : decode cX8_finds 6 = .ok (.aload_n 0, 1) := dk_42 (dk_at dksX8_finds_0 6 rfl rfl)
theorem dX8_finds_7 : decode cX8_finds 7 = .ok (.iload_n 1, 1) := dk_27 (dk_at dksX8_finds_0 7 rfl rfl)
theorem dX8_finds_8 : decode cX8_finds 8 = .ok (.putfield 151, 3) := dk_181 0 151 (dk_at dksX8_finds_0 8 rfl rfl)
theorem dX8_finds_11 : decode cX8_finds 11 = .ok (.aload_n 0, 1) := dk_42 (dk_at dksX8_finds_0 11 rfl rfl)
theorem dX8_finds_12 : decode cX8_finds 12 = .ok (.iload_n 1, 1) := dk_27 (dk_at dksX8_finds_0 12 rfl rfl)
theorem dX8_finds_13 : decode cX8_finds 13 = .ok (.putfield 154, 3) := dk_181 0 154 (dk_at dksX8_finds_0 13 rfl rfl)
theorem dX8_finds_16 : decode cX8_finds 16 = .ok (.iload_n 1, 1) := dk_27 (dk_at dksX8_finds_0 16 rfl rfl)
theorem dX8_finds_17 : decode cX8_finds 17 = .ok (.istore 4, 2) := dk_54 4 (dk_at dksX8_finds_0 17 rfl rfl)
theorem dX8_finds_19 : decode cX8_finds 19 = .ok (.iload 4, 2) := dk_21 4 (dk_at dksX8_finds_0 19 rfl rfl)
theorem dX8_finds_21 : decode cX8_finds 21 = .ok (.iload_n 2, 1) := dk_28 (dk_at dksX8_finds_0 21 rfl rfl)
theorem dX8_finds_22 : decode cX8_finds 22 = .ok (.if_icmp .gt 59, 3) := dk_163 0 59 (dk_at dksX8_finds_1 0 rfl rfl)
theorem dX8_finds_25 : decode cX8_finds 25 = .ok (.iload 4, 2) := dk_21 4 (dk_at dksX8_finds_1 3 rfl rfl)
theorem dX8_finds_27 : decode cX8_finds 27 = .ok (.istore 5, 2) := dk_54 5 (dk_at dksX8_finds_1 5 rfl rfl)
theorem dX8_finds_29 : decode cX8_finds 29 = .ok (.iload 5, 2) := dk_21 5 (dk_at dksX8_finds_1 7 rfl rfl)
theorem dX8_finds_31 : decode cX8_finds 31 = .ok (.iload_n 2, 1) := dk_28 (dk_at dksX8_finds_1 9 rfl rfl)
theorem dX8_finds_32 : decode cX8_finds 32 = .ok (.if_icmp .gt 43, 3) := dk_163 0 43 (dk_at dksX8_finds_1 10 rfl rfl)
theorem dX8_finds_35 : decode cX8_finds 35 = .ok (.aload_n 0, 1) := dk_42 (dk_at dksX8_finds_1 13 rfl rfl)
theorem dX8_finds_36 : decode cX8_finds 36 = .ok (.iload 4, 2) := dk_21 4 (dk_at dksX8_finds_1 14 rfl rfl)
theorem dX8_finds_38 : decode cX8_finds 38 = .ok (.iload 5, 2) := dk_21 5 (dk_at dksX8_finds_1 16 rfl rfl)
theorem dX8_finds_40 : decode cX8_finds 40 = .ok (.invokevirtual 101, 3) := dk_182 0 101 (dk_at dksX8_finds_1 18 rfl rfl)
theorem dX8_finds_43 : decode cX8_finds 43 = .ok (.istore 6, 2) := dk_54 6 (dk_at dksX8_finds_1 21 rfl rfl)
theorem dX8_finds_45 : decode cX8_finds 45 = .ok (.iload 6, 2) := dk_21 6 (dk_at dksX8_finds_2 0 rfl rfl)
theorem dX8_finds_47 : decode cX8_finds 47 = .ok (.iload_n 3, 1) := dk_29 (dk_at dksX8_finds_2 2 rfl rfl)
theorem dX8_finds_48 : decode cX8_finds 48 = .ok (.if_icmp .gt 6, 3) := dk_163 0 6 (dk_at dksX8_finds_2 3 rfl rfl)
theorem dX8_finds_51 : decode cX8_finds 51 = .ok (.goto 18, 3) := dk_167 0 18 (dk_at dksX8_finds_2 6 rfl rfl)
theorem dX8_finds_54 : decode cX8_finds 54 = .ok (.iload 6, 2) := dk_21 6 (dk_at dksX8_finds_2 9 rfl rfl)
theorem dX8_finds_56 : decode cX8_finds 56 = .ok (.istore_n 3, 1) := dk_62 (dk_at dksX8_finds_2 11 rfl rfl)
theorem dX8_finds_57 : decode cX8_finds 57 = .ok (.aload_n 0, 1) := dk_42 (dk_at dksX8_finds_2 12 rfl rfl)
theorem dX8_finds_58 : decode cX8_finds 58 = .ok (.iload 4, 2) := dk_21 4 (dk_at dksX8_finds_2 13 rfl rfl)
theorem dX8_finds_60 : decode cX8_finds 60 = .ok (.putfield 151, 3) := dk_181 0 151 (dk_at dksX8_finds_2 15 rfl rfl)
theorem dX8_finds_63 : decode cX8_finds 63 = .ok (.aload_n 0, 1) := dk_42 (dk_at dksX8_finds_2 18 rfl rfl)
theorem dX8_finds_64 : decode cX8_finds 64 = .ok (.iload 5, 2) := dk_21 5 (dk_at dksX8_finds_2 19 rfl rfl)
theorem dX8_finds_66 : decode cX8_finds 66 = .ok (.putfield 154, 3) := dk_181 0 154 (dk_at dksX8_finds_2 21 rfl rfl)
theorem dX8_finds_69 : decode cX8_finds 69 = .ok (.iinc 5 1, 3) := dk_132 5 1 (dk_at dksX8_finds_3 0 rfl rfl)
theorem dX8_finds_72 : decode cX8_finds 72 = .ok (.goto (-43), 3) := dk_167 255 213 (dk_at dksX8_finds_3 3 rfl rfl)
theorem dX8_finds_75 : decode cX8_finds 75 = .ok (.iinc 4 1, 3) := dk_132 4 1 (dk_at dksX8_finds_3 6 rfl rfl)
theorem dX8_finds_78 : decode cX8_finds 78 = .ok (.goto (-59), 3) := dk_167 255 197 (dk_at dksX8_finds_3 9 rfl rfl)
theorem dX8_finds_81 : decode cX8_finds 81 = .ok (.iload_n 3, 1) := dk_29 (dk_at dksX8_finds_3 12 rfl rfl)
theorem dX8_finds_82 : decode cX8_finds 82 = .ok (.ireturn, 1) := dk_172 (dk_at dksX8_finds_3 13 rfl rfl)
abbrev cX8_best : ByteArray := prog_19_method_42_code
def yX8_best : MethodName := ⟨RX8, "best", "(II)I"⟩
def dkwX8_best_1 : List UInt8 := [182, 0, 58, 172]
abbrev dktX8_best_1 : List UInt8 := dkwX8_best_1 ++ []
def dkwX8_best_0 : List UInt8 := [42, 3, 181, 0, 45, 27, 28, 184, 0, 82, 153, 0, 12, 42, 27, 28, 182, 0, 157, 167, 0, 8, 42, 4]
abbrev dktX8_best_0 : List UInt8 := dkwX8_best_0 ++ dktX8_best_1
theorem dksX8_best_0 : cX8_best.data.toList.drop 0 = dktX8_best_0 := by decide +kernel
theorem dksX8_best_1 : cX8_best.data.toList.drop 24 = dktX8_best_1 := dk_seg dksX8_best_0 24 rfl rfl
theorem dX8_best_0 : decode cX8_best 0 = .ok (.aload_n 0, 1) := dk_42 (dk_at dksX8_best_0 0 rfl rfl)
theorem dX8_best_1 : decode cX8_best 1 = .ok (.iconst 0, 1) := dk_3 (dk_at dksX8_best_0 1 rfl rfl)
theorem dX8_best_2 : decode cX8_best 2 = .ok (.putfield 45, 3) := dk_181 0 45 (dk_at dksX8_best_0 2 rfl rfl)
theorem dX8_best_5 : decode cX8_best 5 = .ok (.iload_n 1, 1) := dk_27 (dk_at dksX8_best_0 5 rfl rfl)
theorem dX8_best_6 : decode cX8_best 6 = .ok (.iload_n 2, 1) := dk_28 (dk_at dksX8_best_0 6 rfl rfl)
theorem dX8_best_7 : decode cX8_best 7 = .ok (.invokestatic 82, 3) := dk_184 0 82 (dk_at dksX8_best_0 7 rfl rfl)
theorem dX8_best_10 : decode cX8_best 10 = .ok (.ifCond .eq 12, 3) := dk_153 0 12 (dk_at dksX8_best_0 10 rfl rfl)
theorem dX8_best_13 : decode cX8_best 13 = .ok (.aload_n 0, 1) := dk_42 (dk_at dksX8_best_0 13 rfl rfl)
theorem dX8_best_14 : decode cX8_best 14 = .ok (.iload_n 1, 1) := dk_27 (dk_at dksX8_best_0 14 rfl rfl)
theorem dX8_best_15 : decode cX8_best 15 = .ok (.iload_n 2, 1) := dk_28 (dk_at dksX8_best_0 15 rfl rfl)
theorem dX8_best_16 : decode cX8_best 16 = .ok (.invokevirtual 157, 3) := dk_182 0 157 (dk_at dksX8_best_0 16 rfl rfl)
theorem dX8_best_19 : decode cX8_best 19 = .ok (.goto 8, 3) := dk_167 0 8 (dk_at dksX8_best_0 19 rfl rfl)
theorem dX8_best_22 : decode cX8_best 22 = .ok (.aload_n 0, 1) := dk_42 (dk_at dksX8_best_0 22 rfl rfl)
theorem dX8_best_23 : decode cX8_best 23 = .ok (.iconst 1, 1) := dk_4 (dk_at dksX8_best_0 23 rfl rfl)
theorem dX8_best_24 : decode cX8_best 24 = .ok (.invokevirtual 58, 3) := dk_182 0 58 (dk_at dksX8_best_1 0 rfl rfl)
theorem dX8_best_27 : decode cX8_best 27 = .ok (.ireturn, 1) := dk_172 (dk_at dksX8_best_1 3 rfl rfl)
abbrev cX8_bestAgain : ByteArray := prog_19_method_43_code
def yX8_bestAgain : MethodName := ⟨RX8, "bestAgain", "(II)I"⟩
def dkwX8_bestAgain_0 : List UInt8 := [42, 27, 28, 182, 0, 160, 172]
abbrev dktX8_bestAgain_0 : List UInt8 := dkwX8_bestAgain_0 ++ []
theorem dksX8_bestAgain_0 : cX8_bestAgain.data.toList.drop 0 = dktX8_bestAgain_0 := by decide +kernel
theorem dX8_bestAgain_0 : decode cX8_bestAgain 0 = .ok (.aload_n 0, 1) := dk_42 (dk_at dksX8_bestAgain_0 0 rfl rfl)
theorem dX8_bestAgain_1 : decode cX8_bestAgain 1 = .ok (.iload_n 1, 1) := dk_27 (dk_at dksX8_bestAgain_0 1 rfl rfl)
theorem dX8_bestAgain_2 : decode cX8_bestAgain 2 = .ok (.iload_n 2, 1) := dk_28 (dk_at dksX8_bestAgain_0 2 rfl rfl)
theorem dX8_bestAgain_3 : decode cX8_bestAgain 3 = .ok (.invokevirtual 160, 3) := dk_182 0 160 (dk_at dksX8_bestAgain_0 3 rfl rfl)
theorem dX8_bestAgain_6 : decode cX8_bestAgain 6 = .ok (.ireturn, 1) := dk_172 (dk_at dksX8_bestAgain_0 6 rfl rfl)
abbrev cX8_stretch : ByteArray := prog_19_method_44_code
def yX8_stretch : MethodName := ⟨RX8, "stretch", "(IIZ)I"⟩
def dkwX8_stretch_1 : List UInt8 := [182, 0, 157, 54, 4, 29, 153, 0, 10, 42, 180, 0, 154, 167, 0, 7, 42, 180, 0, 151, 172]
abbrev dktX8_stretch_1 : List UInt8 := dkwX8_stretch_1 ++ []
def dkwX8_stretch_0 : List UInt8 := [42, 3, 181, 0, 45, 27, 28, 184, 0, 82, 154, 0, 9, 42, 4, 182, 0, 58, 172, 42, 27, 28]
abbrev dktX8_stretch_0 : List UInt8 := dkwX8_stretch_0 ++ dktX8_stretch_1
theorem dksX8_stretch_0 : cX8_stretch.data.toList.drop 0 = dktX8_stretch_0 := by decide +kernel
theorem dksX8_stretch_1 : cX8_stretch.data.toList.drop 22 = dktX8_stretch_1 := dk_seg dksX8_stretch_0 22 rfl rfl
theorem dX8_stretch_0 : decode cX8_stretch 0 = .ok (.aload_n 0, 1) := dk_42 (dk_at dksX8_stretch_0 0 rfl rfl)
theorem dX8_stretch_1 : decode cX8_stretch 1 = .ok (.iconst 0, 1) := dk_3 (dk_at dksX8_stretch_0 1 rfl rfl)
theorem dX8_stretch_2 : decode cX8_stretch 2 = .ok (.putfield 45, 3) := dk_181 0 45 (dk_at dksX8_stretch_0 2 rfl rfl)
theorem dX8_stretch_5 : decode cX8_stretch 5 = .ok (.iload_n 1, 1) := dk_27 (dk_at dksX8_stretch_0 5 rfl rfl)
theorem dX8_stretch_6 : decode cX8_stretch 6 = .ok (.iload_n 2, 1) := dk_28 (dk_at dksX8_stretch_0 6 rfl rfl)
theorem dX8_stretch_7 : decode cX8_stretch 7 = .ok (.invokestatic 82, 3) := dk_184 0 82 (dk_at dksX8_stretch_0 7 rfl rfl)
theorem dX8_stretch_10 : decode cX8_stretch 10 = .ok (.ifCond .ne 9, 3) := dk_154 0 9 (dk_at dksX8_stretch_0 10 rfl rfl)
theorem dX8_stretch_13 : decode cX8_stretch 13 = .ok (.aload_n 0, 1) := dk_42 (dk_at dksX8_stretch_0 13 rfl rfl)
theorem dX8_stretch_14 : decode cX8_stretch 14 = .ok (.iconst 1, 1) := dk_4 (dk_at dksX8_stretch_0 14 rfl rfl)
theorem dX8_stretch_15 : decode cX8_stretch 15 = .ok (.invokevirtual 58, 3) := dk_182 0 58 (dk_at dksX8_stretch_0 15 rfl rfl)
theorem dX8_stretch_18 : decode cX8_stretch 18 = .ok (.ireturn, 1) := dk_172 (dk_at dksX8_stretch_0 18 rfl rfl)
theorem dX8_stretch_19 : decode cX8_stretch 19 = .ok (.aload_n 0, 1) := dk_42 (dk_at dksX8_stretch_0 19 rfl rfl)
theorem dX8_stretch_20 : decode cX8_stretch 20 = .ok (.iload_n 1, 1) := dk_27 (dk_at dksX8_stretch_0 20 rfl rfl)
theorem dX8_stretch_21 : decode cX8_stretch 21 = .ok (.iload_n 2, 1) := dk_28 (dk_at dksX8_stretch_0 21 rfl rfl)
theorem dX8_stretch_22 : decode cX8_stretch 22 = .ok (.invokevirtual 157, 3) := dk_182 0 157 (dk_at dksX8_stretch_1 0 rfl rfl)
theorem dX8_stretch_25 : decode cX8_stretch 25 = .ok (.istore 4, 2) := dk_54 4 (dk_at dksX8_stretch_1 3 rfl rfl)
theorem dX8_stretch_27 : decode cX8_stretch 27 = .ok (.iload_n 3, 1) := dk_29 (dk_at dksX8_stretch_1 5 rfl rfl)
theorem dX8_stretch_28 : decode cX8_stretch 28 = .ok (.ifCond .eq 10, 3) := dk_153 0 10 (dk_at dksX8_stretch_1 6 rfl rfl)
theorem dX8_stretch_31 : decode cX8_stretch 31 = .ok (.aload_n 0, 1) := dk_42 (dk_at dksX8_stretch_1 9 rfl rfl)
theorem dX8_stretch_32 : decode cX8_stretch 32 = .ok (.getfield 154, 3) := dk_180 0 154 (dk_at dksX8_stretch_1 10 rfl rfl)
theorem dX8_stretch_35 : decode cX8_stretch 35 = .ok (.goto 7, 3) := dk_167 0 7 (dk_at dksX8_stretch_1 13 rfl rfl)
theorem dX8_stretch_38 : decode cX8_stretch 38 = .ok (.aload_n 0, 1) := dk_42 (dk_at dksX8_stretch_1 16 rfl rfl)
theorem dX8_stretch_39 : decode cX8_stretch 39 = .ok (.getfield 151, 3) := dk_180 0 151 (dk_at dksX8_stretch_1 17 rfl rfl)
theorem dX8_stretch_42 : decode cX8_stretch 42 = .ok (.ireturn, 1) := dk_172 (dk_at dksX8_stretch_1 20 rfl rfl)
abbrev cX8_extreme : ByteArray := prog_19_method_45_code
def yX8_extreme : MethodName := ⟨RX8, "extreme", "(IIZ)I"⟩
def dkwX8_extreme_3 : List UInt8 := [54, 4, 132, 5, 1, 167, 255, 206, 21, 4, 172]
abbrev dktX8_extreme_3 : List UInt8 := dkwX8_extreme_3 ++ []
def dkwX8_extreme_2 : List UInt8 := [162, 0, 25, 167, 0, 18, 42, 21, 5, 182, 0, 75, 42, 21, 4, 182, 0, 75, 164, 0, 7, 21, 5]
abbrev dktX8_extreme_2 : List UInt8 := dkwX8_extreme_2 ++ dktX8_extreme_3
def dkwX8_extreme_1 : List UInt8 := [54, 5, 21, 5, 28, 163, 0, 50, 29, 153, 0, 21, 42, 21, 5, 182, 0, 75, 42, 21, 4, 182, 0, 75]
abbrev dktX8_extreme_1 : List UInt8 := dkwX8_extreme_1 ++ dktX8_extreme_2
def dkwX8_extreme_0 : List UInt8 := [42, 3, 181, 0, 45, 27, 28, 184, 0, 82, 154, 0, 9, 42, 4, 182, 0, 58, 172, 27, 54, 4, 27]
abbrev dktX8_extreme_0 : List UInt8 := dkwX8_extreme_0 ++ dktX8_extreme_1
theorem dksX8_extreme_0 : cX8_extreme.data.toList.drop 0 = dktX8_extreme_0 := by decide +kernel
theorem dksX8_extreme_1 : cX8_extreme.data.toList.drop 23 = dktX8_extreme_1 := dk_seg dksX8_extreme_0 23 rfl rfl
theorem dksX8_extreme_2 : cX8_extreme.data.toList.drop 47 = dktX8_extreme_2 := dk_seg dksX8_extreme_1 24 rfl rfl
theorem dksX8_extreme_3 : cX8_extreme.data.toList.drop 70 = dktX8_extreme_3 := dk_seg dksX8_extreme_2 23 rfl rfl
theorem dX8_extreme_0 : decode cX8_extreme 0 = .ok (.aload_n 0, 1) := dk_42 (dk_at dksX8_extreme_0 0 rfl rfl)
theorem dX8_extreme_1 : decode cX8_extreme 1 = .ok (.iconst 0, 1) := dk_3 (dk_at dksX8_extreme_0 1 rfl rfl)
theorem dX8_extreme_2 : decode cX8_extreme 2 = .ok (.putfield 45, 3) := dk_181 0 45 (dk_at dksX8_extreme_0 2 rfl rfl)
theorem dX8_extreme_5 : decode cX8_extreme 5 = .ok (.iload_n 1, 1) := dk_27 (dk_at dksX8_extreme_0 5 rfl rfl)
theorem dX8_extreme_6 : decode cX8_extreme 6 = .ok (.iload_n 2, 1) := dk_28 (dk_at dksX8_extreme_0 6 rfl rfl)
theorem dX8_extreme_7 : decode cX8_extreme 7 = .ok (.invokestatic 82, 3) := dk_184 0 82 (dk_at dksX8_extreme_0 7 rfl rfl)
theorem dX8_extreme_10 : decode cX8_extreme 10 = .ok (.ifCond .ne 9, 3) := dk_154 0 9 (dk_at dksX8_extreme_0 10 rfl rfl)
theorem dX8_extreme_13 : decode cX8_extreme 13 = .ok (.aload_n 0, 1) := dk_42 (dk_at dksX8_extreme_0 13 rfl rfl)
theorem dX8_extreme_14 : decode cX8_extreme 14 = .ok (.iconst 1, 1) := dk_4 (dk_at dksX8_extreme_0 14 rfl rfl)
theorem dX8_extreme_15 : decode cX8_extreme 15 = .ok (.invokevirtual 58, 3) := dk_182 0 58 (dk_at dksX8_extreme_0 15 rfl rfl)
theorem dX8_extreme_18 : decode cX8_extreme 18 = .ok (.ireturn, 1) := dk_172 (dk_at dksX8_extreme_0 18 rfl rfl)
theorem dX8_extreme_19 : decode cX8_extreme 19 = .ok (.iload_n 1, 1) := dk_27 (dk_at dksX8_extreme_0 19 rfl rfl)
theorem dX8_extreme_20 : decode cX8_extreme 20 = .ok (.istore 4, 2) := dk_54 4 (dk_at dksX8_extreme_0 20 rfl rfl)
theorem dX8_extreme_22 : decode cX8_extreme 22 = .ok (.iload_n 1, 1) := dk_27 (dk_at dksX8_extreme_0 22 rfl rfl)
theorem dX8_extreme_23 : decode cX8_extreme 23 = .ok (.istore 5, 2) := dk_54 5 (dk_at dksX8_extreme_1 0 rfl rfl)
theorem dX8_extreme_25 : decode cX8_extreme 25 = .ok (.iload 5, 2) := dk_21 5 (dk_at dksX8_extreme_1 2 rfl rfl)
theorem dX8_extreme_27 : decode cX8_extreme 27 = .ok (.iload_n 2, 1) := dk_28 (dk_at dksX8_extreme_1 4 rfl rfl)
theorem dX8_extreme_28 : decode cX8_extreme 28 = .ok (.if_icmp .gt 50, 3) := dk_163 0 50 (dk_at dksX8_extreme_1 5 rfl rfl)
theorem dX8_extreme_31 : decode cX8_extreme 31 = .ok (.iload_n 3, 1) := dk_29 (dk_at dksX8_extreme_1 8 rfl rfl)
theorem dX8_extreme_32 : decode cX8_extreme 32 = .ok (.ifCond .eq 21, 3) := dk_153 0 21 (dk_at dksX8_extreme_1 9 rfl rfl)
theorem dX8_extreme_35 : decode cX8_extreme 35 = .ok (.aload_n 0, 1) := dk_42 (dk_at dksX8_extreme_1 12 rfl rfl)
theorem dX8_extreme_36 : decode cX8_extreme 36 = .ok (.iload 5, 2) := dk_21 5 (dk_at dksX8_extreme_1 13 rfl rfl)
theorem dX8_extreme_38 : decode cX8_extreme 38 = .ok (.invokevirtual 75, 3) := dk_182 0 75 (dk_at dksX8_extreme_1 15 rfl rfl)
theorem dX8_extreme_41 : decode cX8_extreme 41 = .ok (.aload_n 0, 1) := dk_42 (dk_at dksX8_extreme_1 18 rfl rfl)
theorem dX8_extreme_42 : decode cX8_extreme 42 = .ok (.iload 4, 2) := dk_21 4 (dk_at dksX8_extreme_1 19 rfl rfl)
theorem dX8_extreme_44 : decode cX8_extreme 44 = .ok (.invokevirtual 75, 3) := dk_182 0 75 (dk_at dksX8_extreme_1 21 rfl rfl)
theorem dX8_extreme_47 : decode cX8_extreme 47 = .ok (.if_icmp .ge 25, 3) := dk_162 0 25 (dk_at dksX8_extreme_2 0 rfl rfl)
theorem dX8_extreme_50 : decode cX8_extreme 50 = .ok (.goto 18, 3) := dk_167 0 18 (dk_at dksX8_extreme_2 3 rfl rfl)
theorem dX8_extreme_53 : decode cX8_extreme 53 = .ok (.aload_n 0, 1) := dk_42 (dk_at dksX8_extreme_2 6 rfl rfl)
theorem dX8_extreme_54 : decode cX8_extreme 54 = .ok (.iload 5, 2) := dk_21 5 (dk_at dksX8_extreme_2 7 rfl rfl)
theorem dX8_extreme_56 : decode cX8_extreme 56 = .ok (.invokevirtual 75, 3) := dk_182 0 75 (dk_at dksX8_extreme_2 9 rfl rfl)
theorem dX8_extreme_59 : decode cX8_extreme 59 = .ok (.aload_n 0, 1) := dk_42 (dk_at dksX8_extreme_2 12 rfl rfl)
theorem dX8_extreme_60 : decode cX8_extreme 60 = .ok (.iload 4, 2) := dk_21 4 (dk_at dksX8_extreme_2 13 rfl rfl)
theorem dX8_extreme_62 : decode cX8_extreme 62 = .ok (.invokevirtual 75, 3) := dk_182 0 75 (dk_at dksX8_extreme_2 15 rfl rfl)
theorem dX8_extreme_65 : decode cX8_extreme 65 = .ok (.if_icmp .le 7, 3) := dk_164 0 7 (dk_at dksX8_extreme_2 18 rfl rfl)
theorem dX8_extreme_68 : decode cX8_extreme 68 = .ok (.iload 5, 2) := dk_21 5 (dk_at dksX8_extreme_2 21 rfl rfl)
theorem dX8_extreme_70 : decode cX8_extreme 70 = .ok (.istore 4, 2) := dk_54 4 (dk_at dksX8_extreme_3 0 rfl rfl)
theorem dX8_extreme_72 : decode cX8_extreme 72 = .ok (.iinc 5 1, 3) := dk_132 5 1 (dk_at dksX8_extreme_3 2 rfl rfl)
theorem dX8_extreme_75 : decode cX8_extreme 75 = .ok (.goto (-50), 3) := dk_167 255 206 (dk_at dksX8_extreme_3 5 rfl rfl)
theorem dX8_extreme_78 : decode cX8_extreme 78 = .ok (.iload 4, 2) := dk_21 4 (dk_at dksX8_extreme_3 8 rfl rfl)
theorem dX8_extreme_80 : decode cX8_extreme 80 = .ok (.ireturn, 1) := dk_172 (dk_at dksX8_extreme_3 10 rfl rfl)
abbrev cX8_reach : ByteArray := prog_19_method_46_code
def yX8_reach : MethodName := ⟨RX8, "reach", "(II)I"⟩
def dkwX8_reach_2 : List UInt8 := [182, 0, 58, 172]
abbrev dktX8_reach_2 : List UInt8 := dkwX8_reach_2 ++ []
def dkwX8_reach_1 : List UInt8 := [162, 0, 21, 42, 27, 29, 182, 0, 101, 28, 161, 0, 5, 29, 172, 132, 3, 1, 167, 255, 235, 42, 5]
abbrev dktX8_reach_1 : List UInt8 := dkwX8_reach_1 ++ dktX8_reach_2
def dkwX8_reach_0 : List UInt8 := [42, 3, 181, 0, 45, 27, 184, 0, 71, 154, 0, 9, 42, 4, 182, 0, 58, 172, 27, 62, 29, 16, 32]
abbrev dktX8_reach_0 : List UInt8 := dkwX8_reach_0 ++ dktX8_reach_1
theorem dksX8_reach_0 : cX8_reach.data.toList.drop 0 = dktX8_reach_0 := by decide +kernel
theorem dksX8_reach_1 : cX8_reach.data.toList.drop 23 = dktX8_reach_1 := dk_seg dksX8_reach_0 23 rfl rfl
theorem dksX8_reach_2 : cX8_reach.data.toList.drop 46 = dktX8_reach_2 := dk_seg dksX8_reach_1 23 rfl rfl
theorem dX8_reach_0 : decode cX8_reach 0 = .ok (.aload_n 0, 1) := dk_42 (dk_at dksX8_reach_0 0 rfl rfl)
theorem dX8_reach_1 : decode cX8_reach 1 = .ok (.iconst 0, 1) := dk_3 (dk_at dksX8_reach_0 1 rfl rfl)
theorem dX8_reach_2 : decode cX8_reach 2 = .ok (.putfield 45, 3) := dk_181 0 45 (dk_at dksX8_reach_0 2 rfl rfl)
theorem dX8_reach_5 : decode cX8_reach 5 = .ok (.iload_n 1, 1) := dk_27 (dk_at dksX8_reach_0 5 rfl rfl)
theorem dX8_reach_6 : decode cX8_reach 6 = .ok (.invokestatic 71, 3) := dk_184 0 71 (dk_at dksX8_reach_0 6 rfl rfl)
theorem dX8_reach_9 : decode cX8_reach 9 = .ok (.ifCond .ne 9, 3) := dk_154 0 9 (dk_at dksX8_reach_0 9 rfl rfl)
theorem dX8_reach_12 : decode cX8_reach 12 = .ok (.aload_n 0, 1) := dk_42 (dk_at dksX8_reach_0 12 rfl rfl)
theorem dX8_reach_13 : decode cX8_reach 13 = .ok (.iconst 1, 1) := dk_4 (dk_at dksX8_reach_0 13 rfl rfl)
theorem dX8_reach_14 : decode cX8_reach 14 = .ok (.invokevirtual 58, 3) := dk_182 0 58 (dk_at dksX8_reach_0 14 rfl rfl)
theorem dX8_reach_17 : decode cX8_reach 17 = .ok (.ireturn, 1) := dk_172 (dk_at dksX8_reach_0 17 rfl rfl)
theorem dX8_reach_18 : decode cX8_reach 18 = .ok (.iload_n 1, 1) := dk_27 (dk_at dksX8_reach_0 18 rfl rfl)
theorem dX8_reach_19 : decode cX8_reach 19 = .ok (.istore_n 3, 1) := dk_62 (dk_at dksX8_reach_0 19 rfl rfl)
theorem dX8_reach_20 : decode cX8_reach 20 = .ok (.iload_n 3, 1) := dk_29 (dk_at dksX8_reach_0 20 rfl rfl)
theorem dX8_reach_21 : decode cX8_reach 21 = .ok (.bipush 32, 2) := dk_16 32 (dk_at dksX8_reach_0 21 rfl rfl)
theorem dX8_reach_23 : decode cX8_reach 23 = .ok (.if_icmp .ge 21, 3) := dk_162 0 21 (dk_at dksX8_reach_1 0 rfl rfl)
theorem dX8_reach_26 : decode cX8_reach 26 = .ok (.aload_n 0, 1) := dk_42 (dk_at dksX8_reach_1 3 rfl rfl)
theorem dX8_reach_27 : decode cX8_reach 27 = .ok (.iload_n 1, 1) := dk_27 (dk_at dksX8_reach_1 4 rfl rfl)
theorem dX8_reach_28 : decode cX8_reach 28 = .ok (.iload_n 3, 1) := dk_29 (dk_at dksX8_reach_1 5 rfl rfl)
theorem dX8_reach_29 : decode cX8_reach 29 = .ok (.invokevirtual 101, 3) := dk_182 0 101 (dk_at dksX8_reach_1 6 rfl rfl)
theorem dX8_reach_32 : decode cX8_reach 32 = .ok (.iload_n 2, 1) := dk_28 (dk_at dksX8_reach_1 9 rfl rfl)
theorem dX8_reach_33 : decode cX8_reach 33 = .ok (.if_icmp .lt 5, 3) := dk_161 0 5 (dk_at dksX8_reach_1 10 rfl rfl)
theorem dX8_reach_36 : decode cX8_reach 36 = .ok (.iload_n 3, 1) := dk_29 (dk_at dksX8_reach_1 13 rfl rfl)
theorem dX8_reach_37 : decode cX8_reach 37 = .ok (.ireturn, 1) := dk_172 (dk_at dksX8_reach_1 14 rfl rfl)
theorem dX8_reach_38 : decode cX8_reach 38 = .ok (.iinc 3 1, 3) := dk_132 3 1 (dk_at dksX8_reach_1 15 rfl rfl)
theorem dX8_reach_41 : decode cX8_reach 41 = .ok (.goto (-21), 3) := dk_167 255 235 (dk_at dksX8_reach_1 18 rfl rfl)
theorem dX8_reach_44 : decode cX8_reach 44 = .ok (.aload_n 0, 1) := dk_42 (dk_at dksX8_reach_1 21 rfl rfl)
theorem dX8_reach_45 : decode cX8_reach 45 = .ok (.iconst 2, 1) := dk_5 (dk_at dksX8_reach_1 22 rfl rfl)
theorem dX8_reach_46 : decode cX8_reach 46 = .ok (.invokevirtual 58, 3) := dk_182 0 58 (dk_at dksX8_reach_2 0 rfl rfl)
theorem dX8_reach_49 : decode cX8_reach 49 = .ok (.ireturn, 1) := dk_172 (dk_at dksX8_reach_2 3 rfl rfl)
abbrev cJ22_signum : ByteArray := prog_33_method_56_code
def yJ22_signum : MethodName := ⟨RJ22, "signum", "(I)I"⟩
def dkwJ22_signum_0 : List UInt8 := [26, 16, 31, 122, 26, 116, 16, 31, 124, 128, 172]
abbrev dktJ22_signum_0 : List UInt8 := dkwJ22_signum_0 ++ []
theorem dksJ22_signum_0 : cJ22_signum.data.toList.drop 0 = dktJ22_signum_0 := by decide +kernel
theorem dJ22_signum_0 : decode cJ22_signum 0 = .ok (.iload_n 0, 1) := dk_26 (dk_at dksJ22_signum_0 0 rfl rfl)
theorem dJ22_signum_1 : decode cJ22_signum 1 = .ok (.bipush 31, 2) := dk_16 31 (dk_at dksJ22_signum_0 1 rfl rfl)
theorem dJ22_signum_3 : decode cJ22_signum 3 = .ok (.ishr, 1) := dk_122 (dk_at dksJ22_signum_0 3 rfl rfl)
theorem dJ22_signum_4 : decode cJ22_signum 4 = .ok (.iload_n 0, 1) := dk_26 (dk_at dksJ22_signum_0 4 rfl rfl)
theorem dJ22_signum_5 : decode cJ22_signum 5 = .ok (.ineg, 1) := dk_116 (dk_at dksJ22_signum_0 5 rfl rfl)
theorem dJ22_signum_6 : decode cJ22_signum 6 = .ok (.bipush 31, 2) := dk_16 31 (dk_at dksJ22_signum_0 6 rfl rfl)
theorem dJ22_signum_8 : decode cJ22_signum 8 = .ok (.iushr, 1) := dk_124 (dk_at dksJ22_signum_0 8 rfl rfl)
theorem dJ22_signum_9 : decode cJ22_signum 9 = .ok (.ior, 1) := dk_128 (dk_at dksJ22_signum_0 9 rfl rfl)
theorem dJ22_signum_10 : decode cJ22_signum 10 = .ok (.ireturn, 1) := dk_172 (dk_at dksJ22_signum_0 10 rfl rfl)
abbrev cX8_count : ByteArray := prog_19_method_47_code
def yX8_count : MethodName := ⟨RX8, "count", "(III)I"⟩
def dkwX8_count_2 : List UInt8 := [184, 0, 163, 29, 160, 0, 6, 132, 4, 1, 132, 5, 1, 167, 255, 231, 21, 4, 172]
abbrev dktX8_count_2 : List UInt8 := dkwX8_count_2 ++ []
def dkwX8_count_1 : List UInt8 := [182, 0, 58, 172, 3, 54, 4, 27, 54, 5, 21, 5, 28, 163, 0, 25, 42, 21, 5, 182, 0, 75]
abbrev dktX8_count_1 : List UInt8 := dkwX8_count_1 ++ dktX8_count_2
def dkwX8_count_0 : List UInt8 := [42, 3, 181, 0, 45, 27, 28, 184, 0, 82, 153, 0, 12, 29, 2, 4, 184, 0, 67, 154, 0, 9, 42, 4]
abbrev dktX8_count_0 : List UInt8 := dkwX8_count_0 ++ dktX8_count_1
theorem dksX8_count_0 : cX8_count.data.toList.drop 0 = dktX8_count_0 := by decide +kernel
theorem dksX8_count_1 : cX8_count.data.toList.drop 24 = dktX8_count_1 := dk_seg dksX8_count_0 24 rfl rfl
theorem dksX8_count_2 : cX8_count.data.toList.drop 46 = dktX8_count_2 := dk_seg dksX8_count_1 22 rfl rfl
theorem dX8_count_0 : decode cX8_count 0 = .ok (.aload_n 0, 1) := dk_42 (dk_at dksX8_count_0 0 rfl rfl)
theorem dX8_count_1 : decode cX8_count 1 = .ok (.iconst 0, 1) := dk_3 (dk_at dksX8_count_0 1 rfl rfl)
theorem dX8_count_2 : decode cX8_count 2 = .ok (.putfield 45, 3) := dk_181 0 45 (dk_at dksX8_count_0 2 rfl rfl)
theorem dX8_count_5 : decode cX8_count 5 = .ok (.iload_n 1, 1) := dk_27 (dk_at dksX8_count_0 5 rfl rfl)
theorem dX8_count_6 : decode cX8_count 6 = .ok (.iload_n 2, 1) := dk_28 (dk_at dksX8_count_0 6 rfl rfl)
theorem dX8_count_7 : decode cX8_count 7 = .ok (.invokestatic 82, 3) := dk_184 0 82 (dk_at dksX8_count_0 7 rfl rfl)
theorem dX8_count_10 : decode cX8_count 10 = .ok (.ifCond .eq 12, 3) := dk_153 0 12 (dk_at dksX8_count_0 10 rfl rfl)
theorem dX8_count_13 : decode cX8_count 13 = .ok (.iload_n 3, 1) := dk_29 (dk_at dksX8_count_0 13 rfl rfl)
theorem dX8_count_14 : decode cX8_count 14 = .ok (.iconst (-1), 1) := dk_2 (dk_at dksX8_count_0 14 rfl rfl)
theorem dX8_count_15 : decode cX8_count 15 = .ok (.iconst 1, 1) := dk_4 (dk_at dksX8_count_0 15 rfl rfl)
theorem dX8_count_16 : decode cX8_count 16 = .ok (.invokestatic 67, 3) := dk_184 0 67 (dk_at dksX8_count_0 16 rfl rfl)
theorem dX8_count_19 : decode cX8_count 19 = .ok (.ifCond .ne 9, 3) := dk_154 0 9 (dk_at dksX8_count_0 19 rfl rfl)
theorem dX8_count_22 : decode cX8_count 22 = .ok (.aload_n 0, 1) := dk_42 (dk_at dksX8_count_0 22 rfl rfl)
theorem dX8_count_23 : decode cX8_count 23 = .ok (.iconst 1, 1) := dk_4 (dk_at dksX8_count_0 23 rfl rfl)
theorem dX8_count_24 : decode cX8_count 24 = .ok (.invokevirtual 58, 3) := dk_182 0 58 (dk_at dksX8_count_1 0 rfl rfl)
theorem dX8_count_27 : decode cX8_count 27 = .ok (.ireturn, 1) := dk_172 (dk_at dksX8_count_1 3 rfl rfl)
theorem dX8_count_28 : decode cX8_count 28 = .ok (.iconst 0, 1) := dk_3 (dk_at dksX8_count_1 4 rfl rfl)
theorem dX8_count_29 : decode cX8_count 29 = .ok (.istore 4, 2) := dk_54 4 (dk_at dksX8_count_1 5 rfl rfl)
theorem dX8_count_31 : decode cX8_count 31 = .ok (.iload_n 1, 1) := dk_27 (dk_at dksX8_count_1 7 rfl rfl)
theorem dX8_count_32 : decode cX8_count 32 = .ok (.istore 5, 2) := dk_54 5 (dk_at dksX8_count_1 8 rfl rfl)
theorem dX8_count_34 : decode cX8_count 34 = .ok (.iload 5, 2) := dk_21 5 (dk_at dksX8_count_1 10 rfl rfl)
theorem dX8_count_36 : decode cX8_count 36 = .ok (.iload_n 2, 1) := dk_28 (dk_at dksX8_count_1 12 rfl rfl)
theorem dX8_count_37 : decode cX8_count 37 = .ok (.if_icmp .gt 25, 3) := dk_163 0 25 (dk_at dksX8_count_1 13 rfl rfl)
theorem dX8_count_40 : decode cX8_count 40 = .ok (.aload_n 0, 1) := dk_42 (dk_at dksX8_count_1 16 rfl rfl)
theorem dX8_count_41 : decode cX8_count 41 = .ok (.iload 5, 2) := dk_21 5 (dk_at dksX8_count_1 17 rfl rfl)
theorem dX8_count_43 : decode cX8_count 43 = .ok (.invokevirtual 75, 3) := dk_182 0 75 (dk_at dksX8_count_1 19 rfl rfl)
theorem dX8_count_46 : decode cX8_count 46 = .ok (.invokestatic 163, 3) := dk_184 0 163 (dk_at dksX8_count_2 0 rfl rfl)
theorem dX8_count_49 : decode cX8_count 49 = .ok (.iload_n 3, 1) := dk_29 (dk_at dksX8_count_2 3 rfl rfl)
theorem dX8_count_50 : decode cX8_count 50 = .ok (.if_icmp .ne 6, 3) := dk_160 0 6 (dk_at dksX8_count_2 4 rfl rfl)
theorem dX8_count_53 : decode cX8_count 53 = .ok (.iinc 4 1, 3) := dk_132 4 1 (dk_at dksX8_count_2 7 rfl rfl)
theorem dX8_count_56 : decode cX8_count 56 = .ok (.iinc 5 1, 3) := dk_132 5 1 (dk_at dksX8_count_2 10 rfl rfl)
theorem dX8_count_59 : decode cX8_count 59 = .ok (.goto (-25), 3) := dk_167 255 231 (dk_at dksX8_count_2 13 rfl rfl)
theorem dX8_count_62 : decode cX8_count 62 = .ok (.iload 4, 2) := dk_21 4 (dk_at dksX8_count_2 16 rfl rfl)
theorem dX8_count_64 : decode cX8_count 64 = .ok (.ireturn, 1) := dk_172 (dk_at dksX8_count_2 18 rfl rfl)
abbrev cX8_sumIn : ByteArray := prog_19_method_48_code
def yX8_sumIn : MethodName := ⟨RX8, "sumIn", "(III)I"⟩
def dkwX8_sumIn_5 : List UInt8 := [167, 255, 231, 21, 4, 172]
abbrev dktX8_sumIn_5 : List UInt8 := dkwX8_sumIn_5 ++ []
def dkwX8_sumIn_4 : List UInt8 := [17, 1, 186, 162, 0, 23, 42, 180, 0, 9, 21, 5, 42, 180, 0, 16, 21, 5, 46, 79, 132, 5, 1]
abbrev dktX8_sumIn_4 : List UInt8 := dkwX8_sumIn_4 ++ dktX8_sumIn_5
def dkwX8_sumIn_3 : List UInt8 := [182, 0, 141, 54, 5, 132, 4, 1, 167, 255, 241, 42, 27, 28, 182, 0, 101, 54, 4, 3, 54, 5, 21, 5]
abbrev dktX8_sumIn_3 : List UInt8 := dkwX8_sumIn_3 ++ dktX8_sumIn_4
def dkwX8_sumIn_2 : List UInt8 := [180, 0, 9, 21, 4, 46, 79, 132, 4, 1, 167, 255, 231, 3, 54, 4, 21, 4, 29, 162, 0, 15, 42]
abbrev dktX8_sumIn_2 : List UInt8 := dkwX8_sumIn_2 ++ dktX8_sumIn_3
def dkwX8_sumIn_1 : List UInt8 := [4, 182, 0, 58, 172, 3, 54, 4, 21, 4, 17, 1, 186, 162, 0, 23, 42, 180, 0, 16, 21, 4, 42]
abbrev dktX8_sumIn_1 : List UInt8 := dkwX8_sumIn_1 ++ dktX8_sumIn_2
def dkwX8_sumIn_0 : List UInt8 := [42, 3, 181, 0, 45, 27, 28, 184, 0, 82, 153, 0, 13, 29, 3, 16, 40, 184, 0, 67, 154, 0, 9, 42]
abbrev dktX8_sumIn_0 : List UInt8 := dkwX8_sumIn_0 ++ dktX8_sumIn_1
theorem dksX8_sumIn_0 : cX8_sumIn.data.toList.drop 0 = dktX8_sumIn_0 := by decide +kernel
theorem dksX8_sumIn_1 : cX8_sumIn.data.toList.drop 24 = dktX8_sumIn_1 := dk_seg dksX8_sumIn_0 24 rfl rfl
theorem dksX8_sumIn_2 : cX8_sumIn.data.toList.drop 47 = dktX8_sumIn_2 := dk_seg dksX8_sumIn_1 23 rfl rfl
theorem dksX8_sumIn_3 : cX8_sumIn.data.toList.drop 70 = dktX8_sumIn_3 := dk_seg dksX8_sumIn_2 23 rfl rfl
theorem dksX8_sumIn_4 : cX8_sumIn.data.toList.drop 94 = dktX8_sumIn_4 := dk_seg dksX8_sumIn_3 24 rfl rfl
theorem dksX8_sumIn_5 : cX8_sumIn.data.toList.drop 117 = dktX8_sumIn_5 := dk_seg dksX8_sumIn_4 23 rfl rfl
theorem dX8_sumIn_0 : decode cX8_sumIn 0 = .ok (.aload_n 0, 1) := dk_42 (dk_at dksX8_sumIn_0 0 rfl rfl)
theorem dX8_sumIn_1 : decode cX8_sumIn 1 = .ok (.iconst 0, 1) := dk_3 (dk_at dksX8_sumIn_0 1 rfl rfl)
theorem dX8_sumIn_2 : decode cX8_sumIn 2 = .ok (.putfield 45, 3) := dk_181 0 45 (dk_at dksX8_sumIn_0 2 rfl rfl)
theorem dX8_sumIn_5 : decode cX8_sumIn 5 = .ok (.iload_n 1, 1) := dk_27 (dk_at dksX8_sumIn_0 5 rfl rfl)
theorem dX8_sumIn_6 : decode cX8_sumIn 6 = .ok (.iload_n 2, 1) := dk_28 (dk_at dksX8_sumIn_0 6 rfl rfl)
theorem dX8_sumIn_7 : decode cX8_sumIn 7 = .ok (.invokestatic 82, 3) := dk_184 0 82 (dk_at dksX8_sumIn_0 7 rfl rfl)
theorem dX8_sumIn_10 : decode cX8_sumIn 10 = .ok (.ifCond .eq 13, 3) := dk_153 0 13 (dk_at dksX8_sumIn_0 10 rfl rfl)
theorem dX8_sumIn_13 : decode cX8_sumIn 13 = .ok (.iload_n 3, 1) := dk_29 (dk_at dksX8_sumIn_0 13 rfl rfl)
theorem dX8_sumIn_14 : decode cX8_sumIn 14 = .ok (.iconst 0, 1) := dk_3 (dk_at dksX8_sumIn_0 14 rfl rfl)
theorem dX8_sumIn_15 : decode cX8_sumIn 15 = .ok (.bipush 40, 2) := dk_16 40 (dk_at dksX8_sumIn_0 15 rfl rfl)
theorem dX8_sumIn_17 : decode cX8_sumIn 17 = .ok (.invokestatic 67, 3) := dk_184 0 67 (dk_at dksX8_sumIn_0 17 rfl rfl)
theorem dX8_sumIn_20 : decode cX8_sumIn 20 = .ok (.ifCond .ne 9, 3) := dk_154 0 9 (dk_at dksX8_sumIn_0 20 rfl rfl)
theorem dX8_sumIn_23 : decode cX8_sumIn 23 = .ok (.aload_n 0, 1) := dk_42 (dk_at dksX8_sumIn_0 23 rfl rfl)
theorem dX8_sumIn_24 : decode cX8_sumIn 24 = .ok (.iconst 1, 1) := dk_4 (dk_at dksX8_sumIn_1 0 rfl rfl)
theorem dX8_sumIn_25 : decode cX8_sumIn 25 = .ok (.invokevirtual 58, 3) := dk_182 0 58 (dk_at dksX8_sumIn_1 1 rfl rfl)
theorem dX8_sumIn_28 : decode cX8_sumIn 28 = .ok (.ireturn, 1) := dk_172 (dk_at dksX8_sumIn_1 4 rfl rfl)
theorem dX8_sumIn_29 : decode cX8_sumIn 29 = .ok (.iconst 0, 1) := dk_3 (dk_at dksX8_sumIn_1 5 rfl rfl)
theorem dX8_sumIn_30 : decode cX8_sumIn 30 = .ok (.istore 4, 2) := dk_54 4 (dk_at dksX8_sumIn_1 6 rfl rfl)
theorem dX8_sumIn_32 : decode cX8_sumIn 32 = .ok (.iload 4, 2) := dk_21 4 (dk_at dksX8_sumIn_1 8 rfl rfl)
theorem dX8_sumIn_34 : decode cX8_sumIn 34 = .ok (.sipush 442, 3) := dk_17 1 186 (dk_at dksX8_sumIn_1 10 rfl rfl)
theorem dX8_sumIn_37 : decode cX8_sumIn 37 = .ok (.if_icmp .ge 23, 3) := dk_162 0 23 (dk_at dksX8_sumIn_1 13 rfl rfl)
theorem dX8_sumIn_40 : decode cX8_sumIn 40 = .ok (.aload_n 0, 1) := dk_42 (dk_at dksX8_sumIn_1 16 rfl rfl)
theorem dX8_sumIn_41 : decode cX8_sumIn 41 = .ok (.getfield 16, 3) := dk_180 0 16 (dk_at dksX8_sumIn_1 17 rfl rfl)
theorem dX8_sumIn_44 : decode cX8_sumIn 44 = .ok (.iload 4, 2) := dk_21 4 (dk_at dksX8_sumIn_1 20 rfl rfl)
theorem dX8_sumIn_46 : decode cX8_sumIn 46 = .ok (.aload_n 0, 1) := dk_42 (dk_at dksX8_sumIn_1 22 rfl rfl)
theorem dX8_sumIn_47 : decode cX8_sumIn 47 = .ok (.getfield 9, 3) := dk_180 0 9 (dk_at dksX8_sumIn_2 0 rfl rfl)
theorem dX8_sumIn_50 : decode cX8_sumIn 50 = .ok (.iload 4, 2) := dk_21 4 (dk_at dksX8_sumIn_2 3 rfl rfl)
theorem dX8_sumIn_52 : decode cX8_sumIn 52 = .ok (.iaload, 1) := dk_46 (dk_at dksX8_sumIn_2 5 rfl rfl)
theorem dX8_sumIn_53 : decode cX8_sumIn 53 = .ok (.iastore, 1) := dk_79 (dk_at dksX8_sumIn_2 6 rfl rfl)
theorem dX8_sumIn_54 : decode cX8_sumIn 54 = .ok (.iinc 4 1, 3) := dk_132 4 1 (dk_at dksX8_sumIn_2 7 rfl rfl)
theorem dX8_sumIn_57 : decode cX8_sumIn 57 = .ok (.goto (-25), 3) := dk_167 255 231 (dk_at dksX8_sumIn_2 10 rfl rfl)
theorem dX8_sumIn_60 : decode cX8_sumIn 60 = .ok (.iconst 0, 1) := dk_3 (dk_at dksX8_sumIn_2 13 rfl rfl)
theorem dX8_sumIn_61 : decode cX8_sumIn 61 = .ok (.istore 4, 2) := dk_54 4 (dk_at dksX8_sumIn_2 14 rfl rfl)
theorem dX8_sumIn_63 : decode cX8_sumIn 63 = .ok (.iload 4, 2) := dk_21 4 (dk_at dksX8_sumIn_2 16 rfl rfl)
theorem dX8_sumIn_65 : decode cX8_sumIn 65 = .ok (.iload_n 3, 1) := dk_29 (dk_at dksX8_sumIn_2 18 rfl rfl)
theorem dX8_sumIn_66 : decode cX8_sumIn 66 = .ok (.if_icmp .ge 15, 3) := dk_162 0 15 (dk_at dksX8_sumIn_2 19 rfl rfl)
theorem dX8_sumIn_69 : decode cX8_sumIn 69 = .ok (.aload_n 0, 1) := dk_42 (dk_at dksX8_sumIn_2 22 rfl rfl)
theorem dX8_sumIn_70 : decode cX8_sumIn 70 = .ok (.invokevirtual 141, 3) := dk_182 0 141 (dk_at dksX8_sumIn_3 0 rfl rfl)
theorem dX8_sumIn_73 : decode cX8_sumIn 73 = .ok (.istore 5, 2) := dk_54 5 (dk_at dksX8_sumIn_3 3 rfl rfl)
theorem dX8_sumIn_75 : decode cX8_sumIn 75 = .ok (.iinc 4 1, 3) := dk_132 4 1 (dk_at dksX8_sumIn_3 5 rfl rfl)
theorem dX8_sumIn_78 : decode cX8_sumIn 78 = .ok (.goto (-15), 3) := dk_167 255 241 (dk_at dksX8_sumIn_3 8 rfl rfl)
theorem dX8_sumIn_81 : decode cX8_sumIn 81 = .ok (.aload_n 0, 1) := dk_42 (dk_at dksX8_sumIn_3 11 rfl rfl)
theorem dX8_sumIn_82 : decode cX8_sumIn 82 = .ok (.iload_n 1, 1) := dk_27 (dk_at dksX8_sumIn_3 12 rfl rfl)
theorem dX8_sumIn_83 : decode cX8_sumIn 83 = .ok (.iload_n 2, 1) := dk_28 (dk_at dksX8_sumIn_3 13 rfl rfl)
theorem dX8_sumIn_84 : decode cX8_sumIn 84 = .ok (.invokevirtual 101, 3) := dk_182 0 101 (dk_at dksX8_sumIn_3 14 rfl rfl)
theorem dX8_sumIn_87 : decode cX8_sumIn 87 = .ok (.istore 4, 2) := dk_54 4 (dk_at dksX8_sumIn_3 17 rfl rfl)
theorem dX8_sumIn_89 : decode cX8_sumIn 89 = .ok (.iconst 0, 1) := dk_3 (dk_at dksX8_sumIn_3 19 rfl rfl)
theorem dX8_sumIn_90 : decode cX8_sumIn 90 = .ok (.istore 5, 2) := dk_54 5 (dk_at dksX8_sumIn_3 20 rfl rfl)
theorem dX8_sumIn_92 : decode cX8_sumIn 92 = .ok (.iload 5, 2) := dk_21 5 (dk_at dksX8_sumIn_3 22 rfl rfl)
theorem dX8_sumIn_94 : decode cX8_sumIn 94 = .ok (.sipush 442, 3) := dk_17 1 186 (dk_at dksX8_sumIn_4 0 rfl rfl)
theorem dX8_sumIn_97 : decode cX8_sumIn 97 = .ok (.if_icmp .ge 23, 3) := dk_162 0 23 (dk_at dksX8_sumIn_4 3 rfl rfl)
theorem dX8_sumIn_100 : decode cX8_sumIn 100 = .ok (.aload_n 0, 1) := dk_42 (dk_at dksX8_sumIn_4 6 rfl rfl)
theorem dX8_sumIn_101 : decode cX8_sumIn 101 = .ok (.getfield 9, 3) := dk_180 0 9 (dk_at dksX8_sumIn_4 7 rfl rfl)
theorem dX8_sumIn_104 : decode cX8_sumIn 104 = .ok (.iload 5, 2) := dk_21 5 (dk_at dksX8_sumIn_4 10 rfl rfl)
theorem dX8_sumIn_106 : decode cX8_sumIn 106 = .ok (.aload_n 0, 1) := dk_42 (dk_at dksX8_sumIn_4 12 rfl rfl)
theorem dX8_sumIn_107 : decode cX8_sumIn 107 = .ok (.getfield 16, 3) := dk_180 0 16 (dk_at dksX8_sumIn_4 13 rfl rfl)
theorem dX8_sumIn_110 : decode cX8_sumIn 110 = .ok (.iload 5, 2) := dk_21 5 (dk_at dksX8_sumIn_4 16 rfl rfl)
theorem dX8_sumIn_112 : decode cX8_sumIn 112 = .ok (.iaload, 1) := dk_46 (dk_at dksX8_sumIn_4 18 rfl rfl)
theorem dX8_sumIn_113 : decode cX8_sumIn 113 = .ok (.iastore, 1) := dk_79 (dk_at dksX8_sumIn_4 19 rfl rfl)
theorem dX8_sumIn_114 : decode cX8_sumIn 114 = .ok (.iinc 5 1, 3) := dk_132 5 1 (dk_at dksX8_sumIn_4 20 rfl rfl)
theorem dX8_sumIn_117 : decode cX8_sumIn 117 = .ok (.goto (-25), 3) := dk_167 255 231 (dk_at dksX8_sumIn_5 0 rfl rfl)
theorem dX8_sumIn_120 : decode cX8_sumIn 120 = .ok (.iload 4, 2) := dk_21 4 (dk_at dksX8_sumIn_5 3 rfl rfl)
theorem dX8_sumIn_122 : decode cX8_sumIn 122 = .ok (.ireturn, 1) := dk_172 (dk_at dksX8_sumIn_5 5 rfl rfl)
theorem q2445 : (Jvm.Cond.methodLink "SpanRulerModel" (148 : Nat) ({ cls := "SpanRulerModel", name := "sum", desc := "(II)I" } : Jvm.MethodName)) ∈ lw_all := lw_g (lw_at lw_m10 225 rfl) rfl
theorem q2440 : (Jvm.Cond.code ({ cls := "SpanRulerModel", name := "sum", desc := "(II)I" } : Jvm.MethodName) prog_19_method_39_code (3 : Nat) (Option.some Jvm.ClassFile.FieldType.int)) ∈ lw_all := lw_g (lw_at lw_m10 220 rfl) rfl
theorem q2438 : (Jvm.Cond.instanceMethod ({ cls := "SpanRulerModel", name := "sum", desc := "(II)I" } : Jvm.MethodName)) ∈ lw_all := lw_g (lw_at lw_m10 218 rfl) rfl
theorem q2439 : (Jvm.Cond.selects "SpanRulerModel" ({ cls := "SpanRulerModel", name := "sum", desc := "(II)I" } : Jvm.MethodName) ({ cls := "SpanRulerModel", name := "sum", desc := "(II)I" } : Jvm.MethodName)) ∈ lw_all := lw_g (lw_at lw_m10 219 rfl) rfl
theorem q2252 : (Jvm.Cond.fieldLink "SpanRulerModel" (151 : Nat) "SpanRulerModel" "stretchFrom" "I") ∈ lw_all := lw_g (lw_at lw_m10 32 rfl) rfl
theorem q2253 : (Jvm.Cond.fieldLink "SpanRulerModel" (154 : Nat) "SpanRulerModel" "stretchTo" "I") ∈ lw_all := lw_g (lw_at lw_m10 33 rfl) rfl
theorem q2450 : (Jvm.Cond.methodLink "SpanRulerModel" (157 : Nat) ({ cls := "SpanRulerModel", name := "finds", desc := "(II)I" } : Jvm.MethodName)) ∈ lw_all := lw_g (lw_at lw_m10 230 rfl) rfl
theorem q2453 : (Jvm.Cond.code ({ cls := "SpanRulerModel", name := "finds", desc := "(II)I" } : Jvm.MethodName) prog_19_method_41_code (7 : Nat) (Option.some Jvm.ClassFile.FieldType.int)) ∈ lw_all := lw_g (lw_at lw_m10 233 rfl) rfl
theorem q2452 : (Jvm.Cond.instanceMethod ({ cls := "SpanRulerModel", name := "finds", desc := "(II)I" } : Jvm.MethodName)) ∈ lw_all := lw_g (lw_at lw_m10 232 rfl) rfl
theorem q2458 : (Jvm.Cond.methodLink "SpanRulerModel" (160 : Nat) ({ cls := "SpanRulerModel", name := "best", desc := "(II)I" } : Jvm.MethodName)) ∈ lw_all := lw_g (lw_at lw_m10 238 rfl) rfl
theorem q2449 : (Jvm.Cond.code ({ cls := "SpanRulerModel", name := "best", desc := "(II)I" } : Jvm.MethodName) prog_19_method_42_code (3 : Nat) (Option.some Jvm.ClassFile.FieldType.int)) ∈ lw_all := lw_g (lw_at lw_m10 229 rfl) rfl
theorem q2447 : (Jvm.Cond.instanceMethod ({ cls := "SpanRulerModel", name := "best", desc := "(II)I" } : Jvm.MethodName)) ∈ lw_all := lw_g (lw_at lw_m10 227 rfl) rfl
theorem q2448 : (Jvm.Cond.selects "SpanRulerModel" ({ cls := "SpanRulerModel", name := "best", desc := "(II)I" } : Jvm.MethodName) ({ cls := "SpanRulerModel", name := "best", desc := "(II)I" } : Jvm.MethodName)) ∈ lw_all := lw_g (lw_at lw_m10 228 rfl) rfl
theorem q2475 : (Jvm.Cond.methodLink "SpanRulerModel" (163 : Nat) ({ cls := "java/lang/Integer", name := "signum", desc := "(I)I" } : Jvm.MethodName)) ∈ lw_all := lw_g (lw_at lw_m11 15 rfl) rfl
theorem q94 : (Jvm.Cond.initialized "java/lang/Integer") ∈ lw_all := lw_g (lw_at lw_m1 34 rfl) rfl
theorem q1395 : (Jvm.Cond.code ({ cls := "java/lang/Integer", name := "signum", desc := "(I)I" } : Jvm.MethodName) prog_33_method_56_code (1 : Nat) (Option.some Jvm.ClassFile.FieldType.int)) ∈ lw_all := lw_g (lw_at lw_m6 135 rfl) rfl
theorem q1394 : (Jvm.Cond.static ({ cls := "java/lang/Integer", name := "signum", desc := "(I)I" } : Jvm.MethodName)) ∈ lw_all := lw_g (lw_at lw_m6 134 rfl) rfl
theorem q2237 : (Jvm.Cond.fieldLink "SpanRulerModel" (16 : Nat) "SpanRulerModel" "thought" "[I") ∈ lw_all := lw_g (lw_at lw_m10 17 rfl) rfl
/-! what is asked of numbers and colours -/
def mCell (s : MS) (c : Int32) : Int32 × MS := if isC c = true then (s.A 0 (8 + nn c), mI s 20 0) else (0, mI (mI s 20 0) 20 1)
def mSumQ (s : MS) (a b : Int32) : Int32 × MS := if isSp a b = true then (mSum s (nn a) (sp a b), mI s 20 0) else (0, mI (mI s 20 0) 20 1)
/-- the best stretch: with first cell a, from last cell c on -/
def fin (a : Nat) : Nat → Nat → Int32 → MS → Int32 × MS
  | 0, _, v, t => (v, t)
  | m + 1, c, v, t => if v < sm (t.A 0) (c + 1 - a) a 0 then fin a m (c + 1) (sm (t.A 0) (c + 1 - a) a 0) (mI (mI t 17 (nI a)) 18 (nI c)) else fin a m (c + 1) v t
def fou (b : Nat) : Nat → Nat → Int32 → MS → Int32 × MS
  | 0, _, v, t => (v, t)
  | m + 1, a, v, t => fou b m (a + 1) (fin a (b + 1 - a) a v t).1 (fin a (b + 1 - a) a v t).2
def mFinds (s : MS) (a b : Nat) : Int32 × MS := fou b (b + 1 - a) a (s.A 0 (8 + a)) (mI (mI s 17 (nI a)) 18 (nI a))
def mBest (s : MS) (a b : Int32) : Int32 × MS := if isSp a b = true then mFinds (mI s 20 0) (nn a) (nn b) else (0, mI (mI s 20 0) 20 1)
def mStretch (s : MS) (a b z : Int32) : Int32 × MS := if isSp a b = true then (if z = 0 then (mFinds (mI s 20 0) (nn a) (nn b)).2.I 17 else (mFinds (mI s 20 0) (nn a) (nn b)).2.I 18, (mFinds (mI s 20 0) (nn a) (nn b)).2) else (0, mI (mI s 20 0) 20 1)
def exT (R : Nat → Int32) (z : Int32) (c b : Nat) : Bool := if z = 0 then decide (R (8 + b) < R (8 + c)) else decide (R (8 + c) < R (8 + b))
def exl (R : Nat → Int32) (z : Int32) : Nat → Nat → Nat → Nat
  | 0, _, b => b
  | m + 1, c, b => exl R z m (c + 1) (cond (exT R z c b) c b)
def mExtreme (s : MS) (a b z : Int32) : Int32 × MS := if isSp a b = true then (nI (exl (s.A 0) z (sp a b) (nn a) (nn a)), mI s 20 0) else (0, mI (mI s 20 0) 20 1)
/-- the first cell at which a sum is reached -/
def rel (R : Nat → Int32) (x : Int32) (a : Nat) : Nat → Nat → Option Nat
  | 0, _ => none
  | m + 1, c => if sm R (c + 1 - a) a 0 < x then rel R x a m (c + 1) else some c
def mReach (s : MS) (a x : Int32) : Int32 × MS := if isC a = true then (match rel (s.A 0) x (nn a) (32 - nn a) (nn a) with
  | some c => (nI c, mI s 20 0)
  | none => (0, mI (mI s 20 0) 20 2)) else (0, mI (mI s 20 0) 20 1)
def sgn (x : Int32) : Int32 := x >>> ((31 : Int32) &&& 31) ||| ((-x).toUInt32 >>> ((31 : Int32).toUInt32 &&& Int32.toUInt32 31)).toInt32
def cnl (R : Nat → Int32) (g : Int32) : Nat → Nat → Int32 → Int32
  | 0, _, v => v
  | m + 1, c, v => cnl R g m (c + 1) (if sgn (R (8 + c)) = g then v + 1 else v)
def mCount (s : MS) (a b g : Int32) : Int32 × MS := if isSp a b = true ∧ inR g (-1) 1 = true then (cnl (s.A 0) g (sp a b) (nn a) 0, mI s 20 0) else (0, mI (mI s 20 0) 20 1)
def tkn : Nat → MS → MS
  | 0, t => t
  | m + 1, t => tkn m (mTick t).2
def mSumIn (s : MS) (a b v : Int32) : Int32 × MS := if isSp a b = true ∧ inR v 0 40 = true then (mSum (tkn (nn v) (cpl 2 0 0 0 442 0 (mI s 20 0))) (nn a) (sp a b), cpl 0 0 2 0 442 0 (tkn (nn v) (cpl 2 0 0 0 442 0 (mI s 20 0)))) else (0, mI (mI s 20 0) 20 1)
def mColourOf (s : MS) (c : Int32) : Int32 × MS := if isC c = true then (s.A 0 (40 + nn c), mI s 20 0) else (0, mI (mI s 20 0) 20 1)
def rul (R : Nat → Int32) : Nat → Nat → Int32 → Int32
  | 0, _, v => v
  | m + 1, c, v => rul R m (c + 1) (if R (40 + (c + 1)) = R (40 + c) then v else v + 1)
def mRuns (s : MS) (a b : Int32) : Int32 × MS := if isSp a b = true then (rul (s.A 0) (nn b - nn a) (nn a) 1, mI s 20 0) else (0, mI (mI s 20 0) 20 1)
def lol (R : Nat → Int32) (x : Int32) : Nat → Nat → Int32 → Int32 → Int32
  | 0, _, v, _ => v
  | m + 1, c, v, n => lol R x m (c + 1) (if v < (if R (40 + c) = x then n + 1 else 0) then (if R (40 + c) = x then n + 1 else 0) else v) (if R (40 + c) = x then n + 1 else 0)
def mLongest (s : MS) (x : Int32) : Int32 × MS := if isCo x = true then (lol (s.A 0) x 32 0 0 0, mI s 20 0) else (0, mI (mI s 20 0) 20 1)
def wol (R : Nat → Int32) (x : Int32) : Nat → Nat → Int32 → Int32
  | 0, _, v => v
  | m + 1, c, v => wol R x m (c + 1) (if R (40 + c) = x then v + R (8 + c) else v)
def mal (R : Nat → Int32) (x : Int32) : Nat → Nat → Int32 → Int32
  | 0, _, v => v
  | m + 1, c, v => mal R x m (c + 1) (if R (40 + c) = x then v + 1 else v)
def mSumOf (s : MS) (x : Int32) : Int32 × MS := if isCo x = true then (wol (s.A 0) x 32 0 0, mI s 20 0) else (0, mI (mI s 20 0) 20 1)
def ahd (R : Nat → Int32) (o t : Int32) : Bool := if wol R o 32 0 0 - wol R t 32 0 0 = 0 then (decide (0 < mal R o 32 0 0 - mal R t 32 0 0) || (decide (mal R o 32 0 0 - mal R t 32 0 0 = 0) && decide (o < t))) else decide (0 < wol R o 32 0 0 - wol R t 32 0 0)
/-- how many are ahead of one -/
def ral (R : Nat → Int32) (o : Nat) : Nat → Nat → Int32 → Int32
  | 0, _, v => v
  | m + 1, c, v => ral R o m (c + 1) (if nI c = nI o then v else if ahd R (nI c) (nI o) = true then v + 1 else v)
def rkl (R : Nat → Int32) (p : Int32) : Nat → Nat → Option Nat
  | 0, _ => none
  | m + 1, o => if ral R o 4 0 0 = p then some o else rkl R p m (o + 1)
def mRanked (s : MS) (p : Int32) : Int32 × MS := match rkl (s.A 0) p 4 0 with
  | some o => (nI o, mI s 20 0)
  | none => (0, mI (mI s 20 0) 20 1)
theorem exl_t {R : Nat → Int32} {z : Int32} {n c b F : Nat} (h : exT R z c b = true) (g : exl R z (n + 1) c b = F) : exl R z n (c + 1) c = F := by
  rw [exl, h] at g; exact g
theorem exl_f {R : Nat → Int32} {z : Int32} {n c b F : Nat} (h : exT R z c b = false) (g : exl R z (n + 1) c b = F) : exl R z n (c + 1) b = F := by
  rw [exl, h] at g; exact g
theorem cpl20_ok {s : MS} (h : mOk s) : mOk (cpl 2 0 0 0 442 0 (mI s 20 0)) := by
  have e : (cpl 2 0 0 0 442 0 (mI s 20 0)).A 0 = s.A 0 := by
    rw [cpl_eq (Or.inl (by decide)), mF_A, if_neg (by decide)]; rfl
  exact (ok_same (by rw [e]) (fun p _ => by rw [e]; exact ⟨rfl, rfl⟩) h).1
theorem m_number_ (l : Launch) (G : GE) {h0 : AH} {ad : Nat → Nat} (hA : MAd ad) (s : MS) (c : Int32) (y0 : isC c = true) : GM l G yX8_number (ws_ yX8_number cX8_number 2 (some .int)) 1 [.ref (ad 20), .int c] (mput G h0 ad s) (0) (PV (.int (MS.A s 0 (8 + nn c))) (mput G h0 ad s)) := by
  obtain ⟨e1, l1⟩ := isC_n y0
  have t := m_number l G (h0 := h0) hA s (nn c) (by omega)
  rw [← e1] at t
  exact t
theorem m_colour_ (l : Launch) (G : GE) {h0 : AH} {ad : Nat → Nat} (hA : MAd ad) (s : MS) (c : Int32) (y0 : isC c = true) : GM l G yX8_colour (ws_ yX8_colour cX8_colour 2 (some .int)) 1 [.ref (ad 20), .int c] (mput G h0 ad s) (0) (PV (.int (MS.A s 0 (40 + nn c))) (mput G h0 ad s)) := by
  obtain ⟨e1, l1⟩ := isC_n y0
  have t := m_colour l G (h0 := h0) hA s (nn c) (by omega)
  rw [← e1] at t
  exact t
theorem m_cell (l : Launch) (G : GE) {h0 : AH} {ad : Nat → Nat} (hA : MAd ad) (s : MS) (c : Int32) : GM l G yX8_cell (ws_ yX8_cell cX8_cell 2 (some .int)) 4 [.ref (ad 20), .int c] (mput G h0 ad s) (0) (PV (.int (mCell s c).1) (mput G h0 ad (mCell s c).2)) := by
  refine GM.of (by decide) (dk rfl) ?_
  intro X eL eG eh ok fn
  subst eL; subst eG
  show GW X _ 0 0 [some (.ref (ad 20)), some (.int c)] []
  refine g_aload_n ok dX8_cell_0 rfl ?_
  refine g_iconst ok (v := 0) dX8_cell_1 rfl ?_
  refine m_put ok hA 20 q2255 (by decide) dX8_cell_2 ⟨rfl, rfl⟩ ?_
  refine g_iload_n ok dX8_cell_5 rfl ?_
  refine g_callS ok q2318 q2319 q75 q2320 dX8_cell_6 (m_isCell X.l X.G _ c) (nm_ (by decide : nmb _ 1 = true)) (dl rfl) (dk rfl) rfl rfl (dk rfl) (dk rfl) (kV ?_) xV
  refine g_if_eq ok (tgt := 20) dX8_cell_9 (by decide) (fun c9 => ?_) (fun c9 => ?_)
  · have c9' := bI_e c9
    refine g_aload_n ok dX8_cell_20 rfl ?_
    refine g_iconst ok (v := 1) dX8_cell_21 rfl ?_
    refine g_callV ok q2362 q2364 qs33 q75 q2365 (m_recv ok hA) dX8_cell_22 (m_raises X.l X.G hA (h0 := h0) (mI s 20 0) 1) (nm_ (by decide : nmb _ 1 = true)) (dl rfl) (dk rfl) rfl rfl (dk rfl) (dk rfl) (kV ?_) xV
    exact g_iret ok fn rfl dX8_cell_25 (pv_i (by simp [mCell, mI_A, mI_I, c9']) (by simp [mCell, mI_A, mI_I, c9'])) (dk rfl)
  · have c9' := bI_n c9
    refine g_aload_n ok dX8_cell_12 rfl ?_
    refine g_iload_n ok dX8_cell_13 rfl ?_
    refine g_callV ok q2331 q2333 qs26 q75 q2334 (m_recv ok hA) dX8_cell_14 (m_number_ X.l X.G hA (h0 := h0) (mI s 20 0) c c9') (nm_ (by decide : nmb _ 1 = true)) (dl rfl) (dk rfl) rfl rfl (dk rfl) (dk rfl) (kV (v := .int (MS.A s 0 (8 + nn c))) ?_) xV
    refine g_goto ok dX8_cell_17 (tgt := 25) (by decide) ?_
    exact g_iret ok fn rfl dX8_cell_25 (pv_i (by simp [mCell, mI_A, mI_I, c9']) (by simp [mCell, mI_A, mI_I, c9'])) (dk rfl)
theorem m_sumQ (l : Launch) (G : GE) {h0 : AH} {ad : Nat → Nat} (hA : MAd ad) (s : MS) (a : Int32) (b : Int32) : GM l G yX8_sum (ws_ yX8_sum cX8_sum 3 (some .int)) 4 [.ref (ad 20), .int a, .int b] (mput G h0 ad s) (0) (PV (.int (mSumQ s a b).1) (mput G h0 ad (mSumQ s a b).2)) := by
  refine GM.of (by decide) (dk rfl) ?_
  intro X eL eG eh ok fn
  subst eL; subst eG
  show GW X _ 0 0 [some (.ref (ad 20)), some (.int a), some (.int b)] []
  refine g_aload_n ok dX8_sum_0 rfl ?_
  refine g_iconst ok (v := 0) dX8_sum_1 rfl ?_
  refine m_put ok hA 20 q2255 (by decide) dX8_sum_2 ⟨rfl, rfl⟩ ?_
  refine g_iload_n ok dX8_sum_5 rfl ?_
  refine g_iload_n ok dX8_sum_6 rfl ?_
  refine g_callS ok q2315 q2316 q75 q2317 dX8_sum_7 (m_isSpan X.l X.G _ a b) (nm_ (by decide : nmb _ 2 = true)) (dl rfl) (dk rfl) rfl rfl (dk rfl) (dk rfl) (kV ?_) xV
  refine g_if_eq ok (tgt := 22) dX8_sum_10 (by decide) (fun c10 => ?_) (fun c10 => ?_)
  · have c10' := bI_e c10
    refine g_aload_n ok dX8_sum_22 rfl ?_
    refine g_iconst ok (v := 1) dX8_sum_23 rfl ?_
    refine g_callV ok q2362 q2364 qs33 q75 q2365 (m_recv ok hA) dX8_sum_24 (m_raises X.l X.G hA (h0 := h0) (mI s 20 0) 1) (nm_ (by decide : nmb _ 1 = true)) (dl rfl) (dk rfl) rfl rfl (dk rfl) (dk rfl) (kV ?_) xV
    exact g_iret ok fn rfl dX8_sum_27 (pv_i (by simp [mSumQ, mI_A, mI_I, mSum, c10']) (by simp [mSumQ, mI_A, mI_I, mSum, c10'])) (dk rfl)
  · have c10' := bI_n c10
    refine g_aload_n ok dX8_sum_13 rfl ?_
    refine g_iload_n ok dX8_sum_14 rfl ?_
    refine g_iload_n ok dX8_sum_15 rfl ?_
    refine g_callV ok q2346 q2348 qs29 q75 q2349 (m_recv ok hA) dX8_sum_16 (m_sum X.l X.G hA (h0 := h0) (mI s 20 0) a b c10') (nm_ (by decide : nmb _ 2 = true)) (dl rfl) (dk rfl) rfl rfl (dk rfl) (dk rfl) (kV ?_) xV
    refine g_goto ok dX8_sum_19 (tgt := 27) (by decide) ?_
    exact g_iret ok fn rfl dX8_sum_27 (pv_i (by simp [mSumQ, mI_A, mI_I, mSum, c10']) (by simp [mSumQ, mI_A, mI_I, mSum, c10'])) (dk rfl)
theorem m_sumAgain (l : Launch) (G : GE) {h0 : AH} {ad : Nat → Nat} (hA : MAd ad) (s : MS) (a : Int32) (b : Int32) : GM l G yX8_sumAgain (ws_ yX8_sumAgain cX8_sumAgain 3 (some .int)) 5 [.ref (ad 20), .int a, .int b] (mput G h0 ad s) (0) (PV (.int (mSumQ s a b).1) (mput G h0 ad (mSumQ s a b).2)) := by
  refine GM.of (by decide) (dk rfl) ?_
  intro X eL eG eh ok fn
  subst eL; subst eG
  show GW X _ 0 0 [some (.ref (ad 20)), some (.int a), some (.int b)] []
  refine g_aload_n ok dX8_sumAgain_0 rfl ?_
  refine g_iload_n ok dX8_sumAgain_1 rfl ?_
  refine g_iload_n ok dX8_sumAgain_2 rfl ?_
  refine g_callV ok q2445 q2438 q2439 q75 q2440 (m_recv ok hA) dX8_sumAgain_3 (m_sumQ X.l X.G hA (h0 := h0) s a b) (nm_ (by decide : nmb _ 2 = true)) (dl rfl) (dk rfl) rfl rfl (dk rfl) (dk rfl) (kV ?_) xV
  exact g_iret ok fn rfl dX8_sumAgain_6 (pv_i (by simp [mSumQ, mI_A, mI_I]) (by simp [mSumQ, mI_A, mI_I])) (dk rfl)
theorem fin_t {a m c : Nat} {v : Int32} {t : MS} {F : Int32 × MS} (h : v < sm (t.A 0) (c + 1 - a) a 0) (g : fin a (m + 1) c v t = F) : fin a m (c + 1) (sm (t.A 0) (c + 1 - a) a 0) (mI (mI t 17 (nI a)) 18 (nI c)) = F := by
  rw [fin, if_pos h] at g; exact g
theorem fin_f {a m c : Nat} {v : Int32} {t : MS} {F : Int32 × MS} (h : ¬ v < sm (t.A 0) (c + 1 - a) a 0) (g : fin a (m + 1) c v t = F) : fin a m (c + 1) v t = F := by
  rw [fin, if_neg h] at g; exact g
theorem m_finds (l : Launch) (G : GE) {h0 : AH} {ad : Nat → Nat} (hA : MAd ad) (s : MS) (a : Nat) (b : Nat) (y0 : a ≤ b) (y1 : b < 32) : GM l G yX8_finds (ws_ yX8_finds cX8_finds 7 (some .int)) 3 [.ref (ad 20), .int (nI a), .int (nI b)] (mput G h0 ad s) (0) (PV (.int (mFinds s a b).1) (mput G h0 ad (mFinds s a b).2)) := by
  refine GM.of (by decide) (dk rfl) ?_
  intro X eL eG eh ok fn
  subst eL; subst eG
  show GW X _ 0 0 [some (.ref (ad 20)), some (.int (nI a)), some (.int (nI b)), none, none, none, none] []
  refine g_aload_n ok dX8_finds_0 rfl ?_
  refine g_iload_n ok dX8_finds_1 rfl ?_
  refine g_callV ok q2331 q2333 qs26 q75 q2334 (m_recv ok hA) dX8_finds_2 (m_number X.l X.G hA (h0 := h0) s a (by omega)) (nm_ (by decide : nmb _ 1 = true)) (dl rfl) (dk rfl) rfl rfl (dk rfl) (dk rfl) (kV ?_) xV
  refine g_istore_n ok dX8_finds_5 (ls1 := [some (.ref (ad 20)), some (.int (nI a)), some (.int (nI b)), some (.int (MS.A s 0 (8 + a))), none, none, none]) (dl rfl) rfl ?_
  refine g_aload_n ok dX8_finds_6 rfl ?_
  refine g_iload_n ok dX8_finds_7 rfl ?_
  refine m_put ok hA 17 q2252 (by decide) dX8_finds_8 ⟨rfl, rfl⟩ ?_
  refine g_aload_n ok dX8_finds_11 rfl ?_
  refine g_iload_n ok dX8_finds_12 rfl ?_
  refine m_put ok hA 18 q2253 (by decide) dX8_finds_13 ⟨rfl, rfl⟩ ?_
  refine g_iload_n ok dX8_finds_16 rfl ?_
  refine g_istore ok dX8_finds_17 (ls1 := [some (.ref (ad 20)), some (.int (nI a)), some (.int (nI b)), some (.int (MS.A s 0 (8 + a))), some (.int (nI a)), none, none]) (dl rfl) rfl ?_
  unfold mFinds at fn
  obtain ⟨F, hF⟩ : ∃ F : Int32 × MS, fou b (b + 1 - a) a (s.A 0 (8 + a)) (mI (mI s 17 (nI a)) 18 (nI a)) = F := ⟨_, rfl⟩
  rw [hF] at fn
  have lp : ∀ (n : Nat) (i : Nat) (v : Int32) (t : MS), (i + n = b + 1 ∧ i ≤ b + 1) → (fou b n i v t = F) → GW X (mput X.G h0 ad t) 0 19 [some (.ref (ad 20)), some (.int (nI a)), some (.int (nI b)), some (.int v), some (.int (nI i)), none, none] [] := by
    intro n
    induction n with
    | zero =>
      intro i v t g0 g1
      refine g_iload ok dX8_finds_19 rfl ?_
      refine g_iload_n ok dX8_finds_21 rfl ?_
      refine g_icmp_gt ok (tgt := 81) dX8_finds_22 (by decide) (fun _ => ?_) (fun c_ => absurd (nI_lt (a := b) (b := i) (by omega) (by omega)) c_)
      have g1 : (v, t) = F := g1
      subst g1
      refine g_iload_n ok dX8_finds_81 rfl ?_
      exact g_iret ok fn rfl dX8_finds_82 (pv_i rfl rfl) (dk rfl)
    | succ n ih =>
      intro i v t g0 g1
      refine g_iload ok dX8_finds_19 rfl ?_
      refine g_iload_n ok dX8_finds_21 rfl ?_
      refine g_icmp_gt ok (tgt := 81) dX8_finds_22 (by decide) (fun c_ => absurd c_ (nI_nlt (a := b) (b := i) (by omega) (by omega))) (fun _ => ?_)
      refine g_iload ok dX8_finds_25 rfl ?_
      refine g_istore ok dX8_finds_27 (ls1 := [some (.ref (ad 20)), some (.int (nI a)), some (.int (nI b)), some (.int v), some (.int (nI i)), some (.int (nI i)), none]) (dl rfl) rfl ?_
      obtain ⟨V, hV⟩ : ∃ V : Int32 × MS, fin i (b + 1 - i) i v t = V := ⟨_, rfl⟩
      have g1 : fou b n (i + 1) (fin i (b + 1 - i) i v t).1 (fin i (b + 1 - i) i v t).2 = F := g1
      rw [hV] at g1
      have lq : ∀ (k : Nat) (c : Nat) (x : Int32) (u : MS), (c + k = b + 1 ∧ i ≤ c ∧ c ≤ b + 1) → (fin i k c x u = V) → GW X (mput X.G h0 ad u) 0 29 [some (.ref (ad 20)), some (.int (nI a)), some (.int (nI b)), some (.int x), some (.int (nI i)), some (.int (nI c)), none] [] := by
        intro k
        induction k with
        | zero =>
          intro c x u k0 k1
          refine g_iload ok dX8_finds_29 rfl ?_
          refine g_iload_n ok dX8_finds_31 rfl ?_
          refine g_icmp_gt ok (tgt := 75) dX8_finds_32 (by decide) (fun _ => ?_) (fun c_ => absurd (nI_lt (a := b) (b := c) (by omega) (by omega)) c_)
          have k1 : (x, u) = V := k1
          subst k1
          refine g_iincN ok dX8_finds_75 (c := i) rfl rfl (ls1 := [some (.ref (ad 20)), some (.int (nI a)), some (.int (nI b)), some (.int x), some (.int (nI (i + 1))), some (.int (nI c)), none]) rfl ?_
          refine g_goto ok dX8_finds_78 (tgt := 19) (by decide) ?_
          refine g_drop 5 (ls1 := [some (.ref (ad 20)), some (.int (nI a)), some (.int (nI b)), some (.int x), some (.int (nI (i + 1))), none, none]) rfl ?_
          exact ih _ _ _ (by omega) g1
        | succ k ik =>
          intro c x u k0 k1
          refine g_iload ok dX8_finds_29 rfl ?_
          refine g_iload_n ok dX8_finds_31 rfl ?_
          refine g_icmp_gt ok (tgt := 75) dX8_finds_32 (by decide) (fun c_ => absurd c_ (nI_nlt (a := b) (b := c) (by omega) (by omega))) (fun _ => ?_)
          refine g_aload_n ok dX8_finds_35 rfl ?_
          refine g_iload ok dX8_finds_36 rfl ?_
          refine g_iload ok dX8_finds_38 rfl ?_
          refine g_callV ok q2346 q2348 qs29 q75 q2349 (m_recv ok hA) dX8_finds_40 (m_sumN X.l X.G hA (h0 := h0) u i c (by omega) (by omega)) (nm_ (by decide : nmb _ 2 = true)) (dl rfl) (dk rfl) rfl rfl (dk rfl) (dk rfl) (kV ?_) xV
          refine g_istore ok dX8_finds_43 (ls1 := [some (.ref (ad 20)), some (.int (nI a)), some (.int (nI b)), some (.int x), some (.int (nI i)), some (.int (nI c)), some (.int (sm (MS.A u 0) (c + 1 - i) i 0))]) (dl rfl) rfl ?_
          refine g_iload ok dX8_finds_45 rfl ?_
          refine g_iload_n ok dX8_finds_47 rfl ?_
          refine g_icmp_gt ok (tgt := 54) dX8_finds_48 (by decide) (fun c48 => ?_) (fun c48 => ?_)
          · have c48' := Int32.not_le.mpr c48
            refine g_iload ok dX8_finds_54 rfl ?_
            refine g_istore_n ok dX8_finds_56 (ls1 := [some (.ref (ad 20)), some (.int (nI a)), some (.int (nI b)), some (.int (sm (MS.A u 0) (c + 1 - i) i 0)), some (.int (nI i)), some (.int (nI c)), some (.int (sm (MS.A u 0) (c + 1 - i) i 0))]) (dl rfl) rfl ?_
            refine g_aload_n ok dX8_finds_57 rfl ?_
            refine g_iload ok dX8_finds_58 rfl ?_
            refine m_put ok hA 17 q2252 (by decide) dX8_finds_60 ⟨rfl, rfl⟩ ?_
            refine g_aload_n ok dX8_finds_63 rfl ?_
            refine g_iload ok dX8_finds_64 rfl ?_
            refine m_put ok hA 18 q2253 (by decide) dX8_finds_66 ⟨rfl, rfl⟩ ?_
            refine g_iincN ok dX8_finds_69 (c := c) rfl rfl (ls1 := [some (.ref (ad 20)), some (.int (nI a)), some (.int (nI b)), some (.int (sm (MS.A u 0) (c + 1 - i) i 0)), some (.int (nI i)), some (.int (nI (c + 1))), some (.int (sm (MS.A u 0) (c + 1 - i) i 0))]) rfl ?_
            refine g_goto ok dX8_finds_72 (tgt := 29) (by decide) ?_
            refine g_drop 6 (ls1 := [some (.ref (ad 20)), some (.int (nI a)), some (.int (nI b)), some (.int (sm (MS.A u 0) (c + 1 - i) i 0)), some (.int (nI i)), some (.int (nI (c + 1))), none]) rfl ?_
            exact ik _ _ _ (by omega) (fin_t c48 k1)
          · have c48' := Int32.not_lt.mp c48
            refine g_goto ok dX8_finds_51 (tgt := 69) (by decide) ?_
            refine g_iincN ok dX8_finds_69 (c := c) rfl rfl (ls1 := [some (.ref (ad 20)), some (.int (nI a)), some (.int (nI b)), some (.int x), some (.int (nI i)), some (.int (nI (c + 1))), some (.int (sm (MS.A u 0) (c + 1 - i) i 0))]) rfl ?_
            refine g_goto ok dX8_finds_72 (tgt := 29) (by decide) ?_
            refine g_drop 6 (ls1 := [some (.ref (ad 20)), some (.int (nI a)), some (.int (nI b)), some (.int x), some (.int (nI i)), some (.int (nI (c + 1))), none]) rfl ?_
            exact ik _ _ _ (by omega) (fin_f c48 k1)
      exact lq (b + 1 - i) i v t (by omega) hV
  exact lp (b + 1 - a) a _ _ (by omega) hF
theorem m_finds_ (l : Launch) (G : GE) {h0 : AH} {ad : Nat → Nat} (hA : MAd ad) (s : MS) (a : Int32) (b : Int32) (y0 : isSp a b = true) : GM l G yX8_finds (ws_ yX8_finds cX8_finds 7 (some .int)) 3 [.ref (ad 20), .int a, .int b] (mput G h0 ad s) (0) (PV (.int (mFinds s (nn a) (nn b)).1) (mput G h0 ad (mFinds s (nn a) (nn b)).2)) := by
  obtain ⟨e1, e2, h3, h4⟩ := isSp_n y0
  have t := m_finds l G (h0 := h0) hA s (nn a) (nn b) h3 h4
  rw [← e1, ← e2] at t
  exact t
theorem m_best (l : Launch) (G : GE) {h0 : AH} {ad : Nat → Nat} (hA : MAd ad) (s : MS) (a : Int32) (b : Int32) : GM l G yX8_best (ws_ yX8_best cX8_best 3 (some .int)) 4 [.ref (ad 20), .int a, .int b] (mput G h0 ad s) (0) (PV (.int (mBest s a b).1) (mput G h0 ad (mBest s a b).2)) := by
  refine GM.of (by decide) (dk rfl) ?_
  intro X eL eG eh ok fn
  subst eL; subst eG
  show GW X _ 0 0 [some (.ref (ad 20)), some (.int a), some (.int b)] []
  refine g_aload_n ok dX8_best_0 rfl ?_
  refine g_iconst ok (v := 0) dX8_best_1 rfl ?_
  refine m_put ok hA 20 q2255 (by decide) dX8_best_2 ⟨rfl, rfl⟩ ?_
  refine g_iload_n ok dX8_best_5 rfl ?_
  refine g_iload_n ok dX8_best_6 rfl ?_
  refine g_callS ok q2315 q2316 q75 q2317 dX8_best_7 (m_isSpan X.l X.G _ a b) (nm_ (by decide : nmb _ 2 = true)) (dl rfl) (dk rfl) rfl rfl (dk rfl) (dk rfl) (kV ?_) xV
  refine g_if_eq ok (tgt := 22) dX8_best_10 (by decide) (fun c10 => ?_) (fun c10 => ?_)
  · have c10' := bI_e c10
    refine g_aload_n ok dX8_best_22 rfl ?_
    refine g_iconst ok (v := 1) dX8_best_23 rfl ?_
    refine g_callV ok q2362 q2364 qs33 q75 q2365 (m_recv ok hA) dX8_best_24 (m_raises X.l X.G hA (h0 := h0) (mI s 20 0) 1) (nm_ (by decide : nmb _ 1 = true)) (dl rfl) (dk rfl) rfl rfl (dk rfl) (dk rfl) (kV ?_) xV
    exact g_iret ok fn rfl dX8_best_27 (pv_i (by simp [mBest, mI_A, mI_I, c10']) (by simp [mBest, mI_A, mI_I, c10'])) (dk rfl)
  · have c10' := bI_n c10
    refine g_aload_n ok dX8_best_13 rfl ?_
    refine g_iload_n ok dX8_best_14 rfl ?_
    refine g_iload_n ok dX8_best_15 rfl ?_
    refine g_callV ok q2450 q2452 qs43 q75 q2453 (m_recv ok hA) dX8_best_16 (m_finds_ X.l X.G hA (h0 := h0) (mI s 20 0) a b c10') (nm_ (by decide : nmb _ 2 = true)) (dl rfl) (dk rfl) rfl rfl (dk rfl) (dk rfl) (kV ?_) xV
    refine g_goto ok dX8_best_19 (tgt := 27) (by decide) ?_
    exact g_iret ok fn rfl dX8_best_27 (pv_i (by simp [mBest, mI_A, mI_I, c10']) (by simp [mBest, mI_A, mI_I, c10'])) (dk rfl)
theorem m_bestAgain (l : Launch) (G : GE) {h0 : AH} {ad : Nat → Nat} (hA : MAd ad) (s : MS) (a : Int32) (b : Int32) : GM l G yX8_bestAgain (ws_ yX8_bestAgain cX8_bestAgain 3 (some .int)) 5 [.ref (ad 20), .int a, .int b] (mput G h0 ad s) (0) (PV (.int (mBest s a b).1) (mput G h0 ad (mBest s a b).2)) := by
  refine GM.of (by decide) (dk rfl) ?_
  intro X eL eG eh ok fn
  subst eL; subst eG
  show GW X _ 0 0 [some (.ref (ad 20)), some (.int a), some (.int b)] []
  refine g_aload_n ok dX8_bestAgain_0 rfl ?_
  refine g_iload_n ok dX8_bestAgain_1 rfl ?_
  refine g_iload_n ok dX8_bestAgain_2 rfl ?_
  refine g_callV ok q2458 q2447 q2448 q75 q2449 (m_recv ok hA) dX8_bestAgain_3 (m_best X.l X.G hA (h0 := h0) s a b) (nm_ (by decide : nmb _ 2 = true)) (dl rfl) (dk rfl) rfl rfl (dk rfl) (dk rfl) (kV ?_) xV
  exact g_iret ok fn rfl dX8_bestAgain_6 (pv_i (by simp [mBest, mI_A, mI_I]) (by simp [mBest, mI_A, mI_I])) (dk rfl)
theorem m_stretch (l : Launch) (G : GE) {h0 : AH} {ad : Nat → Nat} (hA : MAd ad) (s : MS) (a : Int32) (b : Int32) (z : Int32) : GM l G yX8_stretch (ws_ yX8_stretch cX8_stretch 5 (some .int)) 4 [.ref (ad 20), .int a, .int b, .int z] (mput G h0 ad s) (0) (PV (.int (mStretch s a b z).1) (mput G h0 ad (mStretch s a b z).2)) := by
  refine GM.of (by decide) (dk rfl) ?_
  intro X eL eG eh ok fn
  subst eL; subst eG
  show GW X _ 0 0 [some (.ref (ad 20)), some (.int a), some (.int b), some (.int z), none] []
  refine g_aload_n ok dX8_stretch_0 rfl ?_
  refine g_iconst ok (v := 0) dX8_stretch_1 rfl ?_
  refine m_put ok hA 20 q2255 (by decide) dX8_stretch_2 ⟨rfl, rfl⟩ ?_
  refine g_iload_n ok dX8_stretch_5 rfl ?_
  refine g_iload_n ok dX8_stretch_6 rfl ?_
  refine g_callS ok q2315 q2316 q75 q2317 dX8_stretch_7 (m_isSpan X.l X.G _ a b) (nm_ (by decide : nmb _ 2 = true)) (dl rfl) (dk rfl) rfl rfl (dk rfl) (dk rfl) (kV ?_) xV
  refine g_if_ne ok (tgt := 19) dX8_stretch_10 (by decide) (fun c10 => ?_) (fun c10 => ?_)
  · have c10' := bI_n c10
    refine g_aload_n ok dX8_stretch_19 rfl ?_
    refine g_iload_n ok dX8_stretch_20 rfl ?_
    refine g_iload_n ok dX8_stretch_21 rfl ?_
    refine g_callV ok q2450 q2452 qs43 q75 q2453 (m_recv ok hA) dX8_stretch_22 (m_finds_ X.l X.G hA (h0 := h0) (mI s 20 0) a b c10') (nm_ (by decide : nmb _ 2 = true)) (dl rfl) (dk rfl) rfl rfl (dk rfl) (dk rfl) (kV ?_) xV
    refine g_istore ok dX8_stretch_25 (ls1 := [some (.ref (ad 20)), some (.int a), some (.int b), some (.int z), some (.int ((mFinds (mI s 20 0) (nn a) (nn b)).1))]) (dl rfl) rfl ?_
    refine g_iload_n ok dX8_stretch_27 rfl ?_
    refine g_if_eq ok (tgt := 38) dX8_stretch_28 (by decide) (fun c28 => ?_) (fun c28 => ?_)
    · refine g_aload_n ok dX8_stretch_38 rfl ?_
      refine m_get ok hA 17 q2252 (by decide) dX8_stretch_39 (v := .int (MS.I (mFinds (mI s 20 0) (nn a) (nn b)).2 17)) rfl ?_
      exact g_iret ok fn rfl dX8_stretch_42 (pv_i (by simp [mStretch, mI_A, mI_I, c10', c28]) (by simp [mStretch, mI_A, mI_I, c10', c28])) (dk rfl)
    · refine g_aload_n ok dX8_stretch_31 rfl ?_
      refine m_get ok hA 18 q2253 (by decide) dX8_stretch_32 (v := .int (MS.I (mFinds (mI s 20 0) (nn a) (nn b)).2 18)) rfl ?_
      refine g_goto ok dX8_stretch_35 (tgt := 42) (by decide) ?_
      exact g_iret ok fn rfl dX8_stretch_42 (pv_i (by simp [mStretch, mI_A, mI_I, c10', c28]) (by simp [mStretch, mI_A, mI_I, c10', c28])) (dk rfl)
  · have c10' := bI_e c10
    refine g_aload_n ok dX8_stretch_13 rfl ?_
    refine g_iconst ok (v := 1) dX8_stretch_14 rfl ?_
    refine g_callV ok q2362 q2364 qs33 q75 q2365 (m_recv ok hA) dX8_stretch_15 (m_raises X.l X.G hA (h0 := h0) (mI s 20 0) 1) (nm_ (by decide : nmb _ 1 = true)) (dl rfl) (dk rfl) rfl rfl (dk rfl) (dk rfl) (kV ?_) xV
    exact g_iret ok fn rfl dX8_stretch_18 (pv_i (by simp [mStretch, mI_A, mI_I, c10']) (by simp [mStretch, mI_A, mI_I, c10'])) (dk rfl)
theorem m_extreme (l : Launch) (G : GE) {h0 : AH} {ad : Nat → Nat} (hA : MAd ad) (s : MS) (a : Int32) (b : Int32) (z : Int32) : GM l G yX8_extreme (ws_ yX8_extreme cX8_extreme 6 (some .int)) 4 [.ref (ad 20), .int a, .int b, .int z] (mput G h0 ad s) (0) (PV (.int (mExtreme s a b z).1) (mput G h0 ad (mExtreme s a b z).2)) := by
  refine GM.of (by decide) (dk rfl) ?_
  intro X eL eG eh ok fn
  subst eL; subst eG
  show GW X _ 0 0 [some (.ref (ad 20)), some (.int a), some (.int b), some (.int z), none, none] []
  refine g_aload_n ok dX8_extreme_0 rfl ?_
  refine g_iconst ok (v := 0) dX8_extreme_1 rfl ?_
  refine m_put ok hA 20 q2255 (by decide) dX8_extreme_2 ⟨rfl, rfl⟩ ?_
  refine g_iload_n ok dX8_extreme_5 rfl ?_
  refine g_iload_n ok dX8_extreme_6 rfl ?_
  refine g_callS ok q2315 q2316 q75 q2317 dX8_extreme_7 (m_isSpan X.l X.G _ a b) (nm_ (by decide : nmb _ 2 = true)) (dl rfl) (dk rfl) rfl rfl (dk rfl) (dk rfl) (kV ?_) xV
  refine g_if_ne ok (tgt := 19) dX8_extreme_10 (by decide) (fun c10 => ?_) (fun c10 => ?_)
  · have c10' := bI_n c10
    have hs_ : mExtreme s a b z = (nI (exl (s.A 0) z (sp a b) (nn a) (nn a)), mI s 20 0) := by unfold mExtreme; rw [if_pos c10']
    rw [hs_] at fn
    clear hs_
    obtain ⟨e1, e2, h3, h4⟩ := isSp_n c10'
    have e3 : sp a b = nn b + 1 - nn a := rfl
    try rw [e3] at fn
    clear e3
    generalize nn a = i at *
    subst e1
    generalize nn b = j at *
    subst e2
    refine g_iload_n ok dX8_extreme_19 rfl ?_
    refine g_istore ok dX8_extreme_20 (ls1 := [some (.ref (ad 20)), some (.int (nI i)), some (.int (nI j)), some (.int z), some (.int (nI i)), none]) (dl rfl) rfl ?_
    refine g_iload_n ok dX8_extreme_22 rfl ?_
    refine g_istore ok dX8_extreme_23 (ls1 := [some (.ref (ad 20)), some (.int (nI i)), some (.int (nI j)), some (.int z), some (.int (nI i)), some (.int (nI i))]) (dl rfl) rfl ?_
    obtain ⟨F, hF⟩ : ∃ F : Nat, exl (s.A 0) z (j + 1 - i) i i = F := ⟨_, rfl⟩
    rw [hF] at fn
    have lp : ∀ (n : Nat) (c : Nat) (d : Nat), (c + n = j + 1 ∧ c ≤ j + 1) → (exl (s.A 0) z n c d = F) → (d < 32) → GW X (mput X.G h0 ad (mI s 20 0)) 0 25 [some (.ref (ad 20)), some (.int (nI i)), some (.int (nI j)), some (.int z), some (.int (nI d)), some (.int (nI c))] [] := by
      intro n
      induction n with
      | zero =>
        intro c d g0 g1 g2
        refine g_iload ok dX8_extreme_25 rfl ?_
        refine g_iload_n ok dX8_extreme_27 rfl ?_
        refine g_icmp_gt ok (tgt := 78) dX8_extreme_28 (by decide) (fun _ => ?_) (fun c_ => absurd (nI_lt (a := j) (b := c) (by omega) (by omega)) c_)
        have g1 : d = F := g1
        subst g1
        refine g_iload ok dX8_extreme_78 rfl ?_
        exact g_iret ok fn rfl dX8_extreme_80 (pv_i rfl rfl) (dk rfl)
      | succ n ih =>
        intro c d g0 g1 g2
        refine g_iload ok dX8_extreme_25 rfl ?_
        refine g_iload_n ok dX8_extreme_27 rfl ?_
        refine g_icmp_gt ok (tgt := 78) dX8_extreme_28 (by decide) (fun c_ => absurd c_ (nI_nlt (a := j) (b := c) (by omega) (by omega))) (fun _ => ?_)
        refine g_iload_n ok dX8_extreme_31 rfl ?_
        refine g_if_eq ok (tgt := 53) dX8_extreme_32 (by decide) (fun c32 => ?_) (fun c32 => ?_)
        · refine g_aload_n ok dX8_extreme_53 rfl ?_
          refine g_iload ok dX8_extreme_54 rfl ?_
          refine g_callV ok q2331 q2333 qs26 q75 q2334 (m_recv ok hA) dX8_extreme_56 (m_number X.l X.G hA (h0 := h0) (mI s 20 0) c (by omega)) (nm_ (by decide : nmb _ 1 = true)) (dl rfl) (dk rfl) rfl rfl (dk rfl) (dk rfl) (kV (v := .int (MS.A s 0 (8 + c))) ?_) xV
          refine g_aload_n ok dX8_extreme_59 rfl ?_
          refine g_iload ok dX8_extreme_60 rfl ?_
          refine g_callV ok q2331 q2333 qs26 q75 q2334 (m_recv ok hA) dX8_extreme_62 (m_number X.l X.G hA (h0 := h0) (mI s 20 0) d (by omega)) (nm_ (by decide : nmb _ 1 = true)) (dl rfl) (dk rfl) rfl rfl (dk rfl) (dk rfl) (kV (v := .int (MS.A s 0 (8 + d))) ?_) xV
          refine g_icmp_le ok (tgt := 72) dX8_extreme_65 (by decide) (fun c65 => ?_) (fun c65 => ?_)
          · have c65' := Int32.not_lt.mpr c65
            refine g_iincN ok dX8_extreme_72 (c := c) rfl rfl (ls1 := [some (.ref (ad 20)), some (.int (nI i)), some (.int (nI j)), some (.int z), some (.int (nI d)), some (.int (nI (c + 1)))]) rfl ?_
            refine g_goto ok dX8_extreme_75 (tgt := 25) (by decide) ?_
            exact ih _ _ (by omega) (exl_f (by simp [exT, c32, c65, c65']) g1) (by omega)
          · have c65' := Int32.not_le.mp c65
            refine g_iload ok dX8_extreme_68 rfl ?_
            refine g_istore ok dX8_extreme_70 (ls1 := [some (.ref (ad 20)), some (.int (nI i)), some (.int (nI j)), some (.int z), some (.int (nI c)), some (.int (nI c))]) (dl rfl) rfl ?_
            refine g_iincN ok dX8_extreme_72 (c := c) rfl rfl (ls1 := [some (.ref (ad 20)), some (.int (nI i)), some (.int (nI j)), some (.int z), some (.int (nI c)), some (.int (nI (c + 1)))]) rfl ?_
            refine g_goto ok dX8_extreme_75 (tgt := 25) (by decide) ?_
            exact ih _ _ (by omega) (exl_t (by simp [exT, c32, c65, c65']) g1) (by omega)
        · refine g_aload_n ok dX8_extreme_35 rfl ?_
          refine g_iload ok dX8_extreme_36 rfl ?_
          refine g_callV ok q2331 q2333 qs26 q75 q2334 (m_recv ok hA) dX8_extreme_38 (m_number X.l X.G hA (h0 := h0) (mI s 20 0) c (by omega)) (nm_ (by decide : nmb _ 1 = true)) (dl rfl) (dk rfl) rfl rfl (dk rfl) (dk rfl) (kV (v := .int (MS.A s 0 (8 + c))) ?_) xV
          refine g_aload_n ok dX8_extreme_41 rfl ?_
          refine g_iload ok dX8_extreme_42 rfl ?_
          refine g_callV ok q2331 q2333 qs26 q75 q2334 (m_recv ok hA) dX8_extreme_44 (m_number X.l X.G hA (h0 := h0) (mI s 20 0) d (by omega)) (nm_ (by decide : nmb _ 1 = true)) (dl rfl) (dk rfl) rfl rfl (dk rfl) (dk rfl) (kV (v := .int (MS.A s 0 (8 + d))) ?_) xV
          refine g_icmp_ge ok (tgt := 72) dX8_extreme_47 (by decide) (fun c47 => ?_) (fun c47 => ?_)
          · have c47' := Int32.not_lt.mpr c47
            refine g_iincN ok dX8_extreme_72 (c := c) rfl rfl (ls1 := [some (.ref (ad 20)), some (.int (nI i)), some (.int (nI j)), some (.int z), some (.int (nI d)), some (.int (nI (c + 1)))]) rfl ?_
            refine g_goto ok dX8_extreme_75 (tgt := 25) (by decide) ?_
            exact ih _ _ (by omega) (exl_f (by simp [exT, c32, c47, c47']) g1) (by omega)
          · have c47' := Int32.not_le.mp c47
            refine g_goto ok dX8_extreme_50 (tgt := 68) (by decide) ?_
            refine g_iload ok dX8_extreme_68 rfl ?_
            refine g_istore ok dX8_extreme_70 (ls1 := [some (.ref (ad 20)), some (.int (nI i)), some (.int (nI j)), some (.int z), some (.int (nI c)), some (.int (nI c))]) (dl rfl) rfl ?_
            refine g_iincN ok dX8_extreme_72 (c := c) rfl rfl (ls1 := [some (.ref (ad 20)), some (.int (nI i)), some (.int (nI j)), some (.int z), some (.int (nI c)), some (.int (nI (c + 1)))]) rfl ?_
            refine g_goto ok dX8_extreme_75 (tgt := 25) (by decide) ?_
            exact ih _ _ (by omega) (exl_t (by simp [exT, c32, c47, c47']) g1) (by omega)
    exact lp (j + 1 - i) i i (by omega) hF (by omega)
  · have c10' := bI_e c10
    refine g_aload_n ok dX8_extreme_13 rfl ?_
    refine g_iconst ok (v := 1) dX8_extreme_14 rfl ?_
    refine g_callV ok q2362 q2364 qs33 q75 q2365 (m_recv ok hA) dX8_extreme_15 (m_raises X.l X.G hA (h0 := h0) (mI s 20 0) 1) (nm_ (by decide : nmb _ 1 = true)) (dl rfl) (dk rfl) rfl rfl (dk rfl) (dk rfl) (kV ?_) xV
    exact g_iret ok fn rfl dX8_extreme_18 (pv_i (by simp [mExtreme, mI_A, mI_I, c10']) (by simp [mExtreme, mI_A, mI_I, c10'])) (dk rfl)
theorem m_reach (l : Launch) (G : GE) {h0 : AH} {ad : Nat → Nat} (hA : MAd ad) (s : MS) (a : Int32) (x : Int32) : GM l G yX8_reach (ws_ yX8_reach cX8_reach 4 (some .int)) 4 [.ref (ad 20), .int a, .int x] (mput G h0 ad s) (0) (PV (.int (mReach s a x).1) (mput G h0 ad (mReach s a x).2)) := by
  refine GM.of (by decide) (dk rfl) ?_
  intro X eL eG eh ok fn
  subst eL; subst eG
  show GW X _ 0 0 [some (.ref (ad 20)), some (.int a), some (.int x), none] []
  refine g_aload_n ok dX8_reach_0 rfl ?_
  refine g_iconst ok (v := 0) dX8_reach_1 rfl ?_
  refine m_put ok hA 20 q2255 (by decide) dX8_reach_2 ⟨rfl, rfl⟩ ?_
  refine g_iload_n ok dX8_reach_5 rfl ?_
  refine g_callS ok q2318 q2319 q75 q2320 dX8_reach_6 (m_isCell X.l X.G _ a) (nm_ (by decide : nmb _ 1 = true)) (dl rfl) (dk rfl) rfl rfl (dk rfl) (dk rfl) (kV ?_) xV
  refine g_if_ne ok (tgt := 18) dX8_reach_9 (by decide) (fun c9 => ?_) (fun c9 => ?_)
  · have c9' := bI_n c9
    have hs_ : mReach s a x = (match rel (s.A 0) x (nn a) (32 - nn a) (nn a) with | some c => (nI c, mI s 20 0) | none => (0, mI (mI s 20 0) 20 2)) := by unfold mReach; rw [if_pos c9']
    rw [hs_] at fn
    clear hs_
    obtain ⟨e1, l1⟩ := isC_n c9'
    generalize nn a = i at *
    subst e1
    refine g_iload_n ok dX8_reach_18 rfl ?_
    refine g_istore_n ok dX8_reach_19 (ls1 := [some (.ref (ad 20)), some (.int (nI i)), some (.int x), some (.int (nI i))]) (dl rfl) rfl ?_
    obtain ⟨F, hF⟩ : ∃ F : Option Nat, rel (s.A 0) x i (32 - i) i = F := ⟨_, rfl⟩
    rw [hF] at fn
    have lp : ∀ (n : Nat) (c : Nat), (c + n = 32 ∧ c ≤ 32 ∧ i ≤ c) → (rel (s.A 0) x i n c = F) → GW X (mput X.G h0 ad (mI s 20 0)) 0 20 [some (.ref (ad 20)), some (.int (nI i)), some (.int x), some (.int (nI c))] [] := by
      intro n
      induction n with
      | zero =>
        intro c g0 g1
        refine g_iload_n ok dX8_reach_20 rfl ?_
        refine g_bipush ok (v := 32) dX8_reach_21 rfl ?_
        refine g_icmp_ge ok (tgt := 44) dX8_reach_23 (by decide) (fun _ => ?_) (fun c_ => absurd (nI_le (a := 32) (b := c) (by omega) (by omega)) c_)
        have g1 : none = F := g1
        subst g1
        refine g_aload_n ok dX8_reach_44 rfl ?_
        refine g_iconst ok (v := 2) dX8_reach_45 rfl ?_
        refine g_callV ok q2362 q2364 qs33 q75 q2365 (m_recv ok hA) dX8_reach_46 (m_raises X.l X.G hA (h0 := h0) (mI s 20 0) 2) (nm_ (by decide : nmb _ 1 = true)) (dl rfl) (dk rfl) rfl rfl (dk rfl) (dk rfl) (kV ?_) xV
        exact g_iret ok fn rfl dX8_reach_49 (pv_i rfl rfl) (dk rfl)
      | succ n ih =>
        intro c g0 g1
        refine g_iload_n ok dX8_reach_20 rfl ?_
        refine g_bipush ok (v := 32) dX8_reach_21 rfl ?_
        refine g_icmp_ge ok (tgt := 44) dX8_reach_23 (by decide) (fun c_ => absurd c_ (nI_ge (a := c) (b := 32) (by omega) (by omega))) (fun _ => ?_)
        refine g_aload_n ok dX8_reach_26 rfl ?_
        refine g_iload_n ok dX8_reach_27 rfl ?_
        refine g_iload_n ok dX8_reach_28 rfl ?_
        refine g_callV ok q2346 q2348 qs29 q75 q2349 (m_recv ok hA) dX8_reach_29 (m_sumN X.l X.G hA (h0 := h0) (mI s 20 0) i c (by omega) (by omega)) (nm_ (by decide : nmb _ 2 = true)) (dl rfl) (dk rfl) rfl rfl (dk rfl) (dk rfl) (kV (v := .int (sm (MS.A s 0) (c + 1 - i) i 0)) ?_) xV
        refine g_iload_n ok dX8_reach_32 rfl ?_
        refine g_icmp_lt ok (tgt := 38) dX8_reach_33 (by decide) (fun c33 => ?_) (fun c33 => ?_)
        · have c33' := Int32.not_le.mpr c33
          refine g_iincN ok dX8_reach_38 (c := c) rfl rfl (ls1 := [some (.ref (ad 20)), some (.int (nI i)), some (.int x), some (.int (nI (c + 1)))]) rfl ?_
          refine g_goto ok dX8_reach_41 (tgt := 20) (by decide) ?_
          exact ih _ (by omega) (by have z_ := g1; rw [rel] at z_; simp only [if_pos c33] at z_; exact z_)
        · have c33' := Int32.not_lt.mp c33
          refine g_iload_n ok dX8_reach_36 rfl ?_
          have g1 : some c = F := (by have z_ := g1; rw [rel] at z_; simp only [if_neg c33] at z_; exact z_)
          subst g1
          exact g_iret ok fn rfl dX8_reach_37 (pv_i rfl rfl) (dk rfl)
    exact lp (32 - i) i (by omega) hF
  · have c9' := bI_e c9
    refine g_aload_n ok dX8_reach_12 rfl ?_
    refine g_iconst ok (v := 1) dX8_reach_13 rfl ?_
    refine g_callV ok q2362 q2364 qs33 q75 q2365 (m_recv ok hA) dX8_reach_14 (m_raises X.l X.G hA (h0 := h0) (mI s 20 0) 1) (nm_ (by decide : nmb _ 1 = true)) (dl rfl) (dk rfl) rfl rfl (dk rfl) (dk rfl) (kV ?_) xV
    exact g_iret ok fn rfl dX8_reach_17 (pv_i (by simp [mReach, mI_A, mI_I, c9']) (by simp [mReach, mI_A, mI_I, c9'])) (dk rfl)
theorem m_signum (l : Launch) (G : GE) (h : AH) (x : Int32) : GM l G yJ22_signum (ws_ yJ22_signum cJ22_signum 1 (some .int)) 1 [.int x] (h) (0) (PV (.int (sgn x)) h) := by
  refine GM.of (by decide) (dk rfl) ?_
  intro X eL eG eh ok fn
  subst eL; subst eG
  show GW X _ 0 0 [some (.int x)] []
  refine g_iload_n ok dJ22_signum_0 rfl ?_
  refine g_bipush ok (v := 31) dJ22_signum_1 rfl ?_
  refine g_ishr ok dJ22_signum_3 ?_
  refine g_iload_n ok dJ22_signum_4 rfl ?_
  refine g_ineg ok dJ22_signum_5 ?_
  refine g_bipush ok (v := 31) dJ22_signum_6 rfl ?_
  refine g_iushr ok dJ22_signum_8 (v := (((-x)).toUInt32 >>> ((31 : Int32).toUInt32 &&& Int32.toUInt32 31)).toInt32) rfl ?_
  refine g_ior ok dJ22_signum_9 ?_
  exact g_iret ok fn rfl dJ22_signum_10 (pv_h rfl) (dk rfl)
theorem m_count (l : Launch) (G : GE) {h0 : AH} {ad : Nat → Nat} (hA : MAd ad) (s : MS) (a : Int32) (b : Int32) (g : Int32) : GM l G yX8_count (ws_ yX8_count cX8_count 6 (some .int)) 4 [.ref (ad 20), .int a, .int b, .int g] (mput G h0 ad s) (0) (PV (.int (mCount s a b g).1) (mput G h0 ad (mCount s a b g).2)) := by
  refine GM.of (by decide) (dk rfl) ?_
  intro X eL eG eh ok fn
  subst eL; subst eG
  show GW X _ 0 0 [some (.ref (ad 20)), some (.int a), some (.int b), some (.int g), none, none] []
  refine g_aload_n ok dX8_count_0 rfl ?_
  refine g_iconst ok (v := 0) dX8_count_1 rfl ?_
  refine m_put ok hA 20 q2255 (by decide) dX8_count_2 ⟨rfl, rfl⟩ ?_
  refine g_iload_n ok dX8_count_5 rfl ?_
  refine g_iload_n ok dX8_count_6 rfl ?_
  refine g_callS ok q2315 q2316 q75 q2317 dX8_count_7 (m_isSpan X.l X.G _ a b) (nm_ (by decide : nmb _ 2 = true)) (dl rfl) (dk rfl) rfl rfl (dk rfl) (dk rfl) (kV ?_) xV
  refine g_if_eq ok (tgt := 22) dX8_count_10 (by decide) (fun c10 => ?_) (fun c10 => ?_)
  · have c10' := bI_e c10
    refine g_aload_n ok dX8_count_22 rfl ?_
    refine g_iconst ok (v := 1) dX8_count_23 rfl ?_
    refine g_callV ok q2362 q2364 qs33 q75 q2365 (m_recv ok hA) dX8_count_24 (m_raises X.l X.G hA (h0 := h0) (mI s 20 0) 1) (nm_ (by decide : nmb _ 1 = true)) (dl rfl) (dk rfl) rfl rfl (dk rfl) (dk rfl) (kV ?_) xV
    exact g_iret ok fn rfl dX8_count_27 (pv_i (by simp [mCount, mI_A, mI_I, c10']) (by simp [mCount, mI_A, mI_I, c10'])) (dk rfl)
  · have c10' := bI_n c10
    refine g_iload_n ok dX8_count_13 rfl ?_
    refine g_iconst ok (v := -1) dX8_count_14 rfl ?_
    refine g_iconst ok (v := 1) dX8_count_15 rfl ?_
    refine g_callS ok q2321 q2322 q75 q2323 dX8_count_16 (m_in X.l X.G _ g (-1) 1) (nm_ (by decide : nmb _ 3 = true)) (dl rfl) (dk rfl) rfl rfl (dk rfl) (dk rfl) (kV ?_) xV
    refine g_if_ne ok (tgt := 28) dX8_count_19 (by decide) (fun c19 => ?_) (fun c19 => ?_)
    · have c19' := bI_n c19
      have hs_ : mCount s a b g = (cnl (s.A 0) g (sp a b) (nn a) 0, mI s 20 0) := by unfold mCount; rw [if_pos ⟨c10', c19'⟩]
      rw [hs_] at fn
      clear hs_
      obtain ⟨e1, e2, h3, h4⟩ := isSp_n c10'
      have e3 : sp a b = nn b + 1 - nn a := rfl
      try rw [e3] at fn
      clear e3
      generalize nn a = i at *
      subst e1
      generalize nn b = j at *
      subst e2
      refine g_iconst ok (v := 0) dX8_count_28 rfl ?_
      refine g_istore ok dX8_count_29 (ls1 := [some (.ref (ad 20)), some (.int (nI i)), some (.int (nI j)), some (.int g), some (.int 0), none]) (dl rfl) rfl ?_
      refine g_iload_n ok dX8_count_31 rfl ?_
      refine g_istore ok dX8_count_32 (ls1 := [some (.ref (ad 20)), some (.int (nI i)), some (.int (nI j)), some (.int g), some (.int 0), some (.int (nI i))]) (dl rfl) rfl ?_
      obtain ⟨F, hF⟩ : ∃ F : Int32, cnl (s.A 0) g (j + 1 - i) i 0 = F := ⟨_, rfl⟩
      rw [hF] at fn
      have lp : ∀ (n : Nat) (c : Nat) (v : Int32), (c + n = j + 1 ∧ c ≤ j + 1) → (cnl (s.A 0) g n c v = F) → GW X (mput X.G h0 ad (mI s 20 0)) 0 34 [some (.ref (ad 20)), some (.int (nI i)), some (.int (nI j)), some (.int g), some (.int v), some (.int (nI c))] [] := by
        intro n
        induction n with
        | zero =>
          intro c v g0 g1
          refine g_iload ok dX8_count_34 rfl ?_
          refine g_iload_n ok dX8_count_36 rfl ?_
          refine g_icmp_gt ok (tgt := 62) dX8_count_37 (by decide) (fun _ => ?_) (fun c_ => absurd (nI_lt (a := j) (b := c) (by omega) (by omega)) c_)
          refine g_iload ok dX8_count_62 rfl ?_
          exact g_iret ok fn rfl dX8_count_64 (pv_i g1 rfl) (dk rfl)
        | succ n ih =>
          intro c v g0 g1
          refine g_iload ok dX8_count_34 rfl ?_
          refine g_iload_n ok dX8_count_36 rfl ?_
          refine g_icmp_gt ok (tgt := 62) dX8_count_37 (by decide) (fun c_ => absurd c_ (nI_nlt (a := j) (b := c) (by omega) (by omega))) (fun _ => ?_)
          refine g_aload_n ok dX8_count_40 rfl ?_
          refine g_iload ok dX8_count_41 rfl ?_
          refine g_callV ok q2331 q2333 qs26 q75 q2334 (m_recv ok hA) dX8_count_43 (m_number X.l X.G hA (h0 := h0) (mI s 20 0) c (by omega)) (nm_ (by decide : nmb _ 1 = true)) (dl rfl) (dk rfl) rfl rfl (dk rfl) (dk rfl) (kV (v := .int (MS.A s 0 (8 + c))) ?_) xV
          refine g_callS ok q2475 q1394 q94 q1395 dX8_count_46 (m_signum X.l X.G _ (MS.A s 0 (8 + c))) (nm_ (by decide : nmb _ 1 = true)) (dl rfl) (dk rfl) rfl rfl (dk rfl) (dk rfl) (kV ?_) xV
          refine g_iload_n ok dX8_count_49 rfl ?_
          refine g_icmp_ne ok (tgt := 56) dX8_count_50 (by decide) (fun c50 => ?_) (fun c50 => ?_)
          · refine g_iincN ok dX8_count_56 (c := c) rfl rfl (ls1 := [some (.ref (ad 20)), some (.int (nI i)), some (.int (nI j)), some (.int g), some (.int v), some (.int (nI (c + 1)))]) rfl ?_
            refine g_goto ok dX8_count_59 (tgt := 34) (by decide) ?_
            exact ih _ _ (by omega) (by have z_ := g1; rw [cnl] at z_; simp only [if_neg c50] at z_; exact z_)
          · refine g_iinc ok dX8_count_53 rfl (v := (v + 1)) rfl (ls1 := [some (.ref (ad 20)), some (.int (nI i)), some (.int (nI j)), some (.int g), some (.int (v + 1)), some (.int (nI c))]) rfl ?_
            refine g_iincN ok dX8_count_56 (c := c) rfl rfl (ls1 := [some (.ref (ad 20)), some (.int (nI i)), some (.int (nI j)), some (.int g), some (.int (v + 1)), some (.int (nI (c + 1)))]) rfl ?_
            refine g_goto ok dX8_count_59 (tgt := 34) (by decide) ?_
            exact ih _ _ (by omega) (by have z_ := g1; rw [cnl] at z_; simp only [if_pos c50] at z_; exact z_)
      exact lp (j + 1 - i) i 0 (by omega) hF
    · have c19' := bI_e c19
      refine g_aload_n ok dX8_count_22 rfl ?_
      refine g_iconst ok (v := 1) dX8_count_23 rfl ?_
      refine g_callV ok q2362 q2364 qs33 q75 q2365 (m_recv ok hA) dX8_count_24 (m_raises X.l X.G hA (h0 := h0) (mI s 20 0) 1) (nm_ (by decide : nmb _ 1 = true)) (dl rfl) (dk rfl) rfl rfl (dk rfl) (dk rfl) (kV ?_) xV
      exact g_iret ok fn rfl dX8_count_27 (pv_i (by simp [mCount, mI_A, mI_I, c10', c19']) (by simp [mCount, mI_A, mI_I, c10', c19'])) (dk rfl)
theorem m_sumIn (l : Launch) (G : GE) {h0 : AH} {ad : Nat → Nat} (hA : MAd ad) (s : MS) (a : Int32) (b : Int32) (v : Int32) (y0 : mOk s) : GM l G yX8_sumIn (ws_ yX8_sumIn cX8_sumIn 6 (some .int)) 4 [.ref (ad 20), .int a, .int b, .int v] (mput G h0 ad s) (0) (PV (.int (mSumIn s a b v).1) (mput G h0 ad (mSumIn s a b v).2)) := by
  refine GM.of (by decide) (dk rfl) ?_
  intro X eL eG eh ok fn
  subst eL; subst eG
  show GW X _ 0 0 [some (.ref (ad 20)), some (.int a), some (.int b), some (.int v), none, none] []
  refine g_aload_n ok dX8_sumIn_0 rfl ?_
  refine g_iconst ok (v := 0) dX8_sumIn_1 rfl ?_
  refine m_put ok hA 20 q2255 (by decide) dX8_sumIn_2 ⟨rfl, rfl⟩ ?_
  refine g_iload_n ok dX8_sumIn_5 rfl ?_
  refine g_iload_n ok dX8_sumIn_6 rfl ?_
  refine g_callS ok q2315 q2316 q75 q2317 dX8_sumIn_7 (m_isSpan X.l X.G _ a b) (nm_ (by decide : nmb _ 2 = true)) (dl rfl) (dk rfl) rfl rfl (dk rfl) (dk rfl) (kV ?_) xV
  refine g_if_eq ok (tgt := 23) dX8_sumIn_10 (by decide) (fun c10 => ?_) (fun c10 => ?_)
  · have c10' := bI_e c10
    refine g_aload_n ok dX8_sumIn_23 rfl ?_
    refine g_iconst ok (v := 1) dX8_sumIn_24 rfl ?_
    refine g_callV ok q2362 q2364 qs33 q75 q2365 (m_recv ok hA) dX8_sumIn_25 (m_raises X.l X.G hA (h0 := h0) (mI s 20 0) 1) (nm_ (by decide : nmb _ 1 = true)) (dl rfl) (dk rfl) rfl rfl (dk rfl) (dk rfl) (kV ?_) xV
    exact g_iret ok fn rfl dX8_sumIn_28 (pv_i (by simp [mSumIn, mI_A, mI_I, c10']) (by simp [mSumIn, mI_A, mI_I, c10'])) (dk rfl)
  · have c10' := bI_n c10
    refine g_iload_n ok dX8_sumIn_13 rfl ?_
    refine g_iconst ok (v := 0) dX8_sumIn_14 rfl ?_
    refine g_bipush ok (v := 40) dX8_sumIn_15 rfl ?_
    refine g_callS ok q2321 q2322 q75 q2323 dX8_sumIn_17 (m_in X.l X.G _ v 0 40) (nm_ (by decide : nmb _ 3 = true)) (dl rfl) (dk rfl) rfl rfl (dk rfl) (dk rfl) (kV ?_) xV
    refine g_if_ne ok (tgt := 29) dX8_sumIn_20 (by decide) (fun c20 => ?_) (fun c20 => ?_)
    · have c20' := bI_n c20
      have hs_ : mSumIn s a b v = (mSum (tkn (nn v) (cpl 2 0 0 0 442 0 (mI s 20 0))) (nn a) (sp a b), cpl 0 0 2 0 442 0 (tkn (nn v) (cpl 2 0 0 0 442 0 (mI s 20 0)))) := by unfold mSumIn; rw [if_pos ⟨c10', c20'⟩]
      rw [hs_] at fn
      clear hs_
      obtain ⟨e1, e2, h3, h4⟩ := isSp_n c10'
      have e3 : sp a b = nn b + 1 - nn a := rfl
      try rw [e3] at fn
      clear e3
      generalize nn a = i at *
      subst e1
      generalize nn b = j at *
      subst e2
      obtain ⟨f1, -, f2⟩ := inR0_40 c20'
      generalize nn v = m at *
      subst f1
      have ok1 := cpl20_ok y0
      refine g_iconst ok (v := 0) dX8_sumIn_29 rfl ?_
      refine g_istore ok dX8_sumIn_30 (ls1 := [some (.ref (ad 20)), some (.int (nI i)), some (.int (nI j)), some (.int (nI m)), some (.int 0), none]) (dl rfl) rfl ?_
      have lp : ∀ (n : Nat) (c : Nat) (t : MS), (c + n = 442) → (cpl 2 0 0 0 n c t = cpl 2 0 0 0 442 0 (mI s 20 0)) → GW X (mput X.G h0 ad t) 0 32 [some (.ref (ad 20)), some (.int (nI i)), some (.int (nI j)), some (.int (nI m)), some (.int (nI c)), none] [] := by
        intro n
        induction n with
        | zero =>
          intro c t g0 g1
          refine g_iload ok dX8_sumIn_32 rfl ?_
          refine g_sipush ok (v := 442) dX8_sumIn_34 rfl ?_
          refine g_icmp_ge ok (tgt := 60) dX8_sumIn_37 (by decide) (fun _ => ?_) (fun c_ => absurd (nI_le (a := 442) (b := c) (by omega) (by omega)) c_)
          have g1 : t = cpl 2 0 0 0 442 0 (mI s 20 0) := g1
          subst g1
          have g0 : c = 442 := by omega
          subst g0
          refine g_iconst ok (v := 0) dX8_sumIn_60 rfl ?_
          refine g_istore ok dX8_sumIn_61 (ls1 := [some (.ref (ad 20)), some (.int (nI i)), some (.int (nI j)), some (.int (nI m)), some (.int 0), none]) (dl rfl) rfl ?_
          generalize cpl 2 0 0 0 442 0 (mI s 20 0) = s1 at *
          obtain ⟨F, hF⟩ : ∃ F : MS, tkn m s1 = F := ⟨_, rfl⟩
          rw [hF] at fn
          have lp : ∀ (k : Nat) (d : Nat) (u : MS), (d + k = m) → (tkn k u = F) → (mOk u) → GW X (mput X.G h0 ad u) 0 63 [some (.ref (ad 20)), some (.int (nI i)), some (.int (nI j)), some (.int (nI m)), some (.int (nI d)), none] [] := by
            intro k
            induction k with
            | zero =>
              intro d u g0 g1 g2
              refine g_iload ok dX8_sumIn_63 rfl ?_
              refine g_iload_n ok dX8_sumIn_65 rfl ?_
              refine g_icmp_ge ok (tgt := 81) dX8_sumIn_66 (by decide) (fun _ => ?_) (fun c_ => absurd (nI_le (a := m) (b := d) (by omega) (by omega)) c_)
              have g1 : u = F := g1
              subst g1
              refine g_aload_n ok dX8_sumIn_81 rfl ?_
              refine g_iload_n ok dX8_sumIn_82 rfl ?_
              refine g_iload_n ok dX8_sumIn_83 rfl ?_
              refine g_callV ok q2346 q2348 qs29 q75 q2349 (m_recv ok hA) dX8_sumIn_84 (m_sumN X.l X.G hA (h0 := h0) u i j (by omega) (by omega)) (nm_ (by decide : nmb _ 2 = true)) (dl rfl) (dk rfl) rfl rfl (dk rfl) (dk rfl) (kV ?_) xV
              refine g_istore ok dX8_sumIn_87 (ls1 := [some (.ref (ad 20)), some (.int (nI i)), some (.int (nI j)), some (.int (nI m)), some (.int (sm (MS.A u 0) (j + 1 - i) i 0)), none]) (dl rfl) rfl ?_
              refine g_iconst ok (v := 0) dX8_sumIn_89 rfl ?_
              refine g_istore ok dX8_sumIn_90 (ls1 := [some (.ref (ad 20)), some (.int (nI i)), some (.int (nI j)), some (.int (nI m)), some (.int (sm (MS.A u 0) (j + 1 - i) i 0)), some (.int 0)]) (dl rfl) rfl ?_
              refine g_drop 3 (ls1 := [some (.ref (ad 20)), some (.int (nI i)), some (.int (nI j)), none, some (.int (sm (MS.A u 0) (j + 1 - i) i 0)), some (.int 0)]) rfl ?_
              have lp : ∀ (n : Nat) (c : Nat) (t : MS), (c + n = 442) → (cpl 0 0 2 0 n c t = cpl 0 0 2 0 442 0 u) → GW X (mput X.G h0 ad t) 0 92 [some (.ref (ad 20)), some (.int (nI i)), some (.int (nI j)), none, some (.int (sm (MS.A u 0) (j + 1 - i) i 0)), some (.int (nI c))] [] := by
                intro n
                induction n with
                | zero =>
                  intro c t g0 g1
                  refine g_iload ok dX8_sumIn_92 rfl ?_
                  refine g_sipush ok (v := 442) dX8_sumIn_94 rfl ?_
                  refine g_icmp_ge ok (tgt := 120) dX8_sumIn_97 (by decide) (fun _ => ?_) (fun c_ => absurd (nI_le (a := 442) (b := c) (by omega) (by omega)) c_)
                  have g1 : t = cpl 0 0 2 0 442 0 u := g1
                  subst g1
                  have g0 : c = 442 := by omega
                  subst g0
                  refine g_iload ok dX8_sumIn_120 rfl ?_
                  exact g_iret ok fn rfl dX8_sumIn_122 (pv_i rfl rfl) (dk rfl)
                | succ n ih =>
                  intro c t g0 g1
                  refine g_iload ok dX8_sumIn_92 rfl ?_
                  refine g_sipush ok (v := 442) dX8_sumIn_94 rfl ?_
                  refine g_icmp_ge ok (tgt := 120) dX8_sumIn_97 (by decide) (fun c_ => absurd c_ (nI_ge (a := c) (b := 442) (by omega) (by omega))) (fun _ => ?_)
                  refine g_aload_n ok dX8_sumIn_100 rfl ?_
                  refine m_get ok hA 0 q2235 (by decide) dX8_sumIn_101 (v := .ref (ad 0)) rfl ?_
                  refine g_iload ok dX8_sumIn_104 rfl ?_
                  refine g_aload_n ok dX8_sumIn_106 rfl ?_
                  refine m_get ok hA 2 q2237 (by decide) dX8_sumIn_107 (v := .ref (ad 2)) rfl ?_
                  refine g_iload ok dX8_sumIn_110 rfl ?_
                  refine m_ald ok hA 2 c (v := (MS.A t 2 c)) (by decide) dX8_sumIn_112 rfl (by simp only [mlen]; omega) rfl ?_
                  refine m_ast ok hA 0 c (by decide) dX8_sumIn_113 rfl (by simp only [mlen]; omega) ?_
                  refine g_iincN ok dX8_sumIn_114 (c := c) rfl rfl (ls1 := [some (.ref (ad 20)), some (.int (nI i)), some (.int (nI j)), none, some (.int (sm (MS.A u 0) (j + 1 - i) i 0)), some (.int (nI (c + 1)))]) rfl ?_
                  refine g_goto ok dX8_sumIn_117 (tgt := 92) (by decide) ?_
                  exact ih _ _ (by omega) (cpl_z g1)
              exact lp 442 0 _ (by omega) rfl
            | succ k ih =>
              intro d u g0 g1 g2
              refine g_iload ok dX8_sumIn_63 rfl ?_
              refine g_iload_n ok dX8_sumIn_65 rfl ?_
              refine g_icmp_ge ok (tgt := 81) dX8_sumIn_66 (by decide) (fun c_ => absurd c_ (nI_ge (a := d) (b := m) (by omega) (by omega))) (fun _ => ?_)
              refine g_aload_n ok dX8_sumIn_69 rfl ?_
              refine g_callV ok q2429 q2431 qs42 q75 q2432 (m_recv ok hA) dX8_sumIn_70 (m_ticksOn X.l X.G hA (h0 := h0) u g2) (nm_ (by decide : nmb _ 0 = true)) (dl rfl) (dk rfl) rfl rfl (dk rfl) (dk rfl) (kV ?_) xV
              refine g_istore ok dX8_sumIn_73 (ls1 := [some (.ref (ad 20)), some (.int (nI i)), some (.int (nI j)), some (.int (nI m)), some (.int (nI d)), some (.int ((mTick u).1))]) (dl rfl) rfl ?_
              refine g_iincN ok dX8_sumIn_75 (c := d) rfl rfl (ls1 := [some (.ref (ad 20)), some (.int (nI i)), some (.int (nI j)), some (.int (nI m)), some (.int (nI (d + 1))), some (.int ((mTick u).1))]) rfl ?_
              refine g_goto ok dX8_sumIn_78 (tgt := 63) (by decide) ?_
              refine g_drop 5 (ls1 := [some (.ref (ad 20)), some (.int (nI i)), some (.int (nI j)), some (.int (nI m)), some (.int (nI (d + 1))), none]) rfl ?_
              exact ih _ _ (by omega) g1 (mTick_ok g2)
          exact lp m 0 _ (by omega) hF ok1
        | succ n ih =>
          intro c t g0 g1
          refine g_iload ok dX8_sumIn_32 rfl ?_
          refine g_sipush ok (v := 442) dX8_sumIn_34 rfl ?_
          refine g_icmp_ge ok (tgt := 60) dX8_sumIn_37 (by decide) (fun c_ => absurd c_ (nI_ge (a := c) (b := 442) (by omega) (by omega))) (fun _ => ?_)
          refine g_aload_n ok dX8_sumIn_40 rfl ?_
          refine m_get ok hA 2 q2237 (by decide) dX8_sumIn_41 (v := .ref (ad 2)) rfl ?_
          refine g_iload ok dX8_sumIn_44 rfl ?_
          refine g_aload_n ok dX8_sumIn_46 rfl ?_
          refine m_get ok hA 0 q2235 (by decide) dX8_sumIn_47 (v := .ref (ad 0)) rfl ?_
          refine g_iload ok dX8_sumIn_50 rfl ?_
          refine m_ald ok hA 0 c (v := (MS.A t 0 c)) (by decide) dX8_sumIn_52 rfl (by simp only [mlen]; omega) rfl ?_
          refine m_ast ok hA 2 c (by decide) dX8_sumIn_53 rfl (by simp only [mlen]; omega) ?_
          refine g_iincN ok dX8_sumIn_54 (c := c) rfl rfl (ls1 := [some (.ref (ad 20)), some (.int (nI i)), some (.int (nI j)), some (.int (nI m)), some (.int (nI (c + 1))), none]) rfl ?_
          refine g_goto ok dX8_sumIn_57 (tgt := 32) (by decide) ?_
          exact ih _ _ (by omega) (cpl_z g1)
      exact lp 442 0 _ (by omega) rfl
    · have c20' := bI_e c20
      refine g_aload_n ok dX8_sumIn_23 rfl ?_
      refine g_iconst ok (v := 1) dX8_sumIn_24 rfl ?_
      refine g_callV ok q2362 q2364 qs33 q75 q2365 (m_recv ok hA) dX8_sumIn_25 (m_raises X.l X.G hA (h0 := h0) (mI s 20 0) 1) (nm_ (by decide : nmb _ 1 = true)) (dl rfl) (dk rfl) rfl rfl (dk rfl) (dk rfl) (kV ?_) xV
      exact g_iret ok fn rfl dX8_sumIn_28 (pv_i (by simp [mSumIn, mI_A, mI_I, c10', c20']) (by simp [mSumIn, mI_A, mI_I, c10', c20'])) (dk rfl)
