/-! the SpanRuler is asked, 1 -/
set_option maxRecDepth 100000
abbrev cX1_checkSpan : ByteArray := prog_1_method_19_code
def yX1_checkSpan : MethodName := ⟨RX1, "checkSpan", "(II)V"⟩
def dkwX1_checkSpan_0 : List UInt8 := [26, 27, 184, 0, 167, 184, 0, 170, 177]
abbrev dktX1_checkSpan_0 : List UInt8 := dkwX1_checkSpan_0 ++ []
theorem dksX1_checkSpan_0 : cX1_checkSpan.data.toList.drop 0 = dktX1_checkSpan_0 := by decide +kernel
theorem dX1_checkSpan_0 : decode cX1_checkSpan 0 = .ok (.iload_n 0, 1) := dk_26 (dk_at dksX1_checkSpan_0 0 rfl rfl)
theorem dX1_checkSpan_1 : decode cX1_checkSpan 1 = .ok (.iload_n 1, 1) := dk_27 (dk_at dksX1_checkSpan_0 1 rfl rfl)
theorem dX1_checkSpan_2 : decode cX1_checkSpan 2 = .ok (.invokestatic 167, 3) := dk_184 0 167 (dk_at dksX1_checkSpan_0 2 rfl rfl)
theorem dX1_checkSpan_5 : decode cX1_checkSpan 5 = .ok (.invokestatic 170, 3) := dk_184 0 170 (dk_at dksX1_checkSpan_0 5 rfl rfl)
theorem dX1_checkSpan_8 : decode cX1_checkSpan 8 = .ok (.return_, 1) := dk_177 (dk_at dksX1_checkSpan_0 8 rfl rfl)
abbrev cX1_sum : ByteArray := prog_1_method_31_code
def yX1_sum : MethodName := ⟨RX1, "sum", "(II)I"⟩
def dkwX1_sum_0 : List UInt8 := [27, 28, 184, 0, 211, 42, 180, 0, 126, 27, 28, 182, 1, 9, 172]
abbrev dktX1_sum_0 : List UInt8 := dkwX1_sum_0 ++ []
theorem dksX1_sum_0 : cX1_sum.data.toList.drop 0 = dktX1_sum_0 := by decide +kernel
theorem dX1_sum_0 : decode cX1_sum 0 = .ok (.iload_n 1, 1) := dk_27 (dk_at dksX1_sum_0 0 rfl rfl)
theorem dX1_sum_1 : decode cX1_sum 1 = .ok (.iload_n 2, 1) := dk_28 (dk_at dksX1_sum_0 1 rfl rfl)
theorem dX1_sum_2 : decode cX1_sum 2 = .ok (.invokestatic 211, 3) := dk_184 0 211 (dk_at dksX1_sum_0 2 rfl rfl)
theorem dX1_sum_5 : decode cX1_sum 5 = .ok (.aload_n 0, 1) := dk_42 (dk_at dksX1_sum_0 5 rfl rfl)
theorem dX1_sum_6 : decode cX1_sum 6 = .ok (.getfield 126, 3) := dk_180 0 126 (dk_at dksX1_sum_0 6 rfl rfl)
theorem dX1_sum_9 : decode cX1_sum 9 = .ok (.iload_n 1, 1) := dk_27 (dk_at dksX1_sum_0 9 rfl rfl)
theorem dX1_sum_10 : decode cX1_sum 10 = .ok (.iload_n 2, 1) := dk_28 (dk_at dksX1_sum_0 10 rfl rfl)
theorem dX1_sum_11 : decode cX1_sum 11 = .ok (.invokevirtual 265, 3) := dk_182 1 9 (dk_at dksX1_sum_0 11 rfl rfl)
theorem dX1_sum_14 : decode cX1_sum 14 = .ok (.ireturn, 1) := dk_172 (dk_at dksX1_sum_0 14 rfl rfl)
abbrev cX1_sumAgain : ByteArray := prog_1_method_32_code
def yX1_sumAgain : MethodName := ⟨RX1, "sumAgain", "(II)I"⟩
def dkwX1_sumAgain_0 : List UInt8 := [27, 28, 184, 0, 211, 42, 180, 0, 126, 27, 28, 182, 1, 11, 172]
abbrev dktX1_sumAgain_0 : List UInt8 := dkwX1_sumAgain_0 ++ []
theorem dksX1_sumAgain_0 : cX1_sumAgain.data.toList.drop 0 = dktX1_sumAgain_0 := by decide +kernel
theorem dX1_sumAgain_0 : decode cX1_sumAgain 0 = .ok (.iload_n 1, 1) := dk_27 (dk_at dksX1_sumAgain_0 0 rfl rfl)
theorem dX1_sumAgain_1 : decode cX1_sumAgain 1 = .ok (.iload_n 2, 1) := dk_28 (dk_at dksX1_sumAgain_0 1 rfl rfl)
theorem dX1_sumAgain_2 : decode cX1_sumAgain 2 = .ok (.invokestatic 211, 3) := dk_184 0 211 (dk_at dksX1_sumAgain_0 2 rfl rfl)
theorem dX1_sumAgain_5 : decode cX1_sumAgain 5 = .ok (.aload_n 0, 1) := dk_42 (dk_at dksX1_sumAgain_0 5 rfl rfl)
theorem dX1_sumAgain_6 : decode cX1_sumAgain 6 = .ok (.getfield 126, 3) := dk_180 0 126 (dk_at dksX1_sumAgain_0 6 rfl rfl)
theorem dX1_sumAgain_9 : decode cX1_sumAgain 9 = .ok (.iload_n 1, 1) := dk_27 (dk_at dksX1_sumAgain_0 9 rfl rfl)
theorem dX1_sumAgain_10 : decode cX1_sumAgain 10 = .ok (.iload_n 2, 1) := dk_28 (dk_at dksX1_sumAgain_0 10 rfl rfl)
theorem dX1_sumAgain_11 : decode cX1_sumAgain 11 = .ok (.invokevirtual 267, 3) := dk_182 1 11 (dk_at dksX1_sumAgain_0 11 rfl rfl)
theorem dX1_sumAgain_14 : decode cX1_sumAgain 14 = .ok (.ireturn, 1) := dk_172 (dk_at dksX1_sumAgain_0 14 rfl rfl)
abbrev cX1_runs : ByteArray := prog_1_method_41_code
def yX1_runs : MethodName := ⟨RX1, "runs", "(II)I"⟩
def dkwX1_runs_0 : List UInt8 := [27, 28, 184, 0, 211, 42, 180, 0, 126, 27, 28, 182, 1, 40, 172]
abbrev dktX1_runs_0 : List UInt8 := dkwX1_runs_0 ++ []
theorem dksX1_runs_0 : cX1_runs.data.toList.drop 0 = dktX1_runs_0 := by decide +kernel
theorem dX1_runs_0 : decode cX1_runs 0 = .ok (.iload_n 1, 1) := dk_27 (dk_at dksX1_runs_0 0 rfl rfl)
theorem dX1_runs_1 : decode cX1_runs 1 = .ok (.iload_n 2, 1) := dk_28 (dk_at dksX1_runs_0 1 rfl rfl)
theorem dX1_runs_2 : decode cX1_runs 2 = .ok (.invokestatic 211, 3) := dk_184 0 211 (dk_at dksX1_runs_0 2 rfl rfl)
theorem dX1_runs_5 : decode cX1_runs 5 = .ok (.aload_n 0, 1) := dk_42 (dk_at dksX1_runs_0 5 rfl rfl)
theorem dX1_runs_6 : decode cX1_runs 6 = .ok (.getfield 126, 3) := dk_180 0 126 (dk_at dksX1_runs_0 6 rfl rfl)
theorem dX1_runs_9 : decode cX1_runs 9 = .ok (.iload_n 1, 1) := dk_27 (dk_at dksX1_runs_0 9 rfl rfl)
theorem dX1_runs_10 : decode cX1_runs 10 = .ok (.iload_n 2, 1) := dk_28 (dk_at dksX1_runs_0 10 rfl rfl)
theorem dX1_runs_11 : decode cX1_runs 11 = .ok (.invokevirtual 296, 3) := dk_182 1 40 (dk_at dksX1_runs_0 11 rfl rfl)
theorem dX1_runs_14 : decode cX1_runs 14 = .ok (.ireturn, 1) := dk_172 (dk_at dksX1_runs_0 14 rfl rfl)
abbrev cX1_extreme : ByteArray := prog_1_method_36_code
def yX1_extreme : MethodName := ⟨RX1, "extreme", "(IIZ)I"⟩
def dkwX1_extreme_0 : List UInt8 := [27, 28, 184, 0, 211, 42, 180, 0, 126, 27, 28, 29, 182, 1, 23, 172]
abbrev dktX1_extreme_0 : List UInt8 := dkwX1_extreme_0 ++ []
theorem dksX1_extreme_0 : cX1_extreme.data.toList.drop 0 = dktX1_extreme_0 := by decide +kernel
theorem dX1_extreme_0 : decode cX1_extreme 0 = .ok (.iload_n 1, 1) := dk_27 (dk_at dksX1_extreme_0 0 rfl rfl)
theorem dX1_extreme_1 : decode cX1_extreme 1 = .ok (.iload_n 2, 1) := dk_28 (dk_at dksX1_extreme_0 1 rfl rfl)
theorem dX1_extreme_2 : decode cX1_extreme 2 = .ok (.invokestatic 211, 3) := dk_184 0 211 (dk_at dksX1_extreme_0 2 rfl rfl)
theorem dX1_extreme_5 : decode cX1_extreme 5 = .ok (.aload_n 0, 1) := dk_42 (dk_at dksX1_extreme_0 5 rfl rfl)
theorem dX1_extreme_6 : decode cX1_extreme 6 = .ok (.getfield 126, 3) := dk_180 0 126 (dk_at dksX1_extreme_0 6 rfl rfl)
theorem dX1_extreme_9 : decode cX1_extreme 9 = .ok (.iload_n 1, 1) := dk_27 (dk_at dksX1_extreme_0 9 rfl rfl)
theorem dX1_extreme_10 : decode cX1_extreme 10 = .ok (.iload_n 2, 1) := dk_28 (dk_at dksX1_extreme_0 10 rfl rfl)
theorem dX1_extreme_11 : decode cX1_extreme 11 = .ok (.iload_n 3, 1) := dk_29 (dk_at dksX1_extreme_0 11 rfl rfl)
theorem dX1_extreme_12 : decode cX1_extreme 12 = .ok (.invokevirtual 279, 3) := dk_182 1 23 (dk_at dksX1_extreme_0 12 rfl rfl)
theorem dX1_extreme_15 : decode cX1_extreme 15 = .ok (.ireturn, 1) := dk_172 (dk_at dksX1_extreme_0 15 rfl rfl)
abbrev cX1_count : ByteArray := prog_1_method_38_code
def yX1_count : MethodName := ⟨RX1, "count", "(III)I"⟩
def dkwX1_count_1 : List UInt8 := [184, 0, 170, 42, 180, 0, 126, 27, 28, 29, 182, 1, 33, 172]
abbrev dktX1_count_1 : List UInt8 := dkwX1_count_1 ++ []
def dkwX1_count_0 : List UInt8 := [27, 28, 184, 0, 167, 153, 0, 16, 29, 2, 4, 184, 0, 3, 153, 0, 7, 4, 167, 0, 4, 3]
abbrev dktX1_count_0 : List UInt8 := dkwX1_count_0 ++ dktX1_count_1
theorem dksX1_count_0 : cX1_count.data.toList.drop 0 = dktX1_count_0 := by decide +kernel
theorem dksX1_count_1 : cX1_count.data.toList.drop 22 = dktX1_count_1 := dk_seg dksX1_count_0 22 rfl rfl
theorem dX1_count_0 : decode cX1_count 0 = .ok (.iload_n 1, 1) := dk_27 (dk_at dksX1_count_0 0 rfl rfl)
theorem dX1_count_1 : decode cX1_count 1 = .ok (.iload_n 2, 1) := dk_28 (dk_at dksX1_count_0 1 rfl rfl)
theorem dX1_count_2 : decode cX1_count 2 = .ok (.invokestatic 167, 3) := dk_184 0 167 (dk_at dksX1_count_0 2 rfl rfl)
theorem dX1_count_5 : decode cX1_count 5 = .ok (.ifCond .eq 16, 3) := dk_153 0 16 (dk_at dksX1_count_0 5 rfl rfl)
theorem dX1_count_8 : decode cX1_count 8 = .ok (.iload_n 3, 1) := dk_29 (dk_at dksX1_count_0 8 rfl rfl)
theorem dX1_count_9 : decode cX1_count 9 = .ok (.iconst (-1), 1) := dk_2 (dk_at dksX1_count_0 9 rfl rfl)
theorem dX1_count_10 : decode cX1_count 10 = .ok (.iconst 1, 1) := dk_4 (dk_at dksX1_count_0 10 rfl rfl)
theorem dX1_count_11 : decode cX1_count 11 = .ok (.invokestatic 3, 3) := dk_184 0 3 (dk_at dksX1_count_0 11 rfl rfl)
theorem dX1_count_14 : decode cX1_count 14 = .ok (.ifCond .eq 7, 3) := dk_153 0 7 (dk_at dksX1_count_0 14 rfl rfl)
theorem dX1_count_17 : decode cX1_count 17 = .ok (.iconst 1, 1) := dk_4 (dk_at dksX1_count_0 17 rfl rfl)
theorem dX1_count_18 : decode cX1_count 18 = .ok (.goto 4, 3) := dk_167 0 4 (dk_at dksX1_count_0 18 rfl rfl)
theorem dX1_count_21 : decode cX1_count 21 = .ok (.iconst 0, 1) := dk_3 (dk_at dksX1_count_0 21 rfl rfl)
theorem dX1_count_22 : decode cX1_count 22 = .ok (.invokestatic 170, 3) := dk_184 0 170 (dk_at dksX1_count_1 0 rfl rfl)
theorem dX1_count_25 : decode cX1_count 25 = .ok (.aload_n 0, 1) := dk_42 (dk_at dksX1_count_1 3 rfl rfl)
theorem dX1_count_26 : decode cX1_count 26 = .ok (.getfield 126, 3) := dk_180 0 126 (dk_at dksX1_count_1 4 rfl rfl)
theorem dX1_count_29 : decode cX1_count 29 = .ok (.iload_n 1, 1) := dk_27 (dk_at dksX1_count_1 7 rfl rfl)
theorem dX1_count_30 : decode cX1_count 30 = .ok (.iload_n 2, 1) := dk_28 (dk_at dksX1_count_1 8 rfl rfl)
theorem dX1_count_31 : decode cX1_count 31 = .ok (.iload_n 3, 1) := dk_29 (dk_at dksX1_count_1 9 rfl rfl)
theorem dX1_count_32 : decode cX1_count 32 = .ok (.invokevirtual 289, 3) := dk_182 1 33 (dk_at dksX1_count_1 10 rfl rfl)
theorem dX1_count_35 : decode cX1_count 35 = .ok (.ireturn, 1) := dk_172 (dk_at dksX1_count_1 13 rfl rfl)
abbrev cX1_cell : ByteArray := prog_1_method_30_code
def yX1_cell : MethodName := ⟨RX1, "cell", "(I)I"⟩
def dkwX1_cell_0 : List UInt8 := [27, 184, 0, 7, 184, 0, 177, 42, 180, 0, 126, 27, 182, 1, 7, 172]
abbrev dktX1_cell_0 : List UInt8 := dkwX1_cell_0 ++ []
theorem dksX1_cell_0 : cX1_cell.data.toList.drop 0 = dktX1_cell_0 := by decide +kernel
theorem dX1_cell_0 : decode cX1_cell 0 = .ok (.iload_n 1, 1) := dk_27 (dk_at dksX1_cell_0 0 rfl rfl)
theorem dX1_cell_1 : decode cX1_cell 1 = .ok (.invokestatic 7, 3) := dk_184 0 7 (dk_at dksX1_cell_0 1 rfl rfl)
theorem dX1_cell_4 : decode cX1_cell 4 = .ok (.invokestatic 177, 3) := dk_184 0 177 (dk_at dksX1_cell_0 4 rfl rfl)
theorem dX1_cell_7 : decode cX1_cell 7 = .ok (.aload_n 0, 1) := dk_42 (dk_at dksX1_cell_0 7 rfl rfl)
theorem dX1_cell_8 : decode cX1_cell 8 = .ok (.getfield 126, 3) := dk_180 0 126 (dk_at dksX1_cell_0 8 rfl rfl)
theorem dX1_cell_11 : decode cX1_cell 11 = .ok (.iload_n 1, 1) := dk_27 (dk_at dksX1_cell_0 11 rfl rfl)
theorem dX1_cell_12 : decode cX1_cell 12 = .ok (.invokevirtual 263, 3) := dk_182 1 7 (dk_at dksX1_cell_0 12 rfl rfl)
theorem dX1_cell_15 : decode cX1_cell 15 = .ok (.ireturn, 1) := dk_172 (dk_at dksX1_cell_0 15 rfl rfl)
abbrev cX1_colourOf : ByteArray := prog_1_method_40_code
def yX1_colourOf : MethodName := ⟨RX1, "colourOf", "(I)I"⟩
def dkwX1_colourOf_0 : List UInt8 := [27, 184, 0, 7, 184, 0, 177, 42, 180, 0, 126, 180, 1, 36, 27, 46, 172]
abbrev dktX1_colourOf_0 : List UInt8 := dkwX1_colourOf_0 ++ []
theorem dksX1_colourOf_0 : cX1_colourOf.data.toList.drop 0 = dktX1_colourOf_0 := by decide +kernel
theorem dX1_colourOf_0 : decode cX1_colourOf 0 = .ok (.iload_n 1, 1) := dk_27 (dk_at dksX1_colourOf_0 0 rfl rfl)
theorem dX1_colourOf_1 : decode cX1_colourOf 1 = .ok (.invokestatic 7, 3) := dk_184 0 7 (dk_at dksX1_colourOf_0 1 rfl rfl)
theorem dX1_colourOf_4 : decode cX1_colourOf 4 = .ok (.invokestatic 177, 3) := dk_184 0 177 (dk_at dksX1_colourOf_0 4 rfl rfl)
theorem dX1_colourOf_7 : decode cX1_colourOf 7 = .ok (.aload_n 0, 1) := dk_42 (dk_at dksX1_colourOf_0 7 rfl rfl)
theorem dX1_colourOf_8 : decode cX1_colourOf 8 = .ok (.getfield 126, 3) := dk_180 0 126 (dk_at dksX1_colourOf_0 8 rfl rfl)
theorem dX1_colourOf_11 : decode cX1_colourOf 11 = .ok (.getfield 292, 3) := dk_180 1 36 (dk_at dksX1_colourOf_0 11 rfl rfl)
theorem dX1_colourOf_14 : decode cX1_colourOf 14 = .ok (.iload_n 1, 1) := dk_27 (dk_at dksX1_colourOf_0 14 rfl rfl)
theorem dX1_colourOf_15 : decode cX1_colourOf 15 = .ok (.iaload, 1) := dk_46 (dk_at dksX1_colourOf_0 15 rfl rfl)
theorem dX1_colourOf_16 : decode cX1_colourOf 16 = .ok (.ireturn, 1) := dk_172 (dk_at dksX1_colourOf_0 16 rfl rfl)
abbrev cX1_longest : ByteArray := prog_1_method_42_code
def yX1_longest : MethodName := ⟨RX1, "longest", "(I)I"⟩
def dkwX1_longest_0 : List UInt8 := [27, 184, 0, 217, 184, 0, 170, 42, 180, 0, 126, 27, 182, 1, 43, 172]
abbrev dktX1_longest_0 : List UInt8 := dkwX1_longest_0 ++ []
theorem dksX1_longest_0 : cX1_longest.data.toList.drop 0 = dktX1_longest_0 := by decide +kernel
theorem dX1_longest_0 : decode cX1_longest 0 = .ok (.iload_n 1, 1) := dk_27 (dk_at dksX1_longest_0 0 rfl rfl)
theorem dX1_longest_1 : decode cX1_longest 1 = .ok (.invokestatic 217, 3) := dk_184 0 217 (dk_at dksX1_longest_0 1 rfl rfl)
theorem dX1_longest_4 : decode cX1_longest 4 = .ok (.invokestatic 170, 3) := dk_184 0 170 (dk_at dksX1_longest_0 4 rfl rfl)
theorem dX1_longest_7 : decode cX1_longest 7 = .ok (.aload_n 0, 1) := dk_42 (dk_at dksX1_longest_0 7 rfl rfl)
theorem dX1_longest_8 : decode cX1_longest 8 = .ok (.getfield 126, 3) := dk_180 0 126 (dk_at dksX1_longest_0 8 rfl rfl)
theorem dX1_longest_11 : decode cX1_longest 11 = .ok (.iload_n 1, 1) := dk_27 (dk_at dksX1_longest_0 11 rfl rfl)
theorem dX1_longest_12 : decode cX1_longest 12 = .ok (.invokevirtual 299, 3) := dk_182 1 43 (dk_at dksX1_longest_0 12 rfl rfl)
theorem dX1_longest_15 : decode cX1_longest 15 = .ok (.ireturn, 1) := dk_172 (dk_at dksX1_longest_0 15 rfl rfl)
abbrev cX1_sumOf_2 : ByteArray := prog_1_method_43_code
def yX1_sumOf_2 : MethodName := ⟨RX1, "sumOf", "(I)I"⟩
def dkwX1_sumOf_2_0 : List UInt8 := [27, 184, 0, 217, 184, 0, 170, 42, 180, 0, 126, 27, 182, 1, 46, 172]
abbrev dktX1_sumOf_2_0 : List UInt8 := dkwX1_sumOf_2_0 ++ []
theorem dksX1_sumOf_2_0 : cX1_sumOf_2.data.toList.drop 0 = dktX1_sumOf_2_0 := by decide +kernel
theorem dX1_sumOf_2_0 : decode cX1_sumOf_2 0 = .ok (.iload_n 1, 1) := dk_27 (dk_at dksX1_sumOf_2_0 0 rfl rfl)
theorem dX1_sumOf_2_1 : decode cX1_sumOf_2 1 = .ok (.invokestatic 217, 3) := dk_184 0 217 (dk_at dksX1_sumOf_2_0 1 rfl rfl)
theorem dX1_sumOf_2_4 : decode cX1_sumOf_2 4 = .ok (.invokestatic 170, 3) := dk_184 0 170 (dk_at dksX1_sumOf_2_0 4 rfl rfl)
theorem dX1_sumOf_2_7 : decode cX1_sumOf_2 7 = .ok (.aload_n 0, 1) := dk_42 (dk_at dksX1_sumOf_2_0 7 rfl rfl)
theorem dX1_sumOf_2_8 : decode cX1_sumOf_2 8 = .ok (.getfield 126, 3) := dk_180 0 126 (dk_at dksX1_sumOf_2_0 8 rfl rfl)
theorem dX1_sumOf_2_11 : decode cX1_sumOf_2 11 = .ok (.iload_n 1, 1) := dk_27 (dk_at dksX1_sumOf_2_0 11 rfl rfl)
theorem dX1_sumOf_2_12 : decode cX1_sumOf_2 12 = .ok (.invokevirtual 302, 3) := dk_182 1 46 (dk_at dksX1_sumOf_2_0 12 rfl rfl)
theorem dX1_sumOf_2_15 : decode cX1_sumOf_2 15 = .ok (.ireturn, 1) := dk_172 (dk_at dksX1_sumOf_2_0 15 rfl rfl)
theorem q995 : (Jvm.Cond.methodLink "SpanRuler" (167 : Nat) ({ cls := "SpanRuler", name := "isSpan", desc := "(II)Z" } : Jvm.MethodName)) ∈ lw_all := lw_g (lw_at lw_m4 215 rfl) rfl
theorem q997 : (Jvm.Cond.code ({ cls := "SpanRuler", name := "isSpan", desc := "(II)Z" } : Jvm.MethodName) prog_1_method_3_code (2 : Nat) (Option.some Jvm.ClassFile.FieldType.boolean)) ∈ lw_all := lw_g (lw_at lw_m4 217 rfl) rfl
theorem q996 : (Jvm.Cond.static ({ cls := "SpanRuler", name := "isSpan", desc := "(II)Z" } : Jvm.MethodName)) ∈ lw_all := lw_g (lw_at lw_m4 216 rfl) rfl
theorem q1019 : (Jvm.Cond.methodLink "SpanRuler" (170 : Nat) ({ cls := "SpanRuler", name := "checkArgument", desc := "(Z)V" } : Jvm.MethodName)) ∈ lw_all := lw_g (lw_at lw_m4 239 rfl) rfl
theorem q1021 : (Jvm.Cond.code ({ cls := "SpanRuler", name := "checkArgument", desc := "(Z)V" } : Jvm.MethodName) prog_1_method_5_code (1 : Nat) (Option.none : Option Jvm.ClassFile.FieldType)) ∈ lw_all := lw_g (lw_at lw_m5 1 rfl) rfl
theorem q1020 : (Jvm.Cond.static ({ cls := "SpanRuler", name := "checkArgument", desc := "(Z)V" } : Jvm.MethodName)) ∈ lw_all := lw_g (lw_at lw_m5 0 rfl) rfl
theorem q1172 : (Jvm.Cond.methodLink "SpanRuler" (211 : Nat) ({ cls := "SpanRuler", name := "checkSpan", desc := "(II)V" } : Jvm.MethodName)) ∈ lw_all := lw_g (lw_at lw_m5 152 rfl) rfl
theorem q1174 : (Jvm.Cond.code ({ cls := "SpanRuler", name := "checkSpan", desc := "(II)V" } : Jvm.MethodName) prog_1_method_19_code (2 : Nat) (Option.none : Option Jvm.ClassFile.FieldType)) ∈ lw_all := lw_g (lw_at lw_m5 154 rfl) rfl
theorem q1173 : (Jvm.Cond.static ({ cls := "SpanRuler", name := "checkSpan", desc := "(II)V" } : Jvm.MethodName)) ∈ lw_all := lw_g (lw_at lw_m5 153 rfl) rfl
theorem q319 : (Jvm.Cond.fieldLink "SpanRuler" (126 : Nat) "SpanRuler" "ruler" "LSpanRuler$Ruler;") ∈ lw_all := lw_g (lw_at lw_m2 19 rfl) rfl
theorem q912 : (Jvm.Cond.methodLink "SpanRuler" (265 : Nat) ({ cls := "SpanRuler$Ruler", name := "sum", desc := "(II)I" } : Jvm.MethodName)) ∈ lw_all := lw_g (lw_at lw_m4 132 rfl) rfl
theorem q1315 : (Jvm.Cond.methodLink "SpanRuler" (267 : Nat) ({ cls := "SpanRuler$Ruler", name := "sumAgain", desc := "(II)I" } : Jvm.MethodName)) ∈ lw_all := lw_g (lw_at lw_m6 55 rfl) rfl
theorem q1318 : (Jvm.Cond.code ({ cls := "SpanRuler$Ruler", name := "sumAgain", desc := "(II)I" } : Jvm.MethodName) prog_16_method_5_code (3 : Nat) (Option.some Jvm.ClassFile.FieldType.int)) ∈ lw_all := lw_g (lw_at lw_m6 58 rfl) rfl
theorem q1316 : (Jvm.Cond.instanceMethod ({ cls := "SpanRuler$Ruler", name := "sumAgain", desc := "(II)I" } : Jvm.MethodName)) ∈ lw_all := lw_g (lw_at lw_m6 56 rfl) rfl
theorem q1317 : (Jvm.Cond.selects "SpanRuler$Ruler" ({ cls := "SpanRuler$Ruler", name := "sumAgain", desc := "(II)I" } : Jvm.MethodName) ({ cls := "SpanRuler$Ruler", name := "sumAgain", desc := "(II)I" } : Jvm.MethodName)) ∈ lw_all := lw_g (lw_at lw_m6 57 rfl) rfl
theorem q1417 : (Jvm.Cond.methodLink "SpanRuler" (296 : Nat) ({ cls := "SpanRuler$Ruler", name := "runs", desc := "(II)I" } : Jvm.MethodName)) ∈ lw_all := lw_g (lw_at lw_m6 157 rfl) rfl
theorem q1420 : (Jvm.Cond.code ({ cls := "SpanRuler$Ruler", name := "runs", desc := "(II)I" } : Jvm.MethodName) prog_16_method_23_code (5 : Nat) (Option.some Jvm.ClassFile.FieldType.int)) ∈ lw_all := lw_g (lw_at lw_m6 160 rfl) rfl
theorem q1418 : (Jvm.Cond.instanceMethod ({ cls := "SpanRuler$Ruler", name := "runs", desc := "(II)I" } : Jvm.MethodName)) ∈ lw_all := lw_g (lw_at lw_m6 158 rfl) rfl
theorem q1419 : (Jvm.Cond.selects "SpanRuler$Ruler" ({ cls := "SpanRuler$Ruler", name := "runs", desc := "(II)I" } : Jvm.MethodName) ({ cls := "SpanRuler$Ruler", name := "runs", desc := "(II)I" } : Jvm.MethodName)) ∈ lw_all := lw_g (lw_at lw_m6 159 rfl) rfl
theorem q1361 : (Jvm.Cond.methodLink "SpanRuler" (279 : Nat) ({ cls := "SpanRuler$Ruler", name := "extreme", desc := "(IIZ)I" } : Jvm.MethodName)) ∈ lw_all := lw_g (lw_at lw_m6 101 rfl) rfl
theorem q1364 : (Jvm.Cond.code ({ cls := "SpanRuler$Ruler", name := "extreme", desc := "(IIZ)I" } : Jvm.MethodName) prog_16_method_14_code (6 : Nat) (Option.some Jvm.ClassFile.FieldType.int)) ∈ lw_all := lw_g (lw_at lw_m6 104 rfl) rfl
theorem q1362 : (Jvm.Cond.instanceMethod ({ cls := "SpanRuler$Ruler", name := "extreme", desc := "(IIZ)I" } : Jvm.MethodName)) ∈ lw_all := lw_g (lw_at lw_m6 102 rfl) rfl
theorem q1363 : (Jvm.Cond.selects "SpanRuler$Ruler" ({ cls := "SpanRuler$Ruler", name := "extreme", desc := "(IIZ)I" } : Jvm.MethodName) ({ cls := "SpanRuler$Ruler", name := "extreme", desc := "(IIZ)I" } : Jvm.MethodName)) ∈ lw_all := lw_g (lw_at lw_m6 103 rfl) rfl
theorem q1389 : (Jvm.Cond.methodLink "SpanRuler" (289 : Nat) ({ cls := "SpanRuler$Ruler", name := "count", desc := "(III)I" } : Jvm.MethodName)) ∈ lw_all := lw_g (lw_at lw_m6 129 rfl) rfl
theorem q1392 : (Jvm.Cond.code ({ cls := "SpanRuler$Ruler", name := "count", desc := "(III)I" } : Jvm.MethodName) prog_16_method_16_code (6 : Nat) (Option.some Jvm.ClassFile.FieldType.int)) ∈ lw_all := lw_g (lw_at lw_m6 132 rfl) rfl
theorem q1390 : (Jvm.Cond.instanceMethod ({ cls := "SpanRuler$Ruler", name := "count", desc := "(III)I" } : Jvm.MethodName)) ∈ lw_all := lw_g (lw_at lw_m6 130 rfl) rfl
theorem q1391 : (Jvm.Cond.selects "SpanRuler$Ruler" ({ cls := "SpanRuler$Ruler", name := "count", desc := "(III)I" } : Jvm.MethodName) ({ cls := "SpanRuler$Ruler", name := "count", desc := "(III)I" } : Jvm.MethodName)) ∈ lw_all := lw_g (lw_at lw_m6 131 rfl) rfl
theorem q1240 : (Jvm.Cond.methodLink "SpanRuler" (177 : Nat) ({ cls := "SpanRuler", name := "checkIndex", desc := "(Z)V" } : Jvm.MethodName)) ∈ lw_all := lw_g (lw_at lw_m5 220 rfl) rfl
theorem q1242 : (Jvm.Cond.code ({ cls := "SpanRuler", name := "checkIndex", desc := "(Z)V" } : Jvm.MethodName) prog_1_method_6_code (1 : Nat) (Option.none : Option Jvm.ClassFile.FieldType)) ∈ lw_all := lw_g (lw_at lw_m5 222 rfl) rfl
theorem q1241 : (Jvm.Cond.static ({ cls := "SpanRuler", name := "checkIndex", desc := "(Z)V" } : Jvm.MethodName)) ∈ lw_all := lw_g (lw_at lw_m5 221 rfl) rfl
theorem q1300 : (Jvm.Cond.methodLink "SpanRuler" (263 : Nat) ({ cls := "SpanRuler$Ruler", name := "number", desc := "(I)I" } : Jvm.MethodName)) ∈ lw_all := lw_g (lw_at lw_m6 40 rfl) rfl
theorem q245 : (Jvm.Cond.fieldLinkNest "SpanRuler" (292 : Nat) "SpanRuler$Ruler" "colours" "[I" "SpanRuler") ∈ lw_tbl := lw_at lw_m1 185 rfl
theorem q1188 : (Jvm.Cond.methodLink "SpanRuler" (217 : Nat) ({ cls := "SpanRuler", name := "isColour", desc := "(I)Z" } : Jvm.MethodName)) ∈ lw_all := lw_g (lw_at lw_m5 168 rfl) rfl
theorem q1190 : (Jvm.Cond.code ({ cls := "SpanRuler", name := "isColour", desc := "(I)Z" } : Jvm.MethodName) prog_1_method_4_code (1 : Nat) (Option.some Jvm.ClassFile.FieldType.boolean)) ∈ lw_all := lw_g (lw_at lw_m5 170 rfl) rfl
theorem q1189 : (Jvm.Cond.static ({ cls := "SpanRuler", name := "isColour", desc := "(I)Z" } : Jvm.MethodName)) ∈ lw_all := lw_g (lw_at lw_m5 169 rfl) rfl
theorem q1428 : (Jvm.Cond.methodLink "SpanRuler" (299 : Nat) ({ cls := "SpanRuler$Ruler", name := "longest", desc := "(I)I" } : Jvm.MethodName)) ∈ lw_all := lw_g (lw_at lw_m6 168 rfl) rfl
theorem q1431 : (Jvm.Cond.code ({ cls := "SpanRuler$Ruler", name := "longest", desc := "(I)I" } : Jvm.MethodName) prog_16_method_24_code (5 : Nat) (Option.some Jvm.ClassFile.FieldType.int)) ∈ lw_all := lw_g (lw_at lw_m6 171 rfl) rfl
theorem q1429 : (Jvm.Cond.instanceMethod ({ cls := "SpanRuler$Ruler", name := "longest", desc := "(I)I" } : Jvm.MethodName)) ∈ lw_all := lw_g (lw_at lw_m6 169 rfl) rfl
theorem q1430 : (Jvm.Cond.selects "SpanRuler$Ruler" ({ cls := "SpanRuler$Ruler", name := "longest", desc := "(I)I" } : Jvm.MethodName) ({ cls := "SpanRuler$Ruler", name := "longest", desc := "(I)I" } : Jvm.MethodName)) ∈ lw_all := lw_g (lw_at lw_m6 170 rfl) rfl
theorem q1439 : (Jvm.Cond.methodLink "SpanRuler" (302 : Nat) ({ cls := "SpanRuler$Ruler", name := "sumWith", desc := "(I)I" } : Jvm.MethodName)) ∈ lw_all := lw_g (lw_at lw_m6 179 rfl) rfl
theorem SRx.at {G : GE} {own : Nat → Nat} {hr h : AH} {x : Nat} {s : MS} {ru : Nat} {sv : Value} {hl hd hc : Nat} {hm : Int32} {hf : Nat → Option Nat} {inp ln : Nat} {bt rf : Value} (S : SRx G own hr h x s ru sv hl hd hc hm hf inp ln bt rf) : SRAt G h x s := ⟨own, hr, ru, sv, hl, hd, hc, hm, hf, inp, ln, bt, rf, S⟩
theorem SPost.ok {G : GE} {x : Nat} {ex : Int32 → String} {h : AH} {s : MS} {v : Int32} (S : SRAt G h x s) : SPost G x ex (v, mI s 20 0) (.inl (some (.int v))) h := ⟨S.mi (by omega), Or.inl ⟨(show upd s.I 20 0 20 = 0 from upd_at), rfl⟩⟩
theorem SPost.no {G : GE} {x q : Nat} {ex : Int32 → String} {h : AH} {s : MS} {v c : Int32} {E : String} {e : va_E} (S : SRAt G h x s) (f : h q = none) (hc : c ≠ 0) (he : ex c = E) : SPost G x ex (v, mI s 20 c) (.inr (E, q)) (up h q e) :=
  ⟨(S.all (KeepAll.new f)).mi (by omega), Or.inr ⟨by show upd s.I 20 c 20 ≠ 0; rw [upd_at]; exact hc, q, by show _ = Sum.inr (ex (upd s.I 20 c 20), q); rw [upd_at, he]⟩⟩
def ex1 (a : String) : Int32 → String := fun _ => a
def ex2 (a b : String) : Int32 → String := fun c => if c = 1 then a else b
abbrev IAE : String := "java/lang/IllegalArgumentException"
abbrev IOOBE : String := "java/lang/IndexOutOfBoundsException"
abbrev NSEE : String := "java/util/NoSuchElementException"
abbrev ISE : String := "java/lang/IllegalStateException"
abbrev UOE : String := "java/lang/UnsupportedOperationException"
theorem x_chkP1 (l : Launch) (G : GE) (h : AH) (a b : Int32) (hs : isSp a b = true) : GM l G yX1_checkSpan (ws_ yX1_checkSpan cX1_checkSpan 2 none) 4 [.int a, .int b] (h) (0) (PN h) := by
  refine GM.of (by decide) (dk rfl) ?_
  intro X eL eG eh ok fn
  subst eL; subst eG
  show GW X _ 0 0 [some (.int a), some (.int b)] []
  refine g_iload_n ok dX1_checkSpan_0 rfl ?_
  refine g_iload_n ok dX1_checkSpan_1 rfl ?_
  refine g_callS ok q995 q996 q61 q997 dX1_checkSpan_2 (x_isSpan X.l X.G _ a b) (nm_ (by decide : nmb _ 2 = true)) (dl rfl) (dk rfl) rfl rfl (dk rfl) (by omega) (kV ?_) xV
  rw [hs]
  refine g_callS ok q1019 q1020 q61 q1021 dX1_checkSpan_5 (x_chkA1 X.l X.G _) (nm_ (by decide : nmb _ 1 = true)) (dl rfl) (dk rfl) rfl rfl (dk rfl) (by omega) (kN ?_) xN
  exact g_vret ok fn rfl dX1_checkSpan_8 ⟨rfl, rfl⟩ (by omega)
theorem x_chkP0 (l : Launch) (G : GE) (h : AH) (a b : Int32) (hs : isSp a b = false) : GM l G yX1_checkSpan (ws_ yX1_checkSpan cX1_checkSpan 2 none) 4 [.int a, .int b] (h) (6) (PT G "java/lang/IllegalArgumentException" 18 h) := by
  refine GM.of (by decide) (dk rfl) ?_
  intro X eL eG eh ok fn
  subst eL; subst eG
  show GW X _ 0 0 [some (.int a), some (.int b)] []
  refine g_iload_n ok dX1_checkSpan_0 rfl ?_
  refine g_iload_n ok dX1_checkSpan_1 rfl ?_
  refine g_callS ok q995 q996 q61 q997 dX1_checkSpan_2 (x_isSpan X.l X.G _ a b) (nm_ (by decide : nmb _ 2 = true)) (dl rfl) (dk rfl) rfl rfl (dk rfl) (by omega) (kV ?_) xV
  rw [hs]
  refine g_callS ok q1019 q1020 q61 q1021 dX1_checkSpan_5 (x_chkA0 X.l X.G _) (nm_ (by decide : nmb _ 1 = true)) (dl rfl) (dk rfl) rfl rfl (dk rfl) (by omega) kT (xT fun qx fx kx => ?_)
  exact g_out ok fn (fun z hz => nomatch hz) ⟨_, rfl, fx, kx, rfl⟩ (by omega)
theorem s_sum (l : Launch) (G : GE) (h : AH) (x : Nat) (s : MS) (S0 : SRAt G h x s) (a : Int32) (b : Int32) : GM l G yX1_sum (ws_ yX1_sum cX1_sum 3 (some .int)) 15 [.ref x, .int a, .int b] (h) (100) (SPost G x (ex1 IAE) (mSumQ s a b)) := by
  refine GM.of (by decide) (dk rfl) ?_
  intro X eL eG eh ok fn
  subst eL; subst eG
  show GW X _ 0 0 [some (.ref x), some (.int a), some (.int b)] []
  obtain ⟨own, hr, ru, sv, hl, hd, hc, hm, hf, inp, ln, bt, rf, S⟩ := S0
  obtain ⟨rt, cl, nl, nd, nc, nm, nf, vl, vd, vc, vm, vf, y⟩ := S.2.2.2.2.2.2.2.2.1.1.1
  rcases Bool.eq_false_or_eq_true (isSp a b) with hs | hs
  · obtain ⟨i, j, ea, eb, hij, hj⟩ : ∃ i j, a = nI i ∧ b = nI j ∧ i ≤ j ∧ j < 32 := ⟨_, _, isSp_n hs⟩
    subst ea; subst eb
    refine g_iload_n ok dX1_sum_0 rfl ?_
    refine g_iload_n ok dX1_sum_1 rfl ?_
    refine g_callS ok q1172 q1173 q61 q1174 dX1_sum_2 (x_chkP1 X.l X.G _ (nI i) (nI j) hs) (nm_ (by decide : nmb _ 2 = true)) (dl rfl) (dk rfl) rfl rfl (dk rfl) (by omega) (kN ?_) xN
    refine g_aload_n ok dX1_sum_5 rfl ?_
    refine g_get ok ck_X1 0 q319 (Or.inl rfl) (by decide) dX1_sum_6 (Rd.h (S.2.2.1)) rfl ?_
    refine g_iload_n ok dX1_sum_9 rfl ?_
    refine g_iload_n ok dX1_sum_10 rfl ?_
    refine g_callV ok q912 q913 q914 q62 q915 (Recv.ob ok gc_X2 (Rd.h (S.1 _ _ y.1.1))) dX1_sum_11 (GM.fr S.1 (x_sum X.l X.G hr (fun q => own q = ru) ru (s.A 0) rt cl nl vl _ _ _ _ _ _ y.1 i j (by omega) (by omega))) (nm_ (by decide : nmb _ 2 = true)) (dl rfl) (dk rfl) rfl rfl (dk rfl) (by omega) (kFR fun v1_ hr1_ h1_ ⟨e1_, q1_, g1_⟩ f1_ => ?_) xFR
    subst e1_
    obtain ⟨S1_, y1_⟩ := SRx.ask S y q1_ g1_ f1_
    have pf : SPost X.G x (ex1 IAE) (mSumQ s (nI i) (nI j)) (.inl (some (.int (sm (s.A 0) (j + 1 - i) i 0)))) h1_ := by
      unfold mSumQ; rw [if_pos hs]; unfold mSum sp; simp only [nn_nI (by omega : i < 2 ^ 31), nn_nI (by omega : j < 2 ^ 31)]; exact SPost.ok S1_.at
    exact g_iret ok fn rfl dX1_sum_14 pf (by omega)
  · refine g_iload_n ok dX1_sum_0 rfl ?_
    refine g_iload_n ok dX1_sum_1 rfl ?_
    refine g_callS ok q1172 q1173 q61 q1174 dX1_sum_2 (x_chkP0 X.l X.G _ a b hs) (nm_ (by decide : nmb _ 2 = true)) (dl rfl) (dk rfl) rfl rfl (dk rfl) (by omega) kT (xT fun qx fx kx => ?_)
    have pf : SPost X.G x (ex1 IAE) (mSumQ s a b) (.inr (IAE, qx)) (up h qx (ob 18 [])) := by
      unfold mSumQ; rw [if_neg (by rw [hs]; decide)]; exact SPost.no (S.at.mi (k := 20) (v := 0) (by omega)) fx (by decide) rfl
    exact g_out ok fn (fun z hz => nomatch hz) pf (by omega)
theorem s_sumAgain (l : Launch) (G : GE) (h : AH) (x : Nat) (s : MS) (S0 : SRAt G h x s) (a : Int32) (b : Int32) : GM l G yX1_sumAgain (ws_ yX1_sumAgain cX1_sumAgain 3 (some .int)) 15 [.ref x, .int a, .int b] (h) (200) (SPost G x (ex1 IAE) (mSumQ s a b)) := by
  refine GM.of (by decide) (dk rfl) ?_
  intro X eL eG eh ok fn
  subst eL; subst eG
  show GW X _ 0 0 [some (.ref x), some (.int a), some (.int b)] []
  obtain ⟨own, hr, ru, sv, hl, hd, hc, hm, hf, inp, ln, bt, rf, S⟩ := S0
  obtain ⟨rt, cl, nl, nd, nc, nm, nf, vl, vd, vc, vm, vf, y⟩ := S.2.2.2.2.2.2.2.2.1.1.1
  rcases Bool.eq_false_or_eq_true (isSp a b) with hs | hs
  · obtain ⟨i, j, ea, eb, hij, hj⟩ : ∃ i j, a = nI i ∧ b = nI j ∧ i ≤ j ∧ j < 32 := ⟨_, _, isSp_n hs⟩
    subst ea; subst eb
    refine g_iload_n ok dX1_sumAgain_0 rfl ?_
    refine g_iload_n ok dX1_sumAgain_1 rfl ?_
    refine g_callS ok q1172 q1173 q61 q1174 dX1_sumAgain_2 (x_chkP1 X.l X.G _ (nI i) (nI j) hs) (nm_ (by decide : nmb _ 2 = true)) (dl rfl) (dk rfl) rfl rfl (dk rfl) (by omega) (kN ?_) xN
    refine g_aload_n ok dX1_sumAgain_5 rfl ?_
    refine g_get ok ck_X1 0 q319 (Or.inl rfl) (by decide) dX1_sumAgain_6 (Rd.h (S.2.2.1)) rfl ?_
    refine g_iload_n ok dX1_sumAgain_9 rfl ?_
    refine g_iload_n ok dX1_sumAgain_10 rfl ?_
    refine g_callV ok q1315 q1316 q1317 q62 q1318 (Recv.ob ok gc_X2 (Rd.h (S.1 _ _ y.1.1))) dX1_sumAgain_11 (GM.fr S.1 (x_sumAgain X.l X.G hr (fun q => own q = ru) ru (s.A 0) rt cl nl vl _ _ _ _ _ _ y.1 i j (by omega) (by omega))) (nm_ (by decide : nmb _ 2 = true)) (dl rfl) (dk rfl) rfl rfl (dk rfl) (by omega) (kFR fun v1_ hr1_ h1_ ⟨e1_, q1_, g1_⟩ f1_ => ?_) xFR
    subst e1_
    obtain ⟨S1_, y1_⟩ := SRx.ask S y q1_ g1_ f1_
    have pf : SPost X.G x (ex1 IAE) (mSumQ s (nI i) (nI j)) (.inl (some (.int (sm (s.A 0) (j + 1 - i) i 0)))) h1_ := by
      unfold mSumQ; rw [if_pos hs]; unfold mSum sp; simp only [nn_nI (by omega : i < 2 ^ 31), nn_nI (by omega : j < 2 ^ 31)]; exact SPost.ok S1_.at
    exact g_iret ok fn rfl dX1_sumAgain_14 pf (by omega)
  · refine g_iload_n ok dX1_sumAgain_0 rfl ?_
    refine g_iload_n ok dX1_sumAgain_1 rfl ?_
    refine g_callS ok q1172 q1173 q61 q1174 dX1_sumAgain_2 (x_chkP0 X.l X.G _ a b hs) (nm_ (by decide : nmb _ 2 = true)) (dl rfl) (dk rfl) rfl rfl (dk rfl) (by omega) kT (xT fun qx fx kx => ?_)
    have pf : SPost X.G x (ex1 IAE) (mSumQ s a b) (.inr (IAE, qx)) (up h qx (ob 18 [])) := by
      unfold mSumQ; rw [if_neg (by rw [hs]; decide)]; exact SPost.no (S.at.mi (k := 20) (v := 0) (by omega)) fx (by decide) rfl
    exact g_out ok fn (fun z hz => nomatch hz) pf (by omega)
theorem s_runs (l : Launch) (G : GE) (h : AH) (x : Nat) (s : MS) (S0 : SRAt G h x s) (a : Int32) (b : Int32) : GM l G yX1_runs (ws_ yX1_runs cX1_runs 3 (some .int)) 15 [.ref x, .int a, .int b] (h) (6) (SPost G x (ex1 IAE) (mRuns s a b)) := by
  refine GM.of (by decide) (dk rfl) ?_
  intro X eL eG eh ok fn
  subst eL; subst eG
  show GW X _ 0 0 [some (.ref x), some (.int a), some (.int b)] []
  obtain ⟨own, hr, ru, sv, hl, hd, hc, hm, hf, inp, ln, bt, rf, S⟩ := S0
  obtain ⟨rt, cl, nl, nd, nc, nm, nf, vl, vd, vc, vm, vf, y⟩ := S.2.2.2.2.2.2.2.2.1.1.1
  rcases Bool.eq_false_or_eq_true (isSp a b) with hs | hs
  · obtain ⟨i, j, ea, eb, hij, hj⟩ : ∃ i j, a = nI i ∧ b = nI j ∧ i ≤ j ∧ j < 32 := ⟨_, _, isSp_n hs⟩
    subst ea; subst eb
    refine g_iload_n ok dX1_runs_0 rfl ?_
    refine g_iload_n ok dX1_runs_1 rfl ?_
    refine g_callS ok q1172 q1173 q61 q1174 dX1_runs_2 (x_chkP1 X.l X.G _ (nI i) (nI j) hs) (nm_ (by decide : nmb _ 2 = true)) (dl rfl) (dk rfl) rfl rfl (dk rfl) (by omega) (kN ?_) xN
    refine g_aload_n ok dX1_runs_5 rfl ?_
    refine g_get ok ck_X1 0 q319 (Or.inl rfl) (by decide) dX1_runs_6 (Rd.h (S.2.2.1)) rfl ?_
    refine g_iload_n ok dX1_runs_9 rfl ?_
    refine g_iload_n ok dX1_runs_10 rfl ?_
    refine g_callV ok q1417 q1418 q1419 q62 q1420 (Recv.ob ok gc_X2 (Rd.h (S.1 _ _ y.1.1))) dX1_runs_11 (GM.fr S.1 (x_runs X.l X.G hr (fun q => own q = ru) ru (s.A 0) rt cl nl vl _ _ _ _ _ _ y.1 i j (by omega) (by omega))) (nm_ (by decide : nmb _ 2 = true)) (dl rfl) (dk rfl) rfl rfl (dk rfl) (by omega) (kFR fun v1_ hr1_ h1_ ⟨e1_, q1_, g1_⟩ f1_ => ?_) xFR
    subst e1_
    obtain ⟨S1_, y1_⟩ := SRx.ask S y q1_ g1_ f1_
    have pf : SPost X.G x (ex1 IAE) (mRuns s (nI i) (nI j)) (.inl (some (.int (rul (s.A 0) (j - i) i 1)))) h1_ := by
      unfold mRuns; rw [if_pos hs];  simp only [nn_nI (by omega : i < 2 ^ 31), nn_nI (by omega : j < 2 ^ 31)]; exact SPost.ok S1_.at
    exact g_iret ok fn rfl dX1_runs_14 pf (by omega)
  · refine g_iload_n ok dX1_runs_0 rfl ?_
    refine g_iload_n ok dX1_runs_1 rfl ?_
    refine g_callS ok q1172 q1173 q61 q1174 dX1_runs_2 (x_chkP0 X.l X.G _ a b hs) (nm_ (by decide : nmb _ 2 = true)) (dl rfl) (dk rfl) rfl rfl (dk rfl) (by omega) kT (xT fun qx fx kx => ?_)
    have pf : SPost X.G x (ex1 IAE) (mRuns s a b) (.inr (IAE, qx)) (up h qx (ob 18 [])) := by
      unfold mRuns; rw [if_neg (by rw [hs]; decide)]; exact SPost.no (S.at.mi (k := 20) (v := 0) (by omega)) fx (by decide) rfl
    exact g_out ok fn (fun z hz => nomatch hz) pf (by omega)
theorem s_extreme (l : Launch) (G : GE) (h : AH) (x : Nat) (s : MS) (S0 : SRAt G h x s) (a : Int32) (b : Int32) (z : Int32) : GM l G yX1_extreme (ws_ yX1_extreme cX1_extreme 4 (some .int)) 15 [.ref x, .int a, .int b, .int z] (h) (1700) (SPost G x (ex1 IAE) (mExtreme s a b z)) := by
  refine GM.of (by decide) (dk rfl) ?_
  intro X eL eG eh ok fn
  subst eL; subst eG
  show GW X _ 0 0 [some (.ref x), some (.int a), some (.int b), some (.int z)] []
  obtain ⟨own, hr, ru, sv, hl, hd, hc, hm, hf, inp, ln, bt, rf, S⟩ := S0
  obtain ⟨rt, cl, nl, nd, nc, nm, nf, vl, vd, vc, vm, vf, y⟩ := S.2.2.2.2.2.2.2.2.1.1.1
  rcases Bool.eq_false_or_eq_true (isSp a b) with hs | hs
  · obtain ⟨i, j, ea, eb, hij, hj⟩ : ∃ i j, a = nI i ∧ b = nI j ∧ i ≤ j ∧ j < 32 := ⟨_, _, isSp_n hs⟩
    subst ea; subst eb
    refine g_iload_n ok dX1_extreme_0 rfl ?_
    refine g_iload_n ok dX1_extreme_1 rfl ?_
    refine g_callS ok q1172 q1173 q61 q1174 dX1_extreme_2 (x_chkP1 X.l X.G _ (nI i) (nI j) hs) (nm_ (by decide : nmb _ 2 = true)) (dl rfl) (dk rfl) rfl rfl (dk rfl) (by omega) (kN ?_) xN
    refine g_aload_n ok dX1_extreme_5 rfl ?_
    refine g_get ok ck_X1 0 q319 (Or.inl rfl) (by decide) dX1_extreme_6 (Rd.h (S.2.2.1)) rfl ?_
    refine g_iload_n ok dX1_extreme_9 rfl ?_
    refine g_iload_n ok dX1_extreme_10 rfl ?_
    refine g_iload_n ok dX1_extreme_11 rfl ?_
    refine g_callV ok q1361 q1362 q1363 q62 q1364 (Recv.ob ok gc_X2 (Rd.h (S.1 _ _ y.1.1))) dX1_extreme_12 (GM.fr S.1 (x_extreme X.l X.G hr (fun q => own q = ru) ru (s.A 0) rt cl nl vl _ _ _ _ _ _ y.1 i j (by omega) (by omega) z)) (nm_ (by decide : nmb _ 3 = true)) (dl rfl) (dk rfl) rfl rfl (dk rfl) (by omega) (kFR fun v1_ hr1_ h1_ ⟨e1_, q1_, g1_⟩ f1_ => ?_) xFR
    subst e1_
    obtain ⟨S1_, y1_⟩ := SRx.ask S y q1_ g1_ f1_
    have pf : SPost X.G x (ex1 IAE) (mExtreme s (nI i) (nI j) z) (.inl (some (.int (nI (exl (s.A 0) z (j + 1 - i) i i))))) h1_ := by
      unfold mExtreme; rw [if_pos hs]; unfold sp; simp only [nn_nI (by omega : i < 2 ^ 31), nn_nI (by omega : j < 2 ^ 31)]; exact SPost.ok S1_.at
    exact g_iret ok fn rfl dX1_extreme_15 pf (by omega)
  · refine g_iload_n ok dX1_extreme_0 rfl ?_
    refine g_iload_n ok dX1_extreme_1 rfl ?_
    refine g_callS ok q1172 q1173 q61 q1174 dX1_extreme_2 (x_chkP0 X.l X.G _ a b hs) (nm_ (by decide : nmb _ 2 = true)) (dl rfl) (dk rfl) rfl rfl (dk rfl) (by omega) kT (xT fun qx fx kx => ?_)
    have pf : SPost X.G x (ex1 IAE) (mExtreme s a b z) (.inr (IAE, qx)) (up h qx (ob 18 [])) := by
      unfold mExtreme; rw [if_neg (by rw [hs]; decide)]; exact SPost.no (S.at.mi (k := 20) (v := 0) (by omega)) fx (by decide) rfl
    exact g_out ok fn (fun z hz => nomatch hz) pf (by omega)
theorem s_count (l : Launch) (G : GE) (h : AH) (x : Nat) (s : MS) (S0 : SRAt G h x s) (a : Int32) (b : Int32) (g : Int32) : GM l G yX1_count (ws_ yX1_count cX1_count 4 (some .int)) 15 [.ref x, .int a, .int b, .int g] (h) (1540) (SPost G x (ex1 IAE) (mCount s a b g)) := by
  refine GM.of (by decide) (dk rfl) ?_
  intro X eL eG eh ok fn
  subst eL; subst eG
  show GW X _ 0 0 [some (.ref x), some (.int a), some (.int b), some (.int g)] []
  obtain ⟨own, hr, ru, sv, hl, hd, hc, hm, hf, inp, ln, bt, rf, S⟩ := S0
  obtain ⟨rt, cl, nl, nd, nc, nm, nf, vl, vd, vc, vm, vf, y⟩ := S.2.2.2.2.2.2.2.2.1.1.1
  rcases Bool.eq_false_or_eq_true (isSp a b) with hs | hs
  · obtain ⟨i, j, ea, eb, hij, hj⟩ : ∃ i j, a = nI i ∧ b = nI j ∧ i ≤ j ∧ j < 32 := ⟨_, _, isSp_n hs⟩
    subst ea; subst eb
    rcases Bool.eq_false_or_eq_true (inR g (-1) 1) with hg | hg
    · refine g_iload_n ok dX1_count_0 rfl ?_
      refine g_iload_n ok dX1_count_1 rfl ?_
      refine g_callS ok q995 q996 q61 q997 dX1_count_2 (x_isSpan X.l X.G _ (nI i) (nI j)) (nm_ (by decide : nmb _ 2 = true)) (dl rfl) (dk rfl) rfl rfl (dk rfl) (by omega) (kV ?_) xV
      refine g_if_eq ok (tgt := 21) dX1_count_5 (by decide) (fun c_ => absurd c_ (by rw [hs]; decide)) (fun _ => ?_)
      refine g_iload_n ok dX1_count_8 rfl ?_
      refine g_iconst ok (v := -1) dX1_count_9 rfl ?_
      refine g_iconst ok (v := 1) dX1_count_10 rfl ?_
      refine g_callS ok q1001 q1002 q61 q1003 dX1_count_11 (x_isIn X.l X.G _ g (-1) 1) (nm_ (by decide : nmb _ 3 = true)) (dl rfl) (dk rfl) rfl rfl (dk rfl) (by omega) (kV ?_) xV
      refine g_if_eq ok (tgt := 21) dX1_count_14 (by decide) (fun c_ => absurd c_ (by rw [hg]; decide)) (fun _ => ?_)
      refine g_iconst ok (v := 1) dX1_count_17 rfl ?_
      refine g_goto ok dX1_count_18 (tgt := 22) (by decide) ?_
      refine g_callS ok q1019 q1020 q61 q1021 dX1_count_22 (x_chkA1 X.l X.G _) (nm_ (by decide : nmb _ 1 = true)) (dl rfl) (dk rfl) rfl rfl (dk rfl) (by omega) (kN ?_) xN
      refine g_aload_n ok dX1_count_25 rfl ?_
      refine g_get ok ck_X1 0 q319 (Or.inl rfl) (by decide) dX1_count_26 (Rd.h (S.2.2.1)) rfl ?_
      refine g_iload_n ok dX1_count_29 rfl ?_
      refine g_iload_n ok dX1_count_30 rfl ?_
      refine g_iload_n ok dX1_count_31 rfl ?_
      refine g_callV ok q1389 q1390 q1391 q62 q1392 (Recv.ob ok gc_X2 (Rd.h (S.1 _ _ y.1.1))) dX1_count_32 (GM.fr S.1 (x_count X.l X.G hr (fun q => own q = ru) ru (s.A 0) rt cl nl vl _ _ _ _ _ _ y.1 i j (by omega) (by omega) g)) (nm_ (by decide : nmb _ 3 = true)) (dl rfl) (dk rfl) rfl rfl (dk rfl) (by omega) (kFR fun v1_ hr1_ h1_ ⟨e1_, q1_, g1_⟩ f1_ => ?_) xFR
      subst e1_
      obtain ⟨S1_, y1_⟩ := SRx.ask S y q1_ g1_ f1_
      have pf : SPost X.G x (ex1 IAE) (mCount s (nI i) (nI j) g) (.inl (some (.int (cnl (s.A 0) g (j + 1 - i) i 0)))) h1_ := by
        unfold mCount; rw [if_pos ⟨hs, hg⟩]; unfold sp; simp only [nn_nI (by omega : i < 2 ^ 31), nn_nI (by omega : j < 2 ^ 31)]; exact SPost.ok S1_.at
      exact g_iret ok fn rfl dX1_count_35 pf (by omega)
    · refine g_iload_n ok dX1_count_0 rfl ?_
      refine g_iload_n ok dX1_count_1 rfl ?_
      refine g_callS ok q995 q996 q61 q997 dX1_count_2 (x_isSpan X.l X.G _ (nI i) (nI j)) (nm_ (by decide : nmb _ 2 = true)) (dl rfl) (dk rfl) rfl rfl (dk rfl) (by omega) (kV ?_) xV
      refine g_if_eq ok (tgt := 21) dX1_count_5 (by decide) (fun c_ => absurd c_ (by rw [hs]; decide)) (fun _ => ?_)
      refine g_iload_n ok dX1_count_8 rfl ?_
      refine g_iconst ok (v := -1) dX1_count_9 rfl ?_
      refine g_iconst ok (v := 1) dX1_count_10 rfl ?_
      refine g_callS ok q1001 q1002 q61 q1003 dX1_count_11 (x_isIn X.l X.G _ g (-1) 1) (nm_ (by decide : nmb _ 3 = true)) (dl rfl) (dk rfl) rfl rfl (dk rfl) (by omega) (kV ?_) xV
      refine g_if_eq ok (tgt := 21) dX1_count_14 (by decide) (fun _ => ?_) (fun c_ => absurd (by rw [hg]; rfl) c_)
      refine g_iconst ok (v := 0) dX1_count_21 rfl ?_
      refine g_callS ok q1019 q1020 q61 q1021 dX1_count_22 (x_chkA0 X.l X.G _) (nm_ (by decide : nmb _ 1 = true)) (dl rfl) (dk rfl) rfl rfl (dk rfl) (by omega) kT (xT fun qx fx kx => ?_)
      have pf : SPost X.G x (ex1 IAE) (mCount s (nI i) (nI j) g) (.inr (IAE, qx)) (up h qx (ob 18 [])) := by
        unfold mCount; rw [if_neg (fun w_ => by rw [hg] at w_; exact absurd w_.2 (by decide))]; exact SPost.no (S.at.mi (k := 20) (v := 0) (by omega)) fx (by decide) rfl
      exact g_out ok fn (fun z hz => nomatch hz) pf (by omega)
  · refine g_iload_n ok dX1_count_0 rfl ?_
    refine g_iload_n ok dX1_count_1 rfl ?_
    refine g_callS ok q995 q996 q61 q997 dX1_count_2 (x_isSpan X.l X.G _ a b) (nm_ (by decide : nmb _ 2 = true)) (dl rfl) (dk rfl) rfl rfl (dk rfl) (by omega) (kV ?_) xV
    refine g_if_eq ok (tgt := 21) dX1_count_5 (by decide) (fun _ => ?_) (fun c_ => absurd (by rw [hs]; rfl) c_)
    refine g_iconst ok (v := 0) dX1_count_21 rfl ?_
    refine g_callS ok q1019 q1020 q61 q1021 dX1_count_22 (x_chkA0 X.l X.G _) (nm_ (by decide : nmb _ 1 = true)) (dl rfl) (dk rfl) rfl rfl (dk rfl) (by omega) kT (xT fun qx fx kx => ?_)
    have pf : SPost X.G x (ex1 IAE) (mCount s a b g) (.inr (IAE, qx)) (up h qx (ob 18 [])) := by
      unfold mCount; rw [if_neg (fun w_ => by rw [hs] at w_; exact absurd w_.1 (by decide))]; exact SPost.no (S.at.mi (k := 20) (v := 0) (by omega)) fx (by decide) rfl
    exact g_out ok fn (fun z hz => nomatch hz) pf (by omega)
theorem s_cell (l : Launch) (G : GE) (h : AH) (x : Nat) (s : MS) (S0 : SRAt G h x s) (c : Int32) : GM l G yX1_cell (ws_ yX1_cell cX1_cell 2 (some .int)) 15 [.ref x, .int c] (h) (48) (SPost G x (ex1 IOOBE) (mCell s c)) := by
  refine GM.of (by decide) (dk rfl) ?_
  intro X eL eG eh ok fn
  subst eL; subst eG
  show GW X _ 0 0 [some (.ref x), some (.int c)] []
  obtain ⟨own, hr, ru, sv, hl, hd, hc, hm, hf, inp, ln, bt, rf, S⟩ := S0
  obtain ⟨rt, cl, nl, nd, nc, nm, nf, vl, vd, vc, vm, vf, y⟩ := S.2.2.2.2.2.2.2.2.1.1.1
  rcases Bool.eq_false_or_eq_true (isC c) with hs | hs
  · obtain ⟨i, ea, hj⟩ : ∃ i, c = nI i ∧ i < 32 := ⟨_, isC_n hs⟩
    subst ea
    refine g_iload_n ok dX1_cell_0 rfl ?_
    refine g_callS ok q998 q999 q61 q1000 dX1_cell_1 (x_isCell X.l X.G _ (nI i)) (nm_ (by decide : nmb _ 1 = true)) (dl rfl) (dk rfl) rfl rfl (dk rfl) (by omega) (kV ?_) xV
    rw [hs]
    refine g_callS ok q1240 q1241 q61 q1242 dX1_cell_4 (x_chkI1 X.l X.G _) (nm_ (by decide : nmb _ 1 = true)) (dl rfl) (dk rfl) rfl rfl (dk rfl) (by omega) (kN ?_) xN
    refine g_aload_n ok dX1_cell_7 rfl ?_
    refine g_get ok ck_X1 0 q319 (Or.inl rfl) (by decide) dX1_cell_8 (Rd.h (S.2.2.1)) rfl ?_
    refine g_iload_n ok dX1_cell_11 rfl ?_
    refine g_callV ok q1300 q1066 q1067 q62 q1068 (Recv.ob ok gc_X2 (Rd.h (S.1 _ _ y.1.1))) dX1_cell_12 (GM.fr S.1 (x_number X.l X.G hr (fun q => own q = ru) ru (s.A 0) rt cl nl vl _ _ _ _ _ _ y.1 i (by omega))) (nm_ (by decide : nmb _ 1 = true)) (dl rfl) (dk rfl) rfl rfl (dk rfl) (by omega) (kFR fun v1_ hr1_ h1_ ⟨e1_, q1_, g1_⟩ f1_ => ?_) xFR
    subst e1_
    obtain ⟨S1_, y1_⟩ := SRx.ask S y q1_ g1_ f1_
    have pf : SPost X.G x (ex1 IOOBE) (mCell s (nI i)) (.inl (some (.int (s.A 0 (8 + i))))) h1_ := by
      unfold mCell; rw [if_pos hs];  simp only [nn_nI (by omega : i < 2 ^ 31)]; exact SPost.ok S1_.at
    exact g_iret ok fn rfl dX1_cell_15 pf (by omega)
  · refine g_iload_n ok dX1_cell_0 rfl ?_
    refine g_callS ok q998 q999 q61 q1000 dX1_cell_1 (x_isCell X.l X.G _ c) (nm_ (by decide : nmb _ 1 = true)) (dl rfl) (dk rfl) rfl rfl (dk rfl) (by omega) (kV ?_) xV
    rw [hs]
    refine g_callS ok q1240 q1241 q61 q1242 dX1_cell_4 (x_chkI0 X.l X.G _) (nm_ (by decide : nmb _ 1 = true)) (dl rfl) (dk rfl) rfl rfl (dk rfl) (by omega) kT (xT fun qx fx kx => ?_)
    have pf : SPost X.G x (ex1 IOOBE) (mCell s c) (.inr (IOOBE, qx)) (up h qx (ob 19 [])) := by
      unfold mCell; rw [if_neg (by rw [hs]; decide)]; exact SPost.no (S.at.mi (k := 20) (v := 0) (by omega)) fx (by decide) rfl
    exact g_out ok fn (fun z hz => nomatch hz) pf (by omega)
theorem s_colourOf (l : Launch) (G : GE) (h : AH) (x : Nat) (s : MS) (S0 : SRAt G h x s) (c : Int32) : GM l G yX1_colourOf (ws_ yX1_colourOf cX1_colourOf 2 (some .int)) 15 [.ref x, .int c] (h) (6) (SPost G x (ex1 IOOBE) (mColourOf s c)) := by
  refine GM.of (by decide) (dk rfl) ?_
  intro X eL eG eh ok fn
  subst eL; subst eG
  show GW X _ 0 0 [some (.ref x), some (.int c)] []
  obtain ⟨own, hr, ru, sv, hl, hd, hc, hm, hf, inp, ln, bt, rf, S⟩ := S0
  obtain ⟨rt, cl, nl, nd, nc, nm, nf, vl, vd, vc, vm, vf, y⟩ := S.2.2.2.2.2.2.2.2.1.1.1
  rcases Bool.eq_false_or_eq_true (isC c) with hs | hs
  · obtain ⟨i, ea, hj⟩ : ∃ i, c = nI i ∧ i < 32 := ⟨_, isC_n hs⟩
    subst ea
    obtain ⟨cf, hcl, hcf⟩ := y.1.2.2
    refine g_iload_n ok dX1_colourOf_0 rfl ?_
    refine g_callS ok q998 q999 q61 q1000 dX1_colourOf_1 (x_isCell X.l X.G _ (nI i)) (nm_ (by decide : nmb _ 1 = true)) (dl rfl) (dk rfl) rfl rfl (dk rfl) (by omega) (kV ?_) xV
    rw [hs]
    refine g_callS ok q1240 q1241 q61 q1242 dX1_colourOf_4 (x_chkI1 X.l X.G _) (nm_ (by decide : nmb _ 1 = true)) (dl rfl) (dk rfl) rfl rfl (dk rfl) (by omega) (kN ?_) xN
    refine g_aload_n ok dX1_colourOf_7 rfl ?_
    refine g_get ok ck_X1 0 q319 (Or.inl rfl) (by decide) dX1_colourOf_8 (Rd.h (S.2.2.1)) rfl ?_
    refine g_getN ok ck_X2 1 q245 rfl (by decide) dX1_colourOf_11 (Rd.h (S.1 _ _ y.1.1)) rfl ?_
    refine g_iload_n ok dX1_colourOf_14 rfl ?_
    refine g_iald ok (j := i) dX1_colourOf_15 (Rd.h (S.1 _ _ hcl)) rfl (by omega) (by omega) ?_
    rw [hcf i (by omega)]
    have pf : SPost X.G x (ex1 IOOBE) (mColourOf s (nI i)) (.inl (some (.int (s.A 0 (40 + i))))) h := by
      unfold mColourOf; rw [if_pos hs];  simp only [nn_nI (by omega : i < 2 ^ 31)]; exact SPost.ok S.at
    exact g_iret ok fn rfl dX1_colourOf_16 pf (by omega)
  · refine g_iload_n ok dX1_colourOf_0 rfl ?_
    refine g_callS ok q998 q999 q61 q1000 dX1_colourOf_1 (x_isCell X.l X.G _ c) (nm_ (by decide : nmb _ 1 = true)) (dl rfl) (dk rfl) rfl rfl (dk rfl) (by omega) (kV ?_) xV
    rw [hs]
    refine g_callS ok q1240 q1241 q61 q1242 dX1_colourOf_4 (x_chkI0 X.l X.G _) (nm_ (by decide : nmb _ 1 = true)) (dl rfl) (dk rfl) rfl rfl (dk rfl) (by omega) kT (xT fun qx fx kx => ?_)
    have pf : SPost X.G x (ex1 IOOBE) (mColourOf s c) (.inr (IOOBE, qx)) (up h qx (ob 19 [])) := by
      unfold mColourOf; rw [if_neg (by rw [hs]; decide)]; exact SPost.no (S.at.mi (k := 20) (v := 0) (by omega)) fx (by decide) rfl
    exact g_out ok fn (fun z hz => nomatch hz) pf (by omega)
theorem s_longest (l : Launch) (G : GE) (h : AH) (x : Nat) (s : MS) (S0 : SRAt G h x s) (c : Int32) : GM l G yX1_longest (ws_ yX1_longest cX1_longest 2 (some .int)) 15 [.ref x, .int c] (h) (6) (SPost G x (ex1 IAE) (mLongest s c)) := by
  refine GM.of (by decide) (dk rfl) ?_
  intro X eL eG eh ok fn
  subst eL; subst eG
  show GW X _ 0 0 [some (.ref x), some (.int c)] []
  obtain ⟨own, hr, ru, sv, hl, hd, hc, hm, hf, inp, ln, bt, rf, S⟩ := S0
  obtain ⟨rt, cl, nl, nd, nc, nm, nf, vl, vd, vc, vm, vf, y⟩ := S.2.2.2.2.2.2.2.2.1.1.1
  rcases Bool.eq_false_or_eq_true (isCo c) with hs | hs
  · refine g_iload_n ok dX1_longest_0 rfl ?_
    refine g_callS ok q1188 q1189 q61 q1190 dX1_longest_1 (x_isColour X.l X.G _ c) (nm_ (by decide : nmb _ 1 = true)) (dl rfl) (dk rfl) rfl rfl (dk rfl) (by omega) (kV ?_) xV
    rw [hs]
    refine g_callS ok q1019 q1020 q61 q1021 dX1_longest_4 (x_chkA1 X.l X.G _) (nm_ (by decide : nmb _ 1 = true)) (dl rfl) (dk rfl) rfl rfl (dk rfl) (by omega) (kN ?_) xN
    refine g_aload_n ok dX1_longest_7 rfl ?_
    refine g_get ok ck_X1 0 q319 (Or.inl rfl) (by decide) dX1_longest_8 (Rd.h (S.2.2.1)) rfl ?_
    refine g_iload_n ok dX1_longest_11 rfl ?_
    refine g_callV ok q1428 q1429 q1430 q62 q1431 (Recv.ob ok gc_X2 (Rd.h (S.1 _ _ y.1.1))) dX1_longest_12 (GM.fr S.1 (x_longest X.l X.G hr (fun q => own q = ru) ru (s.A 0) rt cl nl vl _ _ _ _ _ _ y.1 c)) (nm_ (by decide : nmb _ 1 = true)) (dl rfl) (dk rfl) rfl rfl (dk rfl) (by omega) (kFR fun v1_ hr1_ h1_ ⟨e1_, q1_, g1_⟩ f1_ => ?_) xFR
    subst e1_
    obtain ⟨S1_, y1_⟩ := SRx.ask S y q1_ g1_ f1_
    have pf : SPost X.G x (ex1 IAE) (mLongest s c) (.inl (some (.int (lol (s.A 0) c 32 0 0 0)))) h1_ := by
      unfold mLongest; rw [if_pos hs]; exact SPost.ok S1_.at
    exact g_iret ok fn rfl dX1_longest_15 pf (by omega)
  · refine g_iload_n ok dX1_longest_0 rfl ?_
    refine g_callS ok q1188 q1189 q61 q1190 dX1_longest_1 (x_isColour X.l X.G _ c) (nm_ (by decide : nmb _ 1 = true)) (dl rfl) (dk rfl) rfl rfl (dk rfl) (by omega) (kV ?_) xV
    rw [hs]
    refine g_callS ok q1019 q1020 q61 q1021 dX1_longest_4 (x_chkA0 X.l X.G _) (nm_ (by decide : nmb _ 1 = true)) (dl rfl) (dk rfl) rfl rfl (dk rfl) (by omega) kT (xT fun qx fx kx => ?_)
    have pf : SPost X.G x (ex1 IAE) (mLongest s c) (.inr (IAE, qx)) (up h qx (ob 18 [])) := by
      unfold mLongest; rw [if_neg (by rw [hs]; decide)]; exact SPost.no (S.at.mi (k := 20) (v := 0) (by omega)) fx (by decide) rfl
    exact g_out ok fn (fun z hz => nomatch hz) pf (by omega)
theorem s_sumOf (l : Launch) (G : GE) (h : AH) (x : Nat) (s : MS) (S0 : SRAt G h x s) (c : Int32) : GM l G yX1_sumOf_2 (ws_ yX1_sumOf_2 cX1_sumOf_2 2 (some .int)) 15 [.ref x, .int c] (h) (1540) (SPost G x (ex1 IAE) (mSumOf s c)) := by
  refine GM.of (by decide) (dk rfl) ?_
  intro X eL eG eh ok fn
  subst eL; subst eG
  show GW X _ 0 0 [some (.ref x), some (.int c)] []
  obtain ⟨own, hr, ru, sv, hl, hd, hc, hm, hf, inp, ln, bt, rf, S⟩ := S0
  obtain ⟨rt, cl, nl, nd, nc, nm, nf, vl, vd, vc, vm, vf, y⟩ := S.2.2.2.2.2.2.2.2.1.1.1
  rcases Bool.eq_false_or_eq_true (isCo c) with hs | hs
  · refine g_iload_n ok dX1_sumOf_2_0 rfl ?_
    refine g_callS ok q1188 q1189 q61 q1190 dX1_sumOf_2_1 (x_isColour X.l X.G _ c) (nm_ (by decide : nmb _ 1 = true)) (dl rfl) (dk rfl) rfl rfl (dk rfl) (by omega) (kV ?_) xV
    rw [hs]
    refine g_callS ok q1019 q1020 q61 q1021 dX1_sumOf_2_4 (x_chkA1 X.l X.G _) (nm_ (by decide : nmb _ 1 = true)) (dl rfl) (dk rfl) rfl rfl (dk rfl) (by omega) (kN ?_) xN
    refine g_aload_n ok dX1_sumOf_2_7 rfl ?_
    refine g_get ok ck_X1 0 q319 (Or.inl rfl) (by decide) dX1_sumOf_2_8 (Rd.h (S.2.2.1)) rfl ?_
    refine g_iload_n ok dX1_sumOf_2_11 rfl ?_
    refine g_callV ok q1439 q1440 q1441 q62 q1442 (Recv.ob ok gc_X2 (Rd.h (S.1 _ _ y.1.1))) dX1_sumOf_2_12 (GM.fr S.1 (x_sumWith X.l X.G hr (fun q => own q = ru) ru (s.A 0) rt cl nl vl _ _ _ _ _ _ y.1 c)) (nm_ (by decide : nmb _ 1 = true)) (dl rfl) (dk rfl) rfl rfl (dk rfl) (by omega) (kFR fun v1_ hr1_ h1_ ⟨e1_, q1_, g1_⟩ f1_ => ?_) xFR
    subst e1_
    obtain ⟨S1_, y1_⟩ := SRx.ask S y q1_ g1_ f1_
    have pf : SPost X.G x (ex1 IAE) (mSumOf s c) (.inl (some (.int (wol (s.A 0) c 32 0 0)))) h1_ := by
      unfold mSumOf; rw [if_pos hs]; exact SPost.ok S1_.at
    exact g_iret ok fn rfl dX1_sumOf_2_15 pf (by omega)
  · refine g_iload_n ok dX1_sumOf_2_0 rfl ?_
    refine g_callS ok q1188 q1189 q61 q1190 dX1_sumOf_2_1 (x_isColour X.l X.G _ c) (nm_ (by decide : nmb _ 1 = true)) (dl rfl) (dk rfl) rfl rfl (dk rfl) (by omega) (kV ?_) xV
    rw [hs]
    refine g_callS ok q1019 q1020 q61 q1021 dX1_sumOf_2_4 (x_chkA0 X.l X.G _) (nm_ (by decide : nmb _ 1 = true)) (dl rfl) (dk rfl) rfl rfl (dk rfl) (by omega) kT (xT fun qx fx kx => ?_)
    have pf : SPost X.G x (ex1 IAE) (mSumOf s c) (.inr (IAE, qx)) (up h qx (ob 18 [])) := by
      unfold mSumOf; rw [if_neg (by rw [hs]; decide)]; exact SPost.no (S.at.mi (k := 20) (v := 0) (by omega)) fx (by decide) rfl
    exact g_out ok fn (fun z hz => nomatch hz) pf (by omega)
