/-! THE MODEL: what its methods compute, 3 -/
set_option maxRecDepth 100000
abbrev cX8_leaving : ByteArray := prog_19_method_18_code
def yX8_leaving : MethodName := ⟨RX8, "leaving", "(IIII)I"⟩
def dkwX8_leaving_1 : List UInt8 := [17, 3, 231, 184, 0, 67, 154, 0, 6, 21, 5, 172, 132, 5, 1, 167, 255, 220, 2, 172]
abbrev dktX8_leaving_1 : List UInt8 := dkwX8_leaving_1 ++ []
def dkwX8_leaving_0 : List UInt8 := [28, 54, 5, 21, 5, 29, 163, 0, 36, 27, 42, 21, 5, 182, 0, 75, 21, 4, 184, 0, 78, 17, 252, 25]
abbrev dktX8_leaving_0 : List UInt8 := dkwX8_leaving_0 ++ dktX8_leaving_1
theorem dksX8_leaving_0 : cX8_leaving.data.toList.drop 0 = dktX8_leaving_0 := by decide +kernel
theorem dksX8_leaving_1 : cX8_leaving.data.toList.drop 24 = dktX8_leaving_1 := dk_seg dksX8_leaving_0 24 rfl rfl
theorem dX8_leaving_0 : decode cX8_leaving 0 = .ok (.iload_n 2, 1) := dk_28 (dk_at dksX8_leaving_0 0 rfl rfl)
theorem dX8_leaving_1 : decode cX8_leaving 1 = .ok (.istore 5, 2) := dk_54 5 (dk_at dksX8_leaving_0 1 rfl rfl)
theorem dX8_leaving_3 : decode cX8_leaving 3 = .ok (.iload 5, 2) := dk_21 5 (dk_at dksX8_leaving_0 3 rfl rfl)
theorem dX8_leaving_5 : decode cX8_leaving 5 = .ok (.iload_n 3, 1) := dk_29 (dk_at dksX8_leaving_0 5 rfl rfl)
theorem dX8_leaving_6 : decode cX8_leaving 6 = .ok (.if_icmp .gt 36, 3) := dk_163 0 36 (dk_at dksX8_leaving_0 6 rfl rfl)
theorem dX8_leaving_9 : decode cX8_leaving 9 = .ok (.iload_n 1, 1) := dk_27 (dk_at dksX8_leaving_0 9 rfl rfl)
theorem dX8_leaving_10 : decode cX8_leaving 10 = .ok (.aload_n 0, 1) := dk_42 (dk_at dksX8_leaving_0 10 rfl rfl)
theorem dX8_leaving_11 : decode cX8_leaving 11 = .ok (.iload 5, 2) := dk_21 5 (dk_at dksX8_leaving_0 11 rfl rfl)
theorem dX8_leaving_13 : decode cX8_leaving 13 = .ok (.invokevirtual 75, 3) := dk_182 0 75 (dk_at dksX8_leaving_0 13 rfl rfl)
theorem dX8_leaving_16 : decode cX8_leaving 16 = .ok (.iload 4, 2) := dk_21 4 (dk_at dksX8_leaving_0 16 rfl rfl)
theorem dX8_leaving_18 : decode cX8_leaving 18 = .ok (.invokestatic 78, 3) := dk_184 0 78 (dk_at dksX8_leaving_0 18 rfl rfl)
theorem dX8_leaving_21 : decode cX8_leaving 21 = .ok (.sipush (-999), 3) := dk_17 252 25 (dk_at dksX8_leaving_0 21 rfl rfl)
theorem dX8_leaving_24 : decode cX8_leaving 24 = .ok (.sipush 999, 3) := dk_17 3 231 (dk_at dksX8_leaving_1 0 rfl rfl)
theorem dX8_leaving_27 : decode cX8_leaving 27 = .ok (.invokestatic 67, 3) := dk_184 0 67 (dk_at dksX8_leaving_1 3 rfl rfl)
theorem dX8_leaving_30 : decode cX8_leaving 30 = .ok (.ifCond .ne 6, 3) := dk_154 0 6 (dk_at dksX8_leaving_1 6 rfl rfl)
theorem dX8_leaving_33 : decode cX8_leaving 33 = .ok (.iload 5, 2) := dk_21 5 (dk_at dksX8_leaving_1 9 rfl rfl)
theorem dX8_leaving_35 : decode cX8_leaving 35 = .ok (.ireturn, 1) := dk_172 (dk_at dksX8_leaving_1 11 rfl rfl)
theorem dX8_leaving_36 : decode cX8_leaving 36 = .ok (.iinc 5 1, 3) := dk_132 5 1 (dk_at dksX8_leaving_1 12 rfl rfl)
theorem dX8_leaving_39 : decode cX8_leaving 39 = .ok (.goto (-36), 3) := dk_167 255 220 (dk_at dksX8_leaving_1 15 rfl rfl)
theorem dX8_leaving_42 : decode cX8_leaving 42 = .ok (.iconst (-1), 1) := dk_2 (dk_at dksX8_leaving_1 18 rfl rfl)
theorem dX8_leaving_43 : decode cX8_leaving 43 = .ok (.ireturn, 1) := dk_172 (dk_at dksX8_leaving_1 19 rfl rfl)
abbrev cX8_acts : ByteArray := prog_19_method_19_code
def yX8_acts : MethodName := ⟨RX8, "acts", "(IIII)V"⟩
def dkwX8_acts_2 : List UInt8 := [96, 79, 177]
abbrev dktX8_acts_2 : List UInt8 := dkwX8_acts_2 ++ []
def dkwX8_acts_1 : List UInt8 := [182, 0, 75, 21, 4, 184, 0, 78, 79, 132, 5, 1, 167, 255, 225, 42, 180, 0, 9, 16, 6, 92, 46, 4]
abbrev dktX8_acts_1 : List UInt8 := dkwX8_acts_1 ++ dktX8_acts_2
def dkwX8_acts_0 : List UInt8 := [28, 54, 5, 21, 5, 29, 163, 0, 31, 42, 180, 0, 9, 16, 8, 21, 5, 96, 27, 42, 21, 5]
abbrev dktX8_acts_0 : List UInt8 := dkwX8_acts_0 ++ dktX8_acts_1
theorem dksX8_acts_0 : cX8_acts.data.toList.drop 0 = dktX8_acts_0 := by decide +kernel
theorem dksX8_acts_1 : cX8_acts.data.toList.drop 22 = dktX8_acts_1 := dk_seg dksX8_acts_0 22 rfl rfl
theorem dksX8_acts_2 : cX8_acts.data.toList.drop 46 = dktX8_acts_2 := dk_seg dksX8_acts_1 24 rfl rfl
theorem dX8_acts_0 : decode cX8_acts 0 = .ok (.iload_n 2, 1) := dk_28 (dk_at dksX8_acts_0 0 rfl rfl)
theorem dX8_acts_1 : decode cX8_acts 1 = .ok (.istore 5, 2) := dk_54 5 (dk_at dksX8_acts_0 1 rfl rfl)
theorem dX8_acts_3 : decode cX8_acts 3 = .ok (.iload 5, 2) := dk_21 5 (dk_at dksX8_acts_0 3 rfl rfl)
theorem dX8_acts_5 : decode cX8_acts 5 = .ok (.iload_n 3, 1) := dk_29 (dk_at dksX8_acts_0 5 rfl rfl)
theorem dX8_acts_6 : decode cX8_acts 6 = .ok (.if_icmp .gt 31, 3) := dk_163 0 31 (dk_at dksX8_acts_0 6 rfl rfl)
theorem dX8_acts_9 : decode cX8_acts 9 = .ok (.aload_n 0, 1) := dk_42 (dk_at dksX8_acts_0 9 rfl rfl)
theorem dX8_acts_10 : decode cX8_acts 10 = .ok (.getfield 9, 3) := dk_180 0 9 (dk_at dksX8_acts_0 10 rfl rfl)
theorem dX8_acts_13 : decode cX8_acts 13 = .ok (.bipush 8, 2) := dk_16 8 (dk_at dksX8_acts_0 13 rfl rfl)
theorem dX8_acts_15 : decode cX8_acts 15 = .ok (.iload 5, 2) := dk_21 5 (dk_at dksX8_acts_0 15 rfl rfl)
theorem dX8_acts_17 : decode cX8_acts 17 = .ok (.iadd, 1) := dk_96 (dk_at dksX8_acts_0 17 rfl rfl)
theorem dX8_acts_18 : decode cX8_acts 18 = .ok (.iload_n 1, 1) := dk_27 (dk_at dksX8_acts_0 18 rfl rfl)
theorem dX8_acts_19 : decode cX8_acts 19 = .ok (.aload_n 0, 1) := dk_42 (dk_at dksX8_acts_0 19 rfl rfl)
theorem dX8_acts_20 : decode cX8_acts 20 = .ok (.iload 5, 2) := dk_21 5 (dk_at dksX8_acts_0 20 rfl rfl)
theorem dX8_acts_22 : decode cX8_acts 22 = .ok (.invokevirtual 75, 3) := dk_182 0 75 (dk_at dksX8_acts_1 0 rfl rfl)
theorem dX8_acts_25 : decode cX8_acts 25 = .ok (.iload 4, 2) := dk_21 4 (dk_at dksX8_acts_1 3 rfl rfl)
theorem dX8_acts_27 : decode cX8_acts 27 = .ok (.invokestatic 78, 3) := dk_184 0 78 (dk_at dksX8_acts_1 5 rfl rfl)
theorem dX8_acts_30 : decode cX8_acts 30 = .ok (.iastore, 1) := dk_79 (dk_at dksX8_acts_1 8 rfl rfl)
theorem dX8_acts_31 : decode cX8_acts 31 = .ok (.iinc 5 1, 3) := dk_132 5 1 (dk_at dksX8_acts_1 9 rfl rfl)
theorem dX8_acts_34 : decode cX8_acts 34 = .ok (.goto (-31), 3) := dk_167 255 225 (dk_at dksX8_acts_1 12 rfl rfl)
theorem dX8_acts_37 : decode cX8_acts 37 = .ok (.aload_n 0, 1) := dk_42 (dk_at dksX8_acts_1 15 rfl rfl)
theorem dX8_acts_38 : decode cX8_acts 38 = .ok (.getfield 9, 3) := dk_180 0 9 (dk_at dksX8_acts_1 16 rfl rfl)
theorem dX8_acts_41 : decode cX8_acts 41 = .ok (.bipush 6, 2) := dk_16 6 (dk_at dksX8_acts_1 19 rfl rfl)
theorem dX8_acts_43 : decode cX8_acts 43 = .ok (.dup2, 1) := dk_92 (dk_at dksX8_acts_1 21 rfl rfl)
theorem dX8_acts_44 : decode cX8_acts 44 = .ok (.iaload, 1) := dk_46 (dk_at dksX8_acts_1 22 rfl rfl)
theorem dX8_acts_45 : decode cX8_acts 45 = .ok (.iconst 1, 1) := dk_4 (dk_at dksX8_acts_1 23 rfl rfl)
theorem dX8_acts_46 : decode cX8_acts 46 = .ok (.iadd, 1) := dk_96 (dk_at dksX8_acts_2 0 rfl rfl)
theorem dX8_acts_47 : decode cX8_acts 47 = .ok (.iastore, 1) := dk_79 (dk_at dksX8_acts_2 1 rfl rfl)
theorem dX8_acts_48 : decode cX8_acts 48 = .ok (.return_, 1) := dk_177 (dk_at dksX8_acts_2 2 rfl rfl)
abbrev cX8_adds : ByteArray := prog_19_method_21_code
def yX8_adds : MethodName := ⟨RX8, "adds", "(III)I"⟩
def dkwX8_adds_2 : List UInt8 := [182, 0, 97, 42, 42, 27, 28, 182, 0, 101, 182, 0, 104, 172]
abbrev dktX8_adds_2 : List UInt8 := dkwX8_adds_2 ++ []
def dkwX8_adds_1 : List UInt8 := [182, 0, 89, 54, 4, 21, 4, 155, 0, 11, 42, 5, 21, 4, 182, 0, 93, 172, 42, 3, 27, 28, 29]
abbrev dktX8_adds_1 : List UInt8 := dkwX8_adds_1 ++ dktX8_adds_2
def dkwX8_adds_0 : List UInt8 := [27, 28, 184, 0, 82, 153, 0, 11, 3, 29, 184, 0, 86, 154, 0, 5, 4, 172, 42, 3, 27, 28, 29]
abbrev dktX8_adds_0 : List UInt8 := dkwX8_adds_0 ++ dktX8_adds_1
theorem dksX8_adds_0 : cX8_adds.data.toList.drop 0 = dktX8_adds_0 := by decide +kernel
theorem dksX8_adds_1 : cX8_adds.data.toList.drop 23 = dktX8_adds_1 := dk_seg dksX8_adds_0 23 rfl rfl
theorem dksX8_adds_2 : cX8_adds.data.toList.drop 46 = dktX8_adds_2 := dk_seg dksX8_adds_1 23 rfl rfl
theorem dX8_adds_0 : decode cX8_adds 0 = .ok (.iload_n 1, 1) := dk_27 (dk_at dksX8_adds_0 0 rfl rfl)
theorem dX8_adds_1 : decode cX8_adds 1 = .ok (.iload_n 2, 1) := dk_28 (dk_at dksX8_adds_0 1 rfl rfl)
theorem dX8_adds_2 : decode cX8_adds 2 = .ok (.invokestatic 82, 3) := dk_184 0 82 (dk_at dksX8_adds_0 2 rfl rfl)
theorem dX8_adds_5 : decode cX8_adds 5 = .ok (.ifCond .eq 11, 3) := dk_153 0 11 (dk_at dksX8_adds_0 5 rfl rfl)
theorem dX8_adds_8 : decode cX8_adds 8 = .ok (.iconst 0, 1) := dk_3 (dk_at dksX8_adds_0 8 rfl rfl)
theorem dX8_adds_9 : decode cX8_adds 9 = .ok (.iload_n 3, 1) := dk_29 (dk_at dksX8_adds_0 9 rfl rfl)
theorem dX8_adds_10 : decode cX8_adds 10 = .ok (.invokestatic 86, 3) := dk_184 0 86 (dk_at dksX8_adds_0 10 rfl rfl)
theorem dX8_adds_13 : decode cX8_adds 13 = .ok (.ifCond .ne 5, 3) := dk_154 0 5 (dk_at dksX8_adds_0 13 rfl rfl)
theorem dX8_adds_16 : decode cX8_adds 16 = .ok (.iconst 1, 1) := dk_4 (dk_at dksX8_adds_0 16 rfl rfl)
theorem dX8_adds_17 : decode cX8_adds 17 = .ok (.ireturn, 1) := dk_172 (dk_at dksX8_adds_0 17 rfl rfl)
theorem dX8_adds_18 : decode cX8_adds 18 = .ok (.aload_n 0, 1) := dk_42 (dk_at dksX8_adds_0 18 rfl rfl)
theorem dX8_adds_19 : decode cX8_adds 19 = .ok (.iconst 0, 1) := dk_3 (dk_at dksX8_adds_0 19 rfl rfl)
theorem dX8_adds_20 : decode cX8_adds 20 = .ok (.iload_n 1, 1) := dk_27 (dk_at dksX8_adds_0 20 rfl rfl)
theorem dX8_adds_21 : decode cX8_adds 21 = .ok (.iload_n 2, 1) := dk_28 (dk_at dksX8_adds_0 21 rfl rfl)
theorem dX8_adds_22 : decode cX8_adds 22 = .ok (.iload_n 3, 1) := dk_29 (dk_at dksX8_adds_0 22 rfl rfl)
theorem dX8_adds_23 : decode cX8_adds 23 = .ok (.invokevirtual 89, 3) := dk_182 0 89 (dk_at dksX8_adds_1 0 rfl rfl)
theorem dX8_adds_26 : decode cX8_adds 26 = .ok (.istore 4, 2) := dk_54 4 (dk_at dksX8_adds_1 3 rfl rfl)
theorem dX8_adds_28 : decode cX8_adds 28 = .ok (.iload 4, 2) := dk_21 4 (dk_at dksX8_adds_1 5 rfl rfl)
theorem dX8_adds_30 : decode cX8_adds 30 = .ok (.ifCond .lt 11, 3) := dk_155 0 11 (dk_at dksX8_adds_1 7 rfl rfl)
theorem dX8_adds_33 : decode cX8_adds 33 = .ok (.aload_n 0, 1) := dk_42 (dk_at dksX8_adds_1 10 rfl rfl)
theorem dX8_adds_34 : decode cX8_adds 34 = .ok (.iconst 2, 1) := dk_5 (dk_at dksX8_adds_1 11 rfl rfl)
theorem dX8_adds_35 : decode cX8_adds 35 = .ok (.iload 4, 2) := dk_21 4 (dk_at dksX8_adds_1 12 rfl rfl)
theorem dX8_adds_37 : decode cX8_adds 37 = .ok (.invokevirtual 93, 3) := dk_182 0 93 (dk_at dksX8_adds_1 14 rfl rfl)
theorem dX8_adds_40 : decode cX8_adds 40 = .ok (.ireturn, 1) := dk_172 (dk_at dksX8_adds_1 17 rfl rfl)
theorem dX8_adds_41 : decode cX8_adds 41 = .ok (.aload_n 0, 1) := dk_42 (dk_at dksX8_adds_1 18 rfl rfl)
theorem dX8_adds_42 : decode cX8_adds 42 = .ok (.iconst 0, 1) := dk_3 (dk_at dksX8_adds_1 19 rfl rfl)
theorem dX8_adds_43 : decode cX8_adds 43 = .ok (.iload_n 1, 1) := dk_27 (dk_at dksX8_adds_1 20 rfl rfl)
theorem dX8_adds_44 : decode cX8_adds 44 = .ok (.iload_n 2, 1) := dk_28 (dk_at dksX8_adds_1 21 rfl rfl)
theorem dX8_adds_45 : decode cX8_adds 45 = .ok (.iload_n 3, 1) := dk_29 (dk_at dksX8_adds_1 22 rfl rfl)
theorem dX8_adds_46 : decode cX8_adds 46 = .ok (.invokevirtual 97, 3) := dk_182 0 97 (dk_at dksX8_adds_2 0 rfl rfl)
theorem dX8_adds_49 : decode cX8_adds 49 = .ok (.aload_n 0, 1) := dk_42 (dk_at dksX8_adds_2 3 rfl rfl)
theorem dX8_adds_50 : decode cX8_adds 50 = .ok (.aload_n 0, 1) := dk_42 (dk_at dksX8_adds_2 4 rfl rfl)
theorem dX8_adds_51 : decode cX8_adds 51 = .ok (.iload_n 1, 1) := dk_27 (dk_at dksX8_adds_2 5 rfl rfl)
theorem dX8_adds_52 : decode cX8_adds 52 = .ok (.iload_n 2, 1) := dk_28 (dk_at dksX8_adds_2 6 rfl rfl)
theorem dX8_adds_53 : decode cX8_adds 53 = .ok (.invokevirtual 101, 3) := dk_182 0 101 (dk_at dksX8_adds_2 7 rfl rfl)
theorem dX8_adds_56 : decode cX8_adds 56 = .ok (.invokevirtual 104, 3) := dk_182 0 104 (dk_at dksX8_adds_2 10 rfl rfl)
theorem dX8_adds_59 : decode cX8_adds 59 = .ok (.ireturn, 1) := dk_172 (dk_at dksX8_adds_2 13 rfl rfl)
abbrev cX8_sets : ByteArray := prog_19_method_23_code
def yX8_sets : MethodName := ⟨RX8, "sets", "(III)I"⟩
def dkwX8_sets_1 : List UInt8 := [54, 4, 42, 4, 27, 28, 29, 182, 0, 97, 42, 21, 4, 182, 0, 104, 172]
abbrev dktX8_sets_1 : List UInt8 := dkwX8_sets_1 ++ []
def dkwX8_sets_0 : List UInt8 := [27, 28, 184, 0, 82, 153, 0, 11, 4, 29, 184, 0, 86, 154, 0, 5, 4, 172, 42, 27, 28, 182, 0, 101]
abbrev dktX8_sets_0 : List UInt8 := dkwX8_sets_0 ++ dktX8_sets_1
theorem dksX8_sets_0 : cX8_sets.data.toList.drop 0 = dktX8_sets_0 := by decide +kernel
theorem dksX8_sets_1 : cX8_sets.data.toList.drop 24 = dktX8_sets_1 := dk_seg dksX8_sets_0 24 rfl rfl
theorem dX8_sets_0 : decode cX8_sets 0 = .ok (.iload_n 1, 1) := dk_27 (dk_at dksX8_sets_0 0 rfl rfl)
theorem dX8_sets_1 : decode cX8_sets 1 = .ok (.iload_n 2, 1) := dk_28 (dk_at dksX8_sets_0 1 rfl rfl)
theorem dX8_sets_2 : decode cX8_sets 2 = .ok (.invokestatic 82, 3) := dk_184 0 82 (dk_at dksX8_sets_0 2 rfl rfl)
theorem dX8_sets_5 : decode cX8_sets 5 = .ok (.ifCond .eq 11, 3) := dk_153 0 11 (dk_at dksX8_sets_0 5 rfl rfl)
theorem dX8_sets_8 : decode cX8_sets 8 = .ok (.iconst 1, 1) := dk_4 (dk_at dksX8_sets_0 8 rfl rfl)
theorem dX8_sets_9 : decode cX8_sets 9 = .ok (.iload_n 3, 1) := dk_29 (dk_at dksX8_sets_0 9 rfl rfl)
theorem dX8_sets_10 : decode cX8_sets 10 = .ok (.invokestatic 86, 3) := dk_184 0 86 (dk_at dksX8_sets_0 10 rfl rfl)
theorem dX8_sets_13 : decode cX8_sets 13 = .ok (.ifCond .ne 5, 3) := dk_154 0 5 (dk_at dksX8_sets_0 13 rfl rfl)
theorem dX8_sets_16 : decode cX8_sets 16 = .ok (.iconst 1, 1) := dk_4 (dk_at dksX8_sets_0 16 rfl rfl)
theorem dX8_sets_17 : decode cX8_sets 17 = .ok (.ireturn, 1) := dk_172 (dk_at dksX8_sets_0 17 rfl rfl)
theorem dX8_sets_18 : decode cX8_sets 18 = .ok (.aload_n 0, 1) := dk_42 (dk_at dksX8_sets_0 18 rfl rfl)
theorem dX8_sets_19 : decode cX8_sets 19 = .ok (.iload_n 1, 1) := dk_27 (dk_at dksX8_sets_0 19 rfl rfl)
theorem dX8_sets_20 : decode cX8_sets 20 = .ok (.iload_n 2, 1) := dk_28 (dk_at dksX8_sets_0 20 rfl rfl)
theorem dX8_sets_21 : decode cX8_sets 21 = .ok (.invokevirtual 101, 3) := dk_182 0 101 (dk_at dksX8_sets_0 21 rfl rfl)
theorem dX8_sets_24 : decode cX8_sets 24 = .ok (.istore 4, 2) := dk_54 4 (dk_at dksX8_sets_1 0 rfl rfl)
theorem dX8_sets_26 : decode cX8_sets 26 = .ok (.aload_n 0, 1) := dk_42 (dk_at dksX8_sets_1 2 rfl rfl)
theorem dX8_sets_27 : decode cX8_sets 27 = .ok (.iconst 1, 1) := dk_4 (dk_at dksX8_sets_1 3 rfl rfl)
theorem dX8_sets_28 : decode cX8_sets 28 = .ok (.iload_n 1, 1) := dk_27 (dk_at dksX8_sets_1 4 rfl rfl)
theorem dX8_sets_29 : decode cX8_sets 29 = .ok (.iload_n 2, 1) := dk_28 (dk_at dksX8_sets_1 5 rfl rfl)
theorem dX8_sets_30 : decode cX8_sets 30 = .ok (.iload_n 3, 1) := dk_29 (dk_at dksX8_sets_1 6 rfl rfl)
theorem dX8_sets_31 : decode cX8_sets 31 = .ok (.invokevirtual 97, 3) := dk_182 0 97 (dk_at dksX8_sets_1 7 rfl rfl)
theorem dX8_sets_34 : decode cX8_sets 34 = .ok (.aload_n 0, 1) := dk_42 (dk_at dksX8_sets_1 10 rfl rfl)
theorem dX8_sets_35 : decode cX8_sets 35 = .ok (.iload 4, 2) := dk_21 4 (dk_at dksX8_sets_1 11 rfl rfl)
theorem dX8_sets_37 : decode cX8_sets 37 = .ok (.invokevirtual 104, 3) := dk_182 0 104 (dk_at dksX8_sets_1 13 rfl rfl)
theorem dX8_sets_40 : decode cX8_sets 40 = .ok (.ireturn, 1) := dk_172 (dk_at dksX8_sets_1 16 rfl rfl)
abbrev cX8_turns : ByteArray := prog_19_method_25_code
def yX8_turns : MethodName := ⟨RX8, "turns", "(II)I"⟩
def dkwX8_turns_1 : List UInt8 := [182, 0, 101, 182, 0, 104, 172]
abbrev dktX8_turns_1 : List UInt8 := dkwX8_turns_1 ++ []
def dkwX8_turns_0 : List UInt8 := [27, 28, 184, 0, 82, 154, 0, 5, 4, 172, 42, 5, 27, 28, 3, 182, 0, 97, 42, 42, 27, 28]
abbrev dktX8_turns_0 : List UInt8 := dkwX8_turns_0 ++ dktX8_turns_1
theorem dksX8_turns_0 : cX8_turns.data.toList.drop 0 = dktX8_turns_0 := by decide +kernel
theorem dksX8_turns_1 : cX8_turns.data.toList.drop 22 = dktX8_turns_1 := dk_seg dksX8_turns_0 22 rfl rfl
theorem dX8_turns_0 : decode cX8_turns 0 = .ok (.iload_n 1, 1) := dk_27 (dk_at dksX8_turns_0 0 rfl rfl)
theorem dX8_turns_1 : decode cX8_turns 1 = .ok (.iload_n 2, 1) := dk_28 (dk_at dksX8_turns_0 1 rfl rfl)
theorem dX8_turns_2 : decode cX8_turns 2 = .ok (.invokestatic 82, 3) := dk_184 0 82 (dk_at dksX8_turns_0 2 rfl rfl)
theorem dX8_turns_5 : decode cX8_turns 5 = .ok (.ifCond .ne 5, 3) := dk_154 0 5 (dk_at dksX8_turns_0 5 rfl rfl)
theorem dX8_turns_8 : decode cX8_turns 8 = .ok (.iconst 1, 1) := dk_4 (dk_at dksX8_turns_0 8 rfl rfl)
theorem dX8_turns_9 : decode cX8_turns 9 = .ok (.ireturn, 1) := dk_172 (dk_at dksX8_turns_0 9 rfl rfl)
theorem dX8_turns_10 : decode cX8_turns 10 = .ok (.aload_n 0, 1) := dk_42 (dk_at dksX8_turns_0 10 rfl rfl)
theorem dX8_turns_11 : decode cX8_turns 11 = .ok (.iconst 2, 1) := dk_5 (dk_at dksX8_turns_0 11 rfl rfl)
theorem dX8_turns_12 : decode cX8_turns 12 = .ok (.iload_n 1, 1) := dk_27 (dk_at dksX8_turns_0 12 rfl rfl)
theorem dX8_turns_13 : decode cX8_turns 13 = .ok (.iload_n 2, 1) := dk_28 (dk_at dksX8_turns_0 13 rfl rfl)
theorem dX8_turns_14 : decode cX8_turns 14 = .ok (.iconst 0, 1) := dk_3 (dk_at dksX8_turns_0 14 rfl rfl)
theorem dX8_turns_15 : decode cX8_turns 15 = .ok (.invokevirtual 97, 3) := dk_182 0 97 (dk_at dksX8_turns_0 15 rfl rfl)
theorem dX8_turns_18 : decode cX8_turns 18 = .ok (.aload_n 0, 1) := dk_42 (dk_at dksX8_turns_0 18 rfl rfl)
theorem dX8_turns_19 : decode cX8_turns 19 = .ok (.aload_n 0, 1) := dk_42 (dk_at dksX8_turns_0 19 rfl rfl)
theorem dX8_turns_20 : decode cX8_turns 20 = .ok (.iload_n 1, 1) := dk_27 (dk_at dksX8_turns_0 20 rfl rfl)
theorem dX8_turns_21 : decode cX8_turns 21 = .ok (.iload_n 2, 1) := dk_28 (dk_at dksX8_turns_0 21 rfl rfl)
theorem dX8_turns_22 : decode cX8_turns 22 = .ok (.invokevirtual 101, 3) := dk_182 0 101 (dk_at dksX8_turns_1 0 rfl rfl)
theorem dX8_turns_25 : decode cX8_turns 25 = .ok (.invokevirtual 104, 3) := dk_182 0 104 (dk_at dksX8_turns_1 3 rfl rfl)
theorem dX8_turns_28 : decode cX8_turns 28 = .ok (.ireturn, 1) := dk_172 (dk_at dksX8_turns_1 6 rfl rfl)
abbrev cX8_ends : ByteArray := prog_19_method_9_code
def yX8_ends : MethodName := ⟨RX8, "ends", "(I)I"⟩
def dkwX8_ends_0 : List UInt8 := [27, 154, 0, 14, 42, 42, 180, 0, 51, 182, 0, 54, 167, 0, 8, 42, 27, 182, 0, 58, 172]
abbrev dktX8_ends_0 : List UInt8 := dkwX8_ends_0 ++ []
theorem dksX8_ends_0 : cX8_ends.data.toList.drop 0 = dktX8_ends_0 := by decide +kernel
theorem dX8_ends_0 : decode cX8_ends 0 = .ok (.iload_n 1, 1) := dk_27 (dk_at dksX8_ends_0 0 rfl rfl)
theorem dX8_ends_1 : decode cX8_ends 1 = .ok (.ifCond .ne 14, 3) := dk_154 0 14 (dk_at dksX8_ends_0 1 rfl rfl)
theorem dX8_ends_4 : decode cX8_ends 4 = .ok (.aload_n 0, 1) := dk_42 (dk_at dksX8_ends_0 4 rfl rfl)
theorem dX8_ends_5 : decode cX8_ends 5 = .ok (.aload_n 0, 1) := dk_42 (dk_at dksX8_ends_0 5 rfl rfl)
theorem dX8_ends_6 : decode cX8_ends 6 = .ok (.getfield 51, 3) := dk_180 0 51 (dk_at dksX8_ends_0 6 rfl rfl)
theorem dX8_ends_9 : decode cX8_ends 9 = .ok (.invokevirtual 54, 3) := dk_182 0 54 (dk_at dksX8_ends_0 9 rfl rfl)
theorem dX8_ends_12 : decode cX8_ends 12 = .ok (.goto 8, 3) := dk_167 0 8 (dk_at dksX8_ends_0 12 rfl rfl)
theorem dX8_ends_15 : decode cX8_ends 15 = .ok (.aload_n 0, 1) := dk_42 (dk_at dksX8_ends_0 15 rfl rfl)
theorem dX8_ends_16 : decode cX8_ends 16 = .ok (.iload_n 1, 1) := dk_27 (dk_at dksX8_ends_0 16 rfl rfl)
theorem dX8_ends_17 : decode cX8_ends 17 = .ok (.invokevirtual 58, 3) := dk_182 0 58 (dk_at dksX8_ends_0 17 rfl rfl)
theorem dX8_ends_20 : decode cX8_ends 20 = .ok (.ireturn, 1) := dk_172 (dk_at dksX8_ends_0 20 rfl rfl)
abbrev cX8_add : ByteArray := prog_19_method_22_code
def yX8_add : MethodName := ⟨RX8, "add", "(III)I"⟩
def dkwX8_add_0 : List UInt8 := [42, 182, 0, 107, 42, 42, 27, 28, 29, 182, 0, 110, 182, 0, 113, 172]
abbrev dktX8_add_0 : List UInt8 := dkwX8_add_0 ++ []
theorem dksX8_add_0 : cX8_add.data.toList.drop 0 = dktX8_add_0 := by decide +kernel
theorem dX8_add_0 : decode cX8_add 0 = .ok (.aload_n 0, 1) := dk_42 (dk_at dksX8_add_0 0 rfl rfl)
theorem dX8_add_1 : decode cX8_add 1 = .ok (.invokevirtual 107, 3) := dk_182 0 107 (dk_at dksX8_add_0 1 rfl rfl)
theorem dX8_add_4 : decode cX8_add 4 = .ok (.aload_n 0, 1) := dk_42 (dk_at dksX8_add_0 4 rfl rfl)
theorem dX8_add_5 : decode cX8_add 5 = .ok (.aload_n 0, 1) := dk_42 (dk_at dksX8_add_0 5 rfl rfl)
theorem dX8_add_6 : decode cX8_add 6 = .ok (.iload_n 1, 1) := dk_27 (dk_at dksX8_add_0 6 rfl rfl)
theorem dX8_add_7 : decode cX8_add 7 = .ok (.iload_n 2, 1) := dk_28 (dk_at dksX8_add_0 7 rfl rfl)
theorem dX8_add_8 : decode cX8_add 8 = .ok (.iload_n 3, 1) := dk_29 (dk_at dksX8_add_0 8 rfl rfl)
theorem dX8_add_9 : decode cX8_add 9 = .ok (.invokevirtual 110, 3) := dk_182 0 110 (dk_at dksX8_add_0 9 rfl rfl)
theorem dX8_add_12 : decode cX8_add 12 = .ok (.invokevirtual 113, 3) := dk_182 0 113 (dk_at dksX8_add_0 12 rfl rfl)
theorem dX8_add_15 : decode cX8_add 15 = .ok (.ireturn, 1) := dk_172 (dk_at dksX8_add_0 15 rfl rfl)
abbrev cX8_set : ByteArray := prog_19_method_24_code
def yX8_set : MethodName := ⟨RX8, "set", "(III)I"⟩
def dkwX8_set_0 : List UInt8 := [42, 182, 0, 107, 42, 42, 27, 28, 29, 182, 0, 116, 182, 0, 113, 172]
abbrev dktX8_set_0 : List UInt8 := dkwX8_set_0 ++ []
theorem dksX8_set_0 : cX8_set.data.toList.drop 0 = dktX8_set_0 := by decide +kernel
theorem dX8_set_0 : decode cX8_set 0 = .ok (.aload_n 0, 1) := dk_42 (dk_at dksX8_set_0 0 rfl rfl)
theorem dX8_set_1 : decode cX8_set 1 = .ok (.invokevirtual 107, 3) := dk_182 0 107 (dk_at dksX8_set_0 1 rfl rfl)
theorem dX8_set_4 : decode cX8_set 4 = .ok (.aload_n 0, 1) := dk_42 (dk_at dksX8_set_0 4 rfl rfl)
theorem dX8_set_5 : decode cX8_set 5 = .ok (.aload_n 0, 1) := dk_42 (dk_at dksX8_set_0 5 rfl rfl)
theorem dX8_set_6 : decode cX8_set 6 = .ok (.iload_n 1, 1) := dk_27 (dk_at dksX8_set_0 6 rfl rfl)
theorem dX8_set_7 : decode cX8_set 7 = .ok (.iload_n 2, 1) := dk_28 (dk_at dksX8_set_0 7 rfl rfl)
theorem dX8_set_8 : decode cX8_set 8 = .ok (.iload_n 3, 1) := dk_29 (dk_at dksX8_set_0 8 rfl rfl)
theorem dX8_set_9 : decode cX8_set 9 = .ok (.invokevirtual 116, 3) := dk_182 0 116 (dk_at dksX8_set_0 9 rfl rfl)
theorem dX8_set_12 : decode cX8_set 12 = .ok (.invokevirtual 113, 3) := dk_182 0 113 (dk_at dksX8_set_0 12 rfl rfl)
theorem dX8_set_15 : decode cX8_set 15 = .ok (.ireturn, 1) := dk_172 (dk_at dksX8_set_0 15 rfl rfl)
abbrev cX8_turn : ByteArray := prog_19_method_26_code
def yX8_turn : MethodName := ⟨RX8, "turn", "(II)I"⟩
def dkwX8_turn_0 : List UInt8 := [42, 182, 0, 107, 42, 42, 27, 28, 182, 0, 119, 182, 0, 113, 172]
abbrev dktX8_turn_0 : List UInt8 := dkwX8_turn_0 ++ []
theorem dksX8_turn_0 : cX8_turn.data.toList.drop 0 = dktX8_turn_0 := by decide +kernel
theorem dX8_turn_0 : decode cX8_turn 0 = .ok (.aload_n 0, 1) := dk_42 (dk_at dksX8_turn_0 0 rfl rfl)
theorem dX8_turn_1 : decode cX8_turn 1 = .ok (.invokevirtual 107, 3) := dk_182 0 107 (dk_at dksX8_turn_0 1 rfl rfl)
theorem dX8_turn_4 : decode cX8_turn 4 = .ok (.aload_n 0, 1) := dk_42 (dk_at dksX8_turn_0 4 rfl rfl)
theorem dX8_turn_5 : decode cX8_turn 5 = .ok (.aload_n 0, 1) := dk_42 (dk_at dksX8_turn_0 5 rfl rfl)
theorem dX8_turn_6 : decode cX8_turn 6 = .ok (.iload_n 1, 1) := dk_27 (dk_at dksX8_turn_0 6 rfl rfl)
theorem dX8_turn_7 : decode cX8_turn 7 = .ok (.iload_n 2, 1) := dk_28 (dk_at dksX8_turn_0 7 rfl rfl)
theorem dX8_turn_8 : decode cX8_turn 8 = .ok (.invokevirtual 119, 3) := dk_182 0 119 (dk_at dksX8_turn_0 8 rfl rfl)
theorem dX8_turn_11 : decode cX8_turn 11 = .ok (.invokevirtual 113, 3) := dk_182 0 113 (dk_at dksX8_turn_0 11 rfl rfl)
theorem dX8_turn_14 : decode cX8_turn 14 = .ok (.ireturn, 1) := dk_172 (dk_at dksX8_turn_0 14 rfl rfl)
abbrev cX8_paints : ByteArray := prog_19_method_27_code
def yX8_paints : MethodName := ⟨RX8, "paints", "(III)I"⟩
def dkwX8_paints_3 : List UInt8 := [79, 42, 21, 4, 182, 0, 104, 172]
abbrev dktX8_paints_3 : List UInt8 := dkwX8_paints_3 ++ []
def dkwX8_paints_2 : List UInt8 := [16, 40, 21, 5, 96, 29, 79, 132, 5, 1, 167, 255, 223, 42, 180, 0, 9, 16, 7, 92, 46, 21, 4, 96]
abbrev dktX8_paints_2 : List UInt8 := dkwX8_paints_2 ++ dktX8_paints_3
def dkwX8_paints_1 : List UInt8 := [21, 5, 28, 163, 0, 33, 42, 21, 5, 182, 0, 125, 29, 159, 0, 6, 132, 4, 1, 42, 180, 0, 9]
abbrev dktX8_paints_1 : List UInt8 := dkwX8_paints_1 ++ dktX8_paints_2
def dkwX8_paints_0 : List UInt8 := [27, 28, 184, 0, 82, 153, 0, 10, 29, 184, 0, 122, 154, 0, 5, 4, 172, 3, 54, 4, 27, 54, 5]
abbrev dktX8_paints_0 : List UInt8 := dkwX8_paints_0 ++ dktX8_paints_1
theorem dksX8_paints_0 : cX8_paints.data.toList.drop 0 = dktX8_paints_0 := by decide +kernel
theorem dksX8_paints_1 : cX8_paints.data.toList.drop 23 = dktX8_paints_1 := dk_seg dksX8_paints_0 23 rfl rfl
theorem dksX8_paints_2 : cX8_paints.data.toList.drop 46 = dktX8_paints_2 := dk_seg dksX8_paints_1 23 rfl rfl
theorem dksX8_paints_3 : cX8_paints.data.toList.drop 70 = dktX8_paints_3 := dk_seg dksX8_paints_2 24 rfl rfl
theorem dX8_paints_0 : decode cX8_paints 0 = .ok (.iload_n 1, 1) := dk_27 (dk_at dksX8_paints_0 0 rfl rfl)
theorem dX8_paints_1 : decode cX8_paints 1 = .ok (.iload_n 2, 1) := dk_28 (dk_at dksX8_paints_0 1 rfl rfl)
theorem dX8_paints_2 : decode cX8_paints 2 = .ok (.invokestatic 82, 3) := dk_184 0 82 (dk_at dksX8_paints_0 2 rfl rfl)
theorem dX8_paints_5 : decode cX8_paints 5 = .ok (.ifCond .eq 10, 3) := dk_153 0 10 (dk_at dksX8_paints_0 5 rfl rfl)
theorem dX8_paints_8 : decode cX8_paints 8 = .ok (.iload_n 3, 1) := dk_29 (dk_at dksX8_paints_0 8 rfl rfl)
theorem dX8_paints_9 : decode cX8_paints 9 = .ok (.invokestatic 122, 3) := dk_184 0 122 (dk_at dksX8_paints_0 9 rfl rfl)
theorem dX8_paints_12 : decode cX8_paints 12 = .ok (.ifCond .ne 5, 3) := dk_154 0 5 (dk_at dksX8_paints_0 12 rfl rfl)
theorem dX8_paints_15 : decode cX8_paints 15 = .ok (.iconst 1, 1) := dk_4 (dk_at dksX8_paints_0 15 rfl rfl)
theorem dX8_paints_16 : decode cX8_paints 16 = .ok (.ireturn, 1) := dk_172 (dk_at dksX8_paints_0 16 rfl rfl)
theorem dX8_paints_17 : decode cX8_paints 17 = .ok (.iconst 0, 1) := dk_3 (dk_at dksX8_paints_0 17 rfl rfl)
theorem dX8_paints_18 : decode cX8_paints 18 = .ok (.istore 4, 2) := dk_54 4 (dk_at dksX8_paints_0 18 rfl rfl)
theorem dX8_paints_20 : decode cX8_paints 20 = .ok (.iload_n 1, 1) := dk_27 (dk_at dksX8_paints_0 20 rfl rfl)
theorem dX8_paints_21 : decode cX8_paints 21 = .ok (.istore 5, 2) := dk_54 5 (dk_at dksX8_paints_0 21 rfl rfl)
theorem dX8_paints_23 : decode cX8_paints 23 = .ok (.iload 5, 2) := dk_21 5 (dk_at dksX8_paints_1 0 rfl rfl)
theorem dX8_paints_25 : decode cX8_paints 25 = .ok (.iload_n 2, 1) := dk_28 (dk_at dksX8_paints_1 2 rfl rfl)
theorem dX8_paints_26 : decode cX8_paints 26 = .ok (.if_icmp .gt 33, 3) := dk_163 0 33 (dk_at dksX8_paints_1 3 rfl rfl)
theorem dX8_paints_29 : decode cX8_paints 29 = .ok (.aload_n 0, 1) := dk_42 (dk_at dksX8_paints_1 6 rfl rfl)
theorem dX8_paints_30 : decode cX8_paints 30 = .ok (.iload 5, 2) := dk_21 5 (dk_at dksX8_paints_1 7 rfl rfl)
theorem dX8_paints_32 : decode cX8_paints 32 = .ok (.invokevirtual 125, 3) := dk_182 0 125 (dk_at dksX8_paints_1 9 rfl rfl)
theorem dX8_paints_35 : decode cX8_paints 35 = .ok (.iload_n 3, 1) := dk_29 (dk_at dksX8_paints_1 12 rfl rfl)
theorem dX8_paints_36 : decode cX8_paints 36 = .ok (.if_icmp .eq 6, 3) := dk_159 0 6 (dk_at dksX8_paints_1 13 rfl rfl)
theorem dX8_paints_39 : decode cX8_paints 39 = .ok (.iinc 4 1, 3) := dk_132 4 1 (dk_at dksX8_paints_1 16 rfl rfl)
theorem dX8_paints_42 : decode cX8_paints 42 = .ok (.aload_n 0, 1) := dk_42 (dk_at dksX8_paints_1 19 rfl rfl)
theorem dX8_paints_43 : decode cX8_paints 43 = .ok (.getfield 9, 3) := dk_180 0 9 (dk_at dksX8_paints_1 20 rfl rfl)
theorem dX8_paints_46 : decode cX8_paints 46 = .ok (.bipush 40, 2) := dk_16 40 (dk_at dksX8_paints_2 0 rfl rfl)
theorem dX8_paints_48 : decode cX8_paints 48 = .ok (.iload 5, 2) := dk_21 5 (dk_at dksX8_paints_2 2 rfl rfl)
theorem dX8_paints_50 : decode cX8_paints 50 = .ok (.iadd, 1) := dk_96 (dk_at dksX8_paints_2 4 rfl rfl)
theorem dX8_paints_51 : decode cX8_paints 51 = .ok (.iload_n 3, 1) := dk_29 (dk_at dksX8_paints_2 5 rfl rfl)
theorem dX8_paints_52 : decode cX8_paints 52 = .ok (.iastore, 1) := dk_79 (dk_at dksX8_paints_2 6 rfl rfl)
theorem dX8_paints_53 : decode cX8_paints 53 = .ok (.iinc 5 1, 3) := dk_132 5 1 (dk_at dksX8_paints_2 7 rfl rfl)
theorem dX8_paints_56 : decode cX8_paints 56 = .ok (.goto (-33), 3) := dk_167 255 223 (dk_at dksX8_paints_2 10 rfl rfl)
theorem dX8_paints_59 : decode cX8_paints 59 = .ok (.aload_n 0, 1) := dk_42 (dk_at dksX8_paints_2 13 rfl rfl)
theorem dX8_paints_60 : decode cX8_paints 60 = .ok (.getfield 9, 3) := dk_180 0 9 (dk_at dksX8_paints_2 14 rfl rfl)
theorem dX8_paints_63 : decode cX8_paints 63 = .ok (.bipush 7, 2) := dk_16 7 (dk_at dksX8_paints_2 17 rfl rfl)
theorem dX8_paints_65 : decode cX8_paints 65 = .ok (.dup2, 1) := dk_92 (dk_at dksX8_paints_2 19 rfl rfl)
theorem dX8_paints_66 : decode cX8_paints 66 = .ok (.iaload, 1) := dk_46 (dk_at dksX8_paints_2 20 rfl rfl)
theorem dX8_paints_67 : decode cX8_paints 67 = .ok (.iload 4, 2) := dk_21 4 (dk_at dksX8_paints_2 21 rfl rfl)
theorem dX8_paints_69 : decode cX8_paints 69 = .ok (.iadd, 1) := dk_96 (dk_at dksX8_paints_2 23 rfl rfl)
theorem dX8_paints_70 : decode cX8_paints 70 = .ok (.iastore, 1) := dk_79 (dk_at dksX8_paints_3 0 rfl rfl)
theorem dX8_paints_71 : decode cX8_paints 71 = .ok (.aload_n 0, 1) := dk_42 (dk_at dksX8_paints_3 1 rfl rfl)
theorem dX8_paints_72 : decode cX8_paints 72 = .ok (.iload 4, 2) := dk_21 4 (dk_at dksX8_paints_3 2 rfl rfl)
theorem dX8_paints_74 : decode cX8_paints 74 = .ok (.invokevirtual 104, 3) := dk_182 0 104 (dk_at dksX8_paints_3 4 rfl rfl)
theorem dX8_paints_77 : decode cX8_paints 77 = .ok (.ireturn, 1) := dk_172 (dk_at dksX8_paints_3 7 rfl rfl)
abbrev cX8_paint : ByteArray := prog_19_method_28_code
def yX8_paint : MethodName := ⟨RX8, "paint", "(III)I"⟩
def dkwX8_paint_0 : List UInt8 := [42, 182, 0, 107, 42, 42, 27, 28, 29, 182, 0, 128, 182, 0, 113, 172]
abbrev dktX8_paint_0 : List UInt8 := dkwX8_paint_0 ++ []
theorem dksX8_paint_0 : cX8_paint.data.toList.drop 0 = dktX8_paint_0 := by decide +kernel
theorem dX8_paint_0 : decode cX8_paint 0 = .ok (.aload_n 0, 1) := dk_42 (dk_at dksX8_paint_0 0 rfl rfl)
theorem dX8_paint_1 : decode cX8_paint 1 = .ok (.invokevirtual 107, 3) := dk_182 0 107 (dk_at dksX8_paint_0 1 rfl rfl)
theorem dX8_paint_4 : decode cX8_paint 4 = .ok (.aload_n 0, 1) := dk_42 (dk_at dksX8_paint_0 4 rfl rfl)
theorem dX8_paint_5 : decode cX8_paint 5 = .ok (.aload_n 0, 1) := dk_42 (dk_at dksX8_paint_0 5 rfl rfl)
theorem dX8_paint_6 : decode cX8_paint 6 = .ok (.iload_n 1, 1) := dk_27 (dk_at dksX8_paint_0 6 rfl rfl)
theorem dX8_paint_7 : decode cX8_paint 7 = .ok (.iload_n 2, 1) := dk_28 (dk_at dksX8_paint_0 7 rfl rfl)
theorem dX8_paint_8 : decode cX8_paint 8 = .ok (.iload_n 3, 1) := dk_29 (dk_at dksX8_paint_0 8 rfl rfl)
theorem dX8_paint_9 : decode cX8_paint 9 = .ok (.invokevirtual 128, 3) := dk_182 0 128 (dk_at dksX8_paint_0 9 rfl rfl)
theorem dX8_paint_12 : decode cX8_paint 12 = .ok (.invokevirtual 113, 3) := dk_182 0 113 (dk_at dksX8_paint_0 12 rfl rfl)
theorem dX8_paint_15 : decode cX8_paint 15 = .ok (.ireturn, 1) := dk_172 (dk_at dksX8_paint_0 15 rfl rfl)
theorem q2335 : (Jvm.Cond.methodLink "SpanRulerModel" (78 : Nat) ({ cls := "SpanRulerModel", name := "by", desc := "(III)I" } : Jvm.MethodName)) ∈ lw_all := lw_g (lw_at lw_m10 115 rfl) rfl
theorem q2337 : (Jvm.Cond.code ({ cls := "SpanRulerModel", name := "by", desc := "(III)I" } : Jvm.MethodName) prog_19_method_17_code (3 : Nat) (Option.some Jvm.ClassFile.FieldType.int)) ∈ lw_all := lw_g (lw_at lw_m10 117 rfl) rfl
theorem q2336 : (Jvm.Cond.static ({ cls := "SpanRulerModel", name := "by", desc := "(III)I" } : Jvm.MethodName)) ∈ lw_all := lw_g (lw_at lw_m10 116 rfl) rfl
theorem q2315 : (Jvm.Cond.methodLink "SpanRulerModel" (82 : Nat) ({ cls := "SpanRulerModel", name := "isSpan", desc := "(II)Z" } : Jvm.MethodName)) ∈ lw_all := lw_g (lw_at lw_m10 95 rfl) rfl
theorem q2317 : (Jvm.Cond.code ({ cls := "SpanRulerModel", name := "isSpan", desc := "(II)Z" } : Jvm.MethodName) prog_19_method_12_code (2 : Nat) (Option.some Jvm.ClassFile.FieldType.boolean)) ∈ lw_all := lw_g (lw_at lw_m10 97 rfl) rfl
theorem q2316 : (Jvm.Cond.static ({ cls := "SpanRulerModel", name := "isSpan", desc := "(II)Z" } : Jvm.MethodName)) ∈ lw_all := lw_g (lw_at lw_m10 96 rfl) rfl
theorem q2324 : (Jvm.Cond.methodLink "SpanRulerModel" (86 : Nat) ({ cls := "SpanRulerModel", name := "isNumber", desc := "(II)Z" } : Jvm.MethodName)) ∈ lw_all := lw_g (lw_at lw_m10 104 rfl) rfl
theorem q2326 : (Jvm.Cond.code ({ cls := "SpanRulerModel", name := "isNumber", desc := "(II)Z" } : Jvm.MethodName) prog_19_method_20_code (2 : Nat) (Option.some Jvm.ClassFile.FieldType.boolean)) ∈ lw_all := lw_g (lw_at lw_m10 106 rfl) rfl
theorem q2325 : (Jvm.Cond.static ({ cls := "SpanRulerModel", name := "isNumber", desc := "(II)Z" } : Jvm.MethodName)) ∈ lw_all := lw_g (lw_at lw_m10 105 rfl) rfl
theorem q2327 : (Jvm.Cond.methodLink "SpanRulerModel" (89 : Nat) ({ cls := "SpanRulerModel", name := "leaving", desc := "(IIII)I" } : Jvm.MethodName)) ∈ lw_all := lw_g (lw_at lw_m10 107 rfl) rfl
theorem q2330 : (Jvm.Cond.code ({ cls := "SpanRulerModel", name := "leaving", desc := "(IIII)I" } : Jvm.MethodName) prog_19_method_18_code (6 : Nat) (Option.some Jvm.ClassFile.FieldType.int)) ∈ lw_all := lw_g (lw_at lw_m10 110 rfl) rfl
theorem q2329 : (Jvm.Cond.instanceMethod ({ cls := "SpanRulerModel", name := "leaving", desc := "(IIII)I" } : Jvm.MethodName)) ∈ lw_all := lw_g (lw_at lw_m10 109 rfl) rfl
theorem q2342 : (Jvm.Cond.methodLink "SpanRulerModel" (97 : Nat) ({ cls := "SpanRulerModel", name := "acts", desc := "(IIII)V" } : Jvm.MethodName)) ∈ lw_all := lw_g (lw_at lw_m10 122 rfl) rfl
theorem q2345 : (Jvm.Cond.code ({ cls := "SpanRulerModel", name := "acts", desc := "(IIII)V" } : Jvm.MethodName) prog_19_method_19_code (6 : Nat) (Option.none : Option Jvm.ClassFile.FieldType)) ∈ lw_all := lw_g (lw_at lw_m10 125 rfl) rfl
theorem q2344 : (Jvm.Cond.instanceMethod ({ cls := "SpanRulerModel", name := "acts", desc := "(IIII)V" } : Jvm.MethodName)) ∈ lw_all := lw_g (lw_at lw_m10 124 rfl) rfl
theorem q2346 : (Jvm.Cond.methodLink "SpanRulerModel" (101 : Nat) ({ cls := "SpanRulerModel", name := "sumOfSpan", desc := "(II)I" } : Jvm.MethodName)) ∈ lw_all := lw_g (lw_at lw_m10 126 rfl) rfl
theorem q2349 : (Jvm.Cond.code ({ cls := "SpanRulerModel", name := "sumOfSpan", desc := "(II)I" } : Jvm.MethodName) prog_19_method_16_code (5 : Nat) (Option.some Jvm.ClassFile.FieldType.int)) ∈ lw_all := lw_g (lw_at lw_m10 129 rfl) rfl
theorem q2348 : (Jvm.Cond.instanceMethod ({ cls := "SpanRulerModel", name := "sumOfSpan", desc := "(II)I" } : Jvm.MethodName)) ∈ lw_all := lw_g (lw_at lw_m10 128 rfl) rfl
theorem q2350 : (Jvm.Cond.methodLink "SpanRulerModel" (104 : Nat) ({ cls := "SpanRulerModel", name := "does", desc := "(I)I" } : Jvm.MethodName)) ∈ lw_all := lw_g (lw_at lw_m10 130 rfl) rfl
theorem q2353 : (Jvm.Cond.code ({ cls := "SpanRulerModel", name := "does", desc := "(I)I" } : Jvm.MethodName) prog_19_method_8_code (2 : Nat) (Option.some Jvm.ClassFile.FieldType.int)) ∈ lw_all := lw_g (lw_at lw_m10 133 rfl) rfl
theorem q2352 : (Jvm.Cond.instanceMethod ({ cls := "SpanRulerModel", name := "does", desc := "(I)I" } : Jvm.MethodName)) ∈ lw_all := lw_g (lw_at lw_m10 132 rfl) rfl
theorem q2338 : (Jvm.Cond.methodLink "SpanRulerModel" (93 : Nat) ({ cls := "SpanRulerModel", name := "refuses", desc := "(II)I" } : Jvm.MethodName)) ∈ lw_all := lw_g (lw_at lw_m10 118 rfl) rfl
theorem q2341 : (Jvm.Cond.code ({ cls := "SpanRulerModel", name := "refuses", desc := "(II)I" } : Jvm.MethodName) prog_19_method_10_code (3 : Nat) (Option.some Jvm.ClassFile.FieldType.int)) ∈ lw_all := lw_g (lw_at lw_m10 121 rfl) rfl
theorem q2340 : (Jvm.Cond.instanceMethod ({ cls := "SpanRulerModel", name := "refuses", desc := "(II)I" } : Jvm.MethodName)) ∈ lw_all := lw_g (lw_at lw_m10 120 rfl) rfl
theorem q2362 : (Jvm.Cond.methodLink "SpanRulerModel" (58 : Nat) ({ cls := "SpanRulerModel", name := "raises", desc := "(I)I" } : Jvm.MethodName)) ∈ lw_all := lw_g (lw_at lw_m10 142 rfl) rfl
theorem q2365 : (Jvm.Cond.code ({ cls := "SpanRulerModel", name := "raises", desc := "(I)I" } : Jvm.MethodName) prog_19_method_3_code (2 : Nat) (Option.some Jvm.ClassFile.FieldType.int)) ∈ lw_all := lw_g (lw_at lw_m10 145 rfl) rfl
theorem q2364 : (Jvm.Cond.instanceMethod ({ cls := "SpanRulerModel", name := "raises", desc := "(I)I" } : Jvm.MethodName)) ∈ lw_all := lw_g (lw_at lw_m10 144 rfl) rfl
theorem q2358 : (Jvm.Cond.methodLink "SpanRulerModel" (54 : Nat) ({ cls := "SpanRulerModel", name := "keeps", desc := "(I)I" } : Jvm.MethodName)) ∈ lw_all := lw_g (lw_at lw_m10 138 rfl) rfl
theorem q2361 : (Jvm.Cond.code ({ cls := "SpanRulerModel", name := "keeps", desc := "(I)I" } : Jvm.MethodName) prog_19_method_7_code (3 : Nat) (Option.some Jvm.ClassFile.FieldType.int)) ∈ lw_all := lw_g (lw_at lw_m10 141 rfl) rfl
theorem q2360 : (Jvm.Cond.instanceMethod ({ cls := "SpanRulerModel", name := "keeps", desc := "(I)I" } : Jvm.MethodName)) ∈ lw_all := lw_g (lw_at lw_m10 140 rfl) rfl
theorem q2307 : (Jvm.Cond.methodLink "SpanRulerModel" (107 : Nat) ({ cls := "SpanRulerModel", name := "tries", desc := "()V" } : Jvm.MethodName)) ∈ lw_all := lw_g (lw_at lw_m10 87 rfl) rfl
theorem q2310 : (Jvm.Cond.code ({ cls := "SpanRulerModel", name := "tries", desc := "()V" } : Jvm.MethodName) prog_19_method_5_code (2 : Nat) (Option.none : Option Jvm.ClassFile.FieldType)) ∈ lw_all := lw_g (lw_at lw_m10 90 rfl) rfl
theorem q2309 : (Jvm.Cond.instanceMethod ({ cls := "SpanRulerModel", name := "tries", desc := "()V" } : Jvm.MethodName)) ∈ lw_all := lw_g (lw_at lw_m10 89 rfl) rfl
theorem q2311 : (Jvm.Cond.methodLink "SpanRulerModel" (110 : Nat) ({ cls := "SpanRulerModel", name := "adds", desc := "(III)I" } : Jvm.MethodName)) ∈ lw_all := lw_g (lw_at lw_m10 91 rfl) rfl
theorem q2314 : (Jvm.Cond.code ({ cls := "SpanRulerModel", name := "adds", desc := "(III)I" } : Jvm.MethodName) prog_19_method_21_code (5 : Nat) (Option.some Jvm.ClassFile.FieldType.int)) ∈ lw_all := lw_g (lw_at lw_m10 94 rfl) rfl
theorem q2313 : (Jvm.Cond.instanceMethod ({ cls := "SpanRulerModel", name := "adds", desc := "(III)I" } : Jvm.MethodName)) ∈ lw_all := lw_g (lw_at lw_m10 93 rfl) rfl
theorem q2354 : (Jvm.Cond.methodLink "SpanRulerModel" (113 : Nat) ({ cls := "SpanRulerModel", name := "ends", desc := "(I)I" } : Jvm.MethodName)) ∈ lw_all := lw_g (lw_at lw_m10 134 rfl) rfl
theorem q2357 : (Jvm.Cond.code ({ cls := "SpanRulerModel", name := "ends", desc := "(I)I" } : Jvm.MethodName) prog_19_method_9_code (2 : Nat) (Option.some Jvm.ClassFile.FieldType.int)) ∈ lw_all := lw_g (lw_at lw_m10 137 rfl) rfl
theorem q2356 : (Jvm.Cond.instanceMethod ({ cls := "SpanRulerModel", name := "ends", desc := "(I)I" } : Jvm.MethodName)) ∈ lw_all := lw_g (lw_at lw_m10 136 rfl) rfl
theorem q2370 : (Jvm.Cond.methodLink "SpanRulerModel" (116 : Nat) ({ cls := "SpanRulerModel", name := "sets", desc := "(III)I" } : Jvm.MethodName)) ∈ lw_all := lw_g (lw_at lw_m10 150 rfl) rfl
theorem q2373 : (Jvm.Cond.code ({ cls := "SpanRulerModel", name := "sets", desc := "(III)I" } : Jvm.MethodName) prog_19_method_23_code (5 : Nat) (Option.some Jvm.ClassFile.FieldType.int)) ∈ lw_all := lw_g (lw_at lw_m10 153 rfl) rfl
theorem q2372 : (Jvm.Cond.instanceMethod ({ cls := "SpanRulerModel", name := "sets", desc := "(III)I" } : Jvm.MethodName)) ∈ lw_all := lw_g (lw_at lw_m10 152 rfl) rfl
theorem q2378 : (Jvm.Cond.methodLink "SpanRulerModel" (119 : Nat) ({ cls := "SpanRulerModel", name := "turns", desc := "(II)I" } : Jvm.MethodName)) ∈ lw_all := lw_g (lw_at lw_m10 158 rfl) rfl
theorem q2381 : (Jvm.Cond.code ({ cls := "SpanRulerModel", name := "turns", desc := "(II)I" } : Jvm.MethodName) prog_19_method_25_code (3 : Nat) (Option.some Jvm.ClassFile.FieldType.int)) ∈ lw_all := lw_g (lw_at lw_m10 161 rfl) rfl
theorem q2380 : (Jvm.Cond.instanceMethod ({ cls := "SpanRulerModel", name := "turns", desc := "(II)I" } : Jvm.MethodName)) ∈ lw_all := lw_g (lw_at lw_m10 160 rfl) rfl
theorem q2390 : (Jvm.Cond.methodLink "SpanRulerModel" (122 : Nat) ({ cls := "SpanRulerModel", name := "isColour", desc := "(I)Z" } : Jvm.MethodName)) ∈ lw_all := lw_g (lw_at lw_m10 170 rfl) rfl
theorem q2392 : (Jvm.Cond.code ({ cls := "SpanRulerModel", name := "isColour", desc := "(I)Z" } : Jvm.MethodName) prog_19_method_13_code (1 : Nat) (Option.some Jvm.ClassFile.FieldType.boolean)) ∈ lw_all := lw_g (lw_at lw_m10 172 rfl) rfl
theorem q2391 : (Jvm.Cond.static ({ cls := "SpanRulerModel", name := "isColour", desc := "(I)Z" } : Jvm.MethodName)) ∈ lw_all := lw_g (lw_at lw_m10 171 rfl) rfl
theorem q2393 : (Jvm.Cond.methodLink "SpanRulerModel" (125 : Nat) ({ cls := "SpanRulerModel", name := "colour", desc := "(I)I" } : Jvm.MethodName)) ∈ lw_all := lw_g (lw_at lw_m10 173 rfl) rfl
theorem q2396 : (Jvm.Cond.code ({ cls := "SpanRulerModel", name := "colour", desc := "(I)I" } : Jvm.MethodName) prog_19_method_15_code (2 : Nat) (Option.some Jvm.ClassFile.FieldType.int)) ∈ lw_all := lw_g (lw_at lw_m10 176 rfl) rfl
theorem q2395 : (Jvm.Cond.instanceMethod ({ cls := "SpanRulerModel", name := "colour", desc := "(I)I" } : Jvm.MethodName)) ∈ lw_all := lw_g (lw_at lw_m10 175 rfl) rfl
theorem q2386 : (Jvm.Cond.methodLink "SpanRulerModel" (128 : Nat) ({ cls := "SpanRulerModel", name := "paints", desc := "(III)I" } : Jvm.MethodName)) ∈ lw_all := lw_g (lw_at lw_m10 166 rfl) rfl
theorem q2389 : (Jvm.Cond.code ({ cls := "SpanRulerModel", name := "paints", desc := "(III)I" } : Jvm.MethodName) prog_19_method_27_code (6 : Nat) (Option.some Jvm.ClassFile.FieldType.int)) ∈ lw_all := lw_g (lw_at lw_m10 169 rfl) rfl
theorem q2388 : (Jvm.Cond.instanceMethod ({ cls := "SpanRulerModel", name := "paints", desc := "(III)I" } : Jvm.MethodName)) ∈ lw_all := lw_g (lw_at lw_m10 168 rfl) rfl
theorem m_sum (l : Launch) (G : GE) {h0 : AH} {ad : Nat → Nat} (hA : MAd ad) (s : MS) (a : Int32) (b : Int32) (y0 : isSp a b = true) : GM l G yX8_sumOfSpan (ws_ yX8_sumOfSpan cX8_sumOfSpan 5 (some .int)) 2 [.ref (ad 20), .int a, .int b] (mput G h0 ad s) (0) (PV (.int (mSum s (nn a) (sp a b))) (mput G h0 ad s)) := by
  obtain ⟨e1, e2, h3, h4⟩ := isSp_n y0
  have t := m_sumN l G (h0 := h0) hA s (nn a) (nn b) (by omega) h4
  rw [← e1, ← e2] at t
  exact t
theorem lvF_t {R : Nat → Int32} {k x F : Int32} {n c : Nat} (h : inR (mby k (R (8 + c)) x) (-999) 999 = true) (g : lvF R k x (n + 1) c = F) : lvF R k x n (c + 1) = F := by
  rw [lvF, h] at g; exact g
theorem lvF_f {R : Nat → Int32} {k x F : Int32} {n c : Nat} (h : inR (mby k (R (8 + c)) x) (-999) 999 = false) (g : lvF R k x (n + 1) c = F) : nI c = F := by
  rw [lvF, h] at g; exact g
theorem acl_I (k x : Int32) : ∀ (n c : Nat) (t : MS), (acl k x n c t).I = t.I := by
  intro n
  induction n with
  | zero => intro c t; rfl
  | succ n ih => intro c t; exact (ih _ _).trans rfl
theorem pal_I (x : Int32) : ∀ (n c : Nat) (m : Int32) (t : MS), (pal x n c m t).2.I = t.I := by
  intro n
  induction n with
  | zero => intro c m t; rfl
  | succ n ih => intro c m t; exact (ih _ _ _).trans rfl
theorem mTries_u {s : MS} (h : mUo s) : mUo (mTries s) := mUo_I (cpl_I _ _ _ _ _ _ _ 4) h
theorem mRef_u {s : MS} {a b : Int32} (h : mUo s) : mUo (mRef s a b) := mUo_I rfl h
theorem mActs_I {k x : Int32} {n c : Nat} {s : MS} : (mActs k x n c s).I = s.I := acl_I _ _ _ _ _
theorem mActs_4 {k x v : Int32} {n c : Nat} {s : MS} : (mI (mActs k x n c s) 19 v).I 4 = s.I 4 := congrFun mActs_I 4
theorem mAdds_u {s : MS} {a b x : Int32} (h : mUo s) : mUo (mAdds s a b x).2 := by
  unfold mAdds
  split
  · split
    · exact mRef_u h
    · exact mUo_I mActs_4 h
  · exact h
theorem mSets_u {s : MS} {a b x : Int32} (h : mUo s) : mUo (mSets s a b x).2 := by
  unfold mSets
  split
  · exact mUo_I mActs_4 h
  · exact h
theorem mTurns_u {s : MS} {a b : Int32} (h : mUo s) : mUo (mTurns s a b).2 := by
  unfold mTurns
  split
  · exact mUo_I mActs_4 h
  · exact h
theorem mPaints_u {s : MS} {a b x : Int32} (h : mUo s) : mUo (mPaints s a b x).2 := by
  unfold mPaints
  split
  · exact mUo_I (congrFun (pal_I x _ _ _ _) 4) h
  · exact h
theorem m_leavingN (l : Launch) (G : GE) {h0 : AH} {ad : Nat → Nat} (hA : MAd ad) (s : MS) (k : Int32) (a : Nat) (b : Nat) (x : Int32) (y0 : a ≤ b + 1) (y1 : b < 32) : GM l G yX8_leaving (ws_ yX8_leaving cX8_leaving 6 (some .int)) 2 [.ref (ad 20), .int k, .int (nI a), .int (nI b), .int x] (mput G h0 ad s) (0) (PV (.int (lvF (MS.A s 0) k x (b + 1 - a) a)) (mput G h0 ad s)) := by
  refine GM.of (by decide) (dk rfl) ?_
  intro X eL eG eh ok fn
  subst eL; subst eG
  show GW X _ 0 0 [some (.ref (ad 20)), some (.int k), some (.int (nI a)), some (.int (nI b)), some (.int x), none] []
  refine g_iload_n ok dX8_leaving_0 rfl ?_
  refine g_istore ok dX8_leaving_1 (ls1 := [some (.ref (ad 20)), some (.int k), some (.int (nI a)), some (.int (nI b)), some (.int x), some (.int (nI a))]) (dl rfl) rfl ?_
  obtain ⟨F, hF⟩ : ∃ F : Int32, lvF (MS.A s 0) k x (b + 1 - a) a = F := ⟨_, rfl⟩
  rw [hF] at fn
  have lp : ∀ (n : Nat) (c : Nat), (c + n = b + 1 ∧ c ≤ b + 1) → (lvF (MS.A s 0) k x n c = F) → GW X (mput X.G h0 ad s) 0 3 [some (.ref (ad 20)), some (.int k), some (.int (nI a)), some (.int (nI b)), some (.int x), some (.int (nI c))] [] := by
    intro n
    induction n with
    | zero =>
      intro c g0 g1
      refine g_iload ok dX8_leaving_3 rfl ?_
      refine g_iload_n ok dX8_leaving_5 rfl ?_
      refine g_icmp_gt ok (tgt := 42) dX8_leaving_6 (by decide) (fun _ => ?_) (fun c_ => absurd (nI_lt (a := b) (b := c) (by omega) (by omega)) c_)
      refine g_iconst ok (v := -1) dX8_leaving_42 rfl ?_
      exact g_iret ok fn rfl dX8_leaving_43 (pv_i g1 rfl) (dk rfl)
    | succ n ih =>
      intro c g0 g1
      refine g_iload ok dX8_leaving_3 rfl ?_
      refine g_iload_n ok dX8_leaving_5 rfl ?_
      refine g_icmp_gt ok (tgt := 42) dX8_leaving_6 (by decide) (fun c_ => absurd c_ (nI_nlt (a := b) (b := c) (by omega) (by omega))) (fun _ => ?_)
      refine g_iload_n ok dX8_leaving_9 rfl ?_
      refine g_aload_n ok dX8_leaving_10 rfl ?_
      refine g_iload ok dX8_leaving_11 rfl ?_
      refine g_callV ok q2331 q2333 qs26 q75 q2334 (m_recv ok hA) dX8_leaving_13 (m_number X.l X.G hA (h0 := h0) s c (by omega)) (nm_ (by decide : nmb _ 1 = true)) (dl rfl) (dk rfl) rfl rfl (dk rfl) (dk rfl) (kV ?_) xV
      refine g_iload ok dX8_leaving_16 rfl ?_
      refine g_callS ok q2335 q2336 q75 q2337 dX8_leaving_18 (m_by X.l X.G _ k (MS.A s 0 (8 + c)) x) (nm_ (by decide : nmb _ 3 = true)) (dl rfl) (dk rfl) rfl rfl (dk rfl) (dk rfl) (kV ?_) xV
      refine g_sipush ok (v := -999) dX8_leaving_21 rfl ?_
      refine g_sipush ok (v := 999) dX8_leaving_24 rfl ?_
      refine g_callS ok q2321 q2322 q75 q2323 dX8_leaving_27 (m_in X.l X.G _ (mby k (MS.A s 0 (8 + c)) x) (-999) 999) (nm_ (by decide : nmb _ 3 = true)) (dl rfl) (dk rfl) rfl rfl (dk rfl) (dk rfl) (kV ?_) xV
      refine g_if_ne ok (tgt := 36) dX8_leaving_30 (by decide) (fun c30 => ?_) (fun c30 => ?_)
      · have c30' := bI_n c30
        refine g_iincN ok dX8_leaving_36 (c := c) rfl rfl (ls1 := [some (.ref (ad 20)), some (.int k), some (.int (nI a)), some (.int (nI b)), some (.int x), some (.int (nI (c + 1)))]) rfl ?_
        refine g_goto ok dX8_leaving_39 (tgt := 3) (by decide) ?_
        exact ih _ (by omega) (lvF_t c30' g1)
      · have c30' := bI_e c30
        refine g_iload ok dX8_leaving_33 rfl ?_
        exact g_iret ok fn rfl dX8_leaving_35 (pv_i (lvF_f c30' g1) rfl) (dk rfl)
  exact lp (b + 1 - a) a (by omega) hF
theorem m_leaving (l : Launch) (G : GE) {h0 : AH} {ad : Nat → Nat} (hA : MAd ad) (s : MS) (k : Int32) (a : Int32) (b : Int32) (x : Int32) (y0 : isSp a b = true) : GM l G yX8_leaving (ws_ yX8_leaving cX8_leaving 6 (some .int)) 2 [.ref (ad 20), .int k, .int a, .int b, .int x] (mput G h0 ad s) (0) (PV (.int (lvF (MS.A s 0) k x (sp a b) (nn a))) (mput G h0 ad s)) := by
  obtain ⟨e1, e2, h3, h4⟩ := isSp_n y0
  have t := m_leavingN l G (h0 := h0) hA s k (nn a) (nn b) x (by omega) h4
  rw [← e1, ← e2] at t
  exact t
theorem m_actsN (l : Launch) (G : GE) {h0 : AH} {ad : Nat → Nat} (hA : MAd ad) (s : MS) (k : Int32) (a : Nat) (b : Nat) (x : Int32) (y0 : a ≤ b + 1) (y1 : b < 32) : GM l G yX8_acts (ws_ yX8_acts cX8_acts 6 none) 2 [.ref (ad 20), .int k, .int (nI a), .int (nI b), .int x] (mput G h0 ad s) (0) (PN (mput G h0 ad (mActs k x (b + 1 - a) a s))) := by
  refine GM.of (by decide) (dk rfl) ?_
  intro X eL eG eh ok fn
  subst eL; subst eG
  show GW X _ 0 0 [some (.ref (ad 20)), some (.int k), some (.int (nI a)), some (.int (nI b)), some (.int x), none] []
  refine g_iload_n ok dX8_acts_0 rfl ?_
  refine g_istore ok dX8_acts_1 (ls1 := [some (.ref (ad 20)), some (.int k), some (.int (nI a)), some (.int (nI b)), some (.int x), some (.int (nI a))]) (dl rfl) rfl ?_
  obtain ⟨F, hF⟩ : ∃ F : MS, acl k x (b + 1 - a) a s = F := ⟨_, rfl⟩
  simp only [mActs] at fn
  rw [hF] at fn
  have lp : ∀ (n : Nat) (c : Nat) (t : MS), (c + n = b + 1 ∧ c ≤ b + 1) → (acl k x n c t = F) → GW X (mput X.G h0 ad t) 0 3 [some (.ref (ad 20)), some (.int k), some (.int (nI a)), some (.int (nI b)), some (.int x), some (.int (nI c))] [] := by
    intro n
    induction n with
    | zero =>
      intro c t g0 g1
      refine g_iload ok dX8_acts_3 rfl ?_
      refine g_iload_n ok dX8_acts_5 rfl ?_
      refine g_icmp_gt ok (tgt := 37) dX8_acts_6 (by decide) (fun _ => ?_) (fun c_ => absurd (nI_lt (a := b) (b := c) (by omega) (by omega)) c_)
      have g1 : t = F := g1
      subst g1
      refine g_aload_n ok dX8_acts_37 rfl ?_
      refine m_get ok hA 0 q2235 (by decide) dX8_acts_38 (v := .ref (ad 0)) rfl ?_
      refine g_bipush ok (v := 6) dX8_acts_41 rfl ?_
      refine g_dup2_11 ok dX8_acts_43 rfl rfl ?_
      refine m_ald ok hA 0 6 (v := (MS.A t 0 6)) (by decide) dX8_acts_44 rfl (by decide) rfl ?_
      refine g_iconst ok (v := 1) dX8_acts_45 rfl ?_
      refine g_iadd ok dX8_acts_46 ?_
      refine m_ast ok hA 0 6 (by decide) dX8_acts_47 rfl (by decide) ?_
      exact g_vret ok fn rfl dX8_acts_48 (pn_i rfl) (dk rfl)
    | succ n ih =>
      intro c t g0 g1
      refine g_iload ok dX8_acts_3 rfl ?_
      refine g_iload_n ok dX8_acts_5 rfl ?_
      refine g_icmp_gt ok (tgt := 37) dX8_acts_6 (by decide) (fun c_ => absurd c_ (nI_nlt (a := b) (b := c) (by omega) (by omega))) (fun _ => ?_)
      refine g_aload_n ok dX8_acts_9 rfl ?_
      refine m_get ok hA 0 q2235 (by decide) dX8_acts_10 (v := .ref (ad 0)) rfl ?_
      refine g_bipush ok (v := 8) dX8_acts_13 rfl ?_
      refine g_iload ok dX8_acts_15 rfl ?_
      refine g_iaddN ok dX8_acts_17 (c := (8 + c)) (a := 8) (b := c) rfl rfl rfl ?_
      refine g_iload_n ok dX8_acts_18 rfl ?_
      refine g_aload_n ok dX8_acts_19 rfl ?_
      refine g_iload ok dX8_acts_20 rfl ?_
      refine g_callV ok q2331 q2333 qs26 q75 q2334 (m_recv ok hA) dX8_acts_22 (m_number X.l X.G hA (h0 := h0) t c (by omega)) (nm_ (by decide : nmb _ 1 = true)) (dl rfl) (dk rfl) rfl rfl (dk rfl) (dk rfl) (kV ?_) xV
      refine g_iload ok dX8_acts_25 rfl ?_
      refine g_callS ok q2335 q2336 q75 q2337 dX8_acts_27 (m_by X.l X.G _ k (MS.A t 0 (8 + c)) x) (nm_ (by decide : nmb _ 3 = true)) (dl rfl) (dk rfl) rfl rfl (dk rfl) (dk rfl) (kV ?_) xV
      refine m_ast ok hA 0 (8 + c) (by decide) dX8_acts_30 rfl (by simp only [mlen]; omega) ?_
      refine g_iincN ok dX8_acts_31 (c := c) rfl rfl (ls1 := [some (.ref (ad 20)), some (.int k), some (.int (nI a)), some (.int (nI b)), some (.int x), some (.int (nI (c + 1)))]) rfl ?_
      refine g_goto ok dX8_acts_34 (tgt := 3) (by decide) ?_
      exact ih _ _ (by omega) g1
  exact lp (b + 1 - a) a s (by omega) hF
theorem m_acts (l : Launch) (G : GE) {h0 : AH} {ad : Nat → Nat} (hA : MAd ad) (s : MS) (k : Int32) (a : Int32) (b : Int32) (x : Int32) (y0 : isSp a b = true) : GM l G yX8_acts (ws_ yX8_acts cX8_acts 6 none) 2 [.ref (ad 20), .int k, .int a, .int b, .int x] (mput G h0 ad s) (0) (PN (mput G h0 ad (mActs k x (sp a b) (nn a) s))) := by
  obtain ⟨e1, e2, h3, h4⟩ := isSp_n y0
  have t := m_actsN l G (h0 := h0) hA s k (nn a) (nn b) x (by omega) h4
  rw [← e1, ← e2] at t
  exact t
theorem m_adds (l : Launch) (G : GE) {h0 : AH} {ad : Nat → Nat} (hA : MAd ad) (s : MS) (a : Int32) (b : Int32) (x : Int32) : GM l G yX8_adds (ws_ yX8_adds cX8_adds 5 (some .int)) 4 [.ref (ad 20), .int a, .int b, .int x] (mput G h0 ad s) (0) (PV (.int (mAdds s a b x).1) (mput G h0 ad (mAdds s a b x).2)) := by
  refine GM.of (by decide) (dk rfl) ?_
  intro X eL eG eh ok fn
  subst eL; subst eG
  show GW X _ 0 0 [some (.ref (ad 20)), some (.int a), some (.int b), some (.int x), none] []
  refine g_iload_n ok dX8_adds_0 rfl ?_
  refine g_iload_n ok dX8_adds_1 rfl ?_
  refine g_callS ok q2315 q2316 q75 q2317 dX8_adds_2 (m_isSpan X.l X.G _ a b) (nm_ (by decide : nmb _ 2 = true)) (dl rfl) (dk rfl) rfl rfl (dk rfl) (dk rfl) (kV ?_) xV
  refine g_if_eq ok (tgt := 16) dX8_adds_5 (by decide) (fun c5 => ?_) (fun c5 => ?_)
  · have c5' := bI_e c5
    refine g_iconst ok (v := 1) dX8_adds_16 rfl ?_
    exact g_iret ok fn rfl dX8_adds_17 (pv_i (by simp [mAdds, c5']) (by simp [mAdds, c5'])) (dk rfl)
  · have c5' := bI_n c5
    refine g_iconst ok (v := 0) dX8_adds_8 rfl ?_
    refine g_iload_n ok dX8_adds_9 rfl ?_
    refine g_callS ok q2324 q2325 q75 q2326 dX8_adds_10 (m_isNumber X.l X.G _ 0 x) (nm_ (by decide : nmb _ 2 = true)) (dl rfl) (dk rfl) rfl rfl (dk rfl) (dk rfl) (kV ?_) xV
    refine g_if_ne ok (tgt := 18) dX8_adds_13 (by decide) (fun c13 => ?_) (fun c13 => ?_)
    · have c13' := bI_n c13
      refine g_aload_n ok dX8_adds_18 rfl ?_
      refine g_iconst ok (v := 0) dX8_adds_19 rfl ?_
      refine g_iload_n ok dX8_adds_20 rfl ?_
      refine g_iload_n ok dX8_adds_21 rfl ?_
      refine g_iload_n ok dX8_adds_22 rfl ?_
      refine g_callV ok q2327 q2329 qs25 q75 q2330 (m_recv ok hA) dX8_adds_23 (m_leaving X.l X.G hA (h0 := h0) s 0 a b x (by assumption)) (nm_ (by decide : nmb _ 4 = true)) (dl rfl) (dk rfl) rfl rfl (dk rfl) (dk rfl) (kV ?_) xV
      refine g_istore ok dX8_adds_26 (ls1 := [some (.ref (ad 20)), some (.int a), some (.int b), some (.int x), some (.int (lvF (MS.A s 0) 0 x (sp a b) (nn a)))]) (dl rfl) rfl ?_
      refine g_iload ok dX8_adds_28 rfl ?_
      refine g_if_lt ok (tgt := 41) dX8_adds_30 (by decide) (fun c30 => ?_) (fun c30 => ?_)
      · have c30' := Int32.not_le.mpr c30
        refine g_aload_n ok dX8_adds_41 rfl ?_
        refine g_iconst ok (v := 0) dX8_adds_42 rfl ?_
        refine g_iload_n ok dX8_adds_43 rfl ?_
        refine g_iload_n ok dX8_adds_44 rfl ?_
        refine g_iload_n ok dX8_adds_45 rfl ?_
        refine g_callV ok q2342 q2344 qs28 q75 q2345 (m_recv ok hA) dX8_adds_46 (m_acts X.l X.G hA (h0 := h0) s 0 a b x (by assumption)) (nm_ (by decide : nmb _ 4 = true)) (dl rfl) (dk rfl) rfl rfl (dk rfl) (dk rfl) (kN ?_) xN
        refine g_aload_n ok dX8_adds_49 rfl ?_
        refine g_aload_n ok dX8_adds_50 rfl ?_
        refine g_iload_n ok dX8_adds_51 rfl ?_
        refine g_iload_n ok dX8_adds_52 rfl ?_
        refine g_callV ok q2346 q2348 qs29 q75 q2349 (m_recv ok hA) dX8_adds_53 (m_sum X.l X.G hA (h0 := h0) (mActs 0 x (sp a b) (nn a) s) a b (by assumption)) (nm_ (by decide : nmb _ 2 = true)) (dl rfl) (dk rfl) rfl rfl (dk rfl) (dk rfl) (kV ?_) xV
        refine g_callV ok q2350 q2352 qs30 q75 q2353 (m_recv ok hA) dX8_adds_56 (m_does X.l X.G hA (h0 := h0) (mActs 0 x (sp a b) (nn a) s) (mSum (mActs 0 x (sp a b) (nn a) s) (nn a) (sp a b))) (nm_ (by decide : nmb _ 1 = true)) (dl rfl) (dk rfl) rfl rfl (dk rfl) (dk rfl) (kV ?_) xV
        exact g_iret ok fn rfl dX8_adds_59 (pv_i (by simp [mAdds, c5', c13', c30, c30']) (by simp [mAdds, c5', c13', c30, c30'])) (dk rfl)
      · have c30' := Int32.not_lt.mp c30
        refine g_aload_n ok dX8_adds_33 rfl ?_
        refine g_iconst ok (v := 2) dX8_adds_34 rfl ?_
        refine g_iload ok dX8_adds_35 rfl ?_
        refine g_callV ok q2338 q2340 qs27 q75 q2341 (m_recv ok hA) dX8_adds_37 (m_refuses X.l X.G hA (h0 := h0) s 2 (lvF (MS.A s 0) 0 x (sp a b) (nn a))) (nm_ (by decide : nmb _ 2 = true)) (dl rfl) (dk rfl) rfl rfl (dk rfl) (dk rfl) (kV ?_) xV
        exact g_iret ok fn rfl dX8_adds_40 (pv_i (by simp [mAdds, c5', c13', c30, c30']) (by simp [mAdds, c5', c13', c30, c30'])) (dk rfl)
    · have c13' := bI_e c13
      refine g_iconst ok (v := 1) dX8_adds_16 rfl ?_
      exact g_iret ok fn rfl dX8_adds_17 (pv_i (by simp [mAdds, c5', c13']) (by simp [mAdds, c5', c13'])) (dk rfl)
theorem m_sets (l : Launch) (G : GE) {h0 : AH} {ad : Nat → Nat} (hA : MAd ad) (s : MS) (a : Int32) (b : Int32) (x : Int32) : GM l G yX8_sets (ws_ yX8_sets cX8_sets 5 (some .int)) 4 [.ref (ad 20), .int a, .int b, .int x] (mput G h0 ad s) (0) (PV (.int (mSets s a b x).1) (mput G h0 ad (mSets s a b x).2)) := by
  refine GM.of (by decide) (dk rfl) ?_
  intro X eL eG eh ok fn
  subst eL; subst eG
  show GW X _ 0 0 [some (.ref (ad 20)), some (.int a), some (.int b), some (.int x), none] []
  refine g_iload_n ok dX8_sets_0 rfl ?_
  refine g_iload_n ok dX8_sets_1 rfl ?_
  refine g_callS ok q2315 q2316 q75 q2317 dX8_sets_2 (m_isSpan X.l X.G _ a b) (nm_ (by decide : nmb _ 2 = true)) (dl rfl) (dk rfl) rfl rfl (dk rfl) (dk rfl) (kV ?_) xV
  refine g_if_eq ok (tgt := 16) dX8_sets_5 (by decide) (fun c5 => ?_) (fun c5 => ?_)
  · have c5' := bI_e c5
    refine g_iconst ok (v := 1) dX8_sets_16 rfl ?_
    exact g_iret ok fn rfl dX8_sets_17 (pv_i (by simp [mSets, c5']) (by simp [mSets, c5'])) (dk rfl)
  · have c5' := bI_n c5
    refine g_iconst ok (v := 1) dX8_sets_8 rfl ?_
    refine g_iload_n ok dX8_sets_9 rfl ?_
    refine g_callS ok q2324 q2325 q75 q2326 dX8_sets_10 (m_isNumber X.l X.G _ 1 x) (nm_ (by decide : nmb _ 2 = true)) (dl rfl) (dk rfl) rfl rfl (dk rfl) (dk rfl) (kV ?_) xV
    refine g_if_ne ok (tgt := 18) dX8_sets_13 (by decide) (fun c13 => ?_) (fun c13 => ?_)
    · have c13' := bI_n c13
      refine g_aload_n ok dX8_sets_18 rfl ?_
      refine g_iload_n ok dX8_sets_19 rfl ?_
      refine g_iload_n ok dX8_sets_20 rfl ?_
      refine g_callV ok q2346 q2348 qs29 q75 q2349 (m_recv ok hA) dX8_sets_21 (m_sum X.l X.G hA (h0 := h0) s a b (by assumption)) (nm_ (by decide : nmb _ 2 = true)) (dl rfl) (dk rfl) rfl rfl (dk rfl) (dk rfl) (kV ?_) xV
      refine g_istore ok dX8_sets_24 (ls1 := [some (.ref (ad 20)), some (.int a), some (.int b), some (.int x), some (.int (mSum s (nn a) (sp a b)))]) (dl rfl) rfl ?_
      refine g_aload_n ok dX8_sets_26 rfl ?_
      refine g_iconst ok (v := 1) dX8_sets_27 rfl ?_
      refine g_iload_n ok dX8_sets_28 rfl ?_
      refine g_iload_n ok dX8_sets_29 rfl ?_
      refine g_iload_n ok dX8_sets_30 rfl ?_
      refine g_callV ok q2342 q2344 qs28 q75 q2345 (m_recv ok hA) dX8_sets_31 (m_acts X.l X.G hA (h0 := h0) s 1 a b x (by assumption)) (nm_ (by decide : nmb _ 4 = true)) (dl rfl) (dk rfl) rfl rfl (dk rfl) (dk rfl) (kN ?_) xN
      refine g_aload_n ok dX8_sets_34 rfl ?_
      refine g_iload ok dX8_sets_35 rfl ?_
      refine g_callV ok q2350 q2352 qs30 q75 q2353 (m_recv ok hA) dX8_sets_37 (m_does X.l X.G hA (h0 := h0) (mActs 1 x (sp a b) (nn a) s) (mSum s (nn a) (sp a b))) (nm_ (by decide : nmb _ 1 = true)) (dl rfl) (dk rfl) rfl rfl (dk rfl) (dk rfl) (kV ?_) xV
      exact g_iret ok fn rfl dX8_sets_40 (pv_i (by simp [mSets, c5', c13']) (by simp [mSets, c5', c13'])) (dk rfl)
    · have c13' := bI_e c13
      refine g_iconst ok (v := 1) dX8_sets_16 rfl ?_
      exact g_iret ok fn rfl dX8_sets_17 (pv_i (by simp [mSets, c5', c13']) (by simp [mSets, c5', c13'])) (dk rfl)
theorem m_turns (l : Launch) (G : GE) {h0 : AH} {ad : Nat → Nat} (hA : MAd ad) (s : MS) (a : Int32) (b : Int32) : GM l G yX8_turns (ws_ yX8_turns cX8_turns 3 (some .int)) 4 [.ref (ad 20), .int a, .int b] (mput G h0 ad s) (0) (PV (.int (mTurns s a b).1) (mput G h0 ad (mTurns s a b).2)) := by
  refine GM.of (by decide) (dk rfl) ?_
  intro X eL eG eh ok fn
  subst eL; subst eG
  show GW X _ 0 0 [some (.ref (ad 20)), some (.int a), some (.int b)] []
  refine g_iload_n ok dX8_turns_0 rfl ?_
  refine g_iload_n ok dX8_turns_1 rfl ?_
  refine g_callS ok q2315 q2316 q75 q2317 dX8_turns_2 (m_isSpan X.l X.G _ a b) (nm_ (by decide : nmb _ 2 = true)) (dl rfl) (dk rfl) rfl rfl (dk rfl) (dk rfl) (kV ?_) xV
  refine g_if_ne ok (tgt := 10) dX8_turns_5 (by decide) (fun c5 => ?_) (fun c5 => ?_)
  · have c5' := bI_n c5
    refine g_aload_n ok dX8_turns_10 rfl ?_
    refine g_iconst ok (v := 2) dX8_turns_11 rfl ?_
    refine g_iload_n ok dX8_turns_12 rfl ?_
    refine g_iload_n ok dX8_turns_13 rfl ?_
    refine g_iconst ok (v := 0) dX8_turns_14 rfl ?_
    refine g_callV ok q2342 q2344 qs28 q75 q2345 (m_recv ok hA) dX8_turns_15 (m_acts X.l X.G hA (h0 := h0) s 2 a b 0 (by assumption)) (nm_ (by decide : nmb _ 4 = true)) (dl rfl) (dk rfl) rfl rfl (dk rfl) (dk rfl) (kN ?_) xN
    refine g_aload_n ok dX8_turns_18 rfl ?_
    refine g_aload_n ok dX8_turns_19 rfl ?_
    refine g_iload_n ok dX8_turns_20 rfl ?_
    refine g_iload_n ok dX8_turns_21 rfl ?_
    refine g_callV ok q2346 q2348 qs29 q75 q2349 (m_recv ok hA) dX8_turns_22 (m_sum X.l X.G hA (h0 := h0) (mActs 2 0 (sp a b) (nn a) s) a b (by assumption)) (nm_ (by decide : nmb _ 2 = true)) (dl rfl) (dk rfl) rfl rfl (dk rfl) (dk rfl) (kV ?_) xV
    refine g_callV ok q2350 q2352 qs30 q75 q2353 (m_recv ok hA) dX8_turns_25 (m_does X.l X.G hA (h0 := h0) (mActs 2 0 (sp a b) (nn a) s) (mSum (mActs 2 0 (sp a b) (nn a) s) (nn a) (sp a b))) (nm_ (by decide : nmb _ 1 = true)) (dl rfl) (dk rfl) rfl rfl (dk rfl) (dk rfl) (kV ?_) xV
    exact g_iret ok fn rfl dX8_turns_28 (pv_i (by simp [mTurns, c5']) (by simp [mTurns, c5'])) (dk rfl)
  · have c5' := bI_e c5
    refine g_iconst ok (v := 1) dX8_turns_8 rfl ?_
    exact g_iret ok fn rfl dX8_turns_9 (pv_i (by simp [mTurns, c5']) (by simp [mTurns, c5'])) (dk rfl)
theorem m_ends (l : Launch) (G : GE) {h0 : AH} {ad : Nat → Nat} (hA : MAd ad) (s : MS) (v : Int32) (y0 : mUo s) : GM l G yX8_ends (ws_ yX8_ends cX8_ends 2 (some .int)) 2 [.ref (ad 20), .int v] (mput G h0 ad s) (0) (PV (.int (mEnds s v).1) (mput G h0 ad (mEnds s v).2)) := by
  refine GM.of (by decide) (dk rfl) ?_
  intro X eL eG eh ok fn
  subst eL; subst eG
  show GW X _ 0 0 [some (.ref (ad 20)), some (.int v)] []
  refine g_iload_n ok dX8_ends_0 rfl ?_
  refine g_if_ne ok (tgt := 15) dX8_ends_1 (by decide) (fun c1 => ?_) (fun c1 => ?_)
  · refine g_aload_n ok dX8_ends_15 rfl ?_
    refine g_iload_n ok dX8_ends_16 rfl ?_
    refine g_callV ok q2362 q2364 qs33 q75 q2365 (m_recv ok hA) dX8_ends_17 (m_raises X.l X.G hA (h0 := h0) s v) (nm_ (by decide : nmb _ 1 = true)) (dl rfl) (dk rfl) rfl rfl (dk rfl) (dk rfl) (kV ?_) xV
    exact g_iret ok fn rfl dX8_ends_20 (pv_i (by simp [mEnds, c1]) (by simp [mEnds, c1])) (dk rfl)
  · refine g_aload_n ok dX8_ends_4 rfl ?_
    refine g_aload_n ok dX8_ends_5 rfl ?_
    refine m_get ok hA 19 q2254 (by decide) dX8_ends_6 (v := .int (MS.I s 19)) rfl ?_
    refine g_callV ok q2358 q2360 qs32 q75 q2361 (m_recv ok hA) dX8_ends_9 (m_keeps X.l X.G hA (h0 := h0) s (MS.I s 19) y0) (nm_ (by decide : nmb _ 1 = true)) (dl rfl) (dk rfl) rfl rfl (dk rfl) (dk rfl) (kV ?_) xV
    refine g_goto ok dX8_ends_12 (tgt := 20) (by decide) ?_
    exact g_iret ok fn rfl dX8_ends_20 (pv_i (by simp [mEnds, c1]) (by simp [mEnds, c1])) (dk rfl)
theorem m_add (l : Launch) (G : GE) {h0 : AH} {ad : Nat → Nat} (hA : MAd ad) (s : MS) (a : Int32) (b : Int32) (x : Int32) (y0 : mUo s) : GM l G yX8_add (ws_ yX8_add cX8_add 4 (some .int)) 5 [.ref (ad 20), .int a, .int b, .int x] (mput G h0 ad s) (0) (PV (.int (mAdd s a b x).1) (mput G h0 ad (mAdd s a b x).2)) := by
  refine GM.of (by decide) (dk rfl) ?_
  intro X eL eG eh ok fn
  subst eL; subst eG
  show GW X _ 0 0 [some (.ref (ad 20)), some (.int a), some (.int b), some (.int x)] []
  refine g_aload_n ok dX8_add_0 rfl ?_
  refine g_callV ok q2307 q2309 qs23 q75 q2310 (m_recv ok hA) dX8_add_1 (m_tries X.l X.G hA (h0 := h0) s ) (nm_ (by decide : nmb _ 0 = true)) (dl rfl) (dk rfl) rfl rfl (dk rfl) (dk rfl) (kN ?_) xN
  refine g_aload_n ok dX8_add_4 rfl ?_
  refine g_aload_n ok dX8_add_5 rfl ?_
  refine g_iload_n ok dX8_add_6 rfl ?_
  refine g_iload_n ok dX8_add_7 rfl ?_
  refine g_iload_n ok dX8_add_8 rfl ?_
  refine g_callV ok q2311 q2313 qs24 q75 q2314 (m_recv ok hA) dX8_add_9 (m_adds X.l X.G hA (h0 := h0) (mTries s) a b x) (nm_ (by decide : nmb _ 3 = true)) (dl rfl) (dk rfl) rfl rfl (dk rfl) (dk rfl) (kV ?_) xV
  refine g_callV ok q2354 q2356 qs31 q75 q2357 (m_recv ok hA) dX8_add_12 (m_ends X.l X.G hA (h0 := h0) (mAdds (mTries s) a b x).2 ((mAdds (mTries s) a b x).1) (mAdds_u (mTries_u y0))) (nm_ (by decide : nmb _ 1 = true)) (dl rfl) (dk rfl) rfl rfl (dk rfl) (dk rfl) (kV ?_) xV
  exact g_iret ok fn rfl dX8_add_15 (pv_i rfl rfl) (dk rfl)
theorem m_set (l : Launch) (G : GE) {h0 : AH} {ad : Nat → Nat} (hA : MAd ad) (s : MS) (a : Int32) (b : Int32) (x : Int32) (y0 : mUo s) : GM l G yX8_set (ws_ yX8_set cX8_set 4 (some .int)) 5 [.ref (ad 20), .int a, .int b, .int x] (mput G h0 ad s) (0) (PV (.int (mSet s a b x).1) (mput G h0 ad (mSet s a b x).2)) := by
  refine GM.of (by decide) (dk rfl) ?_
  intro X eL eG eh ok fn
  subst eL; subst eG
  show GW X _ 0 0 [some (.ref (ad 20)), some (.int a), some (.int b), some (.int x)] []
  refine g_aload_n ok dX8_set_0 rfl ?_
  refine g_callV ok q2307 q2309 qs23 q75 q2310 (m_recv ok hA) dX8_set_1 (m_tries X.l X.G hA (h0 := h0) s ) (nm_ (by decide : nmb _ 0 = true)) (dl rfl) (dk rfl) rfl rfl (dk rfl) (dk rfl) (kN ?_) xN
  refine g_aload_n ok dX8_set_4 rfl ?_
  refine g_aload_n ok dX8_set_5 rfl ?_
  refine g_iload_n ok dX8_set_6 rfl ?_
  refine g_iload_n ok dX8_set_7 rfl ?_
  refine g_iload_n ok dX8_set_8 rfl ?_
  refine g_callV ok q2370 q2372 qs34 q75 q2373 (m_recv ok hA) dX8_set_9 (m_sets X.l X.G hA (h0 := h0) (mTries s) a b x) (nm_ (by decide : nmb _ 3 = true)) (dl rfl) (dk rfl) rfl rfl (dk rfl) (dk rfl) (kV ?_) xV
  refine g_callV ok q2354 q2356 qs31 q75 q2357 (m_recv ok hA) dX8_set_12 (m_ends X.l X.G hA (h0 := h0) (mSets (mTries s) a b x).2 ((mSets (mTries s) a b x).1) (mSets_u (mTries_u y0))) (nm_ (by decide : nmb _ 1 = true)) (dl rfl) (dk rfl) rfl rfl (dk rfl) (dk rfl) (kV ?_) xV
  exact g_iret ok fn rfl dX8_set_15 (pv_i rfl rfl) (dk rfl)
theorem m_turn (l : Launch) (G : GE) {h0 : AH} {ad : Nat → Nat} (hA : MAd ad) (s : MS) (a : Int32) (b : Int32) (y0 : mUo s) : GM l G yX8_turn (ws_ yX8_turn cX8_turn 3 (some .int)) 5 [.ref (ad 20), .int a, .int b] (mput G h0 ad s) (0) (PV (.int (mTurn s a b).1) (mput G h0 ad (mTurn s a b).2)) := by
  refine GM.of (by decide) (dk rfl) ?_
  intro X eL eG eh ok fn
  subst eL; subst eG
  show GW X _ 0 0 [some (.ref (ad 20)), some (.int a), some (.int b)] []
  refine g_aload_n ok dX8_turn_0 rfl ?_
  refine g_callV ok q2307 q2309 qs23 q75 q2310 (m_recv ok hA) dX8_turn_1 (m_tries X.l X.G hA (h0 := h0) s ) (nm_ (by decide : nmb _ 0 = true)) (dl rfl) (dk rfl) rfl rfl (dk rfl) (dk rfl) (kN ?_) xN
  refine g_aload_n ok dX8_turn_4 rfl ?_
  refine g_aload_n ok dX8_turn_5 rfl ?_
  refine g_iload_n ok dX8_turn_6 rfl ?_
  refine g_iload_n ok dX8_turn_7 rfl ?_
  refine g_callV ok q2378 q2380 qs35 q75 q2381 (m_recv ok hA) dX8_turn_8 (m_turns X.l X.G hA (h0 := h0) (mTries s) a b) (nm_ (by decide : nmb _ 2 = true)) (dl rfl) (dk rfl) rfl rfl (dk rfl) (dk rfl) (kV ?_) xV
  refine g_callV ok q2354 q2356 qs31 q75 q2357 (m_recv ok hA) dX8_turn_11 (m_ends X.l X.G hA (h0 := h0) (mTurns (mTries s) a b).2 ((mTurns (mTries s) a b).1) (mTurns_u (mTries_u y0))) (nm_ (by decide : nmb _ 1 = true)) (dl rfl) (dk rfl) rfl rfl (dk rfl) (dk rfl) (kV ?_) xV
  exact g_iret ok fn rfl dX8_turn_14 (pv_i rfl rfl) (dk rfl)
theorem pal_t {x m : Int32} {n c : Nat} {t : MS} {F : Int32 × MS} (h : t.A 0 (40 + c) = x) (g : pal x (n + 1) c m t = F) : pal x n (c + 1) m (mA t 0 (40 + c) x) = F := by
  rw [pal, if_pos h] at g; exact g
theorem pal_f {x m : Int32} {n c : Nat} {t : MS} {F : Int32 × MS} (h : ¬ t.A 0 (40 + c) = x) (g : pal x (n + 1) c m t = F) : pal x n (c + 1) (m + 1) (mA t 0 (40 + c) x) = F := by
  rw [pal, if_neg h] at g; exact g
theorem m_paints (l : Launch) (G : GE) {h0 : AH} {ad : Nat → Nat} (hA : MAd ad) (s : MS) (a : Int32) (b : Int32) (x : Int32) : GM l G yX8_paints (ws_ yX8_paints cX8_paints 6 (some .int)) 4 [.ref (ad 20), .int a, .int b, .int x] (mput G h0 ad s) (0) (PV (.int (mPaints s a b x).1) (mput G h0 ad (mPaints s a b x).2)) := by
  refine GM.of (by decide) (dk rfl) ?_
  intro X eL eG eh ok fn
  subst eL; subst eG
  show GW X _ 0 0 [some (.ref (ad 20)), some (.int a), some (.int b), some (.int x), none, none] []
  refine g_iload_n ok dX8_paints_0 rfl ?_
  refine g_iload_n ok dX8_paints_1 rfl ?_
  refine g_callS ok q2315 q2316 q75 q2317 dX8_paints_2 (m_isSpan X.l X.G _ a b) (nm_ (by decide : nmb _ 2 = true)) (dl rfl) (dk rfl) rfl rfl (dk rfl) (dk rfl) (kV ?_) xV
  refine g_if_eq ok (tgt := 15) dX8_paints_5 (by decide) (fun c5 => ?_) (fun c5 => ?_)
  · have c5' := bI_e c5
    refine g_iconst ok (v := 1) dX8_paints_15 rfl ?_
    exact g_iret ok fn rfl dX8_paints_16 (pv_i (by simp [mPaints, c5']) (by simp [mPaints, c5'])) (dk rfl)
  · have c5' := bI_n c5
    refine g_iload_n ok dX8_paints_8 rfl ?_
    refine g_callS ok q2390 q2391 q75 q2392 dX8_paints_9 (m_isColour X.l X.G _ x) (nm_ (by decide : nmb _ 1 = true)) (dl rfl) (dk rfl) rfl rfl (dk rfl) (dk rfl) (kV ?_) xV
    refine g_if_ne ok (tgt := 17) dX8_paints_12 (by decide) (fun c12 => ?_) (fun c12 => ?_)
    · have c12' := bI_n c12
      refine g_iconst ok (v := 0) dX8_paints_17 rfl ?_
      refine g_istore ok dX8_paints_18 (ls1 := [some (.ref (ad 20)), some (.int a), some (.int b), some (.int x), some (.int 0), none]) (dl rfl) rfl ?_
      refine g_iload_n ok dX8_paints_20 rfl ?_
      refine g_istore ok dX8_paints_21 (ls1 := [some (.ref (ad 20)), some (.int a), some (.int b), some (.int x), some (.int 0), some (.int a)]) (dl rfl) rfl ?_
      obtain ⟨e1, e2, h3, h4⟩ := isSp_n c5'
      have hs : mPaints s a b x = (0, mI (mA (pal x (sp a b) (nn a) 0 s).2 0 7 ((pal x (sp a b) (nn a) 0 s).2.A 0 7 + (pal x (sp a b) (nn a) 0 s).1)) 19 (pal x (sp a b) (nn a) 0 s).1) := by unfold mPaints; rw [if_pos ⟨c5', c12'⟩]
      rw [hs] at fn
      clear hs
      have e3 : sp a b = nn b + 1 - nn a := rfl
      rw [e3] at fn
      clear e3 c5 c5' c12 c12'
      generalize nn a = i at *
      generalize nn b = j at *
      subst e1; subst e2
      obtain ⟨F, hF⟩ : ∃ F : Int32 × MS, pal x (j + 1 - i) i 0 s = F := ⟨_, rfl⟩
      rw [hF] at fn
      have lp : ∀ (n : Nat) (c : Nat) (m : Int32) (t : MS), (c + n = j + 1 ∧ c ≤ j + 1) → (pal x n c m t = F) → GW X (mput X.G h0 ad t) 0 23 [some (.ref (ad 20)), some (.int (nI i)), some (.int (nI j)), some (.int x), some (.int m), some (.int (nI c))] [] := by
        intro n
        induction n with
        | zero =>
          intro c m t g0 g1
          refine g_iload ok dX8_paints_23 rfl ?_
          refine g_iload_n ok dX8_paints_25 rfl ?_
          refine g_icmp_gt ok (tgt := 59) dX8_paints_26 (by decide) (fun _ => ?_) (fun c_ => absurd (nI_lt (a := j) (b := c) (by omega) (by omega)) c_)
          have g1 : (m, t) = F := g1
          subst g1
          refine g_aload_n ok dX8_paints_59 rfl ?_
          refine m_get ok hA 0 q2235 (by decide) dX8_paints_60 (v := .ref (ad 0)) rfl ?_
          refine g_bipush ok (v := 7) dX8_paints_63 rfl ?_
          refine g_dup2_11 ok dX8_paints_65 rfl rfl ?_
          refine m_ald ok hA 0 7 (v := (MS.A t 0 7)) (by decide) dX8_paints_66 rfl (by decide) rfl ?_
          refine g_iload ok dX8_paints_67 rfl ?_
          refine g_iadd ok dX8_paints_69 ?_
          refine m_ast ok hA 0 7 (by decide) dX8_paints_70 rfl (by decide) ?_
          refine g_aload_n ok dX8_paints_71 rfl ?_
          refine g_iload ok dX8_paints_72 rfl ?_
          refine g_callV ok q2350 q2352 qs30 q75 q2353 (m_recv ok hA) dX8_paints_74 (m_does X.l X.G hA (h0 := h0) (mA t 0 7 ((MS.A t 0 7) + m)) m) (nm_ (by decide : nmb _ 1 = true)) (dl rfl) (dk rfl) rfl rfl (dk rfl) (dk rfl) (kV ?_) xV
          exact g_iret ok fn rfl dX8_paints_77 (pv_i rfl rfl) (dk rfl)
        | succ n ih =>
          intro c m t g0 g1
          refine g_iload ok dX8_paints_23 rfl ?_
          refine g_iload_n ok dX8_paints_25 rfl ?_
          refine g_icmp_gt ok (tgt := 59) dX8_paints_26 (by decide) (fun c_ => absurd c_ (nI_nlt (a := j) (b := c) (by omega) (by omega))) (fun _ => ?_)
          refine g_aload_n ok dX8_paints_29 rfl ?_
          refine g_iload ok dX8_paints_30 rfl ?_
          refine g_callV ok q2393 q2395 qs37 q75 q2396 (m_recv ok hA) dX8_paints_32 (m_colour X.l X.G hA (h0 := h0) t c (by omega)) (nm_ (by decide : nmb _ 1 = true)) (dl rfl) (dk rfl) rfl rfl (dk rfl) (dk rfl) (kV ?_) xV
          refine g_iload_n ok dX8_paints_35 rfl ?_
          refine g_icmp_eq ok (tgt := 42) dX8_paints_36 (by decide) (fun c36 => ?_) (fun c36 => ?_)
          · refine g_aload_n ok dX8_paints_42 rfl ?_
            refine m_get ok hA 0 q2235 (by decide) dX8_paints_43 (v := .ref (ad 0)) rfl ?_
            refine g_bipush ok (v := 40) dX8_paints_46 rfl ?_
            refine g_iload ok dX8_paints_48 rfl ?_
            refine g_iaddN ok dX8_paints_50 (c := (40 + c)) (a := 40) (b := c) rfl rfl rfl ?_
            refine g_iload_n ok dX8_paints_51 rfl ?_
            refine m_ast ok hA 0 (40 + c) (by decide) dX8_paints_52 rfl (by simp only [mlen]; omega) ?_
            refine g_iincN ok dX8_paints_53 (c := c) rfl rfl (ls1 := [some (.ref (ad 20)), some (.int (nI i)), some (.int (nI j)), some (.int x), some (.int m), some (.int (nI (c + 1)))]) rfl ?_
            refine g_goto ok dX8_paints_56 (tgt := 23) (by decide) ?_
            exact ih _ _ _ (by omega) (pal_t c36 g1)
          · refine g_iinc ok dX8_paints_39 rfl (v := (m + 1)) rfl (ls1 := [some (.ref (ad 20)), some (.int (nI i)), some (.int (nI j)), some (.int x), some (.int (m + 1)), some (.int (nI c))]) rfl ?_
            refine g_aload_n ok dX8_paints_42 rfl ?_
            refine m_get ok hA 0 q2235 (by decide) dX8_paints_43 (v := .ref (ad 0)) rfl ?_
            refine g_bipush ok (v := 40) dX8_paints_46 rfl ?_
            refine g_iload ok dX8_paints_48 rfl ?_
            refine g_iaddN ok dX8_paints_50 (c := (40 + c)) (a := 40) (b := c) rfl rfl rfl ?_
            refine g_iload_n ok dX8_paints_51 rfl ?_
            refine m_ast ok hA 0 (40 + c) (by decide) dX8_paints_52 rfl (by simp only [mlen]; omega) ?_
            refine g_iincN ok dX8_paints_53 (c := c) rfl rfl (ls1 := [some (.ref (ad 20)), some (.int (nI i)), some (.int (nI j)), some (.int x), some (.int (m + 1)), some (.int (nI (c + 1)))]) rfl ?_
            refine g_goto ok dX8_paints_56 (tgt := 23) (by decide) ?_
            exact ih _ _ _ (by omega) (pal_f c36 g1)
      exact lp (j + 1 - i) i 0 s (by omega) hF
    · have c12' := bI_e c12
      refine g_iconst ok (v := 1) dX8_paints_15 rfl ?_
      exact g_iret ok fn rfl dX8_paints_16 (pv_i (by simp [mPaints, c5', c12']) (by simp [mPaints, c5', c12'])) (dk rfl)
theorem m_paint (l : Launch) (G : GE) {h0 : AH} {ad : Nat → Nat} (hA : MAd ad) (s : MS) (a : Int32) (b : Int32) (x : Int32) (y0 : mUo s) : GM l G yX8_paint (ws_ yX8_paint cX8_paint 4 (some .int)) 5 [.ref (ad 20), .int a, .int b, .int x] (mput G h0 ad s) (0) (PV (.int (mPaint s a b x).1) (mput G h0 ad (mPaint s a b x).2)) := by
  refine GM.of (by decide) (dk rfl) ?_
  intro X eL eG eh ok fn
  subst eL; subst eG
  show GW X _ 0 0 [some (.ref (ad 20)), some (.int a), some (.int b), some (.int x)] []
  refine g_aload_n ok dX8_paint_0 rfl ?_
  refine g_callV ok q2307 q2309 qs23 q75 q2310 (m_recv ok hA) dX8_paint_1 (m_tries X.l X.G hA (h0 := h0) s ) (nm_ (by decide : nmb _ 0 = true)) (dl rfl) (dk rfl) rfl rfl (dk rfl) (dk rfl) (kN ?_) xN
  refine g_aload_n ok dX8_paint_4 rfl ?_
  refine g_aload_n ok dX8_paint_5 rfl ?_
  refine g_iload_n ok dX8_paint_6 rfl ?_
  refine g_iload_n ok dX8_paint_7 rfl ?_
  refine g_iload_n ok dX8_paint_8 rfl ?_
  refine g_callV ok q2386 q2388 qs36 q75 q2389 (m_recv ok hA) dX8_paint_9 (m_paints X.l X.G hA (h0 := h0) (mTries s) a b x) (nm_ (by decide : nmb _ 3 = true)) (dl rfl) (dk rfl) rfl rfl (dk rfl) (dk rfl) (kV ?_) xV
  refine g_callV ok q2354 q2356 qs31 q75 q2357 (m_recv ok hA) dX8_paint_12 (m_ends X.l X.G hA (h0 := h0) (mPaints (mTries s) a b x).2 ((mPaints (mTries s) a b x).1) (mPaints_u (mTries_u y0))) (nm_ (by decide : nmb _ 1 = true)) (dl rfl) (dk rfl) rfl rfl (dk rfl) (dk rfl) (kV ?_) xV
  exact g_iret ok fn rfl dX8_paint_15 (pv_i rfl rfl) (dk rfl)
