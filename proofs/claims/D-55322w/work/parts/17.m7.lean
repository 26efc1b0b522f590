/-! THE MODEL: what its methods compute, 7 -/
set_option maxRecDepth 100000
abbrev cX8_colourOf : ByteArray := prog_19_method_49_code
def yX8_colourOf : MethodName := ⟨RX8, "colourOf", "(I)I"⟩
def dkwX8_colourOf_1 : List UInt8 := [182, 0, 58, 172]
abbrev dktX8_colourOf_1 : List UInt8 := dkwX8_colourOf_1 ++ []
def dkwX8_colourOf_0 : List UInt8 := [42, 3, 181, 0, 45, 27, 184, 0, 71, 153, 0, 11, 42, 27, 182, 0, 125, 167, 0, 8, 42, 4]
abbrev dktX8_colourOf_0 : List UInt8 := dkwX8_colourOf_0 ++ dktX8_colourOf_1
theorem dksX8_colourOf_0 : cX8_colourOf.data.toList.drop 0 = dktX8_colourOf_0 := by decide +kernel
theorem dksX8_colourOf_1 : cX8_colourOf.data.toList.drop 22 = dktX8_colourOf_1 := dk_seg dksX8_colourOf_0 22 rfl rfl
theorem dX8_colourOf_0 : decode cX8_colourOf 0 = .ok (.aload_n 0, 1) := dk_42 (dk_at dksX8_colourOf_0 0 rfl rfl)
theorem dX8_colourOf_1 : decode cX8_colourOf 1 = .ok (.iconst 0, 1) := dk_3 (dk_at dksX8_colourOf_0 1 rfl rfl)
theorem dX8_colourOf_2 : decode cX8_colourOf 2 = .ok (.putfield 45, 3) := dk_181 0 45 (dk_at dksX8_colourOf_0 2 rfl rfl)
theorem dX8_colourOf_5 : decode cX8_colourOf 5 = .ok (.iload_n 1, 1) := dk_27 (dk_at dksX8_colourOf_0 5 rfl rfl)
theorem dX8_colourOf_6 : decode cX8_colourOf 6 = .ok (.invokestatic 71, 3) := dk_184 0 71 (dk_at dksX8_colourOf_0 6 rfl rfl)
theorem dX8_colourOf_9 : decode cX8_colourOf 9 = .ok (.ifCond .eq 11, 3) := dk_153 0 11 (dk_at dksX8_colourOf_0 9 rfl rfl)
theorem dX8_colourOf_12 : decode cX8_colourOf 12 = .ok (.aload_n 0, 1) := dk_42 (dk_at dksX8_colourOf_0 12 rfl rfl)
theorem dX8_colourOf_13 : decode cX8_colourOf 13 = .ok (.iload_n 1, 1) := dk_27 (dk_at dksX8_colourOf_0 13 rfl rfl)
theorem dX8_colourOf_14 : decode cX8_colourOf 14 = .ok (.invokevirtual 125, 3) := dk_182 0 125 (dk_at dksX8_colourOf_0 14 rfl rfl)
theorem dX8_colourOf_17 : decode cX8_colourOf 17 = .ok (.goto 8, 3) := dk_167 0 8 (dk_at dksX8_colourOf_0 17 rfl rfl)
theorem dX8_colourOf_20 : decode cX8_colourOf 20 = .ok (.aload_n 0, 1) := dk_42 (dk_at dksX8_colourOf_0 20 rfl rfl)
theorem dX8_colourOf_21 : decode cX8_colourOf 21 = .ok (.iconst 1, 1) := dk_4 (dk_at dksX8_colourOf_0 21 rfl rfl)
theorem dX8_colourOf_22 : decode cX8_colourOf 22 = .ok (.invokevirtual 58, 3) := dk_182 0 58 (dk_at dksX8_colourOf_1 0 rfl rfl)
theorem dX8_colourOf_25 : decode cX8_colourOf 25 = .ok (.ireturn, 1) := dk_172 (dk_at dksX8_colourOf_1 3 rfl rfl)
abbrev cX8_runs : ByteArray := prog_19_method_50_code
def yX8_runs : MethodName := ⟨RX8, "runs", "(II)I"⟩
def dkwX8_runs_2 : List UInt8 := [159, 0, 6, 132, 3, 1, 132, 4, 1, 167, 255, 227, 29, 172]
abbrev dktX8_runs_2 : List UInt8 := dkwX8_runs_2 ++ []
def dkwX8_runs_1 : List UInt8 := [54, 4, 21, 4, 28, 163, 0, 29, 42, 21, 4, 182, 0, 125, 42, 21, 4, 4, 100, 182, 0, 125]
abbrev dktX8_runs_1 : List UInt8 := dkwX8_runs_1 ++ dktX8_runs_2
def dkwX8_runs_0 : List UInt8 := [42, 3, 181, 0, 45, 27, 28, 184, 0, 82, 154, 0, 9, 42, 4, 182, 0, 58, 172, 4, 62, 27, 4, 96]
abbrev dktX8_runs_0 : List UInt8 := dkwX8_runs_0 ++ dktX8_runs_1
theorem dksX8_runs_0 : cX8_runs.data.toList.drop 0 = dktX8_runs_0 := by decide +kernel
theorem dksX8_runs_1 : cX8_runs.data.toList.drop 24 = dktX8_runs_1 := dk_seg dksX8_runs_0 24 rfl rfl
theorem dksX8_runs_2 : cX8_runs.data.toList.drop 46 = dktX8_runs_2 := dk_seg dksX8_runs_1 22 rfl rfl
theorem dX8_runs_0 : decode cX8_runs 0 = .ok (.aload_n 0, 1) := dk_42 (dk_at dksX8_runs_0 0 rfl rfl)
theorem dX8_runs_1 : decode cX8_runs 1 = .ok (.iconst 0, 1) := dk_3 (dk_at dksX8_runs_0 1 rfl rfl)
theorem dX8_runs_2 : decode cX8_runs 2 = .ok (.putfield 45, 3) := dk_181 0 45 (dk_at dksX8_runs_0 2 rfl rfl)
theorem dX8_runs_5 : decode cX8_runs 5 = .ok (.iload_n 1, 1) := dk_27 (dk_at dksX8_runs_0 5 rfl rfl)
theorem dX8_runs_6 : decode cX8_runs 6 = .ok (.iload_n 2, 1) := dk_28 (dk_at dksX8_runs_0 6 rfl rfl)
theorem dX8_runs_7 : decode cX8_runs 7 = .ok (.invokestatic 82, 3) := dk_184 0 82 (dk_at dksX8_runs_0 7 rfl rfl)
theorem dX8_runs_10 : decode cX8_runs 10 = .ok (.ifCond .ne 9, 3) := dk_154 0 9 (dk_at dksX8_runs_0 10 rfl rfl)
theorem dX8_runs_13 : decode cX8_runs 13 = .ok (.aload_n 0, 1) := dk_42 (dk_at dksX8_runs_0 13 rfl rfl)
theorem dX8_runs_14 : decode cX8_runs 14 = .ok (.iconst 1, 1) := dk_4 (dk_at dksX8_runs_0 14 rfl rfl)
theorem dX8_runs_15 : decode cX8_runs 15 = .ok (.invokevirtual 58, 3) := dk_182 0 58 (dk_at dksX8_runs_0 15 rfl rfl)
theorem dX8_runs_18 : decode cX8_runs 18 = .ok (.ireturn, 1) := dk_172 (dk_at dksX8_runs_0 18 rfl rfl)
theorem dX8_runs_19 : decode cX8_runs 19 = .ok (.iconst 1, 1) := dk_4 (dk_at dksX8_runs_0 19 rfl rfl)
theorem dX8_runs_20 : decode cX8_runs 20 = .ok (.istore_n 3, 1) := dk_62 (dk_at dksX8_runs_0 20 rfl rfl)
theorem dX8_runs_21 : decode cX8_runs 21 = .ok (.iload_n 1, 1) := dk_27 (dk_at dksX8_runs_0 21 rfl rfl)
theorem dX8_runs_22 : decode cX8_runs 22 = .ok (.iconst 1, 1) := dk_4 (dk_at dksX8_runs_0 22 rfl rfl)
theorem dX8_runs_23 : decode cX8_runs 23 = .ok (.iadd, 1) := dk_96 (dk_at dksX8_runs_0 23 rfl rfl)
theorem dX8_runs_24 : decode cX8_runs 24 = .ok (.istore 4, 2) := dk_54 4 (dk_at dksX8_runs_1 0 rfl rfl)
theorem dX8_runs_26 : decode cX8_runs 26 = .ok (.iload 4, 2) := dk_21 4 (dk_at dksX8_runs_1 2 rfl rfl)
theorem dX8_runs_28 : decode cX8_runs 28 = .ok (.iload_n 2, 1) := dk_28 (dk_at dksX8_runs_1 4 rfl rfl)
theorem dX8_runs_29 : decode cX8_runs 29 = .ok (.if_icmp .gt 29, 3) := dk_163 0 29 (dk_at dksX8_runs_1 5 rfl rfl)
theorem dX8_runs_32 : decode cX8_runs 32 = .ok (.aload_n 0, 1) := dk_42 (dk_at dksX8_runs_1 8 rfl rfl)
theorem dX8_runs_33 : decode cX8_runs 33 = .ok (.iload 4, 2) := dk_21 4 (dk_at dksX8_runs_1 9 rfl rfl)
theorem dX8_runs_35 : decode cX8_runs 35 = .ok (.invokevirtual 125, 3) := dk_182 0 125 (dk_at dksX8_runs_1 11 rfl rfl)
theorem dX8_runs_38 : decode cX8_runs 38 = .ok (.aload_n 0, 1) := dk_42 (dk_at dksX8_runs_1 14 rfl rfl)
theorem dX8_runs_39 : decode cX8_runs 39 = .ok (.iload 4, 2) := dk_21 4 (dk_at dksX8_runs_1 15 rfl rfl)
theorem dX8_runs_41 : decode cX8_runs 41 = .ok (.iconst 1, 1) := dk_4 (dk_at dksX8_runs_1 17 rfl rfl)
theorem dX8_runs_42 : decode cX8_runs 42 = .ok (.isub, 1) := dk_100 (dk_at dksX8_runs_1 18 rfl rfl)
theorem dX8_runs_43 : decode cX8_runs 43 = .ok (.invokevirtual 125, 3) := dk_182 0 125 (dk_at dksX8_runs_1 19 rfl rfl)
theorem dX8_runs_46 : decode cX8_runs 46 = .ok (.if_icmp .eq 6, 3) := dk_159 0 6 (dk_at dksX8_runs_2 0 rfl rfl)
theorem dX8_runs_49 : decode cX8_runs 49 = .ok (.iinc 3 1, 3) := dk_132 3 1 (dk_at dksX8_runs_2 3 rfl rfl)
theorem dX8_runs_52 : decode cX8_runs 52 = .ok (.iinc 4 1, 3) := dk_132 4 1 (dk_at dksX8_runs_2 6 rfl rfl)
theorem dX8_runs_55 : decode cX8_runs 55 = .ok (.goto (-29), 3) := dk_167 255 227 (dk_at dksX8_runs_2 9 rfl rfl)
theorem dX8_runs_58 : decode cX8_runs 58 = .ok (.iload_n 3, 1) := dk_29 (dk_at dksX8_runs_2 12 rfl rfl)
theorem dX8_runs_59 : decode cX8_runs 59 = .ok (.ireturn, 1) := dk_172 (dk_at dksX8_runs_2 13 rfl rfl)
abbrev cX8_longest : ByteArray := prog_19_method_51_code
def yX8_longest : MethodName := ⟨RX8, "longest", "(I)I"⟩
def dkwX8_longest_2 : List UInt8 := [167, 0, 4, 3, 62, 28, 29, 184, 0, 168, 61, 132, 4, 1, 167, 255, 222, 28, 172]
abbrev dktX8_longest_2 : List UInt8 := dkwX8_longest_2 ++ []
def dkwX8_longest_1 : List UInt8 := [54, 4, 21, 4, 16, 32, 162, 0, 33, 42, 21, 4, 182, 0, 125, 27, 160, 0, 9, 29, 4, 96]
abbrev dktX8_longest_1 : List UInt8 := dkwX8_longest_1 ++ dktX8_longest_2
def dkwX8_longest_0 : List UInt8 := [42, 3, 181, 0, 45, 27, 184, 0, 122, 154, 0, 9, 42, 4, 182, 0, 58, 172, 3, 61, 3, 62, 3]
abbrev dktX8_longest_0 : List UInt8 := dkwX8_longest_0 ++ dktX8_longest_1
theorem dksX8_longest_0 : cX8_longest.data.toList.drop 0 = dktX8_longest_0 := by decide +kernel
theorem dksX8_longest_1 : cX8_longest.data.toList.drop 23 = dktX8_longest_1 := dk_seg dksX8_longest_0 23 rfl rfl
theorem dksX8_longest_2 : cX8_longest.data.toList.drop 45 = dktX8_longest_2 := dk_seg dksX8_longest_1 22 rfl rfl
theorem dX8_longest_0 : decode cX8_longest 0 = .ok (.aload_n 0, 1) := dk_42 (dk_at dksX8_longest_0 0 rfl rfl)
theorem dX8_longest_1 : decode cX8_longest 1 = .ok (.iconst 0, 1) := dk_3 (dk_at dksX8_longest_0 1 rfl rfl)
theorem dX8_longest_2 : decode cX8_longest 2 = .ok (.putfield 45, 3) := dk_181 0 45 (dk_at dksX8_longest_0 2 rfl rfl)
theorem dX8_longest_5 : decode cX8_longest 5 = .ok (.iload_n 1, 1) := dk_27 (dk_at dksX8_longest_0 5 rfl rfl)
theorem dX8_longest_6 : decode cX8_longest 6 = .ok (.invokestatic 122, 3) := dk_184 0 122 (dk_at dksX8_longest_0 6 rfl rfl)
theorem dX8_longest_9 : decode cX8_longest 9 = .ok (.ifCond .ne 9, 3) := dk_154 0 9 (dk_at dksX8_longest_0 9 rfl rfl)
theorem dX8_longest_12 : decode cX8_longest 12 = .ok (.aload_n 0, 1) := dk_42 (dk_at dksX8_longest_0 12 rfl rfl)
theorem dX8_longest_13 : decode cX8_longest 13 = .ok (.iconst 1, 1) := dk_4 (dk_at dksX8_longest_0 13 rfl rfl)
theorem dX8_longest_14 : decode cX8_longest 14 = .ok (.invokevirtual 58, 3) := dk_182 0 58 (dk_at dksX8_longest_0 14 rfl rfl)
theorem dX8_longest_17 : decode cX8_longest 17 = .ok (.ireturn, 1) := dk_172 (dk_at dksX8_longest_0 17 rfl rfl)
theorem dX8_longest_18 : decode cX8_longest 18 = .ok (.iconst 0, 1) := dk_3 (dk_at dksX8_longest_0 18 rfl rfl)
theorem dX8_longest_19 : decode cX8_longest 19 = .ok (.istore_n 2, 1) := dk_61 (dk_at dksX8_longest_0 19 rfl rfl)
theorem dX8_longest_20 : decode cX8_longest 20 = .ok (.iconst 0, 1) := dk_3 (dk_at dksX8_longest_0 20 rfl rfl)
theorem dX8_longest_21 : decode cX8_longest 21 = .ok (.istore_n 3, 1) := dk_62 (dk_at dksX8_longest_0 21 rfl rfl)
theorem dX8_longest_22 : decode cX8_longest 22 = .ok (.iconst 0, 1) := dk_3 (dk_at dksX8_longest_0 22 rfl rfl)
theorem dX8_longest_23 : decode cX8_longest 23 = .ok (.istore 4, 2) := dk_54 4 (dk_at dksX8_longest_1 0 rfl rfl)
theorem dX8_longest_25 : decode cX8_longest 25 = .ok (.iload 4, 2) := dk_21 4 (dk_at dksX8_longest_1 2 rfl rfl)
theorem dX8_longest_27 : decode cX8_longest 27 = .ok (.bipush 32, 2) := dk_16 32 (dk_at dksX8_longest_1 4 rfl rfl)
theorem dX8_longest_29 : decode cX8_longest 29 = .ok (.if_icmp .ge 33, 3) := dk_162 0 33 (dk_at dksX8_longest_1 6 rfl rfl)
theorem dX8_longest_32 : decode cX8_longest 32 = .ok (.aload_n 0, 1) := dk_42 (dk_at dksX8_longest_1 9 rfl rfl)
theorem dX8_longest_33 : decode cX8_longest 33 = .ok (.iload 4, 2) := dk_21 4 (dk_at dksX8_longest_1 10 rfl rfl)
theorem dX8_longest_35 : decode cX8_longest 35 = .ok (.invokevirtual 125, 3) := dk_182 0 125 (dk_at dksX8_longest_1 12 rfl rfl)
theorem dX8_longest_38 : decode cX8_longest 38 = .ok (.iload_n 1, 1) := dk_27 (dk_at dksX8_longest_1 15 rfl rfl)
theorem dX8_longest_39 : decode cX8_longest 39 = .ok (.if_icmp .ne 9, 3) := dk_160 0 9 (dk_at dksX8_longest_1 16 rfl rfl)
theorem dX8_longest_42 : decode cX8_longest 42 = .ok (.iload_n 3, 1) := dk_29 (dk_at dksX8_longest_1 19 rfl rfl)
theorem dX8_longest_43 : decode cX8_longest 43 = .ok (.iconst 1, 1) := dk_4 (dk_at dksX8_longest_1 20 rfl rfl)
theorem dX8_longest_44 : decode cX8_longest 44 = .ok (.iadd, 1) := dk_96 (dk_at dksX8_longest_1 21 rfl rfl)
theorem dX8_longest_45 : decode cX8_longest 45 = .ok (.goto 4, 3) := dk_167 0 4 (dk_at dksX8_longest_2 0 rfl rfl)
theorem dX8_longest_48 : decode cX8_longest 48 = .ok (.iconst 0, 1) := dk_3 (dk_at dksX8_longest_2 3 rfl rfl)
theorem dX8_longest_49 : decode cX8_longest 49 = .ok (.istore_n 3, 1) := dk_62 (dk_at dksX8_longest_2 4 rfl rfl)
theorem dX8_longest_50 : decode cX8_longest 50 = .ok (.iload_n 2, 1) := dk_28 (dk_at dksX8_longest_2 5 rfl rfl)
theorem dX8_longest_51 : decode cX8_longest 51 = .ok (.iload_n 3, 1) := dk_29 (dk_at dksX8_longest_2 6 rfl rfl)
theorem dX8_longest_52 : decode cX8_longest 52 = .ok (.invokestatic 168, 3) := dk_184 0 168 (dk_at dksX8_longest_2 7 rfl rfl)
theorem dX8_longest_55 : decode cX8_longest 55 = .ok (.istore_n 2, 1) := dk_61 (dk_at dksX8_longest_2 10 rfl rfl)
theorem dX8_longest_56 : decode cX8_longest 56 = .ok (.iinc 4 1, 3) := dk_132 4 1 (dk_at dksX8_longest_2 11 rfl rfl)
theorem dX8_longest_59 : decode cX8_longest 59 = .ok (.goto (-34), 3) := dk_167 255 222 (dk_at dksX8_longest_2 14 rfl rfl)
theorem dX8_longest_62 : decode cX8_longest 62 = .ok (.iload_n 2, 1) := dk_28 (dk_at dksX8_longest_2 17 rfl rfl)
theorem dX8_longest_63 : decode cX8_longest 63 = .ok (.ireturn, 1) := dk_172 (dk_at dksX8_longest_2 18 rfl rfl)
abbrev cX8_worth : ByteArray := prog_19_method_52_code
def yX8_worth : MethodName := ⟨RX8, "worth", "(I)I"⟩
def dkwX8_worth_1 : List UInt8 := [182, 0, 75, 96, 61, 132, 3, 1, 167, 255, 230, 28, 172]
abbrev dktX8_worth_1 : List UInt8 := dkwX8_worth_1 ++ []
def dkwX8_worth_0 : List UInt8 := [3, 61, 3, 62, 29, 16, 32, 162, 0, 26, 42, 29, 182, 0, 125, 27, 160, 0, 11, 28, 42, 29]
abbrev dktX8_worth_0 : List UInt8 := dkwX8_worth_0 ++ dktX8_worth_1
theorem dksX8_worth_0 : cX8_worth.data.toList.drop 0 = dktX8_worth_0 := by decide +kernel
theorem dksX8_worth_1 : cX8_worth.data.toList.drop 22 = dktX8_worth_1 := dk_seg dksX8_worth_0 22 rfl rfl
theorem dX8_worth_0 : decode cX8_worth 0 = .ok (.iconst 0, 1) := dk_3 (dk_at dksX8_worth_0 0 rfl rfl)
theorem dX8_worth_1 : decode cX8_worth 1 = .ok (.istore_n 2, 1) := dk_61 (dk_at dksX8_worth_0 1 rfl rfl)
theorem dX8_worth_2 : decode cX8_worth 2 = .ok (.iconst 0, 1) := dk_3 (dk_at dksX8_worth_0 2 rfl rfl)
theorem dX8_worth_3 : decode cX8_worth 3 = .ok (.istore_n 3, 1) := dk_62 (dk_at dksX8_worth_0 3 rfl rfl)
theorem dX8_worth_4 : decode cX8_worth 4 = .ok (.iload_n 3, 1) := dk_29 (dk_at dksX8_worth_0 4 rfl rfl)
theorem dX8_worth_5 : decode cX8_worth 5 = .ok (.bipush 32, 2) := dk_16 32 (dk_at dksX8_worth_0 5 rfl rfl)
theorem dX8_worth_7 : decode cX8_worth 7 = .ok (.if_icmp .ge 26, 3) := dk_162 0 26 (dk_at dksX8_worth_0 7 rfl rfl)
theorem dX8_worth_10 : decode cX8_worth 10 = .ok (.aload_n 0, 1) := dk_42 (dk_at dksX8_worth_0 10 rfl rfl)
theorem dX8_worth_11 : decode cX8_worth 11 = .ok (.iload_n 3, 1) := dk_29 (dk_at dksX8_worth_0 11 rfl rfl)
theorem dX8_worth_12 : decode cX8_worth 12 = .ok (.invokevirtual 125, 3) := dk_182 0 125 (dk_at dksX8_worth_0 12 rfl rfl)
theorem dX8_worth_15 : decode cX8_worth 15 = .ok (.iload_n 1, 1) := dk_27 (dk_at dksX8_worth_0 15 rfl rfl)
theorem dX8_worth_16 : decode cX8_worth 16 = .ok (.if_icmp .ne 11, 3) := dk_160 0 11 (dk_at dksX8_worth_0 16 rfl rfl)
theorem dX8_worth_19 : decode cX8_worth 19 = .ok (.iload_n 2, 1) := dk_28 (dk_at dksX8_worth_0 19 rfl rfl)
theorem dX8_worth_20 : decode cX8_worth 20 = .ok (.aload_n 0, 1) := dk_42 (dk_at dksX8_worth_0 20 rfl rfl)
theorem dX8_worth_21 : decode cX8_worth 21 = .ok (.iload_n 3, 1) := dk_29 (dk_at dksX8_worth_0 21 rfl rfl)
theorem dX8_worth_22 : decode cX8_worth 22 = .ok (.invokevirtual 75, 3) := dk_182 0 75 (dk_at dksX8_worth_1 0 rfl rfl)
theorem dX8_worth_25 : decode cX8_worth 25 = .ok (.iadd, 1) := dk_96 (dk_at dksX8_worth_1 3 rfl rfl)
theorem dX8_worth_26 : decode cX8_worth 26 = .ok (.istore_n 2, 1) := dk_61 (dk_at dksX8_worth_1 4 rfl rfl)
theorem dX8_worth_27 : decode cX8_worth 27 = .ok (.iinc 3 1, 3) := dk_132 3 1 (dk_at dksX8_worth_1 5 rfl rfl)
theorem dX8_worth_30 : decode cX8_worth 30 = .ok (.goto (-26), 3) := dk_167 255 230 (dk_at dksX8_worth_1 8 rfl rfl)
theorem dX8_worth_33 : decode cX8_worth 33 = .ok (.iload_n 2, 1) := dk_28 (dk_at dksX8_worth_1 11 rfl rfl)
theorem dX8_worth_34 : decode cX8_worth 34 = .ok (.ireturn, 1) := dk_172 (dk_at dksX8_worth_1 12 rfl rfl)
abbrev cX8_many : ByteArray := prog_19_method_53_code
def yX8_many : MethodName := ⟨RX8, "many", "(I)I"⟩
def dkwX8_many_1 : List UInt8 := [132, 3, 1, 167, 255, 235, 28, 172]
abbrev dktX8_many_1 : List UInt8 := dkwX8_many_1 ++ []
def dkwX8_many_0 : List UInt8 := [3, 61, 3, 62, 29, 16, 32, 162, 0, 21, 42, 29, 182, 0, 125, 27, 160, 0, 6, 132, 2, 1]
abbrev dktX8_many_0 : List UInt8 := dkwX8_many_0 ++ dktX8_many_1
theorem dksX8_many_0 : cX8_many.data.toList.drop 0 = dktX8_many_0 := by decide +kernel
theorem dksX8_many_1 : cX8_many.data.toList.drop 22 = dktX8_many_1 := dk_seg dksX8_many_0 22 rfl rfl
theorem dX8_many_0 : decode cX8_many 0 = .ok (.iconst 0, 1) := dk_3 (dk_at dksX8_many_0 0 rfl rfl)
theorem dX8_many_1 : decode cX8_many 1 = .ok (.istore_n 2, 1) := dk_61 (dk_at dksX8_many_0 1 rfl rfl)
theorem dX8_many_2 : decode cX8_many 2 = .ok (.iconst 0, 1) := dk_3 (dk_at dksX8_many_0 2 rfl rfl)
theorem dX8_many_3 : decode cX8_many 3 = .ok (.istore_n 3, 1) := dk_62 (dk_at dksX8_many_0 3 rfl rfl)
theorem dX8_many_4 : decode cX8_many 4 = .ok (.iload_n 3, 1) := dk_29 (dk_at dksX8_many_0 4 rfl rfl)
theorem dX8_many_5 : decode cX8_many 5 = .ok (.bipush 32, 2) := dk_16 32 (dk_at dksX8_many_0 5 rfl rfl)
theorem dX8_many_7 : decode cX8_many 7 = .ok (.if_icmp .ge 21, 3) := dk_162 0 21 (dk_at dksX8_many_0 7 rfl rfl)
theorem dX8_many_10 : decode cX8_many 10 = .ok (.aload_n 0, 1) := dk_42 (dk_at dksX8_many_0 10 rfl rfl)
theorem dX8_many_11 : decode cX8_many 11 = .ok (.iload_n 3, 1) := dk_29 (dk_at dksX8_many_0 11 rfl rfl)
theorem dX8_many_12 : decode cX8_many 12 = .ok (.invokevirtual 125, 3) := dk_182 0 125 (dk_at dksX8_many_0 12 rfl rfl)
theorem dX8_many_15 : decode cX8_many 15 = .ok (.iload_n 1, 1) := dk_27 (dk_at dksX8_many_0 15 rfl rfl)
theorem dX8_many_16 : decode cX8_many 16 = .ok (.if_icmp .ne 6, 3) := dk_160 0 6 (dk_at dksX8_many_0 16 rfl rfl)
theorem dX8_many_19 : decode cX8_many 19 = .ok (.iinc 2 1, 3) := dk_132 2 1 (dk_at dksX8_many_0 19 rfl rfl)
theorem dX8_many_22 : decode cX8_many 22 = .ok (.iinc 3 1, 3) := dk_132 3 1 (dk_at dksX8_many_1 0 rfl rfl)
theorem dX8_many_25 : decode cX8_many 25 = .ok (.goto (-21), 3) := dk_167 255 235 (dk_at dksX8_many_1 3 rfl rfl)
theorem dX8_many_28 : decode cX8_many 28 = .ok (.iload_n 2, 1) := dk_28 (dk_at dksX8_many_1 6 rfl rfl)
theorem dX8_many_29 : decode cX8_many 29 = .ok (.ireturn, 1) := dk_172 (dk_at dksX8_many_1 7 rfl rfl)
abbrev cX8_sumOf : ByteArray := prog_19_method_54_code
def yX8_sumOf : MethodName := ⟨RX8, "sumOf", "(I)I"⟩
def dkwX8_sumOf_1 : List UInt8 := [182, 0, 58, 172]
abbrev dktX8_sumOf_1 : List UInt8 := dkwX8_sumOf_1 ++ []
def dkwX8_sumOf_0 : List UInt8 := [42, 3, 181, 0, 45, 27, 184, 0, 122, 153, 0, 11, 42, 27, 182, 0, 173, 167, 0, 8, 42, 4]
abbrev dktX8_sumOf_0 : List UInt8 := dkwX8_sumOf_0 ++ dktX8_sumOf_1
theorem dksX8_sumOf_0 : cX8_sumOf.data.toList.drop 0 = dktX8_sumOf_0 := by decide +kernel
theorem dksX8_sumOf_1 : cX8_sumOf.data.toList.drop 22 = dktX8_sumOf_1 := dk_seg dksX8_sumOf_0 22 rfl rfl
theorem dX8_sumOf_0 : decode cX8_sumOf 0 = .ok (.aload_n 0, 1) := dk_42 (dk_at dksX8_sumOf_0 0 rfl rfl)
theorem dX8_sumOf_1 : decode cX8_sumOf 1 = .ok (.iconst 0, 1) := dk_3 (dk_at dksX8_sumOf_0 1 rfl rfl)
theorem dX8_sumOf_2 : decode cX8_sumOf 2 = .ok (.putfield 45, 3) := dk_181 0 45 (dk_at dksX8_sumOf_0 2 rfl rfl)
theorem dX8_sumOf_5 : decode cX8_sumOf 5 = .ok (.iload_n 1, 1) := dk_27 (dk_at dksX8_sumOf_0 5 rfl rfl)
theorem dX8_sumOf_6 : decode cX8_sumOf 6 = .ok (.invokestatic 122, 3) := dk_184 0 122 (dk_at dksX8_sumOf_0 6 rfl rfl)
theorem dX8_sumOf_9 : decode cX8_sumOf 9 = .ok (.ifCond .eq 11, 3) := dk_153 0 11 (dk_at dksX8_sumOf_0 9 rfl rfl)
theorem dX8_sumOf_12 : decode cX8_sumOf 12 = .ok (.aload_n 0, 1) := dk_42 (dk_at dksX8_sumOf_0 12 rfl rfl)
theorem dX8_sumOf_13 : decode cX8_sumOf 13 = .ok (.iload_n 1, 1) := dk_27 (dk_at dksX8_sumOf_0 13 rfl rfl)
theorem dX8_sumOf_14 : decode cX8_sumOf 14 = .ok (.invokevirtual 173, 3) := dk_182 0 173 (dk_at dksX8_sumOf_0 14 rfl rfl)
theorem dX8_sumOf_17 : decode cX8_sumOf 17 = .ok (.goto 8, 3) := dk_167 0 8 (dk_at dksX8_sumOf_0 17 rfl rfl)
theorem dX8_sumOf_20 : decode cX8_sumOf 20 = .ok (.aload_n 0, 1) := dk_42 (dk_at dksX8_sumOf_0 20 rfl rfl)
theorem dX8_sumOf_21 : decode cX8_sumOf 21 = .ok (.iconst 1, 1) := dk_4 (dk_at dksX8_sumOf_0 21 rfl rfl)
theorem dX8_sumOf_22 : decode cX8_sumOf 22 = .ok (.invokevirtual 58, 3) := dk_182 0 58 (dk_at dksX8_sumOf_1 0 rfl rfl)
theorem dX8_sumOf_25 : decode cX8_sumOf 25 = .ok (.ireturn, 1) := dk_172 (dk_at dksX8_sumOf_1 3 rfl rfl)
abbrev cX8_isAhead : ByteArray := prog_19_method_55_code
def yX8_isAhead : MethodName := ⟨RX8, "isAhead", "(II)Z"⟩
def dkwX8_isAhead_1 : List UInt8 := [182, 0, 176, 100, 62, 29, 157, 0, 12, 29, 154, 0, 12, 27, 28, 162, 0, 7, 4, 167, 0, 4, 3, 172]
abbrev dktX8_isAhead_1 : List UInt8 := dkwX8_isAhead_1 ++ []
def dkwX8_isAhead_0 : List UInt8 := [42, 27, 182, 0, 173, 42, 28, 182, 0, 173, 100, 62, 29, 154, 0, 15, 42, 27, 182, 0, 176, 42, 28]
abbrev dktX8_isAhead_0 : List UInt8 := dkwX8_isAhead_0 ++ dktX8_isAhead_1
theorem dksX8_isAhead_0 : cX8_isAhead.data.toList.drop 0 = dktX8_isAhead_0 := by decide +kernel
theorem dksX8_isAhead_1 : cX8_isAhead.data.toList.drop 23 = dktX8_isAhead_1 := dk_seg dksX8_isAhead_0 23 rfl rfl
theorem dX8_isAhead_0 : decode cX8_isAhead 0 = .ok (.aload_n 0, 1) := dk_42 (dk_at dksX8_isAhead_0 0 rfl rfl)
theorem dX8_isAhead_1 : decode cX8_isAhead 1 = .ok (.iload_n 1, 1) := dk_27 (dk_at dksX8_isAhead_0 1 rfl rfl)
theorem dX8_isAhead_2 : decode cX8_isAhead 2 = .ok (.invokevirtual 173, 3) := dk_182 0 173 (dk_at dksX8_isAhead_0 2 rfl rfl)
theorem dX8_isAhead_5 : decode cX8_isAhead 5 = .ok (.aload_n 0, 1) := dk_42 (dk_at dksX8_isAhead_0 5 rfl rfl)
theorem dX8_isAhead_6 : decode cX8_isAhead 6 = .ok (.iload_n 2, 1) := dk_28 (dk_at dksX8_isAhead_0 6 rfl rfl)
theorem dX8_isAhead_7 : decode cX8_isAhead 7 = .ok (.invokevirtual 173, 3) := dk_182 0 173 (dk_at dksX8_isAhead_0 7 rfl rfl)
theorem dX8_isAhead_10 : decode cX8_isAhead 10 = .ok (.isub, 1) := dk_100 (dk_at dksX8_isAhead_0 10 rfl rfl)
theorem dX8_isAhead_11 : decode cX8_isAhead 11 = .ok (.istore_n 3, 1) := dk_62 (dk_at dksX8_isAhead_0 11 rfl rfl)
theorem dX8_isAhead_12 : decode cX8_isAhead 12 = .ok (.iload_n 3, 1) := dk_29 (dk_at dksX8_isAhead_0 12 rfl rfl)
theorem dX8_isAhead_13 : decode cX8_isAhead 13 = .ok (.ifCond .ne 15, 3) := dk_154 0 15 (dk_at dksX8_isAhead_0 13 rfl rfl)
theorem dX8_isAhead_16 : decode cX8_isAhead 16 = .ok (.aload_n 0, 1) := dk_42 (dk_at dksX8_isAhead_0 16 rfl rfl)
theorem dX8_isAhead_17 : decode cX8_isAhead 17 = .ok (.iload_n 1, 1) := dk_27 (dk_at dksX8_isAhead_0 17 rfl rfl)
theorem dX8_isAhead_18 : decode cX8_isAhead 18 = .ok (.invokevirtual 176, 3) := dk_182 0 176 (dk_at dksX8_isAhead_0 18 rfl rfl)
theorem dX8_isAhead_21 : decode cX8_isAhead 21 = .ok (.aload_n 0, 1) := dk_42 (dk_at dksX8_isAhead_0 21 rfl rfl)
theorem dX8_isAhead_22 : decode cX8_isAhead 22 = .ok (.iload_n 2, 1) := dk_28 (dk_at dksX8_isAhead_0 22 rfl rfl)
theorem dX8_isAhead_23 : decode cX8_isAhead 23 = .ok (.invokevirtual 176, 3) := dk_182 0 176 (dk_at dksX8_isAhead_1 0 rfl rfl)
theorem dX8_isAhead_26 : decode cX8_isAhead 26 = .ok (.isub, 1) := dk_100 (dk_at dksX8_isAhead_1 3 rfl rfl)
theorem dX8_isAhead_27 : decode cX8_isAhead 27 = .ok (.istore_n 3, 1) := dk_62 (dk_at dksX8_isAhead_1 4 rfl rfl)
theorem dX8_isAhead_28 : decode cX8_isAhead 28 = .ok (.iload_n 3, 1) := dk_29 (dk_at dksX8_isAhead_1 5 rfl rfl)
theorem dX8_isAhead_29 : decode cX8_isAhead 29 = .ok (.ifCond .gt 12, 3) := dk_157 0 12 (dk_at dksX8_isAhead_1 6 rfl rfl)
theorem dX8_isAhead_32 : decode cX8_isAhead 32 = .ok (.iload_n 3, 1) := dk_29 (dk_at dksX8_isAhead_1 9 rfl rfl)
theorem dX8_isAhead_33 : decode cX8_isAhead 33 = .ok (.ifCond .ne 12, 3) := dk_154 0 12 (dk_at dksX8_isAhead_1 10 rfl rfl)
theorem dX8_isAhead_36 : decode cX8_isAhead 36 = .ok (.iload_n 1, 1) := dk_27 (dk_at dksX8_isAhead_1 13 rfl rfl)
theorem dX8_isAhead_37 : decode cX8_isAhead 37 = .ok (.iload_n 2, 1) := dk_28 (dk_at dksX8_isAhead_1 14 rfl rfl)
theorem dX8_isAhead_38 : decode cX8_isAhead 38 = .ok (.if_icmp .ge 7, 3) := dk_162 0 7 (dk_at dksX8_isAhead_1 15 rfl rfl)
theorem dX8_isAhead_41 : decode cX8_isAhead 41 = .ok (.iconst 1, 1) := dk_4 (dk_at dksX8_isAhead_1 18 rfl rfl)
theorem dX8_isAhead_42 : decode cX8_isAhead 42 = .ok (.goto 4, 3) := dk_167 0 4 (dk_at dksX8_isAhead_1 19 rfl rfl)
theorem dX8_isAhead_45 : decode cX8_isAhead 45 = .ok (.iconst 0, 1) := dk_3 (dk_at dksX8_isAhead_1 22 rfl rfl)
theorem dX8_isAhead_46 : decode cX8_isAhead 46 = .ok (.ireturn, 1) := dk_172 (dk_at dksX8_isAhead_1 23 rfl rfl)
abbrev cX8_ranked : ByteArray := prog_19_method_56_code
def yX8_ranked : MethodName := ⟨RX8, "ranked", "(I)I"⟩
def dkwX8_ranked_2 : List UInt8 := [167, 255, 228, 29, 27, 160, 0, 5, 28, 172, 132, 2, 1, 167, 255, 205, 42, 4, 182, 0, 58, 172]
abbrev dktX8_ranked_2 : List UInt8 := dkwX8_ranked_2 ++ []
def dkwX8_ranked_1 : List UInt8 := [21, 4, 28, 159, 0, 16, 42, 21, 4, 28, 182, 0, 179, 153, 0, 6, 132, 3, 1, 132, 4, 1]
abbrev dktX8_ranked_1 : List UInt8 := dkwX8_ranked_1 ++ dktX8_ranked_2
def dkwX8_ranked_0 : List UInt8 := [42, 3, 181, 0, 45, 3, 61, 28, 7, 162, 0, 52, 3, 62, 3, 54, 4, 21, 4, 7, 162, 0, 28]
abbrev dktX8_ranked_0 : List UInt8 := dkwX8_ranked_0 ++ dktX8_ranked_1
theorem dksX8_ranked_0 : cX8_ranked.data.toList.drop 0 = dktX8_ranked_0 := by decide +kernel
theorem dksX8_ranked_1 : cX8_ranked.data.toList.drop 23 = dktX8_ranked_1 := dk_seg dksX8_ranked_0 23 rfl rfl
theorem dksX8_ranked_2 : cX8_ranked.data.toList.drop 45 = dktX8_ranked_2 := dk_seg dksX8_ranked_1 22 rfl rfl
theorem dX8_ranked_0 : decode cX8_ranked 0 = .ok (.aload_n 0, 1) := dk_42 (dk_at dksX8_ranked_0 0 rfl rfl)
theorem dX8_ranked_1 : decode cX8_ranked 1 = .ok (.iconst 0, 1) := dk_3 (dk_at dksX8_ranked_0 1 rfl rfl)
theorem dX8_ranked_2 : decode cX8_ranked 2 = .ok (.putfield 45, 3) := dk_181 0 45 (dk_at dksX8_ranked_0 2 rfl rfl)
theorem dX8_ranked_5 : decode cX8_ranked 5 = .ok (.iconst 0, 1) := dk_3 (dk_at dksX8_ranked_0 5 rfl rfl)
theorem dX8_ranked_6 : decode cX8_ranked 6 = .ok (.istore_n 2, 1) := dk_61 (dk_at dksX8_ranked_0 6 rfl rfl)
theorem dX8_ranked_7 : decode cX8_ranked 7 = .ok (.iload_n 2, 1) := dk_28 (dk_at dksX8_ranked_0 7 rfl rfl)
theorem dX8_ranked_8 : decode cX8_ranked 8 = .ok (.iconst 4, 1) := dk_7 (dk_at dksX8_ranked_0 8 rfl rfl)
theorem dX8_ranked_9 : decode cX8_ranked 9 = .ok (.if_icmp .ge 52, 3) := dk_162 0 52 (dk_at dksX8_ranked_0 9 rfl rfl)
theorem dX8_ranked_12 : decode cX8_ranked 12 = .ok (.iconst 0, 1) := dk_3 (dk_at dksX8_ranked_0 12 rfl rfl)
theorem dX8_ranked_13 : decode cX8_ranked 13 = .ok (.istore_n 3, 1) := dk_62 (dk_at dksX8_ranked_0 13 rfl rfl)
theorem dX8_ranked_14 : decode cX8_ranked 14 = .ok (.iconst 0, 1) := dk_3 (dk_at dksX8_ranked_0 14 rfl rfl)
theorem dX8_ranked_15 : decode cX8_ranked 15 = .ok (.istore 4, 2) := dk_54 4 (dk_at dksX8_ranked_0 15 rfl rfl)
theorem dX8_ranked_17 : decode cX8_ranked 17 = .ok (.iload 4, 2) := dk_21 4 (dk_at dksX8_ranked_0 17 rfl rfl)
theorem dX8_ranked_19 : decode cX8_ranked 19 = .ok (.iconst 4, 1) := dk_7 (dk_at dksX8_ranked_0 19 rfl rfl)
theorem dX8_ranked_20 : decode cX8_ranked 20 = .ok (.if_icmp .ge 28, 3) := dk_162 0 28 (dk_at dksX8_ranked_0 20 rfl rfl)
theorem dX8_ranked_23 : decode cX8_ranked 23 = .ok (.iload 4, 2) := dk_21 4 (dk_at dksX8_ranked_1 0 rfl rfl)
theorem dX8_ranked_25 : decode cX8_ranked 25 = .ok (.iload_n 2, 1) := dk_28 (dk_at dksX8_ranked_1 2 rfl rfl)
theorem dX8_ranked_26 : decode cX8_ranked 26 = .ok (.if_icmp .eq 16, 3) := dk_159 0 16 (dk_at dksX8_ranked_1 3 rfl rfl)
theorem dX8_ranked_29 : decode cX8_ranked 29 = .ok (.aload_n 0, 1) := dk_42 (dk_at dksX8_ranked_1 6 rfl rfl)
theorem dX8_ranked_30 : decode cX8_ranked 30 = .ok (.iload 4, 2) := dk_21 4 (dk_at dksX8_ranked_1 7 rfl rfl)
theorem dX8_ranked_32 : decode cX8_ranked 32 = .ok (.iload_n 2, 1) := dk_28 (dk_at dksX8_ranked_1 9 rfl rfl)
theorem dX8_ranked_33 : decode cX8_ranked 33 = .ok (.invokevirtual 179, 3) := dk_182 0 179 (dk_at dksX8_ranked_1 10 rfl rfl)
theorem dX8_ranked_36 : decode cX8_ranked 36 = .ok (.ifCond .eq 6, 3) := dk_153 0 6 (dk_at dksX8_ranked_1 13 rfl rfl)
theorem dX8_ranked_39 : decode cX8_ranked 39 = .ok (.iinc 3 1, 3) := dk_132 3 1 (dk_at dksX8_ranked_1 16 rfl rfl)
theorem dX8_ranked_42 : decode cX8_ranked 42 = .ok (.iinc 4 1, 3) := dk_132 4 1 (dk_at dksX8_ranked_1 19 rfl rfl)
theorem dX8_ranked_45 : decode cX8_ranked 45 = .ok (.goto (-28), 3) := dk_167 255 228 (dk_at dksX8_ranked_2 0 rfl rfl)
theorem dX8_ranked_48 : decode cX8_ranked 48 = .ok (.iload_n 3, 1) := dk_29 (dk_at dksX8_ranked_2 3 rfl rfl)
theorem dX8_ranked_49 : decode cX8_ranked 49 = .ok (.iload_n 1, 1) := dk_27 (dk_at dksX8_ranked_2 4 rfl rfl)
theorem dX8_ranked_50 : decode cX8_ranked 50 = .ok (.if_icmp .ne 5, 3) := dk_160 0 5 (dk_at dksX8_ranked_2 5 rfl rfl)
theorem dX8_ranked_53 : decode cX8_ranked 53 = .ok (.iload_n 2, 1) := dk_28 (dk_at dksX8_ranked_2 8 rfl rfl)
theorem dX8_ranked_54 : decode cX8_ranked 54 = .ok (.ireturn, 1) := dk_172 (dk_at dksX8_ranked_2 9 rfl rfl)
theorem dX8_ranked_55 : decode cX8_ranked 55 = .ok (.iinc 2 1, 3) := dk_132 2 1 (dk_at dksX8_ranked_2 10 rfl rfl)
theorem dX8_ranked_58 : decode cX8_ranked 58 = .ok (.goto (-51), 3) := dk_167 255 205 (dk_at dksX8_ranked_2 13 rfl rfl)
theorem dX8_ranked_61 : decode cX8_ranked 61 = .ok (.aload_n 0, 1) := dk_42 (dk_at dksX8_ranked_2 16 rfl rfl)
theorem dX8_ranked_62 : decode cX8_ranked 62 = .ok (.iconst 1, 1) := dk_4 (dk_at dksX8_ranked_2 17 rfl rfl)
theorem dX8_ranked_63 : decode cX8_ranked 63 = .ok (.invokevirtual 58, 3) := dk_182 0 58 (dk_at dksX8_ranked_2 18 rfl rfl)
theorem dX8_ranked_66 : decode cX8_ranked 66 = .ok (.ireturn, 1) := dk_172 (dk_at dksX8_ranked_2 21 rfl rfl)
abbrev cX8_keepsVersion : ByteArray := prog_19_method_57_code
def yX8_keepsVersion : MethodName := ⟨RX8, "keepsVersion", "()I"⟩
def dkwX8_keepsVersion_2 : List UInt8 := [46, 79, 132, 2, 1, 167, 255, 224, 42, 180, 0, 9, 5, 92, 46, 4, 96, 79, 42, 27, 182, 0, 104, 172]
abbrev dktX8_keepsVersion_2 : List UInt8 := dkwX8_keepsVersion_2 ++ []
def dkwX8_keepsVersion_1 : List UInt8 := [162, 0, 32, 42, 180, 0, 9, 16, 122, 16, 64, 27, 104, 96, 28, 96, 42, 180, 0, 9, 16, 8, 28, 96]
abbrev dktX8_keepsVersion_1 : List UInt8 := dkwX8_keepsVersion_1 ++ dktX8_keepsVersion_2
def dkwX8_keepsVersion_0 : List UInt8 := [42, 180, 0, 9, 5, 46, 60, 27, 8, 160, 0, 10, 42, 4, 8, 182, 0, 93, 172, 3, 61, 28, 16, 64]
abbrev dktX8_keepsVersion_0 : List UInt8 := dkwX8_keepsVersion_0 ++ dktX8_keepsVersion_1
theorem dksX8_keepsVersion_0 : cX8_keepsVersion.data.toList.drop 0 = dktX8_keepsVersion_0 := by decide +kernel
theorem dksX8_keepsVersion_1 : cX8_keepsVersion.data.toList.drop 24 = dktX8_keepsVersion_1 := dk_seg dksX8_keepsVersion_0 24 rfl rfl
theorem dksX8_keepsVersion_2 : cX8_keepsVersion.data.toList.drop 48 = dktX8_keepsVersion_2 := dk_seg dksX8_keepsVersion_1 24 rfl rfl
theorem dX8_keepsVersion_0 : decode cX8_keepsVersion 0 = .ok (.aload_n 0, 1) := dk_42 (dk_at dksX8_keepsVersion_0 0 rfl rfl)
theorem dX8_keepsVersion_1 : decode cX8_keepsVersion 1 = .ok (.getfield 9, 3) := dk_180 0 9 (dk_at dksX8_keepsVersion_0 1 rfl rfl)
theorem dX8_keepsVersion_4 : decode cX8_keepsVersion 4 = .ok (.iconst 2, 1) := dk_5 (dk_at dksX8_keepsVersion_0 4 rfl rfl)
theorem dX8_keepsVersion_5 : decode cX8_keepsVersion 5 = .ok (.iaload, 1) := dk_46 (dk_at dksX8_keepsVersion_0 5 rfl rfl)
theorem dX8_keepsVersion_6 : decode cX8_keepsVersion 6 = .ok (.istore_n 1, 1) := dk_60 (dk_at dksX8_keepsVersion_0 6 rfl rfl)
theorem dX8_keepsVersion_7 : decode cX8_keepsVersion 7 = .ok (.iload_n 1, 1) := dk_27 (dk_at dksX8_keepsVersion_0 7 rfl rfl)
theorem dX8_keepsVersion_8 : decode cX8_keepsVersion 8 = .ok (.iconst 5, 1) := dk_8 (dk_at dksX8_keepsVersion_0 8 rfl rfl)
theorem dX8_keepsVersion_9 : decode cX8_keepsVersion 9 = .ok (.if_icmp .ne 10, 3) := dk_160 0 10 (dk_at dksX8_keepsVersion_0 9 rfl rfl)
theorem dX8_keepsVersion_12 : decode cX8_keepsVersion 12 = .ok (.aload_n 0, 1) := dk_42 (dk_at dksX8_keepsVersion_0 12 rfl rfl)
theorem dX8_keepsVersion_13 : decode cX8_keepsVersion 13 = .ok (.iconst 1, 1) := dk_4 (dk_at dksX8_keepsVersion_0 13 rfl rfl)
theorem dX8_keepsVersion_14 : decode cX8_keepsVersion 14 = .ok (.iconst 5, 1) := dk_8 (dk_at dksX8_keepsVersion_0 14 rfl rfl)
theorem dX8_keepsVersion_15 : decode cX8_keepsVersion 15 = .ok (.invokevirtual 93, 3) := dk_182 0 93 (dk_at dksX8_keepsVersion_0 15 rfl rfl)
theorem dX8_keepsVersion_18 : decode cX8_keepsVersion 18 = .ok (.ireturn, 1) := dk_172 (dk_at dksX8_keepsVersion_0 18 rfl rfl)
theorem dX8_keepsVersion_19 : decode cX8_keepsVersion 19 = .ok (.iconst 0, 1) := dk_3 (dk_at dksX8_keepsVersion_0 19 rfl rfl)
theorem dX8_keepsVersion_20 : decode cX8_keepsVersion 20 = .ok (.istore_n 2, 1) := dk_61 (dk_at dksX8_keepsVersion_0 20 rfl rfl)
theorem dX8_keepsVersion_21 : decode cX8_keepsVersion 21 = .ok (.iload_n 2, 1) := dk_28 (dk_at dksX8_keepsVersion_0 21 rfl rfl)
theorem dX8_keepsVersion_22 : decode cX8_keepsVersion 22 = .ok (.bipush 64, 2) := dk_16 64 (dk_at dksX8_keepsVersion_0 22 rfl rfl)
theorem dX8_keepsVersion_24 : decode cX8_keepsVersion 24 = .ok (.if_icmp .ge 32, 3) := dk_162 0 32 (dk_at dksX8_keepsVersion_1 0 rfl rfl)
theorem dX8_keepsVersion_27 : decode cX8_keepsVersion 27 = .ok (.aload_n 0, 1) := dk_42 (dk_at dksX8_keepsVersion_1 3 rfl rfl)
theorem dX8_keepsVersion_28 : decode cX8_keepsVersion 28 = .ok (.getfield 9, 3) := dk_180 0 9 (dk_at dksX8_keepsVersion_1 4 rfl rfl)
theorem dX8_keepsVersion_31 : decode cX8_keepsVersion 31 = .ok (.bipush 122, 2) := dk_16 122 (dk_at dksX8_keepsVersion_1 7 rfl rfl)
theorem dX8_keepsVersion_33 : decode cX8_keepsVersion 33 = .ok (.bipush 64, 2) := dk_16 64 (dk_at dksX8_keepsVersion_1 9 rfl rfl)
theorem dX8_keepsVersion_35 : decode cX8_keepsVersion 35 = .ok (.iload_n 1, 1) := dk_27 (dk_at dksX8_keepsVersion_1 11 rfl rfl)
theorem dX8_keepsVersion_36 : decode cX8_keepsVersion 36 = .ok (.imul, 1) := dk_104 (dk_at dksX8_keepsVersion_1 12 rfl rfl)
theorem dX8_keepsVersion_37 : decode cX8_keepsVersion 37 = .ok (.iadd, 1) := dk_96 (dk_at dksX8_keepsVersion_1 13 rfl rfl)
theorem dX8_keepsVersion_38 : decode cX8_keepsVersion 38 = .ok (.iload_n 2, 1) := dk_28 (dk_at dksX8_keepsVersion_1 14 rfl rfl)
theorem dX8_keepsVersion_39 : decode cX8_keepsVersion 39 = .ok (.iadd, 1) := dk_96 (dk_at dksX8_keepsVersion_1 15 rfl rfl)
theorem dX8_keepsVersion_40 : decode cX8_keepsVersion 40 = .ok (.aload_n 0, 1) := dk_42 (dk_at dksX8_keepsVersion_1 16 rfl rfl)
theorem dX8_keepsVersion_41 : decode cX8_keepsVersion 41 = .ok (.getfield 9, 3) := dk_180 0 9 (dk_at dksX8_keepsVersion_1 17 rfl rfl)
theorem dX8_keepsVersion_44 : decode cX8_keepsVersion 44 = .ok (.bipush 8, 2) := dk_16 8 (dk_at dksX8_keepsVersion_1 20 rfl rfl)
theorem dX8_keepsVersion_46 : decode cX8_keepsVersion 46 = .ok (.iload_n 2, 1) := dk_28 (dk_at dksX8_keepsVersion_1 22 rfl rfl)
theorem dX8_keepsVersion_47 : decode cX8_keepsVersion 47 = .ok (.iadd, 1) := dk_96 (dk_at dksX8_keepsVersion_1 23 rfl rfl)
theorem dX8_keepsVersion_48 : decode cX8_keepsVersion 48 = .ok (.iaload, 1) := dk_46 (dk_at dksX8_keepsVersion_2 0 rfl rfl)
theorem dX8_keepsVersion_49 : decode cX8_keepsVersion 49 = .ok (.iastore, 1) := dk_79 (dk_at dksX8_keepsVersion_2 1 rfl rfl)
theorem dX8_keepsVersion_50 : decode cX8_keepsVersion 50 = .ok (.iinc 2 1, 3) := dk_132 2 1 (dk_at dksX8_keepsVersion_2 2 rfl rfl)
theorem dX8_keepsVersion_53 : decode cX8_keepsVersion 53 = .ok (.goto (-32), 3) := dk_167 255 224 (dk_at dksX8_keepsVersion_2 5 rfl rfl)
theorem dX8_keepsVersion_56 : decode cX8_keepsVersion 56 = .ok (.aload_n 0, 1) := dk_42 (dk_at dksX8_keepsVersion_2 8 rfl rfl)
theorem dX8_keepsVersion_57 : decode cX8_keepsVersion 57 = .ok (.getfield 9, 3) := dk_180 0 9 (dk_at dksX8_keepsVersion_2 9 rfl rfl)
theorem dX8_keepsVersion_60 : decode cX8_keepsVersion 60 = .ok (.iconst 2, 1) := dk_5 (dk_at dksX8_keepsVersion_2 12 rfl rfl)
theorem dX8_keepsVersion_61 : decode cX8_keepsVersion 61 = .ok (.dup2, 1) := dk_92 (dk_at dksX8_keepsVersion_2 13 rfl rfl)
theorem dX8_keepsVersion_62 : decode cX8_keepsVersion 62 = .ok (.iaload, 1) := dk_46 (dk_at dksX8_keepsVersion_2 14 rfl rfl)
theorem dX8_keepsVersion_63 : decode cX8_keepsVersion 63 = .ok (.iconst 1, 1) := dk_4 (dk_at dksX8_keepsVersion_2 15 rfl rfl)
theorem dX8_keepsVersion_64 : decode cX8_keepsVersion 64 = .ok (.iadd, 1) := dk_96 (dk_at dksX8_keepsVersion_2 16 rfl rfl)
theorem dX8_keepsVersion_65 : decode cX8_keepsVersion 65 = .ok (.iastore, 1) := dk_79 (dk_at dksX8_keepsVersion_2 17 rfl rfl)
theorem dX8_keepsVersion_66 : decode cX8_keepsVersion 66 = .ok (.aload_n 0, 1) := dk_42 (dk_at dksX8_keepsVersion_2 18 rfl rfl)
theorem dX8_keepsVersion_67 : decode cX8_keepsVersion 67 = .ok (.iload_n 1, 1) := dk_27 (dk_at dksX8_keepsVersion_2 19 rfl rfl)
theorem dX8_keepsVersion_68 : decode cX8_keepsVersion 68 = .ok (.invokevirtual 104, 3) := dk_182 0 104 (dk_at dksX8_keepsVersion_2 20 rfl rfl)
theorem dX8_keepsVersion_71 : decode cX8_keepsVersion 71 = .ok (.ireturn, 1) := dk_172 (dk_at dksX8_keepsVersion_2 23 rfl rfl)
abbrev cX8_keep : ByteArray := prog_19_method_58_code
def yX8_keep : MethodName := ⟨RX8, "keep", "()I"⟩
def dkwX8_keep_1 : List UInt8 := [182, 0, 58, 172]
abbrev dktX8_keep_1 : List UInt8 := dkwX8_keep_1 ++ []
def dkwX8_keep_0 : List UInt8 := [42, 182, 0, 107, 42, 182, 0, 182, 154, 0, 14, 42, 42, 180, 0, 51, 182, 0, 54, 167, 0, 8, 42, 4]
abbrev dktX8_keep_0 : List UInt8 := dkwX8_keep_0 ++ dktX8_keep_1
theorem dksX8_keep_0 : cX8_keep.data.toList.drop 0 = dktX8_keep_0 := by decide +kernel
theorem dksX8_keep_1 : cX8_keep.data.toList.drop 24 = dktX8_keep_1 := dk_seg dksX8_keep_0 24 rfl rfl
theorem dX8_keep_0 : decode cX8_keep 0 = .ok (.aload_n 0, 1) := dk_42 (dk_at dksX8_keep_0 0 rfl rfl)
theorem dX8_keep_1 : decode cX8_keep 1 = .ok (.invokevirtual 107, 3) := dk_182 0 107 (dk_at dksX8_keep_0 1 rfl rfl)
theorem dX8_keep_4 : decode cX8_keep 4 = .ok (.aload_n 0, 1) := dk_42 (dk_at dksX8_keep_0 4 rfl rfl)
theorem dX8_keep_5 : decode cX8_keep 5 = .ok (.invokevirtual 182, 3) := dk_182 0 182 (dk_at dksX8_keep_0 5 rfl rfl)
theorem dX8_keep_8 : decode cX8_keep 8 = .ok (.ifCond .ne 14, 3) := dk_154 0 14 (dk_at dksX8_keep_0 8 rfl rfl)
theorem dX8_keep_11 : decode cX8_keep 11 = .ok (.aload_n 0, 1) := dk_42 (dk_at dksX8_keep_0 11 rfl rfl)
theorem dX8_keep_12 : decode cX8_keep 12 = .ok (.aload_n 0, 1) := dk_42 (dk_at dksX8_keep_0 12 rfl rfl)
theorem dX8_keep_13 : decode cX8_keep 13 = .ok (.getfield 51, 3) := dk_180 0 51 (dk_at dksX8_keep_0 13 rfl rfl)
theorem dX8_keep_16 : decode cX8_keep 16 = .ok (.invokevirtual 54, 3) := dk_182 0 54 (dk_at dksX8_keep_0 16 rfl rfl)
theorem dX8_keep_19 : decode cX8_keep 19 = .ok (.goto 8, 3) := dk_167 0 8 (dk_at dksX8_keep_0 19 rfl rfl)
theorem dX8_keep_22 : decode cX8_keep 22 = .ok (.aload_n 0, 1) := dk_42 (dk_at dksX8_keep_0 22 rfl rfl)
theorem dX8_keep_23 : decode cX8_keep 23 = .ok (.iconst 1, 1) := dk_4 (dk_at dksX8_keep_0 23 rfl rfl)
theorem dX8_keep_24 : decode cX8_keep 24 = .ok (.invokevirtual 58, 3) := dk_182 0 58 (dk_at dksX8_keep_1 0 rfl rfl)
theorem dX8_keep_27 : decode cX8_keep 27 = .ok (.ireturn, 1) := dk_172 (dk_at dksX8_keep_1 3 rfl rfl)
abbrev cX8_isVersion : ByteArray := prog_19_method_59_code
def yX8_isVersion : MethodName := ⟨RX8, "isVersion", "(I)Z"⟩
def dkwX8_isVersion_0 : List UInt8 := [27, 3, 42, 180, 0, 9, 5, 46, 4, 100, 184, 0, 67, 172]
abbrev dktX8_isVersion_0 : List UInt8 := dkwX8_isVersion_0 ++ []
theorem dksX8_isVersion_0 : cX8_isVersion.data.toList.drop 0 = dktX8_isVersion_0 := by decide +kernel
theorem dX8_isVersion_0 : decode cX8_isVersion 0 = .ok (.iload_n 1, 1) := dk_27 (dk_at dksX8_isVersion_0 0 rfl rfl)
theorem dX8_isVersion_1 : decode cX8_isVersion 1 = .ok (.iconst 0, 1) := dk_3 (dk_at dksX8_isVersion_0 1 rfl rfl)
theorem dX8_isVersion_2 : decode cX8_isVersion 2 = .ok (.aload_n 0, 1) := dk_42 (dk_at dksX8_isVersion_0 2 rfl rfl)
theorem dX8_isVersion_3 : decode cX8_isVersion 3 = .ok (.getfield 9, 3) := dk_180 0 9 (dk_at dksX8_isVersion_0 3 rfl rfl)
theorem dX8_isVersion_6 : decode cX8_isVersion 6 = .ok (.iconst 2, 1) := dk_5 (dk_at dksX8_isVersion_0 6 rfl rfl)
theorem dX8_isVersion_7 : decode cX8_isVersion 7 = .ok (.iaload, 1) := dk_46 (dk_at dksX8_isVersion_0 7 rfl rfl)
theorem dX8_isVersion_8 : decode cX8_isVersion 8 = .ok (.iconst 1, 1) := dk_4 (dk_at dksX8_isVersion_0 8 rfl rfl)
theorem dX8_isVersion_9 : decode cX8_isVersion 9 = .ok (.isub, 1) := dk_100 (dk_at dksX8_isVersion_0 9 rfl rfl)
theorem dX8_isVersion_10 : decode cX8_isVersion 10 = .ok (.invokestatic 67, 3) := dk_184 0 67 (dk_at dksX8_isVersion_0 10 rfl rfl)
theorem dX8_isVersion_13 : decode cX8_isVersion 13 = .ok (.ireturn, 1) := dk_172 (dk_at dksX8_isVersion_0 13 rfl rfl)
abbrev cX8_had : ByteArray := prog_19_method_60_code
def yX8_had : MethodName := ⟨RX8, "had", "(IIZ)I"⟩
def dkwX8_had_1 : List UInt8 := [46, 172]
abbrev dktX8_had_1 : List UInt8 := dkwX8_had_1 ++ []
def dkwX8_had_0 : List UInt8 := [42, 180, 0, 9, 16, 122, 16, 64, 27, 104, 96, 29, 153, 0, 8, 16, 32, 167, 0, 4, 3, 96, 28, 96]
abbrev dktX8_had_0 : List UInt8 := dkwX8_had_0 ++ dktX8_had_1
theorem dksX8_had_0 : cX8_had.data.toList.drop 0 = dktX8_had_0 := by decide +kernel
theorem dksX8_had_1 : cX8_had.data.toList.drop 24 = dktX8_had_1 := dk_seg dksX8_had_0 24 rfl rfl
theorem dX8_had_0 : decode cX8_had 0 = .ok (.aload_n 0, 1) := dk_42 (dk_at dksX8_had_0 0 rfl rfl)
theorem dX8_had_1 : decode cX8_had 1 = .ok (.getfield 9, 3) := dk_180 0 9 (dk_at dksX8_had_0 1 rfl rfl)
theorem dX8_had_4 : decode cX8_had 4 = .ok (.bipush 122, 2) := dk_16 122 (dk_at dksX8_had_0 4 rfl rfl)
theorem dX8_had_6 : decode cX8_had 6 = .ok (.bipush 64, 2) := dk_16 64 (dk_at dksX8_had_0 6 rfl rfl)
theorem dX8_had_8 : decode cX8_had 8 = .ok (.iload_n 1, 1) := dk_27 (dk_at dksX8_had_0 8 rfl rfl)
theorem dX8_had_9 : decode cX8_had 9 = .ok (.imul, 1) := dk_104 (dk_at dksX8_had_0 9 rfl rfl)
theorem dX8_had_10 : decode cX8_had 10 = .ok (.iadd, 1) := dk_96 (dk_at dksX8_had_0 10 rfl rfl)
theorem dX8_had_11 : decode cX8_had 11 = .ok (.iload_n 3, 1) := dk_29 (dk_at dksX8_had_0 11 rfl rfl)
theorem dX8_had_12 : decode cX8_had 12 = .ok (.ifCond .eq 8, 3) := dk_153 0 8 (dk_at dksX8_had_0 12 rfl rfl)
theorem dX8_had_15 : decode cX8_had 15 = .ok (.bipush 32, 2) := dk_16 32 (dk_at dksX8_had_0 15 rfl rfl)
theorem dX8_had_17 : decode cX8_had 17 = .ok (.goto 4, 3) := dk_167 0 4 (dk_at dksX8_had_0 17 rfl rfl)
theorem dX8_had_20 : decode cX8_had 20 = .ok (.iconst 0, 1) := dk_3 (dk_at dksX8_had_0 20 rfl rfl)
theorem dX8_had_21 : decode cX8_had 21 = .ok (.iadd, 1) := dk_96 (dk_at dksX8_had_0 21 rfl rfl)
theorem dX8_had_22 : decode cX8_had 22 = .ok (.iload_n 2, 1) := dk_28 (dk_at dksX8_had_0 22 rfl rfl)
theorem dX8_had_23 : decode cX8_had 23 = .ok (.iadd, 1) := dk_96 (dk_at dksX8_had_0 23 rfl rfl)
theorem dX8_had_24 : decode cX8_had 24 = .ok (.iaload, 1) := dk_46 (dk_at dksX8_had_1 0 rfl rfl)
theorem dX8_had_25 : decode cX8_had 25 = .ok (.ireturn, 1) := dk_172 (dk_at dksX8_had_1 1 rfl rfl)
abbrev cX8_different : ByteArray := prog_19_method_61_code
def yX8_different : MethodName := ⟨RX8, "different", "(III)I"⟩
def dkwX8_different_2 : List UInt8 := [132, 4, 1, 132, 5, 1, 167, 255, 210, 21, 4, 172]
abbrev dktX8_different_2 : List UInt8 := dkwX8_different_2 ++ []
def dkwX8_different_1 : List UInt8 := [182, 0, 75, 160, 0, 20, 42, 27, 21, 5, 4, 182, 0, 185, 42, 21, 5, 182, 0, 125, 159, 0, 6]
abbrev dktX8_different_1 : List UInt8 := dkwX8_different_1 ++ dktX8_different_2
def dkwX8_different_0 : List UInt8 := [3, 54, 4, 28, 54, 5, 21, 5, 29, 163, 0, 46, 42, 27, 21, 5, 3, 182, 0, 185, 42, 21, 5]
abbrev dktX8_different_0 : List UInt8 := dkwX8_different_0 ++ dktX8_different_1
theorem dksX8_different_0 : cX8_different.data.toList.drop 0 = dktX8_different_0 := by decide +kernel
theorem dksX8_different_1 : cX8_different.data.toList.drop 23 = dktX8_different_1 := dk_seg dksX8_different_0 23 rfl rfl
theorem dksX8_different_2 : cX8_different.data.toList.drop 46 = dktX8_different_2 := dk_seg dksX8_different_1 23 rfl rfl
theorem dX8_different_0 : decode cX8_different 0 = .ok (.iconst 0, 1) := dk_3 (dk_at dksX8_different_0 0 rfl rfl)
theorem dX8_different_1 : decode cX8_different 1 = .ok (.istore 4, 2) := dk_54 4 (dk_at dksX8_different_0 1 rfl rfl)
theorem dX8_different_3 : decode cX8_different 3 = .ok (.iload_n 2, 1) := dk_28 (dk_at dksX8_different_0 3 rfl rfl)
theorem dX8_different_4 : decode cX8_different 4 = .ok (.istore 5, 2) := dk_54 5 (dk_at dksX8_different_0 4 rfl rfl)
theorem dX8_different_6 : decode cX8_different 6 = .ok (.iload 5, 2) := dk_21 5 (dk_at dksX8_different_0 6 rfl rfl)
theorem dX8_different_8 : decode cX8_different 8 = .ok (.iload_n 3, 1) := dk_29 (dk_at dksX8_different_0 8 rfl rfl)
theorem dX8_different_9 : decode cX8_different 9 = .ok (.if_icmp .gt 46, 3) := dk_163 0 46 (dk_at dksX8_different_0 9 rfl rfl)
theorem dX8_different_12 : decode cX8_different 12 = .ok (.aload_n 0, 1) := dk_42 (dk_at dksX8_different_0 12 rfl rfl)
theorem dX8_different_13 : decode cX8_different 13 = .ok (.iload_n 1, 1) := dk_27 (dk_at dksX8_different_0 13 rfl rfl)
theorem dX8_different_14 : decode cX8_different 14 = .ok (.iload 5, 2) := dk_21 5 (dk_at dksX8_different_0 14 rfl rfl)
theorem dX8_different_16 : decode cX8_different 16 = .ok (.iconst 0, 1) := dk_3 (dk_at dksX8_different_0 16 rfl rfl)
theorem dX8_different_17 : decode cX8_different 17 = .ok (.invokevirtual 185, 3) := dk_182 0 185 (dk_at dksX8_different_0 17 rfl rfl)
theorem dX8_different_20 : decode cX8_different 20 = .ok (.aload_n 0, 1) := dk_42 (dk_at dksX8_different_0 20 rfl rfl)
theorem dX8_different_21 : decode cX8_different 21 = .ok (.iload 5, 2) := dk_21 5 (dk_at dksX8_different_0 21 rfl rfl)
theorem dX8_different_23 : decode cX8_different 23 = .ok (.invokevirtual 75, 3) := dk_182 0 75 (dk_at dksX8_different_1 0 rfl rfl)
theorem dX8_different_26 : decode cX8_different 26 = .ok (.if_icmp .ne 20, 3) := dk_160 0 20 (dk_at dksX8_different_1 3 rfl rfl)
theorem dX8_different_29 : decode cX8_different 29 = .ok (.aload_n 0, 1) := dk_42 (dk_at dksX8_different_1 6 rfl rfl)
theorem dX8_different_30 : decode cX8_different 30 = .ok (.iload_n 1, 1) := dk_27 (dk_at dksX8_different_1 7 rfl rfl)
theorem dX8_different_31 : decode cX8_different 31 = .ok (.iload 5, 2) := dk_21 5 (dk_at dksX8_different_1 8 rfl rfl)
theorem dX8_different_33 : decode cX8_different 33 = .ok (.iconst 1, 1) := dk_4 (dk_at dksX8_different_1 10 rfl rfl)
theorem dX8_different_34 : decode cX8_different 34 = .ok (.invokevirtual 185, 3) := dk_182 0 185 (dk_at dksX8_different_1 11 rfl rfl)
theorem dX8_different_37 : decode cX8_different 37 = .ok (.aload_n 0, 1) := dk_42 (dk_at dksX8_different_1 14 rfl rfl)
theorem dX8_different_38 : decode cX8_different 38 = .ok (.iload 5, 2) := dk_21 5 (dk_at dksX8_different_1 15 rfl rfl)
theorem dX8_different_40 : decode cX8_different 40 = .ok (.invokevirtual 125, 3) := dk_182 0 125 (dk_at dksX8_different_1 17 rfl rfl)
theorem dX8_different_43 : decode cX8_different 43 = .ok (.if_icmp .eq 6, 3) := dk_159 0 6 (dk_at dksX8_different_1 20 rfl rfl)
theorem dX8_different_46 : decode cX8_different 46 = .ok (.iinc 4 1, 3) := dk_132 4 1 (dk_at dksX8_different_2 0 rfl rfl)
theorem dX8_different_49 : decode cX8_different 49 = .ok (.iinc 5 1, 3) := dk_132 5 1 (dk_at dksX8_different_2 3 rfl rfl)
theorem dX8_different_52 : decode cX8_different 52 = .ok (.goto (-46), 3) := dk_167 255 210 (dk_at dksX8_different_2 6 rfl rfl)
theorem dX8_different_55 : decode cX8_different 55 = .ok (.iload 4, 2) := dk_21 4 (dk_at dksX8_different_2 9 rfl rfl)
theorem dX8_different_57 : decode cX8_different 57 = .ok (.ireturn, 1) := dk_172 (dk_at dksX8_different_2 11 rfl rfl)
abbrev cX8_goBack : ByteArray := prog_19_method_62_code
def yX8_goBack : MethodName := ⟨RX8, "goBack", "(I)I"⟩
def dkwX8_goBack_2 : List UInt8 := [16, 122, 16, 64, 27, 104, 96, 29, 96, 46, 79, 132, 3, 1, 167, 255, 224, 42, 28, 182, 0, 54, 172]
abbrev dktX8_goBack_2 : List UInt8 := dkwX8_goBack_2 ++ []
def dkwX8_goBack_1 : List UInt8 := [182, 0, 192, 61, 3, 62, 29, 16, 64, 162, 0, 32, 42, 180, 0, 9, 16, 8, 29, 96, 42, 180, 0, 9]
abbrev dktX8_goBack_1 : List UInt8 := dkwX8_goBack_1 ++ dktX8_goBack_2
def dkwX8_goBack_0 : List UInt8 := [42, 182, 0, 107, 42, 27, 182, 0, 189, 154, 0, 9, 42, 4, 182, 0, 58, 172, 42, 27, 3, 16, 31]
abbrev dktX8_goBack_0 : List UInt8 := dkwX8_goBack_0 ++ dktX8_goBack_1
theorem dksX8_goBack_0 : cX8_goBack.data.toList.drop 0 = dktX8_goBack_0 := by decide +kernel
theorem dksX8_goBack_1 : cX8_goBack.data.toList.drop 23 = dktX8_goBack_1 := dk_seg dksX8_goBack_0 23 rfl rfl
theorem dksX8_goBack_2 : cX8_goBack.data.toList.drop 47 = dktX8_goBack_2 := dk_seg dksX8_goBack_1 24 rfl rfl
theorem dX8_goBack_0 : decode cX8_goBack 0 = .ok (.aload_n 0, 1) := dk_42 (dk_at dksX8_goBack_0 0 rfl rfl)
theorem dX8_goBack_1 : decode cX8_goBack 1 = .ok (.invokevirtual 107, 3) := dk_182 0 107 (dk_at dksX8_goBack_0 1 rfl rfl)
theorem dX8_goBack_4 : decode cX8_goBack 4 = .ok (.aload_n 0, 1) := dk_42 (dk_at dksX8_goBack_0 4 rfl rfl)
theorem dX8_goBack_5 : decode cX8_goBack 5 = .ok (.iload_n 1, 1) := dk_27 (dk_at dksX8_goBack_0 5 rfl rfl)
theorem dX8_goBack_6 : decode cX8_goBack 6 = .ok (.invokevirtual 189, 3) := dk_182 0 189 (dk_at dksX8_goBack_0 6 rfl rfl)
theorem dX8_goBack_9 : decode cX8_goBack 9 = .ok (.ifCond .ne 9, 3) := dk_154 0 9 (dk_at dksX8_goBack_0 9 rfl rfl)
theorem dX8_goBack_12 : decode cX8_goBack 12 = .ok (.aload_n 0, 1) := dk_42 (dk_at dksX8_goBack_0 12 rfl rfl)
theorem dX8_goBack_13 : decode cX8_goBack 13 = .ok (.iconst 1, 1) := dk_4 (dk_at dksX8_goBack_0 13 rfl rfl)
theorem dX8_goBack_14 : decode cX8_goBack 14 = .ok (.invokevirtual 58, 3) := dk_182 0 58 (dk_at dksX8_goBack_0 14 rfl rfl)
theorem dX8_goBack_17 : decode cX8_goBack 17 = .ok (.ireturn, 1) := dk_172 (dk_at dksX8_goBack_0 17 rfl rfl)
theorem dX8_goBack_18 : decode cX8_goBack 18 = .ok (.aload_n 0, 1) := dk_42 (dk_at dksX8_goBack_0 18 rfl rfl)
theorem dX8_goBack_19 : decode cX8_goBack 19 = .ok (.iload_n 1, 1) := dk_27 (dk_at dksX8_goBack_0 19 rfl rfl)
theorem dX8_goBack_20 : decode cX8_goBack 20 = .ok (.iconst 0, 1) := dk_3 (dk_at dksX8_goBack_0 20 rfl rfl)
theorem dX8_goBack_21 : decode cX8_goBack 21 = .ok (.bipush 31, 2) := dk_16 31 (dk_at dksX8_goBack_0 21 rfl rfl)
theorem dX8_goBack_23 : decode cX8_goBack 23 = .ok (.invokevirtual 192, 3) := dk_182 0 192 (dk_at dksX8_goBack_1 0 rfl rfl)
theorem dX8_goBack_26 : decode cX8_goBack 26 = .ok (.istore_n 2, 1) := dk_61 (dk_at dksX8_goBack_1 3 rfl rfl)
theorem dX8_goBack_27 : decode cX8_goBack 27 = .ok (.iconst 0, 1) := dk_3 (dk_at dksX8_goBack_1 4 rfl rfl)
theorem dX8_goBack_28 : decode cX8_goBack 28 = .ok (.istore_n 3, 1) := dk_62 (dk_at dksX8_goBack_1 5 rfl rfl)
theorem dX8_goBack_29 : decode cX8_goBack 29 = .ok (.iload_n 3, 1) := dk_29 (dk_at dksX8_goBack_1 6 rfl rfl)
theorem dX8_goBack_30 : decode cX8_goBack 30 = .ok (.bipush 64, 2) := dk_16 64 (dk_at dksX8_goBack_1 7 rfl rfl)
theorem dX8_goBack_32 : decode cX8_goBack 32 = .ok (.if_icmp .ge 32, 3) := dk_162 0 32 (dk_at dksX8_goBack_1 9 rfl rfl)
theorem dX8_goBack_35 : decode cX8_goBack 35 = .ok (.aload_n 0, 1) := dk_42 (dk_at dksX8_goBack_1 12 rfl rfl)
theorem dX8_goBack_36 : decode cX8_goBack 36 = .ok (.getfield 9, 3) := dk_180 0 9 (dk_at dksX8_goBack_1 13 rfl rfl)
theorem dX8_goBack_39 : decode cX8_goBack 39 = .ok (.bipush 8, 2) := dk_16 8 (dk_at dksX8_goBack_1 16 rfl rfl)
theorem dX8_goBack_41 : decode cX8_goBack 41 = .ok (.iload_n 3, 1) := dk_29 (dk_at dksX8_goBack_1 18 rfl rfl)
theorem dX8_goBack_42 : decode cX8_goBack 42 = .ok (.iadd, 1) := dk_96 (dk_at dksX8_goBack_1 19 rfl rfl)
theorem dX8_goBack_43 : decode cX8_goBack 43 = .ok (.aload_n 0, 1) := dk_42 (dk_at dksX8_goBack_1 20 rfl rfl)
theorem dX8_goBack_44 : decode cX8_goBack 44 = .ok (.getfield 9, 3) := dk_180 0 9 (dk_at dksX8_goBack_1 21 rfl rfl)
theorem dX8_goBack_47 : decode cX8_goBack 47 = .ok (.bipush 122, 2) := dk_16 122 (dk_at dksX8_goBack_2 0 rfl rfl)
theorem dX8_goBack_49 : decode cX8_goBack 49 = .ok (.bipush 64, 2) := dk_16 64 (dk_at dksX8_goBack_2 2 rfl rfl)
theorem dX8_goBack_51 : decode cX8_goBack 51 = .ok (.iload_n 1, 1) := dk_27 (dk_at dksX8_goBack_2 4 rfl rfl)
theorem dX8_goBack_52 : decode cX8_goBack 52 = .ok (.imul, 1) := dk_104 (dk_at dksX8_goBack_2 5 rfl rfl)
theorem dX8_goBack_53 : decode cX8_goBack 53 = .ok (.iadd, 1) := dk_96 (dk_at dksX8_goBack_2 6 rfl rfl)
theorem dX8_goBack_54 : decode cX8_goBack 54 = .ok (.iload_n 3, 1) := dk_29 (dk_at dksX8_goBack_2 7 rfl rfl)
theorem dX8_goBack_55 : decode cX8_goBack 55 = .ok (.iadd, 1) := dk_96 (dk_at dksX8_goBack_2 8 rfl rfl)
theorem dX8_goBack_56 : decode cX8_goBack 56 = .ok (.iaload, 1) := dk_46 (dk_at dksX8_goBack_2 9 rfl rfl)
theorem dX8_goBack_57 : decode cX8_goBack 57 = .ok (.iastore, 1) := dk_79 (dk_at dksX8_goBack_2 10 rfl rfl)
theorem dX8_goBack_58 : decode cX8_goBack 58 = .ok (.iinc 3 1, 3) := dk_132 3 1 (dk_at dksX8_goBack_2 11 rfl rfl)
theorem dX8_goBack_61 : decode cX8_goBack 61 = .ok (.goto (-32), 3) := dk_167 255 224 (dk_at dksX8_goBack_2 14 rfl rfl)
theorem dX8_goBack_64 : decode cX8_goBack 64 = .ok (.aload_n 0, 1) := dk_42 (dk_at dksX8_goBack_2 17 rfl rfl)
theorem dX8_goBack_65 : decode cX8_goBack 65 = .ok (.iload_n 2, 1) := dk_28 (dk_at dksX8_goBack_2 18 rfl rfl)
theorem dX8_goBack_66 : decode cX8_goBack 66 = .ok (.invokevirtual 54, 3) := dk_182 0 54 (dk_at dksX8_goBack_2 19 rfl rfl)
theorem dX8_goBack_69 : decode cX8_goBack 69 = .ok (.ireturn, 1) := dk_172 (dk_at dksX8_goBack_2 22 rfl rfl)
abbrev cX8_was : ByteArray := prog_19_method_63_code
def yX8_was : MethodName := ⟨RX8, "was", "(IIZ)I"⟩
def dkwX8_was_1 : List UInt8 := [182, 0, 185, 167, 0, 8, 42, 4, 182, 0, 58, 172]
abbrev dktX8_was_1 : List UInt8 := dkwX8_was_1 ++ []
def dkwX8_was_0 : List UInt8 := [42, 3, 181, 0, 45, 42, 27, 182, 0, 189, 153, 0, 20, 28, 184, 0, 71, 153, 0, 13, 42, 27, 28, 29]
abbrev dktX8_was_0 : List UInt8 := dkwX8_was_0 ++ dktX8_was_1
theorem dksX8_was_0 : cX8_was.data.toList.drop 0 = dktX8_was_0 := by decide +kernel
theorem dksX8_was_1 : cX8_was.data.toList.drop 24 = dktX8_was_1 := dk_seg dksX8_was_0 24 rfl rfl
theorem dX8_was_0 : decode cX8_was 0 = .ok (.aload_n 0, 1) := dk_42 (dk_at dksX8_was_0 0 rfl rfl)
theorem dX8_was_1 : decode cX8_was 1 = .ok (.iconst 0, 1) := dk_3 (dk_at dksX8_was_0 1 rfl rfl)
theorem dX8_was_2 : decode cX8_was 2 = .ok (.putfield 45, 3) := dk_181 0 45 (dk_at dksX8_was_0 2 rfl rfl)
theorem dX8_was_5 : decode cX8_was 5 = .ok (.aload_n 0, 1) := dk_42 (dk_at dksX8_was_0 5 rfl rfl)
theorem dX8_was_6 : decode cX8_was 6 = .ok (.iload_n 1, 1) := dk_27 (dk_at dksX8_was_0 6 rfl rfl)
theorem dX8_was_7 : decode cX8_was 7 = .ok (.invokevirtual 189, 3) := dk_182 0 189 (dk_at dksX8_was_0 7 rfl rfl)
theorem dX8_was_10 : decode cX8_was 10 = .ok (.ifCond .eq 20, 3) := dk_153 0 20 (dk_at dksX8_was_0 10 rfl rfl)
theorem dX8_was_13 : decode cX8_was 13 = .ok (.iload_n 2, 1) := dk_28 (dk_at dksX8_was_0 13 rfl rfl)
theorem dX8_was_14 : decode cX8_was 14 = .ok (.invokestatic 71, 3) := dk_184 0 71 (dk_at dksX8_was_0 14 rfl rfl)
theorem dX8_was_17 : decode cX8_was 17 = .ok (.ifCond .eq 13, 3) := dk_153 0 13 (dk_at dksX8_was_0 17 rfl rfl)
theorem dX8_was_20 : decode cX8_was 20 = .ok (.aload_n 0, 1) := dk_42 (dk_at dksX8_was_0 20 rfl rfl)
theorem dX8_was_21 : decode cX8_was 21 = .ok (.iload_n 1, 1) := dk_27 (dk_at dksX8_was_0 21 rfl rfl)
theorem dX8_was_22 : decode cX8_was 22 = .ok (.iload_n 2, 1) := dk_28 (dk_at dksX8_was_0 22 rfl rfl)
theorem dX8_was_23 : decode cX8_was 23 = .ok (.iload_n 3, 1) := dk_29 (dk_at dksX8_was_0 23 rfl rfl)
theorem dX8_was_24 : decode cX8_was 24 = .ok (.invokevirtual 185, 3) := dk_182 0 185 (dk_at dksX8_was_1 0 rfl rfl)
theorem dX8_was_27 : decode cX8_was 27 = .ok (.goto 8, 3) := dk_167 0 8 (dk_at dksX8_was_1 3 rfl rfl)
theorem dX8_was_30 : decode cX8_was 30 = .ok (.aload_n 0, 1) := dk_42 (dk_at dksX8_was_1 6 rfl rfl)
theorem dX8_was_31 : decode cX8_was 31 = .ok (.iconst 1, 1) := dk_4 (dk_at dksX8_was_1 7 rfl rfl)
theorem dX8_was_32 : decode cX8_was 32 = .ok (.invokevirtual 58, 3) := dk_182 0 58 (dk_at dksX8_was_1 8 rfl rfl)
theorem dX8_was_35 : decode cX8_was 35 = .ok (.ireturn, 1) := dk_172 (dk_at dksX8_was_1 11 rfl rfl)
abbrev cX8_differ : ByteArray := prog_19_method_64_code
def yX8_differ : MethodName := ⟨RX8, "differ", "(III)I"⟩
def dkwX8_differ_1 : List UInt8 := [153, 0, 13, 42, 27, 28, 29, 182, 0, 192, 167, 0, 8, 42, 5, 182, 0, 58, 172]
abbrev dktX8_differ_1 : List UInt8 := dkwX8_differ_1 ++ []
def dkwX8_differ_0 : List UInt8 := [42, 3, 181, 0, 45, 42, 27, 182, 0, 189, 154, 0, 9, 42, 4, 182, 0, 58, 172, 28, 29, 184, 0, 82]
abbrev dktX8_differ_0 : List UInt8 := dkwX8_differ_0 ++ dktX8_differ_1
theorem dksX8_differ_0 : cX8_differ.data.toList.drop 0 = dktX8_differ_0 := by decide +kernel
theorem dksX8_differ_1 : cX8_differ.data.toList.drop 24 = dktX8_differ_1 := dk_seg dksX8_differ_0 24 rfl rfl
theorem dX8_differ_0 : decode cX8_differ 0 = .ok (.aload_n 0, 1) := dk_42 (dk_at dksX8_differ_0 0 rfl rfl)
theorem dX8_differ_1 : decode cX8_differ 1 = .ok (.iconst 0, 1) := dk_3 (dk_at dksX8_differ_0 1 rfl rfl)
theorem dX8_differ_2 : decode cX8_differ 2 = .ok (.putfield 45, 3) := dk_181 0 45 (dk_at dksX8_differ_0 2 rfl rfl)
theorem dX8_differ_5 : decode cX8_differ 5 = .ok (.aload_n 0, 1) := dk_42 (dk_at dksX8_differ_0 5 rfl rfl)
theorem dX8_differ_6 : decode cX8_differ 6 = .ok (.iload_n 1, 1) := dk_27 (dk_at dksX8_differ_0 6 rfl rfl)
theorem dX8_differ_7 : decode cX8_differ 7 = .ok (.invokevirtual 189, 3) := dk_182 0 189 (dk_at dksX8_differ_0 7 rfl rfl)
theorem dX8_differ_10 : decode cX8_differ 10 = .ok (.ifCond .ne 9, 3) := dk_154 0 9 (dk_at dksX8_differ_0 10 rfl rfl)
theorem dX8_differ_13 : decode cX8_differ 13 = .ok (.aload_n 0, 1) := dk_42 (dk_at dksX8_differ_0 13 rfl rfl)
theorem dX8_differ_14 : decode cX8_differ 14 = .ok (.iconst 1, 1) := dk_4 (dk_at dksX8_differ_0 14 rfl rfl)
theorem dX8_differ_15 : decode cX8_differ 15 = .ok (.invokevirtual 58, 3) := dk_182 0 58 (dk_at dksX8_differ_0 15 rfl rfl)
theorem dX8_differ_18 : decode cX8_differ 18 = .ok (.ireturn, 1) := dk_172 (dk_at dksX8_differ_0 18 rfl rfl)
theorem dX8_differ_19 : decode cX8_differ 19 = .ok (.iload_n 2, 1) := dk_28 (dk_at dksX8_differ_0 19 rfl rfl)
theorem dX8_differ_20 : decode cX8_differ 20 = .ok (.iload_n 3, 1) := dk_29 (dk_at dksX8_differ_0 20 rfl rfl)
theorem dX8_differ_21 : decode cX8_differ 21 = .ok (.invokestatic 82, 3) := dk_184 0 82 (dk_at dksX8_differ_0 21 rfl rfl)
theorem dX8_differ_24 : decode cX8_differ 24 = .ok (.ifCond .eq 13, 3) := dk_153 0 13 (dk_at dksX8_differ_1 0 rfl rfl)
theorem dX8_differ_27 : decode cX8_differ 27 = .ok (.aload_n 0, 1) := dk_42 (dk_at dksX8_differ_1 3 rfl rfl)
theorem dX8_differ_28 : decode cX8_differ 28 = .ok (.iload_n 1, 1) := dk_27 (dk_at dksX8_differ_1 4 rfl rfl)
theorem dX8_differ_29 : decode cX8_differ 29 = .ok (.iload_n 2, 1) := dk_28 (dk_at dksX8_differ_1 5 rfl rfl)
theorem dX8_differ_30 : decode cX8_differ 30 = .ok (.iload_n 3, 1) := dk_29 (dk_at dksX8_differ_1 6 rfl rfl)
theorem dX8_differ_31 : decode cX8_differ 31 = .ok (.invokevirtual 192, 3) := dk_182 0 192 (dk_at dksX8_differ_1 7 rfl rfl)
theorem dX8_differ_34 : decode cX8_differ 34 = .ok (.goto 8, 3) := dk_167 0 8 (dk_at dksX8_differ_1 10 rfl rfl)
theorem dX8_differ_37 : decode cX8_differ 37 = .ok (.aload_n 0, 1) := dk_42 (dk_at dksX8_differ_1 13 rfl rfl)
theorem dX8_differ_38 : decode cX8_differ 38 = .ok (.iconst 2, 1) := dk_5 (dk_at dksX8_differ_1 14 rfl rfl)
theorem dX8_differ_39 : decode cX8_differ 39 = .ok (.invokevirtual 58, 3) := dk_182 0 58 (dk_at dksX8_differ_1 15 rfl rfl)
theorem dX8_differ_42 : decode cX8_differ 42 = .ok (.ireturn, 1) := dk_172 (dk_at dksX8_differ_1 18 rfl rfl)
abbrev cX8_isAlike : ByteArray := prog_19_method_65_code
def yX8_isAlike : MethodName := ⟨RX8, "isAlike", "(II)Z"⟩
def dkwX8_isAlike_3 : List UInt8 := [29, 96, 46, 159, 0, 5, 3, 172, 132, 3, 1, 167, 255, 214, 4, 172]
abbrev dktX8_isAlike_3 : List UInt8 := dkwX8_isAlike_3 ++ []
def dkwX8_isAlike_2 : List UInt8 := [180, 0, 9, 16, 122, 16, 64, 27, 104, 96, 29, 96, 46, 42, 180, 0, 9, 16, 122, 16, 64, 28, 104, 96]
abbrev dktX8_isAlike_2 : List UInt8 := dkwX8_isAlike_2 ++ dktX8_isAlike_3
def dkwX8_isAlike_1 : List UInt8 := [181, 0, 45, 42, 180, 0, 45, 4, 160, 0, 5, 3, 172, 3, 62, 29, 16, 64, 162, 0, 42, 42]
abbrev dktX8_isAlike_1 : List UInt8 := dkwX8_isAlike_1 ++ dktX8_isAlike_2
def dkwX8_isAlike_0 : List UInt8 := [42, 42, 27, 182, 0, 189, 153, 0, 15, 42, 28, 182, 0, 189, 153, 0, 7, 3, 167, 0, 4, 4]
abbrev dktX8_isAlike_0 : List UInt8 := dkwX8_isAlike_0 ++ dktX8_isAlike_1
theorem dksX8_isAlike_0 : cX8_isAlike.data.toList.drop 0 = dktX8_isAlike_0 := by decide +kernel
theorem dksX8_isAlike_1 : cX8_isAlike.data.toList.drop 22 = dktX8_isAlike_1 := dk_seg dksX8_isAlike_0 22 rfl rfl
theorem dksX8_isAlike_2 : cX8_isAlike.data.toList.drop 44 = dktX8_isAlike_2 := dk_seg dksX8_isAlike_1 22 rfl rfl
theorem dksX8_isAlike_3 : cX8_isAlike.data.toList.drop 68 = dktX8_isAlike_3 := dk_seg dksX8_isAlike_2 24 rfl rfl
theorem dX8_isAlike_0 : decode cX8_isAlike 0 = .ok (.aload_n 0, 1) := dk_42 (dk_at dksX8_isAlike_0 0 rfl rfl)
theorem dX8_isAlike_1 : decode cX8_isAlike 1 = .ok (.aload_n 0, 1) := dk_42 (dk_at dksX8_isAlike_0 1 rfl rfl)
theorem dX8_isAlike_2 : decode cX8_isAlike 2 = .ok (.iload_n 1, 1) := dk_27 (dk_at dksX8_isAlike_0 2 rfl rfl)
theorem dX8_isAlike_3 : decode cX8_isAlike 3 = .ok (.invokevirtual 189, 3) := dk_182 0 189 (dk_at dksX8_isAlike_0 3 rfl rfl)
theorem dX8_isAlike_6 : decode cX8_isAlike 6 = .ok (.ifCond .eq 15, 3) := dk_153 0 15 (dk_at dksX8_isAlike_0 6 rfl rfl)
theorem dX8_isAlike_9 : decode cX8_isAlike 9 = .ok (.aload_n 0, 1) := dk_42 (dk_at dksX8_isAlike_0 9 rfl rfl)
theorem dX8_isAlike_10 : decode cX8_isAlike 10 = .ok (.iload_n 2, 1) := dk_28 (dk_at dksX8_isAlike_0 10 rfl rfl)
theorem dX8_isAlike_11 : decode cX8_isAlike 11 = .ok (.invokevirtual 189, 3) := dk_182 0 189 (dk_at dksX8_isAlike_0 11 rfl rfl)
theorem dX8_isAlike_14 : decode cX8_isAlike 14 = .ok (.ifCond .eq 7, 3) := dk_153 0 7 (dk_at dksX8_isAlike_0 14 rfl rfl)
theorem dX8_isAlike_17 : decode cX8_isAlike 17 = .ok (.iconst 0, 1) := dk_3 (dk_at dksX8_isAlike_0 17 rfl rfl)
theorem dX8_isAlike_18 : decode cX8_isAlike 18 = .ok (.goto 4, 3) := dk_167 0 4 (dk_at dksX8_isAlike_0 18 rfl rfl)
theorem dX8_isAlike_21 : decode cX8_isAlike 21 = .ok (.iconst 1, 1) := dk_4 (dk_at dksX8_isAlike_0 21 rfl rfl)
theorem dX8_isAlike_22 : decode cX8_isAlike 22 = .ok (.putfield 45, 3) := dk_181 0 45 (dk_at dksX8_isAlike_1 0 rfl rfl)
theorem dX8_isAlike_25 : decode cX8_isAlike 25 = .ok (.aload_n 0, 1) := dk_42 (dk_at dksX8_isAlike_1 3 rfl rfl)
theorem dX8_isAlike_26 : decode cX8_isAlike 26 = .ok (.getfield 45, 3) := dk_180 0 45 (dk_at dksX8_isAlike_1 4 rfl rfl)
theorem dX8_isAlike_29 : decode cX8_isAlike 29 = .ok (.iconst 1, 1) := dk_4 (dk_at dksX8_isAlike_1 7 rfl rfl)
theorem dX8_isAlike_30 : decode cX8_isAlike 30 = .ok (.if_icmp .ne 5, 3) := dk_160 0 5 (dk_at dksX8_isAlike_1 8 rfl rfl)
theorem dX8_isAlike_33 : decode cX8_isAlike 33 = .ok (.iconst 0, 1) := dk_3 (dk_at dksX8_isAlike_1 11 rfl rfl)
theorem dX8_isAlike_34 : decode cX8_isAlike 34 = .ok (.ireturn, 1) := dk_172 (dk_at dksX8_isAlike_1 12 rfl rfl)
theorem dX8_isAlike_35 : decode cX8_isAlike 35 = .ok (.iconst 0, 1) := dk_3 (dk_at dksX8_isAlike_1 13 rfl rfl)
theorem dX8_isAlike_36 : decode cX8_isAlike 36 = .ok (.istore_n 3, 1) := dk_62 (dk_at dksX8_isAlike_1 14 rfl rfl)
theorem dX8_isAlike_37 : decode cX8_isAlike 37 = .ok (.iload_n 3, 1) := dk_29 (dk_at dksX8_isAlike_1 15 rfl rfl)
theorem dX8_isAlike_38 : decode cX8_isAlike 38 = .ok (.bipush 64, 2) := dk_16 64 (dk_at dksX8_isAlike_1 16 rfl rfl)
theorem dX8_isAlike_40 : decode cX8_isAlike 40 = .ok (.if_icmp .ge 42, 3) := dk_162 0 42 (dk_at dksX8_isAlike_1 18 rfl rfl)
theorem dX8_isAlike_43 : decode cX8_isAlike 43 = .ok (.aload_n 0, 1) := dk_42 (dk_at dksX8_isAlike_1 21 rfl rfl)
theorem dX8_isAlike_44 : decode cX8_isAlike 44 = .ok (.getfield 9, 3) := dk_180 0 9 (dk_at dksX8_isAlike_2 0 rfl rfl)
theorem dX8_isAlike_47 : decode cX8_isAlike 47 = .ok (.bipush 122, 2) := dk_16 122 (dk_at dksX8_isAlike_2 3 rfl rfl)
theorem dX8_isAlike_49 : decode cX8_isAlike 49 = .ok (.bipush 64, 2) := dk_16 64 (dk_at dksX8_isAlike_2 5 rfl rfl)
theorem dX8_isAlike_51 : decode cX8_isAlike 51 = .ok (.iload_n 1, 1) := dk_27 (dk_at dksX8_isAlike_2 7 rfl rfl)
theorem dX8_isAlike_52 : decode cX8_isAlike 52 = .ok (.imul, 1) := dk_104 (dk_at dksX8_isAlike_2 8 rfl rfl)
theorem dX8_isAlike_53 : decode cX8_isAlike 53 = .ok (.iadd, 1) := dk_96 (dk_at dksX8_isAlike_2 9 rfl rfl)
theorem dX8_isAlike_54 : decode cX8_isAlike 54 = .ok (.iload_n 3, 1) := dk_29 (dk_at dksX8_isAlike_2 10 rfl rfl)
theorem dX8_isAlike_55 : decode cX8_isAlike 55 = .ok (.iadd, 1) := dk_96 (dk_at dksX8_isAlike_2 11 rfl rfl)
theorem dX8_isAlike_56 : decode cX8_isAlike 56 = .ok (.iaload, 1) := dk_46 (dk_at dksX8_isAlike_2 12 rfl rfl)
theorem dX8_isAlike_57 : decode cX8_isAlike 57 = .ok (.aload_n 0, 1) := dk_42 (dk_at dksX8_isAlike_2 13 rfl rfl)
theorem dX8_isAlike_58 : decode cX8_isAlike 58 = .ok (.getfield 9, 3) := dk_180 0 9 (dk_at dksX8_isAlike_2 14 rfl rfl)
theorem dX8_isAlike_61 : decode cX8_isAlike 61 = .ok (.bipush 122, 2) := dk_16 122 (dk_at dksX8_isAlike_2 17 rfl rfl)
theorem dX8_isAlike_63 : decode cX8_isAlike 63 = .ok (.bipush 64, 2) := dk_16 64 (dk_at dksX8_isAlike_2 19 rfl rfl)
theorem dX8_isAlike_65 : decode cX8_isAlike 65 = .ok (.iload_n 2, 1) := dk_28 (dk_at dksX8_isAlike_2 21 rfl rfl)
theorem dX8_isAlike_66 : decode cX8_isAlike 66 = .ok (.imul, 1) := dk_104 (dk_at dksX8_isAlike_2 22 rfl rfl)
theorem dX8_isAlike_67 : decode cX8_isAlike 67 = .ok (.iadd, 1) := dk_96 (dk_at dksX8_isAlike_2 23 rfl rfl)
theorem dX8_isAlike_68 : decode cX8_isAlike 68 = .ok (.iload_n 3, 1) := dk_29 (dk_at dksX8_isAlike_3 0 rfl rfl)
theorem dX8_isAlike_69 : decode cX8_isAlike 69 = .ok (.iadd, 1) := dk_96 (dk_at dksX8_isAlike_3 1 rfl rfl)
theorem dX8_isAlike_70 : decode cX8_isAlike 70 = .ok (.iaload, 1) := dk_46 (dk_at dksX8_isAlike_3 2 rfl rfl)
theorem dX8_isAlike_71 : decode cX8_isAlike 71 = .ok (.if_icmp .eq 5, 3) := dk_159 0 5 (dk_at dksX8_isAlike_3 3 rfl rfl)
theorem dX8_isAlike_74 : decode cX8_isAlike 74 = .ok (.iconst 0, 1) := dk_3 (dk_at dksX8_isAlike_3 6 rfl rfl)
theorem dX8_isAlike_75 : decode cX8_isAlike 75 = .ok (.ireturn, 1) := dk_172 (dk_at dksX8_isAlike_3 7 rfl rfl)
theorem dX8_isAlike_76 : decode cX8_isAlike 76 = .ok (.iinc 3 1, 3) := dk_132 3 1 (dk_at dksX8_isAlike_3 8 rfl rfl)
theorem dX8_isAlike_79 : decode cX8_isAlike 79 = .ok (.goto (-42), 3) := dk_167 255 214 (dk_at dksX8_isAlike_3 11 rfl rfl)
theorem dX8_isAlike_82 : decode cX8_isAlike 82 = .ok (.iconst 1, 1) := dk_4 (dk_at dksX8_isAlike_3 14 rfl rfl)
theorem dX8_isAlike_83 : decode cX8_isAlike 83 = .ok (.ireturn, 1) := dk_172 (dk_at dksX8_isAlike_3 15 rfl rfl)
theorem q2492 : (Jvm.Cond.methodLink "SpanRulerModel" (168 : Nat) ({ cls := "java/lang/Math", name := "max", desc := "(II)I" } : Jvm.MethodName)) ∈ lw_all := lw_g (lw_at lw_m11 32 rfl) rfl
theorem q576 : (Jvm.Cond.static ({ cls := "java/lang/Math", name := "max", desc := "(II)I" } : Jvm.MethodName)) ∈ lw_all := lw_g (lw_at lw_m3 36 rfl) rfl
theorem q90 : (Jvm.Cond.initialized "java/lang/Math") ∈ lw_all := lw_g (lw_at lw_m1 30 rfl) rfl
theorem q577 : (Jvm.Cond.code ({ cls := "java/lang/Math", name := "max", desc := "(II)I" } : Jvm.MethodName) prog_36_method_65_code (2 : Nat) (Option.some Jvm.ClassFile.FieldType.int)) ∈ lw_all := lw_g (lw_at lw_m3 37 rfl) rfl
theorem q2497 : (Jvm.Cond.methodLink "SpanRulerModel" (173 : Nat) ({ cls := "SpanRulerModel", name := "worth", desc := "(I)I" } : Jvm.MethodName)) ∈ lw_all := lw_g (lw_at lw_m11 37 rfl) rfl
theorem q2500 : (Jvm.Cond.code ({ cls := "SpanRulerModel", name := "worth", desc := "(I)I" } : Jvm.MethodName) prog_19_method_52_code (4 : Nat) (Option.some Jvm.ClassFile.FieldType.int)) ∈ lw_all := lw_g (lw_at lw_m11 40 rfl) rfl
theorem q2499 : (Jvm.Cond.instanceMethod ({ cls := "SpanRulerModel", name := "worth", desc := "(I)I" } : Jvm.MethodName)) ∈ lw_all := lw_g (lw_at lw_m11 39 rfl) rfl
theorem q2509 : (Jvm.Cond.methodLink "SpanRulerModel" (176 : Nat) ({ cls := "SpanRulerModel", name := "many", desc := "(I)I" } : Jvm.MethodName)) ∈ lw_all := lw_g (lw_at lw_m11 49 rfl) rfl
theorem q2512 : (Jvm.Cond.code ({ cls := "SpanRulerModel", name := "many", desc := "(I)I" } : Jvm.MethodName) prog_19_method_53_code (4 : Nat) (Option.some Jvm.ClassFile.FieldType.int)) ∈ lw_all := lw_g (lw_at lw_m11 52 rfl) rfl
theorem q2511 : (Jvm.Cond.instanceMethod ({ cls := "SpanRulerModel", name := "many", desc := "(I)I" } : Jvm.MethodName)) ∈ lw_all := lw_g (lw_at lw_m11 51 rfl) rfl
theorem q2505 : (Jvm.Cond.methodLink "SpanRulerModel" (179 : Nat) ({ cls := "SpanRulerModel", name := "isAhead", desc := "(II)Z" } : Jvm.MethodName)) ∈ lw_all := lw_g (lw_at lw_m11 45 rfl) rfl
theorem q2508 : (Jvm.Cond.code ({ cls := "SpanRulerModel", name := "isAhead", desc := "(II)Z" } : Jvm.MethodName) prog_19_method_55_code (4 : Nat) (Option.some Jvm.ClassFile.FieldType.boolean)) ∈ lw_all := lw_g (lw_at lw_m11 48 rfl) rfl
theorem q2507 : (Jvm.Cond.instanceMethod ({ cls := "SpanRulerModel", name := "isAhead", desc := "(II)Z" } : Jvm.MethodName)) ∈ lw_all := lw_g (lw_at lw_m11 47 rfl) rfl
theorem q2517 : (Jvm.Cond.methodLink "SpanRulerModel" (182 : Nat) ({ cls := "SpanRulerModel", name := "keepsVersion", desc := "()I" } : Jvm.MethodName)) ∈ lw_all := lw_g (lw_at lw_m11 57 rfl) rfl
theorem q2520 : (Jvm.Cond.code ({ cls := "SpanRulerModel", name := "keepsVersion", desc := "()I" } : Jvm.MethodName) prog_19_method_57_code (3 : Nat) (Option.some Jvm.ClassFile.FieldType.int)) ∈ lw_all := lw_g (lw_at lw_m11 60 rfl) rfl
theorem q2519 : (Jvm.Cond.instanceMethod ({ cls := "SpanRulerModel", name := "keepsVersion", desc := "()I" } : Jvm.MethodName)) ∈ lw_all := lw_g (lw_at lw_m11 59 rfl) rfl
theorem q2533 : (Jvm.Cond.methodLink "SpanRulerModel" (185 : Nat) ({ cls := "SpanRulerModel", name := "had", desc := "(IIZ)I" } : Jvm.MethodName)) ∈ lw_all := lw_g (lw_at lw_m11 73 rfl) rfl
theorem q2536 : (Jvm.Cond.code ({ cls := "SpanRulerModel", name := "had", desc := "(IIZ)I" } : Jvm.MethodName) prog_19_method_60_code (4 : Nat) (Option.some Jvm.ClassFile.FieldType.int)) ∈ lw_all := lw_g (lw_at lw_m11 76 rfl) rfl
theorem q2535 : (Jvm.Cond.instanceMethod ({ cls := "SpanRulerModel", name := "had", desc := "(IIZ)I" } : Jvm.MethodName)) ∈ lw_all := lw_g (lw_at lw_m11 75 rfl) rfl
theorem q2525 : (Jvm.Cond.methodLink "SpanRulerModel" (189 : Nat) ({ cls := "SpanRulerModel", name := "isVersion", desc := "(I)Z" } : Jvm.MethodName)) ∈ lw_all := lw_g (lw_at lw_m11 65 rfl) rfl
theorem q2528 : (Jvm.Cond.code ({ cls := "SpanRulerModel", name := "isVersion", desc := "(I)Z" } : Jvm.MethodName) prog_19_method_59_code (2 : Nat) (Option.some Jvm.ClassFile.FieldType.boolean)) ∈ lw_all := lw_g (lw_at lw_m11 68 rfl) rfl
theorem q2527 : (Jvm.Cond.instanceMethod ({ cls := "SpanRulerModel", name := "isVersion", desc := "(I)Z" } : Jvm.MethodName)) ∈ lw_all := lw_g (lw_at lw_m11 67 rfl) rfl
theorem q2529 : (Jvm.Cond.methodLink "SpanRulerModel" (192 : Nat) ({ cls := "SpanRulerModel", name := "different", desc := "(III)I" } : Jvm.MethodName)) ∈ lw_all := lw_g (lw_at lw_m11 69 rfl) rfl
theorem q2532 : (Jvm.Cond.code ({ cls := "SpanRulerModel", name := "different", desc := "(III)I" } : Jvm.MethodName) prog_19_method_61_code (6 : Nat) (Option.some Jvm.ClassFile.FieldType.int)) ∈ lw_all := lw_g (lw_at lw_m11 72 rfl) rfl
theorem q2531 : (Jvm.Cond.instanceMethod ({ cls := "SpanRulerModel", name := "different", desc := "(III)I" } : Jvm.MethodName)) ∈ lw_all := lw_g (lw_at lw_m11 71 rfl) rfl
/-! versions -/
def mV (s : MS) : Nat := nn (s.A 0 2)
def mVo (s : MS) : Prop := s.A 0 2 = nI (mV s) ∧ mV s ≤ 5
def kvT (s : MS) : MS := cpl 0 (122 + 64 * mV s) 0 8 64 0 s
def mKV (s : MS) : Int32 × MS := if mV s = 5 then (2, mRef s 1 5) else (0, mI (mA (kvT s) 0 2 ((kvT s).A 0 2 + 1)) 19 (nI (mV s)))
def mKeep (s : MS) : Int32 × MS := if (mKV (mTries s)).1 = 0 then ((mKV (mTries s)).2.I 19, mKeeps (mKV (mTries s)).2) else (0, mI (mKV (mTries s)).2 20 1)
def mIsV (s : MS) (v : Int32) : Bool := inR v 0 (s.A 0 2 - 1)
theorem mIsV_n {s : MS} {p : Int32} (hN : mVo s) (h : mIsV s p = true) : p = nI (nn p) ∧ nn p < mV s := by
  obtain ⟨h1, h2⟩ := hN
  unfold mIsV at h
  rw [h1] at h
  obtain ⟨a1, a2⟩ := inR_i.mp h
  cases e : mV s with
  | zero => rw [e] at a2; exact absurd (Int32.le_trans a1 a2) (by decide)
  | succ m =>
    rw [e, nI_pred] at a2
    obtain ⟨i, hi, rfl⟩ := nI_of2 (M := nI m) (n := m) (nI_toInt (by omega)) (Int32.not_lt.mpr a1) a2
    rw [nn_nI (by omega)]
    exact ⟨rfl, by omega⟩
def hdF (R : Nat → Int32) (v c : Nat) (z : Int32) : Int32 := if z = 0 then R (122 + 64 * v + c) else R (122 + 64 * v + 32 + c)
def dfT (R : Nat → Int32) (v c : Nat) : Bool := decide (hdF R v c 0 = R (8 + c)) && decide (hdF R v c 1 = R (40 + c))
def dfl (R : Nat → Int32) (v : Nat) : Nat → Nat → Int32 → Int32
  | 0, _, x => x
  | m + 1, c, x => dfl R v m (c + 1) (cond (dfT R v c) x (x + 1))
theorem dfl_t {R : Nat → Int32} {v m c : Nat} {x F : Int32} (h : dfT R v c = true) (g : dfl R v (m + 1) c x = F) : dfl R v m (c + 1) x = F := by
  rw [dfl, h] at g; exact g
theorem dfl_f {R : Nat → Int32} {v m c : Nat} {x F : Int32} (h : dfT R v c = false) (g : dfl R v (m + 1) c x = F) : dfl R v m (c + 1) (x + 1) = F := by
  rw [dfl, h] at g; exact g
def mGoBack (s : MS) (v : Int32) : Int32 × MS := if mIsV s v = true then (dfl (s.A 0) (nn v) 32 0 0, mKeeps (cpl 0 8 0 (122 + 64 * nn v) 64 0 (mTries s))) else (0, mI (mTries s) 20 1)
def mWas (s : MS) (v c z : Int32) : Int32 × MS := if mIsV s v = true ∧ isC c = true then (hdF (s.A 0) (nn v) (nn c) z, mI s 20 0) else (0, mI (mI s 20 0) 20 1)
def mDiffer (s : MS) (v a b : Int32) : Int32 × MS := if mIsV s v = true then (if isSp a b = true then (dfl (s.A 0) (nn v) (sp a b) (nn a) 0, mI s 20 0) else (0, mI (mI s 20 0) 20 2)) else (0, mI (mI s 20 0) 20 1)
def ial (R : Nat → Int32) (v w : Nat) : Nat → Nat → Bool
  | 0, _ => true
  | m + 1, c => if R (122 + 64 * v + c) = R (122 + 64 * w + c) then ial R v w m (c + 1) else false
def mIsAlike (s : MS) (v w : Int32) : Int32 × MS := if mIsV s v = true ∧ mIsV s w = true then (bI (ial (s.A 0) (nn v) (nn w) 64 0), mI s 20 0) else (0, mI s 20 1)
theorem mTries_V (s : MS) : mV (mTries s) = mV s := by unfold mV; rw [mTries_A s (by decide)]
theorem mTries_vo {s : MS} (h : mVo s) : mVo (mTries s) := by
  unfold mVo; rw [mTries_V, mTries_A s (by decide)]; exact h
theorem mTries_isV (s : MS) (p : Int32) : mIsV (mTries s) p = mIsV s p := by unfold mIsV; rw [mTries_A s (by decide)]
theorem kvT_I (s : MS) : (kvT s).I = s.I := by
  unfold kvT
  funext i
  exact cpl_I _ _ _ _ _ _ _ i
theorem mKV_u {s : MS} (h : mUo s) : mUo (mKV s).2 := by
  unfold mKV
  split
  · exact mRef_u h
  · refine mUo_I ?_ h
    show (mI (mA (kvT s) 0 2 ((kvT s).A 0 2 + 1)) 19 (nI (mV s))).I 4 = s.I 4
    rw [mI_I, upd_ne (by decide), mA_I, kvT_I]
theorem m_colourOf (l : Launch) (G : GE) {h0 : AH} {ad : Nat → Nat} (hA : MAd ad) (s : MS) (c : Int32) : GM l G yX8_colourOf (ws_ yX8_colourOf cX8_colourOf 2 (some .int)) 4 [.ref (ad 20), .int c] (mput G h0 ad s) (0) (PV (.int (mColourOf s c).1) (mput G h0 ad (mColourOf s c).2)) := by
  refine GM.of (by decide) (dk rfl) ?_
  intro X eL eG eh ok fn
  subst eL; subst eG
  show GW X _ 0 0 [some (.ref (ad 20)), some (.int c)] []
  refine g_aload_n ok dX8_colourOf_0 rfl ?_
  refine g_iconst ok (v := 0) dX8_colourOf_1 rfl ?_
  refine m_put ok hA 20 q2255 (by decide) dX8_colourOf_2 ⟨rfl, rfl⟩ ?_
  refine g_iload_n ok dX8_colourOf_5 rfl ?_
  refine g_callS ok q2318 q2319 q75 q2320 dX8_colourOf_6 (m_isCell X.l X.G _ c) (nm_ (by decide : nmb _ 1 = true)) (dl rfl) (dk rfl) rfl rfl (dk rfl) (dk rfl) (kV ?_) xV
  refine g_if_eq ok (tgt := 20) dX8_colourOf_9 (by decide) (fun c9 => ?_) (fun c9 => ?_)
  · have c9' := bI_e c9
    refine g_aload_n ok dX8_colourOf_20 rfl ?_
    refine g_iconst ok (v := 1) dX8_colourOf_21 rfl ?_
    refine g_callV ok q2362 q2364 qs33 q75 q2365 (m_recv ok hA) dX8_colourOf_22 (m_raises X.l X.G hA (h0 := h0) (mI s 20 0) 1) (nm_ (by decide : nmb _ 1 = true)) (dl rfl) (dk rfl) rfl rfl (dk rfl) (dk rfl) (kV ?_) xV
    exact g_iret ok fn rfl dX8_colourOf_25 (pv_i (by simp [mColourOf, mI_A, mI_I, c9']) (by simp [mColourOf, mI_A, mI_I, c9'])) (dk rfl)
  · have c9' := bI_n c9
    refine g_aload_n ok dX8_colourOf_12 rfl ?_
    refine g_iload_n ok dX8_colourOf_13 rfl ?_
    refine g_callV ok q2393 q2395 qs37 q75 q2396 (m_recv ok hA) dX8_colourOf_14 (m_colour_ X.l X.G hA (h0 := h0) (mI s 20 0) c c9') (nm_ (by decide : nmb _ 1 = true)) (dl rfl) (dk rfl) rfl rfl (dk rfl) (dk rfl) (kV (v := .int (MS.A s 0 (40 + nn c))) ?_) xV
    refine g_goto ok dX8_colourOf_17 (tgt := 25) (by decide) ?_
    exact g_iret ok fn rfl dX8_colourOf_25 (pv_i (by simp [mColourOf, mI_A, mI_I, c9']) (by simp [mColourOf, mI_A, mI_I, c9'])) (dk rfl)
theorem m_runs (l : Launch) (G : GE) {h0 : AH} {ad : Nat → Nat} (hA : MAd ad) (s : MS) (a : Int32) (b : Int32) : GM l G yX8_runs (ws_ yX8_runs cX8_runs 5 (some .int)) 4 [.ref (ad 20), .int a, .int b] (mput G h0 ad s) (0) (PV (.int (mRuns s a b).1) (mput G h0 ad (mRuns s a b).2)) := by
  refine GM.of (by decide) (dk rfl) ?_
  intro X eL eG eh ok fn
  subst eL; subst eG
  show GW X _ 0 0 [some (.ref (ad 20)), some (.int a), some (.int b), none, none] []
  refine g_aload_n ok dX8_runs_0 rfl ?_
  refine g_iconst ok (v := 0) dX8_runs_1 rfl ?_
  refine m_put ok hA 20 q2255 (by decide) dX8_runs_2 ⟨rfl, rfl⟩ ?_
  refine g_iload_n ok dX8_runs_5 rfl ?_
  refine g_iload_n ok dX8_runs_6 rfl ?_
  refine g_callS ok q2315 q2316 q75 q2317 dX8_runs_7 (m_isSpan X.l X.G _ a b) (nm_ (by decide : nmb _ 2 = true)) (dl rfl) (dk rfl) rfl rfl (dk rfl) (dk rfl) (kV ?_) xV
  refine g_if_ne ok (tgt := 19) dX8_runs_10 (by decide) (fun c10 => ?_) (fun c10 => ?_)
  · have c10' := bI_n c10
    have hs_ : mRuns s a b = (rul (s.A 0) (nn b - nn a) (nn a) 1, mI s 20 0) := by unfold mRuns; rw [if_pos c10']
    rw [hs_] at fn
    clear hs_
    obtain ⟨e1, e2, h3, h4⟩ := isSp_n c10'
    have e3 : sp a b = nn b + 1 - nn a := rfl
    try rw [e3] at fn
    clear e3
    generalize nn a = i at *
    subst e1
    generalize nn b = j at *
    subst e2
    refine g_iconst ok (v := 1) dX8_runs_19 rfl ?_
    refine g_istore_n ok dX8_runs_20 (ls1 := [some (.ref (ad 20)), some (.int (nI i)), some (.int (nI j)), some (.int 1), none]) (dl rfl) rfl ?_
    refine g_iload_n ok dX8_runs_21 rfl ?_
    refine g_iconst ok (v := 1) dX8_runs_22 rfl ?_
    refine g_iaddN ok dX8_runs_23 (c := (i + 1)) (a := i) (b := 1) rfl rfl rfl ?_
    refine g_istore ok dX8_runs_24 (ls1 := [some (.ref (ad 20)), some (.int (nI i)), some (.int (nI j)), some (.int 1), some (.int (nI (i + 1)))]) (dl rfl) rfl ?_
    obtain ⟨F, hF⟩ : ∃ F : Int32, rul (s.A 0) (j - i) i 1 = F := ⟨_, rfl⟩
    rw [hF] at fn
    have lp : ∀ (n : Nat) (c : Nat) (v : Int32), (c + n = j ∧ c ≤ j) → (rul (s.A 0) n c v = F) → GW X (mput X.G h0 ad (mI s 20 0)) 0 26 [some (.ref (ad 20)), some (.int (nI i)), some (.int (nI j)), some (.int v), some (.int (nI (c + 1)))] [] := by
      intro n
      induction n with
      | zero =>
        intro c v g0 g1
        refine g_iload ok dX8_runs_26 rfl ?_
        refine g_iload_n ok dX8_runs_28 rfl ?_
        refine g_icmp_gt ok (tgt := 58) dX8_runs_29 (by decide) (fun _ => ?_) (fun c_ => absurd (nI_lt (a := j) (b := (c + 1)) (by omega) (by omega)) c_)
        refine g_iload_n ok dX8_runs_58 rfl ?_
        exact g_iret ok fn rfl dX8_runs_59 (pv_i g1 rfl) (dk rfl)
      | succ n ih =>
        intro c v g0 g1
        refine g_iload ok dX8_runs_26 rfl ?_
        refine g_iload_n ok dX8_runs_28 rfl ?_
        refine g_icmp_gt ok (tgt := 58) dX8_runs_29 (by decide) (fun c_ => absurd c_ (nI_nlt (a := j) (b := (c + 1)) (by omega) (by omega))) (fun _ => ?_)
        refine g_aload_n ok dX8_runs_32 rfl ?_
        refine g_iload ok dX8_runs_33 rfl ?_
        refine g_callV ok q2393 q2395 qs37 q75 q2396 (m_recv ok hA) dX8_runs_35 (m_colour X.l X.G hA (h0 := h0) (mI s 20 0) (c + 1) (by omega)) (nm_ (by decide : nmb _ 1 = true)) (dl rfl) (dk rfl) rfl rfl (dk rfl) (dk rfl) (kV (v := .int (MS.A s 0 (40 + (c + 1)))) ?_) xV
        refine g_aload_n ok dX8_runs_38 rfl ?_
        refine g_iload ok dX8_runs_39 rfl ?_
        refine g_iconst ok (v := 1) dX8_runs_41 rfl ?_
        refine g_isubN ok dX8_runs_42 (c := c) (a := (c + 1)) (b := 1) rfl rfl (by omega) (by omega) ?_
        refine g_callV ok q2393 q2395 qs37 q75 q2396 (m_recv ok hA) dX8_runs_43 (m_colour X.l X.G hA (h0 := h0) (mI s 20 0) c (by omega)) (nm_ (by decide : nmb _ 1 = true)) (dl rfl) (dk rfl) rfl rfl (dk rfl) (dk rfl) (kV (v := .int (MS.A s 0 (40 + c))) ?_) xV
        refine g_icmp_eq ok (tgt := 52) dX8_runs_46 (by decide) (fun c46 => ?_) (fun c46 => ?_)
        · refine g_iincN ok dX8_runs_52 (c := (c + 1)) rfl rfl (ls1 := [some (.ref (ad 20)), some (.int (nI i)), some (.int (nI j)), some (.int v), some (.int (nI ((c + 1) + 1)))]) rfl ?_
          refine g_goto ok dX8_runs_55 (tgt := 26) (by decide) ?_
          exact ih (c + 1) _ (by omega) (by have z_ := g1; rw [rul] at z_; simp only [if_pos c46] at z_; exact z_)
        · refine g_iinc ok dX8_runs_49 rfl (v := (v + 1)) rfl (ls1 := [some (.ref (ad 20)), some (.int (nI i)), some (.int (nI j)), some (.int (v + 1)), some (.int (nI (c + 1)))]) rfl ?_
          refine g_iincN ok dX8_runs_52 (c := (c + 1)) rfl rfl (ls1 := [some (.ref (ad 20)), some (.int (nI i)), some (.int (nI j)), some (.int (v + 1)), some (.int (nI ((c + 1) + 1)))]) rfl ?_
          refine g_goto ok dX8_runs_55 (tgt := 26) (by decide) ?_
          exact ih (c + 1) _ (by omega) (by have z_ := g1; rw [rul] at z_; simp only [if_neg c46] at z_; exact z_)
    exact lp (j - i) i 1 (by omega) hF
  · have c10' := bI_e c10
    refine g_aload_n ok dX8_runs_13 rfl ?_
    refine g_iconst ok (v := 1) dX8_runs_14 rfl ?_
    refine g_callV ok q2362 q2364 qs33 q75 q2365 (m_recv ok hA) dX8_runs_15 (m_raises X.l X.G hA (h0 := h0) (mI s 20 0) 1) (nm_ (by decide : nmb _ 1 = true)) (dl rfl) (dk rfl) rfl rfl (dk rfl) (dk rfl) (kV ?_) xV
    exact g_iret ok fn rfl dX8_runs_18 (pv_i (by simp [mRuns, mI_A, mI_I, c10']) (by simp [mRuns, mI_A, mI_I, c10'])) (dk rfl)
theorem m_longest (l : Launch) (G : GE) {h0 : AH} {ad : Nat → Nat} (hA : MAd ad) (s : MS) (x : Int32) : GM l G yX8_longest (ws_ yX8_longest cX8_longest 5 (some .int)) 4 [.ref (ad 20), .int x] (mput G h0 ad s) (0) (PV (.int (mLongest s x).1) (mput G h0 ad (mLongest s x).2)) := by
  refine GM.of (by decide) (dk rfl) ?_
  intro X eL eG eh ok fn
  subst eL; subst eG
  show GW X _ 0 0 [some (.ref (ad 20)), some (.int x), none, none, none] []
  refine g_aload_n ok dX8_longest_0 rfl ?_
  refine g_iconst ok (v := 0) dX8_longest_1 rfl ?_
  refine m_put ok hA 20 q2255 (by decide) dX8_longest_2 ⟨rfl, rfl⟩ ?_
  refine g_iload_n ok dX8_longest_5 rfl ?_
  refine g_callS ok q2390 q2391 q75 q2392 dX8_longest_6 (m_isColour X.l X.G _ x) (nm_ (by decide : nmb _ 1 = true)) (dl rfl) (dk rfl) rfl rfl (dk rfl) (dk rfl) (kV ?_) xV
  refine g_if_ne ok (tgt := 18) dX8_longest_9 (by decide) (fun c9 => ?_) (fun c9 => ?_)
  · have c9' := bI_n c9
    have hs_ : mLongest s x = (lol (s.A 0) x 32 0 0 0, mI s 20 0) := by unfold mLongest; rw [if_pos c9']
    rw [hs_] at fn
    clear hs_
    refine g_iconst ok (v := 0) dX8_longest_18 rfl ?_
    refine g_istore_n ok dX8_longest_19 (ls1 := [some (.ref (ad 20)), some (.int x), some (.int 0), none, none]) (dl rfl) rfl ?_
    refine g_iconst ok (v := 0) dX8_longest_20 rfl ?_
    refine g_istore_n ok dX8_longest_21 (ls1 := [some (.ref (ad 20)), some (.int x), some (.int 0), some (.int 0), none]) (dl rfl) rfl ?_
    refine g_iconst ok (v := 0) dX8_longest_22 rfl ?_
    refine g_istore ok dX8_longest_23 (ls1 := [some (.ref (ad 20)), some (.int x), some (.int 0), some (.int 0), some (.int 0)]) (dl rfl) rfl ?_
    obtain ⟨F, hF⟩ : ∃ F : Int32, lol (s.A 0) x 32 0 0 0 = F := ⟨_, rfl⟩
    rw [hF] at fn
    have lp : ∀ (n : Nat) (c : Nat) (v : Int32) (m : Int32), (c + n = 32) → (lol (s.A 0) x n c v m = F) → GW X (mput X.G h0 ad (mI s 20 0)) 0 25 [some (.ref (ad 20)), some (.int x), some (.int v), some (.int m), some (.int (nI c))] [] := by
      intro n
      induction n with
      | zero =>
        intro c v m g0 g1
        refine g_iload ok dX8_longest_25 rfl ?_
        refine g_bipush ok (v := 32) dX8_longest_27 rfl ?_
        refine g_icmp_ge ok (tgt := 62) dX8_longest_29 (by decide) (fun _ => ?_) (fun c_ => absurd (nI_le (a := 32) (b := c) (by omega) (by omega)) c_)
        refine g_iload_n ok dX8_longest_62 rfl ?_
        exact g_iret ok fn rfl dX8_longest_63 (pv_i g1 rfl) (dk rfl)
      | succ n ih =>
        intro c v m g0 g1
        refine g_iload ok dX8_longest_25 rfl ?_
        refine g_bipush ok (v := 32) dX8_longest_27 rfl ?_
        refine g_icmp_ge ok (tgt := 62) dX8_longest_29 (by decide) (fun c_ => absurd c_ (nI_ge (a := c) (b := 32) (by omega) (by omega))) (fun _ => ?_)
        refine g_aload_n ok dX8_longest_32 rfl ?_
        refine g_iload ok dX8_longest_33 rfl ?_
        refine g_callV ok q2393 q2395 qs37 q75 q2396 (m_recv ok hA) dX8_longest_35 (m_colour X.l X.G hA (h0 := h0) (mI s 20 0) c (by omega)) (nm_ (by decide : nmb _ 1 = true)) (dl rfl) (dk rfl) rfl rfl (dk rfl) (dk rfl) (kV (v := .int (MS.A s 0 (40 + c))) ?_) xV
        refine g_iload_n ok dX8_longest_38 rfl ?_
        refine g_icmp_ne ok (tgt := 48) dX8_longest_39 (by decide) (fun c39 => ?_) (fun c39 => ?_)
        · refine g_iconst ok (v := 0) dX8_longest_48 rfl ?_
          refine g_istore_n ok dX8_longest_49 (ls1 := [some (.ref (ad 20)), some (.int x), some (.int v), some (.int 0), some (.int (nI c))]) (dl rfl) rfl ?_
          refine g_iload_n ok dX8_longest_50 rfl ?_
          refine g_iload_n ok dX8_longest_51 rfl ?_
          refine g_max ok q2492 q576 q90 q577 dX8_longest_52 (dk rfl) rfl (dk rfl) (by omega) ?_
          refine g_istore_n ok dX8_longest_55 (ls1 := [some (.ref (ad 20)), some (.int x), some (.int (if v < 0 then 0 else v)), some (.int 0), some (.int (nI c))]) (dl rfl) rfl ?_
          refine g_iincN ok dX8_longest_56 (c := c) rfl rfl (ls1 := [some (.ref (ad 20)), some (.int x), some (.int (if v < 0 then 0 else v)), some (.int 0), some (.int (nI (c + 1)))]) rfl ?_
          refine g_goto ok dX8_longest_59 (tgt := 25) (by decide) ?_
          exact ih _ _ _ (by omega) (by have z_ := g1; rw [lol] at z_; simp only [if_neg c39] at z_; exact z_)
        · refine g_iload_n ok dX8_longest_42 rfl ?_
          refine g_iconst ok (v := 1) dX8_longest_43 rfl ?_
          refine g_iadd ok dX8_longest_44 ?_
          refine g_goto ok dX8_longest_45 (tgt := 49) (by decide) ?_
          refine g_istore_n ok dX8_longest_49 (ls1 := [some (.ref (ad 20)), some (.int x), some (.int v), some (.int (m + 1)), some (.int (nI c))]) (dl rfl) rfl ?_
          refine g_iload_n ok dX8_longest_50 rfl ?_
          refine g_iload_n ok dX8_longest_51 rfl ?_
          refine g_max ok q2492 q576 q90 q577 dX8_longest_52 (dk rfl) rfl (dk rfl) (by omega) ?_
          refine g_istore_n ok dX8_longest_55 (ls1 := [some (.ref (ad 20)), some (.int x), some (.int (if v < (m + 1) then (m + 1) else v)), some (.int (m + 1)), some (.int (nI c))]) (dl rfl) rfl ?_
          refine g_iincN ok dX8_longest_56 (c := c) rfl rfl (ls1 := [some (.ref (ad 20)), some (.int x), some (.int (if v < (m + 1) then (m + 1) else v)), some (.int (m + 1)), some (.int (nI (c + 1)))]) rfl ?_
          refine g_goto ok dX8_longest_59 (tgt := 25) (by decide) ?_
          exact ih _ _ _ (by omega) (by have z_ := g1; rw [lol] at z_; simp only [if_pos c39] at z_; exact z_)
    exact lp 32 0 0 0 (by omega) hF
  · have c9' := bI_e c9
    refine g_aload_n ok dX8_longest_12 rfl ?_
    refine g_iconst ok (v := 1) dX8_longest_13 rfl ?_
    refine g_callV ok q2362 q2364 qs33 q75 q2365 (m_recv ok hA) dX8_longest_14 (m_raises X.l X.G hA (h0 := h0) (mI s 20 0) 1) (nm_ (by decide : nmb _ 1 = true)) (dl rfl) (dk rfl) rfl rfl (dk rfl) (dk rfl) (kV ?_) xV
    exact g_iret ok fn rfl dX8_longest_17 (pv_i (by simp [mLongest, mI_A, mI_I, c9']) (by simp [mLongest, mI_A, mI_I, c9'])) (dk rfl)
theorem m_worth (l : Launch) (G : GE) {h0 : AH} {ad : Nat → Nat} (hA : MAd ad) (s : MS) (x : Int32) : GM l G yX8_worth (ws_ yX8_worth cX8_worth 4 (some .int)) 2 [.ref (ad 20), .int x] (mput G h0 ad s) (0) (PV (.int (wol (MS.A s 0) x 32 0 0)) (mput G h0 ad s)) := by
  refine GM.of (by decide) (dk rfl) ?_
  intro X eL eG eh ok fn
  subst eL; subst eG
  show GW X _ 0 0 [some (.ref (ad 20)), some (.int x), none, none] []
  refine g_iconst ok (v := 0) dX8_worth_0 rfl ?_
  refine g_istore_n ok dX8_worth_1 (ls1 := [some (.ref (ad 20)), some (.int x), some (.int 0), none]) (dl rfl) rfl ?_
  refine g_iconst ok (v := 0) dX8_worth_2 rfl ?_
  refine g_istore_n ok dX8_worth_3 (ls1 := [some (.ref (ad 20)), some (.int x), some (.int 0), some (.int 0)]) (dl rfl) rfl ?_
  obtain ⟨F, hF⟩ : ∃ F : Int32, wol (s.A 0) x 32 0 0 = F := ⟨_, rfl⟩
  rw [hF] at fn
  have lp : ∀ (n : Nat) (c : Nat) (v : Int32), (c + n = 32) → (wol (s.A 0) x n c v = F) → GW X (mput X.G h0 ad s) 0 4 [some (.ref (ad 20)), some (.int x), some (.int v), some (.int (nI c))] [] := by
    intro n
    induction n with
    | zero =>
      intro c v g0 g1
      refine g_iload_n ok dX8_worth_4 rfl ?_
      refine g_bipush ok (v := 32) dX8_worth_5 rfl ?_
      refine g_icmp_ge ok (tgt := 33) dX8_worth_7 (by decide) (fun _ => ?_) (fun c_ => absurd (nI_le (a := 32) (b := c) (by omega) (by omega)) c_)
      refine g_iload_n ok dX8_worth_33 rfl ?_
      exact g_iret ok fn rfl dX8_worth_34 (pv_i g1 rfl) (dk rfl)
    | succ n ih =>
      intro c v g0 g1
      refine g_iload_n ok dX8_worth_4 rfl ?_
      refine g_bipush ok (v := 32) dX8_worth_5 rfl ?_
      refine g_icmp_ge ok (tgt := 33) dX8_worth_7 (by decide) (fun c_ => absurd c_ (nI_ge (a := c) (b := 32) (by omega) (by omega))) (fun _ => ?_)
      refine g_aload_n ok dX8_worth_10 rfl ?_
      refine g_iload_n ok dX8_worth_11 rfl ?_
      refine g_callV ok q2393 q2395 qs37 q75 q2396 (m_recv ok hA) dX8_worth_12 (m_colour X.l X.G hA (h0 := h0) s c (by omega)) (nm_ (by decide : nmb _ 1 = true)) (dl rfl) (dk rfl) rfl rfl (dk rfl) (dk rfl) (kV ?_) xV
      refine g_iload_n ok dX8_worth_15 rfl ?_
      refine g_icmp_ne ok (tgt := 27) dX8_worth_16 (by decide) (fun c16 => ?_) (fun c16 => ?_)
      · refine g_iincN ok dX8_worth_27 (c := c) rfl rfl (ls1 := [some (.ref (ad 20)), some (.int x), some (.int v), some (.int (nI (c + 1)))]) rfl ?_
        refine g_goto ok dX8_worth_30 (tgt := 4) (by decide) ?_
        exact ih _ _ (by omega) (by have z_ := g1; rw [wol] at z_; simp only [if_neg c16] at z_; exact z_)
      · refine g_iload_n ok dX8_worth_19 rfl ?_
        refine g_aload_n ok dX8_worth_20 rfl ?_
        refine g_iload_n ok dX8_worth_21 rfl ?_
        refine g_callV ok q2331 q2333 qs26 q75 q2334 (m_recv ok hA) dX8_worth_22 (m_number X.l X.G hA (h0 := h0) s c (by omega)) (nm_ (by decide : nmb _ 1 = true)) (dl rfl) (dk rfl) rfl rfl (dk rfl) (dk rfl) (kV ?_) xV
        refine g_iadd ok dX8_worth_25 ?_
        refine g_istore_n ok dX8_worth_26 (ls1 := [some (.ref (ad 20)), some (.int x), some (.int (v + (MS.A s 0 (8 + c)))), some (.int (nI c))]) (dl rfl) rfl ?_
        refine g_iincN ok dX8_worth_27 (c := c) rfl rfl (ls1 := [some (.ref (ad 20)), some (.int x), some (.int (v + (MS.A s 0 (8 + c)))), some (.int (nI (c + 1)))]) rfl ?_
        refine g_goto ok dX8_worth_30 (tgt := 4) (by decide) ?_
        exact ih _ _ (by omega) (by have z_ := g1; rw [wol] at z_; simp only [if_pos c16] at z_; exact z_)
  exact lp 32 0 0 (by omega) hF
theorem m_many (l : Launch) (G : GE) {h0 : AH} {ad : Nat → Nat} (hA : MAd ad) (s : MS) (x : Int32) : GM l G yX8_many (ws_ yX8_many cX8_many 4 (some .int)) 2 [.ref (ad 20), .int x] (mput G h0 ad s) (0) (PV (.int (mal (MS.A s 0) x 32 0 0)) (mput G h0 ad s)) := by
  refine GM.of (by decide) (dk rfl) ?_
  intro X eL eG eh ok fn
  subst eL; subst eG
  show GW X _ 0 0 [some (.ref (ad 20)), some (.int x), none, none] []
  refine g_iconst ok (v := 0) dX8_many_0 rfl ?_
  refine g_istore_n ok dX8_many_1 (ls1 := [some (.ref (ad 20)), some (.int x), some (.int 0), none]) (dl rfl) rfl ?_
  refine g_iconst ok (v := 0) dX8_many_2 rfl ?_
  refine g_istore_n ok dX8_many_3 (ls1 := [some (.ref (ad 20)), some (.int x), some (.int 0), some (.int 0)]) (dl rfl) rfl ?_
  obtain ⟨F, hF⟩ : ∃ F : Int32, mal (s.A 0) x 32 0 0 = F := ⟨_, rfl⟩
  rw [hF] at fn
  have lp : ∀ (n : Nat) (c : Nat) (v : Int32), (c + n = 32) → (mal (s.A 0) x n c v = F) → GW X (mput X.G h0 ad s) 0 4 [some (.ref (ad 20)), some (.int x), some (.int v), some (.int (nI c))] [] := by
    intro n
    induction n with
    | zero =>
      intro c v g0 g1
      refine g_iload_n ok dX8_many_4 rfl ?_
      refine g_bipush ok (v := 32) dX8_many_5 rfl ?_
      refine g_icmp_ge ok (tgt := 28) dX8_many_7 (by decide) (fun _ => ?_) (fun c_ => absurd (nI_le (a := 32) (b := c) (by omega) (by omega)) c_)
      refine g_iload_n ok dX8_many_28 rfl ?_
      exact g_iret ok fn rfl dX8_many_29 (pv_i g1 rfl) (dk rfl)
    | succ n ih =>
      intro c v g0 g1
      refine g_iload_n ok dX8_many_4 rfl ?_
      refine g_bipush ok (v := 32) dX8_many_5 rfl ?_
      refine g_icmp_ge ok (tgt := 28) dX8_many_7 (by decide) (fun c_ => absurd c_ (nI_ge (a := c) (b := 32) (by omega) (by omega))) (fun _ => ?_)
      refine g_aload_n ok dX8_many_10 rfl ?_
      refine g_iload_n ok dX8_many_11 rfl ?_
      refine g_callV ok q2393 q2395 qs37 q75 q2396 (m_recv ok hA) dX8_many_12 (m_colour X.l X.G hA (h0 := h0) s c (by omega)) (nm_ (by decide : nmb _ 1 = true)) (dl rfl) (dk rfl) rfl rfl (dk rfl) (dk rfl) (kV ?_) xV
      refine g_iload_n ok dX8_many_15 rfl ?_
      refine g_icmp_ne ok (tgt := 22) dX8_many_16 (by decide) (fun c16 => ?_) (fun c16 => ?_)
      · refine g_iincN ok dX8_many_22 (c := c) rfl rfl (ls1 := [some (.ref (ad 20)), some (.int x), some (.int v), some (.int (nI (c + 1)))]) rfl ?_
        refine g_goto ok dX8_many_25 (tgt := 4) (by decide) ?_
        exact ih _ _ (by omega) (by have z_ := g1; rw [mal] at z_; simp only [if_neg c16] at z_; exact z_)
      · refine g_iinc ok dX8_many_19 rfl (v := (v + 1)) rfl (ls1 := [some (.ref (ad 20)), some (.int x), some (.int (v + 1)), some (.int (nI c))]) rfl ?_
        refine g_iincN ok dX8_many_22 (c := c) rfl rfl (ls1 := [some (.ref (ad 20)), some (.int x), some (.int (v + 1)), some (.int (nI (c + 1)))]) rfl ?_
        refine g_goto ok dX8_many_25 (tgt := 4) (by decide) ?_
        exact ih _ _ (by omega) (by have z_ := g1; rw [mal] at z_; simp only [if_pos c16] at z_; exact z_)
  exact lp 32 0 0 (by omega) hF
theorem m_sumOf (l : Launch) (G : GE) {h0 : AH} {ad : Nat → Nat} (hA : MAd ad) (s : MS) (x : Int32) : GM l G yX8_sumOf (ws_ yX8_sumOf cX8_sumOf 2 (some .int)) 4 [.ref (ad 20), .int x] (mput G h0 ad s) (0) (PV (.int (mSumOf s x).1) (mput G h0 ad (mSumOf s x).2)) := by
  refine GM.of (by decide) (dk rfl) ?_
  intro X eL eG eh ok fn
  subst eL; subst eG
  show GW X _ 0 0 [some (.ref (ad 20)), some (.int x)] []
  refine g_aload_n ok dX8_sumOf_0 rfl ?_
  refine g_iconst ok (v := 0) dX8_sumOf_1 rfl ?_
  refine m_put ok hA 20 q2255 (by decide) dX8_sumOf_2 ⟨rfl, rfl⟩ ?_
  refine g_iload_n ok dX8_sumOf_5 rfl ?_
  refine g_callS ok q2390 q2391 q75 q2392 dX8_sumOf_6 (m_isColour X.l X.G _ x) (nm_ (by decide : nmb _ 1 = true)) (dl rfl) (dk rfl) rfl rfl (dk rfl) (dk rfl) (kV ?_) xV
  refine g_if_eq ok (tgt := 20) dX8_sumOf_9 (by decide) (fun c9 => ?_) (fun c9 => ?_)
  · have c9' := bI_e c9
    refine g_aload_n ok dX8_sumOf_20 rfl ?_
    refine g_iconst ok (v := 1) dX8_sumOf_21 rfl ?_
    refine g_callV ok q2362 q2364 qs33 q75 q2365 (m_recv ok hA) dX8_sumOf_22 (m_raises X.l X.G hA (h0 := h0) (mI s 20 0) 1) (nm_ (by decide : nmb _ 1 = true)) (dl rfl) (dk rfl) rfl rfl (dk rfl) (dk rfl) (kV ?_) xV
    exact g_iret ok fn rfl dX8_sumOf_25 (pv_i (by simp [mSumOf, mI_A, mI_I, c9']) (by simp [mSumOf, mI_A, mI_I, c9'])) (dk rfl)
  · have c9' := bI_n c9
    refine g_aload_n ok dX8_sumOf_12 rfl ?_
    refine g_iload_n ok dX8_sumOf_13 rfl ?_
    refine g_callV ok q2497 q2499 qs44 q75 q2500 (m_recv ok hA) dX8_sumOf_14 (m_worth X.l X.G hA (h0 := h0) (mI s 20 0) x) (nm_ (by decide : nmb _ 1 = true)) (dl rfl) (dk rfl) rfl rfl (dk rfl) (dk rfl) (kV (v := .int (wol (MS.A s 0) x 32 0 0)) ?_) xV
    refine g_goto ok dX8_sumOf_17 (tgt := 25) (by decide) ?_
    exact g_iret ok fn rfl dX8_sumOf_25 (pv_i (by simp [mSumOf, mI_A, mI_I, c9']) (by simp [mSumOf, mI_A, mI_I, c9'])) (dk rfl)
theorem m_isAhead (l : Launch) (G : GE) {h0 : AH} {ad : Nat → Nat} (hA : MAd ad) (s : MS) (o : Int32) (t : Int32) : GM l G yX8_isAhead (ws_ yX8_isAhead cX8_isAhead 4 (some .boolean)) 3 [.ref (ad 20), .int o, .int t] (mput G h0 ad s) (0) (PV (.int (bI (ahd (MS.A s 0) o t))) (mput G h0 ad s)) := by
  refine GM.of (by decide) (dk rfl) ?_
  intro X eL eG eh ok fn
  subst eL; subst eG
  show GW X _ 0 0 [some (.ref (ad 20)), some (.int o), some (.int t), none] []
  refine g_aload_n ok dX8_isAhead_0 rfl ?_
  refine g_iload_n ok dX8_isAhead_1 rfl ?_
  refine g_callV ok q2497 q2499 qs44 q75 q2500 (m_recv ok hA) dX8_isAhead_2 (m_worth X.l X.G hA (h0 := h0) s o) (nm_ (by decide : nmb _ 1 = true)) (dl rfl) (dk rfl) rfl rfl (dk rfl) (dk rfl) (kV ?_) xV
  refine g_aload_n ok dX8_isAhead_5 rfl ?_
  refine g_iload_n ok dX8_isAhead_6 rfl ?_
  refine g_callV ok q2497 q2499 qs44 q75 q2500 (m_recv ok hA) dX8_isAhead_7 (m_worth X.l X.G hA (h0 := h0) s t) (nm_ (by decide : nmb _ 1 = true)) (dl rfl) (dk rfl) rfl rfl (dk rfl) (dk rfl) (kV ?_) xV
  refine g_isub ok dX8_isAhead_10 ?_
  refine g_istore_n ok dX8_isAhead_11 (ls1 := [some (.ref (ad 20)), some (.int o), some (.int t), some (.int ((wol (MS.A s 0) o 32 0 0) - (wol (MS.A s 0) t 32 0 0)))]) (dl rfl) rfl ?_
  refine g_iload_n ok dX8_isAhead_12 rfl ?_
  refine g_if_ne ok (tgt := 28) dX8_isAhead_13 (by decide) (fun c13 => ?_) (fun c13 => ?_)
  · refine g_iload_n ok dX8_isAhead_28 rfl ?_
    refine g_if_gt ok (tgt := 41) dX8_isAhead_29 (by decide) (fun c29 => ?_) (fun c29 => ?_)
    · have c29' := Int32.not_le.mpr c29
      refine g_iconst ok (v := 1) dX8_isAhead_41 rfl ?_
      refine g_goto ok dX8_isAhead_42 (tgt := 46) (by decide) ?_
      exact g_zret ok fn rfl rfl dX8_isAhead_46 (pv_i (by first | exact absurd c33 c13 | simp [bI, ahd, c13, c29, c29']) rfl) (dk rfl)
    · have c29' := Int32.not_lt.mp c29
      refine g_iload_n ok dX8_isAhead_32 rfl ?_
      refine g_if_ne ok (tgt := 45) dX8_isAhead_33 (by decide) (fun c33 => ?_) (fun c33 => ?_)
      · refine g_iconst ok (v := 0) dX8_isAhead_45 rfl ?_
        exact g_zret ok fn rfl rfl dX8_isAhead_46 (pv_i (by first | exact absurd c33 c13 | simp [bI, ahd, c13, c29, c29', c33]) rfl) (dk rfl)
      · refine g_iload_n ok dX8_isAhead_36 rfl ?_
        refine g_iload_n ok dX8_isAhead_37 rfl ?_
        refine g_icmp_ge ok (tgt := 45) dX8_isAhead_38 (by decide) (fun c38 => ?_) (fun c38 => ?_)
        · have c38' := Int32.not_lt.mpr c38
          refine g_iconst ok (v := 0) dX8_isAhead_45 rfl ?_
          exact g_zret ok fn rfl rfl dX8_isAhead_46 (pv_i (by first | exact absurd c33 c13 | simp [bI, ahd, c13, c29, c29', c33, c38, c38']) rfl) (dk rfl)
        · have c38' := Int32.not_le.mp c38
          refine g_iconst ok (v := 1) dX8_isAhead_41 rfl ?_
          refine g_goto ok dX8_isAhead_42 (tgt := 46) (by decide) ?_
          exact g_zret ok fn rfl rfl dX8_isAhead_46 (pv_i (by first | exact absurd c33 c13 | simp [bI, ahd, c13, c29, c29', c33, c38, c38']) rfl) (dk rfl)
  · refine g_aload_n ok dX8_isAhead_16 rfl ?_
    refine g_iload_n ok dX8_isAhead_17 rfl ?_
    refine g_callV ok q2509 q2511 qs46 q75 q2512 (m_recv ok hA) dX8_isAhead_18 (m_many X.l X.G hA (h0 := h0) s o) (nm_ (by decide : nmb _ 1 = true)) (dl rfl) (dk rfl) rfl rfl (dk rfl) (dk rfl) (kV ?_) xV
    refine g_aload_n ok dX8_isAhead_21 rfl ?_
    refine g_iload_n ok dX8_isAhead_22 rfl ?_
    refine g_callV ok q2509 q2511 qs46 q75 q2512 (m_recv ok hA) dX8_isAhead_23 (m_many X.l X.G hA (h0 := h0) s t) (nm_ (by decide : nmb _ 1 = true)) (dl rfl) (dk rfl) rfl rfl (dk rfl) (dk rfl) (kV ?_) xV
    refine g_isub ok dX8_isAhead_26 ?_
    refine g_istore_n ok dX8_isAhead_27 (ls1 := [some (.ref (ad 20)), some (.int o), some (.int t), some (.int ((mal (MS.A s 0) o 32 0 0) - (mal (MS.A s 0) t 32 0 0)))]) (dl rfl) rfl ?_
    refine g_iload_n ok dX8_isAhead_28 rfl ?_
    refine g_if_gt ok (tgt := 41) dX8_isAhead_29 (by decide) (fun c29 => ?_) (fun c29 => ?_)
    · have c29' := Int32.not_le.mpr c29
      refine g_iconst ok (v := 1) dX8_isAhead_41 rfl ?_
      refine g_goto ok dX8_isAhead_42 (tgt := 46) (by decide) ?_
      exact g_zret ok fn rfl rfl dX8_isAhead_46 (pv_i (by first | exact absurd c33 c13 | simp [bI, ahd, c13, c29, c29']) rfl) (dk rfl)
    · have c29' := Int32.not_lt.mp c29
      refine g_iload_n ok dX8_isAhead_32 rfl ?_
      refine g_if_ne ok (tgt := 45) dX8_isAhead_33 (by decide) (fun c33 => ?_) (fun c33 => ?_)
      · refine g_iconst ok (v := 0) dX8_isAhead_45 rfl ?_
        exact g_zret ok fn rfl rfl dX8_isAhead_46 (pv_i (by first | exact absurd c33 c13 | simp [bI, ahd, c13, c29, c29', c33]) rfl) (dk rfl)
      · refine g_iload_n ok dX8_isAhead_36 rfl ?_
        refine g_iload_n ok dX8_isAhead_37 rfl ?_
        refine g_icmp_ge ok (tgt := 45) dX8_isAhead_38 (by decide) (fun c38 => ?_) (fun c38 => ?_)
        · have c38' := Int32.not_lt.mpr c38
          refine g_iconst ok (v := 0) dX8_isAhead_45 rfl ?_
          exact g_zret ok fn rfl rfl dX8_isAhead_46 (pv_i (by first | exact absurd c33 c13 | simp [bI, ahd, c13, c29, c29', c33, c38, c38']) rfl) (dk rfl)
        · have c38' := Int32.not_le.mp c38
          refine g_iconst ok (v := 1) dX8_isAhead_41 rfl ?_
          refine g_goto ok dX8_isAhead_42 (tgt := 46) (by decide) ?_
          exact g_zret ok fn rfl rfl dX8_isAhead_46 (pv_i (by first | exact absurd c33 c13 | simp [bI, ahd, c13, c29, c29', c33, c38, c38']) rfl) (dk rfl)
theorem rkl_t {R : Nat → Int32} {p : Int32} {n o : Nat} {F : Option Nat} (h : ral R o 4 0 0 = p) (g : rkl R p (n + 1) o = F) : some o = F := by
  rw [rkl, if_pos h] at g; exact g
theorem rkl_f {R : Nat → Int32} {p : Int32} {n o : Nat} {F : Option Nat} (h : ¬ ral R o 4 0 0 = p) (g : rkl R p (n + 1) o = F) : rkl R p n (o + 1) = F := by
  rw [rkl, if_neg h] at g; exact g
theorem ral_e {R : Nat → Int32} {o k c : Nat} {v F : Int32} (h : nI c = nI o) (g : ral R o (k + 1) c v = F) : ral R o k (c + 1) v = F := by
  rw [ral, if_pos h] at g; exact g
theorem ral_t {R : Nat → Int32} {o k c : Nat} {v F : Int32} (h : ¬ nI c = nI o) (h2 : ahd R (nI c) (nI o) = true) (g : ral R o (k + 1) c v = F) : ral R o k (c + 1) (v + 1) = F := by
  rw [ral, if_neg h, if_pos h2] at g; exact g
theorem ral_f {R : Nat → Int32} {o k c : Nat} {v F : Int32} (h : ¬ nI c = nI o) (h2 : ahd R (nI c) (nI o) = false) (g : ral R o (k + 1) c v = F) : ral R o k (c + 1) v = F := by
  rw [ral, if_neg h, if_neg (by rw [h2]; decide)] at g; exact g
theorem m_ranked (l : Launch) (G : GE) {h0 : AH} {ad : Nat → Nat} (hA : MAd ad) (s : MS) (p : Int32) : GM l G yX8_ranked (ws_ yX8_ranked cX8_ranked 5 (some .int)) 4 [.ref (ad 20), .int p] (mput G h0 ad s) (0) (PV (.int (mRanked s p).1) (mput G h0 ad (mRanked s p).2)) := by
  refine GM.of (by decide) (dk rfl) ?_
  intro X eL eG eh ok fn
  subst eL; subst eG
  show GW X _ 0 0 [some (.ref (ad 20)), some (.int p), none, none, none] []
  refine g_aload_n ok dX8_ranked_0 rfl ?_
  refine g_iconst ok (v := 0) dX8_ranked_1 rfl ?_
  refine m_put ok hA 20 q2255 (by decide) dX8_ranked_2 ⟨rfl, rfl⟩ ?_
  refine g_iconst ok (v := 0) dX8_ranked_5 rfl ?_
  refine g_istore_n ok dX8_ranked_6 (ls1 := [some (.ref (ad 20)), some (.int p), some (.int 0), none, none]) (dl rfl) rfl ?_
  have hs_ : mRanked s p = (match rkl (s.A 0) p 4 0 with | some o => (nI o, mI s 20 0) | none => (0, mI (mI s 20 0) 20 1)) := rfl
  rw [hs_] at fn
  clear hs_
  obtain ⟨F, hF⟩ : ∃ F : Option Nat, rkl (s.A 0) p 4 0 = F := ⟨_, rfl⟩
  rw [hF] at fn
  have lp : ∀ (n : Nat) (o : Nat), (o + n = 4 ∧ o ≤ 4) → (rkl (s.A 0) p n o = F) → GW X (mput X.G h0 ad (mI s 20 0)) 0 7 [some (.ref (ad 20)), some (.int p), some (.int (nI o)), none, none] [] := by
    intro n
    induction n with
    | zero =>
      intro o g0 g1
      refine g_iload_n ok dX8_ranked_7 rfl ?_
      refine g_iconst ok (v := 4) dX8_ranked_8 rfl ?_
      refine g_icmp_ge ok (tgt := 61) dX8_ranked_9 (by decide) (fun _ => ?_) (fun c_ => absurd (nI_le (a := 4) (b := o) (by omega) (by omega)) c_)
      have g1 : none = F := g1
      subst g1
      refine g_aload_n ok dX8_ranked_61 rfl ?_
      refine g_iconst ok (v := 1) dX8_ranked_62 rfl ?_
      refine g_callV ok q2362 q2364 qs33 q75 q2365 (m_recv ok hA) dX8_ranked_63 (m_raises X.l X.G hA (h0 := h0) (mI s 20 0) 1) (nm_ (by decide : nmb _ 1 = true)) (dl rfl) (dk rfl) rfl rfl (dk rfl) (dk rfl) (kV ?_) xV
      exact g_iret ok fn rfl dX8_ranked_66 (pv_i rfl rfl) (dk rfl)
    | succ n ih =>
      intro o g0 g1
      refine g_iload_n ok dX8_ranked_7 rfl ?_
      refine g_iconst ok (v := 4) dX8_ranked_8 rfl ?_
      refine g_icmp_ge ok (tgt := 61) dX8_ranked_9 (by decide) (fun c_ => absurd c_ (nI_ge (a := o) (b := 4) (by omega) (by omega))) (fun _ => ?_)
      refine g_iconst ok (v := 0) dX8_ranked_12 rfl ?_
      refine g_istore_n ok dX8_ranked_13 (ls1 := [some (.ref (ad 20)), some (.int p), some (.int (nI o)), some (.int 0), none]) (dl rfl) rfl ?_
      refine g_iconst ok (v := 0) dX8_ranked_14 rfl ?_
      refine g_istore ok dX8_ranked_15 (ls1 := [some (.ref (ad 20)), some (.int p), some (.int (nI o)), some (.int 0), some (.int 0)]) (dl rfl) rfl ?_
      obtain ⟨V, hV⟩ : ∃ V : Int32, ral (s.A 0) o 4 0 0 = V := ⟨_, rfl⟩
      have lq : ∀ (k : Nat) (c : Nat) (v : Int32), (c + k = 4 ∧ o < 4) → (ral (s.A 0) o k c v = V) → GW X (mput X.G h0 ad (mI s 20 0)) 0 17 [some (.ref (ad 20)), some (.int p), some (.int (nI o)), some (.int v), some (.int (nI c))] [] := by
        intro k
        induction k with
        | zero =>
          intro c v k0 k1
          refine g_iload ok dX8_ranked_17 rfl ?_
          refine g_iconst ok (v := 4) dX8_ranked_19 rfl ?_
          refine g_icmp_ge ok (tgt := 48) dX8_ranked_20 (by decide) (fun _ => ?_) (fun c_ => absurd (nI_le (a := 4) (b := c) (by omega) (by omega)) c_)
          have k1 : v = V := k1
          subst k1
          refine g_iload_n ok dX8_ranked_48 rfl ?_
          refine g_iload_n ok dX8_ranked_49 rfl ?_
          refine g_icmp_ne ok (tgt := 55) dX8_ranked_50 (by decide) (fun c50 => ?_) (fun c50 => ?_)
          · refine g_iincN ok dX8_ranked_55 (c := o) rfl rfl (ls1 := [some (.ref (ad 20)), some (.int p), some (.int (nI (o + 1))), some (.int v), some (.int (nI c))]) rfl ?_
            refine g_goto ok dX8_ranked_58 (tgt := 7) (by decide) ?_
            refine g_drop 3 (ls1 := [some (.ref (ad 20)), some (.int p), some (.int (nI (o + 1))), none, some (.int (nI c))]) rfl ?_
            refine g_drop 4 (ls1 := [some (.ref (ad 20)), some (.int p), some (.int (nI (o + 1))), none, none]) rfl ?_
            exact ih _ (by omega) (rkl_f (by rw [hV]; exact c50) g1)
          · refine g_iload_n ok dX8_ranked_53 rfl ?_
            have g1 : some o = F := rkl_t (by rw [hV]; exact c50) g1
            subst g1
            exact g_iret ok fn rfl dX8_ranked_54 (pv_i rfl rfl) (dk rfl)
        | succ k ik =>
          intro c v k0 k1
          refine g_iload ok dX8_ranked_17 rfl ?_
          refine g_iconst ok (v := 4) dX8_ranked_19 rfl ?_
          refine g_icmp_ge ok (tgt := 48) dX8_ranked_20 (by decide) (fun c_ => absurd c_ (nI_ge (a := c) (b := 4) (by omega) (by omega))) (fun _ => ?_)
          refine g_iload ok dX8_ranked_23 rfl ?_
          refine g_iload_n ok dX8_ranked_25 rfl ?_
          refine g_icmp_eq ok (tgt := 42) dX8_ranked_26 (by decide) (fun c26 => ?_) (fun c26 => ?_)
          · refine g_iincN ok dX8_ranked_42 (c := c) rfl rfl (ls1 := [some (.ref (ad 20)), some (.int p), some (.int (nI o)), some (.int v), some (.int (nI (c + 1)))]) rfl ?_
            refine g_goto ok dX8_ranked_45 (tgt := 17) (by decide) ?_
            exact ik _ _ (by omega) (ral_e c26 k1)
          · refine g_aload_n ok dX8_ranked_29 rfl ?_
            refine g_iload ok dX8_ranked_30 rfl ?_
            refine g_iload_n ok dX8_ranked_32 rfl ?_
            refine g_callV ok q2505 q2507 qs45 q75 q2508 (m_recv ok hA) dX8_ranked_33 (m_isAhead X.l X.G hA (h0 := h0) (mI s 20 0) (nI c) (nI o)) (nm_ (by decide : nmb _ 2 = true)) (dl rfl) (dk rfl) rfl rfl (dk rfl) (dk rfl) (kV (v := .int (bI (ahd (MS.A s 0) (nI c) (nI o)))) ?_) xV
            refine g_if_eq ok (tgt := 42) dX8_ranked_36 (by decide) (fun c36 => ?_) (fun c36 => ?_)
            · have c36' := bI_e c36
              refine g_iincN ok dX8_ranked_42 (c := c) rfl rfl (ls1 := [some (.ref (ad 20)), some (.int p), some (.int (nI o)), some (.int v), some (.int (nI (c + 1)))]) rfl ?_
              refine g_goto ok dX8_ranked_45 (tgt := 17) (by decide) ?_
              exact ik _ _ (by omega) (ral_f c26 c36' k1)
            · have c36' := bI_n c36
              refine g_iinc ok dX8_ranked_39 rfl (v := (v + 1)) rfl (ls1 := [some (.ref (ad 20)), some (.int p), some (.int (nI o)), some (.int (v + 1)), some (.int (nI c))]) rfl ?_
              refine g_iincN ok dX8_ranked_42 (c := c) rfl rfl (ls1 := [some (.ref (ad 20)), some (.int p), some (.int (nI o)), some (.int (v + 1)), some (.int (nI (c + 1)))]) rfl ?_
              refine g_goto ok dX8_ranked_45 (tgt := 17) (by decide) ?_
              exact ik _ _ (by omega) (ral_t c26 c36' k1)
      exact lq 4 0 0 (by omega) hV
  exact lp 4 0 (by omega) hF
theorem m_keepsVersion (l : Launch) (G : GE) {h0 : AH} {ad : Nat → Nat} (hA : MAd ad) (s : MS) (y0 : mVo s) : GM l G yX8_keepsVersion (ws_ yX8_keepsVersion cX8_keepsVersion 3 (some .int)) 2 [.ref (ad 20)] (mput G h0 ad s) (0) (PV (.int (mKV s ).1) (mput G h0 ad (mKV s ).2)) := by
  refine GM.of (by decide) (dk rfl) ?_
  intro X eL eG eh ok fn
  subst eL; subst eG
  show GW X _ 0 0 [some (.ref (ad 20)), none, none] []
  obtain ⟨n1, n2⟩ := y0
  refine g_aload_n ok dX8_keepsVersion_0 rfl ?_
  refine m_get ok hA 0 q2235 (by decide) dX8_keepsVersion_1 (v := .ref (ad 0)) rfl ?_
  refine g_iconst ok (v := 2) dX8_keepsVersion_4 rfl ?_
  refine m_ald ok hA 0 2 (v := (nI (mV s))) (by decide) dX8_keepsVersion_5 rfl (by decide) n1 ?_
  refine g_istore_n ok dX8_keepsVersion_6 (ls1 := [some (.ref (ad 20)), some (.int (nI (mV s))), none]) (dl rfl) rfl ?_
  by_cases h5 : mV s = 5
  · have hs_ : mKV s = (2, mRef s 1 5) := by unfold mKV; rw [if_pos h5]
    rw [hs_] at fn
    clear hs_
    refine g_iload_n ok dX8_keepsVersion_7 rfl ?_
    refine g_iconst ok (v := 5) dX8_keepsVersion_8 rfl ?_
    refine g_icmp_ne ok (tgt := 19) dX8_keepsVersion_9 (by decide) (fun c_ => absurd (congrArg nI (by omega : (mV s) = 5)) c_) (fun _ => ?_)
    refine g_aload_n ok dX8_keepsVersion_12 rfl ?_
    refine g_iconst ok (v := 1) dX8_keepsVersion_13 rfl ?_
    refine g_iconst ok (v := 5) dX8_keepsVersion_14 rfl ?_
    refine g_callV ok q2338 q2340 qs27 q75 q2341 (m_recv ok hA) dX8_keepsVersion_15 (m_refuses X.l X.G hA (h0 := h0) s 1 5) (nm_ (by decide : nmb _ 2 = true)) (dl rfl) (dk rfl) rfl rfl (dk rfl) (dk rfl) (kV ?_) xV
    exact g_iret ok fn rfl dX8_keepsVersion_18 (pv_i rfl rfl) (dk rfl)
  · have hs_ : mKV s = (0, mI (mA (kvT s) 0 2 ((kvT s).A 0 2 + 1)) 19 (nI (mV s))) := by unfold mKV; rw [if_neg h5]
    rw [hs_] at fn
    clear hs_
    refine g_iload_n ok dX8_keepsVersion_7 rfl ?_
    refine g_iconst ok (v := 5) dX8_keepsVersion_8 rfl ?_
    refine g_icmp_ne ok (tgt := 19) dX8_keepsVersion_9 (by decide) (fun _ => ?_) (fun c_ => absurd c_ (fun e_ => by have := (nI_eq (a := (mV s)) (b := 5) (by omega) (by omega)).mp e_; omega))
    refine g_iconst ok (v := 0) dX8_keepsVersion_19 rfl ?_
    refine g_istore_n ok dX8_keepsVersion_20 (ls1 := [some (.ref (ad 20)), some (.int (nI (mV s))), some (.int 0)]) (dl rfl) rfl ?_
    unfold kvT at fn
    generalize mV s = v at *
    have lp : ∀ (n : Nat) (c : Nat) (t : MS), (c + n = 64) → (cpl 0 (122 + 64 * v) 0 8 n c t = cpl 0 (122 + 64 * v) 0 8 64 0 s) → GW X (mput X.G h0 ad t) 0 21 [some (.ref (ad 20)), some (.int (nI v)), some (.int (nI c))] [] := by
      intro n
      induction n with
      | zero =>
        intro c t g0 g1
        refine g_iload_n ok dX8_keepsVersion_21 rfl ?_
        refine g_bipush ok (v := 64) dX8_keepsVersion_22 rfl ?_
        refine g_icmp_ge ok (tgt := 56) dX8_keepsVersion_24 (by decide) (fun _ => ?_) (fun c_ => absurd (nI_le (a := 64) (b := c) (by omega) (by omega)) c_)
        have g1 : t = cpl 0 (122 + 64 * v) 0 8 64 0 s := g1
        subst g1
        have g0 : c = 64 := by omega
        subst g0
        refine g_aload_n ok dX8_keepsVersion_56 rfl ?_
        refine m_get ok hA 0 q2235 (by decide) dX8_keepsVersion_57 (v := .ref (ad 0)) rfl ?_
        refine g_iconst ok (v := 2) dX8_keepsVersion_60 rfl ?_
        refine g_dup2_11 ok dX8_keepsVersion_61 rfl rfl ?_
        refine m_ald ok hA 0 2 (v := (MS.A (cpl 0 (122 + 64 * v) 0 8 64 0 s) 0 2)) (by decide) dX8_keepsVersion_62 rfl (by decide) rfl ?_
        refine g_iconst ok (v := 1) dX8_keepsVersion_63 rfl ?_
        refine g_iadd ok dX8_keepsVersion_64 ?_
        refine m_ast ok hA 0 2 (by decide) dX8_keepsVersion_65 rfl (by decide) ?_
        refine g_aload_n ok dX8_keepsVersion_66 rfl ?_
        refine g_iload_n ok dX8_keepsVersion_67 rfl ?_
        refine g_callV ok q2350 q2352 qs30 q75 q2353 (m_recv ok hA) dX8_keepsVersion_68 (m_does X.l X.G hA (h0 := h0) (mA (cpl 0 (122 + 64 * v) 0 8 64 0 s) 0 2 ((MS.A (cpl 0 (122 + 64 * v) 0 8 64 0 s) 0 2) + 1)) (nI v)) (nm_ (by decide : nmb _ 1 = true)) (dl rfl) (dk rfl) rfl rfl (dk rfl) (dk rfl) (kV ?_) xV
        exact g_iret ok fn rfl dX8_keepsVersion_71 (pv_i rfl rfl) (dk rfl)
      | succ n ih =>
        intro c t g0 g1
        refine g_iload_n ok dX8_keepsVersion_21 rfl ?_
        refine g_bipush ok (v := 64) dX8_keepsVersion_22 rfl ?_
        refine g_icmp_ge ok (tgt := 56) dX8_keepsVersion_24 (by decide) (fun c_ => absurd c_ (nI_ge (a := c) (b := 64) (by omega) (by omega))) (fun _ => ?_)
        refine g_aload_n ok dX8_keepsVersion_27 rfl ?_
        refine m_get ok hA 0 q2235 (by decide) dX8_keepsVersion_28 (v := .ref (ad 0)) rfl ?_
        refine g_bipush ok (v := 122) dX8_keepsVersion_31 rfl ?_
        refine g_bipush ok (v := 64) dX8_keepsVersion_33 rfl ?_
        refine g_iload_n ok dX8_keepsVersion_35 rfl ?_
        refine g_imulN ok dX8_keepsVersion_36 (c := (64 * v)) (a := 64) (b := v) rfl rfl rfl ?_
        refine g_iaddN ok dX8_keepsVersion_37 (c := (122 + (64 * v))) (a := 122) (b := (64 * v)) rfl rfl rfl ?_
        refine g_iload_n ok dX8_keepsVersion_38 rfl ?_
        refine g_iaddN ok dX8_keepsVersion_39 (c := ((122 + (64 * v)) + c)) (a := (122 + (64 * v))) (b := c) rfl rfl rfl ?_
        refine g_aload_n ok dX8_keepsVersion_40 rfl ?_
        refine m_get ok hA 0 q2235 (by decide) dX8_keepsVersion_41 (v := .ref (ad 0)) rfl ?_
        refine g_bipush ok (v := 8) dX8_keepsVersion_44 rfl ?_
        refine g_iload_n ok dX8_keepsVersion_46 rfl ?_
        refine g_iaddN ok dX8_keepsVersion_47 (c := (8 + c)) (a := 8) (b := c) rfl rfl rfl ?_
        refine m_ald ok hA 0 (8 + c) (v := (MS.A t 0 (8 + c))) (by decide) dX8_keepsVersion_48 rfl (by simp only [mlen]; omega) rfl ?_
        refine m_ast ok hA 0 ((122 + (64 * v)) + c) (by decide) dX8_keepsVersion_49 rfl (by simp only [mlen]; omega) ?_
        refine g_iincN ok dX8_keepsVersion_50 (c := c) rfl rfl (ls1 := [some (.ref (ad 20)), some (.int (nI v)), some (.int (nI (c + 1)))]) rfl ?_
        refine g_goto ok dX8_keepsVersion_53 (tgt := 21) (by decide) ?_
        exact ih _ _ (by omega) g1
    exact lp 64 0 _ (by omega) rfl
theorem m_keep (l : Launch) (G : GE) {h0 : AH} {ad : Nat → Nat} (hA : MAd ad) (s : MS) (y0 : mUo s) (y1 : mVo s) : GM l G yX8_keep (ws_ yX8_keep cX8_keep 1 (some .int)) 4 [.ref (ad 20)] (mput G h0 ad s) (0) (PV (.int (mKeep s ).1) (mput G h0 ad (mKeep s ).2)) := by
  refine GM.of (by decide) (dk rfl) ?_
  intro X eL eG eh ok fn
  subst eL; subst eG
  show GW X _ 0 0 [some (.ref (ad 20))] []
  refine g_aload_n ok dX8_keep_0 rfl ?_
  refine g_callV ok q2307 q2309 qs23 q75 q2310 (m_recv ok hA) dX8_keep_1 (m_tries X.l X.G hA (h0 := h0) s ) (nm_ (by decide : nmb _ 0 = true)) (dl rfl) (dk rfl) rfl rfl (dk rfl) (dk rfl) (kN ?_) xN
  refine g_aload_n ok dX8_keep_4 rfl ?_
  refine g_callV ok q2517 q2519 qs47 q75 q2520 (m_recv ok hA) dX8_keep_5 (m_keepsVersion X.l X.G hA (h0 := h0) (mTries s) (mTries_vo y1)) (nm_ (by decide : nmb _ 0 = true)) (dl rfl) (dk rfl) rfl rfl (dk rfl) (dk rfl) (kV ?_) xV
  refine g_if_ne ok (tgt := 22) dX8_keep_8 (by decide) (fun c8 => ?_) (fun c8 => ?_)
  · refine g_aload_n ok dX8_keep_22 rfl ?_
    refine g_iconst ok (v := 1) dX8_keep_23 rfl ?_
    refine g_callV ok q2362 q2364 qs33 q75 q2365 (m_recv ok hA) dX8_keep_24 (m_raises X.l X.G hA (h0 := h0) (mKV (mTries s) ).2 1) (nm_ (by decide : nmb _ 1 = true)) (dl rfl) (dk rfl) rfl rfl (dk rfl) (dk rfl) (kV ?_) xV
    exact g_iret ok fn rfl dX8_keep_27 (pv_i (by simp [mKeep, c8]) (by simp [mKeep, c8])) (dk rfl)
  · refine g_aload_n ok dX8_keep_11 rfl ?_
    refine g_aload_n ok dX8_keep_12 rfl ?_
    refine m_get ok hA 19 q2254 (by decide) dX8_keep_13 (v := .int (MS.I (mKV (mTries s) ).2 19)) rfl ?_
    refine g_callV ok q2358 q2360 qs32 q75 q2361 (m_recv ok hA) dX8_keep_16 (m_keeps X.l X.G hA (h0 := h0) (mKV (mTries s) ).2 (MS.I (mKV (mTries s) ).2 19) (mKV_u (mTries_u y0))) (nm_ (by decide : nmb _ 1 = true)) (dl rfl) (dk rfl) rfl rfl (dk rfl) (dk rfl) (kV ?_) xV
    refine g_goto ok dX8_keep_19 (tgt := 27) (by decide) ?_
    exact g_iret ok fn rfl dX8_keep_27 (pv_i (by simp [mKeep, c8]) (by simp [mKeep, c8])) (dk rfl)
theorem m_isVersion (l : Launch) (G : GE) {h0 : AH} {ad : Nat → Nat} (hA : MAd ad) (s : MS) (v : Int32) : GM l G yX8_isVersion (ws_ yX8_isVersion cX8_isVersion 2 (some .boolean)) 2 [.ref (ad 20), .int v] (mput G h0 ad s) (0) (PV (.int (bI (mIsV s v))) (mput G h0 ad s)) := by
  refine GM.of (by decide) (dk rfl) ?_
  intro X eL eG eh ok fn
  subst eL; subst eG
  show GW X _ 0 0 [some (.ref (ad 20)), some (.int v)] []
  refine g_iload_n ok dX8_isVersion_0 rfl ?_
  refine g_iconst ok (v := 0) dX8_isVersion_1 rfl ?_
  refine g_aload_n ok dX8_isVersion_2 rfl ?_
  refine m_get ok hA 0 q2235 (by decide) dX8_isVersion_3 (v := .ref (ad 0)) rfl ?_
  refine g_iconst ok (v := 2) dX8_isVersion_6 rfl ?_
  refine m_ald ok hA 0 2 (v := (MS.A s 0 2)) (by decide) dX8_isVersion_7 rfl (by decide) rfl ?_
  refine g_iconst ok (v := 1) dX8_isVersion_8 rfl ?_
  refine g_isub ok dX8_isVersion_9 ?_
  refine g_callS ok q2321 q2322 q75 q2323 dX8_isVersion_10 (m_in X.l X.G _ v 0 ((MS.A s 0 2) - 1)) (nm_ (by decide : nmb _ 3 = true)) (dl rfl) (dk rfl) rfl rfl (dk rfl) (dk rfl) (kV ?_) xV
  exact g_zret ok fn rfl (bI_z _) dX8_isVersion_13 (pv_i rfl rfl) (dk rfl)
theorem m_had (l : Launch) (G : GE) {h0 : AH} {ad : Nat → Nat} (hA : MAd ad) (s : MS) (v : Nat) (c : Nat) (z : Int32) (y0 : v < 5) (y1 : c < 32) : GM l G yX8_had (ws_ yX8_had cX8_had 4 (some .int)) 1 [.ref (ad 20), .int (nI v), .int (nI c), .int z] (mput G h0 ad s) (0) (PV (.int (hdF (MS.A s 0) v c z)) (mput G h0 ad s)) := by
  refine GM.of (by decide) (dk rfl) ?_
  intro X eL eG eh ok fn
  subst eL; subst eG
  show GW X _ 0 0 [some (.ref (ad 20)), some (.int (nI v)), some (.int (nI c)), some (.int z)] []
  refine g_aload_n ok dX8_had_0 rfl ?_
  refine m_get ok hA 0 q2235 (by decide) dX8_had_1 (v := .ref (ad 0)) rfl ?_
  refine g_bipush ok (v := 122) dX8_had_4 rfl ?_
  refine g_bipush ok (v := 64) dX8_had_6 rfl ?_
  refine g_iload_n ok dX8_had_8 rfl ?_
  refine g_imulN ok dX8_had_9 (c := (64 * v)) (a := 64) (b := v) rfl rfl rfl ?_
  refine g_iaddN ok dX8_had_10 (c := (122 + (64 * v))) (a := 122) (b := (64 * v)) rfl rfl rfl ?_
  refine g_iload_n ok dX8_had_11 rfl ?_
  refine g_if_eq ok (tgt := 20) dX8_had_12 (by decide) (fun c12 => ?_) (fun c12 => ?_)
  · refine g_iconst ok (v := 0) dX8_had_20 rfl ?_
    refine g_iaddN ok dX8_had_21 (c := (122 + (64 * v))) (a := (122 + (64 * v))) (b := 0) rfl rfl rfl ?_
    refine g_iload_n ok dX8_had_22 rfl ?_
    refine g_iaddN ok dX8_had_23 (c := ((122 + (64 * v)) + c)) (a := (122 + (64 * v))) (b := c) rfl rfl rfl ?_
    refine m_ald ok hA 0 ((122 + (64 * v)) + c) (v := (MS.A s 0 ((122 + (64 * v)) + c))) (by decide) dX8_had_24 rfl (by simp only [mlen]; omega) rfl ?_
    exact g_iret ok fn rfl dX8_had_25 (pv_i (by simp [hdF, c12]) rfl) (dk rfl)
  · refine g_bipush ok (v := 32) dX8_had_15 rfl ?_
    refine g_goto ok dX8_had_17 (tgt := 21) (by decide) ?_
    refine g_iaddN ok dX8_had_21 (c := ((122 + (64 * v)) + 32)) (a := (122 + (64 * v))) (b := 32) rfl rfl rfl ?_
    refine g_iload_n ok dX8_had_22 rfl ?_
    refine g_iaddN ok dX8_had_23 (c := (((122 + (64 * v)) + 32) + c)) (a := ((122 + (64 * v)) + 32)) (b := c) rfl rfl rfl ?_
    refine m_ald ok hA 0 (((122 + (64 * v)) + 32) + c) (v := (MS.A s 0 (((122 + (64 * v)) + 32) + c))) (by decide) dX8_had_24 rfl (by simp only [mlen]; omega) rfl ?_
    exact g_iret ok fn rfl dX8_had_25 (pv_i (by simp [hdF, c12]) rfl) (dk rfl)
theorem m_differentN (l : Launch) (G : GE) {h0 : AH} {ad : Nat → Nat} (hA : MAd ad) (s : MS) (v : Nat) (a : Nat) (b : Nat) (y0 : v < 5) (y1 : a ≤ b + 1) (y2 : b < 32) : GM l G yX8_different (ws_ yX8_different cX8_different 6 (some .int)) 2 [.ref (ad 20), .int (nI v), .int (nI a), .int (nI b)] (mput G h0 ad s) (0) (PV (.int (dfl (MS.A s 0) v (b + 1 - a) a 0)) (mput G h0 ad s)) := by
  refine GM.of (by decide) (dk rfl) ?_
  intro X eL eG eh ok fn
  subst eL; subst eG
  show GW X _ 0 0 [some (.ref (ad 20)), some (.int (nI v)), some (.int (nI a)), some (.int (nI b)), none, none] []
  refine g_iconst ok (v := 0) dX8_different_0 rfl ?_
  refine g_istore ok dX8_different_1 (ls1 := [some (.ref (ad 20)), some (.int (nI v)), some (.int (nI a)), some (.int (nI b)), some (.int 0), none]) (dl rfl) rfl ?_
  refine g_iload_n ok dX8_different_3 rfl ?_
  refine g_istore ok dX8_different_4 (ls1 := [some (.ref (ad 20)), some (.int (nI v)), some (.int (nI a)), some (.int (nI b)), some (.int 0), some (.int (nI a))]) (dl rfl) rfl ?_
  obtain ⟨F, hF⟩ : ∃ F : Int32, dfl (s.A 0) v (b + 1 - a) a 0 = F := ⟨_, rfl⟩
  rw [hF] at fn
  have lp : ∀ (n : Nat) (c : Nat) (x : Int32), (c + n = b + 1 ∧ c ≤ b + 1) → (dfl (s.A 0) v n c x = F) → GW X (mput X.G h0 ad s) 0 6 [some (.ref (ad 20)), some (.int (nI v)), some (.int (nI a)), some (.int (nI b)), some (.int x), some (.int (nI c))] [] := by
    intro n
    induction n with
    | zero =>
      intro c x g0 g1
      refine g_iload ok dX8_different_6 rfl ?_
      refine g_iload_n ok dX8_different_8 rfl ?_
      refine g_icmp_gt ok (tgt := 55) dX8_different_9 (by decide) (fun _ => ?_) (fun c_ => absurd (nI_lt (a := b) (b := c) (by omega) (by omega)) c_)
      refine g_iload ok dX8_different_55 rfl ?_
      exact g_iret ok fn rfl dX8_different_57 (pv_i g1 rfl) (dk rfl)
    | succ n ih =>
      intro c x g0 g1
      refine g_iload ok dX8_different_6 rfl ?_
      refine g_iload_n ok dX8_different_8 rfl ?_
      refine g_icmp_gt ok (tgt := 55) dX8_different_9 (by decide) (fun c_ => absurd c_ (nI_nlt (a := b) (b := c) (by omega) (by omega))) (fun _ => ?_)
      refine g_aload_n ok dX8_different_12 rfl ?_
      refine g_iload_n ok dX8_different_13 rfl ?_
      refine g_iload ok dX8_different_14 rfl ?_
      refine g_iconst ok (v := 0) dX8_different_16 rfl ?_
      refine g_callV ok q2533 q2535 qs50 q75 q2536 (m_recv ok hA) dX8_different_17 (m_had X.l X.G hA (h0 := h0) s v c 0 (by omega) (by omega)) (nm_ (by decide : nmb _ 3 = true)) (dl rfl) (dk rfl) rfl rfl (dk rfl) (dk rfl) (kV ?_) xV
      refine g_aload_n ok dX8_different_20 rfl ?_
      refine g_iload ok dX8_different_21 rfl ?_
      refine g_callV ok q2331 q2333 qs26 q75 q2334 (m_recv ok hA) dX8_different_23 (m_number X.l X.G hA (h0 := h0) s c (by omega)) (nm_ (by decide : nmb _ 1 = true)) (dl rfl) (dk rfl) rfl rfl (dk rfl) (dk rfl) (kV ?_) xV
      refine g_icmp_ne ok (tgt := 46) dX8_different_26 (by decide) (fun c26 => ?_) (fun c26 => ?_)
      · refine g_iinc ok dX8_different_46 rfl (v := (x + 1)) rfl (ls1 := [some (.ref (ad 20)), some (.int (nI v)), some (.int (nI a)), some (.int (nI b)), some (.int (x + 1)), some (.int (nI c))]) rfl ?_
        refine g_iincN ok dX8_different_49 (c := c) rfl rfl (ls1 := [some (.ref (ad 20)), some (.int (nI v)), some (.int (nI a)), some (.int (nI b)), some (.int (x + 1)), some (.int (nI (c + 1)))]) rfl ?_
        refine g_goto ok dX8_different_52 (tgt := 6) (by decide) ?_
        exact ih _ _ (by omega) (dfl_f (by simp [dfT, c26]) g1)
      · refine g_aload_n ok dX8_different_29 rfl ?_
        refine g_iload_n ok dX8_different_30 rfl ?_
        refine g_iload ok dX8_different_31 rfl ?_
        refine g_iconst ok (v := 1) dX8_different_33 rfl ?_
        refine g_callV ok q2533 q2535 qs50 q75 q2536 (m_recv ok hA) dX8_different_34 (m_had X.l X.G hA (h0 := h0) s v c 1 (by omega) (by omega)) (nm_ (by decide : nmb _ 3 = true)) (dl rfl) (dk rfl) rfl rfl (dk rfl) (dk rfl) (kV ?_) xV
        refine g_aload_n ok dX8_different_37 rfl ?_
        refine g_iload ok dX8_different_38 rfl ?_
        refine g_callV ok q2393 q2395 qs37 q75 q2396 (m_recv ok hA) dX8_different_40 (m_colour X.l X.G hA (h0 := h0) s c (by omega)) (nm_ (by decide : nmb _ 1 = true)) (dl rfl) (dk rfl) rfl rfl (dk rfl) (dk rfl) (kV ?_) xV
        refine g_icmp_eq ok (tgt := 49) dX8_different_43 (by decide) (fun c43 => ?_) (fun c43 => ?_)
        · refine g_iincN ok dX8_different_49 (c := c) rfl rfl (ls1 := [some (.ref (ad 20)), some (.int (nI v)), some (.int (nI a)), some (.int (nI b)), some (.int x), some (.int (nI (c + 1)))]) rfl ?_
          refine g_goto ok dX8_different_52 (tgt := 6) (by decide) ?_
          exact ih _ _ (by omega) (dfl_t (by simp [dfT, c26, c43]) g1)
        · refine g_iinc ok dX8_different_46 rfl (v := (x + 1)) rfl (ls1 := [some (.ref (ad 20)), some (.int (nI v)), some (.int (nI a)), some (.int (nI b)), some (.int (x + 1)), some (.int (nI c))]) rfl ?_
          refine g_iincN ok dX8_different_49 (c := c) rfl rfl (ls1 := [some (.ref (ad 20)), some (.int (nI v)), some (.int (nI a)), some (.int (nI b)), some (.int (x + 1)), some (.int (nI (c + 1)))]) rfl ?_
          refine g_goto ok dX8_different_52 (tgt := 6) (by decide) ?_
          exact ih _ _ (by omega) (dfl_f (by simp [dfT, c26, c43]) g1)
  exact lp (b + 1 - a) a 0 (by omega) hF
theorem m_different (l : Launch) (G : GE) {h0 : AH} {ad : Nat → Nat} (hA : MAd ad) (s : MS) (v : Nat) (a : Int32) (b : Int32) (y1 : v < 5) (y0 : isSp a b = true) : GM l G yX8_different (ws_ yX8_different cX8_different 6 (some .int)) 2 [.ref (ad 20), .int (nI v), .int a, .int b] (mput G h0 ad s) (0) (PV (.int (dfl (MS.A s 0) v (sp a b) (nn a) 0)) (mput G h0 ad s)) := by
  obtain ⟨e1, e2, h3, h4⟩ := isSp_n y0
  have t := m_differentN l G (h0 := h0) hA s v (nn a) (nn b) y1 (by omega) h4
  rw [← e1, ← e2] at t
  exact t
theorem m_goBack (l : Launch) (G : GE) {h0 : AH} {ad : Nat → Nat} (hA : MAd ad) (s : MS) (v : Int32) (y0 : mUo s) (y1 : mVo s) : GM l G yX8_goBack (ws_ yX8_goBack cX8_goBack 4 (some .int)) 4 [.ref (ad 20), .int v] (mput G h0 ad s) (0) (PV (.int (mGoBack s v).1) (mput G h0 ad (mGoBack s v).2)) := by
  refine GM.of (by decide) (dk rfl) ?_
  intro X eL eG eh ok fn
  subst eL; subst eG
  show GW X _ 0 0 [some (.ref (ad 20)), some (.int v), none, none] []
  refine g_aload_n ok dX8_goBack_0 rfl ?_
  refine g_callV ok q2307 q2309 qs23 q75 q2310 (m_recv ok hA) dX8_goBack_1 (m_tries X.l X.G hA (h0 := h0) s ) (nm_ (by decide : nmb _ 0 = true)) (dl rfl) (dk rfl) rfl rfl (dk rfl) (dk rfl) (kN ?_) xN
  refine g_aload_n ok dX8_goBack_4 rfl ?_
  refine g_iload_n ok dX8_goBack_5 rfl ?_
  refine g_callV ok q2525 q2527 qs48 q75 q2528 (m_recv ok hA) dX8_goBack_6 (m_isVersion X.l X.G hA (h0 := h0) (mTries s) v) (nm_ (by decide : nmb _ 1 = true)) (dl rfl) (dk rfl) rfl rfl (dk rfl) (dk rfl) (kV ?_) xV
  refine g_if_ne ok (tgt := 18) dX8_goBack_9 (by decide) (fun c9 => ?_) (fun c9 => ?_)
  · have c9' := bI_n c9
    rw [mTries_isV] at c9'
    obtain ⟨e1, l1⟩ := mIsV_n y1 c9'
    obtain ⟨n1, n2⟩ := y1
    have hs_ : mGoBack s v = (dfl (s.A 0) (nn v) 32 0 0, mKeeps (cpl 0 8 0 (122 + 64 * nn v) 64 0 (mTries s))) := by unfold mGoBack; rw [if_pos c9']
    rw [hs_] at fn
    clear hs_
    generalize nn v = i at *
    subst e1
    have ea : (mTries s).A 0 = s.A 0 := mTries_A s (by decide)
    refine g_aload_n ok dX8_goBack_18 rfl ?_
    refine g_iload_n ok dX8_goBack_19 rfl ?_
    refine g_iconst ok (v := 0) dX8_goBack_20 rfl ?_
    refine g_bipush ok (v := 31) dX8_goBack_21 rfl ?_
    refine g_callV ok q2529 q2531 qs49 q75 q2532 (m_recv ok hA) dX8_goBack_23 (m_differentN X.l X.G hA (h0 := h0) (mTries s) i 0 31 (by omega) (by omega) (by omega)) (nm_ (by decide : nmb _ 3 = true)) (dl rfl) (dk rfl) rfl rfl (dk rfl) (dk rfl) (kV ?_) xV
    refine g_istore_n ok dX8_goBack_26 (ls1 := [some (.ref (ad 20)), some (.int (nI i)), some (.int (dfl (MS.A (mTries s) 0) i (31 + 1 - 0) 0 0)), none]) (dl rfl) rfl ?_
    refine g_iconst ok (v := 0) dX8_goBack_27 rfl ?_
    refine g_istore_n ok dX8_goBack_28 (ls1 := [some (.ref (ad 20)), some (.int (nI i)), some (.int (dfl (MS.A (mTries s) 0) i (31 + 1 - 0) 0 0)), some (.int 0)]) (dl rfl) rfl ?_
    rw [ea]
    have lp : ∀ (n : Nat) (c : Nat) (t : MS), (c + n = 64) → (cpl 0 8 0 (122 + 64 * i) n c t = cpl 0 8 0 (122 + 64 * i) 64 0 (mTries s)) → GW X (mput X.G h0 ad t) 0 29 [some (.ref (ad 20)), some (.int (nI i)), some (.int (dfl (MS.A s 0) i 32 0 0)), some (.int (nI c))] [] := by
      intro n
      induction n with
      | zero =>
        intro c t g0 g1
        refine g_iload_n ok dX8_goBack_29 rfl ?_
        refine g_bipush ok (v := 64) dX8_goBack_30 rfl ?_
        refine g_icmp_ge ok (tgt := 64) dX8_goBack_32 (by decide) (fun _ => ?_) (fun c_ => absurd (nI_le (a := 64) (b := c) (by omega) (by omega)) c_)
        have g1 : t = cpl 0 8 0 (122 + 64 * i) 64 0 (mTries s) := g1
        subst g1
        have g0 : c = 64 := by omega
        subst g0
        refine g_aload_n ok dX8_goBack_64 rfl ?_
        refine g_iload_n ok dX8_goBack_65 rfl ?_
        refine g_callV ok q2358 q2360 qs32 q75 q2361 (m_recv ok hA) dX8_goBack_66 (m_keeps X.l X.G hA (h0 := h0) (cpl 0 8 0 (122 + 64 * i) 64 0 (mTries s)) (dfl (MS.A s 0) i 32 0 0) (mUo_I (cpl_I 0 8 0 (122 + 64 * i) 64 0 (mTries s) 4) (mTries_u y0))) (nm_ (by decide : nmb _ 1 = true)) (dl rfl) (dk rfl) rfl rfl (dk rfl) (dk rfl) (kV ?_) xV
        exact g_iret ok fn rfl dX8_goBack_69 (pv_i rfl rfl) (dk rfl)
      | succ n ih =>
        intro c t g0 g1
        refine g_iload_n ok dX8_goBack_29 rfl ?_
        refine g_bipush ok (v := 64) dX8_goBack_30 rfl ?_
        refine g_icmp_ge ok (tgt := 64) dX8_goBack_32 (by decide) (fun c_ => absurd c_ (nI_ge (a := c) (b := 64) (by omega) (by omega))) (fun _ => ?_)
        refine g_aload_n ok dX8_goBack_35 rfl ?_
        refine m_get ok hA 0 q2235 (by decide) dX8_goBack_36 (v := .ref (ad 0)) rfl ?_
        refine g_bipush ok (v := 8) dX8_goBack_39 rfl ?_
        refine g_iload_n ok dX8_goBack_41 rfl ?_
        refine g_iaddN ok dX8_goBack_42 (c := (8 + c)) (a := 8) (b := c) rfl rfl rfl ?_
        refine g_aload_n ok dX8_goBack_43 rfl ?_
        refine m_get ok hA 0 q2235 (by decide) dX8_goBack_44 (v := .ref (ad 0)) rfl ?_
        refine g_bipush ok (v := 122) dX8_goBack_47 rfl ?_
        refine g_bipush ok (v := 64) dX8_goBack_49 rfl ?_
        refine g_iload_n ok dX8_goBack_51 rfl ?_
        refine g_imulN ok dX8_goBack_52 (c := (64 * i)) (a := 64) (b := i) rfl rfl rfl ?_
        refine g_iaddN ok dX8_goBack_53 (c := (122 + (64 * i))) (a := 122) (b := (64 * i)) rfl rfl rfl ?_
        refine g_iload_n ok dX8_goBack_54 rfl ?_
        refine g_iaddN ok dX8_goBack_55 (c := ((122 + (64 * i)) + c)) (a := (122 + (64 * i))) (b := c) rfl rfl rfl ?_
        refine m_ald ok hA 0 ((122 + (64 * i)) + c) (v := (MS.A t 0 ((122 + (64 * i)) + c))) (by decide) dX8_goBack_56 rfl (by simp only [mlen]; omega) rfl ?_
        refine m_ast ok hA 0 (8 + c) (by decide) dX8_goBack_57 rfl (by simp only [mlen]; omega) ?_
        refine g_iincN ok dX8_goBack_58 (c := c) rfl rfl (ls1 := [some (.ref (ad 20)), some (.int (nI i)), some (.int (dfl (MS.A s 0) i 32 0 0)), some (.int (nI (c + 1)))]) rfl ?_
        refine g_goto ok dX8_goBack_61 (tgt := 29) (by decide) ?_
        exact ih _ _ (by omega) g1
    exact lp 64 0 _ (by omega) rfl
  · have c9' := bI_e c9
    refine g_aload_n ok dX8_goBack_12 rfl ?_
    refine g_iconst ok (v := 1) dX8_goBack_13 rfl ?_
    refine g_callV ok q2362 q2364 qs33 q75 q2365 (m_recv ok hA) dX8_goBack_14 (m_raises X.l X.G hA (h0 := h0) (mTries s) 1) (nm_ (by decide : nmb _ 1 = true)) (dl rfl) (dk rfl) rfl rfl (dk rfl) (dk rfl) (kV ?_) xV
    exact g_iret ok fn rfl dX8_goBack_17 (pv_i (by unfold mGoBack; rw [← mTries_isV, c9']; rfl) (by unfold mGoBack; rw [← mTries_isV, c9']; rfl)) (dk rfl)
theorem m_was (l : Launch) (G : GE) {h0 : AH} {ad : Nat → Nat} (hA : MAd ad) (s : MS) (v : Int32) (c : Int32) (z : Int32) (y0 : mVo s) : GM l G yX8_was (ws_ yX8_was cX8_was 4 (some .int)) 3 [.ref (ad 20), .int v, .int c, .int z] (mput G h0 ad s) (0) (PV (.int (mWas s v c z).1) (mput G h0 ad (mWas s v c z).2)) := by
  refine GM.of (by decide) (dk rfl) ?_
  intro X eL eG eh ok fn
  subst eL; subst eG
  show GW X _ 0 0 [some (.ref (ad 20)), some (.int v), some (.int c), some (.int z)] []
  refine g_aload_n ok dX8_was_0 rfl ?_
  refine g_iconst ok (v := 0) dX8_was_1 rfl ?_
  refine m_put ok hA 20 q2255 (by decide) dX8_was_2 ⟨rfl, rfl⟩ ?_
  refine g_aload_n ok dX8_was_5 rfl ?_
  refine g_iload_n ok dX8_was_6 rfl ?_
  refine g_callV ok q2525 q2527 qs48 q75 q2528 (m_recv ok hA) dX8_was_7 (m_isVersion X.l X.G hA (h0 := h0) (mI s 20 0) v) (nm_ (by decide : nmb _ 1 = true)) (dl rfl) (dk rfl) rfl rfl (dk rfl) (dk rfl) (kV ?_) xV
  refine g_if_eq ok (tgt := 30) dX8_was_10 (by decide) (fun c10 => ?_) (fun c10 => ?_)
  · have c10' := bI_e c10
    refine g_aload_n ok dX8_was_30 rfl ?_
    refine g_iconst ok (v := 1) dX8_was_31 rfl ?_
    refine g_callV ok q2362 q2364 qs33 q75 q2365 (m_recv ok hA) dX8_was_32 (m_raises X.l X.G hA (h0 := h0) (mI s 20 0) 1) (nm_ (by decide : nmb _ 1 = true)) (dl rfl) (dk rfl) rfl rfl (dk rfl) (dk rfl) (kV ?_) xV
    exact g_iret ok fn rfl dX8_was_35 (pv_i (by have q_ : mIsV s v = _ := c10'; simp [mWas, q_]) (by have q_ : mIsV s v = _ := c10'; simp [mWas, q_])) (dk rfl)
  · have c10' := bI_n c10
    refine g_iload_n ok dX8_was_13 rfl ?_
    refine g_callS ok q2318 q2319 q75 q2320 dX8_was_14 (m_isCell X.l X.G _ c) (nm_ (by decide : nmb _ 1 = true)) (dl rfl) (dk rfl) rfl rfl (dk rfl) (dk rfl) (kV ?_) xV
    refine g_if_eq ok (tgt := 30) dX8_was_17 (by decide) (fun c17 => ?_) (fun c17 => ?_)
    · have c17' := bI_e c17
      refine g_aload_n ok dX8_was_30 rfl ?_
      refine g_iconst ok (v := 1) dX8_was_31 rfl ?_
      refine g_callV ok q2362 q2364 qs33 q75 q2365 (m_recv ok hA) dX8_was_32 (m_raises X.l X.G hA (h0 := h0) (mI s 20 0) 1) (nm_ (by decide : nmb _ 1 = true)) (dl rfl) (dk rfl) rfl rfl (dk rfl) (dk rfl) (kV ?_) xV
      exact g_iret ok fn rfl dX8_was_35 (pv_i (by have q_ : mIsV s v = _ := c10'; simp [mWas, q_, c17']) (by have q_ : mIsV s v = _ := c10'; simp [mWas, q_, c17'])) (dk rfl)
    · have c17' := bI_n c17
      have c10' : mIsV s v = true := c10'
      have hs_ : mWas s v c z = (hdF (s.A 0) (nn v) (nn c) z, mI s 20 0) := by unfold mWas; rw [if_pos ⟨c10', c17'⟩]
      rw [hs_] at fn
      clear hs_
      obtain ⟨e1, l1⟩ := mIsV_n y0 c10'
      obtain ⟨e2, l2⟩ := isC_n c17'
      obtain ⟨n1, n2⟩ := y0
      clear c10 c10' c17 c17'
      generalize nn v = i at *
      subst e1
      generalize nn c = j at *
      subst e2
      refine g_aload_n ok dX8_was_20 rfl ?_
      refine g_iload_n ok dX8_was_21 rfl ?_
      refine g_iload_n ok dX8_was_22 rfl ?_
      refine g_iload_n ok dX8_was_23 rfl ?_
      refine g_callV ok q2533 q2535 qs50 q75 q2536 (m_recv ok hA) dX8_was_24 (m_had X.l X.G hA (h0 := h0) (mI s 20 0) i j z (by omega) (by omega)) (nm_ (by decide : nmb _ 3 = true)) (dl rfl) (dk rfl) rfl rfl (dk rfl) (dk rfl) (kV (v := .int (hdF (MS.A s 0) i j z)) ?_) xV
      refine g_goto ok dX8_was_27 (tgt := 35) (by decide) ?_
      exact g_iret ok fn rfl dX8_was_35 (pv_i rfl rfl) (dk rfl)
theorem m_differ (l : Launch) (G : GE) {h0 : AH} {ad : Nat → Nat} (hA : MAd ad) (s : MS) (v : Int32) (a : Int32) (b : Int32) (y0 : mVo s) : GM l G yX8_differ (ws_ yX8_differ cX8_differ 4 (some .int)) 4 [.ref (ad 20), .int v, .int a, .int b] (mput G h0 ad s) (0) (PV (.int (mDiffer s v a b).1) (mput G h0 ad (mDiffer s v a b).2)) := by
  refine GM.of (by decide) (dk rfl) ?_
  intro X eL eG eh ok fn
  subst eL; subst eG
  show GW X _ 0 0 [some (.ref (ad 20)), some (.int v), some (.int a), some (.int b)] []
  refine g_aload_n ok dX8_differ_0 rfl ?_
  refine g_iconst ok (v := 0) dX8_differ_1 rfl ?_
  refine m_put ok hA 20 q2255 (by decide) dX8_differ_2 ⟨rfl, rfl⟩ ?_
  refine g_aload_n ok dX8_differ_5 rfl ?_
  refine g_iload_n ok dX8_differ_6 rfl ?_
  refine g_callV ok q2525 q2527 qs48 q75 q2528 (m_recv ok hA) dX8_differ_7 (m_isVersion X.l X.G hA (h0 := h0) (mI s 20 0) v) (nm_ (by decide : nmb _ 1 = true)) (dl rfl) (dk rfl) rfl rfl (dk rfl) (dk rfl) (kV ?_) xV
  refine g_if_ne ok (tgt := 19) dX8_differ_10 (by decide) (fun c10 => ?_) (fun c10 => ?_)
  · have c10' := bI_n c10
    have c10' : mIsV s v = true := c10'
    refine g_iload_n ok dX8_differ_19 rfl ?_
    refine g_iload_n ok dX8_differ_20 rfl ?_
    refine g_callS ok q2315 q2316 q75 q2317 dX8_differ_21 (m_isSpan X.l X.G _ a b) (nm_ (by decide : nmb _ 2 = true)) (dl rfl) (dk rfl) rfl rfl (dk rfl) (dk rfl) (kV ?_) xV
    refine g_if_eq ok (tgt := 37) dX8_differ_24 (by decide) (fun c24 => ?_) (fun c24 => ?_)
    · have c24' := bI_e c24
      refine g_aload_n ok dX8_differ_37 rfl ?_
      refine g_iconst ok (v := 2) dX8_differ_38 rfl ?_
      refine g_callV ok q2362 q2364 qs33 q75 q2365 (m_recv ok hA) dX8_differ_39 (m_raises X.l X.G hA (h0 := h0) (mI s 20 0) 2) (nm_ (by decide : nmb _ 1 = true)) (dl rfl) (dk rfl) rfl rfl (dk rfl) (dk rfl) (kV ?_) xV
      exact g_iret ok fn rfl dX8_differ_42 (pv_i (by unfold mDiffer; rw [if_pos c10', c24']; rfl) (by unfold mDiffer; rw [if_pos c10', c24']; rfl)) (dk rfl)
    · have c24' := bI_n c24
      have hs_ : mDiffer s v a b = (dfl (s.A 0) (nn v) (sp a b) (nn a) 0, mI s 20 0) := by unfold mDiffer; rw [if_pos c10', if_pos c24']
      rw [hs_] at fn
      clear hs_
      obtain ⟨e1, l1⟩ := mIsV_n y0 c10'
      obtain ⟨n1, n2⟩ := y0
      generalize nn v = k at *
      subst e1
      refine g_aload_n ok dX8_differ_27 rfl ?_
      refine g_iload_n ok dX8_differ_28 rfl ?_
      refine g_iload_n ok dX8_differ_29 rfl ?_
      refine g_iload_n ok dX8_differ_30 rfl ?_
      refine g_callV ok q2529 q2531 qs49 q75 q2532 (m_recv ok hA) dX8_differ_31 (m_different X.l X.G hA (h0 := h0) (mI s 20 0) k a b (by omega) c24') (nm_ (by decide : nmb _ 3 = true)) (dl rfl) (dk rfl) rfl rfl (dk rfl) (dk rfl) (kV (v := .int (dfl (MS.A s 0) k (sp a b) (nn a) 0)) ?_) xV
      refine g_goto ok dX8_differ_34 (tgt := 42) (by decide) ?_
      exact g_iret ok fn rfl dX8_differ_42 (pv_i rfl rfl) (dk rfl)
  · have c10' := bI_e c10
    refine g_aload_n ok dX8_differ_13 rfl ?_
    refine g_iconst ok (v := 1) dX8_differ_14 rfl ?_
    refine g_callV ok q2362 q2364 qs33 q75 q2365 (m_recv ok hA) dX8_differ_15 (m_raises X.l X.G hA (h0 := h0) (mI s 20 0) 1) (nm_ (by decide : nmb _ 1 = true)) (dl rfl) (dk rfl) rfl rfl (dk rfl) (dk rfl) (kV ?_) xV
    exact g_iret ok fn rfl dX8_differ_18 (pv_i (by unfold mDiffer; rw [show mIsV s v = false from c10']; rfl) (by unfold mDiffer; rw [show mIsV s v = false from c10']; rfl)) (dk rfl)
theorem m_isAlike (l : Launch) (G : GE) {h0 : AH} {ad : Nat → Nat} (hA : MAd ad) (s : MS) (v : Int32) (w : Int32) (y0 : mVo s) : GM l G yX8_isAlike (ws_ yX8_isAlike cX8_isAlike 4 (some .boolean)) 3 [.ref (ad 20), .int v, .int w] (mput G h0 ad s) (0) (PV (.int (mIsAlike s v w).1) (mput G h0 ad (mIsAlike s v w).2)) := by
  refine GM.of (by decide) (dk rfl) ?_
  intro X eL eG eh ok fn
  subst eL; subst eG
  show GW X _ 0 0 [some (.ref (ad 20)), some (.int v), some (.int w), none] []
  refine g_aload_n ok dX8_isAlike_0 rfl ?_
  refine g_aload_n ok dX8_isAlike_1 rfl ?_
  refine g_iload_n ok dX8_isAlike_2 rfl ?_
  refine g_callV ok q2525 q2527 qs48 q75 q2528 (m_recv ok hA) dX8_isAlike_3 (m_isVersion X.l X.G hA (h0 := h0) s v) (nm_ (by decide : nmb _ 1 = true)) (dl rfl) (dk rfl) rfl rfl (dk rfl) (dk rfl) (kV ?_) xV
  refine g_if_eq ok (tgt := 21) dX8_isAlike_6 (by decide) (fun c6 => ?_) (fun c6 => ?_)
  · have c6' := bI_e c6
    refine g_iconst ok (v := 1) dX8_isAlike_21 rfl ?_
    refine m_put ok hA 20 q2255 (by decide) dX8_isAlike_22 ⟨rfl, rfl⟩ ?_
    refine g_aload_n ok dX8_isAlike_25 rfl ?_
    refine m_get ok hA 20 q2255 (by decide) dX8_isAlike_26 (v := .int 1) rfl ?_
    refine g_iconst ok (v := 1) dX8_isAlike_29 rfl ?_
    refine g_icmp_ne ok (tgt := 35) dX8_isAlike_30 (by decide) (fun c_ => absurd (congrArg nI (by omega : 1 = 1)) c_) (fun _ => ?_)
    refine g_iconst ok (v := 0) dX8_isAlike_33 rfl ?_
    exact g_zret ok fn rfl rfl dX8_isAlike_34 (pv_i (by simp [mIsAlike, c6']) (by simp [mIsAlike, c6'])) (dk rfl)
  · have c6' := bI_n c6
    refine g_aload_n ok dX8_isAlike_9 rfl ?_
    refine g_iload_n ok dX8_isAlike_10 rfl ?_
    refine g_callV ok q2525 q2527 qs48 q75 q2528 (m_recv ok hA) dX8_isAlike_11 (m_isVersion X.l X.G hA (h0 := h0) s w) (nm_ (by decide : nmb _ 1 = true)) (dl rfl) (dk rfl) rfl rfl (dk rfl) (dk rfl) (kV ?_) xV
    refine g_if_eq ok (tgt := 21) dX8_isAlike_14 (by decide) (fun c14 => ?_) (fun c14 => ?_)
    · have c14' := bI_e c14
      refine g_iconst ok (v := 1) dX8_isAlike_21 rfl ?_
      refine m_put ok hA 20 q2255 (by decide) dX8_isAlike_22 ⟨rfl, rfl⟩ ?_
      refine g_aload_n ok dX8_isAlike_25 rfl ?_
      refine m_get ok hA 20 q2255 (by decide) dX8_isAlike_26 (v := .int 1) rfl ?_
      refine g_iconst ok (v := 1) dX8_isAlike_29 rfl ?_
      refine g_icmp_ne ok (tgt := 35) dX8_isAlike_30 (by decide) (fun c_ => absurd (congrArg nI (by omega : 1 = 1)) c_) (fun _ => ?_)
      refine g_iconst ok (v := 0) dX8_isAlike_33 rfl ?_
      exact g_zret ok fn rfl rfl dX8_isAlike_34 (pv_i (by simp [mIsAlike, c6', c14']) (by simp [mIsAlike, c6', c14'])) (dk rfl)
    · have c14' := bI_n c14
      refine g_iconst ok (v := 0) dX8_isAlike_17 rfl ?_
      refine g_goto ok dX8_isAlike_18 (tgt := 22) (by decide) ?_
      refine m_put ok hA 20 q2255 (by decide) dX8_isAlike_22 ⟨rfl, rfl⟩ ?_
      refine g_aload_n ok dX8_isAlike_25 rfl ?_
      refine m_get ok hA 20 q2255 (by decide) dX8_isAlike_26 (v := .int 0) rfl ?_
      refine g_iconst ok (v := 1) dX8_isAlike_29 rfl ?_
      refine g_icmp_ne ok (tgt := 35) dX8_isAlike_30 (by decide) (fun _ => ?_) (fun c_ => absurd c_ (fun e_ => by have := (nI_eq (a := 0) (b := 1) (by omega) (by omega)).mp e_; omega))
      have hs_ : mIsAlike s v w = (bI (ial (s.A 0) (nn v) (nn w) 64 0), mI s 20 0) := by unfold mIsAlike; rw [if_pos ⟨c6', c14'⟩]
      rw [hs_] at fn
      clear hs_
      obtain ⟨e1, l1⟩ := mIsV_n y0 c6'
      obtain ⟨e2, l2⟩ := mIsV_n y0 c14'
      obtain ⟨n1, n2⟩ := y0
      clear c6 c6' c14 c14'
      generalize nn v = i at *
      subst e1
      generalize nn w = j at *
      subst e2
      refine g_iconst ok (v := 0) dX8_isAlike_35 rfl ?_
      refine g_istore_n ok dX8_isAlike_36 (ls1 := [some (.ref (ad 20)), some (.int (nI i)), some (.int (nI j)), some (.int 0)]) (dl rfl) rfl ?_
      obtain ⟨F, hF⟩ : ∃ F : Bool, ial (s.A 0) i j 64 0 = F := ⟨_, rfl⟩
      rw [hF] at fn
      have lp : ∀ (n : Nat) (c : Nat), (c + n = 64) → (ial (s.A 0) i j n c = F) → GW X (mput X.G h0 ad (mI s 20 0)) 0 37 [some (.ref (ad 20)), some (.int (nI i)), some (.int (nI j)), some (.int (nI c))] [] := by
        intro n
        induction n with
        | zero =>
          intro c g0 g1
          refine g_iload_n ok dX8_isAlike_37 rfl ?_
          refine g_bipush ok (v := 64) dX8_isAlike_38 rfl ?_
          refine g_icmp_ge ok (tgt := 82) dX8_isAlike_40 (by decide) (fun _ => ?_) (fun c_ => absurd (nI_le (a := 64) (b := c) (by omega) (by omega)) c_)
          have g1 : true = F := g1
          subst g1
          refine g_iconst ok (v := 1) dX8_isAlike_82 rfl ?_
          exact g_zret ok fn rfl rfl dX8_isAlike_83 (pv_i rfl rfl) (dk rfl)
        | succ n ih =>
          intro c g0 g1
          refine g_iload_n ok dX8_isAlike_37 rfl ?_
          refine g_bipush ok (v := 64) dX8_isAlike_38 rfl ?_
          refine g_icmp_ge ok (tgt := 82) dX8_isAlike_40 (by decide) (fun c_ => absurd c_ (nI_ge (a := c) (b := 64) (by omega) (by omega))) (fun _ => ?_)
          refine g_aload_n ok dX8_isAlike_43 rfl ?_
          refine m_get ok hA 0 q2235 (by decide) dX8_isAlike_44 (v := .ref (ad 0)) rfl ?_
          refine g_bipush ok (v := 122) dX8_isAlike_47 rfl ?_
          refine g_bipush ok (v := 64) dX8_isAlike_49 rfl ?_
          refine g_iload_n ok dX8_isAlike_51 rfl ?_
          refine g_imulN ok dX8_isAlike_52 (c := (64 * i)) (a := 64) (b := i) rfl rfl rfl ?_
          refine g_iaddN ok dX8_isAlike_53 (c := (122 + (64 * i))) (a := 122) (b := (64 * i)) rfl rfl rfl ?_
          refine g_iload_n ok dX8_isAlike_54 rfl ?_
          refine g_iaddN ok dX8_isAlike_55 (c := ((122 + (64 * i)) + c)) (a := (122 + (64 * i))) (b := c) rfl rfl rfl ?_
          refine m_ald ok hA 0 ((122 + (64 * i)) + c) (v := (MS.A s 0 ((122 + (64 * i)) + c))) (by decide) dX8_isAlike_56 rfl (by simp only [mlen]; omega) rfl ?_
          refine g_aload_n ok dX8_isAlike_57 rfl ?_
          refine m_get ok hA 0 q2235 (by decide) dX8_isAlike_58 (v := .ref (ad 0)) rfl ?_
          refine g_bipush ok (v := 122) dX8_isAlike_61 rfl ?_
          refine g_bipush ok (v := 64) dX8_isAlike_63 rfl ?_
          refine g_iload_n ok dX8_isAlike_65 rfl ?_
          refine g_imulN ok dX8_isAlike_66 (c := (64 * j)) (a := 64) (b := j) rfl rfl rfl ?_
          refine g_iaddN ok dX8_isAlike_67 (c := (122 + (64 * j))) (a := 122) (b := (64 * j)) rfl rfl rfl ?_
          refine g_iload_n ok dX8_isAlike_68 rfl ?_
          refine g_iaddN ok dX8_isAlike_69 (c := ((122 + (64 * j)) + c)) (a := (122 + (64 * j))) (b := c) rfl rfl rfl ?_
          refine m_ald ok hA 0 ((122 + (64 * j)) + c) (v := (MS.A s 0 ((122 + (64 * j)) + c))) (by decide) dX8_isAlike_70 rfl (by simp only [mlen]; omega) rfl ?_
          refine g_icmp_eq ok (tgt := 76) dX8_isAlike_71 (by decide) (fun c71 => ?_) (fun c71 => ?_)
          · refine g_iincN ok dX8_isAlike_76 (c := c) rfl rfl (ls1 := [some (.ref (ad 20)), some (.int (nI i)), some (.int (nI j)), some (.int (nI (c + 1)))]) rfl ?_
            refine g_goto ok dX8_isAlike_79 (tgt := 37) (by decide) ?_
            exact ih _ (by omega) (by have z_ := g1; rw [ial] at z_; simp only [if_pos c71] at z_; exact z_)
          · refine g_iconst ok (v := 0) dX8_isAlike_74 rfl ?_
            have g1 : false = F := (by have z_ := g1; rw [ial] at z_; simp only [if_neg c71] at z_; exact z_)
            subst g1
            exact g_zret ok fn rfl rfl dX8_isAlike_75 (pv_i rfl rfl) (dk rfl)
      exact lp 64 0 (by omega) hF
