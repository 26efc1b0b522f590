/-! the ruler is asked, 2 -/
set_option maxRecDepth 100000
abbrev cX2_runs : ByteArray := prog_16_method_23_code
def yX2_runs : MethodName := ⟨RX2, "runs", "(II)I"⟩
def dkwX2_runs_2 : List UInt8 := [29, 172]
abbrev dktX2_runs_2 : List UInt8 := dkwX2_runs_2 ++ []
def dkwX2_runs_1 : List UInt8 := [180, 0, 19, 21, 4, 4, 100, 46, 160, 0, 7, 3, 167, 0, 4, 4, 96, 62, 132, 4, 1, 167, 255, 220]
abbrev dktX2_runs_1 : List UInt8 := dkwX2_runs_1 ++ dktX2_runs_2
def dkwX2_runs_0 : List UInt8 := [4, 62, 27, 4, 96, 54, 4, 21, 4, 28, 163, 0, 36, 29, 42, 180, 0, 19, 21, 4, 46, 42]
abbrev dktX2_runs_0 : List UInt8 := dkwX2_runs_0 ++ dktX2_runs_1
theorem dksX2_runs_0 : cX2_runs.data.toList.drop 0 = dktX2_runs_0 := by decide +kernel
theorem dksX2_runs_1 : cX2_runs.data.toList.drop 22 = dktX2_runs_1 := dk_seg dksX2_runs_0 22 rfl rfl
theorem dksX2_runs_2 : cX2_runs.data.toList.drop 46 = dktX2_runs_2 := dk_seg dksX2_runs_1 24 rfl rfl
theorem dX2_runs_0 : decode cX2_runs 0 = .ok (.iconst 1, 1) := dk_4 (dk_at dksX2_runs_0 0 rfl rfl)
theorem dX2_runs_1 : decode cX2_runs 1 = .ok (.istore_n 3, 1) := dk_62 (dk_at dksX2_runs_0 1 rfl rfl)
theorem dX2_runs_2 : decode cX2_runs 2 = .ok (.iload_n 1, 1) := dk_27 (dk_at dksX2_runs_0 2 rfl rfl)
theorem dX2_runs_3 : decode cX2_runs 3 = .ok (.iconst 1, 1) := dk_4 (dk_at dksX2_runs_0 3 rfl rfl)
theorem dX2_runs_4 : decode cX2_runs 4 = .ok (.iadd, 1) := dk_96 (dk_at dksX2_runs_0 4 rfl rfl)
theorem dX2_runs_5 : decode cX2_runs 5 = .ok (.istore 4, 2) := dk_54 4 (dk_at dksX2_runs_0 5 rfl rfl)
theorem dX2_runs_7 : decode cX2_runs 7 = .ok (.iload 4, 2) := dk_21 4 (dk_at dksX2_runs_0 7 rfl rfl)
theorem dX2_runs_9 : decode cX2_runs 9 = .ok (.iload_n 2, 1) := dk_28 (dk_at dksX2_runs_0 9 rfl rfl)
theorem dX2_runs_10 : decode cX2_runs 10 = .ok (.if_icmp .gt 36, 3) := dk_163 0 36 (dk_at dksX2_runs_0 10 rfl rfl)
theorem dX2_runs_13 : decode cX2_runs 13 = .ok (.iload_n 3, 1) := dk_29 (dk_at dksX2_runs_0 13 rfl rfl)
theorem dX2_runs_14 : decode cX2_runs 14 = .ok (.aload_n 0, 1) := dk_42 (dk_at dksX2_runs_0 14 rfl rfl)
theorem dX2_runs_15 : decode cX2_runs 15 = .ok (.getfield 19, 3) := dk_180 0 19 (dk_at dksX2_runs_0 15 rfl rfl)
theorem dX2_runs_18 : decode cX2_runs 18 = .ok (.iload 4, 2) := dk_21 4 (dk_at dksX2_runs_0 18 rfl rfl)
theorem dX2_runs_20 : decode cX2_runs 20 = .ok (.iaload, 1) := dk_46 (dk_at dksX2_runs_0 20 rfl rfl)
theorem dX2_runs_21 : decode cX2_runs 21 = .ok (.aload_n 0, 1) := dk_42 (dk_at dksX2_runs_0 21 rfl rfl)
theorem dX2_runs_22 : decode cX2_runs 22 = .ok (.getfield 19, 3) := dk_180 0 19 (dk_at dksX2_runs_1 0 rfl rfl)
theorem dX2_runs_25 : decode cX2_runs 25 = .ok (.iload 4, 2) := dk_21 4 (dk_at dksX2_runs_1 3 rfl rfl)
theorem dX2_runs_27 : decode cX2_runs 27 = .ok (.iconst 1, 1) := dk_4 (dk_at dksX2_runs_1 5 rfl rfl)
theorem dX2_runs_28 : decode cX2_runs 28 = .ok (.isub, 1) := dk_100 (dk_at dksX2_runs_1 6 rfl rfl)
theorem dX2_runs_29 : decode cX2_runs 29 = .ok (.iaload, 1) := dk_46 (dk_at dksX2_runs_1 7 rfl rfl)
theorem dX2_runs_30 : decode cX2_runs 30 = .ok (.if_icmp .ne 7, 3) := dk_160 0 7 (dk_at dksX2_runs_1 8 rfl rfl)
theorem dX2_runs_33 : decode cX2_runs 33 = .ok (.iconst 0, 1) := dk_3 (dk_at dksX2_runs_1 11 rfl rfl)
theorem dX2_runs_34 : decode cX2_runs 34 = .ok (.goto 4, 3) := dk_167 0 4 (dk_at dksX2_runs_1 12 rfl rfl)
theorem dX2_runs_37 : decode cX2_runs 37 = .ok (.iconst 1, 1) := dk_4 (dk_at dksX2_runs_1 15 rfl rfl)
theorem dX2_runs_38 : decode cX2_runs 38 = .ok (.iadd, 1) := dk_96 (dk_at dksX2_runs_1 16 rfl rfl)
theorem dX2_runs_39 : decode cX2_runs 39 = .ok (.istore_n 3, 1) := dk_62 (dk_at dksX2_runs_1 17 rfl rfl)
theorem dX2_runs_40 : decode cX2_runs 40 = .ok (.iinc 4 1, 3) := dk_132 4 1 (dk_at dksX2_runs_1 18 rfl rfl)
theorem dX2_runs_43 : decode cX2_runs 43 = .ok (.goto (-36), 3) := dk_167 255 220 (dk_at dksX2_runs_1 21 rfl rfl)
theorem dX2_runs_46 : decode cX2_runs 46 = .ok (.iload_n 3, 1) := dk_29 (dk_at dksX2_runs_2 0 rfl rfl)
theorem dX2_runs_47 : decode cX2_runs 47 = .ok (.ireturn, 1) := dk_172 (dk_at dksX2_runs_2 1 rfl rfl)
abbrev cX2_longest : ByteArray := prog_16_method_24_code
def yX2_longest : MethodName := ⟨RX2, "longest", "(I)I"⟩
def dkwX2_longest_2 : List UInt8 := [172]
abbrev dktX2_longest_2 : List UInt8 := dkwX2_longest_2 ++ []
def dkwX2_longest_1 : List UInt8 := [160, 0, 9, 29, 4, 96, 167, 0, 4, 3, 62, 28, 29, 184, 0, 148, 61, 132, 4, 1, 167, 255, 221, 28]
abbrev dktX2_longest_1 : List UInt8 := dkwX2_longest_1 ++ dktX2_longest_2
def dkwX2_longest_0 : List UInt8 := [3, 61, 3, 62, 3, 54, 4, 21, 4, 16, 32, 162, 0, 34, 42, 180, 0, 19, 21, 4, 46, 27]
abbrev dktX2_longest_0 : List UInt8 := dkwX2_longest_0 ++ dktX2_longest_1
theorem dksX2_longest_0 : cX2_longest.data.toList.drop 0 = dktX2_longest_0 := by decide +kernel
theorem dksX2_longest_1 : cX2_longest.data.toList.drop 22 = dktX2_longest_1 := dk_seg dksX2_longest_0 22 rfl rfl
theorem dksX2_longest_2 : cX2_longest.data.toList.drop 46 = dktX2_longest_2 := dk_seg dksX2_longest_1 24 rfl rfl
theorem dX2_longest_0 : decode cX2_longest 0 = .ok (.iconst 0, 1) := dk_3 (dk_at dksX2_longest_0 0 rfl rfl)
theorem dX2_longest_1 : decode cX2_longest 1 = .ok (.istore_n 2, 1) := dk_61 (dk_at dksX2_longest_0 1 rfl rfl)
theorem dX2_longest_2 : decode cX2_longest 2 = .ok (.iconst 0, 1) := dk_3 (dk_at dksX2_longest_0 2 rfl rfl)
theorem dX2_longest_3 : decode cX2_longest 3 = .ok (.istore_n 3, 1) := dk_62 (dk_at dksX2_longest_0 3 rfl rfl)
theorem dX2_longest_4 : decode cX2_longest 4 = .ok (.iconst 0, 1) := dk_3 (dk_at dksX2_longest_0 4 rfl rfl)
theorem dX2_longest_5 : decode cX2_longest 5 = .ok (.istore 4, 2) := dk_54 4 (dk_at dksX2_longest_0 5 rfl rfl)
theorem dX2_longest_7 : decode cX2_longest 7 = .ok (.iload 4, 2) := dk_21 4 (dk_at dksX2_longest_0 7 rfl rfl)
theorem dX2_longest_9 : decode cX2_longest 9 = .ok (.bipush 32, 2) := dk_16 32 (dk_at dksX2_longest_0 9 rfl rfl)
theorem dX2_longest_11 : decode cX2_longest 11 = .ok (.if_icmp .ge 34, 3) := dk_162 0 34 (dk_at dksX2_longest_0 11 rfl rfl)
theorem dX2_longest_14 : decode cX2_longest 14 = .ok (.aload_n 0, 1) := dk_42 (dk_at dksX2_longest_0 14 rfl rfl)
theorem dX2_longest_15 : decode cX2_longest 15 = .ok (.getfield 19, 3) := dk_180 0 19 (dk_at dksX2_longest_0 15 rfl rfl)
theorem dX2_longest_18 : decode cX2_longest 18 = .ok (.iload 4, 2) := dk_21 4 (dk_at dksX2_longest_0 18 rfl rfl)
theorem dX2_longest_20 : decode cX2_longest 20 = .ok (.iaload, 1) := dk_46 (dk_at dksX2_longest_0 20 rfl rfl)
theorem dX2_longest_21 : decode cX2_longest 21 = .ok (.iload_n 1, 1) := dk_27 (dk_at dksX2_longest_0 21 rfl rfl)
theorem dX2_longest_22 : decode cX2_longest 22 = .ok (.if_icmp .ne 9, 3) := dk_160 0 9 (dk_at dksX2_longest_1 0 rfl rfl)
theorem dX2_longest_25 : decode cX2_longest 25 = .ok (.iload_n 3, 1) := dk_29 (dk_at dksX2_longest_1 3 rfl rfl)
theorem dX2_longest_26 : decode cX2_longest 26 = .ok (.iconst 1, 1) := dk_4 (dk_at dksX2_longest_1 4 rfl rfl)
theorem dX2_longest_27 : decode cX2_longest 27 = .ok (.iadd, 1) := dk_96 (dk_at dksX2_longest_1 5 rfl rfl)
theorem dX2_longest_28 : decode cX2_longest 28 = .ok (.goto 4, 3) := dk_167 0 4 (dk_at dksX2_longest_1 6 rfl rfl)
theorem dX2_longest_31 : decode cX2_longest 31 = .ok (.iconst 0, 1) := dk_3 (dk_at dksX2_longest_1 9 rfl rfl)
theorem dX2_longest_32 : decode cX2_longest 32 = .ok (.istore_n 3, 1) := dk_62 (dk_at dksX2_longest_1 10 rfl rfl)
theorem dX2_longest_33 : decode cX2_longest 33 = .ok (.iload_n 2, 1) := dk_28 (dk_at dksX2_longest_1 11 rfl rfl)
theorem dX2_longest_34 : decode cX2_longest 34 = .ok (.iload_n 3, 1) := dk_29 (dk_at dksX2_longest_1 12 rfl rfl)
theorem dX2_longest_35 : decode cX2_longest 35 = .ok (.invokestatic 148, 3) := dk_184 0 148 (dk_at dksX2_longest_1 13 rfl rfl)
theorem dX2_longest_38 : decode cX2_longest 38 = .ok (.istore_n 2, 1) := dk_61 (dk_at dksX2_longest_1 16 rfl rfl)
theorem dX2_longest_39 : decode cX2_longest 39 = .ok (.iinc 4 1, 3) := dk_132 4 1 (dk_at dksX2_longest_1 17 rfl rfl)
theorem dX2_longest_42 : decode cX2_longest 42 = .ok (.goto (-35), 3) := dk_167 255 221 (dk_at dksX2_longest_1 20 rfl rfl)
theorem dX2_longest_45 : decode cX2_longest 45 = .ok (.iload_n 2, 1) := dk_28 (dk_at dksX2_longest_1 23 rfl rfl)
theorem dX2_longest_46 : decode cX2_longest 46 = .ok (.ireturn, 1) := dk_172 (dk_at dksX2_longest_2 0 rfl rfl)
abbrev cX2_cellsWith : ByteArray := prog_16_method_25_code
def yX2_cellsWith : MethodName := ⟨RX2, "cellsWith", "(I)I"⟩
def dkwX2_cellsWith_2 : List UInt8 := [172]
abbrev dktX2_cellsWith_2 : List UInt8 := dkwX2_cellsWith_2 ++ []
def dkwX2_cellsWith_1 : List UInt8 := [46, 54, 6, 28, 21, 6, 27, 160, 0, 7, 4, 167, 0, 4, 3, 96, 61, 132, 5, 1, 167, 255, 226, 28]
abbrev dktX2_cellsWith_1 : List UInt8 := dkwX2_cellsWith_1 ++ dktX2_cellsWith_2
def dkwX2_cellsWith_0 : List UInt8 := [3, 61, 42, 180, 0, 19, 78, 45, 190, 54, 4, 3, 54, 5, 21, 5, 21, 4, 162, 0, 29, 45, 21, 5]
abbrev dktX2_cellsWith_0 : List UInt8 := dkwX2_cellsWith_0 ++ dktX2_cellsWith_1
theorem dksX2_cellsWith_0 : cX2_cellsWith.data.toList.drop 0 = dktX2_cellsWith_0 := by decide +kernel
theorem dksX2_cellsWith_1 : cX2_cellsWith.data.toList.drop 24 = dktX2_cellsWith_1 := dk_seg dksX2_cellsWith_0 24 rfl rfl
theorem dksX2_cellsWith_2 : cX2_cellsWith.data.toList.drop 48 = dktX2_cellsWith_2 := dk_seg dksX2_cellsWith_1 24 rfl rfl
theorem dX2_cellsWith_0 : decode cX2_cellsWith 0 = .ok (.iconst 0, 1) := dk_3 (dk_at dksX2_cellsWith_0 0 rfl rfl)
theorem dX2_cellsWith_1 : decode cX2_cellsWith 1 = .ok (.istore_n 2, 1) := dk_61 (dk_at dksX2_cellsWith_0 1 rfl rfl)
theorem dX2_cellsWith_2 : decode cX2_cellsWith 2 = .ok (.aload_n 0, 1) := dk_42 (dk_at dksX2_cellsWith_0 2 rfl rfl)
theorem dX2_cellsWith_3 : decode cX2_cellsWith 3 = .ok (.getfield 19, 3) := dk_180 0 19 (dk_at dksX2_cellsWith_0 3 rfl rfl)
theorem dX2_cellsWith_6 : decode cX2_cellsWith 6 = .ok (.astore_n 3, 1) := dk_78 (dk_at dksX2_cellsWith_0 6 rfl rfl)
theorem dX2_cellsWith_7 : decode cX2_cellsWith 7 = .ok (.aload_n 3, 1) := dk_45 (dk_at dksX2_cellsWith_0 7 rfl rfl)
theorem dX2_cellsWith_8 : decode cX2_cellsWith 8 = .ok (.arraylength, 1) := dk_190 (dk_at dksX2_cellsWith_0 8 rfl rfl)
theorem dX2_cellsWith_9 : decode cX2_cellsWith 9 = .ok (.istore 4, 2) := dk_54 4 (dk_at dksX2_cellsWith_0 9 rfl rfl)
theorem dX2_cellsWith_11 : decode cX2_cellsWith 11 = .ok (.iconst 0, 1) := dk_3 (dk_at dksX2_cellsWith_0 11 rfl rfl)
theorem dX2_cellsWith_12 : decode cX2_cellsWith 12 = .ok (.istore 5, 2) := dk_54 5 (dk_at dksX2_cellsWith_0 12 rfl rfl)
theorem dX2_cellsWith_14 : decode cX2_cellsWith 14 = .ok (.iload 5, 2) := dk_21 5 (dk_at dksX2_cellsWith_0 14 rfl rfl)
theorem dX2_cellsWith_16 : decode cX2_cellsWith 16 = .ok (.iload 4, 2) := dk_21 4 (dk_at dksX2_cellsWith_0 16 rfl rfl)
theorem dX2_cellsWith_18 : decode cX2_cellsWith 18 = .ok (.if_icmp .ge 29, 3) := dk_162 0 29 (dk_at dksX2_cellsWith_0 18 rfl rfl)
theorem dX2_cellsWith_21 : decode cX2_cellsWith 21 = .ok (.aload_n 3, 1) := dk_45 (dk_at dksX2_cellsWith_0 21 rfl rfl)
theorem dX2_cellsWith_22 : decode cX2_cellsWith 22 = .ok (.iload 5, 2) := dk_21 5 (dk_at dksX2_cellsWith_0 22 rfl rfl)
theorem dX2_cellsWith_24 : decode cX2_cellsWith 24 = .ok (.iaload, 1) := dk_46 (dk_at dksX2_cellsWith_1 0 rfl rfl)
theorem dX2_cellsWith_25 : decode cX2_cellsWith 25 = .ok (.istore 6, 2) := dk_54 6 (dk_at dksX2_cellsWith_1 1 rfl rfl)
theorem dX2_cellsWith_27 : decode cX2_cellsWith 27 = .ok (.iload_n 2, 1) := dk_28 (dk_at dksX2_cellsWith_1 3 rfl rfl)
theorem dX2_cellsWith_28 : decode cX2_cellsWith 28 = .ok (.iload 6, 2) := dk_21 6 (dk_at dksX2_cellsWith_1 4 rfl rfl)
theorem dX2_cellsWith_30 : decode cX2_cellsWith 30 = .ok (.iload_n 1, 1) := dk_27 (dk_at dksX2_cellsWith_1 6 rfl rfl)
theorem dX2_cellsWith_31 : decode cX2_cellsWith 31 = .ok (.if_icmp .ne 7, 3) := dk_160 0 7 (dk_at dksX2_cellsWith_1 7 rfl rfl)
theorem dX2_cellsWith_34 : decode cX2_cellsWith 34 = .ok (.iconst 1, 1) := dk_4 (dk_at dksX2_cellsWith_1 10 rfl rfl)
theorem dX2_cellsWith_35 : decode cX2_cellsWith 35 = .ok (.goto 4, 3) := dk_167 0 4 (dk_at dksX2_cellsWith_1 11 rfl rfl)
theorem dX2_cellsWith_38 : decode cX2_cellsWith 38 = .ok (.iconst 0, 1) := dk_3 (dk_at dksX2_cellsWith_1 14 rfl rfl)
theorem dX2_cellsWith_39 : decode cX2_cellsWith 39 = .ok (.iadd, 1) := dk_96 (dk_at dksX2_cellsWith_1 15 rfl rfl)
theorem dX2_cellsWith_40 : decode cX2_cellsWith 40 = .ok (.istore_n 2, 1) := dk_61 (dk_at dksX2_cellsWith_1 16 rfl rfl)
theorem dX2_cellsWith_41 : decode cX2_cellsWith 41 = .ok (.iinc 5 1, 3) := dk_132 5 1 (dk_at dksX2_cellsWith_1 17 rfl rfl)
theorem dX2_cellsWith_44 : decode cX2_cellsWith 44 = .ok (.goto (-30), 3) := dk_167 255 226 (dk_at dksX2_cellsWith_1 20 rfl rfl)
theorem dX2_cellsWith_47 : decode cX2_cellsWith 47 = .ok (.iload_n 2, 1) := dk_28 (dk_at dksX2_cellsWith_1 23 rfl rfl)
theorem dX2_cellsWith_48 : decode cX2_cellsWith 48 = .ok (.ireturn, 1) := dk_172 (dk_at dksX2_cellsWith_2 0 rfl rfl)
abbrev cX2_sumWith : ByteArray := prog_16_method_26_code
def yX2_sumWith : MethodName := ⟨RX2, "sumWith", "(I)I"⟩
def dkwX2_sumWith_1 : List UInt8 := [182, 0, 106, 167, 0, 4, 3, 96, 61, 132, 3, 1, 167, 255, 225, 28, 172]
abbrev dktX2_sumWith_1 : List UInt8 := dkwX2_sumWith_1 ++ []
def dkwX2_sumWith_0 : List UInt8 := [3, 61, 3, 62, 29, 16, 32, 162, 0, 31, 28, 42, 180, 0, 19, 29, 46, 27, 160, 0, 11, 42, 29]
abbrev dktX2_sumWith_0 : List UInt8 := dkwX2_sumWith_0 ++ dktX2_sumWith_1
theorem dksX2_sumWith_0 : cX2_sumWith.data.toList.drop 0 = dktX2_sumWith_0 := by decide +kernel
theorem dksX2_sumWith_1 : cX2_sumWith.data.toList.drop 23 = dktX2_sumWith_1 := dk_seg dksX2_sumWith_0 23 rfl rfl
theorem dX2_sumWith_0 : decode cX2_sumWith 0 = .ok (.iconst 0, 1) := dk_3 (dk_at dksX2_sumWith_0 0 rfl rfl)
theorem dX2_sumWith_1 : decode cX2_sumWith 1 = .ok (.istore_n 2, 1) := dk_61 (dk_at dksX2_sumWith_0 1 rfl rfl)
theorem dX2_sumWith_2 : decode cX2_sumWith 2 = .ok (.iconst 0, 1) := dk_3 (dk_at dksX2_sumWith_0 2 rfl rfl)
theorem dX2_sumWith_3 : decode cX2_sumWith 3 = .ok (.istore_n 3, 1) := dk_62 (dk_at dksX2_sumWith_0 3 rfl rfl)
theorem dX2_sumWith_4 : decode cX2_sumWith 4 = .ok (.iload_n 3, 1) := dk_29 (dk_at dksX2_sumWith_0 4 rfl rfl)
theorem dX2_sumWith_5 : decode cX2_sumWith 5 = .ok (.bipush 32, 2) := dk_16 32 (dk_at dksX2_sumWith_0 5 rfl rfl)
theorem dX2_sumWith_7 : decode cX2_sumWith 7 = .ok (.if_icmp .ge 31, 3) := dk_162 0 31 (dk_at dksX2_sumWith_0 7 rfl rfl)
theorem dX2_sumWith_10 : decode cX2_sumWith 10 = .ok (.iload_n 2, 1) := dk_28 (dk_at dksX2_sumWith_0 10 rfl rfl)
theorem dX2_sumWith_11 : decode cX2_sumWith 11 = .ok (.aload_n 0, 1) := dk_42 (dk_at dksX2_sumWith_0 11 rfl rfl)
theorem dX2_sumWith_12 : decode cX2_sumWith 12 = .ok (.getfield 19, 3) := dk_180 0 19 (dk_at dksX2_sumWith_0 12 rfl rfl)
theorem dX2_sumWith_15 : decode cX2_sumWith 15 = .ok (.iload_n 3, 1) := dk_29 (dk_at dksX2_sumWith_0 15 rfl rfl)
theorem dX2_sumWith_16 : decode cX2_sumWith 16 = .ok (.iaload, 1) := dk_46 (dk_at dksX2_sumWith_0 16 rfl rfl)
theorem dX2_sumWith_17 : decode cX2_sumWith 17 = .ok (.iload_n 1, 1) := dk_27 (dk_at dksX2_sumWith_0 17 rfl rfl)
theorem dX2_sumWith_18 : decode cX2_sumWith 18 = .ok (.if_icmp .ne 11, 3) := dk_160 0 11 (dk_at dksX2_sumWith_0 18 rfl rfl)
theorem dX2_sumWith_21 : decode cX2_sumWith 21 = .ok (.aload_n 0, 1) := dk_42 (dk_at dksX2_sumWith_0 21 rfl rfl)
theorem dX2_sumWith_22 : decode cX2_sumWith 22 = .ok (.iload_n 3, 1) := dk_29 (dk_at dksX2_sumWith_0 22 rfl rfl)
theorem dX2_sumWith_23 : decode cX2_sumWith 23 = .ok (.invokevirtual 106, 3) := dk_182 0 106 (dk_at dksX2_sumWith_1 0 rfl rfl)
theorem dX2_sumWith_26 : decode cX2_sumWith 26 = .ok (.goto 4, 3) := dk_167 0 4 (dk_at dksX2_sumWith_1 3 rfl rfl)
theorem dX2_sumWith_29 : decode cX2_sumWith 29 = .ok (.iconst 0, 1) := dk_3 (dk_at dksX2_sumWith_1 6 rfl rfl)
theorem dX2_sumWith_30 : decode cX2_sumWith 30 = .ok (.iadd, 1) := dk_96 (dk_at dksX2_sumWith_1 7 rfl rfl)
theorem dX2_sumWith_31 : decode cX2_sumWith 31 = .ok (.istore_n 2, 1) := dk_61 (dk_at dksX2_sumWith_1 8 rfl rfl)
theorem dX2_sumWith_32 : decode cX2_sumWith 32 = .ok (.iinc 3 1, 3) := dk_132 3 1 (dk_at dksX2_sumWith_1 9 rfl rfl)
theorem dX2_sumWith_35 : decode cX2_sumWith 35 = .ok (.goto (-31), 3) := dk_167 255 225 (dk_at dksX2_sumWith_1 12 rfl rfl)
theorem dX2_sumWith_38 : decode cX2_sumWith 38 = .ok (.iload_n 2, 1) := dk_28 (dk_at dksX2_sumWith_1 15 rfl rfl)
theorem dX2_sumWith_39 : decode cX2_sumWith 39 = .ok (.ireturn, 1) := dk_172 (dk_at dksX2_sumWith_1 16 rfl rfl)
abbrev cX2_isAhead : ByteArray := prog_16_method_27_code
def yX2_isAhead : MethodName := ⟨RX2, "isAhead", "(II)Z"⟩
def dkwX2_isAhead_2 : List UInt8 := [21, 4, 158, 0, 7, 4, 167, 0, 17, 3, 167, 0, 13, 27, 28, 162, 0, 7, 4, 167, 0, 4, 3, 172]
abbrev dktX2_isAhead_2 : List UInt8 := dkwX2_isAhead_2 ++ []
def dkwX2_isAhead_1 : List UInt8 := [54, 4, 29, 153, 0, 15, 29, 158, 0, 7, 4, 167, 0, 35, 3, 167, 0, 31, 21, 4, 153, 0, 16]
abbrev dktX2_isAhead_1 : List UInt8 := dkwX2_isAhead_1 ++ dktX2_isAhead_2
def dkwX2_isAhead_0 : List UInt8 := [42, 27, 182, 0, 194, 42, 28, 182, 0, 194, 100, 62, 42, 27, 182, 0, 197, 42, 28, 182, 0, 197, 100]
abbrev dktX2_isAhead_0 : List UInt8 := dkwX2_isAhead_0 ++ dktX2_isAhead_1
theorem dksX2_isAhead_0 : cX2_isAhead.data.toList.drop 0 = dktX2_isAhead_0 := by decide +kernel
theorem dksX2_isAhead_1 : cX2_isAhead.data.toList.drop 23 = dktX2_isAhead_1 := dk_seg dksX2_isAhead_0 23 rfl rfl
theorem dksX2_isAhead_2 : cX2_isAhead.data.toList.drop 46 = dktX2_isAhead_2 := dk_seg dksX2_isAhead_1 23 rfl rfl
theorem dX2_isAhead_0 : decode cX2_isAhead 0 = .ok (.aload_n 0, 1) := dk_42 (dk_at dksX2_isAhead_0 0 rfl rfl)
theorem dX2_isAhead_1 : decode cX2_isAhead 1 = .ok (.iload_n 1, 1) := dk_27 (dk_at dksX2_isAhead_0 1 rfl rfl)
theorem dX2_isAhead_2 : decode cX2_isAhead 2 = .ok (.invokevirtual 194, 3) := dk_182 0 194 (dk_at dksX2_isAhead_0 2 rfl rfl)
theorem dX2_isAhead_5 : decode cX2_isAhead 5 = .ok (.aload_n 0, 1) := dk_42 (dk_at dksX2_isAhead_0 5 rfl rfl)
theorem dX2_isAhead_6 : decode cX2_isAhead 6 = .ok (.iload_n 2, 1) := dk_28 (dk_at dksX2_isAhead_0 6 rfl rfl)
theorem dX2_isAhead_7 : decode cX2_isAhead 7 = .ok (.invokevirtual 194, 3) := dk_182 0 194 (dk_at dksX2_isAhead_0 7 rfl rfl)
theorem dX2_isAhead_10 : decode cX2_isAhead 10 = .ok (.isub, 1) := dk_100 (dk_at dksX2_isAhead_0 10 rfl rfl)
theorem dX2_isAhead_11 : decode cX2_isAhead 11 = .ok (.istore_n 3, 1) := dk_62 (dk_at dksX2_isAhead_0 11 rfl rfl)
theorem dX2_isAhead_12 : decode cX2_isAhead 12 = .ok (.aload_n 0, 1) := dk_42 (dk_at dksX2_isAhead_0 12 rfl rfl)
theorem dX2_isAhead_13 : decode cX2_isAhead 13 = .ok (.iload_n 1, 1) := dk_27 (dk_at dksX2_isAhead_0 13 rfl rfl)
theorem dX2_isAhead_14 : decode cX2_isAhead 14 = .ok (.invokevirtual 197, 3) := dk_182 0 197 (dk_at dksX2_isAhead_0 14 rfl rfl)
theorem dX2_isAhead_17 : decode cX2_isAhead 17 = .ok (.aload_n 0, 1) := dk_42 (dk_at dksX2_isAhead_0 17 rfl rfl)
theorem dX2_isAhead_18 : decode cX2_isAhead 18 = .ok (.iload_n 2, 1) := dk_28 (dk_at dksX2_isAhead_0 18 rfl rfl)
theorem dX2_isAhead_19 : decode cX2_isAhead 19 = .ok (.invokevirtual 197, 3) := dk_182 0 197 (dk_at dksX2_isAhead_0 19 rfl rfl)
theorem dX2_isAhead_22 : decode cX2_isAhead 22 = .ok (.isub, 1) := dk_100 (dk_at dksX2_isAhead_0 22 rfl rfl)
theorem dX2_isAhead_23 : decode cX2_isAhead 23 = .ok (.istore 4, 2) := dk_54 4 (dk_at dksX2_isAhead_1 0 rfl rfl)
theorem dX2_isAhead_25 : decode cX2_isAhead 25 = .ok (.iload_n 3, 1) := dk_29 (dk_at dksX2_isAhead_1 2 rfl rfl)
theorem dX2_isAhead_26 : decode cX2_isAhead 26 = .ok (.ifCond .eq 15, 3) := dk_153 0 15 (dk_at dksX2_isAhead_1 3 rfl rfl)
theorem dX2_isAhead_29 : decode cX2_isAhead 29 = .ok (.iload_n 3, 1) := dk_29 (dk_at dksX2_isAhead_1 6 rfl rfl)
theorem dX2_isAhead_30 : decode cX2_isAhead 30 = .ok (.ifCond .le 7, 3) := dk_158 0 7 (dk_at dksX2_isAhead_1 7 rfl rfl)
theorem dX2_isAhead_33 : decode cX2_isAhead 33 = .ok (.iconst 1, 1) := dk_4 (dk_at dksX2_isAhead_1 10 rfl rfl)
theorem dX2_isAhead_34 : decode cX2_isAhead 34 = .ok (.goto 35, 3) := dk_167 0 35 (dk_at dksX2_isAhead_1 11 rfl rfl)
theorem dX2_isAhead_37 : decode cX2_isAhead 37 = .ok (.iconst 0, 1) := dk_3 (dk_at dksX2_isAhead_1 14 rfl rfl)
theorem dX2_isAhead_38 : decode cX2_isAhead 38 = .ok (.goto 31, 3) := dk_167 0 31 (dk_at dksX2_isAhead_1 15 rfl rfl)
theorem dX2_isAhead_41 : decode cX2_isAhead 41 = .ok (.iload 4, 2) := dk_21 4 (dk_at dksX2_isAhead_1 18 rfl rfl)
theorem dX2_isAhead_43 : decode cX2_isAhead 43 = .ok (.ifCond .eq 16, 3) := dk_153 0 16 (dk_at dksX2_isAhead_1 20 rfl rfl)
theorem dX2_isAhead_46 : decode cX2_isAhead 46 = .ok (.iload 4, 2) := dk_21 4 (dk_at dksX2_isAhead_2 0 rfl rfl)
theorem dX2_isAhead_48 : decode cX2_isAhead 48 = .ok (.ifCond .le 7, 3) := dk_158 0 7 (dk_at dksX2_isAhead_2 2 rfl rfl)
theorem dX2_isAhead_51 : decode cX2_isAhead 51 = .ok (.iconst 1, 1) := dk_4 (dk_at dksX2_isAhead_2 5 rfl rfl)
theorem dX2_isAhead_52 : decode cX2_isAhead 52 = .ok (.goto 17, 3) := dk_167 0 17 (dk_at dksX2_isAhead_2 6 rfl rfl)
theorem dX2_isAhead_55 : decode cX2_isAhead 55 = .ok (.iconst 0, 1) := dk_3 (dk_at dksX2_isAhead_2 9 rfl rfl)
theorem dX2_isAhead_56 : decode cX2_isAhead 56 = .ok (.goto 13, 3) := dk_167 0 13 (dk_at dksX2_isAhead_2 10 rfl rfl)
theorem dX2_isAhead_59 : decode cX2_isAhead 59 = .ok (.iload_n 1, 1) := dk_27 (dk_at dksX2_isAhead_2 13 rfl rfl)
theorem dX2_isAhead_60 : decode cX2_isAhead 60 = .ok (.iload_n 2, 1) := dk_28 (dk_at dksX2_isAhead_2 14 rfl rfl)
theorem dX2_isAhead_61 : decode cX2_isAhead 61 = .ok (.if_icmp .ge 7, 3) := dk_162 0 7 (dk_at dksX2_isAhead_2 15 rfl rfl)
theorem dX2_isAhead_64 : decode cX2_isAhead 64 = .ok (.iconst 1, 1) := dk_4 (dk_at dksX2_isAhead_2 18 rfl rfl)
theorem dX2_isAhead_65 : decode cX2_isAhead 65 = .ok (.goto 4, 3) := dk_167 0 4 (dk_at dksX2_isAhead_2 19 rfl rfl)
theorem dX2_isAhead_68 : decode cX2_isAhead 68 = .ok (.iconst 0, 1) := dk_3 (dk_at dksX2_isAhead_2 22 rfl rfl)
theorem dX2_isAhead_69 : decode cX2_isAhead 69 = .ok (.ireturn, 1) := dk_172 (dk_at dksX2_isAhead_2 23 rfl rfl)
abbrev cX2_reach : ByteArray := prog_16_method_15_code
def yX2_reach : MethodName := ⟨RX2, "reach", "(II)I"⟩
def dkwX2_reach_1 : List UInt8 := [161, 0, 6, 21, 4, 172, 132, 4, 1, 167, 255, 229, 2, 172]
abbrev dktX2_reach_1 : List UInt8 := dkwX2_reach_1 ++ []
def dkwX2_reach_0 : List UInt8 := [3, 62, 27, 54, 4, 21, 4, 16, 32, 162, 0, 26, 29, 42, 21, 4, 182, 0, 106, 96, 62, 29, 28]
abbrev dktX2_reach_0 : List UInt8 := dkwX2_reach_0 ++ dktX2_reach_1
theorem dksX2_reach_0 : cX2_reach.data.toList.drop 0 = dktX2_reach_0 := by decide +kernel
theorem dksX2_reach_1 : cX2_reach.data.toList.drop 23 = dktX2_reach_1 := dk_seg dksX2_reach_0 23 rfl rfl
theorem dX2_reach_0 : decode cX2_reach 0 = .ok (.iconst 0, 1) := dk_3 (dk_at dksX2_reach_0 0 rfl rfl)
theorem dX2_reach_1 : decode cX2_reach 1 = .ok (.istore_n 3, 1) := dk_62 (dk_at dksX2_reach_0 1 rfl rfl)
theorem dX2_reach_2 : decode cX2_reach 2 = .ok (.iload_n 1, 1) := dk_27 (dk_at dksX2_reach_0 2 rfl rfl)
theorem dX2_reach_3 : decode cX2_reach 3 = .ok (.istore 4, 2) := dk_54 4 (dk_at dksX2_reach_0 3 rfl rfl)
theorem dX2_reach_5 : decode cX2_reach 5 = .ok (.iload 4, 2) := dk_21 4 (dk_at dksX2_reach_0 5 rfl rfl)
theorem dX2_reach_7 : decode cX2_reach 7 = .ok (.bipush 32, 2) := dk_16 32 (dk_at dksX2_reach_0 7 rfl rfl)
theorem dX2_reach_9 : decode cX2_reach 9 = .ok (.if_icmp .ge 26, 3) := dk_162 0 26 (dk_at dksX2_reach_0 9 rfl rfl)
theorem dX2_reach_12 : decode cX2_reach 12 = .ok (.iload_n 3, 1) := dk_29 (dk_at dksX2_reach_0 12 rfl rfl)
theorem dX2_reach_13 : decode cX2_reach 13 = .ok (.aload_n 0, 1) := dk_42 (dk_at dksX2_reach_0 13 rfl rfl)
theorem dX2_reach_14 : decode cX2_reach 14 = .ok (.iload 4, 2) := dk_21 4 (dk_at dksX2_reach_0 14 rfl rfl)
theorem dX2_reach_16 : decode cX2_reach 16 = .ok (.invokevirtual 106, 3) := dk_182 0 106 (dk_at dksX2_reach_0 16 rfl rfl)
theorem dX2_reach_19 : decode cX2_reach 19 = .ok (.iadd, 1) := dk_96 (dk_at dksX2_reach_0 19 rfl rfl)
theorem dX2_reach_20 : decode cX2_reach 20 = .ok (.istore_n 3, 1) := dk_62 (dk_at dksX2_reach_0 20 rfl rfl)
theorem dX2_reach_21 : decode cX2_reach 21 = .ok (.iload_n 3, 1) := dk_29 (dk_at dksX2_reach_0 21 rfl rfl)
theorem dX2_reach_22 : decode cX2_reach 22 = .ok (.iload_n 2, 1) := dk_28 (dk_at dksX2_reach_0 22 rfl rfl)
theorem dX2_reach_23 : decode cX2_reach 23 = .ok (.if_icmp .lt 6, 3) := dk_161 0 6 (dk_at dksX2_reach_1 0 rfl rfl)
theorem dX2_reach_26 : decode cX2_reach 26 = .ok (.iload 4, 2) := dk_21 4 (dk_at dksX2_reach_1 3 rfl rfl)
theorem dX2_reach_28 : decode cX2_reach 28 = .ok (.ireturn, 1) := dk_172 (dk_at dksX2_reach_1 5 rfl rfl)
theorem dX2_reach_29 : decode cX2_reach 29 = .ok (.iinc 4 1, 3) := dk_132 4 1 (dk_at dksX2_reach_1 6 rfl rfl)
theorem dX2_reach_32 : decode cX2_reach 32 = .ok (.goto (-27), 3) := dk_167 255 229 (dk_at dksX2_reach_1 9 rfl rfl)
theorem dX2_reach_35 : decode cX2_reach 35 = .ok (.iconst (-1), 1) := dk_2 (dk_at dksX2_reach_1 12 rfl rfl)
theorem dX2_reach_36 : decode cX2_reach 36 = .ok (.ireturn, 1) := dk_172 (dk_at dksX2_reach_1 13 rfl rfl)
abbrev cX2_best : ByteArray := prog_16_method_11_code
def yX2_best : MethodName := ⟨RX2, "best", "(II)I"⟩
def dkwX2_best_2 : List UInt8 := [132, 5, 1, 167, 255, 220, 29, 172]
abbrev dktX2_best_2 : List UInt8 := dkwX2_best_2 ++ []
def dkwX2_best_1 : List UInt8 := [182, 0, 106, 54, 6, 21, 6, 21, 4, 21, 6, 96, 184, 0, 148, 54, 4, 29, 21, 4, 184, 0, 148, 62]
abbrev dktX2_best_1 : List UInt8 := dkwX2_best_1 ++ dktX2_best_2
def dkwX2_best_0 : List UInt8 := [42, 27, 182, 0, 106, 62, 29, 54, 4, 27, 4, 96, 54, 5, 21, 5, 28, 163, 0, 36, 42, 21, 5]
abbrev dktX2_best_0 : List UInt8 := dkwX2_best_0 ++ dktX2_best_1
theorem dksX2_best_0 : cX2_best.data.toList.drop 0 = dktX2_best_0 := by decide +kernel
theorem dksX2_best_1 : cX2_best.data.toList.drop 23 = dktX2_best_1 := dk_seg dksX2_best_0 23 rfl rfl
theorem dksX2_best_2 : cX2_best.data.toList.drop 47 = dktX2_best_2 := dk_seg dksX2_best_1 24 rfl rfl
theorem dX2_best_0 : decode cX2_best 0 = .ok (.aload_n 0, 1) := dk_42 (dk_at dksX2_best_0 0 rfl rfl)
theorem dX2_best_1 : decode cX2_best 1 = .ok (.iload_n 1, 1) := dk_27 (dk_at dksX2_best_0 1 rfl rfl)
theorem dX2_best_2 : decode cX2_best 2 = .ok (.invokevirtual 106, 3) := dk_182 0 106 (dk_at dksX2_best_0 2 rfl rfl)
theorem dX2_best_5 : decode cX2_best 5 = .ok (.istore_n 3, 1) := dk_62 (dk_at dksX2_best_0 5 rfl rfl)
theorem dX2_best_6 : decode cX2_best 6 = .ok (.iload_n 3, 1) := dk_29 (dk_at dksX2_best_0 6 rfl rfl)
theorem dX2_best_7 : decode cX2_best 7 = .ok (.istore 4, 2) := dk_54 4 (dk_at dksX2_best_0 7 rfl rfl)
theorem dX2_best_9 : decode cX2_best 9 = .ok (.iload_n 1, 1) := dk_27 (dk_at dksX2_best_0 9 rfl rfl)
theorem dX2_best_10 : decode cX2_best 10 = .ok (.iconst 1, 1) := dk_4 (dk_at dksX2_best_0 10 rfl rfl)
theorem dX2_best_11 : decode cX2_best 11 = .ok (.iadd, 1) := dk_96 (dk_at dksX2_best_0 11 rfl rfl)
theorem dX2_best_12 : decode cX2_best 12 = .ok (.istore 5, 2) := dk_54 5 (dk_at dksX2_best_0 12 rfl rfl)
theorem dX2_best_14 : decode cX2_best 14 = .ok (.iload 5, 2) := dk_21 5 (dk_at dksX2_best_0 14 rfl rfl)
theorem dX2_best_16 : decode cX2_best 16 = .ok (.iload_n 2, 1) := dk_28 (dk_at dksX2_best_0 16 rfl rfl)
theorem dX2_best_17 : decode cX2_best 17 = .ok (.if_icmp .gt 36, 3) := dk_163 0 36 (dk_at dksX2_best_0 17 rfl rfl)
theorem dX2_best_20 : decode cX2_best 20 = .ok (.aload_n 0, 1) := dk_42 (dk_at dksX2_best_0 20 rfl rfl)
theorem dX2_best_21 : decode cX2_best 21 = .ok (.iload 5, 2) := dk_21 5 (dk_at dksX2_best_0 21 rfl rfl)
theorem dX2_best_23 : decode cX2_best 23 = .ok (.invokevirtual 106, 3) := dk_182 0 106 (dk_at dksX2_best_1 0 rfl rfl)
theorem dX2_best_26 : decode cX2_best 26 = .ok (.istore 6, 2) := dk_54 6 (dk_at dksX2_best_1 3 rfl rfl)
theorem dX2_best_28 : decode cX2_best 28 = .ok (.iload 6, 2) := dk_21 6 (dk_at dksX2_best_1 5 rfl rfl)
theorem dX2_best_30 : decode cX2_best 30 = .ok (.iload 4, 2) := dk_21 4 (dk_at dksX2_best_1 7 rfl rfl)
theorem dX2_best_32 : decode cX2_best 32 = .ok (.iload 6, 2) := dk_21 6 (dk_at dksX2_best_1 9 rfl rfl)
theorem dX2_best_34 : decode cX2_best 34 = .ok (.iadd, 1) := dk_96 (dk_at dksX2_best_1 11 rfl rfl)
theorem dX2_best_35 : decode cX2_best 35 = .ok (.invokestatic 148, 3) := dk_184 0 148 (dk_at dksX2_best_1 12 rfl rfl)
theorem dX2_best_38 : decode cX2_best 38 = .ok (.istore 4, 2) := dk_54 4 (dk_at dksX2_best_1 15 rfl rfl)
theorem dX2_best_40 : decode cX2_best 40 = .ok (.iload_n 3, 1) := dk_29 (dk_at dksX2_best_1 17 rfl rfl)
theorem dX2_best_41 : decode cX2_best 41 = .ok (.iload 4, 2) := dk_21 4 (dk_at dksX2_best_1 18 rfl rfl)
theorem dX2_best_43 : decode cX2_best 43 = .ok (.invokestatic 148, 3) := dk_184 0 148 (dk_at dksX2_best_1 20 rfl rfl)
theorem dX2_best_46 : decode cX2_best 46 = .ok (.istore_n 3, 1) := dk_62 (dk_at dksX2_best_1 23 rfl rfl)
theorem dX2_best_47 : decode cX2_best 47 = .ok (.iinc 5 1, 3) := dk_132 5 1 (dk_at dksX2_best_2 0 rfl rfl)
theorem dX2_best_50 : decode cX2_best 50 = .ok (.goto (-36), 3) := dk_167 255 220 (dk_at dksX2_best_2 3 rfl rfl)
theorem dX2_best_53 : decode cX2_best 53 = .ok (.iload_n 3, 1) := dk_29 (dk_at dksX2_best_2 6 rfl rfl)
theorem dX2_best_54 : decode cX2_best 54 = .ok (.ireturn, 1) := dk_172 (dk_at dksX2_best_2 7 rfl rfl)
abbrev cX2_bestAgain : ByteArray := prog_16_method_12_code
def yX2_bestAgain : MethodName := ⟨RX2, "bestAgain", "(II)I"⟩
def dkwX2_bestAgain_2 : List UInt8 := [167, 255, 229, 132, 4, 1, 167, 255, 210, 29, 172]
abbrev dktX2_bestAgain_2 : List UInt8 := dkwX2_bestAgain_2 ++ []
def dkwX2_bestAgain_1 : List UInt8 := [163, 0, 27, 21, 5, 42, 21, 6, 182, 0, 106, 96, 54, 5, 29, 21, 5, 184, 0, 148, 62, 132, 6, 1]
abbrev dktX2_bestAgain_1 : List UInt8 := dkwX2_bestAgain_1 ++ dktX2_bestAgain_2
def dkwX2_bestAgain_0 : List UInt8 := [17, 131, 32, 62, 27, 54, 4, 21, 4, 28, 163, 0, 46, 3, 54, 5, 21, 4, 54, 6, 21, 6, 28]
abbrev dktX2_bestAgain_0 : List UInt8 := dkwX2_bestAgain_0 ++ dktX2_bestAgain_1
theorem dksX2_bestAgain_0 : cX2_bestAgain.data.toList.drop 0 = dktX2_bestAgain_0 := by decide +kernel
theorem dksX2_bestAgain_1 : cX2_bestAgain.data.toList.drop 23 = dktX2_bestAgain_1 := dk_seg dksX2_bestAgain_0 23 rfl rfl
theorem dksX2_bestAgain_2 : cX2_bestAgain.data.toList.drop 47 = dktX2_bestAgain_2 := dk_seg dksX2_bestAgain_1 24 rfl rfl
theorem dX2_bestAgain_0 : decode cX2_bestAgain 0 = .ok (.sipush (-31968), 3) := dk_17 131 32 (dk_at dksX2_bestAgain_0 0 rfl rfl)
theorem dX2_bestAgain_3 : decode cX2_bestAgain 3 = .ok (.istore_n 3, 1) := dk_62 (dk_at dksX2_bestAgain_0 3 rfl rfl)
theorem dX2_bestAgain_4 : decode cX2_bestAgain 4 = .ok (.iload_n 1, 1) := dk_27 (dk_at dksX2_bestAgain_0 4 rfl rfl)
theorem dX2_bestAgain_5 : decode cX2_bestAgain 5 = .ok (.istore 4, 2) := dk_54 4 (dk_at dksX2_bestAgain_0 5 rfl rfl)
theorem dX2_bestAgain_7 : decode cX2_bestAgain 7 = .ok (.iload 4, 2) := dk_21 4 (dk_at dksX2_bestAgain_0 7 rfl rfl)
theorem dX2_bestAgain_9 : decode cX2_bestAgain 9 = .ok (.iload_n 2, 1) := dk_28 (dk_at dksX2_bestAgain_0 9 rfl rfl)
theorem dX2_bestAgain_10 : decode cX2_bestAgain 10 = .ok (.if_icmp .gt 46, 3) := dk_163 0 46 (dk_at dksX2_bestAgain_0 10 rfl rfl)
theorem dX2_bestAgain_13 : decode cX2_bestAgain 13 = .ok (.iconst 0, 1) := dk_3 (dk_at dksX2_bestAgain_0 13 rfl rfl)
theorem dX2_bestAgain_14 : decode cX2_bestAgain 14 = .ok (.istore 5, 2) := dk_54 5 (dk_at dksX2_bestAgain_0 14 rfl rfl)
theorem dX2_bestAgain_16 : decode cX2_bestAgain 16 = .ok (.iload 4, 2) := dk_21 4 (dk_at dksX2_bestAgain_0 16 rfl rfl)
theorem dX2_bestAgain_18 : decode cX2_bestAgain 18 = .ok (.istore 6, 2) := dk_54 6 (dk_at dksX2_bestAgain_0 18 rfl rfl)
theorem dX2_bestAgain_20 : decode cX2_bestAgain 20 = .ok (.iload 6, 2) := dk_21 6 (dk_at dksX2_bestAgain_0 20 rfl rfl)
theorem dX2_bestAgain_22 : decode cX2_bestAgain 22 = .ok (.iload_n 2, 1) := dk_28 (dk_at dksX2_bestAgain_0 22 rfl rfl)
theorem dX2_bestAgain_23 : decode cX2_bestAgain 23 = .ok (.if_icmp .gt 27, 3) := dk_163 0 27 (dk_at dksX2_bestAgain_1 0 rfl rfl)
theorem dX2_bestAgain_26 : decode cX2_bestAgain 26 = .ok (.iload 5, 2) := dk_21 5 (dk_at dksX2_bestAgain_1 3 rfl rfl)
theorem dX2_bestAgain_28 : decode cX2_bestAgain 28 = .ok (.aload_n 0, 1) := dk_42 (dk_at dksX2_bestAgain_1 5 rfl rfl)
theorem dX2_bestAgain_29 : decode cX2_bestAgain 29 = .ok (.iload 6, 2) := dk_21 6 (dk_at dksX2_bestAgain_1 6 rfl rfl)
theorem dX2_bestAgain_31 : decode cX2_bestAgain 31 = .ok (.invokevirtual 106, 3) := dk_182 0 106 (dk_at dksX2_bestAgain_1 8 rfl rfl)
theorem dX2_bestAgain_34 : decode cX2_bestAgain 34 = .ok (.iadd, 1) := dk_96 (dk_at dksX2_bestAgain_1 11 rfl rfl)
theorem dX2_bestAgain_35 : decode cX2_bestAgain 35 = .ok (.istore 5, 2) := dk_54 5 (dk_at dksX2_bestAgain_1 12 rfl rfl)
theorem dX2_bestAgain_37 : decode cX2_bestAgain 37 = .ok (.iload_n 3, 1) := dk_29 (dk_at dksX2_bestAgain_1 14 rfl rfl)
theorem dX2_bestAgain_38 : decode cX2_bestAgain 38 = .ok (.iload 5, 2) := dk_21 5 (dk_at dksX2_bestAgain_1 15 rfl rfl)
theorem dX2_bestAgain_40 : decode cX2_bestAgain 40 = .ok (.invokestatic 148, 3) := dk_184 0 148 (dk_at dksX2_bestAgain_1 17 rfl rfl)
theorem dX2_bestAgain_43 : decode cX2_bestAgain 43 = .ok (.istore_n 3, 1) := dk_62 (dk_at dksX2_bestAgain_1 20 rfl rfl)
theorem dX2_bestAgain_44 : decode cX2_bestAgain 44 = .ok (.iinc 6 1, 3) := dk_132 6 1 (dk_at dksX2_bestAgain_1 21 rfl rfl)
theorem dX2_bestAgain_47 : decode cX2_bestAgain 47 = .ok (.goto (-27), 3) := dk_167 255 229 (dk_at dksX2_bestAgain_2 0 rfl rfl)
theorem dX2_bestAgain_50 : decode cX2_bestAgain 50 = .ok (.iinc 4 1, 3) := dk_132 4 1 (dk_at dksX2_bestAgain_2 3 rfl rfl)
theorem dX2_bestAgain_53 : decode cX2_bestAgain 53 = .ok (.goto (-46), 3) := dk_167 255 210 (dk_at dksX2_bestAgain_2 6 rfl rfl)
theorem dX2_bestAgain_56 : decode cX2_bestAgain 56 = .ok (.iload_n 3, 1) := dk_29 (dk_at dksX2_bestAgain_2 9 rfl rfl)
theorem dX2_bestAgain_57 : decode cX2_bestAgain 57 = .ok (.ireturn, 1) := dk_172 (dk_at dksX2_bestAgain_2 10 rfl rfl)
theorem q244 : (Jvm.Cond.fieldLink "SpanRuler$Ruler" (19 : Nat) "SpanRuler$Ruler" "colours" "[I") ∈ lw_all := lw_g (lw_at lw_m1 184 rfl) rfl
theorem q1330 : (Jvm.Cond.methodLink "SpanRuler$Ruler" (148 : Nat) ({ cls := "java/lang/Math", name := "max", desc := "(II)I" } : Jvm.MethodName)) ∈ lw_all := lw_g (lw_at lw_m6 70 rfl) rfl
theorem q1454 : (Jvm.Cond.methodLink "SpanRuler$Ruler" (194 : Nat) ({ cls := "SpanRuler$Ruler", name := "sumWith", desc := "(I)I" } : Jvm.MethodName)) ∈ lw_all := lw_g (lw_at lw_m6 194 rfl) rfl
theorem q1442 : (Jvm.Cond.code ({ cls := "SpanRuler$Ruler", name := "sumWith", desc := "(I)I" } : Jvm.MethodName) prog_16_method_26_code (4 : Nat) (Option.some Jvm.ClassFile.FieldType.int)) ∈ lw_all := lw_g (lw_at lw_m6 182 rfl) rfl
theorem q1440 : (Jvm.Cond.instanceMethod ({ cls := "SpanRuler$Ruler", name := "sumWith", desc := "(I)I" } : Jvm.MethodName)) ∈ lw_all := lw_g (lw_at lw_m6 180 rfl) rfl
theorem q1441 : (Jvm.Cond.selects "SpanRuler$Ruler" ({ cls := "SpanRuler$Ruler", name := "sumWith", desc := "(I)I" } : Jvm.MethodName) ({ cls := "SpanRuler$Ruler", name := "sumWith", desc := "(I)I" } : Jvm.MethodName)) ∈ lw_all := lw_g (lw_at lw_m6 181 rfl) rfl
theorem q1455 : (Jvm.Cond.methodLink "SpanRuler$Ruler" (197 : Nat) ({ cls := "SpanRuler$Ruler", name := "cellsWith", desc := "(I)I" } : Jvm.MethodName)) ∈ lw_all := lw_g (lw_at lw_m6 195 rfl) rfl
theorem q1458 : (Jvm.Cond.code ({ cls := "SpanRuler$Ruler", name := "cellsWith", desc := "(I)I" } : Jvm.MethodName) prog_16_method_25_code (7 : Nat) (Option.some Jvm.ClassFile.FieldType.int)) ∈ lw_all := lw_g (lw_at lw_m6 198 rfl) rfl
theorem q1456 : (Jvm.Cond.instanceMethod ({ cls := "SpanRuler$Ruler", name := "cellsWith", desc := "(I)I" } : Jvm.MethodName)) ∈ lw_all := lw_g (lw_at lw_m6 196 rfl) rfl
theorem q1457 : (Jvm.Cond.selects "SpanRuler$Ruler" ({ cls := "SpanRuler$Ruler", name := "cellsWith", desc := "(I)I" } : Jvm.MethodName) ({ cls := "SpanRuler$Ruler", name := "cellsWith", desc := "(I)I" } : Jvm.MethodName)) ∈ lw_all := lw_g (lw_at lw_m6 197 rfl) rfl
theorem sm_step {R : Nat → Int32} {a c : Nat} (h : a ≤ c) : sm R (c - a) a 0 + R (8 + c) = sm R (c + 1 - a) a 0 := by
  rw [sm0, sm0, show c + 1 - a = (c - a) + 1 by omega, tsum_add, show a + (c - a) = c by omega]
  show _ = _ + (R (8 + c) + 0)
  rw [Int32.add_zero]
def rcI (o : Option Nat) : Int32 := match o with
  | some c => nI c
  | none => -1
/-- the best stretch, as the ruler finds it -/
def kdh (R : Nat → Int32) (c : Nat) (here : Int32) : Int32 := if R (8 + c) < here + R (8 + c) then here + R (8 + c) else R (8 + c)
def kdl (R : Nat → Int32) : Nat → Nat → Int32 → Int32 → Int32
  | 0, _, _, best => best
  | n + 1, c, here, best => kdl R n (c + 1) (kdh R c here) (if best < kdh R c here then kdh R c here else best)
def tri : Nat → Nat
  | 0 => 0
  | n + 1 => tri n + (n + 1)
theorem tri_s (n : Nat) : tri (n + 1) = tri n + (n + 1) := rfl
theorem tri_le : ∀ n, n ≤ 32 → tri n ≤ 528 := by decide +kernel
def bai (R : Nat → Int32) : Nat → Nat → Int32 → Int32 → Int32
  | 0, _, _, best => best
  | n + 1, c, sum, best => bai R n (c + 1) (sum + R (8 + c)) (if best < sum + R (8 + c) then sum + R (8 + c) else best)
def bao (R : Nat → Int32) (j : Nat) : Nat → Nat → Int32 → Int32
  | 0, _, best => best
  | n + 1, a, best => bao R j n (a + 1) (bai R (j + 1 - a) a 0 best)
def sti (R : Nat → Int32) (x : Int32) : Nat → Nat → Int32 → Option Nat
  | 0, _, _ => none
  | n + 1, c, sum => if sum + R (8 + c) = x then some c else sti R x n (c + 1) (sum + R (8 + c))
def sto (R : Nat → Int32) (j : Nat) (x : Int32) : Nat → Nat → Option (Nat × Nat)
  | 0, _ => none
  | n + 1, a => match sti R x (j + 1 - a) a 0 with
    | some c => some (a, c)
    | none => sto R j x n (a + 1)
def stI (o : Option (Nat × Nat)) : Int32 := match o with
  | some p => nI (p.1 + 32 * p.2)
  | none => -1
theorem x_runs (l : Launch) (G : GE) (h : AH) (P : Nat → Prop) (a : Nat) (R : Nat → Int32) (rt cl nl vl : Nat) (i3 i4 i5 i0 i6 i7 : Int32) (q0 : RQ G h P a R rt cl [.ref nl, .ref vl, .int i3, .int i4, .int i5, .int i0, .int i6, .int i7]) (i j : Nat) (hij : i ≤ j) (hj : j < 32) : GM l G yX2_runs (ws_ yX2_runs cX2_runs 5 (some .int)) 12 [.ref a, .int (nI i), .int (nI j)] (h) (0) (PR fun u h' => u = .int (rul R (j - i) i 1) ∧ RQ G h' P a R rt cl [.ref nl, .ref vl, .int i3, .int i4, .int i5, .int i0, .int i6, .int i7] ∧ Chg P 0 32 h h') := by
  refine GM.of (by decide) (dk rfl) ?_
  intro X eL eG eh ok fn
  subst eL; subst eG
  show GW X _ 0 0 [some (.ref a), some (.int (nI i)), some (.int (nI j)), none, none] []
  obtain ⟨ra1, rT1, cf1, rc1, rf1⟩ := id q0
  refine g_iconst ok (v := 1) dX2_runs_0 rfl ?_
  refine g_istore_n ok dX2_runs_1 (ls1 := [some (.ref a), some (.int (nI i)), some (.int (nI j)), some (.int 1), none]) (dl rfl) rfl ?_
  refine g_iload_n ok dX2_runs_2 rfl ?_
  refine g_iconst ok (v := 1) dX2_runs_3 rfl ?_
  refine g_iaddN ok dX2_runs_4 (c := (i + 1)) (a := i) (b := 1) rfl rfl rfl ?_
  refine g_istore ok dX2_runs_5 (ls1 := [some (.ref a), some (.int (nI i)), some (.int (nI j)), some (.int 1), some (.int (nI (i + 1)))]) (dl rfl) rfl ?_
  have lp : ∀ (n : Nat) (c : Nat) (m : Int32) (Hlp : AH) (klp : Nat), (c + n = j) → (rul R n c m = rul R (j - i) i 1) → (RQ X.G Hlp P a R rt cl [.ref nl, .ref vl, .int i3, .int i4, .int i5, .int i0, .int i6, .int i7]) → (Chg P 0 32 h Hlp) → (klp + 0 * n ≤ 0) → GW X Hlp klp 7 [some (.ref a), some (.int (nI i)), some (.int (nI j)), some (.int m), some (.int (nI (c + 1)))] [] := by
    intro n
    induction n with
    | zero => 
      intro c m Hlp klp lph0 lph1 qlp glp blp
      obtain ⟨ra2, rT2, cf2, rc2, rf2⟩ := id qlp
      refine g_iload ok dX2_runs_7 rfl ?_
      refine g_iload_n ok dX2_runs_9 rfl ?_
      refine g_icmp_gt ok (tgt := 46) dX2_runs_10 (by decide) (fun _ => ?_) (fun c_ => absurd (nI_lt (a := j) (b := (c + 1)) (by omega) (by omega)) c_)
      refine g_iload_n ok dX2_runs_46 rfl ?_
      exact g_iret ok fn rfl dX2_runs_47 ⟨_, rfl, congrArg Value.int lph1, qlp, glp⟩ (by omega)
    | succ n ih => 
      intro c m Hlp klp lph0 lph1 qlp glp blp
      obtain ⟨ra2, rT2, cf2, rc2, rf2⟩ := id qlp
      refine g_iload ok dX2_runs_7 rfl ?_
      refine g_iload_n ok dX2_runs_9 rfl ?_
      refine g_icmp_gt ok (tgt := 46) dX2_runs_10 (by decide) (fun c_ => absurd c_ (nI_nlt (a := j) (b := (c + 1)) (by omega) (by omega))) (fun _ => ?_)
      refine g_iload_n ok dX2_runs_13 rfl ?_
      refine g_aload_n ok dX2_runs_14 rfl ?_
      refine g_get ok ck_X2 1 q244 (Or.inl rfl) (by decide) dX2_runs_15 (Rd.h (ra2)) rfl ?_
      refine g_iload ok dX2_runs_18 rfl ?_
      refine g_iald ok (j := (c + 1)) dX2_runs_20 (Rd.h (rc2)) rfl (by omega) (by omega) ?_
      rw [rf2 (c + 1) (by omega)]
      refine g_aload_n ok dX2_runs_21 rfl ?_
      refine g_get ok ck_X2 1 q244 (Or.inl rfl) (by decide) dX2_runs_22 (Rd.h (ra2)) rfl ?_
      refine g_iload ok dX2_runs_25 rfl ?_
      refine g_iconst ok (v := 1) dX2_runs_27 rfl ?_
      refine g_isubN ok dX2_runs_28 (c := c) (a := (c + 1)) (b := 1) rfl rfl (by omega) (by omega) ?_
      refine g_iald ok (j := c) dX2_runs_29 (Rd.h (rc2)) rfl (by omega) (by omega) ?_
      rw [rf2 c (by omega)]
      refine g_icmp_ne ok (tgt := 37) dX2_runs_30 (by decide) (fun c30 => ?_) (fun c30 => ?_)
      · refine g_iconst ok (v := 1) dX2_runs_37 rfl ?_
        refine g_iadd ok dX2_runs_38 ?_
        refine g_istore_n ok dX2_runs_39 (ls1 := [some (.ref a), some (.int (nI i)), some (.int (nI j)), some (.int (m + 1)), some (.int (nI (c + 1)))]) (dl rfl) rfl ?_
        refine g_iincN ok dX2_runs_40 (c := (c + 1)) rfl rfl (ls1 := [some (.ref a), some (.int (nI i)), some (.int (nI j)), some (.int (m + 1)), some (.int (nI ((c + 1) + 1)))]) rfl ?_
        refine g_goto ok dX2_runs_43 (tgt := 7) (by decide) ?_
        exact ih (c + 1) (m + 1) _ _ (by omega) (by rw [← lph1, rul]; simp [c30]) qlp (glp) (by omega)
      · refine g_iconst ok (v := 0) dX2_runs_33 rfl ?_
        refine g_goto ok dX2_runs_34 (tgt := 38) (by decide) ?_
        refine g_iadd ok dX2_runs_38 ?_
        refine g_istore_n ok dX2_runs_39 (ls1 := [some (.ref a), some (.int (nI i)), some (.int (nI j)), some (.int (m + 0)), some (.int (nI (c + 1)))]) (dl rfl) rfl ?_
        refine g_iincN ok dX2_runs_40 (c := (c + 1)) rfl rfl (ls1 := [some (.ref a), some (.int (nI i)), some (.int (nI j)), some (.int (m + 0)), some (.int (nI ((c + 1) + 1)))]) rfl ?_
        refine g_goto ok dX2_runs_43 (tgt := 7) (by decide) ?_
        exact ih (c + 1) (m + 0) _ _ (by omega) (by rw [← lph1, rul]; simp [c30]) qlp (glp) (by omega)
  exact lp (j - i) i 1 _ _ (by omega) rfl q0 (Chg.refl _ _ _ _) (by omega)
theorem x_longest (l : Launch) (G : GE) (h : AH) (P : Nat → Prop) (a : Nat) (R : Nat → Int32) (rt cl nl vl : Nat) (i3 i4 i5 i0 i6 i7 : Int32) (q0 : RQ G h P a R rt cl [.ref nl, .ref vl, .int i3, .int i4, .int i5, .int i0, .int i6, .int i7]) (x : Int32) : GM l G yX2_longest (ws_ yX2_longest cX2_longest 5 (some .int)) 12 [.ref a, .int x] (h) (0) (PR fun u h' => u = .int (lol R x 32 0 0 0) ∧ RQ G h' P a R rt cl [.ref nl, .ref vl, .int i3, .int i4, .int i5, .int i0, .int i6, .int i7] ∧ Chg P 0 32 h h') := by
  refine GM.of (by decide) (dk rfl) ?_
  intro X eL eG eh ok fn
  subst eL; subst eG
  show GW X _ 0 0 [some (.ref a), some (.int x), none, none, none] []
  obtain ⟨ra1, rT1, cf1, rc1, rf1⟩ := id q0
  refine g_iconst ok (v := 0) dX2_longest_0 rfl ?_
  refine g_istore_n ok dX2_longest_1 (ls1 := [some (.ref a), some (.int x), some (.int 0), none, none]) (dl rfl) rfl ?_
  refine g_iconst ok (v := 0) dX2_longest_2 rfl ?_
  refine g_istore_n ok dX2_longest_3 (ls1 := [some (.ref a), some (.int x), some (.int 0), some (.int 0), none]) (dl rfl) rfl ?_
  refine g_iconst ok (v := 0) dX2_longest_4 rfl ?_
  refine g_istore ok dX2_longest_5 (ls1 := [some (.ref a), some (.int x), some (.int 0), some (.int 0), some (.int 0)]) (dl rfl) rfl ?_
  have lp : ∀ (n : Nat) (c : Nat) (m : Int32) (e : Int32) (Hlp : AH) (klp : Nat), (c + n = 32) → (lol R x n c m e = lol R x 32 0 0 0) → (RQ X.G Hlp P a R rt cl [.ref nl, .ref vl, .int i3, .int i4, .int i5, .int i0, .int i6, .int i7]) → (Chg P 0 32 h Hlp) → (klp + 0 * n ≤ 0) → GW X Hlp klp 7 [some (.ref a), some (.int x), some (.int m), some (.int e), some (.int (nI c))] [] := by
    intro n
    induction n with
    | zero => 
      intro c m e Hlp klp lph0 lph1 qlp glp blp
      obtain ⟨ra2, rT2, cf2, rc2, rf2⟩ := id qlp
      refine g_iload ok dX2_longest_7 rfl ?_
      refine g_bipush ok (v := 32) dX2_longest_9 rfl ?_
      refine g_icmp_ge ok (tgt := 45) dX2_longest_11 (by decide) (fun _ => ?_) (fun c_ => absurd (nI_le (a := 32) (b := c) (by omega) (by omega)) c_)
      refine g_iload_n ok dX2_longest_45 rfl ?_
      exact g_iret ok fn rfl dX2_longest_46 ⟨_, rfl, congrArg Value.int lph1, qlp, glp⟩ (by omega)
    | succ n ih => 
      intro c m e Hlp klp lph0 lph1 qlp glp blp
      obtain ⟨ra2, rT2, cf2, rc2, rf2⟩ := id qlp
      refine g_iload ok dX2_longest_7 rfl ?_
      refine g_bipush ok (v := 32) dX2_longest_9 rfl ?_
      refine g_icmp_ge ok (tgt := 45) dX2_longest_11 (by decide) (fun c_ => absurd c_ (nI_ge (a := c) (b := 32) (by omega) (by omega))) (fun _ => ?_)
      refine g_aload_n ok dX2_longest_14 rfl ?_
      refine g_get ok ck_X2 1 q244 (Or.inl rfl) (by decide) dX2_longest_15 (Rd.h (ra2)) rfl ?_
      refine g_iload ok dX2_longest_18 rfl ?_
      refine g_iald ok (j := c) dX2_longest_20 (Rd.h (rc2)) rfl (by omega) (by omega) ?_
      rw [rf2 c (by omega)]
      refine g_iload_n ok dX2_longest_21 rfl ?_
      refine g_icmp_ne ok (tgt := 31) dX2_longest_22 (by decide) (fun c22 => ?_) (fun c22 => ?_)
      · refine g_iconst ok (v := 0) dX2_longest_31 rfl ?_
        refine g_istore_n ok dX2_longest_32 (ls1 := [some (.ref a), some (.int x), some (.int m), some (.int 0), some (.int (nI c))]) (dl rfl) rfl ?_
        refine g_iload_n ok dX2_longest_33 rfl ?_
        refine g_iload_n ok dX2_longest_34 rfl ?_
        refine g_max ok q1330 q576 q90 q577 dX2_longest_35 (dk rfl) rfl (dk rfl) (by omega) ?_
        refine g_istore_n ok dX2_longest_38 (ls1 := [some (.ref a), some (.int x), some (.int (if m < 0 then 0 else m)), some (.int 0), some (.int (nI c))]) (dl rfl) rfl ?_
        refine g_iincN ok dX2_longest_39 (c := c) rfl rfl (ls1 := [some (.ref a), some (.int x), some (.int (if m < 0 then 0 else m)), some (.int 0), some (.int (nI (c + 1)))]) rfl ?_
        refine g_goto ok dX2_longest_42 (tgt := 7) (by decide) ?_
        exact ih (c + 1) (if m < 0 then 0 else m) 0 _ _ (by omega) (by rw [← lph1, lol]; simp [c22]) qlp (glp) (by omega)
      · refine g_iload_n ok dX2_longest_25 rfl ?_
        refine g_iconst ok (v := 1) dX2_longest_26 rfl ?_
        refine g_iadd ok dX2_longest_27 ?_
        refine g_goto ok dX2_longest_28 (tgt := 32) (by decide) ?_
        refine g_istore_n ok dX2_longest_32 (ls1 := [some (.ref a), some (.int x), some (.int m), some (.int (e + 1)), some (.int (nI c))]) (dl rfl) rfl ?_
        refine g_iload_n ok dX2_longest_33 rfl ?_
        refine g_iload_n ok dX2_longest_34 rfl ?_
        refine g_max ok q1330 q576 q90 q577 dX2_longest_35 (dk rfl) rfl (dk rfl) (by omega) ?_
        refine g_istore_n ok dX2_longest_38 (ls1 := [some (.ref a), some (.int x), some (.int (if m < (e + 1) then (e + 1) else m)), some (.int (e + 1)), some (.int (nI c))]) (dl rfl) rfl ?_
        refine g_iincN ok dX2_longest_39 (c := c) rfl rfl (ls1 := [some (.ref a), some (.int x), some (.int (if m < (e + 1) then (e + 1) else m)), some (.int (e + 1)), some (.int (nI (c + 1)))]) rfl ?_
        refine g_goto ok dX2_longest_42 (tgt := 7) (by decide) ?_
        exact ih (c + 1) (if m < (e + 1) then (e + 1) else m) (e + 1) _ _ (by omega) (by rw [← lph1, lol]; simp [c22]) qlp (glp) (by omega)
  exact lp 32 0 0 0 _ _ (by omega) rfl q0 (Chg.refl _ _ _ _) (by omega)
theorem x_cellsWith (l : Launch) (G : GE) (h : AH) (P : Nat → Prop) (a : Nat) (R : Nat → Int32) (rt cl nl vl : Nat) (i3 i4 i5 i0 i6 i7 : Int32) (q0 : RQ G h P a R rt cl [.ref nl, .ref vl, .int i3, .int i4, .int i5, .int i0, .int i6, .int i7]) (x : Int32) : GM l G yX2_cellsWith (ws_ yX2_cellsWith cX2_cellsWith 7 (some .int)) 12 [.ref a, .int x] (h) (0) (PR fun u h' => u = .int (mal R x 32 0 0) ∧ RQ G h' P a R rt cl [.ref nl, .ref vl, .int i3, .int i4, .int i5, .int i0, .int i6, .int i7] ∧ Chg P 0 32 h h') := by
  refine GM.of (by decide) (dk rfl) ?_
  intro X eL eG eh ok fn
  subst eL; subst eG
  show GW X _ 0 0 [some (.ref a), some (.int x), none, none, none, none, none] []
  obtain ⟨ra1, rT1, cf1, rc1, rf1⟩ := id q0
  refine g_iconst ok (v := 0) dX2_cellsWith_0 rfl ?_
  refine g_istore_n ok dX2_cellsWith_1 (ls1 := [some (.ref a), some (.int x), some (.int 0), none, none, none, none]) (dl rfl) rfl ?_
  refine g_aload_n ok dX2_cellsWith_2 rfl ?_
  refine g_get ok ck_X2 1 q244 (Or.inl rfl) (by decide) dX2_cellsWith_3 (Rd.h (ra1)) rfl ?_
  refine g_astore_n ok dX2_cellsWith_6 (ls1 := [some (.ref a), some (.int x), some (.int 0), some (.ref cl), none, none, none]) (dl rfl) rfl ?_
  refine g_aload_n ok dX2_cellsWith_7 rfl ?_
  refine g_alen ok dX2_cellsWith_8 (Rd.h (rc1)) (gt_i _) ?_
  refine g_istore ok dX2_cellsWith_9 (ls1 := [some (.ref a), some (.int x), some (.int 0), some (.ref cl), some (.int (nI 32)), none, none]) (dl rfl) rfl ?_
  refine g_iconst ok (v := 0) dX2_cellsWith_11 rfl ?_
  refine g_istore ok dX2_cellsWith_12 (ls1 := [some (.ref a), some (.int x), some (.int 0), some (.ref cl), some (.int (nI 32)), some (.int 0), none]) (dl rfl) rfl ?_
  have lp : ∀ (n : Nat) (c : Nat) (m : Int32) (Hlp : AH) (klp : Nat), (c + n = 32) → (mal R x n c m = mal R x 32 0 0) → (RQ X.G Hlp P a R rt cl [.ref nl, .ref vl, .int i3, .int i4, .int i5, .int i0, .int i6, .int i7]) → (Chg P 0 32 h Hlp) → (klp + 0 * n ≤ 0) → GW X Hlp klp 14 [some (.ref a), some (.int x), some (.int m), some (.ref cl), some (.int (nI 32)), some (.int (nI c)), none] [] := by
    intro n
    induction n with
    | zero => 
      intro c m Hlp klp lph0 lph1 qlp glp blp
      obtain ⟨ra2, rT2, cf2, rc2, rf2⟩ := id qlp
      refine g_iload ok dX2_cellsWith_14 rfl ?_
      refine g_iload ok dX2_cellsWith_16 rfl ?_
      refine g_icmp_ge ok (tgt := 47) dX2_cellsWith_18 (by decide) (fun _ => ?_) (fun c_ => absurd (nI_le (a := 32) (b := c) (by omega) (by omega)) c_)
      refine g_iload_n ok dX2_cellsWith_47 rfl ?_
      exact g_iret ok fn rfl dX2_cellsWith_48 ⟨_, rfl, congrArg Value.int lph1, qlp, glp⟩ (by omega)
    | succ n ih => 
      intro c m Hlp klp lph0 lph1 qlp glp blp
      obtain ⟨ra2, rT2, cf2, rc2, rf2⟩ := id qlp
      refine g_iload ok dX2_cellsWith_14 rfl ?_
      refine g_iload ok dX2_cellsWith_16 rfl ?_
      refine g_icmp_ge ok (tgt := 47) dX2_cellsWith_18 (by decide) (fun c_ => absurd c_ (nI_ge (a := c) (b := 32) (by omega) (by omega))) (fun _ => ?_)
      refine g_aload_n ok dX2_cellsWith_21 rfl ?_
      refine g_iload ok dX2_cellsWith_22 rfl ?_
      refine g_iald ok (j := c) dX2_cellsWith_24 (Rd.h (rc2)) rfl (by omega) (by omega) ?_
      rw [rf2 c (by omega)]
      refine g_istore ok dX2_cellsWith_25 (ls1 := [some (.ref a), some (.int x), some (.int m), some (.ref cl), some (.int (nI 32)), some (.int (nI c)), some (.int (R (40 + c)))]) (dl rfl) rfl ?_
      refine g_iload_n ok dX2_cellsWith_27 rfl ?_
      refine g_iload ok dX2_cellsWith_28 rfl ?_
      refine g_iload_n ok dX2_cellsWith_30 rfl ?_
      refine g_icmp_ne ok (tgt := 38) dX2_cellsWith_31 (by decide) (fun c31 => ?_) (fun c31 => ?_)
      · refine g_iconst ok (v := 0) dX2_cellsWith_38 rfl ?_
        refine g_iadd ok dX2_cellsWith_39 ?_
        refine g_istore_n ok dX2_cellsWith_40 (ls1 := [some (.ref a), some (.int x), some (.int (m + 0)), some (.ref cl), some (.int (nI 32)), some (.int (nI c)), some (.int (R (40 + c)))]) (dl rfl) rfl ?_
        refine g_iincN ok dX2_cellsWith_41 (c := c) rfl rfl (ls1 := [some (.ref a), some (.int x), some (.int (m + 0)), some (.ref cl), some (.int (nI 32)), some (.int (nI (c + 1))), some (.int (R (40 + c)))]) rfl ?_
        refine g_goto ok dX2_cellsWith_44 (tgt := 14) (by decide) ?_
        refine g_drop 6 (ls1 := [some (.ref a), some (.int x), some (.int (m + 0)), some (.ref cl), some (.int (nI 32)), some (.int (nI (c + 1))), none]) rfl ?_
        exact ih (c + 1) (m + 0) _ _ (by omega) (by rw [← lph1, mal]; simp [c31]) qlp (glp) (by omega)
      · refine g_iconst ok (v := 1) dX2_cellsWith_34 rfl ?_
        refine g_goto ok dX2_cellsWith_35 (tgt := 39) (by decide) ?_
        refine g_iadd ok dX2_cellsWith_39 ?_
        refine g_istore_n ok dX2_cellsWith_40 (ls1 := [some (.ref a), some (.int x), some (.int (m + 1)), some (.ref cl), some (.int (nI 32)), some (.int (nI c)), some (.int (R (40 + c)))]) (dl rfl) rfl ?_
        refine g_iincN ok dX2_cellsWith_41 (c := c) rfl rfl (ls1 := [some (.ref a), some (.int x), some (.int (m + 1)), some (.ref cl), some (.int (nI 32)), some (.int (nI (c + 1))), some (.int (R (40 + c)))]) rfl ?_
        refine g_goto ok dX2_cellsWith_44 (tgt := 14) (by decide) ?_
        refine g_drop 6 (ls1 := [some (.ref a), some (.int x), some (.int (m + 1)), some (.ref cl), some (.int (nI 32)), some (.int (nI (c + 1))), none]) rfl ?_
        exact ih (c + 1) (m + 1) _ _ (by omega) (by rw [← lph1, mal]; simp [c31]) qlp (glp) (by omega)
  exact lp 32 0 0 _ _ (by omega) rfl q0 (Chg.refl _ _ _ _) (by omega)
theorem x_sumWith (l : Launch) (G : GE) (h : AH) (P : Nat → Prop) (a : Nat) (R : Nat → Int32) (rt cl nl vl : Nat) (i3 i4 i5 i0 i6 i7 : Int32) (q0 : RQ G h P a R rt cl [.ref nl, .ref vl, .int i3, .int i4, .int i5, .int i0, .int i6, .int i7]) (x : Int32) : GM l G yX2_sumWith (ws_ yX2_sumWith cX2_sumWith 4 (some .int)) 12 [.ref a, .int x] (h) (1540) (PR fun u h' => u = .int (wol R x 32 0 0) ∧ RQ G h' P a R rt cl [.ref nl, .ref vl, .int i3, .int i4, .int i5, .int i0, .int i6, .int i7] ∧ Chg P 0 32 h h') := by
  refine GM.of (by decide) (dk rfl) ?_
  intro X eL eG eh ok fn
  subst eL; subst eG
  show GW X _ 0 0 [some (.ref a), some (.int x), none, none] []
  obtain ⟨ra1, rT1, cf1, rc1, rf1⟩ := id q0
  refine g_iconst ok (v := 0) dX2_sumWith_0 rfl ?_
  refine g_istore_n ok dX2_sumWith_1 (ls1 := [some (.ref a), some (.int x), some (.int 0), none]) (dl rfl) rfl ?_
  refine g_iconst ok (v := 0) dX2_sumWith_2 rfl ?_
  refine g_istore_n ok dX2_sumWith_3 (ls1 := [some (.ref a), some (.int x), some (.int 0), some (.int 0)]) (dl rfl) rfl ?_
  have lp : ∀ (n : Nat) (c : Nat) (m : Int32) (Hlp : AH) (klp : Nat), (c + n = 32) → (wol R x n c m = wol R x 32 0 0) → (RQ X.G Hlp P a R rt cl [.ref nl, .ref vl, .int i3, .int i4, .int i5, .int i0, .int i6, .int i7]) → (Chg P 0 32 h Hlp) → (klp + 48 * n ≤ 1540) → GW X Hlp klp 4 [some (.ref a), some (.int x), some (.int m), some (.int (nI c))] [] := by
    intro n
    induction n with
    | zero => 
      intro c m Hlp klp lph0 lph1 qlp glp blp
      obtain ⟨ra2, rT2, cf2, rc2, rf2⟩ := id qlp
      refine g_iload_n ok dX2_sumWith_4 rfl ?_
      refine g_bipush ok (v := 32) dX2_sumWith_5 rfl ?_
      refine g_icmp_ge ok (tgt := 38) dX2_sumWith_7 (by decide) (fun _ => ?_) (fun c_ => absurd (nI_le (a := 32) (b := c) (by omega) (by omega)) c_)
      refine g_iload_n ok dX2_sumWith_38 rfl ?_
      exact g_iret ok fn rfl dX2_sumWith_39 ⟨_, rfl, congrArg Value.int lph1, qlp, glp⟩ (by omega)
    | succ n ih => 
      intro c m Hlp klp lph0 lph1 qlp glp blp
      obtain ⟨ra2, rT2, cf2, rc2, rf2⟩ := id qlp
      refine g_iload_n ok dX2_sumWith_4 rfl ?_
      refine g_bipush ok (v := 32) dX2_sumWith_5 rfl ?_
      refine g_icmp_ge ok (tgt := 38) dX2_sumWith_7 (by decide) (fun c_ => absurd c_ (nI_ge (a := c) (b := 32) (by omega) (by omega))) (fun _ => ?_)
      refine g_iload_n ok dX2_sumWith_10 rfl ?_
      refine g_aload_n ok dX2_sumWith_11 rfl ?_
      refine g_get ok ck_X2 1 q244 (Or.inl rfl) (by decide) dX2_sumWith_12 (Rd.h (ra2)) rfl ?_
      refine g_iload_n ok dX2_sumWith_15 rfl ?_
      refine g_iald ok (j := c) dX2_sumWith_16 (Rd.h (rc2)) rfl (by omega) (by omega) ?_
      rw [rf2 c (by omega)]
      refine g_iload_n ok dX2_sumWith_17 rfl ?_
      refine g_icmp_ne ok (tgt := 29) dX2_sumWith_18 (by decide) (fun c18 => ?_) (fun c18 => ?_)
      · refine g_iconst ok (v := 0) dX2_sumWith_29 rfl ?_
        refine g_iadd ok dX2_sumWith_30 ?_
        refine g_istore_n ok dX2_sumWith_31 (ls1 := [some (.ref a), some (.int x), some (.int (m + 0)), some (.int (nI c))]) (dl rfl) rfl ?_
        refine g_iincN ok dX2_sumWith_32 (c := c) rfl rfl (ls1 := [some (.ref a), some (.int x), some (.int (m + 0)), some (.int (nI (c + 1)))]) rfl ?_
        refine g_goto ok dX2_sumWith_35 (tgt := 4) (by decide) ?_
        exact ih (c + 1) (m + 0) _ _ (by omega) (by rw [← lph1, wol]; simp [c18]) qlp (glp) (by omega)
      · refine g_aload_n ok dX2_sumWith_21 rfl ?_
        refine g_iload_n ok dX2_sumWith_22 rfl ?_
        refine g_callV ok q1065 q1066 q1067 q62 q1068 (Recv.ob ok gc_X2 (Rd.h (ra2))) dX2_sumWith_23 (x_number X.l X.G _ P a R rt cl nl vl i3 i4 i5 i0 i6 i7 qlp c (by omega)) (nm_ (by decide : nmb _ 1 = true)) (dl rfl) (dk rfl) rfl rfl (dk rfl) (by omega) (kR fun u1_ h1_ ⟨e1_, q1_, g1_⟩ => ?_) xR
        subst e1_
        obtain ⟨ra3, rT3, cf3, rc3, rf3⟩ := id q1_
        refine g_goto ok dX2_sumWith_26 (tgt := 30) (by decide) ?_
        refine g_iadd ok dX2_sumWith_30 ?_
        refine g_istore_n ok dX2_sumWith_31 (ls1 := [some (.ref a), some (.int x), some (.int (m + (R (8 + c)))), some (.int (nI c))]) (dl rfl) rfl ?_
        refine g_iincN ok dX2_sumWith_32 (c := c) rfl rfl (ls1 := [some (.ref a), some (.int x), some (.int (m + (R (8 + c)))), some (.int (nI (c + 1)))]) rfl ?_
        refine g_goto ok dX2_sumWith_35 (tgt := 4) (by decide) ?_
        exact ih (c + 1) (m + (R (8 + c))) _ _ (by omega) (by rw [← lph1, wol]; simp [c18]) q1_ ((glp).trans g1_) (by omega)
  exact lp 32 0 0 _ _ (by omega) rfl q0 (Chg.refl _ _ _ _) (by omega)
theorem x_isAhead (l : Launch) (G : GE) (h : AH) (P : Nat → Prop) (a : Nat) (R : Nat → Int32) (rt cl nl vl : Nat) (i3 i4 i5 i0 i6 i7 : Int32) (q0 : RQ G h P a R rt cl [.ref nl, .ref vl, .int i3, .int i4, .int i5, .int i0, .int i6, .int i7]) (o t : Int32) : GM l G yX2_isAhead (ws_ yX2_isAhead cX2_isAhead 5 (some .boolean)) 13 [.ref a, .int o, .int t] (h) (3080) (PR fun u h' => u = .int (bI (ahd R o t)) ∧ RQ G h' P a R rt cl [.ref nl, .ref vl, .int i3, .int i4, .int i5, .int i0, .int i6, .int i7] ∧ Chg P 0 32 h h') := by
  refine GM.of (by decide) (dk rfl) ?_
  intro X eL eG eh ok fn
  subst eL; subst eG
  show GW X _ 0 0 [some (.ref a), some (.int o), some (.int t), none, none] []
  obtain ⟨ra1, rT1, cf1, rc1, rf1⟩ := id q0
  refine g_aload_n ok dX2_isAhead_0 rfl ?_
  refine g_iload_n ok dX2_isAhead_1 rfl ?_
  refine g_callV ok q1454 q1440 q1441 q62 q1442 (Recv.ob ok gc_X2 (Rd.h (ra1))) dX2_isAhead_2 (x_sumWith X.l X.G _ P a R rt cl nl vl i3 i4 i5 i0 i6 i7 q0 o) (nm_ (by decide : nmb _ 1 = true)) (dl rfl) (dk rfl) rfl rfl (dk rfl) (by omega) (kR fun u1_ h1_ ⟨e1_, q1_, g1_⟩ => ?_) xR
  subst e1_
  obtain ⟨ra2, rT2, cf2, rc2, rf2⟩ := id q1_
  refine g_aload_n ok dX2_isAhead_5 rfl ?_
  refine g_iload_n ok dX2_isAhead_6 rfl ?_
  refine g_callV ok q1454 q1440 q1441 q62 q1442 (Recv.ob ok gc_X2 (Rd.h (ra2))) dX2_isAhead_7 (x_sumWith X.l X.G _ P a R rt cl nl vl i3 i4 i5 i0 i6 i7 q1_ t) (nm_ (by decide : nmb _ 1 = true)) (dl rfl) (dk rfl) rfl rfl (dk rfl) (by omega) (kR fun u2_ h2_ ⟨e2_, q2_, g2_⟩ => ?_) xR
  subst e2_
  obtain ⟨ra3, rT3, cf3, rc3, rf3⟩ := id q2_
  refine g_isub ok dX2_isAhead_10 ?_
  refine g_istore_n ok dX2_isAhead_11 (ls1 := [some (.ref a), some (.int o), some (.int t), some (.int ((wol R o 32 0 0) - (wol R t 32 0 0))), none]) (dl rfl) rfl ?_
  refine g_aload_n ok dX2_isAhead_12 rfl ?_
  refine g_iload_n ok dX2_isAhead_13 rfl ?_
  refine g_callV ok q1455 q1456 q1457 q62 q1458 (Recv.ob ok gc_X2 (Rd.h (ra3))) dX2_isAhead_14 (x_cellsWith X.l X.G _ P a R rt cl nl vl i3 i4 i5 i0 i6 i7 q2_ o) (nm_ (by decide : nmb _ 1 = true)) (dl rfl) (dk rfl) rfl rfl (dk rfl) (by omega) (kR fun u3_ h3_ ⟨e3_, q3_, g3_⟩ => ?_) xR
  subst e3_
  obtain ⟨ra4, rT4, cf4, rc4, rf4⟩ := id q3_
  refine g_aload_n ok dX2_isAhead_17 rfl ?_
  refine g_iload_n ok dX2_isAhead_18 rfl ?_
  refine g_callV ok q1455 q1456 q1457 q62 q1458 (Recv.ob ok gc_X2 (Rd.h (ra4))) dX2_isAhead_19 (x_cellsWith X.l X.G _ P a R rt cl nl vl i3 i4 i5 i0 i6 i7 q3_ t) (nm_ (by decide : nmb _ 1 = true)) (dl rfl) (dk rfl) rfl rfl (dk rfl) (by omega) (kR fun u4_ h4_ ⟨e4_, q4_, g4_⟩ => ?_) xR
  subst e4_
  obtain ⟨ra5, rT5, cf5, rc5, rf5⟩ := id q4_
  refine g_isub ok dX2_isAhead_22 ?_
  refine g_istore ok dX2_isAhead_23 (ls1 := [some (.ref a), some (.int o), some (.int t), some (.int ((wol R o 32 0 0) - (wol R t 32 0 0))), some (.int ((mal R o 32 0 0) - (mal R t 32 0 0)))]) (dl rfl) rfl ?_
  refine g_iload_n ok dX2_isAhead_25 rfl ?_
  refine g_if_eq ok (tgt := 41) dX2_isAhead_26 (by decide) (fun c26 => ?_) (fun c26 => ?_)
  · refine g_iload ok dX2_isAhead_41 rfl ?_
    refine g_if_eq ok (tgt := 59) dX2_isAhead_43 (by decide) (fun c43 => ?_) (fun c43 => ?_)
    · refine g_iload_n ok dX2_isAhead_59 rfl ?_
      refine g_iload_n ok dX2_isAhead_60 rfl ?_
      refine g_icmp_ge ok (tgt := 68) dX2_isAhead_61 (by decide) (fun c61 => ?_) (fun c61 => ?_)
      · have c61' := Int32.not_lt.mpr c61
        refine g_iconst ok (v := 0) dX2_isAhead_68 rfl ?_
        exact g_zret ok fn rfl rfl dX2_isAhead_69 ⟨_, rfl, (by simp [ahd, bI, c26, c43, c61, c61']), q4_, ((((Chg.refl _ _ _ _).trans g1_).trans g2_).trans g3_).trans g4_⟩ (by omega)
      · have c61' := Int32.not_le.mp c61
        refine g_iconst ok (v := 1) dX2_isAhead_64 rfl ?_
        refine g_goto ok dX2_isAhead_65 (tgt := 69) (by decide) ?_
        exact g_zret ok fn rfl rfl dX2_isAhead_69 ⟨_, rfl, (by simp [ahd, bI, c26, c43, c61, c61']), q4_, ((((Chg.refl _ _ _ _).trans g1_).trans g2_).trans g3_).trans g4_⟩ (by omega)
    · refine g_iload ok dX2_isAhead_46 rfl ?_
      refine g_if_le ok (tgt := 55) dX2_isAhead_48 (by decide) (fun c48 => ?_) (fun c48 => ?_)
      · have c48' := Int32.not_lt.mpr c48
        refine g_iconst ok (v := 0) dX2_isAhead_55 rfl ?_
        refine g_goto ok dX2_isAhead_56 (tgt := 69) (by decide) ?_
        exact g_zret ok fn rfl rfl dX2_isAhead_69 ⟨_, rfl, (by simp [ahd, bI, c26, c43, c48, c48']), q4_, ((((Chg.refl _ _ _ _).trans g1_).trans g2_).trans g3_).trans g4_⟩ (by omega)
      · have c48' := Int32.not_le.mp c48
        refine g_iconst ok (v := 1) dX2_isAhead_51 rfl ?_
        refine g_goto ok dX2_isAhead_52 (tgt := 69) (by decide) ?_
        exact g_zret ok fn rfl rfl dX2_isAhead_69 ⟨_, rfl, (by simp [ahd, bI, c26, c43, c48, c48']), q4_, ((((Chg.refl _ _ _ _).trans g1_).trans g2_).trans g3_).trans g4_⟩ (by omega)
  · refine g_iload_n ok dX2_isAhead_29 rfl ?_
    refine g_if_le ok (tgt := 37) dX2_isAhead_30 (by decide) (fun c30 => ?_) (fun c30 => ?_)
    · have c30' := Int32.not_lt.mpr c30
      refine g_iconst ok (v := 0) dX2_isAhead_37 rfl ?_
      refine g_goto ok dX2_isAhead_38 (tgt := 69) (by decide) ?_
      exact g_zret ok fn rfl rfl dX2_isAhead_69 ⟨_, rfl, (by simp [ahd, bI, c26, c30, c30']), q4_, ((((Chg.refl _ _ _ _).trans g1_).trans g2_).trans g3_).trans g4_⟩ (by omega)
    · have c30' := Int32.not_le.mp c30
      refine g_iconst ok (v := 1) dX2_isAhead_33 rfl ?_
      refine g_goto ok dX2_isAhead_34 (tgt := 69) (by decide) ?_
      exact g_zret ok fn rfl rfl dX2_isAhead_69 ⟨_, rfl, (by simp [ahd, bI, c26, c30, c30']), q4_, ((((Chg.refl _ _ _ _).trans g1_).trans g2_).trans g3_).trans g4_⟩ (by omega)
theorem x_reach (l : Launch) (G : GE) (h : AH) (P : Nat → Prop) (a : Nat) (R : Nat → Int32) (rt cl nl vl : Nat) (i3 i4 i5 i0 i6 i7 : Int32) (q0 : RQ G h P a R rt cl [.ref nl, .ref vl, .int i3, .int i4, .int i5, .int i0, .int i6, .int i7]) (i : Nat) (x : Int32) (hi : i < 32) : GM l G yX2_reach (ws_ yX2_reach cX2_reach 5 (some .int)) 12 [.ref a, .int (nI i), .int x] (h) (1540) (PR fun u h' => u = .int (rcI (rel R x i (32 - i) i)) ∧ RQ G h' P a R rt cl [.ref nl, .ref vl, .int i3, .int i4, .int i5, .int i0, .int i6, .int i7] ∧ Chg P 0 32 h h') := by
  refine GM.of (by decide) (dk rfl) ?_
  intro X eL eG eh ok fn
  subst eL; subst eG
  show GW X _ 0 0 [some (.ref a), some (.int (nI i)), some (.int x), none, none] []
  obtain ⟨ra1, rT1, cf1, rc1, rf1⟩ := id q0
  refine g_iconst ok (v := 0) dX2_reach_0 rfl ?_
  refine g_istore_n ok dX2_reach_1 (ls1 := [some (.ref a), some (.int (nI i)), some (.int x), some (.int 0), none]) (dl rfl) rfl ?_
  refine g_iload_n ok dX2_reach_2 rfl ?_
  refine g_istore ok dX2_reach_3 (ls1 := [some (.ref a), some (.int (nI i)), some (.int x), some (.int 0), some (.int (nI i))]) (dl rfl) rfl ?_
  have zi : (0 : Int32) = sm R (i - i) i 0 := by rw [Nat.sub_self]; rfl
  rw [zi]
  have lp : ∀ (n : Nat) (c : Nat) (Hlp : AH) (klp : Nat), (c + n = 32) → (i ≤ c) → (rel R x i n c = rel R x i (32 - i) i) → (RQ X.G Hlp P a R rt cl [.ref nl, .ref vl, .int i3, .int i4, .int i5, .int i0, .int i6, .int i7]) → (Chg P 0 32 h Hlp) → (klp + 48 * n ≤ 1540) → GW X Hlp klp 5 [some (.ref a), some (.int (nI i)), some (.int x), some (.int (sm R (c - i) i 0)), some (.int (nI c))] [] := by
    intro n
    induction n with
    | zero => 
      intro c Hlp klp lph0 lph1 lph2 qlp glp blp
      obtain ⟨ra2, rT2, cf2, rc2, rf2⟩ := id qlp
      refine g_iload ok dX2_reach_5 rfl ?_
      refine g_bipush ok (v := 32) dX2_reach_7 rfl ?_
      refine g_icmp_ge ok (tgt := 35) dX2_reach_9 (by decide) (fun _ => ?_) (fun c_ => absurd (nI_le (a := 32) (b := c) (by omega) (by omega)) c_)
      refine g_iconst ok (v := -1) dX2_reach_35 rfl ?_
      exact g_iret ok fn rfl dX2_reach_36 ⟨_, rfl, congrArg Value.int (by rw [← lph2]; rfl), qlp, glp⟩ (by omega)
    | succ n ih => 
      intro c Hlp klp lph0 lph1 lph2 qlp glp blp
      obtain ⟨ra2, rT2, cf2, rc2, rf2⟩ := id qlp
      refine g_iload ok dX2_reach_5 rfl ?_
      refine g_bipush ok (v := 32) dX2_reach_7 rfl ?_
      refine g_icmp_ge ok (tgt := 35) dX2_reach_9 (by decide) (fun c_ => absurd c_ (nI_ge (a := c) (b := 32) (by omega) (by omega))) (fun _ => ?_)
      refine g_iload_n ok dX2_reach_12 rfl ?_
      refine g_aload_n ok dX2_reach_13 rfl ?_
      refine g_iload ok dX2_reach_14 rfl ?_
      refine g_callV ok q1065 q1066 q1067 q62 q1068 (Recv.ob ok gc_X2 (Rd.h (ra2))) dX2_reach_16 (x_number X.l X.G _ P a R rt cl nl vl i3 i4 i5 i0 i6 i7 qlp c (by omega)) (nm_ (by decide : nmb _ 1 = true)) (dl rfl) (dk rfl) rfl rfl (dk rfl) (by omega) (kR fun u1_ h1_ ⟨e1_, q1_, g1_⟩ => ?_) xR
      subst e1_
      obtain ⟨ra3, rT3, cf3, rc3, rf3⟩ := id q1_
      refine g_iadd ok dX2_reach_19 ?_
      rw [sm_step lph1]
      refine g_istore_n ok dX2_reach_20 (ls1 := [some (.ref a), some (.int (nI i)), some (.int x), some (.int (sm R (c + 1 - i) i 0)), some (.int (nI c))]) (dl rfl) rfl ?_
      refine g_iload_n ok dX2_reach_21 rfl ?_
      refine g_iload_n ok dX2_reach_22 rfl ?_
      refine g_icmp_lt ok (tgt := 29) dX2_reach_23 (by decide) (fun c23 => ?_) (fun c23 => ?_)
      · have c23' := Int32.not_le.mpr c23
        refine g_iincN ok dX2_reach_29 (c := c) rfl rfl (ls1 := [some (.ref a), some (.int (nI i)), some (.int x), some (.int (sm R (c + 1 - i) i 0)), some (.int (nI (c + 1)))]) rfl ?_
        refine g_goto ok dX2_reach_32 (tgt := 5) (by decide) ?_
        exact ih (c + 1) _ _ (by omega) (by omega) (by rw [← lph2, rel, if_pos (by simp [c23, c23'])]) q1_ ((glp).trans g1_) (by omega)
      · have c23' := Int32.not_lt.mp c23
        refine g_iload ok dX2_reach_26 rfl ?_
        exact g_iret ok fn rfl dX2_reach_28 ⟨_, rfl, congrArg Value.int (by rw [← lph2, rel, if_neg (by simp [c23, c23'])]; rfl), q1_, (glp).trans g1_⟩ (by omega)
  exact lp (32 - i) i _ _ (by omega) (by omega) rfl q0 (Chg.refl _ _ _ _) (by omega)
theorem x_best (l : Launch) (G : GE) (h : AH) (P : Nat → Prop) (a : Nat) (R : Nat → Int32) (rt cl nl vl : Nat) (i3 i4 i5 i0 i6 i7 : Int32) (q0 : RQ G h P a R rt cl [.ref nl, .ref vl, .int i3, .int i4, .int i5, .int i0, .int i6, .int i7]) (i j : Nat) (hij : i ≤ j) (hj : j < 32) : GM l G yX2_best (ws_ yX2_best cX2_best 7 (some .int)) 12 [.ref a, .int (nI i), .int (nI j)] (h) (1540) (PR fun u h' => u = .int (kdl R (j - i) (i + 1) (R (8 + i)) (R (8 + i))) ∧ RQ G h' P a R rt cl [.ref nl, .ref vl, .int i3, .int i4, .int i5, .int i0, .int i6, .int i7] ∧ Chg P 0 32 h h') := by
  refine GM.of (by decide) (dk rfl) ?_
  intro X eL eG eh ok fn
  subst eL; subst eG
  show GW X _ 0 0 [some (.ref a), some (.int (nI i)), some (.int (nI j)), none, none, none, none] []
  obtain ⟨ra1, rT1, cf1, rc1, rf1⟩ := id q0
  refine g_aload_n ok dX2_best_0 rfl ?_
  refine g_iload_n ok dX2_best_1 rfl ?_
  refine g_callV ok q1065 q1066 q1067 q62 q1068 (Recv.ob ok gc_X2 (Rd.h (ra1))) dX2_best_2 (x_number X.l X.G _ P a R rt cl nl vl i3 i4 i5 i0 i6 i7 q0 i (by omega)) (nm_ (by decide : nmb _ 1 = true)) (dl rfl) (dk rfl) rfl rfl (dk rfl) (by omega) (kR fun u1_ h1_ ⟨e1_, q1_, g1_⟩ => ?_) xR
  subst e1_
  obtain ⟨ra2, rT2, cf2, rc2, rf2⟩ := id q1_
  refine g_istore_n ok dX2_best_5 (ls1 := [some (.ref a), some (.int (nI i)), some (.int (nI j)), some (.int (R (8 + i))), none, none, none]) (dl rfl) rfl ?_
  refine g_iload_n ok dX2_best_6 rfl ?_
  refine g_istore ok dX2_best_7 (ls1 := [some (.ref a), some (.int (nI i)), some (.int (nI j)), some (.int (R (8 + i))), some (.int (R (8 + i))), none, none]) (dl rfl) rfl ?_
  refine g_iload_n ok dX2_best_9 rfl ?_
  refine g_iconst ok (v := 1) dX2_best_10 rfl ?_
  refine g_iaddN ok dX2_best_11 (c := (i + 1)) (a := i) (b := 1) rfl rfl rfl ?_
  refine g_istore ok dX2_best_12 (ls1 := [some (.ref a), some (.int (nI i)), some (.int (nI j)), some (.int (R (8 + i))), some (.int (R (8 + i))), some (.int (nI (i + 1))), none]) (dl rfl) rfl ?_
  have lp : ∀ (n : Nat) (c : Nat) (e : Int32) (m : Int32) (Hlp : AH) (klp : Nat), (c + n = j + 1) → (kdl R n c e m = kdl R (j - i) (i + 1) (R (8 + i)) (R (8 + i))) → (RQ X.G Hlp P a R rt cl [.ref nl, .ref vl, .int i3, .int i4, .int i5, .int i0, .int i6, .int i7]) → (Chg P 0 32 h Hlp) → (klp + 48 * n ≤ 1540) → GW X Hlp klp 14 [some (.ref a), some (.int (nI i)), some (.int (nI j)), some (.int m), some (.int e), some (.int (nI c)), none] [] := by
    intro n
    induction n with
    | zero => 
      intro c e m Hlp klp lph0 lph1 qlp glp blp
      obtain ⟨ra3, rT3, cf3, rc3, rf3⟩ := id qlp
      refine g_iload ok dX2_best_14 rfl ?_
      refine g_iload_n ok dX2_best_16 rfl ?_
      refine g_icmp_gt ok (tgt := 53) dX2_best_17 (by decide) (fun _ => ?_) (fun c_ => absurd (nI_lt (a := j) (b := c) (by omega) (by omega)) c_)
      refine g_iload_n ok dX2_best_53 rfl ?_
      exact g_iret ok fn rfl dX2_best_54 ⟨_, rfl, congrArg Value.int lph1, qlp, glp⟩ (by omega)
    | succ n ih => 
      intro c e m Hlp klp lph0 lph1 qlp glp blp
      obtain ⟨ra3, rT3, cf3, rc3, rf3⟩ := id qlp
      refine g_iload ok dX2_best_14 rfl ?_
      refine g_iload_n ok dX2_best_16 rfl ?_
      refine g_icmp_gt ok (tgt := 53) dX2_best_17 (by decide) (fun c_ => absurd c_ (nI_nlt (a := j) (b := c) (by omega) (by omega))) (fun _ => ?_)
      refine g_aload_n ok dX2_best_20 rfl ?_
      refine g_iload ok dX2_best_21 rfl ?_
      refine g_callV ok q1065 q1066 q1067 q62 q1068 (Recv.ob ok gc_X2 (Rd.h (ra3))) dX2_best_23 (x_number X.l X.G _ P a R rt cl nl vl i3 i4 i5 i0 i6 i7 qlp c (by omega)) (nm_ (by decide : nmb _ 1 = true)) (dl rfl) (dk rfl) rfl rfl (dk rfl) (by omega) (kR fun u2_ h2_ ⟨e2_, q2_, g2_⟩ => ?_) xR
      subst e2_
      obtain ⟨ra4, rT4, cf4, rc4, rf4⟩ := id q2_
      refine g_istore ok dX2_best_26 (ls1 := [some (.ref a), some (.int (nI i)), some (.int (nI j)), some (.int m), some (.int e), some (.int (nI c)), some (.int (R (8 + c)))]) (dl rfl) rfl ?_
      refine g_iload ok dX2_best_28 rfl ?_
      refine g_iload ok dX2_best_30 rfl ?_
      refine g_iload ok dX2_best_32 rfl ?_
      refine g_iadd ok dX2_best_34 ?_
      refine g_max ok q1330 q576 q90 q577 dX2_best_35 (dk rfl) rfl (dk rfl) (by omega) ?_
      refine g_istore ok dX2_best_38 (ls1 := [some (.ref a), some (.int (nI i)), some (.int (nI j)), some (.int m), some (.int (if (R (8 + c)) < (e + (R (8 + c))) then (e + (R (8 + c))) else (R (8 + c)))), some (.int (nI c)), some (.int (R (8 + c)))]) (dl rfl) rfl ?_
      refine g_iload_n ok dX2_best_40 rfl ?_
      refine g_iload ok dX2_best_41 rfl ?_
      refine g_max ok q1330 q576 q90 q577 dX2_best_43 (dk rfl) rfl (dk rfl) (by omega) ?_
      refine g_istore_n ok dX2_best_46 (ls1 := [some (.ref a), some (.int (nI i)), some (.int (nI j)), some (.int (if m < (if (R (8 + c)) < (e + (R (8 + c))) then (e + (R (8 + c))) else (R (8 + c))) then (if (R (8 + c)) < (e + (R (8 + c))) then (e + (R (8 + c))) else (R (8 + c))) else m)), some (.int (if (R (8 + c)) < (e + (R (8 + c))) then (e + (R (8 + c))) else (R (8 + c)))), some (.int (nI c)), some (.int (R (8 + c)))]) (dl rfl) rfl ?_
      refine g_iincN ok dX2_best_47 (c := c) rfl rfl (ls1 := [some (.ref a), some (.int (nI i)), some (.int (nI j)), some (.int (if m < (if (R (8 + c)) < (e + (R (8 + c))) then (e + (R (8 + c))) else (R (8 + c))) then (if (R (8 + c)) < (e + (R (8 + c))) then (e + (R (8 + c))) else (R (8 + c))) else m)), some (.int (if (R (8 + c)) < (e + (R (8 + c))) then (e + (R (8 + c))) else (R (8 + c)))), some (.int (nI (c + 1))), some (.int (R (8 + c)))]) rfl ?_
      refine g_goto ok dX2_best_50 (tgt := 14) (by decide) ?_
      refine g_drop 6 (ls1 := [some (.ref a), some (.int (nI i)), some (.int (nI j)), some (.int (if m < (if (R (8 + c)) < (e + (R (8 + c))) then (e + (R (8 + c))) else (R (8 + c))) then (if (R (8 + c)) < (e + (R (8 + c))) then (e + (R (8 + c))) else (R (8 + c))) else m)), some (.int (if (R (8 + c)) < (e + (R (8 + c))) then (e + (R (8 + c))) else (R (8 + c)))), some (.int (nI (c + 1))), none]) rfl ?_
      exact ih (c + 1) (if (R (8 + c)) < (e + (R (8 + c))) then (e + (R (8 + c))) else (R (8 + c))) (if m < (if (R (8 + c)) < (e + (R (8 + c))) then (e + (R (8 + c))) else (R (8 + c))) then (if (R (8 + c)) < (e + (R (8 + c))) then (e + (R (8 + c))) else (R (8 + c))) else m) _ _ (by omega) (by rw [← lph1]; rfl) q2_ ((glp).trans g2_) (by omega)
  exact lp (j - i) (i + 1) _ _ _ _ (by omega) rfl q1_ g1_ (by omega)
theorem x_bestAgain (l : Launch) (G : GE) (h : AH) (P : Nat → Prop) (a : Nat) (R : Nat → Int32) (rt cl nl vl : Nat) (i3 i4 i5 i0 i6 i7 : Int32) (q0 : RQ G h P a R rt cl [.ref nl, .ref vl, .int i3, .int i4, .int i5, .int i0, .int i6, .int i7]) (i j : Nat) (hij : i ≤ j) (hj : j < 32) : GM l G yX2_bestAgain (ws_ yX2_bestAgain cX2_bestAgain 7 (some .int)) 12 [.ref a, .int (nI i), .int (nI j)] (h) (25344) (PR fun u h' => u = .int (bao R j (j + 1 - i) i (-31968)) ∧ RQ G h' P a R rt cl [.ref nl, .ref vl, .int i3, .int i4, .int i5, .int i0, .int i6, .int i7] ∧ Chg P 0 32 h h') := by
  refine GM.of (by decide) (dk rfl) ?_
  intro X eL eG eh ok fn
  subst eL; subst eG
  show GW X _ 0 0 [some (.ref a), some (.int (nI i)), some (.int (nI j)), none, none, none, none] []
  obtain ⟨ra1, rT1, cf1, rc1, rf1⟩ := id q0
  refine g_sipush ok (v := -31968) dX2_bestAgain_0 rfl ?_
  refine g_istore_n ok dX2_bestAgain_3 (ls1 := [some (.ref a), some (.int (nI i)), some (.int (nI j)), some (.int (-31968)), none, none, none]) (dl rfl) rfl ?_
  refine g_iload_n ok dX2_bestAgain_4 rfl ?_
  refine g_istore ok dX2_bestAgain_5 (ls1 := [some (.ref a), some (.int (nI i)), some (.int (nI j)), some (.int (-31968)), some (.int (nI i)), none, none]) (dl rfl) rfl ?_
  have tl := tri_le (j + 1 - i) (by omega)
  have lp : ∀ (n : Nat) (c : Nat) (m : Int32) (Hlp : AH) (klp : Nat), (c + n = j + 1) → (bao R j n c m = bao R j (j + 1 - i) i (-31968)) → (RQ X.G Hlp P a R rt cl [.ref nl, .ref vl, .int i3, .int i4, .int i5, .int i0, .int i6, .int i7]) → (Chg P 0 32 h Hlp) → (klp + 48 * tri n ≤ 25344) → GW X Hlp klp 7 [some (.ref a), some (.int (nI i)), some (.int (nI j)), some (.int m), some (.int (nI c)), none, none] [] := by
    intro n
    induction n with
    | zero => 
      intro c m Hlp klp lph0 lph1 qlp glp blp
      obtain ⟨ra2, rT2, cf2, rc2, rf2⟩ := id qlp
      refine g_iload ok dX2_bestAgain_7 rfl ?_
      refine g_iload_n ok dX2_bestAgain_9 rfl ?_
      refine g_icmp_gt ok (tgt := 56) dX2_bestAgain_10 (by decide) (fun _ => ?_) (fun c_ => absurd (nI_lt (a := j) (b := c) (by omega) (by omega)) c_)
      refine g_iload_n ok dX2_bestAgain_56 rfl ?_
      exact g_iret ok fn rfl dX2_bestAgain_57 ⟨_, rfl, congrArg Value.int lph1, qlp, glp⟩ (by omega)
    | succ n ih => 
      intro c m Hlp klp lph0 lph1 qlp glp blp
      obtain ⟨ra2, rT2, cf2, rc2, rf2⟩ := id qlp
      refine g_iload ok dX2_bestAgain_7 rfl ?_
      refine g_iload_n ok dX2_bestAgain_9 rfl ?_
      refine g_icmp_gt ok (tgt := 56) dX2_bestAgain_10 (by decide) (fun c_ => absurd c_ (nI_nlt (a := j) (b := c) (by omega) (by omega))) (fun _ => ?_)
      refine g_iconst ok (v := 0) dX2_bestAgain_13 rfl ?_
      refine g_istore ok dX2_bestAgain_14 (ls1 := [some (.ref a), some (.int (nI i)), some (.int (nI j)), some (.int m), some (.int (nI c)), some (.int 0), none]) (dl rfl) rfl ?_
      refine g_iload ok dX2_bestAgain_16 rfl ?_
      refine g_istore ok dX2_bestAgain_18 (ls1 := [some (.ref a), some (.int (nI i)), some (.int (nI j)), some (.int m), some (.int (nI c)), some (.int 0), some (.int (nI c))]) (dl rfl) rfl ?_
      have ts := tri_s n
      have lp2 : ∀ (n2 : Nat) (d : Nat) (s : Int32) (m2 : Int32) (Hlp2 : AH) (klp2 : Nat), (d + n2 = j + 1) → (bai R n2 d s m2 = bai R (j + 1 - c) c 0 m) → (RQ X.G Hlp2 P a R rt cl [.ref nl, .ref vl, .int i3, .int i4, .int i5, .int i0, .int i6, .int i7]) → (Chg P 0 32 h Hlp2) → (klp2 + 48 * n2 + 48 * tri n ≤ 25344) → GW X Hlp2 klp2 20 [some (.ref a), some (.int (nI i)), some (.int (nI j)), some (.int m2), some (.int (nI c)), some (.int s), some (.int (nI d))] [] := by
        intro n2
        induction n2 with
        | zero => 
          intro d s m2 Hlp2 klp2 lp2h0 lp2h1 qlp2 glp2 blp2
          obtain ⟨ra3, rT3, cf3, rc3, rf3⟩ := id qlp2
          refine g_iload ok dX2_bestAgain_20 rfl ?_
          refine g_iload_n ok dX2_bestAgain_22 rfl ?_
          refine g_icmp_gt ok (tgt := 50) dX2_bestAgain_23 (by decide) (fun _ => ?_) (fun c_ => absurd (nI_lt (a := j) (b := d) (by omega) (by omega)) c_)
          refine g_iincN ok dX2_bestAgain_50 (c := c) rfl rfl (ls1 := [some (.ref a), some (.int (nI i)), some (.int (nI j)), some (.int m2), some (.int (nI (c + 1))), some (.int s), some (.int (nI d))]) rfl ?_
          refine g_goto ok dX2_bestAgain_53 (tgt := 7) (by decide) ?_
          refine g_drop 5 (ls1 := [some (.ref a), some (.int (nI i)), some (.int (nI j)), some (.int m2), some (.int (nI (c + 1))), none, some (.int (nI d))]) rfl ?_
          refine g_drop 6 (ls1 := [some (.ref a), some (.int (nI i)), some (.int (nI j)), some (.int m2), some (.int (nI (c + 1))), none, none]) rfl ?_
          exact ih (c + 1) m2 _ _ (by omega) (by rw [← lph1, bao, ← lp2h1]; rfl) qlp2 (glp2) (by omega)
        | succ n2 ih2 => 
          intro d s m2 Hlp2 klp2 lp2h0 lp2h1 qlp2 glp2 blp2
          obtain ⟨ra3, rT3, cf3, rc3, rf3⟩ := id qlp2
          refine g_iload ok dX2_bestAgain_20 rfl ?_
          refine g_iload_n ok dX2_bestAgain_22 rfl ?_
          refine g_icmp_gt ok (tgt := 50) dX2_bestAgain_23 (by decide) (fun c_ => absurd c_ (nI_nlt (a := j) (b := d) (by omega) (by omega))) (fun _ => ?_)
          refine g_iload ok dX2_bestAgain_26 rfl ?_
          refine g_aload_n ok dX2_bestAgain_28 rfl ?_
          refine g_iload ok dX2_bestAgain_29 rfl ?_
          refine g_callV ok q1065 q1066 q1067 q62 q1068 (Recv.ob ok gc_X2 (Rd.h (ra3))) dX2_bestAgain_31 (x_number X.l X.G _ P a R rt cl nl vl i3 i4 i5 i0 i6 i7 qlp2 d (by omega)) (nm_ (by decide : nmb _ 1 = true)) (dl rfl) (dk rfl) rfl rfl (dk rfl) (by omega) (kR fun u1_ h1_ ⟨e1_, q1_, g1_⟩ => ?_) xR
          subst e1_
          obtain ⟨ra4, rT4, cf4, rc4, rf4⟩ := id q1_
          refine g_iadd ok dX2_bestAgain_34 ?_
          refine g_istore ok dX2_bestAgain_35 (ls1 := [some (.ref a), some (.int (nI i)), some (.int (nI j)), some (.int m2), some (.int (nI c)), some (.int (s + (R (8 + d)))), some (.int (nI d))]) (dl rfl) rfl ?_
          refine g_iload_n ok dX2_bestAgain_37 rfl ?_
          refine g_iload ok dX2_bestAgain_38 rfl ?_
          refine g_max ok q1330 q576 q90 q577 dX2_bestAgain_40 (dk rfl) rfl (dk rfl) (by omega) ?_
          refine g_istore_n ok dX2_bestAgain_43 (ls1 := [some (.ref a), some (.int (nI i)), some (.int (nI j)), some (.int (if m2 < (s + (R (8 + d))) then (s + (R (8 + d))) else m2)), some (.int (nI c)), some (.int (s + (R (8 + d)))), some (.int (nI d))]) (dl rfl) rfl ?_
          refine g_iincN ok dX2_bestAgain_44 (c := d) rfl rfl (ls1 := [some (.ref a), some (.int (nI i)), some (.int (nI j)), some (.int (if m2 < (s + (R (8 + d))) then (s + (R (8 + d))) else m2)), some (.int (nI c)), some (.int (s + (R (8 + d)))), some (.int (nI (d + 1)))]) rfl ?_
          refine g_goto ok dX2_bestAgain_47 (tgt := 20) (by decide) ?_
          exact ih2 (d + 1) (s + (R (8 + d))) (if m2 < (s + (R (8 + d))) then (s + (R (8 + d))) else m2) _ _ (by omega) (by rw [← lp2h1]; rfl) q1_ ((glp2).trans g1_) (by omega)
      exact lp2 (j + 1 - c) c 0 m _ _ (by omega) rfl qlp glp (by omega)
  exact lp (j + 1 - i) i _ _ _ (by omega) rfl q0 (Chg.refl _ _ _ _) (by omega)
