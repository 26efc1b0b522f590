/-! THE MODEL: what its methods compute, 1 -/
set_option maxRecDepth 100000
abbrev cX8_thrown : ByteArray := prog_19_method_2_code
def yX8_thrown : MethodName := ⟨RX8, "thrown", "()I"⟩
theorem dX8_thrown_0 : decode cX8_thrown 0 = .ok (.aload_n 0, 1) := by decide +kernel
theorem dX8_thrown_1 : decode cX8_thrown 1 = .ok (.getfield 45, 3) := by decide +kernel
theorem dX8_thrown_4 : decode cX8_thrown 4 = .ok (.ireturn, 1) := by decide +kernel
abbrev cX8_raises : ByteArray := prog_19_method_3_code
def yX8_raises : MethodName := ⟨RX8, "raises", "(I)I"⟩
def dkwX8_raises_0 : List UInt8 := [42, 27, 181, 0, 45, 3, 172]
abbrev dktX8_raises_0 : List UInt8 := dkwX8_raises_0 ++ []
theorem dksX8_raises_0 : cX8_raises.data.toList.drop 0 = dktX8_raises_0 := by decide +kernel
theorem dX8_raises_0 : decode cX8_raises 0 = .ok (.aload_n 0, 1) := dk_42 (dk_at dksX8_raises_0 0 rfl rfl)
theorem dX8_raises_1 : decode cX8_raises 1 = .ok (.iload_n 1, 1) := dk_27 (dk_at dksX8_raises_0 1 rfl rfl)
theorem dX8_raises_2 : decode cX8_raises 2 = .ok (.putfield 45, 3) := dk_181 0 45 (dk_at dksX8_raises_0 2 rfl rfl)
theorem dX8_raises_5 : decode cX8_raises 5 = .ok (.iconst 0, 1) := dk_3 (dk_at dksX8_raises_0 5 rfl rfl)
theorem dX8_raises_6 : decode cX8_raises 6 = .ok (.ireturn, 1) := dk_172 (dk_at dksX8_raises_0 6 rfl rfl)
abbrev cX8_in : ByteArray := prog_19_method_4_code
def yX8_in : MethodName := ⟨RX8, "in", "(III)Z"⟩
def dkwX8_in_0 : List UInt8 := [26, 27, 161, 0, 12, 26, 28, 163, 0, 7, 4, 167, 0, 4, 3, 172]
abbrev dktX8_in_0 : List UInt8 := dkwX8_in_0 ++ []
theorem dksX8_in_0 : cX8_in.data.toList.drop 0 = dktX8_in_0 := by decide +kernel
theorem dX8_in_0 : decode cX8_in 0 = .ok (.iload_n 0, 1) := dk_26 (dk_at dksX8_in_0 0 rfl rfl)
theorem dX8_in_1 : decode cX8_in 1 = .ok (.iload_n 1, 1) := dk_27 (dk_at dksX8_in_0 1 rfl rfl)
theorem dX8_in_2 : decode cX8_in 2 = .ok (.if_icmp .lt 12, 3) := dk_161 0 12 (dk_at dksX8_in_0 2 rfl rfl)
theorem dX8_in_5 : decode cX8_in 5 = .ok (.iload_n 0, 1) := dk_26 (dk_at dksX8_in_0 5 rfl rfl)
theorem dX8_in_6 : decode cX8_in 6 = .ok (.iload_n 2, 1) := dk_28 (dk_at dksX8_in_0 6 rfl rfl)
theorem dX8_in_7 : decode cX8_in 7 = .ok (.if_icmp .gt 7, 3) := dk_163 0 7 (dk_at dksX8_in_0 7 rfl rfl)
theorem dX8_in_10 : decode cX8_in 10 = .ok (.iconst 1, 1) := dk_4 (dk_at dksX8_in_0 10 rfl rfl)
theorem dX8_in_11 : decode cX8_in 11 = .ok (.goto 4, 3) := dk_167 0 4 (dk_at dksX8_in_0 11 rfl rfl)
theorem dX8_in_14 : decode cX8_in 14 = .ok (.iconst 0, 1) := dk_3 (dk_at dksX8_in_0 14 rfl rfl)
theorem dX8_in_15 : decode cX8_in 15 = .ok (.ireturn, 1) := dk_172 (dk_at dksX8_in_0 15 rfl rfl)
abbrev cX8_tries : ByteArray := prog_19_method_5_code
def yX8_tries : MethodName := ⟨RX8, "tries", "()V"⟩
def dkwX8_tries_1 : List UInt8 := [46, 79, 132, 1, 1, 167, 255, 234, 177]
abbrev dktX8_tries_1 : List UInt8 := dkwX8_tries_1 ++ []
def dkwX8_tries_0 : List UInt8 := [42, 3, 181, 0, 45, 3, 60, 27, 17, 1, 186, 162, 0, 21, 42, 180, 0, 13, 27, 42, 180, 0, 9, 27]
abbrev dktX8_tries_0 : List UInt8 := dkwX8_tries_0 ++ dktX8_tries_1
theorem dksX8_tries_0 : cX8_tries.data.toList.drop 0 = dktX8_tries_0 := by decide +kernel
theorem dksX8_tries_1 : cX8_tries.data.toList.drop 24 = dktX8_tries_1 := dk_seg dksX8_tries_0 24 rfl rfl
theorem dX8_tries_0 : decode cX8_tries 0 = .ok (.aload_n 0, 1) := dk_42 (dk_at dksX8_tries_0 0 rfl rfl)
theorem dX8_tries_1 : decode cX8_tries 1 = .ok (.iconst 0, 1) := dk_3 (dk_at dksX8_tries_0 1 rfl rfl)
theorem dX8_tries_2 : decode cX8_tries 2 = .ok (.putfield 45, 3) := dk_181 0 45 (dk_at dksX8_tries_0 2 rfl rfl)
theorem dX8_tries_5 : decode cX8_tries 5 = .ok (.iconst 0, 1) := dk_3 (dk_at dksX8_tries_0 5 rfl rfl)
theorem dX8_tries_6 : decode cX8_tries 6 = .ok (.istore_n 1, 1) := dk_60 (dk_at dksX8_tries_0 6 rfl rfl)
theorem dX8_tries_7 : decode cX8_tries 7 = .ok (.iload_n 1, 1) := dk_27 (dk_at dksX8_tries_0 7 rfl rfl)
theorem dX8_tries_8 : decode cX8_tries 8 = .ok (.sipush 442, 3) := dk_17 1 186 (dk_at dksX8_tries_0 8 rfl rfl)
theorem dX8_tries_11 : decode cX8_tries 11 = .ok (.if_icmp .ge 21, 3) := dk_162 0 21 (dk_at dksX8_tries_0 11 rfl rfl)
theorem dX8_tries_14 : decode cX8_tries 14 = .ok (.aload_n 0, 1) := dk_42 (dk_at dksX8_tries_0 14 rfl rfl)
theorem dX8_tries_15 : decode cX8_tries 15 = .ok (.getfield 13, 3) := dk_180 0 13 (dk_at dksX8_tries_0 15 rfl rfl)
theorem dX8_tries_18 : decode cX8_tries 18 = .ok (.iload_n 1, 1) := dk_27 (dk_at dksX8_tries_0 18 rfl rfl)
theorem dX8_tries_19 : decode cX8_tries 19 = .ok (.aload_n 0, 1) := dk_42 (dk_at dksX8_tries_0 19 rfl rfl)
theorem dX8_tries_20 : decode cX8_tries 20 = .ok (.getfield 9, 3) := dk_180 0 9 (dk_at dksX8_tries_0 20 rfl rfl)
theorem dX8_tries_23 : decode cX8_tries 23 = .ok (.iload_n 1, 1) := dk_27 (dk_at dksX8_tries_0 23 rfl rfl)
theorem dX8_tries_24 : decode cX8_tries 24 = .ok (.iaload, 1) := dk_46 (dk_at dksX8_tries_1 0 rfl rfl)
theorem dX8_tries_25 : decode cX8_tries 25 = .ok (.iastore, 1) := dk_79 (dk_at dksX8_tries_1 1 rfl rfl)
theorem dX8_tries_26 : decode cX8_tries 26 = .ok (.iinc 1 1, 3) := dk_132 1 1 (dk_at dksX8_tries_1 2 rfl rfl)
theorem dX8_tries_29 : decode cX8_tries 29 = .ok (.goto (-22), 3) := dk_167 255 234 (dk_at dksX8_tries_1 5 rfl rfl)
theorem dX8_tries_32 : decode cX8_tries 32 = .ok (.return_, 1) := dk_177 (dk_at dksX8_tries_1 8 rfl rfl)
abbrev cX8_comesBack : ByteArray := prog_19_method_6_code
def yX8_comesBack : MethodName := ⟨RX8, "comesBack", "()V"⟩
def dkwX8_comesBack_1 : List UInt8 := [167, 255, 234, 177]
abbrev dktX8_comesBack_1 : List UInt8 := dkwX8_comesBack_1 ++ []
def dkwX8_comesBack_0 : List UInt8 := [3, 60, 27, 17, 1, 186, 162, 0, 21, 42, 180, 0, 9, 27, 42, 180, 0, 13, 27, 46, 79, 132, 1, 1]
abbrev dktX8_comesBack_0 : List UInt8 := dkwX8_comesBack_0 ++ dktX8_comesBack_1
theorem dksX8_comesBack_0 : cX8_comesBack.data.toList.drop 0 = dktX8_comesBack_0 := by decide +kernel
theorem dksX8_comesBack_1 : cX8_comesBack.data.toList.drop 24 = dktX8_comesBack_1 := dk_seg dksX8_comesBack_0 24 rfl rfl
theorem dX8_comesBack_0 : decode cX8_comesBack 0 = .ok (.iconst 0, 1) := dk_3 (dk_at dksX8_comesBack_0 0 rfl rfl)
theorem dX8_comesBack_1 : decode cX8_comesBack 1 = .ok (.istore_n 1, 1) := dk_60 (dk_at dksX8_comesBack_0 1 rfl rfl)
theorem dX8_comesBack_2 : decode cX8_comesBack 2 = .ok (.iload_n 1, 1) := dk_27 (dk_at dksX8_comesBack_0 2 rfl rfl)
theorem dX8_comesBack_3 : decode cX8_comesBack 3 = .ok (.sipush 442, 3) := dk_17 1 186 (dk_at dksX8_comesBack_0 3 rfl rfl)
theorem dX8_comesBack_6 : decode cX8_comesBack 6 = .ok (.if_icmp .ge 21, 3) := dk_162 0 21 (dk_at dksX8_comesBack_0 6 rfl rfl)
theorem dX8_comesBack_9 : decode cX8_comesBack 9 = .ok (.aload_n 0, 1) := dk_42 (dk_at dksX8_comesBack_0 9 rfl rfl)
theorem dX8_comesBack_10 : decode cX8_comesBack 10 = .ok (.getfield 9, 3) := dk_180 0 9 (dk_at dksX8_comesBack_0 10 rfl rfl)
theorem dX8_comesBack_13 : decode cX8_comesBack 13 = .ok (.iload_n 1, 1) := dk_27 (dk_at dksX8_comesBack_0 13 rfl rfl)
theorem dX8_comesBack_14 : decode cX8_comesBack 14 = .ok (.aload_n 0, 1) := dk_42 (dk_at dksX8_comesBack_0 14 rfl rfl)
theorem dX8_comesBack_15 : decode cX8_comesBack 15 = .ok (.getfield 13, 3) := dk_180 0 13 (dk_at dksX8_comesBack_0 15 rfl rfl)
theorem dX8_comesBack_18 : decode cX8_comesBack 18 = .ok (.iload_n 1, 1) := dk_27 (dk_at dksX8_comesBack_0 18 rfl rfl)
theorem dX8_comesBack_19 : decode cX8_comesBack 19 = .ok (.iaload, 1) := dk_46 (dk_at dksX8_comesBack_0 19 rfl rfl)
theorem dX8_comesBack_20 : decode cX8_comesBack 20 = .ok (.iastore, 1) := dk_79 (dk_at dksX8_comesBack_0 20 rfl rfl)
theorem dX8_comesBack_21 : decode cX8_comesBack 21 = .ok (.iinc 1 1, 3) := dk_132 1 1 (dk_at dksX8_comesBack_0 21 rfl rfl)
theorem dX8_comesBack_24 : decode cX8_comesBack 24 = .ok (.goto (-22), 3) := dk_167 255 234 (dk_at dksX8_comesBack_1 0 rfl rfl)
theorem dX8_comesBack_27 : decode cX8_comesBack 27 = .ok (.return_, 1) := dk_177 (dk_at dksX8_comesBack_1 3 rfl rfl)
abbrev cX8_keeps : ByteArray := prog_19_method_7_code
def yX8_keeps : MethodName := ⟨RX8, "keeps", "(I)I"⟩
def dkwX8_keeps_4 : List UInt8 := [181, 0, 48, 27, 172]
abbrev dktX8_keeps_4 : List UInt8 := dkwX8_keeps_4 ++ []
def dkwX8_keeps_3 : List UInt8 := [28, 96, 42, 180, 0, 13, 28, 46, 79, 132, 2, 1, 167, 255, 225, 42, 89, 180, 0, 48, 4, 96]
abbrev dktX8_keeps_3 : List UInt8 := dkwX8_keeps_3 ++ dktX8_keeps_4
def dkwX8_keeps_2 : List UInt8 := [181, 0, 48, 3, 61, 28, 17, 1, 186, 162, 0, 30, 42, 180, 0, 19, 17, 1, 186, 42, 180, 0, 48, 104]
abbrev dktX8_keeps_2 : List UInt8 := dkwX8_keeps_2 ++ dktX8_keeps_3
def dkwX8_keeps_1 : List UInt8 := [180, 0, 19, 17, 1, 186, 28, 96, 46, 79, 132, 2, 1, 167, 255, 230, 42, 89, 180, 0, 48, 4, 100]
abbrev dktX8_keeps_1 : List UInt8 := dkwX8_keeps_1 ++ dktX8_keeps_2
def dkwX8_keeps_0 : List UInt8 := [42, 180, 0, 48, 16, 6, 160, 0, 44, 3, 61, 28, 17, 8, 162, 162, 0, 25, 42, 180, 0, 19, 28, 42]
abbrev dktX8_keeps_0 : List UInt8 := dkwX8_keeps_0 ++ dktX8_keeps_1
theorem dksX8_keeps_0 : cX8_keeps.data.toList.drop 0 = dktX8_keeps_0 := by decide +kernel
theorem dksX8_keeps_1 : cX8_keeps.data.toList.drop 24 = dktX8_keeps_1 := dk_seg dksX8_keeps_0 24 rfl rfl
theorem dksX8_keeps_2 : cX8_keeps.data.toList.drop 47 = dktX8_keeps_2 := dk_seg dksX8_keeps_1 23 rfl rfl
theorem dksX8_keeps_3 : cX8_keeps.data.toList.drop 71 = dktX8_keeps_3 := dk_seg dksX8_keeps_2 24 rfl rfl
theorem dksX8_keeps_4 : cX8_keeps.data.toList.drop 93 = dktX8_keeps_4 := dk_seg dksX8_keeps_3 22 rfl rfl
theorem dX8_keeps_0 : decode cX8_keeps 0 = .ok (.aload_n 0, 1) := dk_42 (dk_at dksX8_keeps_0 0 rfl rfl)
theorem dX8_keeps_1 : decode cX8_keeps 1 = .ok (.getfield 48, 3) := dk_180 0 48 (dk_at dksX8_keeps_0 1 rfl rfl)
theorem dX8_keeps_4 : decode cX8_keeps 4 = .ok (.bipush 6, 2) := dk_16 6 (dk_at dksX8_keeps_0 4 rfl rfl)
theorem dX8_keeps_6 : decode cX8_keeps 6 = .ok (.if_icmp .ne 44, 3) := dk_160 0 44 (dk_at dksX8_keeps_0 6 rfl rfl)
theorem dX8_keeps_9 : decode cX8_keeps 9 = .ok (.iconst 0, 1) := dk_3 (dk_at dksX8_keeps_0 9 rfl rfl)
theorem dX8_keeps_10 : decode cX8_keeps 10 = .ok (.istore_n 2, 1) := dk_61 (dk_at dksX8_keeps_0 10 rfl rfl)
theorem dX8_keeps_11 : decode cX8_keeps 11 = .ok (.iload_n 2, 1) := dk_28 (dk_at dksX8_keeps_0 11 rfl rfl)
theorem dX8_keeps_12 : decode cX8_keeps 12 = .ok (.sipush 2210, 3) := dk_17 8 162 (dk_at dksX8_keeps_0 12 rfl rfl)
theorem dX8_keeps_15 : decode cX8_keeps 15 = .ok (.if_icmp .ge 25, 3) := dk_162 0 25 (dk_at dksX8_keeps_0 15 rfl rfl)
theorem dX8_keeps_18 : decode cX8_keeps 18 = .ok (.aload_n 0, 1) := dk_42 (dk_at dksX8_keeps_0 18 rfl rfl)
theorem dX8_keeps_19 : decode cX8_keeps 19 = .ok (.getfield 19, 3) := dk_180 0 19 (dk_at dksX8_keeps_0 19 rfl rfl)
theorem dX8_keeps_22 : decode cX8_keeps 22 = .ok (.iload_n 2, 1) := dk_28 (dk_at dksX8_keeps_0 22 rfl rfl)
theorem dX8_keeps_23 : decode cX8_keeps 23 = .ok (.aload_n 0, 1) := dk_42 (dk_at dksX8_keeps_0 23 rfl rfl)
theorem dX8_keeps_24 : decode cX8_keeps 24 = .ok (.getfield 19, 3) := dk_180 0 19 (dk_at dksX8_keeps_1 0 rfl rfl)
theorem dX8_keeps_27 : decode cX8_keeps 27 = .ok (.sipush 442, 3) := dk_17 1 186 (dk_at dksX8_keeps_1 3 rfl rfl)
theorem dX8_keeps_30 : decode cX8_keeps 30 = .ok (.iload_n 2, 1) := dk_28 (dk_at dksX8_keeps_1 6 rfl rfl)
theorem dX8_keeps_31 : decode cX8_keeps 31 = .ok (.iadd, 1) := dk_96 (dk_at dksX8_keeps_1 7 rfl rfl)
theorem dX8_keeps_32 : decode cX8_keeps 32 = .ok (.iaload, 1) := dk_46 (dk_at dksX8_keeps_1 8 rfl rfl)
theorem dX8_keeps_33 : decode cX8_keeps 33 = .ok (.iastore, 1) := dk_79 (dk_at dksX8_keeps_1 9 rfl rfl)
theorem dX8_keeps_34 : decode cX8_keeps 34 = .ok (.iinc 2 1, 3) := dk_132 2 1 (dk_at dksX8_keeps_1 10 rfl rfl)
theorem dX8_keeps_37 : decode cX8_keeps 37 = .ok (.goto (-26), 3) := dk_167 255 230 (dk_at dksX8_keeps_1 13 rfl rfl)
theorem dX8_keeps_40 : decode cX8_keeps 40 = .ok (.aload_n 0, 1) := dk_42 (dk_at dksX8_keeps_1 16 rfl rfl)
theorem dX8_keeps_41 : decode cX8_keeps 41 = .ok (.dup, 1) := dk_89 (dk_at dksX8_keeps_1 17 rfl rfl)
theorem dX8_keeps_42 : decode cX8_keeps 42 = .ok (.getfield 48, 3) := dk_180 0 48 (dk_at dksX8_keeps_1 18 rfl rfl)
theorem dX8_keeps_45 : decode cX8_keeps 45 = .ok (.iconst 1, 1) := dk_4 (dk_at dksX8_keeps_1 21 rfl rfl)
theorem dX8_keeps_46 : decode cX8_keeps 46 = .ok (.isub, 1) := dk_100 (dk_at dksX8_keeps_1 22 rfl rfl)
theorem dX8_keeps_47 : decode cX8_keeps 47 = .ok (.putfield 48, 3) := dk_181 0 48 (dk_at dksX8_keeps_2 0 rfl rfl)
theorem dX8_keeps_50 : decode cX8_keeps 50 = .ok (.iconst 0, 1) := dk_3 (dk_at dksX8_keeps_2 3 rfl rfl)
theorem dX8_keeps_51 : decode cX8_keeps 51 = .ok (.istore_n 2, 1) := dk_61 (dk_at dksX8_keeps_2 4 rfl rfl)
theorem dX8_keeps_52 : decode cX8_keeps 52 = .ok (.iload_n 2, 1) := dk_28 (dk_at dksX8_keeps_2 5 rfl rfl)
theorem dX8_keeps_53 : decode cX8_keeps 53 = .ok (.sipush 442, 3) := dk_17 1 186 (dk_at dksX8_keeps_2 6 rfl rfl)
theorem dX8_keeps_56 : decode cX8_keeps 56 = .ok (.if_icmp .ge 30, 3) := dk_162 0 30 (dk_at dksX8_keeps_2 9 rfl rfl)
theorem dX8_keeps_59 : decode cX8_keeps 59 = .ok (.aload_n 0, 1) := dk_42 (dk_at dksX8_keeps_2 12 rfl rfl)
theorem dX8_keeps_60 : decode cX8_keeps 60 = .ok (.getfield 19, 3) := dk_180 0 19 (dk_at dksX8_keeps_2 13 rfl rfl)
theorem dX8_keeps_63 : decode cX8_keeps 63 = .ok (.sipush 442, 3) := dk_17 1 186 (dk_at dksX8_keeps_2 16 rfl rfl)
theorem dX8_keeps_66 : decode cX8_keeps 66 = .ok (.aload_n 0, 1) := dk_42 (dk_at dksX8_keeps_2 19 rfl rfl)
theorem dX8_keeps_67 : decode cX8_keeps 67 = .ok (.getfield 48, 3) := dk_180 0 48 (dk_at dksX8_keeps_2 20 rfl rfl)
theorem dX8_keeps_70 : decode cX8_keeps 70 = .ok (.imul, 1) := dk_104 (dk_at dksX8_keeps_2 23 rfl rfl)
theorem dX8_keeps_71 : decode cX8_keeps 71 = .ok (.iload_n 2, 1) := dk_28 (dk_at dksX8_keeps_3 0 rfl rfl)
theorem dX8_keeps_72 : decode cX8_keeps 72 = .ok (.iadd, 1) := dk_96 (dk_at dksX8_keeps_3 1 rfl rfl)
theorem dX8_keeps_73 : decode cX8_keeps 73 = .ok (.aload_n 0, 1) := dk_42 (dk_at dksX8_keeps_3 2 rfl rfl)
theorem dX8_keeps_74 : decode cX8_keeps 74 = .ok (.getfield 13, 3) := dk_180 0 13 (dk_at dksX8_keeps_3 3 rfl rfl)
theorem dX8_keeps_77 : decode cX8_keeps 77 = .ok (.iload_n 2, 1) := dk_28 (dk_at dksX8_keeps_3 6 rfl rfl)
theorem dX8_keeps_78 : decode cX8_keeps 78 = .ok (.iaload, 1) := dk_46 (dk_at dksX8_keeps_3 7 rfl rfl)
theorem dX8_keeps_79 : decode cX8_keeps 79 = .ok (.iastore, 1) := dk_79 (dk_at dksX8_keeps_3 8 rfl rfl)
theorem dX8_keeps_80 : decode cX8_keeps 80 = .ok (.iinc 2 1, 3) := dk_132 2 1 (dk_at dksX8_keeps_3 9 rfl rfl)
theorem dX8_keeps_83 : decode cX8_keeps 83 = .ok (.goto (-31), 3) := dk_167 255 225 (dk_at dksX8_keeps_3 12 rfl rfl)
theorem dX8_keeps_86 : decode cX8_keeps 86 = .ok (.aload_n 0, 1) := dk_42 (dk_at dksX8_keeps_3 15 rfl rfl)
theorem dX8_keeps_87 : decode cX8_keeps 87 = .ok (.dup, 1) := dk_89 (dk_at dksX8_keeps_3 16 rfl rfl)
theorem dX8_keeps_88 : decode cX8_keeps 88 = .ok (.getfield 48, 3) := dk_180 0 48 (dk_at dksX8_keeps_3 17 rfl rfl)
theorem dX8_keeps_91 : decode cX8_keeps 91 = .ok (.iconst 1, 1) := dk_4 (dk_at dksX8_keeps_3 20 rfl rfl)
theorem dX8_keeps_92 : decode cX8_keeps 92 = .ok (.iadd, 1) := dk_96 (dk_at dksX8_keeps_3 21 rfl rfl)
theorem dX8_keeps_93 : decode cX8_keeps 93 = .ok (.putfield 48, 3) := dk_181 0 48 (dk_at dksX8_keeps_4 0 rfl rfl)
theorem dX8_keeps_96 : decode cX8_keeps 96 = .ok (.iload_n 1, 1) := dk_27 (dk_at dksX8_keeps_4 3 rfl rfl)
theorem dX8_keeps_97 : decode cX8_keeps 97 = .ok (.ireturn, 1) := dk_172 (dk_at dksX8_keeps_4 4 rfl rfl)
theorem q2255 : (Jvm.Cond.fieldLink "SpanRulerModel" (45 : Nat) "SpanRulerModel" "thrown" "I") ∈ lw_all := lw_g (lw_at lw_m10 35 rfl) rfl
theorem q2236 : (Jvm.Cond.fieldLink "SpanRulerModel" (13 : Nat) "SpanRulerModel" "tried" "[I") ∈ lw_all := lw_g (lw_at lw_m10 16 rfl) rfl
theorem q2235 : (Jvm.Cond.fieldLink "SpanRulerModel" (9 : Nat) "SpanRulerModel" "now" "[I") ∈ lw_all := lw_g (lw_at lw_m10 15 rfl) rfl
theorem q2239 : (Jvm.Cond.fieldLink "SpanRulerModel" (48 : Nat) "SpanRulerModel" "undos" "I") ∈ lw_all := lw_g (lw_at lw_m10 19 rfl) rfl
theorem q2238 : (Jvm.Cond.fieldLink "SpanRulerModel" (19 : Nat) "SpanRulerModel" "kept" "[I") ∈ lw_all := lw_g (lw_at lw_m10 18 rfl) rfl
/-! what the model's methods compute: loops as forward recursions -/
def inR (v lo hi : Int32) : Bool := decide (lo ≤ v) && decide (v ≤ hi)
def isC (c : Int32) : Bool := inR c 0 31
def isSp (a b : Int32) : Bool := isC a && isC b && decide (a ≤ b)
def isCo (c : Int32) : Bool := inR c 0 3
def isNu (k n : Int32) : Bool := if k = 0 then inR n (-99) 99 else if k = 1 then inR n (-999) 999 else decide (n = 0)
abbrev nn (x : Int32) : Nat := x.toNatClampNeg
def mby (k w n : Int32) : Int32 := if k = 0 then w + n else if k = 1 then n else -w
def sm (R : Nat → Int32) : Nat → Nat → Int32 → Int32
  | 0, _, acc => acc
  | n + 1, c, acc => sm R n (c + 1) (acc + R (8 + c))
def lvF (R : Nat → Int32) (k x : Int32) : Nat → Nat → Int32
  | 0, _ => -1
  | n + 1, c => cond (inR (mby k (R (8 + c)) x) (-999) 999) (lvF R k x n (c + 1)) (nI c)
def acl (k x : Int32) : Nat → Nat → MS → MS
  | 0, _, t => t
  | n + 1, c, t => acl k x n (c + 1) (mA t 0 (8 + c) (mby k (t.A 0 (8 + c)) x))
def cpl (k1 o1 k2 o2 : Nat) : Nat → Nat → MS → MS
  | 0, _, t => t
  | n + 1, c, t => cpl k1 o1 k2 o2 n (c + 1) (mA t k1 (o1 + c) (t.A k2 (o2 + c)))
theorem cpl_z {k1 k2 n c : Nat} {t F : MS} (h : cpl k1 0 k2 0 (n + 1) c t = F) : cpl k1 0 k2 0 n (c + 1) (mA t k1 c (t.A k2 c)) = F := by
  have e : cpl k1 0 k2 0 n (c + 1) (mA t k1 (0 + c) (t.A k2 (0 + c))) = F := h
  rw [Nat.zero_add] at e; exact e
theorem cpl_z1 {k1 k2 o2 n c : Nat} {t F : MS} (h : cpl k1 0 k2 o2 (n + 1) c t = F) : cpl k1 0 k2 o2 n (c + 1) (mA t k1 c (t.A k2 (o2 + c))) = F := by
  have e : cpl k1 0 k2 o2 n (c + 1) (mA t k1 (0 + c) (t.A k2 (o2 + c))) = F := h
  rw [Nat.zero_add] at e; exact e
theorem cpl_z2 {k1 o1 k2 n c : Nat} {t F : MS} (h : cpl k1 o1 k2 0 (n + 1) c t = F) : cpl k1 o1 k2 0 n (c + 1) (mA t k1 (o1 + c) (t.A k2 c)) = F := by
  have e : cpl k1 o1 k2 0 n (c + 1) (mA t k1 (o1 + c) (t.A k2 (0 + c))) = F := h
  rw [Nat.zero_add] at e; exact e
def mTries (s : MS) : MS := cpl 1 0 0 0 442 0 (mI s 20 0)
def mBack (s : MS) : MS := cpl 0 0 1 0 442 0 s
def mU (s : MS) : Nat := nn (s.I 4)
def mUo (s : MS) : Prop := s.I 4 = nI (mU s) ∧ mU s ≤ 6
def mKeeps (s : MS) : MS := if mU s = 6 then mI (cpl 3 2210 1 0 442 0 (mI (cpl 3 0 3 442 2210 0 s) 4 (nI 5))) 4 (nI 6) else mI (cpl 3 (442 * mU s) 1 0 442 0 s) 4 (nI (mU s + 1))
def mEnds (s : MS) (is : Int32) : Int32 × MS := if is = 0 then (s.I 19, mKeeps s) else (0, mI s 20 is)
def mRef (s : MS) (why more : Int32) : MS := mI (mI s 15 why) 16 more
def sp (a b : Int32) : Nat := nn b + 1 - nn a
def mSum (s : MS) (a n : Nat) : Int32 := sm (s.A 0) n a 0
def mActs (k x : Int32) (n c : Nat) (s : MS) : MS := mA (acl k x n c s) 0 6 ((acl k x n c s).A 0 6 + 1)
def mAdds (s : MS) (a b x : Int32) : Int32 × MS := if isSp a b = true ∧ isNu 0 x = true then (if 0 ≤ lvF (s.A 0) 0 x (sp a b) (nn a) then (2, mRef s 2 (lvF (s.A 0) 0 x (sp a b) (nn a))) else (0, mI (mActs 0 x (sp a b) (nn a) s) 19 (mSum (mActs 0 x (sp a b) (nn a) s) (nn a) (sp a b)))) else (1, s)
def mAdd (s : MS) (a b x : Int32) : Int32 × MS := mEnds (mAdds (mTries s) a b x).2 (mAdds (mTries s) a b x).1
def mSets (s : MS) (a b x : Int32) : Int32 × MS := if isSp a b = true ∧ isNu 1 x = true then (0, mI (mActs 1 x (sp a b) (nn a) s) 19 (mSum s (nn a) (sp a b))) else (1, s)
def mSet (s : MS) (a b x : Int32) : Int32 × MS := mEnds (mSets (mTries s) a b x).2 (mSets (mTries s) a b x).1
def mTurns (s : MS) (a b : Int32) : Int32 × MS := if isSp a b = true then (0, mI (mActs 2 0 (sp a b) (nn a) s) 19 (mSum (mActs 2 0 (sp a b) (nn a) s) (nn a) (sp a b))) else (1, s)
def mTurn (s : MS) (a b : Int32) : Int32 × MS := mEnds (mTurns (mTries s) a b).2 (mTurns (mTries s) a b).1
/-- painting: how many, and the state -/
def pal (x : Int32) : Nat → Nat → Int32 → MS → Int32 × MS
  | 0, _, m, t => (m, t)
  | n + 1, c, m, t => pal x n (c + 1) (if t.A 0 (40 + c) = x then m else m + 1) (mA t 0 (40 + c) x)
def mPaints (s : MS) (a b x : Int32) : Int32 × MS := if isSp a b = true ∧ isCo x = true then (0, mI (mA (pal x (sp a b) (nn a) 0 s).2 0 7 ((pal x (sp a b) (nn a) 0 s).2.A 0 7 + (pal x (sp a b) (nn a) 0 s).1)) 19 (pal x (sp a b) (nn a) 0 s).1) else (1, s)
def mPaint (s : MS) (a b x : Int32) : Int32 × MS := mEnds (mPaints (mTries s) a b x).2 (mPaints (mTries s) a b x).1
theorem inR_i {v lo hi : Int32} : inR v lo hi = true ↔ lo ≤ v ∧ v ≤ hi := by simp [inR]
theorem isC_n {a : Int32} (h : isC a = true) : a = nI (nn a) ∧ nn a < 32 := by
  obtain ⟨a1, a2⟩ := inR_i.mp h
  obtain ⟨i, hi, rfl⟩ := nI_of2 (M := 31) (n := 31) rfl (Int32.not_lt.mpr a1) a2
  simp only [nn]
  rw [nI_clamp (by omega)]
  exact ⟨rfl, by omega⟩
theorem isSp_n {a b : Int32} (h : isSp a b = true) : a = nI (nn a) ∧ b = nI (nn b) ∧ nn a ≤ nn b ∧ nn b < 32 := by
  simp only [isSp, Bool.and_eq_true, decide_eq_true_eq] at h
  obtain ⟨⟨h1, h2⟩, h3⟩ := h
  obtain ⟨e1, l1⟩ := isC_n h1
  obtain ⟨e2, l2⟩ := isC_n h2
  rw [e1, e2, nI_leI (by omega) (by omega)] at h3
  exact ⟨e1, e2, h3, l2⟩
theorem nn_nI {i : Nat} (h : i < 2 ^ 31) : nn (nI i) = i := nI_clamp h
theorem isSp_nI {i j : Nat} (h : i ≤ j) (hj : j < 32) : isSp (nI i) (nI j) = true := by
  have l : ∀ q : Nat, q < 32 → isC (nI q) = true := fun q hq => inR_i.mpr ⟨nI_pos' (by omega), (nI_le (a := q) (b := 31) (by omega) (by omega))⟩
  simp only [isSp, l i (by omega), l j hj, Bool.true_and, decide_eq_true_eq]
  exact nI_le h (by omega)
theorem isC_nI {q : Nat} (hq : q < 32) : isC (nI q) = true := inR_i.mpr ⟨nI_pos' (by omega), (nI_le (a := q) (b := 31) (by omega) (by omega))⟩
theorem mUo_I {s t : MS} (h : t.I 4 = s.I 4) (x : mUo s) : mUo t := by
  unfold mUo mU at *; rw [h]; exact x
theorem m_thrown (l : Launch) (G : GE) {h0 : AH} {ad : Nat → Nat} (hA : MAd ad) (s : MS)  : GM l G yX8_thrown (ws_ yX8_thrown cX8_thrown 1 (some .int)) 1 [.ref (ad 20)] (mput G h0 ad s) (0) (PV (.int (MS.I s 20)) (mput G h0 ad s)) := by
  refine GM.of (by decide) (dk rfl) ?_
  intro X eL eG eh ok fn
  subst eL; subst eG
  show GW X _ 0 0 [some (.ref (ad 20))] []
  refine g_aload_n ok dX8_thrown_0 rfl ?_
  refine m_get ok hA 20 q2255 (by decide) dX8_thrown_1 (v := .int (MS.I s 20)) rfl ?_
  exact g_iret ok fn rfl dX8_thrown_4 (pv_i rfl rfl) (dk rfl)
theorem m_raises (l : Launch) (G : GE) {h0 : AH} {ad : Nat → Nat} (hA : MAd ad) (s : MS) (v : Int32) : GM l G yX8_raises (ws_ yX8_raises cX8_raises 2 (some .int)) 1 [.ref (ad 20), .int v] (mput G h0 ad s) (0) (PV (.int 0) (mput G h0 ad (mI s 20 v))) := by
  refine GM.of (by decide) (dk rfl) ?_
  intro X eL eG eh ok fn
  subst eL; subst eG
  show GW X _ 0 0 [some (.ref (ad 20)), some (.int v)] []
  refine g_aload_n ok dX8_raises_0 rfl ?_
  refine g_iload_n ok dX8_raises_1 rfl ?_
  refine m_put ok hA 20 q2255 (by decide) dX8_raises_2 ⟨rfl, rfl⟩ ?_
  refine g_iconst ok (v := 0) dX8_raises_5 rfl ?_
  exact g_iret ok fn rfl dX8_raises_6 (pv_i rfl rfl) (dk rfl)
theorem m_in (l : Launch) (G : GE) (h : AH) (v : Int32) (lo : Int32) (hi : Int32) : GM l G yX8_in (ws_ yX8_in cX8_in 3 (some .boolean)) 1 [.int v, .int lo, .int hi] (h) (0) (PV (.int (bI (inR v lo hi))) h) := by
  refine GM.of (by decide) (dk rfl) ?_
  intro X eL eG eh ok fn
  subst eL; subst eG
  show GW X _ 0 0 [some (.int v), some (.int lo), some (.int hi)] []
  refine g_iload_n ok dX8_in_0 rfl ?_
  refine g_iload_n ok dX8_in_1 rfl ?_
  refine g_icmp_lt ok (tgt := 14) dX8_in_2 (by decide) (fun c2 => ?_) (fun c2 => ?_)
  · have c2' := Int32.not_le.mpr c2
    refine g_iconst ok (v := 0) dX8_in_14 rfl ?_
    exact g_zret ok fn rfl rfl dX8_in_15 (pv_h (by simp [bI, inR, c2, c2'])) (dk rfl)
  · have c2' := Int32.not_lt.mp c2
    refine g_iload_n ok dX8_in_5 rfl ?_
    refine g_iload_n ok dX8_in_6 rfl ?_
    refine g_icmp_gt ok (tgt := 14) dX8_in_7 (by decide) (fun c7 => ?_) (fun c7 => ?_)
    · have c7' := Int32.not_le.mpr c7
      refine g_iconst ok (v := 0) dX8_in_14 rfl ?_
      exact g_zret ok fn rfl rfl dX8_in_15 (pv_h (by simp [bI, inR, c2, c2', c7, c7'])) (dk rfl)
    · have c7' := Int32.not_lt.mp c7
      refine g_iconst ok (v := 1) dX8_in_10 rfl ?_
      refine g_goto ok dX8_in_11 (tgt := 15) (by decide) ?_
      exact g_zret ok fn rfl rfl dX8_in_15 (pv_h (by simp [bI, inR, c2, c2', c7, c7'])) (dk rfl)
theorem m_tries (l : Launch) (G : GE) {h0 : AH} {ad : Nat → Nat} (hA : MAd ad) (s : MS)  : GM l G yX8_tries (ws_ yX8_tries cX8_tries 2 none) 1 [.ref (ad 20)] (mput G h0 ad s) (0) (PN (mput G h0 ad (mTries s))) := by
  refine GM.of (by decide) (dk rfl) ?_
  intro X eL eG eh ok fn
  subst eL; subst eG
  show GW X _ 0 0 [some (.ref (ad 20)), none] []
  refine g_aload_n ok dX8_tries_0 rfl ?_
  refine g_iconst ok (v := 0) dX8_tries_1 rfl ?_
  refine m_put ok hA 20 q2255 (by decide) dX8_tries_2 ⟨rfl, rfl⟩ ?_
  refine g_iconst ok (v := 0) dX8_tries_5 rfl ?_
  refine g_istore_n ok dX8_tries_6 (ls1 := [some (.ref (ad 20)), some (.int 0)]) (dl rfl) rfl ?_
  have lp : ∀ (n : Nat) (c : Nat) (t : MS), (c + n = 442) → (cpl 1 0 0 0 n c t = cpl 1 0 0 0 442 0 (mI s 20 0)) → GW X (mput X.G h0 ad t) 0 7 [some (.ref (ad 20)), some (.int (nI c))] [] := by
    intro n
    induction n with
    | zero =>
      intro c t g0 g1
      refine g_iload_n ok dX8_tries_7 rfl ?_
      refine g_sipush ok (v := 442) dX8_tries_8 rfl ?_
      refine g_icmp_ge ok (tgt := 32) dX8_tries_11 (by decide) (fun _ => ?_) (fun c_ => absurd (nI_le (a := 442) (b := c) (by omega) (by omega)) c_)
      have g1 : t = cpl 1 0 0 0 442 0 (mI s 20 0) := g1
      subst g1
      have g0 : c = 442 := by omega
      subst g0
      exact g_vret ok fn rfl dX8_tries_32 (pn_i rfl) (dk rfl)
    | succ n ih =>
      intro c t g0 g1
      refine g_iload_n ok dX8_tries_7 rfl ?_
      refine g_sipush ok (v := 442) dX8_tries_8 rfl ?_
      refine g_icmp_ge ok (tgt := 32) dX8_tries_11 (by decide) (fun c_ => absurd c_ (nI_ge (a := c) (b := 442) (by omega) (by omega))) (fun _ => ?_)
      refine g_aload_n ok dX8_tries_14 rfl ?_
      refine m_get ok hA 1 q2236 (by decide) dX8_tries_15 (v := .ref (ad 1)) rfl ?_
      refine g_iload_n ok dX8_tries_18 rfl ?_
      refine g_aload_n ok dX8_tries_19 rfl ?_
      refine m_get ok hA 0 q2235 (by decide) dX8_tries_20 (v := .ref (ad 0)) rfl ?_
      refine g_iload_n ok dX8_tries_23 rfl ?_
      refine m_ald ok hA 0 c (v := (MS.A t 0 c)) (by decide) dX8_tries_24 rfl (by simp only [mlen]; omega) rfl ?_
      refine m_ast ok hA 1 c (by decide) dX8_tries_25 rfl (by simp only [mlen]; omega) ?_
      refine g_iincN ok dX8_tries_26 (c := c) rfl rfl (ls1 := [some (.ref (ad 20)), some (.int (nI (c + 1)))]) rfl ?_
      refine g_goto ok dX8_tries_29 (tgt := 7) (by decide) ?_
      exact ih _ _ (by omega) (cpl_z g1)
  exact lp 442 0 _ (by omega) rfl
theorem m_comesBack (l : Launch) (G : GE) {h0 : AH} {ad : Nat → Nat} (hA : MAd ad) (s : MS)  : GM l G yX8_comesBack (ws_ yX8_comesBack cX8_comesBack 2 none) 1 [.ref (ad 20)] (mput G h0 ad s) (0) (PN (mput G h0 ad (mBack s))) := by
  refine GM.of (by decide) (dk rfl) ?_
  intro X eL eG eh ok fn
  subst eL; subst eG
  show GW X _ 0 0 [some (.ref (ad 20)), none] []
  refine g_iconst ok (v := 0) dX8_comesBack_0 rfl ?_
  refine g_istore_n ok dX8_comesBack_1 (ls1 := [some (.ref (ad 20)), some (.int 0)]) (dl rfl) rfl ?_
  have lp : ∀ (n : Nat) (c : Nat) (t : MS), (c + n = 442) → (cpl 0 0 1 0 n c t = cpl 0 0 1 0 442 0 s) → GW X (mput X.G h0 ad t) 0 2 [some (.ref (ad 20)), some (.int (nI c))] [] := by
    intro n
    induction n with
    | zero =>
      intro c t g0 g1
      refine g_iload_n ok dX8_comesBack_2 rfl ?_
      refine g_sipush ok (v := 442) dX8_comesBack_3 rfl ?_
      refine g_icmp_ge ok (tgt := 27) dX8_comesBack_6 (by decide) (fun _ => ?_) (fun c_ => absurd (nI_le (a := 442) (b := c) (by omega) (by omega)) c_)
      have g1 : t = cpl 0 0 1 0 442 0 s := g1
      subst g1
      have g0 : c = 442 := by omega
      subst g0
      exact g_vret ok fn rfl dX8_comesBack_27 (pn_i rfl) (dk rfl)
    | succ n ih =>
      intro c t g0 g1
      refine g_iload_n ok dX8_comesBack_2 rfl ?_
      refine g_sipush ok (v := 442) dX8_comesBack_3 rfl ?_
      refine g_icmp_ge ok (tgt := 27) dX8_comesBack_6 (by decide) (fun c_ => absurd c_ (nI_ge (a := c) (b := 442) (by omega) (by omega))) (fun _ => ?_)
      refine g_aload_n ok dX8_comesBack_9 rfl ?_
      refine m_get ok hA 0 q2235 (by decide) dX8_comesBack_10 (v := .ref (ad 0)) rfl ?_
      refine g_iload_n ok dX8_comesBack_13 rfl ?_
      refine g_aload_n ok dX8_comesBack_14 rfl ?_
      refine m_get ok hA 1 q2236 (by decide) dX8_comesBack_15 (v := .ref (ad 1)) rfl ?_
      refine g_iload_n ok dX8_comesBack_18 rfl ?_
      refine m_ald ok hA 1 c (v := (MS.A t 1 c)) (by decide) dX8_comesBack_19 rfl (by simp only [mlen]; omega) rfl ?_
      refine m_ast ok hA 0 c (by decide) dX8_comesBack_20 rfl (by simp only [mlen]; omega) ?_
      refine g_iincN ok dX8_comesBack_21 (c := c) rfl rfl (ls1 := [some (.ref (ad 20)), some (.int (nI (c + 1)))]) rfl ?_
      refine g_goto ok dX8_comesBack_24 (tgt := 2) (by decide) ?_
      exact ih _ _ (by omega) (cpl_z g1)
  exact lp 442 0 _ (by omega) rfl
theorem cpl_I (k1 o1 k2 o2 : Nat) : ∀ (n c : Nat) (t : MS) (i : Nat), (cpl k1 o1 k2 o2 n c t).I i = t.I i := by
  intro n
  induction n with
  | zero => intro c t i; rfl
  | succ n ih => intro c t i; exact (ih _ _ i).trans rfl
theorem cpl_w (k1 o1 k2 o2 : Nat) : ∀ (n c : Nat) (t : MS), (cpl k1 o1 k2 o2 n c t).w = t.w := by
  intro n
  induction n with
  | zero => intro c t; rfl
  | succ n ih => intro c t; exact (ih _ _).trans rfl
/-- a copying loop, closed -/
theorem cpl_eq {k1 o1 k2 o2 : Nat} (h : k1 ≠ k2 ∨ o1 < o2) : ∀ (n c : Nat) (t : MS), cpl k1 o1 k2 o2 n c t = mF t k1 (fun q => if o1 + c ≤ q ∧ q < o1 + c + n then t.A k2 (o2 + (q - o1)) else t.A k1 q) := by
  intro n
  induction n with
  | zero =>
    intro c t
    have e : (fun q => if o1 + c ≤ q ∧ q < o1 + c + 0 then t.A k2 (o2 + (q - o1)) else t.A k1 q) = t.A k1 := by
      funext q
      rw [if_neg (by omega)]
    rw [e, mF_self]; rfl
  | succ n ih =>
    intro c t
    show cpl k1 o1 k2 o2 n (c + 1) (mA t k1 (o1 + c) (t.A k2 (o2 + c))) = _
    rw [ih, mA_F, mF_F]
    congr 1
    funext q
    by_cases e : q = o1 + c
    · subst e
      rw [if_neg (by omega), if_pos (by omega), mF_at, upd_at]
      congr 1; omega
    · by_cases e2 : o1 + (c + 1) ≤ q ∧ q < o1 + (c + 1) + n
      · rw [if_pos e2, if_pos (by omega), mF_A]
        split
        · rename_i e3
          subst e3
          rw [upd_ne (by omega)]
        · rfl
      · rw [if_neg e2, if_neg (by omega), mF_at, upd_ne e]
theorem m_keeps (l : Launch) (G : GE) {h0 : AH} {ad : Nat → Nat} (hA : MAd ad) (s : MS) (v : Int32) (y0 : mUo s) : GM l G yX8_keeps (ws_ yX8_keeps cX8_keeps 3 (some .int)) 1 [.ref (ad 20), .int v] (mput G h0 ad s) (0) (PV (.int v) (mput G h0 ad (mKeeps s))) := by
  refine GM.of (by decide) (dk rfl) ?_
  intro X eL eG eh ok fn
  subst eL; subst eG
  show GW X _ 0 0 [some (.ref (ad 20)), some (.int v), none] []
  obtain ⟨h1, h2⟩ := y0
  refine g_aload_n ok dX8_keeps_0 rfl ?_
  refine m_get ok hA 4 q2239 (by decide) dX8_keeps_1 (v := .int (nI (mU s))) (congrArg (fun z => some (Value.int z)) h1) ?_
  refine g_bipush ok (v := 6) dX8_keeps_4 rfl ?_
  by_cases h6 : mU s = 6
  · have hs : mKeeps s = mI (cpl 3 2210 1 0 442 0 (mI (cpl 3 0 3 442 2210 0 s) 4 (nI 5))) 4 (nI 6) := by unfold mKeeps; rw [if_pos h6]
    rw [hs] at fn
    rw [h6] at h1 ⊢
    refine g_icmp_ne ok (tgt := 50) dX8_keeps_6 (by decide) (fun c_ => absurd (congrArg nI (by omega : 6 = 6)) c_) (fun _ => ?_)
    refine g_iconst ok (v := 0) dX8_keeps_9 rfl ?_
    refine g_istore_n ok dX8_keeps_10 (ls1 := [some (.ref (ad 20)), some (.int v), some (.int 0)]) (dl rfl) rfl ?_
    have lp : ∀ (n : Nat) (c : Nat) (t : MS), (c + n = 2210) → (cpl 3 0 3 442 n c t = cpl 3 0 3 442 2210 0 s) → GW X (mput X.G h0 ad t) 0 11 [some (.ref (ad 20)), some (.int v), some (.int (nI c))] [] := by
      intro n
      induction n with
      | zero =>
        intro c t g0 g1
        refine g_iload_n ok dX8_keeps_11 rfl ?_
        refine g_sipush ok (v := 2210) dX8_keeps_12 rfl ?_
        refine g_icmp_ge ok (tgt := 40) dX8_keeps_15 (by decide) (fun _ => ?_) (fun c_ => absurd (nI_le (a := 2210) (b := c) (by omega) (by omega)) c_)
        have g1 : t = cpl 3 0 3 442 2210 0 s := g1
        subst g1
        have g0 : c = 2210 := by omega
        subst g0
        refine g_aload_n ok dX8_keeps_40 rfl ?_
        refine g_dup ok dX8_keeps_41 rfl ?_
        refine m_get ok hA 4 q2239 (by decide) dX8_keeps_42 (v := .int (nI 6)) (congrArg (fun z => some (Value.int z)) ((cpl_I _ _ _ _ _ _ _ 4).trans h1)) ?_
        refine g_iconst ok (v := 1) dX8_keeps_45 rfl ?_
        refine g_isubN ok dX8_keeps_46 (c := 5) (a := 6) (b := 1) rfl rfl (by omega) (by omega) ?_
        refine m_put ok hA 4 q2239 (by decide) dX8_keeps_47 ⟨rfl, rfl⟩ ?_
        refine g_iconst ok (v := 0) dX8_keeps_50 rfl ?_
        refine g_istore_n ok dX8_keeps_51 (ls1 := [some (.ref (ad 20)), some (.int v), some (.int 0)]) (dl rfl) rfl ?_
        have lq : ∀ (m : Nat) (c : Nat) (t : MS), (c + m = 442) → (cpl 3 2210 1 0 m c t = cpl 3 2210 1 0 442 0 (mI (cpl 3 0 3 442 2210 0 s) 4 (nI 5))) → (t.I 4 = (nI 5)) → GW X (mput X.G h0 ad t) 0 52 [some (.ref (ad 20)), some (.int v), some (.int (nI c))] [] := by
          intro m
          induction m with
          | zero =>
            intro c t k0 k1 k2
            refine g_iload_n ok dX8_keeps_52 rfl ?_
            refine g_sipush ok (v := 442) dX8_keeps_53 rfl ?_
            refine g_icmp_ge ok (tgt := 86) dX8_keeps_56 (by decide) (fun _ => ?_) (fun c_ => absurd (nI_le (a := 442) (b := c) (by omega) (by omega)) c_)
            have k1 : t = cpl 3 2210 1 0 442 0 (mI (cpl 3 0 3 442 2210 0 s) 4 (nI 5)) := k1
            have k2 : (cpl 3 2210 1 0 442 0 (mI (cpl 3 0 3 442 2210 0 s) 4 (nI 5))).I 4 = (nI 5) := k1 ▸ k2
            subst k1
            have k0 : c = 442 := by omega
            subst k0
            refine g_aload_n ok dX8_keeps_86 rfl ?_
            refine g_dup ok dX8_keeps_87 rfl ?_
            refine m_get ok hA 4 q2239 (by decide) dX8_keeps_88 (v := .int (nI 5)) (congrArg (fun z => some (Value.int z)) k2) ?_
            refine g_iconst ok (v := 1) dX8_keeps_91 rfl ?_
            refine g_iaddN ok dX8_keeps_92 (c := 6) (a := 5) (b := 1) rfl rfl rfl ?_
            refine m_put ok hA 4 q2239 (by decide) dX8_keeps_93 ⟨rfl, rfl⟩ ?_
            refine g_iload_n ok dX8_keeps_96 rfl ?_
            exact g_iret ok fn rfl dX8_keeps_97 (pv_i rfl rfl) (dk rfl)
          | succ m ik =>
            intro c t k0 k1 k2
            refine g_iload_n ok dX8_keeps_52 rfl ?_
            refine g_sipush ok (v := 442) dX8_keeps_53 rfl ?_
            refine g_icmp_ge ok (tgt := 86) dX8_keeps_56 (by decide) (fun c_ => absurd c_ (nI_ge (a := c) (b := 442) (by omega) (by omega))) (fun _ => ?_)
            refine g_aload_n ok dX8_keeps_59 rfl ?_
            refine m_get ok hA 3 q2238 (by decide) dX8_keeps_60 (v := .ref (ad 3)) rfl ?_
            refine g_sipush ok (v := 442) dX8_keeps_63 rfl ?_
            refine g_aload_n ok dX8_keeps_66 rfl ?_
            refine m_get ok hA 4 q2239 (by decide) dX8_keeps_67 (v := .int (nI 5)) (congrArg (fun z => some (Value.int z)) k2) ?_
            refine g_imulN ok dX8_keeps_70 (c := 2210) (a := 442) (b := 5) rfl rfl rfl ?_
            refine g_iload_n ok dX8_keeps_71 rfl ?_
            refine g_iaddN ok dX8_keeps_72 (c := (2210 + c)) (a := 2210) (b := c) rfl rfl rfl ?_
            refine g_aload_n ok dX8_keeps_73 rfl ?_
            refine m_get ok hA 1 q2236 (by decide) dX8_keeps_74 (v := .ref (ad 1)) rfl ?_
            refine g_iload_n ok dX8_keeps_77 rfl ?_
            refine m_ald ok hA 1 c (v := (MS.A t 1 c)) (by decide) dX8_keeps_78 rfl (by simp only [mlen]; omega) rfl ?_
            refine m_ast ok hA 3 (2210 + c) (by decide) dX8_keeps_79 rfl (by simp only [mlen]; omega) ?_
            refine g_iincN ok dX8_keeps_80 (c := c) rfl rfl (ls1 := [some (.ref (ad 20)), some (.int v), some (.int (nI (c + 1)))]) rfl ?_
            refine g_goto ok dX8_keeps_83 (tgt := 52) (by decide) ?_
            exact ik _ _ (by omega) (cpl_z2 k1) k2
        exact lq 442 0 _ (by omega) rfl (by simpa only [mI_I, upd_at] using rfl)
      | succ n ih =>
        intro c t g0 g1
        refine g_iload_n ok dX8_keeps_11 rfl ?_
        refine g_sipush ok (v := 2210) dX8_keeps_12 rfl ?_
        refine g_icmp_ge ok (tgt := 40) dX8_keeps_15 (by decide) (fun c_ => absurd c_ (nI_ge (a := c) (b := 2210) (by omega) (by omega))) (fun _ => ?_)
        refine g_aload_n ok dX8_keeps_18 rfl ?_
        refine m_get ok hA 3 q2238 (by decide) dX8_keeps_19 (v := .ref (ad 3)) rfl ?_
        refine g_iload_n ok dX8_keeps_22 rfl ?_
        refine g_aload_n ok dX8_keeps_23 rfl ?_
        refine m_get ok hA 3 q2238 (by decide) dX8_keeps_24 (v := .ref (ad 3)) rfl ?_
        refine g_sipush ok (v := 442) dX8_keeps_27 rfl ?_
        refine g_iload_n ok dX8_keeps_30 rfl ?_
        refine g_iaddN ok dX8_keeps_31 (c := (442 + c)) (a := 442) (b := c) rfl rfl rfl ?_
        refine m_ald ok hA 3 (442 + c) (v := (MS.A t 3 (442 + c))) (by decide) dX8_keeps_32 rfl (by simp only [mlen]; omega) rfl ?_
        refine m_ast ok hA 3 c (by decide) dX8_keeps_33 rfl (by simp only [mlen]; omega) ?_
        refine g_iincN ok dX8_keeps_34 (c := c) rfl rfl (ls1 := [some (.ref (ad 20)), some (.int v), some (.int (nI (c + 1)))]) rfl ?_
        refine g_goto ok dX8_keeps_37 (tgt := 11) (by decide) ?_
        exact ih _ _ (by omega) (cpl_z1 g1)
    exact lp 2210 0 _ (by omega) rfl
  · have hs : mKeeps s = mI (cpl 3 (442 * mU s) 1 0 442 0 s) 4 (nI (mU s + 1)) := by unfold mKeeps; rw [if_neg h6]
    rw [hs] at fn
    refine g_icmp_ne ok (tgt := 50) dX8_keeps_6 (by decide) (fun _ => ?_) (fun c_ => absurd c_ (fun e_ => by have := (nI_eq (a := (mU s)) (b := 6) (by omega) (by omega)).mp e_; omega))
    refine g_iconst ok (v := 0) dX8_keeps_50 rfl ?_
    refine g_istore_n ok dX8_keeps_51 (ls1 := [some (.ref (ad 20)), some (.int v), some (.int 0)]) (dl rfl) rfl ?_
    have lq : ∀ (m : Nat) (c : Nat) (t : MS), (c + m = 442) → (cpl 3 (442 * mU s) 1 0 m c t = cpl 3 (442 * mU s) 1 0 442 0 s) → (t.I 4 = (nI (mU s))) → GW X (mput X.G h0 ad t) 0 52 [some (.ref (ad 20)), some (.int v), some (.int (nI c))] [] := by
      intro m
      induction m with
      | zero =>
        intro c t k0 k1 k2
        refine g_iload_n ok dX8_keeps_52 rfl ?_
        refine g_sipush ok (v := 442) dX8_keeps_53 rfl ?_
        refine g_icmp_ge ok (tgt := 86) dX8_keeps_56 (by decide) (fun _ => ?_) (fun c_ => absurd (nI_le (a := 442) (b := c) (by omega) (by omega)) c_)
        have k1 : t = cpl 3 (442 * mU s) 1 0 442 0 s := k1
        have k2 : (cpl 3 (442 * mU s) 1 0 442 0 s).I 4 = (nI (mU s)) := k1 ▸ k2
        subst k1
        have k0 : c = 442 := by omega
        subst k0
        refine g_aload_n ok dX8_keeps_86 rfl ?_
        refine g_dup ok dX8_keeps_87 rfl ?_
        refine m_get ok hA 4 q2239 (by decide) dX8_keeps_88 (v := .int (nI (mU s))) (congrArg (fun z => some (Value.int z)) k2) ?_
        refine g_iconst ok (v := 1) dX8_keeps_91 rfl ?_
        refine g_iaddN ok dX8_keeps_92 (c := ((mU s) + 1)) (a := (mU s)) (b := 1) rfl rfl rfl ?_
        refine m_put ok hA 4 q2239 (by decide) dX8_keeps_93 ⟨rfl, rfl⟩ ?_
        refine g_iload_n ok dX8_keeps_96 rfl ?_
        exact g_iret ok fn rfl dX8_keeps_97 (pv_i rfl rfl) (dk rfl)
      | succ m ik =>
        intro c t k0 k1 k2
        refine g_iload_n ok dX8_keeps_52 rfl ?_
        refine g_sipush ok (v := 442) dX8_keeps_53 rfl ?_
        refine g_icmp_ge ok (tgt := 86) dX8_keeps_56 (by decide) (fun c_ => absurd c_ (nI_ge (a := c) (b := 442) (by omega) (by omega))) (fun _ => ?_)
        refine g_aload_n ok dX8_keeps_59 rfl ?_
        refine m_get ok hA 3 q2238 (by decide) dX8_keeps_60 (v := .ref (ad 3)) rfl ?_
        refine g_sipush ok (v := 442) dX8_keeps_63 rfl ?_
        refine g_aload_n ok dX8_keeps_66 rfl ?_
        refine m_get ok hA 4 q2239 (by decide) dX8_keeps_67 (v := .int (nI (mU s))) (congrArg (fun z => some (Value.int z)) k2) ?_
        refine g_imulN ok dX8_keeps_70 (c := (442 * (mU s))) (a := 442) (b := (mU s)) rfl rfl rfl ?_
        refine g_iload_n ok dX8_keeps_71 rfl ?_
        refine g_iaddN ok dX8_keeps_72 (c := ((442 * (mU s)) + c)) (a := (442 * (mU s))) (b := c) rfl rfl rfl ?_
        refine g_aload_n ok dX8_keeps_73 rfl ?_
        refine m_get ok hA 1 q2236 (by decide) dX8_keeps_74 (v := .ref (ad 1)) rfl ?_
        refine g_iload_n ok dX8_keeps_77 rfl ?_
        refine m_ald ok hA 1 c (v := (MS.A t 1 c)) (by decide) dX8_keeps_78 rfl (by simp only [mlen]; omega) rfl ?_
        refine m_ast ok hA 3 ((442 * (mU s)) + c) (by decide) dX8_keeps_79 rfl (by simp only [mlen]; omega) ?_
        refine g_iincN ok dX8_keeps_80 (c := c) rfl rfl (ls1 := [some (.ref (ad 20)), some (.int v), some (.int (nI (c + 1)))]) rfl ?_
        refine g_goto ok dX8_keeps_83 (tgt := 52) (by decide) ?_
        exact ik _ _ (by omega) (cpl_z2 k1) k2
    exact lq 442 0 _ (by omega) rfl (h1)
