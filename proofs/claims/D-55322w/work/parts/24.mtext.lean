/-! THE MODEL: its texts -/
set_option maxRecDepth 100000
abbrev cX8_takes : ByteArray := prog_19_method_73_code
def yX8_takes : MethodName := ⟨RX8, "takes", "(C)Z"⟩
def dkwX8_takes_1 : List UInt8 := [3, 172, 42, 89, 180, 0, 209, 4, 96, 181, 0, 209, 4, 172]
abbrev dktX8_takes_1 : List UInt8 := dkwX8_takes_1 ++ []
def dkwX8_takes_0 : List UInt8 := [42, 180, 0, 209, 42, 180, 0, 206, 159, 0, 16, 42, 180, 0, 29, 42, 180, 0, 209, 52, 27, 159, 0, 5]
abbrev dktX8_takes_0 : List UInt8 := dkwX8_takes_0 ++ dktX8_takes_1
theorem dksX8_takes_0 : cX8_takes.data.toList.drop 0 = dktX8_takes_0 := by decide +kernel
theorem dksX8_takes_1 : cX8_takes.data.toList.drop 24 = dktX8_takes_1 := dk_seg dksX8_takes_0 24 rfl rfl
theorem dX8_takes_0 : decode cX8_takes 0 = .ok (.aload_n 0, 1) := dk_42 (dk_at dksX8_takes_0 0 rfl rfl)
theorem dX8_takes_1 : decode cX8_takes 1 = .ok (.getfield 209, 3) := dk_180 0 209 (dk_at dksX8_takes_0 1 rfl rfl)
theorem dX8_takes_4 : decode cX8_takes 4 = .ok (.aload_n 0, 1) := dk_42 (dk_at dksX8_takes_0 4 rfl rfl)
theorem dX8_takes_5 : decode cX8_takes 5 = .ok (.getfield 206, 3) := dk_180 0 206 (dk_at dksX8_takes_0 5 rfl rfl)
theorem dX8_takes_8 : decode cX8_takes 8 = .ok (.if_icmp .eq 16, 3) := dk_159 0 16 (dk_at dksX8_takes_0 8 rfl rfl)
theorem dX8_takes_11 : decode cX8_takes 11 = .ok (.aload_n 0, 1) := dk_42 (dk_at dksX8_takes_0 11 rfl rfl)
theorem dX8_takes_12 : decode cX8_takes 12 = .ok (.getfield 29, 3) := dk_180 0 29 (dk_at dksX8_takes_0 12 rfl rfl)
theorem dX8_takes_15 : decode cX8_takes 15 = .ok (.aload_n 0, 1) := dk_42 (dk_at dksX8_takes_0 15 rfl rfl)
theorem dX8_takes_16 : decode cX8_takes 16 = .ok (.getfield 209, 3) := dk_180 0 209 (dk_at dksX8_takes_0 16 rfl rfl)
theorem dX8_takes_19 : decode cX8_takes 19 = .ok (.caload, 1) := dk_52 (dk_at dksX8_takes_0 19 rfl rfl)
theorem dX8_takes_20 : decode cX8_takes 20 = .ok (.iload_n 1, 1) := dk_27 (dk_at dksX8_takes_0 20 rfl rfl)
theorem dX8_takes_21 : decode cX8_takes 21 = .ok (.if_icmp .eq 5, 3) := dk_159 0 5 (dk_at dksX8_takes_0 21 rfl rfl)
theorem dX8_takes_24 : decode cX8_takes 24 = .ok (.iconst 0, 1) := dk_3 (dk_at dksX8_takes_1 0 rfl rfl)
theorem dX8_takes_25 : decode cX8_takes 25 = .ok (.ireturn, 1) := dk_172 (dk_at dksX8_takes_1 1 rfl rfl)
theorem dX8_takes_26 : decode cX8_takes 26 = .ok (.aload_n 0, 1) := dk_42 (dk_at dksX8_takes_1 2 rfl rfl)
theorem dX8_takes_27 : decode cX8_takes 27 = .ok (.dup, 1) := dk_89 (dk_at dksX8_takes_1 3 rfl rfl)
theorem dX8_takes_28 : decode cX8_takes 28 = .ok (.getfield 209, 3) := dk_180 0 209 (dk_at dksX8_takes_1 4 rfl rfl)
theorem dX8_takes_31 : decode cX8_takes 31 = .ok (.iconst 1, 1) := dk_4 (dk_at dksX8_takes_1 7 rfl rfl)
theorem dX8_takes_32 : decode cX8_takes 32 = .ok (.iadd, 1) := dk_96 (dk_at dksX8_takes_1 8 rfl rfl)
theorem dX8_takes_33 : decode cX8_takes 33 = .ok (.putfield 209, 3) := dk_181 0 209 (dk_at dksX8_takes_1 9 rfl rfl)
theorem dX8_takes_36 : decode cX8_takes 36 = .ok (.iconst 1, 1) := dk_4 (dk_at dksX8_takes_1 12 rfl rfl)
theorem dX8_takes_37 : decode cX8_takes 37 = .ok (.ireturn, 1) := dk_172 (dk_at dksX8_takes_1 13 rfl rfl)
abbrev cX8_isNumber_2 : ByteArray := prog_19_method_75_code
def yX8_isNumber_2 : MethodName := ⟨RX8, "isNumber", "(IZ)Z"⟩
def dkwX8_isNumber_2_6 : List UInt8 := [167, 0, 4, 3, 172]
abbrev dktX8_isNumber_2_6 : List UInt8 := dkwX8_isNumber_2_6 ++ []
def dkwX8_isNumber_2_5 : List UInt8 := [153, 0, 16, 42, 180, 0, 38, 27, 42, 180, 0, 38, 27, 46, 116, 79, 21, 4, 158, 0, 7, 4]
abbrev dktX8_isNumber_2_5 : List UInt8 := dkwX8_isNumber_2_5 ++ dktX8_isNumber_2_6
def dkwX8_isNumber_2_4 : List UInt8 := [42, 89, 180, 0, 209, 90, 4, 96, 181, 0, 209, 52, 96, 16, 48, 100, 79, 132, 4, 1, 167, 255, 182, 29]
abbrev dktX8_isNumber_2_4 : List UInt8 := dkwX8_isNumber_2_4 ++ dktX8_isNumber_2_5
def dkwX8_isNumber_2_3 : List UInt8 := [184, 0, 67, 153, 0, 44, 42, 180, 0, 38, 27, 16, 10, 42, 180, 0, 38, 27, 46, 104, 42, 180, 0, 29]
abbrev dktX8_isNumber_2_3 : List UInt8 := dkwX8_isNumber_2_3 ++ dktX8_isNumber_2_4
def dkwX8_isNumber_2_2 : List UInt8 := [180, 0, 209, 42, 180, 0, 206, 162, 0, 63, 42, 180, 0, 29, 42, 180, 0, 209, 52, 16, 48, 16, 57]
abbrev dktX8_isNumber_2_2 : List UInt8 := dkwX8_isNumber_2_2 ++ dktX8_isNumber_2_3
def dkwX8_isNumber_2_1 : List UInt8 := [4, 167, 0, 4, 3, 62, 3, 54, 4, 42, 180, 0, 38, 27, 3, 79, 21, 4, 6, 162, 0, 74, 42]
abbrev dktX8_isNumber_2_1 : List UInt8 := dkwX8_isNumber_2_1 ++ dktX8_isNumber_2_2
def dkwX8_isNumber_2_0 : List UInt8 := [42, 16, 32, 182, 0, 227, 154, 0, 5, 3, 172, 28, 153, 0, 16, 42, 16, 45, 182, 0, 227, 153, 0, 7]
abbrev dktX8_isNumber_2_0 : List UInt8 := dkwX8_isNumber_2_0 ++ dktX8_isNumber_2_1
theorem dksX8_isNumber_2_0 : cX8_isNumber_2.data.toList.drop 0 = dktX8_isNumber_2_0 := by decide +kernel
theorem dksX8_isNumber_2_1 : cX8_isNumber_2.data.toList.drop 24 = dktX8_isNumber_2_1 := dk_seg dksX8_isNumber_2_0 24 rfl rfl
theorem dksX8_isNumber_2_2 : cX8_isNumber_2.data.toList.drop 47 = dktX8_isNumber_2_2 := dk_seg dksX8_isNumber_2_1 23 rfl rfl
theorem dksX8_isNumber_2_3 : cX8_isNumber_2.data.toList.drop 70 = dktX8_isNumber_2_3 := dk_seg dksX8_isNumber_2_2 23 rfl rfl
theorem dksX8_isNumber_2_4 : cX8_isNumber_2.data.toList.drop 94 = dktX8_isNumber_2_4 := dk_seg dksX8_isNumber_2_3 24 rfl rfl
theorem dksX8_isNumber_2_5 : cX8_isNumber_2.data.toList.drop 118 = dktX8_isNumber_2_5 := dk_seg dksX8_isNumber_2_4 24 rfl rfl
theorem dksX8_isNumber_2_6 : cX8_isNumber_2.data.toList.drop 140 = dktX8_isNumber_2_6 := dk_seg dksX8_isNumber_2_5 22 rfl rfl
theorem dX8_isNumber_2_0 : decode cX8_isNumber_2 0 = .ok (.aload_n 0, 1) := dk_42 (dk_at dksX8_isNumber_2_0 0 rfl rfl)
theorem dX8_isNumber_2_1 : decode cX8_isNumber_2 1 = .ok (.bipush 32, 2) := dk_16 32 (dk_at dksX8_isNumber_2_0 1 rfl rfl)
theorem dX8_isNumber_2_3 : decode cX8_isNumber_2 3 = .ok (.invokevirtual 227, 3) := dk_182 0 227 (dk_at dksX8_isNumber_2_0 3 rfl rfl)
theorem dX8_isNumber_2_6 : decode cX8_isNumber_2 6 = .ok (.ifCond .ne 5, 3) := dk_154 0 5 (dk_at dksX8_isNumber_2_0 6 rfl rfl)
theorem dX8_isNumber_2_9 : decode cX8_isNumber_2 9 = .ok (.iconst 0, 1) := dk_3 (dk_at dksX8_isNumber_2_0 9 rfl rfl)
theorem dX8_isNumber_2_10 : decode cX8_isNumber_2 10 = .ok (.ireturn, 1) := dk_172 (dk_at dksX8_isNumber_2_0 10 rfl rfl)
theorem dX8_isNumber_2_11 : decode cX8_isNumber_2 11 = .ok (.iload_n 2, 1) := dk_28 (dk_at dksX8_isNumber_2_0 11 rfl rfl)
theorem dX8_isNumber_2_12 : decode cX8_isNumber_2 12 = .ok (.ifCond .eq 16, 3) := dk_153 0 16 (dk_at dksX8_isNumber_2_0 12 rfl rfl)
theorem dX8_isNumber_2_15 : decode cX8_isNumber_2 15 = .ok (.aload_n 0, 1) := dk_42 (dk_at dksX8_isNumber_2_0 15 rfl rfl)
theorem dX8_isNumber_2_16 : decode cX8_isNumber_2 16 = .ok (.bipush 45, 2) := dk_16 45 (dk_at dksX8_isNumber_2_0 16 rfl rfl)
theorem dX8_isNumber_2_18 : decode cX8_isNumber_2 18 = .ok (.invokevirtual 227, 3) := dk_182 0 227 (dk_at dksX8_isNumber_2_0 18 rfl rfl)
theorem dX8_isNumber_2_21 : decode cX8_isNumber_2 21 = .ok (.ifCond .eq 7, 3) := dk_153 0 7 (dk_at dksX8_isNumber_2_0 21 rfl rfl)
theorem dX8_isNumber_2_24 : decode cX8_isNumber_2 24 = .ok (.iconst 1, 1) := dk_4 (dk_at dksX8_isNumber_2_1 0 rfl rfl)
theorem dX8_isNumber_2_25 : decode cX8_isNumber_2 25 = .ok (.goto 4, 3) := dk_167 0 4 (dk_at dksX8_isNumber_2_1 1 rfl rfl)
theorem dX8_isNumber_2_28 : decode cX8_isNumber_2 28 = .ok (.iconst 0, 1) := dk_3 (dk_at dksX8_isNumber_2_1 4 rfl rfl)
theorem dX8_isNumber_2_29 : decode cX8_isNumber_2 29 = .ok (.istore_n 3, 1) := dk_62 (dk_at dksX8_isNumber_2_1 5 rfl rfl)
theorem dX8_isNumber_2_30 : decode cX8_isNumber_2 30 = .ok (.iconst 0, 1) := dk_3 (dk_at dksX8_isNumber_2_1 6 rfl rfl)
theorem dX8_isNumber_2_31 : decode cX8_isNumber_2 31 = .ok (.istore 4, 2) := dk_54 4 (dk_at dksX8_isNumber_2_1 7 rfl rfl)
theorem dX8_isNumber_2_33 : decode cX8_isNumber_2 33 = .ok (.aload_n 0, 1) := dk_42 (dk_at dksX8_isNumber_2_1 9 rfl rfl)
theorem dX8_isNumber_2_34 : decode cX8_isNumber_2 34 = .ok (.getfield 38, 3) := dk_180 0 38 (dk_at dksX8_isNumber_2_1 10 rfl rfl)
theorem dX8_isNumber_2_37 : decode cX8_isNumber_2 37 = .ok (.iload_n 1, 1) := dk_27 (dk_at dksX8_isNumber_2_1 13 rfl rfl)
theorem dX8_isNumber_2_38 : decode cX8_isNumber_2 38 = .ok (.iconst 0, 1) := dk_3 (dk_at dksX8_isNumber_2_1 14 rfl rfl)
theorem dX8_isNumber_2_39 : decode cX8_isNumber_2 39 = .ok (.iastore, 1) := dk_79 (dk_at dksX8_isNumber_2_1 15 rfl rfl)
theorem dX8_isNumber_2_40 : decode cX8_isNumber_2 40 = .ok (.iload 4, 2) := dk_21 4 (dk_at dksX8_isNumber_2_1 16 rfl rfl)
theorem dX8_isNumber_2_42 : decode cX8_isNumber_2 42 = .ok (.iconst 3, 1) := dk_6 (dk_at dksX8_isNumber_2_1 18 rfl rfl)
theorem dX8_isNumber_2_43 : decode cX8_isNumber_2 43 = .ok (.if_icmp .ge 74, 3) := dk_162 0 74 (dk_at dksX8_isNumber_2_1 19 rfl rfl)
theorem dX8_isNumber_2_46 : decode cX8_isNumber_2 46 = .ok (.aload_n 0, 1) := dk_42 (dk_at dksX8_isNumber_2_1 22 rfl rfl)
theorem dX8_isNumber_2_47 : decode cX8_isNumber_2 47 = .ok (.getfield 209, 3) := dk_180 0 209 (dk_at dksX8_isNumber_2_2 0 rfl rfl)
theorem dX8_isNumber_2_50 : decode cX8_isNumber_2 50 = .ok (.aload_n 0, 1) := dk_42 (dk_at dksX8_isNumber_2_2 3 rfl rfl)
theorem dX8_isNumber_2_51 : decode cX8_isNumber_2 51 = .ok (.getfield 206, 3) := dk_180 0 206 (dk_at dksX8_isNumber_2_2 4 rfl rfl)
theorem dX8_isNumber_2_54 : decode cX8_isNumber_2 54 = .ok (.if_icmp .ge 63, 3) := dk_162 0 63 (dk_at dksX8_isNumber_2_2 7 rfl rfl)
theorem dX8_isNumber_2_57 : decode cX8_isNumber_2 57 = .ok (.aload_n 0, 1) := dk_42 (dk_at dksX8_isNumber_2_2 10 rfl rfl)
theorem dX8_isNumber_2_58 : decode cX8_isNumber_2 58 = .ok (.getfield 29, 3) := dk_180 0 29 (dk_at dksX8_isNumber_2_2 11 rfl rfl)
theorem dX8_isNumber_2_61 : decode cX8_isNumber_2 61 = .ok (.aload_n 0, 1) := dk_42 (dk_at dksX8_isNumber_2_2 14 rfl rfl)
theorem dX8_isNumber_2_62 : decode cX8_isNumber_2 62 = .ok (.getfield 209, 3) := dk_180 0 209 (dk_at dksX8_isNumber_2_2 15 rfl rfl)
theorem dX8_isNumber_2_65 : decode cX8_isNumber_2 65 = .ok (.caload, 1) := dk_52 (dk_at dksX8_isNumber_2_2 18 rfl rfl)
theorem dX8_isNumber_2_66 : decode cX8_isNumber_2 66 = .ok (.bipush 48, 2) := dk_16 48 (dk_at dksX8_isNumber_2_2 19 rfl rfl)
theorem dX8_isNumber_2_68 : decode cX8_isNumber_2 68 = .ok (.bipush 57, 2) := dk_16 57 (dk_at dksX8_isNumber_2_2 21 rfl rfl)
theorem dX8_isNumber_2_70 : decode cX8_isNumber_2 70 = .ok (.invokestatic 67, 3) := dk_184 0 67 (dk_at dksX8_isNumber_2_3 0 rfl rfl)
theorem dX8_isNumber_2_73 : decode cX8_isNumber_2 73 = .ok (.ifCond .eq 44, 3) := dk_153 0 44 (dk_at dksX8_isNumber_2_3 3 rfl rfl)
theorem dX8_isNumber_2_76 : decode cX8_isNumber_2 76 = .ok (.aload_n 0, 1) := dk_42 (dk_at dksX8_isNumber_2_3 6 rfl rfl)
theorem dX8_isNumber_2_77 : decode cX8_isNumber_2 77 = .ok (.getfield 38, 3) := dk_180 0 38 (dk_at dksX8_isNumber_2_3 7 rfl rfl)
theorem dX8_isNumber_2_80 : decode cX8_isNumber_2 80 = .ok (.iload_n 1, 1) := dk_27 (dk_at dksX8_isNumber_2_3 10 rfl rfl)
theorem dX8_isNumber_2_81 : decode cX8_isNumber_2 81 = .ok (.bipush 10, 2) := dk_16 10 (dk_at dksX8_isNumber_2_3 11 rfl rfl)
theorem dX8_isNumber_2_83 : decode cX8_isNumber_2 83 = .ok (.aload_n 0, 1) := dk_42 (dk_at dksX8_isNumber_2_3 13 rfl rfl)
theorem dX8_isNumber_2_84 : decode cX8_isNumber_2 84 = .ok (.getfield 38, 3) := dk_180 0 38 (dk_at dksX8_isNumber_2_3 14 rfl rfl)
theorem dX8_isNumber_2_87 : decode cX8_isNumber_2 87 = .ok (.iload_n 1, 1) := dk_27 (dk_at dksX8_isNumber_2_3 17 rfl rfl)
theorem dX8_isNumber_2_88 : decode cX8_isNumber_2 88 = .ok (.iaload, 1) := dk_46 (dk_at dksX8_isNumber_2_3 18 rfl rfl)
theorem dX8_isNumber_2_89 : decode cX8_isNumber_2 89 = .ok (.imul, 1) := dk_104 (dk_at dksX8_isNumber_2_3 19 rfl rfl)
theorem dX8_isNumber_2_90 : decode cX8_isNumber_2 90 = .ok (.aload_n 0, 1) := dk_42 (dk_at dksX8_isNumber_2_3 20 rfl rfl)
theorem dX8_isNumber_2_91 : decode cX8_isNumber_2 91 = .ok (.getfield 29, 3) := dk_180 0 29 (dk_at dksX8_isNumber_2_3 21 rfl rfl)
theorem dX8_isNumber_2_94 : decode cX8_isNumber_2 94 = .ok (.aload_n 0, 1) := dk_42 (dk_at dksX8_isNumber_2_4 0 rfl rfl)
theorem dX8_isNumber_2_95 : decode cX8_isNumber_2 95 = .ok (.dup, 1) := dk_89 (dk_at dksX8_isNumber_2_4 1 rfl rfl)
theorem dX8_isNumber_2_96 : decode cX8_isNumber_2 96 = .ok (.getfield 209, 3) := dk_180 0 209 (dk_at dksX8_isNumber_2_4 2 rfl rfl)
theorem dX8_isNumber_2_99 : decode cX8_isNumber_2 99 = .ok (.dup_x1, 1) := dk_90 (dk_at dksX8_isNumber_2_4 5 rfl rfl)
theorem dX8_isNumber_2_100 : decode cX8_isNumber_2 100 = .ok (.iconst 1, 1) := dk_4 (dk_at dksX8_isNumber_2_4 6 rfl rfl)
theorem dX8_isNumber_2_101 : decode cX8_isNumber_2 101 = .ok (.iadd, 1) := dk_96 (dk_at dksX8_isNumber_2_4 7 rfl rfl)
theorem dX8_isNumber_2_102 : decode cX8_isNumber_2 102 = .ok (.putfield 209, 3) := dk_181 0 209 (dk_at dksX8_isNumber_2_4 8 rfl rfl)
theorem dX8_isNumber_2_105 : decode cX8_isNumber_2 105 = .ok (.caload, 1) := dk_52 (dk_at dksX8_isNumber_2_4 11 rfl rfl)
theorem dX8_isNumber_2_106 : decode cX8_isNumber_2 106 = .ok (.iadd, 1) := dk_96 (dk_at dksX8_isNumber_2_4 12 rfl rfl)
theorem dX8_isNumber_2_107 : decode cX8_isNumber_2 107 = .ok (.bipush 48, 2) := dk_16 48 (dk_at dksX8_isNumber_2_4 13 rfl rfl)
theorem dX8_isNumber_2_109 : decode cX8_isNumber_2 109 = .ok (.isub, 1) := dk_100 (dk_at dksX8_isNumber_2_4 15 rfl rfl)
theorem dX8_isNumber_2_110 : decode cX8_isNumber_2 110 = .ok (.iastore, 1) := dk_79 (dk_at dksX8_isNumber_2_4 16 rfl rfl)
theorem dX8_isNumber_2_111 : decode cX8_isNumber_2 111 = .ok (.iinc 4 1, 3) := dk_132 4 1 (dk_at dksX8_isNumber_2_4 17 rfl rfl)
theorem dX8_isNumber_2_114 : decode cX8_isNumber_2 114 = .ok (.goto (-74), 3) := dk_167 255 182 (dk_at dksX8_isNumber_2_4 20 rfl rfl)
theorem dX8_isNumber_2_117 : decode cX8_isNumber_2 117 = .ok (.iload_n 3, 1) := dk_29 (dk_at dksX8_isNumber_2_4 23 rfl rfl)
theorem dX8_isNumber_2_118 : decode cX8_isNumber_2 118 = .ok (.ifCond .eq 16, 3) := dk_153 0 16 (dk_at dksX8_isNumber_2_5 0 rfl rfl)
theorem dX8_isNumber_2_121 : decode cX8_isNumber_2 121 = .ok (.aload_n 0, 1) := dk_42 (dk_at dksX8_isNumber_2_5 3 rfl rfl)
theorem dX8_isNumber_2_122 : decode cX8_isNumber_2 122 = .ok (.getfield 38, 3) := dk_180 0 38 (dk_at dksX8_isNumber_2_5 4 rfl rfl)
theorem dX8_isNumber_2_125 : decode cX8_isNumber_2 125 = .ok (.iload_n 1, 1) := dk_27 (dk_at dksX8_isNumber_2_5 7 rfl rfl)
theorem dX8_isNumber_2_126 : decode cX8_isNumber_2 126 = .ok (.aload_n 0, 1) := dk_42 (dk_at dksX8_isNumber_2_5 8 rfl rfl)
theorem dX8_isNumber_2_127 : decode cX8_isNumber_2 127 = .ok (.getfield 38, 3) := dk_180 0 38 (dk_at dksX8_isNumber_2_5 9 rfl rfl)
theorem dX8_isNumber_2_130 : decode cX8_isNumber_2 130 = .ok (.iload_n 1, 1) := dk_27 (dk_at dksX8_isNumber_2_5 12 rfl rfl)
theorem dX8_isNumber_2_131 : decode cX8_isNumber_2 131 = .ok (.iaload, 1) := dk_46 (dk_at dksX8_isNumber_2_5 13 rfl rfl)
theorem dX8_isNumber_2_132 : decode cX8_isNumber_2 132 = .ok (.ineg, 1) := dk_116 (dk_at dksX8_isNumber_2_5 14 rfl rfl)
theorem dX8_isNumber_2_133 : decode cX8_isNumber_2 133 = .ok (.iastore, 1) := dk_79 (dk_at dksX8_isNumber_2_5 15 rfl rfl)
theorem dX8_isNumber_2_134 : decode cX8_isNumber_2 134 = .ok (.iload 4, 2) := dk_21 4 (dk_at dksX8_isNumber_2_5 16 rfl rfl)
theorem dX8_isNumber_2_136 : decode cX8_isNumber_2 136 = .ok (.ifCond .le 7, 3) := dk_158 0 7 (dk_at dksX8_isNumber_2_5 18 rfl rfl)
theorem dX8_isNumber_2_139 : decode cX8_isNumber_2 139 = .ok (.iconst 1, 1) := dk_4 (dk_at dksX8_isNumber_2_5 21 rfl rfl)
theorem dX8_isNumber_2_140 : decode cX8_isNumber_2 140 = .ok (.goto 4, 3) := dk_167 0 4 (dk_at dksX8_isNumber_2_6 0 rfl rfl)
theorem dX8_isNumber_2_143 : decode cX8_isNumber_2 143 = .ok (.iconst 0, 1) := dk_3 (dk_at dksX8_isNumber_2_6 3 rfl rfl)
theorem dX8_isNumber_2_144 : decode cX8_isNumber_2 144 = .ok (.ireturn, 1) := dk_172 (dk_at dksX8_isNumber_2_6 4 rfl rfl)
abbrev cX8_isSpanTold : ByteArray := prog_19_method_76_code
def yX8_isSpanTold : MethodName := ⟨RX8, "isSpanTold", "()Z"⟩
def dkwX8_isSpanTold_0 : List UInt8 := [42, 3, 3, 182, 0, 231, 153, 0, 16, 42, 4, 3, 182, 0, 231, 153, 0, 7, 4, 167, 0, 4, 3, 172]
abbrev dktX8_isSpanTold_0 : List UInt8 := dkwX8_isSpanTold_0 ++ []
theorem dksX8_isSpanTold_0 : cX8_isSpanTold.data.toList.drop 0 = dktX8_isSpanTold_0 := by decide +kernel
theorem dX8_isSpanTold_0 : decode cX8_isSpanTold 0 = .ok (.aload_n 0, 1) := dk_42 (dk_at dksX8_isSpanTold_0 0 rfl rfl)
theorem dX8_isSpanTold_1 : decode cX8_isSpanTold 1 = .ok (.iconst 0, 1) := dk_3 (dk_at dksX8_isSpanTold_0 1 rfl rfl)
theorem dX8_isSpanTold_2 : decode cX8_isSpanTold 2 = .ok (.iconst 0, 1) := dk_3 (dk_at dksX8_isSpanTold_0 2 rfl rfl)
theorem dX8_isSpanTold_3 : decode cX8_isSpanTold 3 = .ok (.invokevirtual 231, 3) := dk_182 0 231 (dk_at dksX8_isSpanTold_0 3 rfl rfl)
theorem dX8_isSpanTold_6 : decode cX8_isSpanTold 6 = .ok (.ifCond .eq 16, 3) := dk_153 0 16 (dk_at dksX8_isSpanTold_0 6 rfl rfl)
theorem dX8_isSpanTold_9 : decode cX8_isSpanTold 9 = .ok (.aload_n 0, 1) := dk_42 (dk_at dksX8_isSpanTold_0 9 rfl rfl)
theorem dX8_isSpanTold_10 : decode cX8_isSpanTold 10 = .ok (.iconst 1, 1) := dk_4 (dk_at dksX8_isSpanTold_0 10 rfl rfl)
theorem dX8_isSpanTold_11 : decode cX8_isSpanTold 11 = .ok (.iconst 0, 1) := dk_3 (dk_at dksX8_isSpanTold_0 11 rfl rfl)
theorem dX8_isSpanTold_12 : decode cX8_isSpanTold 12 = .ok (.invokevirtual 231, 3) := dk_182 0 231 (dk_at dksX8_isSpanTold_0 12 rfl rfl)
theorem dX8_isSpanTold_15 : decode cX8_isSpanTold 15 = .ok (.ifCond .eq 7, 3) := dk_153 0 7 (dk_at dksX8_isSpanTold_0 15 rfl rfl)
theorem dX8_isSpanTold_18 : decode cX8_isSpanTold 18 = .ok (.iconst 1, 1) := dk_4 (dk_at dksX8_isSpanTold_0 18 rfl rfl)
theorem dX8_isSpanTold_19 : decode cX8_isSpanTold 19 = .ok (.goto 4, 3) := dk_167 0 4 (dk_at dksX8_isSpanTold_0 19 rfl rfl)
theorem dX8_isSpanTold_22 : decode cX8_isSpanTold 22 = .ok (.iconst 0, 1) := dk_3 (dk_at dksX8_isSpanTold_0 22 rfl rfl)
theorem dX8_isSpanTold_23 : decode cX8_isSpanTold 23 = .ok (.ireturn, 1) := dk_172 (dk_at dksX8_isSpanTold_0 23 rfl rfl)
abbrev cX8_isOneOf : ByteArray := prog_19_method_74_code
def yX8_isOneOf : MethodName := ⟨RX8, "isOneOf", "(Ljava/lang/String;)Z"⟩
def dkwX8_isOneOf_5 : List UInt8 := [21, 4, 4, 96, 62, 167, 255, 139, 42, 89, 180, 0, 209, 28, 96, 181, 0, 209, 3, 172]
abbrev dktX8_isOneOf_5 : List UInt8 := dkwX8_isOneOf_5 ++ []
def dkwX8_isOneOf_4 : List UInt8 := [181, 0, 34, 42, 89, 180, 0, 209, 21, 5, 96, 181, 0, 209, 4, 172, 28, 21, 5, 184, 0, 168, 61]
abbrev dktX8_isOneOf_4 : List UInt8 := dkwX8_isOneOf_4 ++ dktX8_isOneOf_5
def dkwX8_isOneOf_3 : List UInt8 := [132, 5, 1, 167, 255, 207, 21, 5, 21, 4, 29, 100, 160, 0, 27, 42, 43, 29, 21, 4, 182, 0, 223]
abbrev dktX8_isOneOf_3 : List UInt8 := dkwX8_isOneOf_3 ++ dktX8_isOneOf_4
def dkwX8_isOneOf_2 : List UInt8 := [180, 0, 29, 42, 180, 0, 209, 21, 5, 96, 52, 43, 29, 21, 5, 96, 182, 0, 219, 160, 0, 9]
abbrev dktX8_isOneOf_2 : List UInt8 := dkwX8_isOneOf_2 ++ dktX8_isOneOf_3
def dkwX8_isOneOf_1 : List UInt8 := [21, 5, 21, 4, 29, 100, 162, 0, 46, 42, 180, 0, 209, 21, 5, 96, 42, 180, 0, 206, 162, 0, 32, 42]
abbrev dktX8_isOneOf_1 : List UInt8 := dkwX8_isOneOf_1 ++ dktX8_isOneOf_2
def dkwX8_isOneOf_0 : List UInt8 := [3, 61, 3, 62, 29, 43, 182, 0, 212, 162, 0, 115, 43, 16, 32, 29, 182, 0, 216, 54, 4, 3, 54, 5]
abbrev dktX8_isOneOf_0 : List UInt8 := dkwX8_isOneOf_0 ++ dktX8_isOneOf_1
theorem dksX8_isOneOf_0 : cX8_isOneOf.data.toList.drop 0 = dktX8_isOneOf_0 := by decide +kernel
theorem dksX8_isOneOf_1 : cX8_isOneOf.data.toList.drop 24 = dktX8_isOneOf_1 := dk_seg dksX8_isOneOf_0 24 rfl rfl
theorem dksX8_isOneOf_2 : cX8_isOneOf.data.toList.drop 48 = dktX8_isOneOf_2 := dk_seg dksX8_isOneOf_1 24 rfl rfl
theorem dksX8_isOneOf_3 : cX8_isOneOf.data.toList.drop 70 = dktX8_isOneOf_3 := dk_seg dksX8_isOneOf_2 22 rfl rfl
theorem dksX8_isOneOf_4 : cX8_isOneOf.data.toList.drop 93 = dktX8_isOneOf_4 := dk_seg dksX8_isOneOf_3 23 rfl rfl
theorem dksX8_isOneOf_5 : cX8_isOneOf.data.toList.drop 116 = dktX8_isOneOf_5 := dk_seg dksX8_isOneOf_4 23 rfl rfl
theorem dX8_isOneOf_0 : decode cX8_isOneOf 0 = .ok (.iconst 0, 1) := dk_3 (dk_at dksX8_isOneOf_0 0 rfl rfl)
theorem dX8_isOneOf_1 : decode cX8_isOneOf 1 = .ok (.istore_n 2, 1) := dk_61 (dk_at dksX8_isOneOf_0 1 rfl rfl)
theorem dX8_isOneOf_2 : decode cX8_isOneOf 2 = .ok (.iconst 0, 1) := dk_3 (dk_at dksX8_isOneOf_0 2 rfl rfl)
theorem dX8_isOneOf_3 : decode cX8_isOneOf 3 = .ok (.istore_n 3, 1) := dk_62 (dk_at dksX8_isOneOf_0 3 rfl rfl)
theorem dX8_isOneOf_4 : decode cX8_isOneOf 4 = .ok (.iload_n 3, 1) := dk_29 (dk_at dksX8_isOneOf_0 4 rfl rfl)
theorem dX8_isOneOf_5 : decode cX8_isOneOf 5 = .ok (.aload_n 1, 1) := dk_43 (dk_at dksX8_isOneOf_0 5 rfl rfl)
theorem dX8_isOneOf_6 : decode cX8_isOneOf 6 = .ok (.invokevirtual 212, 3) := dk_182 0 212 (dk_at dksX8_isOneOf_0 6 rfl rfl)
theorem dX8_isOneOf_9 : decode cX8_isOneOf 9 = .ok (.if_icmp .ge 115, 3) := dk_162 0 115 (dk_at dksX8_isOneOf_0 9 rfl rfl)
theorem dX8_isOneOf_12 : decode cX8_isOneOf 12 = .ok (.aload_n 1, 1) := dk_43 (dk_at dksX8_isOneOf_0 12 rfl rfl)
theorem dX8_isOneOf_13 : decode cX8_isOneOf 13 = .ok (.bipush 32, 2) := dk_16 32 (dk_at dksX8_isOneOf_0 13 rfl rfl)
theorem dX8_isOneOf_15 : decode cX8_isOneOf 15 = .ok (.iload_n 3, 1) := dk_29 (dk_at dksX8_isOneOf_0 15 rfl rfl)
theorem dX8_isOneOf_16 : decode cX8_isOneOf 16 = .ok (.invokevirtual 216, 3) := dk_182 0 216 (dk_at dksX8_isOneOf_0 16 rfl rfl)
theorem dX8_isOneOf_19 : decode cX8_isOneOf 19 = .ok (.istore 4, 2) := dk_54 4 (dk_at dksX8_isOneOf_0 19 rfl rfl)
theorem dX8_isOneOf_21 : decode cX8_isOneOf 21 = .ok (.iconst 0, 1) := dk_3 (dk_at dksX8_isOneOf_0 21 rfl rfl)
theorem dX8_isOneOf_22 : decode cX8_isOneOf 22 = .ok (.istore 5, 2) := dk_54 5 (dk_at dksX8_isOneOf_0 22 rfl rfl)
theorem dX8_isOneOf_24 : decode cX8_isOneOf 24 = .ok (.iload 5, 2) := dk_21 5 (dk_at dksX8_isOneOf_1 0 rfl rfl)
theorem dX8_isOneOf_26 : decode cX8_isOneOf 26 = .ok (.iload 4, 2) := dk_21 4 (dk_at dksX8_isOneOf_1 2 rfl rfl)
theorem dX8_isOneOf_28 : decode cX8_isOneOf 28 = .ok (.iload_n 3, 1) := dk_29 (dk_at dksX8_isOneOf_1 4 rfl rfl)
theorem dX8_isOneOf_29 : decode cX8_isOneOf 29 = .ok (.isub, 1) := dk_100 (dk_at dksX8_isOneOf_1 5 rfl rfl)
theorem dX8_isOneOf_30 : decode cX8_isOneOf 30 = .ok (.if_icmp .ge 46, 3) := dk_162 0 46 (dk_at dksX8_isOneOf_1 6 rfl rfl)
theorem dX8_isOneOf_33 : decode cX8_isOneOf 33 = .ok (.aload_n 0, 1) := dk_42 (dk_at dksX8_isOneOf_1 9 rfl rfl)
theorem dX8_isOneOf_34 : decode cX8_isOneOf 34 = .ok (.getfield 209, 3) := dk_180 0 209 (dk_at dksX8_isOneOf_1 10 rfl rfl)
theorem dX8_isOneOf_37 : decode cX8_isOneOf 37 = .ok (.iload 5, 2) := dk_21 5 (dk_at dksX8_isOneOf_1 13 rfl rfl)
theorem dX8_isOneOf_39 : decode cX8_isOneOf 39 = .ok (.iadd, 1) := dk_96 (dk_at dksX8_isOneOf_1 15 rfl rfl)
theorem dX8_isOneOf_40 : decode cX8_isOneOf 40 = .ok (.aload_n 0, 1) := dk_42 (dk_at dksX8_isOneOf_1 16 rfl rfl)
theorem dX8_isOneOf_41 : decode cX8_isOneOf 41 = .ok (.getfield 206, 3) := dk_180 0 206 (dk_at dksX8_isOneOf_1 17 rfl rfl)
theorem dX8_isOneOf_44 : decode cX8_isOneOf 44 = .ok (.if_icmp .ge 32, 3) := dk_162 0 32 (dk_at dksX8_isOneOf_1 20 rfl rfl)
theorem dX8_isOneOf_47 : decode cX8_isOneOf 47 = .ok (.aload_n 0, 1) := dk_42 (dk_at dksX8_isOneOf_1 23 rfl rfl)
theorem dX8_isOneOf_48 : decode cX8_isOneOf 48 = .ok (.getfield 29, 3) := dk_180 0 29 (dk_at dksX8_isOneOf_2 0 rfl rfl)
theorem dX8_isOneOf_51 : decode cX8_isOneOf 51 = .ok (.aload_n 0, 1) := dk_42 (dk_at dksX8_isOneOf_2 3 rfl rfl)
theorem dX8_isOneOf_52 : decode cX8_isOneOf 52 = .ok (.getfield 209, 3) := dk_180 0 209 (dk_at dksX8_isOneOf_2 4 rfl rfl)
theorem dX8_isOneOf_55 : decode cX8_isOneOf 55 = .ok (.iload 5, 2) := dk_21 5 (dk_at dksX8_isOneOf_2 7 rfl rfl)
theorem dX8_isOneOf_57 : decode cX8_isOneOf 57 = .ok (.iadd, 1) := dk_96 (dk_at dksX8_isOneOf_2 9 rfl rfl)
theorem dX8_isOneOf_58 : decode cX8_isOneOf 58 = .ok (.caload, 1) := dk_52 (dk_at dksX8_isOneOf_2 10 rfl rfl)
theorem dX8_isOneOf_59 : decode cX8_isOneOf 59 = .ok (.aload_n 1, 1) := dk_43 (dk_at dksX8_isOneOf_2 11 rfl rfl)
theorem dX8_isOneOf_60 : decode cX8_isOneOf 60 = .ok (.iload_n 3, 1) := dk_29 (dk_at dksX8_isOneOf_2 12 rfl rfl)
theorem dX8_isOneOf_61 : decode cX8_isOneOf 61 = .ok (.iload 5, 2) := dk_21 5 (dk_at dksX8_isOneOf_2 13 rfl rfl)
theorem dX8_isOneOf_63 : decode cX8_isOneOf 63 = .ok (.iadd, 1) := dk_96 (dk_at dksX8_isOneOf_2 15 rfl rfl)
theorem dX8_isOneOf_64 : decode cX8_isOneOf 64 = .ok (.invokevirtual 219, 3) := dk_182 0 219 (dk_at dksX8_isOneOf_2 16 rfl rfl)
theorem dX8_isOneOf_67 : decode cX8_isOneOf 67 = .ok (.if_icmp .ne 9, 3) := dk_160 0 9 (dk_at dksX8_isOneOf_2 19 rfl rfl)
theorem dX8_isOneOf_70 : decode cX8_isOneOf 70 = .ok (.iinc 5 1, 3) := dk_132 5 1 (dk_at dksX8_isOneOf_3 0 rfl rfl)
theorem dX8_isOneOf_73 : decode cX8_isOneOf 73 = .ok (.goto (-49), 3) := dk_167 255 207 (dk_at dksX8_isOneOf_3 3 rfl rfl)
theorem dX8_isOneOf_76 : decode cX8_isOneOf 76 = .ok (.iload 5, 2) := dk_21 5 (dk_at dksX8_isOneOf_3 6 rfl rfl)
theorem dX8_isOneOf_78 : decode cX8_isOneOf 78 = .ok (.iload 4, 2) := dk_21 4 (dk_at dksX8_isOneOf_3 8 rfl rfl)
theorem dX8_isOneOf_80 : decode cX8_isOneOf 80 = .ok (.iload_n 3, 1) := dk_29 (dk_at dksX8_isOneOf_3 10 rfl rfl)
theorem dX8_isOneOf_81 : decode cX8_isOneOf 81 = .ok (.isub, 1) := dk_100 (dk_at dksX8_isOneOf_3 11 rfl rfl)
theorem dX8_isOneOf_82 : decode cX8_isOneOf 82 = .ok (.if_icmp .ne 27, 3) := dk_160 0 27 (dk_at dksX8_isOneOf_3 12 rfl rfl)
theorem dX8_isOneOf_85 : decode cX8_isOneOf 85 = .ok (.aload_n 0, 1) := dk_42 (dk_at dksX8_isOneOf_3 15 rfl rfl)
theorem dX8_isOneOf_86 : decode cX8_isOneOf 86 = .ok (.aload_n 1, 1) := dk_43 (dk_at dksX8_isOneOf_3 16 rfl rfl)
theorem dX8_isOneOf_87 : decode cX8_isOneOf 87 = .ok (.iload_n 3, 1) := dk_29 (dk_at dksX8_isOneOf_3 17 rfl rfl)
theorem dX8_isOneOf_88 : decode cX8_isOneOf 88 = .ok (.iload 4, 2) := dk_21 4 (dk_at dksX8_isOneOf_3 18 rfl rfl)
theorem dX8_isOneOf_90 : decode cX8_isOneOf 90 = .ok (.invokevirtual 223, 3) := dk_182 0 223 (dk_at dksX8_isOneOf_3 20 rfl rfl)
theorem dX8_isOneOf_93 : decode cX8_isOneOf 93 = .ok (.putfield 34, 3) := dk_181 0 34 (dk_at dksX8_isOneOf_4 0 rfl rfl)
theorem dX8_isOneOf_96 : decode cX8_isOneOf 96 = .ok (.aload_n 0, 1) := dk_42 (dk_at dksX8_isOneOf_4 3 rfl rfl)
theorem dX8_isOneOf_97 : decode cX8_isOneOf 97 = .ok (.dup, 1) := dk_89 (dk_at dksX8_isOneOf_4 4 rfl rfl)
theorem dX8_isOneOf_98 : decode cX8_isOneOf 98 = .ok (.getfield 209, 3) := dk_180 0 209 (dk_at dksX8_isOneOf_4 5 rfl rfl)
theorem dX8_isOneOf_101 : decode cX8_isOneOf 101 = .ok (.iload 5, 2) := dk_21 5 (dk_at dksX8_isOneOf_4 8 rfl rfl)
theorem dX8_isOneOf_103 : decode cX8_isOneOf 103 = .ok (.iadd, 1) := dk_96 (dk_at dksX8_isOneOf_4 10 rfl rfl)
theorem dX8_isOneOf_104 : decode cX8_isOneOf 104 = .ok (.putfield 209, 3) := dk_181 0 209 (dk_at dksX8_isOneOf_4 11 rfl rfl)
theorem dX8_isOneOf_107 : decode cX8_isOneOf 107 = .ok (.iconst 1, 1) := dk_4 (dk_at dksX8_isOneOf_4 14 rfl rfl)
theorem dX8_isOneOf_108 : decode cX8_isOneOf 108 = .ok (.ireturn, 1) := dk_172 (dk_at dksX8_isOneOf_4 15 rfl rfl)
theorem dX8_isOneOf_109 : decode cX8_isOneOf 109 = .ok (.iload_n 2, 1) := dk_28 (dk_at dksX8_isOneOf_4 16 rfl rfl)
theorem dX8_isOneOf_110 : decode cX8_isOneOf 110 = .ok (.iload 5, 2) := dk_21 5 (dk_at dksX8_isOneOf_4 17 rfl rfl)
theorem dX8_isOneOf_112 : decode cX8_isOneOf 112 = .ok (.invokestatic 168, 3) := dk_184 0 168 (dk_at dksX8_isOneOf_4 19 rfl rfl)
theorem dX8_isOneOf_115 : decode cX8_isOneOf 115 = .ok (.istore_n 2, 1) := dk_61 (dk_at dksX8_isOneOf_4 22 rfl rfl)
theorem dX8_isOneOf_116 : decode cX8_isOneOf 116 = .ok (.iload 4, 2) := dk_21 4 (dk_at dksX8_isOneOf_5 0 rfl rfl)
theorem dX8_isOneOf_118 : decode cX8_isOneOf 118 = .ok (.iconst 1, 1) := dk_4 (dk_at dksX8_isOneOf_5 2 rfl rfl)
theorem dX8_isOneOf_119 : decode cX8_isOneOf 119 = .ok (.iadd, 1) := dk_96 (dk_at dksX8_isOneOf_5 3 rfl rfl)
theorem dX8_isOneOf_120 : decode cX8_isOneOf 120 = .ok (.istore_n 3, 1) := dk_62 (dk_at dksX8_isOneOf_5 4 rfl rfl)
theorem dX8_isOneOf_121 : decode cX8_isOneOf 121 = .ok (.goto (-117), 3) := dk_167 255 139 (dk_at dksX8_isOneOf_5 5 rfl rfl)
theorem dX8_isOneOf_124 : decode cX8_isOneOf 124 = .ok (.aload_n 0, 1) := dk_42 (dk_at dksX8_isOneOf_5 8 rfl rfl)
theorem dX8_isOneOf_125 : decode cX8_isOneOf 125 = .ok (.dup, 1) := dk_89 (dk_at dksX8_isOneOf_5 9 rfl rfl)
theorem dX8_isOneOf_126 : decode cX8_isOneOf 126 = .ok (.getfield 209, 3) := dk_180 0 209 (dk_at dksX8_isOneOf_5 10 rfl rfl)
theorem dX8_isOneOf_129 : decode cX8_isOneOf 129 = .ok (.iload_n 2, 1) := dk_28 (dk_at dksX8_isOneOf_5 13 rfl rfl)
theorem dX8_isOneOf_130 : decode cX8_isOneOf 130 = .ok (.iadd, 1) := dk_96 (dk_at dksX8_isOneOf_5 14 rfl rfl)
theorem dX8_isOneOf_131 : decode cX8_isOneOf 131 = .ok (.putfield 209, 3) := dk_181 0 209 (dk_at dksX8_isOneOf_5 15 rfl rfl)
theorem dX8_isOneOf_134 : decode cX8_isOneOf 134 = .ok (.iconst 0, 1) := dk_3 (dk_at dksX8_isOneOf_5 18 rfl rfl)
theorem dX8_isOneOf_135 : decode cX8_isOneOf 135 = .ok (.ireturn, 1) := dk_172 (dk_at dksX8_isOneOf_5 19 rfl rfl)
theorem q2246 : (Jvm.Cond.fieldLink "SpanRulerModel" (209 : Nat) "SpanRulerModel" "at" "I") ∈ lw_all := lw_g (lw_at lw_m10 26 rfl) rfl
theorem q2685 : (Jvm.Cond.methodLink "SpanRulerModel" (227 : Nat) ({ cls := "SpanRulerModel", name := "takes", desc := "(C)Z" } : Jvm.MethodName)) ∈ lw_all := lw_g (lw_at lw_m11 225 rfl) rfl
theorem q2688 : (Jvm.Cond.code ({ cls := "SpanRulerModel", name := "takes", desc := "(C)Z" } : Jvm.MethodName) prog_19_method_73_code (2 : Nat) (Option.some Jvm.ClassFile.FieldType.boolean)) ∈ lw_all := lw_g (lw_at lw_m11 228 rfl) rfl
theorem q2687 : (Jvm.Cond.instanceMethod ({ cls := "SpanRulerModel", name := "takes", desc := "(C)Z" } : Jvm.MethodName)) ∈ lw_all := lw_g (lw_at lw_m11 227 rfl) rfl
theorem q2248 : (Jvm.Cond.fieldLink "SpanRulerModel" (38 : Nat) "SpanRulerModel" "told" "[I") ∈ lw_all := lw_g (lw_at lw_m10 28 rfl) rfl
theorem q2681 : (Jvm.Cond.methodLink "SpanRulerModel" (231 : Nat) ({ cls := "SpanRulerModel", name := "isNumber", desc := "(IZ)Z" } : Jvm.MethodName)) ∈ lw_all := lw_g (lw_at lw_m11 221 rfl) rfl
theorem q2684 : (Jvm.Cond.code ({ cls := "SpanRulerModel", name := "isNumber", desc := "(IZ)Z" } : Jvm.MethodName) prog_19_method_75_code (5 : Nat) (Option.some Jvm.ClassFile.FieldType.boolean)) ∈ lw_all := lw_g (lw_at lw_m11 224 rfl) rfl
theorem q2683 : (Jvm.Cond.instanceMethod ({ cls := "SpanRulerModel", name := "isNumber", desc := "(IZ)Z" } : Jvm.MethodName)) ∈ lw_all := lw_g (lw_at lw_m11 223 rfl) rfl
theorem q2594 : (Jvm.Cond.methodLink "SpanRulerModel" (212 : Nat) ({ cls := "java/lang/String", name := "length", desc := "()I" } : Jvm.MethodName)) ∈ lw_all := lw_g (lw_at lw_m11 134 rfl) rfl
theorem q2595 : (Jvm.Cond.methodLink "SpanRulerModel" (216 : Nat) ({ cls := "java/lang/String", name := "indexOf", desc := "(II)I" } : Jvm.MethodName)) ∈ lw_all := lw_g (lw_at lw_m11 135 rfl) rfl
theorem q2598 : (Jvm.Cond.code ({ cls := "java/lang/String", name := "indexOf", desc := "(II)I" } : Jvm.MethodName) prog_39_method_80_code (3 : Nat) (Option.some Jvm.ClassFile.FieldType.int)) ∈ lw_all := lw_g (lw_at lw_m11 138 rfl) rfl
theorem q2596 : (Jvm.Cond.instanceMethod ({ cls := "java/lang/String", name := "indexOf", desc := "(II)I" } : Jvm.MethodName)) ∈ lw_all := lw_g (lw_at lw_m11 136 rfl) rfl
theorem q2597 : (Jvm.Cond.selects "java/lang/String" ({ cls := "java/lang/String", name := "indexOf", desc := "(II)I" } : Jvm.MethodName) ({ cls := "java/lang/String", name := "indexOf", desc := "(II)I" } : Jvm.MethodName)) ∈ lw_all := lw_g (lw_at lw_m11 137 rfl) rfl
theorem q2647 : (Jvm.Cond.methodLink "SpanRulerModel" (223 : Nat) ({ cls := "java/lang/String", name := "substring", desc := "(II)Ljava/lang/String;" } : Jvm.MethodName)) ∈ lw_all := lw_g (lw_at lw_m11 187 rfl) rfl
theorem q2650 : (Jvm.Cond.code ({ cls := "java/lang/String", name := "substring", desc := "(II)Ljava/lang/String;" } : Jvm.MethodName) prog_39_method_92_code (5 : Nat) (Option.some (Jvm.ClassFile.FieldType.object "java/lang/String"))) ∈ lw_all := lw_g (lw_at lw_m11 190 rfl) rfl
theorem q2648 : (Jvm.Cond.instanceMethod ({ cls := "java/lang/String", name := "substring", desc := "(II)Ljava/lang/String;" } : Jvm.MethodName)) ∈ lw_all := lw_g (lw_at lw_m11 188 rfl) rfl
theorem q2649 : (Jvm.Cond.selects "java/lang/String" ({ cls := "java/lang/String", name := "substring", desc := "(II)Ljava/lang/String;" } : Jvm.MethodName) ({ cls := "java/lang/String", name := "substring", desc := "(II)Ljava/lang/String;" } : Jvm.MethodName)) ∈ lw_all := lw_g (lw_at lw_m11 189 rfl) rfl
theorem q2247 : (Jvm.Cond.fieldLink "SpanRulerModel" (34 : Nat) "SpanRulerModel" "word" "Ljava/lang/String;") ∈ lw_all := lw_g (lw_at lw_m10 27 rfl) rfl
theorem q2636 : (Jvm.Cond.methodLink "SpanRulerModel" (219 : Nat) ({ cls := "java/lang/String", name := "charAt", desc := "(I)C" } : Jvm.MethodName)) ∈ lw_all := lw_g (lw_at lw_m11 176 rfl) rfl
theorem q2639 : (Jvm.Cond.code ({ cls := "java/lang/String", name := "charAt", desc := "(I)C" } : Jvm.MethodName) prog_39_method_56_code (2 : Nat) (Option.some Jvm.ClassFile.FieldType.char)) ∈ lw_all := lw_g (lw_at lw_m11 179 rfl) rfl
theorem q2637 : (Jvm.Cond.instanceMethod ({ cls := "java/lang/String", name := "charAt", desc := "(I)C" } : Jvm.MethodName)) ∈ lw_all := lw_g (lw_at lw_m11 177 rfl) rfl
theorem q2638 : (Jvm.Cond.selects "java/lang/String" ({ cls := "java/lang/String", name := "charAt", desc := "(I)C" } : Jvm.MethodName) ({ cls := "java/lang/String", name := "charAt", desc := "(I)C" } : Jvm.MethodName)) ∈ lw_all := lw_g (lw_at lw_m11 178 rfl) rfl
/-! the model's texts -/
def mL (s : MS) : Nat := nn (s.I 10)
def mP (s : MS) : Nat := nn (s.I 11)
def mPo (s : MS) : Prop := s.I 10 = nI (mL s) ∧ mL s ≤ 60 ∧ s.I 11 = nI (mP s) ∧ mP s ≤ mL s
def adv (s : MS) (n : Nat) : MS := mI s 11 (nI (mP s + n))
def mTakes (s : MS) (c : Int32) : Bool × MS := if mP s = mL s then (false, s) else if s.A 9 (mP s) = c then (true, adv s 1) else (false, s)
theorem adv_po {s : MS} {n : Nat} (h : mPo s) (hn : mP s + n ≤ mL s) : mPo (adv s n) ∧ mP (adv s n) = mP s + n ∧ mL (adv s n) = mL s := by
  obtain ⟨h1, h2, h3, h4⟩ := h
  have e : mP (adv s n) = mP s + n := by
    show nn (upd s.I 11 (nI (mP s + n)) 11) = _
    rw [upd_at]; exact nn_nI (by omega)
  refine ⟨⟨h1, h2, ?_, ?_⟩, e, rfl⟩
  · rw [e]; show upd s.I 11 (nI (mP s + n)) 11 = _; rw [upd_at]
  · rw [e]; exact hn
theorem mTakes_po {s : MS} {c : Int32} (h : mPo s) : mPo (mTakes s c).2 := by
  unfold mTakes
  split
  · exact h
  · split
    · exact (adv_po h (by have := h.2.2.2; omega)).1
    · exact h
/-- digits: how many, and the state -/
def dgT (s : MS) : Bool := decide (mP s < mL s) && inR (s.A 9 (mP s)) 48 57
def dgS (k : Nat) (t : MS) : MS := mA (adv t 1) 13 k (10 * t.A 13 k + t.A 9 (mP t) - 48)
def dgl (k : Nat) : Nat → Nat → MS → Nat × MS
  | 0, n, t => (n, t)
  | m + 1, n, t => cond (dgT t) (dgl k m (n + 1) (dgS k t)) (n, t)
theorem dgl_t {k m n : Nat} {t : MS} {F : Nat × MS} (h : dgT t = true) (g : dgl k (m + 1) n t = F) : dgl k m (n + 1) (dgS k t) = F := by
  rw [dgl, h] at g; exact g
theorem dgl_f {k m n : Nat} {t : MS} {F : Nat × MS} (h : dgT t = false) (g : dgl k (m + 1) n t = F) : (n, t) = F := by
  rw [dgl, h] at g; exact g
theorem dgT_1 {t : MS} (h : dgT t = true) : mP t < mL t ∧ inR (t.A 9 (mP t)) 48 57 = true := by
  simpa [dgT] using h
theorem dgS_po {k : Nat} {t : MS} (h : mPo t) (hd : dgT t = true) : mPo (dgS k t) := (adv_po h (by have := (dgT_1 hd).1; omega)).1
/-- the sign, if one is asked for -/
def sgS (s : MS) (z : Int32) : Bool × MS := if z = 0 then (false, s) else mTakes s 45
def numS (k : Nat) (z : Int32) (s : MS) : Nat × MS := dgl k 3 0 (mA (sgS s z).2 13 k 0)
def mIsNum (s : MS) (k : Nat) (z : Int32) : Bool × MS := if (mTakes s 32).1 = true then (decide (0 < (numS k z (mTakes s 32).2).1), if (sgS (mTakes s 32).2 z).1 = true then mA (numS k z (mTakes s 32).2).2 13 k (-(numS k z (mTakes s 32).2).2.A 13 k) else (numS k z (mTakes s 32).2).2) else (false, (mTakes s 32).2)
def mSpTold (s : MS) : Bool × MS := if (mIsNum s 0 0).1 = true then mIsNum (mIsNum s 0 0).2 1 0 else (false, (mIsNum s 0 0).2)
theorem sgS_po {s : MS} {z : Int32} (h : mPo s) : mPo (sgS s z).2 := by
  unfold sgS; split
  · exact h
  · exact mTakes_po h
theorem dgl_po {k : Nat} : ∀ (m n : Nat) (t : MS), mPo t → mPo (dgl k m n t).2 ∧ (dgl k m n t).1 ≤ n + m := by
  intro m
  induction m with
  | zero => intro n t h; exact ⟨h, Nat.le_refl _⟩
  | succ m ih =>
    intro n t h
    rw [dgl]
    cases e : dgT t with
    | true =>
      obtain ⟨a, b⟩ := ih (n + 1) _ (dgS_po (k := k) h e)
      exact ⟨a, by rw [cond_true]; omega⟩
    | false => exact ⟨h, by rw [cond_false]; omega⟩
theorem numS_po {k : Nat} {z : Int32} {s : MS} (h : mPo s) : mPo (numS k z s).2 ∧ (numS k z s).1 ≤ 3 := by
  unfold numS
  obtain ⟨a, b⟩ := dgl_po (k := k) 3 0 (mA (sgS s z).2 13 k 0) (sgS_po (z := z) h)
  exact ⟨a, by omega⟩
theorem mIsNum_po {s : MS} {k : Nat} {z : Int32} (h : mPo s) : mPo (mIsNum s k z).2 := by
  unfold mIsNum
  split
  · show mPo (if _ then _ else _)
    split
    · exact (numS_po (mTakes_po h)).1
    · exact (numS_po (mTakes_po h)).1
  · exact mTakes_po h
theorem mSpTold_po {s : MS} (h : mPo s) : mPo (mSpTold s).2 := by
  unfold mSpTold
  split
  · exact mIsNum_po (mIsNum_po h)
  · exact mIsNum_po h
/-- how far a text begins like a word -/
def cpx (T : Nat → Int32) (L p : Nat) (g : Nat → Int32) (a : Nat) : Nat → Nat → Nat
  | 0, n => n
  | m + 1, n => if p + n < L then (if T (p + n) = g (a + n) then cpx T L p g a m (n + 1) else n) else n
theorem cpx_le {T : Nat → Int32} {L p : Nat} {g : Nat → Int32} {a : Nat} : ∀ m n, p + n ≤ L → cpx T L p g a m n ≤ n + m ∧ p + cpx T L p g a m n ≤ L := by
  intro m
  induction m with
  | zero => intro n h; exact ⟨Nat.le_refl _, h⟩
  | succ m ih =>
    intro n h
    rw [cpx]
    split
    · split
      · obtain ⟨x, y⟩ := ih (n + 1) (by omega)
        exact ⟨by omega, y⟩
      · exact ⟨by omega, h⟩
    · exact ⟨by omega, h⟩
theorem cpx_t {T : Nat → Int32} {L p : Nat} {g : Nat → Int32} {a m n F : Nat} (h : p + n < L) (h2 : T (p + n) = g (a + n)) (z : cpx T L p g a (m + 1) n = F) : cpx T L p g a m (n + 1) = F := by
  rw [cpx, if_pos h, if_pos h2] at z; exact z
theorem cpx_f {T : Nat → Int32} {L p : Nat} {g : Nat → Int32} {a m n F : Nat} (h : p + n < L) (h2 : ¬ T (p + n) = g (a + n)) (z : cpx T L p g a (m + 1) n = F) : n = F := by
  rw [cpx, if_pos h, if_neg h2] at z; exact z
theorem cpx_e {T : Nat → Int32} {L p : Nat} {g : Nat → Int32} {a m n F : Nat} (h : ¬ p + n < L) (z : cpx T L p g a (m + 1) n = F) : n = F := by
  rw [cpx, if_neg h] at z; exact z
/-- one of some words (their places in g): which, and how far -/
def ooL (T : Nat → Int32) (L p : Nat) (g : Nat → Int32) : List (Nat × Nat) → Nat → Option (Nat × Nat) × Nat
  | [], m => (none, m)
  | x :: r, m => if cpx T L p g x.1 (x.2 - x.1) 0 = x.2 - x.1 then (some x, x.2 - x.1) else ooL T L p g r (max m (cpx T L p g x.1 (x.2 - x.1) 0))
def Wsp (g : Nat → Int32) (N : Nat) : Nat → List (Nat × Nat) → Prop
  | q, [] => q = N
  | q, x :: r => x.1 = q ∧ x.1 < x.2 ∧ x.2 < N ∧ x.2 ≤ x.1 + 5 ∧ ixL g 32 (N - x.1) x.1 = nI x.2 ∧ Wsp g N (x.2 + 1) r
def Sub (h h' : AH) : Prop := ∀ q e, h q = some e → h' q = some e
theorem Sub.rfl {h : AH} : Sub h h := fun _ _ z => z
theorem Sub.trans {h1 h2 h3 : AH} (x : Sub h1 h2) (y : Sub h2 h3) : Sub h1 h3 := fun q e z => y q e (x q e z)
theorem Sub.up {h h' : AH} {a : Nat} {e : va_E} (x : Sub h h') (ha : h a = none) : Sub h (up h' a e) := fun q y z => by
  rw [up_ne (fun w => by subst w; rw [ha] at z; cases z)]; exact x q y z
def NewW (G : GE) (ad : Nat → Nat) (h0 h : AH) (c : Nat) (g : Nat → Int32) (a b : Nat) : Prop := ∃ d, h c = some (ob 15 [.ref d, .int 0, .int 0, .int 0]) ∧ h d = some (aB G (b - a) (va_cpy g (fun _ => 0) a 0 (b - a))) ∧ c ≠ d ∧ h0 c = none ∧ ∀ k ∈ mks, ad k ≠ c ∧ ad k ≠ d
theorem mput_no {G : GE} {h0 : AH} {ad : Nat → Nat} {s : MS} {c : Nat} (hA : MAd ad) (hc : mput G h0 ad s c = none) : ∀ k ∈ mks, ad k ≠ c := by
  intro k hk z
  subst z
  rw [mput_at hA hk] at hc; cases hc
theorem mput_fr {G : GE} {h0 : AH} {ad : Nat → Nat} {s : MS} {c : Nat} {e : va_E} (hA : MAd ad) (hc : mput G h0 ad s c = none) : up (mput G h0 ad s) c e = mput G (up h0 c e) ad s ∧ h0 c = none := by
  have off : ∀ k ∈ mks, ad k ≠ c := by
    intro k hk z
    subst z
    rw [mput_at hA hk] at hc; cases hc
  refine ⟨?_, by rw [mput_off off] at hc; exact hc⟩
  funext q
  by_cases z : q = c
  · subst z; rw [up_self, mput_off off, up_self]
  · rw [up_ne z]
    by_cases y : ∃ j ∈ mks, ad j = q
    · obtain ⟨j, hj, ej⟩ := y
      subst ej
      rw [mput_at hA hj, mput_at hA hj]
    · have y' : ∀ j ∈ mks, ad j ≠ q := fun j hj e => y ⟨j, hj, e⟩
      rw [mput_off y', mput_off y', up_ne z]
theorem mx_nI {a b : Nat} (ha : a < 2 ^ 31) (hb : b < 2 ^ 31) : (if nI a < nI b then nI b else nI a) = nI (max a b) := by
  by_cases h : a < b
  · rw [if_pos (nI_lt h hb), Nat.max_eq_right (by omega)]
  · rw [if_neg (nI_nlt (by omega) ha), Nat.max_eq_left (by omega)]
def ooS (s : MS) (g : Nat → Int32) (W : List (Nat × Nat)) : Option (Nat × Nat) × Nat := ooL (s.A 9) (mL s) (mP s) g W 0
theorem m_takes (l : Launch) (G : GE) {h0 : AH} {ad : Nat → Nat} (hA : MAd ad) (s : MS) (c : Int32) (y0 : mPo s) : GM l G yX8_takes (ws_ yX8_takes cX8_takes 2 (some .boolean)) 1 [.ref (ad 20), .int c] (mput G h0 ad s) (0) (PV (.int (bI (mTakes s c).1)) (mput G h0 ad (mTakes s c).2)) := by
  refine GM.of (by decide) (dk rfl) ?_
  intro X eL eG eh ok fn
  subst eL; subst eG
  show GW X _ 0 0 [some (.ref (ad 20)), some (.int c)] []
  obtain ⟨p1, p2, p3, p4⟩ := id y0
  refine g_aload_n ok dX8_takes_0 rfl ?_
  refine m_get ok hA 11 q2246 (by decide) dX8_takes_1 (v := .int (nI (mP s))) (congrArg (fun z => some (Value.int z)) p3) ?_
  refine g_aload_n ok dX8_takes_4 rfl ?_
  refine m_get ok hA 10 q2245 (by decide) dX8_takes_5 (v := .int (nI (mL s))) (congrArg (fun z => some (Value.int z)) p1) ?_
  by_cases hp : mP s = mL s
  · refine g_icmp_eq ok (tgt := 24) dX8_takes_8 (by decide) (fun _ => ?_) (fun c => absurd (congrArg nI hp) c)
    refine g_iconst ok (v := 0) dX8_takes_24 rfl ?_
    exact g_zret ok fn rfl rfl dX8_takes_25 (pv_i (by unfold mTakes; rw [if_pos hp]; rfl) (by unfold mTakes; rw [if_pos hp])) (dk rfl)
  · refine g_icmp_eq ok (tgt := 24) dX8_takes_8 (by decide) (fun c => absurd ((nI_eq (by omega) (by omega)).mp c) hp) (fun _ => ?_)
    refine g_aload_n ok dX8_takes_11 rfl ?_
    refine m_get ok hA 9 q2244 (by decide) dX8_takes_12 (v := .ref (ad 9)) rfl ?_
    refine g_aload_n ok dX8_takes_15 rfl ?_
    refine m_get ok hA 11 q2246 (by decide) dX8_takes_16 (v := .int (nI (mP s))) (congrArg (fun z => some (Value.int z)) p3) ?_
    refine m_cald ok hA 9 (mP s) (v := (MS.A s 9 (mP s))) (by decide) dX8_takes_19 rfl (by simp only [mlen]; omega) rfl ?_
    refine g_iload_n ok dX8_takes_20 rfl ?_
    refine g_icmp_eq ok (tgt := 26) dX8_takes_21 (by decide) (fun c21 => ?_) (fun c21 => ?_)
    · refine g_aload_n ok dX8_takes_26 rfl ?_
      refine g_dup ok dX8_takes_27 rfl ?_
      refine m_get ok hA 11 q2246 (by decide) dX8_takes_28 (v := .int (nI (mP s))) (congrArg (fun z => some (Value.int z)) p3) ?_
      refine g_iconst ok (v := 1) dX8_takes_31 rfl ?_
      refine g_iaddN ok dX8_takes_32 (c := ((mP s) + 1)) (a := (mP s)) (b := 1) rfl rfl rfl ?_
      refine m_put ok hA 11 q2246 (by decide) dX8_takes_33 ⟨rfl, rfl⟩ ?_
      refine g_iconst ok (v := 1) dX8_takes_36 rfl ?_
      exact g_zret ok fn rfl rfl dX8_takes_37 (pv_i (by unfold mTakes; rw [if_neg hp, if_pos c21]; rfl) (by unfold mTakes; rw [if_neg hp, if_pos c21]; rfl)) (dk rfl)
    · refine g_iconst ok (v := 0) dX8_takes_24 rfl ?_
      exact g_zret ok fn rfl rfl dX8_takes_25 (pv_i (by unfold mTakes; rw [if_neg hp, if_neg c21]; rfl) (by unfold mTakes; rw [if_neg hp, if_neg c21])) (dk rfl)
theorem m_isNum (l : Launch) (G : GE) {h0 : AH} {ad : Nat → Nat} (hA : MAd ad) (s : MS) (k : Nat) (z : Int32) (y0 : mPo s) (y1 : k < 3) : GM l G yX8_isNumber_2 (ws_ yX8_isNumber_2 cX8_isNumber_2 5 (some .boolean)) 2 [.ref (ad 20), .int (nI k), .int z] (mput G h0 ad s) (0) (PV (.int (bI (mIsNum s k z).1)) (mput G h0 ad (mIsNum s k z).2)) := by
  refine GM.of (by decide) (dk rfl) ?_
  intro X eL eG eh ok fn
  subst eL; subst eG
  show GW X _ 0 0 [some (.ref (ad 20)), some (.int (nI k)), some (.int z), none, none] []
  refine g_aload_n ok dX8_isNumber_2_0 rfl ?_
  refine g_bipush ok (v := 32) dX8_isNumber_2_1 rfl ?_
  refine g_callV ok q2685 q2687 qs56 q75 q2688 (m_recv ok hA) dX8_isNumber_2_3 (m_takes X.l X.G hA (h0 := h0) s 32 y0) (nm_ (by decide : nmb _ 1 = true)) (dl rfl) (dk rfl) rfl rfl (dk rfl) (dk rfl) (kV ?_) xV
  refine g_if_ne ok (tgt := 11) dX8_isNumber_2_6 (by decide) (fun c6 => ?_) (fun c6 => ?_)
  · have c6' := bI_n c6
    have tk := mTakes_po (c := 32) y0
    obtain ⟨S, hS⟩ : ∃ S : MS, (mTakes s 32).2 = S := ⟨_, rfl⟩
    have hs_ : mIsNum s k z = (decide (0 < (numS k z S).1), if (sgS S z).1 = true then mA (numS k z S).2 13 k (-(numS k z S).2.A 13 k) else (numS k z S).2) := by unfold mIsNum; rw [if_pos c6', hS]
    rw [hs_] at fn
    clear hs_
    rw [hS] at tk ⊢
    clear hS c6 c6'
    refine g_iload_n ok dX8_isNumber_2_11 rfl ?_
    refine g_if_eq ok (tgt := 28) dX8_isNumber_2_12 (by decide) (fun c12 => ?_) (fun c12 => ?_)
    · refine g_iconst ok (v := 0) dX8_isNumber_2_28 rfl ?_
      have sg : sgS S z = (false, S) := by unfold sgS; rw [if_pos c12]
      have tq : mPo (sgS S z).2 := sgS_po tk
      rw [sg] at tq
      obtain ⟨T, hT⟩ : ∃ T : MS, S = T := ⟨_, rfl⟩
      have hnum : numS k z S = dgl k 3 0 (mA T 13 k 0) := by unfold numS; rw [sg, ← hT]
      rw [sg, hnum] at fn
      subst hT
      have tq : mPo S := tq
      refine g_istore_n ok dX8_isNumber_2_29 (ls1 := [some (.ref (ad 20)), some (.int (nI k)), some (.int z), some (.int 0), none]) (dl rfl) rfl ?_
      refine g_iconst ok (v := 0) dX8_isNumber_2_30 rfl ?_
      refine g_istore ok dX8_isNumber_2_31 (ls1 := [some (.ref (ad 20)), some (.int (nI k)), some (.int z), some (.int 0), some (.int 0)]) (dl rfl) rfl ?_
      refine g_aload_n ok dX8_isNumber_2_33 rfl ?_
      refine m_get ok hA 13 q2248 (by decide) dX8_isNumber_2_34 (v := .ref (ad 13)) rfl ?_
      refine g_iload_n ok dX8_isNumber_2_37 rfl ?_
      refine g_iconst ok (v := 0) dX8_isNumber_2_38 rfl ?_
      refine m_ast ok hA 13 k (by decide) dX8_isNumber_2_39 rfl (by simp only [mlen]; omega) ?_
      have tr : mPo (mA S 13 k 0) := tq
      obtain ⟨F, hF⟩ : ∃ F : Nat × MS, dgl k 3 0 (mA S 13 k 0) = F := ⟨_, rfl⟩
      rw [hF] at fn
      have hf3 : F.1 ≤ 3 := by rw [← hF]; have := (dgl_po (k := k) 3 0 _ tr).2; omega
      have lp : ∀ (m : Nat) (n : Nat) (u : MS), (n + m = 3) → (dgl k m n u = F) → (mPo u) → GW X (mput X.G h0 ad u) 0 40 [some (.ref (ad 20)), some (.int (nI k)), some (.int z), some (.int 0), some (.int (nI n))] [] := by
        intro m
        induction m with
        | zero =>
          intro n u g0 g1 g2
          refine g_iload ok dX8_isNumber_2_40 rfl ?_
          refine g_iconst ok (v := 3) dX8_isNumber_2_42 rfl ?_
          refine g_icmp_ge ok (tgt := 117) dX8_isNumber_2_43 (by decide) (fun _ => ?_) (fun c_ => absurd (nI_le (a := 3) (b := n) (by omega) (by omega)) c_)
          have g1 : (n, u) = F := g1
          subst g1
          have hn3 : n ≤ 3 := hf3
          refine g_iload_n ok dX8_isNumber_2_117 rfl ?_
          refine g_if_eq ok (tgt := 134) dX8_isNumber_2_118 (by decide) (fun _ => ?_) (fun c_ => absurd (congrArg nI (by omega : 0 = 0)) c_)
          refine g_iload ok dX8_isNumber_2_134 rfl ?_
          by_cases n0 : n = 0
          · refine g_if_le ok (tgt := 143) dX8_isNumber_2_136 (by decide) (fun _ => ?_) (fun c_ => absurd (nI_le (a := n) (b := 0) (by omega) (by omega)) c_)
            refine g_iconst ok (v := 0) dX8_isNumber_2_143 rfl ?_
            exact g_zret ok fn rfl rfl dX8_isNumber_2_144 (pv_i (by rw [decide_eq_false (by omega)]; rfl) rfl) (dk rfl)
          · refine g_if_le ok (tgt := 143) dX8_isNumber_2_136 (by decide) (fun c_ => absurd c_ (nI_ge (a := 0) (b := n) (by omega) (by omega))) (fun _ => ?_)
            refine g_iconst ok (v := 1) dX8_isNumber_2_139 rfl ?_
            refine g_goto ok dX8_isNumber_2_140 (tgt := 144) (by decide) ?_
            exact g_zret ok fn rfl rfl dX8_isNumber_2_144 (pv_i (by rw [decide_eq_true (by omega)]; rfl) rfl) (dk rfl)
        | succ m ih =>
          intro n u g0 g1 g2
          obtain ⟨p1, p2, p3, p4⟩ := id g2
          refine g_iload ok dX8_isNumber_2_40 rfl ?_
          refine g_iconst ok (v := 3) dX8_isNumber_2_42 rfl ?_
          refine g_icmp_ge ok (tgt := 117) dX8_isNumber_2_43 (by decide) (fun c_ => absurd c_ (nI_ge (a := n) (b := 3) (by omega) (by omega))) (fun _ => ?_)
          refine g_aload_n ok dX8_isNumber_2_46 rfl ?_
          refine m_get ok hA 11 q2246 (by decide) dX8_isNumber_2_47 (v := .int (nI (mP u))) (congrArg (fun z => some (Value.int z)) p3) ?_
          refine g_aload_n ok dX8_isNumber_2_50 rfl ?_
          refine m_get ok hA 10 q2245 (by decide) dX8_isNumber_2_51 (v := .int (nI (mL u))) (congrArg (fun z => some (Value.int z)) p1) ?_
          by_cases pl : mP u < mL u
          · refine g_icmp_ge ok (tgt := 117) dX8_isNumber_2_54 (by decide) (fun c_ => absurd c_ (nI_ge (a := (mP u)) (b := (mL u)) (by omega) (by omega))) (fun _ => ?_)
            refine g_aload_n ok dX8_isNumber_2_57 rfl ?_
            refine m_get ok hA 9 q2244 (by decide) dX8_isNumber_2_58 (v := .ref (ad 9)) rfl ?_
            refine g_aload_n ok dX8_isNumber_2_61 rfl ?_
            refine m_get ok hA 11 q2246 (by decide) dX8_isNumber_2_62 (v := .int (nI (mP u))) (congrArg (fun z => some (Value.int z)) p3) ?_
            refine m_cald ok hA 9 (mP u) (v := (MS.A u 9 (mP u))) (by decide) dX8_isNumber_2_65 rfl (by simp only [mlen]; omega) rfl ?_
            refine g_bipush ok (v := 48) dX8_isNumber_2_66 rfl ?_
            refine g_bipush ok (v := 57) dX8_isNumber_2_68 rfl ?_
            refine g_callS ok q2321 q2322 q75 q2323 dX8_isNumber_2_70 (m_in X.l X.G _ (MS.A u 9 (mP u)) 48 57) (nm_ (by decide : nmb _ 3 = true)) (dl rfl) (dk rfl) rfl rfl (dk rfl) (dk rfl) (kV ?_) xV
            refine g_if_eq ok (tgt := 117) dX8_isNumber_2_73 (by decide) (fun c73 => ?_) (fun c73 => ?_)
            · have c73' := bI_e c73
              have g1 := dgl_f (by unfold dgT; rw [c73']; exact Bool.and_false _) g1
              subst g1
              have hn3 : n ≤ 3 := hf3
              refine g_iload_n ok dX8_isNumber_2_117 rfl ?_
              refine g_if_eq ok (tgt := 134) dX8_isNumber_2_118 (by decide) (fun _ => ?_) (fun c_ => absurd (congrArg nI (by omega : 0 = 0)) c_)
              refine g_iload ok dX8_isNumber_2_134 rfl ?_
              by_cases n0 : n = 0
              · refine g_if_le ok (tgt := 143) dX8_isNumber_2_136 (by decide) (fun _ => ?_) (fun c_ => absurd (nI_le (a := n) (b := 0) (by omega) (by omega)) c_)
                refine g_iconst ok (v := 0) dX8_isNumber_2_143 rfl ?_
                exact g_zret ok fn rfl rfl dX8_isNumber_2_144 (pv_i (by rw [decide_eq_false (by omega)]; rfl) rfl) (dk rfl)
              · refine g_if_le ok (tgt := 143) dX8_isNumber_2_136 (by decide) (fun c_ => absurd c_ (nI_ge (a := 0) (b := n) (by omega) (by omega))) (fun _ => ?_)
                refine g_iconst ok (v := 1) dX8_isNumber_2_139 rfl ?_
                refine g_goto ok dX8_isNumber_2_140 (tgt := 144) (by decide) ?_
                exact g_zret ok fn rfl rfl dX8_isNumber_2_144 (pv_i (by rw [decide_eq_true (by omega)]; rfl) rfl) (dk rfl)
            · have c73' := bI_n c73
              have dt : dgT u = true := by unfold dgT; rw [decide_eq_true pl, c73']; rfl
              refine g_aload_n ok dX8_isNumber_2_76 rfl ?_
              refine m_get ok hA 13 q2248 (by decide) dX8_isNumber_2_77 (v := .ref (ad 13)) rfl ?_
              refine g_iload_n ok dX8_isNumber_2_80 rfl ?_
              refine g_bipush ok (v := 10) dX8_isNumber_2_81 rfl ?_
              refine g_aload_n ok dX8_isNumber_2_83 rfl ?_
              refine m_get ok hA 13 q2248 (by decide) dX8_isNumber_2_84 (v := .ref (ad 13)) rfl ?_
              refine g_iload_n ok dX8_isNumber_2_87 rfl ?_
              refine m_ald ok hA 13 k (v := (MS.A u 13 k)) (by decide) dX8_isNumber_2_88 rfl (by simp only [mlen]; omega) rfl ?_
              refine g_imul ok dX8_isNumber_2_89 ?_
              refine g_aload_n ok dX8_isNumber_2_90 rfl ?_
              refine m_get ok hA 9 q2244 (by decide) dX8_isNumber_2_91 (v := .ref (ad 9)) rfl ?_
              refine g_aload_n ok dX8_isNumber_2_94 rfl ?_
              refine g_dup ok dX8_isNumber_2_95 rfl ?_
              refine m_get ok hA 11 q2246 (by decide) dX8_isNumber_2_96 (v := .int (nI (mP u))) (congrArg (fun z => some (Value.int z)) p3) ?_
              refine g_dup_x1 ok dX8_isNumber_2_99 rfl rfl ?_
              refine g_iconst ok (v := 1) dX8_isNumber_2_100 rfl ?_
              refine g_iaddN ok dX8_isNumber_2_101 (c := ((mP u) + 1)) (a := (mP u)) (b := 1) rfl rfl rfl ?_
              refine m_put ok hA 11 q2246 (by decide) dX8_isNumber_2_102 ⟨rfl, rfl⟩ ?_
              refine m_cald ok hA 9 (mP u) (v := (MS.A u 9 (mP u))) (by decide) dX8_isNumber_2_105 rfl (by simp only [mlen]; omega) rfl ?_
              refine g_iadd ok dX8_isNumber_2_106 ?_
              refine g_bipush ok (v := 48) dX8_isNumber_2_107 rfl ?_
              refine g_isub ok dX8_isNumber_2_109 ?_
              refine m_ast ok hA 13 k (by decide) dX8_isNumber_2_110 rfl (by simp only [mlen]; omega) ?_
              refine g_iincN ok dX8_isNumber_2_111 (c := n) rfl rfl (ls1 := [some (.ref (ad 20)), some (.int (nI k)), some (.int z), some (.int 0), some (.int (nI (n + 1)))]) rfl ?_
              refine g_goto ok dX8_isNumber_2_114 (tgt := 40) (by decide) ?_
              exact ih _ _ (by omega) (dgl_t dt g1) (dgS_po g2 dt)
          · refine g_icmp_ge ok (tgt := 117) dX8_isNumber_2_54 (by decide) (fun _ => ?_) (fun c_ => absurd (nI_le (a := (mL u)) (b := (mP u)) (by omega) (by omega)) c_)
            have g1 := dgl_f (by unfold dgT; rw [decide_eq_false pl]; rfl) g1
            subst g1
            have hn3 : n ≤ 3 := hf3
            refine g_iload_n ok dX8_isNumber_2_117 rfl ?_
            refine g_if_eq ok (tgt := 134) dX8_isNumber_2_118 (by decide) (fun _ => ?_) (fun c_ => absurd (congrArg nI (by omega : 0 = 0)) c_)
            refine g_iload ok dX8_isNumber_2_134 rfl ?_
            by_cases n0 : n = 0
            · refine g_if_le ok (tgt := 143) dX8_isNumber_2_136 (by decide) (fun _ => ?_) (fun c_ => absurd (nI_le (a := n) (b := 0) (by omega) (by omega)) c_)
              refine g_iconst ok (v := 0) dX8_isNumber_2_143 rfl ?_
              exact g_zret ok fn rfl rfl dX8_isNumber_2_144 (pv_i (by rw [decide_eq_false (by omega)]; rfl) rfl) (dk rfl)
            · refine g_if_le ok (tgt := 143) dX8_isNumber_2_136 (by decide) (fun c_ => absurd c_ (nI_ge (a := 0) (b := n) (by omega) (by omega))) (fun _ => ?_)
              refine g_iconst ok (v := 1) dX8_isNumber_2_139 rfl ?_
              refine g_goto ok dX8_isNumber_2_140 (tgt := 144) (by decide) ?_
              exact g_zret ok fn rfl rfl dX8_isNumber_2_144 (pv_i (by rw [decide_eq_true (by omega)]; rfl) rfl) (dk rfl)
      exact lp 3 0 _ (by omega) hF tr
    · refine g_aload_n ok dX8_isNumber_2_15 rfl ?_
      refine g_bipush ok (v := 45) dX8_isNumber_2_16 rfl ?_
      refine g_callV ok q2685 q2687 qs56 q75 q2688 (m_recv ok hA) dX8_isNumber_2_18 (m_takes X.l X.G hA (h0 := h0) S 45 tk) (nm_ (by decide : nmb _ 1 = true)) (dl rfl) (dk rfl) rfl rfl (dk rfl) (dk rfl) (kV ?_) xV
      refine g_if_eq ok (tgt := 28) dX8_isNumber_2_21 (by decide) (fun c21 => ?_) (fun c21 => ?_)
      · have c21' := bI_e c21
        refine g_iconst ok (v := 0) dX8_isNumber_2_28 rfl ?_
        have sg : sgS S z = (false, (mTakes S 45).2) := by unfold sgS; rw [if_neg c12]; exact Prod.ext c21' rfl
        have tq : mPo (sgS S z).2 := sgS_po tk
        rw [sg] at tq
        obtain ⟨T, hT⟩ : ∃ T : MS, (mTakes S 45).2 = T := ⟨_, rfl⟩
        have hnum : numS k z S = dgl k 3 0 (mA T 13 k 0) := by unfold numS; rw [sg, ← hT]
        rw [sg, hnum] at fn
        simp only [hT] at tq ⊢
        have tq : mPo T := tq
        refine g_istore_n ok dX8_isNumber_2_29 (ls1 := [some (.ref (ad 20)), some (.int (nI k)), some (.int z), some (.int 0), none]) (dl rfl) rfl ?_
        refine g_iconst ok (v := 0) dX8_isNumber_2_30 rfl ?_
        refine g_istore ok dX8_isNumber_2_31 (ls1 := [some (.ref (ad 20)), some (.int (nI k)), some (.int z), some (.int 0), some (.int 0)]) (dl rfl) rfl ?_
        refine g_aload_n ok dX8_isNumber_2_33 rfl ?_
        refine m_get ok hA 13 q2248 (by decide) dX8_isNumber_2_34 (v := .ref (ad 13)) rfl ?_
        refine g_iload_n ok dX8_isNumber_2_37 rfl ?_
        refine g_iconst ok (v := 0) dX8_isNumber_2_38 rfl ?_
        refine m_ast ok hA 13 k (by decide) dX8_isNumber_2_39 rfl (by simp only [mlen]; omega) ?_
        have tr : mPo (mA T 13 k 0) := tq
        obtain ⟨F, hF⟩ : ∃ F : Nat × MS, dgl k 3 0 (mA T 13 k 0) = F := ⟨_, rfl⟩
        rw [hF] at fn
        have hf3 : F.1 ≤ 3 := by rw [← hF]; have := (dgl_po (k := k) 3 0 _ tr).2; omega
        have lp : ∀ (m : Nat) (n : Nat) (u : MS), (n + m = 3) → (dgl k m n u = F) → (mPo u) → GW X (mput X.G h0 ad u) 0 40 [some (.ref (ad 20)), some (.int (nI k)), some (.int z), some (.int 0), some (.int (nI n))] [] := by
          intro m
          induction m with
          | zero =>
            intro n u g0 g1 g2
            refine g_iload ok dX8_isNumber_2_40 rfl ?_
            refine g_iconst ok (v := 3) dX8_isNumber_2_42 rfl ?_
            refine g_icmp_ge ok (tgt := 117) dX8_isNumber_2_43 (by decide) (fun _ => ?_) (fun c_ => absurd (nI_le (a := 3) (b := n) (by omega) (by omega)) c_)
            have g1 : (n, u) = F := g1
            subst g1
            have hn3 : n ≤ 3 := hf3
            refine g_iload_n ok dX8_isNumber_2_117 rfl ?_
            refine g_if_eq ok (tgt := 134) dX8_isNumber_2_118 (by decide) (fun _ => ?_) (fun c_ => absurd (congrArg nI (by omega : 0 = 0)) c_)
            refine g_iload ok dX8_isNumber_2_134 rfl ?_
            by_cases n0 : n = 0
            · refine g_if_le ok (tgt := 143) dX8_isNumber_2_136 (by decide) (fun _ => ?_) (fun c_ => absurd (nI_le (a := n) (b := 0) (by omega) (by omega)) c_)
              refine g_iconst ok (v := 0) dX8_isNumber_2_143 rfl ?_
              exact g_zret ok fn rfl rfl dX8_isNumber_2_144 (pv_i (by rw [decide_eq_false (by omega)]; rfl) rfl) (dk rfl)
            · refine g_if_le ok (tgt := 143) dX8_isNumber_2_136 (by decide) (fun c_ => absurd c_ (nI_ge (a := 0) (b := n) (by omega) (by omega))) (fun _ => ?_)
              refine g_iconst ok (v := 1) dX8_isNumber_2_139 rfl ?_
              refine g_goto ok dX8_isNumber_2_140 (tgt := 144) (by decide) ?_
              exact g_zret ok fn rfl rfl dX8_isNumber_2_144 (pv_i (by rw [decide_eq_true (by omega)]; rfl) rfl) (dk rfl)
          | succ m ih =>
            intro n u g0 g1 g2
            obtain ⟨p1, p2, p3, p4⟩ := id g2
            refine g_iload ok dX8_isNumber_2_40 rfl ?_
            refine g_iconst ok (v := 3) dX8_isNumber_2_42 rfl ?_
            refine g_icmp_ge ok (tgt := 117) dX8_isNumber_2_43 (by decide) (fun c_ => absurd c_ (nI_ge (a := n) (b := 3) (by omega) (by omega))) (fun _ => ?_)
            refine g_aload_n ok dX8_isNumber_2_46 rfl ?_
            refine m_get ok hA 11 q2246 (by decide) dX8_isNumber_2_47 (v := .int (nI (mP u))) (congrArg (fun z => some (Value.int z)) p3) ?_
            refine g_aload_n ok dX8_isNumber_2_50 rfl ?_
            refine m_get ok hA 10 q2245 (by decide) dX8_isNumber_2_51 (v := .int (nI (mL u))) (congrArg (fun z => some (Value.int z)) p1) ?_
            by_cases pl : mP u < mL u
            · refine g_icmp_ge ok (tgt := 117) dX8_isNumber_2_54 (by decide) (fun c_ => absurd c_ (nI_ge (a := (mP u)) (b := (mL u)) (by omega) (by omega))) (fun _ => ?_)
              refine g_aload_n ok dX8_isNumber_2_57 rfl ?_
              refine m_get ok hA 9 q2244 (by decide) dX8_isNumber_2_58 (v := .ref (ad 9)) rfl ?_
              refine g_aload_n ok dX8_isNumber_2_61 rfl ?_
              refine m_get ok hA 11 q2246 (by decide) dX8_isNumber_2_62 (v := .int (nI (mP u))) (congrArg (fun z => some (Value.int z)) p3) ?_
              refine m_cald ok hA 9 (mP u) (v := (MS.A u 9 (mP u))) (by decide) dX8_isNumber_2_65 rfl (by simp only [mlen]; omega) rfl ?_
              refine g_bipush ok (v := 48) dX8_isNumber_2_66 rfl ?_
              refine g_bipush ok (v := 57) dX8_isNumber_2_68 rfl ?_
              refine g_callS ok q2321 q2322 q75 q2323 dX8_isNumber_2_70 (m_in X.l X.G _ (MS.A u 9 (mP u)) 48 57) (nm_ (by decide : nmb _ 3 = true)) (dl rfl) (dk rfl) rfl rfl (dk rfl) (dk rfl) (kV ?_) xV
              refine g_if_eq ok (tgt := 117) dX8_isNumber_2_73 (by decide) (fun c73 => ?_) (fun c73 => ?_)
              · have c73' := bI_e c73
                have g1 := dgl_f (by unfold dgT; rw [c73']; exact Bool.and_false _) g1
                subst g1
                have hn3 : n ≤ 3 := hf3
                refine g_iload_n ok dX8_isNumber_2_117 rfl ?_
                refine g_if_eq ok (tgt := 134) dX8_isNumber_2_118 (by decide) (fun _ => ?_) (fun c_ => absurd (congrArg nI (by omega : 0 = 0)) c_)
                refine g_iload ok dX8_isNumber_2_134 rfl ?_
                by_cases n0 : n = 0
                · refine g_if_le ok (tgt := 143) dX8_isNumber_2_136 (by decide) (fun _ => ?_) (fun c_ => absurd (nI_le (a := n) (b := 0) (by omega) (by omega)) c_)
                  refine g_iconst ok (v := 0) dX8_isNumber_2_143 rfl ?_
                  exact g_zret ok fn rfl rfl dX8_isNumber_2_144 (pv_i (by rw [decide_eq_false (by omega)]; rfl) rfl) (dk rfl)
                · refine g_if_le ok (tgt := 143) dX8_isNumber_2_136 (by decide) (fun c_ => absurd c_ (nI_ge (a := 0) (b := n) (by omega) (by omega))) (fun _ => ?_)
                  refine g_iconst ok (v := 1) dX8_isNumber_2_139 rfl ?_
                  refine g_goto ok dX8_isNumber_2_140 (tgt := 144) (by decide) ?_
                  exact g_zret ok fn rfl rfl dX8_isNumber_2_144 (pv_i (by rw [decide_eq_true (by omega)]; rfl) rfl) (dk rfl)
              · have c73' := bI_n c73
                have dt : dgT u = true := by unfold dgT; rw [decide_eq_true pl, c73']; rfl
                refine g_aload_n ok dX8_isNumber_2_76 rfl ?_
                refine m_get ok hA 13 q2248 (by decide) dX8_isNumber_2_77 (v := .ref (ad 13)) rfl ?_
                refine g_iload_n ok dX8_isNumber_2_80 rfl ?_
                refine g_bipush ok (v := 10) dX8_isNumber_2_81 rfl ?_
                refine g_aload_n ok dX8_isNumber_2_83 rfl ?_
                refine m_get ok hA 13 q2248 (by decide) dX8_isNumber_2_84 (v := .ref (ad 13)) rfl ?_
                refine g_iload_n ok dX8_isNumber_2_87 rfl ?_
                refine m_ald ok hA 13 k (v := (MS.A u 13 k)) (by decide) dX8_isNumber_2_88 rfl (by simp only [mlen]; omega) rfl ?_
                refine g_imul ok dX8_isNumber_2_89 ?_
                refine g_aload_n ok dX8_isNumber_2_90 rfl ?_
                refine m_get ok hA 9 q2244 (by decide) dX8_isNumber_2_91 (v := .ref (ad 9)) rfl ?_
                refine g_aload_n ok dX8_isNumber_2_94 rfl ?_
                refine g_dup ok dX8_isNumber_2_95 rfl ?_
                refine m_get ok hA 11 q2246 (by decide) dX8_isNumber_2_96 (v := .int (nI (mP u))) (congrArg (fun z => some (Value.int z)) p3) ?_
                refine g_dup_x1 ok dX8_isNumber_2_99 rfl rfl ?_
                refine g_iconst ok (v := 1) dX8_isNumber_2_100 rfl ?_
                refine g_iaddN ok dX8_isNumber_2_101 (c := ((mP u) + 1)) (a := (mP u)) (b := 1) rfl rfl rfl ?_
                refine m_put ok hA 11 q2246 (by decide) dX8_isNumber_2_102 ⟨rfl, rfl⟩ ?_
                refine m_cald ok hA 9 (mP u) (v := (MS.A u 9 (mP u))) (by decide) dX8_isNumber_2_105 rfl (by simp only [mlen]; omega) rfl ?_
                refine g_iadd ok dX8_isNumber_2_106 ?_
                refine g_bipush ok (v := 48) dX8_isNumber_2_107 rfl ?_
                refine g_isub ok dX8_isNumber_2_109 ?_
                refine m_ast ok hA 13 k (by decide) dX8_isNumber_2_110 rfl (by simp only [mlen]; omega) ?_
                refine g_iincN ok dX8_isNumber_2_111 (c := n) rfl rfl (ls1 := [some (.ref (ad 20)), some (.int (nI k)), some (.int z), some (.int 0), some (.int (nI (n + 1)))]) rfl ?_
                refine g_goto ok dX8_isNumber_2_114 (tgt := 40) (by decide) ?_
                exact ih _ _ (by omega) (dgl_t dt g1) (dgS_po g2 dt)
            · refine g_icmp_ge ok (tgt := 117) dX8_isNumber_2_54 (by decide) (fun _ => ?_) (fun c_ => absurd (nI_le (a := (mL u)) (b := (mP u)) (by omega) (by omega)) c_)
              have g1 := dgl_f (by unfold dgT; rw [decide_eq_false pl]; rfl) g1
              subst g1
              have hn3 : n ≤ 3 := hf3
              refine g_iload_n ok dX8_isNumber_2_117 rfl ?_
              refine g_if_eq ok (tgt := 134) dX8_isNumber_2_118 (by decide) (fun _ => ?_) (fun c_ => absurd (congrArg nI (by omega : 0 = 0)) c_)
              refine g_iload ok dX8_isNumber_2_134 rfl ?_
              by_cases n0 : n = 0
              · refine g_if_le ok (tgt := 143) dX8_isNumber_2_136 (by decide) (fun _ => ?_) (fun c_ => absurd (nI_le (a := n) (b := 0) (by omega) (by omega)) c_)
                refine g_iconst ok (v := 0) dX8_isNumber_2_143 rfl ?_
                exact g_zret ok fn rfl rfl dX8_isNumber_2_144 (pv_i (by rw [decide_eq_false (by omega)]; rfl) rfl) (dk rfl)
              · refine g_if_le ok (tgt := 143) dX8_isNumber_2_136 (by decide) (fun c_ => absurd c_ (nI_ge (a := 0) (b := n) (by omega) (by omega))) (fun _ => ?_)
                refine g_iconst ok (v := 1) dX8_isNumber_2_139 rfl ?_
                refine g_goto ok dX8_isNumber_2_140 (tgt := 144) (by decide) ?_
                exact g_zret ok fn rfl rfl dX8_isNumber_2_144 (pv_i (by rw [decide_eq_true (by omega)]; rfl) rfl) (dk rfl)
        exact lp 3 0 _ (by omega) hF tr
      · have c21' := bI_n c21
        refine g_iconst ok (v := 1) dX8_isNumber_2_24 rfl ?_
        refine g_goto ok dX8_isNumber_2_25 (tgt := 29) (by decide) ?_
        have sg : sgS S z = (true, (mTakes S 45).2) := by unfold sgS; rw [if_neg c12]; exact Prod.ext c21' rfl
        have tq : mPo (sgS S z).2 := sgS_po tk
        rw [sg] at tq
        obtain ⟨T, hT⟩ : ∃ T : MS, (mTakes S 45).2 = T := ⟨_, rfl⟩
        have hnum : numS k z S = dgl k 3 0 (mA T 13 k 0) := by unfold numS; rw [sg, ← hT]
        rw [sg, hnum] at fn
        simp only [hT] at tq ⊢
        have tq : mPo T := tq
        refine g_istore_n ok dX8_isNumber_2_29 (ls1 := [some (.ref (ad 20)), some (.int (nI k)), some (.int z), some (.int 1), none]) (dl rfl) rfl ?_
        refine g_iconst ok (v := 0) dX8_isNumber_2_30 rfl ?_
        refine g_istore ok dX8_isNumber_2_31 (ls1 := [some (.ref (ad 20)), some (.int (nI k)), some (.int z), some (.int 1), some (.int 0)]) (dl rfl) rfl ?_
        refine g_aload_n ok dX8_isNumber_2_33 rfl ?_
        refine m_get ok hA 13 q2248 (by decide) dX8_isNumber_2_34 (v := .ref (ad 13)) rfl ?_
        refine g_iload_n ok dX8_isNumber_2_37 rfl ?_
        refine g_iconst ok (v := 0) dX8_isNumber_2_38 rfl ?_
        refine m_ast ok hA 13 k (by decide) dX8_isNumber_2_39 rfl (by simp only [mlen]; omega) ?_
        have tr : mPo (mA T 13 k 0) := tq
        obtain ⟨F, hF⟩ : ∃ F : Nat × MS, dgl k 3 0 (mA T 13 k 0) = F := ⟨_, rfl⟩
        rw [hF] at fn
        have hf3 : F.1 ≤ 3 := by rw [← hF]; have := (dgl_po (k := k) 3 0 _ tr).2; omega
        have lp : ∀ (m : Nat) (n : Nat) (u : MS), (n + m = 3) → (dgl k m n u = F) → (mPo u) → GW X (mput X.G h0 ad u) 0 40 [some (.ref (ad 20)), some (.int (nI k)), some (.int z), some (.int 1), some (.int (nI n))] [] := by
          intro m
          induction m with
          | zero =>
            intro n u g0 g1 g2
            refine g_iload ok dX8_isNumber_2_40 rfl ?_
            refine g_iconst ok (v := 3) dX8_isNumber_2_42 rfl ?_
            refine g_icmp_ge ok (tgt := 117) dX8_isNumber_2_43 (by decide) (fun _ => ?_) (fun c_ => absurd (nI_le (a := 3) (b := n) (by omega) (by omega)) c_)
            have g1 : (n, u) = F := g1
            subst g1
            have hn3 : n ≤ 3 := hf3
            refine g_iload_n ok dX8_isNumber_2_117 rfl ?_
            refine g_if_eq ok (tgt := 134) dX8_isNumber_2_118 (by decide) (fun c_ => absurd c_ (fun e_ => by have := (nI_eq (a := 1) (b := 0) (by omega) (by omega)).mp e_; omega)) (fun _ => ?_)
            refine g_aload_n ok dX8_isNumber_2_121 rfl ?_
            refine m_get ok hA 13 q2248 (by decide) dX8_isNumber_2_122 (v := .ref (ad 13)) rfl ?_
            refine g_iload_n ok dX8_isNumber_2_125 rfl ?_
            refine g_aload_n ok dX8_isNumber_2_126 rfl ?_
            refine m_get ok hA 13 q2248 (by decide) dX8_isNumber_2_127 (v := .ref (ad 13)) rfl ?_
            refine g_iload_n ok dX8_isNumber_2_130 rfl ?_
            refine m_ald ok hA 13 k (v := (MS.A u 13 k)) (by decide) dX8_isNumber_2_131 rfl (by simp only [mlen]; omega) rfl ?_
            refine g_ineg ok dX8_isNumber_2_132 ?_
            refine m_ast ok hA 13 k (by decide) dX8_isNumber_2_133 rfl (by simp only [mlen]; omega) ?_
            refine g_iload ok dX8_isNumber_2_134 rfl ?_
            by_cases n0 : n = 0
            · refine g_if_le ok (tgt := 143) dX8_isNumber_2_136 (by decide) (fun _ => ?_) (fun c_ => absurd (nI_le (a := n) (b := 0) (by omega) (by omega)) c_)
              refine g_iconst ok (v := 0) dX8_isNumber_2_143 rfl ?_
              exact g_zret ok fn rfl rfl dX8_isNumber_2_144 (pv_i (by rw [decide_eq_false (by omega)]; rfl) rfl) (dk rfl)
            · refine g_if_le ok (tgt := 143) dX8_isNumber_2_136 (by decide) (fun c_ => absurd c_ (nI_ge (a := 0) (b := n) (by omega) (by omega))) (fun _ => ?_)
              refine g_iconst ok (v := 1) dX8_isNumber_2_139 rfl ?_
              refine g_goto ok dX8_isNumber_2_140 (tgt := 144) (by decide) ?_
              exact g_zret ok fn rfl rfl dX8_isNumber_2_144 (pv_i (by rw [decide_eq_true (by omega)]; rfl) rfl) (dk rfl)
          | succ m ih =>
            intro n u g0 g1 g2
            obtain ⟨p1, p2, p3, p4⟩ := id g2
            refine g_iload ok dX8_isNumber_2_40 rfl ?_
            refine g_iconst ok (v := 3) dX8_isNumber_2_42 rfl ?_
            refine g_icmp_ge ok (tgt := 117) dX8_isNumber_2_43 (by decide) (fun c_ => absurd c_ (nI_ge (a := n) (b := 3) (by omega) (by omega))) (fun _ => ?_)
            refine g_aload_n ok dX8_isNumber_2_46 rfl ?_
            refine m_get ok hA 11 q2246 (by decide) dX8_isNumber_2_47 (v := .int (nI (mP u))) (congrArg (fun z => some (Value.int z)) p3) ?_
            refine g_aload_n ok dX8_isNumber_2_50 rfl ?_
            refine m_get ok hA 10 q2245 (by decide) dX8_isNumber_2_51 (v := .int (nI (mL u))) (congrArg (fun z => some (Value.int z)) p1) ?_
            by_cases pl : mP u < mL u
            · refine g_icmp_ge ok (tgt := 117) dX8_isNumber_2_54 (by decide) (fun c_ => absurd c_ (nI_ge (a := (mP u)) (b := (mL u)) (by omega) (by omega))) (fun _ => ?_)
              refine g_aload_n ok dX8_isNumber_2_57 rfl ?_
              refine m_get ok hA 9 q2244 (by decide) dX8_isNumber_2_58 (v := .ref (ad 9)) rfl ?_
              refine g_aload_n ok dX8_isNumber_2_61 rfl ?_
              refine m_get ok hA 11 q2246 (by decide) dX8_isNumber_2_62 (v := .int (nI (mP u))) (congrArg (fun z => some (Value.int z)) p3) ?_
              refine m_cald ok hA 9 (mP u) (v := (MS.A u 9 (mP u))) (by decide) dX8_isNumber_2_65 rfl (by simp only [mlen]; omega) rfl ?_
              refine g_bipush ok (v := 48) dX8_isNumber_2_66 rfl ?_
              refine g_bipush ok (v := 57) dX8_isNumber_2_68 rfl ?_
              refine g_callS ok q2321 q2322 q75 q2323 dX8_isNumber_2_70 (m_in X.l X.G _ (MS.A u 9 (mP u)) 48 57) (nm_ (by decide : nmb _ 3 = true)) (dl rfl) (dk rfl) rfl rfl (dk rfl) (dk rfl) (kV ?_) xV
              refine g_if_eq ok (tgt := 117) dX8_isNumber_2_73 (by decide) (fun c73 => ?_) (fun c73 => ?_)
              · have c73' := bI_e c73
                have g1 := dgl_f (by unfold dgT; rw [c73']; exact Bool.and_false _) g1
                subst g1
                have hn3 : n ≤ 3 := hf3
                refine g_iload_n ok dX8_isNumber_2_117 rfl ?_
                refine g_if_eq ok (tgt := 134) dX8_isNumber_2_118 (by decide) (fun c_ => absurd c_ (fun e_ => by have := (nI_eq (a := 1) (b := 0) (by omega) (by omega)).mp e_; omega)) (fun _ => ?_)
                refine g_aload_n ok dX8_isNumber_2_121 rfl ?_
                refine m_get ok hA 13 q2248 (by decide) dX8_isNumber_2_122 (v := .ref (ad 13)) rfl ?_
                refine g_iload_n ok dX8_isNumber_2_125 rfl ?_
                refine g_aload_n ok dX8_isNumber_2_126 rfl ?_
                refine m_get ok hA 13 q2248 (by decide) dX8_isNumber_2_127 (v := .ref (ad 13)) rfl ?_
                refine g_iload_n ok dX8_isNumber_2_130 rfl ?_
                refine m_ald ok hA 13 k (v := (MS.A u 13 k)) (by decide) dX8_isNumber_2_131 rfl (by simp only [mlen]; omega) rfl ?_
                refine g_ineg ok dX8_isNumber_2_132 ?_
                refine m_ast ok hA 13 k (by decide) dX8_isNumber_2_133 rfl (by simp only [mlen]; omega) ?_
                refine g_iload ok dX8_isNumber_2_134 rfl ?_
                by_cases n0 : n = 0
                · refine g_if_le ok (tgt := 143) dX8_isNumber_2_136 (by decide) (fun _ => ?_) (fun c_ => absurd (nI_le (a := n) (b := 0) (by omega) (by omega)) c_)
                  refine g_iconst ok (v := 0) dX8_isNumber_2_143 rfl ?_
                  exact g_zret ok fn rfl rfl dX8_isNumber_2_144 (pv_i (by rw [decide_eq_false (by omega)]; rfl) rfl) (dk rfl)
                · refine g_if_le ok (tgt := 143) dX8_isNumber_2_136 (by decide) (fun c_ => absurd c_ (nI_ge (a := 0) (b := n) (by omega) (by omega))) (fun _ => ?_)
                  refine g_iconst ok (v := 1) dX8_isNumber_2_139 rfl ?_
                  refine g_goto ok dX8_isNumber_2_140 (tgt := 144) (by decide) ?_
                  exact g_zret ok fn rfl rfl dX8_isNumber_2_144 (pv_i (by rw [decide_eq_true (by omega)]; rfl) rfl) (dk rfl)
              · have c73' := bI_n c73
                have dt : dgT u = true := by unfold dgT; rw [decide_eq_true pl, c73']; rfl
                refine g_aload_n ok dX8_isNumber_2_76 rfl ?_
                refine m_get ok hA 13 q2248 (by decide) dX8_isNumber_2_77 (v := .ref (ad 13)) rfl ?_
                refine g_iload_n ok dX8_isNumber_2_80 rfl ?_
                refine g_bipush ok (v := 10) dX8_isNumber_2_81 rfl ?_
                refine g_aload_n ok dX8_isNumber_2_83 rfl ?_
                refine m_get ok hA 13 q2248 (by decide) dX8_isNumber_2_84 (v := .ref (ad 13)) rfl ?_
                refine g_iload_n ok dX8_isNumber_2_87 rfl ?_
                refine m_ald ok hA 13 k (v := (MS.A u 13 k)) (by decide) dX8_isNumber_2_88 rfl (by simp only [mlen]; omega) rfl ?_
                refine g_imul ok dX8_isNumber_2_89 ?_
                refine g_aload_n ok dX8_isNumber_2_90 rfl ?_
                refine m_get ok hA 9 q2244 (by decide) dX8_isNumber_2_91 (v := .ref (ad 9)) rfl ?_
                refine g_aload_n ok dX8_isNumber_2_94 rfl ?_
                refine g_dup ok dX8_isNumber_2_95 rfl ?_
                refine m_get ok hA 11 q2246 (by decide) dX8_isNumber_2_96 (v := .int (nI (mP u))) (congrArg (fun z => some (Value.int z)) p3) ?_
                refine g_dup_x1 ok dX8_isNumber_2_99 rfl rfl ?_
                refine g_iconst ok (v := 1) dX8_isNumber_2_100 rfl ?_
                refine g_iaddN ok dX8_isNumber_2_101 (c := ((mP u) + 1)) (a := (mP u)) (b := 1) rfl rfl rfl ?_
                refine m_put ok hA 11 q2246 (by decide) dX8_isNumber_2_102 ⟨rfl, rfl⟩ ?_
                refine m_cald ok hA 9 (mP u) (v := (MS.A u 9 (mP u))) (by decide) dX8_isNumber_2_105 rfl (by simp only [mlen]; omega) rfl ?_
                refine g_iadd ok dX8_isNumber_2_106 ?_
                refine g_bipush ok (v := 48) dX8_isNumber_2_107 rfl ?_
                refine g_isub ok dX8_isNumber_2_109 ?_
                refine m_ast ok hA 13 k (by decide) dX8_isNumber_2_110 rfl (by simp only [mlen]; omega) ?_
                refine g_iincN ok dX8_isNumber_2_111 (c := n) rfl rfl (ls1 := [some (.ref (ad 20)), some (.int (nI k)), some (.int z), some (.int 1), some (.int (nI (n + 1)))]) rfl ?_
                refine g_goto ok dX8_isNumber_2_114 (tgt := 40) (by decide) ?_
                exact ih _ _ (by omega) (dgl_t dt g1) (dgS_po g2 dt)
            · refine g_icmp_ge ok (tgt := 117) dX8_isNumber_2_54 (by decide) (fun _ => ?_) (fun c_ => absurd (nI_le (a := (mL u)) (b := (mP u)) (by omega) (by omega)) c_)
              have g1 := dgl_f (by unfold dgT; rw [decide_eq_false pl]; rfl) g1
              subst g1
              have hn3 : n ≤ 3 := hf3
              refine g_iload_n ok dX8_isNumber_2_117 rfl ?_
              refine g_if_eq ok (tgt := 134) dX8_isNumber_2_118 (by decide) (fun c_ => absurd c_ (fun e_ => by have := (nI_eq (a := 1) (b := 0) (by omega) (by omega)).mp e_; omega)) (fun _ => ?_)
              refine g_aload_n ok dX8_isNumber_2_121 rfl ?_
              refine m_get ok hA 13 q2248 (by decide) dX8_isNumber_2_122 (v := .ref (ad 13)) rfl ?_
              refine g_iload_n ok dX8_isNumber_2_125 rfl ?_
              refine g_aload_n ok dX8_isNumber_2_126 rfl ?_
              refine m_get ok hA 13 q2248 (by decide) dX8_isNumber_2_127 (v := .ref (ad 13)) rfl ?_
              refine g_iload_n ok dX8_isNumber_2_130 rfl ?_
              refine m_ald ok hA 13 k (v := (MS.A u 13 k)) (by decide) dX8_isNumber_2_131 rfl (by simp only [mlen]; omega) rfl ?_
              refine g_ineg ok dX8_isNumber_2_132 ?_
              refine m_ast ok hA 13 k (by decide) dX8_isNumber_2_133 rfl (by simp only [mlen]; omega) ?_
              refine g_iload ok dX8_isNumber_2_134 rfl ?_
              by_cases n0 : n = 0
              · refine g_if_le ok (tgt := 143) dX8_isNumber_2_136 (by decide) (fun _ => ?_) (fun c_ => absurd (nI_le (a := n) (b := 0) (by omega) (by omega)) c_)
                refine g_iconst ok (v := 0) dX8_isNumber_2_143 rfl ?_
                exact g_zret ok fn rfl rfl dX8_isNumber_2_144 (pv_i (by rw [decide_eq_false (by omega)]; rfl) rfl) (dk rfl)
              · refine g_if_le ok (tgt := 143) dX8_isNumber_2_136 (by decide) (fun c_ => absurd c_ (nI_ge (a := 0) (b := n) (by omega) (by omega))) (fun _ => ?_)
                refine g_iconst ok (v := 1) dX8_isNumber_2_139 rfl ?_
                refine g_goto ok dX8_isNumber_2_140 (tgt := 144) (by decide) ?_
                exact g_zret ok fn rfl rfl dX8_isNumber_2_144 (pv_i (by rw [decide_eq_true (by omega)]; rfl) rfl) (dk rfl)
        exact lp 3 0 _ (by omega) hF tr
  · have c6' := bI_e c6
    refine g_iconst ok (v := 0) dX8_isNumber_2_9 rfl ?_
    exact g_zret ok fn rfl rfl dX8_isNumber_2_10 (pv_i (by unfold mIsNum; rw [c6']; rfl) (by unfold mIsNum; rw [c6']; rfl)) (dk rfl)
theorem m_spTold (l : Launch) (G : GE) {h0 : AH} {ad : Nat → Nat} (hA : MAd ad) (s : MS) (y0 : mPo s) : GM l G yX8_isSpanTold (ws_ yX8_isSpanTold cX8_isSpanTold 1 (some .boolean)) 3 [.ref (ad 20)] (mput G h0 ad s) (0) (PV (.int (bI (mSpTold s ).1)) (mput G h0 ad (mSpTold s ).2)) := by
  refine GM.of (by decide) (dk rfl) ?_
  intro X eL eG eh ok fn
  subst eL; subst eG
  show GW X _ 0 0 [some (.ref (ad 20))] []
  refine g_aload_n ok dX8_isSpanTold_0 rfl ?_
  refine g_iconst ok (v := 0) dX8_isSpanTold_1 rfl ?_
  refine g_iconst ok (v := 0) dX8_isSpanTold_2 rfl ?_
  refine g_callV ok q2681 q2683 qs55 q75 q2684 (m_recv ok hA) dX8_isSpanTold_3 (m_isNum X.l X.G hA (h0 := h0) s 0 0 y0 (by decide)) (nm_ (by decide : nmb _ 2 = true)) (dl rfl) (dk rfl) rfl rfl (dk rfl) (dk rfl) (kV ?_) xV
  refine g_if_eq ok (tgt := 22) dX8_isSpanTold_6 (by decide) (fun c6 => ?_) (fun c6 => ?_)
  · have c6' := bI_e c6
    refine g_iconst ok (v := 0) dX8_isSpanTold_22 rfl ?_
    exact g_zret ok fn rfl rfl dX8_isSpanTold_23 (pv_i (by unfold mSpTold; simp [bI, c6']) (by unfold mSpTold; simp [bI, c6'])) (dk rfl)
  · have c6' := bI_n c6
    refine g_aload_n ok dX8_isSpanTold_9 rfl ?_
    refine g_iconst ok (v := 1) dX8_isSpanTold_10 rfl ?_
    refine g_iconst ok (v := 0) dX8_isSpanTold_11 rfl ?_
    refine g_callV ok q2681 q2683 qs55 q75 q2684 (m_recv ok hA) dX8_isSpanTold_12 (m_isNum X.l X.G hA (h0 := h0) (mIsNum s 0 0).2 1 0 (mIsNum_po y0) (by decide)) (nm_ (by decide : nmb _ 2 = true)) (dl rfl) (dk rfl) rfl rfl (dk rfl) (dk rfl) (kV ?_) xV
    refine g_if_eq ok (tgt := 22) dX8_isSpanTold_15 (by decide) (fun c15 => ?_) (fun c15 => ?_)
    · have c15' := bI_e c15
      refine g_iconst ok (v := 0) dX8_isSpanTold_22 rfl ?_
      exact g_zret ok fn rfl rfl dX8_isSpanTold_23 (pv_i (by unfold mSpTold; simp [bI, c6', c15']) (by unfold mSpTold; simp [bI, c6', c15'])) (dk rfl)
    · have c15' := bI_n c15
      refine g_iconst ok (v := 1) dX8_isSpanTold_18 rfl ?_
      refine g_goto ok dX8_isSpanTold_19 (tgt := 23) (by decide) ?_
      exact g_zret ok fn rfl rfl dX8_isSpanTold_23 (pv_i (by unfold mSpTold; simp [bI, c6', c15']) (by unfold mSpTold; simp [bI, c6', c15'])) (dk rfl)
theorem m_oneOf (l : Launch) (G : GE) {h0 : AH} {ad : Nat → Nat} (hA : MAd ad) (s : MS) (c cb N : Nat) (g : Nat → Int32) (W : List (Nat × Nat)) (y0 : mPo s) (y1 : StrA G (mput G h0 ad s) c cb N g) (y2 : Asc N g) (y3 : Wsp g N 0 W) : GM l G yX8_isOneOf (ws_ yX8_isOneOf cX8_isOneOf 6 (some .boolean)) 6 [.ref (ad 20), .ref c] (mput G h0 ad s) (11) (PR fun v h' => ∃ h0' w, h' = mput G h0' ad (mW (adv s (ooS s g W).2) w) ∧ Sub h0 h0' ∧ match (ooS s g W).1 with | none => v = .int 0 | some x => v = .int 1 ∧ NewW G ad h0 h0' w g x.1 x.2) := by
  refine GM.of (by decide) (dk rfl) ?_
  intro X eL eG eh ok fn
  subst eL; subst eG
  show GW X _ 0 0 [some (.ref (ad 20)), some (.ref c), none, none, none, none] []
  obtain ⟨p1, p2, p3, p4⟩ := id y0
  obtain ⟨⟨hs, hz, r1⟩, r2, r3⟩ := id y1
  refine g_iconst ok (v := 0) dX8_isOneOf_0 rfl ?_
  refine g_istore_n ok dX8_isOneOf_1 (ls1 := [some (.ref (ad 20)), some (.ref c), some (.int 0), none, none, none]) (dl rfl) rfl ?_
  refine g_iconst ok (v := 0) dX8_isOneOf_2 rfl ?_
  refine g_istore_n ok dX8_isOneOf_3 (ls1 := [some (.ref (ad 20)), some (.ref c), some (.int 0), some (.int 0), none, none]) (dl rfl) rfl ?_
  obtain ⟨F, hF⟩ : ∃ F, ooS s g W = F := ⟨_, rfl⟩
  rw [hF] at fn
  have lp : ∀ (V : List (Nat × Nat)) (q m : Nat), Wsp g N q V → ooL (s.A 9) (mL s) (mP s) g V m = F → mP s + m ≤ mL s → q < 1000 → GW X (mput X.G h0 ad s) 0 4 [some (.ref (ad 20)), some (.ref c), some (.int (nI m)), some (.int (nI q)), none, none] [] := by
    intro V
    induction V with
    | nil =>
      intro q m g0 g1 g2 g3
      have g0 : q = N := g0
      subst g0
      have g1 : (none, m) = F := g1
      subst g1
      refine g_iload_n ok dX8_isOneOf_4 rfl ?_
      refine g_aload_n ok dX8_isOneOf_5 rfl ?_
      refine g_callV ok q2594 q629 q630 q73 q631 (Recv.ob ok gc_J5 r1) dX8_isOneOf_6 (s_length X.l X.G _ c cb q g y1) (nm_ (by decide : nmb _ 0 = true)) (dl rfl) (dk rfl) rfl rfl (dk rfl) (by omega) (kV ?_) xV
      refine g_icmp_ge ok (tgt := 124) dX8_isOneOf_9 (by decide) (fun _ => ?_) (fun c_ => absurd (nI_le (a := q) (b := q) (by omega) (by omega)) c_)
      refine g_aload_n ok dX8_isOneOf_124 rfl ?_
      refine g_dup ok dX8_isOneOf_125 rfl ?_
      refine m_get ok hA 11 q2246 (by decide) dX8_isOneOf_126 (v := .int (nI (mP s))) (congrArg (fun z => some (Value.int z)) p3) ?_
      refine g_iload_n ok dX8_isOneOf_129 rfl ?_
      refine g_iaddN ok dX8_isOneOf_130 (c := ((mP s) + m)) (a := (mP s)) (b := m) rfl rfl rfl ?_
      refine m_put ok hA 11 q2246 (by decide) dX8_isOneOf_131 ⟨rfl, rfl⟩ ?_
      refine g_iconst ok (v := 0) dX8_isOneOf_134 rfl ?_
      exact g_zret ok fn rfl rfl dX8_isOneOf_135 ⟨_, rfl, h0, s.w, rfl, Sub.rfl, rfl⟩ (by omega)
    | cons x V ih =>
      intro q m g0 g1 g2 g3
      obtain ⟨z1, z2, z3, z4, z5, z6⟩ := g0
      subst z1
      obtain ⟨a, b⟩ := x
      simp only at z2 z3 z4 z5 z6 g3 ⊢
      refine g_iload_n ok dX8_isOneOf_4 rfl ?_
      refine g_aload_n ok dX8_isOneOf_5 rfl ?_
      refine g_callV ok q2594 q629 q630 q73 q631 (Recv.ob ok gc_J5 r1) dX8_isOneOf_6 (s_length X.l X.G _ c cb N g y1) (nm_ (by decide : nmb _ 0 = true)) (dl rfl) (dk rfl) rfl rfl (dk rfl) (by omega) (kV ?_) xV
      refine g_icmp_ge ok (tgt := 124) dX8_isOneOf_9 (by decide) (fun c_ => absurd c_ (nI_ge (a := a) (b := N) (by omega) (by omega))) (fun _ => ?_)
      refine g_aload_n ok dX8_isOneOf_12 rfl ?_
      refine g_bipush ok (v := 32) dX8_isOneOf_13 rfl ?_
      refine g_iload_n ok dX8_isOneOf_15 rfl ?_
      refine g_callV ok q2595 q2596 q2597 q73 q2598 (Recv.ob ok gc_J5 r1) dX8_isOneOf_16 (s_indexOf X.l X.G _ c cb N g y1 32 a (by omega) (by omega)) (nm_ (by decide : nmb _ 2 = true)) (dl rfl) (dk rfl) rfl rfl (dk rfl) (by omega) (kV ?_) xV
      rw [show nI 32 = 32 from rfl, z5]
      refine g_istore ok dX8_isOneOf_19 (ls1 := [some (.ref (ad 20)), some (.ref c), some (.int (nI m)), some (.int (nI a)), some (.int (nI b)), none]) (dl rfl) rfl ?_
      refine g_iconst ok (v := 0) dX8_isOneOf_21 rfl ?_
      refine g_istore ok dX8_isOneOf_22 (ls1 := [some (.ref (ad 20)), some (.ref c), some (.int (nI m)), some (.int (nI a)), some (.int (nI b)), some (.int 0)]) (dl rfl) rfl ?_
      obtain ⟨V1, hV⟩ : ∃ V1 : Nat, cpx (s.A 9) (mL s) (mP s) g a (b - a) 0 = V1 := ⟨_, rfl⟩
      have hle := cpx_le (T := s.A 9) (L := mL s) (p := mP s) (g := g) (a := a) (b - a) 0 (by omega)
      rw [hV] at hle
      have g1 : (if cpx (s.A 9) (mL s) (mP s) g a (b - a) 0 = b - a then ((some (a, b), b - a) : Option (Nat × Nat) × Nat) else ooL (s.A 9) (mL s) (mP s) g V (max m (cpx (s.A 9) (mL s) (mP s) g a (b - a) 0))) = F := g1
      rw [hV] at g1
      have at76 : GW X (mput X.G h0 ad s) 0 76 [some (.ref (ad 20)), some (.ref c), some (.int (nI m)), some (.int (nI a)), some (.int (nI b)), some (.int (nI V1))] [] := by
        refine g_iload ok dX8_isOneOf_76 rfl ?_
        refine g_iload ok dX8_isOneOf_78 rfl ?_
        refine g_iload_n ok dX8_isOneOf_80 rfl ?_
        refine g_isubN ok dX8_isOneOf_81 (c := (b - a)) (a := b) (b := a) rfl rfl (by omega) (by omega) ?_
        by_cases hv : V1 = b - a
        · rw [if_pos hv] at g1
          subst g1
          refine g_icmp_ne ok (tgt := 109) dX8_isOneOf_82 (by decide) (fun c_ => absurd (congrArg nI (by omega : V1 = (b - a))) c_) (fun _ => ?_)
          refine g_aload_n ok dX8_isOneOf_85 rfl ?_
          refine g_aload_n ok dX8_isOneOf_86 rfl ?_
          refine g_iload_n ok dX8_isOneOf_87 rfl ?_
          refine g_iload ok dX8_isOneOf_88 rfl ?_
          refine g_callV ok q2647 q2648 q2649 q73 q2650 (Recv.ob ok gc_J5 r1) dX8_isOneOf_90 (s_substring X.l X.G _ c cb N g y1 a b y2 (by omega) (by omega) (by omega)) (nm_ (by decide : nmb _ 2 = true)) (dl rfl) (dk rfl) rfl rfl (dk rfl) (by omega) (kR fun v hh ⟨wc, wd, e1, e2, e3, e4, e5, e6, e7⟩ => ?_) xR
          subst e1; subst e7
          obtain ⟨f1, f2⟩ := mput_fr (e := aB X.G (b - a) (va_cpy g (fun _ => 0) a 0 (b - a))) hA e5
          rw [f1]
          have e3b : mput X.G (up h0 wd (aB X.G (b - a) (va_cpy g (fun _ => 0) a 0 (b - a)))) ad s wc = none := by rw [← f1, up_ne e2]; exact e3
          obtain ⟨f3, f4⟩ := mput_fr (e := ob 15 [.ref wd, .int 0, .int 0, .int 0]) hA e3b
          rw [f3]
          have f5 : h0 wc = none := by rw [up_ne e2] at f4; exact f4
          refine m_putW ok hA q2247 dX8_isOneOf_93 ?_
          refine g_aload_n ok dX8_isOneOf_96 rfl ?_
          refine g_dup ok dX8_isOneOf_97 rfl ?_
          refine m_get ok hA 11 q2246 (by decide) dX8_isOneOf_98 (v := .int (nI (mP s))) (congrArg (fun z => some (Value.int z)) p3) ?_
          refine g_iload ok dX8_isOneOf_101 rfl ?_
          refine g_iaddN ok dX8_isOneOf_103 (c := ((mP s) + V1)) (a := (mP s)) (b := V1) rfl rfl rfl ?_
          refine m_put ok hA 11 q2246 (by decide) dX8_isOneOf_104 ⟨rfl, rfl⟩ ?_
          refine g_iconst ok (v := 1) dX8_isOneOf_107 rfl ?_
          exact g_zret ok fn rfl rfl dX8_isOneOf_108 ⟨_, rfl, _, wc, by rw [show b - a = V1 from hv.symm]; rfl, (Sub.rfl.up f2).up f5, rfl, wd, up_self, (up_ne (Ne.symm e2)).trans up_self, e2, f5, fun k hk => ⟨mput_no hA e3 k hk, mput_no hA e5 k hk⟩⟩ (by omega)
        · rw [if_neg hv] at g1
          refine g_icmp_ne ok (tgt := 109) dX8_isOneOf_82 (by decide) (fun _ => ?_) (fun c_ => absurd c_ (fun e_ => by have := (nI_eq (a := V1) (b := (b - a)) (by omega) (by omega)).mp e_; omega))
          refine g_iload_n ok dX8_isOneOf_109 rfl ?_
          refine g_iload ok dX8_isOneOf_110 rfl ?_
          refine g_max ok q2492 q576 q90 q577 dX8_isOneOf_112 (dk rfl) rfl (dk rfl) (by omega) ?_
          rw [mx_nI (by omega) (by omega)]
          refine g_istore_n ok dX8_isOneOf_115 (ls1 := [some (.ref (ad 20)), some (.ref c), some (.int (nI (max m V1))), some (.int (nI a)), some (.int (nI b)), some (.int (nI V1))]) (dl rfl) rfl ?_
          refine g_iload ok dX8_isOneOf_116 rfl ?_
          refine g_iconst ok (v := 1) dX8_isOneOf_118 rfl ?_
          refine g_iaddN ok dX8_isOneOf_119 (c := (b + 1)) (a := b) (b := 1) rfl rfl rfl ?_
          refine g_istore_n ok dX8_isOneOf_120 (ls1 := [some (.ref (ad 20)), some (.ref c), some (.int (nI (max m V1))), some (.int (nI (b + 1))), some (.int (nI b)), some (.int (nI V1))]) (dl rfl) rfl ?_
          refine g_goto ok dX8_isOneOf_121 (tgt := 4) (by decide) ?_
          refine g_drop 4 (ls1 := [some (.ref (ad 20)), some (.ref c), some (.int (nI (max m V1))), some (.int (nI (b + 1))), none, some (.int (nI V1))]) rfl ?_
          refine g_drop 5 (ls1 := [some (.ref (ad 20)), some (.ref c), some (.int (nI (max m V1))), some (.int (nI (b + 1))), none, none]) rfl ?_
          exact ih (b + 1) _ z6 g1 (by omega) (by omega)
      have lq : ∀ (k : Nat) (n : Nat), (n + k = b - a) → (cpx (s.A 9) (mL s) (mP s) g a k n = V1) → GW X (mput X.G h0 ad s) 0 24 [some (.ref (ad 20)), some (.ref c), some (.int (nI m)), some (.int (nI a)), some (.int (nI b)), some (.int (nI n))] [] := by
        intro k
        induction k with
        | zero =>
          intro n k0 k1
          refine g_iload ok dX8_isOneOf_24 rfl ?_
          refine g_iload ok dX8_isOneOf_26 rfl ?_
          refine g_iload_n ok dX8_isOneOf_28 rfl ?_
          refine g_isubN ok dX8_isOneOf_29 (c := (b - a)) (a := b) (b := a) rfl rfl (by omega) (by omega) ?_
          refine g_icmp_ge ok (tgt := 76) dX8_isOneOf_30 (by decide) (fun _ => ?_) (fun c_ => absurd (nI_le (a := (b - a)) (b := n) (by omega) (by omega)) c_)
          have k1 : n = V1 := k1
          subst k1
          exact at76
        | succ k ik =>
          intro n k0 k1
          refine g_iload ok dX8_isOneOf_24 rfl ?_
          refine g_iload ok dX8_isOneOf_26 rfl ?_
          refine g_iload_n ok dX8_isOneOf_28 rfl ?_
          refine g_isubN ok dX8_isOneOf_29 (c := (b - a)) (a := b) (b := a) rfl rfl (by omega) (by omega) ?_
          refine g_icmp_ge ok (tgt := 76) dX8_isOneOf_30 (by decide) (fun c_ => absurd c_ (nI_ge (a := n) (b := (b - a)) (by omega) (by omega))) (fun _ => ?_)
          refine g_aload_n ok dX8_isOneOf_33 rfl ?_
          refine m_get ok hA 11 q2246 (by decide) dX8_isOneOf_34 (v := .int (nI (mP s))) (congrArg (fun z => some (Value.int z)) p3) ?_
          refine g_iload ok dX8_isOneOf_37 rfl ?_
          refine g_iaddN ok dX8_isOneOf_39 (c := ((mP s) + n)) (a := (mP s)) (b := n) rfl rfl rfl ?_
          refine g_aload_n ok dX8_isOneOf_40 rfl ?_
          refine m_get ok hA 10 q2245 (by decide) dX8_isOneOf_41 (v := .int (nI (mL s))) (congrArg (fun z => some (Value.int z)) p1) ?_
          by_cases pl : mP s + n < mL s
          · refine g_icmp_ge ok (tgt := 76) dX8_isOneOf_44 (by decide) (fun c_ => absurd c_ (nI_ge (a := ((mP s) + n)) (b := (mL s)) (by omega) (by omega))) (fun _ => ?_)
            refine g_aload_n ok dX8_isOneOf_47 rfl ?_
            refine m_get ok hA 9 q2244 (by decide) dX8_isOneOf_48 (v := .ref (ad 9)) rfl ?_
            refine g_aload_n ok dX8_isOneOf_51 rfl ?_
            refine m_get ok hA 11 q2246 (by decide) dX8_isOneOf_52 (v := .int (nI (mP s))) (congrArg (fun z => some (Value.int z)) p3) ?_
            refine g_iload ok dX8_isOneOf_55 rfl ?_
            refine g_iaddN ok dX8_isOneOf_57 (c := ((mP s) + n)) (a := (mP s)) (b := n) rfl rfl rfl ?_
            refine m_cald ok hA 9 ((mP s) + n) (v := (MS.A s 9 ((mP s) + n))) (by decide) dX8_isOneOf_58 rfl (by simp only [mlen]; omega) rfl ?_
            refine g_aload_n ok dX8_isOneOf_59 rfl ?_
            refine g_iload_n ok dX8_isOneOf_60 rfl ?_
            refine g_iload ok dX8_isOneOf_61 rfl ?_
            refine g_iaddN ok dX8_isOneOf_63 (c := (a + n)) (a := a) (b := n) rfl rfl rfl ?_
            refine g_callV ok q2636 q2637 q2638 q73 q2639 (Recv.ob ok gc_J5 r1) dX8_isOneOf_64 (s_charAt X.l X.G _ c cb N g y1 (a + n) (by omega) y2) (nm_ (by decide : nmb _ 1 = true)) (dl rfl) (dk rfl) rfl rfl (dk rfl) (by omega) (kV ?_) xV
            refine g_icmp_ne ok (tgt := 76) dX8_isOneOf_67 (by decide) (fun c67 => ?_) (fun c67 => ?_)
            · have k1 := cpx_f pl c67 k1
              subst k1
              exact at76
            · refine g_iincN ok dX8_isOneOf_70 (c := n) rfl rfl (ls1 := [some (.ref (ad 20)), some (.ref c), some (.int (nI m)), some (.int (nI a)), some (.int (nI b)), some (.int (nI (n + 1)))]) rfl ?_
              refine g_goto ok dX8_isOneOf_73 (tgt := 24) (by decide) ?_
              exact ik _ (by omega) (cpx_t pl c67 k1)
          · refine g_icmp_ge ok (tgt := 76) dX8_isOneOf_44 (by decide) (fun _ => ?_) (fun c_ => absurd (nI_le (a := (mL s)) (b := ((mP s) + n)) (by omega) (by omega)) c_)
            have k1 := cpx_e pl k1
            subst k1
            exact at76
      exact lq (b - a) 0 (by omega) hV
  exact lp W 0 0 y3 hF (by omega) (by omega)
