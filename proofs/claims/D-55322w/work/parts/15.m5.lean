/-! THE MODEL: what its methods compute, 5 -/
set_option maxRecDepth 100000
abbrev cX8_ticksOn : ByteArray := prog_19_method_35_code
def yX8_ticksOn : MethodName := ⟨RX8, "ticksOn", "()I"⟩
def dkwX8_ticksOn_7 : List UInt8 := [27, 172]
abbrev dktX8_ticksOn_7 : List UInt8 := dkwX8_ticksOn_7 ++ []
def dkwX8_ticksOn_6 : List UInt8 := [182, 0, 97, 42, 180, 0, 9, 6, 92, 46, 4, 96, 79, 132, 1, 1, 42, 28, 182, 0, 137, 167, 255, 141]
abbrev dktX8_ticksOn_6 : List UInt8 := dkwX8_ticksOn_6 ++ dktX8_ticksOn_7
def dkwX8_ticksOn_5 : List UInt8 := [42, 28, 3, 182, 0, 134, 42, 28, 4, 182, 0, 134, 42, 28, 5, 182, 0, 134, 42, 28, 6, 182, 0, 134]
abbrev dktX8_ticksOn_5 : List UInt8 := dkwX8_ticksOn_5 ++ dktX8_ticksOn_6
def dkwX8_ticksOn_4 : List UInt8 := [6, 182, 0, 134, 182, 0, 89, 155, 0, 16, 42, 180, 0, 9, 7, 92, 46, 4, 96, 79, 167, 0, 44, 42]
abbrev dktX8_ticksOn_4 : List UInt8 := dkwX8_ticksOn_4 ++ dktX8_ticksOn_5
def dkwX8_ticksOn_3 : List UInt8 := [167, 255, 234, 42, 42, 28, 3, 182, 0, 134, 42, 28, 4, 182, 0, 134, 42, 28, 5, 182, 0, 134, 42, 28]
abbrev dktX8_ticksOn_3 : List UInt8 := dkwX8_ticksOn_3 ++ dktX8_ticksOn_4
def dkwX8_ticksOn_2 : List UInt8 := [3, 61, 28, 42, 180, 0, 9, 4, 46, 162, 0, 111, 42, 28, 7, 182, 0, 134, 158, 0, 9, 132, 2, 1]
abbrev dktX8_ticksOn_2 : List UInt8 := dkwX8_ticksOn_2 ++ dktX8_ticksOn_3
def dkwX8_ticksOn_1 : List UInt8 := [180, 0, 9, 16, 72, 8, 27, 104, 96, 7, 96, 92, 46, 4, 100, 79, 132, 1, 1, 167, 255, 226, 3, 60]
abbrev dktX8_ticksOn_1 : List UInt8 := dkwX8_ticksOn_1 ++ dktX8_ticksOn_2
def dkwX8_ticksOn_0 : List UInt8 := [42, 180, 0, 9, 3, 92, 46, 4, 96, 79, 3, 60, 27, 42, 180, 0, 9, 4, 46, 162, 0, 26, 42]
abbrev dktX8_ticksOn_0 : List UInt8 := dkwX8_ticksOn_0 ++ dktX8_ticksOn_1
theorem dksX8_ticksOn_0 : cX8_ticksOn.data.toList.drop 0 = dktX8_ticksOn_0 := by decide +kernel
theorem dksX8_ticksOn_1 : cX8_ticksOn.data.toList.drop 23 = dktX8_ticksOn_1 := dk_seg dksX8_ticksOn_0 23 rfl rfl
theorem dksX8_ticksOn_2 : cX8_ticksOn.data.toList.drop 47 = dktX8_ticksOn_2 := dk_seg dksX8_ticksOn_1 24 rfl rfl
theorem dksX8_ticksOn_3 : cX8_ticksOn.data.toList.drop 71 = dktX8_ticksOn_3 := dk_seg dksX8_ticksOn_2 24 rfl rfl
theorem dksX8_ticksOn_4 : cX8_ticksOn.data.toList.drop 95 = dktX8_ticksOn_4 := dk_seg dksX8_ticksOn_3 24 rfl rfl
theorem dksX8_ticksOn_5 : cX8_ticksOn.data.toList.drop 119 = dktX8_ticksOn_5 := dk_seg dksX8_ticksOn_4 24 rfl rfl
theorem dksX8_ticksOn_6 : cX8_ticksOn.data.toList.drop 143 = dktX8_ticksOn_6 := dk_seg dksX8_ticksOn_5 24 rfl rfl
theorem dksX8_ticksOn_7 : cX8_ticksOn.data.toList.drop 167 = dktX8_ticksOn_7 := dk_seg dksX8_ticksOn_6 24 rfl rfl
theorem dX8_ticksOn_0 : decode cX8_ticksOn 0 = .ok (.aload_n 0, 1) := dk_42 (dk_at dksX8_ticksOn_0 0 rfl rfl)
theorem dX8_ticksOn_1 : decode cX8_ticksOn 1 = .ok (.getfield 9, 3) := dk_180 0 9 (dk_at dksX8_ticksOn_0 1 rfl rfl)
theorem dX8_ticksOn_4 : decode cX8_ticksOn 4 = .ok (.iconst 0, 1) := dk_3 (dk_at dksX8_ticksOn_0 4 rfl rfl)
theorem dX8_ticksOn_5 : decode cX8_ticksOn 5 = .ok (.dup2, 1) := dk_92 (dk_at dksX8_ticksOn_0 5 rfl rfl)
theorem dX8_ticksOn_6 : decode cX8_ticksOn 6 = .ok (.iaload, 1) := dk_46 (dk_at dksX8_ticksOn_0 6 rfl rfl)
theorem dX8_ticksOn_7 : decode cX8_ticksOn 7 = .ok (.iconst 1, 1) := dk_4 (dk_at dksX8_ticksOn_0 7 rfl rfl)
theorem dX8_ticksOn_8 : decode cX8_ticksOn 8 = .ok (.iadd, 1) := dk_96 (dk_at dksX8_ticksOn_0 8 rfl rfl)
theorem dX8_ticksOn_9 : decode cX8_ticksOn 9 = .ok (.iastore, 1) := dk_79 (dk_at dksX8_ticksOn_0 9 rfl rfl)
theorem dX8_ticksOn_10 : decode cX8_ticksOn 10 = .ok (.iconst 0, 1) := dk_3 (dk_at dksX8_ticksOn_0 10 rfl rfl)
theorem dX8_ticksOn_11 : decode cX8_ticksOn 11 = .ok (.istore_n 1, 1) := dk_60 (dk_at dksX8_ticksOn_0 11 rfl rfl)
theorem dX8_ticksOn_12 : decode cX8_ticksOn 12 = .ok (.iload_n 1, 1) := dk_27 (dk_at dksX8_ticksOn_0 12 rfl rfl)
theorem dX8_ticksOn_13 : decode cX8_ticksOn 13 = .ok (.aload_n 0, 1) := dk_42 (dk_at dksX8_ticksOn_0 13 rfl rfl)
theorem dX8_ticksOn_14 : decode cX8_ticksOn 14 = .ok (.getfield 9, 3) := dk_180 0 9 (dk_at dksX8_ticksOn_0 14 rfl rfl)
theorem dX8_ticksOn_17 : decode cX8_ticksOn 17 = .ok (.iconst 1, 1) := dk_4 (dk_at dksX8_ticksOn_0 17 rfl rfl)
theorem dX8_ticksOn_18 : decode cX8_ticksOn 18 = .ok (.iaload, 1) := dk_46 (dk_at dksX8_ticksOn_0 18 rfl rfl)
theorem dX8_ticksOn_19 : decode cX8_ticksOn 19 = .ok (.if_icmp .ge 26, 3) := dk_162 0 26 (dk_at dksX8_ticksOn_0 19 rfl rfl)
theorem dX8_ticksOn_22 : decode cX8_ticksOn 22 = .ok (.aload_n 0, 1) := dk_42 (dk_at dksX8_ticksOn_0 22 rfl rfl)
theorem dX8_ticksOn_23 : decode cX8_ticksOn 23 = .ok (.getfield 9, 3) := dk_180 0 9 (dk_at dksX8_ticksOn_1 0 rfl rfl)
theorem dX8_ticksOn_26 : decode cX8_ticksOn 26 = .ok (.bipush 72, 2) := dk_16 72 (dk_at dksX8_ticksOn_1 3 rfl rfl)
theorem dX8_ticksOn_28 : decode cX8_ticksOn 28 = .ok (.iconst 5, 1) := dk_8 (dk_at dksX8_ticksOn_1 5 rfl rfl)
theorem dX8_ticksOn_29 : decode cX8_ticksOn 29 = .ok (.iload_n 1, 1) := dk_27 (dk_at dksX8_ticksOn_1 6 rfl rfl)
theorem dX8_ticksOn_30 : decode cX8_ticksOn 30 = .ok (.imul, 1) := dk_104 (dk_at dksX8_ticksOn_1 7 rfl rfl)
theorem dX8_ticksOn_31 : decode cX8_ticksOn 31 = .ok (.iadd, 1) := dk_96 (dk_at dksX8_ticksOn_1 8 rfl rfl)
theorem dX8_ticksOn_32 : decode cX8_ticksOn 32 = .ok (.iconst 4, 1) := dk_7 (dk_at dksX8_ticksOn_1 9 rfl rfl)
theorem dX8_ticksOn_33 : decode cX8_ticksOn 33 = .ok (.iadd, 1) := dk_96 (dk_at dksX8_ticksOn_1 10 rfl rfl)
theorem dX8_ticksOn_34 : decode cX8_ticksOn 34 = .ok (.dup2, 1) := dk_92 (dk_at dksX8_ticksOn_1 11 rfl rfl)
theorem dX8_ticksOn_35 : decode cX8_ticksOn 35 = .ok (.iaload, 1) := dk_46 (dk_at dksX8_ticksOn_1 12 rfl rfl)
theorem dX8_ticksOn_36 : decode cX8_ticksOn 36 = .ok (.iconst 1, 1) := dk_4 (dk_at dksX8_ticksOn_1 13 rfl rfl)
theorem dX8_ticksOn_37 : decode cX8_ticksOn 37 = .ok (.isub, 1) := dk_100 (dk_at dksX8_ticksOn_1 14 rfl rfl)
theorem dX8_ticksOn_38 : decode cX8_ticksOn 38 = .ok (.iastore, 1) := dk_79 (dk_at dksX8_ticksOn_1 15 rfl rfl)
theorem dX8_ticksOn_39 : decode cX8_ticksOn 39 = .ok (.iinc 1 1, 3) := dk_132 1 1 (dk_at dksX8_ticksOn_1 16 rfl rfl)
theorem dX8_ticksOn_42 : decode cX8_ticksOn 42 = .ok (.goto (-30), 3) := dk_167 255 226 (dk_at dksX8_ticksOn_1 19 rfl rfl)
theorem dX8_ticksOn_45 : decode cX8_ticksOn 45 = .ok (.iconst 0, 1) := dk_3 (dk_at dksX8_ticksOn_1 22 rfl rfl)
theorem dX8_ticksOn_46 : decode cX8_ticksOn 46 = .ok (.istore_n 1, 1) := dk_60 (dk_at dksX8_ticksOn_1 23 rfl rfl)
theorem dX8_ticksOn_47 : decode cX8_ticksOn 47 = .ok (.iconst 0, 1) := dk_3 (dk_at dksX8_ticksOn_2 0 rfl rfl)
theorem dX8_ticksOn_48 : decode cX8_ticksOn 48 = .ok (.istore_n 2, 1) := dk_61 (dk_at dksX8_ticksOn_2 1 rfl rfl)
theorem dX8_ticksOn_49 : decode cX8_ticksOn 49 = .ok (.iload_n 2, 1) := dk_28 (dk_at dksX8_ticksOn_2 2 rfl rfl)
theorem dX8_ticksOn_50 : decode cX8_ticksOn 50 = .ok (.aload_n 0, 1) := dk_42 (dk_at dksX8_ticksOn_2 3 rfl rfl)
theorem dX8_ticksOn_51 : decode cX8_ticksOn 51 = .ok (.getfield 9, 3) := dk_180 0 9 (dk_at dksX8_ticksOn_2 4 rfl rfl)
theorem dX8_ticksOn_54 : decode cX8_ticksOn 54 = .ok (.iconst 1, 1) := dk_4 (dk_at dksX8_ticksOn_2 7 rfl rfl)
theorem dX8_ticksOn_55 : decode cX8_ticksOn 55 = .ok (.iaload, 1) := dk_46 (dk_at dksX8_ticksOn_2 8 rfl rfl)
theorem dX8_ticksOn_56 : decode cX8_ticksOn 56 = .ok (.if_icmp .ge 111, 3) := dk_162 0 111 (dk_at dksX8_ticksOn_2 9 rfl rfl)
theorem dX8_ticksOn_59 : decode cX8_ticksOn 59 = .ok (.aload_n 0, 1) := dk_42 (dk_at dksX8_ticksOn_2 12 rfl rfl)
theorem dX8_ticksOn_60 : decode cX8_ticksOn 60 = .ok (.iload_n 2, 1) := dk_28 (dk_at dksX8_ticksOn_2 13 rfl rfl)
theorem dX8_ticksOn_61 : decode cX8_ticksOn 61 = .ok (.iconst 4, 1) := dk_7 (dk_at dksX8_ticksOn_2 14 rfl rfl)
theorem dX8_ticksOn_62 : decode cX8_ticksOn 62 = .ok (.invokevirtual 134, 3) := dk_182 0 134 (dk_at dksX8_ticksOn_2 15 rfl rfl)
theorem dX8_ticksOn_65 : decode cX8_ticksOn 65 = .ok (.ifCond .le 9, 3) := dk_158 0 9 (dk_at dksX8_ticksOn_2 18 rfl rfl)
theorem dX8_ticksOn_68 : decode cX8_ticksOn 68 = .ok (.iinc 2 1, 3) := dk_132 2 1 (dk_at dksX8_ticksOn_2 21 rfl rfl)
theorem dX8_ticksOn_71 : decode cX8_ticksOn 71 = .ok (.goto (-22), 3) := dk_167 255 234 (dk_at dksX8_ticksOn_3 0 rfl rfl)
theorem dX8_ticksOn_74 : decode cX8_ticksOn 74 = .ok (.aload_n 0, 1) := dk_42 (dk_at dksX8_ticksOn_3 3 rfl rfl)
theorem dX8_ticksOn_75 : decode cX8_ticksOn 75 = .ok (.aload_n 0, 1) := dk_42 (dk_at dksX8_ticksOn_3 4 rfl rfl)
theorem dX8_ticksOn_76 : decode cX8_ticksOn 76 = .ok (.iload_n 2, 1) := dk_28 (dk_at dksX8_ticksOn_3 5 rfl rfl)
theorem dX8_ticksOn_77 : decode cX8_ticksOn 77 = .ok (.iconst 0, 1) := dk_3 (dk_at dksX8_ticksOn_3 6 rfl rfl)
theorem dX8_ticksOn_78 : decode cX8_ticksOn 78 = .ok (.invokevirtual 134, 3) := dk_182 0 134 (dk_at dksX8_ticksOn_3 7 rfl rfl)
theorem dX8_ticksOn_81 : decode cX8_ticksOn 81 = .ok (.aload_n 0, 1) := dk_42 (dk_at dksX8_ticksOn_3 10 rfl rfl)
theorem dX8_ticksOn_82 : decode cX8_ticksOn 82 = .ok (.iload_n 2, 1) := dk_28 (dk_at dksX8_ticksOn_3 11 rfl rfl)
theorem dX8_ticksOn_83 : decode cX8_ticksOn 83 = .ok (.iconst 1, 1) := dk_4 (dk_at dksX8_ticksOn_3 12 rfl rfl)
theorem dX8_ticksOn_84 : decode cX8_ticksOn 84 = .ok (.invokevirtual 134, 3) := dk_182 0 134 (dk_at dksX8_ticksOn_3 13 rfl rfl)
theorem dX8_ticksOn_87 : decode cX8_ticksOn 87 = .ok (.aload_n 0, 1) := dk_42 (dk_at dksX8_ticksOn_3 16 rfl rfl)
theorem dX8_ticksOn_88 : decode cX8_ticksOn 88 = .ok (.iload_n 2, 1) := dk_28 (dk_at dksX8_ticksOn_3 17 rfl rfl)
theorem dX8_ticksOn_89 : decode cX8_ticksOn 89 = .ok (.iconst 2, 1) := dk_5 (dk_at dksX8_ticksOn_3 18 rfl rfl)
theorem dX8_ticksOn_90 : decode cX8_ticksOn 90 = .ok (.invokevirtual 134, 3) := dk_182 0 134 (dk_at dksX8_ticksOn_3 19 rfl rfl)
theorem dX8_ticksOn_93 : decode cX8_ticksOn 93 = .ok (.aload_n 0, 1) := dk_42 (dk_at dksX8_ticksOn_3 22 rfl rfl)
theorem dX8_ticksOn_94 : decode cX8_ticksOn 94 = .ok (.iload_n 2, 1) := dk_28 (dk_at dksX8_ticksOn_3 23 rfl rfl)
theorem dX8_ticksOn_95 : decode cX8_ticksOn 95 = .ok (.iconst 3, 1) := dk_6 (dk_at dksX8_ticksOn_4 0 rfl rfl)
theorem dX8_ticksOn_96 : decode cX8_ticksOn 96 = .ok (.invokevirtual 134, 3) := dk_182 0 134 (dk_at dksX8_ticksOn_4 1 rfl rfl)
theorem dX8_ticksOn_99 : decode cX8_ticksOn 99 = .ok (.invokevirtual 89, 3) := dk_182 0 89 (dk_at dksX8_ticksOn_4 4 rfl rfl)
theorem dX8_ticksOn_102 : decode cX8_ticksOn 102 = .ok (.ifCond .lt 16, 3) := dk_155 0 16 (dk_at dksX8_ticksOn_4 7 rfl rfl)
theorem dX8_ticksOn_105 : decode cX8_ticksOn 105 = .ok (.aload_n 0, 1) := dk_42 (dk_at dksX8_ticksOn_4 10 rfl rfl)
theorem dX8_ticksOn_106 : decode cX8_ticksOn 106 = .ok (.getfield 9, 3) := dk_180 0 9 (dk_at dksX8_ticksOn_4 11 rfl rfl)
theorem dX8_ticksOn_109 : decode cX8_ticksOn 109 = .ok (.iconst 4, 1) := dk_7 (dk_at dksX8_ticksOn_4 14 rfl rfl)
theorem dX8_ticksOn_110 : decode cX8_ticksOn 110 = .ok (.dup2, 1) := dk_92 (dk_at dksX8_ticksOn_4 15 rfl rfl)
theorem dX8_ticksOn_111 : decode cX8_ticksOn 111 = .ok (.iaload, 1) := dk_46 (dk_at dksX8_ticksOn_4 16 rfl rfl)
theorem dX8_ticksOn_112 : decode cX8_ticksOn 112 = .ok (.iconst 1, 1) := dk_4 (dk_at dksX8_ticksOn_4 17 rfl rfl)
theorem dX8_ticksOn_113 : decode cX8_ticksOn 113 = .ok (.iadd, 1) := dk_96 (dk_at dksX8_ticksOn_4 18 rfl rfl)
theorem dX8_ticksOn_114 : decode cX8_ticksOn 114 = .ok (.iastore, 1) := dk_79 (dk_at dksX8_ticksOn_4 19 rfl rfl)
theorem dX8_ticksOn_115 : decode cX8_ticksOn 115 = .ok (.goto 44, 3) := dk_167 0 44 (dk_at dksX8_ticksOn_4 20 rfl rfl)
theorem dX8_ticksOn_118 : decode cX8_ticksOn 118 = .ok (.aload_n 0, 1) := dk_42 (dk_at dksX8_ticksOn_4 23 rfl rfl)
theorem dX8_ticksOn_119 : decode cX8_ticksOn 119 = .ok (.aload_n 0, 1) := dk_42 (dk_at dksX8_ticksOn_5 0 rfl rfl)
theorem dX8_ticksOn_120 : decode cX8_ticksOn 120 = .ok (.iload_n 2, 1) := dk_28 (dk_at dksX8_ticksOn_5 1 rfl rfl)
theorem dX8_ticksOn_121 : decode cX8_ticksOn 121 = .ok (.iconst 0, 1) := dk_3 (dk_at dksX8_ticksOn_5 2 rfl rfl)
theorem dX8_ticksOn_122 : decode cX8_ticksOn 122 = .ok (.invokevirtual 134, 3) := dk_182 0 134 (dk_at dksX8_ticksOn_5 3 rfl rfl)
theorem dX8_ticksOn_125 : decode cX8_ticksOn 125 = .ok (.aload_n 0, 1) := dk_42 (dk_at dksX8_ticksOn_5 6 rfl rfl)
theorem dX8_ticksOn_126 : decode cX8_ticksOn 126 = .ok (.iload_n 2, 1) := dk_28 (dk_at dksX8_ticksOn_5 7 rfl rfl)
theorem dX8_ticksOn_127 : decode cX8_ticksOn 127 = .ok (.iconst 1, 1) := dk_4 (dk_at dksX8_ticksOn_5 8 rfl rfl)
theorem dX8_ticksOn_128 : decode cX8_ticksOn 128 = .ok (.invokevirtual 134, 3) := dk_182 0 134 (dk_at dksX8_ticksOn_5 9 rfl rfl)
theorem dX8_ticksOn_131 : decode cX8_ticksOn 131 = .ok (.aload_n 0, 1) := dk_42 (dk_at dksX8_ticksOn_5 12 rfl rfl)
theorem dX8_ticksOn_132 : decode cX8_ticksOn 132 = .ok (.iload_n 2, 1) := dk_28 (dk_at dksX8_ticksOn_5 13 rfl rfl)
theorem dX8_ticksOn_133 : decode cX8_ticksOn 133 = .ok (.iconst 2, 1) := dk_5 (dk_at dksX8_ticksOn_5 14 rfl rfl)
theorem dX8_ticksOn_134 : decode cX8_ticksOn 134 = .ok (.invokevirtual 134, 3) := dk_182 0 134 (dk_at dksX8_ticksOn_5 15 rfl rfl)
theorem dX8_ticksOn_137 : decode cX8_ticksOn 137 = .ok (.aload_n 0, 1) := dk_42 (dk_at dksX8_ticksOn_5 18 rfl rfl)
theorem dX8_ticksOn_138 : decode cX8_ticksOn 138 = .ok (.iload_n 2, 1) := dk_28 (dk_at dksX8_ticksOn_5 19 rfl rfl)
theorem dX8_ticksOn_139 : decode cX8_ticksOn 139 = .ok (.iconst 3, 1) := dk_6 (dk_at dksX8_ticksOn_5 20 rfl rfl)
theorem dX8_ticksOn_140 : decode cX8_ticksOn 140 = .ok (.invokevirtual 134, 3) := dk_182 0 134 (dk_at dksX8_ticksOn_5 21 rfl rfl)
theorem dX8_ticksOn_143 : decode cX8_ticksOn 143 = .ok (.invokevirtual 97, 3) := dk_182 0 97 (dk_at dksX8_ticksOn_6 0 rfl rfl)
theorem dX8_ticksOn_146 : decode cX8_ticksOn 146 = .ok (.aload_n 0, 1) := dk_42 (dk_at dksX8_ticksOn_6 3 rfl rfl)
theorem dX8_ticksOn_147 : decode cX8_ticksOn 147 = .ok (.getfield 9, 3) := dk_180 0 9 (dk_at dksX8_ticksOn_6 4 rfl rfl)
theorem dX8_ticksOn_150 : decode cX8_ticksOn 150 = .ok (.iconst 3, 1) := dk_6 (dk_at dksX8_ticksOn_6 7 rfl rfl)
theorem dX8_ticksOn_151 : decode cX8_ticksOn 151 = .ok (.dup2, 1) := dk_92 (dk_at dksX8_ticksOn_6 8 rfl rfl)
theorem dX8_ticksOn_152 : decode cX8_ticksOn 152 = .ok (.iaload, 1) := dk_46 (dk_at dksX8_ticksOn_6 9 rfl rfl)
theorem dX8_ticksOn_153 : decode cX8_ticksOn 153 = .ok (.iconst 1, 1) := dk_4 (dk_at dksX8_ticksOn_6 10 rfl rfl)
theorem dX8_ticksOn_154 : decode cX8_ticksOn 154 = .ok (.iadd, 1) := dk_96 (dk_at dksX8_ticksOn_6 11 rfl rfl)
theorem dX8_ticksOn_155 : decode cX8_ticksOn 155 = .ok (.iastore, 1) := dk_79 (dk_at dksX8_ticksOn_6 12 rfl rfl)
theorem dX8_ticksOn_156 : decode cX8_ticksOn 156 = .ok (.iinc 1 1, 3) := dk_132 1 1 (dk_at dksX8_ticksOn_6 13 rfl rfl)
theorem dX8_ticksOn_159 : decode cX8_ticksOn 159 = .ok (.aload_n 0, 1) := dk_42 (dk_at dksX8_ticksOn_6 16 rfl rfl)
theorem dX8_ticksOn_160 : decode cX8_ticksOn 160 = .ok (.iload_n 2, 1) := dk_28 (dk_at dksX8_ticksOn_6 17 rfl rfl)
theorem dX8_ticksOn_161 : decode cX8_ticksOn 161 = .ok (.invokevirtual 137, 3) := dk_182 0 137 (dk_at dksX8_ticksOn_6 18 rfl rfl)
theorem dX8_ticksOn_164 : decode cX8_ticksOn 164 = .ok (.goto (-115), 3) := dk_167 255 141 (dk_at dksX8_ticksOn_6 21 rfl rfl)
theorem dX8_ticksOn_167 : decode cX8_ticksOn 167 = .ok (.iload_n 1, 1) := dk_27 (dk_at dksX8_ticksOn_7 0 rfl rfl)
theorem dX8_ticksOn_168 : decode cX8_ticksOn 168 = .ok (.ireturn, 1) := dk_172 (dk_at dksX8_ticksOn_7 1 rfl rfl)
abbrev cX8_ticks : ByteArray := prog_19_method_36_code
def yX8_ticks : MethodName := ⟨RX8, "ticks", "(I)I"⟩
def dkwX8_ticks_1 : List UInt8 := [182, 0, 141, 96, 61, 132, 3, 1, 167, 255, 241, 42, 28, 182, 0, 104, 172]
abbrev dktX8_ticks_1 : List UInt8 := dkwX8_ticks_1 ++ []
def dkwX8_ticks_0 : List UInt8 := [27, 4, 16, 40, 184, 0, 67, 154, 0, 5, 4, 172, 3, 61, 3, 62, 29, 27, 162, 0, 16, 28, 42]
abbrev dktX8_ticks_0 : List UInt8 := dkwX8_ticks_0 ++ dktX8_ticks_1
theorem dksX8_ticks_0 : cX8_ticks.data.toList.drop 0 = dktX8_ticks_0 := by decide +kernel
theorem dksX8_ticks_1 : cX8_ticks.data.toList.drop 23 = dktX8_ticks_1 := dk_seg dksX8_ticks_0 23 rfl rfl
theorem dX8_ticks_0 : decode cX8_ticks 0 = .ok (.iload_n 1, 1) := dk_27 (dk_at dksX8_ticks_0 0 rfl rfl)
theorem dX8_ticks_1 : decode cX8_ticks 1 = .ok (.iconst 1, 1) := dk_4 (dk_at dksX8_ticks_0 1 rfl rfl)
theorem dX8_ticks_2 : decode cX8_ticks 2 = .ok (.bipush 40, 2) := dk_16 40 (dk_at dksX8_ticks_0 2 rfl rfl)
theorem dX8_ticks_4 : decode cX8_ticks 4 = .ok (.invokestatic 67, 3) := dk_184 0 67 (dk_at dksX8_ticks_0 4 rfl rfl)
theorem dX8_ticks_7 : decode cX8_ticks 7 = .ok (.ifCond .ne 5, 3) := dk_154 0 5 (dk_at dksX8_ticks_0 7 rfl rfl)
theorem dX8_ticks_10 : decode cX8_ticks 10 = .ok (.iconst 1, 1) := dk_4 (dk_at dksX8_ticks_0 10 rfl rfl)
theorem dX8_ticks_11 : decode cX8_ticks 11 = .ok (.ireturn, 1) := dk_172 (dk_at dksX8_ticks_0 11 rfl rfl)
theorem dX8_ticks_12 : decode cX8_ticks 12 = .ok (.iconst 0, 1) := dk_3 (dk_at dksX8_ticks_0 12 rfl rfl)
theorem dX8_ticks_13 : decode cX8_ticks 13 = .ok (.istore_n 2, 1) := dk_61 (dk_at dksX8_ticks_0 13 rfl rfl)
theorem dX8_ticks_14 : decode cX8_ticks 14 = .ok (.iconst 0, 1) := dk_3 (dk_at dksX8_ticks_0 14 rfl rfl)
theorem dX8_ticks_15 : decode cX8_ticks 15 = .ok (.istore_n 3, 1) := dk_62 (dk_at dksX8_ticks_0 15 rfl rfl)
theorem dX8_ticks_16 : decode cX8_ticks 16 = .ok (.iload_n 3, 1) := dk_29 (dk_at dksX8_ticks_0 16 rfl rfl)
theorem dX8_ticks_17 : decode cX8_ticks 17 = .ok (.iload_n 1, 1) := dk_27 (dk_at dksX8_ticks_0 17 rfl rfl)
theorem dX8_ticks_18 : decode cX8_ticks 18 = .ok (.if_icmp .ge 16, 3) := dk_162 0 16 (dk_at dksX8_ticks_0 18 rfl rfl)
theorem dX8_ticks_21 : decode cX8_ticks 21 = .ok (.iload_n 2, 1) := dk_28 (dk_at dksX8_ticks_0 21 rfl rfl)
theorem dX8_ticks_22 : decode cX8_ticks 22 = .ok (.aload_n 0, 1) := dk_42 (dk_at dksX8_ticks_0 22 rfl rfl)
theorem dX8_ticks_23 : decode cX8_ticks 23 = .ok (.invokevirtual 141, 3) := dk_182 0 141 (dk_at dksX8_ticks_1 0 rfl rfl)
theorem dX8_ticks_26 : decode cX8_ticks 26 = .ok (.iadd, 1) := dk_96 (dk_at dksX8_ticks_1 3 rfl rfl)
theorem dX8_ticks_27 : decode cX8_ticks 27 = .ok (.istore_n 2, 1) := dk_61 (dk_at dksX8_ticks_1 4 rfl rfl)
theorem dX8_ticks_28 : decode cX8_ticks 28 = .ok (.iinc 3 1, 3) := dk_132 3 1 (dk_at dksX8_ticks_1 5 rfl rfl)
theorem dX8_ticks_31 : decode cX8_ticks 31 = .ok (.goto (-15), 3) := dk_167 255 241 (dk_at dksX8_ticks_1 8 rfl rfl)
theorem dX8_ticks_34 : decode cX8_ticks 34 = .ok (.aload_n 0, 1) := dk_42 (dk_at dksX8_ticks_1 11 rfl rfl)
theorem dX8_ticks_35 : decode cX8_ticks 35 = .ok (.iload_n 2, 1) := dk_28 (dk_at dksX8_ticks_1 12 rfl rfl)
theorem dX8_ticks_36 : decode cX8_ticks 36 = .ok (.invokevirtual 104, 3) := dk_182 0 104 (dk_at dksX8_ticks_1 13 rfl rfl)
theorem dX8_ticks_39 : decode cX8_ticks 39 = .ok (.ireturn, 1) := dk_172 (dk_at dksX8_ticks_1 16 rfl rfl)
abbrev cX8_tick : ByteArray := prog_19_method_37_code
def yX8_tick : MethodName := ⟨RX8, "tick", "(I)I"⟩
def dkwX8_tick_0 : List UInt8 := [42, 182, 0, 107, 42, 42, 27, 182, 0, 145, 182, 0, 113, 172]
abbrev dktX8_tick_0 : List UInt8 := dkwX8_tick_0 ++ []
theorem dksX8_tick_0 : cX8_tick.data.toList.drop 0 = dktX8_tick_0 := by decide +kernel
theorem dX8_tick_0 : decode cX8_tick 0 = .ok (.aload_n 0, 1) := dk_42 (dk_at dksX8_tick_0 0 rfl rfl)
theorem dX8_tick_1 : decode cX8_tick 1 = .ok (.invokevirtual 107, 3) := dk_182 0 107 (dk_at dksX8_tick_0 1 rfl rfl)
theorem dX8_tick_4 : decode cX8_tick 4 = .ok (.aload_n 0, 1) := dk_42 (dk_at dksX8_tick_0 4 rfl rfl)
theorem dX8_tick_5 : decode cX8_tick 5 = .ok (.aload_n 0, 1) := dk_42 (dk_at dksX8_tick_0 5 rfl rfl)
theorem dX8_tick_6 : decode cX8_tick 6 = .ok (.iload_n 1, 1) := dk_27 (dk_at dksX8_tick_0 6 rfl rfl)
theorem dX8_tick_7 : decode cX8_tick 7 = .ok (.invokevirtual 145, 3) := dk_182 0 145 (dk_at dksX8_tick_0 7 rfl rfl)
theorem dX8_tick_10 : decode cX8_tick 10 = .ok (.invokevirtual 113, 3) := dk_182 0 113 (dk_at dksX8_tick_0 10 rfl rfl)
theorem dX8_tick_13 : decode cX8_tick 13 = .ok (.ireturn, 1) := dk_172 (dk_at dksX8_tick_0 13 rfl rfl)
theorem q2429 : (Jvm.Cond.methodLink "SpanRulerModel" (141 : Nat) ({ cls := "SpanRulerModel", name := "ticksOn", desc := "()I" } : Jvm.MethodName)) ∈ lw_all := lw_g (lw_at lw_m10 209 rfl) rfl
theorem q2432 : (Jvm.Cond.code ({ cls := "SpanRulerModel", name := "ticksOn", desc := "()I" } : Jvm.MethodName) prog_19_method_35_code (3 : Nat) (Option.some Jvm.ClassFile.FieldType.int)) ∈ lw_all := lw_g (lw_at lw_m10 212 rfl) rfl
theorem q2431 : (Jvm.Cond.instanceMethod ({ cls := "SpanRulerModel", name := "ticksOn", desc := "()I" } : Jvm.MethodName)) ∈ lw_all := lw_g (lw_at lw_m10 211 rfl) rfl
theorem q2425 : (Jvm.Cond.methodLink "SpanRulerModel" (145 : Nat) ({ cls := "SpanRulerModel", name := "ticks", desc := "(I)I" } : Jvm.MethodName)) ∈ lw_all := lw_g (lw_at lw_m10 205 rfl) rfl
theorem q2428 : (Jvm.Cond.code ({ cls := "SpanRulerModel", name := "ticks", desc := "(I)I" } : Jvm.MethodName) prog_19_method_36_code (4 : Nat) (Option.some Jvm.ClassFile.FieldType.int)) ∈ lw_all := lw_g (lw_at lw_m10 208 rfl) rfl
theorem q2427 : (Jvm.Cond.instanceMethod ({ cls := "SpanRulerModel", name := "ticks", desc := "(I)I" } : Jvm.MethodName)) ∈ lw_all := lw_g (lw_at lw_m10 207 rfl) rfl
/-! ticks and what is asked of numbers -/
def mSps (s : MS) : Prop := ∀ p, p < mN s → isSp (s.A 0 (72 + 5 * p + 1)) (s.A 0 (72 + 5 * p + 2)) = true
def mOk (s : MS) : Prop := mNo s ∧ mSps s
def tdl : Nat → Nat → MS → MS
  | 0, _, t => t
  | n + 1, p, t => tdl n (p + 1) (mA t 0 (72 + 5 * p + 4) (t.A 0 (72 + 5 * p + 4) - 1))
def tkW (p : Nat) (t : MS) : Bool := decide (0 < t.A 0 (72 + 5 * p + 4))
def tkL (p : Nat) (t : MS) : Int32 := lvF (t.A 0) (t.A 0 (72 + 5 * p + 0)) (t.A 0 (72 + 5 * p + 3)) (sp (t.A 0 (72 + 5 * p + 1)) (t.A 0 (72 + 5 * p + 2))) (nn (t.A 0 (72 + 5 * p + 1)))
def tkM (t : MS) : MS := mA t 0 4 (t.A 0 4 + 1)
def tkA (p : Nat) (t : MS) : MS := mActs (t.A 0 (72 + 5 * p + 0)) (t.A 0 (72 + 5 * p + 3)) (sp (t.A 0 (72 + 5 * p + 1)) (t.A 0 (72 + 5 * p + 2))) (nn (t.A 0 (72 + 5 * p + 1))) t
def tkD (p : Nat) (t : MS) : MS := mA (tkA p t) 0 3 ((tkA p t).A 0 3 + 1)
def tkl : Nat → Nat → Int32 → MS → Int32 × MS
  | 0, _, n, t => (n, t)
  | m + 1, p, n, t => cond (tkW p t) (tkl m (p + 1) n t) (if 0 ≤ tkL p t then tkl m p n (mGoes p (tkM t)) else tkl m p (n + 1) (mGoes p (tkD p t)))
def tk0 (s : MS) : MS := mA s 0 0 (s.A 0 0 + 1)
def mTick (s : MS) : Int32 × MS := tkl (mN s) 0 0 (tdl (mN s) 0 (tk0 s))
def tks : Nat → Int32 → MS → Int32 × MS
  | 0, n, t => (n, t)
  | m + 1, n, t => tks m (n + (mTick t).1) (mTick t).2
def mTicks (s : MS) (v : Int32) : Int32 × MS := if inR v 1 40 = true then (0, mI (tks (nn v) 0 s).2 19 (tks (nn v) 0 s).1) else (1, s)
def mTickC (s : MS) (v : Int32) : Int32 × MS := mEnds (mTicks (mTries s) v).2 (mTicks (mTries s) v).1
theorem tkl_a {m p : Nat} {n : Int32} {t : MS} {F : Int32 × MS} (h : 0 < t.A 0 (72 + 5 * p + 4)) (g : tkl (m + 1) p n t = F) : tkl m (p + 1) n t = F := by
  rw [tkl, show tkW p t = true from decide_eq_true h] at g; exact g
theorem tkl_b {m p : Nat} {n : Int32} {t : MS} {F : Int32 × MS} (h : ¬ 0 < t.A 0 (72 + 5 * p + 4)) (h2 : 0 ≤ tkL p t) (g : tkl (m + 1) p n t = F) : tkl m p n (mGoes p (tkM t)) = F := by
  rw [tkl, show tkW p t = false from decide_eq_false h, cond_false, if_pos h2] at g; exact g
theorem tkl_c {m p : Nat} {n : Int32} {t : MS} {F : Int32 × MS} (h : ¬ 0 < t.A 0 (72 + 5 * p + 4)) (h2 : ¬ 0 ≤ tkL p t) (g : tkl (m + 1) p n t = F) : tkl m p (n + 1) (mGoes p (tkD p t)) = F := by
  rw [tkl, show tkW p t = false from decide_eq_false h, cond_false, if_neg h2] at g; exact g
theorem ok_same {s t : MS} (h1 : t.A 0 1 = s.A 0 1) (h : ∀ p, p < 10 → t.A 0 (72 + 5 * p + 1) = s.A 0 (72 + 5 * p + 1) ∧ t.A 0 (72 + 5 * p + 2) = s.A 0 (72 + 5 * p + 2)) (x : mOk s) : mOk t ∧ mN t = mN s := by
  have e : mN t = mN s := by unfold mN; rw [h1]
  obtain ⟨⟨x1, x2⟩, x3⟩ := x
  refine ⟨⟨⟨by rw [e, h1]; exact x1, by rw [e]; exact x2⟩, fun p hp => ?_⟩, e⟩
  rw [e] at hp
  rw [(h p (by omega)).1, (h p (by omega)).2]
  exact x3 p hp
theorem acl_off (k x : Int32) : ∀ (n c : Nat) (t : MS) (q : Nat), q < 8 + c ∨ 8 + c + n ≤ q → (acl k x n c t).A 0 q = t.A 0 q := by
  intro n
  induction n with
  | zero => intro c t q _; rfl
  | succ n ih =>
    intro c t q hq
    refine (ih (c + 1) _ q (by omega)).trans ?_
    rw [mA_A, if_pos rfl, upd_ne (by omega)]
theorem acl_in (k x : Int32) : ∀ (n c : Nat) (t : MS) (q : Nat), 8 + c ≤ q → q < 8 + c + n → (acl k x n c t).A 0 q = mby k (t.A 0 q) x := by
  intro n
  induction n with
  | zero => intro c t q h1 h2; omega
  | succ n ih =>
    intro c t q h1 h2
    show (acl k x n (c + 1) (mA t 0 (8 + c) (mby k (t.A 0 (8 + c)) x))).A 0 q = _
    by_cases e : q = 8 + c
    · subst e
      rw [acl_off k x n (c + 1) _ _ (by omega), mA_A, if_pos rfl, upd_at]
    · rw [ih (c + 1) _ q (by omega) (by omega), mA_A, if_pos rfl, upd_ne e]
theorem acl_A (k x : Int32) : ∀ (n c : Nat) (t : MS) (i : Nat), i ≠ 0 → (acl k x n c t).A i = t.A i := by
  intro n
  induction n with
  | zero => intro c t i _; rfl
  | succ n ih =>
    intro c t i hi
    refine (ih (c + 1) _ i hi).trans ?_
    rw [mA_A, if_neg hi]
theorem acl_w (k x : Int32) : ∀ (n c : Nat) (t : MS), (acl k x n c t).w = t.w := by
  intro n
  induction n with
  | zero => intro c t; rfl
  | succ n ih => intro c t; exact (ih _ _).trans rfl
theorem mActs_off {k x : Int32} {n c : Nat} {t : MS} {q : Nat} (h6 : q ≠ 6) (h : q < 8 + c ∨ 8 + c + n ≤ q) : (mActs k x n c t).A 0 q = t.A 0 q := by
  unfold mActs
  rw [mA_A, if_pos rfl, upd_ne h6, acl_off k x n c t q h]
theorem mA_ok {s : MS} {j : Nat} {v : Int32} (h1 : j ≠ 1) (h : ∀ p, p < 10 → j ≠ 72 + 5 * p + 1 ∧ j ≠ 72 + 5 * p + 2) (x : mOk s) : mOk (mA s 0 j v) ∧ mN (mA s 0 j v) = mN s := by
  refine ok_same ?_ (fun p hp => ⟨?_, ?_⟩) x
  · rw [mA_A, if_pos rfl, upd_ne (by omega)]
  · have := h p hp
    rw [mA_A, if_pos rfl, upd_ne (by omega)]
  · have := h p hp
    rw [mA_A, if_pos rfl, upd_ne (by omega)]
theorem sp_le {a b : Int32} (h : isSp a b = true) : nn a + sp a b ≤ 32 ∧ nn a ≤ nn b ∧ nn b < 32 := by
  obtain ⟨-, -, h3, h4⟩ := isSp_n h
  unfold sp; omega
theorem mActs_ok {k x : Int32} {n c : Nat} {s : MS} (hn : c + n ≤ 32) (h : mOk s) : mOk (mActs k x n c s) ∧ mN (mActs k x n c s) = mN s :=
  ok_same (mActs_off (by omega) (by omega)) (fun p _ => ⟨mActs_off (by omega) (by omega), mActs_off (by omega) (by omega)⟩) h
theorem tkM_ok {s : MS} (h : mOk s) : mOk (tkM s) ∧ mN (tkM s) = mN s := mA_ok (by omega) (fun p _ => by omega) h
theorem tkD_ok {s : MS} {p : Nat} (hp : p < mN s) (h : mOk s) : mOk (tkD p s) ∧ mN (tkD p s) = mN s := by
  obtain ⟨h1, h2⟩ := mActs_ok (k := s.A 0 (72 + 5 * p + 0)) (x := s.A 0 (72 + 5 * p + 3)) (sp_le (h.2 p hp)).1 h
  obtain ⟨h3, h4⟩ := mA_ok (s := tkA p s) (j := 3) (v := (tkA p s).A 0 3 + 1) (by omega) (fun p _ => by omega) h1
  exact ⟨h3, h4.trans h2⟩
theorem mGoes_A {s : MS} {p : Nat} (hp : p < mN s) (q : Nat) : (mGoes p s).A 0 q = if 72 + 5 * p ≤ q ∧ q < 72 + 5 * (mN s - 1) then s.A 0 (q + 5) else if q = 1 then nI (mN s - 1) else s.A 0 q := by
  unfold mGoes
  rw [gol_eq, mF_A, if_pos rfl]
  by_cases e : 72 + 5 * p ≤ q ∧ q < 72 + 5 * (mN s - 1)
  · rw [if_pos (by omega), if_pos e, mA_A, if_pos rfl, upd_ne (by omega)]
  · rw [if_neg (by omega), if_neg e, mA_A, if_pos rfl]
    by_cases e1 : q = 1
    · subst e1; rw [upd_at, if_pos rfl]
    · rw [upd_ne e1, if_neg e1]
theorem mGoes_ok {s : MS} {p : Nat} (h : mOk s) (hp : p < mN s) : mOk (mGoes p s) ∧ mN (mGoes p s) = mN s - 1 := by
  obtain ⟨⟨x1, x2⟩, x3⟩ := h
  have e1 : (mGoes p s).A 0 1 = nI (mN s - 1) := by rw [mGoes_A hp, if_neg (by omega), if_pos rfl]
  have e : mN (mGoes p s) = mN s - 1 := by
    show nn ((mGoes p s).A 0 1) = _
    rw [e1]; exact nn_nI (by omega)
  refine ⟨⟨⟨by rw [e, e1], by omega⟩, fun r hr => ?_⟩, e⟩
  rw [e] at hr
  rw [mGoes_A hp, mGoes_A hp]
  by_cases c : p ≤ r
  · rw [if_pos (by omega), if_pos (by omega)]
    exact x3 (r + 1) (by omega)
  · rw [if_neg (by omega), if_neg (by omega), if_neg (by omega), if_neg (by omega)]
    exact x3 r (by omega)
theorem tdl_ok : ∀ (n p : Nat) (t : MS), mOk t → mOk (tdl n p t) ∧ mN (tdl n p t) = mN t := by
  intro n
  induction n with
  | zero => intro p t h; exact ⟨h, rfl⟩
  | succ n ih =>
    intro p t h
    obtain ⟨h1, h2⟩ := mA_ok (s := t) (j := 72 + 5 * p + 4) (v := t.A 0 (72 + 5 * p + 4) - 1) (by omega) (fun r _ => by omega) h
    obtain ⟨h3, h4⟩ := ih (p + 1) _ h1
    exact ⟨h3, h4.trans h2⟩
theorem tkl_ok : ∀ (m p : Nat) (n : Int32) (t : MS), p + m = mN t → mOk t → mOk (tkl m p n t).2 := by
  intro m
  induction m with
  | zero => intro p n t _ h; exact h
  | succ m ih =>
    intro p n t hp h
    rw [tkl]
    cases tkW p t with
    | true => exact ih (p + 1) n t (by omega) h
    | false =>
      rw [cond_false]
      split
      · obtain ⟨h1, h2⟩ := tkM_ok h
        obtain ⟨h3, h4⟩ := mGoes_ok (p := p) h1 (by omega)
        exact ih p n _ (by omega) h3
      · obtain ⟨h1, h2⟩ := tkD_ok (p := p) (by omega) h
        obtain ⟨h3, h4⟩ := mGoes_ok (p := p) h1 (by omega)
        exact ih p _ _ (by omega) h3
theorem tk0_ok {s : MS} (h : mOk s) : mOk (tk0 s) ∧ mN (tk0 s) = mN s := mA_ok (by omega) (fun p _ => by omega) h
theorem mTick_ok {s : MS} (h : mOk s) : mOk (mTick s).2 := by
  obtain ⟨h1, h2⟩ := tk0_ok h
  obtain ⟨h3, h4⟩ := tdl_ok (mN s) 0 _ h1
  exact tkl_ok _ 0 0 _ (by omega) h3
theorem tks_ok : ∀ (m : Nat) (n : Int32) (t : MS), mOk t → mOk (tks m n t).2 := by
  intro m
  induction m with
  | zero => intro n t h; exact h
  | succ m ih => intro n t h; exact ih _ _ (mTick_ok h)
theorem mGoes_I {p : Nat} {s : MS} : (mGoes p s).I = s.I := gol_I _ _ _ _
theorem tdl_I : ∀ (n p : Nat) (t : MS), (tdl n p t).I = t.I := by
  intro n
  induction n with
  | zero => intro p t; rfl
  | succ n ih => intro p t; exact (ih _ _).trans rfl
theorem tkl_I : ∀ (m p : Nat) (n : Int32) (t : MS), (tkl m p n t).2.I = t.I := by
  intro m
  induction m with
  | zero => intro p n t; rfl
  | succ m ih =>
    intro p n t
    rw [tkl]
    cases tkW p t with
    | true => exact ih _ _ _
    | false =>
      rw [cond_false]
      split
      · exact (ih _ _ _).trans mGoes_I
      · refine (ih _ _ _).trans (mGoes_I.trans ?_)
        exact mActs_I
theorem mTick_I {s : MS} : (mTick s).2.I = s.I := (tkl_I _ _ _ _).trans ((tdl_I _ _ _).trans rfl)
theorem tks_I : ∀ (m : Nat) (n : Int32) (t : MS), (tks m n t).2.I = t.I := by
  intro m
  induction m with
  | zero => intro n t; rfl
  | succ m ih => intro n t; exact (ih _ _).trans mTick_I
theorem mTicks_u {s : MS} {v : Int32} (h : mUo s) : mUo (mTicks s v).2 := by
  unfold mTicks
  split
  · exact mUo_I (congrFun (tks_I _ _ _) 4) h
  · exact h
theorem mTries_ok {s : MS} (h : mOk s) : mOk (mTries s) := (ok_same (by rw [mTries_A s (by decide)]) (fun p _ => by rw [mTries_A s (by decide)]; exact ⟨rfl, rfl⟩) h).1
theorem inR_n {v : Int32} {lo hi : Nat} (h : inR v (nI lo) (nI hi) = true) (hh : lo ≤ hi ∧ hi < 2 ^ 31) : v = nI (nn v) ∧ lo ≤ nn v ∧ nn v ≤ hi := by
  obtain ⟨a1, a2⟩ := inR_i.mp h
  obtain ⟨i, hi', rfl⟩ := nI_of2 (M := nI hi) (n := hi) (nI_toInt (by omega)) (Int32.not_lt.mpr (Int32.le_trans (nI_pos' (n := lo) (by omega)) a1)) a2
  rw [nI_leI (by omega) (by omega)] at a1
  rw [nn_nI (by omega)]
  exact ⟨rfl, a1, hi'⟩
theorem m_ticksOn (l : Launch) (G : GE) {h0 : AH} {ad : Nat → Nat} (hA : MAd ad) (s : MS) (y0 : mOk s) : GM l G yX8_ticksOn (ws_ yX8_ticksOn cX8_ticksOn 3 (some .int)) 3 [.ref (ad 20)] (mput G h0 ad s) (0) (PV (.int (mTick s).1) (mput G h0 ad (mTick s).2)) := by
  refine GM.of (by decide) (dk rfl) ?_
  intro X eL eG eh ok fn
  subst eL; subst eG
  show GW X _ 0 0 [some (.ref (ad 20)), none, none] []
  obtain ⟨t1, t2⟩ := tk0_ok y0
  obtain ⟨t3, t4⟩ := tdl_ok (mN s) 0 _ t1
  obtain ⟨⟨n1, n2⟩, n3⟩ := id y0
  unfold mTick at fn
  refine g_aload_n ok dX8_ticksOn_0 rfl ?_
  refine m_get ok hA 0 q2235 (by decide) dX8_ticksOn_1 (v := .ref (ad 0)) rfl ?_
  refine g_iconst ok (v := 0) dX8_ticksOn_4 rfl ?_
  refine g_dup2_11 ok dX8_ticksOn_5 rfl rfl ?_
  refine m_ald ok hA 0 0 (v := (MS.A s 0 0)) (by decide) dX8_ticksOn_6 rfl (by decide) rfl ?_
  refine g_iconst ok (v := 1) dX8_ticksOn_7 rfl ?_
  refine g_iadd ok dX8_ticksOn_8 ?_
  refine m_ast ok hA 0 0 (by decide) dX8_ticksOn_9 rfl (by decide) ?_
  refine g_iconst ok (v := 0) dX8_ticksOn_10 rfl ?_
  refine g_istore_n ok dX8_ticksOn_11 (ls1 := [some (.ref (ad 20)), some (.int 0), none]) (dl rfl) rfl ?_
  obtain ⟨V, hV⟩ : ∃ V : MS, tdl (mN s) 0 (tk0 s) = V := ⟨_, rfl⟩
  rw [hV] at fn
  rw [hV] at t3 t4
  have lp : ∀ (m : Nat) (p : Nat) (t : MS), (p + m = mN s) → (tdl m p t = V) → (t.A 0 1 = nI (mN s)) → GW X (mput X.G h0 ad t) 0 12 [some (.ref (ad 20)), some (.int (nI p)), none] [] := by
    intro m
    induction m with
    | zero =>
      intro p t g0 g1 g2
      refine g_iload_n ok dX8_ticksOn_12 rfl ?_
      refine g_aload_n ok dX8_ticksOn_13 rfl ?_
      refine m_get ok hA 0 q2235 (by decide) dX8_ticksOn_14 (v := .ref (ad 0)) rfl ?_
      refine g_iconst ok (v := 1) dX8_ticksOn_17 rfl ?_
      refine m_ald ok hA 0 1 (v := (nI (mN s))) (by decide) dX8_ticksOn_18 rfl (by decide) g2 ?_
      refine g_icmp_ge ok (tgt := 45) dX8_ticksOn_19 (by decide) (fun _ => ?_) (fun c_ => absurd (nI_le (a := (mN s)) (b := p) (by omega) (by omega)) c_)
      have g1 : t = V := g1
      subst g1
      have g0 : p = mN s := by omega
      subst g0
      refine g_iconst ok (v := 0) dX8_ticksOn_45 rfl ?_
      refine g_istore_n ok dX8_ticksOn_46 (ls1 := [some (.ref (ad 20)), some (.int 0), none]) (dl rfl) rfl ?_
      refine g_iconst ok (v := 0) dX8_ticksOn_47 rfl ?_
      refine g_istore_n ok dX8_ticksOn_48 (ls1 := [some (.ref (ad 20)), some (.int 0), some (.int 0)]) (dl rfl) rfl ?_
      obtain ⟨F, hF⟩ : ∃ F : Int32 × MS, tkl (mN s) 0 0 t = F := ⟨_, rfl⟩
      rw [hF] at fn
      clear g2 hV t1
      have lq : ∀ (k : Nat) (r : Nat) (v : Int32) (u : MS), (r + k = mN u) → (tkl k r v u = F) → (mOk u) → GW X (mput X.G h0 ad u) 0 49 [some (.ref (ad 20)), some (.int v), some (.int (nI r))] [] := by
        intro k
        induction k with
        | zero =>
          intro r v u k0 k1 k2
          obtain ⟨⟨q1, q2⟩, q3⟩ := id k2
          refine g_iload_n ok dX8_ticksOn_49 rfl ?_
          refine g_aload_n ok dX8_ticksOn_50 rfl ?_
          refine m_get ok hA 0 q2235 (by decide) dX8_ticksOn_51 (v := .ref (ad 0)) rfl ?_
          refine g_iconst ok (v := 1) dX8_ticksOn_54 rfl ?_
          refine m_ald ok hA 0 1 (v := (nI (mN u))) (by decide) dX8_ticksOn_55 rfl (by decide) q1 ?_
          refine g_icmp_ge ok (tgt := 167) dX8_ticksOn_56 (by decide) (fun _ => ?_) (fun c_ => absurd (nI_le (a := (mN u)) (b := r) (by omega) (by omega)) c_)
          have k1 : (v, u) = F := k1
          subst k1
          refine g_iload_n ok dX8_ticksOn_167 rfl ?_
          exact g_iret ok fn rfl dX8_ticksOn_168 (pv_i rfl rfl) (dk rfl)
        | succ k ik =>
          intro r v u k0 k1 k2
          obtain ⟨⟨q1, q2⟩, q3⟩ := id k2
          refine g_iload_n ok dX8_ticksOn_49 rfl ?_
          refine g_aload_n ok dX8_ticksOn_50 rfl ?_
          refine m_get ok hA 0 q2235 (by decide) dX8_ticksOn_51 (v := .ref (ad 0)) rfl ?_
          refine g_iconst ok (v := 1) dX8_ticksOn_54 rfl ?_
          refine m_ald ok hA 0 1 (v := (nI (mN u))) (by decide) dX8_ticksOn_55 rfl (by decide) q1 ?_
          refine g_icmp_ge ok (tgt := 167) dX8_ticksOn_56 (by decide) (fun c_ => absurd c_ (nI_ge (a := r) (b := (mN u)) (by omega) (by omega))) (fun _ => ?_)
          refine g_aload_n ok dX8_ticksOn_59 rfl ?_
          refine g_iload_n ok dX8_ticksOn_60 rfl ?_
          refine g_iconst ok (v := 4) dX8_ticksOn_61 rfl ?_
          refine g_callV ok q2409 q2411 qs39 q75 q2412 (m_recv ok hA) dX8_ticksOn_62 (m_noted X.l X.G hA (h0 := h0) u r 4 (by omega) (by omega)) (nm_ (by decide : nmb _ 2 = true)) (dl rfl) (dk rfl) rfl rfl (dk rfl) (dk rfl) (kV ?_) xV
          refine g_if_le ok (tgt := 74) dX8_ticksOn_65 (by decide) (fun c65 => ?_) (fun c65 => ?_)
          · have c65' := Int32.not_lt.mpr c65
            refine g_aload_n ok dX8_ticksOn_74 rfl ?_
            refine g_aload_n ok dX8_ticksOn_75 rfl ?_
            refine g_iload_n ok dX8_ticksOn_76 rfl ?_
            refine g_iconst ok (v := 0) dX8_ticksOn_77 rfl ?_
            refine g_callV ok q2409 q2411 qs39 q75 q2412 (m_recv ok hA) dX8_ticksOn_78 (m_noted X.l X.G hA (h0 := h0) u r 0 (by omega) (by omega)) (nm_ (by decide : nmb _ 2 = true)) (dl rfl) (dk rfl) rfl rfl (dk rfl) (dk rfl) (kV ?_) xV
            refine g_aload_n ok dX8_ticksOn_81 rfl ?_
            refine g_iload_n ok dX8_ticksOn_82 rfl ?_
            refine g_iconst ok (v := 1) dX8_ticksOn_83 rfl ?_
            refine g_callV ok q2409 q2411 qs39 q75 q2412 (m_recv ok hA) dX8_ticksOn_84 (m_noted X.l X.G hA (h0 := h0) u r 1 (by omega) (by omega)) (nm_ (by decide : nmb _ 2 = true)) (dl rfl) (dk rfl) rfl rfl (dk rfl) (dk rfl) (kV ?_) xV
            refine g_aload_n ok dX8_ticksOn_87 rfl ?_
            refine g_iload_n ok dX8_ticksOn_88 rfl ?_
            refine g_iconst ok (v := 2) dX8_ticksOn_89 rfl ?_
            refine g_callV ok q2409 q2411 qs39 q75 q2412 (m_recv ok hA) dX8_ticksOn_90 (m_noted X.l X.G hA (h0 := h0) u r 2 (by omega) (by omega)) (nm_ (by decide : nmb _ 2 = true)) (dl rfl) (dk rfl) rfl rfl (dk rfl) (dk rfl) (kV ?_) xV
            refine g_aload_n ok dX8_ticksOn_93 rfl ?_
            refine g_iload_n ok dX8_ticksOn_94 rfl ?_
            refine g_iconst ok (v := 3) dX8_ticksOn_95 rfl ?_
            refine g_callV ok q2409 q2411 qs39 q75 q2412 (m_recv ok hA) dX8_ticksOn_96 (m_noted X.l X.G hA (h0 := h0) u r 3 (by omega) (by omega)) (nm_ (by decide : nmb _ 2 = true)) (dl rfl) (dk rfl) rfl rfl (dk rfl) (dk rfl) (kV ?_) xV
            refine g_callV ok q2327 q2329 qs25 q75 q2330 (m_recv ok hA) dX8_ticksOn_99 (m_leaving X.l X.G hA (h0 := h0) u (MS.A u 0 (72 + 5 * r + 0)) (MS.A u 0 (72 + 5 * r + 1)) (MS.A u 0 (72 + 5 * r + 2)) (MS.A u 0 (72 + 5 * r + 3)) (q3 _ (by omega))) (nm_ (by decide : nmb _ 4 = true)) (dl rfl) (dk rfl) rfl rfl (dk rfl) (dk rfl) (kV ?_) xV
            refine g_if_lt ok (tgt := 118) dX8_ticksOn_102 (by decide) (fun c102 => ?_) (fun c102 => ?_)
            · have c102' := Int32.not_le.mpr c102
              refine g_aload_n ok dX8_ticksOn_118 rfl ?_
              refine g_aload_n ok dX8_ticksOn_119 rfl ?_
              refine g_iload_n ok dX8_ticksOn_120 rfl ?_
              refine g_iconst ok (v := 0) dX8_ticksOn_121 rfl ?_
              refine g_callV ok q2409 q2411 qs39 q75 q2412 (m_recv ok hA) dX8_ticksOn_122 (m_noted X.l X.G hA (h0 := h0) u r 0 (by omega) (by omega)) (nm_ (by decide : nmb _ 2 = true)) (dl rfl) (dk rfl) rfl rfl (dk rfl) (dk rfl) (kV ?_) xV
              refine g_aload_n ok dX8_ticksOn_125 rfl ?_
              refine g_iload_n ok dX8_ticksOn_126 rfl ?_
              refine g_iconst ok (v := 1) dX8_ticksOn_127 rfl ?_
              refine g_callV ok q2409 q2411 qs39 q75 q2412 (m_recv ok hA) dX8_ticksOn_128 (m_noted X.l X.G hA (h0 := h0) u r 1 (by omega) (by omega)) (nm_ (by decide : nmb _ 2 = true)) (dl rfl) (dk rfl) rfl rfl (dk rfl) (dk rfl) (kV ?_) xV
              refine g_aload_n ok dX8_ticksOn_131 rfl ?_
              refine g_iload_n ok dX8_ticksOn_132 rfl ?_
              refine g_iconst ok (v := 2) dX8_ticksOn_133 rfl ?_
              refine g_callV ok q2409 q2411 qs39 q75 q2412 (m_recv ok hA) dX8_ticksOn_134 (m_noted X.l X.G hA (h0 := h0) u r 2 (by omega) (by omega)) (nm_ (by decide : nmb _ 2 = true)) (dl rfl) (dk rfl) rfl rfl (dk rfl) (dk rfl) (kV ?_) xV
              refine g_aload_n ok dX8_ticksOn_137 rfl ?_
              refine g_iload_n ok dX8_ticksOn_138 rfl ?_
              refine g_iconst ok (v := 3) dX8_ticksOn_139 rfl ?_
              refine g_callV ok q2409 q2411 qs39 q75 q2412 (m_recv ok hA) dX8_ticksOn_140 (m_noted X.l X.G hA (h0 := h0) u r 3 (by omega) (by omega)) (nm_ (by decide : nmb _ 2 = true)) (dl rfl) (dk rfl) rfl rfl (dk rfl) (dk rfl) (kV ?_) xV
              refine g_callV ok q2342 q2344 qs28 q75 q2345 (m_recv ok hA) dX8_ticksOn_143 (m_acts X.l X.G hA (h0 := h0) u (MS.A u 0 (72 + 5 * r + 0)) (MS.A u 0 (72 + 5 * r + 1)) (MS.A u 0 (72 + 5 * r + 2)) (MS.A u 0 (72 + 5 * r + 3)) (q3 _ (by omega))) (nm_ (by decide : nmb _ 4 = true)) (dl rfl) (dk rfl) rfl rfl (dk rfl) (dk rfl) (kN ?_) xN
              refine g_aload_n ok dX8_ticksOn_146 rfl ?_
              refine m_get ok hA 0 q2235 (by decide) dX8_ticksOn_147 (v := .ref (ad 0)) rfl ?_
              refine g_iconst ok (v := 3) dX8_ticksOn_150 rfl ?_
              refine g_dup2_11 ok dX8_ticksOn_151 rfl rfl ?_
              refine m_ald ok hA 0 3 (v := (MS.A (mActs (MS.A u 0 (72 + 5 * r + 0)) (MS.A u 0 (72 + 5 * r + 3)) (sp (MS.A u 0 (72 + 5 * r + 1)) (MS.A u 0 (72 + 5 * r + 2))) (nn (MS.A u 0 (72 + 5 * r + 1))) u) 0 3)) (by decide) dX8_ticksOn_152 rfl (by decide) rfl ?_
              refine g_iconst ok (v := 1) dX8_ticksOn_153 rfl ?_
              refine g_iadd ok dX8_ticksOn_154 ?_
              refine m_ast ok hA 0 3 (by decide) dX8_ticksOn_155 rfl (by decide) ?_
              refine g_iinc ok dX8_ticksOn_156 rfl (v := (v + 1)) rfl (ls1 := [some (.ref (ad 20)), some (.int (v + 1)), some (.int (nI r))]) rfl ?_
              obtain ⟨z1, z2⟩ := tkD_ok (p := r) (by omega) k2
              obtain ⟨z3, z4⟩ := mGoes_ok (p := r) z1 (by omega)
              refine g_aload_n ok dX8_ticksOn_159 rfl ?_
              refine g_iload_n ok dX8_ticksOn_160 rfl ?_
              refine g_callV ok q2413 q2415 qs40 q75 q2416 (m_recv ok hA) dX8_ticksOn_161 (m_goes X.l X.G hA (h0 := h0) (tkD r u) r z1.1 (by omega)) (nm_ (by decide : nmb _ 1 = true)) (dl rfl) (dk rfl) rfl rfl (dk rfl) (dk rfl) (kN ?_) xN
              refine g_goto ok dX8_ticksOn_164 (tgt := 49) (by decide) ?_
              exact ik _ _ _ (by omega) (tkl_c c65' c102' k1) z3
            · have c102' := Int32.not_lt.mp c102
              refine g_aload_n ok dX8_ticksOn_105 rfl ?_
              refine m_get ok hA 0 q2235 (by decide) dX8_ticksOn_106 (v := .ref (ad 0)) rfl ?_
              refine g_iconst ok (v := 4) dX8_ticksOn_109 rfl ?_
              refine g_dup2_11 ok dX8_ticksOn_110 rfl rfl ?_
              refine m_ald ok hA 0 4 (v := (MS.A u 0 4)) (by decide) dX8_ticksOn_111 rfl (by decide) rfl ?_
              refine g_iconst ok (v := 1) dX8_ticksOn_112 rfl ?_
              refine g_iadd ok dX8_ticksOn_113 ?_
              refine m_ast ok hA 0 4 (by decide) dX8_ticksOn_114 rfl (by decide) ?_
              refine g_goto ok dX8_ticksOn_115 (tgt := 159) (by decide) ?_
              obtain ⟨z1, z2⟩ := tkM_ok k2
              obtain ⟨z3, z4⟩ := mGoes_ok (p := r) z1 (by omega)
              refine g_aload_n ok dX8_ticksOn_159 rfl ?_
              refine g_iload_n ok dX8_ticksOn_160 rfl ?_
              refine g_callV ok q2413 q2415 qs40 q75 q2416 (m_recv ok hA) dX8_ticksOn_161 (m_goes X.l X.G hA (h0 := h0) (tkM u) r z1.1 (by omega)) (nm_ (by decide : nmb _ 1 = true)) (dl rfl) (dk rfl) rfl rfl (dk rfl) (dk rfl) (kN ?_) xN
              refine g_goto ok dX8_ticksOn_164 (tgt := 49) (by decide) ?_
              exact ik _ _ _ (by omega) (tkl_b c65' (Int32.not_lt.mp c102) k1) z3
          · have c65' := Int32.not_le.mp c65
            refine g_iincN ok dX8_ticksOn_68 (c := r) rfl rfl (ls1 := [some (.ref (ad 20)), some (.int v), some (.int (nI (r + 1)))]) rfl ?_
            refine g_goto ok dX8_ticksOn_71 (tgt := 49) (by decide) ?_
            exact ik _ _ _ (by omega) (tkl_a c65' k1) k2
      exact lq (mN s) 0 0 t (by omega) hF t3
    | succ m ih =>
      intro p t g0 g1 g2
      refine g_iload_n ok dX8_ticksOn_12 rfl ?_
      refine g_aload_n ok dX8_ticksOn_13 rfl ?_
      refine m_get ok hA 0 q2235 (by decide) dX8_ticksOn_14 (v := .ref (ad 0)) rfl ?_
      refine g_iconst ok (v := 1) dX8_ticksOn_17 rfl ?_
      refine m_ald ok hA 0 1 (v := (nI (mN s))) (by decide) dX8_ticksOn_18 rfl (by decide) g2 ?_
      refine g_icmp_ge ok (tgt := 45) dX8_ticksOn_19 (by decide) (fun c_ => absurd c_ (nI_ge (a := p) (b := (mN s)) (by omega) (by omega))) (fun _ => ?_)
      refine g_aload_n ok dX8_ticksOn_22 rfl ?_
      refine m_get ok hA 0 q2235 (by decide) dX8_ticksOn_23 (v := .ref (ad 0)) rfl ?_
      refine g_bipush ok (v := 72) dX8_ticksOn_26 rfl ?_
      refine g_iconst ok (v := 5) dX8_ticksOn_28 rfl ?_
      refine g_iload_n ok dX8_ticksOn_29 rfl ?_
      refine g_imulN ok dX8_ticksOn_30 (c := (5 * p)) (a := 5) (b := p) rfl rfl rfl ?_
      refine g_iaddN ok dX8_ticksOn_31 (c := (72 + (5 * p))) (a := 72) (b := (5 * p)) rfl rfl rfl ?_
      refine g_iconst ok (v := 4) dX8_ticksOn_32 rfl ?_
      refine g_iaddN ok dX8_ticksOn_33 (c := ((72 + (5 * p)) + 4)) (a := (72 + (5 * p))) (b := 4) rfl rfl rfl ?_
      refine g_dup2_11 ok dX8_ticksOn_34 rfl rfl ?_
      refine m_ald ok hA 0 ((72 + (5 * p)) + 4) (v := (MS.A t 0 ((72 + (5 * p)) + 4))) (by decide) dX8_ticksOn_35 rfl (by simp only [mlen]; omega) rfl ?_
      refine g_iconst ok (v := 1) dX8_ticksOn_36 rfl ?_
      refine g_isub ok dX8_ticksOn_37 ?_
      refine m_ast ok hA 0 ((72 + (5 * p)) + 4) (by decide) dX8_ticksOn_38 rfl (by simp only [mlen]; omega) ?_
      refine g_iincN ok dX8_ticksOn_39 (c := p) rfl rfl (ls1 := [some (.ref (ad 20)), some (.int (nI (p + 1))), none]) rfl ?_
      refine g_goto ok dX8_ticksOn_42 (tgt := 12) (by decide) ?_
      exact ih _ _ (by omega) g1 (by rw [mA_A, if_pos rfl, upd_ne (by omega)]; exact g2)
  exact lp (mN s) 0 _ (by omega) hV (by rw [← n1]; rfl)
theorem inR1_40 {v : Int32} (h : inR v 1 40 = true) : v = nI (nn v) ∧ 1 ≤ nn v ∧ nn v ≤ 40 := inR_n (lo := 1) (hi := 40) h (by decide)
theorem inR0_40 {v : Int32} (h : inR v 0 40 = true) : v = nI (nn v) ∧ 0 ≤ nn v ∧ nn v ≤ 40 := inR_n (lo := 0) (hi := 40) h (by decide)
theorem m_ticks (l : Launch) (G : GE) {h0 : AH} {ad : Nat → Nat} (hA : MAd ad) (s : MS) (v : Int32) (y0 : mOk s) : GM l G yX8_ticks (ws_ yX8_ticks cX8_ticks 4 (some .int)) 4 [.ref (ad 20), .int v] (mput G h0 ad s) (0) (PV (.int (mTicks s v).1) (mput G h0 ad (mTicks s v).2)) := by
  refine GM.of (by decide) (dk rfl) ?_
  intro X eL eG eh ok fn
  subst eL; subst eG
  show GW X _ 0 0 [some (.ref (ad 20)), some (.int v), none, none] []
  refine g_iload_n ok dX8_ticks_0 rfl ?_
  refine g_iconst ok (v := 1) dX8_ticks_1 rfl ?_
  refine g_bipush ok (v := 40) dX8_ticks_2 rfl ?_
  refine g_callS ok q2321 q2322 q75 q2323 dX8_ticks_4 (m_in X.l X.G _ v 1 40) (nm_ (by decide : nmb _ 3 = true)) (dl rfl) (dk rfl) rfl rfl (dk rfl) (dk rfl) (kV ?_) xV
  refine g_if_ne ok (tgt := 12) dX8_ticks_7 (by decide) (fun c7 => ?_) (fun c7 => ?_)
  · have c7' := bI_n c7
    have hs_ : mTicks s v = (0, mI (tks (nn v) 0 s).2 19 (tks (nn v) 0 s).1) := by unfold mTicks; rw [if_pos c7']
    rw [hs_] at fn
    clear hs_
    obtain ⟨e1, -, h2⟩ := inR1_40 c7'
    generalize nn v = j at *
    subst e1
    refine g_iconst ok (v := 0) dX8_ticks_12 rfl ?_
    refine g_istore_n ok dX8_ticks_13 (ls1 := [some (.ref (ad 20)), some (.int (nI j)), some (.int 0), none]) (dl rfl) rfl ?_
    refine g_iconst ok (v := 0) dX8_ticks_14 rfl ?_
    refine g_istore_n ok dX8_ticks_15 (ls1 := [some (.ref (ad 20)), some (.int (nI j)), some (.int 0), some (.int 0)]) (dl rfl) rfl ?_
    obtain ⟨F, hF⟩ : ∃ F : Int32 × MS, tks j 0 s = F := ⟨_, rfl⟩
    rw [hF] at fn
    have lp : ∀ (m : Nat) (c : Nat) (n : Int32) (t : MS), (c + m = j) → (tks m n t = F) → (mOk t) → GW X (mput X.G h0 ad t) 0 16 [some (.ref (ad 20)), some (.int (nI j)), some (.int n), some (.int (nI c))] [] := by
      intro m
      induction m with
      | zero =>
        intro c n t g0 g1 g2
        refine g_iload_n ok dX8_ticks_16 rfl ?_
        refine g_iload_n ok dX8_ticks_17 rfl ?_
        refine g_icmp_ge ok (tgt := 34) dX8_ticks_18 (by decide) (fun _ => ?_) (fun c_ => absurd (nI_le (a := j) (b := c) (by omega) (by omega)) c_)
        have g1 : (n, t) = F := g1
        subst g1
        refine g_aload_n ok dX8_ticks_34 rfl ?_
        refine g_iload_n ok dX8_ticks_35 rfl ?_
        refine g_callV ok q2350 q2352 qs30 q75 q2353 (m_recv ok hA) dX8_ticks_36 (m_does X.l X.G hA (h0 := h0) t n) (nm_ (by decide : nmb _ 1 = true)) (dl rfl) (dk rfl) rfl rfl (dk rfl) (dk rfl) (kV ?_) xV
        exact g_iret ok fn rfl dX8_ticks_39 (pv_i rfl rfl) (dk rfl)
      | succ m ih =>
        intro c n t g0 g1 g2
        refine g_iload_n ok dX8_ticks_16 rfl ?_
        refine g_iload_n ok dX8_ticks_17 rfl ?_
        refine g_icmp_ge ok (tgt := 34) dX8_ticks_18 (by decide) (fun c_ => absurd c_ (nI_ge (a := c) (b := j) (by omega) (by omega))) (fun _ => ?_)
        refine g_iload_n ok dX8_ticks_21 rfl ?_
        refine g_aload_n ok dX8_ticks_22 rfl ?_
        refine g_callV ok q2429 q2431 qs42 q75 q2432 (m_recv ok hA) dX8_ticks_23 (m_ticksOn X.l X.G hA (h0 := h0) t g2) (nm_ (by decide : nmb _ 0 = true)) (dl rfl) (dk rfl) rfl rfl (dk rfl) (dk rfl) (kV ?_) xV
        refine g_iadd ok dX8_ticks_26 ?_
        refine g_istore_n ok dX8_ticks_27 (ls1 := [some (.ref (ad 20)), some (.int (nI j)), some (.int (n + ((mTick t).1))), some (.int (nI c))]) (dl rfl) rfl ?_
        refine g_iincN ok dX8_ticks_28 (c := c) rfl rfl (ls1 := [some (.ref (ad 20)), some (.int (nI j)), some (.int (n + ((mTick t).1))), some (.int (nI (c + 1)))]) rfl ?_
        refine g_goto ok dX8_ticks_31 (tgt := 16) (by decide) ?_
        exact ih _ _ _ (by omega) g1 (mTick_ok g2)
    exact lp j 0 0 s (by omega) hF y0
  · have c7' := bI_e c7
    refine g_iconst ok (v := 1) dX8_ticks_10 rfl ?_
    exact g_iret ok fn rfl dX8_ticks_11 (pv_i (by unfold mTicks; rw [c7']; rfl) (by unfold mTicks; rw [c7']; rfl)) (dk rfl)
theorem m_tick (l : Launch) (G : GE) {h0 : AH} {ad : Nat → Nat} (hA : MAd ad) (s : MS) (v : Int32) (y0 : mUo s) (y1 : mOk s) : GM l G yX8_tick (ws_ yX8_tick cX8_tick 2 (some .int)) 5 [.ref (ad 20), .int v] (mput G h0 ad s) (0) (PV (.int (mTickC s v).1) (mput G h0 ad (mTickC s v).2)) := by
  refine GM.of (by decide) (dk rfl) ?_
  intro X eL eG eh ok fn
  subst eL; subst eG
  show GW X _ 0 0 [some (.ref (ad 20)), some (.int v)] []
  refine g_aload_n ok dX8_tick_0 rfl ?_
  refine g_callV ok q2307 q2309 qs23 q75 q2310 (m_recv ok hA) dX8_tick_1 (m_tries X.l X.G hA (h0 := h0) s ) (nm_ (by decide : nmb _ 0 = true)) (dl rfl) (dk rfl) rfl rfl (dk rfl) (dk rfl) (kN ?_) xN
  refine g_aload_n ok dX8_tick_4 rfl ?_
  refine g_aload_n ok dX8_tick_5 rfl ?_
  refine g_iload_n ok dX8_tick_6 rfl ?_
  refine g_callV ok q2425 q2427 qs41 q75 q2428 (m_recv ok hA) dX8_tick_7 (m_ticks X.l X.G hA (h0 := h0) (mTries s) v (mTries_ok y1)) (nm_ (by decide : nmb _ 1 = true)) (dl rfl) (dk rfl) rfl rfl (dk rfl) (dk rfl) (kV ?_) xV
  refine g_callV ok q2354 q2356 qs31 q75 q2357 (m_recv ok hA) dX8_tick_10 (m_ends X.l X.G hA (h0 := h0) (mTicks (mTries s) v).2 ((mTicks (mTries s) v).1) (mTicks_u (mTries_u y0))) (nm_ (by decide : nmb _ 1 = true)) (dl rfl) (dk rfl) rfl rfl (dk rfl) (dk rfl) (kV ?_) xV
  exact g_iret ok fn rfl dX8_tick_13 (pv_i rfl rfl) (dk rfl)
