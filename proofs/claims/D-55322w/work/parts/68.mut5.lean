/-! a ruler is changed, 5: a tick -/
set_option maxRecDepth 100000
abbrev cX10_isDue : ByteArray := prog_13_method_3_code
def yX10_isDue : MethodName := ⟨RX10, "isDue", "()Z"⟩
def dkwX10_isDue_0 : List UInt8 := [42, 180, 0, 23, 154, 0, 7, 4, 167, 0, 4, 3, 172]
abbrev dktX10_isDue_0 : List UInt8 := dkwX10_isDue_0 ++ []
theorem dksX10_isDue_0 : cX10_isDue.data.toList.drop 0 = dktX10_isDue_0 := by decide +kernel
theorem dX10_isDue_0 : decode cX10_isDue 0 = .ok (.aload_n 0, 1) := dk_42 (dk_at dksX10_isDue_0 0 rfl rfl)
theorem dX10_isDue_1 : decode cX10_isDue 1 = .ok (.getfield 23, 3) := dk_180 0 23 (dk_at dksX10_isDue_0 1 rfl rfl)
theorem dX10_isDue_4 : decode cX10_isDue 4 = .ok (.ifCond .ne 7, 3) := dk_154 0 7 (dk_at dksX10_isDue_0 4 rfl rfl)
theorem dX10_isDue_7 : decode cX10_isDue 7 = .ok (.iconst 1, 1) := dk_4 (dk_at dksX10_isDue_0 7 rfl rfl)
theorem dX10_isDue_8 : decode cX10_isDue 8 = .ok (.goto 4, 3) := dk_167 0 4 (dk_at dksX10_isDue_0 8 rfl rfl)
theorem dX10_isDue_11 : decode cX10_isDue 11 = .ok (.iconst 0, 1) := dk_3 (dk_at dksX10_isDue_0 11 rfl rfl)
theorem dX10_isDue_12 : decode cX10_isDue 12 = .ok (.ireturn, 1) := dk_172 (dk_at dksX10_isDue_0 12 rfl rfl)
abbrev cX2_tickGoesBy : ByteArray := prog_16_method_20_code
def yX2_tickGoesBy : MethodName := ⟨RX2, "tickGoesBy", "()I"⟩
def dkwX2_tickGoesBy_8 : List UInt8 := [181, 0, 75, 42, 89, 180, 0, 71, 27, 96, 181, 0, 71, 27, 172]
abbrev dktX2_tickGoesBy_8 : List UInt8 := dkwX2_tickGoesBy_8 ++ []
def dkwX2_tickGoesBy_7 : List UInt8 := [42, 89, 180, 0, 75, 4, 96, 181, 0, 75, 132, 2, 255, 167, 255, 210, 42, 89, 180, 0, 75, 27, 100]
abbrev dktX2_tickGoesBy_7 : List UInt8 := dkwX2_tickGoesBy_7 ++ dktX2_tickGoesBy_8
def dkwX2_tickGoesBy_6 : List UInt8 := [182, 0, 181, 192, 0, 60, 182, 0, 184, 153, 0, 25, 42, 180, 0, 26, 28, 182, 0, 165, 192, 0, 60, 78]
abbrev dktX2_tickGoesBy_6 : List UInt8 := dkwX2_tickGoesBy_6 ++ dktX2_tickGoesBy_7
def dkwX2_tickGoesBy_5 : List UInt8 := [167, 255, 199, 42, 180, 0, 26, 182, 0, 161, 4, 100, 61, 28, 155, 0, 48, 42, 180, 0, 26, 28]
abbrev dktX2_tickGoesBy_5 : List UInt8 := dkwX2_tickGoesBy_5 ++ dktX2_tickGoesBy_6
def dkwX2_tickGoesBy_4 : List UInt8 := [182, 0, 181, 192, 0, 60, 182, 0, 187, 153, 0, 7, 4, 167, 0, 4, 3, 96, 60, 132, 2, 1]
abbrev dktX2_tickGoesBy_4 : List UInt8 := dkwX2_tickGoesBy_4 ++ dktX2_tickGoesBy_5
def dkwX2_tickGoesBy_3 : List UInt8 := [180, 0, 26, 28, 182, 0, 181, 192, 0, 60, 182, 0, 184, 153, 0, 25, 42, 42, 180, 0, 26, 28]
abbrev dktX2_tickGoesBy_3 : List UInt8 := dkwX2_tickGoesBy_3 ++ dktX2_tickGoesBy_4
def dkwX2_tickGoesBy_2 : List UInt8 := [100, 181, 0, 169, 167, 255, 227, 3, 61, 28, 42, 180, 0, 26, 182, 0, 161, 162, 0, 52, 27, 42]
abbrev dktX2_tickGoesBy_2 : List UInt8 := dkwX2_tickGoesBy_2 ++ dktX2_tickGoesBy_3
def dkwX2_tickGoesBy_1 : List UInt8 := [185, 0, 50, 1, 0, 153, 0, 26, 44, 185, 0, 56, 1, 0, 192, 0, 60, 78, 45, 89, 180, 0, 169, 4]
abbrev dktX2_tickGoesBy_1 : List UInt8 := dkwX2_tickGoesBy_1 ++ dktX2_tickGoesBy_2
def dkwX2_tickGoesBy_0 : List UInt8 := [3, 60, 42, 89, 180, 0, 81, 4, 96, 181, 0, 81, 42, 180, 0, 26, 182, 0, 46, 77, 44]
abbrev dktX2_tickGoesBy_0 : List UInt8 := dkwX2_tickGoesBy_0 ++ dktX2_tickGoesBy_1
theorem dksX2_tickGoesBy_0 : cX2_tickGoesBy.data.toList.drop 0 = dktX2_tickGoesBy_0 := by decide +kernel
theorem dksX2_tickGoesBy_1 : cX2_tickGoesBy.data.toList.drop 21 = dktX2_tickGoesBy_1 := dk_seg dksX2_tickGoesBy_0 21 rfl rfl
theorem dksX2_tickGoesBy_2 : cX2_tickGoesBy.data.toList.drop 45 = dktX2_tickGoesBy_2 := dk_seg dksX2_tickGoesBy_1 24 rfl rfl
theorem dksX2_tickGoesBy_3 : cX2_tickGoesBy.data.toList.drop 67 = dktX2_tickGoesBy_3 := dk_seg dksX2_tickGoesBy_2 22 rfl rfl
theorem dksX2_tickGoesBy_4 : cX2_tickGoesBy.data.toList.drop 89 = dktX2_tickGoesBy_4 := dk_seg dksX2_tickGoesBy_3 22 rfl rfl
theorem dksX2_tickGoesBy_5 : cX2_tickGoesBy.data.toList.drop 111 = dktX2_tickGoesBy_5 := dk_seg dksX2_tickGoesBy_4 22 rfl rfl
theorem dksX2_tickGoesBy_6 : cX2_tickGoesBy.data.toList.drop 133 = dktX2_tickGoesBy_6 := dk_seg dksX2_tickGoesBy_5 22 rfl rfl
theorem dksX2_tickGoesBy_7 : cX2_tickGoesBy.data.toList.drop 157 = dktX2_tickGoesBy_7 := dk_seg dksX2_tickGoesBy_6 24 rfl rfl
theorem dksX2_tickGoesBy_8 : cX2_tickGoesBy.data.toList.drop 180 = dktX2_tickGoesBy_8 := dk_seg dksX2_tickGoesBy_7 23 rfl rfl
theorem dX2_tickGoesBy_0 : decode cX2_tickGoesBy 0 = .ok (.iconst 0, 1) := dk_3 (dk_at dksX2_tickGoesBy_0 0 rfl rfl)
theorem dX2_tickGoesBy_1 : decode cX2_tickGoesBy 1 = .ok (.istore_n 1, 1) := dk_60 (dk_at dksX2_tickGoesBy_0 1 rfl rfl)
theorem dX2_tickGoesBy_2 : decode cX2_tickGoesBy 2 = .ok (.aload_n 0, 1) := dk_42 (dk_at dksX2_tickGoesBy_0 2 rfl rfl)
theorem dX2_tickGoesBy_3 : decode cX2_tickGoesBy 3 = .ok (.dup, 1) := dk_89 (dk_at dksX2_tickGoesBy_0 3 rfl rfl)
theorem dX2_tickGoesBy_4 : decode cX2_tickGoesBy 4 = .ok (.getfield 81, 3) := dk_180 0 81 (dk_at dksX2_tickGoesBy_0 4 rfl rfl)
theorem dX2_tickGoesBy_7 : decode cX2_tickGoesBy 7 = .ok (.iconst 1, 1) := dk_4 (dk_at dksX2_tickGoesBy_0 7 rfl rfl)
theorem dX2_tickGoesBy_8 : decode cX2_tickGoesBy 8 = .ok (.iadd, 1) := dk_96 (dk_at dksX2_tickGoesBy_0 8 rfl rfl)
theorem dX2_tickGoesBy_9 : decode cX2_tickGoesBy 9 = .ok (.putfield 81, 3) := dk_181 0 81 (dk_at dksX2_tickGoesBy_0 9 rfl rfl)
theorem dX2_tickGoesBy_12 : decode cX2_tickGoesBy 12 = .ok (.aload_n 0, 1) := dk_42 (dk_at dksX2_tickGoesBy_0 12 rfl rfl)
theorem dX2_tickGoesBy_13 : decode cX2_tickGoesBy 13 = .ok (.getfield 26, 3) := dk_180 0 26 (dk_at dksX2_tickGoesBy_0 13 rfl rfl)
theorem dX2_tickGoesBy_16 : decode cX2_tickGoesBy 16 = .ok (.invokevirtual 46, 3) := dk_182 0 46 (dk_at dksX2_tickGoesBy_0 16 rfl rfl)
theorem dX2_tickGoesBy_19 : decode cX2_tickGoesBy 19 = .ok (.astore_n 2, 1) := dk_77 (dk_at dksX2_tickGoesBy_0 19 rfl rfl)
theorem dX2_tickGoesBy_20 : decode cX2_tickGoesBy 20 = .ok (.aload_n 2, 1) := dk_44 (dk_at dksX2_tickGoesBy_0 20 rfl rfl)
theorem dX2_tickGoesBy_21 : decode cX2_tickGoesBy 21 = .ok (.invokeinterface 50 1, 5) := by decide +kernel
theorem dX2_tickGoesBy_26 : decode cX2_tickGoesBy 26 = .ok (.ifCond .eq 26, 3) := dk_153 0 26 (dk_at dksX2_tickGoesBy_1 5 rfl rfl)
theorem dX2_tickGoesBy_29 : decode cX2_tickGoesBy 29 = .ok (.aload_n 2, 1) := dk_44 (dk_at dksX2_tickGoesBy_1 8 rfl rfl)
theorem dX2_tickGoesBy_30 : decode cX2_tickGoesBy 30 = .ok (.invokeinterface 56 1, 5) := by decide +kernel
theorem dX2_tickGoesBy_35 : decode cX2_tickGoesBy 35 = .ok (.checkcast 60, 3) := dk_192 0 60 (dk_at dksX2_tickGoesBy_1 14 rfl rfl)
theorem dX2_tickGoesBy_38 : decode cX2_tickGoesBy 38 = .ok (.astore_n 3, 1) := dk_78 (dk_at dksX2_tickGoesBy_1 17 rfl rfl)
theorem dX2_tickGoesBy_39 : decode cX2_tickGoesBy 39 = .ok (.aload_n 3, 1) := dk_45 (dk_at dksX2_tickGoesBy_1 18 rfl rfl)
theorem dX2_tickGoesBy_40 : decode cX2_tickGoesBy 40 = .ok (.dup, 1) := dk_89 (dk_at dksX2_tickGoesBy_1 19 rfl rfl)
theorem dX2_tickGoesBy_41 : decode cX2_tickGoesBy 41 = .ok (.getfield 169, 3) := dk_180 0 169 (dk_at dksX2_tickGoesBy_1 20 rfl rfl)
theorem dX2_tickGoesBy_44 : decode cX2_tickGoesBy 44 = .ok (.iconst 1, 1) := dk_4 (dk_at dksX2_tickGoesBy_1 23 rfl rfl)
theorem dX2_tickGoesBy_45 : decode cX2_tickGoesBy 45 = .ok (.isub, 1) := dk_100 (dk_at dksX2_tickGoesBy_2 0 rfl rfl)
theorem dX2_tickGoesBy_46 : decode cX2_tickGoesBy 46 = .ok (.putfield 169, 3) := dk_181 0 169 (dk_at dksX2_tickGoesBy_2 1 rfl rfl)
theorem dX2_tickGoesBy_49 : decode cX2_tickGoesBy 49 = .ok (.goto (-29), 3) := dk_167 255 227 (dk_at dksX2_tickGoesBy_2 4 rfl rfl)
theorem dX2_tickGoesBy_52 : decode cX2_tickGoesBy 52 = .ok (.iconst 0, 1) := dk_3 (dk_at dksX2_tickGoesBy_2 7 rfl rfl)
theorem dX2_tickGoesBy_53 : decode cX2_tickGoesBy 53 = .ok (.istore_n 2, 1) := dk_61 (dk_at dksX2_tickGoesBy_2 8 rfl rfl)
theorem dX2_tickGoesBy_54 : decode cX2_tickGoesBy 54 = .ok (.iload_n 2, 1) := dk_28 (dk_at dksX2_tickGoesBy_2 9 rfl rfl)
theorem dX2_tickGoesBy_55 : decode cX2_tickGoesBy 55 = .ok (.aload_n 0, 1) := dk_42 (dk_at dksX2_tickGoesBy_2 10 rfl rfl)
theorem dX2_tickGoesBy_56 : decode cX2_tickGoesBy 56 = .ok (.getfield 26, 3) := dk_180 0 26 (dk_at dksX2_tickGoesBy_2 11 rfl rfl)
theorem dX2_tickGoesBy_59 : decode cX2_tickGoesBy 59 = .ok (.invokevirtual 161, 3) := dk_182 0 161 (dk_at dksX2_tickGoesBy_2 14 rfl rfl)
theorem dX2_tickGoesBy_62 : decode cX2_tickGoesBy 62 = .ok (.if_icmp .ge 52, 3) := dk_162 0 52 (dk_at dksX2_tickGoesBy_2 17 rfl rfl)
theorem dX2_tickGoesBy_65 : decode cX2_tickGoesBy 65 = .ok (.iload_n 1, 1) := dk_27 (dk_at dksX2_tickGoesBy_2 20 rfl rfl)
theorem dX2_tickGoesBy_66 : decode cX2_tickGoesBy 66 = .ok (.aload_n 0, 1) := dk_42 (dk_at dksX2_tickGoesBy_2 21 rfl rfl)
theorem dX2_tickGoesBy_67 : decode cX2_tickGoesBy 67 = .ok (.getfield 26, 3) := dk_180 0 26 (dk_at dksX2_tickGoesBy_3 0 rfl rfl)
theorem dX2_tickGoesBy_70 : decode cX2_tickGoesBy 70 = .ok (.iload_n 2, 1) := dk_28 (dk_at dksX2_tickGoesBy_3 3 rfl rfl)
theorem dX2_tickGoesBy_71 : decode cX2_tickGoesBy 71 = .ok (.invokevirtual 181, 3) := dk_182 0 181 (dk_at dksX2_tickGoesBy_3 4 rfl rfl)
theorem dX2_tickGoesBy_74 : decode cX2_tickGoesBy 74 = .ok (.checkcast 60, 3) := dk_192 0 60 (dk_at dksX2_tickGoesBy_3 7 rfl rfl)
theorem dX2_tickGoesBy_77 : decode cX2_tickGoesBy 77 = .ok (.invokevirtual 184, 3) := dk_182 0 184 (dk_at dksX2_tickGoesBy_3 10 rfl rfl)
theorem dX2_tickGoesBy_80 : decode cX2_tickGoesBy 80 = .ok (.ifCond .eq 25, 3) := dk_153 0 25 (dk_at dksX2_tickGoesBy_3 13 rfl rfl)
theorem dX2_tickGoesBy_83 : decode cX2_tickGoesBy 83 = .ok (.aload_n 0, 1) := dk_42 (dk_at dksX2_tickGoesBy_3 16 rfl rfl)
theorem dX2_tickGoesBy_84 : decode cX2_tickGoesBy 84 = .ok (.aload_n 0, 1) := dk_42 (dk_at dksX2_tickGoesBy_3 17 rfl rfl)
theorem dX2_tickGoesBy_85 : decode cX2_tickGoesBy 85 = .ok (.getfield 26, 3) := dk_180 0 26 (dk_at dksX2_tickGoesBy_3 18 rfl rfl)
theorem dX2_tickGoesBy_88 : decode cX2_tickGoesBy 88 = .ok (.iload_n 2, 1) := dk_28 (dk_at dksX2_tickGoesBy_3 21 rfl rfl)
theorem dX2_tickGoesBy_89 : decode cX2_tickGoesBy 89 = .ok (.invokevirtual 181, 3) := dk_182 0 181 (dk_at dksX2_tickGoesBy_4 0 rfl rfl)
theorem dX2_tickGoesBy_92 : decode cX2_tickGoesBy 92 = .ok (.checkcast 60, 3) := dk_192 0 60 (dk_at dksX2_tickGoesBy_4 3 rfl rfl)
theorem dX2_tickGoesBy_95 : decode cX2_tickGoesBy 95 = .ok (.invokevirtual 187, 3) := dk_182 0 187 (dk_at dksX2_tickGoesBy_4 6 rfl rfl)
theorem dX2_tickGoesBy_98 : decode cX2_tickGoesBy 98 = .ok (.ifCond .eq 7, 3) := dk_153 0 7 (dk_at dksX2_tickGoesBy_4 9 rfl rfl)
theorem dX2_tickGoesBy_101 : decode cX2_tickGoesBy 101 = .ok (.iconst 1, 1) := dk_4 (dk_at dksX2_tickGoesBy_4 12 rfl rfl)
theorem dX2_tickGoesBy_102 : decode cX2_tickGoesBy 102 = .ok (.goto 4, 3) := dk_167 0 4 (dk_at dksX2_tickGoesBy_4 13 rfl rfl)
theorem dX2_tickGoesBy_105 : decode cX2_tickGoesBy 105 = .ok (.iconst 0, 1) := dk_3 (dk_at dksX2_tickGoesBy_4 16 rfl rfl)
theorem dX2_tickGoesBy_106 : decode cX2_tickGoesBy 106 = .ok (.iadd, 1) := dk_96 (dk_at dksX2_tickGoesBy_4 17 rfl rfl)
theorem dX2_tickGoesBy_107 : decode cX2_tickGoesBy 107 = .ok (.istore_n 1, 1) := dk_60 (dk_at dksX2_tickGoesBy_4 18 rfl rfl)
theorem dX2_tickGoesBy_108 : decode cX2_tickGoesBy 108 = .ok (.iinc 2 1, 3) := dk_132 2 1 (dk_at dksX2_tickGoesBy_4 19 rfl rfl)
theorem dX2_tickGoesBy_111 : decode cX2_tickGoesBy 111 = .ok (.goto (-57), 3) := dk_167 255 199 (dk_at dksX2_tickGoesBy_5 0 rfl rfl)
theorem dX2_tickGoesBy_114 : decode cX2_tickGoesBy 114 = .ok (.aload_n 0, 1) := dk_42 (dk_at dksX2_tickGoesBy_5 3 rfl rfl)
theorem dX2_tickGoesBy_115 : decode cX2_tickGoesBy 115 = .ok (.getfield 26, 3) := dk_180 0 26 (dk_at dksX2_tickGoesBy_5 4 rfl rfl)
theorem dX2_tickGoesBy_118 : decode cX2_tickGoesBy 118 = .ok (.invokevirtual 161, 3) := dk_182 0 161 (dk_at dksX2_tickGoesBy_5 7 rfl rfl)
theorem dX2_tickGoesBy_121 : decode cX2_tickGoesBy 121 = .ok (.iconst 1, 1) := dk_4 (dk_at dksX2_tickGoesBy_5 10 rfl rfl)
theorem dX2_tickGoesBy_122 : decode cX2_tickGoesBy 122 = .ok (.isub, 1) := dk_100 (dk_at dksX2_tickGoesBy_5 11 rfl rfl)
theorem dX2_tickGoesBy_123 : decode cX2_tickGoesBy 123 = .ok (.istore_n 2, 1) := dk_61 (dk_at dksX2_tickGoesBy_5 12 rfl rfl)
theorem dX2_tickGoesBy_124 : decode cX2_tickGoesBy 124 = .ok (.iload_n 2, 1) := dk_28 (dk_at dksX2_tickGoesBy_5 13 rfl rfl)
theorem dX2_tickGoesBy_125 : decode cX2_tickGoesBy 125 = .ok (.ifCond .lt 48, 3) := dk_155 0 48 (dk_at dksX2_tickGoesBy_5 14 rfl rfl)
theorem dX2_tickGoesBy_128 : decode cX2_tickGoesBy 128 = .ok (.aload_n 0, 1) := dk_42 (dk_at dksX2_tickGoesBy_5 17 rfl rfl)
theorem dX2_tickGoesBy_129 : decode cX2_tickGoesBy 129 = .ok (.getfield 26, 3) := dk_180 0 26 (dk_at dksX2_tickGoesBy_5 18 rfl rfl)
theorem dX2_tickGoesBy_132 : decode cX2_tickGoesBy 132 = .ok (.iload_n 2, 1) := dk_28 (dk_at dksX2_tickGoesBy_5 21 rfl rfl)
theorem dX2_tickGoesBy_133 : decode cX2_tickGoesBy 133 = .ok (.invokevirtual 181, 3) := dk_182 0 181 (dk_at dksX2_tickGoesBy_6 0 rfl rfl)
theorem dX2_tickGoesBy_136 : decode cX2_tickGoesBy 136 = .ok (.checkcast 60, 3) := dk_192 0 60 (dk_at dksX2_tickGoesBy_6 3 rfl rfl)
theorem dX2_tickGoesBy_139 : decode cX2_tickGoesBy 139 = .ok (.invokevirtual 184, 3) := dk_182 0 184 (dk_at dksX2_tickGoesBy_6 6 rfl rfl)
theorem dX2_tickGoesBy_142 : decode cX2_tickGoesBy 142 = .ok (.ifCond .eq 25, 3) := dk_153 0 25 (dk_at dksX2_tickGoesBy_6 9 rfl rfl)
theorem dX2_tickGoesBy_145 : decode cX2_tickGoesBy 145 = .ok (.aload_n 0, 1) := dk_42 (dk_at dksX2_tickGoesBy_6 12 rfl rfl)
theorem dX2_tickGoesBy_146 : decode cX2_tickGoesBy 146 = .ok (.getfield 26, 3) := dk_180 0 26 (dk_at dksX2_tickGoesBy_6 13 rfl rfl)
theorem dX2_tickGoesBy_149 : decode cX2_tickGoesBy 149 = .ok (.iload_n 2, 1) := dk_28 (dk_at dksX2_tickGoesBy_6 16 rfl rfl)
theorem dX2_tickGoesBy_150 : decode cX2_tickGoesBy 150 = .ok (.invokevirtual 165, 3) := dk_182 0 165 (dk_at dksX2_tickGoesBy_6 17 rfl rfl)
theorem dX2_tickGoesBy_153 : decode cX2_tickGoesBy 153 = .ok (.checkcast 60, 3) := dk_192 0 60 (dk_at dksX2_tickGoesBy_6 20 rfl rfl)
theorem dX2_tickGoesBy_156 : decode cX2_tickGoesBy 156 = .ok (.astore_n 3, 1) := dk_78 (dk_at dksX2_tickGoesBy_6 23 rfl rfl)
theorem dX2_tickGoesBy_157 : decode cX2_tickGoesBy 157 = .ok (.aload_n 0, 1) := dk_42 (dk_at dksX2_tickGoesBy_7 0 rfl rfl)
theorem dX2_tickGoesBy_158 : decode cX2_tickGoesBy 158 = .ok (.dup, 1) := dk_89 (dk_at dksX2_tickGoesBy_7 1 rfl rfl)
theorem dX2_tickGoesBy_159 : decode cX2_tickGoesBy 159 = .ok (.getfield 75, 3) := dk_180 0 75 (dk_at dksX2_tickGoesBy_7 2 rfl rfl)
theorem dX2_tickGoesBy_162 : decode cX2_tickGoesBy 162 = .ok (.iconst 1, 1) := dk_4 (dk_at dksX2_tickGoesBy_7 5 rfl rfl)
theorem dX2_tickGoesBy_163 : decode cX2_tickGoesBy 163 = .ok (.iadd, 1) := dk_96 (dk_at dksX2_tickGoesBy_7 6 rfl rfl)
theorem dX2_tickGoesBy_164 : decode cX2_tickGoesBy 164 = .ok (.putfield 75, 3) := dk_181 0 75 (dk_at dksX2_tickGoesBy_7 7 rfl rfl)
theorem dX2_tickGoesBy_167 : decode cX2_tickGoesBy 167 = .ok (.iinc 2 (-1), 3) := dk_132 2 255 (dk_at dksX2_tickGoesBy_7 10 rfl rfl)
theorem dX2_tickGoesBy_170 : decode cX2_tickGoesBy 170 = .ok (.goto (-46), 3) := dk_167 255 210 (dk_at dksX2_tickGoesBy_7 13 rfl rfl)
theorem dX2_tickGoesBy_173 : decode cX2_tickGoesBy 173 = .ok (.aload_n 0, 1) := dk_42 (dk_at dksX2_tickGoesBy_7 16 rfl rfl)
theorem dX2_tickGoesBy_174 : decode cX2_tickGoesBy 174 = .ok (.dup, 1) := dk_89 (dk_at dksX2_tickGoesBy_7 17 rfl rfl)
theorem dX2_tickGoesBy_175 : decode cX2_tickGoesBy 175 = .ok (.getfield 75, 3) := dk_180 0 75 (dk_at dksX2_tickGoesBy_7 18 rfl rfl)
theorem dX2_tickGoesBy_178 : decode cX2_tickGoesBy 178 = .ok (.iload_n 1, 1) := dk_27 (dk_at dksX2_tickGoesBy_7 21 rfl rfl)
theorem dX2_tickGoesBy_179 : decode cX2_tickGoesBy 179 = .ok (.isub, 1) := dk_100 (dk_at dksX2_tickGoesBy_7 22 rfl rfl)
theorem dX2_tickGoesBy_180 : decode cX2_tickGoesBy 180 = .ok (.putfield 75, 3) := dk_181 0 75 (dk_at dksX2_tickGoesBy_8 0 rfl rfl)
theorem dX2_tickGoesBy_183 : decode cX2_tickGoesBy 183 = .ok (.aload_n 0, 1) := dk_42 (dk_at dksX2_tickGoesBy_8 3 rfl rfl)
theorem dX2_tickGoesBy_184 : decode cX2_tickGoesBy 184 = .ok (.dup, 1) := dk_89 (dk_at dksX2_tickGoesBy_8 4 rfl rfl)
theorem dX2_tickGoesBy_185 : decode cX2_tickGoesBy 185 = .ok (.getfield 71, 3) := dk_180 0 71 (dk_at dksX2_tickGoesBy_8 5 rfl rfl)
theorem dX2_tickGoesBy_188 : decode cX2_tickGoesBy 188 = .ok (.iload_n 1, 1) := dk_27 (dk_at dksX2_tickGoesBy_8 8 rfl rfl)
theorem dX2_tickGoesBy_189 : decode cX2_tickGoesBy 189 = .ok (.iadd, 1) := dk_96 (dk_at dksX2_tickGoesBy_8 9 rfl rfl)
theorem dX2_tickGoesBy_190 : decode cX2_tickGoesBy 190 = .ok (.putfield 71, 3) := dk_181 0 71 (dk_at dksX2_tickGoesBy_8 10 rfl rfl)
theorem dX2_tickGoesBy_193 : decode cX2_tickGoesBy 193 = .ok (.iload_n 1, 1) := dk_27 (dk_at dksX2_tickGoesBy_8 13 rfl rfl)
theorem dX2_tickGoesBy_194 : decode cX2_tickGoesBy 194 = .ok (.ireturn, 1) := dk_172 (dk_at dksX2_tickGoesBy_8 14 rfl rfl)
theorem q834 : (Jvm.Cond.fieldLink "SpanRuler$Note" (23 : Nat) "SpanRuler$Note" "ticks" "I") ∈ lw_all := lw_g (lw_at lw_m4 54 rfl) rfl
theorem q256 : (Jvm.Cond.fieldLink "SpanRuler$Ruler" (81 : Nat) "SpanRuler$Ruler" "ticks" "I") ∈ lw_all := lw_g (lw_at lw_m1 196 rfl) rfl
theorem q246 : (Jvm.Cond.fieldLink "SpanRuler$Ruler" (26 : Nat) "SpanRuler$Ruler" "notes" "Ljava/util/ArrayList;") ∈ lw_all := lw_g (lw_at lw_m1 186 rfl) rfl
theorem q380 : (Jvm.Cond.methodLink "SpanRuler$Ruler" (46 : Nat) ({ cls := "java/util/ArrayList", name := "iterator", desc := "()Ljava/util/Iterator;" } : Jvm.MethodName)) ∈ lw_all := lw_g (lw_at lw_m2 80 rfl) rfl
theorem q383 : (Jvm.Cond.code ({ cls := "java/util/ArrayList", name := "iterator", desc := "()Ljava/util/Iterator;" } : Jvm.MethodName) prog_52_method_55_code (1 : Nat) (Option.some (Jvm.ClassFile.FieldType.object "java/util/Iterator"))) ∈ lw_all := lw_g (lw_at lw_m2 83 rfl) rfl
theorem q381 : (Jvm.Cond.instanceMethod ({ cls := "java/util/ArrayList", name := "iterator", desc := "()Ljava/util/Iterator;" } : Jvm.MethodName)) ∈ lw_all := lw_g (lw_at lw_m2 81 rfl) rfl
theorem q382 : (Jvm.Cond.selects "java/util/ArrayList" ({ cls := "java/util/ArrayList", name := "iterator", desc := "()Ljava/util/Iterator;" } : Jvm.MethodName) ({ cls := "java/util/ArrayList", name := "iterator", desc := "()Ljava/util/Iterator;" } : Jvm.MethodName)) ∈ lw_all := lw_g (lw_at lw_m2 82 rfl) rfl
theorem q404 : (Jvm.Cond.methodLink "SpanRuler$Ruler" (50 : Nat) ({ cls := "java/util/Iterator", name := "hasNext", desc := "()Z" } : Jvm.MethodName)) ∈ lw_all := lw_g (lw_at lw_m2 104 rfl) rfl
theorem q408 : (Jvm.Cond.selects "java/util/ArrayList$Itr" ({ cls := "java/util/Iterator", name := "hasNext", desc := "()Z" } : Jvm.MethodName) ({ cls := "java/util/ArrayList$Itr", name := "hasNext", desc := "()Z" } : Jvm.MethodName)) ∈ lw_all := lw_g (lw_at lw_m2 108 rfl) rfl
theorem q410 : (Jvm.Cond.instanceMethod ({ cls := "java/util/ArrayList$Itr", name := "hasNext", desc := "()Z" } : Jvm.MethodName)) ∈ lw_all := lw_g (lw_at lw_m2 110 rfl) rfl
theorem q411 : (Jvm.Cond.publicMethod ({ cls := "java/util/ArrayList$Itr", name := "hasNext", desc := "()Z" } : Jvm.MethodName)) ∈ lw_tbl := lw_at lw_m2 111 rfl
theorem q409 : (Jvm.Cond.unhidden "java/util/ArrayList$Itr" "hasNext" "()Z") ∈ lw_tbl := lw_at lw_m2 109 rfl
theorem q407 : (Jvm.Cond.castable "java/util/ArrayList$Itr" "java/util/Iterator") ∈ lw_tbl := lw_at lw_m2 107 rfl
theorem q412 : (Jvm.Cond.code ({ cls := "java/util/ArrayList$Itr", name := "hasNext", desc := "()Z" } : Jvm.MethodName) prog_53_method_2_code (1 : Nat) (Option.some Jvm.ClassFile.FieldType.boolean)) ∈ lw_all := lw_g (lw_at lw_m2 112 rfl) rfl
theorem q1212 : (Jvm.Cond.methodLink "SpanRuler$Ruler" (161 : Nat) ({ cls := "java/util/ArrayList", name := "size", desc := "()I" } : Jvm.MethodName)) ∈ lw_all := lw_g (lw_at lw_m5 192 rfl) rfl
theorem q1121 : (Jvm.Cond.code ({ cls := "java/util/ArrayList", name := "size", desc := "()I" } : Jvm.MethodName) prog_52_method_8_code (1 : Nat) (Option.some Jvm.ClassFile.FieldType.int)) ∈ lw_all := lw_g (lw_at lw_m5 101 rfl) rfl
theorem q1119 : (Jvm.Cond.instanceMethod ({ cls := "java/util/ArrayList", name := "size", desc := "()I" } : Jvm.MethodName)) ∈ lw_all := lw_g (lw_at lw_m5 99 rfl) rfl
theorem q1120 : (Jvm.Cond.selects "java/util/ArrayList" ({ cls := "java/util/ArrayList", name := "size", desc := "()I" } : Jvm.MethodName) ({ cls := "java/util/ArrayList", name := "size", desc := "()I" } : Jvm.MethodName)) ∈ lw_all := lw_g (lw_at lw_m5 100 rfl) rfl
theorem q252 : (Jvm.Cond.fieldLink "SpanRuler$Ruler" (75 : Nat) "SpanRuler$Ruler" "missed" "I") ∈ lw_all := lw_g (lw_at lw_m1 192 rfl) rfl
theorem q250 : (Jvm.Cond.fieldLink "SpanRuler$Ruler" (71 : Nat) "SpanRuler$Ruler" "done" "I") ∈ lw_all := lw_g (lw_at lw_m1 190 rfl) rfl
theorem q1284 : (Jvm.Cond.methodLink "SpanRuler$Ruler" (181 : Nat) ({ cls := "java/util/ArrayList", name := "get", desc := "(I)Ljava/lang/Object;" } : Jvm.MethodName)) ∈ lw_all := lw_g (lw_at lw_m6 24 rfl) rfl
theorem q516 : (Jvm.Cond.code ({ cls := "java/util/ArrayList", name := "get", desc := "(I)Ljava/lang/Object;" } : Jvm.MethodName) prog_52_method_20_code (2 : Nat) (Option.some (Jvm.ClassFile.FieldType.object "java/lang/Object"))) ∈ lw_all := lw_g (lw_at lw_m2 216 rfl) rfl
theorem q514 : (Jvm.Cond.instanceMethod ({ cls := "java/util/ArrayList", name := "get", desc := "(I)Ljava/lang/Object;" } : Jvm.MethodName)) ∈ lw_all := lw_g (lw_at lw_m2 214 rfl) rfl
theorem q2739 : (Jvm.Cond.selects "java/util/ArrayList" ({ cls := "java/util/ArrayList", name := "get", desc := "(I)Ljava/lang/Object;" } : Jvm.MethodName) ({ cls := "java/util/ArrayList", name := "get", desc := "(I)Ljava/lang/Object;" } : Jvm.MethodName)) ∈ lw_all := lw_g (lw_at lw_m12 39 rfl) rfl
theorem q811 : (Jvm.Cond.classLink "SpanRuler$Ruler" (60 : Nat) "SpanRuler$Note") ∈ lw_all := lw_g (lw_at lw_m4 31 rfl) rfl
theorem q1285 : (Jvm.Cond.methodLink "SpanRuler$Ruler" (184 : Nat) ({ cls := "SpanRuler$Note", name := "isDue", desc := "()Z" } : Jvm.MethodName)) ∈ lw_all := lw_g (lw_at lw_m6 25 rfl) rfl
theorem q95 : (Jvm.Cond.initialized "SpanRuler$Note") ∈ lw_all := lw_g (lw_at lw_m1 35 rfl) rfl
theorem q1288 : (Jvm.Cond.code ({ cls := "SpanRuler$Note", name := "isDue", desc := "()Z" } : Jvm.MethodName) prog_13_method_3_code (1 : Nat) (Option.some Jvm.ClassFile.FieldType.boolean)) ∈ lw_all := lw_g (lw_at lw_m6 28 rfl) rfl
theorem q1286 : (Jvm.Cond.instanceMethod ({ cls := "SpanRuler$Note", name := "isDue", desc := "()Z" } : Jvm.MethodName)) ∈ lw_all := lw_g (lw_at lw_m6 26 rfl) rfl
theorem q1287 : (Jvm.Cond.selects "SpanRuler$Note" ({ cls := "SpanRuler$Note", name := "isDue", desc := "()Z" } : Jvm.MethodName) ({ cls := "SpanRuler$Note", name := "isDue", desc := "()Z" } : Jvm.MethodName)) ∈ lw_all := lw_g (lw_at lw_m6 27 rfl) rfl
theorem q1253 : (Jvm.Cond.methodLink "SpanRuler$Ruler" (165 : Nat) ({ cls := "java/util/ArrayList", name := "remove", desc := "(I)Ljava/lang/Object;" } : Jvm.MethodName)) ∈ lw_all := lw_g (lw_at lw_m5 233 rfl) rfl
theorem q1125 : (Jvm.Cond.code ({ cls := "java/util/ArrayList", name := "remove", desc := "(I)Ljava/lang/Object;" } : Jvm.MethodName) prog_52_method_29_code (4 : Nat) (Option.some (Jvm.ClassFile.FieldType.object "java/lang/Object"))) ∈ lw_all := lw_g (lw_at lw_m5 105 rfl) rfl
theorem q1123 : (Jvm.Cond.instanceMethod ({ cls := "java/util/ArrayList", name := "remove", desc := "(I)Ljava/lang/Object;" } : Jvm.MethodName)) ∈ lw_all := lw_g (lw_at lw_m5 103 rfl) rfl
theorem q1124 : (Jvm.Cond.selects "java/util/ArrayList" ({ cls := "java/util/ArrayList", name := "remove", desc := "(I)Ljava/lang/Object;" } : Jvm.MethodName) ({ cls := "java/util/ArrayList", name := "remove", desc := "(I)Ljava/lang/Object;" } : Jvm.MethodName)) ∈ lw_all := lw_g (lw_at lw_m5 104 rfl) rfl
theorem q1289 : (Jvm.Cond.methodLink "SpanRuler$Ruler" (187 : Nat) ({ cls := "SpanRuler$Ruler", name := "isDone", desc := "(LSpanRuler$Note;)Z" } : Jvm.MethodName)) ∈ lw_all := lw_g (lw_at lw_m6 29 rfl) rfl
theorem q1292 : (Jvm.Cond.code ({ cls := "SpanRuler$Ruler", name := "isDone", desc := "(LSpanRuler$Note;)Z" } : Jvm.MethodName) prog_16_method_19_code (4 : Nat) (Option.some Jvm.ClassFile.FieldType.boolean)) ∈ lw_all := lw_g (lw_at lw_m6 32 rfl) rfl
theorem q1291 : (Jvm.Cond.instanceMethod ({ cls := "SpanRuler$Ruler", name := "isDone", desc := "(LSpanRuler$Note;)Z" } : Jvm.MethodName)) ∈ lw_all := lw_g (lw_at lw_m6 31 rfl) rfl
theorem q420 : (Jvm.Cond.methodLink "SpanRuler$Ruler" (56 : Nat) ({ cls := "java/util/Iterator", name := "next", desc := "()Ljava/lang/Object;" } : Jvm.MethodName)) ∈ lw_all := lw_g (lw_at lw_m2 120 rfl) rfl
theorem q423 : (Jvm.Cond.selects "java/util/ArrayList$Itr" ({ cls := "java/util/Iterator", name := "next", desc := "()Ljava/lang/Object;" } : Jvm.MethodName) ({ cls := "java/util/ArrayList$Itr", name := "next", desc := "()Ljava/lang/Object;" } : Jvm.MethodName)) ∈ lw_all := lw_g (lw_at lw_m2 123 rfl) rfl
theorem q425 : (Jvm.Cond.instanceMethod ({ cls := "java/util/ArrayList$Itr", name := "next", desc := "()Ljava/lang/Object;" } : Jvm.MethodName)) ∈ lw_all := lw_g (lw_at lw_m2 125 rfl) rfl
theorem q426 : (Jvm.Cond.publicMethod ({ cls := "java/util/ArrayList$Itr", name := "next", desc := "()Ljava/lang/Object;" } : Jvm.MethodName)) ∈ lw_tbl := lw_at lw_m2 126 rfl
theorem q424 : (Jvm.Cond.unhidden "java/util/ArrayList$Itr" "next" "()Ljava/lang/Object;") ∈ lw_tbl := lw_at lw_m2 124 rfl
theorem q427 : (Jvm.Cond.code ({ cls := "java/util/ArrayList$Itr", name := "next", desc := "()Ljava/lang/Object;" } : Jvm.MethodName) prog_53_method_3_code (3 : Nat) (Option.some (Jvm.ClassFile.FieldType.object "java/lang/Object"))) ∈ lw_all := lw_g (lw_at lw_m2 127 rfl) rfl
theorem q835 : (Jvm.Cond.fieldLinkNest "SpanRuler$Ruler" (169 : Nat) "SpanRuler$Note" "ticks" "I" "SpanRuler") ∈ lw_tbl := lw_at lw_m4 55 rfl
theorem rDecs_1 : ∀ (n p : Nat) (R : Nat → Int32) (q : Nat), q < 72 → rDecs n p R q = R q := by
  intro n
  induction n with
  | zero => intro p R q _; rfl
  | succ n ih => intro p R q h; exact (ih (p + 1) _ q h).trans (upd_ne (by omega))
theorem rAct_q {k x : Int32} {i j q : Nat} {R : Nat → Int32} (hj : j < 32) (h : 40 ≤ q) : rAct k x i j R q = R q := rAct_off (by omega) (by omega)
theorem rAct_N {k x : Int32} {i j : Nat} {R : Nat → Int32} : rN (rAct k x i j R) = rN R := by unfold rN; rw [rAct_off (by omega) (by omega)]
theorem sp_T {R : Nat → Int32} {p : Nat} (h : NoteOk R p) : R (72 + 5 * p + 1) = nI (nF R p) ∧ R (72 + 5 * p + 2) = nI (nT R p) ∧ nF R p ≤ nT R p ∧ nT R p < 32 := isSp_n h.2.1
theorem x_isDue (l : Launch) (G : GE) (h : AH) (b : Nat) (k0 : Value) (x1 x2 x3 tk : Int32) (nb : Rd G h b (ob 6 [k0, .int x1, .int x2, .int x3, .int tk])) : GM l G yX10_isDue (ws_ yX10_isDue cX10_isDue 1 (some .boolean)) 1 [.ref b] (h) (0) (PV (.int (bI (decide (tk = 0)))) h) := by
  refine GM.of (by decide) (dk rfl) ?_
  intro X eL eG eh ok fn
  subst eL; subst eG
  show GW X _ 0 0 [some (.ref b)] []
  refine g_aload_n ok dX10_isDue_0 rfl ?_
  refine g_get ok ck_X10 4 q834 (Or.inl rfl) (by decide) dX10_isDue_1 (nb) rfl ?_
  refine g_if_ne ok (tgt := 11) dX10_isDue_4 (by decide) (fun c4 => ?_) (fun c4 => ?_)
  · refine g_iconst ok (v := 0) dX10_isDue_11 rfl ?_
    exact g_zret ok fn rfl rfl dX10_isDue_12 (pv_h (by simp [bI, c4])) (by omega)
  · refine g_iconst ok (v := 1) dX10_isDue_7 rfl ?_
    refine g_goto ok dX10_isDue_8 (tgt := 12) (by decide) ?_
    exact g_zret ok fn rfl rfl dX10_isDue_12 (pv_h (by simp [bI, c4])) (by omega)
theorem els_note {G : GE} {h : AH} {P : Nat → Prop} {a rt cl nl nd nc vl vd vc : Nat} {R : Nat → Int32} {nm vm : Int32} {nf vf : Nat → Option Nat} (x : Rul G h P a R rt cl nl nd nc nm nf vl vd vc vm vf) : Els G h nf (rN R) := fun j hj y hy => by
  obtain ⟨b, k1, k2⟩ := x.2.2.1 j hj
  rw [hy] at k1; cases k1
  exact ⟨6, _, by decide, Rd.h k2⟩
theorem taken_note {G : GE} {h h' : AH} {l d cap n i b p : Nat} {mc mc2 : Int32} {f : Nat → Option Nat} {R : Nat → Int32} (t : Taken G h h' l d cap n i mc2 f) (y : AL G h l d cap n mc f) (hn : 0 < n) (nb : NoteAt G h b R p) : NoteAt G h' b R p := by
  obtain ⟨g, t1, t2, t3⟩ := t
  unfold NoteAt at *
  refine t3 b _ (fun e => ?_) (fun e => ?_) nb
  · rw [e, y.1] at nb; cases nb
  · rcases y.2.1 with v | v
    · have := y.2.2.1; omega
    · rw [e, v.2] at nb; cases nb
theorem l3N {R : Nat → Int32} {v : Int32} : rN (upd R 4 v) = rN R := by unfold rN; rw [upd_ne (by omega)]
theorem u_tick (l : Launch) (G : GE) (h0 h : AH) (a : Nat) (R : Nat → Int32) (m0 : RulerM G h0 h a R) (tko : TkOk R) : GM l G yX2_tickGoesBy (ws_ yX2_tickGoesBy cX2_tickGoesBy 4 (some .int)) 15 [.ref a] (h) ((5 + 2000 * du (rN R) 0 (tT1 R))) (PR fun u h' => u = .int (rTick R).1 ∧ RulerM G h0 h' a (rTick R).2) := by
  refine GM.of (by decide) (dk rfl) ?_
  intro X eL eG eh ok fn
  subst eL; subst eG
  show GW X _ 0 0 [some (.ref a), none, none, none] []
  obtain ⟨rt, cl, nl, nd, nc, nm, nf, vl, vd, vc, vm, vf, y1, z1⟩ := id m0
  have mq2 : RQ X.G h (fun q => h0 q = none) a R rt cl [.ref nl, .ref vl, .int (R 3), .int (R 4), .int (R 5), .int (R 0), .int (R 6), .int (R 7)] := y1.1
  obtain ⟨ra1, rT1, cf1, rc1, rf1⟩ := id mq2
  have nca1 : cl ≠ a := fun z_ => by have w_ := rc1; rw [z_, ra1] at w_; cases w_
  have hN10 : rN R ≤ 10 := y1.2.2.2.2.2.1.1.2
  refine g_iconst ok (v := 0) dX2_tickGoesBy_0 rfl ?_
  refine g_istore_n ok dX2_tickGoesBy_1 (ls1 := [some (.ref a), some (.int 0), none, none]) (dl rfl) rfl ?_
  refine g_aload_n ok dX2_tickGoesBy_2 rfl ?_
  refine g_dup ok dX2_tickGoesBy_3 rfl ?_
  refine g_get ok ck_X2 7 q256 (Or.inl rfl) (by decide) dX2_tickGoesBy_4 (Rd.h (ra1)) rfl ?_
  refine g_iconst ok (v := 1) dX2_tickGoesBy_7 rfl ?_
  refine g_iadd ok dX2_tickGoesBy_8 ?_
  refine g_put ok ck_X2 7 q256 (Or.inl rfl) (by decide) rfl dX2_tickGoesBy_9 (ra1) (dl rfl) rfl rfl (fs1 := [.ref rt, .ref cl, .ref nl, .ref vl, .int (R 3), .int (R 4), .int (R 5), .int ((R 0) + 1), .int (R 6), .int (R 7)]) rfl (?_)
  have m2 := RulerM.set0 (v := R 0 + 1) y1 z1
  generalize eH3 : (up h a (ob 1 [.ref rt, .ref cl, .ref nl, .ref vl, .int (R 3), .int (R 4), .int (R 5), .int ((R 0) + 1), .int (R 6), .int (R 7)])) = Hg3 at m2 ⊢
  obtain ⟨rt, cl, nl, nd, nc, nm, nf, vl, vd, vc, vm, vf, y3, z3⟩ := id m2
  have mq4 : RQ X.G Hg3 (fun q => h0 q = none) a (upd R 0 (R 0 + 1)) rt cl [.ref nl, .ref vl, .int ((upd R 0 (R 0 + 1)) 3), .int ((upd R 0 (R 0 + 1)) 4), .int ((upd R 0 (R 0 + 1)) 5), .int ((upd R 0 (R 0 + 1)) 0), .int ((upd R 0 (R 0 + 1)) 6), .int ((upd R 0 (R 0 + 1)) 7)] := y3.1
  obtain ⟨ra2, rT2, cf2, rc2, rf2⟩ := id mq4
  have nca2 : cl ≠ a := fun z_ => by have w_ := rc2; rw [z_, ra2] at w_; cases w_
  refine g_aload_n ok dX2_tickGoesBy_12 rfl ?_
  refine g_get ok ck_X2 2 q246 (Or.inl rfl) (by decide) dX2_tickGoesBy_13 (Rd.h (ra2)) rfl ?_
  refine g_callV ok q380 q381 q382 q70 q383 (Recv.ob ok gc_J2 (Rd.h y3.2.1.1)) dX2_tickGoesBy_16 (al_iter X.l X.G _ nl nd nc (rN (upd R 0 (R 0 + 1))) nm nf y3.2.1) (nm_ (by decide : nmb _ 0 = true)) (dl rfl) (dk rfl) rfl rfl (dk rfl) (by omega) (kR fun u1 h1 ⟨t, e1, k1, k2, k3⟩ => ?_) xR
  subst e1; subst k3
  refine g_astore_n ok dX2_tickGoesBy_19 (ls1 := [some (.ref a), some (.int 0), some (.ref t), none]) (dl rfl) rfl ?_
  have t0 : h0 t = none := KeepAll.nn0 z3.1 k1
  obtain ⟨yi, zi⟩ := RF.new (e := ob 13 [.int 0, .int (-1), .int nm, .ref nl]) y3 z3 k1
  have eN : rN (upd R 0 (R 0 + 1)) = rN R := by unfold rN; rw [upd_ne (by omega)]
  have lp : ∀ (n c : Nat) (lr : Int32) (S : Nat → Int32) (H : AH), (c + n = rN R) → (rDecs n c S = tT1 R) → (Rul X.G H (fun q => h0 q = none) a S rt cl nl nd nc nm nf vl vd vc vm vf) → (Frs X.G h0 H a S cl nl nd nc nf vl vd vc vf) → (H t = some (ob 13 [.int (nI c), .int lr, .int nm, .ref nl])) → (rN S = rN R) → (∀ p, c ≤ p → p < rN R → inR (S (72 + 5 * p + 4)) 1 20 = true) → GW X H 5 20 [some (.ref a), some (.int 0), some (.ref t), none] [] := by
    intro n
    induction n with
    | zero => 
      intro c lr S H e0 e1 y9 z9 it e2 tk
      have mq5 : RQ X.G H (fun q => h0 q = none) a S rt cl [.ref nl, .ref vl, .int (S 3), .int (S 4), .int (S 5), .int (S 0), .int (S 6), .int (S 7)] := y9.1
      obtain ⟨ra3, rT3, cf3, rc3, rf3⟩ := id mq5
      have nca3 : cl ≠ a := fun z_ => by have w_ := rc3; rw [z_, ra3] at w_; cases w_
      have ya := y9.2.1
      rw [e2] at ya
      refine g_aload_n ok dX2_tickGoesBy_20 rfl ?_
      refine g_callF ok (x := ({ cls := "java/util/Iterator", name := "hasNext", desc := "()Z" } : Jvm.MethodName)) q404 (by simp [ifl]) q408 q410 q411 q409 q407 q83 q412 gc_J12 (Recv.ob ok gc_J12 (Rd.h it)) dX2_tickGoesBy_21 (it_has X.l X.G _ nl nd nc (rN R) nm nf ya t c lr it (by omega)) (nm_ (by decide : nmb _ 0 = true)) (dl rfl) (dk rfl) rfl rfl (dk rfl) (by omega) (kV ?_) xV
      refine g_if_eq ok (tgt := 52) dX2_tickGoesBy_26 (by decide) (fun _ => ?_) (fun c_ => absurd (by rw [decide_eq_false (by omega)]; rfl) c_)
      have e1s : S = tT1 R := e1
      subst e1s
      refine g_iconst ok (v := 0) dX2_tickGoesBy_52 rfl ?_
      refine g_istore_n ok dX2_tickGoesBy_53 (ls1 := [some (.ref a), some (.int 0), some (.int 0), none]) (dl rfl) rfl ?_
      have lp2 : ∀ (n : Nat) (c : Nat) (v : Int32) (S : Nat → Int32) (Hlp2 : AH) (klp2 : Nat), (c + n = rN R) → (rN S = rN R) → (l2 n c S v = tT2 R) → (RulerM X.G h0 Hlp2 a S) → (klp2 + 2000 * du n c S ≤ 5 + 2000 * du (rN R) 0 (tT1 R)) → GW X Hlp2 klp2 54 [some (.ref a), some (.int v), some (.int (nI c)), none] [] := by
        intro n
        induction n with
        | zero => 
          intro c v S Hlp2 klp2 lp2h0 lp2h1 lp2h2 mlp2 blp2
          obtain ⟨rt, cl, nl, nd, nc, nm, nf, vl, vd, vc, vm, vf, y6, z6⟩ := id mlp2
          have mq7 : RQ X.G Hlp2 (fun q => h0 q = none) a S rt cl [.ref nl, .ref vl, .int (S 3), .int (S 4), .int (S 5), .int (S 0), .int (S 6), .int (S 7)] := y6.1
          obtain ⟨ra4, rT4, cf4, rc4, rf4⟩ := id mq7
          have nca4 : cl ≠ a := fun z_ => by have w_ := rc4; rw [z_, ra4] at w_; cases w_
          refine g_iload_n ok dX2_tickGoesBy_54 rfl ?_
          refine g_aload_n ok dX2_tickGoesBy_55 rfl ?_
          refine g_get ok ck_X2 2 q246 (Or.inl rfl) (by decide) dX2_tickGoesBy_56 (Rd.h (ra4)) rfl ?_
          refine g_callV ok q1212 q1119 q1120 q70 q1121 (Recv.ob ok gc_J2 (Rd.h y6.2.1.1)) dX2_tickGoesBy_59 (al_size X.l X.G _ nl nd nc (rN S) nm nf y6.2.1) (nm_ (by decide : nmb _ 0 = true)) (dl rfl) (dk rfl) rfl rfl (dk rfl) (by omega) (kV ?_) xV
          refine g_icmp_ge ok (tgt := 114) dX2_tickGoesBy_62 (by decide) (fun _ => ?_) (fun c_ => absurd (nI_le (a := (rN S)) (b := c) (by omega) (by omega)) c_)
          have e2s : (v, S) = tT2 R := lp2h2
          refine g_aload_n ok dX2_tickGoesBy_114 rfl ?_
          refine g_get ok ck_X2 2 q246 (Or.inl rfl) (by decide) dX2_tickGoesBy_115 (Rd.h (ra4)) rfl ?_
          refine g_callV ok q1212 q1119 q1120 q70 q1121 (Recv.ob ok gc_J2 (Rd.h y6.2.1.1)) dX2_tickGoesBy_118 (al_size X.l X.G _ nl nd nc (rN S) nm nf y6.2.1) (nm_ (by decide : nmb _ 0 = true)) (dl rfl) (dk rfl) rfl rfl (dk rfl) (by omega) (kV ?_) xV
          refine g_iconst ok (v := 1) dX2_tickGoesBy_121 rfl ?_
          have e3s : nI (rN S) - 1 = nI (rN R) - 1 := by rw [lp2h1]
          refine g_isub ok dX2_tickGoesBy_122 ?_
          rw [e3s]
          refine g_istore_n ok dX2_tickGoesBy_123 (ls1 := [some (.ref a), some (.int v), some (.int (nI (rN R) - 1)), none]) (dl rfl) rfl ?_
          have kb3 : klp2 ≤ 5 + 2000 * du (rN R) 0 (tT1 R) := by omega
          have lp3 : ∀ (n : Nat)  (S : Nat → Int32) (Hlp3 : AH) (klp3 : Nat), (l3 n S = tT3 R) → (n ≤ rN S) → (RulerM X.G h0 Hlp3 a S) → (klp3 + 0 * n ≤ (5 + 2000 * du (rN R) 0 (tT1 R))) → GW X Hlp3 klp3 124 [some (.ref a), some (.int v), some (.int (nI n - 1)), none] [] := by
            intro n
            induction n with
            | zero => 
              intro  S Hlp3 klp3 lp3h0 lp3h1 mlp3 blp3
              obtain ⟨rt, cl, nl, nd, nc, nm, nf, vl, vd, vc, vm, vf, y8, z8⟩ := id mlp3
              have mq9 : RQ X.G Hlp3 (fun q => h0 q = none) a S rt cl [.ref nl, .ref vl, .int (S 3), .int (S 4), .int (S 5), .int (S 0), .int (S 6), .int (S 7)] := y8.1
              obtain ⟨ra5, rT5, cf5, rc5, rf5⟩ := id mq9
              have nca5 : cl ≠ a := fun z_ => by have w_ := rc5; rw [z_, ra5] at w_; cases w_
              refine g_iload_n ok dX2_tickGoesBy_124 rfl ?_
              refine g_if_lt ok (tgt := 173) dX2_tickGoesBy_125 (by decide) (fun _ => ?_) (fun c_ => absurd (by decide : nI 0 - 1 < 0) c_)
              have e4s : S = tT3 R := lp3h0
              refine g_aload_n ok dX2_tickGoesBy_173 rfl ?_
              refine g_dup ok dX2_tickGoesBy_174 rfl ?_
              refine g_get ok ck_X2 5 q252 (Or.inl rfl) (by decide) dX2_tickGoesBy_175 (Rd.h (ra5)) rfl ?_
              refine g_iload_n ok dX2_tickGoesBy_178 rfl ?_
              refine g_isub ok dX2_tickGoesBy_179 ?_
              refine g_put ok ck_X2 5 q252 (Or.inl rfl) (by decide) rfl dX2_tickGoesBy_180 (ra5) (dl rfl) rfl rfl (fs1 := [.ref rt, .ref cl, .ref nl, .ref vl, .int (S 3), .int ((S 4) - v), .int (S 5), .int (S 0), .int (S 6), .int (S 7)]) rfl (?_)
              have m5 := RulerM.set4 (v := S 4 - v) y8 z8
              generalize eH10 : (up Hlp3 a (ob 1 [.ref rt, .ref cl, .ref nl, .ref vl, .int (S 3), .int ((S 4) - v), .int (S 5), .int (S 0), .int (S 6), .int (S 7)])) = Hg10 at m5 ⊢
              obtain ⟨rt, cl, nl, nd, nc, nm, nf, vl, vd, vc, vm, vf, y10, z10⟩ := id m5
              have mq11 : RQ X.G Hg10 (fun q => h0 q = none) a (upd S 4 (S 4 - v)) rt cl [.ref nl, .ref vl, .int ((upd S 4 (S 4 - v)) 3), .int ((upd S 4 (S 4 - v)) 4), .int ((upd S 4 (S 4 - v)) 5), .int ((upd S 4 (S 4 - v)) 0), .int ((upd S 4 (S 4 - v)) 6), .int ((upd S 4 (S 4 - v)) 7)] := y10.1
              obtain ⟨ra6, rT6, cf6, rc6, rf6⟩ := id mq11
              have nca6 : cl ≠ a := fun z_ => by have w_ := rc6; rw [z_, ra6] at w_; cases w_
              refine g_aload_n ok dX2_tickGoesBy_183 rfl ?_
              refine g_dup ok dX2_tickGoesBy_184 rfl ?_
              refine g_get ok ck_X2 4 q250 (Or.inl rfl) (by decide) dX2_tickGoesBy_185 (Rd.h (ra6)) rfl ?_
              refine g_iload_n ok dX2_tickGoesBy_188 rfl ?_
              refine g_iadd ok dX2_tickGoesBy_189 ?_
              refine g_put ok ck_X2 4 q250 (Or.inl rfl) (by decide) rfl dX2_tickGoesBy_190 (ra6) (dl rfl) rfl rfl (fs1 := [.ref rt, .ref cl, .ref nl, .ref vl, .int (((upd S 4 (S 4 - v)) 3) + v), .int ((upd S 4 (S 4 - v)) 4), .int ((upd S 4 (S 4 - v)) 5), .int ((upd S 4 (S 4 - v)) 0), .int ((upd S 4 (S 4 - v)) 6), .int ((upd S 4 (S 4 - v)) 7)]) rfl (?_)
              have m6 := RulerM.set3 (v := upd S 4 (S 4 - v) 3 + v) y10 z10
              rw [show upd S 4 (S 4 - v) 3 = S 3 from upd_ne (by omega)] at m6
              refine g_iload_n ok dX2_tickGoesBy_193 rfl ?_
              have eT : (v, upd (upd S 4 (S 4 - v)) 3 (S 3 + v)) = rTick R := by unfold rTick; rw [← e2s, ← e4s]
              rw [← eT] at fn
              exact g_iret ok fn rfl dX2_tickGoesBy_194 ⟨_, rfl, rfl, m6⟩ (by omega)
            | succ n ih3 => 
              intro  S Hlp3 klp3 lp3h0 lp3h1 mlp3 blp3
              obtain ⟨rt, cl, nl, nd, nc, nm, nf, vl, vd, vc, vm, vf, y8, z8⟩ := id mlp3
              have mq9 : RQ X.G Hlp3 (fun q => h0 q = none) a S rt cl [.ref nl, .ref vl, .int (S 3), .int (S 4), .int (S 5), .int (S 0), .int (S 6), .int (S 7)] := y8.1
              obtain ⟨ra5, rT5, cf5, rc5, rf5⟩ := id mq9
              have nca5 : cl ≠ a := fun z_ => by have w_ := rc5; rw [z_, ra5] at w_; cases w_
              have h10 := y8.2.2.2.2.2.1.1.2
              refine g_iload_n ok dX2_tickGoesBy_124 rfl ?_
              rw [nI_pred n]
              refine g_if_lt ok (tgt := 173) dX2_tickGoesBy_125 (by decide) (fun c_ => absurd c_ (nI_pos (by omega))) (fun _ => ?_)
              obtain ⟨b, kb, nb⟩ := y8.2.2.1 n (by omega)
              refine g_aload_n ok dX2_tickGoesBy_128 rfl ?_
              refine g_get ok ck_X2 2 q246 (Or.inl rfl) (by decide) dX2_tickGoesBy_129 (Rd.h (ra5)) rfl ?_
              refine g_iload_n ok dX2_tickGoesBy_132 rfl ?_
              refine g_callV ok q1284 q514 q2739 q70 q516 (Recv.ob ok gc_J2 (Rd.h y8.2.1.1)) dX2_tickGoesBy_133 (al_get X.l X.G _ nl nd nc (rN S) nm nf y8.2.1 n b (by omega) kb) (nm_ (by decide : nmb _ 1 = true)) (dl rfl) (dk rfl) rfl rfl (dk rfl) (by omega) (kV ?_) xV
              refine g_castE ok q811 dX2_tickGoesBy_136 (Recv.ob ok gc_X10 (Rd.h (nb))) ?_
              refine g_callV ok q1285 q1286 q1287 q95 q1288 (Recv.ob ok gc_X10 (Rd.h (nb))) dX2_tickGoesBy_139 (x_isDue X.l X.G _ b (.ref (X.G.ga (kd (S (72 + 5 * n + 0))))) (S (72 + 5 * n + 1)) (S (72 + 5 * n + 2)) (S (72 + 5 * n + 3)) (S (72 + 5 * n + 4)) (Rd.h (nb))) (nm_ (by decide : nmb _ 0 = true)) (dl rfl) (dk rfl) rfl rfl (dk rfl) (by omega) (kV ?_) xV
              refine g_if_eq ok (tgt := 167) dX2_tickGoesBy_142 (by decide) (fun c142 => ?_) (fun c142 => ?_)
              · have c142' := bI_e c142
                refine g_iinc ok dX2_tickGoesBy_167 rfl (v := nI n - 1) (i32_m1 _) (ls1 := [some (.ref a), some (.int v), some (.int (nI n - 1)), none]) rfl ?_
                refine g_goto ok dX2_tickGoesBy_170 (tgt := 124) (by decide) ?_
                have d0 : ¬ S (72 + 5 * n + 4) = 0 := of_decide_eq_false c142'
                exact ih3 S _ _ (by rw [← lp3h0, l3, if_neg d0]) (by omega) ⟨rt, cl, nl, nd, nc, nm, nf, vl, vd, vc, vm, vf, y8, z8⟩ (by omega)
              · have c142' := bI_n c142
                refine g_aload_n ok dX2_tickGoesBy_145 rfl ?_
                refine g_get ok ck_X2 2 q246 (Or.inl rfl) (by decide) dX2_tickGoesBy_146 (Rd.h (ra5)) rfl ?_
                refine g_iload_n ok dX2_tickGoesBy_149 rfl ?_
                refine g_callV ok q1253 q1123 q1124 q70 q1125 (Recv.ob ok gc_J2 (Rd.h y8.2.1.1)) dX2_tickGoesBy_150 (al_remove X.l X.G _ nl nd nc (rN S) nm nf y8.2.1 n (by omega) (els_note y8) b kb) (nm_ (by decide : nmb _ 1 = true)) (dl rfl) (dk rfl) rfl rfl (dk rfl) (by omega) (kR fun u7 h7 ⟨e7, k7⟩ => ?_) xR
                subst e7
                have m7 := RulerM.goes y8 z8 (k := n) (by omega) k7
                have nb7 := taken_note k7 y8.2.1 (by omega) nb
                refine g_castE ok q811 dX2_tickGoesBy_153 (Recv.ob ok gc_X10 (Rd.h nb7)) ?_
                refine g_astore_n ok dX2_tickGoesBy_156 (ls1 := [some (.ref a), some (.int v), some (.int (nI n)), some (.ref b)]) (dl rfl) rfl ?_
                obtain ⟨rt, cl, nl, nd, nc, nm, nf, vl, vd, vc, vm, vf, y10, z10⟩ := id m7
                have mq11 : RQ X.G h7 (fun q => h0 q = none) a (rGoes n S) rt cl [.ref nl, .ref vl, .int ((rGoes n S) 3), .int ((rGoes n S) 4), .int ((rGoes n S) 5), .int ((rGoes n S) 0), .int ((rGoes n S) 6), .int ((rGoes n S) 7)] := y10.1
                obtain ⟨ra6, rT6, cf6, rc6, rf6⟩ := id mq11
                have nca6 : cl ≠ a := fun z_ => by have w_ := rc6; rw [z_, ra6] at w_; cases w_
                refine g_aload_n ok dX2_tickGoesBy_157 rfl ?_
                refine g_dup ok dX2_tickGoesBy_158 rfl ?_
                refine g_get ok ck_X2 5 q252 (Or.inl rfl) (by decide) dX2_tickGoesBy_159 (Rd.h (ra6)) rfl ?_
                refine g_iconst ok (v := 1) dX2_tickGoesBy_162 rfl ?_
                refine g_iadd ok dX2_tickGoesBy_163 ?_
                refine g_put ok ck_X2 5 q252 (Or.inl rfl) (by decide) rfl dX2_tickGoesBy_164 (ra6) (dl rfl) rfl rfl (fs1 := [.ref rt, .ref cl, .ref nl, .ref vl, .int ((rGoes n S) 3), .int (((rGoes n S) 4) + 1), .int ((rGoes n S) 5), .int ((rGoes n S) 0), .int ((rGoes n S) 6), .int ((rGoes n S) 7)]) rfl (?_)
                have m8 := RulerM.set4 (v := rGoes n S 4 + 1) y10 z10
                refine g_iinc ok dX2_tickGoesBy_167 rfl (v := nI n - 1) (i32_m1 _) (ls1 := [some (.ref a), some (.int v), some (.int (nI n - 1)), some (.ref b)]) rfl ?_
                refine g_goto ok dX2_tickGoesBy_170 (tgt := 124) (by decide) ?_
                refine g_drop 3 (ls1 := [some (.ref a), some (.int v), some (.int (nI n - 1)), none]) rfl ?_
                have d0 : S (72 + 5 * n + 4) = 0 := of_decide_eq_true c142'
                exact ih3 _ _ _ (by rw [← lp3h0, l3, if_pos d0]) (by rw [l3N, rGoes_N (by omega)]; omega) m8 (by omega)
          exact lp3 (rN R) S _ _ (by show _ = l3 (rN R) (tT2 R).2; rw [← e2s]) (by omega) ⟨rt, cl, nl, nd, nc, nm, nf, vl, vd, vc, vm, vf, y6, z6⟩ (by omega)
        | succ n ih2 => 
          intro c v S Hlp2 klp2 lp2h0 lp2h1 lp2h2 mlp2 blp2
          obtain ⟨rt, cl, nl, nd, nc, nm, nf, vl, vd, vc, vm, vf, y6, z6⟩ := id mlp2
          have mq7 : RQ X.G Hlp2 (fun q => h0 q = none) a S rt cl [.ref nl, .ref vl, .int (S 3), .int (S 4), .int (S 5), .int (S 0), .int (S 6), .int (S 7)] := y6.1
          obtain ⟨ra4, rT4, cf4, rc4, rf4⟩ := id mq7
          have nca4 : cl ≠ a := fun z_ => by have w_ := rc4; rw [z_, ra4] at w_; cases w_
          have oks := y6.2.2.2.2.2.1.2.2.2.2.1 c (by omega)
          obtain ⟨s1, s2, s3, s4⟩ := sp_T oks
          have dus : du (n + 1) c S = (if S (72 + 5 * c + 4) = 0 then 1 else 0) + du n (c + 1) S := rfl
          refine g_iload_n ok dX2_tickGoesBy_54 rfl ?_
          refine g_aload_n ok dX2_tickGoesBy_55 rfl ?_
          refine g_get ok ck_X2 2 q246 (Or.inl rfl) (by decide) dX2_tickGoesBy_56 (Rd.h (ra4)) rfl ?_
          refine g_callV ok q1212 q1119 q1120 q70 q1121 (Recv.ob ok gc_J2 (Rd.h y6.2.1.1)) dX2_tickGoesBy_59 (al_size X.l X.G _ nl nd nc (rN S) nm nf y6.2.1) (nm_ (by decide : nmb _ 0 = true)) (dl rfl) (dk rfl) rfl rfl (dk rfl) (by omega) (kV ?_) xV
          refine g_icmp_ge ok (tgt := 114) dX2_tickGoesBy_62 (by decide) (fun c_ => absurd c_ (nI_ge (a := c) (b := (rN S)) (by omega) (by omega))) (fun _ => ?_)
          obtain ⟨b, kb, nb⟩ := y6.2.2.1 c (by omega)
          refine g_iload_n ok dX2_tickGoesBy_65 rfl ?_
          refine g_aload_n ok dX2_tickGoesBy_66 rfl ?_
          refine g_get ok ck_X2 2 q246 (Or.inl rfl) (by decide) dX2_tickGoesBy_67 (Rd.h (ra4)) rfl ?_
          refine g_iload_n ok dX2_tickGoesBy_70 rfl ?_
          refine g_callV ok q1284 q514 q2739 q70 q516 (Recv.ob ok gc_J2 (Rd.h y6.2.1.1)) dX2_tickGoesBy_71 (al_get X.l X.G _ nl nd nc (rN S) nm nf y6.2.1 c b (by omega) kb) (nm_ (by decide : nmb _ 1 = true)) (dl rfl) (dk rfl) rfl rfl (dk rfl) (by omega) (kV ?_) xV
          refine g_castE ok q811 dX2_tickGoesBy_74 (Recv.ob ok gc_X10 (Rd.h (nb))) ?_
          refine g_callV ok q1285 q1286 q1287 q95 q1288 (Recv.ob ok gc_X10 (Rd.h (nb))) dX2_tickGoesBy_77 (x_isDue X.l X.G _ b (.ref (X.G.ga (kd (S (72 + 5 * c + 0))))) (S (72 + 5 * c + 1)) (S (72 + 5 * c + 2)) (S (72 + 5 * c + 3)) (S (72 + 5 * c + 4)) (Rd.h (nb))) (nm_ (by decide : nmb _ 0 = true)) (dl rfl) (dk rfl) rfl rfl (dk rfl) (by omega) (kV ?_) xV
          refine g_if_eq ok (tgt := 105) dX2_tickGoesBy_80 (by decide) (fun c80 => ?_) (fun c80 => ?_)
          · have c80' := bI_e c80
            refine g_iconst ok (v := 0) dX2_tickGoesBy_105 rfl ?_
            refine g_iadd ok dX2_tickGoesBy_106 ?_
            refine g_istore_n ok dX2_tickGoesBy_107 (ls1 := [some (.ref a), some (.int (v + 0)), some (.int (nI c)), none]) (dl rfl) rfl ?_
            refine g_iincN ok dX2_tickGoesBy_108 (c := c) rfl rfl (ls1 := [some (.ref a), some (.int (v + 0)), some (.int (nI (c + 1))), none]) rfl ?_
            refine g_goto ok dX2_tickGoesBy_111 (tgt := 54) (by decide) ?_
            have d0 : ¬ S (72 + 5 * c + 4) = 0 := of_decide_eq_false c80'
            rw [if_neg d0] at dus
            exact ih2 (c + 1) (v + 0) S _ _ (by omega) lp2h1 (by rw [← lp2h2, l2, if_neg d0, Int32.add_zero]) ⟨rt, cl, nl, nd, nc, nm, nf, vl, vd, vc, vm, vf, y6, z6⟩ (by omega)
          · have c80' := bI_n c80
            have d0 : S (72 + 5 * c + 4) = 0 := of_decide_eq_true c80'
            rw [if_pos d0] at dus
            refine g_aload_n ok dX2_tickGoesBy_83 rfl ?_
            refine g_aload_n ok dX2_tickGoesBy_84 rfl ?_
            refine g_get ok ck_X2 2 q246 (Or.inl rfl) (by decide) dX2_tickGoesBy_85 (Rd.h (ra4)) rfl ?_
            refine g_iload_n ok dX2_tickGoesBy_88 rfl ?_
            refine g_callV ok q1284 q514 q2739 q70 q516 (Recv.ob ok gc_J2 (Rd.h y6.2.1.1)) dX2_tickGoesBy_89 (al_get X.l X.G _ nl nd nc (rN S) nm nf y6.2.1 c b (by omega) kb) (nm_ (by decide : nmb _ 1 = true)) (dl rfl) (dk rfl) rfl rfl (dk rfl) (by omega) (kV ?_) xV
            refine g_castE ok q811 dX2_tickGoesBy_92 (Recv.ob ok gc_X10 (Rd.h (nb))) ?_
            have nb9 : Hlp2 b = some (ob 6 [.ref (X.G.ga (kd (S (72 + 5 * c + 0)))), .int (nI (nF S c)), .int (nI (nT S c)), .int (S (72 + 5 * c + 3)), .int (S (72 + 5 * c + 4))]) := by have w_ := nb; unfold NoteAt at w_; rw [w_, s1, s2]
            refine g_callV ok q1289 q1291 qs11 q62 q1292 (Recv.ob ok gc_X2 (Rd.h (ra4))) dX2_tickGoesBy_95 (u_isDone X.l X.G h0 _ a S ⟨rt, cl, nl, nd, nc, nm, nf, vl, vd, vc, vm, vf, y6, z6⟩ (nF S c) (nT S c) s3 s4 b (S (72 + 5 * c + 0)) (S (72 + 5 * c + 3)) (S (72 + 5 * c + 4)) nb9 oks.1 oks.2.2.1) (nm_ (by decide : nmb _ 1 = true)) (dl rfl) (dk rfl) rfl rfl (dk rfl) (by omega) (kR fun u9 h9 ⟨e9, m9⟩ => ?_) xR
            subst e9
            refine g_if_eq ok (tgt := 105) dX2_tickGoesBy_98 (by decide) (fun c98 => ?_) (fun c98 => ?_)
            · have c98' := bI_e c98
              refine g_iconst ok (v := 0) dX2_tickGoesBy_105 rfl ?_
              refine g_iadd ok dX2_tickGoesBy_106 ?_
              refine g_istore_n ok dX2_tickGoesBy_107 (ls1 := [some (.ref a), some (.int (v + 0)), some (.int (nI c)), none]) (dl rfl) rfl ?_
              refine g_iincN ok dX2_tickGoesBy_108 (c := c) rfl rfl (ls1 := [some (.ref a), some (.int (v + 0)), some (.int (nI (c + 1))), none]) rfl ?_
              refine g_goto ok dX2_tickGoesBy_111 (tgt := 54) (by decide) ?_
              have l0 : ¬ nL S c = -1 := of_decide_eq_false c98'
              rw [if_neg l0] at m9
              exact ih2 (c + 1) (v + 0) S _ _ (by omega) lp2h1 (by rw [← lp2h2, l2, if_pos d0, if_neg l0, Int32.add_zero]) m9 (by omega)
            · have c98' := bI_n c98
              refine g_iconst ok (v := 1) dX2_tickGoesBy_101 rfl ?_
              refine g_goto ok dX2_tickGoesBy_102 (tgt := 106) (by decide) ?_
              refine g_iadd ok dX2_tickGoesBy_106 ?_
              refine g_istore_n ok dX2_tickGoesBy_107 (ls1 := [some (.ref a), some (.int (v + 1)), some (.int (nI c)), none]) (dl rfl) rfl ?_
              refine g_iincN ok dX2_tickGoesBy_108 (c := c) rfl rfl (ls1 := [some (.ref a), some (.int (v + 1)), some (.int (nI (c + 1))), none]) rfl ?_
              refine g_goto ok dX2_tickGoesBy_111 (tgt := 54) (by decide) ?_
              have l0 : nL S c = -1 := of_decide_eq_true c98'
              rw [if_pos l0] at m9
              refine ih2 (c + 1) (v + 1) _ _ _ (by omega) (by rw [rAct_N]; exact lp2h1) (by rw [← lp2h2, l2, if_pos d0, if_pos l0]) m9 ?_
              rw [du_congr (R := S) n (c + 1) (fun q a b => rAct_q s4 (by omega))]; omega
      exact lp2 (rN R) 0 0 (tT1 R) _ _ (by omega) e2 rfl ⟨rt, cl, nl, nd, nc, nm, nf, vl, vd, vc, vm, vf, y9, z9⟩ (Nat.le_refl _)
    | succ n ih => 
      intro c lr S H e0 e1 y9 z9 it e2 tk
      have mq5 : RQ X.G H (fun q => h0 q = none) a S rt cl [.ref nl, .ref vl, .int (S 3), .int (S 4), .int (S 5), .int (S 0), .int (S 6), .int (S 7)] := y9.1
      obtain ⟨ra3, rT3, cf3, rc3, rf3⟩ := id mq5
      have nca3 : cl ≠ a := fun z_ => by have w_ := rc3; rw [z_, ra3] at w_; cases w_
      have ya := y9.2.1
      rw [e2] at ya
      refine g_aload_n ok dX2_tickGoesBy_20 rfl ?_
      refine g_callF ok (x := ({ cls := "java/util/Iterator", name := "hasNext", desc := "()Z" } : Jvm.MethodName)) q404 (by simp [ifl]) q408 q410 q411 q409 q407 q83 q412 gc_J12 (Recv.ob ok gc_J12 (Rd.h it)) dX2_tickGoesBy_21 (it_has X.l X.G _ nl nd nc (rN R) nm nf ya t c lr it (by omega)) (nm_ (by decide : nmb _ 0 = true)) (dl rfl) (dk rfl) rfl rfl (dk rfl) (by omega) (kV ?_) xV
      refine g_if_eq ok (tgt := 52) dX2_tickGoesBy_26 (by decide) (fun c_ => absurd c_ (by rw [decide_eq_true (by omega)]; decide)) (fun _ => ?_)
      obtain ⟨b, kb, nb⟩ := y9.2.2.1 c (by omega)
      refine g_aload_n ok dX2_tickGoesBy_29 rfl ?_
      refine g_callF ok (x := ({ cls := "java/util/Iterator", name := "next", desc := "()Ljava/lang/Object;" } : Jvm.MethodName)) q420 (by simp [ifl]) q423 q425 q426 q424 q407 q83 q427 gc_J12 (Recv.ob ok gc_J12 (Rd.h it)) dX2_tickGoesBy_30 (it_next X.l X.G _ nl nd nc (rN R) nm nf ya t c lr it (by omega) b kb) (nm_ (by decide : nmb _ 0 = true)) (dl rfl) (dk rfl) rfl rfl (dk rfl) (by omega) (kV ?_) xV
      obtain ⟨y8, z8⟩ := RF.put (e := ob 13 [.int (nI (c + 1)), .int (nI c), .int nm, .ref nl]) y9 z9 it (by decide) t0
      have mq6 : RQ X.G (up H t (ob 13 [.int (nI (c + 1)), .int (nI c), .int nm, .ref nl])) (fun q => h0 q = none) a S rt cl [.ref nl, .ref vl, .int (S 3), .int (S 4), .int (S 5), .int (S 0), .int (S 6), .int (S 7)] := y8.1
      obtain ⟨ra4, rT4, cf4, rc4, rf4⟩ := id mq6
      have nca4 : cl ≠ a := fun z_ => by have w_ := rc4; rw [z_, ra4] at w_; cases w_
      have nbt : b ≠ t := fun z_ => by unfold NoteAt at nb; rw [z_, it] at nb; cases nb
      have nb8 := (up_ne (e := ob 13 [.int (nI (c + 1)), .int (nI c), .int nm, .ref nl]) nbt).trans nb
      refine g_castE ok q811 dX2_tickGoesBy_35 (Recv.ob ok gc_X10 (Rd.h (nb8))) ?_
      refine g_astore_n ok dX2_tickGoesBy_38 (ls1 := [some (.ref a), some (.int 0), some (.ref t), some (.ref b)]) (dl rfl) rfl ?_
      refine g_aload_n ok dX2_tickGoesBy_39 rfl ?_
      refine g_dup ok dX2_tickGoesBy_40 rfl ?_
      refine g_getN ok ck_X10 4 q835 rfl (by decide) dX2_tickGoesBy_41 (Rd.h (nb8)) rfl ?_
      refine g_iconst ok (v := 1) dX2_tickGoesBy_44 rfl ?_
      refine g_isub ok dX2_tickGoesBy_45 ?_
      refine g_putN ok ck_X10 4 q835 rfl (by decide) rfl dX2_tickGoesBy_46 (nb8) (dl rfl) rfl rfl (fs1 := [.ref (X.G.ga (kd (S (72 + 5 * c + 0)))), .int (S (72 + 5 * c + 1)), .int (S (72 + 5 * c + 2)), .int (S (72 + 5 * c + 3)), .int ((S (72 + 5 * c + 4)) - 1)]) rfl (?_)
      refine g_goto ok dX2_tickGoesBy_49 (tgt := 20) (by decide) ?_
      have hv := tk_pred (tk c (Nat.le_refl _) (by omega))
      obtain ⟨y7, z7⟩ := Rul.note y8 z8 (p := c) (by omega) kb hv
      refine g_drop 3 (ls1 := [some (.ref a), some (.int 0), some (.ref t), none]) rfl ?_
      refine ih (c + 1) (nI c) (upd S (72 + 5 * c + 4) (S (72 + 5 * c + 4) - 1)) _ (by omega) e1 y7 z7 ?_ ?_ ?_
      · exact (up_ne (Ne.symm nbt)).trans up_self
      · show nn _ = _; rw [upd_ne (by omega)]; exact e2
      · intro p p1 p2; rw [upd_ne (by omega)]; exact tk p (by omega) p2
  refine lp (rN R) 0 (-1) _ _ (by omega) rfl yi zi up_self eN (fun p _ hp => ?_)
  rw [upd_ne (by omega)]; exact tko p hp
