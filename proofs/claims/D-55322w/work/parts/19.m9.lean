/-! THE MODEL: what its methods compute, 9 -/
set_option maxRecDepth 100000
abbrev cX8_character : ByteArray := prog_19_method_68_code
def yX8_character : MethodName := ⟨RX8, "character", "(I)C"⟩
def dkwX8_character_1 : List UInt8 := [180, 0, 45, 154, 0, 12, 42, 180, 0, 25, 27, 52, 167, 0, 5, 16, 97, 172]
abbrev dktX8_character_1 : List UInt8 := dkwX8_character_1 ++ []
def dkwX8_character_0 : List UInt8 := [42, 27, 3, 42, 180, 0, 195, 4, 100, 184, 0, 67, 153, 0, 7, 3, 167, 0, 4, 4, 181, 0, 45, 42]
abbrev dktX8_character_0 : List UInt8 := dkwX8_character_0 ++ dktX8_character_1
theorem dksX8_character_0 : cX8_character.data.toList.drop 0 = dktX8_character_0 := by decide +kernel
theorem dksX8_character_1 : cX8_character.data.toList.drop 24 = dktX8_character_1 := dk_seg dksX8_character_0 24 rfl rfl
theorem dX8_character_0 : decode cX8_character 0 = .ok (.aload_n 0, 1) := dk_42 (dk_at dksX8_character_0 0 rfl rfl)
theorem dX8_character_1 : decode cX8_character 1 = .ok (.iload_n 1, 1) := dk_27 (dk_at dksX8_character_0 1 rfl rfl)
theorem dX8_character_2 : decode cX8_character 2 = .ok (.iconst 0, 1) := dk_3 (dk_at dksX8_character_0 2 rfl rfl)
theorem dX8_character_3 : decode cX8_character 3 = .ok (.aload_n 0, 1) := dk_42 (dk_at dksX8_character_0 3 rfl rfl)
theorem dX8_character_4 : decode cX8_character 4 = .ok (.getfield 195, 3) := dk_180 0 195 (dk_at dksX8_character_0 4 rfl rfl)
theorem dX8_character_7 : decode cX8_character 7 = .ok (.iconst 1, 1) := dk_4 (dk_at dksX8_character_0 7 rfl rfl)
theorem dX8_character_8 : decode cX8_character 8 = .ok (.isub, 1) := dk_100 (dk_at dksX8_character_0 8 rfl rfl)
theorem dX8_character_9 : decode cX8_character 9 = .ok (.invokestatic 67, 3) := dk_184 0 67 (dk_at dksX8_character_0 9 rfl rfl)
theorem dX8_character_12 : decode cX8_character 12 = .ok (.ifCond .eq 7, 3) := dk_153 0 7 (dk_at dksX8_character_0 12 rfl rfl)
theorem dX8_character_15 : decode cX8_character 15 = .ok (.iconst 0, 1) := dk_3 (dk_at dksX8_character_0 15 rfl rfl)
theorem dX8_character_16 : decode cX8_character 16 = .ok (.goto 4, 3) := dk_167 0 4 (dk_at dksX8_character_0 16 rfl rfl)
theorem dX8_character_19 : decode cX8_character 19 = .ok (.iconst 1, 1) := dk_4 (dk_at dksX8_character_0 19 rfl rfl)
theorem dX8_character_20 : decode cX8_character 20 = .ok (.putfield 45, 3) := dk_181 0 45 (dk_at dksX8_character_0 20 rfl rfl)
theorem dX8_character_23 : decode cX8_character 23 = .ok (.aload_n 0, 1) := dk_42 (dk_at dksX8_character_0 23 rfl rfl)
theorem dX8_character_24 : decode cX8_character 24 = .ok (.getfield 45, 3) := dk_180 0 45 (dk_at dksX8_character_1 0 rfl rfl)
theorem dX8_character_27 : decode cX8_character 27 = .ok (.ifCond .ne 12, 3) := dk_154 0 12 (dk_at dksX8_character_1 3 rfl rfl)
theorem dX8_character_30 : decode cX8_character 30 = .ok (.aload_n 0, 1) := dk_42 (dk_at dksX8_character_1 6 rfl rfl)
theorem dX8_character_31 : decode cX8_character 31 = .ok (.getfield 25, 3) := dk_180 0 25 (dk_at dksX8_character_1 7 rfl rfl)
theorem dX8_character_34 : decode cX8_character 34 = .ok (.iload_n 1, 1) := dk_27 (dk_at dksX8_character_1 10 rfl rfl)
theorem dX8_character_35 : decode cX8_character 35 = .ok (.caload, 1) := dk_52 (dk_at dksX8_character_1 11 rfl rfl)
theorem dX8_character_36 : decode cX8_character 36 = .ok (.goto 5, 3) := dk_167 0 5 (dk_at dksX8_character_1 12 rfl rfl)
theorem dX8_character_39 : decode cX8_character 39 = .ok (.bipush 97, 2) := dk_16 97 (dk_at dksX8_character_1 15 rfl rfl)
theorem dX8_character_41 : decode cX8_character 41 = .ok (.ireturn, 1) := dk_172 (dk_at dksX8_character_1 17 rfl rfl)
abbrev cX8_account : ByteArray := prog_19_method_71_code
def yX8_account : MethodName := ⟨RX8, "account", "(I)I"⟩
def dkwX8_account_6 : List UInt8 := [180, 0, 9, 16, 7, 46, 172, 42, 180, 0, 206, 172, 42, 180, 0, 48, 172, 42, 4, 182, 0, 58, 172]
abbrev dktX8_account_6 : List UInt8 := dkwX8_account_6 ++ []
def dkwX8_account_5 : List UInt8 := [42, 180, 0, 9, 5, 46, 172, 42, 180, 0, 9, 3, 46, 172, 42, 180, 0, 9, 16, 6, 46, 172, 42]
abbrev dktX8_account_5 : List UInt8 := dkwX8_account_5 ++ dktX8_account_6
def dkwX8_account_4 : List UInt8 := [4, 46, 172, 42, 180, 0, 9, 6, 46, 172, 42, 180, 0, 9, 7, 46, 172, 42, 180, 0, 9, 8, 46, 172]
abbrev dktX8_account_4 : List UInt8 := dkwX8_account_4 ++ dktX8_account_5
def dkwX8_account_3 : List UInt8 := [132, 2, 1, 132, 3, 1, 167, 255, 236, 28, 172, 16, 32, 42, 3, 182, 0, 176, 100, 172, 42, 180, 0, 9]
abbrev dktX8_account_3 : List UInt8 := dkwX8_account_3 ++ dktX8_account_4
def dkwX8_account_2 : List UInt8 := [42, 3, 16, 31, 182, 0, 101, 172, 3, 62, 29, 16, 32, 162, 0, 20, 42, 29, 182, 0, 75, 154, 0, 6]
abbrev dktX8_account_2 : List UInt8 := dkwX8_account_2 ++ dktX8_account_3
def dkwX8_account_1 : List UInt8 := [170, 0, 0, 0, 0, 0, 0, 180, 0, 0, 0, 0, 0, 0, 0, 12, 0, 0, 0, 68, 0, 0, 0, 76, 0, 0, 0, 103, 0, 0, 0, 112, 0, 0, 0, 119, 0, 0, 0, 126, 0, 0, 0, 133, 0, 0, 0, 140, 0, 0, 0, 147, 0, 0, 0, 154, 0, 0, 0, 162, 0, 0, 0, 170, 0, 0, 0, 175]
abbrev dktX8_account_1 : List UInt8 := dkwX8_account_1 ++ dktX8_account_2
def dkwX8_account_0 : List UInt8 := [42, 3, 181, 0, 45, 3, 61, 27]
abbrev dktX8_account_0 : List UInt8 := dkwX8_account_0 ++ dktX8_account_1
theorem dksX8_account_0 : cX8_account.data.toList.drop 0 = dktX8_account_0 := by decide +kernel
theorem dksX8_account_1 : cX8_account.data.toList.drop 8 = dktX8_account_1 := dk_seg dksX8_account_0 8 rfl rfl
theorem dksX8_account_2 : cX8_account.data.toList.drop 76 = dktX8_account_2 := dk_seg dksX8_account_1 68 rfl rfl
theorem dksX8_account_3 : cX8_account.data.toList.drop 100 = dktX8_account_3 := dk_seg dksX8_account_2 24 rfl rfl
theorem dksX8_account_4 : cX8_account.data.toList.drop 124 = dktX8_account_4 := dk_seg dksX8_account_3 24 rfl rfl
theorem dksX8_account_5 : cX8_account.data.toList.drop 148 = dktX8_account_5 := dk_seg dksX8_account_4 24 rfl rfl
theorem dksX8_account_6 : cX8_account.data.toList.drop 171 = dktX8_account_6 := dk_seg dksX8_account_5 23 rfl rfl
theorem dX8_account_0 : decode cX8_account 0 = .ok (.aload_n 0, 1) := dk_42 (dk_at dksX8_account_0 0 rfl rfl)
theorem dX8_account_1 : decode cX8_account 1 = .ok (.iconst 0, 1) := dk_3 (dk_at dksX8_account_0 1 rfl rfl)
theorem dX8_account_2 : decode cX8_account 2 = .ok (.putfield 45, 3) := dk_181 0 45 (dk_at dksX8_account_0 2 rfl rfl)
theorem dX8_account_5 : decode cX8_account 5 = .ok (.iconst 0, 1) := dk_3 (dk_at dksX8_account_0 5 rfl rfl)
theorem dX8_account_6 : decode cX8_account 6 = .ok (.istore_n 2, 1) := dk_61 (dk_at dksX8_account_0 6 rfl rfl)
theorem dX8_account_7 : decode cX8_account 7 = .ok (.iload_n 1, 1) := dk_27 (dk_at dksX8_account_0 7 rfl rfl)
theorem dX8_account_8 : decode cX8_account 8 = .ok (.tableswitch 180 0 12 #[68, 76, 103, 112, 119, 126, 133, 140, 147, 154, 162, 170, 175], 68) := by decide +kernel
theorem dX8_account_76 : decode cX8_account 76 = .ok (.aload_n 0, 1) := dk_42 (dk_at dksX8_account_2 0 rfl rfl)
theorem dX8_account_77 : decode cX8_account 77 = .ok (.iconst 0, 1) := dk_3 (dk_at dksX8_account_2 1 rfl rfl)
theorem dX8_account_78 : decode cX8_account 78 = .ok (.bipush 31, 2) := dk_16 31 (dk_at dksX8_account_2 2 rfl rfl)
theorem dX8_account_80 : decode cX8_account 80 = .ok (.invokevirtual 101, 3) := dk_182 0 101 (dk_at dksX8_account_2 4 rfl rfl)
theorem dX8_account_83 : decode cX8_account 83 = .ok (.ireturn, 1) := dk_172 (dk_at dksX8_account_2 7 rfl rfl)
theorem dX8_account_84 : decode cX8_account 84 = .ok (.iconst 0, 1) := dk_3 (dk_at dksX8_account_2 8 rfl rfl)
theorem dX8_account_85 : decode cX8_account 85 = .ok (.istore_n 3, 1) := dk_62 (dk_at dksX8_account_2 9 rfl rfl)
theorem dX8_account_86 : decode cX8_account 86 = .ok (.iload_n 3, 1) := dk_29 (dk_at dksX8_account_2 10 rfl rfl)
theorem dX8_account_87 : decode cX8_account 87 = .ok (.bipush 32, 2) := dk_16 32 (dk_at dksX8_account_2 11 rfl rfl)
theorem dX8_account_89 : decode cX8_account 89 = .ok (.if_icmp .ge 20, 3) := dk_162 0 20 (dk_at dksX8_account_2 13 rfl rfl)
theorem dX8_account_92 : decode cX8_account 92 = .ok (.aload_n 0, 1) := dk_42 (dk_at dksX8_account_2 16 rfl rfl)
theorem dX8_account_93 : decode cX8_account 93 = .ok (.iload_n 3, 1) := dk_29 (dk_at dksX8_account_2 17 rfl rfl)
theorem dX8_account_94 : decode cX8_account 94 = .ok (.invokevirtual 75, 3) := dk_182 0 75 (dk_at dksX8_account_2 18 rfl rfl)
theorem dX8_account_97 : decode cX8_account 97 = .ok (.ifCond .ne 6, 3) := dk_154 0 6 (dk_at dksX8_account_2 21 rfl rfl)
theorem dX8_account_100 : decode cX8_account 100 = .ok (.iinc 2 1, 3) := dk_132 2 1 (dk_at dksX8_account_3 0 rfl rfl)
theorem dX8_account_103 : decode cX8_account 103 = .ok (.iinc 3 1, 3) := dk_132 3 1 (dk_at dksX8_account_3 3 rfl rfl)
theorem dX8_account_106 : decode cX8_account 106 = .ok (.goto (-20), 3) := dk_167 255 236 (dk_at dksX8_account_3 6 rfl rfl)
theorem dX8_account_109 : decode cX8_account 109 = .ok (.iload_n 2, 1) := dk_28 (dk_at dksX8_account_3 9 rfl rfl)
theorem dX8_account_110 : decode cX8_account 110 = .ok (.ireturn, 1) := dk_172 (dk_at dksX8_account_3 10 rfl rfl)
theorem dX8_account_111 : decode cX8_account 111 = .ok (.bipush 32, 2) := dk_16 32 (dk_at dksX8_account_3 11 rfl rfl)
theorem dX8_account_113 : decode cX8_account 113 = .ok (.aload_n 0, 1) := dk_42 (dk_at dksX8_account_3 13 rfl rfl)
theorem dX8_account_114 : decode cX8_account 114 = .ok (.iconst 0, 1) := dk_3 (dk_at dksX8_account_3 14 rfl rfl)
theorem dX8_account_115 : decode cX8_account 115 = .ok (.invokevirtual 176, 3) := dk_182 0 176 (dk_at dksX8_account_3 15 rfl rfl)
theorem dX8_account_118 : decode cX8_account 118 = .ok (.isub, 1) := dk_100 (dk_at dksX8_account_3 18 rfl rfl)
theorem dX8_account_119 : decode cX8_account 119 = .ok (.ireturn, 1) := dk_172 (dk_at dksX8_account_3 19 rfl rfl)
theorem dX8_account_120 : decode cX8_account 120 = .ok (.aload_n 0, 1) := dk_42 (dk_at dksX8_account_3 20 rfl rfl)
theorem dX8_account_121 : decode cX8_account 121 = .ok (.getfield 9, 3) := dk_180 0 9 (dk_at dksX8_account_3 21 rfl rfl)
theorem dX8_account_124 : decode cX8_account 124 = .ok (.iconst 1, 1) := dk_4 (dk_at dksX8_account_4 0 rfl rfl)
theorem dX8_account_125 : decode cX8_account 125 = .ok (.iaload, 1) := dk_46 (dk_at dksX8_account_4 1 rfl rfl)
theorem dX8_account_126 : decode cX8_account 126 = .ok (.ireturn, 1) := dk_172 (dk_at dksX8_account_4 2 rfl rfl)
theorem dX8_account_127 : decode cX8_account 127 = .ok (.aload_n 0, 1) := dk_42 (dk_at dksX8_account_4 3 rfl rfl)
theorem dX8_account_128 : decode cX8_account 128 = .ok (.getfield 9, 3) := dk_180 0 9 (dk_at dksX8_account_4 4 rfl rfl)
theorem dX8_account_131 : decode cX8_account 131 = .ok (.iconst 3, 1) := dk_6 (dk_at dksX8_account_4 7 rfl rfl)
theorem dX8_account_132 : decode cX8_account 132 = .ok (.iaload, 1) := dk_46 (dk_at dksX8_account_4 8 rfl rfl)
theorem dX8_account_133 : decode cX8_account 133 = .ok (.ireturn, 1) := dk_172 (dk_at dksX8_account_4 9 rfl rfl)
theorem dX8_account_134 : decode cX8_account 134 = .ok (.aload_n 0, 1) := dk_42 (dk_at dksX8_account_4 10 rfl rfl)
theorem dX8_account_135 : decode cX8_account 135 = .ok (.getfield 9, 3) := dk_180 0 9 (dk_at dksX8_account_4 11 rfl rfl)
theorem dX8_account_138 : decode cX8_account 138 = .ok (.iconst 4, 1) := dk_7 (dk_at dksX8_account_4 14 rfl rfl)
theorem dX8_account_139 : decode cX8_account 139 = .ok (.iaload, 1) := dk_46 (dk_at dksX8_account_4 15 rfl rfl)
theorem dX8_account_140 : decode cX8_account 140 = .ok (.ireturn, 1) := dk_172 (dk_at dksX8_account_4 16 rfl rfl)
theorem dX8_account_141 : decode cX8_account 141 = .ok (.aload_n 0, 1) := dk_42 (dk_at dksX8_account_4 17 rfl rfl)
theorem dX8_account_142 : decode cX8_account 142 = .ok (.getfield 9, 3) := dk_180 0 9 (dk_at dksX8_account_4 18 rfl rfl)
theorem dX8_account_145 : decode cX8_account 145 = .ok (.iconst 5, 1) := dk_8 (dk_at dksX8_account_4 21 rfl rfl)
theorem dX8_account_146 : decode cX8_account 146 = .ok (.iaload, 1) := dk_46 (dk_at dksX8_account_4 22 rfl rfl)
theorem dX8_account_147 : decode cX8_account 147 = .ok (.ireturn, 1) := dk_172 (dk_at dksX8_account_4 23 rfl rfl)
theorem dX8_account_148 : decode cX8_account 148 = .ok (.aload_n 0, 1) := dk_42 (dk_at dksX8_account_5 0 rfl rfl)
theorem dX8_account_149 : decode cX8_account 149 = .ok (.getfield 9, 3) := dk_180 0 9 (dk_at dksX8_account_5 1 rfl rfl)
theorem dX8_account_152 : decode cX8_account 152 = .ok (.iconst 2, 1) := dk_5 (dk_at dksX8_account_5 4 rfl rfl)
theorem dX8_account_153 : decode cX8_account 153 = .ok (.iaload, 1) := dk_46 (dk_at dksX8_account_5 5 rfl rfl)
theorem dX8_account_154 : decode cX8_account 154 = .ok (.ireturn, 1) := dk_172 (dk_at dksX8_account_5 6 rfl rfl)
theorem dX8_account_155 : decode cX8_account 155 = .ok (.aload_n 0, 1) := dk_42 (dk_at dksX8_account_5 7 rfl rfl)
theorem dX8_account_156 : decode cX8_account 156 = .ok (.getfield 9, 3) := dk_180 0 9 (dk_at dksX8_account_5 8 rfl rfl)
theorem dX8_account_159 : decode cX8_account 159 = .ok (.iconst 0, 1) := dk_3 (dk_at dksX8_account_5 11 rfl rfl)
theorem dX8_account_160 : decode cX8_account 160 = .ok (.iaload, 1) := dk_46 (dk_at dksX8_account_5 12 rfl rfl)
theorem dX8_account_161 : decode cX8_account 161 = .ok (.ireturn, 1) := dk_172 (dk_at dksX8_account_5 13 rfl rfl)
theorem dX8_account_162 : decode cX8_account 162 = .ok (.aload_n 0, 1) := dk_42 (dk_at dksX8_account_5 14 rfl rfl)
theorem dX8_account_163 : decode cX8_account 163 = .ok (.getfield 9, 3) := dk_180 0 9 (dk_at dksX8_account_5 15 rfl rfl)
theorem dX8_account_166 : decode cX8_account 166 = .ok (.bipush 6, 2) := dk_16 6 (dk_at dksX8_account_5 18 rfl rfl)
theorem dX8_account_168 : decode cX8_account 168 = .ok (.iaload, 1) := dk_46 (dk_at dksX8_account_5 20 rfl rfl)
theorem dX8_account_169 : decode cX8_account 169 = .ok (.ireturn, 1) := dk_172 (dk_at dksX8_account_5 21 rfl rfl)
theorem dX8_account_170 : decode cX8_account 170 = .ok (.aload_n 0, 1) := dk_42 (dk_at dksX8_account_5 22 rfl rfl)
theorem dX8_account_171 : decode cX8_account 171 = .ok (.getfield 9, 3) := dk_180 0 9 (dk_at dksX8_account_6 0 rfl rfl)
theorem dX8_account_174 : decode cX8_account 174 = .ok (.bipush 7, 2) := dk_16 7 (dk_at dksX8_account_6 3 rfl rfl)
theorem dX8_account_176 : decode cX8_account 176 = .ok (.iaload, 1) := dk_46 (dk_at dksX8_account_6 5 rfl rfl)
theorem dX8_account_177 : decode cX8_account 177 = .ok (.ireturn, 1) := dk_172 (dk_at dksX8_account_6 6 rfl rfl)
theorem dX8_account_178 : decode cX8_account 178 = .ok (.aload_n 0, 1) := dk_42 (dk_at dksX8_account_6 7 rfl rfl)
theorem dX8_account_179 : decode cX8_account 179 = .ok (.getfield 206, 3) := dk_180 0 206 (dk_at dksX8_account_6 8 rfl rfl)
theorem dX8_account_182 : decode cX8_account 182 = .ok (.ireturn, 1) := dk_172 (dk_at dksX8_account_6 11 rfl rfl)
theorem dX8_account_183 : decode cX8_account 183 = .ok (.aload_n 0, 1) := dk_42 (dk_at dksX8_account_6 12 rfl rfl)
theorem dX8_account_184 : decode cX8_account 184 = .ok (.getfield 48, 3) := dk_180 0 48 (dk_at dksX8_account_6 13 rfl rfl)
theorem dX8_account_187 : decode cX8_account 187 = .ok (.ireturn, 1) := dk_172 (dk_at dksX8_account_6 16 rfl rfl)
theorem dX8_account_188 : decode cX8_account 188 = .ok (.aload_n 0, 1) := dk_42 (dk_at dksX8_account_6 17 rfl rfl)
theorem dX8_account_189 : decode cX8_account 189 = .ok (.iconst 1, 1) := dk_4 (dk_at dksX8_account_6 18 rfl rfl)
theorem dX8_account_190 : decode cX8_account 190 = .ok (.invokevirtual 58, 3) := dk_182 0 58 (dk_at dksX8_account_6 19 rfl rfl)
theorem dX8_account_193 : decode cX8_account 193 = .ok (.ireturn, 1) := dk_172 (dk_at dksX8_account_6 22 rfl rfl)
abbrev cX8_append : ByteArray := prog_19_method_72_code
def yX8_append : MethodName := ⟨RX8, "append", "(C)I"⟩
def dkwX8_append_2 : List UInt8 := [4, 96, 181, 0, 206, 27, 85, 42, 180, 0, 206, 172]
abbrev dktX8_append_2 : List UInt8 := dkwX8_append_2 ++ []
def dkwX8_append_1 : List UInt8 := [180, 0, 206, 16, 60, 160, 0, 9, 42, 5, 182, 0, 58, 172, 42, 180, 0, 29, 42, 89, 180, 0, 206, 90]
abbrev dktX8_append_1 : List UInt8 := dkwX8_append_1 ++ dktX8_append_2
def dkwX8_append_0 : List UInt8 := [42, 3, 181, 0, 45, 27, 16, 32, 16, 126, 184, 0, 67, 154, 0, 9, 42, 4, 182, 0, 58, 172, 42]
abbrev dktX8_append_0 : List UInt8 := dkwX8_append_0 ++ dktX8_append_1
theorem dksX8_append_0 : cX8_append.data.toList.drop 0 = dktX8_append_0 := by decide +kernel
theorem dksX8_append_1 : cX8_append.data.toList.drop 23 = dktX8_append_1 := dk_seg dksX8_append_0 23 rfl rfl
theorem dksX8_append_2 : cX8_append.data.toList.drop 47 = dktX8_append_2 := dk_seg dksX8_append_1 24 rfl rfl
theorem dX8_append_0 : decode cX8_append 0 = .ok (.aload_n 0, 1) := dk_42 (dk_at dksX8_append_0 0 rfl rfl)
theorem dX8_append_1 : decode cX8_append 1 = .ok (.iconst 0, 1) := dk_3 (dk_at dksX8_append_0 1 rfl rfl)
theorem dX8_append_2 : decode cX8_append 2 = .ok (.putfield 45, 3) := dk_181 0 45 (dk_at dksX8_append_0 2 rfl rfl)
theorem dX8_append_5 : decode cX8_append 5 = .ok (.iload_n 1, 1) := dk_27 (dk_at dksX8_append_0 5 rfl rfl)
theorem dX8_append_6 : decode cX8_append 6 = .ok (.bipush 32, 2) := dk_16 32 (dk_at dksX8_append_0 6 rfl rfl)
theorem dX8_append_8 : decode cX8_append 8 = .ok (.bipush 126, 2) := dk_16 126 (dk_at dksX8_append_0 8 rfl rfl)
theorem dX8_append_10 : decode cX8_append 10 = .ok (.invokestatic 67, 3) := dk_184 0 67 (dk_at dksX8_append_0 10 rfl rfl)
theorem dX8_append_13 : decode cX8_append 13 = .ok (.ifCond .ne 9, 3) := dk_154 0 9 (dk_at dksX8_append_0 13 rfl rfl)
theorem dX8_append_16 : decode cX8_append 16 = .ok (.aload_n 0, 1) := dk_42 (dk_at dksX8_append_0 16 rfl rfl)
theorem dX8_append_17 : decode cX8_append 17 = .ok (.iconst 1, 1) := dk_4 (dk_at dksX8_append_0 17 rfl rfl)
theorem dX8_append_18 : decode cX8_append 18 = .ok (.invokevirtual 58, 3) := dk_182 0 58 (dk_at dksX8_append_0 18 rfl rfl)
theorem dX8_append_21 : decode cX8_append 21 = .ok (.ireturn, 1) := dk_172 (dk_at dksX8_append_0 21 rfl rfl)
theorem dX8_append_22 : decode cX8_append 22 = .ok (.aload_n 0, 1) := dk_42 (dk_at dksX8_append_0 22 rfl rfl)
theorem dX8_append_23 : decode cX8_append 23 = .ok (.getfield 206, 3) := dk_180 0 206 (dk_at dksX8_append_1 0 rfl rfl)
theorem dX8_append_26 : decode cX8_append 26 = .ok (.bipush 60, 2) := dk_16 60 (dk_at dksX8_append_1 3 rfl rfl)
theorem dX8_append_28 : decode cX8_append 28 = .ok (.if_icmp .ne 9, 3) := dk_160 0 9 (dk_at dksX8_append_1 5 rfl rfl)
theorem dX8_append_31 : decode cX8_append 31 = .ok (.aload_n 0, 1) := dk_42 (dk_at dksX8_append_1 8 rfl rfl)
theorem dX8_append_32 : decode cX8_append 32 = .ok (.iconst 2, 1) := dk_5 (dk_at dksX8_append_1 9 rfl rfl)
theorem dX8_append_33 : decode cX8_append 33 = .ok (.invokevirtual 58, 3) := dk_182 0 58 (dk_at dksX8_append_1 10 rfl rfl)
theorem dX8_append_36 : decode cX8_append 36 = .ok (.ireturn, 1) := dk_172 (dk_at dksX8_append_1 13 rfl rfl)
theorem dX8_append_37 : decode cX8_append 37 = .ok (.aload_n 0, 1) := dk_42 (dk_at dksX8_append_1 14 rfl rfl)
theorem dX8_append_38 : decode cX8_append 38 = .ok (.getfield 29, 3) := dk_180 0 29 (dk_at dksX8_append_1 15 rfl rfl)
theorem dX8_append_41 : decode cX8_append 41 = .ok (.aload_n 0, 1) := dk_42 (dk_at dksX8_append_1 18 rfl rfl)
theorem dX8_append_42 : decode cX8_append 42 = .ok (.dup, 1) := dk_89 (dk_at dksX8_append_1 19 rfl rfl)
theorem dX8_append_43 : decode cX8_append 43 = .ok (.getfield 206, 3) := dk_180 0 206 (dk_at dksX8_append_1 20 rfl rfl)
theorem dX8_append_46 : decode cX8_append 46 = .ok (.dup_x1, 1) := dk_90 (dk_at dksX8_append_1 23 rfl rfl)
theorem dX8_append_47 : decode cX8_append 47 = .ok (.iconst 1, 1) := dk_4 (dk_at dksX8_append_2 0 rfl rfl)
theorem dX8_append_48 : decode cX8_append 48 = .ok (.iadd, 1) := dk_96 (dk_at dksX8_append_2 1 rfl rfl)
theorem dX8_append_49 : decode cX8_append 49 = .ok (.putfield 206, 3) := dk_181 0 206 (dk_at dksX8_append_2 2 rfl rfl)
theorem dX8_append_52 : decode cX8_append 52 = .ok (.iload_n 1, 1) := dk_27 (dk_at dksX8_append_2 5 rfl rfl)
theorem dX8_append_53 : decode cX8_append 53 = .ok (.castore, 1) := dk_85 (dk_at dksX8_append_2 6 rfl rfl)
theorem dX8_append_54 : decode cX8_append 54 = .ok (.aload_n 0, 1) := dk_42 (dk_at dksX8_append_2 7 rfl rfl)
theorem dX8_append_55 : decode cX8_append 55 = .ok (.getfield 206, 3) := dk_180 0 206 (dk_at dksX8_append_2 8 rfl rfl)
theorem dX8_append_58 : decode cX8_append 58 = .ok (.ireturn, 1) := dk_172 (dk_at dksX8_append_2 11 rfl rfl)
abbrev cX8_errorPosition : ByteArray := prog_19_method_81_code
def yX8_errorPosition : MethodName := ⟨RX8, "errorPosition", "()I"⟩
def dkwX8_errorPosition_1 : List UInt8 := [172]
abbrev dktX8_errorPosition_1 : List UInt8 := dkwX8_errorPosition_1 ++ []
def dkwX8_errorPosition_0 : List UInt8 := [42, 3, 181, 0, 45, 42, 180, 0, 41, 156, 0, 11, 42, 4, 182, 0, 58, 167, 0, 7, 42, 180, 0, 41]
abbrev dktX8_errorPosition_0 : List UInt8 := dkwX8_errorPosition_0 ++ dktX8_errorPosition_1
theorem dksX8_errorPosition_0 : cX8_errorPosition.data.toList.drop 0 = dktX8_errorPosition_0 := by decide +kernel
theorem dksX8_errorPosition_1 : cX8_errorPosition.data.toList.drop 24 = dktX8_errorPosition_1 := dk_seg dksX8_errorPosition_0 24 rfl rfl
theorem dX8_errorPosition_0 : decode cX8_errorPosition 0 = .ok (.aload_n 0, 1) := dk_42 (dk_at dksX8_errorPosition_0 0 rfl rfl)
theorem dX8_errorPosition_1 : decode cX8_errorPosition 1 = .ok (.iconst 0, 1) := dk_3 (dk_at dksX8_errorPosition_0 1 rfl rfl)
theorem dX8_errorPosition_2 : decode cX8_errorPosition 2 = .ok (.putfield 45, 3) := dk_181 0 45 (dk_at dksX8_errorPosition_0 2 rfl rfl)
theorem dX8_errorPosition_5 : decode cX8_errorPosition 5 = .ok (.aload_n 0, 1) := dk_42 (dk_at dksX8_errorPosition_0 5 rfl rfl)
theorem dX8_errorPosition_6 : decode cX8_errorPosition 6 = .ok (.getfield 41, 3) := dk_180 0 41 (dk_at dksX8_errorPosition_0 6 rfl rfl)
theorem dX8_errorPosition_9 : decode cX8_errorPosition 9 = .ok (.ifCond .ge 11, 3) := dk_156 0 11 (dk_at dksX8_errorPosition_0 9 rfl rfl)
theorem dX8_errorPosition_12 : decode cX8_errorPosition 12 = .ok (.aload_n 0, 1) := dk_42 (dk_at dksX8_errorPosition_0 12 rfl rfl)
theorem dX8_errorPosition_13 : decode cX8_errorPosition 13 = .ok (.iconst 1, 1) := dk_4 (dk_at dksX8_errorPosition_0 13 rfl rfl)
theorem dX8_errorPosition_14 : decode cX8_errorPosition 14 = .ok (.invokevirtual 58, 3) := dk_182 0 58 (dk_at dksX8_errorPosition_0 14 rfl rfl)
theorem dX8_errorPosition_17 : decode cX8_errorPosition 17 = .ok (.goto 7, 3) := dk_167 0 7 (dk_at dksX8_errorPosition_0 17 rfl rfl)
theorem dX8_errorPosition_20 : decode cX8_errorPosition 20 = .ok (.aload_n 0, 1) := dk_42 (dk_at dksX8_errorPosition_0 20 rfl rfl)
theorem dX8_errorPosition_21 : decode cX8_errorPosition 21 = .ok (.getfield 41, 3) := dk_180 0 41 (dk_at dksX8_errorPosition_0 21 rfl rfl)
theorem dX8_errorPosition_24 : decode cX8_errorPosition 24 = .ok (.ireturn, 1) := dk_172 (dk_at dksX8_errorPosition_1 0 rfl rfl)
abbrev cX8_reason : ByteArray := prog_19_method_82_code
def yX8_reason : MethodName := ⟨RX8, "reason", "(Z)I"⟩
def dkwX8_reason_1 : List UInt8 := [180, 0, 64, 167, 0, 7, 42, 180, 0, 61, 172]
abbrev dktX8_reason_1 : List UInt8 := dkwX8_reason_1 ++ []
def dkwX8_reason_0 : List UInt8 := [42, 3, 181, 0, 45, 42, 180, 0, 61, 154, 0, 9, 42, 4, 182, 0, 58, 172, 27, 153, 0, 10, 42]
abbrev dktX8_reason_0 : List UInt8 := dkwX8_reason_0 ++ dktX8_reason_1
theorem dksX8_reason_0 : cX8_reason.data.toList.drop 0 = dktX8_reason_0 := by decide +kernel
theorem dksX8_reason_1 : cX8_reason.data.toList.drop 23 = dktX8_reason_1 := dk_seg dksX8_reason_0 23 rfl rfl
theorem dX8_reason_0 : decode cX8_reason 0 = .ok (.aload_n 0, 1) := dk_42 (dk_at dksX8_reason_0 0 rfl rfl)
theorem dX8_reason_1 : decode cX8_reason 1 = .ok (.iconst 0, 1) := dk_3 (dk_at dksX8_reason_0 1 rfl rfl)
theorem dX8_reason_2 : decode cX8_reason 2 = .ok (.putfield 45, 3) := dk_181 0 45 (dk_at dksX8_reason_0 2 rfl rfl)
theorem dX8_reason_5 : decode cX8_reason 5 = .ok (.aload_n 0, 1) := dk_42 (dk_at dksX8_reason_0 5 rfl rfl)
theorem dX8_reason_6 : decode cX8_reason 6 = .ok (.getfield 61, 3) := dk_180 0 61 (dk_at dksX8_reason_0 6 rfl rfl)
theorem dX8_reason_9 : decode cX8_reason 9 = .ok (.ifCond .ne 9, 3) := dk_154 0 9 (dk_at dksX8_reason_0 9 rfl rfl)
theorem dX8_reason_12 : decode cX8_reason 12 = .ok (.aload_n 0, 1) := dk_42 (dk_at dksX8_reason_0 12 rfl rfl)
theorem dX8_reason_13 : decode cX8_reason 13 = .ok (.iconst 1, 1) := dk_4 (dk_at dksX8_reason_0 13 rfl rfl)
theorem dX8_reason_14 : decode cX8_reason 14 = .ok (.invokevirtual 58, 3) := dk_182 0 58 (dk_at dksX8_reason_0 14 rfl rfl)
theorem dX8_reason_17 : decode cX8_reason 17 = .ok (.ireturn, 1) := dk_172 (dk_at dksX8_reason_0 17 rfl rfl)
theorem dX8_reason_18 : decode cX8_reason 18 = .ok (.iload_n 1, 1) := dk_27 (dk_at dksX8_reason_0 18 rfl rfl)
theorem dX8_reason_19 : decode cX8_reason 19 = .ok (.ifCond .eq 10, 3) := dk_153 0 10 (dk_at dksX8_reason_0 19 rfl rfl)
theorem dX8_reason_22 : decode cX8_reason 22 = .ok (.aload_n 0, 1) := dk_42 (dk_at dksX8_reason_0 22 rfl rfl)
theorem dX8_reason_23 : decode cX8_reason 23 = .ok (.getfield 64, 3) := dk_180 0 64 (dk_at dksX8_reason_1 0 rfl rfl)
theorem dX8_reason_26 : decode cX8_reason 26 = .ok (.goto 7, 3) := dk_167 0 7 (dk_at dksX8_reason_1 3 rfl rfl)
theorem dX8_reason_29 : decode cX8_reason 29 = .ok (.aload_n 0, 1) := dk_42 (dk_at dksX8_reason_1 6 rfl rfl)
theorem dX8_reason_30 : decode cX8_reason 30 = .ok (.getfield 61, 3) := dk_180 0 61 (dk_at dksX8_reason_1 7 rfl rfl)
theorem dX8_reason_33 : decode cX8_reason 33 = .ok (.ireturn, 1) := dk_172 (dk_at dksX8_reason_1 10 rfl rfl)
abbrev cX8_undo : ByteArray := prog_19_method_83_code
def yX8_undo : MethodName := ⟨RX8, "undo", "()I"⟩
def dkwX8_undo_2 : List UInt8 := [17, 1, 186, 42, 180, 0, 48, 104, 27, 96, 46, 79, 132, 1, 1, 167, 255, 225, 42, 180, 0, 48, 172]
abbrev dktX8_undo_2 : List UInt8 := dkwX8_undo_2 ++ []
def dkwX8_undo_1 : List UInt8 := [100, 181, 0, 48, 3, 60, 27, 17, 1, 186, 162, 0, 30, 42, 180, 0, 9, 27, 42, 180, 0, 19]
abbrev dktX8_undo_1 : List UInt8 := dkwX8_undo_1 ++ dktX8_undo_2
def dkwX8_undo_0 : List UInt8 := [42, 3, 181, 0, 45, 42, 180, 0, 48, 154, 0, 9, 42, 4, 182, 0, 58, 172, 42, 89, 180, 0, 48, 4]
abbrev dktX8_undo_0 : List UInt8 := dkwX8_undo_0 ++ dktX8_undo_1
theorem dksX8_undo_0 : cX8_undo.data.toList.drop 0 = dktX8_undo_0 := by decide +kernel
theorem dksX8_undo_1 : cX8_undo.data.toList.drop 24 = dktX8_undo_1 := dk_seg dksX8_undo_0 24 rfl rfl
theorem dksX8_undo_2 : cX8_undo.data.toList.drop 46 = dktX8_undo_2 := dk_seg dksX8_undo_1 22 rfl rfl
theorem dX8_undo_0 : decode cX8_undo 0 = .ok (.aload_n 0, 1) := dk_42 (dk_at dksX8_undo_0 0 rfl rfl)
theorem dX8_undo_1 : decode cX8_undo 1 = .ok (.iconst 0, 1) := dk_3 (dk_at dksX8_undo_0 1 rfl rfl)
theorem dX8_undo_2 : decode cX8_undo 2 = .ok (.putfield 45, 3) := dk_181 0 45 (dk_at dksX8_undo_0 2 rfl rfl)
theorem dX8_undo_5 : decode cX8_undo 5 = .ok (.aload_n 0, 1) := dk_42 (dk_at dksX8_undo_0 5 rfl rfl)
theorem dX8_undo_6 : decode cX8_undo 6 = .ok (.getfield 48, 3) := dk_180 0 48 (dk_at dksX8_undo_0 6 rfl rfl)
theorem dX8_undo_9 : decode cX8_undo 9 = .ok (.ifCond .ne 9, 3) := dk_154 0 9 (dk_at dksX8_undo_0 9 rfl rfl)
theorem dX8_undo_12 : decode cX8_undo 12 = .ok (.aload_n 0, 1) := dk_42 (dk_at dksX8_undo_0 12 rfl rfl)
theorem dX8_undo_13 : decode cX8_undo 13 = .ok (.iconst 1, 1) := dk_4 (dk_at dksX8_undo_0 13 rfl rfl)
theorem dX8_undo_14 : decode cX8_undo 14 = .ok (.invokevirtual 58, 3) := dk_182 0 58 (dk_at dksX8_undo_0 14 rfl rfl)
theorem dX8_undo_17 : decode cX8_undo 17 = .ok (.ireturn, 1) := dk_172 (dk_at dksX8_undo_0 17 rfl rfl)
theorem dX8_undo_18 : decode cX8_undo 18 = .ok (.aload_n 0, 1) := dk_42 (dk_at dksX8_undo_0 18 rfl rfl)
theorem dX8_undo_19 : decode cX8_undo 19 = .ok (.dup, 1) := dk_89 (dk_at dksX8_undo_0 19 rfl rfl)
theorem dX8_undo_20 : decode cX8_undo 20 = .ok (.getfield 48, 3) := dk_180 0 48 (dk_at dksX8_undo_0 20 rfl rfl)
theorem dX8_undo_23 : decode cX8_undo 23 = .ok (.iconst 1, 1) := dk_4 (dk_at dksX8_undo_0 23 rfl rfl)
theorem dX8_undo_24 : decode cX8_undo 24 = .ok (.isub, 1) := dk_100 (dk_at dksX8_undo_1 0 rfl rfl)
theorem dX8_undo_25 : decode cX8_undo 25 = .ok (.putfield 48, 3) := dk_181 0 48 (dk_at dksX8_undo_1 1 rfl rfl)
theorem dX8_undo_28 : decode cX8_undo 28 = .ok (.iconst 0, 1) := dk_3 (dk_at dksX8_undo_1 4 rfl rfl)
theorem dX8_undo_29 : decode cX8_undo 29 = .ok (.istore_n 1, 1) := dk_60 (dk_at dksX8_undo_1 5 rfl rfl)
theorem dX8_undo_30 : decode cX8_undo 30 = .ok (.iload_n 1, 1) := dk_27 (dk_at dksX8_undo_1 6 rfl rfl)
theorem dX8_undo_31 : decode cX8_undo 31 = .ok (.sipush 442, 3) := dk_17 1 186 (dk_at dksX8_undo_1 7 rfl rfl)
theorem dX8_undo_34 : decode cX8_undo 34 = .ok (.if_icmp .ge 30, 3) := dk_162 0 30 (dk_at dksX8_undo_1 10 rfl rfl)
theorem dX8_undo_37 : decode cX8_undo 37 = .ok (.aload_n 0, 1) := dk_42 (dk_at dksX8_undo_1 13 rfl rfl)
theorem dX8_undo_38 : decode cX8_undo 38 = .ok (.getfield 9, 3) := dk_180 0 9 (dk_at dksX8_undo_1 14 rfl rfl)
theorem dX8_undo_41 : decode cX8_undo 41 = .ok (.iload_n 1, 1) := dk_27 (dk_at dksX8_undo_1 17 rfl rfl)
theorem dX8_undo_42 : decode cX8_undo 42 = .ok (.aload_n 0, 1) := dk_42 (dk_at dksX8_undo_1 18 rfl rfl)
theorem dX8_undo_43 : decode cX8_undo 43 = .ok (.getfield 19, 3) := dk_180 0 19 (dk_at dksX8_undo_1 19 rfl rfl)
theorem dX8_undo_46 : decode cX8_undo 46 = .ok (.sipush 442, 3) := dk_17 1 186 (dk_at dksX8_undo_2 0 rfl rfl)
theorem dX8_undo_49 : decode cX8_undo 49 = .ok (.aload_n 0, 1) := dk_42 (dk_at dksX8_undo_2 3 rfl rfl)
theorem dX8_undo_50 : decode cX8_undo 50 = .ok (.getfield 48, 3) := dk_180 0 48 (dk_at dksX8_undo_2 4 rfl rfl)
theorem dX8_undo_53 : decode cX8_undo 53 = .ok (.imul, 1) := dk_104 (dk_at dksX8_undo_2 7 rfl rfl)
theorem dX8_undo_54 : decode cX8_undo 54 = .ok (.iload_n 1, 1) := dk_27 (dk_at dksX8_undo_2 8 rfl rfl)
theorem dX8_undo_55 : decode cX8_undo 55 = .ok (.iadd, 1) := dk_96 (dk_at dksX8_undo_2 9 rfl rfl)
theorem dX8_undo_56 : decode cX8_undo 56 = .ok (.iaload, 1) := dk_46 (dk_at dksX8_undo_2 10 rfl rfl)
theorem dX8_undo_57 : decode cX8_undo 57 = .ok (.iastore, 1) := dk_79 (dk_at dksX8_undo_2 11 rfl rfl)
theorem dX8_undo_58 : decode cX8_undo 58 = .ok (.iinc 1 1, 3) := dk_132 1 1 (dk_at dksX8_undo_2 12 rfl rfl)
theorem dX8_undo_61 : decode cX8_undo 61 = .ok (.goto (-31), 3) := dk_167 255 225 (dk_at dksX8_undo_2 15 rfl rfl)
theorem dX8_undo_64 : decode cX8_undo 64 = .ok (.aload_n 0, 1) := dk_42 (dk_at dksX8_undo_2 18 rfl rfl)
theorem dX8_undo_65 : decode cX8_undo 65 = .ok (.getfield 48, 3) := dk_180 0 48 (dk_at dksX8_undo_2 19 rfl rfl)
theorem dX8_undo_68 : decode cX8_undo 68 = .ok (.ireturn, 1) := dk_172 (dk_at dksX8_undo_2 22 rfl rfl)
abbrev cX8_save : ByteArray := prog_19_method_84_code
def yX8_save : MethodName := ⟨RX8, "save", "()I"⟩
def dkwX8_save_1 : List UInt8 := [42, 180, 0, 9, 27, 46, 79, 132, 1, 1, 167, 255, 234, 42, 3, 16, 31, 182, 0, 101, 172]
abbrev dktX8_save_1 : List UInt8 := dkwX8_save_1 ++ []
def dkwX8_save_0 : List UInt8 := [42, 3, 181, 0, 45, 42, 4, 181, 1, 25, 3, 60, 27, 17, 1, 186, 162, 0, 21, 42, 180, 0, 22, 27]
abbrev dktX8_save_0 : List UInt8 := dkwX8_save_0 ++ dktX8_save_1
theorem dksX8_save_0 : cX8_save.data.toList.drop 0 = dktX8_save_0 := by decide +kernel
theorem dksX8_save_1 : cX8_save.data.toList.drop 24 = dktX8_save_1 := dk_seg dksX8_save_0 24 rfl rfl
theorem dX8_save_0 : decode cX8_save 0 = .ok (.aload_n 0, 1) := dk_42 (dk_at dksX8_save_0 0 rfl rfl)
theorem dX8_save_1 : decode cX8_save 1 = .ok (.iconst 0, 1) := dk_3 (dk_at dksX8_save_0 1 rfl rfl)
theorem dX8_save_2 : decode cX8_save 2 = .ok (.putfield 45, 3) := dk_181 0 45 (dk_at dksX8_save_0 2 rfl rfl)
theorem dX8_save_5 : decode cX8_save 5 = .ok (.aload_n 0, 1) := dk_42 (dk_at dksX8_save_0 5 rfl rfl)
theorem dX8_save_6 : decode cX8_save 6 = .ok (.iconst 1, 1) := dk_4 (dk_at dksX8_save_0 6 rfl rfl)
theorem dX8_save_7 : decode cX8_save 7 = .ok (.putfield 281, 3) := dk_181 1 25 (dk_at dksX8_save_0 7 rfl rfl)
theorem dX8_save_10 : decode cX8_save 10 = .ok (.iconst 0, 1) := dk_3 (dk_at dksX8_save_0 10 rfl rfl)
theorem dX8_save_11 : decode cX8_save 11 = .ok (.istore_n 1, 1) := dk_60 (dk_at dksX8_save_0 11 rfl rfl)
theorem dX8_save_12 : decode cX8_save 12 = .ok (.iload_n 1, 1) := dk_27 (dk_at dksX8_save_0 12 rfl rfl)
theorem dX8_save_13 : decode cX8_save 13 = .ok (.sipush 442, 3) := dk_17 1 186 (dk_at dksX8_save_0 13 rfl rfl)
theorem dX8_save_16 : decode cX8_save 16 = .ok (.if_icmp .ge 21, 3) := dk_162 0 21 (dk_at dksX8_save_0 16 rfl rfl)
theorem dX8_save_19 : decode cX8_save 19 = .ok (.aload_n 0, 1) := dk_42 (dk_at dksX8_save_0 19 rfl rfl)
theorem dX8_save_20 : decode cX8_save 20 = .ok (.getfield 22, 3) := dk_180 0 22 (dk_at dksX8_save_0 20 rfl rfl)
theorem dX8_save_23 : decode cX8_save 23 = .ok (.iload_n 1, 1) := dk_27 (dk_at dksX8_save_0 23 rfl rfl)
theorem dX8_save_24 : decode cX8_save 24 = .ok (.aload_n 0, 1) := dk_42 (dk_at dksX8_save_1 0 rfl rfl)
theorem dX8_save_25 : decode cX8_save 25 = .ok (.getfield 9, 3) := dk_180 0 9 (dk_at dksX8_save_1 1 rfl rfl)
theorem dX8_save_28 : decode cX8_save 28 = .ok (.iload_n 1, 1) := dk_27 (dk_at dksX8_save_1 4 rfl rfl)
theorem dX8_save_29 : decode cX8_save 29 = .ok (.iaload, 1) := dk_46 (dk_at dksX8_save_1 5 rfl rfl)
theorem dX8_save_30 : decode cX8_save 30 = .ok (.iastore, 1) := dk_79 (dk_at dksX8_save_1 6 rfl rfl)
theorem dX8_save_31 : decode cX8_save 31 = .ok (.iinc 1 1, 3) := dk_132 1 1 (dk_at dksX8_save_1 7 rfl rfl)
theorem dX8_save_34 : decode cX8_save 34 = .ok (.goto (-22), 3) := dk_167 255 234 (dk_at dksX8_save_1 10 rfl rfl)
theorem dX8_save_37 : decode cX8_save 37 = .ok (.aload_n 0, 1) := dk_42 (dk_at dksX8_save_1 13 rfl rfl)
theorem dX8_save_38 : decode cX8_save 38 = .ok (.iconst 0, 1) := dk_3 (dk_at dksX8_save_1 14 rfl rfl)
theorem dX8_save_39 : decode cX8_save 39 = .ok (.bipush 31, 2) := dk_16 31 (dk_at dksX8_save_1 15 rfl rfl)
theorem dX8_save_41 : decode cX8_save 41 = .ok (.invokevirtual 101, 3) := dk_182 0 101 (dk_at dksX8_save_1 17 rfl rfl)
theorem dX8_save_44 : decode cX8_save 44 = .ok (.ireturn, 1) := dk_172 (dk_at dksX8_save_1 20 rfl rfl)
abbrev cX8_restore : ByteArray := prog_19_method_85_code
def yX8_restore : MethodName := ⟨RX8, "restore", "()I"⟩
def dkwX8_restore_2 : List UInt8 := [181, 0, 48, 42, 3, 16, 31, 182, 0, 101, 172]
abbrev dktX8_restore_2 : List UInt8 := dkwX8_restore_2 ++ []
def dkwX8_restore_1 : List UInt8 := [162, 0, 21, 42, 180, 0, 9, 27, 42, 180, 0, 22, 27, 46, 79, 132, 1, 1, 167, 255, 234, 42, 3]
abbrev dktX8_restore_1 : List UInt8 := dkwX8_restore_1 ++ dktX8_restore_2
def dkwX8_restore_0 : List UInt8 := [42, 3, 181, 0, 45, 42, 180, 1, 25, 154, 0, 9, 42, 4, 182, 0, 58, 172, 3, 60, 27, 17, 1, 186]
abbrev dktX8_restore_0 : List UInt8 := dkwX8_restore_0 ++ dktX8_restore_1
theorem dksX8_restore_0 : cX8_restore.data.toList.drop 0 = dktX8_restore_0 := by decide +kernel
theorem dksX8_restore_1 : cX8_restore.data.toList.drop 24 = dktX8_restore_1 := dk_seg dksX8_restore_0 24 rfl rfl
theorem dksX8_restore_2 : cX8_restore.data.toList.drop 47 = dktX8_restore_2 := dk_seg dksX8_restore_1 23 rfl rfl
theorem dX8_restore_0 : decode cX8_restore 0 = .ok (.aload_n 0, 1) := dk_42 (dk_at dksX8_restore_0 0 rfl rfl)
theorem dX8_restore_1 : decode cX8_restore 1 = .ok (.iconst 0, 1) := dk_3 (dk_at dksX8_restore_0 1 rfl rfl)
theorem dX8_restore_2 : decode cX8_restore 2 = .ok (.putfield 45, 3) := dk_181 0 45 (dk_at dksX8_restore_0 2 rfl rfl)
theorem dX8_restore_5 : decode cX8_restore 5 = .ok (.aload_n 0, 1) := dk_42 (dk_at dksX8_restore_0 5 rfl rfl)
theorem dX8_restore_6 : decode cX8_restore 6 = .ok (.getfield 281, 3) := dk_180 1 25 (dk_at dksX8_restore_0 6 rfl rfl)
theorem dX8_restore_9 : decode cX8_restore 9 = .ok (.ifCond .ne 9, 3) := dk_154 0 9 (dk_at dksX8_restore_0 9 rfl rfl)
theorem dX8_restore_12 : decode cX8_restore 12 = .ok (.aload_n 0, 1) := dk_42 (dk_at dksX8_restore_0 12 rfl rfl)
theorem dX8_restore_13 : decode cX8_restore 13 = .ok (.iconst 1, 1) := dk_4 (dk_at dksX8_restore_0 13 rfl rfl)
theorem dX8_restore_14 : decode cX8_restore 14 = .ok (.invokevirtual 58, 3) := dk_182 0 58 (dk_at dksX8_restore_0 14 rfl rfl)
theorem dX8_restore_17 : decode cX8_restore 17 = .ok (.ireturn, 1) := dk_172 (dk_at dksX8_restore_0 17 rfl rfl)
theorem dX8_restore_18 : decode cX8_restore 18 = .ok (.iconst 0, 1) := dk_3 (dk_at dksX8_restore_0 18 rfl rfl)
theorem dX8_restore_19 : decode cX8_restore 19 = .ok (.istore_n 1, 1) := dk_60 (dk_at dksX8_restore_0 19 rfl rfl)
theorem dX8_restore_20 : decode cX8_restore 20 = .ok (.iload_n 1, 1) := dk_27 (dk_at dksX8_restore_0 20 rfl rfl)
theorem dX8_restore_21 : decode cX8_restore 21 = .ok (.sipush 442, 3) := dk_17 1 186 (dk_at dksX8_restore_0 21 rfl rfl)
theorem dX8_restore_24 : decode cX8_restore 24 = .ok (.if_icmp .ge 21, 3) := dk_162 0 21 (dk_at dksX8_restore_1 0 rfl rfl)
theorem dX8_restore_27 : decode cX8_restore 27 = .ok (.aload_n 0, 1) := dk_42 (dk_at dksX8_restore_1 3 rfl rfl)
theorem dX8_restore_28 : decode cX8_restore 28 = .ok (.getfield 9, 3) := dk_180 0 9 (dk_at dksX8_restore_1 4 rfl rfl)
theorem dX8_restore_31 : decode cX8_restore 31 = .ok (.iload_n 1, 1) := dk_27 (dk_at dksX8_restore_1 7 rfl rfl)
theorem dX8_restore_32 : decode cX8_restore 32 = .ok (.aload_n 0, 1) := dk_42 (dk_at dksX8_restore_1 8 rfl rfl)
theorem dX8_restore_33 : decode cX8_restore 33 = .ok (.getfield 22, 3) := dk_180 0 22 (dk_at dksX8_restore_1 9 rfl rfl)
theorem dX8_restore_36 : decode cX8_restore 36 = .ok (.iload_n 1, 1) := dk_27 (dk_at dksX8_restore_1 12 rfl rfl)
theorem dX8_restore_37 : decode cX8_restore 37 = .ok (.iaload, 1) := dk_46 (dk_at dksX8_restore_1 13 rfl rfl)
theorem dX8_restore_38 : decode cX8_restore 38 = .ok (.iastore, 1) := dk_79 (dk_at dksX8_restore_1 14 rfl rfl)
theorem dX8_restore_39 : decode cX8_restore 39 = .ok (.iinc 1 1, 3) := dk_132 1 1 (dk_at dksX8_restore_1 15 rfl rfl)
theorem dX8_restore_42 : decode cX8_restore 42 = .ok (.goto (-22), 3) := dk_167 255 234 (dk_at dksX8_restore_1 18 rfl rfl)
theorem dX8_restore_45 : decode cX8_restore 45 = .ok (.aload_n 0, 1) := dk_42 (dk_at dksX8_restore_1 21 rfl rfl)
theorem dX8_restore_46 : decode cX8_restore 46 = .ok (.iconst 0, 1) := dk_3 (dk_at dksX8_restore_1 22 rfl rfl)
theorem dX8_restore_47 : decode cX8_restore 47 = .ok (.putfield 48, 3) := dk_181 0 48 (dk_at dksX8_restore_2 0 rfl rfl)
theorem dX8_restore_50 : decode cX8_restore 50 = .ok (.aload_n 0, 1) := dk_42 (dk_at dksX8_restore_2 3 rfl rfl)
theorem dX8_restore_51 : decode cX8_restore 51 = .ok (.iconst 0, 1) := dk_3 (dk_at dksX8_restore_2 4 rfl rfl)
theorem dX8_restore_52 : decode cX8_restore 52 = .ok (.bipush 31, 2) := dk_16 31 (dk_at dksX8_restore_2 5 rfl rfl)
theorem dX8_restore_54 : decode cX8_restore 54 = .ok (.invokevirtual 101, 3) := dk_182 0 101 (dk_at dksX8_restore_2 7 rfl rfl)
theorem dX8_restore_57 : decode cX8_restore 57 = .ok (.ireturn, 1) := dk_172 (dk_at dksX8_restore_2 10 rfl rfl)
theorem q2245 : (Jvm.Cond.fieldLink "SpanRulerModel" (206 : Nat) "SpanRulerModel" "length" "I") ∈ lw_all := lw_g (lw_at lw_m10 25 rfl) rfl
theorem q2244 : (Jvm.Cond.fieldLink "SpanRulerModel" (29 : Nat) "SpanRulerModel" "text" "[C") ∈ lw_all := lw_g (lw_at lw_m10 24 rfl) rfl
theorem q2249 : (Jvm.Cond.fieldLink "SpanRulerModel" (41 : Nat) "SpanRulerModel" "error" "I") ∈ lw_all := lw_g (lw_at lw_m10 29 rfl) rfl
theorem q2241 : (Jvm.Cond.fieldLink "SpanRulerModel" (281 : Nat) "SpanRulerModel" "isSaved" "Z") ∈ lw_all := lw_g (lw_at lw_m10 21 rfl) rfl
theorem q2240 : (Jvm.Cond.fieldLink "SpanRulerModel" (22 : Nat) "SpanRulerModel" "saved" "[I") ∈ lw_all := lw_g (lw_at lw_m10 20 rfl) rfl
theorem mIsL_n {s : MS} {p : Int32} (hN : mLi s) (h : mIsL s p = true) : p = nI (nn p) ∧ nn p < nn (s.I 8) := by
  obtain ⟨h1, h2, -⟩ := hN
  unfold mIsL at h
  rw [h1] at h
  obtain ⟨a1, a2⟩ := inR_i.mp h
  cases e : nn (s.I 8) with
  | zero => rw [e] at a2; exact absurd (Int32.le_trans a1 a2) (by decide)
  | succ m =>
    rw [e, nI_pred] at a2
    obtain ⟨i, hi, rfl⟩ := nI_of2 (M := nI m) (n := m) (nI_toInt (by omega)) (Int32.not_lt.mpr a1) a2
    rw [nn_nI (by omega)]
    exact ⟨rfl, by omega⟩
theorem m_character (l : Launch) (G : GE) {h0 : AH} {ad : Nat → Nat} (hA : MAd ad) (s : MS) (i : Int32) (y0 : mLi s) : GM l G yX8_character (ws_ yX8_character cX8_character 2 (some .char)) 3 [.ref (ad 20), .int i] (mput G h0 ad s) (0) (PV (.int (mChar s i).1) (mput G h0 ad (mChar s i).2)) := by
  refine GM.of (by decide) (dk rfl) ?_
  intro X eL eG eh ok fn
  subst eL; subst eG
  show GW X _ 0 0 [some (.ref (ad 20)), some (.int i)] []
  refine g_aload_n ok dX8_character_0 rfl ?_
  refine g_iload_n ok dX8_character_1 rfl ?_
  refine g_iconst ok (v := 0) dX8_character_2 rfl ?_
  refine g_aload_n ok dX8_character_3 rfl ?_
  refine m_get ok hA 8 q2243 (by decide) dX8_character_4 (v := .int (MS.I s 8)) rfl ?_
  refine g_iconst ok (v := 1) dX8_character_7 rfl ?_
  refine g_isub ok dX8_character_8 ?_
  refine g_callS ok q2321 q2322 q75 q2323 dX8_character_9 (m_in X.l X.G _ i 0 ((MS.I s 8) - 1)) (nm_ (by decide : nmb _ 3 = true)) (dl rfl) (dk rfl) rfl rfl (dk rfl) (dk rfl) (kV ?_) xV
  refine g_if_eq ok (tgt := 19) dX8_character_12 (by decide) (fun c12 => ?_) (fun c12 => ?_)
  · have c12' := bI_e c12
    refine g_iconst ok (v := 1) dX8_character_19 rfl ?_
    refine m_put ok hA 20 q2255 (by decide) dX8_character_20 ⟨rfl, rfl⟩ ?_
    refine g_aload_n ok dX8_character_23 rfl ?_
    refine m_get ok hA 20 q2255 (by decide) dX8_character_24 (v := .int 1) rfl ?_
    refine g_if_ne ok (tgt := 39) dX8_character_27 (by decide) (fun _ => ?_) (fun c_ => absurd c_ (fun e_ => by have := (nI_eq (a := 1) (b := 0) (by omega) (by omega)).mp e_; omega))
    refine g_bipush ok (v := 97) dX8_character_39 rfl ?_
    exact g_zret ok fn rfl rfl dX8_character_41 (pv_i (by unfold mChar; rw [show mIsL s i = false from c12']; rfl) (by unfold mChar; rw [show mIsL s i = false from c12']; rfl)) (dk rfl)
  · have c12' := bI_n c12
    refine g_iconst ok (v := 0) dX8_character_15 rfl ?_
    refine g_goto ok dX8_character_16 (tgt := 20) (by decide) ?_
    refine m_put ok hA 20 q2255 (by decide) dX8_character_20 ⟨rfl, rfl⟩ ?_
    refine g_aload_n ok dX8_character_23 rfl ?_
    refine m_get ok hA 20 q2255 (by decide) dX8_character_24 (v := .int 0) rfl ?_
    refine g_if_ne ok (tgt := 39) dX8_character_27 (by decide) (fun c_ => absurd (congrArg nI (by omega : 0 = 0)) c_) (fun _ => ?_)
    have c12' : mIsL s i = true := c12'
    have hs_ : mChar s i = (s.A 7 (nn i), mI s 20 0) := by unfold mChar; rw [if_pos c12']
    rw [hs_] at fn
    clear hs_
    obtain ⟨e1, l1⟩ := mIsL_n y0 c12'
    clear c12 c12'
    obtain ⟨n1, n2, n3⟩ := y0
    obtain ⟨q_, q1, q2⟩ := n3 _ l1
    generalize nn i = j at *
    subst e1
    refine g_aload_n ok dX8_character_30 rfl ?_
    refine m_get ok hA 7 q2242 (by decide) dX8_character_31 (v := .ref (ad 7)) rfl ?_
    refine g_iload_n ok dX8_character_34 rfl ?_
    refine m_cald ok hA 7 j (v := (MS.A s 7 j)) (by decide) dX8_character_35 rfl (by simp only [mlen]; omega) rfl ?_
    refine g_goto ok dX8_character_36 (tgt := 41) (by decide) ?_
    exact g_zret ok fn rfl (by rw [q2]; exact (pk_charN q1).1) dX8_character_41 (pv_i rfl rfl) (dk rfl)
theorem m_account (l : Launch) (G : GE) {h0 : AH} {ad : Nat → Nat} (hA : MAd ad) (s : MS) (k : Int32) : GM l G yX8_account (ws_ yX8_account cX8_account 4 (some .int)) 3 [.ref (ad 20), .int k] (mput G h0 ad s) (0) (PV (.int (mAccount s k).1) (mput G h0 ad (mAccount s k).2)) := by
  refine GM.of (by decide) (dk rfl) ?_
  intro X eL eG eh ok fn
  subst eL; subst eG
  show GW X _ 0 0 [some (.ref (ad 20)), some (.int k), none, none] []
  refine g_aload_n ok dX8_account_0 rfl ?_
  refine g_iconst ok (v := 0) dX8_account_1 rfl ?_
  refine m_put ok hA 20 q2255 (by decide) dX8_account_2 ⟨rfl, rfl⟩ ?_
  refine g_iconst ok (v := 0) dX8_account_5 rfl ?_
  refine g_istore_n ok dX8_account_6 (ls1 := [some (.ref (ad 20)), some (.int k), some (.int 0), none]) (dl rfl) rfl ?_
  refine g_iload_n ok dX8_account_7 rfl ?_
  by_cases hk : inR k 0 12 = true
  · have hs_ : mAccount s k = (acF s (nn k), mI s 20 0) := by unfold mAccount; rw [if_pos hk]
    rw [hs_] at fn
    clear hs_
    obtain ⟨e1, -, l1⟩ := inR_n (lo := 0) (hi := 12) hk (by decide)
    clear hk
    generalize nn k = i at *
    subst e1
    rcases (by omega : i = 0 ∨ i = 1 ∨ i = 2 ∨ i = 3 ∨ i = 4 ∨ i = 5 ∨ i = 6 ∨ i = 7 ∨ i = 8 ∨ i = 9 ∨ i = 10 ∨ i = 11 ∨ i = 12) with rfl | rfl | rfl | rfl | rfl | rfl | rfl | rfl | rfl | rfl | rfl | rfl | rfl
    · refine g_tableIn ok (tgt := 76) (off := 68) dX8_account_8 (by decide) (by decide) rfl (by decide) ?_
      refine g_aload_n ok dX8_account_76 rfl ?_
      refine g_iconst ok (v := 0) dX8_account_77 rfl ?_
      refine g_bipush ok (v := 31) dX8_account_78 rfl ?_
      refine g_callV ok q2346 q2348 qs29 q75 q2349 (m_recv ok hA) dX8_account_80 (m_sumN X.l X.G hA (h0 := h0) (mI s 20 0) 0 31 (by omega) (by omega)) (nm_ (by decide : nmb _ 2 = true)) (dl rfl) (dk rfl) rfl rfl (dk rfl) (dk rfl) (kV (v := .int (sm (MS.A s 0) (31 + 1 - 0) 0 0)) ?_) xV
      exact g_iret ok fn rfl dX8_account_83 (pv_i rfl rfl) (dk rfl)
    · refine g_tableIn ok (tgt := 84) (off := 76) dX8_account_8 (by decide) (by decide) rfl (by decide) ?_
      refine g_iconst ok (v := 0) dX8_account_84 rfl ?_
      refine g_istore_n ok dX8_account_85 (ls1 := [some (.ref (ad 20)), some (.int (nI 1)), some (.int 0), some (.int 0)]) (dl rfl) rfl ?_
      simp only [acF] at fn
      obtain ⟨F, hF⟩ : ∃ F : Int32, zcl (s.A 0) 32 0 0 = F := ⟨_, rfl⟩
      rw [hF] at fn
      have lp : ∀ (n : Nat) (c : Nat) (v : Int32), (c + n = 32) → (zcl (s.A 0) n c v = F) → GW X (mput X.G h0 ad (mI s 20 0)) 0 86 [some (.ref (ad 20)), some (.int (nI 1)), some (.int v), some (.int (nI c))] [] := by
        intro n
        induction n with
        | zero =>
          intro c v g0 g1
          refine g_iload_n ok dX8_account_86 rfl ?_
          refine g_bipush ok (v := 32) dX8_account_87 rfl ?_
          refine g_icmp_ge ok (tgt := 109) dX8_account_89 (by decide) (fun _ => ?_) (fun c_ => absurd (nI_le (a := 32) (b := c) (by omega) (by omega)) c_)
          refine g_iload_n ok dX8_account_109 rfl ?_
          exact g_iret ok fn rfl dX8_account_110 (pv_i g1 rfl) (dk rfl)
        | succ n ih =>
          intro c v g0 g1
          refine g_iload_n ok dX8_account_86 rfl ?_
          refine g_bipush ok (v := 32) dX8_account_87 rfl ?_
          refine g_icmp_ge ok (tgt := 109) dX8_account_89 (by decide) (fun c_ => absurd c_ (nI_ge (a := c) (b := 32) (by omega) (by omega))) (fun _ => ?_)
          refine g_aload_n ok dX8_account_92 rfl ?_
          refine g_iload_n ok dX8_account_93 rfl ?_
          refine g_callV ok q2331 q2333 qs26 q75 q2334 (m_recv ok hA) dX8_account_94 (m_number X.l X.G hA (h0 := h0) (mI s 20 0) c (by omega)) (nm_ (by decide : nmb _ 1 = true)) (dl rfl) (dk rfl) rfl rfl (dk rfl) (dk rfl) (kV (v := .int (MS.A s 0 (8 + c))) ?_) xV
          refine g_if_ne ok (tgt := 103) dX8_account_97 (by decide) (fun c97 => ?_) (fun c97 => ?_)
          · refine g_iincN ok dX8_account_103 (c := c) rfl rfl (ls1 := [some (.ref (ad 20)), some (.int (nI 1)), some (.int v), some (.int (nI (c + 1)))]) rfl ?_
            refine g_goto ok dX8_account_106 (tgt := 86) (by decide) ?_
            exact ih _ _ (by omega) (by have z_ := g1; rw [zcl] at z_; simp only [if_neg c97] at z_; exact z_)
          · refine g_iinc ok dX8_account_100 rfl (v := (v + 1)) rfl (ls1 := [some (.ref (ad 20)), some (.int (nI 1)), some (.int (v + 1)), some (.int (nI c))]) rfl ?_
            refine g_iincN ok dX8_account_103 (c := c) rfl rfl (ls1 := [some (.ref (ad 20)), some (.int (nI 1)), some (.int (v + 1)), some (.int (nI (c + 1)))]) rfl ?_
            refine g_goto ok dX8_account_106 (tgt := 86) (by decide) ?_
            exact ih _ _ (by omega) (by have z_ := g1; rw [zcl] at z_; simp only [if_pos c97] at z_; exact z_)
      exact lp 32 0 0 (by omega) hF
    · refine g_tableIn ok (tgt := 111) (off := 103) dX8_account_8 (by decide) (by decide) rfl (by decide) ?_
      refine g_bipush ok (v := 32) dX8_account_111 rfl ?_
      refine g_aload_n ok dX8_account_113 rfl ?_
      refine g_iconst ok (v := 0) dX8_account_114 rfl ?_
      refine g_callV ok q2509 q2511 qs46 q75 q2512 (m_recv ok hA) dX8_account_115 (m_many X.l X.G hA (h0 := h0) (mI s 20 0) 0) (nm_ (by decide : nmb _ 1 = true)) (dl rfl) (dk rfl) rfl rfl (dk rfl) (dk rfl) (kV (v := .int (mal (MS.A s 0) 0 32 0 0)) ?_) xV
      refine g_isub ok dX8_account_118 ?_
      exact g_iret ok fn rfl dX8_account_119 (pv_i rfl rfl) (dk rfl)
    · refine g_tableIn ok (tgt := 120) (off := 112) dX8_account_8 (by decide) (by decide) rfl (by decide) ?_
      refine g_aload_n ok dX8_account_120 rfl ?_
      refine m_get ok hA 0 q2235 (by decide) dX8_account_121 (v := .ref (ad 0)) rfl ?_
      refine g_iconst ok (v := 1) dX8_account_124 rfl ?_
      refine m_ald ok hA 0 1 (v := (MS.A s 0 1)) (by decide) dX8_account_125 rfl (by decide) rfl ?_
      exact g_iret ok fn rfl dX8_account_126 (pv_i rfl rfl) (dk rfl)
    · refine g_tableIn ok (tgt := 127) (off := 119) dX8_account_8 (by decide) (by decide) rfl (by decide) ?_
      refine g_aload_n ok dX8_account_127 rfl ?_
      refine m_get ok hA 0 q2235 (by decide) dX8_account_128 (v := .ref (ad 0)) rfl ?_
      refine g_iconst ok (v := 3) dX8_account_131 rfl ?_
      refine m_ald ok hA 0 3 (v := (MS.A s 0 3)) (by decide) dX8_account_132 rfl (by decide) rfl ?_
      exact g_iret ok fn rfl dX8_account_133 (pv_i rfl rfl) (dk rfl)
    · refine g_tableIn ok (tgt := 134) (off := 126) dX8_account_8 (by decide) (by decide) rfl (by decide) ?_
      refine g_aload_n ok dX8_account_134 rfl ?_
      refine m_get ok hA 0 q2235 (by decide) dX8_account_135 (v := .ref (ad 0)) rfl ?_
      refine g_iconst ok (v := 4) dX8_account_138 rfl ?_
      refine m_ald ok hA 0 4 (v := (MS.A s 0 4)) (by decide) dX8_account_139 rfl (by decide) rfl ?_
      exact g_iret ok fn rfl dX8_account_140 (pv_i rfl rfl) (dk rfl)
    · refine g_tableIn ok (tgt := 141) (off := 133) dX8_account_8 (by decide) (by decide) rfl (by decide) ?_
      refine g_aload_n ok dX8_account_141 rfl ?_
      refine m_get ok hA 0 q2235 (by decide) dX8_account_142 (v := .ref (ad 0)) rfl ?_
      refine g_iconst ok (v := 5) dX8_account_145 rfl ?_
      refine m_ald ok hA 0 5 (v := (MS.A s 0 5)) (by decide) dX8_account_146 rfl (by decide) rfl ?_
      exact g_iret ok fn rfl dX8_account_147 (pv_i rfl rfl) (dk rfl)
    · refine g_tableIn ok (tgt := 148) (off := 140) dX8_account_8 (by decide) (by decide) rfl (by decide) ?_
      refine g_aload_n ok dX8_account_148 rfl ?_
      refine m_get ok hA 0 q2235 (by decide) dX8_account_149 (v := .ref (ad 0)) rfl ?_
      refine g_iconst ok (v := 2) dX8_account_152 rfl ?_
      refine m_ald ok hA 0 2 (v := (MS.A s 0 2)) (by decide) dX8_account_153 rfl (by decide) rfl ?_
      exact g_iret ok fn rfl dX8_account_154 (pv_i rfl rfl) (dk rfl)
    · refine g_tableIn ok (tgt := 155) (off := 147) dX8_account_8 (by decide) (by decide) rfl (by decide) ?_
      refine g_aload_n ok dX8_account_155 rfl ?_
      refine m_get ok hA 0 q2235 (by decide) dX8_account_156 (v := .ref (ad 0)) rfl ?_
      refine g_iconst ok (v := 0) dX8_account_159 rfl ?_
      refine m_ald ok hA 0 0 (v := (MS.A s 0 0)) (by decide) dX8_account_160 rfl (by decide) rfl ?_
      exact g_iret ok fn rfl dX8_account_161 (pv_i rfl rfl) (dk rfl)
    · refine g_tableIn ok (tgt := 162) (off := 154) dX8_account_8 (by decide) (by decide) rfl (by decide) ?_
      refine g_aload_n ok dX8_account_162 rfl ?_
      refine m_get ok hA 0 q2235 (by decide) dX8_account_163 (v := .ref (ad 0)) rfl ?_
      refine g_bipush ok (v := 6) dX8_account_166 rfl ?_
      refine m_ald ok hA 0 6 (v := (MS.A s 0 6)) (by decide) dX8_account_168 rfl (by decide) rfl ?_
      exact g_iret ok fn rfl dX8_account_169 (pv_i rfl rfl) (dk rfl)
    · refine g_tableIn ok (tgt := 170) (off := 162) dX8_account_8 (by decide) (by decide) rfl (by decide) ?_
      refine g_aload_n ok dX8_account_170 rfl ?_
      refine m_get ok hA 0 q2235 (by decide) dX8_account_171 (v := .ref (ad 0)) rfl ?_
      refine g_bipush ok (v := 7) dX8_account_174 rfl ?_
      refine m_ald ok hA 0 7 (v := (MS.A s 0 7)) (by decide) dX8_account_176 rfl (by decide) rfl ?_
      exact g_iret ok fn rfl dX8_account_177 (pv_i rfl rfl) (dk rfl)
    · refine g_tableIn ok (tgt := 178) (off := 170) dX8_account_8 (by decide) (by decide) rfl (by decide) ?_
      refine g_aload_n ok dX8_account_178 rfl ?_
      refine m_get ok hA 10 q2245 (by decide) dX8_account_179 (v := .int (MS.I s 10)) rfl ?_
      exact g_iret ok fn rfl dX8_account_182 (pv_i rfl rfl) (dk rfl)
    · refine g_tableIn ok (tgt := 183) (off := 175) dX8_account_8 (by decide) (by decide) rfl (by decide) ?_
      refine g_aload_n ok dX8_account_183 rfl ?_
      refine m_get ok hA 4 q2239 (by decide) dX8_account_184 (v := .int (MS.I s 4)) rfl ?_
      exact g_iret ok fn rfl dX8_account_187 (pv_i rfl rfl) (dk rfl)
  · have hk : inR k 0 12 = false := by simpa using hk
    refine g_tableOut ok (tgt := 188) dX8_account_8 (inR_no hk) (by decide) ?_
    refine g_aload_n ok dX8_account_188 rfl ?_
    refine g_iconst ok (v := 1) dX8_account_189 rfl ?_
    refine g_callV ok q2362 q2364 qs33 q75 q2365 (m_recv ok hA) dX8_account_190 (m_raises X.l X.G hA (h0 := h0) (mI s 20 0) 1) (nm_ (by decide : nmb _ 1 = true)) (dl rfl) (dk rfl) rfl rfl (dk rfl) (dk rfl) (kV ?_) xV
    exact g_iret ok fn rfl dX8_account_193 (pv_i (by unfold mAccount; rw [hk]; rfl) (by unfold mAccount; rw [hk]; rfl)) (dk rfl)
theorem m_append (l : Launch) (G : GE) {h0 : AH} {ad : Nat → Nat} (hA : MAd ad) (s : MS) (c : Int32) (y0 : mTo s) (y1 : narrow .char (.int c) = .int c) : GM l G yX8_append (ws_ yX8_append cX8_append 2 (some .int)) 3 [.ref (ad 20), .int c] (mput G h0 ad s) (0) (PV (.int (mAppend s c).1) (mput G h0 ad (mAppend s c).2)) := by
  refine GM.of (by decide) (dk rfl) ?_
  intro X eL eG eh ok fn
  subst eL; subst eG
  show GW X _ 0 0 [some (.ref (ad 20)), some (.int c)] []
  refine g_aload_n ok dX8_append_0 rfl ?_
  refine g_iconst ok (v := 0) dX8_append_1 rfl ?_
  refine m_put ok hA 20 q2255 (by decide) dX8_append_2 ⟨rfl, rfl⟩ ?_
  refine g_iload_n ok dX8_append_5 rfl ?_
  refine g_bipush ok (v := 32) dX8_append_6 rfl ?_
  refine g_bipush ok (v := 126) dX8_append_8 rfl ?_
  refine g_callS ok q2321 q2322 q75 q2323 dX8_append_10 (m_in X.l X.G _ c 32 126) (nm_ (by decide : nmb _ 3 = true)) (dl rfl) (dk rfl) rfl rfl (dk rfl) (dk rfl) (kV ?_) xV
  refine g_if_ne ok (tgt := 22) dX8_append_13 (by decide) (fun c13 => ?_) (fun c13 => ?_)
  · have c13' := bI_n c13
    obtain ⟨h1, h2⟩ := y0
    refine g_aload_n ok dX8_append_22 rfl ?_
    refine m_get ok hA 10 q2245 (by decide) dX8_append_23 (v := .int (nI (nn (s.I 10)))) (congrArg (fun z => some (Value.int z)) h1) ?_
    refine g_bipush ok (v := 60) dX8_append_26 rfl ?_
    by_cases h6 : nn (s.I 10) = 60
    · refine g_icmp_ne ok (tgt := 37) dX8_append_28 (by decide) (fun c_ => absurd (congrArg nI (by omega : (nn (s.I 10)) = 60)) c_) (fun _ => ?_)
      refine g_aload_n ok dX8_append_31 rfl ?_
      refine g_iconst ok (v := 2) dX8_append_32 rfl ?_
      refine g_callV ok q2362 q2364 qs33 q75 q2365 (m_recv ok hA) dX8_append_33 (m_raises X.l X.G hA (h0 := h0) (mI s 20 0) 2) (nm_ (by decide : nmb _ 1 = true)) (dl rfl) (dk rfl) rfl rfl (dk rfl) (dk rfl) (kV ?_) xV
      exact g_iret ok fn rfl dX8_append_36 (pv_i (by unfold mAppend; rw [c13', h6]; rfl) (by unfold mAppend; rw [c13', h6]; rfl)) (dk rfl)
    · refine g_icmp_ne ok (tgt := 37) dX8_append_28 (by decide) (fun _ => ?_) (fun c_ => absurd c_ (fun e_ => by have := (nI_eq (a := (nn (s.I 10))) (b := 60) (by omega) (by omega)).mp e_; omega))
      refine g_aload_n ok dX8_append_37 rfl ?_
      refine m_get ok hA 9 q2244 (by decide) dX8_append_38 (v := .ref (ad 9)) rfl ?_
      refine g_aload_n ok dX8_append_41 rfl ?_
      refine g_dup ok dX8_append_42 rfl ?_
      refine m_get ok hA 10 q2245 (by decide) dX8_append_43 (v := .int (nI (nn (s.I 10)))) (congrArg (fun z => some (Value.int z)) h1) ?_
      refine g_dup_x1 ok dX8_append_46 rfl rfl ?_
      refine g_iconst ok (v := 1) dX8_append_47 rfl ?_
      refine g_iaddN ok dX8_append_48 (c := ((nn (s.I 10)) + 1)) (a := (nn (s.I 10))) (b := 1) rfl rfl rfl ?_
      refine m_put ok hA 10 q2245 (by decide) dX8_append_49 ⟨rfl, rfl⟩ ?_
      refine g_iload_n ok dX8_append_52 rfl ?_
      refine m_cast ok hA 9 (nn (s.I 10)) (by decide) dX8_append_53 rfl (by simp only [mlen]; omega) y1 ?_
      refine g_aload_n ok dX8_append_54 rfl ?_
      refine m_get ok hA 10 q2245 (by decide) dX8_append_55 (v := .int (nI ((nn (s.I 10)) + 1))) rfl ?_
      exact g_iret ok fn rfl dX8_append_58 (pv_i (by unfold mAppend; rw [c13', if_pos rfl, if_neg h6]) (by unfold mAppend; rw [c13', if_pos rfl, if_neg h6])) (dk rfl)
  · have c13' := bI_e c13
    refine g_aload_n ok dX8_append_16 rfl ?_
    refine g_iconst ok (v := 1) dX8_append_17 rfl ?_
    refine g_callV ok q2362 q2364 qs33 q75 q2365 (m_recv ok hA) dX8_append_18 (m_raises X.l X.G hA (h0 := h0) (mI s 20 0) 1) (nm_ (by decide : nmb _ 1 = true)) (dl rfl) (dk rfl) rfl rfl (dk rfl) (dk rfl) (kV ?_) xV
    exact g_iret ok fn rfl dX8_append_21 (pv_i (by unfold mAppend; rw [c13']; rfl) (by unfold mAppend; rw [c13']; rfl)) (dk rfl)
theorem m_errorPosition (l : Launch) (G : GE) {h0 : AH} {ad : Nat → Nat} (hA : MAd ad) (s : MS)  : GM l G yX8_errorPosition (ws_ yX8_errorPosition cX8_errorPosition 1 (some .int)) 2 [.ref (ad 20)] (mput G h0 ad s) (0) (PV (.int (mErr s ).1) (mput G h0 ad (mErr s ).2)) := by
  refine GM.of (by decide) (dk rfl) ?_
  intro X eL eG eh ok fn
  subst eL; subst eG
  show GW X _ 0 0 [some (.ref (ad 20))] []
  refine g_aload_n ok dX8_errorPosition_0 rfl ?_
  refine g_iconst ok (v := 0) dX8_errorPosition_1 rfl ?_
  refine m_put ok hA 20 q2255 (by decide) dX8_errorPosition_2 ⟨rfl, rfl⟩ ?_
  refine g_aload_n ok dX8_errorPosition_5 rfl ?_
  refine m_get ok hA 14 q2249 (by decide) dX8_errorPosition_6 (v := .int (MS.I s 14)) rfl ?_
  refine g_if_ge ok (tgt := 20) dX8_errorPosition_9 (by decide) (fun c9 => ?_) (fun c9 => ?_)
  · have c9' := Int32.not_lt.mpr c9
    refine g_aload_n ok dX8_errorPosition_20 rfl ?_
    refine m_get ok hA 14 q2249 (by decide) dX8_errorPosition_21 (v := .int (MS.I s 14)) rfl ?_
    exact g_iret ok fn rfl dX8_errorPosition_24 (pv_i (by simp [mErr, mI_A, mI_I, c9, c9']) (by simp [mErr, mI_A, mI_I, c9, c9'])) (dk rfl)
  · have c9' := Int32.not_le.mp c9
    refine g_aload_n ok dX8_errorPosition_12 rfl ?_
    refine g_iconst ok (v := 1) dX8_errorPosition_13 rfl ?_
    refine g_callV ok q2362 q2364 qs33 q75 q2365 (m_recv ok hA) dX8_errorPosition_14 (m_raises X.l X.G hA (h0 := h0) (mI s 20 0) 1) (nm_ (by decide : nmb _ 1 = true)) (dl rfl) (dk rfl) rfl rfl (dk rfl) (dk rfl) (kV ?_) xV
    refine g_goto ok dX8_errorPosition_17 (tgt := 24) (by decide) ?_
    exact g_iret ok fn rfl dX8_errorPosition_24 (pv_i (by simp [mErr, mI_A, mI_I, c9, c9']) (by simp [mErr, mI_A, mI_I, c9, c9'])) (dk rfl)
theorem m_reason (l : Launch) (G : GE) {h0 : AH} {ad : Nat → Nat} (hA : MAd ad) (s : MS) (z : Int32) : GM l G yX8_reason (ws_ yX8_reason cX8_reason 2 (some .int)) 2 [.ref (ad 20), .int z] (mput G h0 ad s) (0) (PV (.int (mReason s z).1) (mput G h0 ad (mReason s z).2)) := by
  refine GM.of (by decide) (dk rfl) ?_
  intro X eL eG eh ok fn
  subst eL; subst eG
  show GW X _ 0 0 [some (.ref (ad 20)), some (.int z)] []
  refine g_aload_n ok dX8_reason_0 rfl ?_
  refine g_iconst ok (v := 0) dX8_reason_1 rfl ?_
  refine m_put ok hA 20 q2255 (by decide) dX8_reason_2 ⟨rfl, rfl⟩ ?_
  refine g_aload_n ok dX8_reason_5 rfl ?_
  refine m_get ok hA 15 q2250 (by decide) dX8_reason_6 (v := .int (MS.I s 15)) rfl ?_
  refine g_if_ne ok (tgt := 18) dX8_reason_9 (by decide) (fun c9 => ?_) (fun c9 => ?_)
  · refine g_iload_n ok dX8_reason_18 rfl ?_
    refine g_if_eq ok (tgt := 29) dX8_reason_19 (by decide) (fun c19 => ?_) (fun c19 => ?_)
    · refine g_aload_n ok dX8_reason_29 rfl ?_
      refine m_get ok hA 15 q2250 (by decide) dX8_reason_30 (v := .int (MS.I s 15)) rfl ?_
      exact g_iret ok fn rfl dX8_reason_33 (pv_i (by simp [mReason, mI_A, mI_I, c9, c19]) (by simp [mReason, mI_A, mI_I, c9, c19])) (dk rfl)
    · refine g_aload_n ok dX8_reason_22 rfl ?_
      refine m_get ok hA 16 q2251 (by decide) dX8_reason_23 (v := .int (MS.I s 16)) rfl ?_
      refine g_goto ok dX8_reason_26 (tgt := 33) (by decide) ?_
      exact g_iret ok fn rfl dX8_reason_33 (pv_i (by simp [mReason, mI_A, mI_I, c9, c19]) (by simp [mReason, mI_A, mI_I, c9, c19])) (dk rfl)
  · refine g_aload_n ok dX8_reason_12 rfl ?_
    refine g_iconst ok (v := 1) dX8_reason_13 rfl ?_
    refine g_callV ok q2362 q2364 qs33 q75 q2365 (m_recv ok hA) dX8_reason_14 (m_raises X.l X.G hA (h0 := h0) (mI s 20 0) 1) (nm_ (by decide : nmb _ 1 = true)) (dl rfl) (dk rfl) rfl rfl (dk rfl) (dk rfl) (kV ?_) xV
    exact g_iret ok fn rfl dX8_reason_17 (pv_i (by simp [mReason, mI_A, mI_I, c9]) (by simp [mReason, mI_A, mI_I, c9])) (dk rfl)
theorem m_undo (l : Launch) (G : GE) {h0 : AH} {ad : Nat → Nat} (hA : MAd ad) (s : MS) (y0 : mUo s) : GM l G yX8_undo (ws_ yX8_undo cX8_undo 2 (some .int)) 3 [.ref (ad 20)] (mput G h0 ad s) (0) (PV (.int (mUndo s ).1) (mput G h0 ad (mUndo s ).2)) := by
  refine GM.of (by decide) (dk rfl) ?_
  intro X eL eG eh ok fn
  subst eL; subst eG
  show GW X _ 0 0 [some (.ref (ad 20)), none] []
  obtain ⟨h1, h2⟩ := y0
  refine g_aload_n ok dX8_undo_0 rfl ?_
  refine g_iconst ok (v := 0) dX8_undo_1 rfl ?_
  refine m_put ok hA 20 q2255 (by decide) dX8_undo_2 ⟨rfl, rfl⟩ ?_
  refine g_aload_n ok dX8_undo_5 rfl ?_
  refine m_get ok hA 4 q2239 (by decide) dX8_undo_6 (v := .int (nI (mU s))) (congrArg (fun z => some (Value.int z)) h1) ?_
  by_cases h0_ : mU s = 0
  · refine g_if_ne ok (tgt := 18) dX8_undo_9 (by decide) (fun c_ => absurd (congrArg nI (by omega : (mU s) = 0)) c_) (fun _ => ?_)
    refine g_aload_n ok dX8_undo_12 rfl ?_
    refine g_iconst ok (v := 1) dX8_undo_13 rfl ?_
    refine g_callV ok q2362 q2364 qs33 q75 q2365 (m_recv ok hA) dX8_undo_14 (m_raises X.l X.G hA (h0 := h0) (mI s 20 0) 1) (nm_ (by decide : nmb _ 1 = true)) (dl rfl) (dk rfl) rfl rfl (dk rfl) (dk rfl) (kV ?_) xV
    exact g_iret ok fn rfl dX8_undo_17 (pv_i (by unfold mUndo; rw [h0_]; rfl) (by unfold mUndo; rw [h0_]; rfl)) (dk rfl)
  · refine g_if_ne ok (tgt := 18) dX8_undo_9 (by decide) (fun _ => ?_) (fun c_ => absurd c_ (fun e_ => by have := (nI_eq (a := (mU s)) (b := 0) (by omega) (by omega)).mp e_; omega))
    have hs_ : mUndo s = (nI (mU s - 1), cpl 0 0 3 (442 * (mU s - 1)) 442 0 (mI (mI s 20 0) 4 (nI (mU s - 1)))) := by unfold mUndo; rw [if_neg h0_]
    rw [hs_] at fn
    clear hs_
    obtain ⟨u, hu⟩ : ∃ u, mU s = u + 1 := ⟨mU s - 1, by omega⟩
    rw [hu] at fn h1
    have eu : u + 1 - 1 = u := rfl
    rw [eu] at fn
    refine g_aload_n ok dX8_undo_18 rfl ?_
    refine g_dup ok dX8_undo_19 rfl ?_
    refine m_get ok hA 4 q2239 (by decide) dX8_undo_20 (v := .int (nI (u + 1))) (congrArg (fun z => some (Value.int z)) h1) ?_
    refine g_iconst ok (v := 1) dX8_undo_23 rfl ?_
    refine g_isubN ok dX8_undo_24 (c := u) (a := (u + 1)) (b := 1) rfl rfl (by omega) (by omega) ?_
    refine m_put ok hA 4 q2239 (by decide) dX8_undo_25 ⟨rfl, rfl⟩ ?_
    refine g_iconst ok (v := 0) dX8_undo_28 rfl ?_
    refine g_istore_n ok dX8_undo_29 (ls1 := [some (.ref (ad 20)), some (.int 0)]) (dl rfl) rfl ?_
    have lp : ∀ (n : Nat) (c : Nat) (t : MS), (c + n = 442) → (cpl 0 0 3 (442 * u) n c t = cpl 0 0 3 (442 * u) 442 0 (mI (mI s 20 0) 4 (nI u))) → (t.I 4 = nI u) → GW X (mput X.G h0 ad t) 0 30 [some (.ref (ad 20)), some (.int (nI c))] [] := by
      intro n
      induction n with
      | zero =>
        intro c t g0 g1 g2
        refine g_iload_n ok dX8_undo_30 rfl ?_
        refine g_sipush ok (v := 442) dX8_undo_31 rfl ?_
        refine g_icmp_ge ok (tgt := 64) dX8_undo_34 (by decide) (fun _ => ?_) (fun c_ => absurd (nI_le (a := 442) (b := c) (by omega) (by omega)) c_)
        have g1 : t = cpl 0 0 3 (442 * u) 442 0 (mI (mI s 20 0) 4 (nI u)) := g1
        subst g1
        refine g_aload_n ok dX8_undo_64 rfl ?_
        refine m_get ok hA 4 q2239 (by decide) dX8_undo_65 (v := .int (nI u)) (congrArg (fun z => some (Value.int z)) g2) ?_
        exact g_iret ok fn rfl dX8_undo_68 (pv_i rfl rfl) (dk rfl)
      | succ n ih =>
        intro c t g0 g1 g2
        refine g_iload_n ok dX8_undo_30 rfl ?_
        refine g_sipush ok (v := 442) dX8_undo_31 rfl ?_
        refine g_icmp_ge ok (tgt := 64) dX8_undo_34 (by decide) (fun c_ => absurd c_ (nI_ge (a := c) (b := 442) (by omega) (by omega))) (fun _ => ?_)
        refine g_aload_n ok dX8_undo_37 rfl ?_
        refine m_get ok hA 0 q2235 (by decide) dX8_undo_38 (v := .ref (ad 0)) rfl ?_
        refine g_iload_n ok dX8_undo_41 rfl ?_
        refine g_aload_n ok dX8_undo_42 rfl ?_
        refine m_get ok hA 3 q2238 (by decide) dX8_undo_43 (v := .ref (ad 3)) rfl ?_
        refine g_sipush ok (v := 442) dX8_undo_46 rfl ?_
        refine g_aload_n ok dX8_undo_49 rfl ?_
        refine m_get ok hA 4 q2239 (by decide) dX8_undo_50 (v := .int (nI u)) (congrArg (fun z => some (Value.int z)) g2) ?_
        refine g_imulN ok dX8_undo_53 (c := (442 * u)) (a := 442) (b := u) rfl rfl rfl ?_
        refine g_iload_n ok dX8_undo_54 rfl ?_
        refine g_iaddN ok dX8_undo_55 (c := ((442 * u) + c)) (a := (442 * u)) (b := c) rfl rfl rfl ?_
        refine m_ald ok hA 3 ((442 * u) + c) (v := (MS.A t 3 ((442 * u) + c))) (by decide) dX8_undo_56 rfl (by simp only [mlen]; omega) rfl ?_
        refine m_ast ok hA 0 c (by decide) dX8_undo_57 rfl (by simp only [mlen]; omega) ?_
        refine g_iincN ok dX8_undo_58 (c := c) rfl rfl (ls1 := [some (.ref (ad 20)), some (.int (nI (c + 1)))]) rfl ?_
        refine g_goto ok dX8_undo_61 (tgt := 30) (by decide) ?_
        exact ih _ _ (by omega) (cpl_z1 g1) g2
    exact lp 442 0 _ (by omega) rfl (by rw [mI_I, upd_at])
theorem m_save (l : Launch) (G : GE) {h0 : AH} {ad : Nat → Nat} (hA : MAd ad) (s : MS)  : GM l G yX8_save (ws_ yX8_save cX8_save 2 (some .int)) 3 [.ref (ad 20)] (mput G h0 ad s) (0) (PV (.int (mSave s ).1) (mput G h0 ad (mSave s ).2)) := by
  refine GM.of (by decide) (dk rfl) ?_
  intro X eL eG eh ok fn
  subst eL; subst eG
  show GW X _ 0 0 [some (.ref (ad 20)), none] []
  have hs_ : mSave s = (sm ((cpl 5 0 0 0 442 0 (mI (mI s 20 0) 6 1)).A 0) 32 0 0, cpl 5 0 0 0 442 0 (mI (mI s 20 0) 6 1)) := rfl
  rw [hs_] at fn
  clear hs_
  refine g_aload_n ok dX8_save_0 rfl ?_
  refine g_iconst ok (v := 0) dX8_save_1 rfl ?_
  refine m_put ok hA 20 q2255 (by decide) dX8_save_2 ⟨rfl, rfl⟩ ?_
  refine g_aload_n ok dX8_save_5 rfl ?_
  refine g_iconst ok (v := 1) dX8_save_6 rfl ?_
  refine m_put ok hA 6 q2241 (by decide) dX8_save_7 ⟨rfl, rfl⟩ ?_
  refine g_iconst ok (v := 0) dX8_save_10 rfl ?_
  refine g_istore_n ok dX8_save_11 (ls1 := [some (.ref (ad 20)), some (.int 0)]) (dl rfl) rfl ?_
  have lp : ∀ (n : Nat) (c : Nat) (t : MS), (c + n = 442) → (cpl 5 0 0 0 n c t = cpl 5 0 0 0 442 0 (mI (mI s 20 0) 6 1)) → GW X (mput X.G h0 ad t) 0 12 [some (.ref (ad 20)), some (.int (nI c))] [] := by
    intro n
    induction n with
    | zero =>
      intro c t g0 g1
      refine g_iload_n ok dX8_save_12 rfl ?_
      refine g_sipush ok (v := 442) dX8_save_13 rfl ?_
      refine g_icmp_ge ok (tgt := 37) dX8_save_16 (by decide) (fun _ => ?_) (fun c_ => absurd (nI_le (a := 442) (b := c) (by omega) (by omega)) c_)
      have g1 : t = cpl 5 0 0 0 442 0 (mI (mI s 20 0) 6 1) := g1
      subst g1
      have g0 : c = 442 := by omega
      subst g0
      refine g_aload_n ok dX8_save_37 rfl ?_
      refine g_iconst ok (v := 0) dX8_save_38 rfl ?_
      refine g_bipush ok (v := 31) dX8_save_39 rfl ?_
      refine g_callV ok q2346 q2348 qs29 q75 q2349 (m_recv ok hA) dX8_save_41 (m_sumN X.l X.G hA (h0 := h0) (cpl 5 0 0 0 442 0 (mI (mI s 20 0) 6 1)) 0 31 (by omega) (by omega)) (nm_ (by decide : nmb _ 2 = true)) (dl rfl) (dk rfl) rfl rfl (dk rfl) (dk rfl) (kV ?_) xV
      exact g_iret ok fn rfl dX8_save_44 (pv_i rfl rfl) (dk rfl)
    | succ n ih =>
      intro c t g0 g1
      refine g_iload_n ok dX8_save_12 rfl ?_
      refine g_sipush ok (v := 442) dX8_save_13 rfl ?_
      refine g_icmp_ge ok (tgt := 37) dX8_save_16 (by decide) (fun c_ => absurd c_ (nI_ge (a := c) (b := 442) (by omega) (by omega))) (fun _ => ?_)
      refine g_aload_n ok dX8_save_19 rfl ?_
      refine m_get ok hA 5 q2240 (by decide) dX8_save_20 (v := .ref (ad 5)) rfl ?_
      refine g_iload_n ok dX8_save_23 rfl ?_
      refine g_aload_n ok dX8_save_24 rfl ?_
      refine m_get ok hA 0 q2235 (by decide) dX8_save_25 (v := .ref (ad 0)) rfl ?_
      refine g_iload_n ok dX8_save_28 rfl ?_
      refine m_ald ok hA 0 c (v := (MS.A t 0 c)) (by decide) dX8_save_29 rfl (by simp only [mlen]; omega) rfl ?_
      refine m_ast ok hA 5 c (by decide) dX8_save_30 rfl (by simp only [mlen]; omega) ?_
      refine g_iincN ok dX8_save_31 (c := c) rfl rfl (ls1 := [some (.ref (ad 20)), some (.int (nI (c + 1)))]) rfl ?_
      refine g_goto ok dX8_save_34 (tgt := 12) (by decide) ?_
      exact ih _ _ (by omega) (cpl_z g1)
  exact lp 442 0 _ (by omega) rfl
theorem m_restore (l : Launch) (G : GE) {h0 : AH} {ad : Nat → Nat} (hA : MAd ad) (s : MS)  : GM l G yX8_restore (ws_ yX8_restore cX8_restore 2 (some .int)) 3 [.ref (ad 20)] (mput G h0 ad s) (0) (PV (.int (mRestore s ).1) (mput G h0 ad (mRestore s ).2)) := by
  refine GM.of (by decide) (dk rfl) ?_
  intro X eL eG eh ok fn
  subst eL; subst eG
  show GW X _ 0 0 [some (.ref (ad 20)), none] []
  refine g_aload_n ok dX8_restore_0 rfl ?_
  refine g_iconst ok (v := 0) dX8_restore_1 rfl ?_
  refine m_put ok hA 20 q2255 (by decide) dX8_restore_2 ⟨rfl, rfl⟩ ?_
  refine g_aload_n ok dX8_restore_5 rfl ?_
  refine m_get ok hA 6 q2241 (by decide) dX8_restore_6 (v := .int (MS.I s 6)) rfl ?_
  refine g_if_ne ok (tgt := 18) dX8_restore_9 (by decide) (fun c9 => ?_) (fun c9 => ?_)
  · have hs_ : mRestore s = (sm ((reS s).A 0) 32 0 0, reS s) := by unfold mRestore; rw [if_neg c9]
    rw [hs_] at fn
    clear hs_
    unfold reS at fn
    refine g_iconst ok (v := 0) dX8_restore_18 rfl ?_
    refine g_istore_n ok dX8_restore_19 (ls1 := [some (.ref (ad 20)), some (.int 0)]) (dl rfl) rfl ?_
    have lp : ∀ (n : Nat) (c : Nat) (t : MS), (c + n = 442) → (cpl 0 0 5 0 n c t = cpl 0 0 5 0 442 0 (mI s 20 0)) → GW X (mput X.G h0 ad t) 0 20 [some (.ref (ad 20)), some (.int (nI c))] [] := by
      intro n
      induction n with
      | zero =>
        intro c t g0 g1
        refine g_iload_n ok dX8_restore_20 rfl ?_
        refine g_sipush ok (v := 442) dX8_restore_21 rfl ?_
        refine g_icmp_ge ok (tgt := 45) dX8_restore_24 (by decide) (fun _ => ?_) (fun c_ => absurd (nI_le (a := 442) (b := c) (by omega) (by omega)) c_)
        have g1 : t = cpl 0 0 5 0 442 0 (mI s 20 0) := g1
        subst g1
        have g0 : c = 442 := by omega
        subst g0
        refine g_aload_n ok dX8_restore_45 rfl ?_
        refine g_iconst ok (v := 0) dX8_restore_46 rfl ?_
        refine m_put ok hA 4 q2239 (by decide) dX8_restore_47 ⟨rfl, rfl⟩ ?_
        refine g_aload_n ok dX8_restore_50 rfl ?_
        refine g_iconst ok (v := 0) dX8_restore_51 rfl ?_
        refine g_bipush ok (v := 31) dX8_restore_52 rfl ?_
        refine g_callV ok q2346 q2348 qs29 q75 q2349 (m_recv ok hA) dX8_restore_54 (m_sumN X.l X.G hA (h0 := h0) (mI (cpl 0 0 5 0 442 0 (mI s 20 0)) 4 0) 0 31 (by omega) (by omega)) (nm_ (by decide : nmb _ 2 = true)) (dl rfl) (dk rfl) rfl rfl (dk rfl) (dk rfl) (kV (v := .int (sm (MS.A (cpl 0 0 5 0 442 0 (mI s 20 0)) 0) (31 + 1 - 0) 0 0)) ?_) xV
        exact g_iret ok fn rfl dX8_restore_57 (pv_i (by simp only [mI_A]) rfl) (dk rfl)
      | succ n ih =>
        intro c t g0 g1
        refine g_iload_n ok dX8_restore_20 rfl ?_
        refine g_sipush ok (v := 442) dX8_restore_21 rfl ?_
        refine g_icmp_ge ok (tgt := 45) dX8_restore_24 (by decide) (fun c_ => absurd c_ (nI_ge (a := c) (b := 442) (by omega) (by omega))) (fun _ => ?_)
        refine g_aload_n ok dX8_restore_27 rfl ?_
        refine m_get ok hA 0 q2235 (by decide) dX8_restore_28 (v := .ref (ad 0)) rfl ?_
        refine g_iload_n ok dX8_restore_31 rfl ?_
        refine g_aload_n ok dX8_restore_32 rfl ?_
        refine m_get ok hA 5 q2240 (by decide) dX8_restore_33 (v := .ref (ad 5)) rfl ?_
        refine g_iload_n ok dX8_restore_36 rfl ?_
        refine m_ald ok hA 5 c (v := (MS.A t 5 c)) (by decide) dX8_restore_37 rfl (by simp only [mlen]; omega) rfl ?_
        refine m_ast ok hA 0 c (by decide) dX8_restore_38 rfl (by simp only [mlen]; omega) ?_
        refine g_iincN ok dX8_restore_39 (c := c) rfl rfl (ls1 := [some (.ref (ad 20)), some (.int (nI (c + 1)))]) rfl ?_
        refine g_goto ok dX8_restore_42 (tgt := 20) (by decide) ?_
        exact ih _ _ (by omega) (cpl_z g1)
    exact lp 442 0 _ (by omega) rfl
  · refine g_aload_n ok dX8_restore_12 rfl ?_
    refine g_iconst ok (v := 1) dX8_restore_13 rfl ?_
    refine g_callV ok q2362 q2364 qs33 q75 q2365 (m_recv ok hA) dX8_restore_14 (m_raises X.l X.G hA (h0 := h0) (mI s 20 0) 1) (nm_ (by decide : nmb _ 1 = true)) (dl rfl) (dk rfl) rfl rfl (dk rfl) (dk rfl) (kV ?_) xV
    exact g_iret ok fn rfl dX8_restore_17 (pv_i (by simp [mRestore, mI_A, mI_I, c9]) (by simp [mRestore, mI_A, mI_I, c9])) (dk rfl)
