/-! THE MODEL: what its methods compute, 4 -/
set_option maxRecDepth 100000
abbrev cX8_note : ByteArray := prog_19_method_29_code
def yX8_note : MethodName := ⟨RX8, "note", "(IIIII)I"⟩
def dkwX8_note_6 : List UInt8 := [46, 4, 96, 79, 42, 21, 6, 4, 96, 182, 0, 54, 172]
abbrev dktX8_note_6 : List UInt8 := dkwX8_note_6 ++ []
def dkwX8_note_5 : List UInt8 := [21, 7, 6, 96, 21, 4, 79, 42, 180, 0, 9, 21, 7, 7, 96, 21, 5, 79, 42, 180, 0, 9, 4, 92]
abbrev dktX8_note_5 : List UInt8 := dkwX8_note_5 ++ dktX8_note_6
def dkwX8_note_4 : List UInt8 := [180, 0, 9, 21, 7, 4, 96, 28, 79, 42, 180, 0, 9, 21, 7, 5, 96, 29, 79, 42, 180, 0, 9]
abbrev dktX8_note_4 : List UInt8 := dkwX8_note_4 ++ dktX8_note_5
def dkwX8_note_3 : List UInt8 := [182, 0, 113, 172, 16, 72, 8, 21, 6, 104, 96, 54, 7, 42, 180, 0, 9, 21, 7, 27, 79, 42]
abbrev dktX8_note_3 : List UInt8 := dkwX8_note_3 ++ dktX8_note_4
def dkwX8_note_2 : List UInt8 := [180, 0, 9, 4, 46, 54, 6, 21, 6, 16, 10, 160, 0, 15, 42, 42, 4, 16, 10, 182, 0, 93]
abbrev dktX8_note_2 : List UInt8 := dkwX8_note_2 ++ dktX8_note_3
def dkwX8_note_1 : List UInt8 := [184, 0, 86, 153, 0, 14, 21, 5, 4, 16, 20, 184, 0, 67, 154, 0, 9, 42, 4, 182, 0, 58, 172, 42]
abbrev dktX8_note_1 : List UInt8 := dkwX8_note_1 ++ dktX8_note_2
def dkwX8_note_0 : List UInt8 := [42, 182, 0, 107, 27, 3, 5, 184, 0, 67, 153, 0, 31, 28, 29, 184, 0, 82, 153, 0, 23, 27, 21, 4]
abbrev dktX8_note_0 : List UInt8 := dkwX8_note_0 ++ dktX8_note_1
theorem dksX8_note_0 : cX8_note.data.toList.drop 0 = dktX8_note_0 := by decide +kernel
theorem dksX8_note_1 : cX8_note.data.toList.drop 24 = dktX8_note_1 := dk_seg dksX8_note_0 24 rfl rfl
theorem dksX8_note_2 : cX8_note.data.toList.drop 48 = dktX8_note_2 := dk_seg dksX8_note_1 24 rfl rfl
theorem dksX8_note_3 : cX8_note.data.toList.drop 70 = dktX8_note_3 := dk_seg dksX8_note_2 22 rfl rfl
theorem dksX8_note_4 : cX8_note.data.toList.drop 92 = dktX8_note_4 := dk_seg dksX8_note_3 22 rfl rfl
theorem dksX8_note_5 : cX8_note.data.toList.drop 115 = dktX8_note_5 := dk_seg dksX8_note_4 23 rfl rfl
theorem dksX8_note_6 : cX8_note.data.toList.drop 139 = dktX8_note_6 := dk_seg dksX8_note_5 24 rfl rfl
theorem dX8_note_0 : decode cX8_note 0 = .ok (.aload_n 0, 1) := dk_42 (dk_at dksX8_note_0 0 rfl rfl)
theorem dX8_note_1 : decode cX8_note 1 = .ok (.invokevirtual 107, 3) := dk_182 0 107 (dk_at dksX8_note_0 1 rfl rfl)
theorem dX8_note_4 : decode cX8_note 4 = .ok (.iload_n 1, 1) := dk_27 (dk_at dksX8_note_0 4 rfl rfl)
theorem dX8_note_5 : decode cX8_note 5 = .ok (.iconst 0, 1) := dk_3 (dk_at dksX8_note_0 5 rfl rfl)
theorem dX8_note_6 : decode cX8_note 6 = .ok (.iconst 2, 1) := dk_5 (dk_at dksX8_note_0 6 rfl rfl)
theorem dX8_note_7 : decode cX8_note 7 = .ok (.invokestatic 67, 3) := dk_184 0 67 (dk_at dksX8_note_0 7 rfl rfl)
theorem dX8_note_10 : decode cX8_note 10 = .ok (.ifCond .eq 31, 3) := dk_153 0 31 (dk_at dksX8_note_0 10 rfl rfl)
theorem dX8_note_13 : decode cX8_note 13 = .ok (.iload_n 2, 1) := dk_28 (dk_at dksX8_note_0 13 rfl rfl)
theorem dX8_note_14 : decode cX8_note 14 = .ok (.iload_n 3, 1) := dk_29 (dk_at dksX8_note_0 14 rfl rfl)
theorem dX8_note_15 : decode cX8_note 15 = .ok (.invokestatic 82, 3) := dk_184 0 82 (dk_at dksX8_note_0 15 rfl rfl)
theorem dX8_note_18 : decode cX8_note 18 = .ok (.ifCond .eq 23, 3) := dk_153 0 23 (dk_at dksX8_note_0 18 rfl rfl)
theorem dX8_note_21 : decode cX8_note 21 = .ok (.iload_n 1, 1) := dk_27 (dk_at dksX8_note_0 21 rfl rfl)
theorem dX8_note_22 : decode cX8_note 22 = .ok (.iload 4, 2) := dk_21 4 (dk_at dksX8_note_0 22 rfl rfl)
theorem dX8_note_24 : decode cX8_note 24 = .ok (.invokestatic 86, 3) := dk_184 0 86 (dk_at dksX8_note_1 0 rfl rfl)
theorem dX8_note_27 : decode cX8_note 27 = .ok (.ifCond .eq 14, 3) := dk_153 0 14 (dk_at dksX8_note_1 3 rfl rfl)
theorem dX8_note_30 : decode cX8_note 30 = .ok (.iload 5, 2) := dk_21 5 (dk_at dksX8_note_1 6 rfl rfl)
theorem dX8_note_32 : decode cX8_note 32 = .ok (.iconst 1, 1) := dk_4 (dk_at dksX8_note_1 8 rfl rfl)
theorem dX8_note_33 : decode cX8_note 33 = .ok (.bipush 20, 2) := dk_16 20 (dk_at dksX8_note_1 9 rfl rfl)
theorem dX8_note_35 : decode cX8_note 35 = .ok (.invokestatic 67, 3) := dk_184 0 67 (dk_at dksX8_note_1 11 rfl rfl)
theorem dX8_note_38 : decode cX8_note 38 = .ok (.ifCond .ne 9, 3) := dk_154 0 9 (dk_at dksX8_note_1 14 rfl rfl)
theorem dX8_note_41 : decode cX8_note 41 = .ok (.aload_n 0, 1) := dk_42 (dk_at dksX8_note_1 17 rfl rfl)
theorem dX8_note_42 : decode cX8_note 42 = .ok (.iconst 1, 1) := dk_4 (dk_at dksX8_note_1 18 rfl rfl)
theorem dX8_note_43 : decode cX8_note 43 = .ok (.invokevirtual 58, 3) := dk_182 0 58 (dk_at dksX8_note_1 19 rfl rfl)
theorem dX8_note_46 : decode cX8_note 46 = .ok (.ireturn, 1) := dk_172 (dk_at dksX8_note_1 22 rfl rfl)
theorem dX8_note_47 : decode cX8_note 47 = .ok (.aload_n 0, 1) := dk_42 (dk_at dksX8_note_1 23 rfl rfl)
theorem dX8_note_48 : decode cX8_note 48 = .ok (.getfield 9, 3) := dk_180 0 9 (dk_at dksX8_note_2 0 rfl rfl)
theorem dX8_note_51 : decode cX8_note 51 = .ok (.iconst 1, 1) := dk_4 (dk_at dksX8_note_2 3 rfl rfl)
theorem dX8_note_52 : decode cX8_note 52 = .ok (.iaload, 1) := dk_46 (dk_at dksX8_note_2 4 rfl rfl)
theorem dX8_note_53 : decode cX8_note 53 = .ok (.istore 6, 2) := dk_54 6 (dk_at dksX8_note_2 5 rfl rfl)
theorem dX8_note_55 : decode cX8_note 55 = .ok (.iload 6, 2) := dk_21 6 (dk_at dksX8_note_2 7 rfl rfl)
theorem dX8_note_57 : decode cX8_note 57 = .ok (.bipush 10, 2) := dk_16 10 (dk_at dksX8_note_2 9 rfl rfl)
theorem dX8_note_59 : decode cX8_note 59 = .ok (.if_icmp .ne 15, 3) := dk_160 0 15 (dk_at dksX8_note_2 11 rfl rfl)
theorem dX8_note_62 : decode cX8_note 62 = .ok (.aload_n 0, 1) := dk_42 (dk_at dksX8_note_2 14 rfl rfl)
theorem dX8_note_63 : decode cX8_note 63 = .ok (.aload_n 0, 1) := dk_42 (dk_at dksX8_note_2 15 rfl rfl)
theorem dX8_note_64 : decode cX8_note 64 = .ok (.iconst 1, 1) := dk_4 (dk_at dksX8_note_2 16 rfl rfl)
theorem dX8_note_65 : decode cX8_note 65 = .ok (.bipush 10, 2) := dk_16 10 (dk_at dksX8_note_2 17 rfl rfl)
theorem dX8_note_67 : decode cX8_note 67 = .ok (.invokevirtual 93, 3) := dk_182 0 93 (dk_at dksX8_note_2 19 rfl rfl)
theorem dX8_note_70 : decode cX8_note 70 = .ok (.invokevirtual 113, 3) := dk_182 0 113 (dk_at dksX8_note_3 0 rfl rfl)
theorem dX8_note_73 : decode cX8_note 73 = .ok (.ireturn, 1) := dk_172 (dk_at dksX8_note_3 3 rfl rfl)
theorem dX8_note_74 : decode cX8_note 74 = .ok (.bipush 72, 2) := dk_16 72 (dk_at dksX8_note_3 4 rfl rfl)
theorem dX8_note_76 : decode cX8_note 76 = .ok (.iconst 5, 1) := dk_8 (dk_at dksX8_note_3 6 rfl rfl)
theorem dX8_note_77 : decode cX8_note 77 = .ok (.iload 6, 2) := dk_21 6 (dk_at dksX8_note_3 7 rfl rfl)
theorem dX8_note_79 : decode cX8_note 79 = .ok (.imul, 1) := dk_104 (dk_at dksX8_note_3 9 rfl rfl)
theorem dX8_note_80 : decode cX8_note 80 = .ok (.iadd, 1) := dk_96 (dk_at dksX8_note_3 10 rfl rfl)
theorem dX8_note_81 : decode cX8_note 81 = .ok (.istore 7, 2) := dk_54 7 (dk_at dksX8_note_3 11 rfl rfl)
theorem dX8_note_83 : decode cX8_note 83 = .ok (.aload_n 0, 1) := dk_42 (dk_at dksX8_note_3 13 rfl rfl)
theorem dX8_note_84 : decode cX8_note 84 = .ok (.getfield 9, 3) := dk_180 0 9 (dk_at dksX8_note_3 14 rfl rfl)
theorem dX8_note_87 : decode cX8_note 87 = .ok (.iload 7, 2) := dk_21 7 (dk_at dksX8_note_3 17 rfl rfl)
theorem dX8_note_89 : decode cX8_note 89 = .ok (.iload_n 1, 1) := dk_27 (dk_at dksX8_note_3 19 rfl rfl)
theorem dX8_note_90 : decode cX8_note 90 = .ok (.iastore, 1) := dk_79 (dk_at dksX8_note_3 20 rfl rfl)
theorem dX8_note_91 : decode cX8_note 91 = .ok (.aload_n 0, 1) := dk_42 (dk_at dksX8_note_3 21 rfl rfl)
theorem dX8_note_92 : decode cX8_note 92 = .ok (.getfield 9, 3) := dk_180 0 9 (dk_at dksX8_note_4 0 rfl rfl)
theorem dX8_note_95 : decode cX8_note 95 = .ok (.iload 7, 2) := dk_21 7 (dk_at dksX8_note_4 3 rfl rfl)
theorem dX8_note_97 : decode cX8_note 97 = .ok (.iconst 1, 1) := dk_4 (dk_at dksX8_note_4 5 rfl rfl)
theorem dX8_note_98 : decode cX8_note 98 = .ok (.iadd, 1) := dk_96 (dk_at dksX8_note_4 6 rfl rfl)
theorem dX8_note_99 : decode cX8_note 99 = .ok (.iload_n 2, 1) := dk_28 (dk_at dksX8_note_4 7 rfl rfl)
theorem dX8_note_100 : decode cX8_note 100 = .ok (.iastore, 1) := dk_79 (dk_at dksX8_note_4 8 rfl rfl)
theorem dX8_note_101 : decode cX8_note 101 = .ok (.aload_n 0, 1) := dk_42 (dk_at dksX8_note_4 9 rfl rfl)
theorem dX8_note_102 : decode cX8_note 102 = .ok (.getfield 9, 3) := dk_180 0 9 (dk_at dksX8_note_4 10 rfl rfl)
theorem dX8_note_105 : decode cX8_note 105 = .ok (.iload 7, 2) := dk_21 7 (dk_at dksX8_note_4 13 rfl rfl)
theorem dX8_note_107 : decode cX8_note 107 = .ok (.iconst 2, 1) := dk_5 (dk_at dksX8_note_4 15 rfl rfl)
theorem dX8_note_108 : decode cX8_note 108 = .ok (.iadd, 1) := dk_96 (dk_at dksX8_note_4 16 rfl rfl)
theorem dX8_note_109 : decode cX8_note 109 = .ok (.iload_n 3, 1) := dk_29 (dk_at dksX8_note_4 17 rfl rfl)
theorem dX8_note_110 : decode cX8_note 110 = .ok (.iastore, 1) := dk_79 (dk_at dksX8_note_4 18 rfl rfl)
theorem dX8_note_111 : decode cX8_note 111 = .ok (.aload_n 0, 1) := dk_42 (dk_at dksX8_note_4 19 rfl rfl)
theorem dX8_note_112 : decode cX8_note 112 = .ok (.getfield 9, 3) := dk_180 0 9 (dk_at dksX8_note_4 20 rfl rfl)
theorem dX8_note_115 : decode cX8_note 115 = .ok (.iload 7, 2) := dk_21 7 (dk_at dksX8_note_5 0 rfl rfl)
theorem dX8_note_117 : decode cX8_note 117 = .ok (.iconst 3, 1) := dk_6 (dk_at dksX8_note_5 2 rfl rfl)
theorem dX8_note_118 : decode cX8_note 118 = .ok (.iadd, 1) := dk_96 (dk_at dksX8_note_5 3 rfl rfl)
theorem dX8_note_119 : decode cX8_note 119 = .ok (.iload 4, 2) := dk_21 4 (dk_at dksX8_note_5 4 rfl rfl)
theorem dX8_note_121 : decode cX8_note 121 = .ok (.iastore, 1) := dk_79 (dk_at dksX8_note_5 6 rfl rfl)
theorem dX8_note_122 : decode cX8_note 122 = .ok (.aload_n 0, 1) := dk_42 (dk_at dksX8_note_5 7 rfl rfl)
theorem dX8_note_123 : decode cX8_note 123 = .ok (.getfield 9, 3) := dk_180 0 9 (dk_at dksX8_note_5 8 rfl rfl)
theorem dX8_note_126 : decode cX8_note 126 = .ok (.iload 7, 2) := dk_21 7 (dk_at dksX8_note_5 11 rfl rfl)
theorem dX8_note_128 : decode cX8_note 128 = .ok (.iconst 4, 1) := dk_7 (dk_at dksX8_note_5 13 rfl rfl)
theorem dX8_note_129 : decode cX8_note 129 = .ok (.iadd, 1) := dk_96 (dk_at dksX8_note_5 14 rfl rfl)
theorem dX8_note_130 : decode cX8_note 130 = .ok (.iload 5, 2) := dk_21 5 (dk_at dksX8_note_5 15 rfl rfl)
theorem dX8_note_132 : decode cX8_note 132 = .ok (.iastore, 1) := dk_79 (dk_at dksX8_note_5 17 rfl rfl)
theorem dX8_note_133 : decode cX8_note 133 = .ok (.aload_n 0, 1) := dk_42 (dk_at dksX8_note_5 18 rfl rfl)
theorem dX8_note_134 : decode cX8_note 134 = .ok (.getfield 9, 3) := dk_180 0 9 (dk_at dksX8_note_5 19 rfl rfl)
theorem dX8_note_137 : decode cX8_note 137 = .ok (.iconst 1, 1) := dk_4 (dk_at dksX8_note_5 22 rfl rfl)
theorem dX8_note_138 : decode cX8_note 138 = .ok (.dup2, 1) := dk_92 (dk_at dksX8_note_5 23 rfl rfl)
theorem dX8_note_139 : decode cX8_note 139 = .ok (.iaload, 1) := dk_46 (dk_at dksX8_note_6 0 rfl rfl)
theorem dX8_note_140 : decode cX8_note 140 = .ok (.iconst 1, 1) := dk_4 (dk_at dksX8_note_6 1 rfl rfl)
theorem dX8_note_141 : decode cX8_note 141 = .ok (.iadd, 1) := dk_96 (dk_at dksX8_note_6 2 rfl rfl)
theorem dX8_note_142 : decode cX8_note 142 = .ok (.iastore, 1) := dk_79 (dk_at dksX8_note_6 3 rfl rfl)
theorem dX8_note_143 : decode cX8_note 143 = .ok (.aload_n 0, 1) := dk_42 (dk_at dksX8_note_6 4 rfl rfl)
theorem dX8_note_144 : decode cX8_note 144 = .ok (.iload 6, 2) := dk_21 6 (dk_at dksX8_note_6 5 rfl rfl)
theorem dX8_note_146 : decode cX8_note 146 = .ok (.iconst 1, 1) := dk_4 (dk_at dksX8_note_6 7 rfl rfl)
theorem dX8_note_147 : decode cX8_note 147 = .ok (.iadd, 1) := dk_96 (dk_at dksX8_note_6 8 rfl rfl)
theorem dX8_note_148 : decode cX8_note 148 = .ok (.invokevirtual 54, 3) := dk_182 0 54 (dk_at dksX8_note_6 9 rfl rfl)
theorem dX8_note_151 : decode cX8_note 151 = .ok (.ireturn, 1) := dk_172 (dk_at dksX8_note_6 12 rfl rfl)
abbrev cX8_noted : ByteArray := prog_19_method_30_code
def yX8_noted : MethodName := ⟨RX8, "noted", "(II)I"⟩
def dkwX8_noted_0 : List UInt8 := [42, 180, 0, 9, 16, 72, 8, 27, 104, 96, 28, 96, 46, 172]
abbrev dktX8_noted_0 : List UInt8 := dkwX8_noted_0 ++ []
theorem dksX8_noted_0 : cX8_noted.data.toList.drop 0 = dktX8_noted_0 := by decide +kernel
theorem dX8_noted_0 : decode cX8_noted 0 = .ok (.aload_n 0, 1) := dk_42 (dk_at dksX8_noted_0 0 rfl rfl)
theorem dX8_noted_1 : decode cX8_noted 1 = .ok (.getfield 9, 3) := dk_180 0 9 (dk_at dksX8_noted_0 1 rfl rfl)
theorem dX8_noted_4 : decode cX8_noted 4 = .ok (.bipush 72, 2) := dk_16 72 (dk_at dksX8_noted_0 4 rfl rfl)
theorem dX8_noted_6 : decode cX8_noted 6 = .ok (.iconst 5, 1) := dk_8 (dk_at dksX8_noted_0 6 rfl rfl)
theorem dX8_noted_7 : decode cX8_noted 7 = .ok (.iload_n 1, 1) := dk_27 (dk_at dksX8_noted_0 7 rfl rfl)
theorem dX8_noted_8 : decode cX8_noted 8 = .ok (.imul, 1) := dk_104 (dk_at dksX8_noted_0 8 rfl rfl)
theorem dX8_noted_9 : decode cX8_noted 9 = .ok (.iadd, 1) := dk_96 (dk_at dksX8_noted_0 9 rfl rfl)
theorem dX8_noted_10 : decode cX8_noted 10 = .ok (.iload_n 2, 1) := dk_28 (dk_at dksX8_noted_0 10 rfl rfl)
theorem dX8_noted_11 : decode cX8_noted 11 = .ok (.iadd, 1) := dk_96 (dk_at dksX8_noted_0 11 rfl rfl)
theorem dX8_noted_12 : decode cX8_noted 12 = .ok (.iaload, 1) := dk_46 (dk_at dksX8_noted_0 12 rfl rfl)
theorem dX8_noted_13 : decode cX8_noted 13 = .ok (.ireturn, 1) := dk_172 (dk_at dksX8_noted_0 13 rfl rfl)
abbrev cX8_goes : ByteArray := prog_19_method_31_code
def yX8_goes : MethodName := ⟨RX8, "goes", "(I)V"⟩
def dkwX8_goes_2 : List UInt8 := [132, 2, 1, 167, 255, 224, 177]
abbrev dktX8_goes_2 : List UInt8 := dkwX8_goes_2 ++ []
def dkwX8_goes_1 : List UInt8 := [180, 0, 9, 4, 46, 104, 96, 162, 0, 23, 42, 180, 0, 9, 28, 42, 180, 0, 9, 28, 8, 96, 46, 79]
abbrev dktX8_goes_1 : List UInt8 := dkwX8_goes_1 ++ dktX8_goes_2
def dkwX8_goes_0 : List UInt8 := [42, 180, 0, 9, 4, 92, 46, 4, 100, 79, 16, 72, 8, 27, 104, 96, 61, 28, 16, 72, 8, 42]
abbrev dktX8_goes_0 : List UInt8 := dkwX8_goes_0 ++ dktX8_goes_1
theorem dksX8_goes_0 : cX8_goes.data.toList.drop 0 = dktX8_goes_0 := by decide +kernel
theorem dksX8_goes_1 : cX8_goes.data.toList.drop 22 = dktX8_goes_1 := dk_seg dksX8_goes_0 22 rfl rfl
theorem dksX8_goes_2 : cX8_goes.data.toList.drop 46 = dktX8_goes_2 := dk_seg dksX8_goes_1 24 rfl rfl
theorem dX8_goes_0 : decode cX8_goes 0 = .ok (.aload_n 0, 1) := dk_42 (dk_at dksX8_goes_0 0 rfl rfl)
theorem dX8_goes_1 : decode cX8_goes 1 = .ok (.getfield 9, 3) := dk_180 0 9 (dk_at dksX8_goes_0 1 rfl rfl)
theorem dX8_goes_4 : decode cX8_goes 4 = .ok (.iconst 1, 1) := dk_4 (dk_at dksX8_goes_0 4 rfl rfl)
theorem dX8_goes_5 : decode cX8_goes 5 = .ok (.dup2, 1) := dk_92 (dk_at dksX8_goes_0 5 rfl rfl)
theorem dX8_goes_6 : decode cX8_goes 6 = .ok (.iaload, 1) := dk_46 (dk_at dksX8_goes_0 6 rfl rfl)
theorem dX8_goes_7 : decode cX8_goes 7 = .ok (.iconst 1, 1) := dk_4 (dk_at dksX8_goes_0 7 rfl rfl)
theorem dX8_goes_8 : decode cX8_goes 8 = .ok (.isub, 1) := dk_100 (dk_at dksX8_goes_0 8 rfl rfl)
theorem dX8_goes_9 : decode cX8_goes 9 = .ok (.iastore, 1) := dk_79 (dk_at dksX8_goes_0 9 rfl rfl)
theorem dX8_goes_10 : decode cX8_goes 10 = .ok (.bipush 72, 2) := dk_16 72 (dk_at dksX8_goes_0 10 rfl rfl)
theorem dX8_goes_12 : decode cX8_goes 12 = .ok (.iconst 5, 1) := dk_8 (dk_at dksX8_goes_0 12 rfl rfl)
theorem dX8_goes_13 : decode cX8_goes 13 = .ok (.iload_n 1, 1) := dk_27 (dk_at dksX8_goes_0 13 rfl rfl)
theorem dX8_goes_14 : decode cX8_goes 14 = .ok (.imul, 1) := dk_104 (dk_at dksX8_goes_0 14 rfl rfl)
theorem dX8_goes_15 : decode cX8_goes 15 = .ok (.iadd, 1) := dk_96 (dk_at dksX8_goes_0 15 rfl rfl)
theorem dX8_goes_16 : decode cX8_goes 16 = .ok (.istore_n 2, 1) := dk_61 (dk_at dksX8_goes_0 16 rfl rfl)
theorem dX8_goes_17 : decode cX8_goes 17 = .ok (.iload_n 2, 1) := dk_28 (dk_at dksX8_goes_0 17 rfl rfl)
theorem dX8_goes_18 : decode cX8_goes 18 = .ok (.bipush 72, 2) := dk_16 72 (dk_at dksX8_goes_0 18 rfl rfl)
theorem dX8_goes_20 : decode cX8_goes 20 = .ok (.iconst 5, 1) := dk_8 (dk_at dksX8_goes_0 20 rfl rfl)
theorem dX8_goes_21 : decode cX8_goes 21 = .ok (.aload_n 0, 1) := dk_42 (dk_at dksX8_goes_0 21 rfl rfl)
theorem dX8_goes_22 : decode cX8_goes 22 = .ok (.getfield 9, 3) := dk_180 0 9 (dk_at dksX8_goes_1 0 rfl rfl)
theorem dX8_goes_25 : decode cX8_goes 25 = .ok (.iconst 1, 1) := dk_4 (dk_at dksX8_goes_1 3 rfl rfl)
theorem dX8_goes_26 : decode cX8_goes 26 = .ok (.iaload, 1) := dk_46 (dk_at dksX8_goes_1 4 rfl rfl)
theorem dX8_goes_27 : decode cX8_goes 27 = .ok (.imul, 1) := dk_104 (dk_at dksX8_goes_1 5 rfl rfl)
theorem dX8_goes_28 : decode cX8_goes 28 = .ok (.iadd, 1) := dk_96 (dk_at dksX8_goes_1 6 rfl rfl)
theorem dX8_goes_29 : decode cX8_goes 29 = .ok (.if_icmp .ge 23, 3) := dk_162 0 23 (dk_at dksX8_goes_1 7 rfl rfl)
theorem dX8_goes_32 : decode cX8_goes 32 = .ok (.aload_n 0, 1) := dk_42 (dk_at dksX8_goes_1 10 rfl rfl)
theorem dX8_goes_33 : decode cX8_goes 33 = .ok (.getfield 9, 3) := dk_180 0 9 (dk_at dksX8_goes_1 11 rfl rfl)
theorem dX8_goes_36 : decode cX8_goes 36 = .ok (.iload_n 2, 1) := dk_28 (dk_at dksX8_goes_1 14 rfl rfl)
theorem dX8_goes_37 : decode cX8_goes 37 = .ok (.aload_n 0, 1) := dk_42 (dk_at dksX8_goes_1 15 rfl rfl)
theorem dX8_goes_38 : decode cX8_goes 38 = .ok (.getfield 9, 3) := dk_180 0 9 (dk_at dksX8_goes_1 16 rfl rfl)
theorem dX8_goes_41 : decode cX8_goes 41 = .ok (.iload_n 2, 1) := dk_28 (dk_at dksX8_goes_1 19 rfl rfl)
theorem dX8_goes_42 : decode cX8_goes 42 = .ok (.iconst 5, 1) := dk_8 (dk_at dksX8_goes_1 20 rfl rfl)
theorem dX8_goes_43 : decode cX8_goes 43 = .ok (.iadd, 1) := dk_96 (dk_at dksX8_goes_1 21 rfl rfl)
theorem dX8_goes_44 : decode cX8_goes 44 = .ok (.iaload, 1) := dk_46 (dk_at dksX8_goes_1 22 rfl rfl)
theorem dX8_goes_45 : decode cX8_goes 45 = .ok (.iastore, 1) := dk_79 (dk_at dksX8_goes_1 23 rfl rfl)
theorem dX8_goes_46 : decode cX8_goes 46 = .ok (.iinc 2 1, 3) := dk_132 2 1 (dk_at dksX8_goes_2 0 rfl rfl)
theorem dX8_goes_49 : decode cX8_goes 49 = .ok (.goto (-32), 3) := dk_167 255 224 (dk_at dksX8_goes_2 3 rfl rfl)
theorem dX8_goes_52 : decode cX8_goes 52 = .ok (.return_, 1) := dk_177 (dk_at dksX8_goes_2 6 rfl rfl)
abbrev cX8_isNote : ByteArray := prog_19_method_32_code
def yX8_isNote : MethodName := ⟨RX8, "isNote", "(I)Z"⟩
def dkwX8_isNote_0 : List UInt8 := [27, 3, 42, 180, 0, 9, 4, 46, 4, 100, 184, 0, 67, 172]
abbrev dktX8_isNote_0 : List UInt8 := dkwX8_isNote_0 ++ []
theorem dksX8_isNote_0 : cX8_isNote.data.toList.drop 0 = dktX8_isNote_0 := by decide +kernel
theorem dX8_isNote_0 : decode cX8_isNote 0 = .ok (.iload_n 1, 1) := dk_27 (dk_at dksX8_isNote_0 0 rfl rfl)
theorem dX8_isNote_1 : decode cX8_isNote 1 = .ok (.iconst 0, 1) := dk_3 (dk_at dksX8_isNote_0 1 rfl rfl)
theorem dX8_isNote_2 : decode cX8_isNote 2 = .ok (.aload_n 0, 1) := dk_42 (dk_at dksX8_isNote_0 2 rfl rfl)
theorem dX8_isNote_3 : decode cX8_isNote 3 = .ok (.getfield 9, 3) := dk_180 0 9 (dk_at dksX8_isNote_0 3 rfl rfl)
theorem dX8_isNote_6 : decode cX8_isNote 6 = .ok (.iconst 1, 1) := dk_4 (dk_at dksX8_isNote_0 6 rfl rfl)
theorem dX8_isNote_7 : decode cX8_isNote 7 = .ok (.iaload, 1) := dk_46 (dk_at dksX8_isNote_0 7 rfl rfl)
theorem dX8_isNote_8 : decode cX8_isNote 8 = .ok (.iconst 1, 1) := dk_4 (dk_at dksX8_isNote_0 8 rfl rfl)
theorem dX8_isNote_9 : decode cX8_isNote 9 = .ok (.isub, 1) := dk_100 (dk_at dksX8_isNote_0 9 rfl rfl)
theorem dX8_isNote_10 : decode cX8_isNote 10 = .ok (.invokestatic 67, 3) := dk_184 0 67 (dk_at dksX8_isNote_0 10 rfl rfl)
theorem dX8_isNote_13 : decode cX8_isNote 13 = .ok (.ireturn, 1) := dk_172 (dk_at dksX8_isNote_0 13 rfl rfl)
abbrev cX8_strike : ByteArray := prog_19_method_33_code
def yX8_strike : MethodName := ⟨RX8, "strike", "(I)I"⟩
def dkwX8_strike_1 : List UInt8 := [61, 42, 27, 182, 0, 137, 42, 180, 0, 9, 8, 92, 46, 4, 96, 79, 42, 28, 182, 0, 54, 172]
abbrev dktX8_strike_1 : List UInt8 := dkwX8_strike_1 ++ []
def dkwX8_strike_0 : List UInt8 := [42, 182, 0, 107, 42, 27, 182, 0, 131, 154, 0, 9, 42, 4, 182, 0, 58, 172, 42, 27, 7, 182, 0, 134]
abbrev dktX8_strike_0 : List UInt8 := dkwX8_strike_0 ++ dktX8_strike_1
theorem dksX8_strike_0 : cX8_strike.data.toList.drop 0 = dktX8_strike_0 := by decide +kernel
theorem dksX8_strike_1 : cX8_strike.data.toList.drop 24 = dktX8_strike_1 := dk_seg dksX8_strike_0 24 rfl rfl
theorem dX8_strike_0 : decode cX8_strike 0 = .ok (.aload_n 0, 1) := dk_42 (dk_at dksX8_strike_0 0 rfl rfl)
theorem dX8_strike_1 : decode cX8_strike 1 = .ok (.invokevirtual 107, 3) := dk_182 0 107 (dk_at dksX8_strike_0 1 rfl rfl)
theorem dX8_strike_4 : decode cX8_strike 4 = .ok (.aload_n 0, 1) := dk_42 (dk_at dksX8_strike_0 4 rfl rfl)
theorem dX8_strike_5 : decode cX8_strike 5 = .ok (.iload_n 1, 1) := dk_27 (dk_at dksX8_strike_0 5 rfl rfl)
theorem dX8_strike_6 : decode cX8_strike 6 = .ok (.invokevirtual 131, 3) := dk_182 0 131 (dk_at dksX8_strike_0 6 rfl rfl)
theorem dX8_strike_9 : decode cX8_strike 9 = .ok (.ifCond .ne 9, 3) := dk_154 0 9 (dk_at dksX8_strike_0 9 rfl rfl)
theorem dX8_strike_12 : decode cX8_strike 12 = .ok (.aload_n 0, 1) := dk_42 (dk_at dksX8_strike_0 12 rfl rfl)
theorem dX8_strike_13 : decode cX8_strike 13 = .ok (.iconst 1, 1) := dk_4 (dk_at dksX8_strike_0 13 rfl rfl)
theorem dX8_strike_14 : decode cX8_strike 14 = .ok (.invokevirtual 58, 3) := dk_182 0 58 (dk_at dksX8_strike_0 14 rfl rfl)
theorem dX8_strike_17 : decode cX8_strike 17 = .ok (.ireturn, 1) := dk_172 (dk_at dksX8_strike_0 17 rfl rfl)
theorem dX8_strike_18 : decode cX8_strike 18 = .ok (.aload_n 0, 1) := dk_42 (dk_at dksX8_strike_0 18 rfl rfl)
theorem dX8_strike_19 : decode cX8_strike 19 = .ok (.iload_n 1, 1) := dk_27 (dk_at dksX8_strike_0 19 rfl rfl)
theorem dX8_strike_20 : decode cX8_strike 20 = .ok (.iconst 4, 1) := dk_7 (dk_at dksX8_strike_0 20 rfl rfl)
theorem dX8_strike_21 : decode cX8_strike 21 = .ok (.invokevirtual 134, 3) := dk_182 0 134 (dk_at dksX8_strike_0 21 rfl rfl)
theorem dX8_strike_24 : decode cX8_strike 24 = .ok (.istore_n 2, 1) := dk_61 (dk_at dksX8_strike_1 0 rfl rfl)
theorem dX8_strike_25 : decode cX8_strike 25 = .ok (.aload_n 0, 1) := dk_42 (dk_at dksX8_strike_1 1 rfl rfl)
theorem dX8_strike_26 : decode cX8_strike 26 = .ok (.iload_n 1, 1) := dk_27 (dk_at dksX8_strike_1 2 rfl rfl)
theorem dX8_strike_27 : decode cX8_strike 27 = .ok (.invokevirtual 137, 3) := dk_182 0 137 (dk_at dksX8_strike_1 3 rfl rfl)
theorem dX8_strike_30 : decode cX8_strike 30 = .ok (.aload_n 0, 1) := dk_42 (dk_at dksX8_strike_1 6 rfl rfl)
theorem dX8_strike_31 : decode cX8_strike 31 = .ok (.getfield 9, 3) := dk_180 0 9 (dk_at dksX8_strike_1 7 rfl rfl)
theorem dX8_strike_34 : decode cX8_strike 34 = .ok (.iconst 5, 1) := dk_8 (dk_at dksX8_strike_1 10 rfl rfl)
theorem dX8_strike_35 : decode cX8_strike 35 = .ok (.dup2, 1) := dk_92 (dk_at dksX8_strike_1 11 rfl rfl)
theorem dX8_strike_36 : decode cX8_strike 36 = .ok (.iaload, 1) := dk_46 (dk_at dksX8_strike_1 12 rfl rfl)
theorem dX8_strike_37 : decode cX8_strike 37 = .ok (.iconst 1, 1) := dk_4 (dk_at dksX8_strike_1 13 rfl rfl)
theorem dX8_strike_38 : decode cX8_strike 38 = .ok (.iadd, 1) := dk_96 (dk_at dksX8_strike_1 14 rfl rfl)
theorem dX8_strike_39 : decode cX8_strike 39 = .ok (.iastore, 1) := dk_79 (dk_at dksX8_strike_1 15 rfl rfl)
theorem dX8_strike_40 : decode cX8_strike 40 = .ok (.aload_n 0, 1) := dk_42 (dk_at dksX8_strike_1 16 rfl rfl)
theorem dX8_strike_41 : decode cX8_strike 41 = .ok (.iload_n 2, 1) := dk_28 (dk_at dksX8_strike_1 17 rfl rfl)
theorem dX8_strike_42 : decode cX8_strike 42 = .ok (.invokevirtual 54, 3) := dk_182 0 54 (dk_at dksX8_strike_1 18 rfl rfl)
theorem dX8_strike_45 : decode cX8_strike 45 = .ok (.ireturn, 1) := dk_172 (dk_at dksX8_strike_1 21 rfl rfl)
abbrev cX8_noteOf : ByteArray := prog_19_method_34_code
def yX8_noteOf : MethodName := ⟨RX8, "noteOf", "(II)I"⟩
def dkwX8_noteOf_1 : List UInt8 := [184, 0, 67, 153, 0, 12, 42, 27, 28, 182, 0, 134, 167, 0, 8, 42, 5, 182, 0, 58, 172]
abbrev dktX8_noteOf_1 : List UInt8 := dkwX8_noteOf_1 ++ []
def dkwX8_noteOf_0 : List UInt8 := [42, 3, 181, 0, 45, 42, 27, 182, 0, 131, 154, 0, 9, 42, 4, 182, 0, 58, 172, 28, 3, 7]
abbrev dktX8_noteOf_0 : List UInt8 := dkwX8_noteOf_0 ++ dktX8_noteOf_1
theorem dksX8_noteOf_0 : cX8_noteOf.data.toList.drop 0 = dktX8_noteOf_0 := by decide +kernel
theorem dksX8_noteOf_1 : cX8_noteOf.data.toList.drop 22 = dktX8_noteOf_1 := dk_seg dksX8_noteOf_0 22 rfl rfl
theorem dX8_noteOf_0 : decode cX8_noteOf 0 = .ok (.aload_n 0, 1) := dk_42 (dk_at dksX8_noteOf_0 0 rfl rfl)
theorem dX8_noteOf_1 : decode cX8_noteOf 1 = .ok (.iconst 0, 1) := dk_3 (dk_at dksX8_noteOf_0 1 rfl rfl)
theorem dX8_noteOf_2 : decode cX8_noteOf 2 = .ok (.putfield 45, 3) := dk_181 0 45 (dk_at dksX8_noteOf_0 2 rfl rfl)
theorem dX8_noteOf_5 : decode cX8_noteOf 5 = .ok (.aload_n 0, 1) := dk_42 (dk_at dksX8_noteOf_0 5 rfl rfl)
theorem dX8_noteOf_6 : decode cX8_noteOf 6 = .ok (.iload_n 1, 1) := dk_27 (dk_at dksX8_noteOf_0 6 rfl rfl)
theorem dX8_noteOf_7 : decode cX8_noteOf 7 = .ok (.invokevirtual 131, 3) := dk_182 0 131 (dk_at dksX8_noteOf_0 7 rfl rfl)
theorem dX8_noteOf_10 : decode cX8_noteOf 10 = .ok (.ifCond .ne 9, 3) := dk_154 0 9 (dk_at dksX8_noteOf_0 10 rfl rfl)
theorem dX8_noteOf_13 : decode cX8_noteOf 13 = .ok (.aload_n 0, 1) := dk_42 (dk_at dksX8_noteOf_0 13 rfl rfl)
theorem dX8_noteOf_14 : decode cX8_noteOf 14 = .ok (.iconst 1, 1) := dk_4 (dk_at dksX8_noteOf_0 14 rfl rfl)
theorem dX8_noteOf_15 : decode cX8_noteOf 15 = .ok (.invokevirtual 58, 3) := dk_182 0 58 (dk_at dksX8_noteOf_0 15 rfl rfl)
theorem dX8_noteOf_18 : decode cX8_noteOf 18 = .ok (.ireturn, 1) := dk_172 (dk_at dksX8_noteOf_0 18 rfl rfl)
theorem dX8_noteOf_19 : decode cX8_noteOf 19 = .ok (.iload_n 2, 1) := dk_28 (dk_at dksX8_noteOf_0 19 rfl rfl)
theorem dX8_noteOf_20 : decode cX8_noteOf 20 = .ok (.iconst 0, 1) := dk_3 (dk_at dksX8_noteOf_0 20 rfl rfl)
theorem dX8_noteOf_21 : decode cX8_noteOf 21 = .ok (.iconst 4, 1) := dk_7 (dk_at dksX8_noteOf_0 21 rfl rfl)
theorem dX8_noteOf_22 : decode cX8_noteOf 22 = .ok (.invokestatic 67, 3) := dk_184 0 67 (dk_at dksX8_noteOf_1 0 rfl rfl)
theorem dX8_noteOf_25 : decode cX8_noteOf 25 = .ok (.ifCond .eq 12, 3) := dk_153 0 12 (dk_at dksX8_noteOf_1 3 rfl rfl)
theorem dX8_noteOf_28 : decode cX8_noteOf 28 = .ok (.aload_n 0, 1) := dk_42 (dk_at dksX8_noteOf_1 6 rfl rfl)
theorem dX8_noteOf_29 : decode cX8_noteOf 29 = .ok (.iload_n 1, 1) := dk_27 (dk_at dksX8_noteOf_1 7 rfl rfl)
theorem dX8_noteOf_30 : decode cX8_noteOf 30 = .ok (.iload_n 2, 1) := dk_28 (dk_at dksX8_noteOf_1 8 rfl rfl)
theorem dX8_noteOf_31 : decode cX8_noteOf 31 = .ok (.invokevirtual 134, 3) := dk_182 0 134 (dk_at dksX8_noteOf_1 9 rfl rfl)
theorem dX8_noteOf_34 : decode cX8_noteOf 34 = .ok (.goto 8, 3) := dk_167 0 8 (dk_at dksX8_noteOf_1 12 rfl rfl)
theorem dX8_noteOf_37 : decode cX8_noteOf 37 = .ok (.aload_n 0, 1) := dk_42 (dk_at dksX8_noteOf_1 15 rfl rfl)
theorem dX8_noteOf_38 : decode cX8_noteOf 38 = .ok (.iconst 2, 1) := dk_5 (dk_at dksX8_noteOf_1 16 rfl rfl)
theorem dX8_noteOf_39 : decode cX8_noteOf 39 = .ok (.invokevirtual 58, 3) := dk_182 0 58 (dk_at dksX8_noteOf_1 17 rfl rfl)
theorem dX8_noteOf_42 : decode cX8_noteOf 42 = .ok (.ireturn, 1) := dk_172 (dk_at dksX8_noteOf_1 20 rfl rfl)
theorem q2405 : (Jvm.Cond.methodLink "SpanRulerModel" (131 : Nat) ({ cls := "SpanRulerModel", name := "isNote", desc := "(I)Z" } : Jvm.MethodName)) ∈ lw_all := lw_g (lw_at lw_m10 185 rfl) rfl
theorem q2408 : (Jvm.Cond.code ({ cls := "SpanRulerModel", name := "isNote", desc := "(I)Z" } : Jvm.MethodName) prog_19_method_32_code (2 : Nat) (Option.some Jvm.ClassFile.FieldType.boolean)) ∈ lw_all := lw_g (lw_at lw_m10 188 rfl) rfl
theorem q2407 : (Jvm.Cond.instanceMethod ({ cls := "SpanRulerModel", name := "isNote", desc := "(I)Z" } : Jvm.MethodName)) ∈ lw_all := lw_g (lw_at lw_m10 187 rfl) rfl
theorem q2409 : (Jvm.Cond.methodLink "SpanRulerModel" (134 : Nat) ({ cls := "SpanRulerModel", name := "noted", desc := "(II)I" } : Jvm.MethodName)) ∈ lw_all := lw_g (lw_at lw_m10 189 rfl) rfl
theorem q2412 : (Jvm.Cond.code ({ cls := "SpanRulerModel", name := "noted", desc := "(II)I" } : Jvm.MethodName) prog_19_method_30_code (3 : Nat) (Option.some Jvm.ClassFile.FieldType.int)) ∈ lw_all := lw_g (lw_at lw_m10 192 rfl) rfl
theorem q2411 : (Jvm.Cond.instanceMethod ({ cls := "SpanRulerModel", name := "noted", desc := "(II)I" } : Jvm.MethodName)) ∈ lw_all := lw_g (lw_at lw_m10 191 rfl) rfl
theorem q2413 : (Jvm.Cond.methodLink "SpanRulerModel" (137 : Nat) ({ cls := "SpanRulerModel", name := "goes", desc := "(I)V" } : Jvm.MethodName)) ∈ lw_all := lw_g (lw_at lw_m10 193 rfl) rfl
theorem q2416 : (Jvm.Cond.code ({ cls := "SpanRulerModel", name := "goes", desc := "(I)V" } : Jvm.MethodName) prog_19_method_31_code (3 : Nat) (Option.none : Option Jvm.ClassFile.FieldType)) ∈ lw_all := lw_g (lw_at lw_m10 196 rfl) rfl
theorem q2415 : (Jvm.Cond.instanceMethod ({ cls := "SpanRulerModel", name := "goes", desc := "(I)V" } : Jvm.MethodName)) ∈ lw_all := lw_g (lw_at lw_m10 195 rfl) rfl
def mN (s : MS) : Nat := nn (s.A 0 1)
def mNo (s : MS) : Prop := s.A 0 1 = nI (mN s) ∧ mN s ≤ 10
def mWr (s : MS) (n : Nat) (k a b x t : Int32) : MS := mA (mA (mA (mA (mA s 0 (72 + 5 * n) k) 0 (72 + 5 * n + 1) a) 0 (72 + 5 * n + 2) b) 0 (72 + 5 * n + 3) x) 0 (72 + 5 * n + 4) t
def mWrit (s : MS) (n : Nat) (k a b x t : Int32) : MS := mA (mWr s n k a b x t) 0 1 ((mWr s n k a b x t).A 0 1 + 1)
def mNote (s : MS) (k a b x t : Int32) : Int32 × MS := if inR k 0 2 = true ∧ isSp a b = true ∧ isNu k x = true ∧ inR t 1 20 = true then (if mN s = 10 then mEnds (mRef (mTries s) 1 10) 2 else (nI (mN s + 1), mKeeps (mWrit (mTries s) (mN s) k a b x t))) else (0, mI (mTries s) 20 1)
theorem mTries_A (s : MS) {i : Nat} (h : i ≠ 1) : (mTries s).A i = s.A i := by
  rw [mTries, cpl_eq (Or.inl (by decide)), mF_A, if_neg h]; rfl
theorem mTries_I (s : MS) (i : Nat) : (mTries s).I i = upd s.I 20 0 i := cpl_I _ _ _ _ _ _ _ i
def gol (o : Nat) : Nat → Nat → MS → MS
  | 0, _, t => t
  | n + 1, c, t => gol o n (c + 1) (mA t 0 (o + c) (t.A 0 (o + c + 5)))
theorem gol_eq (o : Nat) : ∀ (n c : Nat) (t : MS), gol o n c t = mF t 0 (fun q => if o + c ≤ q ∧ q < o + c + n then t.A 0 (q + 5) else t.A 0 q) := by
  intro n
  induction n with
  | zero =>
    intro c t
    have e : (fun q => if o + c ≤ q ∧ q < o + c + 0 then t.A 0 (q + 5) else t.A 0 q) = t.A 0 := by
      funext q
      rw [if_neg (by omega)]
    rw [e, mF_self]; rfl
  | succ n ih =>
    intro c t
    show gol o n (c + 1) (mA t 0 (o + c) (t.A 0 (o + c + 5))) = _
    rw [ih, mA_F, mF_F, mF_at]
    congr 1
    funext q
    by_cases e : q = o + c
    · subst e
      rw [if_neg (by omega), if_pos (by omega), upd_at]
    · by_cases e2 : o + (c + 1) ≤ q ∧ q < o + (c + 1) + n
      · rw [if_pos e2, if_pos (by omega), upd_ne (by omega)]
      · rw [if_neg e2, if_neg (by omega), upd_ne e]
def mGoes (p : Nat) (s : MS) : MS := gol (72 + 5 * p) (5 * (mN s - 1 - p)) 0 (mA s 0 1 (nI (mN s - 1)))
def mIsN (s : MS) (p : Int32) : Bool := inR p 0 (s.A 0 1 - 1)
theorem mIsN_n {s : MS} {p : Int32} (hN : mNo s) (h : mIsN s p = true) : p = nI (nn p) ∧ nn p < mN s := by
  obtain ⟨h1, h2⟩ := hN
  unfold mIsN at h
  rw [h1] at h
  obtain ⟨a1, a2⟩ := inR_i.mp h
  cases e : mN s with
  | zero => rw [e] at a2; exact absurd (Int32.le_trans a1 a2) (by decide)
  | succ m =>
    rw [e, nI_pred] at a2
    obtain ⟨i, hi, rfl⟩ := nI_of2 (M := nI m) (n := m) (nI_toInt (by omega)) (Int32.not_lt.mpr a1) a2
    rw [nn_nI (by omega)]
    exact ⟨rfl, by omega⟩
def mStrike (s : MS) (p : Int32) : Int32 × MS := if mIsN s p = true then (s.A 0 (72 + 5 * nn p + 4), mKeeps (mA (mGoes (nn p) (mTries s)) 0 5 ((mGoes (nn p) (mTries s)).A 0 5 + 1))) else (0, mI (mTries s) 20 1)
def mNoteOf (s : MS) (p w : Int32) : Int32 × MS := if mIsN s p = true then (if inR w 0 4 = true then (s.A 0 (72 + 5 * nn p + nn w), mI s 20 0) else (0, mI s 20 2)) else (0, mI s 20 1)
theorem mI_mI {s : MS} {k : Nat} {v w : Int32} : mI (mI s k v) k w = mI s k w := by
  refine Prod.ext (funext fun q => ?_) rfl
  show (if q = k then w else if q = k then v else s.I q) = if q = k then w else s.I q
  split <;> rfl
theorem mTries_N (s : MS) : mN (mTries s) = mN s := by unfold mN; rw [mTries_A s (by decide)]
theorem mTries_no {s : MS} (h : mNo s) : mNo (mTries s) := by
  unfold mNo; rw [mTries_N, mTries_A s (by decide)]; exact h
theorem mTries_isN (s : MS) (p : Int32) : mIsN (mTries s) p = mIsN s p := by unfold mIsN; rw [mTries_A s (by decide)]
theorem mWrit_u {s : MS} {n : Nat} {k a b x t : Int32} (h : mUo s) : mUo (mWrit s n k a b x t) := mUo_I rfl h
theorem m_note (l : Launch) (G : GE) {h0 : AH} {ad : Nat → Nat} (hA : MAd ad) (s : MS) (k : Int32) (a : Int32) (b : Int32) (x : Int32) (t : Int32) (y0 : mUo s) (y1 : mNo s) : GM l G yX8_note (ws_ yX8_note cX8_note 8 (some .int)) 5 [.ref (ad 20), .int k, .int a, .int b, .int x, .int t] (mput G h0 ad s) (0) (PV (.int (mNote s k a b x t).1) (mput G h0 ad (mNote s k a b x t).2)) := by
  refine GM.of (by decide) (dk rfl) ?_
  intro X eL eG eh ok fn
  subst eL; subst eG
  show GW X _ 0 0 [some (.ref (ad 20)), some (.int k), some (.int a), some (.int b), some (.int x), some (.int t), none, none] []
  refine g_aload_n ok dX8_note_0 rfl ?_
  refine g_callV ok q2307 q2309 qs23 q75 q2310 (m_recv ok hA) dX8_note_1 (m_tries X.l X.G hA (h0 := h0) s ) (nm_ (by decide : nmb _ 0 = true)) (dl rfl) (dk rfl) rfl rfl (dk rfl) (dk rfl) (kN ?_) xN
  refine g_iload_n ok dX8_note_4 rfl ?_
  refine g_iconst ok (v := 0) dX8_note_5 rfl ?_
  refine g_iconst ok (v := 2) dX8_note_6 rfl ?_
  refine g_callS ok q2321 q2322 q75 q2323 dX8_note_7 (m_in X.l X.G _ k 0 2) (nm_ (by decide : nmb _ 3 = true)) (dl rfl) (dk rfl) rfl rfl (dk rfl) (dk rfl) (kV ?_) xV
  refine g_if_eq ok (tgt := 41) dX8_note_10 (by decide) (fun c10 => ?_) (fun c10 => ?_)
  · have c10' := bI_e c10
    refine g_aload_n ok dX8_note_41 rfl ?_
    refine g_iconst ok (v := 1) dX8_note_42 rfl ?_
    refine g_callV ok q2362 q2364 qs33 q75 q2365 (m_recv ok hA) dX8_note_43 (m_raises X.l X.G hA (h0 := h0) (mTries s) 1) (nm_ (by decide : nmb _ 1 = true)) (dl rfl) (dk rfl) rfl rfl (dk rfl) (dk rfl) (kV ?_) xV
    exact g_iret ok fn rfl dX8_note_46 (pv_i (by simp [mNote, c10']) (by simp [mNote, c10'])) (dk rfl)
  · have c10' := bI_n c10
    refine g_iload_n ok dX8_note_13 rfl ?_
    refine g_iload_n ok dX8_note_14 rfl ?_
    refine g_callS ok q2315 q2316 q75 q2317 dX8_note_15 (m_isSpan X.l X.G _ a b) (nm_ (by decide : nmb _ 2 = true)) (dl rfl) (dk rfl) rfl rfl (dk rfl) (dk rfl) (kV ?_) xV
    refine g_if_eq ok (tgt := 41) dX8_note_18 (by decide) (fun c18 => ?_) (fun c18 => ?_)
    · have c18' := bI_e c18
      refine g_aload_n ok dX8_note_41 rfl ?_
      refine g_iconst ok (v := 1) dX8_note_42 rfl ?_
      refine g_callV ok q2362 q2364 qs33 q75 q2365 (m_recv ok hA) dX8_note_43 (m_raises X.l X.G hA (h0 := h0) (mTries s) 1) (nm_ (by decide : nmb _ 1 = true)) (dl rfl) (dk rfl) rfl rfl (dk rfl) (dk rfl) (kV ?_) xV
      exact g_iret ok fn rfl dX8_note_46 (pv_i (by simp [mNote, c10', c18']) (by simp [mNote, c10', c18'])) (dk rfl)
    · have c18' := bI_n c18
      refine g_iload_n ok dX8_note_21 rfl ?_
      refine g_iload ok dX8_note_22 rfl ?_
      refine g_callS ok q2324 q2325 q75 q2326 dX8_note_24 (m_isNumber X.l X.G _ k x) (nm_ (by decide : nmb _ 2 = true)) (dl rfl) (dk rfl) rfl rfl (dk rfl) (dk rfl) (kV ?_) xV
      refine g_if_eq ok (tgt := 41) dX8_note_27 (by decide) (fun c27 => ?_) (fun c27 => ?_)
      · have c27' := bI_e c27
        refine g_aload_n ok dX8_note_41 rfl ?_
        refine g_iconst ok (v := 1) dX8_note_42 rfl ?_
        refine g_callV ok q2362 q2364 qs33 q75 q2365 (m_recv ok hA) dX8_note_43 (m_raises X.l X.G hA (h0 := h0) (mTries s) 1) (nm_ (by decide : nmb _ 1 = true)) (dl rfl) (dk rfl) rfl rfl (dk rfl) (dk rfl) (kV ?_) xV
        exact g_iret ok fn rfl dX8_note_46 (pv_i (by simp [mNote, c10', c18', c27']) (by simp [mNote, c10', c18', c27'])) (dk rfl)
      · have c27' := bI_n c27
        refine g_iload ok dX8_note_30 rfl ?_
        refine g_iconst ok (v := 1) dX8_note_32 rfl ?_
        refine g_bipush ok (v := 20) dX8_note_33 rfl ?_
        refine g_callS ok q2321 q2322 q75 q2323 dX8_note_35 (m_in X.l X.G _ t 1 20) (nm_ (by decide : nmb _ 3 = true)) (dl rfl) (dk rfl) rfl rfl (dk rfl) (dk rfl) (kV ?_) xV
        refine g_if_ne ok (tgt := 47) dX8_note_38 (by decide) (fun c38 => ?_) (fun c38 => ?_)
        · have c38' := bI_n c38
          refine g_aload_n ok dX8_note_47 rfl ?_
          refine m_get ok hA 0 q2235 (by decide) dX8_note_48 (v := .ref (ad 0)) rfl ?_
          refine g_iconst ok (v := 1) dX8_note_51 rfl ?_
          refine m_ald ok hA 0 1 (v := (nI (mN s))) (by decide) dX8_note_52 rfl (by decide) ((congrFun (mTries_A s (by decide)) 1).trans y1.1) ?_
          refine g_istore ok dX8_note_53 (ls1 := [some (.ref (ad 20)), some (.int k), some (.int a), some (.int b), some (.int x), some (.int t), some (.int (nI (mN s))), none]) (dl rfl) rfl ?_
          have hs : mNote s k a b x t = (if mN s = 10 then mEnds (mRef (mTries s) 1 10) 2 else (nI (mN s + 1), mKeeps (mWrit (mTries s) (mN s) k a b x t))) := by unfold mNote; rw [if_pos (by simp [c10', c18', c27', c38'])]
          rw [hs] at fn
          clear hs
          obtain ⟨n1, n2⟩ := y1
          by_cases h10 : mN s = 10
          · rw [if_pos h10] at fn
            refine g_iload ok dX8_note_55 rfl ?_
            refine g_bipush ok (v := 10) dX8_note_57 rfl ?_
            refine g_icmp_ne ok (tgt := 74) dX8_note_59 (by decide) (fun c_ => absurd (congrArg nI (by omega : (mN s) = 10)) c_) (fun _ => ?_)
            refine g_aload_n ok dX8_note_62 rfl ?_
            refine g_aload_n ok dX8_note_63 rfl ?_
            refine g_iconst ok (v := 1) dX8_note_64 rfl ?_
            refine g_bipush ok (v := 10) dX8_note_65 rfl ?_
            refine g_callV ok q2338 q2340 qs27 q75 q2341 (m_recv ok hA) dX8_note_67 (m_refuses X.l X.G hA (h0 := h0) (mTries s) 1 10) (nm_ (by decide : nmb _ 2 = true)) (dl rfl) (dk rfl) rfl rfl (dk rfl) (dk rfl) (kV ?_) xV
            refine g_callV ok q2354 q2356 qs31 q75 q2357 (m_recv ok hA) dX8_note_70 (m_ends X.l X.G hA (h0 := h0) (mRef (mTries s) 1 10) 2 (mRef_u (mTries_u y0))) (nm_ (by decide : nmb _ 1 = true)) (dl rfl) (dk rfl) rfl rfl (dk rfl) (dk rfl) (kV ?_) xV
            exact g_iret ok fn rfl dX8_note_73 (pv_i rfl rfl) (dk rfl)
          · rw [if_neg h10] at fn
            refine g_iload ok dX8_note_55 rfl ?_
            refine g_bipush ok (v := 10) dX8_note_57 rfl ?_
            refine g_icmp_ne ok (tgt := 74) dX8_note_59 (by decide) (fun _ => ?_) (fun c_ => absurd c_ (fun e_ => by have := (nI_eq (a := (mN s)) (b := 10) (by omega) (by omega)).mp e_; omega))
            refine g_bipush ok (v := 72) dX8_note_74 rfl ?_
            refine g_iconst ok (v := 5) dX8_note_76 rfl ?_
            refine g_iload ok dX8_note_77 rfl ?_
            refine g_imulN ok dX8_note_79 (c := (5 * (mN s))) (a := 5) (b := (mN s)) rfl rfl rfl ?_
            refine g_iaddN ok dX8_note_80 (c := (72 + (5 * (mN s)))) (a := 72) (b := (5 * (mN s))) rfl rfl rfl ?_
            refine g_istore ok dX8_note_81 (ls1 := [some (.ref (ad 20)), some (.int k), some (.int a), some (.int b), some (.int x), some (.int t), some (.int (nI (mN s))), some (.int (nI (72 + (5 * (mN s)))))]) (dl rfl) rfl ?_
            refine g_aload_n ok dX8_note_83 rfl ?_
            refine m_get ok hA 0 q2235 (by decide) dX8_note_84 (v := .ref (ad 0)) rfl ?_
            refine g_iload ok dX8_note_87 rfl ?_
            refine g_iload_n ok dX8_note_89 rfl ?_
            refine m_ast ok hA 0 (72 + (5 * (mN s))) (by decide) dX8_note_90 rfl (by simp only [mlen]; omega) ?_
            refine g_aload_n ok dX8_note_91 rfl ?_
            refine m_get ok hA 0 q2235 (by decide) dX8_note_92 (v := .ref (ad 0)) rfl ?_
            refine g_iload ok dX8_note_95 rfl ?_
            refine g_iconst ok (v := 1) dX8_note_97 rfl ?_
            refine g_iaddN ok dX8_note_98 (c := ((72 + (5 * (mN s))) + 1)) (a := (72 + (5 * (mN s)))) (b := 1) rfl rfl rfl ?_
            refine g_iload_n ok dX8_note_99 rfl ?_
            refine m_ast ok hA 0 ((72 + (5 * (mN s))) + 1) (by decide) dX8_note_100 rfl (by simp only [mlen]; omega) ?_
            refine g_aload_n ok dX8_note_101 rfl ?_
            refine m_get ok hA 0 q2235 (by decide) dX8_note_102 (v := .ref (ad 0)) rfl ?_
            refine g_iload ok dX8_note_105 rfl ?_
            refine g_iconst ok (v := 2) dX8_note_107 rfl ?_
            refine g_iaddN ok dX8_note_108 (c := ((72 + (5 * (mN s))) + 2)) (a := (72 + (5 * (mN s)))) (b := 2) rfl rfl rfl ?_
            refine g_iload_n ok dX8_note_109 rfl ?_
            refine m_ast ok hA 0 ((72 + (5 * (mN s))) + 2) (by decide) dX8_note_110 rfl (by simp only [mlen]; omega) ?_
            refine g_aload_n ok dX8_note_111 rfl ?_
            refine m_get ok hA 0 q2235 (by decide) dX8_note_112 (v := .ref (ad 0)) rfl ?_
            refine g_iload ok dX8_note_115 rfl ?_
            refine g_iconst ok (v := 3) dX8_note_117 rfl ?_
            refine g_iaddN ok dX8_note_118 (c := ((72 + (5 * (mN s))) + 3)) (a := (72 + (5 * (mN s)))) (b := 3) rfl rfl rfl ?_
            refine g_iload ok dX8_note_119 rfl ?_
            refine m_ast ok hA 0 ((72 + (5 * (mN s))) + 3) (by decide) dX8_note_121 rfl (by simp only [mlen]; omega) ?_
            refine g_aload_n ok dX8_note_122 rfl ?_
            refine m_get ok hA 0 q2235 (by decide) dX8_note_123 (v := .ref (ad 0)) rfl ?_
            refine g_iload ok dX8_note_126 rfl ?_
            refine g_iconst ok (v := 4) dX8_note_128 rfl ?_
            refine g_iaddN ok dX8_note_129 (c := ((72 + (5 * (mN s))) + 4)) (a := (72 + (5 * (mN s)))) (b := 4) rfl rfl rfl ?_
            refine g_iload ok dX8_note_130 rfl ?_
            refine m_ast ok hA 0 ((72 + (5 * (mN s))) + 4) (by decide) dX8_note_132 rfl (by simp only [mlen]; omega) ?_
            refine g_aload_n ok dX8_note_133 rfl ?_
            refine m_get ok hA 0 q2235 (by decide) dX8_note_134 (v := .ref (ad 0)) rfl ?_
            refine g_iconst ok (v := 1) dX8_note_137 rfl ?_
            refine g_dup2_11 ok dX8_note_138 rfl rfl ?_
            refine m_ald ok hA 0 1 (v := (MS.A (mA (mA (mA (mA (mA (mTries s) 0 (72 + (5 * (mN s))) k) 0 ((72 + (5 * (mN s))) + 1) a) 0 ((72 + (5 * (mN s))) + 2) b) 0 ((72 + (5 * (mN s))) + 3) x) 0 ((72 + (5 * (mN s))) + 4) t) 0 1)) (by decide) dX8_note_139 rfl (by decide) rfl ?_
            refine g_iconst ok (v := 1) dX8_note_140 rfl ?_
            refine g_iadd ok dX8_note_141 ?_
            refine m_ast ok hA 0 1 (by decide) dX8_note_142 rfl (by decide) ?_
            refine g_aload_n ok dX8_note_143 rfl ?_
            refine g_iload ok dX8_note_144 rfl ?_
            refine g_iconst ok (v := 1) dX8_note_146 rfl ?_
            refine g_iaddN ok dX8_note_147 (c := ((mN s) + 1)) (a := (mN s)) (b := 1) rfl rfl rfl ?_
            refine g_callV ok q2358 q2360 qs32 q75 q2361 (m_recv ok hA) dX8_note_148 (m_keeps X.l X.G hA (h0 := h0) (mA (mA (mA (mA (mA (mA (mTries s) 0 (72 + (5 * (mN s))) k) 0 ((72 + (5 * (mN s))) + 1) a) 0 ((72 + (5 * (mN s))) + 2) b) 0 ((72 + (5 * (mN s))) + 3) x) 0 ((72 + (5 * (mN s))) + 4) t) 0 1 ((MS.A (mA (mA (mA (mA (mA (mTries s) 0 (72 + (5 * (mN s))) k) 0 ((72 + (5 * (mN s))) + 1) a) 0 ((72 + (5 * (mN s))) + 2) b) 0 ((72 + (5 * (mN s))) + 3) x) 0 ((72 + (5 * (mN s))) + 4) t) 0 1) + 1)) (nI ((mN s) + 1)) (mWrit_u (mTries_u y0))) (nm_ (by decide : nmb _ 1 = true)) (dl rfl) (dk rfl) rfl rfl (dk rfl) (dk rfl) (kV ?_) xV
            exact g_iret ok fn rfl dX8_note_151 (pv_i rfl rfl) (dk rfl)
        · have c38' := bI_e c38
          refine g_aload_n ok dX8_note_41 rfl ?_
          refine g_iconst ok (v := 1) dX8_note_42 rfl ?_
          refine g_callV ok q2362 q2364 qs33 q75 q2365 (m_recv ok hA) dX8_note_43 (m_raises X.l X.G hA (h0 := h0) (mTries s) 1) (nm_ (by decide : nmb _ 1 = true)) (dl rfl) (dk rfl) rfl rfl (dk rfl) (dk rfl) (kV ?_) xV
          exact g_iret ok fn rfl dX8_note_46 (pv_i (by simp [mNote, c10', c18', c27', c38']) (by simp [mNote, c10', c18', c27', c38'])) (dk rfl)
theorem m_noted (l : Launch) (G : GE) {h0 : AH} {ad : Nat → Nat} (hA : MAd ad) (s : MS) (p : Nat) (w : Nat) (y0 : p < 10) (y1 : w < 5) : GM l G yX8_noted (ws_ yX8_noted cX8_noted 3 (some .int)) 1 [.ref (ad 20), .int (nI p), .int (nI w)] (mput G h0 ad s) (0) (PV (.int (MS.A s 0 (72 + 5 * p + w))) (mput G h0 ad s)) := by
  refine GM.of (by decide) (dk rfl) ?_
  intro X eL eG eh ok fn
  subst eL; subst eG
  show GW X _ 0 0 [some (.ref (ad 20)), some (.int (nI p)), some (.int (nI w))] []
  refine g_aload_n ok dX8_noted_0 rfl ?_
  refine m_get ok hA 0 q2235 (by decide) dX8_noted_1 (v := .ref (ad 0)) rfl ?_
  refine g_bipush ok (v := 72) dX8_noted_4 rfl ?_
  refine g_iconst ok (v := 5) dX8_noted_6 rfl ?_
  refine g_iload_n ok dX8_noted_7 rfl ?_
  refine g_imulN ok dX8_noted_8 (c := (5 * p)) (a := 5) (b := p) rfl rfl rfl ?_
  refine g_iaddN ok dX8_noted_9 (c := (72 + (5 * p))) (a := 72) (b := (5 * p)) rfl rfl rfl ?_
  refine g_iload_n ok dX8_noted_10 rfl ?_
  refine g_iaddN ok dX8_noted_11 (c := ((72 + (5 * p)) + w)) (a := (72 + (5 * p))) (b := w) rfl rfl rfl ?_
  refine m_ald ok hA 0 ((72 + (5 * p)) + w) (v := (MS.A s 0 ((72 + (5 * p)) + w))) (by decide) dX8_noted_12 rfl (by simp only [mlen]; omega) rfl ?_
  exact g_iret ok fn rfl dX8_noted_13 (pv_i rfl rfl) (dk rfl)
theorem m_goes (l : Launch) (G : GE) {h0 : AH} {ad : Nat → Nat} (hA : MAd ad) (s : MS) (p : Nat) (y0 : mNo s) (y1 : p < mN s) : GM l G yX8_goes (ws_ yX8_goes cX8_goes 3 none) 1 [.ref (ad 20), .int (nI p)] (mput G h0 ad s) (0) (PN (mput G h0 ad (mGoes p s))) := by
  refine GM.of (by decide) (dk rfl) ?_
  intro X eL eG eh ok fn
  subst eL; subst eG
  show GW X _ 0 0 [some (.ref (ad 20)), some (.int (nI p)), none] []
  obtain ⟨n1, n2⟩ := y0
  obtain ⟨n, hn⟩ : ∃ n, mN s = n + 1 := ⟨mN s - 1, by omega⟩
  have hs : mGoes p s = gol (72 + 5 * p) (5 * (n - p)) 0 (mA s 0 1 (nI n)) := by unfold mGoes; rw [hn]; rfl
  rw [hs] at fn
  clear hs
  rw [hn] at n1
  refine g_aload_n ok dX8_goes_0 rfl ?_
  refine m_get ok hA 0 q2235 (by decide) dX8_goes_1 (v := .ref (ad 0)) rfl ?_
  refine g_iconst ok (v := 1) dX8_goes_4 rfl ?_
  refine g_dup2_11 ok dX8_goes_5 rfl rfl ?_
  refine m_ald ok hA 0 1 (v := (nI (n + 1))) (by decide) dX8_goes_6 rfl (by decide) n1 ?_
  refine g_iconst ok (v := 1) dX8_goes_7 rfl ?_
  refine g_isubN ok dX8_goes_8 (c := n) (a := (n + 1)) (b := 1) rfl rfl (by omega) (by omega) ?_
  refine m_ast ok hA 0 1 (by decide) dX8_goes_9 rfl (by decide) ?_
  refine g_bipush ok (v := 72) dX8_goes_10 rfl ?_
  refine g_iconst ok (v := 5) dX8_goes_12 rfl ?_
  refine g_iload_n ok dX8_goes_13 rfl ?_
  refine g_imulN ok dX8_goes_14 (c := (5 * p)) (a := 5) (b := p) rfl rfl rfl ?_
  refine g_iaddN ok dX8_goes_15 (c := (72 + (5 * p))) (a := 72) (b := (5 * p)) rfl rfl rfl ?_
  refine g_istore_n ok dX8_goes_16 (ls1 := [some (.ref (ad 20)), some (.int (nI p)), some (.int (nI (72 + (5 * p))))]) (dl rfl) rfl ?_
  obtain ⟨F, hF⟩ : ∃ F : MS, gol (72 + 5 * p) (5 * (n - p)) 0 (mA s 0 1 (nI n)) = F := ⟨_, rfl⟩
  rw [hF] at fn
  have lp : ∀ (m : Nat) (c : Nat) (t : MS), (c + m = 5 * (n - p)) → (gol (72 + 5 * p) m c t = F) → (t.A 0 1 = nI n) → GW X (mput X.G h0 ad t) 0 17 [some (.ref (ad 20)), some (.int (nI p)), some (.int (nI (72 + 5 * p + c)))] [] := by
    intro m
    induction m with
    | zero =>
      intro c t g0 g1 g2
      refine g_iload_n ok dX8_goes_17 rfl ?_
      refine g_bipush ok (v := 72) dX8_goes_18 rfl ?_
      refine g_iconst ok (v := 5) dX8_goes_20 rfl ?_
      refine g_aload_n ok dX8_goes_21 rfl ?_
      refine m_get ok hA 0 q2235 (by decide) dX8_goes_22 (v := .ref (ad 0)) rfl ?_
      refine g_iconst ok (v := 1) dX8_goes_25 rfl ?_
      refine m_ald ok hA 0 1 (v := (nI n)) (by decide) dX8_goes_26 rfl (by decide) g2 ?_
      refine g_imulN ok dX8_goes_27 (c := (5 * n)) (a := 5) (b := n) rfl rfl rfl ?_
      refine g_iaddN ok dX8_goes_28 (c := (72 + (5 * n))) (a := 72) (b := (5 * n)) rfl rfl rfl ?_
      refine g_icmp_ge ok (tgt := 52) dX8_goes_29 (by decide) (fun _ => ?_) (fun c_ => absurd (nI_le (a := (72 + (5 * n))) (b := (72 + 5 * p + c)) (by omega) (by omega)) c_)
      have g1 : t = F := g1
      subst g1
      exact g_vret ok fn rfl dX8_goes_52 (pn_i rfl) (dk rfl)
    | succ m ih =>
      intro c t g0 g1 g2
      refine g_iload_n ok dX8_goes_17 rfl ?_
      refine g_bipush ok (v := 72) dX8_goes_18 rfl ?_
      refine g_iconst ok (v := 5) dX8_goes_20 rfl ?_
      refine g_aload_n ok dX8_goes_21 rfl ?_
      refine m_get ok hA 0 q2235 (by decide) dX8_goes_22 (v := .ref (ad 0)) rfl ?_
      refine g_iconst ok (v := 1) dX8_goes_25 rfl ?_
      refine m_ald ok hA 0 1 (v := (nI n)) (by decide) dX8_goes_26 rfl (by decide) g2 ?_
      refine g_imulN ok dX8_goes_27 (c := (5 * n)) (a := 5) (b := n) rfl rfl rfl ?_
      refine g_iaddN ok dX8_goes_28 (c := (72 + (5 * n))) (a := 72) (b := (5 * n)) rfl rfl rfl ?_
      refine g_icmp_ge ok (tgt := 52) dX8_goes_29 (by decide) (fun c_ => absurd c_ (nI_ge (a := (72 + 5 * p + c)) (b := (72 + (5 * n))) (by omega) (by omega))) (fun _ => ?_)
      refine g_aload_n ok dX8_goes_32 rfl ?_
      refine m_get ok hA 0 q2235 (by decide) dX8_goes_33 (v := .ref (ad 0)) rfl ?_
      refine g_iload_n ok dX8_goes_36 rfl ?_
      refine g_aload_n ok dX8_goes_37 rfl ?_
      refine m_get ok hA 0 q2235 (by decide) dX8_goes_38 (v := .ref (ad 0)) rfl ?_
      refine g_iload_n ok dX8_goes_41 rfl ?_
      refine g_iconst ok (v := 5) dX8_goes_42 rfl ?_
      refine g_iaddN ok dX8_goes_43 (c := ((72 + 5 * p + c) + 5)) (a := (72 + 5 * p + c)) (b := 5) rfl rfl rfl ?_
      refine m_ald ok hA 0 ((72 + 5 * p + c) + 5) (v := (MS.A t 0 ((72 + 5 * p + c) + 5))) (by decide) dX8_goes_44 rfl (by simp only [mlen]; omega) rfl ?_
      refine m_ast ok hA 0 (72 + 5 * p + c) (by decide) dX8_goes_45 rfl (by simp only [mlen]; omega) ?_
      refine g_iincN ok dX8_goes_46 (c := (72 + 5 * p + c)) rfl rfl (ls1 := [some (.ref (ad 20)), some (.int (nI p)), some (.int (nI ((72 + 5 * p + c) + 1)))]) rfl ?_
      refine g_goto ok dX8_goes_49 (tgt := 17) (by decide) ?_
      exact ih (c + 1) _ (by omega) g1 ((upd_ne (by omega)).trans g2)
  exact lp (5 * (n - p)) 0 _ (by omega) hF (by rw [mA_A, if_pos rfl, upd_at])
theorem m_isNote (l : Launch) (G : GE) {h0 : AH} {ad : Nat → Nat} (hA : MAd ad) (s : MS) (p : Int32) : GM l G yX8_isNote (ws_ yX8_isNote cX8_isNote 2 (some .boolean)) 2 [.ref (ad 20), .int p] (mput G h0 ad s) (0) (PV (.int (bI (mIsN s p))) (mput G h0 ad s)) := by
  refine GM.of (by decide) (dk rfl) ?_
  intro X eL eG eh ok fn
  subst eL; subst eG
  show GW X _ 0 0 [some (.ref (ad 20)), some (.int p)] []
  refine g_iload_n ok dX8_isNote_0 rfl ?_
  refine g_iconst ok (v := 0) dX8_isNote_1 rfl ?_
  refine g_aload_n ok dX8_isNote_2 rfl ?_
  refine m_get ok hA 0 q2235 (by decide) dX8_isNote_3 (v := .ref (ad 0)) rfl ?_
  refine g_iconst ok (v := 1) dX8_isNote_6 rfl ?_
  refine m_ald ok hA 0 1 (v := (MS.A s 0 1)) (by decide) dX8_isNote_7 rfl (by decide) rfl ?_
  refine g_iconst ok (v := 1) dX8_isNote_8 rfl ?_
  refine g_isub ok dX8_isNote_9 ?_
  refine g_callS ok q2321 q2322 q75 q2323 dX8_isNote_10 (m_in X.l X.G _ p 0 ((MS.A s 0 1) - 1)) (nm_ (by decide : nmb _ 3 = true)) (dl rfl) (dk rfl) rfl rfl (dk rfl) (dk rfl) (kV ?_) xV
  exact g_zret ok fn rfl (bI_z _) dX8_isNote_13 (pv_i rfl rfl) (dk rfl)
theorem gol_I (o : Nat) : ∀ (n c : Nat) (t : MS), (gol o n c t).I = t.I := by
  intro n
  induction n with
  | zero => intro c t; rfl
  | succ n ih => intro c t; exact (ih _ _).trans rfl
theorem m_strike (l : Launch) (G : GE) {h0 : AH} {ad : Nat → Nat} (hA : MAd ad) (s : MS) (p : Int32) (y0 : mUo s) (y1 : mNo s) : GM l G yX8_strike (ws_ yX8_strike cX8_strike 3 (some .int)) 5 [.ref (ad 20), .int p] (mput G h0 ad s) (0) (PV (.int (mStrike s p).1) (mput G h0 ad (mStrike s p).2)) := by
  refine GM.of (by decide) (dk rfl) ?_
  intro X eL eG eh ok fn
  subst eL; subst eG
  show GW X _ 0 0 [some (.ref (ad 20)), some (.int p), none] []
  refine g_aload_n ok dX8_strike_0 rfl ?_
  refine g_callV ok q2307 q2309 qs23 q75 q2310 (m_recv ok hA) dX8_strike_1 (m_tries X.l X.G hA (h0 := h0) s ) (nm_ (by decide : nmb _ 0 = true)) (dl rfl) (dk rfl) rfl rfl (dk rfl) (dk rfl) (kN ?_) xN
  refine g_aload_n ok dX8_strike_4 rfl ?_
  refine g_iload_n ok dX8_strike_5 rfl ?_
  refine g_callV ok q2405 q2407 qs38 q75 q2408 (m_recv ok hA) dX8_strike_6 (m_isNote X.l X.G hA (h0 := h0) (mTries s) p) (nm_ (by decide : nmb _ 1 = true)) (dl rfl) (dk rfl) rfl rfl (dk rfl) (dk rfl) (kV ?_) xV
  refine g_if_ne ok (tgt := 18) dX8_strike_9 (by decide) (fun c9 => ?_) (fun c9 => ?_)
  · have c9' := bI_n c9
    rw [mTries_isN] at c9'
    obtain ⟨e1, l1⟩ := mIsN_n y1 c9'
    have hs : mStrike s p = (s.A 0 (72 + 5 * nn p + 4), mKeeps (mA (mGoes (nn p) (mTries s)) 0 5 ((mGoes (nn p) (mTries s)).A 0 5 + 1))) := by unfold mStrike; rw [if_pos c9']
    rw [hs] at fn
    clear hs c9 c9'
    generalize nn p = i at *
    subst e1
    obtain ⟨n1, n2⟩ := id y1
    refine g_aload_n ok dX8_strike_18 rfl ?_
    refine g_iload_n ok dX8_strike_19 rfl ?_
    refine g_iconst ok (v := 4) dX8_strike_20 rfl ?_
    refine g_callV ok q2409 q2411 qs39 q75 q2412 (m_recv ok hA) dX8_strike_21 (m_noted X.l X.G hA (h0 := h0) (mTries s) i 4 (by omega) (by decide)) (nm_ (by decide : nmb _ 2 = true)) (dl rfl) (dk rfl) rfl rfl (dk rfl) (dk rfl) (kV ?_) xV
    refine g_istore_n ok dX8_strike_24 (ls1 := [some (.ref (ad 20)), some (.int (nI i)), some (.int (MS.A (mTries s) 0 (72 + 5 * i + 4)))]) (dl rfl) rfl ?_
    refine g_aload_n ok dX8_strike_25 rfl ?_
    refine g_iload_n ok dX8_strike_26 rfl ?_
    refine g_callV ok q2413 q2415 qs40 q75 q2416 (m_recv ok hA) dX8_strike_27 (m_goes X.l X.G hA (h0 := h0) (mTries s) i (mTries_no y1) (by rw [mTries_N]; exact l1)) (nm_ (by decide : nmb _ 1 = true)) (dl rfl) (dk rfl) rfl rfl (dk rfl) (dk rfl) (kN ?_) xN
    refine g_aload_n ok dX8_strike_30 rfl ?_
    refine m_get ok hA 0 q2235 (by decide) dX8_strike_31 (v := .ref (ad 0)) rfl ?_
    refine g_iconst ok (v := 5) dX8_strike_34 rfl ?_
    refine g_dup2_11 ok dX8_strike_35 rfl rfl ?_
    refine m_ald ok hA 0 5 (v := (MS.A (mGoes i (mTries s)) 0 5)) (by decide) dX8_strike_36 rfl (by decide) rfl ?_
    refine g_iconst ok (v := 1) dX8_strike_37 rfl ?_
    refine g_iadd ok dX8_strike_38 ?_
    refine m_ast ok hA 0 5 (by decide) dX8_strike_39 rfl (by decide) ?_
    refine g_aload_n ok dX8_strike_40 rfl ?_
    refine g_iload_n ok dX8_strike_41 rfl ?_
    refine g_callV ok q2358 q2360 qs32 q75 q2361 (m_recv ok hA) dX8_strike_42 (m_keeps X.l X.G hA (h0 := h0) (mA (mGoes i (mTries s)) 0 5 ((MS.A (mGoes i (mTries s)) 0 5) + 1)) (MS.A (mTries s) 0 (72 + 5 * i + 4)) (mUo_I (s := mTries s) (by unfold mGoes; exact congrFun (gol_I _ _ _ _) 4) (mTries_u y0))) (nm_ (by decide : nmb _ 1 = true)) (dl rfl) (dk rfl) rfl rfl (dk rfl) (dk rfl) (kV ?_) xV
    exact g_iret ok fn rfl dX8_strike_45 (pv_i (congrFun (mTries_A s (by decide)) _) rfl) (dk rfl)
  · have c9' := bI_e c9
    refine g_aload_n ok dX8_strike_12 rfl ?_
    refine g_iconst ok (v := 1) dX8_strike_13 rfl ?_
    refine g_callV ok q2362 q2364 qs33 q75 q2365 (m_recv ok hA) dX8_strike_14 (m_raises X.l X.G hA (h0 := h0) (mTries s) 1) (nm_ (by decide : nmb _ 1 = true)) (dl rfl) (dk rfl) rfl rfl (dk rfl) (dk rfl) (kV ?_) xV
    exact g_iret ok fn rfl dX8_strike_17 (pv_i (by unfold mStrike; rw [← mTries_isN, c9']; rfl) (by unfold mStrike; rw [← mTries_isN, c9']; rfl)) (dk rfl)
theorem m_noteOf (l : Launch) (G : GE) {h0 : AH} {ad : Nat → Nat} (hA : MAd ad) (s : MS) (p : Int32) (w : Int32) (y0 : mNo s) : GM l G yX8_noteOf (ws_ yX8_noteOf cX8_noteOf 3 (some .int)) 3 [.ref (ad 20), .int p, .int w] (mput G h0 ad s) (0) (PV (.int (mNoteOf s p w).1) (mput G h0 ad (mNoteOf s p w).2)) := by
  refine GM.of (by decide) (dk rfl) ?_
  intro X eL eG eh ok fn
  subst eL; subst eG
  show GW X _ 0 0 [some (.ref (ad 20)), some (.int p), some (.int w)] []
  refine g_aload_n ok dX8_noteOf_0 rfl ?_
  refine g_iconst ok (v := 0) dX8_noteOf_1 rfl ?_
  refine m_put ok hA 20 q2255 (by decide) dX8_noteOf_2 ⟨rfl, rfl⟩ ?_
  refine g_aload_n ok dX8_noteOf_5 rfl ?_
  refine g_iload_n ok dX8_noteOf_6 rfl ?_
  refine g_callV ok q2405 q2407 qs38 q75 q2408 (m_recv ok hA) dX8_noteOf_7 (m_isNote X.l X.G hA (h0 := h0) (mI s 20 0) p) (nm_ (by decide : nmb _ 1 = true)) (dl rfl) (dk rfl) rfl rfl (dk rfl) (dk rfl) (kV ?_) xV
  refine g_if_ne ok (tgt := 19) dX8_noteOf_10 (by decide) (fun c10 => ?_) (fun c10 => ?_)
  · have c10' := bI_n c10
    have c10' : mIsN s p = true := c10'
    refine g_iload_n ok dX8_noteOf_19 rfl ?_
    refine g_iconst ok (v := 0) dX8_noteOf_20 rfl ?_
    refine g_iconst ok (v := 4) dX8_noteOf_21 rfl ?_
    refine g_callS ok q2321 q2322 q75 q2323 dX8_noteOf_22 (m_in X.l X.G _ w 0 4) (nm_ (by decide : nmb _ 3 = true)) (dl rfl) (dk rfl) rfl rfl (dk rfl) (dk rfl) (kV ?_) xV
    refine g_if_eq ok (tgt := 37) dX8_noteOf_25 (by decide) (fun c25 => ?_) (fun c25 => ?_)
    · have c25' := bI_e c25
      refine g_aload_n ok dX8_noteOf_37 rfl ?_
      refine g_iconst ok (v := 2) dX8_noteOf_38 rfl ?_
      refine g_callV ok q2362 q2364 qs33 q75 q2365 (m_recv ok hA) dX8_noteOf_39 (m_raises X.l X.G hA (h0 := h0) (mI s 20 0) 2) (nm_ (by decide : nmb _ 1 = true)) (dl rfl) (dk rfl) rfl rfl (dk rfl) (dk rfl) (kV ?_) xV
      exact g_iret ok fn rfl dX8_noteOf_42 (pv_i (by unfold mNoteOf; rw [c10', c25']; rfl) (by unfold mNoteOf; rw [c10', c25']; exact mI_mI)) (dk rfl)
    · have c25' := bI_n c25
      have hs : mNoteOf s p w = (s.A 0 (72 + 5 * nn p + nn w), mI s 20 0) := by unfold mNoteOf; rw [c10', c25']; rfl
      rw [hs] at fn
      obtain ⟨e1, l1⟩ := mIsN_n y0 c10'
      obtain ⟨a1, a2⟩ := inR_i.mp c25'
      obtain ⟨j, hj, ej⟩ := nI_of2 (M := 4) (n := 4) rfl (Int32.not_lt.mpr a1) a2
      have en : nn w = j := by rw [ej]; exact nn_nI (by omega)
      clear hs c10 c10' c25 c25' a1 a2
      rw [en] at fn
      clear en
      generalize nn p = i at *
      subst e1; subst ej
      obtain ⟨n1, n2⟩ := y0
      refine g_aload_n ok dX8_noteOf_28 rfl ?_
      refine g_iload_n ok dX8_noteOf_29 rfl ?_
      refine g_iload_n ok dX8_noteOf_30 rfl ?_
      refine g_callV ok q2409 q2411 qs39 q75 q2412 (m_recv ok hA) dX8_noteOf_31 (m_noted X.l X.G hA (h0 := h0) (mI s 20 0) i j (by omega) (by omega)) (nm_ (by decide : nmb _ 2 = true)) (dl rfl) (dk rfl) rfl rfl (dk rfl) (dk rfl) (kV (v := .int (MS.A s 0 (72 + 5 * i + j))) ?_) xV
      refine g_goto ok dX8_noteOf_34 (tgt := 42) (by decide) ?_
      exact g_iret ok fn rfl dX8_noteOf_42 (pv_i rfl rfl) (dk rfl)
  · have c10' := bI_e c10
    refine g_aload_n ok dX8_noteOf_13 rfl ?_
    refine g_iconst ok (v := 1) dX8_noteOf_14 rfl ?_
    refine g_callV ok q2362 q2364 qs33 q75 q2365 (m_recv ok hA) dX8_noteOf_15 (m_raises X.l X.G hA (h0 := h0) (mI s 20 0) 1) (nm_ (by decide : nmb _ 1 = true)) (dl rfl) (dk rfl) rfl rfl (dk rfl) (dk rfl) (kV ?_) xV
    exact g_iret ok fn rfl dX8_noteOf_18 (pv_i (by unfold mNoteOf; rw [show mIsN s p = false from c10']; rfl) (by unfold mNoteOf; rw [show mIsN s p = false from c10']; exact mI_mI)) (dk rfl)
