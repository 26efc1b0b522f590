/-! THE MODEL: what its methods compute, 8 -/
set_option maxRecDepth 100000
abbrev cX8_writesNumber : ByteArray := prog_19_method_66_code
def yX8_writesNumber : MethodName := ⟨RX8, "writesNumber", "(I)V"⟩
def dkwX8_writesNumber_4 : List UInt8 := [180, 0, 25, 42, 89, 180, 0, 195, 90, 4, 96, 181, 0, 195, 16, 48, 28, 16, 10, 112, 96, 146, 85, 177]
abbrev dktX8_writesNumber_4 : List UInt8 := dkwX8_writesNumber_4 ++ []
def dkwX8_writesNumber_3 : List UInt8 := [180, 0, 195, 90, 4, 96, 181, 0, 195, 16, 48, 28, 16, 10, 108, 16, 10, 112, 96, 146, 85, 42]
abbrev dktX8_writesNumber_3 : List UInt8 := dkwX8_writesNumber_3 ++ dktX8_writesNumber_4
def dkwX8_writesNumber_2 : List UInt8 := [181, 0, 195, 16, 48, 28, 16, 100, 108, 96, 146, 85, 28, 16, 9, 164, 0, 30, 42, 180, 0, 25, 42, 89]
abbrev dktX8_writesNumber_2 : List UInt8 := dkwX8_writesNumber_2 ++ dktX8_writesNumber_3
def dkwX8_writesNumber_1 : List UInt8 := [184, 0, 198, 61, 28, 16, 99, 164, 0, 27, 42, 180, 0, 25, 42, 89, 180, 0, 195, 90, 4, 96]
abbrev dktX8_writesNumber_1 : List UInt8 := dkwX8_writesNumber_1 ++ dktX8_writesNumber_2
def dkwX8_writesNumber_0 : List UInt8 := [27, 156, 0, 21, 42, 180, 0, 25, 42, 89, 180, 0, 195, 90, 4, 96, 181, 0, 195, 16, 45, 85, 27]
abbrev dktX8_writesNumber_0 : List UInt8 := dkwX8_writesNumber_0 ++ dktX8_writesNumber_1
theorem dksX8_writesNumber_0 : cX8_writesNumber.data.toList.drop 0 = dktX8_writesNumber_0 := by decide +kernel
theorem dksX8_writesNumber_1 : cX8_writesNumber.data.toList.drop 23 = dktX8_writesNumber_1 := dk_seg dksX8_writesNumber_0 23 rfl rfl
theorem dksX8_writesNumber_2 : cX8_writesNumber.data.toList.drop 45 = dktX8_writesNumber_2 := dk_seg dksX8_writesNumber_1 22 rfl rfl
theorem dksX8_writesNumber_3 : cX8_writesNumber.data.toList.drop 69 = dktX8_writesNumber_3 := dk_seg dksX8_writesNumber_2 24 rfl rfl
theorem dksX8_writesNumber_4 : cX8_writesNumber.data.toList.drop 91 = dktX8_writesNumber_4 := dk_seg dksX8_writesNumber_3 22 rfl rfl
theorem dX8_writesNumber_0 : decode cX8_writesNumber 0 = .ok (.iload_n 1, 1) := dk_27 (dk_at dksX8_writesNumber_0 0 rfl rfl)
theorem dX8_writesNumber_1 : decode cX8_writesNumber 1 = .ok (.ifCond .ge 21, 3) := dk_156 0 21 (dk_at dksX8_writesNumber_0 1 rfl rfl)
theorem dX8_writesNumber_4 : decode cX8_writesNumber 4 = .ok (.aload_n 0, 1) := dk_42 (dk_at dksX8_writesNumber_0 4 rfl rfl)
theorem dX8_writesNumber_5 : decode cX8_writesNumber 5 = .ok (.getfield 25, 3) := dk_180 0 25 (dk_at dksX8_writesNumber_0 5 rfl rfl)
theorem dX8_writesNumber_8 : decode cX8_writesNumber 8 = .ok (.aload_n 0, 1) := dk_42 (dk_at dksX8_writesNumber_0 8 rfl rfl)
theorem dX8_writesNumber_9 : decode cX8_writesNumber 9 = .ok (.dup, 1) := dk_89 (dk_at dksX8_writesNumber_0 9 rfl rfl)
theorem dX8_writesNumber_10 : decode cX8_writesNumber 10 = .ok (.getfield 195, 3) := dk_180 0 195 (dk_at dksX8_writesNumber_0 10 rfl rfl)
theorem dX8_writesNumber_13 : decode cX8_writesNumber 13 = .ok (.dup_x1, 1) := dk_90 (dk_at dksX8_writesNumber_0 13 rfl rfl)
theorem dX8_writesNumber_14 : decode cX8_writesNumber 14 = .ok (.iconst 1, 1) := dk_4 (dk_at dksX8_writesNumber_0 14 rfl rfl)
theorem dX8_writesNumber_15 : decode cX8_writesNumber 15 = .ok (.iadd, 1) := dk_96 (dk_at dksX8_writesNumber_0 15 rfl rfl)
theorem dX8_writesNumber_16 : decode cX8_writesNumber 16 = .ok (.putfield 195, 3) := dk_181 0 195 (dk_at dksX8_writesNumber_0 16 rfl rfl)
theorem dX8_writesNumber_19 : decode cX8_writesNumber 19 = .ok (.bipush 45, 2) := dk_16 45 (dk_at dksX8_writesNumber_0 19 rfl rfl)
theorem dX8_writesNumber_21 : decode cX8_writesNumber 21 = .ok (.castore, 1) := dk_85 (dk_at dksX8_writesNumber_0 21 rfl rfl)
theorem dX8_writesNumber_22 : decode cX8_writesNumber 22 = .ok (.iload_n 1, 1) := dk_27 (dk_at dksX8_writesNumber_0 22 rfl rfl)
theorem dX8_writesNumber_23 : decode cX8_writesNumber 23 = .ok (.invokestatic 198, 3) := dk_184 0 198 (dk_at dksX8_writesNumber_1 0 rfl rfl)
theorem dX8_writesNumber_26 : decode cX8_writesNumber 26 = .ok (.istore_n 2, 1) := dk_61 (dk_at dksX8_writesNumber_1 3 rfl rfl)
theorem dX8_writesNumber_27 : decode cX8_writesNumber 27 = .ok (.iload_n 2, 1) := dk_28 (dk_at dksX8_writesNumber_1 4 rfl rfl)
theorem dX8_writesNumber_28 : decode cX8_writesNumber 28 = .ok (.bipush 99, 2) := dk_16 99 (dk_at dksX8_writesNumber_1 5 rfl rfl)
theorem dX8_writesNumber_30 : decode cX8_writesNumber 30 = .ok (.if_icmp .le 27, 3) := dk_164 0 27 (dk_at dksX8_writesNumber_1 7 rfl rfl)
theorem dX8_writesNumber_33 : decode cX8_writesNumber 33 = .ok (.aload_n 0, 1) := dk_42 (dk_at dksX8_writesNumber_1 10 rfl rfl)
theorem dX8_writesNumber_34 : decode cX8_writesNumber 34 = .ok (.getfield 25, 3) := dk_180 0 25 (dk_at dksX8_writesNumber_1 11 rfl rfl)
theorem dX8_writesNumber_37 : decode cX8_writesNumber 37 = .ok (.aload_n 0, 1) := dk_42 (dk_at dksX8_writesNumber_1 14 rfl rfl)
theorem dX8_writesNumber_38 : decode cX8_writesNumber 38 = .ok (.dup, 1) := dk_89 (dk_at dksX8_writesNumber_1 15 rfl rfl)
theorem dX8_writesNumber_39 : decode cX8_writesNumber 39 = .ok (.getfield 195, 3) := dk_180 0 195 (dk_at dksX8_writesNumber_1 16 rfl rfl)
theorem dX8_writesNumber_42 : decode cX8_writesNumber 42 = .ok (.dup_x1, 1) := dk_90 (dk_at dksX8_writesNumber_1 19 rfl rfl)
theorem dX8_writesNumber_43 : decode cX8_writesNumber 43 = .ok (.iconst 1, 1) := dk_4 (dk_at dksX8_writesNumber_1 20 rfl rfl)
theorem dX8_writesNumber_44 : decode cX8_writesNumber 44 = .ok (.iadd, 1) := dk_96 (dk_at dksX8_writesNumber_1 21 rfl rfl)
theorem dX8_writesNumber_45 : decode cX8_writesNumber 45 = .ok (.putfield 195, 3) := dk_181 0 195 (dk_at dksX8_writesNumber_2 0 rfl rfl)
theorem dX8_writesNumber_48 : decode cX8_writesNumber 48 = .ok (.bipush 48, 2) := dk_16 48 (dk_at dksX8_writesNumber_2 3 rfl rfl)
theorem dX8_writesNumber_50 : decode cX8_writesNumber 50 = .ok (.iload_n 2, 1) := dk_28 (dk_at dksX8_writesNumber_2 5 rfl rfl)
theorem dX8_writesNumber_51 : decode cX8_writesNumber 51 = .ok (.bipush 100, 2) := dk_16 100 (dk_at dksX8_writesNumber_2 6 rfl rfl)
theorem dX8_writesNumber_53 : decode cX8_writesNumber 53 = .ok (.idiv, 1) := dk_108 (dk_at dksX8_writesNumber_2 8 rfl rfl)
theorem dX8_writesNumber_54 : decode cX8_writesNumber 54 = .ok (.iadd, 1) := dk_96 (dk_at dksX8_writesNumber_2 9 rfl rfl)
theorem dX8_writesNumber_55 : decode cX8_writesNumber 55 = .ok (.i2c, 1) := dk_146 (dk_at dksX8_writesNumber_2 10 rfl rfl)
theorem dX8_writesNumber_56 : decode cX8_writesNumber 56 = .ok (.castore, 1) := dk_85 (dk_at dksX8_writesNumber_2 11 rfl rfl)
theorem dX8_writesNumber_57 : decode cX8_writesNumber 57 = .ok (.iload_n 2, 1) := dk_28 (dk_at dksX8_writesNumber_2 12 rfl rfl)
theorem dX8_writesNumber_58 : decode cX8_writesNumber 58 = .ok (.bipush 9, 2) := dk_16 9 (dk_at dksX8_writesNumber_2 13 rfl rfl)
theorem dX8_writesNumber_60 : decode cX8_writesNumber 60 = .ok (.if_icmp .le 30, 3) := dk_164 0 30 (dk_at dksX8_writesNumber_2 15 rfl rfl)
theorem dX8_writesNumber_63 : decode cX8_writesNumber 63 = .ok (.aload_n 0, 1) := dk_42 (dk_at dksX8_writesNumber_2 18 rfl rfl)
theorem dX8_writesNumber_64 : decode cX8_writesNumber 64 = .ok (.getfield 25, 3) := dk_180 0 25 (dk_at dksX8_writesNumber_2 19 rfl rfl)
theorem dX8_writesNumber_67 : decode cX8_writesNumber 67 = .ok (.aload_n 0, 1) := dk_42 (dk_at dksX8_writesNumber_2 22 rfl rfl)
theorem dX8_writesNumber_68 : decode cX8_writesNumber 68 = .ok (.dup, 1) := dk_89 (dk_at dksX8_writesNumber_2 23 rfl rfl)
theorem dX8_writesNumber_69 : decode cX8_writesNumber 69 = .ok (.getfield 195, 3) := dk_180 0 195 (dk_at dksX8_writesNumber_3 0 rfl rfl)
theorem dX8_writesNumber_72 : decode cX8_writesNumber 72 = .ok (.dup_x1, 1) := dk_90 (dk_at dksX8_writesNumber_3 3 rfl rfl)
theorem dX8_writesNumber_73 : decode cX8_writesNumber 73 = .ok (.iconst 1, 1) := dk_4 (dk_at dksX8_writesNumber_3 4 rfl rfl)
theorem dX8_writesNumber_74 : decode cX8_writesNumber 74 = .ok (.iadd, 1) := dk_96 (dk_at dksX8_writesNumber_3 5 rfl rfl)
theorem dX8_writesNumber_75 : decode cX8_writesNumber 75 = .ok (.putfield 195, 3) := dk_181 0 195 (dk_at dksX8_writesNumber_3 6 rfl rfl)
theorem dX8_writesNumber_78 : decode cX8_writesNumber 78 = .ok (.bipush 48, 2) := dk_16 48 (dk_at dksX8_writesNumber_3 9 rfl rfl)
theorem dX8_writesNumber_80 : decode cX8_writesNumber 80 = .ok (.iload_n 2, 1) := dk_28 (dk_at dksX8_writesNumber_3 11 rfl rfl)
theorem dX8_writesNumber_81 : decode cX8_writesNumber 81 = .ok (.bipush 10, 2) := dk_16 10 (dk_at dksX8_writesNumber_3 12 rfl rfl)
theorem dX8_writesNumber_83 : decode cX8_writesNumber 83 = .ok (.idiv, 1) := dk_108 (dk_at dksX8_writesNumber_3 14 rfl rfl)
theorem dX8_writesNumber_84 : decode cX8_writesNumber 84 = .ok (.bipush 10, 2) := dk_16 10 (dk_at dksX8_writesNumber_3 15 rfl rfl)
theorem dX8_writesNumber_86 : decode cX8_writesNumber 86 = .ok (.irem, 1) := dk_112 (dk_at dksX8_writesNumber_3 17 rfl rfl)
theorem dX8_writesNumber_87 : decode cX8_writesNumber 87 = .ok (.iadd, 1) := dk_96 (dk_at dksX8_writesNumber_3 18 rfl rfl)
theorem dX8_writesNumber_88 : decode cX8_writesNumber 88 = .ok (.i2c, 1) := dk_146 (dk_at dksX8_writesNumber_3 19 rfl rfl)
theorem dX8_writesNumber_89 : decode cX8_writesNumber 89 = .ok (.castore, 1) := dk_85 (dk_at dksX8_writesNumber_3 20 rfl rfl)
theorem dX8_writesNumber_90 : decode cX8_writesNumber 90 = .ok (.aload_n 0, 1) := dk_42 (dk_at dksX8_writesNumber_3 21 rfl rfl)
theorem dX8_writesNumber_91 : decode cX8_writesNumber 91 = .ok (.getfield 25, 3) := dk_180 0 25 (dk_at dksX8_writesNumber_4 0 rfl rfl)
theorem dX8_writesNumber_94 : decode cX8_writesNumber 94 = .ok (.aload_n 0, 1) := dk_42 (dk_at dksX8_writesNumber_4 3 rfl rfl)
theorem dX8_writesNumber_95 : decode cX8_writesNumber 95 = .ok (.dup, 1) := dk_89 (dk_at dksX8_writesNumber_4 4 rfl rfl)
theorem dX8_writesNumber_96 : decode cX8_writesNumber 96 = .ok (.getfield 195, 3) := dk_180 0 195 (dk_at dksX8_writesNumber_4 5 rfl rfl)
theorem dX8_writesNumber_99 : decode cX8_writesNumber 99 = .ok (.dup_x1, 1) := dk_90 (dk_at dksX8_writesNumber_4 8 rfl rfl)
theorem dX8_writesNumber_100 : decode cX8_writesNumber 100 = .ok (.iconst 1, 1) := dk_4 (dk_at dksX8_writesNumber_4 9 rfl rfl)
theorem dX8_writesNumber_101 : decode cX8_writesNumber 101 = .ok (.iadd, 1) := dk_96 (dk_at dksX8_writesNumber_4 10 rfl rfl)
theorem dX8_writesNumber_102 : decode cX8_writesNumber 102 = .ok (.putfield 195, 3) := dk_181 0 195 (dk_at dksX8_writesNumber_4 11 rfl rfl)
theorem dX8_writesNumber_105 : decode cX8_writesNumber 105 = .ok (.bipush 48, 2) := dk_16 48 (dk_at dksX8_writesNumber_4 14 rfl rfl)
theorem dX8_writesNumber_107 : decode cX8_writesNumber 107 = .ok (.iload_n 2, 1) := dk_28 (dk_at dksX8_writesNumber_4 16 rfl rfl)
theorem dX8_writesNumber_108 : decode cX8_writesNumber 108 = .ok (.bipush 10, 2) := dk_16 10 (dk_at dksX8_writesNumber_4 17 rfl rfl)
theorem dX8_writesNumber_110 : decode cX8_writesNumber 110 = .ok (.irem, 1) := dk_112 (dk_at dksX8_writesNumber_4 19 rfl rfl)
theorem dX8_writesNumber_111 : decode cX8_writesNumber 111 = .ok (.iadd, 1) := dk_96 (dk_at dksX8_writesNumber_4 20 rfl rfl)
theorem dX8_writesNumber_112 : decode cX8_writesNumber 112 = .ok (.i2c, 1) := dk_146 (dk_at dksX8_writesNumber_4 21 rfl rfl)
theorem dX8_writesNumber_113 : decode cX8_writesNumber 113 = .ok (.castore, 1) := dk_85 (dk_at dksX8_writesNumber_4 22 rfl rfl)
theorem dX8_writesNumber_114 : decode cX8_writesNumber 114 = .ok (.return_, 1) := dk_177 (dk_at dksX8_writesNumber_4 23 rfl rfl)
abbrev cX8_line : ByteArray := prog_19_method_67_code
def yX8_line : MethodName := ⟨RX8, "line", "(II)I"⟩
def dkwX8_line_5 : List UInt8 := [132, 3, 1, 167, 255, 162, 42, 180, 0, 195, 172]
abbrev dktX8_line_5 : List UInt8 := dkwX8_line_5 ++ []
def dkwX8_line_4 : List UInt8 := [16, 114, 167, 0, 19, 42, 29, 182, 0, 125, 5, 160, 0, 8, 16, 103, 167, 0, 5, 16, 98, 85]
abbrev dktX8_line_4 : List UInt8 := dkwX8_line_4 ++ dktX8_line_5
def dkwX8_line_3 : List UInt8 := [180, 0, 25, 42, 89, 180, 0, 195, 90, 4, 96, 181, 0, 195, 42, 29, 182, 0, 125, 4, 160, 0, 8]
abbrev dktX8_line_3 : List UInt8 := dkwX8_line_3 ++ dktX8_line_4
def dkwX8_line_2 : List UInt8 := [181, 0, 195, 16, 32, 85, 42, 42, 29, 182, 0, 75, 182, 0, 201, 42, 29, 182, 0, 125, 158, 0, 49, 42]
abbrev dktX8_line_2 : List UInt8 := dkwX8_line_2 ++ dktX8_line_3
def dkwX8_line_1 : List UInt8 := [27, 62, 29, 28, 163, 0, 95, 29, 27, 164, 0, 21, 42, 180, 0, 25, 42, 89, 180, 0, 195, 90, 4, 96]
abbrev dktX8_line_1 : List UInt8 := dkwX8_line_1 ++ dktX8_line_2
def dkwX8_line_0 : List UInt8 := [42, 3, 181, 0, 45, 27, 28, 184, 0, 82, 154, 0, 9, 42, 4, 182, 0, 58, 172, 42, 3, 181, 0, 195]
abbrev dktX8_line_0 : List UInt8 := dkwX8_line_0 ++ dktX8_line_1
theorem dksX8_line_0 : cX8_line.data.toList.drop 0 = dktX8_line_0 := by decide +kernel
theorem dksX8_line_1 : cX8_line.data.toList.drop 24 = dktX8_line_1 := dk_seg dksX8_line_0 24 rfl rfl
theorem dksX8_line_2 : cX8_line.data.toList.drop 48 = dktX8_line_2 := dk_seg dksX8_line_1 24 rfl rfl
theorem dksX8_line_3 : cX8_line.data.toList.drop 72 = dktX8_line_3 := dk_seg dksX8_line_2 24 rfl rfl
theorem dksX8_line_4 : cX8_line.data.toList.drop 95 = dktX8_line_4 := dk_seg dksX8_line_3 23 rfl rfl
theorem dksX8_line_5 : cX8_line.data.toList.drop 117 = dktX8_line_5 := dk_seg dksX8_line_4 22 rfl rfl
theorem dX8_line_0 : decode cX8_line 0 = .ok (.aload_n 0, 1) := dk_42 (dk_at dksX8_line_0 0 rfl rfl)
theorem dX8_line_1 : decode cX8_line 1 = .ok (.iconst 0, 1) := dk_3 (dk_at dksX8_line_0 1 rfl rfl)
theorem dX8_line_2 : decode cX8_line 2 = .ok (.putfield 45, 3) := dk_181 0 45 (dk_at dksX8_line_0 2 rfl rfl)
theorem dX8_line_5 : decode cX8_line 5 = .ok (.iload_n 1, 1) := dk_27 (dk_at dksX8_line_0 5 rfl rfl)
theorem dX8_line_6 : decode cX8_line 6 = .ok (.iload_n 2, 1) := dk_28 (dk_at dksX8_line_0 6 rfl rfl)
theorem dX8_line_7 : decode cX8_line 7 = .ok (.invokestatic 82, 3) := dk_184 0 82 (dk_at dksX8_line_0 7 rfl rfl)
theorem dX8_line_10 : decode cX8_line 10 = .ok (.ifCond .ne 9, 3) := dk_154 0 9 (dk_at dksX8_line_0 10 rfl rfl)
theorem dX8_line_13 : decode cX8_line 13 = .ok (.aload_n 0, 1) := dk_42 (dk_at dksX8_line_0 13 rfl rfl)
theorem dX8_line_14 : decode cX8_line 14 = .ok (.iconst 1, 1) := dk_4 (dk_at dksX8_line_0 14 rfl rfl)
theorem dX8_line_15 : decode cX8_line 15 = .ok (.invokevirtual 58, 3) := dk_182 0 58 (dk_at dksX8_line_0 15 rfl rfl)
theorem dX8_line_18 : decode cX8_line 18 = .ok (.ireturn, 1) := dk_172 (dk_at dksX8_line_0 18 rfl rfl)
theorem dX8_line_19 : decode cX8_line 19 = .ok (.aload_n 0, 1) := dk_42 (dk_at dksX8_line_0 19 rfl rfl)
theorem dX8_line_20 : decode cX8_line 20 = .ok (.iconst 0, 1) := dk_3 (dk_at dksX8_line_0 20 rfl rfl)
theorem dX8_line_21 : decode cX8_line 21 = .ok (.putfield 195, 3) := dk_181 0 195 (dk_at dksX8_line_0 21 rfl rfl)
theorem dX8_line_24 : decode cX8_line 24 = .ok (.iload_n 1, 1) := dk_27 (dk_at dksX8_line_1 0 rfl rfl)
theorem dX8_line_25 : decode cX8_line 25 = .ok (.istore_n 3, 1) := dk_62 (dk_at dksX8_line_1 1 rfl rfl)
theorem dX8_line_26 : decode cX8_line 26 = .ok (.iload_n 3, 1) := dk_29 (dk_at dksX8_line_1 2 rfl rfl)
theorem dX8_line_27 : decode cX8_line 27 = .ok (.iload_n 2, 1) := dk_28 (dk_at dksX8_line_1 3 rfl rfl)
theorem dX8_line_28 : decode cX8_line 28 = .ok (.if_icmp .gt 95, 3) := dk_163 0 95 (dk_at dksX8_line_1 4 rfl rfl)
theorem dX8_line_31 : decode cX8_line 31 = .ok (.iload_n 3, 1) := dk_29 (dk_at dksX8_line_1 7 rfl rfl)
theorem dX8_line_32 : decode cX8_line 32 = .ok (.iload_n 1, 1) := dk_27 (dk_at dksX8_line_1 8 rfl rfl)
theorem dX8_line_33 : decode cX8_line 33 = .ok (.if_icmp .le 21, 3) := dk_164 0 21 (dk_at dksX8_line_1 9 rfl rfl)
theorem dX8_line_36 : decode cX8_line 36 = .ok (.aload_n 0, 1) := dk_42 (dk_at dksX8_line_1 12 rfl rfl)
theorem dX8_line_37 : decode cX8_line 37 = .ok (.getfield 25, 3) := dk_180 0 25 (dk_at dksX8_line_1 13 rfl rfl)
theorem dX8_line_40 : decode cX8_line 40 = .ok (.aload_n 0, 1) := dk_42 (dk_at dksX8_line_1 16 rfl rfl)
theorem dX8_line_41 : decode cX8_line 41 = .ok (.dup, 1) := dk_89 (dk_at dksX8_line_1 17 rfl rfl)
theorem dX8_line_42 : decode cX8_line 42 = .ok (.getfield 195, 3) := dk_180 0 195 (dk_at dksX8_line_1 18 rfl rfl)
theorem dX8_line_45 : decode cX8_line 45 = .ok (.dup_x1, 1) := dk_90 (dk_at dksX8_line_1 21 rfl rfl)
theorem dX8_line_46 : decode cX8_line 46 = .ok (.iconst 1, 1) := dk_4 (dk_at dksX8_line_1 22 rfl rfl)
theorem dX8_line_47 : decode cX8_line 47 = .ok (.iadd, 1) := dk_96 (dk_at dksX8_line_1 23 rfl rfl)
theorem dX8_line_48 : decode cX8_line 48 = .ok (.putfield 195, 3) := dk_181 0 195 (dk_at dksX8_line_2 0 rfl rfl)
theorem dX8_line_51 : decode cX8_line 51 = .ok (.bipush 32, 2) := dk_16 32 (dk_at dksX8_line_2 3 rfl rfl)
theorem dX8_line_53 : decode cX8_line 53 = .ok (.castore, 1) := dk_85 (dk_at dksX8_line_2 5 rfl rfl)
theorem dX8_line_54 : decode cX8_line 54 = .ok (.aload_n 0, 1) := dk_42 (dk_at dksX8_line_2 6 rfl rfl)
theorem dX8_line_55 : decode cX8_line 55 = .ok (.aload_n 0, 1) := dk_42 (dk_at dksX8_line_2 7 rfl rfl)
theorem dX8_line_56 : decode cX8_line 56 = .ok (.iload_n 3, 1) := dk_29 (dk_at dksX8_line_2 8 rfl rfl)
theorem dX8_line_57 : decode cX8_line 57 = .ok (.invokevirtual 75, 3) := dk_182 0 75 (dk_at dksX8_line_2 9 rfl rfl)
theorem dX8_line_60 : decode cX8_line 60 = .ok (.invokevirtual 201, 3) := dk_182 0 201 (dk_at dksX8_line_2 12 rfl rfl)
theorem dX8_line_63 : decode cX8_line 63 = .ok (.aload_n 0, 1) := dk_42 (dk_at dksX8_line_2 15 rfl rfl)
theorem dX8_line_64 : decode cX8_line 64 = .ok (.iload_n 3, 1) := dk_29 (dk_at dksX8_line_2 16 rfl rfl)
theorem dX8_line_65 : decode cX8_line 65 = .ok (.invokevirtual 125, 3) := dk_182 0 125 (dk_at dksX8_line_2 17 rfl rfl)
theorem dX8_line_68 : decode cX8_line 68 = .ok (.ifCond .le 49, 3) := dk_158 0 49 (dk_at dksX8_line_2 20 rfl rfl)
theorem dX8_line_71 : decode cX8_line 71 = .ok (.aload_n 0, 1) := dk_42 (dk_at dksX8_line_2 23 rfl rfl)
theorem dX8_line_72 : decode cX8_line 72 = .ok (.getfield 25, 3) := dk_180 0 25 (dk_at dksX8_line_3 0 rfl rfl)
theorem dX8_line_75 : decode cX8_line 75 = .ok (.aload_n 0, 1) := dk_42 (dk_at dksX8_line_3 3 rfl rfl)
theorem dX8_line_76 : decode cX8_line 76 = .ok (.dup, 1) := dk_89 (dk_at dksX8_line_3 4 rfl rfl)
theorem dX8_line_77 : decode cX8_line 77 = .ok (.getfield 195, 3) := dk_180 0 195 (dk_at dksX8_line_3 5 rfl rfl)
theorem dX8_line_80 : decode cX8_line 80 = .ok (.dup_x1, 1) := dk_90 (dk_at dksX8_line_3 8 rfl rfl)
theorem dX8_line_81 : decode cX8_line 81 = .ok (.iconst 1, 1) := dk_4 (dk_at dksX8_line_3 9 rfl rfl)
theorem dX8_line_82 : decode cX8_line 82 = .ok (.iadd, 1) := dk_96 (dk_at dksX8_line_3 10 rfl rfl)
theorem dX8_line_83 : decode cX8_line 83 = .ok (.putfield 195, 3) := dk_181 0 195 (dk_at dksX8_line_3 11 rfl rfl)
theorem dX8_line_86 : decode cX8_line 86 = .ok (.aload_n 0, 1) := dk_42 (dk_at dksX8_line_3 14 rfl rfl)
theorem dX8_line_87 : decode cX8_line 87 = .ok (.iload_n 3, 1) := dk_29 (dk_at dksX8_line_3 15 rfl rfl)
theorem dX8_line_88 : decode cX8_line 88 = .ok (.invokevirtual 125, 3) := dk_182 0 125 (dk_at dksX8_line_3 16 rfl rfl)
theorem dX8_line_91 : decode cX8_line 91 = .ok (.iconst 1, 1) := dk_4 (dk_at dksX8_line_3 19 rfl rfl)
theorem dX8_line_92 : decode cX8_line 92 = .ok (.if_icmp .ne 8, 3) := dk_160 0 8 (dk_at dksX8_line_3 20 rfl rfl)
theorem dX8_line_95 : decode cX8_line 95 = .ok (.bipush 114, 2) := dk_16 114 (dk_at dksX8_line_4 0 rfl rfl)
theorem dX8_line_97 : decode cX8_line 97 = .ok (.goto 19, 3) := dk_167 0 19 (dk_at dksX8_line_4 2 rfl rfl)
theorem dX8_line_100 : decode cX8_line 100 = .ok (.aload_n 0, 1) := dk_42 (dk_at dksX8_line_4 5 rfl rfl)
theorem dX8_line_101 : decode cX8_line 101 = .ok (.iload_n 3, 1) := dk_29 (dk_at dksX8_line_4 6 rfl rfl)
theorem dX8_line_102 : decode cX8_line 102 = .ok (.invokevirtual 125, 3) := dk_182 0 125 (dk_at dksX8_line_4 7 rfl rfl)
theorem dX8_line_105 : decode cX8_line 105 = .ok (.iconst 2, 1) := dk_5 (dk_at dksX8_line_4 10 rfl rfl)
theorem dX8_line_106 : decode cX8_line 106 = .ok (.if_icmp .ne 8, 3) := dk_160 0 8 (dk_at dksX8_line_4 11 rfl rfl)
theorem dX8_line_109 : decode cX8_line 109 = .ok (.bipush 103, 2) := dk_16 103 (dk_at dksX8_line_4 14 rfl rfl)
theorem dX8_line_111 : decode cX8_line 111 = .ok (.goto 5, 3) := dk_167 0 5 (dk_at dksX8_line_4 16 rfl rfl)
theorem dX8_line_114 : decode cX8_line 114 = .ok (.bipush 98, 2) := dk_16 98 (dk_at dksX8_line_4 19 rfl rfl)
theorem dX8_line_116 : decode cX8_line 116 = .ok (.castore, 1) := dk_85 (dk_at dksX8_line_4 21 rfl rfl)
theorem dX8_line_117 : decode cX8_line 117 = .ok (.iinc 3 1, 3) := dk_132 3 1 (dk_at dksX8_line_5 0 rfl rfl)
theorem dX8_line_120 : decode cX8_line 120 = .ok (.goto (-94), 3) := dk_167 255 162 (dk_at dksX8_line_5 3 rfl rfl)
theorem dX8_line_123 : decode cX8_line 123 = .ok (.aload_n 0, 1) := dk_42 (dk_at dksX8_line_5 6 rfl rfl)
theorem dX8_line_124 : decode cX8_line 124 = .ok (.getfield 195, 3) := dk_180 0 195 (dk_at dksX8_line_5 7 rfl rfl)
theorem dX8_line_127 : decode cX8_line 127 = .ok (.ireturn, 1) := dk_172 (dk_at dksX8_line_5 10 rfl rfl)
theorem q2557 : (Jvm.Cond.methodLink "SpanRulerModel" (198 : Nat) ({ cls := "java/lang/Math", name := "abs", desc := "(I)I" } : Jvm.MethodName)) ∈ lw_all := lw_g (lw_at lw_m11 97 rfl) rfl
theorem q2558 : (Jvm.Cond.static ({ cls := "java/lang/Math", name := "abs", desc := "(I)I" } : Jvm.MethodName)) ∈ lw_all := lw_g (lw_at lw_m11 98 rfl) rfl
theorem q2559 : (Jvm.Cond.code ({ cls := "java/lang/Math", name := "abs", desc := "(I)I" } : Jvm.MethodName) prog_36_method_59_code (1 : Nat) (Option.some Jvm.ClassFile.FieldType.int)) ∈ lw_all := lw_g (lw_at lw_m11 99 rfl) rfl
theorem q2242 : (Jvm.Cond.fieldLink "SpanRulerModel" (25 : Nat) "SpanRulerModel" "line" "[C") ∈ lw_all := lw_g (lw_at lw_m10 22 rfl) rfl
theorem q2243 : (Jvm.Cond.fieldLink "SpanRulerModel" (195 : Nat) "SpanRulerModel" "lined" "I") ∈ lw_all := lw_g (lw_at lw_m10 23 rfl) rfl
theorem q2553 : (Jvm.Cond.methodLink "SpanRulerModel" (201 : Nat) ({ cls := "SpanRulerModel", name := "writesNumber", desc := "(I)V" } : Jvm.MethodName)) ∈ lw_all := lw_g (lw_at lw_m11 93 rfl) rfl
theorem q2556 : (Jvm.Cond.code ({ cls := "SpanRulerModel", name := "writesNumber", desc := "(I)V" } : Jvm.MethodName) prog_19_method_66_code (3 : Nat) (Option.none : Option Jvm.ClassFile.FieldType)) ∈ lw_all := lw_g (lw_at lw_m11 96 rfl) rfl
theorem q2555 : (Jvm.Cond.instanceMethod ({ cls := "SpanRulerModel", name := "writesNumber", desc := "(I)V" } : Jvm.MethodName)) ∈ lw_all := lw_g (lw_at lw_m11 95 rfl) rfl
/-! lines, accounts, texts, history and saving -/
def wch (s : MS) (x : Int32) : MS := mA (mI s 8 (s.I 8 + 1)) 7 (nn (s.I 8)) x
theorem wch_eq {s : MS} {L : Nat} {x : Int32} (h : s.I 8 = nI L) (hL : L < 2 ^ 31) : mA (mI s 8 (nI (L + 1))) 7 L x = wch s x := by
  unfold wch
  rw [h, nn_nI hL, nI_succ]
theorem wch_8 {s : MS} {L : Nat} {x : Int32} (h : s.I 8 = nI L) : (wch s x).I 8 = nI (L + 1) := by
  show upd s.I 8 (s.I 8 + 1) 8 = _
  rw [upd_at, h, nI_succ]
theorem wch_0 {s : MS} {x : Int32} : (wch s x).A 0 = s.A 0 := rfl
def wl (l : List Int32) (t : MS) : MS := l.foldl wch t
def mab (v : Int32) : Nat := nn (if 0 ≤ v then v else 0 - v)
theorem mab_n {v : Int32} (h : inR v (-999) 999 = true) : (if 0 ≤ v then v else 0 - v) = nI (mab v) ∧ mab v ≤ 999 := by
  obtain ⟨h1, h2⟩ := inR_i.mp h
  unfold mab
  split
  · rename_i c
    obtain ⟨i, hi, rfl⟩ := nI_of2 (M := 999) (n := 999) rfl (Int32.not_lt.mpr c) h2
    rw [nn_nI (by omega)]; exact ⟨rfl, hi⟩
  · rename_i c
    rw [Int32.le_iff_toInt_le] at h1 c
    have a1 : ((-999 : Int32)).toInt = -999 := rfl
    have a2 : ((0 : Int32)).toInt = 0 := rfl
    rw [a1] at h1
    rw [a2] at c
    have e : (0 - v).toInt = - v.toInt := by
      rw [Int32.toInt_sub, a2]
      have : (0 - v.toInt).bmod (2 ^ 32) = 0 - v.toInt := by
        rw [Int.bmod_eq_of_le (by omega) (by omega)]
      rw [this]; omega
    have b1 : ¬ (0 - v) < 0 := by rw [Int32.lt_iff_toInt_lt, e, a2]; omega
    have a3 : ((999 : Int32)).toInt = 999 := rfl
    have b2 : (0 - v) ≤ 999 := by rw [Int32.le_iff_toInt_le, e, a3]; omega
    obtain ⟨i, hi, hz⟩ := nI_of2 (M := 999) (n := 999) rfl b1 b2
    rw [hz, nn_nI (by omega)]
    exact ⟨rfl, hi⟩
def numCh (v : Int32) (m : Nat) : List Int32 := (if v < 0 then [45] else []) ++ ((if 99 < m then [nI (48 + m / 100)] else []) ++ ((if 9 < m then [nI (48 + m / 10 % 10)] else []) ++ [nI (48 + m % 10)]))
theorem numCh_len {v : Int32} {m : Nat} : (numCh v m).length ≤ 4 := by
  unfold numCh
  split <;> split <;> split <;> exact dk rfl
def colCh (z : Int32) : List Int32 := if 0 < z then [if z = 1 then 114 else if z = 2 then 103 else 98] else []
def cellCh (R : Nat → Int32) (i c : Nat) : List Int32 := (if i < c then [32] else []) ++ (numCh (R (8 + c)) (mab (R (8 + c))) ++ colCh (R (40 + c)))
def lil (i : Nat) : Nat → Nat → MS → MS
  | 0, _, t => t
  | m + 1, c, t => lil i m (c + 1) (wl (cellCh (t.A 0) i c) t)
def mLine (s : MS) (a b : Int32) : Int32 × MS := if isSp a b = true then ((lil (nn a) (sp a b) (nn a) (mI (mI s 20 0) 8 0)).I 8, lil (nn a) (sp a b) (nn a) (mI (mI s 20 0) 8 0)) else (0, mI (mI s 20 0) 20 1)
def mRng (s : MS) : Prop := ∀ c, c < 32 → inR (s.A 0 (8 + c)) (-999) 999 = true
theorem wl_8 : ∀ (l : List Int32) (t : MS) (L : Nat), t.I 8 = nI L → (wl l t).I 8 = nI (L + l.length) := by
  intro l
  induction l with
  | nil => intro t L h; exact h
  | cons x l ih =>
    intro t L h
    show (wl l (wch t x)).I 8 = _
    rw [ih _ _ (wch_8 h), List.length_cons]
    congr 1; omega
theorem wl_0 : ∀ (l : List Int32) (t : MS), (wl l t).A 0 = t.A 0 := by
  intro l
  induction l with
  | nil => intro t; rfl
  | cons x l ih => intro t; exact (ih _).trans wch_0
theorem wl_app (a b : List Int32) (t : MS) : wl (a ++ b) t = wl b (wl a t) := List.foldl_append
def mLi (s : MS) : Prop := s.I 8 = nI (nn (s.I 8)) ∧ nn (s.I 8) ≤ 200 ∧ ∀ j, j < nn (s.I 8) → ∃ q, q < 65536 ∧ s.A 7 j = nI q
theorem mRng_of {s t : MS} (h : t.A 0 = s.A 0) (x : mRng s) : mRng t := fun c hc => by rw [h]; exact x c hc
def mIsL (s : MS) (i : Int32) : Bool := inR i 0 (s.I 8 - 1)
def mChar (s : MS) (i : Int32) : Int32 × MS := if mIsL s i = true then (s.A 7 (nn i), mI s 20 0) else (97, mI s 20 1)
def mTo (s : MS) : Prop := s.I 10 = nI (nn (s.I 10)) ∧ nn (s.I 10) ≤ 60
def mAppend (s : MS) (c : Int32) : Int32 × MS := if inR c 32 126 = true then (if nn (s.I 10) = 60 then (0, mI (mI s 20 0) 20 2) else (nI (nn (s.I 10) + 1), mA (mI (mI s 20 0) 10 (nI (nn (s.I 10) + 1))) 9 (nn (s.I 10)) c)) else (0, mI (mI s 20 0) 20 1)
def zcl (R : Nat → Int32) : Nat → Nat → Int32 → Int32
  | 0, _, v => v
  | m + 1, c, v => zcl R m (c + 1) (if R (8 + c) = 0 then v + 1 else v)
def acF (s : MS) (k : Nat) : Int32 := match k with
  | 0 => sm (s.A 0) 32 0 0
  | 1 => zcl (s.A 0) 32 0 0
  | 2 => 32 - mal (s.A 0) 0 32 0 0
  | 3 => s.A 0 1
  | 4 => s.A 0 3
  | 5 => s.A 0 4
  | 6 => s.A 0 5
  | 7 => s.A 0 2
  | 8 => s.A 0 0
  | 9 => s.A 0 6
  | 10 => s.A 0 7
  | 11 => s.I 10
  | _ => s.I 4
def mAccount (s : MS) (k : Int32) : Int32 × MS := if inR k 0 12 = true then (acF s (nn k), mI s 20 0) else (0, mI (mI s 20 0) 20 1)
def mUndo (s : MS) : Int32 × MS := if mU s = 0 then (0, mI (mI s 20 0) 20 1) else (nI (mU s - 1), cpl 0 0 3 (442 * (mU s - 1)) 442 0 (mI (mI s 20 0) 4 (nI (mU s - 1))))
def mSave (s : MS) : Int32 × MS := (sm ((cpl 5 0 0 0 442 0 (mI (mI s 20 0) 6 1)).A 0) 32 0 0, cpl 5 0 0 0 442 0 (mI (mI s 20 0) 6 1))
def reS (s : MS) : MS := mI (cpl 0 0 5 0 442 0 (mI s 20 0)) 4 0
def mRestore (s : MS) : Int32 × MS := if s.I 6 = 0 then (0, mI (mI s 20 0) 20 1) else (sm ((reS s).A 0) 32 0 0, reS s)
def mErr (s : MS) : Int32 × MS := if s.I 14 < 0 then (0, mI (mI s 20 0) 20 1) else (s.I 14, mI s 20 0)
def mReason (s : MS) (z : Int32) : Int32 × MS := if s.I 15 = 0 then (0, mI (mI s 20 0) 20 1) else (if z = 0 then s.I 15 else s.I 16, mI s 20 0)
theorem inR_no {v : Int32} (h : inR v 0 12 = false) : v.toInt < 0 ∨ 12 < v.toInt := by
  by_cases a : v.toInt < 0
  · exact Or.inl a
  · by_cases b : 12 < v.toInt
    · exact Or.inr b
    · have : inR v 0 12 = true := inR_i.mpr ⟨by rw [Int32.le_iff_toInt_le]; have a2 : ((0 : Int32)).toInt = 0 := rfl; omega, by rw [Int32.le_iff_toInt_le]; have a2 : ((12 : Int32)).toInt = 12 := rfl; omega⟩
      rw [h] at this; cases this
section
variable {X : GX} {yM : MethodName} {cc : ByteArray} {nL : Nat} {rT : Option FieldType} {hH : List (Nat × Nat × Nat × Nat)} {lV kB : Nat} {hA : AH} {kc pc : Nat} {ls : List (Option Value)} {st : List Value}
theorem g_idivN (ok : Ok X yM cc nL rT hH lV kB) {x y : Int32} {a b : Nat} (hd : decode cc pc = .ok (.idiv, 1)) (hx : x = nI a) (hy : y = nI b) (ha : a < 2 ^ 31) (h0 : 0 < b) (hb : b < 2 ^ 31) (kk : GW X hA kc (pc + 1) ls (.int (nI (a / b)) :: st)) : GW X hA kc pc ls (.int y :: .int x :: st) := by
  subst hx hy
  refine g_idiv ok hd (nI_ne0 h0 hb) ?_
  rw [pk_div ha h0 hb]; exact kk
theorem g_iremN (ok : Ok X yM cc nL rT hH lV kB) {x y : Int32} {a b : Nat} (hd : decode cc pc = .ok (.irem, 1)) (hx : x = nI a) (hy : y = nI b) (ha : a < 2 ^ 31) (h0 : 0 < b) (hb : b < 2 ^ 31) (kk : GW X hA kc (pc + 1) ls (.int (nI (a % b)) :: st)) : GW X hA kc pc ls (.int y :: .int x :: st) := by
  subst hx hy
  refine g_irem ok hd (nI_ne0 h0 hb) ?_
  rw [pk_rem ha h0 hb]; exact kk
theorem g_i2cN (ok : Ok X yM cc nL rT hH lV kB) {x : Int32} {a : Nat} (hd : decode cc pc = .ok (.i2c, 1)) (hx : x = nI a) (ha : a < 65536) (kk : GW X hA kc (pc + 1) ls (.int (nI a) :: st)) : GW X hA kc pc ls (.int x :: st) := by
  subst hx
  exact g_i2c ok hd (by rw [pk_char, pk_tn (by omega), Nat.mod_eq_of_lt ha]) kk
end
theorem m_writesNumber (l : Launch) (G : GE) {h0 : AH} {ad : Nat → Nat} (hA : MAd ad) (s : MS) (v : Int32) (y0 : s.I 8 = nI (nn (s.I 8)) ∧ nn (s.I 8) ≤ 196 ∧ inR v (-999) 999 = true) : GM l G yX8_writesNumber (ws_ yX8_writesNumber cX8_writesNumber 3 none) 2 [.ref (ad 20), .int v] (mput G h0 ad s) (0) (PN (mput G h0 ad (wl (numCh v (mab v)) s))) := by
  refine GM.of (by decide) (dk rfl) ?_
  intro X eL eG eh ok fn
  subst eL; subst eG
  show GW X _ 0 0 [some (.ref (ad 20)), some (.int v), none] []
  obtain ⟨h1, h2, h3⟩ := y0
  obtain ⟨a1, a2⟩ := mab_n h3
  generalize hL : nn (s.I 8) = L at *
  clear hL
  refine g_iload_n ok dX8_writesNumber_0 rfl ?_
  refine g_if_ge ok (tgt := 22) dX8_writesNumber_1 (by decide) (fun c1 => ?_) (fun c1 => ?_)
  · have c1' := Int32.not_lt.mpr c1
    refine g_iload_n ok dX8_writesNumber_22 rfl ?_
    refine g_abs ok q2557 q2558 q90 q2559 dX8_writesNumber_23 (dk rfl) rfl (dk rfl) (by omega) ?_
    rw [a1]
    refine g_istore_n ok dX8_writesNumber_26 (ls1 := [some (.ref (ad 20)), some (.int v), some (.int (nI (mab v)))]) (dl rfl) rfl ?_
    refine g_iload_n ok dX8_writesNumber_27 rfl ?_
    refine g_bipush ok (v := 99) dX8_writesNumber_28 rfl ?_
    by_cases m99 : 99 < mab v
    · refine g_icmp_le ok (tgt := 57) dX8_writesNumber_30 (by decide) (fun c_ => absurd c_ (nI_ge (a := 99) (b := (mab v)) (by omega) (by omega))) (fun _ => ?_)
      refine g_aload_n ok dX8_writesNumber_33 rfl ?_
      refine m_get ok hA 7 q2242 (by decide) dX8_writesNumber_34 (v := .ref (ad 7)) rfl ?_
      refine g_aload_n ok dX8_writesNumber_37 rfl ?_
      refine g_dup ok dX8_writesNumber_38 rfl ?_
      refine m_get ok hA 8 q2243 (by decide) dX8_writesNumber_39 (v := .int (nI L)) (congrArg (fun z => some (Value.int z)) h1) ?_
      refine g_dup_x1 ok dX8_writesNumber_42 rfl rfl ?_
      refine g_iconst ok (v := 1) dX8_writesNumber_43 rfl ?_
      refine g_iaddN ok dX8_writesNumber_44 (c := (L + 1)) (a := L) (b := 1) rfl rfl rfl ?_
      refine m_put ok hA 8 q2243 (by decide) dX8_writesNumber_45 ⟨rfl, rfl⟩ ?_
      refine g_bipush ok (v := 48) dX8_writesNumber_48 rfl ?_
      refine g_iload_n ok dX8_writesNumber_50 rfl ?_
      refine g_bipush ok (v := 100) dX8_writesNumber_51 rfl ?_
      refine g_idivN ok dX8_writesNumber_53 (a := (mab v)) (b := 100) rfl rfl (by omega) (by decide) (by decide) ?_
      refine g_iaddN ok dX8_writesNumber_54 (c := (48 + ((mab v) / 100))) (a := 48) (b := ((mab v) / 100)) rfl rfl rfl ?_
      refine g_i2cN ok dX8_writesNumber_55 (a := (48 + ((mab v) / 100))) rfl (by omega) ?_
      refine m_cast ok hA 7 L (by decide) dX8_writesNumber_56 rfl (by simp only [mlen]; omega) (pk_charN (by omega)).1 ?_
      rw [wch_eq h1 (by omega)]
      have w1 := wch_8 (x := (nI (48 + ((mab v) / 100)))) h1
      refine g_iload_n ok dX8_writesNumber_57 rfl ?_
      refine g_bipush ok (v := 9) dX8_writesNumber_58 rfl ?_
      by_cases m9 : 9 < mab v
      · refine g_icmp_le ok (tgt := 90) dX8_writesNumber_60 (by decide) (fun c_ => absurd c_ (nI_ge (a := 9) (b := (mab v)) (by omega) (by omega))) (fun _ => ?_)
        refine g_aload_n ok dX8_writesNumber_63 rfl ?_
        refine m_get ok hA 7 q2242 (by decide) dX8_writesNumber_64 (v := .ref (ad 7)) rfl ?_
        refine g_aload_n ok dX8_writesNumber_67 rfl ?_
        refine g_dup ok dX8_writesNumber_68 rfl ?_
        refine m_get ok hA 8 q2243 (by decide) dX8_writesNumber_69 (v := .int (nI (L + 1))) (congrArg (fun z => some (Value.int z)) w1) ?_
        refine g_dup_x1 ok dX8_writesNumber_72 rfl rfl ?_
        refine g_iconst ok (v := 1) dX8_writesNumber_73 rfl ?_
        refine g_iaddN ok dX8_writesNumber_74 (c := ((L + 1) + 1)) (a := (L + 1)) (b := 1) rfl rfl rfl ?_
        refine m_put ok hA 8 q2243 (by decide) dX8_writesNumber_75 ⟨rfl, rfl⟩ ?_
        refine g_bipush ok (v := 48) dX8_writesNumber_78 rfl ?_
        refine g_iload_n ok dX8_writesNumber_80 rfl ?_
        refine g_bipush ok (v := 10) dX8_writesNumber_81 rfl ?_
        refine g_idivN ok dX8_writesNumber_83 (a := (mab v)) (b := 10) rfl rfl (by omega) (by decide) (by decide) ?_
        refine g_bipush ok (v := 10) dX8_writesNumber_84 rfl ?_
        refine g_iremN ok dX8_writesNumber_86 (a := ((mab v) / 10)) (b := 10) rfl rfl (by omega) (by decide) (by decide) ?_
        refine g_iaddN ok dX8_writesNumber_87 (c := (48 + (((mab v) / 10) % 10))) (a := 48) (b := (((mab v) / 10) % 10)) rfl rfl rfl ?_
        refine g_i2cN ok dX8_writesNumber_88 (a := (48 + (((mab v) / 10) % 10))) rfl (by omega) ?_
        refine m_cast ok hA 7 (L + 1) (by decide) dX8_writesNumber_89 rfl (by simp only [mlen]; omega) (pk_charN (by omega)).1 ?_
        rw [wch_eq w1 (by omega)]
        have w2 := wch_8 (x := (nI (48 + (((mab v) / 10) % 10)))) w1
        refine g_aload_n ok dX8_writesNumber_90 rfl ?_
        refine m_get ok hA 7 q2242 (by decide) dX8_writesNumber_91 (v := .ref (ad 7)) rfl ?_
        refine g_aload_n ok dX8_writesNumber_94 rfl ?_
        refine g_dup ok dX8_writesNumber_95 rfl ?_
        refine m_get ok hA 8 q2243 (by decide) dX8_writesNumber_96 (v := .int (nI ((L + 1) + 1))) (congrArg (fun z => some (Value.int z)) w2) ?_
        refine g_dup_x1 ok dX8_writesNumber_99 rfl rfl ?_
        refine g_iconst ok (v := 1) dX8_writesNumber_100 rfl ?_
        refine g_iaddN ok dX8_writesNumber_101 (c := (((L + 1) + 1) + 1)) (a := ((L + 1) + 1)) (b := 1) rfl rfl rfl ?_
        refine m_put ok hA 8 q2243 (by decide) dX8_writesNumber_102 ⟨rfl, rfl⟩ ?_
        refine g_bipush ok (v := 48) dX8_writesNumber_105 rfl ?_
        refine g_iload_n ok dX8_writesNumber_107 rfl ?_
        refine g_bipush ok (v := 10) dX8_writesNumber_108 rfl ?_
        refine g_iremN ok dX8_writesNumber_110 (a := (mab v)) (b := 10) rfl rfl (by omega) (by decide) (by decide) ?_
        refine g_iaddN ok dX8_writesNumber_111 (c := (48 + ((mab v) % 10))) (a := 48) (b := ((mab v) % 10)) rfl rfl rfl ?_
        refine g_i2cN ok dX8_writesNumber_112 (a := (48 + ((mab v) % 10))) rfl (by omega) ?_
        refine m_cast ok hA 7 ((L + 1) + 1) (by decide) dX8_writesNumber_113 rfl (by simp only [mlen]; omega) (pk_charN (by omega)).1 ?_
        rw [wch_eq w2 (by omega)]
        have w3 := wch_8 (x := (nI (48 + ((mab v) % 10)))) w2
        exact g_vret ok fn rfl dX8_writesNumber_114 (pn_i (by rw [numCh, if_neg (Int32.not_lt.mpr c1), if_pos m99, if_pos m9]; rfl)) (dk rfl)
      · refine g_icmp_le ok (tgt := 90) dX8_writesNumber_60 (by decide) (fun _ => ?_) (fun c_ => absurd (nI_le (a := (mab v)) (b := 9) (by omega) (by omega)) c_)
        refine g_aload_n ok dX8_writesNumber_90 rfl ?_
        refine m_get ok hA 7 q2242 (by decide) dX8_writesNumber_91 (v := .ref (ad 7)) rfl ?_
        refine g_aload_n ok dX8_writesNumber_94 rfl ?_
        refine g_dup ok dX8_writesNumber_95 rfl ?_
        refine m_get ok hA 8 q2243 (by decide) dX8_writesNumber_96 (v := .int (nI (L + 1))) (congrArg (fun z => some (Value.int z)) w1) ?_
        refine g_dup_x1 ok dX8_writesNumber_99 rfl rfl ?_
        refine g_iconst ok (v := 1) dX8_writesNumber_100 rfl ?_
        refine g_iaddN ok dX8_writesNumber_101 (c := ((L + 1) + 1)) (a := (L + 1)) (b := 1) rfl rfl rfl ?_
        refine m_put ok hA 8 q2243 (by decide) dX8_writesNumber_102 ⟨rfl, rfl⟩ ?_
        refine g_bipush ok (v := 48) dX8_writesNumber_105 rfl ?_
        refine g_iload_n ok dX8_writesNumber_107 rfl ?_
        refine g_bipush ok (v := 10) dX8_writesNumber_108 rfl ?_
        refine g_iremN ok dX8_writesNumber_110 (a := (mab v)) (b := 10) rfl rfl (by omega) (by decide) (by decide) ?_
        refine g_iaddN ok dX8_writesNumber_111 (c := (48 + ((mab v) % 10))) (a := 48) (b := ((mab v) % 10)) rfl rfl rfl ?_
        refine g_i2cN ok dX8_writesNumber_112 (a := (48 + ((mab v) % 10))) rfl (by omega) ?_
        refine m_cast ok hA 7 (L + 1) (by decide) dX8_writesNumber_113 rfl (by simp only [mlen]; omega) (pk_charN (by omega)).1 ?_
        rw [wch_eq w1 (by omega)]
        have w2 := wch_8 (x := (nI (48 + ((mab v) % 10)))) w1
        exact g_vret ok fn rfl dX8_writesNumber_114 (pn_i (by rw [numCh, if_neg (Int32.not_lt.mpr c1), if_pos m99, if_neg m9]; rfl)) (dk rfl)
    · refine g_icmp_le ok (tgt := 57) dX8_writesNumber_30 (by decide) (fun _ => ?_) (fun c_ => absurd (nI_le (a := (mab v)) (b := 99) (by omega) (by omega)) c_)
      refine g_iload_n ok dX8_writesNumber_57 rfl ?_
      refine g_bipush ok (v := 9) dX8_writesNumber_58 rfl ?_
      by_cases m9 : 9 < mab v
      · refine g_icmp_le ok (tgt := 90) dX8_writesNumber_60 (by decide) (fun c_ => absurd c_ (nI_ge (a := 9) (b := (mab v)) (by omega) (by omega))) (fun _ => ?_)
        refine g_aload_n ok dX8_writesNumber_63 rfl ?_
        refine m_get ok hA 7 q2242 (by decide) dX8_writesNumber_64 (v := .ref (ad 7)) rfl ?_
        refine g_aload_n ok dX8_writesNumber_67 rfl ?_
        refine g_dup ok dX8_writesNumber_68 rfl ?_
        refine m_get ok hA 8 q2243 (by decide) dX8_writesNumber_69 (v := .int (nI L)) (congrArg (fun z => some (Value.int z)) h1) ?_
        refine g_dup_x1 ok dX8_writesNumber_72 rfl rfl ?_
        refine g_iconst ok (v := 1) dX8_writesNumber_73 rfl ?_
        refine g_iaddN ok dX8_writesNumber_74 (c := (L + 1)) (a := L) (b := 1) rfl rfl rfl ?_
        refine m_put ok hA 8 q2243 (by decide) dX8_writesNumber_75 ⟨rfl, rfl⟩ ?_
        refine g_bipush ok (v := 48) dX8_writesNumber_78 rfl ?_
        refine g_iload_n ok dX8_writesNumber_80 rfl ?_
        refine g_bipush ok (v := 10) dX8_writesNumber_81 rfl ?_
        refine g_idivN ok dX8_writesNumber_83 (a := (mab v)) (b := 10) rfl rfl (by omega) (by decide) (by decide) ?_
        refine g_bipush ok (v := 10) dX8_writesNumber_84 rfl ?_
        refine g_iremN ok dX8_writesNumber_86 (a := ((mab v) / 10)) (b := 10) rfl rfl (by omega) (by decide) (by decide) ?_
        refine g_iaddN ok dX8_writesNumber_87 (c := (48 + (((mab v) / 10) % 10))) (a := 48) (b := (((mab v) / 10) % 10)) rfl rfl rfl ?_
        refine g_i2cN ok dX8_writesNumber_88 (a := (48 + (((mab v) / 10) % 10))) rfl (by omega) ?_
        refine m_cast ok hA 7 L (by decide) dX8_writesNumber_89 rfl (by simp only [mlen]; omega) (pk_charN (by omega)).1 ?_
        rw [wch_eq h1 (by omega)]
        have w1 := wch_8 (x := (nI (48 + (((mab v) / 10) % 10)))) h1
        refine g_aload_n ok dX8_writesNumber_90 rfl ?_
        refine m_get ok hA 7 q2242 (by decide) dX8_writesNumber_91 (v := .ref (ad 7)) rfl ?_
        refine g_aload_n ok dX8_writesNumber_94 rfl ?_
        refine g_dup ok dX8_writesNumber_95 rfl ?_
        refine m_get ok hA 8 q2243 (by decide) dX8_writesNumber_96 (v := .int (nI (L + 1))) (congrArg (fun z => some (Value.int z)) w1) ?_
        refine g_dup_x1 ok dX8_writesNumber_99 rfl rfl ?_
        refine g_iconst ok (v := 1) dX8_writesNumber_100 rfl ?_
        refine g_iaddN ok dX8_writesNumber_101 (c := ((L + 1) + 1)) (a := (L + 1)) (b := 1) rfl rfl rfl ?_
        refine m_put ok hA 8 q2243 (by decide) dX8_writesNumber_102 ⟨rfl, rfl⟩ ?_
        refine g_bipush ok (v := 48) dX8_writesNumber_105 rfl ?_
        refine g_iload_n ok dX8_writesNumber_107 rfl ?_
        refine g_bipush ok (v := 10) dX8_writesNumber_108 rfl ?_
        refine g_iremN ok dX8_writesNumber_110 (a := (mab v)) (b := 10) rfl rfl (by omega) (by decide) (by decide) ?_
        refine g_iaddN ok dX8_writesNumber_111 (c := (48 + ((mab v) % 10))) (a := 48) (b := ((mab v) % 10)) rfl rfl rfl ?_
        refine g_i2cN ok dX8_writesNumber_112 (a := (48 + ((mab v) % 10))) rfl (by omega) ?_
        refine m_cast ok hA 7 (L + 1) (by decide) dX8_writesNumber_113 rfl (by simp only [mlen]; omega) (pk_charN (by omega)).1 ?_
        rw [wch_eq w1 (by omega)]
        have w2 := wch_8 (x := (nI (48 + ((mab v) % 10)))) w1
        exact g_vret ok fn rfl dX8_writesNumber_114 (pn_i (by rw [numCh, if_neg (Int32.not_lt.mpr c1), if_neg m99, if_pos m9]; rfl)) (dk rfl)
      · refine g_icmp_le ok (tgt := 90) dX8_writesNumber_60 (by decide) (fun _ => ?_) (fun c_ => absurd (nI_le (a := (mab v)) (b := 9) (by omega) (by omega)) c_)
        refine g_aload_n ok dX8_writesNumber_90 rfl ?_
        refine m_get ok hA 7 q2242 (by decide) dX8_writesNumber_91 (v := .ref (ad 7)) rfl ?_
        refine g_aload_n ok dX8_writesNumber_94 rfl ?_
        refine g_dup ok dX8_writesNumber_95 rfl ?_
        refine m_get ok hA 8 q2243 (by decide) dX8_writesNumber_96 (v := .int (nI L)) (congrArg (fun z => some (Value.int z)) h1) ?_
        refine g_dup_x1 ok dX8_writesNumber_99 rfl rfl ?_
        refine g_iconst ok (v := 1) dX8_writesNumber_100 rfl ?_
        refine g_iaddN ok dX8_writesNumber_101 (c := (L + 1)) (a := L) (b := 1) rfl rfl rfl ?_
        refine m_put ok hA 8 q2243 (by decide) dX8_writesNumber_102 ⟨rfl, rfl⟩ ?_
        refine g_bipush ok (v := 48) dX8_writesNumber_105 rfl ?_
        refine g_iload_n ok dX8_writesNumber_107 rfl ?_
        refine g_bipush ok (v := 10) dX8_writesNumber_108 rfl ?_
        refine g_iremN ok dX8_writesNumber_110 (a := (mab v)) (b := 10) rfl rfl (by omega) (by decide) (by decide) ?_
        refine g_iaddN ok dX8_writesNumber_111 (c := (48 + ((mab v) % 10))) (a := 48) (b := ((mab v) % 10)) rfl rfl rfl ?_
        refine g_i2cN ok dX8_writesNumber_112 (a := (48 + ((mab v) % 10))) rfl (by omega) ?_
        refine m_cast ok hA 7 L (by decide) dX8_writesNumber_113 rfl (by simp only [mlen]; omega) (pk_charN (by omega)).1 ?_
        rw [wch_eq h1 (by omega)]
        have w1 := wch_8 (x := (nI (48 + ((mab v) % 10)))) h1
        exact g_vret ok fn rfl dX8_writesNumber_114 (pn_i (by rw [numCh, if_neg (Int32.not_lt.mpr c1), if_neg m99, if_neg m9]; rfl)) (dk rfl)
  · have c1' := Int32.not_le.mp c1
    refine g_aload_n ok dX8_writesNumber_4 rfl ?_
    refine m_get ok hA 7 q2242 (by decide) dX8_writesNumber_5 (v := .ref (ad 7)) rfl ?_
    refine g_aload_n ok dX8_writesNumber_8 rfl ?_
    refine g_dup ok dX8_writesNumber_9 rfl ?_
    refine m_get ok hA 8 q2243 (by decide) dX8_writesNumber_10 (v := .int (nI L)) (congrArg (fun z => some (Value.int z)) h1) ?_
    refine g_dup_x1 ok dX8_writesNumber_13 rfl rfl ?_
    refine g_iconst ok (v := 1) dX8_writesNumber_14 rfl ?_
    refine g_iaddN ok dX8_writesNumber_15 (c := (L + 1)) (a := L) (b := 1) rfl rfl rfl ?_
    refine m_put ok hA 8 q2243 (by decide) dX8_writesNumber_16 ⟨rfl, rfl⟩ ?_
    refine g_bipush ok (v := 45) dX8_writesNumber_19 rfl ?_
    refine m_cast ok hA 7 L (by decide) dX8_writesNumber_21 rfl (by simp only [mlen]; omega) rfl ?_
    rw [wch_eq h1 (by omega)]
    have w1 := wch_8 (x := 45) h1
    refine g_iload_n ok dX8_writesNumber_22 rfl ?_
    refine g_abs ok q2557 q2558 q90 q2559 dX8_writesNumber_23 (dk rfl) rfl (dk rfl) (by omega) ?_
    rw [a1]
    refine g_istore_n ok dX8_writesNumber_26 (ls1 := [some (.ref (ad 20)), some (.int v), some (.int (nI (mab v)))]) (dl rfl) rfl ?_
    refine g_iload_n ok dX8_writesNumber_27 rfl ?_
    refine g_bipush ok (v := 99) dX8_writesNumber_28 rfl ?_
    by_cases m99 : 99 < mab v
    · refine g_icmp_le ok (tgt := 57) dX8_writesNumber_30 (by decide) (fun c_ => absurd c_ (nI_ge (a := 99) (b := (mab v)) (by omega) (by omega))) (fun _ => ?_)
      refine g_aload_n ok dX8_writesNumber_33 rfl ?_
      refine m_get ok hA 7 q2242 (by decide) dX8_writesNumber_34 (v := .ref (ad 7)) rfl ?_
      refine g_aload_n ok dX8_writesNumber_37 rfl ?_
      refine g_dup ok dX8_writesNumber_38 rfl ?_
      refine m_get ok hA 8 q2243 (by decide) dX8_writesNumber_39 (v := .int (nI (L + 1))) (congrArg (fun z => some (Value.int z)) w1) ?_
      refine g_dup_x1 ok dX8_writesNumber_42 rfl rfl ?_
      refine g_iconst ok (v := 1) dX8_writesNumber_43 rfl ?_
      refine g_iaddN ok dX8_writesNumber_44 (c := ((L + 1) + 1)) (a := (L + 1)) (b := 1) rfl rfl rfl ?_
      refine m_put ok hA 8 q2243 (by decide) dX8_writesNumber_45 ⟨rfl, rfl⟩ ?_
      refine g_bipush ok (v := 48) dX8_writesNumber_48 rfl ?_
      refine g_iload_n ok dX8_writesNumber_50 rfl ?_
      refine g_bipush ok (v := 100) dX8_writesNumber_51 rfl ?_
      refine g_idivN ok dX8_writesNumber_53 (a := (mab v)) (b := 100) rfl rfl (by omega) (by decide) (by decide) ?_
      refine g_iaddN ok dX8_writesNumber_54 (c := (48 + ((mab v) / 100))) (a := 48) (b := ((mab v) / 100)) rfl rfl rfl ?_
      refine g_i2cN ok dX8_writesNumber_55 (a := (48 + ((mab v) / 100))) rfl (by omega) ?_
      refine m_cast ok hA 7 (L + 1) (by decide) dX8_writesNumber_56 rfl (by simp only [mlen]; omega) (pk_charN (by omega)).1 ?_
      rw [wch_eq w1 (by omega)]
      have w2 := wch_8 (x := (nI (48 + ((mab v) / 100)))) w1
      refine g_iload_n ok dX8_writesNumber_57 rfl ?_
      refine g_bipush ok (v := 9) dX8_writesNumber_58 rfl ?_
      by_cases m9 : 9 < mab v
      · refine g_icmp_le ok (tgt := 90) dX8_writesNumber_60 (by decide) (fun c_ => absurd c_ (nI_ge (a := 9) (b := (mab v)) (by omega) (by omega))) (fun _ => ?_)
        refine g_aload_n ok dX8_writesNumber_63 rfl ?_
        refine m_get ok hA 7 q2242 (by decide) dX8_writesNumber_64 (v := .ref (ad 7)) rfl ?_
        refine g_aload_n ok dX8_writesNumber_67 rfl ?_
        refine g_dup ok dX8_writesNumber_68 rfl ?_
        refine m_get ok hA 8 q2243 (by decide) dX8_writesNumber_69 (v := .int (nI ((L + 1) + 1))) (congrArg (fun z => some (Value.int z)) w2) ?_
        refine g_dup_x1 ok dX8_writesNumber_72 rfl rfl ?_
        refine g_iconst ok (v := 1) dX8_writesNumber_73 rfl ?_
        refine g_iaddN ok dX8_writesNumber_74 (c := (((L + 1) + 1) + 1)) (a := ((L + 1) + 1)) (b := 1) rfl rfl rfl ?_
        refine m_put ok hA 8 q2243 (by decide) dX8_writesNumber_75 ⟨rfl, rfl⟩ ?_
        refine g_bipush ok (v := 48) dX8_writesNumber_78 rfl ?_
        refine g_iload_n ok dX8_writesNumber_80 rfl ?_
        refine g_bipush ok (v := 10) dX8_writesNumber_81 rfl ?_
        refine g_idivN ok dX8_writesNumber_83 (a := (mab v)) (b := 10) rfl rfl (by omega) (by decide) (by decide) ?_
        refine g_bipush ok (v := 10) dX8_writesNumber_84 rfl ?_
        refine g_iremN ok dX8_writesNumber_86 (a := ((mab v) / 10)) (b := 10) rfl rfl (by omega) (by decide) (by decide) ?_
        refine g_iaddN ok dX8_writesNumber_87 (c := (48 + (((mab v) / 10) % 10))) (a := 48) (b := (((mab v) / 10) % 10)) rfl rfl rfl ?_
        refine g_i2cN ok dX8_writesNumber_88 (a := (48 + (((mab v) / 10) % 10))) rfl (by omega) ?_
        refine m_cast ok hA 7 ((L + 1) + 1) (by decide) dX8_writesNumber_89 rfl (by simp only [mlen]; omega) (pk_charN (by omega)).1 ?_
        rw [wch_eq w2 (by omega)]
        have w3 := wch_8 (x := (nI (48 + (((mab v) / 10) % 10)))) w2
        refine g_aload_n ok dX8_writesNumber_90 rfl ?_
        refine m_get ok hA 7 q2242 (by decide) dX8_writesNumber_91 (v := .ref (ad 7)) rfl ?_
        refine g_aload_n ok dX8_writesNumber_94 rfl ?_
        refine g_dup ok dX8_writesNumber_95 rfl ?_
        refine m_get ok hA 8 q2243 (by decide) dX8_writesNumber_96 (v := .int (nI (((L + 1) + 1) + 1))) (congrArg (fun z => some (Value.int z)) w3) ?_
        refine g_dup_x1 ok dX8_writesNumber_99 rfl rfl ?_
        refine g_iconst ok (v := 1) dX8_writesNumber_100 rfl ?_
        refine g_iaddN ok dX8_writesNumber_101 (c := ((((L + 1) + 1) + 1) + 1)) (a := (((L + 1) + 1) + 1)) (b := 1) rfl rfl rfl ?_
        refine m_put ok hA 8 q2243 (by decide) dX8_writesNumber_102 ⟨rfl, rfl⟩ ?_
        refine g_bipush ok (v := 48) dX8_writesNumber_105 rfl ?_
        refine g_iload_n ok dX8_writesNumber_107 rfl ?_
        refine g_bipush ok (v := 10) dX8_writesNumber_108 rfl ?_
        refine g_iremN ok dX8_writesNumber_110 (a := (mab v)) (b := 10) rfl rfl (by omega) (by decide) (by decide) ?_
        refine g_iaddN ok dX8_writesNumber_111 (c := (48 + ((mab v) % 10))) (a := 48) (b := ((mab v) % 10)) rfl rfl rfl ?_
        refine g_i2cN ok dX8_writesNumber_112 (a := (48 + ((mab v) % 10))) rfl (by omega) ?_
        refine m_cast ok hA 7 (((L + 1) + 1) + 1) (by decide) dX8_writesNumber_113 rfl (by simp only [mlen]; omega) (pk_charN (by omega)).1 ?_
        rw [wch_eq w3 (by omega)]
        have w4 := wch_8 (x := (nI (48 + ((mab v) % 10)))) w3
        exact g_vret ok fn rfl dX8_writesNumber_114 (pn_i (by rw [numCh, if_pos (Int32.not_le.mp c1), if_pos m99, if_pos m9]; rfl)) (dk rfl)
      · refine g_icmp_le ok (tgt := 90) dX8_writesNumber_60 (by decide) (fun _ => ?_) (fun c_ => absurd (nI_le (a := (mab v)) (b := 9) (by omega) (by omega)) c_)
        refine g_aload_n ok dX8_writesNumber_90 rfl ?_
        refine m_get ok hA 7 q2242 (by decide) dX8_writesNumber_91 (v := .ref (ad 7)) rfl ?_
        refine g_aload_n ok dX8_writesNumber_94 rfl ?_
        refine g_dup ok dX8_writesNumber_95 rfl ?_
        refine m_get ok hA 8 q2243 (by decide) dX8_writesNumber_96 (v := .int (nI ((L + 1) + 1))) (congrArg (fun z => some (Value.int z)) w2) ?_
        refine g_dup_x1 ok dX8_writesNumber_99 rfl rfl ?_
        refine g_iconst ok (v := 1) dX8_writesNumber_100 rfl ?_
        refine g_iaddN ok dX8_writesNumber_101 (c := (((L + 1) + 1) + 1)) (a := ((L + 1) + 1)) (b := 1) rfl rfl rfl ?_
        refine m_put ok hA 8 q2243 (by decide) dX8_writesNumber_102 ⟨rfl, rfl⟩ ?_
        refine g_bipush ok (v := 48) dX8_writesNumber_105 rfl ?_
        refine g_iload_n ok dX8_writesNumber_107 rfl ?_
        refine g_bipush ok (v := 10) dX8_writesNumber_108 rfl ?_
        refine g_iremN ok dX8_writesNumber_110 (a := (mab v)) (b := 10) rfl rfl (by omega) (by decide) (by decide) ?_
        refine g_iaddN ok dX8_writesNumber_111 (c := (48 + ((mab v) % 10))) (a := 48) (b := ((mab v) % 10)) rfl rfl rfl ?_
        refine g_i2cN ok dX8_writesNumber_112 (a := (48 + ((mab v) % 10))) rfl (by omega) ?_
        refine m_cast ok hA 7 ((L + 1) + 1) (by decide) dX8_writesNumber_113 rfl (by simp only [mlen]; omega) (pk_charN (by omega)).1 ?_
        rw [wch_eq w2 (by omega)]
        have w3 := wch_8 (x := (nI (48 + ((mab v) % 10)))) w2
        exact g_vret ok fn rfl dX8_writesNumber_114 (pn_i (by rw [numCh, if_pos (Int32.not_le.mp c1), if_pos m99, if_neg m9]; rfl)) (dk rfl)
    · refine g_icmp_le ok (tgt := 57) dX8_writesNumber_30 (by decide) (fun _ => ?_) (fun c_ => absurd (nI_le (a := (mab v)) (b := 99) (by omega) (by omega)) c_)
      refine g_iload_n ok dX8_writesNumber_57 rfl ?_
      refine g_bipush ok (v := 9) dX8_writesNumber_58 rfl ?_
      by_cases m9 : 9 < mab v
      · refine g_icmp_le ok (tgt := 90) dX8_writesNumber_60 (by decide) (fun c_ => absurd c_ (nI_ge (a := 9) (b := (mab v)) (by omega) (by omega))) (fun _ => ?_)
        refine g_aload_n ok dX8_writesNumber_63 rfl ?_
        refine m_get ok hA 7 q2242 (by decide) dX8_writesNumber_64 (v := .ref (ad 7)) rfl ?_
        refine g_aload_n ok dX8_writesNumber_67 rfl ?_
        refine g_dup ok dX8_writesNumber_68 rfl ?_
        refine m_get ok hA 8 q2243 (by decide) dX8_writesNumber_69 (v := .int (nI (L + 1))) (congrArg (fun z => some (Value.int z)) w1) ?_
        refine g_dup_x1 ok dX8_writesNumber_72 rfl rfl ?_
        refine g_iconst ok (v := 1) dX8_writesNumber_73 rfl ?_
        refine g_iaddN ok dX8_writesNumber_74 (c := ((L + 1) + 1)) (a := (L + 1)) (b := 1) rfl rfl rfl ?_
        refine m_put ok hA 8 q2243 (by decide) dX8_writesNumber_75 ⟨rfl, rfl⟩ ?_
        refine g_bipush ok (v := 48) dX8_writesNumber_78 rfl ?_
        refine g_iload_n ok dX8_writesNumber_80 rfl ?_
        refine g_bipush ok (v := 10) dX8_writesNumber_81 rfl ?_
        refine g_idivN ok dX8_writesNumber_83 (a := (mab v)) (b := 10) rfl rfl (by omega) (by decide) (by decide) ?_
        refine g_bipush ok (v := 10) dX8_writesNumber_84 rfl ?_
        refine g_iremN ok dX8_writesNumber_86 (a := ((mab v) / 10)) (b := 10) rfl rfl (by omega) (by decide) (by decide) ?_
        refine g_iaddN ok dX8_writesNumber_87 (c := (48 + (((mab v) / 10) % 10))) (a := 48) (b := (((mab v) / 10) % 10)) rfl rfl rfl ?_
        refine g_i2cN ok dX8_writesNumber_88 (a := (48 + (((mab v) / 10) % 10))) rfl (by omega) ?_
        refine m_cast ok hA 7 (L + 1) (by decide) dX8_writesNumber_89 rfl (by simp only [mlen]; omega) (pk_charN (by omega)).1 ?_
        rw [wch_eq w1 (by omega)]
        have w2 := wch_8 (x := (nI (48 + (((mab v) / 10) % 10)))) w1
        refine g_aload_n ok dX8_writesNumber_90 rfl ?_
        refine m_get ok hA 7 q2242 (by decide) dX8_writesNumber_91 (v := .ref (ad 7)) rfl ?_
        refine g_aload_n ok dX8_writesNumber_94 rfl ?_
        refine g_dup ok dX8_writesNumber_95 rfl ?_
        refine m_get ok hA 8 q2243 (by decide) dX8_writesNumber_96 (v := .int (nI ((L + 1) + 1))) (congrArg (fun z => some (Value.int z)) w2) ?_
        refine g_dup_x1 ok dX8_writesNumber_99 rfl rfl ?_
        refine g_iconst ok (v := 1) dX8_writesNumber_100 rfl ?_
        refine g_iaddN ok dX8_writesNumber_101 (c := (((L + 1) + 1) + 1)) (a := ((L + 1) + 1)) (b := 1) rfl rfl rfl ?_
        refine m_put ok hA 8 q2243 (by decide) dX8_writesNumber_102 ⟨rfl, rfl⟩ ?_
        refine g_bipush ok (v := 48) dX8_writesNumber_105 rfl ?_
        refine g_iload_n ok dX8_writesNumber_107 rfl ?_
        refine g_bipush ok (v := 10) dX8_writesNumber_108 rfl ?_
        refine g_iremN ok dX8_writesNumber_110 (a := (mab v)) (b := 10) rfl rfl (by omega) (by decide) (by decide) ?_
        refine g_iaddN ok dX8_writesNumber_111 (c := (48 + ((mab v) % 10))) (a := 48) (b := ((mab v) % 10)) rfl rfl rfl ?_
        refine g_i2cN ok dX8_writesNumber_112 (a := (48 + ((mab v) % 10))) rfl (by omega) ?_
        refine m_cast ok hA 7 ((L + 1) + 1) (by decide) dX8_writesNumber_113 rfl (by simp only [mlen]; omega) (pk_charN (by omega)).1 ?_
        rw [wch_eq w2 (by omega)]
        have w3 := wch_8 (x := (nI (48 + ((mab v) % 10)))) w2
        exact g_vret ok fn rfl dX8_writesNumber_114 (pn_i (by rw [numCh, if_pos (Int32.not_le.mp c1), if_neg m99, if_pos m9]; rfl)) (dk rfl)
      · refine g_icmp_le ok (tgt := 90) dX8_writesNumber_60 (by decide) (fun _ => ?_) (fun c_ => absurd (nI_le (a := (mab v)) (b := 9) (by omega) (by omega)) c_)
        refine g_aload_n ok dX8_writesNumber_90 rfl ?_
        refine m_get ok hA 7 q2242 (by decide) dX8_writesNumber_91 (v := .ref (ad 7)) rfl ?_
        refine g_aload_n ok dX8_writesNumber_94 rfl ?_
        refine g_dup ok dX8_writesNumber_95 rfl ?_
        refine m_get ok hA 8 q2243 (by decide) dX8_writesNumber_96 (v := .int (nI (L + 1))) (congrArg (fun z => some (Value.int z)) w1) ?_
        refine g_dup_x1 ok dX8_writesNumber_99 rfl rfl ?_
        refine g_iconst ok (v := 1) dX8_writesNumber_100 rfl ?_
        refine g_iaddN ok dX8_writesNumber_101 (c := ((L + 1) + 1)) (a := (L + 1)) (b := 1) rfl rfl rfl ?_
        refine m_put ok hA 8 q2243 (by decide) dX8_writesNumber_102 ⟨rfl, rfl⟩ ?_
        refine g_bipush ok (v := 48) dX8_writesNumber_105 rfl ?_
        refine g_iload_n ok dX8_writesNumber_107 rfl ?_
        refine g_bipush ok (v := 10) dX8_writesNumber_108 rfl ?_
        refine g_iremN ok dX8_writesNumber_110 (a := (mab v)) (b := 10) rfl rfl (by omega) (by decide) (by decide) ?_
        refine g_iaddN ok dX8_writesNumber_111 (c := (48 + ((mab v) % 10))) (a := 48) (b := ((mab v) % 10)) rfl rfl rfl ?_
        refine g_i2cN ok dX8_writesNumber_112 (a := (48 + ((mab v) % 10))) rfl (by omega) ?_
        refine m_cast ok hA 7 (L + 1) (by decide) dX8_writesNumber_113 rfl (by simp only [mlen]; omega) (pk_charN (by omega)).1 ?_
        rw [wch_eq w1 (by omega)]
        have w2 := wch_8 (x := (nI (48 + ((mab v) % 10)))) w1
        exact g_vret ok fn rfl dX8_writesNumber_114 (pn_i (by rw [numCh, if_pos (Int32.not_le.mp c1), if_neg m99, if_neg m9]; rfl)) (dk rfl)
theorem m_line (l : Launch) (G : GE) {h0 : AH} {ad : Nat → Nat} (hA : MAd ad) (s : MS) (a : Int32) (b : Int32) (y0 : mRng s) : GM l G yX8_line (ws_ yX8_line cX8_line 4 (some .int)) 4 [.ref (ad 20), .int a, .int b] (mput G h0 ad s) (0) (PV (.int (mLine s a b).1) (mput G h0 ad (mLine s a b).2)) := by
  refine GM.of (by decide) (dk rfl) ?_
  intro X eL eG eh ok fn
  subst eL; subst eG
  show GW X _ 0 0 [some (.ref (ad 20)), some (.int a), some (.int b), none] []
  refine g_aload_n ok dX8_line_0 rfl ?_
  refine g_iconst ok (v := 0) dX8_line_1 rfl ?_
  refine m_put ok hA 20 q2255 (by decide) dX8_line_2 ⟨rfl, rfl⟩ ?_
  refine g_iload_n ok dX8_line_5 rfl ?_
  refine g_iload_n ok dX8_line_6 rfl ?_
  refine g_callS ok q2315 q2316 q75 q2317 dX8_line_7 (m_isSpan X.l X.G _ a b) (nm_ (by decide : nmb _ 2 = true)) (dl rfl) (dk rfl) rfl rfl (dk rfl) (dk rfl) (kV ?_) xV
  refine g_if_ne ok (tgt := 19) dX8_line_10 (by decide) (fun c10 => ?_) (fun c10 => ?_)
  · have c10' := bI_n c10
    have hs_ : mLine s a b = ((lil (nn a) (sp a b) (nn a) (mI (mI s 20 0) 8 0)).I 8, lil (nn a) (sp a b) (nn a) (mI (mI s 20 0) 8 0)) := by unfold mLine; rw [if_pos c10']
    rw [hs_] at fn
    clear hs_
    obtain ⟨e1, e2, h3, h4⟩ := isSp_n c10'
    have e3 : sp a b = nn b + 1 - nn a := rfl
    try rw [e3] at fn
    clear e3
    generalize nn a = i at *
    subst e1
    generalize nn b = j at *
    subst e2
    refine g_aload_n ok dX8_line_19 rfl ?_
    refine g_iconst ok (v := 0) dX8_line_20 rfl ?_
    refine m_put ok hA 8 q2243 (by decide) dX8_line_21 ⟨rfl, rfl⟩ ?_
    refine g_iload_n ok dX8_line_24 rfl ?_
    refine g_istore_n ok dX8_line_25 (ls1 := [some (.ref (ad 20)), some (.int (nI i)), some (.int (nI j)), some (.int (nI i))]) (dl rfl) rfl ?_
    obtain ⟨F, hF⟩ : ∃ F : MS, lil i (j + 1 - i) i (mI (mI s 20 0) 8 0) = F := ⟨_, rfl⟩
    rw [hF] at fn
    have lp : ∀ (n : Nat) (c : Nat) (t : MS) (L : Nat), (c + n = j + 1 ∧ c ≤ j + 1 ∧ i ≤ c) → (lil i n c t = F) → (t.I 8 = nI L) → (L + 6 * i ≤ 6 * c) → (mRng t) → GW X (mput X.G h0 ad t) 0 26 [some (.ref (ad 20)), some (.int (nI i)), some (.int (nI j)), some (.int (nI c))] [] := by
      intro n
      induction n with
      | zero =>
        intro c t L g0 g1 g2 g3 g4
        refine g_iload_n ok dX8_line_26 rfl ?_
        refine g_iload_n ok dX8_line_27 rfl ?_
        refine g_icmp_gt ok (tgt := 123) dX8_line_28 (by decide) (fun _ => ?_) (fun c_ => absurd (nI_lt (a := j) (b := c) (by omega) (by omega)) c_)
        have g1 : t = F := g1
        subst g1
        refine g_aload_n ok dX8_line_123 rfl ?_
        refine m_get ok hA 8 q2243 (by decide) dX8_line_124 (v := .int (MS.I t 8)) rfl ?_
        exact g_iret ok fn rfl dX8_line_127 (pv_i rfl rfl) (dk rfl)
      | succ n ih =>
        intro c t L g0 g1 g2 g3 g4
        refine g_iload_n ok dX8_line_26 rfl ?_
        refine g_iload_n ok dX8_line_27 rfl ?_
        refine g_icmp_gt ok (tgt := 123) dX8_line_28 (by decide) (fun c_ => absurd c_ (nI_nlt (a := j) (b := c) (by omega) (by omega))) (fun _ => ?_)
        refine g_iload_n ok dX8_line_31 rfl ?_
        refine g_iload_n ok dX8_line_32 rfl ?_
        have gl := numCh_len (v := t.A 0 (8 + c)) (m := mab (t.A 0 (8 + c)))
        have gr := g4 c (by omega)
        by_cases ic : i < c
        · refine g_icmp_le ok (tgt := 54) dX8_line_33 (by decide) (fun c_ => absurd c_ (nI_ge (a := i) (b := c) (by omega) (by omega))) (fun _ => ?_)
          refine g_aload_n ok dX8_line_36 rfl ?_
          refine m_get ok hA 7 q2242 (by decide) dX8_line_37 (v := .ref (ad 7)) rfl ?_
          refine g_aload_n ok dX8_line_40 rfl ?_
          refine g_dup ok dX8_line_41 rfl ?_
          refine m_get ok hA 8 q2243 (by decide) dX8_line_42 (v := .int (nI L)) (congrArg (fun z => some (Value.int z)) g2) ?_
          refine g_dup_x1 ok dX8_line_45 rfl rfl ?_
          refine g_iconst ok (v := 1) dX8_line_46 rfl ?_
          refine g_iaddN ok dX8_line_47 (c := (L + 1)) (a := L) (b := 1) rfl rfl rfl ?_
          refine m_put ok hA 8 q2243 (by decide) dX8_line_48 ⟨rfl, rfl⟩ ?_
          refine g_bipush ok (v := 32) dX8_line_51 rfl ?_
          refine m_cast ok hA 7 L (by decide) dX8_line_53 rfl (by simp only [mlen]; omega) rfl ?_
          rw [wch_eq g2 (by omega)]
          have w1 := wch_8 (x := 32) g2
          refine g_aload_n ok dX8_line_54 rfl ?_
          refine g_aload_n ok dX8_line_55 rfl ?_
          refine g_iload_n ok dX8_line_56 rfl ?_
          refine g_callV ok q2331 q2333 qs26 q75 q2334 (m_recv ok hA) dX8_line_57 (m_number X.l X.G hA (h0 := h0) (wch t 32) c (by omega)) (nm_ (by decide : nmb _ 1 = true)) (dl rfl) (dk rfl) rfl rfl (dk rfl) (dk rfl) (kV ?_) xV
          show GW X _ _ _ _ [.int (MS.A t 0 (8 + c)), .ref (ad 20)]
          refine g_callV ok q2553 q2555 qs51 q75 q2556 (m_recv ok hA) dX8_line_60 (m_writesNumber X.l X.G hA (h0 := h0) (wch t 32) (MS.A t 0 (8 + c)) (by rw [w1, nn_nI (by omega)]; exact ⟨rfl, by omega, gr⟩)) (nm_ (by decide : nmb _ 1 = true)) (dl rfl) (dk rfl) rfl rfl (dk rfl) (dk rfl) (kN ?_) xN
          have wh := wl_8 (numCh (MS.A t 0 (8 + c)) (mab (MS.A t 0 (8 + c)))) (wch t 32) _ w1
          refine g_aload_n ok dX8_line_63 rfl ?_
          refine g_iload_n ok dX8_line_64 rfl ?_
          refine g_callV ok q2393 q2395 qs37 q75 q2396 (m_recv ok hA) dX8_line_65 (m_colour X.l X.G hA (h0 := h0) (wl (numCh (MS.A t 0 (8 + c)) (mab (MS.A t 0 (8 + c)))) (wch t 32)) c (by omega)) (nm_ (by decide : nmb _ 1 = true)) (dl rfl) (dk rfl) rfl rfl (dk rfl) (dk rfl) (kV ?_) xV
          rw [wl_0]
          show GW X _ _ _ _ [.int (MS.A t 0 (40 + c))]
          refine g_if_le ok (tgt := 117) dX8_line_68 (by decide) (fun c68 => ?_) (fun c68 => ?_)
          · have c68' := Int32.not_lt.mpr c68
            refine g_iincN ok dX8_line_117 (c := c) rfl rfl (ls1 := [some (.ref (ad 20)), some (.int (nI i)), some (.int (nI j)), some (.int (nI (c + 1)))]) rfl ?_
            refine g_goto ok dX8_line_120 (tgt := 26) (by decide) ?_
            have fe : (wl (numCh (MS.A t 0 (8 + c)) (mab (MS.A t 0 (8 + c)))) (wch t 32)) = wl (cellCh (t.A 0) i c) t := by rw [cellCh, wl_app, wl_app, if_pos ic, colCh, if_neg (Int32.not_lt.mpr c68)]; rfl
            rw [fe] at wh ⊢
            exact ih _ _ _ (by omega) g1 wh (by omega) (mRng_of (wl_0 _ _) g4)
          · have c68' := Int32.not_le.mp c68
            refine g_aload_n ok dX8_line_71 rfl ?_
            refine m_get ok hA 7 q2242 (by decide) dX8_line_72 (v := .ref (ad 7)) rfl ?_
            refine g_aload_n ok dX8_line_75 rfl ?_
            refine g_dup ok dX8_line_76 rfl ?_
            refine m_get ok hA 8 q2243 (by decide) dX8_line_77 (v := .int (nI ((L + 1) + (List.length (numCh (MS.A t 0 (8 + c)) (mab (MS.A t 0 (8 + c)))))))) (congrArg (fun z => some (Value.int z)) wh) ?_
            refine g_dup_x1 ok dX8_line_80 rfl rfl ?_
            refine g_iconst ok (v := 1) dX8_line_81 rfl ?_
            refine g_iaddN ok dX8_line_82 (c := (((L + 1) + (List.length (numCh (MS.A t 0 (8 + c)) (mab (MS.A t 0 (8 + c)))))) + 1)) (a := ((L + 1) + (List.length (numCh (MS.A t 0 (8 + c)) (mab (MS.A t 0 (8 + c))))))) (b := 1) rfl rfl rfl ?_
            refine m_put ok hA 8 q2243 (by decide) dX8_line_83 ⟨rfl, rfl⟩ ?_
            refine g_aload_n ok dX8_line_86 rfl ?_
            refine g_iload_n ok dX8_line_87 rfl ?_
            refine g_callV ok q2393 q2395 qs37 q75 q2396 (m_recv ok hA) dX8_line_88 (m_colour X.l X.G hA (h0 := h0) (mI (wl (numCh (MS.A t 0 (8 + c)) (mab (MS.A t 0 (8 + c)))) (wch t 32)) 8 (nI (((L + 1) + (List.length (numCh (MS.A t 0 (8 + c)) (mab (MS.A t 0 (8 + c)))))) + 1))) c (by omega)) (nm_ (by decide : nmb _ 1 = true)) (dl rfl) (dk rfl) rfl rfl (dk rfl) (dk rfl) (kV (v := .int (MS.A (wl (numCh (MS.A t 0 (8 + c)) (mab (MS.A t 0 (8 + c)))) (wch t 32)) 0 (40 + c))) ?_) xV
            rw [wl_0]
            show GW X _ _ _ _ [.int (MS.A t 0 (40 + c)), .int (nI ((L + 1) + (List.length (numCh (MS.A t 0 (8 + c)) (mab (MS.A t 0 (8 + c))))))), .ref (ad 7)]
            refine g_iconst ok (v := 1) dX8_line_91 rfl ?_
            refine g_icmp_ne ok (tgt := 100) dX8_line_92 (by decide) (fun c92 => ?_) (fun c92 => ?_)
            · refine g_aload_n ok dX8_line_100 rfl ?_
              refine g_iload_n ok dX8_line_101 rfl ?_
              refine g_callV ok q2393 q2395 qs37 q75 q2396 (m_recv ok hA) dX8_line_102 (m_colour X.l X.G hA (h0 := h0) (mI (wl (numCh (MS.A t 0 (8 + c)) (mab (MS.A t 0 (8 + c)))) (wch t 32)) 8 (nI (((L + 1) + (List.length (numCh (MS.A t 0 (8 + c)) (mab (MS.A t 0 (8 + c)))))) + 1))) c (by omega)) (nm_ (by decide : nmb _ 1 = true)) (dl rfl) (dk rfl) rfl rfl (dk rfl) (dk rfl) (kV (v := .int (MS.A (wl (numCh (MS.A t 0 (8 + c)) (mab (MS.A t 0 (8 + c)))) (wch t 32)) 0 (40 + c))) ?_) xV
              rw [wl_0]
              show GW X _ _ _ _ [.int (MS.A t 0 (40 + c)), .int (nI ((L + 1) + (List.length (numCh (MS.A t 0 (8 + c)) (mab (MS.A t 0 (8 + c))))))), .ref (ad 7)]
              refine g_iconst ok (v := 2) dX8_line_105 rfl ?_
              refine g_icmp_ne ok (tgt := 114) dX8_line_106 (by decide) (fun c106 => ?_) (fun c106 => ?_)
              · refine g_bipush ok (v := 98) dX8_line_114 rfl ?_
                refine m_cast ok hA 7 ((L + 1) + (List.length (numCh (MS.A t 0 (8 + c)) (mab (MS.A t 0 (8 + c)))))) (by decide) dX8_line_116 rfl (by simp only [mlen]; omega) rfl ?_
                rw [wch_eq wh (by omega)]
                have w2 := wch_8 (x := 98) wh
                refine g_iincN ok dX8_line_117 (c := c) rfl rfl (ls1 := [some (.ref (ad 20)), some (.int (nI i)), some (.int (nI j)), some (.int (nI (c + 1)))]) rfl ?_
                refine g_goto ok dX8_line_120 (tgt := 26) (by decide) ?_
                have fe : (wch (wl (numCh (MS.A t 0 (8 + c)) (mab (MS.A t 0 (8 + c)))) (wch t 32)) 98) = wl (cellCh (t.A 0) i c) t := by rw [cellCh, wl_app, wl_app, if_pos ic, colCh, if_pos c68', if_neg c92, if_neg c106]; rfl
                rw [fe] at w2 ⊢
                exact ih _ _ _ (by omega) g1 w2 (by omega) (mRng_of (wl_0 _ _) g4)
              · refine g_bipush ok (v := 103) dX8_line_109 rfl ?_
                refine g_goto ok dX8_line_111 (tgt := 116) (by decide) ?_
                refine m_cast ok hA 7 ((L + 1) + (List.length (numCh (MS.A t 0 (8 + c)) (mab (MS.A t 0 (8 + c)))))) (by decide) dX8_line_116 rfl (by simp only [mlen]; omega) rfl ?_
                rw [wch_eq wh (by omega)]
                have w2 := wch_8 (x := 103) wh
                refine g_iincN ok dX8_line_117 (c := c) rfl rfl (ls1 := [some (.ref (ad 20)), some (.int (nI i)), some (.int (nI j)), some (.int (nI (c + 1)))]) rfl ?_
                refine g_goto ok dX8_line_120 (tgt := 26) (by decide) ?_
                have fe : (wch (wl (numCh (MS.A t 0 (8 + c)) (mab (MS.A t 0 (8 + c)))) (wch t 32)) 103) = wl (cellCh (t.A 0) i c) t := by rw [cellCh, wl_app, wl_app, if_pos ic, colCh, if_pos c68', if_neg c92, if_pos c106]; rfl
                rw [fe] at w2 ⊢
                exact ih _ _ _ (by omega) g1 w2 (by omega) (mRng_of (wl_0 _ _) g4)
            · refine g_bipush ok (v := 114) dX8_line_95 rfl ?_
              refine g_goto ok dX8_line_97 (tgt := 116) (by decide) ?_
              refine m_cast ok hA 7 ((L + 1) + (List.length (numCh (MS.A t 0 (8 + c)) (mab (MS.A t 0 (8 + c)))))) (by decide) dX8_line_116 rfl (by simp only [mlen]; omega) rfl ?_
              rw [wch_eq wh (by omega)]
              have w2 := wch_8 (x := 114) wh
              refine g_iincN ok dX8_line_117 (c := c) rfl rfl (ls1 := [some (.ref (ad 20)), some (.int (nI i)), some (.int (nI j)), some (.int (nI (c + 1)))]) rfl ?_
              refine g_goto ok dX8_line_120 (tgt := 26) (by decide) ?_
              have fe : (wch (wl (numCh (MS.A t 0 (8 + c)) (mab (MS.A t 0 (8 + c)))) (wch t 32)) 114) = wl (cellCh (t.A 0) i c) t := by rw [cellCh, wl_app, wl_app, if_pos ic, colCh, if_pos c68', if_pos c92]; rfl
              rw [fe] at w2 ⊢
              exact ih _ _ _ (by omega) g1 w2 (by omega) (mRng_of (wl_0 _ _) g4)
        · refine g_icmp_le ok (tgt := 54) dX8_line_33 (by decide) (fun _ => ?_) (fun c_ => absurd (nI_le (a := c) (b := i) (by omega) (by omega)) c_)
          refine g_aload_n ok dX8_line_54 rfl ?_
          refine g_aload_n ok dX8_line_55 rfl ?_
          refine g_iload_n ok dX8_line_56 rfl ?_
          refine g_callV ok q2331 q2333 qs26 q75 q2334 (m_recv ok hA) dX8_line_57 (m_number X.l X.G hA (h0 := h0) t c (by omega)) (nm_ (by decide : nmb _ 1 = true)) (dl rfl) (dk rfl) rfl rfl (dk rfl) (dk rfl) (kV ?_) xV
          show GW X _ _ _ _ [.int (MS.A t 0 (8 + c)), .ref (ad 20)]
          refine g_callV ok q2553 q2555 qs51 q75 q2556 (m_recv ok hA) dX8_line_60 (m_writesNumber X.l X.G hA (h0 := h0) t (MS.A t 0 (8 + c)) (by rw [g2, nn_nI (by omega)]; exact ⟨rfl, by omega, gr⟩)) (nm_ (by decide : nmb _ 1 = true)) (dl rfl) (dk rfl) rfl rfl (dk rfl) (dk rfl) (kN ?_) xN
          have wh := wl_8 (numCh (MS.A t 0 (8 + c)) (mab (MS.A t 0 (8 + c)))) t _ g2
          refine g_aload_n ok dX8_line_63 rfl ?_
          refine g_iload_n ok dX8_line_64 rfl ?_
          refine g_callV ok q2393 q2395 qs37 q75 q2396 (m_recv ok hA) dX8_line_65 (m_colour X.l X.G hA (h0 := h0) (wl (numCh (MS.A t 0 (8 + c)) (mab (MS.A t 0 (8 + c)))) t) c (by omega)) (nm_ (by decide : nmb _ 1 = true)) (dl rfl) (dk rfl) rfl rfl (dk rfl) (dk rfl) (kV ?_) xV
          rw [wl_0]
          show GW X _ _ _ _ [.int (MS.A t 0 (40 + c))]
          refine g_if_le ok (tgt := 117) dX8_line_68 (by decide) (fun c68 => ?_) (fun c68 => ?_)
          · have c68' := Int32.not_lt.mpr c68
            refine g_iincN ok dX8_line_117 (c := c) rfl rfl (ls1 := [some (.ref (ad 20)), some (.int (nI i)), some (.int (nI j)), some (.int (nI (c + 1)))]) rfl ?_
            refine g_goto ok dX8_line_120 (tgt := 26) (by decide) ?_
            have fe : (wl (numCh (MS.A t 0 (8 + c)) (mab (MS.A t 0 (8 + c)))) t) = wl (cellCh (t.A 0) i c) t := by rw [cellCh, wl_app, wl_app, if_neg ic, colCh, if_neg (Int32.not_lt.mpr c68)]; rfl
            rw [fe] at wh ⊢
            exact ih _ _ _ (by omega) g1 wh (by omega) (mRng_of (wl_0 _ _) g4)
          · have c68' := Int32.not_le.mp c68
            refine g_aload_n ok dX8_line_71 rfl ?_
            refine m_get ok hA 7 q2242 (by decide) dX8_line_72 (v := .ref (ad 7)) rfl ?_
            refine g_aload_n ok dX8_line_75 rfl ?_
            refine g_dup ok dX8_line_76 rfl ?_
            refine m_get ok hA 8 q2243 (by decide) dX8_line_77 (v := .int (nI (L + (List.length (numCh (MS.A t 0 (8 + c)) (mab (MS.A t 0 (8 + c)))))))) (congrArg (fun z => some (Value.int z)) wh) ?_
            refine g_dup_x1 ok dX8_line_80 rfl rfl ?_
            refine g_iconst ok (v := 1) dX8_line_81 rfl ?_
            refine g_iaddN ok dX8_line_82 (c := ((L + (List.length (numCh (MS.A t 0 (8 + c)) (mab (MS.A t 0 (8 + c)))))) + 1)) (a := (L + (List.length (numCh (MS.A t 0 (8 + c)) (mab (MS.A t 0 (8 + c))))))) (b := 1) rfl rfl rfl ?_
            refine m_put ok hA 8 q2243 (by decide) dX8_line_83 ⟨rfl, rfl⟩ ?_
            refine g_aload_n ok dX8_line_86 rfl ?_
            refine g_iload_n ok dX8_line_87 rfl ?_
            refine g_callV ok q2393 q2395 qs37 q75 q2396 (m_recv ok hA) dX8_line_88 (m_colour X.l X.G hA (h0 := h0) (mI (wl (numCh (MS.A t 0 (8 + c)) (mab (MS.A t 0 (8 + c)))) t) 8 (nI ((L + (List.length (numCh (MS.A t 0 (8 + c)) (mab (MS.A t 0 (8 + c)))))) + 1))) c (by omega)) (nm_ (by decide : nmb _ 1 = true)) (dl rfl) (dk rfl) rfl rfl (dk rfl) (dk rfl) (kV (v := .int (MS.A (wl (numCh (MS.A t 0 (8 + c)) (mab (MS.A t 0 (8 + c)))) t) 0 (40 + c))) ?_) xV
            rw [wl_0]
            show GW X _ _ _ _ [.int (MS.A t 0 (40 + c)), .int (nI (L + (List.length (numCh (MS.A t 0 (8 + c)) (mab (MS.A t 0 (8 + c))))))), .ref (ad 7)]
            refine g_iconst ok (v := 1) dX8_line_91 rfl ?_
            refine g_icmp_ne ok (tgt := 100) dX8_line_92 (by decide) (fun c92 => ?_) (fun c92 => ?_)
            · refine g_aload_n ok dX8_line_100 rfl ?_
              refine g_iload_n ok dX8_line_101 rfl ?_
              refine g_callV ok q2393 q2395 qs37 q75 q2396 (m_recv ok hA) dX8_line_102 (m_colour X.l X.G hA (h0 := h0) (mI (wl (numCh (MS.A t 0 (8 + c)) (mab (MS.A t 0 (8 + c)))) t) 8 (nI ((L + (List.length (numCh (MS.A t 0 (8 + c)) (mab (MS.A t 0 (8 + c)))))) + 1))) c (by omega)) (nm_ (by decide : nmb _ 1 = true)) (dl rfl) (dk rfl) rfl rfl (dk rfl) (dk rfl) (kV (v := .int (MS.A (wl (numCh (MS.A t 0 (8 + c)) (mab (MS.A t 0 (8 + c)))) t) 0 (40 + c))) ?_) xV
              rw [wl_0]
              show GW X _ _ _ _ [.int (MS.A t 0 (40 + c)), .int (nI (L + (List.length (numCh (MS.A t 0 (8 + c)) (mab (MS.A t 0 (8 + c))))))), .ref (ad 7)]
              refine g_iconst ok (v := 2) dX8_line_105 rfl ?_
              refine g_icmp_ne ok (tgt := 114) dX8_line_106 (by decide) (fun c106 => ?_) (fun c106 => ?_)
              · refine g_bipush ok (v := 98) dX8_line_114 rfl ?_
                refine m_cast ok hA 7 (L + (List.length (numCh (MS.A t 0 (8 + c)) (mab (MS.A t 0 (8 + c)))))) (by decide) dX8_line_116 rfl (by simp only [mlen]; omega) rfl ?_
                rw [wch_eq wh (by omega)]
                have w1 := wch_8 (x := 98) wh
                refine g_iincN ok dX8_line_117 (c := c) rfl rfl (ls1 := [some (.ref (ad 20)), some (.int (nI i)), some (.int (nI j)), some (.int (nI (c + 1)))]) rfl ?_
                refine g_goto ok dX8_line_120 (tgt := 26) (by decide) ?_
                have fe : (wch (wl (numCh (MS.A t 0 (8 + c)) (mab (MS.A t 0 (8 + c)))) t) 98) = wl (cellCh (t.A 0) i c) t := by rw [cellCh, wl_app, wl_app, if_neg ic, colCh, if_pos c68', if_neg c92, if_neg c106]; rfl
                rw [fe] at w1 ⊢
                exact ih _ _ _ (by omega) g1 w1 (by omega) (mRng_of (wl_0 _ _) g4)
              · refine g_bipush ok (v := 103) dX8_line_109 rfl ?_
                refine g_goto ok dX8_line_111 (tgt := 116) (by decide) ?_
                refine m_cast ok hA 7 (L + (List.length (numCh (MS.A t 0 (8 + c)) (mab (MS.A t 0 (8 + c)))))) (by decide) dX8_line_116 rfl (by simp only [mlen]; omega) rfl ?_
                rw [wch_eq wh (by omega)]
                have w1 := wch_8 (x := 103) wh
                refine g_iincN ok dX8_line_117 (c := c) rfl rfl (ls1 := [some (.ref (ad 20)), some (.int (nI i)), some (.int (nI j)), some (.int (nI (c + 1)))]) rfl ?_
                refine g_goto ok dX8_line_120 (tgt := 26) (by decide) ?_
                have fe : (wch (wl (numCh (MS.A t 0 (8 + c)) (mab (MS.A t 0 (8 + c)))) t) 103) = wl (cellCh (t.A 0) i c) t := by rw [cellCh, wl_app, wl_app, if_neg ic, colCh, if_pos c68', if_neg c92, if_pos c106]; rfl
                rw [fe] at w1 ⊢
                exact ih _ _ _ (by omega) g1 w1 (by omega) (mRng_of (wl_0 _ _) g4)
            · refine g_bipush ok (v := 114) dX8_line_95 rfl ?_
              refine g_goto ok dX8_line_97 (tgt := 116) (by decide) ?_
              refine m_cast ok hA 7 (L + (List.length (numCh (MS.A t 0 (8 + c)) (mab (MS.A t 0 (8 + c)))))) (by decide) dX8_line_116 rfl (by simp only [mlen]; omega) rfl ?_
              rw [wch_eq wh (by omega)]
              have w1 := wch_8 (x := 114) wh
              refine g_iincN ok dX8_line_117 (c := c) rfl rfl (ls1 := [some (.ref (ad 20)), some (.int (nI i)), some (.int (nI j)), some (.int (nI (c + 1)))]) rfl ?_
              refine g_goto ok dX8_line_120 (tgt := 26) (by decide) ?_
              have fe : (wch (wl (numCh (MS.A t 0 (8 + c)) (mab (MS.A t 0 (8 + c)))) t) 114) = wl (cellCh (t.A 0) i c) t := by rw [cellCh, wl_app, wl_app, if_neg ic, colCh, if_pos c68', if_pos c92]; rfl
              rw [fe] at w1 ⊢
              exact ih _ _ _ (by omega) g1 w1 (by omega) (mRng_of (wl_0 _ _) g4)
    exact lp (j + 1 - i) i _ 0 (by omega) hF rfl (by omega) (mRng_of rfl y0)
  · have c10' := bI_e c10
    refine g_aload_n ok dX8_line_13 rfl ?_
    refine g_iconst ok (v := 1) dX8_line_14 rfl ?_
    refine g_callV ok q2362 q2364 qs33 q75 q2365 (m_recv ok hA) dX8_line_15 (m_raises X.l X.G hA (h0 := h0) (mI s 20 0) 1) (nm_ (by decide : nmb _ 1 = true)) (dl rfl) (dk rfl) rfl rfl (dk rfl) (dk rfl) (kV ?_) xV
    exact g_iret ok fn rfl dX8_line_18 (pv_i (by simp [mLine, mI_A, mI_I, c10']) (by simp [mLine, mI_A, mI_I, c10'])) (dk rfl)
