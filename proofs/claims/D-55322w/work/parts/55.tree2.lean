/-! the tree: sums, the greatest, the least -/
set_option maxRecDepth 100000
abbrev cX1_sumOf : ByteArray := prog_1_method_13_code
def yX1_sumOf : MethodName := ⟨RX1, "sumOf", "(LSpanRuler$Node;II)I"⟩
def dkwX1_sumOf_2 : List UInt8 := [184, 0, 94, 45, 182, 0, 98, 27, 28, 184, 0, 94, 96, 172, 42, 180, 0, 86, 172]
abbrev dktX1_sumOf_2 : List UInt8 := dkwX1_sumOf_2 ++ []
def dkwX1_sumOf_1 : List UInt8 := [172, 42, 193, 0, 90, 153, 0, 32, 42, 192, 0, 90, 78, 45, 182, 0, 92, 45, 182, 0, 93, 27, 28]
abbrev dktX1_sumOf_1 : List UInt8 := dkwX1_sumOf_1 ++ dktX1_sumOf_2
def dkwX1_sumOf_0 : List UInt8 := [42, 27, 28, 182, 0, 57, 153, 0, 5, 3, 172, 42, 27, 28, 182, 0, 63, 153, 0, 8, 42, 180, 0, 86]
abbrev dktX1_sumOf_0 : List UInt8 := dkwX1_sumOf_0 ++ dktX1_sumOf_1
theorem dksX1_sumOf_0 : cX1_sumOf.data.toList.drop 0 = dktX1_sumOf_0 := by decide +kernel
theorem dksX1_sumOf_1 : cX1_sumOf.data.toList.drop 24 = dktX1_sumOf_1 := dk_seg dksX1_sumOf_0 24 rfl rfl
theorem dksX1_sumOf_2 : cX1_sumOf.data.toList.drop 47 = dktX1_sumOf_2 := dk_seg dksX1_sumOf_1 23 rfl rfl
theorem dX1_sumOf_0 : decode cX1_sumOf 0 = .ok (.aload_n 0, 1) := dk_42 (dk_at dksX1_sumOf_0 0 rfl rfl)
theorem dX1_sumOf_1 : decode cX1_sumOf 1 = .ok (.iload_n 1, 1) := dk_27 (dk_at dksX1_sumOf_0 1 rfl rfl)
theorem dX1_sumOf_2 : decode cX1_sumOf 2 = .ok (.iload_n 2, 1) := dk_28 (dk_at dksX1_sumOf_0 2 rfl rfl)
theorem dX1_sumOf_3 : decode cX1_sumOf 3 = .ok (.invokevirtual 57, 3) := dk_182 0 57 (dk_at dksX1_sumOf_0 3 rfl rfl)
theorem dX1_sumOf_6 : decode cX1_sumOf 6 = .ok (.ifCond .eq 5, 3) := dk_153 0 5 (dk_at dksX1_sumOf_0 6 rfl rfl)
theorem dX1_sumOf_9 : decode cX1_sumOf 9 = .ok (.iconst 0, 1) := dk_3 (dk_at dksX1_sumOf_0 9 rfl rfl)
theorem dX1_sumOf_10 : decode cX1_sumOf 10 = .ok (.ireturn, 1) := dk_172 (dk_at dksX1_sumOf_0 10 rfl rfl)
theorem dX1_sumOf_11 : decode cX1_sumOf 11 = .ok (.aload_n 0, 1) := dk_42 (dk_at dksX1_sumOf_0 11 rfl rfl)
theorem dX1_sumOf_12 : decode cX1_sumOf 12 = .ok (.iload_n 1, 1) := dk_27 (dk_at dksX1_sumOf_0 12 rfl rfl)
theorem dX1_sumOf_13 : decode cX1_sumOf 13 = .ok (.iload_n 2, 1) := dk_28 (dk_at dksX1_sumOf_0 13 rfl rfl)
theorem dX1_sumOf_14 : decode cX1_sumOf 14 = .ok (.invokevirtual 63, 3) := dk_182 0 63 (dk_at dksX1_sumOf_0 14 rfl rfl)
theorem dX1_sumOf_17 : decode cX1_sumOf 17 = .ok (.ifCond .eq 8, 3) := dk_153 0 8 (dk_at dksX1_sumOf_0 17 rfl rfl)
theorem dX1_sumOf_20 : decode cX1_sumOf 20 = .ok (.aload_n 0, 1) := dk_42 (dk_at dksX1_sumOf_0 20 rfl rfl)
theorem dX1_sumOf_21 : decode cX1_sumOf 21 = .ok (.getfield 86, 3) := dk_180 0 86 (dk_at dksX1_sumOf_0 21 rfl rfl)
theorem dX1_sumOf_24 : decode cX1_sumOf 24 = .ok (.ireturn, 1) := dk_172 (dk_at dksX1_sumOf_1 0 rfl rfl)
theorem dX1_sumOf_25 : decode cX1_sumOf 25 = .ok (.aload_n 0, 1) := dk_42 (dk_at dksX1_sumOf_1 1 rfl rfl)
theorem dX1_sumOf_26 : decode cX1_sumOf 26 = .ok (.instanceof 90, 3) := dk_193 0 90 (dk_at dksX1_sumOf_1 2 rfl rfl)
theorem dX1_sumOf_29 : decode cX1_sumOf 29 = .ok (.ifCond .eq 32, 3) := dk_153 0 32 (dk_at dksX1_sumOf_1 5 rfl rfl)
theorem dX1_sumOf_32 : decode cX1_sumOf 32 = .ok (.aload_n 0, 1) := dk_42 (dk_at dksX1_sumOf_1 8 rfl rfl)
theorem dX1_sumOf_33 : decode cX1_sumOf 33 = .ok (.checkcast 90, 3) := dk_192 0 90 (dk_at dksX1_sumOf_1 9 rfl rfl)
theorem dX1_sumOf_36 : decode cX1_sumOf 36 = .ok (.astore_n 3, 1) := dk_78 (dk_at dksX1_sumOf_1 12 rfl rfl)
theorem dX1_sumOf_37 : decode cX1_sumOf 37 = .ok (.aload_n 3, 1) := dk_45 (dk_at dksX1_sumOf_1 13 rfl rfl)
theorem dX1_sumOf_38 : decode cX1_sumOf 38 = .ok (.invokevirtual 92, 3) := dk_182 0 92 (dk_at dksX1_sumOf_1 14 rfl rfl)
theorem dX1_sumOf_41 : decode cX1_sumOf 41 = .ok (.aload_n 3, 1) := dk_45 (dk_at dksX1_sumOf_1 17 rfl rfl)
theorem dX1_sumOf_42 : decode cX1_sumOf 42 = .ok (.invokevirtual 93, 3) := dk_182 0 93 (dk_at dksX1_sumOf_1 18 rfl rfl)
theorem dX1_sumOf_45 : decode cX1_sumOf 45 = .ok (.iload_n 1, 1) := dk_27 (dk_at dksX1_sumOf_1 21 rfl rfl)
theorem dX1_sumOf_46 : decode cX1_sumOf 46 = .ok (.iload_n 2, 1) := dk_28 (dk_at dksX1_sumOf_1 22 rfl rfl)
theorem dX1_sumOf_47 : decode cX1_sumOf 47 = .ok (.invokestatic 94, 3) := dk_184 0 94 (dk_at dksX1_sumOf_2 0 rfl rfl)
theorem dX1_sumOf_50 : decode cX1_sumOf 50 = .ok (.aload_n 3, 1) := dk_45 (dk_at dksX1_sumOf_2 3 rfl rfl)
theorem dX1_sumOf_51 : decode cX1_sumOf 51 = .ok (.invokevirtual 98, 3) := dk_182 0 98 (dk_at dksX1_sumOf_2 4 rfl rfl)
theorem dX1_sumOf_54 : decode cX1_sumOf 54 = .ok (.iload_n 1, 1) := dk_27 (dk_at dksX1_sumOf_2 7 rfl rfl)
theorem dX1_sumOf_55 : decode cX1_sumOf 55 = .ok (.iload_n 2, 1) := dk_28 (dk_at dksX1_sumOf_2 8 rfl rfl)
theorem dX1_sumOf_56 : decode cX1_sumOf 56 = .ok (.invokestatic 94, 3) := dk_184 0 94 (dk_at dksX1_sumOf_2 9 rfl rfl)
theorem dX1_sumOf_59 : decode cX1_sumOf 59 = .ok (.iadd, 1) := dk_96 (dk_at dksX1_sumOf_2 12 rfl rfl)
theorem dX1_sumOf_60 : decode cX1_sumOf 60 = .ok (.ireturn, 1) := dk_172 (dk_at dksX1_sumOf_2 13 rfl rfl)
theorem dX1_sumOf_61 : decode cX1_sumOf 61 = .ok (.aload_n 0, 1) := dk_42 (dk_at dksX1_sumOf_2 14 rfl rfl)
theorem dX1_sumOf_62 : decode cX1_sumOf 62 = .ok (.getfield 86, 3) := dk_180 0 86 (dk_at dksX1_sumOf_2 15 rfl rfl)
theorem dX1_sumOf_65 : decode cX1_sumOf 65 = .ok (.ireturn, 1) := dk_172 (dk_at dksX1_sumOf_2 18 rfl rfl)
abbrev cX1_greatestOf : ByteArray := prog_1_method_14_code
def yX1_greatestOf : MethodName := ⟨RX1, "greatestOf", "(LSpanRuler$Node;II)I"⟩
def dkwX1_greatestOf_2 : List UInt8 := [27, 28, 184, 0, 102, 45, 182, 0, 98, 27, 28, 184, 0, 102, 184, 0, 105, 172, 42, 180, 0, 99, 172]
abbrev dktX1_greatestOf_2 : List UInt8 := dkwX1_greatestOf_2 ++ []
def dkwX1_greatestOf_1 : List UInt8 := [180, 0, 99, 172, 42, 193, 0, 90, 153, 0, 34, 42, 192, 0, 90, 78, 45, 182, 0, 92, 45, 182, 0, 93]
abbrev dktX1_greatestOf_1 : List UInt8 := dkwX1_greatestOf_1 ++ dktX1_greatestOf_2
def dkwX1_greatestOf_0 : List UInt8 := [42, 27, 28, 182, 0, 57, 153, 0, 7, 17, 252, 24, 172, 42, 27, 28, 182, 0, 63, 153, 0, 8, 42]
abbrev dktX1_greatestOf_0 : List UInt8 := dkwX1_greatestOf_0 ++ dktX1_greatestOf_1
theorem dksX1_greatestOf_0 : cX1_greatestOf.data.toList.drop 0 = dktX1_greatestOf_0 := by decide +kernel
theorem dksX1_greatestOf_1 : cX1_greatestOf.data.toList.drop 23 = dktX1_greatestOf_1 := dk_seg dksX1_greatestOf_0 23 rfl rfl
theorem dksX1_greatestOf_2 : cX1_greatestOf.data.toList.drop 47 = dktX1_greatestOf_2 := dk_seg dksX1_greatestOf_1 24 rfl rfl
theorem dX1_greatestOf_0 : decode cX1_greatestOf 0 = .ok (.aload_n 0, 1) := dk_42 (dk_at dksX1_greatestOf_0 0 rfl rfl)
theorem dX1_greatestOf_1 : decode cX1_greatestOf 1 = .ok (.iload_n 1, 1) := dk_27 (dk_at dksX1_greatestOf_0 1 rfl rfl)
theorem dX1_greatestOf_2 : decode cX1_greatestOf 2 = .ok (.iload_n 2, 1) := dk_28 (dk_at dksX1_greatestOf_0 2 rfl rfl)
theorem dX1_greatestOf_3 : decode cX1_greatestOf 3 = .ok (.invokevirtual 57, 3) := dk_182 0 57 (dk_at dksX1_greatestOf_0 3 rfl rfl)
theorem dX1_greatestOf_6 : decode cX1_greatestOf 6 = .ok (.ifCond .eq 7, 3) := dk_153 0 7 (dk_at dksX1_greatestOf_0 6 rfl rfl)
theorem dX1_greatestOf_9 : decode cX1_greatestOf 9 = .ok (.sipush (-1000), 3) := dk_17 252 24 (dk_at dksX1_greatestOf_0 9 rfl rfl)
theorem dX1_greatestOf_12 : decode cX1_greatestOf 12 = .ok (.ireturn, 1) := dk_172 (dk_at dksX1_greatestOf_0 12 rfl rfl)
theorem dX1_greatestOf_13 : decode cX1_greatestOf 13 = .ok (.aload_n 0, 1) := dk_42 (dk_at dksX1_greatestOf_0 13 rfl rfl)
theorem dX1_greatestOf_14 : decode cX1_greatestOf 14 = .ok (.iload_n 1, 1) := dk_27 (dk_at dksX1_greatestOf_0 14 rfl rfl)
theorem dX1_greatestOf_15 : decode cX1_greatestOf 15 = .ok (.iload_n 2, 1) := dk_28 (dk_at dksX1_greatestOf_0 15 rfl rfl)
theorem dX1_greatestOf_16 : decode cX1_greatestOf 16 = .ok (.invokevirtual 63, 3) := dk_182 0 63 (dk_at dksX1_greatestOf_0 16 rfl rfl)
theorem dX1_greatestOf_19 : decode cX1_greatestOf 19 = .ok (.ifCond .eq 8, 3) := dk_153 0 8 (dk_at dksX1_greatestOf_0 19 rfl rfl)
theorem dX1_greatestOf_22 : decode cX1_greatestOf 22 = .ok (.aload_n 0, 1) := dk_42 (dk_at dksX1_greatestOf_0 22 rfl rfl)
theorem dX1_greatestOf_23 : decode cX1_greatestOf 23 = .ok (.getfield 99, 3) := dk_180 0 99 (dk_at dksX1_greatestOf_1 0 rfl rfl)
theorem dX1_greatestOf_26 : decode cX1_greatestOf 26 = .ok (.ireturn, 1) := dk_172 (dk_at dksX1_greatestOf_1 3 rfl rfl)
theorem dX1_greatestOf_27 : decode cX1_greatestOf 27 = .ok (.aload_n 0, 1) := dk_42 (dk_at dksX1_greatestOf_1 4 rfl rfl)
theorem dX1_greatestOf_28 : decode cX1_greatestOf 28 = .ok (.instanceof 90, 3) := dk_193 0 90 (dk_at dksX1_greatestOf_1 5 rfl rfl)
theorem dX1_greatestOf_31 : decode cX1_greatestOf 31 = .ok (.ifCond .eq 34, 3) := dk_153 0 34 (dk_at dksX1_greatestOf_1 8 rfl rfl)
theorem dX1_greatestOf_34 : decode cX1_greatestOf 34 = .ok (.aload_n 0, 1) := dk_42 (dk_at dksX1_greatestOf_1 11 rfl rfl)
theorem dX1_greatestOf_35 : decode cX1_greatestOf 35 = .ok (.checkcast 90, 3) := dk_192 0 90 (dk_at dksX1_greatestOf_1 12 rfl rfl)
theorem dX1_greatestOf_38 : decode cX1_greatestOf 38 = .ok (.astore_n 3, 1) := dk_78 (dk_at dksX1_greatestOf_1 15 rfl rfl)
theorem dX1_greatestOf_39 : decode cX1_greatestOf 39 = .ok (.aload_n 3, 1) := dk_45 (dk_at dksX1_greatestOf_1 16 rfl rfl)
theorem dX1_greatestOf_40 : decode cX1_greatestOf 40 = .ok (.invokevirtual 92, 3) := dk_182 0 92 (dk_at dksX1_greatestOf_1 17 rfl rfl)
theorem dX1_greatestOf_43 : decode cX1_greatestOf 43 = .ok (.aload_n 3, 1) := dk_45 (dk_at dksX1_greatestOf_1 20 rfl rfl)
theorem dX1_greatestOf_44 : decode cX1_greatestOf 44 = .ok (.invokevirtual 93, 3) := dk_182 0 93 (dk_at dksX1_greatestOf_1 21 rfl rfl)
theorem dX1_greatestOf_47 : decode cX1_greatestOf 47 = .ok (.iload_n 1, 1) := dk_27 (dk_at dksX1_greatestOf_2 0 rfl rfl)
theorem dX1_greatestOf_48 : decode cX1_greatestOf 48 = .ok (.iload_n 2, 1) := dk_28 (dk_at dksX1_greatestOf_2 1 rfl rfl)
theorem dX1_greatestOf_49 : decode cX1_greatestOf 49 = .ok (.invokestatic 102, 3) := dk_184 0 102 (dk_at dksX1_greatestOf_2 2 rfl rfl)
theorem dX1_greatestOf_52 : decode cX1_greatestOf 52 = .ok (.aload_n 3, 1) := dk_45 (dk_at dksX1_greatestOf_2 5 rfl rfl)
theorem dX1_greatestOf_53 : decode cX1_greatestOf 53 = .ok (.invokevirtual 98, 3) := dk_182 0 98 (dk_at dksX1_greatestOf_2 6 rfl rfl)
theorem dX1_greatestOf_56 : decode cX1_greatestOf 56 = .ok (.iload_n 1, 1) := dk_27 (dk_at dksX1_greatestOf_2 9 rfl rfl)
theorem dX1_greatestOf_57 : decode cX1_greatestOf 57 = .ok (.iload_n 2, 1) := dk_28 (dk_at dksX1_greatestOf_2 10 rfl rfl)
theorem dX1_greatestOf_58 : decode cX1_greatestOf 58 = .ok (.invokestatic 102, 3) := dk_184 0 102 (dk_at dksX1_greatestOf_2 11 rfl rfl)
theorem dX1_greatestOf_61 : decode cX1_greatestOf 61 = .ok (.invokestatic 105, 3) := dk_184 0 105 (dk_at dksX1_greatestOf_2 14 rfl rfl)
theorem dX1_greatestOf_64 : decode cX1_greatestOf 64 = .ok (.ireturn, 1) := dk_172 (dk_at dksX1_greatestOf_2 17 rfl rfl)
theorem dX1_greatestOf_65 : decode cX1_greatestOf 65 = .ok (.aload_n 0, 1) := dk_42 (dk_at dksX1_greatestOf_2 18 rfl rfl)
theorem dX1_greatestOf_66 : decode cX1_greatestOf 66 = .ok (.getfield 99, 3) := dk_180 0 99 (dk_at dksX1_greatestOf_2 19 rfl rfl)
theorem dX1_greatestOf_69 : decode cX1_greatestOf 69 = .ok (.ireturn, 1) := dk_172 (dk_at dksX1_greatestOf_2 22 rfl rfl)
abbrev cX1_leastOf : ByteArray := prog_1_method_15_code
def yX1_leastOf : MethodName := ⟨RX1, "leastOf", "(LSpanRuler$Node;II)I"⟩
def dkwX1_leastOf_2 : List UInt8 := [27, 28, 184, 0, 114, 45, 182, 0, 98, 27, 28, 184, 0, 114, 184, 0, 117, 172, 42, 180, 0, 111, 172]
abbrev dktX1_leastOf_2 : List UInt8 := dkwX1_leastOf_2 ++ []
def dkwX1_leastOf_1 : List UInt8 := [180, 0, 111, 172, 42, 193, 0, 90, 153, 0, 34, 42, 192, 0, 90, 78, 45, 182, 0, 92, 45, 182, 0, 93]
abbrev dktX1_leastOf_1 : List UInt8 := dkwX1_leastOf_1 ++ dktX1_leastOf_2
def dkwX1_leastOf_0 : List UInt8 := [42, 27, 28, 182, 0, 57, 153, 0, 7, 17, 3, 232, 172, 42, 27, 28, 182, 0, 63, 153, 0, 8, 42]
abbrev dktX1_leastOf_0 : List UInt8 := dkwX1_leastOf_0 ++ dktX1_leastOf_1
theorem dksX1_leastOf_0 : cX1_leastOf.data.toList.drop 0 = dktX1_leastOf_0 := by decide +kernel
theorem dksX1_leastOf_1 : cX1_leastOf.data.toList.drop 23 = dktX1_leastOf_1 := dk_seg dksX1_leastOf_0 23 rfl rfl
theorem dksX1_leastOf_2 : cX1_leastOf.data.toList.drop 47 = dktX1_leastOf_2 := dk_seg dksX1_leastOf_1 24 rfl rfl
theorem dX1_leastOf_0 : decode cX1_leastOf 0 = .ok (.aload_n 0, 1) := dk_42 (dk_at dksX1_leastOf_0 0 rfl rfl)
theorem dX1_leastOf_1 : decode cX1_leastOf 1 = .ok (.iload_n 1, 1) := dk_27 (dk_at dksX1_leastOf_0 1 rfl rfl)
theorem dX1_leastOf_2 : decode cX1_leastOf 2 = .ok (.iload_n 2, 1) := dk_28 (dk_at dksX1_leastOf_0 2 rfl rfl)
theorem dX1_leastOf_3 : decode cX1_leastOf 3 = .ok (.invokevirtual 57, 3) := dk_182 0 57 (dk_at dksX1_leastOf_0 3 rfl rfl)
theorem dX1_leastOf_6 : decode cX1_leastOf 6 = .ok (.ifCond .eq 7, 3) := dk_153 0 7 (dk_at dksX1_leastOf_0 6 rfl rfl)
theorem dX1_leastOf_9 : decode cX1_leastOf 9 = .ok (.sipush 1000, 3) := dk_17 3 232 (dk_at dksX1_leastOf_0 9 rfl rfl)
theorem dX1_leastOf_12 : decode cX1_leastOf 12 = .ok (.ireturn, 1) := dk_172 (dk_at dksX1_leastOf_0 12 rfl rfl)
theorem dX1_leastOf_13 : decode cX1_leastOf 13 = .ok (.aload_n 0, 1) := dk_42 (dk_at dksX1_leastOf_0 13 rfl rfl)
theorem dX1_leastOf_14 : decode cX1_leastOf 14 = .ok (.iload_n 1, 1) := dk_27 (dk_at dksX1_leastOf_0 14 rfl rfl)
theorem dX1_leastOf_15 : decode cX1_leastOf 15 = .ok (.iload_n 2, 1) := dk_28 (dk_at dksX1_leastOf_0 15 rfl rfl)
theorem dX1_leastOf_16 : decode cX1_leastOf 16 = .ok (.invokevirtual 63, 3) := dk_182 0 63 (dk_at dksX1_leastOf_0 16 rfl rfl)
theorem dX1_leastOf_19 : decode cX1_leastOf 19 = .ok (.ifCond .eq 8, 3) := dk_153 0 8 (dk_at dksX1_leastOf_0 19 rfl rfl)
theorem dX1_leastOf_22 : decode cX1_leastOf 22 = .ok (.aload_n 0, 1) := dk_42 (dk_at dksX1_leastOf_0 22 rfl rfl)
theorem dX1_leastOf_23 : decode cX1_leastOf 23 = .ok (.getfield 111, 3) := dk_180 0 111 (dk_at dksX1_leastOf_1 0 rfl rfl)
theorem dX1_leastOf_26 : decode cX1_leastOf 26 = .ok (.ireturn, 1) := dk_172 (dk_at dksX1_leastOf_1 3 rfl rfl)
theorem dX1_leastOf_27 : decode cX1_leastOf 27 = .ok (.aload_n 0, 1) := dk_42 (dk_at dksX1_leastOf_1 4 rfl rfl)
theorem dX1_leastOf_28 : decode cX1_leastOf 28 = .ok (.instanceof 90, 3) := dk_193 0 90 (dk_at dksX1_leastOf_1 5 rfl rfl)
theorem dX1_leastOf_31 : decode cX1_leastOf 31 = .ok (.ifCond .eq 34, 3) := dk_153 0 34 (dk_at dksX1_leastOf_1 8 rfl rfl)
theorem dX1_leastOf_34 : decode cX1_leastOf 34 = .ok (.aload_n 0, 1) := dk_42 (dk_at dksX1_leastOf_1 11 rfl rfl)
theorem dX1_leastOf_35 : decode cX1_leastOf 35 = .ok (.checkcast 90, 3) := dk_192 0 90 (dk_at dksX1_leastOf_1 12 rfl rfl)
theorem dX1_leastOf_38 : decode cX1_leastOf 38 = .ok (.astore_n 3, 1) := dk_78 (dk_at dksX1_leastOf_1 15 rfl rfl)
theorem dX1_leastOf_39 : decode cX1_leastOf 39 = .ok (.aload_n 3, 1) := dk_45 (dk_at dksX1_leastOf_1 16 rfl rfl)
theorem dX1_leastOf_40 : decode cX1_leastOf 40 = .ok (.invokevirtual 92, 3) := dk_182 0 92 (dk_at dksX1_leastOf_1 17 rfl rfl)
theorem dX1_leastOf_43 : decode cX1_leastOf 43 = .ok (.aload_n 3, 1) := dk_45 (dk_at dksX1_leastOf_1 20 rfl rfl)
theorem dX1_leastOf_44 : decode cX1_leastOf 44 = .ok (.invokevirtual 93, 3) := dk_182 0 93 (dk_at dksX1_leastOf_1 21 rfl rfl)
theorem dX1_leastOf_47 : decode cX1_leastOf 47 = .ok (.iload_n 1, 1) := dk_27 (dk_at dksX1_leastOf_2 0 rfl rfl)
theorem dX1_leastOf_48 : decode cX1_leastOf 48 = .ok (.iload_n 2, 1) := dk_28 (dk_at dksX1_leastOf_2 1 rfl rfl)
theorem dX1_leastOf_49 : decode cX1_leastOf 49 = .ok (.invokestatic 114, 3) := dk_184 0 114 (dk_at dksX1_leastOf_2 2 rfl rfl)
theorem dX1_leastOf_52 : decode cX1_leastOf 52 = .ok (.aload_n 3, 1) := dk_45 (dk_at dksX1_leastOf_2 5 rfl rfl)
theorem dX1_leastOf_53 : decode cX1_leastOf 53 = .ok (.invokevirtual 98, 3) := dk_182 0 98 (dk_at dksX1_leastOf_2 6 rfl rfl)
theorem dX1_leastOf_56 : decode cX1_leastOf 56 = .ok (.iload_n 1, 1) := dk_27 (dk_at dksX1_leastOf_2 9 rfl rfl)
theorem dX1_leastOf_57 : decode cX1_leastOf 57 = .ok (.iload_n 2, 1) := dk_28 (dk_at dksX1_leastOf_2 10 rfl rfl)
theorem dX1_leastOf_58 : decode cX1_leastOf 58 = .ok (.invokestatic 114, 3) := dk_184 0 114 (dk_at dksX1_leastOf_2 11 rfl rfl)
theorem dX1_leastOf_61 : decode cX1_leastOf 61 = .ok (.invokestatic 117, 3) := dk_184 0 117 (dk_at dksX1_leastOf_2 14 rfl rfl)
theorem dX1_leastOf_64 : decode cX1_leastOf 64 = .ok (.ireturn, 1) := dk_172 (dk_at dksX1_leastOf_2 17 rfl rfl)
theorem dX1_leastOf_65 : decode cX1_leastOf 65 = .ok (.aload_n 0, 1) := dk_42 (dk_at dksX1_leastOf_2 18 rfl rfl)
theorem dX1_leastOf_66 : decode cX1_leastOf 66 = .ok (.getfield 111, 3) := dk_180 0 111 (dk_at dksX1_leastOf_2 19 rfl rfl)
theorem dX1_leastOf_69 : decode cX1_leastOf 69 = .ok (.ireturn, 1) := dk_172 (dk_at dksX1_leastOf_2 22 rfl rfl)
theorem q920 : (Jvm.Cond.instanceMethod ({ cls := "SpanRuler$Node", name := "isApart", desc := "(II)Z" } : Jvm.MethodName)) ∈ lw_all := lw_g (lw_at lw_m4 140 rfl) rfl
theorem q924 : (Jvm.Cond.code ({ cls := "SpanRuler$Node", name := "isApart", desc := "(II)Z" } : Jvm.MethodName) prog_12_method_6_code (3 : Nat) (Option.some Jvm.ClassFile.FieldType.boolean)) ∈ lw_all := lw_g (lw_at lw_m4 144 rfl) rfl
theorem q919 : (Jvm.Cond.methodLink "SpanRuler" (57 : Nat) ({ cls := "SpanRuler$Node", name := "isApart", desc := "(II)Z" } : Jvm.MethodName)) ∈ lw_all := lw_g (lw_at lw_m4 139 rfl) rfl
theorem q921 : (Jvm.Cond.sameMethod "SpanRuler$Node" "SpanRuler$Node" "isApart" "(II)Z") ∈ lw_all := lw_g (lw_at lw_m4 141 rfl) rfl
theorem q923 : (Jvm.Cond.selects "SpanRuler$Leaf" ({ cls := "SpanRuler$Node", name := "isApart", desc := "(II)Z" } : Jvm.MethodName) ({ cls := "SpanRuler$Node", name := "isApart", desc := "(II)Z" } : Jvm.MethodName)) ∈ lw_all := lw_g (lw_at lw_m4 143 rfl) rfl
theorem q926 : (Jvm.Cond.instanceMethod ({ cls := "SpanRuler$Node", name := "isIn", desc := "(II)Z" } : Jvm.MethodName)) ∈ lw_all := lw_g (lw_at lw_m4 146 rfl) rfl
theorem q930 : (Jvm.Cond.code ({ cls := "SpanRuler$Node", name := "isIn", desc := "(II)Z" } : Jvm.MethodName) prog_12_method_5_code (3 : Nat) (Option.some Jvm.ClassFile.FieldType.boolean)) ∈ lw_all := lw_g (lw_at lw_m4 150 rfl) rfl
theorem q925 : (Jvm.Cond.methodLink "SpanRuler" (63 : Nat) ({ cls := "SpanRuler$Node", name := "isIn", desc := "(II)Z" } : Jvm.MethodName)) ∈ lw_all := lw_g (lw_at lw_m4 145 rfl) rfl
theorem q927 : (Jvm.Cond.sameMethod "SpanRuler$Node" "SpanRuler$Node" "isIn" "(II)Z") ∈ lw_all := lw_g (lw_at lw_m4 147 rfl) rfl
theorem q929 : (Jvm.Cond.selects "SpanRuler$Leaf" ({ cls := "SpanRuler$Node", name := "isIn", desc := "(II)Z" } : Jvm.MethodName) ({ cls := "SpanRuler$Node", name := "isIn", desc := "(II)Z" } : Jvm.MethodName)) ∈ lw_all := lw_g (lw_at lw_m4 149 rfl) rfl
theorem q153 : (Jvm.Cond.fieldLink "SpanRuler" (86 : Nat) "SpanRuler$Node" "sum" "I") ∈ lw_all := lw_g (lw_at lw_m1 93 rfl) rfl
theorem q922 : (Jvm.Cond.selects "SpanRuler$Branch" ({ cls := "SpanRuler$Node", name := "isApart", desc := "(II)Z" } : Jvm.MethodName) ({ cls := "SpanRuler$Node", name := "isApart", desc := "(II)Z" } : Jvm.MethodName)) ∈ lw_all := lw_g (lw_at lw_m4 142 rfl) rfl
theorem q928 : (Jvm.Cond.selects "SpanRuler$Branch" ({ cls := "SpanRuler$Node", name := "isIn", desc := "(II)Z" } : Jvm.MethodName) ({ cls := "SpanRuler$Node", name := "isIn", desc := "(II)Z" } : Jvm.MethodName)) ∈ lw_all := lw_g (lw_at lw_m4 148 rfl) rfl
theorem q931 : (Jvm.Cond.classLink "SpanRuler" (90 : Nat) "SpanRuler$Inner") ∈ lw_all := lw_g (lw_at lw_m4 151 rfl) rfl
theorem q2748 : (Jvm.Cond.castable "SpanRuler$Branch" "SpanRuler$Inner") ∈ lw_tbl := lw_at lw_m12 48 rfl
theorem q933 : (Jvm.Cond.declares ({ cls := "SpanRuler$Inner", name := "hands", desc := "()V" } : Jvm.MethodName)) ∈ lw_tbl := lw_at lw_m4 153 rfl
theorem q932 : (Jvm.Cond.methodLink "SpanRuler" (92 : Nat) ({ cls := "SpanRuler$Inner", name := "hands", desc := "()V" } : Jvm.MethodName)) ∈ lw_all := lw_g (lw_at lw_m4 152 rfl) rfl
theorem q937 : (Jvm.Cond.code ({ cls := "SpanRuler$Branch", name := "hands", desc := "()V" } : Jvm.MethodName) prog_4_method_4_code (1 : Nat) (Option.none : Option Jvm.ClassFile.FieldType)) ∈ lw_all := lw_g (lw_at lw_m4 157 rfl) rfl
theorem q936 : (Jvm.Cond.instanceMethod ({ cls := "SpanRuler$Branch", name := "hands", desc := "()V" } : Jvm.MethodName)) ∈ lw_all := lw_g (lw_at lw_m4 156 rfl) rfl
theorem q934 : (Jvm.Cond.sameMethod "SpanRuler$Inner" "SpanRuler$Inner" "hands" "()V") ∈ lw_all := lw_g (lw_at lw_m4 154 rfl) rfl
theorem q935 : (Jvm.Cond.selects "SpanRuler$Branch" ({ cls := "SpanRuler$Inner", name := "hands", desc := "()V" } : Jvm.MethodName) ({ cls := "SpanRuler$Branch", name := "hands", desc := "()V" } : Jvm.MethodName)) ∈ lw_all := lw_g (lw_at lw_m4 155 rfl) rfl
theorem q973 : (Jvm.Cond.declares ({ cls := "SpanRuler$Inner", name := "left", desc := "()LSpanRuler$Node;" } : Jvm.MethodName)) ∈ lw_tbl := lw_at lw_m4 193 rfl
theorem q972 : (Jvm.Cond.methodLink "SpanRuler" (93 : Nat) ({ cls := "SpanRuler$Inner", name := "left", desc := "()LSpanRuler$Node;" } : Jvm.MethodName)) ∈ lw_all := lw_g (lw_at lw_m4 192 rfl) rfl
theorem q977 : (Jvm.Cond.code ({ cls := "SpanRuler$Branch", name := "left", desc := "()LSpanRuler$Node;" } : Jvm.MethodName) prog_4_method_5_code (1 : Nat) (Option.some (Jvm.ClassFile.FieldType.object "SpanRuler$Node"))) ∈ lw_all := lw_g (lw_at lw_m4 197 rfl) rfl
theorem q976 : (Jvm.Cond.instanceMethod ({ cls := "SpanRuler$Branch", name := "left", desc := "()LSpanRuler$Node;" } : Jvm.MethodName)) ∈ lw_all := lw_g (lw_at lw_m4 196 rfl) rfl
theorem q974 : (Jvm.Cond.sameMethod "SpanRuler$Inner" "SpanRuler$Inner" "left" "()LSpanRuler$Node;") ∈ lw_all := lw_g (lw_at lw_m4 194 rfl) rfl
theorem q975 : (Jvm.Cond.selects "SpanRuler$Branch" ({ cls := "SpanRuler$Inner", name := "left", desc := "()LSpanRuler$Node;" } : Jvm.MethodName) ({ cls := "SpanRuler$Branch", name := "left", desc := "()LSpanRuler$Node;" } : Jvm.MethodName)) ∈ lw_all := lw_g (lw_at lw_m4 195 rfl) rfl
theorem q978 : (Jvm.Cond.methodLink "SpanRuler" (94 : Nat) ({ cls := "SpanRuler", name := "sumOf", desc := "(LSpanRuler$Node;II)I" } : Jvm.MethodName)) ∈ lw_all := lw_g (lw_at lw_m4 198 rfl) rfl
theorem q918 : (Jvm.Cond.code ({ cls := "SpanRuler", name := "sumOf", desc := "(LSpanRuler$Node;II)I" } : Jvm.MethodName) prog_1_method_13_code (4 : Nat) (Option.some Jvm.ClassFile.FieldType.int)) ∈ lw_all := lw_g (lw_at lw_m4 138 rfl) rfl
theorem q917 : (Jvm.Cond.static ({ cls := "SpanRuler", name := "sumOf", desc := "(LSpanRuler$Node;II)I" } : Jvm.MethodName)) ∈ lw_all := lw_g (lw_at lw_m4 137 rfl) rfl
theorem q980 : (Jvm.Cond.declares ({ cls := "SpanRuler$Inner", name := "right", desc := "()LSpanRuler$Node;" } : Jvm.MethodName)) ∈ lw_tbl := lw_at lw_m4 200 rfl
theorem q979 : (Jvm.Cond.methodLink "SpanRuler" (98 : Nat) ({ cls := "SpanRuler$Inner", name := "right", desc := "()LSpanRuler$Node;" } : Jvm.MethodName)) ∈ lw_all := lw_g (lw_at lw_m4 199 rfl) rfl
theorem q984 : (Jvm.Cond.code ({ cls := "SpanRuler$Branch", name := "right", desc := "()LSpanRuler$Node;" } : Jvm.MethodName) prog_4_method_6_code (1 : Nat) (Option.some (Jvm.ClassFile.FieldType.object "SpanRuler$Node"))) ∈ lw_all := lw_g (lw_at lw_m4 204 rfl) rfl
theorem q983 : (Jvm.Cond.instanceMethod ({ cls := "SpanRuler$Branch", name := "right", desc := "()LSpanRuler$Node;" } : Jvm.MethodName)) ∈ lw_all := lw_g (lw_at lw_m4 203 rfl) rfl
theorem q981 : (Jvm.Cond.sameMethod "SpanRuler$Inner" "SpanRuler$Inner" "right" "()LSpanRuler$Node;") ∈ lw_all := lw_g (lw_at lw_m4 201 rfl) rfl
theorem q982 : (Jvm.Cond.selects "SpanRuler$Branch" ({ cls := "SpanRuler$Inner", name := "right", desc := "()LSpanRuler$Node;" } : Jvm.MethodName) ({ cls := "SpanRuler$Branch", name := "right", desc := "()LSpanRuler$Node;" } : Jvm.MethodName)) ∈ lw_all := lw_g (lw_at lw_m4 202 rfl) rfl
theorem q158 : (Jvm.Cond.fieldLink "SpanRuler" (99 : Nat) "SpanRuler$Node" "greatest" "I") ∈ lw_all := lw_g (lw_at lw_m1 98 rfl) rfl
theorem q1057 : (Jvm.Cond.methodLink "SpanRuler" (102 : Nat) ({ cls := "SpanRuler", name := "greatestOf", desc := "(LSpanRuler$Node;II)I" } : Jvm.MethodName)) ∈ lw_all := lw_g (lw_at lw_m5 37 rfl) rfl
theorem q1056 : (Jvm.Cond.code ({ cls := "SpanRuler", name := "greatestOf", desc := "(LSpanRuler$Node;II)I" } : Jvm.MethodName) prog_1_method_14_code (4 : Nat) (Option.some Jvm.ClassFile.FieldType.int)) ∈ lw_all := lw_g (lw_at lw_m5 36 rfl) rfl
theorem q1055 : (Jvm.Cond.static ({ cls := "SpanRuler", name := "greatestOf", desc := "(LSpanRuler$Node;II)I" } : Jvm.MethodName)) ∈ lw_all := lw_g (lw_at lw_m5 35 rfl) rfl
theorem q1058 : (Jvm.Cond.methodLink "SpanRuler" (105 : Nat) ({ cls := "java/lang/Math", name := "max", desc := "(II)I" } : Jvm.MethodName)) ∈ lw_all := lw_g (lw_at lw_m5 38 rfl) rfl
theorem q163 : (Jvm.Cond.fieldLink "SpanRuler" (111 : Nat) "SpanRuler$Node" "least" "I") ∈ lw_all := lw_g (lw_at lw_m1 103 rfl) rfl
theorem q1063 : (Jvm.Cond.methodLink "SpanRuler" (114 : Nat) ({ cls := "SpanRuler", name := "leastOf", desc := "(LSpanRuler$Node;II)I" } : Jvm.MethodName)) ∈ lw_all := lw_g (lw_at lw_m5 43 rfl) rfl
theorem q1062 : (Jvm.Cond.code ({ cls := "SpanRuler", name := "leastOf", desc := "(LSpanRuler$Node;II)I" } : Jvm.MethodName) prog_1_method_15_code (4 : Nat) (Option.some Jvm.ClassFile.FieldType.int)) ∈ lw_all := lw_g (lw_at lw_m5 42 rfl) rfl
theorem q1061 : (Jvm.Cond.static ({ cls := "SpanRuler", name := "leastOf", desc := "(LSpanRuler$Node;II)I" } : Jvm.MethodName)) ∈ lw_all := lw_g (lw_at lw_m5 41 rfl) rfl
theorem q1064 : (Jvm.Cond.methodLink "SpanRuler" (117 : Nat) ({ cls := "java/lang/Math", name := "min", desc := "(II)I" } : Jvm.MethodName)) ∈ lw_all := lw_g (lw_at lw_m5 44 rfl) rfl
def Q_sumOf (l : Launch) (G : GE) (P : Nat → Prop) (i j d Lv : Nat) : Prop := ∀ (h : AH) (v : Nat → Int32) (lo a K : Nat), TreeAt h P d v lo a → lo + sz d ≤ 32 → cst d lo i j ≤ K → GM l G yX1_sumOf (ws_ yX1_sumOf cX1_sumOf 4 (some .int)) Lv [.ref a, .int (nI i), .int (nI j)] h K (PR fun u h' => ∃ g, u = .int g ∧ Sm v lo (sz d) i j g ∧ TreeAt h' P d v lo a ∧ Chg P lo (sz d) h h')
theorem q_sumOf0 (l : Launch) (G : GE) (P : Nat → Prop) (i j : Nat) (hi : i < 32) (hj : j < 32) (h : AH) (v : Nat → Int32) (lo a K : Nat) (T : TreeAt h P 0 v lo a) (h32 : lo + sz 0 ≤ 32) : GM l G yX1_sumOf (ws_ yX1_sumOf cX1_sumOf 4 (some .int)) 5 [.ref a, .int (nI i), .int (nI j)] (h) (K) (PR fun u h' => ∃ g, u = .int g ∧ Sm v lo (sz 0) i j g ∧ TreeAt h' P 0 v lo a ∧ Chg P lo (sz 0) h h') := by
  refine GM.of (by decide) (dk rfl) ?_
  intro X eL eG eh ok fn
  subst eL; subst eG
  show GW X _ 0 0 [some (.ref a), some (.int (nI i)), some (.int (nI j)), none] []
  obtain ⟨l1, l2, l3⟩ := TreeAt.opn0 T
  have z1 : lo + sz 0 - 1 = lo := by simp only [sz]; omega
  have z0 : sz 0 = 1 := rfl
  refine g_aload_n ok dX1_sumOf_0 rfl ?_
  refine g_iload_n ok dX1_sumOf_1 rfl ?_
  refine g_iload_n ok dX1_sumOf_2 rfl ?_
  refine g_callU ok (C := "SpanRuler$Leaf") (owner := "SpanRuler$Node") q919 q921 q923 q920 q63 q924 (ok.declI q920 q924) (by decide) (Recv.ob ok gc_X4 (Rd.h l3)) dX1_sumOf_3 (x_apartX4 X.l X.G _ a lo lo (v lo) (v lo) (v lo) (Rd.h l3) (nI i) (nI j)) (nm_ (by decide : nmb _ 2 = true)) (by omega) (dk rfl) rfl rfl (dk rfl) (by omega) (kV ?_) xV
  refine g_if_eq ok (tgt := 11) dX1_sumOf_6 (by decide) (fun c6 => ?_) (fun c6 => ?_)
  · have c6' := bI_e c6
    have n9 := apart_f (lo := lo) (n := sz 0) (i := i) (j := j) (by rw [z1]; exact c6') (by omega) (by omega) (by omega)
    refine g_aload_n ok dX1_sumOf_11 rfl ?_
    refine g_iload_n ok dX1_sumOf_12 rfl ?_
    refine g_iload_n ok dX1_sumOf_13 rfl ?_
    refine g_callU ok (C := "SpanRuler$Leaf") (owner := "SpanRuler$Node") q925 q927 q929 q926 q63 q930 (ok.declI q926 q930) (by decide) (Recv.ob ok gc_X4 (Rd.h l3)) dX1_sumOf_14 (x_withinX4 X.l X.G _ a lo lo (v lo) (v lo) (v lo) (Rd.h l3) (nI i) (nI j)) (nm_ (by decide : nmb _ 2 = true)) (by omega) (dk rfl) rfl rfl (dk rfl) (by omega) (kV ?_) xV
    refine g_if_eq ok (tgt := 25) dX1_sumOf_17 (by decide) (fun c17 => ?_) (fun c17 => ?_)
    · have c17' := bI_e c17
      have n8 := within_f (lo := lo) (n := sz 0) (i := i) (j := j) (by rw [z1]; exact c17') (by omega) (by omega) (by omega)
      omega
    · have c17' := bI_n c17
      have n8 := within_t (lo := lo) (n := sz 0) (i := i) (j := j) (by rw [z1]; exact c17') (by omega) (by omega) (by omega)
      refine g_aload_n ok dX1_sumOf_20 rfl ?_
      refine g_get ok ck_X4 2 q153 (Or.inl rfl) (by decide) dX1_sumOf_21 (Rd.h l3) rfl ?_
      exact g_iret ok fn rfl dX1_sumOf_24 ⟨_, rfl, _, rfl, by have z := Sm.within (v := v) n8.1 n8.2; rw [show tsum v (sz 0) lo = v lo from Int32.add_zero _] at z; exact z, T, Chg.refl _ _ _ _⟩ (by omega)
  · have c6' := bI_n c6
    have n9 := apart_t (lo := lo) (n := sz 0) (i := i) (j := j) (by rw [z1]; exact c6') (by omega) (by omega) (by omega)
    refine g_iconst ok (v := 0) dX1_sumOf_9 rfl ?_
    exact g_iret ok fn rfl dX1_sumOf_10 ⟨_, rfl, _, rfl, Sm.apart n9, T, Chg.refl _ _ _ _⟩ (by omega)
theorem q_sumOfS (l : Launch) (G : GE) (P : Nat → Prop) (i j : Nat) (hi : i < 32) (hj : j < 32) (d : Nat) (ih : Q_sumOf l G P i j d (5 + d)) (h : AH) (v : Nat → Int32) (lo a K : Nat) (T : TreeAt h P (d + 1) v lo a) (h32 : lo + sz (d + 1) ≤ 32) (hK : cst (d + 1) lo i j ≤ K) : GM l G yX1_sumOf (ws_ yX1_sumOf cX1_sumOf 4 (some .int)) (6 + d) [.ref a, .int (nI i), .int (nI j)] (h) (K) (PR fun u h' => ∃ g, u = .int g ∧ Sm v lo (sz (d + 1)) i j g ∧ TreeAt h' P (d + 1) v lo a ∧ Chg P lo (sz (d + 1)) h h') := by
  refine GM.of (by decide) (dk rfl) ?_
  intro X eL eG eh ok fn
  subst eL; subst eG
  show GW X _ 0 0 [some (.ref a), some (.int (nI i)), some (.int (nI j)), none] []
  obtain ⟨cl0, cr0, ct0, f0, s0, g, m, w, ⟨n1, n2, n3, n4, n5, n6, n7, n8⟩, tl, tr⟩ := TreeAt.opn (d := d) T
  have es : sz (d + 1) = sz d + sz d := rfl
  have sp := sz_pos d
  have h32b := h32
  rw [es] at h32b
  refine g_aload_n ok dX1_sumOf_0 rfl ?_
  refine g_iload_n ok dX1_sumOf_1 rfl ?_
  refine g_iload_n ok dX1_sumOf_2 rfl ?_
  refine g_callU ok (C := "SpanRuler$Branch") (owner := "SpanRuler$Node") q919 q921 q922 q920 q63 q924 (ok.declI q920 q924) (by decide) (Recv.ob ok gc_X6 (Rd.h n2)) dX1_sumOf_3 (x_apartX6 X.l X.G _ a lo (lo + (sz d + sz d) - 1) (tsum v (sz d + sz d) lo) g m cl0 cr0 ct0 (Rd.h n2) (nI i) (nI j)) (nm_ (by decide : nmb _ 2 = true)) (by omega) (dk rfl) rfl rfl (dk rfl) (by omega) (kV ?_) xV
  refine g_if_eq ok (tgt := 11) dX1_sumOf_6 (by decide) (fun c6 => ?_) (fun c6 => ?_)
  · have c6' := bI_e c6
    have m9 := apart_f (lo := lo) (n := sz d + sz d) (i := i) (j := j) c6' (by omega) (by omega) (by omega)
    refine g_aload_n ok dX1_sumOf_11 rfl ?_
    refine g_iload_n ok dX1_sumOf_12 rfl ?_
    refine g_iload_n ok dX1_sumOf_13 rfl ?_
    refine g_callU ok (C := "SpanRuler$Branch") (owner := "SpanRuler$Node") q925 q927 q928 q926 q63 q930 (ok.declI q926 q930) (by decide) (Recv.ob ok gc_X6 (Rd.h n2)) dX1_sumOf_14 (x_withinX6 X.l X.G _ a lo (lo + (sz d + sz d) - 1) (tsum v (sz d + sz d) lo) g m cl0 cr0 ct0 (Rd.h n2) (nI i) (nI j)) (nm_ (by decide : nmb _ 2 = true)) (by omega) (dk rfl) rfl rfl (dk rfl) (by omega) (kV ?_) xV
    refine g_if_eq ok (tgt := 25) dX1_sumOf_17 (by decide) (fun c17 => ?_) (fun c17 => ?_)
    · have c17' := bI_e c17
      have m8 := within_f (lo := lo) (n := sz d + sz d) (i := i) (j := j) c17' (by omega) (by omega) (by omega)
      have hK2 : 9 + cst d lo i j + cst d (lo + sz d) i j ≤ K := by have z : cst (d + 1) lo i j = 9 + cst d lo i j + cst d (lo + sz d) i j := (if_neg m9).trans (if_neg m8); omega
      refine g_aload_n ok dX1_sumOf_25 rfl ?_
      refine g_instY ok (C := "SpanRuler$Branch") q931 q2748 dX1_sumOf_26 (Recv.ob ok gc_X6 (Rd.h n2)) ?_
      refine g_if_eq ok (tgt := 61) dX1_sumOf_29 (by decide) (fun c_ => absurd c_ (by decide)) (fun _ => ?_)
      refine g_aload_n ok dX1_sumOf_32 rfl ?_
      refine g_castY ok (C := "SpanRuler$Branch") q931 q2748 dX1_sumOf_33 (Recv.ob ok gc_X6 (Rd.h n2)) ?_
      refine g_astore_n ok dX1_sumOf_36 (ls1 := [some (.ref a), some (.int (nI i)), some (.int (nI j)), some (.ref a)]) (dl rfl) rfl ?_
      refine g_aload_n ok dX1_sumOf_37 rfl ?_
      refine g_callU ok (C := "SpanRuler$Branch") (owner := "SpanRuler$Inner") q932 q934 q935 q936 q66 q937 (ok.declA q933) (by decide) (Recv.ob ok gc_X6 (Rd.h n2)) dX1_sumOf_38 (t_hands X.l X.G _ P d v lo a T h32) (nm_ (by decide : nmb _ 0 = true)) (by omega) (dk rfl) rfl rfl (dk rfl) (by omega) (kQ fun h1 ⟨cl, cr, ct, g1, m1, ⟨o1, o2, o3, o4, o5, o6, o7, o8⟩, tl1, tr1, ch1⟩ => ?_) xQ
      refine g_aload_n ok dX1_sumOf_41 rfl ?_
      refine g_callU ok (C := "SpanRuler$Branch") (owner := "SpanRuler$Inner") q972 q974 q975 q976 q66 q977 (ok.declA q973) (by decide) (Recv.ob ok gc_X6 (Rd.h (o2))) dX1_sumOf_42 (x_left X.l X.G _ a lo (lo + (sz d + sz d) - 1) (tsum v (sz d + sz d) lo) g1 m1 cl cr ct (Rd.h (o2))) (nm_ (by decide : nmb _ 0 = true)) (by omega) (dk rfl) rfl rfl (dk rfl) (by omega) (kV ?_) xV
      refine g_iload_n ok dX1_sumOf_45 rfl ?_
      refine g_iload_n ok dX1_sumOf_46 rfl ?_
      refine g_callS ok q978 q917 q61 q918 dX1_sumOf_47 (ih _ v lo cl (cst d lo i j) tl1 (by omega) (Nat.le_refl _)) (nm_ (by decide : nmb _ 3 = true)) (by omega) (dk rfl) rfl rfl (dk rfl) (by omega) (kR fun u h2 ⟨g3, e3, s3, tl2, ch2⟩ => ?_) xR
      subst e3
      have p2 := ch2.node o2 (by omega) (by omega) (by omega)
      have p5 := ch2.other o5 ⟨by decide, by decide⟩
      have tr2 := ch2.tree tr1 (by omega) (Or.inr (Or.inr (by omega)))
      refine g_aload_n ok dX1_sumOf_50 rfl ?_
      refine g_callU ok (C := "SpanRuler$Branch") (owner := "SpanRuler$Inner") q979 q981 q982 q983 q66 q984 (ok.declA q980) (by decide) (Recv.ob ok gc_X6 (Rd.h (p2))) dX1_sumOf_51 (x_right X.l X.G _ a lo (lo + (sz d + sz d) - 1) (tsum v (sz d + sz d) lo) g1 m1 cl cr ct (Rd.h (p2))) (nm_ (by decide : nmb _ 0 = true)) (by omega) (dk rfl) rfl rfl (dk rfl) (by omega) (kV ?_) xV
      refine g_iload_n ok dX1_sumOf_54 rfl ?_
      refine g_iload_n ok dX1_sumOf_55 rfl ?_
      refine g_callS ok q978 q917 q61 q918 dX1_sumOf_56 (ih _ v (lo + sz d) cr (cst d (lo + sz d) i j) tr2 (by omega) (Nat.le_refl _)) (nm_ (by decide : nmb _ 3 = true)) (by omega) (dk rfl) rfl rfl (dk rfl) (by omega) (kR fun u h3 ⟨g4, e4, s4, tr3, ch3⟩ => ?_) xR
      subst e4
      have w2 := ch3.node p2 (by omega) (by omega) (by omega)
      have w5 := ch3.other p5 ⟨by decide, by decide⟩
      have tl3 := ch3.tree tl2 (by omega) (Or.inr (Or.inl (by omega)))
      refine g_iadd ok dX1_sumOf_59 ?_
      refine g_iret ok fn rfl dX1_sumOf_60 ⟨_, rfl, _, rfl, s3.join s4, ⟨cl, cr, ct, 1, 0, g1, m1, v, ⟨o1, w2, o3, o4, w5, o6, o7, o8⟩, tl3, tr3⟩, ?_⟩ (by omega)
      rw [es] at ch1 ⊢
      exact (ch1.trans (ch2.wide (by omega) (by omega))).trans (ch3.wide (by omega) (by omega))
    · have c17' := bI_n c17
      have m8 := within_t (lo := lo) (n := sz d + sz d) (i := i) (j := j) c17' (by omega) (by omega) (by omega)
      refine g_aload_n ok dX1_sumOf_20 rfl ?_
      refine g_get ok ck_X6 2 q153 (Or.inl rfl) (by decide) dX1_sumOf_21 (Rd.h n2) rfl ?_
      exact g_iret ok fn rfl dX1_sumOf_24 ⟨_, rfl, _, rfl, Sm.within m8.1 m8.2, T, Chg.refl _ _ _ _⟩ (by omega)
  · have c6' := bI_n c6
    have m9 := apart_t (lo := lo) (n := sz d + sz d) (i := i) (j := j) c6' (by omega) (by omega) (by omega)
    refine g_iconst ok (v := 0) dX1_sumOf_9 rfl ?_
    exact g_iret ok fn rfl dX1_sumOf_10 ⟨_, rfl, _, rfl, Sm.apart m9, T, Chg.refl _ _ _ _⟩ (by omega)
theorem q_sumOf (l : Launch) (G : GE) (P : Nat → Prop) (i j : Nat) (hi : i < 32) (hj : j < 32) : ∀ d, Q_sumOf l G P i j d (5 + d) := by
  intro d
  induction d with
  | zero => exact fun h v lo a K T h32 _ => q_sumOf0 l G P i j hi hj h v lo a K T h32
  | succ d ih =>
    intro h v lo a K T h32 hK
    rw [show 5 + (d + 1) = 6 + d by omega]
    exact q_sumOfS l G P i j hi hj d ih h v lo a K T h32 hK
def Q_greatestOf (l : Launch) (G : GE) (P : Nat → Prop) (i j d Lv : Nat) : Prop := ∀ (h : AH) (v : Nat → Int32) (lo a K : Nat), TreeAt h P d v lo a → lo + sz d ≤ 32 → cst d lo i j ≤ K → GM l G yX1_greatestOf (ws_ yX1_greatestOf cX1_greatestOf 4 (some .int)) Lv [.ref a, .int (nI i), .int (nI j)] h K (PR fun u h' => ∃ g, u = .int g ∧ Gt v lo (sz d) i j g ∧ TreeAt h' P d v lo a ∧ Chg P lo (sz d) h h')
theorem q_greatestOf0 (l : Launch) (G : GE) (P : Nat → Prop) (i j : Nat) (hi : i < 32) (hj : j < 32) (h : AH) (v : Nat → Int32) (lo a K : Nat) (T : TreeAt h P 0 v lo a) (h32 : lo + sz 0 ≤ 32) : GM l G yX1_greatestOf (ws_ yX1_greatestOf cX1_greatestOf 4 (some .int)) 5 [.ref a, .int (nI i), .int (nI j)] (h) (K) (PR fun u h' => ∃ g, u = .int g ∧ Gt v lo (sz 0) i j g ∧ TreeAt h' P 0 v lo a ∧ Chg P lo (sz 0) h h') := by
  refine GM.of (by decide) (dk rfl) ?_
  intro X eL eG eh ok fn
  subst eL; subst eG
  show GW X _ 0 0 [some (.ref a), some (.int (nI i)), some (.int (nI j)), none] []
  obtain ⟨l1, l2, l3⟩ := TreeAt.opn0 T
  have z1 : lo + sz 0 - 1 = lo := by simp only [sz]; omega
  have z0 : sz 0 = 1 := rfl
  refine g_aload_n ok dX1_greatestOf_0 rfl ?_
  refine g_iload_n ok dX1_greatestOf_1 rfl ?_
  refine g_iload_n ok dX1_greatestOf_2 rfl ?_
  refine g_callU ok (C := "SpanRuler$Leaf") (owner := "SpanRuler$Node") q919 q921 q923 q920 q63 q924 (ok.declI q920 q924) (by decide) (Recv.ob ok gc_X4 (Rd.h l3)) dX1_greatestOf_3 (x_apartX4 X.l X.G _ a lo lo (v lo) (v lo) (v lo) (Rd.h l3) (nI i) (nI j)) (nm_ (by decide : nmb _ 2 = true)) (by omega) (dk rfl) rfl rfl (dk rfl) (by omega) (kV ?_) xV
  refine g_if_eq ok (tgt := 13) dX1_greatestOf_6 (by decide) (fun c6 => ?_) (fun c6 => ?_)
  · have c6' := bI_e c6
    have n9 := apart_f (lo := lo) (n := sz 0) (i := i) (j := j) (by rw [z1]; exact c6') (by omega) (by omega) (by omega)
    refine g_aload_n ok dX1_greatestOf_13 rfl ?_
    refine g_iload_n ok dX1_greatestOf_14 rfl ?_
    refine g_iload_n ok dX1_greatestOf_15 rfl ?_
    refine g_callU ok (C := "SpanRuler$Leaf") (owner := "SpanRuler$Node") q925 q927 q929 q926 q63 q930 (ok.declI q926 q930) (by decide) (Recv.ob ok gc_X4 (Rd.h l3)) dX1_greatestOf_16 (x_withinX4 X.l X.G _ a lo lo (v lo) (v lo) (v lo) (Rd.h l3) (nI i) (nI j)) (nm_ (by decide : nmb _ 2 = true)) (by omega) (dk rfl) rfl rfl (dk rfl) (by omega) (kV ?_) xV
    refine g_if_eq ok (tgt := 27) dX1_greatestOf_19 (by decide) (fun c19 => ?_) (fun c19 => ?_)
    · have c19' := bI_e c19
      have n8 := within_f (lo := lo) (n := sz 0) (i := i) (j := j) (by rw [z1]; exact c19') (by omega) (by omega) (by omega)
      omega
    · have c19' := bI_n c19
      have n8 := within_t (lo := lo) (n := sz 0) (i := i) (j := j) (by rw [z1]; exact c19') (by omega) (by omega) (by omega)
      refine g_aload_n ok dX1_greatestOf_22 rfl ?_
      refine g_get ok ck_X4 3 q158 (Or.inl rfl) (by decide) dX1_greatestOf_23 (Rd.h l3) rfl ?_
      exact g_iret ok fn rfl dX1_greatestOf_26 ⟨_, rfl, _, rfl, Gt.within n8.1 n8.2 Mx.one, T, Chg.refl _ _ _ _⟩ (by omega)
  · have c6' := bI_n c6
    have n9 := apart_t (lo := lo) (n := sz 0) (i := i) (j := j) (by rw [z1]; exact c6') (by omega) (by omega) (by omega)
    refine g_sipush ok (v := -1000) dX1_greatestOf_9 rfl ?_
    exact g_iret ok fn rfl dX1_greatestOf_12 ⟨_, rfl, _, rfl, Gt.apart n9, T, Chg.refl _ _ _ _⟩ (by omega)
theorem q_greatestOfS (l : Launch) (G : GE) (P : Nat → Prop) (i j : Nat) (hi : i < 32) (hj : j < 32) (d : Nat) (ih : Q_greatestOf l G P i j d (5 + d)) (h : AH) (v : Nat → Int32) (lo a K : Nat) (T : TreeAt h P (d + 1) v lo a) (h32 : lo + sz (d + 1) ≤ 32) (hK : cst (d + 1) lo i j ≤ K) : GM l G yX1_greatestOf (ws_ yX1_greatestOf cX1_greatestOf 4 (some .int)) (6 + d) [.ref a, .int (nI i), .int (nI j)] (h) (K) (PR fun u h' => ∃ g, u = .int g ∧ Gt v lo (sz (d + 1)) i j g ∧ TreeAt h' P (d + 1) v lo a ∧ Chg P lo (sz (d + 1)) h h') := by
  refine GM.of (by decide) (dk rfl) ?_
  intro X eL eG eh ok fn
  subst eL; subst eG
  show GW X _ 0 0 [some (.ref a), some (.int (nI i)), some (.int (nI j)), none] []
  obtain ⟨cl0, cr0, ct0, f0, s0, g, m, w, ⟨n1, n2, n3, n4, n5, n6, n7, n8⟩, tl, tr⟩ := TreeAt.opn (d := d) T
  have es : sz (d + 1) = sz d + sz d := rfl
  have sp := sz_pos d
  have h32b := h32
  rw [es] at h32b
  refine g_aload_n ok dX1_greatestOf_0 rfl ?_
  refine g_iload_n ok dX1_greatestOf_1 rfl ?_
  refine g_iload_n ok dX1_greatestOf_2 rfl ?_
  refine g_callU ok (C := "SpanRuler$Branch") (owner := "SpanRuler$Node") q919 q921 q922 q920 q63 q924 (ok.declI q920 q924) (by decide) (Recv.ob ok gc_X6 (Rd.h n2)) dX1_greatestOf_3 (x_apartX6 X.l X.G _ a lo (lo + (sz d + sz d) - 1) (tsum v (sz d + sz d) lo) g m cl0 cr0 ct0 (Rd.h n2) (nI i) (nI j)) (nm_ (by decide : nmb _ 2 = true)) (by omega) (dk rfl) rfl rfl (dk rfl) (by omega) (kV ?_) xV
  refine g_if_eq ok (tgt := 13) dX1_greatestOf_6 (by decide) (fun c6 => ?_) (fun c6 => ?_)
  · have c6' := bI_e c6
    have m9 := apart_f (lo := lo) (n := sz d + sz d) (i := i) (j := j) c6' (by omega) (by omega) (by omega)
    refine g_aload_n ok dX1_greatestOf_13 rfl ?_
    refine g_iload_n ok dX1_greatestOf_14 rfl ?_
    refine g_iload_n ok dX1_greatestOf_15 rfl ?_
    refine g_callU ok (C := "SpanRuler$Branch") (owner := "SpanRuler$Node") q925 q927 q928 q926 q63 q930 (ok.declI q926 q930) (by decide) (Recv.ob ok gc_X6 (Rd.h n2)) dX1_greatestOf_16 (x_withinX6 X.l X.G _ a lo (lo + (sz d + sz d) - 1) (tsum v (sz d + sz d) lo) g m cl0 cr0 ct0 (Rd.h n2) (nI i) (nI j)) (nm_ (by decide : nmb _ 2 = true)) (by omega) (dk rfl) rfl rfl (dk rfl) (by omega) (kV ?_) xV
    refine g_if_eq ok (tgt := 27) dX1_greatestOf_19 (by decide) (fun c19 => ?_) (fun c19 => ?_)
    · have c19' := bI_e c19
      have m8 := within_f (lo := lo) (n := sz d + sz d) (i := i) (j := j) c19' (by omega) (by omega) (by omega)
      have hK2 : 9 + cst d lo i j + cst d (lo + sz d) i j ≤ K := by have z : cst (d + 1) lo i j = 9 + cst d lo i j + cst d (lo + sz d) i j := (if_neg m9).trans (if_neg m8); omega
      refine g_aload_n ok dX1_greatestOf_27 rfl ?_
      refine g_instY ok (C := "SpanRuler$Branch") q931 q2748 dX1_greatestOf_28 (Recv.ob ok gc_X6 (Rd.h n2)) ?_
      refine g_if_eq ok (tgt := 65) dX1_greatestOf_31 (by decide) (fun c_ => absurd c_ (by decide)) (fun _ => ?_)
      refine g_aload_n ok dX1_greatestOf_34 rfl ?_
      refine g_castY ok (C := "SpanRuler$Branch") q931 q2748 dX1_greatestOf_35 (Recv.ob ok gc_X6 (Rd.h n2)) ?_
      refine g_astore_n ok dX1_greatestOf_38 (ls1 := [some (.ref a), some (.int (nI i)), some (.int (nI j)), some (.ref a)]) (dl rfl) rfl ?_
      refine g_aload_n ok dX1_greatestOf_39 rfl ?_
      refine g_callU ok (C := "SpanRuler$Branch") (owner := "SpanRuler$Inner") q932 q934 q935 q936 q66 q937 (ok.declA q933) (by decide) (Recv.ob ok gc_X6 (Rd.h n2)) dX1_greatestOf_40 (t_hands X.l X.G _ P d v lo a T h32) (nm_ (by decide : nmb _ 0 = true)) (by omega) (dk rfl) rfl rfl (dk rfl) (by omega) (kQ fun h1 ⟨cl, cr, ct, g1, m1, ⟨o1, o2, o3, o4, o5, o6, o7, o8⟩, tl1, tr1, ch1⟩ => ?_) xQ
      refine g_aload_n ok dX1_greatestOf_43 rfl ?_
      refine g_callU ok (C := "SpanRuler$Branch") (owner := "SpanRuler$Inner") q972 q974 q975 q976 q66 q977 (ok.declA q973) (by decide) (Recv.ob ok gc_X6 (Rd.h (o2))) dX1_greatestOf_44 (x_left X.l X.G _ a lo (lo + (sz d + sz d) - 1) (tsum v (sz d + sz d) lo) g1 m1 cl cr ct (Rd.h (o2))) (nm_ (by decide : nmb _ 0 = true)) (by omega) (dk rfl) rfl rfl (dk rfl) (by omega) (kV ?_) xV
      refine g_iload_n ok dX1_greatestOf_47 rfl ?_
      refine g_iload_n ok dX1_greatestOf_48 rfl ?_
      refine g_callS ok q1057 q1055 q61 q1056 dX1_greatestOf_49 (ih _ v lo cl (cst d lo i j) tl1 (by omega) (Nat.le_refl _)) (nm_ (by decide : nmb _ 3 = true)) (by omega) (dk rfl) rfl rfl (dk rfl) (by omega) (kR fun u h2 ⟨g3, e3, s3, tl2, ch2⟩ => ?_) xR
      subst e3
      have p2 := ch2.node o2 (by omega) (by omega) (by omega)
      have p5 := ch2.other o5 ⟨by decide, by decide⟩
      have tr2 := ch2.tree tr1 (by omega) (Or.inr (Or.inr (by omega)))
      refine g_aload_n ok dX1_greatestOf_52 rfl ?_
      refine g_callU ok (C := "SpanRuler$Branch") (owner := "SpanRuler$Inner") q979 q981 q982 q983 q66 q984 (ok.declA q980) (by decide) (Recv.ob ok gc_X6 (Rd.h (p2))) dX1_greatestOf_53 (x_right X.l X.G _ a lo (lo + (sz d + sz d) - 1) (tsum v (sz d + sz d) lo) g1 m1 cl cr ct (Rd.h (p2))) (nm_ (by decide : nmb _ 0 = true)) (by omega) (dk rfl) rfl rfl (dk rfl) (by omega) (kV ?_) xV
      refine g_iload_n ok dX1_greatestOf_56 rfl ?_
      refine g_iload_n ok dX1_greatestOf_57 rfl ?_
      refine g_callS ok q1057 q1055 q61 q1056 dX1_greatestOf_58 (ih _ v (lo + sz d) cr (cst d (lo + sz d) i j) tr2 (by omega) (Nat.le_refl _)) (nm_ (by decide : nmb _ 3 = true)) (by omega) (dk rfl) rfl rfl (dk rfl) (by omega) (kR fun u h3 ⟨g4, e4, s4, tr3, ch3⟩ => ?_) xR
      subst e4
      have w2 := ch3.node p2 (by omega) (by omega) (by omega)
      have w5 := ch3.other p5 ⟨by decide, by decide⟩
      have tl3 := ch3.tree tl2 (by omega) (Or.inr (Or.inl (by omega)))
      refine g_max ok q1058 q576 q90 q577 dX1_greatestOf_61 (by omega) rfl (dk rfl) (by omega) ?_
      refine g_iret ok fn rfl dX1_greatestOf_64 ⟨_, rfl, _, rfl, Gt.join n8 s3 s4, ⟨cl, cr, ct, 1, 0, g1, m1, v, ⟨o1, w2, o3, o4, w5, o6, o7, o8⟩, tl3, tr3⟩, ?_⟩ (by omega)
      rw [es] at ch1 ⊢
      exact (ch1.trans (ch2.wide (by omega) (by omega))).trans (ch3.wide (by omega) (by omega))
    · have c19' := bI_n c19
      have m8 := within_t (lo := lo) (n := sz d + sz d) (i := i) (j := j) c19' (by omega) (by omega) (by omega)
      refine g_aload_n ok dX1_greatestOf_22 rfl ?_
      refine g_get ok ck_X6 3 q158 (Or.inl rfl) (by decide) dX1_greatestOf_23 (Rd.h n2) rfl ?_
      exact g_iret ok fn rfl dX1_greatestOf_26 ⟨_, rfl, _, rfl, Gt.within m8.1 m8.2 n3, T, Chg.refl _ _ _ _⟩ (by omega)
  · have c6' := bI_n c6
    have m9 := apart_t (lo := lo) (n := sz d + sz d) (i := i) (j := j) c6' (by omega) (by omega) (by omega)
    refine g_sipush ok (v := -1000) dX1_greatestOf_9 rfl ?_
    exact g_iret ok fn rfl dX1_greatestOf_12 ⟨_, rfl, _, rfl, Gt.apart m9, T, Chg.refl _ _ _ _⟩ (by omega)
theorem q_greatestOf (l : Launch) (G : GE) (P : Nat → Prop) (i j : Nat) (hi : i < 32) (hj : j < 32) : ∀ d, Q_greatestOf l G P i j d (5 + d) := by
  intro d
  induction d with
  | zero => exact fun h v lo a K T h32 _ => q_greatestOf0 l G P i j hi hj h v lo a K T h32
  | succ d ih =>
    intro h v lo a K T h32 hK
    rw [show 5 + (d + 1) = 6 + d by omega]
    exact q_greatestOfS l G P i j hi hj d ih h v lo a K T h32 hK
def Q_leastOf (l : Launch) (G : GE) (P : Nat → Prop) (i j d Lv : Nat) : Prop := ∀ (h : AH) (v : Nat → Int32) (lo a K : Nat), TreeAt h P d v lo a → lo + sz d ≤ 32 → cst d lo i j ≤ K → GM l G yX1_leastOf (ws_ yX1_leastOf cX1_leastOf 4 (some .int)) Lv [.ref a, .int (nI i), .int (nI j)] h K (PR fun u h' => ∃ g, u = .int g ∧ Lt v lo (sz d) i j g ∧ TreeAt h' P d v lo a ∧ Chg P lo (sz d) h h')
theorem q_leastOf0 (l : Launch) (G : GE) (P : Nat → Prop) (i j : Nat) (hi : i < 32) (hj : j < 32) (h : AH) (v : Nat → Int32) (lo a K : Nat) (T : TreeAt h P 0 v lo a) (h32 : lo + sz 0 ≤ 32) : GM l G yX1_leastOf (ws_ yX1_leastOf cX1_leastOf 4 (some .int)) 5 [.ref a, .int (nI i), .int (nI j)] (h) (K) (PR fun u h' => ∃ g, u = .int g ∧ Lt v lo (sz 0) i j g ∧ TreeAt h' P 0 v lo a ∧ Chg P lo (sz 0) h h') := by
  refine GM.of (by decide) (dk rfl) ?_
  intro X eL eG eh ok fn
  subst eL; subst eG
  show GW X _ 0 0 [some (.ref a), some (.int (nI i)), some (.int (nI j)), none] []
  obtain ⟨l1, l2, l3⟩ := TreeAt.opn0 T
  have z1 : lo + sz 0 - 1 = lo := by simp only [sz]; omega
  have z0 : sz 0 = 1 := rfl
  refine g_aload_n ok dX1_leastOf_0 rfl ?_
  refine g_iload_n ok dX1_leastOf_1 rfl ?_
  refine g_iload_n ok dX1_leastOf_2 rfl ?_
  refine g_callU ok (C := "SpanRuler$Leaf") (owner := "SpanRuler$Node") q919 q921 q923 q920 q63 q924 (ok.declI q920 q924) (by decide) (Recv.ob ok gc_X4 (Rd.h l3)) dX1_leastOf_3 (x_apartX4 X.l X.G _ a lo lo (v lo) (v lo) (v lo) (Rd.h l3) (nI i) (nI j)) (nm_ (by decide : nmb _ 2 = true)) (by omega) (dk rfl) rfl rfl (dk rfl) (by omega) (kV ?_) xV
  refine g_if_eq ok (tgt := 13) dX1_leastOf_6 (by decide) (fun c6 => ?_) (fun c6 => ?_)
  · have c6' := bI_e c6
    have n9 := apart_f (lo := lo) (n := sz 0) (i := i) (j := j) (by rw [z1]; exact c6') (by omega) (by omega) (by omega)
    refine g_aload_n ok dX1_leastOf_13 rfl ?_
    refine g_iload_n ok dX1_leastOf_14 rfl ?_
    refine g_iload_n ok dX1_leastOf_15 rfl ?_
    refine g_callU ok (C := "SpanRuler$Leaf") (owner := "SpanRuler$Node") q925 q927 q929 q926 q63 q930 (ok.declI q926 q930) (by decide) (Recv.ob ok gc_X4 (Rd.h l3)) dX1_leastOf_16 (x_withinX4 X.l X.G _ a lo lo (v lo) (v lo) (v lo) (Rd.h l3) (nI i) (nI j)) (nm_ (by decide : nmb _ 2 = true)) (by omega) (dk rfl) rfl rfl (dk rfl) (by omega) (kV ?_) xV
    refine g_if_eq ok (tgt := 27) dX1_leastOf_19 (by decide) (fun c19 => ?_) (fun c19 => ?_)
    · have c19' := bI_e c19
      have n8 := within_f (lo := lo) (n := sz 0) (i := i) (j := j) (by rw [z1]; exact c19') (by omega) (by omega) (by omega)
      omega
    · have c19' := bI_n c19
      have n8 := within_t (lo := lo) (n := sz 0) (i := i) (j := j) (by rw [z1]; exact c19') (by omega) (by omega) (by omega)
      refine g_aload_n ok dX1_leastOf_22 rfl ?_
      refine g_get ok ck_X4 4 q163 (Or.inl rfl) (by decide) dX1_leastOf_23 (Rd.h l3) rfl ?_
      exact g_iret ok fn rfl dX1_leastOf_26 ⟨_, rfl, _, rfl, Lt.within n8.1 n8.2 Mn.one, T, Chg.refl _ _ _ _⟩ (by omega)
  · have c6' := bI_n c6
    have n9 := apart_t (lo := lo) (n := sz 0) (i := i) (j := j) (by rw [z1]; exact c6') (by omega) (by omega) (by omega)
    refine g_sipush ok (v := 1000) dX1_leastOf_9 rfl ?_
    exact g_iret ok fn rfl dX1_leastOf_12 ⟨_, rfl, _, rfl, Lt.apart n9, T, Chg.refl _ _ _ _⟩ (by omega)
theorem q_leastOfS (l : Launch) (G : GE) (P : Nat → Prop) (i j : Nat) (hi : i < 32) (hj : j < 32) (d : Nat) (ih : Q_leastOf l G P i j d (5 + d)) (h : AH) (v : Nat → Int32) (lo a K : Nat) (T : TreeAt h P (d + 1) v lo a) (h32 : lo + sz (d + 1) ≤ 32) (hK : cst (d + 1) lo i j ≤ K) : GM l G yX1_leastOf (ws_ yX1_leastOf cX1_leastOf 4 (some .int)) (6 + d) [.ref a, .int (nI i), .int (nI j)] (h) (K) (PR fun u h' => ∃ g, u = .int g ∧ Lt v lo (sz (d + 1)) i j g ∧ TreeAt h' P (d + 1) v lo a ∧ Chg P lo (sz (d + 1)) h h') := by
  refine GM.of (by decide) (dk rfl) ?_
  intro X eL eG eh ok fn
  subst eL; subst eG
  show GW X _ 0 0 [some (.ref a), some (.int (nI i)), some (.int (nI j)), none] []
  obtain ⟨cl0, cr0, ct0, f0, s0, g, m, w, ⟨n1, n2, n3, n4, n5, n6, n7, n8⟩, tl, tr⟩ := TreeAt.opn (d := d) T
  have es : sz (d + 1) = sz d + sz d := rfl
  have sp := sz_pos d
  have h32b := h32
  rw [es] at h32b
  refine g_aload_n ok dX1_leastOf_0 rfl ?_
  refine g_iload_n ok dX1_leastOf_1 rfl ?_
  refine g_iload_n ok dX1_leastOf_2 rfl ?_
  refine g_callU ok (C := "SpanRuler$Branch") (owner := "SpanRuler$Node") q919 q921 q922 q920 q63 q924 (ok.declI q920 q924) (by decide) (Recv.ob ok gc_X6 (Rd.h n2)) dX1_leastOf_3 (x_apartX6 X.l X.G _ a lo (lo + (sz d + sz d) - 1) (tsum v (sz d + sz d) lo) g m cl0 cr0 ct0 (Rd.h n2) (nI i) (nI j)) (nm_ (by decide : nmb _ 2 = true)) (by omega) (dk rfl) rfl rfl (dk rfl) (by omega) (kV ?_) xV
  refine g_if_eq ok (tgt := 13) dX1_leastOf_6 (by decide) (fun c6 => ?_) (fun c6 => ?_)
  · have c6' := bI_e c6
    have m9 := apart_f (lo := lo) (n := sz d + sz d) (i := i) (j := j) c6' (by omega) (by omega) (by omega)
    refine g_aload_n ok dX1_leastOf_13 rfl ?_
    refine g_iload_n ok dX1_leastOf_14 rfl ?_
    refine g_iload_n ok dX1_leastOf_15 rfl ?_
    refine g_callU ok (C := "SpanRuler$Branch") (owner := "SpanRuler$Node") q925 q927 q928 q926 q63 q930 (ok.declI q926 q930) (by decide) (Recv.ob ok gc_X6 (Rd.h n2)) dX1_leastOf_16 (x_withinX6 X.l X.G _ a lo (lo + (sz d + sz d) - 1) (tsum v (sz d + sz d) lo) g m cl0 cr0 ct0 (Rd.h n2) (nI i) (nI j)) (nm_ (by decide : nmb _ 2 = true)) (by omega) (dk rfl) rfl rfl (dk rfl) (by omega) (kV ?_) xV
    refine g_if_eq ok (tgt := 27) dX1_leastOf_19 (by decide) (fun c19 => ?_) (fun c19 => ?_)
    · have c19' := bI_e c19
      have m8 := within_f (lo := lo) (n := sz d + sz d) (i := i) (j := j) c19' (by omega) (by omega) (by omega)
      have hK2 : 9 + cst d lo i j + cst d (lo + sz d) i j ≤ K := by have z : cst (d + 1) lo i j = 9 + cst d lo i j + cst d (lo + sz d) i j := (if_neg m9).trans (if_neg m8); omega
      refine g_aload_n ok dX1_leastOf_27 rfl ?_
      refine g_instY ok (C := "SpanRuler$Branch") q931 q2748 dX1_leastOf_28 (Recv.ob ok gc_X6 (Rd.h n2)) ?_
      refine g_if_eq ok (tgt := 65) dX1_leastOf_31 (by decide) (fun c_ => absurd c_ (by decide)) (fun _ => ?_)
      refine g_aload_n ok dX1_leastOf_34 rfl ?_
      refine g_castY ok (C := "SpanRuler$Branch") q931 q2748 dX1_leastOf_35 (Recv.ob ok gc_X6 (Rd.h n2)) ?_
      refine g_astore_n ok dX1_leastOf_38 (ls1 := [some (.ref a), some (.int (nI i)), some (.int (nI j)), some (.ref a)]) (dl rfl) rfl ?_
      refine g_aload_n ok dX1_leastOf_39 rfl ?_
      refine g_callU ok (C := "SpanRuler$Branch") (owner := "SpanRuler$Inner") q932 q934 q935 q936 q66 q937 (ok.declA q933) (by decide) (Recv.ob ok gc_X6 (Rd.h n2)) dX1_leastOf_40 (t_hands X.l X.G _ P d v lo a T h32) (nm_ (by decide : nmb _ 0 = true)) (by omega) (dk rfl) rfl rfl (dk rfl) (by omega) (kQ fun h1 ⟨cl, cr, ct, g1, m1, ⟨o1, o2, o3, o4, o5, o6, o7, o8⟩, tl1, tr1, ch1⟩ => ?_) xQ
      refine g_aload_n ok dX1_leastOf_43 rfl ?_
      refine g_callU ok (C := "SpanRuler$Branch") (owner := "SpanRuler$Inner") q972 q974 q975 q976 q66 q977 (ok.declA q973) (by decide) (Recv.ob ok gc_X6 (Rd.h (o2))) dX1_leastOf_44 (x_left X.l X.G _ a lo (lo + (sz d + sz d) - 1) (tsum v (sz d + sz d) lo) g1 m1 cl cr ct (Rd.h (o2))) (nm_ (by decide : nmb _ 0 = true)) (by omega) (dk rfl) rfl rfl (dk rfl) (by omega) (kV ?_) xV
      refine g_iload_n ok dX1_leastOf_47 rfl ?_
      refine g_iload_n ok dX1_leastOf_48 rfl ?_
      refine g_callS ok q1063 q1061 q61 q1062 dX1_leastOf_49 (ih _ v lo cl (cst d lo i j) tl1 (by omega) (Nat.le_refl _)) (nm_ (by decide : nmb _ 3 = true)) (by omega) (dk rfl) rfl rfl (dk rfl) (by omega) (kR fun u h2 ⟨g3, e3, s3, tl2, ch2⟩ => ?_) xR
      subst e3
      have p2 := ch2.node o2 (by omega) (by omega) (by omega)
      have p5 := ch2.other o5 ⟨by decide, by decide⟩
      have tr2 := ch2.tree tr1 (by omega) (Or.inr (Or.inr (by omega)))
      refine g_aload_n ok dX1_leastOf_52 rfl ?_
      refine g_callU ok (C := "SpanRuler$Branch") (owner := "SpanRuler$Inner") q979 q981 q982 q983 q66 q984 (ok.declA q980) (by decide) (Recv.ob ok gc_X6 (Rd.h (p2))) dX1_leastOf_53 (x_right X.l X.G _ a lo (lo + (sz d + sz d) - 1) (tsum v (sz d + sz d) lo) g1 m1 cl cr ct (Rd.h (p2))) (nm_ (by decide : nmb _ 0 = true)) (by omega) (dk rfl) rfl rfl (dk rfl) (by omega) (kV ?_) xV
      refine g_iload_n ok dX1_leastOf_56 rfl ?_
      refine g_iload_n ok dX1_leastOf_57 rfl ?_
      refine g_callS ok q1063 q1061 q61 q1062 dX1_leastOf_58 (ih _ v (lo + sz d) cr (cst d (lo + sz d) i j) tr2 (by omega) (Nat.le_refl _)) (nm_ (by decide : nmb _ 3 = true)) (by omega) (dk rfl) rfl rfl (dk rfl) (by omega) (kR fun u h3 ⟨g4, e4, s4, tr3, ch3⟩ => ?_) xR
      subst e4
      have w2 := ch3.node p2 (by omega) (by omega) (by omega)
      have w5 := ch3.other p5 ⟨by decide, by decide⟩
      have tl3 := ch3.tree tl2 (by omega) (Or.inr (Or.inl (by omega)))
      refine g_min ok q1064 q594 q90 q595 dX1_leastOf_61 (by omega) rfl (dk rfl) (by omega) ?_
      refine g_iret ok fn rfl dX1_leastOf_64 ⟨_, rfl, _, rfl, Lt.join n8 s3 s4, ⟨cl, cr, ct, 1, 0, g1, m1, v, ⟨o1, w2, o3, o4, w5, o6, o7, o8⟩, tl3, tr3⟩, ?_⟩ (by omega)
      rw [es] at ch1 ⊢
      exact (ch1.trans (ch2.wide (by omega) (by omega))).trans (ch3.wide (by omega) (by omega))
    · have c19' := bI_n c19
      have m8 := within_t (lo := lo) (n := sz d + sz d) (i := i) (j := j) c19' (by omega) (by omega) (by omega)
      refine g_aload_n ok dX1_leastOf_22 rfl ?_
      refine g_get ok ck_X6 4 q163 (Or.inl rfl) (by decide) dX1_leastOf_23 (Rd.h n2) rfl ?_
      exact g_iret ok fn rfl dX1_leastOf_26 ⟨_, rfl, _, rfl, Lt.within m8.1 m8.2 n4, T, Chg.refl _ _ _ _⟩ (by omega)
  · have c6' := bI_n c6
    have m9 := apart_t (lo := lo) (n := sz d + sz d) (i := i) (j := j) c6' (by omega) (by omega) (by omega)
    refine g_sipush ok (v := 1000) dX1_leastOf_9 rfl ?_
    exact g_iret ok fn rfl dX1_leastOf_12 ⟨_, rfl, _, rfl, Lt.apart m9, T, Chg.refl _ _ _ _⟩ (by omega)
theorem q_leastOf (l : Launch) (G : GE) (P : Nat → Prop) (i j : Nat) (hi : i < 32) (hj : j < 32) : ∀ d, Q_leastOf l G P i j d (5 + d) := by
  intro d
  induction d with
  | zero => exact fun h v lo a K T h32 _ => q_leastOf0 l G P i j hi hj h v lo a K T h32
  | succ d ih =>
    intro h v lo a K T h32 hK
    rw [show 5 + (d + 1) = 6 + d by omega]
    exact q_leastOfS l G P i j hi hj d ih h v lo a K T h32 hK
