/-! THE JDK's lists, 5 -/
set_option maxRecDepth 100000
abbrev cJ2_clear : ByteArray := prog_52_method_40_code
def yJ2_clear : MethodName := ⟨RJ2, "clear", "()V"⟩
def dkwJ2_clear_1 : List UInt8 := [181, 0, 48, 62, 29, 28, 162, 0, 13, 43, 29, 1, 83, 132, 3, 1, 167, 255, 244, 177]
abbrev dktJ2_clear_1 : List UInt8 := dkwJ2_clear_1 ++ []
def dkwJ2_clear_0 : List UInt8 := [42, 89, 180, 0, 63, 4, 96, 181, 0, 63, 42, 180, 0, 9, 76, 42, 180, 0, 48, 61, 42, 3, 90]
abbrev dktJ2_clear_0 : List UInt8 := dkwJ2_clear_0 ++ dktJ2_clear_1
theorem dksJ2_clear_0 : cJ2_clear.data.toList.drop 0 = dktJ2_clear_0 := by decide +kernel
theorem dksJ2_clear_1 : cJ2_clear.data.toList.drop 23 = dktJ2_clear_1 := dk_seg dksJ2_clear_0 23 rfl rfl
theorem dJ2_clear_0 : decode cJ2_clear 0 = .ok (.aload_n 0, 1) := dk_42 (dk_at dksJ2_clear_0 0 rfl rfl)
theorem dJ2_clear_1 : decode cJ2_clear 1 = .ok (.dup, 1) := dk_89 (dk_at dksJ2_clear_0 1 rfl rfl)
theorem dJ2_clear_2 : decode cJ2_clear 2 = .ok (.getfield 63, 3) := dk_180 0 63 (dk_at dksJ2_clear_0 2 rfl rfl)
theorem dJ2_clear_5 : decode cJ2_clear 5 = .ok (.iconst 1, 1) := dk_4 (dk_at dksJ2_clear_0 5 rfl rfl)
theorem dJ2_clear_6 : decode cJ2_clear 6 = .ok (.iadd, 1) := dk_96 (dk_at dksJ2_clear_0 6 rfl rfl)
theorem dJ2_clear_7 : decode cJ2_clear 7 = .ok (.putfield 63, 3) := dk_181 0 63 (dk_at dksJ2_clear_0 7 rfl rfl)
theorem dJ2_clear_10 : decode cJ2_clear 10 = .ok (.aload_n 0, 1) := dk_42 (dk_at dksJ2_clear_0 10 rfl rfl)
theorem dJ2_clear_11 : decode cJ2_clear 11 = .ok (.getfield 9, 3) := dk_180 0 9 (dk_at dksJ2_clear_0 11 rfl rfl)
theorem dJ2_clear_14 : decode cJ2_clear 14 = .ok (.astore_n 1, 1) := dk_76 (dk_at dksJ2_clear_0 14 rfl rfl)
theorem dJ2_clear_15 : decode cJ2_clear 15 = .ok (.aload_n 0, 1) := dk_42 (dk_at dksJ2_clear_0 15 rfl rfl)
theorem dJ2_clear_16 : decode cJ2_clear 16 = .ok (.getfield 48, 3) := dk_180 0 48 (dk_at dksJ2_clear_0 16 rfl rfl)
theorem dJ2_clear_19 : decode cJ2_clear 19 = .ok (.istore_n 2, 1) := dk_61 (dk_at dksJ2_clear_0 19 rfl rfl)
theorem dJ2_clear_20 : decode cJ2_clear 20 = .ok (.aload_n 0, 1) := dk_42 (dk_at dksJ2_clear_0 20 rfl rfl)
theorem dJ2_clear_21 : decode cJ2_clear 21 = .ok (.iconst 0, 1) := dk_3 (dk_at dksJ2_clear_0 21 rfl rfl)
theorem dJ2_clear_22 : decode cJ2_clear 22 = .ok (.dup_x1, 1) := dk_90 (dk_at dksJ2_clear_0 22 rfl rfl)
theorem dJ2_clear_23 : decode cJ2_clear 23 = .ok (.putfield 48, 3) := dk_181 0 48 (dk_at dksJ2_clear_1 0 rfl rfl)
theorem dJ2_clear_26 : decode cJ2_clear 26 = .ok (.istore_n 3, 1) := dk_62 (dk_at dksJ2_clear_1 3 rfl rfl)
theorem dJ2_clear_27 : decode cJ2_clear 27 = .ok (.iload_n 3, 1) := dk_29 (dk_at dksJ2_clear_1 4 rfl rfl)
theorem dJ2_clear_28 : decode cJ2_clear 28 = .ok (.iload_n 2, 1) := dk_28 (dk_at dksJ2_clear_1 5 rfl rfl)
theorem dJ2_clear_29 : decode cJ2_clear 29 = .ok (.if_icmp .ge 13, 3) := dk_162 0 13 (dk_at dksJ2_clear_1 6 rfl rfl)
theorem dJ2_clear_32 : decode cJ2_clear 32 = .ok (.aload_n 1, 1) := dk_43 (dk_at dksJ2_clear_1 9 rfl rfl)
theorem dJ2_clear_33 : decode cJ2_clear 33 = .ok (.iload_n 3, 1) := dk_29 (dk_at dksJ2_clear_1 10 rfl rfl)
theorem dJ2_clear_34 : decode cJ2_clear 34 = .ok (.aconst_null, 1) := dk_1 (dk_at dksJ2_clear_1 11 rfl rfl)
theorem dJ2_clear_35 : decode cJ2_clear 35 = .ok (.aastore, 1) := dk_83 (dk_at dksJ2_clear_1 12 rfl rfl)
theorem dJ2_clear_36 : decode cJ2_clear 36 = .ok (.iinc 3 1, 3) := dk_132 3 1 (dk_at dksJ2_clear_1 13 rfl rfl)
theorem dJ2_clear_39 : decode cJ2_clear 39 = .ok (.goto (-12), 3) := dk_167 255 244 (dk_at dksJ2_clear_1 16 rfl rfl)
theorem dJ2_clear_42 : decode cJ2_clear 42 = .ok (.return_, 1) := dk_177 (dk_at dksJ2_clear_1 19 rfl rfl)
abbrev cJ12_init : ByteArray := prog_53_method_1_code
def yJ12_init : MethodName := ⟨RJ12, "<init>", "(Ljava/util/ArrayList;)V"⟩
def dkwJ12_init_1 : List UInt8 := [181, 0, 22, 177]
abbrev dktJ12_init_1 : List UInt8 := dkwJ12_init_1 ++ []
def dkwJ12_init_0 : List UInt8 := [42, 43, 181, 0, 1, 42, 183, 0, 7, 42, 2, 181, 0, 13, 42, 42, 180, 0, 1, 180, 0, 17]
abbrev dktJ12_init_0 : List UInt8 := dkwJ12_init_0 ++ dktJ12_init_1
theorem dksJ12_init_0 : cJ12_init.data.toList.drop 0 = dktJ12_init_0 := by decide +kernel
theorem dksJ12_init_1 : cJ12_init.data.toList.drop 22 = dktJ12_init_1 := dk_seg dksJ12_init_0 22 rfl rfl
theorem dJ12_init_0 : decode cJ12_init 0 = .ok (.aload_n 0, 1) := dk_42 (dk_at dksJ12_init_0 0 rfl rfl)
theorem dJ12_init_1 : decode cJ12_init 1 = .ok (.aload_n 1, 1) := dk_43 (dk_at dksJ12_init_0 1 rfl rfl)
theorem dJ12_init_2 : decode cJ12_init 2 = .ok (.putfield 1, 3) := dk_181 0 1 (dk_at dksJ12_init_0 2 rfl rfl)
theorem dJ12_init_5 : decode cJ12_init 5 = .ok (.aload_n 0, 1) := dk_42 (dk_at dksJ12_init_0 5 rfl rfl)
theorem dJ12_init_6 : decode cJ12_init 6 = .ok (.invokespecial 7, 3) := dk_183 0 7 (dk_at dksJ12_init_0 6 rfl rfl)
theorem dJ12_init_9 : decode cJ12_init 9 = .ok (.aload_n 0, 1) := dk_42 (dk_at dksJ12_init_0 9 rfl rfl)
theorem dJ12_init_10 : decode cJ12_init 10 = .ok (.iconst (-1), 1) := dk_2 (dk_at dksJ12_init_0 10 rfl rfl)
theorem dJ12_init_11 : decode cJ12_init 11 = .ok (.putfield 13, 3) := dk_181 0 13 (dk_at dksJ12_init_0 11 rfl rfl)
theorem dJ12_init_14 : decode cJ12_init 14 = .ok (.aload_n 0, 1) := dk_42 (dk_at dksJ12_init_0 14 rfl rfl)
theorem dJ12_init_15 : decode cJ12_init 15 = .ok (.aload_n 0, 1) := dk_42 (dk_at dksJ12_init_0 15 rfl rfl)
theorem dJ12_init_16 : decode cJ12_init 16 = .ok (.getfield 1, 3) := dk_180 0 1 (dk_at dksJ12_init_0 16 rfl rfl)
theorem dJ12_init_19 : decode cJ12_init 19 = .ok (.getfield 17, 3) := dk_180 0 17 (dk_at dksJ12_init_0 19 rfl rfl)
theorem dJ12_init_22 : decode cJ12_init 22 = .ok (.putfield 22, 3) := dk_181 0 22 (dk_at dksJ12_init_1 0 rfl rfl)
theorem dJ12_init_25 : decode cJ12_init 25 = .ok (.return_, 1) := dk_177 (dk_at dksJ12_init_1 3 rfl rfl)
abbrev cJ2_iterator : ByteArray := prog_52_method_55_code
def yJ2_iterator : MethodName := ⟨RJ2, "iterator", "()Ljava/util/Iterator;"⟩
def dkwJ2_iterator_0 : List UInt8 := [187, 1, 11, 89, 42, 183, 1, 13, 176]
abbrev dktJ2_iterator_0 : List UInt8 := dkwJ2_iterator_0 ++ []
theorem dksJ2_iterator_0 : cJ2_iterator.data.toList.drop 0 = dktJ2_iterator_0 := by decide +kernel
theorem dJ2_iterator_0 : decode cJ2_iterator 0 = .ok (.new 267, 3) := dk_187 1 11 (dk_at dksJ2_iterator_0 0 rfl rfl)
theorem dJ2_iterator_3 : decode cJ2_iterator 3 = .ok (.dup, 1) := dk_89 (dk_at dksJ2_iterator_0 3 rfl rfl)
theorem dJ2_iterator_4 : decode cJ2_iterator 4 = .ok (.aload_n 0, 1) := dk_42 (dk_at dksJ2_iterator_0 4 rfl rfl)
theorem dJ2_iterator_5 : decode cJ2_iterator 5 = .ok (.invokespecial 269, 3) := dk_183 1 13 (dk_at dksJ2_iterator_0 5 rfl rfl)
theorem dJ2_iterator_8 : decode cJ2_iterator 8 = .ok (.areturn, 1) := dk_176 (dk_at dksJ2_iterator_0 8 rfl rfl)
abbrev cJ12_hasNext : ByteArray := prog_53_method_2_code
def yJ12_hasNext : MethodName := ⟨RJ12, "hasNext", "()Z"⟩
def dkwJ12_hasNext_0 : List UInt8 := [42, 180, 0, 25, 42, 180, 0, 1, 180, 0, 28, 159, 0, 7, 4, 167, 0, 4, 3, 172]
abbrev dktJ12_hasNext_0 : List UInt8 := dkwJ12_hasNext_0 ++ []
theorem dksJ12_hasNext_0 : cJ12_hasNext.data.toList.drop 0 = dktJ12_hasNext_0 := by decide +kernel
theorem dJ12_hasNext_0 : decode cJ12_hasNext 0 = .ok (.aload_n 0, 1) := dk_42 (dk_at dksJ12_hasNext_0 0 rfl rfl)
theorem dJ12_hasNext_1 : decode cJ12_hasNext 1 = .ok (.getfield 25, 3) := dk_180 0 25 (dk_at dksJ12_hasNext_0 1 rfl rfl)
theorem dJ12_hasNext_4 : decode cJ12_hasNext 4 = .ok (.aload_n 0, 1) := dk_42 (dk_at dksJ12_hasNext_0 4 rfl rfl)
theorem dJ12_hasNext_5 : decode cJ12_hasNext 5 = .ok (.getfield 1, 3) := dk_180 0 1 (dk_at dksJ12_hasNext_0 5 rfl rfl)
theorem dJ12_hasNext_8 : decode cJ12_hasNext 8 = .ok (.getfield 28, 3) := dk_180 0 28 (dk_at dksJ12_hasNext_0 8 rfl rfl)
theorem dJ12_hasNext_11 : decode cJ12_hasNext 11 = .ok (.if_icmp .eq 7, 3) := dk_159 0 7 (dk_at dksJ12_hasNext_0 11 rfl rfl)
theorem dJ12_hasNext_14 : decode cJ12_hasNext 14 = .ok (.iconst 1, 1) := dk_4 (dk_at dksJ12_hasNext_0 14 rfl rfl)
theorem dJ12_hasNext_15 : decode cJ12_hasNext 15 = .ok (.goto 4, 3) := dk_167 0 4 (dk_at dksJ12_hasNext_0 15 rfl rfl)
theorem dJ12_hasNext_18 : decode cJ12_hasNext 18 = .ok (.iconst 0, 1) := dk_3 (dk_at dksJ12_hasNext_0 18 rfl rfl)
theorem dJ12_hasNext_19 : decode cJ12_hasNext 19 = .ok (.ireturn, 1) := dk_172 (dk_at dksJ12_hasNext_0 19 rfl rfl)
abbrev cJ12_checkForComodification : ByteArray := prog_53_method_6_code
def yJ12_checkForComodification : MethodName := ⟨RJ12, "checkForComodification", "()V"⟩
def dkwJ12_checkForComodification_0 : List UInt8 := [42, 180, 0, 1, 180, 0, 17, 42, 180, 0, 22, 159, 0, 11, 187, 0, 41, 89, 183, 0, 43, 191, 177]
abbrev dktJ12_checkForComodification_0 : List UInt8 := dkwJ12_checkForComodification_0 ++ []
theorem dksJ12_checkForComodification_0 : cJ12_checkForComodification.data.toList.drop 0 = dktJ12_checkForComodification_0 := by decide +kernel
theorem dJ12_checkForComodification_0 : decode cJ12_checkForComodification 0 = .ok (.aload_n 0, 1) := dk_42 (dk_at dksJ12_checkForComodification_0 0 rfl rfl)
theorem dJ12_checkForComodification_1 : decode cJ12_checkForComodification 1 = .ok (.getfield 1, 3) := dk_180 0 1 (dk_at dksJ12_checkForComodification_0 1 rfl rfl)
theorem dJ12_checkForComodification_4 : decode cJ12_checkForComodification 4 = .ok (.getfield 17, 3) := dk_180 0 17 (dk_at dksJ12_checkForComodification_0 4 rfl rfl)
theorem dJ12_checkForComodification_7 : decode cJ12_checkForComodification 7 = .ok (.aload_n 0, 1) := dk_42 (dk_at dksJ12_checkForComodification_0 7 rfl rfl)
theorem dJ12_checkForComodification_8 : decode cJ12_checkForComodification 8 = .ok (.getfield 22, 3) := dk_180 0 22 (dk_at dksJ12_checkForComodification_0 8 rfl rfl)
theorem dJ12_checkForComodification_11 : decode cJ12_checkForComodification 11 = .ok (.if_icmp .eq 11, 3) := dk_159 0 11 (dk_at dksJ12_checkForComodification_0 11 rfl rfl)
theorem dJ12_checkForComodification_14 : decode cJ12_checkForComodification 14 = .ok (.new 41, 3) := dk_187 0 41 (dk_at dksJ12_checkForComodification_0 14 rfl rfl)
theorem dJ12_checkForComodification_17 : decode cJ12_checkForComodification 17 = .ok (.dup, 1) := dk_89 (dk_at dksJ12_checkForComodification_0 17 rfl rfl)
theorem dJ12_checkForComodification_18 : decode cJ12_checkForComodification 18 = .ok (.invokespecial 43, 3) := dk_183 0 43 (dk_at dksJ12_checkForComodification_0 18 rfl rfl)
theorem dJ12_checkForComodification_21 : decode cJ12_checkForComodification 21 = .ok (.athrow, 1) := dk_191 (dk_at dksJ12_checkForComodification_0 21 rfl rfl)
theorem dJ12_checkForComodification_22 : decode cJ12_checkForComodification 22 = .ok (.return_, 1) := dk_177 (dk_at dksJ12_checkForComodification_0 22 rfl rfl)
abbrev cJ12_next : ByteArray := prog_53_method_3_code
def yJ12_next : MethodName := ⟨RJ12, "next", "()Ljava/lang/Object;"⟩
def dkwJ12_next_2 : List UInt8 := [183, 0, 43, 191, 42, 27, 4, 96, 181, 0, 25, 44, 42, 27, 90, 181, 0, 13, 50, 176]
abbrev dktJ12_next_2 : List UInt8 := dkwJ12_next_2 ++ []
def dkwJ12_next_1 : List UInt8 := [183, 0, 36, 191, 42, 180, 0, 1, 180, 0, 37, 77, 27, 44, 190, 161, 0, 11, 187, 0, 41, 89]
abbrev dktJ12_next_1 : List UInt8 := dkwJ12_next_1 ++ dktJ12_next_2
def dkwJ12_next_0 : List UInt8 := [42, 182, 0, 31, 42, 180, 0, 25, 60, 27, 42, 180, 0, 1, 180, 0, 28, 161, 0, 11, 187, 0, 34, 89]
abbrev dktJ12_next_0 : List UInt8 := dkwJ12_next_0 ++ dktJ12_next_1
theorem dksJ12_next_0 : cJ12_next.data.toList.drop 0 = dktJ12_next_0 := by decide +kernel
theorem dksJ12_next_1 : cJ12_next.data.toList.drop 24 = dktJ12_next_1 := dk_seg dksJ12_next_0 24 rfl rfl
theorem dksJ12_next_2 : cJ12_next.data.toList.drop 46 = dktJ12_next_2 := dk_seg dksJ12_next_1 22 rfl rfl
theorem dJ12_next_0 : decode cJ12_next 0 = .ok (.aload_n 0, 1) := dk_42 (dk_at dksJ12_next_0 0 rfl rfl)
theorem dJ12_next_1 : decode cJ12_next 1 = .ok (.invokevirtual 31, 3) := dk_182 0 31 (dk_at dksJ12_next_0 1 rfl rfl)
theorem dJ12_next_4 : decode cJ12_next 4 = .ok (.aload_n 0, 1) := dk_42 (dk_at dksJ12_next_0 4 rfl rfl)
theorem dJ12_next_5 : decode cJ12_next 5 = .ok (.getfield 25, 3) := dk_180 0 25 (dk_at dksJ12_next_0 5 rfl rfl)
theorem dJ12_next_8 : decode cJ12_next 8 = .ok (.istore_n 1, 1) := dk_60 (dk_at dksJ12_next_0 8 rfl rfl)
theorem dJ12_next_9 : decode cJ12_next 9 = .ok (.iload_n 1, 1) := dk_27 (dk_at dksJ12_next_0 9 rfl rfl)
theorem dJ12_next_10 : decode cJ12_next 10 = .ok (.aload_n 0, 1) := dk_42 (dk_at dksJ12_next_0 10 rfl rfl)
theorem dJ12_next_11 : decode cJ12_next 11 = .ok (.getfield 1, 3) := dk_180 0 1 (dk_at dksJ12_next_0 11 rfl rfl)
theorem dJ12_next_14 : decode cJ12_next 14 = .ok (.getfield 28, 3) := dk_180 0 28 (dk_at dksJ12_next_0 14 rfl rfl)
theorem dJ12_next_17 : decode cJ12_next 17 = .ok (.if_icmp .lt 11, 3) := dk_161 0 11 (dk_at dksJ12_next_0 17 rfl rfl)
theorem dJ12_next_20 : decode cJ12_next 20 = .ok (.new 34, 3) := dk_187 0 34 (dk_at dksJ12_next_0 20 rfl rfl)
theorem dJ12_next_23 : decode cJ12_next 23 = .ok (.dup, 1) := dk_89 (dk_at dksJ12_next_0 23 rfl rfl)
theorem dJ12_next_24 : decode cJ12_next 24 = .ok (.invokespecial 36, 3) := dk_183 0 36 (dk_at dksJ12_next_1 0 rfl rfl)
theorem dJ12_next_27 : decode cJ12_next 27 = .ok (.athrow, 1) := dk_191 (dk_at dksJ12_next_1 3 rfl rfl)
theorem dJ12_next_28 : decode cJ12_next 28 = .ok (.aload_n 0, 1) := dk_42 (dk_at dksJ12_next_1 4 rfl rfl)
theorem dJ12_next_29 : decode cJ12_next 29 = .ok (.getfield 1, 3) := dk_180 0 1 (dk_at dksJ12_next_1 5 rfl rfl)
theorem dJ12_next_32 : decode cJ12_next 32 = .ok (.getfield 37, 3) := dk_180 0 37 (dk_at dksJ12_next_1 8 rfl rfl)
theorem dJ12_next_35 : decode cJ12_next 35 = .ok (.astore_n 2, 1) := dk_77 (dk_at dksJ12_next_1 11 rfl rfl)
theorem dJ12_next_36 : decode cJ12_next 36 = .ok (.iload_n 1, 1) := dk_27 (dk_at dksJ12_next_1 12 rfl rfl)
theorem dJ12_next_37 : decode cJ12_next 37 = .ok (.aload_n 2, 1) := dk_44 (dk_at dksJ12_next_1 13 rfl rfl)
theorem dJ12_next_38 : decode cJ12_next 38 = .ok (.arraylength, 1) := dk_190 (dk_at dksJ12_next_1 14 rfl rfl)
theorem dJ12_next_39 : decode cJ12_next 39 = .ok (.if_icmp .lt 11, 3) := dk_161 0 11 (dk_at dksJ12_next_1 15 rfl rfl)
theorem dJ12_next_42 : decode cJ12_next 42 = .ok (.new 41, 3) := dk_187 0 41 (dk_at dksJ12_next_1 18 rfl rfl)
theorem dJ12_next_45 : decode cJ12_next 45 = .ok (.dup, 1) := dk_89 (dk_at dksJ12_next_1 21 rfl rfl)
theorem dJ12_next_46 : decode cJ12_next 46 = .ok (.invokespecial 43, 3) := dk_183 0 43 (dk_at dksJ12_next_2 0 rfl rfl)
theorem dJ12_next_49 : decode cJ12_next 49 = .ok (.athrow, 1) := dk_191 (dk_at dksJ12_next_2 3 rfl rfl)
theorem dJ12_next_50 : decode cJ12_next 50 = .ok (.aload_n 0, 1) := dk_42 (dk_at dksJ12_next_2 4 rfl rfl)
theorem dJ12_next_51 : decode cJ12_next 51 = .ok (.iload_n 1, 1) := dk_27 (dk_at dksJ12_next_2 5 rfl rfl)
theorem dJ12_next_52 : decode cJ12_next 52 = .ok (.iconst 1, 1) := dk_4 (dk_at dksJ12_next_2 6 rfl rfl)
theorem dJ12_next_53 : decode cJ12_next 53 = .ok (.iadd, 1) := dk_96 (dk_at dksJ12_next_2 7 rfl rfl)
theorem dJ12_next_54 : decode cJ12_next 54 = .ok (.putfield 25, 3) := dk_181 0 25 (dk_at dksJ12_next_2 8 rfl rfl)
theorem dJ12_next_57 : decode cJ12_next 57 = .ok (.aload_n 2, 1) := dk_44 (dk_at dksJ12_next_2 11 rfl rfl)
theorem dJ12_next_58 : decode cJ12_next 58 = .ok (.aload_n 0, 1) := dk_42 (dk_at dksJ12_next_2 12 rfl rfl)
theorem dJ12_next_59 : decode cJ12_next 59 = .ok (.iload_n 1, 1) := dk_27 (dk_at dksJ12_next_2 13 rfl rfl)
theorem dJ12_next_60 : decode cJ12_next 60 = .ok (.dup_x1, 1) := dk_90 (dk_at dksJ12_next_2 14 rfl rfl)
theorem dJ12_next_61 : decode cJ12_next 61 = .ok (.putfield 13, 3) := dk_181 0 13 (dk_at dksJ12_next_2 15 rfl rfl)
theorem dJ12_next_64 : decode cJ12_next 64 = .ok (.aaload, 1) := dk_50 (dk_at dksJ12_next_2 18 rfl rfl)
theorem dJ12_next_65 : decode cJ12_next 65 = .ok (.areturn, 1) := dk_176 (dk_at dksJ12_next_2 19 rfl rfl)
theorem q393 : (Jvm.Cond.fieldLink "java/util/ArrayList$Itr" (1 : Nat) "java/util/ArrayList$Itr" "this$0" "Ljava/util/ArrayList;") ∈ lw_all := lw_g (lw_at lw_m2 93 rfl) rfl
theorem q389 : (Jvm.Cond.methodLink "java/util/ArrayList$Itr" (7 : Nat) ({ cls := "java/lang/Object", name := "<init>", desc := "()V" } : Jvm.MethodName)) ∈ lw_all := lw_g (lw_at lw_m2 89 rfl) rfl
theorem q391 : (Jvm.Cond.fieldLink "java/util/ArrayList$Itr" (13 : Nat) "java/util/ArrayList$Itr" "lastRet" "I") ∈ lw_all := lw_g (lw_at lw_m2 91 rfl) rfl
theorem q232 : (Jvm.Cond.fieldLink "java/util/ArrayList$Itr" (17 : Nat) "java/util/ArrayList" "modCount" "I") ∈ lw_all := lw_g (lw_at lw_m1 172 rfl) rfl
theorem q392 : (Jvm.Cond.fieldLink "java/util/ArrayList$Itr" (22 : Nat) "java/util/ArrayList$Itr" "expectedModCount" "I") ∈ lw_all := lw_g (lw_at lw_m2 92 rfl) rfl
theorem q385 : (Jvm.Cond.instantiable "java/util/ArrayList$Itr" (4 : Nat)) ∈ lw_all := lw_g (lw_at lw_m2 85 rfl) rfl
theorem q83 : (Jvm.Cond.initialized "java/util/ArrayList$Itr") ∈ lw_all := lw_g (lw_at lw_m1 23 rfl) rfl
theorem q384 : (Jvm.Cond.classLink "java/util/ArrayList" (267 : Nat) "java/util/ArrayList$Itr") ∈ lw_all := lw_g (lw_at lw_m2 84 rfl) rfl
theorem q386 : (Jvm.Cond.methodLink "java/util/ArrayList" (269 : Nat) ({ cls := "java/util/ArrayList$Itr", name := "<init>", desc := "(Ljava/util/ArrayList;)V" } : Jvm.MethodName)) ∈ lw_all := lw_g (lw_at lw_m2 86 rfl) rfl
theorem q388 : (Jvm.Cond.code ({ cls := "java/util/ArrayList$Itr", name := "<init>", desc := "(Ljava/util/ArrayList;)V" } : Jvm.MethodName) prog_53_method_1_code (2 : Nat) (Option.none : Option Jvm.ClassFile.FieldType)) ∈ lw_all := lw_g (lw_at lw_m2 88 rfl) rfl
theorem q387 : (Jvm.Cond.instanceMethod ({ cls := "java/util/ArrayList$Itr", name := "<init>", desc := "(Ljava/util/ArrayList;)V" } : Jvm.MethodName)) ∈ lw_all := lw_g (lw_at lw_m2 87 rfl) rfl
theorem q390 : (Jvm.Cond.fieldLink "java/util/ArrayList$Itr" (25 : Nat) "java/util/ArrayList$Itr" "cursor" "I") ∈ lw_all := lw_g (lw_at lw_m2 90 rfl) rfl
theorem q229 : (Jvm.Cond.fieldLinkNest "java/util/ArrayList$Itr" (28 : Nat) "java/util/ArrayList" "size" "I" "java/util/ArrayList") ∈ lw_tbl := lw_at lw_m1 169 rfl
theorem q428 : (Jvm.Cond.methodLink "java/util/ArrayList$Itr" (31 : Nat) ({ cls := "java/util/ArrayList$Itr", name := "checkForComodification", desc := "()V" } : Jvm.MethodName)) ∈ lw_all := lw_g (lw_at lw_m2 128 rfl) rfl
theorem q431 : (Jvm.Cond.code ({ cls := "java/util/ArrayList$Itr", name := "checkForComodification", desc := "()V" } : Jvm.MethodName) prog_53_method_6_code (1 : Nat) (Option.none : Option Jvm.ClassFile.FieldType)) ∈ lw_all := lw_g (lw_at lw_m2 131 rfl) rfl
theorem q429 : (Jvm.Cond.instanceMethod ({ cls := "java/util/ArrayList$Itr", name := "checkForComodification", desc := "()V" } : Jvm.MethodName)) ∈ lw_all := lw_g (lw_at lw_m2 129 rfl) rfl
theorem q430 : (Jvm.Cond.selects "java/util/ArrayList$Itr" ({ cls := "java/util/ArrayList$Itr", name := "checkForComodification", desc := "()V" } : Jvm.MethodName) ({ cls := "java/util/ArrayList$Itr", name := "checkForComodification", desc := "()V" } : Jvm.MethodName)) ∈ lw_all := lw_g (lw_at lw_m2 130 rfl) rfl
theorem q228 : (Jvm.Cond.fieldLink "java/util/ArrayList$Itr" (37 : Nat) "java/util/ArrayList" "elementData" "[Ljava/lang/Object;") ∈ lw_all := lw_g (lw_at lw_m1 168 rfl) rfl
theorem al_clear (l : Launch) (G : GE) (h : AH) (a d cap n : Nat) (mc : Int32) (f : Nat → Option Nat) (y0 : AL G h a d cap n mc f) : GM l G yJ2_clear (ws_ yJ2_clear cJ2_clear 4 none) 2 [.ref a] (h) (0) (PQ fun h' => ∃ g, AL G h' a d cap 0 (mc + 1) g ∧ KeepA h h' a d) := by
  refine GM.of (by decide) (dk rfl) ?_
  intro X eL eG eh ok fn
  subst eL; subst eG
  show GW X _ 0 0 [some (.ref a), none, none, none] []
  have ra := AL.rd ok.tab y0
  obtain ⟨rl, rc, rn, rs⟩ := id y0
  by_cases hn0 : n = 0
  · subst hn0
    refine g_aload_n ok dJ2_clear_0 rfl ?_
    refine g_dup ok dJ2_clear_1 rfl ?_
    refine g_get ok ck_J2 0 q234 (Or.inr q233) (by decide) dJ2_clear_2 (Rd.h (rl)) rfl ?_
    refine g_iconst ok (v := 1) dJ2_clear_5 rfl ?_
    refine g_iadd ok dJ2_clear_6 ?_
    refine g_put ok ck_J2 0 q234 (Or.inr q233) (by decide) rfl dJ2_clear_7 (rl) (dl rfl) rfl rfl (fs1 := [.int (mc + 1), .ref d, .int (nI 0)]) rfl (?_)
    refine g_aload_n ok dJ2_clear_10 rfl ?_
    refine g_get ok ck_J2 1 q227 (Or.inl rfl) (by decide) dJ2_clear_11 (Rd.h (up_self)) rfl ?_
    refine g_astore_n ok dJ2_clear_14 (ls1 := [some (.ref a), some (.ref d), none, none]) (dl rfl) rfl ?_
    refine g_aload_n ok dJ2_clear_15 rfl ?_
    refine g_get ok ck_J2 2 q230 (Or.inl rfl) (by decide) dJ2_clear_16 (Rd.h (up_self)) rfl ?_
    refine g_istore_n ok dJ2_clear_19 (ls1 := [some (.ref a), some (.ref d), some (.int (nI 0)), none]) (dl rfl) rfl ?_
    refine g_aload_n ok dJ2_clear_20 rfl ?_
    refine g_iconst ok (v := 0) dJ2_clear_21 rfl ?_
    refine g_dup_x1 ok dJ2_clear_22 rfl rfl ?_
    refine g_put ok ck_J2 2 q230 (Or.inl rfl) (by decide) rfl dJ2_clear_23 (up_self) (dl rfl) rfl rfl (fs1 := [.int (mc + 1), .ref d, .int 0]) rfl (?_)
    refine g_istore_n ok dJ2_clear_26 (ls1 := [some (.ref a), some (.ref d), some (.int (nI 0)), some (.int 0)]) (dl rfl) rfl ?_
    refine g_iload_n ok dJ2_clear_27 rfl ?_
    refine g_iload_n ok dJ2_clear_28 rfl ?_
    refine g_icmp_ge ok (tgt := 42) dJ2_clear_29 (by decide) (fun _ => ?_) (fun c_ => absurd (nI_le (a := 0) (b := 0) (by omega) (by omega)) c_)
    exact g_vret ok fn rfl dJ2_clear_42 ⟨rfl, f, by rw [up_up]; exact y0.upA (Nat.zero_le _), fun q y z1 z2 z3 => by simp only [up_ne z1]; exact z3⟩ (by omega)
  · have rc2 : 0 < cap ∧ h d = some (aR X.G cap f) := rc.elim (fun z => absurd z.1 (by omega)) id
    obtain ⟨c0, c1⟩ := rc2
    have nda : d ≠ a := fun z => by subst z; rw [rl] at c1; cases c1
    refine g_aload_n ok dJ2_clear_0 rfl ?_
    refine g_dup ok dJ2_clear_1 rfl ?_
    refine g_get ok ck_J2 0 q234 (Or.inr q233) (by decide) dJ2_clear_2 (Rd.h (rl)) rfl ?_
    refine g_iconst ok (v := 1) dJ2_clear_5 rfl ?_
    refine g_iadd ok dJ2_clear_6 ?_
    refine g_put ok ck_J2 0 q234 (Or.inr q233) (by decide) rfl dJ2_clear_7 (rl) (dl rfl) rfl rfl (fs1 := [.int (mc + 1), .ref d, .int (nI n)]) rfl (?_)
    refine g_aload_n ok dJ2_clear_10 rfl ?_
    refine g_get ok ck_J2 1 q227 (Or.inl rfl) (by decide) dJ2_clear_11 (Rd.h (up_self)) rfl ?_
    refine g_astore_n ok dJ2_clear_14 (ls1 := [some (.ref a), some (.ref d), none, none]) (dl rfl) rfl ?_
    refine g_aload_n ok dJ2_clear_15 rfl ?_
    refine g_get ok ck_J2 2 q230 (Or.inl rfl) (by decide) dJ2_clear_16 (Rd.h (up_self)) rfl ?_
    refine g_istore_n ok dJ2_clear_19 (ls1 := [some (.ref a), some (.ref d), some (.int (nI n)), none]) (dl rfl) rfl ?_
    refine g_aload_n ok dJ2_clear_20 rfl ?_
    refine g_iconst ok (v := 0) dJ2_clear_21 rfl ?_
    refine g_dup_x1 ok dJ2_clear_22 rfl rfl ?_
    refine g_put ok ck_J2 2 q230 (Or.inl rfl) (by decide) rfl dJ2_clear_23 (up_self) (dl rfl) rfl rfl (fs1 := [.int (mc + 1), .ref d, .int 0]) rfl (?_)
    refine g_istore_n ok dJ2_clear_26 (ls1 := [some (.ref a), some (.ref d), some (.int (nI n)), some (.int 0)]) (dl rfl) rfl ?_
    have lp : ∀ (k : Nat) (j : Nat) (g : Nat → Option Nat) (H : AH), (j + k = n) → (H a = some (ob 12 [.int (mc + 1), .ref d, .int (nI 0)])) → (H d = some (aR X.G cap g)) → (KeepA h H a d) → GW X H 0 27 [some (.ref a), some (.ref d), some (.int (nI n)), some (.int (nI j))] [] := by
      intro k
      induction k with
      | zero =>
        intro j g H g0 g1 g2 g3
        refine g_iload_n ok dJ2_clear_27 rfl ?_
        refine g_iload_n ok dJ2_clear_28 rfl ?_
        refine g_icmp_ge ok (tgt := 42) dJ2_clear_29 (by decide) (fun _ => ?_) (fun c_ => absurd (nI_le (a := n) (b := j) (by omega) (by omega)) c_)
        exact g_vret ok fn rfl dJ2_clear_42 ⟨rfl, g, ⟨g1, Or.inr ⟨c0, g2⟩, Nat.zero_le _, rs⟩, g3⟩ (by omega)
      | succ k ih =>
        intro j g H g0 g1 g2 g3
        refine g_iload_n ok dJ2_clear_27 rfl ?_
        refine g_iload_n ok dJ2_clear_28 rfl ?_
        refine g_icmp_ge ok (tgt := 42) dJ2_clear_29 (by decide) (fun c_ => absurd c_ (nI_ge (a := j) (b := n) (by omega) (by omega))) (fun _ => ?_)
        refine g_aload_n ok dJ2_clear_32 rfl ?_
        refine g_iload_n ok dJ2_clear_33 rfl ?_
        refine g_null ok dJ2_clear_34 ?_
        refine g_aastN ok (j := j) dJ2_clear_35 (g2) rfl (by omega) (by omega) ?_
        refine g_iincN ok dJ2_clear_36 (c := j) rfl rfl (ls1 := [some (.ref a), some (.ref d), some (.int (nI n)), some (.int (nI (j + 1)))]) rfl ?_
        refine g_goto ok dJ2_clear_39 (tgt := 27) (by decide) ?_
        exact ih _ _ _ (by omega) ((up_ne (Ne.symm nda)).trans (g1)) (up_self) (fun q y z1 z2 z3 => by rw [up_ne z2]; exact g3 q y z1 z2 z3)
    exact lp n 0 f _ (by omega) (up_self) ((up_ne nda).trans ((up_ne nda).trans (c1))) (fun q y z1 z2 z3 => by simp only [up_ne z1]; exact z3)
/-- an iterator at t, at place c of the list at a -/
def IT (h : AH) (t a c : Nat) (lr mc : Int32) : Prop := h t = some (ob 13 [.int (nI c), .int lr, .int mc, .ref a])
theorem it_init (l : Launch) (G : GE) (h : AH) (a d cap n : Nat) (mc : Int32) (f : Nat → Option Nat) (y0 : AL G h a d cap n mc f) (t : Nat) (rt : h t = some (ob 13 [.int 0, .int 0, .int 0, .null])) : GM l G yJ12_init (ws_ yJ12_init cJ12_init 2 none) 2 [.ref t, .ref a] (h) (0) (PN (up h t (ob 13 [.int 0, .int (-1), .int mc, .ref a]))) := by
  refine GM.of (by decide) (dk rfl) ?_
  intro X eL eG eh ok fn
  subst eL; subst eG
  show GW X _ 0 0 [some (.ref t), some (.ref a)] []
  have ra := AL.rd ok.tab y0
  obtain ⟨rl, rc, rn, rs⟩ := id y0
  have nta : t ≠ a := fun z => by subst z; rw [rl] at rt; cases rt
  refine g_aload_n ok dJ12_init_0 rfl ?_
  refine g_aload_n ok dJ12_init_1 rfl ?_
  refine g_putF ok ck_J12 3 q393 rfl (by decide) rfl rfl rfl dJ12_init_2 (rt) (dl rfl) rfl rfl (fs1 := [.int 0, .int 0, .int 0, .ref a]) rfl (?_)
  refine g_aload_n ok dJ12_init_5 rfl ?_
  refine g_objInit ok q389 q121 q122 dJ12_init_6 (dk rfl) rfl (dk rfl) ?_
  refine g_aload_n ok dJ12_init_9 rfl ?_
  refine g_iconst ok (v := -1) dJ12_init_10 rfl ?_
  refine g_put ok ck_J12 1 q391 (Or.inl rfl) (by decide) rfl dJ12_init_11 (up_self) (dl rfl) rfl rfl (fs1 := [.int 0, .int (-1), .int 0, .ref a]) rfl (?_)
  refine g_aload_n ok dJ12_init_14 rfl ?_
  refine g_aload_n ok dJ12_init_15 rfl ?_
  refine g_get ok ck_J12 3 q393 (Or.inl rfl) (by decide) dJ12_init_16 (Rd.h (up_self)) rfl ?_
  refine g_get ok ck_J2 0 q232 (Or.inr q233) (by decide) dJ12_init_19 (Rd.h ((up_ne (Ne.symm nta)).trans ((up_ne (Ne.symm nta)).trans (rl)))) rfl ?_
  refine g_put ok ck_J12 2 q392 (Or.inl rfl) (by decide) rfl dJ12_init_22 (up_self) (dl rfl) rfl rfl (fs1 := [.int 0, .int (-1), .int mc, .ref a]) rfl (?_)
  exact g_vret ok fn rfl dJ12_init_25 ⟨rfl, by simp only [up_up]⟩ (by omega)
theorem AL.upN {G : GE} {h : AH} {a d cap n t : Nat} {mc : Int32} {f : Nat → Option Nat} {e : va_E} (x : AL G h a d cap n mc f) (ht : h t = none) : AL G (up h t e) a d cap n mc f := by
  obtain ⟨h1, h2, h3⟩ := x
  have n1 : a ≠ t := fun z => by subst z; rw [h1] at ht; cases ht
  refine ⟨(up_ne n1).trans h1, h2.elim Or.inl fun z => Or.inr ⟨z.1, ?_⟩, h3⟩
  have n2 : d ≠ t := fun w => by subst w; rw [z.2] at ht; cases ht
  exact (up_ne n2).trans z.2
theorem al_iter (l : Launch) (G : GE) (h : AH) (a d cap n : Nat) (mc : Int32) (f : Nat → Option Nat) (y0 : AL G h a d cap n mc f) : GM l G yJ2_iterator (ws_ yJ2_iterator cJ2_iterator 1 (some (.object "java/util/Iterator"))) 3 [.ref a] (h) (5) (PR fun v h' => ∃ t, v = .ref t ∧ h t = none ∧ G.kh t = none ∧ h' = up h t (ob 13 [.int 0, .int (-1), .int mc, .ref a])) := by
  refine GM.of (by decide) (dk rfl) ?_
  intro X eL eG eh ok fn
  subst eL; subst eG
  show GW X _ 0 0 [some (.ref a)] []
  have ra := AL.rd ok.tab y0
  obtain ⟨rl, rc, rn, rs⟩ := id y0
  refine g_new ok ck_J12 q384 q385 q83 dJ2_iterator_0 (fs := [.int 0, .int 0, .int 0, .null]) (by intro j hj; rcases (by omega : j = 0 ∨ j = 1 ∨ j = 2 ∨ j = 3) with rfl | rfl | rfl | rfl <;> rfl) (by omega) (fun t hat hkt h0t => ?_)
  have ne0 := Rd.ne (Rd.h (rl)) hat hkt
  have y1 : AL X.G (up h t (ob 13 [.int 0, .int 0, .int 0, .null])) a d cap n mc f := y0.upN hat
  refine g_dup ok dJ2_iterator_3 rfl ?_
  refine g_aload_n ok dJ2_iterator_4 rfl ?_
  refine g_callI ok q386 q387 q83 q388 rfl dJ2_iterator_5 (it_init X.l X.G _ a d cap n mc f y1 t up_self) (nm_ (by decide : nmb _ 1 = true)) (dl rfl) (dk rfl) rfl rfl (dk rfl) (by omega) (kN ?_) xN
  exact g_aret ok fn rfl (Or.inl ⟨_, rfl⟩) (Or.inr ⟨_, rfl⟩) dJ2_iterator_8 ⟨_, rfl, t, rfl, hat, hkt, up_up⟩ (by omega)
theorem it_has (l : Launch) (G : GE) (h : AH) (a d cap n : Nat) (mc : Int32) (f : Nat → Option Nat) (y0 : AL G h a d cap n mc f) (t c : Nat) (lr : Int32) (y1 : IT h t a c lr mc) (hc : c ≤ n) : GM l G yJ12_hasNext (ws_ yJ12_hasNext cJ12_hasNext 1 (some .boolean)) 1 [.ref t] (h) (0) (PV (.int (bI (decide (c ≠ n)))) h) := by
  refine GM.of (by decide) (dk rfl) ?_
  intro X eL eG eh ok fn
  subst eL; subst eG
  show GW X _ 0 0 [some (.ref t)] []
  have ra := AL.rd ok.tab y0
  obtain ⟨rl, rc, rn, rs⟩ := id y0
  have rt : h t = some (ob 13 [.int (nI c), .int lr, .int mc, .ref a]) := y1
  have nta : t ≠ a := fun z => by subst z; rw [rl] at rt; cases rt
  refine g_aload_n ok dJ12_hasNext_0 rfl ?_
  refine g_get ok ck_J12 0 q390 (Or.inl rfl) (by decide) dJ12_hasNext_1 (Rd.h (rt)) rfl ?_
  refine g_aload_n ok dJ12_hasNext_4 rfl ?_
  refine g_get ok ck_J12 3 q393 (Or.inl rfl) (by decide) dJ12_hasNext_5 (Rd.h (rt)) rfl ?_
  refine g_getN ok ck_J2 2 q229 rfl (by decide) dJ12_hasNext_8 (Rd.h (rl)) rfl ?_
  by_cases hcn : c = n
  · refine g_icmp_eq ok (tgt := 18) dJ12_hasNext_11 (by decide) (fun _ => ?_) (fun c => absurd (congrArg nI hcn) c)
    refine g_iconst ok (v := 0) dJ12_hasNext_18 rfl ?_
    exact g_zret ok fn rfl rfl dJ12_hasNext_19 (pv_h (by rw [decide_eq_false (fun z => z hcn)]; rfl)) (by omega)
  · refine g_icmp_eq ok (tgt := 18) dJ12_hasNext_11 (by decide) (fun c_ => absurd c_ (fun e_ => by have := (nI_eq (a := c) (b := n) (by omega) (by omega)).mp e_; omega)) (fun _ => ?_)
    refine g_iconst ok (v := 1) dJ12_hasNext_14 rfl ?_
    refine g_goto ok dJ12_hasNext_15 (tgt := 19) (by decide) ?_
    exact g_zret ok fn rfl rfl dJ12_hasNext_19 (pv_h (by rw [decide_eq_true hcn]; rfl)) (by omega)
theorem it_chk (l : Launch) (G : GE) (h : AH) (a d cap n : Nat) (mc : Int32) (f : Nat → Option Nat) (y0 : AL G h a d cap n mc f) (t c : Nat) (lr : Int32) (y1 : IT h t a c lr mc) : GM l G yJ12_checkForComodification (ws_ yJ12_checkForComodification cJ12_checkForComodification 1 none) 1 [.ref t] (h) (0) (PN h) := by
  refine GM.of (by decide) (dk rfl) ?_
  intro X eL eG eh ok fn
  subst eL; subst eG
  show GW X _ 0 0 [some (.ref t)] []
  have ra := AL.rd ok.tab y0
  obtain ⟨rl, rc, rn, rs⟩ := id y0
  have rt : h t = some (ob 13 [.int (nI c), .int lr, .int mc, .ref a]) := y1
  have nta : t ≠ a := fun z => by subst z; rw [rl] at rt; cases rt
  refine g_aload_n ok dJ12_checkForComodification_0 rfl ?_
  refine g_get ok ck_J12 3 q393 (Or.inl rfl) (by decide) dJ12_checkForComodification_1 (Rd.h (rt)) rfl ?_
  refine g_get ok ck_J2 0 q232 (Or.inr q233) (by decide) dJ12_checkForComodification_4 (Rd.h (rl)) rfl ?_
  refine g_aload_n ok dJ12_checkForComodification_7 rfl ?_
  refine g_get ok ck_J12 2 q392 (Or.inl rfl) (by decide) dJ12_checkForComodification_8 (Rd.h (rt)) rfl ?_
  refine g_icmp_eq ok (tgt := 22) dJ12_checkForComodification_11 (by decide) (fun _ => ?_) (fun c => absurd rfl c)
  exact g_vret ok fn rfl dJ12_checkForComodification_22 ⟨rfl, rfl⟩ (by omega)
theorem it_next (l : Launch) (G : GE) (h : AH) (a d cap n : Nat) (mc : Int32) (f : Nat → Option Nat) (y0 : AL G h a d cap n mc f) (t c : Nat) (lr : Int32) (y1 : IT h t a c lr mc) (hc : c < n) (x : Nat) (hx : f c = some x) : GM l G yJ12_next (ws_ yJ12_next cJ12_next 3 (some (.object "java/lang/Object"))) 3 [.ref t] (h) (0) (PV (.ref x) (up h t (ob 13 [.int (nI (c + 1)), .int (nI c), .int mc, .ref a]))) := by
  refine GM.of (by decide) (dk rfl) ?_
  intro X eL eG eh ok fn
  subst eL; subst eG
  show GW X _ 0 0 [some (.ref t), none, none] []
  have ra := AL.rd ok.tab y0
  obtain ⟨rl, rc, rn, rs⟩ := id y0
  have rt : h t = some (ob 13 [.int (nI c), .int lr, .int mc, .ref a]) := y1
  have nta : t ≠ a := fun z => by subst z; rw [rl] at rt; cases rt
  have rc2 : 0 < cap ∧ h d = some (aR X.G cap f) := rc.elim (fun z => absurd z.1 (by omega)) id
  obtain ⟨c0, c1⟩ := rc2
  have ndt : d ≠ t := fun z => by subst z; rw [rt] at c1; cases c1
  refine g_aload_n ok dJ12_next_0 rfl ?_
  refine g_callV ok q428 q429 q430 q83 q431 (Recv.ob ok gc_J12 (Rd.h (rt))) dJ12_next_1 (it_chk X.l X.G _ a d cap n mc f y0 t c lr y1) (nm_ (by decide : nmb _ 0 = true)) (dl rfl) (dk rfl) rfl rfl (dk rfl) (by omega) (kN ?_) xN
  refine g_aload_n ok dJ12_next_4 rfl ?_
  refine g_get ok ck_J12 0 q390 (Or.inl rfl) (by decide) dJ12_next_5 (Rd.h (rt)) rfl ?_
  refine g_istore_n ok dJ12_next_8 (ls1 := [some (.ref t), some (.int (nI c)), none]) (dl rfl) rfl ?_
  refine g_iload_n ok dJ12_next_9 rfl ?_
  refine g_aload_n ok dJ12_next_10 rfl ?_
  refine g_get ok ck_J12 3 q393 (Or.inl rfl) (by decide) dJ12_next_11 (Rd.h (rt)) rfl ?_
  refine g_getN ok ck_J2 2 q229 rfl (by decide) dJ12_next_14 (Rd.h (rl)) rfl ?_
  refine g_icmp_lt ok (tgt := 28) dJ12_next_17 (by decide) (fun _ => ?_) (fun c_ => absurd (nI_lt (a := c) (b := n) (by omega) (by omega)) c_)
  refine g_aload_n ok dJ12_next_28 rfl ?_
  refine g_get ok ck_J12 3 q393 (Or.inl rfl) (by decide) dJ12_next_29 (Rd.h (rt)) rfl ?_
  refine g_get ok ck_J2 1 q228 (Or.inl rfl) (by decide) dJ12_next_32 (Rd.h (rl)) rfl ?_
  refine g_astore_n ok dJ12_next_35 (ls1 := [some (.ref t), some (.int (nI c)), some (.ref d)]) (dl rfl) rfl ?_
  refine g_iload_n ok dJ12_next_36 rfl ?_
  refine g_aload_n ok dJ12_next_37 rfl ?_
  refine g_alen ok dJ12_next_38 (Rd.h (c1)) (gt_r _) ?_
  refine g_icmp_lt ok (tgt := 50) dJ12_next_39 (by decide) (fun _ => ?_) (fun c_ => absurd (nI_lt (a := c) (b := cap) (by omega) (by omega)) c_)
  refine g_aload_n ok dJ12_next_50 rfl ?_
  refine g_iload_n ok dJ12_next_51 rfl ?_
  refine g_iconst ok (v := 1) dJ12_next_52 rfl ?_
  refine g_iaddN ok dJ12_next_53 (c := (c + 1)) (a := c) (b := 1) rfl rfl rfl ?_
  refine g_put ok ck_J12 0 q390 (Or.inl rfl) (by decide) rfl dJ12_next_54 (rt) (dl rfl) rfl rfl (fs1 := [.int (nI (c + 1)), .int lr, .int mc, .ref a]) rfl (?_)
  refine g_aload_n ok dJ12_next_57 rfl ?_
  refine g_aload_n ok dJ12_next_58 rfl ?_
  refine g_iload_n ok dJ12_next_59 rfl ?_
  refine g_dup_x1 ok dJ12_next_60 rfl rfl ?_
  refine g_put ok ck_J12 1 q391 (Or.inl rfl) (by decide) rfl dJ12_next_61 (up_self) (dl rfl) rfl rfl (fs1 := [.int (nI (c + 1)), .int (nI c), .int mc, .ref a]) rfl (?_)
  refine g_aald ok (j := c) dJ12_next_64 (Rd.h ((up_ne ndt).trans ((up_ne ndt).trans (c1)))) rfl (by omega) (by omega) ?_
  rw [hx]
  show GW X _ _ _ _ [.ref x]
  exact g_aret ok fn rfl (Or.inl ⟨_, rfl⟩) (Or.inr ⟨_, rfl⟩) dJ12_next_65 ⟨rfl, up_up⟩ (by omega)
