/-! THE JDK's strings -/
set_option maxRecDepth 100000
abbrev cJ5_coder : ByteArray := prog_39_method_152_code
def yJ5_coder : MethodName := ⟨RJ5, "coder", "()B"⟩
def dkwJ5_coder_0 : List UInt8 := [178, 0, 38, 153, 0, 10, 42, 180, 0, 15, 167, 0, 4, 4, 172]
abbrev dktJ5_coder_0 : List UInt8 := dkwJ5_coder_0 ++ []
theorem dksJ5_coder_0 : cJ5_coder.data.toList.drop 0 = dktJ5_coder_0 := by decide +kernel
theorem dJ5_coder_0 : decode cJ5_coder 0 = .ok (.getstatic 38, 3) := dk_178 0 38 (dk_at dksJ5_coder_0 0 rfl rfl)
theorem dJ5_coder_3 : decode cJ5_coder 3 = .ok (.ifCond .eq 10, 3) := dk_153 0 10 (dk_at dksJ5_coder_0 3 rfl rfl)
theorem dJ5_coder_6 : decode cJ5_coder 6 = .ok (.aload_n 0, 1) := dk_42 (dk_at dksJ5_coder_0 6 rfl rfl)
theorem dJ5_coder_7 : decode cJ5_coder 7 = .ok (.getfield 15, 3) := dk_180 0 15 (dk_at dksJ5_coder_0 7 rfl rfl)
theorem dJ5_coder_10 : decode cJ5_coder 10 = .ok (.goto 4, 3) := dk_167 0 4 (dk_at dksJ5_coder_0 10 rfl rfl)
theorem dJ5_coder_13 : decode cJ5_coder 13 = .ok (.iconst 1, 1) := dk_4 (dk_at dksJ5_coder_0 13 rfl rfl)
theorem dJ5_coder_14 : decode cJ5_coder 14 = .ok (.ireturn, 1) := dk_172 (dk_at dksJ5_coder_0 14 rfl rfl)
abbrev cJ5_isLatin1 : ByteArray := prog_39_method_154_code
def yJ5_isLatin1 : MethodName := ⟨RJ5, "isLatin1", "()Z"⟩
def dkwJ5_isLatin1_0 : List UInt8 := [178, 0, 38, 153, 0, 14, 42, 180, 0, 15, 154, 0, 7, 4, 167, 0, 4, 3, 172]
abbrev dktJ5_isLatin1_0 : List UInt8 := dkwJ5_isLatin1_0 ++ []
theorem dksJ5_isLatin1_0 : cJ5_isLatin1.data.toList.drop 0 = dktJ5_isLatin1_0 := by decide +kernel
theorem dJ5_isLatin1_0 : decode cJ5_isLatin1 0 = .ok (.getstatic 38, 3) := dk_178 0 38 (dk_at dksJ5_isLatin1_0 0 rfl rfl)
theorem dJ5_isLatin1_3 : decode cJ5_isLatin1 3 = .ok (.ifCond .eq 14, 3) := dk_153 0 14 (dk_at dksJ5_isLatin1_0 3 rfl rfl)
theorem dJ5_isLatin1_6 : decode cJ5_isLatin1 6 = .ok (.aload_n 0, 1) := dk_42 (dk_at dksJ5_isLatin1_0 6 rfl rfl)
theorem dJ5_isLatin1_7 : decode cJ5_isLatin1 7 = .ok (.getfield 15, 3) := dk_180 0 15 (dk_at dksJ5_isLatin1_0 7 rfl rfl)
theorem dJ5_isLatin1_10 : decode cJ5_isLatin1 10 = .ok (.ifCond .ne 7, 3) := dk_154 0 7 (dk_at dksJ5_isLatin1_0 10 rfl rfl)
theorem dJ5_isLatin1_13 : decode cJ5_isLatin1 13 = .ok (.iconst 1, 1) := dk_4 (dk_at dksJ5_isLatin1_0 13 rfl rfl)
theorem dJ5_isLatin1_14 : decode cJ5_isLatin1 14 = .ok (.goto 4, 3) := dk_167 0 4 (dk_at dksJ5_isLatin1_0 14 rfl rfl)
theorem dJ5_isLatin1_17 : decode cJ5_isLatin1 17 = .ok (.iconst 0, 1) := dk_3 (dk_at dksJ5_isLatin1_0 17 rfl rfl)
theorem dJ5_isLatin1_18 : decode cJ5_isLatin1 18 = .ok (.ireturn, 1) := dk_172 (dk_at dksJ5_isLatin1_0 18 rfl rfl)
abbrev cJ5_length : ByteArray := prog_39_method_54_code
def yJ5_length : MethodName := ⟨RJ5, "length", "()I"⟩
def dkwJ5_length_0 : List UInt8 := [42, 180, 0, 9, 190, 42, 182, 1, 79, 122, 172]
abbrev dktJ5_length_0 : List UInt8 := dkwJ5_length_0 ++ []
theorem dksJ5_length_0 : cJ5_length.data.toList.drop 0 = dktJ5_length_0 := by decide +kernel
theorem dJ5_length_0 : decode cJ5_length 0 = .ok (.aload_n 0, 1) := dk_42 (dk_at dksJ5_length_0 0 rfl rfl)
theorem dJ5_length_1 : decode cJ5_length 1 = .ok (.getfield 9, 3) := dk_180 0 9 (dk_at dksJ5_length_0 1 rfl rfl)
theorem dJ5_length_4 : decode cJ5_length 4 = .ok (.arraylength, 1) := dk_190 (dk_at dksJ5_length_0 4 rfl rfl)
theorem dJ5_length_5 : decode cJ5_length 5 = .ok (.aload_n 0, 1) := dk_42 (dk_at dksJ5_length_0 5 rfl rfl)
theorem dJ5_length_6 : decode cJ5_length 6 = .ok (.invokevirtual 335, 3) := dk_182 1 79 (dk_at dksJ5_length_0 6 rfl rfl)
theorem dJ5_length_9 : decode cJ5_length 9 = .ok (.ishr, 1) := dk_122 (dk_at dksJ5_length_0 9 rfl rfl)
theorem dJ5_length_10 : decode cJ5_length 10 = .ok (.ireturn, 1) := dk_172 (dk_at dksJ5_length_0 10 rfl rfl)
abbrev cJ15_checkIndex : ByteArray := prog_73_method_11_code
def yJ15_checkIndex : MethodName := ⟨RJ15, "checkIndex", "(IILjava/util/function/BiFunction;)I"⟩
def dkwJ15_checkIndex_0 : List UInt8 := [26, 155, 0, 8, 26, 27, 161, 0, 10, 44, 26, 27, 184, 0, 95, 191, 26, 172]
abbrev dktJ15_checkIndex_0 : List UInt8 := dkwJ15_checkIndex_0 ++ []
theorem dksJ15_checkIndex_0 : cJ15_checkIndex.data.toList.drop 0 = dktJ15_checkIndex_0 := by decide +kernel
theorem dJ15_checkIndex_0 : decode cJ15_checkIndex 0 = .ok (.iload_n 0, 1) := dk_26 (dk_at dksJ15_checkIndex_0 0 rfl rfl)
theorem dJ15_checkIndex_1 : decode cJ15_checkIndex 1 = .ok (.ifCond .lt 8, 3) := dk_155 0 8 (dk_at dksJ15_checkIndex_0 1 rfl rfl)
theorem dJ15_checkIndex_4 : decode cJ15_checkIndex 4 = .ok (.iload_n 0, 1) := dk_26 (dk_at dksJ15_checkIndex_0 4 rfl rfl)
theorem dJ15_checkIndex_5 : decode cJ15_checkIndex 5 = .ok (.iload_n 1, 1) := dk_27 (dk_at dksJ15_checkIndex_0 5 rfl rfl)
theorem dJ15_checkIndex_6 : decode cJ15_checkIndex 6 = .ok (.if_icmp .lt 10, 3) := dk_161 0 10 (dk_at dksJ15_checkIndex_0 6 rfl rfl)
theorem dJ15_checkIndex_9 : decode cJ15_checkIndex 9 = .ok (.aload_n 2, 1) := dk_44 (dk_at dksJ15_checkIndex_0 9 rfl rfl)
theorem dJ15_checkIndex_10 : decode cJ15_checkIndex 10 = .ok (.iload_n 0, 1) := dk_26 (dk_at dksJ15_checkIndex_0 10 rfl rfl)
theorem dJ15_checkIndex_11 : decode cJ15_checkIndex 11 = .ok (.iload_n 1, 1) := dk_27 (dk_at dksJ15_checkIndex_0 11 rfl rfl)
theorem dJ15_checkIndex_12 : decode cJ15_checkIndex 12 = .ok (.invokestatic 95, 3) := dk_184 0 95 (dk_at dksJ15_checkIndex_0 12 rfl rfl)
theorem dJ15_checkIndex_15 : decode cJ15_checkIndex 15 = .ok (.athrow, 1) := dk_191 (dk_at dksJ15_checkIndex_0 15 rfl rfl)
theorem dJ15_checkIndex_16 : decode cJ15_checkIndex 16 = .ok (.iload_n 0, 1) := dk_26 (dk_at dksJ15_checkIndex_0 16 rfl rfl)
theorem dJ15_checkIndex_17 : decode cJ15_checkIndex 17 = .ok (.ireturn, 1) := dk_172 (dk_at dksJ15_checkIndex_0 17 rfl rfl)
abbrev cJ15_checkFromToIndex : ByteArray := prog_73_method_12_code
def yJ15_checkFromToIndex : MethodName := ⟨RJ15, "checkFromToIndex", "(IIILjava/util/function/BiFunction;)I"⟩
def dkwJ15_checkFromToIndex_0 : List UInt8 := [26, 155, 0, 13, 26, 27, 163, 0, 8, 27, 28, 164, 0, 11, 45, 26, 27, 28, 184, 0, 99, 191, 26, 172]
abbrev dktJ15_checkFromToIndex_0 : List UInt8 := dkwJ15_checkFromToIndex_0 ++ []
theorem dksJ15_checkFromToIndex_0 : cJ15_checkFromToIndex.data.toList.drop 0 = dktJ15_checkFromToIndex_0 := by decide +kernel
theorem dJ15_checkFromToIndex_0 : decode cJ15_checkFromToIndex 0 = .ok (.iload_n 0, 1) := dk_26 (dk_at dksJ15_checkFromToIndex_0 0 rfl rfl)
theorem dJ15_checkFromToIndex_1 : decode cJ15_checkFromToIndex 1 = .ok (.ifCond .lt 13, 3) := dk_155 0 13 (dk_at dksJ15_checkFromToIndex_0 1 rfl rfl)
theorem dJ15_checkFromToIndex_4 : decode cJ15_checkFromToIndex 4 = .ok (.iload_n 0, 1) := dk_26 (dk_at dksJ15_checkFromToIndex_0 4 rfl rfl)
theorem dJ15_checkFromToIndex_5 : decode cJ15_checkFromToIndex 5 = .ok (.iload_n 1, 1) := dk_27 (dk_at dksJ15_checkFromToIndex_0 5 rfl rfl)
theorem dJ15_checkFromToIndex_6 : decode cJ15_checkFromToIndex 6 = .ok (.if_icmp .gt 8, 3) := dk_163 0 8 (dk_at dksJ15_checkFromToIndex_0 6 rfl rfl)
theorem dJ15_checkFromToIndex_9 : decode cJ15_checkFromToIndex 9 = .ok (.iload_n 1, 1) := dk_27 (dk_at dksJ15_checkFromToIndex_0 9 rfl rfl)
theorem dJ15_checkFromToIndex_10 : decode cJ15_checkFromToIndex 10 = .ok (.iload_n 2, 1) := dk_28 (dk_at dksJ15_checkFromToIndex_0 10 rfl rfl)
theorem dJ15_checkFromToIndex_11 : decode cJ15_checkFromToIndex 11 = .ok (.if_icmp .le 11, 3) := dk_164 0 11 (dk_at dksJ15_checkFromToIndex_0 11 rfl rfl)
theorem dJ15_checkFromToIndex_14 : decode cJ15_checkFromToIndex 14 = .ok (.aload_n 3, 1) := dk_45 (dk_at dksJ15_checkFromToIndex_0 14 rfl rfl)
theorem dJ15_checkFromToIndex_15 : decode cJ15_checkFromToIndex 15 = .ok (.iload_n 0, 1) := dk_26 (dk_at dksJ15_checkFromToIndex_0 15 rfl rfl)
theorem dJ15_checkFromToIndex_16 : decode cJ15_checkFromToIndex 16 = .ok (.iload_n 1, 1) := dk_27 (dk_at dksJ15_checkFromToIndex_0 16 rfl rfl)
theorem dJ15_checkFromToIndex_17 : decode cJ15_checkFromToIndex 17 = .ok (.iload_n 2, 1) := dk_28 (dk_at dksJ15_checkFromToIndex_0 17 rfl rfl)
theorem dJ15_checkFromToIndex_18 : decode cJ15_checkFromToIndex 18 = .ok (.invokestatic 99, 3) := dk_184 0 99 (dk_at dksJ15_checkFromToIndex_0 18 rfl rfl)
theorem dJ15_checkFromToIndex_21 : decode cJ15_checkFromToIndex 21 = .ok (.athrow, 1) := dk_191 (dk_at dksJ15_checkFromToIndex_0 21 rfl rfl)
theorem dJ15_checkFromToIndex_22 : decode cJ15_checkFromToIndex 22 = .ok (.iload_n 0, 1) := dk_26 (dk_at dksJ15_checkFromToIndex_0 22 rfl rfl)
theorem dJ15_checkFromToIndex_23 : decode cJ15_checkFromToIndex 23 = .ok (.ireturn, 1) := dk_172 (dk_at dksJ15_checkFromToIndex_0 23 rfl rfl)
abbrev cJ5_checkIndex : ByteArray := prog_39_method_155_code
def yJ5_checkIndex : MethodName := ⟨RJ5, "checkIndex", "(II)V"⟩
def dkwJ5_checkIndex_0 : List UInt8 := [26, 27, 178, 4, 29, 184, 4, 35, 87, 177]
abbrev dktJ5_checkIndex_0 : List UInt8 := dkwJ5_checkIndex_0 ++ []
theorem dksJ5_checkIndex_0 : cJ5_checkIndex.data.toList.drop 0 = dktJ5_checkIndex_0 := by decide +kernel
theorem dJ5_checkIndex_0 : decode cJ5_checkIndex 0 = .ok (.iload_n 0, 1) := dk_26 (dk_at dksJ5_checkIndex_0 0 rfl rfl)
theorem dJ5_checkIndex_1 : decode cJ5_checkIndex 1 = .ok (.iload_n 1, 1) := dk_27 (dk_at dksJ5_checkIndex_0 1 rfl rfl)
theorem dJ5_checkIndex_2 : decode cJ5_checkIndex 2 = .ok (.getstatic 1053, 3) := dk_178 4 29 (dk_at dksJ5_checkIndex_0 2 rfl rfl)
theorem dJ5_checkIndex_5 : decode cJ5_checkIndex 5 = .ok (.invokestatic 1059, 3) := dk_184 4 35 (dk_at dksJ5_checkIndex_0 5 rfl rfl)
theorem dJ5_checkIndex_8 : decode cJ5_checkIndex 8 = .ok (.pop, 1) := dk_87 (dk_at dksJ5_checkIndex_0 8 rfl rfl)
theorem dJ5_checkIndex_9 : decode cJ5_checkIndex 9 = .ok (.return_, 1) := dk_177 (dk_at dksJ5_checkIndex_0 9 rfl rfl)
abbrev cJ5_checkBoundsBeginEnd : ByteArray := prog_39_method_158_code
def yJ5_checkBoundsBeginEnd : MethodName := ⟨RJ5, "checkBoundsBeginEnd", "(III)V"⟩
def dkwJ5_checkBoundsBeginEnd_0 : List UInt8 := [26, 27, 28, 178, 4, 29, 184, 4, 38, 87, 177]
abbrev dktJ5_checkBoundsBeginEnd_0 : List UInt8 := dkwJ5_checkBoundsBeginEnd_0 ++ []
theorem dksJ5_checkBoundsBeginEnd_0 : cJ5_checkBoundsBeginEnd.data.toList.drop 0 = dktJ5_checkBoundsBeginEnd_0 := by decide +kernel
theorem dJ5_checkBoundsBeginEnd_0 : decode cJ5_checkBoundsBeginEnd 0 = .ok (.iload_n 0, 1) := dk_26 (dk_at dksJ5_checkBoundsBeginEnd_0 0 rfl rfl)
theorem dJ5_checkBoundsBeginEnd_1 : decode cJ5_checkBoundsBeginEnd 1 = .ok (.iload_n 1, 1) := dk_27 (dk_at dksJ5_checkBoundsBeginEnd_0 1 rfl rfl)
theorem dJ5_checkBoundsBeginEnd_2 : decode cJ5_checkBoundsBeginEnd 2 = .ok (.iload_n 2, 1) := dk_28 (dk_at dksJ5_checkBoundsBeginEnd_0 2 rfl rfl)
theorem dJ5_checkBoundsBeginEnd_3 : decode cJ5_checkBoundsBeginEnd 3 = .ok (.getstatic 1053, 3) := dk_178 4 29 (dk_at dksJ5_checkBoundsBeginEnd_0 3 rfl rfl)
theorem dJ5_checkBoundsBeginEnd_6 : decode cJ5_checkBoundsBeginEnd 6 = .ok (.invokestatic 1062, 3) := dk_184 4 38 (dk_at dksJ5_checkBoundsBeginEnd_0 6 rfl rfl)
theorem dJ5_checkBoundsBeginEnd_9 : decode cJ5_checkBoundsBeginEnd 9 = .ok (.pop, 1) := dk_87 (dk_at dksJ5_checkBoundsBeginEnd_0 9 rfl rfl)
theorem dJ5_checkBoundsBeginEnd_10 : decode cJ5_checkBoundsBeginEnd 10 = .ok (.return_, 1) := dk_177 (dk_at dksJ5_checkBoundsBeginEnd_0 10 rfl rfl)
abbrev cJ14_checkIndex : ByteArray := prog_66_method_17_code
def yJ14_checkIndex : MethodName := ⟨RJ14, "checkIndex", "(II)I"⟩
def dkwJ14_checkIndex_0 : List UInt8 := [26, 27, 1, 184, 0, 105, 172]
abbrev dktJ14_checkIndex_0 : List UInt8 := dkwJ14_checkIndex_0 ++ []
theorem dksJ14_checkIndex_0 : cJ14_checkIndex.data.toList.drop 0 = dktJ14_checkIndex_0 := by decide +kernel
theorem dJ14_checkIndex_0 : decode cJ14_checkIndex 0 = .ok (.iload_n 0, 1) := dk_26 (dk_at dksJ14_checkIndex_0 0 rfl rfl)
theorem dJ14_checkIndex_1 : decode cJ14_checkIndex 1 = .ok (.iload_n 1, 1) := dk_27 (dk_at dksJ14_checkIndex_0 1 rfl rfl)
theorem dJ14_checkIndex_2 : decode cJ14_checkIndex 2 = .ok (.aconst_null, 1) := dk_1 (dk_at dksJ14_checkIndex_0 2 rfl rfl)
theorem dJ14_checkIndex_3 : decode cJ14_checkIndex 3 = .ok (.invokestatic 105, 3) := dk_184 0 105 (dk_at dksJ14_checkIndex_0 3 rfl rfl)
theorem dJ14_checkIndex_6 : decode cJ14_checkIndex 6 = .ok (.ireturn, 1) := dk_172 (dk_at dksJ14_checkIndex_0 6 rfl rfl)
theorem q636 : (Jvm.Cond.fieldLink "java/lang/String" (38 : Nat) "java/lang/String" "COMPACT_STRINGS" "Z") ∈ lw_all := lw_g (lw_at lw_m3 96 rfl) rfl
theorem q785 : (Jvm.Cond.fieldLink "java/lang/String" (15 : Nat) "java/lang/String" "coder" "B") ∈ lw_all := lw_g (lw_at lw_m4 5 rfl) rfl
theorem q784 : (Jvm.Cond.fieldLink "java/lang/String" (9 : Nat) "java/lang/String" "value" "[B") ∈ lw_all := lw_g (lw_at lw_m4 4 rfl) rfl
theorem q632 : (Jvm.Cond.methodLink "java/lang/String" (335 : Nat) ({ cls := "java/lang/String", name := "coder", desc := "()B" } : Jvm.MethodName)) ∈ lw_all := lw_g (lw_at lw_m3 92 rfl) rfl
theorem q73 : (Jvm.Cond.initialized "java/lang/String") ∈ lw_all := lw_g (lw_at lw_m1 13 rfl) rfl
theorem q635 : (Jvm.Cond.code ({ cls := "java/lang/String", name := "coder", desc := "()B" } : Jvm.MethodName) prog_39_method_152_code (1 : Nat) (Option.some Jvm.ClassFile.FieldType.byte)) ∈ lw_all := lw_g (lw_at lw_m3 95 rfl) rfl
theorem q633 : (Jvm.Cond.instanceMethod ({ cls := "java/lang/String", name := "coder", desc := "()B" } : Jvm.MethodName)) ∈ lw_all := lw_g (lw_at lw_m3 93 rfl) rfl
theorem q634 : (Jvm.Cond.selects "java/lang/String" ({ cls := "java/lang/String", name := "coder", desc := "()B" } : Jvm.MethodName) ({ cls := "java/lang/String", name := "coder", desc := "()B" } : Jvm.MethodName)) ∈ lw_all := lw_g (lw_at lw_m3 94 rfl) rfl
theorem q614 : (Jvm.Cond.fieldLink "java/lang/String" (1053 : Nat) "jdk/internal/util/Preconditions" "SIOOBE_FORMATTER" "Ljava/util/function/BiFunction;") ∈ lw_all := lw_g (lw_at lw_m3 74 rfl) rfl
theorem q1625 : (Jvm.Cond.methodLink "java/lang/String" (1059 : Nat) ({ cls := "jdk/internal/util/Preconditions", name := "checkIndex", desc := "(IILjava/util/function/BiFunction;)I" } : Jvm.MethodName)) ∈ lw_all := lw_g (lw_at lw_m7 125 rfl) rfl
theorem q86 : (Jvm.Cond.initialized "jdk/internal/util/Preconditions") ∈ lw_all := lw_g (lw_at lw_m1 26 rfl) rfl
theorem q522 : (Jvm.Cond.code ({ cls := "jdk/internal/util/Preconditions", name := "checkIndex", desc := "(IILjava/util/function/BiFunction;)I" } : Jvm.MethodName) prog_73_method_11_code (3 : Nat) (Option.some Jvm.ClassFile.FieldType.int)) ∈ lw_all := lw_g (lw_at lw_m2 222 rfl) rfl
theorem q521 : (Jvm.Cond.static ({ cls := "jdk/internal/util/Preconditions", name := "checkIndex", desc := "(IILjava/util/function/BiFunction;)I" } : Jvm.MethodName)) ∈ lw_all := lw_g (lw_at lw_m2 221 rfl) rfl
theorem q616 : (Jvm.Cond.methodLink "java/lang/String" (1062 : Nat) ({ cls := "jdk/internal/util/Preconditions", name := "checkFromToIndex", desc := "(IIILjava/util/function/BiFunction;)I" } : Jvm.MethodName)) ∈ lw_all := lw_g (lw_at lw_m3 76 rfl) rfl
theorem q618 : (Jvm.Cond.code ({ cls := "jdk/internal/util/Preconditions", name := "checkFromToIndex", desc := "(IIILjava/util/function/BiFunction;)I" } : Jvm.MethodName) prog_73_method_12_code (4 : Nat) (Option.some Jvm.ClassFile.FieldType.int)) ∈ lw_all := lw_g (lw_at lw_m3 78 rfl) rfl
theorem q617 : (Jvm.Cond.static ({ cls := "jdk/internal/util/Preconditions", name := "checkFromToIndex", desc := "(IIILjava/util/function/BiFunction;)I" } : Jvm.MethodName)) ∈ lw_all := lw_g (lw_at lw_m3 77 rfl) rfl
theorem q520 : (Jvm.Cond.methodLink "java/util/Objects" (105 : Nat) ({ cls := "jdk/internal/util/Preconditions", name := "checkIndex", desc := "(IILjava/util/function/BiFunction;)I" } : Jvm.MethodName)) ∈ lw_all := lw_g (lw_at lw_m2 220 rfl) rfl
/-- a string at a: its bytes at b, n of them, f -/
def StrA (G : GE) (h : AH) (a b n : Nat) (f : Nat → Int32) : Prop := (∃ hs hz : Int32, Rd G h a (ob 15 [.ref b, .int 0, .int hs, .int hz])) ∧ Rd G h b (aB G n f) ∧ n < 1000
theorem ishr0 (x : Int32) : x >>> ((0 : Int32) &&& 31) = x := by
  have e : ((0 : Int32) &&& 31) = 0 := rfl
  rw [e]
  exact Int32.shiftRight_zero
section
variable {X : GX} {yM : MethodName} {cc : ByteArray} {nL : Nat} {rT : Option FieldType} {hH : List (Nat × Nat × Nat × Nat)} {lV kB : Nat} {hA : AH} {kc pc : Nat} {ls : List (Option Value)} {st : List Value}
theorem g_castB (ok : Ok X yM cc nL rT hH lV kB) {a n index : Nat} {f : Nat → Int32} (hlink : Cond.classLink yM.cls index "[B" ∈ lw_all) (hd : decode cc pc = .ok (.checkcast index, 3)) (hr : hA a = some (aB X.G n f)) (kk : GW X hA kc (pc + 3) ls (.ref a :: st)) : GW X hA kc pc ls (.ref a :: st) := by
  intro H locs la hP hG hS hL
  have hnm : X.s.vm.findClass "[B" = some (X.G.2.1 2) := by
    obtain ⟨j, hj⟩ := List.getElem?_of_mem (gt_b X.G)
    have hra := (ok.k.2 j _ hj).2
    exact hra
  refine va_castA (D := X.G.1) (cl := gcl) (ws := [(a, aB X.G n f)]) ok.x ok.b ok.own (ok.ts _ hlink) ?_ 0 (by rfl) hnm hd (kk H locs la hP hG hS hL)
  intro q x hq
  match q, hq with
  | 0, hq => cases hq; exact hP.1 a _ hr
/-- what is read at one place is one thing -/
theorem g_rdeq {a : Nat} {e1 e2 : va_E} (r1 : Rd X.G hA a e1) (r2 : Rd X.G hA a e2) (kk : e1 = e2 → GW X hA kc pc ls st) : GW X hA kc pc ls st := by
  intro H locs la hP hG hS hL
  refine kk ?_ H locs la hP hG hS hL
  rcases r1 with r1 | r1
  · rcases r2 with r2 | r2
    · exact Option.some.inj (r1.symm.trans r2)
    · have := (hP.2.1 a _ r2).2
      rw [r1] at this; cases this
  · rcases r2 with r2 | r2
    · have := (hP.2.1 a _ r1).2
      rw [r2] at this; cases this
    · exact Option.some.inj (r1.symm.trans r2)
end
theorem s_coder (l : Launch) (G : GE) (h : AH) (a b n : Nat) (f : Nat → Int32) (y0 : StrA G h a b n f) : GM l G yJ5_coder (ws_ yJ5_coder cJ5_coder 1 (some .byte)) 1 [.ref a] (h) (0) (PV (.int 0) h) := by
  refine GM.of (by decide) (dk rfl) ?_
  intro X eL eG eh ok fn
  subst eL; subst eG
  show GW X _ 0 0 [some (.ref a)] []
  obtain ⟨⟨hsa, hza, r1a⟩, r2a, r3a⟩ := id y0
  refine g_gets ok (C := "java/lang/String") (n := "COMPACT_STRINGS") (d := "Z") (v := .int 1) (by simp [gzs]) q636 dJ5_coder_0 ?_
  refine g_if_eq ok (tgt := 13) dJ5_coder_3 (by decide) (fun c_ => absurd c_ (fun e_ => by have := (nI_eq (a := 1) (b := 0) (by omega) (by omega)).mp e_; omega)) (fun _ => ?_)
  refine g_aload_n ok dJ5_coder_6 rfl ?_
  refine g_get ok ck_J5 1 q785 (Or.inl rfl) (by decide) dJ5_coder_7 (r1a) rfl ?_
  refine g_goto ok dJ5_coder_10 (tgt := 14) (by decide) ?_
  exact g_zret ok fn rfl rfl dJ5_coder_14 (pv_h rfl) (by omega)
theorem s_latin (l : Launch) (G : GE) (h : AH) (a b n : Nat) (f : Nat → Int32) (y0 : StrA G h a b n f) : GM l G yJ5_isLatin1 (ws_ yJ5_isLatin1 cJ5_isLatin1 1 (some .boolean)) 1 [.ref a] (h) (0) (PV (.int 1) h) := by
  refine GM.of (by decide) (dk rfl) ?_
  intro X eL eG eh ok fn
  subst eL; subst eG
  show GW X _ 0 0 [some (.ref a)] []
  obtain ⟨⟨hsa, hza, r1a⟩, r2a, r3a⟩ := id y0
  refine g_gets ok (C := "java/lang/String") (n := "COMPACT_STRINGS") (d := "Z") (v := .int 1) (by simp [gzs]) q636 dJ5_isLatin1_0 ?_
  refine g_if_eq ok (tgt := 17) dJ5_isLatin1_3 (by decide) (fun c_ => absurd c_ (fun e_ => by have := (nI_eq (a := 1) (b := 0) (by omega) (by omega)).mp e_; omega)) (fun _ => ?_)
  refine g_aload_n ok dJ5_isLatin1_6 rfl ?_
  refine g_get ok ck_J5 1 q785 (Or.inl rfl) (by decide) dJ5_isLatin1_7 (r1a) rfl ?_
  refine g_if_ne ok (tgt := 17) dJ5_isLatin1_10 (by decide) (fun c_ => absurd (congrArg nI (by omega : 0 = 0)) c_) (fun _ => ?_)
  refine g_iconst ok (v := 1) dJ5_isLatin1_13 rfl ?_
  refine g_goto ok dJ5_isLatin1_14 (tgt := 18) (by decide) ?_
  exact g_zret ok fn rfl rfl dJ5_isLatin1_18 (pv_h rfl) (by omega)
theorem s_length (l : Launch) (G : GE) (h : AH) (a b n : Nat) (f : Nat → Int32) (y0 : StrA G h a b n f) : GM l G yJ5_length (ws_ yJ5_length cJ5_length 1 (some .int)) 2 [.ref a] (h) (0) (PV (.int (nI n)) h) := by
  refine GM.of (by decide) (dk rfl) ?_
  intro X eL eG eh ok fn
  subst eL; subst eG
  show GW X _ 0 0 [some (.ref a)] []
  obtain ⟨⟨hsa, hza, r1a⟩, r2a, r3a⟩ := id y0
  refine g_aload_n ok dJ5_length_0 rfl ?_
  refine g_get ok ck_J5 0 q784 (Or.inl rfl) (by decide) dJ5_length_1 (r1a) rfl ?_
  refine g_alen ok dJ5_length_4 (r2a) (gt_b _) ?_
  refine g_aload_n ok dJ5_length_5 rfl ?_
  refine g_callV ok q632 q633 q634 q73 q635 (Recv.ob ok gc_J5 (r1a)) dJ5_length_6 (s_coder X.l X.G _ a b n f y0) (nm_ (by decide : nmb _ 0 = true)) (dl rfl) (dk rfl) rfl rfl (dk rfl) (by omega) (kV ?_) xV
  refine g_ishr ok dJ5_length_9 ?_
  exact g_iret ok fn rfl dJ5_length_10 (pv_h (ishr0 _)) (by omega)
theorem p_checkIndex (l : Launch) (G : GE) (h : AH) (i n : Nat) (hi : i < n) (hn : n < 2 ^ 31) (fv : Value) (hf : fv = .null ∨ ∃ fq, fv = .ref fq) : GM l G yJ15_checkIndex (ws_ yJ15_checkIndex cJ15_checkIndex 3 (some .int)) 1 [.int (nI i), .int (nI n), fv] (h) (0) (PV (.int (nI i)) h) := by
  rcases hf with e | ⟨fq, e⟩
  · subst e
    refine GM.of (by decide) (dk rfl) ?_
    intro X eL eG eh ok fn
    subst eL; subst eG
    show GW X _ 0 0 [some (.int (nI i)), some (.int (nI n)), some (.null)] []
    refine g_iload_n ok dJ15_checkIndex_0 rfl ?_
    refine g_if_lt ok (tgt := 9) dJ15_checkIndex_1 (by decide) (fun c_ => absurd c_ (nI_nlt (a := i) (b := 0) (by omega) (by omega))) (fun _ => ?_)
    refine g_iload_n ok dJ15_checkIndex_4 rfl ?_
    refine g_iload_n ok dJ15_checkIndex_5 rfl ?_
    refine g_icmp_lt ok (tgt := 16) dJ15_checkIndex_6 (by decide) (fun _ => ?_) (fun c_ => absurd (nI_lt (a := i) (b := n) (by omega) (by omega)) c_)
    refine g_iload_n ok dJ15_checkIndex_16 rfl ?_
    exact g_iret ok fn rfl dJ15_checkIndex_17 (pv_h rfl) (by omega)
  · subst e
    refine GM.of (by decide) (dk rfl) ?_
    intro X eL eG eh ok fn
    subst eL; subst eG
    show GW X _ 0 0 [some (.int (nI i)), some (.int (nI n)), some (.ref fq)] []
    refine g_iload_n ok dJ15_checkIndex_0 rfl ?_
    refine g_if_lt ok (tgt := 9) dJ15_checkIndex_1 (by decide) (fun c_ => absurd c_ (nI_nlt (a := i) (b := 0) (by omega) (by omega))) (fun _ => ?_)
    refine g_iload_n ok dJ15_checkIndex_4 rfl ?_
    refine g_iload_n ok dJ15_checkIndex_5 rfl ?_
    refine g_icmp_lt ok (tgt := 16) dJ15_checkIndex_6 (by decide) (fun _ => ?_) (fun c_ => absurd (nI_lt (a := i) (b := n) (by omega) (by omega)) c_)
    refine g_iload_n ok dJ15_checkIndex_16 rfl ?_
    exact g_iret ok fn rfl dJ15_checkIndex_17 (pv_h rfl) (by omega)
theorem p_checkFromTo (l : Launch) (G : GE) (h : AH) (i j n : Nat) (hi : i ≤ j) (hj : j ≤ n) (hn : n < 2 ^ 31) (fv : Value) (hf : fv = .null ∨ ∃ fq, fv = .ref fq) : GM l G yJ15_checkFromToIndex (ws_ yJ15_checkFromToIndex cJ15_checkFromToIndex 4 (some .int)) 1 [.int (nI i), .int (nI j), .int (nI n), fv] (h) (0) (PV (.int (nI i)) h) := by
  rcases hf with e | ⟨fq, e⟩
  · subst e
    refine GM.of (by decide) (dk rfl) ?_
    intro X eL eG eh ok fn
    subst eL; subst eG
    show GW X _ 0 0 [some (.int (nI i)), some (.int (nI j)), some (.int (nI n)), some (.null)] []
    refine g_iload_n ok dJ15_checkFromToIndex_0 rfl ?_
    refine g_if_lt ok (tgt := 14) dJ15_checkFromToIndex_1 (by decide) (fun c_ => absurd c_ (nI_nlt (a := i) (b := 0) (by omega) (by omega))) (fun _ => ?_)
    refine g_iload_n ok dJ15_checkFromToIndex_4 rfl ?_
    refine g_iload_n ok dJ15_checkFromToIndex_5 rfl ?_
    refine g_icmp_gt ok (tgt := 14) dJ15_checkFromToIndex_6 (by decide) (fun c_ => absurd c_ (nI_nlt (a := j) (b := i) (by omega) (by omega))) (fun _ => ?_)
    refine g_iload_n ok dJ15_checkFromToIndex_9 rfl ?_
    refine g_iload_n ok dJ15_checkFromToIndex_10 rfl ?_
    refine g_icmp_le ok (tgt := 22) dJ15_checkFromToIndex_11 (by decide) (fun _ => ?_) (fun c_ => absurd (nI_le (a := j) (b := n) (by omega) (by omega)) c_)
    refine g_iload_n ok dJ15_checkFromToIndex_22 rfl ?_
    exact g_iret ok fn rfl dJ15_checkFromToIndex_23 (pv_h rfl) (by omega)
  · subst e
    refine GM.of (by decide) (dk rfl) ?_
    intro X eL eG eh ok fn
    subst eL; subst eG
    show GW X _ 0 0 [some (.int (nI i)), some (.int (nI j)), some (.int (nI n)), some (.ref fq)] []
    refine g_iload_n ok dJ15_checkFromToIndex_0 rfl ?_
    refine g_if_lt ok (tgt := 14) dJ15_checkFromToIndex_1 (by decide) (fun c_ => absurd c_ (nI_nlt (a := i) (b := 0) (by omega) (by omega))) (fun _ => ?_)
    refine g_iload_n ok dJ15_checkFromToIndex_4 rfl ?_
    refine g_iload_n ok dJ15_checkFromToIndex_5 rfl ?_
    refine g_icmp_gt ok (tgt := 14) dJ15_checkFromToIndex_6 (by decide) (fun c_ => absurd c_ (nI_nlt (a := j) (b := i) (by omega) (by omega))) (fun _ => ?_)
    refine g_iload_n ok dJ15_checkFromToIndex_9 rfl ?_
    refine g_iload_n ok dJ15_checkFromToIndex_10 rfl ?_
    refine g_icmp_le ok (tgt := 22) dJ15_checkFromToIndex_11 (by decide) (fun _ => ?_) (fun c_ => absurd (nI_le (a := j) (b := n) (by omega) (by omega)) c_)
    refine g_iload_n ok dJ15_checkFromToIndex_22 rfl ?_
    exact g_iret ok fn rfl dJ15_checkFromToIndex_23 (pv_h rfl) (by omega)
theorem s_checkIndex (l : Launch) (G : GE) (h : AH) (i n : Nat) (hi : i < n) (hn : n < 2 ^ 31) : GM l G yJ5_checkIndex (ws_ yJ5_checkIndex cJ5_checkIndex 2 none) 2 [.int (nI i), .int (nI n)] (h) (0) (PN h) := by
  refine GM.of (by decide) (dk rfl) ?_
  intro X eL eG eh ok fn
  subst eL; subst eG
  show GW X _ 0 0 [some (.int (nI i)), some (.int (nI n))] []
  refine g_iload_n ok dJ5_checkIndex_0 rfl ?_
  refine g_iload_n ok dJ5_checkIndex_1 rfl ?_
  refine g_gets ok (C := "jdk/internal/util/Preconditions") (n := "SIOOBE_FORMATTER") (d := "Ljava/util/function/BiFunction;") (v := X.G.gv) (by simp [gzs]) q614 dJ5_checkIndex_2 ?_
  refine g_callS ok q1625 q521 q86 q522 dJ5_checkIndex_5 (p_checkIndex X.l X.G _ i n (by omega) (by omega) (X.G.gv) ok.tab.2.2.2.2.2.2.1.2.2.2.2) (nm_ (by decide : nmb _ 3 = true)) (dl rfl) (dk rfl) rfl rfl (dk rfl) (by omega) (kV ?_) xV
  refine g_pop ok dJ5_checkIndex_8 rfl ?_
  exact g_vret ok fn rfl dJ5_checkIndex_9 ⟨rfl, rfl⟩ (by omega)
theorem s_checkBE (l : Launch) (G : GE) (h : AH) (i j n : Nat) (hi : i ≤ j) (hj : j ≤ n) (hn : n < 2 ^ 31) : GM l G yJ5_checkBoundsBeginEnd (ws_ yJ5_checkBoundsBeginEnd cJ5_checkBoundsBeginEnd 3 none) 2 [.int (nI i), .int (nI j), .int (nI n)] (h) (0) (PN h) := by
  refine GM.of (by decide) (dk rfl) ?_
  intro X eL eG eh ok fn
  subst eL; subst eG
  show GW X _ 0 0 [some (.int (nI i)), some (.int (nI j)), some (.int (nI n))] []
  refine g_iload_n ok dJ5_checkBoundsBeginEnd_0 rfl ?_
  refine g_iload_n ok dJ5_checkBoundsBeginEnd_1 rfl ?_
  refine g_iload_n ok dJ5_checkBoundsBeginEnd_2 rfl ?_
  refine g_gets ok (C := "jdk/internal/util/Preconditions") (n := "SIOOBE_FORMATTER") (d := "Ljava/util/function/BiFunction;") (v := X.G.gv) (by simp [gzs]) q614 dJ5_checkBoundsBeginEnd_3 ?_
  refine g_callS ok q616 q617 q86 q618 dJ5_checkBoundsBeginEnd_6 (p_checkFromTo X.l X.G _ i j n (by omega) (by omega) (by omega) (X.G.gv) ok.tab.2.2.2.2.2.2.1.2.2.2.2) (nm_ (by decide : nmb _ 4 = true)) (dl rfl) (dk rfl) rfl rfl (dk rfl) (by omega) (kV ?_) xV
  refine g_pop ok dJ5_checkBoundsBeginEnd_9 rfl ?_
  exact g_vret ok fn rfl dJ5_checkBoundsBeginEnd_10 ⟨rfl, rfl⟩ (by omega)
theorem o_checkIndex (l : Launch) (G : GE) (h : AH) (i n : Nat) (hi : i < n) (hn : n < 2 ^ 31) : GM l G yJ14_checkIndex (ws_ yJ14_checkIndex cJ14_checkIndex 2 (some .int)) 2 [.int (nI i), .int (nI n)] (h) (0) (PV (.int (nI i)) h) := by
  refine GM.of (by decide) (dk rfl) ?_
  intro X eL eG eh ok fn
  subst eL; subst eG
  show GW X _ 0 0 [some (.int (nI i)), some (.int (nI n))] []
  refine g_iload_n ok dJ14_checkIndex_0 rfl ?_
  refine g_iload_n ok dJ14_checkIndex_1 rfl ?_
  refine g_null ok dJ14_checkIndex_2 ?_
  refine g_callS ok q520 q521 q86 q522 dJ14_checkIndex_3 (p_checkIndex X.l X.G _ i n (by omega) (by omega) (.null) (Or.inl rfl)) (nm_ (by decide : nmb _ 3 = true)) (dl rfl) (dk rfl) rfl rfl (dk rfl) (by omega) (kV ?_) xV
  exact g_iret ok fn rfl dJ14_checkIndex_6 (pv_h rfl) (by omega)
