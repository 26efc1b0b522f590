/-! a ruler is changed, 2: set, turn, paint, a note is done -/
set_option maxRecDepth 100000
abbrev cX2_set : ByteArray := prog_16_method_9_code
def yX2_set : MethodName := ⟨RX2, "set", "(III)I"⟩
def dkwX2_set_0 : List UInt8 := [42, 27, 28, 182, 0, 138, 54, 4, 42, 27, 28, 178, 0, 142, 29, 182, 0, 123, 182, 0, 135, 21, 4, 172]
abbrev dktX2_set_0 : List UInt8 := dkwX2_set_0 ++ []
theorem dksX2_set_0 : cX2_set.data.toList.drop 0 = dktX2_set_0 := by decide +kernel
theorem dX2_set_0 : decode cX2_set 0 = .ok (.aload_n 0, 1) := dk_42 (dk_at dksX2_set_0 0 rfl rfl)
theorem dX2_set_1 : decode cX2_set 1 = .ok (.iload_n 1, 1) := dk_27 (dk_at dksX2_set_0 1 rfl rfl)
theorem dX2_set_2 : decode cX2_set 2 = .ok (.iload_n 2, 1) := dk_28 (dk_at dksX2_set_0 2 rfl rfl)
theorem dX2_set_3 : decode cX2_set 3 = .ok (.invokevirtual 138, 3) := dk_182 0 138 (dk_at dksX2_set_0 3 rfl rfl)
theorem dX2_set_6 : decode cX2_set 6 = .ok (.istore 4, 2) := dk_54 4 (dk_at dksX2_set_0 6 rfl rfl)
theorem dX2_set_8 : decode cX2_set 8 = .ok (.aload_n 0, 1) := dk_42 (dk_at dksX2_set_0 8 rfl rfl)
theorem dX2_set_9 : decode cX2_set 9 = .ok (.iload_n 1, 1) := dk_27 (dk_at dksX2_set_0 9 rfl rfl)
theorem dX2_set_10 : decode cX2_set 10 = .ok (.iload_n 2, 1) := dk_28 (dk_at dksX2_set_0 10 rfl rfl)
theorem dX2_set_11 : decode cX2_set 11 = .ok (.getstatic 142, 3) := dk_178 0 142 (dk_at dksX2_set_0 11 rfl rfl)
theorem dX2_set_14 : decode cX2_set 14 = .ok (.iload_n 3, 1) := dk_29 (dk_at dksX2_set_0 14 rfl rfl)
theorem dX2_set_15 : decode cX2_set 15 = .ok (.invokevirtual 123, 3) := dk_182 0 123 (dk_at dksX2_set_0 15 rfl rfl)
theorem dX2_set_18 : decode cX2_set 18 = .ok (.invokevirtual 135, 3) := dk_182 0 135 (dk_at dksX2_set_0 18 rfl rfl)
theorem dX2_set_21 : decode cX2_set 21 = .ok (.iload 4, 2) := dk_21 4 (dk_at dksX2_set_0 21 rfl rfl)
theorem dX2_set_23 : decode cX2_set 23 = .ok (.ireturn, 1) := dk_172 (dk_at dksX2_set_0 23 rfl rfl)
abbrev cX2_turn : ByteArray := prog_16_method_10_code
def yX2_turn : MethodName := ⟨RX2, "turn", "(II)I"⟩
def dkwX2_turn_0 : List UInt8 := [42, 27, 28, 178, 0, 145, 3, 182, 0, 123, 182, 0, 135, 42, 27, 28, 182, 0, 138, 172]
abbrev dktX2_turn_0 : List UInt8 := dkwX2_turn_0 ++ []
theorem dksX2_turn_0 : cX2_turn.data.toList.drop 0 = dktX2_turn_0 := by decide +kernel
theorem dX2_turn_0 : decode cX2_turn 0 = .ok (.aload_n 0, 1) := dk_42 (dk_at dksX2_turn_0 0 rfl rfl)
theorem dX2_turn_1 : decode cX2_turn 1 = .ok (.iload_n 1, 1) := dk_27 (dk_at dksX2_turn_0 1 rfl rfl)
theorem dX2_turn_2 : decode cX2_turn 2 = .ok (.iload_n 2, 1) := dk_28 (dk_at dksX2_turn_0 2 rfl rfl)
theorem dX2_turn_3 : decode cX2_turn 3 = .ok (.getstatic 145, 3) := dk_178 0 145 (dk_at dksX2_turn_0 3 rfl rfl)
theorem dX2_turn_6 : decode cX2_turn 6 = .ok (.iconst 0, 1) := dk_3 (dk_at dksX2_turn_0 6 rfl rfl)
theorem dX2_turn_7 : decode cX2_turn 7 = .ok (.invokevirtual 123, 3) := dk_182 0 123 (dk_at dksX2_turn_0 7 rfl rfl)
theorem dX2_turn_10 : decode cX2_turn 10 = .ok (.invokevirtual 135, 3) := dk_182 0 135 (dk_at dksX2_turn_0 10 rfl rfl)
theorem dX2_turn_13 : decode cX2_turn 13 = .ok (.aload_n 0, 1) := dk_42 (dk_at dksX2_turn_0 13 rfl rfl)
theorem dX2_turn_14 : decode cX2_turn 14 = .ok (.iload_n 1, 1) := dk_27 (dk_at dksX2_turn_0 14 rfl rfl)
theorem dX2_turn_15 : decode cX2_turn 15 = .ok (.iload_n 2, 1) := dk_28 (dk_at dksX2_turn_0 15 rfl rfl)
theorem dX2_turn_16 : decode cX2_turn 16 = .ok (.invokevirtual 138, 3) := dk_182 0 138 (dk_at dksX2_turn_0 16 rfl rfl)
theorem dX2_turn_19 : decode cX2_turn 19 = .ok (.ireturn, 1) := dk_172 (dk_at dksX2_turn_0 19 rfl rfl)
abbrev cX2_isDone : ByteArray := prog_16_method_19_code
def yX2_isDone : MethodName := ⟨RX2, "isDone", "(LSpanRuler$Note;)Z"⟩
def dkwX2_isDone_2 : List UInt8 := [180, 0, 178, 44, 182, 0, 135, 29, 172]
abbrev dktX2_isDone_2 : List UInt8 := dkwX2_isDone_2 ++ []
def dkwX2_isDone_1 : List UInt8 := [182, 0, 127, 2, 160, 0, 7, 4, 167, 0, 4, 3, 62, 29, 153, 0, 16, 42, 43, 180, 0, 175, 43]
abbrev dktX2_isDone_1 : List UInt8 := dkwX2_isDone_1 ++ dktX2_isDone_2
def dkwX2_isDone_0 : List UInt8 := [43, 180, 0, 170, 43, 180, 0, 173, 182, 0, 123, 77, 42, 43, 180, 0, 175, 43, 180, 0, 178, 44]
abbrev dktX2_isDone_0 : List UInt8 := dkwX2_isDone_0 ++ dktX2_isDone_1
theorem dksX2_isDone_0 : cX2_isDone.data.toList.drop 0 = dktX2_isDone_0 := by decide +kernel
theorem dksX2_isDone_1 : cX2_isDone.data.toList.drop 22 = dktX2_isDone_1 := dk_seg dksX2_isDone_0 22 rfl rfl
theorem dksX2_isDone_2 : cX2_isDone.data.toList.drop 45 = dktX2_isDone_2 := dk_seg dksX2_isDone_1 23 rfl rfl
theorem dX2_isDone_0 : decode cX2_isDone 0 = .ok (.aload_n 1, 1) := dk_43 (dk_at dksX2_isDone_0 0 rfl rfl)
theorem dX2_isDone_1 : decode cX2_isDone 1 = .ok (.getfield 170, 3) := dk_180 0 170 (dk_at dksX2_isDone_0 1 rfl rfl)
theorem dX2_isDone_4 : decode cX2_isDone 4 = .ok (.aload_n 1, 1) := dk_43 (dk_at dksX2_isDone_0 4 rfl rfl)
theorem dX2_isDone_5 : decode cX2_isDone 5 = .ok (.getfield 173, 3) := dk_180 0 173 (dk_at dksX2_isDone_0 5 rfl rfl)
theorem dX2_isDone_8 : decode cX2_isDone 8 = .ok (.invokevirtual 123, 3) := dk_182 0 123 (dk_at dksX2_isDone_0 8 rfl rfl)
theorem dX2_isDone_11 : decode cX2_isDone 11 = .ok (.astore_n 2, 1) := dk_77 (dk_at dksX2_isDone_0 11 rfl rfl)
theorem dX2_isDone_12 : decode cX2_isDone 12 = .ok (.aload_n 0, 1) := dk_42 (dk_at dksX2_isDone_0 12 rfl rfl)
theorem dX2_isDone_13 : decode cX2_isDone 13 = .ok (.aload_n 1, 1) := dk_43 (dk_at dksX2_isDone_0 13 rfl rfl)
theorem dX2_isDone_14 : decode cX2_isDone 14 = .ok (.getfield 175, 3) := dk_180 0 175 (dk_at dksX2_isDone_0 14 rfl rfl)
theorem dX2_isDone_17 : decode cX2_isDone 17 = .ok (.aload_n 1, 1) := dk_43 (dk_at dksX2_isDone_0 17 rfl rfl)
theorem dX2_isDone_18 : decode cX2_isDone 18 = .ok (.getfield 178, 3) := dk_180 0 178 (dk_at dksX2_isDone_0 18 rfl rfl)
theorem dX2_isDone_21 : decode cX2_isDone 21 = .ok (.aload_n 2, 1) := dk_44 (dk_at dksX2_isDone_0 21 rfl rfl)
theorem dX2_isDone_22 : decode cX2_isDone 22 = .ok (.invokevirtual 127, 3) := dk_182 0 127 (dk_at dksX2_isDone_1 0 rfl rfl)
theorem dX2_isDone_25 : decode cX2_isDone 25 = .ok (.iconst (-1), 1) := dk_2 (dk_at dksX2_isDone_1 3 rfl rfl)
theorem dX2_isDone_26 : decode cX2_isDone 26 = .ok (.if_icmp .ne 7, 3) := dk_160 0 7 (dk_at dksX2_isDone_1 4 rfl rfl)
theorem dX2_isDone_29 : decode cX2_isDone 29 = .ok (.iconst 1, 1) := dk_4 (dk_at dksX2_isDone_1 7 rfl rfl)
theorem dX2_isDone_30 : decode cX2_isDone 30 = .ok (.goto 4, 3) := dk_167 0 4 (dk_at dksX2_isDone_1 8 rfl rfl)
theorem dX2_isDone_33 : decode cX2_isDone 33 = .ok (.iconst 0, 1) := dk_3 (dk_at dksX2_isDone_1 11 rfl rfl)
theorem dX2_isDone_34 : decode cX2_isDone 34 = .ok (.istore_n 3, 1) := dk_62 (dk_at dksX2_isDone_1 12 rfl rfl)
theorem dX2_isDone_35 : decode cX2_isDone 35 = .ok (.iload_n 3, 1) := dk_29 (dk_at dksX2_isDone_1 13 rfl rfl)
theorem dX2_isDone_36 : decode cX2_isDone 36 = .ok (.ifCond .eq 16, 3) := dk_153 0 16 (dk_at dksX2_isDone_1 14 rfl rfl)
theorem dX2_isDone_39 : decode cX2_isDone 39 = .ok (.aload_n 0, 1) := dk_42 (dk_at dksX2_isDone_1 17 rfl rfl)
theorem dX2_isDone_40 : decode cX2_isDone 40 = .ok (.aload_n 1, 1) := dk_43 (dk_at dksX2_isDone_1 18 rfl rfl)
theorem dX2_isDone_41 : decode cX2_isDone 41 = .ok (.getfield 175, 3) := dk_180 0 175 (dk_at dksX2_isDone_1 19 rfl rfl)
theorem dX2_isDone_44 : decode cX2_isDone 44 = .ok (.aload_n 1, 1) := dk_43 (dk_at dksX2_isDone_1 22 rfl rfl)
theorem dX2_isDone_45 : decode cX2_isDone 45 = .ok (.getfield 178, 3) := dk_180 0 178 (dk_at dksX2_isDone_2 0 rfl rfl)
theorem dX2_isDone_48 : decode cX2_isDone 48 = .ok (.aload_n 2, 1) := dk_44 (dk_at dksX2_isDone_2 3 rfl rfl)
theorem dX2_isDone_49 : decode cX2_isDone 49 = .ok (.invokevirtual 135, 3) := dk_182 0 135 (dk_at dksX2_isDone_2 4 rfl rfl)
theorem dX2_isDone_52 : decode cX2_isDone 52 = .ok (.iload_n 3, 1) := dk_29 (dk_at dksX2_isDone_2 7 rfl rfl)
theorem dX2_isDone_53 : decode cX2_isDone 53 = .ok (.ireturn, 1) := dk_172 (dk_at dksX2_isDone_2 8 rfl rfl)
theorem q1113 : (Jvm.Cond.methodLink "SpanRuler$Ruler" (138 : Nat) ({ cls := "SpanRuler$Ruler", name := "sum", desc := "(II)I" } : Jvm.MethodName)) ∈ lw_all := lw_g (lw_at lw_m5 93 rfl) rfl
theorem q915 : (Jvm.Cond.code ({ cls := "SpanRuler$Ruler", name := "sum", desc := "(II)I" } : Jvm.MethodName) prog_16_method_4_code (3 : Nat) (Option.some Jvm.ClassFile.FieldType.int)) ∈ lw_all := lw_g (lw_at lw_m4 135 rfl) rfl
theorem q913 : (Jvm.Cond.instanceMethod ({ cls := "SpanRuler$Ruler", name := "sum", desc := "(II)I" } : Jvm.MethodName)) ∈ lw_all := lw_g (lw_at lw_m4 133 rfl) rfl
theorem q914 : (Jvm.Cond.selects "SpanRuler$Ruler" ({ cls := "SpanRuler$Ruler", name := "sum", desc := "(II)I" } : Jvm.MethodName) ({ cls := "SpanRuler$Ruler", name := "sum", desc := "(II)I" } : Jvm.MethodName)) ∈ lw_all := lw_g (lw_at lw_m4 134 rfl) rfl
theorem q1164 : (Jvm.Cond.fieldLink "SpanRuler$Ruler" (142 : Nat) "SpanRuler$Kind" "SET" "LSpanRuler$Kind;") ∈ lw_all := lw_g (lw_at lw_m5 144 rfl) rfl
theorem q1033 : (Jvm.Cond.declares ({ cls := "SpanRuler$Kind", name := "with", desc := "(I)LSpanRuler$Act;" } : Jvm.MethodName)) ∈ lw_tbl := lw_at lw_m5 13 rfl
theorem q1032 : (Jvm.Cond.methodLink "SpanRuler$Ruler" (123 : Nat) ({ cls := "SpanRuler$Kind", name := "with", desc := "(I)LSpanRuler$Act;" } : Jvm.MethodName)) ∈ lw_all := lw_g (lw_at lw_m5 12 rfl) rfl
theorem q1034 : (Jvm.Cond.sameMethod "SpanRuler$Kind" "SpanRuler$Kind" "with" "(I)LSpanRuler$Act;") ∈ lw_all := lw_g (lw_at lw_m5 14 rfl) rfl
theorem q1040 : (Jvm.Cond.selects "SpanRuler$Kind$2" ({ cls := "SpanRuler$Kind", name := "with", desc := "(I)LSpanRuler$Act;" } : Jvm.MethodName) ({ cls := "SpanRuler$Kind$2", name := "with", desc := "(I)LSpanRuler$Act;" } : Jvm.MethodName)) ∈ lw_all := lw_g (lw_at lw_m5 20 rfl) rfl
theorem q1041 : (Jvm.Cond.instanceMethod ({ cls := "SpanRuler$Kind$2", name := "with", desc := "(I)LSpanRuler$Act;" } : Jvm.MethodName)) ∈ lw_all := lw_g (lw_at lw_m5 21 rfl) rfl
theorem q1042 : (Jvm.Cond.code ({ cls := "SpanRuler$Kind$2", name := "with", desc := "(I)LSpanRuler$Act;" } : Jvm.MethodName) prog_9_method_2_code (2 : Nat) (Option.some (Jvm.ClassFile.FieldType.object "SpanRuler$Act"))) ∈ lw_all := lw_g (lw_at lw_m5 22 rfl) rfl
theorem q1095 : (Jvm.Cond.methodLink "SpanRuler$Ruler" (135 : Nat) ({ cls := "SpanRuler$Ruler", name := "does", desc := "(IILSpanRuler$Act;)V" } : Jvm.MethodName)) ∈ lw_all := lw_g (lw_at lw_m5 75 rfl) rfl
theorem q1098 : (Jvm.Cond.code ({ cls := "SpanRuler$Ruler", name := "does", desc := "(IILSpanRuler$Act;)V" } : Jvm.MethodName) prog_16_method_7_code (4 : Nat) (Option.none : Option Jvm.ClassFile.FieldType)) ∈ lw_all := lw_g (lw_at lw_m5 78 rfl) rfl
theorem q1097 : (Jvm.Cond.instanceMethod ({ cls := "SpanRuler$Ruler", name := "does", desc := "(IILSpanRuler$Act;)V" } : Jvm.MethodName)) ∈ lw_all := lw_g (lw_at lw_m5 77 rfl) rfl
theorem q1179 : (Jvm.Cond.fieldLink "SpanRuler$Ruler" (145 : Nat) "SpanRuler$Kind" "TURN" "LSpanRuler$Kind;") ∈ lw_all := lw_g (lw_at lw_m5 159 rfl) rfl
theorem q1045 : (Jvm.Cond.selects "SpanRuler$Kind$3" ({ cls := "SpanRuler$Kind", name := "with", desc := "(I)LSpanRuler$Act;" } : Jvm.MethodName) ({ cls := "SpanRuler$Kind$3", name := "with", desc := "(I)LSpanRuler$Act;" } : Jvm.MethodName)) ∈ lw_all := lw_g (lw_at lw_m5 25 rfl) rfl
theorem q1046 : (Jvm.Cond.instanceMethod ({ cls := "SpanRuler$Kind$3", name := "with", desc := "(I)LSpanRuler$Act;" } : Jvm.MethodName)) ∈ lw_all := lw_g (lw_at lw_m5 26 rfl) rfl
theorem q1047 : (Jvm.Cond.code ({ cls := "SpanRuler$Kind$3", name := "with", desc := "(I)LSpanRuler$Act;" } : Jvm.MethodName) prog_10_method_2_code (2 : Nat) (Option.some (Jvm.ClassFile.FieldType.object "SpanRuler$Act"))) ∈ lw_all := lw_g (lw_at lw_m5 27 rfl) rfl
theorem q823 : (Jvm.Cond.fieldLinkNest "SpanRuler$Ruler" (170 : Nat) "SpanRuler$Note" "kind" "LSpanRuler$Kind;" "SpanRuler") ∈ lw_tbl := lw_at lw_m4 43 rfl
theorem q832 : (Jvm.Cond.fieldLinkNest "SpanRuler$Ruler" (173 : Nat) "SpanRuler$Note" "number" "I" "SpanRuler") ∈ lw_tbl := lw_at lw_m4 52 rfl
theorem q1035 : (Jvm.Cond.selects "SpanRuler$Kind$1" ({ cls := "SpanRuler$Kind", name := "with", desc := "(I)LSpanRuler$Act;" } : Jvm.MethodName) ({ cls := "SpanRuler$Kind$1", name := "with", desc := "(I)LSpanRuler$Act;" } : Jvm.MethodName)) ∈ lw_all := lw_g (lw_at lw_m5 15 rfl) rfl
theorem q1036 : (Jvm.Cond.instanceMethod ({ cls := "SpanRuler$Kind$1", name := "with", desc := "(I)LSpanRuler$Act;" } : Jvm.MethodName)) ∈ lw_all := lw_g (lw_at lw_m5 16 rfl) rfl
theorem q1037 : (Jvm.Cond.code ({ cls := "SpanRuler$Kind$1", name := "with", desc := "(I)LSpanRuler$Act;" } : Jvm.MethodName) prog_8_method_2_code (2 : Nat) (Option.some (Jvm.ClassFile.FieldType.object "SpanRuler$Act"))) ∈ lw_all := lw_g (lw_at lw_m5 17 rfl) rfl
theorem q826 : (Jvm.Cond.fieldLinkNest "SpanRuler$Ruler" (175 : Nat) "SpanRuler$Note" "from" "I" "SpanRuler") ∈ lw_tbl := lw_at lw_m4 46 rfl
theorem q829 : (Jvm.Cond.fieldLinkNest "SpanRuler$Ruler" (178 : Nat) "SpanRuler$Note" "to" "I" "SpanRuler") ∈ lw_tbl := lw_at lw_m4 49 rfl
theorem q1050 : (Jvm.Cond.methodLink "SpanRuler$Ruler" (127 : Nat) ({ cls := "SpanRuler$Ruler", name := "leaving", desc := "(IILSpanRuler$Act;)I" } : Jvm.MethodName)) ∈ lw_all := lw_g (lw_at lw_m5 30 rfl) rfl
theorem q1053 : (Jvm.Cond.code ({ cls := "SpanRuler$Ruler", name := "leaving", desc := "(IILSpanRuler$Act;)I" } : Jvm.MethodName) prog_16_method_6_code (6 : Nat) (Option.some Jvm.ClassFile.FieldType.int)) ∈ lw_all := lw_g (lw_at lw_m5 33 rfl) rfl
theorem q1052 : (Jvm.Cond.instanceMethod ({ cls := "SpanRuler$Ruler", name := "leaving", desc := "(IILSpanRuler$Act;)I" } : Jvm.MethodName)) ∈ lw_all := lw_g (lw_at lw_m5 32 rfl) rfl
theorem fK0 : fK 0 = 1 := by decide
theorem fK1 : fK 1 = 0 := by decide
theorem fK2 : fK 2 = -1 := by decide
theorem sK0 (x : Int32) : sK 0 x = x := by unfold sK; rw [if_pos rfl]
theorem sK1 (x : Int32) : sK 1 x = x := by unfold sK; rw [if_neg (by decide), if_pos rfl]
theorem sK2 (x : Int32) : sK 2 x = 0 := by unfold sK; rw [if_neg (by decide), if_neg (by decide)]
theorem kd0 : kd 0 = "K0" := by decide
theorem kd1 : kd 1 = "K1" := by decide
theorem kd2 : kd 2 = "K2" := by decide
theorem k_case {k : Int32} (h : inR k 0 2 = true) : k = 0 ∨ k = 1 ∨ k = 2 := by
  obtain ⟨a1, a2⟩ := inR_i.mp h
  obtain ⟨i, hi, rfl⟩ := nI_of2 (M := 2) (n := 2) rfl (Int32.not_lt.mpr a1) a2
  have : i = 0 ∨ i = 1 ∨ i = 2 := by omega
  rcases this with e | e | e <;> subst e
  · exact Or.inl rfl
  · exact Or.inr (Or.inl rfl)
  · exact Or.inr (Or.inr rfl)
theorem mby_set (w x : Int32) : mby 1 w x = x := by unfold mby; rw [if_neg (by decide), if_pos rfl]
theorem mby_turn (w x : Int32) : mby 2 w x = -w := by unfold mby; rw [if_neg (by decide), if_neg (by decide)]
theorem rg_num {x : Int32} (h : isNu 1 x = true) : rg x := by unfold isNu at h; rw [if_neg (by decide), if_pos rfl] at h; exact h
theorem lvF_all {R : Nat → Int32} {k x : Int32} : ∀ (n c : Nat), c + n ≤ 32 → lvF R k x n c = -1 → ∀ q, c ≤ q → q < c + n → rg (mby k (R (8 + q)) x) := by
  intro n
  induction n with
  | zero => intro c _ _ q h1 h2; omega
  | succ n ih =>
    intro c hc h q h1 h2
    rw [lvF] at h
    cases e : inR (mby k (R (8 + c)) x) (-999) 999 with
    | false =>
      rw [e, cond_false] at h
      have := congrArg Int32.toInt h
      rw [nI_toInt (by omega)] at this
      have e2 : ((-1 : Int32)).toInt = -1 := rfl
      omega
    | true =>
      rw [e, cond_true] at h
      by_cases z : q = c
      · subst z; exact e
      · exact ih (c + 1) (by omega) h q (by omega) (by omega)
theorem u_set (l : Launch) (G : GE) (h0 h : AH) (a : Nat) (R : Nat → Int32) (m0 : RulerM G h0 h a R) (i j : Nat) (hij : i ≤ j) (hj : j < 32) (x : Int32) (hn : isNu 1 x = true) : GM l G yX2_set (ws_ yX2_set cX2_set 5 (some .int)) 14 [.ref a, .int (nI i), .int (nI j), .int x] (h) (203) (PR fun u h' => u = .int (sm R (j + 1 - i) i 0) ∧ RulerM G h0 h' a (rAct 1 x i j R)) := by
  refine GM.of (by decide) (dk rfl) ?_
  intro X eL eG eh ok fn
  subst eL; subst eG
  show GW X _ 0 0 [some (.ref a), some (.int (nI i)), some (.int (nI j)), some (.int x), none] []
  obtain ⟨rt, cl, nl, nd, nc, nm, nf, vl, vd, vc, vm, vf, y1, z1⟩ := id m0
  have mq2 : RQ X.G h (fun q => h0 q = none) a R rt cl [.ref nl, .ref vl, .int (R 3), .int (R 4), .int (R 5), .int (R 0), .int (R 6), .int (R 7)] := y1.1
  obtain ⟨ra1, rT1, cf1, rc1, rf1⟩ := id mq2
  have nca1 : cl ≠ a := fun z_ => by have w_ := rc1; rw [z_, ra1] at w_; cases w_
  refine g_aload_n ok dX2_set_0 rfl ?_
  refine g_iload_n ok dX2_set_1 rfl ?_
  refine g_iload_n ok dX2_set_2 rfl ?_
  refine g_callV ok q1113 q913 q914 q62 q915 (Recv.ob ok gc_X2 (Rd.h (ra1))) dX2_set_3 (x_sum X.l X.G _ (fun q => h0 q = none) a R rt cl nl vl (R 3) (R 4) (R 5) (R 0) (R 6) (R 7) mq2 i j (by omega) (by omega)) (nm_ (by decide : nmb _ 2 = true)) (dl rfl) (dk rfl) rfl rfl (dk rfl) (by omega) (kR fun u1_ h1_ ⟨e1_, q1_, g1_⟩ => ?_) xR
  subst e1_
  obtain ⟨ra2, rT2, cf2, rc2, rf2⟩ := id q1_
  have nca2 : cl ≠ a := fun z_ => by have w_ := rc2; rw [z_, ra2] at w_; cases w_
  refine g_istore ok dX2_set_6 (ls1 := [some (.ref a), some (.int (nI i)), some (.int (nI j)), some (.int x), some (.int (sm R (j + 1 - i) i 0))]) (dl rfl) rfl ?_
  refine g_aload_n ok dX2_set_8 rfl ?_
  refine g_iload_n ok dX2_set_9 rfl ?_
  refine g_iload_n ok dX2_set_10 rfl ?_
  refine g_gets ok (C := "SpanRuler$Kind") (n := "SET") (d := "LSpanRuler$Kind;") (v := .ref (X.G.ga "K1")) (by simp [gzs]) q1164 dX2_set_11 ?_
  refine g_iload_n ok dX2_set_14 rfl ?_
  obtain ⟨y3, z3⟩ := RulerM.chg y1 z1 ((Chg.refl _ _ _ _).trans g1_) q1_.2.1
  refine g_callUR ok (C := "SpanRuler$Kind$2") (owner := "SpanRuler$Kind") q1032 q1034 q1040 q1041 q1042 (ok.declA q1033) (by decide) ((Recv.kd (v := 1) (by simp [gkn]))) dX2_set_15 (r_withX17 X.l X.G _ (X.G.ga "K1") x) (nm_ (by decide : nmb _ 1 = true)) (dl rfl) (dk rfl) rfl rfl (dk rfl) (by omega) (kR fun u2_ hh2_ ⟨t2_, e2_, f2_, kh2_, k2_⟩ => ?_) xR
  subst e2_; subst k2_
  have m2_ := RulerM.new (e := ob 4 [.int 0, .int x]) (⟨rt, cl, nl, nd, nc, nm, nf, vl, vd, vc, vm, vf, y3, z3⟩ : RulerM X.G h0 h1_ a R) f2_
  obtain ⟨rt, cl, nl, nd, nc, nm, nf, vl, vd, vc, vm, vf, y4, z4⟩ := id m2_
  have mq5 : RQ X.G (up h1_ t2_ (ob 4 [.int 0, .int x])) (fun q => h0 q = none) a R rt cl [.ref nl, .ref vl, .int (R 3), .int (R 4), .int (R 5), .int (R 0), .int (R 6), .int (R 7)] := y4.1
  obtain ⟨ra3, rT3, cf3, rc3, rf3⟩ := id mq5
  have nca3 : cl ≠ a := fun z_ => by have w_ := rc3; rw [z_, ra3] at w_; cases w_
  have ru2_ : (up h1_ t2_ (ob 4 [.int 0, .int x])) t2_ = some (ob 4 [.int (fK 1), .int (sK 1 x)]) := by rw [fK1, sK1]; exact up_self
  obtain ⟨y6, z6⟩ := RulerM.chg y4 z4 (Chg.refl _ _ _ _) mq5.2.1
  refine g_callV ok q1095 q1097 qs5 q62 q1098 (Recv.ob ok gc_X2 (Rd.h (ra3))) dX2_set_18 (u_does X.l X.G h0 _ a R ⟨rt, cl, nl, nd, nc, nm, nf, vl, vd, vc, vm, vf, y6, z6⟩ i j (by omega) (by omega) t2_ 1 x (ru2_) (fun c p q => by rw [mby_set]; exact rg_num hn)) (nm_ (by decide : nmb _ 3 = true)) (dl rfl) (dk rfl) rfl rfl (dk rfl) (by omega) (kQ fun h3_ m3_ => ?_) xQ
  obtain ⟨rt, cl, nl, nd, nc, nm, nf, vl, vd, vc, vm, vf, y7, z7⟩ := id m3_
  have mq8 : RQ X.G h3_ (fun q => h0 q = none) a (rAct 1 x i j R) rt cl [.ref nl, .ref vl, .int ((rAct 1 x i j R) 3), .int ((rAct 1 x i j R) 4), .int ((rAct 1 x i j R) 5), .int ((rAct 1 x i j R) 0), .int ((rAct 1 x i j R) 6), .int ((rAct 1 x i j R) 7)] := y7.1
  obtain ⟨ra4, rT4, cf4, rc4, rf4⟩ := id mq8
  have nca4 : cl ≠ a := fun z_ => by have w_ := rc4; rw [z_, ra4] at w_; cases w_
  refine g_iload ok dX2_set_21 rfl ?_
  exact g_iret ok fn rfl dX2_set_23 ⟨_, rfl, rfl, ⟨rt, cl, nl, nd, nc, nm, nf, vl, vd, vc, vm, vf, y7, z7⟩⟩ (by omega)
theorem u_turn (l : Launch) (G : GE) (h0 h : AH) (a : Nat) (R : Nat → Int32) (m0 : RulerM G h0 h a R) (i j : Nat) (hij : i ≤ j) (hj : j < 32) : GM l G yX2_turn (ws_ yX2_turn cX2_turn 3 (some .int)) 14 [.ref a, .int (nI i), .int (nI j)] (h) (203) (PR fun u h' => u = .int (sm (rAct 2 0 i j R) (j + 1 - i) i 0) ∧ RulerM G h0 h' a (rAct 2 0 i j R)) := by
  refine GM.of (by decide) (dk rfl) ?_
  intro X eL eG eh ok fn
  subst eL; subst eG
  show GW X _ 0 0 [some (.ref a), some (.int (nI i)), some (.int (nI j))] []
  obtain ⟨rt, cl, nl, nd, nc, nm, nf, vl, vd, vc, vm, vf, y1, z1⟩ := id m0
  have mq2 : RQ X.G h (fun q => h0 q = none) a R rt cl [.ref nl, .ref vl, .int (R 3), .int (R 4), .int (R 5), .int (R 0), .int (R 6), .int (R 7)] := y1.1
  obtain ⟨ra1, rT1, cf1, rc1, rf1⟩ := id mq2
  have nca1 : cl ≠ a := fun z_ => by have w_ := rc1; rw [z_, ra1] at w_; cases w_
  have rn := y1.2.2.2.2.2.1.2.2.1
  refine g_aload_n ok dX2_turn_0 rfl ?_
  refine g_iload_n ok dX2_turn_1 rfl ?_
  refine g_iload_n ok dX2_turn_2 rfl ?_
  refine g_gets ok (C := "SpanRuler$Kind") (n := "TURN") (d := "LSpanRuler$Kind;") (v := .ref (X.G.ga "K2")) (by simp [gzs]) q1179 dX2_turn_3 ?_
  refine g_iconst ok (v := 0) dX2_turn_6 rfl ?_
  obtain ⟨y3, z3⟩ := RulerM.chg y1 z1 (Chg.refl _ _ _ _) mq2.2.1
  refine g_callUR ok (C := "SpanRuler$Kind$3") (owner := "SpanRuler$Kind") q1032 q1034 q1045 q1046 q1047 (ok.declA q1033) (by decide) ((Recv.kd (v := 2) (by simp [gkn]))) dX2_turn_7 (r_withX18 X.l X.G _ (X.G.ga "K2") 0) (nm_ (by decide : nmb _ 1 = true)) (dl rfl) (dk rfl) rfl rfl (dk rfl) (by omega) (kR fun u1_ hh1_ ⟨t1_, e1_, f1_, kh1_, k1_⟩ => ?_) xR
  subst e1_; subst k1_
  have m1_ := RulerM.new (e := ob 4 [.int (-1), .int 0]) (⟨rt, cl, nl, nd, nc, nm, nf, vl, vd, vc, vm, vf, y3, z3⟩ : RulerM X.G h0 h a R) f1_
  obtain ⟨rt, cl, nl, nd, nc, nm, nf, vl, vd, vc, vm, vf, y4, z4⟩ := id m1_
  have mq5 : RQ X.G (up h t1_ (ob 4 [.int (-1), .int 0])) (fun q => h0 q = none) a R rt cl [.ref nl, .ref vl, .int (R 3), .int (R 4), .int (R 5), .int (R 0), .int (R 6), .int (R 7)] := y4.1
  obtain ⟨ra2, rT2, cf2, rc2, rf2⟩ := id mq5
  have nca2 : cl ≠ a := fun z_ => by have w_ := rc2; rw [z_, ra2] at w_; cases w_
  have ru1_ : (up h t1_ (ob 4 [.int (-1), .int 0])) t1_ = some (ob 4 [.int (fK 2), .int (sK 2 0)]) := by rw [fK2, sK2]; exact up_self
  obtain ⟨y6, z6⟩ := RulerM.chg y4 z4 (Chg.refl _ _ _ _) mq5.2.1
  refine g_callV ok q1095 q1097 qs5 q62 q1098 (Recv.ob ok gc_X2 (Rd.h (ra2))) dX2_turn_10 (u_does X.l X.G h0 _ a R ⟨rt, cl, nl, nd, nc, nm, nf, vl, vd, vc, vm, vf, y6, z6⟩ i j (by omega) (by omega) t1_ 2 0 (ru1_) (fun c p q => by rw [mby_turn]; exact rg_negr (rn c (by omega)))) (nm_ (by decide : nmb _ 3 = true)) (dl rfl) (dk rfl) rfl rfl (dk rfl) (by omega) (kQ fun h2_ m2_ => ?_) xQ
  obtain ⟨rt, cl, nl, nd, nc, nm, nf, vl, vd, vc, vm, vf, y7, z7⟩ := id m2_
  have mq8 : RQ X.G h2_ (fun q => h0 q = none) a (rAct 2 0 i j R) rt cl [.ref nl, .ref vl, .int ((rAct 2 0 i j R) 3), .int ((rAct 2 0 i j R) 4), .int ((rAct 2 0 i j R) 5), .int ((rAct 2 0 i j R) 0), .int ((rAct 2 0 i j R) 6), .int ((rAct 2 0 i j R) 7)] := y7.1
  obtain ⟨ra3, rT3, cf3, rc3, rf3⟩ := id mq8
  have nca3 : cl ≠ a := fun z_ => by have w_ := rc3; rw [z_, ra3] at w_; cases w_
  refine g_aload_n ok dX2_turn_13 rfl ?_
  refine g_iload_n ok dX2_turn_14 rfl ?_
  refine g_iload_n ok dX2_turn_15 rfl ?_
  refine g_callV ok q1113 q913 q914 q62 q915 (Recv.ob ok gc_X2 (Rd.h (ra3))) dX2_turn_16 (x_sum X.l X.G _ (fun q => h0 q = none) a (rAct 2 0 i j R) rt cl nl vl ((rAct 2 0 i j R) 3) ((rAct 2 0 i j R) 4) ((rAct 2 0 i j R) 5) ((rAct 2 0 i j R) 0) ((rAct 2 0 i j R) 6) ((rAct 2 0 i j R) 7) mq8 i j (by omega) (by omega)) (nm_ (by decide : nmb _ 2 = true)) (dl rfl) (dk rfl) rfl rfl (dk rfl) (by omega) (kR fun u3_ h3_ ⟨e3_, q3_, g3_⟩ => ?_) xR
  subst e3_
  obtain ⟨ra4, rT4, cf4, rc4, rf4⟩ := id q3_
  have nca4 : cl ≠ a := fun z_ => by have w_ := rc4; rw [z_, ra4] at w_; cases w_
  obtain ⟨y9, z9⟩ := RulerM.chg y7 z7 ((Chg.refl _ _ _ _).trans g3_) q3_.2.1
  exact g_iret ok fn rfl dX2_turn_19 ⟨_, rfl, rfl, ⟨rt, cl, nl, nd, nc, nm, nf, vl, vd, vc, vm, vf, y9, z9⟩⟩ (by omega)
theorem u_isDone (l : Launch) (G : GE) (h0 h : AH) (a : Nat) (R : Nat → Int32) (m0 : RulerM G h0 h a R) (i j : Nat) (hij : i ≤ j) (hj : j < 32) (b : Nat) (k x tk : Int32) (nb : h b = some (ob 6 [.ref (G.ga (kd k)), .int (nI i), .int (nI j), .int x, .int tk])) (hk : inR k 0 2 = true) (hn : isNu k x = true) : GM l G yX2_isDone (ws_ yX2_isDone cX2_isDone 4 (some .boolean)) 14 [.ref a, .ref b] (h) (1903) (PR fun u h' => u = .int (bI (decide (lvF R k x (j + 1 - i) i = -1))) ∧ RulerM G h0 h' a (if lvF R k x (j + 1 - i) i = -1 then rAct k x i j R else R)) := by
  refine GM.of (by decide) (dk rfl) ?_
  intro X eL eG eh ok fn
  subst eL; subst eG
  show GW X _ 0 0 [some (.ref a), some (.ref b), none, none] []
  obtain ⟨rt, cl, nl, nd, nc, nm, nf, vl, vd, vc, vm, vf, y1, z1⟩ := id m0
  have mq2 : RQ X.G h (fun q => h0 q = none) a R rt cl [.ref nl, .ref vl, .int (R 3), .int (R 4), .int (R 5), .int (R 0), .int (R 6), .int (R 7)] := y1.1
  obtain ⟨ra1, rT1, cf1, rc1, rf1⟩ := id mq2
  have nca1 : cl ≠ a := fun z_ => by have w_ := rc1; rw [z_, ra1] at w_; cases w_
  rcases k_case hk with ek | ek | ek
  · subst ek
    rw [kd0] at nb
    refine g_aload_n ok dX2_isDone_0 rfl ?_
    refine g_getN ok ck_X10 0 q823 rfl (by decide) dX2_isDone_1 (Rd.h (nb)) rfl ?_
    refine g_aload_n ok dX2_isDone_4 rfl ?_
    refine g_getN ok ck_X10 3 q832 rfl (by decide) dX2_isDone_5 (Rd.h (nb)) rfl ?_
    obtain ⟨y3, z3⟩ := RulerM.chg y1 z1 (Chg.refl _ _ _ _) mq2.2.1
    refine g_callUR ok (C := "SpanRuler$Kind$1") (owner := "SpanRuler$Kind") q1032 q1034 q1035 q1036 q1037 (ok.declA q1033) (by decide) ((Recv.kd (v := 0) (by simp [gkn]))) dX2_isDone_8 (r_withX16 X.l X.G _ (X.G.ga "K0") x) (nm_ (by decide : nmb _ 1 = true)) (dl rfl) (dk rfl) rfl rfl (dk rfl) (by omega) (kR fun u1_ hh1_ ⟨t1_, e1_, f1_, kh1_, k1_⟩ => ?_) xR
    subst e1_; subst k1_
    have m1_ := RulerM.new (e := ob 4 [.int 1, .int x]) (⟨rt, cl, nl, nd, nc, nm, nf, vl, vd, vc, vm, vf, y3, z3⟩ : RulerM X.G h0 h a R) f1_
    obtain ⟨rt, cl, nl, nd, nc, nm, nf, vl, vd, vc, vm, vf, y4, z4⟩ := id m1_
    have mq5 : RQ X.G (up h t1_ (ob 4 [.int 1, .int x])) (fun q => h0 q = none) a R rt cl [.ref nl, .ref vl, .int (R 3), .int (R 4), .int (R 5), .int (R 0), .int (R 6), .int (R 7)] := y4.1
    obtain ⟨ra2, rT2, cf2, rc2, rf2⟩ := id mq5
    have nca2 : cl ≠ a := fun z_ => by have w_ := rc2; rw [z_, ra2] at w_; cases w_
    have nn1_b : b ≠ t1_ := fun z => by have w_ := nb; rw [z, f1_] at w_; cases w_
    have ru1_ : (up h t1_ (ob 4 [.int 1, .int x])) t1_ = some (ob 4 [.int (fK 0), .int (sK 0 x)]) := by rw [fK0, sK0]; exact up_self
    refine g_astore_n ok dX2_isDone_11 (ls1 := [some (.ref a), some (.ref b), some (.ref t1_), none]) (dl rfl) rfl ?_
    refine g_aload_n ok dX2_isDone_12 rfl ?_
    refine g_aload_n ok dX2_isDone_13 rfl ?_
    refine g_getN ok ck_X10 1 q826 rfl (by decide) dX2_isDone_14 (Rd.h ((up_ne nn1_b).trans (nb))) rfl ?_
    refine g_aload_n ok dX2_isDone_17 rfl ?_
    refine g_getN ok ck_X10 2 q829 rfl (by decide) dX2_isDone_18 (Rd.h ((up_ne nn1_b).trans (nb))) rfl ?_
    refine g_aload_n ok dX2_isDone_21 rfl ?_
    refine g_callV ok q1050 q1052 qs4 q62 q1053 (Recv.ob ok gc_X2 (Rd.h (ra2))) dX2_isDone_22 (x_leaving X.l X.G _ (fun q => h0 q = none) a R rt cl nl vl (R 3) (R 4) (R 5) (R 0) (R 6) (R 7) mq5 i j (by omega) (by omega) t1_ 0 x hn (ru1_)) (nm_ (by decide : nmb _ 3 = true)) (dl rfl) (dk rfl) rfl rfl (dk rfl) (by omega) (kR fun u2_ h2_ ⟨e2_, q2_, g2_⟩ => ?_) xR
    subst e2_
    obtain ⟨ra3, rT3, cf3, rc3, rf3⟩ := id q2_
    have nca3 : cl ≠ a := fun z_ => by have w_ := rc3; rw [z_, ra3] at w_; cases w_
    refine g_iconst ok (v := -1) dX2_isDone_25 rfl ?_
    refine g_icmp_ne ok (tgt := 33) dX2_isDone_26 (by decide) (fun c26 => ?_) (fun c26 => ?_)
    · refine g_iconst ok (v := 0) dX2_isDone_33 rfl ?_
      refine g_istore_n ok dX2_isDone_34 (ls1 := [some (.ref a), some (.ref b), some (.ref t1_), some (.int 0)]) (dl rfl) rfl ?_
      refine g_iload_n ok dX2_isDone_35 rfl ?_
      refine g_if_eq ok (tgt := 52) dX2_isDone_36 (by decide) (fun _ => ?_) (fun c_ => absurd rfl c_)
      refine g_iload_n ok dX2_isDone_52 rfl ?_
      obtain ⟨y6, z6⟩ := RulerM.chg y4 z4 ((Chg.refl _ _ _ _).trans g2_) q2_.2.1
      exact g_zret ok fn rfl rfl dX2_isDone_53 ⟨_, rfl, by rw [decide_eq_false c26]; rfl, by rw [if_neg c26]; exact ⟨rt, cl, nl, nd, nc, nm, nf, vl, vd, vc, vm, vf, y6, z6⟩⟩ (by omega)
    · refine g_iconst ok (v := 1) dX2_isDone_29 rfl ?_
      refine g_goto ok dX2_isDone_30 (tgt := 34) (by decide) ?_
      refine g_istore_n ok dX2_isDone_34 (ls1 := [some (.ref a), some (.ref b), some (.ref t1_), some (.int 1)]) (dl rfl) rfl ?_
      have al : ∀ c, i ≤ c → c ≤ j → rg (mby 0 (R (8 + c)) x) := fun c p q => lvF_all (j + 1 - i) i (by omega) c26 c p (by omega)
      refine g_iload_n ok dX2_isDone_35 rfl ?_
      refine g_if_eq ok (tgt := 52) dX2_isDone_36 (by decide) (fun c_ => absurd c_ (by decide)) (fun _ => ?_)
      refine g_aload_n ok dX2_isDone_39 rfl ?_
      refine g_aload_n ok dX2_isDone_40 rfl ?_
      refine g_getN ok ck_X10 1 q826 rfl (by decide) dX2_isDone_41 (Rd.h (Chg.other g2_ ((up_ne nn1_b).trans (nb)) ⟨by decide, by decide⟩)) rfl ?_
      refine g_aload_n ok dX2_isDone_44 rfl ?_
      refine g_getN ok ck_X10 2 q829 rfl (by decide) dX2_isDone_45 (Rd.h (Chg.other g2_ ((up_ne nn1_b).trans (nb)) ⟨by decide, by decide⟩)) rfl ?_
      refine g_aload_n ok dX2_isDone_48 rfl ?_
      obtain ⟨y6, z6⟩ := RulerM.chg y4 z4 ((Chg.refl _ _ _ _).trans g2_) q2_.2.1
      refine g_callV ok q1095 q1097 qs5 q62 q1098 (Recv.ob ok gc_X2 (Rd.h (ra3))) dX2_isDone_49 (u_does X.l X.G h0 _ a R ⟨rt, cl, nl, nd, nc, nm, nf, vl, vd, vc, vm, vf, y6, z6⟩ i j (by omega) (by omega) t1_ 0 x ((Chg.other g2_ (ru1_) ⟨by decide, by decide⟩)) (al)) (nm_ (by decide : nmb _ 3 = true)) (dl rfl) (dk rfl) rfl rfl (dk rfl) (by omega) (kQ fun h3_ m3_ => ?_) xQ
      obtain ⟨rt, cl, nl, nd, nc, nm, nf, vl, vd, vc, vm, vf, y7, z7⟩ := id m3_
      have mq8 : RQ X.G h3_ (fun q => h0 q = none) a (rAct 0 x i j R) rt cl [.ref nl, .ref vl, .int ((rAct 0 x i j R) 3), .int ((rAct 0 x i j R) 4), .int ((rAct 0 x i j R) 5), .int ((rAct 0 x i j R) 0), .int ((rAct 0 x i j R) 6), .int ((rAct 0 x i j R) 7)] := y7.1
      obtain ⟨ra4, rT4, cf4, rc4, rf4⟩ := id mq8
      have nca4 : cl ≠ a := fun z_ => by have w_ := rc4; rw [z_, ra4] at w_; cases w_
      refine g_iload_n ok dX2_isDone_52 rfl ?_
      exact g_zret ok fn rfl rfl dX2_isDone_53 ⟨_, rfl, by rw [decide_eq_true c26]; rfl, by rw [if_pos c26]; exact ⟨rt, cl, nl, nd, nc, nm, nf, vl, vd, vc, vm, vf, y7, z7⟩⟩ (by omega)
  · subst ek
    rw [kd1] at nb
    refine g_aload_n ok dX2_isDone_0 rfl ?_
    refine g_getN ok ck_X10 0 q823 rfl (by decide) dX2_isDone_1 (Rd.h (nb)) rfl ?_
    refine g_aload_n ok dX2_isDone_4 rfl ?_
    refine g_getN ok ck_X10 3 q832 rfl (by decide) dX2_isDone_5 (Rd.h (nb)) rfl ?_
    obtain ⟨y3, z3⟩ := RulerM.chg y1 z1 (Chg.refl _ _ _ _) mq2.2.1
    refine g_callUR ok (C := "SpanRuler$Kind$2") (owner := "SpanRuler$Kind") q1032 q1034 q1040 q1041 q1042 (ok.declA q1033) (by decide) ((Recv.kd (v := 1) (by simp [gkn]))) dX2_isDone_8 (r_withX17 X.l X.G _ (X.G.ga "K1") x) (nm_ (by decide : nmb _ 1 = true)) (dl rfl) (dk rfl) rfl rfl (dk rfl) (by omega) (kR fun u1_ hh1_ ⟨t1_, e1_, f1_, kh1_, k1_⟩ => ?_) xR
    subst e1_; subst k1_
    have m1_ := RulerM.new (e := ob 4 [.int 0, .int x]) (⟨rt, cl, nl, nd, nc, nm, nf, vl, vd, vc, vm, vf, y3, z3⟩ : RulerM X.G h0 h a R) f1_
    obtain ⟨rt, cl, nl, nd, nc, nm, nf, vl, vd, vc, vm, vf, y4, z4⟩ := id m1_
    have mq5 : RQ X.G (up h t1_ (ob 4 [.int 0, .int x])) (fun q => h0 q = none) a R rt cl [.ref nl, .ref vl, .int (R 3), .int (R 4), .int (R 5), .int (R 0), .int (R 6), .int (R 7)] := y4.1
    obtain ⟨ra2, rT2, cf2, rc2, rf2⟩ := id mq5
    have nca2 : cl ≠ a := fun z_ => by have w_ := rc2; rw [z_, ra2] at w_; cases w_
    have nn1_b : b ≠ t1_ := fun z => by have w_ := nb; rw [z, f1_] at w_; cases w_
    have ru1_ : (up h t1_ (ob 4 [.int 0, .int x])) t1_ = some (ob 4 [.int (fK 1), .int (sK 1 x)]) := by rw [fK1, sK1]; exact up_self
    refine g_astore_n ok dX2_isDone_11 (ls1 := [some (.ref a), some (.ref b), some (.ref t1_), none]) (dl rfl) rfl ?_
    refine g_aload_n ok dX2_isDone_12 rfl ?_
    refine g_aload_n ok dX2_isDone_13 rfl ?_
    refine g_getN ok ck_X10 1 q826 rfl (by decide) dX2_isDone_14 (Rd.h ((up_ne nn1_b).trans (nb))) rfl ?_
    refine g_aload_n ok dX2_isDone_17 rfl ?_
    refine g_getN ok ck_X10 2 q829 rfl (by decide) dX2_isDone_18 (Rd.h ((up_ne nn1_b).trans (nb))) rfl ?_
    refine g_aload_n ok dX2_isDone_21 rfl ?_
    refine g_callV ok q1050 q1052 qs4 q62 q1053 (Recv.ob ok gc_X2 (Rd.h (ra2))) dX2_isDone_22 (x_leaving X.l X.G _ (fun q => h0 q = none) a R rt cl nl vl (R 3) (R 4) (R 5) (R 0) (R 6) (R 7) mq5 i j (by omega) (by omega) t1_ 1 x hn (ru1_)) (nm_ (by decide : nmb _ 3 = true)) (dl rfl) (dk rfl) rfl rfl (dk rfl) (by omega) (kR fun u2_ h2_ ⟨e2_, q2_, g2_⟩ => ?_) xR
    subst e2_
    obtain ⟨ra3, rT3, cf3, rc3, rf3⟩ := id q2_
    have nca3 : cl ≠ a := fun z_ => by have w_ := rc3; rw [z_, ra3] at w_; cases w_
    refine g_iconst ok (v := -1) dX2_isDone_25 rfl ?_
    refine g_icmp_ne ok (tgt := 33) dX2_isDone_26 (by decide) (fun c26 => ?_) (fun c26 => ?_)
    · refine g_iconst ok (v := 0) dX2_isDone_33 rfl ?_
      refine g_istore_n ok dX2_isDone_34 (ls1 := [some (.ref a), some (.ref b), some (.ref t1_), some (.int 0)]) (dl rfl) rfl ?_
      refine g_iload_n ok dX2_isDone_35 rfl ?_
      refine g_if_eq ok (tgt := 52) dX2_isDone_36 (by decide) (fun _ => ?_) (fun c_ => absurd rfl c_)
      refine g_iload_n ok dX2_isDone_52 rfl ?_
      obtain ⟨y6, z6⟩ := RulerM.chg y4 z4 ((Chg.refl _ _ _ _).trans g2_) q2_.2.1
      exact g_zret ok fn rfl rfl dX2_isDone_53 ⟨_, rfl, by rw [decide_eq_false c26]; rfl, by rw [if_neg c26]; exact ⟨rt, cl, nl, nd, nc, nm, nf, vl, vd, vc, vm, vf, y6, z6⟩⟩ (by omega)
    · refine g_iconst ok (v := 1) dX2_isDone_29 rfl ?_
      refine g_goto ok dX2_isDone_30 (tgt := 34) (by decide) ?_
      refine g_istore_n ok dX2_isDone_34 (ls1 := [some (.ref a), some (.ref b), some (.ref t1_), some (.int 1)]) (dl rfl) rfl ?_
      have al : ∀ c, i ≤ c → c ≤ j → rg (mby 1 (R (8 + c)) x) := fun c p q => lvF_all (j + 1 - i) i (by omega) c26 c p (by omega)
      refine g_iload_n ok dX2_isDone_35 rfl ?_
      refine g_if_eq ok (tgt := 52) dX2_isDone_36 (by decide) (fun c_ => absurd c_ (by decide)) (fun _ => ?_)
      refine g_aload_n ok dX2_isDone_39 rfl ?_
      refine g_aload_n ok dX2_isDone_40 rfl ?_
      refine g_getN ok ck_X10 1 q826 rfl (by decide) dX2_isDone_41 (Rd.h (Chg.other g2_ ((up_ne nn1_b).trans (nb)) ⟨by decide, by decide⟩)) rfl ?_
      refine g_aload_n ok dX2_isDone_44 rfl ?_
      refine g_getN ok ck_X10 2 q829 rfl (by decide) dX2_isDone_45 (Rd.h (Chg.other g2_ ((up_ne nn1_b).trans (nb)) ⟨by decide, by decide⟩)) rfl ?_
      refine g_aload_n ok dX2_isDone_48 rfl ?_
      obtain ⟨y6, z6⟩ := RulerM.chg y4 z4 ((Chg.refl _ _ _ _).trans g2_) q2_.2.1
      refine g_callV ok q1095 q1097 qs5 q62 q1098 (Recv.ob ok gc_X2 (Rd.h (ra3))) dX2_isDone_49 (u_does X.l X.G h0 _ a R ⟨rt, cl, nl, nd, nc, nm, nf, vl, vd, vc, vm, vf, y6, z6⟩ i j (by omega) (by omega) t1_ 1 x ((Chg.other g2_ (ru1_) ⟨by decide, by decide⟩)) (al)) (nm_ (by decide : nmb _ 3 = true)) (dl rfl) (dk rfl) rfl rfl (dk rfl) (by omega) (kQ fun h3_ m3_ => ?_) xQ
      obtain ⟨rt, cl, nl, nd, nc, nm, nf, vl, vd, vc, vm, vf, y7, z7⟩ := id m3_
      have mq8 : RQ X.G h3_ (fun q => h0 q = none) a (rAct 1 x i j R) rt cl [.ref nl, .ref vl, .int ((rAct 1 x i j R) 3), .int ((rAct 1 x i j R) 4), .int ((rAct 1 x i j R) 5), .int ((rAct 1 x i j R) 0), .int ((rAct 1 x i j R) 6), .int ((rAct 1 x i j R) 7)] := y7.1
      obtain ⟨ra4, rT4, cf4, rc4, rf4⟩ := id mq8
      have nca4 : cl ≠ a := fun z_ => by have w_ := rc4; rw [z_, ra4] at w_; cases w_
      refine g_iload_n ok dX2_isDone_52 rfl ?_
      exact g_zret ok fn rfl rfl dX2_isDone_53 ⟨_, rfl, by rw [decide_eq_true c26]; rfl, by rw [if_pos c26]; exact ⟨rt, cl, nl, nd, nc, nm, nf, vl, vd, vc, vm, vf, y7, z7⟩⟩ (by omega)
  · subst ek
    rw [kd2] at nb
    have x0 : x = 0 := by unfold isNu at hn; rw [if_neg (by decide), if_neg (by decide)] at hn; exact of_decide_eq_true hn
    refine g_aload_n ok dX2_isDone_0 rfl ?_
    refine g_getN ok ck_X10 0 q823 rfl (by decide) dX2_isDone_1 (Rd.h (nb)) rfl ?_
    refine g_aload_n ok dX2_isDone_4 rfl ?_
    refine g_getN ok ck_X10 3 q832 rfl (by decide) dX2_isDone_5 (Rd.h (nb)) rfl ?_
    obtain ⟨y3, z3⟩ := RulerM.chg y1 z1 (Chg.refl _ _ _ _) mq2.2.1
    refine g_callUR ok (C := "SpanRuler$Kind$3") (owner := "SpanRuler$Kind") q1032 q1034 q1045 q1046 q1047 (ok.declA q1033) (by decide) ((Recv.kd (v := 2) (by simp [gkn]))) dX2_isDone_8 (r_withX18 X.l X.G _ (X.G.ga "K2") x) (nm_ (by decide : nmb _ 1 = true)) (dl rfl) (dk rfl) rfl rfl (dk rfl) (by omega) (kR fun u1_ hh1_ ⟨t1_, e1_, f1_, kh1_, k1_⟩ => ?_) xR
    subst e1_; subst k1_
    have m1_ := RulerM.new (e := ob 4 [.int (-1), .int 0]) (⟨rt, cl, nl, nd, nc, nm, nf, vl, vd, vc, vm, vf, y3, z3⟩ : RulerM X.G h0 h a R) f1_
    obtain ⟨rt, cl, nl, nd, nc, nm, nf, vl, vd, vc, vm, vf, y4, z4⟩ := id m1_
    have mq5 : RQ X.G (up h t1_ (ob 4 [.int (-1), .int 0])) (fun q => h0 q = none) a R rt cl [.ref nl, .ref vl, .int (R 3), .int (R 4), .int (R 5), .int (R 0), .int (R 6), .int (R 7)] := y4.1
    obtain ⟨ra2, rT2, cf2, rc2, rf2⟩ := id mq5
    have nca2 : cl ≠ a := fun z_ => by have w_ := rc2; rw [z_, ra2] at w_; cases w_
    have nn1_b : b ≠ t1_ := fun z => by have w_ := nb; rw [z, f1_] at w_; cases w_
    have ru1_ : (up h t1_ (ob 4 [.int (-1), .int 0])) t1_ = some (ob 4 [.int (fK 2), .int (sK 2 x)]) := by rw [fK2, sK2]; exact up_self
    refine g_astore_n ok dX2_isDone_11 (ls1 := [some (.ref a), some (.ref b), some (.ref t1_), none]) (dl rfl) rfl ?_
    refine g_aload_n ok dX2_isDone_12 rfl ?_
    refine g_aload_n ok dX2_isDone_13 rfl ?_
    refine g_getN ok ck_X10 1 q826 rfl (by decide) dX2_isDone_14 (Rd.h ((up_ne nn1_b).trans (nb))) rfl ?_
    refine g_aload_n ok dX2_isDone_17 rfl ?_
    refine g_getN ok ck_X10 2 q829 rfl (by decide) dX2_isDone_18 (Rd.h ((up_ne nn1_b).trans (nb))) rfl ?_
    refine g_aload_n ok dX2_isDone_21 rfl ?_
    refine g_callV ok q1050 q1052 qs4 q62 q1053 (Recv.ob ok gc_X2 (Rd.h (ra2))) dX2_isDone_22 (x_leaving X.l X.G _ (fun q => h0 q = none) a R rt cl nl vl (R 3) (R 4) (R 5) (R 0) (R 6) (R 7) mq5 i j (by omega) (by omega) t1_ 2 x hn (ru1_)) (nm_ (by decide : nmb _ 3 = true)) (dl rfl) (dk rfl) rfl rfl (dk rfl) (by omega) (kR fun u2_ h2_ ⟨e2_, q2_, g2_⟩ => ?_) xR
    subst e2_
    obtain ⟨ra3, rT3, cf3, rc3, rf3⟩ := id q2_
    have nca3 : cl ≠ a := fun z_ => by have w_ := rc3; rw [z_, ra3] at w_; cases w_
    refine g_iconst ok (v := -1) dX2_isDone_25 rfl ?_
    refine g_icmp_ne ok (tgt := 33) dX2_isDone_26 (by decide) (fun c26 => ?_) (fun c26 => ?_)
    · refine g_iconst ok (v := 0) dX2_isDone_33 rfl ?_
      refine g_istore_n ok dX2_isDone_34 (ls1 := [some (.ref a), some (.ref b), some (.ref t1_), some (.int 0)]) (dl rfl) rfl ?_
      refine g_iload_n ok dX2_isDone_35 rfl ?_
      refine g_if_eq ok (tgt := 52) dX2_isDone_36 (by decide) (fun _ => ?_) (fun c_ => absurd rfl c_)
      refine g_iload_n ok dX2_isDone_52 rfl ?_
      obtain ⟨y6, z6⟩ := RulerM.chg y4 z4 ((Chg.refl _ _ _ _).trans g2_) q2_.2.1
      exact g_zret ok fn rfl rfl dX2_isDone_53 ⟨_, rfl, by rw [decide_eq_false c26]; rfl, by rw [if_neg c26]; exact ⟨rt, cl, nl, nd, nc, nm, nf, vl, vd, vc, vm, vf, y6, z6⟩⟩ (by omega)
    · refine g_iconst ok (v := 1) dX2_isDone_29 rfl ?_
      refine g_goto ok dX2_isDone_30 (tgt := 34) (by decide) ?_
      refine g_istore_n ok dX2_isDone_34 (ls1 := [some (.ref a), some (.ref b), some (.ref t1_), some (.int 1)]) (dl rfl) rfl ?_
      have al : ∀ c, i ≤ c → c ≤ j → rg (mby 2 (R (8 + c)) x) := fun c p q => lvF_all (j + 1 - i) i (by omega) c26 c p (by omega)
      refine g_iload_n ok dX2_isDone_35 rfl ?_
      refine g_if_eq ok (tgt := 52) dX2_isDone_36 (by decide) (fun c_ => absurd c_ (by decide)) (fun _ => ?_)
      refine g_aload_n ok dX2_isDone_39 rfl ?_
      refine g_aload_n ok dX2_isDone_40 rfl ?_
      refine g_getN ok ck_X10 1 q826 rfl (by decide) dX2_isDone_41 (Rd.h (Chg.other g2_ ((up_ne nn1_b).trans (nb)) ⟨by decide, by decide⟩)) rfl ?_
      refine g_aload_n ok dX2_isDone_44 rfl ?_
      refine g_getN ok ck_X10 2 q829 rfl (by decide) dX2_isDone_45 (Rd.h (Chg.other g2_ ((up_ne nn1_b).trans (nb)) ⟨by decide, by decide⟩)) rfl ?_
      refine g_aload_n ok dX2_isDone_48 rfl ?_
      obtain ⟨y6, z6⟩ := RulerM.chg y4 z4 ((Chg.refl _ _ _ _).trans g2_) q2_.2.1
      refine g_callV ok q1095 q1097 qs5 q62 q1098 (Recv.ob ok gc_X2 (Rd.h (ra3))) dX2_isDone_49 (u_does X.l X.G h0 _ a R ⟨rt, cl, nl, nd, nc, nm, nf, vl, vd, vc, vm, vf, y6, z6⟩ i j (by omega) (by omega) t1_ 2 x ((Chg.other g2_ (ru1_) ⟨by decide, by decide⟩)) (al)) (nm_ (by decide : nmb _ 3 = true)) (dl rfl) (dk rfl) rfl rfl (dk rfl) (by omega) (kQ fun h3_ m3_ => ?_) xQ
      obtain ⟨rt, cl, nl, nd, nc, nm, nf, vl, vd, vc, vm, vf, y7, z7⟩ := id m3_
      have mq8 : RQ X.G h3_ (fun q => h0 q = none) a (rAct 2 x i j R) rt cl [.ref nl, .ref vl, .int ((rAct 2 x i j R) 3), .int ((rAct 2 x i j R) 4), .int ((rAct 2 x i j R) 5), .int ((rAct 2 x i j R) 0), .int ((rAct 2 x i j R) 6), .int ((rAct 2 x i j R) 7)] := y7.1
      obtain ⟨ra4, rT4, cf4, rc4, rf4⟩ := id mq8
      have nca4 : cl ≠ a := fun z_ => by have w_ := rc4; rw [z_, ra4] at w_; cases w_
      refine g_iload_n ok dX2_isDone_52 rfl ?_
      exact g_zret ok fn rfl rfl dX2_isDone_53 ⟨_, rfl, by rw [decide_eq_true c26]; rfl, by rw [if_pos c26]; exact ⟨rt, cl, nl, nd, nc, nm, nf, vl, vd, vc, vm, vf, y7, z7⟩⟩ (by omega)
