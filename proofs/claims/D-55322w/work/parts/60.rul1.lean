/-! the ruler is asked, 1 -/
set_option maxRecDepth 100000
abbrev cX2_number : ByteArray := prog_16_method_3_code
def yX2_number : MethodName := ⟨RX2, "number", "(I)I"⟩
def dkwX2_number_0 : List UInt8 := [42, 180, 0, 13, 27, 27, 184, 0, 90, 172]
abbrev dktX2_number_0 : List UInt8 := dkwX2_number_0 ++ []
theorem dksX2_number_0 : cX2_number.data.toList.drop 0 = dktX2_number_0 := by decide +kernel
theorem dX2_number_0 : decode cX2_number 0 = .ok (.aload_n 0, 1) := dk_42 (dk_at dksX2_number_0 0 rfl rfl)
theorem dX2_number_1 : decode cX2_number 1 = .ok (.getfield 13, 3) := dk_180 0 13 (dk_at dksX2_number_0 1 rfl rfl)
theorem dX2_number_4 : decode cX2_number 4 = .ok (.iload_n 1, 1) := dk_27 (dk_at dksX2_number_0 4 rfl rfl)
theorem dX2_number_5 : decode cX2_number 5 = .ok (.iload_n 1, 1) := dk_27 (dk_at dksX2_number_0 5 rfl rfl)
theorem dX2_number_6 : decode cX2_number 6 = .ok (.invokestatic 90, 3) := dk_184 0 90 (dk_at dksX2_number_0 6 rfl rfl)
theorem dX2_number_9 : decode cX2_number 9 = .ok (.ireturn, 1) := dk_172 (dk_at dksX2_number_0 9 rfl rfl)
abbrev cX2_sum : ByteArray := prog_16_method_4_code
def yX2_sum : MethodName := ⟨RX2, "sum", "(II)I"⟩
def dkwX2_sum_0 : List UInt8 := [42, 180, 0, 13, 27, 28, 184, 0, 90, 172]
abbrev dktX2_sum_0 : List UInt8 := dkwX2_sum_0 ++ []
theorem dksX2_sum_0 : cX2_sum.data.toList.drop 0 = dktX2_sum_0 := by decide +kernel
theorem dX2_sum_0 : decode cX2_sum 0 = .ok (.aload_n 0, 1) := dk_42 (dk_at dksX2_sum_0 0 rfl rfl)
theorem dX2_sum_1 : decode cX2_sum 1 = .ok (.getfield 13, 3) := dk_180 0 13 (dk_at dksX2_sum_0 1 rfl rfl)
theorem dX2_sum_4 : decode cX2_sum 4 = .ok (.iload_n 1, 1) := dk_27 (dk_at dksX2_sum_0 4 rfl rfl)
theorem dX2_sum_5 : decode cX2_sum 5 = .ok (.iload_n 2, 1) := dk_28 (dk_at dksX2_sum_0 5 rfl rfl)
theorem dX2_sum_6 : decode cX2_sum 6 = .ok (.invokestatic 90, 3) := dk_184 0 90 (dk_at dksX2_sum_0 6 rfl rfl)
theorem dX2_sum_9 : decode cX2_sum 9 = .ok (.ireturn, 1) := dk_172 (dk_at dksX2_sum_0 9 rfl rfl)
abbrev cX2_sumAgain : ByteArray := prog_16_method_5_code
def yX2_sumAgain : MethodName := ⟨RX2, "sumAgain", "(II)I"⟩
def dkwX2_sumAgain_1 : List UInt8 := [100, 184, 0, 90, 100, 172]
abbrev dktX2_sumAgain_1 : List UInt8 := dkwX2_sumAgain_1 ++ []
def dkwX2_sumAgain_0 : List UInt8 := [42, 180, 0, 13, 3, 28, 184, 0, 90, 27, 154, 0, 7, 3, 167, 0, 14, 42, 180, 0, 13, 3, 27, 4]
abbrev dktX2_sumAgain_0 : List UInt8 := dkwX2_sumAgain_0 ++ dktX2_sumAgain_1
theorem dksX2_sumAgain_0 : cX2_sumAgain.data.toList.drop 0 = dktX2_sumAgain_0 := by decide +kernel
theorem dksX2_sumAgain_1 : cX2_sumAgain.data.toList.drop 24 = dktX2_sumAgain_1 := dk_seg dksX2_sumAgain_0 24 rfl rfl
theorem dX2_sumAgain_0 : decode cX2_sumAgain 0 = .ok (.aload_n 0, 1) := dk_42 (dk_at dksX2_sumAgain_0 0 rfl rfl)
theorem dX2_sumAgain_1 : decode cX2_sumAgain 1 = .ok (.getfield 13, 3) := dk_180 0 13 (dk_at dksX2_sumAgain_0 1 rfl rfl)
theorem dX2_sumAgain_4 : decode cX2_sumAgain 4 = .ok (.iconst 0, 1) := dk_3 (dk_at dksX2_sumAgain_0 4 rfl rfl)
theorem dX2_sumAgain_5 : decode cX2_sumAgain 5 = .ok (.iload_n 2, 1) := dk_28 (dk_at dksX2_sumAgain_0 5 rfl rfl)
theorem dX2_sumAgain_6 : decode cX2_sumAgain 6 = .ok (.invokestatic 90, 3) := dk_184 0 90 (dk_at dksX2_sumAgain_0 6 rfl rfl)
theorem dX2_sumAgain_9 : decode cX2_sumAgain 9 = .ok (.iload_n 1, 1) := dk_27 (dk_at dksX2_sumAgain_0 9 rfl rfl)
theorem dX2_sumAgain_10 : decode cX2_sumAgain 10 = .ok (.ifCond .ne 7, 3) := dk_154 0 7 (dk_at dksX2_sumAgain_0 10 rfl rfl)
theorem dX2_sumAgain_13 : decode cX2_sumAgain 13 = .ok (.iconst 0, 1) := dk_3 (dk_at dksX2_sumAgain_0 13 rfl rfl)
theorem dX2_sumAgain_14 : decode cX2_sumAgain 14 = .ok (.goto 14, 3) := dk_167 0 14 (dk_at dksX2_sumAgain_0 14 rfl rfl)
theorem dX2_sumAgain_17 : decode cX2_sumAgain 17 = .ok (.aload_n 0, 1) := dk_42 (dk_at dksX2_sumAgain_0 17 rfl rfl)
theorem dX2_sumAgain_18 : decode cX2_sumAgain 18 = .ok (.getfield 13, 3) := dk_180 0 13 (dk_at dksX2_sumAgain_0 18 rfl rfl)
theorem dX2_sumAgain_21 : decode cX2_sumAgain 21 = .ok (.iconst 0, 1) := dk_3 (dk_at dksX2_sumAgain_0 21 rfl rfl)
theorem dX2_sumAgain_22 : decode cX2_sumAgain 22 = .ok (.iload_n 1, 1) := dk_27 (dk_at dksX2_sumAgain_0 22 rfl rfl)
theorem dX2_sumAgain_23 : decode cX2_sumAgain 23 = .ok (.iconst 1, 1) := dk_4 (dk_at dksX2_sumAgain_0 23 rfl rfl)
theorem dX2_sumAgain_24 : decode cX2_sumAgain 24 = .ok (.isub, 1) := dk_100 (dk_at dksX2_sumAgain_1 0 rfl rfl)
theorem dX2_sumAgain_25 : decode cX2_sumAgain 25 = .ok (.invokestatic 90, 3) := dk_184 0 90 (dk_at dksX2_sumAgain_1 1 rfl rfl)
theorem dX2_sumAgain_28 : decode cX2_sumAgain 28 = .ok (.isub, 1) := dk_100 (dk_at dksX2_sumAgain_1 4 rfl rfl)
theorem dX2_sumAgain_29 : decode cX2_sumAgain 29 = .ok (.ireturn, 1) := dk_172 (dk_at dksX2_sumAgain_1 5 rfl rfl)
abbrev cX2_count : ByteArray := prog_16_method_16_code
def yX2_count : MethodName := ⟨RX2, "count", "(III)I"⟩
def dkwX2_count_1 : List UInt8 := [160, 0, 7, 4, 167, 0, 4, 3, 96, 54, 4, 132, 5, 1, 167, 255, 224, 21, 4, 172]
abbrev dktX2_count_1 : List UInt8 := dkwX2_count_1 ++ []
def dkwX2_count_0 : List UInt8 := [3, 54, 4, 27, 54, 5, 21, 5, 28, 163, 0, 32, 21, 4, 42, 21, 5, 182, 0, 106, 184, 0, 156, 29]
abbrev dktX2_count_0 : List UInt8 := dkwX2_count_0 ++ dktX2_count_1
theorem dksX2_count_0 : cX2_count.data.toList.drop 0 = dktX2_count_0 := by decide +kernel
theorem dksX2_count_1 : cX2_count.data.toList.drop 24 = dktX2_count_1 := dk_seg dksX2_count_0 24 rfl rfl
theorem dX2_count_0 : decode cX2_count 0 = .ok (.iconst 0, 1) := dk_3 (dk_at dksX2_count_0 0 rfl rfl)
theorem dX2_count_1 : decode cX2_count 1 = .ok (.istore 4, 2) := dk_54 4 (dk_at dksX2_count_0 1 rfl rfl)
theorem dX2_count_3 : decode cX2_count 3 = .ok (.iload_n 1, 1) := dk_27 (dk_at dksX2_count_0 3 rfl rfl)
theorem dX2_count_4 : decode cX2_count 4 = .ok (.istore 5, 2) := dk_54 5 (dk_at dksX2_count_0 4 rfl rfl)
theorem dX2_count_6 : decode cX2_count 6 = .ok (.iload 5, 2) := dk_21 5 (dk_at dksX2_count_0 6 rfl rfl)
theorem dX2_count_8 : decode cX2_count 8 = .ok (.iload_n 2, 1) := dk_28 (dk_at dksX2_count_0 8 rfl rfl)
theorem dX2_count_9 : decode cX2_count 9 = .ok (.if_icmp .gt 32, 3) := dk_163 0 32 (dk_at dksX2_count_0 9 rfl rfl)
theorem dX2_count_12 : decode cX2_count 12 = .ok (.iload 4, 2) := dk_21 4 (dk_at dksX2_count_0 12 rfl rfl)
theorem dX2_count_14 : decode cX2_count 14 = .ok (.aload_n 0, 1) := dk_42 (dk_at dksX2_count_0 14 rfl rfl)
theorem dX2_count_15 : decode cX2_count 15 = .ok (.iload 5, 2) := dk_21 5 (dk_at dksX2_count_0 15 rfl rfl)
theorem dX2_count_17 : decode cX2_count 17 = .ok (.invokevirtual 106, 3) := dk_182 0 106 (dk_at dksX2_count_0 17 rfl rfl)
theorem dX2_count_20 : decode cX2_count 20 = .ok (.invokestatic 156, 3) := dk_184 0 156 (dk_at dksX2_count_0 20 rfl rfl)
theorem dX2_count_23 : decode cX2_count 23 = .ok (.iload_n 3, 1) := dk_29 (dk_at dksX2_count_0 23 rfl rfl)
theorem dX2_count_24 : decode cX2_count 24 = .ok (.if_icmp .ne 7, 3) := dk_160 0 7 (dk_at dksX2_count_1 0 rfl rfl)
theorem dX2_count_27 : decode cX2_count 27 = .ok (.iconst 1, 1) := dk_4 (dk_at dksX2_count_1 3 rfl rfl)
theorem dX2_count_28 : decode cX2_count 28 = .ok (.goto 4, 3) := dk_167 0 4 (dk_at dksX2_count_1 4 rfl rfl)
theorem dX2_count_31 : decode cX2_count 31 = .ok (.iconst 0, 1) := dk_3 (dk_at dksX2_count_1 7 rfl rfl)
theorem dX2_count_32 : decode cX2_count 32 = .ok (.iadd, 1) := dk_96 (dk_at dksX2_count_1 8 rfl rfl)
theorem dX2_count_33 : decode cX2_count 33 = .ok (.istore 4, 2) := dk_54 4 (dk_at dksX2_count_1 9 rfl rfl)
theorem dX2_count_35 : decode cX2_count 35 = .ok (.iinc 5 1, 3) := dk_132 5 1 (dk_at dksX2_count_1 11 rfl rfl)
theorem dX2_count_38 : decode cX2_count 38 = .ok (.goto (-32), 3) := dk_167 255 224 (dk_at dksX2_count_1 14 rfl rfl)
theorem dX2_count_41 : decode cX2_count 41 = .ok (.iload 4, 2) := dk_21 4 (dk_at dksX2_count_1 17 rfl rfl)
theorem dX2_count_43 : decode cX2_count 43 = .ok (.ireturn, 1) := dk_172 (dk_at dksX2_count_1 19 rfl rfl)
theorem q243 : (Jvm.Cond.fieldLink "SpanRuler$Ruler" (13 : Nat) "SpanRuler$Ruler" "root" "LSpanRuler$Node;") ∈ lw_all := lw_g (lw_at lw_m1 183 rfl) rfl
theorem q916 : (Jvm.Cond.methodLinkNest "SpanRuler$Ruler" (90 : Nat) ({ cls := "SpanRuler", name := "sumOf", desc := "(LSpanRuler$Node;II)I" } : Jvm.MethodName) "SpanRuler") ∈ lw_tbl := lw_at lw_m4 136 rfl
theorem q1065 : (Jvm.Cond.methodLink "SpanRuler$Ruler" (106 : Nat) ({ cls := "SpanRuler$Ruler", name := "number", desc := "(I)I" } : Jvm.MethodName)) ∈ lw_all := lw_g (lw_at lw_m5 45 rfl) rfl
theorem q62 : (Jvm.Cond.initialized "SpanRuler$Ruler") ∈ lw_all := lw_g (lw_at lw_m1 2 rfl) rfl
theorem q1068 : (Jvm.Cond.code ({ cls := "SpanRuler$Ruler", name := "number", desc := "(I)I" } : Jvm.MethodName) prog_16_method_3_code (2 : Nat) (Option.some Jvm.ClassFile.FieldType.int)) ∈ lw_all := lw_g (lw_at lw_m5 48 rfl) rfl
theorem q1066 : (Jvm.Cond.instanceMethod ({ cls := "SpanRuler$Ruler", name := "number", desc := "(I)I" } : Jvm.MethodName)) ∈ lw_all := lw_g (lw_at lw_m5 46 rfl) rfl
theorem q1067 : (Jvm.Cond.selects "SpanRuler$Ruler" ({ cls := "SpanRuler$Ruler", name := "number", desc := "(I)I" } : Jvm.MethodName) ({ cls := "SpanRuler$Ruler", name := "number", desc := "(I)I" } : Jvm.MethodName)) ∈ lw_all := lw_g (lw_at lw_m5 47 rfl) rfl
theorem q1393 : (Jvm.Cond.methodLink "SpanRuler$Ruler" (156 : Nat) ({ cls := "java/lang/Integer", name := "signum", desc := "(I)I" } : Jvm.MethodName)) ∈ lw_all := lw_g (lw_at lw_m6 133 rfl) rfl
theorem x_number (l : Launch) (G : GE) (h : AH) (P : Nat → Prop) (a : Nat) (R : Nat → Int32) (rt cl nl vl : Nat) (i3 i4 i5 i0 i6 i7 : Int32) (q0 : RQ G h P a R rt cl [.ref nl, .ref vl, .int i3, .int i4, .int i5, .int i0, .int i6, .int i7]) (c : Nat) (hc : c < 32) : GM l G yX2_number (ws_ yX2_number cX2_number 2 (some .int)) 11 [.ref a, .int (nI c)] (h) (48) (PR fun u h' => u = .int (R (8 + c)) ∧ RQ G h' P a R rt cl [.ref nl, .ref vl, .int i3, .int i4, .int i5, .int i0, .int i6, .int i7] ∧ Chg P 0 32 h h') := by
  refine GM.of (by decide) (dk rfl) ?_
  intro X eL eG eh ok fn
  subst eL; subst eG
  show GW X _ 0 0 [some (.ref a), some (.int (nI c))] []
  obtain ⟨ra1, rT1, cf1, rc1, rf1⟩ := id q0
  refine g_aload_n ok dX2_number_0 rfl ?_
  refine g_get ok ck_X2 0 q243 (Or.inl rfl) (by decide) dX2_number_1 (Rd.h (ra1)) rfl ?_
  refine g_iload_n ok dX2_number_4 rfl ?_
  refine g_iload_n ok dX2_number_5 rfl ?_
  refine g_callSN ok q916 q917 q61 q918 dX2_number_6 (q_sumOf X.l X.G P c c (by omega) (by omega) 5 _ _ 0 rt 48 rT1 (by decide) (cst_one c (by omega))) (nm_ (by decide : nmb _ 3 = true)) (dl rfl) (dk rfl) rfl rfl (dk rfl) (by omega) (kR fun u1_ h1_ ⟨g1_, e1_, s1_, t1_, c1_⟩ => ?_) xR
  subst e1_
  have q1_ := RQ.chg q0 c1_ t1_
  obtain ⟨ra2, rT2, cf2, rc2, rf2⟩ := id q1_
  have z1_ := sm_one (R := R) (by omega) s1_
  subst z1_
  exact g_iret ok fn rfl dX2_number_9 ⟨_, rfl, rfl, q1_, (Chg.refl _ _ _ _).trans c1_⟩ (by omega)
theorem x_sum (l : Launch) (G : GE) (h : AH) (P : Nat → Prop) (a : Nat) (R : Nat → Int32) (rt cl nl vl : Nat) (i3 i4 i5 i0 i6 i7 : Int32) (q0 : RQ G h P a R rt cl [.ref nl, .ref vl, .int i3, .int i4, .int i5, .int i0, .int i6, .int i7]) (i j : Nat) (hij : i ≤ j) (hj : j < 32) : GM l G yX2_sum (ws_ yX2_sum cX2_sum 3 (some .int)) 11 [.ref a, .int (nI i), .int (nI j)] (h) (100) (PR fun u h' => u = .int (sm R (j + 1 - i) i 0) ∧ RQ G h' P a R rt cl [.ref nl, .ref vl, .int i3, .int i4, .int i5, .int i0, .int i6, .int i7] ∧ Chg P 0 32 h h') := by
  refine GM.of (by decide) (dk rfl) ?_
  intro X eL eG eh ok fn
  subst eL; subst eG
  show GW X _ 0 0 [some (.ref a), some (.int (nI i)), some (.int (nI j))] []
  obtain ⟨ra1, rT1, cf1, rc1, rf1⟩ := id q0
  refine g_aload_n ok dX2_sum_0 rfl ?_
  refine g_get ok ck_X2 0 q243 (Or.inl rfl) (by decide) dX2_sum_1 (Rd.h (ra1)) rfl ?_
  refine g_iload_n ok dX2_sum_4 rfl ?_
  refine g_iload_n ok dX2_sum_5 rfl ?_
  refine g_callSN ok q916 q917 q61 q918 dX2_sum_6 (q_sumOf X.l X.G P i j (by omega) (by omega) 5 _ _ 0 rt 100 rT1 (by decide) (cst_two i (by omega) j (by omega))) (nm_ (by decide : nmb _ 3 = true)) (dl rfl) (dk rfl) rfl rfl (dk rfl) (by omega) (kR fun u1_ h1_ ⟨g1_, e1_, s1_, t1_, c1_⟩ => ?_) xR
  subst e1_
  have q1_ := RQ.chg q0 c1_ t1_
  obtain ⟨ra2, rT2, cf2, rc2, rf2⟩ := id q1_
  have z1_ := sm_span (R := R) (by omega) (by omega) s1_
  subst z1_
  exact g_iret ok fn rfl dX2_sum_9 ⟨_, rfl, rfl, q1_, (Chg.refl _ _ _ _).trans c1_⟩ (by omega)
theorem sm_again {R : Nat → Int32} {i j : Nat} (h : i ≤ j) (h0 : i ≠ 0) : sm R (j + 1) 0 0 - sm R (i - 1 + 1) 0 0 = sm R (j + 1 - i) i 0 := by
  rw [sm0, sm0, sm0, show i - 1 + 1 = i by omega]
  rw [show j + 1 = i + (j + 1 - i) by omega, tsum_add, Nat.zero_add, show i + (j + 1 - i) - i = j + 1 - i by omega]
  rw [Int32.add_comm, Int32.add_sub_cancel]
theorem x_sumAgain (l : Launch) (G : GE) (h : AH) (P : Nat → Prop) (a : Nat) (R : Nat → Int32) (rt cl nl vl : Nat) (i3 i4 i5 i0 i6 i7 : Int32) (q0 : RQ G h P a R rt cl [.ref nl, .ref vl, .int i3, .int i4, .int i5, .int i0, .int i6, .int i7]) (i j : Nat) (hij : i ≤ j) (hj : j < 32) : GM l G yX2_sumAgain (ws_ yX2_sumAgain cX2_sumAgain 3 (some .int)) 11 [.ref a, .int (nI i), .int (nI j)] (h) (200) (PR fun u h' => u = .int (sm R (j + 1 - i) i 0) ∧ RQ G h' P a R rt cl [.ref nl, .ref vl, .int i3, .int i4, .int i5, .int i0, .int i6, .int i7] ∧ Chg P 0 32 h h') := by
  refine GM.of (by decide) (dk rfl) ?_
  intro X eL eG eh ok fn
  subst eL; subst eG
  show GW X _ 0 0 [some (.ref a), some (.int (nI i)), some (.int (nI j))] []
  obtain ⟨ra1, rT1, cf1, rc1, rf1⟩ := id q0
  refine g_aload_n ok dX2_sumAgain_0 rfl ?_
  refine g_get ok ck_X2 0 q243 (Or.inl rfl) (by decide) dX2_sumAgain_1 (Rd.h (ra1)) rfl ?_
  refine g_iconst ok (v := 0) dX2_sumAgain_4 rfl ?_
  refine g_iload_n ok dX2_sumAgain_5 rfl ?_
  refine g_callSN ok q916 q917 q61 q918 dX2_sumAgain_6 (q_sumOf X.l X.G P 0 j (by omega) (by omega) 5 _ _ 0 rt 100 rT1 (by decide) (cst_two 0 (by omega) j (by omega))) (nm_ (by decide : nmb _ 3 = true)) (dl rfl) (dk rfl) rfl rfl (dk rfl) (by omega) (kR fun u1_ h1_ ⟨g1_, e1_, s1_, t1_, c1_⟩ => ?_) xR
  subst e1_
  have q1_ := RQ.chg q0 c1_ t1_
  obtain ⟨ra2, rT2, cf2, rc2, rf2⟩ := id q1_
  have z1_ := sm_span (R := R) (by omega) (by omega) s1_
  subst z1_
  refine g_iload_n ok dX2_sumAgain_9 rfl ?_
  by_cases c0 : i = 0
  · subst c0
    refine g_if_ne ok (tgt := 17) dX2_sumAgain_10 (by decide) (fun c_ => absurd (congrArg nI (by omega : 0 = 0)) c_) (fun _ => ?_)
    refine g_iconst ok (v := 0) dX2_sumAgain_13 rfl ?_
    refine g_goto ok dX2_sumAgain_14 (tgt := 28) (by decide) ?_
    refine g_isub ok dX2_sumAgain_28 ?_
    exact g_iret ok fn rfl dX2_sumAgain_29 ⟨_, rfl, congrArg Value.int (Int32.sub_zero _), q1_, (Chg.refl _ _ _ _).trans c1_⟩ (by omega)
  · refine g_if_ne ok (tgt := 17) dX2_sumAgain_10 (by decide) (fun _ => ?_) (fun c_ => absurd c_ (fun e_ => by have := (nI_eq (a := i) (b := 0) (by omega) (by omega)).mp e_; omega))
    refine g_aload_n ok dX2_sumAgain_17 rfl ?_
    refine g_get ok ck_X2 0 q243 (Or.inl rfl) (by decide) dX2_sumAgain_18 (Rd.h (ra2)) rfl ?_
    refine g_iconst ok (v := 0) dX2_sumAgain_21 rfl ?_
    refine g_iload_n ok dX2_sumAgain_22 rfl ?_
    refine g_iconst ok (v := 1) dX2_sumAgain_23 rfl ?_
    refine g_isubN ok dX2_sumAgain_24 (c := (i - 1)) (a := i) (b := 1) rfl rfl (by omega) (by omega) ?_
    refine g_callSN ok q916 q917 q61 q918 dX2_sumAgain_25 (q_sumOf X.l X.G P 0 (i - 1) (by omega) (by omega) 5 _ _ 0 rt 100 rT2 (by decide) (cst_two 0 (by omega) (i - 1) (by omega))) (nm_ (by decide : nmb _ 3 = true)) (dl rfl) (dk rfl) rfl rfl (dk rfl) (by omega) (kR fun u2_ h2_ ⟨g2_, e2_, s2_, t2_, c2_⟩ => ?_) xR
    subst e2_
    have q2_ := RQ.chg q1_ c2_ t2_
    obtain ⟨ra3, rT3, cf3, rc3, rf3⟩ := id q2_
    have z2_ := sm_span (R := R) (by omega) (by omega) s2_
    subst z2_
    refine g_isub ok dX2_sumAgain_28 ?_
    exact g_iret ok fn rfl dX2_sumAgain_29 ⟨_, rfl, congrArg Value.int (sm_again hij c0), q2_, ((Chg.refl _ _ _ _).trans c1_).trans c2_⟩ (by omega)
theorem x_count (l : Launch) (G : GE) (h : AH) (P : Nat → Prop) (a : Nat) (R : Nat → Int32) (rt cl nl vl : Nat) (i3 i4 i5 i0 i6 i7 : Int32) (q0 : RQ G h P a R rt cl [.ref nl, .ref vl, .int i3, .int i4, .int i5, .int i0, .int i6, .int i7]) (i j : Nat) (hij : i ≤ j) (hj : j < 32) (g : Int32) : GM l G yX2_count (ws_ yX2_count cX2_count 6 (some .int)) 12 [.ref a, .int (nI i), .int (nI j), .int g] (h) (1540) (PR fun u h' => u = .int (cnl R g (j + 1 - i) i 0) ∧ RQ G h' P a R rt cl [.ref nl, .ref vl, .int i3, .int i4, .int i5, .int i0, .int i6, .int i7] ∧ Chg P 0 32 h h') := by
  refine GM.of (by decide) (dk rfl) ?_
  intro X eL eG eh ok fn
  subst eL; subst eG
  show GW X _ 0 0 [some (.ref a), some (.int (nI i)), some (.int (nI j)), some (.int g), none, none] []
  obtain ⟨ra1, rT1, cf1, rc1, rf1⟩ := id q0
  refine g_iconst ok (v := 0) dX2_count_0 rfl ?_
  refine g_istore ok dX2_count_1 (ls1 := [some (.ref a), some (.int (nI i)), some (.int (nI j)), some (.int g), some (.int 0), none]) (dl rfl) rfl ?_
  refine g_iload_n ok dX2_count_3 rfl ?_
  refine g_istore ok dX2_count_4 (ls1 := [some (.ref a), some (.int (nI i)), some (.int (nI j)), some (.int g), some (.int 0), some (.int (nI i))]) (dl rfl) rfl ?_
  have lp : ∀ (n : Nat) (c : Nat) (m : Int32) (Hlp : AH) (klp : Nat), (c + n = j + 1) → (cnl R g n c m = cnl R g (j + 1 - i) i 0) → (RQ X.G Hlp P a R rt cl [.ref nl, .ref vl, .int i3, .int i4, .int i5, .int i0, .int i6, .int i7]) → (Chg P 0 32 h Hlp) → (klp + 48 * n ≤ 1540) → GW X Hlp klp 6 [some (.ref a), some (.int (nI i)), some (.int (nI j)), some (.int g), some (.int m), some (.int (nI c))] [] := by
    intro n
    induction n with
    | zero => 
      intro c m Hlp klp lph0 lph1 qlp glp blp
      obtain ⟨ra2, rT2, cf2, rc2, rf2⟩ := id qlp
      refine g_iload ok dX2_count_6 rfl ?_
      refine g_iload_n ok dX2_count_8 rfl ?_
      refine g_icmp_gt ok (tgt := 41) dX2_count_9 (by decide) (fun _ => ?_) (fun c_ => absurd (nI_lt (a := j) (b := c) (by omega) (by omega)) c_)
      refine g_iload ok dX2_count_41 rfl ?_
      exact g_iret ok fn rfl dX2_count_43 ⟨_, rfl, congrArg Value.int lph1, qlp, glp⟩ (by omega)
    | succ n ih => 
      intro c m Hlp klp lph0 lph1 qlp glp blp
      obtain ⟨ra2, rT2, cf2, rc2, rf2⟩ := id qlp
      refine g_iload ok dX2_count_6 rfl ?_
      refine g_iload_n ok dX2_count_8 rfl ?_
      refine g_icmp_gt ok (tgt := 41) dX2_count_9 (by decide) (fun c_ => absurd c_ (nI_nlt (a := j) (b := c) (by omega) (by omega))) (fun _ => ?_)
      refine g_iload ok dX2_count_12 rfl ?_
      refine g_aload_n ok dX2_count_14 rfl ?_
      refine g_iload ok dX2_count_15 rfl ?_
      refine g_callV ok q1065 q1066 q1067 q62 q1068 (Recv.ob ok gc_X2 (Rd.h (ra2))) dX2_count_17 (x_number X.l X.G _ P a R rt cl nl vl i3 i4 i5 i0 i6 i7 qlp c (by omega)) (nm_ (by decide : nmb _ 1 = true)) (dl rfl) (dk rfl) rfl rfl (dk rfl) (by omega) (kR fun u1_ h1_ ⟨e1_, q1_, g1_⟩ => ?_) xR
      subst e1_
      obtain ⟨ra3, rT3, cf3, rc3, rf3⟩ := id q1_
      refine g_callS ok q1393 q1394 q94 q1395 dX2_count_20 (m_signum X.l X.G _ (R (8 + c))) (nm_ (by decide : nmb _ 1 = true)) (dl rfl) (dk rfl) rfl rfl (dk rfl) (by omega) (kV ?_) xV
      refine g_iload_n ok dX2_count_23 rfl ?_
      refine g_icmp_ne ok (tgt := 31) dX2_count_24 (by decide) (fun c24 => ?_) (fun c24 => ?_)
      · refine g_iconst ok (v := 0) dX2_count_31 rfl ?_
        refine g_iadd ok dX2_count_32 ?_
        refine g_istore ok dX2_count_33 (ls1 := [some (.ref a), some (.int (nI i)), some (.int (nI j)), some (.int g), some (.int (m + 0)), some (.int (nI c))]) (dl rfl) rfl ?_
        refine g_iincN ok dX2_count_35 (c := c) rfl rfl (ls1 := [some (.ref a), some (.int (nI i)), some (.int (nI j)), some (.int g), some (.int (m + 0)), some (.int (nI (c + 1)))]) rfl ?_
        refine g_goto ok dX2_count_38 (tgt := 6) (by decide) ?_
        exact ih (c + 1) (m + 0) _ _ (by omega) (by rw [← lph1, cnl]; simp [c24]) q1_ ((glp).trans g1_) (by omega)
      · refine g_iconst ok (v := 1) dX2_count_27 rfl ?_
        refine g_goto ok dX2_count_28 (tgt := 32) (by decide) ?_
        refine g_iadd ok dX2_count_32 ?_
        refine g_istore ok dX2_count_33 (ls1 := [some (.ref a), some (.int (nI i)), some (.int (nI j)), some (.int g), some (.int (m + 1)), some (.int (nI c))]) (dl rfl) rfl ?_
        refine g_iincN ok dX2_count_35 (c := c) rfl rfl (ls1 := [some (.ref a), some (.int (nI i)), some (.int (nI j)), some (.int g), some (.int (m + 1)), some (.int (nI (c + 1)))]) rfl ?_
        refine g_goto ok dX2_count_38 (tgt := 6) (by decide) ?_
        exact ih (c + 1) (m + 1) _ _ (by omega) (by rw [← lph1, cnl]; simp [c24]) q1_ ((glp).trans g1_) (by omega)
  exact lp (j + 1 - i) i 0 _ _ (by omega) rfl q0 (Chg.refl _ _ _ _) (by omega)
