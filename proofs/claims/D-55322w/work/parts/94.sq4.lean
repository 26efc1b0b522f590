/-! the SpanRuler is asked, 3 -/
set_option maxRecDepth 100000
abbrev cX1_differ : ByteArray := prog_1_method_48_code
def yX1_differ : MethodName := ⟨RX1, "differ", "(III)I"⟩
def dkwX1_differ_1 : List UInt8 := [182, 1, 70, 172]
abbrev dktX1_differ_1 : List UInt8 := dkwX1_differ_1 ++ []
def dkwX1_differ_0 : List UInt8 := [42, 27, 182, 1, 55, 58, 4, 28, 29, 184, 0, 211, 25, 4, 42, 180, 0, 126, 182, 1, 66, 28, 29]
abbrev dktX1_differ_0 : List UInt8 := dkwX1_differ_0 ++ dktX1_differ_1
theorem dksX1_differ_0 : cX1_differ.data.toList.drop 0 = dktX1_differ_0 := by decide +kernel
theorem dksX1_differ_1 : cX1_differ.data.toList.drop 23 = dktX1_differ_1 := dk_seg dksX1_differ_0 23 rfl rfl
theorem dX1_differ_0 : decode cX1_differ 0 = .ok (.aload_n 0, 1) := dk_42 (dk_at dksX1_differ_0 0 rfl rfl)
theorem dX1_differ_1 : decode cX1_differ 1 = .ok (.iload_n 1, 1) := dk_27 (dk_at dksX1_differ_0 1 rfl rfl)
theorem dX1_differ_2 : decode cX1_differ 2 = .ok (.invokevirtual 311, 3) := dk_182 1 55 (dk_at dksX1_differ_0 2 rfl rfl)
theorem dX1_differ_5 : decode cX1_differ 5 = .ok (.astore 4, 2) := dk_58 4 (dk_at dksX1_differ_0 5 rfl rfl)
theorem dX1_differ_7 : decode cX1_differ 7 = .ok (.iload_n 2, 1) := dk_28 (dk_at dksX1_differ_0 7 rfl rfl)
theorem dX1_differ_8 : decode cX1_differ 8 = .ok (.iload_n 3, 1) := dk_29 (dk_at dksX1_differ_0 8 rfl rfl)
theorem dX1_differ_9 : decode cX1_differ 9 = .ok (.invokestatic 211, 3) := dk_184 0 211 (dk_at dksX1_differ_0 9 rfl rfl)
theorem dX1_differ_12 : decode cX1_differ 12 = .ok (.aload 4, 2) := dk_25 4 (dk_at dksX1_differ_0 12 rfl rfl)
theorem dX1_differ_14 : decode cX1_differ 14 = .ok (.aload_n 0, 1) := dk_42 (dk_at dksX1_differ_0 14 rfl rfl)
theorem dX1_differ_15 : decode cX1_differ 15 = .ok (.getfield 126, 3) := dk_180 0 126 (dk_at dksX1_differ_0 15 rfl rfl)
theorem dX1_differ_18 : decode cX1_differ 18 = .ok (.invokevirtual 322, 3) := dk_182 1 66 (dk_at dksX1_differ_0 18 rfl rfl)
theorem dX1_differ_21 : decode cX1_differ 21 = .ok (.iload_n 2, 1) := dk_28 (dk_at dksX1_differ_0 21 rfl rfl)
theorem dX1_differ_22 : decode cX1_differ 22 = .ok (.iload_n 3, 1) := dk_29 (dk_at dksX1_differ_0 22 rfl rfl)
theorem dX1_differ_23 : decode cX1_differ 23 = .ok (.invokevirtual 326, 3) := dk_182 1 70 (dk_at dksX1_differ_1 0 rfl rfl)
theorem dX1_differ_26 : decode cX1_differ 26 = .ok (.ireturn, 1) := dk_172 (dk_at dksX1_differ_1 3 rfl rfl)
abbrev cX1_reach : ByteArray := prog_1_method_37_code
def yX1_reach : MethodName := ⟨RX1, "reach", "(II)I"⟩
def dkwX1_reach_1 : List UInt8 := [167, 0, 4, 3, 184, 1, 30, 29, 172]
abbrev dktX1_reach_1 : List UInt8 := dkwX1_reach_1 ++ []
def dkwX1_reach_0 : List UInt8 := [27, 184, 0, 7, 184, 0, 177, 42, 180, 0, 126, 27, 28, 182, 1, 27, 62, 29, 2, 159, 0, 7, 4]
abbrev dktX1_reach_0 : List UInt8 := dkwX1_reach_0 ++ dktX1_reach_1
theorem dksX1_reach_0 : cX1_reach.data.toList.drop 0 = dktX1_reach_0 := by decide +kernel
theorem dksX1_reach_1 : cX1_reach.data.toList.drop 23 = dktX1_reach_1 := dk_seg dksX1_reach_0 23 rfl rfl
theorem dX1_reach_0 : decode cX1_reach 0 = .ok (.iload_n 1, 1) := dk_27 (dk_at dksX1_reach_0 0 rfl rfl)
theorem dX1_reach_1 : decode cX1_reach 1 = .ok (.invokestatic 7, 3) := dk_184 0 7 (dk_at dksX1_reach_0 1 rfl rfl)
theorem dX1_reach_4 : decode cX1_reach 4 = .ok (.invokestatic 177, 3) := dk_184 0 177 (dk_at dksX1_reach_0 4 rfl rfl)
theorem dX1_reach_7 : decode cX1_reach 7 = .ok (.aload_n 0, 1) := dk_42 (dk_at dksX1_reach_0 7 rfl rfl)
theorem dX1_reach_8 : decode cX1_reach 8 = .ok (.getfield 126, 3) := dk_180 0 126 (dk_at dksX1_reach_0 8 rfl rfl)
theorem dX1_reach_11 : decode cX1_reach 11 = .ok (.iload_n 1, 1) := dk_27 (dk_at dksX1_reach_0 11 rfl rfl)
theorem dX1_reach_12 : decode cX1_reach 12 = .ok (.iload_n 2, 1) := dk_28 (dk_at dksX1_reach_0 12 rfl rfl)
theorem dX1_reach_13 : decode cX1_reach 13 = .ok (.invokevirtual 283, 3) := dk_182 1 27 (dk_at dksX1_reach_0 13 rfl rfl)
theorem dX1_reach_16 : decode cX1_reach 16 = .ok (.istore_n 3, 1) := dk_62 (dk_at dksX1_reach_0 16 rfl rfl)
theorem dX1_reach_17 : decode cX1_reach 17 = .ok (.iload_n 3, 1) := dk_29 (dk_at dksX1_reach_0 17 rfl rfl)
theorem dX1_reach_18 : decode cX1_reach 18 = .ok (.iconst (-1), 1) := dk_2 (dk_at dksX1_reach_0 18 rfl rfl)
theorem dX1_reach_19 : decode cX1_reach 19 = .ok (.if_icmp .eq 7, 3) := dk_159 0 7 (dk_at dksX1_reach_0 19 rfl rfl)
theorem dX1_reach_22 : decode cX1_reach 22 = .ok (.iconst 1, 1) := dk_4 (dk_at dksX1_reach_0 22 rfl rfl)
theorem dX1_reach_23 : decode cX1_reach 23 = .ok (.goto 4, 3) := dk_167 0 4 (dk_at dksX1_reach_1 0 rfl rfl)
theorem dX1_reach_26 : decode cX1_reach 26 = .ok (.iconst 0, 1) := dk_3 (dk_at dksX1_reach_1 3 rfl rfl)
theorem dX1_reach_27 : decode cX1_reach 27 = .ok (.invokestatic 286, 3) := dk_184 1 30 (dk_at dksX1_reach_1 4 rfl rfl)
theorem dX1_reach_30 : decode cX1_reach 30 = .ok (.iload_n 3, 1) := dk_29 (dk_at dksX1_reach_1 7 rfl rfl)
theorem dX1_reach_31 : decode cX1_reach 31 = .ok (.ireturn, 1) := dk_172 (dk_at dksX1_reach_1 8 rfl rfl)
theorem q1528 : (Jvm.Cond.methodLink "SpanRuler" (322 : Nat) ({ cls := "SpanRuler$Ruler", name := "version", desc := "()LSpanRuler$Version;" } : Jvm.MethodName)) ∈ lw_all := lw_g (lw_at lw_m7 28 rfl) rfl
theorem q1529 : (Jvm.Cond.methodLink "SpanRuler" (326 : Nat) ({ cls := "SpanRuler$Version", name := "differs", desc := "(LSpanRuler$Version;II)I" } : Jvm.MethodName)) ∈ lw_all := lw_g (lw_at lw_m7 29 rfl) rfl
theorem q1373 : (Jvm.Cond.methodLink "SpanRuler" (283 : Nat) ({ cls := "SpanRuler$Ruler", name := "reach", desc := "(II)I" } : Jvm.MethodName)) ∈ lw_all := lw_g (lw_at lw_m6 113 rfl) rfl
theorem q1376 : (Jvm.Cond.code ({ cls := "SpanRuler$Ruler", name := "reach", desc := "(II)I" } : Jvm.MethodName) prog_16_method_15_code (5 : Nat) (Option.some Jvm.ClassFile.FieldType.int)) ∈ lw_all := lw_g (lw_at lw_m6 116 rfl) rfl
theorem q1374 : (Jvm.Cond.instanceMethod ({ cls := "SpanRuler$Ruler", name := "reach", desc := "(II)I" } : Jvm.MethodName)) ∈ lw_all := lw_g (lw_at lw_m6 114 rfl) rfl
theorem q1375 : (Jvm.Cond.selects "SpanRuler$Ruler" ({ cls := "SpanRuler$Ruler", name := "reach", desc := "(II)I" } : Jvm.MethodName) ({ cls := "SpanRuler$Ruler", name := "reach", desc := "(II)I" } : Jvm.MethodName)) ∈ lw_all := lw_g (lw_at lw_m6 115 rfl) rfl
theorem s_differ (l : Launch) (G : GE) (h : AH) (x : Nat) (s : MS) (S0 : SRAt G h x s) (p : Int32) (a : Int32) (b0 : Int32) : GM l G yX1_differ (ws_ yX1_differ cX1_differ 5 (some .int)) 16 [.ref x, .int p, .int a, .int b0] (h) (1700) (SPost G x (ex2 IOOBE IAE) (mDiffer s p a b0)) := by
  refine GM.of (by decide) (dk rfl) ?_
  intro X eL eG eh ok fn
  subst eL; subst eG
  show GW X _ 0 0 [some (.ref x), some (.int p), some (.int a), some (.int b0), none] []
  obtain ⟨own, hr, ru, sv, hl, hd, hc, hm, hf, inp, ln, bt, rf, S⟩ := S0
  obtain ⟨rt, cl, nl, nd, nc, nm, nf, vl, vd, vc, vm, vf, y⟩ := S.2.2.2.2.2.2.2.2.1.1.1
  have iR := y.2.2.2.2.2.1
  have n10 := iR.1.2
  have v5 := iR.2.1.2
  rcases Bool.eq_false_or_eq_true (inR p 0 (nI (rV (s.A 0)) - 1)) with hs | hs
  · obtain ⟨i, ei, hi⟩ := inR_lt hs (by omega)
    subst ei
    obtain ⟨b, kb, na, ca, wn, wc, w1, w2, w3, w4⟩ := y.2.2.2.2.1 i hi
    have rb := S.1 _ _ w1
    have is1 : mIsV s (nI i) = true := by unfold mIsV; rw [iR.2.1.1]; exact hs
    rcases Bool.eq_false_or_eq_true (isSp a b0) with hs2 | hs2
    · obtain ⟨k, m, ea, eb, hij, hj⟩ : ∃ k m, a = nI k ∧ b0 = nI m ∧ k ≤ m ∧ m < 32 := ⟨_, _, isSp_n hs2⟩
      subst ea; subst eb
      refine g_aload_n ok dX1_differ_0 rfl ?_
      refine g_iload_n ok dX1_differ_1 rfl ?_
      refine g_callV ok q1497 q1499 qs12 q61 q1500 (Recv.ob ok gc_X1 (Rd.h (S.2.2.1))) dX1_differ_2 (s_versionAt1 X.l X.G _ x own hr s ru sv hl hd hc hm hf inp ln bt rf S rt cl nl nd nc nm nf vl vd vc vm vf y i hi b kb _ rb) (nm_ (by decide : nmb _ 1 = true)) (dl rfl) (dk rfl) rfl rfl (dk rfl) (by omega) (kV ?_) xV
      refine g_astore ok dX1_differ_5 (ls1 := [some (.ref x), some (.int (nI i)), some (.int (nI k)), some (.int (nI m)), some (.ref b)]) (dl rfl) rfl ?_
      refine g_iload_n ok dX1_differ_7 rfl ?_
      refine g_iload_n ok dX1_differ_8 rfl ?_
      refine g_callS ok q1172 q1173 q61 q1174 dX1_differ_9 (x_chkP1 X.l X.G _ (nI k) (nI m) hs2) (nm_ (by decide : nmb _ 2 = true)) (dl rfl) (dk rfl) rfl rfl (dk rfl) (by omega) (kN ?_) xN
      refine g_aload ok dX1_differ_12 rfl ?_
      refine g_aload_n ok dX1_differ_14 rfl ?_
      refine g_get ok ck_X1 0 q319 (Or.inl rfl) (by decide) dX1_differ_15 (Rd.h (S.2.2.1)) rfl ?_
      refine g_callV ok q1528 q1471 q1472 q62 q1473 (Recv.ob ok gc_X2 (Rd.h (S.1 _ _ y.1.1))) dX1_differ_18 (GM.fr S.1 (x_version X.l X.G hr (fun q => own q = ru) ru (s.A 0) rt cl nl vl _ _ _ _ _ _ y.1)) (nm_ (by decide : nmb _ 0 = true)) (dl rfl) (dk rfl) rfl rfl (dk rfl) (by omega) (kFR fun u5 hr5 h5 ⟨b2, na2, ca2, wn2, wc2, e5, f1, f2, f3, o1, o2, o3, o4, q5, g5⟩ f5 => ?_) xFR
      subst e5
      obtain ⟨S5, y5⟩ := SRx.ask S y q5 g5 f5
      have k5 := f5.keep
      have w11 := k5 _ _ (Chg.other g5 w1 ⟨by decide, by decide⟩)
      have w21 := k5 _ _ (Chg.arr g5 w2)
      have w31 := k5 _ _ (Chg.arr g5 w3)
      refine g_iload_n ok dX1_differ_21 rfl ?_
      refine g_iload_n ok dX1_differ_22 rfl ?_
      refine g_callV ok q1529 q1507 q1508 q99 q1509 (Recv.ob ok gc_X12 (Rd.h w11)) dX1_differ_23 (x_differs X.l X.G _ b b2 na ca na2 ca2 wn wc wn2 wc2 w11 (k5 _ _ o1) w21 w31 (k5 _ _ o2) (k5 _ _ o3) k m (by omega) (by omega)) (nm_ (by decide : nmb _ 3 = true)) (dl rfl) (dk rfl) rfl rfl (dk rfl) (by omega) (kV ?_) xV
      have ed := dfv_dfl w4 o4 (m + 1 - k) k 0 (by omega)
      rw [ed]
      have pf : SPost X.G x (ex2 IOOBE IAE) (mDiffer s (nI i) (nI k) (nI m)) (.inl (some (.int (dfl (s.A 0) i (m + 1 - k) k 0)))) h5 := by
        unfold mDiffer sp; rw [if_pos is1, if_pos hs2]; simp only [nn_nI (by omega : i < 2 ^ 31), nn_nI (by omega : k < 2 ^ 31), nn_nI (by omega : m < 2 ^ 31)]; exact SPost.ok S5.at
      exact g_iret ok fn rfl dX1_differ_26 pf (by omega)
    · refine g_aload_n ok dX1_differ_0 rfl ?_
      refine g_iload_n ok dX1_differ_1 rfl ?_
      refine g_callV ok q1497 q1499 qs12 q61 q1500 (Recv.ob ok gc_X1 (Rd.h (S.2.2.1))) dX1_differ_2 (s_versionAt1 X.l X.G _ x own hr s ru sv hl hd hc hm hf inp ln bt rf S rt cl nl nd nc nm nf vl vd vc vm vf y i hi b kb _ rb) (nm_ (by decide : nmb _ 1 = true)) (dl rfl) (dk rfl) rfl rfl (dk rfl) (by omega) (kV ?_) xV
      refine g_astore ok dX1_differ_5 (ls1 := [some (.ref x), some (.int (nI i)), some (.int a), some (.int b0), some (.ref b)]) (dl rfl) rfl ?_
      refine g_iload_n ok dX1_differ_7 rfl ?_
      refine g_iload_n ok dX1_differ_8 rfl ?_
      refine g_callS ok q1172 q1173 q61 q1174 dX1_differ_9 (x_chkP0 X.l X.G _ a b0 hs2) (nm_ (by decide : nmb _ 2 = true)) (dl rfl) (dk rfl) rfl rfl (dk rfl) (by omega) kT (xT fun qx fx kx => ?_)
      have pf : SPost X.G x (ex2 IOOBE IAE) (mDiffer s (nI i) a b0) (.inr (IAE, qx)) (up h qx (ob 18 [])) := by
        unfold mDiffer; rw [if_pos is1, if_neg (by rw [hs2]; decide)]; exact SPost.no (S.at.mi (k := 20) (v := 0) (by omega)) fx (by decide) rfl
      exact g_out ok fn (fun z hz => nomatch hz) pf (by omega)
  · have is0 : mIsV s p = false := by unfold mIsV; rw [iR.2.1.1]; exact hs
    refine g_aload_n ok dX1_differ_0 rfl ?_
    refine g_iload_n ok dX1_differ_1 rfl ?_
    refine g_callV ok q1497 q1499 qs12 q61 q1500 (Recv.ob ok gc_X1 (Rd.h (S.2.2.1))) dX1_differ_2 (s_versionAt0 X.l X.G _ x own hr s ru sv hl hd hc hm hf inp ln bt rf S rt cl nl nd nc nm nf vl vd vc vm vf y p hs) (nm_ (by decide : nmb _ 1 = true)) (dl rfl) (dk rfl) rfl rfl (dk rfl) (by omega) kT (xT fun qx fx kx => ?_)
    have pf : SPost X.G x (ex2 IOOBE IAE) (mDiffer s p a b0) (.inr (IOOBE, qx)) (up h qx (ob 19 [])) := by
      unfold mDiffer; rw [if_neg (by rw [is0]; decide)]; exact SPost.no (S.at.mi (k := 20) (v := 0) (by omega)) fx (by decide) rfl
    exact g_out ok fn (fun z hz => nomatch hz) pf (by omega)
theorem rel_lt {R : Nat → Int32} {x : Int32} {a : Nat} : ∀ (n c q : Nat), rel R x a n c = some q → q < c + n := by
  intro n
  induction n with
  | zero => intro c q h; cases h
  | succ n ih =>
    intro c q h
    rw [rel] at h
    by_cases z : sm R (c + 1 - a) a 0 < x
    · rw [if_pos z] at h; have := ih (c + 1) q h; omega
    · rw [if_neg z] at h; cases h; omega
theorem s_reach (l : Launch) (G : GE) (h : AH) (x : Nat) (s : MS) (S0 : SRAt G h x s) (c : Int32) (z : Int32) : GM l G yX1_reach (ws_ yX1_reach cX1_reach 4 (some .int)) 15 [.ref x, .int c, .int z] (h) (1600) (SPost G x (ex2 IOOBE NSEE) (mReach s c z)) := by
  refine GM.of (by decide) (dk rfl) ?_
  intro X eL eG eh ok fn
  subst eL; subst eG
  show GW X _ 0 0 [some (.ref x), some (.int c), some (.int z), none] []
  obtain ⟨own, hr, ru, sv, hl, hd, hc, hm, hf, inp, ln, bt, rf, S⟩ := S0
  obtain ⟨rt, cl, nl, nd, nc, nm, nf, vl, vd, vc, vm, vf, y⟩ := S.2.2.2.2.2.2.2.2.1.1.1
  rcases Bool.eq_false_or_eq_true (isC c) with hs | hs
  · obtain ⟨i, ea, hj⟩ : ∃ i, c = nI i ∧ i < 32 := ⟨_, isC_n hs⟩
    subst ea
    refine g_iload_n ok dX1_reach_0 rfl ?_
    refine g_callS ok q998 q999 q61 q1000 dX1_reach_1 (x_isCell X.l X.G _ (nI i)) (nm_ (by decide : nmb _ 1 = true)) (dl rfl) (dk rfl) rfl rfl (dk rfl) (by omega) (kV ?_) xV
    rw [hs]
    refine g_callS ok q1240 q1241 q61 q1242 dX1_reach_4 (x_chkI1 X.l X.G _) (nm_ (by decide : nmb _ 1 = true)) (dl rfl) (dk rfl) rfl rfl (dk rfl) (by omega) (kN ?_) xN
    refine g_aload_n ok dX1_reach_7 rfl ?_
    refine g_get ok ck_X1 0 q319 (Or.inl rfl) (by decide) dX1_reach_8 (Rd.h (S.2.2.1)) rfl ?_
    refine g_iload_n ok dX1_reach_11 rfl ?_
    refine g_iload_n ok dX1_reach_12 rfl ?_
    refine g_callV ok q1373 q1374 q1375 q62 q1376 (Recv.ob ok gc_X2 (Rd.h (S.1 _ _ y.1.1))) dX1_reach_13 (GM.fr S.1 (x_reach X.l X.G hr (fun q => own q = ru) ru (s.A 0) rt cl nl vl _ _ _ _ _ _ y.1 i z (by omega))) (nm_ (by decide : nmb _ 2 = true)) (dl rfl) (dk rfl) rfl rfl (dk rfl) (by omega) (kFR fun v1_ hr1_ h1_ ⟨e1_, q1_, g1_⟩ f1_ => ?_) xFR
    subst e1_
    obtain ⟨S1_, y1_⟩ := SRx.ask S y q1_ g1_ f1_
    cases eR : rel (s.A 0) z i (32 - i) i with
    | none =>
        refine g_istore_n ok dX1_reach_16 (ls1 := [some (.ref x), some (.int (nI i)), some (.int z), some (.int (-1))]) (dl rfl) rfl ?_
        refine g_iload_n ok dX1_reach_17 rfl ?_
        refine g_iconst ok (v := -1) dX1_reach_18 rfl ?_
        refine g_icmp_eq ok (tgt := 26) dX1_reach_19 (by decide) (fun _ => ?_) (fun c_ => absurd rfl c_)
        refine g_iconst ok (v := 0) dX1_reach_26 rfl ?_
        refine g_callS ok q1377 q1378 q61 q1379 dX1_reach_27 (x_chkE0 X.l X.G _) (nm_ (by decide : nmb _ 1 = true)) (dl rfl) (dk rfl) rfl rfl (dk rfl) (by omega) kT (xT fun qx fx kx => ?_)
        have pf : SPost X.G x (ex2 IOOBE NSEE) (mReach s (nI i) z) (.inr (NSEE, qx)) (up h1_ qx (ob 21 [])) := by
          unfold mReach; rw [if_pos hs]; simp only [nn_nI (by omega : i < 2 ^ 31), eR]; exact SPost.no (S1_.at.mi (k := 20) (v := 0) (by omega)) fx (by decide) rfl
        exact g_out ok fn (fun z hz => nomatch hz) pf (by omega)
    | some k =>
        have hk := rel_lt _ _ _ eR
        refine g_istore_n ok dX1_reach_16 (ls1 := [some (.ref x), some (.int (nI i)), some (.int z), some (.int (nI k))]) (dl rfl) rfl ?_
        refine g_iload_n ok dX1_reach_17 rfl ?_
        refine g_iconst ok (v := -1) dX1_reach_18 rfl ?_
        refine g_icmp_eq ok (tgt := 26) dX1_reach_19 (by decide) (fun c_ => absurd c_ (fun z_ => by have := nI_pos' (n := k) (by omega); rw [z_] at this; exact absurd this (by decide))) (fun _ => ?_)
        refine g_iconst ok (v := 1) dX1_reach_22 rfl ?_
        refine g_goto ok dX1_reach_23 (tgt := 27) (by decide) ?_
        refine g_callS ok q1377 q1378 q61 q1379 dX1_reach_27 (x_chkE1 X.l X.G _) (nm_ (by decide : nmb _ 1 = true)) (dl rfl) (dk rfl) rfl rfl (dk rfl) (by omega) (kN ?_) xN
        refine g_iload_n ok dX1_reach_30 rfl ?_
        have pf : SPost X.G x (ex2 IOOBE NSEE) (mReach s (nI i) z) (.inl (some (.int (nI k)))) h1_ := by
          unfold mReach; rw [if_pos hs]; simp only [nn_nI (by omega : i < 2 ^ 31), eR]; exact SPost.ok S1_.at
        exact g_iret ok fn rfl dX1_reach_31 pf (by omega)
  · refine g_iload_n ok dX1_reach_0 rfl ?_
    refine g_callS ok q998 q999 q61 q1000 dX1_reach_1 (x_isCell X.l X.G _ c) (nm_ (by decide : nmb _ 1 = true)) (dl rfl) (dk rfl) rfl rfl (dk rfl) (by omega) (kV ?_) xV
    rw [hs]
    refine g_callS ok q1240 q1241 q61 q1242 dX1_reach_4 (x_chkI0 X.l X.G _) (nm_ (by decide : nmb _ 1 = true)) (dl rfl) (dk rfl) rfl rfl (dk rfl) (by omega) kT (xT fun qx fx kx => ?_)
    have pf : SPost X.G x (ex2 IOOBE NSEE) (mReach s c z) (.inr (IOOBE, qx)) (up h qx (ob 19 [])) := by
      unfold mReach; rw [if_neg (by rw [hs]; decide)]; exact SPost.no (S.at.mi (k := 20) (v := 0) (by omega)) fx (by decide) rfl
    exact g_out ok fn (fun z hz => nomatch hz) pf (by omega)
