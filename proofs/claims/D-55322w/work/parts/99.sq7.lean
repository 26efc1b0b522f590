/-! the SpanRuler is asked, 6: best -/
set_option maxRecDepth 100000
abbrev cX1_best : ByteArray := prog_1_method_33_code
def yX1_best : MethodName := ⟨RX1, "best", "(II)I"⟩
def dkwX1_best_0 : List UInt8 := [27, 28, 184, 0, 211, 42, 180, 0, 126, 27, 28, 182, 1, 14, 172]
abbrev dktX1_best_0 : List UInt8 := dkwX1_best_0 ++ []
theorem dksX1_best_0 : cX1_best.data.toList.drop 0 = dktX1_best_0 := by decide +kernel
theorem dX1_best_0 : decode cX1_best 0 = .ok (.iload_n 1, 1) := dk_27 (dk_at dksX1_best_0 0 rfl rfl)
theorem dX1_best_1 : decode cX1_best 1 = .ok (.iload_n 2, 1) := dk_28 (dk_at dksX1_best_0 1 rfl rfl)
theorem dX1_best_2 : decode cX1_best 2 = .ok (.invokestatic 211, 3) := dk_184 0 211 (dk_at dksX1_best_0 2 rfl rfl)
theorem dX1_best_5 : decode cX1_best 5 = .ok (.aload_n 0, 1) := dk_42 (dk_at dksX1_best_0 5 rfl rfl)
theorem dX1_best_6 : decode cX1_best 6 = .ok (.getfield 126, 3) := dk_180 0 126 (dk_at dksX1_best_0 6 rfl rfl)
theorem dX1_best_9 : decode cX1_best 9 = .ok (.iload_n 1, 1) := dk_27 (dk_at dksX1_best_0 9 rfl rfl)
theorem dX1_best_10 : decode cX1_best 10 = .ok (.iload_n 2, 1) := dk_28 (dk_at dksX1_best_0 10 rfl rfl)
theorem dX1_best_11 : decode cX1_best 11 = .ok (.invokevirtual 270, 3) := dk_182 1 14 (dk_at dksX1_best_0 11 rfl rfl)
theorem dX1_best_14 : decode cX1_best 14 = .ok (.ireturn, 1) := dk_172 (dk_at dksX1_best_0 14 rfl rfl)
abbrev cX1_bestAgain : ByteArray := prog_1_method_34_code
def yX1_bestAgain : MethodName := ⟨RX1, "bestAgain", "(II)I"⟩
def dkwX1_bestAgain_0 : List UInt8 := [27, 28, 184, 0, 211, 42, 180, 0, 126, 27, 28, 182, 1, 17, 172]
abbrev dktX1_bestAgain_0 : List UInt8 := dkwX1_bestAgain_0 ++ []
theorem dksX1_bestAgain_0 : cX1_bestAgain.data.toList.drop 0 = dktX1_bestAgain_0 := by decide +kernel
theorem dX1_bestAgain_0 : decode cX1_bestAgain 0 = .ok (.iload_n 1, 1) := dk_27 (dk_at dksX1_bestAgain_0 0 rfl rfl)
theorem dX1_bestAgain_1 : decode cX1_bestAgain 1 = .ok (.iload_n 2, 1) := dk_28 (dk_at dksX1_bestAgain_0 1 rfl rfl)
theorem dX1_bestAgain_2 : decode cX1_bestAgain 2 = .ok (.invokestatic 211, 3) := dk_184 0 211 (dk_at dksX1_bestAgain_0 2 rfl rfl)
theorem dX1_bestAgain_5 : decode cX1_bestAgain 5 = .ok (.aload_n 0, 1) := dk_42 (dk_at dksX1_bestAgain_0 5 rfl rfl)
theorem dX1_bestAgain_6 : decode cX1_bestAgain 6 = .ok (.getfield 126, 3) := dk_180 0 126 (dk_at dksX1_bestAgain_0 6 rfl rfl)
theorem dX1_bestAgain_9 : decode cX1_bestAgain 9 = .ok (.iload_n 1, 1) := dk_27 (dk_at dksX1_bestAgain_0 9 rfl rfl)
theorem dX1_bestAgain_10 : decode cX1_bestAgain 10 = .ok (.iload_n 2, 1) := dk_28 (dk_at dksX1_bestAgain_0 10 rfl rfl)
theorem dX1_bestAgain_11 : decode cX1_bestAgain 11 = .ok (.invokevirtual 273, 3) := dk_182 1 17 (dk_at dksX1_bestAgain_0 11 rfl rfl)
theorem dX1_bestAgain_14 : decode cX1_bestAgain 14 = .ok (.ireturn, 1) := dk_172 (dk_at dksX1_bestAgain_0 14 rfl rfl)
theorem q1326 : (Jvm.Cond.methodLink "SpanRuler" (270 : Nat) ({ cls := "SpanRuler$Ruler", name := "best", desc := "(II)I" } : Jvm.MethodName)) ∈ lw_all := lw_g (lw_at lw_m6 66 rfl) rfl
theorem q1338 : (Jvm.Cond.methodLink "SpanRuler" (273 : Nat) ({ cls := "SpanRuler$Ruler", name := "bestAgain", desc := "(II)I" } : Jvm.MethodName)) ∈ lw_all := lw_g (lw_at lw_m6 78 rfl) rfl
theorem q1341 : (Jvm.Cond.code ({ cls := "SpanRuler$Ruler", name := "bestAgain", desc := "(II)I" } : Jvm.MethodName) prog_16_method_12_code (7 : Nat) (Option.some Jvm.ClassFile.FieldType.int)) ∈ lw_all := lw_g (lw_at lw_m6 81 rfl) rfl
theorem q1339 : (Jvm.Cond.instanceMethod ({ cls := "SpanRuler$Ruler", name := "bestAgain", desc := "(II)I" } : Jvm.MethodName)) ∈ lw_all := lw_g (lw_at lw_m6 79 rfl) rfl
theorem q1340 : (Jvm.Cond.selects "SpanRuler$Ruler" ({ cls := "SpanRuler$Ruler", name := "bestAgain", desc := "(II)I" } : Jvm.MethodName) ({ cls := "SpanRuler$Ruler", name := "bestAgain", desc := "(II)I" } : Jvm.MethodName)) ∈ lw_all := lw_g (lw_at lw_m6 80 rfl) rfl
theorem bai_max {R : Nat → Int32} {a j : Nat} : ∀ (n c : Nat) (sum best : Int32), a ≤ c → c + n = j + 1 → sum = sm R (c - a) a 0 → best.toInt ≤ (bai R n c sum best).toInt ∧ (∀ e, c < e → e ≤ j + 1 → (sm R (e - a) a 0).toInt ≤ (bai R n c sum best).toInt) ∧ (bai R n c sum best = best ∨ ∃ e, c < e ∧ e ≤ j + 1 ∧ bai R n c sum best = sm R (e - a) a 0) := by
  intro n
  induction n with
  | zero => intro c sum best _ _ _; exact ⟨Int.le_refl _, fun e h1 h2 => by omega, Or.inl rfl⟩
  | succ n ih =>
    intro c sum best hc e hs
    have hs2 : sum + R (8 + c) = sm R (c + 1 - a) a 0 := by rw [hs]; exact sm_step hc
    obtain ⟨r1, r2, r3⟩ := ih (c + 1) (sum + R (8 + c)) (if best < sum + R (8 + c) then sum + R (8 + c) else best) (by omega) (by omega) hs2
    rw [bai]
    have k : (sum + R (8 + c)).toInt ≤ (if best < sum + R (8 + c) then sum + R (8 + c) else best).toInt ∧ best.toInt ≤ (if best < sum + R (8 + c) then sum + R (8 + c) else best).toInt := by
      by_cases z : best < sum + R (8 + c)
      · rw [if_pos z]; have := Int32.lt_iff_toInt_lt.mp z; omega
      · rw [if_neg z]; have : ¬ best.toInt < (sum + R (8 + c)).toInt := fun w => z (Int32.lt_iff_toInt_lt.mpr w)
        omega
    refine ⟨by omega, fun d p1 p2 => ?_, ?_⟩
    · by_cases z : d = c + 1
      · subst z; rw [← hs2]; omega
      · exact r2 d (by omega) p2
    · rcases r3 with r3 | ⟨d, p1, p2, p3⟩
      · by_cases z : best < sum + R (8 + c)
        · rw [if_pos z] at r3 ⊢; exact Or.inr ⟨c + 1, by omega, by omega, r3.trans hs2⟩
        · rw [if_neg z] at r3 ⊢; exact Or.inl r3
      · exact Or.inr ⟨d, by omega, p2, p3⟩
theorem bao_max {R : Nat → Int32} {j : Nat} : ∀ (n a : Nat) (best : Int32), a + n = j + 1 → best.toInt ≤ (bao R j n a best).toInt ∧ (∀ b e, a ≤ b → b < e → e ≤ j + 1 → (sm R (e - b) b 0).toInt ≤ (bao R j n a best).toInt) ∧ (bao R j n a best = best ∨ ∃ b e, a ≤ b ∧ b < e ∧ e ≤ j + 1 ∧ bao R j n a best = sm R (e - b) b 0) := by
  intro n
  induction n with
  | zero => intro a best _; exact ⟨Int.le_refl _, fun b e h1 h2 h3 => by omega, Or.inl rfl⟩
  | succ n ih =>
    intro a best e
    obtain ⟨s1, s2, s3⟩ := bai_max (R := R) (a := a) (j := j) (j + 1 - a) a 0 best (Nat.le_refl _) (by omega) (by rw [Nat.sub_self]; rfl)
    obtain ⟨r1, r2, r3⟩ := ih (a + 1) (bai R (j + 1 - a) a 0 best) (by omega)
    rw [bao]
    refine ⟨by omega, fun b d p1 p2 p3 => ?_, ?_⟩
    · by_cases z : b = a
      · subst z; have := s2 d p2 p3; omega
      · exact r2 b d (by omega) p2 p3
    · rcases r3 with r3 | ⟨b, d, p1, p2, p3, p4⟩
      · rcases s3 with s3 | ⟨d, p1, p2, p3⟩
        · exact Or.inl (r3.trans s3)
        · exact Or.inr ⟨a, d, Nat.le_refl _, p1, p2, r3.trans p3⟩
      · exact Or.inr ⟨b, d, by omega, p2, p3, p4⟩
theorem bao_eq {s : MS} (hR : ∀ c, c < 32 → rg (s.A 0 (8 + c))) {i j : Nat} (h : i ≤ j) (hj : j < 32) : bao (s.A 0) j (j + 1 - i) i (-31968) = (mFinds s i j).1 := by
  obtain ⟨r1, r2, r3⟩ := bao_max (R := s.A 0) (j := j) (j + 1 - i) i (-31968) (by omega)
  refine best_eq hR h hj ?_ r2
  rcases r3 with r3 | r3
  · refine ⟨i, i + 1, Nat.le_refl _, by omega, by omega, ?_⟩
    have a1 := r2 i (i + 1) (Nat.le_refl _) (by omega) (by omega)
    have a2 := (sm_b hR (n := i + 1 - i) (c := i) (by omega)).1
    have a3 : (bao (s.A 0) j (j + 1 - i) i (-31968)).toInt = -31968 := by rw [r3]; rfl
    exact Int32.toInt_inj.mp (by omega)
  · exact r3
theorem SRAt.cg {G : GE} {h : AH} {x : Nat} {s t : MS} (S : SRAt G h x s) (hA : t.A = s.A) (hI : ∀ k, k < 17 → t.I k = s.I k) : SRAt G h x t := by
  obtain ⟨own, hr, ru, sv, hl, hd, hc, hm, hf, inp, ln, bt, rf, S⟩ := S
  refine ⟨own, hr, ru, sv, hl, hd, hc, hm, hf, inp, ln, bt, rf, ?_⟩
  have eu : mU t = mU s := by unfold mU; rw [hI 4 (by omega)]
  unfold SRx SRs SRi SRl SRe mUo mTo mLi at *
  rw [eu, hA, hI 10 (by omega), hI 4 (by omega), hI 8 (by omega), hI 14 (by omega), hI 15 (by omega), hI 16 (by omega), hI 6 (by omega)]
  exact S
theorem SRAt.finds {G : GE} {h : AH} {x : Nat} {s : MS} (S : SRAt G h x s) {i j : Nat} (hij : i ≤ j) : SRAt G h x (mFinds (mI s 20 0) i j).2 ∧ (mFinds (mI s 20 0) i j).2.I 20 = 0 := by
  obtain ⟨p, q, r1, r2, -⟩ := finds_FB (mI s 20 0) hij
  exact ⟨S.cg r1 (fun k hk => by rw [r2 k (by omega) (by omega), mI_I, upd_ne (by omega)]), by rw [r2 20 (by omega) (by omega), mI_I, upd_at]⟩
theorem s_best (l : Launch) (G : GE) (h : AH) (x : Nat) (s : MS) (S0 : SRAt G h x s) (a : Int32) (b : Int32) : GM l G yX1_best (ws_ yX1_best cX1_best 3 (some .int)) 15 [.ref x, .int a, .int b] (h) (1540) (SPost G x (ex1 IAE) (mBest s a b)) := by
  refine GM.of (by decide) (dk rfl) ?_
  intro X eL eG eh ok fn
  subst eL; subst eG
  show GW X _ 0 0 [some (.ref x), some (.int a), some (.int b)] []
  obtain ⟨own, hr, ru, sv, hl, hd, hc, hm, hf, inp, ln, bt, rf, S⟩ := S0
  obtain ⟨rt, cl, nl, nd, nc, nm, nf, vl, vd, vc, vm, vf, y⟩ := S.2.2.2.2.2.2.2.2.1.1.1
  rcases Bool.eq_false_or_eq_true (isSp a b) with hs | hs
  · obtain ⟨i, j, ea, eb, hij, hj⟩ : ∃ i j, a = nI i ∧ b = nI j ∧ i ≤ j ∧ j < 32 := ⟨_, _, isSp_n hs⟩
    subst ea; subst eb
    have hR := y.2.2.2.2.2.1.2.2.1
    refine g_iload_n ok dX1_best_0 rfl ?_
    refine g_iload_n ok dX1_best_1 rfl ?_
    refine g_callS ok q1172 q1173 q61 q1174 dX1_best_2 (x_chkP1 X.l X.G _ (nI i) (nI j) hs) (nm_ (by decide : nmb _ 2 = true)) (dl rfl) (dk rfl) rfl rfl (dk rfl) (by omega) (kN ?_) xN
    refine g_aload_n ok dX1_best_5 rfl ?_
    refine g_get ok ck_X1 0 q319 (Or.inl rfl) (by decide) dX1_best_6 (Rd.h (S.2.2.1)) rfl ?_
    refine g_iload_n ok dX1_best_9 rfl ?_
    refine g_iload_n ok dX1_best_10 rfl ?_
    refine g_callV ok q1326 q1327 q1328 q62 q1329 (Recv.ob ok gc_X2 (Rd.h (S.1 _ _ y.1.1))) dX1_best_11 (GM.fr S.1 (x_best X.l X.G hr (fun q => own q = ru) ru (s.A 0) rt cl nl vl _ _ _ _ _ _ y.1 i j (by omega) (by omega))) (nm_ (by decide : nmb _ 2 = true)) (dl rfl) (dk rfl) rfl rfl (dk rfl) (by omega) (kFR fun v1_ hr1_ h1_ ⟨e1_, q1_, g1_⟩ f1_ => ?_) xFR
    subst e1_
    obtain ⟨S1_, y1_⟩ := SRx.ask S y q1_ g1_ f1_
    obtain ⟨F1, F2⟩ := SRAt.finds S1_.at hij
    have ev := kdl_eq (s := mI s 20 0) hR hij hj
    rw [mI_A] at ev
    rw [ev]
    have pf : SPost X.G x (ex1 IAE) (mBest s (nI i) (nI j)) (.inl (some (.int (mFinds (mI s 20 0) i j).1))) h1_ := by
      unfold mBest; rw [if_pos hs]; simp only [nn_nI (by omega : i < 2 ^ 31), nn_nI (by omega : j < 2 ^ 31)]; exact SPost.ends F1 F2
    exact g_iret ok fn rfl dX1_best_14 pf (by omega)
  · refine g_iload_n ok dX1_best_0 rfl ?_
    refine g_iload_n ok dX1_best_1 rfl ?_
    refine g_callS ok q1172 q1173 q61 q1174 dX1_best_2 (x_chkP0 X.l X.G _ a b hs) (nm_ (by decide : nmb _ 2 = true)) (dl rfl) (dk rfl) rfl rfl (dk rfl) (by omega) kT (xT fun qx fx kx => ?_)
    have pf : SPost X.G x (ex1 IAE) (mBest s a b) (.inr (IAE, qx)) (up h qx (ob 18 [])) := by
      unfold mBest; rw [if_neg (by rw [hs]; decide)]; exact SPost.no (S.at.mi (k := 20) (v := 0) (by omega)) fx (by decide) rfl
    exact g_out ok fn (fun z hz => nomatch hz) pf (by omega)
theorem s_bestAgain (l : Launch) (G : GE) (h : AH) (x : Nat) (s : MS) (S0 : SRAt G h x s) (a : Int32) (b : Int32) : GM l G yX1_bestAgain (ws_ yX1_bestAgain cX1_bestAgain 3 (some .int)) 15 [.ref x, .int a, .int b] (h) (25344) (SPost G x (ex1 IAE) (mBest s a b)) := by
  refine GM.of (by decide) (dk rfl) ?_
  intro X eL eG eh ok fn
  subst eL; subst eG
  show GW X _ 0 0 [some (.ref x), some (.int a), some (.int b)] []
  obtain ⟨own, hr, ru, sv, hl, hd, hc, hm, hf, inp, ln, bt, rf, S⟩ := S0
  obtain ⟨rt, cl, nl, nd, nc, nm, nf, vl, vd, vc, vm, vf, y⟩ := S.2.2.2.2.2.2.2.2.1.1.1
  rcases Bool.eq_false_or_eq_true (isSp a b) with hs | hs
  · obtain ⟨i, j, ea, eb, hij, hj⟩ : ∃ i j, a = nI i ∧ b = nI j ∧ i ≤ j ∧ j < 32 := ⟨_, _, isSp_n hs⟩
    subst ea; subst eb
    have hR := y.2.2.2.2.2.1.2.2.1
    refine g_iload_n ok dX1_bestAgain_0 rfl ?_
    refine g_iload_n ok dX1_bestAgain_1 rfl ?_
    refine g_callS ok q1172 q1173 q61 q1174 dX1_bestAgain_2 (x_chkP1 X.l X.G _ (nI i) (nI j) hs) (nm_ (by decide : nmb _ 2 = true)) (dl rfl) (dk rfl) rfl rfl (dk rfl) (by omega) (kN ?_) xN
    refine g_aload_n ok dX1_bestAgain_5 rfl ?_
    refine g_get ok ck_X1 0 q319 (Or.inl rfl) (by decide) dX1_bestAgain_6 (Rd.h (S.2.2.1)) rfl ?_
    refine g_iload_n ok dX1_bestAgain_9 rfl ?_
    refine g_iload_n ok dX1_bestAgain_10 rfl ?_
    refine g_callV ok q1338 q1339 q1340 q62 q1341 (Recv.ob ok gc_X2 (Rd.h (S.1 _ _ y.1.1))) dX1_bestAgain_11 (GM.fr S.1 (x_bestAgain X.l X.G hr (fun q => own q = ru) ru (s.A 0) rt cl nl vl _ _ _ _ _ _ y.1 i j (by omega) (by omega))) (nm_ (by decide : nmb _ 2 = true)) (dl rfl) (dk rfl) rfl rfl (dk rfl) (by omega) (kFR fun v1_ hr1_ h1_ ⟨e1_, q1_, g1_⟩ f1_ => ?_) xFR
    subst e1_
    obtain ⟨S1_, y1_⟩ := SRx.ask S y q1_ g1_ f1_
    obtain ⟨F1, F2⟩ := SRAt.finds S1_.at hij
    have ev := bao_eq (s := mI s 20 0) hR hij hj
    rw [mI_A] at ev
    rw [ev]
    have pf : SPost X.G x (ex1 IAE) (mBest s (nI i) (nI j)) (.inl (some (.int (mFinds (mI s 20 0) i j).1))) h1_ := by
      unfold mBest; rw [if_pos hs]; simp only [nn_nI (by omega : i < 2 ^ 31), nn_nI (by omega : j < 2 ^ 31)]; exact SPost.ends F1 F2
    exact g_iret ok fn rfl dX1_bestAgain_14 pf (by omega)
  · refine g_iload_n ok dX1_bestAgain_0 rfl ?_
    refine g_iload_n ok dX1_bestAgain_1 rfl ?_
    refine g_callS ok q1172 q1173 q61 q1174 dX1_bestAgain_2 (x_chkP0 X.l X.G _ a b hs) (nm_ (by decide : nmb _ 2 = true)) (dl rfl) (dk rfl) rfl rfl (dk rfl) (by omega) kT (xT fun qx fx kx => ?_)
    have pf : SPost X.G x (ex1 IAE) (mBest s a b) (.inr (IAE, qx)) (up h qx (ob 18 [])) := by
      unfold mBest; rw [if_neg (by rw [hs]; decide)]; exact SPost.no (S.at.mi (k := 20) (v := 0) (by omega)) fx (by decide) rfl
    exact g_out ok fn (fun z hz => nomatch hz) pf (by omega)
