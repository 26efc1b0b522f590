/-! a ruler is changed, 3: what is said of colours, notes, lists -/
set_option maxRecDepth 100000
theorem aR_aI {G : GE} {n m : Nat} {f : Nat → Option Nat} {g : Nat → Int32} (e : aR G n f = aI G m g) : False := by
  have e2 := (Prod.mk.inj (Prod.mk.inj (Sum.inl.inj e)).2).2
  cases e2
/-- one colour is set -/
theorem Rul.paint {G : GE} {h0 h : AH} {a rt cl nl nd nc vl vd vc : Nat} {R : Nat → Int32} {nm vm : Int32} {nf vf : Nat → Option Nat} (y : Rul G h (fun q => h0 q = none) a R rt cl nl nd nc nm nf vl vd vc vm vf) (z : Frs G h0 h a R cl nl nd nc nf vl vd vc vf) {cf : Nat → Int32} (hc : h cl = some (aI G 32 cf)) (hcf : ∀ c, c < 32 → cf c = R (40 + c)) {c : Nat} (hc32 : c < 32) {x : Int32} (hx : isCo x = true) :
    RulerM G h0 (up h cl (aI G 32 (upd cf c x))) a (upd R (40 + c) x) := by
  have n1 : rN (upd R (40 + c) x) = rN R := by unfold rN; rw [upd_ne (by omega)]
  have n2 : rV (upd R (40 + c) x) = rV R := by unfold rV; rw [upd_ne (by omega)]
  have neo : ∀ q ci l, h q = some (ob ci l) → q ≠ cl := fun q ci l w e => by subst e; rw [hc] at w; cases w
  have ner : ∀ q n f, h q = some (aR G n f) → q ≠ cl := fun q n f w e => by subst e; rw [hc] at w; exact aR_aI (Option.some.inj w).symm
  obtain ⟨⟨h1, h2, -⟩, h5, h6, h7, h8, ⟨i1, i2, i3, i4, i5, i6⟩, h9, h10⟩ := y
  obtain ⟨z1, z2, z3, z4, z5, z6, z7, z8, z9, z10, z11, z12⟩ := z
  have hal : ∀ {l d k n mc f}, AL G h l d k n mc f → AL G (up h cl (aI G 32 (upd cf c x))) l d k n mc f := fun {l d k n mc f} w => ⟨(up_ne (neo _ _ _ w.1)).trans w.1, w.2.1.imp id (fun v => ⟨v.1, (up_ne (ner _ _ _ v.2)).trans v.2⟩), w.2.2⟩
  refine ⟨rt, cl, nl, nd, nc, nm, nf, vl, vd, vc, vm, vf, ⟨⟨?_, ?_, upd cf c x, up_self, fun q hq => ?_⟩, by rw [n1]; exact hal h5, ?_, by rw [n2]; exact hal h7, ?_, ⟨?_, ?_, ?_, ?_, ?_, ?_⟩, h9, h10⟩, ?_⟩
  · unfold rof
    rw [upd_ne (by omega), upd_ne (by omega), upd_ne (by omega), upd_ne (by omega), upd_ne (by omega), upd_ne (by omega)]
    exact (up_ne (neo _ _ _ h1)).trans h1
  · refine TreeAt.keep 5 _ _ _ (by decide) (h2.congr (fun q _ hq => (upd_ne ?_).symm)) (fun q e w v => ?_)
    · have : sz 5 = 32 := rfl
      omega
    · rcases v with ⟨-, ci, i, j, fs, e1, -⟩ | ⟨l, e1⟩ <;> subst e1 <;> exact (up_ne (neo _ _ _ w)).trans w
  · by_cases e : q = c
    · subst e; rw [upd_at, upd_at]
    · rw [upd_ne e, upd_ne (by omega)]; exact hcf q hq
  · rw [n1]; intro p hp
    obtain ⟨b, k1, k2⟩ := h6 p hp
    refine ⟨b, k1, ?_⟩
    unfold NoteAt at *
    rw [upd_ne (by omega), upd_ne (by omega), upd_ne (by omega), upd_ne (by omega), upd_ne (by omega)]
    exact (up_ne (neo _ _ _ k2)).trans k2
  · rw [n2]; intro j hj
    obtain ⟨b, k1, na, ca, fn, fc, k2, k3, k4, k5⟩ := h8 j hj
    obtain ⟨m1, m2⟩ := z12 j hj b na ca k1 k2
    exact ⟨b, k1, na, ca, fn, fc, (up_ne (neo _ _ _ k2)).trans k2, (up_ne m1).trans k3, (up_ne m2).trans k4, fun q hq => by rw [upd_ne (by omega), upd_ne (by omega)]; exact k5 q hq⟩
  · rw [n1, upd_ne (by omega)]; exact i1
  · rw [n2, upd_ne (by omega)]; exact i2
  · intro q hq; rw [upd_ne (by omega)]; exact i3 q hq
  · intro q hq
    by_cases e : q = c
    · subst e; rw [upd_at]; exact hx
    · rw [upd_ne (by omega)]; exact i4 q hq
  · rw [n1]; intro p hp; exact (i5 p hp).congr (fun w hw => (upd_ne (by omega)).symm)
  · rw [n2]; intro j hj q hq; rw [upd_ne (by omega), upd_ne (by omega)]; exact i6 j hj q hq
  · unfold Frs
    rw [n1, n2]
    exact ⟨z1.put z3, z2, z3, z4, z5, z6, z7, z8, z9, z10, z11, fun j hj b na ca hb hb2 => z12 j hj b na ca hb (by
      obtain ⟨b2, k1, na2, ca2, fn, fc, k2, -⟩ := h8 j hj
      rw [hb] at k1; cases k1
      rw [up_ne (neo _ _ _ k2)] at hb2; exact hb2)⟩
/-- one note's ticks are set -/
theorem Rul.note {G : GE} {h0 h : AH} {a rt cl nl nd nc vl vd vc : Nat} {R : Nat → Int32} {nm vm : Int32} {nf vf : Nat → Option Nat} (y : Rul G h (fun q => h0 q = none) a R rt cl nl nd nc nm nf vl vd vc vm vf) (z : Frs G h0 h a R cl nl nd nc nf vl vd vc vf) {p b : Nat} (hp : p < rN R) (hb : nf p = some b) {v : Int32} (hv : inR v 0 20 = true) :
    Rul G (up h b (ob 6 [.ref (G.ga (kd (R (72 + 5 * p + 0)))), .int (R (72 + 5 * p + 1)), .int (R (72 + 5 * p + 2)), .int (R (72 + 5 * p + 3)), .int v])) (fun q => h0 q = none) a (upd R (72 + 5 * p + 4) v) rt cl nl nd nc nm nf vl vd vc vm vf ∧
    Frs G h0 (up h b (ob 6 [.ref (G.ga (kd (R (72 + 5 * p + 0)))), .int (R (72 + 5 * p + 1)), .int (R (72 + 5 * p + 2)), .int (R (72 + 5 * p + 3)), .int v])) a (upd R (72 + 5 * p + 4) v) cl nl nd nc nf vl vd vc vf := by
  generalize hE : ob 6 [.ref (G.ga (kd (R (72 + 5 * p + 0)))), .int (R (72 + 5 * p + 1)), .int (R (72 + 5 * p + 2)), .int (R (72 + 5 * p + 3)), .int v] = E
  have n1 : rN (upd R (72 + 5 * p + 4) v) = rN R := by unfold rN; rw [upd_ne (by omega)]
  have n2 : rV (upd R (72 + 5 * p + 4) v) = rV R := by unfold rV; rw [upd_ne (by omega)]
  obtain ⟨⟨h1, h2, cf, hc, hcf⟩, h5, h6, h7, h8, ⟨i1, i2, i3, i4, i5, i6⟩, h9, h10⟩ := y
  obtain ⟨z1, z2, z3, z4, z5, z6, z7, z8, z9, z10, z11, z12⟩ := z
  obtain ⟨b2, kb, hbn⟩ := h6 p hp
  rw [hb] at kb; cases kb
  have neo : ∀ q ci l, h q = some (ob ci l) → ci ≠ 6 → q ≠ b := fun q ci l w n e => by subst e; unfold NoteAt at hbn; rw [hbn] at w; cases w; exact n rfl
  have nea : ∀ q y, h q = some (.inl y) → q ≠ b := fun q y w e => by subst e; unfold NoteAt at hbn; rw [hbn] at w; cases w
  have p10 := i1.2
  have p5 := i2.2
  have hal : ∀ {l d k n mc f}, AL G h l d k n mc f → AL G (up h b E) l d k n mc f := fun {l d k n mc f} w => ⟨(up_ne (neo _ _ _ w.1 (by decide))).trans w.1, w.2.1.imp id (fun v => ⟨v.1, (up_ne (nea _ _ v.2)).trans v.2⟩), w.2.2⟩
  refine ⟨⟨⟨?_, ?_, cf, (up_ne (nea _ _ hc)).trans hc, fun q hq => by rw [upd_ne (by omega)]; exact hcf q hq⟩, by rw [n1]; exact hal h5, ?_, by rw [n2]; exact hal h7, ?_, ⟨?_, ?_, ?_, ?_, ?_, ?_⟩, h9, h10⟩, ?_⟩
  · unfold rof
    rw [upd_ne (by omega), upd_ne (by omega), upd_ne (by omega), upd_ne (by omega), upd_ne (by omega), upd_ne (by omega)]
    exact (up_ne (neo _ _ _ h1 (by decide))).trans h1
  · refine TreeAt.keep 5 _ _ _ (by decide) (h2.congr (fun q _ hq => (upd_ne ?_).symm)) (fun q e w v => ?_)
    · have : sz 5 = 32 := rfl
      omega
    · rcases v with ⟨-, ci, i, j, fs, e1, e2, -⟩ | ⟨l, e1⟩ <;> subst e1 <;> exact (up_ne (neo _ _ _ w (by omega))).trans w
  · rw [n1]; intro r hr
    obtain ⟨c, k1, k2⟩ := h6 r hr
    refine ⟨c, k1, ?_⟩
    by_cases e : r = p
    · subst e
      rw [hb] at k1; cases k1
      unfold NoteAt
      rw [up_self, ← hE, upd_at, upd_ne (by omega), upd_ne (by omega), upd_ne (by omega), upd_ne (by omega)]
    · have ncb : c ≠ b := fun q => by
        subst q
        rcases Nat.lt_or_gt_of_ne e with l | l
        · exact z11 r p l hp (k1.trans hb.symm)
        · exact z11 p r l hr (hb.trans k1.symm)
      unfold NoteAt at *
      rw [upd_ne (by omega), upd_ne (by omega), upd_ne (by omega), upd_ne (by omega), upd_ne (by omega)]
      exact (up_ne ncb).trans k2
  · rw [n2]; intro j hj
    obtain ⟨c, k1, na, ca, fn, fc, k2, k3, k4, k5⟩ := h8 j hj
    exact ⟨c, k1, na, ca, fn, fc, (up_ne (neo _ _ _ k2 (by decide))).trans k2, (up_ne (nea _ _ k3)).trans k3, (up_ne (nea _ _ k4)).trans k4, fun q hq => by rw [upd_ne (by omega), upd_ne (by omega)]; exact k5 q hq⟩
  · rw [n1, upd_ne (by omega)]; exact i1
  · rw [n2, upd_ne (by omega)]; exact i2
  · intro q hq; rw [upd_ne (by omega)]; exact i3 q hq
  · intro q hq; rw [upd_ne (by omega)]; exact i4 q hq
  · rw [n1]; intro r hr
    by_cases e : r = p
    · subst e
      obtain ⟨k1, k2, k3, -⟩ := i5 r hr
      unfold NoteOk
      rw [upd_at, upd_ne (by omega), upd_ne (by omega), upd_ne (by omega), upd_ne (by omega)]
      exact ⟨k1, k2, k3, hv⟩
    · exact (i5 r hr).congr (fun w hw => (upd_ne (by omega)).symm)
  · rw [n2]; intro j hj q hq; rw [upd_ne (by omega), upd_ne (by omega)]; exact i6 j hj q hq
  · unfold Frs
    rw [n1, n2]
    exact ⟨z1.put (z10 p hp b hb), z2, z3, z4, z5, z6, z7, z8, z9, z10, z11, fun j hj c na ca hb1 hb2 => z12 j hj c na ca hb1 (by
      obtain ⟨b2, k1, na2, ca2, fn, fc, k2, -⟩ := h8 j hj
      rw [hb1] at k1; cases k1
      rw [up_ne (neo _ _ _ k2 (by decide))] at hb2; exact hb2)⟩
/-- a note is taken out -/
def rGoes (k : Nat) (R : Nat → Int32) : Nat → Int32 := fun q => if 72 + 5 * k ≤ q ∧ q < 72 + 5 * (rN R - 1) then R (q + 5) else if q = 1 then nI (rN R - 1) else R q
theorem rGoes_lo {k q : Nat} {R : Nat → Int32} (h : q < 72) (h1 : q ≠ 1) : rGoes k R q = R q := by unfold rGoes; rw [if_neg (by omega), if_neg h1]
theorem rGoes_hi {k q : Nat} {R : Nat → Int32} (h : 72 + 5 * (rN R - 1) ≤ q) : rGoes k R q = R q := by unfold rGoes; rw [if_neg (by omega), if_neg (by omega)]
theorem rGoes_1 {k : Nat} {R : Nat → Int32} : rGoes k R 1 = nI (rN R - 1) := by unfold rGoes; rw [if_neg (by omega), if_pos rfl]
theorem rGoes_a {k p w : Nat} {R : Nat → Int32} (h : p < k) (hw : w < 5) (hk : k < rN R) : rGoes k R (72 + 5 * p + w) = R (72 + 5 * p + w) := by unfold rGoes; rw [if_neg (by omega), if_neg (by omega)]
theorem rGoes_b {k p w : Nat} {R : Nat → Int32} (h : k ≤ p) (hp : p < rN R - 1) (hw : w < 5) : rGoes k R (72 + 5 * p + w) = R (72 + 5 * (p + 1) + w) := by unfold rGoes; rw [if_pos (by omega)]; congr 1; omega
theorem rGoes_N {k : Nat} {R : Nat → Int32} (h : rN R ≤ 10) : rN (rGoes k R) = rN R - 1 := by
  show nn (rGoes k R 1) = _
  rw [rGoes_1, nn_nI (by omega)]
theorem RulerM.goes {G : GE} {h0 h h' : AH} {a rt cl nl nd nc vl vd vc : Nat} {R : Nat → Int32} {nm vm nm2 : Int32} {nf vf : Nat → Option Nat} (y : Rul G h (fun q => h0 q = none) a R rt cl nl nd nc nm nf vl vd vc vm vf) (z : Frs G h0 h a R cl nl nd nc nf vl vd vc vf) {k : Nat} (hk : k < rN R) (t : Taken G h h' nl nd nc (rN R) k nm2 nf) : RulerM G h0 h' a (rGoes k R) := by
  obtain ⟨⟨h1, h2, cf, hc, hcf⟩, h5, h6, h7, h8, ⟨i1, i2, i3, i4, i5, i6⟩, h9, h10⟩ := y
  obtain ⟨z1, z2, z3, z4, z5, z6, z7, z8, z9, z10, z11, z12⟩ := z
  obtain ⟨g, t1, t2, t3⟩ := t
  have p10 := i1.2
  have p5 := i2.2
  have e1 := rGoes_N (k := k) p10
  have nc0 : nc ≠ 0 := fun e => by have := h5.2.2.1; omega
  have hnd : h nd = some (aR G nc nf) := h5.2.1.elim (fun v => absurd v.1 nc0) (fun v => v.2)
  have neo : ∀ q ci l, h q = some (ob ci l) → ci ≠ 12 → h' q = some (ob ci l) := fun q ci l w n => t3 q _ (fun e => by subst e; have := h5.1; rw [w] at this; cases this; exact n rfl) (fun e => by subst e; rw [hnd] at w; cases w) w
  have nei : ∀ q n f, h q = some (aI G n f) → h' q = some (aI G n f) := fun q n f w => t3 q _ (fun e => by subst e; have := h5.1; rw [w] at this; cases this) (fun e => by subst e; rw [hnd] at w; exact aR_aI (Option.some.inj w)) w
  have hvl : AL G h' vl vd vc (rV R) vm vf := ⟨t3 _ _ (Ne.symm z8) (fun e => by rw [e] at h7; have := h7.1; rw [hnd] at this; cases this) h7.1, h7.2.1.imp id (fun v => ⟨v.1, t3 _ _ (fun e => by have w := v.2; rw [e, h5.1] at w; cases w) (fun e => by
    rcases z9 with w | w | w
    · exact nc0 w
    · omega
    · exact w e.symm) v.2⟩), h7.2.2⟩
  have e2 : rV (rGoes k R) = rV R := by unfold rV; rw [rGoes_lo (by omega) (by omega)]
  refine ⟨rt, cl, nl, nd, nc, nm2, g, vl, vd, vc, vm, vf, ⟨⟨?_, ?_, cf, nei _ _ _ hc, fun q hq => by rw [rGoes_lo (by omega) (by omega)]; exact hcf q hq⟩, by rw [e1]; exact t1, ?_, by rw [e2]; exact hvl, ?_, ⟨?_, ?_, ?_, ?_, ?_, ?_⟩, h9, h10⟩, ?_⟩
  · unfold rof
    rw [rGoes_lo (by omega) (by omega), rGoes_lo (by omega) (by omega), rGoes_lo (by omega) (by omega), rGoes_lo (by omega) (by omega), rGoes_lo (by omega) (by omega), rGoes_lo (by omega) (by omega)]
    exact neo _ _ _ h1 (by decide)
  · refine TreeAt.keep 5 _ _ _ (by decide) (h2.congr (fun q _ hq => (rGoes_lo ?_ (by omega)).symm)) (fun q e w v => ?_)
    · have : sz 5 = 32 := rfl
      omega
    · rcases v with ⟨-, ci, i, j, fs, e1, e2, -⟩ | ⟨l, e1⟩ <;> subst e1 <;> exact neo _ _ _ w (by omega)
  · rw [e1]; intro p hp
    by_cases c : p < k
    · obtain ⟨b, k1, k2⟩ := h6 p (by omega)
      refine ⟨b, by rw [t2 p hp, if_pos c]; exact k1, ?_⟩
      unfold NoteAt at *
      rw [rGoes_a c (by omega) hk, rGoes_a c (by omega) hk, rGoes_a c (by omega) hk, rGoes_a c (by omega) hk, rGoes_a c (by omega) hk]
      exact neo _ _ _ k2 (by decide)
    · obtain ⟨b, k1, k2⟩ := h6 (p + 1) (by omega)
      refine ⟨b, by rw [t2 p hp, if_neg c]; exact k1, ?_⟩
      unfold NoteAt at *
      rw [rGoes_b (by omega) hp (by omega), rGoes_b (by omega) hp (by omega), rGoes_b (by omega) hp (by omega), rGoes_b (by omega) hp (by omega), rGoes_b (by omega) hp (by omega)]
      exact neo _ _ _ k2 (by decide)
  · rw [e2]; intro j hj
    obtain ⟨b, k1, na, ca, fn, fc, k2, k3, k4, k5⟩ := h8 j hj
    exact ⟨b, k1, na, ca, fn, fc, neo _ _ _ k2 (by decide), nei _ _ _ k3, nei _ _ _ k4, fun q hq => by rw [rGoes_hi (by omega), rGoes_hi (by omega)]; exact k5 q hq⟩
  · rw [e1, rGoes_1]; exact ⟨rfl, by omega⟩
  · rw [e2, rGoes_lo (by omega) (by omega)]; exact i2
  · intro q hq; rw [rGoes_lo (by omega) (by omega)]; exact i3 q hq
  · intro q hq; rw [rGoes_lo (by omega) (by omega)]; exact i4 q hq
  · rw [e1]; intro p hp
    by_cases c : p < k
    · exact (i5 p (by omega)).congr (fun w hw => (rGoes_a c hw hk).symm)
    · have t := i5 (p + 1) (by omega)
      unfold NoteOk at *
      rw [rGoes_b (by omega) hp (by omega), rGoes_b (by omega) hp (by omega), rGoes_b (by omega) hp (by omega), rGoes_b (by omega) hp (by omega), rGoes_b (by omega) hp (by omega)]
      exact t
  · rw [e2]; intro j hj q hq; rw [rGoes_hi (by omega), rGoes_hi (by omega)]; exact i6 j hj q hq
  · unfold Frs
    rw [e1, e2]
    refine ⟨fun q e w => t3 q e (fun x => by rw [x, z4] at w; cases w) (fun x => by rw [x, z6] at w; cases w) (z1 q e w), z2, z3, z4, z5, z6, z7, z8, z9, fun p hp b hb => ?_, fun p q hpq hq => ?_, fun j hj b na ca hb hb2 => z12 j hj b na ca hb ?_⟩
    · rw [t2 p hp] at hb
      by_cases c : p < k
      · rw [if_pos c] at hb; exact z10 p (by omega) b hb
      · rw [if_neg c] at hb; exact z10 (p + 1) (by omega) b hb
    · rw [t2 p (by omega), t2 q hq]
      split <;> split <;> first | exact z11 _ _ (by omega) (by omega) | omega
    · obtain ⟨b2, k1, na2, ca2, fn, fc, k2, -⟩ := h8 j hj
      rw [hb] at k1; cases k1
      rw [neo _ _ _ k2 (by decide)] at hb2
      rw [k2]; exact hb2
theorem al_cap {G : GE} {h : AH} {a d cap n cap2 : Nat} {mc : Int32} {f : Nat → Option Nat} (y : AL G h a d cap n mc f) (hE : h (G.ga "E0") = none) (w : cap2 ≤ 2 * n + 10 ∨ h d = some (aR G cap2 f)) : cap2 ≤ 2 * n + 10 ∨ cap2 = cap := by
  rcases w with w | w
  · exact Or.inl w
  · rcases y.2.1 with v | v
    · rw [v.2.1, hE] at w; cases w
    · have e := v.2.symm.trans w
      cases e
      exact Or.inr rfl
/-- a note more -/
theorem RulerM.addN {G : GE} {h0 h h' : AH} {a rt cl nl nd nc vl vd vc : Nat} {R S : Nat → Int32} {nm vm nm2 : Int32} {nf vf : Nat → Option Nat} (y : Rul G h (fun q => h0 q = none) a R rt cl nl nd nc nm nf vl vd vc vm vf) (z : Frs G h0 h a R cl nl nd nc nf vl vd vc vf) {e : Nat} (hn : rN R < 10) (t : Added G h h' nl nd (rN R) e nm2 nf) (hE : h (G.ga "E0") = none) (hE' : h' (G.ga "E0") = none)
    (s1 : S 1 = nI (rN R + 1)) (s2 : ∀ q, q ≠ 1 → (q < 72 + 5 * rN R ∨ 72 + 5 * rN R + 5 ≤ q) → S q = R q) (he : NoteAt G h e S (rN R)) (he0 : h0 e = none) (hed : ∀ p, p < rN R → nf p ≠ some e) (hok : NoteOk S (rN R)) : RulerM G h0 h' a S := by
  obtain ⟨⟨h1, h2, cf, hc, hcf⟩, h5, h6, h7, h8, ⟨i1, i2, i3, i4, i5, i6⟩, h9, h10⟩ := y
  obtain ⟨z1, z2, z3, z4, z5, z6, z7, z8, z9, z10, z11, z12⟩ := z
  obtain ⟨d', cap', g, t1, t2, t2b, t3, t4, t5⟩ := t
  have p5 := i2.2
  have e1 : rN S = rN R + 1 := by unfold rN; rw [s1, nn_nI (by unfold rN at hn; omega)]
  have e2 : rV S = rV R := by unfold rV; rw [s2 2 (by omega) (by omega)]
  have hc6 := al_cap h5 hE t5
  have neo : ∀ q ci l, h q = some (ob ci l) → ci ≠ 12 → h' q = some (ob ci l) := fun q ci l w n => t3 q _ (fun e => by subst e; have := h5.1; rw [w] at this; cases this; exact n rfl) (fun e => by
    subst e
    rcases h5.2.1 with v | v
    · rw [v.2.1, hE] at w; cases w
    · rw [v.2] at w; cases w) w
  have nei : ∀ q n f, h q = some (aI G n f) → h' q = some (aI G n f) := fun q n f w => t3 q _ (fun e => by subst e; have := h5.1; rw [w] at this; cases this) (fun e => by
    subst e
    rcases h5.2.1 with v | v
    · rw [v.2.1, hE] at w; cases w
    · rw [v.2] at w; exact aR_aI (Option.some.inj w)) w
  have vdn : ∀ f, h vd = some (aR G vc f) → 0 < vc → vd ≠ nd := fun f w v e => by
    rcases z9 with x | x | x
    · rcases h5.2.1 with u | u
      · rw [e, u.2.1, hE] at w; cases w
      · omega
    · omega
    · exact x e.symm
  have vln : vl ≠ nd := fun e => by
    have := h7.1
    rw [e] at this
    rcases h5.2.1 with u | u
    · rw [u.2.1, hE] at this; cases this
    · rw [u.2] at this; cases this
  have hvl : AL G h' vl vd vc (rV R) vm vf := ⟨t3 _ _ (Ne.symm z8) vln h7.1, h7.2.1.imp id (fun v => ⟨v.1, t3 _ _ (fun e => by have w := v.2; rw [e, h5.1] at w; cases w) (vdn _ v.2 v.1) v.2⟩), h7.2.2⟩
  have k0 : KeepAll h0 h' := fun q x w => t3 q x (fun v => by rw [v, z4] at w; cases w) (fun v => by rw [v, z6] at w; cases w) (z1 q x w)
  have hd0 : h0 d' = none := t4.elim (fun w => by rw [w]; exact z6) (fun w => by
    cases x : h0 d' with
    | none => rfl
    | some v => have := z1 _ _ x; rw [w.1] at this; cases this)
  have hdv : vc = 0 ∨ d' ≠ vd := by
    rcases h7.2.1 with v | v
    · exact Or.inl v.1
    · refine Or.inr (fun e => ?_)
      rcases t4 with w | w
      · exact vdn _ v.2 v.1 (by rw [← e, w])
      · rw [e, v.2] at w; cases w.1
  refine ⟨rt, cl, nl, d', cap', nm2, g, vl, vd, vc, vm, vf, ⟨⟨?_, ?_, cf, nei _ _ _ hc, fun q hq => by rw [s2 _ (by omega) (by omega)]; exact hcf q hq⟩, by rw [e1]; exact t1, ?_, by rw [e2]; exact hvl, ?_, ⟨?_, ?_, ?_, ?_, ?_, ?_⟩, by omega, h10⟩, ?_⟩
  · unfold rof
    rw [s2 3 (by omega) (by omega), s2 4 (by omega) (by omega), s2 5 (by omega) (by omega), s2 0 (by omega) (by omega), s2 6 (by omega) (by omega), s2 7 (by omega) (by omega)]
    exact neo _ _ _ h1 (by decide)
  · refine TreeAt.keep 5 _ _ _ (by decide) (h2.congr (fun q _ hq => (s2 _ (by omega) ?_).symm)) (fun q e w v => ?_)
    · have : sz 5 = 32 := rfl
      omega
    · rcases v with ⟨-, ci, i, j, fs, e1, e2, -⟩ | ⟨l, e1⟩ <;> subst e1 <;> exact neo _ _ _ w (by omega)
  · rw [e1]; intro p hp
    by_cases c : p < rN R
    · obtain ⟨b, k1, k2⟩ := h6 p c
      refine ⟨b, by rw [t2b p c]; exact k1, ?_⟩
      unfold NoteAt at *
      rw [s2 _ (by omega) (by omega), s2 (72 + 5 * p + 1) (by omega) (by omega), s2 (72 + 5 * p + 2) (by omega) (by omega), s2 (72 + 5 * p + 3) (by omega) (by omega), s2 (72 + 5 * p + 4) (by omega) (by omega)]
      exact neo _ _ _ k2 (by decide)
    · have : p = rN R := by omega
      subst this
      exact ⟨e, t2, neo _ _ _ he (by decide)⟩
  · rw [e2]; intro j hj
    obtain ⟨b, k1, na, ca, fn, fc, k2, k3, k4, k5⟩ := h8 j hj
    exact ⟨b, k1, na, ca, fn, fc, neo _ _ _ k2 (by decide), nei _ _ _ k3, nei _ _ _ k4, fun q hq => by rw [s2 _ (by omega) (by omega), s2 (122 + 64 * j + 32 + q) (by omega) (by omega)]; exact k5 q hq⟩
  · rw [e1]; exact ⟨s1, by omega⟩
  · rw [e2, s2 2 (by omega) (by omega)]; exact i2
  · intro q hq; rw [s2 _ (by omega) (by omega)]; exact i3 q hq
  · intro q hq; rw [s2 _ (by omega) (by omega)]; exact i4 q hq
  · rw [e1]; intro p hp
    by_cases c : p < rN R
    · exact (i5 p c).congr (fun w hw => (s2 _ (by omega) (by omega)).symm)
    · have : p = rN R := by omega
      rw [this]; exact hok
  · rw [e2]; intro j hj q hq; rw [s2 _ (by omega) (by omega), s2 (122 + 64 * j + 32 + q) (by omega) (by omega)]; exact i6 j hj q hq
  · unfold Frs
    rw [e1, e2]
    refine ⟨k0, z2, z3, z4, z5, hd0, z7, z8, hdv.elim (fun v => Or.inr (Or.inl v)) (fun v => Or.inr (Or.inr v)), fun p hp b hb => ?_, fun p q hpq hq => ?_, fun j hj b na ca hb hb2 => z12 j hj b na ca hb ?_⟩
    · by_cases c : p < rN R
      · rw [t2b p c] at hb; exact z10 p c b hb
      · have : p = rN R := by omega
        rw [this, t2] at hb; cases hb; exact he0
    · by_cases c : q < rN R
      · rw [t2b p (by omega), t2b q c]; exact z11 p q hpq c
      · have : q = rN R := by omega
        rw [this, t2, t2b p (by omega)]; exact hed p (by omega)
    · obtain ⟨b2, k1, na2, ca2, fn, fc, k2, -⟩ := h8 j hj
      rw [hb] at k1; cases k1
      rw [neo _ _ _ k2 (by decide)] at hb2
      rw [k2]; exact hb2
/-- a version more -/
theorem RulerM.addV {G : GE} {h0 h h' : AH} {a rt cl nl nd nc vl vd vc : Nat} {R S : Nat → Int32} {nm vm vm2 : Int32} {nf vf : Nat → Option Nat} (y : Rul G h (fun q => h0 q = none) a R rt cl nl nd nc nm nf vl vd vc vm vf) (z : Frs G h0 h a R cl nl nd nc nf vl vd vc vf) {e : Nat} (hn : rV R < 5) (t : Added G h h' vl vd (rV R) e vm2 vf) (hE : h (G.ga "E0") = none) (hE' : h' (G.ga "E0") = none)
    (s1 : S 2 = nI (rV R + 1)) (s2 : ∀ q, q ≠ 2 → (q < 122 + 64 * rV R ∨ 122 + 64 * rV R + 64 ≤ q) → S q = R q) (he : VersAt G h e S (rV R)) (hed : ∀ na ca, h e = some (ob 8 [.ref na, .ref ca]) → na ≠ cl ∧ ca ≠ cl) (hok : ∀ c, c < 32 → rg (S (122 + 64 * rV R + c)) ∧ isCo (S (122 + 64 * rV R + 32 + c)) = true) : RulerM G h0 h' a S := by
  obtain ⟨⟨h1, h2, cf, hc, hcf⟩, h5, h6, h7, h8, ⟨i1, i2, i3, i4, i5, i6⟩, h9, h10⟩ := y
  obtain ⟨z1, z2, z3, z4, z5, z6, z7, z8, z9, z10, z11, z12⟩ := z
  obtain ⟨d', cap', g, t1, t2, t2b, t3, t4, t5⟩ := t
  have p10 := i1.2
  have e1 : rN S = rN R := by unfold rN; rw [s2 1 (by omega) (by omega)]
  have e2 : rV S = rV R + 1 := by unfold rV; rw [s1, nn_nI (by unfold rV at hn; omega)]
  have hc6 := al_cap h7 hE t5
  have neo : ∀ q ci l, h q = some (ob ci l) → ci ≠ 12 → h' q = some (ob ci l) := fun q ci l w n => t3 q _ (fun e => by subst e; have := h7.1; rw [w] at this; cases this; exact n rfl) (fun e => by
    subst e
    rcases h7.2.1 with v | v
    · rw [v.2.1, hE] at w; cases w
    · rw [v.2] at w; cases w) w
  have nei : ∀ q n f, h q = some (aI G n f) → h' q = some (aI G n f) := fun q n f w => t3 q _ (fun e => by subst e; have := h7.1; rw [w] at this; cases this) (fun e => by
    subst e
    rcases h7.2.1 with v | v
    · rw [v.2.1, hE] at w; cases w
    · rw [v.2] at w; exact aR_aI (Option.some.inj w)) w
  have ndn : ∀ f, h nd = some (aR G nc f) → 0 < nc → nd ≠ vd := fun f w v e => by
    rcases z9 with x | x | x
    · omega
    · rcases h7.2.1 with u | u
      · rw [e, u.2.1, hE] at w; cases w
      · omega
    · exact x e
  have nln : nl ≠ vd := fun e => by
    have := h5.1
    rw [e] at this
    rcases h7.2.1 with u | u
    · rw [u.2.1, hE] at this; cases this
    · rw [u.2] at this; cases this
  have hnl : AL G h' nl nd nc (rN R) nm nf := ⟨t3 _ _ z8 nln h5.1, h5.2.1.imp id (fun v => ⟨v.1, t3 _ _ (fun e => by have w := v.2; rw [e, h7.1] at w; cases w) (ndn _ v.2 v.1) v.2⟩), h5.2.2⟩
  have k0 : KeepAll h0 h' := fun q x w => t3 q x (fun v => by rw [v, z5] at w; cases w) (fun v => by rw [v, z7] at w; cases w) (z1 q x w)
  have hd0 : h0 d' = none := t4.elim (fun w => by rw [w]; exact z7) (fun w => by
    cases x : h0 d' with
    | none => rfl
    | some v => have := z1 _ _ x; rw [w.1] at this; cases this)
  have hdv : nc = 0 ∨ nd ≠ d' := by
    rcases h5.2.1 with v | v
    · exact Or.inl v.1
    · refine Or.inr (fun e => ?_)
      rcases t4 with w | w
      · exact ndn _ v.2 v.1 (by rw [e, w])
      · rw [← e, v.2] at w; cases w.1
  refine ⟨rt, cl, nl, nd, nc, nm, nf, vl, d', cap', vm2, g, ⟨⟨?_, ?_, cf, nei _ _ _ hc, fun q hq => by rw [s2 _ (by omega) (by omega)]; exact hcf q hq⟩, by rw [e1]; exact hnl, ?_, by rw [e2]; exact t1, ?_, ⟨?_, ?_, ?_, ?_, ?_, ?_⟩, h9, by omega⟩, ?_⟩
  · unfold rof
    rw [s2 3 (by omega) (by omega), s2 4 (by omega) (by omega), s2 5 (by omega) (by omega), s2 0 (by omega) (by omega), s2 6 (by omega) (by omega), s2 7 (by omega) (by omega)]
    exact neo _ _ _ h1 (by decide)
  · refine TreeAt.keep 5 _ _ _ (by decide) (h2.congr (fun q _ hq => (s2 _ (by omega) ?_).symm)) (fun q e w v => ?_)
    · have : sz 5 = 32 := rfl
      omega
    · rcases v with ⟨-, ci, i, j, fs, e1, e2, -⟩ | ⟨l, e1⟩ <;> subst e1 <;> exact neo _ _ _ w (by omega)
  · rw [e1]; intro p hp
    obtain ⟨b, k1, k2⟩ := h6 p hp
    refine ⟨b, k1, ?_⟩
    unfold NoteAt at *
    rw [s2 _ (by omega) (by omega), s2 (72 + 5 * p + 1) (by omega) (by omega), s2 (72 + 5 * p + 2) (by omega) (by omega), s2 (72 + 5 * p + 3) (by omega) (by omega), s2 (72 + 5 * p + 4) (by omega) (by omega)]
    exact neo _ _ _ k2 (by decide)
  · rw [e2]; intro j hj
    by_cases c : j < rV R
    · obtain ⟨b, k1, na, ca, fn, fc, k2, k3, k4, k5⟩ := h8 j c
      exact ⟨b, by rw [t2b j c]; exact k1, na, ca, fn, fc, neo _ _ _ k2 (by decide), nei _ _ _ k3, nei _ _ _ k4, fun q hq => by rw [s2 _ (by omega) (by omega), s2 (122 + 64 * j + 32 + q) (by omega) (by omega)]; exact k5 q hq⟩
    · have : j = rV R := by omega
      subst this
      obtain ⟨na, ca, fn, fc, k2, k3, k4, k5⟩ := he
      exact ⟨e, t2, na, ca, fn, fc, neo _ _ _ k2 (by decide), nei _ _ _ k3, nei _ _ _ k4, k5⟩
  · rw [e1, s2 1 (by omega) (by omega)]; exact i1
  · rw [e2]; exact ⟨s1, by omega⟩
  · intro q hq; rw [s2 _ (by omega) (by omega)]; exact i3 q hq
  · intro q hq; rw [s2 _ (by omega) (by omega)]; exact i4 q hq
  · rw [e1]; intro p hp; exact (i5 p hp).congr (fun w hw => (s2 _ (by omega) (by omega)).symm)
  · rw [e2]; intro j hj q hq
    by_cases c : j < rV R
    · rw [s2 _ (by omega) (by omega), s2 (122 + 64 * j + 32 + q) (by omega) (by omega)]; exact i6 j c q hq
    · have : j = rV R := by omega
      rw [this]; exact hok q hq
  · unfold Frs
    rw [e1, e2]
    refine ⟨k0, z2, z3, z4, z5, z6, hd0, z8, hdv.elim Or.inl (fun v => Or.inr (Or.inr v)), z10, z11, fun j hj b na ca hb hb2 => ?_⟩
    by_cases c : j < rV R
    · rw [t2b j c] at hb
      obtain ⟨b2, k1, na2, ca2, fn, fc, k2, -⟩ := h8 j c
      rw [hb] at k1; cases k1
      rw [neo _ _ _ k2 (by decide)] at hb2
      exact z12 j c b na ca hb (by rw [k2]; exact hb2)
    · have : j = rV R := by omega
      rw [this, t2] at hb; cases hb
      obtain ⟨na2, ca2, fn, fc, k2, -⟩ := he
      rw [neo _ _ _ k2 (by decide)] at hb2
      cases hb2
      exact hed _ _ k2
