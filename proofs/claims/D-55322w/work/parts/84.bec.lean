/-! the SpanRuler changes: become -/
set_option maxRecDepth 100000
/-- the model's state when R is the ruler that becomes current -/
def Bec (s : MS) (R : Nat → Int32) (s' : MS) : Prop :=
  (∀ q, q < 442 → R q = s'.A 0 q) ∧ (mU s' = (if mU s = 6 then 6 else mU s + 1) ∧ s'.I 4 = nI (mU s')) ∧
  (∀ k, k + 1 < mU s' → ∀ q, q < 442 → s.A 3 (442 * (if mU s = 6 then k + 1 else k) + q) = s'.A 3 (442 * k + q)) ∧
  (∀ q, q < 442 → s.A 0 q = s'.A 3 (442 * (mU s' - 1) + q)) ∧ (∀ q, q < 442 → s.A 5 q = s'.A 5 q) ∧
  s'.I 6 = s.I 6 ∧ s'.I 8 = s.I 8 ∧ s'.A 7 = s.A 7 ∧ s'.I 10 = s.I 10 ∧ s'.A 9 = s.A 9 ∧ s'.I 14 = s.I 14 ∧ s'.I 15 = s.I 15 ∧ s'.I 16 = s.I 16
theorem REq.of {R S : Nat → Int32} (hN : rN R ≤ 10) (hV : rV R ≤ 5) (h : ∀ q, q < 442 → R q = S q) : REq R S := ⟨fun q hq => h q (by omega), fun q _ hq => h q (by omega), fun q _ hq => h q (by omega)⟩
theorem RulerAt.inv {G : GE} {h : AH} {P : Nat → Prop} {a : Nat} {R : Nat → Int32} (x : RulerAt G h P a R) : RInv R := by
  obtain ⟨rt, cl, nl, nd, nc, nm, nf, vl, vd, vc, vm, vf, y⟩ := x
  exact y.2.2.2.2.2.1
theorem RulerAt.obj {G : GE} {h : AH} {P : Nat → Prop} {a : Nat} {R : Nat → Int32} (x : RulerAt G h P a R) : ∃ l, h a = some (ob 1 l) := by
  obtain ⟨rt, cl, nl, nd, nc, nm, nf, vl, vd, vc, vm, vf, y⟩ := x
  exact ⟨_, y.1.1⟩
theorem RulerAt.c442 {G : GE} {h : AH} {P : Nat → Prop} {a : Nat} {R S : Nat → Int32} (x : RulerAt G h P a R) (e : ∀ q, q < 442 → R q = S q) : RulerAt G h P a S := x.congr (REq.of x.inv.1.2 x.inv.2.1.2 e)
theorem TkOk.c442 {R S : Nat → Int32} (x : TkOk R) (i : RInv R) (e : ∀ q, q < 442 → R q = S q) : TkOk S := by
  have n1 : rN S = rN R := by unfold rN; rw [e 1 (by omega)]
  have := i.1.2
  intro p hp
  rw [n1] at hp
  rw [← e _ (by omega)]; exact x p hp
/-- lists and fields change outside of the rulers: the rest of the SpanRuler -/
theorem SRx.rest {G : GE} {own : Nat → Nat} {hr h h' : AH} {x : Nat} {s : MS} {ru : Nat} {sv : Value} {hl hd hc : Nat} {hm : Int32} {hf : Nat → Option Nat} {inp ln : Nat} {bt rf : Value} (S : SRx G own hr h x s ru sv hl hd hc hm hf inp ln bt rf) (hE : h (G.ga "E0") = none) (k : KeepA h h' hl hd) :
    KeepAll hr h' ∧ h' x = some (ob 0 [.ref ru, sv, .ref hl, .ref inp, .ref ln, .int (s.I 10), bt, rf]) ∧ SRi G hr h' s inp ∧ SRl G hr h' s ln inp ∧ SRe hr h' s bt rf := by
  obtain ⟨s1, s2, s3, s4, s5, s6, s7, s8, s9, s10, s11, s12⟩ := S
  have mo : ∀ q ci l, h q = some (ob ci l) → ci ≠ 12 → h' q = some (ob ci l) := fun q ci l w n => al_neo s6 hE k w n
  have ma : ∀ q n (f : Nat → Int32) i, h q = some (.inl (G.2.1 i, n, .inl f)) → h' q = some (.inl (G.2.1 i, n, .inl f)) := fun q n f i w => k q _ (fun e => by rw [e, s6.1] at w; cases w) (fun e => by
    rcases s6.2.1 with v | v
    · rw [e, v.2.1, hE] at w; cases w
    · rw [e, v.2] at w
      have := (Prod.mk.inj (Prod.mk.inj (Sum.inl.inj (Option.some.inj w))).2).2
      cases this) w
  refine ⟨fun q e w => ?_, mo _ _ _ s3 (by decide), s10.mv (fun q n f w => ma q n f 1 w), s11.mv (fun q l w => mo q 14 l w (by decide)) (fun q n f _ w => ma q n f 2 w), s12.mv (fun q ci l w z => mo q ci l w (by omega))⟩
  refine k q e (fun z => by rw [z, s4] at w; cases w) (fun z => ?_) (s1 q e w)
  rcases s6.2.1 with v | v
  · have := s1 q e w
    rw [z, v.2.1, hE] at this; cases this
  · rcases s5 with u | u
    · omega
    · rw [z, u] at w; cases w
theorem SRx.become {G : GE} {own : Nat → Nat} {hr h h' : AH} {x : Nat} {s s' : MS} {ru : Nat} {sv : Value} {hl hd hc : Nat} {hm : Int32} {hf : Nat → Option Nat} {inp ln : Nat} {bt rf : Value} (S : SRx G own hr h x s ru sv hl hd hc hm hf inp ln bt rf) (hE : h (G.ga "E0") = none) (k : KeepA h h' hl hd)
    {c : Nat} {R : Nat → Int32} (yc : RulerAt G hr (fun q => own q = c) c R) (tk : TkOk R) (nc : c ≠ ru) (nf : ∀ j, j < mU s → hf j ≠ some c) (nv : sv ≠ .ref c) {hd' hc' : Nat} {hm' : Int32} {g : Nat → Option Nat} (B : Bec s R s')
    (al : AL G h' hl hd' hc' (mU s') hm' g) (hd2 : hc' = 0 ∨ hr hd' = none) (hc2 : hc' < 60) (g1 : g (mU s' - 1) = some ru) (g2 : ∀ j, j + 1 < mU s' → g j = hf (if mU s = 6 then j + 1 else j)) :
    SRAt G (up h' x (ob 0 [.ref c, sv, .ref hl, .ref inp, .ref ln, .int (s.I 10), bt, rf])) x s' := by
  obtain ⟨r1, r2, r3, r4, r5⟩ := S.rest hE k
  obtain ⟨s1, s2, s3, s4, s5, s6, s7, s8, ⟨t1, t2, t3, t4⟩, s10, s11, s12⟩ := S
  obtain ⟨b0, ⟨b1, b2⟩, b3, b4, b5, b6, b7, b8, b9, b10, b11, b12, b13⟩ := B
  have u6 := s8.2
  have mo : ∀ q ci l, h' q = some (ob ci l) → ci ≠ 0 → up h' x (ob 0 [.ref c, sv, .ref hl, .ref inp, .ref ln, .int (s.I 10), bt, rf]) q = some (ob ci l) := fun q ci l w n => (up_ne (ob_ne r2 w (Ne.symm n))).trans w
  have mr : ∀ q y, h' q = some (.inl y) → up h' x (ob 0 [.ref c, sv, .ref hl, .ref inp, .ref ln, .int (s.I 10), bt, rf]) q = some (.inl y) := fun q y w => (up_ne (ob_na r2 w)).trans w
  have hidx : ∀ j, j + 1 < mU s' → (if mU s = 6 then j + 1 else j) < mU s := fun j hj => by
    by_cases e : mU s = 6
    · rw [if_pos e] at b1 ⊢; omega
    · rw [if_neg e] at b1 ⊢; omega
  refine ⟨own, hr, c, sv, hl, hd', hc', hm', g, inp, ln, bt, rf, r1.put s2, s2, ?_, s4, hd2, al.mv (fun q l w => mo q 12 l w (by decide)) (fun q n f w => mr q _ w), hc2, ⟨b2, ?_⟩, ⟨⟨yc.c442 b0, tk.c442 yc.inv b0⟩, fun j hj => ?_, fun i j hij hj => ?_, ?_⟩, (r3.mv (fun q n f w => mr q _ w)).congr b10 b9, (r4.mv (fun q l w => mo q 14 l w (by decide)) (fun q n f _ w => mr q _ w)).congr b8 b7, (r5.mv (fun q ci l w z => mo q ci l w (by omega))).congr b11 b12 b13⟩
  · rw [up_self, b9]
  · by_cases e : mU s = 6
    · rw [if_pos e] at b1; omega
    · rw [if_neg e] at b1; omega
  · by_cases e : j + 1 < mU s'
    · obtain ⟨a, a1, a2, a3, a4⟩ := t2 _ (hidx j e)
      exact ⟨a, by rw [g2 j e]; exact a1, fun z => nf _ (hidx j e) (by rw [a1, z]), a3.c442 (b3 j e), a4.c442 a3.inv (b3 j e)⟩
    · have ej : j = mU s' - 1 := by omega
      subst ej
      exact ⟨ru, g1, Ne.symm nc, t1.1.c442 b4, t1.2.c442 t1.1.inv b4⟩
  · by_cases e : j + 1 < mU s'
    · rw [g2 i (by omega), g2 j e]
      refine t3 _ _ ?_ (hidx j e)
      by_cases e6 : mU s = 6
      · rw [if_pos e6, if_pos e6]; omega
      · rw [if_neg e6, if_neg e6]; omega
    · have ej : j = mU s' - 1 := by omega
      subst ej
      rw [g1, g2 i (by omega)]
      obtain ⟨a, a1, a2, -⟩ := t2 _ (hidx i (by omega))
      rw [a1]; exact fun z => a2 (Option.some.inj z)
  · rcases t4 with ⟨a1, a2⟩ | ⟨a, a1, a2, a3, a4, a5, a6⟩
    · exact Or.inl ⟨a1, by rw [b6]; exact a2⟩
    · refine Or.inr ⟨a, a1, by rw [b6]; exact a2, fun z => nv (by rw [a1, z]), fun j hj => ?_, a5.c442 b5, a6.c442 a5.inv b5⟩
      by_cases e : j + 1 < mU s'
      · rw [g2 j e]; exact a4 _ (hidx j e)
      · have ej : j = mU s' - 1 := by omega
        subst ej
        rw [g1]; exact fun z => a3 (Option.some.inj z).symm
/-- a copy stands beside -/
theorem SRx.copied {G : GE} {own : Nat → Nat} {hr hr2 h h2 : AH} {x : Nat} {s : MS} {ru : Nat} {sv : Value} {hl hd hc : Nat} {hm : Int32} {hf : Nat → Option Nat} {inp ln : Nat} {bt rf : Value} (S : SRx G own hr h x s ru sv hl hd hc hm hf inp ln bt rf) {c : Nat} {R : Nat → Int32} (m : RulerM G hr hr2 c R) (k2 : KeepAll hr2 h2) (o : ∀ q e, hr q = none → h q = some e → hr2 q = none ∧ h2 q = some e) :
    ∃ own', SRx G own' hr2 h2 x s ru sv hl hd hc hm hf inp ln bt rf ∧ RulerAt G hr2 (fun q => own' q = c) c R ∧ c ≠ ru ∧ (∀ j, j < mU s → hf j ≠ some c) ∧ sv ≠ .ref c := by
  obtain ⟨t1, t2, t3, t4⟩ := S.2.2.2.2.2.2.2.2.1
  have kk := m.keep
  have c0 : hr c = none := by
    obtain ⟨rt, cl, nl, nd, nc, nm, nf, vl, vd, vc, vm, vf, y, z⟩ := m
    exact z.2.1
  have ne : ∀ a l, hr a = some (ob 1 l) → a ≠ c := fun a l w e => by rw [e, c0] at w; cases w
  have up' : ∀ (a : Nat) (T : Nat → Int32), RulerAt G hr (fun q => own q = a) a T → RulerAt G hr2 (fun q => (if hr q = none then c else own q) = a) a T := fun a T w => w.all kk (fun q e n => by
    show (if hr q = none then c else own q) = a
    rw [if_neg n]; exact e)
  refine ⟨fun q => if hr q = none then c else own q, S.move k2 o ⟨⟨up' _ _ t1.1, t1.2⟩, fun j hj => ?_, t3, ?_⟩, ?_, ?_, fun j hj => ?_, ?_⟩
  · obtain ⟨a, a1, a2, a3, a4⟩ := t2 j hj
    exact ⟨a, a1, a2, up' _ _ a3, a4⟩
  · rcases t4 with a | ⟨a, a1, a2, a3, a4, a5, a6⟩
    · exact Or.inl a
    · exact Or.inr ⟨a, a1, a2, a3, a4, up' _ _ a5, a6⟩
  · obtain ⟨rt, cl, nl, nd, nc, nm, nf, vl, vd, vc, vm, vf, y, z⟩ := m
    exact ⟨rt, cl, nl, nd, nc, nm, nf, vl, vd, vc, vm, vf, y.kp (fun q ci l w _ => w) (fun q y w => w) (TreeAt.mono (fun q w _ => if_pos w) _ _ _ _ y.1.2.1)⟩
  · obtain ⟨l, w⟩ := t1.1.obj
    exact Ne.symm (ne _ _ w)
  · obtain ⟨a, a1, a2, a3, a4⟩ := t2 j hj
    obtain ⟨l, w⟩ := a3.obj
    rw [a1]; exact fun z => ne _ _ w (Option.some.inj z)
  · rcases t4 with ⟨a, -⟩ | ⟨a, a1, a2, a3, a4, a5, a6⟩
    · rw [a]; exact fun z => nomatch z
    · obtain ⟨l, w⟩ := a5.obj
      rw [a1]; exact fun z => by cases z; exact ne _ _ w rfl
theorem els_hist {G : GE} {own : Nat → Nat} {hr h : AH} {x : Nat} {s : MS} {ru : Nat} {sv : Value} {hl hd hc : Nat} {hm : Int32} {hf : Nat → Option Nat} {inp ln : Nat} {bt rf : Value} (S : SRx G own hr h x s ru sv hl hd hc hm hf inp ln bt rf) : Els G h hf (mU s) := fun j hj y hy => by
  obtain ⟨a, a1, a2, a3, a4⟩ := S.2.2.2.2.2.2.2.2.1.2.1 j hj
  obtain ⟨l, w⟩ := a3.obj
  rw [hy] at a1; cases a1
  exact ⟨1, l, by decide, Rd.h (S.1 _ _ w)⟩
