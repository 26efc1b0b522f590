/-! rulers: what is said of them -/
set_option maxRecDepth 100000
/-! rulers in the heap -/
def kd (x : Int32) : String := if x = 0 then "K0" else if x = 1 then "K1" else "K2"
def NoteAt (G : GE) (h : AH) (b : Nat) (R : Nat → Int32) (p : Nat) : Prop := h b = some (ob 6 [.ref (G.ga (kd (R (72 + 5 * p + 0)))), .int (R (72 + 5 * p + 1)), .int (R (72 + 5 * p + 2)), .int (R (72 + 5 * p + 3)), .int (R (72 + 5 * p + 4))])
def VersAt (G : GE) (h : AH) (b : Nat) (R : Nat → Int32) (j : Nat) : Prop := ∃ (na ca : Nat) (fn fc : Nat → Int32), h b = some (ob 8 [.ref na, .ref ca]) ∧ h na = some (aI G 32 fn) ∧ h ca = some (aI G 32 fc) ∧ ∀ c, c < 32 → fn c = R (122 + 64 * j + c) ∧ fc c = R (122 + 64 * j + 32 + c)
abbrev rN (R : Nat → Int32) : Nat := nn (R 1)
abbrev rV (R : Nat → Int32) : Nat := nn (R 2)
def NoteOk (R : Nat → Int32) (p : Nat) : Prop := inR (R (72 + 5 * p + 0)) 0 2 = true ∧ isSp (R (72 + 5 * p + 1)) (R (72 + 5 * p + 2)) = true ∧ isNu (R (72 + 5 * p + 0)) (R (72 + 5 * p + 3)) = true ∧ inR (R (72 + 5 * p + 4)) 0 20 = true
def RInv (R : Nat → Int32) : Prop := (R 1 = nI (rN R) ∧ rN R ≤ 10) ∧ (R 2 = nI (rV R) ∧ rV R ≤ 5) ∧ (∀ c, c < 32 → rg (R (8 + c))) ∧ (∀ c, c < 32 → isCo (R (40 + c)) = true) ∧ (∀ p, p < rN R → NoteOk R p) ∧ ∀ j, j < rV R → ∀ c, c < 32 → rg (R (122 + 64 * j + c)) ∧ isCo (R (122 + 64 * j + 32 + c)) = true
/-- the ruler's object, its tree, its colours -/
def RQ (G : GE) (h : AH) (P : Nat → Prop) (a : Nat) (R : Nat → Int32) (rt cl : Nat) (ro : List Value) : Prop := h a = some (ob 1 (.ref rt :: .ref cl :: ro)) ∧ TreeAt h P 5 (fun c => R (8 + c)) 0 rt ∧ ∃ cf, h cl = some (aI G 32 cf) ∧ ∀ c, c < 32 → cf c = R (40 + c)
def rof (R : Nat → Int32) (nl vl : Nat) : List Value := [.ref nl, .ref vl, .int (R 3), .int (R 4), .int (R 5), .int (R 0), .int (R 6), .int (R 7)]
def Rul (G : GE) (h : AH) (P : Nat → Prop) (a : Nat) (R : Nat → Int32) (rt cl nl nd nc : Nat) (nm : Int32) (nf : Nat → Option Nat) (vl vd vc : Nat) (vm : Int32) (vf : Nat → Option Nat) : Prop :=
  RQ G h P a R rt cl (rof R nl vl) ∧ AL G h nl nd nc (rN R) nm nf ∧ (∀ p, p < rN R → ∃ b, nf p = some b ∧ NoteAt G h b R p) ∧ AL G h vl vd vc (rV R) vm vf ∧ (∀ j, j < rV R → ∃ b, vf j = some b ∧ VersAt G h b R j) ∧ RInv R ∧ nc < 60 ∧ vc < 60
def RulerAt (G : GE) (h : AH) (P : Nat → Prop) (a : Nat) (R : Nat → Int32) : Prop := ∃ (rt cl nl nd nc : Nat) (nm : Int32) (nf : Nat → Option Nat) (vl vd vc : Nat) (vm : Int32) (vf : Nat → Option Nat), Rul G h P a R rt cl nl nd nc nm nf vl vd vc vm vf
theorem AL.kp {G : GE} {h h' : AH} {a d cap n : Nat} {mc : Int32} {f : Nat → Option Nat} (x : AL G h a d cap n mc f) (ha : ∀ e, h a = some e → h' a = some e) (hd : ∀ y, h d = some (.inl y) → h' d = some (.inl y)) : AL G h' a d cap n mc f := by
  obtain ⟨h1, h2, h3⟩ := x
  exact ⟨ha _ h1, h2.imp id (fun z => ⟨z.1, hd _ z.2⟩), h3⟩
theorem VersAt.kp {G : GE} {h h' : AH} {b j : Nat} {R : Nat → Int32} (x : VersAt G h b R j) (ho : ∀ q l, h q = some (ob 8 l) → h' q = some (ob 8 l)) (ha : ∀ q y, h q = some (.inl y) → h' q = some (.inl y)) : VersAt G h' b R j := by
  obtain ⟨na, ca, fn, fc, h1, h2, h3, h4⟩ := x
  exact ⟨na, ca, fn, fc, ho _ _ h1, ha _ _ h2, ha _ _ h3, h4⟩
theorem RQ.kp {G : GE} {h h' : AH} {P : Nat → Prop} {a rt cl : Nat} {R : Nat → Int32} {ro : List Value} (x : RQ G h P a R rt cl ro) (ho : ∀ q l, h q = some (ob 1 l) → h' q = some (ob 1 l)) (ha : ∀ q y, h q = some (.inl y) → h' q = some (.inl y)) (ht : TreeAt h' P 5 (fun c => R (8 + c)) 0 rt) : RQ G h' P a R rt cl ro := by
  obtain ⟨h1, h2, cf, h3, h4⟩ := x
  exact ⟨ho _ _ h1, ht, cf, ha _ _ h3, h4⟩
theorem RQ.chg {G : GE} {h h' : AH} {P : Nat → Prop} {a rt cl : Nat} {R : Nat → Int32} {ro : List Value} (x : RQ G h P a R rt cl ro) (c : Chg P 0 32 h h') (ht : TreeAt h' P 5 (fun c => R (8 + c)) 0 rt) : RQ G h' P a R rt cl ro := x.kp (fun q l z => c.other z ⟨by decide, by decide⟩) (fun q y z => c.arr z) ht
/-- what stands there besides the tree stays -/
theorem Rul.kp {G : GE} {h h' : AH} {P P' : Nat → Prop} {a rt cl nl nd nc vl vd vc : Nat} {R : Nat → Int32} {nm vm : Int32} {nf vf : Nat → Option Nat} (x : Rul G h P a R rt cl nl nd nc nm nf vl vd vc vm vf) (ho : ∀ q ci l, h q = some (ob ci l) → ci = 1 ∨ ci = 6 ∨ ci = 8 ∨ ci = 12 → h' q = some (ob ci l)) (ha : ∀ q y, h q = some (.inl y) → h' q = some (.inl y)) (ht : TreeAt h' P' 5 (fun c => R (8 + c)) 0 rt) : Rul G h' P' a R rt cl nl nd nc nm nf vl vd vc vm vf := by
  obtain ⟨⟨h1, h2, cf, h3, h4⟩, h5, h6, h7, h8, h9⟩ := x
  refine ⟨⟨ho _ _ _ h1 (by omega), ht, cf, ha _ _ h3, h4⟩, h5.kp (fun e z => ?_) (fun y z => ha _ y z), fun p hp => ?_, h7.kp (fun e z => ?_) (fun y z => ha _ y z), fun j hj => ?_, h9⟩
  · have z2 := h5.1; rw [z] at z2; cases z2; exact ho _ _ _ z (by omega)
  · obtain ⟨b, k1, k2⟩ := h6 p hp; exact ⟨b, k1, ho _ _ _ k2 (by omega)⟩
  · have z2 := h7.1; rw [z] at z2; cases z2; exact ho _ _ _ z (by omega)
  · obtain ⟨b, k1, k2⟩ := h8 j hj; exact ⟨b, k1, k2.kp (fun q l z => ho _ _ _ z (by omega)) ha⟩
theorem Rul.chg {G : GE} {h h' : AH} {P P' : Nat → Prop} {a rt cl nl nd nc vl vd vc : Nat} {R : Nat → Int32} {nm vm : Int32} {nf vf : Nat → Option Nat} (x : Rul G h P a R rt cl nl nd nc nm nf vl vd vc vm vf) (c : Chg P' 0 32 h h') (ht : TreeAt h' P 5 (fun c => R (8 + c)) 0 rt) : Rul G h' P a R rt cl nl nd nc nm nf vl vd vc vm vf := x.kp (fun q ci l z w => c.other z (by omega)) (fun q y z => c.arr z) ht
theorem RulerAt.chgOther {G : GE} {h h' : AH} {P P' : Nat → Prop} {a : Nat} {R : Nat → Int32} (x : RulerAt G h P a R) (c : Chg P' 0 32 h h') (hp : ∀ q, P' q → P q → False) : RulerAt G h' P a R := by
  obtain ⟨rt, cl, nl, nd, nc, nm, nf, vl, vd, vc, vm, vf, y⟩ := x
  exact ⟨rt, cl, nl, nd, nc, nm, nf, vl, vd, vc, vm, vf, y.chg c (c.tree y.1.2.1 (by decide) (Or.inl hp))⟩
theorem RulerAt.all {G : GE} {h h' : AH} {P P' : Nat → Prop} {a : Nat} {R : Nat → Int32} (x : RulerAt G h P a R) (k : KeepAll h h') (hp : ∀ q, P q → h q ≠ none → P' q) : RulerAt G h' P' a R := by
  obtain ⟨rt, cl, nl, nd, nc, nm, nf, vl, vd, vc, vm, vf, y⟩ := x
  exact ⟨rt, cl, nl, nd, nc, nm, nf, vl, vd, vc, vm, vf, y.kp (fun q ci l z _ => k _ _ z) (fun q y z => k _ _ z) (k.tree (TreeAt.mono hp _ _ _ _ y.1.2.1) (by decide))⟩
/-- a ruler of a call's own, that may be changed: all of it is newer than h0 -/
def Frs (G : GE) (h0 h : AH) (a : Nat) (R : Nat → Int32) (cl nl nd nc : Nat) (nf : Nat → Option Nat) (vl vd vc : Nat) (vf : Nat → Option Nat) : Prop :=
  KeepAll h0 h ∧ h0 a = none ∧ h0 cl = none ∧ h0 nl = none ∧ h0 vl = none ∧ h0 nd = none ∧ h0 vd = none ∧ nl ≠ vl ∧ (nc = 0 ∨ vc = 0 ∨ nd ≠ vd) ∧ (∀ p, p < rN R → ∀ b, nf p = some b → h0 b = none) ∧ (∀ p q, p < q → q < rN R → nf p ≠ nf q) ∧
  ∀ j, j < rV R → ∀ b na ca, vf j = some b → h b = some (ob 8 [.ref na, .ref ca]) → na ≠ cl ∧ ca ≠ cl
def RulerM (G : GE) (h0 h : AH) (a : Nat) (R : Nat → Int32) : Prop := ∃ (rt cl nl nd nc : Nat) (nm : Int32) (nf : Nat → Option Nat) (vl vd vc : Nat) (vm : Int32) (vf : Nat → Option Nat), Rul G h (fun q => h0 q = none) a R rt cl nl nd nc nm nf vl vd vc vm vf ∧ Frs G h0 h a R cl nl nd nc nf vl vd vc vf
theorem RulerM.keep {G : GE} {h0 h : AH} {a : Nat} {R : Nat → Int32} (x : RulerM G h0 h a R) : KeepAll h0 h := by
  obtain ⟨rt, cl, nl, nd, nc, nm, nf, vl, vd, vc, vm, vf, y, z⟩ := x
  exact z.1
/-- only nodes of it changed -/
theorem KeepAll.chg {h0 h h' : AH} (k : KeepAll h0 h) {lo n : Nat} (c : Chg (fun q => h0 q = none) lo n h h') : KeepAll h0 h' := fun q e z => c q e (k q e z) (fun w => by
  have w1 : h0 q = none := w.1
  rw [z] at w1; cases w1)
theorem Frs.mono {G : GE} {h0 h h' : AH} {a : Nat} {R : Nat → Int32} {cl nl nd nc : Nat} {nf : Nat → Option Nat} {vl vd vc : Nat} {vf : Nat → Option Nat} (z : Frs G h0 h a R cl nl nd nc nf vl vd vc vf) (k : KeepAll h0 h') (hv : ∀ j, j < rV R → ∀ b, vf j = some b → h' b = h b) : Frs G h0 h' a R cl nl nd nc nf vl vd vc vf := by
  obtain ⟨z1, z2, z3, z4, z5, z6, z7, z8, z9, z10, z11, z12⟩ := z
  exact ⟨k, z2, z3, z4, z5, z6, z7, z8, z9, z10, z11, fun j hj b na ca hb hb2 => z12 j hj b na ca hb (by rw [← hv j hj b hb]; exact hb2)⟩
theorem Rul.vb {G : GE} {h : AH} {P : Nat → Prop} {a rt cl nl nd nc vl vd vc : Nat} {R : Nat → Int32} {nm vm : Int32} {nf vf : Nat → Option Nat} (x : Rul G h P a R rt cl nl nd nc nm nf vl vd vc vm vf) {j : Nat} (hj : j < rV R) {b : Nat} (hb : vf j = some b) : ∃ l, h b = some (ob 8 l) := by
  obtain ⟨b2, k1, na, ca, fn, fc, k2, -⟩ := x.2.2.2.2.1 j hj
  rw [hb] at k1; cases k1
  exact ⟨_, k2⟩
theorem RulerM.kp {G : GE} {h0 h h' : AH} {a : Nat} {R : Nat → Int32} (x : RulerM G h0 h a R) (k : KeepAll h0 h') (ho : ∀ q ci l, h q = some (ob ci l) → ci < 13 → h' q = some (ob ci l)) (ha : ∀ q y, h q = some (.inl y) → h' q = some (.inl y)) : RulerM G h0 h' a R := by
  obtain ⟨rt, cl, nl, nd, nc, nm, nf, vl, vd, vc, vm, vf, y, z⟩ := x
  refine ⟨rt, cl, nl, nd, nc, nm, nf, vl, vd, vc, vm, vf, y.kp (fun q ci l w w2 => ho _ _ _ w (by omega)) ha (TreeAt.keep 5 _ _ _ (by decide) y.1.2.1 (fun q e w w2 => ?_)), z.mono k fun j hj b hb => ?_⟩
  · rcases w2 with ⟨-, ci, i, j, fs, e1, e2, -⟩ | ⟨l, e1⟩
    · subst e1; exact ho _ _ _ w (by omega)
    · subst e1; exact ho _ _ _ w (by omega)
  · obtain ⟨l, w⟩ := y.vb hj hb
    rw [w, ho _ _ _ w (by omega)]
theorem RulerM.chg {G : GE} {h0 h h' : AH} {a rt cl nl nd nc vl vd vc : Nat} {R : Nat → Int32} {nm vm : Int32} {nf vf : Nat → Option Nat} (y : Rul G h (fun q => h0 q = none) a R rt cl nl nd nc nm nf vl vd vc vm vf) (z : Frs G h0 h a R cl nl nd nc nf vl vd vc vf) (c : Chg (fun q => h0 q = none) 0 32 h h') (ht : TreeAt h' (fun q => h0 q = none) 5 (fun c => R (8 + c)) 0 rt) : Rul G h' (fun q => h0 q = none) a R rt cl nl nd nc nm nf vl vd vc vm vf ∧ Frs G h0 h' a R cl nl nd nc nf vl vd vc vf :=
  ⟨y.chg c ht, z.mono (z.1.chg c) fun j hj b hb => by
    obtain ⟨l, w⟩ := y.vb hj hb
    rw [w, c.other w ⟨by decide, by decide⟩]⟩
theorem RulerM.at {G : GE} {h0 h : AH} {a : Nat} {R : Nat → Int32} (x : RulerM G h0 h a R) : RulerAt G h (fun q => h0 q = none) a R := by
  obtain ⟨rt, cl, nl, nd, nc, nm, nf, vl, vd, vc, vm, vf, y, z⟩ := x
  exact ⟨rt, cl, nl, nd, nc, nm, nf, vl, vd, vc, vm, vf, y⟩
/-- what rulers look at -/
def REq (R S : Nat → Int32) : Prop := (∀ q, q < 72 → R q = S q) ∧ (∀ q, 72 ≤ q → q < 72 + 5 * rN R → R q = S q) ∧ ∀ q, 122 ≤ q → q < 122 + 64 * rV R → R q = S q
theorem NoteOk.congr {R S : Nat → Int32} {p : Nat} (x : NoteOk R p) (e : ∀ w, w < 5 → R (72 + 5 * p + w) = S (72 + 5 * p + w)) : NoteOk S p := by
  unfold NoteOk at *
  rw [← e 0 (by omega), ← e 1 (by omega), ← e 2 (by omega), ← e 3 (by omega), ← e 4 (by omega)]; exact x
theorem Rul.congr {G : GE} {h : AH} {P : Nat → Prop} {a rt cl nl nd nc vl vd vc : Nat} {R S : Nat → Int32} {nm vm : Int32} {nf vf : Nat → Option Nat} (x : Rul G h P a R rt cl nl nd nc nm nf vl vd vc vm vf) (e : REq R S) : Rul G h P a S rt cl nl nd nc nm nf vl vd vc vm vf := by
  obtain ⟨e1, e2, e3⟩ := e
  obtain ⟨⟨h1, h2, cf, h3, h4⟩, h5, h6, h7, h8, ⟨i1, i2, i3, i4, i5, i6⟩, h9, h10⟩ := x
  have n1 : rN S = rN R := by unfold rN; rw [e1 1 (by omega)]
  have n2 : rV S = rV R := by unfold rV; rw [e1 2 (by omega)]
  refine ⟨⟨?_, h2.congr (fun c _ hc => e1 _ ?_), cf, h3, fun c hc => ?_⟩, ?_, ?_, ?_, ?_, ⟨?_, ?_, ?_, ?_, ?_, ?_⟩, h9, h10⟩
  · unfold rof at *; rw [← e1 3 (by omega), ← e1 4 (by omega), ← e1 5 (by omega), ← e1 0 (by omega), ← e1 6 (by omega), ← e1 7 (by omega)]; exact h1
  · have : sz 5 = 32 := rfl
    omega
  · rw [← e1 _ (by omega)]; exact h4 c hc
  · rw [n1]; exact h5
  · rw [n1]; intro p hp
    obtain ⟨b, k1, k2⟩ := h6 p hp
    refine ⟨b, k1, ?_⟩
    unfold NoteAt at *
    rw [← e2 (72 + 5 * p + 0) (by omega) (by omega), ← e2 (72 + 5 * p + 1) (by omega) (by omega), ← e2 (72 + 5 * p + 2) (by omega) (by omega), ← e2 (72 + 5 * p + 3) (by omega) (by omega), ← e2 (72 + 5 * p + 4) (by omega) (by omega)]; exact k2
  · rw [n2]; exact h7
  · rw [n2]; intro j hj
    obtain ⟨b, k1, na, ca, fn, fc, k2, k3, k4, k5⟩ := h8 j hj
    exact ⟨b, k1, na, ca, fn, fc, k2, k3, k4, fun c hc => by rw [← e3 _ (by omega) (by omega), ← e3 (122 + 64 * j + 32 + c) (by omega) (by omega)]; exact k5 c hc⟩
  · rw [n1, ← e1 1 (by omega)]; exact i1
  · rw [n2, ← e1 2 (by omega)]; exact i2
  · intro c hc; rw [← e1 _ (by omega)]; exact i3 c hc
  · intro c hc; rw [← e1 _ (by omega)]; exact i4 c hc
  · rw [n1]; intro p hp; exact (i5 p hp).congr (fun w hw => e2 _ (by omega) (by omega))
  · rw [n2]; intro j hj c hc; rw [← e3 _ (by omega) (by omega), ← e3 (122 + 64 * j + 32 + c) (by omega) (by omega)]; exact i6 j hj c hc
theorem RulerAt.congr {G : GE} {h : AH} {P : Nat → Prop} {a : Nat} {R S : Nat → Int32} (x : RulerAt G h P a R) (e : REq R S) : RulerAt G h P a S := by
  obtain ⟨rt, cl, nl, nd, nc, nm, nf, vl, vd, vc, vm, vf, y⟩ := x
  exact ⟨rt, cl, nl, nd, nc, nm, nf, vl, vd, vc, vm, vf, y.congr e⟩
theorem RulerM.congr {G : GE} {h0 h : AH} {a : Nat} {R S : Nat → Int32} (x : RulerM G h0 h a R) (e : REq R S) : RulerM G h0 h a S := by
  obtain ⟨rt, cl, nl, nd, nc, nm, nf, vl, vd, vc, vm, vf, y, z⟩ := x
  have n1 : rN S = rN R := by unfold rN; rw [e.1 1 (by omega)]
  have n2 : rV S = rV R := by unfold rV; rw [e.1 2 (by omega)]
  refine ⟨rt, cl, nl, nd, nc, nm, nf, vl, vd, vc, vm, vf, y.congr e, ?_⟩
  unfold Frs at *
  rw [n1, n2]; exact z
/-! sums in the model's words -/
theorem sm_tsum (R : Nat → Int32) : ∀ (n c : Nat) (acc : Int32), sm R n c acc = acc + tsum (fun c => R (8 + c)) n c := by
  intro n
  induction n with
  | zero => intro c acc; exact (Int32.add_zero _).symm
  | succ n ih =>
    intro c acc
    show sm R n (c + 1) (acc + R (8 + c)) = acc + (R (8 + c) + tsum (fun c => R (8 + c)) n (c + 1))
    rw [ih, Int32.add_assoc]
theorem sm0 (R : Nat → Int32) (n c : Nat) : sm R n c 0 = tsum (fun c => R (8 + c)) n c := by rw [sm_tsum, Int32.zero_add]
theorem tsum_span {v : Nat → Int32} {i j : Nat} (h : i ≤ j + 1) (hj : j < 32) : tsum (fun c => if i ≤ c ∧ c ≤ j then v c else 0) 32 0 = tsum v (j + 1 - i) i := by
  rw [show 32 = i + (32 - i) by omega, tsum_add, tsum_zero i 0 (fun c _ _ => if_neg (by omega)), Int32.zero_add, Nat.zero_add, show 32 - i = (j + 1 - i) + (32 - (j + 1)) by omega, tsum_add, tsum_congr (w := v) (j + 1 - i) i (fun c _ _ => if_pos (by omega)), tsum_zero (32 - (j + 1)) _ (fun c _ _ => if_neg (by omega)), Int32.add_zero]
theorem sm_span {R : Nat → Int32} {i j : Nat} {g : Int32} (h : i ≤ j + 1) (hj : j < 32) (x : Sm (fun c => R (8 + c)) 0 (sz 5) i j g) : g = sm R (j + 1 - i) i 0 := by
  rw [sm0]
  have e : g = tsum (fun c => if i ≤ c ∧ c ≤ j then R (8 + c) else 0) 32 0 := x
  rw [e, tsum_span h hj]
theorem sm_one {R : Nat → Int32} {i : Nat} {g : Int32} (hi : i < 32) (x : Sm (fun c => R (8 + c)) 0 (sz 5) i i g) : g = R (8 + i) := by
  rw [sm_span (by omega) hi x, show i + 1 - i = 1 by omega]
  show 0 + R (8 + i) = _
  rw [Int32.zero_add]
theorem cst_one : ∀ i, i < 32 → cst 5 0 i i ≤ 48 := by decide +kernel
theorem cst_two : ∀ i, i < 32 → ∀ j, j < 32 → cst 5 0 i j ≤ 100 := by decide +kernel
theorem trc5 : trc 5 = 564 := by decide +kernel
section
variable {X : GX} {yM : MethodName} {cc : ByteArray} {nL : Nat} {rT : Option FieldType} {hH : List (Nat × Nat × Nat × Nat)} {lV kB : Nat} {hA : AH} {kc pc : Nat} {ls : List (Option Value)} {st : List Value}
/-- a constant cell isn't among the moving ones -/
theorem g_khn {q : Nat} {e : va_E} (hq : X.G.kh q = some e) (kk : hA q = none → GW X hA kc pc ls st) : GW X hA kc pc ls st := by
  intro H locs la hP hG hS hL
  exact kk (hP.2.1 q e hq).2 H locs la hP hG hS hL
end
