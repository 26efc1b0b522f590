/-! the frame rule -/
set_option maxRecDepth 100000
/-! THE FRAME RULE: a method that is told of a part of the heap leaves the rest as it was -/
def cup (a b : AH) : AH := fun q => match a q with
  | some e => some e
  | none => b q
/-- h without what a tells of -/
def mns (h a : AH) : AH := fun q => match a q with
  | some _ => none
  | none => h q
theorem cup_l {a b : AH} {q : Nat} {e : va_E} (h : a q = some e) : cup a b q = some e := by unfold cup; rw [h]
theorem cup_r {a b : AH} {q : Nat} (h : a q = none) : cup a b q = b q := by unfold cup; rw [h]
theorem mns_n {h a : AH} {q : Nat} {e : va_E} (w : a q = some e) : mns h a q = none := by unfold mns; rw [w]
theorem mns_k {h a : AH} {q : Nat} (w : a q = none) : mns h a q = h q := by unfold mns; rw [w]
theorem cup_mns {h a : AH} (k : KeepAll a h) : cup a (mns h a) = h := by
  funext q
  cases e : a q with
  | none => rw [cup_r e, mns_k e]
  | some y => rw [cup_l e, k q y e]
/-- the pictures joined again -/
theorem Hp.join {G : GE} {hr h h' : AH} {U V : State} (k : KeepAll hr h) (x : Hp G h U U.heap) (y : Hp G h' V V.heap) (g : Gr hr h' U.heap.size) (f : va_F (gA hr U.heap.size) U V) (al : U.vm.Alike V.vm) : Hp G (cup h' (mns h hr)) V V.heap := by
  have x0 := x
  obtain ⟨x1, x2, x3, x4, x5, x6⟩ := x
  obtain ⟨y1, y2, y3, y4, y5, y6⟩ := y
  have key : ∀ b : Nat, b < U.heap.size → ¬ h b ≠ none → V.heap[b]? = U.heap[b]? := fun b hb hn => f.2 b hb (fun w => by
    rcases w with w | w
    · cases e : hr b with
      | none => exact w e
      | some z => exact hn (by rw [k b z e]; exact fun z => by cases z)
    · omega)
  have nA : ∀ b : Nat, b < U.heap.size → ¬ h b ≠ none → ¬ cup h' (mns h hr) b ≠ none := fun b hb hn w => by
    cases e : h' b with
    | none =>
      rw [cup_r e] at w
      cases e2 : hr b with
      | none => rw [mns_k e2] at w; exact hn w
      | some z => rw [mns_n e2] at w; exact w rfl
    | some z =>
      rcases g b (by rw [e]; exact fun z => by cases z) with w2 | w2
      · cases e2 : hr b with
        | none => exact w2 e2
        | some z => exact hn (by rw [k b z e2]; exact fun z => by cases z)
      · omega
  refine ⟨fun a e ha => ?_, fun a e ha => ⟨(y2 a e ha).1, ?_⟩, fun z hz => (z_upd ((x3 z hz).moved al) key nA), fun c hc => ⟨?_, ?_⟩, zq_upd (x5.moved al) key nA, zq_upd (x6.moved al) key nA⟩
  · cases e1 : h' a with
    | some z => rw [cup_l e1] at ha; cases ha; exact y1 a _ e1
    | none =>
      rw [cup_r e1] at ha
      cases e2 : hr a with
      | some z => rw [mns_n e2] at ha; cases ha
      | none =>
        rw [mns_k e2] at ha
        have h1 := x1 a e ha
        exact h1.kept (f.2 a h1.lt (fun w => by
          rcases w with w | w
          · exact w e2
          · exact absurd h1.lt (Nat.not_lt.mpr w)))
  · rw [cup_r (y2 a e ha).2]
    cases e2 : hr a with
    | some z => exact mns_n e2
    | none => rw [mns_k e2]; exact (x2 a e ha).2
  · obtain ⟨cell, g1, g2, g3, g4⟩ := (x4 c hc).1.moved al
    have hl := (Array.getElem?_eq_some_iff.mp g1).1
    exact ⟨cell, by rw [key _ hl g4]; exact g1, g2, g3, nA _ hl g4⟩
  · obtain ⟨cf, i, fi, f2, cell, g1, g2, g3, g4, g5, g6⟩ := (x4 c hc).2.moved al
    have hl := (Array.getElem?_eq_some_iff.mp g3).1
    exact ⟨cf, i, fi, f2, cell, g1, g2, by rw [key _ hl g6]; exact g3, g4, g5, nA _ hl g6⟩
theorem Gr.join {hr h h' : AH} {sz : Nat} (k : KeepAll hr h) (g : Gr hr h' sz) : Gr h (cup h' (mns h hr)) sz := fun q hq => by
  cases e : h' q with
  | some z =>
    rcases g q (by rw [e]; exact fun z => by cases z) with w | w
    · cases e2 : hr q with
      | none => exact absurd e2 w
      | some z => exact Or.inl (by rw [k q z e2]; exact fun z => by cases z)
    · exact Or.inr w
  | none =>
    rw [cup_r e] at hq
    cases e2 : hr q with
    | some z => rw [mns_n e2] at hq; exact absurd rfl hq
    | none => rw [mns_k e2] at hq; exact Or.inl hq
theorem gA.le {hr h : AH} {sz : Nat} (k : KeepAll hr h) {q : Nat} (x : gA hr sz q) : gA h sz q := by
  rcases x with w | w
  · cases e2 : hr q with
    | none => exact absurd e2 w
    | some z => exact Or.inl (by rw [k q z e2]; exact fun z => by cases z)
  · exact Or.inr w
/-- what a framed call leaves: hr' in the place of hr -/
def Frm (hr h hr' h' : AH) : Prop := h' = cup hr' (mns h hr) ∧ ∀ q, hr q = none → h q ≠ none → hr' q = none
theorem Frm.of {hr h h' : AH} {G : GE} {U : State} (x : Hp G h U U.heap) (g : Gr hr h' U.heap.size) : Frm hr h h' (cup h' (mns h hr)) := ⟨rfl, fun q e1 e2 => by
  cases e : h' q with
  | none => rfl
  | some z =>
    rcases g q (by rw [e]; exact fun z => by cases z) with w | w
    · exact absurd e1 w
    · exact absurd (x.lt e2) (Nat.not_lt.mpr w)⟩
theorem GM.frame {l : Launch} {G : GE} {y : MethodName} {ws : List Cond} {Lv K : Nat} {av : List Value} {hr h : AH} {P : Out → AH → Prop} (hM : GM l G y ws Lv av hr K P) (k : KeepAll hr h) : GM l G y ws Lv av h K (fun o h' => ∃ hr', P o hr' ∧ Frm hr h hr' h') := by
  intro tr sz p e a1 a2 a3 s m args below f1 f2 f3 f4
  obtain ⟨b1, b2, b3, b4⟩ := f3
  subst b2
  obtain ⟨n, o, w1, w2, w3, w4⟩ := hM tr s.heap.size p e a1 a2 a3 s m args below f1 f2 ⟨b1, rfl, b3, b4.less k⟩ f4
  refine ⟨n, o, w1, w2, w3, ?_⟩
  have mF : ∀ {t : State}, va_F (gA hr s.heap.size) s t → va_F (gA h s.heap.size) s t := fun {t} f => ⟨f.1, fun q h1 h2 => f.2 q h1 (fun w => h2 (gA.le k w))⟩
  rcases w4 with ⟨⟨v, h', e1, e2, e3, e4, e5⟩, L, fr, hL⟩ | ⟨q, e0, E, ce, L, ⟨h', e1, e3, e4, e5⟩, c1, c2, c3, c4, c5, c6⟩
  · exact Or.inl ⟨⟨v, _, e1, ⟨h', e2, Frm.of b4 e4⟩, Hp.join k b4 e3 e4 e5 fr.2.1.alike, Gr.join k e4, mF e5⟩, L, fr, fun q hq => gA.le k (hL q hq)⟩
  · exact Or.inr ⟨q, e0, E, ce, L, ⟨_, ⟨h', e1, Frm.of b4 e4⟩, Hp.join k b4 e3 e4 e5 c4.alike, Gr.join k e4, mF e5⟩, c1, c2, c3, c4, c5, fun q hq => gA.le k (c6 q hq)⟩
