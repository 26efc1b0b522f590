/-! the SpanRuler's state -/
set_option maxRecDepth 100000
/-! the SpanRuler's object and all that hangs on it, as the model's state s says -/
def SRs (G : GE) (own : Nat → Nat) (hr : AH) (s : MS) (ru : Nat) (sv : Value) (hf : Nat → Option Nat) : Prop :=
  (RulerAt G hr (fun q => own q = ru) ru (s.A 0) ∧ TkOk (s.A 0)) ∧
  (∀ k, k < mU s → ∃ a, hf k = some a ∧ a ≠ ru ∧ RulerAt G hr (fun q => own q = a) a (fun q => s.A 3 (442 * k + q)) ∧ TkOk (fun q => s.A 3 (442 * k + q))) ∧
  (∀ j k, j < k → k < mU s → hf j ≠ hf k) ∧
  ((sv = .null ∧ s.I 6 = 0) ∨ ∃ a, sv = .ref a ∧ s.I 6 = 1 ∧ a ≠ ru ∧ (∀ k, k < mU s → hf k ≠ some a) ∧ RulerAt G hr (fun q => own q = a) a (s.A 5) ∧ TkOk (s.A 5))
def SRi (G : GE) (hr h : AH) (s : MS) (inp : Nat) : Prop := hr inp = none ∧ mTo s ∧ ∃ f, h inp = some (aC G 60 f) ∧ ∀ c, c < nn (s.I 10) → f c = s.A 9 c
def SRl (G : GE) (hr h : AH) (s : MS) (ln inp : Nat) : Prop := hr ln = none ∧ mLi s ∧ ∃ b cap m f, hr b = none ∧ b ≠ inp ∧ SB G h ln b cap (nn (s.I 8)) m f ∧ cap < 500 ∧ ∀ j, j < nn (s.I 8) → f j = s.A 7 j
def SRe (hr h : AH) (s : MS) (bt rf : Value) : Prop :=
  ((bt = .null ∧ s.I 14 < 0) ∨ ∃ b u v, bt = .ref b ∧ hr b = none ∧ h b = some (ob 10 [.ref b, u, v, .null, .null, .int 0, .int (s.I 14)]) ∧ ¬ s.I 14 < 0) ∧
  ((rf = .null ∧ s.I 15 = 0) ∨ ∃ b u v, rf = .ref b ∧ hr b = none ∧ h b = some (ob 7 [.ref b, u, v, .null, .null, .int 0, .int (s.I 15), .int (s.I 16)]) ∧ s.I 15 ≠ 0)
def SRx (G : GE) (own : Nat → Nat) (hr h : AH) (x : Nat) (s : MS) (ru : Nat) (sv : Value) (hl hd hc : Nat) (hm : Int32) (hf : Nat → Option Nat) (inp ln : Nat) (bt rf : Value) : Prop :=
  KeepAll hr h ∧ hr x = none ∧ h x = some (ob 0 [.ref ru, sv, .ref hl, .ref inp, .ref ln, .int (s.I 10), bt, rf]) ∧ hr hl = none ∧ (hc = 0 ∨ hr hd = none) ∧ AL G h hl hd hc (mU s) hm hf ∧ hc < 60 ∧ mUo s ∧
  SRs G own hr s ru sv hf ∧ SRi G hr h s inp ∧ SRl G hr h s ln inp ∧ SRe hr h s bt rf
def SRAt (G : GE) (h : AH) (x : Nat) (s : MS) : Prop := ∃ own hr ru sv hl hd hc hm hf inp ln bt rf, SRx G own hr h x s ru sv hl hd hc hm hf inp ln bt rf
/-- what is outside of hr stays -/
theorem SRx.move {G : GE} {own own' : Nat → Nat} {hr hr' h h' : AH} {x : Nat} {s : MS} {ru : Nat} {sv : Value} {hl hd hc : Nat} {hm : Int32} {hf : Nat → Option Nat} {inp ln : Nat} {bt rf : Value} (S : SRx G own hr h x s ru sv hl hd hc hm hf inp ln bt rf) (k : KeepAll hr' h') (o : ∀ q e, hr q = none → h q = some e → hr' q = none ∧ h' q = some e) (T : SRs G own' hr' s ru sv hf) : SRx G own' hr' h' x s ru sv hl hd hc hm hf inp ln bt rf := by
  obtain ⟨s1, s2, s3, s4, s5, s6, s7, s8, s9, ⟨i1, i2, fi, i3, i4⟩, ⟨l1, l2, lb, lc, lm, lf, l3, l3b, l4, l5, l6⟩, e1, e2⟩ := S
  obtain ⟨x1, x2⟩ := o x _ s2 s3
  obtain ⟨y1, y2⟩ := o hl _ s4 s6.1
  obtain ⟨z1, z2⟩ := o inp _ i1 i3
  obtain ⟨w1, w2⟩ := o ln _ l1 l4.1
  obtain ⟨v1, v2⟩ := o lb _ l3 l4.2.1
  have h5 : hc = 0 ∨ hr' hd = none := by
    rcases s5 with a | a
    · exact Or.inl a
    · rcases s6.2.1 with b | b
      · exact Or.inl b.1
      · exact Or.inr (o hd _ a b.2).1
  have h6 : AL G h' hl hd hc (mU s) hm hf := ⟨y2, s6.2.1.imp id (fun b => ⟨b.1, s5.elim (fun c => by omega) (fun c => (o hd _ c b.2).2)⟩), s6.2.2⟩
  refine ⟨k, x1, x2, y1, h5, h6, s7, s8, T, ⟨z1, i2, fi, z2, i4⟩, ⟨w1, l2, lb, lc, lm, lf, v1, l3b, ⟨w2, v2, l4.2.2⟩, l5, l6⟩, ?_, ?_⟩
  · rcases e1 with a | ⟨b, u, v, b1, b2, b3, b4⟩
    · exact Or.inl a
    · exact Or.inr ⟨b, u, v, b1, (o b _ b2 b3).1, (o b _ b2 b3).2, b4⟩
  · rcases e2 with a | ⟨b, u, v, b1, b2, b3, b4⟩
    · exact Or.inl a
    · exact Or.inr ⟨b, u, v, b1, (o b _ b2 b3).1, (o b _ b2 b3).2, b4⟩
theorem Frm.out {hr h hr' h' : AH} (f : Frm hr h hr' h') : ∀ q e, hr q = none → h q = some e → hr' q = none ∧ h' q = some e := fun q e a b => by
  have c := f.2 q a (by rw [b]; exact fun z => by cases z)
  refine ⟨c, ?_⟩
  rw [f.1, cup_r c, mns_k a]; exact b
theorem Frm.keep {hr h hr' h' : AH} (f : Frm hr h hr' h') : KeepAll hr' h' := fun q e a => by rw [f.1]; exact cup_l a
/-- only new things came -/
theorem SRx.all {G : GE} {own : Nat → Nat} {hr h h' : AH} {x : Nat} {s : MS} {ru : Nat} {sv : Value} {hl hd hc : Nat} {hm : Int32} {hf : Nat → Option Nat} {inp ln : Nat} {bt rf : Value} (S : SRx G own hr h x s ru sv hl hd hc hm hf inp ln bt rf) (k : KeepAll h h') : SRx G own hr h' x s ru sv hl hd hc hm hf inp ln bt rf := S.move (S.1.trans k) (fun q e a b => ⟨a, k q e b⟩) S.2.2.2.2.2.2.2.2.1
theorem SRAt.all {G : GE} {h h' : AH} {x : Nat} {s : MS} (S : SRAt G h x s) (k : KeepAll h h') : SRAt G h' x s := by
  obtain ⟨own, hr, ru, sv, hl, hd, hc, hm, hf, inp, ln, bt, rf, S⟩ := S
  exact ⟨own, hr, ru, sv, hl, hd, hc, hm, hf, inp, ln, bt, rf, S.all k⟩
/-- the ruler was asked -/
theorem SRx.ask {G : GE} {own : Nat → Nat} {hr hr' h h' : AH} {x : Nat} {s : MS} {ru : Nat} {sv : Value} {hl hd hc : Nat} {hm : Int32} {hf : Nat → Option Nat} {inp ln : Nat} {bt rf : Value} (S : SRx G own hr h x s ru sv hl hd hc hm hf inp ln bt rf) {rt cl nl nd nc vl vd vc : Nat} {nm vm : Int32} {nf vf : Nat → Option Nat} (y : Rul G hr (fun q => own q = ru) ru (s.A 0) rt cl nl nd nc nm nf vl vd vc vm vf) {ro : List Value} (q : RQ G hr' (fun q => own q = ru) ru (s.A 0) rt cl ro) (c : Chg (fun q => own q = ru) 0 32 hr hr') (f : Frm hr h hr' h') : SRx G own hr' h' x s ru sv hl hd hc hm hf inp ln bt rf ∧ Rul G hr' (fun q => own q = ru) ru (s.A 0) rt cl nl nd nc nm nf vl vd vc vm vf := by
  obtain ⟨t1, t2, t3, t4⟩ := S.2.2.2.2.2.2.2.2.1
  have y2 := y.chg c q.2.1
  refine ⟨S.move f.keep f.out ⟨⟨⟨_, _, _, _, _, _, _, _, _, _, _, _, y2⟩, t1.2⟩, fun k hk => ?_, t3, ?_⟩, y2⟩
  · obtain ⟨a, a1, a2, a3, a4⟩ := t2 k hk
    exact ⟨a, a1, a2, a3.chgOther c (fun q w v => a2 (v.symm.trans w)), a4⟩
  · rcases t4 with a | ⟨a, a1, a2, a3, a4, a5, a6⟩
    · exact Or.inl a
    · exact Or.inr ⟨a, a1, a2, a3, a4, a5.chgOther c (fun q w v => a3 (v.symm.trans w)), a6⟩
/-- ints of the model's that the SpanRuler doesn't mirror -/
theorem SRAt.mi {G : GE} {h : AH} {x : Nat} {s : MS} (S : SRAt G h x s) {k : Nat} {v : Int32} (hk : k = 17 ∨ k = 18 ∨ k = 19 ∨ k = 20) : SRAt G h x (mI s k v) := by
  obtain ⟨own, hr, ru, sv, hl, hd, hc, hm, hf, inp, ln, bt, rf, S⟩ := S
  refine ⟨own, hr, ru, sv, hl, hd, hc, hm, hf, inp, ln, bt, rf, ?_⟩
  have e : ∀ j, j < 17 → (mI s k v).I j = s.I j := fun j hj => upd_ne (by omega)
  have eu : mU (mI s k v) = mU s := by unfold mU; rw [e 4 (by omega)]
  have ea : (mI s k v).A = s.A := rfl
  unfold SRx SRs SRi SRl SRe mUo mTo mLi at *
  rw [eu, ea, e 10 (by omega), e 4 (by omega), e 8 (by omega), e 14 (by omega), e 15 (by omega), e 16 (by omega), e 6 (by omega)]
  exact S
/-- what a public method answers -/
def SPost (G : GE) (x : Nat) (ex : Int32 → String) (r : Int32 × MS) : Out → AH → Prop := fun o h' => SRAt G h' x r.2 ∧ ((r.2.I 20 = 0 ∧ o = .inl (some (.int r.1))) ∨ (r.2.I 20 ≠ 0 ∧ ∃ q, o = .inr (ex (r.2.I 20), q)))
def exA (c : Int32) : String := if c = 1 then "java/lang/IllegalArgumentException" else "java/lang/UnsupportedOperationException"
/-! calls on a part of the heap -/
def FR (hr h : AH) (P : Out → AH → Prop) : Out → AH → Prop := fun o h' => ∃ hr', P o hr' ∧ Frm hr h hr' h'
section
variable {X : GX} {hr h : AH} {kD pc : Nat} {ls : List (Option Value)} {st : List Value}
theorem kFR {Q : Value → AH → Prop} (kk : ∀ v hr' h', Q v hr' → Frm hr h hr' h' → GW X h' kD pc ls (v :: st)) : ∀ w h', FR hr h (PR Q) (.inl w) h' → GW X h' kD pc ls (w.toList ++ st) := by
  rintro w h' ⟨hr', ⟨v, e1, e2⟩, f⟩
  cases e1; exact kk v hr' h' e2 f
theorem xFR {Q : Value → AH → Prop} {ls1 : List (Option Value)} {st1 : List Value} : ∀ E q h', FR hr h (PR Q) (.inr (E, q)) h' → GWX X h' kD pc ls1 st1 E q := fun _ _ _ ⟨_, ⟨_, h, _⟩, _⟩ => nomatch h
theorem kFQ {Q : AH → Prop} (kk : ∀ hr' h', Q hr' → Frm hr h hr' h' → GW X h' kD pc ls st) : ∀ w h', FR hr h (PQ Q) (.inl w) h' → GW X h' kD pc ls (w.toList ++ st) := by
  rintro w h' ⟨hr', ⟨e1, e2⟩, f⟩
  cases e1; exact kk hr' h' e2 f
theorem xFQ {Q : AH → Prop} {ls1 : List (Option Value)} {st1 : List Value} : ∀ E q h', FR hr h (PQ Q) (.inr (E, q)) h' → GWX X h' kD pc ls1 st1 E q := fun _ _ _ ⟨_, ⟨h, _⟩, _⟩ => nomatch h
theorem kFX {Q : Value → AH → Prop} {E : String → Nat → AH → Prop} (kk : ∀ v hr' h', Q v hr' → Frm hr h hr' h' → GW X h' kD pc ls (v :: st)) : ∀ w h', FR hr h (PX Q E) (.inl w) h' → GW X h' kD pc ls (w.toList ++ st) := by
  rintro w h' ⟨hr', (⟨v, e1, e2⟩ | ⟨c, q, e1, e2⟩), f⟩
  · cases e1; exact kk v hr' h' e2 f
  · cases e1
theorem xFX {Q : Value → AH → Prop} {E : String → Nat → AH → Prop} {ls1 : List (Option Value)} {st1 : List Value} (kk : ∀ c q hr' h', E c q hr' → Frm hr h hr' h' → GWX X h' kD pc ls1 st1 c q) : ∀ c q h', FR hr h (PX Q E) (.inr (c, q)) h' → GWX X h' kD pc ls1 st1 c q := by
  rintro c q h' ⟨hr', (⟨v, e1, e2⟩ | ⟨c, q, e1, e2⟩), f⟩
  · cases e1
  · cases e1; exact kk c q hr' h' e2 f
end
theorem GM.fr {l : Launch} {G : GE} {y : MethodName} {ws : List Cond} {Lv K : Nat} {av : List Value} {hr h : AH} {P : Out → AH → Prop} (k : KeepAll hr h) (hM : GM l G y ws Lv av hr K P) : GM l G y ws Lv av h K (FR hr h P) := GM.frame hM k
