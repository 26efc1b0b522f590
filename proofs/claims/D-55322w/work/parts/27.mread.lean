/-! THE MODEL: its read -/
set_option maxRecDepth 100000
/-! the model's read -/
theorem ooS_W {s : MS} {w : Nat} {g : Nat → Int32} {W : List (Nat × Nat)} : ooS (mW s w) g W = ooS s g W := rfl
theorem mCmd_W {s : MS} {w : Nat} : mCmd (mW s w) = ((mCmd s).1, mW (mCmd s).2 w) := by
  unfold mCmd
  rw [ooS_W]
  obtain ⟨o, ho⟩ : ∃ o, ooS s (tch tW) W6 = o := ⟨_, rfl⟩
  rw [ho]
  obtain ⟨o1, o2⟩ := o
  cases o1 with
  | none => rfl
  | some x => exact cmdX_W (s := adv s o2)
/-- one more command, if the text goes on -/
def rdS (t : MS) : Bool × MS := if (mTakes t 59).1 = true then mCmd (mTakes t 59).2 else (false, (mTakes t 59).2)
def rdL : Nat → Bool × MS → Bool × MS
  | 0, r => r
  | m + 1, r => if r.1 = true ∧ mP r.2 < mL r.2 then rdL m (rdS r.2) else r
theorem rdS_W {s : MS} {w : Nat} : rdS (mW s w) = ((rdS s).1, mW (rdS s).2 w) := by
  unfold rdS
  rw [mTakes_W]
  simp only [mCmd_W]
  split <;> rfl
theorem mTakes_P {s : MS} {c : Int32} (h : mPo s) : mL (mTakes s c).2 = mL s ∧ mP s ≤ mP (mTakes s c).2 ∧ ((mTakes s c).1 = true → mP (mTakes s c).2 = mP s + 1) := by
  unfold mTakes
  split
  · exact ⟨rfl, Nat.le_refl _, fun z => by cases z⟩
  · split
    · obtain ⟨-, h2, h3⟩ := adv_po (n := 1) h (by have := h.2.2.2; omega)
      exact ⟨h3, by show mP s ≤ mP (adv s 1); omega, fun _ => h2⟩
    · exact ⟨rfl, Nat.le_refl _, fun z => by cases z⟩
theorem dgl_P {k : Nat} : ∀ (m n : Nat) (t : MS), mPo t → mL (dgl k m n t).2 = mL t ∧ mP t ≤ mP (dgl k m n t).2 := by
  intro m
  induction m with
  | zero => intro n t _; exact ⟨rfl, Nat.le_refl _⟩
  | succ m ih =>
    intro n t h
    rw [dgl]
    cases e : dgT t with
    | true =>
      obtain ⟨-, h2, h3⟩ := adv_po (n := 1) h (by have := (dgT_1 e).1; omega)
      obtain ⟨a, b⟩ := ih (n + 1) _ (dgS_po (k := k) h e)
      have e2 : mP (dgS k t) = mP t + 1 := h2
      rw [cond_true]
      exact ⟨a.trans h3, by omega⟩
    | false => exact ⟨rfl, Nat.le_refl _⟩
theorem sgS_P {s : MS} {z : Int32} (h : mPo s) : mL (sgS s z).2 = mL s ∧ mP s ≤ mP (sgS s z).2 := by
  unfold sgS
  split
  · exact ⟨rfl, Nat.le_refl _⟩
  · have := mTakes_P (c := 45) h
    exact ⟨this.1, this.2.1⟩
theorem numS_P {s : MS} {k : Nat} {z : Int32} (h : mPo s) : mL (numS k z s).2 = mL s ∧ mP s ≤ mP (numS k z s).2 := by
  unfold numS
  obtain ⟨a, b⟩ := sgS_P (z := z) h
  obtain ⟨c, d⟩ := dgl_P (k := k) 3 0 (mA (sgS s z).2 13 k 0) (sgS_po h)
  exact ⟨c.trans a, Nat.le_trans b d⟩
theorem mIsNum_P {s : MS} {k : Nat} {z : Int32} (h : mPo s) : mL (mIsNum s k z).2 = mL s ∧ mP s ≤ mP (mIsNum s k z).2 := by
  unfold mIsNum
  have t := mTakes_P (c := 32) h
  split
  · obtain ⟨a, b⟩ := numS_P (k := k) (z := z) (mTakes_po (c := 32) h)
    show mL (if _ then _ else _) = _ ∧ _ ≤ mP (if _ then _ else _)
    split
    · exact ⟨a.trans t.1, Nat.le_trans t.2.1 b⟩
    · exact ⟨a.trans t.1, Nat.le_trans t.2.1 b⟩
  · exact ⟨t.1, t.2.1⟩
theorem mSpTold_P {s : MS} (h : mPo s) : mL (mSpTold s).2 = mL s ∧ mP s ≤ mP (mSpTold s).2 := by
  unfold mSpTold
  obtain ⟨a, b⟩ := mIsNum_P (k := 0) (z := 0) h
  split
  · obtain ⟨c, d⟩ := mIsNum_P (k := 1) (z := 0) (mIsNum_po (k := 0) (z := 0) h)
    exact ⟨c.trans a, Nat.le_trans b d⟩
  · exact ⟨a, b⟩
theorem paA_P {s : MS} (h : mPo s) : mL (paA s).2 = mL s ∧ mP s ≤ mP (paA s).2 := by
  unfold paA
  obtain ⟨a, b⟩ := mSpTold_P h
  split
  · have t := mTakes_P (c := 32) (mSpTold_po h)
    exact ⟨t.1.trans a, Nat.le_trans b t.2.1⟩
  · exact ⟨a, b⟩
theorem ooS_P {s : MS} {g : Nat → Int32} {W : List (Nat × Nat)} (h : mPo s) : mL (adv s (ooS s g W).2) = mL s ∧ mP s ≤ mP (adv s (ooS s g W).2) := by
  obtain ⟨-, h2, h3⟩ := adv_po h (ooL_le (g := g) W 0 (by have := h.2.2.2; omega))
  have h2 : mP (adv s (ooS s g W).2) = mP s + (ooS s g W).2 := h2
  exact ⟨h3, by omega⟩
theorem mPaintd_P {s : MS} (h : mPo s) : mL (mPaintd s).2 = mL s ∧ mP s ≤ mP (mPaintd s).2 := by
  unfold mPaintd
  obtain ⟨a, b⟩ := paA_P h
  split
  · obtain ⟨c, d⟩ := ooS_P (g := tch tC) (W := W4) (paA_po h)
    split
    · exact ⟨c.trans a, Nat.le_trans b d⟩
    · exact ⟨c.trans a, Nat.le_trans b d⟩
  · exact ⟨a, b⟩
theorem cmdX_P {x : Nat × Nat} {s : MS} (h : mPo s) : mL (cmdX x s).2 = mL s ∧ mP s ≤ mP (cmdX x s).2 := by
  unfold cmdX
  split
  · obtain ⟨a, b⟩ := mSpTold_P h
    split
    · obtain ⟨c, d⟩ := mIsNum_P (k := 2) (z := 1) (mSpTold_po h)
      exact ⟨c.trans a, Nat.le_trans b d⟩
    · exact ⟨a, b⟩
  · split
    · exact mSpTold_P h
    · split
      · exact mPaintd_P h
      · split
        · exact mIsNum_P h
        · exact ⟨rfl, Nat.le_refl _⟩
theorem mCmd_P {s : MS} (h : mPo s) : mL (mCmd s).2 = mL s ∧ mP s ≤ mP (mCmd s).2 := by
  unfold mCmd
  obtain ⟨a, b⟩ := ooS_P (g := tch tW) (W := W6) h
  split
  · exact ⟨a, b⟩
  · obtain ⟨c, d⟩ := cmdX_P (x := ‹Nat × Nat›) (ooS_po (g := tch tW) (W := W6) h)
    exact ⟨c.trans a, Nat.le_trans b d⟩
theorem rdS_po {s : MS} (h : mPo s) : mPo (rdS s).2 := by
  unfold rdS
  split
  · exact mCmd_po (mTakes_po h)
  · exact mTakes_po h
theorem rdS_P {s : MS} (h : mPo s) : mL (rdS s).2 = mL s ∧ ((rdS s).1 = true → mP s < mP (rdS s).2) := by
  unfold rdS
  have t := mTakes_P (c := 59) h
  split
  · rename_i e
    obtain ⟨a, b⟩ := mCmd_P (mTakes_po (c := 59) h)
    exact ⟨a.trans t.1, fun _ => by have := t.2.2 e; omega⟩
  · exact ⟨t.1, fun z => by cases z⟩
theorem rdL_f {m : Nat} {t : MS} : rdL m (false, t) = (false, t) := by
  cases m with
  | zero => rfl
  | succ m => rw [rdL, if_neg (by intro z; cases z.1)]
theorem rdL_e {m : Nat} {r : Bool × MS} (h : ¬ mP r.2 < mL r.2) : rdL m r = r := by
  cases m with
  | zero => rfl
  | succ m => rw [rdL, if_neg (fun z => h z.2)]
/-- the word that stands at a place -/
def mK (t : MS) : Nat × Nat := (ooS t (tch tW) W6).1.getD (0, 0)
/-- what a command does, and the state behind it -/
def rdC (t : MS) : Int32 × MS := mCarry (mK t) (mCmd t).2
def rdM : Nat → Int32 → MS → Int32 × Int32 × MS
  | 0, n, t => (n, 0, t)
  | m + 1, n, t => if (rdC t).1 = 0 then (if (mTakes (rdC t).2 59).1 = true then rdM m (n + 1) (mTakes (rdC t).2 59).2 else (n + 1, 0, (mTakes (rdC t).2 59).2)) else (n + 1, (rdC t).1, (rdC t).2)
def rd1 (s : MS) : Bool × MS := rdL 61 (mCmd (mI (mTries s) 11 0))
def rd2 (s : MS) : Int32 × Int32 × MS := rdM 62 0 (mI (rd1 s).2 11 0)
def mRead (s : MS) : Int32 × MS := if (rd1 s).1 = true then (if (rd2 s).2.1 = 0 then ((rd2 s).1, mKeeps (mI (rd2 s).2.2 10 0)) else (0, mI (mBack (mI (rd2 s).2.2 10 0)) 20 ((rd2 s).2.1 + 1))) else (0, mI (mI (mI (rd1 s).2 14 ((rd1 s).2.I 11)) 10 0) 20 1)
/-- texts and places alike -/
def Alk (s t : MS) : Prop := t.A 9 = s.A 9 ∧ t.I 10 = s.I 10 ∧ t.I 11 = s.I 11
theorem Alk.P {s t : MS} (h : Alk s t) : mP t = mP s ∧ mL t = mL s := ⟨by unfold mP; rw [h.2.2], by unfold mL; rw [h.2.1]⟩
theorem Alk.po {s t : MS} (h : Alk s t) (x : mPo s) : mPo t := by
  obtain ⟨e1, e2⟩ := h.P
  unfold mPo
  rw [e1, e2, h.2.1, h.2.2]; exact x
theorem Alk.adv {s t : MS} (h : Alk s t) (n : Nat) : Alk (adv s n) (adv t n) := by
  obtain ⟨e1, e2⟩ := h.P
  refine ⟨h.1, h.2.1, ?_⟩
  show upd t.I 11 (nI (mP t + n)) 11 = upd s.I 11 (nI (mP s + n)) 11
  rw [upd_at, upd_at, e1]
theorem Alk.takes {s t : MS} (h : Alk s t) (c : Int32) : (mTakes t c).1 = (mTakes s c).1 ∧ Alk (mTakes s c).2 (mTakes t c).2 := by
  obtain ⟨e1, e2⟩ := h.P
  unfold mTakes
  rw [e1, e2, h.1]
  split
  · exact ⟨rfl, h⟩
  · split
    · exact ⟨rfl, h.adv 1⟩
    · exact ⟨rfl, h⟩
theorem Alk.dgl {k : Nat} : ∀ (m n : Nat) (s t : MS), Alk s t → (dgl k m n t).1 = (dgl k m n s).1 ∧ Alk (dgl k m n s).2 (dgl k m n t).2 := by
  intro m
  induction m with
  | zero => intro n s t h; exact ⟨rfl, h⟩
  | succ m ih =>
    intro n s t h
    obtain ⟨e1, e2⟩ := h.P
    have e : dgT t = dgT s := by unfold dgT; rw [e1, e2, h.1]
    unfold _root_.Jvm.Pilot.CSpanRulerLaw_law_r8198_91ab74.dgl
    rw [e]
    cases dgT s with
    | true => exact ih (n + 1) _ _ (h.adv 1)
    | false => exact ⟨rfl, h⟩
theorem Alk.sgS {s t : MS} (h : Alk s t) (z : Int32) : (sgS t z).1 = (sgS s z).1 ∧ Alk (sgS s z).2 (sgS t z).2 := by
  unfold _root_.Jvm.Pilot.CSpanRulerLaw_law_r8198_91ab74.sgS
  split
  · exact ⟨rfl, h⟩
  · exact h.takes 45
theorem Alk.isNum {s t : MS} (h : Alk s t) (k : Nat) (z : Int32) : (mIsNum t k z).1 = (mIsNum s k z).1 ∧ Alk (mIsNum s k z).2 (mIsNum t k z).2 := by
  obtain ⟨a1, a2⟩ := h.takes 32
  obtain ⟨b1, b2⟩ := a2.sgS z
  have b3 : Alk (mA (_root_.Jvm.Pilot.CSpanRulerLaw_law_r8198_91ab74.sgS (mTakes s 32).2 z).2 13 k 0) (mA (_root_.Jvm.Pilot.CSpanRulerLaw_law_r8198_91ab74.sgS (mTakes t 32).2 z).2 13 k 0) := b2
  obtain ⟨c1, c2⟩ := Alk.dgl (k := k) 3 0 _ _ b3
  unfold mIsNum numS
  rw [a1, b1]
  split
  · refine ⟨by show decide _ = decide _; rw [c1], ?_⟩
    show Alk (if _ then _ else _) (if _ then _ else _)
    split
    · exact c2
    · exact c2
  · exact ⟨rfl, a2⟩
theorem Alk.spTold {s t : MS} (h : Alk s t) : (mSpTold t).1 = (mSpTold s).1 ∧ Alk (mSpTold s).2 (mSpTold t).2 := by
  obtain ⟨a1, a2⟩ := h.isNum 0 0
  unfold mSpTold
  rw [a1]
  split
  · exact a2.isNum 1 0
  · exact ⟨rfl, a2⟩
theorem Alk.oo {s t : MS} (h : Alk s t) (g : Nat → Int32) (W : List (Nat × Nat)) : ooS t g W = ooS s g W := by
  obtain ⟨e1, e2⟩ := h.P
  unfold ooS
  rw [e1, e2, h.1]
theorem Alk.paA {s t : MS} (h : Alk s t) : (paA t).1 = (paA s).1 ∧ Alk (paA s).2 (paA t).2 := by
  obtain ⟨a1, a2⟩ := h.spTold
  unfold _root_.Jvm.Pilot.CSpanRulerLaw_law_r8198_91ab74.paA
  rw [a1]
  split
  · exact a2.takes 32
  · exact ⟨rfl, a2⟩
theorem Alk.paintd {s t : MS} (h : Alk s t) : (mPaintd t).1 = (mPaintd s).1 ∧ Alk (mPaintd s).2 (mPaintd t).2 := by
  obtain ⟨a1, a2⟩ := h.paA
  unfold mPaintd
  rw [a1, a2.oo]
  split
  · split
    · exact ⟨rfl, a2.adv _⟩
    · exact ⟨rfl, a2.adv _⟩
  · exact ⟨rfl, a2⟩
theorem Alk.cmdX {s t : MS} (h : Alk s t) (x : Nat × Nat) : (cmdX x t).1 = (cmdX x s).1 ∧ Alk (cmdX x s).2 (cmdX x t).2 := by
  obtain ⟨a1, a2⟩ := h.spTold
  unfold _root_.Jvm.Pilot.CSpanRulerLaw_law_r8198_91ab74.cmdX
  rw [a1]
  split
  · split
    · exact a2.isNum 2 1
    · exact ⟨rfl, a2⟩
  · split
    · exact ⟨a1, a2⟩
    · split
      · exact h.paintd
      · split
        · exact h.isNum 0 0
        · exact ⟨rfl, h⟩
theorem Alk.cmd {s t : MS} (h : Alk s t) : (mCmd t).1 = (mCmd s).1 ∧ Alk (mCmd s).2 (mCmd t).2 ∧ mK t = mK s := by
  unfold mCmd mK
  rw [h.oo]
  cases (ooS s (tch tW) W6).1 with
  | none => exact ⟨rfl, h.adv _, rfl⟩
  | some x => exact ⟨((h.adv _).cmdX x).1, ((h.adv _).cmdX x).2, rfl⟩
