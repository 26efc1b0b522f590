/-! THE MODEL: its read, 2 -/
set_option maxRecDepth 100000
/-! what reading keeps -/
def Fr (s t : MS) : Prop := (∀ k, k ≠ 13 → t.A k = s.A k) ∧ ∀ k, k ≠ 11 → t.I k = s.I k
theorem Fr.rfl {s : MS} : Fr s s := ⟨fun _ _ => Eq.refl _, fun _ _ => Eq.refl _⟩
theorem Fr.trans {s t u : MS} (x : Fr s t) (y : Fr t u) : Fr s u := ⟨fun k h => (y.1 k h).trans (x.1 k h), fun k h => (y.2 k h).trans (x.2 k h)⟩
theorem Fr.adv {s : MS} {n : Nat} : Fr s (adv s n) := ⟨fun _ _ => Eq.refl _, fun k h => upd_ne h⟩
theorem Fr.a13 {s : MS} {j : Nat} {v : Int32} : Fr s (mA s 13 j v) := ⟨fun k h => by rw [mA_A, if_neg h], fun _ _ => Eq.refl _⟩
theorem Fr.takes {s : MS} {c : Int32} : Fr s (mTakes s c).2 := by
  unfold mTakes
  split
  · exact Fr.rfl
  · split
    · exact Fr.adv
    · exact Fr.rfl
theorem Fr.dgl {k : Nat} : ∀ (m n : Nat) (t : MS), Fr t (dgl k m n t).2 := by
  intro m
  induction m with
  | zero => intro n t; exact Fr.rfl
  | succ m ih =>
    intro n t
    unfold _root_.Jvm.Pilot.CSpanRulerLaw_law_r8198_91ab74.dgl
    cases dgT t with
    | true => exact (Fr.adv.trans Fr.a13).trans (ih (n + 1) (dgS k t))
    | false => exact Fr.rfl
theorem Fr.sgS {s : MS} {z : Int32} : Fr s (sgS s z).2 := by
  unfold _root_.Jvm.Pilot.CSpanRulerLaw_law_r8198_91ab74.sgS
  split
  · exact Fr.rfl
  · exact Fr.takes
theorem Fr.isNum {s : MS} {k : Nat} {z : Int32} : Fr s (mIsNum s k z).2 := by
  have h : Fr s (numS k z (mTakes s 32).2).2 := (Fr.takes.trans (Fr.sgS.trans Fr.a13)).trans (Fr.dgl 3 0 _)
  unfold mIsNum
  split
  · show Fr s (if _ then _ else _)
    split
    · exact h.trans Fr.a13
    · exact h
  · exact Fr.takes
theorem Fr.spTold {s : MS} : Fr s (mSpTold s).2 := by
  unfold mSpTold
  split
  · exact Fr.isNum.trans Fr.isNum
  · exact Fr.isNum
theorem Fr.paA {s : MS} : Fr s (paA s).2 := by
  unfold _root_.Jvm.Pilot.CSpanRulerLaw_law_r8198_91ab74.paA
  split
  · exact Fr.spTold.trans Fr.takes
  · exact Fr.spTold
theorem Fr.paintd {s : MS} : Fr s (mPaintd s).2 := by
  unfold mPaintd
  split
  · split
    · exact Fr.paA.trans Fr.adv
    · exact (Fr.paA.trans Fr.adv).trans Fr.a13
  · exact Fr.paA
theorem Fr.cmdX {s : MS} {x : Nat × Nat} : Fr s (cmdX x s).2 := by
  unfold _root_.Jvm.Pilot.CSpanRulerLaw_law_r8198_91ab74.cmdX
  split
  · split
    · exact Fr.spTold.trans Fr.isNum
    · exact Fr.spTold
  · split
    · exact Fr.spTold
    · split
      · exact Fr.paintd
      · split
        · exact Fr.isNum
        · exact Fr.rfl
theorem Fr.cmd {s : MS} : Fr s (mCmd s).2 := by
  unfold mCmd
  split
  · exact Fr.adv
  · exact Fr.adv.trans Fr.cmdX
theorem Fr.rdS {s : MS} : Fr s (rdS s).2 := by
  unfold _root_.Jvm.Pilot.CSpanRulerLaw_law_r8198_91ab74.rdS
  split
  · exact Fr.takes.trans Fr.cmd
  · exact Fr.takes
theorem Fr.rdL : ∀ (m : Nat) (r : Bool × MS), Fr r.2 (rdL m r).2 := by
  intro m
  induction m with
  | zero => intro r; exact Fr.rfl
  | succ m ih =>
    intro r
    unfold _root_.Jvm.Pilot.CSpanRulerLaw_law_r8198_91ab74.rdL
    split
    · exact Fr.rdS.trans (ih _)
    · exact Fr.rfl
theorem Fr.ok {s t : MS} (x : Fr s t) (h : mOk s) : mOk t := (ok_same (by rw [x.1 0 (by decide)]) (fun p _ => by rw [x.1 0 (by decide)]; exact ⟨Eq.refl _, Eq.refl _⟩) h).1
theorem Fr.vo {s t : MS} (x : Fr s t) (h : mVo s) : mVo t := by
  unfold mVo mV at *; rw [x.1 0 (by decide)]; exact h
theorem Fr.uo {s t : MS} (x : Fr s t) (h : mUo s) : mUo t := mUo_I (x.2 4 (by decide)) h
/-- what a command keeps -/
def Nw (s t : MS) : Prop := (∀ k, k ≠ 0 → t.A k = s.A k) ∧ ∀ k, k ≠ 15 → k ≠ 16 → k ≠ 19 → t.I k = s.I k
theorem Nw.rfl {s : MS} : Nw s s := ⟨fun _ _ => Eq.refl _, fun _ _ _ _ => Eq.refl _⟩
theorem Nw.trans {s t u : MS} (x : Nw s t) (y : Nw t u) : Nw s u := ⟨fun k h => (y.1 k h).trans (x.1 k h), fun k a b c => (y.2 k a b c).trans (x.2 k a b c)⟩
theorem Nw.a0 {s : MS} {j : Nat} {v : Int32} : Nw s (mA s 0 j v) := ⟨fun k h => by rw [mA_A, if_neg h], fun _ _ _ _ => Eq.refl _⟩
theorem Nw.i {s : MS} {k : Nat} {v : Int32} (h : k = 15 ∨ k = 16 ∨ k = 19) : Nw s (mI s k v) := ⟨fun _ _ => Eq.refl _, fun i a b c => upd_ne (by omega)⟩
theorem Nw.acts {k x : Int32} {n c : Nat} {s : MS} : Nw s (mActs k x n c s) := by
  have : Nw s (acl k x n c s) := ⟨fun i h => acl_A k x n c s i h, fun i _ _ _ => congrFun (acl_I k x n c s) i⟩
  exact this.trans Nw.a0
theorem Nw.pal {x : Int32} : ∀ (n c : Nat) (m : Int32) (s : MS), Nw s (pal x n c m s).2 := by
  intro n
  induction n with
  | zero => intro c m s; exact Nw.rfl
  | succ n ih => intro c m s; exact Nw.a0.trans (ih _ _ _)
theorem Nw.gol (o : Nat) : ∀ (n c : Nat) (s : MS), Nw s (gol o n c s) := by
  intro n
  induction n with
  | zero => intro c s; exact Nw.rfl
  | succ n ih => intro c s; exact Nw.a0.trans (ih _ _)
theorem Nw.tdl : ∀ (n c : Nat) (s : MS), Nw s (tdl n c s) := by
  intro n
  induction n with
  | zero => intro c s; exact Nw.rfl
  | succ n ih => intro c s; exact Nw.a0.trans (ih _ _)
theorem Nw.goes {p : Nat} {s : MS} : Nw s (mGoes p s) := Nw.a0.trans (Nw.gol _ _ _ _)
theorem Nw.tkl : ∀ (m p : Nat) (n : Int32) (s : MS), Nw s (tkl m p n s).2 := by
  intro m
  induction m with
  | zero => intro p n s; exact Nw.rfl
  | succ m ih =>
    intro p n s
    unfold _root_.Jvm.Pilot.CSpanRulerLaw_law_r8198_91ab74.tkl
    cases tkW p s with
    | true => exact ih _ _ _
    | false =>
      rw [cond_false]
      split
      · exact (Nw.a0.trans Nw.goes).trans (ih _ _ _)
      · exact ((Nw.acts.trans Nw.a0).trans Nw.goes).trans (ih _ _ _)
theorem Nw.tick {s : MS} : Nw s (mTick s).2 := (Nw.a0.trans (Nw.tdl _ _ _)).trans (Nw.tkl _ _ _ _)
theorem Nw.tks : ∀ (m : Nat) (n : Int32) (s : MS), Nw s (tks m n s).2 := by
  intro m
  induction m with
  | zero => intro n s; exact Nw.rfl
  | succ m ih => intro n s; exact Nw.tick.trans (ih _ _)
theorem Nw.cpl {o1 k2 o2 : Nat} : ∀ (n c : Nat) (s : MS), Nw s (cpl 0 o1 k2 o2 n c s) := by
  intro n
  induction n with
  | zero => intro c s; exact Nw.rfl
  | succ n ih => intro c s; exact Nw.a0.trans (ih _ _)
theorem Nw.adds {s : MS} {a b x : Int32} : Nw s (mAdds s a b x).2 := by
  unfold mAdds
  split
  · split
    · exact (Nw.i (by omega)).trans (Nw.i (by omega))
    · exact Nw.acts.trans (Nw.i (by omega))
  · exact Nw.rfl
theorem Nw.sets {s : MS} {a b x : Int32} : Nw s (mSets s a b x).2 := by
  unfold mSets
  split
  · exact Nw.acts.trans (Nw.i (by omega))
  · exact Nw.rfl
theorem Nw.turns {s : MS} {a b : Int32} : Nw s (mTurns s a b).2 := by
  unfold mTurns
  split
  · exact Nw.acts.trans (Nw.i (by omega))
  · exact Nw.rfl
theorem Nw.paints {s : MS} {a b x : Int32} : Nw s (mPaints s a b x).2 := by
  unfold mPaints
  split
  · exact ((Nw.pal _ _ _ _).trans Nw.a0).trans (Nw.i (by omega))
  · exact Nw.rfl
theorem Nw.ticks {s : MS} {v : Int32} : Nw s (mTicks s v).2 := by
  unfold mTicks
  split
  · exact (Nw.tks _ _ _).trans (Nw.i (by omega))
  · exact Nw.rfl
theorem Nw.kv {s : MS} : Nw s (mKV s).2 := by
  unfold mKV
  split
  · exact (Nw.i (by omega)).trans (Nw.i (by omega))
  · refine Nw.trans (t := kvT s) ?_ (Nw.a0.trans (Nw.i (by omega)))
    unfold kvT
    exact Nw.cpl _ _ _
theorem Nw.carry {s : MS} {x : Nat × Nat} : Nw s (mCarry x s).2 := by
  unfold mCarry
  split
  · exact Nw.adds
  · split
    · exact Nw.sets
    · split
      · exact Nw.turns
      · split
        · exact Nw.paints
        · split
          · exact Nw.ticks
          · exact Nw.kv
theorem Nw.uo {s t : MS} (x : Nw s t) (h : mUo s) : mUo t := mUo_I (x.2 4 (by decide) (by decide) (by decide)) h
theorem Nw.alk {s t : MS} (x : Nw s t) : Alk s t := ⟨x.1 9 (by decide), x.2 10 (by decide) (by decide) (by decide), x.2 11 (by decide) (by decide) (by decide)⟩
/-- cells of the ruler that stay -/
theorem pal_off {x : Int32} : ∀ (n c : Nat) (m : Int32) (s : MS) (q : Nat), q < 40 + c ∨ 40 + c + n ≤ q → (pal x n c m s).2.A 0 q = s.A 0 q := by
  intro n
  induction n with
  | zero => intro c m s q _; rfl
  | succ n ih =>
    intro c m s q hq
    refine (ih (c + 1) _ _ q (by omega)).trans ?_
    rw [mA_A, if_pos rfl, upd_ne (by omega)]
theorem mI_A0 {s : MS} {k : Nat} {v : Int32} {q : Nat} : (mI s k v).A 0 q = s.A 0 q := rfl
theorem mA_off {s : MS} {j q : Nat} {v : Int32} (h : q ≠ j) : (mA s 0 j v).A 0 q = s.A 0 q := by rw [mA_A, if_pos rfl, upd_ne h]
theorem paints_off {s : MS} {a b x : Int32} {q : Nat} (h7 : q ≠ 7) (hq : q < 40 ∨ 72 ≤ q) : (mPaints s a b x).2.A 0 q = s.A 0 q := by
  unfold mPaints
  split
  · rename_i h
    have := sp_le h.1
    refine mI_A0.trans ((mA_off h7).trans ?_)
    exact pal_off _ _ _ _ _ (by omega)
  · rfl
theorem adds_off {s : MS} {a b x : Int32} {q : Nat} (h6 : q ≠ 6) (hq : q < 8 ∨ 40 ≤ q) : (mAdds s a b x).2.A 0 q = s.A 0 q := by
  unfold mAdds
  split
  · rename_i h
    have := sp_le h.1
    split
    · rfl
    · exact mI_A0.trans (mActs_off h6 (by omega))
  · rfl
theorem sets_off {s : MS} {a b x : Int32} {q : Nat} (h6 : q ≠ 6) (hq : q < 8 ∨ 40 ≤ q) : (mSets s a b x).2.A 0 q = s.A 0 q := by
  unfold mSets
  split
  · rename_i h
    have := sp_le h.1
    exact mI_A0.trans (mActs_off h6 (by omega))
  · rfl
theorem turns_off {s : MS} {a b : Int32} {q : Nat} (h6 : q ≠ 6) (hq : q < 8 ∨ 40 ≤ q) : (mTurns s a b).2.A 0 q = s.A 0 q := by
  unfold mTurns
  split
  · rename_i h
    have := sp_le h
    exact mI_A0.trans (mActs_off h6 (by omega))
  · rfl
theorem tdl_2 : ∀ (n p : Nat) (s : MS), (tdl n p s).A 0 2 = s.A 0 2 := by
  intro n
  induction n with
  | zero => intro p s; rfl
  | succ n ih => intro p s; exact (ih _ _).trans (mA_off (by omega))
theorem goes_2 {p : Nat} {s : MS} (h : p < mN s) : (mGoes p s).A 0 2 = s.A 0 2 := by
  rw [mGoes_A h, if_neg (by omega), if_neg (by decide)]
theorem tkl_2 : ∀ (m p : Nat) (n : Int32) (s : MS), p + m = mN s → mOk s → (tkl m p n s).2.A 0 2 = s.A 0 2 := by
  intro m
  induction m with
  | zero => intro p n s _ _; rfl
  | succ m ih =>
    intro p n s hp h
    unfold tkl
    cases tkW p s with
    | true => exact ih _ _ _ (by omega) h
    | false =>
      rw [cond_false]
      split
      · obtain ⟨h1, h2⟩ := tkM_ok h
        obtain ⟨h3, h4⟩ := mGoes_ok (p := p) h1 (by omega)
        exact (ih _ _ _ (by omega) h3).trans ((goes_2 (by omega)).trans (mA_off (by decide)))
      · obtain ⟨h1, h2⟩ := tkD_ok (p := p) (by omega) h
        obtain ⟨h3, h4⟩ := mGoes_ok (p := p) h1 (by omega)
        refine (ih _ _ _ (by omega) h3).trans ((goes_2 (by omega)).trans ((mA_off (by decide)).trans ?_))
        exact mActs_off (by decide) (by omega)
theorem tick_2 {s : MS} (h : mOk s) : (mTick s).2.A 0 2 = s.A 0 2 := by
  obtain ⟨h1, h2⟩ := tk0_ok h
  obtain ⟨h3, h4⟩ := tdl_ok (mN s) 0 _ h1
  exact (tkl_2 _ _ _ _ (by omega) h3).trans ((tdl_2 _ _ _).trans (mA_off (by decide)))
theorem tks_2 : ∀ (m : Nat) (n : Int32) (s : MS), mOk s → (tks m n s).2.A 0 2 = s.A 0 2 := by
  intro m
  induction m with
  | zero => intro n s _; rfl
  | succ m ih => intro n s h; exact (ih _ _ (mTick_ok h)).trans (tick_2 h)
theorem vo_2 {s t : MS} (h : t.A 0 2 = s.A 0 2) (x : mVo s) : mVo t := by
  unfold mVo mV at *; rw [h]; exact x
theorem kv_vo {s : MS} (x : mVo s) : mVo (mKV s).2 := by
  unfold mKV
  split
  · exact x
  · rename_i h5
    have e : (kvT s).A 0 2 = s.A 0 2 := by
      unfold kvT
      have : ∀ (n c : Nat) (t : MS), (cpl 0 (122 + 64 * mV s) 0 8 n c t).A 0 2 = t.A 0 2 := by
        intro n
        induction n with
        | zero => intro c t; rfl
        | succ n ih => intro c t; exact (ih _ _).trans (mA_off (by omega))
      exact this 64 0 s
    have e2 : (mI (mA (kvT s) 0 2 ((kvT s).A 0 2 + 1)) 19 (nI (mV s))).A 0 2 = nI (mV s + 1) := by
      refine mI_A0.trans ?_
      rw [mA_A, if_pos rfl, upd_at, e, x.1, nI_succ]
    have e3 : mV (mI (mA (kvT s) 0 2 ((kvT s).A 0 2 + 1)) 19 (nI (mV s))) = mV s + 1 := by
      show nn _ = _
      rw [e2]; exact nn_nI (by have := x.2; omega)
    exact ⟨by rw [e3]; exact e2, by rw [e3]; have := x.2; omega⟩
theorem kv_ok {s : MS} (x : mOk s) (v : mVo s) : mOk (mKV s).2 := by
  unfold mKV
  split
  · exact x
  · have e : ∀ q, q < 122 → (kvT s).A 0 q = s.A 0 q := by
      unfold kvT
      have : ∀ (n c : Nat) (t : MS) (q : Nat), q < 122 → (cpl 0 (122 + 64 * mV s) 0 8 n c t).A 0 q = t.A 0 q := by
        intro n
        induction n with
        | zero => intro c t q _; rfl
        | succ n ih => intro c t q hq; exact (ih _ _ _ hq).trans (mA_off (by omega))
      exact this 64 0 s
    refine (ok_same (mI_A0.trans ((mA_off (by decide)).trans (e 1 (by decide)))) (fun p hp => ⟨?_, ?_⟩) x).1
    · exact mI_A0.trans ((mA_off (by omega)).trans (e _ (by omega)))
    · exact mI_A0.trans ((mA_off (by omega)).trans (e _ (by omega)))
theorem carry_ok {s : MS} {x : Nat × Nat} (h : mOk s) (v : mVo s) : mOk (mCarry x s).2 ∧ mVo (mCarry x s).2 := by
  unfold mCarry
  split
  · exact ⟨(ok_same (adds_off (by decide) (by omega)) (fun p _ => ⟨adds_off (by omega) (by omega), adds_off (by omega) (by omega)⟩) h).1, vo_2 (adds_off (by decide) (by omega)) v⟩
  · split
    · exact ⟨(ok_same (sets_off (by decide) (by omega)) (fun p _ => ⟨sets_off (by omega) (by omega), sets_off (by omega) (by omega)⟩) h).1, vo_2 (sets_off (by decide) (by omega)) v⟩
    · split
      · exact ⟨(ok_same (turns_off (by decide) (by omega)) (fun p _ => ⟨turns_off (by omega) (by omega), turns_off (by omega) (by omega)⟩) h).1, vo_2 (turns_off (by decide) (by omega)) v⟩
      · split
        · exact ⟨(ok_same (paints_off (by decide) (by omega)) (fun p _ => ⟨paints_off (by omega) (by omega), paints_off (by omega) (by omega)⟩) h).1, vo_2 (paints_off (by decide) (by omega)) v⟩
        · split
          · refine ⟨?_, ?_⟩
            · unfold mTicks; split
              · exact tks_ok _ _ _ h
              · exact h
            · unfold mTicks; split
              · exact vo_2 (tks_2 _ _ _ h) v
              · exact v
          · exact ⟨kv_ok h v, kv_vo v⟩
