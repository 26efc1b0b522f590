/-! THE MODEL: its read, 3 -/
set_option maxRecDepth 100000
/-! commands don't see the word -/
theorem mW_A {s : MS} {w : Nat} : (mW s w).A = s.A := rfl
theorem mW_I {s : MS} {w : Nat} : (mW s w).I = s.I := rfl
theorem acl_W {k x : Int32} {w : Nat} : ∀ (n c : Nat) (t : MS), acl k x n c (mW t w) = mW (acl k x n c t) w := by
  intro n
  induction n with
  | zero => intro c t; rfl
  | succ n ih => intro c t; exact ih (c + 1) (mA t 0 (8 + c) (mby k (t.A 0 (8 + c)) x))
theorem pal_W {x : Int32} {w : Nat} : ∀ (n c : Nat) (m : Int32) (t : MS), pal x n c m (mW t w) = ((pal x n c m t).1, mW (pal x n c m t).2 w) := by
  intro n
  induction n with
  | zero => intro c m t; rfl
  | succ n ih => intro c m t; exact ih (c + 1) _ (mA t 0 (40 + c) x)
theorem gol_W {o w : Nat} : ∀ (n c : Nat) (t : MS), gol o n c (mW t w) = mW (gol o n c t) w := by
  intro n
  induction n with
  | zero => intro c t; rfl
  | succ n ih => intro c t; exact ih (c + 1) (mA t 0 (o + c) (t.A 0 (o + c + 5)))
theorem tdl_W {w : Nat} : ∀ (n c : Nat) (t : MS), tdl n c (mW t w) = mW (tdl n c t) w := by
  intro n
  induction n with
  | zero => intro c t; rfl
  | succ n ih => intro c t; exact ih (c + 1) (mA t 0 (72 + 5 * c + 4) (t.A 0 (72 + 5 * c + 4) - 1))
theorem cpl_W {k1 o1 k2 o2 w : Nat} : ∀ (n c : Nat) (t : MS), cpl k1 o1 k2 o2 n c (mW t w) = mW (cpl k1 o1 k2 o2 n c t) w := by
  intro n
  induction n with
  | zero => intro c t; rfl
  | succ n ih => intro c t; exact ih (c + 1) (mA t k1 (o1 + c) (t.A k2 (o2 + c)))
theorem mActs_W {k x : Int32} {n c w : Nat} {s : MS} : mActs k x n c (mW s w) = mW (mActs k x n c s) w := by
  unfold mActs
  rw [acl_W]; rfl
theorem mGoes_W {p w : Nat} {s : MS} : mGoes p (mW s w) = mW (mGoes p s) w := by
  unfold mGoes
  exact gol_W _ _ (mA s 0 1 (nI (mN s - 1)))
theorem tkA_W {p w : Nat} {s : MS} : tkA p (mW s w) = mW (tkA p s) w := mActs_W
theorem tkl_W {w : Nat} : ∀ (m p : Nat) (n : Int32) (t : MS), tkl m p n (mW t w) = ((tkl m p n t).1, mW (tkl m p n t).2 w) := by
  intro m
  induction m with
  | zero => intro p n t; rfl
  | succ m ih =>
    intro p n t
    have e1 : mGoes p (tkM (mW t w)) = mW (mGoes p (tkM t)) w := mGoes_W (s := tkM t)
    have e2 : mGoes p (tkD p (mW t w)) = mW (mGoes p (tkD p t)) w := by
      have : tkD p (mW t w) = mW (tkD p t) w := by unfold tkD; rw [tkA_W]; rfl
      rw [this]; exact mGoes_W
    show cond (tkW p t) (tkl m (p + 1) n (mW t w)) (if 0 ≤ tkL p t then tkl m p n (mGoes p (tkM (mW t w))) else tkl m p (n + 1) (mGoes p (tkD p (mW t w)))) = _
    rw [e1, e2, ih, ih, ih]
    conv => rhs; unfold tkl
    cases tkW p t with
    | true => rfl
    | false =>
      simp only [cond_false]
      split <;> rfl
theorem mTick_W {s : MS} {w : Nat} : mTick (mW s w) = ((mTick s).1, mW (mTick s).2 w) := by
  have e : tdl (mN (mW s w)) 0 (tk0 (mW s w)) = mW (tdl (mN s) 0 (tk0 s)) w := tdl_W (mN s) 0 (tk0 s)
  unfold mTick
  rw [e]
  exact tkl_W (mN s) 0 0 _
theorem tks_W {w : Nat} : ∀ (m : Nat) (n : Int32) (t : MS), tks m n (mW t w) = ((tks m n t).1, mW (tks m n t).2 w) := by
  intro m
  induction m with
  | zero => intro n t; rfl
  | succ m ih =>
    intro n t
    show tks m (n + (mTick (mW t w)).1) (mTick (mW t w)).2 = _
    rw [mTick_W]
    exact ih _ _
theorem mAdds_W {s : MS} {a b x : Int32} {w : Nat} : mAdds (mW s w) a b x = ((mAdds s a b x).1, mW (mAdds s a b x).2 w) := by
  unfold mAdds
  rw [mActs_W]
  by_cases h : isSp a b = true ∧ isNu 0 x = true
  · rw [if_pos h, if_pos h]
    by_cases h2 : 0 ≤ lvF (s.A 0) 0 x (sp a b) (nn a)
    · exact (if_pos (c := 0 ≤ lvF ((mW s w).A 0) 0 x (sp a b) (nn a)) h2).trans (by rw [if_pos h2]; rfl)
    · exact (if_neg (c := 0 ≤ lvF ((mW s w).A 0) 0 x (sp a b) (nn a)) h2).trans (by rw [if_neg h2]; rfl)
  · rw [if_neg h, if_neg h]
theorem mSets_W {s : MS} {a b x : Int32} {w : Nat} : mSets (mW s w) a b x = ((mSets s a b x).1, mW (mSets s a b x).2 w) := by
  unfold mSets
  rw [mActs_W]
  split <;> rfl
theorem mTurns_W {s : MS} {a b : Int32} {w : Nat} : mTurns (mW s w) a b = ((mTurns s a b).1, mW (mTurns s a b).2 w) := by
  unfold mTurns
  rw [mActs_W]
  split <;> rfl
theorem mPaints_W {s : MS} {a b x : Int32} {w : Nat} : mPaints (mW s w) a b x = ((mPaints s a b x).1, mW (mPaints s a b x).2 w) := by
  unfold mPaints
  rw [pal_W]
  split <;> rfl
theorem mTicks_W {s : MS} {v : Int32} {w : Nat} : mTicks (mW s w) v = ((mTicks s v).1, mW (mTicks s v).2 w) := by
  unfold mTicks
  rw [tks_W]
  split <;> rfl
theorem mA0_W {s : MS} {k j w : Nat} {v : Int32} : mA (mW s w) k j v = mW (mA s k j v) w := rfl
theorem mKV_W {s : MS} {w : Nat} : mKV (mW s w) = ((mKV s).1, mW (mKV s).2 w) := by
  have e1 : kvT (mW s w) = mW (kvT s) w := by unfold kvT; exact cpl_W _ _ _
  have e2 : mV (mW s w) = mV s := rfl
  unfold mKV
  rw [e1, e2]
  split <;> rfl
theorem mCarry_W {s : MS} {x : Nat × Nat} {w : Nat} : mCarry x (mW s w) = ((mCarry x s).1, mW (mCarry x s).2 w) := by
  unfold mCarry
  rw [mAdds_W, mSets_W, mTurns_W, mPaints_W, mTicks_W, mKV_W]
  simp only [mW_A]
  split
  · rfl
  · split
    · rfl
    · split
      · rfl
      · split
        · rfl
        · split <;> rfl
theorem mKeeps_W {s : MS} {w : Nat} : mKeeps (mW s w) = mW (mKeeps s) w := by
  have e1 : mU (mW s w) = mU s := rfl
  unfold mKeeps
  rw [e1]
  by_cases h : mU s = 6
  · rw [if_pos h, if_pos h, cpl_W, mI_W, cpl_W, mI_W]
  · rw [if_neg h, if_neg h, cpl_W, mI_W]
theorem mBack_W {s : MS} {w : Nat} : mBack (mW s w) = mW (mBack s) w := by
  unfold mBack; exact cpl_W _ _ _
