/-! the best stretch -/
set_option maxRecDepth 100000
/-! the best stretch: three ways -/
/-- the sum of cells a .. c -/
abbrev SS (R : Nat → Int32) (a c : Nat) : Int := (sm R (c + 1 - a) a 0).toInt
/-- v is the first best of those that were seen, at (p, q) -/
def FB (R : Nat → Int32) (i j : Nat) (seen : Nat → Nat → Prop) (v : Int32) (p q : Nat) : Prop := (i ≤ p ∧ p ≤ q ∧ q ≤ j) ∧ v = sm R (q + 1 - p) p 0 ∧ ∀ a c, i ≤ a → a ≤ c → c ≤ j → seen a c → SS R a c ≤ v.toInt ∧ ((a < p ∨ (a = p ∧ c < q)) → SS R a c < v.toInt)
theorem fin_FB {R : Nat → Int32} {i j a : Nat} (ha : i ≤ a) : ∀ (m c : Nat) (v : Int32) (t : MS) (p q : Nat), a ≤ c → c + m = j + 1 → t.A 0 = R → t.I 17 = nI p → t.I 18 = nI q → (p < a ∨ (p = a ∧ (q < c ∨ (q = a ∧ c = a)))) → FB R i j (fun x y => x < a ∨ (x = a ∧ y < c)) v p q →
    ∃ p' q', (p' < a ∨ p' = a) ∧ (fin a m c v t).2.A = t.A ∧ (∀ k, k ≠ 17 → k ≠ 18 → (fin a m c v t).2.I k = t.I k) ∧ (fin a m c v t).2.I 17 = nI p' ∧ (fin a m c v t).2.I 18 = nI q' ∧ FB R i j (fun x y => x < a + 1) (fin a m c v t).1 p' q' := by
  intro m
  induction m with
  | zero =>
    intro c v t p q hc e hR h17 h18 hp H
    refine ⟨p, q, by omega, rfl, fun _ _ _ => rfl, h17, h18, H.1, H.2.1, fun x y h1 h2 h3 h4 => H.2.2 x y h1 h2 h3 ?_⟩
    rcases Nat.lt_or_ge x a with z | z
    · exact Or.inl z
    · exact Or.inr ⟨by omega, by omega⟩
  | succ m ih =>
    intro c v t p q hc e hR h17 h18 hp H
    rw [fin]
    by_cases z : v < sm (t.A 0) (c + 1 - a) a 0
    · rw [if_pos z]
      have z2 := Int32.lt_iff_toInt_lt.mp z
      rw [hR] at z2 ⊢
      have sd : FB R i j (fun x y => x < a ∨ (x = a ∧ y < c + 1)) (sm R (c + 1 - a) a 0) a c := ⟨⟨ha, hc, by omega⟩, rfl, fun x y h1 h2 h3 h4 => by
        by_cases w : x = a ∧ y = c
        · obtain ⟨w1, w2⟩ := w
          subst w1; subst w2
          exact ⟨Int.le_refl _, fun w => by omega⟩
        · have := (H.2.2 x y h1 h2 h3 (by omega)).1
          exact ⟨by omega, fun _ => by omega⟩⟩
      obtain ⟨p', q', r1, r2, r3, r4, r5, r6⟩ := ih (c + 1) (sm R (c + 1 - a) a 0) (mI (mI t 17 (nI a)) 18 (nI c)) a c (by omega) (by omega) hR (by rw [mI_I, upd_ne (by omega), mI_I, upd_at]) (by rw [mI_I, upd_at]) (by omega) sd
      exact ⟨p', q', r1, r2, fun k k1 k2 => by rw [r3 k k1 k2, mI_I, upd_ne k2, mI_I, upd_ne k1], r4, r5, r6⟩
    · rw [if_neg z]
      have z2 : ¬ v.toInt < SS R a c := fun w => z (by rw [hR]; exact Int32.lt_iff_toInt_lt.mpr w)
      refine ih (c + 1) v t p q (by omega) (by omega) hR h17 h18 (by omega) ⟨H.1, H.2.1, fun x y h1 h2 h3 h4 => ?_⟩
      by_cases w : x = a ∧ y = c
      · obtain ⟨w1, w2⟩ := w
        subst w1; subst w2
        exact ⟨by omega, fun w => by omega⟩
      · exact H.2.2 x y h1 h2 h3 (by omega)
theorem fou_FB {R : Nat → Int32} {i j : Nat} : ∀ (m a : Nat) (v : Int32) (t : MS) (p q : Nat), i ≤ a → a + m = j + 1 → t.A 0 = R → t.I 17 = nI p → t.I 18 = nI q → (p < a ∨ (p = i ∧ q = i ∧ a = i)) → FB R i j (fun x y => x < a) v p q →
    ∃ p' q', (fou j m a v t).2.A = t.A ∧ (∀ k, k ≠ 17 → k ≠ 18 → (fou j m a v t).2.I k = t.I k) ∧ (fou j m a v t).2.I 17 = nI p' ∧ (fou j m a v t).2.I 18 = nI q' ∧ FB R i j (fun x y => x < j + 1) (fou j m a v t).1 p' q' := by
  intro m
  induction m with
  | zero => intro a v t p q ha e hR h17 h18 hp H; have : a = j + 1 := by omega
            subst this; exact ⟨p, q, rfl, fun _ _ _ => rfl, h17, h18, H⟩
  | succ m ih =>
    intro a v t p q ha e hR h17 h18 hp H
    obtain ⟨p', q', r1, r2, r3, r4, r5, r6⟩ := fin_FB (R := R) (i := i) (j := j) (a := a) ha (j + 1 - a) a v t p q (Nat.le_refl _) (by omega) hR h17 h18 (by omega) ⟨H.1, H.2.1, fun x y h1 h2 h3 h4 => H.2.2 x y h1 h2 h3 (by omega)⟩
    rw [fou]
    obtain ⟨p2, q2, s1, s2, s3, s4, s5⟩ := ih (a + 1) _ _ p' q' (by omega) (by omega) (by rw [r2]; exact hR) r4 r5 (by omega) r6
    exact ⟨p2, q2, s1.trans r2, fun k k1 k2 => (s2 k k1 k2).trans (r3 k k1 k2), s3, s4, s5⟩
theorem finds_FB (s : MS) {i j : Nat} (h : i ≤ j) : ∃ p q, (mFinds s i j).2.A = s.A ∧ (∀ k, k ≠ 17 → k ≠ 18 → (mFinds s i j).2.I k = s.I k) ∧ (mFinds s i j).2.I 17 = nI p ∧ (mFinds s i j).2.I 18 = nI q ∧ FB (s.A 0) i j (fun x y => True) (mFinds s i j).1 p q := by
  obtain ⟨p, q, r1, r2, r3, r4, r5⟩ := fou_FB (R := s.A 0) (i := i) (j := j) (j + 1 - i) i (s.A 0 (8 + i)) (mI (mI s 17 (nI i)) 18 (nI i)) i i (Nat.le_refl _) (by omega) rfl (by rw [mI_I, upd_ne (by omega), mI_I, upd_at]) (by rw [mI_I, upd_at]) (Or.inr ⟨rfl, rfl, rfl⟩) ⟨⟨Nat.le_refl _, Nat.le_refl _, h⟩, by
    rw [Nat.add_sub_cancel_left]; exact (Int32.zero_add _).symm, fun x y h1 h2 h3 h4 => absurd h4 (by omega)⟩
  exact ⟨p, q, r1, fun k k1 k2 => by rw [mFinds, r2 k k1 k2, mI_I, upd_ne k2, mI_I, upd_ne k1], r3, r4, r5.1, r5.2.1, fun x y h1 h2 h3 _ => r5.2.2 x y h1 h2 h3 (by omega)⟩
theorem i32_add {a b : Int32} (h1 : -2147483648 ≤ a.toInt + b.toInt) (h2 : a.toInt + b.toInt < 2147483648) : (a + b).toInt = a.toInt + b.toInt := by
  rw [Int32.toInt_add]
  unfold Int.bmod
  dsimp only
  split <;> omega
theorem rg_I {x : Int32} (h : rg x) : -999 ≤ x.toInt ∧ x.toInt ≤ 999 := by
  obtain ⟨a1, a2⟩ := inR_i.mp h
  exact ⟨Int32.le_iff_toInt_le.mp a1, Int32.le_iff_toInt_le.mp a2⟩
theorem sm_bd {R : Nat → Int32} (hR : ∀ c, c < 32 → rg (R (8 + c))) : ∀ (n c K : Nat) (a : Int32), c + n ≤ 32 → K + 999 * n ≤ 100000 → -(K : Int) ≤ a.toInt → a.toInt ≤ K → -((K + 999 * n : Nat) : Int) ≤ (sm R n c a).toInt ∧ (sm R n c a).toInt ≤ ((K + 999 * n : Nat) : Int) := by
  intro n
  induction n with
  | zero => intro c K a _ _ h1 h2; exact ⟨h1, h2⟩
  | succ n ih =>
    intro c K a hc hK h1 h2
    have r := rg_I (hR c (by omega))
    have e := i32_add (a := a) (b := R (8 + c)) (by omega) (by omega)
    have := ih (c + 1) (K + 999) (a + R (8 + c)) (by omega) (by omega) (by rw [e]; omega) (by rw [e]; omega)
    rw [show K + 999 * (n + 1) = K + 999 + 999 * n by omega]
    exact this
theorem sm_b {R : Nat → Int32} (hR : ∀ c, c < 32 → rg (R (8 + c))) {n c : Nat} (h : c + n ≤ 32) : -31968 ≤ (sm R n c 0).toInt ∧ (sm R n c 0).toInt ≤ 31968 := by
  have := sm_bd hR n c 0 0 h (by omega) (by decide) (by decide)
  omega
theorem sm_s {R : Nat → Int32} (hR : ∀ c, c < 32 → rg (R (8 + c))) {a c : Nat} (h : a ≤ c) (hc : c < 32) : (sm R (c + 1 - a) a 0).toInt = (sm R (c - a) a 0).toInt + (R (8 + c)).toInt := by
  have b := sm_b hR (n := c - a) (c := a) (by omega)
  have r := rg_I (hR c hc)
  rw [← sm_step h, i32_add (by omega) (by omega)]
theorem sm_1 {R : Nat → Int32} {c : Nat} : sm R (c + 1 - c) c 0 = R (8 + c) := by
  rw [Nat.add_sub_cancel_left]; exact Int32.zero_add _
theorem kdl_max {R : Nat → Int32} (hR : ∀ c, c < 32 → rg (R (8 + c))) {i j : Nat} (hj : j < 32) : ∀ (n c : Nat) (here best : Int32), i < c → c + n = j + 1 →
    (∃ a, i ≤ a ∧ a < c ∧ here = sm R (c - a) a 0) → (∀ a, i ≤ a → a < c → (sm R (c - a) a 0).toInt ≤ here.toInt) →
    (∃ a e, i ≤ a ∧ a < e ∧ e ≤ c ∧ best = sm R (e - a) a 0) → (∀ a e, i ≤ a → a < e → e ≤ c → (sm R (e - a) a 0).toInt ≤ best.toInt) →
    (∃ a e, i ≤ a ∧ a < e ∧ e ≤ j + 1 ∧ kdl R n c here best = sm R (e - a) a 0) ∧ ∀ a e, i ≤ a → a < e → e ≤ j + 1 → (sm R (e - a) a 0).toInt ≤ (kdl R n c here best).toInt := by
  intro n
  induction n with
  | zero =>
    intro c here best hc e h1 h2 h3 h4
    have : c = j + 1 := by omega
    subst this; exact ⟨h3, h4⟩
  | succ n ih =>
    intro c here best hc e ⟨a0, h1a, h1b, h1c⟩ h2 ⟨a1, e1, h3a, h3b, h3c, h3d⟩ h4
    have bh := sm_b hR (n := c - a0) (c := a0) (by omega)
    rw [← h1c] at bh
    have r := rg_I (hR c (by omega))
    have ea := i32_add (a := here) (b := R (8 + c)) (by omega) (by omega)
    have k1 : ∃ a, i ≤ a ∧ a < c + 1 ∧ kdh R c here = sm R (c + 1 - a) a 0 := by
      unfold kdh
      by_cases z : R (8 + c) < here + R (8 + c)
      · rw [if_pos z]; exact ⟨a0, h1a, by omega, by rw [h1c]; exact sm_step (by omega)⟩
      · rw [if_neg z]; exact ⟨c, by omega, by omega, sm_1.symm⟩
    have k0 : (R (8 + c)).toInt ≤ (kdh R c here).toInt ∧ here.toInt + (R (8 + c)).toInt ≤ (kdh R c here).toInt := by
      unfold kdh
      by_cases z : R (8 + c) < here + R (8 + c)
      · rw [if_pos z]; have := Int32.lt_iff_toInt_lt.mp z; omega
      · rw [if_neg z]; have : ¬ (R (8 + c)).toInt < (here + R (8 + c)).toInt := fun w => z (Int32.lt_iff_toInt_lt.mpr w)
        omega
    have k2 : ∀ a, i ≤ a → a < c + 1 → (sm R (c + 1 - a) a 0).toInt ≤ (kdh R c here).toInt := fun a p1 p2 => by
      by_cases z : a = c
      · subst z; rw [sm_1]; exact k0.1
      · have := h2 a p1 (by omega)
        rw [sm_s hR (by omega) (by omega)]; omega
    have k3 : (kdh R c here).toInt ≤ (if best < kdh R c here then kdh R c here else best).toInt ∧ best.toInt ≤ (if best < kdh R c here then kdh R c here else best).toInt := by
      by_cases z : best < kdh R c here
      · rw [if_pos z]; have := Int32.lt_iff_toInt_lt.mp z; omega
      · rw [if_neg z]; have : ¬ best.toInt < (kdh R c here).toInt := fun w => z (Int32.lt_iff_toInt_lt.mpr w)
        omega
    refine ih (c + 1) (kdh R c here) _ (by omega) (by omega) k1 k2 ?_ (fun a e p1 p2 p3 => ?_)
    · by_cases z : best < kdh R c here
      · rw [if_pos z]; obtain ⟨a, p1, p2, p3⟩ := k1; exact ⟨a, c + 1, p1, p2, Nat.le_refl _, p3⟩
      · rw [if_neg z]; exact ⟨a1, e1, h3a, h3b, by omega, h3d⟩
    · by_cases z : e = c + 1
      · subst z; have := k2 a p1 p2; omega
      · have := h4 a e p1 p2 (by omega); omega
theorem best_eq {s : MS} (hR : ∀ c, c < 32 → rg (s.A 0 (8 + c))) {i j : Nat} (h : i ≤ j) (hj : j < 32) {v : Int32} (h1 : ∃ a e, i ≤ a ∧ a < e ∧ e ≤ j + 1 ∧ v = sm (s.A 0) (e - a) a 0) (h2 : ∀ a e, i ≤ a → a < e → e ≤ j + 1 → (sm (s.A 0) (e - a) a 0).toInt ≤ v.toInt) : v = (mFinds s i j).1 := by
  obtain ⟨p, q, -, -, -, -, ⟨q1, q2, q3⟩, q4, q5⟩ := finds_FB s h
  obtain ⟨a, e, a1, a2, a3, a4⟩ := h1
  have u1 := h2 p (q + 1) q1 (by omega) (by omega)
  rw [← q4] at u1
  have u2 := (q5 a (e - 1) a1 (by omega) (by omega) trivial).1
  unfold SS at u2
  rw [show e - 1 + 1 - a = e - a by omega, ← a4] at u2
  exact Int32.toInt_inj.mp (by omega)
theorem kdl_eq {s : MS} (hR : ∀ c, c < 32 → rg (s.A 0 (8 + c))) {i j : Nat} (h : i ≤ j) (hj : j < 32) : kdl (s.A 0) (j - i) (i + 1) (s.A 0 (8 + i)) (s.A 0 (8 + i)) = (mFinds s i j).1 := by
  have e1 : s.A 0 (8 + i) = sm (s.A 0) (i + 1 - i) i 0 := sm_1.symm
  obtain ⟨k1, k2⟩ := kdl_max hR (i := i) hj (j - i) (i + 1) (s.A 0 (8 + i)) (s.A 0 (8 + i)) (by omega) (by omega) ⟨i, Nat.le_refl _, by omega, e1⟩ (fun a p1 p2 => by
    have : a = i := by omega
    subst this; rw [← e1]; exact Int.le_refl _) ⟨i, i + 1, Nat.le_refl _, by omega, Nat.le_refl _, e1⟩ (fun a e p1 p2 p3 => by
    have : a = i := by omega
    subst this
    have : e = a + 1 := by omega
    subst this; rw [← e1]; exact Int.le_refl _)
  exact best_eq hR h hj k1 k2
