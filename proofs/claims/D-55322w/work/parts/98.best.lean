/-! the best stretch -/
set_option maxRecDepth 100000
/-! the best stretch: three ways -/
/-- the sum of cells a .. c -/
abbrev SS (R : Nat → Int32) (a c : Nat) : Int := (sm R (c + 1 - a) a 0).toInt
/-- v is the first best of those that were seen, at (p, q) -/
def FB (R : Nat → Int32) (i j : Nat) (seen : Nat → Nat → Prop) (v : Int32) (p q : Nat) : Prop := (i ≤ p ∧ p ≤ q ∧ q ≤ j) ∧ v = sm R (q + 1 - p) p 0 ∧ ∀ a c, i ≤ a → a ≤ c → c ≤ j → seen a c → SS R a c ≤ v.toInt ∧ ((a < p ∨ (a = p ∧ c < q)) → SS R a c < v.toInt)
theorem fin_FB {R : Nat → Int32} {i j a : Nat} (ha : i ≤ a) : ∀ (m c : Nat) (v : Int32) (t : MS) (p q : Nat), a ≤ c → c + m = j + 1 → t.A 0 = R → t.I 17 = nI p → t.I 18 = nI q → (p < a ∨ (p = a ∧ (q < c ∨ (q = a ∧ c = a)))) → FB R i j (fun x y => x < a ∨ (x = a ∧ y < c)) v p q →
    ∃ p' q', (p' < a ∨ p' = a) ∧ (fin a m c v t).2.A = t.A ∧ (∀ k, k ≠ 17 → k ≠ 18 → (fin a m c v t).2.I k = t.I k) ∧ (fin a m c v t).2.I 17 = nI p' ∧ (fin a m c v t).2.I 18 = nI q' ∧ FB R i j (fun x y => x < a + 1) (fin a m c v t).1 p' q' := by
  intro m
  induction m with
  | zero =>
    intro c v t p q hc e hR h17 h18 hp H
    refine ⟨p, q, by omega, rfl, fun _ _ _ => rfl, h17, h18, H.1, H.2.1, fun x y h1 h2 h3 h4 => H.2.2 x y h1 h2 h3 ?_⟩
    rcases Nat.lt_or_ge x a with z | z
    · exact Or.inl z
    · exact Or.inr ⟨by omega, by omega⟩
  | succ m ih =>
    intro c v t p q hc e hR h17 h18 hp H
    rw [fin]
    by_cases z : v < sm (t.A 0) (c + 1 - a) a 0
    · rw [if_pos z]
      have z2 := Int32.lt_iff_toInt_lt.mp z
      rw [hR] at z2 ⊢
      have sd : FB R i j (fun x y => x < a ∨ (x = a ∧ y < c + 1)) (sm R (c + 1 - a) a 0) a c := ⟨⟨ha, hc, by omega⟩, rfl, fun x y h1 h2 h3 h4 => by
        by_cases w : x = a ∧ y = c
        · obtain ⟨w1, w2⟩ := w
          subst w1; subst w2
          exact ⟨Int.le_refl _, fun w => by omega⟩
        · have := (H.2.2 x y h1 h2 h3 (by omega)).1
          exact ⟨by omega, fun _ => by omega⟩⟩
      obtain ⟨p', q', r1, r2, r3, r4, r5, r6⟩ := ih (c + 1) (sm R (c + 1 - a) a 0) (mI (mI t 17 (nI a)) 18 (nI c)) a c (by omega) (by omega) hR (by rw [mI_I, upd_ne (by omega), mI_I, upd_at]) (by rw [mI_I, upd_at]) (by omega) sd
      exact ⟨p', q', r1, r2, fun k k1 k2 => by rw [r3 k k1 k2, mI_I, upd_ne k2, mI_I, upd_ne k1], r4, r5, r6⟩
    · rw [if_neg z]
      have z2 : ¬ v.toInt < SS R a c := fun w => z (by rw [hR]; exact Int32.lt_iff_toInt_lt.mpr w)
      refine ih (c + 1) v t p q (by omega) (by omega) hR h17 h18 (by omega) ⟨H.1, H.2.1, fun x y h1 h2 h3 h4 => ?_⟩
      by_cases w : x = a ∧ y = c
      · obtain ⟨w1, w2⟩ := w
        subst w1; subst w2
        exact ⟨by omega, fun w => by omega⟩
      · exact H.2.2 x y h1 h2 h3 (by omega)
theorem fou_FB {R : Nat → Int32} {i j : Nat} : ∀ (m a : Nat) (v : Int32) (t : MS) (p q : Nat), i ≤ a → a + m = j + 1 → t.A 0 = R → t.I 17 = nI p → t.I 18 = nI q → (p < a ∨ (p = i ∧ q = i ∧ a = i)) → FB R i j (fun x y => x < a) v p q →
    ∃ p' q', (fou j m a v t).2.A = t.A ∧ (∀ k, k ≠ 17 → k ≠ 18 → (fou j m a v t).2.I k = t.I k) ∧ (fou j m a v t).2.I 17 = nI p' ∧ (fou j m a v t).2.I 18 = nI q' ∧ FB R i j (fun x y => x < j + 1) (fou j m a v t).1 p' q' := by
  intro m
  induction m with
  | zero => intro a v t p q ha e hR h17 h18 hp H; have : a = j + 1 := by omega
            subst this; exact ⟨p, q, rfl, fun _ _ _ => rfl, h17, h18, H⟩
  | succ m ih =>
    intro a v t p q ha e hR h17 h18 hp H
    obtain ⟨p', q', r1, r2, r3, r4, r5, r6⟩ := fin_FB (R := R) (i := i) (j := j) (a := a) ha (j + 1 - a) a v t p q (Nat.le_refl _) (by omega) hR h17 h18 (by omega) ⟨H.1, H.2.1, fun x y h1 h2 h3 h4 => H.2.2 x y h1 h2 h3 (by omega)⟩
    rw [fou]
    obtain ⟨p2, q2, s1, s2, s3, s4, s5⟩ := ih (a + 1) _ _ p' q' (by omega) (by omega) (by rw [r2]; exact hR) r4 r5 (by omega) r6
    exact ⟨p2, q2, s1.trans r2, fun k k1 k2 => (s2 k k1 k2).trans (r3 k k1 k2), s3, s4, s5⟩
theorem finds_FB (s : MS) {i j : Nat} (h : i ≤ j) : ∃ p q, (mFinds s i j).2.A = s.A ∧ (∀ k, k ≠ 17 → k ≠ 18 → (mFinds s i j).2.I k = s.I k) ∧ (mFinds s i j).2.I 17 = nI p ∧ (mFinds s i j).2.I 18 = nI q ∧ FB (s.A 0) i j (fun x y => True) (mFinds s i j).1 p q := by
  obtain ⟨p, q, r1, r2, r3, r4, r5⟩ := fou_FB (R := s.A 0) (i := i) (j := j) (j + 1 - i) i (s.A 0 (8 + i)) (mI (mI s 17 (nI i)) 18 (nI i)) i i (Nat.le_refl _) (by omega) rfl (by rw [mI_I, upd_ne (by omega), mI_I, upd_at]) (by rw [mI_I, upd_at]) (Or.inr ⟨rfl, rfl, rfl⟩) ⟨⟨Nat.le_refl _, Nat.le_refl _, h⟩, by
    rw [Nat.add_sub_cancel_left]; exact (Int32.zero_add _).symm, fun x y h1 h2 h3 h4 => absurd h4 (by omega)⟩
  exact ⟨p, q, r1, fun k k1 k2 => by rw [mFinds, r2 k k1 k2, mI_I, upd_ne k2, mI_I, upd_ne k1], r3, r4, r5.1, r5.2.1, fun x y h1 h2 h3 _ => r5.2.2 x y h1 h2 h3 (by omega)⟩
