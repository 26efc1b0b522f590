/-! the SpanRuler is asked, 8: ranks -/
set_option maxRecDepth 100000
theorem i32_sub {a b : Int32} (h1 : -2147483648 ≤ a.toInt - b.toInt) (h2 : a.toInt - b.toInt < 2147483648) : (a - b).toInt = a.toInt - b.toInt := by
  rw [Int32.toInt_sub]
  unfold Int.bmod
  dsimp only
  split <;> omega
theorem wol_bd {R : Nat → Int32} (hR : ∀ c, c < 32 → rg (R (8 + c))) {x : Int32} : ∀ (n c K : Nat) (a : Int32), c + n ≤ 32 → K + 999 * n ≤ 100000 → -(K : Int) ≤ a.toInt → a.toInt ≤ K → -((K + 999 * n : Nat) : Int) ≤ (wol R x n c a).toInt ∧ (wol R x n c a).toInt ≤ ((K + 999 * n : Nat) : Int) := by
  intro n
  induction n with
  | zero => intro c K a _ _ h1 h2; exact ⟨h1, h2⟩
  | succ n ih =>
    intro c K a hc hK h1 h2
    have r := rg_I (hR c (by omega))
    have e := i32_add (a := a) (b := R (8 + c)) (by omega) (by omega)
    rw [show K + 999 * (n + 1) = K + 999 + 999 * n by omega]
    rw [wol]
    by_cases z : R (40 + c) = x
    · rw [if_pos z]; exact ih (c + 1) (K + 999) _ (by omega) (by omega) (by rw [e]; omega) (by rw [e]; omega)
    · rw [if_neg z]; exact ih (c + 1) (K + 999) _ (by omega) (by omega) (by omega) (by omega)
theorem mal_bd {R : Nat → Int32} {x : Int32} : ∀ (n c K : Nat) (a : Int32), K + n ≤ 1000 → 0 ≤ a.toInt → a.toInt ≤ K → 0 ≤ (mal R x n c a).toInt ∧ (mal R x n c a).toInt ≤ ((K + n : Nat) : Int) := by
  intro n
  induction n with
  | zero => intro c K a _ h1 h2; exact ⟨h1, h2⟩
  | succ n ih =>
    intro c K a hK h1 h2
    have o1 : (1 : Int32).toInt = 1 := rfl
    have e := i32_add (a := a) (b := 1) (by omega) (by omega)
    rw [show K + (n + 1) = K + 1 + n by omega]
    rw [mal]
    by_cases z : R (40 + c) = x
    · rw [if_pos z]; exact ih (c + 1) (K + 1) _ (by omega) (by rw [e]; omega) (by rw [e]; omega)
    · rw [if_neg z]; exact ih (c + 1) (K + 1) _ (by omega) (by omega) (by omega)
theorem ahd_iff {R : Nat → Int32} (hR : ∀ c, c < 32 → rg (R (8 + c))) {o t : Nat} (ho : o < 4) (ht : t < 4) : ahd R (nI o) (nI t) = true ↔ (wol R (nI t) 32 0 0).toInt < (wol R (nI o) 32 0 0).toInt ∨ ((wol R (nI t) 32 0 0).toInt = (wol R (nI o) 32 0 0).toInt ∧ ((mal R (nI t) 32 0 0).toInt < (mal R (nI o) 32 0 0).toInt ∨ ((mal R (nI t) 32 0 0).toInt = (mal R (nI o) 32 0 0).toInt ∧ o < t))) := by
  have b1 := wol_bd hR (x := nI o) 32 0 0 0 (by omega) (by omega) (by decide) (by decide)
  have b2 := wol_bd hR (x := nI t) 32 0 0 0 (by omega) (by omega) (by decide) (by decide)
  have c1 := mal_bd (R := R) (x := nI o) 32 0 0 0 (by omega) (by decide) (by decide)
  have c2 := mal_bd (R := R) (x := nI t) 32 0 0 0 (by omega) (by decide) (by decide)
  have e1 := i32_sub (a := wol R (nI o) 32 0 0) (b := wol R (nI t) 32 0 0) (by omega) (by omega)
  have e2 := i32_sub (a := mal R (nI o) 32 0 0) (b := mal R (nI t) 32 0 0) (by omega) (by omega)
  have z1 : wol R (nI o) 32 0 0 - wol R (nI t) 32 0 0 = 0 ↔ (wol R (nI t) 32 0 0).toInt = (wol R (nI o) 32 0 0).toInt := by
    rw [← Int32.toInt_inj, e1]; exact ⟨fun h => by have : (0 : Int32).toInt = 0 := rfl; omega, fun h => by have : (0 : Int32).toInt = 0 := rfl; omega⟩
  have z2 : mal R (nI o) 32 0 0 - mal R (nI t) 32 0 0 = 0 ↔ (mal R (nI t) 32 0 0).toInt = (mal R (nI o) 32 0 0).toInt := by
    rw [← Int32.toInt_inj, e2]; exact ⟨fun h => by have : (0 : Int32).toInt = 0 := rfl; omega, fun h => by have : (0 : Int32).toInt = 0 := rfl; omega⟩
  have p1 : 0 < wol R (nI o) 32 0 0 - wol R (nI t) 32 0 0 ↔ (wol R (nI t) 32 0 0).toInt < (wol R (nI o) 32 0 0).toInt := by
    rw [Int32.lt_iff_toInt_lt, e1]; exact ⟨fun h => by have : (0 : Int32).toInt = 0 := rfl; omega, fun h => by have : (0 : Int32).toInt = 0 := rfl; omega⟩
  have p2 : 0 < mal R (nI o) 32 0 0 - mal R (nI t) 32 0 0 ↔ (mal R (nI t) 32 0 0).toInt < (mal R (nI o) 32 0 0).toInt := by
    rw [Int32.lt_iff_toInt_lt, e2]; exact ⟨fun h => by have : (0 : Int32).toInt = 0 := rfl; omega, fun h => by have : (0 : Int32).toInt = 0 := rfl; omega⟩
  have p3 : nI o < nI t ↔ o < t := nI_ltI (by omega) (by omega)
  unfold ahd
  by_cases c : wol R (nI o) 32 0 0 - wol R (nI t) 32 0 0 = 0
  · rw [if_pos c, Bool.or_eq_true, Bool.and_eq_true, decide_eq_true_eq, decide_eq_true_eq, decide_eq_true_eq, p2, z2, p3]
    have := z1.mp c
    omega
  · rw [if_neg c, decide_eq_true_eq, p1]
    have : ¬ (wol R (nI t) 32 0 0).toInt = (wol R (nI o) 32 0 0).toInt := fun w => c (z1.mpr w)
    omega
def bN (b : Bool) : Nat := cond b 1 0
/-- how many of the four are ahead of o -/
def rkN (R : Nat → Int32) (o : Nat) : Nat := (if 0 = o then 0 else bN (ahd R (nI 0) (nI o))) + (if 1 = o then 0 else bN (ahd R (nI 1) (nI o))) + (if 2 = o then 0 else bN (ahd R (nI 2) (nI o))) + (if 3 = o then 0 else bN (ahd R (nI 3) (nI o)))
theorem rk_0 (R : Nat → Int32) : rkN R 0 = 0 + bN (ahd R (nI 1) (nI 0)) + bN (ahd R (nI 2) (nI 0)) + bN (ahd R (nI 3) (nI 0)) := rfl
theorem rk_1 (R : Nat → Int32) : rkN R 1 = bN (ahd R (nI 0) (nI 1)) + 0 + bN (ahd R (nI 2) (nI 1)) + bN (ahd R (nI 3) (nI 1)) := rfl
theorem rk_2 (R : Nat → Int32) : rkN R 2 = bN (ahd R (nI 0) (nI 2)) + bN (ahd R (nI 1) (nI 2)) + 0 + bN (ahd R (nI 3) (nI 2)) := rfl
theorem rk_3 (R : Nat → Int32) : rkN R 3 = bN (ahd R (nI 0) (nI 3)) + bN (ahd R (nI 1) (nI 3)) + bN (ahd R (nI 2) (nI 3)) + 0 := rfl
theorem bN_1 (b : Bool) : bN b ≤ 1 := by cases b <;> decide
theorem ral_s {R : Nat → Int32} {o : Nat} (ho : o < 4) (m c v : Nat) (hc : c < 4) : ral R o (m + 1) c (nI v) = ral R o m (c + 1) (nI (v + (if c = o then 0 else bN (ahd R (nI c) (nI o))))) := by
  rw [ral]
  by_cases z : c = o
  · rw [if_pos (by rw [z]), if_pos z]; rfl
  · rw [if_neg (fun w => z (nI_is w (by omega) (by omega))), if_neg z]
    cases w : ahd R (nI c) (nI o) with
    | true => rw [if_pos rfl, nI_1]; rfl
    | false => rw [if_neg (by decide)]; rfl
theorem ral_N {R : Nat → Int32} {o : Nat} (ho : o < 4) : ral R o 4 0 0 = nI (rkN R o) := by
  have h : ral R o 4 0 (nI 0) = nI (0 + (if 0 = o then 0 else bN (ahd R (nI 0) (nI o))) + (if 1 = o then 0 else bN (ahd R (nI 1) (nI o))) + (if 2 = o then 0 else bN (ahd R (nI 2) (nI o))) + (if 3 = o then 0 else bN (ahd R (nI 3) (nI o)))) := by
    rw [ral_s ho 3 0 0 (by omega), ral_s ho 2 1 _ (by omega), ral_s ho 1 2 _ (by omega), ral_s ho 0 3 _ (by omega), ral]
  refine (show ral R o 4 0 0 = _ from h).trans (congrArg nI ?_)
  unfold rkN; rw [Nat.zero_add (if 0 = o then 0 else bN (ahd R (nI 0) (nI o)))]
theorem ahd_tr {R : Nat → Int32} (hR : ∀ c, c < 32 → rg (R (8 + c))) {c o t : Nat} (hc : c < 4) (ho : o < 4) (ht : t < 4) (h1 : ahd R (nI c) (nI o) = true) (h2 : ahd R (nI o) (nI t) = true) : ahd R (nI c) (nI t) = true := by
  have a := (ahd_iff hR hc ho).mp h1
  have b := (ahd_iff hR ho ht).mp h2
  exact (ahd_iff hR hc ht).mpr (by omega)
theorem ahd_one {R : Nat → Int32} (hR : ∀ c, c < 32 → rg (R (8 + c))) {o t : Nat} (ho : o < 4) (ht : t < 4) (h : o ≠ t) : (ahd R (nI o) (nI t) = true ∧ ahd R (nI t) (nI o) = false) ∨ (ahd R (nI t) (nI o) = true ∧ ahd R (nI o) (nI t) = false) := by
  have a := ahd_iff hR ho ht
  have b := ahd_iff hR ht ho
  cases e1 : ahd R (nI o) (nI t) with
  | true =>
    cases e2 : ahd R (nI t) (nI o) with
    | true => have := a.mp e1; have := b.mp e2; omega
    | false => exact Or.inl ⟨rfl, rfl⟩
  | false =>
    cases e2 : ahd R (nI t) (nI o) with
    | true => exact Or.inr ⟨rfl, rfl⟩
    | false =>
      exfalso
      rcases Nat.lt_or_gt_of_ne h with z | z
      · exact absurd (b.mpr (by
          by_cases w : (wol R (nI o) 32 0 0).toInt < (wol R (nI t) 32 0 0).toInt ∨ ((wol R (nI o) 32 0 0).toInt = (wol R (nI t) 32 0 0).toInt ∧ (mal R (nI o) 32 0 0).toInt < (mal R (nI t) 32 0 0).toInt)
          · omega
          · exact absurd (a.mpr (by omega)) (by rw [e1]; decide))) (by rw [e2]; decide)
      · exact absurd (a.mpr (by
          by_cases w : (wol R (nI t) 32 0 0).toInt < (wol R (nI o) 32 0 0).toInt ∨ ((wol R (nI t) 32 0 0).toInt = (wol R (nI o) 32 0 0).toInt ∧ (mal R (nI t) 32 0 0).toInt < (mal R (nI o) 32 0 0).toInt)
          · omega
          · exact absurd (b.mpr (by omega)) (by rw [e2]; decide))) (by rw [e1]; decide)
theorem rank_lt {R : Nat → Int32} (hR : ∀ c, c < 32 → rg (R (8 + c))) {o t : Nat} (ho : o < 4) (ht : t < 4) (h1 : ahd R (nI o) (nI t) = true) (h2 : ahd R (nI t) (nI o) = false) : rkN R o < rkN R t := by
  have k1 : bN (ahd R (nI o) (nI t)) = 1 := by rw [h1]; rfl
  have k2 : bN (ahd R (nI t) (nI o)) = 0 := by rw [h2]; rfl
  have T : ∀ c, c < 4 → bN (ahd R (nI c) (nI o)) ≤ bN (ahd R (nI c) (nI t)) := fun c hc => by
    cases e : ahd R (nI c) (nI o) with
    | true => rw [ahd_tr hR hc ho ht e h1]; exact Nat.le_refl _
    | false => exact Nat.zero_le _
  have t0 := T 0 (by omega)
  have t1 := T 1 (by omega)
  have t2 := T 2 (by omega)
  have t3 := T 3 (by omega)
  rcases (by omega : o = 0 ∨ o = 1 ∨ o = 2 ∨ o = 3) with e | e | e | e <;> rcases (by omega : t = 0 ∨ t = 1 ∨ t = 2 ∨ t = 3) with f | f | f | f <;> subst e <;> subst f <;> simp only [rk_0, rk_1, rk_2, rk_3] <;> omega
theorem rk_4 (R : Nat → Int32) {o : Nat} (ho : o < 4) : rkN R o ≤ 4 := by
  have b := fun (a c : Nat) => bN_1 (ahd R (nI a) (nI c))
  rcases (by omega : o = 0 ∨ o = 1 ∨ o = 2 ∨ o = 3) with e | e | e | e <;> subst e
  · rw [rk_0]; have := b 1 0; have := b 2 0; have := b 3 0; omega
  · rw [rk_1]; have := b 0 1; have := b 2 1; have := b 3 1; omega
  · rw [rk_2]; have := b 0 2; have := b 1 2; have := b 3 2; omega
  · rw [rk_3]; have := b 0 3; have := b 1 3; have := b 2 3; omega
theorem rank_one {R : Nat → Int32} (hR : ∀ c, c < 32 → rg (R (8 + c))) {o t : Nat} (ho : o < 4) (ht : t < 4) (h : ral R o 4 0 0 = ral R t 4 0 0) : o = t := by
  rw [ral_N ho, ral_N ht] at h
  have h2 := nI_is h (by have := rk_4 R ho; omega) (by have := rk_4 R ht; omega)
  by_cases z : o = t
  · exact z
  · rcases ahd_one hR ho ht z with w | w
    · have := rank_lt hR ho ht w.1 w.2; omega
    · have := rank_lt hR ht ho w.1 w.2; omega
