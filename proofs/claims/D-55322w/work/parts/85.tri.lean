/-! the SpanRuler changes: the two sides -/
set_option maxRecDepth 100000
/-! the model's state in a change: all but the ruler and the last ints as mTries left it -/
theorem cpl_A {k1 o1 k2 o2 : Nat} (h : k1 ≠ k2 ∨ o1 < o2) (n c : Nat) (t : MS) (i : Nat) : (cpl k1 o1 k2 o2 n c t).A i = if i = k1 then (fun q => if o1 + c ≤ q ∧ q < o1 + c + n then t.A k2 (o2 + (q - o1)) else t.A k1 q) else t.A i := by
  rw [cpl_eq h, mF_A]
theorem mKeeps_A {t : MS} {i : Nat} (h : i ≠ 3) : (mKeeps t).A i = t.A i := by
  unfold mKeeps
  by_cases e : mU t = 6
  · rw [if_pos e, mI_A, cpl_A (Or.inl (by decide)), if_neg h, mI_A, cpl_A (Or.inr (by decide)), if_neg h]
  · rw [if_neg e, mI_A, cpl_A (Or.inl (by decide)), if_neg h]
theorem mKeeps_I {t : MS} {i : Nat} (h : i ≠ 4) : (mKeeps t).I i = t.I i := by
  unfold mKeeps
  by_cases e : mU t = 6
  · rw [if_pos e, mI_I, upd_ne h, cpl_I, mI_I, upd_ne h, cpl_I]
  · rw [if_neg e, mI_I, upd_ne h, cpl_I]
theorem mKeeps_4 {t : MS} : (mKeeps t).I 4 = nI (if mU t = 6 then 6 else mU t + 1) := by
  unfold mKeeps
  by_cases e : mU t = 6
  · rw [if_pos e, if_pos e, mI_I, upd_at]
  · rw [if_neg e, if_neg e, mI_I, upd_at]
def Tri (s t : MS) : Prop := (∀ q, q < 442 → s.A 0 q = t.A 1 q) ∧ (t.A 3 = s.A 3 ∧ t.A 5 = s.A 5 ∧ t.A 7 = s.A 7 ∧ t.A 9 = s.A 9) ∧ ∀ i, i < 17 → t.I i = s.I i
theorem Tri.tries (s : MS) : Tri s (mTries s) := by
  refine ⟨fun q hq => ?_, ⟨mTries_A s (by decide), mTries_A s (by decide), mTries_A s (by decide), mTries_A s (by decide)⟩, fun i hi => by rw [mTries_I, upd_ne (by omega)]⟩
  rw [mTries, cpl_A (Or.inl (by decide)), if_pos rfl]
  show _ = if 0 + 0 ≤ q ∧ q < 0 + 0 + 442 then _ else _
  rw [if_pos (by omega), Nat.zero_add, Nat.sub_zero, mI_A]
theorem Tri.of {s t u : MS} (T : Tri s t) (hA : ∀ i, i ≠ 0 → u.A i = t.A i) (hI : ∀ i, i < 17 → u.I i = t.I i) : Tri s u := by
  obtain ⟨t1, ⟨t2, t3, t4, t5⟩, t6⟩ := T
  refine ⟨fun q hq => by rw [hA 1 (by decide)]; exact t1 q hq, ⟨?_, ?_, ?_, ?_⟩, fun i hi => (hI i hi).trans (t6 i hi)⟩
  · rw [hA 3 (by decide)]; exact t2
  · rw [hA 5 (by decide)]; exact t3
  · rw [hA 7 (by decide)]; exact t4
  · rw [hA 9 (by decide)]; exact t5
theorem mA_0 {t : MS} {q : Nat} {v : Int32} {i : Nat} (h : i ≠ 0) : (mA t 0 q v).A i = t.A i := by rw [mA_A, if_neg h]
theorem Tri.mA {s t : MS} (T : Tri s t) {q : Nat} {v : Int32} : Tri s (mA t 0 q v) := T.of (fun i hi => mA_0 hi) (fun i _ => rfl)
theorem Tri.mI {s t : MS} (T : Tri s t) {k : Nat} {v : Int32} (h : 17 ≤ k) : Tri s (mI t k v) := T.of (fun i hi => rfl) (fun i hi => upd_ne (by omega))
theorem Tri.acts {s t : MS} (T : Tri s t) {k x : Int32} {n c : Nat} : Tri s (mActs k x n c t) := by
  unfold mActs
  exact Tri.mA (T.of (fun i hi => acl_A k x n c t i hi) (fun i _ => by rw [acl_I]))
theorem Bec.keeps {s t : MS} {R : Nat → Int32} (T : Tri s t) (hu : mUo s) (e : ∀ q, q < 442 → R q = t.A 0 q) : Bec s R (mKeeps t) := by
  obtain ⟨t1, ⟨t2, t3, t4, t5⟩, t6⟩ := T
  have u6 := hu.2
  have eu : mU t = mU s := by unfold mU; rw [t6 4 (by omega)]
  have e4 : mU (mKeeps t) = if mU s = 6 then 6 else mU s + 1 := by
    show nn ((mKeeps t).I 4) = _
    rw [mKeeps_4, eu]
    by_cases c : mU s = 6
    · rw [if_pos c]; rfl
    · rw [if_neg c, nn_nI (by omega)]
  refine ⟨fun q hq => by rw [mKeeps_A (by decide)]; exact e q hq, ⟨e4, by rw [mKeeps_4, eu, e4]⟩, fun k hk q hq => ?_, fun q hq => ?_, fun q hq => by rw [mKeeps_A (by decide), t3], ?_, ?_, ?_, ?_, ?_, ?_, ?_, ?_⟩
  · rw [e4] at hk
    unfold mKeeps
    rw [eu]
    by_cases c : mU s = 6
    · rw [if_pos c] at hk ⊢
      rw [if_pos c, mI_A, cpl_A (Or.inl (by decide)), if_pos rfl]
      show _ = if 2210 + 0 ≤ 442 * k + q ∧ 442 * k + q < 2210 + 0 + 442 then _ else _
      rw [if_neg (by omega), mI_A, cpl_A (Or.inr (by decide)), if_pos rfl]
      show _ = if 0 + 0 ≤ 442 * k + q ∧ 442 * k + q < 0 + 0 + 2210 then _ else _
      rw [if_pos (by omega), t2]
      congr 1; omega
    · rw [if_neg c] at hk ⊢
      rw [if_neg c, mI_A, cpl_A (Or.inl (by decide)), if_pos rfl]
      show _ = if 442 * mU s + 0 ≤ 442 * k + q ∧ 442 * k + q < 442 * mU s + 0 + 442 then _ else _
      rw [if_neg (by have : k + 1 ≤ mU s := by omega
                     have := Nat.mul_le_mul_left 442 this
                     omega), t2]
  · rw [e4]
    unfold mKeeps
    rw [eu]
    by_cases c : mU s = 6
    · rw [if_pos c, if_pos c, mI_A, cpl_A (Or.inl (by decide)), if_pos rfl]
      show _ = if 2210 + 0 ≤ 442 * (6 - 1) + q ∧ 442 * (6 - 1) + q < 2210 + 0 + 442 then _ else _
      rw [if_pos (by omega), mI_A, cpl_A (Or.inr (by decide)), if_neg (by decide), t1 q hq]
      congr 1; omega
    · rw [if_neg c, if_neg c, mI_A, cpl_A (Or.inl (by decide)), if_pos rfl]
      show _ = if 442 * mU s + 0 ≤ 442 * (mU s + 1 - 1) + q ∧ 442 * (mU s + 1 - 1) + q < 442 * mU s + 0 + 442 then _ else _
      rw [Nat.add_sub_cancel, if_pos (by omega), t1 q hq]
      congr 1; omega
  · rw [mKeeps_I (by decide), t6 6 (by omega)]
  · rw [mKeeps_I (by decide), t6 8 (by omega)]
  · rw [mKeeps_A (by decide), t4]
  · rw [mKeeps_I (by decide), t6 10 (by omega)]
  · rw [mKeeps_A (by decide), t5]
  · rw [mKeeps_I (by decide), t6 14 (by omega)]
  · rw [mKeeps_I (by decide), t6 15 (by omega)]
  · rw [mKeeps_I (by decide), t6 16 (by omega)]
/-- an act on a span: both sides -/
theorem act_eq {s : MS} {k x : Int32} {i j : Nat} (hij : i ≤ j) (hj : j < 32) (t : MS) (h : t.A 0 = s.A 0) (q : Nat) : rAct k x i j (s.A 0) q = (mActs k x (j + 1 - i) i t).A 0 q := by
  unfold rAct
  by_cases c : 8 + i ≤ q ∧ q ≤ 8 + j
  · rw [if_pos c]
    unfold mActs
    rw [mA_A, if_pos rfl, upd_ne (by omega), acl_in k x _ _ _ _ (by omega) (by omega), h]
  · rw [if_neg c]
    by_cases c6 : q = 6
    · subst c6
      rw [if_pos rfl]; unfold mActs
      rw [mA_A, if_pos rfl, upd_at, acl_off k x _ _ _ _ (by omega), h]
    · rw [if_neg c6, mActs_off c6 (by omega), h]
theorem TkOk.of {R S : Nat → Int32} (x : TkOk R) (n : rN S = rN R) (e : ∀ q, 72 ≤ q → S q = R q) : TkOk S := fun p hp => by
  rw [n] at hp; rw [e _ (by omega)]; exact x p hp
theorem SPost.ends {G : GE} {x : Nat} {ex : Int32 → String} {h : AH} {v : Int32} {s' : MS} (S : SRAt G h x s') (z : s'.I 20 = 0) : SPost G x ex (v, s') (.inl (some (.int v))) h := ⟨S, Or.inl ⟨z, rfl⟩⟩
