/-! Integer.stringSize and getChars -/
set_option maxRecDepth 100000
theorem ng_lt : ∀ m : Nat, m < 1000 → ((-10 : Int32) < -nI m ↔ m < 10) ∧ ((-100 : Int32) < -nI m ↔ m < 100) ∧ ((-1000 : Int32) < -nI m ↔ m < 1000) ∧ (-nI m ≤ (-100 : Int32) ↔ 100 ≤ m) ∧ ((-9 : Int32) ≤ -nI m ↔ m ≤ 9) := by
  have : ∀ m : Nat, m < 1000 → (decide (((-10 : Int32) < -nI m ↔ m < 10) ∧ ((-100 : Int32) < -nI m ↔ m < 100) ∧ ((-1000 : Int32) < -nI m ↔ m < 1000) ∧ (-nI m ≤ (-100 : Int32) ↔ 100 ≤ m) ∧ ((-9 : Int32) ≤ -nI m ↔ m ≤ 9))) = true := by decide +kernel
  intro m hm
  exact of_decide_eq_true (this m hm)
/-- the number and its magnitude -/
theorem mab_v {v : Int32} (h : inR v (-999) 999 = true) : mab v ≤ 999 ∧ (if 0 ≤ v then v = nI (mab v) else v = -nI (mab v)) := by
  obtain ⟨h1, h2⟩ := mab_n h
  refine ⟨h2, ?_⟩
  split
  · rename_i c; rw [if_pos c] at h1; exact h1
  · rename_i c
    rw [if_neg c] at h1
    rw [← h1]
    simp
def dgs (m : Nat) : Nat := if m < 10 then 1 else if m < 100 then 2 else 3
