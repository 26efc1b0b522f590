/-! the tree of spans: what is said of it -/
set_option maxRecDepth 100000
/-- a number in its range; a factor of an act -/
def rg (x : Int32) : Prop := inR x (-999) 999 = true
def fac (f : Int32) : Prop := f = 0 ∨ f = 1 ∨ f = -1
def sz : Nat → Nat
  | 0 => 1
  | d + 1 => sz d + sz d
theorem sz_pos : ∀ d, 0 < sz d
  | 0 => Nat.zero_lt_one
  | d + 1 => Nat.add_pos_left (sz_pos d) _
def tsum (v : Nat → Int32) : Nat → Nat → Int32
  | 0, _ => 0
  | n + 1, lo => v lo + tsum v n (lo + 1)
theorem tsum_congr {v w : Nat → Int32} : ∀ (n lo : Nat), (∀ c, lo ≤ c → c < lo + n → v c = w c) → tsum v n lo = tsum w n lo := by
  intro n
  induction n with
  | zero => intro lo _; rfl
  | succ n ih =>
    intro lo h
    show v lo + tsum v n (lo + 1) = w lo + tsum w n (lo + 1)
    rw [h lo (Nat.le_refl _) (by omega), ih (lo + 1) (fun c h1 h2 => h c (by omega) (by omega))]
theorem tsum_add (v : Nat → Int32) : ∀ (n m lo : Nat), tsum v (n + m) lo = tsum v n lo + tsum v m (lo + n) := by
  intro n
  induction n with
  | zero => intro m lo; rw [Nat.zero_add, Nat.add_zero]; show _ = 0 + _; rw [Int32.zero_add]
  | succ n ih =>
    intro m lo
    rw [show n + 1 + m = (n + m) + 1 from by omega]
    show v lo + tsum v (n + m) (lo + 1) = (v lo + tsum v n (lo + 1)) + _
    rw [ih m (lo + 1), Int32.add_assoc, show lo + 1 + n = lo + (n + 1) from by omega]
theorem tsum_act (v : Nat → Int32) (f s : Int32) : ∀ (n lo : Nat), tsum (fun c => f * v c + s) n lo = f * tsum v n lo + s * nI n := by
  intro n
  induction n with
  | zero => intro lo; show (0 : Int32) = f * 0 + s * nI 0; rw [nI_0]; simp
  | succ n ih =>
    intro lo
    show f * v lo + s + tsum (fun c => f * v c + s) n (lo + 1) = f * (v lo + tsum v n (lo + 1)) + s * nI (n + 1)
    rw [ih (lo + 1), nI_succ, Int32.mul_add, Int32.mul_add, Int32.mul_one]
    generalize f * v lo = a
    generalize f * tsum v n (lo + 1) = b
    generalize s * nI n = c
    rw [Int32.add_assoc, Int32.add_assoc, ← Int32.add_assoc s b c, Int32.add_comm s b, Int32.add_assoc b s c, Int32.add_comm s c]
theorem tsum_zero {v : Nat → Int32} : ∀ (n lo : Nat), (∀ c, lo ≤ c → c < lo + n → v c = 0) → tsum v n lo = 0 := by
  intro n
  induction n with
  | zero => intro lo _; rfl
  | succ n ih =>
    intro lo h
    show v lo + tsum v n (lo + 1) = 0
    rw [h lo (Nat.le_refl _) (by omega), ih (lo + 1) (fun c h1 h2 => h c (by omega) (by omega)), Int32.zero_add]
/-- the greatest, the least of some cells -/
def Mx (v : Nat → Int32) (lo n : Nat) (g : Int32) : Prop := (∀ c, lo ≤ c → c < lo + n → v c ≤ g) ∧ ∃ c, lo ≤ c ∧ c < lo + n ∧ v c = g
def Mn (v : Nat → Int32) (lo n : Nat) (g : Int32) : Prop := (∀ c, lo ≤ c → c < lo + n → g ≤ v c) ∧ ∃ c, lo ≤ c ∧ c < lo + n ∧ v c = g
theorem rg_int {x : Int32} (h : rg x) : -999 ≤ x.toInt ∧ x.toInt ≤ 999 := by
  obtain ⟨h1, h2⟩ := inR_i.mp h
  rw [Int32.le_iff_toInt_le] at h1 h2
  exact ⟨h1, h2⟩
theorem rg_of {x : Int32} (h1 : -999 ≤ x.toInt) (h2 : x.toInt ≤ 999) : rg x := inR_i.mpr ⟨by rw [Int32.le_iff_toInt_le]; exact h1, by rw [Int32.le_iff_toInt_le]; exact h2⟩
theorem rg_sub {a b : Int32} (ha : rg a) (hb : rg b) : (a - b).toInt = a.toInt - b.toInt := by
  have h1 := rg_int ha
  have h2 := rg_int hb
  rw [Int32.toInt_sub, Int.bmod_eq_of_le (by omega) (by omega)]
theorem rg_neg {a : Int32} (ha : rg a) : (-a).toInt = -a.toInt := by
  have h1 := rg_int ha
  rw [Int32.toInt_neg, Int.bmod_eq_of_le (by omega) (by omega)]
theorem i32_ms (a b s : Int32) : (a + s) - (b + s) = a - b := by grind
theorem sh_int {x y s : Int32} (hx : rg x) (hy : rg y) (hxs : rg (x + s)) (hys : rg (y + s)) : (x + s).toInt - (y + s).toInt = x.toInt - y.toInt := by
  rw [← rg_sub hxs hys, ← rg_sub hx hy, i32_ms]
theorem act_mono {f s x y : Int32} (hf : f = 0 ∨ f = 1) (hx : rg x) (hy : rg y) (hxs : rg (f * x + s)) (hys : rg (f * y + s)) (h : x ≤ y) : f * x + s ≤ f * y + s := by
  rcases hf with e | e
  · subst e; rw [Int32.zero_mul, Int32.zero_mul]; exact Int32.le_refl _
  · subst e
    rw [Int32.one_mul] at hxs hys ⊢
    rw [Int32.one_mul]
    have := sh_int hx hy hxs hys
    rw [Int32.le_iff_toInt_le] at h ⊢
    omega
theorem rg_negr {a : Int32} (ha : rg a) : rg (-a) := by
  have h1 := rg_int ha
  have h2 := rg_neg ha
  exact rg_of (by omega) (by omega)
theorem m1_mul (x : Int32) : -1 * x = -x := by rw [Int32.neg_mul, Int32.one_mul]
theorem act_anti {s x y : Int32} (hx : rg x) (hy : rg y) (hxs : rg (-1 * x + s)) (hys : rg (-1 * y + s)) (h : x ≤ y) : -1 * y + s ≤ -1 * x + s := by
  rw [m1_mul] at hxs hys
  rw [m1_mul, m1_mul]
  have := sh_int (rg_negr hx) (rg_negr hy) hxs hys
  have h1 := rg_neg hx
  have h2 := rg_neg hy
  rw [Int32.le_iff_toInt_le] at h ⊢
  omega
/-- the greatest and the least behind an act -/
theorem act_mx {v : Nat → Int32} {lo n : Nat} {g m f s : Int32} (hf : fac f) (hv : ∀ c, lo ≤ c → c < lo + n → rg (v c)) (hw : ∀ c, lo ≤ c → c < lo + n → rg (f * v c + s)) (hg : Mx v lo n g) (hm : Mn v lo n m) :
    Mx (fun c => f * v c + s) lo n (f * (if f < 0 then m else g) + s) ∧ Mn (fun c => f * v c + s) lo n (f * (if f < 0 then g else m) + s) := by
  obtain ⟨g1, cg, g2, g3, g4⟩ := hg
  obtain ⟨m1, cm, m2, m3, m4⟩ := hm
  subst g4 m4
  have two : (f = 0 ∨ f = 1) ∨ f = -1 := by
    rcases hf with e | e | e
    · exact Or.inl (Or.inl e)
    · exact Or.inl (Or.inr e)
    · exact Or.inr e
  rcases two with e | e
  · have n0 : ¬ f < 0 := by rcases e with e | e <;> subst e <;> decide
    rw [if_neg n0, if_neg n0]
    exact ⟨⟨fun c a b => act_mono e (hv c a b) (hv cg g2 g3) (hw c a b) (hw cg g2 g3) (g1 c a b), cg, g2, g3, rfl⟩, ⟨fun c a b => act_mono e (hv cm m2 m3) (hv c a b) (hw cm m2 m3) (hw c a b) (m1 c a b), cm, m2, m3, rfl⟩⟩
  · subst e
    rw [if_pos (by decide), if_pos (by decide)]
    exact ⟨⟨fun c a b => act_anti (hv cm m2 m3) (hv c a b) (hw cm m2 m3) (hw c a b) (m1 c a b), cm, m2, m3, rfl⟩, ⟨fun c a b => act_anti (hv c a b) (hv cg g2 g3) (hw c a b) (hw cg g2 g3) (g1 c a b), cg, g2, g3, rfl⟩⟩
theorem fac_mul {f g : Int32} (hf : fac f) (hg : fac g) : fac (f * g) := by
  rcases hf with e | e | e <;> rcases hg with z | z | z <;> subst e <;> subst z <;> first | exact Or.inl rfl | exact Or.inr (Or.inl rfl) | exact Or.inr (Or.inr rfl)
theorem act_then (f s f' s' x : Int32) : f' * (f * x + s) + s' = f * f' * x + (s * f' + s') := by
  rw [Int32.mul_add, Int32.add_assoc, Int32.mul_comm f f', Int32.mul_assoc, Int32.mul_comm s f']
theorem Mx.join {v : Nat → Int32} {lo n k : Nat} {a b : Int32} (h1 : Mx v lo n a) (h2 : Mx v (lo + n) k b) : Mx v lo (n + k) (if a < b then b else a) := by
  obtain ⟨g1, cg, g2, g3, g4⟩ := h1
  obtain ⟨m1, cm, m2, m3, m4⟩ := h2
  split
  · rename_i c
    refine ⟨fun q q1 q2 => ?_, cm, by omega, by omega, m4⟩
    by_cases z : q < lo + n
    · exact Int32.le_trans (g1 q q1 z) (Int32.le_of_lt c)
    · exact m1 q (by omega) (by omega)
  · rename_i c
    refine ⟨fun q q1 q2 => ?_, cg, by omega, by omega, g4⟩
    by_cases z : q < lo + n
    · exact g1 q q1 z
    · exact Int32.le_trans (m1 q (by omega) (by omega)) (Int32.not_lt.mp c)
theorem Mn.join {v : Nat → Int32} {lo n k : Nat} {a b : Int32} (h1 : Mn v lo n a) (h2 : Mn v (lo + n) k b) : Mn v lo (n + k) (if b < a then b else a) := by
  obtain ⟨g1, cg, g2, g3, g4⟩ := h1
  obtain ⟨m1, cm, m2, m3, m4⟩ := h2
  split
  · rename_i c
    refine ⟨fun q q1 q2 => ?_, cm, by omega, by omega, m4⟩
    by_cases z : q < lo + n
    · exact Int32.le_trans (Int32.le_of_lt c) (g1 q q1 z)
    · exact m1 q (by omega) (by omega)
  · rename_i c
    refine ⟨fun q q1 q2 => ?_, cg, by omega, by omega, g4⟩
    by_cases z : q < lo + n
    · exact g1 q q1 z
    · exact Int32.le_trans (Int32.not_lt.mp c) (m1 q (by omega) (by omega))
theorem Mx.congr {v w : Nat → Int32} {lo n : Nat} {g : Int32} (h : Mx v lo n g) (e : ∀ c, lo ≤ c → c < lo + n → v c = w c) : Mx w lo n g := by
  obtain ⟨g1, cg, g2, g3, g4⟩ := h
  exact ⟨fun c a b => by rw [← e c a b]; exact g1 c a b, cg, g2, g3, by rw [← e cg g2 g3]; exact g4⟩
theorem Mn.congr {v w : Nat → Int32} {lo n : Nat} {g : Int32} (h : Mn v lo n g) (e : ∀ c, lo ≤ c → c < lo + n → v c = w c) : Mn w lo n g := by
  obtain ⟨g1, cg, g2, g3, g4⟩ := h
  exact ⟨fun c a b => by rw [← e c a b]; exact g1 c a b, cg, g2, g3, by rw [← e cg g2 g3]; exact g4⟩
theorem Mx.one {v : Nat → Int32} {lo : Nat} : Mx v lo 1 (v lo) := ⟨fun c a b => by rw [show c = lo by omega]; exact Int32.le_refl _, lo, Nat.le_refl _, by omega, rfl⟩
theorem Mn.one {v : Nat → Int32} {lo : Nat} : Mn v lo 1 (v lo) := ⟨fun c a b => by rw [show c = lo by omega]; exact Int32.le_refl _, lo, Nat.le_refl _, by omega, rfl⟩
/-- the greatest of the cells of a span that are below a node -/
def Gt (v : Nat → Int32) (lo n i j : Nat) (g : Int32) : Prop := (∀ c, lo ≤ c → c < lo + n → i ≤ c → c ≤ j → v c ≤ g) ∧ ((∃ c, lo ≤ c ∧ c < lo + n ∧ i ≤ c ∧ c ≤ j ∧ v c = g) ∨ (g = -1000 ∧ ∀ c, lo ≤ c → c < lo + n → i ≤ c → c ≤ j → False))
def Lt (v : Nat → Int32) (lo n i j : Nat) (g : Int32) : Prop := (∀ c, lo ≤ c → c < lo + n → i ≤ c → c ≤ j → g ≤ v c) ∧ ((∃ c, lo ≤ c ∧ c < lo + n ∧ i ≤ c ∧ c ≤ j ∧ v c = g) ∨ (g = 1000 ∧ ∀ c, lo ≤ c → c < lo + n → i ≤ c → c ≤ j → False))
theorem rg_lo {x : Int32} (h : rg x) : -1000 ≤ x := by
  have := rg_int h
  rw [Int32.le_iff_toInt_le]
  have e : ((-1000 : Int32)).toInt = -1000 := rfl
  omega
theorem rg_hi {x : Int32} (h : rg x) : x ≤ 1000 := by
  have := rg_int h
  rw [Int32.le_iff_toInt_le]
  have e : ((1000 : Int32)).toInt = 1000 := rfl
  omega
theorem Gt.join {v : Nat → Int32} {lo n k i j : Nat} {a b : Int32} (hr : ∀ c, lo ≤ c → c < lo + (n + k) → rg (v c)) (h1 : Gt v lo n i j a) (h2 : Gt v (lo + n) k i j b) : Gt v lo (n + k) i j (if a < b then b else a) := by
  obtain ⟨g1, g2⟩ := h1
  obtain ⟨m1, m2⟩ := h2
  have up : ∀ c, lo ≤ c → c < lo + (n + k) → i ≤ c → c ≤ j → v c ≤ (if a < b then b else a) := by
    intro q q1 q2 q3 q4
    split
    · rename_i c
      by_cases z : q < lo + n
      · exact Int32.le_trans (g1 q q1 z q3 q4) (Int32.le_of_lt c)
      · exact m1 q (by omega) (by omega) q3 q4
    · rename_i c
      by_cases z : q < lo + n
      · exact g1 q q1 z q3 q4
      · exact Int32.le_trans (m1 q (by omega) (by omega) q3 q4) (Int32.not_lt.mp c)
  refine ⟨up, ?_⟩
  rcases g2 with ⟨c1, q1, q2, q3, q4, q5⟩ | ⟨ea, na⟩
  · rcases m2 with ⟨c2, z1, z2, z3, z4, z5⟩ | ⟨eb, nb⟩
    · refine Or.inl ?_
      split
      · exact ⟨c2, by omega, by omega, z3, z4, z5⟩
      · exact ⟨c1, by omega, by omega, q3, q4, q5⟩
    · refine Or.inl ⟨c1, by omega, by omega, q3, q4, ?_⟩
      rw [if_neg (by rw [eb]; exact Int32.not_lt.mpr (by rw [← q5]; exact rg_lo (hr c1 q1 (by omega))))]
      exact q5
  · rcases m2 with ⟨c2, z1, z2, z3, z4, z5⟩ | ⟨eb, nb⟩
    · refine Or.inl ⟨c2, by omega, by omega, z3, z4, ?_⟩
      have hb : -1000 ≤ b := by rw [← z5]; exact rg_lo (hr c2 (by omega) (by omega))
      split
      · exact z5
      · rename_i c
        rw [z5, ea] at *
        exact Int32.le_antisymm (Int32.not_lt.mp c) hb
    · refine Or.inr ⟨by rw [ea, eb]; rfl, fun q q1 q2 q3 q4 => ?_⟩
      by_cases z : q < lo + n
      · exact na q q1 z q3 q4
      · exact nb q (by omega) (by omega) q3 q4
theorem Lt.join {v : Nat → Int32} {lo n k i j : Nat} {a b : Int32} (hr : ∀ c, lo ≤ c → c < lo + (n + k) → rg (v c)) (h1 : Lt v lo n i j a) (h2 : Lt v (lo + n) k i j b) : Lt v lo (n + k) i j (if b < a then b else a) := by
  obtain ⟨g1, g2⟩ := h1
  obtain ⟨m1, m2⟩ := h2
  have up : ∀ c, lo ≤ c → c < lo + (n + k) → i ≤ c → c ≤ j → (if b < a then b else a) ≤ v c := by
    intro q q1 q2 q3 q4
    split
    · rename_i c
      by_cases z : q < lo + n
      · exact Int32.le_trans (Int32.le_of_lt c) (g1 q q1 z q3 q4)
      · exact m1 q (by omega) (by omega) q3 q4
    · rename_i c
      by_cases z : q < lo + n
      · exact g1 q q1 z q3 q4
      · exact Int32.le_trans (Int32.not_lt.mp c) (m1 q (by omega) (by omega) q3 q4)
  refine ⟨up, ?_⟩
  rcases g2 with ⟨c1, q1, q2, q3, q4, q5⟩ | ⟨ea, na⟩
  · rcases m2 with ⟨c2, z1, z2, z3, z4, z5⟩ | ⟨eb, nb⟩
    · refine Or.inl ?_
      split
      · exact ⟨c2, by omega, by omega, z3, z4, z5⟩
      · exact ⟨c1, by omega, by omega, q3, q4, q5⟩
    · refine Or.inl ⟨c1, by omega, by omega, q3, q4, ?_⟩
      rw [if_neg (by rw [eb]; exact Int32.not_lt.mpr (by rw [← q5]; exact rg_hi (hr c1 q1 (by omega))))]
      exact q5
  · rcases m2 with ⟨c2, z1, z2, z3, z4, z5⟩ | ⟨eb, nb⟩
    · refine Or.inl ⟨c2, by omega, by omega, z3, z4, ?_⟩
      have hb : b ≤ 1000 := by rw [← z5]; exact rg_hi (hr c2 (by omega) (by omega))
      split
      · exact z5
      · rename_i c
        rw [z5, ea] at *
        exact Int32.le_antisymm hb (Int32.not_lt.mp c)
    · refine Or.inr ⟨by rw [ea, eb]; rfl, fun q q1 q2 q3 q4 => ?_⟩
      by_cases z : q < lo + n
      · exact na q q1 z q3 q4
      · exact nb q (by omega) (by omega) q3 q4
/-! the tree in the heap -/
def isNd (lo n : Nat) (e : va_E) : Prop := ∃ (ci i j : Nat) (fs : List Value), e = ob ci (.int (nI i) :: .int (nI j) :: fs) ∧ (ci = 2 ∨ ci = 3) ∧ lo ≤ i ∧ i ≤ j ∧ j < lo + n ∧ j < 32
/-- only nodes of P with spans in lo .. lo + n - 1 change -/
def Chg (P : Nat → Prop) (lo n : Nat) (h h' : AH) : Prop := ∀ q e, h q = some e → ¬ (P q ∧ isNd lo n e) → h' q = some e
def TNode (h : AH) (P : Nat → Prop) (v : Nat → Int32) (lo k a l r t : Nat) (f s g m : Int32) (w : Nat → Int32) : Prop :=
  P a ∧ h a = some (ob 3 [.int (nI lo), .int (nI (lo + (k + k) - 1)), .int (tsum v (k + k) lo), .int g, .int m, .ref l, .ref r, .ref t]) ∧ Mx v lo (k + k) g ∧ Mn v lo (k + k) m ∧ h t = some (ob 4 [.int f, .int s]) ∧ fac f ∧
  (∀ c, lo ≤ c → c < lo + (k + k) → v c = f * w c + s) ∧ ∀ c, lo ≤ c → c < lo + (k + k) → rg (v c)
def TreeAt (h : AH) (P : Nat → Prop) : Nat → (Nat → Int32) → Nat → Nat → Prop
  | 0, v, lo, a => P a ∧ rg (v lo) ∧ h a = some (ob 2 [.int (nI lo), .int (nI lo), .int (v lo), .int (v lo), .int (v lo)])
  | d + 1, v, lo, a => ∃ (l r t : Nat) (f s g m : Int32) (w : Nat → Int32), TNode h P v lo (sz d) a l r t f s g m w ∧ TreeAt h P d w lo l ∧ TreeAt h P d w (lo + sz d) r
theorem TreeAt.opn {h : AH} {P : Nat → Prop} {d : Nat} {v : Nat → Int32} {lo a : Nat} (x : TreeAt h P (d + 1) v lo a) : ∃ (l r t : Nat) (f s g m : Int32) (w : Nat → Int32), TNode h P v lo (sz d) a l r t f s g m w ∧ TreeAt h P d w lo l ∧ TreeAt h P d w (lo + sz d) r := x
theorem TreeAt.mk {h : AH} {P : Nat → Prop} {d : Nat} {v : Nat → Int32} {lo a l r t : Nat} {f s g m : Int32} {w : Nat → Int32} (n : TNode h P v lo (sz d) a l r t f s g m w) (x : TreeAt h P d w lo l) (y : TreeAt h P d w (lo + sz d) r) : TreeAt h P (d + 1) v lo a := ⟨l, r, t, f, s, g, m, w, n, x, y⟩
theorem TreeAt.opn0 {h : AH} {P : Nat → Prop} {v : Nat → Int32} {lo a : Nat} (x : TreeAt h P 0 v lo a) : P a ∧ rg (v lo) ∧ h a = some (ob 2 [.int (nI lo), .int (nI lo), .int (v lo), .int (v lo), .int (v lo)]) := x
theorem TreeAt.rng {h : AH} {P : Nat → Prop} {d : Nat} {v : Nat → Int32} {lo a : Nat} (x : TreeAt h P d v lo a) : ∀ c, lo ≤ c → c < lo + sz d → rg (v c) := by
  intro c h1 h2
  cases d with
  | zero =>
    have e : c = lo := by simp only [sz] at h2; omega
    subst e; exact x.2.1
  | succ d =>
    obtain ⟨l, r, t, f, s, g, m, w, n, -⟩ := x
    exact n.2.2.2.2.2.2.2 c h1 h2
theorem TreeAt.p {h : AH} {P : Nat → Prop} {d : Nat} {v : Nat → Int32} {lo a : Nat} (x : TreeAt h P d v lo a) : P a := by
  cases d with
  | zero => exact x.1
  | succ d =>
    obtain ⟨l, r, t, f, s, g, m, w, n, -⟩ := x
    exact n.1
theorem TreeAt.congr {h : AH} {P : Nat → Prop} {d : Nat} {v v1 : Nat → Int32} {lo a : Nat} (x : TreeAt h P d v lo a) (e : ∀ c, lo ≤ c → c < lo + sz d → v c = v1 c) : TreeAt h P d v1 lo a := by
  cases d with
  | zero =>
    have e1 := e lo (Nat.le_refl _) (by simp only [sz]; omega)
    obtain ⟨h1, h2, h3⟩ := x
    rw [e1] at h2 h3
    exact ⟨h1, h2, h3⟩
  | succ d =>
    obtain ⟨l, r, t, f, s, g, m, w, ⟨n1, n2, n3, n4, n5, n6, n7, n8⟩, h2, h3⟩ := x
    have e' : ∀ c, lo ≤ c → c < lo + (sz d + sz d) → v c = v1 c := e
    refine ⟨l, r, t, f, s, g, m, w, ⟨n1, ?_, n3.congr e', n4.congr e', n5, n6, fun c a b => ?_, fun c a b => ?_⟩, h2, h3⟩
    · rw [← tsum_congr _ _ e']; exact n2
    · rw [← e' c a b]; exact n7 c a b
    · rw [← e' c a b]; exact n8 c a b
theorem TreeAt.keep {h h' : AH} {P : Nat → Prop} : ∀ (d : Nat) (v : Nat → Int32) (lo a : Nat), lo + sz d ≤ 32 → TreeAt h P d v lo a → (∀ q e, h q = some e → (P q ∧ isNd lo (sz d) e) ∨ (∃ l, e = ob 4 l) → h' q = some e) → TreeAt h' P d v lo a := by
  intro d
  induction d with
  | zero =>
    intro v lo a hl x k
    obtain ⟨h1, h2, h3⟩ := x
    exact ⟨h1, h2, k a _ h3 (Or.inl ⟨h1, 2, lo, lo, _, rfl, Or.inl rfl, Nat.le_refl _, Nat.le_refl _, by simp only [sz]; omega, by simp only [sz] at hl; omega⟩)⟩
  | succ d ih =>
    intro v lo a hl x k
    obtain ⟨l, r, t, f, s, g, m, w, ⟨n1, n2, n3, n4, n5, n6, n7, n8⟩, h2, h3⟩ := x
    have es : sz (d + 1) = sz d + sz d := rfl
    have sp := sz_pos d
    rw [es] at hl k
    have sub : ∀ lo', lo ≤ lo' → lo' + sz d ≤ lo + (sz d + sz d) → ∀ e, isNd lo' (sz d) e → isNd lo (sz d + sz d) e := by
      rintro lo' q1 q2 e ⟨ci, i, j, fs, z1, z2, z3, z4, z5, z6⟩
      exact ⟨ci, i, j, fs, z1, z2, by omega, z4, by omega, z6⟩
    refine ⟨l, r, t, f, s, g, m, w, ⟨n1, k a _ n2 (Or.inl ⟨n1, 3, lo, _, _, rfl, Or.inr rfl, Nat.le_refl _, by omega, by omega, by omega⟩), n3, n4, k t _ n5 (Or.inr ⟨_, rfl⟩), n6, n7, n8⟩, ih w lo l (by omega) h2 ?_, ih w (lo + sz d) r (by omega) h3 ?_⟩
    · intro q e hq z
      exact k q e hq (z.imp (fun z => ⟨z.1, sub lo (Nat.le_refl _) (by omega) e z.2⟩) id)
    · intro q e hq z
      exact k q e hq (z.imp (fun z => ⟨z.1, sub (lo + sz d) (by omega) (by omega) e z.2⟩) id)
theorem nd_inj {i j i' j' : Nat} {ci ci' : Nat} {fs fs' : List Value} (h : ob ci (.int (nI i) :: .int (nI j) :: fs) = ob ci' (.int (nI i') :: .int (nI j') :: fs')) (h1 : i < 2 ^ 31) (h2 : j < 2 ^ 31) (h3 : i' < 2 ^ 31) (h4 : j' < 2 ^ 31) : i = i' ∧ j = j' := by
  have e := (Prod.mk.inj (Sum.inr.inj h)).2
  obtain ⟨e1, e⟩ := List.cons.inj e
  obtain ⟨e2, -⟩ := List.cons.inj e
  exact ⟨(nI_eq h1 h3).mp (Value.int.inj e1), (nI_eq h2 h4).mp (Value.int.inj e2)⟩
theorem Chg.refl (P : Nat → Prop) (lo n : Nat) (h : AH) : Chg P lo n h h := fun _ _ x _ => x
theorem Chg.trans {P : Nat → Prop} {lo n : Nat} {h h1 h2 : AH} (a : Chg P lo n h h1) (b : Chg P lo n h1 h2) : Chg P lo n h h2 := fun q e x y => b q e (a q e x y) y
theorem Chg.wide {P : Nat → Prop} {lo n lo' n' : Nat} {h h1 : AH} (a : Chg P lo n h h1) (h2 : lo' ≤ lo) (h3 : lo + n ≤ lo' + n') : Chg P lo' n' h h1 := fun q e x y => a q e x (fun z => y ⟨z.1, by
  obtain ⟨ci, i, j, fs, z1, z2, z3, z4, z5, z6⟩ := z.2
  exact ⟨ci, i, j, fs, z1, z2, by omega, z4, by omega, z6⟩⟩)
theorem Chg.new {P : Nat → Prop} {lo n t : Nat} {h : AH} {e : va_E} (ht : h t = none) : Chg P lo n h (up h t e) := fun q e x _ => by
  rw [up_ne (fun z => by subst z; rw [ht] at x; cases x)]; exact x
theorem Chg.put {P : Nat → Prop} {lo n a : Nat} {h : AH} {e0 e : va_E} (ha : h a = some e0) (hp : P a) (hn : isNd lo n e0) : Chg P lo n h (up h a e) := fun q e1 x y => by
  rw [up_ne (fun z => by subst z; rw [ha] at x; cases x; exact y ⟨hp, hn⟩)]; exact x
theorem Chg.other {P : Nat → Prop} {lo n a ci : Nat} {l : List Value} {h h' : AH} (c : Chg P lo n h h') (ha : h a = some (ob ci l)) (hc : ci ≠ 2 ∧ ci ≠ 3) : h' a = some (ob ci l) := c a _ ha (fun z => by
  obtain ⟨ci', i, j, fs, z1, z2, -⟩ := z.2
  have := (Prod.mk.inj (Sum.inr.inj z1)).1
  omega)
theorem Chg.arr {P : Nat → Prop} {lo n a : Nat} {x : ClassId × vp_A} {h h' : AH} (c : Chg P lo n h h') (ha : h a = some (.inl x)) : h' a = some (.inl x) := c a _ ha (fun z => by
  obtain ⟨ci', i, j, fs, z1, -⟩ := z.2
  cases z1)
theorem Chg.node {P : Nat → Prop} {lo n a ci i j : Nat} {l : List Value} {h h' : AH} (c : Chg P lo n h h') (ha : h a = some (ob ci (.int (nI i) :: .int (nI j) :: l))) (hi : i < 32) (hj : j < 32) (ho : ¬ (lo ≤ i ∧ j < lo + n)) : h' a = some (ob ci (.int (nI i) :: .int (nI j) :: l)) := c a _ ha (fun z => by
  obtain ⟨ci', i', j', fs, z1, z2, z3, z4, z5, z6⟩ := z.2
  obtain ⟨e1, e2⟩ := nd_inj z1 (by omega) (by omega) (by omega) (by omega)
  subst e1 e2
  exact ho ⟨z3, z5⟩)
theorem Chg.tree {P P2 : Nat → Prop} {lo n d lo2 a : Nat} {v : Nat → Int32} {h h' : AH} (c : Chg P lo n h h') (x : TreeAt h P2 d v lo2 a) (h32 : lo2 + sz d ≤ 32) (ho : (∀ q, P q → P2 q → False) ∨ lo2 + sz d ≤ lo ∨ lo + n ≤ lo2) : TreeAt h' P2 d v lo2 a := by
  refine TreeAt.keep d v lo2 a h32 x fun q e hq z => c q e hq fun y => ?_
  obtain ⟨y0, ci, i, j, fs, y1, y2, y3, y4, y5, y6⟩ := y
  rcases z with ⟨z0, ci', i', j', fs', z1, z2, z3, z4, z5, z6⟩ | ⟨l, z⟩
  · rw [y1] at z1
    obtain ⟨e1, e2⟩ := nd_inj z1 (by omega) (by omega) (by omega) (by omega)
    subst e1 e2
    rcases ho with ho | ho | ho
    · exact ho q y0 z0
    · omega
    · omega
  · rw [y1] at z
    have := (Prod.mk.inj (Sum.inr.inj z)).1
    omega
theorem TreeAt.upN {h : AH} {P : Nat → Prop} {d lo a t : Nat} {v : Nat → Int32} {e : va_E} (x : TreeAt h P d v lo a) (ht : h t = none) (h32 : lo + sz d ≤ 32) : TreeAt (up h t e) P d v lo a :=
  TreeAt.keep d v lo a h32 x fun q e' hq _ => by rw [up_ne (fun z => by subst z; rw [ht] at hq; cases hq)]; exact hq
theorem TreeAt.upA {h : AH} {P : Nat → Prop} {d lo l a ci i j : Nat} {v : Nat → Int32} {e : va_E} {fs : List Value} (x : TreeAt h P d v lo l) (ha : h a = some (ob ci (.int (nI i) :: .int (nI j) :: fs))) (hc : ci = 2 ∨ ci = 3) (hi : i < 32) (hj : j < 32) (ho : ¬ (lo ≤ i ∧ j < lo + sz d)) (h32 : lo + sz d ≤ 32) : TreeAt (up h a e) P d v lo l :=
  TreeAt.keep d v lo l h32 x fun q e' hq z => by
    rw [up_ne (fun z' => ?_)]; exact hq
    subst z'
    rw [ha] at hq
    cases hq
    rcases z with ⟨-, ci', i', j', fs', z1, z2, z3, z4, z5, z6⟩ | ⟨l, z⟩
    · obtain ⟨e1, e2⟩ := nd_inj z1 (by omega) (by omega) (by omega) (by omega)
      subst e1 e2
      exact ho ⟨z3, z5⟩
    · have := (Prod.mk.inj (Sum.inr.inj z)).1
      omega
theorem TreeAt.mono {h : AH} {P P2 : Nat → Prop} (hp : ∀ q, P q → h q ≠ none → P2 q) : ∀ (d : Nat) (v : Nat → Int32) (lo a : Nat), TreeAt h P d v lo a → TreeAt h P2 d v lo a := by
  intro d
  induction d with
  | zero => intro v lo a x; exact ⟨hp a x.1 (by rw [x.2.2]; exact fun z => by cases z), x.2⟩
  | succ d ih =>
    intro v lo a x
    obtain ⟨l, r, t, f, s, g, m, w, ⟨n1, n2, n3⟩, h2, h3⟩ := x
    exact ⟨l, r, t, f, s, g, m, w, ⟨hp a n1 (by rw [n2]; exact fun z => by cases z), n2, n3⟩, ih _ _ _ h2, ih _ _ _ h3⟩
theorem GM.post {l : Launch} {G : GE} {y : MethodName} {ws : List Cond} {Lv K : Nat} {av : List Value} {h : AH} {P P2 : Out → AH → Prop} (hM : GM l G y ws Lv av h K P) (hp : ∀ o h', P o h' → P2 o h') : GM l G y ws Lv av h K P2 := by
  intro tr sz p e a1 a2 a3 s m args below f1 f2 f3 f4
  obtain ⟨n, o, w1, w2, w3, w4⟩ := hM tr sz p e a1 a2 a3 s m args below f1 f2 f3 f4
  refine ⟨n, o, w1, w2, w3, ?_⟩
  rcases w4 with ⟨⟨v, h', e1, e2, e3⟩, fr⟩ | ⟨q, e0, E, ce, L, ⟨h', e1, e2⟩, rest⟩
  · exact Or.inl ⟨⟨v, h', e1, hp _ _ e2, e3⟩, fr⟩
  · exact Or.inr ⟨q, e0, E, ce, L, ⟨h', hp _ _ e1, e2⟩, rest⟩
theorem recv_leaf {X : GX} {yM : MethodName} {cc : ByteArray} {nL : Nat} {rT : Option FieldType} {hH : List (Nat × Nat × Nat × Nat)} {lV kB : Nat} {hA : AH} (ok : Ok X yM cc nL rT hH lV kB) {P : Nat → Prop} {v : Nat → Int32} {lo a : Nat} (x : TreeAt hA P 0 v lo a) : Recv X hA a "SpanRuler$Leaf" := Recv.ob ok gc_X4 (Rd.h x.2.2)
theorem recv_br {X : GX} {yM : MethodName} {cc : ByteArray} {nL : Nat} {rT : Option FieldType} {hH : List (Nat × Nat × Nat × Nat)} {lV kB : Nat} {hA : AH} (ok : Ok X yM cc nL rT hH lV kB) {P : Nat → Prop} {d : Nat} {v : Nat → Int32} {lo a : Nat} (x : TreeAt hA P (d + 1) v lo a) : Recv X hA a "SpanRuler$Branch" := by
  obtain ⟨l, r, t, f, s, g, m, w, ⟨n1, n2, -⟩, -⟩ := x
  exact Recv.ob ok gc_X6 (Rd.h n2)
def Sm (v : Nat → Int32) (lo n i j : Nat) (g : Int32) : Prop := g = tsum (fun c => if i ≤ c ∧ c ≤ j then v c else 0) n lo
theorem Sm.apart {v : Nat → Int32} {lo n i j : Nat} (h : lo + n - 1 < i ∨ j < lo) : Sm v lo n i j 0 := (tsum_zero _ _ (fun c h1 h2 => if_neg (by omega))).symm
theorem Sm.within {v : Nat → Int32} {lo n i j : Nat} (h1 : i ≤ lo) (h2 : lo + n - 1 ≤ j) : Sm v lo n i j (tsum v n lo) := tsum_congr _ _ (fun c h1 h2 => (if_pos (by omega)).symm)
theorem Sm.join {v : Nat → Int32} {lo n k i j : Nat} {a b : Int32} (h1 : Sm v lo n i j a) (h2 : Sm v (lo + n) k i j b) : Sm v lo (n + k) i j (a + b) := by
  unfold Sm at *
  rw [tsum_add, h1, h2]
theorem Gt.apart {v : Nat → Int32} {lo n i j : Nat} (h : lo + n - 1 < i ∨ j < lo) : Gt v lo n i j (-1000) := ⟨fun c h1 h2 h3 h4 => by omega, Or.inr ⟨rfl, fun c h1 h2 h3 h4 => by omega⟩⟩
theorem Gt.within {v : Nat → Int32} {lo n i j : Nat} {g : Int32} (h1 : i ≤ lo) (h2 : lo + n - 1 ≤ j) (h : Mx v lo n g) : Gt v lo n i j g := by
  obtain ⟨g1, c, g2, g3, g4⟩ := h
  exact ⟨fun c a b _ _ => g1 c a b, Or.inl ⟨c, g2, g3, by omega, by omega, g4⟩⟩
theorem Lt.apart {v : Nat → Int32} {lo n i j : Nat} (h : lo + n - 1 < i ∨ j < lo) : Lt v lo n i j 1000 := ⟨fun c h1 h2 h3 h4 => by omega, Or.inr ⟨rfl, fun c h1 h2 h3 h4 => by omega⟩⟩
theorem Lt.within {v : Nat → Int32} {lo n i j : Nat} {g : Int32} (h1 : i ≤ lo) (h2 : lo + n - 1 ≤ j) (h : Mn v lo n g) : Lt v lo n i j g := by
  obtain ⟨g1, c, g2, g3, g4⟩ := h
  exact ⟨fun c a b _ _ => g1 c a b, Or.inl ⟨c, g2, g3, by omega, by omega, g4⟩⟩
/-- what asking a node costs; what an act costs -/
def cst : Nat → Nat → Nat → Nat → Nat
  | 0, _, _, _ => 0
  | d + 1, lo, i, j => if lo + sz (d + 1) - 1 < i ∨ j < lo then 0 else if i ≤ lo ∧ lo + sz (d + 1) - 1 ≤ j then 3 else 9 + cst d lo i j + cst d (lo + sz d) i j
theorem apart_t {lo n i j : Nat} (h : (decide (nI (lo + n - 1) < nI i) || decide (nI j < nI lo)) = true) (h1 : lo + n < 100) (h2 : i < 100) (h3 : j < 100) : lo + n - 1 < i ∨ j < lo := by
  simp only [Bool.or_eq_true, decide_eq_true_eq] at h
  rw [nI_ltI (by omega) (by omega), nI_ltI (by omega) (by omega)] at h
  exact h
theorem apart_f {lo n i j : Nat} (h : (decide (nI (lo + n - 1) < nI i) || decide (nI j < nI lo)) = false) (h1 : lo + n < 100) (h2 : i < 100) (h3 : j < 100) : ¬ (lo + n - 1 < i ∨ j < lo) := by
  intro z
  rw [← nI_ltI (a := lo + n - 1) (b := i) (by omega) (by omega), ← nI_ltI (a := j) (b := lo) (by omega) (by omega)] at z
  simp only [Bool.or_eq_false_iff, decide_eq_false_iff_not] at h
  exact z.elim h.1 h.2
theorem within_t {lo n i j : Nat} (h : (decide (nI i ≤ nI lo) && decide (nI (lo + n - 1) ≤ nI j)) = true) (h1 : lo + n < 100) (h2 : i < 100) (h3 : j < 100) : i ≤ lo ∧ lo + n - 1 ≤ j := by
  simp only [Bool.and_eq_true, decide_eq_true_eq] at h
  rw [nI_leI (by omega) (by omega), nI_leI (by omega) (by omega)] at h
  exact h
theorem within_f {lo n i j : Nat} (h : (decide (nI i ≤ nI lo) && decide (nI (lo + n - 1) ≤ nI j)) = false) (h1 : lo + n < 100) (h2 : i < 100) (h3 : j < 100) : ¬ (i ≤ lo ∧ lo + n - 1 ≤ j) := by
  intro z
  rw [← nI_leI (a := i) (b := lo) (by omega) (by omega), ← nI_leI (a := lo + n - 1) (b := j) (by omega) (by omega)] at z
  simp only [z.1, z.2, decide_true, Bool.and_self] at h
  cases h
