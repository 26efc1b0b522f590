/-! THE MODEL's object: its ints, its arrays, its word; the picture with it -/
set_option maxRecDepth 100000
theorem dk {a b : Nat} (h : Nat.ble a b = true) : a ≤ b := Nat.le_of_ble_eq_true h
theorem dl {a b : Nat} (h : Nat.ble (a + 1) b = true) : a < b := Nat.le_of_ble_eq_true h
def nmb (y : MethodName) (n : Nat) : Bool := decide (y.cls ≠ "java/lang/invoke/MethodHandle") && decide (y.cls ≠ "java/lang/invoke/VarHandle") && decide ((parseMethodDescriptor y.desc).map (fun d => d.parameters.length) = some n)
theorem nm_ {y : MethodName} {n : Nat} (h : nmb y n = true) : Nm y n := by
  simp only [nmb, Bool.and_eq_true, decide_eq_true_eq] at h
  exact ⟨h.1.1, h.1.2, h.2⟩
abbrev MS : Type := (Nat → Int32) × (Nat → Nat → Int32) × Nat
abbrev MS.I (s : MS) : Nat → Int32 := s.1
abbrev MS.A (s : MS) : Nat → Nat → Int32 := s.2.1
abbrev MS.w (s : MS) : Nat := s.2.2
/-- an int is set; an array's cell; a whole array; the word -/
def mI (s : MS) (k : Nat) (v : Int32) : MS := ⟨upd s.I k v, s.A, s.w⟩
def mA (s : MS) (k j : Nat) (v : Int32) : MS := ⟨s.I, fun q => if q = k then upd (s.A k) j v else s.A q, s.w⟩
def mF (s : MS) (k : Nat) (f : Nat → Int32) : MS := ⟨s.I, fun q => if q = k then f else s.A q, s.w⟩
def mW (s : MS) (w : Nat) : MS := ⟨s.I, s.A, w⟩
theorem mI_I {s : MS} {k i : Nat} {v : Int32} : (mI s k v).I i = upd s.I k v i := rfl
theorem mI_A {s : MS} {k : Nat} {v : Int32} : (mI s k v).A = s.A := rfl
theorem mI_w {s : MS} {k : Nat} {v : Int32} : (mI s k v).w = s.w := rfl
theorem mA_I {s : MS} {k j : Nat} {v : Int32} : (mA s k j v).I = s.I := rfl
theorem mA_A {s : MS} {k j i : Nat} {v : Int32} : (mA s k j v).A i = if i = k then upd (s.A k) j v else s.A i := rfl
theorem mA_w {s : MS} {k j : Nat} {v : Int32} : (mA s k j v).w = s.w := rfl
theorem mF_I {s : MS} {k : Nat} {f : Nat → Int32} : (mF s k f).I = s.I := rfl
theorem mF_A {s : MS} {k i : Nat} {f : Nat → Int32} : (mF s k f).A i = if i = k then f else s.A i := rfl
theorem mF_w {s : MS} {k : Nat} {f : Nat → Int32} : (mF s k f).w = s.w := rfl
theorem mA_F {s : MS} {k j : Nat} {v : Int32} : mA s k j v = mF s k (upd (s.A k) j v) := rfl
theorem mF_F {s : MS} {k : Nat} {f g : Nat → Int32} : mF (mF s k f) k g = mF s k g := by
  refine Prod.ext rfl (Prod.ext (funext fun q => ?_) rfl)
  show (if q = k then g else if q = k then f else s.A q) = if q = k then g else s.A q
  split <;> rfl
theorem mF_at {s : MS} {k : Nat} {f : Nat → Int32} : (mF s k f).A k = f := by rw [mF_A, if_pos rfl]
theorem mF_self {s : MS} {k : Nat} : mF s k (s.A k) = s := by
  refine Prod.ext rfl (Prod.ext (funext fun q => ?_) rfl)
  show (if q = k then s.A k else s.A q) = s.A q
  split
  · rename_i h; rw [h]
  · rfl
def mks : List Nat := [0, 1, 2, 3, 5, 7, 9, 13, 20]
def mlen : Nat → Nat
  | 3 => 2652
  | 7 => 200
  | 9 => 60
  | 13 => 3
  | _ => 442
def mfs (ad : Nat → Nat) (s : MS) : List Value := [.ref (ad 0), .ref (ad 1), .ref (ad 2), .ref (ad 3), .int (s.I 4), .ref (ad 5), .int (s.I 6), .ref (ad 7), .int (s.I 8), .ref (ad 9), .int (s.I 10), .int (s.I 11), .ref s.w, .ref (ad 13), .int (s.I 14), .int (s.I 15), .int (s.I 16), .int (s.I 17), .int (s.I 18), .int (s.I 19), .int (s.I 20)]
def mce (G : GE) (ad : Nat → Nat) (s : MS) : Nat → va_E
  | 20 => ob 5 (mfs ad s)
  | 7 => aC G 200 (s.A 7)
  | 9 => aC G 60 (s.A 9)
  | 3 => aI G 2652 (s.A 3)
  | 13 => aI G 3 (s.A 13)
  | k => aI G 442 (s.A k)
/-- the picture h0 with the model's cells as s says -/
def mput (G : GE) (h0 : AH) (ad : Nat → Nat) (s : MS) : AH := fun q => match mks.find? (fun k => ad k == q) with
  | some k => some (mce G ad s k)
  | none => h0 q
def MAd (ad : Nat → Nat) : Prop := ∀ i ∈ mks, ∀ j ∈ mks, ad i = ad j → i = j
theorem mfind {ad : Nat → Nat} (hA : MAd ad) {k : Nat} (hk : k ∈ mks) : mks.find? (fun j => ad j == ad k) = some k := by
  cases e : mks.find? (fun j => ad j == ad k) with
  | none => rw [List.find?_eq_none] at e; exact absurd (by simp) (e k hk)
  | some j =>
    have h1 := List.find?_some e
    have h2 := List.mem_of_find?_eq_some e
    rw [hA j h2 k hk (by simpa using h1)]
theorem mput_at {G : GE} {h0 : AH} {ad : Nat → Nat} {s : MS} (hA : MAd ad) {k : Nat} (hk : k ∈ mks) : mput G h0 ad s (ad k) = some (mce G ad s k) := by
  simp only [mput, mfind hA hk]
theorem mput_off {G : GE} {h0 : AH} {ad : Nat → Nat} {s : MS} {q : Nat} (hq : ∀ k ∈ mks, ad k ≠ q) : mput G h0 ad s q = h0 q := by
  have e : mks.find? (fun j => ad j == q) = none := List.find?_eq_none.mpr (fun k hk => by simpa using hq k hk)
  simp only [mput, e]
theorem mput_up {G : GE} {h0 : AH} {ad : Nat → Nat} {s s1 : MS} (hA : MAd ad) {k : Nat} {e : va_E} (hk : k ∈ mks) (he : mce G ad s1 k = e) (ho : ∀ j ∈ mks, j ≠ k → mce G ad s1 j = mce G ad s j) : up (mput G h0 ad s) (ad k) e = mput G h0 ad s1 := by
  funext q
  by_cases c : q = ad k
  · subst c; rw [up_self, mput_at hA hk, he]
  · rw [up_ne c]
    by_cases z : ∃ j ∈ mks, ad j = q
    · obtain ⟨j, hj, ej⟩ := z
      subst ej
      rw [mput_at hA hj, mput_at hA hj, ho j hj (fun e => c (by rw [e]))]
    · have z' : ∀ j ∈ mks, ad j ≠ q := fun j hj e => z ⟨j, hj, e⟩
      rw [mput_off z', mput_off z']
/-- what stands there already is the same picture -/
theorem mput_same {G : GE} {h0 : AH} {ad : Nat → Nat} {s : MS} (hA : MAd ad) (h : ∀ k ∈ mks, h0 (ad k) = some (mce G ad s k)) : mput G h0 ad s = h0 := by
  funext q
  by_cases z : ∃ j ∈ mks, ad j = q
  · obtain ⟨j, hj, ej⟩ := z
    subst ej
    rw [mput_at hA hj, h j hj]
  · rw [mput_off (fun j hj e => z ⟨j, hj, e⟩)]
theorem upd_at {f : Nat → Int32} {k : Nat} {v : Int32} : upd f k v k = v := by simp [upd]
theorem upd_ne {f : Nat → Int32} {k j : Nat} {v : Int32} (h : j ≠ k) : upd f k v j = f j := by simp [upd, h]
section
variable {X : GX} {yM : MethodName} {cc : ByteArray} {nL : Nat} {rT : Option FieldType} {hH : List (Nat × Nat × Nat × Nat)} {lV kB : Nat} {h0 : AH} {ad : Nat → Nat} {s : MS} {kc pc : Nat} {ls : List (Option Value)} {st : List Value}
theorem m_rd (hA : MAd ad) : Rd X.G (mput X.G h0 ad s) (ad 20) (ob 5 (mfs ad s)) := Rd.h (mput_at hA (by decide))
theorem m_recv (ok : Ok X yM cc nL rT hH lV kB) (hA : MAd ad) : Recv X (mput X.G h0 ad s) (ad 20) "SpanRulerModel" := Recv.ob ok gc_X8 (m_rd hA)
theorem m_get (ok : Ok X yM cc nL rT hH lV kB) (hA : MAd ad) {index : Nat} {v : Value} (k : Nat) (hlink : Cond.fieldLink yM.cls index "SpanRulerModel" (TX8 k).2.1 (TX8 k).2.2.1 ∈ lw_all) (hk : k < 21 ∧ (TX8 k).1 = "SpanRulerModel") (hd : decode cc pc = .ok (.getfield index, 3)) (hv : (mfs ad s)[k]? = some v)
    (kk : GW X (mput X.G h0 ad s) kc (pc + 3) ls (v :: st)) : GW X (mput X.G h0 ad s) kc pc ls (.ref (ad 20) :: st) :=
  g_get ok ck_X8 k hlink (Or.inl hk.2.symm) hk.1 hd (m_rd hA) hv kk
def mik : List Nat := [4, 6, 8, 10, 11, 14, 15, 16, 17, 18, 19, 20]
theorem m_put (ok : Ok X yM cc nL rT hH lV kB) (hA : MAd ad) {index : Nat} {v : Int32} (k : Nat) (hlink : Cond.fieldLink yM.cls index "SpanRulerModel" (TX8 k).2.1 (TX8 k).2.2.1 ∈ lw_all) (hk : k ∈ mik) (hd : decode cc pc = .ok (.putfield index, 3)) (hn : narrow (tyX8 k) (.int v) = .int v ∧ fits (tyX8 k) (.int v) = true)
    (kk : GW X (mput X.G h0 ad (mI s k v)) kc (pc + 3) ls st) : GW X (mput X.G h0 ad s) kc pc ls (.int v :: .ref (ad 20) :: st) := by
  have hc : (TX8 k).1 = "SpanRulerModel" ∧ (TX8 k).2.2.2 = false ∧ k < 21 ∧ (mfs ad s).set k (.int v) = mfs ad (mI s k v) := by
    simp only [mik, List.mem_cons, List.not_mem_nil, or_false] at hk
    rcases hk with e | e | e | e | e | e | e | e | e | e | e | e <;> subst e <;> exact ⟨rfl, rfl, by decide, rfl⟩
  refine g_put ok ck_X8 k hlink (Or.inl hc.1.symm) hc.2.2.1 hc.2.1 hd (mput_at hA (by decide)) (by show k < 21; exact hc.2.2.1) hn.1 hn.2 hc.2.2.2 ?_
  refine g_eq (mput_up hA (by decide) rfl ?_) rfl rfl rfl rfl kk
  intro j hj hne
  simp only [mks, List.mem_cons, List.not_mem_nil, or_false] at hj
  rcases hj with e | e | e | e | e | e | e | e | e <;> subst e <;> first | rfl | exact absurd rfl hne
theorem m_putW (ok : Ok X yM cc nL rT hH lV kB) (hA : MAd ad) {index w : Nat} (hlink : Cond.fieldLink yM.cls index "SpanRulerModel" (TX8 12).2.1 (TX8 12).2.2.1 ∈ lw_all) (hd : decode cc pc = .ok (.putfield index, 3))
    (kk : GW X (mput X.G h0 ad (mW s w)) kc (pc + 3) ls st) : GW X (mput X.G h0 ad s) kc pc ls (.ref w :: .ref (ad 20) :: st) := by
  refine g_put ok ck_X8 12 hlink (Or.inl rfl) (by decide) rfl hd (mput_at hA (by decide)) (by show 12 < 21; decide) rfl rfl (fs1 := mfs ad (mW s w)) rfl ?_
  refine g_eq (mput_up hA (by decide) rfl ?_) rfl rfl rfl rfl kk
  intro j hj hne
  simp only [mks, List.mem_cons, List.not_mem_nil, or_false] at hj
  rcases hj with e | e | e | e | e | e | e | e | e <;> subst e <;> first | rfl | exact absurd rfl hne
def mai : List Nat := [0, 1, 2, 3, 5, 13]
theorem mlen_s (k : Nat) : mlen k < 2 ^ 31 := by unfold mlen; split <;> decide
theorem mce_i (G : GE) (ad : Nat → Nat) (s : MS) {k : Nat} (hk : k ∈ mai) : k ∈ mks ∧ mce G ad s k = aI G (mlen k) (s.A k) := by
  simp only [mai, List.mem_cons, List.not_mem_nil, or_false] at hk
  rcases hk with e | e | e | e | e | e <;> subst e <;> exact ⟨by decide, rfl⟩
theorem mce_c (G : GE) (ad : Nat → Nat) (s : MS) {k : Nat} (hk : k ∈ [7, 9]) : k ∈ mks ∧ mce G ad s k = aC G (mlen k) (s.A k) := by
  simp only [List.mem_cons, List.not_mem_nil, or_false] at hk
  rcases hk with e | e <;> subst e <;> exact ⟨by decide, rfl⟩
theorem m_ald (ok : Ok X yM cc nL rT hH lV kB) (hA : MAd ad) (k j : Nat) {i v : Int32} (hk : k ∈ mai) (hd : decode cc pc = .ok (.iaload, 1)) (hi : i = nI j) (hj : j < mlen k) (hv : s.A k j = v) (kk : GW X (mput X.G h0 ad s) kc (pc + 1) ls (.int v :: st)) : GW X (mput X.G h0 ad s) kc pc ls (.int i :: .ref (ad k) :: st) := by
  subst hv
  exact g_iald ok hd (Rd.h ((mput_at hA (mce_i X.G ad s hk).1).trans (by rw [(mce_i X.G ad s hk).2]))) hi hj (mlen_s k) kk
theorem m_cald (ok : Ok X yM cc nL rT hH lV kB) (hA : MAd ad) (k j : Nat) {i v : Int32} (hk : k ∈ [7, 9]) (hd : decode cc pc = .ok (.caload, 1)) (hi : i = nI j) (hj : j < mlen k) (hv : s.A k j = v) (kk : GW X (mput X.G h0 ad s) kc (pc + 1) ls (.int v :: st)) : GW X (mput X.G h0 ad s) kc pc ls (.int i :: .ref (ad k) :: st) := by
  subst hv
  exact g_cald ok hd (Rd.h ((mput_at hA (mce_c X.G ad s hk).1).trans (by rw [(mce_c X.G ad s hk).2]))) hi hj (mlen_s k) kk
theorem mce_A {G : GE} {k j : Nat} {x : Int32} {i : Nat} (hi : i ≠ k) : mce G ad (mA s k j x) i = mce G ad s i := by
  have h : (mA s k j x).A i = s.A i := by simp [mA_A, hi]
  have hm : mfs ad (mA s k j x) = mfs ad s := rfl
  unfold mce
  split <;> simp only [hm, h]
theorem m_ast (ok : Ok X yM cc nL rT hH lV kB) (hA : MAd ad) (k j : Nat) {i x : Int32} (hk : k ∈ mai) (hd : decode cc pc = .ok (.iastore, 1)) (hi : i = nI j) (hj : j < mlen k) (kk : GW X (mput X.G h0 ad (mA s k j x)) kc (pc + 1) ls st) : GW X (mput X.G h0 ad s) kc pc ls (.int x :: .int i :: .ref (ad k) :: st) := by
  have h := mce_i X.G ad s hk
  refine g_iast ok hd ((mput_at hA h.1).trans (by rw [h.2])) hi hj (mlen_s k) ?_
  refine g_eq (mput_up hA h.1 ?_ (fun i _ hne => mce_A hne)) rfl rfl rfl rfl kk
  rw [(mce_i _ _ _ hk).2, mA_A, if_pos rfl]
theorem m_cast (ok : Ok X yM cc nL rT hH lV kB) (hA : MAd ad) (k j : Nat) {i x : Int32} (hk : k ∈ [7, 9]) (hd : decode cc pc = .ok (.castore, 1)) (hi : i = nI j) (hj : j < mlen k) (hx : narrow .char (.int x) = .int x) (kk : GW X (mput X.G h0 ad (mA s k j x)) kc (pc + 1) ls st) : GW X (mput X.G h0 ad s) kc pc ls (.int x :: .int i :: .ref (ad k) :: st) := by
  have h := mce_c X.G ad s hk
  refine g_cast ok hd ((mput_at hA h.1).trans (by rw [h.2])) hi hj (mlen_s k) hx ?_
  refine g_eq (mput_up hA h.1 ?_ (fun i _ hne => mce_A hne)) rfl rfl rfl rfl kk
  rw [(mce_c _ _ _ hk).2, mA_A, if_pos rfl]
/-- a local is forgotten -/
theorem g_drop {hA : AH} (i : Nat) {ls1 : List (Option Value)} (hl : ls.set i none = ls1) (kk : GW X hA kc pc ls1 st) : GW X hA kc pc ls st := by
  intro H locs la hP hG hS hL
  refine kk H locs la hP hG hS (gl.of hL (by rw [← hl, List.length_set]) fun j v hj => lpr_mem.mpr ?_)
  rw [← hl] at hj
  by_cases e : j = i
  · subst e
    by_cases c : j < ls.length
    · rw [List.getElem?_set_self c] at hj; cases hj
    · rw [List.getElem?_eq_none (by rw [List.length_set]; omega)] at hj; cases hj
  · rwa [List.getElem?_set_ne (Ne.symm e)] at hj
/-! numbers that are indices -/
theorem g_iaddN {hA : AH} (ok : Ok X yM cc nL rT hH lV kB) {x y : Int32} {a b c : Nat} (hd : decode cc pc = .ok (.iadd, 1)) (hx : x = nI a) (hy : y = nI b) (hc : a + b = c) (kk : GW X hA kc (pc + 1) ls (.int (nI c) :: st)) : GW X hA kc pc ls (.int y :: .int x :: st) := by
  subst hc hx hy
  refine g_iadd ok hd ?_
  rw [nI_add]; exact kk
theorem g_isubN {hA : AH} (ok : Ok X yM cc nL rT hH lV kB) {x y : Int32} {a b c : Nat} (hd : decode cc pc = .ok (.isub, 1)) (hx : x = nI a) (hy : y = nI b) (hle : b ≤ a) (hc : a - b = c) (kk : GW X hA kc (pc + 1) ls (.int (nI c) :: st)) : GW X hA kc pc ls (.int y :: .int x :: st) := by
  subst hc hx hy
  refine g_isub ok hd ?_
  rw [pk_sub hle]; exact kk
theorem g_imulN {hA : AH} (ok : Ok X yM cc nL rT hH lV kB) {x y : Int32} {a b c : Nat} (hd : decode cc pc = .ok (.imul, 1)) (hx : x = nI a) (hy : y = nI b) (hc : a * b = c) (kk : GW X hA kc (pc + 1) ls (.int (nI c) :: st)) : GW X hA kc pc ls (.int y :: .int x :: st) := by
  subst hc hx hy
  refine g_imul ok hd ?_
  rw [pk_mul]; exact kk
theorem g_iincN {hA : AH} (ok : Ok X yM cc nL rT hH lV kB) {i : Nat} {x : Int32} {c : Nat} {ls1 : List (Option Value)} (hd : decode cc pc = .ok (.iinc i 1, 3)) (hx : ls[i]? = some (some (.int x))) (hc : x = nI c) (hl : sto1 ls i (.int (nI (c + 1))) = ls1) (kk : GW X hA kc (pc + 3) ls1 st) : GW X hA kc pc ls st := by
  subst hc
  exact g_iinc ok hd hx (by rw [nI_succ]; rfl) hl kk
end
def bI (b : Bool) : Int32 := cond b 1 0
theorem bI_z (b : Bool) : narrow .boolean (.int (bI b)) = .int (bI b) := by cases b <;> rfl
theorem bI_t {b : Bool} (h : b = true) : bI b = 1 := by rw [h]; rfl
theorem bI_f {b : Bool} (h : b = false) : bI b = 0 := by rw [h]; rfl
theorem bI_e {b : Bool} (h : bI b = 0) : b = false := by cases b with
  | false => rfl
  | true => exact absurd h (by decide)
theorem bI_n {b : Bool} (h : ¬ bI b = 0) : b = true := by cases b with
  | true => rfl
  | false => exact absurd rfl h
theorem pv_i {G : GE} {h0 : AH} {ad : Nat → Nat} {s s1 : MS} {v v1 : Int32} (e1 : v = v1) (e2 : s = s1) : PV (.int v1) (mput G h0 ad s1) (.inl (some (.int v))) (mput G h0 ad s) := by
  subst e1 e2; exact ⟨rfl, rfl⟩
theorem pn_i {G : GE} {h0 : AH} {ad : Nat → Nat} {s s1 : MS} (e2 : s = s1) : PN (mput G h0 ad s1) (.inl none) (mput G h0 ad s) := by
  subst e2; exact ⟨rfl, rfl⟩
theorem pv_h {h : AH} {v v1 : Int32} (e1 : v = v1) : PV (.int v1) h (.inl (some (.int v))) h := by
  subst e1; exact ⟨rfl, rfl⟩
