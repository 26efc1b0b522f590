/-! ROWS of the heap: fields, arrays, new things -/
set_option maxRecDepth 100000
/-- a class's pack: its place, its fields -/
def CK (ci : Nat) (C : String) (T : u_T) (N : Nat) (ty : Nat → FieldType) : Prop := gcl[ci]? = some (C, T, N) ∧ (∀ w ∈ u_ws C T N, w ∈ lw_all) ∧ (∀ k, k < N → parseFieldDescriptor (T k).2.2.1 = some (ty k)) ∧ (∀ a, a < N → ∀ b, b < N → a ≠ b → (T a).2.1 ≠ (T b).2.1)
theorem ck_X1 : CK 0 RX1 TX1 8 tyX1 := ⟨gc_X1, in_X1, tyX1_ok, nmX1⟩
theorem ck_X2 : CK 1 RX2 TX2 10 tyX2 := ⟨gc_X2, in_X2, tyX2_ok, nmX2⟩
theorem ck_X4 : CK 2 RX4 TX4 5 tyX4 := ⟨gc_X4, in_X4, tyX4_ok, nmX4⟩
theorem ck_X6 : CK 3 RX6 TX6 8 tyX6 := ⟨gc_X6, in_X6, tyX6_ok, nmX6⟩
theorem ck_X7 : CK 4 RX7 TX7 2 tyX7 := ⟨gc_X7, in_X7, tyX7_ok, nmX7⟩
theorem ck_X8 : CK 5 RX8 TX8 21 tyX8 := ⟨gc_X8, in_X8, tyX8_ok, nmX8⟩
theorem ck_X10 : CK 6 RX10 TX10 5 tyX10 := ⟨gc_X10, in_X10, tyX10_ok, nmX10⟩
theorem ck_X11 : CK 7 RX11 TX11 8 tyX11 := ⟨gc_X11, in_X11, tyX11_ok, nmX11⟩
theorem ck_X12 : CK 8 RX12 TX12 2 tyX12 := ⟨gc_X12, in_X12, tyX12_ok, nmX12⟩
theorem ck_X13 : CK 9 RX13 TX13 4 tyX13 := ⟨gc_X13, in_X13, tyX13_ok, nmX13⟩
theorem ck_X14 : CK 10 RX14 TX14 7 tyX14 := ⟨gc_X14, in_X14, tyX14_ok, nmX14⟩
theorem ck_X15 : CK 11 RX15 TX15 4 tyX15 := ⟨gc_X15, in_X15, tyX15_ok, nmX15⟩
theorem ck_J2 : CK 12 RJ2 TJ2 3 tyJ2 := ⟨gc_J2, in_J2, tyJ2_ok, nmJ2⟩
theorem ck_J12 : CK 13 RJ12 TJ12 4 tyJ12 := ⟨gc_J12, in_J12, tyJ12_ok, nmJ12⟩
theorem ck_J4 : CK 14 RJ4 TJ4 4 tyJ4 := ⟨gc_J4, in_J4, tyJ4_ok, nmJ4⟩
theorem ck_J5 : CK 15 RJ5 TJ5 4 tyJ5 := ⟨gc_J5, in_J5, tyJ5_ok, nmJ5⟩
theorem ck_J31 : CK 16 RJ31 TJ31 2 tyJ31 := ⟨gc_J31, in_J31, tyJ31_ok, nmJ31⟩
theorem ck_J32 : CK 17 RJ32 TJ32 4 tyJ32 := ⟨gc_J32, in_J32, tyJ32_ok, nmJ32⟩
theorem Gr.up {h0 h : AH} {sz a : Nat} {e : va_E} (g : Gr h0 h sz) (ha : h a ≠ none ∨ sz ≤ a) : Gr h0 (up h a e) sz := by
  intro q hq
  by_cases z : q = a
  · rcases ha with y | y
    · rw [z]; exact g a y
    · rw [z]; exact Or.inr y
  · rw [up_ne z] at hq
    exact g q hq
section
variable {X : GX} {yM : MethodName} {cc : ByteArray} {nL : Nat} {rT : Option FieldType} {hH : List (Nat × Nat × Nat × Nat)} {lV kB : Nat} {hA : AH} {kc pc : Nat} {ls : List (Option Value)} {st : List Value}
/-- a field is read -/
theorem g_get (ok : Ok X yM cc nL rT hH lV kB) {ci : Nat} {C ref : String} {T : u_T} {N : Nat} {ty : Nat → FieldType} {a index : Nat} {fs : List Value} {v : Value} (ck : CK ci C T N ty) (k : Nat) (hlink : Cond.fieldLink yM.cls index ref (T k).2.1 (T k).2.2.1 ∈ lw_all) (hsame : ref = (T k).1 ∨ Cond.sameField ref (T k).1 (T k).2.1 (T k).2.2.1 ∈ lw_all) (hk : k < N) (hd : decode cc pc = .ok (.getfield index, 3)) (hr : Rd X.G hA a (ob ci fs)) (hv : fs[k]? = some v)
    (kk : GW X hA kc (pc + 3) ls (v :: st)) : GW X hA kc pc ls (.ref a :: st) := by
  intro H locs la hP hG hS hL
  obtain ⟨r, cell, h1, q1, q2, q3, q4, q5⟩ := hP.rd ok.k hr
  have hc := ck.1
  have hr2 : r = (C, T, N) := Option.some.inj (h1.symm.trans hc)
  subst hr2
  obtain ⟨hSl, hfc, kC, hkC, hkind⟩ := ok.k.1 ci _ hc
  obtain ⟨cf, kf, fi, f, hi, hsl⟩ := hSl k hk
  have hi2 : X.s.fieldFound? ref (T k).2.1 (T k).2.2.1 = some (cf, kf, fi, f) := by
    rcases hsame with e | e
    · rw [e]; exact hi
    · exact u_same (ok.ts _ e) _ hi
  refine W.getf ok.x ok.b ok.own (ok.ts _ hlink) hi2 (u_facts hfc hkC (u_lays ok.ts ck.2.1 hk) hi).1 q1 q3 (v := v) ?_ rfl rfl hd (kk H locs la hP hG hS hL)
  rw [hsl, q5 k hk]
  simp [vp_V, hv]
/-- a nest mate's private field is read -/
theorem g_getN (ok : Ok X yM cc nL rT hH lV kB) {ci : Nat} {C ref host : String} {T : u_T} {N : Nat} {ty : Nat → FieldType} {a index : Nat} {fs : List Value} {v : Value} (ck : CK ci C T N ty) (k : Nat) (hlink : Cond.fieldLinkNest yM.cls index ref (T k).2.1 (T k).2.2.1 host ∈ lw_tbl) (hsame : ref = (T k).1) (hk : k < N) (hd : decode cc pc = .ok (.getfield index, 3)) (hr : Rd X.G hA a (ob ci fs)) (hv : fs[k]? = some v)
    (kk : GW X hA kc (pc + 3) ls (v :: st)) : GW X hA kc pc ls (.ref a :: st) := by
  intro H locs la hP hG hS hL
  obtain ⟨r, cell, h1, q1, q2, q3, q4, q5⟩ := hP.rd ok.k hr
  have hc := ck.1
  have hr2 : r = (C, T, N) := Option.some.inj (h1.symm.trans hc)
  subst hr2
  obtain ⟨hSl, hfc, kC, hkC, hkind⟩ := ok.k.1 ci _ hc
  obtain ⟨cf, kf, fi, f, hi, hsl⟩ := hSl k hk
  refine va_Wgetf ok.x ok.b ok.own (va_Nw.use rfl (ok.tw hlink rfl)) (hsame ▸ hi) (u_facts hfc hkC (u_lays ok.ts ck.2.1 hk) hi).1 q1 q3 (v := v) ?_ rfl rfl hd (kk H locs la hP hG hS hL)
  rw [hsl, q5 k hk]
  simp [vp_V, hv]
theorem g_at {G : GE} {h : AH} {U : State} {H : Heap} (hP : Hp G h U H) {ci a : Nat} {C : String} {T : u_T} {N : Nat} {ty : Nat → FieldType} {fs : List Value} (ck : CK ci C T N ty) (hr : h a = some (ob ci fs)) : ∃ cell : Cell, H[a]? = some cell ∧ cell.cls = G.1.1 ci ∧ cell.vm = .none ∧ ∀ k, k < N → cell.slots[G.1.2 ci k]? = some (vp_V fs k) := by
  obtain ⟨r, h1, cell, q1, q2, q3, q4⟩ := hP.1 a _ hr
  have hr2 : r = (C, T, N) := Option.some.inj (h1.symm.trans ck.1)
  subst hr2
  exact ⟨cell, q1, q2, q3, q4⟩
/-- a field is written -/
theorem g_put (ok : Ok X yM cc nL rT hH lV kB) {ci : Nat} {C ref : String} {T : u_T} {N : Nat} {ty : Nat → FieldType} {a index : Nat} {fs fs1 : List Value} {v : Value} (ck : CK ci C T N ty) (k : Nat) (hlink : Cond.fieldLink yM.cls index ref (T k).2.1 (T k).2.2.1 ∈ lw_all) (hsame : ref = (T k).1 ∨ Cond.sameField ref (T k).1 (T k).2.1 (T k).2.2.1 ∈ lw_all) (hk : k < N) (hfin : (T k).2.2.2 = false) (hd : decode cc pc = .ok (.putfield index, 3)) (hr : hA a = some (ob ci fs)) (hl : k < fs.length) (hn : narrow (ty k) v = v) (hfit : fits (ty k) v = true) (hf : fs.set k v = fs1)
    (kk : GW X (up hA a (ob ci fs1)) kc (pc + 3) ls st) : GW X hA kc pc ls (v :: .ref a :: st) := by
  subst hf
  intro H locs la hP hG hS hL
  have hap := va_apart (own := yM.cls) ok.ts ck.2.1 ty ck.2.2.1 ck.2.2.2 ok.k ck.1
  obtain ⟨cell, q1, q2, q3, q4⟩ := g_at hP ck hr
  obtain ⟨hSl, hfc, kC, hkC, hkind⟩ := ok.k.1 ci _ ck.1
  obtain ⟨cf, kf, fi, f, hi, hsl⟩ := hSl k hk
  have hi2 : X.s.fieldFound? ref (T k).2.1 (T k).2.2.1 = some (cf, kf, fi, f) := by
    rcases hsame with e | e
    · rw [e]; exact hi
    · exact u_same (ok.ts _ e) _ hi
  have hlay := ok.ts _ (ck.2.1 _ (u_in_lay hk))
  unfold u_lay at hlay
  rw [if_neg (by rw [hfin]; decide)] at hlay
  have hst := (u_facts hfc hkC (u_lays ok.ts ck.2.1 hk) hi).1
  have h6 := u_store hfc hkC hkind hlay hi (ck.2.2.1 k hk) hn hfit
  refine W.putK ok.x ok.b (f := f) ⟨ok.own, ok.ts _ hlink, ⟨_, _, _, hi2⟩, hst⟩ (by rw [q2]; exact h6) q1 q3 (by rw [hsl]; exact k2_hasslot (q4 k hk)) rfl rfl hd fun H1 e1 e2 e3 => ?_
  rw [hsl] at e1 ⊢
  have ha : hA a ≠ none := by rw [hr]; exact fun z => by cases z
  exact kk H1 _ la (hP.upd (Or.inl ha) (fun q _ hq => e3 q hq) ⟨_, ck.1, t_OB.to (V := updV (vp_V fs) k v) ⟨_, e1, q2, q3, t_set q4 hap hk v⟩ (fun j _ => vp_updV_set hl v j)⟩) (hG.up (Or.inl ha)) (hS.put e2 e3 (hG a ha)) hL
/-- a final field is written in its constructor -/
theorem g_putF (ok : Ok X yM cc nL rT hH lV kB) {ci : Nat} {C ref : String} {T : u_T} {N : Nat} {ty : Nat → FieldType} {a index : Nat} {fs fs1 : List Value} {v : Value} (ck : CK ci C T N ty) (k : Nat) (hlink : Cond.fieldLink yM.cls index ref (T k).2.1 (T k).2.2.1 ∈ lw_all) (hsame : ref = (T k).1) (hk : k < N) (hfin : (T k).2.2.2 = true) (hin2 : yM.name = "<init>") (hdecl : (T k).1 = yM.cls) (hd : decode cc pc = .ok (.putfield index, 3)) (hr : hA a = some (ob ci fs)) (hl : k < fs.length) (hn : narrow (ty k) v = v) (hfit : fits (ty k) v = true) (hf : fs.set k v = fs1)
    (kk : GW X (up hA a (ob ci fs1)) kc (pc + 3) ls st) : GW X hA kc pc ls (v :: .ref a :: st) := by
  subst hf
  intro H locs la hP hG hS hL
  have hap := va_apart (own := yM.cls) ok.ts ck.2.1 ty ck.2.2.1 ck.2.2.2 ok.k ck.1
  obtain ⟨cell, q1, q2, q3, q4⟩ := g_at hP ck hr
  obtain ⟨hSl, hfc, kC, hkC, hkind⟩ := ok.k.1 ci _ ck.1
  obtain ⟨cf, kf, fi, f, hi, hsl⟩ := hSl k hk
  have hlay := ok.ts _ (ck.2.1 _ (u_in_lay hk))
  unfold u_lay at hlay
  rw [if_pos hfin] at hlay
  have hst := (u_facts hfc hkC (u_lays ok.ts ck.2.1 hk) hi).1
  have hown := ok.own
  have hcf : X.m.cls = cf := by
    obtain ⟨_, _, c', _, _, _, -, -, hf', -, -, -, hown2, -⟩ := Cond.laysFinal_spec hlay
    have e1 : c' = cf := by have := hi.symm.trans hf'; simp at this; exact this.1.symm
    rw [hdecl] at hown2
    rw [← e1]; exact Option.some.inj (hown.symm.trans hown2)
  have h6 := u_fits hfc hkC hkind (Or.inr hlay) hi (ck.2.2.1 k hk) hn hfit
  refine W.putFinK ok.x ok.b ok.own (ok.ts _ hlink) (hsame ▸ hi) hst hcf (by rw [ok.nm]; exact hin2) (by rw [q2]; exact h6) q1 q3 (by rw [hsl]; exact k2_hasslot (q4 k hk)) rfl rfl hd fun H1 e1 e2 e3 => ?_
  rw [hsl] at e1 ⊢
  have ha : hA a ≠ none := by rw [hr]; exact fun z => by cases z
  exact kk H1 _ la (hP.upd (Or.inl ha) (fun q _ hq => e3 q hq) ⟨_, ck.1, t_OB.to (V := updV (vp_V fs) k v) ⟨_, e1, q2, q3, t_set q4 hap hk v⟩ (fun j _ => vp_updV_set hl v j)⟩) (hG.up (Or.inl ha)) (hS.put e2 e3 (hG a ha)) hL
/-- a nest mate's private field is written -/
theorem g_putN (ok : Ok X yM cc nL rT hH lV kB) {ci : Nat} {C ref host : String} {T : u_T} {N : Nat} {ty : Nat → FieldType} {a index : Nat} {fs fs1 : List Value} {v : Value} (ck : CK ci C T N ty) (k : Nat) (hlink : Cond.fieldLinkNest yM.cls index ref (T k).2.1 (T k).2.2.1 host ∈ lw_tbl) (hsame : ref = (T k).1) (hk : k < N) (hfin : (T k).2.2.2 = false) (hd : decode cc pc = .ok (.putfield index, 3)) (hr : hA a = some (ob ci fs)) (hl : k < fs.length) (hn : narrow (ty k) v = v) (hfit : fits (ty k) v = true) (hf : fs.set k v = fs1)
    (kk : GW X (up hA a (ob ci fs1)) kc (pc + 3) ls st) : GW X hA kc pc ls (v :: .ref a :: st) := by
  subst hf
  intro H locs la hP hG hS hL
  have hap := va_apart (own := yM.cls) ok.ts ck.2.1 ty ck.2.2.1 ck.2.2.2 ok.k ck.1
  obtain ⟨cell, q1, q2, q3, q4⟩ := g_at hP ck hr
  obtain ⟨hSl, hfc, kC, hkC, hkind⟩ := ok.k.1 ci _ ck.1
  obtain ⟨cf, kf, fi, f, hi, hsl⟩ := hSl k hk
  have hlay := ok.ts _ (ck.2.1 _ (u_in_lay hk))
  unfold u_lay at hlay
  rw [if_neg (by rw [hfin]; decide)] at hlay
  have hst := (u_facts hfc hkC (u_lays ok.ts ck.2.1 hk) hi).1
  have h6 := u_store hfc hkC hkind hlay hi (ck.2.2.1 k hk) hn hfit
  refine va_WputK ok.x ok.b (f := f) ok.own (va_Nw.use rfl (ok.tw hlink rfl)) (hsame ▸ hi) hst (by rw [q2]; exact h6) q1 q3 (by rw [hsl]; exact k2_hasslot (q4 k hk)) rfl rfl hd fun H1 e1 e2 e3 => ?_
  rw [hsl] at e1 ⊢
  have ha : hA a ≠ none := by rw [hr]; exact fun z => by cases z
  exact kk H1 _ la (hP.upd (Or.inl ha) (fun q _ hq => e3 q hq) ⟨_, ck.1, t_OB.to (V := updV (vp_V fs) k v) ⟨_, e1, q2, q3, t_set q4 hap hk v⟩ (fun j _ => vp_updV_set hl v j)⟩) (hG.up (Or.inl ha)) (hS.put e2 e3 (hG a ha)) hL
/-- a static that nobody writes is read -/
theorem g_gets (ok : Ok X yM cc nL rT hH lV kB) {C n d : String} {v : Value} {index : Nat} (hz : (C, n, d, v) ∈ gzs X.G) (hlink : Cond.fieldLink yM.cls index C n d ∈ lw_all) (hd : decode cc pc = .ok (.getstatic index, 3)) (kk : GW X hA kc (pc + 3) ls (v :: st)) : GW X hA kc pc ls st := by
  intro H locs la hP hG hS hL
  obtain ⟨cf, kf, fi, f, a, cell, h1, h2, h3, h4, h5, h6, h7, h8⟩ := hP.2.2.1 _ hz
  exact W.gets ok.x ok.b ok.own (ok.ts _ hlink) h1 h2 h3 h4 h5 (fun e => by rw [e] at h6; cases h6) h7 rfl hd (kk H locs la hP hG hS hL)
/-- an enum constant's ordinal -/
theorem g_ord (ok : Ok X yM cc nL rT hH lV kB) {kn C : String} {v : Int32} {index : Nat} (hz : (kn, C, v) ∈ gkn) (hlink : Cond.fieldLink yM.cls index "java/lang/Enum" "ordinal" "I" ∈ lw_all) (hd : decode cc pc = .ok (.getfield index, 3)) (kk : GW X hA kc (pc + 3) ls (.int v :: st)) : GW X hA kc pc ls (.ref (X.G.ga kn) :: st) := by
  intro H locs la hP hG hS hL
  obtain ⟨cf, k, fi, f, cell, h1, h2, h3, h4, h5, h6⟩ := (hP.2.2.2.1 _ hz).2
  exact W.getf ok.x ok.b ok.own (ok.ts _ hlink) h1 h2 h3 h4 (v := .int v) h5 rfl rfl hd (kk H locs la hP hG hS hL)
/-- a String constant -/
theorem g_ldcS (ok : Ok X yM cc nL rT hH lV kB) {tx : String} {index : Nat} (hz : (yM.cls, index, tx) ∈ glit) (hd : decode cc pc = .ok (.ldc index, 2)) (kk : GW X hA kc (pc + 2) ls (.ref (X.G.ga ("L:" ++ tx)) :: st)) : GW X hA kc pc ls st :=
  fun H locs la hP hG hS hL => va_ldcS ok.x ok.b ok.own (ok.tab.2.2.2.2.2.1 _ hz) hd (kk H locs la hP hG hS hL)
/-! arrays -/
theorem g_ix {i : Int32} {j n : Nat} {S : Nat} (hi : i = nI j) (hj : j < n) (hn : n < 2 ^ 31) (hS : n ≤ S) : ¬ (i < 0 ∨ S ≤ i.toNatClampNeg) ∧ i.toNatClampNeg = j := by
  subst hi
  have h1 := nI_clamp (n := j) (by omega)
  refine ⟨fun q => ?_, h1⟩
  rcases q with q | q
  · exact nI_pos (by omega) q
  · rw [h1] at q; omega
theorem gt_i (G : GE) : (G.2.1 0, FieldType.int) ∈ gtys G := by simp [gtys]
theorem gt_c (G : GE) : (G.2.1 1, FieldType.char) ∈ gtys G := by simp [gtys]
theorem gt_b (G : GE) : (G.2.1 2, FieldType.byte) ∈ gtys G := by simp [gtys]
theorem gt_j (G : GE) : (G.2.1 3, FieldType.long) ∈ gtys G := by simp [gtys]
theorem gt_d (G : GE) : (G.2.1 4, FieldType.double) ∈ gtys G := by simp [gtys]
theorem gt_r (G : GE) : (G.2.1 5, FieldType.object "java/lang/Object") ∈ gtys G := by simp [gtys]
theorem g_arr {G : GE} {U : State} (hK : va_K G.1 gcl (gtys G) U) {c : ClassId} {ty : FieldType} (h : (c, ty) ∈ gtys G) : ArrOfT U c ty := by
  obtain ⟨i, hi⟩ := List.getElem?_of_mem h
  exact (hK.2 i _ hi).1
theorem g_iald (ok : Ok X yM cc nL rT hH lV kB) {a n j : Nat} {f : Nat → Int32} {i : Int32} (hd : decode cc pc = .ok (.iaload, 1)) (hr : Rd X.G hA a (aI X.G n f)) (hi : i = nI j) (hj : j < n) (hn : n < 2 ^ 31) (kk : GW X hA kc (pc + 1) ls (.int (f j) :: st)) : GW X hA kc pc ls (.int i :: .ref a :: st) := by
  intro H locs la hP hG hS hL
  obtain ⟨cell, h1, h2, h3, h4, h5, h6⟩ := hP.rd ok.k hr
  obtain ⟨x1, x2⟩ := g_ix hi hj hn h4
  exact W.iald ok.x ok.b h1 (h2 _ (gt_i _)) h3 x1 (by rw [x2]; exact h6 j hj) rfl rfl hd (kk H locs la hP hG hS hL)
theorem g_cald (ok : Ok X yM cc nL rT hH lV kB) {a n j : Nat} {f : Nat → Int32} {i : Int32} (hd : decode cc pc = .ok (.caload, 1)) (hr : Rd X.G hA a (aC X.G n f)) (hi : i = nI j) (hj : j < n) (hn : n < 2 ^ 31) (kk : GW X hA kc (pc + 1) ls (.int (f j) :: st)) : GW X hA kc pc ls (.int i :: .ref a :: st) := by
  intro H locs la hP hG hS hL
  obtain ⟨cell, h1, h2, h3, h4, h5, h6⟩ := hP.rd ok.k hr
  obtain ⟨x1, x2⟩ := g_ix hi hj hn h4
  exact W.cald ok.x ok.b h1 (h2 _ (gt_c _)) h3 x1 (by rw [x2]; exact h6 j hj) rfl rfl hd (kk H locs la hP hG hS hL)
theorem g_bald (ok : Ok X yM cc nL rT hH lV kB) {a n j : Nat} {f : Nat → Int32} {i : Int32} (hd : decode cc pc = .ok (.baload, 1)) (hr : Rd X.G hA a (aB X.G n f)) (hi : i = nI j) (hj : j < n) (hn : n < 2 ^ 31) (kk : GW X hA kc (pc + 1) ls (.int (f j) :: st)) : GW X hA kc pc ls (.int i :: .ref a :: st) := by
  intro H locs la hP hG hS hL
  obtain ⟨cell, h1, h2, h3, h4, h5, h6⟩ := hP.rd ok.k hr
  obtain ⟨x1, x2⟩ := g_ix hi hj hn h4
  exact W.bald ok.x ok.b h1 (h2 _ (gt_b _)) h3 x1 (by rw [x2]; exact h6 j hj) rfl rfl hd (kk H locs la hP hG hS hL)
theorem g_lald (ok : Ok X yM cc nL rT hH lV kB) {a n j : Nat} {f : Nat → Int64} {i : Int32} (hd : decode cc pc = .ok (.laload, 1)) (hr : Rd X.G hA a (aJ X.G n f)) (hi : i = nI j) (hj : j < n) (hn : n < 2 ^ 31) (kk : GW X hA kc (pc + 1) ls (.long (f j) :: st)) : GW X hA kc pc ls (.int i :: .ref a :: st) := by
  intro H locs la hP hG hS hL
  obtain ⟨cell, h1, h2, h3, h4, h5, h6⟩ := hP.rd ok.k hr
  obtain ⟨x1, x2⟩ := g_ix hi hj hn h4
  exact W.lald ok.x ok.b h1 (h2 _ (gt_j _)) h3 x1 (by rw [x2]; exact h6 j hj) rfl rfl hd (kk H locs la hP hG hS hL)
theorem g_dald (ok : Ok X yM cc nL rT hH lV kB) {a n j : Nat} {f : Nat → UInt64} {i : Int32} (hd : decode cc pc = .ok (.daload, 1)) (hr : Rd X.G hA a (aD X.G n f)) (hi : i = nI j) (hj : j < n) (hn : n < 2 ^ 31) (kk : GW X hA kc (pc + 1) ls (.double (f j) :: st)) : GW X hA kc pc ls (.int i :: .ref a :: st) := by
  intro H locs la hP hG hS hL
  obtain ⟨cell, h1, h2, h3, h4, h5, h6⟩ := hP.rd ok.k hr
  obtain ⟨x1, x2⟩ := g_ix hi hj hn h4
  exact W.dald ok.x ok.b h1 (h2 _ (gt_d _)) h3 x1 (by rw [x2]; exact h6 j hj) rfl rfl hd (kk H locs la hP hG hS hL)
theorem g_aald (ok : Ok X yM cc nL rT hH lV kB) {a n j : Nat} {f : Nat → Option Nat} {i : Int32} (hd : decode cc pc = .ok (.aaload, 1)) (hr : Rd X.G hA a (aR X.G n f)) (hi : i = nI j) (hj : j < n) (hn : n < 2 ^ 31) (kk : GW X hA kc (pc + 1) ls (va_rf (f j) :: st)) : GW X hA kc pc ls (.int i :: .ref a :: st) := by
  intro H locs la hP hG hS hL
  obtain ⟨cell, h1, h2, h3, h4, h5, h6⟩ := hP.rd ok.k hr
  obtain ⟨x1, x2⟩ := g_ix hi hj hn h4
  exact W.aald ok.x ok.b h1 (h2 _ (gt_r _)) rfl h3 x1 (by rw [x2]; exact h6 j hj) rfl rfl hd (kk H locs la hP hG hS hL)
theorem g_alen (ok : Ok X yM cc nL rT hH lV kB) {a : Nat} {x : ClassId × vp_A} {ty : FieldType} (hd : decode cc pc = .ok (.arraylength, 1)) (hr : Rd X.G hA a (.inl x)) (ht : (x.1, ty) ∈ gtys X.G) (kk : GW X hA kc (pc + 1) ls (.int (nI x.2.1) :: st)) : GW X hA kc pc ls (.ref a :: st) := by
  intro H locs la hP hG hS hL
  obtain ⟨cell, h1, h2, h3, h4, h5, h6⟩ := hP.rd ok.k hr
  exact W.alen (n := nI x.2.1) ok.x ok.b h1 (h2 ty ht) h5 rfl rfl hd (kk H locs la hP hG hS hL)
theorem g_iast (ok : Ok X yM cc nL rT hH lV kB) {a n j : Nat} {f : Nat → Int32} {i x : Int32} (hd : decode cc pc = .ok (.iastore, 1)) (hr : hA a = some (aI X.G n f)) (hi : i = nI j) (hj : j < n) (hn : n < 2 ^ 31) (kk : GW X (up hA a (aI X.G n (upd f j x))) kc (pc + 1) ls st) : GW X hA kc pc ls (.int x :: .int i :: .ref a :: st) := by
  intro H locs la hP hG hS hL
  have h1 : H[a]? = some (arrV (X.G.2.1 0) n (fun j => .int (f j))) := hP.1 a _ hr
  obtain ⟨x1, x2⟩ := g_ix hi hj hn (Nat.le_refl n)
  have ha : hA a ≠ none := by rw [hr]; exact fun z => by cases z
  refine W.iast ok.x ok.b h1 (g_arr ok.k (gt_i _) n _) (fun q => by cases q) (by rw [arrV_size]; exact x1) rfl rfl hd fun H1 e z oq => kk H1 _ la (hP.upd (Or.inl ha) (fun q _ hq => oq q hq) ?_) (hG.up (Or.inl ha)) (hS.put z oq (hG a ha)) hL
  show H1[a]? = some (vp_cell _ _)
  rw [e, vp_cell_i, arrV_store, x2]
  congr 2
  funext q
  by_cases hq : q = j
  · subst hq; simp [updV, upd]
  · simp [updV, upd, hq]
theorem g_cast (ok : Ok X yM cc nL rT hH lV kB) {a n j : Nat} {f : Nat → Int32} {i x : Int32} (hd : decode cc pc = .ok (.castore, 1)) (hr : hA a = some (aC X.G n f)) (hi : i = nI j) (hj : j < n) (hn : n < 2 ^ 31) (hx : narrow .char (.int x) = .int x) (kk : GW X (up hA a (aC X.G n (upd f j x))) kc (pc + 1) ls st) : GW X hA kc pc ls (.int x :: .int i :: .ref a :: st) := by
  intro H locs la hP hG hS hL
  have h1 : H[a]? = some (arrV (X.G.2.1 1) n (fun j => .int (f j))) := hP.1 a _ hr
  obtain ⟨x1, x2⟩ := g_ix hi hj hn (Nat.le_refl n)
  have ha : hA a ≠ none := by rw [hr]; exact fun z => by cases z
  refine W.cast ok.x ok.b h1 (g_arr ok.k (gt_c _) n _) (fun q => by cases q) (by rw [arrV_size]; exact x1) rfl rfl hd fun H1 e z oq => kk H1 _ la (hP.upd (Or.inl ha) (fun q _ hq => oq q hq) ?_) (hG.up (Or.inl ha)) (hS.put z oq (hG a ha)) hL
  show H1[a]? = some (vp_cell _ _)
  rw [e, vp_cell_i, hx, arrV_store, x2]
  congr 2
  funext q
  by_cases hq : q = j
  · subst hq; simp [updV, upd]
  · simp [updV, upd, hq]
theorem g_bast (ok : Ok X yM cc nL rT hH lV kB) {a n j : Nat} {f : Nat → Int32} {i x v : Int32} (hd : decode cc pc = .ok (.bastore, 1)) (hr : hA a = some (aB X.G n f)) (hi : i = nI j) (hj : j < n) (hn : n < 2 ^ 31) (hx : x.toInt8.toInt32 = v) (kk : GW X (up hA a (aB X.G n (upd f j v))) kc (pc + 1) ls st) : GW X hA kc pc ls (.int x :: .int i :: .ref a :: st) := by
  intro H locs la hP hG hS hL
  have h1 : H[a]? = some (arrV (X.G.2.1 2) n (fun j => .int (f j))) := hP.1 a _ hr
  obtain ⟨x1, x2⟩ := g_ix hi hj hn (Nat.le_refl n)
  have ha : hA a ≠ none := by rw [hr]; exact fun z => by cases z
  have hx2 : narrow .byte (.int x) = .int v := by rw [← hx]; rfl
  refine W.bast ok.x ok.b h1 (g_arr ok.k (gt_b _) n _) (fun q => by cases q) (by rw [arrV_size]; exact x1) rfl rfl hd fun H1 e z oq => kk H1 _ la (hP.upd (Or.inl ha) (fun q _ hq => oq q hq) ?_) (hG.up (Or.inl ha)) (hS.put z oq (hG a ha)) hL
  show H1[a]? = some (vp_cell _ _)
  rw [e, vp_cell_i, hx2, arrV_store, x2]
  congr 2
  funext q
  by_cases hq : q = j
  · subst hq; simp [updV, upd]
  · simp [updV, upd, hq]
theorem g_last (ok : Ok X yM cc nL rT hH lV kB) {a n j : Nat} {f : Nat → Int64} {i : Int32} {x : Int64} (hd : decode cc pc = .ok (.lastore, 1)) (hr : hA a = some (aJ X.G n f)) (hi : i = nI j) (hj : j < n) (hn : n < 2 ^ 31) (kk : GW X (up hA a (aJ X.G n (va_up f j x))) kc (pc + 1) ls st) : GW X hA kc pc ls (.long x :: .int i :: .ref a :: st) := by
  intro H locs la hP hG hS hL
  have h1 : H[a]? = some (arrV (X.G.2.1 3) n (fun j => .long (f j))) := hP.1 a _ hr
  obtain ⟨x1, x2⟩ := g_ix hi hj hn (Nat.le_refl n)
  have ha : hA a ≠ none := by rw [hr]; exact fun z => by cases z
  refine W.last ok.x ok.b h1 (g_arr ok.k (gt_j _) n _) (fun q => by cases q) (by rw [arrV_size]; exact x1) rfl rfl hd fun H1 e z oq => kk H1 _ la (hP.upd (Or.inl ha) (fun q _ hq => oq q hq) ?_) (hG.up (Or.inl ha)) (hS.put z oq (hG a ha)) hL
  show H1[a]? = some (vp_cell _ _)
  rw [e, vp_cell_l, arrV_store, x2]
  congr 2
  funext q
  by_cases hq : q = j
  · subst hq; simp [updV, va_up]
  · simp [updV, va_up, hq]
theorem g_dast (ok : Ok X yM cc nL rT hH lV kB) {a n j : Nat} {f : Nat → UInt64} {i : Int32} {x : UInt64} (hd : decode cc pc = .ok (.dastore, 1)) (hr : hA a = some (aD X.G n f)) (hi : i = nI j) (hj : j < n) (hn : n < 2 ^ 31) (kk : GW X (up hA a (aD X.G n (va_up f j x))) kc (pc + 1) ls st) : GW X hA kc pc ls (.double x :: .int i :: .ref a :: st) := by
  intro H locs la hP hG hS hL
  have h1 : H[a]? = some (arrV (X.G.2.1 4) n (fun j => .double (f j))) := hP.1 a _ hr
  obtain ⟨x1, x2⟩ := g_ix hi hj hn (Nat.le_refl n)
  have ha : hA a ≠ none := by rw [hr]; exact fun z => by cases z
  refine W.dast ok.x ok.b h1 (g_arr ok.k (gt_d _) n _) (fun q => by cases q) (by rw [arrV_size]; exact x1) rfl rfl hd fun H1 e z oq => kk H1 _ la (hP.upd (Or.inl ha) (fun q _ hq => oq q hq) ?_) (hG.up (Or.inl ha)) (hS.put z oq (hG a ha)) hL
  show H1[a]? = some (vp_cell _ _)
  rw [e, vp_cell_d, arrV_store, x2]
  congr 2
  funext q
  by_cases hq : q = j
  · subst hq; simp [updV, va_up]
  · simp [updV, va_up, hq]
/-! new things -/
theorem Hp.fresh {G : GE} {h : AH} {U : State} {H : Heap} (x : Hp G h U H) : h H.size = none ∧ G.kh H.size = none := by
  refine ⟨?_, ?_⟩
  · cases e : h H.size with
    | none => rfl
    | some y => exact absurd (x.1 _ _ e).lt (Nat.lt_irrefl _)
  · cases e : G.kh H.size with
    | none => rfl
    | some y => exact absurd (x.2.1 _ _ e).1.lt (Nat.lt_irrefl _)
theorem Ok.fresh (ok : Ok X yM cc nL rT hH lV kB) {a : Nat} (ha : X.s.heap.size ≤ a) : X.h0 a = none := by
  cases e : X.h0 a with
  | none => rfl
  | some y => exact absurd (ok.h0 a (by rw [e]; exact fun z => by cases z)) (by omega)
theorem g_new (ok : Ok X yM cc nL rT hH lV kB) {ci : Nat} {C : String} {T : u_T} {N : Nat} {ty : Nat → FieldType} {index : Nat} {fs : List Value} (ck : CK ci C T N ty) (hcl : Cond.classLink yM.cls index C ∈ lw_all) (hinst : Cond.instantiable C N ∈ lw_all) (hini : Cond.initialized C ∈ lw_all) (hd : decode cc pc = .ok (.new index, 3)) (hfs : ∀ j, j < N → defaultValue (ty j) = vp_V fs j) (hk : kc + (N + 1) ≤ kB)
    (kk : ∀ a, hA a = none → X.G.kh a = none → X.h0 a = none → GW X (up hA a (ob ci fs)) (kc + (N + 1)) (pc + 3) ls (.ref a :: st)) : GW X hA kc pc ls st := by
  intro H locs la hP hG hS hL
  have hKn := ok.k.1 ci _ ck.1
  obtain ⟨r1, r2, r3, r4⟩ := ok.rm
  refine W.newcK ok.x ok.b ok.own (ok.ts _ hcl) (ok.ts _ hinst) (ok.ts _ hini) rfl hd (by omega) (by omega) hKn.2.1 rfl fun H1 kC hkC e1 z1 o1 => ?_
  have hsz : X.s.heap.size ≤ H.size := hS.1
  intro T hT S
  exact kk H.size hP.fresh.1 hP.fresh.2 (ok.fresh hsz) H1 locs la (hP.upd (Or.inr (Nat.le_refl _)) (fun q hq _ => o1 q hq) ⟨_, ck.1, (u_born ty ok.ts ck.2.1 hKn hkC e1 ck.2.2.1).to hfs⟩) (hG.up (Or.inr hsz)) ⟨Nat.le_trans hS.1 (by omega), fun x h1 h2 => (o1 x (Nat.lt_of_lt_of_le h1 hS.1)).trans (hS.2.1 x h1 h2), hS.2.2⟩ hL T hT (stand_widen S (by omega) (by omega))
theorem g_newa (ok : Ok X yM cc nL rT hH lV kB) {atype : ArrayType} {i : Int32} {n ai : Nat} {y : (Nat → Int32) ⊕ (Nat → Int64) ⊕ (Nat → UInt32) ⊕ (Nat → UInt64) ⊕ (Nat → Option Nat)} (harr : Cond.arrayClass (newarray.typeOf atype) ∈ lw_all) (ht : (X.G.2.1 ai, newarray.typeOf atype) ∈ gtys X.G) (hnp : ∀ C, newarray.typeOf atype ≠ .object C) (hcell : ∀ cA : ClassId, vp_cell cA (n, y) = arrV cA n (fun _ => defaultValue (newarray.typeOf atype))) (hd : decode cc pc = .ok (.newarray atype, 2)) (hi : i = nI n) (hn : n < 60000) (hk : kc + (n + 1) ≤ kB)
    (kk : ∀ a, hA a = none → X.G.kh a = none → X.h0 a = none → GW X (up hA a (.inl (X.G.2.1 ai, n, y))) (kc + (n + 1)) (pc + 2) ls (.ref a :: st)) : GW X hA kc pc ls (.int i :: st) := by
  subst hi
  intro H locs la hP hG hS hL
  obtain ⟨r1, r2, r3, r4⟩ := ok.rm
  have hcb : componentBytes (newarray.typeOf atype) ≤ 8 := by cases atype <;> decide
  refine va_newaK ok.x ok.b (ok.ts _ harr) rfl hd (N := n) rfl (nI_pos (by omega)) (nI_clamp (by omega)) (by
    have := Nat.mul_le_mul_left n hcb
    omega) (by omega) (by omega) rfl fun H1 cA e1 z1 o1 hAr hNm => ?_
  have hsz : X.s.heap.size ≤ H.size := hS.1
  have hcA : cA = X.G.2.1 ai := by
    obtain ⟨j, hj⟩ := List.getElem?_of_mem ht
    have hra := (ok.k.2 j _ hj).2
    unfold va_RA at hra
    split at hra
    · rename_i C hC
      exact absurd hC (hnp C)
    · exact Option.some.inj (hNm.symm.trans hra)
  subst hcA
  intro T hT S
  exact kk H.size hP.fresh.1 hP.fresh.2 (ok.fresh hsz) H1 locs la (hP.upd (Or.inr (Nat.le_refl _)) (fun q hq _ => o1 q hq) (by show H1[H.size]? = some (vp_cell _ _); rw [hcell]; exact e1)) (hG.up (Or.inr hsz)) ⟨Nat.le_trans hS.1 (by omega), fun x h1 h2 => (o1 x (Nat.lt_of_lt_of_le h1 hS.1)).trans (hS.2.1 x h1 h2), hS.2.2⟩ hL T hT (stand_widen S (by omega) (by omega))
theorem g_newr (ok : Ok X yM cc nL rT hH lV kB) {index : Nat} {i : Int32} {n : Nat} (hcl : Cond.classLink yM.cls index "java/lang/Object" ∈ lw_all) (hd : decode cc pc = .ok (.anewarray index, 3)) (hi : i = nI n) (hn : n < 60000) (hk : kc + (n + 1) ≤ kB)
    (kk : ∀ a, hA a = none → X.G.kh a = none → X.h0 a = none → GW X (up hA a (aR X.G n (fun _ => none))) (kc + (n + 1)) (pc + 3) ls (.ref a :: st)) : GW X hA kc pc ls (.int i :: st) := by
  subst hi
  intro H locs la hP hG hS hL
  obtain ⟨r1, r2, r3, r4⟩ := ok.rm
  have hc9 := nI_clamp (n := n) (by omega)
  refine W.anew ok.x ok.b ok.own (ok.ts _ hcl) (va_AO.use ok.tab.2.2.1) rfl hd rfl (nI_pos (by omega)) (by rw [hc9]; omega) (by omega) (by rw [hc9]; omega) fun cA kA comp f1 f2 f3 f4 => ?_
  rw [hc9]
  generalize hH1 : H.push ({ cls := cA, slots := Array.replicate n .null, vm := .none } : Cell) = H1
  have z1 : H1.size = H.size + 1 := by rw [← hH1, Array.size_push]
  have e1 : H1[H.size]? = some (arrV cA n (fun _ => .null)) := by rw [← hH1, Array.getElem?_push_size, ← arrV_new]
  have o1 : ∀ q : Nat, q < H.size → H1[q]? = H[q]? := fun q hq => by rw [← hH1, Array.getElem?_push, if_neg (Nat.ne_of_lt hq)]
  have hsz : X.s.heap.size ≤ H.size := hS.1
  have hcA : cA = X.G.2.1 5 := by
    obtain ⟨j, hj⟩ := List.getElem?_of_mem (gt_r X.G)
    obtain ⟨kA9, comp9, g1, g2, g3, g4⟩ := (ok.k.2 j _ hj).2
    exact Option.some.inj (f1.symm.trans g4)
  subst hcA
  intro T hT S
  exact kk H.size hP.fresh.1 hP.fresh.2 (ok.fresh hsz) H1 locs la (hP.upd (Or.inr (Nat.le_refl _)) (fun q hq _ => o1 q hq) (by show H1[H.size]? = some (vp_cell _ _); rw [vp_cell_q]; exact e1)) (hG.up (Or.inr hsz)) ⟨Nat.le_trans hS.1 (by omega), fun x h1 h2 => (o1 x (Nat.lt_of_lt_of_le h1 hS.1)).trans (hS.2.1 x h1 h2), hS.2.2⟩ hL T hT (stand_widen S (by omega) (by omega))
end
