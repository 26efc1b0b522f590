/-! shapes of contracts; other rows -/
set_option maxRecDepth 100000
/-- every class of ours is an Object -/
theorem cast_obj {ci : Nat} {r : vw_C} (hc : gcl[ci]? = some r) (h18 : ci < 18) : Cond.castable r.1 "java/lang/Object" ∈ lw_tbl := by
  match ci, hc, h18 with
  | 0, hc, _ => cases hc; exact lw_at lw_m12 49 rfl
  | 1, hc, _ => cases hc; exact lw_at lw_m12 50 rfl
  | 2, hc, _ => cases hc; exact lw_at lw_m12 51 rfl
  | 3, hc, _ => cases hc; exact lw_at lw_m12 52 rfl
  | 4, hc, _ => cases hc; exact lw_at lw_m12 53 rfl
  | 5, hc, _ => cases hc; exact lw_at lw_m12 56 rfl
  | 6, hc, _ => cases hc; exact lw_at lw_m12 61 rfl
  | 7, hc, _ => cases hc; exact lw_at lw_m12 62 rfl
  | 8, hc, _ => cases hc; exact lw_at lw_m12 68 rfl
  | 9, hc, _ => cases hc; exact lw_at lw_m12 72 rfl
  | 10, hc, _ => cases hc; exact lw_at lw_m12 77 rfl
  | 11, hc, _ => cases hc; exact lw_at lw_m12 79 rfl
  | 12, hc, _ => cases hc; exact lw_at lw_m12 54 rfl
  | 13, hc, _ => cases hc; exact lw_at lw_m12 59 rfl
  | 14, hc, _ => cases hc; exact lw_at lw_m12 55 rfl
  | 15, hc, _ => cases hc; exact lw_at lw_m12 70 rfl
  | 16, hc, _ => cases hc; exact lw_at lw_m12 73 rfl
  | 17, hc, _ => cases hc; exact lw_at lw_m12 75 rfl
  | n + 18, hc, h => exact absurd h (by omega)
/-! ends of contracts by their shapes -/
def PV (v : Value) (h1 : AH) : Out → AH → Prop := fun o h' => o = .inl (some v) ∧ h' = h1
def PN (h1 : AH) : Out → AH → Prop := fun o h' => o = .inl none ∧ h' = h1
def PR (Q : Value → AH → Prop) : Out → AH → Prop := fun o h' => ∃ v, o = .inl (some v) ∧ Q v h'
def PQ (Q : AH → Prop) : Out → AH → Prop := fun o h' => o = .inl none ∧ Q h'
def PX (Q : Value → AH → Prop) (E : String → Nat → AH → Prop) : Out → AH → Prop := fun o h' => (∃ v, o = .inl (some v) ∧ Q v h') ∨ ∃ c q, o = .inr (c, q) ∧ E c q h'
/-- void, or throws -/
def PY (Q : AH → Prop) (E : String → Nat → AH → Prop) : Out → AH → Prop := fun o h' => (o = .inl none ∧ Q h') ∨ ∃ c q, o = .inr (c, q) ∧ E c q h'
section
variable {X : GX} {yM : MethodName} {cc : ByteArray} {nL : Nat} {rT : Option FieldType} {hH : List (Nat × Nat × Nat × Nat)} {lV kB : Nat} {hA h1 : AH} {kc kD pc : Nat} {ls : List (Option Value)} {st : List Value}
theorem kV {v : Value} (kk : GW X h1 kD pc ls (v :: st)) : ∀ w h', PV v h1 (.inl w) h' → GW X h' kD pc ls (w.toList ++ st) := by
  rintro w h' ⟨e1, e2⟩
  cases e1; cases e2; exact kk
theorem kN (kk : GW X h1 kD pc ls st) : ∀ w h', PN h1 (.inl w) h' → GW X h' kD pc ls (w.toList ++ st) := by
  rintro w h' ⟨e1, e2⟩
  cases e1; cases e2; exact kk
theorem kR {Q : Value → AH → Prop} (kk : ∀ v h', Q v h' → GW X h' kD pc ls (v :: st)) : ∀ w h', PR Q (.inl w) h' → GW X h' kD pc ls (w.toList ++ st) := by
  rintro w h' ⟨v, e1, e2⟩
  cases e1; exact kk v h' e2
theorem kQ {Q : AH → Prop} (kk : ∀ h', Q h' → GW X h' kD pc ls st) : ∀ w h', PQ Q (.inl w) h' → GW X h' kD pc ls (w.toList ++ st) := by
  rintro w h' ⟨e1, e2⟩
  cases e1; exact kk h' e2
theorem kX {Q : Value → AH → Prop} {E : String → Nat → AH → Prop} (kk : ∀ v h', Q v h' → GW X h' kD pc ls (v :: st)) : ∀ w h', PX Q E (.inl w) h' → GW X h' kD pc ls (w.toList ++ st) := by
  rintro w h' (⟨v, e1, e2⟩ | ⟨c, q, e1, e2⟩)
  · cases e1; exact kk v h' e2
  · cases e1
theorem kY {Q : AH → Prop} {E : String → Nat → AH → Prop} (kk : ∀ h', Q h' → GW X h' kD pc ls st) : ∀ w h', PY Q E (.inl w) h' → GW X h' kD pc ls (w.toList ++ st) := by
  rintro w h' (⟨e1, e2⟩ | ⟨c, q, e1, e2⟩)
  · cases e1; exact kk h' e2
  · cases e1
theorem xV {v : Value} {ls1 : List (Option Value)} {st1 : List Value} : ∀ E q h', PV v h1 (.inr (E, q)) h' → GWX X h' kD pc ls1 st1 E q := fun _ _ _ h => by cases h.1
theorem xN {ls1 : List (Option Value)} {st1 : List Value} : ∀ E q h', PN h1 (.inr (E, q)) h' → GWX X h' kD pc ls1 st1 E q := fun _ _ _ h => by cases h.1
theorem xR {Q : Value → AH → Prop} {ls1 : List (Option Value)} {st1 : List Value} : ∀ E q h', PR Q (.inr (E, q)) h' → GWX X h' kD pc ls1 st1 E q := fun _ _ _ ⟨_, h, _⟩ => by cases h
theorem xQ {Q : AH → Prop} {ls1 : List (Option Value)} {st1 : List Value} : ∀ E q h', PQ Q (.inr (E, q)) h' → GWX X h' kD pc ls1 st1 E q := fun _ _ _ h => by cases h.1
theorem xX {Q : Value → AH → Prop} {E : String → Nat → AH → Prop} {ls1 : List (Option Value)} {st1 : List Value} (kk : ∀ c q h', E c q h' → GWX X h' kD pc ls1 st1 c q) : ∀ c q h', PX Q E (.inr (c, q)) h' → GWX X h' kD pc ls1 st1 c q := by
  rintro c q h' (⟨v, e1, e2⟩ | ⟨c, q, e1, e2⟩)
  · cases e1
  · cases e1; exact kk _ _ h' e2
theorem xY {Q : AH → Prop} {E : String → Nat → AH → Prop} {ls1 : List (Option Value)} {st1 : List Value} (kk : ∀ c q h', E c q h' → GWX X h' kD pc ls1 st1 c q) : ∀ c q h', PY Q E (.inr (c, q)) h' → GWX X h' kD pc ls1 st1 c q := by
  rintro c q h' (⟨e1, e2⟩ | ⟨c, q, e1, e2⟩)
  · cases e1
  · cases e1; exact kk _ _ h' e2
/-! other rows -/
theorem g_objInit (ok : Ok X yM cc nL rT hH lV kB) {idx a : Nat} (w1 : Cond.methodLink yM.cls idx Lib.objectInit ∈ lw_all) (w2 : Cond.instanceMethod Lib.objectInit ∈ lw_all) (w3 : Cond.code Lib.objectInit ⟨#[0xb1]⟩ 1 none ∈ lw_all) (hd : decode cc pc = .ok (.invokespecial idx, 3)) (hLv : 1 ≤ lV) (hln : ls.length = nL) (hs : (st.map fun v => v.category).sum ≤ 8) (kk : GW X hA kc (pc + 3) ls st) : GW X hA kc pc ls (.ref a :: st) := by
  intro H locs la hP hG hS hL
  obtain ⟨r1, r2, r3, r4⟩ := ok.rm
  exact W.objInit ok.x ok.b ok.own (ok.ts _ w1) (ok.ts _ w2) (ok.ts _ w3) rfl (by rw [ok.ml]; exact hL.1.trans hln) rfl hd (by omega) (by show 2 * 0 + _ + 12 ≤ _; omega) (kk H locs la hP hG hS hL)
theorem g_max (ok : Ok X yM cc nL rT hH lV kB) {index : Nat} {x y : Int32} (w1 : Cond.methodLink yM.cls index Lib.Math.max.name ∈ lw_all) (w2 : Cond.static Lib.Math.max.name ∈ lw_all) (w3 : Cond.initialized "java/lang/Math" ∈ lw_all) (w4 : Cond.code Lib.Math.max.name Lib.Math.max.code 2 (some .int) ∈ lw_all) (hd : decode cc pc = .ok (.invokestatic index, 3)) (hLv : 1 ≤ lV) (hln : ls.length = nL) (hs : (st.map fun v => v.category).sum ≤ 8) (hk : kc ≤ kB)
    (kk : GW X hA kc (pc + 3) ls (.int (if x < y then y else x) :: st)) : GW X hA kc pc ls (.int y :: .int x :: st) := by
  intro H locs la hP hG hS hL
  obtain ⟨r1, r2, r3, r4⟩ := ok.rm
  exact va_mmax ok.x ok.b (by rw [ok.ml]; exact (hL.1.trans hln).symm) ok.own (ok.ts _ w1) (ok.ts _ w2) (ok.ts _ w3) (ok.ts _ w4) (by omega) (by omega) (by omega) (by omega) hd (kk H locs la hP hG hS hL)
theorem g_min (ok : Ok X yM cc nL rT hH lV kB) {index : Nat} {x y : Int32} (w1 : Cond.methodLink yM.cls index Lib.Math.min.name ∈ lw_all) (w2 : Cond.static Lib.Math.min.name ∈ lw_all) (w3 : Cond.initialized "java/lang/Math" ∈ lw_all) (w4 : Cond.code Lib.Math.min.name Lib.Math.min.code 2 (some .int) ∈ lw_all) (hd : decode cc pc = .ok (.invokestatic index, 3)) (hLv : 1 ≤ lV) (hln : ls.length = nL) (hs : (st.map fun v => v.category).sum ≤ 8) (hk : kc ≤ kB)
    (kk : GW X hA kc (pc + 3) ls (.int (if y < x then y else x) :: st)) : GW X hA kc pc ls (.int y :: .int x :: st) := by
  intro H locs la hP hG hS hL
  obtain ⟨r1, r2, r3, r4⟩ := ok.rm
  exact va_mmin ok.x ok.b (by rw [ok.ml]; exact (hL.1.trans hln).symm) ok.own (ok.ts _ w1) (ok.ts _ w2) (ok.ts _ w3) (ok.ts _ w4) (by omega) (by omega) (by omega) (by omega) hd (kk H locs la hP hG hS hL)
theorem g_abs (ok : Ok X yM cc nL rT hH lV kB) {index : Nat} {x : Int32} (w1 : Cond.methodLink yM.cls index Lib.Math.abs.name ∈ lw_all) (w2 : Cond.static Lib.Math.abs.name ∈ lw_all) (w3 : Cond.initialized "java/lang/Math" ∈ lw_all) (w4 : Cond.code Lib.Math.abs.name Lib.Math.abs.code 1 (some .int) ∈ lw_all) (hd : decode cc pc = .ok (.invokestatic index, 3)) (hLv : 1 ≤ lV) (hln : ls.length = nL) (hs : (st.map fun v => v.category).sum ≤ 8) (hk : kc ≤ kB)
    (kk : GW X hA kc (pc + 3) ls (.int (if 0 ≤ x then x else 0 - x) :: st)) : GW X hA kc pc ls (.int x :: st) := by
  intro H locs la hP hG hS hL
  obtain ⟨r1, r2, r3, r4⟩ := ok.rm
  exact va_mabs ok.x ok.b (by rw [ok.ml]; exact (hL.1.trans hln).symm) ok.own (ok.ts _ w1) (ok.ts _ w2) (ok.ts _ w3) (ok.ts _ w4) (by omega) (by omega) (by omega) (by omega) hd (kk H locs la hP hG hS hL)
/-- checkcast of an object of class C to the class nm -/
theorem g_castY (ok : Ok X yM cc nL rT hH lV kB) {a index : Nat} {C nm : String} (hlink : Cond.classLink yM.cls index nm ∈ lw_all) (hc : Cond.castable C nm ∈ lw_tbl) (hd : decode cc pc = .ok (.checkcast index, 3)) (hb : Recv X hA a C) (kk : GW X hA kc (pc + 3) ls (.ref a :: st)) : GW X hA kc pc ls (.ref a :: st) :=
  fun H locs la hP hG hS hL => va_castY ok.x ok.b ok.own (ok.ts _ hlink) (ok.tw hc rfl) (hb H hP) hd (kk H locs la hP hG hS hL)
/-- .. to its own class -/
theorem g_castE (ok : Ok X yM cc nL rT hH lV kB) {a index : Nat} {nm : String} (hlink : Cond.classLink yM.cls index nm ∈ lw_all) (hd : decode cc pc = .ok (.checkcast index, 3)) (hb : Recv X hA a nm) (kk : GW X hA kc (pc + 3) ls (.ref a :: st)) : GW X hA kc pc ls (.ref a :: st) :=
  fun H locs la hP hG hS hL => va_castE ok.x ok.b ok.own (ok.ts _ hlink) (hb H hP) hd (kk H locs la hP hG hS hL)
theorem g_instY (ok : Ok X yM cc nL rT hH lV kB) {a index : Nat} {C nm : String} (hlink : Cond.classLink yM.cls index nm ∈ lw_all) (hc : Cond.castable C nm ∈ lw_tbl) (hd : decode cc pc = .ok (.instanceof index, 3)) (hb : Recv X hA a C) (kk : GW X hA kc (pc + 3) ls (.int 1 :: st)) : GW X hA kc pc ls (.ref a :: st) :=
  fun H locs la hP hG hS hL => va_instY ok.x ok.b ok.own (ok.ts _ hlink) (ok.tw hc rfl) (hb H hP) hd (kk H locs la hP hG hS hL)
theorem g_instE (ok : Ok X yM cc nL rT hH lV kB) {a index : Nat} {nm : String} (hlink : Cond.classLink yM.cls index nm ∈ lw_all) (hd : decode cc pc = .ok (.instanceof index, 3)) (hb : Recv X hA a nm) (kk : GW X hA kc (pc + 3) ls (.int 1 :: st)) : GW X hA kc pc ls (.ref a :: st) :=
  fun H locs la hP hG hS hL => va_instE ok.x ok.b ok.own (ok.ts _ hlink) (hb H hP) hd (kk H locs la hP hG hS hL)
/-- an object of ours may lie in a row of Objects -/
theorem g_any (ok : Ok X yM cc nL rT hH lV kB) {H : Heap} (hP : Hp X.G hA X.s H) {ci a : Nat} {r : vw_C} {fs : List Value} (hc : gcl[ci]? = some r) (h18 : ci < 18) (hr : Rd X.G hA a (ob ci fs)) : va_Any "java/lang/Object" X.s H a := by
  obtain ⟨r2, cell, e1, q1, q2, q3, q4, q5⟩ := hP.rd ok.k hr
  have hcl : X.s.vm.findClass r.1 = some cell.cls := by rw [q2]; exact (ok.k.1 ci _ hc).2.1
  obtain ⟨kC, hkC, -⟩ := Vm.findClass_spec hcl
  refine ⟨cell, q1, q4, ⟨kC, hkC⟩, fun comp hcomp => ?_⟩
  obtain ⟨c0, t0, f1, f2, f3⟩ := Cond.castable_spec (va_Nw.use (A := X.args) rfl (ok.tw (cast_obj hc h18) rfl))
  cases hcl.symm.trans f1
  cases hcomp.symm.trans f2
  exact f3
theorem g_aast (ok : Ok X yM cc nL rT hH lV kB) {a n j v ci : Nat} {r : vw_C} {fs : List Value} {f : Nat → Option Nat} {i : Int32} (hd : decode cc pc = .ok (.aastore, 1)) (hr : hA a = some (aR X.G n f)) (hc : gcl[ci]? = some r) (h18 : ci < 18) (hv : Rd X.G hA v (ob ci fs)) (hi : i = nI j) (hj : j < n) (hn : n < 2 ^ 31) (kk : GW X (up hA a (aR X.G n (va_up f j (some v)))) kc (pc + 1) ls st) : GW X hA kc pc ls (.ref v :: .int i :: .ref a :: st) := by
  intro H locs la hP hG hS hL
  have e1 : H[a]? = some (arrV (X.G.2.1 5) n (fun j => va_rf (f j))) := hP.1 a _ hr
  obtain ⟨x1, x2⟩ := g_ix hi hj hn (Nat.le_refl n)
  have ha : hA a ≠ none := by rw [hr]; exact fun z => by cases z
  obtain ⟨cellV, g1, g3, ⟨kC, hkC⟩, hasg⟩ := g_any ok hP hc h18 hv
  obtain ⟨jt, hjt⟩ := List.getElem?_of_mem (gt_r X.G)
  obtain ⟨kA, comp, k1, k2, k3, -⟩ := (ok.k.2 jt _ hjt).2
  obtain ⟨kE, hkE, -⟩ := Vm.findClass_spec k3
  refine W.aast ok.x ok.b e1 (fun q h => by cases h) (fun h => by cases h) k1 k2 rfl hkE ⟨fun q => x1 (Or.inl q), by rw [arrV_size, x2]; exact hj⟩ g1 (fun q h => by rw [h] at g3; cases g3) hkC (hasg _ k3) rfl rfl hd fun H1 e z oq => kk H1 _ la (hP.upd (Or.inl ha) (fun q _ hq => oq q hq) ?_) (hG.up (Or.inl ha)) (hS.put z oq (hG a ha)) hL
  show H1[a]? = some (vp_cell _ _)
  rw [e, vp_cell_q, arrV_store, x2]
  congr 2
  funext q
  by_cases hq : q = j
  · subst hq; simp [updV, va_up, va_rf]
  · simp [updV, va_up, hq]
theorem g_aastN (ok : Ok X yM cc nL rT hH lV kB) {a n j : Nat} {f : Nat → Option Nat} {i : Int32} (hd : decode cc pc = .ok (.aastore, 1)) (hr : hA a = some (aR X.G n f)) (hi : i = nI j) (hj : j < n) (hn : n < 2 ^ 31) (kk : GW X (up hA a (aR X.G n (va_up f j none))) kc (pc + 1) ls st) : GW X hA kc pc ls (.null :: .int i :: .ref a :: st) := by
  intro H locs la hP hG hS hL
  have e1 : H[a]? = some (arrV (X.G.2.1 5) n (fun j => va_rf (f j))) := hP.1 a _ hr
  obtain ⟨x1, x2⟩ := g_ix hi hj hn (Nat.le_refl n)
  have ha : hA a ≠ none := by rw [hr]; exact fun z => by cases z
  refine va_WaastN (C := "java/lang/Object") ok.x ok.b e1 (g_arr ok.k (gt_r _) n _) (fun h => by cases h) (by rw [arrV_size]; exact x1) rfl rfl hd fun H1 e z oq => kk H1 _ la (hP.upd (Or.inl ha) (fun q _ hq => oq q hq) ?_) (hG.up (Or.inl ha)) (hS.put z oq (hG a ha)) hL
  show H1[a]? = some (vp_cell _ _)
  rw [e, vp_cell_q, arrV_store, x2]
  congr 2
  funext q
  by_cases hq : q = j
  · subst hq; simp [updV, va_up, va_rf]
  · simp [updV, va_up, hq]
/-- an interface's method -/
theorem g_callF (ok : Ok X yM cc nL rT hH lV kB) {x y : MethodName} {b ci : Nat} {r : vw_C} {bytes : ByteArray} {maxL Lc Kc index count : Nat} {ret : Option FieldType} {av st0 : List Value} {Pc : Out → AH → Prop}
    (w1 : Cond.methodLink yM.cls index x ∈ lw_all) (w2 : x ∈ ifl) (w3 : Cond.selects r.1 x y ∈ lw_all) (w4 : Cond.instanceMethod y ∈ lw_all) (w5 : Cond.publicMethod y ∈ lw_tbl) (w6 : Cond.unhidden r.1 x.name x.desc ∈ lw_tbl) (w7 : Cond.castable r.1 x.cls ∈ lw_tbl) (w8 : Cond.initialized y.cls ∈ lw_all) (w9 : Cond.code y bytes maxL ret ∈ lw_all) (hc : gcl[ci]? = some r) (hb : Recv X hA b r.1)
    (hd : decode cc pc = .ok (.invokeinterface index count, 5)) (hM : GM X.l X.G y (ws_ y bytes maxL ret) Lc (.ref b :: av) hA Kc Pc)
    (hn : Nm x av.length) (hLv : Lc < lV) (hml : maxL ≤ 100) (hln : ls.length = nL) (hst : av.reverse ++ .ref b :: st = st0) (hs : (st.map fun v => v.category).sum ≤ 8) (hk : kc + Kc ≤ kB)
    (kk : ∀ v h', Pc (.inl v) h' → GW X h' (kc + Kc) (pc + 5) ls (v.toList ++ st)) (kx : ∀ E q h', Pc (.inr (E, q)) h' → GWX X h' (kc + Kc) pc ls st E q) : GW X hA kc pc ls st0 := by
  intro H locs la hP hG hS hL T hT S
  obtain ⟨r1, r2, r3, r4⟩ := ok.rm
  have hif := ok.tab.2.2.2.1 _ w2
  have hr := vx_runF (e := X.e) (meth := X.meth) (below := X.below) (count := count) (g := F0 X.m pc la st0) (rest := st) (ok.k.1 ci _ hc).2 ok.1 (hM ok.tr H.size) (C := r.1) (x := x) (n := av.length)
    (⟨⟨rfl, rfl, (g_rm ok hLv hml).1, (g_rm ok hLv hml).2, pay_in ok.ts (lw_meth w9), List.mem_cons_self⟩, ok.ts _ w1, va_any rfl hif.1, va_any rfl hif.2, ok.ts _ w3, ok.ts _ w4, va_Nw.use rfl (ok.tw w5 rfl), va_Nw.use rfl (ok.tw w6 rfl), va_Nw.use rfl (ok.tw w7 rfl), ok.ts _ w8, ok.ts _ w9, ⟨hn.1, hn.2.1⟩, fun sig h => by have h2 := hn.2.2; rw [h] at h2; exact (Option.some.inj h2).symm⟩ : va_CI X.R X.s X.args yM.cls r.1 index x y bytes maxL ret (ws_ y bytes maxL ret) (rmL Lc Kc) Kc Kc av.length)
    (g_preV ok hP hb) rfl rfl (hL.1.trans hln) hst.symm (lv_room hs) hd (cells := kc) (slots := kc) (locs := locs) ⟨by omega, by omega⟩
  have hA0 : ∀ q, q < H.size → gA hA H.size q → gA X.h0 X.s.heap.size q := by
    intro q hq h
    rcases h with h | h
    · exact hG q h
    · omega
  have hF0 : ∀ q, gA hA H.size q → gA X.h0 X.s.heap.size q := by
    intro q h
    rcases h with h | h
    · exact hG q h
    · exact Or.inr (Nat.le_trans hS.1 h)
  rcases hr T hT S with ⟨v, st₀, t, T', L, g0, S', hLf, e1, e2, ⟨v', h', hv, hp, hPh, hgr, hF⟩, go⟩ | ⟨q, st₀, t, T', L, E, ce, g0, S', hLf, e1, e2, ⟨h', hp, hPh, hgr, hF⟩, hce, hcv, hcl, stp⟩
  · cases hv
    obtain ⟨k1, k2, k3⟩ := vx_keep g0 e1 hS hA0 hF0 hLf hF
    have hal : X.s.vm.Alike t.vm := by rw [← e2]; exact S'.warmed.alike
    obtain ⟨t2, a1, b1⟩ := kk v h' hp T'.heap (locs ++ L) la (by rw [e1]; exact hPh.moved hal.symm) (fun q hq => hF0 q (hgr q hq)) k3 hL T' rfl S'
    exact ⟨t2, go t2 a1, b1⟩
  · obtain ⟨k1, k2, k3⟩ := vx_keep g0 e1 hS hA0 hF0 hLf hF
    have hal : X.s.vm.Alike t.vm := by rw [← e2]; exact S'.warmed.alike
    obtain ⟨t2, a1, b1⟩ := kx E q h' hp T'.heap (locs ++ L) la ce (by rw [e1]; exact hPh.moved hal.symm) (fun q hq => hF0 q (hgr q hq)) k3 hL (by rw [e1]; exact hce) hcv hcl T' rfl S'
    exact ⟨t2, stp.trans a1, b1⟩
/-! System.arraycopy -/
theorem g_nn {z : Int32} {n : Nat} (h : z = nI n) (hn : n < 2 ^ 31) : ¬ z < 0 ∧ z.toNatClampNeg = n ∧ z.toInt = (n : Int) := by
  subst h
  exact ⟨nI_pos hn, nI_clamp hn, nI_toInt hn⟩
theorem g_copyi (ok : Ok X yM cc nL rT hH lV kB) {index b0 a ai n0 n1 sp dp n : Nat} {ty : FieldType} {f g : Nat → Int32} {isp idp inn : Int32} (w1 : Cond.methodLink yM.cls index arraycopyName ∈ lw_all) (w2 : Cond.native arraycopyName ∈ lw_all) (w3 : Cond.static arraycopyName ∈ lw_all) (w4 : Cond.initialized "java/lang/System" ∈ lw_all) (ht : (X.G.2.1 ai, ty) ∈ gtys X.G) (hprim : refKind ty = false)
    (hd : decode cc pc = .ok (.invokestatic index, 3)) (hr0 : Rd X.G hA b0 (.inl (X.G.2.1 ai, n0, .inl f))) (hr : hA a = some (.inl (X.G.2.1 ai, n1, .inl g))) (hfit : ∀ i : Nat, i < n → fits ty (.int (f (sp + i))) = true) (e1 : isp = nI sp) (e2 : idp = nI dp) (e3 : inn = nI n) (hb0 : sp + n ≤ n0) (hb1 : dp + n ≤ n1) (hs0 : n0 < 2 ^ 31) (hs1 : n1 < 2 ^ 31) (hLv : 1 ≤ lV) (hln : ls.length = nL) (hs : (st.map fun v => v.category).sum ≤ 8)
    (kk : GW X (up hA a (.inl (X.G.2.1 ai, n1, .inl (va_cpy f g sp dp n)))) kc (pc + 3) ls st) : GW X hA kc pc ls (.int inn :: .int idp :: .ref a :: .int isp :: .ref b0 :: st) := by
  intro H locs la hP hG hS hL T hT S
  obtain ⟨r1, r2, r3, r4⟩ := ok.rm
  obtain ⟨x1, x2, x3⟩ := g_nn e1 (by omega)
  obtain ⟨y1, y2, y3⟩ := g_nn e2 (by omega)
  obtain ⟨z1, z2, z3⟩ := g_nn e3 (by omega)
  obtain ⟨scr, s1, s2, s3, s4, s5, s6⟩ := hP.rd ok.k hr0
  have hc1 : H[a]? = some (vp_cell (X.G.2.1 ai) (n1, .inl g)) := hP.1 a _ hr
  obtain ⟨hs6, k0, hk0, cm0, hkk0⟩ := s2 ty ht
  obtain ⟨-, k1, hk1, cm1, hkk1⟩ := g_arr ok.k ht n1 (fun j => .int (g j))
  have hml : X.c.maxLocals = la.size := by rw [ok.ml]; exact (hL.1.trans hln).symm
  have h9 : nativeFrameWords "java/lang/System" "arraycopy" 5 ≤ 100 := by decide
  have s4 : n0 ≤ scr.slots.size := s4
  obtain ⟨vm', X', step⟩ := S.arraycopy ok.x ok.own (ok.ts _ w1) (ok.ts _ w2) (ok.ts _ w3) (ok.ts _ w4) (src := b0) (dst := a) (cs := scr) (cd := vp_cell (X.G.2.1 ai) (n1, .inl g)) (srcPos := isp) (destPos := idp) (n := inn) (by rw [hT]; exact s1) (by rw [hT]; exact hc1)
    hs6 (fun _ h => by cases h) s3 (fun h => by cases h) hk0 hk1 hkk0 hkk1 (by simp [hprim]) x1 y1 z1
    (by rw [x3, z3]; omega)
    (by rw [y3, z3]; show ¬ _ > ((arrV (X.G.2.1 ai) n1 (fun j => .int (g j))).slots.size : Int); rw [arrV_size]; omega)
    (fun vm₁ _ i hi => by
      rw [z2] at hi
      have e : scr.slots.getD (isp.toNatClampNeg + i) .null = .int (f (sp + i)) := by
        rw [x2, Array.getD_eq_getD_getElem?, s6 _ (by show sp + i < n0; omega)]
        rfl
      refine ⟨?_, ?_⟩
      · rw [e]
        exact hfit i hi
      · rw [e]
        exact trivial)
    (g := F0 X.m pc la (.int inn :: .int idp :: .ref a :: .int isp :: .ref b0 :: st)) rfl (by rw [hml]) (rest := st) rfl (by rw [ok.b]; exact hd) (by omega) (by show 2 * 0 + _ + _ ≤ _; omega)
  have e9 : copied scr (vp_cell (X.G.2.1 ai) (n1, .inl g)) isp idp inn = vp_cell (X.G.2.1 ai) (n1, .inl (va_cpy f g sp dp n)) := by
    have := va_copiedX (fun z => .int z) scr (X.G.2.1 ai) (n0 := n0) (n1 := n1) (sp := sp) (dp := dp) (n := n) f g (fun j hj => s6 j hj) hb0
    show (arrV (X.G.2.1 ai) n1 (fun j => .int (g j))).storeRun idp.toNatClampNeg (scr.stretch isp.toNatClampNeg inn.toNatClampNeg) = _
    rw [x2, y2, z2]
    exact this
  rw [e9] at X' step
  have hl : a < H.size := (Array.getElem?_eq_some_iff.mp hc1).1
  have ha : hA a ≠ none := by rw [hr]; exact fun z => by cases z
  have hheap : ((T.setVm vm').setCell a (vp_cell (X.G.2.1 ai) (n1, .inl (va_cpy f g sp dp n)))).heap = H.setIfInBounds a (vp_cell (X.G.2.1 ai) (n1, .inl (va_cpy f g sp dp n))) := by rw [← hT]; rfl
  have oq : ∀ q : Nat, q ≠ a → (H.setIfInBounds a (vp_cell (X.G.2.1 ai) (n1, .inl (va_cpy f g sp dp n))))[q]? = H[q]? := fun q hq => by simp [Array.getElem?_setIfInBounds, Ne.symm hq]
  obtain ⟨t, a1, b1⟩ := kk _ _ la (hP.upd (Or.inl ha) (fun q _ hq => oq q hq) (show (H.setIfInBounds a _)[a]? = some _ by simp [Array.getElem?_setIfInBounds, hl])) (hG.up (Or.inl ha)) ⟨by simp; exact hS.1, fun q g1 g2 => by
      rw [oq q (fun e => g2 (by rw [e]; exact hG a ha))]
      exact hS.2.1 q g1 g2, fun q hq => by
      rcases List.mem_append.mp hq with h | h
      · exact hS.2.2 q h
      · obtain ⟨z, -, hz⟩ := List.mem_map.mp h
        rw [← hz]
        exact hG a ha⟩ hL _ hheap X'
  exact ⟨t, step t a1, b1⟩
theorem g_copyr (ok : Ok X yM cc nL rT hH lV kB) {index b0 a n0 n1 sp dp n : Nat} {f g : Nat → Option Nat} {isp idp inn : Int32} (w1 : Cond.methodLink yM.cls index arraycopyName ∈ lw_all) (w2 : Cond.native arraycopyName ∈ lw_all) (w3 : Cond.static arraycopyName ∈ lw_all) (w4 : Cond.initialized "java/lang/System" ∈ lw_all)
    (hd : decode cc pc = .ok (.invokestatic index, 3)) (hr0 : Rd X.G hA b0 (aR X.G n0 f)) (hr : hA a = some (aR X.G n1 g)) (hel : ∀ i : Nat, i < n → ∀ y : Nat, f (sp + i) = some y → ∃ ci fs, ci < 18 ∧ Rd X.G hA y (ob ci fs)) (e1 : isp = nI sp) (e2 : idp = nI dp) (e3 : inn = nI n) (hb0 : sp + n ≤ n0) (hb1 : dp + n ≤ n1) (hs0 : n0 < 2 ^ 31) (hs1 : n1 < 2 ^ 31) (hLv : 1 ≤ lV) (hln : ls.length = nL) (hs : (st.map fun v => v.category).sum ≤ 8)
    (kk : GW X (up hA a (aR X.G n1 (va_cpy f g sp dp n))) kc (pc + 3) ls st) : GW X hA kc pc ls (.int inn :: .int idp :: .ref a :: .int isp :: .ref b0 :: st) := by
  intro H locs la hP hG hS hL T hT S
  obtain ⟨r1, r2, r3, r4⟩ := ok.rm
  obtain ⟨x1, x2, x3⟩ := g_nn e1 (by omega)
  obtain ⟨y1, y2, y3⟩ := g_nn e2 (by omega)
  obtain ⟨z1, z2, z3⟩ := g_nn e3 (by omega)
  obtain ⟨scr, s1, s2, s3, s4, s5, s6⟩ := hP.rd ok.k hr0
  have hc1 : H[a]? = some (vp_cell (X.G.2.1 5) (n1, .inr (.inr (.inr (.inr g))))) := hP.1 a _ hr
  obtain ⟨hs6, k0, hk0, cm0, hkk0⟩ := s2 _ (gt_r X.G)
  obtain ⟨-, k1, hk1, cm1, hkk1⟩ := g_arr ok.k (gt_r X.G) n1 (fun j => va_rf (g j))
  have hml : X.c.maxLocals = la.size := by rw [ok.ml]; exact (hL.1.trans hln).symm
  have h9 : nativeFrameWords "java/lang/System" "arraycopy" 5 ≤ 100 := by decide
  have s4 : n0 ≤ scr.slots.size := s4
  obtain ⟨vm', X', step⟩ := S.arraycopy ok.x ok.own (ok.ts _ w1) (ok.ts _ w2) (ok.ts _ w3) (ok.ts _ w4) (src := b0) (dst := a) (cs := scr) (cd := vp_cell (X.G.2.1 5) (n1, .inr (.inr (.inr (.inr g))))) (srcPos := isp) (destPos := idp) (n := inn) (by rw [hT]; exact s1) (by rw [hT]; exact hc1)
    hs6 (fun _ h => by cases h) s3 (fun h => by cases h) hk0 hk1 hkk0 hkk1 rfl x1 y1 z1
    (by rw [x3, z3]; omega)
    (by rw [y3, z3]; show ¬ _ > ((arrV (X.G.2.1 5) n1 (fun j => va_rf (g j))).slots.size : Int); rw [arrV_size]; omega)
    (fun vm₁ hal i hi => by
      rw [z2] at hi
      have e : scr.slots.getD (isp.toNatClampNeg + i) .null = va_rf (f (sp + i)) := by
        rw [x2, Array.getD_eq_getD_getElem?, s6 _ (by show sp + i < n0; omega)]
        rfl
      rw [e]
      cases hy : f (sp + i) with
      | none => exact ⟨rfl, trivial⟩
      | some y =>
        obtain ⟨ci, fs, h18, hry⟩ := hel i hi y hy
        obtain ⟨r, hc⟩ : ∃ r, gcl[ci]? = some r := ⟨_, List.getElem?_eq_getElem (by show ci < 23; omega)⟩
        obtain ⟨cellV, g1, g2, ⟨kC, hkC⟩, hasg⟩ := g_any ok hP hc h18 hry
        obtain ⟨jt, hjt⟩ := List.getElem?_of_mem (gt_r X.G)
        obtain ⟨kA, comp, r1, r2, r3, -⟩ := (ok.k.2 jt _ hjt).2
        cases hk1.symm.trans r1
        cases hkk1.symm.trans r2
        obtain ⟨kE, hkE, -⟩ := Vm.findClass_spec r3
        obtain ⟨kC', hkC', -⟩ := hal.2.2 _ _ hkC
        obtain ⟨kE', hkE', -⟩ := hal.2.2 _ _ hkE
        refine ⟨rfl, cellV, (show T.heap[y]? = some cellV by rw [hT]; exact g1), (fun q h => by rw [h] at g2; cases g2), ⟨kC', hkC'⟩, ?_, ?_⟩
        · exact ⟨kE', hkE'⟩
        · show vm₁.assignable _ _ = true
          rw [hal.assignable]
          exact hasg _ r3)
    (g := F0 X.m pc la (.int inn :: .int idp :: .ref a :: .int isp :: .ref b0 :: st)) rfl (by rw [hml]) (rest := st) rfl (by rw [ok.b]; exact hd) (by omega) (by show 2 * 0 + _ + _ ≤ _; omega)
  have e9 : copied scr (vp_cell (X.G.2.1 5) (n1, .inr (.inr (.inr (.inr g))))) isp idp inn = vp_cell (X.G.2.1 5) (n1, .inr (.inr (.inr (.inr (va_cpy f g sp dp n))))) := by
    have := va_copiedX (fun z => va_rf z) scr (X.G.2.1 5) (n0 := n0) (n1 := n1) (sp := sp) (dp := dp) (n := n) f g (fun j hj => s6 j hj) hb0
    show (arrV (X.G.2.1 5) n1 (fun j => va_rf (g j))).storeRun idp.toNatClampNeg (scr.stretch isp.toNatClampNeg inn.toNatClampNeg) = _
    rw [x2, y2, z2]
    exact this
  rw [e9] at X' step
  have hl : a < H.size := (Array.getElem?_eq_some_iff.mp hc1).1
  have ha : hA a ≠ none := by rw [hr]; exact fun z => by cases z
  generalize hcell : vp_cell (X.G.2.1 5) (n1, .inr (.inr (.inr (.inr (va_cpy f g sp dp n))))) = cl9 at X' step
  have hheap : ((T.setVm vm').setCell a cl9).heap = H.setIfInBounds a cl9 := by rw [← hT]; rfl
  have oq : ∀ q : Nat, q ≠ a → (H.setIfInBounds a cl9)[q]? = H[q]? := fun q hq => by simp [Array.getElem?_setIfInBounds, Ne.symm hq]
  obtain ⟨t, a1, b1⟩ := kk _ _ la (hP.upd (Or.inl ha) (fun q _ hq => oq q hq) (show (H.setIfInBounds a cl9)[a]? = some (vp_cell (X.G.2.1 5) (n1, .inr (.inr (.inr (.inr (va_cpy f g sp dp n)))))) by rw [hcell]; simp [Array.getElem?_setIfInBounds, hl])) (hG.up (Or.inl ha)) ⟨by simp; exact hS.1, fun q g1 g2 => by
      rw [oq q (fun e => g2 (by rw [e]; exact hG a ha))]
      exact hS.2.1 q g1 g2, fun q hq => by
      rcases List.mem_append.mp hq with h | h
      · exact hS.2.2 q h
      · obtain ⟨z, -, hz⟩ := List.mem_map.mp h
        rw [← hz]
        exact hG a ha⟩ hL _ hheap X'
  exact ⟨t, step t a1, b1⟩
end
