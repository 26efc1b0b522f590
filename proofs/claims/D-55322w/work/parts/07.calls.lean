/-! a method's start, its ends, its calls -/
set_option maxRecDepth 100000
def ent (n : Nat) (av : List Value) : List (Option Value) := (av.flatMap fun v => if v.category = 2 then [some v, none] else [some v]) ++ List.replicate (n - (av.flatMap fun v => if v.category = 2 then [some v, none] else [some v]).length) none
theorem ent_mem (av : List Value) : ∀ (n k i : Nat) (v : Value), ((av.flatMap fun v => if v.category = 2 then [some v, none] else [some v]) ++ List.replicate n none)[i]? = some (some v) → (k + i, v) ∈ lv_args k av := by
  induction av with
  | nil =>
    intro n k i v h
    simp only [List.flatMap_nil, List.nil_append, List.getElem?_replicate] at h
    split at h <;> cases h
  | cons a r ih =>
    intro n k i v h
    by_cases hc : a.category = 2
    · simp only [List.flatMap_cons, hc, if_true] at h
      match i, h with
      | 0, h => simp at h; subst h; exact List.mem_cons_self
      | 1, h => simp at h
      | i + 2, h =>
        have h1 := ih n (k + 2) i v (by simpa using h)
        simp only [lv_args, hc, if_true]
        exact List.mem_cons_of_mem _ (by rw [show k + (i + 2) = k + 2 + i by omega]; exact h1)
    · simp only [List.flatMap_cons, hc, if_false] at h
      match i, h with
      | 0, h => simp at h; subst h; exact List.mem_cons_self
      | i + 1, h =>
        have h1 := ih n (k + 1) i v (by simpa using h)
        simp only [lv_args, hc, if_false]
        exact List.mem_cons_of_mem _ (by rw [show k + (i + 1) = k + 1 + i by omega]; exact h1)
theorem ent_len {n : Nat} {av : List Value} (h : (lg_sl av).length ≤ n) : (ent n av).length = n := by
  have e : (av.flatMap fun v => if v.category = 2 then [some v, none] else [some v]).length = (lg_sl av).length := by
    unfold lg_sl
    induction av with
    | nil => rfl
    | cons a r ih =>
      have ih := ih (by unfold lg_sl at h ⊢; simp only [List.flatMap_cons, List.length_append] at h; omega)
      simp only [List.flatMap_cons, List.length_append, ih]
      split <;> rfl
  unfold ent
  rw [List.length_append, List.length_replicate, e]
  omega
theorem ent_gl {n : Nat} {av : List Value} (h : (lg_sl av).length ≤ n) : gl ((lg_sl av ++ List.replicate (n - (lg_sl av).length) Slot.unset).toArray) (ent n av) :=
  gl.of (lv_entry av h) (ent_len h) (fun i v hv => by have := ent_mem av _ 0 i v hv; rw [Nat.zero_add] at this; exact this)
theorem gPc.blind {G : GE} {av : List Value} {h : AH} {sz : Nat} : FrameBlind (gPc G av h sz) := by
  intro a U g mk x
  obtain ⟨x1, x2, x3, x4⟩ := x
  exact ⟨x1, x2, Tab.warm (U := U.calling g mk a) (State.WarmedH.refl U) x3, Hp.moved (U := U.calling g mk a) (Vm.Alike.refl U.vm) x4⟩
/-- A CONTRACT OUT OF A WALK -/
theorem GM.of {l : Launch} {G : GE} {y : MethodName} {cc : ByteArray} {nL : Nat} {ret : Option FieldType} {Lv K : Nat} {av : List Value} {h : AH} {P : Out → AH → Prop} (hy : plainName y.cls = true) (hlen : (lg_sl av).length ≤ nL)
    (body : ∀ X : GX, X.l = l → X.G = G → X.h0 = h → Ok X y cc nL ret [] Lv K → Fn X K P → GW X h 0 0 (ent nL av) []) : GM l G y (ws_ y cc nL ret) Lv av h K P := by
  intro hl sz
  refine vx_ofW (cc := cc) (maxL := nL) (ret := ret) hy rfl ?_
  intro p e s m args below meth c s₁ B hml htab hv
  obtain ⟨hav, hsz, hT, hP⟩ := hv
  subst hav
  subst hsz
  have hts := atoms_spec (ws := ws_ y cc nL ret) B.pre
  rw [lg_entry_eq]
  have ht : c.exceptionTable.toList = [] := List.eq_nil_iff_forall_not_mem.mpr (fun x hx => htab x hx)
  exact body (l, G, rmL Lv K, h, vx_MQ below (gQc G h s.heap.size P) (gXC G h s.heap.size P) av.toArray s K K (gA h s.heap.size), p, e, s, m, av.toArray, below, meth, c) rfl rfl rfl
    ⟨⟨B.exec, B.bytes, hml, findClass_of_methodNamed B.named, fun w hw => hts w (List.mem_cons_of_mem _ hw)⟩, hT, B.notSynchronized, (name_of_methodNamed B.named B.method).1, B.returns, ht, hl, ⟨Nat.le_refl _, Nat.le_refl _, Nat.le_refl _, Nat.le_refl _⟩, fun q hq => hP.lt hq, zq_area hP.2.2.2.2.1, zq_area hP.2.2.2.2.2⟩ rfl
    s.heap [] _ hP (fun q hq => Or.inl hq) va_S.rf (ent_gl hlen)
/-- .. of a method with handlers -/
theorem GM.ofH {l : Launch} {G : GE} {y : MethodName} {cc : ByteArray} {nL : Nat} {ret : Option FieldType} {hh : List (Nat × Nat × Nat × Nat)} {Lv K : Nat} {av : List Value} {h : AH} {P : Out → AH → Prop} (hy : plainName y.cls = true) (hlen : (lg_sl av).length ≤ nL)
    (body : ∀ X : GX, X.l = l → X.G = G → X.h0 = h → Ok X y cc nL ret hh Lv K → Fn X K P → GW X h 0 0 (ent nL av) []) : GM l G y (wsW_ y cc nL ret hh) Lv av h K P := by
  intro hl sz
  refine vx_ofWH (cc := cc) (maxL := nL) (ret := ret) (hh := hh) hy rfl ?_
  intro p e s m args below meth c s₁ B hml hv
  obtain ⟨hav, hsz, hT, hP⟩ := hv
  subst hav
  subst hsz
  have hts := atoms_spec (ws := wsW_ y cc nL ret hh) B.pre
  rw [lg_entry_eq]
  have ht : c.exceptionTable.toList = tableOf hh := vx_table (x := y) B (hts _ List.mem_cons_self)
  exact body (l, G, rmL Lv K, h, vx_MQ below (gQc G h s.heap.size P) (gXC G h s.heap.size P) av.toArray s K K (gA h s.heap.size), p, e, s, m, av.toArray, below, meth, c) rfl rfl rfl
    ⟨⟨B.exec, B.bytes, hml, findClass_of_methodNamed B.named, fun w hw => hts w (List.mem_cons_of_mem _ hw)⟩, hT, B.notSynchronized, (name_of_methodNamed B.named B.method).1, B.returns, ht, hl, ⟨Nat.le_refl _, Nat.le_refl _, Nat.le_refl _, Nat.le_refl _⟩, fun q hq => hP.lt hq, zq_area hP.2.2.2.2.1, zq_area hP.2.2.2.2.2⟩ rfl
    s.heap [] _ hP (fun q hq => Or.inl hq) va_S.rf (ent_gl hlen)
section
variable {X : GX} {yM : MethodName} {cc : ByteArray} {nL : Nat} {rT : Option FieldType} {hH : List (Nat × Nat × Nat × Nat)} {lV kB : Nat} {hA : AH} {kc pc : Nat} {ls : List (Option Value)} {st : List Value} {P : Out → AH → Prop}
/-! ends -/
theorem g_qc {H : Heap} {locs : List Loc} {t : State} {v : Option Value} (hP : Hp X.G hA X.s H) (hG : Gr X.h0 hA X.s.heap.size) (hS : va_S (gA X.h0 X.s.heap.size) X.s.heap H locs) (hp : P (.inl v) hA) (ht : t.heap = H) (hW : X.s.WarmedH t.vm) {args : Array Value} : gQc X.G X.h0 X.s.heap.size P args X.s (.returned v) t :=
  ⟨v, hA, rfl, hp, by rw [ht]; exact hP.moved hW.alike, hG, hS.F ht⟩
theorem g_iret (ok : Ok X yM cc nL rT hH lV kB) (fn : Fn X kB P) {v : Int32} (hr : rT = some .int) (hd : decode cc pc = .ok (.ireturn, 1)) (hp : P (.inl (some (.int v))) hA) (hk : kc ≤ kB) : GW X hA kc pc ls [.int v] := by
  intro H locs la hP hG hS hL T hT S
  have k := vx_ret (XC := gXC X.G X.h0 X.s.heap.size P) (W.iret (v := v) (ls := la) ok.x ok.b (ok.ret.trans hr) (fun t ht hW => g_qc (args := X.args) hP hG hS hp ht hW) hS.2.2 hd (hlocks := ok.locks)) T hT (stand_widen S hk hk)
  rw [show X.Q = _ from fn]; exact k
theorem g_zret (ok : Ok X yM cc nL rT hH lV kB) (fn : Fn X kB P) {v : Int32} {ty : FieldType} (hr : rT = some ty) (hn : narrow ty (.int v) = .int v) (hd : decode cc pc = .ok (.ireturn, 1)) (hp : P (.inl (some (.int v))) hA) (hk : kc ≤ kB) : GW X hA kc pc ls [.int v] := by
  intro H locs la hP hG hS hL T hT S
  have k := vx_ret (XC := gXC X.G X.h0 X.s.heap.size P) (W.zret (v := v) (ls := la) ok.x ok.b (ok.ret.trans hr) hn (fun t ht hW => g_qc (args := X.args) hP hG hS hp ht hW) hS.2.2 hd (hlocks := ok.locks)) T hT (stand_widen S hk hk)
  rw [show X.Q = _ from fn]; exact k
theorem g_fret (ok : Ok X yM cc nL rT hH lV kB) (fn : Fn X kB P) {v : UInt32} (hr : rT = some .float) (hd : decode cc pc = .ok (.freturn, 1)) (hp : P (.inl (some (.float v))) hA) (hk : kc ≤ kB) : GW X hA kc pc ls [.float v] := by
  intro H locs la hP hG hS hL T hT S
  have k := vx_ret (XC := gXC X.G X.h0 X.s.heap.size P) (W.fret (v := v) (ls := la) ok.x ok.b (ok.ret.trans hr) (fun t ht hW => g_qc (args := X.args) hP hG hS hp ht hW) hS.2.2 hd (hlocks := ok.locks)) T hT (stand_widen S hk hk)
  rw [show X.Q = _ from fn]; exact k
theorem g_dret (ok : Ok X yM cc nL rT hH lV kB) (fn : Fn X kB P) {v : UInt64} (hr : rT = some .double) (hd : decode cc pc = .ok (.dreturn, 1)) (hp : P (.inl (some (.double v))) hA) (hk : kc ≤ kB) : GW X hA kc pc ls [.double v] := by
  intro H locs la hP hG hS hL T hT S
  have k := vx_ret (XC := gXC X.G X.h0 X.s.heap.size P) (W.dret (v := v) (ls := la) ok.x ok.b (ok.ret.trans hr) (fun t ht hW => g_qc (args := X.args) hP hG hS hp ht hW) hS.2.2 hd (hlocks := ok.locks)) T hT (stand_widen S hk hk)
  rw [show X.Q = _ from fn]; exact k
theorem g_vret (ok : Ok X yM cc nL rT hH lV kB) (fn : Fn X kB P) (hr : rT = none) (hd : decode cc pc = .ok (.return_, 1)) (hp : P (.inl none) hA) (hk : kc ≤ kB) : GW X hA kc pc ls [] := by
  intro H locs la hP hG hS hL T hT S
  have k := vx_ret (XC := gXC X.G X.h0 X.s.heap.size P) (W.vret (ls := la) ok.x ok.b (ok.ret.trans hr) (fun t ht hW => g_qc (args := X.args) hP hG hS hp ht hW) hS.2.2 hd (hlocks := ok.locks)) T hT (stand_widen S hk hk)
  rw [show X.Q = _ from fn]; exact k
theorem g_aret (ok : Ok X yM cc nL rT hH lV kB) (fn : Fn X kB P) {v : Value} {rt : FieldType} (hr : rT = some rt) (hrt : (∃ n, rt = .object n) ∨ ∃ t, rt = .array t) (hv : v = .null ∨ ∃ a, v = .ref a) (hd : decode cc pc = .ok (.areturn, 1)) (hp : P (.inl (some v)) hA) (hk : kc ≤ kB) : GW X hA kc pc ls [v] := by
  intro H locs la hP hG hS hL T hT S
  have k := vx_ret (XC := gXC X.G X.h0 X.s.heap.size P) (W.aret (v := v) (ls := la) ok.x ok.b (ok.ret.trans hr) hrt hv (fun t ht hW => g_qc (args := X.args) hP hG hS hp ht hW) hS.2.2 hd (hlocks := ok.locks)) T hT (stand_widen S hk hk)
  rw [show X.Q = _ from fn]; exact k
/-! thrown things -/
/-- it leaves the method: no handler is for it -/
theorem g_out (ok : Ok X yM cc nL rT hH lV kB) (fn : Fn X kB P) {E : String} {q : Nat} (hpass : ∀ z ∈ tableOf hH, covers z pc = false ∨ (z.catchType ≠ 0 ∧ ∃ nm : String, Cond.classLink yM.cls z.catchType nm ∈ lw_all ∧ (E, nm) ∈ ncl)) (hp : P (.inr (E, q)) hA) (hk : kc ≤ kB) : GWX X hA kc pc ls st E q := by
  intro H locs la ce hP hG hS hL hc hv hcl
  rw [show X.Q = _ from fn]
  refine vx_outP ok.own ok.locks (fun z hz => ?_) hc hv hcl (fun t ht hA9 => ⟨hA, hp, by rw [ht]; exact hP.moved hA9, hG, hS.F ht⟩) hS.2.2 hk hk
  rw [ok.hh] at hz
  rcases hpass z hz with h | ⟨h1, nm, h2, h3⟩
  · exact Or.inl h
  · exact Or.inr ⟨h1, nm, ok.ts _ h2, ok.tab.2.2.2.2.1 _ h3⟩
/-- it is caught -/
theorem g_catch (ok : Ok X yM cc nL rT hH lV kB) {E name : String} {q tgt : Nat} (pre : List ExceptionTableEntry) (x : ExceptionTableEntry) (suf : List ExceptionTableEntry) (hsplit : tableOf hH = pre ++ x :: suf)
    (hpass : ∀ z ∈ pre, covers z pc = false ∨ (z.catchType ≠ 0 ∧ ∃ nm : String, Cond.classLink yM.cls z.catchType nm ∈ lw_all ∧ (E, nm) ∈ ncl)) (hx : covers x pc = true) (h0 : x.catchType ≠ 0) (hlink : Cond.classLink yM.cls x.catchType name ∈ lw_all) (hcast : Cond.castable E name ∈ lw_tbl) (ht : x.handlerPc = tgt)
    (kk : GW X hA kc tgt ls [.ref q]) : GWX X hA kc pc ls st E q := by
  subst ht
  intro H locs la ce hP hG hS hL hc hv hcl
  refine vx_catch ok.own pre x suf (ok.hh.trans hsplit) (fun z hz => ?_) hx h0 (ok.ts _ hlink) (va_Nw.use rfl (ok.tw hcast rfl)) hc hv hcl (kk H locs la hP hG hS hL)
  rcases hpass z hz with h | ⟨h1, nm, h2, h3⟩
  · exact Or.inl h
  · exact Or.inr ⟨h1, nm, ok.ts _ h2, ok.tab.2.2.2.2.1 _ h3⟩
theorem g_athrow (ok : Ok X yM cc nL rT hH lV kB) {ci q : Nat} {r : vw_C} {fs : List Value} (hc : gcl[ci]? = some r) (hd : decode cc pc = .ok (.athrow, 1)) (hr : hA q = some (ob ci fs)) (kk : GWX X hA kc pc ls st r.1 q) : GW X hA kc pc ls (.ref q :: st) := by
  intro H locs la hP hG hS hL
  obtain ⟨r2, h1, cell, q1, q2, q3, -⟩ := hP.1 q _ hr
  refine vx_athrow ok.x ok.b hd (kk H locs la cell hP hG hS hL q1 q3 ?_)
  rw [q2]
  exact (ok.k.1 ci _ hc).2.1
/-! calls -/
/-- behind any call -/
theorem g_callR {Kc : Nat} {Pc : Out → AH → Prop} {st0 : List Value} {a : Array Value}
    (hr : ∀ (H : Heap) (locs : List Loc) (la : Array Slot), Hp X.G hA X.s H → gl la ls → vx_Run X.p X.l X.e X.R X.s X.m X.args X.below X.meth X.c H locs kc kc Kc Kc (F0 X.m pc la st0) st (gQc X.G hA H.size Pc a) (gXC X.G hA H.size Pc) (gA hA H.size))
    (kk : ∀ v h', Pc (.inl v) h' → GW X h' (kc + Kc) (pc + 3) ls (v.toList ++ st))
    (kx : ∀ E q h', Pc (.inr (E, q)) h' → GWX X h' (kc + Kc) pc ls st E q) : GW X hA kc pc ls st0 := by
  intro H locs la hP hG hS hL T hT S
  have hA0 : ∀ q, q < H.size → gA hA H.size q → gA X.h0 X.s.heap.size q := by
    intro q hq h
    rcases h with h | h
    · exact hG q h
    · omega
  have hF0 : ∀ q, gA hA H.size q → gA X.h0 X.s.heap.size q := by
    intro q h
    rcases h with h | h
    · exact hG q h
    · exact Or.inr (Nat.le_trans hS.1 h)
  rcases hr H locs la hP hL T hT S with ⟨v, st₀, t, T', L, g0, S', hLf, e1, e2, ⟨v', h', hv, hp, hPh, hgr, hF⟩, go⟩ | ⟨q, st₀, t, T', L, E, ce, g0, S', hLf, e1, e2, ⟨h', hp, hPh, hgr, hF⟩, hce, hcv, hcl, stp⟩
  · cases hv
    obtain ⟨k1, k2, k3⟩ := vx_keep g0 e1 hS hA0 hF0 hLf hF
    have hal : X.s.vm.Alike t.vm := by rw [← e2]; exact S'.warmed.alike
    obtain ⟨t2, a1, b1⟩ := kk v h' hp T'.heap (locs ++ L) la (by rw [e1]; exact hPh.moved hal.symm) (fun q hq => hF0 q (hgr q hq)) k3 hL T' rfl S'
    exact ⟨t2, go t2 a1, b1⟩
  · obtain ⟨k1, k2, k3⟩ := vx_keep g0 e1 hS hA0 hF0 hLf hF
    have hal : X.s.vm.Alike t.vm := by rw [← e2]; exact S'.warmed.alike
    obtain ⟨t2, a1, b1⟩ := kx E q h' hp T'.heap (locs ++ L) la ce (by rw [e1]; exact hPh.moved hal.symm) (fun q hq => hF0 q (hgr q hq)) k3 hL (by rw [e1]; exact hce) hcv hcl T' rfl S'
    exact ⟨t2, stp.trans a1, b1⟩
/-- the receiver's class -/
def Recv (X : GX) (hA : AH) (b : Nat) (C : String) : Prop := ∀ H, Hp X.G hA X.s H → ∃ cell : Cell, H[b]? = some cell ∧ cell.vm.isStatics = false ∧ X.s.vm.findClass C = some cell.cls
theorem Recv.ob (ok : Ok X yM cc nL rT hH lV kB) {ci b : Nat} {r : vw_C} {fs : List Value} (hc : gcl[ci]? = some r) (hr : Rd X.G hA b (ob ci fs)) : Recv X hA b r.1 := by
  intro H hP
  obtain ⟨r2, cell, h1, q1, q2, q3, q4, q5⟩ := hP.rd ok.k hr
  exact ⟨cell, q1, q4, by rw [q2]; exact (ok.k.1 ci _ hc).2.1⟩
theorem Recv.kd {kn C : String} {v : Int32} (hz : (kn, C, v) ∈ gkn) : Recv X hA (X.G.ga kn) C := by
  intro H hP
  obtain ⟨cell, h1, h2, h3, -⟩ := (hP.2.2.2.1 _ hz).1
  exact ⟨cell, h1, h2, h3⟩
theorem g_preS (ok : Ok X yM cc nL rT hH lV kB) {H : Heap} {av : List Value} (hP : Hp X.G hA X.s H) : PreS X.s H (gPc X.G av hA H.size) av := ⟨gPc.blind, fun U hU hW => ⟨rfl, by rw [hU], ok.tab.warm hW, by rw [hU]; exact hP.moved hW.alike⟩⟩
theorem g_preV (ok : Ok X yM cc nL rT hH lV kB) {H : Heap} {av : List Value} {b : Nat} {C : String} (hP : Hp X.G hA X.s H) (hb : Recv X hA b C) : PreV X.s H C b (gPc X.G (.ref b :: av) hA H.size) av := ⟨gPc.blind, hb H hP, fun U hU hW => ⟨rfl, by rw [hU], ok.tab.warm hW, by rw [hU]; exact hP.moved hW.alike⟩⟩
theorem g_rm (ok : Ok X yM cc nL rT hH lV kB) {Lc Kc maxL : Nat} (hLv : Lc < lV) (hml : maxL ≤ 100) : (rmL Lc Kc).frames + 1 ≤ X.R.frames ∧ 8 + (maxL + 11) + (rmL Lc Kc).locals ≤ X.R.locals := by
  obtain ⟨r1, r2, -, -⟩ := ok.rm
  show 10 * Lc + 1 ≤ X.R.frames ∧ 8 + (maxL + 11) + 150 * Lc ≤ X.R.locals
  omega
/-- what of a method's name and descriptor is asked -/
def Nm (y : MethodName) (n : Nat) : Prop := y.cls ≠ "java/lang/invoke/MethodHandle" ∧ y.cls ≠ "java/lang/invoke/VarHandle" ∧ (parseMethodDescriptor y.desc).map (fun d => d.parameters.length) = some n
theorem g_callS (ok : Ok X yM cc nL rT hH lV kB) {y : MethodName} {bytes : ByteArray} {maxL Lc Kc index : Nat} {ret : Option FieldType} {av st0 : List Value} {Pc : Out → AH → Prop}
    (w1 : Cond.methodLink yM.cls index y ∈ lw_all) (w2 : Cond.static y ∈ lw_all) (w3 : Cond.initialized y.cls ∈ lw_all) (w4 : Cond.code y bytes maxL ret ∈ lw_all) (hd : decode cc pc = .ok (.invokestatic index, 3)) (hM : GM X.l X.G y (ws_ y bytes maxL ret) Lc av hA Kc Pc)
    (hn : Nm y av.length) (hLv : Lc < lV) (hml : maxL ≤ 100) (hln : ls.length = nL) (hst : av.reverse ++ st = st0) (hs : (st.map fun v => v.category).sum ≤ 8) (hk : kc + Kc ≤ kB)
    (kk : ∀ v h', Pc (.inl v) h' → GW X h' (kc + Kc) (pc + 3) ls (v.toList ++ st)) (kx : ∀ E q h', Pc (.inr (E, q)) h' → GWX X h' (kc + Kc) pc ls st E q) : GW X hA kc pc ls st0 := by
  obtain ⟨r1, r2, r3, r4⟩ := ok.rm
  refine g_callR (a := av.toArray) (fun H locs la hP hL => ?_) kk kx
  exact vx_runS ok.1 (hM ok.tr H.size) (va_cwS av.length ok.ts (lw_S w1 w2 w3 w4) rfl rfl rfl hn (g_rm ok hLv hml)) (g_preS ok hP) rfl rfl (hL.1.trans hln) hst.symm (lv_room hs) hd ⟨by omega, by omega⟩
theorem g_callSX (ok : Ok X yM cc nL rT hH lV kB) {y : MethodName} {hh : List (Nat × Nat × Nat × Nat)} {bytes : ByteArray} {maxL Lc Kc index : Nat} {ret : Option FieldType} {av st0 : List Value} {Pc : Out → AH → Prop}
    (w1 : Cond.methodLink yM.cls index y ∈ lw_all) (w2 : Cond.static y ∈ lw_all) (w3 : Cond.initialized y.cls ∈ lw_all) (w4 : Cond.codeWith y bytes maxL ret hh ∈ lw_all) (hd : decode cc pc = .ok (.invokestatic index, 3)) (hM : GM X.l X.G y (wsW_ y bytes maxL ret hh) Lc av hA Kc Pc)
    (hn : Nm y av.length) (hLv : Lc < lV) (hml : maxL ≤ 100) (hln : ls.length = nL) (hst : av.reverse ++ st = st0) (hs : (st.map fun v => v.category).sum ≤ 8) (hk : kc + Kc ≤ kB)
    (kk : ∀ v h', Pc (.inl v) h' → GW X h' (kc + Kc) (pc + 3) ls (v.toList ++ st)) (kx : ∀ E q h', Pc (.inr (E, q)) h' → GWX X h' (kc + Kc) pc ls st E q) : GW X hA kc pc ls st0 := by
  obtain ⟨r1, r2, r3, r4⟩ := ok.rm
  refine g_callR (a := av.toArray) (fun H locs la hP hL => ?_) kk kx
  exact vx_runSX ok.1 (hM ok.tr H.size) (vx_cwSW av.length ok.ts (lw_SW w1 w2 w3 w4) rfl rfl rfl hn (g_rm ok hLv hml)) (g_preS ok hP) rfl rfl (hL.1.trans hln) hst.symm (lv_room hs) hd ⟨by omega, by omega⟩
theorem g_callV (ok : Ok X yM cc nL rT hH lV kB) {y : MethodName} {b : Nat} {bytes : ByteArray} {maxL Lc Kc index : Nat} {ret : Option FieldType} {av st0 : List Value} {Pc : Out → AH → Prop}
    (w1 : Cond.methodLink yM.cls index y ∈ lw_all) (w2 : Cond.instanceMethod y ∈ lw_all) (w3 : Cond.selects y.cls y y ∈ lw_all) (w4 : Cond.initialized y.cls ∈ lw_all) (w5 : Cond.code y bytes maxL ret ∈ lw_all) (hb : Recv X hA b y.cls) (hd : decode cc pc = .ok (.invokevirtual index, 3)) (hM : GM X.l X.G y (ws_ y bytes maxL ret) Lc (.ref b :: av) hA Kc Pc)
    (hn : Nm y av.length) (hLv : Lc < lV) (hml : maxL ≤ 100) (hln : ls.length = nL) (hst : av.reverse ++ .ref b :: st = st0) (hs : (st.map fun v => v.category).sum ≤ 8) (hk : kc + Kc ≤ kB)
    (kk : ∀ v h', Pc (.inl v) h' → GW X h' (kc + Kc) (pc + 3) ls (v.toList ++ st)) (kx : ∀ E q h', Pc (.inr (E, q)) h' → GWX X h' (kc + Kc) pc ls st E q) : GW X hA kc pc ls st0 := by
  obtain ⟨r1, r2, r3, r4⟩ := ok.rm
  refine g_callR (a := (Value.ref b :: av).toArray) (fun H locs la hP hL => ?_) kk kx
  exact vx_runV ok.1 (hM ok.tr H.size) (cwV av.length ok.ts (lw_V w1 w2 w3 w4 w5) rfl rfl rfl ⟨rfl, hn⟩ (g_rm ok hLv hml)) (g_preV ok hP hb) rfl rfl (hL.1.trans hln) hst.symm (lv_room hs) hd ⟨by omega, by omega⟩
theorem g_callVX (ok : Ok X yM cc nL rT hH lV kB) {y : MethodName} {b : Nat} {hh : List (Nat × Nat × Nat × Nat)} {bytes : ByteArray} {maxL Lc Kc index : Nat} {ret : Option FieldType} {av st0 : List Value} {Pc : Out → AH → Prop}
    (w1 : Cond.methodLink yM.cls index y ∈ lw_all) (w2 : Cond.instanceMethod y ∈ lw_all) (w3 : Cond.selects y.cls y y ∈ lw_all) (w4 : Cond.initialized y.cls ∈ lw_all) (w5 : Cond.codeWith y bytes maxL ret hh ∈ lw_all) (hb : Recv X hA b y.cls) (hd : decode cc pc = .ok (.invokevirtual index, 3)) (hM : GM X.l X.G y (wsW_ y bytes maxL ret hh) Lc (.ref b :: av) hA Kc Pc)
    (hn : Nm y av.length) (hLv : Lc < lV) (hml : maxL ≤ 100) (hln : ls.length = nL) (hst : av.reverse ++ .ref b :: st = st0) (hs : (st.map fun v => v.category).sum ≤ 8) (hk : kc + Kc ≤ kB)
    (kk : ∀ v h', Pc (.inl v) h' → GW X h' (kc + Kc) (pc + 3) ls (v.toList ++ st)) (kx : ∀ E q h', Pc (.inr (E, q)) h' → GWX X h' (kc + Kc) pc ls st E q) : GW X hA kc pc ls st0 := by
  obtain ⟨r1, r2, r3, r4⟩ := ok.rm
  refine g_callR (a := (Value.ref b :: av).toArray) (fun H locs la hP hL => ?_) kk kx
  exact vx_runVX ok.1 (hM ok.tr H.size) (vx_cwVW av.length ok.ts (lw_VW w1 w2 w3 w4 w5) rfl rfl rfl ⟨rfl, hn⟩ (g_rm ok hLv hml)) (g_preV ok hP hb) rfl rfl (hL.1.trans hln) hst.symm (lv_room hs) hd ⟨by omega, by omega⟩
theorem g_callI (ok : Ok X yM cc nL rT hH lV kB) {y : MethodName} {b : Nat} {bytes : ByteArray} {maxL Lc Kc index : Nat} {av st0 : List Value} {Pc : Out → AH → Prop}
    (w1 : Cond.methodLink yM.cls index y ∈ lw_all) (w2 : Cond.instanceMethod y ∈ lw_all) (w4 : Cond.initialized y.cls ∈ lw_all) (w5 : Cond.code y bytes maxL none ∈ lw_all) (hy1 : y.name = "<init>") (hd : decode cc pc = .ok (.invokespecial index, 3)) (hM : GM X.l X.G y (ws_ y bytes maxL none) Lc (.ref b :: av) hA Kc Pc)
    (hn : Nm y av.length) (hLv : Lc < lV) (hml : maxL ≤ 100) (hln : ls.length = nL) (hst : av.reverse ++ .ref b :: st = st0) (hs : (st.map fun v => v.category).sum ≤ 8) (hk : kc + Kc ≤ kB)
    (kk : ∀ v h', Pc (.inl v) h' → GW X h' (kc + Kc) (pc + 3) ls (v.toList ++ st)) (kx : ∀ E q h', Pc (.inr (E, q)) h' → GWX X h' (kc + Kc) pc ls st E q) : GW X hA kc pc ls st0 := by
  obtain ⟨r1, r2, r3, r4⟩ := ok.rm
  refine g_callR (a := (Value.ref b :: av).toArray) (fun H locs la hP hL => ?_) kk kx
  exact vx_runI ok.1 (hM ok.tr H.size) (cwI av.length ok.ts (lw_meth w5) rfl rfl rfl (ok.ts _ w4) (ok.ts _ w1) (ok.ts _ w2) hy1 hn (g_rm ok hLv hml)) (g_preS ok hP) rfl rfl (hL.1.trans hln) hst.symm (lv_room hs) hd ⟨by omega, by omega⟩
theorem g_callIN (ok : Ok X yM cc nL rT hH lV kB) {y : MethodName} {b : Nat} {host : String} {bytes : ByteArray} {maxL Lc Kc index : Nat} {av st0 : List Value} {Pc : Out → AH → Prop}
    (w1 : Cond.methodLinkNest yM.cls index y host ∈ lw_tbl) (w2 : Cond.instanceMethod y ∈ lw_all) (w4 : Cond.initialized y.cls ∈ lw_all) (w5 : Cond.code y bytes maxL none ∈ lw_all) (hy1 : y.name = "<init>") (hd : decode cc pc = .ok (.invokespecial index, 3)) (hM : GM X.l X.G y (ws_ y bytes maxL none) Lc (.ref b :: av) hA Kc Pc)
    (hn : Nm y av.length) (hLv : Lc < lV) (hml : maxL ≤ 100) (hln : ls.length = nL) (hst : av.reverse ++ .ref b :: st = st0) (hs : (st.map fun v => v.category).sum ≤ 8) (hk : kc + Kc ≤ kB)
    (kk : ∀ v h', Pc (.inl v) h' → GW X h' (kc + Kc) (pc + 3) ls (v.toList ++ st)) (kx : ∀ E q h', Pc (.inr (E, q)) h' → GWX X h' (kc + Kc) pc ls st E q) : GW X hA kc pc ls st0 := by
  obtain ⟨r1, r2, r3, r4⟩ := ok.rm
  refine g_callR (a := (Value.ref b :: av).toArray) (fun H locs la hP hL => ?_) kk kx
  exact vx_runIN ok.1 (hM ok.tr H.size) ⟨va_cnB av.length ok.ts (lw_meth w5) rfl rfl rfl (ok.tw w1 rfl) (ok.ts _ w4) hn (g_rm ok hLv hml), hy1, ok.ts _ w2⟩ (g_preS ok hP) rfl rfl (hL.1.trans hln) hst.symm (lv_room hs) hd ⟨by omega, by omega⟩
theorem g_callVN (ok : Ok X yM cc nL rT hH lV kB) {y : MethodName} {b : Nat} {host : String} {bytes : ByteArray} {maxL Lc Kc index : Nat} {ret : Option FieldType} {av st0 : List Value} {Pc : Out → AH → Prop}
    (w1 : Cond.methodLinkNest yM.cls index y host ∈ lw_tbl) (w2 : Cond.instanceMethod y ∈ lw_all) (w3 : Cond.selects y.cls y y ∈ lw_all) (w4 : Cond.initialized y.cls ∈ lw_all) (w5 : Cond.code y bytes maxL ret ∈ lw_all) (hb : Recv X hA b y.cls) (hd : decode cc pc = .ok (.invokevirtual index, 3)) (hM : GM X.l X.G y (ws_ y bytes maxL ret) Lc (.ref b :: av) hA Kc Pc)
    (hn : Nm y av.length) (hLv : Lc < lV) (hml : maxL ≤ 100) (hln : ls.length = nL) (hst : av.reverse ++ .ref b :: st = st0) (hs : (st.map fun v => v.category).sum ≤ 8) (hk : kc + Kc ≤ kB)
    (kk : ∀ v h', Pc (.inl v) h' → GW X h' (kc + Kc) (pc + 3) ls (v.toList ++ st)) (kx : ∀ E q h', Pc (.inr (E, q)) h' → GWX X h' (kc + Kc) pc ls st E q) : GW X hA kc pc ls st0 := by
  obtain ⟨r1, r2, r3, r4⟩ := ok.rm
  refine g_callR (a := (Value.ref b :: av).toArray) (fun H locs la hP hL => ?_) kk kx
  exact vx_runVN ok.1 (hM ok.tr H.size) ⟨va_cnB av.length ok.ts (lw_meth w5) rfl rfl rfl (ok.tw w1 rfl) (ok.ts _ w4) hn (g_rm ok hLv hml), ok.ts _ w2, ok.ts _ w3⟩ (g_preV ok hP hb) rfl rfl (hL.1.trans hln) hst.symm (lv_room hs) hd ⟨by omega, by omega⟩
theorem g_callSN (ok : Ok X yM cc nL rT hH lV kB) {y : MethodName} {host : String} {bytes : ByteArray} {maxL Lc Kc index : Nat} {ret : Option FieldType} {av st0 : List Value} {Pc : Out → AH → Prop}
    (w1 : Cond.methodLinkNest yM.cls index y host ∈ lw_tbl) (w2 : Cond.static y ∈ lw_all) (w4 : Cond.initialized y.cls ∈ lw_all) (w5 : Cond.code y bytes maxL ret ∈ lw_all) (hd : decode cc pc = .ok (.invokestatic index, 3)) (hM : GM X.l X.G y (ws_ y bytes maxL ret) Lc av hA Kc Pc)
    (hn : Nm y av.length) (hLv : Lc < lV) (hml : maxL ≤ 100) (hln : ls.length = nL) (hst : av.reverse ++ st = st0) (hs : (st.map fun v => v.category).sum ≤ 8) (hk : kc + Kc ≤ kB)
    (kk : ∀ v h', Pc (.inl v) h' → GW X h' (kc + Kc) (pc + 3) ls (v.toList ++ st)) (kx : ∀ E q h', Pc (.inr (E, q)) h' → GWX X h' (kc + Kc) pc ls st E q) : GW X hA kc pc ls st0 := by
  obtain ⟨r1, r2, r3, r4⟩ := ok.rm
  refine g_callR (a := av.toArray) (fun H locs la hP hL => ?_) kk kx
  exact vx_runSN ok.1 (hM ok.tr H.size) ⟨va_cnB av.length ok.ts (lw_meth w5) rfl rfl rfl (ok.tw w1 rfl) (ok.ts _ w4) hn (g_rm ok hLv hml), ok.ts _ w2, trivial⟩ (g_preS ok hP) rfl rfl (hL.1.trans hln) hst.symm (lv_room hs) hd ⟨by omega, by omega⟩
theorem g_callU (ok : Ok X yM cc nL rT hH lV kB) {x y : MethodName} {b : Nat} {C owner : String} {bytes : ByteArray} {maxL Lc Kc index : Nat} {ret : Option FieldType} {av st0 : List Value} {Pc : Out → AH → Prop}
    (w1 : Cond.methodLink yM.cls index x ∈ lw_all) (w2 : Cond.sameMethod x.cls owner x.name x.desc ∈ lw_all) (w3 : Cond.selects C x y ∈ lw_all) (w4 : Cond.instanceMethod y ∈ lw_all) (w5 : Cond.initialized y.cls ∈ lw_all) (w6 : Cond.code y bytes maxL ret ∈ lw_all) (hdc : va_Decl X.s ⟨owner, x.name, x.desc⟩) (ho : owner ≠ "java/lang/invoke/MethodHandle" ∧ owner ≠ "java/lang/invoke/VarHandle") (hb : Recv X hA b C) (hd : decode cc pc = .ok (.invokevirtual index, 3)) (hM : GM X.l X.G y (ws_ y bytes maxL ret) Lc (.ref b :: av) hA Kc Pc)
    (hn : Nm x av.length) (hLv : Lc < lV) (hml : maxL ≤ 100) (hln : ls.length = nL) (hst : av.reverse ++ .ref b :: st = st0) (hs : (st.map fun v => v.category).sum ≤ 8) (hk : kc + Kc ≤ kB)
    (kk : ∀ v h', Pc (.inl v) h' → GW X h' (kc + Kc) (pc + 3) ls (v.toList ++ st)) (kx : ∀ E q h', Pc (.inr (E, q)) h' → GWX X h' (kc + Kc) pc ls st E q) : GW X hA kc pc ls st0 := by
  obtain ⟨r1, r2, r3, r4⟩ := ok.rm
  refine g_callR (a := (Value.ref b :: av).toArray) (fun H locs la hP hL => ?_) kk kx
  exact vx_runU ok.1 (hM ok.tr H.size) (C := C) (owner := owner) (x := x) (n := av.length) ⟨⟨rfl, rfl, (g_rm ok hLv hml).1, (g_rm ok hLv hml).2, pay_in ok.ts (lw_meth w6), List.mem_cons_self⟩, ok.ts _ w6, ok.ts _ w5, ho, fun sig h => by have h2 := hn.2.2; rw [h] at h2; exact (Option.some.inj h2).symm, ok.ts _ w1, ok.ts _ w2, hdc, ok.ts _ w3, ok.ts _ w4⟩ (g_preV ok hP hb) rfl rfl (hL.1.trans hln) hst.symm (lv_room hs) hd ⟨by omega, by omega⟩
theorem Ok.declI (ok : Ok X yM cc nL rT hH lV kB) {x : MethodName} {b : ByteArray} {n : Nat} {ret : Option FieldType} (h1 : Cond.instanceMethod x ∈ lw_all) (h2 : Cond.code x b n ret ∈ lw_all) : va_Decl X.s x := va_Decl.of (ok.ts _ h1) (ok.ts _ h2)
theorem Ok.declA (ok : Ok X yM cc nL rT hH lV kB) {x : MethodName} (h1 : Cond.declares x ∈ lw_tbl) : va_Decl X.s x := va_Decl.abs (ok.tw h1 rfl)
end
