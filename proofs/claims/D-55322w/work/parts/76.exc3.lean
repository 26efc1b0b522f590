/-! exceptions of the program -/
set_option maxRecDepth 100000
/-! an exception class of the program: its constructor calls super() -/
def XSup (C : String) : List Cond := [.selects C Bundle.tFill0 Bundle.tFill0, .selects C Bundle.tFill Bundle.tFill, .lays C Bundle.tN "cause" "Ljava/lang/Throwable;", .lays C Bundle.tN "stackTrace" Bundle.steD, .lays C Bundle.tN "suppressedExceptions" Bundle.listD, .lays C Bundle.tN "detailMessage" "Ljava/lang/String;", .fieldLink Bundle.tN 198 Bundle.tN "backtrace" "Ljava/lang/Object;", .lays Bundle.tN Bundle.tN "backtrace" "Ljava/lang/Object;", .lays C Bundle.tN "backtrace" "Ljava/lang/Object;"]
section
variable {p : Program} {l : Launch} {e : Env} {R : Room} {s : State} {m₀ : MethodId} {args : Array Value} {below : List Frame} {meth : Method} {c : Code} {W : State} {locs : List Loc} {cells slots : Nat}
set_option maxHeartbeats 1000000 in
theorem vx_super0 (X : Stand p l e R s m₀ args below meth c W locs cells slots) (hexec : p.tables.exec = Jvm.exec) (htr : e.platform.stackTraces = false) {own C E : String} {names : List String} {ic : Nat}
    (hown : s.vm.findClass own = some m₀.cls) (hE : Bundle.fit E = true) (hnames : ∀ n ∈ names, Bundle.fit n = true)
    (hth : ∀ a ∈ Bundle.throwableAtoms, a.before args s = true) (hch : ∀ a ∈ Bundle.chain0Atoms E names, a.before args s = true) (hml : (Cond.methodLink own ic (Bundle.init0 E)).before args s = true) (hsp : ∀ a ∈ XSup C, a.before args s = true)
    (hiU : (Cond.isRef (.static Bundle.tN "UNASSIGNED_STACK" Bundle.steD)).before args s = true) (hiN : (Cond.isRef (.static Bundle.tN "SUPPRESSED_SENTINEL" Bundle.listD)).before args s = true)
    (hlocs : ∀ x ∈ locs, ∀ cell, s.heap[x.base]? = some cell → cell.vm.isStatics = false)
    {a : Addr} {cX : ClassId} {kX : Class} (hfound : s.vm.findClass C = some cX) (hk : s.vm.classes[cX]? = some kX) (hord : kX.kind = .ordinary) (hcell : W.heap[a]? = some (freshCell cX kX))
    {g : JFrame} (hg : g.method = m₀) (hsize : g.locals.size = c.maxLocals) {rest : List Value} (hstack : g.stack = .ref a :: rest)
    (hd6 : decode c.code g.pc = .ok (.invokespecial ic, 3))
    (hRframes : names.length + 3 < R.frames) (hRlocals : 2 * g.monitorRoom + (rest.map fun v => v.category).sum + (13 * (names.length + 1) + 41) ≤ R.locals) :
    ∃ (T : ThrowableC) (Z : Init0T) (V : State) (L : List Loc) (u0 sen : RefV), Bundle.Ties T Z s ∧ V.heap = W.heap ∧ Stand p l e R s m₀ args below meth c (V.setCell a ((preparedCellV T.toThrowableT (freshCell cX kX) a u0 sen).setSlot T.fStack.slot u0.v)) (locs ++ L) cells slots ∧ (∀ y ∈ L, y.base = a) ∧
      ∀ target, Steps p.tables e below ((V.setCell a ((preparedCellV T.toThrowableT (freshCell cX kX) a u0 sen).setSlot T.fStack.slot u0.v)).setTop { g with stack := rest, pc := g.pc + 3 }) target → Steps p.tables e below (W.setTop g) target := by
  have howns : e.platform.frameOwnsMonitors = true := by rw [X.admits.platform]
  have hfin : e.platform.finalization = false := by rw [X.admits.platform]
  have hpl : e.platform.magicAccessors = ({} : Platform).magicAccessors := by rw [X.admits.platform]
  have a' : ∀ x, x ∈ XSup C → x.holds args s none s [] = true := fun x hx => hsp x hx
  obtain ⟨T, Z, L, LZ, Y⟩ := ThrowableC.of_atoms (args := args) howns hfin hpl hth
  obtain ⟨P1, Ps, hlen, L1, hL, hP1m, hlink1, hlink⟩ := Bundle.chain0 (args := args) hpl Y.init0 names E hE hnames hch
  have hsel0 : selectMethod e.platform s.vm cX T.fill0 = .method T.fill0 := by
    obtain ⟨c2, r2, m2, q1, q2, q3, q4, -⟩ := Cond.selects_spec (a' (.selects C Bundle.tFill0 Bundle.tFill0) (by simp [XSup]))
    cases Option.some.inj (q1.symm.trans hfound)
    cases Option.some.inj (q2.symm.trans (State.methodFound?_of_named Y.fill0 (by decide)))
    cases Option.some.inj (q3.symm.trans Y.fill0)
    rw [Launch.admits_selectMethod X.admits]; exact q4
  have hselF : selectMethod e.platform s.vm cX T.fill = .method T.fill := by
    obtain ⟨c2, r2, m2, q1, q2, q3, q4, -⟩ := Cond.selects_spec (a' (.selects C Bundle.tFill Bundle.tFill) (by simp [XSup]))
    cases Option.some.inj (q1.symm.trans hfound)
    cases Option.some.inj (q2.symm.trans (State.methodFound?_of_named Y.fill (by decide)))
    cases Option.some.inj (q3.symm.trans Y.fill)
    rw [Launch.admits_selectMethod X.admits]; exact q4
  obtain ⟨cellS0, hcS0, hiss⟩ := Y.statics
  obtain ⟨u0, hu0⟩ := Cond.staticRefV Y.unassigned L.unassignedStatic L.statics hcS0 hiss hiU
  obtain ⟨sen, hsen⟩ := Cond.staticRefV Y.sentinel L.sentinelStatic L.statics hcS0 hiss hiN
  obtain ⟨ci198, i198, fB, hk198, hg198, ha198, hsB, -, hnB, htB, hffB⟩ := Cond.ownField (t := .object "java/lang/Object") Y.found L.cls (by decide +kernel) (a' (.fieldLink Bundle.tN 198 Bundle.tN "backtrace" "Ljava/lang/Object;") (by simp [XSup])) (a' (.lays Bundle.tN Bundle.tN "backtrace" "Ljava/lang/Object;") (by simp [XSup])) e.platform hpl
  obtain ⟨cellS, hcS', heS, -, hkeep⟩ := X.same.2.2.2.2.2 T.aS cellS0 hcS0
  have hcellS : W.heap[T.aS]? = some cellS := hcS'
  have hout' : ∀ i, (⟨T.aS, i⟩ : Loc) ∉ locs := fun i hmem => by
    have := hlocs _ hmem cellS0 hcS0
    rw [hiss] at this; cases this
  have hknownS : cellS.vm ≠ .unknown := by
    rw [heS]; intro hu
    rw [show cellS0.vm = .unknown from hu] at hiss
    cases hiss
  have hneS : T.aS ≠ a := fun e9 => by
    rw [e9, hcell] at hcellS
    have e8 : freshCell cX kX = cellS := Option.some.inj hcellS
    have e7 : cellS.vm = cellS0.vm := by rw [heS]
    rw [← e7, ← e8] at hiss
    cases hiss
  obtain ⟨tyC, dC, hdC, hdnC⟩ := Cond.laysAt hfound hk Y.cause (a' (.lays C Bundle.tN "cause" "Ljava/lang/Throwable;") (by simp [XSup]))
  obtain ⟨tyS, dS, hdS, hdnS⟩ := Cond.laysAt hfound hk Y.stack (a' (.lays C Bundle.tN "stackTrace" Bundle.steD) (by simp [XSup]))
  obtain ⟨tyP, dP, hdP, hdnP⟩ := Cond.laysAt hfound hk Y.supp (a' (.lays C Bundle.tN "suppressedExceptions" Bundle.listD) (by simp [XSup]))
  obtain ⟨tyB, dB, hdB, hdnB⟩ := Cond.laysAt hfound hk hffB (a' (.lays C Bundle.tN "backtrace" "Ljava/lang/Object;") (by simp [XSup]))
  have bC := Cond.laysApart hdB hdC hdnB hdnC (by rw [hnB, Y.causeName]; decide)
  have bS := Cond.laysApart hdB hdS hdnB hdnS (by rw [hnB, Y.stackName]; decide)
  have bP := Cond.laysApart hdB hdP hdnB hdnP (by rw [hnB, Y.suppName]; decide)
  have hskip : SkipFacts T e.platform s (fun u => u) u0 ((preparedCellV T.toThrowableT (freshCell cX kX) a u0 sen).withEntry W.cur) :=
    ⟨{ ci198 := ci198, i198 := i198, fBack := fB }, ⟨hk198, hg198, ha198, hsB⟩, by
      have := fresh_default (c := cX) tyB
      rw [htB] at this
      simpa [preparedCellV, Cell.setSlot, Cell.withEntry, Array.getElem?_setIfInBounds, bC, bS, bP, bC.symm, bS.symm, bP.symm, defaultValue] using this, fun _ _ => rfl⟩
  obtain ⟨tm, methC, cdC, kC, vm₁, hnC, -, -, -, -, -, -, -, hW₁, st1⟩ := Steps.initCold (tb := p.tables) (e := e) (below := below) (s := s) (U := W) X.here hexec X.warmed hpl hown (t := Bundle.init0 E) rfl rfl (Bundle.fit_spec hE).2
    hml (hch (.instanceMethod (Bundle.init0 E)) (by cases names <;> simp [Bundle.chain0Atoms, Bundle.passAtoms])) (bytes := Bundle.five) (maxL := 1) (hch (.code (Bundle.init0 E) Bundle.five 1 none) (by cases names <;> simp [Bundle.chain0Atoms, Bundle.passAtoms]))
    (f := g) hg (a := a) (rest := rest) hstack hd6
  cases Option.some.inj (hnC.symm.trans hP1m)
  have X₁ := X.noted hW₁
  obtain ⟨vm₂, X₂, st2⟩ := X₁.ctorPlainOffV hexec (g := { g with stack := rest }) hg hsize T L Z LZ (P1 :: Ps)
    (fun P hP => by rcases List.mem_cons.mp hP with rfl | hP; exact L1; exact hL P hP) ⟨hlink1, hlink⟩ (u0 := u0) (sen := sen) (self := a) (cell := freshCell cX kX) (cellS := cellS)
    hcell (fun _ => by simp) (by simp) rfl rfl hsel0 hselF hcellS hneS hknownS (by rw [hkeep _ (hout' _)]; exact hu0) (by rw [hkeep _ (hout' _)]; exact hsen)
    (Takes.of_laid hk hord tyC (by rw [Y.causeType]; rfl)) (Takes.of_laid hk hord tyS (by rw [Y.stackType]; exact fits_refV_array _ u0)) (Takes.of_laid hk hord tyP (by rw [Y.suppType]; exact fits_refV_object _ sen)) Y.objLocals hskip htr [] hd6
    (by simp only [List.length_cons, hlen]; omega) (by simp only [List.length_cons, hlen]; exact hRlocals)
  refine ⟨T, Z, (W.setVm vm₁).setVm vm₂, _, u0, sen, Y, rfl, X₂, fun y hy => ?_, fun target hwalk => st1 _ (fun acts => ?_)⟩
  · simp only [List.mem_cons, List.not_mem_nil, or_false] at hy
    rcases hy with rfl | rfl | rfl | rfl <;> rfl
  · rw [doInvoke_state]
    exact st2 _ hwalk
end
/-- the cell at a is as it was born -/
def Brn (G : GE) (ci : Nat) (U : State) (H : Heap) (a : Nat) : Prop := ∃ kX : Class, U.vm.classes[G.1.1 ci]? = some kX ∧ H[a]? = some (freshCell (G.1.1 ci) kX)
theorem Brn.moved {G : GE} {ci a : Nat} {u U : State} {H : Heap} (hvm : u.vm.Alike U.vm) (x : Brn G ci u H a) : Brn G ci U H a := by
  obtain ⟨k, h1, h2⟩ := x
  obtain ⟨k', h3, h4⟩ := hvm.2.2 _ k h1
  exact ⟨k', h3, by rw [h2, h4]⟩
/-- where a walk stands in this heap -/
def GWH (X : GX) (H : Heap) (h : AH) (k pc : Nat) (ls : List (Option Value)) (st : List Value) : Prop :=
  ∀ (locs : List Loc) (la : Array Slot), Hp X.G h X.s H → Gr X.h0 h X.s.heap.size → va_S (gA X.h0 X.s.heap.size) X.s.heap H locs → gl la ls →
    W X.p X.l X.e X.R X.s X.m X.args X.below X.meth X.c H locs k k X.Q (F0 X.m pc la st)
/-- .. at the beginning -/
def GW0 (X : GX) (h : AH) (pc : Nat) (ls : List (Option Value)) (st : List Value) : Prop :=
  ∀ (la : Array Slot), Hp X.G h X.s X.s.heap → gl la ls → W X.p X.l X.e X.R X.s X.m X.args X.below X.meth X.c X.s.heap [] 0 0 X.Q (F0 X.m pc la st)
/-- the contract of a constructor whose object is as it was born -/
def MF (l : Launch) (G : GE) (y : MethodName) (ci : Nat) (ws : List Cond) (Lv : Nat) (a : Nat) (av : List Value) (h : AH) (K : Nat) (P : Out → AH → Prop) : Prop :=
  l.stackTraces = false → ∀ sz, vx_Met l y ws (rmL Lv K) (fun v U => gPc G (.ref a :: av) h sz v U ∧ Brn G ci U U.heap a) (gQc G h sz P) (gXC G h sz P) K K (gA h sz)
theorem MF.of {l : Launch} {G : GE} {y : MethodName} {cc : ByteArray} {nL : Nat} {ret : Option FieldType} {Lv K ci a : Nat} {av : List Value} {h : AH} {P : Out → AH → Prop} (hy : plainName y.cls = true) (hlen : (lg_sl (.ref a :: av)).length ≤ nL)
    (body : ∀ X : GX, X.l = l → X.G = G → X.h0 = h → Ok X y cc nL ret [] Lv K → Fn X K P → Brn X.G ci X.s X.s.heap a → GW0 X h 0 (ent nL (.ref a :: av)) []) : MF l G y ci (ws_ y cc nL ret) Lv a av h K P := by
  intro hl sz
  refine vx_ofW (cc := cc) (maxL := nL) (ret := ret) hy rfl ?_
  intro p e s m args below meth c s₁ B hml htab hv
  obtain ⟨⟨hav, hsz, hT, hP⟩, hB⟩ := hv
  subst hav
  subst hsz
  have hts := atoms_spec (ws := ws_ y cc nL ret) B.pre
  rw [lg_entry_eq]
  have ht : c.exceptionTable.toList = [] := List.eq_nil_iff_forall_not_mem.mpr (fun x hx => htab x hx)
  exact body (l, G, rmL Lv K, h, vx_MQ below (gQc G h s.heap.size P) (gXC G h s.heap.size P) (Value.ref a :: av).toArray s K K (gA h s.heap.size), p, e, s, m, (Value.ref a :: av).toArray, below, meth, c) rfl rfl rfl
    ⟨⟨B.exec, B.bytes, hml, findClass_of_methodNamed B.named, fun w hw => hts w (List.mem_cons_of_mem _ hw)⟩, hT, B.notSynchronized, (name_of_methodNamed B.named B.method).1, B.returns, ht, hl, ⟨Nat.le_refl _, Nat.le_refl _, Nat.le_refl _, Nat.le_refl _⟩, fun q hq => hP.lt hq, zq_area hP.2.2.2.2.1, zq_area hP.2.2.2.2.2⟩ rfl hB
    _ hP (ent_gl hlen)
section
variable {X : GX} {yM : MethodName} {cc : ByteArray} {nL : Nat} {rT : Option FieldType} {hH : List (Nat × Nat × Nat × Nat)} {lV kB : Nat} {hA : AH} {H : Heap} {kc pc : Nat} {ls : List (Option Value)} {st : List Value}
theorem h_new (ok : Ok X yM cc nL rT hH lV kB) {ci : Nat} {C : String} {T : u_T} {N : Nat} {ty : Nat → FieldType} {index : Nat} {fs : List Value} (ck : CK ci C T N ty) (hcl : Cond.classLink yM.cls index C ∈ lw_all) (hinst : Cond.instantiable C N ∈ lw_all) (hini : Cond.initialized C ∈ lw_all) (hd : decode cc pc = .ok (.new index, 3)) (hfs : ∀ j, j < N → defaultValue (ty j) = vp_V fs j) (hk : kc + (N + 1) ≤ kB)
    (kk : ∀ a, hA a = none → X.G.kh a = none → X.h0 a = none → ∀ H1, Brn X.G ci X.s H1 a → GWH X H1 (up hA a (ob ci fs)) (kc + (N + 1)) (pc + 3) ls (.ref a :: st)) : GW X hA kc pc ls st := by
  intro H locs la hP hG hS hL
  have hKn := ok.k.1 ci _ ck.1
  obtain ⟨r1, r2, r3, r4⟩ := ok.rm
  refine W.newcK ok.x ok.b ok.own (ok.ts _ hcl) (ok.ts _ hinst) (ok.ts _ hini) rfl hd (by omega) (by omega) hKn.2.1 rfl fun H1 kC hkC e1 z1 o1 => ?_
  have hsz : X.s.heap.size ≤ H.size := hS.1
  intro T hT S
  exact kk H.size hP.fresh.1 hP.fresh.2 (ok.fresh hsz) H1 ⟨kC, hkC, e1⟩ locs la (hP.upd (Or.inr (Nat.le_refl _)) (fun q hq _ => o1 q hq) ⟨_, ck.1, (u_born ty ok.ts ck.2.1 hKn hkC e1 ck.2.2.1).to hfs⟩) (hG.up (Or.inr hsz)) ⟨Nat.le_trans hS.1 (by omega), fun x h1 h2 => (o1 x (Nat.lt_of_lt_of_le h1 hS.1)).trans (hS.2.1 x h1 h2), hS.2.2⟩ hL T hT (stand_widen S (by omega) (by omega))
theorem h_dup (ok : Ok X yM cc nL rT hH lV kB) {va : Value} (hdg : decode cc pc = .ok (.dup, 1)) (hva : va.category = 1) (k_ : GWH X H hA kc (pc + 1) ls (va :: va :: st)) : GWH X H hA kc pc ls (va :: st) :=
  fun locs la hP hG hS hL => lv_dup ok.x ok.b hdg hva (k_ locs la hP hG hS hL)
theorem h_iload_n (ok : Ok X yM cc nL rT hH lV kB) {n : Fin 4} {v : Int32} (hd : decode cc pc = .ok (.iload_n n, 1)) (hl : ls[(n : Nat)]? = some (some (.int v))) (kk : GWH X H hA kc (pc + 1) ls (.int v :: st)) : GWH X H hA kc pc ls st :=
  fun locs la hP hG hS hL => lv_iload_n ok.x ok.b hd rfl (hL.at hl) (kk locs la hP hG hS hL)
theorem h_aload_n (ok : Ok X yM cc nL rT hH lV kB) {n : Fin 4} {v : Nat} (hd : decode cc pc = .ok (.aload_n n, 1)) (hl : ls[(n : Nat)]? = some (some (.ref v))) (kk : GWH X H hA kc (pc + 1) ls (.ref v :: st)) : GWH X H hA kc pc ls st :=
  fun locs la hP hG hS hL => lv_aload_n ok.x ok.b hd rfl (hL.at hl) (kk locs la hP hG hS hL)
theorem h0_aload_n (ok : Ok X yM cc nL rT hH lV kB) {n : Fin 4} {v : Nat} (hd : decode cc pc = .ok (.aload_n n, 1)) (hl : ls[(n : Nat)]? = some (some (.ref v))) (kk : GW0 X hA (pc + 1) ls (.ref v :: st)) : GW0 X hA pc ls st :=
  fun la hP hL => lv_aload_n ok.x ok.b hd rfl (hL.at hl) (kk la hP hL)
theorem h_get (ok : Ok X yM cc nL rT hH lV kB) {ci : Nat} {C ref : String} {T : u_T} {N : Nat} {ty : Nat → FieldType} {a index : Nat} {fs : List Value} {v : Value} (ck : CK ci C T N ty) (k : Nat) (hlink : Cond.fieldLink yM.cls index ref (T k).2.1 (T k).2.2.1 ∈ lw_all) (hsame : ref = (T k).1) (hk : k < N) (hd : decode cc pc = .ok (.getfield index, 3)) (hr : Rd X.G hA a (ob ci fs)) (hv : fs[k]? = some v)
    (kk : GWH X H hA kc (pc + 3) ls (v :: st)) : GWH X H hA kc pc ls (.ref a :: st) := by
  intro locs la hP hG hS hL
  obtain ⟨r, cell, h1, q1, q2, q3, q4, q5⟩ := hP.rd ok.k hr
  have hc := ck.1
  have hr2 : r = (C, T, N) := Option.some.inj (h1.symm.trans hc)
  subst hr2
  obtain ⟨hSl, hfc, kC, hkC, hkind⟩ := ok.k.1 ci _ hc
  obtain ⟨cf, kf, fi, f, hi, hsl⟩ := hSl k hk
  have hi2 : X.s.fieldFound? ref (T k).2.1 (T k).2.2.1 = some (cf, kf, fi, f) := by rw [hsame]; exact hi
  refine W.getf ok.x ok.b ok.own (ok.ts _ hlink) hi2 (u_facts hfc hkC (u_lays ok.ts ck.2.1 hk) hi).1 q1 q3 (v := v) ?_ rfl rfl hd (kk locs la hP hG hS hL)
  rw [hsl, q5 k hk]
  simp [vp_V, hv]
theorem h_callR {Kc : Nat} {Pc : Out → AH → Prop} {st0 : List Value} {a : Array Value}
    (hr : ∀ (locs : List Loc) (la : Array Slot), Hp X.G hA X.s H → gl la ls → vx_Run X.p X.l X.e X.R X.s X.m X.args X.below X.meth X.c H locs kc kc Kc Kc (F0 X.m pc la st0) st (gQc X.G hA H.size Pc a) (gXC X.G hA H.size Pc) (gA hA H.size))
    (kk : ∀ v h', Pc (.inl v) h' → GW X h' (kc + Kc) (pc + 3) ls (v.toList ++ st))
    (kx : ∀ E q h', Pc (.inr (E, q)) h' → GWX X h' (kc + Kc) pc ls st E q) : GWH X H hA kc pc ls st0 := by
  intro locs la hP hG hS hL T hT S
  have hA0 : ∀ q, q < H.size → gA hA H.size q → gA X.h0 X.s.heap.size q := by
    intro q hq h
    rcases h with h | h
    · exact hG q h
    · omega
  have hF0 : ∀ q, gA hA H.size q → gA X.h0 X.s.heap.size q := by
    intro q h
    rcases h with h | h
    · exact hG q h
    · exact Or.inr (Nat.le_trans hS.1 h)
  rcases hr locs la hP hL T hT S with ⟨v, st₀, t, T', L, g0, S', hLf, e1, e2, ⟨v', h', hv, hp, hPh, hgr, hF⟩, go⟩ | ⟨q, st₀, t, T', L, E, ce, g0, S', hLf, e1, e2, ⟨h', hp, hPh, hgr, hF⟩, hce, hcv, hcl, stp⟩
  · cases hv
    obtain ⟨k1, k2, k3⟩ := vx_keep g0 e1 hS hA0 hF0 hLf hF
    have hal : X.s.vm.Alike t.vm := by rw [← e2]; exact S'.warmed.alike
    obtain ⟨t2, a1, b1⟩ := kk v h' hp T'.heap (locs ++ L) la (by rw [e1]; exact hPh.moved hal.symm) (fun q hq => hF0 q (hgr q hq)) k3 hL T' rfl S'
    exact ⟨t2, go t2 a1, b1⟩
  · obtain ⟨k1, k2, k3⟩ := vx_keep g0 e1 hS hA0 hF0 hLf hF
    have hal : X.s.vm.Alike t.vm := by rw [← e2]; exact S'.warmed.alike
    obtain ⟨t2, a1, b1⟩ := kx E q h' hp T'.heap (locs ++ L) la ce (by rw [e1]; exact hPh.moved hal.symm) (fun q hq => hF0 q (hgr q hq)) k3 hL (by rw [e1]; exact hce) hcv hcl T' rfl S'
    exact ⟨t2, stp.trans a1, b1⟩
theorem h_callI (ok : Ok X yM cc nL rT hH lV kB) {y : MethodName} {b ci : Nat} {bytes : ByteArray} {maxL Lc Kc index : Nat} {av st0 : List Value} {Pc : Out → AH → Prop}
    (w1 : Cond.methodLink yM.cls index y ∈ lw_all) (w2 : Cond.instanceMethod y ∈ lw_all) (w4 : Cond.initialized y.cls ∈ lw_all) (w5 : Cond.code y bytes maxL none ∈ lw_all) (hy1 : y.name = "<init>") (hd : decode cc pc = .ok (.invokespecial index, 3)) (hM : MF X.l X.G y ci (ws_ y bytes maxL none) Lc b av hA Kc Pc) (hB : Brn X.G ci X.s H b)
    (hn : Nm y av.length) (hLv : Lc < lV) (hml : maxL ≤ 100) (hln : ls.length = nL) (hst : av.reverse ++ .ref b :: st = st0) (hs : (st.map fun v => v.category).sum ≤ 8) (hk : kc + Kc ≤ kB)
    (kk : ∀ v h', Pc (.inl v) h' → GW X h' (kc + Kc) (pc + 3) ls (v.toList ++ st)) (kx : ∀ E q h', Pc (.inr (E, q)) h' → GWX X h' (kc + Kc) pc ls st E q) : GWH X H hA kc pc ls st0 := by
  obtain ⟨r1, r2, r3, r4⟩ := ok.rm
  refine h_callR (a := (Value.ref b :: av).toArray) (fun locs la hP hL => ?_) kk kx
  exact vx_runI ok.1 (hM ok.tr H.size) (cwI av.length ok.ts (lw_meth w5) rfl rfl rfl (ok.ts _ w4) (ok.ts _ w1) (ok.ts _ w2) hy1 hn (g_rm ok hLv hml)) ⟨fun a U g mk x => ⟨gPc.blind a U g mk x.1, x.2⟩, fun U hU hW => ⟨⟨rfl, by rw [hU], ok.tab.warm hW, by rw [hU]; exact hP.moved hW.alike⟩, by rw [hU]; exact hB.moved hW.alike⟩⟩ rfl rfl (hL.1.trans hln) hst.symm (lv_room hs) hd ⟨by omega, by omega⟩
/-- super() of an exception class of the program -/
theorem g_super0 (ok : Ok X yM cc nL rT hH lV kB) {ci : Nat} {C : String} {T : u_T} {N : Nat} {ty : Nat → FieldType} (ck : CK ci C T N ty) (hN : 3 ≤ N) (hT0 : T 0 = ("java/lang/Throwable", "cause", "Ljava/lang/Throwable;", false)) (hT1 : T 1 = ("java/lang/Throwable", "stackTrace", "[Ljava/lang/StackTraceElement;", false)) (hT2 : T 2 = ("java/lang/Throwable", "suppressedExceptions", "Ljava/util/List;", false))
    {ic a : Nat} (hi : Cond.methodLink yM.cls ic (Bundle.init0 "java/lang/Exception") ∈ lw_all) (hx : XA X (XSup C)) (hthr : XA X Bundle.throwableAtoms) (hexc : XA X (Bundle.chain0Atoms "java/lang/Exception" [])) {v0 v1 v2 : Value} {fs : List Value} (hr : hA a = some (ob ci (v0 :: v1 :: v2 :: fs))) (h0 : X.h0 = hA) (hB : Brn X.G ci X.s X.s.heap a) (hd : decode cc pc = .ok (.invokespecial ic, 3)) (hln : ls.length = nL) (hs : (st.map fun v => v.category).sum ≤ 8) (hLv : 1 ≤ lV)
    (kk : ∀ u w, GW X (up hA a (ob ci (.ref a :: u :: w :: fs))) 0 (pc + 3) ls st) : GW0 X hA pc ls (.ref a :: st) := by
  intro la hP hL T1 hT S
  obtain ⟨r1, r2, r3, r4⟩ := ok.rm
  have hap := va_apart (own := yM.cls) ok.ts ck.2.1 ty ck.2.2.1 ck.2.2.2 ok.k ck.1
  obtain ⟨cell, q1, q2, q3, q4⟩ := g_at hP ck hr
  obtain ⟨hSl, hfc, kC, hkC, hkind⟩ := ok.k.1 ci _ ck.1
  obtain ⟨kX, b1, b2⟩ := hB
  cases Option.some.inj (b1.symm.trans hkC)
  have htr : X.e.platform.stackTraces = false := (show X.e.platform.stackTraces = X.l.stackTraces by rw [S.admits.platform]).trans ok.tr
  have hiU := vx_isRefq (args := X.args) ok.zu.1
  have hiN := vx_isRefq (args := X.args) ok.zs.1
  have all : ∀ {L : List Cond}, XA X L → ∀ w ∈ L, w.before X.args X.s = true := fun {L} hL => vx_own (fun w h => (hL w (List.mem_filter.mp h).1 (List.mem_filter.mp h).2).1) hiU hiN ok.zu.2.word ok.zs.2.word
  obtain ⟨Th, Z, V, L, u0, sen, Y, eV, S2, hLa, st2⟩ := vx_super0 (C := C) (E := "java/lang/Exception") (names := []) S ok.x htr ok.own (by decide) (fun n h => nomatch h) (all hthr) (all hexc) (ok.ts _ hi) (all hx) hiU hiN (fun x h => nomatch h) hfc hkC hkind (a := a) (by rw [hT]; exact b2)
    (g := F0 X.m pc la (.ref a :: st)) rfl (hL.1.trans (hln.trans ok.ml.symm)) (rest := st) rfl (by show decode X.c.code pc = _; rw [ok.b]; exact hd) (by show 0 + 3 < _; omega) (by show 0 + _ + 54 ≤ _; omega)
  have hl1 : a < V.heap.size := by rw [eV, hT]; exact (Array.getElem?_eq_some_iff.mp q1).1
  have hh := heapAt_setCell_self (s := V) ((preparedCellV Th.toThrowableT (freshCell (X.G.1.1 ci) kC) a u0 sen).setSlot Th.fStack.slot u0.v) hl1
  have oq : ∀ q : Nat, q ≠ a → (V.setCell a ((preparedCellV Th.toThrowableT (freshCell (X.G.1.1 ci) kC) a u0 sen).setSlot Th.fStack.slot u0.v)).heap[q]? = X.s.heap[q]? := fun q hq => by
    show (V.heap.setIfInBounds a _)[q]? = _
    rw [eV, hT]
    simp [Array.getElem?_setIfInBounds, Ne.symm hq]
  have hsz : (V.setCell a ((preparedCellV Th.toThrowableT (freshCell (X.G.1.1 ci) kC) a u0 sen).setSlot Th.fStack.slot u0.v)).heap.size = X.s.heap.size := by
    show (V.heap.setIfInBounds a _).size = _
    rw [Array.size_setIfInBounds, eV, hT]
  obtain ⟨_, _, _, f0, i0, s0⟩ := hSl 0 (show 0 < N by omega)
  obtain ⟨_, _, _, f1, i1, s1⟩ := hSl 1 (show 1 < N by omega)
  obtain ⟨_, _, _, f2, i2, s2⟩ := hSl 2 (show 2 < N by omega)
  rw [show ((C, T, N) : vw_C).2.1 0 = _ from hT0] at i0
  rw [show ((C, T, N) : vw_C).2.1 1 = _ from hT1] at i1
  rw [show ((C, T, N) : vw_C).2.1 2 = _ from hT2] at i2
  have j0 := i0.symm.trans Y.cause
  have j1 := i1.symm.trans Y.stack
  have j2 := i2.symm.trans Y.supp
  simp only [Option.some.injEq, Prod.mk.injEq] at j0 j1 j2
  rw [j0.2.2.2] at s0
  rw [j1.2.2.2] at s1
  rw [j2.2.2.2] at s2
  cases Option.some.inj (q1.symm.trans b2)
  have t4 := t_set (t_set (t_set (t_set q4 hap (show 0 < N by omega) (.ref a)) hap (show 1 < N by omega) u0.v) hap (show 2 < N by omega) sen.v) hap (show 1 < N by omega) u0.v
  rw [← s0, ← s1, ← s2] at t4
  have ha : hA a ≠ none := by rw [hr]; exact fun z => by cases z
  have hG : Gr X.h0 hA X.s.heap.size := fun q hq => Or.inl (by rw [h0]; exact hq)
  have fin : ∀ k, k < N → (((preparedCellV Th.toThrowableT (freshCell (X.G.1.1 ci) kC) a u0 sen).setSlot Th.fStack.slot u0.v)).slots[X.G.1.2 ci k]? = some (vp_V (.ref a :: u0.v :: sen.v :: fs) k) := fun k hk => by
    rw [t4 k hk]
    match k with
    | 0 => rfl
    | 1 => rfl
    | 2 => rfl
    | k + 3 => rfl
  obtain ⟨t, a1, b1⟩ := kk u0.v sen.v _ ([] ++ L) la (hP.upd (Or.inl ha) (fun q _ hq => oq q hq) ⟨_, ck.1, _, hh, q2, q3, fin⟩) (hG.up (Or.inl ha)) ⟨Nat.le_of_eq hsz.symm, fun q h1 h2 => oq q (fun e => h2 (by rw [e]; exact Or.inl (by rw [h0]; exact ha))), fun z hz => by rw [hLa z (by simpa using hz)]; exact Or.inl (by rw [h0]; exact ha)⟩ hL _ rfl S2
  exact ⟨t, st2 t a1, b1⟩
end
