/-! an enum's constants with bodies -/
set_option maxRecDepth 100000
def vx_raw (l : Launch) (y : MethodName) (ws : List Cond) (rm : Room) (e : Env) (s : State) (m : MethodId) (args : Array Value) (below : List Frame) : Prop :=
  s.status = .running ∧ s.curStatus? = some .runnable ∧ s.alone = true ∧ s.methodNamed? y = some m ∧ s.hears m below = true ∧ s.hasRoom e.platform rm = true ∧ (headSpec ws rm).pre.before args s = true
def vx_MetR (l : Launch) (y : MethodName) (ws : List Cond) (rm : Room) (Pc : Array Value → State → Prop) (Qc : Array Value → State → Outcome → State → Prop) (XC : String → Addr → State → State → Prop) (mc ms : Nat) (free : Addr → Prop) : Prop :=
  ∀ (p : Program) (e : Env), l.admits e → FairCas e.choices → FairClock e.choices → ∀ (s : State) (m : MethodId) (args : Array Value) (below : List Frame),
    s.frames = .invoking m args :: below → vx_raw l y ws rm e s m args below → Pc args s →
    ∃ n o, (∀ k, k < n → Within (stepsAlone p.tables e k s) below) ∧ (stepsAlone p.tables e n s).status = .running ∧ Ended (stepsAlone p.tables e n s) below o ∧ vx_Q Qc XC mc ms free args s o (stepsAlone p.tables e n s)
theorem callRaw {l : Launch} {x : MethodName} {ws : List Cond} {rm : Room} {Pc : Array Value → State → Prop} {Qc : Array Value → State → Outcome → State → Prop} {XC : String → Addr → State → State → Prop} {mc ms : Nat} {free : Addr → Prop} {e : Env}
    (hM : vx_MetR l x ws rm Pc Qc XC mc ms free) (p : Program) (ha : l.admits e) (hc : FairCas e.choices) (hk : FairClock e.choices)
    {s : State} {m : MethodId} {args : Array Value} {acts : List Action} {mid below : List Frame}
    (hfr : s.frames = mid ++ below) (happ : vx_raw l x ws rm e (s.pushFrame (.invoking m args)) m args s.frames) (hP : Pc args (s.pushFrame (.invoking m args))) :
    ∃ o s₂, Steps p.tables e below (doInvoke e s acts m args).1 s₂ ∧ s₂.status = .running ∧ Ended s₂ s.frames o ∧ vx_Q Qc XC mc ms free args (s.pushFrame (.invoking m args)) o s₂ := by
  obtain ⟨t, ht⟩ : ∃ t, s.threads[s.cur]? = some t := by
    cases h : s.threads[s.cur]? with
    | some t => exact ⟨t, rfl⟩
    | none =>
      have hcs := happ.2.1
      have hn : (s.pushFrame (.invoking m args)).curStatus? = none := by
        simp [State.curStatus?, State.pushFrame, State.setFrames, Array.getElem?_modify, h]
      rw [hn] at hcs
      cases hcs
  have hlt : s.cur < s.threads.size := (Array.getElem?_eq_some_iff.mp ht).1
  have hf' : (s.pushFrame (.invoking m args)).frames = .invoking m args :: s.frames := State.frames_setFrames _ hlt
  have hgo : (s.pushFrame (.invoking m args)).goesOn := ⟨happ.1, happ.2.1, happ.2.2.1⟩
  obtain ⟨n, o, hw, hr, he, hp⟩ := hM p e ha hc hk (s.pushFrame (.invoking m args)) m args s.frames hf' happ hP
  have hstep : (stepThread p.tables e (s.pushFrame (.invoking m args))).1 = (doInvoke e s acts m args).1 := by
    rw [stepThread_invoking hf', doInvoke_state e s acts, State.pushFrame, State.setFrames_setFrames, State.setFrames_self ht]
  cases n with
  | zero => exact absurd ⟨[.invoking m args], hf', by simp, by simp⟩ he.not_within
  | succ k =>
    rw [stepsAlone_succ _ hgo, hstep] at hr he hp
    refine ⟨o, _, ⟨k, rfl, fun j hj => ?_⟩, hr, he, hp⟩
    have := hw (j + 1) (by omega)
    rw [stepsAlone_succ _ hgo, hstep, hfr] at this
    exact this.weaken
section
variable {l : Launch} {R : Room} {p : Program} {e : Env} {below : List Frame} {s : State} {sargs : Array Value} {y : MethodName} {len W9 : Nat}
theorem vx_backR {ws : List Cond} {rm : Room} {Pc : Array Value → State → Prop} {Qc : Array Value → State → Outcome → State → Prop} {XC : String → Addr → State → State → Prop} {mc ms : Nat} {free : Addr → Prop} {bytes : ByteArray} {maxL : Nat} {ret : Option FieldType}
    (hM : vx_MetR l y ws rm Pc Qc XC mc ms free) (hblind : FrameBlind Pc) (hrc : rm.cells = mc) (hrs : rm.slots = ms)
    (hframes : rm.frames + 1 ≤ R.frames) (hlocals : W9 + (maxL + 11) + rm.locals ≤ R.locals)
    (hws : ∀ w ∈ ws, ∀ a' U, s.WarmedH U.vm → w.before a' U = true) (hcode : Cond.code y bytes maxL ret ∈ ws) :
    vx_Back l R p e below s sargs y len W9 (PreOf R mc ms Pc) (PostOf Qc mc ms free) (vx_Post XC mc ms free) := by
  intro m meth c A g ig mk a X hg hsize hdg hW hn hp
  have h1 : (headSpec ws rm).pre.before a A.U = true := atoms_intro fun w hw => hws w hw _ _ X.warmed
  have h2 : (Cond.code y bytes maxL ret).before a A.U = true := hws _ hcode _ _ X.warmed
  have h4 : A.cells + (headSpec ws rm).room.cells ≤ R.cells := by rw [show (headSpec ws rm).room.cells = mc from hrc]; exact hp.1
  have h5 : A.slots + (headSpec ws rm).room.slots ≤ R.slots := by rw [show (headSpec ws rm).room.slots = ms from hrs]; exact hp.2.1
  have hPc : Pc a (A.U.calling g mk a) := hblind _ _ _ _ hp.2.2
  obtain ⟨U, Ls, c0, s0⟩ := A
  dsimp only [Pt.U, Pt.locs, Pt.cells, Pt.slots] at h1 h2 h4 h5 X hn hPc ⊢
  obtain ⟨methY, cY, hmY, hcY, -, hlY, -, -, -, -⟩ := Cond.code_spec hn h2
  have h : At U g.method c below := by rw [hg]; exact X.here
  have hlocals9 : W9 + (maxL + 11) + (headSpec ws rm).room.locals ≤ R.locals := hlocals
  have happ : vx_raw l y ws rm e (U.calling g mk a) mk a (.java g :: U.frames.tail) := by
    have hcd : (U.calling g mk a).code? g.method = some c := by
      have := h.code
      rw [State.code?_eq] at this ⊢
      simpa [State.calling, State.pushFrame, State.setFrames] using this
    refine ⟨h.running, by simpa [State.calling] using h.runnable, by simpa [State.calling] using h.alone, hn, ?_, X.room_calling (g := g) (R' := (headSpec ws rm).room) hsize hmY hcY hframes (by rw [hlY]; omega) h4 h5, ?_⟩
    · simp [State.hears, hcd, hdg, Except.toOption]
    · rw [State.calling_eq h.top, Cond.before_setFrames]; exact h1
  obtain ⟨mid, hmid⟩ := h.above
  have hfr : (U.setTop g).frames = (.java g :: mid) ++ below := by rw [State.frames_setTop' g h.top, hmid]; rfl
  obtain ⟨o, s₂, hsteps, -, hend, hq⟩ := callRaw hM p X.admits X.cas X.clock (acts := []) hfr (by rw [State.frames_setTop' g h.top]; exact happ) hPc
  have hq' : vx_Q Qc XC mc ms free a (U.calling g mk a) o s₂ := hq
  rw [State.frames_setTop' g h.top] at hend
  obtain ⟨g₀, hg0⟩ := Option.isSome_iff_exists.mp h.top
  obtain ⟨r, hr⟩ := State.topJava?_eq_some.mp hg0
  have hr' : (({ U with heap := s₂.heap, slotsUsed := s₂.slotsUsed } : State).setVm s₂.vm).frames = .java g₀ :: r := hr
  rcases hq' with ⟨hqc, L, hfe, hL⟩ | ⟨q, rfl, E, ce, L, hx, hce, hcv, hcl, hW₂, hsm, hL⟩
  · obtain ⟨⟨v, rfl⟩, hW₂, e2, q2, q3, q4, q5, q6⟩ := id hfe
    have e3 : s₂ = ({ (U.calling g mk a).setFrames s₂.frames with heap := s₂.heap, slotsUsed := s₂.slotsUsed } : State).setVm s₂.vm := by
      have : s₂ = ({ s₂ with vm := (U.calling g mk a).vm } : State).setVm s₂.vm := rfl
      rw [e2] at this
      exact this
    obtain ⟨c₂, i₂, len₂, hc₂, hd₂, hf₂⟩ := hend
    have hW' : U.WarmedH s₂.vm := hW₂
    have hcc : c₂ = c := by
      have h1 : s₂.code? g.method = U.code? g.method := by
        rw [State.code?_eq, State.code?_eq, hW'.alike.method?]
      exact Option.some.inj (hc₂.symm.trans (h1.trans h.code))
    subst hcc
    have hlen : len₂ = len := by rw [hdg] at hd₂; cases hd₂; rfl
    subst hlen
    have hs₂ : s₂ = (({ U with heap := s₂.heap, slotsUsed := s₂.slotsUsed } : State).setVm s₂.vm).setTop { g with pc := g.pc + len₂, stack := v.toList ++ g.stack } := by
      refine e3.trans ?_
      rw [hf₂, State.calling_eq h.top, State.setFrames_setFrames, State.setTop_of_frames _ hr', hr]
      rfl
    have hsame : U.sameButNew ({ U with heap := s₂.heap, slotsUsed := s₂.slotsUsed } : State) L mc ms := by
      refine ⟨?_, q2, q3, q4, q5, q6⟩
      obtain ⟨t, ht, -⟩ := State.frames_cons hr
      show ({ U with heap := s₂.heap, slotsUsed := s₂.slotsUsed } : State) = { U.setFrames U.frames with heap := s₂.heap, slotsUsed := s₂.slotsUsed }
      rw [State.setFrames_self ht]
    subst hg
    refine Or.inl ⟨v, ⟨(({ U with heap := s₂.heap, slotsUsed := s₂.slotsUsed } : State).setVm s₂.vm), Ls ++ L, c0 + mc, s0 + ms⟩,
      ⟨X.admits, X.cas, X.clock, X.frames, X.room, X.hears, X.method, X.code, (X.here.setHeapUsed s₂.heap s₂.slotsUsed).setVm hW'.alike, X.tail, State.WarmedH.trans X.warmed hW', X.limits, X.bytes, X.same.trans (hsame.setVm s.vm)⟩,
      ⟨g, mk, s₂, L, rfl, rfl, hqc, rfl, hL, rfl, rfl⟩, ?_⟩
    show Steps p.tables e below _ ((({ U with heap := s₂.heap, slotsUsed := s₂.slotsUsed } : State).setVm s₂.vm).setTop { g with pc := g.pc + len₂, stack := v.toList ++ g.stack })
    rw [← hs₂]
    exact hsteps
  · obtain ⟨e2, q2, q3, q4, q5, q6⟩ := id hsm
    have e3 : s₂ = ({ (U.calling g mk a).setFrames s₂.frames with heap := s₂.heap, slotsUsed := s₂.slotsUsed } : State).setVm s₂.vm := by
      have : s₂ = ({ s₂ with vm := (U.calling g mk a).vm } : State).setVm s₂.vm := rfl
      rw [e2] at this
      exact this
    have hf₂ : s₂.frames = .throwing q :: .java g :: U.frames.tail := hend
    have hW' : U.WarmedH s₂.vm := hW₂
    have hs₂ : s₂ = ((({ U with heap := s₂.heap, slotsUsed := s₂.slotsUsed } : State).setVm s₂.vm).setTop g).pushFrame (.throwing q) := by
      refine e3.trans ?_
      rw [hf₂, State.calling_eq h.top, State.setFrames_setFrames, State.pushFrame, State.frames_setTop _ hr', State.setTop_of_frames _ hr', State.setFrames_setFrames, hr]
      rfl
    have hsame : U.sameButNew ({ U with heap := s₂.heap, slotsUsed := s₂.slotsUsed } : State) L mc ms := by
      refine ⟨?_, q2, q3, q4, q5, q6⟩
      obtain ⟨t, ht, -⟩ := State.frames_cons hr
      show ({ U with heap := s₂.heap, slotsUsed := s₂.slotsUsed } : State) = { U.setFrames U.frames with heap := s₂.heap, slotsUsed := s₂.slotsUsed }
      rw [State.setFrames_self ht]
    subst hg
    refine Or.inr ⟨q, ⟨(({ U with heap := s₂.heap, slotsUsed := s₂.slotsUsed } : State).setVm s₂.vm), Ls ++ L, c0 + mc, s0 + ms⟩,
      ⟨X.admits, X.cas, X.clock, X.frames, X.room, X.hears, X.method, X.code, (X.here.setHeapUsed s₂.heap s₂.slotsUsed).setVm hW'.alike, X.tail, State.WarmedH.trans X.warmed hW', X.limits, X.bytes, X.same.trans (hsame.setVm s.vm)⟩,
      ⟨g, mk, s₂, L, E, ce, rfl, rfl, hx, hce, hcv, hcl, rfl, hL, rfl, rfl⟩, ?_⟩
    show Steps p.tables e below _ (((({ U with heap := s₂.heap, slotsUsed := s₂.slotsUsed } : State).setVm s₂.vm).setTop g).pushFrame (.throwing q))
    rw [← hs₂]
    exact hsteps
end
section
variable {p : Program} {l : Launch} {e : Env} {R : Room} {s : State} {m : MethodId} {args : Array Value} {below : List Frame} {meth : Method} {c : Code} {H : Heap} {locs : List Loc} {cells slots : Nat}
theorem vx_runUR {x y : MethodName} {bytes cc : ByteArray} {maxL nL mc ms n index : Nat} {ret : Option FieldType} {ws : List Cond} {rm : Room} {Pc : Array Value → State → Prop} {Qc : Array Value → State → Outcome → State → Prop} {XC : String → Addr → State → State → Prop} {free : Addr → Prop} {Ts : List Cond} {own C owner : String} {b : Addr} {As rest : List Value} {g : JFrame}
    (S : CallFix p m c cc nL s args Ts own) (hM : vx_MetR l y ws rm Pc Qc XC mc ms free) (hrc : rm.cells = mc) (hrs : rm.slots = ms) (hfr : rm.frames + 1 ≤ R.frames) (hlo : 8 + (maxL + 11) + rm.locals ≤ R.locals) (hws : ∀ w ∈ ws, ∀ a' U, s.WarmedH U.vm → w.before a' U = true) (hcw : Cond.code y bytes maxL ret ∈ ws) (c1 : (Cond.methodLink own index x).before args s = true) (c2 : (Cond.sameMethod x.cls owner x.name x.desc).before args s = true) (c3 : va_Decl s ⟨owner, x.name, x.desc⟩) (c4 : owner ≠ "java/lang/invoke/MethodHandle" ∧ owner ≠ "java/lang/invoke/VarHandle") (c5 : (Cond.selects C x y).before args s = true) (c6 : (Cond.instanceMethod y).before args s = true) (c7 : (Cond.code y bytes maxL ret).before args s = true) (c8 : ∀ sig, parseMethodDescriptor x.desc = some sig → n = sig.parameters.length) (hp : PreV s H C b Pc As)
    (hg : g.method = m) (hn : As.length = n) (hsize : g.locals.size = nL) (hstack : g.stack = As.reverse ++ .ref b :: rest) (hW : 2 * g.monitorRoom + (rest.map fun v => v.category).sum ≤ 8) (hdg : decode cc g.pc = .ok (.invokevirtual index, 3)) (hf : cells + mc ≤ R.cells ∧ slots + ms ≤ R.slots) :
    vx_Run p l e R s m args below meth c H locs cells slots mc ms g rest (Qc (Value.ref b :: As).toArray) XC free := by
  have hK : vx_Back l R p e below s args y 3 8 (PreOf R mc ms Pc) (PostOf Qc mc ms free) (vx_Post XC mc ms free) := vx_backR (bytes := bytes) (maxL := maxL) (ret := ret) hM hp.1 hrc hrs hfr hlo hws hcw
  obtain ⟨hx, hb, hml, ho, -⟩ := S
  obtain ⟨-, ⟨cellB, hcB, hoB, hclB⟩, hPc⟩ := hp
  intro T hT X
  rcases vx_callVU X hx (C := C) (owner := owner) (bytes := bytes) (maxL := maxL) (ret := ret) ho c1 c2 c3 c4 c5 c6 c7 hK (by rw [hT]; exact hcB) hoB hclB hg (hsize.trans hml.symm) (argsL := As) (rest := rest) (fun sig h => hn.trans (c8 sig h)) hstack hW (by rw [hb]; exact hdg)
    (fun vm₁ hW₁ => ⟨hf.1, hf.2, hPc (T.setVm vm₁) hT hW₁⟩) with ⟨v, vm₁, ⟨U', l2, c2, s2⟩, hW₁, X', ⟨g', mk, t, L, e1, e2, hq, h1, hL, h2, h3⟩, st⟩ | ⟨q, vm₁, ⟨U', l2, c2, s2⟩, hW₁, X', ⟨g', mk, t, L, E, ce, e1, e2, hq, hce, hcv, hcl, h1, hL, h2, h3⟩, st⟩
  · dsimp only [Pt.U, Pt.locs, Pt.cells, Pt.slots] at X' e1 e2 h1 h2 h3 st
    subst h1; subst h2; subst h3
    exact Or.inl ⟨v, (T.setVm vm₁).calling g' mk (Value.ref b :: As).toArray, t, U', L, hT, X', hL, e1, e2, hq, st⟩
  · dsimp only [Pt.U, Pt.locs, Pt.cells, Pt.slots] at X' e1 e2 h1 h2 h3 st hcl
    subst h1; subst h2; subst h3
    exact Or.inr ⟨q, (T.setVm vm₁).calling g' mk (Value.ref b :: As).toArray, t, U', L, E, ce, hT, X', hL, e1, e2, hq, hce, hcv, vx_cls hW₁ hcl, st⟩
end
def GMr (l : Launch) (G : GE) (y : MethodName) (ws : List Cond) (Lv : Nat) (av : List Value) (h : AH) (K : Nat) (P : Out → AH → Prop) : Prop :=
  l.stackTraces = false → ∀ sz, vx_MetR l y ws (rmL Lv K) (gPc G av h sz) (gQc G h sz P) (gXC G h sz P) K K (gA h sz)
theorem GMr.of {l : Launch} {G : GE} {y : MethodName} {cc : ByteArray} {nL : Nat} {ret : Option FieldType} {Lv K : Nat} {av : List Value} {h : AH} {P : Out → AH → Prop} (hy : plainName y.cls = true) (hlen : (lg_sl av).length ≤ nL)
    (body : ∀ X : GX, X.l = l → X.G = G → X.h0 = h → Ok X y cc nL ret [] Lv K → Fn X K P → GW X h 0 0 (ent nL av) []) : GMr l G y (ws_ y cc nL ret) Lv av h K P := by
  intro hl sz p e ha hc hk s m args below hf happ hv
  obtain ⟨hrun, hable, halone, hname, hhears, hroom, hpre⟩ := happ
  obtain ⟨hav, hsz, hT, hP⟩ := hv
  subst hav
  subst hsz
  have hts := atoms_spec (ws := ws_ y cc nL ret) hpre
  obtain ⟨meth, c, hmeth, hcode, hbytes, hlocals, hret, hlocks, hempty, -⟩ := Cond.code_spec hname (hts _ List.mem_cons_self)
  have hcur := State.cur_lt_of_frames hf
  have hf1 : (s.setFrames (.java (entryFrame m av.toArray nL) :: below)).frames = .java (entryFrame m av.toArray nL) :: below := State.frames_setFrames _ hcur
  have ht1 := State.topJava?_of_frames hf1
  have hplain : (s.setFrames (.java (entryFrame m av.toArray nL) :: below)).plainMethod m := State.plainMethod.of_named (s := s) (plainFor_of_name hy) hname hmeth
  have hAt : At (s.setFrames (.java (entryFrame m av.toArray nL) :: below)) m c below :=
    ⟨by rw [ht1]; rfl, ⟨[], by rw [hf1]; rfl⟩, hrun, by simpa using hable, by simpa using halone, by rw [State.code?_eq]; simp [State.setFrames, hmeth, hcode], hplain⟩
  have hstep : (stepThread p.tables e s).1 = (s.setFrames (.java (entryFrame m av.toArray nL) :: below)).setTop (entryFrame m av.toArray nL) := by
    have hfull : e.platform.stackFull (s.setFrames below).me (s.setFrames below).frames c.maxLocals = false := by
      obtain ⟨-, h1, -, h2⟩ := State.hasRoom_stack hroom
      rw [hf, List.length_cons] at h1
      rw [State.localsInUse_invoking hf hmeth hcode] at h2
      have hw := stackUse_le_stackWeight below
      rw [State.frames_setFrames _ hcur]
      exact Platform.stackFull_eq_false (by rw [State.stackLimits_setFrames]; omega) (by rw [State.stackLimits_setFrames]; omega)
    rw [stepThread_invoking hf, (doInvoke_java (s := s.setFrames below) (e := e) (meth := meth) (code := c) hmeth hcode hlocks hfull).1, State.setTop_self ht1]
    simp only [State.pushFrame, State.frames_setFrames _ hcur, State.setFrames_setFrames, hlocals, entryFrame]
  obtain ⟨t0, ht0, -⟩ := State.frames_cons hf
  have S0 : Stand p l e (rmL Lv K) s m av.toArray below meth c (s.setFrames (.java (entryFrame m av.toArray nL) :: below)) [] 0 0 := by
    refine ⟨ha, hc, hk, hf, hroom, hhears, hmeth, hcode, hAt, by rw [hf1]; rfl, State.WarmedH.refl s, by rw [State.stackLimits_setFrames], by rw [State.stackBytes_setFrames], ?_⟩
    exact (State.sameButNew.refl s ht0).setFrames (.java (entryFrame m av.toArray nL) :: below) hcur
  have htb : c.exceptionTable.toList = tableOf [] := by rw [Array.isEmpty_iff.mp hempty]; rfl
  obtain ⟨t, a1, o, b1, b2, b3⟩ := body (l, G, rmL Lv K, h, vx_MQ below (gQc G h s.heap.size P) (gXC G h s.heap.size P) av.toArray s K K (gA h s.heap.size), p, e, s, m, av.toArray, below, meth, c) rfl rfl rfl
    ⟨⟨by cases p <;> rfl, hbytes, hlocals, findClass_of_methodNamed hname, fun w hw => hts w (List.mem_cons_of_mem _ hw)⟩, hT, hlocks, (name_of_methodNamed hname hmeth).1, hret, htb, hl, ⟨Nat.le_refl _, Nat.le_refl _, Nat.le_refl _, Nat.le_refl _⟩, fun q hq => hP.lt hq, zq_area hP.2.2.2.2.1, zq_area hP.2.2.2.2.2⟩ rfl
    s.heap [] _ hP (fun q hq => Or.inl hq) va_S.rf (ent_gl hlen) (s.setFrames (.java (entryFrame m av.toArray nL) :: below)) rfl S0
  rw [← lg_entry_eq] at a1
  obtain ⟨n, hn, hw⟩ := Steps.head (tb := p.tables) (e := e) ⟨hrun, hable, halone⟩ ⟨[.invoking m av.toArray], hf, by simp, by simp⟩ (hstep ▸ a1)
  exact ⟨n, o, hw, hn ▸ b1, hn ▸ b2, hn ▸ b3⟩
section
variable {X : GX} {yM : MethodName} {cc : ByteArray} {nL : Nat} {rT : Option FieldType} {hH : List (Nat × Nat × Nat × Nat)} {lV kB : Nat} {hA : AH} {kc pc : Nat} {ls : List (Option Value)} {st : List Value}
theorem g_callUR (ok : Ok X yM cc nL rT hH lV kB) {x y : MethodName} {b : Nat} {C owner : String} {bytes : ByteArray} {maxL Lc Kc index : Nat} {ret : Option FieldType} {av st0 : List Value} {Pc : Out → AH → Prop}
    (w1 : Cond.methodLink yM.cls index x ∈ lw_all) (w2 : Cond.sameMethod x.cls owner x.name x.desc ∈ lw_all) (w3 : Cond.selects C x y ∈ lw_all) (w4 : Cond.instanceMethod y ∈ lw_all) (w6 : Cond.code y bytes maxL ret ∈ lw_all) (hdc : va_Decl X.s ⟨owner, x.name, x.desc⟩) (ho : owner ≠ "java/lang/invoke/MethodHandle" ∧ owner ≠ "java/lang/invoke/VarHandle") (hb : Recv X hA b C) (hd : decode cc pc = .ok (.invokevirtual index, 3)) (hM : GMr X.l X.G y (ws_ y bytes maxL ret) Lc (.ref b :: av) hA Kc Pc)
    (hn : Nm x av.length) (hLv : Lc < lV) (hml : maxL ≤ 100) (hln : ls.length = nL) (hst : av.reverse ++ .ref b :: st = st0) (hs : (st.map fun v => v.category).sum ≤ 8) (hk : kc + Kc ≤ kB)
    (kk : ∀ v h', Pc (.inl v) h' → GW X h' (kc + Kc) (pc + 3) ls (v.toList ++ st)) (kx : ∀ E q h', Pc (.inr (E, q)) h' → GWX X h' (kc + Kc) pc ls st E q) : GW X hA kc pc ls st0 := by
  obtain ⟨r1, r2, r3, r4⟩ := ok.rm
  refine g_callR (a := (Value.ref b :: av).toArray) (fun H locs la hP hL => ?_) kk kx
  exact vx_runUR ok.1 (hM ok.tr H.size) (C := C) (owner := owner) (x := x) (n := av.length) rfl rfl (g_rm ok hLv hml).1 (g_rm ok hLv hml).2 (pay_in ok.ts (lw_meth w6)) List.mem_cons_self (ok.ts _ w1) (ok.ts _ w2) hdc ho (ok.ts _ w3) (ok.ts _ w4) (ok.ts _ w6) (fun sig h => by have h2 := hn.2.2; rw [h] at h2; exact (Option.some.inj h2).symm) (g_preV ok hP hb) rfl rfl (hL.1.trans hln) hst.symm (lv_room hs) hd ⟨by omega, by omega⟩
end
theorem r_withX16 (l : Launch) (G : GE) (h : AH) (a : Nat) (x : Int32) : GMr l G yX16_with (ws_ yX16_with cX16_with 2 (some (.object "SpanRuler$Act"))) 2 [.ref a, .int x] (h) (3) (PR fun v h' => ∃ t, v = .ref t ∧ h t = none ∧ G.kh t = none ∧ h' = up h t (ob 4 [.int 1, .int x])) := by
  refine GMr.of (by decide) (dk rfl) ?_
  intro X eL eG eh ok fn
  subst eL; subst eG
  show GW X _ 0 0 [some (.ref a), some (.int x)] []
  refine g_new ok ck_X7 q1038 q186 q67 dX16_with_0 (fs := [.int 0, .int 0]) (by intro j hj; rcases (by omega : j = 0 ∨ j = 1) with rfl | rfl <;> rfl) (by omega) (fun t hat hkt h0t => ?_)
  refine g_dup ok dX16_with_3 rfl ?_
  refine g_iconst ok (v := 1) dX16_with_4 rfl ?_
  refine g_iload_n ok dX16_with_5 rfl ?_
  refine g_callI ok q1039 q188 q67 q189 rfl dX16_with_6 (x_actInit X.l X.G _ t 1 x up_self) (nm_ (by decide : nmb _ 2 = true)) (dl rfl) (dk rfl) rfl rfl (dk rfl) (by omega) (kN ?_) xN
  simp only [up_up]
  exact g_aret ok fn rfl (Or.inl ⟨_, rfl⟩) (Or.inr ⟨_, rfl⟩) dX16_with_9 ⟨_, rfl, t, rfl, hat, hkt, rfl⟩ (by omega)
theorem r_withX17 (l : Launch) (G : GE) (h : AH) (a : Nat) (x : Int32) : GMr l G yX17_with (ws_ yX17_with cX17_with 2 (some (.object "SpanRuler$Act"))) 2 [.ref a, .int x] (h) (3) (PR fun v h' => ∃ t, v = .ref t ∧ h t = none ∧ G.kh t = none ∧ h' = up h t (ob 4 [.int 0, .int x])) := by
  refine GMr.of (by decide) (dk rfl) ?_
  intro X eL eG eh ok fn
  subst eL; subst eG
  show GW X _ 0 0 [some (.ref a), some (.int x)] []
  refine g_new ok ck_X7 q1043 q186 q67 dX17_with_0 (fs := [.int 0, .int 0]) (by intro j hj; rcases (by omega : j = 0 ∨ j = 1) with rfl | rfl <;> rfl) (by omega) (fun t hat hkt h0t => ?_)
  refine g_dup ok dX17_with_3 rfl ?_
  refine g_iconst ok (v := 0) dX17_with_4 rfl ?_
  refine g_iload_n ok dX17_with_5 rfl ?_
  refine g_callI ok q1044 q188 q67 q189 rfl dX17_with_6 (x_actInit X.l X.G _ t 0 x up_self) (nm_ (by decide : nmb _ 2 = true)) (dl rfl) (dk rfl) rfl rfl (dk rfl) (by omega) (kN ?_) xN
  simp only [up_up]
  exact g_aret ok fn rfl (Or.inl ⟨_, rfl⟩) (Or.inr ⟨_, rfl⟩) dX17_with_9 ⟨_, rfl, t, rfl, hat, hkt, rfl⟩ (by omega)
theorem r_withX18 (l : Launch) (G : GE) (h : AH) (a : Nat) (x : Int32) : GMr l G yX18_with (ws_ yX18_with cX18_with 2 (some (.object "SpanRuler$Act"))) 2 [.ref a, .int x] (h) (3) (PR fun v h' => ∃ t, v = .ref t ∧ h t = none ∧ G.kh t = none ∧ h' = up h t (ob 4 [.int (-1), .int 0])) := by
  refine GMr.of (by decide) (dk rfl) ?_
  intro X eL eG eh ok fn
  subst eL; subst eG
  show GW X _ 0 0 [some (.ref a), some (.int x)] []
  refine g_new ok ck_X7 q1048 q186 q67 dX18_with_0 (fs := [.int 0, .int 0]) (by intro j hj; rcases (by omega : j = 0 ∨ j = 1) with rfl | rfl <;> rfl) (by omega) (fun t hat hkt h0t => ?_)
  refine g_dup ok dX18_with_3 rfl ?_
  refine g_iconst ok (v := -1) dX18_with_4 rfl ?_
  refine g_iconst ok (v := 0) dX18_with_5 rfl ?_
  refine g_callI ok q1049 q188 q67 q189 rfl dX18_with_6 (x_actInit X.l X.G _ t (-1) 0 up_self) (nm_ (by decide : nmb _ 2 = true)) (dl rfl) (dk rfl) rfl rfl (dk rfl) (by omega) (kN ?_) xN
  simp only [up_up]
  exact g_aret ok fn rfl (Or.inl ⟨_, rfl⟩) (Or.inr ⟨_, rfl⟩) dX18_with_9 ⟨_, rfl, t, rfl, hat, hkt, rfl⟩ (by omega)
theorem r_mayX16 (l : Launch) (G : GE) (h : AH) (a : Nat) (x : Int32) : GMr l G yX16_may (ws_ yX16_may cX16_may 2 (some .boolean)) 2 [.ref a, .int x] (h) (0) (PV (.int (bI (isNu 0 x))) h) := by
  refine GMr.of (by decide) (dk rfl) ?_
  intro X eL eG eh ok fn
  subst eL; subst eG
  show GW X _ 0 0 [some (.ref a), some (.int x)] []
  refine g_iload_n ok dX16_may_0 rfl ?_
  refine g_bipush ok (v := -99) dX16_may_1 rfl ?_
  refine g_bipush ok (v := 99) dX16_may_3 rfl ?_
  refine g_callSN ok q1012 q1002 q61 q1003 dX16_may_5 (x_isIn X.l X.G _ x (-99) 99) (nm_ (by decide : nmb _ 3 = true)) (dl rfl) (dk rfl) rfl rfl (dk rfl) (by omega) (kV ?_) xV
  exact g_zret ok fn rfl (bI_z _) dX16_may_8 (pv_h rfl) (by omega)
theorem r_mayX17 (l : Launch) (G : GE) (h : AH) (a : Nat) (x : Int32) : GMr l G yX17_may (ws_ yX17_may cX17_may 2 (some .boolean)) 2 [.ref a, .int x] (h) (0) (PV (.int (bI (isNu 1 x))) h) := by
  refine GMr.of (by decide) (dk rfl) ?_
  intro X eL eG eh ok fn
  subst eL; subst eG
  show GW X _ 0 0 [some (.ref a), some (.int x)] []
  refine g_iload_n ok dX17_may_0 rfl ?_
  refine g_sipush ok (v := -999) dX17_may_1 rfl ?_
  refine g_sipush ok (v := 999) dX17_may_4 rfl ?_
  refine g_callSN ok q1016 q1002 q61 q1003 dX17_may_7 (x_isIn X.l X.G _ x (-999) 999) (nm_ (by decide : nmb _ 3 = true)) (dl rfl) (dk rfl) rfl rfl (dk rfl) (by omega) (kV ?_) xV
  exact g_zret ok fn rfl (bI_z _) dX17_may_10 (pv_h rfl) (by omega)
