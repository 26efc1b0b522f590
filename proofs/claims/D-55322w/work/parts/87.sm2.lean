/-! the SpanRuler changes, 2: what may be refused -/
set_option maxRecDepth 100000
abbrev cX1_add : ByteArray := prog_1_method_22_code
def yX1_add : MethodName := ⟨RX1, "add", "(III)I"⟩
def dkwX1_add_2 : List UInt8 := [25, 4, 21, 5, 182, 0, 200, 172, 58, 5, 42, 25, 5, 182, 0, 204, 191]
abbrev dktX1_add_2 : List UInt8 := dkwX1_add_2 ++ []
def dkwX1_add_1 : List UInt8 := [184, 0, 170, 42, 180, 0, 126, 182, 0, 193, 58, 4, 25, 4, 27, 28, 29, 182, 0, 197, 54, 5, 42]
abbrev dktX1_add_1 : List UInt8 := dkwX1_add_1 ++ dktX1_add_2
def dkwX1_add_0 : List UInt8 := [27, 28, 184, 0, 167, 153, 0, 17, 178, 0, 31, 29, 182, 0, 190, 153, 0, 7, 4, 167, 0, 4, 3]
abbrev dktX1_add_0 : List UInt8 := dkwX1_add_0 ++ dktX1_add_1
theorem dksX1_add_0 : cX1_add.data.toList.drop 0 = dktX1_add_0 := by decide +kernel
theorem dksX1_add_1 : cX1_add.data.toList.drop 23 = dktX1_add_1 := dk_seg dksX1_add_0 23 rfl rfl
theorem dksX1_add_2 : cX1_add.data.toList.drop 46 = dktX1_add_2 := dk_seg dksX1_add_1 23 rfl rfl
theorem dX1_add_0 : decode cX1_add 0 = .ok (.iload_n 1, 1) := dk_27 (dk_at dksX1_add_0 0 rfl rfl)
theorem dX1_add_1 : decode cX1_add 1 = .ok (.iload_n 2, 1) := dk_28 (dk_at dksX1_add_0 1 rfl rfl)
theorem dX1_add_2 : decode cX1_add 2 = .ok (.invokestatic 167, 3) := dk_184 0 167 (dk_at dksX1_add_0 2 rfl rfl)
theorem dX1_add_5 : decode cX1_add 5 = .ok (.ifCond .eq 17, 3) := dk_153 0 17 (dk_at dksX1_add_0 5 rfl rfl)
theorem dX1_add_8 : decode cX1_add 8 = .ok (.getstatic 31, 3) := dk_178 0 31 (dk_at dksX1_add_0 8 rfl rfl)
theorem dX1_add_11 : decode cX1_add 11 = .ok (.iload_n 3, 1) := dk_29 (dk_at dksX1_add_0 11 rfl rfl)
theorem dX1_add_12 : decode cX1_add 12 = .ok (.invokevirtual 190, 3) := dk_182 0 190 (dk_at dksX1_add_0 12 rfl rfl)
theorem dX1_add_15 : decode cX1_add 15 = .ok (.ifCond .eq 7, 3) := dk_153 0 7 (dk_at dksX1_add_0 15 rfl rfl)
theorem dX1_add_18 : decode cX1_add 18 = .ok (.iconst 1, 1) := dk_4 (dk_at dksX1_add_0 18 rfl rfl)
theorem dX1_add_19 : decode cX1_add 19 = .ok (.goto 4, 3) := dk_167 0 4 (dk_at dksX1_add_0 19 rfl rfl)
theorem dX1_add_22 : decode cX1_add 22 = .ok (.iconst 0, 1) := dk_3 (dk_at dksX1_add_0 22 rfl rfl)
theorem dX1_add_23 : decode cX1_add 23 = .ok (.invokestatic 170, 3) := dk_184 0 170 (dk_at dksX1_add_1 0 rfl rfl)
theorem dX1_add_26 : decode cX1_add 26 = .ok (.aload_n 0, 1) := dk_42 (dk_at dksX1_add_1 3 rfl rfl)
theorem dX1_add_27 : decode cX1_add 27 = .ok (.getfield 126, 3) := dk_180 0 126 (dk_at dksX1_add_1 4 rfl rfl)
theorem dX1_add_30 : decode cX1_add 30 = .ok (.invokevirtual 193, 3) := dk_182 0 193 (dk_at dksX1_add_1 7 rfl rfl)
theorem dX1_add_33 : decode cX1_add 33 = .ok (.astore 4, 2) := dk_58 4 (dk_at dksX1_add_1 10 rfl rfl)
theorem dX1_add_35 : decode cX1_add 35 = .ok (.aload 4, 2) := dk_25 4 (dk_at dksX1_add_1 12 rfl rfl)
theorem dX1_add_37 : decode cX1_add 37 = .ok (.iload_n 1, 1) := dk_27 (dk_at dksX1_add_1 14 rfl rfl)
theorem dX1_add_38 : decode cX1_add 38 = .ok (.iload_n 2, 1) := dk_28 (dk_at dksX1_add_1 15 rfl rfl)
theorem dX1_add_39 : decode cX1_add 39 = .ok (.iload_n 3, 1) := dk_29 (dk_at dksX1_add_1 16 rfl rfl)
theorem dX1_add_40 : decode cX1_add 40 = .ok (.invokevirtual 197, 3) := dk_182 0 197 (dk_at dksX1_add_1 17 rfl rfl)
theorem dX1_add_43 : decode cX1_add 43 = .ok (.istore 5, 2) := dk_54 5 (dk_at dksX1_add_1 20 rfl rfl)
theorem dX1_add_45 : decode cX1_add 45 = .ok (.aload_n 0, 1) := dk_42 (dk_at dksX1_add_1 22 rfl rfl)
theorem dX1_add_46 : decode cX1_add 46 = .ok (.aload 4, 2) := dk_25 4 (dk_at dksX1_add_2 0 rfl rfl)
theorem dX1_add_48 : decode cX1_add 48 = .ok (.iload 5, 2) := dk_21 5 (dk_at dksX1_add_2 2 rfl rfl)
theorem dX1_add_50 : decode cX1_add 50 = .ok (.invokevirtual 200, 3) := dk_182 0 200 (dk_at dksX1_add_2 4 rfl rfl)
theorem dX1_add_53 : decode cX1_add 53 = .ok (.ireturn, 1) := dk_172 (dk_at dksX1_add_2 7 rfl rfl)
theorem dX1_add_54 : decode cX1_add 54 = .ok (.astore 5, 2) := dk_58 5 (dk_at dksX1_add_2 8 rfl rfl)
theorem dX1_add_56 : decode cX1_add 56 = .ok (.aload_n 0, 1) := dk_42 (dk_at dksX1_add_2 10 rfl rfl)
theorem dX1_add_57 : decode cX1_add 57 = .ok (.aload 5, 2) := dk_25 5 (dk_at dksX1_add_2 11 rfl rfl)
theorem dX1_add_59 : decode cX1_add 59 = .ok (.invokevirtual 204, 3) := dk_182 0 204 (dk_at dksX1_add_2 13 rfl rfl)
theorem dX1_add_62 : decode cX1_add 62 = .ok (.athrow, 1) := dk_191 (dk_at dksX1_add_2 16 rfl rfl)
theorem q1004 : (Jvm.Cond.fieldLink "SpanRuler" (31 : Nat) "SpanRuler$Kind" "ADD" "LSpanRuler$Kind;") ∈ lw_all := lw_g (lw_at lw_m4 224 rfl) rfl
theorem q1009 : (Jvm.Cond.selects "SpanRuler$Kind$1" ({ cls := "SpanRuler$Kind", name := "may", desc := "(I)Z" } : Jvm.MethodName) ({ cls := "SpanRuler$Kind$1", name := "may", desc := "(I)Z" } : Jvm.MethodName)) ∈ lw_all := lw_g (lw_at lw_m4 229 rfl) rfl
theorem q1010 : (Jvm.Cond.instanceMethod ({ cls := "SpanRuler$Kind$1", name := "may", desc := "(I)Z" } : Jvm.MethodName)) ∈ lw_all := lw_g (lw_at lw_m4 230 rfl) rfl
theorem q1011 : (Jvm.Cond.code ({ cls := "SpanRuler$Kind$1", name := "may", desc := "(I)Z" } : Jvm.MethodName) prog_8_method_3_code (2 : Nat) (Option.some Jvm.ClassFile.FieldType.boolean)) ∈ lw_all := lw_g (lw_at lw_m4 231 rfl) rfl
theorem q1027 : (Jvm.Cond.methodLink "SpanRuler" (197 : Nat) ({ cls := "SpanRuler$Ruler", name := "add", desc := "(III)I" } : Jvm.MethodName)) ∈ lw_all := lw_g (lw_at lw_m5 7 rfl) rfl
theorem q1030 : (Jvm.Cond.code ({ cls := "SpanRuler$Ruler", name := "add", desc := "(III)I" } : Jvm.MethodName) prog_16_method_8_code (6 : Nat) (Option.some Jvm.ClassFile.FieldType.int)) ∈ lw_all := lw_g (lw_at lw_m5 10 rfl) rfl
theorem q1028 : (Jvm.Cond.instanceMethod ({ cls := "SpanRuler$Ruler", name := "add", desc := "(III)I" } : Jvm.MethodName)) ∈ lw_all := lw_g (lw_at lw_m5 8 rfl) rfl
theorem q1029 : (Jvm.Cond.selects "SpanRuler$Ruler" ({ cls := "SpanRuler$Ruler", name := "add", desc := "(III)I" } : Jvm.MethodName) ({ cls := "SpanRuler$Ruler", name := "add", desc := "(III)I" } : Jvm.MethodName)) ∈ lw_all := lw_g (lw_at lw_m5 9 rfl) rfl
theorem q1074 : (Jvm.Cond.castable "SpanRuler$Refusal" "SpanRuler$Refusal") ∈ lw_tbl := lw_at lw_m5 54 rfl
theorem q1132 : (Jvm.Cond.methodLink "SpanRuler" (204 : Nat) ({ cls := "SpanRuler", name := "kept", desc := "(LSpanRuler$Refusal;)Ljava/lang/UnsupportedOperationException;" } : Jvm.MethodName)) ∈ lw_all := lw_g (lw_at lw_m5 112 rfl) rfl
theorem q1135 : (Jvm.Cond.code ({ cls := "SpanRuler", name := "kept", desc := "(LSpanRuler$Refusal;)Ljava/lang/UnsupportedOperationException;" } : Jvm.MethodName) prog_1_method_18_code (2 : Nat) (Option.some (Jvm.ClassFile.FieldType.object "java/lang/UnsupportedOperationException"))) ∈ lw_all := lw_g (lw_at lw_m5 115 rfl) rfl
theorem q1134 : (Jvm.Cond.instanceMethod ({ cls := "SpanRuler", name := "kept", desc := "(LSpanRuler$Refusal;)Ljava/lang/UnsupportedOperationException;" } : Jvm.MethodName)) ∈ lw_all := lw_g (lw_at lw_m5 114 rfl) rfl
theorem hp_all {L : List ExceptionTableEntry} {pc : Nat} {P : ExceptionTableEntry → Prop} (h : L.all (fun z => !covers z pc) = true) : ∀ z ∈ L, covers z pc = false ∨ P z := fun z hz => Or.inl (by
  have := List.all_eq_true.mp h z hz
  cases c : covers z pc with
  | false => rfl
  | true => simp [c] at this)
theorem SRx.tries {G : GE} {own : Nat → Nat} {hr h : AH} {x : Nat} {s : MS} {ru : Nat} {sv : Value} {hl hd hc : Nat} {hm : Int32} {hf : Nat → Option Nat} {inp ln : Nat} {bt rf : Value} (S : SRx G own hr h x s ru sv hl hd hc hm hf inp ln bt rf) : SRx G own hr h x (mTries s) ru sv hl hd hc hm hf inp ln bt rf := by
  have e : ∀ j, j < 17 → (mTries s).I j = s.I j := fun j hj => by rw [mTries_I, upd_ne (by omega)]
  have eu : mU (mTries s) = mU s := by unfold mU; rw [e 4 (by omega)]
  unfold SRx SRs SRi SRl SRe mUo mTo mLi at *
  rw [eu, mTries_A s (show 0 ≠ 1 by decide), mTries_A s (show 3 ≠ 1 by decide), mTries_A s (show 5 ≠ 1 by decide), mTries_A s (show 7 ≠ 1 by decide), mTries_A s (show 9 ≠ 1 by decide), e 10 (by omega), e 4 (by omega), e 8 (by omega), e 14 (by omega), e 15 (by omega), e 16 (by omega), e 6 (by omega)]
  exact S
/-- a Refusal is kept -/
theorem SRx.refused {G : GE} {own : Nat → Nat} {hr h : AH} {x : Nat} {s : MS} {ru : Nat} {sv : Value} {hl hd hc : Nat} {hm : Int32} {hf : Nat → Option Nat} {inp ln : Nat} {bt rf : Value} (S : SRx G own hr h x s ru sv hl hd hc hm hf inp ln bt rf) {q : Nat} {u w : Value} {r d : Int32} (hq : h q = some (ob 7 [.ref q, u, w, .null, .null, .int 0, .int r, .int d])) (hq0 : hr q = none) (r0 : r ≠ 0) :
    SRAt G (up h x (ob 0 [.ref ru, sv, .ref hl, .ref inp, .ref ln, .int (s.I 10), bt, .ref q])) x (mRef s r d) := by
  obtain ⟨s1, s2, s3, s4, s5, s6, s7, s8, s9, s10, s11, s12⟩ := S
  have mo : ∀ z ci l, h z = some (ob ci l) → ci ≠ 0 → up h x (ob 0 [.ref ru, sv, .ref hl, .ref inp, .ref ln, .int (s.I 10), bt, .ref q]) z = some (ob ci l) := fun z ci l v n => (up_ne (ob_ne s3 v (Ne.symm n))).trans v
  have mr : ∀ z y, h z = some (.inl y) → up h x (ob 0 [.ref ru, sv, .ref hl, .ref inp, .ref ln, .int (s.I 10), bt, .ref q]) z = some (.inl y) := fun z y v => (up_ne (ob_na s3 v)).trans v
  have e15 : (mRef s r d).I 15 = r := by show upd (upd s.I 15 r) 16 d 15 = r; rw [upd_ne (by omega), upd_at]
  have e16 : (mRef s r d).I 16 = d := by show upd (upd s.I 15 r) 16 d 16 = d; rw [upd_at]
  have eo : ∀ j, j < 15 → (mRef s r d).I j = s.I j := fun j hj => by show upd (upd s.I 15 r) 16 d j = _; rw [upd_ne (by omega), upd_ne (by omega)]
  have eu : mU (mRef s r d) = mU s := by unfold mU; rw [eo 4 (by omega)]
  refine ⟨own, hr, ru, sv, hl, hd, hc, hm, hf, inp, ln, bt, .ref q, s1.put s2, s2, ?_, s4, s5, ?_, s7, ?_, s9.congr rfl rfl rfl (eo 4 (by omega)) (eo 6 (by omega)), (s10.mv (fun q n f v => mr q _ v)).congr rfl (eo 10 (by omega)), (s11.mv (fun q l v => mo q 14 l v (by decide)) (fun q n f _ v => mr q _ v)).congr rfl (eo 8 (by omega)), ⟨?_, Or.inr ⟨q, u, w, rfl, hq0, ?_, ?_⟩⟩⟩
  · rw [up_self, eo 10 (by omega)]
  · rw [eu]; exact s6.mv (fun q l v => mo q 12 l v (by decide)) (fun q n f v => mr q _ v)
  · unfold mUo; rw [eu, eo 4 (by omega)]; exact s8
  · rw [eo 14 (by omega)]
    exact (s12.mv (fun q ci l v z => mo q ci l v (by omega))).1
  · rw [e15, e16]; exact mo _ _ _ hq (by decide)
  · rw [e15]; exact r0
/-- the state behind a refusal: the copy is forgotten -/
theorem SRx.forget {G : GE} {own : Nat → Nat} {hr hrC hr' h hC hM : AH} {x : Nat} {s : MS} {ru : Nat} {sv : Value} {hl hd hc : Nat} {hm : Int32} {hf : Nat → Option Nat} {inp ln : Nat} {bt rf : Value} (S : SRx G own hr h x s ru sv hl hd hc hm hf inp ln bt rf) (fC : Frm hr h hrC hC) (fM : Frm hrC hC hr' hM) (k : KeepAll hr hr') : SRx G own hr hM x s ru sv hl hd hc hm hf inp ln bt rf :=
  S.move (k.trans fM.keep) (fun q e a b => ⟨a, (fM.out q e (fC.out q e a b).1 (fC.out q e a b).2).2⟩) S.2.2.2.2.2.2.2.2.1
theorem lvF_sg {R : Nat → Int32} {k x : Int32} : ∀ (n c : Nat), c + n ≤ 32 → (lvF R k x n c = -1 ∧ ¬ 0 ≤ lvF R k x n c) ∨ (lvF R k x n c ≠ -1 ∧ 0 ≤ lvF R k x n c) := by
  intro n
  induction n with
  | zero => intro c _; exact Or.inl ⟨rfl, (by decide : ¬ (0 : Int32) ≤ -1)⟩
  | succ n ih =>
    intro c hc
    rw [lvF]
    cases e : inR (mby k (R (8 + c)) x) (-999) 999 with
    | true => rw [cond_true]; exact ih (c + 1) (by omega)
    | false =>
      rw [cond_false]
      have p := nI_pos' (n := c) (by omega)
      exact Or.inr ⟨fun z => by rw [z] at p; exact absurd p (by decide), p⟩
theorem s_add (l : Launch) (G : GE) (h : AH) (x : Nat) (s : MS) (S0 : SRAt G h x s) (a : Int32) (b : Int32) (x1 : Int32) : GM l G yX1_add (wsW_ yX1_add cX1_add 6 (some .int) [((35 : Nat), (53 : Nat), (54 : Nat), (26 : Nat))]) 18 [.ref x, .int a, .int b, .int x1] (h) (6000) (SPost G x (ex2 IAE UOE) (mAdd s a b x1)) := by
  refine GM.ofH (by decide) (dk rfl) ?_
  intro X eL eG eh ok fn
  subst eL; subst eG
  show GW X _ 0 0 [some (.ref x), some (.int a), some (.int b), some (.int x1), none, none] []
  obtain ⟨own, hr, ru, sv, hl, hd, hc, hm, hf, inp, ln, bt, rf, S⟩ := S0
  obtain ⟨rt, cl, nl, nd, nc, nm, nf, vl, vd, vc, vm, vf, y⟩ := S.2.2.2.2.2.2.2.2.1.1.1
  rcases Bool.eq_false_or_eq_true (isSp a b) with hs | hs
  · obtain ⟨i, j, ea, eb, hij, hj⟩ : ∃ i j, a = nI i ∧ b = nI j ∧ i ≤ j ∧ j < 32 := ⟨_, _, isSp_n hs⟩
    subst ea; subst eb
    rcases Bool.eq_false_or_eq_true (isNu 0 x1) with hn | hn
    · refine g_iload_n ok dX1_add_0 rfl ?_
      refine g_iload_n ok dX1_add_1 rfl ?_
      refine g_callS ok q995 q996 q61 q997 dX1_add_2 (x_isSpan X.l X.G _ (nI i) (nI j)) (nm_ (by decide : nmb _ 2 = true)) (dl rfl) (dk rfl) rfl rfl (dk rfl) (by omega) (kV ?_) xV
      refine g_if_eq ok (tgt := 22) dX1_add_5 (by decide) (fun c_ => absurd c_ (by rw [hs]; decide)) (fun _ => ?_)
      refine g_gets ok (C := "SpanRuler$Kind") (n := "ADD") (d := "LSpanRuler$Kind;") (v := .ref (X.G.ga "K0")) (by simp [gzs]) q1004 dX1_add_8 ?_
      refine g_iload_n ok dX1_add_11 rfl ?_
      refine g_callUR ok (C := "SpanRuler$Kind$1") (owner := "SpanRuler$Kind") q1006 q1008 q1009 q1010 q1011 (ok.declI q1007 q1018) (by decide) ((Recv.kd (v := 0) (by simp [gkn]))) dX1_add_12 (r_mayX16 X.l X.G _ (X.G.ga "K0") x1) (nm_ (by decide : nmb _ 1 = true)) (dl rfl) (dk rfl) rfl rfl (dk rfl) (by omega) (kV ?_) xV
      refine g_if_eq ok (tgt := 22) dX1_add_15 (by decide) (fun c_ => absurd c_ (by rw [hn]; decide)) (fun _ => ?_)
      refine g_iconst ok (v := 1) dX1_add_18 rfl ?_
      refine g_goto ok dX1_add_19 (tgt := 23) (by decide) ?_
      refine g_callS ok q1019 q1020 q61 q1021 dX1_add_23 (x_chkA1 X.l X.G _) (nm_ (by decide : nmb _ 1 = true)) (dl rfl) (dk rfl) rfl rfl (dk rfl) (by omega) (kN ?_) xN
      refine g_aload_n ok dX1_add_26 rfl ?_
      refine g_get ok ck_X1 0 q319 (Or.inl rfl) (by decide) dX1_add_27 (Rd.h (S.2.2.1)) rfl ?_
      refine g_callV ok q348 q349 q350 q62 q351 (Recv.ob ok gc_X2 (Rd.h (S.1 _ _ y.1.1))) dX1_add_30 (GM.fr S.1 (x_copy X.l X.G hr (fun q => own q = ru) ru (s.A 0) S.2.2.2.2.2.2.2.2.1.1.1)) (nm_ (by decide : nmb _ 0 = true)) (dl rfl) (dk rfl) rfl rfl (dk rfl) (by omega) (kFR fun uC hrC hC ⟨c, eC, mC⟩ fC => ?_) xFR
      subst eC
      obtain ⟨lc, hc0⟩ := mC.o0
      have kC := fC.keep
      refine g_astore ok dX1_add_33 (ls1 := [some (.ref x), some (.int (nI i)), some (.int (nI j)), some (.int x1), some (.ref c), none]) (dl rfl) rfl ?_
      refine g_aload ok dX1_add_35 rfl ?_
      refine g_iload_n ok dX1_add_37 rfl ?_
      refine g_iload_n ok dX1_add_38 rfl ?_
      refine g_iload_n ok dX1_add_39 rfl ?_
      refine g_callV ok q1027 q1028 q1029 q62 q1030 (Recv.ob ok gc_X2 (Rd.h (kC _ _ hc0))) dX1_add_40 (GM.fr kC (u_add X.l X.G hr hrC c (s.A 0) mC i j (by omega) (by omega) x1 hn)) (nm_ (by decide : nmb _ 3 = true)) (dl rfl) (dk rfl) rfl rfl (dk rfl) (by omega) (kFX fun uM hrM hM zM fM => ?_) (xFX fun cE q hrM hM zM fM => ?_)
      · obtain ⟨nv0, eM, mM⟩ := zM
        subst eM
        obtain ⟨own2, S2, yc, nc, nf, nv⟩ := SRx.copied S mM fM.keep (fun q e a b => fM.out q e (fC.out q e a b).1 (fC.out q e a b).2)
        have tk : TkOk (rAct 0 x1 i j (s.A 0)) := S.2.2.2.2.2.2.2.2.1.1.2.of rAct_N (fun q hq => rAct_q (by omega) (by omega))
        refine g_istore ok dX1_add_43 (ls1 := [some (.ref x), some (.int (nI i)), some (.int (nI j)), some (.int x1), some (.ref c), some (.int (sm (rAct 0 x1 i j (s.A 0)) (j + 1 - i) i 0))]) (dl rfl) rfl ?_
        refine g_aload_n ok dX1_add_45 rfl ?_
        refine g_aload ok dX1_add_46 rfl ?_
        refine g_iload ok dX1_add_48 rfl ?_
        refine g_callV ok q1114 q1116 qs6 q61 q1117 (Recv.ob ok gc_X1 (Rd.h (S2.2.2.1))) dX1_add_50 (s_become X.l X.G hM x own2 hrM s ru sv hl hd hc hm hf inp ln bt rf S2 c (rAct 0 x1 i j (s.A 0)) yc tk nc nf nv (sm (rAct 0 x1 i j (s.A 0)) (j + 1 - i) i 0)) (nm_ (by decide : nmb _ 2 = true)) (dl rfl) (dk rfl) rfl rfl (dk rfl) (by omega) (kR fun u9 h9 ⟨e9, B9⟩ => ?_) xR
        subst e9
        have pf : SPost X.G x (ex2 IAE UOE) (mAdd s (nI i) (nI j) x1) (.inl (some (.int (sm (rAct 0 x1 i j (s.A 0)) (j + 1 - i) i 0)))) h9 := by
          unfold mAdd mAdds; rw [if_pos ⟨hs, hn⟩]; unfold sp; simp only [nn_nI (by omega : i < 2 ^ 31), nn_nI (by omega : j < 2 ^ 31)]; rw [mTries_A s (by decide)]
          rcases lvF_sg (R := s.A 0) (k := 0) (x := x1) (j + 1 - i) i (by omega) with z | z
          rotate_left
          · exact absurd nv0 z.1
          rw [if_neg z.2]
          show SPost _ _ _ (mEnds _ 0) _ _
          rw [mEnds_0]; dsimp only; rw [mI_19]; unfold mSum; rw [act_fun hij hj]
          refine SPost.ends (B9 _ (Bec.keeps (Tri.mI (Tri.acts (Tri.tries s)) (by omega)) S.2.2.2.2.2.2.2.1 (fun q _ => act_eq hij hj (mTries s) (mTries_A s (by decide)) q))) ?_
          rw [mKeeps_I (by decide)]; rw [mI_I, upd_ne (by omega), mActs_I, mTries_I, upd_at]
        exact g_iret ok fn rfl dX1_add_53 pf (by omega)
      · obtain ⟨nv0, ec, kM, q0, kq, uq, wq, hq⟩ := zM
        subst ec
        have S3 := SRx.forget S fC fM kM
        have hqM := fM.keep _ _ hq
        refine g_catch ok [] _ [] rfl (fun z hz => nomatch hz) (by decide) (by decide) q994 q1074 rfl ?_
        refine g_astore ok dX1_add_54 (ls1 := [some (.ref x), some (.int (nI i)), some (.int (nI j)), some (.int x1), some (.ref c), some (.ref q)]) (dl rfl) rfl ?_
        refine g_aload_n ok dX1_add_56 rfl ?_
        refine g_aload ok dX1_add_57 rfl ?_
        refine g_callV ok q1132 q1134 qs8 q61 q1135 (Recv.ob ok gc_X1 (Rd.h (S3.2.2.1))) dX1_add_59 (x_kept X.l X.G _ x q _ _ _ _ _ _ _ _ S3.2.2.1) (nm_ (by decide : nmb _ 1 = true)) (dl rfl) (dk rfl) rfl rfl (dk rfl) (by omega) (kR fun uk hk2 ⟨q2, ek, fk, kk2, ok2⟩ => ?_) xR
        subst ek; subst ok2
        refine g_athrow ok gc_J23 dX1_add_62 up_self ?_
        have pf : SPost X.G x (ex2 IAE UOE) (mAdd s (nI i) (nI j) x1) (.inr (UOE, q2)) (up (up hM x (ob 0 [.ref ru, sv, .ref hl, .ref inp, .ref ln, .int (s.I 10), bt, .ref q])) q2 (ob 22 [])) := by
          unfold mAdd mAdds; rw [if_pos ⟨hs, hn⟩]; unfold sp; simp only [nn_nI (by omega : i < 2 ^ 31), nn_nI (by omega : j < 2 ^ 31)]; rw [mTries_A s (by decide)]
          rcases lvF_sg (R := s.A 0) (k := 0) (x := x1) (j + 1 - i) i (by omega) with z | z
          · exact absurd z.1 nv0
          rw [if_pos z.2]
          show SPost _ _ _ (mEnds (mRef (mTries s) 2 _) 2) _ _
          rw [mEnds_n (by decide)]
          exact SPost.no (SRx.refused S3.tries hqM q0 (by decide)) fk (by decide) rfl
        exact g_out ok fn (hp_all (by decide)) pf (by omega)
    · refine g_iload_n ok dX1_add_0 rfl ?_
      refine g_iload_n ok dX1_add_1 rfl ?_
      refine g_callS ok q995 q996 q61 q997 dX1_add_2 (x_isSpan X.l X.G _ (nI i) (nI j)) (nm_ (by decide : nmb _ 2 = true)) (dl rfl) (dk rfl) rfl rfl (dk rfl) (by omega) (kV ?_) xV
      refine g_if_eq ok (tgt := 22) dX1_add_5 (by decide) (fun c_ => absurd c_ (by rw [hs]; decide)) (fun _ => ?_)
      refine g_gets ok (C := "SpanRuler$Kind") (n := "ADD") (d := "LSpanRuler$Kind;") (v := .ref (X.G.ga "K0")) (by simp [gzs]) q1004 dX1_add_8 ?_
      refine g_iload_n ok dX1_add_11 rfl ?_
      refine g_callUR ok (C := "SpanRuler$Kind$1") (owner := "SpanRuler$Kind") q1006 q1008 q1009 q1010 q1011 (ok.declI q1007 q1018) (by decide) ((Recv.kd (v := 0) (by simp [gkn]))) dX1_add_12 (r_mayX16 X.l X.G _ (X.G.ga "K0") x1) (nm_ (by decide : nmb _ 1 = true)) (dl rfl) (dk rfl) rfl rfl (dk rfl) (by omega) (kV ?_) xV
      refine g_if_eq ok (tgt := 22) dX1_add_15 (by decide) (fun _ => ?_) (fun c_ => absurd (by rw [hn]; rfl) c_)
      refine g_iconst ok (v := 0) dX1_add_22 rfl ?_
      refine g_callS ok q1019 q1020 q61 q1021 dX1_add_23 (x_chkA0 X.l X.G _) (nm_ (by decide : nmb _ 1 = true)) (dl rfl) (dk rfl) rfl rfl (dk rfl) (by omega) kT (xT fun qx fx kx => ?_)
      have pf : SPost X.G x (ex2 IAE UOE) (mAdd s (nI i) (nI j) x1) (.inr (IAE, qx)) (up h qx (ob 18 [])) := by
        unfold mAdd mAdds; rw [if_neg (fun w_ => by rw [hn] at w_; exact absurd w_.2 (by decide))]
        show SPost _ _ _ (mEnds (mTries s) 1) _ _
        rw [mEnds_n (by decide)]
        exact SPost.no S.at.tries fx (by decide) rfl
      exact g_out ok fn (hp_all (by decide)) pf (by omega)
  · refine g_iload_n ok dX1_add_0 rfl ?_
    refine g_iload_n ok dX1_add_1 rfl ?_
    refine g_callS ok q995 q996 q61 q997 dX1_add_2 (x_isSpan X.l X.G _ a b) (nm_ (by decide : nmb _ 2 = true)) (dl rfl) (dk rfl) rfl rfl (dk rfl) (by omega) (kV ?_) xV
    refine g_if_eq ok (tgt := 22) dX1_add_5 (by decide) (fun _ => ?_) (fun c_ => absurd (by rw [hs]; rfl) c_)
    refine g_iconst ok (v := 0) dX1_add_22 rfl ?_
    refine g_callS ok q1019 q1020 q61 q1021 dX1_add_23 (x_chkA0 X.l X.G _) (nm_ (by decide : nmb _ 1 = true)) (dl rfl) (dk rfl) rfl rfl (dk rfl) (by omega) kT (xT fun qx fx kx => ?_)
    have pf : SPost X.G x (ex2 IAE UOE) (mAdd s a b x1) (.inr (IAE, qx)) (up h qx (ob 18 [])) := by
      unfold mAdd mAdds; rw [if_neg (fun w_ => by rw [hs] at w_; exact absurd w_.1 (by decide))]
      show SPost _ _ _ (mEnds (mTries s) 1) _ _
      rw [mEnds_n (by decide)]
      exact SPost.no S.at.tries fx (by decide) rfl
    exact g_out ok fn (hp_all (by decide)) pf (by omega)
