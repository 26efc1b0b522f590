/-! the SpanRuler changes, 4 -/
set_option maxRecDepth 100000
abbrev cX1_strike : ByteArray := prog_1_method_27_code
def yX1_strike : MethodName := ⟨RX1, "strike", "(I)I"⟩
def dkwX1_strike_1 : List UInt8 := [172]
abbrev dktX1_strike_1 : List UInt8 := dkwX1_strike_1 ++ []
def dkwX1_strike_0 : List UInt8 := [42, 27, 182, 0, 234, 77, 42, 180, 0, 126, 182, 0, 193, 78, 42, 45, 45, 27, 182, 0, 238, 182, 0, 200]
abbrev dktX1_strike_0 : List UInt8 := dkwX1_strike_0 ++ dktX1_strike_1
theorem dksX1_strike_0 : cX1_strike.data.toList.drop 0 = dktX1_strike_0 := by decide +kernel
theorem dksX1_strike_1 : cX1_strike.data.toList.drop 24 = dktX1_strike_1 := dk_seg dksX1_strike_0 24 rfl rfl
theorem dX1_strike_0 : decode cX1_strike 0 = .ok (.aload_n 0, 1) := dk_42 (dk_at dksX1_strike_0 0 rfl rfl)
theorem dX1_strike_1 : decode cX1_strike 1 = .ok (.iload_n 1, 1) := dk_27 (dk_at dksX1_strike_0 1 rfl rfl)
theorem dX1_strike_2 : decode cX1_strike 2 = .ok (.invokevirtual 234, 3) := dk_182 0 234 (dk_at dksX1_strike_0 2 rfl rfl)
theorem dX1_strike_5 : decode cX1_strike 5 = .ok (.astore_n 2, 1) := dk_77 (dk_at dksX1_strike_0 5 rfl rfl)
theorem dX1_strike_6 : decode cX1_strike 6 = .ok (.aload_n 0, 1) := dk_42 (dk_at dksX1_strike_0 6 rfl rfl)
theorem dX1_strike_7 : decode cX1_strike 7 = .ok (.getfield 126, 3) := dk_180 0 126 (dk_at dksX1_strike_0 7 rfl rfl)
theorem dX1_strike_10 : decode cX1_strike 10 = .ok (.invokevirtual 193, 3) := dk_182 0 193 (dk_at dksX1_strike_0 10 rfl rfl)
theorem dX1_strike_13 : decode cX1_strike 13 = .ok (.astore_n 3, 1) := dk_78 (dk_at dksX1_strike_0 13 rfl rfl)
theorem dX1_strike_14 : decode cX1_strike 14 = .ok (.aload_n 0, 1) := dk_42 (dk_at dksX1_strike_0 14 rfl rfl)
theorem dX1_strike_15 : decode cX1_strike 15 = .ok (.aload_n 3, 1) := dk_45 (dk_at dksX1_strike_0 15 rfl rfl)
theorem dX1_strike_16 : decode cX1_strike 16 = .ok (.aload_n 3, 1) := dk_45 (dk_at dksX1_strike_0 16 rfl rfl)
theorem dX1_strike_17 : decode cX1_strike 17 = .ok (.iload_n 1, 1) := dk_27 (dk_at dksX1_strike_0 17 rfl rfl)
theorem dX1_strike_18 : decode cX1_strike 18 = .ok (.invokevirtual 238, 3) := dk_182 0 238 (dk_at dksX1_strike_0 18 rfl rfl)
theorem dX1_strike_21 : decode cX1_strike 21 = .ok (.invokevirtual 200, 3) := dk_182 0 200 (dk_at dksX1_strike_0 21 rfl rfl)
theorem dX1_strike_24 : decode cX1_strike 24 = .ok (.ireturn, 1) := dk_172 (dk_at dksX1_strike_1 0 rfl rfl)
abbrev cX1_goBack : ByteArray := prog_1_method_46_code
def yX1_goBack : MethodName := ⟨RX1, "goBack", "(I)I"⟩
def dkwX1_goBack_1 : List UInt8 := [172]
abbrev dktX1_goBack_1 : List UInt8 := dkwX1_goBack_1 ++ []
def dkwX1_goBack_0 : List UInt8 := [42, 27, 182, 1, 55, 77, 42, 180, 0, 126, 182, 0, 193, 78, 42, 45, 45, 27, 182, 1, 59, 182, 0, 200]
abbrev dktX1_goBack_0 : List UInt8 := dkwX1_goBack_0 ++ dktX1_goBack_1
theorem dksX1_goBack_0 : cX1_goBack.data.toList.drop 0 = dktX1_goBack_0 := by decide +kernel
theorem dksX1_goBack_1 : cX1_goBack.data.toList.drop 24 = dktX1_goBack_1 := dk_seg dksX1_goBack_0 24 rfl rfl
theorem dX1_goBack_0 : decode cX1_goBack 0 = .ok (.aload_n 0, 1) := dk_42 (dk_at dksX1_goBack_0 0 rfl rfl)
theorem dX1_goBack_1 : decode cX1_goBack 1 = .ok (.iload_n 1, 1) := dk_27 (dk_at dksX1_goBack_0 1 rfl rfl)
theorem dX1_goBack_2 : decode cX1_goBack 2 = .ok (.invokevirtual 311, 3) := dk_182 1 55 (dk_at dksX1_goBack_0 2 rfl rfl)
theorem dX1_goBack_5 : decode cX1_goBack 5 = .ok (.astore_n 2, 1) := dk_77 (dk_at dksX1_goBack_0 5 rfl rfl)
theorem dX1_goBack_6 : decode cX1_goBack 6 = .ok (.aload_n 0, 1) := dk_42 (dk_at dksX1_goBack_0 6 rfl rfl)
theorem dX1_goBack_7 : decode cX1_goBack 7 = .ok (.getfield 126, 3) := dk_180 0 126 (dk_at dksX1_goBack_0 7 rfl rfl)
theorem dX1_goBack_10 : decode cX1_goBack 10 = .ok (.invokevirtual 193, 3) := dk_182 0 193 (dk_at dksX1_goBack_0 10 rfl rfl)
theorem dX1_goBack_13 : decode cX1_goBack 13 = .ok (.astore_n 3, 1) := dk_78 (dk_at dksX1_goBack_0 13 rfl rfl)
theorem dX1_goBack_14 : decode cX1_goBack 14 = .ok (.aload_n 0, 1) := dk_42 (dk_at dksX1_goBack_0 14 rfl rfl)
theorem dX1_goBack_15 : decode cX1_goBack 15 = .ok (.aload_n 3, 1) := dk_45 (dk_at dksX1_goBack_0 15 rfl rfl)
theorem dX1_goBack_16 : decode cX1_goBack 16 = .ok (.aload_n 3, 1) := dk_45 (dk_at dksX1_goBack_0 16 rfl rfl)
theorem dX1_goBack_17 : decode cX1_goBack 17 = .ok (.iload_n 1, 1) := dk_27 (dk_at dksX1_goBack_0 17 rfl rfl)
theorem dX1_goBack_18 : decode cX1_goBack 18 = .ok (.invokevirtual 315, 3) := dk_182 1 59 (dk_at dksX1_goBack_0 18 rfl rfl)
theorem dX1_goBack_21 : decode cX1_goBack 21 = .ok (.invokevirtual 200, 3) := dk_182 0 200 (dk_at dksX1_goBack_0 21 rfl rfl)
theorem dX1_goBack_24 : decode cX1_goBack 24 = .ok (.ireturn, 1) := dk_172 (dk_at dksX1_goBack_1 0 rfl rfl)
abbrev cX1_was : ByteArray := prog_1_method_47_code
def yX1_was : MethodName := ⟨RX1, "was", "(IIZ)I"⟩
def dkwX1_was_1 : List UInt8 := [46, 167, 0, 10, 25, 4, 180, 1, 63, 28, 46, 172]
abbrev dktX1_was_1 : List UInt8 := dkwX1_was_1 ++ []
def dkwX1_was_0 : List UInt8 := [42, 27, 182, 1, 55, 58, 4, 28, 184, 0, 7, 184, 0, 177, 29, 153, 0, 13, 25, 4, 180, 1, 62, 28]
abbrev dktX1_was_0 : List UInt8 := dkwX1_was_0 ++ dktX1_was_1
theorem dksX1_was_0 : cX1_was.data.toList.drop 0 = dktX1_was_0 := by decide +kernel
theorem dksX1_was_1 : cX1_was.data.toList.drop 24 = dktX1_was_1 := dk_seg dksX1_was_0 24 rfl rfl
theorem dX1_was_0 : decode cX1_was 0 = .ok (.aload_n 0, 1) := dk_42 (dk_at dksX1_was_0 0 rfl rfl)
theorem dX1_was_1 : decode cX1_was 1 = .ok (.iload_n 1, 1) := dk_27 (dk_at dksX1_was_0 1 rfl rfl)
theorem dX1_was_2 : decode cX1_was 2 = .ok (.invokevirtual 311, 3) := dk_182 1 55 (dk_at dksX1_was_0 2 rfl rfl)
theorem dX1_was_5 : decode cX1_was 5 = .ok (.astore 4, 2) := dk_58 4 (dk_at dksX1_was_0 5 rfl rfl)
theorem dX1_was_7 : decode cX1_was 7 = .ok (.iload_n 2, 1) := dk_28 (dk_at dksX1_was_0 7 rfl rfl)
theorem dX1_was_8 : decode cX1_was 8 = .ok (.invokestatic 7, 3) := dk_184 0 7 (dk_at dksX1_was_0 8 rfl rfl)
theorem dX1_was_11 : decode cX1_was 11 = .ok (.invokestatic 177, 3) := dk_184 0 177 (dk_at dksX1_was_0 11 rfl rfl)
theorem dX1_was_14 : decode cX1_was 14 = .ok (.iload_n 3, 1) := dk_29 (dk_at dksX1_was_0 14 rfl rfl)
theorem dX1_was_15 : decode cX1_was 15 = .ok (.ifCond .eq 13, 3) := dk_153 0 13 (dk_at dksX1_was_0 15 rfl rfl)
theorem dX1_was_18 : decode cX1_was 18 = .ok (.aload 4, 2) := dk_25 4 (dk_at dksX1_was_0 18 rfl rfl)
theorem dX1_was_20 : decode cX1_was 20 = .ok (.getfield 318, 3) := dk_180 1 62 (dk_at dksX1_was_0 20 rfl rfl)
theorem dX1_was_23 : decode cX1_was 23 = .ok (.iload_n 2, 1) := dk_28 (dk_at dksX1_was_0 23 rfl rfl)
theorem dX1_was_24 : decode cX1_was 24 = .ok (.iaload, 1) := dk_46 (dk_at dksX1_was_1 0 rfl rfl)
theorem dX1_was_25 : decode cX1_was 25 = .ok (.goto 10, 3) := dk_167 0 10 (dk_at dksX1_was_1 1 rfl rfl)
theorem dX1_was_28 : decode cX1_was 28 = .ok (.aload 4, 2) := dk_25 4 (dk_at dksX1_was_1 4 rfl rfl)
theorem dX1_was_30 : decode cX1_was 30 = .ok (.getfield 319, 3) := dk_180 1 63 (dk_at dksX1_was_1 6 rfl rfl)
theorem dX1_was_33 : decode cX1_was 33 = .ok (.iload_n 2, 1) := dk_28 (dk_at dksX1_was_1 9 rfl rfl)
theorem dX1_was_34 : decode cX1_was 34 = .ok (.iaload, 1) := dk_46 (dk_at dksX1_was_1 10 rfl rfl)
theorem dX1_was_35 : decode cX1_was 35 = .ok (.ireturn, 1) := dk_172 (dk_at dksX1_was_1 11 rfl rfl)
theorem q1236 : (Jvm.Cond.methodLink "SpanRuler" (234 : Nat) ({ cls := "SpanRuler", name := "noteAt", desc := "(I)LSpanRuler$Note;" } : Jvm.MethodName)) ∈ lw_all := lw_g (lw_at lw_m5 216 rfl) rfl
theorem q1239 : (Jvm.Cond.code ({ cls := "SpanRuler", name := "noteAt", desc := "(I)LSpanRuler$Note;" } : Jvm.MethodName) prog_1_method_21_code (2 : Nat) (Option.some (Jvm.ClassFile.FieldType.object "SpanRuler$Note"))) ∈ lw_all := lw_g (lw_at lw_m5 219 rfl) rfl
theorem q1238 : (Jvm.Cond.instanceMethod ({ cls := "SpanRuler", name := "noteAt", desc := "(I)LSpanRuler$Note;" } : Jvm.MethodName)) ∈ lw_all := lw_g (lw_at lw_m5 218 rfl) rfl
theorem q1249 : (Jvm.Cond.methodLink "SpanRuler" (238 : Nat) ({ cls := "SpanRuler$Ruler", name := "strike", desc := "(I)I" } : Jvm.MethodName)) ∈ lw_all := lw_g (lw_at lw_m5 229 rfl) rfl
theorem q1252 : (Jvm.Cond.code ({ cls := "SpanRuler$Ruler", name := "strike", desc := "(I)I" } : Jvm.MethodName) prog_16_method_18_code (2 : Nat) (Option.some Jvm.ClassFile.FieldType.int)) ∈ lw_all := lw_g (lw_at lw_m5 232 rfl) rfl
theorem q1250 : (Jvm.Cond.instanceMethod ({ cls := "SpanRuler$Ruler", name := "strike", desc := "(I)I" } : Jvm.MethodName)) ∈ lw_all := lw_g (lw_at lw_m5 230 rfl) rfl
theorem q1251 : (Jvm.Cond.selects "SpanRuler$Ruler" ({ cls := "SpanRuler$Ruler", name := "strike", desc := "(I)I" } : Jvm.MethodName) ({ cls := "SpanRuler$Ruler", name := "strike", desc := "(I)I" } : Jvm.MethodName)) ∈ lw_all := lw_g (lw_at lw_m5 231 rfl) rfl
theorem q1497 : (Jvm.Cond.methodLink "SpanRuler" (311 : Nat) ({ cls := "SpanRuler", name := "versionAt", desc := "(I)LSpanRuler$Version;" } : Jvm.MethodName)) ∈ lw_all := lw_g (lw_at lw_m6 237 rfl) rfl
theorem q1500 : (Jvm.Cond.code ({ cls := "SpanRuler", name := "versionAt", desc := "(I)LSpanRuler$Version;" } : Jvm.MethodName) prog_1_method_20_code (2 : Nat) (Option.some (Jvm.ClassFile.FieldType.object "SpanRuler$Version"))) ∈ lw_all := lw_g (lw_at lw_m7 0 rfl) rfl
theorem q1499 : (Jvm.Cond.instanceMethod ({ cls := "SpanRuler", name := "versionAt", desc := "(I)LSpanRuler$Version;" } : Jvm.MethodName)) ∈ lw_all := lw_g (lw_at lw_m6 239 rfl) rfl
theorem q1502 : (Jvm.Cond.methodLink "SpanRuler" (315 : Nat) ({ cls := "SpanRuler$Ruler", name := "goBack", desc := "(I)I" } : Jvm.MethodName)) ∈ lw_all := lw_g (lw_at lw_m7 2 rfl) rfl
theorem q1505 : (Jvm.Cond.code ({ cls := "SpanRuler$Ruler", name := "goBack", desc := "(I)I" } : Jvm.MethodName) prog_16_method_30_code (5 : Nat) (Option.some Jvm.ClassFile.FieldType.int)) ∈ lw_all := lw_g (lw_at lw_m7 5 rfl) rfl
theorem q1503 : (Jvm.Cond.instanceMethod ({ cls := "SpanRuler$Ruler", name := "goBack", desc := "(I)I" } : Jvm.MethodName)) ∈ lw_all := lw_g (lw_at lw_m7 3 rfl) rfl
theorem q1504 : (Jvm.Cond.selects "SpanRuler$Ruler" ({ cls := "SpanRuler$Ruler", name := "goBack", desc := "(I)I" } : Jvm.MethodName) ({ cls := "SpanRuler$Ruler", name := "goBack", desc := "(I)I" } : Jvm.MethodName)) ∈ lw_all := lw_g (lw_at lw_m7 4 rfl) rfl
theorem q1481 : (Jvm.Cond.fieldLinkNest "SpanRuler" (319 : Nat) "SpanRuler$Version" "numbers" "[I" "SpanRuler") ∈ lw_tbl := lw_at lw_m6 221 rfl
theorem q1484 : (Jvm.Cond.fieldLinkNest "SpanRuler" (318 : Nat) "SpanRuler$Version" "colours" "[I" "SpanRuler") ∈ lw_tbl := lw_at lw_m6 224 rfl
theorem s_strike (l : Launch) (G : GE) (h : AH) (x : Nat) (s : MS) (S0 : SRAt G h x s) (p : Int32) : GM l G yX1_strike (ws_ yX1_strike cX1_strike 4 (some .int)) 18 [.ref x, .int p] (h) (6000) (SPost G x (ex1 IOOBE) (mStrike s p)) := by
  refine GM.of (by decide) (dk rfl) ?_
  intro X eL eG eh ok fn
  subst eL; subst eG
  show GW X _ 0 0 [some (.ref x), some (.int p), none, none] []
  obtain ⟨own, hr, ru, sv, hl, hd, hc, hm, hf, inp, ln, bt, rf, S⟩ := S0
  obtain ⟨rt, cl, nl, nd, nc, nm, nf, vl, vd, vc, vm, vf, y⟩ := S.2.2.2.2.2.2.2.2.1.1.1
  have iR := y.2.2.2.2.2.1
  have n10 := iR.1.2
  have v5 := iR.2.1.2
  rcases Bool.eq_false_or_eq_true (inR p 0 (nI (rN (s.A 0)) - 1)) with hs | hs
  · obtain ⟨i, ei, hi⟩ := inR_lt hs (by omega)
    subst ei
    obtain ⟨b, kb, nb⟩ := y.2.2.1 i hi
    have rb := S.1 _ _ nb
    have is1 : mIsN s (nI i) = true := by unfold mIsN; rw [iR.1.1]; exact hs
    refine g_aload_n ok dX1_strike_0 rfl ?_
    refine g_iload_n ok dX1_strike_1 rfl ?_
    refine g_callV ok q1236 q1238 qs9 q61 q1239 (Recv.ob ok gc_X1 (Rd.h (S.2.2.1))) dX1_strike_2 (s_noteAt1 X.l X.G _ x own hr s ru sv hl hd hc hm hf inp ln bt rf S rt cl nl nd nc nm nf vl vd vc vm vf y i hi b kb _ rb) (nm_ (by decide : nmb _ 1 = true)) (dl rfl) (dk rfl) rfl rfl (dk rfl) (by omega) (kV ?_) xV
    refine g_astore_n ok dX1_strike_5 (ls1 := [some (.ref x), some (.int (nI i)), some (.ref b), none]) (dl rfl) rfl ?_
    refine g_aload_n ok dX1_strike_6 rfl ?_
    refine g_get ok ck_X1 0 q319 (Or.inl rfl) (by decide) dX1_strike_7 (Rd.h (S.2.2.1)) rfl ?_
    refine g_callV ok q348 q349 q350 q62 q351 (Recv.ob ok gc_X2 (Rd.h (S.1 _ _ y.1.1))) dX1_strike_10 (GM.fr S.1 (x_copy X.l X.G hr (fun q => own q = ru) ru (s.A 0) S.2.2.2.2.2.2.2.2.1.1.1)) (nm_ (by decide : nmb _ 0 = true)) (dl rfl) (dk rfl) rfl rfl (dk rfl) (by omega) (kFR fun uC hrC hC ⟨c, eC, mC⟩ fC => ?_) xFR
    subst eC
    obtain ⟨lc, hc0⟩ := mC.o0
    have kC := fC.keep
    refine g_astore_n ok dX1_strike_13 (ls1 := [some (.ref x), some (.int (nI i)), some (.ref b), some (.ref c)]) (dl rfl) rfl ?_
    refine g_aload_n ok dX1_strike_14 rfl ?_
    refine g_aload_n ok dX1_strike_15 rfl ?_
    refine g_aload_n ok dX1_strike_16 rfl ?_
    refine g_iload_n ok dX1_strike_17 rfl ?_
    refine g_callV ok q1249 q1250 q1251 q62 q1252 (Recv.ob ok gc_X2 (Rd.h (kC _ _ hc0))) dX1_strike_18 (GM.fr kC (u_strike X.l X.G hr hrC c (s.A 0) mC i hi)) (nm_ (by decide : nmb _ 1 = true)) (dl rfl) (dk rfl) rfl rfl (dk rfl) (by omega) (kFR fun uM hrM hM ⟨eM, mM⟩ fM => ?_) xFR
    subst eM
    obtain ⟨own2, S2, yc, nc, nf, nv⟩ := SRx.copied S mM fM.keep (fun q e a b => fM.out q e (fC.out q e a b).1 (fC.out q e a b).2)
    have tk : TkOk (rGoes i (upd (s.A 0) 5 (s.A 0 5 + 1))) := TkOk.goes S.2.2.2.2.2.2.2.2.1.1.2 hi n10
    refine g_callV ok q1114 q1116 qs6 q61 q1117 (Recv.ob ok gc_X1 (Rd.h (S2.2.2.1))) dX1_strike_21 (s_become X.l X.G hM x own2 hrM s ru sv hl hd hc hm hf inp ln bt rf S2 c (rGoes i (upd (s.A 0) 5 (s.A 0 5 + 1))) yc tk nc nf nv (s.A 0 (72 + 5 * i + 4))) (nm_ (by decide : nmb _ 2 = true)) (dl rfl) (dk rfl) rfl rfl (dk rfl) (by omega) (kR fun u9 h9 ⟨e9, B9⟩ => ?_) xR
    subst e9
    have pf : SPost X.G x (ex1 IOOBE) (mStrike s (nI i)) (.inl (some (.int (s.A 0 (72 + 5 * i + 4))))) h9 := by
      unfold mStrike; rw [if_pos is1]; simp only [nn_nI (by omega : i < 2 ^ 31)]
      refine SPost.ends (B9 _ (Bec.keeps (Tri.mA (Tri.goes (Tri.tries s))) S.2.2.2.2.2.2.2.1 (fun q _ => (go_eq (mTries s) (mTries_A s (by decide)) hi q).trans (by rw [mA_A, if_pos rfl])))) ?_
      rw [mKeeps_I (by decide)]; rw [mA_I, mGoes_I, mTries_I, upd_at]
    exact g_iret ok fn rfl dX1_strike_24 pf (by omega)
  · have is0 : mIsN s p = false := by unfold mIsN; rw [iR.1.1]; exact hs
    refine g_aload_n ok dX1_strike_0 rfl ?_
    refine g_iload_n ok dX1_strike_1 rfl ?_
    refine g_callV ok q1236 q1238 qs9 q61 q1239 (Recv.ob ok gc_X1 (Rd.h (S.2.2.1))) dX1_strike_2 (s_noteAt0 X.l X.G _ x own hr s ru sv hl hd hc hm hf inp ln bt rf S rt cl nl nd nc nm nf vl vd vc vm vf y p hs) (nm_ (by decide : nmb _ 1 = true)) (dl rfl) (dk rfl) rfl rfl (dk rfl) (by omega) kT (xT fun qx fx kx => ?_)
    have pf : SPost X.G x (ex1 IOOBE) (mStrike s p) (.inr (IOOBE, qx)) (up h qx (ob 19 [])) := by
      unfold mStrike; rw [if_neg (by rw [is0]; decide)]
      exact SPost.no S.at.tries fx (by decide) rfl
    exact g_out ok fn (fun z hz => nomatch hz) pf (by omega)
theorem s_goBack (l : Launch) (G : GE) (h : AH) (x : Nat) (s : MS) (S0 : SRAt G h x s) (p : Int32) : GM l G yX1_goBack (ws_ yX1_goBack cX1_goBack 4 (some .int)) 18 [.ref x, .int p] (h) (10000) (SPost G x (ex1 IOOBE) (mGoBack s p)) := by
  refine GM.of (by decide) (dk rfl) ?_
  intro X eL eG eh ok fn
  subst eL; subst eG
  show GW X _ 0 0 [some (.ref x), some (.int p), none, none] []
  obtain ⟨own, hr, ru, sv, hl, hd, hc, hm, hf, inp, ln, bt, rf, S⟩ := S0
  obtain ⟨rt, cl, nl, nd, nc, nm, nf, vl, vd, vc, vm, vf, y⟩ := S.2.2.2.2.2.2.2.2.1.1.1
  have iR := y.2.2.2.2.2.1
  have n10 := iR.1.2
  have v5 := iR.2.1.2
  rcases Bool.eq_false_or_eq_true (inR p 0 (nI (rV (s.A 0)) - 1)) with hs | hs
  · obtain ⟨i, ei, hi⟩ := inR_lt hs (by omega)
    subst ei
    obtain ⟨b, kb, na, ca, wn, wc, w1, w2, w3, w4⟩ := y.2.2.2.2.1 i hi
    have rb := S.1 _ _ w1
    have is1 : mIsV s (nI i) = true := by unfold mIsV; rw [iR.2.1.1]; exact hs
    refine g_aload_n ok dX1_goBack_0 rfl ?_
    refine g_iload_n ok dX1_goBack_1 rfl ?_
    refine g_callV ok q1497 q1499 qs12 q61 q1500 (Recv.ob ok gc_X1 (Rd.h (S.2.2.1))) dX1_goBack_2 (s_versionAt1 X.l X.G _ x own hr s ru sv hl hd hc hm hf inp ln bt rf S rt cl nl nd nc nm nf vl vd vc vm vf y i hi b kb _ rb) (nm_ (by decide : nmb _ 1 = true)) (dl rfl) (dk rfl) rfl rfl (dk rfl) (by omega) (kV ?_) xV
    refine g_astore_n ok dX1_goBack_5 (ls1 := [some (.ref x), some (.int (nI i)), some (.ref b), none]) (dl rfl) rfl ?_
    refine g_aload_n ok dX1_goBack_6 rfl ?_
    refine g_get ok ck_X1 0 q319 (Or.inl rfl) (by decide) dX1_goBack_7 (Rd.h (S.2.2.1)) rfl ?_
    refine g_callV ok q348 q349 q350 q62 q351 (Recv.ob ok gc_X2 (Rd.h (S.1 _ _ y.1.1))) dX1_goBack_10 (GM.fr S.1 (x_copy X.l X.G hr (fun q => own q = ru) ru (s.A 0) S.2.2.2.2.2.2.2.2.1.1.1)) (nm_ (by decide : nmb _ 0 = true)) (dl rfl) (dk rfl) rfl rfl (dk rfl) (by omega) (kFR fun uC hrC hC ⟨c, eC, mC⟩ fC => ?_) xFR
    subst eC
    obtain ⟨lc, hc0⟩ := mC.o0
    have kC := fC.keep
    refine g_astore_n ok dX1_goBack_13 (ls1 := [some (.ref x), some (.int (nI i)), some (.ref b), some (.ref c)]) (dl rfl) rfl ?_
    refine g_aload_n ok dX1_goBack_14 rfl ?_
    refine g_aload_n ok dX1_goBack_15 rfl ?_
    refine g_aload_n ok dX1_goBack_16 rfl ?_
    refine g_iload_n ok dX1_goBack_17 rfl ?_
    refine g_callV ok q1502 q1503 q1504 q62 q1505 (Recv.ob ok gc_X2 (Rd.h (kC _ _ hc0))) dX1_goBack_18 (GM.fr kC (u_goBack X.l X.G hr hrC c (s.A 0) mC i hi)) (nm_ (by decide : nmb _ 1 = true)) (dl rfl) (dk rfl) rfl rfl (dk rfl) (by omega) (kFR fun uM hrM hM ⟨eM, mM⟩ fM => ?_) xFR
    subst eM
    obtain ⟨own2, S2, yc, nc, nf, nv⟩ := SRx.copied S mM fM.keep (fun q e a b => fM.out q e (fC.out q e a b).1 (fC.out q e a b).2)
    have tk : TkOk (rBk i 32 (s.A 0)) := S.2.2.2.2.2.2.2.2.1.1.2.of (by unfold rN rBk; rw [if_neg (by omega)]) (fun q hq => by unfold rBk; rw [if_neg (by omega)])
    refine g_callV ok q1114 q1116 qs6 q61 q1117 (Recv.ob ok gc_X1 (Rd.h (S2.2.2.1))) dX1_goBack_21 (s_become X.l X.G hM x own2 hrM s ru sv hl hd hc hm hf inp ln bt rf S2 c (rBk i 32 (s.A 0)) yc tk nc nf nv (dfl (s.A 0) i 32 0 0)) (nm_ (by decide : nmb _ 2 = true)) (dl rfl) (dk rfl) rfl rfl (dk rfl) (by omega) (kR fun u9 h9 ⟨e9, B9⟩ => ?_) xR
    subst e9
    have pf : SPost X.G x (ex1 IOOBE) (mGoBack s (nI i)) (.inl (some (.int (dfl (s.A 0) i 32 0 0)))) h9 := by
      unfold mGoBack; rw [if_pos is1]; simp only [nn_nI (by omega : i < 2 ^ 31)]
      refine SPost.ends (B9 _ (Bec.keeps (Tri.cpl (Tri.tries s)) S.2.2.2.2.2.2.2.1 (fun q _ => bk_eq (mTries s) (mTries_A s (by decide)) q))) ?_
      rw [mKeeps_I (by decide)]; rw [cpl_I, mTries_I, upd_at]
    exact g_iret ok fn rfl dX1_goBack_24 pf (by omega)
  · have is0 : mIsV s p = false := by unfold mIsV; rw [iR.2.1.1]; exact hs
    refine g_aload_n ok dX1_goBack_0 rfl ?_
    refine g_iload_n ok dX1_goBack_1 rfl ?_
    refine g_callV ok q1497 q1499 qs12 q61 q1500 (Recv.ob ok gc_X1 (Rd.h (S.2.2.1))) dX1_goBack_2 (s_versionAt0 X.l X.G _ x own hr s ru sv hl hd hc hm hf inp ln bt rf S rt cl nl nd nc nm nf vl vd vc vm vf y p hs) (nm_ (by decide : nmb _ 1 = true)) (dl rfl) (dk rfl) rfl rfl (dk rfl) (by omega) kT (xT fun qx fx kx => ?_)
    have pf : SPost X.G x (ex1 IOOBE) (mGoBack s p) (.inr (IOOBE, qx)) (up h qx (ob 19 [])) := by
      unfold mGoBack; rw [if_neg (by rw [is0]; decide)]
      exact SPost.no S.at.tries fx (by decide) rfl
    exact g_out ok fn (fun z hz => nomatch hz) pf (by omega)
theorem s_was (l : Launch) (G : GE) (h : AH) (x : Nat) (s : MS) (S0 : SRAt G h x s) (p : Int32) (c : Int32) (z : Int32) : GM l G yX1_was (ws_ yX1_was cX1_was 5 (some .int)) 15 [.ref x, .int p, .int c, .int z] (h) (6) (SPost G x (ex1 IOOBE) (mWas s p c z)) := by
  refine GM.of (by decide) (dk rfl) ?_
  intro X eL eG eh ok fn
  subst eL; subst eG
  show GW X _ 0 0 [some (.ref x), some (.int p), some (.int c), some (.int z), none] []
  obtain ⟨own, hr, ru, sv, hl, hd, hc, hm, hf, inp, ln, bt, rf, S⟩ := S0
  obtain ⟨rt, cl, nl, nd, nc, nm, nf, vl, vd, vc, vm, vf, y⟩ := S.2.2.2.2.2.2.2.2.1.1.1
  have iR := y.2.2.2.2.2.1
  have n10 := iR.1.2
  have v5 := iR.2.1.2
  rcases Bool.eq_false_or_eq_true (inR p 0 (nI (rV (s.A 0)) - 1)) with hs | hs
  · obtain ⟨i, ei, hi⟩ := inR_lt hs (by omega)
    subst ei
    obtain ⟨b, kb, na, ca, wn, wc, w1, w2, w3, w4⟩ := y.2.2.2.2.1 i hi
    have rb := S.1 _ _ w1
    have is1 : mIsV s (nI i) = true := by unfold mIsV; rw [iR.2.1.1]; exact hs
    rcases Bool.eq_false_or_eq_true (isC c) with hc2 | hc2
    · obtain ⟨k, ea, hk⟩ : ∃ k, c = nI k ∧ k < 32 := ⟨_, isC_n hc2⟩
      subst ea
      refine g_aload_n ok dX1_was_0 rfl ?_
      refine g_iload_n ok dX1_was_1 rfl ?_
      refine g_callV ok q1497 q1499 qs12 q61 q1500 (Recv.ob ok gc_X1 (Rd.h (S.2.2.1))) dX1_was_2 (s_versionAt1 X.l X.G _ x own hr s ru sv hl hd hc hm hf inp ln bt rf S rt cl nl nd nc nm nf vl vd vc vm vf y i hi b kb _ rb) (nm_ (by decide : nmb _ 1 = true)) (dl rfl) (dk rfl) rfl rfl (dk rfl) (by omega) (kV ?_) xV
      refine g_astore ok dX1_was_5 (ls1 := [some (.ref x), some (.int (nI i)), some (.int (nI k)), some (.int z), some (.ref b)]) (dl rfl) rfl ?_
      refine g_iload_n ok dX1_was_7 rfl ?_
      refine g_callS ok q998 q999 q61 q1000 dX1_was_8 (x_isCell X.l X.G _ (nI k)) (nm_ (by decide : nmb _ 1 = true)) (dl rfl) (dk rfl) rfl rfl (dk rfl) (by omega) (kV ?_) xV
      rw [hc2]
      refine g_callS ok q1240 q1241 q61 q1242 dX1_was_11 (x_chkI1 X.l X.G _) (nm_ (by decide : nmb _ 1 = true)) (dl rfl) (dk rfl) rfl rfl (dk rfl) (by omega) (kN ?_) xN
      refine g_iload_n ok dX1_was_14 rfl ?_
      refine g_if_eq ok (tgt := 28) dX1_was_15 (by decide) (fun c15 => ?_) (fun c15 => ?_)
      · refine g_aload ok dX1_was_28 rfl ?_
        refine g_getN ok ck_X12 0 q1481 rfl (by decide) dX1_was_30 (Rd.h rb) rfl ?_
        refine g_iload_n ok dX1_was_33 rfl ?_
        refine g_iald ok (j := k) dX1_was_34 (Rd.h (S.1 _ _ w2)) rfl (by omega) (by omega) ?_
        have pf : SPost X.G x (ex1 IOOBE) (mWas s (nI i) (nI k) z) (.inl (some (.int (wn k)))) h := by
          unfold mWas hdF; rw [if_pos ⟨is1, hc2⟩]; simp only [nn_nI (by omega : i < 2 ^ 31), nn_nI (by omega : k < 2 ^ 31)]; obtain ⟨a1, a2⟩ := w4 k hk; first | rw [if_pos (by assumption), ← a1]; exact SPost.ok S.at | rw [if_neg (by assumption), ← a2]; exact SPost.ok S.at
        exact g_iret ok fn rfl dX1_was_35 pf (by omega)
      · refine g_aload ok dX1_was_18 rfl ?_
        refine g_getN ok ck_X12 1 q1484 rfl (by decide) dX1_was_20 (Rd.h rb) rfl ?_
        refine g_iload_n ok dX1_was_23 rfl ?_
        refine g_iald ok (j := k) dX1_was_24 (Rd.h (S.1 _ _ w3)) rfl (by omega) (by omega) ?_
        refine g_goto ok dX1_was_25 (tgt := 35) (by decide) ?_
        have pf : SPost X.G x (ex1 IOOBE) (mWas s (nI i) (nI k) z) (.inl (some (.int (wc k)))) h := by
          unfold mWas hdF; rw [if_pos ⟨is1, hc2⟩]; simp only [nn_nI (by omega : i < 2 ^ 31), nn_nI (by omega : k < 2 ^ 31)]; obtain ⟨a1, a2⟩ := w4 k hk; first | rw [if_pos (by assumption), ← a1]; exact SPost.ok S.at | rw [if_neg (by assumption), ← a2]; exact SPost.ok S.at
        exact g_iret ok fn rfl dX1_was_35 pf (by omega)
    · refine g_aload_n ok dX1_was_0 rfl ?_
      refine g_iload_n ok dX1_was_1 rfl ?_
      refine g_callV ok q1497 q1499 qs12 q61 q1500 (Recv.ob ok gc_X1 (Rd.h (S.2.2.1))) dX1_was_2 (s_versionAt1 X.l X.G _ x own hr s ru sv hl hd hc hm hf inp ln bt rf S rt cl nl nd nc nm nf vl vd vc vm vf y i hi b kb _ rb) (nm_ (by decide : nmb _ 1 = true)) (dl rfl) (dk rfl) rfl rfl (dk rfl) (by omega) (kV ?_) xV
      refine g_astore ok dX1_was_5 (ls1 := [some (.ref x), some (.int (nI i)), some (.int c), some (.int z), some (.ref b)]) (dl rfl) rfl ?_
      refine g_iload_n ok dX1_was_7 rfl ?_
      refine g_callS ok q998 q999 q61 q1000 dX1_was_8 (x_isCell X.l X.G _ c) (nm_ (by decide : nmb _ 1 = true)) (dl rfl) (dk rfl) rfl rfl (dk rfl) (by omega) (kV ?_) xV
      rw [hc2]
      refine g_callS ok q1240 q1241 q61 q1242 dX1_was_11 (x_chkI0 X.l X.G _) (nm_ (by decide : nmb _ 1 = true)) (dl rfl) (dk rfl) rfl rfl (dk rfl) (by omega) kT (xT fun qx fx kx => ?_)
      have pf : SPost X.G x (ex1 IOOBE) (mWas s (nI i) c z) (.inr (IOOBE, qx)) (up h qx (ob 19 [])) := by
        unfold mWas; rw [if_neg (fun w_ => by rw [hc2] at w_; exact absurd w_.2 (by decide))]; exact SPost.no (S.at.mi (k := 20) (v := 0) (by omega)) fx (by decide) rfl
      exact g_out ok fn (fun z hz => nomatch hz) pf (by omega)
  · have is0 : mIsV s p = false := by unfold mIsV; rw [iR.2.1.1]; exact hs
    refine g_aload_n ok dX1_was_0 rfl ?_
    refine g_iload_n ok dX1_was_1 rfl ?_
    refine g_callV ok q1497 q1499 qs12 q61 q1500 (Recv.ob ok gc_X1 (Rd.h (S.2.2.1))) dX1_was_2 (s_versionAt0 X.l X.G _ x own hr s ru sv hl hd hc hm hf inp ln bt rf S rt cl nl nd nc nm nf vl vd vc vm vf y p hs) (nm_ (by decide : nmb _ 1 = true)) (dl rfl) (dk rfl) rfl rfl (dk rfl) (by omega) kT (xT fun qx fx kx => ?_)
    have pf : SPost X.G x (ex1 IOOBE) (mWas s p c z) (.inr (IOOBE, qx)) (up h qx (ob 19 [])) := by
      unfold mWas; rw [if_neg (fun w_ => by rw [is0] at w_; exact absurd w_.1 (by decide))]; exact SPost.no (S.at.mi (k := 20) (v := 0) (by omega)) fx (by decide) rfl
    exact g_out ok fn (fun z hz => nomatch hz) pf (by omega)
