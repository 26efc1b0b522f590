/-! the SpanRuler: save, restore -/
set_option maxRecDepth 100000
abbrev cX1_save : ByteArray := prog_1_method_61_code
def yX1_save : MethodName := ⟨RX1, "save", "()I"⟩
def dkwX1_save_0 : List UInt8 := [42, 42, 180, 0, 126, 182, 0, 193, 181, 1, 178, 42, 180, 1, 178, 3, 16, 31, 182, 1, 9, 172]
abbrev dktX1_save_0 : List UInt8 := dkwX1_save_0 ++ []
theorem dksX1_save_0 : cX1_save.data.toList.drop 0 = dktX1_save_0 := by decide +kernel
theorem dX1_save_0 : decode cX1_save 0 = .ok (.aload_n 0, 1) := dk_42 (dk_at dksX1_save_0 0 rfl rfl)
theorem dX1_save_1 : decode cX1_save 1 = .ok (.aload_n 0, 1) := dk_42 (dk_at dksX1_save_0 1 rfl rfl)
theorem dX1_save_2 : decode cX1_save 2 = .ok (.getfield 126, 3) := dk_180 0 126 (dk_at dksX1_save_0 2 rfl rfl)
theorem dX1_save_5 : decode cX1_save 5 = .ok (.invokevirtual 193, 3) := dk_182 0 193 (dk_at dksX1_save_0 5 rfl rfl)
theorem dX1_save_8 : decode cX1_save 8 = .ok (.putfield 434, 3) := dk_181 1 178 (dk_at dksX1_save_0 8 rfl rfl)
theorem dX1_save_11 : decode cX1_save 11 = .ok (.aload_n 0, 1) := dk_42 (dk_at dksX1_save_0 11 rfl rfl)
theorem dX1_save_12 : decode cX1_save 12 = .ok (.getfield 434, 3) := dk_180 1 178 (dk_at dksX1_save_0 12 rfl rfl)
theorem dX1_save_15 : decode cX1_save 15 = .ok (.iconst 0, 1) := dk_3 (dk_at dksX1_save_0 15 rfl rfl)
theorem dX1_save_16 : decode cX1_save 16 = .ok (.bipush 31, 2) := dk_16 31 (dk_at dksX1_save_0 16 rfl rfl)
theorem dX1_save_18 : decode cX1_save 18 = .ok (.invokevirtual 265, 3) := dk_182 1 9 (dk_at dksX1_save_0 18 rfl rfl)
theorem dX1_save_21 : decode cX1_save 21 = .ok (.ireturn, 1) := dk_172 (dk_at dksX1_save_0 21 rfl rfl)
abbrev cX1_restore : ByteArray := prog_1_method_62_code
def yX1_restore : MethodName := ⟨RX1, "restore", "()I"⟩
def dkwX1_restore_1 : List UInt8 := [181, 0, 126, 42, 180, 0, 133, 182, 1, 181, 42, 180, 0, 126, 3, 16, 31, 182, 1, 9, 172]
abbrev dktX1_restore_1 : List UInt8 := dkwX1_restore_1 ++ []
def dkwX1_restore_0 : List UInt8 := [42, 180, 1, 178, 198, 0, 7, 4, 167, 0, 4, 3, 184, 1, 129, 42, 42, 180, 1, 178, 182, 0, 193]
abbrev dktX1_restore_0 : List UInt8 := dkwX1_restore_0 ++ dktX1_restore_1
theorem dksX1_restore_0 : cX1_restore.data.toList.drop 0 = dktX1_restore_0 := by decide +kernel
theorem dksX1_restore_1 : cX1_restore.data.toList.drop 23 = dktX1_restore_1 := dk_seg dksX1_restore_0 23 rfl rfl
theorem dX1_restore_0 : decode cX1_restore 0 = .ok (.aload_n 0, 1) := dk_42 (dk_at dksX1_restore_0 0 rfl rfl)
theorem dX1_restore_1 : decode cX1_restore 1 = .ok (.getfield 434, 3) := dk_180 1 178 (dk_at dksX1_restore_0 1 rfl rfl)
theorem dX1_restore_4 : decode cX1_restore 4 = .ok (.ifnull 7, 3) := dk_198 0 7 (dk_at dksX1_restore_0 4 rfl rfl)
theorem dX1_restore_7 : decode cX1_restore 7 = .ok (.iconst 1, 1) := dk_4 (dk_at dksX1_restore_0 7 rfl rfl)
theorem dX1_restore_8 : decode cX1_restore 8 = .ok (.goto 4, 3) := dk_167 0 4 (dk_at dksX1_restore_0 8 rfl rfl)
theorem dX1_restore_11 : decode cX1_restore 11 = .ok (.iconst 0, 1) := dk_3 (dk_at dksX1_restore_0 11 rfl rfl)
theorem dX1_restore_12 : decode cX1_restore 12 = .ok (.invokestatic 385, 3) := dk_184 1 129 (dk_at dksX1_restore_0 12 rfl rfl)
theorem dX1_restore_15 : decode cX1_restore 15 = .ok (.aload_n 0, 1) := dk_42 (dk_at dksX1_restore_0 15 rfl rfl)
theorem dX1_restore_16 : decode cX1_restore 16 = .ok (.aload_n 0, 1) := dk_42 (dk_at dksX1_restore_0 16 rfl rfl)
theorem dX1_restore_17 : decode cX1_restore 17 = .ok (.getfield 434, 3) := dk_180 1 178 (dk_at dksX1_restore_0 17 rfl rfl)
theorem dX1_restore_20 : decode cX1_restore 20 = .ok (.invokevirtual 193, 3) := dk_182 0 193 (dk_at dksX1_restore_0 20 rfl rfl)
theorem dX1_restore_23 : decode cX1_restore 23 = .ok (.putfield 126, 3) := dk_181 0 126 (dk_at dksX1_restore_1 0 rfl rfl)
theorem dX1_restore_26 : decode cX1_restore 26 = .ok (.aload_n 0, 1) := dk_42 (dk_at dksX1_restore_1 3 rfl rfl)
theorem dX1_restore_27 : decode cX1_restore 27 = .ok (.getfield 133, 3) := dk_180 0 133 (dk_at dksX1_restore_1 4 rfl rfl)
theorem dX1_restore_30 : decode cX1_restore 30 = .ok (.invokevirtual 437, 3) := dk_182 1 181 (dk_at dksX1_restore_1 7 rfl rfl)
theorem dX1_restore_33 : decode cX1_restore 33 = .ok (.aload_n 0, 1) := dk_42 (dk_at dksX1_restore_1 10 rfl rfl)
theorem dX1_restore_34 : decode cX1_restore 34 = .ok (.getfield 126, 3) := dk_180 0 126 (dk_at dksX1_restore_1 11 rfl rfl)
theorem dX1_restore_37 : decode cX1_restore 37 = .ok (.iconst 0, 1) := dk_3 (dk_at dksX1_restore_1 14 rfl rfl)
theorem dX1_restore_38 : decode cX1_restore 38 = .ok (.bipush 31, 2) := dk_16 31 (dk_at dksX1_restore_1 15 rfl rfl)
theorem dX1_restore_40 : decode cX1_restore 40 = .ok (.invokevirtual 265, 3) := dk_182 1 9 (dk_at dksX1_restore_1 17 rfl rfl)
theorem dX1_restore_43 : decode cX1_restore 43 = .ok (.ireturn, 1) := dk_172 (dk_at dksX1_restore_1 20 rfl rfl)
theorem q320 : (Jvm.Cond.fieldLink "SpanRuler" (434 : Nat) "SpanRuler" "saved" "LSpanRuler$Ruler;") ∈ lw_all := lw_g (lw_at lw_m2 20 rfl) rfl
theorem q2224 : (Jvm.Cond.methodLink "SpanRuler" (437 : Nat) ({ cls := "java/util/ArrayList", name := "clear", desc := "()V" } : Jvm.MethodName)) ∈ lw_all := lw_g (lw_at lw_m10 4 rfl) rfl
theorem q2227 : (Jvm.Cond.code ({ cls := "java/util/ArrayList", name := "clear", desc := "()V" } : Jvm.MethodName) prog_52_method_40_code (4 : Nat) (Option.none : Option Jvm.ClassFile.FieldType)) ∈ lw_all := lw_g (lw_at lw_m10 7 rfl) rfl
theorem q2225 : (Jvm.Cond.instanceMethod ({ cls := "java/util/ArrayList", name := "clear", desc := "()V" } : Jvm.MethodName)) ∈ lw_all := lw_g (lw_at lw_m10 5 rfl) rfl
theorem q2226 : (Jvm.Cond.selects "java/util/ArrayList" ({ cls := "java/util/ArrayList", name := "clear", desc := "()V" } : Jvm.MethodName) ({ cls := "java/util/ArrayList", name := "clear", desc := "()V" } : Jvm.MethodName)) ∈ lw_all := lw_g (lw_at lw_m10 6 rfl) rfl
theorem sm_ext {R S : Nat → Int32} : ∀ (n c : Nat) (a : Int32), (∀ q, q < c + n → R (8 + q) = S (8 + q)) → sm R n c a = sm S n c a := by
  intro n
  induction n with
  | zero => intro c a _; rfl
  | succ n ih =>
    intro c a h
    show sm R n (c + 1) _ = sm S n (c + 1) _
    rw [h c (by omega)]; exact ih (c + 1) _ (fun q hq => h q (by omega))
theorem cp5 {s : MS} {q : Nat} (hq : q < 442) {v : Int32} : s.A 0 q = (cpl 5 0 0 0 442 0 (mI (mI s 20 0) 6 v)).A 5 q := by
  rw [cpl_A (Or.inl (by decide)), if_pos rfl]
  show _ = if 0 + 0 ≤ q ∧ q < 0 + 0 + 442 then _ else _
  rw [if_pos (by omega), Nat.zero_add, Nat.sub_zero]; rfl
theorem cp0 {s : MS} {q : Nat} (hq : q < 442) : s.A 5 q = (cpl 0 0 5 0 442 0 (mI s 20 0)).A 0 q := by
  rw [cpl_A (Or.inl (by decide)), if_pos rfl]
  show _ = if 0 + 0 ≤ q ∧ q < 0 + 0 + 442 then _ else _
  rw [if_pos (by omega), Nat.zero_add, Nat.sub_zero]; rfl
theorem s_save (l : Launch) (G : GE) (h : AH) (x : Nat) (s : MS) (S0 : SRAt G h x s) : GM l G yX1_save (ws_ yX1_save cX1_save 1 (some .int)) 18 [.ref x] (h) (3500) (SPost G x (ex1 NSEE) (mSave s)) := by
  refine GM.of (by decide) (dk rfl) ?_
  intro X eL eG eh ok fn
  subst eL; subst eG
  show GW X _ 0 0 [some (.ref x)] []
  obtain ⟨own, hr, ru, sv, hl, hd, hc, hm, hf, inp, ln, bt, rf, S⟩ := S0
  obtain ⟨rt, cl, nl, nd, nc, nm, nf, vl, vd, vc, vm, vf, y⟩ := S.2.2.2.2.2.2.2.2.1.1.1
  refine g_aload_n ok dX1_save_0 rfl ?_
  refine g_aload_n ok dX1_save_1 rfl ?_
  refine g_get ok ck_X1 0 q319 (Or.inl rfl) (by decide) dX1_save_2 (Rd.h (S.2.2.1)) rfl ?_
  refine g_callV ok q348 q349 q350 q62 q351 (Recv.ob ok gc_X2 (Rd.h (S.1 _ _ y.1.1))) dX1_save_5 (GM.fr S.1 (x_copy X.l X.G hr (fun q => own q = ru) ru (s.A 0) S.2.2.2.2.2.2.2.2.1.1.1)) (nm_ (by decide : nmb _ 0 = true)) (dl rfl) (dk rfl) rfl rfl (dk rfl) (by omega) (kFR fun uC hrC hC ⟨c, eC, mC⟩ fC => ?_) xFR
  subst eC
  obtain ⟨lc, hc0⟩ := mC.o0
  have kC := fC.keep
  obtain ⟨own2, S2, yc, nc, nf2, nv⟩ := SRx.copied S mC fC.keep fC.out
  refine g_put ok ck_X1 1 q320 (Or.inl rfl) (by decide) rfl dX1_save_8 (S2.2.2.1) (dl rfl) rfl rfl (fs1 := [.ref ru, .ref c, .ref hl, .ref inp, .ref ln, .int (s.I 10), bt, rf]) rfl (?_)
  have iu : ∀ i, i ≠ 6 → i ≠ 20 → (cpl 5 0 0 0 442 0 (mI (mI s 20 0) 6 1)).I i = s.I i := fun i h1 h2 => by rw [cpl_I, mI_I, upd_ne h1, mI_I, upd_ne h2]
  have au : ∀ i, i ≠ 5 → (cpl 5 0 0 0 442 0 (mI (mI s 20 0) 6 1)).A i = s.A i := fun i hi => cpl_Ao 442 0 _ i hi
  have mu : mU (cpl 5 0 0 0 442 0 (mI (mI s 20 0) 6 1)) = mU s := congrArg nn (iu 4 (by decide) (by decide))
  have yd : RulerAt X.G hrC (fun q => own2 q = c) c ((cpl 5 0 0 0 442 0 (mI (mI s 20 0) 6 1)).A 5) := yc.c442 (fun q hq => cp5 hq)
  have T : SRs X.G own2 hrC (cpl 5 0 0 0 442 0 (mI (mI s 20 0) 6 1)) ru (.ref c) hf := by
    obtain ⟨t1, t2, t3, t4⟩ := S2.2.2.2.2.2.2.2.2.1
    refine ⟨by rw [au 0 (by decide)]; exact t1, fun j hj => by rw [mu] at hj; rw [au 3 (by decide)]; exact t2 j hj, fun i j hij hj => t3 i j hij (by rw [mu] at hj; exact hj), Or.inr ⟨c, rfl, ?_, nc, fun j hj => nf2 j (by rw [mu] at hj; exact hj), yd, t1.2.c442 t1.1.inv (fun q hq => cp5 hq)⟩⟩
    rw [cpl_I, mI_I, upd_at]
  have S3 := SRx.setr S2 T (iu 4 (by decide) (by decide)) (Sm7.ofI ⟨au 7 (by decide), au 9 (by decide)⟩ (fun i h1 h2 => iu i (by omega) (by omega)))
  obtain ⟨rt2, cl2, nl2, nd2, nc2, nm2, nf3, vl2, vd2, vc2, vm2, vf2, y2⟩ := yd
  refine g_aload_n ok dX1_save_11 rfl ?_
  refine g_get ok ck_X1 1 q320 (Or.inl rfl) (by decide) dX1_save_12 (Rd.h (S3.2.2.1)) rfl ?_
  refine g_iconst ok (v := 0) dX1_save_15 rfl ?_
  refine g_bipush ok (v := 31) dX1_save_16 rfl ?_
  refine g_callV ok q912 q913 q914 q62 q915 (Recv.ob ok gc_X2 (Rd.h (S3.1 _ _ y2.1.1))) dX1_save_18 (GM.fr S3.1 (x_sum X.l X.G hrC (fun q => own2 q = c) c ((cpl 5 0 0 0 442 0 (mI (mI s 20 0) 6 1)).A 5) rt2 cl2 nl2 vl2 _ _ _ _ _ _ y2.1 0 31 (by omega) (by omega))) (nm_ (by decide : nmb _ 2 = true)) (dl rfl) (dk rfl) rfl rfl (dk rfl) (by omega) (kFR fun v5 hr5 h5 ⟨e5, q5, g5⟩ f5 => ?_) xFR
  subst e5
  have S5 := S3.move f5.keep f5.out (SRs.asked T y2 q5 g5 (fun e => absurd e.symm nc) (fun j hj => nf2 j (by rw [mu] at hj; exact hj)) (fun _ => rfl))
  have ev : sm ((cpl 5 0 0 0 442 0 (mI (mI s 20 0) 6 1)).A 5) 32 0 0 = sm ((cpl 5 0 0 0 442 0 (mI (mI s 20 0) 6 1)).A 0) 32 0 0 := by rw [au 0 (by decide)]; exact sm_ext 32 0 0 (fun q hq => (cp5 (by omega)).symm)
  rw [ev]
  have pf : SPost X.G x (ex1 NSEE) (mSave s) (.inl (some (.int (sm ((cpl 5 0 0 0 442 0 (mI (mI s 20 0) 6 1)).A 0) 32 0 0)))) h5 := by
    unfold mSave; exact SPost.ends S5.at (by rw [cpl_I, mI_I, upd_ne (by omega), mI_I, upd_at])
  exact g_iret ok fn rfl dX1_save_21 pf (by omega)
theorem s_restore (l : Launch) (G : GE) (h : AH) (x : Nat) (s : MS) (S0 : SRAt G h x s) : GM l G yX1_restore (ws_ yX1_restore cX1_restore 1 (some .int)) 18 [.ref x] (h) (3500) (SPost G x (ex1 ISE) (mRestore s)) := by
  refine GM.of (by decide) (dk rfl) ?_
  intro X eL eG eh ok fn
  subst eL; subst eG
  show GW X _ 0 0 [some (.ref x)] []
  obtain ⟨own, hr, ru, sv, hl, hd, hc, hm, hf, inp, ln, bt, rf, S⟩ := S0
  obtain ⟨rt, cl, nl, nd, nc, nm, nf, vl, vd, vc, vm, vf, y⟩ := S.2.2.2.2.2.2.2.2.1.1.1
  rcases S.2.2.2.2.2.2.2.2.1.2.2.2 with ⟨e, i60⟩ | ⟨a, e, i61, na, nfa, ya, ta⟩
  · subst e
    refine g_aload_n ok dX1_restore_0 rfl ?_
    refine g_get ok ck_X1 1 q320 (Or.inl rfl) (by decide) dX1_restore_1 (Rd.h (S.2.2.1)) rfl ?_
    refine g_ifnullN ok (tgt := 11) dX1_restore_4 (by decide) ?_
    refine g_iconst ok (v := 0) dX1_restore_11 rfl ?_
    refine g_callS ok q1658 q1659 q61 q1660 dX1_restore_12 (x_chkS0 X.l X.G _) (nm_ (by decide : nmb _ 1 = true)) (dl rfl) (dk rfl) rfl rfl (dk rfl) (by omega) kT (xT fun qx fx kx => ?_)
    have pf : SPost X.G x (ex1 ISE) (mRestore s) (.inr (ISE, qx)) (up h qx (ob 20 [])) := by
      unfold mRestore; rw [if_pos i60]; exact SPost.no (S.at.mi (k := 20) (v := 0) (by omega)) fx (by decide) rfl
    exact g_out ok fn (fun z hz => nomatch hz) pf (by omega)
  · subst e
    obtain ⟨la, ha⟩ := ya.obj
    refine g_aload_n ok dX1_restore_0 rfl ?_
    refine g_get ok ck_X1 1 q320 (Or.inl rfl) (by decide) dX1_restore_1 (Rd.h (S.2.2.1)) rfl ?_
    refine g_ifnull ok dX1_restore_4 ?_
    refine g_iconst ok (v := 1) dX1_restore_7 rfl ?_
    refine g_goto ok dX1_restore_8 (tgt := 12) (by decide) ?_
    refine g_callS ok q1658 q1659 q61 q1660 dX1_restore_12 (x_chkS1 X.l X.G _) (nm_ (by decide : nmb _ 1 = true)) (dl rfl) (dk rfl) rfl rfl (dk rfl) (by omega) (kN ?_) xN
    refine g_aload_n ok dX1_restore_15 rfl ?_
    refine g_aload_n ok dX1_restore_16 rfl ?_
    refine g_get ok ck_X1 1 q320 (Or.inl rfl) (by decide) dX1_restore_17 (Rd.h (S.2.2.1)) rfl ?_
    refine g_callV ok q348 q349 q350 q62 q351 (Recv.ob ok gc_X2 (Rd.h (S.1 _ _ ha))) dX1_restore_20 (GM.fr S.1 (x_copy X.l X.G hr (fun q => own q = a) a (s.A 5) ya)) (nm_ (by decide : nmb _ 0 = true)) (dl rfl) (dk rfl) rfl rfl (dk rfl) (by omega) (kFR fun uC hrC hC ⟨c, eC, mC⟩ fC => ?_) xFR
    subst eC
    obtain ⟨own2, S2, yc, nc, nf2, nv⟩ := SRx.copied S mC fC.keep fC.out
    refine g_put ok ck_X1 0 q319 (Or.inl rfl) (by decide) rfl dX1_restore_23 (S2.2.2.1) (dl rfl) rfl rfl (fs1 := [.ref c, .ref a, .ref hl, .ref inp, .ref ln, .int (s.I 10), bt, rf]) rfl (?_)
    have iu : ∀ i, i ≠ 20 → (cpl 0 0 5 0 442 0 (mI s 20 0)).I i = s.I i := fun i h1 => by rw [cpl_I, mI_I, upd_ne h1]
    have au : ∀ i, i ≠ 0 → (cpl 0 0 5 0 442 0 (mI s 20 0)).A i = s.A i := fun i hi => cpl_Ao 442 0 _ i hi
    have mu : mU (cpl 0 0 5 0 442 0 (mI s 20 0)) = mU s := congrArg nn (iu 4 (by decide))
    have yd : RulerAt X.G hrC (fun q => own2 q = c) c ((cpl 0 0 5 0 442 0 (mI s 20 0)).A 0) := yc.c442 (fun q hq => cp0 hq)
    have T : SRs X.G own2 hrC (cpl 0 0 5 0 442 0 (mI s 20 0)) c (.ref a) hf := by
      obtain ⟨t1, t2, t3, t4⟩ := S2.2.2.2.2.2.2.2.2.1
      refine ⟨⟨yd, ta.c442 ya.inv (fun q hq => cp0 hq)⟩, fun j hj => ?_, fun i j hij hj => t3 i j hij (by rw [mu] at hj; exact hj), ?_⟩
      · rw [mu] at hj; rw [au 3 (by decide)]; obtain ⟨b, b1, b2, b3, b4⟩ := t2 j hj; exact ⟨b, b1, fun z => nf2 j hj (by rw [b1, z]), b3, b4⟩
      · rw [au 5 (by decide), iu 6 (by decide)]; rcases t4 with ⟨z, -⟩ | ⟨b, b1, b2, b3, b4, b5, b6⟩
        · cases z
        · exact Or.inr ⟨b, b1, b2, fun z => nv (by rw [b1, z]), fun j hj => b4 j (by rw [mu] at hj; exact hj), b5, b6⟩
    have S3 := SRx.setr S2 T (iu 4 (by decide)) (Sm7.ofI ⟨au 7 (by decide), au 9 (by decide)⟩ (fun i h1 h2 => iu i (by omega)))
    refine g_khn (ok.tab.kst.2.1) (fun hE3 => ?_)
    refine g_aload_n ok dX1_restore_26 rfl ?_
    refine g_get ok ck_X1 2 q321 (Or.inl rfl) (by decide) dX1_restore_27 (Rd.h (S3.2.2.1)) rfl ?_
    refine g_callV ok q2224 q2225 q2226 q70 q2227 (Recv.ob ok gc_J2 (Rd.h S3.2.2.2.2.2.1.1)) dX1_restore_30 (al_clear X.l X.G _ hl hd hc _ _ _ S3.2.2.2.2.2.1) (nm_ (by decide : nmb _ 0 = true)) (dl rfl) (dk rfl) rfl rfl (dk rfl) (by omega) (kQ fun h6 ⟨g6, al6, kA6⟩ => ?_) xQ
    have T4 : SRs X.G own2 hrC (reS s) c (.ref a) g6 := SRs.cleared T (reS_A s) (reS_I s (by decide)) (reS_U s) g6
    have S4 := SRx.setl (s' := (reS s)) S3 hE3 kA6 (by rw [reS_U]; exact al6) T4 ⟨by rw [reS_U]; exact reS_4 s, by rw [reS_U]; omega⟩ (Sm7.ofI ⟨by rw [reS_A], by rw [reS_A]⟩ (fun i h1 h2 => reS_I s (by omega)))
    obtain ⟨rt2, cl2, nl2, nd2, nc2, nm2, nf3, vl2, vd2, vc2, vm2, vf2, y2⟩ := S4.2.2.2.2.2.2.2.2.1.1.1
    refine g_aload_n ok dX1_restore_33 rfl ?_
    refine g_get ok ck_X1 0 q319 (Or.inl rfl) (by decide) dX1_restore_34 (Rd.h (S4.2.2.1)) rfl ?_
    refine g_iconst ok (v := 0) dX1_restore_37 rfl ?_
    refine g_bipush ok (v := 31) dX1_restore_38 rfl ?_
    refine g_callV ok q912 q913 q914 q62 q915 (Recv.ob ok gc_X2 (Rd.h (S4.1 _ _ y2.1.1))) dX1_restore_40 (GM.fr S4.1 (x_sum X.l X.G hrC (fun q => own2 q = c) c ((reS s).A 0) rt2 cl2 nl2 vl2 _ _ _ _ _ _ y2.1 0 31 (by omega) (by omega))) (nm_ (by decide : nmb _ 2 = true)) (dl rfl) (dk rfl) rfl rfl (dk rfl) (by omega) (kFR fun v5 hr5 h5 ⟨e5, q5, g5⟩ f5 => ?_) xFR
    subst e5
    obtain ⟨S5, -⟩ := SRx.ask S4 y2 q5 g5 f5
    have pf : SPost X.G x (ex1 ISE) (mRestore s) (.inl (some (.int (sm ((reS s).A 0) 32 0 0)))) h5 := by
      unfold mRestore; rw [if_neg (by rw [i61]; decide)]; exact SPost.ends S5.at (by rw [reS_I s (by decide), cpl_I, mI_I, upd_at])
    exact g_iret ok fn rfl dX1_restore_43 pf (by omega)
