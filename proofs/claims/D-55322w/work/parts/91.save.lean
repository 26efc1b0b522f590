/-! the SpanRuler: save, restore -/
set_option maxRecDepth 100000
abbrev cX1_save : ByteArray := prog_1_method_61_code
def yX1_save : MethodName := ⟨RX1, "save", "()I"⟩
def dkwX1_save_0 : List UInt8 := [42, 42, 180, 0, 126, 182, 0, 193, 181, 1, 178, 42, 180, 1, 178, 3, 16, 31, 182, 1, 9, 172]
abbrev dktX1_save_0 : List UInt8 := dkwX1_save_0 ++ []
theorem dksX1_save_0 : cX1_save.data.toList.drop 0 = dktX1_save_0 := by decide +kernel
theorem dX1_save_0 : decode cX1_save 0 = .ok (.aload_n 0, 1) := dk_42 (dk_at dksX1_save_0 0 rfl rfl)
theorem dX1_save_1 : decode cX1_save 1 = .ok (.aload_n 0, 1) := dk_42 (dk_at dksX1_save_0 1 rfl rfl)
theorem dX1_save_2 : decode cX1_save 2 = .ok (.getfield 126, 3) := dk_180 0 126 (dk_at dksX1_save_0 2 rfl rfl)
theorem dX1_save_5 : decode cX1_save 5 = .ok (.invokevirtual 193, 3) := dk_182 0 193 (dk_at dksX1_save_0 5 rfl rfl)
theorem dX1_save_8 : decode cX1_save 8 = .ok (.putfield 434, 3) := dk_181 1 178 (dk_at dksX1_save_0 8 rfl rfl)
theorem dX1_save_11 : decode cX1_save 11 = .ok (.aload_n 0, 1) := dk_42 (dk_at dksX1_save_0 11 rfl rfl)
theorem dX1_save_12 : decode cX1_save 12 = .ok (.getfield 434, 3) := dk_180 1 178 (dk_at dksX1_save_0 12 rfl rfl)
theorem dX1_save_15 : decode cX1_save 15 = .ok (.iconst 0, 1) := dk_3 (dk_at dksX1_save_0 15 rfl rfl)
theorem dX1_save_16 : decode cX1_save 16 = .ok (.bipush 31, 2) := dk_16 31 (dk_at dksX1_save_0 16 rfl rfl)
theorem dX1_save_18 : decode cX1_save 18 = .ok (.invokevirtual 265, 3) := dk_182 1 9 (dk_at dksX1_save_0 18 rfl rfl)
theorem dX1_save_21 : decode cX1_save 21 = .ok (.ireturn, 1) := dk_172 (dk_at dksX1_save_0 21 rfl rfl)
theorem q320 : (Jvm.Cond.fieldLink "SpanRuler" (434 : Nat) "SpanRuler" "saved" "LSpanRuler$Ruler;") ∈ lw_all := lw_g (lw_at lw_m2 20 rfl) rfl
theorem sm_ext {R S : Nat → Int32} : ∀ (n c : Nat) (a : Int32), (∀ q, q < c + n → R (8 + q) = S (8 + q)) → sm R n c a = sm S n c a := by
  intro n
  induction n with
  | zero => intro c a _; rfl
  | succ n ih =>
    intro c a h
    show sm R n (c + 1) _ = sm S n (c + 1) _
    rw [h c (by omega)]; exact ih (c + 1) _ (fun q hq => h q (by omega))
theorem cp5 {s : MS} {q : Nat} (hq : q < 442) {v : Int32} : s.A 0 q = (cpl 5 0 0 0 442 0 (mI (mI s 20 0) 6 v)).A 5 q := by
  rw [cpl_A (Or.inl (by decide)), if_pos rfl]
  show _ = if 0 + 0 ≤ q ∧ q < 0 + 0 + 442 then _ else _
  rw [if_pos (by omega), Nat.zero_add, Nat.sub_zero]; rfl
theorem cp0 {s : MS} {q : Nat} (hq : q < 442) : s.A 5 q = (cpl 0 0 5 0 442 0 (mI s 20 0)).A 0 q := by
  rw [cpl_A (Or.inl (by decide)), if_pos rfl]
  show _ = if 0 + 0 ≤ q ∧ q < 0 + 0 + 442 then _ else _
  rw [if_pos (by omega), Nat.zero_add, Nat.sub_zero]; rfl
theorem s_save (l : Launch) (G : GE) (h : AH) (x : Nat) (s : MS) (S0 : SRAt G h x s) : GM l G yX1_save (ws_ yX1_save cX1_save 1 (some .int)) 18 [.ref x] (h) (3500) (SPost G x (ex1 NSEE) (mSave s)) := by
  refine GM.of (by decide) (dk rfl) ?_
  intro X eL eG eh ok fn
  subst eL; subst eG
  show GW X _ 0 0 [some (.ref x)] []
  obtain ⟨own, hr, ru, sv, hl, hd, hc, hm, hf, inp, ln, bt, rf, S⟩ := S0
  obtain ⟨rt, cl, nl, nd, nc, nm, nf, vl, vd, vc, vm, vf, y⟩ := S.2.2.2.2.2.2.2.2.1.1.1
  refine g_aload_n ok dX1_save_0 rfl ?_
  refine g_aload_n ok dX1_save_1 rfl ?_
  refine g_get ok ck_X1 0 q319 (Or.inl rfl) (by decide) dX1_save_2 (Rd.h (S.2.2.1)) rfl ?_
  refine g_callV ok q348 q349 q350 q62 q351 (Recv.ob ok gc_X2 (Rd.h (S.1 _ _ y.1.1))) dX1_save_5 (GM.fr S.1 (x_copy X.l X.G hr (fun q => own q = ru) ru (s.A 0) S.2.2.2.2.2.2.2.2.1.1.1)) (nm_ (by decide : nmb _ 0 = true)) (dl rfl) (dk rfl) rfl rfl (dk rfl) (by omega) (kFR fun uC hrC hC ⟨c, eC, mC⟩ fC => ?_) xFR
  subst eC
  obtain ⟨lc, hc0⟩ := mC.o0
  have kC := fC.keep
  obtain ⟨own2, S2, yc, nc, nf2, nv⟩ := SRx.copied S mC fC.keep fC.out
  refine g_put ok ck_X1 1 q320 (Or.inl rfl) (by decide) rfl dX1_save_8 (S2.2.2.1) (dl rfl) rfl rfl (fs1 := [.ref ru, .ref c, .ref hl, .ref inp, .ref ln, .int (s.I 10), bt, rf]) rfl (?_)
  have iu : ∀ i, i ≠ 6 → i ≠ 20 → (cpl 5 0 0 0 442 0 (mI (mI s 20 0) 6 1)).I i = s.I i := fun i h1 h2 => by rw [cpl_I, mI_I, upd_ne h1, mI_I, upd_ne h2]
  have au : ∀ i, i ≠ 5 → (cpl 5 0 0 0 442 0 (mI (mI s 20 0) 6 1)).A i = s.A i := fun i hi => cpl_Ao 442 0 _ i hi
  have mu : mU (cpl 5 0 0 0 442 0 (mI (mI s 20 0) 6 1)) = mU s := congrArg nn (iu 4 (by decide) (by decide))
  have yd : RulerAt X.G hrC (fun q => own2 q = c) c ((cpl 5 0 0 0 442 0 (mI (mI s 20 0) 6 1)).A 5) := yc.c442 (fun q hq => cp5 hq)
  have T : SRs X.G own2 hrC (cpl 5 0 0 0 442 0 (mI (mI s 20 0) 6 1)) ru (.ref c) hf := by
    obtain ⟨t1, t2, t3, t4⟩ := S2.2.2.2.2.2.2.2.2.1
    refine ⟨by rw [au 0 (by decide)]; exact t1, fun j hj => by rw [mu] at hj; rw [au 3 (by decide)]; exact t2 j hj, fun i j hij hj => t3 i j hij (by rw [mu] at hj; exact hj), Or.inr ⟨c, rfl, ?_, nc, fun j hj => nf2 j (by rw [mu] at hj; exact hj), yd, t1.2.c442 t1.1.inv (fun q hq => cp5 hq)⟩⟩
    rw [cpl_I, mI_I, upd_at]
  have S3 := SRx.setr S2 T (iu 4 (by decide) (by decide)) (Sm7.ofI ⟨au 7 (by decide), au 9 (by decide)⟩ (fun i h1 h2 => iu i (by omega) (by omega)))
  obtain ⟨rt2, cl2, nl2, nd2, nc2, nm2, nf3, vl2, vd2, vc2, vm2, vf2, y2⟩ := yd
  refine g_aload_n ok dX1_save_11 rfl ?_
  refine g_get ok ck_X1 1 q320 (Or.inl rfl) (by decide) dX1_save_12 (Rd.h (S3.2.2.1)) rfl ?_
  refine g_iconst ok (v := 0) dX1_save_15 rfl ?_
  refine g_bipush ok (v := 31) dX1_save_16 rfl ?_
  refine g_callV ok q912 q913 q914 q62 q915 (Recv.ob ok gc_X2 (Rd.h (S3.1 _ _ y2.1.1))) dX1_save_18 (GM.fr S3.1 (x_sum X.l X.G hrC (fun q => own2 q = c) c ((cpl 5 0 0 0 442 0 (mI (mI s 20 0) 6 1)).A 5) rt2 cl2 nl2 vl2 _ _ _ _ _ _ y2.1 0 31 (by omega) (by omega))) (nm_ (by decide : nmb _ 2 = true)) (dl rfl) (dk rfl) rfl rfl (dk rfl) (by omega) (kFR fun v5 hr5 h5 ⟨e5, q5, g5⟩ f5 => ?_) xFR
  subst e5
  have S5 := S3.move f5.keep f5.out (SRs.asked T y2 q5 g5 (fun e => absurd e.symm nc) (fun j hj => nf2 j (by rw [mu] at hj; exact hj)) (fun _ => rfl))
  have ev : sm ((cpl 5 0 0 0 442 0 (mI (mI s 20 0) 6 1)).A 5) 32 0 0 = sm ((cpl 5 0 0 0 442 0 (mI (mI s 20 0) 6 1)).A 0) 32 0 0 := by rw [au 0 (by decide)]; exact sm_ext 32 0 0 (fun q hq => (cp5 (by omega)).symm)
  rw [ev]
  have pf : SPost X.G x (ex1 NSEE) (mSave s) (.inl (some (.int (sm ((cpl 5 0 0 0 442 0 (mI (mI s 20 0) 6 1)).A 0) 32 0 0)))) h5 := by
    unfold mSave; exact SPost.ends S5.at (by rw [cpl_I, mI_I, upd_ne (by omega), mI_I, upd_at])
  exact g_iret ok fn rfl dX1_save_21 pf (by omega)
