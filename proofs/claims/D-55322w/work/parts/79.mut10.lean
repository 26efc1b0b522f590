/-! a ruler is changed, 10: write, keep -/
set_option maxRecDepth 100000
abbrev cX2_write : ByteArray := prog_16_method_17_code
def yX2_write : MethodName := ⟨RX2, "write", "(LSpanRuler$Note;)I"⟩
def dkwX2_write_1 : List UInt8 := [180, 0, 26, 43, 182, 0, 65, 87, 42, 180, 0, 26, 182, 0, 161, 172]
abbrev dktX2_write_1 : List UInt8 := dkwX2_write_1 ++ []
def dkwX2_write_0 : List UInt8 := [42, 180, 0, 26, 182, 0, 161, 16, 10, 160, 0, 7, 4, 167, 0, 4, 3, 4, 16, 10, 184, 0, 131, 42]
abbrev dktX2_write_0 : List UInt8 := dkwX2_write_0 ++ dktX2_write_1
theorem dksX2_write_0 : cX2_write.data.toList.drop 0 = dktX2_write_0 := by decide +kernel
theorem dksX2_write_1 : cX2_write.data.toList.drop 24 = dktX2_write_1 := dk_seg dksX2_write_0 24 rfl rfl
theorem dX2_write_0 : decode cX2_write 0 = .ok (.aload_n 0, 1) := dk_42 (dk_at dksX2_write_0 0 rfl rfl)
theorem dX2_write_1 : decode cX2_write 1 = .ok (.getfield 26, 3) := dk_180 0 26 (dk_at dksX2_write_0 1 rfl rfl)
theorem dX2_write_4 : decode cX2_write 4 = .ok (.invokevirtual 161, 3) := dk_182 0 161 (dk_at dksX2_write_0 4 rfl rfl)
theorem dX2_write_7 : decode cX2_write 7 = .ok (.bipush 10, 2) := dk_16 10 (dk_at dksX2_write_0 7 rfl rfl)
theorem dX2_write_9 : decode cX2_write 9 = .ok (.if_icmp .ne 7, 3) := dk_160 0 7 (dk_at dksX2_write_0 9 rfl rfl)
theorem dX2_write_12 : decode cX2_write 12 = .ok (.iconst 1, 1) := dk_4 (dk_at dksX2_write_0 12 rfl rfl)
theorem dX2_write_13 : decode cX2_write 13 = .ok (.goto 4, 3) := dk_167 0 4 (dk_at dksX2_write_0 13 rfl rfl)
theorem dX2_write_16 : decode cX2_write 16 = .ok (.iconst 0, 1) := dk_3 (dk_at dksX2_write_0 16 rfl rfl)
theorem dX2_write_17 : decode cX2_write 17 = .ok (.iconst 1, 1) := dk_4 (dk_at dksX2_write_0 17 rfl rfl)
theorem dX2_write_18 : decode cX2_write 18 = .ok (.bipush 10, 2) := dk_16 10 (dk_at dksX2_write_0 18 rfl rfl)
theorem dX2_write_20 : decode cX2_write 20 = .ok (.invokestatic 131, 3) := dk_184 0 131 (dk_at dksX2_write_0 20 rfl rfl)
theorem dX2_write_23 : decode cX2_write 23 = .ok (.aload_n 0, 1) := dk_42 (dk_at dksX2_write_0 23 rfl rfl)
theorem dX2_write_24 : decode cX2_write 24 = .ok (.getfield 26, 3) := dk_180 0 26 (dk_at dksX2_write_1 0 rfl rfl)
theorem dX2_write_27 : decode cX2_write 27 = .ok (.aload_n 1, 1) := dk_43 (dk_at dksX2_write_1 3 rfl rfl)
theorem dX2_write_28 : decode cX2_write 28 = .ok (.invokevirtual 65, 3) := dk_182 0 65 (dk_at dksX2_write_1 4 rfl rfl)
theorem dX2_write_31 : decode cX2_write 31 = .ok (.pop, 1) := dk_87 (dk_at dksX2_write_1 7 rfl rfl)
theorem dX2_write_32 : decode cX2_write 32 = .ok (.aload_n 0, 1) := dk_42 (dk_at dksX2_write_1 8 rfl rfl)
theorem dX2_write_33 : decode cX2_write 33 = .ok (.getfield 26, 3) := dk_180 0 26 (dk_at dksX2_write_1 9 rfl rfl)
theorem dX2_write_36 : decode cX2_write 36 = .ok (.invokevirtual 161, 3) := dk_182 0 161 (dk_at dksX2_write_1 12 rfl rfl)
theorem dX2_write_39 : decode cX2_write 39 = .ok (.ireturn, 1) := dk_172 (dk_at dksX2_write_1 15 rfl rfl)
abbrev cX2_keep : ByteArray := prog_16_method_29_code
def yX2_keep : MethodName := ⟨RX2, "keep", "()I"⟩
def dkwX2_keep_1 : List UInt8 := [180, 0, 30, 42, 182, 0, 205, 182, 0, 65, 87, 42, 180, 0, 30, 182, 0, 161, 4, 100, 172]
abbrev dktX2_keep_1 : List UInt8 := dkwX2_keep_1 ++ []
def dkwX2_keep_0 : List UInt8 := [42, 180, 0, 30, 182, 0, 161, 8, 160, 0, 7, 4, 167, 0, 4, 3, 4, 8, 184, 0, 131, 42]
abbrev dktX2_keep_0 : List UInt8 := dkwX2_keep_0 ++ dktX2_keep_1
theorem dksX2_keep_0 : cX2_keep.data.toList.drop 0 = dktX2_keep_0 := by decide +kernel
theorem dksX2_keep_1 : cX2_keep.data.toList.drop 22 = dktX2_keep_1 := dk_seg dksX2_keep_0 22 rfl rfl
theorem dX2_keep_0 : decode cX2_keep 0 = .ok (.aload_n 0, 1) := dk_42 (dk_at dksX2_keep_0 0 rfl rfl)
theorem dX2_keep_1 : decode cX2_keep 1 = .ok (.getfield 30, 3) := dk_180 0 30 (dk_at dksX2_keep_0 1 rfl rfl)
theorem dX2_keep_4 : decode cX2_keep 4 = .ok (.invokevirtual 161, 3) := dk_182 0 161 (dk_at dksX2_keep_0 4 rfl rfl)
theorem dX2_keep_7 : decode cX2_keep 7 = .ok (.iconst 5, 1) := dk_8 (dk_at dksX2_keep_0 7 rfl rfl)
theorem dX2_keep_8 : decode cX2_keep 8 = .ok (.if_icmp .ne 7, 3) := dk_160 0 7 (dk_at dksX2_keep_0 8 rfl rfl)
theorem dX2_keep_11 : decode cX2_keep 11 = .ok (.iconst 1, 1) := dk_4 (dk_at dksX2_keep_0 11 rfl rfl)
theorem dX2_keep_12 : decode cX2_keep 12 = .ok (.goto 4, 3) := dk_167 0 4 (dk_at dksX2_keep_0 12 rfl rfl)
theorem dX2_keep_15 : decode cX2_keep 15 = .ok (.iconst 0, 1) := dk_3 (dk_at dksX2_keep_0 15 rfl rfl)
theorem dX2_keep_16 : decode cX2_keep 16 = .ok (.iconst 1, 1) := dk_4 (dk_at dksX2_keep_0 16 rfl rfl)
theorem dX2_keep_17 : decode cX2_keep 17 = .ok (.iconst 5, 1) := dk_8 (dk_at dksX2_keep_0 17 rfl rfl)
theorem dX2_keep_18 : decode cX2_keep 18 = .ok (.invokestatic 131, 3) := dk_184 0 131 (dk_at dksX2_keep_0 18 rfl rfl)
theorem dX2_keep_21 : decode cX2_keep 21 = .ok (.aload_n 0, 1) := dk_42 (dk_at dksX2_keep_0 21 rfl rfl)
theorem dX2_keep_22 : decode cX2_keep 22 = .ok (.getfield 30, 3) := dk_180 0 30 (dk_at dksX2_keep_1 0 rfl rfl)
theorem dX2_keep_25 : decode cX2_keep 25 = .ok (.aload_n 0, 1) := dk_42 (dk_at dksX2_keep_1 3 rfl rfl)
theorem dX2_keep_26 : decode cX2_keep 26 = .ok (.invokevirtual 205, 3) := dk_182 0 205 (dk_at dksX2_keep_1 4 rfl rfl)
theorem dX2_keep_29 : decode cX2_keep 29 = .ok (.invokevirtual 65, 3) := dk_182 0 65 (dk_at dksX2_keep_1 7 rfl rfl)
theorem dX2_keep_32 : decode cX2_keep 32 = .ok (.pop, 1) := dk_87 (dk_at dksX2_keep_1 10 rfl rfl)
theorem dX2_keep_33 : decode cX2_keep 33 = .ok (.aload_n 0, 1) := dk_42 (dk_at dksX2_keep_1 11 rfl rfl)
theorem dX2_keep_34 : decode cX2_keep 34 = .ok (.getfield 30, 3) := dk_180 0 30 (dk_at dksX2_keep_1 12 rfl rfl)
theorem dX2_keep_37 : decode cX2_keep 37 = .ok (.invokevirtual 161, 3) := dk_182 0 161 (dk_at dksX2_keep_1 15 rfl rfl)
theorem dX2_keep_40 : decode cX2_keep 40 = .ok (.iconst 1, 1) := dk_4 (dk_at dksX2_keep_1 18 rfl rfl)
theorem dX2_keep_41 : decode cX2_keep 41 = .ok (.isub, 1) := dk_100 (dk_at dksX2_keep_1 19 rfl rfl)
theorem dX2_keep_42 : decode cX2_keep 42 = .ok (.ireturn, 1) := dk_172 (dk_at dksX2_keep_1 20 rfl rfl)
/-- a note more -/
def rWr (R : Nat → Int32) (k f t x w : Int32) : Nat → Int32 := upd (upd (upd (upd (upd (upd R (72 + 5 * rN R + 0) k) (72 + 5 * rN R + 1) f) (72 + 5 * rN R + 2) t) (72 + 5 * rN R + 3) x) (72 + 5 * rN R + 4) w) 1 (nI (rN R + 1))
theorem rWr_N {R : Nat → Int32} {k f t x w : Int32} (h : rN R < 100) : rN (rWr R k f t x w) = rN R + 1 := by
  show nn (rWr R k f t x w 1) = _
  unfold rWr; rw [upd_at, nn_nI (by omega)]
theorem rWr_o {R : Nat → Int32} {k f t x w : Int32} {q : Nat} (h1 : q ≠ 1) (h : q < 72 + 5 * rN R ∨ 72 + 5 * rN R + 5 ≤ q) : rWr R k f t x w q = R q := by
  unfold rWr; rw [upd_ne h1, upd_ne (by omega), upd_ne (by omega), upd_ne (by omega), upd_ne (by omega), upd_ne (by omega)]
theorem rWr_0 {R : Nat → Int32} {k f t x w : Int32} : rWr R k f t x w (72 + 5 * rN R + 0) = k := by
  unfold rWr; rw [upd_ne (by omega), upd_ne (by omega), upd_ne (by omega), upd_ne (by omega), upd_ne (by omega), upd_at]
theorem rWr_1 {R : Nat → Int32} {k f t x w : Int32} : rWr R k f t x w (72 + 5 * rN R + 1) = f := by
  unfold rWr; rw [upd_ne (by omega), upd_ne (by omega), upd_ne (by omega), upd_ne (by omega), upd_at]
theorem rWr_2 {R : Nat → Int32} {k f t x w : Int32} : rWr R k f t x w (72 + 5 * rN R + 2) = t := by
  unfold rWr; rw [upd_ne (by omega), upd_ne (by omega), upd_ne (by omega), upd_at]
theorem rWr_3 {R : Nat → Int32} {k f t x w : Int32} : rWr R k f t x w (72 + 5 * rN R + 3) = x := by
  unfold rWr; rw [upd_ne (by omega), upd_ne (by omega), upd_at]
theorem rWr_4 {R : Nat → Int32} {k f t x w : Int32} : rWr R k f t x w (72 + 5 * rN R + 4) = w := by
  unfold rWr; rw [upd_ne (by omega), upd_at]
theorem rWr_ok {R : Nat → Int32} {k f t x w : Int32} (h1 : inR k 0 2 = true) (h2 : isSp f t = true) (h3 : isNu k x = true) (h4 : inR w 0 20 = true) : NoteOk (rWr R k f t x w) (rN R) := by
  unfold NoteOk; rw [rWr_0, rWr_1, rWr_2, rWr_3, rWr_4]; exact ⟨h1, h2, h3, h4⟩
/-- a version more -/
def rKp (R : Nat → Int32) : Nat → Int32 := fun q => if q = 2 then nI (rV R + 1) else if 122 + 64 * rV R ≤ q ∧ q < 122 + 64 * rV R + 32 then R (8 + (q - (122 + 64 * rV R))) else if 122 + 64 * rV R + 32 ≤ q ∧ q < 122 + 64 * rV R + 64 then R (40 + (q - (122 + 64 * rV R + 32))) else R q
theorem rKp_o {R : Nat → Int32} {q : Nat} (h1 : q ≠ 2) (h : q < 122 + 64 * rV R ∨ 122 + 64 * rV R + 64 ≤ q) : rKp R q = R q := by
  unfold rKp; rw [if_neg h1, if_neg (by omega), if_neg (by omega)]
theorem rKp_n {R : Nat → Int32} {c : Nat} (h : c < 32) : rKp R (122 + 64 * rV R + c) = R (8 + c) := by
  unfold rKp; rw [if_neg (by omega), if_pos (by omega)]; congr 1; omega
theorem rKp_c {R : Nat → Int32} {c : Nat} (h : c < 32) : rKp R (122 + 64 * rV R + 32 + c) = R (40 + c) := by
  unfold rKp; rw [if_neg (by omega), if_neg (by omega), if_pos (by omega)]; congr 1; omega
theorem rKp_V {R : Nat → Int32} (h : rV R < 100) : rV (rKp R) = rV R + 1 := by
  show nn (if (2 : Nat) = 2 then nI (rV R + 1) else _) = _
  rw [if_pos rfl, nn_nI (by omega)]
theorem nI_is {n m : Nat} (h : nI n = nI m) (h1 : n < 2 ^ 31) (h2 : m < 2 ^ 31) : n = m := by have := congrArg nn h; rwa [nn_nI h1, nn_nI h2] at this
theorem u_write (l : Launch) (G : GE) (h0 h : AH) (a : Nat) (R : Nat → Int32) (m0 : RulerM G h0 h a R) (b : Nat) (k f t x tk : Int32) (fb : h b = none) (hk : inR k 0 2 = true) (hs : isSp f t = true) (hn : isNu k x = true) (ht : inR tk 0 20 = true) : GM l G yX2_write (ws_ yX2_write cX2_write 2 (some .int)) 12 [.ref a, .ref b] (up h b (ob 6 [.ref (G.ga (kd k)), .int f, .int t, .int x, .int tk])) (140) (PX (fun u h' => rN R ≠ 10 ∧ u = .int (nI (rN R + 1)) ∧ RulerM G h0 h' a (rWr R k f t x tk)) (fun c q h' => rN R = 10 ∧ RefX G h0 1 10 c q h')) := by
  refine GM.of (by decide) (dk rfl) ?_
  intro X eL eG eh ok fn
  subst eL; subst eG
  show GW X _ 0 0 [some (.ref a), some (.ref b)] []
  obtain ⟨rt, cl, nl, nd, nc, nm, nf, vl, vd, vc, vm, vf, y0, z0⟩ := m0
  obtain ⟨y1, z1⟩ := RF.new (e := ob 6 [.ref (X.G.ga (kd k)), .int f, .int t, .int x, .int tk]) y0 z0 fb
  have mq101 : RQ X.G (up h b (ob 6 [.ref (X.G.ga (kd k)), .int f, .int t, .int x, .int tk])) (fun q => h0 q = none) a R rt cl [.ref nl, .ref vl, .int (R 3), .int (R 4), .int (R 5), .int (R 0), .int (R 6), .int (R 7)] := y1.1
  obtain ⟨ra1, rT1, cf1, rc1, rf1⟩ := id mq101
  have nca1 : cl ≠ a := fun z_ => by have w_ := rc1; rw [z_, ra1] at w_; cases w_
  have nb : (up h b (ob 6 [.ref (X.G.ga (kd k)), .int f, .int t, .int x, .int tk])) b = some (ob 6 [.ref (X.G.ga (kd k)), .int f, .int t, .int x, .int tk]) := up_self
  have hN10 : rN R ≤ 10 := y1.2.2.2.2.2.1.1.2
  have cN7 := y1.2.2.2.2.2.2.1
  have hd : ∀ q, q < rN R → nf q ≠ some b := fun q hq z_ => by obtain ⟨b9, w1, w2⟩ := y0.2.2.1 q hq; rw [z_] at w1; cases w1; unfold NoteAt at w2; rw [fb] at w2; cases w2
  refine g_aload_n ok dX2_write_0 rfl ?_
  refine g_get ok ck_X2 2 q246 (Or.inl rfl) (by decide) dX2_write_1 (Rd.h (ra1)) rfl ?_
  refine g_callV ok q1212 q1119 q1120 q70 q1121 (Recv.ob ok gc_J2 (Rd.h y1.2.1.1)) dX2_write_4 (al_size X.l X.G _ nl nd nc (rN R) nm nf y1.2.1) (nm_ (by decide : nmb _ 0 = true)) (dl rfl) (dk rfl) rfl rfl (dk rfl) (by omega) (kV ?_) xV
  refine g_bipush ok (v := 10) dX2_write_7 rfl ?_
  refine g_icmp_ne ok (tgt := 16) dX2_write_9 (by decide) (fun c9 => ?_) (fun c9 => ?_)
  · refine g_iconst ok (v := 0) dX2_write_16 rfl ?_
    refine g_iconst ok (v := 1) dX2_write_17 rfl ?_
    refine g_bipush ok (v := 10) dX2_write_18 rfl ?_
    refine g_callSN ok q1070 q1071 q61 q1072 dX2_write_20 (x_refuse0 X.l X.G _ 1 10) (nm_ (by decide : nmb _ 3 = true)) (dl rfl) (dk rfl) rfl rfl (dk rfl) (by omega) (kN ?_) xN
    refine g_aload_n ok dX2_write_23 rfl ?_
    refine g_get ok ck_X2 2 q246 (Or.inl rfl) (by decide) dX2_write_24 (Rd.h (ra1)) rfl ?_
    refine g_aload_n ok dX2_write_27 rfl ?_
    refine g_khn (ok.tab.kst.2.1) (fun hE7 => ?_)
    refine g_callV ok q848 q849 q850 q70 q851 (Recv.ob ok gc_J2 (Rd.h y1.2.1.1)) dX2_write_28 (al_add X.l X.G _ nl nd nc (rN R) nm nf y1.2.1 b 6 _ _ gc_X10 (by decide) (Rd.h nb) (by omega) (els_note y1) (fun z_ => by have w_ := y1.2.1.1; rw [← z_, nb] at w_; cases w_)) (nm_ (by decide : nmb _ 1 = true)) (dl rfl) (dk rfl) rfl rfl (dk rfl) (by omega) (kR fun u6 h6 ⟨e6, k6⟩ => ?_) xR
    subst e6
    refine g_khn (ok.tab.kst.2.1) (fun hE6 => ?_)
    have m6 := RulerM.addN (S := rWr R k f t x tk) y1 z1 (by have : ¬ rN R = 10 := fun e => c9 (congrArg nI e); omega) k6 hE7 hE6 (by unfold rWr; exact upd_at) (fun q hq hr => rWr_o hq hr) (by unfold NoteAt; rw [rWr_0, rWr_1, rWr_2, rWr_3, rWr_4]; exact nb) (KeepAll.nn0 z0.1 fb) hd (rWr_ok hk hs hn ht)
    obtain ⟨rt, cl, nl, nd, nc, nm, nf, vl, vd, vc, vm, vf, y102, z102⟩ := id m6
    have mq103 : RQ X.G h6 (fun q => h0 q = none) a (rWr R k f t x tk) rt cl [.ref nl, .ref vl, .int ((rWr R k f t x tk) 3), .int ((rWr R k f t x tk) 4), .int ((rWr R k f t x tk) 5), .int ((rWr R k f t x tk) 0), .int ((rWr R k f t x tk) 6), .int ((rWr R k f t x tk) 7)] := y102.1
    obtain ⟨ra2, rT2, cf2, rc2, rf2⟩ := id mq103
    have nca2 : cl ≠ a := fun z_ => by have w_ := rc2; rw [z_, ra2] at w_; cases w_
    refine g_pop ok dX2_write_31 rfl ?_
    refine g_aload_n ok dX2_write_32 rfl ?_
    refine g_get ok ck_X2 2 q246 (Or.inl rfl) (by decide) dX2_write_33 (Rd.h (ra2)) rfl ?_
    refine g_callV ok q1212 q1119 q1120 q70 q1121 (Recv.ob ok gc_J2 (Rd.h y102.2.1.1)) dX2_write_36 (al_size X.l X.G _ nl nd nc (rN (rWr R k f t x tk)) nm nf y102.2.1) (nm_ (by decide : nmb _ 0 = true)) (dl rfl) (dk rfl) rfl rfl (dk rfl) (by omega) (kV ?_) xV
    obtain ⟨y104, z104⟩ := RulerM.chg y102 z102 (Chg.refl _ _ _ _) mq103.2.1
    exact g_iret ok fn rfl dX2_write_39 (Or.inl ⟨_, rfl, fun e => c9 (congrArg nI e), congrArg Value.int (congrArg nI (rWr_N (by omega))), ⟨rt, cl, nl, nd, nc, nm, nf, vl, vd, vc, vm, vf, y104, z104⟩⟩) (by omega)
  · refine g_iconst ok (v := 1) dX2_write_12 rfl ?_
    refine g_goto ok dX2_write_13 (tgt := 17) (by decide) ?_
    refine g_iconst ok (v := 1) dX2_write_17 rfl ?_
    refine g_bipush ok (v := 10) dX2_write_18 rfl ?_
    obtain ⟨y102, z102⟩ := RulerM.chg y1 z1 (Chg.refl _ _ _ _) mq101.2.1
    refine g_callSN ok q1070 q1071 q61 q1072 dX2_write_20 (x_refuse1 X.l X.G _ 1 10) (nm_ (by decide : nmb _ 3 = true)) (dl rfl) (dk rfl) rfl rfl (dk rfl) (by omega) kTR (xTR fun qx ux wx fx kx => ?_)
    exact g_out ok fn (fun z hz => nomatch hz) (Or.inr ⟨_, _, rfl, nI_is (m := 10) c9 (by omega) (by omega), RefX.mk z102.1 fx kx⟩) (by omega)
theorem u_keep (l : Launch) (G : GE) (h0 h : AH) (a : Nat) (R : Nat → Int32) (m0 : RulerM G h0 h a R) : GM l G yX2_keep (ws_ yX2_keep cX2_keep 1 (some .int)) 14 [.ref a] (h) (1750) (PX (fun u h' => rV R ≠ 5 ∧ u = .int (nI (rV R)) ∧ RulerM G h0 h' a (rKp R)) (fun c q h' => rV R = 5 ∧ RefX G h0 1 5 c q h')) := by
  refine GM.of (by decide) (dk rfl) ?_
  intro X eL eG eh ok fn
  subst eL; subst eG
  show GW X _ 0 0 [some (.ref a)] []
  obtain ⟨rt, cl, nl, nd, nc, nm, nf, vl, vd, vc, vm, vf, y1, z1⟩ := id m0
  have mq2 : RQ X.G h (fun q => h0 q = none) a R rt cl [.ref nl, .ref vl, .int (R 3), .int (R 4), .int (R 5), .int (R 0), .int (R 6), .int (R 7)] := y1.1
  obtain ⟨ra1, rT1, cf1, rc1, rf1⟩ := id mq2
  have nca1 : cl ≠ a := fun z_ => by have w_ := rc1; rw [z_, ra1] at w_; cases w_
  have hV5 : rV R ≤ 5 := y1.2.2.2.2.2.1.2.1.2
  have iR := y1.2.2.2.2.2.1
  refine g_aload_n ok dX2_keep_0 rfl ?_
  refine g_get ok ck_X2 3 q248 (Or.inl rfl) (by decide) dX2_keep_1 (Rd.h (ra1)) rfl ?_
  refine g_callV ok q1212 q1119 q1120 q70 q1121 (Recv.ob ok gc_J2 (Rd.h y1.2.2.2.1.1)) dX2_keep_4 (al_size X.l X.G _ vl vd vc (rV R) vm vf y1.2.2.2.1) (nm_ (by decide : nmb _ 0 = true)) (dl rfl) (dk rfl) rfl rfl (dk rfl) (by omega) (kV ?_) xV
  refine g_iconst ok (v := 5) dX2_keep_7 rfl ?_
  refine g_icmp_ne ok (tgt := 15) dX2_keep_8 (by decide) (fun c8 => ?_) (fun c8 => ?_)
  · refine g_iconst ok (v := 0) dX2_keep_15 rfl ?_
    refine g_iconst ok (v := 1) dX2_keep_16 rfl ?_
    refine g_iconst ok (v := 5) dX2_keep_17 rfl ?_
    refine g_callSN ok q1070 q1071 q61 q1072 dX2_keep_18 (x_refuse0 X.l X.G _ 1 5) (nm_ (by decide : nmb _ 3 = true)) (dl rfl) (dk rfl) rfl rfl (dk rfl) (by omega) (kN ?_) xN
    refine g_aload_n ok dX2_keep_21 rfl ?_
    refine g_get ok ck_X2 3 q248 (Or.inl rfl) (by decide) dX2_keep_22 (Rd.h (ra1)) rfl ?_
    refine g_aload_n ok dX2_keep_25 rfl ?_
    obtain ⟨y3, z3⟩ := RulerM.chg y1 z1 (Chg.refl _ _ _ _) mq2.2.1
    have zc5 := y3.1.2.2
    obtain ⟨cf5, hc5, -⟩ := zc5
    refine g_callV ok q1470 q1471 q1472 q62 q1473 (Recv.ob ok gc_X2 (Rd.h (ra1))) dX2_keep_26 (x_version X.l X.G _ (fun q => h0 q = none) a R rt cl nl vl (R 3) (R 4) (R 5) (R 0) (R 6) (R 7) mq2) (nm_ (by decide : nmb _ 0 = true)) (dl rfl) (dk rfl) rfl rfl (dk rfl) (by omega) (kR fun u5 h5 ⟨b2, na2, ca2, wn2, wc2, e5, f1, f2, f3, o1, o2, o3, o4, q5, g5⟩ => ?_) xR
    subst e5
    obtain ⟨ra2, rT2, cf2, rc2, rf2⟩ := id q5
    have nca2 : cl ≠ a := fun z_ => by have w_ := rc2; rw [z_, ra2] at w_; cases w_
    obtain ⟨y4, z4⟩ := RulerM.chg y3 z3 ((Chg.refl _ _ _ _).trans g5) q5.2.1
    have cN7 := y4.2.2.2.2.2.2.2
    refine g_khn (ok.tab.kst.2.1) (fun hE7 => ?_)
    have w18 := o1
    refine g_callV ok q848 q849 q850 q70 q851 (Recv.ob ok gc_J2 (Rd.h y4.2.2.2.1.1)) dX2_keep_29 (al_add X.l X.G _ vl vd vc (rV R) vm vf y4.2.2.2.1 b2 8 _ _ gc_X12 (by decide) (Rd.h o1) (by omega) (els_vers y4) (fun z_ => by have w_ := y4.2.2.2.1.1; rw [← z_, o1] at w_; cases w_)) (nm_ (by decide : nmb _ 1 = true)) (dl rfl) (dk rfl) rfl rfl (dk rfl) (by omega) (kR fun u6 h6 ⟨e6, k6⟩ => ?_) xR
    subst e6
    refine g_khn (ok.tab.kst.2.1) (fun hE6 => ?_)
    have hd : ∀ na ca, h5 b2 = some (ob 8 [.ref na, .ref ca]) → na ≠ cl ∧ ca ≠ cl := fun n9 c9 z_ => by have q9 := w18.symm.trans z_; cases q9; exact ⟨fun z9 => (by rw [z9, hc5] at f2; cases f2), fun z9 => (by rw [z9, hc5] at f3; cases f3)⟩
    have vb : VersAt X.G h5 b2 (rKp R) (rV R) := ⟨na2, ca2, wn2, wc2, o1, o2, o3, fun c hc => by rw [rKp_n hc, rKp_c hc]; exact o4 c hc⟩
    have m6 := RulerM.addV (S := rKp R) y4 z4 (by have : ¬ rV R = 5 := fun e => c8 (congrArg nI e); omega) k6 hE7 hE6 (by unfold rKp; rw [if_pos rfl]) (fun q hq hr => rKp_o hq hr) vb hd (fun c hc => by rw [rKp_n hc, rKp_c hc]; exact ⟨iR.2.2.1 c hc, iR.2.2.2.1 c hc⟩)
    obtain ⟨rt, cl, nl, nd, nc, nm, nf, vl, vd, vc, vm, vf, y5, z5⟩ := id m6
    have mq6 : RQ X.G h6 (fun q => h0 q = none) a (rKp R) rt cl [.ref nl, .ref vl, .int ((rKp R) 3), .int ((rKp R) 4), .int ((rKp R) 5), .int ((rKp R) 0), .int ((rKp R) 6), .int ((rKp R) 7)] := y5.1
    obtain ⟨ra3, rT3, cf3, rc3, rf3⟩ := id mq6
    have nca3 : cl ≠ a := fun z_ => by have w_ := rc3; rw [z_, ra3] at w_; cases w_
    refine g_pop ok dX2_keep_32 rfl ?_
    refine g_aload_n ok dX2_keep_33 rfl ?_
    refine g_get ok ck_X2 3 q248 (Or.inl rfl) (by decide) dX2_keep_34 (Rd.h (ra3)) rfl ?_
    refine g_callV ok q1212 q1119 q1120 q70 q1121 (Recv.ob ok gc_J2 (Rd.h y5.2.2.2.1.1)) dX2_keep_37 (al_size X.l X.G _ vl vd vc (rV (rKp R)) vm vf y5.2.2.2.1) (nm_ (by decide : nmb _ 0 = true)) (dl rfl) (dk rfl) rfl rfl (dk rfl) (by omega) (kV ?_) xV
    refine g_iconst ok (v := 1) dX2_keep_40 rfl ?_
    refine g_isub ok dX2_keep_41 ?_
    obtain ⟨y7, z7⟩ := RulerM.chg y5 z5 (Chg.refl _ _ _ _) mq6.2.1
    exact g_iret ok fn rfl dX2_keep_42 (Or.inl ⟨_, rfl, fun e => c8 (congrArg nI e), congrArg Value.int (by rw [rKp_V (by omega), nI_pred]), ⟨rt, cl, nl, nd, nc, nm, nf, vl, vd, vc, vm, vf, y7, z7⟩⟩) (by omega)
  · refine g_iconst ok (v := 1) dX2_keep_11 rfl ?_
    refine g_goto ok dX2_keep_12 (tgt := 16) (by decide) ?_
    refine g_iconst ok (v := 1) dX2_keep_16 rfl ?_
    refine g_iconst ok (v := 5) dX2_keep_17 rfl ?_
    obtain ⟨y3, z3⟩ := RulerM.chg y1 z1 (Chg.refl _ _ _ _) mq2.2.1
    refine g_callSN ok q1070 q1071 q61 q1072 dX2_keep_18 (x_refuse1 X.l X.G _ 1 5) (nm_ (by decide : nmb _ 3 = true)) (dl rfl) (dk rfl) rfl rfl (dk rfl) (by omega) kTR (xTR fun qx ux wx fx kx => ?_)
    exact g_out ok fn (fun z hz => nomatch hz) (Or.inr ⟨_, _, rfl, nI_is (m := 5) c8 (by omega) (by omega), RefX.mk z3.1 fx kx⟩) (by omega)
