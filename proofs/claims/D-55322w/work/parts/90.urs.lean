/-! the SpanRuler: undo, save, restore -/
set_option maxRecDepth 100000
abbrev cX1_undo : ByteArray := prog_1_method_60_code
def yX1_undo : MethodName := ⟨RX1, "undo", "()I"⟩
def dkwX1_undo_2 : List UInt8 := [172]
abbrev dktX1_undo_2 : List UInt8 := dkwX1_undo_2 ++ []
def dkwX1_undo_1 : List UInt8 := [180, 0, 133, 182, 0, 148, 4, 100, 182, 0, 152, 192, 0, 123, 181, 0, 126, 42, 180, 0, 133, 182, 0, 148]
abbrev dktX1_undo_1 : List UInt8 := dkwX1_undo_1 ++ dktX1_undo_2
def dkwX1_undo_0 : List UInt8 := [42, 180, 0, 133, 182, 0, 148, 158, 0, 7, 4, 167, 0, 4, 3, 184, 1, 30, 42, 42, 180, 0, 133, 42]
abbrev dktX1_undo_0 : List UInt8 := dkwX1_undo_0 ++ dktX1_undo_1
theorem dksX1_undo_0 : cX1_undo.data.toList.drop 0 = dktX1_undo_0 := by decide +kernel
theorem dksX1_undo_1 : cX1_undo.data.toList.drop 24 = dktX1_undo_1 := dk_seg dksX1_undo_0 24 rfl rfl
theorem dksX1_undo_2 : cX1_undo.data.toList.drop 48 = dktX1_undo_2 := dk_seg dksX1_undo_1 24 rfl rfl
theorem dX1_undo_0 : decode cX1_undo 0 = .ok (.aload_n 0, 1) := dk_42 (dk_at dksX1_undo_0 0 rfl rfl)
theorem dX1_undo_1 : decode cX1_undo 1 = .ok (.getfield 133, 3) := dk_180 0 133 (dk_at dksX1_undo_0 1 rfl rfl)
theorem dX1_undo_4 : decode cX1_undo 4 = .ok (.invokevirtual 148, 3) := dk_182 0 148 (dk_at dksX1_undo_0 4 rfl rfl)
theorem dX1_undo_7 : decode cX1_undo 7 = .ok (.ifCond .le 7, 3) := dk_158 0 7 (dk_at dksX1_undo_0 7 rfl rfl)
theorem dX1_undo_10 : decode cX1_undo 10 = .ok (.iconst 1, 1) := dk_4 (dk_at dksX1_undo_0 10 rfl rfl)
theorem dX1_undo_11 : decode cX1_undo 11 = .ok (.goto 4, 3) := dk_167 0 4 (dk_at dksX1_undo_0 11 rfl rfl)
theorem dX1_undo_14 : decode cX1_undo 14 = .ok (.iconst 0, 1) := dk_3 (dk_at dksX1_undo_0 14 rfl rfl)
theorem dX1_undo_15 : decode cX1_undo 15 = .ok (.invokestatic 286, 3) := dk_184 1 30 (dk_at dksX1_undo_0 15 rfl rfl)
theorem dX1_undo_18 : decode cX1_undo 18 = .ok (.aload_n 0, 1) := dk_42 (dk_at dksX1_undo_0 18 rfl rfl)
theorem dX1_undo_19 : decode cX1_undo 19 = .ok (.aload_n 0, 1) := dk_42 (dk_at dksX1_undo_0 19 rfl rfl)
theorem dX1_undo_20 : decode cX1_undo 20 = .ok (.getfield 133, 3) := dk_180 0 133 (dk_at dksX1_undo_0 20 rfl rfl)
theorem dX1_undo_23 : decode cX1_undo 23 = .ok (.aload_n 0, 1) := dk_42 (dk_at dksX1_undo_0 23 rfl rfl)
theorem dX1_undo_24 : decode cX1_undo 24 = .ok (.getfield 133, 3) := dk_180 0 133 (dk_at dksX1_undo_1 0 rfl rfl)
theorem dX1_undo_27 : decode cX1_undo 27 = .ok (.invokevirtual 148, 3) := dk_182 0 148 (dk_at dksX1_undo_1 3 rfl rfl)
theorem dX1_undo_30 : decode cX1_undo 30 = .ok (.iconst 1, 1) := dk_4 (dk_at dksX1_undo_1 6 rfl rfl)
theorem dX1_undo_31 : decode cX1_undo 31 = .ok (.isub, 1) := dk_100 (dk_at dksX1_undo_1 7 rfl rfl)
theorem dX1_undo_32 : decode cX1_undo 32 = .ok (.invokevirtual 152, 3) := dk_182 0 152 (dk_at dksX1_undo_1 8 rfl rfl)
theorem dX1_undo_35 : decode cX1_undo 35 = .ok (.checkcast 123, 3) := dk_192 0 123 (dk_at dksX1_undo_1 11 rfl rfl)
theorem dX1_undo_38 : decode cX1_undo 38 = .ok (.putfield 126, 3) := dk_181 0 126 (dk_at dksX1_undo_1 14 rfl rfl)
theorem dX1_undo_41 : decode cX1_undo 41 = .ok (.aload_n 0, 1) := dk_42 (dk_at dksX1_undo_1 17 rfl rfl)
theorem dX1_undo_42 : decode cX1_undo 42 = .ok (.getfield 133, 3) := dk_180 0 133 (dk_at dksX1_undo_1 18 rfl rfl)
theorem dX1_undo_45 : decode cX1_undo 45 = .ok (.invokevirtual 148, 3) := dk_182 0 148 (dk_at dksX1_undo_1 21 rfl rfl)
theorem dX1_undo_48 : decode cX1_undo 48 = .ok (.ireturn, 1) := dk_172 (dk_at dksX1_undo_2 0 rfl rfl)
theorem q123 : (Jvm.Cond.classLink "SpanRuler" (123 : Nat) "SpanRuler$Ruler") ∈ lw_all := lw_g (lw_at lw_m1 63 rfl) rfl
def Sm7 (s s' : MS) : Prop := s'.I 8 = s.I 8 ∧ s'.I 10 = s.I 10 ∧ s'.I 14 = s.I 14 ∧ s'.I 15 = s.I 15 ∧ s'.I 16 = s.I 16 ∧ s'.A 7 = s.A 7 ∧ s'.A 9 = s.A 9
theorem SRx.setr {G : GE} {own own' : Nat → Nat} {hr h : AH} {x : Nat} {s s' : MS} {ru ru' : Nat} {sv sv' : Value} {hl hd hc : Nat} {hm : Int32} {hf : Nat → Option Nat} {inp ln : Nat} {bt rf : Value} (S : SRx G own hr h x s ru sv hl hd hc hm hf inp ln bt rf) (T : SRs G own' hr s' ru' sv' hf) (u : s'.I 4 = s.I 4) (e : Sm7 s s') :
    SRx G own' hr (up h x (ob 0 [.ref ru', sv', .ref hl, .ref inp, .ref ln, .int (s.I 10), bt, rf])) x s' ru' sv' hl hd hc hm hf inp ln bt rf := by
  obtain ⟨s1, s2, s3, s4, s5, s6, s7, s8, s9, s10, s11, s12⟩ := S
  obtain ⟨i8, i10, i14, i15, i16, a7, a9⟩ := e
  have mo : ∀ z ci l, h z = some (ob ci l) → ci ≠ 0 → up h x (ob 0 [.ref ru', sv', .ref hl, .ref inp, .ref ln, .int (s.I 10), bt, rf]) z = some (ob ci l) := fun z ci l v n => (up_ne (ob_ne s3 v (Ne.symm n))).trans v
  have mr : ∀ z y, h z = some (.inl y) → up h x (ob 0 [.ref ru', sv', .ref hl, .ref inp, .ref ln, .int (s.I 10), bt, rf]) z = some (.inl y) := fun z y v => (up_ne (ob_na s3 v)).trans v
  have eu : mU s' = mU s := by unfold mU; rw [u]
  refine ⟨s1.put s2, s2, ?_, s4, s5, ?_, s7, ?_, T, (s10.mv (fun q n f v => mr q _ v)).congr a9 i10, (s11.mv (fun q l v => mo q 14 l v (by decide)) (fun q n f _ v => mr q _ v)).congr a7 i8, (s12.mv (fun q ci l v z => mo q ci l v (by omega))).congr i14 i15 i16⟩
  · rw [up_self, i10]
  · rw [eu]; exact s6.mv (fun q l v => mo q 12 l v (by decide)) (fun q n f v => mr q _ v)
  · unfold mUo; rw [eu, u]; exact s8
theorem SRx.setl {G : GE} {own : Nat → Nat} {hr h h' : AH} {x : Nat} {s s' : MS} {ru : Nat} {sv : Value} {hl hd hc : Nat} {hm : Int32} {hf : Nat → Option Nat} {inp ln : Nat} {bt rf : Value} (S : SRx G own hr h x s ru sv hl hd hc hm hf inp ln bt rf) (hE : h (G.ga "E0") = none) (k : KeepA h h' hl hd) {hm' : Int32} {g : Nat → Option Nat} (al : AL G h' hl hd hc (mU s') hm' g) (T : SRs G own hr s' ru sv g) (u : mUo s') (e : Sm7 s s') :
    SRx G own hr h' x s' ru sv hl hd hc hm' g inp ln bt rf := by
  obtain ⟨r1, r2, r3, r4, r5⟩ := S.rest hE k
  obtain ⟨i8, i10, i14, i15, i16, a7, a9⟩ := e
  exact ⟨r1, S.2.1, by rw [i10]; exact r2, S.2.2.2.1, S.2.2.2.2.1, al, S.2.2.2.2.2.2.1, u, T, r3.congr a9 i10, r4.congr a7 i8, r5.congr i14 i15 i16⟩
/-- one ruler, known by its address, was asked -/
theorem SRs.asked {G : GE} {own : Nat → Nat} {hr hr' : AH} {s : MS} {ru : Nat} {sv : Value} {hf : Nat → Option Nat} {c : Nat} {R : Nat → Int32} {rt cl nl nd nc vl vd vc : Nat} {nm vm : Int32} {nf vf : Nat → Option Nat} (T : SRs G own hr s ru sv hf) (y : Rul G hr (fun q => own q = c) c R rt cl nl nd nc nm nf vl vd vc vm vf) {ro : List Value} (q : RQ G hr' (fun q => own q = c) c R rt cl ro) (ch : Chg (fun q => own q = c) 0 32 hr hr') (h1 : ru = c → s.A 0 = R) (h2 : ∀ j, j < mU s → hf j ≠ some c) (h3 : sv = .ref c → s.A 5 = R) : SRs G own hr' s ru sv hf := by
  have y2 : RulerAt G hr' (fun q => own q = c) c R := ⟨_, _, _, _, _, _, _, _, _, _, _, _, y.chg ch q.2.1⟩
  obtain ⟨t1, t2, t3, t4⟩ := T
  have mv : ∀ (a : Nat) (T : Nat → Int32), RulerAt G hr (fun q => own q = a) a T → (a = c → T = R) → RulerAt G hr' (fun q => own q = a) a T := fun a T w z => by
    by_cases e : a = c
    · have := z e
      subst e; rw [this]; exact y2
    · exact w.chgOther ch (fun q u v => e (v.symm.trans u))
  refine ⟨⟨mv _ _ t1.1 h1, t1.2⟩, fun j hj => ?_, t3, ?_⟩
  · obtain ⟨a, a1, a2, a3, a4⟩ := t2 j hj
    exact ⟨a, a1, a2, mv _ _ a3 (fun e => absurd (by rw [a1, e]) (h2 j hj)), a4⟩
  · rcases t4 with a | ⟨a, a1, a2, a3, a4, a5, a6⟩
    · exact Or.inl a
    · exact Or.inr ⟨a, a1, a2, a3, a4, mv _ _ a5 (fun e => h3 (by rw [a1, e])), a6⟩
theorem SRs.undone {G : GE} {own : Nat → Nat} {hr : AH} {s s1 : MS} {ru : Nat} {sv : Value} {hf g : Nat → Option Nat} (T : SRs G own hr s ru sv hf) (u : mU s1 + 1 = mU s) (hg : ∀ j, j < mU s1 → g j = hf j) (a0 : s1.A 0 = s.A 0) (a3 : s1.A 3 = s.A 3) (a5 : s1.A 5 = s.A 5) (i6 : s1.I 6 = s.I 6) : SRs G own hr s1 ru sv g := by
  obtain ⟨t1, t2, t3, t4⟩ := T
  refine ⟨by rw [a0]; exact t1, fun j hj => ?_, fun i j hij hj => by rw [hg i (by omega), hg j hj]; exact t3 i j hij (by omega), ?_⟩
  · rw [hg j hj, a3]; exact t2 j (by omega)
  · rw [a5, i6]
    rcases t4 with a | ⟨a, b1, b2, b3, b4, b5, b6⟩
    · exact Or.inl a
    · exact Or.inr ⟨a, b1, b2, b3, fun j hj => by rw [hg j hj]; exact b4 j (by omega), b5, b6⟩
theorem SRs.cleared {G : GE} {own : Nat → Nat} {hr : AH} {s s1 : MS} {ru : Nat} {sv : Value} {hf : Nat → Option Nat} (T : SRs G own hr s ru sv hf) (a : s1.A = s.A) (i6 : s1.I 6 = s.I 6) (m : mU s1 = 0) (g : Nat → Option Nat) : SRs G own hr s1 ru sv g := by
  obtain ⟨t1, t2, t3, t4⟩ := T
  refine ⟨by rw [a]; exact t1, fun j hj => absurd hj (by rw [m]; omega), fun i j _ hj => absurd hj (by rw [m]; omega), ?_⟩
  rw [a, i6]
  rcases t4 with z | ⟨b, b1, b2, b3, b4, b5, b6⟩
  · exact Or.inl z
  · exact Or.inr ⟨b, b1, b2, b3, fun j hj => absurd hj (by rw [m]; omega), b5, b6⟩
theorem reS_A (s : MS) : (reS s).A = (cpl 0 0 5 0 442 0 (mI s 20 0)).A := by unfold reS; exact mI_A
theorem reS_I (s : MS) {i : Nat} (h : i ≠ 4) : (reS s).I i = (cpl 0 0 5 0 442 0 (mI s 20 0)).I i := by unfold reS; rw [mI_I, upd_ne h]
theorem reS_U (s : MS) : mU (reS s) = 0 := by unfold reS mU; rw [mI_I, upd_at]; rfl
theorem reS_4 (s : MS) : (reS s).I 4 = nI 0 := by unfold reS; rw [mI_I, upd_at]; rfl
theorem Sm7.ofI {s t : MS} (hA : t.A 7 = s.A 7 ∧ t.A 9 = s.A 9) (hI : ∀ i, 7 ≤ i → i < 17 → t.I i = s.I i) : Sm7 s t := ⟨hI 8 (by omega) (by omega), hI 10 (by omega) (by omega), hI 14 (by omega) (by omega), hI 15 (by omega) (by omega), hI 16 (by omega) (by omega), hA.1, hA.2⟩
theorem s_undo (l : Launch) (G : GE) (h : AH) (x : Nat) (s : MS) (S0 : SRAt G h x s) : GM l G yX1_undo (ws_ yX1_undo cX1_undo 1 (some .int)) 15 [.ref x] (h) (6) (SPost G x (ex1 NSEE) (mUndo s)) := by
  refine GM.of (by decide) (dk rfl) ?_
  intro X eL eG eh ok fn
  subst eL; subst eG
  show GW X _ 0 0 [some (.ref x)] []
  obtain ⟨own, hr, ru, sv, hl, hd, hc, hm, hf, inp, ln, bt, rf, S⟩ := S0
  obtain ⟨rt, cl, nl, nd, nc, nm, nf, vl, vd, vc, vm, vf, y⟩ := S.2.2.2.2.2.2.2.2.1.1.1
  have u6 := S.2.2.2.2.2.2.2.1.2
  refine g_khn (ok.tab.kst.2.1) (fun hE => ?_)
  refine g_aload_n ok dX1_undo_0 rfl ?_
  refine g_get ok ck_X1 2 q321 (Or.inl rfl) (by decide) dX1_undo_1 (Rd.h (S.2.2.1)) rfl ?_
  refine g_callV ok q1118 q1119 q1120 q70 q1121 (Recv.ob ok gc_J2 (Rd.h S.2.2.2.2.2.1.1)) dX1_undo_4 (al_size X.l X.G _ hl hd hc (mU s) _ _ S.2.2.2.2.2.1) (nm_ (by decide : nmb _ 0 = true)) (dl rfl) (dk rfl) rfl rfl (dk rfl) (by omega) (kV ?_) xV
  by_cases m0 : mU s = 0
  · rw [m0]
    refine g_if_le ok (tgt := 14) dX1_undo_7 (by decide) (fun _ => ?_) (fun c_ => absurd (by decide) c_)
    refine g_iconst ok (v := 0) dX1_undo_14 rfl ?_
    refine g_callS ok q1377 q1378 q61 q1379 dX1_undo_15 (x_chkE0 X.l X.G _) (nm_ (by decide : nmb _ 1 = true)) (dl rfl) (dk rfl) rfl rfl (dk rfl) (by omega) kT (xT fun qx fx kx => ?_)
    have pf : SPost X.G x (ex1 NSEE) (mUndo s) (.inr (NSEE, qx)) (up h qx (ob 21 [])) := by
      unfold mUndo; rw [if_pos m0]; exact SPost.no (S.at.mi (k := 20) (v := 0) (by omega)) fx (by decide) rfl
    exact g_out ok fn (fun z hz => nomatch hz) pf (by omega)
  · obtain ⟨m, em⟩ : ∃ m, mU s = m + 1 := ⟨mU s - 1, by omega⟩
    have hm1 : ¬ nI (mU s) ≤ 0 := fun c_ => m0 (by have := (nI_leI (a := mU s) (b := 0) (by omega) (by omega)).mp c_; omega)
    refine g_if_le ok (tgt := 14) dX1_undo_7 (by decide) (fun c_ => absurd c_ hm1) (fun _ => ?_)
    obtain ⟨a, a1, a2, a3, a4⟩ := S.2.2.2.2.2.2.2.2.1.2.1 m (by omega)
    obtain ⟨la, ha⟩ := a3.obj
    refine g_iconst ok (v := 1) dX1_undo_10 rfl ?_
    refine g_goto ok dX1_undo_11 (tgt := 15) (by decide) ?_
    refine g_callS ok q1377 q1378 q61 q1379 dX1_undo_15 (x_chkE1 X.l X.G _) (nm_ (by decide : nmb _ 1 = true)) (dl rfl) (dk rfl) rfl rfl (dk rfl) (by omega) (kN ?_) xN
    refine g_aload_n ok dX1_undo_18 rfl ?_
    refine g_aload_n ok dX1_undo_19 rfl ?_
    refine g_get ok ck_X1 2 q321 (Or.inl rfl) (by decide) dX1_undo_20 (Rd.h (S.2.2.1)) rfl ?_
    refine g_aload_n ok dX1_undo_23 rfl ?_
    refine g_get ok ck_X1 2 q321 (Or.inl rfl) (by decide) dX1_undo_24 (Rd.h (S.2.2.1)) rfl ?_
    refine g_callV ok q1118 q1119 q1120 q70 q1121 (Recv.ob ok gc_J2 (Rd.h S.2.2.2.2.2.1.1)) dX1_undo_27 (al_size X.l X.G _ hl hd hc (mU s) _ _ S.2.2.2.2.2.1) (nm_ (by decide : nmb _ 0 = true)) (dl rfl) (dk rfl) rfl rfl (dk rfl) (by omega) (kV ?_) xV
    refine g_iconst ok (v := 1) dX1_undo_30 rfl ?_
    refine g_isub ok dX1_undo_31 ?_
    rw [show nI (mU s) - 1 = nI m by rw [em]; exact nI_pred m]
    refine g_callV ok q1122 q1123 q1124 q70 q1125 (Recv.ob ok gc_J2 (Rd.h S.2.2.2.2.2.1.1)) dX1_undo_32 (al_remove X.l X.G _ hl hd hc (mU s) hm hf S.2.2.2.2.2.1 m (by omega) (els_hist S) a a1) (nm_ (by decide : nmb _ 1 = true)) (dl rfl) (dk rfl) rfl rfl (dk rfl) (by omega) (kR fun u7 h7 ⟨e7, k7⟩ => ?_) xR
    subst e7; obtain ⟨g, al1, gg, kA⟩ := k7
    have m1 : mU (mI (mI s 20 0) 4 (nI (mU s - 1))) = mU s - 1 := by unfold mU; rw [mI_I, upd_at, nn_nI (by unfold mU at u6; omega)]
    have T1 : SRs X.G own hr (mI (mI s 20 0) 4 (nI (mU s - 1))) ru sv g := SRs.undone S.2.2.2.2.2.2.2.2.1 (by rw [m1]; omega) (fun j hj => by rw [m1] at hj; rw [gg j (by omega), if_pos (by omega)]) rfl rfl rfl rfl
    have S1 := SRx.setl (s' := (mI (mI s 20 0) 4 (nI (mU s - 1)))) S hE kA (by rw [m1]; exact al1) T1 ⟨by rw [m1, mI_I, upd_at], by rw [m1]; omega⟩ (Sm7.ofI ⟨rfl, rfl⟩ (fun i h1 h2 => by rw [mI_I, upd_ne (by omega), mI_I, upd_ne (by omega)]))
    refine g_castE ok q123 dX1_undo_35 (Recv.ob ok gc_X2 (Rd.h (S1.1 _ _ ha))) ?_
    refine g_put ok ck_X1 0 q319 (Or.inl rfl) (by decide) rfl dX1_undo_38 (S1.2.2.1) (dl rfl) rfl rfl (fs1 := [.ref a, sv, .ref hl, .ref inp, .ref ln, .int (s.I 10), bt, rf]) rfl (?_)
    have emm : m = mU s - 1 := by omega
    have i4 : (cpl 0 0 3 (442 * (mU s - 1)) 442 0 (mI (mI s 20 0) 4 (nI (mU s - 1)))).I 4 = (mI (mI s 20 0) 4 (nI (mU s - 1))).I 4 := cpl_I _ _ _ _ _ _ _ _
    have au : ∀ i, i ≠ 0 → (cpl 0 0 3 (442 * (mU s - 1)) 442 0 (mI (mI s 20 0) 4 (nI (mU s - 1)))).A i = s.A i := fun i hi => cpl_Ao 442 0 _ i hi
    have iu : ∀ i, i ≠ 4 → i ≠ 20 → (cpl 0 0 3 (442 * (mU s - 1)) 442 0 (mI (mI s 20 0) 4 (nI (mU s - 1)))).I i = s.I i := fun i h1 h2 => by rw [cpl_I, mI_I, upd_ne h1, mI_I, upd_ne h2]
    have a9 : ∀ q, q < 442 → s.A 3 (442 * m + q) = (cpl 0 0 3 (442 * (mU s - 1)) 442 0 (mI (mI s 20 0) 4 (nI (mU s - 1)))).A 0 q := fun q hq => by
      rw [cpl_A (Or.inl (by decide)), if_pos rfl, emm]
      show _ = if 0 + 0 ≤ q ∧ q < 0 + 0 + 442 then _ else _
      rw [if_pos (by omega), Nat.sub_zero]; rfl
    have m9 : mU (cpl 0 0 3 (442 * (mU s - 1)) 442 0 (mI (mI s 20 0) 4 (nI (mU s - 1)))) = mU s - 1 := (congrArg nn i4).trans m1
    have T9 : SRs X.G own hr (cpl 0 0 3 (442 * (mU s - 1)) 442 0 (mI (mI s 20 0) 4 (nI (mU s - 1)))) a sv g := by
      obtain ⟨t1, t2, t3, t4⟩ := T1
      obtain ⟨p1, p2, p3, p4⟩ := S.2.2.2.2.2.2.2.2.1
      refine ⟨⟨a3.c442 a9, a4.c442 a3.inv a9⟩, fun j hj => ?_, fun i j hij hj => t3 i j hij (by rw [m9] at hj; rw [m1]; exact hj), ?_⟩
      · rw [m9] at hj; obtain ⟨b, b1, b2, b3, b4⟩ := t2 j (by rw [m1]; exact hj)
        rw [au 3 (by decide)]; refine ⟨b, b1, fun z => ?_, b3, b4⟩
        rw [gg j (by omega), if_pos (by omega)] at b1; exact p3 j m (by omega) (by omega) (by rw [b1, a1, z])
      · rw [au 5 (by decide), iu 6 (by decide) (by decide)]; rcases p4 with z | ⟨b, b1, b2, b3, b4, b5, b6⟩
        · exact Or.inl z
        · refine Or.inr ⟨b, b1, b2, fun z => b4 m (by omega) (by rw [a1, z]), fun j hj => ?_, b5, b6⟩
          rw [m9] at hj; rw [gg j (by omega), if_pos (by omega)]; exact b4 j (by omega)
    have S9 := SRx.setr (s' := (cpl 0 0 3 (442 * (mU s - 1)) 442 0 (mI (mI s 20 0) 4 (nI (mU s - 1))))) S1 T9 i4 (Sm7.ofI ⟨au 7 (by decide), au 9 (by decide)⟩ (fun i h1 h2 => (iu i (by omega) (by omega)).trans (by rw [mI_I, upd_ne (by omega), mI_I, upd_ne (by omega)])))
    refine g_aload_n ok dX1_undo_41 rfl ?_
    refine g_get ok ck_X1 2 q321 (Or.inl rfl) (by decide) dX1_undo_42 (Rd.h (up_self)) rfl ?_
    have al9 := S9.2.2.2.2.2.1
    rw [m9] at al9
    refine g_callV ok q1118 q1119 q1120 q70 q1121 (Recv.ob ok gc_J2 (Rd.h S9.2.2.2.2.2.1.1)) dX1_undo_45 (al_size X.l X.G _ hl hd hc (mU s - 1) _ _ al9) (nm_ (by decide : nmb _ 0 = true)) (dl rfl) (dk rfl) rfl rfl (dk rfl) (by omega) (kV ?_) xV
    have pf : SPost X.G x (ex1 NSEE) (mUndo s) (.inl (some (.int (nI (mU s - 1))))) (up h7 x (ob 0 [.ref a, sv, .ref hl, .ref inp, .ref ln, .int (s.I 10), bt, rf])) := by
      unfold mUndo; rw [if_neg m0]; exact SPost.ends S9.at (by rw [cpl_I, mI_I, upd_ne (by omega), mI_I, upd_at])
    exact g_iret ok fn rfl dX1_undo_48 pf (by omega)
