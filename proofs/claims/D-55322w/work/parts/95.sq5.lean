/-! the SpanRuler is asked, 4 -/
set_option maxRecDepth 100000
abbrev cX1_isAlike : ByteArray := prog_1_method_49_code
def yX1_isAlike : MethodName := ⟨RX1, "isAlike", "(II)Z"⟩
def dkwX1_isAlike_1 : List UInt8 := [167, 0, 4, 3, 172]
abbrev dktX1_isAlike_1 : List UInt8 := dkwX1_isAlike_1 ++ []
def dkwX1_isAlike_0 : List UInt8 := [42, 27, 182, 1, 55, 78, 45, 42, 28, 182, 1, 55, 3, 16, 31, 182, 1, 70, 154, 0, 7, 4]
abbrev dktX1_isAlike_0 : List UInt8 := dkwX1_isAlike_0 ++ dktX1_isAlike_1
theorem dksX1_isAlike_0 : cX1_isAlike.data.toList.drop 0 = dktX1_isAlike_0 := by decide +kernel
theorem dksX1_isAlike_1 : cX1_isAlike.data.toList.drop 22 = dktX1_isAlike_1 := dk_seg dksX1_isAlike_0 22 rfl rfl
theorem dX1_isAlike_0 : decode cX1_isAlike 0 = .ok (.aload_n 0, 1) := dk_42 (dk_at dksX1_isAlike_0 0 rfl rfl)
theorem dX1_isAlike_1 : decode cX1_isAlike 1 = .ok (.iload_n 1, 1) := dk_27 (dk_at dksX1_isAlike_0 1 rfl rfl)
theorem dX1_isAlike_2 : decode cX1_isAlike 2 = .ok (.invokevirtual 311, 3) := dk_182 1 55 (dk_at dksX1_isAlike_0 2 rfl rfl)
theorem dX1_isAlike_5 : decode cX1_isAlike 5 = .ok (.astore_n 3, 1) := dk_78 (dk_at dksX1_isAlike_0 5 rfl rfl)
theorem dX1_isAlike_6 : decode cX1_isAlike 6 = .ok (.aload_n 3, 1) := dk_45 (dk_at dksX1_isAlike_0 6 rfl rfl)
theorem dX1_isAlike_7 : decode cX1_isAlike 7 = .ok (.aload_n 0, 1) := dk_42 (dk_at dksX1_isAlike_0 7 rfl rfl)
theorem dX1_isAlike_8 : decode cX1_isAlike 8 = .ok (.iload_n 2, 1) := dk_28 (dk_at dksX1_isAlike_0 8 rfl rfl)
theorem dX1_isAlike_9 : decode cX1_isAlike 9 = .ok (.invokevirtual 311, 3) := dk_182 1 55 (dk_at dksX1_isAlike_0 9 rfl rfl)
theorem dX1_isAlike_12 : decode cX1_isAlike 12 = .ok (.iconst 0, 1) := dk_3 (dk_at dksX1_isAlike_0 12 rfl rfl)
theorem dX1_isAlike_13 : decode cX1_isAlike 13 = .ok (.bipush 31, 2) := dk_16 31 (dk_at dksX1_isAlike_0 13 rfl rfl)
theorem dX1_isAlike_15 : decode cX1_isAlike 15 = .ok (.invokevirtual 326, 3) := dk_182 1 70 (dk_at dksX1_isAlike_0 15 rfl rfl)
theorem dX1_isAlike_18 : decode cX1_isAlike 18 = .ok (.ifCond .ne 7, 3) := dk_154 0 7 (dk_at dksX1_isAlike_0 18 rfl rfl)
theorem dX1_isAlike_21 : decode cX1_isAlike 21 = .ok (.iconst 1, 1) := dk_4 (dk_at dksX1_isAlike_0 21 rfl rfl)
theorem dX1_isAlike_22 : decode cX1_isAlike 22 = .ok (.goto 4, 3) := dk_167 0 4 (dk_at dksX1_isAlike_1 0 rfl rfl)
theorem dX1_isAlike_25 : decode cX1_isAlike 25 = .ok (.iconst 0, 1) := dk_3 (dk_at dksX1_isAlike_1 3 rfl rfl)
theorem dX1_isAlike_26 : decode cX1_isAlike 26 = .ok (.ireturn, 1) := dk_172 (dk_at dksX1_isAlike_1 4 rfl rfl)
theorem dfv_cnt {p q r s : Nat → Int32} : ∀ (n c v : Nat), ∃ k, k ≤ n ∧ dfv p q r s n c (nI v) = nI (v + k) ∧ (k = 0 ↔ ∀ d, c ≤ d → d < c + n → p d = r d ∧ q d = s d) := by
  intro n
  induction n with
  | zero => intro c v; exact ⟨0, Nat.le_refl _, rfl, ⟨fun _ d h1 h2 => by omega, fun _ => rfl⟩⟩
  | succ n ih =>
    intro c v
    rw [dfv]
    by_cases e : p c = r c ∧ q c = s c
    · obtain ⟨k, h1, h2, h3⟩ := ih (c + 1) v
      refine ⟨k, by omega, by rw [if_pos e]; exact h2, h3.trans ⟨fun w d a b => ?_, fun w d a b => w d (by omega) (by omega)⟩⟩
      by_cases z : d = c
      · subst z; exact e
      · exact w d (by omega) (by omega)
    · obtain ⟨k, h1, h2, h3⟩ := ih (c + 1) (v + 1)
      refine ⟨k + 1, by omega, by rw [if_neg e, nI_1, h2]; congr 1; omega, ⟨fun w => by omega, fun w => absurd (w c (Nat.le_refl _) (by omega)) e⟩⟩
theorem ial_iff {R : Nat → Int32} {v w : Nat} : ∀ (n c : Nat), ial R v w n c = true ↔ ∀ d, c ≤ d → d < c + n → R (122 + 64 * v + d) = R (122 + 64 * w + d) := by
  intro n
  induction n with
  | zero => intro c; exact ⟨fun _ d h1 h2 => by omega, fun _ => rfl⟩
  | succ n ih =>
    intro c
    rw [ial]
    by_cases e : R (122 + 64 * v + c) = R (122 + 64 * w + c)
    · rw [if_pos e, ih (c + 1)]
      refine ⟨fun h d a b => ?_, fun h d a b => h d (by omega) (by omega)⟩
      by_cases z : d = c
      · subst z; exact e
      · exact h d (by omega) (by omega)
    · rw [if_neg e]
      exact ⟨(fun h => nomatch h), fun h => absurd (h c (Nat.le_refl _) (by omega)) e⟩
theorem alike_eq {p q r s R : Nat → Int32} {v w : Nat} (h1 : ∀ c, c < 32 → p c = R (122 + 64 * v + c) ∧ q c = R (122 + 64 * v + 32 + c)) (h2 : ∀ c, c < 32 → r c = R (122 + 64 * w + c) ∧ s c = R (122 + 64 * w + 32 + c)) : (dfv p q r s 32 0 0 = 0) ↔ ial R v w 64 0 = true := by
  obtain ⟨k, a1, a2, a3⟩ := dfv_cnt (p := p) (q := q) (r := r) (s := s) 32 0 0
  rw [show (0 : Int32) = nI 0 from rfl, a2, ial_iff]
  have e1 : nI (0 + k) = nI 0 ↔ k = 0 := ⟨fun h => by have := nI_is h (by omega) (by omega); omega, fun h => by rw [h]⟩
  rw [e1, a3]
  constructor
  · intro h d _ hd
    by_cases c : d < 32
    · rw [← (h1 d c).1, ← (h2 d c).1]; exact (h d (by omega) (by omega)).1
    · have e3 := (h (d - 32) (by omega) (by omega)).2
      rw [(h1 (d - 32) (by omega)).2, (h2 (d - 32) (by omega)).2] at e3
      rw [show 122 + 64 * v + d = 122 + 64 * v + 32 + (d - 32) by omega, show 122 + 64 * w + d = 122 + 64 * w + 32 + (d - 32) by omega]; exact e3
  · intro h d _ hd
    rw [(h1 d (by omega)).1, (h1 d (by omega)).2, (h2 d (by omega)).1, (h2 d (by omega)).2]
    refine ⟨h d (by omega) (by omega), ?_⟩
    have := h (32 + d) (by omega) (by omega)
    rw [show 122 + 64 * v + 32 + d = 122 + 64 * v + (32 + d) by omega, show 122 + 64 * w + 32 + d = 122 + 64 * w + (32 + d) by omega]; exact this
theorem s_isAlike (l : Launch) (G : GE) (h : AH) (x : Nat) (s : MS) (S0 : SRAt G h x s) (p : Int32) (p2 : Int32) : GM l G yX1_isAlike (ws_ yX1_isAlike cX1_isAlike 4 (some .boolean)) 16 [.ref x, .int p, .int p2] (h) (1600) (SPost G x (ex1 IOOBE) (mIsAlike s p p2)) := by
  refine GM.of (by decide) (dk rfl) ?_
  intro X eL eG eh ok fn
  subst eL; subst eG
  show GW X _ 0 0 [some (.ref x), some (.int p), some (.int p2), none] []
  obtain ⟨own, hr, ru, sv, hl, hd, hc, hm, hf, inp, ln, bt, rf, S⟩ := S0
  obtain ⟨rt, cl, nl, nd, nc, nm, nf, vl, vd, vc, vm, vf, y⟩ := S.2.2.2.2.2.2.2.2.1.1.1
  have iR := y.2.2.2.2.2.1
  have v5 := iR.2.1.2
  rcases Bool.eq_false_or_eq_true (inR p 0 (nI (rV (s.A 0)) - 1)) with hs | hs
  · obtain ⟨i, ei, hi⟩ := inR_lt hs (by omega)
    subst ei
    obtain ⟨b, kb, na, ca, wn, wc, w1, w2, w3, w4⟩ := y.2.2.2.2.1 i hi
    have rb := S.1 _ _ w1
    have is1 : mIsV s (nI i) = true := by unfold mIsV; rw [iR.2.1.1]; exact hs
    rcases Bool.eq_false_or_eq_true (inR p2 0 (nI (rV (s.A 0)) - 1)) with hs2 | hs2
    · obtain ⟨i2, ei2, hi2⟩ := inR_lt hs2 (by omega)
      subst ei2
      obtain ⟨b2, kb2, na2, ca2, wn2, wc2, o1, o2, o3, o4⟩ := y.2.2.2.2.1 i2 hi2
      have rb2 := S.1 _ _ o1
      have is2 : mIsV s (nI i2) = true := by unfold mIsV; rw [iR.2.1.1]; exact hs2
      refine g_aload_n ok dX1_isAlike_0 rfl ?_
      refine g_iload_n ok dX1_isAlike_1 rfl ?_
      refine g_callV ok q1497 q1499 qs12 q61 q1500 (Recv.ob ok gc_X1 (Rd.h (S.2.2.1))) dX1_isAlike_2 (s_versionAt1 X.l X.G _ x own hr s ru sv hl hd hc hm hf inp ln bt rf S rt cl nl nd nc nm nf vl vd vc vm vf y i hi b kb _ rb) (nm_ (by decide : nmb _ 1 = true)) (dl rfl) (dk rfl) rfl rfl (dk rfl) (by omega) (kV ?_) xV
      refine g_astore_n ok dX1_isAlike_5 (ls1 := [some (.ref x), some (.int (nI i)), some (.int (nI i2)), some (.ref b)]) (dl rfl) rfl ?_
      refine g_aload_n ok dX1_isAlike_6 rfl ?_
      refine g_aload_n ok dX1_isAlike_7 rfl ?_
      refine g_iload_n ok dX1_isAlike_8 rfl ?_
      refine g_callV ok q1497 q1499 qs12 q61 q1500 (Recv.ob ok gc_X1 (Rd.h (S.2.2.1))) dX1_isAlike_9 (s_versionAt1 X.l X.G _ x own hr s ru sv hl hd hc hm hf inp ln bt rf S rt cl nl nd nc nm nf vl vd vc vm vf y i2 hi2 b2 kb2 _ rb2) (nm_ (by decide : nmb _ 1 = true)) (dl rfl) (dk rfl) rfl rfl (dk rfl) (by omega) (kV ?_) xV
      refine g_iconst ok (v := 0) dX1_isAlike_12 rfl ?_
      refine g_bipush ok (v := 31) dX1_isAlike_13 rfl ?_
      refine g_callV ok q1529 q1507 q1508 q99 q1509 (Recv.ob ok gc_X12 (Rd.h rb)) dX1_isAlike_15 (x_differs X.l X.G _ b b2 na ca na2 ca2 wn wc wn2 wc2 rb rb2 (S.1 _ _ w2) (S.1 _ _ w3) (S.1 _ _ o2) (S.1 _ _ o3) 0 31 (by omega) (by omega)) (nm_ (by decide : nmb _ 3 = true)) (dl rfl) (dk rfl) rfl rfl (dk rfl) (by omega) (kV ?_) xV
      have ae := alike_eq w4 o4
      refine g_if_ne ok (tgt := 25) dX1_isAlike_18 (by decide) (fun c_ => ?_) (fun c_ => ?_)
      · have ei : ial (s.A 0) i i2 64 0 = false := Bool.eq_false_iff.mpr (fun w_ => c_ (ae.mpr w_))
        refine g_iconst ok (v := 0) dX1_isAlike_25 rfl ?_
        have pf : SPost X.G x (ex1 IOOBE) (mIsAlike s (nI i) (nI i2)) (.inl (some (.int 0))) h := by
          unfold mIsAlike; rw [if_pos ⟨is1, is2⟩]; simp only [nn_nI (by omega : i < 2 ^ 31), nn_nI (by omega : i2 < 2 ^ 31), ei]; exact SPost.ok (v := 0) S.at
        exact g_zret ok fn rfl rfl dX1_isAlike_26 pf (by omega)
      · have ei : ial (s.A 0) i i2 64 0 = true := ae.mp (Decidable.not_not.mp (fun w_ => w_ c_))
        refine g_iconst ok (v := 1) dX1_isAlike_21 rfl ?_
        refine g_goto ok dX1_isAlike_22 (tgt := 26) (by decide) ?_
        have pf : SPost X.G x (ex1 IOOBE) (mIsAlike s (nI i) (nI i2)) (.inl (some (.int 1))) h := by
          unfold mIsAlike; rw [if_pos ⟨is1, is2⟩]; simp only [nn_nI (by omega : i < 2 ^ 31), nn_nI (by omega : i2 < 2 ^ 31), ei]; exact SPost.ok (v := 1) S.at
        exact g_zret ok fn rfl rfl dX1_isAlike_26 pf (by omega)
    · have is0 : mIsV s p2 = false := by unfold mIsV; rw [iR.2.1.1]; exact hs2
      refine g_aload_n ok dX1_isAlike_0 rfl ?_
      refine g_iload_n ok dX1_isAlike_1 rfl ?_
      refine g_callV ok q1497 q1499 qs12 q61 q1500 (Recv.ob ok gc_X1 (Rd.h (S.2.2.1))) dX1_isAlike_2 (s_versionAt1 X.l X.G _ x own hr s ru sv hl hd hc hm hf inp ln bt rf S rt cl nl nd nc nm nf vl vd vc vm vf y i hi b kb _ rb) (nm_ (by decide : nmb _ 1 = true)) (dl rfl) (dk rfl) rfl rfl (dk rfl) (by omega) (kV ?_) xV
      refine g_astore_n ok dX1_isAlike_5 (ls1 := [some (.ref x), some (.int (nI i)), some (.int p2), some (.ref b)]) (dl rfl) rfl ?_
      refine g_aload_n ok dX1_isAlike_6 rfl ?_
      refine g_aload_n ok dX1_isAlike_7 rfl ?_
      refine g_iload_n ok dX1_isAlike_8 rfl ?_
      refine g_callV ok q1497 q1499 qs12 q61 q1500 (Recv.ob ok gc_X1 (Rd.h (S.2.2.1))) dX1_isAlike_9 (s_versionAt0 X.l X.G _ x own hr s ru sv hl hd hc hm hf inp ln bt rf S rt cl nl nd nc nm nf vl vd vc vm vf y p2 hs2) (nm_ (by decide : nmb _ 1 = true)) (dl rfl) (dk rfl) rfl rfl (dk rfl) (by omega) kT (xT fun qx fx kx => ?_)
      have pf : SPost X.G x (ex1 IOOBE) (mIsAlike s (nI i) p2) (.inr (IOOBE, qx)) (up h qx (ob 19 [])) := by
        unfold mIsAlike; rw [if_neg (fun w_ => by rw [is0] at w_; exact absurd w_.2 (by decide))]; exact SPost.no S.at fx (by decide) rfl
      exact g_out ok fn (fun z hz => nomatch hz) pf (by omega)
  · have is0 : mIsV s p = false := by unfold mIsV; rw [iR.2.1.1]; exact hs
    refine g_aload_n ok dX1_isAlike_0 rfl ?_
    refine g_iload_n ok dX1_isAlike_1 rfl ?_
    refine g_callV ok q1497 q1499 qs12 q61 q1500 (Recv.ob ok gc_X1 (Rd.h (S.2.2.1))) dX1_isAlike_2 (s_versionAt0 X.l X.G _ x own hr s ru sv hl hd hc hm hf inp ln bt rf S rt cl nl nd nc nm nf vl vd vc vm vf y p hs) (nm_ (by decide : nmb _ 1 = true)) (dl rfl) (dk rfl) rfl rfl (dk rfl) (by omega) kT (xT fun qx fx kx => ?_)
    have pf : SPost X.G x (ex1 IOOBE) (mIsAlike s p p2) (.inr (IOOBE, qx)) (up h qx (ob 19 [])) := by
      unfold mIsAlike; rw [if_neg (fun w_ => by rw [is0] at w_; exact absurd w_.1 (by decide))]; exact SPost.no S.at fx (by decide) rfl
    exact g_out ok fn (fun z hz => nomatch hz) pf (by omega)
