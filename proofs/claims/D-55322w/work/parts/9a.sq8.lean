/-! the SpanRuler is asked, 7: stretch -/
set_option maxRecDepth 100000
abbrev cX1_stretch : ByteArray := prog_1_method_35_code
def yX1_stretch : MethodName := ⟨RX1, "stretch", "(IIZ)I"⟩
def dkwX1_stretch_1 : List UInt8 := [108, 167, 0, 8, 21, 4, 16, 32, 112, 172]
abbrev dktX1_stretch_1 : List UInt8 := dkwX1_stretch_1 ++ []
def dkwX1_stretch_0 : List UInt8 := [27, 28, 184, 0, 211, 42, 180, 0, 126, 27, 28, 182, 1, 20, 54, 4, 29, 153, 0, 11, 21, 4, 16, 32]
abbrev dktX1_stretch_0 : List UInt8 := dkwX1_stretch_0 ++ dktX1_stretch_1
theorem dksX1_stretch_0 : cX1_stretch.data.toList.drop 0 = dktX1_stretch_0 := by decide +kernel
theorem dksX1_stretch_1 : cX1_stretch.data.toList.drop 24 = dktX1_stretch_1 := dk_seg dksX1_stretch_0 24 rfl rfl
theorem dX1_stretch_0 : decode cX1_stretch 0 = .ok (.iload_n 1, 1) := dk_27 (dk_at dksX1_stretch_0 0 rfl rfl)
theorem dX1_stretch_1 : decode cX1_stretch 1 = .ok (.iload_n 2, 1) := dk_28 (dk_at dksX1_stretch_0 1 rfl rfl)
theorem dX1_stretch_2 : decode cX1_stretch 2 = .ok (.invokestatic 211, 3) := dk_184 0 211 (dk_at dksX1_stretch_0 2 rfl rfl)
theorem dX1_stretch_5 : decode cX1_stretch 5 = .ok (.aload_n 0, 1) := dk_42 (dk_at dksX1_stretch_0 5 rfl rfl)
theorem dX1_stretch_6 : decode cX1_stretch 6 = .ok (.getfield 126, 3) := dk_180 0 126 (dk_at dksX1_stretch_0 6 rfl rfl)
theorem dX1_stretch_9 : decode cX1_stretch 9 = .ok (.iload_n 1, 1) := dk_27 (dk_at dksX1_stretch_0 9 rfl rfl)
theorem dX1_stretch_10 : decode cX1_stretch 10 = .ok (.iload_n 2, 1) := dk_28 (dk_at dksX1_stretch_0 10 rfl rfl)
theorem dX1_stretch_11 : decode cX1_stretch 11 = .ok (.invokevirtual 276, 3) := dk_182 1 20 (dk_at dksX1_stretch_0 11 rfl rfl)
theorem dX1_stretch_14 : decode cX1_stretch 14 = .ok (.istore 4, 2) := dk_54 4 (dk_at dksX1_stretch_0 14 rfl rfl)
theorem dX1_stretch_16 : decode cX1_stretch 16 = .ok (.iload_n 3, 1) := dk_29 (dk_at dksX1_stretch_0 16 rfl rfl)
theorem dX1_stretch_17 : decode cX1_stretch 17 = .ok (.ifCond .eq 11, 3) := dk_153 0 11 (dk_at dksX1_stretch_0 17 rfl rfl)
theorem dX1_stretch_20 : decode cX1_stretch 20 = .ok (.iload 4, 2) := dk_21 4 (dk_at dksX1_stretch_0 20 rfl rfl)
theorem dX1_stretch_22 : decode cX1_stretch 22 = .ok (.bipush 32, 2) := dk_16 32 (dk_at dksX1_stretch_0 22 rfl rfl)
theorem dX1_stretch_24 : decode cX1_stretch 24 = .ok (.idiv, 1) := dk_108 (dk_at dksX1_stretch_1 0 rfl rfl)
theorem dX1_stretch_25 : decode cX1_stretch 25 = .ok (.goto 8, 3) := dk_167 0 8 (dk_at dksX1_stretch_1 1 rfl rfl)
theorem dX1_stretch_28 : decode cX1_stretch 28 = .ok (.iload 4, 2) := dk_21 4 (dk_at dksX1_stretch_1 4 rfl rfl)
theorem dX1_stretch_30 : decode cX1_stretch 30 = .ok (.bipush 32, 2) := dk_16 32 (dk_at dksX1_stretch_1 6 rfl rfl)
theorem dX1_stretch_32 : decode cX1_stretch 32 = .ok (.irem, 1) := dk_112 (dk_at dksX1_stretch_1 8 rfl rfl)
theorem dX1_stretch_33 : decode cX1_stretch 33 = .ok (.ireturn, 1) := dk_172 (dk_at dksX1_stretch_1 9 rfl rfl)
theorem q1349 : (Jvm.Cond.methodLink "SpanRuler" (276 : Nat) ({ cls := "SpanRuler$Ruler", name := "stretch", desc := "(II)I" } : Jvm.MethodName)) ∈ lw_all := lw_g (lw_at lw_m6 89 rfl) rfl
theorem q1352 : (Jvm.Cond.code ({ cls := "SpanRuler$Ruler", name := "stretch", desc := "(II)I" } : Jvm.MethodName) prog_16_method_13_code (7 : Nat) (Option.some Jvm.ClassFile.FieldType.int)) ∈ lw_all := lw_g (lw_at lw_m6 92 rfl) rfl
theorem q1350 : (Jvm.Cond.instanceMethod ({ cls := "SpanRuler$Ruler", name := "stretch", desc := "(II)I" } : Jvm.MethodName)) ∈ lw_all := lw_g (lw_at lw_m6 90 rfl) rfl
theorem q1351 : (Jvm.Cond.selects "SpanRuler$Ruler" ({ cls := "SpanRuler$Ruler", name := "stretch", desc := "(II)I" } : Jvm.MethodName) ({ cls := "SpanRuler$Ruler", name := "stretch", desc := "(II)I" } : Jvm.MethodName)) ∈ lw_all := lw_g (lw_at lw_m6 91 rfl) rfl
theorem sti_first {R : Nat → Int32} {x : Int32} {a j q : Nat} (hq : q ≤ j) (hx : sm R (q + 1 - a) a 0 = x) : ∀ (n c : Nat) (sum : Int32), a ≤ c → c + n = j + 1 → sum = sm R (c - a) a 0 → c ≤ q → (∀ d, c ≤ d → d < q → sm R (d + 1 - a) a 0 ≠ x) → sti R x n c sum = some q := by
  intro n
  induction n with
  | zero => intro c sum h1 h2 h3 h4 h5; omega
  | succ n ih =>
    intro c sum h1 h2 h3 h4 h5
    have e : sum + R (8 + c) = sm R (c + 1 - a) a 0 := by rw [h3]; exact sm_step h1
    rw [sti, e]
    by_cases z : c = q
    · subst z; rw [if_pos hx]
    · rw [if_neg (h5 c (Nat.le_refl _) (by omega))]
      exact ih (c + 1) _ (by omega) (by omega) rfl (by omega) (fun d p1 p2 => h5 d (by omega) p2)
theorem sti_none {R : Nat → Int32} {x : Int32} {a j : Nat} : ∀ (n c : Nat) (sum : Int32), a ≤ c → c + n = j + 1 → sum = sm R (c - a) a 0 → (∀ d, c ≤ d → d ≤ j → sm R (d + 1 - a) a 0 ≠ x) → sti R x n c sum = none := by
  intro n
  induction n with
  | zero => intro c sum _ _ _ _; rfl
  | succ n ih =>
    intro c sum h1 h2 h3 h5
    have e : sum + R (8 + c) = sm R (c + 1 - a) a 0 := by rw [h3]; exact sm_step h1
    rw [sti, e, if_neg (h5 c (Nat.le_refl _) (by omega))]
    exact ih (c + 1) _ (by omega) (by omega) rfl (fun d p1 p2 => h5 d (by omega) p2)
theorem sto_first {R : Nat → Int32} {x : Int32} {j p q : Nat} (hpq : p ≤ q) (hq : q ≤ j) (hx : sm R (q + 1 - p) p 0 = x) : ∀ (n a : Nat), a + n = j + 1 → a ≤ p → (∀ b d, a ≤ b → b ≤ d → d ≤ j → (b < p ∨ (b = p ∧ d < q)) → sm R (d + 1 - b) b 0 ≠ x) → sto R j x n a = some (p, q) := by
  intro n
  induction n with
  | zero => intro a h1 h2; omega
  | succ n ih =>
    intro a h1 h2 h3
    rw [sto]
    by_cases z : a = p
    · subst z
      rw [sti_first (R := R) (x := x) (a := a) (j := j) (q := q) hq hx (j + 1 - a) a 0 (Nat.le_refl _) (by omega) (by rw [Nat.sub_self]; rfl) hpq (fun d p1 p2 => h3 a d (Nat.le_refl _) p1 (by omega) (Or.inr ⟨rfl, p2⟩))]
    · rw [sti_none (R := R) (x := x) (a := a) (j := j) (j + 1 - a) a 0 (Nat.le_refl _) (by omega) (by rw [Nat.sub_self]; rfl) (fun d p1 p2 => h3 a d (Nat.le_refl _) p1 p2 (Or.inl (by omega)))]
      exact ih (a + 1) (by omega) (by omega) (fun b d p1 p2 p3 p4 => h3 b d (by omega) p2 p3 p4)
theorem st_eq {s : MS} (hR : ∀ c, c < 32 → rg (s.A 0 (8 + c))) {i j : Nat} (h : i ≤ j) (hj : j < 32) : ∃ p q, p < 32 ∧ q < 32 ∧ sto (s.A 0) j (kdl (s.A 0) (j - i) (i + 1) (s.A 0 (8 + i)) (s.A 0 (8 + i))) (j + 1 - i) i = some (p, q) ∧ (mFinds s i j).2.I 17 = nI p ∧ (mFinds s i j).2.I 18 = nI q := by
  obtain ⟨p, q, -, -, r3, r4, ⟨q1, q2, q3⟩, q4, q5⟩ := finds_FB s h
  refine ⟨p, q, by omega, by omega, ?_, r3, r4⟩
  rw [kdl_eq hR h hj]
  refine sto_first q2 q3 q4.symm (j + 1 - i) i (by omega) q1 (fun b d p1 p2 p3 p4 z => ?_)
  have := (q5 b d p1 p2 p3 trivial).2 p4
  unfold SS at this
  rw [z] at this; omega
def dv32 (n : Nat) : Bool := decide (nI n / 32 = nI (n / 32)) && decide (nI n - nI n / 32 * 32 = nI (n % 32))
theorem dv_all : ∀ n, n < 1024 → dv32 n = true := by
  have h : (List.range 1024).all dv32 = true := by decide +kernel
  intro n hn
  exact List.all_eq_true.mp h n (List.mem_range.mpr hn)
theorem dv_d {p q : Nat} (hp : p < 32) (hq : q < 32) : nI (p + 32 * q) / 32 = nI q := by
  have h := dv_all (p + 32 * q) (by omega)
  unfold dv32 at h
  rw [Bool.and_eq_true] at h
  rw [of_decide_eq_true h.1]; congr 1; omega
theorem dv_m {p q : Nat} (hp : p < 32) (hq : q < 32) : nI (p + 32 * q) - nI (p + 32 * q) / 32 * 32 = nI p := by
  have h := dv_all (p + 32 * q) (by omega)
  unfold dv32 at h
  rw [Bool.and_eq_true] at h
  rw [of_decide_eq_true h.2]; congr 1; omega
theorem s_stretch (l : Launch) (G : GE) (h : AH) (x : Nat) (s : MS) (S0 : SRAt G h x s) (a : Int32) (b : Int32) (z : Int32) : GM l G yX1_stretch (ws_ yX1_stretch cX1_stretch 5 (some .int)) 16 [.ref x, .int a, .int b, .int z] (h) (27000) (SPost G x (ex1 IAE) (mStretch s a b z)) := by
  refine GM.of (by decide) (dk rfl) ?_
  intro X eL eG eh ok fn
  subst eL; subst eG
  show GW X _ 0 0 [some (.ref x), some (.int a), some (.int b), some (.int z), none] []
  obtain ⟨own, hr, ru, sv, hl, hd, hc, hm, hf, inp, ln, bt, rf, S⟩ := S0
  obtain ⟨rt, cl, nl, nd, nc, nm, nf, vl, vd, vc, vm, vf, y⟩ := S.2.2.2.2.2.2.2.2.1.1.1
  rcases Bool.eq_false_or_eq_true (isSp a b) with hs | hs
  · obtain ⟨i, j, ea, eb, hij, hj⟩ : ∃ i j, a = nI i ∧ b = nI j ∧ i ≤ j ∧ j < 32 := ⟨_, _, isSp_n hs⟩
    subst ea; subst eb
    have hR := y.2.2.2.2.2.1.2.2.1
    obtain ⟨p, r, hp, hr2, e1, e2, e3⟩ := st_eq (s := mI s 20 0) hR hij hj
    rw [mI_A] at e1
    refine g_iload_n ok dX1_stretch_0 rfl ?_
    refine g_iload_n ok dX1_stretch_1 rfl ?_
    refine g_callS ok q1172 q1173 q61 q1174 dX1_stretch_2 (x_chkP1 X.l X.G _ (nI i) (nI j) hs) (nm_ (by decide : nmb _ 2 = true)) (dl rfl) (dk rfl) rfl rfl (dk rfl) (by omega) (kN ?_) xN
    refine g_aload_n ok dX1_stretch_5 rfl ?_
    refine g_get ok ck_X1 0 q319 (Or.inl rfl) (by decide) dX1_stretch_6 (Rd.h (S.2.2.1)) rfl ?_
    refine g_iload_n ok dX1_stretch_9 rfl ?_
    refine g_iload_n ok dX1_stretch_10 rfl ?_
    refine g_callV ok q1349 q1350 q1351 q62 q1352 (Recv.ob ok gc_X2 (Rd.h (S.1 _ _ y.1.1))) dX1_stretch_11 (GM.fr S.1 (x_stretch X.l X.G hr (fun q => own q = ru) ru (s.A 0) rt cl nl vl _ _ _ _ _ _ y.1 i j (by omega) (by omega))) (nm_ (by decide : nmb _ 2 = true)) (dl rfl) (dk rfl) rfl rfl (dk rfl) (by omega) (kFR fun v1_ hr1_ h1_ ⟨e1_, q1_, g1_⟩ f1_ => ?_) xFR
    subst e1_
    obtain ⟨S1_, y1_⟩ := SRx.ask S y q1_ g1_ f1_
    rw [e1]
    show GW X _ _ _ _ [.int (nI (p + 32 * r))]
    refine g_istore ok dX1_stretch_14 (ls1 := [some (.ref x), some (.int (nI i)), some (.int (nI j)), some (.int z), some (.int (nI (p + 32 * r)))]) (dl rfl) rfl ?_
    refine g_iload_n ok dX1_stretch_16 rfl ?_
    refine g_if_eq ok (tgt := 28) dX1_stretch_17 (by decide) (fun c17 => ?_) (fun c17 => ?_)
    · refine g_iload ok dX1_stretch_28 rfl ?_
      refine g_bipush ok (v := 32) dX1_stretch_30 rfl ?_
      refine g_irem ok dX1_stretch_32 (by decide) ?_
      rw [dv_m hp hr2]
      obtain ⟨F1, F2⟩ := SRAt.finds S1_.at hij
      have pf : SPost X.G x (ex1 IAE) (mStretch s (nI i) (nI j) z) (.inl (some (.int (nI p)))) h1_ := by
        unfold mStretch; rw [if_pos hs]; simp only [nn_nI (by omega : i < 2 ^ 31), nn_nI (by omega : j < 2 ^ 31)]; rw [if_pos (by assumption), e2]; exact SPost.ends F1 F2
      exact g_iret ok fn rfl dX1_stretch_33 pf (by omega)
    · refine g_iload ok dX1_stretch_20 rfl ?_
      refine g_bipush ok (v := 32) dX1_stretch_22 rfl ?_
      refine g_idiv ok dX1_stretch_24 (by decide) ?_
      rw [dv_d hp hr2]
      refine g_goto ok dX1_stretch_25 (tgt := 33) (by decide) ?_
      obtain ⟨F1, F2⟩ := SRAt.finds S1_.at hij
      have pf : SPost X.G x (ex1 IAE) (mStretch s (nI i) (nI j) z) (.inl (some (.int (nI r)))) h1_ := by
        unfold mStretch; rw [if_pos hs]; simp only [nn_nI (by omega : i < 2 ^ 31), nn_nI (by omega : j < 2 ^ 31)]; rw [if_neg (by assumption), e3]; exact SPost.ends F1 F2
      exact g_iret ok fn rfl dX1_stretch_33 pf (by omega)
  · refine g_iload_n ok dX1_stretch_0 rfl ?_
    refine g_iload_n ok dX1_stretch_1 rfl ?_
    refine g_callS ok q1172 q1173 q61 q1174 dX1_stretch_2 (x_chkP0 X.l X.G _ a b hs) (nm_ (by decide : nmb _ 2 = true)) (dl rfl) (dk rfl) rfl rfl (dk rfl) (by omega) kT (xT fun qx fx kx => ?_)
    have pf : SPost X.G x (ex1 IAE) (mStretch s a b z) (.inr (IAE, qx)) (up h qx (ob 18 [])) := by
      unfold mStretch; rw [if_neg (by rw [hs]; decide)]; exact SPost.no (S.at.mi (k := 20) (v := 0) (by omega)) fx (by decide) rfl
    exact g_out ok fn (fun z hz => nomatch hz) pf (by omega)
