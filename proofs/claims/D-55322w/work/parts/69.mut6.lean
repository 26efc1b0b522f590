/-! a ruler is changed, 6: ticks, strike -/
set_option maxRecDepth 100000
abbrev cX2_pass : ByteArray := prog_16_method_21_code
def yX2_pass : MethodName := ⟨RX2, "pass", "(I)I"⟩
def dkwX2_pass_0 : List UInt8 := [3, 61, 3, 62, 29, 27, 162, 0, 16, 28, 42, 182, 0, 191, 96, 61, 132, 3, 1, 167, 255, 241, 28, 172]
abbrev dktX2_pass_0 : List UInt8 := dkwX2_pass_0 ++ []
theorem dksX2_pass_0 : cX2_pass.data.toList.drop 0 = dktX2_pass_0 := by decide +kernel
theorem dX2_pass_0 : decode cX2_pass 0 = .ok (.iconst 0, 1) := dk_3 (dk_at dksX2_pass_0 0 rfl rfl)
theorem dX2_pass_1 : decode cX2_pass 1 = .ok (.istore_n 2, 1) := dk_61 (dk_at dksX2_pass_0 1 rfl rfl)
theorem dX2_pass_2 : decode cX2_pass 2 = .ok (.iconst 0, 1) := dk_3 (dk_at dksX2_pass_0 2 rfl rfl)
theorem dX2_pass_3 : decode cX2_pass 3 = .ok (.istore_n 3, 1) := dk_62 (dk_at dksX2_pass_0 3 rfl rfl)
theorem dX2_pass_4 : decode cX2_pass 4 = .ok (.iload_n 3, 1) := dk_29 (dk_at dksX2_pass_0 4 rfl rfl)
theorem dX2_pass_5 : decode cX2_pass 5 = .ok (.iload_n 1, 1) := dk_27 (dk_at dksX2_pass_0 5 rfl rfl)
theorem dX2_pass_6 : decode cX2_pass 6 = .ok (.if_icmp .ge 16, 3) := dk_162 0 16 (dk_at dksX2_pass_0 6 rfl rfl)
theorem dX2_pass_9 : decode cX2_pass 9 = .ok (.iload_n 2, 1) := dk_28 (dk_at dksX2_pass_0 9 rfl rfl)
theorem dX2_pass_10 : decode cX2_pass 10 = .ok (.aload_n 0, 1) := dk_42 (dk_at dksX2_pass_0 10 rfl rfl)
theorem dX2_pass_11 : decode cX2_pass 11 = .ok (.invokevirtual 191, 3) := dk_182 0 191 (dk_at dksX2_pass_0 11 rfl rfl)
theorem dX2_pass_14 : decode cX2_pass 14 = .ok (.iadd, 1) := dk_96 (dk_at dksX2_pass_0 14 rfl rfl)
theorem dX2_pass_15 : decode cX2_pass 15 = .ok (.istore_n 2, 1) := dk_61 (dk_at dksX2_pass_0 15 rfl rfl)
theorem dX2_pass_16 : decode cX2_pass 16 = .ok (.iinc 3 1, 3) := dk_132 3 1 (dk_at dksX2_pass_0 16 rfl rfl)
theorem dX2_pass_19 : decode cX2_pass 19 = .ok (.goto (-15), 3) := dk_167 255 241 (dk_at dksX2_pass_0 19 rfl rfl)
theorem dX2_pass_22 : decode cX2_pass 22 = .ok (.iload_n 2, 1) := dk_28 (dk_at dksX2_pass_0 22 rfl rfl)
theorem dX2_pass_23 : decode cX2_pass 23 = .ok (.ireturn, 1) := dk_172 (dk_at dksX2_pass_0 23 rfl rfl)
abbrev cX2_strike : ByteArray := prog_16_method_18_code
def yX2_strike : MethodName := ⟨RX2, "strike", "(I)I"⟩
def dkwX2_strike_1 : List UInt8 := [172]
abbrev dktX2_strike_1 : List UInt8 := dkwX2_strike_1 ++ []
def dkwX2_strike_0 : List UInt8 := [42, 89, 180, 0, 78, 4, 96, 181, 0, 78, 42, 180, 0, 26, 27, 182, 0, 165, 192, 0, 60, 180, 0, 169]
abbrev dktX2_strike_0 : List UInt8 := dkwX2_strike_0 ++ dktX2_strike_1
theorem dksX2_strike_0 : cX2_strike.data.toList.drop 0 = dktX2_strike_0 := by decide +kernel
theorem dksX2_strike_1 : cX2_strike.data.toList.drop 24 = dktX2_strike_1 := dk_seg dksX2_strike_0 24 rfl rfl
theorem dX2_strike_0 : decode cX2_strike 0 = .ok (.aload_n 0, 1) := dk_42 (dk_at dksX2_strike_0 0 rfl rfl)
theorem dX2_strike_1 : decode cX2_strike 1 = .ok (.dup, 1) := dk_89 (dk_at dksX2_strike_0 1 rfl rfl)
theorem dX2_strike_2 : decode cX2_strike 2 = .ok (.getfield 78, 3) := dk_180 0 78 (dk_at dksX2_strike_0 2 rfl rfl)
theorem dX2_strike_5 : decode cX2_strike 5 = .ok (.iconst 1, 1) := dk_4 (dk_at dksX2_strike_0 5 rfl rfl)
theorem dX2_strike_6 : decode cX2_strike 6 = .ok (.iadd, 1) := dk_96 (dk_at dksX2_strike_0 6 rfl rfl)
theorem dX2_strike_7 : decode cX2_strike 7 = .ok (.putfield 78, 3) := dk_181 0 78 (dk_at dksX2_strike_0 7 rfl rfl)
theorem dX2_strike_10 : decode cX2_strike 10 = .ok (.aload_n 0, 1) := dk_42 (dk_at dksX2_strike_0 10 rfl rfl)
theorem dX2_strike_11 : decode cX2_strike 11 = .ok (.getfield 26, 3) := dk_180 0 26 (dk_at dksX2_strike_0 11 rfl rfl)
theorem dX2_strike_14 : decode cX2_strike 14 = .ok (.iload_n 1, 1) := dk_27 (dk_at dksX2_strike_0 14 rfl rfl)
theorem dX2_strike_15 : decode cX2_strike 15 = .ok (.invokevirtual 165, 3) := dk_182 0 165 (dk_at dksX2_strike_0 15 rfl rfl)
theorem dX2_strike_18 : decode cX2_strike 18 = .ok (.checkcast 60, 3) := dk_192 0 60 (dk_at dksX2_strike_0 18 rfl rfl)
theorem dX2_strike_21 : decode cX2_strike 21 = .ok (.getfield 169, 3) := dk_180 0 169 (dk_at dksX2_strike_0 21 rfl rfl)
theorem dX2_strike_24 : decode cX2_strike 24 = .ok (.ireturn, 1) := dk_172 (dk_at dksX2_strike_1 0 rfl rfl)
theorem q1280 : (Jvm.Cond.methodLink "SpanRuler$Ruler" (191 : Nat) ({ cls := "SpanRuler$Ruler", name := "tickGoesBy", desc := "()I" } : Jvm.MethodName)) ∈ lw_all := lw_g (lw_at lw_m6 20 rfl) rfl
theorem q1283 : (Jvm.Cond.code ({ cls := "SpanRuler$Ruler", name := "tickGoesBy", desc := "()I" } : Jvm.MethodName) prog_16_method_20_code (4 : Nat) (Option.some Jvm.ClassFile.FieldType.int)) ∈ lw_all := lw_g (lw_at lw_m6 23 rfl) rfl
theorem q1282 : (Jvm.Cond.instanceMethod ({ cls := "SpanRuler$Ruler", name := "tickGoesBy", desc := "()I" } : Jvm.MethodName)) ∈ lw_all := lw_g (lw_at lw_m6 22 rfl) rfl
theorem q254 : (Jvm.Cond.fieldLink "SpanRuler$Ruler" (78 : Nat) "SpanRuler$Ruler" "struck" "I") ∈ lw_all := lw_g (lw_at lw_m1 194 rfl) rfl
theorem du_last {R : Nat → Int32} : ∀ (n p : Nat), du (n + 1) p R = du n p R + (if R (72 + 5 * (p + n) + 4) = 0 then 1 else 0) := by
  intro n
  induction n with
  | zero => intro p; simp [du]
  | succ n ih =>
    intro p
    show (if R (72 + 5 * p + 4) = 0 then 1 else 0) + du (n + 1) (p + 1) R = ((if R (72 + 5 * p + 4) = 0 then 1 else 0) + du n (p + 1) R) + _
    rw [ih (p + 1), show p + 1 + n = p + (n + 1) by omega]
    exact (Nat.add_assoc _ _ _).symm
theorem l3_N : ∀ (n : Nat) (S : Nat → Int32), rN S ≤ 10 → n ≤ rN S → rN (l3 n S) + du n 0 S = rN S := by
  intro n
  induction n with
  | zero => intro S _ _; rfl
  | succ n ih =>
    intro S h10 hn
    rw [du_last, Nat.zero_add, l3]
    by_cases d : S (72 + 5 * n + 4) = 0
    · rw [if_pos d, if_pos d]
      have e := rGoes_N (k := n) h10
      have t := ih (upd (rGoes n S) 4 (rGoes n S 4 + 1)) (by rw [l3N, e]; omega) (by rw [l3N, e]; omega)
      rw [l3N, e, du_congr (R := S) n 0 (fun q _ b => by rw [upd_ne (by omega), rGoes_a (by omega) (by omega) (by omega)])] at t
      omega
    · rw [if_neg d, if_neg d]
      have t := ih S h10 (by omega)
      omega
theorem l3_nz : ∀ (n : Nat) (S : Nat → Int32), rN S ≤ 10 → n ≤ rN S → (∀ p, n ≤ p → p < rN S → S (72 + 5 * p + 4) ≠ 0) → ∀ p, p < rN (l3 n S) → l3 n S (72 + 5 * p + 4) ≠ 0 := by
  intro n
  induction n with
  | zero => intro S _ _ h p hp; exact h p (Nat.zero_le _) hp
  | succ n ih =>
    intro S h10 hn h
    rw [l3]
    by_cases d : S (72 + 5 * n + 4) = 0
    · rw [if_pos d]
      have e := rGoes_N (k := n) h10
      refine ih _ (by rw [l3N, e]; omega) (by rw [l3N, e]; omega) (fun p hp hp2 => ?_)
      rw [l3N, e] at hp2
      rw [upd_ne (by omega), rGoes_b hp hp2 (by omega)]
      exact h (p + 1) (by omega) (by omega)
    · rw [if_neg d]
      refine ih S h10 (by omega) (fun p hp hp2 => ?_)
      by_cases e : p = n
      · subst e; exact d
      · exact h p (by omega) hp2
theorem l2_q : ∀ (m k : Nat) (R : Nat → Int32) (v : Int32), (∀ p, k ≤ p → p < k + m → NoteOk R p) → ∀ q, (q = 1 ∨ q = 2 ∨ 40 ≤ q) → (l2 m k R v).2 q = R q := by
  intro m
  induction m with
  | zero => intro k R v _ q _; rfl
  | succ m ih =>
    intro k R v h q hq
    rw [l2]
    have s := sp_T (h k (Nat.le_refl _) (by omega))
    split
    · split
      · have eq : ∀ q, (q = 1 ∨ q = 2 ∨ 40 ≤ q) → rAct (R (72 + 5 * k + 0)) (R (72 + 5 * k + 3)) (nF R k) (nT R k) R q = R q := fun q hq => by
          rcases hq with e | e | e
          · subst e; exact rAct_off (by omega) (by omega)
          · subst e; exact rAct_off (by omega) (by omega)
          · exact rAct_q s.2.2.2 e
        rw [ih (k + 1) _ _ (fun p a b => (h p (by omega) (by omega)).congr (fun w _ => (eq _ (by omega)).symm)) q hq, eq q hq]
      · exact ih (k + 1) _ _ (fun p a b => h p (by omega) (by omega)) q hq
    · exact ih (k + 1) _ _ (fun p a b => h p (by omega) (by omega)) q hq
theorem rDecs_off : ∀ (n p : Nat) (R : Nat → Int32) (q : Nat), (∀ r, p ≤ r → r < p + n → q ≠ 72 + 5 * r + 4) → rDecs n p R q = R q := by
  intro n
  induction n with
  | zero => intro p R q _; rfl
  | succ n ih =>
    intro p R q h
    exact (ih (p + 1) _ q (fun r a b => h r (by omega) (by omega))).trans (upd_ne (h p (Nat.le_refl _) (by omega)))
theorem rDecs_in : ∀ (n p : Nat) (R : Nat → Int32) (r : Nat), p ≤ r → r < p + n → rDecs n p R (72 + 5 * r + 4) = R (72 + 5 * r + 4) - 1 := by
  intro n
  induction n with
  | zero => intro p R r h1 h2; omega
  | succ n ih =>
    intro p R r h1 h2
    show rDecs n (p + 1) (upd R (72 + 5 * p + 4) (R (72 + 5 * p + 4) - 1)) (72 + 5 * r + 4) = _
    by_cases e : r = p
    · subst e
      rw [rDecs_off n (r + 1) _ _ (fun q a b => by omega), upd_at]
    · rw [ih (p + 1) _ r (by omega) (by omega), upd_ne (by omega)]
theorem tT1_N (R : Nat → Int32) : rN (tT1 R) = rN R := by unfold rN tT1; rw [rDecs_1 _ _ _ _ (by omega), upd_ne (by omega)]
theorem tT1_ok {R : Nat → Int32} (hi : RInv R) (ht : TkOk R) : ∀ p, p < rN R → NoteOk (tT1 R) p := by
  intro p hp
  obtain ⟨k1, k2, k3, k4⟩ := hi.2.2.2.2.1 p hp
  have e : ∀ w, w < 4 → tT1 R (72 + 5 * p + w) = R (72 + 5 * p + w) := fun w hw => by unfold tT1; rw [rDecs_off _ _ _ _ (fun r _ _ => by omega), upd_ne (by omega)]
  unfold NoteOk
  rw [e 0 (by omega), e 1 (by omega), e 2 (by omega), e 3 (by omega)]
  refine ⟨k1, k2, k3, ?_⟩
  unfold tT1
  rw [rDecs_in _ _ _ _ (Nat.zero_le _) (by omega), upd_ne (by omega)]
  exact tk_pred (ht p hp)
theorem tT2_q {R : Nat → Int32} (hi : RInv R) (ht : TkOk R) {q : Nat} (hq : q = 1 ∨ q = 2 ∨ 40 ≤ q) : (tT2 R).2 q = tT1 R q := l2_q _ _ _ _ (fun p _ h => tT1_ok hi ht p (by omega)) q hq
theorem tT2_N {R : Nat → Int32} (hi : RInv R) (ht : TkOk R) : rN (tT2 R).2 = rN R := by
  unfold rN; rw [tT2_q hi ht (Or.inl rfl)]; exact tT1_N R
theorem rTick_q {R : Nat → Int32} {q : Nat} (h3 : q ≠ 3) (h4 : q ≠ 4) : (rTick R).2 q = tT3 R q := by
  show upd (upd (tT3 R) 4 (tT3 R 4 - (tT2 R).1)) 3 (tT3 R 3 + (tT2 R).1) q = _
  rw [upd_ne h3, upd_ne h4]
theorem rTick_N {R : Nat → Int32} (hi : RInv R) (ht : TkOk R) : rN (rTick R).2 + du (rN R) 0 (tT1 R) = rN R := by
  have h10 := hi.1.2
  have e2 := tT2_N hi ht
  have t := l3_N (rN R) (tT2 R).2 (by omega) (by omega)
  rw [du_congr (R := tT1 R) (rN R) 0 (fun q _ _ => tT2_q hi ht (by omega)), e2] at t
  have e3 : rN (rTick R).2 = rN (l3 (rN R) (tT2 R).2) := by
    show nn ((rTick R).2 1) = nn (tT3 R 1)
    rw [rTick_q (by omega) (by omega)]
  rw [e3]; exact t
theorem rTick_tk {R : Nat → Int32} (hi : RInv R) (ht : TkOk R) (hi2 : RInv (rTick R).2) : TkOk (rTick R).2 := by
  intro p hp
  have h10 := hi.1.2
  have e2 := tT2_N hi ht
  have t := l3_nz (rN R) (tT2 R).2 (by omega) (by omega) (fun p a b => by omega)
  have e3 : rN (rTick R).2 = rN (l3 (rN R) (tT2 R).2) := by
    show nn ((rTick R).2 1) = nn (tT3 R 1)
    rw [rTick_q (by omega) (by omega)]
  have n := t p (by rw [← e3]; exact hp)
  have e4 : (rTick R).2 (72 + 5 * p + 4) = l3 (rN R) (tT2 R).2 (72 + 5 * p + 4) := by
    rw [rTick_q (by omega) (by omega)]; rfl
  obtain ⟨-, -, -, k⟩ := hi2.2.2.2.2.1 p hp
  rw [e4] at k ⊢
  obtain ⟨a1, a2⟩ := inR_i.mp k
  obtain ⟨i, hi3, ei⟩ := nI_of2 (M := 20) (n := 20) rfl (Int32.not_lt.mpr a1) a2
  rw [ei] at n ⊢
  have : i ≠ 0 := fun z => n (by rw [z]; rfl)
  exact inR_i.mpr ⟨nI_le (a := 1) (b := i) (by omega) (by omega), nI_le (a := i) (b := 20) (by omega) (by omega)⟩
/-- ticks go by -/
def rPass : Nat → Int32 → (Nat → Int32) → Int32 × (Nat → Int32)
  | 0, v, R => (v, R)
  | n + 1, v, R => rPass n (v + (rTick R).1) (rTick R).2
theorem RulerM.inv {G : GE} {h0 h : AH} {a : Nat} {R : Nat → Int32} (x : RulerM G h0 h a R) : RInv R := by
  obtain ⟨rt, cl, nl, nd, nc, nm, nf, vl, vd, vc, vm, vf, y, z⟩ := x
  exact y.2.2.2.2.2.1
theorem u_pass (l : Launch) (G : GE) (h0 h : AH) (a : Nat) (R : Nat → Int32) (m0 : RulerM G h0 h a R) (tko : TkOk R) (many : Nat) (hm : many < 100) : GM l G yX2_pass (ws_ yX2_pass cX2_pass 4 (some .int)) 16 [.ref a, .int (nI many)] (h) ((5 * many + 2000 * rN R)) (PR fun u h' => u = .int (rPass many 0 R).1 ∧ RulerM G h0 h' a (rPass many 0 R).2 ∧ TkOk (rPass many 0 R).2) := by
  refine GM.of (by decide) (dk rfl) ?_
  intro X eL eG eh ok fn
  subst eL; subst eG
  show GW X _ 0 0 [some (.ref a), some (.int (nI many)), none, none] []
  obtain ⟨rt, cl, nl, nd, nc, nm, nf, vl, vd, vc, vm, vf, y1, z1⟩ := id m0
  have mq2 : RQ X.G h (fun q => h0 q = none) a R rt cl [.ref nl, .ref vl, .int (R 3), .int (R 4), .int (R 5), .int (R 0), .int (R 6), .int (R 7)] := y1.1
  obtain ⟨ra1, rT1, cf1, rc1, rf1⟩ := id mq2
  have nca1 : cl ≠ a := fun z_ => by have w_ := rc1; rw [z_, ra1] at w_; cases w_
  refine g_iconst ok (v := 0) dX2_pass_0 rfl ?_
  refine g_istore_n ok dX2_pass_1 (ls1 := [some (.ref a), some (.int (nI many)), some (.int 0), none]) (dl rfl) rfl ?_
  refine g_iconst ok (v := 0) dX2_pass_2 rfl ?_
  refine g_istore_n ok dX2_pass_3 (ls1 := [some (.ref a), some (.int (nI many)), some (.int 0), some (.int 0)]) (dl rfl) rfl ?_
  have lp : ∀ (n : Nat) (c : Nat) (v : Int32) (S : Nat → Int32) (Hlp : AH) (klp : Nat), (c + n = many) → (rPass n v S = rPass many 0 R) → (TkOk S) → (RulerM X.G h0 Hlp a S) → (klp + (5 * n + 2000 * rN S) ≤ (5 * many + 2000 * rN R)) → GW X Hlp klp 4 [some (.ref a), some (.int (nI many)), some (.int v), some (.int (nI c))] [] := by
    intro n
    induction n with
    | zero => 
      intro c v S Hlp klp lph0 lph1 lph2 mlp blp
      obtain ⟨rt, cl, nl, nd, nc, nm, nf, vl, vd, vc, vm, vf, y3, z3⟩ := id mlp
      have mq4 : RQ X.G Hlp (fun q => h0 q = none) a S rt cl [.ref nl, .ref vl, .int (S 3), .int (S 4), .int (S 5), .int (S 0), .int (S 6), .int (S 7)] := y3.1
      obtain ⟨ra2, rT2, cf2, rc2, rf2⟩ := id mq4
      have nca2 : cl ≠ a := fun z_ => by have w_ := rc2; rw [z_, ra2] at w_; cases w_
      refine g_iload_n ok dX2_pass_4 rfl ?_
      refine g_iload_n ok dX2_pass_5 rfl ?_
      refine g_icmp_ge ok (tgt := 22) dX2_pass_6 (by decide) (fun _ => ?_) (fun c_ => absurd (nI_le (a := many) (b := c) (by omega) (by omega)) c_)
      refine g_iload_n ok dX2_pass_22 rfl ?_
      have eF : (v, S) = rPass many 0 R := lph1
      rw [← eF] at fn
      exact g_iret ok fn rfl dX2_pass_23 ⟨_, rfl, rfl, ⟨rt, cl, nl, nd, nc, nm, nf, vl, vd, vc, vm, vf, y3, z3⟩, lph2⟩ (by omega)
    | succ n ih => 
      intro c v S Hlp klp lph0 lph1 lph2 mlp blp
      obtain ⟨rt, cl, nl, nd, nc, nm, nf, vl, vd, vc, vm, vf, y3, z3⟩ := id mlp
      have mq4 : RQ X.G Hlp (fun q => h0 q = none) a S rt cl [.ref nl, .ref vl, .int (S 3), .int (S 4), .int (S 5), .int (S 0), .int (S 6), .int (S 7)] := y3.1
      obtain ⟨ra2, rT2, cf2, rc2, rf2⟩ := id mq4
      have nca2 : cl ≠ a := fun z_ => by have w_ := rc2; rw [z_, ra2] at w_; cases w_
      refine g_iload_n ok dX2_pass_4 rfl ?_
      refine g_iload_n ok dX2_pass_5 rfl ?_
      refine g_icmp_ge ok (tgt := 22) dX2_pass_6 (by decide) (fun c_ => absurd c_ (nI_ge (a := c) (b := many) (by omega) (by omega))) (fun _ => ?_)
      have iS := y3.2.2.2.2.2.1
      have eN := rTick_N iS lph2
      refine g_iload_n ok dX2_pass_9 rfl ?_
      refine g_aload_n ok dX2_pass_10 rfl ?_
      refine g_callV ok q1280 q1282 qs10 q62 q1283 (Recv.ob ok gc_X2 (Rd.h (ra2))) dX2_pass_11 (u_tick X.l X.G h0 _ a S ⟨rt, cl, nl, nd, nc, nm, nf, vl, vd, vc, vm, vf, y3, z3⟩ lph2) (nm_ (by decide : nmb _ 0 = true)) (dl rfl) (dk rfl) rfl rfl (dk rfl) (by omega) (kR fun u1_ h1_ ⟨e1_, m1_⟩ => ?_) xR
      subst e1_
      obtain ⟨rt, cl, nl, nd, nc, nm, nf, vl, vd, vc, vm, vf, y5, z5⟩ := id m1_
      have mq6 : RQ X.G h1_ (fun q => h0 q = none) a ((rTick S).2) rt cl [.ref nl, .ref vl, .int ((rTick S).2 3), .int ((rTick S).2 4), .int ((rTick S).2 5), .int ((rTick S).2 0), .int ((rTick S).2 6), .int ((rTick S).2 7)] := y5.1
      obtain ⟨ra3, rT3, cf3, rc3, rf3⟩ := id mq6
      have nca3 : cl ≠ a := fun z_ => by have w_ := rc3; rw [z_, ra3] at w_; cases w_
      refine g_iadd ok dX2_pass_14 ?_
      refine g_istore_n ok dX2_pass_15 (ls1 := [some (.ref a), some (.int (nI many)), some (.int (v + (rTick S).1)), some (.int (nI c))]) (dl rfl) rfl ?_
      refine g_iincN ok dX2_pass_16 (c := c) rfl rfl (ls1 := [some (.ref a), some (.int (nI many)), some (.int (v + (rTick S).1)), some (.int (nI (c + 1)))]) rfl ?_
      refine g_goto ok dX2_pass_19 (tgt := 4) (by decide) ?_
      exact ih (c + 1) (v + (rTick S).1) _ _ _ (by omega) (by rw [← lph1]; rfl) (rTick_tk iS lph2 (RulerM.inv ⟨rt, cl, nl, nd, nc, nm, nf, vl, vd, vc, vm, vf, y5, z5⟩)) ⟨rt, cl, nl, nd, nc, nm, nf, vl, vd, vc, vm, vf, y5, z5⟩ (by omega)
  exact lp many 0 0 R _ _ (by omega) rfl tko m0 (by omega)
theorem u_strike (l : Launch) (G : GE) (h0 h : AH) (a : Nat) (R : Nat → Int32) (m0 : RulerM G h0 h a R) (p : Nat) (hp : p < rN R) : GM l G yX2_strike (ws_ yX2_strike cX2_strike 2 (some .int)) 13 [.ref a, .int (nI p)] (h) (0) (PR fun u h' => u = .int (R (72 + 5 * p + 4)) ∧ RulerM G h0 h' a (rGoes p (upd R 5 (R 5 + 1)))) := by
  refine GM.of (by decide) (dk rfl) ?_
  intro X eL eG eh ok fn
  subst eL; subst eG
  show GW X _ 0 0 [some (.ref a), some (.int (nI p))] []
  obtain ⟨rt, cl, nl, nd, nc, nm, nf, vl, vd, vc, vm, vf, y1, z1⟩ := id m0
  have mq2 : RQ X.G h (fun q => h0 q = none) a R rt cl [.ref nl, .ref vl, .int (R 3), .int (R 4), .int (R 5), .int (R 0), .int (R 6), .int (R 7)] := y1.1
  obtain ⟨ra1, rT1, cf1, rc1, rf1⟩ := id mq2
  have nca1 : cl ≠ a := fun z_ => by have w_ := rc1; rw [z_, ra1] at w_; cases w_
  refine g_aload_n ok dX2_strike_0 rfl ?_
  refine g_dup ok dX2_strike_1 rfl ?_
  refine g_get ok ck_X2 6 q254 (Or.inl rfl) (by decide) dX2_strike_2 (Rd.h (ra1)) rfl ?_
  refine g_iconst ok (v := 1) dX2_strike_5 rfl ?_
  refine g_iadd ok dX2_strike_6 ?_
  refine g_put ok ck_X2 6 q254 (Or.inl rfl) (by decide) rfl dX2_strike_7 (ra1) (dl rfl) rfl rfl (fs1 := [.ref rt, .ref cl, .ref nl, .ref vl, .int (R 3), .int (R 4), .int ((R 5) + 1), .int (R 0), .int (R 6), .int (R 7)]) rfl (?_)
  have m5 := RulerM.set5 (v := R 5 + 1) y1 z1
  generalize eH3 : (up h a (ob 1 [.ref rt, .ref cl, .ref nl, .ref vl, .int (R 3), .int (R 4), .int ((R 5) + 1), .int (R 0), .int (R 6), .int (R 7)])) = Hg3 at m5 ⊢
  obtain ⟨rt, cl, nl, nd, nc, nm, nf, vl, vd, vc, vm, vf, y3, z3⟩ := id m5
  have mq4 : RQ X.G Hg3 (fun q => h0 q = none) a (upd R 5 (R 5 + 1)) rt cl [.ref nl, .ref vl, .int ((upd R 5 (R 5 + 1)) 3), .int ((upd R 5 (R 5 + 1)) 4), .int ((upd R 5 (R 5 + 1)) 5), .int ((upd R 5 (R 5 + 1)) 0), .int ((upd R 5 (R 5 + 1)) 6), .int ((upd R 5 (R 5 + 1)) 7)] := y3.1
  obtain ⟨ra2, rT2, cf2, rc2, rf2⟩ := id mq4
  have nca2 : cl ≠ a := fun z_ => by have w_ := rc2; rw [z_, ra2] at w_; cases w_
  have eN : rN (upd R 5 (R 5 + 1)) = rN R := by unfold rN; rw [upd_ne (by omega)]
  obtain ⟨b, kb, nb⟩ := y3.2.2.1 p (by omega)
  refine g_aload_n ok dX2_strike_10 rfl ?_
  refine g_get ok ck_X2 2 q246 (Or.inl rfl) (by decide) dX2_strike_11 (Rd.h (ra2)) rfl ?_
  refine g_iload_n ok dX2_strike_14 rfl ?_
  refine g_callV ok q1253 q1123 q1124 q70 q1125 (Recv.ob ok gc_J2 (Rd.h y3.2.1.1)) dX2_strike_15 (al_remove X.l X.G _ nl nd nc (rN (upd R 5 (R 5 + 1))) nm nf y3.2.1 p (by omega) (els_note y3) b kb) (nm_ (by decide : nmb _ 1 = true)) (dl rfl) (dk rfl) rfl rfl (dk rfl) (by omega) (kR fun u1_ h1_ ⟨e1_, k1_⟩ => ?_) xR
  subst e1_
  have nb7 := taken_note k1_ y3.2.1 (by omega) nb
  have m7 := RulerM.goes y3 z3 (k := p) (by omega) k1_
  refine g_castE ok q811 dX2_strike_18 (Recv.ob ok gc_X10 (Rd.h (nb7))) ?_
  refine g_getN ok ck_X10 4 q835 rfl (by decide) dX2_strike_21 (Rd.h (nb7)) rfl ?_
  exact g_iret ok fn rfl dX2_strike_24 ⟨_, rfl, congrArg Value.int (upd_ne (by omega)), m7⟩ (by omega)
