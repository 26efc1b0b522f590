/-! a ruler is changed, 1 -/
set_option maxRecDepth 100000
abbrev cX2_does : ByteArray := prog_16_method_7_code
def yX2_does : MethodName := ⟨RX2, "does", "(IILSpanRuler$Act;)V"⟩
def dkwX2_does_0 : List UInt8 := [42, 180, 0, 13, 27, 28, 45, 184, 0, 113, 42, 89, 180, 0, 84, 4, 96, 181, 0, 84, 177]
abbrev dktX2_does_0 : List UInt8 := dkwX2_does_0 ++ []
theorem dksX2_does_0 : cX2_does.data.toList.drop 0 = dktX2_does_0 := by decide +kernel
theorem dX2_does_0 : decode cX2_does 0 = .ok (.aload_n 0, 1) := dk_42 (dk_at dksX2_does_0 0 rfl rfl)
theorem dX2_does_1 : decode cX2_does 1 = .ok (.getfield 13, 3) := dk_180 0 13 (dk_at dksX2_does_0 1 rfl rfl)
theorem dX2_does_4 : decode cX2_does 4 = .ok (.iload_n 1, 1) := dk_27 (dk_at dksX2_does_0 4 rfl rfl)
theorem dX2_does_5 : decode cX2_does 5 = .ok (.iload_n 2, 1) := dk_28 (dk_at dksX2_does_0 5 rfl rfl)
theorem dX2_does_6 : decode cX2_does 6 = .ok (.aload_n 3, 1) := dk_45 (dk_at dksX2_does_0 6 rfl rfl)
theorem dX2_does_7 : decode cX2_does 7 = .ok (.invokestatic 113, 3) := dk_184 0 113 (dk_at dksX2_does_0 7 rfl rfl)
theorem dX2_does_10 : decode cX2_does 10 = .ok (.aload_n 0, 1) := dk_42 (dk_at dksX2_does_0 10 rfl rfl)
theorem dX2_does_11 : decode cX2_does 11 = .ok (.dup, 1) := dk_89 (dk_at dksX2_does_0 11 rfl rfl)
theorem dX2_does_12 : decode cX2_does 12 = .ok (.getfield 84, 3) := dk_180 0 84 (dk_at dksX2_does_0 12 rfl rfl)
theorem dX2_does_15 : decode cX2_does 15 = .ok (.iconst 1, 1) := dk_4 (dk_at dksX2_does_0 15 rfl rfl)
theorem dX2_does_16 : decode cX2_does 16 = .ok (.iadd, 1) := dk_96 (dk_at dksX2_does_0 16 rfl rfl)
theorem dX2_does_17 : decode cX2_does 17 = .ok (.putfield 84, 3) := dk_181 0 84 (dk_at dksX2_does_0 17 rfl rfl)
theorem dX2_does_20 : decode cX2_does 20 = .ok (.return_, 1) := dk_177 (dk_at dksX2_does_0 20 rfl rfl)
theorem q1099 : (Jvm.Cond.methodLinkNest "SpanRuler$Ruler" (113 : Nat) ({ cls := "SpanRuler", name := "does", desc := "(LSpanRuler$Node;IILSpanRuler$Act;)V" } : Jvm.MethodName) "SpanRuler") ∈ lw_tbl := lw_at lw_m5 79 rfl
theorem q258 : (Jvm.Cond.fieldLink "SpanRuler$Ruler" (84 : Nat) "SpanRuler$Ruler" "acts" "I") ∈ lw_all := lw_g (lw_at lw_m1 198 rfl) rfl
/-- a ruler's parts besides its object and its tree -/
def RRest (G : GE) (h : AH) (R : Nat → Int32) (cl nl nd nc : Nat) (nm : Int32) (nf : Nat → Option Nat) (vl vd vc : Nat) (vm : Int32) (vf : Nat → Option Nat) : Prop :=
  (∃ cf, h cl = some (aI G 32 cf) ∧ ∀ c, c < 32 → cf c = R (40 + c)) ∧ AL G h nl nd nc (rN R) nm nf ∧ (∀ p, p < rN R → ∃ b, nf p = some b ∧ NoteAt G h b R p) ∧ AL G h vl vd vc (rV R) vm vf ∧ (∀ j, j < rV R → ∃ b, vf j = some b ∧ VersAt G h b R j)
theorem Rul.rest {G : GE} {h : AH} {P : Nat → Prop} {a rt cl nl nd nc vl vd vc : Nat} {R : Nat → Int32} {nm vm : Int32} {nf vf : Nat → Option Nat} (x : Rul G h P a R rt cl nl nd nc nm nf vl vd vc vm vf) : RRest G h R cl nl nd nc nm nf vl vd vc vm vf := ⟨x.1.2.2, x.2.1, x.2.2.1, x.2.2.2.1, x.2.2.2.2.1⟩
theorem RRest.rul {G : GE} {h : AH} {P : Nat → Prop} {a rt cl nl nd nc vl vd vc : Nat} {R : Nat → Int32} {nm vm : Int32} {nf vf : Nat → Option Nat} (x : RRest G h R cl nl nd nc nm nf vl vd vc vm vf) (ha : h a = some (ob 1 (.ref rt :: .ref cl :: rof R nl vl))) (ht : TreeAt h P 5 (fun c => R (8 + c)) 0 rt) (hi : RInv R) (h1 : nc < 60) (h2 : vc < 60) : Rul G h P a R rt cl nl nd nc nm nf vl vd vc vm vf := ⟨⟨ha, ht, x.1⟩, x.2.1, x.2.2.1, x.2.2.2.1, x.2.2.2.2, hi, h1, h2⟩
theorem RRest.kp {G : GE} {h h' : AH} {cl nl nd nc vl vd vc : Nat} {R : Nat → Int32} {nm vm : Int32} {nf vf : Nat → Option Nat} (x : RRest G h R cl nl nd nc nm nf vl vd vc vm vf) (ho : ∀ q ci l, h q = some (ob ci l) → ci = 6 ∨ ci = 8 ∨ ci = 12 → h' q = some (ob ci l)) (ha : ∀ q y, h q = some (.inl y) → h' q = some (.inl y)) : RRest G h' R cl nl nd nc nm nf vl vd vc vm vf := by
  obtain ⟨⟨cf, h3, h4⟩, h5, h6, h7, h8⟩ := x
  refine ⟨⟨cf, ha _ _ h3, h4⟩, h5.kp (fun e z => ?_) (fun y z => ha _ y z), fun p hp => ?_, h7.kp (fun e z => ?_) (fun y z => ha _ y z), fun j hj => ?_⟩
  · have z2 := h5.1; rw [z] at z2; cases z2; exact ho _ _ _ z (by omega)
  · obtain ⟨b, k1, k2⟩ := h6 p hp; exact ⟨b, k1, ho _ _ _ k2 (by omega)⟩
  · have z2 := h7.1; rw [z] at z2; cases z2; exact ho _ _ _ z (by omega)
  · obtain ⟨b, k1, k2⟩ := h8 j hj; exact ⟨b, k1, k2.kp (fun q l z => ho _ _ _ z (by omega)) ha⟩
theorem RRest.congr {G : GE} {h : AH} {cl nl nd nc vl vd vc : Nat} {R S : Nat → Int32} {nm vm : Int32} {nf vf : Nat → Option Nat} (x : RRest G h R cl nl nd nc nm nf vl vd vc vm vf) (e : ∀ q, q = 1 ∨ q = 2 ∨ 40 ≤ q → S q = R q) : RRest G h S cl nl nd nc nm nf vl vd vc vm vf := by
  obtain ⟨⟨cf, h3, h4⟩, h5, h6, h7, h8⟩ := x
  have n1 : rN S = rN R := by unfold rN; rw [e 1 (by omega)]
  have n2 : rV S = rV R := by unfold rV; rw [e 2 (by omega)]
  refine ⟨⟨cf, h3, fun c hc => by rw [e _ (by omega)]; exact h4 c hc⟩, by rw [n1]; exact h5, ?_, by rw [n2]; exact h7, ?_⟩
  · rw [n1]; intro p hp
    obtain ⟨b, k1, k2⟩ := h6 p hp
    refine ⟨b, k1, ?_⟩
    unfold NoteAt at *
    rw [e _ (by omega), e (72 + 5 * p + 1) (by omega), e (72 + 5 * p + 2) (by omega), e (72 + 5 * p + 3) (by omega), e (72 + 5 * p + 4) (by omega)]; exact k2
  · rw [n2]; intro j hj
    obtain ⟨b, k1, na, ca, fn, fc, k2, k3, k4, k5⟩ := h8 j hj
    exact ⟨b, k1, na, ca, fn, fc, k2, k3, k4, fun c hc => by rw [e _ (by omega), e (122 + 64 * j + 32 + c) (by omega)]; exact k5 c hc⟩
theorem RInv.congr {R S : Nat → Int32} (x : RInv R) (e : ∀ q, q = 1 ∨ q = 2 ∨ 40 ≤ q → S q = R q) (hr : ∀ c, c < 32 → rg (S (8 + c))) : RInv S := by
  obtain ⟨i1, i2, i3, i4, i5, i6⟩ := x
  have n1 : rN S = rN R := by unfold rN; rw [e 1 (by omega)]
  have n2 : rV S = rV R := by unfold rV; rw [e 2 (by omega)]
  refine ⟨by rw [n1, e 1 (by omega)]; exact i1, by rw [n2, e 2 (by omega)]; exact i2, hr, fun c hc => by rw [e _ (by omega)]; exact i4 c hc, ?_, ?_⟩
  · rw [n1]; intro p hp; exact (i5 p hp).congr (fun w hw => (e _ (by omega)).symm)
  · rw [n2]; intro j hj c hc; rw [e _ (by omega), e (122 + 64 * j + 32 + c) (by omega)]; exact i6 j hj c hc
/-- the object's ints and the numbers are set -/
theorem RulerM.setR {G : GE} {h0 h h1 : AH} {a rt cl nl nd nc vl vd vc : Nat} {R S : Nat → Int32} {nm vm : Int32} {nf vf : Nat → Option Nat} (y : Rul G h (fun q => h0 q = none) a R rt cl nl nd nc nm nf vl vd vc vm vf) (z : Frs G h0 h a R cl nl nd nc nf vl vd vc vf) (c : Chg (fun q => h0 q = none) 0 32 h h1) (t : TreeAt h1 (fun q => h0 q = none) 5 (fun c => S (8 + c)) 0 rt) (e : ∀ q, q = 1 ∨ q = 2 ∨ 40 ≤ q → S q = R q) :
    RulerM G h0 (up h1 a (ob 1 (.ref rt :: .ref cl :: rof S nl vl))) a S := by
  have n1 : rN S = rN R := by unfold rN; rw [e 1 (by omega)]
  have n2 : rV S = rV R := by unfold rV; rw [e 2 (by omega)]
  have ra := c.other y.1.1 ⟨by decide, by decide⟩
  have ne1 : ∀ q ci l, h1 q = some (ob ci l) → ci ≠ 1 → q ≠ a := fun q ci l w n z => by subst z; rw [ra] at w; cases w; exact n rfl
  have ne2 : ∀ q y, h1 q = some (.inl y) → q ≠ a := fun q y w z => by subst z; rw [ra] at w; cases w
  have r1 : RRest G h1 R cl nl nd nc nm nf vl vd vc vm vf := y.rest.kp (fun q ci l w v => c.other w (by omega)) (fun q y w => c.arr w)
  have r2 : RRest G (up h1 a (ob 1 (.ref rt :: .ref cl :: rof S nl vl))) R cl nl nd nc nm nf vl vd vc vm vf := r1.kp (fun q ci l w v => (up_ne (ne1 q ci l w (by omega))).trans w) (fun q y w => (up_ne (ne2 q y w)).trans w)
  have t2 : TreeAt (up h1 a (ob 1 (.ref rt :: .ref cl :: rof S nl vl))) (fun q => h0 q = none) 5 (fun c => S (8 + c)) 0 rt := TreeAt.keep 5 _ _ _ (by decide) t (fun q e w v => by
    rw [up_ne (fun x => ?_)]; exact w
    subst x
    rw [ra] at w; cases w
    rcases v with ⟨-, ci, i, j, fs, e1, e2, -⟩ | ⟨l, e1⟩
    · have := (Prod.mk.inj (Sum.inr.inj e1)).1; omega
    · cases e1)
  have k1 : KeepAll h0 h1 := z.1.chg c
  have k2 : KeepAll h0 (up h1 a (ob 1 (.ref rt :: .ref cl :: rof S nl vl))) := k1.put z.2.1
  refine ⟨rt, cl, nl, nd, nc, nm, nf, vl, vd, vc, vm, vf, (r2.congr e).rul up_self t2 (y.2.2.2.2.2.1.congr e (fun c hc => t.rng c (Nat.zero_le _) (by have : sz 5 = 32 := rfl; omega))) y.2.2.2.2.2.2.1 y.2.2.2.2.2.2.2, ?_⟩
  have z' := z.mono k2 (fun j hj b hb => by
    obtain ⟨l, w⟩ := y.vb hj hb
    have w1 := c.other w ⟨by decide, by decide⟩
    rw [up_ne (ne1 _ _ _ w1 (by decide)), w1, w])
  unfold Frs at *
  rw [n1, n2]; exact z'
/-- an act on a span -/
def rAct (k x : Int32) (i j : Nat) (R : Nat → Int32) : Nat → Int32 := fun q => if 8 + i ≤ q ∧ q ≤ 8 + j then mby k (R q) x else if q = 6 then R 6 + 1 else R q
theorem rAct_off {k x : Int32} {i j q : Nat} {R : Nat → Int32} (h : q < 8 + i ∨ 8 + j < q) (h6 : q ≠ 6) : rAct k x i j R q = R q := by
  unfold rAct; rw [if_neg (by omega), if_neg h6]
theorem rAct_tree {h : AH} {P : Nat → Prop} {k x : Int32} {i j rt : Nat} {R : Nat → Int32} (t : TreeAt h P 5 (dact i j (fK k) (sK k x) (fun c => R (8 + c))) 0 rt) : TreeAt h P 5 (fun c => rAct k x i j R (8 + c)) 0 rt := t.congr (fun c _ _ => by
  unfold dact rAct
  by_cases z : i ≤ c ∧ c ≤ j
  · rw [if_pos z, if_pos (by omega), mby_fs]
  · rw [if_neg z, if_neg (by omega), if_neg (by omega)])
theorem RulerM.new {G : GE} {h0 h : AH} {a t : Nat} {R : Nat → Int32} {e : va_E} (x : RulerM G h0 h a R) (ht : h t = none) : RulerM G h0 (up h t e) a R := by
  have ne : ∀ q y, h q = some y → q ≠ t := fun q y w z => by subst z; rw [ht] at w; cases w
  exact x.kp (x.keep.trans (KeepAll.new ht)) (fun q ci l w _ => (up_ne (ne q _ w)).trans w) (fun q y w => (up_ne (ne q _ w)).trans w)
/-- a cell of another kind is written -/
theorem RulerM.put {G : GE} {h0 h : AH} {a t ci : Nat} {R : Nat → Int32} {l : List Value} {e : va_E} (x : RulerM G h0 h a R) (ht : h t = some (ob ci l)) (hc : 13 ≤ ci) (h0t : h0 t = none) : RulerM G h0 (up h t e) a R :=
  x.kp (x.keep.put h0t) (fun q ci' l' w v => (up_ne (fun z => by subst z; rw [ht] at w; cases w; omega)).trans w) (fun q y w => (up_ne (fun z => by subst z; rw [ht] at w; cases w)).trans w)
theorem u_does (l : Launch) (G : GE) (h0 h : AH) (a : Nat) (R : Nat → Int32) (m0 : RulerM G h0 h a R) (i j : Nat) (hij : i ≤ j) (hj : j < 32) (u : Nat) (k x : Int32) (ru : h u = some (ob 4 [.int (fK k), .int (sK k x)])) (hr : ∀ c, i ≤ c → c ≤ j → rg (mby k (R (8 + c)) x)) : GM l G yX2_does (ws_ yX2_does cX2_does 4 none) 11 [.ref a, .int (nI i), .int (nI j), .ref u] (h) (100) (PQ fun h' => RulerM G h0 h' a (rAct k x i j R)) := by
  refine GM.of (by decide) (dk rfl) ?_
  intro X eL eG eh ok fn
  subst eL; subst eG
  show GW X _ 0 0 [some (.ref a), some (.int (nI i)), some (.int (nI j)), some (.ref u)] []
  obtain ⟨rt, cl, nl, nd, nc, nm, nf, vl, vd, vc, vm, vf, y1, z1⟩ := id m0
  have mq2 : RQ X.G h (fun q => h0 q = none) a R rt cl [.ref nl, .ref vl, .int (R 3), .int (R 4), .int (R 5), .int (R 0), .int (R 6), .int (R 7)] := y1.1
  obtain ⟨ra1, rT1, cf1, rc1, rf1⟩ := id mq2
  have nca1 : cl ≠ a := fun z_ => by have w_ := rc1; rw [z_, ra1] at w_; cases w_
  refine g_aload_n ok dX2_does_0 rfl ?_
  refine g_get ok ck_X2 0 q243 (Or.inl rfl) (by decide) dX2_does_1 (Rd.h (ra1)) rfl ?_
  refine g_iload_n ok dX2_does_4 rfl ?_
  refine g_iload_n ok dX2_does_5 rfl ?_
  refine g_aload_n ok dX2_does_6 rfl ?_
  refine g_callSN ok q1099 q1100 q61 q1101 dX2_does_7 (q_does X.l X.G _ i j (fK k) (sK k x) (by omega) (by omega) (fK_fac k) 5 _ _ 0 rt u 100 rT1 (by decide) ru (fun c _ _ p q => by rw [← mby_fs]; exact hr c p q) (cst_two i (by omega) j (by omega))) (nm_ (by decide : nmb _ 4 = true)) (dl rfl) (dk rfl) rfl rfl (dk rfl) (by omega) (kQ fun h1 ⟨t1, c1⟩ => ?_) xQ
  have ra9 := c1.other ra1 ⟨by decide, by decide⟩
  refine g_aload_n ok dX2_does_10 rfl ?_
  refine g_dup ok dX2_does_11 rfl ?_
  refine g_get ok ck_X2 8 q258 (Or.inl rfl) (by decide) dX2_does_12 (Rd.h (ra9)) rfl ?_
  refine g_iconst ok (v := 1) dX2_does_15 rfl ?_
  refine g_iadd ok dX2_does_16 ?_
  refine g_put ok ck_X2 8 q258 (Or.inl rfl) (by decide) rfl dX2_does_17 (ra9) (dl rfl) rfl rfl (fs1 := [.ref rt, .ref cl, .ref nl, .ref vl, .int (R 3), .int (R 4), .int (R 5), .int (R 0), .int ((R 6) + 1), .int (R 7)]) rfl (?_)
  refine g_vret ok fn rfl dX2_does_20 ⟨rfl, ?_⟩ (by omega)
  have m := RulerM.setR (S := rAct k x i j R) y1 z1 c1 (rAct_tree t1) (fun q hq => rAct_off (by omega) (by omega))
  have e6 : rAct k x i j R 6 = R 6 + 1 := by unfold rAct; rw [if_neg (by omega), if_pos rfl]
  unfold rof at m; rw [rAct_off (by omega) (by omega), rAct_off (by omega) (by omega), rAct_off (by omega) (by omega), rAct_off (by omega) (by omega), e6, rAct_off (by omega) (by omega)] at m
  exact m
