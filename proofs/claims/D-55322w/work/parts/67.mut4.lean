/-! a ruler is changed, 4: paint, ticks -/
set_option maxRecDepth 100000
abbrev cX2_paint : ByteArray := prog_16_method_22_code
def yX2_paint : MethodName := ⟨RX2, "paint", "(III)I"⟩
def dkwX2_paint_2 : List UInt8 := [167, 255, 218, 42, 89, 180, 0, 87, 21, 4, 96, 181, 0, 87, 21, 4, 172]
abbrev dktX2_paint_2 : List UInt8 := dkwX2_paint_2 ++ []
def dkwX2_paint_1 : List UInt8 := [160, 0, 7, 3, 167, 0, 4, 4, 96, 54, 4, 42, 180, 0, 19, 21, 5, 29, 79, 132, 5, 1]
abbrev dktX2_paint_1 : List UInt8 := dkwX2_paint_1 ++ dktX2_paint_2
def dkwX2_paint_0 : List UInt8 := [3, 54, 4, 27, 54, 5, 21, 5, 28, 163, 0, 38, 21, 4, 42, 180, 0, 19, 21, 5, 46, 29]
abbrev dktX2_paint_0 : List UInt8 := dkwX2_paint_0 ++ dktX2_paint_1
theorem dksX2_paint_0 : cX2_paint.data.toList.drop 0 = dktX2_paint_0 := by decide +kernel
theorem dksX2_paint_1 : cX2_paint.data.toList.drop 22 = dktX2_paint_1 := dk_seg dksX2_paint_0 22 rfl rfl
theorem dksX2_paint_2 : cX2_paint.data.toList.drop 44 = dktX2_paint_2 := dk_seg dksX2_paint_1 22 rfl rfl
theorem dX2_paint_0 : decode cX2_paint 0 = .ok (.iconst 0, 1) := dk_3 (dk_at dksX2_paint_0 0 rfl rfl)
theorem dX2_paint_1 : decode cX2_paint 1 = .ok (.istore 4, 2) := dk_54 4 (dk_at dksX2_paint_0 1 rfl rfl)
theorem dX2_paint_3 : decode cX2_paint 3 = .ok (.iload_n 1, 1) := dk_27 (dk_at dksX2_paint_0 3 rfl rfl)
theorem dX2_paint_4 : decode cX2_paint 4 = .ok (.istore 5, 2) := dk_54 5 (dk_at dksX2_paint_0 4 rfl rfl)
theorem dX2_paint_6 : decode cX2_paint 6 = .ok (.iload 5, 2) := dk_21 5 (dk_at dksX2_paint_0 6 rfl rfl)
theorem dX2_paint_8 : decode cX2_paint 8 = .ok (.iload_n 2, 1) := dk_28 (dk_at dksX2_paint_0 8 rfl rfl)
theorem dX2_paint_9 : decode cX2_paint 9 = .ok (.if_icmp .gt 38, 3) := dk_163 0 38 (dk_at dksX2_paint_0 9 rfl rfl)
theorem dX2_paint_12 : decode cX2_paint 12 = .ok (.iload 4, 2) := dk_21 4 (dk_at dksX2_paint_0 12 rfl rfl)
theorem dX2_paint_14 : decode cX2_paint 14 = .ok (.aload_n 0, 1) := dk_42 (dk_at dksX2_paint_0 14 rfl rfl)
theorem dX2_paint_15 : decode cX2_paint 15 = .ok (.getfield 19, 3) := dk_180 0 19 (dk_at dksX2_paint_0 15 rfl rfl)
theorem dX2_paint_18 : decode cX2_paint 18 = .ok (.iload 5, 2) := dk_21 5 (dk_at dksX2_paint_0 18 rfl rfl)
theorem dX2_paint_20 : decode cX2_paint 20 = .ok (.iaload, 1) := dk_46 (dk_at dksX2_paint_0 20 rfl rfl)
theorem dX2_paint_21 : decode cX2_paint 21 = .ok (.iload_n 3, 1) := dk_29 (dk_at dksX2_paint_0 21 rfl rfl)
theorem dX2_paint_22 : decode cX2_paint 22 = .ok (.if_icmp .ne 7, 3) := dk_160 0 7 (dk_at dksX2_paint_1 0 rfl rfl)
theorem dX2_paint_25 : decode cX2_paint 25 = .ok (.iconst 0, 1) := dk_3 (dk_at dksX2_paint_1 3 rfl rfl)
theorem dX2_paint_26 : decode cX2_paint 26 = .ok (.goto 4, 3) := dk_167 0 4 (dk_at dksX2_paint_1 4 rfl rfl)
theorem dX2_paint_29 : decode cX2_paint 29 = .ok (.iconst 1, 1) := dk_4 (dk_at dksX2_paint_1 7 rfl rfl)
theorem dX2_paint_30 : decode cX2_paint 30 = .ok (.iadd, 1) := dk_96 (dk_at dksX2_paint_1 8 rfl rfl)
theorem dX2_paint_31 : decode cX2_paint 31 = .ok (.istore 4, 2) := dk_54 4 (dk_at dksX2_paint_1 9 rfl rfl)
theorem dX2_paint_33 : decode cX2_paint 33 = .ok (.aload_n 0, 1) := dk_42 (dk_at dksX2_paint_1 11 rfl rfl)
theorem dX2_paint_34 : decode cX2_paint 34 = .ok (.getfield 19, 3) := dk_180 0 19 (dk_at dksX2_paint_1 12 rfl rfl)
theorem dX2_paint_37 : decode cX2_paint 37 = .ok (.iload 5, 2) := dk_21 5 (dk_at dksX2_paint_1 15 rfl rfl)
theorem dX2_paint_39 : decode cX2_paint 39 = .ok (.iload_n 3, 1) := dk_29 (dk_at dksX2_paint_1 17 rfl rfl)
theorem dX2_paint_40 : decode cX2_paint 40 = .ok (.iastore, 1) := dk_79 (dk_at dksX2_paint_1 18 rfl rfl)
theorem dX2_paint_41 : decode cX2_paint 41 = .ok (.iinc 5 1, 3) := dk_132 5 1 (dk_at dksX2_paint_1 19 rfl rfl)
theorem dX2_paint_44 : decode cX2_paint 44 = .ok (.goto (-38), 3) := dk_167 255 218 (dk_at dksX2_paint_2 0 rfl rfl)
theorem dX2_paint_47 : decode cX2_paint 47 = .ok (.aload_n 0, 1) := dk_42 (dk_at dksX2_paint_2 3 rfl rfl)
theorem dX2_paint_48 : decode cX2_paint 48 = .ok (.dup, 1) := dk_89 (dk_at dksX2_paint_2 4 rfl rfl)
theorem dX2_paint_49 : decode cX2_paint 49 = .ok (.getfield 87, 3) := dk_180 0 87 (dk_at dksX2_paint_2 5 rfl rfl)
theorem dX2_paint_52 : decode cX2_paint 52 = .ok (.iload 4, 2) := dk_21 4 (dk_at dksX2_paint_2 8 rfl rfl)
theorem dX2_paint_54 : decode cX2_paint 54 = .ok (.iadd, 1) := dk_96 (dk_at dksX2_paint_2 10 rfl rfl)
theorem dX2_paint_55 : decode cX2_paint 55 = .ok (.putfield 87, 3) := dk_181 0 87 (dk_at dksX2_paint_2 11 rfl rfl)
theorem dX2_paint_58 : decode cX2_paint 58 = .ok (.iload 4, 2) := dk_21 4 (dk_at dksX2_paint_2 14 rfl rfl)
theorem dX2_paint_60 : decode cX2_paint 60 = .ok (.ireturn, 1) := dk_172 (dk_at dksX2_paint_2 16 rfl rfl)
theorem q260 : (Jvm.Cond.fieldLink "SpanRuler$Ruler" (87 : Nat) "SpanRuler$Ruler" "painted" "I") ∈ lw_all := lw_g (lw_at lw_m1 200 rfl) rfl
theorem RF.kp {G : GE} {h0 h h' : AH} {a rt cl nl nd nc vl vd vc : Nat} {R : Nat → Int32} {nm vm : Int32} {nf vf : Nat → Option Nat} (y : Rul G h (fun q => h0 q = none) a R rt cl nl nd nc nm nf vl vd vc vm vf) (z : Frs G h0 h a R cl nl nd nc nf vl vd vc vf) (k : KeepAll h0 h') (ho : ∀ q ci l, h q = some (ob ci l) → ci < 13 → h' q = some (ob ci l)) (ha : ∀ q y, h q = some (.inl y) → h' q = some (.inl y)) : Rul G h' (fun q => h0 q = none) a R rt cl nl nd nc nm nf vl vd vc vm vf ∧ Frs G h0 h' a R cl nl nd nc nf vl vd vc vf := by
  refine ⟨y.kp (fun q ci l w w2 => ho _ _ _ w (by omega)) ha (TreeAt.keep 5 _ _ _ (by decide) y.1.2.1 (fun q e w w2 => ?_)), z.mono k fun j hj b hb => ?_⟩
  · rcases w2 with ⟨-, ci, i, j, fs, e1, e2, -⟩ | ⟨l, e1⟩
    · subst e1; exact ho _ _ _ w (by omega)
    · subst e1; exact ho _ _ _ w (by omega)
  · obtain ⟨l, w⟩ := y.vb hj hb
    rw [w, ho _ _ _ w (by omega)]
theorem RF.new {G : GE} {h0 h : AH} {a rt cl nl nd nc vl vd vc t : Nat} {R : Nat → Int32} {nm vm : Int32} {nf vf : Nat → Option Nat} {e : va_E} (y : Rul G h (fun q => h0 q = none) a R rt cl nl nd nc nm nf vl vd vc vm vf) (z : Frs G h0 h a R cl nl nd nc nf vl vd vc vf) (ht : h t = none) : Rul G (up h t e) (fun q => h0 q = none) a R rt cl nl nd nc nm nf vl vd vc vm vf ∧ Frs G h0 (up h t e) a R cl nl nd nc nf vl vd vc vf :=
  have ne : ∀ q y, h q = some y → q ≠ t := fun q y w z => by subst z; rw [ht] at w; cases w
  RF.kp y z (z.1.trans (KeepAll.new ht)) (fun q ci l w _ => (up_ne (ne q _ w)).trans w) (fun q y w => (up_ne (ne q _ w)).trans w)
theorem RF.put {G : GE} {h0 h : AH} {a rt cl nl nd nc vl vd vc t ci : Nat} {R : Nat → Int32} {nm vm : Int32} {nf vf : Nat → Option Nat} {e : va_E} {l : List Value} (y : Rul G h (fun q => h0 q = none) a R rt cl nl nd nc nm nf vl vd vc vm vf) (z : Frs G h0 h a R cl nl nd nc nf vl vd vc vf) (ht : h t = some (ob ci l)) (hc : 13 ≤ ci) (h0t : h0 t = none) : Rul G (up h t e) (fun q => h0 q = none) a R rt cl nl nd nc nm nf vl vd vc vm vf ∧ Frs G h0 (up h t e) a R cl nl nd nc nf vl vd vc vf :=
  RF.kp y z (z.1.put h0t) (fun q ci' l' w v => (up_ne (fun z => by subst z; rw [ht] at w; cases w; omega)).trans w) (fun q y w => (up_ne (fun z => by subst z; rw [ht] at w; cases w)).trans w)
/-- painting, as the ruler does it -/
def rpl (x : Int32) : Nat → Nat → Int32 → (Nat → Int32) → Int32 × (Nat → Int32)
  | 0, _, m, R => (m, R)
  | n + 1, c, m, R => rpl x n (c + 1) (if R (40 + c) = x then m else m + 1) (upd R (40 + c) x)
/-- ticks of all notes from p on go down -/
def rDecs : Nat → Nat → (Nat → Int32) → Nat → Int32
  | 0, _, R => R
  | n + 1, p, R => rDecs n (p + 1) (upd R (72 + 5 * p + 4) (R (72 + 5 * p + 4) - 1))
abbrev nF (R : Nat → Int32) (p : Nat) : Nat := nn (R (72 + 5 * p + 1))
abbrev nT (R : Nat → Int32) (p : Nat) : Nat := nn (R (72 + 5 * p + 2))
abbrev nL (R : Nat → Int32) (p : Nat) : Int32 := lvF R (R (72 + 5 * p + 0)) (R (72 + 5 * p + 3)) (nT R p + 1 - nF R p) (nF R p)
/-- due notes are done -/
def l2 : Nat → Nat → (Nat → Int32) → Int32 → Int32 × (Nat → Int32)
  | 0, _, R, v => (v, R)
  | m + 1, k, R, v => if R (72 + 5 * k + 4) = 0 then (if nL R k = -1 then l2 m (k + 1) (rAct (R (72 + 5 * k + 0)) (R (72 + 5 * k + 3)) (nF R k) (nT R k) R) (v + 1) else l2 m (k + 1) R v) else l2 m (k + 1) R v
/-- due notes go -/
def l3 : Nat → (Nat → Int32) → Nat → Int32
  | 0, R => R
  | n + 1, R => if R (72 + 5 * n + 4) = 0 then l3 n (upd (rGoes n R) 4 (rGoes n R 4 + 1)) else l3 n R
/-- how many are due -/
def du : Nat → Nat → (Nat → Int32) → Nat
  | 0, _, _ => 0
  | n + 1, p, R => (if R (72 + 5 * p + 4) = 0 then 1 else 0) + du n (p + 1) R
theorem du_congr {R S : Nat → Int32} : ∀ (n p : Nat), (∀ q, p ≤ q → q < p + n → S (72 + 5 * q + 4) = R (72 + 5 * q + 4)) → du n p S = du n p R := by
  intro n
  induction n with
  | zero => intro p _; rfl
  | succ n ih =>
    intro p h
    show (if S (72 + 5 * p + 4) = 0 then 1 else 0) + du n (p + 1) S = (if R (72 + 5 * p + 4) = 0 then 1 else 0) + du n (p + 1) R
    rw [h p (Nat.le_refl _) (by omega), ih (p + 1) (fun q a b => h q (by omega) (by omega))]
def tT1 (R : Nat → Int32) : Nat → Int32 := rDecs (rN R) 0 (upd R 0 (R 0 + 1))
def tT2 (R : Nat → Int32) : Int32 × (Nat → Int32) := l2 (rN R) 0 (tT1 R) 0
def tT3 (R : Nat → Int32) : Nat → Int32 := l3 (rN R) (tT2 R).2
def rTick (R : Nat → Int32) : Int32 × (Nat → Int32) := ((tT2 R).1, upd (upd (tT3 R) 4 (tT3 R 4 - (tT2 R).1)) 3 (tT3 R 3 + (tT2 R).1))
def TkOk (R : Nat → Int32) : Prop := ∀ p, p < rN R → inR (R (72 + 5 * p + 4)) 1 20 = true
theorem tk_pred {x : Int32} (h : inR x 1 20 = true) : inR (x - 1) 0 20 = true := by
  obtain ⟨a1, a2⟩ := inR_i.mp h
  have h0 : ¬ x < 0 := Int32.not_lt.mpr (Int32.le_trans (by decide) a1)
  obtain ⟨i, hi, rfl⟩ := nI_of2 (M := 20) (n := 20) rfl h0 a2
  cases i with
  | zero => exact absurd a1 (by decide)
  | succ i =>
    rw [nI_pred]
    exact inR_i.mpr ⟨nI_pos' (by omega), nI_le (a := i) (b := 20) (by omega) (by omega)⟩
theorem i32_m1 (x : Int32) : x + (-1) = x - 1 := (Int32.sub_eq_add_neg x 1).symm
theorem RulerM.set3 {G : GE} {h0 h : AH} {a rt cl nl nd nc vl vd vc : Nat} {R : Nat → Int32} {nm vm v : Int32} {nf vf : Nat → Option Nat} (y : Rul G h (fun q => h0 q = none) a R rt cl nl nd nc nm nf vl vd vc vm vf) (z : Frs G h0 h a R cl nl nd nc nf vl vd vc vf) : RulerM G h0 (up h a (ob 1 [.ref rt, .ref cl, .ref nl, .ref vl, .int v, .int (R 4), .int (R 5), .int (R 0), .int (R 6), .int (R 7)])) a (upd R 3 v) := by
  have m := RulerM.setR (S := upd R 3 v) y z (Chg.refl _ _ _ _) (y.1.2.1.congr (fun c _ _ => (upd_ne (by omega)).symm)) (fun q hq => upd_ne (by omega))
  unfold rof at m
  rw [upd_at, upd_ne (j := 4) (by omega), upd_ne (j := 5) (by omega), upd_ne (j := 0) (by omega), upd_ne (j := 6) (by omega), upd_ne (j := 7) (by omega)] at m
  exact m
theorem RulerM.set4 {G : GE} {h0 h : AH} {a rt cl nl nd nc vl vd vc : Nat} {R : Nat → Int32} {nm vm v : Int32} {nf vf : Nat → Option Nat} (y : Rul G h (fun q => h0 q = none) a R rt cl nl nd nc nm nf vl vd vc vm vf) (z : Frs G h0 h a R cl nl nd nc nf vl vd vc vf) : RulerM G h0 (up h a (ob 1 [.ref rt, .ref cl, .ref nl, .ref vl, .int (R 3), .int v, .int (R 5), .int (R 0), .int (R 6), .int (R 7)])) a (upd R 4 v) := by
  have m := RulerM.setR (S := upd R 4 v) y z (Chg.refl _ _ _ _) (y.1.2.1.congr (fun c _ _ => (upd_ne (by omega)).symm)) (fun q hq => upd_ne (by omega))
  unfold rof at m
  rw [upd_ne (j := 3) (by omega), upd_at, upd_ne (j := 5) (by omega), upd_ne (j := 0) (by omega), upd_ne (j := 6) (by omega), upd_ne (j := 7) (by omega)] at m
  exact m
theorem RulerM.set5 {G : GE} {h0 h : AH} {a rt cl nl nd nc vl vd vc : Nat} {R : Nat → Int32} {nm vm v : Int32} {nf vf : Nat → Option Nat} (y : Rul G h (fun q => h0 q = none) a R rt cl nl nd nc nm nf vl vd vc vm vf) (z : Frs G h0 h a R cl nl nd nc nf vl vd vc vf) : RulerM G h0 (up h a (ob 1 [.ref rt, .ref cl, .ref nl, .ref vl, .int (R 3), .int (R 4), .int v, .int (R 0), .int (R 6), .int (R 7)])) a (upd R 5 v) := by
  have m := RulerM.setR (S := upd R 5 v) y z (Chg.refl _ _ _ _) (y.1.2.1.congr (fun c _ _ => (upd_ne (by omega)).symm)) (fun q hq => upd_ne (by omega))
  unfold rof at m
  rw [upd_ne (j := 3) (by omega), upd_ne (j := 4) (by omega), upd_at, upd_ne (j := 0) (by omega), upd_ne (j := 6) (by omega), upd_ne (j := 7) (by omega)] at m
  exact m
theorem RulerM.set0 {G : GE} {h0 h : AH} {a rt cl nl nd nc vl vd vc : Nat} {R : Nat → Int32} {nm vm v : Int32} {nf vf : Nat → Option Nat} (y : Rul G h (fun q => h0 q = none) a R rt cl nl nd nc nm nf vl vd vc vm vf) (z : Frs G h0 h a R cl nl nd nc nf vl vd vc vf) : RulerM G h0 (up h a (ob 1 [.ref rt, .ref cl, .ref nl, .ref vl, .int (R 3), .int (R 4), .int (R 5), .int v, .int (R 6), .int (R 7)])) a (upd R 0 v) := by
  have m := RulerM.setR (S := upd R 0 v) y z (Chg.refl _ _ _ _) (y.1.2.1.congr (fun c _ _ => (upd_ne (by omega)).symm)) (fun q hq => upd_ne (by omega))
  unfold rof at m
  rw [upd_ne (j := 3) (by omega), upd_ne (j := 4) (by omega), upd_ne (j := 5) (by omega), upd_at, upd_ne (j := 6) (by omega), upd_ne (j := 7) (by omega)] at m
  exact m
theorem RulerM.set6 {G : GE} {h0 h : AH} {a rt cl nl nd nc vl vd vc : Nat} {R : Nat → Int32} {nm vm v : Int32} {nf vf : Nat → Option Nat} (y : Rul G h (fun q => h0 q = none) a R rt cl nl nd nc nm nf vl vd vc vm vf) (z : Frs G h0 h a R cl nl nd nc nf vl vd vc vf) : RulerM G h0 (up h a (ob 1 [.ref rt, .ref cl, .ref nl, .ref vl, .int (R 3), .int (R 4), .int (R 5), .int (R 0), .int v, .int (R 7)])) a (upd R 6 v) := by
  have m := RulerM.setR (S := upd R 6 v) y z (Chg.refl _ _ _ _) (y.1.2.1.congr (fun c _ _ => (upd_ne (by omega)).symm)) (fun q hq => upd_ne (by omega))
  unfold rof at m
  rw [upd_ne (j := 3) (by omega), upd_ne (j := 4) (by omega), upd_ne (j := 5) (by omega), upd_ne (j := 0) (by omega), upd_at, upd_ne (j := 7) (by omega)] at m
  exact m
theorem RulerM.set7 {G : GE} {h0 h : AH} {a rt cl nl nd nc vl vd vc : Nat} {R : Nat → Int32} {nm vm v : Int32} {nf vf : Nat → Option Nat} (y : Rul G h (fun q => h0 q = none) a R rt cl nl nd nc nm nf vl vd vc vm vf) (z : Frs G h0 h a R cl nl nd nc nf vl vd vc vf) : RulerM G h0 (up h a (ob 1 [.ref rt, .ref cl, .ref nl, .ref vl, .int (R 3), .int (R 4), .int (R 5), .int (R 0), .int (R 6), .int v])) a (upd R 7 v) := by
  have m := RulerM.setR (S := upd R 7 v) y z (Chg.refl _ _ _ _) (y.1.2.1.congr (fun c _ _ => (upd_ne (by omega)).symm)) (fun q hq => upd_ne (by omega))
  unfold rof at m
  rw [upd_ne (j := 3) (by omega), upd_ne (j := 4) (by omega), upd_ne (j := 5) (by omega), upd_ne (j := 0) (by omega), upd_ne (j := 6) (by omega), upd_at] at m
  exact m
theorem u_paint (l : Launch) (G : GE) (h0 h : AH) (a : Nat) (R : Nat → Int32) (m0 : RulerM G h0 h a R) (i j : Nat) (hij : i ≤ j) (hj : j < 32) (x : Int32) (hx : isCo x = true) : GM l G yX2_paint (ws_ yX2_paint cX2_paint 6 (some .int)) 13 [.ref a, .int (nI i), .int (nI j), .int x] (h) (0) (PR fun u h' => u = .int (rpl x (j + 1 - i) i 0 R).1 ∧ RulerM G h0 h' a (upd (rpl x (j + 1 - i) i 0 R).2 7 ((rpl x (j + 1 - i) i 0 R).2 7 + (rpl x (j + 1 - i) i 0 R).1))) := by
  refine GM.of (by decide) (dk rfl) ?_
  intro X eL eG eh ok fn
  subst eL; subst eG
  show GW X _ 0 0 [some (.ref a), some (.int (nI i)), some (.int (nI j)), some (.int x), none, none] []
  obtain ⟨rt, cl, nl, nd, nc, nm, nf, vl, vd, vc, vm, vf, y1, z1⟩ := id m0
  have mq2 : RQ X.G h (fun q => h0 q = none) a R rt cl [.ref nl, .ref vl, .int (R 3), .int (R 4), .int (R 5), .int (R 0), .int (R 6), .int (R 7)] := y1.1
  obtain ⟨ra1, rT1, cf1, rc1, rf1⟩ := id mq2
  have nca1 : cl ≠ a := fun z_ => by have w_ := rc1; rw [z_, ra1] at w_; cases w_
  refine g_iconst ok (v := 0) dX2_paint_0 rfl ?_
  refine g_istore ok dX2_paint_1 (ls1 := [some (.ref a), some (.int (nI i)), some (.int (nI j)), some (.int x), some (.int 0), none]) (dl rfl) rfl ?_
  refine g_iload_n ok dX2_paint_3 rfl ?_
  refine g_istore ok dX2_paint_4 (ls1 := [some (.ref a), some (.int (nI i)), some (.int (nI j)), some (.int x), some (.int 0), some (.int (nI i))]) (dl rfl) rfl ?_
  have lp : ∀ (n : Nat) (c : Nat) (m : Int32) (S : Nat → Int32) (Hlp : AH) (klp : Nat), (c + n = j + 1) → (rpl x n c m S = rpl x (j + 1 - i) i 0 R) → (RulerM X.G h0 Hlp a S) → (klp + 0 * n ≤ 0) → GW X Hlp klp 6 [some (.ref a), some (.int (nI i)), some (.int (nI j)), some (.int x), some (.int m), some (.int (nI c))] [] := by
    intro n
    induction n with
    | zero => 
      intro c m S Hlp klp lph0 lph1 mlp blp
      obtain ⟨rt, cl, nl, nd, nc, nm, nf, vl, vd, vc, vm, vf, y3, z3⟩ := id mlp
      have mq4 : RQ X.G Hlp (fun q => h0 q = none) a S rt cl [.ref nl, .ref vl, .int (S 3), .int (S 4), .int (S 5), .int (S 0), .int (S 6), .int (S 7)] := y3.1
      obtain ⟨ra2, rT2, cf2, rc2, rf2⟩ := id mq4
      have nca2 : cl ≠ a := fun z_ => by have w_ := rc2; rw [z_, ra2] at w_; cases w_
      refine g_iload ok dX2_paint_6 rfl ?_
      refine g_iload_n ok dX2_paint_8 rfl ?_
      refine g_icmp_gt ok (tgt := 47) dX2_paint_9 (by decide) (fun _ => ?_) (fun c_ => absurd (nI_lt (a := j) (b := c) (by omega) (by omega)) c_)
      refine g_aload_n ok dX2_paint_47 rfl ?_
      refine g_dup ok dX2_paint_48 rfl ?_
      refine g_get ok ck_X2 9 q260 (Or.inl rfl) (by decide) dX2_paint_49 (Rd.h (ra2)) rfl ?_
      refine g_iload ok dX2_paint_52 rfl ?_
      refine g_iadd ok dX2_paint_54 ?_
      refine g_put ok ck_X2 9 q260 (Or.inl rfl) (by decide) rfl dX2_paint_55 (ra2) (dl rfl) rfl rfl (fs1 := [.ref rt, .ref cl, .ref nl, .ref vl, .int (S 3), .int (S 4), .int (S 5), .int (S 0), .int (S 6), .int ((S 7) + m)]) rfl (?_)
      refine g_iload ok dX2_paint_58 rfl ?_
      have mm := RulerM.set7 (v := S 7 + m) y3 z3
      have eF : (m, S) = rpl x (j + 1 - i) i 0 R := lph1
      rw [← eF] at fn
      exact g_iret ok fn rfl dX2_paint_60 ⟨_, rfl, rfl, mm⟩ (by omega)
    | succ n ih => 
      intro c m S Hlp klp lph0 lph1 mlp blp
      obtain ⟨rt, cl, nl, nd, nc, nm, nf, vl, vd, vc, vm, vf, y3, z3⟩ := id mlp
      have mq4 : RQ X.G Hlp (fun q => h0 q = none) a S rt cl [.ref nl, .ref vl, .int (S 3), .int (S 4), .int (S 5), .int (S 0), .int (S 6), .int (S 7)] := y3.1
      obtain ⟨ra2, rT2, cf2, rc2, rf2⟩ := id mq4
      have nca2 : cl ≠ a := fun z_ => by have w_ := rc2; rw [z_, ra2] at w_; cases w_
      refine g_iload ok dX2_paint_6 rfl ?_
      refine g_iload_n ok dX2_paint_8 rfl ?_
      refine g_icmp_gt ok (tgt := 47) dX2_paint_9 (by decide) (fun c_ => absurd c_ (nI_nlt (a := j) (b := c) (by omega) (by omega))) (fun _ => ?_)
      refine g_iload ok dX2_paint_12 rfl ?_
      refine g_aload_n ok dX2_paint_14 rfl ?_
      refine g_get ok ck_X2 1 q244 (Or.inl rfl) (by decide) dX2_paint_15 (Rd.h (ra2)) rfl ?_
      refine g_iload ok dX2_paint_18 rfl ?_
      refine g_iald ok (j := c) dX2_paint_20 (Rd.h (rc2)) rfl (by omega) (by omega) ?_
      rw [rf2 c (by omega)]
      refine g_iload_n ok dX2_paint_21 rfl ?_
      refine g_icmp_ne ok (tgt := 29) dX2_paint_22 (by decide) (fun c22 => ?_) (fun c22 => ?_)
      · refine g_iconst ok (v := 1) dX2_paint_29 rfl ?_
        refine g_iadd ok dX2_paint_30 ?_
        refine g_istore ok dX2_paint_31 (ls1 := [some (.ref a), some (.int (nI i)), some (.int (nI j)), some (.int x), some (.int (m + 1)), some (.int (nI c))]) (dl rfl) rfl ?_
        refine g_aload_n ok dX2_paint_33 rfl ?_
        refine g_get ok ck_X2 1 q244 (Or.inl rfl) (by decide) dX2_paint_34 (Rd.h (ra2)) rfl ?_
        refine g_iload ok dX2_paint_37 rfl ?_
        refine g_iload_n ok dX2_paint_39 rfl ?_
        refine g_iast ok (j := c) dX2_paint_40 (rc2) rfl (by omega) (by omega) ?_
        refine g_iincN ok dX2_paint_41 (c := c) rfl rfl (ls1 := [some (.ref a), some (.int (nI i)), some (.int (nI j)), some (.int x), some (.int (m + 1)), some (.int (nI (c + 1)))]) rfl ?_
        refine g_goto ok dX2_paint_44 (tgt := 6) (by decide) ?_
        exact ih (c + 1) (m + 1) _ _ _ (by omega) (by rw [← lph1, rpl]; simp [c22]) (Rul.paint y3 z3 rc2 rf2 (by omega) hx) (by omega)
      · refine g_iconst ok (v := 0) dX2_paint_25 rfl ?_
        refine g_goto ok dX2_paint_26 (tgt := 30) (by decide) ?_
        refine g_iadd ok dX2_paint_30 ?_
        refine g_istore ok dX2_paint_31 (ls1 := [some (.ref a), some (.int (nI i)), some (.int (nI j)), some (.int x), some (.int (m + 0)), some (.int (nI c))]) (dl rfl) rfl ?_
        refine g_aload_n ok dX2_paint_33 rfl ?_
        refine g_get ok ck_X2 1 q244 (Or.inl rfl) (by decide) dX2_paint_34 (Rd.h (ra2)) rfl ?_
        refine g_iload ok dX2_paint_37 rfl ?_
        refine g_iload_n ok dX2_paint_39 rfl ?_
        refine g_iast ok (j := c) dX2_paint_40 (rc2) rfl (by omega) (by omega) ?_
        refine g_iincN ok dX2_paint_41 (c := c) rfl rfl (ls1 := [some (.ref a), some (.int (nI i)), some (.int (nI j)), some (.int x), some (.int (m + 0)), some (.int (nI (c + 1)))]) rfl ?_
        refine g_goto ok dX2_paint_44 (tgt := 6) (by decide) ?_
        exact ih (c + 1) (m + 0) _ _ _ (by omega) (by rw [← lph1, rpl]; simp [c22]) (Rul.paint y3 z3 rc2 rf2 (by omega) hx) (by omega)
  exact lp (j + 1 - i) i 0 R _ _ (by omega) rfl m0 (by omega)
