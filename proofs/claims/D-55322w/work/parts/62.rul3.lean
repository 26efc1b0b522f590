/-! the ruler is asked, 3 -/
set_option maxRecDepth 100000
abbrev cX2_stretch : ByteArray := prog_16_method_13_code
def yX2_stretch : MethodName := ⟨RX2, "stretch", "(II)I"⟩
def dkwX2_stretch_2 : List UInt8 := [21, 4, 16, 32, 21, 6, 104, 96, 172, 132, 6, 1, 167, 255, 221, 132, 4, 1, 167, 255, 202, 2, 172]
abbrev dktX2_stretch_2 : List UInt8 := dkwX2_stretch_2 ++ []
def dkwX2_stretch_1 : List UInt8 := [21, 6, 28, 163, 0, 35, 21, 5, 42, 21, 6, 182, 0, 106, 96, 54, 5, 21, 5, 29, 160, 0, 12]
abbrev dktX2_stretch_1 : List UInt8 := dkwX2_stretch_1 ++ dktX2_stretch_2
def dkwX2_stretch_0 : List UInt8 := [42, 27, 28, 182, 0, 153, 62, 27, 54, 4, 21, 4, 28, 163, 0, 54, 3, 54, 5, 21, 4, 54, 6]
abbrev dktX2_stretch_0 : List UInt8 := dkwX2_stretch_0 ++ dktX2_stretch_1
theorem dksX2_stretch_0 : cX2_stretch.data.toList.drop 0 = dktX2_stretch_0 := by decide +kernel
theorem dksX2_stretch_1 : cX2_stretch.data.toList.drop 23 = dktX2_stretch_1 := dk_seg dksX2_stretch_0 23 rfl rfl
theorem dksX2_stretch_2 : cX2_stretch.data.toList.drop 46 = dktX2_stretch_2 := dk_seg dksX2_stretch_1 23 rfl rfl
theorem dX2_stretch_0 : decode cX2_stretch 0 = .ok (.aload_n 0, 1) := dk_42 (dk_at dksX2_stretch_0 0 rfl rfl)
theorem dX2_stretch_1 : decode cX2_stretch 1 = .ok (.iload_n 1, 1) := dk_27 (dk_at dksX2_stretch_0 1 rfl rfl)
theorem dX2_stretch_2 : decode cX2_stretch 2 = .ok (.iload_n 2, 1) := dk_28 (dk_at dksX2_stretch_0 2 rfl rfl)
theorem dX2_stretch_3 : decode cX2_stretch 3 = .ok (.invokevirtual 153, 3) := dk_182 0 153 (dk_at dksX2_stretch_0 3 rfl rfl)
theorem dX2_stretch_6 : decode cX2_stretch 6 = .ok (.istore_n 3, 1) := dk_62 (dk_at dksX2_stretch_0 6 rfl rfl)
theorem dX2_stretch_7 : decode cX2_stretch 7 = .ok (.iload_n 1, 1) := dk_27 (dk_at dksX2_stretch_0 7 rfl rfl)
theorem dX2_stretch_8 : decode cX2_stretch 8 = .ok (.istore 4, 2) := dk_54 4 (dk_at dksX2_stretch_0 8 rfl rfl)
theorem dX2_stretch_10 : decode cX2_stretch 10 = .ok (.iload 4, 2) := dk_21 4 (dk_at dksX2_stretch_0 10 rfl rfl)
theorem dX2_stretch_12 : decode cX2_stretch 12 = .ok (.iload_n 2, 1) := dk_28 (dk_at dksX2_stretch_0 12 rfl rfl)
theorem dX2_stretch_13 : decode cX2_stretch 13 = .ok (.if_icmp .gt 54, 3) := dk_163 0 54 (dk_at dksX2_stretch_0 13 rfl rfl)
theorem dX2_stretch_16 : decode cX2_stretch 16 = .ok (.iconst 0, 1) := dk_3 (dk_at dksX2_stretch_0 16 rfl rfl)
theorem dX2_stretch_17 : decode cX2_stretch 17 = .ok (.istore 5, 2) := dk_54 5 (dk_at dksX2_stretch_0 17 rfl rfl)
theorem dX2_stretch_19 : decode cX2_stretch 19 = .ok (.iload 4, 2) := dk_21 4 (dk_at dksX2_stretch_0 19 rfl rfl)
theorem dX2_stretch_21 : decode cX2_stretch 21 = .ok (.istore 6, 2) := dk_54 6 (dk_at dksX2_stretch_0 21 rfl rfl)
theorem dX2_stretch_23 : decode cX2_stretch 23 = .ok (.iload 6, 2) := dk_21 6 (dk_at dksX2_stretch_1 0 rfl rfl)
theorem dX2_stretch_25 : decode cX2_stretch 25 = .ok (.iload_n 2, 1) := dk_28 (dk_at dksX2_stretch_1 2 rfl rfl)
theorem dX2_stretch_26 : decode cX2_stretch 26 = .ok (.if_icmp .gt 35, 3) := dk_163 0 35 (dk_at dksX2_stretch_1 3 rfl rfl)
theorem dX2_stretch_29 : decode cX2_stretch 29 = .ok (.iload 5, 2) := dk_21 5 (dk_at dksX2_stretch_1 6 rfl rfl)
theorem dX2_stretch_31 : decode cX2_stretch 31 = .ok (.aload_n 0, 1) := dk_42 (dk_at dksX2_stretch_1 8 rfl rfl)
theorem dX2_stretch_32 : decode cX2_stretch 32 = .ok (.iload 6, 2) := dk_21 6 (dk_at dksX2_stretch_1 9 rfl rfl)
theorem dX2_stretch_34 : decode cX2_stretch 34 = .ok (.invokevirtual 106, 3) := dk_182 0 106 (dk_at dksX2_stretch_1 11 rfl rfl)
theorem dX2_stretch_37 : decode cX2_stretch 37 = .ok (.iadd, 1) := dk_96 (dk_at dksX2_stretch_1 14 rfl rfl)
theorem dX2_stretch_38 : decode cX2_stretch 38 = .ok (.istore 5, 2) := dk_54 5 (dk_at dksX2_stretch_1 15 rfl rfl)
theorem dX2_stretch_40 : decode cX2_stretch 40 = .ok (.iload 5, 2) := dk_21 5 (dk_at dksX2_stretch_1 17 rfl rfl)
theorem dX2_stretch_42 : decode cX2_stretch 42 = .ok (.iload_n 3, 1) := dk_29 (dk_at dksX2_stretch_1 19 rfl rfl)
theorem dX2_stretch_43 : decode cX2_stretch 43 = .ok (.if_icmp .ne 12, 3) := dk_160 0 12 (dk_at dksX2_stretch_1 20 rfl rfl)
theorem dX2_stretch_46 : decode cX2_stretch 46 = .ok (.iload 4, 2) := dk_21 4 (dk_at dksX2_stretch_2 0 rfl rfl)
theorem dX2_stretch_48 : decode cX2_stretch 48 = .ok (.bipush 32, 2) := dk_16 32 (dk_at dksX2_stretch_2 2 rfl rfl)
theorem dX2_stretch_50 : decode cX2_stretch 50 = .ok (.iload 6, 2) := dk_21 6 (dk_at dksX2_stretch_2 4 rfl rfl)
theorem dX2_stretch_52 : decode cX2_stretch 52 = .ok (.imul, 1) := dk_104 (dk_at dksX2_stretch_2 6 rfl rfl)
theorem dX2_stretch_53 : decode cX2_stretch 53 = .ok (.iadd, 1) := dk_96 (dk_at dksX2_stretch_2 7 rfl rfl)
theorem dX2_stretch_54 : decode cX2_stretch 54 = .ok (.ireturn, 1) := dk_172 (dk_at dksX2_stretch_2 8 rfl rfl)
theorem dX2_stretch_55 : decode cX2_stretch 55 = .ok (.iinc 6 1, 3) := dk_132 6 1 (dk_at dksX2_stretch_2 9 rfl rfl)
theorem dX2_stretch_58 : decode cX2_stretch 58 = .ok (.goto (-35), 3) := dk_167 255 221 (dk_at dksX2_stretch_2 12 rfl rfl)
theorem dX2_stretch_61 : decode cX2_stretch 61 = .ok (.iinc 4 1, 3) := dk_132 4 1 (dk_at dksX2_stretch_2 15 rfl rfl)
theorem dX2_stretch_64 : decode cX2_stretch 64 = .ok (.goto (-54), 3) := dk_167 255 202 (dk_at dksX2_stretch_2 18 rfl rfl)
theorem dX2_stretch_67 : decode cX2_stretch 67 = .ok (.iconst (-1), 1) := dk_2 (dk_at dksX2_stretch_2 21 rfl rfl)
theorem dX2_stretch_68 : decode cX2_stretch 68 = .ok (.ireturn, 1) := dk_172 (dk_at dksX2_stretch_2 22 rfl rfl)
abbrev cX2_extreme : ByteArray := prog_16_method_14_code
def yX2_extreme : MethodName := ⟨RX2, "extreme", "(IIZ)I"⟩
def dkwX2_extreme_2 : List UInt8 := [167, 255, 242, 21, 5, 172]
abbrev dktX2_extreme_2 : List UInt8 := dkwX2_extreme_2 ++ []
def dkwX2_extreme_1 : List UInt8 := [184, 0, 94, 54, 4, 27, 54, 5, 42, 21, 5, 182, 0, 106, 21, 4, 159, 0, 9, 132, 5, 1]
abbrev dktX2_extreme_1 : List UInt8 := dkwX2_extreme_1 ++ dktX2_extreme_2
def dkwX2_extreme_0 : List UInt8 := [29, 153, 0, 15, 42, 180, 0, 13, 27, 28, 184, 0, 103, 167, 0, 12, 42, 180, 0, 13, 27, 28]
abbrev dktX2_extreme_0 : List UInt8 := dkwX2_extreme_0 ++ dktX2_extreme_1
theorem dksX2_extreme_0 : cX2_extreme.data.toList.drop 0 = dktX2_extreme_0 := by decide +kernel
theorem dksX2_extreme_1 : cX2_extreme.data.toList.drop 22 = dktX2_extreme_1 := dk_seg dksX2_extreme_0 22 rfl rfl
theorem dksX2_extreme_2 : cX2_extreme.data.toList.drop 44 = dktX2_extreme_2 := dk_seg dksX2_extreme_1 22 rfl rfl
theorem dX2_extreme_0 : decode cX2_extreme 0 = .ok (.iload_n 3, 1) := dk_29 (dk_at dksX2_extreme_0 0 rfl rfl)
theorem dX2_extreme_1 : decode cX2_extreme 1 = .ok (.ifCond .eq 15, 3) := dk_153 0 15 (dk_at dksX2_extreme_0 1 rfl rfl)
theorem dX2_extreme_4 : decode cX2_extreme 4 = .ok (.aload_n 0, 1) := dk_42 (dk_at dksX2_extreme_0 4 rfl rfl)
theorem dX2_extreme_5 : decode cX2_extreme 5 = .ok (.getfield 13, 3) := dk_180 0 13 (dk_at dksX2_extreme_0 5 rfl rfl)
theorem dX2_extreme_8 : decode cX2_extreme 8 = .ok (.iload_n 1, 1) := dk_27 (dk_at dksX2_extreme_0 8 rfl rfl)
theorem dX2_extreme_9 : decode cX2_extreme 9 = .ok (.iload_n 2, 1) := dk_28 (dk_at dksX2_extreme_0 9 rfl rfl)
theorem dX2_extreme_10 : decode cX2_extreme 10 = .ok (.invokestatic 103, 3) := dk_184 0 103 (dk_at dksX2_extreme_0 10 rfl rfl)
theorem dX2_extreme_13 : decode cX2_extreme 13 = .ok (.goto 12, 3) := dk_167 0 12 (dk_at dksX2_extreme_0 13 rfl rfl)
theorem dX2_extreme_16 : decode cX2_extreme 16 = .ok (.aload_n 0, 1) := dk_42 (dk_at dksX2_extreme_0 16 rfl rfl)
theorem dX2_extreme_17 : decode cX2_extreme 17 = .ok (.getfield 13, 3) := dk_180 0 13 (dk_at dksX2_extreme_0 17 rfl rfl)
theorem dX2_extreme_20 : decode cX2_extreme 20 = .ok (.iload_n 1, 1) := dk_27 (dk_at dksX2_extreme_0 20 rfl rfl)
theorem dX2_extreme_21 : decode cX2_extreme 21 = .ok (.iload_n 2, 1) := dk_28 (dk_at dksX2_extreme_0 21 rfl rfl)
theorem dX2_extreme_22 : decode cX2_extreme 22 = .ok (.invokestatic 94, 3) := dk_184 0 94 (dk_at dksX2_extreme_1 0 rfl rfl)
theorem dX2_extreme_25 : decode cX2_extreme 25 = .ok (.istore 4, 2) := dk_54 4 (dk_at dksX2_extreme_1 3 rfl rfl)
theorem dX2_extreme_27 : decode cX2_extreme 27 = .ok (.iload_n 1, 1) := dk_27 (dk_at dksX2_extreme_1 5 rfl rfl)
theorem dX2_extreme_28 : decode cX2_extreme 28 = .ok (.istore 5, 2) := dk_54 5 (dk_at dksX2_extreme_1 6 rfl rfl)
theorem dX2_extreme_30 : decode cX2_extreme 30 = .ok (.aload_n 0, 1) := dk_42 (dk_at dksX2_extreme_1 8 rfl rfl)
theorem dX2_extreme_31 : decode cX2_extreme 31 = .ok (.iload 5, 2) := dk_21 5 (dk_at dksX2_extreme_1 9 rfl rfl)
theorem dX2_extreme_33 : decode cX2_extreme 33 = .ok (.invokevirtual 106, 3) := dk_182 0 106 (dk_at dksX2_extreme_1 11 rfl rfl)
theorem dX2_extreme_36 : decode cX2_extreme 36 = .ok (.iload 4, 2) := dk_21 4 (dk_at dksX2_extreme_1 14 rfl rfl)
theorem dX2_extreme_38 : decode cX2_extreme 38 = .ok (.if_icmp .eq 9, 3) := dk_159 0 9 (dk_at dksX2_extreme_1 16 rfl rfl)
theorem dX2_extreme_41 : decode cX2_extreme 41 = .ok (.iinc 5 1, 3) := dk_132 5 1 (dk_at dksX2_extreme_1 19 rfl rfl)
theorem dX2_extreme_44 : decode cX2_extreme 44 = .ok (.goto (-14), 3) := dk_167 255 242 (dk_at dksX2_extreme_2 0 rfl rfl)
theorem dX2_extreme_47 : decode cX2_extreme 47 = .ok (.iload 5, 2) := dk_21 5 (dk_at dksX2_extreme_2 3 rfl rfl)
theorem dX2_extreme_49 : decode cX2_extreme 49 = .ok (.ireturn, 1) := dk_172 (dk_at dksX2_extreme_2 5 rfl rfl)
theorem q1353 : (Jvm.Cond.methodLink "SpanRuler$Ruler" (153 : Nat) ({ cls := "SpanRuler$Ruler", name := "best", desc := "(II)I" } : Jvm.MethodName)) ∈ lw_all := lw_g (lw_at lw_m6 93 rfl) rfl
theorem q1329 : (Jvm.Cond.code ({ cls := "SpanRuler$Ruler", name := "best", desc := "(II)I" } : Jvm.MethodName) prog_16_method_11_code (7 : Nat) (Option.some Jvm.ClassFile.FieldType.int)) ∈ lw_all := lw_g (lw_at lw_m6 69 rfl) rfl
theorem q1327 : (Jvm.Cond.instanceMethod ({ cls := "SpanRuler$Ruler", name := "best", desc := "(II)I" } : Jvm.MethodName)) ∈ lw_all := lw_g (lw_at lw_m6 67 rfl) rfl
theorem q1328 : (Jvm.Cond.selects "SpanRuler$Ruler" ({ cls := "SpanRuler$Ruler", name := "best", desc := "(II)I" } : Jvm.MethodName) ({ cls := "SpanRuler$Ruler", name := "best", desc := "(II)I" } : Jvm.MethodName)) ∈ lw_all := lw_g (lw_at lw_m6 68 rfl) rfl
theorem q1054 : (Jvm.Cond.methodLinkNest "SpanRuler$Ruler" (94 : Nat) ({ cls := "SpanRuler", name := "greatestOf", desc := "(LSpanRuler$Node;II)I" } : Jvm.MethodName) "SpanRuler") ∈ lw_tbl := lw_at lw_m5 34 rfl
theorem q1060 : (Jvm.Cond.methodLinkNest "SpanRuler$Ruler" (103 : Nat) ({ cls := "SpanRuler", name := "leastOf", desc := "(LSpanRuler$Node;II)I" } : Jvm.MethodName) "SpanRuler") ∈ lw_tbl := lw_at lw_m5 40 rfl
/-- the first of the extreme cells -/
def FstX (R : Nat → Int32) (z : Int32) (i j c : Nat) : Prop := i ≤ c ∧ c ≤ j ∧ (∀ q, i ≤ q → q ≤ j → if z = 0 then R (8 + q) ≤ R (8 + c) else R (8 + c) ≤ R (8 + q)) ∧ ∀ q, i ≤ q → q < c → R (8 + q) ≠ R (8 + c)
theorem FstX.one {R : Nat → Int32} {z : Int32} {i j c d : Nat} (x : FstX R z i j c) (y : FstX R z i j d) : c = d := by
  obtain ⟨x1, x2, x3, x4⟩ := x
  obtain ⟨y1, y2, y3, y4⟩ := y
  have e : R (8 + c) = R (8 + d) := by
    have a := x3 d y1 y2
    have b := y3 c x1 x2
    by_cases hz : z = 0
    · rw [if_pos hz] at a b; exact Int32.le_antisymm b a
    · rw [if_neg hz] at a b; exact Int32.le_antisymm a b
  by_cases h : c < d
  · exact absurd e (y4 c x1 h)
  · by_cases h2 : d < c
    · exact absurd e.symm (x4 d y1 h2)
    · omega
theorem exl_fst {R : Nat → Int32} {z : Int32} {i : Nat} : ∀ (m c b : Nat), i ≤ b → b ≤ c → FstX R z i c b → FstX R z i (c + m) (exl R z m (c + 1) b) := by
  intro m
  induction m with
  | zero => intro c b h1 h2 h; exact h
  | succ m ih =>
    intro c b h1 h2 h
    have tr : exl R z (m + 1) (c + 1) b = exl R z m (c + 1 + 1) (cond (exT R z (c + 1) b) (c + 1) b) := rfl
    rw [tr, show c + (m + 1) = (c + 1) + m by omega]
    obtain ⟨k1, k2, k3, k4⟩ := h
    cases e : exT R z (c + 1) b with
    | true =>
      refine ih (c + 1) (c + 1) (by omega) (by omega) ⟨by omega, Nat.le_refl _, fun q q1 q2 => ?_, fun q q1 q2 => ?_⟩
      · unfold exT at e
        by_cases hz : z = 0
        · rw [if_pos hz] at e ⊢
          have e' := of_decide_eq_true e
          by_cases hq : q = c + 1
          · subst hq; exact Int32.le_refl _
          · have := k3 q q1 (by omega); rw [if_pos hz] at this; exact Int32.le_trans this (Int32.le_of_lt e')
        · rw [if_neg hz] at e ⊢
          have e' := of_decide_eq_true e
          by_cases hq : q = c + 1
          · subst hq; exact Int32.le_refl _
          · have := k3 q q1 (by omega); rw [if_neg hz] at this; exact Int32.le_trans (Int32.le_of_lt e') this
      · intro w
        have := k3 q q1 (by omega)
        unfold exT at e
        by_cases hz : z = 0
        · rw [if_pos hz] at e this
          have e' := of_decide_eq_true e
          rw [w] at this; exact absurd this (Int32.not_le.mpr e')
        · rw [if_neg hz] at e this
          have e' := of_decide_eq_true e
          rw [w] at this; exact absurd this (Int32.not_le.mpr e')
    | false =>
      refine ih (c + 1) b h1 (by omega) ⟨k1, by omega, fun q q1 q2 => ?_, k4⟩
      by_cases hq : q = c + 1
      · subst hq
        unfold exT at e
        by_cases hz : z = 0
        · rw [if_pos hz] at e ⊢; exact Int32.not_lt.mp (of_decide_eq_false e)
        · rw [if_neg hz] at e ⊢; exact Int32.not_lt.mp (of_decide_eq_false e)
      · exact k3 q q1 (by omega)
theorem exl_eq {R : Nat → Int32} {z : Int32} {i j c : Nat} (h : FstX R z i j c) : exl R z (j + 1 - i) i i = c := by
  have hij : i ≤ j := Nat.le_trans h.1 h.2.1
  have b0 : FstX R z i i i := ⟨Nat.le_refl _, Nat.le_refl _, fun q q1 q2 => by
    rw [show q = i by omega]; split <;> exact Int32.le_refl _, fun q q1 q2 => by omega⟩
  have t := exl_fst (R := R) (z := z) (j - i) i i (Nat.le_refl _) (Nat.le_refl _) b0
  rw [show i + (j - i) = j by omega] at t
  have e : exl R z (j + 1 - i) i i = exl R z (j - i) (i + 1) i := by
    rw [show j + 1 - i = (j - i) + 1 by omega]
    show exl R z (j - i) (i + 1) (cond (exT R z i i) i i) = _
    cases exT R z i i <;> rfl
  rw [e]
  exact t.one h
def dfv (p q r s : Nat → Int32) : Nat → Nat → Int32 → Int32
  | 0, _, v => v
  | n + 1, c, v => dfv p q r s n (c + 1) (if p c = r c ∧ q c = s c then v else v + 1)
/-- no number leaves its range -/
theorem lvF_no {R : Nat → Int32} {k x : Int32} : ∀ (n c : Nat), (∀ q, c ≤ q → q < c + n → inR (mby k (R (8 + q)) x) (-999) 999 = true) → lvF R k x n c = -1 := by
  intro n
  induction n with
  | zero => intro c _; rfl
  | succ n ih =>
    intro c h
    rw [lvF, h c (Nat.le_refl _) (by omega)]
    exact ih (c + 1) (fun q a b => h q (by omega) (by omega))
theorem x_stretch (l : Launch) (G : GE) (h : AH) (P : Nat → Prop) (a : Nat) (R : Nat → Int32) (rt cl nl vl : Nat) (i3 i4 i5 i0 i6 i7 : Int32) (q0 : RQ G h P a R rt cl [.ref nl, .ref vl, .int i3, .int i4, .int i5, .int i0, .int i6, .int i7]) (i j : Nat) (hij : i ≤ j) (hj : j < 32) : GM l G yX2_stretch (ws_ yX2_stretch cX2_stretch 7 (some .int)) 13 [.ref a, .int (nI i), .int (nI j)] (h) (27000) (PR fun u h' => u = .int (stI (sto R j (kdl R (j - i) (i + 1) (R (8 + i)) (R (8 + i))) (j + 1 - i) i)) ∧ RQ G h' P a R rt cl [.ref nl, .ref vl, .int i3, .int i4, .int i5, .int i0, .int i6, .int i7] ∧ Chg P 0 32 h h') := by
  refine GM.of (by decide) (dk rfl) ?_
  intro X eL eG eh ok fn
  subst eL; subst eG
  show GW X _ 0 0 [some (.ref a), some (.int (nI i)), some (.int (nI j)), none, none, none, none] []
  obtain ⟨ra1, rT1, cf1, rc1, rf1⟩ := id q0
  refine g_aload_n ok dX2_stretch_0 rfl ?_
  refine g_iload_n ok dX2_stretch_1 rfl ?_
  refine g_iload_n ok dX2_stretch_2 rfl ?_
  refine g_callV ok q1353 q1327 q1328 q62 q1329 (Recv.ob ok gc_X2 (Rd.h (ra1))) dX2_stretch_3 (x_best X.l X.G _ P a R rt cl nl vl i3 i4 i5 i0 i6 i7 q0 i j (by omega) (by omega)) (nm_ (by decide : nmb _ 2 = true)) (dl rfl) (dk rfl) rfl rfl (dk rfl) (by omega) (kR fun u1_ h1_ ⟨e1_, q1_, g1_⟩ => ?_) xR
  subst e1_
  obtain ⟨ra2, rT2, cf2, rc2, rf2⟩ := id q1_
  refine g_istore_n ok dX2_stretch_6 (ls1 := [some (.ref a), some (.int (nI i)), some (.int (nI j)), some (.int (kdl R (j - i) (i + 1) (R (8 + i)) (R (8 + i)))), none, none, none]) (dl rfl) rfl ?_
  refine g_iload_n ok dX2_stretch_7 rfl ?_
  refine g_istore ok dX2_stretch_8 (ls1 := [some (.ref a), some (.int (nI i)), some (.int (nI j)), some (.int (kdl R (j - i) (i + 1) (R (8 + i)) (R (8 + i)))), some (.int (nI i)), none, none]) (dl rfl) rfl ?_
  have tl := tri_le (j + 1 - i) (by omega)
  generalize hB : kdl R (j - i) (i + 1) (R (8 + i)) (R (8 + i)) = B at *
  have lp : ∀ (n : Nat) (c : Nat) (Hlp : AH) (klp : Nat), (c + n = j + 1) → (sto R j B n c = sto R j B (j + 1 - i) i) → (RQ X.G Hlp P a R rt cl [.ref nl, .ref vl, .int i3, .int i4, .int i5, .int i0, .int i6, .int i7]) → (Chg P 0 32 h Hlp) → (klp + 48 * tri n ≤ 27000) → GW X Hlp klp 10 [some (.ref a), some (.int (nI i)), some (.int (nI j)), some (.int B), some (.int (nI c)), none, none] [] := by
    intro n
    induction n with
    | zero => 
      intro c Hlp klp lph0 lph1 qlp glp blp
      obtain ⟨ra3, rT3, cf3, rc3, rf3⟩ := id qlp
      refine g_iload ok dX2_stretch_10 rfl ?_
      refine g_iload_n ok dX2_stretch_12 rfl ?_
      refine g_icmp_gt ok (tgt := 67) dX2_stretch_13 (by decide) (fun _ => ?_) (fun c_ => absurd (nI_lt (a := j) (b := c) (by omega) (by omega)) c_)
      refine g_iconst ok (v := -1) dX2_stretch_67 rfl ?_
      exact g_iret ok fn rfl dX2_stretch_68 ⟨_, rfl, congrArg Value.int (by rw [← lph1]; rfl), qlp, glp⟩ (by omega)
    | succ n ih => 
      intro c Hlp klp lph0 lph1 qlp glp blp
      obtain ⟨ra3, rT3, cf3, rc3, rf3⟩ := id qlp
      refine g_iload ok dX2_stretch_10 rfl ?_
      refine g_iload_n ok dX2_stretch_12 rfl ?_
      refine g_icmp_gt ok (tgt := 67) dX2_stretch_13 (by decide) (fun c_ => absurd c_ (nI_nlt (a := j) (b := c) (by omega) (by omega))) (fun _ => ?_)
      refine g_iconst ok (v := 0) dX2_stretch_16 rfl ?_
      refine g_istore ok dX2_stretch_17 (ls1 := [some (.ref a), some (.int (nI i)), some (.int (nI j)), some (.int B), some (.int (nI c)), some (.int 0), none]) (dl rfl) rfl ?_
      refine g_iload ok dX2_stretch_19 rfl ?_
      refine g_istore ok dX2_stretch_21 (ls1 := [some (.ref a), some (.int (nI i)), some (.int (nI j)), some (.int B), some (.int (nI c)), some (.int 0), some (.int (nI c))]) (dl rfl) rfl ?_
      have ts := tri_s n
      have lp2 : ∀ (n2 : Nat) (d : Nat) (s : Int32) (Hlp2 : AH) (klp2 : Nat), (d + n2 = j + 1) → (sti R B n2 d s = sti R B (j + 1 - c) c 0) → (RQ X.G Hlp2 P a R rt cl [.ref nl, .ref vl, .int i3, .int i4, .int i5, .int i0, .int i6, .int i7]) → (Chg P 0 32 h Hlp2) → (klp2 + 48 * n2 + 48 * tri n ≤ 27000) → GW X Hlp2 klp2 23 [some (.ref a), some (.int (nI i)), some (.int (nI j)), some (.int B), some (.int (nI c)), some (.int s), some (.int (nI d))] [] := by
        intro n2
        induction n2 with
        | zero => 
          intro d s Hlp2 klp2 lp2h0 lp2h1 qlp2 glp2 blp2
          obtain ⟨ra4, rT4, cf4, rc4, rf4⟩ := id qlp2
          refine g_iload ok dX2_stretch_23 rfl ?_
          refine g_iload_n ok dX2_stretch_25 rfl ?_
          refine g_icmp_gt ok (tgt := 61) dX2_stretch_26 (by decide) (fun _ => ?_) (fun c_ => absurd (nI_lt (a := j) (b := d) (by omega) (by omega)) c_)
          refine g_iincN ok dX2_stretch_61 (c := c) rfl rfl (ls1 := [some (.ref a), some (.int (nI i)), some (.int (nI j)), some (.int B), some (.int (nI (c + 1))), some (.int s), some (.int (nI d))]) rfl ?_
          refine g_goto ok dX2_stretch_64 (tgt := 10) (by decide) ?_
          refine g_drop 5 (ls1 := [some (.ref a), some (.int (nI i)), some (.int (nI j)), some (.int B), some (.int (nI (c + 1))), none, some (.int (nI d))]) rfl ?_
          refine g_drop 6 (ls1 := [some (.ref a), some (.int (nI i)), some (.int (nI j)), some (.int B), some (.int (nI (c + 1))), none, none]) rfl ?_
          exact ih (c + 1) _ _ (by omega) (by rw [← lph1, sto, ← lp2h1, sti]) qlp2 (glp2) (by omega)
        | succ n2 ih2 => 
          intro d s Hlp2 klp2 lp2h0 lp2h1 qlp2 glp2 blp2
          obtain ⟨ra4, rT4, cf4, rc4, rf4⟩ := id qlp2
          refine g_iload ok dX2_stretch_23 rfl ?_
          refine g_iload_n ok dX2_stretch_25 rfl ?_
          refine g_icmp_gt ok (tgt := 61) dX2_stretch_26 (by decide) (fun c_ => absurd c_ (nI_nlt (a := j) (b := d) (by omega) (by omega))) (fun _ => ?_)
          refine g_iload ok dX2_stretch_29 rfl ?_
          refine g_aload_n ok dX2_stretch_31 rfl ?_
          refine g_iload ok dX2_stretch_32 rfl ?_
          refine g_callV ok q1065 q1066 q1067 q62 q1068 (Recv.ob ok gc_X2 (Rd.h (ra4))) dX2_stretch_34 (x_number X.l X.G _ P a R rt cl nl vl i3 i4 i5 i0 i6 i7 qlp2 d (by omega)) (nm_ (by decide : nmb _ 1 = true)) (dl rfl) (dk rfl) rfl rfl (dk rfl) (by omega) (kR fun u2_ h2_ ⟨e2_, q2_, g2_⟩ => ?_) xR
          subst e2_
          obtain ⟨ra5, rT5, cf5, rc5, rf5⟩ := id q2_
          refine g_iadd ok dX2_stretch_37 ?_
          refine g_istore ok dX2_stretch_38 (ls1 := [some (.ref a), some (.int (nI i)), some (.int (nI j)), some (.int B), some (.int (nI c)), some (.int (s + (R (8 + d)))), some (.int (nI d))]) (dl rfl) rfl ?_
          refine g_iload ok dX2_stretch_40 rfl ?_
          refine g_iload_n ok dX2_stretch_42 rfl ?_
          refine g_icmp_ne ok (tgt := 55) dX2_stretch_43 (by decide) (fun c43 => ?_) (fun c43 => ?_)
          · refine g_iincN ok dX2_stretch_55 (c := d) rfl rfl (ls1 := [some (.ref a), some (.int (nI i)), some (.int (nI j)), some (.int B), some (.int (nI c)), some (.int (s + (R (8 + d)))), some (.int (nI (d + 1)))]) rfl ?_
            refine g_goto ok dX2_stretch_58 (tgt := 23) (by decide) ?_
            exact ih2 (d + 1) (s + (R (8 + d))) _ _ (by omega) (by rw [← lp2h1, sti, if_neg c43]) q2_ ((glp2).trans g2_) (by omega)
          · refine g_iload ok dX2_stretch_46 rfl ?_
            refine g_bipush ok (v := 32) dX2_stretch_48 rfl ?_
            refine g_iload ok dX2_stretch_50 rfl ?_
            refine g_imulN ok dX2_stretch_52 (c := (32 * d)) (a := 32) (b := d) rfl rfl rfl ?_
            refine g_iaddN ok dX2_stretch_53 (c := (c + (32 * d))) (a := c) (b := (32 * d)) rfl rfl rfl ?_
            exact g_iret ok fn rfl dX2_stretch_54 ⟨_, rfl, congrArg Value.int (by rw [← lph1, sto, ← lp2h1, sti, if_pos c43]; rfl), q2_, (glp2).trans g2_⟩ (by omega)
      exact lp2 (j + 1 - c) c 0 _ _ (by omega) rfl qlp glp (by omega)
  exact lp (j + 1 - i) i _ _ (by omega) rfl q1_ ((Chg.refl _ _ _ _).trans g1_) (by omega)
theorem x_extreme (l : Launch) (G : GE) (h : AH) (P : Nat → Prop) (a : Nat) (R : Nat → Int32) (rt cl nl vl : Nat) (i3 i4 i5 i0 i6 i7 : Int32) (q0 : RQ G h P a R rt cl [.ref nl, .ref vl, .int i3, .int i4, .int i5, .int i0, .int i6, .int i7]) (i j : Nat) (hij : i ≤ j) (hj : j < 32) (z : Int32) : GM l G yX2_extreme (ws_ yX2_extreme cX2_extreme 6 (some .int)) 12 [.ref a, .int (nI i), .int (nI j), .int z] (h) (1700) (PR fun u h' => u = .int (nI (exl R z (j + 1 - i) i i)) ∧ RQ G h' P a R rt cl [.ref nl, .ref vl, .int i3, .int i4, .int i5, .int i0, .int i6, .int i7] ∧ Chg P 0 32 h h') := by
  refine GM.of (by decide) (dk rfl) ?_
  intro X eL eG eh ok fn
  subst eL; subst eG
  show GW X _ 0 0 [some (.ref a), some (.int (nI i)), some (.int (nI j)), some (.int z), none, none] []
  obtain ⟨ra1, rT1, cf1, rc1, rf1⟩ := id q0
  refine g_iload_n ok dX2_extreme_0 rfl ?_
  by_cases hz : z = 0
  · refine g_if_eq ok (tgt := 16) dX2_extreme_1 (by decide) (fun _ => ?_) (fun c_ => absurd hz c_)
    refine g_aload_n ok dX2_extreme_16 rfl ?_
    refine g_get ok ck_X2 0 q243 (Or.inl rfl) (by decide) dX2_extreme_17 (Rd.h (ra1)) rfl ?_
    refine g_iload_n ok dX2_extreme_20 rfl ?_
    refine g_iload_n ok dX2_extreme_21 rfl ?_
    refine g_callSN ok q1054 q1055 q61 q1056 dX2_extreme_22 (q_greatestOf X.l X.G P i j (by omega) (by omega) 5 _ _ 0 rt 100 rT1 (by decide) (cst_two i (by omega) j (by omega))) (nm_ (by decide : nmb _ 3 = true)) (dl rfl) (dk rfl) rfl rfl (dk rfl) (by omega) (kR fun u1_ h1_ ⟨g1_, e1_, s1_, t1_, c1_⟩ => ?_) xR
    subst e1_
    have q1_ := RQ.chg q0 c1_ t1_
    obtain ⟨ra2, rT2, cf2, rc2, rf2⟩ := id q1_
    have sx : ∃ c0, i ≤ c0 ∧ c0 ≤ j ∧ R (8 + c0) = g1_ := by
      rcases s1_.2 with ⟨c, k1, k2, k3, k4, k5⟩ | ⟨-, k⟩
      · exact ⟨c, k3, k4, k5⟩
      · exact (k i (Nat.zero_le _) (by have : sz 5 = 32 := rfl; omega) (Nat.le_refl _) hij).elim
    obtain ⟨c0, x1, x2, x3⟩ := sx
    have ex : ∀ q, i ≤ q → q ≤ j → if z = 0 then R (8 + q) ≤ g1_ else g1_ ≤ R (8 + q) := fun q q1 q2 => by rw [if_pos hz]; exact s1_.1 q (Nat.zero_le _) (by have : sz 5 = 32 := rfl; omega) q1 q2
    refine g_istore ok dX2_extreme_25 (ls1 := [some (.ref a), some (.int (nI i)), some (.int (nI j)), some (.int z), some (.int g1_), none]) (dl rfl) rfl ?_
    refine g_iload_n ok dX2_extreme_27 rfl ?_
    refine g_istore ok dX2_extreme_28 (ls1 := [some (.ref a), some (.int (nI i)), some (.int (nI j)), some (.int z), some (.int g1_), some (.int (nI i))]) (dl rfl) rfl ?_
    have lp : ∀ (n : Nat) (c : Nat) (Hlp : AH) (klp : Nat), (c + n = c0) → (i ≤ c) → (∀ q, i ≤ q → q < c → R (8 + q) ≠ g1_) → (RQ X.G Hlp P a R rt cl [.ref nl, .ref vl, .int i3, .int i4, .int i5, .int i0, .int i6, .int i7]) → (Chg P 0 32 h Hlp) → (klp + 48 * n + 48 ≤ 1700) → GW X Hlp klp 30 [some (.ref a), some (.int (nI i)), some (.int (nI j)), some (.int z), some (.int g1_), some (.int (nI c))] [] := by
      intro n
      induction n with
      | zero => 
        intro c Hlp klp lph0 lph1 lph2 qlp glp blp
        obtain ⟨ra3, rT3, cf3, rc3, rf3⟩ := id qlp
        have ec : c = c0 := by omega
        refine g_aload_n ok dX2_extreme_30 rfl ?_
        refine g_iload ok dX2_extreme_31 rfl ?_
        refine g_callV ok q1065 q1066 q1067 q62 q1068 (Recv.ob ok gc_X2 (Rd.h (ra3))) dX2_extreme_33 (x_number X.l X.G _ P a R rt cl nl vl i3 i4 i5 i0 i6 i7 qlp c (by omega)) (nm_ (by decide : nmb _ 1 = true)) (dl rfl) (dk rfl) rfl rfl (dk rfl) (by omega) (kR fun u2_ h2_ ⟨e2_, q2_, g2_⟩ => ?_) xR
        subst e2_
        obtain ⟨ra4, rT4, cf4, rc4, rf4⟩ := id q2_
        refine g_iload ok dX2_extreme_36 rfl ?_
        have eg : R (8 + c) = g1_ := by rw [ec]; exact x3
        refine g_icmp_eq ok (tgt := 47) dX2_extreme_38 (by decide) (fun _ => ?_) (fun c_ => absurd eg c_)
        refine g_iload ok dX2_extreme_47 rfl ?_
        have fx : FstX R z i j c := ⟨lph1, by omega, fun q q1 q2 => by rw [eg]; exact ex q q1 q2, fun q q1 q2 => by rw [eg]; exact lph2 q q1 q2⟩
        exact g_iret ok fn rfl dX2_extreme_49 ⟨_, rfl, congrArg Value.int (congrArg nI (exl_eq fx).symm), q2_, (glp).trans g2_⟩ (by omega)
      | succ n ih => 
        intro c Hlp klp lph0 lph1 lph2 qlp glp blp
        obtain ⟨ra3, rT3, cf3, rc3, rf3⟩ := id qlp
        refine g_aload_n ok dX2_extreme_30 rfl ?_
        refine g_iload ok dX2_extreme_31 rfl ?_
        refine g_callV ok q1065 q1066 q1067 q62 q1068 (Recv.ob ok gc_X2 (Rd.h (ra3))) dX2_extreme_33 (x_number X.l X.G _ P a R rt cl nl vl i3 i4 i5 i0 i6 i7 qlp c (by omega)) (nm_ (by decide : nmb _ 1 = true)) (dl rfl) (dk rfl) rfl rfl (dk rfl) (by omega) (kR fun u2_ h2_ ⟨e2_, q2_, g2_⟩ => ?_) xR
        subst e2_
        obtain ⟨ra4, rT4, cf4, rc4, rf4⟩ := id q2_
        refine g_iload ok dX2_extreme_36 rfl ?_
        refine g_icmp_eq ok (tgt := 47) dX2_extreme_38 (by decide) (fun c38 => ?_) (fun c38 => ?_)
        · refine g_iload ok dX2_extreme_47 rfl ?_
          have fx : FstX R z i j c := ⟨lph1, by omega, fun q q1 q2 => by rw [c38]; exact ex q q1 q2, fun q q1 q2 => by rw [c38]; exact lph2 q q1 q2⟩
          exact g_iret ok fn rfl dX2_extreme_49 ⟨_, rfl, congrArg Value.int (congrArg nI (exl_eq fx).symm), q2_, (glp).trans g2_⟩ (by omega)
        · refine g_iincN ok dX2_extreme_41 (c := c) rfl rfl (ls1 := [some (.ref a), some (.int (nI i)), some (.int (nI j)), some (.int z), some (.int g1_), some (.int (nI (c + 1)))]) rfl ?_
          refine g_goto ok dX2_extreme_44 (tgt := 30) (by decide) ?_
          exact ih (c + 1) _ _ (by omega) (by omega) (fun q q1 q2 => if e : q = c then (by rw [e]; exact c38) else lph2 q q1 (by omega)) q2_ ((glp).trans g2_) (by omega)
    exact lp (c0 - i) i _ _ (by omega) (by omega) (fun q q1 q2 => by omega) q1_ ((Chg.refl _ _ _ _).trans c1_) (by omega)
  · refine g_if_eq ok (tgt := 16) dX2_extreme_1 (by decide) (fun c_ => absurd c_ hz) (fun _ => ?_)
    refine g_aload_n ok dX2_extreme_4 rfl ?_
    refine g_get ok ck_X2 0 q243 (Or.inl rfl) (by decide) dX2_extreme_5 (Rd.h (ra1)) rfl ?_
    refine g_iload_n ok dX2_extreme_8 rfl ?_
    refine g_iload_n ok dX2_extreme_9 rfl ?_
    refine g_callSN ok q1060 q1061 q61 q1062 dX2_extreme_10 (q_leastOf X.l X.G P i j (by omega) (by omega) 5 _ _ 0 rt 100 rT1 (by decide) (cst_two i (by omega) j (by omega))) (nm_ (by decide : nmb _ 3 = true)) (dl rfl) (dk rfl) rfl rfl (dk rfl) (by omega) (kR fun u1_ h1_ ⟨g1_, e1_, s1_, t1_, c1_⟩ => ?_) xR
    subst e1_
    have q1_ := RQ.chg q0 c1_ t1_
    obtain ⟨ra2, rT2, cf2, rc2, rf2⟩ := id q1_
    have sx : ∃ c0, i ≤ c0 ∧ c0 ≤ j ∧ R (8 + c0) = g1_ := by
      rcases s1_.2 with ⟨c, k1, k2, k3, k4, k5⟩ | ⟨-, k⟩
      · exact ⟨c, k3, k4, k5⟩
      · exact (k i (Nat.zero_le _) (by have : sz 5 = 32 := rfl; omega) (Nat.le_refl _) hij).elim
    obtain ⟨c0, x1, x2, x3⟩ := sx
    have ex : ∀ q, i ≤ q → q ≤ j → if z = 0 then R (8 + q) ≤ g1_ else g1_ ≤ R (8 + q) := fun q q1 q2 => by rw [if_neg hz]; exact s1_.1 q (Nat.zero_le _) (by have : sz 5 = 32 := rfl; omega) q1 q2
    refine g_goto ok dX2_extreme_13 (tgt := 25) (by decide) ?_
    refine g_istore ok dX2_extreme_25 (ls1 := [some (.ref a), some (.int (nI i)), some (.int (nI j)), some (.int z), some (.int g1_), none]) (dl rfl) rfl ?_
    refine g_iload_n ok dX2_extreme_27 rfl ?_
    refine g_istore ok dX2_extreme_28 (ls1 := [some (.ref a), some (.int (nI i)), some (.int (nI j)), some (.int z), some (.int g1_), some (.int (nI i))]) (dl rfl) rfl ?_
    have lp : ∀ (n : Nat) (c : Nat) (Hlp : AH) (klp : Nat), (c + n = c0) → (i ≤ c) → (∀ q, i ≤ q → q < c → R (8 + q) ≠ g1_) → (RQ X.G Hlp P a R rt cl [.ref nl, .ref vl, .int i3, .int i4, .int i5, .int i0, .int i6, .int i7]) → (Chg P 0 32 h Hlp) → (klp + 48 * n + 48 ≤ 1700) → GW X Hlp klp 30 [some (.ref a), some (.int (nI i)), some (.int (nI j)), some (.int z), some (.int g1_), some (.int (nI c))] [] := by
      intro n
      induction n with
      | zero => 
        intro c Hlp klp lph0 lph1 lph2 qlp glp blp
        obtain ⟨ra3, rT3, cf3, rc3, rf3⟩ := id qlp
        have ec : c = c0 := by omega
        refine g_aload_n ok dX2_extreme_30 rfl ?_
        refine g_iload ok dX2_extreme_31 rfl ?_
        refine g_callV ok q1065 q1066 q1067 q62 q1068 (Recv.ob ok gc_X2 (Rd.h (ra3))) dX2_extreme_33 (x_number X.l X.G _ P a R rt cl nl vl i3 i4 i5 i0 i6 i7 qlp c (by omega)) (nm_ (by decide : nmb _ 1 = true)) (dl rfl) (dk rfl) rfl rfl (dk rfl) (by omega) (kR fun u2_ h2_ ⟨e2_, q2_, g2_⟩ => ?_) xR
        subst e2_
        obtain ⟨ra4, rT4, cf4, rc4, rf4⟩ := id q2_
        refine g_iload ok dX2_extreme_36 rfl ?_
        have eg : R (8 + c) = g1_ := by rw [ec]; exact x3
        refine g_icmp_eq ok (tgt := 47) dX2_extreme_38 (by decide) (fun _ => ?_) (fun c_ => absurd eg c_)
        refine g_iload ok dX2_extreme_47 rfl ?_
        have fx : FstX R z i j c := ⟨lph1, by omega, fun q q1 q2 => by rw [eg]; exact ex q q1 q2, fun q q1 q2 => by rw [eg]; exact lph2 q q1 q2⟩
        exact g_iret ok fn rfl dX2_extreme_49 ⟨_, rfl, congrArg Value.int (congrArg nI (exl_eq fx).symm), q2_, (glp).trans g2_⟩ (by omega)
      | succ n ih => 
        intro c Hlp klp lph0 lph1 lph2 qlp glp blp
        obtain ⟨ra3, rT3, cf3, rc3, rf3⟩ := id qlp
        refine g_aload_n ok dX2_extreme_30 rfl ?_
        refine g_iload ok dX2_extreme_31 rfl ?_
        refine g_callV ok q1065 q1066 q1067 q62 q1068 (Recv.ob ok gc_X2 (Rd.h (ra3))) dX2_extreme_33 (x_number X.l X.G _ P a R rt cl nl vl i3 i4 i5 i0 i6 i7 qlp c (by omega)) (nm_ (by decide : nmb _ 1 = true)) (dl rfl) (dk rfl) rfl rfl (dk rfl) (by omega) (kR fun u2_ h2_ ⟨e2_, q2_, g2_⟩ => ?_) xR
        subst e2_
        obtain ⟨ra4, rT4, cf4, rc4, rf4⟩ := id q2_
        refine g_iload ok dX2_extreme_36 rfl ?_
        refine g_icmp_eq ok (tgt := 47) dX2_extreme_38 (by decide) (fun c38 => ?_) (fun c38 => ?_)
        · refine g_iload ok dX2_extreme_47 rfl ?_
          have fx : FstX R z i j c := ⟨lph1, by omega, fun q q1 q2 => by rw [c38]; exact ex q q1 q2, fun q q1 q2 => by rw [c38]; exact lph2 q q1 q2⟩
          exact g_iret ok fn rfl dX2_extreme_49 ⟨_, rfl, congrArg Value.int (congrArg nI (exl_eq fx).symm), q2_, (glp).trans g2_⟩ (by omega)
        · refine g_iincN ok dX2_extreme_41 (c := c) rfl rfl (ls1 := [some (.ref a), some (.int (nI i)), some (.int (nI j)), some (.int z), some (.int g1_), some (.int (nI (c + 1)))]) rfl ?_
          refine g_goto ok dX2_extreme_44 (tgt := 30) (by decide) ?_
          exact ih (c + 1) _ _ (by omega) (by omega) (fun q q1 q2 => if e : q = c then (by rw [e]; exact c38) else lph2 q q1 (by omega)) q2_ ((glp).trans g2_) (by omega)
    exact lp (c0 - i) i _ _ (by omega) (by omega) (fun q q1 q2 => by omega) q1_ ((Chg.refl _ _ _ _).trans c1_) (by omega)
