/-! a ruler is changed, 8: goes back -/
set_option maxRecDepth 100000
abbrev cX2_goBack : ByteArray := prog_16_method_30_code
def yX2_goBack : MethodName := ⟨RX2, "goBack", "(I)I"⟩
def dkwX2_goBack_3 : List UInt8 := [46, 79, 132, 4, 1, 167, 255, 208, 29, 172]
abbrev dktX2_goBack_3 : List UInt8 := dkwX2_goBack_3 ++ []
def dkwX2_goBack_2 : List UInt8 := [180, 0, 201, 21, 4, 46, 182, 0, 123, 184, 0, 113, 42, 180, 0, 19, 21, 4, 44, 180, 0, 204, 21, 4]
abbrev dktX2_goBack_2 : List UInt8 := dkwX2_goBack_2 ++ dktX2_goBack_3
def dkwX2_goBack_1 : List UInt8 := [3, 54, 4, 21, 4, 16, 32, 162, 0, 47, 42, 180, 0, 13, 21, 4, 21, 4, 178, 0, 142, 44]
abbrev dktX2_goBack_1 : List UInt8 := dkwX2_goBack_1 ++ dktX2_goBack_2
def dkwX2_goBack_0 : List UInt8 := [42, 180, 0, 30, 27, 182, 0, 181, 192, 0, 69, 77, 44, 42, 182, 0, 205, 3, 16, 31, 182, 0, 209, 62]
abbrev dktX2_goBack_0 : List UInt8 := dkwX2_goBack_0 ++ dktX2_goBack_1
theorem dksX2_goBack_0 : cX2_goBack.data.toList.drop 0 = dktX2_goBack_0 := by decide +kernel
theorem dksX2_goBack_1 : cX2_goBack.data.toList.drop 24 = dktX2_goBack_1 := dk_seg dksX2_goBack_0 24 rfl rfl
theorem dksX2_goBack_2 : cX2_goBack.data.toList.drop 46 = dktX2_goBack_2 := dk_seg dksX2_goBack_1 22 rfl rfl
theorem dksX2_goBack_3 : cX2_goBack.data.toList.drop 70 = dktX2_goBack_3 := dk_seg dksX2_goBack_2 24 rfl rfl
theorem dX2_goBack_0 : decode cX2_goBack 0 = .ok (.aload_n 0, 1) := dk_42 (dk_at dksX2_goBack_0 0 rfl rfl)
theorem dX2_goBack_1 : decode cX2_goBack 1 = .ok (.getfield 30, 3) := dk_180 0 30 (dk_at dksX2_goBack_0 1 rfl rfl)
theorem dX2_goBack_4 : decode cX2_goBack 4 = .ok (.iload_n 1, 1) := dk_27 (dk_at dksX2_goBack_0 4 rfl rfl)
theorem dX2_goBack_5 : decode cX2_goBack 5 = .ok (.invokevirtual 181, 3) := dk_182 0 181 (dk_at dksX2_goBack_0 5 rfl rfl)
theorem dX2_goBack_8 : decode cX2_goBack 8 = .ok (.checkcast 69, 3) := dk_192 0 69 (dk_at dksX2_goBack_0 8 rfl rfl)
theorem dX2_goBack_11 : decode cX2_goBack 11 = .ok (.astore_n 2, 1) := dk_77 (dk_at dksX2_goBack_0 11 rfl rfl)
theorem dX2_goBack_12 : decode cX2_goBack 12 = .ok (.aload_n 2, 1) := dk_44 (dk_at dksX2_goBack_0 12 rfl rfl)
theorem dX2_goBack_13 : decode cX2_goBack 13 = .ok (.aload_n 0, 1) := dk_42 (dk_at dksX2_goBack_0 13 rfl rfl)
theorem dX2_goBack_14 : decode cX2_goBack 14 = .ok (.invokevirtual 205, 3) := dk_182 0 205 (dk_at dksX2_goBack_0 14 rfl rfl)
theorem dX2_goBack_17 : decode cX2_goBack 17 = .ok (.iconst 0, 1) := dk_3 (dk_at dksX2_goBack_0 17 rfl rfl)
theorem dX2_goBack_18 : decode cX2_goBack 18 = .ok (.bipush 31, 2) := dk_16 31 (dk_at dksX2_goBack_0 18 rfl rfl)
theorem dX2_goBack_20 : decode cX2_goBack 20 = .ok (.invokevirtual 209, 3) := dk_182 0 209 (dk_at dksX2_goBack_0 20 rfl rfl)
theorem dX2_goBack_23 : decode cX2_goBack 23 = .ok (.istore_n 3, 1) := dk_62 (dk_at dksX2_goBack_0 23 rfl rfl)
theorem dX2_goBack_24 : decode cX2_goBack 24 = .ok (.iconst 0, 1) := dk_3 (dk_at dksX2_goBack_1 0 rfl rfl)
theorem dX2_goBack_25 : decode cX2_goBack 25 = .ok (.istore 4, 2) := dk_54 4 (dk_at dksX2_goBack_1 1 rfl rfl)
theorem dX2_goBack_27 : decode cX2_goBack 27 = .ok (.iload 4, 2) := dk_21 4 (dk_at dksX2_goBack_1 3 rfl rfl)
theorem dX2_goBack_29 : decode cX2_goBack 29 = .ok (.bipush 32, 2) := dk_16 32 (dk_at dksX2_goBack_1 5 rfl rfl)
theorem dX2_goBack_31 : decode cX2_goBack 31 = .ok (.if_icmp .ge 47, 3) := dk_162 0 47 (dk_at dksX2_goBack_1 7 rfl rfl)
theorem dX2_goBack_34 : decode cX2_goBack 34 = .ok (.aload_n 0, 1) := dk_42 (dk_at dksX2_goBack_1 10 rfl rfl)
theorem dX2_goBack_35 : decode cX2_goBack 35 = .ok (.getfield 13, 3) := dk_180 0 13 (dk_at dksX2_goBack_1 11 rfl rfl)
theorem dX2_goBack_38 : decode cX2_goBack 38 = .ok (.iload 4, 2) := dk_21 4 (dk_at dksX2_goBack_1 14 rfl rfl)
theorem dX2_goBack_40 : decode cX2_goBack 40 = .ok (.iload 4, 2) := dk_21 4 (dk_at dksX2_goBack_1 16 rfl rfl)
theorem dX2_goBack_42 : decode cX2_goBack 42 = .ok (.getstatic 142, 3) := dk_178 0 142 (dk_at dksX2_goBack_1 18 rfl rfl)
theorem dX2_goBack_45 : decode cX2_goBack 45 = .ok (.aload_n 2, 1) := dk_44 (dk_at dksX2_goBack_1 21 rfl rfl)
theorem dX2_goBack_46 : decode cX2_goBack 46 = .ok (.getfield 201, 3) := dk_180 0 201 (dk_at dksX2_goBack_2 0 rfl rfl)
theorem dX2_goBack_49 : decode cX2_goBack 49 = .ok (.iload 4, 2) := dk_21 4 (dk_at dksX2_goBack_2 3 rfl rfl)
theorem dX2_goBack_51 : decode cX2_goBack 51 = .ok (.iaload, 1) := dk_46 (dk_at dksX2_goBack_2 5 rfl rfl)
theorem dX2_goBack_52 : decode cX2_goBack 52 = .ok (.invokevirtual 123, 3) := dk_182 0 123 (dk_at dksX2_goBack_2 6 rfl rfl)
theorem dX2_goBack_55 : decode cX2_goBack 55 = .ok (.invokestatic 113, 3) := dk_184 0 113 (dk_at dksX2_goBack_2 9 rfl rfl)
theorem dX2_goBack_58 : decode cX2_goBack 58 = .ok (.aload_n 0, 1) := dk_42 (dk_at dksX2_goBack_2 12 rfl rfl)
theorem dX2_goBack_59 : decode cX2_goBack 59 = .ok (.getfield 19, 3) := dk_180 0 19 (dk_at dksX2_goBack_2 13 rfl rfl)
theorem dX2_goBack_62 : decode cX2_goBack 62 = .ok (.iload 4, 2) := dk_21 4 (dk_at dksX2_goBack_2 16 rfl rfl)
theorem dX2_goBack_64 : decode cX2_goBack 64 = .ok (.aload_n 2, 1) := dk_44 (dk_at dksX2_goBack_2 18 rfl rfl)
theorem dX2_goBack_65 : decode cX2_goBack 65 = .ok (.getfield 204, 3) := dk_180 0 204 (dk_at dksX2_goBack_2 19 rfl rfl)
theorem dX2_goBack_68 : decode cX2_goBack 68 = .ok (.iload 4, 2) := dk_21 4 (dk_at dksX2_goBack_2 22 rfl rfl)
theorem dX2_goBack_70 : decode cX2_goBack 70 = .ok (.iaload, 1) := dk_46 (dk_at dksX2_goBack_3 0 rfl rfl)
theorem dX2_goBack_71 : decode cX2_goBack 71 = .ok (.iastore, 1) := dk_79 (dk_at dksX2_goBack_3 1 rfl rfl)
theorem dX2_goBack_72 : decode cX2_goBack 72 = .ok (.iinc 4 1, 3) := dk_132 4 1 (dk_at dksX2_goBack_3 2 rfl rfl)
theorem dX2_goBack_75 : decode cX2_goBack 75 = .ok (.goto (-48), 3) := dk_167 255 208 (dk_at dksX2_goBack_3 5 rfl rfl)
theorem dX2_goBack_78 : decode cX2_goBack 78 = .ok (.iload_n 3, 1) := dk_29 (dk_at dksX2_goBack_3 8 rfl rfl)
theorem dX2_goBack_79 : decode cX2_goBack 79 = .ok (.ireturn, 1) := dk_172 (dk_at dksX2_goBack_3 9 rfl rfl)
theorem q248 : (Jvm.Cond.fieldLink "SpanRuler$Ruler" (30 : Nat) "SpanRuler$Ruler" "versions" "Ljava/util/ArrayList;") ∈ lw_all := lw_g (lw_at lw_m1 188 rfl) rfl
theorem q1470 : (Jvm.Cond.methodLink "SpanRuler$Ruler" (205 : Nat) ({ cls := "SpanRuler$Ruler", name := "version", desc := "()LSpanRuler$Version;" } : Jvm.MethodName)) ∈ lw_all := lw_g (lw_at lw_m6 210 rfl) rfl
theorem q1473 : (Jvm.Cond.code ({ cls := "SpanRuler$Ruler", name := "version", desc := "()LSpanRuler$Version;" } : Jvm.MethodName) prog_16_method_28_code (3 : Nat) (Option.some (Jvm.ClassFile.FieldType.object "SpanRuler$Version"))) ∈ lw_all := lw_g (lw_at lw_m6 213 rfl) rfl
theorem q1471 : (Jvm.Cond.instanceMethod ({ cls := "SpanRuler$Ruler", name := "version", desc := "()LSpanRuler$Version;" } : Jvm.MethodName)) ∈ lw_all := lw_g (lw_at lw_m6 211 rfl) rfl
theorem q1472 : (Jvm.Cond.selects "SpanRuler$Ruler" ({ cls := "SpanRuler$Ruler", name := "version", desc := "()LSpanRuler$Version;" } : Jvm.MethodName) ({ cls := "SpanRuler$Ruler", name := "version", desc := "()LSpanRuler$Version;" } : Jvm.MethodName)) ∈ lw_all := lw_g (lw_at lw_m6 212 rfl) rfl
theorem q1506 : (Jvm.Cond.methodLink "SpanRuler$Ruler" (209 : Nat) ({ cls := "SpanRuler$Version", name := "differs", desc := "(LSpanRuler$Version;II)I" } : Jvm.MethodName)) ∈ lw_all := lw_g (lw_at lw_m7 6 rfl) rfl
theorem q1509 : (Jvm.Cond.code ({ cls := "SpanRuler$Version", name := "differs", desc := "(LSpanRuler$Version;II)I" } : Jvm.MethodName) prog_17_method_3_code (6 : Nat) (Option.some Jvm.ClassFile.FieldType.int)) ∈ lw_all := lw_g (lw_at lw_m7 9 rfl) rfl
theorem q1507 : (Jvm.Cond.instanceMethod ({ cls := "SpanRuler$Version", name := "differs", desc := "(LSpanRuler$Version;II)I" } : Jvm.MethodName)) ∈ lw_all := lw_g (lw_at lw_m7 7 rfl) rfl
theorem q1508 : (Jvm.Cond.selects "SpanRuler$Version" ({ cls := "SpanRuler$Version", name := "differs", desc := "(LSpanRuler$Version;II)I" } : Jvm.MethodName) ({ cls := "SpanRuler$Version", name := "differs", desc := "(LSpanRuler$Version;II)I" } : Jvm.MethodName)) ∈ lw_all := lw_g (lw_at lw_m7 8 rfl) rfl
def rBk (j c : Nat) (R : Nat → Int32) : Nat → Int32 := fun q => if (8 ≤ q ∧ q < 8 + c) ∨ (40 ≤ q ∧ q < 40 + c) then R (122 + 64 * j + (q - 8)) else R q
theorem dfv_dfl {p q r s R : Nat → Int32} {j : Nat} (h1 : ∀ c, c < 32 → p c = R (122 + 64 * j + c) ∧ q c = R (122 + 64 * j + 32 + c)) (h2 : ∀ c, c < 32 → r c = R (8 + c) ∧ s c = R (40 + c)) : ∀ (n c : Nat) (v : Int32), c + n ≤ 32 → dfv p q r s n c v = dfl R j n c v := by
  intro n
  induction n with
  | zero => intro c v _; rfl
  | succ n ih =>
    intro c v h
    rw [dfv, dfl, ih (c + 1) _ (by omega), (h1 c (by omega)).1, (h1 c (by omega)).2, (h2 c (by omega)).1, (h2 c (by omega)).2]
    congr 1
    unfold dfT
    rw [show hdF R j c 0 = R (122 + 64 * j + c) from if_pos rfl, show hdF R j c 1 = R (122 + 64 * j + 32 + c) from if_neg (by decide)]
    by_cases a : R (122 + 64 * j + c) = R (8 + c)
    · by_cases b : R (122 + 64 * j + 32 + c) = R (40 + c)
      · rw [if_pos ⟨a, b⟩, decide_eq_true a, decide_eq_true b]; rfl
      · rw [if_neg (fun w => b w.2), decide_eq_true a, decide_eq_false b]; rfl
    · rw [if_neg (fun w => a w.1), decide_eq_false a]; rfl
theorem u_goBack (l : Launch) (G : GE) (h0 h : AH) (a : Nat) (R : Nat → Int32) (m0 : RulerM G h0 h a R) (j : Nat) (hj : j < rV R) : GM l G yX2_goBack (ws_ yX2_goBack cX2_goBack 5 (some .int)) 14 [.ref a, .int (nI j)] (h) (6000) (PR fun u h' => u = .int (dfl R j 32 0 0) ∧ RulerM G h0 h' a (rBk j 32 R)) := by
  refine GM.of (by decide) (dk rfl) ?_
  intro X eL eG eh ok fn
  subst eL; subst eG
  show GW X _ 0 0 [some (.ref a), some (.int (nI j)), none, none, none] []
  obtain ⟨rt, cl, nl, nd, nc, nm, nf, vl, vd, vc, vm, vf, y1, z1⟩ := id m0
  have mq2 : RQ X.G h (fun q => h0 q = none) a R rt cl [.ref nl, .ref vl, .int (R 3), .int (R 4), .int (R 5), .int (R 0), .int (R 6), .int (R 7)] := y1.1
  obtain ⟨ra1, rT1, cf1, rc1, rf1⟩ := id mq2
  have nca1 : cl ≠ a := fun z_ => by have w_ := rc1; rw [z_, ra1] at w_; cases w_
  have iR := y1.2.2.2.2.2.1
  obtain ⟨vb, kvb, na, ca, wn, wc, w1, w2, w3, w4⟩ := y1.2.2.2.2.1 j hj
  have ncc := z1.2.2.2.2.2.2.2.2.2.2.2 j hj vb na ca kvb w1
  refine g_aload_n ok dX2_goBack_0 rfl ?_
  refine g_get ok ck_X2 3 q248 (Or.inl rfl) (by decide) dX2_goBack_1 (Rd.h (ra1)) rfl ?_
  refine g_iload_n ok dX2_goBack_4 rfl ?_
  refine g_callV ok q1284 q514 q2739 q70 q516 (Recv.ob ok gc_J2 (Rd.h y1.2.2.2.1.1)) dX2_goBack_5 (al_get X.l X.G _ vl vd vc (rV R) vm vf y1.2.2.2.1 j vb (by omega) kvb) (nm_ (by decide : nmb _ 1 = true)) (dl rfl) (dk rfl) rfl rfl (dk rfl) (by omega) (kV ?_) xV
  refine g_castE ok q911 dX2_goBack_8 (Recv.ob ok gc_X12 (Rd.h (w1))) ?_
  refine g_astore_n ok dX2_goBack_11 (ls1 := [some (.ref a), some (.int (nI j)), some (.ref vb), none, none]) (dl rfl) rfl ?_
  refine g_aload_n ok dX2_goBack_12 rfl ?_
  refine g_aload_n ok dX2_goBack_13 rfl ?_
  refine g_callV ok q1470 q1471 q1472 q62 q1473 (Recv.ob ok gc_X2 (Rd.h (ra1))) dX2_goBack_14 (x_version X.l X.G _ (fun q => h0 q = none) a R rt cl nl vl (R 3) (R 4) (R 5) (R 0) (R 6) (R 7) mq2) (nm_ (by decide : nmb _ 0 = true)) (dl rfl) (dk rfl) rfl rfl (dk rfl) (by omega) (kR fun u5 h5 ⟨b2, na2, ca2, wn2, wc2, e5, f1, f2, f3, o1, o2, o3, o4, q5, g5⟩ => ?_) xR
  subst e5
  obtain ⟨ra2, rT2, cf2, rc2, rf2⟩ := id q5
  have nca2 : cl ≠ a := fun z_ => by have w_ := rc2; rw [z_, ra2] at w_; cases w_
  have v1 := Chg.other g5 w1 ⟨by decide, by decide⟩
  have v2 := Chg.arr g5 w2
  have v3 := Chg.arr g5 w3
  obtain ⟨y3, z3⟩ := RulerM.chg y1 z1 ((Chg.refl _ _ _ _).trans g5) q5.2.1
  refine g_iconst ok (v := 0) dX2_goBack_17 rfl ?_
  refine g_bipush ok (v := 31) dX2_goBack_18 rfl ?_
  refine g_callV ok q1506 q1507 q1508 q99 q1509 (Recv.ob ok gc_X12 (Rd.h (v1))) dX2_goBack_20 (x_differs X.l X.G _ vb b2 na ca na2 ca2 wn wc wn2 wc2 v1 o1 v2 v3 o2 o3 0 31 (by omega) (by omega)) (nm_ (by decide : nmb _ 3 = true)) (dl rfl) (dk rfl) rfl rfl (dk rfl) (by omega) (kV ?_) xV
  refine g_istore_n ok dX2_goBack_23 (ls1 := [some (.ref a), some (.int (nI j)), some (.ref vb), some (.int (dfv wn wc wn2 wc2 (31 + 1 - 0) 0 0)), none]) (dl rfl) rfl ?_
  have eD : dfv wn wc wn2 wc2 (31 + 1 - 0) 0 0 = dfl R j 32 0 0 := dfv_dfl w4 o4 32 0 0 (by omega)
  rw [eD]
  refine g_iconst ok (v := 0) dX2_goBack_24 rfl ?_
  refine g_istore ok dX2_goBack_25 (ls1 := [some (.ref a), some (.int (nI j)), some (.ref vb), some (.int (dfl R j 32 0 0)), some (.int 0)]) (dl rfl) rfl ?_
  have lp : ∀ (n c : Nat) (S : Nat → Int32) (H : AH) (kq : Nat), (c + n = 32) → (S = rBk j c R) → (Rul X.G H (fun q => h0 q = none) a S rt cl nl nd nc nm nf vl vd vc vm vf) → (Frs X.G h0 H a S cl nl nd nc nf vl vd vc vf) → (H vb = some (ob 8 [.ref na, .ref ca])) → (H na = some (aI X.G 32 wn)) → (H ca = some (aI X.G 32 wc)) → (kq + 110 * n ≤ 6000) → GW X H kq 27 [some (.ref a), some (.int (nI j)), some (.ref vb), some (.int (dfl R j 32 0 0)), some (.int (nI c))] [] := by
    intro n
    induction n with
    | zero => 
      intro c S H kq e0 e1 y9 z9 p1 p2 p3 kb
      have mq4 : RQ X.G H (fun q => h0 q = none) a S rt cl [.ref nl, .ref vl, .int (S 3), .int (S 4), .int (S 5), .int (S 0), .int (S 6), .int (S 7)] := y9.1
      obtain ⟨ra3, rT3, cf3, rc3, rf3⟩ := id mq4
      have nca3 : cl ≠ a := fun z_ => by have w_ := rc3; rw [z_, ra3] at w_; cases w_
      refine g_iload ok dX2_goBack_27 rfl ?_
      refine g_bipush ok (v := 32) dX2_goBack_29 rfl ?_
      refine g_icmp_ge ok (tgt := 78) dX2_goBack_31 (by decide) (fun _ => ?_) (fun c_ => absurd (nI_le (a := 32) (b := c) (by omega) (by omega)) c_)
      have ec : c = 32 := by omega
      subst ec
      subst e1
      refine g_iload_n ok dX2_goBack_78 rfl ?_
      exact g_iret ok fn rfl dX2_goBack_79 ⟨_, rfl, rfl, ⟨rt, cl, nl, nd, nc, nm, nf, vl, vd, vc, vm, vf, y9, z9⟩⟩ (by omega)
    | succ n ih => 
      intro c S H kq e0 e1 y9 z9 p1 p2 p3 kb
      have mq4 : RQ X.G H (fun q => h0 q = none) a S rt cl [.ref nl, .ref vl, .int (S 3), .int (S 4), .int (S 5), .int (S 0), .int (S 6), .int (S 7)] := y9.1
      obtain ⟨ra3, rT3, cf3, rc3, rf3⟩ := id mq4
      have nca3 : cl ≠ a := fun z_ => by have w_ := rc3; rw [z_, ra3] at w_; cases w_
      refine g_iload ok dX2_goBack_27 rfl ?_
      refine g_bipush ok (v := 32) dX2_goBack_29 rfl ?_
      refine g_icmp_ge ok (tgt := 78) dX2_goBack_31 (by decide) (fun c_ => absurd c_ (nI_ge (a := c) (b := 32) (by omega) (by omega))) (fun _ => ?_)
      refine g_aload_n ok dX2_goBack_34 rfl ?_
      refine g_get ok ck_X2 0 q243 (Or.inl rfl) (by decide) dX2_goBack_35 (Rd.h (ra3)) rfl ?_
      refine g_iload ok dX2_goBack_38 rfl ?_
      refine g_iload ok dX2_goBack_40 rfl ?_
      refine g_gets ok (C := "SpanRuler$Kind") (n := "SET") (d := "LSpanRuler$Kind;") (v := .ref (X.G.ga "K1")) (by simp [gzs]) q1164 dX2_goBack_42 ?_
      refine g_aload_n ok dX2_goBack_45 rfl ?_
      refine g_getN ok ck_X12 0 q1480 rfl (by decide) dX2_goBack_46 (Rd.h (p1)) rfl ?_
      refine g_iload ok dX2_goBack_49 rfl ?_
      refine g_iald ok (j := c) dX2_goBack_51 (Rd.h (p2)) rfl (by omega) (by omega) ?_
      rw [(w4 c (by omega)).1]
      refine g_callUR ok (C := "SpanRuler$Kind$2") (owner := "SpanRuler$Kind") q1032 q1034 q1040 q1041 q1042 (ok.declA q1033) (by decide) ((Recv.kd (v := 1) (by simp [gkn]))) dX2_goBack_52 (r_withX17 X.l X.G _ (X.G.ga "K1") (R (122 + 64 * j + c))) (nm_ (by decide : nmb _ 1 = true)) (dl rfl) (dk rfl) rfl rfl (dk rfl) (by omega) (kR fun ut hw ⟨t, et, ft, kt, ht⟩ => ?_) xR
      subst et; subst ht
      obtain ⟨y8, z8⟩ := RF.new (e := ob 4 [.int 0, .int (R (122 + 64 * j + c))]) y9 z9 ft
      have p1b : (up H t (ob 4 [.int 0, .int (R (122 + 64 * j + c))])) vb = _ := (up_ne (fun z_ => by rw [z_, ft] at p1; cases p1)).trans p1
      have p2b : (up H t (ob 4 [.int 0, .int (R (122 + 64 * j + c))])) na = _ := (up_ne (fun z_ => by rw [z_, ft] at p2; cases p2)).trans p2
      have p3b : (up H t (ob 4 [.int 0, .int (R (122 + 64 * j + c))])) ca = _ := (up_ne (fun z_ => by rw [z_, ft] at p3; cases p3)).trans p3
      have ru : (up H t (ob 4 [.int 0, .int (R (122 + 64 * j + c))])) t = some (ob 4 [.int 0, .int (R (122 + 64 * j + c))]) := up_self
      have mq5 : RQ X.G (up H t (ob 4 [.int 0, .int (R (122 + 64 * j + c))])) (fun q => h0 q = none) a S rt cl [.ref nl, .ref vl, .int (S 3), .int (S 4), .int (S 5), .int (S 0), .int (S 6), .int (S 7)] := y8.1
      obtain ⟨ra4, rT4, cf4, rc4, rf4⟩ := id mq5
      have nca4 : cl ≠ a := fun z_ => by have w_ := rc4; rw [z_, ra4] at w_; cases w_
      refine g_callSN ok q1099 q1100 q61 q1101 dX2_goBack_55 (q_does X.l X.G _ c c 0 (R (122 + 64 * j + c)) (by omega) (by omega) (Or.inl rfl) 5 _ _ 0 rt t 100 rT4 (by decide) ru (fun _ _ _ _ _ => by rw [Int32.zero_mul, Int32.zero_add]; exact (iR.2.2.2.2.2 j hj c (by omega)).1) (cst_two c (by omega) c (by omega))) (nm_ (by decide : nmb _ 4 = true)) (dl rfl) (dk rfl) rfl rfl (dk rfl) (by omega) (kQ fun h2 ⟨t2, c2⟩ => ?_) xQ
      have tn : ∀ q, dact c c 0 (R (122 + 64 * j + c)) (fun c => S (8 + c)) q = upd S (8 + c) (R (122 + 64 * j + c)) (8 + q) := by
        intro q; unfold dact; by_cases q1 : c ≤ q ∧ q ≤ c
        · have : q = c := by omega
          subst this; rw [if_pos q1, upd_at, Int32.zero_mul, Int32.zero_add]
        · rw [if_neg q1, upd_ne (by omega)]
      obtain ⟨y7, z7⟩ := Rul.num (S := upd S (8 + c) (R (122 + 64 * j + c))) y8 z8 c2 (t2.congr (fun q _ _ => tn q)) (fun q hq => upd_ne (by omega))
      have mq6 : RQ X.G h2 (fun q => h0 q = none) a (upd S (8 + c) (R (122 + 64 * j + c))) rt cl [.ref nl, .ref vl, .int ((upd S (8 + c) (R (122 + 64 * j + c))) 3), .int ((upd S (8 + c) (R (122 + 64 * j + c))) 4), .int ((upd S (8 + c) (R (122 + 64 * j + c))) 5), .int ((upd S (8 + c) (R (122 + 64 * j + c))) 0), .int ((upd S (8 + c) (R (122 + 64 * j + c))) 6), .int ((upd S (8 + c) (R (122 + 64 * j + c))) 7)] := y7.1
      obtain ⟨ra5, rT5, cf5, rc5, rf5⟩ := id mq6
      have nca5 : cl ≠ a := fun z_ => by have w_ := rc5; rw [z_, ra5] at w_; cases w_
      have p1c := c2.other p1b ⟨by decide, by decide⟩
      have p2c := c2.arr p2b
      have p3c := c2.arr p3b
      have nvc : vb ≠ cl := fun z_ => by have w_ := rc5; rw [← z_, p1c] at w_; cases w_
      refine g_aload_n ok dX2_goBack_58 rfl ?_
      refine g_get ok ck_X2 1 q244 (Or.inl rfl) (by decide) dX2_goBack_59 (Rd.h (ra5)) rfl ?_
      refine g_iload ok dX2_goBack_62 rfl ?_
      refine g_aload_n ok dX2_goBack_64 rfl ?_
      refine g_getN ok ck_X12 1 q1483 rfl (by decide) dX2_goBack_65 (Rd.h (p1c)) rfl ?_
      refine g_iload ok dX2_goBack_68 rfl ?_
      refine g_iald ok (j := c) dX2_goBack_70 (Rd.h (p3c)) rfl (by omega) (by omega) ?_
      rw [(w4 c (by omega)).2]
      refine g_iast ok (j := c) dX2_goBack_71 (rc5) rfl (by omega) (by omega) ?_
      refine g_iincN ok dX2_goBack_72 (c := c) rfl rfl (ls1 := [some (.ref a), some (.int (nI j)), some (.ref vb), some (.int (dfl R j 32 0 0)), some (.int (nI (c + 1)))]) rfl ?_
      refine g_goto ok dX2_goBack_75 (tgt := 27) (by decide) ?_
      have k1 : ∀ q, q < 32 → upd cf5 c (R (122 + 64 * j + 32 + c)) q = upd (upd S (8 + c) (R (122 + 64 * j + c))) (40 + c) (R (122 + 64 * j + 32 + c)) (40 + q) := by
        intro q hq; by_cases q1 : q = c
        · subst q1; rw [upd_at, upd_at]
        · rw [upd_ne q1, upd_ne (by omega)]; exact rf5 q hq
      have k2 : ∀ q, q < 32 → isCo (upd (upd S (8 + c) (R (122 + 64 * j + c))) (40 + c) (R (122 + 64 * j + 32 + c)) (40 + q)) = true := by
        intro q hq; by_cases q1 : q = c
        · subst q1; rw [upd_at]; exact (iR.2.2.2.2.2 j hj q hq).2
        · rw [upd_ne (by omega)]; exact y7.2.2.2.2.2.1.2.2.2.1 q hq
      obtain ⟨y6, z6⟩ := Rul.cols (cf2 := upd cf5 c (R (122 + 64 * j + 32 + c))) (S := upd (upd S (8 + c) (R (122 + 64 * j + c))) (40 + c) (R (122 + 64 * j + 32 + c))) y7 z7 rc5 (fun q hq => upd_ne (by omega)) k1 k2
      have eS : upd (upd S (8 + c) (R (122 + 64 * j + c))) (40 + c) (R (122 + 64 * j + 32 + c)) = rBk j (c + 1) R := by
        funext q; subst e1
        by_cases q1 : q = 40 + c
        · subst q1; rw [upd_at]; unfold rBk; rw [if_pos (by omega)]; congr 1; omega
        · rw [upd_ne q1]; by_cases q2 : q = 8 + c
          · subst q2; rw [upd_at]; unfold rBk; rw [if_pos (by omega)]; congr 1; omega
          · rw [upd_ne q2]; unfold rBk; by_cases q3 : (8 ≤ q ∧ q < 8 + c) ∨ (40 ≤ q ∧ q < 40 + c)
            · rw [if_pos q3, if_pos (by omega)]
            · rw [if_neg q3, if_neg (by omega)]
      exact ih (c + 1) _ _ _ (by omega) eS y6 z6 ((up_ne (fun z_ => by rw [z_, rc5] at p1c; cases p1c)).trans p1c) ((up_ne ncc.1).trans p2c) ((up_ne ncc.2).trans p3c) (by omega)
  exact lp 32 0 R _ _ (by omega) (by funext q; unfold rBk; rw [if_neg (by omega)]) y3 z3 v1 v2 v3 (by omega)
