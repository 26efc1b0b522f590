/-! a ruler is changed, 9: add, write, keep -/
set_option maxRecDepth 100000
abbrev cX2_add : ByteArray := prog_16_method_8_code
def yX2_add : MethodName := ⟨RX2, "add", "(III)I"⟩
def dkwX2_add_2 : List UInt8 := [28, 182, 0, 138, 172]
abbrev dktX2_add_2 : List UInt8 := dkwX2_add_2 ++ []
def dkwX2_add_1 : List UInt8 := [159, 0, 7, 4, 167, 0, 4, 3, 5, 21, 5, 184, 0, 131, 42, 27, 28, 25, 4, 182, 0, 135, 42, 27]
abbrev dktX2_add_1 : List UInt8 := dkwX2_add_1 ++ dktX2_add_2
def dkwX2_add_0 : List UInt8 := [178, 0, 117, 29, 182, 0, 123, 58, 4, 42, 27, 28, 25, 4, 182, 0, 127, 54, 5, 21, 5, 2]
abbrev dktX2_add_0 : List UInt8 := dkwX2_add_0 ++ dktX2_add_1
theorem dksX2_add_0 : cX2_add.data.toList.drop 0 = dktX2_add_0 := by decide +kernel
theorem dksX2_add_1 : cX2_add.data.toList.drop 22 = dktX2_add_1 := dk_seg dksX2_add_0 22 rfl rfl
theorem dksX2_add_2 : cX2_add.data.toList.drop 46 = dktX2_add_2 := dk_seg dksX2_add_1 24 rfl rfl
theorem dX2_add_0 : decode cX2_add 0 = .ok (.getstatic 117, 3) := dk_178 0 117 (dk_at dksX2_add_0 0 rfl rfl)
theorem dX2_add_3 : decode cX2_add 3 = .ok (.iload_n 3, 1) := dk_29 (dk_at dksX2_add_0 3 rfl rfl)
theorem dX2_add_4 : decode cX2_add 4 = .ok (.invokevirtual 123, 3) := dk_182 0 123 (dk_at dksX2_add_0 4 rfl rfl)
theorem dX2_add_7 : decode cX2_add 7 = .ok (.astore 4, 2) := dk_58 4 (dk_at dksX2_add_0 7 rfl rfl)
theorem dX2_add_9 : decode cX2_add 9 = .ok (.aload_n 0, 1) := dk_42 (dk_at dksX2_add_0 9 rfl rfl)
theorem dX2_add_10 : decode cX2_add 10 = .ok (.iload_n 1, 1) := dk_27 (dk_at dksX2_add_0 10 rfl rfl)
theorem dX2_add_11 : decode cX2_add 11 = .ok (.iload_n 2, 1) := dk_28 (dk_at dksX2_add_0 11 rfl rfl)
theorem dX2_add_12 : decode cX2_add 12 = .ok (.aload 4, 2) := dk_25 4 (dk_at dksX2_add_0 12 rfl rfl)
theorem dX2_add_14 : decode cX2_add 14 = .ok (.invokevirtual 127, 3) := dk_182 0 127 (dk_at dksX2_add_0 14 rfl rfl)
theorem dX2_add_17 : decode cX2_add 17 = .ok (.istore 5, 2) := dk_54 5 (dk_at dksX2_add_0 17 rfl rfl)
theorem dX2_add_19 : decode cX2_add 19 = .ok (.iload 5, 2) := dk_21 5 (dk_at dksX2_add_0 19 rfl rfl)
theorem dX2_add_21 : decode cX2_add 21 = .ok (.iconst (-1), 1) := dk_2 (dk_at dksX2_add_0 21 rfl rfl)
theorem dX2_add_22 : decode cX2_add 22 = .ok (.if_icmp .eq 7, 3) := dk_159 0 7 (dk_at dksX2_add_1 0 rfl rfl)
theorem dX2_add_25 : decode cX2_add 25 = .ok (.iconst 1, 1) := dk_4 (dk_at dksX2_add_1 3 rfl rfl)
theorem dX2_add_26 : decode cX2_add 26 = .ok (.goto 4, 3) := dk_167 0 4 (dk_at dksX2_add_1 4 rfl rfl)
theorem dX2_add_29 : decode cX2_add 29 = .ok (.iconst 0, 1) := dk_3 (dk_at dksX2_add_1 7 rfl rfl)
theorem dX2_add_30 : decode cX2_add 30 = .ok (.iconst 2, 1) := dk_5 (dk_at dksX2_add_1 8 rfl rfl)
theorem dX2_add_31 : decode cX2_add 31 = .ok (.iload 5, 2) := dk_21 5 (dk_at dksX2_add_1 9 rfl rfl)
theorem dX2_add_33 : decode cX2_add 33 = .ok (.invokestatic 131, 3) := dk_184 0 131 (dk_at dksX2_add_1 11 rfl rfl)
theorem dX2_add_36 : decode cX2_add 36 = .ok (.aload_n 0, 1) := dk_42 (dk_at dksX2_add_1 14 rfl rfl)
theorem dX2_add_37 : decode cX2_add 37 = .ok (.iload_n 1, 1) := dk_27 (dk_at dksX2_add_1 15 rfl rfl)
theorem dX2_add_38 : decode cX2_add 38 = .ok (.iload_n 2, 1) := dk_28 (dk_at dksX2_add_1 16 rfl rfl)
theorem dX2_add_39 : decode cX2_add 39 = .ok (.aload 4, 2) := dk_25 4 (dk_at dksX2_add_1 17 rfl rfl)
theorem dX2_add_41 : decode cX2_add 41 = .ok (.invokevirtual 135, 3) := dk_182 0 135 (dk_at dksX2_add_1 19 rfl rfl)
theorem dX2_add_44 : decode cX2_add 44 = .ok (.aload_n 0, 1) := dk_42 (dk_at dksX2_add_1 22 rfl rfl)
theorem dX2_add_45 : decode cX2_add 45 = .ok (.iload_n 1, 1) := dk_27 (dk_at dksX2_add_1 23 rfl rfl)
theorem dX2_add_46 : decode cX2_add 46 = .ok (.iload_n 2, 1) := dk_28 (dk_at dksX2_add_2 0 rfl rfl)
theorem dX2_add_47 : decode cX2_add 47 = .ok (.invokevirtual 138, 3) := dk_182 0 138 (dk_at dksX2_add_2 1 rfl rfl)
theorem dX2_add_50 : decode cX2_add 50 = .ok (.ireturn, 1) := dk_172 (dk_at dksX2_add_2 4 rfl rfl)
theorem q1031 : (Jvm.Cond.fieldLink "SpanRuler$Ruler" (117 : Nat) "SpanRuler$Kind" "ADD" "LSpanRuler$Kind;") ∈ lw_all := lw_g (lw_at lw_m5 11 rfl) rfl
theorem q1070 : (Jvm.Cond.methodLinkNest "SpanRuler$Ruler" (131 : Nat) ({ cls := "SpanRuler", name := "refuse", desc := "(ZII)V" } : Jvm.MethodName) "SpanRuler") ∈ lw_tbl := lw_at lw_m5 50 rfl
theorem q1072 : (Jvm.Cond.code ({ cls := "SpanRuler", name := "refuse", desc := "(ZII)V" } : Jvm.MethodName) prog_1_method_9_code (3 : Nat) (Option.none : Option Jvm.ClassFile.FieldType)) ∈ lw_all := lw_g (lw_at lw_m5 52 rfl) rfl
theorem q1071 : (Jvm.Cond.static ({ cls := "SpanRuler", name := "refuse", desc := "(ZII)V" } : Jvm.MethodName)) ∈ lw_all := lw_g (lw_at lw_m5 51 rfl) rfl
/-- a call is refused: all is as it was, a Refusal is thrown -/
def RefX (G : GE) (h0 : AH) (r d : Int32) (c : String) (q : Nat) (h : AH) : Prop := c = "SpanRuler$Refusal" ∧ KeepAll h0 h ∧ h0 q = none ∧ G.kh q = none ∧ ∃ u w, h q = some (ob 7 [.ref q, u, w, .null, .null, .int 0, .int r, .int d])
theorem RefX.mk {G : GE} {h0 h : AH} {r d : Int32} {q : Nat} {u w : Value} (k : KeepAll h0 h) (f : h q = none) (g : G.kh q = none) : RefX G h0 r d "SpanRuler$Refusal" q (up h q (ob 7 [.ref q, u, w, .null, .null, .int 0, .int r, .int d])) := ⟨rfl, k.trans (KeepAll.new f), k.nn0 f, g, u, w, up_self⟩
theorem u_add (l : Launch) (G : GE) (h0 h : AH) (a : Nat) (R : Nat → Int32) (m0 : RulerM G h0 h a R) (i j : Nat) (hij : i ≤ j) (hj : j < 32) (x : Int32) (hn : isNu 0 x = true) : GM l G yX2_add (ws_ yX2_add cX2_add 6 (some .int)) 14 [.ref a, .int (nI i), .int (nI j), .int x] (h) (2003) (PX (fun u h' => lvF R 0 x (j + 1 - i) i = -1 ∧ u = .int (sm (rAct 0 x i j R) (j + 1 - i) i 0) ∧ RulerM G h0 h' a (rAct 0 x i j R)) (fun c q h' => lvF R 0 x (j + 1 - i) i ≠ -1 ∧ RefX G h0 2 (lvF R 0 x (j + 1 - i) i) c q h')) := by
  refine GM.of (by decide) (dk rfl) ?_
  intro X eL eG eh ok fn
  subst eL; subst eG
  show GW X _ 0 0 [some (.ref a), some (.int (nI i)), some (.int (nI j)), some (.int x), none, none] []
  obtain ⟨rt, cl, nl, nd, nc, nm, nf, vl, vd, vc, vm, vf, y1, z1⟩ := id m0
  have mq2 : RQ X.G h (fun q => h0 q = none) a R rt cl [.ref nl, .ref vl, .int (R 3), .int (R 4), .int (R 5), .int (R 0), .int (R 6), .int (R 7)] := y1.1
  obtain ⟨ra1, rT1, cf1, rc1, rf1⟩ := id mq2
  have nca1 : cl ≠ a := fun z_ => by have w_ := rc1; rw [z_, ra1] at w_; cases w_
  refine g_gets ok (C := "SpanRuler$Kind") (n := "ADD") (d := "LSpanRuler$Kind;") (v := .ref (X.G.ga "K0")) (by simp [gzs]) q1031 dX2_add_0 ?_
  refine g_iload_n ok dX2_add_3 rfl ?_
  obtain ⟨y3, z3⟩ := RulerM.chg y1 z1 (Chg.refl _ _ _ _) mq2.2.1
  refine g_callUR ok (C := "SpanRuler$Kind$1") (owner := "SpanRuler$Kind") q1032 q1034 q1035 q1036 q1037 (ok.declA q1033) (by decide) ((Recv.kd (v := 0) (by simp [gkn]))) dX2_add_4 (r_withX16 X.l X.G _ (X.G.ga "K0") x) (nm_ (by decide : nmb _ 1 = true)) (dl rfl) (dk rfl) rfl rfl (dk rfl) (by omega) (kR fun u1_ hh1_ ⟨t1_, e1_, f1_, kh1_, k1_⟩ => ?_) xR
  subst e1_; subst k1_
  have m1_ := RulerM.new (e := ob 4 [.int 1, .int x]) (⟨rt, cl, nl, nd, nc, nm, nf, vl, vd, vc, vm, vf, y3, z3⟩ : RulerM X.G h0 h a R) f1_
  obtain ⟨rt, cl, nl, nd, nc, nm, nf, vl, vd, vc, vm, vf, y4, z4⟩ := id m1_
  have mq5 : RQ X.G (up h t1_ (ob 4 [.int 1, .int x])) (fun q => h0 q = none) a R rt cl [.ref nl, .ref vl, .int (R 3), .int (R 4), .int (R 5), .int (R 0), .int (R 6), .int (R 7)] := y4.1
  obtain ⟨ra2, rT2, cf2, rc2, rf2⟩ := id mq5
  have nca2 : cl ≠ a := fun z_ => by have w_ := rc2; rw [z_, ra2] at w_; cases w_
  have ru1_ : (up h t1_ (ob 4 [.int 1, .int x])) t1_ = some (ob 4 [.int (fK 0), .int (sK 0 x)]) := by rw [fK0, sK0]; exact up_self
  refine g_astore ok dX2_add_7 (ls1 := [some (.ref a), some (.int (nI i)), some (.int (nI j)), some (.int x), some (.ref t1_), none]) (dl rfl) rfl ?_
  refine g_aload_n ok dX2_add_9 rfl ?_
  refine g_iload_n ok dX2_add_10 rfl ?_
  refine g_iload_n ok dX2_add_11 rfl ?_
  refine g_aload ok dX2_add_12 rfl ?_
  refine g_callV ok q1050 q1052 qs4 q62 q1053 (Recv.ob ok gc_X2 (Rd.h (ra2))) dX2_add_14 (x_leaving X.l X.G _ (fun q => h0 q = none) a R rt cl nl vl (R 3) (R 4) (R 5) (R 0) (R 6) (R 7) mq5 i j (by omega) (by omega) t1_ 0 x hn (ru1_)) (nm_ (by decide : nmb _ 3 = true)) (dl rfl) (dk rfl) rfl rfl (dk rfl) (by omega) (kR fun u2_ h2_ ⟨e2_, q2_, g2_⟩ => ?_) xR
  subst e2_
  obtain ⟨ra3, rT3, cf3, rc3, rf3⟩ := id q2_
  have nca3 : cl ≠ a := fun z_ => by have w_ := rc3; rw [z_, ra3] at w_; cases w_
  refine g_istore ok dX2_add_17 (ls1 := [some (.ref a), some (.int (nI i)), some (.int (nI j)), some (.int x), some (.ref t1_), some (.int (lvF R 0 x (j + 1 - i) i))]) (dl rfl) rfl ?_
  refine g_iload ok dX2_add_19 rfl ?_
  refine g_iconst ok (v := -1) dX2_add_21 rfl ?_
  refine g_icmp_eq ok (tgt := 29) dX2_add_22 (by decide) (fun c22 => ?_) (fun c22 => ?_)
  · refine g_iconst ok (v := 0) dX2_add_29 rfl ?_
    refine g_iconst ok (v := 2) dX2_add_30 rfl ?_
    refine g_iload ok dX2_add_31 rfl ?_
    refine g_callSN ok q1070 q1071 q61 q1072 dX2_add_33 (x_refuse0 X.l X.G _ 2 (lvF R 0 x (j + 1 - i) i)) (nm_ (by decide : nmb _ 3 = true)) (dl rfl) (dk rfl) rfl rfl (dk rfl) (by omega) (kN ?_) xN
    have al : ∀ c, i ≤ c → c ≤ j → rg (mby 0 (R (8 + c)) x) := fun c p q => lvF_all (j + 1 - i) i (by omega) c22 c p (by omega)
    refine g_aload_n ok dX2_add_36 rfl ?_
    refine g_iload_n ok dX2_add_37 rfl ?_
    refine g_iload_n ok dX2_add_38 rfl ?_
    refine g_aload ok dX2_add_39 rfl ?_
    obtain ⟨y6, z6⟩ := RulerM.chg y4 z4 ((Chg.refl _ _ _ _).trans g2_) q2_.2.1
    refine g_callV ok q1095 q1097 qs5 q62 q1098 (Recv.ob ok gc_X2 (Rd.h (ra3))) dX2_add_41 (u_does X.l X.G h0 _ a R ⟨rt, cl, nl, nd, nc, nm, nf, vl, vd, vc, vm, vf, y6, z6⟩ i j (by omega) (by omega) t1_ 0 x ((Chg.other g2_ (ru1_) ⟨by decide, by decide⟩)) (al)) (nm_ (by decide : nmb _ 3 = true)) (dl rfl) (dk rfl) rfl rfl (dk rfl) (by omega) (kQ fun h3_ m3_ => ?_) xQ
    obtain ⟨rt, cl, nl, nd, nc, nm, nf, vl, vd, vc, vm, vf, y7, z7⟩ := id m3_
    have mq8 : RQ X.G h3_ (fun q => h0 q = none) a (rAct 0 x i j R) rt cl [.ref nl, .ref vl, .int ((rAct 0 x i j R) 3), .int ((rAct 0 x i j R) 4), .int ((rAct 0 x i j R) 5), .int ((rAct 0 x i j R) 0), .int ((rAct 0 x i j R) 6), .int ((rAct 0 x i j R) 7)] := y7.1
    obtain ⟨ra4, rT4, cf4, rc4, rf4⟩ := id mq8
    have nca4 : cl ≠ a := fun z_ => by have w_ := rc4; rw [z_, ra4] at w_; cases w_
    refine g_aload_n ok dX2_add_44 rfl ?_
    refine g_iload_n ok dX2_add_45 rfl ?_
    refine g_iload_n ok dX2_add_46 rfl ?_
    refine g_callV ok q1113 q913 q914 q62 q915 (Recv.ob ok gc_X2 (Rd.h (ra4))) dX2_add_47 (x_sum X.l X.G _ (fun q => h0 q = none) a (rAct 0 x i j R) rt cl nl vl ((rAct 0 x i j R) 3) ((rAct 0 x i j R) 4) ((rAct 0 x i j R) 5) ((rAct 0 x i j R) 0) ((rAct 0 x i j R) 6) ((rAct 0 x i j R) 7) mq8 i j (by omega) (by omega)) (nm_ (by decide : nmb _ 2 = true)) (dl rfl) (dk rfl) rfl rfl (dk rfl) (by omega) (kR fun u4_ h4_ ⟨e4_, q4_, g4_⟩ => ?_) xR
    subst e4_
    obtain ⟨ra5, rT5, cf5, rc5, rf5⟩ := id q4_
    have nca5 : cl ≠ a := fun z_ => by have w_ := rc5; rw [z_, ra5] at w_; cases w_
    obtain ⟨y9, z9⟩ := RulerM.chg y7 z7 ((Chg.refl _ _ _ _).trans g4_) q4_.2.1
    exact g_iret ok fn rfl dX2_add_50 (Or.inl ⟨_, rfl, c22, rfl, ⟨rt, cl, nl, nd, nc, nm, nf, vl, vd, vc, vm, vf, y9, z9⟩⟩) (by omega)
  · refine g_iconst ok (v := 1) dX2_add_25 rfl ?_
    refine g_goto ok dX2_add_26 (tgt := 30) (by decide) ?_
    refine g_iconst ok (v := 2) dX2_add_30 rfl ?_
    refine g_iload ok dX2_add_31 rfl ?_
    obtain ⟨y6, z6⟩ := RulerM.chg y4 z4 ((Chg.refl _ _ _ _).trans g2_) q2_.2.1
    refine g_callSN ok q1070 q1071 q61 q1072 dX2_add_33 (x_refuse1 X.l X.G _ 2 (lvF R 0 x (j + 1 - i) i)) (nm_ (by decide : nmb _ 3 = true)) (dl rfl) (dk rfl) rfl rfl (dk rfl) (by omega) kTR (xTR fun qx ux wx fx kx => ?_)
    exact g_out ok fn (fun z hz => nomatch hz) (Or.inr ⟨_, _, rfl, c22, RefX.mk z6.1 fx kx⟩) (by omega)
