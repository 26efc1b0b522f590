/-! the tree: an act is done -/
set_option maxRecDepth 100000
abbrev cX1_does : ByteArray := prog_1_method_12_code
def yX1_does : MethodName := ⟨RX1, "does", "(LSpanRuler$Node;IILSpanRuler$Act;)V"⟩
def dkwX1_does_3 : List UInt8 := [182, 0, 83, 177]
abbrev dktX1_does_3 : List UInt8 := dkwX1_does_3 ++ []
def dkwX1_does_2 : List UInt8 := [182, 0, 72, 27, 28, 45, 184, 0, 76, 25, 4, 182, 0, 80, 27, 28, 45, 184, 0, 76, 25, 4]
abbrev dktX1_does_2 : List UInt8 := dkwX1_does_2 ++ dktX1_does_3
def dkwX1_does_1 : List UInt8 := [167, 0, 48, 42, 193, 0, 48, 153, 0, 41, 42, 192, 0, 48, 58, 4, 25, 4, 182, 0, 69, 25, 4]
abbrev dktX1_does_1 : List UInt8 := dkwX1_does_1 ++ dktX1_does_2
def dkwX1_does_0 : List UInt8 := [42, 27, 28, 182, 0, 57, 153, 0, 4, 177, 42, 27, 28, 182, 0, 63, 153, 0, 11, 42, 45, 182, 0, 65]
abbrev dktX1_does_0 : List UInt8 := dkwX1_does_0 ++ dktX1_does_1
theorem dksX1_does_0 : cX1_does.data.toList.drop 0 = dktX1_does_0 := by decide +kernel
theorem dksX1_does_1 : cX1_does.data.toList.drop 24 = dktX1_does_1 := dk_seg dksX1_does_0 24 rfl rfl
theorem dksX1_does_2 : cX1_does.data.toList.drop 47 = dktX1_does_2 := dk_seg dksX1_does_1 23 rfl rfl
theorem dksX1_does_3 : cX1_does.data.toList.drop 69 = dktX1_does_3 := dk_seg dksX1_does_2 22 rfl rfl
theorem dX1_does_0 : decode cX1_does 0 = .ok (.aload_n 0, 1) := dk_42 (dk_at dksX1_does_0 0 rfl rfl)
theorem dX1_does_1 : decode cX1_does 1 = .ok (.iload_n 1, 1) := dk_27 (dk_at dksX1_does_0 1 rfl rfl)
theorem dX1_does_2 : decode cX1_does 2 = .ok (.iload_n 2, 1) := dk_28 (dk_at dksX1_does_0 2 rfl rfl)
theorem dX1_does_3 : decode cX1_does 3 = .ok (.invokevirtual 57, 3) := dk_182 0 57 (dk_at dksX1_does_0 3 rfl rfl)
theorem dX1_does_6 : decode cX1_does 6 = .ok (.ifCond .eq 4, 3) := dk_153 0 4 (dk_at dksX1_does_0 6 rfl rfl)
theorem dX1_does_9 : decode cX1_does 9 = .ok (.return_, 1) := dk_177 (dk_at dksX1_does_0 9 rfl rfl)
theorem dX1_does_10 : decode cX1_does 10 = .ok (.aload_n 0, 1) := dk_42 (dk_at dksX1_does_0 10 rfl rfl)
theorem dX1_does_11 : decode cX1_does 11 = .ok (.iload_n 1, 1) := dk_27 (dk_at dksX1_does_0 11 rfl rfl)
theorem dX1_does_12 : decode cX1_does 12 = .ok (.iload_n 2, 1) := dk_28 (dk_at dksX1_does_0 12 rfl rfl)
theorem dX1_does_13 : decode cX1_does 13 = .ok (.invokevirtual 63, 3) := dk_182 0 63 (dk_at dksX1_does_0 13 rfl rfl)
theorem dX1_does_16 : decode cX1_does 16 = .ok (.ifCond .eq 11, 3) := dk_153 0 11 (dk_at dksX1_does_0 16 rfl rfl)
theorem dX1_does_19 : decode cX1_does 19 = .ok (.aload_n 0, 1) := dk_42 (dk_at dksX1_does_0 19 rfl rfl)
theorem dX1_does_20 : decode cX1_does 20 = .ok (.aload_n 3, 1) := dk_45 (dk_at dksX1_does_0 20 rfl rfl)
theorem dX1_does_21 : decode cX1_does 21 = .ok (.invokevirtual 65, 3) := dk_182 0 65 (dk_at dksX1_does_0 21 rfl rfl)
theorem dX1_does_24 : decode cX1_does 24 = .ok (.goto 48, 3) := dk_167 0 48 (dk_at dksX1_does_1 0 rfl rfl)
theorem dX1_does_27 : decode cX1_does 27 = .ok (.aload_n 0, 1) := dk_42 (dk_at dksX1_does_1 3 rfl rfl)
theorem dX1_does_28 : decode cX1_does 28 = .ok (.instanceof 48, 3) := dk_193 0 48 (dk_at dksX1_does_1 4 rfl rfl)
theorem dX1_does_31 : decode cX1_does 31 = .ok (.ifCond .eq 41, 3) := dk_153 0 41 (dk_at dksX1_does_1 7 rfl rfl)
theorem dX1_does_34 : decode cX1_does 34 = .ok (.aload_n 0, 1) := dk_42 (dk_at dksX1_does_1 10 rfl rfl)
theorem dX1_does_35 : decode cX1_does 35 = .ok (.checkcast 48, 3) := dk_192 0 48 (dk_at dksX1_does_1 11 rfl rfl)
theorem dX1_does_38 : decode cX1_does 38 = .ok (.astore 4, 2) := dk_58 4 (dk_at dksX1_does_1 14 rfl rfl)
theorem dX1_does_40 : decode cX1_does 40 = .ok (.aload 4, 2) := dk_25 4 (dk_at dksX1_does_1 16 rfl rfl)
theorem dX1_does_42 : decode cX1_does 42 = .ok (.invokevirtual 69, 3) := dk_182 0 69 (dk_at dksX1_does_1 18 rfl rfl)
theorem dX1_does_45 : decode cX1_does 45 = .ok (.aload 4, 2) := dk_25 4 (dk_at dksX1_does_1 21 rfl rfl)
theorem dX1_does_47 : decode cX1_does 47 = .ok (.invokevirtual 72, 3) := dk_182 0 72 (dk_at dksX1_does_2 0 rfl rfl)
theorem dX1_does_50 : decode cX1_does 50 = .ok (.iload_n 1, 1) := dk_27 (dk_at dksX1_does_2 3 rfl rfl)
theorem dX1_does_51 : decode cX1_does 51 = .ok (.iload_n 2, 1) := dk_28 (dk_at dksX1_does_2 4 rfl rfl)
theorem dX1_does_52 : decode cX1_does 52 = .ok (.aload_n 3, 1) := dk_45 (dk_at dksX1_does_2 5 rfl rfl)
theorem dX1_does_53 : decode cX1_does 53 = .ok (.invokestatic 76, 3) := dk_184 0 76 (dk_at dksX1_does_2 6 rfl rfl)
theorem dX1_does_56 : decode cX1_does 56 = .ok (.aload 4, 2) := dk_25 4 (dk_at dksX1_does_2 9 rfl rfl)
theorem dX1_does_58 : decode cX1_does 58 = .ok (.invokevirtual 80, 3) := dk_182 0 80 (dk_at dksX1_does_2 11 rfl rfl)
theorem dX1_does_61 : decode cX1_does 61 = .ok (.iload_n 1, 1) := dk_27 (dk_at dksX1_does_2 14 rfl rfl)
theorem dX1_does_62 : decode cX1_does 62 = .ok (.iload_n 2, 1) := dk_28 (dk_at dksX1_does_2 15 rfl rfl)
theorem dX1_does_63 : decode cX1_does 63 = .ok (.aload_n 3, 1) := dk_45 (dk_at dksX1_does_2 16 rfl rfl)
theorem dX1_does_64 : decode cX1_does 64 = .ok (.invokestatic 76, 3) := dk_184 0 76 (dk_at dksX1_does_2 17 rfl rfl)
theorem dX1_does_67 : decode cX1_does 67 = .ok (.aload 4, 2) := dk_25 4 (dk_at dksX1_does_2 20 rfl rfl)
theorem dX1_does_69 : decode cX1_does 69 = .ok (.invokevirtual 83, 3) := dk_182 0 83 (dk_at dksX1_does_3 0 rfl rfl)
theorem dX1_does_72 : decode cX1_does 72 = .ok (.return_, 1) := dk_177 (dk_at dksX1_does_3 3 rfl rfl)
theorem q1102 : (Jvm.Cond.methodLink "SpanRuler" (65 : Nat) ({ cls := "SpanRuler$Node", name := "takes", desc := "(LSpanRuler$Act;)V" } : Jvm.MethodName)) ∈ lw_all := lw_g (lw_at lw_m5 82 rfl) rfl
theorem q175 : (Jvm.Cond.classLink "SpanRuler" (48 : Nat) "SpanRuler$Branch") ∈ lw_all := lw_g (lw_at lw_m1 115 rfl) rfl
theorem q1103 : (Jvm.Cond.methodLink "SpanRuler" (69 : Nat) ({ cls := "SpanRuler$Branch", name := "hands", desc := "()V" } : Jvm.MethodName)) ∈ lw_all := lw_g (lw_at lw_m5 83 rfl) rfl
theorem q2736 : (Jvm.Cond.selects "SpanRuler$Branch" ({ cls := "SpanRuler$Branch", name := "hands", desc := "()V" } : Jvm.MethodName) ({ cls := "SpanRuler$Branch", name := "hands", desc := "()V" } : Jvm.MethodName)) ∈ lw_all := lw_g (lw_at lw_m12 36 rfl) rfl
theorem q1104 : (Jvm.Cond.methodLink "SpanRuler" (72 : Nat) ({ cls := "SpanRuler$Branch", name := "left", desc := "()LSpanRuler$Node;" } : Jvm.MethodName)) ∈ lw_all := lw_g (lw_at lw_m5 84 rfl) rfl
theorem q2737 : (Jvm.Cond.selects "SpanRuler$Branch" ({ cls := "SpanRuler$Branch", name := "left", desc := "()LSpanRuler$Node;" } : Jvm.MethodName) ({ cls := "SpanRuler$Branch", name := "left", desc := "()LSpanRuler$Node;" } : Jvm.MethodName)) ∈ lw_all := lw_g (lw_at lw_m12 37 rfl) rfl
theorem q1105 : (Jvm.Cond.methodLink "SpanRuler" (76 : Nat) ({ cls := "SpanRuler", name := "does", desc := "(LSpanRuler$Node;IILSpanRuler$Act;)V" } : Jvm.MethodName)) ∈ lw_all := lw_g (lw_at lw_m5 85 rfl) rfl
theorem q1101 : (Jvm.Cond.code ({ cls := "SpanRuler", name := "does", desc := "(LSpanRuler$Node;IILSpanRuler$Act;)V" } : Jvm.MethodName) prog_1_method_12_code (5 : Nat) (Option.none : Option Jvm.ClassFile.FieldType)) ∈ lw_all := lw_g (lw_at lw_m5 81 rfl) rfl
theorem q1100 : (Jvm.Cond.static ({ cls := "SpanRuler", name := "does", desc := "(LSpanRuler$Node;IILSpanRuler$Act;)V" } : Jvm.MethodName)) ∈ lw_all := lw_g (lw_at lw_m5 80 rfl) rfl
theorem q1106 : (Jvm.Cond.methodLink "SpanRuler" (80 : Nat) ({ cls := "SpanRuler$Branch", name := "right", desc := "()LSpanRuler$Node;" } : Jvm.MethodName)) ∈ lw_all := lw_g (lw_at lw_m5 86 rfl) rfl
theorem q2738 : (Jvm.Cond.selects "SpanRuler$Branch" ({ cls := "SpanRuler$Branch", name := "right", desc := "()LSpanRuler$Node;" } : Jvm.MethodName) ({ cls := "SpanRuler$Branch", name := "right", desc := "()LSpanRuler$Node;" } : Jvm.MethodName)) ∈ lw_all := lw_g (lw_at lw_m12 38 rfl) rfl
theorem q1107 : (Jvm.Cond.methodLink "SpanRuler" (83 : Nat) ({ cls := "SpanRuler$Branch", name := "joins", desc := "()V" } : Jvm.MethodName)) ∈ lw_all := lw_g (lw_at lw_m5 87 rfl) rfl
theorem q1110 : (Jvm.Cond.code ({ cls := "SpanRuler$Branch", name := "joins", desc := "()V" } : Jvm.MethodName) prog_4_method_7_code (1 : Nat) (Option.none : Option Jvm.ClassFile.FieldType)) ∈ lw_all := lw_g (lw_at lw_m5 90 rfl) rfl
theorem q1108 : (Jvm.Cond.instanceMethod ({ cls := "SpanRuler$Branch", name := "joins", desc := "()V" } : Jvm.MethodName)) ∈ lw_all := lw_g (lw_at lw_m5 88 rfl) rfl
theorem q1109 : (Jvm.Cond.selects "SpanRuler$Branch" ({ cls := "SpanRuler$Branch", name := "joins", desc := "()V" } : Jvm.MethodName) ({ cls := "SpanRuler$Branch", name := "joins", desc := "()V" } : Jvm.MethodName)) ∈ lw_all := lw_g (lw_at lw_m5 89 rfl) rfl
/-- the numbers behind an act on a span -/
def dact (i j : Nat) (f x : Int32) (v : Nat → Int32) : Nat → Int32 := fun c => if i ≤ c ∧ c ≤ j then f * v c + x else v c
theorem dact_in {i j c : Nat} {f x : Int32} {v : Nat → Int32} (h1 : i ≤ c) (h2 : c ≤ j) : f * v c + x = dact i j f x v c := (if_pos ⟨h1, h2⟩).symm
theorem dact_out {i j c : Nat} {f x : Int32} {v : Nat → Int32} (h : ¬ (i ≤ c ∧ c ≤ j)) : v c = dact i j f x v c := (if_neg h).symm
def D_does (l : Launch) (G : GE) (P : Nat → Prop) (i j : Nat) (f x : Int32) (d Lv : Nat) : Prop := ∀ (h : AH) (v : Nat → Int32) (lo a u K : Nat), TreeAt h P d v lo a → lo + sz d ≤ 32 → h u = some (ob 4 [.int f, .int x]) → (∀ c, lo ≤ c → c < lo + sz d → i ≤ c → c ≤ j → rg (f * v c + x)) → cst d lo i j ≤ K →
  GM l G yX1_does (ws_ yX1_does cX1_does 5 none) Lv [.ref a, .int (nI i), .int (nI j), .ref u] h K (PQ fun h' => TreeAt h' P d (dact i j f x v) lo a ∧ Chg P lo (sz d) h h')
theorem q_does0 (l : Launch) (G : GE) (P : Nat → Prop) (i j : Nat) (f x : Int32) (hi : i < 32) (hj : j < 32) (hf : fac f) (h : AH) (v : Nat → Int32) (lo a u K : Nat) (T : TreeAt h P 0 v lo a) (h32 : lo + sz 0 ≤ 32) (ru : h u = some (ob 4 [.int f, .int x])) (hr : ∀ c, lo ≤ c → c < lo + sz 0 → i ≤ c → c ≤ j → rg (f * v c + x)) : GM l G yX1_does (ws_ yX1_does cX1_does 5 none) 5 [.ref a, .int (nI i), .int (nI j), .ref u] (h) (K) (PQ fun h' => TreeAt h' P 0 (dact i j f x v) lo a ∧ Chg P lo (sz 0) h h') := by
  refine GM.of (by decide) (dk rfl) ?_
  intro X eL eG eh ok fn
  subst eL; subst eG
  show GW X _ 0 0 [some (.ref a), some (.int (nI i)), some (.int (nI j)), some (.ref u), none] []
  obtain ⟨l1, l2, l3⟩ := TreeAt.opn0 T
  have z1 : lo + sz 0 - 1 = lo := by simp only [sz]; omega
  have z0 : sz 0 = 1 := rfl
  refine g_aload_n ok dX1_does_0 rfl ?_
  refine g_iload_n ok dX1_does_1 rfl ?_
  refine g_iload_n ok dX1_does_2 rfl ?_
  refine g_callU ok (C := "SpanRuler$Leaf") (owner := "SpanRuler$Node") q919 q921 q923 q920 q63 q924 (ok.declI q920 q924) (by decide) (Recv.ob ok gc_X4 (Rd.h l3)) dX1_does_3 (x_apartX4 X.l X.G _ a lo lo (v lo) (v lo) (v lo) (Rd.h l3) (nI i) (nI j)) (nm_ (by decide : nmb _ 2 = true)) (by omega) (dk rfl) rfl rfl (dk rfl) (by omega) (kV ?_) xV
  refine g_if_eq ok (tgt := 10) dX1_does_6 (by decide) (fun c6 => ?_) (fun c6 => ?_)
  · have c6' := bI_e c6
    have n9 := apart_f (lo := lo) (n := sz 0) (i := i) (j := j) (by rw [z1]; exact c6') (by omega) (by omega) (by omega)
    refine g_aload_n ok dX1_does_10 rfl ?_
    refine g_iload_n ok dX1_does_11 rfl ?_
    refine g_iload_n ok dX1_does_12 rfl ?_
    refine g_callU ok (C := "SpanRuler$Leaf") (owner := "SpanRuler$Node") q925 q927 q929 q926 q63 q930 (ok.declI q926 q930) (by decide) (Recv.ob ok gc_X4 (Rd.h l3)) dX1_does_13 (x_withinX4 X.l X.G _ a lo lo (v lo) (v lo) (v lo) (Rd.h l3) (nI i) (nI j)) (nm_ (by decide : nmb _ 2 = true)) (by omega) (dk rfl) rfl rfl (dk rfl) (by omega) (kV ?_) xV
    refine g_if_eq ok (tgt := 27) dX1_does_16 (by decide) (fun c16 => ?_) (fun c16 => ?_)
    · have c16' := bI_e c16
      have n8 := within_f (lo := lo) (n := sz 0) (i := i) (j := j) (by rw [z1]; exact c16') (by omega) (by omega) (by omega)
      omega
    · have c16' := bI_n c16
      have n8 := within_t (lo := lo) (n := sz 0) (i := i) (j := j) (by rw [z1]; exact c16') (by omega) (by omega) (by omega)
      refine g_aload_n ok dX1_does_19 rfl ?_
      refine g_aload_n ok dX1_does_20 rfl ?_
      refine g_callU ok (C := "SpanRuler$Leaf") (owner := "SpanRuler$Node") q1102 q944 q971 q943 q63 q952 (ok.declA q950) (by decide) (Recv.ob ok gc_X4 (Rd.h l3)) dX1_does_21 (t_takes0 X.l X.G T ru hf (fun c p q => hr c p q (by omega) (by omega)) (by omega)) (nm_ (by decide : nmb _ 1 = true)) (by omega) (dk rfl) rfl rfl (dk rfl) (by omega) (kQ fun h1 ⟨u1, u2⟩ => ?_) xQ
      refine g_goto ok dX1_does_24 (tgt := 72) (by decide) ?_
      exact g_vret ok fn rfl dX1_does_72 ⟨rfl, u1.congr (fun c p q => dact_in (by omega) (by omega)), u2⟩ (by omega)
  · have c6' := bI_n c6
    have n9 := apart_t (lo := lo) (n := sz 0) (i := i) (j := j) (by rw [z1]; exact c6') (by omega) (by omega) (by omega)
    exact g_vret ok fn rfl dX1_does_9 ⟨rfl, T.congr (fun c p q => dact_out (by omega)), Chg.refl _ _ _ _⟩ (by omega)
theorem q_doesS (l : Launch) (G : GE) (P : Nat → Prop) (i j : Nat) (f x : Int32) (hi : i < 32) (hj : j < 32) (hf : fac f) (d : Nat) (ih : D_does l G P i j f x d (5 + d)) (h : AH) (v : Nat → Int32) (lo a u K : Nat) (T : TreeAt h P (d + 1) v lo a) (h32 : lo + sz (d + 1) ≤ 32) (ru : h u = some (ob 4 [.int f, .int x])) (hr : ∀ c, lo ≤ c → c < lo + sz (d + 1) → i ≤ c → c ≤ j → rg (f * v c + x)) (hK : cst (d + 1) lo i j ≤ K) : GM l G yX1_does (ws_ yX1_does cX1_does 5 none) (6 + d) [.ref a, .int (nI i), .int (nI j), .ref u] (h) (K) (PQ fun h' => TreeAt h' P (d + 1) (dact i j f x v) lo a ∧ Chg P lo (sz (d + 1)) h h') := by
  refine GM.of (by decide) (dk rfl) ?_
  intro X eL eG eh ok fn
  subst eL; subst eG
  show GW X _ 0 0 [some (.ref a), some (.int (nI i)), some (.int (nI j)), some (.ref u), none] []
  obtain ⟨cl0, cr0, ct0, f0, s0, g, m, w, ⟨n1, n2, n3, n4, n5, n6, n7, n8⟩, tl, tr⟩ := TreeAt.opn (d := d) T
  have es : sz (d + 1) = sz d + sz d := rfl
  have sp := sz_pos d
  have h32b := h32
  rw [es] at h32b
  refine g_aload_n ok dX1_does_0 rfl ?_
  refine g_iload_n ok dX1_does_1 rfl ?_
  refine g_iload_n ok dX1_does_2 rfl ?_
  refine g_callU ok (C := "SpanRuler$Branch") (owner := "SpanRuler$Node") q919 q921 q922 q920 q63 q924 (ok.declI q920 q924) (by decide) (Recv.ob ok gc_X6 (Rd.h n2)) dX1_does_3 (x_apartX6 X.l X.G _ a lo (lo + (sz d + sz d) - 1) (tsum v (sz d + sz d) lo) g m cl0 cr0 ct0 (Rd.h n2) (nI i) (nI j)) (nm_ (by decide : nmb _ 2 = true)) (by omega) (dk rfl) rfl rfl (dk rfl) (by omega) (kV ?_) xV
  refine g_if_eq ok (tgt := 10) dX1_does_6 (by decide) (fun c6 => ?_) (fun c6 => ?_)
  · have c6' := bI_e c6
    have m9 := apart_f (lo := lo) (n := sz d + sz d) (i := i) (j := j) c6' (by omega) (by omega) (by omega)
    refine g_aload_n ok dX1_does_10 rfl ?_
    refine g_iload_n ok dX1_does_11 rfl ?_
    refine g_iload_n ok dX1_does_12 rfl ?_
    refine g_callU ok (C := "SpanRuler$Branch") (owner := "SpanRuler$Node") q925 q927 q928 q926 q63 q930 (ok.declI q926 q930) (by decide) (Recv.ob ok gc_X6 (Rd.h n2)) dX1_does_13 (x_withinX6 X.l X.G _ a lo (lo + (sz d + sz d) - 1) (tsum v (sz d + sz d) lo) g m cl0 cr0 ct0 (Rd.h n2) (nI i) (nI j)) (nm_ (by decide : nmb _ 2 = true)) (by omega) (dk rfl) rfl rfl (dk rfl) (by omega) (kV ?_) xV
    refine g_if_eq ok (tgt := 27) dX1_does_16 (by decide) (fun c16 => ?_) (fun c16 => ?_)
    · have c16' := bI_e c16
      have m8 := within_f (lo := lo) (n := sz d + sz d) (i := i) (j := j) c16' (by omega) (by omega) (by omega)
      have hK2 : 9 + cst d lo i j + cst d (lo + sz d) i j ≤ K := by have z : cst (d + 1) lo i j = 9 + cst d lo i j + cst d (lo + sz d) i j := (if_neg m9).trans (if_neg m8); omega
      refine g_aload_n ok dX1_does_27 rfl ?_
      refine g_instE ok q175 dX1_does_28 (Recv.ob ok gc_X6 (Rd.h n2)) ?_
      refine g_if_eq ok (tgt := 72) dX1_does_31 (by decide) (fun c_ => absurd c_ (by decide)) (fun _ => ?_)
      refine g_aload_n ok dX1_does_34 rfl ?_
      refine g_castE ok q175 dX1_does_35 (Recv.ob ok gc_X6 (Rd.h n2)) ?_
      refine g_astore ok dX1_does_38 (ls1 := [some (.ref a), some (.int (nI i)), some (.int (nI j)), some (.ref u), some (.ref a)]) (dl rfl) rfl ?_
      refine g_aload ok dX1_does_40 rfl ?_
      refine g_callV ok q1103 q936 q2736 q66 q937 (Recv.ob ok gc_X6 (Rd.h n2)) dX1_does_42 (t_hands X.l X.G _ P d v lo a T h32) (nm_ (by decide : nmb _ 0 = true)) (by omega) (dk rfl) rfl rfl (dk rfl) (by omega) (kQ fun h1 ⟨cl, cr, ct, g1, m1, ⟨o1, o2, o3, o4, o5, o6, o7, o8⟩, tl1, tr1, ch1⟩ => ?_) xQ
      have ru1 := ch1.other ru ⟨by decide, by decide⟩
      refine g_aload ok dX1_does_45 rfl ?_
      refine g_callV ok q1104 q976 q2737 q66 q977 (Recv.ob ok gc_X6 (Rd.h (o2))) dX1_does_47 (x_left X.l X.G _ a lo (lo + (sz d + sz d) - 1) (tsum v (sz d + sz d) lo) g1 m1 cl cr ct (Rd.h (o2))) (nm_ (by decide : nmb _ 0 = true)) (by omega) (dk rfl) rfl rfl (dk rfl) (by omega) (kV ?_) xV
      refine g_iload_n ok dX1_does_50 rfl ?_
      refine g_iload_n ok dX1_does_51 rfl ?_
      refine g_aload_n ok dX1_does_52 rfl ?_
      refine g_callS ok q1105 q1100 q61 q1101 dX1_does_53 (ih _ v lo cl u (cst d lo i j) tl1 (by omega) ru1 (fun c p q => hr c (by omega) (by omega)) (Nat.le_refl _)) (nm_ (by decide : nmb _ 4 = true)) (by omega) (dk rfl) rfl rfl (dk rfl) (by omega) (kQ fun h2 ⟨tl2, ch2⟩ => ?_) xQ
      have p2 := ch2.node o2 (by omega) (by omega) (by omega)
      have p5 := ch2.other o5 ⟨by decide, by decide⟩
      have ru2 := ch2.other ru1 ⟨by decide, by decide⟩
      have tr2 := ch2.tree tr1 (by omega) (Or.inr (Or.inr (by omega)))
      refine g_aload ok dX1_does_56 rfl ?_
      refine g_callV ok q1106 q983 q2738 q66 q984 (Recv.ob ok gc_X6 (Rd.h (p2))) dX1_does_58 (x_right X.l X.G _ a lo (lo + (sz d + sz d) - 1) (tsum v (sz d + sz d) lo) g1 m1 cl cr ct (Rd.h (p2))) (nm_ (by decide : nmb _ 0 = true)) (by omega) (dk rfl) rfl rfl (dk rfl) (by omega) (kV ?_) xV
      refine g_iload_n ok dX1_does_61 rfl ?_
      refine g_iload_n ok dX1_does_62 rfl ?_
      refine g_aload_n ok dX1_does_63 rfl ?_
      refine g_callS ok q1105 q1100 q61 q1101 dX1_does_64 (ih _ v (lo + sz d) cr u (cst d (lo + sz d) i j) tr2 (by omega) ru2 (fun c p q => hr c (by omega) (by omega)) (Nat.le_refl _)) (nm_ (by decide : nmb _ 4 = true)) (by omega) (dk rfl) rfl rfl (dk rfl) (by omega) (kQ fun h3 ⟨tr3, ch3⟩ => ?_) xQ
      have w2 := ch3.node p2 (by omega) (by omega) (by omega)
      have w5 := ch3.other p5 ⟨by decide, by decide⟩
      have tl3 := ch3.tree tl2 (by omega) (Or.inr (Or.inl (by omega)))
      refine g_aload ok dX1_does_67 rfl ?_
      refine g_callV ok q1107 q1108 q1109 q66 q1110 (Recv.ob ok gc_X6 (Rd.h (w2))) dX1_does_69 (t_joins X.l X.G _ P d (dact i j f x v) lo a cl cr ct (tsum v (sz d + sz d) lo) g1 m1 o1 w2 w5 tl3 tr3 h32) (nm_ (by decide : nmb _ 0 = true)) (by omega) (dk rfl) rfl rfl (dk rfl) (by omega) (kQ fun h4 ⟨tj, ch4⟩ => ?_) xQ
      refine g_vret ok fn rfl dX1_does_72 ⟨rfl, tj, ?_⟩ (by omega)
      rw [es] at ch1 ch4 ⊢
      exact ((ch1.trans (ch2.wide (by omega) (by omega))).trans (ch3.wide (by omega) (by omega))).trans ch4
    · have c16' := bI_n c16
      have m8 := within_t (lo := lo) (n := sz d + sz d) (i := i) (j := j) c16' (by omega) (by omega) (by omega)
      have hK3 : 3 ≤ K := by have z : cst (d + 1) lo i j = 3 := (if_neg m9).trans (if_pos m8); omega
      refine g_aload_n ok dX1_does_19 rfl ?_
      refine g_aload_n ok dX1_does_20 rfl ?_
      refine g_callU ok (C := "SpanRuler$Branch") (owner := "SpanRuler$Node") q1102 q944 q945 q946 q66 q947 (ok.declA q950) (by decide) (Recv.ob ok gc_X6 (Rd.h n2)) dX1_does_21 (t_takesB X.l X.G T ru hf (fun c p q => hr c p q (by omega) (by omega)) (by omega)) (nm_ (by decide : nmb _ 1 = true)) (by omega) (dk rfl) rfl rfl (dk rfl) (by omega) (kQ fun h1 ⟨u1, u2⟩ => ?_) xQ
      refine g_goto ok dX1_does_24 (tgt := 72) (by decide) ?_
      exact g_vret ok fn rfl dX1_does_72 ⟨rfl, u1.congr (fun c p q => dact_in (by omega) (by omega)), u2⟩ (by omega)
  · have c6' := bI_n c6
    have m9 := apart_t (lo := lo) (n := sz d + sz d) (i := i) (j := j) c6' (by omega) (by omega) (by omega)
    exact g_vret ok fn rfl dX1_does_9 ⟨rfl, T.congr (fun c p q => dact_out (by omega)), Chg.refl _ _ _ _⟩ (by omega)
theorem q_does (l : Launch) (G : GE) (P : Nat → Prop) (i j : Nat) (f x : Int32) (hi : i < 32) (hj : j < 32) (hf : fac f) : ∀ d, D_does l G P i j f x d (5 + d) := by
  intro d
  induction d with
  | zero => exact fun h v lo a u K T h32 ru hr _ => q_does0 l G P i j f x hi hj hf h v lo a u K T h32 ru hr
  | succ d ih =>
    intro h v lo a u K T h32 ru hr hK
    rw [show 5 + (d + 1) = 6 + d by omega]
    exact q_doesS l G P i j f x hi hj hf d ih h v lo a u K T h32 ru hr hK
