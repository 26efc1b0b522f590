/-! the tree: copied; notes, versions -/
set_option maxRecDepth 100000
abbrev cX3_isAs : ByteArray := prog_12_method_3_code
def yX3_isAs : MethodName := ⟨RX3, "isAs", "(LSpanRuler$Node;)V"⟩
def dkwX3_isAs_1 : List UInt8 := [177]
abbrev dktX3_isAs_1 : List UInt8 := dkwX3_isAs_1 ++ []
def dkwX3_isAs_0 : List UInt8 := [42, 43, 180, 0, 16, 181, 0, 16, 42, 43, 180, 0, 19, 181, 0, 19, 42, 43, 180, 0, 22, 181, 0, 22]
abbrev dktX3_isAs_0 : List UInt8 := dkwX3_isAs_0 ++ dktX3_isAs_1
theorem dksX3_isAs_0 : cX3_isAs.data.toList.drop 0 = dktX3_isAs_0 := by decide +kernel
theorem dksX3_isAs_1 : cX3_isAs.data.toList.drop 24 = dktX3_isAs_1 := dk_seg dksX3_isAs_0 24 rfl rfl
theorem dX3_isAs_0 : decode cX3_isAs 0 = .ok (.aload_n 0, 1) := dk_42 (dk_at dksX3_isAs_0 0 rfl rfl)
theorem dX3_isAs_1 : decode cX3_isAs 1 = .ok (.aload_n 1, 1) := dk_43 (dk_at dksX3_isAs_0 1 rfl rfl)
theorem dX3_isAs_2 : decode cX3_isAs 2 = .ok (.getfield 16, 3) := dk_180 0 16 (dk_at dksX3_isAs_0 2 rfl rfl)
theorem dX3_isAs_5 : decode cX3_isAs 5 = .ok (.putfield 16, 3) := dk_181 0 16 (dk_at dksX3_isAs_0 5 rfl rfl)
theorem dX3_isAs_8 : decode cX3_isAs 8 = .ok (.aload_n 0, 1) := dk_42 (dk_at dksX3_isAs_0 8 rfl rfl)
theorem dX3_isAs_9 : decode cX3_isAs 9 = .ok (.aload_n 1, 1) := dk_43 (dk_at dksX3_isAs_0 9 rfl rfl)
theorem dX3_isAs_10 : decode cX3_isAs 10 = .ok (.getfield 19, 3) := dk_180 0 19 (dk_at dksX3_isAs_0 10 rfl rfl)
theorem dX3_isAs_13 : decode cX3_isAs 13 = .ok (.putfield 19, 3) := dk_181 0 19 (dk_at dksX3_isAs_0 13 rfl rfl)
theorem dX3_isAs_16 : decode cX3_isAs 16 = .ok (.aload_n 0, 1) := dk_42 (dk_at dksX3_isAs_0 16 rfl rfl)
theorem dX3_isAs_17 : decode cX3_isAs 17 = .ok (.aload_n 1, 1) := dk_43 (dk_at dksX3_isAs_0 17 rfl rfl)
theorem dX3_isAs_18 : decode cX3_isAs 18 = .ok (.getfield 22, 3) := dk_180 0 22 (dk_at dksX3_isAs_0 18 rfl rfl)
theorem dX3_isAs_21 : decode cX3_isAs 21 = .ok (.putfield 22, 3) := dk_181 0 22 (dk_at dksX3_isAs_0 21 rfl rfl)
theorem dX3_isAs_24 : decode cX3_isAs 24 = .ok (.return_, 1) := dk_177 (dk_at dksX3_isAs_1 0 rfl rfl)
abbrev cX4_copy : ByteArray := prog_11_method_2_code
def yX4_copy : MethodName := ⟨RX4, "copy", "()LSpanRuler$Node;"⟩
def dkwX4_copy_0 : List UInt8 := [187, 0, 7, 89, 42, 180, 0, 9, 183, 0, 13, 76, 43, 42, 182, 0, 16, 43, 176]
abbrev dktX4_copy_0 : List UInt8 := dkwX4_copy_0 ++ []
theorem dksX4_copy_0 : cX4_copy.data.toList.drop 0 = dktX4_copy_0 := by decide +kernel
theorem dX4_copy_0 : decode cX4_copy 0 = .ok (.new 7, 3) := dk_187 0 7 (dk_at dksX4_copy_0 0 rfl rfl)
theorem dX4_copy_3 : decode cX4_copy 3 = .ok (.dup, 1) := dk_89 (dk_at dksX4_copy_0 3 rfl rfl)
theorem dX4_copy_4 : decode cX4_copy 4 = .ok (.aload_n 0, 1) := dk_42 (dk_at dksX4_copy_0 4 rfl rfl)
theorem dX4_copy_5 : decode cX4_copy 5 = .ok (.getfield 9, 3) := dk_180 0 9 (dk_at dksX4_copy_0 5 rfl rfl)
theorem dX4_copy_8 : decode cX4_copy 8 = .ok (.invokespecial 13, 3) := dk_183 0 13 (dk_at dksX4_copy_0 8 rfl rfl)
theorem dX4_copy_11 : decode cX4_copy 11 = .ok (.astore_n 1, 1) := dk_76 (dk_at dksX4_copy_0 11 rfl rfl)
theorem dX4_copy_12 : decode cX4_copy 12 = .ok (.aload_n 1, 1) := dk_43 (dk_at dksX4_copy_0 12 rfl rfl)
theorem dX4_copy_13 : decode cX4_copy 13 = .ok (.aload_n 0, 1) := dk_42 (dk_at dksX4_copy_0 13 rfl rfl)
theorem dX4_copy_14 : decode cX4_copy 14 = .ok (.invokevirtual 16, 3) := dk_182 0 16 (dk_at dksX4_copy_0 14 rfl rfl)
theorem dX4_copy_17 : decode cX4_copy 17 = .ok (.aload_n 1, 1) := dk_43 (dk_at dksX4_copy_0 17 rfl rfl)
theorem dX4_copy_18 : decode cX4_copy 18 = .ok (.areturn, 1) := dk_176 (dk_at dksX4_copy_0 18 rfl rfl)
abbrev cX6_copy : ByteArray := prog_4_method_2_code
def yX6_copy : MethodName := ⟨RX6, "copy", "()LSpanRuler$Node;"⟩
def dkwX6_copy_1 : List UInt8 := [182, 0, 30, 183, 0, 36, 76, 43, 42, 182, 0, 39, 43, 42, 180, 0, 10, 181, 0, 10, 43, 176]
abbrev dktX6_copy_1 : List UInt8 := dkwX6_copy_1 ++ []
def dkwX6_copy_0 : List UInt8 := [187, 0, 11, 89, 42, 180, 0, 23, 42, 180, 0, 27, 42, 180, 0, 16, 182, 0, 30, 42, 180, 0, 20]
abbrev dktX6_copy_0 : List UInt8 := dkwX6_copy_0 ++ dktX6_copy_1
theorem dksX6_copy_0 : cX6_copy.data.toList.drop 0 = dktX6_copy_0 := by decide +kernel
theorem dksX6_copy_1 : cX6_copy.data.toList.drop 23 = dktX6_copy_1 := dk_seg dksX6_copy_0 23 rfl rfl
theorem dX6_copy_0 : decode cX6_copy 0 = .ok (.new 11, 3) := dk_187 0 11 (dk_at dksX6_copy_0 0 rfl rfl)
theorem dX6_copy_3 : decode cX6_copy 3 = .ok (.dup, 1) := dk_89 (dk_at dksX6_copy_0 3 rfl rfl)
theorem dX6_copy_4 : decode cX6_copy 4 = .ok (.aload_n 0, 1) := dk_42 (dk_at dksX6_copy_0 4 rfl rfl)
theorem dX6_copy_5 : decode cX6_copy 5 = .ok (.getfield 23, 3) := dk_180 0 23 (dk_at dksX6_copy_0 5 rfl rfl)
theorem dX6_copy_8 : decode cX6_copy 8 = .ok (.aload_n 0, 1) := dk_42 (dk_at dksX6_copy_0 8 rfl rfl)
theorem dX6_copy_9 : decode cX6_copy 9 = .ok (.getfield 27, 3) := dk_180 0 27 (dk_at dksX6_copy_0 9 rfl rfl)
theorem dX6_copy_12 : decode cX6_copy 12 = .ok (.aload_n 0, 1) := dk_42 (dk_at dksX6_copy_0 12 rfl rfl)
theorem dX6_copy_13 : decode cX6_copy 13 = .ok (.getfield 16, 3) := dk_180 0 16 (dk_at dksX6_copy_0 13 rfl rfl)
theorem dX6_copy_16 : decode cX6_copy 16 = .ok (.invokevirtual 30, 3) := dk_182 0 30 (dk_at dksX6_copy_0 16 rfl rfl)
theorem dX6_copy_19 : decode cX6_copy 19 = .ok (.aload_n 0, 1) := dk_42 (dk_at dksX6_copy_0 19 rfl rfl)
theorem dX6_copy_20 : decode cX6_copy 20 = .ok (.getfield 20, 3) := dk_180 0 20 (dk_at dksX6_copy_0 20 rfl rfl)
theorem dX6_copy_23 : decode cX6_copy 23 = .ok (.invokevirtual 30, 3) := dk_182 0 30 (dk_at dksX6_copy_1 0 rfl rfl)
theorem dX6_copy_26 : decode cX6_copy 26 = .ok (.invokespecial 36, 3) := dk_183 0 36 (dk_at dksX6_copy_1 3 rfl rfl)
theorem dX6_copy_29 : decode cX6_copy 29 = .ok (.astore_n 1, 1) := dk_76 (dk_at dksX6_copy_1 6 rfl rfl)
theorem dX6_copy_30 : decode cX6_copy 30 = .ok (.aload_n 1, 1) := dk_43 (dk_at dksX6_copy_1 7 rfl rfl)
theorem dX6_copy_31 : decode cX6_copy 31 = .ok (.aload_n 0, 1) := dk_42 (dk_at dksX6_copy_1 8 rfl rfl)
theorem dX6_copy_32 : decode cX6_copy 32 = .ok (.invokevirtual 39, 3) := dk_182 0 39 (dk_at dksX6_copy_1 9 rfl rfl)
theorem dX6_copy_35 : decode cX6_copy 35 = .ok (.aload_n 1, 1) := dk_43 (dk_at dksX6_copy_1 12 rfl rfl)
theorem dX6_copy_36 : decode cX6_copy 36 = .ok (.aload_n 0, 1) := dk_42 (dk_at dksX6_copy_1 13 rfl rfl)
theorem dX6_copy_37 : decode cX6_copy 37 = .ok (.getfield 10, 3) := dk_180 0 10 (dk_at dksX6_copy_1 14 rfl rfl)
theorem dX6_copy_40 : decode cX6_copy 40 = .ok (.putfield 10, 3) := dk_181 0 10 (dk_at dksX6_copy_1 17 rfl rfl)
theorem dX6_copy_43 : decode cX6_copy 43 = .ok (.aload_n 1, 1) := dk_43 (dk_at dksX6_copy_1 20 rfl rfl)
theorem dX6_copy_44 : decode cX6_copy 44 = .ok (.areturn, 1) := dk_176 (dk_at dksX6_copy_1 21 rfl rfl)
theorem q364 : (Jvm.Cond.classLink "SpanRuler$Leaf" (7 : Nat) "SpanRuler$Leaf") ∈ lw_all := lw_g (lw_at lw_m2 64 rfl) rfl
theorem q145 : (Jvm.Cond.sameField "SpanRuler$Leaf" "SpanRuler$Node" "from" "I") ∈ lw_all := lw_g (lw_at lw_m1 85 rfl) rfl
theorem q144 : (Jvm.Cond.fieldLink "SpanRuler$Leaf" (9 : Nat) "SpanRuler$Leaf" "from" "I") ∈ lw_all := lw_g (lw_at lw_m1 84 rfl) rfl
theorem q365 : (Jvm.Cond.methodLink "SpanRuler$Leaf" (13 : Nat) ({ cls := "SpanRuler$Leaf", name := "<init>", desc := "(I)V" } : Jvm.MethodName)) ∈ lw_all := lw_g (lw_at lw_m2 65 rfl) rfl
theorem q368 : (Jvm.Cond.declares ({ cls := "SpanRuler$Node", name := "isAs", desc := "(LSpanRuler$Node;)V" } : Jvm.MethodName)) ∈ lw_tbl := lw_at lw_m2 68 rfl
theorem q366 : (Jvm.Cond.methodLink "SpanRuler$Leaf" (16 : Nat) ({ cls := "SpanRuler$Leaf", name := "isAs", desc := "(LSpanRuler$Node;)V" } : Jvm.MethodName)) ∈ lw_all := lw_g (lw_at lw_m2 66 rfl) rfl
theorem q371 : (Jvm.Cond.code ({ cls := "SpanRuler$Node", name := "isAs", desc := "(LSpanRuler$Node;)V" } : Jvm.MethodName) prog_12_method_3_code (2 : Nat) (Option.none : Option Jvm.ClassFile.FieldType)) ∈ lw_all := lw_g (lw_at lw_m2 71 rfl) rfl
theorem q370 : (Jvm.Cond.instanceMethod ({ cls := "SpanRuler$Node", name := "isAs", desc := "(LSpanRuler$Node;)V" } : Jvm.MethodName)) ∈ lw_all := lw_g (lw_at lw_m2 70 rfl) rfl
theorem q367 : (Jvm.Cond.sameMethod "SpanRuler$Leaf" "SpanRuler$Node" "isAs" "(LSpanRuler$Node;)V") ∈ lw_all := lw_g (lw_at lw_m2 67 rfl) rfl
theorem q369 : (Jvm.Cond.selects "SpanRuler$Leaf" ({ cls := "SpanRuler$Leaf", name := "isAs", desc := "(LSpanRuler$Node;)V" } : Jvm.MethodName) ({ cls := "SpanRuler$Node", name := "isAs", desc := "(LSpanRuler$Node;)V" } : Jvm.MethodName)) ∈ lw_all := lw_g (lw_at lw_m2 69 rfl) rfl
theorem q360 : (Jvm.Cond.classLink "SpanRuler$Branch" (11 : Nat) "SpanRuler$Branch") ∈ lw_all := lw_g (lw_at lw_m2 60 rfl) rfl
theorem q143 : (Jvm.Cond.sameField "SpanRuler$Branch" "SpanRuler$Node" "from" "I") ∈ lw_all := lw_g (lw_at lw_m1 83 rfl) rfl
theorem q142 : (Jvm.Cond.fieldLink "SpanRuler$Branch" (23 : Nat) "SpanRuler$Branch" "from" "I") ∈ lw_all := lw_g (lw_at lw_m1 82 rfl) rfl
theorem q148 : (Jvm.Cond.sameField "SpanRuler$Branch" "SpanRuler$Node" "to" "I") ∈ lw_all := lw_g (lw_at lw_m1 88 rfl) rfl
theorem q147 : (Jvm.Cond.fieldLink "SpanRuler$Branch" (27 : Nat) "SpanRuler$Branch" "to" "I") ∈ lw_all := lw_g (lw_at lw_m1 87 rfl) rfl
theorem q355 : (Jvm.Cond.declares ({ cls := "SpanRuler$Node", name := "copy", desc := "()LSpanRuler$Node;" } : Jvm.MethodName)) ∈ lw_tbl := lw_at lw_m2 55 rfl
theorem q361 : (Jvm.Cond.methodLink "SpanRuler$Branch" (30 : Nat) ({ cls := "SpanRuler$Node", name := "copy", desc := "()LSpanRuler$Node;" } : Jvm.MethodName)) ∈ lw_all := lw_g (lw_at lw_m2 61 rfl) rfl
theorem q363 : (Jvm.Cond.code ({ cls := "SpanRuler$Leaf", name := "copy", desc := "()LSpanRuler$Node;" } : Jvm.MethodName) prog_11_method_2_code (2 : Nat) (Option.some (Jvm.ClassFile.FieldType.object "SpanRuler$Node"))) ∈ lw_all := lw_g (lw_at lw_m2 63 rfl) rfl
theorem q362 : (Jvm.Cond.instanceMethod ({ cls := "SpanRuler$Leaf", name := "copy", desc := "()LSpanRuler$Node;" } : Jvm.MethodName)) ∈ lw_all := lw_g (lw_at lw_m2 62 rfl) rfl
theorem q356 : (Jvm.Cond.sameMethod "SpanRuler$Node" "SpanRuler$Node" "copy" "()LSpanRuler$Node;") ∈ lw_all := lw_g (lw_at lw_m2 56 rfl) rfl
theorem q376 : (Jvm.Cond.selects "SpanRuler$Leaf" ({ cls := "SpanRuler$Node", name := "copy", desc := "()LSpanRuler$Node;" } : Jvm.MethodName) ({ cls := "SpanRuler$Leaf", name := "copy", desc := "()LSpanRuler$Node;" } : Jvm.MethodName)) ∈ lw_all := lw_g (lw_at lw_m2 76 rfl) rfl
theorem q372 : (Jvm.Cond.methodLink "SpanRuler$Branch" (36 : Nat) ({ cls := "SpanRuler$Branch", name := "<init>", desc := "(IILSpanRuler$Node;LSpanRuler$Node;)V" } : Jvm.MethodName)) ∈ lw_all := lw_g (lw_at lw_m2 72 rfl) rfl
theorem q373 : (Jvm.Cond.methodLink "SpanRuler$Branch" (39 : Nat) ({ cls := "SpanRuler$Branch", name := "isAs", desc := "(LSpanRuler$Node;)V" } : Jvm.MethodName)) ∈ lw_all := lw_g (lw_at lw_m2 73 rfl) rfl
theorem q374 : (Jvm.Cond.sameMethod "SpanRuler$Branch" "SpanRuler$Node" "isAs" "(LSpanRuler$Node;)V") ∈ lw_all := lw_g (lw_at lw_m2 74 rfl) rfl
theorem q375 : (Jvm.Cond.selects "SpanRuler$Branch" ({ cls := "SpanRuler$Branch", name := "isAs", desc := "(LSpanRuler$Node;)V" } : Jvm.MethodName) ({ cls := "SpanRuler$Node", name := "isAs", desc := "(LSpanRuler$Node;)V" } : Jvm.MethodName)) ∈ lw_all := lw_g (lw_at lw_m2 75 rfl) rfl
theorem q359 : (Jvm.Cond.code ({ cls := "SpanRuler$Branch", name := "copy", desc := "()LSpanRuler$Node;" } : Jvm.MethodName) prog_4_method_2_code (2 : Nat) (Option.some (Jvm.ClassFile.FieldType.object "SpanRuler$Node"))) ∈ lw_all := lw_g (lw_at lw_m2 59 rfl) rfl
theorem q358 : (Jvm.Cond.instanceMethod ({ cls := "SpanRuler$Branch", name := "copy", desc := "()LSpanRuler$Node;" } : Jvm.MethodName)) ∈ lw_all := lw_g (lw_at lw_m2 58 rfl) rfl
theorem q357 : (Jvm.Cond.selects "SpanRuler$Branch" ({ cls := "SpanRuler$Node", name := "copy", desc := "()LSpanRuler$Node;" } : Jvm.MethodName) ({ cls := "SpanRuler$Branch", name := "copy", desc := "()LSpanRuler$Node;" } : Jvm.MethodName)) ∈ lw_all := lw_g (lw_at lw_m2 57 rfl) rfl
theorem x_isAsX4 (l : Launch) (G : GE) (h : AH) (a i j : Nat) (s g m : Int32) (b i2 j2 : Nat) (s2 g2 m2 : Int32) (ra : h a = some (ob 2 [.int (nI i), .int (nI j), .int s, .int g, .int m])) (rb : Rd G h b (ob 2 [.int (nI i2), .int (nI j2), .int s2, .int g2, .int m2])) (nba : b ≠ a) : GM l G yX3_isAs (ws_ yX3_isAs cX3_isAs 2 none) 1 [.ref a, .ref b] (h) (0) (PN (up h a (ob 2 [.int (nI i), .int (nI j), .int s2, .int g2, .int m2]))) := by
  refine GM.of (by decide) (dk rfl) ?_
  intro X eL eG eh ok fn
  subst eL; subst eG
  show GW X _ 0 0 [some (.ref a), some (.ref b)] []
  refine g_aload_n ok dX3_isAs_0 rfl ?_
  refine g_aload_n ok dX3_isAs_1 rfl ?_
  refine g_get ok ck_X4 2 q149 (Or.inl rfl) (by decide) dX3_isAs_2 (rb) rfl ?_
  refine g_put ok ck_X4 2 q149 (Or.inl rfl) (by decide) rfl dX3_isAs_5 (ra) (dl rfl) rfl rfl (fs1 := [.int (nI i), .int (nI j), .int s2, .int g, .int m]) rfl (?_)
  refine g_aload_n ok dX3_isAs_8 rfl ?_
  refine g_aload_n ok dX3_isAs_9 rfl ?_
  refine g_get ok ck_X4 3 q154 (Or.inl rfl) (by decide) dX3_isAs_10 (Rd.up (rb) nba) rfl ?_
  refine g_put ok ck_X4 3 q154 (Or.inl rfl) (by decide) rfl dX3_isAs_13 (up_self) (dl rfl) rfl rfl (fs1 := [.int (nI i), .int (nI j), .int s2, .int g2, .int m]) rfl (?_)
  refine g_aload_n ok dX3_isAs_16 rfl ?_
  refine g_aload_n ok dX3_isAs_17 rfl ?_
  refine g_get ok ck_X4 4 q159 (Or.inl rfl) (by decide) dX3_isAs_18 (Rd.up (Rd.up (rb) nba) nba) rfl ?_
  refine g_put ok ck_X4 4 q159 (Or.inl rfl) (by decide) rfl dX3_isAs_21 (up_self) (dl rfl) rfl rfl (fs1 := [.int (nI i), .int (nI j), .int s2, .int g2, .int m2]) rfl (?_)
  exact g_vret ok fn rfl dX3_isAs_24 ⟨rfl, by simp only [up_up]⟩ (by omega)
theorem x_isAsX6 (l : Launch) (G : GE) (h : AH) (a i j : Nat) (s g m : Int32) (kl kr kt : Nat) (b i2 j2 : Nat) (s2 g2 m2 : Int32) (l2 r2 t2 : Nat) (ra : h a = some (ob 3 [.int (nI i), .int (nI j), .int s, .int g, .int m, .ref kl, .ref kr, .ref kt])) (rb : Rd G h b (ob 3 [.int (nI i2), .int (nI j2), .int s2, .int g2, .int m2, .ref l2, .ref r2, .ref t2])) (nba : b ≠ a) : GM l G yX3_isAs (ws_ yX3_isAs cX3_isAs 2 none) 1 [.ref a, .ref b] (h) (0) (PN (up h a (ob 3 [.int (nI i), .int (nI j), .int s2, .int g2, .int m2, .ref kl, .ref kr, .ref kt]))) := by
  refine GM.of (by decide) (dk rfl) ?_
  intro X eL eG eh ok fn
  subst eL; subst eG
  show GW X _ 0 0 [some (.ref a), some (.ref b)] []
  refine g_aload_n ok dX3_isAs_0 rfl ?_
  refine g_aload_n ok dX3_isAs_1 rfl ?_
  refine g_get ok ck_X6 2 q149 (Or.inl rfl) (by decide) dX3_isAs_2 (rb) rfl ?_
  refine g_put ok ck_X6 2 q149 (Or.inl rfl) (by decide) rfl dX3_isAs_5 (ra) (dl rfl) rfl rfl (fs1 := [.int (nI i), .int (nI j), .int s2, .int g, .int m, .ref kl, .ref kr, .ref kt]) rfl (?_)
  refine g_aload_n ok dX3_isAs_8 rfl ?_
  refine g_aload_n ok dX3_isAs_9 rfl ?_
  refine g_get ok ck_X6 3 q154 (Or.inl rfl) (by decide) dX3_isAs_10 (Rd.up (rb) nba) rfl ?_
  refine g_put ok ck_X6 3 q154 (Or.inl rfl) (by decide) rfl dX3_isAs_13 (up_self) (dl rfl) rfl rfl (fs1 := [.int (nI i), .int (nI j), .int s2, .int g2, .int m, .ref kl, .ref kr, .ref kt]) rfl (?_)
  refine g_aload_n ok dX3_isAs_16 rfl ?_
  refine g_aload_n ok dX3_isAs_17 rfl ?_
  refine g_get ok ck_X6 4 q159 (Or.inl rfl) (by decide) dX3_isAs_18 (Rd.up (Rd.up (rb) nba) nba) rfl ?_
  refine g_put ok ck_X6 4 q159 (Or.inl rfl) (by decide) rfl dX3_isAs_21 (up_self) (dl rfl) rfl rfl (fs1 := [.int (nI i), .int (nI j), .int s2, .int g2, .int m2, .ref kl, .ref kr, .ref kt]) rfl (?_)
  exact g_vret ok fn rfl dX3_isAs_24 ⟨rfl, by simp only [up_up]⟩ (by omega)
theorem c_leaf (l : Launch) (G : GE) (h : AH) (P : Nat → Prop) (v : Nat → Int32) (lo a K : Nat) (T : TreeAt h P 0 v lo a) (h32 : lo + sz 0 ≤ 32) (hK : trc 0 ≤ K) (hK6 : 6 ≤ K) : GM l G yX4_copy (ws_ yX4_copy cX4_copy 2 (some (.object "SpanRuler$Node"))) 4 [.ref a] (h) (K) (PR fun u h' => ∃ b, u = .ref b ∧ TreeAt h' (fun q => h q = none) 0 v lo b ∧ KeepAll h h') := by
  refine GM.of (by decide) (dk rfl) ?_
  intro X eL eG eh ok fn
  subst eL; subst eG
  show GW X _ 0 0 [some (.ref a), none] []
  obtain ⟨l1, l2, l3⟩ := TreeAt.opn0 T
  refine g_new ok ck_X4 q364 q133 q64 dX4_copy_0 (fs := [.int 0, .int 0, .int 0, .int 0, .int 0]) (by intro j hj; rcases (by omega : j = 0 ∨ j = 1 ∨ j = 2 ∨ j = 3 ∨ j = 4) with rfl | rfl | rfl | rfl | rfl <;> rfl) (by omega) (fun b hab hkb h0b => ?_)
  have ne0 := Rd.ne (Rd.h (l3)) hab hkb
  refine g_dup ok dX4_copy_3 rfl ?_
  refine g_aload_n ok dX4_copy_4 rfl ?_
  refine g_get ok ck_X4 0 q144 (Or.inr q145) (by decide) dX4_copy_5 (Rd.h ((up_ne ne0).trans (l3))) rfl ?_
  refine g_callI ok q365 q135 q64 q136 rfl dX4_copy_8 (x_linit X.l X.G _ b 0 0 0 0 0 (up_self) (nI lo)) (nm_ (by decide : nmb _ 1 = true)) (by omega) (dk rfl) rfl rfl (dk rfl) (by omega) (kN ?_) xN
  refine g_astore_n ok dX4_copy_11 (ls1 := [some (.ref a), some (.ref b)]) (dl rfl) rfl ?_
  refine g_aload_n ok dX4_copy_12 rfl ?_
  refine g_aload_n ok dX4_copy_13 rfl ?_
  refine g_callU ok (C := "SpanRuler$Leaf") (owner := "SpanRuler$Node") q366 q367 q369 q370 q63 q371 (ok.declA q368) (by decide) (Recv.ob ok gc_X4 (Rd.h (up_self))) dX4_copy_14 (x_isAsX4 X.l X.G _ b lo lo 0 0 0 a lo lo (v lo) (v lo) (v lo) (up_self) (Rd.h ((up_ne ne0).trans ((up_ne ne0).trans (l3)))) ne0) (nm_ (by decide : nmb _ 1 = true)) (by omega) (dk rfl) rfl rfl (dk rfl) (by omega) (kN ?_) xN
  refine g_aload_n ok dX4_copy_17 rfl ?_
  exact g_aret ok fn rfl (Or.inl ⟨_, rfl⟩) (Or.inr ⟨_, rfl⟩) dX4_copy_18 ⟨_, rfl, b, rfl, ⟨hab, l2, up_self⟩, ((KeepAll.new hab).put hab).put hab⟩ (by omega)
def C_br (l : Launch) (G : GE) (d Lv : Nat) : Prop := ∀ (h : AH) (P : Nat → Prop) (v : Nat → Int32) (lo a K : Nat), TreeAt h P (d + 1) v lo a → lo + sz (d + 1) ≤ 32 → trc (d + 1) ≤ K → GM l G yX6_copy (ws_ yX6_copy cX6_copy 2 (some (.object "SpanRuler$Node"))) Lv [.ref a] h K (PR fun u h' => ∃ b, u = .ref b ∧ TreeAt h' (fun q => h q = none) (d + 1) v lo b ∧ KeepAll h h')
theorem c_br0 (l : Launch) (G : GE) (h : AH) (P : Nat → Prop) (v : Nat → Int32) (lo a K : Nat) (T : TreeAt h P (0 + 1) v lo a) (h32 : lo + sz (0 + 1) ≤ 32) (hK : trc (0 + 1) ≤ K) : GM l G yX6_copy (ws_ yX6_copy cX6_copy 2 (some (.object "SpanRuler$Node"))) 5 [.ref a] (h) (K) (PR fun u h' => ∃ b, u = .ref b ∧ TreeAt h' (fun q => h q = none) (0 + 1) v lo b ∧ KeepAll h h') := by
  refine GM.of (by decide) (dk rfl) ?_
  intro X eL eG eh ok fn
  subst eL; subst eG
  show GW X _ 0 0 [some (.ref a), none] []
  obtain ⟨cl, cr, ct, f, s, g, m, w, ⟨n1, n2, n3, n4, n5, n6, n7, n8⟩, tl, tr⟩ := TreeAt.opn (d := 0) T
  have es : sz (0 + 1) = sz 0 + sz 0 := rfl
  have sp := sz_pos 0
  have h32b := h32
  rw [es] at h32b
  have hK2 : 12 + trc 0 + trc 0 ≤ K := hK
  refine g_new ok ck_X6 q360 q176 q66 dX6_copy_0 (fs := [.int 0, .int 0, .int 0, .int 0, .int 0, .null, .null, .null]) (by intro j hj; rcases (by omega : j = 0 ∨ j = 1 ∨ j = 2 ∨ j = 3 ∨ j = 4 ∨ j = 5 ∨ j = 6 ∨ j = 7) with rfl | rfl | rfl | rfl | rfl | rfl | rfl | rfl <;> rfl) (by omega) (fun b hab hkb h0b => ?_)
  have ne0 := Rd.ne (Rd.h (n2)) hab hkb
  refine g_dup ok dX6_copy_3 rfl ?_
  refine g_aload_n ok dX6_copy_4 rfl ?_
  refine g_get ok ck_X6 0 q142 (Or.inr q143) (by decide) dX6_copy_5 (Rd.h ((up_ne ne0).trans (n2))) rfl ?_
  refine g_aload_n ok dX6_copy_8 rfl ?_
  refine g_get ok ck_X6 1 q147 (Or.inr q148) (by decide) dX6_copy_9 (Rd.h ((up_ne ne0).trans (n2))) rfl ?_
  refine g_aload_n ok dX6_copy_12 rfl ?_
  refine g_get ok ck_X6 5 q198 (Or.inl rfl) (by decide) dX6_copy_13 (Rd.h ((up_ne ne0).trans (n2))) rfl ?_
  refine g_callU ok (C := "SpanRuler$Leaf") (owner := "SpanRuler$Node") q361 q356 q376 q362 q64 q363 (ok.declA q355) (by decide) (recv_leaf ok ((tl.upN hab (by omega)))) dX6_copy_16 (c_leaf X.l X.G _ P w lo cl (trc 0) (tl.upN hab (by omega)) (by omega) (Nat.le_refl _) (Nat.le_refl _)) (nm_ (by decide : nmb _ 0 = true)) (by omega) (dk rfl) rfl rfl (dk rfl) (by omega) (kR fun u1 h1 ⟨bl, e1, t1, k1⟩ => ?_) xR
  subst e1
  have ra1 := k1 a _ ((up_ne ne0).trans (n2))
  have rb1 := k1 b _ (up_self)
  have tr1 := k1.tree (tr.upN hab (by omega)) (by omega)
  refine g_aload_n ok dX6_copy_19 rfl ?_
  refine g_get ok ck_X6 6 q199 (Or.inl rfl) (by decide) dX6_copy_20 (Rd.h (ra1)) rfl ?_
  refine g_callU ok (C := "SpanRuler$Leaf") (owner := "SpanRuler$Node") q361 q356 q376 q362 q64 q363 (ok.declA q355) (by decide) (recv_leaf ok (tr1)) dX6_copy_23 (c_leaf X.l X.G _ P w (lo + sz 0) cr (trc 0) tr1 (by omega) (Nat.le_refl _) (Nat.le_refl _)) (nm_ (by decide : nmb _ 0 = true)) (by omega) (dk rfl) rfl rfl (dk rfl) (by omega) (kR fun u2 h2 ⟨br, e2, t2, k2⟩ => ?_) xR
  subst e2
  have ra2 := k2 a _ (ra1)
  have rb2 := k2 b _ (rb1)
  refine g_callI ok q372 q179 q66 q180 rfl dX6_copy_26 (x_binit X.l X.G _ b rb2 (nI lo) (nI (lo + (sz 0 + sz 0) - 1)) bl br) (nm_ (by decide : nmb _ 4 = true)) (by omega) (dk rfl) rfl rfl (dk rfl) (by omega) (kQ fun h3 ⟨t, c1, c2, c3⟩ => ?_) xQ
  subst c3
  have nbt : b ≠ t := fun z => by subst z; rw [rb2] at c1; cases c1
  have nat : a ≠ t := fun z => by subst z; rw [ra2] at c1; cases c1
  refine g_astore_n ok dX6_copy_29 (ls1 := [some (.ref a), some (.ref b)]) (dl rfl) rfl ?_
  refine g_aload_n ok dX6_copy_30 rfl ?_
  refine g_aload_n ok dX6_copy_31 rfl ?_
  refine g_callU ok (C := "SpanRuler$Branch") (owner := "SpanRuler$Node") q373 q374 q375 q370 q63 q371 (ok.declA q368) (by decide) (Recv.ob ok gc_X6 (Rd.h (up_self))) dX6_copy_32 (x_isAsX6 X.l X.G _ b lo (lo + (sz 0 + sz 0) - 1) 0 0 0 bl br t a lo (lo + (sz 0 + sz 0) - 1) (tsum v (sz 0 + sz 0) lo) g m cl cr ct (up_self) (Rd.h ((up_ne ne0).trans ((up_ne nat).trans ra2))) ne0) (nm_ (by decide : nmb _ 1 = true)) (by omega) (dk rfl) rfl rfl (dk rfl) (by omega) (kN ?_) xN
  refine g_aload_n ok dX6_copy_35 rfl ?_
  refine g_aload_n ok dX6_copy_36 rfl ?_
  refine g_get ok ck_X6 7 q200 (Or.inl rfl) (by decide) dX6_copy_37 (Rd.h ((up_ne ne0).trans ((up_ne ne0).trans ((up_ne nat).trans ra2)))) rfl ?_
  refine g_put ok ck_X6 7 q200 (Or.inl rfl) (by decide) rfl dX6_copy_40 (up_self) (dl rfl) rfl rfl (fs1 := [.int (nI lo), .int (nI (lo + (sz 0 + sz 0) - 1)), .int (tsum v (sz 0 + sz 0) lo), .int g, .int m, .ref bl, .ref br, .ref ct]) rfl (?_)
  refine g_aload_n ok dX6_copy_43 rfl ?_
  have rct : h2 ct = some (ob 4 [.int f, .int s]) := k2 ct _ (k1 ct _ ((up_ne (fun z => by subst z; rw [n5] at hab; cases hab)).trans n5))
  have nct : ct ≠ t := fun z => by subst z; rw [rct] at c1; cases c1
  have ncb : ct ≠ b := fun z => by subst z; rw [n5] at hab; cases hab
  have hb1 := (up_ne (h := h2) (e := ob 4 [.int 1, .int 0]) nbt).trans rb2
  have k12 : KeepAll h h2 := ((KeepAll.new hab).trans k1).trans k2
  have pl : ∀ q, up h b (ob 3 [.int 0, .int 0, .int 0, .int 0, .int 0, .null, .null, .null]) q = none → h q = none := fun q z => up_none z
  have tl0 : TreeAt h2 (fun q => up h b (ob 3 [.int 0, .int 0, .int 0, .int 0, .int 0, .null, .null, .null]) q = none) 0 w lo bl := k2.tree t1 (by omega)
  have tr0 : TreeAt h2 (fun q => up h b (ob 3 [.int 0, .int 0, .int 0, .int 0, .int 0, .null, .null, .null]) q = none) 0 w (lo + sz 0) br := TreeAt.mono (fun q z _ => k1.nn0 z) 0 _ _ _ t2
  have na : ¬ up h b (ob 3 [.int 0, .int 0, .int 0, .int 0, .int 0, .null, .null, .null]) b = none := by rw [up_self]; exact fun z => by cases z
  have up2 : ∀ lo2 c, lo2 + sz 0 ≤ 32 → TreeAt h2 (fun q => up h b (ob 3 [.int 0, .int 0, .int 0, .int 0, .int 0, .null, .null, .null]) q = none) 0 w lo2 c → ∀ e, TreeAt (up (up h2 t (ob 4 [.int 1, .int 0])) b e) (fun q => h q = none) 0 w lo2 c := by
    intro lo2 c hb x e
    refine TreeAt.mono (fun q z _ => pl q z) 0 _ _ _ (TreeAt.keep 0 _ _ _ hb (x.upN (e := ob 4 [.int 1, .int 0]) c1 hb) fun q e2 z1 z2 => ?_)
    rw [up_ne (fun z => ?_)]; exact z1
    subst z; rcases z2 with z2 | ⟨l2, z2⟩
    · exact na z2.1
    · rw [hb1, z2] at z1; cases z1
  refine g_aret ok fn rfl (Or.inl ⟨_, rfl⟩) (Or.inr ⟨_, rfl⟩) dX6_copy_44 ⟨_, rfl, b, rfl, ?_, ((((k12.trans (KeepAll.new c1)).put hab).put hab).put hab)⟩ (by omega)
  simp only [up_up]
  exact ⟨bl, br, ct, f, s, g, m, w, ⟨hab, up_self, n3, n4, (up_ne ncb).trans ((up_ne nct).trans rct), n6, n7, n8⟩, up2 lo bl (by omega) tl0 _, up2 (lo + sz 0) br (by omega) tr0 _⟩
theorem c_brS (l : Launch) (G : GE) (d : Nat) (ih : C_br l G d (5 + d)) (h : AH) (P : Nat → Prop) (v : Nat → Int32) (lo a K : Nat) (T : TreeAt h P ((d + 1) + 1) v lo a) (h32 : lo + sz ((d + 1) + 1) ≤ 32) (hK : trc ((d + 1) + 1) ≤ K) : GM l G yX6_copy (ws_ yX6_copy cX6_copy 2 (some (.object "SpanRuler$Node"))) (6 + d) [.ref a] (h) (K) (PR fun u h' => ∃ b, u = .ref b ∧ TreeAt h' (fun q => h q = none) ((d + 1) + 1) v lo b ∧ KeepAll h h') := by
  refine GM.of (by decide) (dk rfl) ?_
  intro X eL eG eh ok fn
  subst eL; subst eG
  show GW X _ 0 0 [some (.ref a), none] []
  obtain ⟨cl, cr, ct, f, s, g, m, w, ⟨n1, n2, n3, n4, n5, n6, n7, n8⟩, tl, tr⟩ := TreeAt.opn (d := (d + 1)) T
  have es : sz ((d + 1) + 1) = sz (d + 1) + sz (d + 1) := rfl
  have sp := sz_pos (d + 1)
  have h32b := h32
  rw [es] at h32b
  have hK2 : 12 + trc (d + 1) + trc (d + 1) ≤ K := hK
  refine g_new ok ck_X6 q360 q176 q66 dX6_copy_0 (fs := [.int 0, .int 0, .int 0, .int 0, .int 0, .null, .null, .null]) (by intro j hj; rcases (by omega : j = 0 ∨ j = 1 ∨ j = 2 ∨ j = 3 ∨ j = 4 ∨ j = 5 ∨ j = 6 ∨ j = 7) with rfl | rfl | rfl | rfl | rfl | rfl | rfl | rfl <;> rfl) (by omega) (fun b hab hkb h0b => ?_)
  have ne0 := Rd.ne (Rd.h (n2)) hab hkb
  refine g_dup ok dX6_copy_3 rfl ?_
  refine g_aload_n ok dX6_copy_4 rfl ?_
  refine g_get ok ck_X6 0 q142 (Or.inr q143) (by decide) dX6_copy_5 (Rd.h ((up_ne ne0).trans (n2))) rfl ?_
  refine g_aload_n ok dX6_copy_8 rfl ?_
  refine g_get ok ck_X6 1 q147 (Or.inr q148) (by decide) dX6_copy_9 (Rd.h ((up_ne ne0).trans (n2))) rfl ?_
  refine g_aload_n ok dX6_copy_12 rfl ?_
  refine g_get ok ck_X6 5 q198 (Or.inl rfl) (by decide) dX6_copy_13 (Rd.h ((up_ne ne0).trans (n2))) rfl ?_
  refine g_callU ok (C := "SpanRuler$Branch") (owner := "SpanRuler$Node") q361 q356 q357 q358 q66 q359 (ok.declA q355) (by decide) (recv_br ok ((tl.upN hab (by omega)))) dX6_copy_16 (ih _ P w lo cl (trc (d + 1)) (tl.upN hab (by omega)) (by omega) (Nat.le_refl _)) (nm_ (by decide : nmb _ 0 = true)) (by omega) (dk rfl) rfl rfl (dk rfl) (by omega) (kR fun u1 h1 ⟨bl, e1, t1, k1⟩ => ?_) xR
  subst e1
  have ra1 := k1 a _ ((up_ne ne0).trans (n2))
  have rb1 := k1 b _ (up_self)
  have tr1 := k1.tree (tr.upN hab (by omega)) (by omega)
  refine g_aload_n ok dX6_copy_19 rfl ?_
  refine g_get ok ck_X6 6 q199 (Or.inl rfl) (by decide) dX6_copy_20 (Rd.h (ra1)) rfl ?_
  refine g_callU ok (C := "SpanRuler$Branch") (owner := "SpanRuler$Node") q361 q356 q357 q358 q66 q359 (ok.declA q355) (by decide) (recv_br ok (tr1)) dX6_copy_23 (ih _ P w (lo + sz (d + 1)) cr (trc (d + 1)) tr1 (by omega) (Nat.le_refl _)) (nm_ (by decide : nmb _ 0 = true)) (by omega) (dk rfl) rfl rfl (dk rfl) (by omega) (kR fun u2 h2 ⟨br, e2, t2, k2⟩ => ?_) xR
  subst e2
  have ra2 := k2 a _ (ra1)
  have rb2 := k2 b _ (rb1)
  refine g_callI ok q372 q179 q66 q180 rfl dX6_copy_26 (x_binit X.l X.G _ b rb2 (nI lo) (nI (lo + (sz (d + 1) + sz (d + 1)) - 1)) bl br) (nm_ (by decide : nmb _ 4 = true)) (by omega) (dk rfl) rfl rfl (dk rfl) (by omega) (kQ fun h3 ⟨t, c1, c2, c3⟩ => ?_) xQ
  subst c3
  have nbt : b ≠ t := fun z => by subst z; rw [rb2] at c1; cases c1
  have nat : a ≠ t := fun z => by subst z; rw [ra2] at c1; cases c1
  refine g_astore_n ok dX6_copy_29 (ls1 := [some (.ref a), some (.ref b)]) (dl rfl) rfl ?_
  refine g_aload_n ok dX6_copy_30 rfl ?_
  refine g_aload_n ok dX6_copy_31 rfl ?_
  refine g_callU ok (C := "SpanRuler$Branch") (owner := "SpanRuler$Node") q373 q374 q375 q370 q63 q371 (ok.declA q368) (by decide) (Recv.ob ok gc_X6 (Rd.h (up_self))) dX6_copy_32 (x_isAsX6 X.l X.G _ b lo (lo + (sz (d + 1) + sz (d + 1)) - 1) 0 0 0 bl br t a lo (lo + (sz (d + 1) + sz (d + 1)) - 1) (tsum v (sz (d + 1) + sz (d + 1)) lo) g m cl cr ct (up_self) (Rd.h ((up_ne ne0).trans ((up_ne nat).trans ra2))) ne0) (nm_ (by decide : nmb _ 1 = true)) (by omega) (dk rfl) rfl rfl (dk rfl) (by omega) (kN ?_) xN
  refine g_aload_n ok dX6_copy_35 rfl ?_
  refine g_aload_n ok dX6_copy_36 rfl ?_
  refine g_get ok ck_X6 7 q200 (Or.inl rfl) (by decide) dX6_copy_37 (Rd.h ((up_ne ne0).trans ((up_ne ne0).trans ((up_ne nat).trans ra2)))) rfl ?_
  refine g_put ok ck_X6 7 q200 (Or.inl rfl) (by decide) rfl dX6_copy_40 (up_self) (dl rfl) rfl rfl (fs1 := [.int (nI lo), .int (nI (lo + (sz (d + 1) + sz (d + 1)) - 1)), .int (tsum v (sz (d + 1) + sz (d + 1)) lo), .int g, .int m, .ref bl, .ref br, .ref ct]) rfl (?_)
  refine g_aload_n ok dX6_copy_43 rfl ?_
  have rct : h2 ct = some (ob 4 [.int f, .int s]) := k2 ct _ (k1 ct _ ((up_ne (fun z => by subst z; rw [n5] at hab; cases hab)).trans n5))
  have nct : ct ≠ t := fun z => by subst z; rw [rct] at c1; cases c1
  have ncb : ct ≠ b := fun z => by subst z; rw [n5] at hab; cases hab
  have hb1 := (up_ne (h := h2) (e := ob 4 [.int 1, .int 0]) nbt).trans rb2
  have k12 : KeepAll h h2 := ((KeepAll.new hab).trans k1).trans k2
  have pl : ∀ q, up h b (ob 3 [.int 0, .int 0, .int 0, .int 0, .int 0, .null, .null, .null]) q = none → h q = none := fun q z => up_none z
  have tl0 : TreeAt h2 (fun q => up h b (ob 3 [.int 0, .int 0, .int 0, .int 0, .int 0, .null, .null, .null]) q = none) (d + 1) w lo bl := k2.tree t1 (by omega)
  have tr0 : TreeAt h2 (fun q => up h b (ob 3 [.int 0, .int 0, .int 0, .int 0, .int 0, .null, .null, .null]) q = none) (d + 1) w (lo + sz (d + 1)) br := TreeAt.mono (fun q z _ => k1.nn0 z) (d + 1) _ _ _ t2
  have na : ¬ up h b (ob 3 [.int 0, .int 0, .int 0, .int 0, .int 0, .null, .null, .null]) b = none := by rw [up_self]; exact fun z => by cases z
  have up2 : ∀ lo2 c, lo2 + sz (d + 1) ≤ 32 → TreeAt h2 (fun q => up h b (ob 3 [.int 0, .int 0, .int 0, .int 0, .int 0, .null, .null, .null]) q = none) (d + 1) w lo2 c → ∀ e, TreeAt (up (up h2 t (ob 4 [.int 1, .int 0])) b e) (fun q => h q = none) (d + 1) w lo2 c := by
    intro lo2 c hb x e
    refine TreeAt.mono (fun q z _ => pl q z) (d + 1) _ _ _ (TreeAt.keep (d + 1) _ _ _ hb (x.upN (e := ob 4 [.int 1, .int 0]) c1 hb) fun q e2 z1 z2 => ?_)
    rw [up_ne (fun z => ?_)]; exact z1
    subst z; rcases z2 with z2 | ⟨l2, z2⟩
    · exact na z2.1
    · rw [hb1, z2] at z1; cases z1
  refine g_aret ok fn rfl (Or.inl ⟨_, rfl⟩) (Or.inr ⟨_, rfl⟩) dX6_copy_44 ⟨_, rfl, b, rfl, ?_, ((((k12.trans (KeepAll.new c1)).put hab).put hab).put hab)⟩ (by omega)
  simp only [up_up]
  exact ⟨bl, br, ct, f, s, g, m, w, ⟨hab, up_self, n3, n4, (up_ne ncb).trans ((up_ne nct).trans rct), n6, n7, n8⟩, up2 lo bl (by omega) tl0 _, up2 (lo + sz (d + 1)) br (by omega) tr0 _⟩
theorem c_br (l : Launch) (G : GE) : ∀ d, C_br l G d (5 + d) := by
  intro d
  induction d with
  | zero => exact fun h P v lo a K T h32 hK => c_br0 l G h P v lo a K T h32 hK
  | succ d ih =>
    intro h P v lo a K T h32 hK
    rw [show 5 + (d + 1) = 6 + d by omega]
    exact c_brS l G d ih h P v lo a K T h32 hK
