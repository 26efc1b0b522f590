/-! rulers: made -/
set_option maxRecDepth 100000
abbrev cX10_init : ByteArray := prog_13_method_1_code
def yX10_init : MethodName := ⟨RX10, "<init>", "(LSpanRuler$Kind;IIII)V"⟩
def dkwX10_init_1 : List UInt8 := [181, 0, 20, 42, 21, 5, 181, 0, 23, 177]
abbrev dktX10_init_1 : List UInt8 := dkwX10_init_1 ++ []
def dkwX10_init_0 : List UInt8 := [42, 183, 0, 1, 42, 43, 181, 0, 7, 42, 28, 181, 0, 13, 42, 29, 181, 0, 17, 42, 21, 4]
abbrev dktX10_init_0 : List UInt8 := dkwX10_init_0 ++ dktX10_init_1
theorem dksX10_init_0 : cX10_init.data.toList.drop 0 = dktX10_init_0 := by decide +kernel
theorem dksX10_init_1 : cX10_init.data.toList.drop 22 = dktX10_init_1 := dk_seg dksX10_init_0 22 rfl rfl
theorem dX10_init_0 : decode cX10_init 0 = .ok (.aload_n 0, 1) := dk_42 (dk_at dksX10_init_0 0 rfl rfl)
theorem dX10_init_1 : decode cX10_init 1 = .ok (.invokespecial 1, 3) := dk_183 0 1 (dk_at dksX10_init_0 1 rfl rfl)
theorem dX10_init_4 : decode cX10_init 4 = .ok (.aload_n 0, 1) := dk_42 (dk_at dksX10_init_0 4 rfl rfl)
theorem dX10_init_5 : decode cX10_init 5 = .ok (.aload_n 1, 1) := dk_43 (dk_at dksX10_init_0 5 rfl rfl)
theorem dX10_init_6 : decode cX10_init 6 = .ok (.putfield 7, 3) := dk_181 0 7 (dk_at dksX10_init_0 6 rfl rfl)
theorem dX10_init_9 : decode cX10_init 9 = .ok (.aload_n 0, 1) := dk_42 (dk_at dksX10_init_0 9 rfl rfl)
theorem dX10_init_10 : decode cX10_init 10 = .ok (.iload_n 2, 1) := dk_28 (dk_at dksX10_init_0 10 rfl rfl)
theorem dX10_init_11 : decode cX10_init 11 = .ok (.putfield 13, 3) := dk_181 0 13 (dk_at dksX10_init_0 11 rfl rfl)
theorem dX10_init_14 : decode cX10_init 14 = .ok (.aload_n 0, 1) := dk_42 (dk_at dksX10_init_0 14 rfl rfl)
theorem dX10_init_15 : decode cX10_init 15 = .ok (.iload_n 3, 1) := dk_29 (dk_at dksX10_init_0 15 rfl rfl)
theorem dX10_init_16 : decode cX10_init 16 = .ok (.putfield 17, 3) := dk_181 0 17 (dk_at dksX10_init_0 16 rfl rfl)
theorem dX10_init_19 : decode cX10_init 19 = .ok (.aload_n 0, 1) := dk_42 (dk_at dksX10_init_0 19 rfl rfl)
theorem dX10_init_20 : decode cX10_init 20 = .ok (.iload 4, 2) := dk_21 4 (dk_at dksX10_init_0 20 rfl rfl)
theorem dX10_init_22 : decode cX10_init 22 = .ok (.putfield 20, 3) := dk_181 0 20 (dk_at dksX10_init_1 0 rfl rfl)
theorem dX10_init_25 : decode cX10_init 25 = .ok (.aload_n 0, 1) := dk_42 (dk_at dksX10_init_1 3 rfl rfl)
theorem dX10_init_26 : decode cX10_init 26 = .ok (.iload 5, 2) := dk_21 5 (dk_at dksX10_init_1 4 rfl rfl)
theorem dX10_init_28 : decode cX10_init 28 = .ok (.putfield 23, 3) := dk_181 0 23 (dk_at dksX10_init_1 6 rfl rfl)
theorem dX10_init_31 : decode cX10_init 31 = .ok (.return_, 1) := dk_177 (dk_at dksX10_init_1 9 rfl rfl)
abbrev cX10_copy : ByteArray := prog_13_method_2_code
def yX10_copy : MethodName := ⟨RX10, "copy", "()LSpanRuler$Note;"⟩
def dkwX10_copy_1 : List UInt8 := [183, 0, 26, 176]
abbrev dktX10_copy_1 : List UInt8 := dkwX10_copy_1 ++ []
def dkwX10_copy_0 : List UInt8 := [187, 0, 8, 89, 42, 180, 0, 7, 42, 180, 0, 13, 42, 180, 0, 17, 42, 180, 0, 20, 42, 180, 0, 23]
abbrev dktX10_copy_0 : List UInt8 := dkwX10_copy_0 ++ dktX10_copy_1
theorem dksX10_copy_0 : cX10_copy.data.toList.drop 0 = dktX10_copy_0 := by decide +kernel
theorem dksX10_copy_1 : cX10_copy.data.toList.drop 24 = dktX10_copy_1 := dk_seg dksX10_copy_0 24 rfl rfl
theorem dX10_copy_0 : decode cX10_copy 0 = .ok (.new 8, 3) := dk_187 0 8 (dk_at dksX10_copy_0 0 rfl rfl)
theorem dX10_copy_3 : decode cX10_copy 3 = .ok (.dup, 1) := dk_89 (dk_at dksX10_copy_0 3 rfl rfl)
theorem dX10_copy_4 : decode cX10_copy 4 = .ok (.aload_n 0, 1) := dk_42 (dk_at dksX10_copy_0 4 rfl rfl)
theorem dX10_copy_5 : decode cX10_copy 5 = .ok (.getfield 7, 3) := dk_180 0 7 (dk_at dksX10_copy_0 5 rfl rfl)
theorem dX10_copy_8 : decode cX10_copy 8 = .ok (.aload_n 0, 1) := dk_42 (dk_at dksX10_copy_0 8 rfl rfl)
theorem dX10_copy_9 : decode cX10_copy 9 = .ok (.getfield 13, 3) := dk_180 0 13 (dk_at dksX10_copy_0 9 rfl rfl)
theorem dX10_copy_12 : decode cX10_copy 12 = .ok (.aload_n 0, 1) := dk_42 (dk_at dksX10_copy_0 12 rfl rfl)
theorem dX10_copy_13 : decode cX10_copy 13 = .ok (.getfield 17, 3) := dk_180 0 17 (dk_at dksX10_copy_0 13 rfl rfl)
theorem dX10_copy_16 : decode cX10_copy 16 = .ok (.aload_n 0, 1) := dk_42 (dk_at dksX10_copy_0 16 rfl rfl)
theorem dX10_copy_17 : decode cX10_copy 17 = .ok (.getfield 20, 3) := dk_180 0 20 (dk_at dksX10_copy_0 17 rfl rfl)
theorem dX10_copy_20 : decode cX10_copy 20 = .ok (.aload_n 0, 1) := dk_42 (dk_at dksX10_copy_0 20 rfl rfl)
theorem dX10_copy_21 : decode cX10_copy 21 = .ok (.getfield 23, 3) := dk_180 0 23 (dk_at dksX10_copy_0 21 rfl rfl)
theorem dX10_copy_24 : decode cX10_copy 24 = .ok (.invokespecial 26, 3) := dk_183 0 26 (dk_at dksX10_copy_1 0 rfl rfl)
theorem dX10_copy_27 : decode cX10_copy 27 = .ok (.areturn, 1) := dk_176 (dk_at dksX10_copy_1 3 rfl rfl)
abbrev cX2_init : ByteArray := prog_16_method_1_code
def yX2_init : MethodName := ⟨RX2, "<init>", "()V"⟩
def dkwX2_init_1 : List UInt8 := [187, 0, 23, 89, 183, 0, 25, 181, 0, 26, 42, 187, 0, 23, 89, 183, 0, 25, 181, 0, 30, 177]
abbrev dktX2_init_1 : List UInt8 := dkwX2_init_1 ++ []
def dkwX2_init_0 : List UInt8 := [42, 183, 0, 3, 42, 3, 16, 31, 184, 0, 9, 181, 0, 13, 42, 16, 32, 188, 10, 181, 0, 19, 42]
abbrev dktX2_init_0 : List UInt8 := dkwX2_init_0 ++ dktX2_init_1
theorem dksX2_init_0 : cX2_init.data.toList.drop 0 = dktX2_init_0 := by decide +kernel
theorem dksX2_init_1 : cX2_init.data.toList.drop 23 = dktX2_init_1 := dk_seg dksX2_init_0 23 rfl rfl
theorem dX2_init_0 : decode cX2_init 0 = .ok (.aload_n 0, 1) := dk_42 (dk_at dksX2_init_0 0 rfl rfl)
theorem dX2_init_1 : decode cX2_init 1 = .ok (.invokespecial 3, 3) := dk_183 0 3 (dk_at dksX2_init_0 1 rfl rfl)
theorem dX2_init_4 : decode cX2_init 4 = .ok (.aload_n 0, 1) := dk_42 (dk_at dksX2_init_0 4 rfl rfl)
theorem dX2_init_5 : decode cX2_init 5 = .ok (.iconst 0, 1) := dk_3 (dk_at dksX2_init_0 5 rfl rfl)
theorem dX2_init_6 : decode cX2_init 6 = .ok (.bipush 31, 2) := dk_16 31 (dk_at dksX2_init_0 6 rfl rfl)
theorem dX2_init_8 : decode cX2_init 8 = .ok (.invokestatic 9, 3) := dk_184 0 9 (dk_at dksX2_init_0 8 rfl rfl)
theorem dX2_init_11 : decode cX2_init 11 = .ok (.putfield 13, 3) := dk_181 0 13 (dk_at dksX2_init_0 11 rfl rfl)
theorem dX2_init_14 : decode cX2_init 14 = .ok (.aload_n 0, 1) := dk_42 (dk_at dksX2_init_0 14 rfl rfl)
theorem dX2_init_15 : decode cX2_init 15 = .ok (.bipush 32, 2) := dk_16 32 (dk_at dksX2_init_0 15 rfl rfl)
theorem dX2_init_17 : decode cX2_init 17 = .ok (.newarray .int, 2) := dk_188_10 (dk_at dksX2_init_0 17 rfl rfl)
theorem dX2_init_19 : decode cX2_init 19 = .ok (.putfield 19, 3) := dk_181 0 19 (dk_at dksX2_init_0 19 rfl rfl)
theorem dX2_init_22 : decode cX2_init 22 = .ok (.aload_n 0, 1) := dk_42 (dk_at dksX2_init_0 22 rfl rfl)
theorem dX2_init_23 : decode cX2_init 23 = .ok (.new 23, 3) := dk_187 0 23 (dk_at dksX2_init_1 0 rfl rfl)
theorem dX2_init_26 : decode cX2_init 26 = .ok (.dup, 1) := dk_89 (dk_at dksX2_init_1 3 rfl rfl)
theorem dX2_init_27 : decode cX2_init 27 = .ok (.invokespecial 25, 3) := dk_183 0 25 (dk_at dksX2_init_1 4 rfl rfl)
theorem dX2_init_30 : decode cX2_init 30 = .ok (.putfield 26, 3) := dk_181 0 26 (dk_at dksX2_init_1 7 rfl rfl)
theorem dX2_init_33 : decode cX2_init 33 = .ok (.aload_n 0, 1) := dk_42 (dk_at dksX2_init_1 10 rfl rfl)
theorem dX2_init_34 : decode cX2_init 34 = .ok (.new 23, 3) := dk_187 0 23 (dk_at dksX2_init_1 11 rfl rfl)
theorem dX2_init_37 : decode cX2_init 37 = .ok (.dup, 1) := dk_89 (dk_at dksX2_init_1 14 rfl rfl)
theorem dX2_init_38 : decode cX2_init 38 = .ok (.invokespecial 25, 3) := dk_183 0 25 (dk_at dksX2_init_1 15 rfl rfl)
theorem dX2_init_41 : decode cX2_init 41 = .ok (.putfield 30, 3) := dk_181 0 30 (dk_at dksX2_init_1 18 rfl rfl)
theorem dX2_init_44 : decode cX2_init 44 = .ok (.return_, 1) := dk_177 (dk_at dksX2_init_1 21 rfl rfl)
theorem q821 : (Jvm.Cond.methodLink "SpanRuler$Note" (1 : Nat) ({ cls := "java/lang/Object", name := "<init>", desc := "()V" } : Jvm.MethodName)) ∈ lw_all := lw_g (lw_at lw_m4 41 rfl) rfl
theorem q822 : (Jvm.Cond.fieldLink "SpanRuler$Note" (7 : Nat) "SpanRuler$Note" "kind" "LSpanRuler$Kind;") ∈ lw_all := lw_g (lw_at lw_m4 42 rfl) rfl
theorem q825 : (Jvm.Cond.fieldLink "SpanRuler$Note" (13 : Nat) "SpanRuler$Note" "from" "I") ∈ lw_all := lw_g (lw_at lw_m4 45 rfl) rfl
theorem q828 : (Jvm.Cond.fieldLink "SpanRuler$Note" (17 : Nat) "SpanRuler$Note" "to" "I") ∈ lw_all := lw_g (lw_at lw_m4 48 rfl) rfl
theorem q831 : (Jvm.Cond.fieldLink "SpanRuler$Note" (20 : Nat) "SpanRuler$Note" "number" "I") ∈ lw_all := lw_g (lw_at lw_m4 51 rfl) rfl
theorem q817 : (Jvm.Cond.instantiable "SpanRuler$Note" (5 : Nat)) ∈ lw_all := lw_g (lw_at lw_m4 37 rfl) rfl
theorem q816 : (Jvm.Cond.classLink "SpanRuler$Note" (8 : Nat) "SpanRuler$Note") ∈ lw_all := lw_g (lw_at lw_m4 36 rfl) rfl
theorem q818 : (Jvm.Cond.methodLink "SpanRuler$Note" (26 : Nat) ({ cls := "SpanRuler$Note", name := "<init>", desc := "(LSpanRuler$Kind;IIII)V" } : Jvm.MethodName)) ∈ lw_all := lw_g (lw_at lw_m4 38 rfl) rfl
theorem q820 : (Jvm.Cond.code ({ cls := "SpanRuler$Note", name := "<init>", desc := "(LSpanRuler$Kind;IIII)V" } : Jvm.MethodName) prog_13_method_1_code (6 : Nat) (Option.none : Option Jvm.ClassFile.FieldType)) ∈ lw_all := lw_g (lw_at lw_m4 40 rfl) rfl
theorem q819 : (Jvm.Cond.instanceMethod ({ cls := "SpanRuler$Note", name := "<init>", desc := "(LSpanRuler$Kind;IIII)V" } : Jvm.MethodName)) ∈ lw_all := lw_g (lw_at lw_m4 39 rfl) rfl
theorem q128 : (Jvm.Cond.methodLink "SpanRuler$Ruler" (3 : Nat) ({ cls := "java/lang/Object", name := "<init>", desc := "()V" } : Jvm.MethodName)) ∈ lw_all := lw_g (lw_at lw_m1 68 rfl) rfl
theorem q129 : (Jvm.Cond.methodLinkNest "SpanRuler$Ruler" (9 : Nat) ({ cls := "SpanRuler", name := "tree", desc := "(II)LSpanRuler$Node;" } : Jvm.MethodName) "SpanRuler") ∈ lw_tbl := lw_at lw_m1 69 rfl
theorem q214 : (Jvm.Cond.instantiable "java/util/ArrayList" (3 : Nat)) ∈ lw_all := lw_g (lw_at lw_m1 154 rfl) rfl
theorem q213 : (Jvm.Cond.classLink "SpanRuler$Ruler" (23 : Nat) "java/util/ArrayList") ∈ lw_all := lw_g (lw_at lw_m1 153 rfl) rfl
theorem q215 : (Jvm.Cond.methodLink "SpanRuler$Ruler" (25 : Nat) ({ cls := "java/util/ArrayList", name := "<init>", desc := "()V" } : Jvm.MethodName)) ∈ lw_all := lw_g (lw_at lw_m1 155 rfl) rfl
theorem q217 : (Jvm.Cond.code ({ cls := "java/util/ArrayList", name := "<init>", desc := "()V" } : Jvm.MethodName) prog_52_method_2_code (1 : Nat) (Option.none : Option Jvm.ClassFile.FieldType)) ∈ lw_all := lw_g (lw_at lw_m1 157 rfl) rfl
theorem q216 : (Jvm.Cond.instanceMethod ({ cls := "java/util/ArrayList", name := "<init>", desc := "()V" } : Jvm.MethodName)) ∈ lw_all := lw_g (lw_at lw_m1 156 rfl) rfl
/-- what a new ruler says -/
theorem rz_inv : RInv (fun _ => 0) := ⟨⟨rfl, by decide⟩, ⟨rfl, by decide⟩, fun _ _ => (by decide : inR 0 (-999) 999 = true), fun _ _ => (by decide : isCo 0 = true), fun p hp => absurd hp (by show ¬ p < nn 0; exact Nat.not_lt_zero p), fun j hj => absurd hj (by show ¬ j < nn 0; exact Nat.not_lt_zero j)⟩
theorem RulerM.init {G : GE} {h0 h : AH} {a rt cl nl vl : Nat} (k : KeepAll h0 h) (ha : h a = some (ob 1 [.ref rt, .ref cl, .ref nl, .ref vl, .int 0, .int 0, .int 0, .int 0, .int 0, .int 0])) (ht : TreeAt h (fun q => h0 q = none) 5 (fun _ => 0) 0 rt) (hc : h cl = some (aI G 32 (fun _ => 0))) (hn : h nl = some (ob 12 [.int 0, .ref (G.ga "E0"), .int 0])) (hv : h vl = some (ob 12 [.int 0, .ref (G.ga "E0"), .int 0])) (a0 : h0 a = none) (c0 : h0 cl = none) (n0 : h0 nl = none) (v0 : h0 vl = none) (e0 : h0 (G.ga "E0") = none) (nv : nl ≠ vl) : RulerM G h0 h a (fun _ => 0) := by
  have z : ∀ x : Nat, ¬ x < rN (fun _ => 0) := fun x => Nat.not_lt_zero x
  have z2 : ∀ x : Nat, ¬ x < rV (fun _ => 0) := fun x => Nat.not_lt_zero x
  exact ⟨rt, cl, nl, G.ga "E0", 0, 0, fun _ => none, vl, G.ga "E0", 0, 0, fun _ => none, ⟨⟨ha, ht, _, hc, fun _ _ => rfl⟩, ⟨hn, Or.inl ⟨rfl, rfl, rfl⟩, Nat.le_refl _, by decide⟩, fun p hp => absurd hp (z p), ⟨hv, Or.inl ⟨rfl, rfl, rfl⟩, Nat.le_refl _, by decide⟩, fun p hp => absurd hp (z2 p), rz_inv, by decide, by decide⟩,
    ⟨k, a0, c0, n0, v0, e0, e0, nv, Or.inl rfl, fun p hp => absurd hp (z p), fun p q _ hq => absurd hq (z q), fun j hj => absurd hj (z2 j)⟩⟩
/-- a copy while it is made: p notes, v versions -/
def rCp (R : Nat → Int32) (p v : Nat) : Nat → Int32 := fun q => if q = 1 then nI p else if q = 2 then nI v else if q < 8 then 0 else R q
theorem rCp_N {R : Nat → Int32} {p v : Nat} (h : p < 100) : rN (rCp R p v) = p := by
  show nn (if (1 : Nat) = 1 then nI p else _) = p
  rw [if_pos rfl, nn_nI (by omega)]
theorem rCp_V {R : Nat → Int32} {p v : Nat} (h : v < 100) : rV (rCp R p v) = v := by
  show nn (if (2 : Nat) = 1 then nI p else if (2 : Nat) = 2 then nI v else _) = v
  rw [if_neg (by decide), if_pos rfl, nn_nI (by omega)]
theorem rCp_hi {R : Nat → Int32} {p v q : Nat} (h : 8 ≤ q) : rCp R p v q = R q := by
  unfold rCp; rw [if_neg (by omega), if_neg (by omega), if_neg (by omega)]
theorem rCp_1 {R : Nat → Int32} {p v : Nat} : rCp R p v 1 = nI p := by unfold rCp; rw [if_pos rfl]
theorem rCp_2 {R : Nat → Int32} {p v : Nat} : rCp R p v 2 = nI v := by unfold rCp; rw [if_neg (by decide), if_pos rfl]
theorem rCp_lo {R : Nat → Int32} {p v q : Nat} (h : q < 8) (h1 : q ≠ 1) (h2 : q ≠ 2) : rCp R p v q = 0 := by unfold rCp; rw [if_neg h1, if_neg h2, if_pos h]
/-- numbers, then colours, out of R -/
def rC8 (R : Nat → Int32) (m : Nat) : Nat → Int32 := fun q => if 8 ≤ q ∧ q < m then R q else 0
theorem els_vers {G : GE} {h : AH} {P : Nat → Prop} {a rt cl nl nd nc vl vd vc : Nat} {R : Nat → Int32} {nm vm : Int32} {nf vf : Nat → Option Nat} (x : Rul G h P a R rt cl nl nd nc nm nf vl vd vc vm vf) : Els G h vf (rV R) := fun j hj y hy => by
  obtain ⟨b, k1, na, ca, fn, fc, k2, -⟩ := x.2.2.2.2.1 j hj
  rw [hy] at k1; cases k1
  exact ⟨8, _, by decide, Rd.h k2⟩
def rO : Nat → Int32 := fun _ => 0
theorem Rul.all {G : GE} {h h1 : AH} {P : Nat → Prop} {a rt cl nl nd nc vl vd vc : Nat} {R : Nat → Int32} {nm vm : Int32} {nf vf : Nat → Option Nat} (x : Rul G h P a R rt cl nl nd nc nm nf vl vd vc vm vf) (k : KeepAll h h1) : Rul G h1 P a R rt cl nl nd nc nm nf vl vd vc vm vf := x.kp (fun q ci l z _ => k _ _ z) (fun q y z => k _ _ z) (k.tree x.1.2.1 (by decide))
theorem al_neo {G : GE} {h h' : AH} {a d cap n q ci : Nat} {mc : Int32} {f : Nat → Option Nat} {l : List Value} (y : AL G h a d cap n mc f) (hE : h (G.ga "E0") = none) (k : KeepA h h' a d) (w : h q = some (ob ci l)) (hc : ci ≠ 12) : h' q = some (ob ci l) := k q _ (fun e => by
  rw [e, y.1] at w; cases w; exact hc rfl) (fun e => by
  rcases y.2.1 with v | v
  · rw [e, v.2.1, hE] at w; cases w
  · rw [e, v.2] at w; cases w) w
theorem cpy_col {R : Nat → Int32} {f g : Nat → Int32} (hf : ∀ c, c < 32 → f c = R (40 + c)) : ∀ c, c < 32 → va_cpy f g 0 0 32 c = rC8 R 72 (40 + c) := fun c hc => by
  unfold va_cpy rC8
  rw [if_pos ⟨Nat.zero_le _, by omega⟩, if_pos (by omega), Nat.zero_add, Nat.sub_zero, hf c hc]
theorem rC8_in {R : Nat → Int32} {m q : Nat} (h : 8 ≤ q) (h2 : q < m) : rC8 R m q = R q := if_pos ⟨h, h2⟩
theorem rC8_out {R : Nat → Int32} {m q : Nat} (h : q < 8 ∨ m ≤ q) : rC8 R m q = 0 := if_neg (by omega)
theorem rC8_REq {R : Nat → Int32} : REq (rC8 R 72) (rCp R 0 0) := by
  have n1 : rN (rC8 R 72) = 0 := by unfold rN; rw [rC8_out (by omega)]; rfl
  have n2 : rV (rC8 R 72) = 0 := by unfold rV; rw [rC8_out (by omega)]; rfl
  refine ⟨fun q hq => ?_, fun q h1 h2 => by rw [n1] at h2; omega, fun q h1 h2 => by rw [n2] at h2; omega⟩
  by_cases c : 8 ≤ q
  · rw [rC8_in c hq, rCp_hi c]
  · rw [rC8_out (by omega)]
    by_cases e1 : q = 1
    · subst e1; exact rCp_1.symm
    · by_cases e2 : q = 2
      · subst e2; exact rCp_2.symm
      · exact (rCp_lo (by omega) e1 e2).symm
theorem rCp_sN {R : Nat → Int32} {p q : Nat} (h : q ≠ 1) : rCp R (p + 1) 0 q = rCp R p 0 q := by unfold rCp; rw [if_neg h, if_neg h]
theorem rCp_sV {R : Nat → Int32} {n j q : Nat} (h : q ≠ 2) : rCp R n (j + 1) q = rCp R n j q := by unfold rCp; rw [if_neg h, if_neg h]
theorem rCp_note {G : GE} {h : AH} {b p m v : Nat} {R : Nat → Int32} (x : NoteAt G h b R p) : NoteAt G h b (rCp R m v) p := by
  unfold NoteAt at *
  rw [rCp_hi (by omega), rCp_hi (by omega), rCp_hi (by omega), rCp_hi (by omega), rCp_hi (by omega)]; exact x
theorem rCp_vers {G : GE} {h : AH} {b j m v : Nat} {R : Nat → Int32} (x : VersAt G h b R j) : VersAt G h b (rCp R m v) j := by
  obtain ⟨na, ca, fn, fc, h1, h2, h3, h4⟩ := x
  exact ⟨na, ca, fn, fc, h1, h2, h3, fun c hc => by rw [rCp_hi (by omega), rCp_hi (by omega)]; exact h4 c hc⟩
theorem x_noteInit (l : Launch) (G : GE) (h : AH) (b k : Nat) (x1 x2 x3 x4 : Int32) (rb : h b = some (ob 6 [.null, .int 0, .int 0, .int 0, .int 0])) : GM l G yX10_init (ws_ yX10_init cX10_init 6 none) 1 [.ref b, .ref k, .int x1, .int x2, .int x3, .int x4] (h) (0) (PN (up h b (ob 6 [.ref k, .int x1, .int x2, .int x3, .int x4]))) := by
  refine GM.of (by decide) (dk rfl) ?_
  intro X eL eG eh ok fn
  subst eL; subst eG
  show GW X _ 0 0 [some (.ref b), some (.ref k), some (.int x1), some (.int x2), some (.int x3), some (.int x4)] []
  refine g_aload_n ok dX10_init_0 rfl ?_
  refine g_objInit ok q821 q121 q122 dX10_init_1 (dk rfl) rfl (dk rfl) ?_
  refine g_aload_n ok dX10_init_4 rfl ?_
  refine g_aload_n ok dX10_init_5 rfl ?_
  refine g_putF ok ck_X10 0 q822 rfl (by decide) rfl rfl rfl dX10_init_6 (rb) (dl rfl) rfl rfl (fs1 := [.ref k, .int 0, .int 0, .int 0, .int 0]) rfl (?_)
  refine g_aload_n ok dX10_init_9 rfl ?_
  refine g_iload_n ok dX10_init_10 rfl ?_
  refine g_putF ok ck_X10 1 q825 rfl (by decide) rfl rfl rfl dX10_init_11 (up_self) (dl rfl) rfl rfl (fs1 := [.ref k, .int x1, .int 0, .int 0, .int 0]) rfl (?_)
  refine g_aload_n ok dX10_init_14 rfl ?_
  refine g_iload_n ok dX10_init_15 rfl ?_
  refine g_putF ok ck_X10 2 q828 rfl (by decide) rfl rfl rfl dX10_init_16 (up_self) (dl rfl) rfl rfl (fs1 := [.ref k, .int x1, .int x2, .int 0, .int 0]) rfl (?_)
  refine g_aload_n ok dX10_init_19 rfl ?_
  refine g_iload ok dX10_init_20 rfl ?_
  refine g_putF ok ck_X10 3 q831 rfl (by decide) rfl rfl rfl dX10_init_22 (up_self) (dl rfl) rfl rfl (fs1 := [.ref k, .int x1, .int x2, .int x3, .int 0]) rfl (?_)
  refine g_aload_n ok dX10_init_25 rfl ?_
  refine g_iload ok dX10_init_26 rfl ?_
  refine g_put ok ck_X10 4 q834 (Or.inl rfl) (by decide) rfl dX10_init_28 (up_self) (dl rfl) rfl rfl (fs1 := [.ref k, .int x1, .int x2, .int x3, .int x4]) rfl (?_)
  exact g_vret ok fn rfl dX10_init_31 ⟨rfl, by simp only [up_up]⟩ (by omega)
theorem x_noteCopy (l : Launch) (G : GE) (h : AH) (a k : Nat) (x1 x2 x3 x4 : Int32) (ra : Rd G h a (ob 6 [.ref k, .int x1, .int x2, .int x3, .int x4])) : GM l G yX10_copy (ws_ yX10_copy cX10_copy 1 (some (.object "SpanRuler$Note"))) 2 [.ref a] (h) (6) (PR fun u h' => ∃ b, u = .ref b ∧ h b = none ∧ G.kh b = none ∧ h' = up h b (ob 6 [.ref k, .int x1, .int x2, .int x3, .int x4])) := by
  refine GM.of (by decide) (dk rfl) ?_
  intro X eL eG eh ok fn
  subst eL; subst eG
  show GW X _ 0 0 [some (.ref a)] []
  refine g_new ok ck_X10 q816 q817 q95 dX10_copy_0 (fs := [.null, .int 0, .int 0, .int 0, .int 0]) (by intro j hj; rcases (by omega : j = 0 ∨ j = 1 ∨ j = 2 ∨ j = 3 ∨ j = 4) with rfl | rfl | rfl | rfl | rfl <;> rfl) (by omega) (fun b hab hkb h0b => ?_)
  have ne0 := Rd.ne (ra) hab hkb
  refine g_dup ok dX10_copy_3 rfl ?_
  refine g_aload_n ok dX10_copy_4 rfl ?_
  refine g_get ok ck_X10 0 q822 (Or.inl rfl) (by decide) dX10_copy_5 (Rd.up (ra) ne0) rfl ?_
  refine g_aload_n ok dX10_copy_8 rfl ?_
  refine g_get ok ck_X10 1 q825 (Or.inl rfl) (by decide) dX10_copy_9 (Rd.up (ra) ne0) rfl ?_
  refine g_aload_n ok dX10_copy_12 rfl ?_
  refine g_get ok ck_X10 2 q828 (Or.inl rfl) (by decide) dX10_copy_13 (Rd.up (ra) ne0) rfl ?_
  refine g_aload_n ok dX10_copy_16 rfl ?_
  refine g_get ok ck_X10 3 q831 (Or.inl rfl) (by decide) dX10_copy_17 (Rd.up (ra) ne0) rfl ?_
  refine g_aload_n ok dX10_copy_20 rfl ?_
  refine g_get ok ck_X10 4 q834 (Or.inl rfl) (by decide) dX10_copy_21 (Rd.up (ra) ne0) rfl ?_
  refine g_callI ok q818 q819 q95 q820 rfl dX10_copy_24 (x_noteInit X.l X.G _ b k x1 x2 x3 x4 up_self) (nm_ (by decide : nmb _ 5 = true)) (dl rfl) (dk rfl) rfl rfl (dk rfl) (by omega) (kN ?_) xN
  simp only [up_up]
  exact g_aret ok fn rfl (Or.inl ⟨_, rfl⟩) (Or.inr ⟨_, rfl⟩) dX10_copy_27 ⟨_, rfl, b, rfl, hab, hkb, rfl⟩ (by omega)
theorem x_rinit (l : Launch) (G : GE) (h0 h : AH) (a : Nat) (ra : h a = some (ob 1 [.null, .null, .null, .null, .int 0, .int 0, .int 0, .int 0, .int 0, .int 0])) (k0 : KeepAll h0 h) (a0 : h0 a = none) : GM l G yX2_init (ws_ yX2_init cX2_init 1 none) 11 [.ref a] (h) (610) (PQ fun h' => RulerM G h0 h' a (fun _ => 0)) := by
  refine GM.of (by decide) (dk rfl) ?_
  intro X eL eG eh ok fn
  subst eL; subst eG
  show GW X _ 0 0 [some (.ref a)] []
  refine g_khn (ok.tab.kst.2.1) (fun hE => ?_)
  refine g_aload_n ok dX2_init_0 rfl ?_
  refine g_objInit ok q128 q121 q122 dX2_init_1 (dk rfl) rfl (dk rfl) ?_
  refine g_aload_n ok dX2_init_4 rfl ?_
  refine g_iconst ok (v := 0) dX2_init_5 rfl ?_
  refine g_bipush ok (v := 31) dX2_init_6 rfl ?_
  refine g_callSN ok q129 q130 q61 q131 dX2_init_8 (q_tree X.l X.G 5 _ 0 31 564 (by decide) (by decide) (by rw [trc5]; exact Nat.le_refl _)) (nm_ (by decide : nmb _ 2 = true)) (dk rfl) (dk rfl) rfl rfl (dk rfl) (by omega) (kR fun ut h1 ⟨rt, et, tt, kt⟩ => ?_) xR
  subst et
  have ra1 := kt a _ ra
  refine g_put ok ck_X2 0 q243 (Or.inl rfl) (by decide) rfl dX2_init_11 (ra1) (dl rfl) rfl rfl (fs1 := [.ref rt, .null, .null, .null, .int 0, .int 0, .int 0, .int 0, .int 0, .int 0]) rfl (?_)
  refine g_aload_n ok dX2_init_14 rfl ?_
  refine g_bipush ok (v := 32) dX2_init_15 rfl ?_
  refine g_newa ok (atype := .int) (n := 32) (ai := 0) (y := (.inl (fun _ => 0))) q242 (gt_i _) (fun C h => by cases h) (fun _ => rfl) dX2_init_17 rfl (by decide) (by omega) (fun cl hacl hkcl h0cl => ?_)
  have ne0 := Rd.ne (Rd.h (up_self)) hacl hkcl
  refine g_putF ok ck_X2 1 q244 rfl (by decide) rfl rfl rfl dX2_init_19 ((up_ne ne0).trans (up_self)) (dl rfl) rfl rfl (fs1 := [.ref rt, .ref cl, .null, .null, .int 0, .int 0, .int 0, .int 0, .int 0, .int 0]) rfl (?_)
  refine g_aload_n ok dX2_init_22 rfl ?_
  refine g_new ok ck_J2 q213 q214 q70 dX2_init_23 (fs := [.int 0, .null, .int 0]) (by intro j hj; rcases (by omega : j = 0 ∨ j = 1 ∨ j = 2) with rfl | rfl | rfl <;> rfl) (by omega) (fun nl hanl hknl h0nl => ?_)
  have ne1 := Rd.ne (Rd.h (up_self)) hanl hknl
  have ne2 := Rd.ne (Rd.h ((up_ne (Ne.symm ne0)).trans (up_self))) hanl hknl
  refine g_dup ok dX2_init_26 rfl ?_
  refine g_callI ok q215 q216 q70 q217 rfl dX2_init_27 (al_init X.l X.G _ nl up_self) (nm_ (by decide : nmb _ 0 = true)) (dk rfl) (dk rfl) rfl rfl (dk rfl) (by omega) (kN ?_) xN
  simp only [up_up]
  refine g_putF ok ck_X2 2 q246 rfl (by decide) rfl rfl rfl dX2_init_30 ((up_ne ne1).trans (up_self)) (dl rfl) rfl rfl (fs1 := [.ref rt, .ref cl, .ref nl, .null, .int 0, .int 0, .int 0, .int 0, .int 0, .int 0]) rfl (?_)
  refine g_aload_n ok dX2_init_33 rfl ?_
  refine g_new ok ck_J2 q213 q214 q70 dX2_init_34 (fs := [.int 0, .null, .int 0]) (by intro j hj; rcases (by omega : j = 0 ∨ j = 1 ∨ j = 2) with rfl | rfl | rfl <;> rfl) (by omega) (fun vl havl hkvl h0vl => ?_)
  have ne3 := Rd.ne (Rd.h (up_self)) havl hkvl
  have ne4 := Rd.ne (Rd.h ((up_ne (Ne.symm ne1)).trans (up_self))) havl hkvl
  have ne5 := Rd.ne (Rd.h ((up_ne (Ne.symm ne0)).trans ((up_ne ne2).trans ((up_ne (Ne.symm ne0)).trans (up_self))))) havl hkvl
  refine g_dup ok dX2_init_37 rfl ?_
  refine g_callI ok q215 q216 q70 q217 rfl dX2_init_38 (al_init X.l X.G _ vl up_self) (nm_ (by decide : nmb _ 0 = true)) (dk rfl) (dk rfl) rfl rfl (dk rfl) (by omega) (kN ?_) xN
  simp only [up_up]
  refine g_putF ok ck_X2 3 q248 rfl (by decide) rfl rfl rfl dX2_init_41 ((up_ne ne3).trans (up_self)) (dl rfl) rfl rfl (fs1 := [.ref rt, .ref cl, .ref nl, .ref vl, .int 0, .int 0, .int 0, .int 0, .int 0, .int 0]) rfl (?_)
  have s1 : h cl = none := kt.nn0 (up_none hacl)
  have s2 : h nl = none := kt.nn0 (up_none (up_none (up_none hanl)))
  have s3 : h vl = none := kt.nn0 (up_none (up_none (up_none (up_none (up_none havl)))))
  have ncn : cl ≠ nl := ne2
  have ncv : cl ≠ vl := ne5
  have nnv : nl ≠ vl := ne4
  have nac : a ≠ cl := ne0
  have nan : a ≠ nl := ne1
  have nav : a ≠ vl := ne3
  have eH : (up (up (up (up (up (up (up h1 a (ob 1 [.ref rt, .null, .null, .null, .int 0, .int 0, .int 0, .int 0, .int 0, .int 0])) cl (aI X.G 32 (fun _ => 0))) a (ob 1 [.ref rt, .ref cl, .null, .null, .int 0, .int 0, .int 0, .int 0, .int 0, .int 0])) nl (ob 12 [.int 0, .ref (X.G.ga "E0"), .int 0])) a (ob 1 [.ref rt, .ref cl, .ref nl, .null, .int 0, .int 0, .int 0, .int 0, .int 0, .int 0])) vl (ob 12 [.int 0, .ref (X.G.ga "E0"), .int 0])) a (ob 1 [.ref rt, .ref cl, .ref nl, .ref vl, .int 0, .int 0, .int 0, .int 0, .int 0, .int 0])) = (up (up (up (up h1 cl (aI X.G 32 (fun _ => 0))) nl (ob 12 [.int 0, .ref (X.G.ga "E0"), .int 0])) vl (ob 12 [.int 0, .ref (X.G.ga "E0"), .int 0])) a (ob 1 [.ref rt, .ref cl, .ref nl, .ref vl, .int 0, .int 0, .int 0, .int 0, .int 0, .int 0])) := by
    funext z; by_cases z1 : z = a
    · subst z1; simp only [up_self]
    · by_cases z2 : z = cl
      · subst z2; simp only [up_ne z1, up_ne ncn, up_ne ncv, up_self]
      · by_cases z3 : z = nl
        · subst z3; simp only [up_ne z1, up_ne z2, up_ne nnv, up_self]
        · simp only [up_ne z1, up_ne z2, up_ne z3]; by_cases z4 : z = vl
          · subst z4; simp only [up_self]
          · simp only [up_ne z1, up_ne z2, up_ne z3, up_ne z4]
  rw [eH]
  have kk : KeepAll h0 (up (up (up (up h1 cl (aI X.G 32 (fun _ => 0))) nl (ob 12 [.int 0, .ref (X.G.ga "E0"), .int 0])) vl (ob 12 [.int 0, .ref (X.G.ga "E0"), .int 0])) a (ob 1 [.ref rt, .ref cl, .ref nl, .ref vl, .int 0, .int 0, .int 0, .int 0, .int 0, .int 0])) := (((((k0.trans kt).put (k0.nn0 s1)).put (k0.nn0 s2)).put (k0.nn0 s3)).put a0)
  have t1 : TreeAt h1 (fun q => h0 q = none) 5 (fun _ => 0) 0 rt := TreeAt.mono (fun q z _ => k0.nn0 z) 5 _ _ _ tt
  have tf : TreeAt (up (up (up (up h1 cl (aI X.G 32 (fun _ => 0))) nl (ob 12 [.int 0, .ref (X.G.ga "E0"), .int 0])) vl (ob 12 [.int 0, .ref (X.G.ga "E0"), .int 0])) a (ob 1 [.ref rt, .ref cl, .ref nl, .ref vl, .int 0, .int 0, .int 0, .int 0, .int 0, .int 0])) (fun q => h0 q = none) 5 (fun _ => 0) 0 rt := TreeAt.keep 5 _ _ _ (by decide) t1 (fun q e w v => by
    have e1 : q ≠ a := fun z => by subst z; rw [ra1] at w; cases w; rcases v with ⟨-, ci, i, j, fs, e1, -⟩ | ⟨l, e1⟩ <;> cases e1
    have cl1 : h1 cl = none := up_none hacl
    have e2 : q ≠ cl := fun z => by subst z; rw [cl1] at w; cases w
    have e3 : q ≠ nl := fun z => by subst z; rw [(up_none (up_none (up_none hanl)) : h1 q = none)] at w; cases w
    have e4 : q ≠ vl := fun z => by subst z; rw [(up_none (up_none (up_none (up_none (up_none havl)))) : h1 q = none)] at w; cases w
    rw [up_ne e1, up_ne e4, up_ne e3, up_ne e2]; exact w)
  exact g_vret ok fn rfl dX2_init_44 ⟨rfl, RulerM.init kk up_self tf ((up_ne (Ne.symm nac)).trans ((up_ne ncv).trans ((up_ne ncn).trans up_self))) ((up_ne (Ne.symm nan)).trans ((up_ne nnv).trans up_self)) ((up_ne (Ne.symm nav)).trans up_self) a0 (k0.nn0 s1) (k0.nn0 s2) (k0.nn0 s3) (k0.nn0 hE) nnv⟩ (by omega)
