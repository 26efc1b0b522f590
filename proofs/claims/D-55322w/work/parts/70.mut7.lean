/-! a ruler is changed, 7: versions -/
set_option maxRecDepth 100000
abbrev cX12_init : ByteArray := prog_17_method_1_code
def yX12_init : MethodName := ⟨RX12, "<init>", "()V"⟩
def dkwX12_init_0 : List UInt8 := [42, 183, 0, 3, 42, 16, 32, 188, 10, 181, 0, 9, 42, 16, 32, 188, 10, 181, 0, 15, 177]
abbrev dktX12_init_0 : List UInt8 := dkwX12_init_0 ++ []
theorem dksX12_init_0 : cX12_init.data.toList.drop 0 = dktX12_init_0 := by decide +kernel
theorem dX12_init_0 : decode cX12_init 0 = .ok (.aload_n 0, 1) := dk_42 (dk_at dksX12_init_0 0 rfl rfl)
theorem dX12_init_1 : decode cX12_init 1 = .ok (.invokespecial 3, 3) := dk_183 0 3 (dk_at dksX12_init_0 1 rfl rfl)
theorem dX12_init_4 : decode cX12_init 4 = .ok (.aload_n 0, 1) := dk_42 (dk_at dksX12_init_0 4 rfl rfl)
theorem dX12_init_5 : decode cX12_init 5 = .ok (.bipush 32, 2) := dk_16 32 (dk_at dksX12_init_0 5 rfl rfl)
theorem dX12_init_7 : decode cX12_init 7 = .ok (.newarray .int, 2) := dk_188_10 (dk_at dksX12_init_0 7 rfl rfl)
theorem dX12_init_9 : decode cX12_init 9 = .ok (.putfield 9, 3) := dk_181 0 9 (dk_at dksX12_init_0 9 rfl rfl)
theorem dX12_init_12 : decode cX12_init 12 = .ok (.aload_n 0, 1) := dk_42 (dk_at dksX12_init_0 12 rfl rfl)
theorem dX12_init_13 : decode cX12_init 13 = .ok (.bipush 32, 2) := dk_16 32 (dk_at dksX12_init_0 13 rfl rfl)
theorem dX12_init_15 : decode cX12_init 15 = .ok (.newarray .int, 2) := dk_188_10 (dk_at dksX12_init_0 15 rfl rfl)
theorem dX12_init_17 : decode cX12_init 17 = .ok (.putfield 15, 3) := dk_181 0 15 (dk_at dksX12_init_0 17 rfl rfl)
theorem dX12_init_20 : decode cX12_init 20 = .ok (.return_, 1) := dk_177 (dk_at dksX12_init_0 20 rfl rfl)
abbrev cX2_version : ByteArray := prog_16_method_28_code
def yX2_version : MethodName := ⟨RX2, "version", "()LSpanRuler$Version;"⟩
def dkwX2_version_1 : List UInt8 := [182, 0, 106, 79, 43, 180, 0, 204, 28, 42, 180, 0, 19, 28, 46, 79, 132, 2, 1, 167, 255, 224, 43, 176]
abbrev dktX2_version_1 : List UInt8 := dkwX2_version_1 ++ []
def dkwX2_version_0 : List UInt8 := [187, 0, 69, 89, 183, 0, 200, 76, 3, 61, 28, 16, 32, 162, 0, 32, 43, 180, 0, 201, 28, 42, 28]
abbrev dktX2_version_0 : List UInt8 := dkwX2_version_0 ++ dktX2_version_1
theorem dksX2_version_0 : cX2_version.data.toList.drop 0 = dktX2_version_0 := by decide +kernel
theorem dksX2_version_1 : cX2_version.data.toList.drop 23 = dktX2_version_1 := dk_seg dksX2_version_0 23 rfl rfl
theorem dX2_version_0 : decode cX2_version 0 = .ok (.new 69, 3) := dk_187 0 69 (dk_at dksX2_version_0 0 rfl rfl)
theorem dX2_version_3 : decode cX2_version 3 = .ok (.dup, 1) := dk_89 (dk_at dksX2_version_0 3 rfl rfl)
theorem dX2_version_4 : decode cX2_version 4 = .ok (.invokespecial 200, 3) := dk_183 0 200 (dk_at dksX2_version_0 4 rfl rfl)
theorem dX2_version_7 : decode cX2_version 7 = .ok (.astore_n 1, 1) := dk_76 (dk_at dksX2_version_0 7 rfl rfl)
theorem dX2_version_8 : decode cX2_version 8 = .ok (.iconst 0, 1) := dk_3 (dk_at dksX2_version_0 8 rfl rfl)
theorem dX2_version_9 : decode cX2_version 9 = .ok (.istore_n 2, 1) := dk_61 (dk_at dksX2_version_0 9 rfl rfl)
theorem dX2_version_10 : decode cX2_version 10 = .ok (.iload_n 2, 1) := dk_28 (dk_at dksX2_version_0 10 rfl rfl)
theorem dX2_version_11 : decode cX2_version 11 = .ok (.bipush 32, 2) := dk_16 32 (dk_at dksX2_version_0 11 rfl rfl)
theorem dX2_version_13 : decode cX2_version 13 = .ok (.if_icmp .ge 32, 3) := dk_162 0 32 (dk_at dksX2_version_0 13 rfl rfl)
theorem dX2_version_16 : decode cX2_version 16 = .ok (.aload_n 1, 1) := dk_43 (dk_at dksX2_version_0 16 rfl rfl)
theorem dX2_version_17 : decode cX2_version 17 = .ok (.getfield 201, 3) := dk_180 0 201 (dk_at dksX2_version_0 17 rfl rfl)
theorem dX2_version_20 : decode cX2_version 20 = .ok (.iload_n 2, 1) := dk_28 (dk_at dksX2_version_0 20 rfl rfl)
theorem dX2_version_21 : decode cX2_version 21 = .ok (.aload_n 0, 1) := dk_42 (dk_at dksX2_version_0 21 rfl rfl)
theorem dX2_version_22 : decode cX2_version 22 = .ok (.iload_n 2, 1) := dk_28 (dk_at dksX2_version_0 22 rfl rfl)
theorem dX2_version_23 : decode cX2_version 23 = .ok (.invokevirtual 106, 3) := dk_182 0 106 (dk_at dksX2_version_1 0 rfl rfl)
theorem dX2_version_26 : decode cX2_version 26 = .ok (.iastore, 1) := dk_79 (dk_at dksX2_version_1 3 rfl rfl)
theorem dX2_version_27 : decode cX2_version 27 = .ok (.aload_n 1, 1) := dk_43 (dk_at dksX2_version_1 4 rfl rfl)
theorem dX2_version_28 : decode cX2_version 28 = .ok (.getfield 204, 3) := dk_180 0 204 (dk_at dksX2_version_1 5 rfl rfl)
theorem dX2_version_31 : decode cX2_version 31 = .ok (.iload_n 2, 1) := dk_28 (dk_at dksX2_version_1 8 rfl rfl)
theorem dX2_version_32 : decode cX2_version 32 = .ok (.aload_n 0, 1) := dk_42 (dk_at dksX2_version_1 9 rfl rfl)
theorem dX2_version_33 : decode cX2_version 33 = .ok (.getfield 19, 3) := dk_180 0 19 (dk_at dksX2_version_1 10 rfl rfl)
theorem dX2_version_36 : decode cX2_version 36 = .ok (.iload_n 2, 1) := dk_28 (dk_at dksX2_version_1 13 rfl rfl)
theorem dX2_version_37 : decode cX2_version 37 = .ok (.iaload, 1) := dk_46 (dk_at dksX2_version_1 14 rfl rfl)
theorem dX2_version_38 : decode cX2_version 38 = .ok (.iastore, 1) := dk_79 (dk_at dksX2_version_1 15 rfl rfl)
theorem dX2_version_39 : decode cX2_version 39 = .ok (.iinc 2 1, 3) := dk_132 2 1 (dk_at dksX2_version_1 16 rfl rfl)
theorem dX2_version_42 : decode cX2_version 42 = .ok (.goto (-32), 3) := dk_167 255 224 (dk_at dksX2_version_1 19 rfl rfl)
theorem dX2_version_45 : decode cX2_version 45 = .ok (.aload_n 1, 1) := dk_43 (dk_at dksX2_version_1 22 rfl rfl)
theorem dX2_version_46 : decode cX2_version 46 = .ok (.areturn, 1) := dk_176 (dk_at dksX2_version_1 23 rfl rfl)
theorem q1478 : (Jvm.Cond.methodLink "SpanRuler$Version" (3 : Nat) ({ cls := "java/lang/Object", name := "<init>", desc := "()V" } : Jvm.MethodName)) ∈ lw_all := lw_g (lw_at lw_m6 218 rfl) rfl
theorem q1474 : (Jvm.Cond.instantiable "SpanRuler$Version" (2 : Nat)) ∈ lw_all := lw_g (lw_at lw_m6 214 rfl) rfl
theorem q911 : (Jvm.Cond.classLink "SpanRuler$Ruler" (69 : Nat) "SpanRuler$Version") ∈ lw_all := lw_g (lw_at lw_m4 131 rfl) rfl
theorem q1475 : (Jvm.Cond.methodLinkNest "SpanRuler$Ruler" (200 : Nat) ({ cls := "SpanRuler$Version", name := "<init>", desc := "()V" } : Jvm.MethodName) "SpanRuler") ∈ lw_tbl := lw_at lw_m6 215 rfl
theorem q1477 : (Jvm.Cond.code ({ cls := "SpanRuler$Version", name := "<init>", desc := "()V" } : Jvm.MethodName) prog_17_method_1_code (1 : Nat) (Option.none : Option Jvm.ClassFile.FieldType)) ∈ lw_all := lw_g (lw_at lw_m6 217 rfl) rfl
theorem q1476 : (Jvm.Cond.instanceMethod ({ cls := "SpanRuler$Version", name := "<init>", desc := "()V" } : Jvm.MethodName)) ∈ lw_all := lw_g (lw_at lw_m6 216 rfl) rfl
theorem q1480 : (Jvm.Cond.fieldLinkNest "SpanRuler$Ruler" (201 : Nat) "SpanRuler$Version" "numbers" "[I" "SpanRuler") ∈ lw_tbl := lw_at lw_m6 220 rfl
theorem q1483 : (Jvm.Cond.fieldLinkNest "SpanRuler$Ruler" (204 : Nat) "SpanRuler$Version" "colours" "[I" "SpanRuler") ∈ lw_tbl := lw_at lw_m6 223 rfl
/-- the colours are set -/
theorem Rul.cols {G : GE} {h0 h : AH} {a rt cl nl nd nc vl vd vc : Nat} {R : Nat → Int32} {nm vm : Int32} {nf vf : Nat → Option Nat} (y : Rul G h (fun q => h0 q = none) a R rt cl nl nd nc nm nf vl vd vc vm vf) (z : Frs G h0 h a R cl nl nd nc nf vl vd vc vf) {cf : Nat → Int32} (hc : h cl = some (aI G 32 cf)) {cf2 S : Nat → Int32} (e : ∀ q, q < 40 ∨ 72 ≤ q → S q = R q) (hcf : ∀ c, c < 32 → cf2 c = S (40 + c)) (hx : ∀ c, c < 32 → isCo (S (40 + c)) = true) :
    Rul G (up h cl (aI G 32 cf2)) (fun q => h0 q = none) a S rt cl nl nd nc nm nf vl vd vc vm vf ∧ Frs G h0 (up h cl (aI G 32 cf2)) a S cl nl nd nc nf vl vd vc vf := by
  have n1 : rN S = rN R := by unfold rN; rw [e _ (by omega)]
  have n2 : rV S = rV R := by unfold rV; rw [e _ (by omega)]
  have neo : ∀ q ci l, h q = some (ob ci l) → q ≠ cl := fun q ci l w e => by subst e; rw [hc] at w; cases w
  have ner : ∀ q n f, h q = some (aR G n f) → q ≠ cl := fun q n f w e => by subst e; rw [hc] at w; exact aR_aI (Option.some.inj w).symm
  obtain ⟨⟨h1, h2, -⟩, h5, h6, h7, h8, ⟨i1, i2, i3, i4, i5, i6⟩, h9, h10⟩ := y
  obtain ⟨z1, z2, z3, z4, z5, z6, z7, z8, z9, z10, z11, z12⟩ := z
  have hal : ∀ {l d k n mc f}, AL G h l d k n mc f → AL G (up h cl (aI G 32 cf2)) l d k n mc f := fun {l d k n mc f} w => ⟨(up_ne (neo _ _ _ w.1)).trans w.1, w.2.1.imp id (fun v => ⟨v.1, (up_ne (ner _ _ _ v.2)).trans v.2⟩), w.2.2⟩
  have i12 := i1.2
  have i22 := i2.2
  refine ⟨⟨⟨?_, ?_, cf2, up_self, fun q hq => hcf q hq⟩, by rw [n1]; exact hal h5, ?_, by rw [n2]; exact hal h7, ?_, ⟨?_, ?_, ?_, ?_, ?_, ?_⟩, h9, h10⟩, ?_⟩
  · unfold rof
    rw [e 3 (by omega), e 4 (by omega), e 5 (by omega), e 0 (by omega), e 6 (by omega), e 7 (by omega)]
    exact (up_ne (neo _ _ _ h1)).trans h1
  · refine TreeAt.keep 5 _ _ _ (by decide) (h2.congr (fun q _ hq => (e _ ?_).symm)) (fun q e9 w v => ?_)
    · have : sz 5 = 32 := rfl
      omega
    · rcases v with ⟨-, ci, i, j, fs, e1, -⟩ | ⟨l, e1⟩ <;> subst e1 <;> exact (up_ne (neo _ _ _ w)).trans w
  · rw [n1]; intro p hp
    obtain ⟨b, k1, k2⟩ := h6 p hp
    refine ⟨b, k1, ?_⟩
    unfold NoteAt at *
    rw [e (72 + 5 * p + 0) (by omega), e (72 + 5 * p + 1) (by omega), e (72 + 5 * p + 2) (by omega), e (72 + 5 * p + 3) (by omega), e (72 + 5 * p + 4) (by omega)]
    exact (up_ne (neo _ _ _ k2)).trans k2
  · rw [n2]; intro j hj
    obtain ⟨b, k1, na, ca, fn, fc, k2, k3, k4, k5⟩ := h8 j hj
    obtain ⟨m1, m2⟩ := z12 j hj b na ca k1 k2
    exact ⟨b, k1, na, ca, fn, fc, (up_ne (neo _ _ _ k2)).trans k2, (up_ne m1).trans k3, (up_ne m2).trans k4, fun q hq => by rw [e _ (by omega), e (122 + 64 * j + 32 + q) (by omega)]; exact k5 q hq⟩
  · rw [n1, e 1 (by omega)]; exact i1
  · rw [n2, e 2 (by omega)]; exact i2
  · intro q hq; rw [e _ (by omega)]; exact i3 q hq
  · exact hx
  · rw [n1]; intro p hp; exact (i5 p hp).congr (fun w hw => (e _ (by omega)).symm)
  · rw [n2]; intro j hj q hq; rw [e _ (by omega), e (122 + 64 * j + 32 + q) (by omega)]; exact i6 j hj q hq
  · unfold Frs
    rw [n1, n2]
    exact ⟨z1.put z3, z2, z3, z4, z5, z6, z7, z8, z9, z10, z11, fun j hj b na ca hb hb2 => z12 j hj b na ca hb (by
      obtain ⟨b2, k1, na2, ca2, fn, fc, k2, -⟩ := h8 j hj
      rw [hb] at k1; cases k1
      rw [up_ne (neo _ _ _ k2)] at hb2; exact hb2)⟩
/-- the tree changes, the object doesn't -/
theorem Rul.num {G : GE} {h0 h h1 : AH} {a rt cl nl nd nc vl vd vc : Nat} {R S : Nat → Int32} {nm vm : Int32} {nf vf : Nat → Option Nat} (y : Rul G h (fun q => h0 q = none) a R rt cl nl nd nc nm nf vl vd vc vm vf) (z : Frs G h0 h a R cl nl nd nc nf vl vd vc vf) (c : Chg (fun q => h0 q = none) 0 32 h h1) (t : TreeAt h1 (fun q => h0 q = none) 5 (fun c => S (8 + c)) 0 rt) (e : ∀ q, q < 8 ∨ 40 ≤ q → S q = R q) :
    Rul G h1 (fun q => h0 q = none) a S rt cl nl nd nc nm nf vl vd vc vm vf ∧ Frs G h0 h1 a S cl nl nd nc nf vl vd vc vf := by
  have n1 : rN S = rN R := by unfold rN; rw [e 1 (by omega)]
  have n2 : rV S = rV R := by unfold rV; rw [e 2 (by omega)]
  have r1 : RRest G h1 R cl nl nd nc nm nf vl vd vc vm vf := y.rest.kp (fun q ci l w v => c.other w (by omega)) (fun q y w => c.arr w)
  refine ⟨(r1.congr (fun q hq => e q (by omega))).rul ?_ t (y.2.2.2.2.2.1.congr (fun q hq => e q (by omega)) (fun c hc => t.rng c (Nat.zero_le _) (by have : sz 5 = 32 := rfl; omega))) y.2.2.2.2.2.2.1 y.2.2.2.2.2.2.2, ?_⟩
  · unfold rof
    rw [e 3 (by omega), e 4 (by omega), e 5 (by omega), e 0 (by omega), e 6 (by omega), e 7 (by omega)]
    exact c.other y.1.1 ⟨by decide, by decide⟩
  · have z' := z.mono (z.1.chg c) (fun j hj b hb => by
      obtain ⟨l, w⟩ := y.vb hj hb
      rw [c.other w ⟨by decide, by decide⟩, w])
    unfold Frs at *
    rw [n1, n2]; exact z'
/-- another tree takes its place -/
theorem Rul.root {G : GE} {h0 h h1 : AH} {a rt b cl nl nd nc vl vd vc : Nat} {R S : Nat → Int32} {nm vm : Int32} {nf vf : Nat → Option Nat} (y : Rul G h (fun q => h0 q = none) a R rt cl nl nd nc nm nf vl vd vc vm vf) (z : Frs G h0 h a R cl nl nd nc nf vl vd vc vf) (k : KeepAll h h1) (t : TreeAt h1 (fun q => h0 q = none) 5 (fun c => S (8 + c)) 0 b) (e : ∀ q, q < 8 ∨ 40 ≤ q → S q = R q) :
    Rul G (up h1 a (ob 1 (.ref b :: .ref cl :: rof R nl vl))) (fun q => h0 q = none) a S b cl nl nd nc nm nf vl vd vc vm vf ∧ Frs G h0 (up h1 a (ob 1 (.ref b :: .ref cl :: rof R nl vl))) a S cl nl nd nc nf vl vd vc vf := by
  have n1 : rN S = rN R := by unfold rN; rw [e 1 (by omega)]
  have n2 : rV S = rV R := by unfold rV; rw [e 2 (by omega)]
  have ra := k _ _ y.1.1
  have ne1 : ∀ q ci l, h1 q = some (ob ci l) → ci ≠ 1 → q ≠ a := fun q ci l w n z => by subst z; rw [ra] at w; cases w; exact n rfl
  have ne2 : ∀ q y, h1 q = some (.inl y) → q ≠ a := fun q y w z => by subst z; rw [ra] at w; cases w
  have r1 : RRest G h1 R cl nl nd nc nm nf vl vd vc vm vf := y.rest.kp (fun q ci l w v => k _ _ w) (fun q y w => k _ _ w)
  have r2 : RRest G (up h1 a (ob 1 (.ref b :: .ref cl :: rof R nl vl))) R cl nl nd nc nm nf vl vd vc vm vf := r1.kp (fun q ci l w v => (up_ne (ne1 q ci l w (by omega))).trans w) (fun q y w => (up_ne (ne2 q y w)).trans w)
  have t2 : TreeAt (up h1 a (ob 1 (.ref b :: .ref cl :: rof R nl vl))) (fun q => h0 q = none) 5 (fun c => S (8 + c)) 0 b := TreeAt.keep 5 _ _ _ (by decide) t (fun q e w v => by
    rw [up_ne (fun x => ?_)]; exact w
    subst x
    rw [ra] at w; cases w
    rcases v with ⟨-, ci, i, j, fs, e1, e2, -⟩ | ⟨l, e1⟩
    · have := (Prod.mk.inj (Sum.inr.inj e1)).1; omega
    · cases e1)
  have k1 : KeepAll h0 h1 := z.1.trans k
  refine ⟨(r2.congr (fun q hq => e q (by omega))).rul (up_self.trans ?_) t2 (y.2.2.2.2.2.1.congr (fun q hq => e q (by omega)) (fun c hc => t.rng c (Nat.zero_le _) (by have : sz 5 = 32 := rfl; omega))) y.2.2.2.2.2.2.1 y.2.2.2.2.2.2.2, ?_⟩
  · unfold rof
    rw [e 3 (by omega), e 4 (by omega), e 5 (by omega), e 0 (by omega), e 6 (by omega), e 7 (by omega)]
  · have k3 : KeepAll h0 (up h1 a (ob 1 (.ref b :: .ref cl :: rof R nl vl))) := k1.put z.2.1
    have z' := z.mono k3 (fun j hj b hb => by
      obtain ⟨l, w⟩ := y.vb hj hb
      rw [up_ne (ne1 _ _ _ (k _ _ w) (by decide)), k _ _ w, w])
    unfold Frs at *
    rw [n1, n2]; exact z'
theorem Chg.fresh {P : Nat → Prop} {lo n t : Nat} {h H : AH} {e : va_E} (c : Chg P lo n h H) (ht : h t = none) : Chg P lo n h (up H t e) := fun q e1 x y => by
  rw [up_ne (fun z => by subst z; rw [ht] at x; cases x)]; exact c q e1 x y
theorem RQ.upX {G : GE} {h : AH} {P : Nat → Prop} {a rt cl t : Nat} {R : Nat → Int32} {ro : List Value} {e e0 : va_E} (x : RQ G h P a R rt cl ro) (ht : h t = some e0) (hn : (∃ y, e0 = .inl y) ∨ ∃ ci l, e0 = ob ci l ∧ 4 < ci) (hcl : cl ≠ t) : RQ G (up h t e) P a R rt cl ro := by
  obtain ⟨h1, h2, cf, h3, h4⟩ := x
  have ne : ∀ q ci l, h q = some (ob ci l) → ci ≤ 4 → q ≠ t := fun q ci l w n z => by
    subst z; rw [ht] at w; cases w
    rcases hn with ⟨y, e⟩ | ⟨ci', l', e, m⟩
    · cases e
    · cases e; omega
  refine ⟨(up_ne (ne _ _ _ h1 (by decide))).trans h1, TreeAt.keep 5 _ _ _ (by decide) h2 (fun q e w v => ?_), cf, (up_ne hcl).trans h3, h4⟩
  rcases v with ⟨-, ci, i, j, fs, e1, e2, -⟩ | ⟨l, e1⟩
  · subst e1; exact (up_ne (ne _ _ _ w (by omega))).trans w
  · subst e1; exact (up_ne (ne _ _ _ w (by omega))).trans w
theorem RQ.upN {G : GE} {h : AH} {P : Nat → Prop} {a rt cl t : Nat} {R : Nat → Int32} {ro : List Value} {e : va_E} (x : RQ G h P a R rt cl ro) (ht : h t = none) : RQ G (up h t e) P a R rt cl ro := by
  obtain ⟨h1, h2, cf, h3, h4⟩ := x
  have ne : ∀ q y, h q = some y → q ≠ t := fun q y w z => by subst z; rw [ht] at w; cases w
  exact ⟨(up_ne (ne _ _ h1)).trans h1, TreeAt.keep 5 _ _ _ (by decide) h2 (fun q e w v => (up_ne (ne _ _ w)).trans w), cf, (up_ne (ne _ _ h3)).trans h3, h4⟩
theorem x_vinit (l : Launch) (G : GE) (h : AH) (b : Nat) (rb : h b = some (ob 8 [.null, .null])) : GM l G yX12_init (ws_ yX12_init cX12_init 1 none) 2 [.ref b] (h) (66) (PQ fun h' => ∃ na ca, h na = none ∧ G.kh na = none ∧ h ca = none ∧ G.kh ca = none ∧ na ≠ b ∧ ca ≠ b ∧ na ≠ ca ∧ h' = up (up (up h na (aI G 32 (fun _ => 0))) ca (aI G 32 (fun _ => 0))) b (ob 8 [.ref na, .ref ca])) := by
  refine GM.of (by decide) (dk rfl) ?_
  intro X eL eG eh ok fn
  subst eL; subst eG
  show GW X _ 0 0 [some (.ref b)] []
  refine g_aload_n ok dX12_init_0 rfl ?_
  refine g_objInit ok q1478 q121 q122 dX12_init_1 (dk rfl) rfl (dk rfl) ?_
  refine g_aload_n ok dX12_init_4 rfl ?_
  refine g_bipush ok (v := 32) dX12_init_5 rfl ?_
  refine g_newa ok (atype := .int) (n := 32) (ai := 0) (y := (.inl (fun _ => 0))) q242 (gt_i _) (fun C h => by cases h) (fun _ => rfl) dX12_init_7 rfl (by decide) (by omega) (fun na hana hkna h0na => ?_)
  have ne0 := Rd.ne (Rd.h (rb)) hana hkna
  refine g_putF ok ck_X12 0 q1479 rfl (by decide) rfl rfl rfl dX12_init_9 ((up_ne ne0).trans (rb)) (dl rfl) rfl rfl (fs1 := [.ref na, .null]) rfl (?_)
  refine g_aload_n ok dX12_init_12 rfl ?_
  refine g_bipush ok (v := 32) dX12_init_13 rfl ?_
  refine g_newa ok (atype := .int) (n := 32) (ai := 0) (y := (.inl (fun _ => 0))) q242 (gt_i _) (fun C h => by cases h) (fun _ => rfl) dX12_init_15 rfl (by decide) (by omega) (fun ca haca hkca h0ca => ?_)
  have ne1 := Rd.ne (Rd.h (up_self)) haca hkca
  have ne2 := Rd.ne (Rd.h ((up_ne (Ne.symm ne0)).trans (up_self))) haca hkca
  refine g_putF ok ck_X12 1 q1482 rfl (by decide) rfl rfl rfl dX12_init_17 ((up_ne ne1).trans (up_self)) (dl rfl) rfl rfl (fs1 := [.ref na, .ref ca]) rfl (?_)
  refine g_vret ok fn rfl dX12_init_20 ⟨rfl, na, ca, hana, hkna, up_none (up_none haca), hkca, Ne.symm ne0, Ne.symm ne1, ne2, ?_⟩ (by omega)
  funext z; by_cases z1 : z = b
  · subst z1; rw [up_self, up_self]
  · simp only [up_ne z1]; by_cases z2 : z = ca
    · subst z2; simp only [up_self]
    · simp only [up_ne z2, up_ne z1]
theorem x_version (l : Launch) (G : GE) (h : AH) (P : Nat → Prop) (a : Nat) (R : Nat → Int32) (rt cl nl vl : Nat) (i3 i4 i5 i0 i6 i7 : Int32) (q0 : RQ G h P a R rt cl [.ref nl, .ref vl, .int i3, .int i4, .int i5, .int i0, .int i6, .int i7]) : GM l G yX2_version (ws_ yX2_version cX2_version 3 (some (.object "SpanRuler$Version"))) 12 [.ref a] (h) (1610) (PR fun u h' => ∃ b na ca fn fc, u = .ref b ∧ h b = none ∧ h na = none ∧ h ca = none ∧ h' b = some (ob 8 [.ref na, .ref ca]) ∧ h' na = some (aI G 32 fn) ∧ h' ca = some (aI G 32 fc) ∧ (∀ c, c < 32 → fn c = R (8 + c) ∧ fc c = R (40 + c)) ∧ RQ G h' P a R rt cl [.ref nl, .ref vl, .int i3, .int i4, .int i5, .int i0, .int i6, .int i7] ∧ Chg P 0 32 h h') := by
  refine GM.of (by decide) (dk rfl) ?_
  intro X eL eG eh ok fn
  subst eL; subst eG
  show GW X _ 0 0 [some (.ref a), none, none] []
  obtain ⟨ra1, rT1, cf1, rc1, rf1⟩ := id q0
  have rc0 := rc1
  refine g_new ok ck_X12 q911 q1474 q99 dX2_version_0 (fs := [.null, .null]) (by intro j hj; rcases (by omega : j = 0 ∨ j = 1) with rfl | rfl <;> rfl) (by omega) (fun b hab hkb h0b => ?_)
  have ne0 := Rd.ne (Rd.h (ra1)) hab hkb
  have ne1 := Rd.ne (Rd.h (rc1)) hab hkb
  refine g_dup ok dX2_version_3 rfl ?_
  refine g_callIN ok q1475 q1476 q99 q1477 rfl dX2_version_4 (x_vinit X.l X.G _ b up_self) (nm_ (by decide : nmb _ 0 = true)) (dl rfl) (dk rfl) rfl rfl (dk rfl) (by omega) (kQ fun h2 ⟨na, ca, v1, v2, v3, v4, v5, v6, v7, v8⟩ => ?_) xQ
  subst v8
  have n1 : h na = none := up_none v1
  have n2 : h ca = none := up_none v3
  refine g_astore_n ok dX2_version_7 (ls1 := [some (.ref a), some (.ref b), none]) (dl rfl) rfl ?_
  refine g_iconst ok (v := 0) dX2_version_8 rfl ?_
  refine g_istore_n ok dX2_version_9 (ls1 := [some (.ref a), some (.ref b), some (.int 0)]) (dl rfl) rfl ?_
  have cb : ∀ q y, h q = some y → q ≠ b := fun q y p z => by subst z; rw [hab] at p; cases p
  have cna : ∀ q y, h q = some y → q ≠ na := fun q y p z => by subst z; rw [n1] at p; cases p
  have cca : ∀ q y, h q = some y → q ≠ ca := fun q y p z => by subst z; rw [n2] at p; cases p
  have qv : RQ X.G (up (up (up (up h b (ob 8 [.null, .null])) na (aI X.G 32 (fun _ => 0))) ca (aI X.G 32 (fun _ => 0))) b (ob 8 [.ref na, .ref ca])) P a R rt cl [.ref nl, .ref vl, .int i3, .int i4, .int i5, .int i0, .int i6, .int i7] := by
    refine RQ.upX (e0 := ob 8 [.null, .null]) (RQ.upN (RQ.upN (RQ.upN q0 hab) v1) ?_) ?_ (Or.inr ⟨8, _, rfl, by decide⟩) (cb _ _ rc0)
    · rw [up_ne (Ne.symm v7)]; exact v3
    · rw [up_ne (Ne.symm v6), up_ne (Ne.symm v5)]; exact up_self
  have cv : Chg P 0 32 h (up (up (up (up h b (ob 8 [.null, .null])) na (aI X.G 32 (fun _ => 0))) ca (aI X.G 32 (fun _ => 0))) b (ob 8 [.ref na, .ref ca])) := (((Chg.new hab).fresh n1).fresh n2).fresh hab
  have hv1 : (up (up (up (up h b (ob 8 [.null, .null])) na (aI X.G 32 (fun _ => 0))) ca (aI X.G 32 (fun _ => 0))) b (ob 8 [.ref na, .ref ca])) b = some (ob 8 [.ref na, .ref ca]) := up_self
  have hv2 : (up (up (up (up h b (ob 8 [.null, .null])) na (aI X.G 32 (fun _ => 0))) ca (aI X.G 32 (fun _ => 0))) b (ob 8 [.ref na, .ref ca])) na = some (aI X.G 32 (fun _ => 0)) := (up_ne v5).trans ((up_ne v7).trans up_self)
  have hv3 : (up (up (up (up h b (ob 8 [.null, .null])) na (aI X.G 32 (fun _ => 0))) ca (aI X.G 32 (fun _ => 0))) b (ob 8 [.ref na, .ref ca])) ca = some (aI X.G 32 (fun _ => 0)) := (up_ne v6).trans up_self
  generalize (up (up (up (up h b (ob 8 [.null, .null])) na (aI X.G 32 (fun _ => 0))) ca (aI X.G 32 (fun _ => 0))) b (ob 8 [.ref na, .ref ca])) = HV at *
  have lp : ∀ (n : Nat) (c : Nat) (f : Nat → Int32) (g : Nat → Int32) (Hlp : AH) (klp : Nat), (c + n = 32) → (Hlp b = some (ob 8 [.ref na, .ref ca])) → (Hlp na = some (aI X.G 32 f)) → (Hlp ca = some (aI X.G 32 g)) → (∀ r, r < c → f r = R (8 + r) ∧ g r = R (40 + r)) → (RQ X.G Hlp P a R rt cl [.ref nl, .ref vl, .int i3, .int i4, .int i5, .int i0, .int i6, .int i7]) → (Chg P 0 32 h Hlp) → (klp + 48 * n ≤ 1610) → GW X Hlp klp 10 [some (.ref a), some (.ref b), some (.int (nI c))] [] := by
    intro n
    induction n with
    | zero => 
      intro c f g Hlp klp lph0 lph1 lph2 lph3 lph4 qlp glp blp
      obtain ⟨ra2, rT2, cf2, rc2, rf2⟩ := id qlp
      refine g_iload_n ok dX2_version_10 rfl ?_
      refine g_bipush ok (v := 32) dX2_version_11 rfl ?_
      refine g_icmp_ge ok (tgt := 45) dX2_version_13 (by decide) (fun _ => ?_) (fun c_ => absurd (nI_le (a := 32) (b := c) (by omega) (by omega)) c_)
      refine g_aload_n ok dX2_version_45 rfl ?_
      exact g_aret ok fn rfl (Or.inl ⟨_, rfl⟩) (Or.inr ⟨_, rfl⟩) dX2_version_46 ⟨_, rfl, b, na, ca, f, g, rfl, hab, n1, n2, lph1, lph2, lph3, fun c hc => lph4 c (by omega), qlp, glp⟩ (by omega)
    | succ n ih => 
      intro c f g Hlp klp lph0 lph1 lph2 lph3 lph4 qlp glp blp
      obtain ⟨ra2, rT2, cf2, rc2, rf2⟩ := id qlp
      refine g_iload_n ok dX2_version_10 rfl ?_
      refine g_bipush ok (v := 32) dX2_version_11 rfl ?_
      refine g_icmp_ge ok (tgt := 45) dX2_version_13 (by decide) (fun c_ => absurd c_ (nI_ge (a := c) (b := 32) (by omega) (by omega))) (fun _ => ?_)
      refine g_aload_n ok dX2_version_16 rfl ?_
      refine g_getN ok ck_X12 0 q1480 rfl (by decide) dX2_version_17 (Rd.h (lph1)) rfl ?_
      refine g_iload_n ok dX2_version_20 rfl ?_
      refine g_aload_n ok dX2_version_21 rfl ?_
      refine g_iload_n ok dX2_version_22 rfl ?_
      refine g_callV ok q1065 q1066 q1067 q62 q1068 (Recv.ob ok gc_X2 (Rd.h (ra2))) dX2_version_23 (x_number X.l X.G _ P a R rt cl nl vl i3 i4 i5 i0 i6 i7 qlp c (by omega)) (nm_ (by decide : nmb _ 1 = true)) (dl rfl) (dk rfl) rfl rfl (dk rfl) (by omega) (kR fun u1_ h1_ ⟨e1_, q1_, g1_⟩ => ?_) xR
      subst e1_
      obtain ⟨ra3, rT3, cf3, rc3, rf3⟩ := id q1_
      refine g_iast ok (j := c) dX2_version_26 (Chg.arr g1_ lph2) rfl (by omega) (by omega) ?_
      refine g_aload_n ok dX2_version_27 rfl ?_
      refine g_getN ok ck_X12 1 q1483 rfl (by decide) dX2_version_28 (Rd.up (Rd.h (Chg.other g1_ lph1 ⟨by decide, by decide⟩)) (Ne.symm v5)) rfl ?_
      refine g_iload_n ok dX2_version_31 rfl ?_
      refine g_aload_n ok dX2_version_32 rfl ?_
      refine g_get ok ck_X2 1 q244 (Or.inl rfl) (by decide) dX2_version_33 (Rd.h ((up_ne (cna _ _ ra1)).trans (ra3))) rfl ?_
      refine g_iload_n ok dX2_version_36 rfl ?_
      refine g_iald ok (j := c) dX2_version_37 (Rd.h ((up_ne (cna _ _ rc1)).trans (rc3))) rfl (by omega) (by omega) ?_
      rw [rf3 c (by omega)]
      refine g_iast ok (j := c) dX2_version_38 ((up_ne (Ne.symm v7)).trans (Chg.arr g1_ lph3)) rfl (by omega) (by omega) ?_
      refine g_iincN ok dX2_version_39 (c := c) rfl rfl (ls1 := [some (.ref a), some (.ref b), some (.int (nI (c + 1)))]) rfl ?_
      refine g_goto ok dX2_version_42 (tgt := 10) (by decide) ?_
      refine ih (c + 1) (upd f c (R (8 + c))) (upd g c (R (40 + c))) _ _ (by omega) ((up_ne (Ne.symm v6)).trans ((up_ne (Ne.symm v5)).trans (Chg.other g1_ lph1 ⟨by decide, by decide⟩))) ((up_ne v7).trans up_self) up_self (fun r hr => ?_) (RQ.upX (e0 := _) (RQ.upX q1_ (Chg.arr g1_ lph2) (Or.inl ⟨_, rfl⟩) (cna _ _ rc0)) ((up_ne (Ne.symm v7)).trans (Chg.arr g1_ lph3)) (Or.inl ⟨_, rfl⟩) (cca _ _ rc0)) ((((glp).trans g1_).fresh n1).fresh n2) (by omega)
      by_cases e : r = c
      · subst e; rw [upd_at, upd_at]; exact ⟨rfl, rfl⟩
      · rw [upd_ne e, upd_ne e]; exact lph4 r (by omega)
  exact lp 32 0 _ _ _ _ (by omega) hv1 hv2 hv3 (fun r hr => absurd hr (Nat.not_lt_zero r)) qv cv (by omega)
