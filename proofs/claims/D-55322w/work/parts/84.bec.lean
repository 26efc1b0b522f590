/-! the SpanRuler changes: become -/
set_option maxRecDepth 100000
abbrev cX1_become : ByteArray := prog_1_method_17_code
def yX1_become : MethodName := ⟨RX1, "become", "(LSpanRuler$Ruler;I)I"⟩
def dkwX1_become_1 : List UInt8 := [180, 0, 133, 42, 180, 0, 126, 182, 0, 156, 87, 42, 43, 181, 0, 126, 28, 172]
abbrev dktX1_become_1 : List UInt8 := dkwX1_become_1 ++ []
def dkwX1_become_0 : List UInt8 := [42, 180, 0, 133, 182, 0, 148, 16, 6, 160, 0, 12, 42, 180, 0, 133, 3, 182, 0, 152, 87, 42]
abbrev dktX1_become_0 : List UInt8 := dkwX1_become_0 ++ dktX1_become_1
theorem dksX1_become_0 : cX1_become.data.toList.drop 0 = dktX1_become_0 := by decide +kernel
theorem dksX1_become_1 : cX1_become.data.toList.drop 22 = dktX1_become_1 := dk_seg dksX1_become_0 22 rfl rfl
theorem dX1_become_0 : decode cX1_become 0 = .ok (.aload_n 0, 1) := dk_42 (dk_at dksX1_become_0 0 rfl rfl)
theorem dX1_become_1 : decode cX1_become 1 = .ok (.getfield 133, 3) := dk_180 0 133 (dk_at dksX1_become_0 1 rfl rfl)
theorem dX1_become_4 : decode cX1_become 4 = .ok (.invokevirtual 148, 3) := dk_182 0 148 (dk_at dksX1_become_0 4 rfl rfl)
theorem dX1_become_7 : decode cX1_become 7 = .ok (.bipush 6, 2) := dk_16 6 (dk_at dksX1_become_0 7 rfl rfl)
theorem dX1_become_9 : decode cX1_become 9 = .ok (.if_icmp .ne 12, 3) := dk_160 0 12 (dk_at dksX1_become_0 9 rfl rfl)
theorem dX1_become_12 : decode cX1_become 12 = .ok (.aload_n 0, 1) := dk_42 (dk_at dksX1_become_0 12 rfl rfl)
theorem dX1_become_13 : decode cX1_become 13 = .ok (.getfield 133, 3) := dk_180 0 133 (dk_at dksX1_become_0 13 rfl rfl)
theorem dX1_become_16 : decode cX1_become 16 = .ok (.iconst 0, 1) := dk_3 (dk_at dksX1_become_0 16 rfl rfl)
theorem dX1_become_17 : decode cX1_become 17 = .ok (.invokevirtual 152, 3) := dk_182 0 152 (dk_at dksX1_become_0 17 rfl rfl)
theorem dX1_become_20 : decode cX1_become 20 = .ok (.pop, 1) := dk_87 (dk_at dksX1_become_0 20 rfl rfl)
theorem dX1_become_21 : decode cX1_become 21 = .ok (.aload_n 0, 1) := dk_42 (dk_at dksX1_become_0 21 rfl rfl)
theorem dX1_become_22 : decode cX1_become 22 = .ok (.getfield 133, 3) := dk_180 0 133 (dk_at dksX1_become_1 0 rfl rfl)
theorem dX1_become_25 : decode cX1_become 25 = .ok (.aload_n 0, 1) := dk_42 (dk_at dksX1_become_1 3 rfl rfl)
theorem dX1_become_26 : decode cX1_become 26 = .ok (.getfield 126, 3) := dk_180 0 126 (dk_at dksX1_become_1 4 rfl rfl)
theorem dX1_become_29 : decode cX1_become 29 = .ok (.invokevirtual 156, 3) := dk_182 0 156 (dk_at dksX1_become_1 7 rfl rfl)
theorem dX1_become_32 : decode cX1_become 32 = .ok (.pop, 1) := dk_87 (dk_at dksX1_become_1 10 rfl rfl)
theorem dX1_become_33 : decode cX1_become 33 = .ok (.aload_n 0, 1) := dk_42 (dk_at dksX1_become_1 11 rfl rfl)
theorem dX1_become_34 : decode cX1_become 34 = .ok (.aload_n 1, 1) := dk_43 (dk_at dksX1_become_1 12 rfl rfl)
theorem dX1_become_35 : decode cX1_become 35 = .ok (.putfield 126, 3) := dk_181 0 126 (dk_at dksX1_become_1 13 rfl rfl)
theorem dX1_become_38 : decode cX1_become 38 = .ok (.iload_n 2, 1) := dk_28 (dk_at dksX1_become_1 16 rfl rfl)
theorem dX1_become_39 : decode cX1_become 39 = .ok (.ireturn, 1) := dk_172 (dk_at dksX1_become_1 17 rfl rfl)
theorem q321 : (Jvm.Cond.fieldLink "SpanRuler" (133 : Nat) "SpanRuler" "history" "Ljava/util/ArrayList;") ∈ lw_all := lw_g (lw_at lw_m2 21 rfl) rfl
theorem q1118 : (Jvm.Cond.methodLink "SpanRuler" (148 : Nat) ({ cls := "java/util/ArrayList", name := "size", desc := "()I" } : Jvm.MethodName)) ∈ lw_all := lw_g (lw_at lw_m5 98 rfl) rfl
theorem q1122 : (Jvm.Cond.methodLink "SpanRuler" (152 : Nat) ({ cls := "java/util/ArrayList", name := "remove", desc := "(I)Ljava/lang/Object;" } : Jvm.MethodName)) ∈ lw_all := lw_g (lw_at lw_m5 102 rfl) rfl
theorem q1131 : (Jvm.Cond.methodLink "SpanRuler" (156 : Nat) ({ cls := "java/util/ArrayList", name := "add", desc := "(Ljava/lang/Object;)Z" } : Jvm.MethodName)) ∈ lw_all := lw_g (lw_at lw_m5 111 rfl) rfl
/-- the model's state when R is the ruler that becomes current -/
def Bec (s : MS) (R : Nat → Int32) (s' : MS) : Prop :=
  (∀ q, q < 442 → R q = s'.A 0 q) ∧ (mU s' = (if mU s = 6 then 6 else mU s + 1) ∧ s'.I 4 = nI (mU s')) ∧
  (∀ k, k + 1 < mU s' → ∀ q, q < 442 → s.A 3 (442 * (if mU s = 6 then k + 1 else k) + q) = s'.A 3 (442 * k + q)) ∧
  (∀ q, q < 442 → s.A 0 q = s'.A 3 (442 * (mU s' - 1) + q)) ∧ (∀ q, q < 442 → s.A 5 q = s'.A 5 q) ∧
  s'.I 6 = s.I 6 ∧ s'.I 8 = s.I 8 ∧ s'.A 7 = s.A 7 ∧ s'.I 10 = s.I 10 ∧ s'.A 9 = s.A 9 ∧ s'.I 14 = s.I 14 ∧ s'.I 15 = s.I 15 ∧ s'.I 16 = s.I 16
theorem REq.of {R S : Nat → Int32} (hN : rN R ≤ 10) (hV : rV R ≤ 5) (h : ∀ q, q < 442 → R q = S q) : REq R S := ⟨fun q hq => h q (by omega), fun q _ hq => h q (by omega), fun q _ hq => h q (by omega)⟩
theorem RulerAt.inv {G : GE} {h : AH} {P : Nat → Prop} {a : Nat} {R : Nat → Int32} (x : RulerAt G h P a R) : RInv R := by
  obtain ⟨rt, cl, nl, nd, nc, nm, nf, vl, vd, vc, vm, vf, y⟩ := x
  exact y.2.2.2.2.2.1
theorem RulerAt.obj {G : GE} {h : AH} {P : Nat → Prop} {a : Nat} {R : Nat → Int32} (x : RulerAt G h P a R) : ∃ l, h a = some (ob 1 l) := by
  obtain ⟨rt, cl, nl, nd, nc, nm, nf, vl, vd, vc, vm, vf, y⟩ := x
  exact ⟨_, y.1.1⟩
theorem RulerAt.c442 {G : GE} {h : AH} {P : Nat → Prop} {a : Nat} {R S : Nat → Int32} (x : RulerAt G h P a R) (e : ∀ q, q < 442 → R q = S q) : RulerAt G h P a S := x.congr (REq.of x.inv.1.2 x.inv.2.1.2 e)
theorem TkOk.c442 {R S : Nat → Int32} (x : TkOk R) (i : RInv R) (e : ∀ q, q < 442 → R q = S q) : TkOk S := by
  have n1 : rN S = rN R := by unfold rN; rw [e 1 (by omega)]
  have := i.1.2
  intro p hp
  rw [n1] at hp
  rw [← e _ (by omega)]; exact x p hp
/-- lists and fields change outside of the rulers: the rest of the SpanRuler -/
theorem SRx.rest {G : GE} {own : Nat → Nat} {hr h h' : AH} {x : Nat} {s : MS} {ru : Nat} {sv : Value} {hl hd hc : Nat} {hm : Int32} {hf : Nat → Option Nat} {inp ln : Nat} {bt rf : Value} (S : SRx G own hr h x s ru sv hl hd hc hm hf inp ln bt rf) (hE : h (G.ga "E0") = none) (k : KeepA h h' hl hd) :
    KeepAll hr h' ∧ h' x = some (ob 0 [.ref ru, sv, .ref hl, .ref inp, .ref ln, .int (s.I 10), bt, rf]) ∧ SRi G hr h' s inp ∧ SRl G hr h' s ln inp ∧ SRe hr h' s bt rf := by
  obtain ⟨s1, s2, s3, s4, s5, s6, s7, s8, s9, s10, s11, s12⟩ := S
  have mo : ∀ q ci l, h q = some (ob ci l) → ci ≠ 12 → h' q = some (ob ci l) := fun q ci l w n => al_neo s6 hE k w n
  have ma : ∀ q n (f : Nat → Int32) i, h q = some (.inl (G.2.1 i, n, .inl f)) → h' q = some (.inl (G.2.1 i, n, .inl f)) := fun q n f i w => k q _ (fun e => by rw [e, s6.1] at w; cases w) (fun e => by
    rcases s6.2.1 with v | v
    · rw [e, v.2.1, hE] at w; cases w
    · rw [e, v.2] at w
      have := (Prod.mk.inj (Prod.mk.inj (Sum.inl.inj (Option.some.inj w))).2).2
      cases this) w
  refine ⟨fun q e w => ?_, mo _ _ _ s3 (by decide), s10.mv (fun q n f w => ma q n f 1 w), s11.mv (fun q l w => mo q 14 l w (by decide)) (fun q n f _ w => ma q n f 2 w), s12.mv (fun q ci l w z => mo q ci l w (by omega))⟩
  refine k q e (fun z => by rw [z, s4] at w; cases w) (fun z => ?_) (s1 q e w)
  rcases s6.2.1 with v | v
  · have := s1 q e w
    rw [z, v.2.1, hE] at this; cases this
  · rcases s5 with u | u
    · omega
    · rw [z, u] at w; cases w
theorem SRx.become {G : GE} {own : Nat → Nat} {hr h h' : AH} {x : Nat} {s s' : MS} {ru : Nat} {sv : Value} {hl hd hc : Nat} {hm : Int32} {hf : Nat → Option Nat} {inp ln : Nat} {bt rf : Value} (S : SRx G own hr h x s ru sv hl hd hc hm hf inp ln bt rf) (hE : h (G.ga "E0") = none) (k : KeepA h h' hl hd)
    {c : Nat} {R : Nat → Int32} (yc : RulerAt G hr (fun q => own q = c) c R) (tk : TkOk R) (nc : c ≠ ru) (nf : ∀ j, j < mU s → hf j ≠ some c) (nv : sv ≠ .ref c) {hd' hc' : Nat} {hm' : Int32} {g : Nat → Option Nat} (B : Bec s R s')
    (al : AL G h' hl hd' hc' (mU s') hm' g) (hd2 : hc' = 0 ∨ hr hd' = none) (hc2 : hc' < 60) (g1 : g (mU s' - 1) = some ru) (g2 : ∀ j, j + 1 < mU s' → g j = hf (if mU s = 6 then j + 1 else j)) :
    SRAt G (up h' x (ob 0 [.ref c, sv, .ref hl, .ref inp, .ref ln, .int (s.I 10), bt, rf])) x s' := by
  obtain ⟨r1, r2, r3, r4, r5⟩ := S.rest hE k
  obtain ⟨s1, s2, s3, s4, s5, s6, s7, s8, ⟨t1, t2, t3, t4⟩, s10, s11, s12⟩ := S
  obtain ⟨b0, ⟨b1, b2⟩, b3, b4, b5, b6, b7, b8, b9, b10, b11, b12, b13⟩ := B
  have u6 := s8.2
  have mo : ∀ q ci l, h' q = some (ob ci l) → ci ≠ 0 → up h' x (ob 0 [.ref c, sv, .ref hl, .ref inp, .ref ln, .int (s.I 10), bt, rf]) q = some (ob ci l) := fun q ci l w n => (up_ne (ob_ne r2 w (Ne.symm n))).trans w
  have mr : ∀ q y, h' q = some (.inl y) → up h' x (ob 0 [.ref c, sv, .ref hl, .ref inp, .ref ln, .int (s.I 10), bt, rf]) q = some (.inl y) := fun q y w => (up_ne (ob_na r2 w)).trans w
  have hidx : ∀ j, j + 1 < mU s' → (if mU s = 6 then j + 1 else j) < mU s := fun j hj => by
    by_cases e : mU s = 6
    · rw [if_pos e] at b1 ⊢; omega
    · rw [if_neg e] at b1 ⊢; omega
  refine ⟨own, hr, c, sv, hl, hd', hc', hm', g, inp, ln, bt, rf, r1.put s2, s2, ?_, s4, hd2, al.mv (fun q l w => mo q 12 l w (by decide)) (fun q n f w => mr q _ w), hc2, ⟨b2, ?_⟩, ⟨⟨yc.c442 b0, tk.c442 yc.inv b0⟩, fun j hj => ?_, fun i j hij hj => ?_, ?_⟩, (r3.mv (fun q n f w => mr q _ w)).congr b10 b9, (r4.mv (fun q l w => mo q 14 l w (by decide)) (fun q n f _ w => mr q _ w)).congr b8 b7, (r5.mv (fun q ci l w z => mo q ci l w (by omega))).congr b11 b12 b13⟩
  · rw [up_self, b9]
  · by_cases e : mU s = 6
    · rw [if_pos e] at b1; omega
    · rw [if_neg e] at b1; omega
  · by_cases e : j + 1 < mU s'
    · obtain ⟨a, a1, a2, a3, a4⟩ := t2 _ (hidx j e)
      exact ⟨a, by rw [g2 j e]; exact a1, fun z => nf _ (hidx j e) (by rw [a1, z]), a3.c442 (b3 j e), a4.c442 a3.inv (b3 j e)⟩
    · have ej : j = mU s' - 1 := by omega
      subst ej
      exact ⟨ru, g1, Ne.symm nc, t1.1.c442 b4, t1.2.c442 t1.1.inv b4⟩
  · by_cases e : j + 1 < mU s'
    · rw [g2 i (by omega), g2 j e]
      refine t3 _ _ ?_ (hidx j e)
      by_cases e6 : mU s = 6
      · rw [if_pos e6, if_pos e6]; omega
      · rw [if_neg e6, if_neg e6]; omega
    · have ej : j = mU s' - 1 := by omega
      subst ej
      rw [g1, g2 i (by omega)]
      obtain ⟨a, a1, a2, -⟩ := t2 _ (hidx i (by omega))
      rw [a1]; exact fun z => a2 (Option.some.inj z)
  · rcases t4 with ⟨a1, a2⟩ | ⟨a, a1, a2, a3, a4, a5, a6⟩
    · exact Or.inl ⟨a1, by rw [b6]; exact a2⟩
    · refine Or.inr ⟨a, a1, by rw [b6]; exact a2, fun z => nv (by rw [a1, z]), fun j hj => ?_, a5.c442 b5, a6.c442 a5.inv b5⟩
      by_cases e : j + 1 < mU s'
      · rw [g2 j e]; exact a4 _ (hidx j e)
      · have ej : j = mU s' - 1 := by omega
        subst ej
        rw [g1]; exact fun z => a3 (Option.some.inj z).symm
/-- a copy stands beside -/
theorem SRx.copied {G : GE} {own : Nat → Nat} {hr hr2 h h2 : AH} {x : Nat} {s : MS} {ru : Nat} {sv : Value} {hl hd hc : Nat} {hm : Int32} {hf : Nat → Option Nat} {inp ln : Nat} {bt rf : Value} (S : SRx G own hr h x s ru sv hl hd hc hm hf inp ln bt rf) {c : Nat} {R : Nat → Int32} (m : RulerM G hr hr2 c R) (k2 : KeepAll hr2 h2) (o : ∀ q e, hr q = none → h q = some e → hr2 q = none ∧ h2 q = some e) :
    ∃ own', SRx G own' hr2 h2 x s ru sv hl hd hc hm hf inp ln bt rf ∧ RulerAt G hr2 (fun q => own' q = c) c R ∧ c ≠ ru ∧ (∀ j, j < mU s → hf j ≠ some c) ∧ sv ≠ .ref c := by
  obtain ⟨t1, t2, t3, t4⟩ := S.2.2.2.2.2.2.2.2.1
  have kk := m.keep
  have c0 : hr c = none := by
    obtain ⟨rt, cl, nl, nd, nc, nm, nf, vl, vd, vc, vm, vf, y, z⟩ := m
    exact z.2.1
  have ne : ∀ a l, hr a = some (ob 1 l) → a ≠ c := fun a l w e => by rw [e, c0] at w; cases w
  have up' : ∀ (a : Nat) (T : Nat → Int32), RulerAt G hr (fun q => own q = a) a T → RulerAt G hr2 (fun q => (if hr q = none then c else own q) = a) a T := fun a T w => w.all kk (fun q e n => by
    show (if hr q = none then c else own q) = a
    rw [if_neg n]; exact e)
  refine ⟨fun q => if hr q = none then c else own q, S.move k2 o ⟨⟨up' _ _ t1.1, t1.2⟩, fun j hj => ?_, t3, ?_⟩, ?_, ?_, fun j hj => ?_, ?_⟩
  · obtain ⟨a, a1, a2, a3, a4⟩ := t2 j hj
    exact ⟨a, a1, a2, up' _ _ a3, a4⟩
  · rcases t4 with a | ⟨a, a1, a2, a3, a4, a5, a6⟩
    · exact Or.inl a
    · exact Or.inr ⟨a, a1, a2, a3, a4, up' _ _ a5, a6⟩
  · obtain ⟨rt, cl, nl, nd, nc, nm, nf, vl, vd, vc, vm, vf, y, z⟩ := m
    exact ⟨rt, cl, nl, nd, nc, nm, nf, vl, vd, vc, vm, vf, y.kp (fun q ci l w _ => w) (fun q y w => w) (TreeAt.mono (fun q w _ => if_pos w) _ _ _ _ y.1.2.1)⟩
  · obtain ⟨l, w⟩ := t1.1.obj
    exact Ne.symm (ne _ _ w)
  · obtain ⟨a, a1, a2, a3, a4⟩ := t2 j hj
    obtain ⟨l, w⟩ := a3.obj
    rw [a1]; exact fun z => ne _ _ w (Option.some.inj z)
  · rcases t4 with ⟨a, -⟩ | ⟨a, a1, a2, a3, a4, a5, a6⟩
    · rw [a]; exact fun z => nomatch z
    · obtain ⟨l, w⟩ := a5.obj
      rw [a1]; exact fun z => by cases z; exact ne _ _ w rfl
theorem els_hist {G : GE} {own : Nat → Nat} {hr h : AH} {x : Nat} {s : MS} {ru : Nat} {sv : Value} {hl hd hc : Nat} {hm : Int32} {hf : Nat → Option Nat} {inp ln : Nat} {bt rf : Value} (S : SRx G own hr h x s ru sv hl hd hc hm hf inp ln bt rf) : Els G h hf (mU s) := fun j hj y hy => by
  obtain ⟨a, a1, a2, a3, a4⟩ := S.2.2.2.2.2.2.2.2.1.2.1 j hj
  obtain ⟨l, w⟩ := a3.obj
  rw [hy] at a1; cases a1
  exact ⟨1, l, by decide, Rd.h (S.1 _ _ w)⟩
theorem KeepA.trans {h h1 h2 : AH} {a d : Nat} (k : KeepA h h1 a d) (m : KeepA h1 h2 a d) : KeepA h h2 a d := fun q y n1 n2 w => m q y n1 n2 (k q y n1 n2 w)
theorem KeepA.refl (h : AH) (a d : Nat) : KeepA h h a d := fun q y _ _ w => w
theorem hist_d {G : GE} {hr h H : AH} {hl hd hc n d' : Nat} {hm : Int32} {hf : Nat → Option Nat} (k : KeepAll hr h) (kH : KeepAll hr H) (hE : h (G.ga "E0") = none) (al : AL G h hl hd hc n hm hf) (s5 : hc = 0 ∨ hr hd = none) (e : d' = hd ∨ (H d' = none ∧ G.kh d' = none)) : hr d' = none := by
  rcases e with e | e
  · rw [e]
    rcases s5 with a | a
    · rcases al.2.1 with v | v
      · rw [v.2.1]; exact k.nn0 hE
      · omega
    · exact a
  · exact kH.nn0 e.1
theorem s_become (l : Launch) (G : GE) (h : AH) (x : Nat) (own : Nat → Nat) (hr : AH) (s : MS) (ru : Nat) (sv : Value) (hl hd hc : Nat) (hm : Int32) (hf : Nat → Option Nat) (inp ln : Nat) (bt rf : Value) (S : SRx G own hr h x s ru sv hl hd hc hm hf inp ln bt rf) (c : Nat) (R : Nat → Int32) (yc : RulerAt G hr (fun q => own q = c) c R) (tk : TkOk R) (nc : c ≠ ru) (nf : ∀ j, j < mU s → hf j ≠ some c) (nv : sv ≠ .ref c) (v : Int32) : GM l G yX1_become (ws_ yX1_become cX1_become 3 (some .int)) 8 [.ref x, .ref c, .int v] (h) (140) (PR fun u h' => u = .int v ∧ ∀ s', Bec s R s' → SRAt G h' x s') := by
  refine GM.of (by decide) (dk rfl) ?_
  intro X eL eG eh ok fn
  subst eL; subst eG
  show GW X _ 0 0 [some (.ref x), some (.ref c), some (.int v)] []
  have s3 := S.2.2.1
  have s6 := S.2.2.2.2.2.1
  have s7 := S.2.2.2.2.2.2.1
  have s8 := S.2.2.2.2.2.2.2.1
  have u6 := s8.2
  obtain ⟨lr, hru⟩ := S.2.2.2.2.2.2.2.2.1.1.1.obj
  refine g_khn (ok.tab.kst.2.1) (fun hE => ?_)
  refine g_aload_n ok dX1_become_0 rfl ?_
  refine g_get ok ck_X1 2 q321 (Or.inl rfl) (by decide) dX1_become_1 (Rd.h (s3)) rfl ?_
  refine g_callV ok q1118 q1119 q1120 q70 q1121 (Recv.ob ok gc_J2 (Rd.h s6.1)) dX1_become_4 (al_size X.l X.G _ hl hd hc (mU s) hm hf s6) (nm_ (by decide : nmb _ 0 = true)) (dl rfl) (dk rfl) rfl rfl (dk rfl) (by omega) (kV ?_) xV
  refine g_bipush ok (v := 6) dX1_become_7 rfl ?_
  by_cases m6 : mU s = 6
  · rw [m6]
    refine g_icmp_ne ok (tgt := 21) dX1_become_9 (by decide) (fun c_ => absurd rfl c_) (fun _ => ?_)
    obtain ⟨a0, a1, a2, a3, a4⟩ := S.2.2.2.2.2.2.2.2.1.2.1 0 (by omega)
    obtain ⟨l0, ha0⟩ := a3.obj
    refine g_aload_n ok dX1_become_12 rfl ?_
    refine g_get ok ck_X1 2 q321 (Or.inl rfl) (by decide) dX1_become_13 (Rd.h (s3)) rfl ?_
    refine g_iconst ok (v := 0) dX1_become_16 rfl ?_
    refine g_callV ok q1122 q1123 q1124 q70 q1125 (Recv.ob ok gc_J2 (Rd.h s6.1)) dX1_become_17 (al_remove X.l X.G _ hl hd hc (mU s) hm hf s6 0 (by omega) (els_hist S) a0 a1) (nm_ (by decide : nmb _ 1 = true)) (dl rfl) (dk rfl) rfl rfl (dk rfl) (by omega) (kR fun u7 h7 ⟨e7, k7⟩ => ?_) xR
    subst e7; obtain ⟨g1, al1, gg1, kA1⟩ := k7
    obtain ⟨r1, r2, -, -, -⟩ := S.rest hE kA1
    refine g_khn (ok.tab.kst.2.1) (fun hE7 => ?_)
    have el1 : Els X.G h7 g1 (mU s - 1) := fun j hj y hy => by
      rw [gg1 j hj, if_neg (Nat.not_lt_zero j)] at hy; obtain ⟨b, b1, b2, b3, b4⟩ := S.2.2.2.2.2.2.2.2.1.2.1 (j + 1) (by omega); obtain ⟨lb, hb⟩ := b3.obj; rw [hy] at b1; cases b1; exact ⟨1, lb, by decide, Rd.h (r1 _ _ hb)⟩
    refine g_pop ok dX1_become_20 rfl ?_
    refine g_aload_n ok dX1_become_21 rfl ?_
    refine g_get ok ck_X1 2 q321 (Or.inl rfl) (by decide) dX1_become_22 (Rd.h (r2)) rfl ?_
    refine g_aload_n ok dX1_become_25 rfl ?_
    refine g_get ok ck_X1 0 q319 (Or.inl rfl) (by decide) dX1_become_26 (Rd.h (r2)) rfl ?_
    refine g_callV ok q1131 q849 q850 q70 q851 (Recv.ob ok gc_J2 (Rd.h al1.1)) dX1_become_29 (al_add X.l X.G _ hl hd hc (mU s - 1) (hm + 1) g1 al1 ru 1 _ _ gc_X2 (by decide) (Rd.h (r1 _ _ hru)) (by omega) el1 (fun z_ => by have w_ := al1.1; rw [← z_, r1 _ _ hru] at w_; cases w_)) (nm_ (by decide : nmb _ 1 = true)) (dl rfl) (dk rfl) rfl rfl (dk rfl) (by omega) (kR fun u8 h8 ⟨e8, k8⟩ => ?_) xR
    subst e8; obtain ⟨d8, c8, g8, t1, t2, t2b, t3, t4, t5⟩ := k8
    have kA8 := kA1.trans t3
    obtain ⟨w1, w2, -, -, -⟩ := S.rest hE kA8
    have d0 := hist_d S.1 r1 hE s6 S.2.2.2.2.1 t4
    have c60 := al_cap al1 hE7 t5
    refine g_pop ok dX1_become_32 rfl ?_
    refine g_aload_n ok dX1_become_33 rfl ?_
    refine g_aload_n ok dX1_become_34 rfl ?_
    refine g_put ok ck_X1 0 q319 (Or.inl rfl) (by decide) rfl dX1_become_35 (w2) (dl rfl) rfl rfl (fs1 := [.ref c, sv, .ref hl, .ref inp, .ref ln, .int (s.I 10), bt, rf]) rfl (?_)
    refine g_iload_n ok dX1_become_38 rfl ?_
    refine g_iret ok fn rfl dX1_become_39 ⟨_, rfl, rfl, fun s' B => ?_⟩ (by omega)
    have b1 := B.2.1.1
    rw [if_pos m6] at b1
    have eu : mU s' = mU s - 1 + 1 := by omega
    refine SRx.become S hE kA8 yc tk nc nf nv B (by rw [eu]; exact t1) (Or.inr d0) (by omega) (by rw [eu]; exact t2) (fun j hj => ?_)
    rw [if_pos m6, t2b j (by omega), gg1 j (by omega), if_neg (Nat.not_lt_zero j)]
  · refine g_icmp_ne ok (tgt := 21) dX1_become_9 (by decide) (fun _ => ?_) (fun c_ => absurd (nI_is (m := 6) c_ (by omega) (by omega)) m6)
    have kA1 := KeepA.refl h hl hd
    refine g_aload_n ok dX1_become_21 rfl ?_
    refine g_get ok ck_X1 2 q321 (Or.inl rfl) (by decide) dX1_become_22 (Rd.h (s3)) rfl ?_
    refine g_aload_n ok dX1_become_25 rfl ?_
    refine g_get ok ck_X1 0 q319 (Or.inl rfl) (by decide) dX1_become_26 (Rd.h (s3)) rfl ?_
    refine g_callV ok q1131 q849 q850 q70 q851 (Recv.ob ok gc_J2 (Rd.h s6.1)) dX1_become_29 (al_add X.l X.G _ hl hd hc (mU s) hm hf s6 ru 1 _ _ gc_X2 (by decide) (Rd.h (S.1 _ _ hru)) (by omega) (els_hist S) (fun z_ => by have w_ := s6.1; rw [← z_, S.1 _ _ hru] at w_; cases w_)) (nm_ (by decide : nmb _ 1 = true)) (dl rfl) (dk rfl) rfl rfl (dk rfl) (by omega) (kR fun u8 h8 ⟨e8, k8⟩ => ?_) xR
    subst e8; obtain ⟨d8, c8, g8, t1, t2, t2b, t3, t4, t5⟩ := k8
    have kA8 := kA1.trans t3
    obtain ⟨w1, w2, -, -, -⟩ := S.rest hE kA8
    have d0 := hist_d S.1 S.1 hE s6 S.2.2.2.2.1 t4
    have c60 := al_cap s6 hE t5
    refine g_pop ok dX1_become_32 rfl ?_
    refine g_aload_n ok dX1_become_33 rfl ?_
    refine g_aload_n ok dX1_become_34 rfl ?_
    refine g_put ok ck_X1 0 q319 (Or.inl rfl) (by decide) rfl dX1_become_35 (w2) (dl rfl) rfl rfl (fs1 := [.ref c, sv, .ref hl, .ref inp, .ref ln, .int (s.I 10), bt, rf]) rfl (?_)
    refine g_iload_n ok dX1_become_38 rfl ?_
    refine g_iret ok fn rfl dX1_become_39 ⟨_, rfl, rfl, fun s' B => ?_⟩ (by omega)
    have b1 := B.2.1.1
    rw [if_neg m6] at b1
    refine SRx.become S hE kA8 yc tk nc nf nv B (by rw [b1]; exact t1) (Or.inr d0) (by omega) (by rw [b1]; exact t2) (fun j hj => ?_)
    rw [if_neg m6]; exact t2b j (by omega)
