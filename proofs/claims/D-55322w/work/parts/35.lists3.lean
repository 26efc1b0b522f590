/-! THE JDK's lists, 3 -/
set_option maxRecDepth 100000
abbrev cJ2_grow : ByteArray := prog_52_method_7_code
def yJ2_grow : MethodName := ⟨RJ2, "grow", "()[Ljava/lang/Object;"⟩
def dkwJ2_grow_0 : List UInt8 := [42, 42, 180, 0, 48, 4, 96, 182, 0, 69, 176]
abbrev dktJ2_grow_0 : List UInt8 := dkwJ2_grow_0 ++ []
theorem dksJ2_grow_0 : cJ2_grow.data.toList.drop 0 = dktJ2_grow_0 := by decide +kernel
theorem dJ2_grow_0 : decode cJ2_grow 0 = .ok (.aload_n 0, 1) := dk_42 (dk_at dksJ2_grow_0 0 rfl rfl)
theorem dJ2_grow_1 : decode cJ2_grow 1 = .ok (.aload_n 0, 1) := dk_42 (dk_at dksJ2_grow_0 1 rfl rfl)
theorem dJ2_grow_2 : decode cJ2_grow 2 = .ok (.getfield 48, 3) := dk_180 0 48 (dk_at dksJ2_grow_0 2 rfl rfl)
theorem dJ2_grow_5 : decode cJ2_grow 5 = .ok (.iconst 1, 1) := dk_4 (dk_at dksJ2_grow_0 5 rfl rfl)
theorem dJ2_grow_6 : decode cJ2_grow 6 = .ok (.iadd, 1) := dk_96 (dk_at dksJ2_grow_0 6 rfl rfl)
theorem dJ2_grow_7 : decode cJ2_grow 7 = .ok (.invokevirtual 69, 3) := dk_182 0 69 (dk_at dksJ2_grow_0 7 rfl rfl)
theorem dJ2_grow_10 : decode cJ2_grow 10 = .ok (.areturn, 1) := dk_176 (dk_at dksJ2_grow_0 10 rfl rfl)
abbrev cJ2_add_2 : ByteArray := prog_52_method_24_code
def yJ2_add_2 : MethodName := ⟨RJ2, "add", "(Ljava/lang/Object;[Ljava/lang/Object;I)V"⟩
def dkwJ2_add_2_0 : List UInt8 := [29, 44, 190, 160, 0, 8, 42, 182, 0, 129, 77, 44, 29, 43, 83, 42, 29, 4, 96, 181, 0, 48, 177]
abbrev dktJ2_add_2_0 : List UInt8 := dkwJ2_add_2_0 ++ []
theorem dksJ2_add_2_0 : cJ2_add_2.data.toList.drop 0 = dktJ2_add_2_0 := by decide +kernel
theorem dJ2_add_2_0 : decode cJ2_add_2 0 = .ok (.iload_n 3, 1) := dk_29 (dk_at dksJ2_add_2_0 0 rfl rfl)
theorem dJ2_add_2_1 : decode cJ2_add_2 1 = .ok (.aload_n 2, 1) := dk_44 (dk_at dksJ2_add_2_0 1 rfl rfl)
theorem dJ2_add_2_2 : decode cJ2_add_2 2 = .ok (.arraylength, 1) := dk_190 (dk_at dksJ2_add_2_0 2 rfl rfl)
theorem dJ2_add_2_3 : decode cJ2_add_2 3 = .ok (.if_icmp .ne 8, 3) := dk_160 0 8 (dk_at dksJ2_add_2_0 3 rfl rfl)
theorem dJ2_add_2_6 : decode cJ2_add_2 6 = .ok (.aload_n 0, 1) := dk_42 (dk_at dksJ2_add_2_0 6 rfl rfl)
theorem dJ2_add_2_7 : decode cJ2_add_2 7 = .ok (.invokevirtual 129, 3) := dk_182 0 129 (dk_at dksJ2_add_2_0 7 rfl rfl)
theorem dJ2_add_2_10 : decode cJ2_add_2 10 = .ok (.astore_n 2, 1) := dk_77 (dk_at dksJ2_add_2_0 10 rfl rfl)
theorem dJ2_add_2_11 : decode cJ2_add_2 11 = .ok (.aload_n 2, 1) := dk_44 (dk_at dksJ2_add_2_0 11 rfl rfl)
theorem dJ2_add_2_12 : decode cJ2_add_2 12 = .ok (.iload_n 3, 1) := dk_29 (dk_at dksJ2_add_2_0 12 rfl rfl)
theorem dJ2_add_2_13 : decode cJ2_add_2 13 = .ok (.aload_n 1, 1) := dk_43 (dk_at dksJ2_add_2_0 13 rfl rfl)
theorem dJ2_add_2_14 : decode cJ2_add_2 14 = .ok (.aastore, 1) := dk_83 (dk_at dksJ2_add_2_0 14 rfl rfl)
theorem dJ2_add_2_15 : decode cJ2_add_2 15 = .ok (.aload_n 0, 1) := dk_42 (dk_at dksJ2_add_2_0 15 rfl rfl)
theorem dJ2_add_2_16 : decode cJ2_add_2 16 = .ok (.iload_n 3, 1) := dk_29 (dk_at dksJ2_add_2_0 16 rfl rfl)
theorem dJ2_add_2_17 : decode cJ2_add_2 17 = .ok (.iconst 1, 1) := dk_4 (dk_at dksJ2_add_2_0 17 rfl rfl)
theorem dJ2_add_2_18 : decode cJ2_add_2 18 = .ok (.iadd, 1) := dk_96 (dk_at dksJ2_add_2_0 18 rfl rfl)
theorem dJ2_add_2_19 : decode cJ2_add_2 19 = .ok (.putfield 48, 3) := dk_181 0 48 (dk_at dksJ2_add_2_0 19 rfl rfl)
theorem dJ2_add_2_22 : decode cJ2_add_2 22 = .ok (.return_, 1) := dk_177 (dk_at dksJ2_add_2_0 22 rfl rfl)
abbrev cJ2_add : ByteArray := prog_52_method_25_code
def yJ2_add : MethodName := ⟨RJ2, "add", "(Ljava/lang/Object;)Z"⟩
def dkwJ2_add_1 : List UInt8 := [172]
abbrev dktJ2_add_1 : List UInt8 := dkwJ2_add_1 ++ []
def dkwJ2_add_0 : List UInt8 := [42, 89, 180, 0, 63, 4, 96, 181, 0, 63, 42, 43, 42, 180, 0, 9, 42, 180, 0, 48, 182, 0, 131, 4]
abbrev dktJ2_add_0 : List UInt8 := dkwJ2_add_0 ++ dktJ2_add_1
theorem dksJ2_add_0 : cJ2_add.data.toList.drop 0 = dktJ2_add_0 := by decide +kernel
theorem dksJ2_add_1 : cJ2_add.data.toList.drop 24 = dktJ2_add_1 := dk_seg dksJ2_add_0 24 rfl rfl
theorem dJ2_add_0 : decode cJ2_add 0 = .ok (.aload_n 0, 1) := dk_42 (dk_at dksJ2_add_0 0 rfl rfl)
theorem dJ2_add_1 : decode cJ2_add 1 = .ok (.dup, 1) := dk_89 (dk_at dksJ2_add_0 1 rfl rfl)
theorem dJ2_add_2 : decode cJ2_add 2 = .ok (.getfield 63, 3) := dk_180 0 63 (dk_at dksJ2_add_0 2 rfl rfl)
theorem dJ2_add_5 : decode cJ2_add 5 = .ok (.iconst 1, 1) := dk_4 (dk_at dksJ2_add_0 5 rfl rfl)
theorem dJ2_add_6 : decode cJ2_add 6 = .ok (.iadd, 1) := dk_96 (dk_at dksJ2_add_0 6 rfl rfl)
theorem dJ2_add_7 : decode cJ2_add 7 = .ok (.putfield 63, 3) := dk_181 0 63 (dk_at dksJ2_add_0 7 rfl rfl)
theorem dJ2_add_10 : decode cJ2_add 10 = .ok (.aload_n 0, 1) := dk_42 (dk_at dksJ2_add_0 10 rfl rfl)
theorem dJ2_add_11 : decode cJ2_add 11 = .ok (.aload_n 1, 1) := dk_43 (dk_at dksJ2_add_0 11 rfl rfl)
theorem dJ2_add_12 : decode cJ2_add 12 = .ok (.aload_n 0, 1) := dk_42 (dk_at dksJ2_add_0 12 rfl rfl)
theorem dJ2_add_13 : decode cJ2_add 13 = .ok (.getfield 9, 3) := dk_180 0 9 (dk_at dksJ2_add_0 13 rfl rfl)
theorem dJ2_add_16 : decode cJ2_add 16 = .ok (.aload_n 0, 1) := dk_42 (dk_at dksJ2_add_0 16 rfl rfl)
theorem dJ2_add_17 : decode cJ2_add 17 = .ok (.getfield 48, 3) := dk_180 0 48 (dk_at dksJ2_add_0 17 rfl rfl)
theorem dJ2_add_20 : decode cJ2_add 20 = .ok (.invokevirtual 131, 3) := dk_182 0 131 (dk_at dksJ2_add_0 20 rfl rfl)
theorem dJ2_add_23 : decode cJ2_add 23 = .ok (.iconst 1, 1) := dk_4 (dk_at dksJ2_add_0 23 rfl rfl)
theorem dJ2_add_24 : decode cJ2_add 24 = .ok (.ireturn, 1) := dk_172 (dk_at dksJ2_add_1 0 rfl rfl)
theorem q860 : (Jvm.Cond.methodLink "java/util/ArrayList" (69 : Nat) ({ cls := "java/util/ArrayList", name := "grow", desc := "(I)[Ljava/lang/Object;" } : Jvm.MethodName)) ∈ lw_all := lw_g (lw_at lw_m4 80 rfl) rfl
theorem q863 : (Jvm.Cond.code ({ cls := "java/util/ArrayList", name := "grow", desc := "(I)[Ljava/lang/Object;" } : Jvm.MethodName) prog_52_method_6_code (4 : Nat) (Option.some (Jvm.ClassFile.FieldType.array (Jvm.ClassFile.FieldType.object "java/lang/Object")))) ∈ lw_all := lw_g (lw_at lw_m4 83 rfl) rfl
theorem q862 : (Jvm.Cond.instanceMethod ({ cls := "java/util/ArrayList", name := "grow", desc := "(I)[Ljava/lang/Object;" } : Jvm.MethodName)) ∈ lw_all := lw_g (lw_at lw_m4 82 rfl) rfl
theorem q856 : (Jvm.Cond.methodLink "java/util/ArrayList" (129 : Nat) ({ cls := "java/util/ArrayList", name := "grow", desc := "()[Ljava/lang/Object;" } : Jvm.MethodName)) ∈ lw_all := lw_g (lw_at lw_m4 76 rfl) rfl
theorem q859 : (Jvm.Cond.code ({ cls := "java/util/ArrayList", name := "grow", desc := "()[Ljava/lang/Object;" } : Jvm.MethodName) prog_52_method_7_code (1 : Nat) (Option.some (Jvm.ClassFile.FieldType.array (Jvm.ClassFile.FieldType.object "java/lang/Object")))) ∈ lw_all := lw_g (lw_at lw_m4 79 rfl) rfl
theorem q858 : (Jvm.Cond.instanceMethod ({ cls := "java/util/ArrayList", name := "grow", desc := "()[Ljava/lang/Object;" } : Jvm.MethodName)) ∈ lw_all := lw_g (lw_at lw_m4 78 rfl) rfl
theorem q233 : (Jvm.Cond.sameField "java/util/ArrayList" "java/util/AbstractList" "modCount" "I") ∈ lw_all := lw_g (lw_at lw_m1 173 rfl) rfl
theorem q234 : (Jvm.Cond.fieldLink "java/util/ArrayList" (63 : Nat) "java/util/ArrayList" "modCount" "I") ∈ lw_all := lw_g (lw_at lw_m1 174 rfl) rfl
theorem q852 : (Jvm.Cond.methodLink "java/util/ArrayList" (131 : Nat) ({ cls := "java/util/ArrayList", name := "add", desc := "(Ljava/lang/Object;[Ljava/lang/Object;I)V" } : Jvm.MethodName)) ∈ lw_all := lw_g (lw_at lw_m4 72 rfl) rfl
theorem q855 : (Jvm.Cond.code ({ cls := "java/util/ArrayList", name := "add", desc := "(Ljava/lang/Object;[Ljava/lang/Object;I)V" } : Jvm.MethodName) prog_52_method_24_code (4 : Nat) (Option.none : Option Jvm.ClassFile.FieldType)) ∈ lw_all := lw_g (lw_at lw_m4 75 rfl) rfl
theorem q854 : (Jvm.Cond.instanceMethod ({ cls := "java/util/ArrayList", name := "add", desc := "(Ljava/lang/Object;[Ljava/lang/Object;I)V" } : Jvm.MethodName)) ∈ lw_all := lw_g (lw_at lw_m4 74 rfl) rfl
/-- what a list's change keeps -/
def KeepA (h h' : AH) (a d : Nat) : Prop := ∀ q y, q ≠ a → q ≠ d → h q = some y → h' q = some y
/-- one more at the end -/
def Added (G : GE) (h h' : AH) (a d n e : Nat) (mc : Int32) (f : Nat → Option Nat) : Prop := ∃ d' cap' g, AL G h' a d' cap' (n + 1) mc g ∧ g n = some e ∧ (∀ j, j < n → g j = f j) ∧ KeepA h h' a d ∧ (d' = d ∨ (h d' = none ∧ G.kh d' = none)) ∧ (cap' ≤ 2 * n + 10 ∨ h d = some (aR G cap' f))
theorem al_grow0 (l : Launch) (G : GE) (h : AH) (a d cap n : Nat) (mc : Int32) (f : Nat → Option Nat) (y0 : AL G h a d cap n mc f) (hf : n = cap) (hc : cap < 400) (hel : Els G h f cap) : GM l G yJ2_grow (ws_ yJ2_grow cJ2_grow 1 (some (.array (.object "java/lang/Object")))) 5 [.ref a] (h) (2 * cap + 12) (PR fun v h' => ∃ e m g, v = .ref e ∧ Grown G h h' a e m n mc f g) := by
  refine GM.of (by decide) (dk rfl) ?_
  intro X eL eG eh ok fn
  subst eL; subst eG
  show GW X _ 0 0 [some (.ref a)] []
  have ra := AL.rd ok.tab y0
  obtain ⟨rl, rc, rn, rs⟩ := id y0
  refine g_aload_n ok dJ2_grow_0 rfl ?_
  refine g_aload_n ok dJ2_grow_1 rfl ?_
  refine g_get ok ck_J2 2 q230 (Or.inl rfl) (by decide) dJ2_grow_2 (Rd.h (rl)) rfl ?_
  refine g_iconst ok (v := 1) dJ2_grow_5 rfl ?_
  refine g_iaddN ok dJ2_grow_6 (c := (n + 1)) (a := n) (b := 1) rfl rfl rfl ?_
  refine g_callV ok q860 q862 qs3 q70 q863 (Recv.ob ok gc_J2 (Rd.h (rl))) dJ2_grow_7 (al_grow X.l X.G _ a d cap n mc f y0 hf hc hel) (nm_ (by decide : nmb _ 1 = true)) (dl rfl) (dk rfl) rfl rfl (dk rfl) (by omega) (kR fun v hh ⟨ge, gm, gg, u1, u2⟩ => ?_) xR
  subst u1; obtain ⟨v1, v2, v3, v4, v5, v6, v7⟩ := u2; subst v4
  exact g_aret ok fn rfl (Or.inr ⟨_, rfl⟩) (Or.inr ⟨_, rfl⟩) dJ2_grow_10 ⟨_, rfl, ge, gm, gg, rfl, v1, v2, v3, rfl, v5, v6, v7⟩ (by omega)
theorem al_add2 (l : Launch) (G : GE) (h : AH) (a d cap n : Nat) (mc : Int32) (f : Nat → Option Nat) (y0 : AL G h a d cap n mc f) (e ci : Nat) (r : vw_C) (efs : List Value) (hci : gcl[ci]? = some r) (h18 : ci < 18) (re : Rd G h e (ob ci efs)) (hc : cap < 400) (hel : Els G h f n) (hea : e ≠ a) : GM l G yJ2_add_2 (ws_ yJ2_add_2 cJ2_add_2 4 none) 6 [.ref a, .ref e, .ref d, .int (nI n)] (h) (2 * cap + 12) (PQ fun h' => Added G h h' a d n e mc f) := by
  refine GM.of (by decide) (dk rfl) ?_
  intro X eL eG eh ok fn
  subst eL; subst eG
  show GW X _ 0 0 [some (.ref a), some (.ref e), some (.ref d), some (.int (nI n))] []
  have ra := AL.rd ok.tab y0
  obtain ⟨rl, rc, rn, rs⟩ := id y0
  refine g_iload_n ok dJ2_add_2_0 rfl ?_
  refine g_aload_n ok dJ2_add_2_1 rfl ?_
  refine g_alen ok dJ2_add_2_2 (ra) (gt_r _) ?_
  by_cases hf : n = cap
  · rw [hf] at hel
    have hel : Els X.G h f cap := hel
    refine g_icmp_ne ok (tgt := 11) dJ2_add_2_3 (by decide) (fun c => absurd (congrArg nI hf) c) (fun _ => ?_)
    refine g_aload_n ok dJ2_add_2_6 rfl ?_
    refine g_callV ok q856 q858 qs2 q70 q859 (Recv.ob ok gc_J2 (Rd.h (rl))) dJ2_add_2_7 (al_grow0 X.l X.G _ a d cap n mc f y0 hf hc hel) (nm_ (by decide : nmb _ 0 = true)) (dl rfl) (dk rfl) rfl rfl (dk rfl) (by omega) (kR fun v hh ⟨ge, gm, gg, u1, u2⟩ => ?_) xR
    subst u1; obtain ⟨v1, v2, v3, v4, v5, v6, v7⟩ := u2; subst v4
    have nge : ge ≠ a := Ne.symm v3
    have re2 : Rd X.G (up (up h ge (aR X.G gm gg)) a (ob 12 [.int mc, .ref ge, .int (nI n)])) e (ob ci efs) := (re.up (re.ne v1 v2)).up hea
    refine g_astore_n ok dJ2_add_2_10 (ls1 := [some (.ref a), some (.ref e), some (.ref ge), some (.int (nI n))]) (dl rfl) rfl ?_
    refine g_aload_n ok dJ2_add_2_11 rfl ?_
    refine g_iload_n ok dJ2_add_2_12 rfl ?_
    refine g_aload_n ok dJ2_add_2_13 rfl ?_
    refine g_aast ok (j := n) dJ2_add_2_14 ((up_ne nge).trans up_self) hci h18 (re2) rfl (by omega) (by omega) ?_
    refine g_aload_n ok dJ2_add_2_15 rfl ?_
    refine g_iload_n ok dJ2_add_2_16 rfl ?_
    refine g_iconst ok (v := 1) dJ2_add_2_17 rfl ?_
    refine g_iaddN ok dJ2_add_2_18 (c := (n + 1)) (a := n) (b := 1) rfl rfl rfl ?_
    refine g_put ok ck_J2 2 q230 (Or.inl rfl) (by decide) rfl dJ2_add_2_19 ((up_ne v3).trans (up_self)) (dl rfl) rfl rfl (fs1 := [.int mc, .ref ge, .int (nI (n + 1))]) rfl (?_)
    refine g_vret ok fn rfl dJ2_add_2_22 ⟨rfl, ge, gm, (va_up gg n (some e)), ⟨up_self, Or.inr ⟨by omega, (up_ne nge).trans up_self⟩, by omega, by omega⟩, va_up_self _ _ _, fun j hj => (va_up_ne _ _ (by omega)).trans (v7 j hj), ?_, Or.inr ⟨v1, v2⟩, Or.inl (by omega)⟩ (by omega)
    intro q y z1 z2 z3
    have z4 : q ≠ ge := fun z => by subst z; rw [v1] at z3; cases z3
    simp only [up_ne z1, up_ne z4]; exact z3
  · have rc2 : 0 < cap ∧ h d = some (aR X.G cap f) := rc.elim (fun z => absurd z.1 (by omega)) id
    obtain ⟨c0, c1⟩ := rc2
    have nda : d ≠ a := fun z => by subst z; rw [rl] at c1; cases c1
    refine g_icmp_ne ok (tgt := 11) dJ2_add_2_3 (by decide) (fun _ => ?_) (fun c_ => absurd c_ (fun e_ => by have := (nI_eq (a := n) (b := cap) (by omega) (by omega)).mp e_; omega))
    refine g_aload_n ok dJ2_add_2_11 rfl ?_
    refine g_iload_n ok dJ2_add_2_12 rfl ?_
    refine g_aload_n ok dJ2_add_2_13 rfl ?_
    refine g_aast ok (j := n) dJ2_add_2_14 (c1) hci h18 (re) rfl (by omega) (by omega) ?_
    refine g_aload_n ok dJ2_add_2_15 rfl ?_
    refine g_iload_n ok dJ2_add_2_16 rfl ?_
    refine g_iconst ok (v := 1) dJ2_add_2_17 rfl ?_
    refine g_iaddN ok dJ2_add_2_18 (c := (n + 1)) (a := n) (b := 1) rfl rfl rfl ?_
    refine g_put ok ck_J2 2 q230 (Or.inl rfl) (by decide) rfl dJ2_add_2_19 ((up_ne (Ne.symm nda)).trans (rl)) (dl rfl) rfl rfl (fs1 := [.int mc, .ref d, .int (nI (n + 1))]) rfl (?_)
    refine g_vret ok fn rfl dJ2_add_2_22 ⟨rfl, d, cap, (va_up f n (some e)), ⟨up_self, Or.inr ⟨by omega, (up_ne nda).trans up_self⟩, by omega, by omega⟩, va_up_self _ _ _, fun j hj => (va_up_ne _ _ (by omega)).trans rfl, ?_, Or.inl rfl, Or.inr c1⟩ (by omega)
    intro q y z1 z2 z3
    simp only [up_ne z1, up_ne z2]; exact z3
theorem AL.upA {G : GE} {h : AH} {a d cap n n2 : Nat} {mc mc2 : Int32} {f : Nat → Option Nat} (x : AL G h a d cap n mc f) (hn : n2 ≤ cap) : AL G (up h a (ob 12 [.int mc2, .ref d, .int (nI n2)])) a d cap n2 mc2 f := by
  obtain ⟨h1, h2, h3, h4⟩ := x
  refine ⟨up_self, h2.elim Or.inl fun z => Or.inr ⟨z.1, ?_⟩, hn, h4⟩
  have nda : d ≠ a := fun e => by subst e; rw [h1] at z; cases z.2
  exact (up_ne nda).trans z.2
theorem els_upA {G : GE} {h : AH} {f : Nat → Option Nat} {n a : Nat} {fs : List Value} (l : Els G h f n) : Els G (up h a (ob 12 fs)) f n := fun j hj y hy => by
  by_cases e : y = a
  · subst e; exact ⟨12, fs, by decide, Or.inl up_self⟩
  · obtain ⟨ci, gs, h1, h2⟩ := l j hj y hy
    exact ⟨ci, gs, h1, h2.up e⟩
theorem Added.of {G : GE} {h h' : AH} {a d n e : Nat} {mc : Int32} {f : Nat → Option Nat} {l : List Value} (z : Added G (up h a (ob 12 l)) h' a d n e mc f) : Added G h h' a d n e mc f := by
  obtain ⟨d', cap', g, z1, z2, z3, z4, z5, z6⟩ := z
  refine ⟨d', cap', g, z1, z2, z3, fun q y q1 q2 q3 => z4 q y q1 q2 (by rw [up_ne q1]; exact q3), z5.elim Or.inl fun w => Or.inr ⟨?_, w.2⟩, z6.elim Or.inl fun w => Or.inr (by
    by_cases q : d = a
    · subst q; rw [up_self] at w; cases w
    · rwa [up_ne q] at w)⟩
  have : d' ≠ a := fun e => by subst e; rw [up_self] at w; cases w.1
  have w1 := w.1
  rw [up_ne this] at w1; exact w1
theorem al_add (l : Launch) (G : GE) (h : AH) (a d cap n : Nat) (mc : Int32) (f : Nat → Option Nat) (y0 : AL G h a d cap n mc f) (e ci : Nat) (r : vw_C) (efs : List Value) (hci : gcl[ci]? = some r) (h18 : ci < 18) (re : Rd G h e (ob ci efs)) (hc : cap < 400) (hel : Els G h f n) (hea : e ≠ a) : GM l G yJ2_add (ws_ yJ2_add cJ2_add 2 (some .boolean)) 7 [.ref a, .ref e] (h) (2 * cap + 12) (PR fun v h' => v = .int 1 ∧ Added G h h' a d n e (mc + 1) f) := by
  refine GM.of (by decide) (dk rfl) ?_
  intro X eL eG eh ok fn
  subst eL; subst eG
  show GW X _ 0 0 [some (.ref a), some (.ref e)] []
  have ra := AL.rd ok.tab y0
  obtain ⟨rl, rc, rn, rs⟩ := id y0
  refine g_aload_n ok dJ2_add_0 rfl ?_
  refine g_dup ok dJ2_add_1 rfl ?_
  refine g_get ok ck_J2 0 q234 (Or.inr q233) (by decide) dJ2_add_2 (Rd.h (rl)) rfl ?_
  refine g_iconst ok (v := 1) dJ2_add_5 rfl ?_
  refine g_iadd ok dJ2_add_6 ?_
  refine g_put ok ck_J2 0 q234 (Or.inr q233) (by decide) rfl dJ2_add_7 (rl) (dl rfl) rfl rfl (fs1 := [.int (mc + 1), .ref d, .int (nI n)]) rfl (?_)
  refine g_aload_n ok dJ2_add_10 rfl ?_
  refine g_aload_n ok dJ2_add_11 rfl ?_
  refine g_aload_n ok dJ2_add_12 rfl ?_
  refine g_get ok ck_J2 1 q227 (Or.inl rfl) (by decide) dJ2_add_13 (Rd.h (up_self)) rfl ?_
  refine g_aload_n ok dJ2_add_16 rfl ?_
  refine g_get ok ck_J2 2 q230 (Or.inl rfl) (by decide) dJ2_add_17 (Rd.h (up_self)) rfl ?_
  refine g_callV ok q852 q854 qs1 q70 q855 (Recv.ob ok gc_J2 (Rd.h (up_self))) dJ2_add_20 (al_add2 X.l X.G _ a d cap n (mc + 1) f (y0.upA rn) e ci r efs hci h18 (re.up hea) hc (els_upA hel) hea) (nm_ (by decide : nmb _ 3 = true)) (dl rfl) (dk rfl) rfl rfl (dk rfl) (by omega) (kQ fun h2 u1 => ?_) xQ
  refine g_iconst ok (v := 1) dJ2_add_23 rfl ?_
  exact g_zret ok fn rfl rfl dJ2_add_24 ⟨_, rfl, rfl, u1.of⟩ (by omega)
