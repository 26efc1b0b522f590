/-! the JDK's builder, 8 -/
set_option maxRecDepth 100000
abbrev cJ5_init : ByteArray := prog_39_method_53_code
def yJ5_init : MethodName := ⟨RJ5, "<init>", "(Ljava/lang/StringBuilder;)V"⟩
def dkwJ5_init_0 : List UInt8 := [42, 43, 1, 183, 1, 233, 177]
abbrev dktJ5_init_0 : List UInt8 := dkwJ5_init_0 ++ []
theorem dksJ5_init_0 : cJ5_init.data.toList.drop 0 = dktJ5_init_0 := by decide +kernel
theorem dJ5_init_0 : decode cJ5_init 0 = .ok (.aload_n 0, 1) := dk_42 (dk_at dksJ5_init_0 0 rfl rfl)
theorem dJ5_init_1 : decode cJ5_init 1 = .ok (.aload_n 1, 1) := dk_43 (dk_at dksJ5_init_0 1 rfl rfl)
theorem dJ5_init_2 : decode cJ5_init 2 = .ok (.aconst_null, 1) := dk_1 (dk_at dksJ5_init_0 2 rfl rfl)
theorem dJ5_init_3 : decode cJ5_init 3 = .ok (.invokespecial 489, 3) := dk_183 1 233 (dk_at dksJ5_init_0 3 rfl rfl)
theorem dJ5_init_6 : decode cJ5_init 6 = .ok (.return_, 1) := dk_177 (dk_at dksJ5_init_0 6 rfl rfl)
abbrev cJ4_toString : ByteArray := prog_40_method_42_code
def yJ4_toString : MethodName := ⟨RJ4, "toString", "()Ljava/lang/String;"⟩
def dkwJ4_toString_0 : List UInt8 := [187, 0, 18, 89, 42, 183, 0, 137, 176]
abbrev dktJ4_toString_0 : List UInt8 := dkwJ4_toString_0 ++ []
theorem dksJ4_toString_0 : cJ4_toString.data.toList.drop 0 = dktJ4_toString_0 := by decide +kernel
theorem dJ4_toString_0 : decode cJ4_toString 0 = .ok (.new 18, 3) := dk_187 0 18 (dk_at dksJ4_toString_0 0 rfl rfl)
theorem dJ4_toString_3 : decode cJ4_toString 3 = .ok (.dup, 1) := dk_89 (dk_at dksJ4_toString_0 3 rfl rfl)
theorem dJ4_toString_4 : decode cJ4_toString 4 = .ok (.aload_n 0, 1) := dk_42 (dk_at dksJ4_toString_0 4 rfl rfl)
theorem dJ4_toString_5 : decode cJ4_toString 5 = .ok (.invokespecial 137, 3) := dk_183 0 137 (dk_at dksJ4_toString_0 5 rfl rfl)
theorem dJ4_toString_8 : decode cJ4_toString 8 = .ok (.areturn, 1) := dk_176 (dk_at dksJ4_toString_0 8 rfl rfl)
theorem q715 : (Jvm.Cond.methodLink "java/lang/String" (489 : Nat) ({ cls := "java/lang/String", name := "<init>", desc := "(Ljava/lang/AbstractStringBuilder;Ljava/lang/Void;)V" } : Jvm.MethodName)) ∈ lw_all := lw_g (lw_at lw_m3 175 rfl) rfl
theorem q717 : (Jvm.Cond.code ({ cls := "java/lang/String", name := "<init>", desc := "(Ljava/lang/AbstractStringBuilder;Ljava/lang/Void;)V" } : Jvm.MethodName) prog_39_method_150_code (5 : Nat) (Option.none : Option Jvm.ClassFile.FieldType)) ∈ lw_all := lw_g (lw_at lw_m3 177 rfl) rfl
theorem q716 : (Jvm.Cond.instanceMethod ({ cls := "java/lang/String", name := "<init>", desc := "(Ljava/lang/AbstractStringBuilder;Ljava/lang/Void;)V" } : Jvm.MethodName)) ∈ lw_all := lw_g (lw_at lw_m3 176 rfl) rfl
theorem q710 : (Jvm.Cond.classLink "java/lang/StringBuilder" (18 : Nat) "java/lang/String") ∈ lw_all := lw_g (lw_at lw_m3 170 rfl) rfl
theorem q712 : (Jvm.Cond.methodLink "java/lang/StringBuilder" (137 : Nat) ({ cls := "java/lang/String", name := "<init>", desc := "(Ljava/lang/StringBuilder;)V" } : Jvm.MethodName)) ∈ lw_all := lw_g (lw_at lw_m3 172 rfl) rfl
theorem q714 : (Jvm.Cond.code ({ cls := "java/lang/String", name := "<init>", desc := "(Ljava/lang/StringBuilder;)V" } : Jvm.MethodName) prog_39_method_53_code (2 : Nat) (Option.none : Option Jvm.ClassFile.FieldType)) ∈ lw_all := lw_g (lw_at lw_m3 174 rfl) rfl
theorem q713 : (Jvm.Cond.instanceMethod ({ cls := "java/lang/String", name := "<init>", desc := "(Ljava/lang/StringBuilder;)V" } : Jvm.MethodName)) ∈ lw_all := lw_g (lw_at lw_m3 173 rfl) rfl
theorem s_init1 (l : Launch) (G : GE) (h : AH) (a b cap n : Nat) (m : Int32) (f : Nat → Int32) (y0 : SB G h a b cap n m f) (s : Nat) (rs0 : h s = some (ob 15 [.null, .int 0, .int 0, .int 0])) (hne : n < cap) : GM l G yJ5_init (ws_ yJ5_init cJ5_init 2 none) 5 [.ref s, .ref a] (h) (n + 1) (PQ fun h' => ∃ e, h e = none ∧ G.kh e = none ∧ s ≠ e ∧ h' = up (up h e (aB G n (va_cpy f (fun _ => 0) 0 0 n))) s (ob 15 [.ref e, .int 0, .int 0, .int 0])) := by
  refine GM.of (by decide) (dk rfl) ?_
  intro X eL eG eh ok fn
  subst eL; subst eG
  show GW X _ 0 0 [some (.ref s), some (.ref a)] []
  refine g_aload_n ok dJ5_init_0 rfl ?_
  refine g_aload_n ok dJ5_init_1 rfl ?_
  refine g_null ok dJ5_init_2 ?_
  refine g_callI ok q715 q716 q73 q717 rfl dJ5_init_3 (s_init2 X.l X.G _ a b cap n m f y0 s rs0 hne) (nm_ (by decide : nmb _ 2 = true)) (dl rfl) (dk rfl) rfl rfl (dk rfl) (by omega) (kQ fun h2 u1 => ?_) xQ
  exact g_vret ok fn rfl dJ5_init_6 ⟨rfl, u1⟩ (by omega)
theorem SB.upN {G : GE} {h : AH} {a b cap n t : Nat} {m : Int32} {f : Nat → Int32} {e : va_E} (x : SB G h a b cap n m f) (ht : h t = none) : SB G (up h t e) a b cap n m f := by
  obtain ⟨h1, h2, h3⟩ := x
  exact ⟨(up_ne (fun z => by subst z; rw [h1] at ht; cases ht)).trans h1, (up_ne (fun z => by subst z; rw [h2] at ht; cases ht)).trans h2, h3⟩
theorem sb_toString (l : Launch) (G : GE) (h : AH) (a b cap n : Nat) (m : Int32) (f : Nat → Int32) (y0 : SB G h a b cap n m f) (hne : n < cap) : GM l G yJ4_toString (ws_ yJ4_toString cJ4_toString 1 (some (.object "java/lang/String"))) 6 [.ref a] (h) (n + 6) (PR fun v h' => ∃ s e, v = .ref s ∧ h s = none ∧ G.kh s = none ∧ h e = none ∧ G.kh e = none ∧ s ≠ e ∧ h' = up (up h e (aB G n (va_cpy f (fun _ => 0) 0 0 n))) s (ob 15 [.ref e, .int 0, .int 0, .int 0])) := by
  refine GM.of (by decide) (dk rfl) ?_
  intro X eL eG eh ok fn
  subst eL; subst eG
  show GW X _ 0 0 [some (.ref a)] []
  obtain ⟨ra, rb, rn, rs, ras⟩ := id y0
  have nba : b ≠ a := fun z => by subst z; rw [ra] at rb; cases rb
  refine g_new ok ck_J5 q710 q711 q73 dJ4_toString_0 (fs := [.null, .int 0, .int 0, .int 0]) (by intro j hj; rcases (by omega : j = 0 ∨ j = 1 ∨ j = 2 ∨ j = 3) with rfl | rfl | rfl | rfl <;> rfl) (by omega) (fun s has hks h0s => ?_)
  have y1 := y0.upN (e := ob 15 [.null, .int 0, .int 0, .int 0]) has
  refine g_dup ok dJ4_toString_3 rfl ?_
  refine g_aload_n ok dJ4_toString_4 rfl ?_
  refine g_callI ok q712 q713 q73 q714 rfl dJ4_toString_5 (s_init1 X.l X.G _ a b cap n m f y1 s up_self hne) (nm_ (by decide : nmb _ 1 = true)) (dl rfl) (dk rfl) rfl rfl (dk rfl) (by omega) (kQ fun h2 u1 => ?_) xQ
  obtain ⟨e, u2, u3, u4, u5⟩ := u1
  refine g_aret ok fn rfl (Or.inl ⟨_, rfl⟩) (Or.inr ⟨_, rfl⟩) dJ4_toString_8 ⟨_, rfl, s, e, rfl, has, hks, ?_, u3, u4, ?_⟩ (by omega)
  · rw [up_ne (Ne.symm u4)] at u2; exact u2
  · rw [u5]; exact up_xyx u4
