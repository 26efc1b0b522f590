/-! the JDK's builder, 5 -/
set_option maxRecDepth 100000
abbrev cJ3_init : ByteArray := prog_21_method_2_code
def yJ3_init : MethodName := ⟨RJ3, "<init>", "(I)V"⟩
def dkwJ3_init_1 : List UInt8 := [167, 0, 16, 42, 27, 184, 0, 26, 181, 0, 15, 42, 4, 181, 0, 22, 177]
abbrev dktJ3_init_1 : List UInt8 := dkwJ3_init_1 ++ []
def dkwJ3_init_0 : List UInt8 := [42, 183, 0, 3, 178, 0, 18, 153, 0, 18, 42, 27, 188, 8, 181, 0, 15, 42, 3, 181, 0, 22]
abbrev dktJ3_init_0 : List UInt8 := dkwJ3_init_0 ++ dktJ3_init_1
theorem dksJ3_init_0 : cJ3_init.data.toList.drop 0 = dktJ3_init_0 := by decide +kernel
theorem dksJ3_init_1 : cJ3_init.data.toList.drop 22 = dktJ3_init_1 := dk_seg dksJ3_init_0 22 rfl rfl
theorem dJ3_init_0 : decode cJ3_init 0 = .ok (.aload_n 0, 1) := dk_42 (dk_at dksJ3_init_0 0 rfl rfl)
theorem dJ3_init_1 : decode cJ3_init 1 = .ok (.invokespecial 3, 3) := dk_183 0 3 (dk_at dksJ3_init_0 1 rfl rfl)
theorem dJ3_init_4 : decode cJ3_init 4 = .ok (.getstatic 18, 3) := dk_178 0 18 (dk_at dksJ3_init_0 4 rfl rfl)
theorem dJ3_init_7 : decode cJ3_init 7 = .ok (.ifCond .eq 18, 3) := dk_153 0 18 (dk_at dksJ3_init_0 7 rfl rfl)
theorem dJ3_init_10 : decode cJ3_init 10 = .ok (.aload_n 0, 1) := dk_42 (dk_at dksJ3_init_0 10 rfl rfl)
theorem dJ3_init_11 : decode cJ3_init 11 = .ok (.iload_n 1, 1) := dk_27 (dk_at dksJ3_init_0 11 rfl rfl)
theorem dJ3_init_12 : decode cJ3_init 12 = .ok (.newarray .byte, 2) := dk_188_8 (dk_at dksJ3_init_0 12 rfl rfl)
theorem dJ3_init_14 : decode cJ3_init 14 = .ok (.putfield 15, 3) := dk_181 0 15 (dk_at dksJ3_init_0 14 rfl rfl)
theorem dJ3_init_17 : decode cJ3_init 17 = .ok (.aload_n 0, 1) := dk_42 (dk_at dksJ3_init_0 17 rfl rfl)
theorem dJ3_init_18 : decode cJ3_init 18 = .ok (.iconst 0, 1) := dk_3 (dk_at dksJ3_init_0 18 rfl rfl)
theorem dJ3_init_19 : decode cJ3_init 19 = .ok (.putfield 22, 3) := dk_181 0 22 (dk_at dksJ3_init_0 19 rfl rfl)
theorem dJ3_init_22 : decode cJ3_init 22 = .ok (.goto 16, 3) := dk_167 0 16 (dk_at dksJ3_init_1 0 rfl rfl)
theorem dJ3_init_25 : decode cJ3_init 25 = .ok (.aload_n 0, 1) := dk_42 (dk_at dksJ3_init_1 3 rfl rfl)
theorem dJ3_init_26 : decode cJ3_init 26 = .ok (.iload_n 1, 1) := dk_27 (dk_at dksJ3_init_1 4 rfl rfl)
theorem dJ3_init_27 : decode cJ3_init 27 = .ok (.invokestatic 26, 3) := dk_184 0 26 (dk_at dksJ3_init_1 5 rfl rfl)
theorem dJ3_init_30 : decode cJ3_init 30 = .ok (.putfield 15, 3) := dk_181 0 15 (dk_at dksJ3_init_1 8 rfl rfl)
theorem dJ3_init_33 : decode cJ3_init 33 = .ok (.aload_n 0, 1) := dk_42 (dk_at dksJ3_init_1 11 rfl rfl)
theorem dJ3_init_34 : decode cJ3_init 34 = .ok (.iconst 1, 1) := dk_4 (dk_at dksJ3_init_1 12 rfl rfl)
theorem dJ3_init_35 : decode cJ3_init 35 = .ok (.putfield 22, 3) := dk_181 0 22 (dk_at dksJ3_init_1 13 rfl rfl)
theorem dJ3_init_38 : decode cJ3_init 38 = .ok (.return_, 1) := dk_177 (dk_at dksJ3_init_1 16 rfl rfl)
abbrev cJ4_init : ByteArray := prog_40_method_1_code
def yJ4_init : MethodName := ⟨RJ4, "<init>", "()V"⟩
def dkwJ4_init_0 : List UInt8 := [42, 16, 16, 183, 0, 1, 177]
abbrev dktJ4_init_0 : List UInt8 := dkwJ4_init_0 ++ []
theorem dksJ4_init_0 : cJ4_init.data.toList.drop 0 = dktJ4_init_0 := by decide +kernel
theorem dJ4_init_0 : decode cJ4_init 0 = .ok (.aload_n 0, 1) := dk_42 (dk_at dksJ4_init_0 0 rfl rfl)
theorem dJ4_init_1 : decode cJ4_init 1 = .ok (.bipush 16, 2) := dk_16 16 (dk_at dksJ4_init_0 1 rfl rfl)
theorem dJ4_init_3 : decode cJ4_init 3 = .ok (.invokespecial 1, 3) := dk_183 0 1 (dk_at dksJ4_init_0 3 rfl rfl)
theorem dJ4_init_6 : decode cJ4_init 6 = .ok (.return_, 1) := dk_177 (dk_at dksJ4_init_0 6 rfl rfl)
theorem q293 : (Jvm.Cond.methodLink "java/lang/AbstractStringBuilder" (3 : Nat) ({ cls := "java/lang/Object", name := "<init>", desc := "()V" } : Jvm.MethodName)) ∈ lw_all := lw_g (lw_at lw_m1 233 rfl) rfl
theorem q290 : (Jvm.Cond.methodLink "java/lang/StringBuilder" (1 : Nat) ({ cls := "java/lang/AbstractStringBuilder", name := "<init>", desc := "(I)V" } : Jvm.MethodName)) ∈ lw_all := lw_g (lw_at lw_m1 230 rfl) rfl
theorem q292 : (Jvm.Cond.code ({ cls := "java/lang/AbstractStringBuilder", name := "<init>", desc := "(I)V" } : Jvm.MethodName) prog_21_method_2_code (2 : Nat) (Option.none : Option Jvm.ClassFile.FieldType)) ∈ lw_all := lw_g (lw_at lw_m1 232 rfl) rfl
theorem q291 : (Jvm.Cond.instanceMethod ({ cls := "java/lang/AbstractStringBuilder", name := "<init>", desc := "(I)V" } : Jvm.MethodName)) ∈ lw_all := lw_g (lw_at lw_m1 231 rfl) rfl
theorem up_lst {h : AH} {a e : Nat} {x y : va_E} (n : a ≠ e) : up (up (up h a x) e y) a x = up (up h e y) a x := up_xyx n
theorem asb_init (l : Launch) (G : GE) (h : AH) (a : Nat) (ra : h a = some (ob 14 [.null, .int 0, .int 0, .int 0])) : GM l G yJ3_init (ws_ yJ3_init cJ3_init 2 none) 2 [.ref a, .int (nI 16)] (h) (17) (PQ fun h' => ∃ e, h e = none ∧ G.kh e = none ∧ a ≠ e ∧ h' = up (up h e (aB G 16 (fun _ => 0))) a (ob 14 [.ref e, .int 0, .int 0, .int 0])) := by
  refine GM.of (by decide) (dk rfl) ?_
  intro X eL eG eh ok fn
  subst eL; subst eG
  show GW X _ 0 0 [some (.ref a), some (.int (nI 16))] []
  refine g_aload_n ok dJ3_init_0 rfl ?_
  refine g_objInit ok q293 q121 q122 dJ3_init_1 (dk rfl) rfl (dk rfl) ?_
  refine g_gets ok (C := "java/lang/String") (n := "COMPACT_STRINGS") (d := "Z") (v := .int 1) (by simp [gzs]) q294 dJ3_init_4 ?_
  refine g_if_eq ok (tgt := 25) dJ3_init_7 (by decide) (fun c_ => absurd c_ (fun e_ => by have := (nI_eq (a := 1) (b := 0) (by omega) (by omega)).mp e_; omega)) (fun _ => ?_)
  refine g_aload_n ok dJ3_init_10 rfl ?_
  refine g_iload_n ok dJ3_init_11 rfl ?_
  refine g_newa ok (atype := .byte) (n := 16) (ai := 2) (y := (.inl (fun _ => 0))) q318 (gt_b _) (fun C h => by cases h) (fun _ => rfl) dJ3_init_12 rfl (by decide) (by omega) (fun e hae hke h0e => ?_)
  have ne0 := Rd.ne (Rd.h (ra)) hae hke
  refine g_put ok ck_J4 0 q303 (Or.inl rfl) (by decide) rfl dJ3_init_14 ((up_ne ne0).trans (ra)) (dl rfl) rfl rfl (fs1 := [.ref e, .int 0, .int 0, .int 0]) rfl (?_)
  refine g_aload_n ok dJ3_init_17 rfl ?_
  refine g_iconst ok (v := 0) dJ3_init_18 rfl ?_
  refine g_put ok ck_J4 1 q304 (Or.inl rfl) (by decide) rfl dJ3_init_19 (up_self) (dl rfl) rfl rfl (fs1 := [.ref e, .int 0, .int 0, .int 0]) rfl (?_)
  refine g_goto ok dJ3_init_22 (tgt := 38) (by decide) ?_
  exact g_vret ok fn rfl dJ3_init_38 ⟨rfl, e, hae, hke, ne0, by simp only [up_up]⟩ (by omega)
theorem sb_init (l : Launch) (G : GE) (h : AH) (a : Nat) (ra : h a = some (ob 14 [.null, .int 0, .int 0, .int 0])) : GM l G yJ4_init (ws_ yJ4_init cJ4_init 1 none) 3 [.ref a] (h) (17) (PQ fun h' => ∃ e, h e = none ∧ G.kh e = none ∧ a ≠ e ∧ h' = up (up h e (aB G 16 (fun _ => 0))) a (ob 14 [.ref e, .int 0, .int 0, .int 0])) := by
  refine GM.of (by decide) (dk rfl) ?_
  intro X eL eG eh ok fn
  subst eL; subst eG
  show GW X _ 0 0 [some (.ref a)] []
  refine g_aload_n ok dJ4_init_0 rfl ?_
  refine g_bipush ok (v := 16) dJ4_init_1 rfl ?_
  refine g_callI ok q290 q291 q71 q292 rfl dJ4_init_3 (asb_init X.l X.G _ a ra) (nm_ (by decide : nmb _ 1 = true)) (dl rfl) (dk rfl) rfl rfl (dk rfl) (by omega) (kQ fun h2 u1 => ?_) xQ
  exact g_vret ok fn rfl dJ4_init_6 ⟨rfl, u1⟩ (by omega)
