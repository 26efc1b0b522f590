/-! the SpanRuler: made -/
set_option maxRecDepth 100000
abbrev cX1_init : ByteArray := prog_1_method_16_code
def yX1_init : MethodName := ⟨RX1, "<init>", "()V"⟩
def dkwX1_init_1 : List UInt8 := [181, 0, 133, 42, 16, 60, 188, 5, 181, 0, 137, 42, 187, 0, 141, 89, 183, 0, 143, 181, 0, 144, 177]
abbrev dktX1_init_1 : List UInt8 := dkwX1_init_1 ++ []
def dkwX1_init_0 : List UInt8 := [42, 183, 0, 120, 42, 187, 0, 123, 89, 183, 0, 125, 181, 0, 126, 42, 187, 0, 130, 89, 183, 0, 132]
abbrev dktX1_init_0 : List UInt8 := dkwX1_init_0 ++ dktX1_init_1
theorem dksX1_init_0 : cX1_init.data.toList.drop 0 = dktX1_init_0 := by decide +kernel
theorem dksX1_init_1 : cX1_init.data.toList.drop 23 = dktX1_init_1 := dk_seg dksX1_init_0 23 rfl rfl
theorem dX1_init_0 : decode cX1_init 0 = .ok (.aload_n 0, 1) := dk_42 (dk_at dksX1_init_0 0 rfl rfl)
theorem dX1_init_1 : decode cX1_init 1 = .ok (.invokespecial 120, 3) := dk_183 0 120 (dk_at dksX1_init_0 1 rfl rfl)
theorem dX1_init_4 : decode cX1_init 4 = .ok (.aload_n 0, 1) := dk_42 (dk_at dksX1_init_0 4 rfl rfl)
theorem dX1_init_5 : decode cX1_init 5 = .ok (.new 123, 3) := dk_187 0 123 (dk_at dksX1_init_0 5 rfl rfl)
theorem dX1_init_8 : decode cX1_init 8 = .ok (.dup, 1) := dk_89 (dk_at dksX1_init_0 8 rfl rfl)
theorem dX1_init_9 : decode cX1_init 9 = .ok (.invokespecial 125, 3) := dk_183 0 125 (dk_at dksX1_init_0 9 rfl rfl)
theorem dX1_init_12 : decode cX1_init 12 = .ok (.putfield 126, 3) := dk_181 0 126 (dk_at dksX1_init_0 12 rfl rfl)
theorem dX1_init_15 : decode cX1_init 15 = .ok (.aload_n 0, 1) := dk_42 (dk_at dksX1_init_0 15 rfl rfl)
theorem dX1_init_16 : decode cX1_init 16 = .ok (.new 130, 3) := dk_187 0 130 (dk_at dksX1_init_0 16 rfl rfl)
theorem dX1_init_19 : decode cX1_init 19 = .ok (.dup, 1) := dk_89 (dk_at dksX1_init_0 19 rfl rfl)
theorem dX1_init_20 : decode cX1_init 20 = .ok (.invokespecial 132, 3) := dk_183 0 132 (dk_at dksX1_init_0 20 rfl rfl)
theorem dX1_init_23 : decode cX1_init 23 = .ok (.putfield 133, 3) := dk_181 0 133 (dk_at dksX1_init_1 0 rfl rfl)
theorem dX1_init_26 : decode cX1_init 26 = .ok (.aload_n 0, 1) := dk_42 (dk_at dksX1_init_1 3 rfl rfl)
theorem dX1_init_27 : decode cX1_init 27 = .ok (.bipush 60, 2) := dk_16 60 (dk_at dksX1_init_1 4 rfl rfl)
theorem dX1_init_29 : decode cX1_init 29 = .ok (.newarray .char, 2) := dk_188_5 (dk_at dksX1_init_1 6 rfl rfl)
theorem dX1_init_31 : decode cX1_init 31 = .ok (.putfield 137, 3) := dk_181 0 137 (dk_at dksX1_init_1 8 rfl rfl)
theorem dX1_init_34 : decode cX1_init 34 = .ok (.aload_n 0, 1) := dk_42 (dk_at dksX1_init_1 11 rfl rfl)
theorem dX1_init_35 : decode cX1_init 35 = .ok (.new 141, 3) := dk_187 0 141 (dk_at dksX1_init_1 12 rfl rfl)
theorem dX1_init_38 : decode cX1_init 38 = .ok (.dup, 1) := dk_89 (dk_at dksX1_init_1 15 rfl rfl)
theorem dX1_init_39 : decode cX1_init 39 = .ok (.invokespecial 143, 3) := dk_183 0 143 (dk_at dksX1_init_1 16 rfl rfl)
theorem dX1_init_42 : decode cX1_init 42 = .ok (.putfield 144, 3) := dk_181 0 144 (dk_at dksX1_init_1 19 rfl rfl)
theorem dX1_init_45 : decode cX1_init 45 = .ok (.return_, 1) := dk_177 (dk_at dksX1_init_1 22 rfl rfl)
theorem q120 : (Jvm.Cond.methodLink "SpanRuler" (120 : Nat) ({ cls := "java/lang/Object", name := "<init>", desc := "()V" } : Jvm.MethodName)) ∈ lw_all := lw_g (lw_at lw_m1 60 rfl) rfl
theorem q125 : (Jvm.Cond.methodLinkNest "SpanRuler" (125 : Nat) ({ cls := "SpanRuler$Ruler", name := "<init>", desc := "()V" } : Jvm.MethodName) "SpanRuler") ∈ lw_tbl := lw_at lw_m1 65 rfl
theorem q283 : (Jvm.Cond.classLink "SpanRuler" (130 : Nat) "java/util/ArrayList") ∈ lw_all := lw_g (lw_at lw_m1 223 rfl) rfl
theorem q284 : (Jvm.Cond.methodLink "SpanRuler" (132 : Nat) ({ cls := "java/util/ArrayList", name := "<init>", desc := "()V" } : Jvm.MethodName)) ∈ lw_all := lw_g (lw_at lw_m1 224 rfl) rfl
theorem q286 : (Jvm.Cond.instantiable "java/lang/StringBuilder" (4 : Nat)) ∈ lw_all := lw_g (lw_at lw_m1 226 rfl) rfl
theorem q285 : (Jvm.Cond.classLink "SpanRuler" (141 : Nat) "java/lang/StringBuilder") ∈ lw_all := lw_g (lw_at lw_m1 225 rfl) rfl
theorem q287 : (Jvm.Cond.methodLink "SpanRuler" (143 : Nat) ({ cls := "java/lang/StringBuilder", name := "<init>", desc := "()V" } : Jvm.MethodName)) ∈ lw_all := lw_g (lw_at lw_m1 227 rfl) rfl
theorem q289 : (Jvm.Cond.code ({ cls := "java/lang/StringBuilder", name := "<init>", desc := "()V" } : Jvm.MethodName) prog_40_method_1_code (1 : Nat) (Option.none : Option Jvm.ClassFile.FieldType)) ∈ lw_all := lw_g (lw_at lw_m1 229 rfl) rfl
theorem q288 : (Jvm.Cond.instanceMethod ({ cls := "java/lang/StringBuilder", name := "<init>", desc := "()V" } : Jvm.MethodName)) ∈ lw_all := lw_g (lw_at lw_m1 228 rfl) rfl
def emp : AH := fun _ => none
theorem emp_k (h : AH) : KeepAll emp h := fun q e w => nomatch w
theorem up_nq {h : AH} {a q : Nat} {e : va_E} (x : up h a e q = none) : q ≠ a := fun z => by
  subst z; rw [up_self] at x; cases x
theorem RulerM.c0 {G : GE} {h0 h : AH} {a : Nat} {R : Nat → Int32} (m : RulerM G h0 h a R) : ∃ l, h a = some (ob 1 l) := m.o0
theorem s_init (l : Launch) (G : GE) (h : AH) (x : Nat) (rx : h x = some (ob 0 [.null, .null, .null, .null, .null, .int 0, .null, .null])) : GM l G yX1_init (ws_ yX1_init cX1_init 1 none) 13 [.ref x] (h) (800) (PQ fun h' => ∀ w, SRAt G h' x (iS w)) := by
  refine GM.of (by decide) (dk rfl) ?_
  intro X eL eG eh ok fn
  subst eL; subst eG
  show GW X _ 0 0 [some (.ref x)] []
  refine g_aload_n ok dX1_init_0 rfl ?_
  refine g_objInit ok q120 q121 q122 dX1_init_1 (dk rfl) rfl (dk rfl) ?_
  refine g_aload_n ok dX1_init_4 rfl ?_
  refine g_new ok ck_X2 q123 q124 q62 dX1_init_5 (fs := [.null, .null, .null, .null, .int 0, .int 0, .int 0, .int 0, .int 0, .int 0]) (by intro j hj; rcases (by omega : j = 0 ∨ j = 1 ∨ j = 2 ∨ j = 3 ∨ j = 4 ∨ j = 5 ∨ j = 6 ∨ j = 7 ∨ j = 8 ∨ j = 9) with rfl | rfl | rfl | rfl | rfl | rfl | rfl | rfl | rfl | rfl <;> rfl) (by omega) (fun c hac hkc h0c => ?_)
  have ne0 := Rd.ne (Rd.h (rx)) hac hkc
  refine g_dup ok dX1_init_8 rfl ?_
  have k1 : KeepAll (up emp c (ob 1 [.null, .null, .null, .null, .int 0, .int 0, .int 0, .int 0, .int 0, .int 0])) (up h c (ob 1 [.null, .null, .null, .null, .int 0, .int 0, .int 0, .int 0, .int 0, .int 0])) := fun q e w => by
    by_cases z : q = c
    · subst z; rw [up_self] at w ⊢; exact w
    · rw [up_ne z] at w; exact nomatch w
  refine g_callIN ok q125 q126 q62 q127 rfl dX1_init_9 (GM.fr k1 (x_rinit X.l X.G emp (up emp c (ob 1 [.null, .null, .null, .null, .int 0, .int 0, .int 0, .int 0, .int 0, .int 0])) c up_self (emp_k _) rfl)) (nm_ (by decide : nmb _ 0 = true)) (dl rfl) (dk rfl) rfl rfl (dk rfl) (by omega) (kFQ fun hrC hC (mC : RulerM X.G emp hrC c rO) fC => ?_) xFQ
  have kC := fC.keep
  obtain ⟨lc, hc0⟩ := mC.c0
  have xc : x ≠ c := ne0
  have xo := fC.out x _ (up_ne xc) ((up_ne ne0).trans (rx))
  have x0 := xo.1
  refine g_put ok ck_X1 0 q319 (Or.inl rfl) (by decide) rfl dX1_init_12 (xo.2) (dl rfl) rfl rfl (fs1 := [.ref c, .null, .null, .null, .null, .int 0, .null, .null]) rfl (?_)
  refine g_aload_n ok dX1_init_15 rfl ?_
  refine g_new ok ck_J2 q283 q214 q70 dX1_init_16 (fs := [.int 0, .null, .int 0]) (by intro j hj; rcases (by omega : j = 0 ∨ j = 1 ∨ j = 2) with rfl | rfl | rfl <;> rfl) (by omega) (fun hl hahl hkhl h0hl => ?_)
  have ne1 := Rd.ne (Rd.h (up_self)) hahl hkhl
  refine g_dup ok dX1_init_19 rfl ?_
  refine g_callI ok q284 q216 q70 q217 rfl dX1_init_20 (al_init X.l X.G _ hl up_self) (nm_ (by decide : nmb _ 0 = true)) (dl rfl) (dk rfl) rfl rfl (dk rfl) (by omega) (kN ?_) xN
  simp only [up_up]
  refine g_putF ok ck_X1 2 q321 rfl (by decide) rfl rfl rfl dX1_init_23 ((up_ne ne1).trans (up_self)) (dl rfl) rfl rfl (fs1 := [.ref c, .null, .ref hl, .null, .null, .int 0, .null, .null]) rfl (?_)
  refine g_aload_n ok dX1_init_26 rfl ?_
  refine g_bipush ok (v := 60) dX1_init_27 rfl ?_
  refine g_newa ok (atype := .char) (n := 60) (ai := 1) (y := (.inl (fun _ => 0))) q317 (gt_c _) (fun C h => by cases h) (fun _ => rfl) dX1_init_29 rfl (by decide) (by omega) (fun inp hainp hkinp h0inp => ?_)
  have ne2 := Rd.ne (Rd.h (up_self)) hainp hkinp
  have ne3 := Rd.ne (Rd.h ((up_ne (Ne.symm ne1)).trans (up_self))) hainp hkinp
  refine g_putF ok ck_X1 3 q322 rfl (by decide) rfl rfl rfl dX1_init_31 ((up_ne ne2).trans (up_self)) (dl rfl) rfl rfl (fs1 := [.ref c, .null, .ref hl, .ref inp, .null, .int 0, .null, .null]) rfl (?_)
  refine g_aload_n ok dX1_init_34 rfl ?_
  refine g_new ok ck_J4 q285 q286 q72 dX1_init_35 (fs := [.null, .int 0, .int 0, .int 0]) (by intro j hj; rcases (by omega : j = 0 ∨ j = 1 ∨ j = 2 ∨ j = 3) with rfl | rfl | rfl | rfl <;> rfl) (by omega) (fun ln haln hkln h0ln => ?_)
  have ne4 := Rd.ne (Rd.h (up_self)) haln hkln
  have ne5 := Rd.ne (Rd.h ((up_ne (Ne.symm ne1)).trans ((up_ne ne3).trans ((up_ne (Ne.symm ne1)).trans (up_self))))) haln hkln
  have ne6 := Rd.ne (Rd.h ((up_ne (Ne.symm ne2)).trans (up_self))) haln hkln
  refine g_dup ok dX1_init_38 rfl ?_
  refine g_callI ok q287 q288 q72 q289 rfl dX1_init_39 (sb_init X.l X.G _ ln up_self) (nm_ (by decide : nmb _ 0 = true)) (dl rfl) (dk rfl) rfl rfl (dk rfl) (by omega) (kQ fun hS ⟨lb, fl1, fl2, fl3, eS⟩ => ?_) xQ
  subst eS
  have lbn := fl1
  have pxx : (up (up (up (up (up (up hC x (ob 0 [.ref c, .null, .null, .null, .null, .int 0, .null, .null])) hl (ob 12 [.int 0, .ref (X.G.ga "E0"), .int 0])) x (ob 0 [.ref c, .null, .ref hl, .null, .null, .int 0, .null, .null])) inp (aC X.G 60 (fun _ => 0))) x (ob 0 [.ref c, .null, .ref hl, .ref inp, .null, .int 0, .null, .null])) ln (ob 14 [.null, .int 0, .int 0, .int 0])) x = some (ob 0 [.ref c, .null, .ref hl, .ref inp, .null, .int 0, .null, .null]) := (up_ne ne4).trans (up_self)
  have pxl : x ≠ lb := fun z_ => by rw [← z_] at fl1; rw [pxx] at fl1; cases fl1
  have pxn : x ≠ ln := ne4
  refine g_putF ok ck_X1 4 q323 rfl (by decide) rfl rfl rfl dX1_init_42 ((up_ne pxn).trans ((up_ne pxl).trans pxx)) (dl rfl) rfl rfl (fs1 := [.ref c, .null, .ref hl, .ref inp, .ref ln, .int 0, .null, .null]) rfl (?_)
  have nhl_x : hl ≠ x := up_nq hahl
  have ninp_x : inp ≠ x := up_nq hainp
  have ninp_hl : inp ≠ hl := up_nq (up_none hainp)
  have nln_x : ln ≠ x := up_nq haln
  have nln_inp : ln ≠ inp := up_nq (up_none haln)
  have nln_hl : ln ≠ hl := up_nq (up_none (up_none (up_none haln)))
  have nlb_ln : lb ≠ ln := up_nq fl1
  have nlb_x : lb ≠ x := up_nq (up_none fl1)
  have nlb_inp : lb ≠ inp := up_nq (up_none (up_none fl1))
  have nlb_hl : lb ≠ hl := up_nq (up_none (up_none (up_none (up_none fl1))))
  have r_hl : hrC hl = none := kC.nn0 (up_none hahl)
  have r_inp : hrC inp = none := kC.nn0 (up_none (up_none (up_none hainp)))
  have r_ln : hrC ln = none := kC.nn0 (up_none (up_none (up_none (up_none (up_none haln)))))
  have r_lb : hrC lb = none := kC.nn0 (up_none (up_none (up_none (up_none (up_none (up_none fl1))))))
  have c_hl : (up (up (up (up (up (up (up (up (up hC x (ob 0 [.ref c, .null, .null, .null, .null, .int 0, .null, .null])) hl (ob 12 [.int 0, .ref (X.G.ga "E0"), .int 0])) x (ob 0 [.ref c, .null, .ref hl, .null, .null, .int 0, .null, .null])) inp (aC X.G 60 (fun _ => 0))) x (ob 0 [.ref c, .null, .ref hl, .ref inp, .null, .int 0, .null, .null])) ln (ob 14 [.null, .int 0, .int 0, .int 0])) lb (aB X.G 16 (fun _ => 0))) ln (ob 14 [.ref lb, .int 0, .int 0, .int 0])) x (ob 0 [.ref c, .null, .ref hl, .ref inp, .ref ln, .int 0, .null, .null])) hl = some (ob 12 [.int 0, .ref (X.G.ga "E0"), .int 0]) := by rw [up_ne nhl_x, up_ne (Ne.symm nln_hl), up_ne (Ne.symm nlb_hl), up_ne (Ne.symm nln_hl), up_ne nhl_x, up_ne (Ne.symm ninp_hl), up_ne nhl_x]; exact up_self
  have c_inp : (up (up (up (up (up (up (up (up (up hC x (ob 0 [.ref c, .null, .null, .null, .null, .int 0, .null, .null])) hl (ob 12 [.int 0, .ref (X.G.ga "E0"), .int 0])) x (ob 0 [.ref c, .null, .ref hl, .null, .null, .int 0, .null, .null])) inp (aC X.G 60 (fun _ => 0))) x (ob 0 [.ref c, .null, .ref hl, .ref inp, .null, .int 0, .null, .null])) ln (ob 14 [.null, .int 0, .int 0, .int 0])) lb (aB X.G 16 (fun _ => 0))) ln (ob 14 [.ref lb, .int 0, .int 0, .int 0])) x (ob 0 [.ref c, .null, .ref hl, .ref inp, .ref ln, .int 0, .null, .null])) inp = some (aC X.G 60 (fun _ => 0)) := by rw [up_ne ninp_x, up_ne (Ne.symm nln_inp), up_ne (Ne.symm nlb_inp), up_ne (Ne.symm nln_inp), up_ne ninp_x]; exact up_self
  have c_ln : (up (up (up (up (up (up (up (up (up hC x (ob 0 [.ref c, .null, .null, .null, .null, .int 0, .null, .null])) hl (ob 12 [.int 0, .ref (X.G.ga "E0"), .int 0])) x (ob 0 [.ref c, .null, .ref hl, .null, .null, .int 0, .null, .null])) inp (aC X.G 60 (fun _ => 0))) x (ob 0 [.ref c, .null, .ref hl, .ref inp, .null, .int 0, .null, .null])) ln (ob 14 [.null, .int 0, .int 0, .int 0])) lb (aB X.G 16 (fun _ => 0))) ln (ob 14 [.ref lb, .int 0, .int 0, .int 0])) x (ob 0 [.ref c, .null, .ref hl, .ref inp, .ref ln, .int 0, .null, .null])) ln = some (ob 14 [.ref lb, .int 0, .int 0, .int 0]) := by rw [up_ne nln_x]; exact up_self
  have c_lb : (up (up (up (up (up (up (up (up (up hC x (ob 0 [.ref c, .null, .null, .null, .null, .int 0, .null, .null])) hl (ob 12 [.int 0, .ref (X.G.ga "E0"), .int 0])) x (ob 0 [.ref c, .null, .ref hl, .null, .null, .int 0, .null, .null])) inp (aC X.G 60 (fun _ => 0))) x (ob 0 [.ref c, .null, .ref hl, .ref inp, .null, .int 0, .null, .null])) ln (ob 14 [.null, .int 0, .int 0, .int 0])) lb (aB X.G 16 (fun _ => 0))) ln (ob 14 [.ref lb, .int 0, .int 0, .int 0])) x (ob 0 [.ref c, .null, .ref hl, .ref inp, .ref ln, .int 0, .null, .null])) lb = some (aB X.G 16 (fun _ => 0)) := by rw [up_ne nlb_x, up_ne nlb_ln]; exact up_self
  have c_x : (up (up (up (up (up (up (up (up (up hC x (ob 0 [.ref c, .null, .null, .null, .null, .int 0, .null, .null])) hl (ob 12 [.int 0, .ref (X.G.ga "E0"), .int 0])) x (ob 0 [.ref c, .null, .ref hl, .null, .null, .int 0, .null, .null])) inp (aC X.G 60 (fun _ => 0))) x (ob 0 [.ref c, .null, .ref hl, .ref inp, .null, .int 0, .null, .null])) ln (ob 14 [.null, .int 0, .int 0, .int 0])) lb (aB X.G 16 (fun _ => 0))) ln (ob 14 [.ref lb, .int 0, .int 0, .int 0])) x (ob 0 [.ref c, .null, .ref hl, .ref inp, .ref ln, .int 0, .null, .null])) x = some (ob 0 [.ref c, .null, .ref hl, .ref inp, .ref ln, .int 0, .null, .null]) := up_self
  have kF : KeepAll hrC (up (up (up (up (up (up (up (up (up hC x (ob 0 [.ref c, .null, .null, .null, .null, .int 0, .null, .null])) hl (ob 12 [.int 0, .ref (X.G.ga "E0"), .int 0])) x (ob 0 [.ref c, .null, .ref hl, .null, .null, .int 0, .null, .null])) inp (aC X.G 60 (fun _ => 0))) x (ob 0 [.ref c, .null, .ref hl, .ref inp, .null, .int 0, .null, .null])) ln (ob 14 [.null, .int 0, .int 0, .int 0])) lb (aB X.G 16 (fun _ => 0))) ln (ob 14 [.ref lb, .int 0, .int 0, .int 0])) x (ob 0 [.ref c, .null, .ref hl, .ref inp, .ref ln, .int 0, .null, .null])) := ((((((((kC.put x0).put r_hl).put x0).put r_inp).put x0).put r_ln).put r_lb).put r_ln).put x0
  have yr := RulerAt.all (P' := fun q => (fun _ => c) q = c) mC.at (KeepAll.refl _) (fun q _ _ => rfl)
  generalize (up (up (up (up (up (up (up (up (up hC x (ob 0 [.ref c, .null, .null, .null, .null, .int 0, .null, .null])) hl (ob 12 [.int 0, .ref (X.G.ga "E0"), .int 0])) x (ob 0 [.ref c, .null, .ref hl, .null, .null, .int 0, .null, .null])) inp (aC X.G 60 (fun _ => 0))) x (ob 0 [.ref c, .null, .ref hl, .ref inp, .null, .int 0, .null, .null])) ln (ob 14 [.null, .int 0, .int 0, .int 0])) lb (aB X.G 16 (fun _ => 0))) ln (ob 14 [.ref lb, .int 0, .int 0, .int 0])) x (ob 0 [.ref c, .null, .ref hl, .ref inp, .ref ln, .int 0, .null, .null])) = HF at *
  refine g_vret ok fn rfl dX1_init_45 ⟨rfl, fun w_ => ⟨fun _ => c, hrC, c, .null, hl, X.G.ga "E0", 0, 0, fun _ => none, inp, ln, .null, .null, kF, x0, c_x, r_hl, Or.inl rfl, ⟨c_hl, Or.inl ⟨rfl, rfl, rfl⟩, Nat.le_refl _, by decide⟩, by decide, ⟨rfl, by show nn 0 ≤ 6; decide⟩, ⟨⟨yr, fun p hp => absurd hp (Nat.not_lt_zero p)⟩, fun k hk => absurd hk (Nat.not_lt_zero k), fun j k _ hk => absurd hk (Nat.not_lt_zero k), Or.inl ⟨rfl, rfl⟩⟩, ⟨r_inp, ⟨rfl, by show nn 0 ≤ 60; decide⟩, _, c_inp, fun c hc => rfl⟩, ⟨r_ln, ⟨rfl, by show nn 0 ≤ 200; decide, fun j hj => absurd hj (Nat.not_lt_zero j)⟩, lb, 16, 0, _, r_lb, nlb_inp, ⟨c_ln, c_lb, by show nn 0 ≤ 16; decide, by decide, fun j _ => ⟨0, by decide, rfl⟩⟩, by decide, fun j hj => absurd hj (Nat.not_lt_zero j)⟩, ⟨Or.inl ⟨rfl, by show (-1 : Int32) < 0; decide⟩, Or.inl ⟨rfl, rfl⟩⟩⟩⟩ (by omega)
