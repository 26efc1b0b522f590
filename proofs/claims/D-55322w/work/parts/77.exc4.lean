/-! exceptions of the program: made, thrown -/
set_option maxRecDepth 100000
abbrev cX11_init : ByteArray := prog_15_method_1_code
def yX11_init : MethodName := ⟨RX11, "<init>", "(II)V"⟩
def dkwX11_init_0 : List UInt8 := [42, 183, 0, 1, 42, 27, 181, 0, 7, 42, 28, 181, 0, 13, 177]
abbrev dktX11_init_0 : List UInt8 := dkwX11_init_0 ++ []
theorem dksX11_init_0 : cX11_init.data.toList.drop 0 = dktX11_init_0 := by decide +kernel
theorem dX11_init_0 : decode cX11_init 0 = .ok (.aload_n 0, 1) := dk_42 (dk_at dksX11_init_0 0 rfl rfl)
theorem dX11_init_1 : decode cX11_init 1 = .ok (.invokespecial 1, 3) := dk_183 0 1 (dk_at dksX11_init_0 1 rfl rfl)
theorem dX11_init_4 : decode cX11_init 4 = .ok (.aload_n 0, 1) := dk_42 (dk_at dksX11_init_0 4 rfl rfl)
theorem dX11_init_5 : decode cX11_init 5 = .ok (.iload_n 1, 1) := dk_27 (dk_at dksX11_init_0 5 rfl rfl)
theorem dX11_init_6 : decode cX11_init 6 = .ok (.putfield 7, 3) := dk_181 0 7 (dk_at dksX11_init_0 6 rfl rfl)
theorem dX11_init_9 : decode cX11_init 9 = .ok (.aload_n 0, 1) := dk_42 (dk_at dksX11_init_0 9 rfl rfl)
theorem dX11_init_10 : decode cX11_init 10 = .ok (.iload_n 2, 1) := dk_28 (dk_at dksX11_init_0 10 rfl rfl)
theorem dX11_init_11 : decode cX11_init 11 = .ok (.putfield 13, 3) := dk_181 0 13 (dk_at dksX11_init_0 11 rfl rfl)
theorem dX11_init_14 : decode cX11_init 14 = .ok (.return_, 1) := dk_177 (dk_at dksX11_init_0 14 rfl rfl)
abbrev cX14_init : ByteArray := prog_3_method_1_code
def yX14_init : MethodName := ⟨RX14, "<init>", "(I)V"⟩
def dkwX14_init_0 : List UInt8 := [42, 183, 0, 1, 42, 27, 181, 0, 7, 177]
abbrev dktX14_init_0 : List UInt8 := dkwX14_init_0 ++ []
theorem dksX14_init_0 : cX14_init.data.toList.drop 0 = dktX14_init_0 := by decide +kernel
theorem dX14_init_0 : decode cX14_init 0 = .ok (.aload_n 0, 1) := dk_42 (dk_at dksX14_init_0 0 rfl rfl)
theorem dX14_init_1 : decode cX14_init 1 = .ok (.invokespecial 1, 3) := dk_183 0 1 (dk_at dksX14_init_0 1 rfl rfl)
theorem dX14_init_4 : decode cX14_init 4 = .ok (.aload_n 0, 1) := dk_42 (dk_at dksX14_init_0 4 rfl rfl)
theorem dX14_init_5 : decode cX14_init 5 = .ok (.iload_n 1, 1) := dk_27 (dk_at dksX14_init_0 5 rfl rfl)
theorem dX14_init_6 : decode cX14_init 6 = .ok (.putfield 7, 3) := dk_181 0 7 (dk_at dksX14_init_0 6 rfl rfl)
theorem dX14_init_9 : decode cX14_init 9 = .ok (.return_, 1) := dk_177 (dk_at dksX14_init_0 9 rfl rfl)
abbrev cX1_refuse : ByteArray := prog_1_method_9_code
def yX1_refuse : MethodName := ⟨RX1, "refuse", "(ZII)V"⟩
def dkwX1_refuse_0 : List UInt8 := [26, 153, 0, 13, 187, 0, 26, 89, 27, 28, 183, 0, 28, 191, 177]
abbrev dktX1_refuse_0 : List UInt8 := dkwX1_refuse_0 ++ []
theorem dksX1_refuse_0 : cX1_refuse.data.toList.drop 0 = dktX1_refuse_0 := by decide +kernel
theorem dX1_refuse_0 : decode cX1_refuse 0 = .ok (.iload_n 0, 1) := dk_26 (dk_at dksX1_refuse_0 0 rfl rfl)
theorem dX1_refuse_1 : decode cX1_refuse 1 = .ok (.ifCond .eq 13, 3) := dk_153 0 13 (dk_at dksX1_refuse_0 1 rfl rfl)
theorem dX1_refuse_4 : decode cX1_refuse 4 = .ok (.new 26, 3) := dk_187 0 26 (dk_at dksX1_refuse_0 4 rfl rfl)
theorem dX1_refuse_7 : decode cX1_refuse 7 = .ok (.dup, 1) := dk_89 (dk_at dksX1_refuse_0 7 rfl rfl)
theorem dX1_refuse_8 : decode cX1_refuse 8 = .ok (.iload_n 1, 1) := dk_27 (dk_at dksX1_refuse_0 8 rfl rfl)
theorem dX1_refuse_9 : decode cX1_refuse 9 = .ok (.iload_n 2, 1) := dk_28 (dk_at dksX1_refuse_0 9 rfl rfl)
theorem dX1_refuse_10 : decode cX1_refuse 10 = .ok (.invokespecial 28, 3) := dk_183 0 28 (dk_at dksX1_refuse_0 10 rfl rfl)
theorem dX1_refuse_13 : decode cX1_refuse 13 = .ok (.athrow, 1) := dk_191 (dk_at dksX1_refuse_0 13 rfl rfl)
theorem dX1_refuse_14 : decode cX1_refuse 14 = .ok (.return_, 1) := dk_177 (dk_at dksX1_refuse_0 14 rfl rfl)
abbrev cX1_kept : ByteArray := prog_1_method_18_code
def yX1_kept : MethodName := ⟨RX1, "kept", "(LSpanRuler$Refusal;)Ljava/lang/UnsupportedOperationException;"⟩
def dkwX1_kept_0 : List UInt8 := [42, 43, 181, 0, 160, 187, 0, 164, 89, 183, 0, 166, 176]
abbrev dktX1_kept_0 : List UInt8 := dkwX1_kept_0 ++ []
theorem dksX1_kept_0 : cX1_kept.data.toList.drop 0 = dktX1_kept_0 := by decide +kernel
theorem dX1_kept_0 : decode cX1_kept 0 = .ok (.aload_n 0, 1) := dk_42 (dk_at dksX1_kept_0 0 rfl rfl)
theorem dX1_kept_1 : decode cX1_kept 1 = .ok (.aload_n 1, 1) := dk_43 (dk_at dksX1_kept_0 1 rfl rfl)
theorem dX1_kept_2 : decode cX1_kept 2 = .ok (.putfield 160, 3) := dk_181 0 160 (dk_at dksX1_kept_0 2 rfl rfl)
theorem dX1_kept_5 : decode cX1_kept 5 = .ok (.new 164, 3) := dk_187 0 164 (dk_at dksX1_kept_0 5 rfl rfl)
theorem dX1_kept_8 : decode cX1_kept 8 = .ok (.dup, 1) := dk_89 (dk_at dksX1_kept_0 8 rfl rfl)
theorem dX1_kept_9 : decode cX1_kept 9 = .ok (.invokespecial 166, 3) := dk_183 0 166 (dk_at dksX1_kept_0 9 rfl rfl)
theorem dX1_kept_12 : decode cX1_kept 12 = .ok (.areturn, 1) := dk_176 (dk_at dksX1_kept_0 12 rfl rfl)
theorem q1075 : (Jvm.Cond.selects "SpanRuler$Refusal" ({ cls := "java/lang/Throwable", name := "fillInStackTrace", desc := "(I)Ljava/lang/Throwable;" } : Jvm.MethodName) ({ cls := "java/lang/Throwable", name := "fillInStackTrace", desc := "(I)Ljava/lang/Throwable;" } : Jvm.MethodName)) ∈ lw_all := lw_g (lw_at lw_m5 55 rfl) rfl
theorem q466 : (Jvm.Cond.selects "SpanRuler$Refusal" ({ cls := "java/lang/Throwable", name := "fillInStackTrace", desc := "()Ljava/lang/Throwable;" } : Jvm.MethodName) ({ cls := "java/lang/Throwable", name := "fillInStackTrace", desc := "()Ljava/lang/Throwable;" } : Jvm.MethodName)) ∈ lw_all := lw_g (lw_at lw_m2 166 rfl) rfl
theorem q1076 : (Jvm.Cond.lays "SpanRuler$Refusal" "java/lang/Throwable" "cause" "Ljava/lang/Throwable;") ∈ lw_all := lw_g (lw_at lw_m5 56 rfl) rfl
theorem q1077 : (Jvm.Cond.lays "SpanRuler$Refusal" "java/lang/Throwable" "stackTrace" "[Ljava/lang/StackTraceElement;") ∈ lw_all := lw_g (lw_at lw_m5 57 rfl) rfl
theorem q1078 : (Jvm.Cond.lays "SpanRuler$Refusal" "java/lang/Throwable" "suppressedExceptions" "Ljava/util/List;") ∈ lw_all := lw_g (lw_at lw_m5 58 rfl) rfl
theorem q1079 : (Jvm.Cond.lays "SpanRuler$Refusal" "java/lang/Throwable" "detailMessage" "Ljava/lang/String;") ∈ lw_all := lw_g (lw_at lw_m5 59 rfl) rfl
theorem q1080 : (Jvm.Cond.lays "SpanRuler$Refusal" "java/lang/Throwable" "backtrace" "Ljava/lang/Object;") ∈ lw_all := lw_g (lw_at lw_m5 60 rfl) rfl
theorem q1084 : (Jvm.Cond.methodLink "SpanRuler$Refusal" (1 : Nat) ({ cls := "java/lang/Exception", name := "<init>", desc := "()V" } : Jvm.MethodName)) ∈ lw_all := lw_g (lw_at lw_m5 64 rfl) rfl
theorem q1085 : (Jvm.Cond.fieldLink "SpanRuler$Refusal" (7 : Nat) "SpanRuler$Refusal" "reason" "I") ∈ lw_all := lw_g (lw_at lw_m5 65 rfl) rfl
theorem q1087 : (Jvm.Cond.fieldLink "SpanRuler$Refusal" (13 : Nat) "SpanRuler$Refusal" "detail" "I") ∈ lw_all := lw_g (lw_at lw_m5 67 rfl) rfl
theorem q2033 : (Jvm.Cond.selects "SpanRuler$BadText" ({ cls := "java/lang/Throwable", name := "fillInStackTrace", desc := "(I)Ljava/lang/Throwable;" } : Jvm.MethodName) ({ cls := "java/lang/Throwable", name := "fillInStackTrace", desc := "(I)Ljava/lang/Throwable;" } : Jvm.MethodName)) ∈ lw_all := lw_g (lw_at lw_m9 53 rfl) rfl
theorem q465 : (Jvm.Cond.selects "SpanRuler$BadText" ({ cls := "java/lang/Throwable", name := "fillInStackTrace", desc := "()Ljava/lang/Throwable;" } : Jvm.MethodName) ({ cls := "java/lang/Throwable", name := "fillInStackTrace", desc := "()Ljava/lang/Throwable;" } : Jvm.MethodName)) ∈ lw_all := lw_g (lw_at lw_m2 165 rfl) rfl
theorem q2034 : (Jvm.Cond.lays "SpanRuler$BadText" "java/lang/Throwable" "cause" "Ljava/lang/Throwable;") ∈ lw_all := lw_g (lw_at lw_m9 54 rfl) rfl
theorem q2035 : (Jvm.Cond.lays "SpanRuler$BadText" "java/lang/Throwable" "stackTrace" "[Ljava/lang/StackTraceElement;") ∈ lw_all := lw_g (lw_at lw_m9 55 rfl) rfl
theorem q2036 : (Jvm.Cond.lays "SpanRuler$BadText" "java/lang/Throwable" "suppressedExceptions" "Ljava/util/List;") ∈ lw_all := lw_g (lw_at lw_m9 56 rfl) rfl
theorem q2037 : (Jvm.Cond.lays "SpanRuler$BadText" "java/lang/Throwable" "detailMessage" "Ljava/lang/String;") ∈ lw_all := lw_g (lw_at lw_m9 57 rfl) rfl
theorem q2038 : (Jvm.Cond.lays "SpanRuler$BadText" "java/lang/Throwable" "backtrace" "Ljava/lang/Object;") ∈ lw_all := lw_g (lw_at lw_m9 58 rfl) rfl
theorem q2042 : (Jvm.Cond.methodLink "SpanRuler$BadText" (1 : Nat) ({ cls := "java/lang/Exception", name := "<init>", desc := "()V" } : Jvm.MethodName)) ∈ lw_all := lw_g (lw_at lw_m9 62 rfl) rfl
theorem q2043 : (Jvm.Cond.fieldLink "SpanRuler$BadText" (7 : Nat) "SpanRuler$BadText" "position" "I") ∈ lw_all := lw_g (lw_at lw_m9 63 rfl) rfl
theorem q994 : (Jvm.Cond.classLink "SpanRuler" (26 : Nat) "SpanRuler$Refusal") ∈ lw_all := lw_g (lw_at lw_m4 214 rfl) rfl
theorem q1073 : (Jvm.Cond.instantiable "SpanRuler$Refusal" (8 : Nat)) ∈ lw_all := lw_g (lw_at lw_m5 53 rfl) rfl
theorem q96 : (Jvm.Cond.initialized "SpanRuler$Refusal") ∈ lw_all := lw_g (lw_at lw_m1 36 rfl) rfl
theorem q1081 : (Jvm.Cond.methodLink "SpanRuler" (28 : Nat) ({ cls := "SpanRuler$Refusal", name := "<init>", desc := "(II)V" } : Jvm.MethodName)) ∈ lw_all := lw_g (lw_at lw_m5 61 rfl) rfl
theorem q1082 : (Jvm.Cond.instanceMethod ({ cls := "SpanRuler$Refusal", name := "<init>", desc := "(II)V" } : Jvm.MethodName)) ∈ lw_all := lw_g (lw_at lw_m5 62 rfl) rfl
theorem q1083 : (Jvm.Cond.code ({ cls := "SpanRuler$Refusal", name := "<init>", desc := "(II)V" } : Jvm.MethodName) prog_15_method_1_code (3 : Nat) (Option.none : Option Jvm.ClassFile.FieldType)) ∈ lw_all := lw_g (lw_at lw_m5 63 rfl) rfl
theorem q326 : (Jvm.Cond.fieldLink "SpanRuler" (160 : Nat) "SpanRuler" "refusal" "LSpanRuler$Refusal;") ∈ lw_all := lw_g (lw_at lw_m2 26 rfl) rfl
theorem q1136 : (Jvm.Cond.classLink "SpanRuler" (164 : Nat) "java/lang/UnsupportedOperationException") ∈ lw_all := lw_g (lw_at lw_m5 116 rfl) rfl
theorem q97 : (Jvm.Cond.initialized "java/lang/UnsupportedOperationException") ∈ lw_all := lw_g (lw_at lw_m1 37 rfl) rfl
theorem q1145 : (Jvm.Cond.methodLink "SpanRuler" (166 : Nat) ({ cls := "java/lang/UnsupportedOperationException", name := "<init>", desc := "()V" } : Jvm.MethodName)) ∈ lw_all := lw_g (lw_at lw_m5 125 rfl) rfl
section
variable {X : GX} {yM : MethodName} {cc : ByteArray} {nL : Nat} {rT : Option FieldType} {hH : List (Nat × Nat × Nat × Nat)} {lV kB : Nat}
theorem xs_X11 (ok : Ok X yM cc nL rT hH lV kB) : XA X (XSup "SpanRuler$Refusal") := (XA.c (xa_g ok q1075) (XA.c (xa_g ok q466) (XA.c (xa_g ok q1076) (XA.c (xa_g ok q1077) (XA.c (xa_g ok q1078) (XA.c (xa_g ok q1079) (XA.c (xa_g ok q453) (XA.c (xa_g ok q452) (XA.c (xa_g ok q1080) XA.n)))))))))
end
theorem x_refInit (l : Launch) (G : GE) (h : AH) (a : Nat) (r : Int32) (d : Int32) (ra : h a = some (ob 7 [.null, .null, .null, .null, .null, .int 0, .int 0, .int 0])) : MF l G yX11_init 7 (ws_ yX11_init cX11_init 3 none) 1 a [.int r, .int d] h 0 (PQ fun h' => ∃ u w, h' = up h a (ob 7 [.ref a, u, w, .null, .null, .int 0, .int r, .int d])) := by
  refine MF.of (by decide) (dk rfl) ?_
  intro X eL eG eh ok fn hB
  subst eL; subst eG
  show GW0 X _ 0 [some (.ref a), some (.int r), some (.int d)] []
  refine h0_aload_n ok dX11_init_0 rfl ?_
  refine g_super0 ok ck_X11 (by decide) rfl rfl rfl q1084 (xs_X11 ok) (xa_thr ok) (xa_exc ok) ra eh hB dX11_init_1 rfl (dk rfl) (by omega) (fun u w => ?_)
  refine g_aload_n ok dX11_init_4 rfl ?_
  refine g_iload_n ok dX11_init_5 rfl ?_
  refine g_putF ok ck_X11 6 q1085 rfl (by decide) rfl rfl rfl dX11_init_6 (up_self) (dl rfl) rfl rfl (fs1 := [.ref a, u, w, .null, .null, .int 0, .int r, .int 0]) rfl (?_)
  refine g_aload_n ok dX11_init_9 rfl ?_
  refine g_iload_n ok dX11_init_10 rfl ?_
  refine g_putF ok ck_X11 7 q1087 rfl (by decide) rfl rfl rfl dX11_init_11 (up_self) (dl rfl) rfl rfl (fs1 := [.ref a, u, w, .null, .null, .int 0, .int r, .int d]) rfl (?_)
  exact g_vret ok fn rfl dX11_init_14 ⟨rfl, u, w, by simp only [up_up]⟩ (by omega)
section
variable {X : GX} {yM : MethodName} {cc : ByteArray} {nL : Nat} {rT : Option FieldType} {hH : List (Nat × Nat × Nat × Nat)} {lV kB : Nat}
theorem xs_X14 (ok : Ok X yM cc nL rT hH lV kB) : XA X (XSup "SpanRuler$BadText") := (XA.c (xa_g ok q2033) (XA.c (xa_g ok q465) (XA.c (xa_g ok q2034) (XA.c (xa_g ok q2035) (XA.c (xa_g ok q2036) (XA.c (xa_g ok q2037) (XA.c (xa_g ok q453) (XA.c (xa_g ok q452) (XA.c (xa_g ok q2038) XA.n)))))))))
end
theorem x_badInit (l : Launch) (G : GE) (h : AH) (a : Nat) (r : Int32) (ra : h a = some (ob 10 [.null, .null, .null, .null, .null, .int 0, .int 0])) : MF l G yX14_init 10 (ws_ yX14_init cX14_init 2 none) 1 a [.int r] h 0 (PQ fun h' => ∃ u w, h' = up h a (ob 10 [.ref a, u, w, .null, .null, .int 0, .int r])) := by
  refine MF.of (by decide) (dk rfl) ?_
  intro X eL eG eh ok fn hB
  subst eL; subst eG
  show GW0 X _ 0 [some (.ref a), some (.int r)] []
  refine h0_aload_n ok dX14_init_0 rfl ?_
  refine g_super0 ok ck_X14 (by decide) rfl rfl rfl q2042 (xs_X14 ok) (xa_thr ok) (xa_exc ok) ra eh hB dX14_init_1 rfl (dk rfl) (by omega) (fun u w => ?_)
  refine g_aload_n ok dX14_init_4 rfl ?_
  refine g_iload_n ok dX14_init_5 rfl ?_
  refine g_putF ok ck_X14 6 q2043 rfl (by decide) rfl rfl rfl dX14_init_6 (up_self) (dl rfl) rfl rfl (fs1 := [.ref a, u, w, .null, .null, .int 0, .int r]) rfl (?_)
  exact g_vret ok fn rfl dX14_init_9 ⟨rfl, u, w, by simp only [up_up]⟩ (by omega)
/-- a Refusal is thrown -/
def PTR (G : GE) (r d : Int32) (h : AH) : Out → AH → Prop := fun o h' => ∃ q u w, o = .inr ("SpanRuler$Refusal", q) ∧ h q = none ∧ G.kh q = none ∧ h' = up h q (ob 7 [.ref q, u, w, .null, .null, .int 0, .int r, .int d])
section
variable {X : GX} {pc : Nat} {ls : List (Option Value)} {st : List Value}
theorem kTR {G : GE} {kD : Nat} {h : AH} {r d : Int32} : ∀ w h', PTR G r d h (.inl w) h' → GW X h' kD pc ls (w.toList ++ st) := fun w h' ⟨q, _, _, e, _⟩ => nomatch e
theorem xTR {G : GE} {kD : Nat} {h : AH} {r d : Int32} {ls1 : List (Option Value)} {st1 : List Value} (kk : ∀ q u w, h q = none → G.kh q = none → GWX X (up h q (ob 7 [.ref q, u, w, .null, .null, .int 0, .int r, .int d])) kD pc ls1 st1 "SpanRuler$Refusal" q) : ∀ c q h', PTR G r d h (.inr (c, q)) h' → GWX X h' kD pc ls1 st1 c q := by
  rintro c q h' ⟨q2, u, w, e, f1, f2, f3⟩
  cases e; subst f3; exact kk q u w f1 f2
end
theorem x_refuse0 (l : Launch) (G : GE) (h : AH) (r d : Int32) : GM l G yX1_refuse (ws_ yX1_refuse cX1_refuse 3 none) 1 [.int 0, .int r, .int d] (h) (0) (PN h) := by
  refine GM.of (by decide) (dk rfl) ?_
  intro X eL eG eh ok fn
  subst eL; subst eG
  show GW X _ 0 0 [some (.int 0), some (.int r), some (.int d)] []
  refine g_iload_n ok dX1_refuse_0 rfl ?_
  refine g_if_eq ok (tgt := 14) dX1_refuse_1 (by decide) (fun _ => ?_) (fun c_ => absurd rfl c_)
  exact g_vret ok fn rfl dX1_refuse_14 ⟨rfl, rfl⟩ (by omega)
theorem x_refuse1 (l : Launch) (G : GE) (h : AH) (r d : Int32) : GM l G yX1_refuse (ws_ yX1_refuse cX1_refuse 3 none) 2 [.int 1, .int r, .int d] (h) (9) (PTR G r d h) := by
  refine GM.of (by decide) (dk rfl) ?_
  intro X eL eG eh ok fn
  subst eL; subst eG
  show GW X _ 0 0 [some (.int 1), some (.int r), some (.int d)] []
  refine g_iload_n ok dX1_refuse_0 rfl ?_
  refine g_if_eq ok (tgt := 14) dX1_refuse_1 (by decide) (fun c_ => absurd c_ (by decide)) (fun _ => ?_)
  refine h_new ok ck_X11 q994 q1073 q96 dX1_refuse_4 (fs := [.null, .null, .null, .null, .null, .int 0, .int 0, .int 0]) (by intro j hj; rcases (by omega : j = 0 ∨ j = 1 ∨ j = 2 ∨ j = 3 ∨ j = 4 ∨ j = 5 ∨ j = 6 ∨ j = 7) with rfl | rfl | rfl | rfl | rfl | rfl | rfl | rfl <;> rfl) (by omega) (fun qx haqx hkqx h0qx HX hBX => ?_)
  refine h_dup ok dX1_refuse_7 rfl ?_
  refine h_iload_n ok dX1_refuse_8 rfl ?_
  refine h_iload_n ok dX1_refuse_9 rfl ?_
  refine h_callI ok q1081 q1082 q96 q1083 rfl dX1_refuse_10 (x_refInit X.l X.G _ qx r d up_self) hBX (nm_ (by decide : nmb _ 2 = true)) (dl rfl) (dk rfl) rfl rfl (dk rfl) (by omega) (kQ fun hx ⟨ux, wx, ex⟩ => ?_) xQ
  rw [up_up] at ex; subst ex
  refine g_athrow ok gc_X11 dX1_refuse_13 up_self ?_
  exact g_out ok fn (fun z hz => nomatch hz) ⟨qx, ux, wx, rfl, haqx, hkqx, rfl⟩ (by omega)
theorem x_kept (l : Launch) (G : GE) (h : AH) (a r : Nat) (v0 v1 v2 v3 v4 v5 v6 v7 : Value) (ra : h a = some (ob 0 [v0, v1, v2, v3, v4, v5, v6, v7])) : GM l G yX1_kept (ws_ yX1_kept cX1_kept 2 (some (.object "java/lang/UnsupportedOperationException"))) 1 [.ref a, .ref r] (h) (6) (PR fun u h' => ∃ q, u = .ref q ∧ up h a (ob 0 [v0, v1, v2, v3, v4, v5, v6, .ref r]) q = none ∧ G.kh q = none ∧ h' = up (up h a (ob 0 [v0, v1, v2, v3, v4, v5, v6, .ref r])) q (ob 22 [])) := by
  refine GM.of (by decide) (dk rfl) ?_
  intro X eL eG eh ok fn
  subst eL; subst eG
  show GW X _ 0 0 [some (.ref a), some (.ref r)] []
  refine g_aload_n ok dX1_kept_0 rfl ?_
  refine g_aload_n ok dX1_kept_1 rfl ?_
  refine g_put ok ck_X1 7 q326 (Or.inl rfl) (by decide) rfl dX1_kept_2 (ra) (dl rfl) rfl rfl (fs1 := [v0, v1, v2, v3, v4, v5, v6, .ref r]) rfl (?_)
  refine g_make0 ok gc_J23 (by decide) q1136 q97 (xa_J23 ok q1145) dX1_kept_5 dX1_kept_8 dX1_kept_9 rfl (dk rfl) (by omega) (by omega) (fun q1_x fq1_x kq1_x zq1_x => ?_)
  exact g_aret ok fn rfl (Or.inl ⟨_, rfl⟩) (Or.inr ⟨_, rfl⟩) dX1_kept_12 ⟨_, rfl, q1_x, rfl, fq1_x, kq1_x, rfl⟩ (by omega)
