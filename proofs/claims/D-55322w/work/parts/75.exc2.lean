/-! exceptions thrown: the checks -/
set_option maxRecDepth 100000
abbrev cX1_checkArgument : ByteArray := prog_1_method_5_code
def yX1_checkArgument : MethodName := ⟨RX1, "checkArgument", "(Z)V"⟩
def dkwX1_checkArgument_0 : List UInt8 := [26, 154, 0, 11, 187, 0, 11, 89, 183, 0, 13, 191, 177]
abbrev dktX1_checkArgument_0 : List UInt8 := dkwX1_checkArgument_0 ++ []
theorem dksX1_checkArgument_0 : cX1_checkArgument.data.toList.drop 0 = dktX1_checkArgument_0 := by decide +kernel
theorem dX1_checkArgument_0 : decode cX1_checkArgument 0 = .ok (.iload_n 0, 1) := dk_26 (dk_at dksX1_checkArgument_0 0 rfl rfl)
theorem dX1_checkArgument_1 : decode cX1_checkArgument 1 = .ok (.ifCond .ne 11, 3) := dk_154 0 11 (dk_at dksX1_checkArgument_0 1 rfl rfl)
theorem dX1_checkArgument_4 : decode cX1_checkArgument 4 = .ok (.new 11, 3) := dk_187 0 11 (dk_at dksX1_checkArgument_0 4 rfl rfl)
theorem dX1_checkArgument_7 : decode cX1_checkArgument 7 = .ok (.dup, 1) := dk_89 (dk_at dksX1_checkArgument_0 7 rfl rfl)
theorem dX1_checkArgument_8 : decode cX1_checkArgument 8 = .ok (.invokespecial 13, 3) := dk_183 0 13 (dk_at dksX1_checkArgument_0 8 rfl rfl)
theorem dX1_checkArgument_11 : decode cX1_checkArgument 11 = .ok (.athrow, 1) := dk_191 (dk_at dksX1_checkArgument_0 11 rfl rfl)
theorem dX1_checkArgument_12 : decode cX1_checkArgument 12 = .ok (.return_, 1) := dk_177 (dk_at dksX1_checkArgument_0 12 rfl rfl)
abbrev cX1_checkIndex : ByteArray := prog_1_method_6_code
def yX1_checkIndex : MethodName := ⟨RX1, "checkIndex", "(Z)V"⟩
def dkwX1_checkIndex_0 : List UInt8 := [26, 154, 0, 11, 187, 0, 17, 89, 183, 0, 19, 191, 177]
abbrev dktX1_checkIndex_0 : List UInt8 := dkwX1_checkIndex_0 ++ []
theorem dksX1_checkIndex_0 : cX1_checkIndex.data.toList.drop 0 = dktX1_checkIndex_0 := by decide +kernel
theorem dX1_checkIndex_0 : decode cX1_checkIndex 0 = .ok (.iload_n 0, 1) := dk_26 (dk_at dksX1_checkIndex_0 0 rfl rfl)
theorem dX1_checkIndex_1 : decode cX1_checkIndex 1 = .ok (.ifCond .ne 11, 3) := dk_154 0 11 (dk_at dksX1_checkIndex_0 1 rfl rfl)
theorem dX1_checkIndex_4 : decode cX1_checkIndex 4 = .ok (.new 17, 3) := dk_187 0 17 (dk_at dksX1_checkIndex_0 4 rfl rfl)
theorem dX1_checkIndex_7 : decode cX1_checkIndex 7 = .ok (.dup, 1) := dk_89 (dk_at dksX1_checkIndex_0 7 rfl rfl)
theorem dX1_checkIndex_8 : decode cX1_checkIndex 8 = .ok (.invokespecial 19, 3) := dk_183 0 19 (dk_at dksX1_checkIndex_0 8 rfl rfl)
theorem dX1_checkIndex_11 : decode cX1_checkIndex 11 = .ok (.athrow, 1) := dk_191 (dk_at dksX1_checkIndex_0 11 rfl rfl)
theorem dX1_checkIndex_12 : decode cX1_checkIndex 12 = .ok (.return_, 1) := dk_177 (dk_at dksX1_checkIndex_0 12 rfl rfl)
abbrev cX1_checkElement : ByteArray := prog_1_method_8_code
def yX1_checkElement : MethodName := ⟨RX1, "checkElement", "(Z)V"⟩
def dkwX1_checkElement_0 : List UInt8 := [26, 154, 0, 11, 187, 0, 23, 89, 183, 0, 25, 191, 177]
abbrev dktX1_checkElement_0 : List UInt8 := dkwX1_checkElement_0 ++ []
theorem dksX1_checkElement_0 : cX1_checkElement.data.toList.drop 0 = dktX1_checkElement_0 := by decide +kernel
theorem dX1_checkElement_0 : decode cX1_checkElement 0 = .ok (.iload_n 0, 1) := dk_26 (dk_at dksX1_checkElement_0 0 rfl rfl)
theorem dX1_checkElement_1 : decode cX1_checkElement 1 = .ok (.ifCond .ne 11, 3) := dk_154 0 11 (dk_at dksX1_checkElement_0 1 rfl rfl)
theorem dX1_checkElement_4 : decode cX1_checkElement 4 = .ok (.new 23, 3) := dk_187 0 23 (dk_at dksX1_checkElement_0 4 rfl rfl)
theorem dX1_checkElement_7 : decode cX1_checkElement 7 = .ok (.dup, 1) := dk_89 (dk_at dksX1_checkElement_0 7 rfl rfl)
theorem dX1_checkElement_8 : decode cX1_checkElement 8 = .ok (.invokespecial 25, 3) := dk_183 0 25 (dk_at dksX1_checkElement_0 8 rfl rfl)
theorem dX1_checkElement_11 : decode cX1_checkElement 11 = .ok (.athrow, 1) := dk_191 (dk_at dksX1_checkElement_0 11 rfl rfl)
theorem dX1_checkElement_12 : decode cX1_checkElement 12 = .ok (.return_, 1) := dk_177 (dk_at dksX1_checkElement_0 12 rfl rfl)
abbrev cX1_checkState : ByteArray := prog_1_method_7_code
def yX1_checkState : MethodName := ⟨RX1, "checkState", "(Z)V"⟩
def dkwX1_checkState_0 : List UInt8 := [26, 154, 0, 11, 187, 0, 20, 89, 183, 0, 22, 191, 177]
abbrev dktX1_checkState_0 : List UInt8 := dkwX1_checkState_0 ++ []
theorem dksX1_checkState_0 : cX1_checkState.data.toList.drop 0 = dktX1_checkState_0 := by decide +kernel
theorem dX1_checkState_0 : decode cX1_checkState 0 = .ok (.iload_n 0, 1) := dk_26 (dk_at dksX1_checkState_0 0 rfl rfl)
theorem dX1_checkState_1 : decode cX1_checkState 1 = .ok (.ifCond .ne 11, 3) := dk_154 0 11 (dk_at dksX1_checkState_0 1 rfl rfl)
theorem dX1_checkState_4 : decode cX1_checkState 4 = .ok (.new 20, 3) := dk_187 0 20 (dk_at dksX1_checkState_0 4 rfl rfl)
theorem dX1_checkState_7 : decode cX1_checkState 7 = .ok (.dup, 1) := dk_89 (dk_at dksX1_checkState_0 7 rfl rfl)
theorem dX1_checkState_8 : decode cX1_checkState 8 = .ok (.invokespecial 22, 3) := dk_183 0 22 (dk_at dksX1_checkState_0 8 rfl rfl)
theorem dX1_checkState_11 : decode cX1_checkState 11 = .ok (.athrow, 1) := dk_191 (dk_at dksX1_checkState_0 11 rfl rfl)
theorem dX1_checkState_12 : decode cX1_checkState 12 = .ok (.return_, 1) := dk_177 (dk_at dksX1_checkState_0 12 rfl rfl)
theorem q1022 : (Jvm.Cond.classLink "SpanRuler" (11 : Nat) "java/lang/IllegalArgumentException") ∈ lw_all := lw_g (lw_at lw_m5 2 rfl) rfl
theorem q81 : (Jvm.Cond.initialized "java/lang/IllegalArgumentException") ∈ lw_all := lw_g (lw_at lw_m1 21 rfl) rfl
theorem q1023 : (Jvm.Cond.methodLink "SpanRuler" (13 : Nat) ({ cls := "java/lang/IllegalArgumentException", name := "<init>", desc := "()V" } : Jvm.MethodName)) ∈ lw_all := lw_g (lw_at lw_m5 3 rfl) rfl
theorem q1243 : (Jvm.Cond.classLink "SpanRuler" (17 : Nat) "java/lang/IndexOutOfBoundsException") ∈ lw_all := lw_g (lw_at lw_m5 223 rfl) rfl
theorem q88 : (Jvm.Cond.initialized "java/lang/IndexOutOfBoundsException") ∈ lw_all := lw_g (lw_at lw_m1 28 rfl) rfl
theorem q1244 : (Jvm.Cond.methodLink "SpanRuler" (19 : Nat) ({ cls := "java/lang/IndexOutOfBoundsException", name := "<init>", desc := "()V" } : Jvm.MethodName)) ∈ lw_all := lw_g (lw_at lw_m5 224 rfl) rfl
theorem q1380 : (Jvm.Cond.classLink "SpanRuler" (23 : Nat) "java/util/NoSuchElementException") ∈ lw_all := lw_g (lw_at lw_m6 120 rfl) rfl
theorem q84 : (Jvm.Cond.initialized "java/util/NoSuchElementException") ∈ lw_all := lw_g (lw_at lw_m1 24 rfl) rfl
theorem q1381 : (Jvm.Cond.methodLink "SpanRuler" (25 : Nat) ({ cls := "java/util/NoSuchElementException", name := "<init>", desc := "()V" } : Jvm.MethodName)) ∈ lw_all := lw_g (lw_at lw_m6 121 rfl) rfl
theorem q1661 : (Jvm.Cond.classLink "SpanRuler" (20 : Nat) "java/lang/IllegalStateException") ∈ lw_all := lw_g (lw_at lw_m7 161 rfl) rfl
theorem q101 : (Jvm.Cond.initialized "java/lang/IllegalStateException") ∈ lw_all := lw_g (lw_at lw_m1 41 rfl) rfl
theorem q1670 : (Jvm.Cond.methodLink "SpanRuler" (22 : Nat) ({ cls := "java/lang/IllegalStateException", name := "<init>", desc := "()V" } : Jvm.MethodName)) ∈ lw_all := lw_g (lw_at lw_m7 170 rfl) rfl
/-- E is thrown: a new object of place ci, nothing else changed -/
def PT (G : GE) (E : String) (ci : Nat) (h : AH) : Out → AH → Prop := fun o h' => ∃ q, o = .inr (E, q) ∧ h q = none ∧ G.kh q = none ∧ h' = up h q (ob ci [])
section
variable {X : GX} {yM : MethodName} {cc : ByteArray} {nL : Nat} {rT : Option FieldType} {hH : List (Nat × Nat × Nat × Nat)} {lV kB : Nat} {hA : AH} {kc pc : Nat} {ls : List (Option Value)} {st : List Value}
theorem kT {G : GE} {E : String} {ci kD : Nat} {h : AH} : ∀ w h', PT G E ci h (.inl w) h' → GW X h' kD pc ls (w.toList ++ st) := fun w h' ⟨q, e, _⟩ => nomatch e
theorem xT {G : GE} {E : String} {ci kD : Nat} {h : AH} {ls1 : List (Option Value)} {st1 : List Value} (kk : ∀ q, h q = none → G.kh q = none → GWX X (up h q (ob ci [])) kD pc ls1 st1 E q) : ∀ c q h', PT G E ci h (.inr (c, q)) h' → GWX X h' kD pc ls1 st1 c q := by
  rintro c q h' ⟨q2, e, f1, f2, f3⟩
  cases e; subst f3; exact kk q f1 f2
end
theorem x_chkA1 (l : Launch) (G : GE) (h : AH) : GM l G yX1_checkArgument (ws_ yX1_checkArgument cX1_checkArgument 1 none) 1 [.int 1] (h) (0) (PN h) := by
  refine GM.of (by decide) (dk rfl) ?_
  intro X eL eG eh ok fn
  subst eL; subst eG
  show GW X _ 0 0 [some (.int 1)] []
  refine g_iload_n ok dX1_checkArgument_0 rfl ?_
  refine g_if_ne ok (tgt := 12) dX1_checkArgument_1 (by decide) (fun _ => ?_) (fun c_ => absurd c_ (by decide))
  exact g_vret ok fn rfl dX1_checkArgument_12 ⟨rfl, rfl⟩ (by omega)
theorem x_chkA0 (l : Launch) (G : GE) (h : AH) : GM l G yX1_checkArgument (ws_ yX1_checkArgument cX1_checkArgument 1 none) 1 [.int 0] (h) (6) (PT G "java/lang/IllegalArgumentException" 18 h) := by
  refine GM.of (by decide) (dk rfl) ?_
  intro X eL eG eh ok fn
  subst eL; subst eG
  show GW X _ 0 0 [some (.int 0)] []
  refine g_iload_n ok dX1_checkArgument_0 rfl ?_
  refine g_if_ne ok (tgt := 12) dX1_checkArgument_1 (by decide) (fun c_ => absurd rfl c_) (fun _ => ?_)
  refine g_make0 ok gc_J11 (by decide) q1022 q81 (xa_J11 ok q1023) dX1_checkArgument_4 dX1_checkArgument_7 dX1_checkArgument_8 rfl (dk rfl) (by omega) (by omega) (fun q1_x fq1_x kq1_x zq1_x => ?_)
  refine g_athrow ok gc_J11 dX1_checkArgument_11 up_self ?_
  exact g_out ok fn (fun z hz => nomatch hz) ⟨q1_x, rfl, fq1_x, kq1_x, rfl⟩ (by omega)
theorem x_chkI1 (l : Launch) (G : GE) (h : AH) : GM l G yX1_checkIndex (ws_ yX1_checkIndex cX1_checkIndex 1 none) 1 [.int 1] (h) (0) (PN h) := by
  refine GM.of (by decide) (dk rfl) ?_
  intro X eL eG eh ok fn
  subst eL; subst eG
  show GW X _ 0 0 [some (.int 1)] []
  refine g_iload_n ok dX1_checkIndex_0 rfl ?_
  refine g_if_ne ok (tgt := 12) dX1_checkIndex_1 (by decide) (fun _ => ?_) (fun c_ => absurd c_ (by decide))
  exact g_vret ok fn rfl dX1_checkIndex_12 ⟨rfl, rfl⟩ (by omega)
theorem x_chkI0 (l : Launch) (G : GE) (h : AH) : GM l G yX1_checkIndex (ws_ yX1_checkIndex cX1_checkIndex 1 none) 1 [.int 0] (h) (6) (PT G "java/lang/IndexOutOfBoundsException" 19 h) := by
  refine GM.of (by decide) (dk rfl) ?_
  intro X eL eG eh ok fn
  subst eL; subst eG
  show GW X _ 0 0 [some (.int 0)] []
  refine g_iload_n ok dX1_checkIndex_0 rfl ?_
  refine g_if_ne ok (tgt := 12) dX1_checkIndex_1 (by decide) (fun c_ => absurd rfl c_) (fun _ => ?_)
  refine g_make0 ok gc_J17 (by decide) q1243 q88 (xa_J17 ok q1244) dX1_checkIndex_4 dX1_checkIndex_7 dX1_checkIndex_8 rfl (dk rfl) (by omega) (by omega) (fun q1_x fq1_x kq1_x zq1_x => ?_)
  refine g_athrow ok gc_J17 dX1_checkIndex_11 up_self ?_
  exact g_out ok fn (fun z hz => nomatch hz) ⟨q1_x, rfl, fq1_x, kq1_x, rfl⟩ (by omega)
theorem x_chkE1 (l : Launch) (G : GE) (h : AH) : GM l G yX1_checkElement (ws_ yX1_checkElement cX1_checkElement 1 none) 1 [.int 1] (h) (0) (PN h) := by
  refine GM.of (by decide) (dk rfl) ?_
  intro X eL eG eh ok fn
  subst eL; subst eG
  show GW X _ 0 0 [some (.int 1)] []
  refine g_iload_n ok dX1_checkElement_0 rfl ?_
  refine g_if_ne ok (tgt := 12) dX1_checkElement_1 (by decide) (fun _ => ?_) (fun c_ => absurd c_ (by decide))
  exact g_vret ok fn rfl dX1_checkElement_12 ⟨rfl, rfl⟩ (by omega)
theorem x_chkE0 (l : Launch) (G : GE) (h : AH) : GM l G yX1_checkElement (ws_ yX1_checkElement cX1_checkElement 1 none) 1 [.int 0] (h) (6) (PT G "java/util/NoSuchElementException" 21 h) := by
  refine GM.of (by decide) (dk rfl) ?_
  intro X eL eG eh ok fn
  subst eL; subst eG
  show GW X _ 0 0 [some (.int 0)] []
  refine g_iload_n ok dX1_checkElement_0 rfl ?_
  refine g_if_ne ok (tgt := 12) dX1_checkElement_1 (by decide) (fun c_ => absurd rfl c_) (fun _ => ?_)
  refine g_make0 ok gc_J13 (by decide) q1380 q84 (xa_J13 ok q1381) dX1_checkElement_4 dX1_checkElement_7 dX1_checkElement_8 rfl (dk rfl) (by omega) (by omega) (fun q1_x fq1_x kq1_x zq1_x => ?_)
  refine g_athrow ok gc_J13 dX1_checkElement_11 up_self ?_
  exact g_out ok fn (fun z hz => nomatch hz) ⟨q1_x, rfl, fq1_x, kq1_x, rfl⟩ (by omega)
theorem x_chkS1 (l : Launch) (G : GE) (h : AH) : GM l G yX1_checkState (ws_ yX1_checkState cX1_checkState 1 none) 1 [.int 1] (h) (0) (PN h) := by
  refine GM.of (by decide) (dk rfl) ?_
  intro X eL eG eh ok fn
  subst eL; subst eG
  show GW X _ 0 0 [some (.int 1)] []
  refine g_iload_n ok dX1_checkState_0 rfl ?_
  refine g_if_ne ok (tgt := 12) dX1_checkState_1 (by decide) (fun _ => ?_) (fun c_ => absurd c_ (by decide))
  exact g_vret ok fn rfl dX1_checkState_12 ⟨rfl, rfl⟩ (by omega)
theorem x_chkS0 (l : Launch) (G : GE) (h : AH) : GM l G yX1_checkState (ws_ yX1_checkState cX1_checkState 1 none) 1 [.int 0] (h) (6) (PT G "java/lang/IllegalStateException" 20 h) := by
  refine GM.of (by decide) (dk rfl) ?_
  intro X eL eG eh ok fn
  subst eL; subst eG
  show GW X _ 0 0 [some (.int 0)] []
  refine g_iload_n ok dX1_checkState_0 rfl ?_
  refine g_if_ne ok (tgt := 12) dX1_checkState_1 (by decide) (fun c_ => absurd rfl c_) (fun _ => ?_)
  refine g_make0 ok gc_J26 (by decide) q1661 q101 (xa_J26 ok q1670) dX1_checkState_4 dX1_checkState_7 dX1_checkState_8 rfl (dk rfl) (by omega) (by omega) (fun q1_x fq1_x kq1_x zq1_x => ?_)
  refine g_athrow ok gc_J26 dX1_checkState_11 up_self ?_
  exact g_out ok fn (fun z hz => nomatch hz) ⟨q1_x, rfl, fq1_x, kq1_x, rfl⟩ (by omega)
