/-! THE MODEL: its making -/
set_option maxRecDepth 100000
abbrev cX8_init : ByteArray := prog_19_method_1_code
def yX8_init : MethodName := ⟨RX8, "<init>", "()V"⟩
def dkwX8_init_3 : List UInt8 := [181, 0, 34, 42, 6, 188, 10, 181, 0, 38, 42, 2, 181, 0, 41, 177]
abbrev dktX8_init_3 : List UInt8 := dkwX8_init_3 ++ []
def dkwX8_init_2 : List UInt8 := [181, 0, 22, 42, 17, 0, 200, 188, 5, 181, 0, 25, 42, 16, 60, 188, 5, 181, 0, 29, 42, 18, 32]
abbrev dktX8_init_2 : List UInt8 := dkwX8_init_2 ++ dktX8_init_3
def dkwX8_init_1 : List UInt8 := [17, 1, 186, 188, 10, 181, 0, 16, 42, 17, 10, 92, 188, 10, 181, 0, 19, 42, 17, 1, 186, 188, 10]
abbrev dktX8_init_1 : List UInt8 := dkwX8_init_1 ++ dktX8_init_2
def dkwX8_init_0 : List UInt8 := [42, 183, 0, 3, 42, 17, 1, 186, 188, 10, 181, 0, 9, 42, 17, 1, 186, 188, 10, 181, 0, 13, 42]
abbrev dktX8_init_0 : List UInt8 := dkwX8_init_0 ++ dktX8_init_1
theorem dksX8_init_0 : cX8_init.data.toList.drop 0 = dktX8_init_0 := by decide +kernel
theorem dksX8_init_1 : cX8_init.data.toList.drop 23 = dktX8_init_1 := dk_seg dksX8_init_0 23 rfl rfl
theorem dksX8_init_2 : cX8_init.data.toList.drop 46 = dktX8_init_2 := dk_seg dksX8_init_1 23 rfl rfl
theorem dksX8_init_3 : cX8_init.data.toList.drop 69 = dktX8_init_3 := dk_seg dksX8_init_2 23 rfl rfl
theorem dX8_init_0 : decode cX8_init 0 = .ok (.aload_n 0, 1) := dk_42 (dk_at dksX8_init_0 0 rfl rfl)
theorem dX8_init_1 : decode cX8_init 1 = .ok (.invokespecial 3, 3) := dk_183 0 3 (dk_at dksX8_init_0 1 rfl rfl)
theorem dX8_init_4 : decode cX8_init 4 = .ok (.aload_n 0, 1) := dk_42 (dk_at dksX8_init_0 4 rfl rfl)
theorem dX8_init_5 : decode cX8_init 5 = .ok (.sipush 442, 3) := dk_17 1 186 (dk_at dksX8_init_0 5 rfl rfl)
theorem dX8_init_8 : decode cX8_init 8 = .ok (.newarray .int, 2) := dk_188_10 (dk_at dksX8_init_0 8 rfl rfl)
theorem dX8_init_10 : decode cX8_init 10 = .ok (.putfield 9, 3) := dk_181 0 9 (dk_at dksX8_init_0 10 rfl rfl)
theorem dX8_init_13 : decode cX8_init 13 = .ok (.aload_n 0, 1) := dk_42 (dk_at dksX8_init_0 13 rfl rfl)
theorem dX8_init_14 : decode cX8_init 14 = .ok (.sipush 442, 3) := dk_17 1 186 (dk_at dksX8_init_0 14 rfl rfl)
theorem dX8_init_17 : decode cX8_init 17 = .ok (.newarray .int, 2) := dk_188_10 (dk_at dksX8_init_0 17 rfl rfl)
theorem dX8_init_19 : decode cX8_init 19 = .ok (.putfield 13, 3) := dk_181 0 13 (dk_at dksX8_init_0 19 rfl rfl)
theorem dX8_init_22 : decode cX8_init 22 = .ok (.aload_n 0, 1) := dk_42 (dk_at dksX8_init_0 22 rfl rfl)
theorem dX8_init_23 : decode cX8_init 23 = .ok (.sipush 442, 3) := dk_17 1 186 (dk_at dksX8_init_1 0 rfl rfl)
theorem dX8_init_26 : decode cX8_init 26 = .ok (.newarray .int, 2) := dk_188_10 (dk_at dksX8_init_1 3 rfl rfl)
theorem dX8_init_28 : decode cX8_init 28 = .ok (.putfield 16, 3) := dk_181 0 16 (dk_at dksX8_init_1 5 rfl rfl)
theorem dX8_init_31 : decode cX8_init 31 = .ok (.aload_n 0, 1) := dk_42 (dk_at dksX8_init_1 8 rfl rfl)
theorem dX8_init_32 : decode cX8_init 32 = .ok (.sipush 2652, 3) := dk_17 10 92 (dk_at dksX8_init_1 9 rfl rfl)
theorem dX8_init_35 : decode cX8_init 35 = .ok (.newarray .int, 2) := dk_188_10 (dk_at dksX8_init_1 12 rfl rfl)
theorem dX8_init_37 : decode cX8_init 37 = .ok (.putfield 19, 3) := dk_181 0 19 (dk_at dksX8_init_1 14 rfl rfl)
theorem dX8_init_40 : decode cX8_init 40 = .ok (.aload_n 0, 1) := dk_42 (dk_at dksX8_init_1 17 rfl rfl)
theorem dX8_init_41 : decode cX8_init 41 = .ok (.sipush 442, 3) := dk_17 1 186 (dk_at dksX8_init_1 18 rfl rfl)
theorem dX8_init_44 : decode cX8_init 44 = .ok (.newarray .int, 2) := dk_188_10 (dk_at dksX8_init_1 21 rfl rfl)
theorem dX8_init_46 : decode cX8_init 46 = .ok (.putfield 22, 3) := dk_181 0 22 (dk_at dksX8_init_2 0 rfl rfl)
theorem dX8_init_49 : decode cX8_init 49 = .ok (.aload_n 0, 1) := dk_42 (dk_at dksX8_init_2 3 rfl rfl)
theorem dX8_init_50 : decode cX8_init 50 = .ok (.sipush 200, 3) := dk_17 0 200 (dk_at dksX8_init_2 4 rfl rfl)
theorem dX8_init_53 : decode cX8_init 53 = .ok (.newarray .char, 2) := dk_188_5 (dk_at dksX8_init_2 7 rfl rfl)
theorem dX8_init_55 : decode cX8_init 55 = .ok (.putfield 25, 3) := dk_181 0 25 (dk_at dksX8_init_2 9 rfl rfl)
theorem dX8_init_58 : decode cX8_init 58 = .ok (.aload_n 0, 1) := dk_42 (dk_at dksX8_init_2 12 rfl rfl)
theorem dX8_init_59 : decode cX8_init 59 = .ok (.bipush 60, 2) := dk_16 60 (dk_at dksX8_init_2 13 rfl rfl)
theorem dX8_init_61 : decode cX8_init 61 = .ok (.newarray .char, 2) := dk_188_5 (dk_at dksX8_init_2 15 rfl rfl)
theorem dX8_init_63 : decode cX8_init 63 = .ok (.putfield 29, 3) := dk_181 0 29 (dk_at dksX8_init_2 17 rfl rfl)
theorem dX8_init_66 : decode cX8_init 66 = .ok (.aload_n 0, 1) := dk_42 (dk_at dksX8_init_2 20 rfl rfl)
theorem dX8_init_67 : decode cX8_init 67 = .ok (.ldc 32, 2) := dk_18 32 (dk_at dksX8_init_2 21 rfl rfl)
theorem dX8_init_69 : decode cX8_init 69 = .ok (.putfield 34, 3) := dk_181 0 34 (dk_at dksX8_init_3 0 rfl rfl)
theorem dX8_init_72 : decode cX8_init 72 = .ok (.aload_n 0, 1) := dk_42 (dk_at dksX8_init_3 3 rfl rfl)
theorem dX8_init_73 : decode cX8_init 73 = .ok (.iconst 3, 1) := dk_6 (dk_at dksX8_init_3 4 rfl rfl)
theorem dX8_init_74 : decode cX8_init 74 = .ok (.newarray .int, 2) := dk_188_10 (dk_at dksX8_init_3 5 rfl rfl)
theorem dX8_init_76 : decode cX8_init 76 = .ok (.putfield 38, 3) := dk_181 0 38 (dk_at dksX8_init_3 7 rfl rfl)
theorem dX8_init_79 : decode cX8_init 79 = .ok (.aload_n 0, 1) := dk_42 (dk_at dksX8_init_3 10 rfl rfl)
theorem dX8_init_80 : decode cX8_init 80 = .ok (.iconst (-1), 1) := dk_2 (dk_at dksX8_init_3 11 rfl rfl)
theorem dX8_init_81 : decode cX8_init 81 = .ok (.putfield 41, 3) := dk_181 0 41 (dk_at dksX8_init_3 12 rfl rfl)
theorem dX8_init_84 : decode cX8_init 84 = .ok (.return_, 1) := dk_177 (dk_at dksX8_init_3 15 rfl rfl)
theorem q2233 : (Jvm.Cond.methodLink "SpanRulerModel" (3 : Nat) ({ cls := "java/lang/Object", name := "<init>", desc := "()V" } : Jvm.MethodName)) ∈ lw_all := lw_g (lw_at lw_m10 13 rfl) rfl
theorem q242 : (Jvm.Cond.arrayClass Jvm.ClassFile.FieldType.int) ∈ lw_all := lw_g (lw_at lw_m1 182 rfl) rfl
theorem q317 : (Jvm.Cond.arrayClass Jvm.ClassFile.FieldType.char) ∈ lw_all := lw_g (lw_at lw_m2 17 rfl) rfl
theorem mput_is {G : GE} {h h' : AH} {ad : Nat → Nat} {s : MS} (hA : MAd ad) (h1 : ∀ k ∈ mks, h' (ad k) = some (mce G ad s k)) (h2 : ∀ q, (∀ k ∈ mks, ad k ≠ q) → h' q = h q) : h' = mput G h ad s := by
  funext q
  by_cases y : ∃ j ∈ mks, ad j = q
  · obtain ⟨j, hj, ej⟩ := y
    subst ej
    rw [mput_at hA hj, h1 j hj]
  · have y' : ∀ j ∈ mks, ad j ≠ q := fun j hj e => y ⟨j, hj, e⟩
    rw [mput_off y', h2 q y']
def iS (w : Nat) : MS := (fun k => if k = 14 then -1 else 0, fun _ _ => 0, w)
def adF (a0 a1 a2 a3 a5 a7 a9 a13 a : Nat) : Nat → Nat := fun k => match k with
  | 0 => a0
  | 1 => a1
  | 2 => a2
  | 3 => a3
  | 5 => a5
  | 7 => a7
  | 9 => a9
  | 13 => a13
  | _ => a
theorem mks_all {p : Nat → Prop} (h0 : p 0) (h1 : p 1) (h2 : p 2) (h3 : p 3) (h5 : p 5) (h7 : p 7) (h9 : p 9) (h13 : p 13) (h20 : p 20) : ∀ k ∈ mks, p k := by
  intro k hk
  simp only [mks, List.mem_cons, List.not_mem_nil, or_false] at hk
  rcases hk with e | e | e | e | e | e | e | e | e <;> subst e <;> assumption
theorem m_init (l : Launch) (G : GE) (h : AH) (a : Nat) (ra : h a = some (ob 5 [.null, .null, .null, .null, .int 0, .null, .int 0, .null, .int 0, .null, .int 0, .int 0, .null, .null, .int 0, .int 0, .int 0, .int 0, .int 0, .int 0, .int 0])) : GM l G yX8_init (ws_ yX8_init cX8_init 1 none) 2 [.ref a] (h) (5200) (PQ fun h' => ∃ ad, MAd ad ∧ ad 20 = a ∧ h' = mput G h ad (iS (G.ga ("L:" ++ ""))) ∧ ∀ k ∈ mks, k ≠ 20 → h (ad k) = none) := by
  refine GM.of (by decide) (dk rfl) ?_
  intro X eL eG eh ok fn
  subst eL; subst eG
  show GW X _ 0 0 [some (.ref a)] []
  refine g_aload_n ok dX8_init_0 rfl ?_
  refine g_objInit ok q2233 q121 q122 dX8_init_1 (dk rfl) rfl (dk rfl) ?_
  refine g_aload_n ok dX8_init_4 rfl ?_
  refine g_sipush ok (v := 442) dX8_init_5 rfl ?_
  refine g_newa ok (atype := .int) (n := 442) (ai := 0) (y := (.inl (fun _ => 0))) q242 (gt_i _) (fun C h => by cases h) (fun _ => rfl) dX8_init_8 rfl (by decide) (by omega) (fun a0 haa0 hka0 h0a0 => ?_)
  have ne0 := Rd.ne (Rd.h (ra)) haa0 hka0
  refine g_putF ok ck_X8 0 q2235 rfl (by decide) rfl rfl rfl dX8_init_10 ((up_ne ne0).trans (ra)) (dl rfl) rfl rfl (fs1 := [.ref a0, .null, .null, .null, .int 0, .null, .int 0, .null, .int 0, .null, .int 0, .int 0, .null, .null, .int 0, .int 0, .int 0, .int 0, .int 0, .int 0, .int 0]) rfl (?_)
  refine g_aload_n ok dX8_init_13 rfl ?_
  refine g_sipush ok (v := 442) dX8_init_14 rfl ?_
  refine g_newa ok (atype := .int) (n := 442) (ai := 0) (y := (.inl (fun _ => 0))) q242 (gt_i _) (fun C h => by cases h) (fun _ => rfl) dX8_init_17 rfl (by decide) (by omega) (fun a1 haa1 hka1 h0a1 => ?_)
  have ne1 := Rd.ne (Rd.h (up_self)) haa1 hka1
  have ne2 := Rd.ne (Rd.h ((up_ne (Ne.symm ne0)).trans (up_self))) haa1 hka1
  refine g_putF ok ck_X8 1 q2236 rfl (by decide) rfl rfl rfl dX8_init_19 ((up_ne ne1).trans (up_self)) (dl rfl) rfl rfl (fs1 := [.ref a0, .ref a1, .null, .null, .int 0, .null, .int 0, .null, .int 0, .null, .int 0, .int 0, .null, .null, .int 0, .int 0, .int 0, .int 0, .int 0, .int 0, .int 0]) rfl (?_)
  refine g_aload_n ok dX8_init_22 rfl ?_
  refine g_sipush ok (v := 442) dX8_init_23 rfl ?_
  refine g_newa ok (atype := .int) (n := 442) (ai := 0) (y := (.inl (fun _ => 0))) q242 (gt_i _) (fun C h => by cases h) (fun _ => rfl) dX8_init_26 rfl (by decide) (by omega) (fun a2 haa2 hka2 h0a2 => ?_)
  have ne3 := Rd.ne (Rd.h (up_self)) haa2 hka2
  have ne4 := Rd.ne (Rd.h ((up_ne (Ne.symm ne0)).trans ((up_ne ne2).trans ((up_ne (Ne.symm ne0)).trans (up_self))))) haa2 hka2
  have ne5 := Rd.ne (Rd.h ((up_ne (Ne.symm ne1)).trans (up_self))) haa2 hka2
  refine g_putF ok ck_X8 2 q2237 rfl (by decide) rfl rfl rfl dX8_init_28 ((up_ne ne3).trans (up_self)) (dl rfl) rfl rfl (fs1 := [.ref a0, .ref a1, .ref a2, .null, .int 0, .null, .int 0, .null, .int 0, .null, .int 0, .int 0, .null, .null, .int 0, .int 0, .int 0, .int 0, .int 0, .int 0, .int 0]) rfl (?_)
  refine g_aload_n ok dX8_init_31 rfl ?_
  refine g_sipush ok (v := 2652) dX8_init_32 rfl ?_
  refine g_newa ok (atype := .int) (n := 2652) (ai := 0) (y := (.inl (fun _ => 0))) q242 (gt_i _) (fun C h => by cases h) (fun _ => rfl) dX8_init_35 rfl (by decide) (by omega) (fun a3 haa3 hka3 h0a3 => ?_)
  have ne6 := Rd.ne (Rd.h (up_self)) haa3 hka3
  have ne7 := Rd.ne (Rd.h ((up_ne (Ne.symm ne0)).trans ((up_ne ne4).trans ((up_ne (Ne.symm ne0)).trans ((up_ne ne2).trans ((up_ne (Ne.symm ne0)).trans (up_self))))))) haa3 hka3
  have ne8 := Rd.ne (Rd.h ((up_ne (Ne.symm ne1)).trans ((up_ne ne5).trans ((up_ne (Ne.symm ne1)).trans (up_self))))) haa3 hka3
  have ne9 := Rd.ne (Rd.h ((up_ne (Ne.symm ne3)).trans (up_self))) haa3 hka3
  refine g_putF ok ck_X8 3 q2238 rfl (by decide) rfl rfl rfl dX8_init_37 ((up_ne ne6).trans (up_self)) (dl rfl) rfl rfl (fs1 := [.ref a0, .ref a1, .ref a2, .ref a3, .int 0, .null, .int 0, .null, .int 0, .null, .int 0, .int 0, .null, .null, .int 0, .int 0, .int 0, .int 0, .int 0, .int 0, .int 0]) rfl (?_)
  refine g_aload_n ok dX8_init_40 rfl ?_
  refine g_sipush ok (v := 442) dX8_init_41 rfl ?_
  refine g_newa ok (atype := .int) (n := 442) (ai := 0) (y := (.inl (fun _ => 0))) q242 (gt_i _) (fun C h => by cases h) (fun _ => rfl) dX8_init_44 rfl (by decide) (by omega) (fun a5 haa5 hka5 h0a5 => ?_)
  have ne10 := Rd.ne (Rd.h (up_self)) haa5 hka5
  have ne11 := Rd.ne (Rd.h ((up_ne (Ne.symm ne0)).trans ((up_ne ne7).trans ((up_ne (Ne.symm ne0)).trans ((up_ne ne4).trans ((up_ne (Ne.symm ne0)).trans ((up_ne ne2).trans ((up_ne (Ne.symm ne0)).trans (up_self))))))))) haa5 hka5
  have ne12 := Rd.ne (Rd.h ((up_ne (Ne.symm ne1)).trans ((up_ne ne8).trans ((up_ne (Ne.symm ne1)).trans ((up_ne ne5).trans ((up_ne (Ne.symm ne1)).trans (up_self))))))) haa5 hka5
  have ne13 := Rd.ne (Rd.h ((up_ne (Ne.symm ne3)).trans ((up_ne ne9).trans ((up_ne (Ne.symm ne3)).trans (up_self))))) haa5 hka5
  have ne14 := Rd.ne (Rd.h ((up_ne (Ne.symm ne6)).trans (up_self))) haa5 hka5
  refine g_putF ok ck_X8 5 q2240 rfl (by decide) rfl rfl rfl dX8_init_46 ((up_ne ne10).trans (up_self)) (dl rfl) rfl rfl (fs1 := [.ref a0, .ref a1, .ref a2, .ref a3, .int 0, .ref a5, .int 0, .null, .int 0, .null, .int 0, .int 0, .null, .null, .int 0, .int 0, .int 0, .int 0, .int 0, .int 0, .int 0]) rfl (?_)
  refine g_aload_n ok dX8_init_49 rfl ?_
  refine g_sipush ok (v := 200) dX8_init_50 rfl ?_
  refine g_newa ok (atype := .char) (n := 200) (ai := 1) (y := (.inl (fun _ => 0))) q317 (gt_c _) (fun C h => by cases h) (fun _ => rfl) dX8_init_53 rfl (by decide) (by omega) (fun a7 haa7 hka7 h0a7 => ?_)
  have ne15 := Rd.ne (Rd.h (up_self)) haa7 hka7
  have ne16 := Rd.ne (Rd.h ((up_ne (Ne.symm ne0)).trans ((up_ne ne11).trans ((up_ne (Ne.symm ne0)).trans ((up_ne ne7).trans ((up_ne (Ne.symm ne0)).trans ((up_ne ne4).trans ((up_ne (Ne.symm ne0)).trans ((up_ne ne2).trans ((up_ne (Ne.symm ne0)).trans (up_self))))))))))) haa7 hka7
  have ne17 := Rd.ne (Rd.h ((up_ne (Ne.symm ne1)).trans ((up_ne ne12).trans ((up_ne (Ne.symm ne1)).trans ((up_ne ne8).trans ((up_ne (Ne.symm ne1)).trans ((up_ne ne5).trans ((up_ne (Ne.symm ne1)).trans (up_self))))))))) haa7 hka7
  have ne18 := Rd.ne (Rd.h ((up_ne (Ne.symm ne3)).trans ((up_ne ne13).trans ((up_ne (Ne.symm ne3)).trans ((up_ne ne9).trans ((up_ne (Ne.symm ne3)).trans (up_self))))))) haa7 hka7
  have ne19 := Rd.ne (Rd.h ((up_ne (Ne.symm ne6)).trans ((up_ne ne14).trans ((up_ne (Ne.symm ne6)).trans (up_self))))) haa7 hka7
  have ne20 := Rd.ne (Rd.h ((up_ne (Ne.symm ne10)).trans (up_self))) haa7 hka7
  refine g_putF ok ck_X8 7 q2242 rfl (by decide) rfl rfl rfl dX8_init_55 ((up_ne ne15).trans (up_self)) (dl rfl) rfl rfl (fs1 := [.ref a0, .ref a1, .ref a2, .ref a3, .int 0, .ref a5, .int 0, .ref a7, .int 0, .null, .int 0, .int 0, .null, .null, .int 0, .int 0, .int 0, .int 0, .int 0, .int 0, .int 0]) rfl (?_)
  refine g_aload_n ok dX8_init_58 rfl ?_
  refine g_bipush ok (v := 60) dX8_init_59 rfl ?_
  refine g_newa ok (atype := .char) (n := 60) (ai := 1) (y := (.inl (fun _ => 0))) q317 (gt_c _) (fun C h => by cases h) (fun _ => rfl) dX8_init_61 rfl (by decide) (by omega) (fun a9 haa9 hka9 h0a9 => ?_)
  have ne21 := Rd.ne (Rd.h (up_self)) haa9 hka9
  have ne22 := Rd.ne (Rd.h ((up_ne (Ne.symm ne0)).trans ((up_ne ne16).trans ((up_ne (Ne.symm ne0)).trans ((up_ne ne11).trans ((up_ne (Ne.symm ne0)).trans ((up_ne ne7).trans ((up_ne (Ne.symm ne0)).trans ((up_ne ne4).trans ((up_ne (Ne.symm ne0)).trans ((up_ne ne2).trans ((up_ne (Ne.symm ne0)).trans (up_self))))))))))))) haa9 hka9
  have ne23 := Rd.ne (Rd.h ((up_ne (Ne.symm ne1)).trans ((up_ne ne17).trans ((up_ne (Ne.symm ne1)).trans ((up_ne ne12).trans ((up_ne (Ne.symm ne1)).trans ((up_ne ne8).trans ((up_ne (Ne.symm ne1)).trans ((up_ne ne5).trans ((up_ne (Ne.symm ne1)).trans (up_self))))))))))) haa9 hka9
  have ne24 := Rd.ne (Rd.h ((up_ne (Ne.symm ne3)).trans ((up_ne ne18).trans ((up_ne (Ne.symm ne3)).trans ((up_ne ne13).trans ((up_ne (Ne.symm ne3)).trans ((up_ne ne9).trans ((up_ne (Ne.symm ne3)).trans (up_self))))))))) haa9 hka9
  have ne25 := Rd.ne (Rd.h ((up_ne (Ne.symm ne6)).trans ((up_ne ne19).trans ((up_ne (Ne.symm ne6)).trans ((up_ne ne14).trans ((up_ne (Ne.symm ne6)).trans (up_self))))))) haa9 hka9
  have ne26 := Rd.ne (Rd.h ((up_ne (Ne.symm ne10)).trans ((up_ne ne20).trans ((up_ne (Ne.symm ne10)).trans (up_self))))) haa9 hka9
  have ne27 := Rd.ne (Rd.h ((up_ne (Ne.symm ne15)).trans (up_self))) haa9 hka9
  refine g_putF ok ck_X8 9 q2244 rfl (by decide) rfl rfl rfl dX8_init_63 ((up_ne ne21).trans (up_self)) (dl rfl) rfl rfl (fs1 := [.ref a0, .ref a1, .ref a2, .ref a3, .int 0, .ref a5, .int 0, .ref a7, .int 0, .ref a9, .int 0, .int 0, .null, .null, .int 0, .int 0, .int 0, .int 0, .int 0, .int 0, .int 0]) rfl (?_)
  refine g_aload_n ok dX8_init_66 rfl ?_
  refine g_ldcS ok (tx := "") (by decide) dX8_init_67 ?_
  refine g_put ok ck_X8 12 q2247 (Or.inl rfl) (by decide) rfl dX8_init_69 (up_self) (dl rfl) rfl rfl (fs1 := [.ref a0, .ref a1, .ref a2, .ref a3, .int 0, .ref a5, .int 0, .ref a7, .int 0, .ref a9, .int 0, .int 0, .ref (X.G.ga ("L:" ++ "")), .null, .int 0, .int 0, .int 0, .int 0, .int 0, .int 0, .int 0]) rfl (?_)
  refine g_aload_n ok dX8_init_72 rfl ?_
  refine g_iconst ok (v := 3) dX8_init_73 rfl ?_
  refine g_newa ok (atype := .int) (n := 3) (ai := 0) (y := (.inl (fun _ => 0))) q242 (gt_i _) (fun C h => by cases h) (fun _ => rfl) dX8_init_74 rfl (by decide) (by omega) (fun a13 haa13 hka13 h0a13 => ?_)
  have ne28 := Rd.ne (Rd.h (up_self)) haa13 hka13
  have ne29 := Rd.ne (Rd.h ((up_ne (Ne.symm ne0)).trans ((up_ne (Ne.symm ne0)).trans ((up_ne ne22).trans ((up_ne (Ne.symm ne0)).trans ((up_ne ne16).trans ((up_ne (Ne.symm ne0)).trans ((up_ne ne11).trans ((up_ne (Ne.symm ne0)).trans ((up_ne ne7).trans ((up_ne (Ne.symm ne0)).trans ((up_ne ne4).trans ((up_ne (Ne.symm ne0)).trans ((up_ne ne2).trans ((up_ne (Ne.symm ne0)).trans (up_self)))))))))))))))) haa13 hka13
  have ne30 := Rd.ne (Rd.h ((up_ne (Ne.symm ne1)).trans ((up_ne (Ne.symm ne1)).trans ((up_ne ne23).trans ((up_ne (Ne.symm ne1)).trans ((up_ne ne17).trans ((up_ne (Ne.symm ne1)).trans ((up_ne ne12).trans ((up_ne (Ne.symm ne1)).trans ((up_ne ne8).trans ((up_ne (Ne.symm ne1)).trans ((up_ne ne5).trans ((up_ne (Ne.symm ne1)).trans (up_self)))))))))))))) haa13 hka13
  have ne31 := Rd.ne (Rd.h ((up_ne (Ne.symm ne3)).trans ((up_ne (Ne.symm ne3)).trans ((up_ne ne24).trans ((up_ne (Ne.symm ne3)).trans ((up_ne ne18).trans ((up_ne (Ne.symm ne3)).trans ((up_ne ne13).trans ((up_ne (Ne.symm ne3)).trans ((up_ne ne9).trans ((up_ne (Ne.symm ne3)).trans (up_self)))))))))))) haa13 hka13
  have ne32 := Rd.ne (Rd.h ((up_ne (Ne.symm ne6)).trans ((up_ne (Ne.symm ne6)).trans ((up_ne ne25).trans ((up_ne (Ne.symm ne6)).trans ((up_ne ne19).trans ((up_ne (Ne.symm ne6)).trans ((up_ne ne14).trans ((up_ne (Ne.symm ne6)).trans (up_self)))))))))) haa13 hka13
  have ne33 := Rd.ne (Rd.h ((up_ne (Ne.symm ne10)).trans ((up_ne (Ne.symm ne10)).trans ((up_ne ne26).trans ((up_ne (Ne.symm ne10)).trans ((up_ne ne20).trans ((up_ne (Ne.symm ne10)).trans (up_self)))))))) haa13 hka13
  have ne34 := Rd.ne (Rd.h ((up_ne (Ne.symm ne15)).trans ((up_ne (Ne.symm ne15)).trans ((up_ne ne27).trans ((up_ne (Ne.symm ne15)).trans (up_self)))))) haa13 hka13
  have ne35 := Rd.ne (Rd.h ((up_ne (Ne.symm ne21)).trans ((up_ne (Ne.symm ne21)).trans (up_self)))) haa13 hka13
  refine g_putF ok ck_X8 13 q2248 rfl (by decide) rfl rfl rfl dX8_init_76 ((up_ne ne28).trans (up_self)) (dl rfl) rfl rfl (fs1 := [.ref a0, .ref a1, .ref a2, .ref a3, .int 0, .ref a5, .int 0, .ref a7, .int 0, .ref a9, .int 0, .int 0, .ref (X.G.ga ("L:" ++ "")), .ref a13, .int 0, .int 0, .int 0, .int 0, .int 0, .int 0, .int 0]) rfl (?_)
  refine g_aload_n ok dX8_init_79 rfl ?_
  refine g_iconst ok (v := -1) dX8_init_80 rfl ?_
  refine g_put ok ck_X8 14 q2249 (Or.inl rfl) (by decide) rfl dX8_init_81 (up_self) (dl rfl) rfl rfl (fs1 := [.ref a0, .ref a1, .ref a2, .ref a3, .int 0, .ref a5, .int 0, .ref a7, .int 0, .ref a9, .int 0, .int 0, .ref (X.G.ga ("L:" ++ "")), .ref a13, .int (-1), .int 0, .int 0, .int 0, .int 0, .int 0, .int 0]) rfl (?_)
  have w_a0 : h a0 = none := by simpa only [up_ne (Ne.symm ne0)] using haa0
  have w_a1 : h a1 = none := by simpa only [up_ne (Ne.symm ne1), up_ne (Ne.symm ne2)] using haa1
  have w_a2 : h a2 = none := by simpa only [up_ne (Ne.symm ne3), up_ne (Ne.symm ne4), up_ne (Ne.symm ne5)] using haa2
  have w_a3 : h a3 = none := by simpa only [up_ne (Ne.symm ne6), up_ne (Ne.symm ne7), up_ne (Ne.symm ne8), up_ne (Ne.symm ne9)] using haa3
  have w_a5 : h a5 = none := by simpa only [up_ne (Ne.symm ne10), up_ne (Ne.symm ne11), up_ne (Ne.symm ne12), up_ne (Ne.symm ne13), up_ne (Ne.symm ne14)] using haa5
  have w_a7 : h a7 = none := by simpa only [up_ne (Ne.symm ne15), up_ne (Ne.symm ne16), up_ne (Ne.symm ne17), up_ne (Ne.symm ne18), up_ne (Ne.symm ne19), up_ne (Ne.symm ne20)] using haa7
  have w_a9 : h a9 = none := by simpa only [up_ne (Ne.symm ne21), up_ne (Ne.symm ne22), up_ne (Ne.symm ne23), up_ne (Ne.symm ne24), up_ne (Ne.symm ne25), up_ne (Ne.symm ne26), up_ne (Ne.symm ne27)] using haa9
  have w_a13 : h a13 = none := by simpa only [up_ne (Ne.symm ne28), up_ne (Ne.symm ne29), up_ne (Ne.symm ne30), up_ne (Ne.symm ne31), up_ne (Ne.symm ne32), up_ne (Ne.symm ne33), up_ne (Ne.symm ne34), up_ne (Ne.symm ne35)] using haa13
  have hA : MAd (adF a0 a1 a2 a3 a5 a7 a9 a13 a) := by
    have key : ∀ i ∈ mks, ∀ j ∈ mks, (adF a0 a1 a2 a3 a5 a7 a9 a13 a) i = (adF a0 a1 a2 a3 a5 a7 a9 a13 a) j → i = j := by
      exact mks_all (mks_all (fun _ => rfl) (fun e => absurd e ne2) (fun e => absurd e ne4) (fun e => absurd e ne7) (fun e => absurd e ne11) (fun e => absurd e ne16) (fun e => absurd e ne22) (fun e => absurd e ne29) (fun e => absurd e (Ne.symm ne0))) (mks_all (fun e => absurd e (Ne.symm ne2)) (fun _ => rfl) (fun e => absurd e ne5) (fun e => absurd e ne8) (fun e => absurd e ne12) (fun e => absurd e ne17) (fun e => absurd e ne23) (fun e => absurd e ne30) (fun e => absurd e (Ne.symm ne1))) (mks_all (fun e => absurd e (Ne.symm ne4)) (fun e => absurd e (Ne.symm ne5)) (fun _ => rfl) (fun e => absurd e ne9) (fun e => absurd e ne13) (fun e => absurd e ne18) (fun e => absurd e ne24) (fun e => absurd e ne31) (fun e => absurd e (Ne.symm ne3))) (mks_all (fun e => absurd e (Ne.symm ne7)) (fun e => absurd e (Ne.symm ne8)) (fun e => absurd e (Ne.symm ne9)) (fun _ => rfl) (fun e => absurd e ne14) (fun e => absurd e ne19) (fun e => absurd e ne25) (fun e => absurd e ne32) (fun e => absurd e (Ne.symm ne6))) (mks_all (fun e => absurd e (Ne.symm ne11)) (fun e => absurd e (Ne.symm ne12)) (fun e => absurd e (Ne.symm ne13)) (fun e => absurd e (Ne.symm ne14)) (fun _ => rfl) (fun e => absurd e ne20) (fun e => absurd e ne26) (fun e => absurd e ne33) (fun e => absurd e (Ne.symm ne10))) (mks_all (fun e => absurd e (Ne.symm ne16)) (fun e => absurd e (Ne.symm ne17)) (fun e => absurd e (Ne.symm ne18)) (fun e => absurd e (Ne.symm ne19)) (fun e => absurd e (Ne.symm ne20)) (fun _ => rfl) (fun e => absurd e ne27) (fun e => absurd e ne34) (fun e => absurd e (Ne.symm ne15))) (mks_all (fun e => absurd e (Ne.symm ne22)) (fun e => absurd e (Ne.symm ne23)) (fun e => absurd e (Ne.symm ne24)) (fun e => absurd e (Ne.symm ne25)) (fun e => absurd e (Ne.symm ne26)) (fun e => absurd e (Ne.symm ne27)) (fun _ => rfl) (fun e => absurd e ne35) (fun e => absurd e (Ne.symm ne21))) (mks_all (fun e => absurd e (Ne.symm ne29)) (fun e => absurd e (Ne.symm ne30)) (fun e => absurd e (Ne.symm ne31)) (fun e => absurd e (Ne.symm ne32)) (fun e => absurd e (Ne.symm ne33)) (fun e => absurd e (Ne.symm ne34)) (fun e => absurd e (Ne.symm ne35)) (fun _ => rfl) (fun e => absurd e (Ne.symm ne28))) (mks_all (fun e => absurd e ne0) (fun e => absurd e ne1) (fun e => absurd e ne3) (fun e => absurd e ne6) (fun e => absurd e ne10) (fun e => absurd e ne15) (fun e => absurd e ne21) (fun e => absurd e ne28) (fun _ => rfl))
    exact key
  refine g_vret ok fn rfl dX8_init_84 ⟨rfl, (adF a0 a1 a2 a3 a5 a7 a9 a13 a), hA, rfl, ?_, ?_⟩ (by omega)
  · refine mput_is hA ?_ ?_
    · exact mks_all ((up_ne (Ne.symm ne0)).trans ((up_ne (Ne.symm ne0)).trans ((up_ne ne29).trans ((up_ne (Ne.symm ne0)).trans ((up_ne (Ne.symm ne0)).trans ((up_ne ne22).trans ((up_ne (Ne.symm ne0)).trans ((up_ne ne16).trans ((up_ne (Ne.symm ne0)).trans ((up_ne ne11).trans ((up_ne (Ne.symm ne0)).trans ((up_ne ne7).trans ((up_ne (Ne.symm ne0)).trans ((up_ne ne4).trans ((up_ne (Ne.symm ne0)).trans ((up_ne ne2).trans ((up_ne (Ne.symm ne0)).trans (up_self)))))))))))))))))) ((up_ne (Ne.symm ne1)).trans ((up_ne (Ne.symm ne1)).trans ((up_ne ne30).trans ((up_ne (Ne.symm ne1)).trans ((up_ne (Ne.symm ne1)).trans ((up_ne ne23).trans ((up_ne (Ne.symm ne1)).trans ((up_ne ne17).trans ((up_ne (Ne.symm ne1)).trans ((up_ne ne12).trans ((up_ne (Ne.symm ne1)).trans ((up_ne ne8).trans ((up_ne (Ne.symm ne1)).trans ((up_ne ne5).trans ((up_ne (Ne.symm ne1)).trans (up_self)))))))))))))))) ((up_ne (Ne.symm ne3)).trans ((up_ne (Ne.symm ne3)).trans ((up_ne ne31).trans ((up_ne (Ne.symm ne3)).trans ((up_ne (Ne.symm ne3)).trans ((up_ne ne24).trans ((up_ne (Ne.symm ne3)).trans ((up_ne ne18).trans ((up_ne (Ne.symm ne3)).trans ((up_ne ne13).trans ((up_ne (Ne.symm ne3)).trans ((up_ne ne9).trans ((up_ne (Ne.symm ne3)).trans (up_self)))))))))))))) ((up_ne (Ne.symm ne6)).trans ((up_ne (Ne.symm ne6)).trans ((up_ne ne32).trans ((up_ne (Ne.symm ne6)).trans ((up_ne (Ne.symm ne6)).trans ((up_ne ne25).trans ((up_ne (Ne.symm ne6)).trans ((up_ne ne19).trans ((up_ne (Ne.symm ne6)).trans ((up_ne ne14).trans ((up_ne (Ne.symm ne6)).trans (up_self)))))))))))) ((up_ne (Ne.symm ne10)).trans ((up_ne (Ne.symm ne10)).trans ((up_ne ne33).trans ((up_ne (Ne.symm ne10)).trans ((up_ne (Ne.symm ne10)).trans ((up_ne ne26).trans ((up_ne (Ne.symm ne10)).trans ((up_ne ne20).trans ((up_ne (Ne.symm ne10)).trans (up_self)))))))))) ((up_ne (Ne.symm ne15)).trans ((up_ne (Ne.symm ne15)).trans ((up_ne ne34).trans ((up_ne (Ne.symm ne15)).trans ((up_ne (Ne.symm ne15)).trans ((up_ne ne27).trans ((up_ne (Ne.symm ne15)).trans (up_self)))))))) ((up_ne (Ne.symm ne21)).trans ((up_ne (Ne.symm ne21)).trans ((up_ne ne35).trans ((up_ne (Ne.symm ne21)).trans ((up_ne (Ne.symm ne21)).trans (up_self)))))) ((up_ne (Ne.symm ne28)).trans ((up_ne (Ne.symm ne28)).trans (up_self))) (up_self)
    · intro q hq
      have q0 : q ≠ a0 := Ne.symm (hq 0 (by decide))
      have q1 : q ≠ a1 := Ne.symm (hq 1 (by decide))
      have q2 : q ≠ a2 := Ne.symm (hq 2 (by decide))
      have q3 : q ≠ a3 := Ne.symm (hq 3 (by decide))
      have q5 : q ≠ a5 := Ne.symm (hq 5 (by decide))
      have q7 : q ≠ a7 := Ne.symm (hq 7 (by decide))
      have q9 : q ≠ a9 := Ne.symm (hq 9 (by decide))
      have q13 : q ≠ a13 := Ne.symm (hq 13 (by decide))
      have q20 : q ≠ a := Ne.symm (hq 20 (by decide))
      simp only [up_ne q0, up_ne q1, up_ne q2, up_ne q3, up_ne q5, up_ne q7, up_ne q9, up_ne q13, up_ne q20]
  · exact mks_all (fun _ => w_a0) (fun _ => w_a1) (fun _ => w_a2) (fun _ => w_a3) (fun _ => w_a5) (fun _ => w_a7) (fun _ => w_a9) (fun _ => w_a13) (fun e => absurd rfl e)
