/-! the JDK's builder, 2 -/
set_option maxRecDepth 100000
abbrev cJ20_copyOf : ByteArray := prog_54_method_121_code
def yJ20_copyOf : MethodName := ⟨RJ20, "copyOf", "([BI)[B"⟩
def dkwJ20_copyOf_1 : List UInt8 := [27, 184, 1, 48, 184, 0, 150, 44, 176]
abbrev dktJ20_copyOf_1 : List UInt8 := dkwJ20_copyOf_1 ++ []
def dkwJ20_copyOf_0 : List UInt8 := [27, 42, 190, 160, 0, 11, 42, 182, 1, 54, 192, 1, 55, 176, 27, 188, 8, 77, 42, 3, 44, 3, 42, 190]
abbrev dktJ20_copyOf_0 : List UInt8 := dkwJ20_copyOf_0 ++ dktJ20_copyOf_1
theorem dksJ20_copyOf_0 : cJ20_copyOf.data.toList.drop 0 = dktJ20_copyOf_0 := by decide +kernel
theorem dksJ20_copyOf_1 : cJ20_copyOf.data.toList.drop 24 = dktJ20_copyOf_1 := dk_seg dksJ20_copyOf_0 24 rfl rfl
theorem dJ20_copyOf_0 : decode cJ20_copyOf 0 = .ok (.iload_n 1, 1) := dk_27 (dk_at dksJ20_copyOf_0 0 rfl rfl)
theorem dJ20_copyOf_1 : decode cJ20_copyOf 1 = .ok (.aload_n 0, 1) := dk_42 (dk_at dksJ20_copyOf_0 1 rfl rfl)
theorem dJ20_copyOf_2 : decode cJ20_copyOf 2 = .ok (.arraylength, 1) := dk_190 (dk_at dksJ20_copyOf_0 2 rfl rfl)
theorem dJ20_copyOf_3 : decode cJ20_copyOf 3 = .ok (.if_icmp .ne 11, 3) := dk_160 0 11 (dk_at dksJ20_copyOf_0 3 rfl rfl)
theorem dJ20_copyOf_6 : decode cJ20_copyOf 6 = .ok (.aload_n 0, 1) := dk_42 (dk_at dksJ20_copyOf_0 6 rfl rfl)
theorem dJ20_copyOf_7 : decode cJ20_copyOf 7 = .ok (.invokevirtual 310, 3) := dk_182 1 54 (dk_at dksJ20_copyOf_0 7 rfl rfl)
theorem dJ20_copyOf_10 : decode cJ20_copyOf 10 = .ok (.checkcast 311, 3) := dk_192 1 55 (dk_at dksJ20_copyOf_0 10 rfl rfl)
theorem dJ20_copyOf_13 : decode cJ20_copyOf 13 = .ok (.areturn, 1) := dk_176 (dk_at dksJ20_copyOf_0 13 rfl rfl)
theorem dJ20_copyOf_14 : decode cJ20_copyOf 14 = .ok (.iload_n 1, 1) := dk_27 (dk_at dksJ20_copyOf_0 14 rfl rfl)
theorem dJ20_copyOf_15 : decode cJ20_copyOf 15 = .ok (.newarray .byte, 2) := dk_188_8 (dk_at dksJ20_copyOf_0 15 rfl rfl)
theorem dJ20_copyOf_17 : decode cJ20_copyOf 17 = .ok (.astore_n 2, 1) := dk_77 (dk_at dksJ20_copyOf_0 17 rfl rfl)
theorem dJ20_copyOf_18 : decode cJ20_copyOf 18 = .ok (.aload_n 0, 1) := dk_42 (dk_at dksJ20_copyOf_0 18 rfl rfl)
theorem dJ20_copyOf_19 : decode cJ20_copyOf 19 = .ok (.iconst 0, 1) := dk_3 (dk_at dksJ20_copyOf_0 19 rfl rfl)
theorem dJ20_copyOf_20 : decode cJ20_copyOf 20 = .ok (.aload_n 2, 1) := dk_44 (dk_at dksJ20_copyOf_0 20 rfl rfl)
theorem dJ20_copyOf_21 : decode cJ20_copyOf 21 = .ok (.iconst 0, 1) := dk_3 (dk_at dksJ20_copyOf_0 21 rfl rfl)
theorem dJ20_copyOf_22 : decode cJ20_copyOf 22 = .ok (.aload_n 0, 1) := dk_42 (dk_at dksJ20_copyOf_0 22 rfl rfl)
theorem dJ20_copyOf_23 : decode cJ20_copyOf 23 = .ok (.arraylength, 1) := dk_190 (dk_at dksJ20_copyOf_0 23 rfl rfl)
theorem dJ20_copyOf_24 : decode cJ20_copyOf 24 = .ok (.iload_n 1, 1) := dk_27 (dk_at dksJ20_copyOf_1 0 rfl rfl)
theorem dJ20_copyOf_25 : decode cJ20_copyOf 25 = .ok (.invokestatic 304, 3) := dk_184 1 48 (dk_at dksJ20_copyOf_1 1 rfl rfl)
theorem dJ20_copyOf_28 : decode cJ20_copyOf 28 = .ok (.invokestatic 150, 3) := dk_184 0 150 (dk_at dksJ20_copyOf_1 4 rfl rfl)
theorem dJ20_copyOf_31 : decode cJ20_copyOf 31 = .ok (.aload_n 2, 1) := dk_44 (dk_at dksJ20_copyOf_1 7 rfl rfl)
theorem dJ20_copyOf_32 : decode cJ20_copyOf 32 = .ok (.areturn, 1) := dk_176 (dk_at dksJ20_copyOf_1 8 rfl rfl)
abbrev cJ3_ensureCapacityInternal : ByteArray := prog_21_method_9_code
def yJ3_ensureCapacityInternal : MethodName := ⟨RJ3, "ensureCapacityInternal", "(I)V"⟩
def dkwJ3_ensureCapacityInternal_1 : List UInt8 := [182, 0, 104, 42, 180, 0, 22, 120, 184, 0, 108, 181, 0, 15, 177]
abbrev dktJ3_ensureCapacityInternal_1 : List UInt8 := dkwJ3_ensureCapacityInternal_1 ++ []
def dkwJ3_ensureCapacityInternal_0 : List UInt8 := [42, 180, 0, 15, 190, 42, 180, 0, 22, 122, 61, 27, 28, 100, 158, 0, 24, 42, 42, 180, 0, 15, 42, 27]
abbrev dktJ3_ensureCapacityInternal_0 : List UInt8 := dkwJ3_ensureCapacityInternal_0 ++ dktJ3_ensureCapacityInternal_1
theorem dksJ3_ensureCapacityInternal_0 : cJ3_ensureCapacityInternal.data.toList.drop 0 = dktJ3_ensureCapacityInternal_0 := by decide +kernel
theorem dksJ3_ensureCapacityInternal_1 : cJ3_ensureCapacityInternal.data.toList.drop 24 = dktJ3_ensureCapacityInternal_1 := dk_seg dksJ3_ensureCapacityInternal_0 24 rfl rfl
theorem dJ3_ensureCapacityInternal_0 : decode cJ3_ensureCapacityInternal 0 = .ok (.aload_n 0, 1) := dk_42 (dk_at dksJ3_ensureCapacityInternal_0 0 rfl rfl)
theorem dJ3_ensureCapacityInternal_1 : decode cJ3_ensureCapacityInternal 1 = .ok (.getfield 15, 3) := dk_180 0 15 (dk_at dksJ3_ensureCapacityInternal_0 1 rfl rfl)
theorem dJ3_ensureCapacityInternal_4 : decode cJ3_ensureCapacityInternal 4 = .ok (.arraylength, 1) := dk_190 (dk_at dksJ3_ensureCapacityInternal_0 4 rfl rfl)
theorem dJ3_ensureCapacityInternal_5 : decode cJ3_ensureCapacityInternal 5 = .ok (.aload_n 0, 1) := dk_42 (dk_at dksJ3_ensureCapacityInternal_0 5 rfl rfl)
theorem dJ3_ensureCapacityInternal_6 : decode cJ3_ensureCapacityInternal 6 = .ok (.getfield 22, 3) := dk_180 0 22 (dk_at dksJ3_ensureCapacityInternal_0 6 rfl rfl)
theorem dJ3_ensureCapacityInternal_9 : decode cJ3_ensureCapacityInternal 9 = .ok (.ishr, 1) := dk_122 (dk_at dksJ3_ensureCapacityInternal_0 9 rfl rfl)
theorem dJ3_ensureCapacityInternal_10 : decode cJ3_ensureCapacityInternal 10 = .ok (.istore_n 2, 1) := dk_61 (dk_at dksJ3_ensureCapacityInternal_0 10 rfl rfl)
theorem dJ3_ensureCapacityInternal_11 : decode cJ3_ensureCapacityInternal 11 = .ok (.iload_n 1, 1) := dk_27 (dk_at dksJ3_ensureCapacityInternal_0 11 rfl rfl)
theorem dJ3_ensureCapacityInternal_12 : decode cJ3_ensureCapacityInternal 12 = .ok (.iload_n 2, 1) := dk_28 (dk_at dksJ3_ensureCapacityInternal_0 12 rfl rfl)
theorem dJ3_ensureCapacityInternal_13 : decode cJ3_ensureCapacityInternal 13 = .ok (.isub, 1) := dk_100 (dk_at dksJ3_ensureCapacityInternal_0 13 rfl rfl)
theorem dJ3_ensureCapacityInternal_14 : decode cJ3_ensureCapacityInternal 14 = .ok (.ifCond .le 24, 3) := dk_158 0 24 (dk_at dksJ3_ensureCapacityInternal_0 14 rfl rfl)
theorem dJ3_ensureCapacityInternal_17 : decode cJ3_ensureCapacityInternal 17 = .ok (.aload_n 0, 1) := dk_42 (dk_at dksJ3_ensureCapacityInternal_0 17 rfl rfl)
theorem dJ3_ensureCapacityInternal_18 : decode cJ3_ensureCapacityInternal 18 = .ok (.aload_n 0, 1) := dk_42 (dk_at dksJ3_ensureCapacityInternal_0 18 rfl rfl)
theorem dJ3_ensureCapacityInternal_19 : decode cJ3_ensureCapacityInternal 19 = .ok (.getfield 15, 3) := dk_180 0 15 (dk_at dksJ3_ensureCapacityInternal_0 19 rfl rfl)
theorem dJ3_ensureCapacityInternal_22 : decode cJ3_ensureCapacityInternal 22 = .ok (.aload_n 0, 1) := dk_42 (dk_at dksJ3_ensureCapacityInternal_0 22 rfl rfl)
theorem dJ3_ensureCapacityInternal_23 : decode cJ3_ensureCapacityInternal 23 = .ok (.iload_n 1, 1) := dk_27 (dk_at dksJ3_ensureCapacityInternal_0 23 rfl rfl)
theorem dJ3_ensureCapacityInternal_24 : decode cJ3_ensureCapacityInternal 24 = .ok (.invokevirtual 104, 3) := dk_182 0 104 (dk_at dksJ3_ensureCapacityInternal_1 0 rfl rfl)
theorem dJ3_ensureCapacityInternal_27 : decode cJ3_ensureCapacityInternal 27 = .ok (.aload_n 0, 1) := dk_42 (dk_at dksJ3_ensureCapacityInternal_1 3 rfl rfl)
theorem dJ3_ensureCapacityInternal_28 : decode cJ3_ensureCapacityInternal 28 = .ok (.getfield 22, 3) := dk_180 0 22 (dk_at dksJ3_ensureCapacityInternal_1 4 rfl rfl)
theorem dJ3_ensureCapacityInternal_31 : decode cJ3_ensureCapacityInternal 31 = .ok (.ishl, 1) := dk_120 (dk_at dksJ3_ensureCapacityInternal_1 7 rfl rfl)
theorem dJ3_ensureCapacityInternal_32 : decode cJ3_ensureCapacityInternal 32 = .ok (.invokestatic 108, 3) := dk_184 0 108 (dk_at dksJ3_ensureCapacityInternal_1 8 rfl rfl)
theorem dJ3_ensureCapacityInternal_35 : decode cJ3_ensureCapacityInternal 35 = .ok (.putfield 15, 3) := dk_181 0 15 (dk_at dksJ3_ensureCapacityInternal_1 11 rfl rfl)
theorem dJ3_ensureCapacityInternal_38 : decode cJ3_ensureCapacityInternal 38 = .ok (.return_, 1) := dk_177 (dk_at dksJ3_ensureCapacityInternal_1 14 rfl rfl)
theorem q570 : (Jvm.Cond.instanceMethod ({ cls := "java/lang/AbstractStringBuilder", name := "newCapacity", desc := "(I)I" } : Jvm.MethodName)) ∈ lw_all := lw_g (lw_at lw_m3 30 rfl) rfl
theorem q571 : (Jvm.Cond.code ({ cls := "java/lang/AbstractStringBuilder", name := "newCapacity", desc := "(I)I" } : Jvm.MethodName) prog_21_method_10_code (6 : Nat) (Option.some Jvm.ClassFile.FieldType.int)) ∈ lw_all := lw_g (lw_at lw_m3 31 rfl) rfl
theorem q568 : (Jvm.Cond.methodLink "java/lang/AbstractStringBuilder" (104 : Nat) ({ cls := "java/lang/AbstractStringBuilder", name := "newCapacity", desc := "(I)I" } : Jvm.MethodName)) ∈ lw_all := lw_g (lw_at lw_m3 28 rfl) rfl
theorem q600 : (Jvm.Cond.selects "java/lang/StringBuilder" ({ cls := "java/lang/AbstractStringBuilder", name := "isLatin1", desc := "()Z" } : Jvm.MethodName) ({ cls := "java/lang/AbstractStringBuilder", name := "isLatin1", desc := "()Z" } : Jvm.MethodName)) ∈ lw_all := lw_g (lw_at lw_m3 60 rfl) rfl
theorem q569 : (Jvm.Cond.privateMethod ({ cls := "java/lang/AbstractStringBuilder", name := "newCapacity", desc := "(I)I" } : Jvm.MethodName)) ∈ lw_tbl := lw_at lw_m3 29 rfl
theorem q583 : (Jvm.Cond.methodLink "java/lang/AbstractStringBuilder" (108 : Nat) ({ cls := "java/util/Arrays", name := "copyOf", desc := "([BI)[B" } : Jvm.MethodName)) ∈ lw_all := lw_g (lw_at lw_m3 43 rfl) rfl
theorem q585 : (Jvm.Cond.code ({ cls := "java/util/Arrays", name := "copyOf", desc := "([BI)[B" } : Jvm.MethodName) prog_54_method_121_code (3 : Nat) (Option.some (Jvm.ClassFile.FieldType.array Jvm.ClassFile.FieldType.byte))) ∈ lw_all := lw_g (lw_at lw_m3 45 rfl) rfl
theorem q584 : (Jvm.Cond.static ({ cls := "java/util/Arrays", name := "copyOf", desc := "([BI)[B" } : Jvm.MethodName)) ∈ lw_all := lw_g (lw_at lw_m3 44 rfl) rfl
/-- after room was made -/
def Roomy (G : GE) (h h' : AH) (a b cap n k : Nat) (m : Int32) (f : Nat → Int32) : Prop := ∃ b' cap' g, SB G h' a b' cap' n m g ∧ k ≤ cap' ∧ (∀ j, j < n → g j = f j) ∧ KeepA h h' a b ∧ (b' = b ∨ (h b' = none ∧ G.kh b' = none))
theorem asc_cpy {n m : Nat} {f : Nat → Int32} (ha : Asc n f) (h : n ≤ m) : Asc m (va_cpy f (fun _ => 0) 0 0 n) := fun j hj => by
  by_cases c : j < n
  · rw [pk_cpy_in (by omega) (by omega)]; exact ha _ (by omega)
  · rw [pk_cpy_out (by omega)]; exact ⟨0, by decide, rfl⟩
theorem a_copyOfB (l : Launch) (G : GE) (h : AH) (b cap z : Nat) (f : Nat → Int32) (r2 : h b = some (aB G cap f)) (hz : cap < z) (hz2 : z < 10000) (ha : Asc cap f) : GM l G yJ20_copyOf (ws_ yJ20_copyOf cJ20_copyOf 3 (some (.array .byte))) 2 [.ref b, .int (nI z)] (h) (z + 1) (PR fun v h' => ∃ e, v = .ref e ∧ h e = none ∧ G.kh e = none ∧ h' = up h e (aB G z (va_cpy f (fun _ => 0) 0 0 cap))) := by
  refine GM.of (by decide) (dk rfl) ?_
  intro X eL eG eh ok fn
  subst eL; subst eG
  show GW X _ 0 0 [some (.ref b), some (.int (nI z)), none] []
  refine g_iload_n ok dJ20_copyOf_0 rfl ?_
  refine g_aload_n ok dJ20_copyOf_1 rfl ?_
  refine g_alen ok dJ20_copyOf_2 (Rd.h (r2)) (gt_b _) ?_
  refine g_icmp_ne ok (tgt := 14) dJ20_copyOf_3 (by decide) (fun _ => ?_) (fun c_ => absurd c_ (fun e_ => by have := (nI_eq (a := z) (b := cap) (by omega) (by omega)).mp e_; omega))
  refine g_iload_n ok dJ20_copyOf_14 rfl ?_
  refine g_newa ok (atype := .byte) (n := z) (ai := 2) (y := (.inl (fun _ => 0))) q318 (gt_b _) (fun C h => by cases h) (fun _ => rfl) dJ20_copyOf_15 rfl (by omega) (by omega) (fun e hae hke h0e => ?_)
  have ne0 := Rd.ne (Rd.h (r2)) hae hke
  refine g_astore_n ok dJ20_copyOf_17 (ls1 := [some (.ref b), some (.int (nI z)), some (.ref e)]) (dl rfl) rfl ?_
  refine g_aload_n ok dJ20_copyOf_18 rfl ?_
  refine g_iconst ok (v := 0) dJ20_copyOf_19 rfl ?_
  refine g_aload_n ok dJ20_copyOf_20 rfl ?_
  refine g_iconst ok (v := 0) dJ20_copyOf_21 rfl ?_
  refine g_aload_n ok dJ20_copyOf_22 rfl ?_
  refine g_alen ok dJ20_copyOf_23 (Rd.h ((up_ne ne0).trans (r2))) (gt_b _) ?_
  refine g_iload_n ok dJ20_copyOf_24 rfl ?_
  refine g_min ok q593 q594 q90 q595 dJ20_copyOf_25 (dk rfl) rfl (dk rfl) (by omega) ?_
  rw [mnR (a := cap) (b := z) (by omega) (by omega)]
  refine g_copyi ok (sp := 0) (dp := 0) (n := cap) q596 q379 q378 q82 (gt_b _) rfl dJ20_copyOf_28 (Rd.h ((up_ne ne0).trans (r2))) (up_self) (fun x hx => fitBA (m := cap) ha (by omega) hx) rfl rfl rfl (by omega) (by omega) (by omega) (by omega) (dl rfl) rfl (dk rfl) ?_
  refine g_aload_n ok dJ20_copyOf_31 rfl ?_
  exact g_aret ok fn rfl (Or.inr ⟨_, rfl⟩) (Or.inr ⟨_, rfl⟩) dJ20_copyOf_32 ⟨_, rfl, e, rfl, hae, hke, up_up⟩ (by omega)
theorem sub_le0 {k c : Nat} (h : k ≤ c) (hc : c < 2 ^ 30) : nI k - nI c ≤ 0 := by
  by_cases e : k = c
  · subst e; rw [pk_sub (Nat.le_refl _), Nat.sub_self]; exact Int32.le_refl 0
  · exact Int32.le_of_lt (pk_sneg hc (by omega))
theorem sb_ensure (l : Launch) (G : GE) (h : AH) (a b cap n : Nat) (m : Int32) (f : Nat → Int32) (y0 : SB G h a b cap n m f) (k : Nat) (hk2 : k < 300) (hc2 : cap < 300) : GM l G yJ3_ensureCapacityInternal (ws_ yJ3_ensureCapacityInternal cJ3_ensureCapacityInternal 3 none) 4 [.ref a, .int (nI k)] (h) (2 * cap + k + 3) (PQ fun h' => Roomy G h h' a b cap n k m f) := by
  refine GM.of (by decide) (dk rfl) ?_
  intro X eL eG eh ok fn
  subst eL; subst eG
  show GW X _ 0 0 [some (.ref a), some (.int (nI k)), none] []
  obtain ⟨ra, rb, rn, rs, ras⟩ := id y0
  have nba : b ≠ a := fun z => by subst z; rw [ra] at rb; cases rb
  refine g_aload_n ok dJ3_ensureCapacityInternal_0 rfl ?_
  refine g_get ok ck_J4 0 q303 (Or.inl rfl) (by decide) dJ3_ensureCapacityInternal_1 (Rd.h (ra)) rfl ?_
  refine g_alen ok dJ3_ensureCapacityInternal_4 (Rd.h (rb)) (gt_b _) ?_
  refine g_aload_n ok dJ3_ensureCapacityInternal_5 rfl ?_
  refine g_get ok ck_J4 1 q304 (Or.inl rfl) (by decide) dJ3_ensureCapacityInternal_6 (Rd.h (ra)) rfl ?_
  refine g_ishr ok dJ3_ensureCapacityInternal_9 ?_
  rw [ishr0]
  refine g_istore_n ok dJ3_ensureCapacityInternal_10 (ls1 := [some (.ref a), some (.int (nI k)), some (.int (nI cap))]) (dl rfl) rfl ?_
  refine g_iload_n ok dJ3_ensureCapacityInternal_11 rfl ?_
  refine g_iload_n ok dJ3_ensureCapacityInternal_12 rfl ?_
  by_cases hk : cap < k
  · refine g_isubN ok dJ3_ensureCapacityInternal_13 (c := (k - cap)) (a := k) (b := cap) rfl rfl (by omega) (by omega) ?_
    refine g_if_le ok (tgt := 38) dJ3_ensureCapacityInternal_14 (by decide) (fun c_ => absurd c_ (nI_ge (a := 0) (b := (k - cap)) (by omega) (by omega))) (fun _ => ?_)
    refine g_aload_n ok dJ3_ensureCapacityInternal_17 rfl ?_
    refine g_aload_n ok dJ3_ensureCapacityInternal_18 rfl ?_
    refine g_get ok ck_J4 0 q303 (Or.inl rfl) (by decide) dJ3_ensureCapacityInternal_19 (Rd.h (ra)) rfl ?_
    refine g_aload_n ok dJ3_ensureCapacityInternal_22 rfl ?_
    refine g_iload_n ok dJ3_ensureCapacityInternal_23 rfl ?_
    refine g_callP ok (C := "java/lang/StringBuilder") (y0 := ({ cls := "java/lang/AbstractStringBuilder", name := "isLatin1", desc := "()Z" } : Jvm.MethodName)) q568 q570 q600 q569 q71 q571 rfl (Recv.ob ok gc_J4 (Rd.h (ra))) dJ3_ensureCapacityInternal_24 (sb_newCap X.l X.G _ a b cap n m f y0 k (by omega) (by omega)) (nm_ (by decide : nmb _ 1 = true)) (dl rfl) (dk rfl) rfl rfl (dk rfl) (by omega) (kV ?_) xV
    refine g_aload_n ok dJ3_ensureCapacityInternal_27 rfl ?_
    refine g_get ok ck_J4 1 q304 (Or.inl rfl) (by decide) dJ3_ensureCapacityInternal_28 (Rd.h (ra)) rfl ?_
    refine g_ishl ok dJ3_ensureCapacityInternal_31 ?_
    rw [ishl0]
    obtain ⟨z, hz⟩ : ∃ z, cap + max (k - cap) (cap + 2) = z := ⟨_, rfl⟩
    have hz2 : k ≤ z ∧ cap < z ∧ z ≤ 2 * cap + k + 2 := by omega
    rw [hz]
    refine g_callS ok q583 q584 q91 q585 dJ3_ensureCapacityInternal_32 (a_copyOfB X.l X.G _ b cap z f rb (by omega) (by omega) ras) (nm_ (by decide : nmb _ 2 = true)) (dl rfl) (dk rfl) rfl rfl (dk rfl) (by omega) (kR fun v hh ⟨e32, z1, z2, z3, z4⟩ => ?_) xR
    subst z1; subst z4
    have ne0 := Rd.ne (Rd.h (ra)) z2 z3
    have ne1 := Rd.ne (Rd.h (rb)) z2 z3
    refine g_put ok ck_J4 0 q303 (Or.inl rfl) (by decide) rfl dJ3_ensureCapacityInternal_35 ((up_ne ne0).trans (ra)) (dl rfl) rfl rfl (fs1 := [.ref e32, .int 0, .int m, .int (nI n)]) rfl (?_)
    refine g_vret ok fn rfl dJ3_ensureCapacityInternal_38 ⟨rfl, e32, z, _, ⟨up_self, (up_ne (Ne.symm ne0)).trans (up_self), by omega, by omega, asc_cpy ras (by omega)⟩, hz2.1, fun j hj => by rw [pk_cpy_in (by omega) (by omega)]; congr 1; omega, ?_, Or.inr ⟨z2, z3⟩⟩ (by omega)
    intro q y z5 z6 z7
    have z8 : q ≠ e32 := fun w => by subst w; rw [z2] at z7; cases z7
    simp only [up_ne z5, up_ne z8]; exact z7
  · refine g_isub ok dJ3_ensureCapacityInternal_13 ?_
    refine g_if_le ok (tgt := 38) dJ3_ensureCapacityInternal_14 (by decide) (fun _ => ?_) (fun c => absurd (sub_le0 (by omega) (by omega)) c)
    exact g_vret ok fn rfl dJ3_ensureCapacityInternal_38 ⟨rfl, b, cap, f, y0, by omega, fun _ _ => rfl, fun _ _ _ _ z => z, Or.inl rfl⟩ (by omega)
