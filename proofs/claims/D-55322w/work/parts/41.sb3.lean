/-! the JDK's builder, 3 -/
set_option maxRecDepth 100000
abbrev cJ3_setLength : ByteArray := prog_21_method_13_code
def yJ3_setLength : MethodName := ⟨RJ3, "setLength", "(I)V"⟩
def dkwJ3_setLength_3 : List UInt8 := [164, 0, 8, 42, 4, 181, 0, 73, 42, 27, 181, 0, 79, 177]
abbrev dktJ3_setLength_3 : List UInt8 := dkwJ3_setLength_3 ++ []
def dkwJ3_setLength_2 : List UInt8 := [167, 0, 31, 42, 180, 0, 15, 42, 180, 0, 79, 27, 184, 0, 137, 167, 0, 16, 42, 180, 0, 79, 27]
abbrev dktJ3_setLength_2 : List UInt8 := dkwJ3_setLength_2 ++ dktJ3_setLength_3
def dkwJ3_setLength_1 : List UInt8 := [162, 0, 40, 42, 182, 0, 83, 153, 0, 18, 42, 180, 0, 15, 42, 180, 0, 79, 27, 184, 0, 133]
abbrev dktJ3_setLength_1 : List UInt8 := dkwJ3_setLength_1 ++ dktJ3_setLength_2
def dkwJ3_setLength_0 : List UInt8 := [27, 156, 0, 12, 187, 0, 129, 89, 27, 183, 0, 131, 191, 42, 27, 182, 0, 100, 42, 180, 0, 79, 27]
abbrev dktJ3_setLength_0 : List UInt8 := dkwJ3_setLength_0 ++ dktJ3_setLength_1
theorem dksJ3_setLength_0 : cJ3_setLength.data.toList.drop 0 = dktJ3_setLength_0 := by decide +kernel
theorem dksJ3_setLength_1 : cJ3_setLength.data.toList.drop 23 = dktJ3_setLength_1 := dk_seg dksJ3_setLength_0 23 rfl rfl
theorem dksJ3_setLength_2 : cJ3_setLength.data.toList.drop 45 = dktJ3_setLength_2 := dk_seg dksJ3_setLength_1 22 rfl rfl
theorem dksJ3_setLength_3 : cJ3_setLength.data.toList.drop 68 = dktJ3_setLength_3 := dk_seg dksJ3_setLength_2 23 rfl rfl
theorem dJ3_setLength_0 : decode cJ3_setLength 0 = .ok (.iload_n 1, 1) := dk_27 (dk_at dksJ3_setLength_0 0 rfl rfl)
theorem dJ3_setLength_1 : decode cJ3_setLength 1 = .ok (.ifCond .ge 12, 3) := dk_156 0 12 (dk_at dksJ3_setLength_0 1 rfl rfl)
theorem dJ3_setLength_4 : decode cJ3_setLength 4 = .ok (.new 129, 3) := dk_187 0 129 (dk_at dksJ3_setLength_0 4 rfl rfl)
theorem dJ3_setLength_7 : decode cJ3_setLength 7 = .ok (.dup, 1) := dk_89 (dk_at dksJ3_setLength_0 7 rfl rfl)
theorem dJ3_setLength_8 : decode cJ3_setLength 8 = .ok (.iload_n 1, 1) := dk_27 (dk_at dksJ3_setLength_0 8 rfl rfl)
theorem dJ3_setLength_9 : decode cJ3_setLength 9 = .ok (.invokespecial 131, 3) := dk_183 0 131 (dk_at dksJ3_setLength_0 9 rfl rfl)
theorem dJ3_setLength_12 : decode cJ3_setLength 12 = .ok (.athrow, 1) := dk_191 (dk_at dksJ3_setLength_0 12 rfl rfl)
theorem dJ3_setLength_13 : decode cJ3_setLength 13 = .ok (.aload_n 0, 1) := dk_42 (dk_at dksJ3_setLength_0 13 rfl rfl)
theorem dJ3_setLength_14 : decode cJ3_setLength 14 = .ok (.iload_n 1, 1) := dk_27 (dk_at dksJ3_setLength_0 14 rfl rfl)
theorem dJ3_setLength_15 : decode cJ3_setLength 15 = .ok (.invokevirtual 100, 3) := dk_182 0 100 (dk_at dksJ3_setLength_0 15 rfl rfl)
theorem dJ3_setLength_18 : decode cJ3_setLength 18 = .ok (.aload_n 0, 1) := dk_42 (dk_at dksJ3_setLength_0 18 rfl rfl)
theorem dJ3_setLength_19 : decode cJ3_setLength 19 = .ok (.getfield 79, 3) := dk_180 0 79 (dk_at dksJ3_setLength_0 19 rfl rfl)
theorem dJ3_setLength_22 : decode cJ3_setLength 22 = .ok (.iload_n 1, 1) := dk_27 (dk_at dksJ3_setLength_0 22 rfl rfl)
theorem dJ3_setLength_23 : decode cJ3_setLength 23 = .ok (.if_icmp .ge 40, 3) := dk_162 0 40 (dk_at dksJ3_setLength_1 0 rfl rfl)
theorem dJ3_setLength_26 : decode cJ3_setLength 26 = .ok (.aload_n 0, 1) := dk_42 (dk_at dksJ3_setLength_1 3 rfl rfl)
theorem dJ3_setLength_27 : decode cJ3_setLength 27 = .ok (.invokevirtual 83, 3) := dk_182 0 83 (dk_at dksJ3_setLength_1 4 rfl rfl)
theorem dJ3_setLength_30 : decode cJ3_setLength 30 = .ok (.ifCond .eq 18, 3) := dk_153 0 18 (dk_at dksJ3_setLength_1 7 rfl rfl)
theorem dJ3_setLength_33 : decode cJ3_setLength 33 = .ok (.aload_n 0, 1) := dk_42 (dk_at dksJ3_setLength_1 10 rfl rfl)
theorem dJ3_setLength_34 : decode cJ3_setLength 34 = .ok (.getfield 15, 3) := dk_180 0 15 (dk_at dksJ3_setLength_1 11 rfl rfl)
theorem dJ3_setLength_37 : decode cJ3_setLength 37 = .ok (.aload_n 0, 1) := dk_42 (dk_at dksJ3_setLength_1 14 rfl rfl)
theorem dJ3_setLength_38 : decode cJ3_setLength 38 = .ok (.getfield 79, 3) := dk_180 0 79 (dk_at dksJ3_setLength_1 15 rfl rfl)
theorem dJ3_setLength_41 : decode cJ3_setLength 41 = .ok (.iload_n 1, 1) := dk_27 (dk_at dksJ3_setLength_1 18 rfl rfl)
theorem dJ3_setLength_42 : decode cJ3_setLength 42 = .ok (.invokestatic 133, 3) := dk_184 0 133 (dk_at dksJ3_setLength_1 19 rfl rfl)
theorem dJ3_setLength_45 : decode cJ3_setLength 45 = .ok (.goto 31, 3) := dk_167 0 31 (dk_at dksJ3_setLength_2 0 rfl rfl)
theorem dJ3_setLength_48 : decode cJ3_setLength 48 = .ok (.aload_n 0, 1) := dk_42 (dk_at dksJ3_setLength_2 3 rfl rfl)
theorem dJ3_setLength_49 : decode cJ3_setLength 49 = .ok (.getfield 15, 3) := dk_180 0 15 (dk_at dksJ3_setLength_2 4 rfl rfl)
theorem dJ3_setLength_52 : decode cJ3_setLength 52 = .ok (.aload_n 0, 1) := dk_42 (dk_at dksJ3_setLength_2 7 rfl rfl)
theorem dJ3_setLength_53 : decode cJ3_setLength 53 = .ok (.getfield 79, 3) := dk_180 0 79 (dk_at dksJ3_setLength_2 8 rfl rfl)
theorem dJ3_setLength_56 : decode cJ3_setLength 56 = .ok (.iload_n 1, 1) := dk_27 (dk_at dksJ3_setLength_2 11 rfl rfl)
theorem dJ3_setLength_57 : decode cJ3_setLength 57 = .ok (.invokestatic 137, 3) := dk_184 0 137 (dk_at dksJ3_setLength_2 12 rfl rfl)
theorem dJ3_setLength_60 : decode cJ3_setLength 60 = .ok (.goto 16, 3) := dk_167 0 16 (dk_at dksJ3_setLength_2 15 rfl rfl)
theorem dJ3_setLength_63 : decode cJ3_setLength 63 = .ok (.aload_n 0, 1) := dk_42 (dk_at dksJ3_setLength_2 18 rfl rfl)
theorem dJ3_setLength_64 : decode cJ3_setLength 64 = .ok (.getfield 79, 3) := dk_180 0 79 (dk_at dksJ3_setLength_2 19 rfl rfl)
theorem dJ3_setLength_67 : decode cJ3_setLength 67 = .ok (.iload_n 1, 1) := dk_27 (dk_at dksJ3_setLength_2 22 rfl rfl)
theorem dJ3_setLength_68 : decode cJ3_setLength 68 = .ok (.if_icmp .le 8, 3) := dk_164 0 8 (dk_at dksJ3_setLength_3 0 rfl rfl)
theorem dJ3_setLength_71 : decode cJ3_setLength 71 = .ok (.aload_n 0, 1) := dk_42 (dk_at dksJ3_setLength_3 3 rfl rfl)
theorem dJ3_setLength_72 : decode cJ3_setLength 72 = .ok (.iconst 1, 1) := dk_4 (dk_at dksJ3_setLength_3 4 rfl rfl)
theorem dJ3_setLength_73 : decode cJ3_setLength 73 = .ok (.putfield 73, 3) := dk_181 0 73 (dk_at dksJ3_setLength_3 5 rfl rfl)
theorem dJ3_setLength_76 : decode cJ3_setLength 76 = .ok (.aload_n 0, 1) := dk_42 (dk_at dksJ3_setLength_3 8 rfl rfl)
theorem dJ3_setLength_77 : decode cJ3_setLength 77 = .ok (.iload_n 1, 1) := dk_27 (dk_at dksJ3_setLength_3 9 rfl rfl)
theorem dJ3_setLength_78 : decode cJ3_setLength 78 = .ok (.putfield 79, 3) := dk_181 0 79 (dk_at dksJ3_setLength_3 10 rfl rfl)
theorem dJ3_setLength_81 : decode cJ3_setLength 81 = .ok (.return_, 1) := dk_177 (dk_at dksJ3_setLength_3 13 rfl rfl)
theorem q566 : (Jvm.Cond.instanceMethod ({ cls := "java/lang/AbstractStringBuilder", name := "ensureCapacityInternal", desc := "(I)V" } : Jvm.MethodName)) ∈ lw_all := lw_g (lw_at lw_m3 26 rfl) rfl
theorem q567 : (Jvm.Cond.code ({ cls := "java/lang/AbstractStringBuilder", name := "ensureCapacityInternal", desc := "(I)V" } : Jvm.MethodName) prog_21_method_9_code (3 : Nat) (Option.none : Option Jvm.ClassFile.FieldType)) ∈ lw_all := lw_g (lw_at lw_m3 27 rfl) rfl
theorem q564 : (Jvm.Cond.methodLink "java/lang/AbstractStringBuilder" (100 : Nat) ({ cls := "java/lang/AbstractStringBuilder", name := "ensureCapacityInternal", desc := "(I)V" } : Jvm.MethodName)) ∈ lw_all := lw_g (lw_at lw_m3 24 rfl) rfl
theorem q565 : (Jvm.Cond.privateMethod ({ cls := "java/lang/AbstractStringBuilder", name := "ensureCapacityInternal", desc := "(I)V" } : Jvm.MethodName)) ∈ lw_tbl := lw_at lw_m3 25 rfl
theorem q305 : (Jvm.Cond.fieldLink "java/lang/AbstractStringBuilder" (73 : Nat) "java/lang/AbstractStringBuilder" "maybeLatin1" "Z") ∈ lw_all := lw_g (lw_at lw_m2 5 rfl) rfl
/-- the builder is cut to nothing -/
def Cut (G : GE) (h h' : AH) (a b : Nat) : Prop := ∃ b' cap' m' g, SB G h' a b' cap' 0 m' g ∧ KeepA h h' a b ∧ (b' = b ∨ (h b' = none ∧ G.kh b' = none)) ∧ cap' < 1000
theorem sb_setLen0 (l : Launch) (G : GE) (h : AH) (a b cap n : Nat) (m : Int32) (f : Nat → Int32) (y0 : SB G h a b cap n m f) (hc2 : cap < 300) : GM l G yJ3_setLength (ws_ yJ3_setLength cJ3_setLength 2 none) 5 [.ref a, .int (nI 0)] (h) (2 * cap + 3) (PQ fun h' => Cut G h h' a b) := by
  refine GM.of (by decide) (dk rfl) ?_
  intro X eL eG eh ok fn
  subst eL; subst eG
  show GW X _ 0 0 [some (.ref a), some (.int (nI 0))] []
  obtain ⟨ra, rb, rn, rs, ras⟩ := id y0
  have nba : b ≠ a := fun z => by subst z; rw [ra] at rb; cases rb
  refine g_iload_n ok dJ3_setLength_0 rfl ?_
  refine g_if_ge ok (tgt := 13) dJ3_setLength_1 (by decide) (fun _ => ?_) (fun c_ => absurd (nI_le (a := 0) (b := 0) (by omega) (by omega)) c_)
  refine g_aload_n ok dJ3_setLength_13 rfl ?_
  refine g_iload_n ok dJ3_setLength_14 rfl ?_
  refine g_callP ok (C := "java/lang/StringBuilder") (y0 := ({ cls := "java/lang/AbstractStringBuilder", name := "isLatin1", desc := "()Z" } : Jvm.MethodName)) q564 q566 q600 q565 q71 q567 rfl (Recv.ob ok gc_J4 (Rd.h (ra))) dJ3_setLength_15 (sb_ensure X.l X.G _ a b cap n m f y0 0 (by omega) (by omega)) (nm_ (by decide : nmb _ 1 = true)) (dl rfl) (dk rfl) rfl rfl (dk rfl) (by omega) (kQ fun h2 u1 => ?_) xQ
  obtain ⟨b2, cap2, f2, y2, v2, v3, v4, v5⟩ := u1
  obtain ⟨ra2, rb2, rn2, rs2, ras2⟩ := id y2
  have nba2 : b2 ≠ a := fun z => by subst z; rw [ra2] at rb2; cases rb2
  refine g_aload_n ok dJ3_setLength_18 rfl ?_
  refine g_get ok ck_J4 3 q307 (Or.inl rfl) (by decide) dJ3_setLength_19 (Rd.h (ra2)) rfl ?_
  refine g_iload_n ok dJ3_setLength_22 rfl ?_
  refine g_icmp_ge ok (tgt := 63) dJ3_setLength_23 (by decide) (fun _ => ?_) (fun c => absurd (nI_pos' (by omega)) c)
  refine g_aload_n ok dJ3_setLength_63 rfl ?_
  refine g_get ok ck_J4 3 q307 (Or.inl rfl) (by decide) dJ3_setLength_64 (Rd.h (ra2)) rfl ?_
  refine g_iload_n ok dJ3_setLength_67 rfl ?_
  by_cases n0 : n = 0
  · refine g_icmp_le ok (tgt := 76) dJ3_setLength_68 (by decide) (fun _ => ?_) (fun c_ => absurd (nI_le (a := n) (b := 0) (by omega) (by omega)) c_)
    refine g_aload_n ok dJ3_setLength_76 rfl ?_
    refine g_iload_n ok dJ3_setLength_77 rfl ?_
    refine g_put ok ck_J4 3 q307 (Or.inl rfl) (by decide) rfl dJ3_setLength_78 (ra2) (dl rfl) rfl rfl (fs1 := [.ref b2, .int 0, .int m, .int (nI 0)]) rfl (?_)
    refine g_vret ok fn rfl dJ3_setLength_81 ⟨rfl, b2, cap2, m, f2, ⟨up_self, (up_ne nba2).trans (rb2), Nat.zero_le _, rs2, ras2⟩, ?_, v5, rs2⟩ (by omega)
    intro q y z1 z2 z3
    have z4 := v4 q y z1 z2 z3
    simp only [up_ne z1]; exact z4
  · refine g_icmp_le ok (tgt := 76) dJ3_setLength_68 (by decide) (fun c_ => absurd c_ (nI_ge (a := 0) (b := n) (by omega) (by omega))) (fun _ => ?_)
    refine g_aload_n ok dJ3_setLength_71 rfl ?_
    refine g_iconst ok (v := 1) dJ3_setLength_72 rfl ?_
    refine g_put ok ck_J4 2 q305 (Or.inl rfl) (by decide) rfl dJ3_setLength_73 (ra2) (dl rfl) rfl rfl (fs1 := [.ref b2, .int 0, .int 1, .int (nI n)]) rfl (?_)
    refine g_aload_n ok dJ3_setLength_76 rfl ?_
    refine g_iload_n ok dJ3_setLength_77 rfl ?_
    refine g_put ok ck_J4 3 q307 (Or.inl rfl) (by decide) rfl dJ3_setLength_78 (up_self) (dl rfl) rfl rfl (fs1 := [.ref b2, .int 0, .int 1, .int (nI 0)]) rfl (?_)
    refine g_vret ok fn rfl dJ3_setLength_81 ⟨rfl, b2, cap2, 1, f2, ⟨up_self, (up_ne nba2).trans ((up_ne nba2).trans (rb2)), Nat.zero_le _, rs2, ras2⟩, ?_, v5, rs2⟩ (by omega)
    intro q y z1 z2 z3
    have z4 := v4 q y z1 z2 z3
    simp only [up_ne z1]; exact z4
