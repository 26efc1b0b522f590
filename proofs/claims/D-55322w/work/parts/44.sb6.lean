/-! the JDK's builder, 6 -/
set_option maxRecDepth 100000
abbrev cJ3_append_3 : ByteArray := prog_21_method_31_code
def yJ3_append_3 : MethodName := ⟨RJ3, "append", "(C)Ljava/lang/AbstractStringBuilder;"⟩
def dkwJ3_append_3_3 : List UInt8 := [181, 0, 79, 27, 184, 0, 197, 42, 176]
abbrev dktJ3_append_3_3 : List UInt8 := dkwJ3_append_3_3 ++ []
def dkwJ3_append_3_2 : List UInt8 := [182, 0, 83, 153, 0, 7, 42, 182, 0, 195, 42, 180, 0, 15, 42, 89, 180, 0, 79, 90, 4, 96]
abbrev dktJ3_append_3_2 : List UInt8 := dkwJ3_append_3_2 ++ dktJ3_append_3_3
def dkwJ3_append_3_1 : List UInt8 := [42, 180, 0, 15, 42, 89, 180, 0, 79, 90, 4, 96, 181, 0, 79, 27, 145, 84, 167, 0, 33, 42]
abbrev dktJ3_append_3_1 : List UInt8 := dkwJ3_append_3_1 ++ dktJ3_append_3_2
def dkwJ3_append_3_0 : List UInt8 := [42, 42, 180, 0, 79, 4, 96, 182, 0, 100, 42, 182, 0, 83, 153, 0, 31, 27, 184, 0, 191, 153, 0, 24]
abbrev dktJ3_append_3_0 : List UInt8 := dkwJ3_append_3_0 ++ dktJ3_append_3_1
theorem dksJ3_append_3_0 : cJ3_append_3.data.toList.drop 0 = dktJ3_append_3_0 := by decide +kernel
theorem dksJ3_append_3_1 : cJ3_append_3.data.toList.drop 24 = dktJ3_append_3_1 := dk_seg dksJ3_append_3_0 24 rfl rfl
theorem dksJ3_append_3_2 : cJ3_append_3.data.toList.drop 46 = dktJ3_append_3_2 := dk_seg dksJ3_append_3_1 22 rfl rfl
theorem dksJ3_append_3_3 : cJ3_append_3.data.toList.drop 68 = dktJ3_append_3_3 := dk_seg dksJ3_append_3_2 22 rfl rfl
theorem dJ3_append_3_0 : decode cJ3_append_3 0 = .ok (.aload_n 0, 1) := dk_42 (dk_at dksJ3_append_3_0 0 rfl rfl)
theorem dJ3_append_3_1 : decode cJ3_append_3 1 = .ok (.aload_n 0, 1) := dk_42 (dk_at dksJ3_append_3_0 1 rfl rfl)
theorem dJ3_append_3_2 : decode cJ3_append_3 2 = .ok (.getfield 79, 3) := dk_180 0 79 (dk_at dksJ3_append_3_0 2 rfl rfl)
theorem dJ3_append_3_5 : decode cJ3_append_3 5 = .ok (.iconst 1, 1) := dk_4 (dk_at dksJ3_append_3_0 5 rfl rfl)
theorem dJ3_append_3_6 : decode cJ3_append_3 6 = .ok (.iadd, 1) := dk_96 (dk_at dksJ3_append_3_0 6 rfl rfl)
theorem dJ3_append_3_7 : decode cJ3_append_3 7 = .ok (.invokevirtual 100, 3) := dk_182 0 100 (dk_at dksJ3_append_3_0 7 rfl rfl)
theorem dJ3_append_3_10 : decode cJ3_append_3 10 = .ok (.aload_n 0, 1) := dk_42 (dk_at dksJ3_append_3_0 10 rfl rfl)
theorem dJ3_append_3_11 : decode cJ3_append_3 11 = .ok (.invokevirtual 83, 3) := dk_182 0 83 (dk_at dksJ3_append_3_0 11 rfl rfl)
theorem dJ3_append_3_14 : decode cJ3_append_3 14 = .ok (.ifCond .eq 31, 3) := dk_153 0 31 (dk_at dksJ3_append_3_0 14 rfl rfl)
theorem dJ3_append_3_17 : decode cJ3_append_3 17 = .ok (.iload_n 1, 1) := dk_27 (dk_at dksJ3_append_3_0 17 rfl rfl)
theorem dJ3_append_3_18 : decode cJ3_append_3 18 = .ok (.invokestatic 191, 3) := dk_184 0 191 (dk_at dksJ3_append_3_0 18 rfl rfl)
theorem dJ3_append_3_21 : decode cJ3_append_3 21 = .ok (.ifCond .eq 24, 3) := dk_153 0 24 (dk_at dksJ3_append_3_0 21 rfl rfl)
theorem dJ3_append_3_24 : decode cJ3_append_3 24 = .ok (.aload_n 0, 1) := dk_42 (dk_at dksJ3_append_3_1 0 rfl rfl)
theorem dJ3_append_3_25 : decode cJ3_append_3 25 = .ok (.getfield 15, 3) := dk_180 0 15 (dk_at dksJ3_append_3_1 1 rfl rfl)
theorem dJ3_append_3_28 : decode cJ3_append_3 28 = .ok (.aload_n 0, 1) := dk_42 (dk_at dksJ3_append_3_1 4 rfl rfl)
theorem dJ3_append_3_29 : decode cJ3_append_3 29 = .ok (.dup, 1) := dk_89 (dk_at dksJ3_append_3_1 5 rfl rfl)
theorem dJ3_append_3_30 : decode cJ3_append_3 30 = .ok (.getfield 79, 3) := dk_180 0 79 (dk_at dksJ3_append_3_1 6 rfl rfl)
theorem dJ3_append_3_33 : decode cJ3_append_3 33 = .ok (.dup_x1, 1) := dk_90 (dk_at dksJ3_append_3_1 9 rfl rfl)
theorem dJ3_append_3_34 : decode cJ3_append_3 34 = .ok (.iconst 1, 1) := dk_4 (dk_at dksJ3_append_3_1 10 rfl rfl)
theorem dJ3_append_3_35 : decode cJ3_append_3 35 = .ok (.iadd, 1) := dk_96 (dk_at dksJ3_append_3_1 11 rfl rfl)
theorem dJ3_append_3_36 : decode cJ3_append_3 36 = .ok (.putfield 79, 3) := dk_181 0 79 (dk_at dksJ3_append_3_1 12 rfl rfl)
theorem dJ3_append_3_39 : decode cJ3_append_3 39 = .ok (.iload_n 1, 1) := dk_27 (dk_at dksJ3_append_3_1 15 rfl rfl)
theorem dJ3_append_3_40 : decode cJ3_append_3 40 = .ok (.i2b, 1) := dk_145 (dk_at dksJ3_append_3_1 16 rfl rfl)
theorem dJ3_append_3_41 : decode cJ3_append_3 41 = .ok (.bastore, 1) := dk_84 (dk_at dksJ3_append_3_1 17 rfl rfl)
theorem dJ3_append_3_42 : decode cJ3_append_3 42 = .ok (.goto 33, 3) := dk_167 0 33 (dk_at dksJ3_append_3_1 18 rfl rfl)
theorem dJ3_append_3_45 : decode cJ3_append_3 45 = .ok (.aload_n 0, 1) := dk_42 (dk_at dksJ3_append_3_1 21 rfl rfl)
theorem dJ3_append_3_46 : decode cJ3_append_3 46 = .ok (.invokevirtual 83, 3) := dk_182 0 83 (dk_at dksJ3_append_3_2 0 rfl rfl)
theorem dJ3_append_3_49 : decode cJ3_append_3 49 = .ok (.ifCond .eq 7, 3) := dk_153 0 7 (dk_at dksJ3_append_3_2 3 rfl rfl)
theorem dJ3_append_3_52 : decode cJ3_append_3 52 = .ok (.aload_n 0, 1) := dk_42 (dk_at dksJ3_append_3_2 6 rfl rfl)
theorem dJ3_append_3_53 : decode cJ3_append_3 53 = .ok (.invokevirtual 195, 3) := dk_182 0 195 (dk_at dksJ3_append_3_2 7 rfl rfl)
theorem dJ3_append_3_56 : decode cJ3_append_3 56 = .ok (.aload_n 0, 1) := dk_42 (dk_at dksJ3_append_3_2 10 rfl rfl)
theorem dJ3_append_3_57 : decode cJ3_append_3 57 = .ok (.getfield 15, 3) := dk_180 0 15 (dk_at dksJ3_append_3_2 11 rfl rfl)
theorem dJ3_append_3_60 : decode cJ3_append_3 60 = .ok (.aload_n 0, 1) := dk_42 (dk_at dksJ3_append_3_2 14 rfl rfl)
theorem dJ3_append_3_61 : decode cJ3_append_3 61 = .ok (.dup, 1) := dk_89 (dk_at dksJ3_append_3_2 15 rfl rfl)
theorem dJ3_append_3_62 : decode cJ3_append_3 62 = .ok (.getfield 79, 3) := dk_180 0 79 (dk_at dksJ3_append_3_2 16 rfl rfl)
theorem dJ3_append_3_65 : decode cJ3_append_3 65 = .ok (.dup_x1, 1) := dk_90 (dk_at dksJ3_append_3_2 19 rfl rfl)
theorem dJ3_append_3_66 : decode cJ3_append_3 66 = .ok (.iconst 1, 1) := dk_4 (dk_at dksJ3_append_3_2 20 rfl rfl)
theorem dJ3_append_3_67 : decode cJ3_append_3 67 = .ok (.iadd, 1) := dk_96 (dk_at dksJ3_append_3_2 21 rfl rfl)
theorem dJ3_append_3_68 : decode cJ3_append_3 68 = .ok (.putfield 79, 3) := dk_181 0 79 (dk_at dksJ3_append_3_3 0 rfl rfl)
theorem dJ3_append_3_71 : decode cJ3_append_3 71 = .ok (.iload_n 1, 1) := dk_27 (dk_at dksJ3_append_3_3 3 rfl rfl)
theorem dJ3_append_3_72 : decode cJ3_append_3 72 = .ok (.invokestatic 197, 3) := dk_184 0 197 (dk_at dksJ3_append_3_3 4 rfl rfl)
theorem dJ3_append_3_75 : decode cJ3_append_3 75 = .ok (.aload_n 0, 1) := dk_42 (dk_at dksJ3_append_3_3 7 rfl rfl)
theorem dJ3_append_3_76 : decode cJ3_append_3 76 = .ok (.areturn, 1) := dk_176 (dk_at dksJ3_append_3_3 8 rfl rfl)
theorem q598 : (Jvm.Cond.instanceMethod ({ cls := "java/lang/AbstractStringBuilder", name := "isLatin1", desc := "()Z" } : Jvm.MethodName)) ∈ lw_all := lw_g (lw_at lw_m3 58 rfl) rfl
theorem q601 : (Jvm.Cond.code ({ cls := "java/lang/AbstractStringBuilder", name := "isLatin1", desc := "()Z" } : Jvm.MethodName) prog_21_method_68_code (1 : Nat) (Option.some Jvm.ClassFile.FieldType.boolean)) ∈ lw_all := lw_g (lw_at lw_m3 61 rfl) rfl
theorem q597 : (Jvm.Cond.methodLink "java/lang/AbstractStringBuilder" (83 : Nat) ({ cls := "java/lang/AbstractStringBuilder", name := "isLatin1", desc := "()Z" } : Jvm.MethodName)) ∈ lw_all := lw_g (lw_at lw_m3 57 rfl) rfl
theorem q599 : (Jvm.Cond.sameMethod "java/lang/AbstractStringBuilder" "java/lang/AbstractStringBuilder" "isLatin1" "()Z") ∈ lw_all := lw_g (lw_at lw_m3 59 rfl) rfl
theorem q1865 : (Jvm.Cond.methodLink "java/lang/AbstractStringBuilder" (191 : Nat) ({ cls := "java/lang/StringLatin1", name := "canEncode", desc := "(C)Z" } : Jvm.MethodName)) ∈ lw_all := lw_g (lw_at lw_m8 125 rfl) rfl
theorem q1867 : (Jvm.Cond.code ({ cls := "java/lang/StringLatin1", name := "canEncode", desc := "(C)Z" } : Jvm.MethodName) prog_42_method_3_code (1 : Nat) (Option.some Jvm.ClassFile.FieldType.boolean)) ∈ lw_all := lw_g (lw_at lw_m8 127 rfl) rfl
theorem q1866 : (Jvm.Cond.static ({ cls := "java/lang/StringLatin1", name := "canEncode", desc := "(C)Z" } : Jvm.MethodName)) ∈ lw_all := lw_g (lw_at lw_m8 126 rfl) rfl
/-- k characters more at the end -/
def Longer (G : GE) (h h' : AH) (a b n k : Nat) (f c : Nat → Int32) : Prop := ∃ b' cap' m' g, SB G h' a b' cap' (n + k) m' g ∧ (∀ j, j < n → g j = f j) ∧ (∀ j, j < k → g (n + j) = c j) ∧ KeepA h h' a b ∧ (b' = b ∨ (h b' = none ∧ G.kh b' = none))
theorem asb_appC (l : Launch) (G : GE) (h : AH) (a b cap n : Nat) (m : Int32) (f : Nat → Int32) (y0 : SB G h a b cap n m f) (q : Nat) (hq : q < 128) (hn2 : n < 250) (hc2 : cap < 300) : GM l G yJ3_append_3 (ws_ yJ3_append_3 cJ3_append_3 2 (some (.object "java/lang/AbstractStringBuilder"))) 5 [.ref a, .int (nI q)] (h) (2 * cap + n + 4) (PR fun v h' => v = .ref a ∧ Longer G h h' a b n 1 f (fun _ => nI q)) := by
  refine GM.of (by decide) (dk rfl) ?_
  intro X eL eG eh ok fn
  subst eL; subst eG
  show GW X _ 0 0 [some (.ref a), some (.int (nI q))] []
  obtain ⟨ra, rb, rn, rs, ras⟩ := id y0
  have nba : b ≠ a := fun z => by subst z; rw [ra] at rb; cases rb
  have hcx : n + 1 < 300 := by omega
  refine g_aload_n ok dJ3_append_3_0 rfl ?_
  refine g_aload_n ok dJ3_append_3_1 rfl ?_
  refine g_get ok ck_J4 3 q307 (Or.inl rfl) (by decide) dJ3_append_3_2 (Rd.h (ra)) rfl ?_
  refine g_iconst ok (v := 1) dJ3_append_3_5 rfl ?_
  refine g_iaddN ok dJ3_append_3_6 (c := (n + 1)) (a := n) (b := 1) rfl rfl rfl ?_
  refine g_callP ok (C := "java/lang/StringBuilder") (y0 := ({ cls := "java/lang/AbstractStringBuilder", name := "isLatin1", desc := "()Z" } : Jvm.MethodName)) q564 q566 q600 q565 q71 q567 rfl (Recv.ob ok gc_J4 (Rd.h (ra))) dJ3_append_3_7 (sb_ensure X.l X.G _ a b cap n m f y0 (n + 1) (by omega) (by omega)) (nm_ (by decide : nmb _ 1 = true)) (dl rfl) (dk rfl) rfl rfl (dk rfl) (by omega) (kQ fun h2 u1 => ?_) xQ
  obtain ⟨b2, cap2, f2, y2, v2, v3, v4, v5⟩ := u1
  obtain ⟨ra2, rb2, rn2, rs2, ras2⟩ := id y2
  have nba2 : b2 ≠ a := fun z => by subst z; rw [ra2] at rb2; cases rb2
  refine g_aload_n ok dJ3_append_3_10 rfl ?_
  refine g_callU ok (C := "java/lang/StringBuilder") (owner := "java/lang/AbstractStringBuilder") q597 q599 q600 q598 q71 q601 (ok.declI q598 q601) (by decide) (Recv.ob ok gc_J4 (Rd.h (ra2))) dJ3_append_3_11 (sb_latin X.l X.G _ a b2 cap2 n m f2 y2) (nm_ (by decide : nmb _ 0 = true)) (dl rfl) (dk rfl) rfl rfl (dk rfl) (by omega) (kV ?_) xV
  refine g_if_eq ok (tgt := 45) dJ3_append_3_14 (by decide) (fun c_ => absurd c_ (fun e_ => by have := (nI_eq (a := 1) (b := 0) (by omega) (by omega)).mp e_; omega)) (fun _ => ?_)
  refine g_iload_n ok dJ3_append_3_17 rfl ?_
  refine g_callS ok q1865 q1866 q92 q1867 dJ3_append_3_18 (l_canEncode X.l X.G _ q (by omega)) (nm_ (by decide : nmb _ 1 = true)) (dl rfl) (dk rfl) rfl rfl (dk rfl) (by omega) (kV ?_) xV
  refine g_if_eq ok (tgt := 45) dJ3_append_3_21 (by decide) (fun c_ => absurd c_ (fun e_ => by have := (nI_eq (a := 1) (b := 0) (by omega) (by omega)).mp e_; omega)) (fun _ => ?_)
  refine g_aload_n ok dJ3_append_3_24 rfl ?_
  refine g_get ok ck_J4 0 q303 (Or.inl rfl) (by decide) dJ3_append_3_25 (Rd.h (ra2)) rfl ?_
  refine g_aload_n ok dJ3_append_3_28 rfl ?_
  refine g_dup ok dJ3_append_3_29 rfl ?_
  refine g_get ok ck_J4 3 q307 (Or.inl rfl) (by decide) dJ3_append_3_30 (Rd.h (ra2)) rfl ?_
  refine g_dup_x1 ok dJ3_append_3_33 rfl rfl ?_
  refine g_iconst ok (v := 1) dJ3_append_3_34 rfl ?_
  refine g_iaddN ok dJ3_append_3_35 (c := (n + 1)) (a := n) (b := 1) rfl rfl rfl ?_
  refine g_put ok ck_J4 3 q307 (Or.inl rfl) (by decide) rfl dJ3_append_3_36 (ra2) (dl rfl) rfl rfl (fs1 := [.ref b2, .int 0, .int m, .int (nI (n + 1))]) rfl (?_)
  refine g_iload_n ok dJ3_append_3_39 rfl ?_
  refine g_i2b ok dJ3_append_3_40 (v := nI q) (i2bN hq) ?_
  refine g_bast ok (j := n) dJ3_append_3_41 ((up_ne nba2).trans (rb2)) rfl (by omega) (by omega) (v := (nI q)) (i2bN hq) ?_
  refine g_goto ok dJ3_append_3_42 (tgt := 75) (by decide) ?_
  refine g_aload_n ok dJ3_append_3_75 rfl ?_
  refine g_aret ok fn rfl (Or.inl ⟨_, rfl⟩) (Or.inr ⟨_, rfl⟩) dJ3_append_3_76 ⟨_, rfl, rfl, b2, cap2, m, _, ⟨(up_ne (Ne.symm nba2)).trans (up_self), up_self, by omega, rs2, ?_⟩, fun j hj => ?_, fun j hj => ?_, ?_, v5⟩ (by omega)
  · intro j hj; by_cases e : j = n
    · subst e; exact ⟨q, hq, upd_at⟩
    · rw [upd_ne e]; exact ras2 j hj
  · rw [upd_ne (by omega)]; exact v3 j hj
  · obtain rfl : j = 0 := by omega
    exact upd_at
  · intro q y z1 z2 z3; have z4 := v4 q y z1 z2 z3
    have z5 : q ≠ b2 := fun w => by subst w; rcases v5 with w | w; · exact z2 w
                                    · rw [w.1] at z3; cases z3
    simp only [up_ne z1, up_ne z5]; exact z4
