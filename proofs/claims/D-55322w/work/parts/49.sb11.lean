/-! the JDK's builder, 11: append of a String -/
set_option maxRecDepth 100000
abbrev cJ3_append : ByteArray := prog_21_method_22_code
def yJ3_append : MethodName := ⟨RJ3, "append", "(Ljava/lang/String;)Ljava/lang/AbstractStringBuilder;"⟩
def dkwJ3_append_1 : List UInt8 := [42, 42, 180, 0, 79, 43, 182, 0, 208, 42, 89, 180, 0, 79, 28, 96, 181, 0, 79, 42, 176]
abbrev dktJ3_append_1 : List UInt8 := dkwJ3_append_1 ++ []
def dkwJ3_append_0 : List UInt8 := [43, 199, 0, 8, 42, 182, 0, 204, 176, 43, 182, 0, 32, 61, 42, 42, 180, 0, 79, 28, 96, 182, 0, 100]
abbrev dktJ3_append_0 : List UInt8 := dkwJ3_append_0 ++ dktJ3_append_1
theorem dksJ3_append_0 : cJ3_append.data.toList.drop 0 = dktJ3_append_0 := by decide +kernel
theorem dksJ3_append_1 : cJ3_append.data.toList.drop 24 = dktJ3_append_1 := dk_seg dksJ3_append_0 24 rfl rfl
theorem dJ3_append_0 : decode cJ3_append 0 = .ok (.aload_n 1, 1) := dk_43 (dk_at dksJ3_append_0 0 rfl rfl)
theorem dJ3_append_1 : decode cJ3_append 1 = .ok (.ifnonnull 8, 3) := dk_199 0 8 (dk_at dksJ3_append_0 1 rfl rfl)
theorem dJ3_append_4 : decode cJ3_append 4 = .ok (.aload_n 0, 1) := dk_42 (dk_at dksJ3_append_0 4 rfl rfl)
theorem dJ3_append_5 : decode cJ3_append 5 = .ok (.invokevirtual 204, 3) := dk_182 0 204 (dk_at dksJ3_append_0 5 rfl rfl)
theorem dJ3_append_8 : decode cJ3_append 8 = .ok (.areturn, 1) := dk_176 (dk_at dksJ3_append_0 8 rfl rfl)
theorem dJ3_append_9 : decode cJ3_append 9 = .ok (.aload_n 1, 1) := dk_43 (dk_at dksJ3_append_0 9 rfl rfl)
theorem dJ3_append_10 : decode cJ3_append 10 = .ok (.invokevirtual 32, 3) := dk_182 0 32 (dk_at dksJ3_append_0 10 rfl rfl)
theorem dJ3_append_13 : decode cJ3_append 13 = .ok (.istore_n 2, 1) := dk_61 (dk_at dksJ3_append_0 13 rfl rfl)
theorem dJ3_append_14 : decode cJ3_append 14 = .ok (.aload_n 0, 1) := dk_42 (dk_at dksJ3_append_0 14 rfl rfl)
theorem dJ3_append_15 : decode cJ3_append 15 = .ok (.aload_n 0, 1) := dk_42 (dk_at dksJ3_append_0 15 rfl rfl)
theorem dJ3_append_16 : decode cJ3_append 16 = .ok (.getfield 79, 3) := dk_180 0 79 (dk_at dksJ3_append_0 16 rfl rfl)
theorem dJ3_append_19 : decode cJ3_append 19 = .ok (.iload_n 2, 1) := dk_28 (dk_at dksJ3_append_0 19 rfl rfl)
theorem dJ3_append_20 : decode cJ3_append 20 = .ok (.iadd, 1) := dk_96 (dk_at dksJ3_append_0 20 rfl rfl)
theorem dJ3_append_21 : decode cJ3_append 21 = .ok (.invokevirtual 100, 3) := dk_182 0 100 (dk_at dksJ3_append_0 21 rfl rfl)
theorem dJ3_append_24 : decode cJ3_append 24 = .ok (.aload_n 0, 1) := dk_42 (dk_at dksJ3_append_1 0 rfl rfl)
theorem dJ3_append_25 : decode cJ3_append 25 = .ok (.aload_n 0, 1) := dk_42 (dk_at dksJ3_append_1 1 rfl rfl)
theorem dJ3_append_26 : decode cJ3_append 26 = .ok (.getfield 79, 3) := dk_180 0 79 (dk_at dksJ3_append_1 2 rfl rfl)
theorem dJ3_append_29 : decode cJ3_append 29 = .ok (.aload_n 1, 1) := dk_43 (dk_at dksJ3_append_1 5 rfl rfl)
theorem dJ3_append_30 : decode cJ3_append 30 = .ok (.invokevirtual 208, 3) := dk_182 0 208 (dk_at dksJ3_append_1 6 rfl rfl)
theorem dJ3_append_33 : decode cJ3_append 33 = .ok (.aload_n 0, 1) := dk_42 (dk_at dksJ3_append_1 9 rfl rfl)
theorem dJ3_append_34 : decode cJ3_append 34 = .ok (.dup, 1) := dk_89 (dk_at dksJ3_append_1 10 rfl rfl)
theorem dJ3_append_35 : decode cJ3_append 35 = .ok (.getfield 79, 3) := dk_180 0 79 (dk_at dksJ3_append_1 11 rfl rfl)
theorem dJ3_append_38 : decode cJ3_append 38 = .ok (.iload_n 2, 1) := dk_28 (dk_at dksJ3_append_1 14 rfl rfl)
theorem dJ3_append_39 : decode cJ3_append 39 = .ok (.iadd, 1) := dk_96 (dk_at dksJ3_append_1 15 rfl rfl)
theorem dJ3_append_40 : decode cJ3_append 40 = .ok (.putfield 79, 3) := dk_181 0 79 (dk_at dksJ3_append_1 16 rfl rfl)
theorem dJ3_append_43 : decode cJ3_append 43 = .ok (.aload_n 0, 1) := dk_42 (dk_at dksJ3_append_1 19 rfl rfl)
theorem dJ3_append_44 : decode cJ3_append 44 = .ok (.areturn, 1) := dk_176 (dk_at dksJ3_append_1 20 rfl rfl)
theorem q628 : (Jvm.Cond.methodLink "java/lang/AbstractStringBuilder" (32 : Nat) ({ cls := "java/lang/String", name := "length", desc := "()I" } : Jvm.MethodName)) ∈ lw_all := lw_g (lw_at lw_m3 88 rfl) rfl
theorem q639 : (Jvm.Cond.instanceMethod ({ cls := "java/lang/AbstractStringBuilder", name := "putStringAt", desc := "(ILjava/lang/String;)V" } : Jvm.MethodName)) ∈ lw_all := lw_g (lw_at lw_m3 99 rfl) rfl
theorem q640 : (Jvm.Cond.code ({ cls := "java/lang/AbstractStringBuilder", name := "putStringAt", desc := "(ILjava/lang/String;)V" } : Jvm.MethodName) prog_21_method_73_code (3 : Nat) (Option.none : Option Jvm.ClassFile.FieldType)) ∈ lw_all := lw_g (lw_at lw_m3 100 rfl) rfl
theorem q637 : (Jvm.Cond.methodLink "java/lang/AbstractStringBuilder" (208 : Nat) ({ cls := "java/lang/AbstractStringBuilder", name := "putStringAt", desc := "(ILjava/lang/String;)V" } : Jvm.MethodName)) ∈ lw_all := lw_g (lw_at lw_m3 97 rfl) rfl
theorem q638 : (Jvm.Cond.privateMethod ({ cls := "java/lang/AbstractStringBuilder", name := "putStringAt", desc := "(ILjava/lang/String;)V" } : Jvm.MethodName)) ∈ lw_tbl := lw_at lw_m3 98 rfl
theorem Rd.keep {G : GE} {h h' : AH} {a b q : Nat} {e : va_E} (r : Rd G h q e) (k : KeepA h h' a b) (n1 : q ≠ a) (n2 : q ≠ b) : Rd G h' q e := r.elim (fun z => Or.inl (k q e n1 n2 z)) Or.inr
theorem StrA.keep {G : GE} {h h' : AH} {a b s sb k : Nat} {c : Nat → Int32} (y : StrA G h s sb k c) (x : KeepA h h' a b) (n1 : s ≠ a) (n2 : s ≠ b) (n3 : sb ≠ a) (n4 : sb ≠ b) : StrA G h' s sb k c := by
  obtain ⟨⟨hs, hz, r1⟩, r2, r3⟩ := y
  exact ⟨⟨hs, hz, r1.keep x n1 n2⟩, r2.keep x n3 n4, r3⟩
theorem ne_new {G : GE} {h : AH} {b b2 q : Nat} {e : va_E} (r : Rd G h q e) (n : q ≠ b) (v : b2 = b ∨ (h b2 = none ∧ G.kh b2 = none)) : q ≠ b2 := by
  rcases v with v | v
  · rw [v]; exact n
  · exact r.ne v.1 v.2
theorem asb_appS (l : Launch) (G : GE) (h : AH) (a b cap n : Nat) (m : Int32) (f : Nat → Int32) (y0 : SB G h a b cap n m f) (s sb k : Nat) (c : Nat → Int32) (y1 : StrA G h s sb k c) (nsb : sb ≠ b) (nsb2 : s ≠ b) (nsa : s ≠ a) (nsba : sb ≠ a) (hc : Asc k c) (hk2 : k < 30) (hn2 : n < 250) (hc2 : cap < 300) : GM l G yJ3_append (ws_ yJ3_append cJ3_append 3 (some (.object "java/lang/AbstractStringBuilder"))) 5 [.ref a, .ref s] (h) (2 * cap + n + k + 3) (PR fun v h' => v = .ref a ∧ Longer G h h' a b n k f c) := by
  refine GM.of (by decide) (dk rfl) ?_
  intro X eL eG eh ok fn
  subst eL; subst eG
  show GW X _ 0 0 [some (.ref a), some (.ref s), none] []
  obtain ⟨ra, rb, rn, rs, ras⟩ := id y0
  have nba : b ≠ a := fun z => by subst z; rw [ra] at rb; cases rb
  obtain ⟨⟨hss, hzs, r1s⟩, r2s, r3s⟩ := id y1
  have hcx : n + k < 300 := by omega
  refine g_aload_n ok dJ3_append_0 rfl ?_
  refine g_ifnonnull ok (tgt := 9) dJ3_append_1 (by decide) ?_
  refine g_aload_n ok dJ3_append_9 rfl ?_
  refine g_callV ok q628 q629 q630 q73 q631 (Recv.ob ok gc_J5 (r1s)) dJ3_append_10 (s_length X.l X.G _ s sb k c y1) (nm_ (by decide : nmb _ 0 = true)) (dl rfl) (dk rfl) rfl rfl (dk rfl) (by omega) (kV ?_) xV
  refine g_istore_n ok dJ3_append_13 (ls1 := [some (.ref a), some (.ref s), some (.int (nI k))]) (dl rfl) rfl ?_
  refine g_aload_n ok dJ3_append_14 rfl ?_
  refine g_aload_n ok dJ3_append_15 rfl ?_
  refine g_get ok ck_J4 3 q307 (Or.inl rfl) (by decide) dJ3_append_16 (Rd.h (ra)) rfl ?_
  refine g_iload_n ok dJ3_append_19 rfl ?_
  refine g_iaddN ok dJ3_append_20 (c := (n + k)) (a := n) (b := k) rfl rfl rfl ?_
  refine g_callP ok (C := "java/lang/StringBuilder") (y0 := ({ cls := "java/lang/AbstractStringBuilder", name := "isLatin1", desc := "()Z" } : Jvm.MethodName)) q564 q566 q600 q565 q71 q567 rfl (Recv.ob ok gc_J4 (Rd.h (ra))) dJ3_append_21 (sb_ensure X.l X.G _ a b cap n m f y0 (n + k) (by omega) (by omega)) (nm_ (by decide : nmb _ 1 = true)) (dl rfl) (dk rfl) rfl rfl (dk rfl) (by omega) (kQ fun h2 u1 => ?_) xQ
  obtain ⟨b2, cap2, f2, y2, v2, v3, v4, v5⟩ := u1
  obtain ⟨ra2, rb2, rn2, rs2, ras2⟩ := id y2
  have nba2 : b2 ≠ a := fun z => by subst z; rw [ra2] at rb2; cases rb2
  have m1 := ne_new r1s nsb2 v5
  have m2 := ne_new r2s nsb v5
  have y3 : StrA X.G h2 s sb k c := y1.keep v4 nsa nsb2 nsba nsb
  obtain ⟨⟨hs3, hz3, r1t⟩, r2t, r3t⟩ := id y3
  refine g_aload_n ok dJ3_append_24 rfl ?_
  refine g_aload_n ok dJ3_append_25 rfl ?_
  refine g_get ok ck_J4 3 q307 (Or.inl rfl) (by decide) dJ3_append_26 (Rd.h (ra2)) rfl ?_
  refine g_aload_n ok dJ3_append_29 rfl ?_
  refine g_callP ok (C := "java/lang/StringBuilder") (y0 := ({ cls := "java/lang/AbstractStringBuilder", name := "isLatin1", desc := "()Z" } : Jvm.MethodName)) q637 q639 q600 q638 q71 q640 rfl (Recv.ob ok gc_J4 (Rd.h (ra2))) dJ3_append_30 (sb_putStr X.l X.G _ a b2 cap2 n m f2 y2 s sb k c y3 m2 m1 nsa nsba hc (by omega)) (nm_ (by decide : nmb _ 2 = true)) (dl rfl) (dk rfl) rfl rfl (dk rfl) (by omega) (kN ?_) xN
  refine g_aload_n ok dJ3_append_33 rfl ?_
  refine g_dup ok dJ3_append_34 rfl ?_
  refine g_get ok ck_J4 3 q307 (Or.inl rfl) (by decide) dJ3_append_35 (Rd.h ((up_ne (Ne.symm nba2)).trans (ra2))) rfl ?_
  refine g_iload_n ok dJ3_append_38 rfl ?_
  refine g_iaddN ok dJ3_append_39 (c := (n + k)) (a := n) (b := k) rfl rfl rfl ?_
  refine g_put ok ck_J4 3 q307 (Or.inl rfl) (by decide) rfl dJ3_append_40 ((up_ne (Ne.symm nba2)).trans (ra2)) (dl rfl) rfl rfl (fs1 := [.ref b2, .int 0, .int m, .int (nI (n + k))]) rfl (?_)
  refine g_aload_n ok dJ3_append_43 rfl ?_
  refine g_aret ok fn rfl (Or.inl ⟨_, rfl⟩) (Or.inr ⟨_, rfl⟩) dJ3_append_44 ⟨_, rfl, rfl, b2, cap2, m, _, ⟨up_self, (up_ne nba2).trans (up_self), by omega, rs2, ?_⟩, fun j hj => ?_, fun j hj => ?_, ?_, v5⟩ (by omega)
  · intro j hj; by_cases e : n ≤ j ∧ j < n + k
    · rw [pk_cpy_in e.1 e.2]; exact hc _ (by omega)
    · rw [pk_cpy_out (by omega)]; exact ras2 j hj
  · rw [pk_cpy_out (by omega)]; exact v3 j hj
  · rw [pk_cpy_in (by omega) (by omega)]; congr 1; omega
  · intro q y z1 z2 z3; have z4 := v4 q y z1 z2 z3
    have z5 : q ≠ b2 := fun w => by subst w; rcases v5 with w | w; · exact z2 w
                                    · rw [w.1] at z3; cases z3
    simp only [up_ne z1, up_ne z5]; exact z4
