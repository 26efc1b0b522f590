/-! THE JDK's lists, 4 -/
set_option maxRecDepth 100000
abbrev cJ2_fastRemove : ByteArray := prog_52_method_39_code
def yJ2_fastRemove : MethodName := ⟨RJ2, "fastRemove", "([Ljava/lang/Object;I)V"⟩
def dkwJ2_fastRemove_1 : List UInt8 := [4, 96, 43, 28, 29, 28, 100, 184, 0, 112, 43, 42, 29, 90, 181, 0, 48, 1, 83, 177]
abbrev dktJ2_fastRemove_1 : List UInt8 := dkwJ2_fastRemove_1 ++ []
def dkwJ2_fastRemove_0 : List UInt8 := [42, 89, 180, 0, 63, 4, 96, 181, 0, 63, 42, 180, 0, 48, 4, 100, 89, 62, 28, 164, 0, 15, 43, 28]
abbrev dktJ2_fastRemove_0 : List UInt8 := dkwJ2_fastRemove_0 ++ dktJ2_fastRemove_1
theorem dksJ2_fastRemove_0 : cJ2_fastRemove.data.toList.drop 0 = dktJ2_fastRemove_0 := by decide +kernel
theorem dksJ2_fastRemove_1 : cJ2_fastRemove.data.toList.drop 24 = dktJ2_fastRemove_1 := dk_seg dksJ2_fastRemove_0 24 rfl rfl
theorem dJ2_fastRemove_0 : decode cJ2_fastRemove 0 = .ok (.aload_n 0, 1) := dk_42 (dk_at dksJ2_fastRemove_0 0 rfl rfl)
theorem dJ2_fastRemove_1 : decode cJ2_fastRemove 1 = .ok (.dup, 1) := dk_89 (dk_at dksJ2_fastRemove_0 1 rfl rfl)
theorem dJ2_fastRemove_2 : decode cJ2_fastRemove 2 = .ok (.getfield 63, 3) := dk_180 0 63 (dk_at dksJ2_fastRemove_0 2 rfl rfl)
theorem dJ2_fastRemove_5 : decode cJ2_fastRemove 5 = .ok (.iconst 1, 1) := dk_4 (dk_at dksJ2_fastRemove_0 5 rfl rfl)
theorem dJ2_fastRemove_6 : decode cJ2_fastRemove 6 = .ok (.iadd, 1) := dk_96 (dk_at dksJ2_fastRemove_0 6 rfl rfl)
theorem dJ2_fastRemove_7 : decode cJ2_fastRemove 7 = .ok (.putfield 63, 3) := dk_181 0 63 (dk_at dksJ2_fastRemove_0 7 rfl rfl)
theorem dJ2_fastRemove_10 : decode cJ2_fastRemove 10 = .ok (.aload_n 0, 1) := dk_42 (dk_at dksJ2_fastRemove_0 10 rfl rfl)
theorem dJ2_fastRemove_11 : decode cJ2_fastRemove 11 = .ok (.getfield 48, 3) := dk_180 0 48 (dk_at dksJ2_fastRemove_0 11 rfl rfl)
theorem dJ2_fastRemove_14 : decode cJ2_fastRemove 14 = .ok (.iconst 1, 1) := dk_4 (dk_at dksJ2_fastRemove_0 14 rfl rfl)
theorem dJ2_fastRemove_15 : decode cJ2_fastRemove 15 = .ok (.isub, 1) := dk_100 (dk_at dksJ2_fastRemove_0 15 rfl rfl)
theorem dJ2_fastRemove_16 : decode cJ2_fastRemove 16 = .ok (.dup, 1) := dk_89 (dk_at dksJ2_fastRemove_0 16 rfl rfl)
theorem dJ2_fastRemove_17 : decode cJ2_fastRemove 17 = .ok (.istore_n 3, 1) := dk_62 (dk_at dksJ2_fastRemove_0 17 rfl rfl)
theorem dJ2_fastRemove_18 : decode cJ2_fastRemove 18 = .ok (.iload_n 2, 1) := dk_28 (dk_at dksJ2_fastRemove_0 18 rfl rfl)
theorem dJ2_fastRemove_19 : decode cJ2_fastRemove 19 = .ok (.if_icmp .le 15, 3) := dk_164 0 15 (dk_at dksJ2_fastRemove_0 19 rfl rfl)
theorem dJ2_fastRemove_22 : decode cJ2_fastRemove 22 = .ok (.aload_n 1, 1) := dk_43 (dk_at dksJ2_fastRemove_0 22 rfl rfl)
theorem dJ2_fastRemove_23 : decode cJ2_fastRemove 23 = .ok (.iload_n 2, 1) := dk_28 (dk_at dksJ2_fastRemove_0 23 rfl rfl)
theorem dJ2_fastRemove_24 : decode cJ2_fastRemove 24 = .ok (.iconst 1, 1) := dk_4 (dk_at dksJ2_fastRemove_1 0 rfl rfl)
theorem dJ2_fastRemove_25 : decode cJ2_fastRemove 25 = .ok (.iadd, 1) := dk_96 (dk_at dksJ2_fastRemove_1 1 rfl rfl)
theorem dJ2_fastRemove_26 : decode cJ2_fastRemove 26 = .ok (.aload_n 1, 1) := dk_43 (dk_at dksJ2_fastRemove_1 2 rfl rfl)
theorem dJ2_fastRemove_27 : decode cJ2_fastRemove 27 = .ok (.iload_n 2, 1) := dk_28 (dk_at dksJ2_fastRemove_1 3 rfl rfl)
theorem dJ2_fastRemove_28 : decode cJ2_fastRemove 28 = .ok (.iload_n 3, 1) := dk_29 (dk_at dksJ2_fastRemove_1 4 rfl rfl)
theorem dJ2_fastRemove_29 : decode cJ2_fastRemove 29 = .ok (.iload_n 2, 1) := dk_28 (dk_at dksJ2_fastRemove_1 5 rfl rfl)
theorem dJ2_fastRemove_30 : decode cJ2_fastRemove 30 = .ok (.isub, 1) := dk_100 (dk_at dksJ2_fastRemove_1 6 rfl rfl)
theorem dJ2_fastRemove_31 : decode cJ2_fastRemove 31 = .ok (.invokestatic 112, 3) := dk_184 0 112 (dk_at dksJ2_fastRemove_1 7 rfl rfl)
theorem dJ2_fastRemove_34 : decode cJ2_fastRemove 34 = .ok (.aload_n 1, 1) := dk_43 (dk_at dksJ2_fastRemove_1 10 rfl rfl)
theorem dJ2_fastRemove_35 : decode cJ2_fastRemove 35 = .ok (.aload_n 0, 1) := dk_42 (dk_at dksJ2_fastRemove_1 11 rfl rfl)
theorem dJ2_fastRemove_36 : decode cJ2_fastRemove 36 = .ok (.iload_n 3, 1) := dk_29 (dk_at dksJ2_fastRemove_1 12 rfl rfl)
theorem dJ2_fastRemove_37 : decode cJ2_fastRemove 37 = .ok (.dup_x1, 1) := dk_90 (dk_at dksJ2_fastRemove_1 13 rfl rfl)
theorem dJ2_fastRemove_38 : decode cJ2_fastRemove 38 = .ok (.putfield 48, 3) := dk_181 0 48 (dk_at dksJ2_fastRemove_1 14 rfl rfl)
theorem dJ2_fastRemove_41 : decode cJ2_fastRemove 41 = .ok (.aconst_null, 1) := dk_1 (dk_at dksJ2_fastRemove_1 17 rfl rfl)
theorem dJ2_fastRemove_42 : decode cJ2_fastRemove 42 = .ok (.aastore, 1) := dk_83 (dk_at dksJ2_fastRemove_1 18 rfl rfl)
theorem dJ2_fastRemove_43 : decode cJ2_fastRemove 43 = .ok (.return_, 1) := dk_177 (dk_at dksJ2_fastRemove_1 19 rfl rfl)
abbrev cJ2_remove : ByteArray := prog_52_method_29_code
def yJ2_remove : MethodName := ⟨RJ2, "remove", "(I)Ljava/lang/Object;"⟩
def dkwJ2_remove_1 : List UInt8 := [45, 176]
abbrev dktJ2_remove_1 : List UInt8 := dkwJ2_remove_1 ++ []
def dkwJ2_remove_0 : List UInt8 := [27, 42, 180, 0, 48, 184, 0, 118, 87, 42, 180, 0, 9, 77, 44, 27, 50, 78, 42, 44, 27, 182, 0, 144]
abbrev dktJ2_remove_0 : List UInt8 := dkwJ2_remove_0 ++ dktJ2_remove_1
theorem dksJ2_remove_0 : cJ2_remove.data.toList.drop 0 = dktJ2_remove_0 := by decide +kernel
theorem dksJ2_remove_1 : cJ2_remove.data.toList.drop 24 = dktJ2_remove_1 := dk_seg dksJ2_remove_0 24 rfl rfl
theorem dJ2_remove_0 : decode cJ2_remove 0 = .ok (.iload_n 1, 1) := dk_27 (dk_at dksJ2_remove_0 0 rfl rfl)
theorem dJ2_remove_1 : decode cJ2_remove 1 = .ok (.aload_n 0, 1) := dk_42 (dk_at dksJ2_remove_0 1 rfl rfl)
theorem dJ2_remove_2 : decode cJ2_remove 2 = .ok (.getfield 48, 3) := dk_180 0 48 (dk_at dksJ2_remove_0 2 rfl rfl)
theorem dJ2_remove_5 : decode cJ2_remove 5 = .ok (.invokestatic 118, 3) := dk_184 0 118 (dk_at dksJ2_remove_0 5 rfl rfl)
theorem dJ2_remove_8 : decode cJ2_remove 8 = .ok (.pop, 1) := dk_87 (dk_at dksJ2_remove_0 8 rfl rfl)
theorem dJ2_remove_9 : decode cJ2_remove 9 = .ok (.aload_n 0, 1) := dk_42 (dk_at dksJ2_remove_0 9 rfl rfl)
theorem dJ2_remove_10 : decode cJ2_remove 10 = .ok (.getfield 9, 3) := dk_180 0 9 (dk_at dksJ2_remove_0 10 rfl rfl)
theorem dJ2_remove_13 : decode cJ2_remove 13 = .ok (.astore_n 2, 1) := dk_77 (dk_at dksJ2_remove_0 13 rfl rfl)
theorem dJ2_remove_14 : decode cJ2_remove 14 = .ok (.aload_n 2, 1) := dk_44 (dk_at dksJ2_remove_0 14 rfl rfl)
theorem dJ2_remove_15 : decode cJ2_remove 15 = .ok (.iload_n 1, 1) := dk_27 (dk_at dksJ2_remove_0 15 rfl rfl)
theorem dJ2_remove_16 : decode cJ2_remove 16 = .ok (.aaload, 1) := dk_50 (dk_at dksJ2_remove_0 16 rfl rfl)
theorem dJ2_remove_17 : decode cJ2_remove 17 = .ok (.astore_n 3, 1) := dk_78 (dk_at dksJ2_remove_0 17 rfl rfl)
theorem dJ2_remove_18 : decode cJ2_remove 18 = .ok (.aload_n 0, 1) := dk_42 (dk_at dksJ2_remove_0 18 rfl rfl)
theorem dJ2_remove_19 : decode cJ2_remove 19 = .ok (.aload_n 2, 1) := dk_44 (dk_at dksJ2_remove_0 19 rfl rfl)
theorem dJ2_remove_20 : decode cJ2_remove 20 = .ok (.iload_n 1, 1) := dk_27 (dk_at dksJ2_remove_0 20 rfl rfl)
theorem dJ2_remove_21 : decode cJ2_remove 21 = .ok (.invokevirtual 144, 3) := dk_182 0 144 (dk_at dksJ2_remove_0 21 rfl rfl)
theorem dJ2_remove_24 : decode cJ2_remove 24 = .ok (.aload_n 3, 1) := dk_45 (dk_at dksJ2_remove_1 0 rfl rfl)
theorem dJ2_remove_25 : decode cJ2_remove 25 = .ok (.areturn, 1) := dk_176 (dk_at dksJ2_remove_1 1 rfl rfl)
theorem q1130 : (Jvm.Cond.methodLink "java/util/ArrayList" (112 : Nat) ({ cls := "java/lang/System", name := "arraycopy", desc := "(Ljava/lang/Object;ILjava/lang/Object;II)V" } : Jvm.MethodName)) ∈ lw_all := lw_g (lw_at lw_m5 110 rfl) rfl
theorem q1126 : (Jvm.Cond.methodLink "java/util/ArrayList" (144 : Nat) ({ cls := "java/util/ArrayList", name := "fastRemove", desc := "([Ljava/lang/Object;I)V" } : Jvm.MethodName)) ∈ lw_all := lw_g (lw_at lw_m5 106 rfl) rfl
theorem q1129 : (Jvm.Cond.code ({ cls := "java/util/ArrayList", name := "fastRemove", desc := "([Ljava/lang/Object;I)V" } : Jvm.MethodName) prog_52_method_39_code (4 : Nat) (Option.none : Option Jvm.ClassFile.FieldType)) ∈ lw_all := lw_g (lw_at lw_m5 109 rfl) rfl
theorem q1128 : (Jvm.Cond.instanceMethod ({ cls := "java/util/ArrayList", name := "fastRemove", desc := "([Ljava/lang/Object;I)V" } : Jvm.MethodName)) ∈ lw_all := lw_g (lw_at lw_m5 108 rfl) rfl
/-- one is taken out -/
def Taken (G : GE) (h h' : AH) (a d cap n i : Nat) (mc : Int32) (f : Nat → Option Nat) : Prop := ∃ g, AL G h' a d cap (n - 1) mc g ∧ (∀ j, j < n - 1 → g j = if j < i then f j else f (j + 1)) ∧ KeepA h h' a d
theorem al_fast (l : Launch) (G : GE) (h : AH) (a d cap n : Nat) (mc : Int32) (f : Nat → Option Nat) (y0 : AL G h a d cap n mc f) (i : Nat) (hi : i < n) (hel : Els G h f n) : GM l G yJ2_fastRemove (ws_ yJ2_fastRemove cJ2_fastRemove 4 none) 3 [.ref a, .ref d, .int (nI i)] (h) (0) (PQ fun h' => Taken G h h' a d cap n i (mc + 1) f) := by
  refine GM.of (by decide) (dk rfl) ?_
  intro X eL eG eh ok fn
  subst eL; subst eG
  show GW X _ 0 0 [some (.ref a), some (.ref d), some (.int (nI i)), none] []
  have ra := AL.rd ok.tab y0
  obtain ⟨rl, rc, rn, rs⟩ := id y0
  have rc2 : 0 < cap ∧ h d = some (aR X.G cap f) := rc.elim (fun z => absurd z.1 (by omega)) id
  obtain ⟨c0, c1⟩ := rc2
  have nda : d ≠ a := fun z => by subst z; rw [rl] at c1; cases c1
  refine g_aload_n ok dJ2_fastRemove_0 rfl ?_
  refine g_dup ok dJ2_fastRemove_1 rfl ?_
  refine g_get ok ck_J2 0 q234 (Or.inr q233) (by decide) dJ2_fastRemove_2 (Rd.h (rl)) rfl ?_
  refine g_iconst ok (v := 1) dJ2_fastRemove_5 rfl ?_
  refine g_iadd ok dJ2_fastRemove_6 ?_
  refine g_put ok ck_J2 0 q234 (Or.inr q233) (by decide) rfl dJ2_fastRemove_7 (rl) (dl rfl) rfl rfl (fs1 := [.int (mc + 1), .ref d, .int (nI n)]) rfl (?_)
  refine g_aload_n ok dJ2_fastRemove_10 rfl ?_
  refine g_get ok ck_J2 2 q230 (Or.inl rfl) (by decide) dJ2_fastRemove_11 (Rd.h (up_self)) rfl ?_
  refine g_iconst ok (v := 1) dJ2_fastRemove_14 rfl ?_
  refine g_isubN ok dJ2_fastRemove_15 (c := (n - 1)) (a := n) (b := 1) rfl rfl (by omega) (by omega) ?_
  refine g_dup ok dJ2_fastRemove_16 rfl ?_
  refine g_istore_n ok dJ2_fastRemove_17 (ls1 := [some (.ref a), some (.ref d), some (.int (nI i)), some (.int (nI (n - 1)))]) (dl rfl) rfl ?_
  refine g_iload_n ok dJ2_fastRemove_18 rfl ?_
  by_cases hl : i < n - 1
  · refine g_icmp_le ok (tgt := 34) dJ2_fastRemove_19 (by decide) (fun c_ => absurd c_ (nI_ge (a := i) (b := (n - 1)) (by omega) (by omega))) (fun _ => ?_)
    refine g_aload_n ok dJ2_fastRemove_22 rfl ?_
    refine g_iload_n ok dJ2_fastRemove_23 rfl ?_
    refine g_iconst ok (v := 1) dJ2_fastRemove_24 rfl ?_
    refine g_iaddN ok dJ2_fastRemove_25 (c := (i + 1)) (a := i) (b := 1) rfl rfl rfl ?_
    refine g_aload_n ok dJ2_fastRemove_26 rfl ?_
    refine g_iload_n ok dJ2_fastRemove_27 rfl ?_
    refine g_iload_n ok dJ2_fastRemove_28 rfl ?_
    refine g_iload_n ok dJ2_fastRemove_29 rfl ?_
    refine g_isubN ok dJ2_fastRemove_30 (c := (n - 1 - i)) (a := (n - 1)) (b := i) rfl rfl (by omega) (by omega) ?_
    refine g_copyr ok (sp := (i + 1)) (dp := i) (n := (n - 1 - i)) q1130 q379 q378 q82 dJ2_fastRemove_31 (Rd.h ((up_ne nda).trans (c1))) ((up_ne nda).trans (c1)) (fun k hk y hy => (els_upA hel) (i + 1 + k) (by omega) y hy) rfl rfl rfl (by omega) (by omega) (by omega) (by omega) (dl rfl) rfl (dk rfl) ?_
    refine g_aload_n ok dJ2_fastRemove_34 rfl ?_
    refine g_aload_n ok dJ2_fastRemove_35 rfl ?_
    refine g_iload_n ok dJ2_fastRemove_36 rfl ?_
    refine g_dup_x1 ok dJ2_fastRemove_37 rfl rfl ?_
    refine g_put ok ck_J2 2 q230 (Or.inl rfl) (by decide) rfl dJ2_fastRemove_38 ((up_ne (Ne.symm nda)).trans (up_self)) (dl rfl) rfl rfl (fs1 := [.int (mc + 1), .ref d, .int (nI (n - 1))]) rfl (?_)
    refine g_null ok dJ2_fastRemove_41 ?_
    refine g_aastN ok (j := (n - 1)) dJ2_fastRemove_42 ((up_ne nda).trans (up_self)) rfl (by omega) (by omega) ?_
    refine g_vret ok fn rfl dJ2_fastRemove_43 ⟨rfl, (va_up (va_cpy f f (i + 1) i (n - 1 - i)) (n - 1) none), ⟨(up_ne (Ne.symm nda)).trans (up_self), Or.inr ⟨c0, up_self⟩, by omega, rs⟩, fun j hj => ?_, fun q y z1 z2 z3 => ?_⟩ (by omega)
    · rw [va_up_ne _ _ (by omega)]
      by_cases e : j < i
      · rw [if_pos e, pk_cpy_out (by omega)]
      · rw [if_neg e, pk_cpy_in (by omega) (by omega)]; congr 1; omega
    · simp only [up_ne z1, up_ne z2]; exact z3
  · refine g_icmp_le ok (tgt := 34) dJ2_fastRemove_19 (by decide) (fun _ => ?_) (fun c_ => absurd (nI_le (a := (n - 1)) (b := i) (by omega) (by omega)) c_)
    refine g_aload_n ok dJ2_fastRemove_34 rfl ?_
    refine g_aload_n ok dJ2_fastRemove_35 rfl ?_
    refine g_iload_n ok dJ2_fastRemove_36 rfl ?_
    refine g_dup_x1 ok dJ2_fastRemove_37 rfl rfl ?_
    refine g_put ok ck_J2 2 q230 (Or.inl rfl) (by decide) rfl dJ2_fastRemove_38 (up_self) (dl rfl) rfl rfl (fs1 := [.int (mc + 1), .ref d, .int (nI (n - 1))]) rfl (?_)
    refine g_null ok dJ2_fastRemove_41 ?_
    refine g_aastN ok (j := (n - 1)) dJ2_fastRemove_42 ((up_ne nda).trans ((up_ne nda).trans (c1))) rfl (by omega) (by omega) ?_
    refine g_vret ok fn rfl dJ2_fastRemove_43 ⟨rfl, (va_up f (n - 1) none), ⟨(up_ne (Ne.symm nda)).trans (up_self), Or.inr ⟨c0, up_self⟩, by omega, rs⟩, fun j hj => ?_, fun q y z1 z2 z3 => ?_⟩ (by omega)
    · rw [va_up_ne _ _ (by omega), if_pos (by omega)]
    · simp only [up_ne z1, up_ne z2]; exact z3
theorem al_remove (l : Launch) (G : GE) (h : AH) (a d cap n : Nat) (mc : Int32) (f : Nat → Option Nat) (y0 : AL G h a d cap n mc f) (i : Nat) (hi : i < n) (hel : Els G h f n) (x : Nat) (hx : f i = some x) : GM l G yJ2_remove (ws_ yJ2_remove cJ2_remove 4 (some (.object "java/lang/Object"))) 4 [.ref a, .int (nI i)] (h) (0) (PR fun v h' => v = .ref x ∧ Taken G h h' a d cap n i (mc + 1) f) := by
  refine GM.of (by decide) (dk rfl) ?_
  intro X eL eG eh ok fn
  subst eL; subst eG
  show GW X _ 0 0 [some (.ref a), some (.int (nI i)), none, none] []
  have ra := AL.rd ok.tab y0
  obtain ⟨rl, rc, rn, rs⟩ := id y0
  refine g_iload_n ok dJ2_remove_0 rfl ?_
  refine g_aload_n ok dJ2_remove_1 rfl ?_
  refine g_get ok ck_J2 2 q230 (Or.inl rfl) (by decide) dJ2_remove_2 (Rd.h (rl)) rfl ?_
  refine g_callS ok q517 q518 q85 q519 dJ2_remove_5 (o_checkIndex X.l X.G _ i n (by omega) (by omega)) (nm_ (by decide : nmb _ 2 = true)) (dl rfl) (dk rfl) rfl rfl (dk rfl) (by omega) (kV ?_) xV
  refine g_pop ok dJ2_remove_8 rfl ?_
  refine g_aload_n ok dJ2_remove_9 rfl ?_
  refine g_get ok ck_J2 1 q227 (Or.inl rfl) (by decide) dJ2_remove_10 (Rd.h (rl)) rfl ?_
  refine g_astore_n ok dJ2_remove_13 (ls1 := [some (.ref a), some (.int (nI i)), some (.ref d), none]) (dl rfl) rfl ?_
  refine g_aload_n ok dJ2_remove_14 rfl ?_
  refine g_iload_n ok dJ2_remove_15 rfl ?_
  refine g_aald ok (j := i) dJ2_remove_16 (ra) rfl (by omega) (by omega) ?_
  rw [hx]
  show GW X _ _ _ _ [.ref x]
  refine g_astore_n ok dJ2_remove_17 (ls1 := [some (.ref a), some (.int (nI i)), some (.ref d), some (.ref x)]) (dl rfl) rfl ?_
  refine g_aload_n ok dJ2_remove_18 rfl ?_
  refine g_aload_n ok dJ2_remove_19 rfl ?_
  refine g_iload_n ok dJ2_remove_20 rfl ?_
  refine g_callV ok q1126 q1128 qs7 q70 q1129 (Recv.ob ok gc_J2 (Rd.h (rl))) dJ2_remove_21 (al_fast X.l X.G _ a d cap n mc f y0 i hi hel) (nm_ (by decide : nmb _ 2 = true)) (dl rfl) (dk rfl) rfl rfl (dk rfl) (by omega) (kQ fun h2 u1 => ?_) xQ
  refine g_aload_n ok dJ2_remove_24 rfl ?_
  exact g_aret ok fn rfl (Or.inl ⟨_, rfl⟩) (Or.inr ⟨_, rfl⟩) dJ2_remove_25 ⟨_, rfl, rfl, u1⟩ (by omega)
