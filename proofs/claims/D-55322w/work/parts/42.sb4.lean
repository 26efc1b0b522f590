/-! the JDK's builder, 4 -/
set_option maxRecDepth 100000
abbrev cJ3_charAt : ByteArray := prog_21_method_14_code
def yJ3_charAt : MethodName := ⟨RJ3, "charAt", "(I)C"⟩
def dkwJ3_charAt_1 : List UInt8 := [21, 4, 184, 0, 144, 28, 154, 0, 12, 45, 27, 51, 17, 0, 255, 126, 146, 172, 45, 27, 184, 0, 148, 172]
abbrev dktJ3_charAt_1 : List UInt8 := dkwJ3_charAt_1 ++ []
def dkwJ3_charAt_0 : List UInt8 := [42, 180, 0, 22, 61, 42, 180, 0, 15, 78, 42, 180, 0, 79, 45, 190, 28, 122, 184, 0, 138, 54, 4, 27]
abbrev dktJ3_charAt_0 : List UInt8 := dkwJ3_charAt_0 ++ dktJ3_charAt_1
theorem dksJ3_charAt_0 : cJ3_charAt.data.toList.drop 0 = dktJ3_charAt_0 := by decide +kernel
theorem dksJ3_charAt_1 : cJ3_charAt.data.toList.drop 24 = dktJ3_charAt_1 := dk_seg dksJ3_charAt_0 24 rfl rfl
theorem dJ3_charAt_0 : decode cJ3_charAt 0 = .ok (.aload_n 0, 1) := dk_42 (dk_at dksJ3_charAt_0 0 rfl rfl)
theorem dJ3_charAt_1 : decode cJ3_charAt 1 = .ok (.getfield 22, 3) := dk_180 0 22 (dk_at dksJ3_charAt_0 1 rfl rfl)
theorem dJ3_charAt_4 : decode cJ3_charAt 4 = .ok (.istore_n 2, 1) := dk_61 (dk_at dksJ3_charAt_0 4 rfl rfl)
theorem dJ3_charAt_5 : decode cJ3_charAt 5 = .ok (.aload_n 0, 1) := dk_42 (dk_at dksJ3_charAt_0 5 rfl rfl)
theorem dJ3_charAt_6 : decode cJ3_charAt 6 = .ok (.getfield 15, 3) := dk_180 0 15 (dk_at dksJ3_charAt_0 6 rfl rfl)
theorem dJ3_charAt_9 : decode cJ3_charAt 9 = .ok (.astore_n 3, 1) := dk_78 (dk_at dksJ3_charAt_0 9 rfl rfl)
theorem dJ3_charAt_10 : decode cJ3_charAt 10 = .ok (.aload_n 0, 1) := dk_42 (dk_at dksJ3_charAt_0 10 rfl rfl)
theorem dJ3_charAt_11 : decode cJ3_charAt 11 = .ok (.getfield 79, 3) := dk_180 0 79 (dk_at dksJ3_charAt_0 11 rfl rfl)
theorem dJ3_charAt_14 : decode cJ3_charAt 14 = .ok (.aload_n 3, 1) := dk_45 (dk_at dksJ3_charAt_0 14 rfl rfl)
theorem dJ3_charAt_15 : decode cJ3_charAt 15 = .ok (.arraylength, 1) := dk_190 (dk_at dksJ3_charAt_0 15 rfl rfl)
theorem dJ3_charAt_16 : decode cJ3_charAt 16 = .ok (.iload_n 2, 1) := dk_28 (dk_at dksJ3_charAt_0 16 rfl rfl)
theorem dJ3_charAt_17 : decode cJ3_charAt 17 = .ok (.ishr, 1) := dk_122 (dk_at dksJ3_charAt_0 17 rfl rfl)
theorem dJ3_charAt_18 : decode cJ3_charAt 18 = .ok (.invokestatic 138, 3) := dk_184 0 138 (dk_at dksJ3_charAt_0 18 rfl rfl)
theorem dJ3_charAt_21 : decode cJ3_charAt 21 = .ok (.istore 4, 2) := dk_54 4 (dk_at dksJ3_charAt_0 21 rfl rfl)
theorem dJ3_charAt_23 : decode cJ3_charAt 23 = .ok (.iload_n 1, 1) := dk_27 (dk_at dksJ3_charAt_0 23 rfl rfl)
theorem dJ3_charAt_24 : decode cJ3_charAt 24 = .ok (.iload 4, 2) := dk_21 4 (dk_at dksJ3_charAt_1 0 rfl rfl)
theorem dJ3_charAt_26 : decode cJ3_charAt 26 = .ok (.invokestatic 144, 3) := dk_184 0 144 (dk_at dksJ3_charAt_1 2 rfl rfl)
theorem dJ3_charAt_29 : decode cJ3_charAt 29 = .ok (.iload_n 2, 1) := dk_28 (dk_at dksJ3_charAt_1 5 rfl rfl)
theorem dJ3_charAt_30 : decode cJ3_charAt 30 = .ok (.ifCond .ne 12, 3) := dk_154 0 12 (dk_at dksJ3_charAt_1 6 rfl rfl)
theorem dJ3_charAt_33 : decode cJ3_charAt 33 = .ok (.aload_n 3, 1) := dk_45 (dk_at dksJ3_charAt_1 9 rfl rfl)
theorem dJ3_charAt_34 : decode cJ3_charAt 34 = .ok (.iload_n 1, 1) := dk_27 (dk_at dksJ3_charAt_1 10 rfl rfl)
theorem dJ3_charAt_35 : decode cJ3_charAt 35 = .ok (.baload, 1) := dk_51 (dk_at dksJ3_charAt_1 11 rfl rfl)
theorem dJ3_charAt_36 : decode cJ3_charAt 36 = .ok (.sipush 255, 3) := dk_17 0 255 (dk_at dksJ3_charAt_1 12 rfl rfl)
theorem dJ3_charAt_39 : decode cJ3_charAt 39 = .ok (.iand, 1) := dk_126 (dk_at dksJ3_charAt_1 15 rfl rfl)
theorem dJ3_charAt_40 : decode cJ3_charAt 40 = .ok (.i2c, 1) := dk_146 (dk_at dksJ3_charAt_1 16 rfl rfl)
theorem dJ3_charAt_41 : decode cJ3_charAt 41 = .ok (.ireturn, 1) := dk_172 (dk_at dksJ3_charAt_1 17 rfl rfl)
theorem dJ3_charAt_42 : decode cJ3_charAt 42 = .ok (.aload_n 3, 1) := dk_45 (dk_at dksJ3_charAt_1 18 rfl rfl)
theorem dJ3_charAt_43 : decode cJ3_charAt 43 = .ok (.iload_n 1, 1) := dk_27 (dk_at dksJ3_charAt_1 19 rfl rfl)
theorem dJ3_charAt_44 : decode cJ3_charAt 44 = .ok (.invokestatic 148, 3) := dk_184 0 148 (dk_at dksJ3_charAt_1 20 rfl rfl)
theorem dJ3_charAt_47 : decode cJ3_charAt 47 = .ok (.ireturn, 1) := dk_172 (dk_at dksJ3_charAt_1 23 rfl rfl)
abbrev cJ4_charAt : ByteArray := prog_40_method_88_code
def yJ4_charAt : MethodName := ⟨RJ4, "charAt", "(I)C"⟩
def dkwJ4_charAt_0 : List UInt8 := [42, 27, 183, 1, 73, 172]
abbrev dktJ4_charAt_0 : List UInt8 := dkwJ4_charAt_0 ++ []
theorem dksJ4_charAt_0 : cJ4_charAt.data.toList.drop 0 = dktJ4_charAt_0 := by decide +kernel
theorem dJ4_charAt_0 : decode cJ4_charAt 0 = .ok (.aload_n 0, 1) := dk_42 (dk_at dksJ4_charAt_0 0 rfl rfl)
theorem dJ4_charAt_1 : decode cJ4_charAt 1 = .ok (.iload_n 1, 1) := dk_27 (dk_at dksJ4_charAt_0 1 rfl rfl)
theorem dJ4_charAt_2 : decode cJ4_charAt 2 = .ok (.invokespecial 329, 3) := dk_183 1 73 (dk_at dksJ4_charAt_0 2 rfl rfl)
theorem dJ4_charAt_5 : decode cJ4_charAt 5 = .ok (.ireturn, 1) := dk_172 (dk_at dksJ4_charAt_0 5 rfl rfl)
abbrev cJ4_setLength : ByteArray := prog_40_method_89_code
def yJ4_setLength : MethodName := ⟨RJ4, "setLength", "(I)V"⟩
def dkwJ4_setLength_0 : List UInt8 := [42, 27, 183, 1, 77, 177]
abbrev dktJ4_setLength_0 : List UInt8 := dkwJ4_setLength_0 ++ []
theorem dksJ4_setLength_0 : cJ4_setLength.data.toList.drop 0 = dktJ4_setLength_0 := by decide +kernel
theorem dJ4_setLength_0 : decode cJ4_setLength 0 = .ok (.aload_n 0, 1) := dk_42 (dk_at dksJ4_setLength_0 0 rfl rfl)
theorem dJ4_setLength_1 : decode cJ4_setLength 1 = .ok (.iload_n 1, 1) := dk_27 (dk_at dksJ4_setLength_0 1 rfl rfl)
theorem dJ4_setLength_2 : decode cJ4_setLength 2 = .ok (.invokespecial 333, 3) := dk_183 1 77 (dk_at dksJ4_setLength_0 2 rfl rfl)
theorem dJ4_setLength_5 : decode cJ4_setLength 5 = .ok (.return_, 1) := dk_177 (dk_at dksJ4_setLength_0 5 rfl rfl)
theorem q1621 : (Jvm.Cond.methodLink "java/lang/AbstractStringBuilder" (138 : Nat) ({ cls := "java/lang/Math", name := "min", desc := "(II)I" } : Jvm.MethodName)) ∈ lw_all := lw_g (lw_at lw_m7 121 rfl) rfl
theorem q1622 : (Jvm.Cond.methodLink "java/lang/AbstractStringBuilder" (144 : Nat) ({ cls := "java/lang/String", name := "checkIndex", desc := "(II)V" } : Jvm.MethodName)) ∈ lw_all := lw_g (lw_at lw_m7 122 rfl) rfl
theorem q1618 : (Jvm.Cond.methodLink "java/lang/StringBuilder" (329 : Nat) ({ cls := "java/lang/AbstractStringBuilder", name := "charAt", desc := "(I)C" } : Jvm.MethodName)) ∈ lw_all := lw_g (lw_at lw_m7 118 rfl) rfl
theorem q2742 : (Jvm.Cond.sameMethod "java/lang/AbstractStringBuilder" "java/lang/AbstractStringBuilder" "charAt" "(I)C") ∈ lw_all := lw_g (lw_at lw_m12 42 rfl) rfl
theorem q1619 : (Jvm.Cond.instanceMethod ({ cls := "java/lang/AbstractStringBuilder", name := "charAt", desc := "(I)C" } : Jvm.MethodName)) ∈ lw_all := lw_g (lw_at lw_m7 119 rfl) rfl
theorem q1620 : (Jvm.Cond.code ({ cls := "java/lang/AbstractStringBuilder", name := "charAt", desc := "(I)C" } : Jvm.MethodName) prog_21_method_14_code (5 : Nat) (Option.some Jvm.ClassFile.FieldType.char)) ∈ lw_all := lw_g (lw_at lw_m7 120 rfl) rfl
theorem q1548 : (Jvm.Cond.methodLink "java/lang/StringBuilder" (333 : Nat) ({ cls := "java/lang/AbstractStringBuilder", name := "setLength", desc := "(I)V" } : Jvm.MethodName)) ∈ lw_all := lw_g (lw_at lw_m7 48 rfl) rfl
theorem q2740 : (Jvm.Cond.sameMethod "java/lang/AbstractStringBuilder" "java/lang/AbstractStringBuilder" "setLength" "(I)V") ∈ lw_all := lw_g (lw_at lw_m12 40 rfl) rfl
theorem q1549 : (Jvm.Cond.instanceMethod ({ cls := "java/lang/AbstractStringBuilder", name := "setLength", desc := "(I)V" } : Jvm.MethodName)) ∈ lw_all := lw_g (lw_at lw_m7 49 rfl) rfl
theorem q1550 : (Jvm.Cond.code ({ cls := "java/lang/AbstractStringBuilder", name := "setLength", desc := "(I)V" } : Jvm.MethodName) prog_21_method_13_code (2 : Nat) (Option.none : Option Jvm.ClassFile.FieldType)) ∈ lw_all := lw_g (lw_at lw_m7 50 rfl) rfl
theorem sb_charAt0 (l : Launch) (G : GE) (h : AH) (a b cap n : Nat) (m : Int32) (f : Nat → Int32) (y0 : SB G h a b cap n m f) (i : Nat) (hi : i < n) : GM l G yJ3_charAt (ws_ yJ3_charAt cJ3_charAt 5 (some .char)) 4 [.ref a, .int (nI i)] (h) (0) (PV (.int (f i)) h) := by
  refine GM.of (by decide) (dk rfl) ?_
  intro X eL eG eh ok fn
  subst eL; subst eG
  show GW X _ 0 0 [some (.ref a), some (.int (nI i)), none, none, none] []
  obtain ⟨ra, rb, rn, rs, ras⟩ := id y0
  have nba : b ≠ a := fun z => by subst z; rw [ra] at rb; cases rb
  obtain ⟨q, q1, q2⟩ := ras i (by omega)
  refine g_aload_n ok dJ3_charAt_0 rfl ?_
  refine g_get ok ck_J4 1 q304 (Or.inl rfl) (by decide) dJ3_charAt_1 (Rd.h (ra)) rfl ?_
  refine g_istore_n ok dJ3_charAt_4 (ls1 := [some (.ref a), some (.int (nI i)), some (.int 0), none, none]) (dl rfl) rfl ?_
  refine g_aload_n ok dJ3_charAt_5 rfl ?_
  refine g_get ok ck_J4 0 q303 (Or.inl rfl) (by decide) dJ3_charAt_6 (Rd.h (ra)) rfl ?_
  refine g_astore_n ok dJ3_charAt_9 (ls1 := [some (.ref a), some (.int (nI i)), some (.int 0), some (.ref b), none]) (dl rfl) rfl ?_
  refine g_aload_n ok dJ3_charAt_10 rfl ?_
  refine g_get ok ck_J4 3 q307 (Or.inl rfl) (by decide) dJ3_charAt_11 (Rd.h (ra)) rfl ?_
  refine g_aload_n ok dJ3_charAt_14 rfl ?_
  refine g_alen ok dJ3_charAt_15 (Rd.h (rb)) (gt_b _) ?_
  refine g_iload_n ok dJ3_charAt_16 rfl ?_
  refine g_ishr ok dJ3_charAt_17 ?_
  rw [ishr0]
  refine g_min ok q1621 q594 q90 q595 dJ3_charAt_18 (dk rfl) rfl (dk rfl) (by omega) ?_
  rw [mnR (a := n) (b := cap) (by omega) (by omega)]
  refine g_istore ok dJ3_charAt_21 (ls1 := [some (.ref a), some (.int (nI i)), some (.int 0), some (.ref b), some (.int (nI n))]) (dl rfl) rfl ?_
  refine g_iload_n ok dJ3_charAt_23 rfl ?_
  refine g_iload ok dJ3_charAt_24 rfl ?_
  refine g_callS ok q1622 q1623 q73 q1624 dJ3_charAt_26 (s_checkIndex X.l X.G _ i n (by omega) (by omega)) (nm_ (by decide : nmb _ 2 = true)) (dl rfl) (dk rfl) rfl rfl (dk rfl) (by omega) (kN ?_) xN
  refine g_iload_n ok dJ3_charAt_29 rfl ?_
  refine g_if_ne ok (tgt := 42) dJ3_charAt_30 (by decide) (fun c => absurd rfl c) (fun _ => ?_)
  refine g_aload_n ok dJ3_charAt_33 rfl ?_
  refine g_iload_n ok dJ3_charAt_34 rfl ?_
  refine g_bald ok (j := i) dJ3_charAt_35 (Rd.h (rb)) rfl (by omega) (by omega) ?_
  rw [q2]
  refine g_sipush ok (v := 255) dJ3_charAt_36 rfl ?_
  refine g_iand ok dJ3_charAt_39 ?_
  rw [and255 (by omega)]
  refine g_i2cN ok dJ3_charAt_40 (a := q) rfl (by omega) ?_
  exact g_zret ok fn rfl (pk_charN (by omega)).1 dJ3_charAt_41 ⟨by rw [q2], rfl⟩ (by omega)
theorem sb_charAt (l : Launch) (G : GE) (h : AH) (a b cap n : Nat) (m : Int32) (f : Nat → Int32) (y0 : SB G h a b cap n m f) (i : Nat) (hi : i < n) : GM l G yJ4_charAt (ws_ yJ4_charAt cJ4_charAt 2 (some .char)) 5 [.ref a, .int (nI i)] (h) (0) (PV (.int (f i)) h) := by
  refine GM.of (by decide) (dk rfl) ?_
  intro X eL eG eh ok fn
  subst eL; subst eG
  show GW X _ 0 0 [some (.ref a), some (.int (nI i))] []
  obtain ⟨ra, rb, rn, rs, ras⟩ := id y0
  have nba : b ≠ a := fun z => by subst z; rw [ra] at rb; cases rb
  refine g_aload_n ok dJ4_charAt_0 rfl ?_
  refine g_iload_n ok dJ4_charAt_1 rfl ?_
  refine g_callSU ok q1618 q2742 q316 q1619 q71 q1620 (by decide) gc_J4 (Rd.h (ra)) dJ4_charAt_2 (sb_charAt0 X.l X.G _ a b cap n m f y0 i hi) (nm_ (by decide : nmb _ 1 = true)) (dl rfl) (dk rfl) rfl rfl (dk rfl) (by omega) (kV ?_) xV
  obtain ⟨q, q1, q2⟩ := ras i (by omega)
  exact g_zret ok fn rfl (by rw [q2]; exact (pk_charN (by omega)).1) dJ4_charAt_5 ⟨rfl, rfl⟩ (by omega)
theorem sb_setLength (l : Launch) (G : GE) (h : AH) (a b cap n : Nat) (m : Int32) (f : Nat → Int32) (y0 : SB G h a b cap n m f) (hc2 : cap < 300) : GM l G yJ4_setLength (ws_ yJ4_setLength cJ4_setLength 2 none) 6 [.ref a, .int (nI 0)] (h) (2 * cap + 3) (PQ fun h' => Cut G h h' a b) := by
  refine GM.of (by decide) (dk rfl) ?_
  intro X eL eG eh ok fn
  subst eL; subst eG
  show GW X _ 0 0 [some (.ref a), some (.int (nI 0))] []
  obtain ⟨ra, rb, rn, rs, ras⟩ := id y0
  have nba : b ≠ a := fun z => by subst z; rw [ra] at rb; cases rb
  refine g_aload_n ok dJ4_setLength_0 rfl ?_
  refine g_iload_n ok dJ4_setLength_1 rfl ?_
  refine g_callSU ok q1548 q2740 q316 q1549 q71 q1550 (by decide) gc_J4 (Rd.h (ra)) dJ4_setLength_2 (sb_setLen0 X.l X.G _ a b cap n m f y0 hc2) (nm_ (by decide : nmb _ 1 = true)) (dl rfl) (dk rfl) rfl rfl (dk rfl) (by omega) (kQ fun h2 u1 => ?_) xQ
  exact g_vret ok fn rfl dJ4_setLength_5 ⟨rfl, u1⟩ (by omega)
