/-! the SpanRuler: note -/
set_option maxRecDepth 100000
abbrev cX1_kindOf : ByteArray := prog_1_method_10_code
def yX1_kindOf : MethodName := ⟨RX1, "kindOf", "(I)LSpanRuler$Kind;"⟩
def dkwX1_kindOf_1 : List UInt8 := [176]
abbrev dktX1_kindOf_1 : List UInt8 := dkwX1_kindOf_1 ++ []
def dkwX1_kindOf_0 : List UInt8 := [26, 154, 0, 9, 178, 0, 31, 167, 0, 17, 26, 4, 160, 0, 9, 178, 0, 37, 167, 0, 6, 178, 0, 40]
abbrev dktX1_kindOf_0 : List UInt8 := dkwX1_kindOf_0 ++ dktX1_kindOf_1
theorem dksX1_kindOf_0 : cX1_kindOf.data.toList.drop 0 = dktX1_kindOf_0 := by decide +kernel
theorem dksX1_kindOf_1 : cX1_kindOf.data.toList.drop 24 = dktX1_kindOf_1 := dk_seg dksX1_kindOf_0 24 rfl rfl
theorem dX1_kindOf_0 : decode cX1_kindOf 0 = .ok (.iload_n 0, 1) := dk_26 (dk_at dksX1_kindOf_0 0 rfl rfl)
theorem dX1_kindOf_1 : decode cX1_kindOf 1 = .ok (.ifCond .ne 9, 3) := dk_154 0 9 (dk_at dksX1_kindOf_0 1 rfl rfl)
theorem dX1_kindOf_4 : decode cX1_kindOf 4 = .ok (.getstatic 31, 3) := dk_178 0 31 (dk_at dksX1_kindOf_0 4 rfl rfl)
theorem dX1_kindOf_7 : decode cX1_kindOf 7 = .ok (.goto 17, 3) := dk_167 0 17 (dk_at dksX1_kindOf_0 7 rfl rfl)
theorem dX1_kindOf_10 : decode cX1_kindOf 10 = .ok (.iload_n 0, 1) := dk_26 (dk_at dksX1_kindOf_0 10 rfl rfl)
theorem dX1_kindOf_11 : decode cX1_kindOf 11 = .ok (.iconst 1, 1) := dk_4 (dk_at dksX1_kindOf_0 11 rfl rfl)
theorem dX1_kindOf_12 : decode cX1_kindOf 12 = .ok (.if_icmp .ne 9, 3) := dk_160 0 9 (dk_at dksX1_kindOf_0 12 rfl rfl)
theorem dX1_kindOf_15 : decode cX1_kindOf 15 = .ok (.getstatic 37, 3) := dk_178 0 37 (dk_at dksX1_kindOf_0 15 rfl rfl)
theorem dX1_kindOf_18 : decode cX1_kindOf 18 = .ok (.goto 6, 3) := dk_167 0 6 (dk_at dksX1_kindOf_0 18 rfl rfl)
theorem dX1_kindOf_21 : decode cX1_kindOf 21 = .ok (.getstatic 40, 3) := dk_178 0 40 (dk_at dksX1_kindOf_0 21 rfl rfl)
theorem dX1_kindOf_24 : decode cX1_kindOf 24 = .ok (.areturn, 1) := dk_176 (dk_at dksX1_kindOf_1 0 rfl rfl)
abbrev cX1_note : ByteArray := prog_1_method_26_code
def yX1_note : MethodName := ⟨RX1, "note", "(IIIII)I"⟩
def dkwX1_note_4 : List UInt8 := [25, 7, 182, 0, 204, 191]
abbrev dktX1_note_4 : List UInt8 := dkwX1_note_4 ++ []
def dkwX1_note_3 : List UInt8 := [21, 4, 21, 5, 183, 0, 227, 182, 0, 230, 54, 7, 42, 25, 6, 21, 7, 182, 0, 200, 172, 58, 7, 42]
abbrev dktX1_note_3 : List UInt8 := dkwX1_note_3 ++ dktX1_note_4
def dkwX1_note_2 : List UInt8 := [184, 0, 170, 42, 180, 0, 126, 182, 0, 193, 58, 6, 25, 6, 187, 0, 188, 89, 27, 184, 0, 223, 28, 29]
abbrev dktX1_note_2 : List UInt8 := dkwX1_note_2 ++ dktX1_note_3
def dkwX1_note_1 : List UInt8 := [184, 0, 3, 153, 0, 7, 4, 167, 0, 4, 3, 184, 0, 170, 27, 184, 0, 223, 21, 4, 182, 0, 190]
abbrev dktX1_note_1 : List UInt8 := dkwX1_note_1 ++ dktX1_note_2
def dkwX1_note_0 : List UInt8 := [27, 3, 5, 184, 0, 3, 153, 0, 26, 28, 29, 184, 0, 167, 153, 0, 18, 21, 5, 4, 16, 20]
abbrev dktX1_note_0 : List UInt8 := dkwX1_note_0 ++ dktX1_note_1
theorem dksX1_note_0 : cX1_note.data.toList.drop 0 = dktX1_note_0 := by decide +kernel
theorem dksX1_note_1 : cX1_note.data.toList.drop 22 = dktX1_note_1 := dk_seg dksX1_note_0 22 rfl rfl
theorem dksX1_note_2 : cX1_note.data.toList.drop 45 = dktX1_note_2 := dk_seg dksX1_note_1 23 rfl rfl
theorem dksX1_note_3 : cX1_note.data.toList.drop 69 = dktX1_note_3 := dk_seg dksX1_note_2 24 rfl rfl
theorem dksX1_note_4 : cX1_note.data.toList.drop 93 = dktX1_note_4 := dk_seg dksX1_note_3 24 rfl rfl
theorem dX1_note_0 : decode cX1_note 0 = .ok (.iload_n 1, 1) := dk_27 (dk_at dksX1_note_0 0 rfl rfl)
theorem dX1_note_1 : decode cX1_note 1 = .ok (.iconst 0, 1) := dk_3 (dk_at dksX1_note_0 1 rfl rfl)
theorem dX1_note_2 : decode cX1_note 2 = .ok (.iconst 2, 1) := dk_5 (dk_at dksX1_note_0 2 rfl rfl)
theorem dX1_note_3 : decode cX1_note 3 = .ok (.invokestatic 3, 3) := dk_184 0 3 (dk_at dksX1_note_0 3 rfl rfl)
theorem dX1_note_6 : decode cX1_note 6 = .ok (.ifCond .eq 26, 3) := dk_153 0 26 (dk_at dksX1_note_0 6 rfl rfl)
theorem dX1_note_9 : decode cX1_note 9 = .ok (.iload_n 2, 1) := dk_28 (dk_at dksX1_note_0 9 rfl rfl)
theorem dX1_note_10 : decode cX1_note 10 = .ok (.iload_n 3, 1) := dk_29 (dk_at dksX1_note_0 10 rfl rfl)
theorem dX1_note_11 : decode cX1_note 11 = .ok (.invokestatic 167, 3) := dk_184 0 167 (dk_at dksX1_note_0 11 rfl rfl)
theorem dX1_note_14 : decode cX1_note 14 = .ok (.ifCond .eq 18, 3) := dk_153 0 18 (dk_at dksX1_note_0 14 rfl rfl)
theorem dX1_note_17 : decode cX1_note 17 = .ok (.iload 5, 2) := dk_21 5 (dk_at dksX1_note_0 17 rfl rfl)
theorem dX1_note_19 : decode cX1_note 19 = .ok (.iconst 1, 1) := dk_4 (dk_at dksX1_note_0 19 rfl rfl)
theorem dX1_note_20 : decode cX1_note 20 = .ok (.bipush 20, 2) := dk_16 20 (dk_at dksX1_note_0 20 rfl rfl)
theorem dX1_note_22 : decode cX1_note 22 = .ok (.invokestatic 3, 3) := dk_184 0 3 (dk_at dksX1_note_1 0 rfl rfl)
theorem dX1_note_25 : decode cX1_note 25 = .ok (.ifCond .eq 7, 3) := dk_153 0 7 (dk_at dksX1_note_1 3 rfl rfl)
theorem dX1_note_28 : decode cX1_note 28 = .ok (.iconst 1, 1) := dk_4 (dk_at dksX1_note_1 6 rfl rfl)
theorem dX1_note_29 : decode cX1_note 29 = .ok (.goto 4, 3) := dk_167 0 4 (dk_at dksX1_note_1 7 rfl rfl)
theorem dX1_note_32 : decode cX1_note 32 = .ok (.iconst 0, 1) := dk_3 (dk_at dksX1_note_1 10 rfl rfl)
theorem dX1_note_33 : decode cX1_note 33 = .ok (.invokestatic 170, 3) := dk_184 0 170 (dk_at dksX1_note_1 11 rfl rfl)
theorem dX1_note_36 : decode cX1_note 36 = .ok (.iload_n 1, 1) := dk_27 (dk_at dksX1_note_1 14 rfl rfl)
theorem dX1_note_37 : decode cX1_note 37 = .ok (.invokestatic 223, 3) := dk_184 0 223 (dk_at dksX1_note_1 15 rfl rfl)
theorem dX1_note_40 : decode cX1_note 40 = .ok (.iload 4, 2) := dk_21 4 (dk_at dksX1_note_1 18 rfl rfl)
theorem dX1_note_42 : decode cX1_note 42 = .ok (.invokevirtual 190, 3) := dk_182 0 190 (dk_at dksX1_note_1 20 rfl rfl)
theorem dX1_note_45 : decode cX1_note 45 = .ok (.invokestatic 170, 3) := dk_184 0 170 (dk_at dksX1_note_2 0 rfl rfl)
theorem dX1_note_48 : decode cX1_note 48 = .ok (.aload_n 0, 1) := dk_42 (dk_at dksX1_note_2 3 rfl rfl)
theorem dX1_note_49 : decode cX1_note 49 = .ok (.getfield 126, 3) := dk_180 0 126 (dk_at dksX1_note_2 4 rfl rfl)
theorem dX1_note_52 : decode cX1_note 52 = .ok (.invokevirtual 193, 3) := dk_182 0 193 (dk_at dksX1_note_2 7 rfl rfl)
theorem dX1_note_55 : decode cX1_note 55 = .ok (.astore 6, 2) := dk_58 6 (dk_at dksX1_note_2 10 rfl rfl)
theorem dX1_note_57 : decode cX1_note 57 = .ok (.aload 6, 2) := dk_25 6 (dk_at dksX1_note_2 12 rfl rfl)
theorem dX1_note_59 : decode cX1_note 59 = .ok (.new 188, 3) := dk_187 0 188 (dk_at dksX1_note_2 14 rfl rfl)
theorem dX1_note_62 : decode cX1_note 62 = .ok (.dup, 1) := dk_89 (dk_at dksX1_note_2 17 rfl rfl)
theorem dX1_note_63 : decode cX1_note 63 = .ok (.iload_n 1, 1) := dk_27 (dk_at dksX1_note_2 18 rfl rfl)
theorem dX1_note_64 : decode cX1_note 64 = .ok (.invokestatic 223, 3) := dk_184 0 223 (dk_at dksX1_note_2 19 rfl rfl)
theorem dX1_note_67 : decode cX1_note 67 = .ok (.iload_n 2, 1) := dk_28 (dk_at dksX1_note_2 22 rfl rfl)
theorem dX1_note_68 : decode cX1_note 68 = .ok (.iload_n 3, 1) := dk_29 (dk_at dksX1_note_2 23 rfl rfl)
theorem dX1_note_69 : decode cX1_note 69 = .ok (.iload 4, 2) := dk_21 4 (dk_at dksX1_note_3 0 rfl rfl)
theorem dX1_note_71 : decode cX1_note 71 = .ok (.iload 5, 2) := dk_21 5 (dk_at dksX1_note_3 2 rfl rfl)
theorem dX1_note_73 : decode cX1_note 73 = .ok (.invokespecial 227, 3) := dk_183 0 227 (dk_at dksX1_note_3 4 rfl rfl)
theorem dX1_note_76 : decode cX1_note 76 = .ok (.invokevirtual 230, 3) := dk_182 0 230 (dk_at dksX1_note_3 7 rfl rfl)
theorem dX1_note_79 : decode cX1_note 79 = .ok (.istore 7, 2) := dk_54 7 (dk_at dksX1_note_3 10 rfl rfl)
theorem dX1_note_81 : decode cX1_note 81 = .ok (.aload_n 0, 1) := dk_42 (dk_at dksX1_note_3 12 rfl rfl)
theorem dX1_note_82 : decode cX1_note 82 = .ok (.aload 6, 2) := dk_25 6 (dk_at dksX1_note_3 13 rfl rfl)
theorem dX1_note_84 : decode cX1_note 84 = .ok (.iload 7, 2) := dk_21 7 (dk_at dksX1_note_3 15 rfl rfl)
theorem dX1_note_86 : decode cX1_note 86 = .ok (.invokevirtual 200, 3) := dk_182 0 200 (dk_at dksX1_note_3 17 rfl rfl)
theorem dX1_note_89 : decode cX1_note 89 = .ok (.ireturn, 1) := dk_172 (dk_at dksX1_note_3 20 rfl rfl)
theorem dX1_note_90 : decode cX1_note 90 = .ok (.astore 7, 2) := dk_58 7 (dk_at dksX1_note_3 21 rfl rfl)
theorem dX1_note_92 : decode cX1_note 92 = .ok (.aload_n 0, 1) := dk_42 (dk_at dksX1_note_3 23 rfl rfl)
theorem dX1_note_93 : decode cX1_note 93 = .ok (.aload 7, 2) := dk_25 7 (dk_at dksX1_note_4 0 rfl rfl)
theorem dX1_note_95 : decode cX1_note 95 = .ok (.invokevirtual 204, 3) := dk_182 0 204 (dk_at dksX1_note_4 2 rfl rfl)
theorem dX1_note_98 : decode cX1_note 98 = .ok (.athrow, 1) := dk_191 (dk_at dksX1_note_4 5 rfl rfl)
theorem q1205 : (Jvm.Cond.fieldLink "SpanRuler" (40 : Nat) "SpanRuler$Kind" "TURN" "LSpanRuler$Kind;") ∈ lw_all := lw_g (lw_at lw_m5 185 rfl) rfl
theorem q1202 : (Jvm.Cond.methodLink "SpanRuler" (223 : Nat) ({ cls := "SpanRuler", name := "kindOf", desc := "(I)LSpanRuler$Kind;" } : Jvm.MethodName)) ∈ lw_all := lw_g (lw_at lw_m5 182 rfl) rfl
theorem q1204 : (Jvm.Cond.code ({ cls := "SpanRuler", name := "kindOf", desc := "(I)LSpanRuler$Kind;" } : Jvm.MethodName) prog_1_method_10_code (1 : Nat) (Option.some (Jvm.ClassFile.FieldType.object "SpanRuler$Kind"))) ∈ lw_all := lw_g (lw_at lw_m5 184 rfl) rfl
theorem q1203 : (Jvm.Cond.static ({ cls := "SpanRuler", name := "kindOf", desc := "(I)LSpanRuler$Kind;" } : Jvm.MethodName)) ∈ lw_all := lw_g (lw_at lw_m5 183 rfl) rfl
theorem q1207 : (Jvm.Cond.methodLink "SpanRuler" (227 : Nat) ({ cls := "SpanRuler$Note", name := "<init>", desc := "(LSpanRuler$Kind;IIII)V" } : Jvm.MethodName)) ∈ lw_all := lw_g (lw_at lw_m5 187 rfl) rfl
theorem q1208 : (Jvm.Cond.methodLink "SpanRuler" (230 : Nat) ({ cls := "SpanRuler$Ruler", name := "write", desc := "(LSpanRuler$Note;)I" } : Jvm.MethodName)) ∈ lw_all := lw_g (lw_at lw_m5 188 rfl) rfl
theorem q1211 : (Jvm.Cond.code ({ cls := "SpanRuler$Ruler", name := "write", desc := "(LSpanRuler$Note;)I" } : Jvm.MethodName) prog_16_method_17_code (2 : Nat) (Option.some Jvm.ClassFile.FieldType.int)) ∈ lw_all := lw_g (lw_at lw_m5 191 rfl) rfl
theorem q1209 : (Jvm.Cond.instanceMethod ({ cls := "SpanRuler$Ruler", name := "write", desc := "(LSpanRuler$Note;)I" } : Jvm.MethodName)) ∈ lw_all := lw_g (lw_at lw_m5 189 rfl) rfl
theorem q1210 : (Jvm.Cond.selects "SpanRuler$Ruler" ({ cls := "SpanRuler$Ruler", name := "write", desc := "(LSpanRuler$Note;)I" } : Jvm.MethodName) ({ cls := "SpanRuler$Ruler", name := "write", desc := "(LSpanRuler$Note;)I" } : Jvm.MethodName)) ∈ lw_all := lw_g (lw_at lw_m5 190 rfl) rfl
theorem q77 : (Jvm.Cond.initialized "SpanRuler$Kind") ∈ lw_all := lw_g (lw_at lw_m1 17 rfl) rfl
theorem q1017 : (Jvm.Cond.selects "SpanRuler$Kind$3" ({ cls := "SpanRuler$Kind", name := "may", desc := "(I)Z" } : Jvm.MethodName) ({ cls := "SpanRuler$Kind", name := "may", desc := "(I)Z" } : Jvm.MethodName)) ∈ lw_all := lw_g (lw_at lw_m4 237 rfl) rfl
theorem Tri.writ {s t : MS} (T : Tri s t) {n : Nat} {k a b x w : Int32} : Tri s (mWrit t n k a b x w) := by
  unfold mWrit mWr
  exact Tri.mA (Tri.mA (Tri.mA (Tri.mA (Tri.mA (Tri.mA T)))))
theorem mA0 {t : MS} {q : Nat} {v : Int32} : (mA t 0 q v).A 0 = upd (t.A 0) q v := by rw [mA_A, if_pos rfl]
theorem wr_eq {s : MS} (t : MS) (h : t.A 0 = s.A 0) (h1 : s.A 0 1 = nI (rN (s.A 0))) {k a b x w : Int32} (q : Nat) : rWr (s.A 0) k a b x w q = (mWrit t (rN (s.A 0)) k a b x w).A 0 q := by
  unfold mWrit mWr rWr
  rw [mA0, mA0, mA0, mA0, mA0, mA0, h]
  by_cases c : q = 1
  · subst c
    rw [upd_at, upd_at, upd_ne (by omega), upd_ne (by omega), upd_ne (by omega), upd_ne (by omega), upd_ne (by omega)]
    exact (nI_1 (rN (s.A 0))).symm.trans (congrArg (fun z => z + 1) h1.symm)
  · rw [upd_ne c, upd_ne c]; rfl
theorem TkOk.wr {R : Nat → Int32} (x : TkOk R) (h10 : rN R < 10) {k a b y w : Int32} (hw : inR w 1 20 = true) : TkOk (rWr R k a b y w) := fun p hp => by
  rw [rWr_N (by omega)] at hp
  by_cases c : p = rN R
  · subst c; rw [rWr_4]; exact hw
  · rw [rWr_o (by omega) (by omega)]; exact x p (by omega)
theorem inR_20 {w : Int32} (h : inR w 1 20 = true) : inR w 0 20 = true := by
  obtain ⟨a, b⟩ := inR_i.mp h
  exact inR_i.mpr ⟨Int32.le_trans (by decide) a, b⟩
theorem x_kindOf0 (l : Launch) (G : GE) (h : AH) : GM l G yX1_kindOf (ws_ yX1_kindOf cX1_kindOf 1 (some (.object "SpanRuler$Kind"))) 1 [.int 0] (h) (0) (PV (.ref (G.ga "K0")) h) := by
  refine GM.of (by decide) (dk rfl) ?_
  intro X eL eG eh ok fn
  subst eL; subst eG
  show GW X _ 0 0 [some (.int 0)] []
  refine g_iload_n ok dX1_kindOf_0 rfl ?_
  refine g_if_ne ok (tgt := 10) dX1_kindOf_1 (by decide) (fun c_ => absurd rfl c_) (fun _ => ?_)
  refine g_gets ok (C := "SpanRuler$Kind") (n := "ADD") (d := "LSpanRuler$Kind;") (v := .ref (X.G.ga "K0")) (by simp [gzs]) q1004 dX1_kindOf_4 ?_
  refine g_goto ok dX1_kindOf_7 (tgt := 24) (by decide) ?_
  exact g_aret ok fn rfl (Or.inl ⟨_, rfl⟩) (Or.inr ⟨_, rfl⟩) dX1_kindOf_24 ⟨rfl, rfl⟩ (by omega)
theorem x_kindOf1 (l : Launch) (G : GE) (h : AH) : GM l G yX1_kindOf (ws_ yX1_kindOf cX1_kindOf 1 (some (.object "SpanRuler$Kind"))) 1 [.int 1] (h) (0) (PV (.ref (G.ga "K1")) h) := by
  refine GM.of (by decide) (dk rfl) ?_
  intro X eL eG eh ok fn
  subst eL; subst eG
  show GW X _ 0 0 [some (.int 1)] []
  refine g_iload_n ok dX1_kindOf_0 rfl ?_
  refine g_if_ne ok (tgt := 10) dX1_kindOf_1 (by decide) (fun _ => ?_) (fun c_ => absurd c_ (by decide))
  refine g_iload_n ok dX1_kindOf_10 rfl ?_
  refine g_iconst ok (v := 1) dX1_kindOf_11 rfl ?_
  refine g_icmp_ne ok (tgt := 21) dX1_kindOf_12 (by decide) (fun c_ => absurd rfl c_) (fun _ => ?_)
  refine g_gets ok (C := "SpanRuler$Kind") (n := "SET") (d := "LSpanRuler$Kind;") (v := .ref (X.G.ga "K1")) (by simp [gzs]) q1158 dX1_kindOf_15 ?_
  refine g_goto ok dX1_kindOf_18 (tgt := 24) (by decide) ?_
  exact g_aret ok fn rfl (Or.inl ⟨_, rfl⟩) (Or.inr ⟨_, rfl⟩) dX1_kindOf_24 ⟨rfl, rfl⟩ (by omega)
theorem x_kindOf2 (l : Launch) (G : GE) (h : AH) : GM l G yX1_kindOf (ws_ yX1_kindOf cX1_kindOf 1 (some (.object "SpanRuler$Kind"))) 1 [.int 2] (h) (0) (PV (.ref (G.ga "K2")) h) := by
  refine GM.of (by decide) (dk rfl) ?_
  intro X eL eG eh ok fn
  subst eL; subst eG
  show GW X _ 0 0 [some (.int 2)] []
  refine g_iload_n ok dX1_kindOf_0 rfl ?_
  refine g_if_ne ok (tgt := 10) dX1_kindOf_1 (by decide) (fun _ => ?_) (fun c_ => absurd c_ (by decide))
  refine g_iload_n ok dX1_kindOf_10 rfl ?_
  refine g_iconst ok (v := 1) dX1_kindOf_11 rfl ?_
  refine g_icmp_ne ok (tgt := 21) dX1_kindOf_12 (by decide) (fun _ => ?_) (fun c_ => absurd c_ (by decide))
  refine g_gets ok (C := "SpanRuler$Kind") (n := "TURN") (d := "LSpanRuler$Kind;") (v := .ref (X.G.ga "K2")) (by simp [gzs]) q1205 dX1_kindOf_21 ?_
  exact g_aret ok fn rfl (Or.inl ⟨_, rfl⟩) (Or.inr ⟨_, rfl⟩) dX1_kindOf_24 ⟨rfl, rfl⟩ (by omega)
theorem s_note (l : Launch) (G : GE) (h : AH) (x : Nat) (s : MS) (S0 : SRAt G h x s) (k : Int32) (a : Int32) (b : Int32) (x1 : Int32) (t : Int32) : GM l G yX1_note (wsW_ yX1_note cX1_note 8 (some .int) [((57 : Nat), (89 : Nat), (90 : Nat), (26 : Nat))]) 18 [.ref x, .int k, .int a, .int b, .int x1, .int t] (h) (6000) (SPost G x (ex2 IAE UOE) (mNote s k a b x1 t)) := by
  refine GM.ofH (by decide) (dk rfl) ?_
  intro X eL eG eh ok fn
  subst eL; subst eG
  show GW X _ 0 0 [some (.ref x), some (.int k), some (.int a), some (.int b), some (.int x1), some (.int t), none, none] []
  obtain ⟨own, hr, ru, sv, hl, hd, hc, hm, hf, inp, ln, bt, rf, S⟩ := S0
  obtain ⟨rt, cl, nl, nd, nc, nm, nf, vl, vd, vc, vm, vf, y⟩ := S.2.2.2.2.2.2.2.2.1.1.1
  have iR := S.2.2.2.2.2.2.2.2.1.1.1.inv
  have mn : mN s = rN (s.A 0) := rfl
  rcases Bool.eq_false_or_eq_true (inR k 0 2) with hk | hk
  · rcases Bool.eq_false_or_eq_true (isSp a b) with hs | hs
    · obtain ⟨i, j, ea, eb, hij, hj⟩ : ∃ i j, a = nI i ∧ b = nI j ∧ i ≤ j ∧ j < 32 := ⟨_, _, isSp_n hs⟩
      subst ea; subst eb
      rcases Bool.eq_false_or_eq_true (inR t 1 20) with ht | ht
      · rcases k_case hk with ek | ek | ek
        · subst ek
          rcases Bool.eq_false_or_eq_true (isNu 0 x1) with hn | hn
          · refine g_iload_n ok dX1_note_0 rfl ?_
            refine g_iconst ok (v := 0) dX1_note_1 rfl ?_
            refine g_iconst ok (v := 2) dX1_note_2 rfl ?_
            refine g_callS ok q1001 q1002 q61 q1003 dX1_note_3 (x_isIn X.l X.G _ 0 0 2) (nm_ (by decide : nmb _ 3 = true)) (dl rfl) (dk rfl) rfl rfl (dk rfl) (by omega) (kV ?_) xV
            refine g_if_eq ok (tgt := 32) dX1_note_6 (by decide) (fun c_ => absurd c_ (by rw [hk]; decide)) (fun _ => ?_)
            refine g_iload_n ok dX1_note_9 rfl ?_
            refine g_iload_n ok dX1_note_10 rfl ?_
            refine g_callS ok q995 q996 q61 q997 dX1_note_11 (x_isSpan X.l X.G _ (nI i) (nI j)) (nm_ (by decide : nmb _ 2 = true)) (dl rfl) (dk rfl) rfl rfl (dk rfl) (by omega) (kV ?_) xV
            refine g_if_eq ok (tgt := 32) dX1_note_14 (by decide) (fun c_ => absurd c_ (by rw [hs]; decide)) (fun _ => ?_)
            refine g_iload ok dX1_note_17 rfl ?_
            refine g_iconst ok (v := 1) dX1_note_19 rfl ?_
            refine g_bipush ok (v := 20) dX1_note_20 rfl ?_
            refine g_callS ok q1001 q1002 q61 q1003 dX1_note_22 (x_isIn X.l X.G _ t 1 20) (nm_ (by decide : nmb _ 3 = true)) (dl rfl) (dk rfl) rfl rfl (dk rfl) (by omega) (kV ?_) xV
            refine g_if_eq ok (tgt := 32) dX1_note_25 (by decide) (fun c_ => absurd c_ (by rw [ht]; decide)) (fun _ => ?_)
            refine g_iconst ok (v := 1) dX1_note_28 rfl ?_
            refine g_goto ok dX1_note_29 (tgt := 33) (by decide) ?_
            refine g_callS ok q1019 q1020 q61 q1021 dX1_note_33 (x_chkA1 X.l X.G _) (nm_ (by decide : nmb _ 1 = true)) (dl rfl) (dk rfl) rfl rfl (dk rfl) (by omega) (kN ?_) xN
            refine g_iload_n ok dX1_note_36 rfl ?_
            refine g_callS ok q1202 q1203 q61 q1204 dX1_note_37 (x_kindOf0 X.l X.G _) (nm_ (by decide : nmb _ 1 = true)) (dl rfl) (dk rfl) rfl rfl (dk rfl) (by omega) (kV ?_) xV
            refine g_iload ok dX1_note_40 rfl ?_
            refine g_callUR ok (C := "SpanRuler$Kind$1") (owner := "SpanRuler$Kind") q1006 q1008 q1009 q1010 q1011 (ok.declI q1007 q1018) (by decide) ((Recv.kd (v := 0) (by simp [gkn]))) dX1_note_42 (r_mayX16 X.l X.G _ (X.G.ga "K0") x1) (nm_ (by decide : nmb _ 1 = true)) (dl rfl) (dk rfl) rfl rfl (dk rfl) (by omega) (kV ?_) xV
            rw [hn]
            refine g_callS ok q1019 q1020 q61 q1021 dX1_note_45 (x_chkA1 X.l X.G _) (nm_ (by decide : nmb _ 1 = true)) (dl rfl) (dk rfl) rfl rfl (dk rfl) (by omega) (kN ?_) xN
            refine g_aload_n ok dX1_note_48 rfl ?_
            refine g_get ok ck_X1 0 q319 (Or.inl rfl) (by decide) dX1_note_49 (Rd.h (S.2.2.1)) rfl ?_
            refine g_callV ok q348 q349 q350 q62 q351 (Recv.ob ok gc_X2 (Rd.h (S.1 _ _ y.1.1))) dX1_note_52 (GM.fr S.1 (x_copy X.l X.G hr (fun q => own q = ru) ru (s.A 0) S.2.2.2.2.2.2.2.2.1.1.1)) (nm_ (by decide : nmb _ 0 = true)) (dl rfl) (dk rfl) rfl rfl (dk rfl) (by omega) (kFR fun uC hrC hC ⟨c, eC, mC⟩ fC => ?_) xFR
            subst eC
            obtain ⟨lc, hc0⟩ := mC.o0
            have kC := fC.keep
            refine g_astore ok dX1_note_55 (ls1 := [some (.ref x), some (.int 0), some (.int (nI i)), some (.int (nI j)), some (.int x1), some (.int t), some (.ref c), none]) (dl rfl) rfl ?_
            refine g_aload ok dX1_note_57 rfl ?_
            refine g_new ok ck_X10 q1206 q817 q95 dX1_note_59 (fs := [.null, .int 0, .int 0, .int 0, .int 0]) (by intro j hj; rcases (by omega : j = 0 ∨ j = 1 ∨ j = 2 ∨ j = 3 ∨ j = 4) with rfl | rfl | rfl | rfl | rfl <;> rfl) (by omega) (fun b0 hab0 hkb0 h0b0 => ?_)
            have ne0 := Rd.ne (Rd.h ((fC.out x _ S.2.1 S.2.2.1).2)) hab0 hkb0
            have ne1 := Rd.ne (Rd.h (kC _ _ hc0)) hab0 hkb0
            refine g_dup ok dX1_note_62 rfl ?_
            refine g_iload_n ok dX1_note_63 rfl ?_
            refine g_callS ok q1202 q1203 q61 q1204 dX1_note_64 (x_kindOf0 X.l X.G _) (nm_ (by decide : nmb _ 1 = true)) (dl rfl) (dk rfl) rfl rfl (dk rfl) (by omega) (kV ?_) xV
            refine g_iload_n ok dX1_note_67 rfl ?_
            refine g_iload_n ok dX1_note_68 rfl ?_
            refine g_iload ok dX1_note_69 rfl ?_
            refine g_iload ok dX1_note_71 rfl ?_
            refine g_callI ok q1207 q819 q95 q820 rfl dX1_note_73 (x_noteInit X.l X.G _ b0 (X.G.ga "K0") (nI i) (nI j) x1 t up_self) (nm_ (by decide : nmb _ 5 = true)) (dl rfl) (dk rfl) rfl rfl (dk rfl) (by omega) (kN ?_) xN
            simp only [up_up]
            have fb0 : hrC b0 = none := kC.nn0 hab0
            have kN : KeepAll (up hrC b0 (ob 6 [.ref (X.G.ga (kd 0)), .int (nI i), .int (nI j), .int x1, .int t])) (up hC b0 (ob 6 [.ref (X.G.ga "K0"), .int (nI i), .int (nI j), .int x1, .int t])) := fun q e w => by
              by_cases z : q = b0
              · subst z; rw [up_self] at w ⊢; rw [← w, kd0]
              · rw [up_ne z] at w ⊢; exact kC q e w
            refine g_callV ok q1208 q1209 q1210 q62 q1211 (Recv.ob ok gc_X2 (Rd.up (Rd.h (kC _ _ hc0)) ne1)) dX1_note_76 (GM.fr kN (u_write X.l X.G hr hrC c (s.A 0) mC b0 0 (nI i) (nI j) x1 t fb0 (by decide) hs hn (inR_20 ht))) (nm_ (by decide : nmb _ 1 = true)) (dl rfl) (dk rfl) rfl rfl (dk rfl) (by omega) (kFX fun uM hrM hM zM fM => ?_) (xFX fun cE q hrM hM zM fM => ?_)
            · obtain ⟨nv0, eM, mM⟩ := zM
              subst eM
              have oo : ∀ q e, hr q = none → h q = some e → hrM q = none ∧ hM q = some e := fun q e a b => by have c1 := fC.out q e a b; have ne : q ≠ b0 := fun z => (by rw [z, hab0] at c1; exact nomatch c1.2); exact fM.out q e ((up_ne ne).trans c1.1) ((up_ne ne).trans c1.2)
              obtain ⟨own2, S2, yc, nc, nf, nv⟩ := SRx.copied S mM fM.keep oo
              have n9 : rN (s.A 0) < 10 := by have := iR.1.2; omega
              have tk : TkOk (rWr (s.A 0) 0 (nI i) (nI j) x1 t) := TkOk.wr S.2.2.2.2.2.2.2.2.1.1.2 n9 ht
              refine g_istore ok dX1_note_79 (ls1 := [some (.ref x), some (.int 0), some (.int (nI i)), some (.int (nI j)), some (.int x1), some (.int t), some (.ref c), some (.int (nI (rN (s.A 0) + 1)))]) (dl rfl) rfl ?_
              refine g_aload_n ok dX1_note_81 rfl ?_
              refine g_aload ok dX1_note_82 rfl ?_
              refine g_iload ok dX1_note_84 rfl ?_
              refine g_callV ok q1114 q1116 qs6 q61 q1117 (Recv.ob ok gc_X1 (Rd.h (S2.2.2.1))) dX1_note_86 (s_become X.l X.G hM x own2 hrM s ru sv hl hd hc hm hf inp ln bt rf S2 c (rWr (s.A 0) 0 (nI i) (nI j) x1 t) yc tk nc nf nv (nI (rN (s.A 0) + 1))) (nm_ (by decide : nmb _ 2 = true)) (dl rfl) (dk rfl) rfl rfl (dk rfl) (by omega) (kR fun u9 h9 ⟨e9, B9⟩ => ?_) xR
              subst e9
              have pf : SPost X.G x (ex2 IAE UOE) (mNote s 0 (nI i) (nI j) x1 t) (.inl (some (.int (nI (rN (s.A 0) + 1))))) h9 := by
                unfold mNote; rw [if_pos ⟨hk, hs, hn, ht⟩, mn]
                rw [if_neg nv0]
                refine SPost.ends (B9 _ (Bec.keeps (Tri.writ (Tri.tries s)) S.2.2.2.2.2.2.2.1 (fun q _ => wr_eq (mTries s) (mTries_A s (by decide)) iR.1.1 q))) ?_
                rw [mKeeps_I (by decide)]; unfold mWrit mWr; simp only [mA_I]; rw [mTries_I, upd_at]
              exact g_iret ok fn rfl dX1_note_89 pf (by omega)
            · obtain ⟨nv0, ec, kM, q0, kq, uq, wq, hq⟩ := zM
              subst ec
              have oo : ∀ q e, hr q = none → h q = some e → hr q = none ∧ hM q = some e := fun q e a b => by have c1 := fC.out q e a b; have ne : q ≠ b0 := fun z => (by rw [z, hab0] at c1; exact nomatch c1.2); exact ⟨a, (fM.out q e ((up_ne ne).trans c1.1) ((up_ne ne).trans c1.2)).2⟩
              have S3 := S.move (kM.trans fM.keep) oo S.2.2.2.2.2.2.2.2.1
              have hqM := fM.keep _ _ hq
              refine g_catch ok [] _ [] rfl (fun z hz => nomatch hz) (by decide) (by decide) q994 q1074 rfl ?_
              refine g_astore ok dX1_note_90 (ls1 := [some (.ref x), some (.int 0), some (.int (nI i)), some (.int (nI j)), some (.int x1), some (.int t), some (.ref c), some (.ref q)]) (dl rfl) rfl ?_
              refine g_aload_n ok dX1_note_92 rfl ?_
              refine g_aload ok dX1_note_93 rfl ?_
              refine g_callV ok q1132 q1134 qs8 q61 q1135 (Recv.ob ok gc_X1 (Rd.h (S3.2.2.1))) dX1_note_95 (x_kept X.l X.G _ x q _ _ _ _ _ _ _ _ S3.2.2.1) (nm_ (by decide : nmb _ 1 = true)) (dl rfl) (dk rfl) rfl rfl (dk rfl) (by omega) (kR fun uk hk2 ⟨q2, ek, fk, kk2, ok2⟩ => ?_) xR
              subst ek; subst ok2
              refine g_athrow ok gc_J23 dX1_note_98 up_self ?_
              have pf : SPost X.G x (ex2 IAE UOE) (mNote s 0 (nI i) (nI j) x1 t) (.inr (UOE, q2)) (up (up hM x (ob 0 [.ref ru, sv, .ref hl, .ref inp, .ref ln, .int (s.I 10), bt, .ref q])) q2 (ob 22 [])) := by
                unfold mNote; rw [if_pos ⟨hk, hs, hn, ht⟩, mn]
                rw [if_pos nv0, mEnds_n (by decide)]
                exact SPost.no (SRx.refused S3.tries hqM q0 (by decide)) fk (by decide) rfl
              exact g_out ok fn (hp_all (by decide)) pf (by omega)
          · refine g_iload_n ok dX1_note_0 rfl ?_
            refine g_iconst ok (v := 0) dX1_note_1 rfl ?_
            refine g_iconst ok (v := 2) dX1_note_2 rfl ?_
            refine g_callS ok q1001 q1002 q61 q1003 dX1_note_3 (x_isIn X.l X.G _ 0 0 2) (nm_ (by decide : nmb _ 3 = true)) (dl rfl) (dk rfl) rfl rfl (dk rfl) (by omega) (kV ?_) xV
            refine g_if_eq ok (tgt := 32) dX1_note_6 (by decide) (fun c_ => absurd c_ (by rw [hk]; decide)) (fun _ => ?_)
            refine g_iload_n ok dX1_note_9 rfl ?_
            refine g_iload_n ok dX1_note_10 rfl ?_
            refine g_callS ok q995 q996 q61 q997 dX1_note_11 (x_isSpan X.l X.G _ (nI i) (nI j)) (nm_ (by decide : nmb _ 2 = true)) (dl rfl) (dk rfl) rfl rfl (dk rfl) (by omega) (kV ?_) xV
            refine g_if_eq ok (tgt := 32) dX1_note_14 (by decide) (fun c_ => absurd c_ (by rw [hs]; decide)) (fun _ => ?_)
            refine g_iload ok dX1_note_17 rfl ?_
            refine g_iconst ok (v := 1) dX1_note_19 rfl ?_
            refine g_bipush ok (v := 20) dX1_note_20 rfl ?_
            refine g_callS ok q1001 q1002 q61 q1003 dX1_note_22 (x_isIn X.l X.G _ t 1 20) (nm_ (by decide : nmb _ 3 = true)) (dl rfl) (dk rfl) rfl rfl (dk rfl) (by omega) (kV ?_) xV
            refine g_if_eq ok (tgt := 32) dX1_note_25 (by decide) (fun c_ => absurd c_ (by rw [ht]; decide)) (fun _ => ?_)
            refine g_iconst ok (v := 1) dX1_note_28 rfl ?_
            refine g_goto ok dX1_note_29 (tgt := 33) (by decide) ?_
            refine g_callS ok q1019 q1020 q61 q1021 dX1_note_33 (x_chkA1 X.l X.G _) (nm_ (by decide : nmb _ 1 = true)) (dl rfl) (dk rfl) rfl rfl (dk rfl) (by omega) (kN ?_) xN
            refine g_iload_n ok dX1_note_36 rfl ?_
            refine g_callS ok q1202 q1203 q61 q1204 dX1_note_37 (x_kindOf0 X.l X.G _) (nm_ (by decide : nmb _ 1 = true)) (dl rfl) (dk rfl) rfl rfl (dk rfl) (by omega) (kV ?_) xV
            refine g_iload ok dX1_note_40 rfl ?_
            refine g_callUR ok (C := "SpanRuler$Kind$1") (owner := "SpanRuler$Kind") q1006 q1008 q1009 q1010 q1011 (ok.declI q1007 q1018) (by decide) ((Recv.kd (v := 0) (by simp [gkn]))) dX1_note_42 (r_mayX16 X.l X.G _ (X.G.ga "K0") x1) (nm_ (by decide : nmb _ 1 = true)) (dl rfl) (dk rfl) rfl rfl (dk rfl) (by omega) (kV ?_) xV
            rw [hn]
            refine g_callS ok q1019 q1020 q61 q1021 dX1_note_45 (x_chkA0 X.l X.G _) (nm_ (by decide : nmb _ 1 = true)) (dl rfl) (dk rfl) rfl rfl (dk rfl) (by omega) kT (xT fun qx fx kx => ?_)
            have pf : SPost X.G x (ex2 IAE UOE) (mNote s 0 (nI i) (nI j) x1 t) (.inr (IAE, qx)) (up h qx (ob 18 [])) := by
              unfold mNote; rw [if_neg (fun w_ => by rw [hn] at w_; exact absurd w_.2.2.1 (by decide))]
              exact SPost.no S.at.tries fx (by decide) rfl
            exact g_out ok fn (hp_all (by decide)) pf (by omega)
        · subst ek
          rcases Bool.eq_false_or_eq_true (isNu 1 x1) with hn | hn
          · refine g_iload_n ok dX1_note_0 rfl ?_
            refine g_iconst ok (v := 0) dX1_note_1 rfl ?_
            refine g_iconst ok (v := 2) dX1_note_2 rfl ?_
            refine g_callS ok q1001 q1002 q61 q1003 dX1_note_3 (x_isIn X.l X.G _ 1 0 2) (nm_ (by decide : nmb _ 3 = true)) (dl rfl) (dk rfl) rfl rfl (dk rfl) (by omega) (kV ?_) xV
            refine g_if_eq ok (tgt := 32) dX1_note_6 (by decide) (fun c_ => absurd c_ (by rw [hk]; decide)) (fun _ => ?_)
            refine g_iload_n ok dX1_note_9 rfl ?_
            refine g_iload_n ok dX1_note_10 rfl ?_
            refine g_callS ok q995 q996 q61 q997 dX1_note_11 (x_isSpan X.l X.G _ (nI i) (nI j)) (nm_ (by decide : nmb _ 2 = true)) (dl rfl) (dk rfl) rfl rfl (dk rfl) (by omega) (kV ?_) xV
            refine g_if_eq ok (tgt := 32) dX1_note_14 (by decide) (fun c_ => absurd c_ (by rw [hs]; decide)) (fun _ => ?_)
            refine g_iload ok dX1_note_17 rfl ?_
            refine g_iconst ok (v := 1) dX1_note_19 rfl ?_
            refine g_bipush ok (v := 20) dX1_note_20 rfl ?_
            refine g_callS ok q1001 q1002 q61 q1003 dX1_note_22 (x_isIn X.l X.G _ t 1 20) (nm_ (by decide : nmb _ 3 = true)) (dl rfl) (dk rfl) rfl rfl (dk rfl) (by omega) (kV ?_) xV
            refine g_if_eq ok (tgt := 32) dX1_note_25 (by decide) (fun c_ => absurd c_ (by rw [ht]; decide)) (fun _ => ?_)
            refine g_iconst ok (v := 1) dX1_note_28 rfl ?_
            refine g_goto ok dX1_note_29 (tgt := 33) (by decide) ?_
            refine g_callS ok q1019 q1020 q61 q1021 dX1_note_33 (x_chkA1 X.l X.G _) (nm_ (by decide : nmb _ 1 = true)) (dl rfl) (dk rfl) rfl rfl (dk rfl) (by omega) (kN ?_) xN
            refine g_iload_n ok dX1_note_36 rfl ?_
            refine g_callS ok q1202 q1203 q61 q1204 dX1_note_37 (x_kindOf1 X.l X.G _) (nm_ (by decide : nmb _ 1 = true)) (dl rfl) (dk rfl) rfl rfl (dk rfl) (by omega) (kV ?_) xV
            refine g_iload ok dX1_note_40 rfl ?_
            refine g_callUR ok (C := "SpanRuler$Kind$2") (owner := "SpanRuler$Kind") q1006 q1008 q1013 q1014 q1015 (ok.declI q1007 q1018) (by decide) ((Recv.kd (v := 1) (by simp [gkn]))) dX1_note_42 (r_mayX17 X.l X.G _ (X.G.ga "K1") x1) (nm_ (by decide : nmb _ 1 = true)) (dl rfl) (dk rfl) rfl rfl (dk rfl) (by omega) (kV ?_) xV
            rw [hn]
            refine g_callS ok q1019 q1020 q61 q1021 dX1_note_45 (x_chkA1 X.l X.G _) (nm_ (by decide : nmb _ 1 = true)) (dl rfl) (dk rfl) rfl rfl (dk rfl) (by omega) (kN ?_) xN
            refine g_aload_n ok dX1_note_48 rfl ?_
            refine g_get ok ck_X1 0 q319 (Or.inl rfl) (by decide) dX1_note_49 (Rd.h (S.2.2.1)) rfl ?_
            refine g_callV ok q348 q349 q350 q62 q351 (Recv.ob ok gc_X2 (Rd.h (S.1 _ _ y.1.1))) dX1_note_52 (GM.fr S.1 (x_copy X.l X.G hr (fun q => own q = ru) ru (s.A 0) S.2.2.2.2.2.2.2.2.1.1.1)) (nm_ (by decide : nmb _ 0 = true)) (dl rfl) (dk rfl) rfl rfl (dk rfl) (by omega) (kFR fun uC hrC hC ⟨c, eC, mC⟩ fC => ?_) xFR
            subst eC
            obtain ⟨lc, hc0⟩ := mC.o0
            have kC := fC.keep
            refine g_astore ok dX1_note_55 (ls1 := [some (.ref x), some (.int 1), some (.int (nI i)), some (.int (nI j)), some (.int x1), some (.int t), some (.ref c), none]) (dl rfl) rfl ?_
            refine g_aload ok dX1_note_57 rfl ?_
            refine g_new ok ck_X10 q1206 q817 q95 dX1_note_59 (fs := [.null, .int 0, .int 0, .int 0, .int 0]) (by intro j hj; rcases (by omega : j = 0 ∨ j = 1 ∨ j = 2 ∨ j = 3 ∨ j = 4) with rfl | rfl | rfl | rfl | rfl <;> rfl) (by omega) (fun b0 hab0 hkb0 h0b0 => ?_)
            have ne0 := Rd.ne (Rd.h ((fC.out x _ S.2.1 S.2.2.1).2)) hab0 hkb0
            have ne1 := Rd.ne (Rd.h (kC _ _ hc0)) hab0 hkb0
            refine g_dup ok dX1_note_62 rfl ?_
            refine g_iload_n ok dX1_note_63 rfl ?_
            refine g_callS ok q1202 q1203 q61 q1204 dX1_note_64 (x_kindOf1 X.l X.G _) (nm_ (by decide : nmb _ 1 = true)) (dl rfl) (dk rfl) rfl rfl (dk rfl) (by omega) (kV ?_) xV
            refine g_iload_n ok dX1_note_67 rfl ?_
            refine g_iload_n ok dX1_note_68 rfl ?_
            refine g_iload ok dX1_note_69 rfl ?_
            refine g_iload ok dX1_note_71 rfl ?_
            refine g_callI ok q1207 q819 q95 q820 rfl dX1_note_73 (x_noteInit X.l X.G _ b0 (X.G.ga "K1") (nI i) (nI j) x1 t up_self) (nm_ (by decide : nmb _ 5 = true)) (dl rfl) (dk rfl) rfl rfl (dk rfl) (by omega) (kN ?_) xN
            simp only [up_up]
            have fb0 : hrC b0 = none := kC.nn0 hab0
            have kN : KeepAll (up hrC b0 (ob 6 [.ref (X.G.ga (kd 1)), .int (nI i), .int (nI j), .int x1, .int t])) (up hC b0 (ob 6 [.ref (X.G.ga "K1"), .int (nI i), .int (nI j), .int x1, .int t])) := fun q e w => by
              by_cases z : q = b0
              · subst z; rw [up_self] at w ⊢; rw [← w, kd1]
              · rw [up_ne z] at w ⊢; exact kC q e w
            refine g_callV ok q1208 q1209 q1210 q62 q1211 (Recv.ob ok gc_X2 (Rd.up (Rd.h (kC _ _ hc0)) ne1)) dX1_note_76 (GM.fr kN (u_write X.l X.G hr hrC c (s.A 0) mC b0 1 (nI i) (nI j) x1 t fb0 (by decide) hs hn (inR_20 ht))) (nm_ (by decide : nmb _ 1 = true)) (dl rfl) (dk rfl) rfl rfl (dk rfl) (by omega) (kFX fun uM hrM hM zM fM => ?_) (xFX fun cE q hrM hM zM fM => ?_)
            · obtain ⟨nv0, eM, mM⟩ := zM
              subst eM
              have oo : ∀ q e, hr q = none → h q = some e → hrM q = none ∧ hM q = some e := fun q e a b => by have c1 := fC.out q e a b; have ne : q ≠ b0 := fun z => (by rw [z, hab0] at c1; exact nomatch c1.2); exact fM.out q e ((up_ne ne).trans c1.1) ((up_ne ne).trans c1.2)
              obtain ⟨own2, S2, yc, nc, nf, nv⟩ := SRx.copied S mM fM.keep oo
              have n9 : rN (s.A 0) < 10 := by have := iR.1.2; omega
              have tk : TkOk (rWr (s.A 0) 1 (nI i) (nI j) x1 t) := TkOk.wr S.2.2.2.2.2.2.2.2.1.1.2 n9 ht
              refine g_istore ok dX1_note_79 (ls1 := [some (.ref x), some (.int 1), some (.int (nI i)), some (.int (nI j)), some (.int x1), some (.int t), some (.ref c), some (.int (nI (rN (s.A 0) + 1)))]) (dl rfl) rfl ?_
              refine g_aload_n ok dX1_note_81 rfl ?_
              refine g_aload ok dX1_note_82 rfl ?_
              refine g_iload ok dX1_note_84 rfl ?_
              refine g_callV ok q1114 q1116 qs6 q61 q1117 (Recv.ob ok gc_X1 (Rd.h (S2.2.2.1))) dX1_note_86 (s_become X.l X.G hM x own2 hrM s ru sv hl hd hc hm hf inp ln bt rf S2 c (rWr (s.A 0) 1 (nI i) (nI j) x1 t) yc tk nc nf nv (nI (rN (s.A 0) + 1))) (nm_ (by decide : nmb _ 2 = true)) (dl rfl) (dk rfl) rfl rfl (dk rfl) (by omega) (kR fun u9 h9 ⟨e9, B9⟩ => ?_) xR
              subst e9
              have pf : SPost X.G x (ex2 IAE UOE) (mNote s 1 (nI i) (nI j) x1 t) (.inl (some (.int (nI (rN (s.A 0) + 1))))) h9 := by
                unfold mNote; rw [if_pos ⟨hk, hs, hn, ht⟩, mn]
                rw [if_neg nv0]
                refine SPost.ends (B9 _ (Bec.keeps (Tri.writ (Tri.tries s)) S.2.2.2.2.2.2.2.1 (fun q _ => wr_eq (mTries s) (mTries_A s (by decide)) iR.1.1 q))) ?_
                rw [mKeeps_I (by decide)]; unfold mWrit mWr; simp only [mA_I]; rw [mTries_I, upd_at]
              exact g_iret ok fn rfl dX1_note_89 pf (by omega)
            · obtain ⟨nv0, ec, kM, q0, kq, uq, wq, hq⟩ := zM
              subst ec
              have oo : ∀ q e, hr q = none → h q = some e → hr q = none ∧ hM q = some e := fun q e a b => by have c1 := fC.out q e a b; have ne : q ≠ b0 := fun z => (by rw [z, hab0] at c1; exact nomatch c1.2); exact ⟨a, (fM.out q e ((up_ne ne).trans c1.1) ((up_ne ne).trans c1.2)).2⟩
              have S3 := S.move (kM.trans fM.keep) oo S.2.2.2.2.2.2.2.2.1
              have hqM := fM.keep _ _ hq
              refine g_catch ok [] _ [] rfl (fun z hz => nomatch hz) (by decide) (by decide) q994 q1074 rfl ?_
              refine g_astore ok dX1_note_90 (ls1 := [some (.ref x), some (.int 1), some (.int (nI i)), some (.int (nI j)), some (.int x1), some (.int t), some (.ref c), some (.ref q)]) (dl rfl) rfl ?_
              refine g_aload_n ok dX1_note_92 rfl ?_
              refine g_aload ok dX1_note_93 rfl ?_
              refine g_callV ok q1132 q1134 qs8 q61 q1135 (Recv.ob ok gc_X1 (Rd.h (S3.2.2.1))) dX1_note_95 (x_kept X.l X.G _ x q _ _ _ _ _ _ _ _ S3.2.2.1) (nm_ (by decide : nmb _ 1 = true)) (dl rfl) (dk rfl) rfl rfl (dk rfl) (by omega) (kR fun uk hk2 ⟨q2, ek, fk, kk2, ok2⟩ => ?_) xR
              subst ek; subst ok2
              refine g_athrow ok gc_J23 dX1_note_98 up_self ?_
              have pf : SPost X.G x (ex2 IAE UOE) (mNote s 1 (nI i) (nI j) x1 t) (.inr (UOE, q2)) (up (up hM x (ob 0 [.ref ru, sv, .ref hl, .ref inp, .ref ln, .int (s.I 10), bt, .ref q])) q2 (ob 22 [])) := by
                unfold mNote; rw [if_pos ⟨hk, hs, hn, ht⟩, mn]
                rw [if_pos nv0, mEnds_n (by decide)]
                exact SPost.no (SRx.refused S3.tries hqM q0 (by decide)) fk (by decide) rfl
              exact g_out ok fn (hp_all (by decide)) pf (by omega)
          · refine g_iload_n ok dX1_note_0 rfl ?_
            refine g_iconst ok (v := 0) dX1_note_1 rfl ?_
            refine g_iconst ok (v := 2) dX1_note_2 rfl ?_
            refine g_callS ok q1001 q1002 q61 q1003 dX1_note_3 (x_isIn X.l X.G _ 1 0 2) (nm_ (by decide : nmb _ 3 = true)) (dl rfl) (dk rfl) rfl rfl (dk rfl) (by omega) (kV ?_) xV
            refine g_if_eq ok (tgt := 32) dX1_note_6 (by decide) (fun c_ => absurd c_ (by rw [hk]; decide)) (fun _ => ?_)
            refine g_iload_n ok dX1_note_9 rfl ?_
            refine g_iload_n ok dX1_note_10 rfl ?_
            refine g_callS ok q995 q996 q61 q997 dX1_note_11 (x_isSpan X.l X.G _ (nI i) (nI j)) (nm_ (by decide : nmb _ 2 = true)) (dl rfl) (dk rfl) rfl rfl (dk rfl) (by omega) (kV ?_) xV
            refine g_if_eq ok (tgt := 32) dX1_note_14 (by decide) (fun c_ => absurd c_ (by rw [hs]; decide)) (fun _ => ?_)
            refine g_iload ok dX1_note_17 rfl ?_
            refine g_iconst ok (v := 1) dX1_note_19 rfl ?_
            refine g_bipush ok (v := 20) dX1_note_20 rfl ?_
            refine g_callS ok q1001 q1002 q61 q1003 dX1_note_22 (x_isIn X.l X.G _ t 1 20) (nm_ (by decide : nmb _ 3 = true)) (dl rfl) (dk rfl) rfl rfl (dk rfl) (by omega) (kV ?_) xV
            refine g_if_eq ok (tgt := 32) dX1_note_25 (by decide) (fun c_ => absurd c_ (by rw [ht]; decide)) (fun _ => ?_)
            refine g_iconst ok (v := 1) dX1_note_28 rfl ?_
            refine g_goto ok dX1_note_29 (tgt := 33) (by decide) ?_
            refine g_callS ok q1019 q1020 q61 q1021 dX1_note_33 (x_chkA1 X.l X.G _) (nm_ (by decide : nmb _ 1 = true)) (dl rfl) (dk rfl) rfl rfl (dk rfl) (by omega) (kN ?_) xN
            refine g_iload_n ok dX1_note_36 rfl ?_
            refine g_callS ok q1202 q1203 q61 q1204 dX1_note_37 (x_kindOf1 X.l X.G _) (nm_ (by decide : nmb _ 1 = true)) (dl rfl) (dk rfl) rfl rfl (dk rfl) (by omega) (kV ?_) xV
            refine g_iload ok dX1_note_40 rfl ?_
            refine g_callUR ok (C := "SpanRuler$Kind$2") (owner := "SpanRuler$Kind") q1006 q1008 q1013 q1014 q1015 (ok.declI q1007 q1018) (by decide) ((Recv.kd (v := 1) (by simp [gkn]))) dX1_note_42 (r_mayX17 X.l X.G _ (X.G.ga "K1") x1) (nm_ (by decide : nmb _ 1 = true)) (dl rfl) (dk rfl) rfl rfl (dk rfl) (by omega) (kV ?_) xV
            rw [hn]
            refine g_callS ok q1019 q1020 q61 q1021 dX1_note_45 (x_chkA0 X.l X.G _) (nm_ (by decide : nmb _ 1 = true)) (dl rfl) (dk rfl) rfl rfl (dk rfl) (by omega) kT (xT fun qx fx kx => ?_)
            have pf : SPost X.G x (ex2 IAE UOE) (mNote s 1 (nI i) (nI j) x1 t) (.inr (IAE, qx)) (up h qx (ob 18 [])) := by
              unfold mNote; rw [if_neg (fun w_ => by rw [hn] at w_; exact absurd w_.2.2.1 (by decide))]
              exact SPost.no S.at.tries fx (by decide) rfl
            exact g_out ok fn (hp_all (by decide)) pf (by omega)
        · subst ek
          rcases Bool.eq_false_or_eq_true (isNu 2 x1) with hn | hn
          · refine g_iload_n ok dX1_note_0 rfl ?_
            refine g_iconst ok (v := 0) dX1_note_1 rfl ?_
            refine g_iconst ok (v := 2) dX1_note_2 rfl ?_
            refine g_callS ok q1001 q1002 q61 q1003 dX1_note_3 (x_isIn X.l X.G _ 2 0 2) (nm_ (by decide : nmb _ 3 = true)) (dl rfl) (dk rfl) rfl rfl (dk rfl) (by omega) (kV ?_) xV
            refine g_if_eq ok (tgt := 32) dX1_note_6 (by decide) (fun c_ => absurd c_ (by rw [hk]; decide)) (fun _ => ?_)
            refine g_iload_n ok dX1_note_9 rfl ?_
            refine g_iload_n ok dX1_note_10 rfl ?_
            refine g_callS ok q995 q996 q61 q997 dX1_note_11 (x_isSpan X.l X.G _ (nI i) (nI j)) (nm_ (by decide : nmb _ 2 = true)) (dl rfl) (dk rfl) rfl rfl (dk rfl) (by omega) (kV ?_) xV
            refine g_if_eq ok (tgt := 32) dX1_note_14 (by decide) (fun c_ => absurd c_ (by rw [hs]; decide)) (fun _ => ?_)
            refine g_iload ok dX1_note_17 rfl ?_
            refine g_iconst ok (v := 1) dX1_note_19 rfl ?_
            refine g_bipush ok (v := 20) dX1_note_20 rfl ?_
            refine g_callS ok q1001 q1002 q61 q1003 dX1_note_22 (x_isIn X.l X.G _ t 1 20) (nm_ (by decide : nmb _ 3 = true)) (dl rfl) (dk rfl) rfl rfl (dk rfl) (by omega) (kV ?_) xV
            refine g_if_eq ok (tgt := 32) dX1_note_25 (by decide) (fun c_ => absurd c_ (by rw [ht]; decide)) (fun _ => ?_)
            refine g_iconst ok (v := 1) dX1_note_28 rfl ?_
            refine g_goto ok dX1_note_29 (tgt := 33) (by decide) ?_
            refine g_callS ok q1019 q1020 q61 q1021 dX1_note_33 (x_chkA1 X.l X.G _) (nm_ (by decide : nmb _ 1 = true)) (dl rfl) (dk rfl) rfl rfl (dk rfl) (by omega) (kN ?_) xN
            refine g_iload_n ok dX1_note_36 rfl ?_
            refine g_callS ok q1202 q1203 q61 q1204 dX1_note_37 (x_kindOf2 X.l X.G _) (nm_ (by decide : nmb _ 1 = true)) (dl rfl) (dk rfl) rfl rfl (dk rfl) (by omega) (kV ?_) xV
            refine g_iload ok dX1_note_40 rfl ?_
            refine g_callU ok (C := "SpanRuler$Kind$3") (owner := "SpanRuler$Kind") q1006 q1008 q1017 q1007 q77 q1018 (ok.declI q1007 q1018) (by decide) ((Recv.kd (v := 2) (by simp [gkn]))) dX1_note_42 (x_may18 X.l X.G _ (X.G.ga "K2") x1) (nm_ (by decide : nmb _ 1 = true)) (dl rfl) (dk rfl) rfl rfl (dk rfl) (by omega) (kV ?_) xV
            rw [hn]
            refine g_callS ok q1019 q1020 q61 q1021 dX1_note_45 (x_chkA1 X.l X.G _) (nm_ (by decide : nmb _ 1 = true)) (dl rfl) (dk rfl) rfl rfl (dk rfl) (by omega) (kN ?_) xN
            refine g_aload_n ok dX1_note_48 rfl ?_
            refine g_get ok ck_X1 0 q319 (Or.inl rfl) (by decide) dX1_note_49 (Rd.h (S.2.2.1)) rfl ?_
            refine g_callV ok q348 q349 q350 q62 q351 (Recv.ob ok gc_X2 (Rd.h (S.1 _ _ y.1.1))) dX1_note_52 (GM.fr S.1 (x_copy X.l X.G hr (fun q => own q = ru) ru (s.A 0) S.2.2.2.2.2.2.2.2.1.1.1)) (nm_ (by decide : nmb _ 0 = true)) (dl rfl) (dk rfl) rfl rfl (dk rfl) (by omega) (kFR fun uC hrC hC ⟨c, eC, mC⟩ fC => ?_) xFR
            subst eC
            obtain ⟨lc, hc0⟩ := mC.o0
            have kC := fC.keep
            refine g_astore ok dX1_note_55 (ls1 := [some (.ref x), some (.int 2), some (.int (nI i)), some (.int (nI j)), some (.int x1), some (.int t), some (.ref c), none]) (dl rfl) rfl ?_
            refine g_aload ok dX1_note_57 rfl ?_
            refine g_new ok ck_X10 q1206 q817 q95 dX1_note_59 (fs := [.null, .int 0, .int 0, .int 0, .int 0]) (by intro j hj; rcases (by omega : j = 0 ∨ j = 1 ∨ j = 2 ∨ j = 3 ∨ j = 4) with rfl | rfl | rfl | rfl | rfl <;> rfl) (by omega) (fun b0 hab0 hkb0 h0b0 => ?_)
            have ne0 := Rd.ne (Rd.h ((fC.out x _ S.2.1 S.2.2.1).2)) hab0 hkb0
            have ne1 := Rd.ne (Rd.h (kC _ _ hc0)) hab0 hkb0
            refine g_dup ok dX1_note_62 rfl ?_
            refine g_iload_n ok dX1_note_63 rfl ?_
            refine g_callS ok q1202 q1203 q61 q1204 dX1_note_64 (x_kindOf2 X.l X.G _) (nm_ (by decide : nmb _ 1 = true)) (dl rfl) (dk rfl) rfl rfl (dk rfl) (by omega) (kV ?_) xV
            refine g_iload_n ok dX1_note_67 rfl ?_
            refine g_iload_n ok dX1_note_68 rfl ?_
            refine g_iload ok dX1_note_69 rfl ?_
            refine g_iload ok dX1_note_71 rfl ?_
            refine g_callI ok q1207 q819 q95 q820 rfl dX1_note_73 (x_noteInit X.l X.G _ b0 (X.G.ga "K2") (nI i) (nI j) x1 t up_self) (nm_ (by decide : nmb _ 5 = true)) (dl rfl) (dk rfl) rfl rfl (dk rfl) (by omega) (kN ?_) xN
            simp only [up_up]
            have fb0 : hrC b0 = none := kC.nn0 hab0
            have kN : KeepAll (up hrC b0 (ob 6 [.ref (X.G.ga (kd 2)), .int (nI i), .int (nI j), .int x1, .int t])) (up hC b0 (ob 6 [.ref (X.G.ga "K2"), .int (nI i), .int (nI j), .int x1, .int t])) := fun q e w => by
              by_cases z : q = b0
              · subst z; rw [up_self] at w ⊢; rw [← w, kd2]
              · rw [up_ne z] at w ⊢; exact kC q e w
            refine g_callV ok q1208 q1209 q1210 q62 q1211 (Recv.ob ok gc_X2 (Rd.up (Rd.h (kC _ _ hc0)) ne1)) dX1_note_76 (GM.fr kN (u_write X.l X.G hr hrC c (s.A 0) mC b0 2 (nI i) (nI j) x1 t fb0 (by decide) hs hn (inR_20 ht))) (nm_ (by decide : nmb _ 1 = true)) (dl rfl) (dk rfl) rfl rfl (dk rfl) (by omega) (kFX fun uM hrM hM zM fM => ?_) (xFX fun cE q hrM hM zM fM => ?_)
            · obtain ⟨nv0, eM, mM⟩ := zM
              subst eM
              have oo : ∀ q e, hr q = none → h q = some e → hrM q = none ∧ hM q = some e := fun q e a b => by have c1 := fC.out q e a b; have ne : q ≠ b0 := fun z => (by rw [z, hab0] at c1; exact nomatch c1.2); exact fM.out q e ((up_ne ne).trans c1.1) ((up_ne ne).trans c1.2)
              obtain ⟨own2, S2, yc, nc, nf, nv⟩ := SRx.copied S mM fM.keep oo
              have n9 : rN (s.A 0) < 10 := by have := iR.1.2; omega
              have tk : TkOk (rWr (s.A 0) 2 (nI i) (nI j) x1 t) := TkOk.wr S.2.2.2.2.2.2.2.2.1.1.2 n9 ht
              refine g_istore ok dX1_note_79 (ls1 := [some (.ref x), some (.int 2), some (.int (nI i)), some (.int (nI j)), some (.int x1), some (.int t), some (.ref c), some (.int (nI (rN (s.A 0) + 1)))]) (dl rfl) rfl ?_
              refine g_aload_n ok dX1_note_81 rfl ?_
              refine g_aload ok dX1_note_82 rfl ?_
              refine g_iload ok dX1_note_84 rfl ?_
              refine g_callV ok q1114 q1116 qs6 q61 q1117 (Recv.ob ok gc_X1 (Rd.h (S2.2.2.1))) dX1_note_86 (s_become X.l X.G hM x own2 hrM s ru sv hl hd hc hm hf inp ln bt rf S2 c (rWr (s.A 0) 2 (nI i) (nI j) x1 t) yc tk nc nf nv (nI (rN (s.A 0) + 1))) (nm_ (by decide : nmb _ 2 = true)) (dl rfl) (dk rfl) rfl rfl (dk rfl) (by omega) (kR fun u9 h9 ⟨e9, B9⟩ => ?_) xR
              subst e9
              have pf : SPost X.G x (ex2 IAE UOE) (mNote s 2 (nI i) (nI j) x1 t) (.inl (some (.int (nI (rN (s.A 0) + 1))))) h9 := by
                unfold mNote; rw [if_pos ⟨hk, hs, hn, ht⟩, mn]
                rw [if_neg nv0]
                refine SPost.ends (B9 _ (Bec.keeps (Tri.writ (Tri.tries s)) S.2.2.2.2.2.2.2.1 (fun q _ => wr_eq (mTries s) (mTries_A s (by decide)) iR.1.1 q))) ?_
                rw [mKeeps_I (by decide)]; unfold mWrit mWr; simp only [mA_I]; rw [mTries_I, upd_at]
              exact g_iret ok fn rfl dX1_note_89 pf (by omega)
            · obtain ⟨nv0, ec, kM, q0, kq, uq, wq, hq⟩ := zM
              subst ec
              have oo : ∀ q e, hr q = none → h q = some e → hr q = none ∧ hM q = some e := fun q e a b => by have c1 := fC.out q e a b; have ne : q ≠ b0 := fun z => (by rw [z, hab0] at c1; exact nomatch c1.2); exact ⟨a, (fM.out q e ((up_ne ne).trans c1.1) ((up_ne ne).trans c1.2)).2⟩
              have S3 := S.move (kM.trans fM.keep) oo S.2.2.2.2.2.2.2.2.1
              have hqM := fM.keep _ _ hq
              refine g_catch ok [] _ [] rfl (fun z hz => nomatch hz) (by decide) (by decide) q994 q1074 rfl ?_
              refine g_astore ok dX1_note_90 (ls1 := [some (.ref x), some (.int 2), some (.int (nI i)), some (.int (nI j)), some (.int x1), some (.int t), some (.ref c), some (.ref q)]) (dl rfl) rfl ?_
              refine g_aload_n ok dX1_note_92 rfl ?_
              refine g_aload ok dX1_note_93 rfl ?_
              refine g_callV ok q1132 q1134 qs8 q61 q1135 (Recv.ob ok gc_X1 (Rd.h (S3.2.2.1))) dX1_note_95 (x_kept X.l X.G _ x q _ _ _ _ _ _ _ _ S3.2.2.1) (nm_ (by decide : nmb _ 1 = true)) (dl rfl) (dk rfl) rfl rfl (dk rfl) (by omega) (kR fun uk hk2 ⟨q2, ek, fk, kk2, ok2⟩ => ?_) xR
              subst ek; subst ok2
              refine g_athrow ok gc_J23 dX1_note_98 up_self ?_
              have pf : SPost X.G x (ex2 IAE UOE) (mNote s 2 (nI i) (nI j) x1 t) (.inr (UOE, q2)) (up (up hM x (ob 0 [.ref ru, sv, .ref hl, .ref inp, .ref ln, .int (s.I 10), bt, .ref q])) q2 (ob 22 [])) := by
                unfold mNote; rw [if_pos ⟨hk, hs, hn, ht⟩, mn]
                rw [if_pos nv0, mEnds_n (by decide)]
                exact SPost.no (SRx.refused S3.tries hqM q0 (by decide)) fk (by decide) rfl
              exact g_out ok fn (hp_all (by decide)) pf (by omega)
          · refine g_iload_n ok dX1_note_0 rfl ?_
            refine g_iconst ok (v := 0) dX1_note_1 rfl ?_
            refine g_iconst ok (v := 2) dX1_note_2 rfl ?_
            refine g_callS ok q1001 q1002 q61 q1003 dX1_note_3 (x_isIn X.l X.G _ 2 0 2) (nm_ (by decide : nmb _ 3 = true)) (dl rfl) (dk rfl) rfl rfl (dk rfl) (by omega) (kV ?_) xV
            refine g_if_eq ok (tgt := 32) dX1_note_6 (by decide) (fun c_ => absurd c_ (by rw [hk]; decide)) (fun _ => ?_)
            refine g_iload_n ok dX1_note_9 rfl ?_
            refine g_iload_n ok dX1_note_10 rfl ?_
            refine g_callS ok q995 q996 q61 q997 dX1_note_11 (x_isSpan X.l X.G _ (nI i) (nI j)) (nm_ (by decide : nmb _ 2 = true)) (dl rfl) (dk rfl) rfl rfl (dk rfl) (by omega) (kV ?_) xV
            refine g_if_eq ok (tgt := 32) dX1_note_14 (by decide) (fun c_ => absurd c_ (by rw [hs]; decide)) (fun _ => ?_)
            refine g_iload ok dX1_note_17 rfl ?_
            refine g_iconst ok (v := 1) dX1_note_19 rfl ?_
            refine g_bipush ok (v := 20) dX1_note_20 rfl ?_
            refine g_callS ok q1001 q1002 q61 q1003 dX1_note_22 (x_isIn X.l X.G _ t 1 20) (nm_ (by decide : nmb _ 3 = true)) (dl rfl) (dk rfl) rfl rfl (dk rfl) (by omega) (kV ?_) xV
            refine g_if_eq ok (tgt := 32) dX1_note_25 (by decide) (fun c_ => absurd c_ (by rw [ht]; decide)) (fun _ => ?_)
            refine g_iconst ok (v := 1) dX1_note_28 rfl ?_
            refine g_goto ok dX1_note_29 (tgt := 33) (by decide) ?_
            refine g_callS ok q1019 q1020 q61 q1021 dX1_note_33 (x_chkA1 X.l X.G _) (nm_ (by decide : nmb _ 1 = true)) (dl rfl) (dk rfl) rfl rfl (dk rfl) (by omega) (kN ?_) xN
            refine g_iload_n ok dX1_note_36 rfl ?_
            refine g_callS ok q1202 q1203 q61 q1204 dX1_note_37 (x_kindOf2 X.l X.G _) (nm_ (by decide : nmb _ 1 = true)) (dl rfl) (dk rfl) rfl rfl (dk rfl) (by omega) (kV ?_) xV
            refine g_iload ok dX1_note_40 rfl ?_
            refine g_callU ok (C := "SpanRuler$Kind$3") (owner := "SpanRuler$Kind") q1006 q1008 q1017 q1007 q77 q1018 (ok.declI q1007 q1018) (by decide) ((Recv.kd (v := 2) (by simp [gkn]))) dX1_note_42 (x_may18 X.l X.G _ (X.G.ga "K2") x1) (nm_ (by decide : nmb _ 1 = true)) (dl rfl) (dk rfl) rfl rfl (dk rfl) (by omega) (kV ?_) xV
            rw [hn]
            refine g_callS ok q1019 q1020 q61 q1021 dX1_note_45 (x_chkA0 X.l X.G _) (nm_ (by decide : nmb _ 1 = true)) (dl rfl) (dk rfl) rfl rfl (dk rfl) (by omega) kT (xT fun qx fx kx => ?_)
            have pf : SPost X.G x (ex2 IAE UOE) (mNote s 2 (nI i) (nI j) x1 t) (.inr (IAE, qx)) (up h qx (ob 18 [])) := by
              unfold mNote; rw [if_neg (fun w_ => by rw [hn] at w_; exact absurd w_.2.2.1 (by decide))]
              exact SPost.no S.at.tries fx (by decide) rfl
            exact g_out ok fn (hp_all (by decide)) pf (by omega)
      · refine g_iload_n ok dX1_note_0 rfl ?_
        refine g_iconst ok (v := 0) dX1_note_1 rfl ?_
        refine g_iconst ok (v := 2) dX1_note_2 rfl ?_
        refine g_callS ok q1001 q1002 q61 q1003 dX1_note_3 (x_isIn X.l X.G _ k 0 2) (nm_ (by decide : nmb _ 3 = true)) (dl rfl) (dk rfl) rfl rfl (dk rfl) (by omega) (kV ?_) xV
        refine g_if_eq ok (tgt := 32) dX1_note_6 (by decide) (fun c_ => absurd c_ (by rw [hk]; decide)) (fun _ => ?_)
        refine g_iload_n ok dX1_note_9 rfl ?_
        refine g_iload_n ok dX1_note_10 rfl ?_
        refine g_callS ok q995 q996 q61 q997 dX1_note_11 (x_isSpan X.l X.G _ (nI i) (nI j)) (nm_ (by decide : nmb _ 2 = true)) (dl rfl) (dk rfl) rfl rfl (dk rfl) (by omega) (kV ?_) xV
        refine g_if_eq ok (tgt := 32) dX1_note_14 (by decide) (fun c_ => absurd c_ (by rw [hs]; decide)) (fun _ => ?_)
        refine g_iload ok dX1_note_17 rfl ?_
        refine g_iconst ok (v := 1) dX1_note_19 rfl ?_
        refine g_bipush ok (v := 20) dX1_note_20 rfl ?_
        refine g_callS ok q1001 q1002 q61 q1003 dX1_note_22 (x_isIn X.l X.G _ t 1 20) (nm_ (by decide : nmb _ 3 = true)) (dl rfl) (dk rfl) rfl rfl (dk rfl) (by omega) (kV ?_) xV
        refine g_if_eq ok (tgt := 32) dX1_note_25 (by decide) (fun _ => ?_) (fun c_ => absurd (by rw [ht]; rfl) c_)
        refine g_iconst ok (v := 0) dX1_note_32 rfl ?_
        refine g_callS ok q1019 q1020 q61 q1021 dX1_note_33 (x_chkA0 X.l X.G _) (nm_ (by decide : nmb _ 1 = true)) (dl rfl) (dk rfl) rfl rfl (dk rfl) (by omega) kT (xT fun qx fx kx => ?_)
        have pf : SPost X.G x (ex2 IAE UOE) (mNote s k (nI i) (nI j) x1 t) (.inr (IAE, qx)) (up h qx (ob 18 [])) := by
          unfold mNote; rw [if_neg (fun w_ => by rw [ht] at w_; exact absurd w_.2.2.2 (by decide))]
          exact SPost.no S.at.tries fx (by decide) rfl
        exact g_out ok fn (hp_all (by decide)) pf (by omega)
    · refine g_iload_n ok dX1_note_0 rfl ?_
      refine g_iconst ok (v := 0) dX1_note_1 rfl ?_
      refine g_iconst ok (v := 2) dX1_note_2 rfl ?_
      refine g_callS ok q1001 q1002 q61 q1003 dX1_note_3 (x_isIn X.l X.G _ k 0 2) (nm_ (by decide : nmb _ 3 = true)) (dl rfl) (dk rfl) rfl rfl (dk rfl) (by omega) (kV ?_) xV
      refine g_if_eq ok (tgt := 32) dX1_note_6 (by decide) (fun c_ => absurd c_ (by rw [hk]; decide)) (fun _ => ?_)
      refine g_iload_n ok dX1_note_9 rfl ?_
      refine g_iload_n ok dX1_note_10 rfl ?_
      refine g_callS ok q995 q996 q61 q997 dX1_note_11 (x_isSpan X.l X.G _ a b) (nm_ (by decide : nmb _ 2 = true)) (dl rfl) (dk rfl) rfl rfl (dk rfl) (by omega) (kV ?_) xV
      refine g_if_eq ok (tgt := 32) dX1_note_14 (by decide) (fun _ => ?_) (fun c_ => absurd (by rw [hs]; rfl) c_)
      refine g_iconst ok (v := 0) dX1_note_32 rfl ?_
      refine g_callS ok q1019 q1020 q61 q1021 dX1_note_33 (x_chkA0 X.l X.G _) (nm_ (by decide : nmb _ 1 = true)) (dl rfl) (dk rfl) rfl rfl (dk rfl) (by omega) kT (xT fun qx fx kx => ?_)
      have pf : SPost X.G x (ex2 IAE UOE) (mNote s k a b x1 t) (.inr (IAE, qx)) (up h qx (ob 18 [])) := by
        unfold mNote; rw [if_neg (fun w_ => by rw [hs] at w_; exact absurd w_.2.1 (by decide))]
        exact SPost.no S.at.tries fx (by decide) rfl
      exact g_out ok fn (hp_all (by decide)) pf (by omega)
  · refine g_iload_n ok dX1_note_0 rfl ?_
    refine g_iconst ok (v := 0) dX1_note_1 rfl ?_
    refine g_iconst ok (v := 2) dX1_note_2 rfl ?_
    refine g_callS ok q1001 q1002 q61 q1003 dX1_note_3 (x_isIn X.l X.G _ k 0 2) (nm_ (by decide : nmb _ 3 = true)) (dl rfl) (dk rfl) rfl rfl (dk rfl) (by omega) (kV ?_) xV
    refine g_if_eq ok (tgt := 32) dX1_note_6 (by decide) (fun _ => ?_) (fun c_ => absurd (by rw [hk]; rfl) c_)
    refine g_iconst ok (v := 0) dX1_note_32 rfl ?_
    refine g_callS ok q1019 q1020 q61 q1021 dX1_note_33 (x_chkA0 X.l X.G _) (nm_ (by decide : nmb _ 1 = true)) (dl rfl) (dk rfl) rfl rfl (dk rfl) (by omega) kT (xT fun qx fx kx => ?_)
    have pf : SPost X.G x (ex2 IAE UOE) (mNote s k a b x1 t) (.inr (IAE, qx)) (up h qx (ob 18 [])) := by
      unfold mNote; rw [if_neg (fun w_ => by rw [hk] at w_; exact absurd w_.1 (by decide))]
      exact SPost.no S.at.tries fx (by decide) rfl
    exact g_out ok fn (hp_all (by decide)) pf (by omega)
