/-! THE MODEL: its commands -/
set_option maxRecDepth 100000
abbrev cX8_isPainted : ByteArray := prog_19_method_77_code
def yX8_isPainted : MethodName := ⟨RX8, "isPainted", "()Z"⟩
def dkwX8_isPainted_3 : List UInt8 := [18, 252, 182, 0, 246, 153, 0, 7, 5, 167, 0, 4, 6, 79, 42, 18, 254, 181, 0, 34, 4, 172]
abbrev dktX8_isPainted_3 : List UInt8 := dkwX8_isPainted_3 ++ []
def dkwX8_isPainted_2 : List UInt8 := [167, 0, 36, 42, 180, 0, 34, 18, 250, 182, 0, 246, 153, 0, 7, 4, 167, 0, 20, 42, 180, 0, 34]
abbrev dktX8_isPainted_2 : List UInt8 := dkwX8_isPainted_2 ++ dktX8_isPainted_3
def dkwX8_isPainted_1 : List UInt8 := [154, 0, 5, 3, 172, 42, 180, 0, 38, 5, 42, 180, 0, 34, 18, 244, 182, 0, 246, 153, 0, 7, 3]
abbrev dktX8_isPainted_1 : List UInt8 := dkwX8_isPainted_1 ++ dktX8_isPainted_2
def dkwX8_isPainted_0 : List UInt8 := [42, 182, 0, 234, 153, 0, 21, 42, 16, 32, 182, 0, 227, 153, 0, 12, 42, 18, 238, 182, 0, 240]
abbrev dktX8_isPainted_0 : List UInt8 := dkwX8_isPainted_0 ++ dktX8_isPainted_1
theorem dksX8_isPainted_0 : cX8_isPainted.data.toList.drop 0 = dktX8_isPainted_0 := by decide +kernel
theorem dksX8_isPainted_1 : cX8_isPainted.data.toList.drop 22 = dktX8_isPainted_1 := dk_seg dksX8_isPainted_0 22 rfl rfl
theorem dksX8_isPainted_2 : cX8_isPainted.data.toList.drop 45 = dktX8_isPainted_2 := dk_seg dksX8_isPainted_1 23 rfl rfl
theorem dksX8_isPainted_3 : cX8_isPainted.data.toList.drop 68 = dktX8_isPainted_3 := dk_seg dksX8_isPainted_2 23 rfl rfl
theorem dX8_isPainted_0 : decode cX8_isPainted 0 = .ok (.aload_n 0, 1) := dk_42 (dk_at dksX8_isPainted_0 0 rfl rfl)
theorem dX8_isPainted_1 : decode cX8_isPainted 1 = .ok (.invokevirtual 234, 3) := dk_182 0 234 (dk_at dksX8_isPainted_0 1 rfl rfl)
theorem dX8_isPainted_4 : decode cX8_isPainted 4 = .ok (.ifCond .eq 21, 3) := dk_153 0 21 (dk_at dksX8_isPainted_0 4 rfl rfl)
theorem dX8_isPainted_7 : decode cX8_isPainted 7 = .ok (.aload_n 0, 1) := dk_42 (dk_at dksX8_isPainted_0 7 rfl rfl)
theorem dX8_isPainted_8 : decode cX8_isPainted 8 = .ok (.bipush 32, 2) := dk_16 32 (dk_at dksX8_isPainted_0 8 rfl rfl)
theorem dX8_isPainted_10 : decode cX8_isPainted 10 = .ok (.invokevirtual 227, 3) := dk_182 0 227 (dk_at dksX8_isPainted_0 10 rfl rfl)
theorem dX8_isPainted_13 : decode cX8_isPainted 13 = .ok (.ifCond .eq 12, 3) := dk_153 0 12 (dk_at dksX8_isPainted_0 13 rfl rfl)
theorem dX8_isPainted_16 : decode cX8_isPainted 16 = .ok (.aload_n 0, 1) := dk_42 (dk_at dksX8_isPainted_0 16 rfl rfl)
theorem dX8_isPainted_17 : decode cX8_isPainted 17 = .ok (.ldc 238, 2) := dk_18 238 (dk_at dksX8_isPainted_0 17 rfl rfl)
theorem dX8_isPainted_19 : decode cX8_isPainted 19 = .ok (.invokevirtual 240, 3) := dk_182 0 240 (dk_at dksX8_isPainted_0 19 rfl rfl)
theorem dX8_isPainted_22 : decode cX8_isPainted 22 = .ok (.ifCond .ne 5, 3) := dk_154 0 5 (dk_at dksX8_isPainted_1 0 rfl rfl)
theorem dX8_isPainted_25 : decode cX8_isPainted 25 = .ok (.iconst 0, 1) := dk_3 (dk_at dksX8_isPainted_1 3 rfl rfl)
theorem dX8_isPainted_26 : decode cX8_isPainted 26 = .ok (.ireturn, 1) := dk_172 (dk_at dksX8_isPainted_1 4 rfl rfl)
theorem dX8_isPainted_27 : decode cX8_isPainted 27 = .ok (.aload_n 0, 1) := dk_42 (dk_at dksX8_isPainted_1 5 rfl rfl)
theorem dX8_isPainted_28 : decode cX8_isPainted 28 = .ok (.getfield 38, 3) := dk_180 0 38 (dk_at dksX8_isPainted_1 6 rfl rfl)
theorem dX8_isPainted_31 : decode cX8_isPainted 31 = .ok (.iconst 2, 1) := dk_5 (dk_at dksX8_isPainted_1 9 rfl rfl)
theorem dX8_isPainted_32 : decode cX8_isPainted 32 = .ok (.aload_n 0, 1) := dk_42 (dk_at dksX8_isPainted_1 10 rfl rfl)
theorem dX8_isPainted_33 : decode cX8_isPainted 33 = .ok (.getfield 34, 3) := dk_180 0 34 (dk_at dksX8_isPainted_1 11 rfl rfl)
theorem dX8_isPainted_36 : decode cX8_isPainted 36 = .ok (.ldc 244, 2) := dk_18 244 (dk_at dksX8_isPainted_1 14 rfl rfl)
theorem dX8_isPainted_38 : decode cX8_isPainted 38 = .ok (.invokevirtual 246, 3) := dk_182 0 246 (dk_at dksX8_isPainted_1 16 rfl rfl)
theorem dX8_isPainted_41 : decode cX8_isPainted 41 = .ok (.ifCond .eq 7, 3) := dk_153 0 7 (dk_at dksX8_isPainted_1 19 rfl rfl)
theorem dX8_isPainted_44 : decode cX8_isPainted 44 = .ok (.iconst 0, 1) := dk_3 (dk_at dksX8_isPainted_1 22 rfl rfl)
theorem dX8_isPainted_45 : decode cX8_isPainted 45 = .ok (.goto 36, 3) := dk_167 0 36 (dk_at dksX8_isPainted_2 0 rfl rfl)
theorem dX8_isPainted_48 : decode cX8_isPainted 48 = .ok (.aload_n 0, 1) := dk_42 (dk_at dksX8_isPainted_2 3 rfl rfl)
theorem dX8_isPainted_49 : decode cX8_isPainted 49 = .ok (.getfield 34, 3) := dk_180 0 34 (dk_at dksX8_isPainted_2 4 rfl rfl)
theorem dX8_isPainted_52 : decode cX8_isPainted 52 = .ok (.ldc 250, 2) := dk_18 250 (dk_at dksX8_isPainted_2 7 rfl rfl)
theorem dX8_isPainted_54 : decode cX8_isPainted 54 = .ok (.invokevirtual 246, 3) := dk_182 0 246 (dk_at dksX8_isPainted_2 9 rfl rfl)
theorem dX8_isPainted_57 : decode cX8_isPainted 57 = .ok (.ifCond .eq 7, 3) := dk_153 0 7 (dk_at dksX8_isPainted_2 12 rfl rfl)
theorem dX8_isPainted_60 : decode cX8_isPainted 60 = .ok (.iconst 1, 1) := dk_4 (dk_at dksX8_isPainted_2 15 rfl rfl)
theorem dX8_isPainted_61 : decode cX8_isPainted 61 = .ok (.goto 20, 3) := dk_167 0 20 (dk_at dksX8_isPainted_2 16 rfl rfl)
theorem dX8_isPainted_64 : decode cX8_isPainted 64 = .ok (.aload_n 0, 1) := dk_42 (dk_at dksX8_isPainted_2 19 rfl rfl)
theorem dX8_isPainted_65 : decode cX8_isPainted 65 = .ok (.getfield 34, 3) := dk_180 0 34 (dk_at dksX8_isPainted_2 20 rfl rfl)
theorem dX8_isPainted_68 : decode cX8_isPainted 68 = .ok (.ldc 252, 2) := dk_18 252 (dk_at dksX8_isPainted_3 0 rfl rfl)
theorem dX8_isPainted_70 : decode cX8_isPainted 70 = .ok (.invokevirtual 246, 3) := dk_182 0 246 (dk_at dksX8_isPainted_3 2 rfl rfl)
theorem dX8_isPainted_73 : decode cX8_isPainted 73 = .ok (.ifCond .eq 7, 3) := dk_153 0 7 (dk_at dksX8_isPainted_3 5 rfl rfl)
theorem dX8_isPainted_76 : decode cX8_isPainted 76 = .ok (.iconst 2, 1) := dk_5 (dk_at dksX8_isPainted_3 8 rfl rfl)
theorem dX8_isPainted_77 : decode cX8_isPainted 77 = .ok (.goto 4, 3) := dk_167 0 4 (dk_at dksX8_isPainted_3 9 rfl rfl)
theorem dX8_isPainted_80 : decode cX8_isPainted 80 = .ok (.iconst 3, 1) := dk_6 (dk_at dksX8_isPainted_3 12 rfl rfl)
theorem dX8_isPainted_81 : decode cX8_isPainted 81 = .ok (.iastore, 1) := dk_79 (dk_at dksX8_isPainted_3 13 rfl rfl)
theorem dX8_isPainted_82 : decode cX8_isPainted 82 = .ok (.aload_n 0, 1) := dk_42 (dk_at dksX8_isPainted_3 14 rfl rfl)
theorem dX8_isPainted_83 : decode cX8_isPainted 83 = .ok (.ldc 254, 2) := dk_18 254 (dk_at dksX8_isPainted_3 15 rfl rfl)
theorem dX8_isPainted_85 : decode cX8_isPainted 85 = .ok (.putfield 34, 3) := dk_181 0 34 (dk_at dksX8_isPainted_3 17 rfl rfl)
theorem dX8_isPainted_88 : decode cX8_isPainted 88 = .ok (.iconst 1, 1) := dk_4 (dk_at dksX8_isPainted_3 20 rfl rfl)
theorem dX8_isPainted_89 : decode cX8_isPainted 89 = .ok (.ireturn, 1) := dk_172 (dk_at dksX8_isPainted_3 21 rfl rfl)
theorem q2677 : (Jvm.Cond.methodLink "SpanRulerModel" (234 : Nat) ({ cls := "SpanRulerModel", name := "isSpanTold", desc := "()Z" } : Jvm.MethodName)) ∈ lw_all := lw_g (lw_at lw_m11 217 rfl) rfl
theorem q2680 : (Jvm.Cond.code ({ cls := "SpanRulerModel", name := "isSpanTold", desc := "()Z" } : Jvm.MethodName) prog_19_method_76_code (1 : Nat) (Option.some Jvm.ClassFile.FieldType.boolean)) ∈ lw_all := lw_g (lw_at lw_m11 220 rfl) rfl
theorem q2679 : (Jvm.Cond.instanceMethod ({ cls := "SpanRulerModel", name := "isSpanTold", desc := "()Z" } : Jvm.MethodName)) ∈ lw_all := lw_g (lw_at lw_m11 219 rfl) rfl
theorem q2590 : (Jvm.Cond.methodLink "SpanRulerModel" (240 : Nat) ({ cls := "SpanRulerModel", name := "isOneOf", desc := "(Ljava/lang/String;)Z" } : Jvm.MethodName)) ∈ lw_all := lw_g (lw_at lw_m11 130 rfl) rfl
theorem q2593 : (Jvm.Cond.code ({ cls := "SpanRulerModel", name := "isOneOf", desc := "(Ljava/lang/String;)Z" } : Jvm.MethodName) prog_19_method_74_code (6 : Nat) (Option.some Jvm.ClassFile.FieldType.boolean)) ∈ lw_all := lw_g (lw_at lw_m11 133 rfl) rfl
theorem q2592 : (Jvm.Cond.instanceMethod ({ cls := "SpanRulerModel", name := "isOneOf", desc := "(Ljava/lang/String;)Z" } : Jvm.MethodName)) ∈ lw_all := lw_g (lw_at lw_m11 132 rfl) rfl
theorem q2672 : (Jvm.Cond.methodLink "SpanRulerModel" (246 : Nat) ({ cls := "java/lang/String", name := "equals", desc := "(Ljava/lang/Object;)Z" } : Jvm.MethodName)) ∈ lw_all := lw_g (lw_at lw_m11 212 rfl) rfl
theorem q1823 : (Jvm.Cond.code ({ cls := "java/lang/String", name := "equals", desc := "(Ljava/lang/Object;)Z" } : Jvm.MethodName) prog_39_method_66_code (3 : Nat) (Option.some Jvm.ClassFile.FieldType.boolean)) ∈ lw_all := lw_g (lw_at lw_m8 83 rfl) rfl
theorem q1822 : (Jvm.Cond.instanceMethod ({ cls := "java/lang/String", name := "equals", desc := "(Ljava/lang/Object;)Z" } : Jvm.MethodName)) ∈ lw_all := lw_g (lw_at lw_m8 82 rfl) rfl
theorem q2744 : (Jvm.Cond.selects "java/lang/String" ({ cls := "java/lang/String", name := "equals", desc := "(Ljava/lang/Object;)Z" } : Jvm.MethodName) ({ cls := "java/lang/String", name := "equals", desc := "(Ljava/lang/Object;)Z" } : Jvm.MethodName)) ∈ lw_all := lw_g (lw_at lw_m12 44 rfl) rfl
/-! the model's commands -/
def tW : String := "add set turn paint tick keep "
def tC : String := "none red green blue "
def W6 : List (Nat × Nat) := [(0, 3), (4, 7), (8, 12), (13, 18), (19, 23), (24, 28)]
def W4 : List (Nat × Nat) := [(0, 4), (5, 8), (9, 14), (15, 19)]
theorem W6_ok : Wsp (tch tW) 29 0 W6 := by
  refine ⟨rfl, by decide, by decide, by decide, by decide +kernel, rfl, by decide, by decide, by decide, by decide +kernel, rfl, by decide, by decide, by decide, by decide +kernel, rfl, by decide, by decide, by decide, by decide +kernel, rfl, by decide, by decide, by decide, by decide +kernel, rfl, by decide, by decide, by decide, by decide +kernel, rfl⟩
theorem W4_ok : Wsp (tch tC) 20 0 W4 := by
  refine ⟨rfl, by decide, by decide, by decide, by decide +kernel, rfl, by decide, by decide, by decide, by decide +kernel, rfl, by decide, by decide, by decide, by decide +kernel, rfl, by decide, by decide, by decide, by decide +kernel, rfl⟩
theorem tch_asc {t : String} {n : Nat} (h : ∀ j, j < n → (t.toList.getD j 'a').toNat < 128) : Asc n (tch t) := fun j hj => ⟨_, h j hj, rfl⟩
theorem tW_asc : Asc 29 (tch tW) := tch_asc (by decide +kernel)
theorem tC_asc : Asc 20 (tch tC) := tch_asc (by decide +kernel)
theorem gtx_len : ∀ t ∈ gtx, t.length < 1000 := by decide +kernel
theorem Kst.str {G : GE} (k : Kst G) {t : String} (ht : t ∈ gtx) (h : AH) : StrA G h (G.ga ("L:" ++ t)) (G.ga ("V:" ++ t)) t.length (tch t) := by
  obtain ⟨h1, h2⟩ := k.1 t ht
  exact ⟨⟨_, _, Rd.k h1⟩, Rd.k h2, gtx_len t ht⟩
theorem ooL_mem {T : Nat → Int32} {L p : Nat} {g : Nat → Int32} : ∀ (W : List (Nat × Nat)) (m : Nat) (x : Nat × Nat), (ooL T L p g W m).1 = some x → x ∈ W := by
  intro W
  induction W with
  | nil => intro m x h; cases h
  | cons y W ih =>
    intro m x h
    rw [ooL] at h
    split at h
    · cases h; exact List.mem_cons_self
    · exact List.mem_cons_of_mem _ (ih _ x h)
theorem ooL_le {T : Nat → Int32} {L p : Nat} {g : Nat → Int32} : ∀ (W : List (Nat × Nat)) (m : Nat), p + m ≤ L → p + (ooL T L p g W m).2 ≤ L := by
  intro W
  induction W with
  | nil => intro m h; exact h
  | cons y W ih =>
    intro m h
    rw [ooL]
    have := cpx_le (T := T) (L := L) (p := p) (g := g) (a := y.1) (y.2 - y.1) 0 (by omega)
    split
    · rename_i e
      show p + (y.2 - y.1) ≤ L
      omega
    · exact ih _ (by omega)
theorem ooS_po {s : MS} {g : Nat → Int32} {W : List (Nat × Nat)} (h : mPo s) : mPo (adv s (ooS s g W).2) := (adv_po h (ooL_le W 0 (by have := h.2.2.2; omega))).1
def colX (x : Nat × Nat) : Int32 := if x = (0, 4) then 0 else if x = (5, 8) then 1 else if x = (9, 14) then 2 else 3
def paA (s : MS) : Bool × MS := if (mSpTold s).1 = true then mTakes (mSpTold s).2 32 else (false, (mSpTold s).2)
def mPaintd (s : MS) : Bool × MS := if (paA s).1 = true then (match (ooS (paA s).2 (tch tC) W4).1 with
  | none => (false, adv (paA s).2 (ooS (paA s).2 (tch tC) W4).2)
  | some x => (true, mA (adv (paA s).2 (ooS (paA s).2 (tch tC) W4).2) 13 2 (colX x))) else (false, (paA s).2)
theorem paA_po {s : MS} (h : mPo s) : mPo (paA s).2 := by
  unfold paA; split
  · exact mTakes_po (mSpTold_po h)
  · exact mSpTold_po h
theorem mPaintd_po {s : MS} (h : mPo s) : mPo (mPaintd s).2 := by
  unfold mPaintd; split
  · have := ooS_po (g := tch tC) (W := W4) (paA_po h)
    split
    · exact this
    · exact this
  · exact paA_po h
/-- what comes behind a word -/
def cmdX (x : Nat × Nat) (s : MS) : Bool × MS := if x = (0, 3) ∨ x = (4, 7) then (if (mSpTold s).1 = true then mIsNum (mSpTold s).2 2 1 else (false, (mSpTold s).2)) else if x = (8, 12) then mSpTold s else if x = (13, 18) then mPaintd s else if x = (19, 23) then mIsNum s 0 0 else (true, s)
def mCmd (s : MS) : Bool × MS := match (ooS s (tch tW) W6).1 with
  | none => (false, adv s (ooS s (tch tW) W6).2)
  | some x => cmdX x (adv s (ooS s (tch tW) W6).2)
theorem cmdX_po {x : Nat × Nat} {s : MS} (h : mPo s) : mPo (cmdX x s).2 := by
  unfold cmdX
  split
  · split
    · exact mIsNum_po (mSpTold_po h)
    · exact mSpTold_po h
  · split
    · exact mSpTold_po h
    · split
      · exact mPaintd_po h
      · split
        · exact mIsNum_po h
        · exact h
theorem mCmd_po {s : MS} (h : mPo s) : mPo (mCmd s).2 := by
  unfold mCmd
  have := ooS_po (g := tch tW) (W := W6) h
  split
  · exact this
  · exact cmdX_po this
def wtx (x : Nat × Nat) : String := if x = (0, 3) then "add" else if x = (4, 7) then "set" else if x = (8, 12) then "turn" else if x = (13, 18) then "paint" else if x = (19, 23) then "tick" else "keep"
/-- a word that was told: its hash is known -/
def WordR (G : GE) (h : AH) (w : Nat) (t : String) : Prop := ∃ d n f hz, Rd G h w (ob 15 [.ref d, .int 0, .int (thash t), .int hz]) ∧ Rd G h d (aB G n f) ∧ n < 1000 ∧ eqS n f t.length (tch t) = true
theorem mA_W {s : MS} {k j w : Nat} {v : Int32} : mA (mW s w) k j v = mW (mA s k j v) w := rfl
theorem mI_W {s : MS} {k w : Nat} {v : Int32} : mI (mW s w) k v = mW (mI s k v) w := rfl
theorem mW_W {s : MS} {w v : Nat} : mW (mW s w) v = mW s v := rfl
theorem Tab.kst {G : GE} {U : State} (t : Tab G U) : Kst G := t.2.2.2.2.2.2.1
theorem strk {G : GE} {U : State} (T : Tab G U) (t : String) (n : Nat) (ht : t ∈ gtx) (hl : t.length = n) (h : AH) : StrA G h (G.ga ("L:" ++ t)) (G.ga ("V:" ++ t)) n (tch t) := by
  subst hl
  exact T.kst.str ht h
theorem mTakes_W {s : MS} {w : Nat} {c : Int32} : mTakes (mW s w) c = ((mTakes s c).1, mW (mTakes s c).2 w) := by
  unfold mTakes
  show (if mP s = mL s then (false, mW s w) else if s.A 9 (mP s) = c then (true, mW (adv s 1) w) else (false, mW s w)) = _
  split
  · rfl
  · split <;> rfl
theorem dgl_W {k w : Nat} : ∀ (m n : Nat) (t : MS), dgl k m n (mW t w) = ((dgl k m n t).1, mW (dgl k m n t).2 w) := by
  intro m
  induction m with
  | zero => intro n t; rfl
  | succ m ih =>
    intro n t
    show cond (dgT t) (dgl k m (n + 1) (mW (dgS k t) w)) (n, mW t w) = _
    rw [ih, dgl]
    cases dgT t <;> rfl
theorem sgS_W {s : MS} {w : Nat} {z : Int32} : sgS (mW s w) z = ((sgS s z).1, mW (sgS s z).2 w) := by
  unfold sgS
  split
  · rfl
  · exact mTakes_W
theorem numS_W {s : MS} {w k : Nat} {z : Int32} : numS k z (mW s w) = ((numS k z s).1, mW (numS k z s).2 w) := by
  unfold numS
  rw [sgS_W]
  exact dgl_W 3 0 (mA (sgS s z).2 13 k 0)
theorem mIsNum_W {s : MS} {w k : Nat} {z : Int32} : mIsNum (mW s w) k z = ((mIsNum s k z).1, mW (mIsNum s k z).2 w) := by
  unfold mIsNum
  rw [mTakes_W]
  simp only [numS_W, sgS_W]
  split
  · split <;> rfl
  · rfl
theorem mSpTold_W {s : MS} {w : Nat} : mSpTold (mW s w) = ((mSpTold s).1, mW (mSpTold s).2 w) := by
  unfold mSpTold
  rw [mIsNum_W]
  simp only [mIsNum_W]
  split <;> rfl
theorem paA_W {s : MS} {w : Nat} : paA (mW s w) = ((paA s).1, mW (paA s).2 w) := by
  unfold paA
  rw [mSpTold_W]
  simp only [mTakes_W]
  split <;> rfl
theorem mPaintd_W {s : MS} {w : Nat} : mPaintd (mW s w) = ((mPaintd s).1, mW (mPaintd s).2 w) := by
  unfold mPaintd
  rw [paA_W]
  have e : ooS (mW (paA s).2 w) (tch tC) W4 = ooS (paA s).2 (tch tC) W4 := rfl
  simp only [e]
  split
  · split <;> rfl
  · rfl
theorem cmdX_W {x : Nat × Nat} {s : MS} {w : Nat} : cmdX x (mW s w) = ((cmdX x s).1, mW (cmdX x s).2 w) := by
  unfold cmdX
  rw [mSpTold_W, mPaintd_W, mIsNum_W]
  simp only [mIsNum_W]
  split
  · split <;> rfl
  · split
    · rfl
    · split
      · rfl
      · split <;> rfl
theorem NewW.str {G : GE} {ad : Nat → Nat} {h0 h : AH} {s : MS} {w : Nat} {g : Nat → Int32} {a b n : Nat} (x : NewW G ad h0 h w g a b) (hn : b - a = n) (h1 : n < 1000) : ∃ d, StrA G (mput G h ad s) w d n (va_cpy g (fun _ => 0) a 0 n) ∧ mput G h ad s w = some (ob 15 [.ref d, .int 0, .int 0, .int 0]) ∧ mput G h ad s d = some (aB G n (va_cpy g (fun _ => 0) a 0 n)) ∧ w ≠ d := by
  subst hn
  obtain ⟨d, x1, x2, x3, x4, x5⟩ := x
  have e1 : mput G h ad s w = some (ob 15 [.ref d, .int 0, .int 0, .int 0]) := (mput_off (fun k hk => (x5 k hk).1)).trans x1
  have e2 : mput G h ad s d = some (aB G (b - a) (va_cpy g (fun _ => 0) a 0 (b - a))) := (mput_off (fun k hk => (x5 k hk).2)).trans x2
  exact ⟨d, ⟨⟨0, 0, Or.inl e1⟩, Or.inl e2, h1⟩, e1, e2, x3⟩
section
variable {X : GX} {yM : MethodName} {cc : ByteArray} {nL : Nat} {rT : Option FieldType} {hH : List (Nat × Nat × Nat × Nat)} {lV kB : Nat} {hA : AH} {kc pc : Nat} {ls : List (Option Value)} {st : List Value}
theorem g_ldcSw (ok : Ok X yM cc nL rT hH lV kB) {tx : String} {index : Nat} (hz : (yM.cls, index, tx) ∈ glit) (hd : decode cc pc = .ok (.ldc_w index, 3)) (kk : GW X hA kc (pc + 3) ls (.ref (X.G.ga ("L:" ++ tx)) :: st)) : GW X hA kc pc ls st :=
  fun H locs la hP hG hS hL T hT S => by
    have hZ := ok.tab.2.2.2.2.2.1 _ hz
    obtain ⟨t, a1, b1⟩ := kk H locs la hP hG hS hL T hT S
    exact ⟨t, S.ldcStringW ok.x ok.own (text := tx) (a := X.G.ga ("L:" ++ tx)) hZ.1 hZ.2 (g := F0 X.m pc la st) rfl (by rw [ok.b]; exact hd) t a1, b1⟩
end
theorem m_painted (l : Launch) (G : GE) {h0 : AH} {ad : Nat → Nat} (hA : MAd ad) (s : MS) (y0 : mPo s) : GM l G yX8_isPainted (ws_ yX8_isPainted cX8_isPainted 1 (some .boolean)) 7 [.ref (ad 20)] (mput G h0 ad s) (11) (PR fun v h' => ∃ h0' w, h' = mput G h0' ad (mW (mPaintd s).2 w) ∧ Sub h0 h0' ∧ v = .int (bI (mPaintd s).1) ∧ ((mPaintd s).1 = true → w = G.ga ("L:" ++ "paint"))) := by
  refine GM.of (by decide) (dk rfl) ?_
  intro X eL eG eh ok fn
  subst eL; subst eG
  show GW X _ 0 0 [some (.ref (ad 20))] []
  refine g_aload_n ok dX8_isPainted_0 rfl ?_
  refine g_callV ok q2677 q2679 qs54 q75 q2680 (m_recv ok hA) dX8_isPainted_1 (m_spTold X.l X.G hA (h0 := h0) s y0) (nm_ (by decide : nmb _ 0 = true)) (dl rfl) (dk rfl) rfl rfl (dk rfl) (dk rfl) (kV ?_) xV
  refine g_if_eq ok (tgt := 25) dX8_isPainted_4 (by decide) (fun c4 => ?_) (fun c4 => ?_)
  · have c4' := bI_e c4
    refine g_iconst ok (v := 0) dX8_isPainted_25 rfl ?_
    exact g_zret ok fn rfl rfl dX8_isPainted_26 ⟨_, rfl, h0, MS.w (mSpTold s ).2, by rw [show mPaintd s = (false, (mSpTold s ).2) from by unfold mPaintd paA; simp [c4']]; rfl, Sub.rfl, by rw [show mPaintd s = (false, (mSpTold s ).2) from by unfold mPaintd paA; simp [c4']]; rfl, by rw [show mPaintd s = (false, (mSpTold s ).2) from by unfold mPaintd paA; simp [c4']]; intro z; cases z⟩ (by omega)
  · have c4' := bI_n c4
    refine g_aload_n ok dX8_isPainted_7 rfl ?_
    refine g_bipush ok (v := 32) dX8_isPainted_8 rfl ?_
    refine g_callV ok q2685 q2687 qs56 q75 q2688 (m_recv ok hA) dX8_isPainted_10 (m_takes X.l X.G hA (h0 := h0) (mSpTold s ).2 32 (mSpTold_po y0)) (nm_ (by decide : nmb _ 1 = true)) (dl rfl) (dk rfl) rfl rfl (dk rfl) (dk rfl) (kV ?_) xV
    refine g_if_eq ok (tgt := 25) dX8_isPainted_13 (by decide) (fun c13 => ?_) (fun c13 => ?_)
    · have c13' := bI_e c13
      refine g_iconst ok (v := 0) dX8_isPainted_25 rfl ?_
      exact g_zret ok fn rfl rfl dX8_isPainted_26 ⟨_, rfl, h0, MS.w (mTakes (mSpTold s ).2 32).2, by rw [show mPaintd s = (false, (mTakes (mSpTold s ).2 32).2) from by unfold mPaintd paA; simp [c4', c13']]; rfl, Sub.rfl, by rw [show mPaintd s = (false, (mTakes (mSpTold s ).2 32).2) from by unfold mPaintd paA; simp [c4', c13']]; rfl, by rw [show mPaintd s = (false, (mTakes (mSpTold s ).2 32).2) from by unfold mPaintd paA; simp [c4', c13']]; intro z; cases z⟩ (by omega)
    · have c13' := bI_n c13
      refine g_aload_n ok dX8_isPainted_16 rfl ?_
      refine g_ldcS ok (tx := "none red green blue ") (by decide) dX8_isPainted_17 ?_
      have hA1 : (paA s).1 = true := by unfold paA; rw [if_pos c4']; exact c13'
      have eA : (mTakes (mSpTold s).2 32).2 = (paA s).2 := by unfold paA; rw [if_pos c4']
      rw [eA]
      have pA := paA_po y0
      clear c4 c4' c13 c13' eA
      obtain ⟨S, hS⟩ : ∃ S : MS, (paA s).2 = S := ⟨_, rfl⟩
      rw [hS] at pA ⊢
      refine g_callV ok q2590 q2592 qs53 q75 q2593 (m_recv ok hA) dX8_isPainted_19 (m_oneOf X.l X.G hA (h0 := h0) S (X.G.ga ("L:" ++ tC)) (X.G.ga ("V:" ++ tC)) 20 (tch tC) W4 pA (strk ok.tab tC 20 (by decide) (by decide +kernel) _) tC_asc W4_ok) (nm_ (by decide : nmb _ 1 = true)) (dl rfl) (dk rfl) rfl rfl (dk rfl) (by omega) (kR fun v hh ⟨h1, w, e1, e2, e3⟩ => ?_) xR
      subst e1
      cases ho : (ooS S (tch tC) W4).1 with
      | none =>
        rw [ho] at e3
        have e3 : v = .int 0 := e3
        subst e3
        have hp : mPaintd s = (false, adv S (ooS S (tch tC) W4).2) := by unfold mPaintd; rw [if_pos hA1, hS, ho]
        refine g_if_ne ok (tgt := 27) dX8_isPainted_22 (by decide) (fun c_ => absurd (congrArg nI (by omega : 0 = 0)) c_) (fun _ => ?_)
        refine g_iconst ok (v := 0) dX8_isPainted_25 rfl ?_
        exact g_zret ok fn rfl rfl dX8_isPainted_26 ⟨_, rfl, h1, w, by rw [hp], e2, by rw [hp]; rfl, by rw [hp]; intro z; cases z⟩ (by omega)
      | some x =>
        rw [ho] at e3
        obtain ⟨e3, nw⟩ := e3
        subst e3
        have hp : mPaintd s = (true, mA (adv S (ooS S (tch tC) W4).2) 13 2 (colX x)) := by unfold mPaintd; rw [if_pos hA1, hS, ho]
        have hx := ooL_mem W4 0 x ho
        simp only [W4, List.mem_cons, List.not_mem_nil, or_false] at hx
        clear ho hS hA1
        refine g_if_ne ok (tgt := 27) dX8_isPainted_22 (by decide) (fun _ => ?_) (fun c_ => absurd c_ (fun e_ => by have := (nI_eq (a := 1) (b := 0) (by omega) (by omega)).mp e_; omega))
        rcases hx with e | e | e | e
        · subst e
          obtain ⟨d, sw, s1, s2, s3⟩ := nw.str (s := mW (adv S (ooS S (tch tC) W4).2) w) (n := 4) rfl (by decide)
          have sw : StrA X.G (mput X.G h1 ad (mW (adv S (ooS S (tch tC) W4).2) w)) w d 4 (va_cpy (tch tC) (fun _ => 0) 0 0 4) := sw
          refine g_aload_n ok dX8_isPainted_27 rfl ?_
          refine m_get ok hA 13 q2248 (by decide) dX8_isPainted_28 (v := .ref (ad 13)) rfl ?_
          refine g_iconst ok (v := 2) dX8_isPainted_31 rfl ?_
          refine g_aload_n ok dX8_isPainted_32 rfl ?_
          refine m_get ok hA 12 q2247 (by decide) dX8_isPainted_33 (v := .ref w) rfl ?_
          refine g_ldcS ok (tx := "none") (by decide) dX8_isPainted_36 ?_
          refine g_callV ok q2672 q1822 q2744 q73 q1823 (Recv.ob ok gc_J5 (Rd.h s1)) dX8_isPainted_38 (s_equals X.l X.G _ w d 4 (va_cpy (tch tC) (fun _ => 0) 0 0 4) sw (X.G.ga ("L:" ++ "none")) (X.G.ga ("V:" ++ "none")) 4 (tch "none") (strk ok.tab "none" 4 (by decide) (by decide +kernel) _)) (nm_ (by decide : nmb _ 1 = true)) (dl rfl) (dk rfl) rfl rfl (dk rfl) (by omega) (kV ?_) xV
          rw [show bI (eqS 4 (va_cpy (tch tC) (fun _ => 0) 0 0 4) 4 (tch "none")) = 1 from by decide +kernel]
          refine g_if_eq ok (tgt := 48) dX8_isPainted_41 (by decide) (fun c_ => absurd c_ (fun e_ => by have := (nI_eq (a := 1) (b := 0) (by omega) (by omega)).mp e_; omega)) (fun _ => ?_)
          refine g_iconst ok (v := 0) dX8_isPainted_44 rfl ?_
          refine g_goto ok dX8_isPainted_45 (tgt := 81) (by decide) ?_
          refine m_ast ok hA 13 2 (by decide) dX8_isPainted_81 rfl (by decide) ?_
          refine g_aload_n ok dX8_isPainted_82 rfl ?_
          refine g_ldcS ok (tx := "paint") (by decide) dX8_isPainted_83 ?_
          refine m_putW ok hA q2247 dX8_isPainted_85 ?_
          refine g_iconst ok (v := 1) dX8_isPainted_88 rfl ?_
          exact g_zret ok fn rfl rfl dX8_isPainted_89 ⟨_, rfl, h1, X.G.ga ("L:" ++ "paint"), by rw [hp]; rfl, e2, by rw [hp]; rfl, fun _ => rfl⟩ (by omega)
        · subst e
          obtain ⟨d, sw, s1, s2, s3⟩ := nw.str (s := mW (adv S (ooS S (tch tC) W4).2) w) (n := 3) rfl (by decide)
          have sw : StrA X.G (mput X.G h1 ad (mW (adv S (ooS S (tch tC) W4).2) w)) w d 3 (va_cpy (tch tC) (fun _ => 0) 5 0 3) := sw
          refine g_aload_n ok dX8_isPainted_27 rfl ?_
          refine m_get ok hA 13 q2248 (by decide) dX8_isPainted_28 (v := .ref (ad 13)) rfl ?_
          refine g_iconst ok (v := 2) dX8_isPainted_31 rfl ?_
          refine g_aload_n ok dX8_isPainted_32 rfl ?_
          refine m_get ok hA 12 q2247 (by decide) dX8_isPainted_33 (v := .ref w) rfl ?_
          refine g_ldcS ok (tx := "none") (by decide) dX8_isPainted_36 ?_
          refine g_callV ok q2672 q1822 q2744 q73 q1823 (Recv.ob ok gc_J5 (Rd.h s1)) dX8_isPainted_38 (s_equals X.l X.G _ w d 3 (va_cpy (tch tC) (fun _ => 0) 5 0 3) sw (X.G.ga ("L:" ++ "none")) (X.G.ga ("V:" ++ "none")) 4 (tch "none") (strk ok.tab "none" 4 (by decide) (by decide +kernel) _)) (nm_ (by decide : nmb _ 1 = true)) (dl rfl) (dk rfl) rfl rfl (dk rfl) (by omega) (kV ?_) xV
          rw [show bI (eqS 3 (va_cpy (tch tC) (fun _ => 0) 5 0 3) 4 (tch "none")) = 0 from by decide +kernel]
          refine g_if_eq ok (tgt := 48) dX8_isPainted_41 (by decide) (fun _ => ?_) (fun c_ => absurd (congrArg nI (by omega : 0 = 0)) c_)
          refine g_aload_n ok dX8_isPainted_48 rfl ?_
          refine m_get ok hA 12 q2247 (by decide) dX8_isPainted_49 (v := .ref w) rfl ?_
          refine g_ldcS ok (tx := "red") (by decide) dX8_isPainted_52 ?_
          refine g_callV ok q2672 q1822 q2744 q73 q1823 (Recv.ob ok gc_J5 (Rd.h s1)) dX8_isPainted_54 (s_equals X.l X.G _ w d 3 (va_cpy (tch tC) (fun _ => 0) 5 0 3) sw (X.G.ga ("L:" ++ "red")) (X.G.ga ("V:" ++ "red")) 3 (tch "red") (strk ok.tab "red" 3 (by decide) (by decide +kernel) _)) (nm_ (by decide : nmb _ 1 = true)) (dl rfl) (dk rfl) rfl rfl (dk rfl) (by omega) (kV ?_) xV
          rw [show bI (eqS 3 (va_cpy (tch tC) (fun _ => 0) 5 0 3) 3 (tch "red")) = 1 from by decide +kernel]
          refine g_if_eq ok (tgt := 64) dX8_isPainted_57 (by decide) (fun c_ => absurd c_ (fun e_ => by have := (nI_eq (a := 1) (b := 0) (by omega) (by omega)).mp e_; omega)) (fun _ => ?_)
          refine g_iconst ok (v := 1) dX8_isPainted_60 rfl ?_
          refine g_goto ok dX8_isPainted_61 (tgt := 81) (by decide) ?_
          refine m_ast ok hA 13 2 (by decide) dX8_isPainted_81 rfl (by decide) ?_
          refine g_aload_n ok dX8_isPainted_82 rfl ?_
          refine g_ldcS ok (tx := "paint") (by decide) dX8_isPainted_83 ?_
          refine m_putW ok hA q2247 dX8_isPainted_85 ?_
          refine g_iconst ok (v := 1) dX8_isPainted_88 rfl ?_
          exact g_zret ok fn rfl rfl dX8_isPainted_89 ⟨_, rfl, h1, X.G.ga ("L:" ++ "paint"), by rw [hp]; rfl, e2, by rw [hp]; rfl, fun _ => rfl⟩ (by omega)
        · subst e
          obtain ⟨d, sw, s1, s2, s3⟩ := nw.str (s := mW (adv S (ooS S (tch tC) W4).2) w) (n := 5) rfl (by decide)
          have sw : StrA X.G (mput X.G h1 ad (mW (adv S (ooS S (tch tC) W4).2) w)) w d 5 (va_cpy (tch tC) (fun _ => 0) 9 0 5) := sw
          refine g_aload_n ok dX8_isPainted_27 rfl ?_
          refine m_get ok hA 13 q2248 (by decide) dX8_isPainted_28 (v := .ref (ad 13)) rfl ?_
          refine g_iconst ok (v := 2) dX8_isPainted_31 rfl ?_
          refine g_aload_n ok dX8_isPainted_32 rfl ?_
          refine m_get ok hA 12 q2247 (by decide) dX8_isPainted_33 (v := .ref w) rfl ?_
          refine g_ldcS ok (tx := "none") (by decide) dX8_isPainted_36 ?_
          refine g_callV ok q2672 q1822 q2744 q73 q1823 (Recv.ob ok gc_J5 (Rd.h s1)) dX8_isPainted_38 (s_equals X.l X.G _ w d 5 (va_cpy (tch tC) (fun _ => 0) 9 0 5) sw (X.G.ga ("L:" ++ "none")) (X.G.ga ("V:" ++ "none")) 4 (tch "none") (strk ok.tab "none" 4 (by decide) (by decide +kernel) _)) (nm_ (by decide : nmb _ 1 = true)) (dl rfl) (dk rfl) rfl rfl (dk rfl) (by omega) (kV ?_) xV
          rw [show bI (eqS 5 (va_cpy (tch tC) (fun _ => 0) 9 0 5) 4 (tch "none")) = 0 from by decide +kernel]
          refine g_if_eq ok (tgt := 48) dX8_isPainted_41 (by decide) (fun _ => ?_) (fun c_ => absurd (congrArg nI (by omega : 0 = 0)) c_)
          refine g_aload_n ok dX8_isPainted_48 rfl ?_
          refine m_get ok hA 12 q2247 (by decide) dX8_isPainted_49 (v := .ref w) rfl ?_
          refine g_ldcS ok (tx := "red") (by decide) dX8_isPainted_52 ?_
          refine g_callV ok q2672 q1822 q2744 q73 q1823 (Recv.ob ok gc_J5 (Rd.h s1)) dX8_isPainted_54 (s_equals X.l X.G _ w d 5 (va_cpy (tch tC) (fun _ => 0) 9 0 5) sw (X.G.ga ("L:" ++ "red")) (X.G.ga ("V:" ++ "red")) 3 (tch "red") (strk ok.tab "red" 3 (by decide) (by decide +kernel) _)) (nm_ (by decide : nmb _ 1 = true)) (dl rfl) (dk rfl) rfl rfl (dk rfl) (by omega) (kV ?_) xV
          rw [show bI (eqS 5 (va_cpy (tch tC) (fun _ => 0) 9 0 5) 3 (tch "red")) = 0 from by decide +kernel]
          refine g_if_eq ok (tgt := 64) dX8_isPainted_57 (by decide) (fun _ => ?_) (fun c_ => absurd (congrArg nI (by omega : 0 = 0)) c_)
          refine g_aload_n ok dX8_isPainted_64 rfl ?_
          refine m_get ok hA 12 q2247 (by decide) dX8_isPainted_65 (v := .ref w) rfl ?_
          refine g_ldcS ok (tx := "green") (by decide) dX8_isPainted_68 ?_
          refine g_callV ok q2672 q1822 q2744 q73 q1823 (Recv.ob ok gc_J5 (Rd.h s1)) dX8_isPainted_70 (s_equals X.l X.G _ w d 5 (va_cpy (tch tC) (fun _ => 0) 9 0 5) sw (X.G.ga ("L:" ++ "green")) (X.G.ga ("V:" ++ "green")) 5 (tch "green") (strk ok.tab "green" 5 (by decide) (by decide +kernel) _)) (nm_ (by decide : nmb _ 1 = true)) (dl rfl) (dk rfl) rfl rfl (dk rfl) (by omega) (kV ?_) xV
          rw [show bI (eqS 5 (va_cpy (tch tC) (fun _ => 0) 9 0 5) 5 (tch "green")) = 1 from by decide +kernel]
          refine g_if_eq ok (tgt := 80) dX8_isPainted_73 (by decide) (fun c_ => absurd c_ (fun e_ => by have := (nI_eq (a := 1) (b := 0) (by omega) (by omega)).mp e_; omega)) (fun _ => ?_)
          refine g_iconst ok (v := 2) dX8_isPainted_76 rfl ?_
          refine g_goto ok dX8_isPainted_77 (tgt := 81) (by decide) ?_
          refine m_ast ok hA 13 2 (by decide) dX8_isPainted_81 rfl (by decide) ?_
          refine g_aload_n ok dX8_isPainted_82 rfl ?_
          refine g_ldcS ok (tx := "paint") (by decide) dX8_isPainted_83 ?_
          refine m_putW ok hA q2247 dX8_isPainted_85 ?_
          refine g_iconst ok (v := 1) dX8_isPainted_88 rfl ?_
          exact g_zret ok fn rfl rfl dX8_isPainted_89 ⟨_, rfl, h1, X.G.ga ("L:" ++ "paint"), by rw [hp]; rfl, e2, by rw [hp]; rfl, fun _ => rfl⟩ (by omega)
        · subst e
          obtain ⟨d, sw, s1, s2, s3⟩ := nw.str (s := mW (adv S (ooS S (tch tC) W4).2) w) (n := 4) rfl (by decide)
          have sw : StrA X.G (mput X.G h1 ad (mW (adv S (ooS S (tch tC) W4).2) w)) w d 4 (va_cpy (tch tC) (fun _ => 0) 15 0 4) := sw
          refine g_aload_n ok dX8_isPainted_27 rfl ?_
          refine m_get ok hA 13 q2248 (by decide) dX8_isPainted_28 (v := .ref (ad 13)) rfl ?_
          refine g_iconst ok (v := 2) dX8_isPainted_31 rfl ?_
          refine g_aload_n ok dX8_isPainted_32 rfl ?_
          refine m_get ok hA 12 q2247 (by decide) dX8_isPainted_33 (v := .ref w) rfl ?_
          refine g_ldcS ok (tx := "none") (by decide) dX8_isPainted_36 ?_
          refine g_callV ok q2672 q1822 q2744 q73 q1823 (Recv.ob ok gc_J5 (Rd.h s1)) dX8_isPainted_38 (s_equals X.l X.G _ w d 4 (va_cpy (tch tC) (fun _ => 0) 15 0 4) sw (X.G.ga ("L:" ++ "none")) (X.G.ga ("V:" ++ "none")) 4 (tch "none") (strk ok.tab "none" 4 (by decide) (by decide +kernel) _)) (nm_ (by decide : nmb _ 1 = true)) (dl rfl) (dk rfl) rfl rfl (dk rfl) (by omega) (kV ?_) xV
          rw [show bI (eqS 4 (va_cpy (tch tC) (fun _ => 0) 15 0 4) 4 (tch "none")) = 0 from by decide +kernel]
          refine g_if_eq ok (tgt := 48) dX8_isPainted_41 (by decide) (fun _ => ?_) (fun c_ => absurd (congrArg nI (by omega : 0 = 0)) c_)
          refine g_aload_n ok dX8_isPainted_48 rfl ?_
          refine m_get ok hA 12 q2247 (by decide) dX8_isPainted_49 (v := .ref w) rfl ?_
          refine g_ldcS ok (tx := "red") (by decide) dX8_isPainted_52 ?_
          refine g_callV ok q2672 q1822 q2744 q73 q1823 (Recv.ob ok gc_J5 (Rd.h s1)) dX8_isPainted_54 (s_equals X.l X.G _ w d 4 (va_cpy (tch tC) (fun _ => 0) 15 0 4) sw (X.G.ga ("L:" ++ "red")) (X.G.ga ("V:" ++ "red")) 3 (tch "red") (strk ok.tab "red" 3 (by decide) (by decide +kernel) _)) (nm_ (by decide : nmb _ 1 = true)) (dl rfl) (dk rfl) rfl rfl (dk rfl) (by omega) (kV ?_) xV
          rw [show bI (eqS 4 (va_cpy (tch tC) (fun _ => 0) 15 0 4) 3 (tch "red")) = 0 from by decide +kernel]
          refine g_if_eq ok (tgt := 64) dX8_isPainted_57 (by decide) (fun _ => ?_) (fun c_ => absurd (congrArg nI (by omega : 0 = 0)) c_)
          refine g_aload_n ok dX8_isPainted_64 rfl ?_
          refine m_get ok hA 12 q2247 (by decide) dX8_isPainted_65 (v := .ref w) rfl ?_
          refine g_ldcS ok (tx := "green") (by decide) dX8_isPainted_68 ?_
          refine g_callV ok q2672 q1822 q2744 q73 q1823 (Recv.ob ok gc_J5 (Rd.h s1)) dX8_isPainted_70 (s_equals X.l X.G _ w d 4 (va_cpy (tch tC) (fun _ => 0) 15 0 4) sw (X.G.ga ("L:" ++ "green")) (X.G.ga ("V:" ++ "green")) 5 (tch "green") (strk ok.tab "green" 5 (by decide) (by decide +kernel) _)) (nm_ (by decide : nmb _ 1 = true)) (dl rfl) (dk rfl) rfl rfl (dk rfl) (by omega) (kV ?_) xV
          rw [show bI (eqS 4 (va_cpy (tch tC) (fun _ => 0) 15 0 4) 5 (tch "green")) = 0 from by decide +kernel]
          refine g_if_eq ok (tgt := 80) dX8_isPainted_73 (by decide) (fun _ => ?_) (fun c_ => absurd (congrArg nI (by omega : 0 = 0)) c_)
          refine g_iconst ok (v := 3) dX8_isPainted_80 rfl ?_
          refine m_ast ok hA 13 2 (by decide) dX8_isPainted_81 rfl (by decide) ?_
          refine g_aload_n ok dX8_isPainted_82 rfl ?_
          refine g_ldcS ok (tx := "paint") (by decide) dX8_isPainted_83 ?_
          refine m_putW ok hA q2247 dX8_isPainted_85 ?_
          refine g_iconst ok (v := 1) dX8_isPainted_88 rfl ?_
          exact g_zret ok fn rfl rfl dX8_isPainted_89 ⟨_, rfl, h1, X.G.ga ("L:" ++ "paint"), by rw [hp]; rfl, e2, by rw [hp]; rfl, fun _ => rfl⟩ (by omega)
