/-! the SpanRuler changes, 3 -/
set_option maxRecDepth 100000
abbrev cX1_keep : ByteArray := prog_1_method_45_code
def yX1_keep : MethodName := ⟨RX1, "keep", "()I"⟩
def dkwX1_keep_1 : List UInt8 := [182, 0, 204, 191]
abbrev dktX1_keep_1 : List UInt8 := dkwX1_keep_1 ++ []
def dkwX1_keep_0 : List UInt8 := [42, 180, 0, 126, 182, 0, 193, 76, 43, 182, 1, 52, 61, 42, 43, 28, 182, 0, 200, 172, 77, 42, 44]
abbrev dktX1_keep_0 : List UInt8 := dkwX1_keep_0 ++ dktX1_keep_1
theorem dksX1_keep_0 : cX1_keep.data.toList.drop 0 = dktX1_keep_0 := by decide +kernel
theorem dksX1_keep_1 : cX1_keep.data.toList.drop 23 = dktX1_keep_1 := dk_seg dksX1_keep_0 23 rfl rfl
theorem dX1_keep_0 : decode cX1_keep 0 = .ok (.aload_n 0, 1) := dk_42 (dk_at dksX1_keep_0 0 rfl rfl)
theorem dX1_keep_1 : decode cX1_keep 1 = .ok (.getfield 126, 3) := dk_180 0 126 (dk_at dksX1_keep_0 1 rfl rfl)
theorem dX1_keep_4 : decode cX1_keep 4 = .ok (.invokevirtual 193, 3) := dk_182 0 193 (dk_at dksX1_keep_0 4 rfl rfl)
theorem dX1_keep_7 : decode cX1_keep 7 = .ok (.astore_n 1, 1) := dk_76 (dk_at dksX1_keep_0 7 rfl rfl)
theorem dX1_keep_8 : decode cX1_keep 8 = .ok (.aload_n 1, 1) := dk_43 (dk_at dksX1_keep_0 8 rfl rfl)
theorem dX1_keep_9 : decode cX1_keep 9 = .ok (.invokevirtual 308, 3) := dk_182 1 52 (dk_at dksX1_keep_0 9 rfl rfl)
theorem dX1_keep_12 : decode cX1_keep 12 = .ok (.istore_n 2, 1) := dk_61 (dk_at dksX1_keep_0 12 rfl rfl)
theorem dX1_keep_13 : decode cX1_keep 13 = .ok (.aload_n 0, 1) := dk_42 (dk_at dksX1_keep_0 13 rfl rfl)
theorem dX1_keep_14 : decode cX1_keep 14 = .ok (.aload_n 1, 1) := dk_43 (dk_at dksX1_keep_0 14 rfl rfl)
theorem dX1_keep_15 : decode cX1_keep 15 = .ok (.iload_n 2, 1) := dk_28 (dk_at dksX1_keep_0 15 rfl rfl)
theorem dX1_keep_16 : decode cX1_keep 16 = .ok (.invokevirtual 200, 3) := dk_182 0 200 (dk_at dksX1_keep_0 16 rfl rfl)
theorem dX1_keep_19 : decode cX1_keep 19 = .ok (.ireturn, 1) := dk_172 (dk_at dksX1_keep_0 19 rfl rfl)
theorem dX1_keep_20 : decode cX1_keep 20 = .ok (.astore_n 2, 1) := dk_77 (dk_at dksX1_keep_0 20 rfl rfl)
theorem dX1_keep_21 : decode cX1_keep 21 = .ok (.aload_n 0, 1) := dk_42 (dk_at dksX1_keep_0 21 rfl rfl)
theorem dX1_keep_22 : decode cX1_keep 22 = .ok (.aload_n 2, 1) := dk_44 (dk_at dksX1_keep_0 22 rfl rfl)
theorem dX1_keep_23 : decode cX1_keep 23 = .ok (.invokevirtual 204, 3) := dk_182 0 204 (dk_at dksX1_keep_1 0 rfl rfl)
theorem dX1_keep_26 : decode cX1_keep 26 = .ok (.athrow, 1) := dk_191 (dk_at dksX1_keep_1 3 rfl rfl)
abbrev cX1_noteAt : ByteArray := prog_1_method_21_code
def yX1_noteAt : MethodName := ⟨RX1, "noteAt", "(I)LSpanRuler$Note;"⟩
def dkwX1_noteAt_1 : List UInt8 := [180, 0, 185, 27, 182, 0, 180, 192, 0, 188, 176]
abbrev dktX1_noteAt_1 : List UInt8 := dkwX1_noteAt_1 ++ []
def dkwX1_noteAt_0 : List UInt8 := [27, 3, 42, 180, 0, 126, 180, 0, 185, 182, 0, 148, 4, 100, 184, 0, 3, 184, 0, 177, 42, 180, 0, 126]
abbrev dktX1_noteAt_0 : List UInt8 := dkwX1_noteAt_0 ++ dktX1_noteAt_1
theorem dksX1_noteAt_0 : cX1_noteAt.data.toList.drop 0 = dktX1_noteAt_0 := by decide +kernel
theorem dksX1_noteAt_1 : cX1_noteAt.data.toList.drop 24 = dktX1_noteAt_1 := dk_seg dksX1_noteAt_0 24 rfl rfl
theorem dX1_noteAt_0 : decode cX1_noteAt 0 = .ok (.iload_n 1, 1) := dk_27 (dk_at dksX1_noteAt_0 0 rfl rfl)
theorem dX1_noteAt_1 : decode cX1_noteAt 1 = .ok (.iconst 0, 1) := dk_3 (dk_at dksX1_noteAt_0 1 rfl rfl)
theorem dX1_noteAt_2 : decode cX1_noteAt 2 = .ok (.aload_n 0, 1) := dk_42 (dk_at dksX1_noteAt_0 2 rfl rfl)
theorem dX1_noteAt_3 : decode cX1_noteAt 3 = .ok (.getfield 126, 3) := dk_180 0 126 (dk_at dksX1_noteAt_0 3 rfl rfl)
theorem dX1_noteAt_6 : decode cX1_noteAt 6 = .ok (.getfield 185, 3) := dk_180 0 185 (dk_at dksX1_noteAt_0 6 rfl rfl)
theorem dX1_noteAt_9 : decode cX1_noteAt 9 = .ok (.invokevirtual 148, 3) := dk_182 0 148 (dk_at dksX1_noteAt_0 9 rfl rfl)
theorem dX1_noteAt_12 : decode cX1_noteAt 12 = .ok (.iconst 1, 1) := dk_4 (dk_at dksX1_noteAt_0 12 rfl rfl)
theorem dX1_noteAt_13 : decode cX1_noteAt 13 = .ok (.isub, 1) := dk_100 (dk_at dksX1_noteAt_0 13 rfl rfl)
theorem dX1_noteAt_14 : decode cX1_noteAt 14 = .ok (.invokestatic 3, 3) := dk_184 0 3 (dk_at dksX1_noteAt_0 14 rfl rfl)
theorem dX1_noteAt_17 : decode cX1_noteAt 17 = .ok (.invokestatic 177, 3) := dk_184 0 177 (dk_at dksX1_noteAt_0 17 rfl rfl)
theorem dX1_noteAt_20 : decode cX1_noteAt 20 = .ok (.aload_n 0, 1) := dk_42 (dk_at dksX1_noteAt_0 20 rfl rfl)
theorem dX1_noteAt_21 : decode cX1_noteAt 21 = .ok (.getfield 126, 3) := dk_180 0 126 (dk_at dksX1_noteAt_0 21 rfl rfl)
theorem dX1_noteAt_24 : decode cX1_noteAt 24 = .ok (.getfield 185, 3) := dk_180 0 185 (dk_at dksX1_noteAt_1 0 rfl rfl)
theorem dX1_noteAt_27 : decode cX1_noteAt 27 = .ok (.iload_n 1, 1) := dk_27 (dk_at dksX1_noteAt_1 3 rfl rfl)
theorem dX1_noteAt_28 : decode cX1_noteAt 28 = .ok (.invokevirtual 180, 3) := dk_182 0 180 (dk_at dksX1_noteAt_1 4 rfl rfl)
theorem dX1_noteAt_31 : decode cX1_noteAt 31 = .ok (.checkcast 188, 3) := dk_192 0 188 (dk_at dksX1_noteAt_1 7 rfl rfl)
theorem dX1_noteAt_34 : decode cX1_noteAt 34 = .ok (.areturn, 1) := dk_176 (dk_at dksX1_noteAt_1 10 rfl rfl)
abbrev cX1_versionAt : ByteArray := prog_1_method_20_code
def yX1_versionAt : MethodName := ⟨RX1, "versionAt", "(I)LSpanRuler$Version;"⟩
def dkwX1_versionAt_1 : List UInt8 := [180, 0, 174, 27, 182, 0, 180, 192, 0, 183, 176]
abbrev dktX1_versionAt_1 : List UInt8 := dkwX1_versionAt_1 ++ []
def dkwX1_versionAt_0 : List UInt8 := [27, 3, 42, 180, 0, 126, 180, 0, 174, 182, 0, 148, 4, 100, 184, 0, 3, 184, 0, 177, 42, 180, 0, 126]
abbrev dktX1_versionAt_0 : List UInt8 := dkwX1_versionAt_0 ++ dktX1_versionAt_1
theorem dksX1_versionAt_0 : cX1_versionAt.data.toList.drop 0 = dktX1_versionAt_0 := by decide +kernel
theorem dksX1_versionAt_1 : cX1_versionAt.data.toList.drop 24 = dktX1_versionAt_1 := dk_seg dksX1_versionAt_0 24 rfl rfl
theorem dX1_versionAt_0 : decode cX1_versionAt 0 = .ok (.iload_n 1, 1) := dk_27 (dk_at dksX1_versionAt_0 0 rfl rfl)
theorem dX1_versionAt_1 : decode cX1_versionAt 1 = .ok (.iconst 0, 1) := dk_3 (dk_at dksX1_versionAt_0 1 rfl rfl)
theorem dX1_versionAt_2 : decode cX1_versionAt 2 = .ok (.aload_n 0, 1) := dk_42 (dk_at dksX1_versionAt_0 2 rfl rfl)
theorem dX1_versionAt_3 : decode cX1_versionAt 3 = .ok (.getfield 126, 3) := dk_180 0 126 (dk_at dksX1_versionAt_0 3 rfl rfl)
theorem dX1_versionAt_6 : decode cX1_versionAt 6 = .ok (.getfield 174, 3) := dk_180 0 174 (dk_at dksX1_versionAt_0 6 rfl rfl)
theorem dX1_versionAt_9 : decode cX1_versionAt 9 = .ok (.invokevirtual 148, 3) := dk_182 0 148 (dk_at dksX1_versionAt_0 9 rfl rfl)
theorem dX1_versionAt_12 : decode cX1_versionAt 12 = .ok (.iconst 1, 1) := dk_4 (dk_at dksX1_versionAt_0 12 rfl rfl)
theorem dX1_versionAt_13 : decode cX1_versionAt 13 = .ok (.isub, 1) := dk_100 (dk_at dksX1_versionAt_0 13 rfl rfl)
theorem dX1_versionAt_14 : decode cX1_versionAt 14 = .ok (.invokestatic 3, 3) := dk_184 0 3 (dk_at dksX1_versionAt_0 14 rfl rfl)
theorem dX1_versionAt_17 : decode cX1_versionAt 17 = .ok (.invokestatic 177, 3) := dk_184 0 177 (dk_at dksX1_versionAt_0 17 rfl rfl)
theorem dX1_versionAt_20 : decode cX1_versionAt 20 = .ok (.aload_n 0, 1) := dk_42 (dk_at dksX1_versionAt_0 20 rfl rfl)
theorem dX1_versionAt_21 : decode cX1_versionAt 21 = .ok (.getfield 126, 3) := dk_180 0 126 (dk_at dksX1_versionAt_0 21 rfl rfl)
theorem dX1_versionAt_24 : decode cX1_versionAt 24 = .ok (.getfield 174, 3) := dk_180 0 174 (dk_at dksX1_versionAt_1 0 rfl rfl)
theorem dX1_versionAt_27 : decode cX1_versionAt 27 = .ok (.iload_n 1, 1) := dk_27 (dk_at dksX1_versionAt_1 3 rfl rfl)
theorem dX1_versionAt_28 : decode cX1_versionAt 28 = .ok (.invokevirtual 180, 3) := dk_182 0 180 (dk_at dksX1_versionAt_1 4 rfl rfl)
theorem dX1_versionAt_31 : decode cX1_versionAt 31 = .ok (.checkcast 183, 3) := dk_192 0 183 (dk_at dksX1_versionAt_1 7 rfl rfl)
theorem dX1_versionAt_34 : decode cX1_versionAt 34 = .ok (.areturn, 1) := dk_176 (dk_at dksX1_versionAt_1 10 rfl rfl)
theorem q1466 : (Jvm.Cond.methodLink "SpanRuler" (308 : Nat) ({ cls := "SpanRuler$Ruler", name := "keep", desc := "()I" } : Jvm.MethodName)) ∈ lw_all := lw_g (lw_at lw_m6 206 rfl) rfl
theorem q1469 : (Jvm.Cond.code ({ cls := "SpanRuler$Ruler", name := "keep", desc := "()I" } : Jvm.MethodName) prog_16_method_29_code (1 : Nat) (Option.some Jvm.ClassFile.FieldType.int)) ∈ lw_all := lw_g (lw_at lw_m6 209 rfl) rfl
theorem q1467 : (Jvm.Cond.instanceMethod ({ cls := "SpanRuler$Ruler", name := "keep", desc := "()I" } : Jvm.MethodName)) ∈ lw_all := lw_g (lw_at lw_m6 207 rfl) rfl
theorem q1468 : (Jvm.Cond.selects "SpanRuler$Ruler" ({ cls := "SpanRuler$Ruler", name := "keep", desc := "()I" } : Jvm.MethodName) ({ cls := "SpanRuler$Ruler", name := "keep", desc := "()I" } : Jvm.MethodName)) ∈ lw_all := lw_g (lw_at lw_m6 208 rfl) rfl
theorem q247 : (Jvm.Cond.fieldLinkNest "SpanRuler" (185 : Nat) "SpanRuler$Ruler" "notes" "Ljava/util/ArrayList;" "SpanRuler") ∈ lw_tbl := lw_at lw_m1 187 rfl
theorem q1248 : (Jvm.Cond.methodLink "SpanRuler" (180 : Nat) ({ cls := "java/util/ArrayList", name := "get", desc := "(I)Ljava/lang/Object;" } : Jvm.MethodName)) ∈ lw_all := lw_g (lw_at lw_m5 228 rfl) rfl
theorem q1206 : (Jvm.Cond.classLink "SpanRuler" (188 : Nat) "SpanRuler$Note") ∈ lw_all := lw_g (lw_at lw_m5 186 rfl) rfl
theorem q249 : (Jvm.Cond.fieldLinkNest "SpanRuler" (174 : Nat) "SpanRuler$Ruler" "versions" "Ljava/util/ArrayList;" "SpanRuler") ∈ lw_tbl := lw_at lw_m1 189 rfl
theorem q1501 : (Jvm.Cond.classLink "SpanRuler" (183 : Nat) "SpanRuler$Version") ∈ lw_all := lw_g (lw_at lw_m7 1 rfl) rfl
theorem cpl_Ao {k1 o1 k2 o2 : Nat} : ∀ (n c : Nat) (t : MS) (i : Nat), i ≠ k1 → (cpl k1 o1 k2 o2 n c t).A i = t.A i := by
  intro n
  induction n with
  | zero => intro c t i _; rfl
  | succ n ih => intro c t i hi; exact (ih (c + 1) _ i hi).trans (by rw [mA_A, if_neg hi])
theorem cpl_far {o1 o2 N : Nat} (h : o2 + N ≤ o1) : ∀ (n c : Nat) (t : MS), c + n ≤ N → ∀ q, (cpl 0 o1 0 o2 n c t).A 0 q = if o1 + c ≤ q ∧ q < o1 + c + n then t.A 0 (o2 + (q - o1)) else t.A 0 q := by
  intro n
  induction n with
  | zero => intro c t _ q; rw [if_neg (by omega)]; rfl
  | succ n ih =>
    intro c t hc q
    show (cpl 0 o1 0 o2 n (c + 1) (mA t 0 (o1 + c) (t.A 0 (o2 + c)))).A 0 q = _
    rw [ih (c + 1) _ (by omega) q, mA_A, if_pos rfl]
    by_cases e : q = o1 + c
    · subst e
      rw [if_neg (by omega), upd_at, if_pos (by omega)]; congr 1; omega
    · by_cases e2 : o1 + (c + 1) ≤ q ∧ q < o1 + (c + 1) + n
      · rw [if_pos e2, if_pos (by omega), upd_ne (by omega)]
      · rw [if_neg e2, if_neg (by omega), upd_ne e]
theorem bk_eq {s : MS} {j : Nat} (t : MS) (h : t.A 0 = s.A 0) (q : Nat) : rBk j 32 (s.A 0) q = (cpl 0 8 0 (122 + 64 * j) 64 0 t).A 0 q := by
  rw [cpl_A (Or.inr (by omega)), if_pos rfl]
  show _ = if 8 + 0 ≤ q ∧ q < 8 + 0 + 64 then _ else _
  unfold rBk
  by_cases c : 8 ≤ q ∧ q < 72
  · rw [if_pos (by omega), if_pos (by omega), h]
  · rw [if_neg (by omega), if_neg (by omega), h]
theorem Tri.cpl {s t : MS} (T : Tri s t) {o1 o2 n c : Nat} : Tri s (cpl 0 o1 0 o2 n c t) := T.of (fun i hi => cpl_Ao n c t i hi) (fun i _ => cpl_I _ _ _ _ n c t i)
theorem kp_eq {s : MS} (t : MS) (h : t.A 0 = s.A 0) (hV : rV (s.A 0) < 5) (h2 : s.A 0 2 = nI (rV (s.A 0))) (q : Nat) : rKp (s.A 0) q = upd ((kvT t).A 0) 2 ((kvT t).A 0 2 + 1) q := by
  have hv : mV t = rV (s.A 0) := by unfold mV; rw [h]
  have e : ∀ q, (kvT t).A 0 q = if 122 + 64 * rV (s.A 0) + 0 ≤ q ∧ q < 122 + 64 * rV (s.A 0) + 0 + 64 then s.A 0 (8 + (q - (122 + 64 * rV (s.A 0)))) else s.A 0 q := fun q => by
    unfold kvT; rw [hv, cpl_far (N := 64) (by omega) 64 0 t (by omega) q, h]
  by_cases c : q = 2
  · subst c
    rw [upd_at, e 2, if_neg (by omega), h2]
    unfold rKp; rw [if_pos rfl, nI_1]
  · rw [upd_ne c, e q]
    unfold rKp; rw [if_neg c]
    by_cases c1 : 122 + 64 * rV (s.A 0) ≤ q ∧ q < 122 + 64 * rV (s.A 0) + 32
    · rw [if_pos c1, if_pos (by omega)]
    · rw [if_neg c1]
      by_cases c2 : 122 + 64 * rV (s.A 0) + 32 ≤ q ∧ q < 122 + 64 * rV (s.A 0) + 64
      · rw [if_pos c2, if_pos (by omega)]; congr 1; omega
      · rw [if_neg c2, if_neg (by omega)]
theorem Tri.keepT {s t : MS} (T : Tri s t) : Tri s (kvT t) := by unfold kvT; exact T.cpl
theorem Tri.goes {s t : MS} (T : Tri s t) {p : Nat} : Tri s (mGoes p t) := by
  unfold mGoes
  refine Tri.of (T.mA (q := 1) (v := nI (mN t - 1))) (fun i hi => ?_) (fun i _ => by rw [gol_I])
  rw [gol_eq, mF_A, if_neg hi]
theorem go_eq {s : MS} {p : Nat} (t : MS) (h : t.A 0 = s.A 0) (hp : p < rN (s.A 0)) (q : Nat) : rGoes p (upd (s.A 0) 5 (s.A 0 5 + 1)) q = upd ((mGoes p t).A 0) 5 ((mGoes p t).A 0 5 + 1) q := by
  have hn : mN t = rN (s.A 0) := by unfold mN; rw [h]
  have n5 : rN (upd (s.A 0) 5 (s.A 0 5 + 1)) = rN (s.A 0) := by unfold rN; rw [upd_ne (by omega)]
  have e : ∀ q, (mGoes p t).A 0 q = if 72 + 5 * p ≤ q ∧ q < 72 + 5 * (rN (s.A 0) - 1) then s.A 0 (q + 5) else if q = 1 then nI (rN (s.A 0) - 1) else s.A 0 q := fun q => by
    rw [mGoes_A (by rw [hn]; exact hp), hn, h]
  unfold rGoes
  rw [n5]
  by_cases c : q = 5
  · subst c
    rw [upd_at, e 5, if_neg (by omega), if_neg (by omega), if_neg (by omega), if_neg (by omega), upd_at]
  · rw [show upd ((mGoes p t).A 0) 5 ((mGoes p t).A 0 5 + 1) q = (mGoes p t).A 0 q from upd_ne c, e q]
    by_cases c1 : 72 + 5 * p ≤ q ∧ q < 72 + 5 * (rN (s.A 0) - 1)
    · rw [if_pos c1, if_pos c1, upd_ne (by omega)]
    · rw [if_neg c1, if_neg c1]
      by_cases c2 : q = 1
      · rw [if_pos c2, if_pos c2]
      · rw [if_neg c2, if_neg c2, upd_ne c]
theorem TkOk.goes {R : Nat → Int32} (x : TkOk R) {p : Nat} (hp : p < rN R) (h10 : rN R ≤ 10) : TkOk (rGoes p (upd R 5 (R 5 + 1))) := fun k hk => by
  have n5 : rN (upd R 5 (R 5 + 1)) = rN R := by unfold rN; rw [upd_ne (by omega)]
  have n1 : rN (rGoes p (upd R 5 (R 5 + 1))) = rN R - 1 := by
    unfold rGoes
    show nn (if _ then _ else if (1 : Nat) = 1 then nI (rN (upd R 5 (R 5 + 1)) - 1) else _) = _
    rw [if_neg (by omega), if_pos rfl, n5, nn_nI (by omega)]
  rw [n1] at hk
  unfold rGoes
  rw [n5]
  by_cases c : 72 + 5 * p ≤ 72 + 5 * k + 4 ∧ 72 + 5 * k + 4 < 72 + 5 * (rN R - 1)
  · rw [if_pos c, upd_ne (by omega)]
    have := x (k + 1) (by omega)
    rw [show 72 + 5 * k + 4 + 5 = 72 + 5 * (k + 1) + 4 by omega]; exact this
  · rw [if_neg c, if_neg (by omega), upd_ne (by omega)]
    exact x k (by omega)
theorem inR_of {i n : Nat} (h : i < n) (hn : n < 2 ^ 31) : inR (nI i) 0 (nI n - 1) = true := by
  cases n with
  | zero => omega
  | succ m =>
    rw [nI_pred]
    exact inR_i.mpr ⟨nI_pos' (by omega), nI_le (by omega) (by omega)⟩
theorem TkOk.kp {R : Nat → Int32} (x : TkOk R) (i : RInv R) : TkOk (rKp R) := fun p hp => by
  have n1 : rN (rKp R) = rN R := by unfold rN; rw [rKp_o (by omega) (by omega)]
  have := i.1.2
  rw [n1] at hp
  rw [rKp_o (by omega) (by omega)]; exact x p hp
theorem s_keep (l : Launch) (G : GE) (h : AH) (x : Nat) (s : MS) (S0 : SRAt G h x s) : GM l G yX1_keep (wsW_ yX1_keep cX1_keep 3 (some .int) [((8 : Nat), (19 : Nat), (20 : Nat), (26 : Nat))]) 18 [.ref x] (h) (6000) (SPost G x (ex1 UOE) (mKeep s)) := by
  refine GM.ofH (by decide) (dk rfl) ?_
  intro X eL eG eh ok fn
  subst eL; subst eG
  show GW X _ 0 0 [some (.ref x), none, none] []
  obtain ⟨own, hr, ru, sv, hl, hd, hc, hm, hf, inp, ln, bt, rf, S⟩ := S0
  obtain ⟨rt, cl, nl, nd, nc, nm, nf, vl, vd, vc, vm, vf, y⟩ := S.2.2.2.2.2.2.2.2.1.1.1
  have iR := S.2.2.2.2.2.2.2.2.1.1.1.inv
  have mv : mV (mTries s) = rV (s.A 0) := by unfold mV; rw [mTries_A s (by decide)]
  refine g_aload_n ok dX1_keep_0 rfl ?_
  refine g_get ok ck_X1 0 q319 (Or.inl rfl) (by decide) dX1_keep_1 (Rd.h (S.2.2.1)) rfl ?_
  refine g_callV ok q348 q349 q350 q62 q351 (Recv.ob ok gc_X2 (Rd.h (S.1 _ _ y.1.1))) dX1_keep_4 (GM.fr S.1 (x_copy X.l X.G hr (fun q => own q = ru) ru (s.A 0) S.2.2.2.2.2.2.2.2.1.1.1)) (nm_ (by decide : nmb _ 0 = true)) (dl rfl) (dk rfl) rfl rfl (dk rfl) (by omega) (kFR fun uC hrC hC ⟨c, eC, mC⟩ fC => ?_) xFR
  subst eC
  obtain ⟨lc, hc0⟩ := mC.o0
  have kC := fC.keep
  refine g_astore_n ok dX1_keep_7 (ls1 := [some (.ref x), some (.ref c), none]) (dl rfl) rfl ?_
  refine g_aload_n ok dX1_keep_8 rfl ?_
  refine g_callV ok q1466 q1467 q1468 q62 q1469 (Recv.ob ok gc_X2 (Rd.h (kC _ _ hc0))) dX1_keep_9 (GM.fr kC (u_keep X.l X.G hr hrC c (s.A 0) mC )) (nm_ (by decide : nmb _ 0 = true)) (dl rfl) (dk rfl) rfl rfl (dk rfl) (by omega) (kFX fun uM hrM hM zM fM => ?_) (xFX fun cE q hrM hM zM fM => ?_)
  · obtain ⟨nv0, eM, mM⟩ := zM
    subst eM
    obtain ⟨own2, S2, yc, nc, nf, nv⟩ := SRx.copied S mM fM.keep (fun q e a b => fM.out q e (fC.out q e a b).1 (fC.out q e a b).2)
    have tk : TkOk (rKp (s.A 0)) := TkOk.kp S.2.2.2.2.2.2.2.2.1.1.2 iR
    refine g_istore_n ok dX1_keep_12 (ls1 := [some (.ref x), some (.ref c), some (.int (nI (rV (s.A 0))))]) (dl rfl) rfl ?_
    refine g_aload_n ok dX1_keep_13 rfl ?_
    refine g_aload_n ok dX1_keep_14 rfl ?_
    refine g_iload_n ok dX1_keep_15 rfl ?_
    refine g_callV ok q1114 q1116 qs6 q61 q1117 (Recv.ob ok gc_X1 (Rd.h (S2.2.2.1))) dX1_keep_16 (s_become X.l X.G hM x own2 hrM s ru sv hl hd hc hm hf inp ln bt rf S2 c (rKp (s.A 0)) yc tk nc nf nv (nI (rV (s.A 0)))) (nm_ (by decide : nmb _ 2 = true)) (dl rfl) (dk rfl) rfl rfl (dk rfl) (by omega) (kR fun u9 h9 ⟨e9, B9⟩ => ?_) xR
    subst e9
    have pf : SPost X.G x (ex1 UOE) (mKeep s) (.inl (some (.int (nI (rV (s.A 0)))))) h9 := by
      have hv5 := iR.2.1.2
      unfold mKeep mKV; rw [mv, if_neg nv0, if_pos rfl]; dsimp only; rw [mI_19]
      refine SPost.ends (B9 _ (Bec.keeps (Tri.mI (Tri.mA (Tri.keepT (Tri.tries s))) (by omega)) S.2.2.2.2.2.2.2.1 (fun q _ => (kp_eq (mTries s) (mTries_A s (by decide)) (by omega) iR.2.1.1 q).trans (by rw [mI_A, mA_A, if_pos rfl])))) ?_
      rw [mKeeps_I (by decide)]; rw [mI_I, upd_ne (by omega), mA_I, kvT_I, mTries_I, upd_at]
    exact g_iret ok fn rfl dX1_keep_19 pf (by omega)
  · obtain ⟨nv0, ec, kM, q0, kq, uq, wq, hq⟩ := zM
    subst ec
    have S3 := SRx.forget S fC fM kM
    have hqM := fM.keep _ _ hq
    refine g_catch ok [] _ [] rfl (fun z hz => nomatch hz) (by decide) (by decide) q994 q1074 rfl ?_
    refine g_astore_n ok dX1_keep_20 (ls1 := [some (.ref x), some (.ref c), some (.ref q)]) (dl rfl) rfl ?_
    refine g_aload_n ok dX1_keep_21 rfl ?_
    refine g_aload_n ok dX1_keep_22 rfl ?_
    refine g_callV ok q1132 q1134 qs8 q61 q1135 (Recv.ob ok gc_X1 (Rd.h (S3.2.2.1))) dX1_keep_23 (x_kept X.l X.G _ x q _ _ _ _ _ _ _ _ S3.2.2.1) (nm_ (by decide : nmb _ 1 = true)) (dl rfl) (dk rfl) rfl rfl (dk rfl) (by omega) (kR fun uk hk2 ⟨q2, ek, fk, kk2, ok2⟩ => ?_) xR
    subst ek; subst ok2
    refine g_athrow ok gc_J23 dX1_keep_26 up_self ?_
    have pf : SPost X.G x (ex1 UOE) (mKeep s) (.inr (UOE, q2)) (up (up hM x (ob 0 [.ref ru, sv, .ref hl, .ref inp, .ref ln, .int (s.I 10), bt, .ref q])) q2 (ob 22 [])) := by
      unfold mKeep mKV; rw [mv, if_pos nv0, if_neg (by decide : ¬ (2 : Int32) = 0)]
      exact SPost.no (SRx.refused S3.tries hqM q0 (by decide)) fk (by decide) rfl
    exact g_out ok fn (hp_all (by decide)) pf (by omega)
theorem s_noteAt1 (l : Launch) (G : GE) (h : AH) (x : Nat) (own : Nat → Nat) (hr : AH) (s : MS) (ru : Nat) (sv : Value) (hl hd hc : Nat) (hm : Int32) (hf : Nat → Option Nat) (inp ln : Nat) (bt rf : Value) (S : SRx G own hr h x s ru sv hl hd hc hm hf inp ln bt rf) (rt cl nl nd nc : Nat) (nm : Int32) (nf : Nat → Option Nat) (vl vd vc : Nat) (vm : Int32) (vf : Nat → Option Nat) (y : Rul G hr (fun q => own q = ru) ru (s.A 0) rt cl nl nd nc nm nf vl vd vc vm vf) (i : Nat) (hi : i < rN (s.A 0)) (b : Nat) (kb : nf i = some b) (fb : List Value) (rb : h b = some (ob 6 fb)) : GM l G yX1_noteAt (ws_ yX1_noteAt cX1_noteAt 2 (some (.object "SpanRuler$Note"))) 8 [.ref x, .int (nI i)] (h) (0) (PV (.ref b) h) := by
  refine GM.of (by decide) (dk rfl) ?_
  intro X eL eG eh ok fn
  subst eL; subst eG
  show GW X _ 0 0 [some (.ref x), some (.int (nI i))] []
  have n10 : rN (s.A 0) ≤ 10 := y.2.2.2.2.2.1.1.2
  have hs : inR (nI i) 0 (nI (rN (s.A 0)) - 1) = true := inR_of hi (by omega)
  have al := y.2.1.kp (fun e w => S.1 _ _ w) (fun z w => S.1 _ _ w)
  refine g_iload_n ok dX1_noteAt_0 rfl ?_
  refine g_iconst ok (v := 0) dX1_noteAt_1 rfl ?_
  refine g_aload_n ok dX1_noteAt_2 rfl ?_
  refine g_get ok ck_X1 0 q319 (Or.inl rfl) (by decide) dX1_noteAt_3 (Rd.h (S.2.2.1)) rfl ?_
  refine g_getN ok ck_X2 2 q247 rfl (by decide) dX1_noteAt_6 (Rd.h (S.1 _ _ y.1.1)) rfl ?_
  refine g_callV ok q1118 q1119 q1120 q70 q1121 (Recv.ob ok gc_J2 (Rd.h al.1)) dX1_noteAt_9 (al_size X.l X.G _ nl nd nc (rN (s.A 0)) nm nf al) (nm_ (by decide : nmb _ 0 = true)) (dl rfl) (dk rfl) rfl rfl (dk rfl) (by omega) (kV ?_) xV
  refine g_iconst ok (v := 1) dX1_noteAt_12 rfl ?_
  refine g_isub ok dX1_noteAt_13 ?_
  refine g_callS ok q1001 q1002 q61 q1003 dX1_noteAt_14 (x_isIn X.l X.G _ (nI i) 0 ((nI (rN (s.A 0))) - 1)) (nm_ (by decide : nmb _ 3 = true)) (dl rfl) (dk rfl) rfl rfl (dk rfl) (by omega) (kV ?_) xV
  rw [hs]
  refine g_callS ok q1240 q1241 q61 q1242 dX1_noteAt_17 (x_chkI1 X.l X.G _) (nm_ (by decide : nmb _ 1 = true)) (dl rfl) (dk rfl) rfl rfl (dk rfl) (by omega) (kN ?_) xN
  refine g_aload_n ok dX1_noteAt_20 rfl ?_
  refine g_get ok ck_X1 0 q319 (Or.inl rfl) (by decide) dX1_noteAt_21 (Rd.h (S.2.2.1)) rfl ?_
  refine g_getN ok ck_X2 2 q247 rfl (by decide) dX1_noteAt_24 (Rd.h (S.1 _ _ y.1.1)) rfl ?_
  refine g_iload_n ok dX1_noteAt_27 rfl ?_
  refine g_callV ok q1248 q514 q2739 q70 q516 (Recv.ob ok gc_J2 (Rd.h al.1)) dX1_noteAt_28 (al_get X.l X.G _ nl nd nc (rN (s.A 0)) nm nf al i b (by omega) kb) (nm_ (by decide : nmb _ 1 = true)) (dl rfl) (dk rfl) rfl rfl (dk rfl) (by omega) (kV ?_) xV
  refine g_castE ok q1206 dX1_noteAt_31 (Recv.ob ok gc_X10 (Rd.h rb)) ?_
  exact g_aret ok fn rfl (Or.inl ⟨_, rfl⟩) (Or.inr ⟨_, rfl⟩) dX1_noteAt_34 ⟨rfl, rfl⟩ (by omega)
theorem s_noteAt0 (l : Launch) (G : GE) (h : AH) (x : Nat) (own : Nat → Nat) (hr : AH) (s : MS) (ru : Nat) (sv : Value) (hl hd hc : Nat) (hm : Int32) (hf : Nat → Option Nat) (inp ln : Nat) (bt rf : Value) (S : SRx G own hr h x s ru sv hl hd hc hm hf inp ln bt rf) (rt cl nl nd nc : Nat) (nm : Int32) (nf : Nat → Option Nat) (vl vd vc : Nat) (vm : Int32) (vf : Nat → Option Nat) (y : Rul G hr (fun q => own q = ru) ru (s.A 0) rt cl nl nd nc nm nf vl vd vc vm vf) (p : Int32) (hs : inR p 0 (nI (rN (s.A 0)) - 1) = false) : GM l G yX1_noteAt (ws_ yX1_noteAt cX1_noteAt 2 (some (.object "SpanRuler$Note"))) 8 [.ref x, .int p] (h) (6) (PT G "java/lang/IndexOutOfBoundsException" 19 h) := by
  refine GM.of (by decide) (dk rfl) ?_
  intro X eL eG eh ok fn
  subst eL; subst eG
  show GW X _ 0 0 [some (.ref x), some (.int p)] []
  have al := y.2.1.kp (fun e w => S.1 _ _ w) (fun z w => S.1 _ _ w)
  refine g_iload_n ok dX1_noteAt_0 rfl ?_
  refine g_iconst ok (v := 0) dX1_noteAt_1 rfl ?_
  refine g_aload_n ok dX1_noteAt_2 rfl ?_
  refine g_get ok ck_X1 0 q319 (Or.inl rfl) (by decide) dX1_noteAt_3 (Rd.h (S.2.2.1)) rfl ?_
  refine g_getN ok ck_X2 2 q247 rfl (by decide) dX1_noteAt_6 (Rd.h (S.1 _ _ y.1.1)) rfl ?_
  refine g_callV ok q1118 q1119 q1120 q70 q1121 (Recv.ob ok gc_J2 (Rd.h al.1)) dX1_noteAt_9 (al_size X.l X.G _ nl nd nc (rN (s.A 0)) nm nf al) (nm_ (by decide : nmb _ 0 = true)) (dl rfl) (dk rfl) rfl rfl (dk rfl) (by omega) (kV ?_) xV
  refine g_iconst ok (v := 1) dX1_noteAt_12 rfl ?_
  refine g_isub ok dX1_noteAt_13 ?_
  refine g_callS ok q1001 q1002 q61 q1003 dX1_noteAt_14 (x_isIn X.l X.G _ p 0 ((nI (rN (s.A 0))) - 1)) (nm_ (by decide : nmb _ 3 = true)) (dl rfl) (dk rfl) rfl rfl (dk rfl) (by omega) (kV ?_) xV
  rw [hs]
  refine g_callS ok q1240 q1241 q61 q1242 dX1_noteAt_17 (x_chkI0 X.l X.G _) (nm_ (by decide : nmb _ 1 = true)) (dl rfl) (dk rfl) rfl rfl (dk rfl) (by omega) kT (xT fun qx fx kx => ?_)
  exact g_out ok fn (hp_all (by decide)) ⟨_, rfl, fx, kx, rfl⟩ (by omega)
theorem s_versionAt1 (l : Launch) (G : GE) (h : AH) (x : Nat) (own : Nat → Nat) (hr : AH) (s : MS) (ru : Nat) (sv : Value) (hl hd hc : Nat) (hm : Int32) (hf : Nat → Option Nat) (inp ln : Nat) (bt rf : Value) (S : SRx G own hr h x s ru sv hl hd hc hm hf inp ln bt rf) (rt cl nl nd nc : Nat) (nm : Int32) (nf : Nat → Option Nat) (vl vd vc : Nat) (vm : Int32) (vf : Nat → Option Nat) (y : Rul G hr (fun q => own q = ru) ru (s.A 0) rt cl nl nd nc nm nf vl vd vc vm vf) (i : Nat) (hi : i < rV (s.A 0)) (b : Nat) (kb : vf i = some b) (fb : List Value) (rb : h b = some (ob 8 fb)) : GM l G yX1_versionAt (ws_ yX1_versionAt cX1_versionAt 2 (some (.object "SpanRuler$Version"))) 8 [.ref x, .int (nI i)] (h) (0) (PV (.ref b) h) := by
  refine GM.of (by decide) (dk rfl) ?_
  intro X eL eG eh ok fn
  subst eL; subst eG
  show GW X _ 0 0 [some (.ref x), some (.int (nI i))] []
  have n10 : rV (s.A 0) ≤ 5 := y.2.2.2.2.2.1.2.1.2
  have hs : inR (nI i) 0 (nI (rV (s.A 0)) - 1) = true := inR_of hi (by omega)
  have al := y.2.2.2.1.kp (fun e w => S.1 _ _ w) (fun z w => S.1 _ _ w)
  refine g_iload_n ok dX1_versionAt_0 rfl ?_
  refine g_iconst ok (v := 0) dX1_versionAt_1 rfl ?_
  refine g_aload_n ok dX1_versionAt_2 rfl ?_
  refine g_get ok ck_X1 0 q319 (Or.inl rfl) (by decide) dX1_versionAt_3 (Rd.h (S.2.2.1)) rfl ?_
  refine g_getN ok ck_X2 3 q249 rfl (by decide) dX1_versionAt_6 (Rd.h (S.1 _ _ y.1.1)) rfl ?_
  refine g_callV ok q1118 q1119 q1120 q70 q1121 (Recv.ob ok gc_J2 (Rd.h al.1)) dX1_versionAt_9 (al_size X.l X.G _ vl vd vc (rV (s.A 0)) vm vf al) (nm_ (by decide : nmb _ 0 = true)) (dl rfl) (dk rfl) rfl rfl (dk rfl) (by omega) (kV ?_) xV
  refine g_iconst ok (v := 1) dX1_versionAt_12 rfl ?_
  refine g_isub ok dX1_versionAt_13 ?_
  refine g_callS ok q1001 q1002 q61 q1003 dX1_versionAt_14 (x_isIn X.l X.G _ (nI i) 0 ((nI (rV (s.A 0))) - 1)) (nm_ (by decide : nmb _ 3 = true)) (dl rfl) (dk rfl) rfl rfl (dk rfl) (by omega) (kV ?_) xV
  rw [hs]
  refine g_callS ok q1240 q1241 q61 q1242 dX1_versionAt_17 (x_chkI1 X.l X.G _) (nm_ (by decide : nmb _ 1 = true)) (dl rfl) (dk rfl) rfl rfl (dk rfl) (by omega) (kN ?_) xN
  refine g_aload_n ok dX1_versionAt_20 rfl ?_
  refine g_get ok ck_X1 0 q319 (Or.inl rfl) (by decide) dX1_versionAt_21 (Rd.h (S.2.2.1)) rfl ?_
  refine g_getN ok ck_X2 3 q249 rfl (by decide) dX1_versionAt_24 (Rd.h (S.1 _ _ y.1.1)) rfl ?_
  refine g_iload_n ok dX1_versionAt_27 rfl ?_
  refine g_callV ok q1248 q514 q2739 q70 q516 (Recv.ob ok gc_J2 (Rd.h al.1)) dX1_versionAt_28 (al_get X.l X.G _ vl vd vc (rV (s.A 0)) vm vf al i b (by omega) kb) (nm_ (by decide : nmb _ 1 = true)) (dl rfl) (dk rfl) rfl rfl (dk rfl) (by omega) (kV ?_) xV
  refine g_castE ok q1501 dX1_versionAt_31 (Recv.ob ok gc_X12 (Rd.h rb)) ?_
  exact g_aret ok fn rfl (Or.inl ⟨_, rfl⟩) (Or.inr ⟨_, rfl⟩) dX1_versionAt_34 ⟨rfl, rfl⟩ (by omega)
theorem s_versionAt0 (l : Launch) (G : GE) (h : AH) (x : Nat) (own : Nat → Nat) (hr : AH) (s : MS) (ru : Nat) (sv : Value) (hl hd hc : Nat) (hm : Int32) (hf : Nat → Option Nat) (inp ln : Nat) (bt rf : Value) (S : SRx G own hr h x s ru sv hl hd hc hm hf inp ln bt rf) (rt cl nl nd nc : Nat) (nm : Int32) (nf : Nat → Option Nat) (vl vd vc : Nat) (vm : Int32) (vf : Nat → Option Nat) (y : Rul G hr (fun q => own q = ru) ru (s.A 0) rt cl nl nd nc nm nf vl vd vc vm vf) (p : Int32) (hs : inR p 0 (nI (rV (s.A 0)) - 1) = false) : GM l G yX1_versionAt (ws_ yX1_versionAt cX1_versionAt 2 (some (.object "SpanRuler$Version"))) 8 [.ref x, .int p] (h) (6) (PT G "java/lang/IndexOutOfBoundsException" 19 h) := by
  refine GM.of (by decide) (dk rfl) ?_
  intro X eL eG eh ok fn
  subst eL; subst eG
  show GW X _ 0 0 [some (.ref x), some (.int p)] []
  have al := y.2.2.2.1.kp (fun e w => S.1 _ _ w) (fun z w => S.1 _ _ w)
  refine g_iload_n ok dX1_versionAt_0 rfl ?_
  refine g_iconst ok (v := 0) dX1_versionAt_1 rfl ?_
  refine g_aload_n ok dX1_versionAt_2 rfl ?_
  refine g_get ok ck_X1 0 q319 (Or.inl rfl) (by decide) dX1_versionAt_3 (Rd.h (S.2.2.1)) rfl ?_
  refine g_getN ok ck_X2 3 q249 rfl (by decide) dX1_versionAt_6 (Rd.h (S.1 _ _ y.1.1)) rfl ?_
  refine g_callV ok q1118 q1119 q1120 q70 q1121 (Recv.ob ok gc_J2 (Rd.h al.1)) dX1_versionAt_9 (al_size X.l X.G _ vl vd vc (rV (s.A 0)) vm vf al) (nm_ (by decide : nmb _ 0 = true)) (dl rfl) (dk rfl) rfl rfl (dk rfl) (by omega) (kV ?_) xV
  refine g_iconst ok (v := 1) dX1_versionAt_12 rfl ?_
  refine g_isub ok dX1_versionAt_13 ?_
  refine g_callS ok q1001 q1002 q61 q1003 dX1_versionAt_14 (x_isIn X.l X.G _ p 0 ((nI (rV (s.A 0))) - 1)) (nm_ (by decide : nmb _ 3 = true)) (dl rfl) (dk rfl) rfl rfl (dk rfl) (by omega) (kV ?_) xV
  rw [hs]
  refine g_callS ok q1240 q1241 q61 q1242 dX1_versionAt_17 (x_chkI0 X.l X.G _) (nm_ (by decide : nmb _ 1 = true)) (dl rfl) (dk rfl) rfl rfl (dk rfl) (by omega) kT (xT fun qx fx kx => ?_)
  exact g_out ok fn (hp_all (by decide)) ⟨_, rfl, fx, kx, rfl⟩ (by omega)
