/-! THE MODEL: means and shares -/
set_option maxRecDepth 100000
abbrev cX8_mean : ByteArray := prog_19_method_69_code
def yX8_mean : MethodName := ⟨RX8, "mean", "(II)F"⟩
def dkwX8_mean_1 : List UInt8 := [96, 134, 110, 167, 0, 9, 42, 4, 182, 0, 58, 134, 174]
abbrev dktX8_mean_1 : List UInt8 := dkwX8_mean_1 ++ []
def dkwX8_mean_0 : List UInt8 := [42, 3, 181, 0, 45, 27, 28, 184, 0, 82, 153, 0, 20, 42, 27, 28, 182, 0, 101, 134, 28, 27, 100, 4]
abbrev dktX8_mean_0 : List UInt8 := dkwX8_mean_0 ++ dktX8_mean_1
theorem dksX8_mean_0 : cX8_mean.data.toList.drop 0 = dktX8_mean_0 := by decide +kernel
theorem dksX8_mean_1 : cX8_mean.data.toList.drop 24 = dktX8_mean_1 := dk_seg dksX8_mean_0 24 rfl rfl
theorem dX8_mean_0 : decode cX8_mean 0 = .ok (.aload_n 0, 1) := dk_42 (dk_at dksX8_mean_0 0 rfl rfl)
theorem dX8_mean_1 : decode cX8_mean 1 = .ok (.iconst 0, 1) := dk_3 (dk_at dksX8_mean_0 1 rfl rfl)
theorem dX8_mean_2 : decode cX8_mean 2 = .ok (.putfield 45, 3) := dk_181 0 45 (dk_at dksX8_mean_0 2 rfl rfl)
theorem dX8_mean_5 : decode cX8_mean 5 = .ok (.iload_n 1, 1) := dk_27 (dk_at dksX8_mean_0 5 rfl rfl)
theorem dX8_mean_6 : decode cX8_mean 6 = .ok (.iload_n 2, 1) := dk_28 (dk_at dksX8_mean_0 6 rfl rfl)
theorem dX8_mean_7 : decode cX8_mean 7 = .ok (.invokestatic 82, 3) := dk_184 0 82 (dk_at dksX8_mean_0 7 rfl rfl)
theorem dX8_mean_10 : decode cX8_mean 10 = .ok (.ifCond .eq 20, 3) := dk_153 0 20 (dk_at dksX8_mean_0 10 rfl rfl)
theorem dX8_mean_13 : decode cX8_mean 13 = .ok (.aload_n 0, 1) := dk_42 (dk_at dksX8_mean_0 13 rfl rfl)
theorem dX8_mean_14 : decode cX8_mean 14 = .ok (.iload_n 1, 1) := dk_27 (dk_at dksX8_mean_0 14 rfl rfl)
theorem dX8_mean_15 : decode cX8_mean 15 = .ok (.iload_n 2, 1) := dk_28 (dk_at dksX8_mean_0 15 rfl rfl)
theorem dX8_mean_16 : decode cX8_mean 16 = .ok (.invokevirtual 101, 3) := dk_182 0 101 (dk_at dksX8_mean_0 16 rfl rfl)
theorem dX8_mean_19 : decode cX8_mean 19 = .ok (.i2f, 1) := dk_134 (dk_at dksX8_mean_0 19 rfl rfl)
theorem dX8_mean_20 : decode cX8_mean 20 = .ok (.iload_n 2, 1) := dk_28 (dk_at dksX8_mean_0 20 rfl rfl)
theorem dX8_mean_21 : decode cX8_mean 21 = .ok (.iload_n 1, 1) := dk_27 (dk_at dksX8_mean_0 21 rfl rfl)
theorem dX8_mean_22 : decode cX8_mean 22 = .ok (.isub, 1) := dk_100 (dk_at dksX8_mean_0 22 rfl rfl)
theorem dX8_mean_23 : decode cX8_mean 23 = .ok (.iconst 1, 1) := dk_4 (dk_at dksX8_mean_0 23 rfl rfl)
theorem dX8_mean_24 : decode cX8_mean 24 = .ok (.iadd, 1) := dk_96 (dk_at dksX8_mean_1 0 rfl rfl)
theorem dX8_mean_25 : decode cX8_mean 25 = .ok (.i2f, 1) := dk_134 (dk_at dksX8_mean_1 1 rfl rfl)
theorem dX8_mean_26 : decode cX8_mean 26 = .ok (.fdiv, 1) := dk_110 (dk_at dksX8_mean_1 2 rfl rfl)
theorem dX8_mean_27 : decode cX8_mean 27 = .ok (.goto 9, 3) := dk_167 0 9 (dk_at dksX8_mean_1 3 rfl rfl)
theorem dX8_mean_30 : decode cX8_mean 30 = .ok (.aload_n 0, 1) := dk_42 (dk_at dksX8_mean_1 6 rfl rfl)
theorem dX8_mean_31 : decode cX8_mean 31 = .ok (.iconst 1, 1) := dk_4 (dk_at dksX8_mean_1 7 rfl rfl)
theorem dX8_mean_32 : decode cX8_mean 32 = .ok (.invokevirtual 58, 3) := dk_182 0 58 (dk_at dksX8_mean_1 8 rfl rfl)
theorem dX8_mean_35 : decode cX8_mean 35 = .ok (.i2f, 1) := dk_134 (dk_at dksX8_mean_1 11 rfl rfl)
theorem dX8_mean_36 : decode cX8_mean 36 = .ok (.freturn, 1) := dk_174 (dk_at dksX8_mean_1 12 rfl rfl)
abbrev cX8_share : ByteArray := prog_19_method_70_code
def yX8_share : MethodName := ⟨RX8, "share", "(I)D"⟩
def dkwX8_share_1 : List UInt8 := [167, 0, 9, 42, 4, 182, 0, 58, 135, 175]
abbrev dktX8_share_1 : List UInt8 := dkwX8_share_1 ++ []
def dkwX8_share_0 : List UInt8 := [42, 3, 181, 0, 45, 27, 184, 0, 122, 153, 0, 16, 42, 27, 182, 0, 176, 135, 20, 0, 204, 111]
abbrev dktX8_share_0 : List UInt8 := dkwX8_share_0 ++ dktX8_share_1
theorem dksX8_share_0 : cX8_share.data.toList.drop 0 = dktX8_share_0 := by decide +kernel
theorem dksX8_share_1 : cX8_share.data.toList.drop 22 = dktX8_share_1 := dk_seg dksX8_share_0 22 rfl rfl
theorem dX8_share_0 : decode cX8_share 0 = .ok (.aload_n 0, 1) := dk_42 (dk_at dksX8_share_0 0 rfl rfl)
theorem dX8_share_1 : decode cX8_share 1 = .ok (.iconst 0, 1) := dk_3 (dk_at dksX8_share_0 1 rfl rfl)
theorem dX8_share_2 : decode cX8_share 2 = .ok (.putfield 45, 3) := dk_181 0 45 (dk_at dksX8_share_0 2 rfl rfl)
theorem dX8_share_5 : decode cX8_share 5 = .ok (.iload_n 1, 1) := dk_27 (dk_at dksX8_share_0 5 rfl rfl)
theorem dX8_share_6 : decode cX8_share 6 = .ok (.invokestatic 122, 3) := dk_184 0 122 (dk_at dksX8_share_0 6 rfl rfl)
theorem dX8_share_9 : decode cX8_share 9 = .ok (.ifCond .eq 16, 3) := dk_153 0 16 (dk_at dksX8_share_0 9 rfl rfl)
theorem dX8_share_12 : decode cX8_share 12 = .ok (.aload_n 0, 1) := dk_42 (dk_at dksX8_share_0 12 rfl rfl)
theorem dX8_share_13 : decode cX8_share 13 = .ok (.iload_n 1, 1) := dk_27 (dk_at dksX8_share_0 13 rfl rfl)
theorem dX8_share_14 : decode cX8_share 14 = .ok (.invokevirtual 176, 3) := dk_182 0 176 (dk_at dksX8_share_0 14 rfl rfl)
theorem dX8_share_17 : decode cX8_share 17 = .ok (.i2d, 1) := dk_135 (dk_at dksX8_share_0 17 rfl rfl)
theorem dX8_share_18 : decode cX8_share 18 = .ok (.ldc2_w 204, 3) := dk_20 0 204 (dk_at dksX8_share_0 18 rfl rfl)
theorem dX8_share_21 : decode cX8_share 21 = .ok (.ddiv, 1) := dk_111 (dk_at dksX8_share_0 21 rfl rfl)
theorem dX8_share_22 : decode cX8_share 22 = .ok (.goto 9, 3) := dk_167 0 9 (dk_at dksX8_share_1 0 rfl rfl)
theorem dX8_share_25 : decode cX8_share 25 = .ok (.aload_n 0, 1) := dk_42 (dk_at dksX8_share_1 3 rfl rfl)
theorem dX8_share_26 : decode cX8_share 26 = .ok (.iconst 1, 1) := dk_4 (dk_at dksX8_share_1 4 rfl rfl)
theorem dX8_share_27 : decode cX8_share 27 = .ok (.invokevirtual 58, 3) := dk_182 0 58 (dk_at dksX8_share_1 5 rfl rfl)
theorem dX8_share_30 : decode cX8_share 30 = .ok (.i2d, 1) := dk_135 (dk_at dksX8_share_1 8 rfl rfl)
theorem dX8_share_31 : decode cX8_share 31 = .ok (.dreturn, 1) := dk_175 (dk_at dksX8_share_1 9 rfl rfl)
theorem q2572 : (Jvm.Cond.constantDouble "SpanRulerModel" (204 : Nat) (4629700416936869888 : UInt64)) ∈ lw_all := lw_g (lw_at lw_m11 112 rfl) rfl
/-! quotients that are numbers -/
theorem n32_of {r : UInt32} (h : FP.Core.decode FP.Core.b32 r.toNat ≠ .nan) : vf_n32 r := by
  have e1 : FP.Core.b32.tails = 2 ^ 23 := by decide
  have e2 : FP.Core.b32.exps = 256 := by decide
  have hl : r.toNat < 2 ^ 32 := r.toNat_lt
  unfold vf_n32
  rw [UInt32.le_iff_toNat_le, UInt32.toNat_and]
  show r.toNat &&& (2 ^ 31 - 1) ≤ 2139095040
  rw [Nat.and_two_pow_sub_one_eq_mod]
  unfold FP.Core.decode FP.Core.fieldE FP.Core.fieldT at h
  rw [e1, e2] at h
  by_cases c : r.toNat / 2 ^ 23 % 256 = 256 - 1
  · rw [if_pos c] at h
    by_cases d : r.toNat % 2 ^ 23 = 0
    · omega
    · rw [if_neg d] at h; exact absurd rfl h
  · omega
theorem n64_of {r : UInt64} (h : FP.Core.decode FP.Core.b64 r.toNat ≠ .nan) : vf_n64 r := by
  have e1 : FP.Core.b64.tails = 2 ^ 52 := by decide
  have e2 : FP.Core.b64.exps = 2048 := by decide
  have hl : r.toNat < 2 ^ 64 := r.toNat_lt
  unfold vf_n64
  rw [UInt64.le_iff_toNat_le, UInt64.toNat_and]
  show r.toNat &&& (2 ^ 63 - 1) ≤ 9218868437227405312
  rw [Nat.and_two_pow_sub_one_eq_mod]
  unfold FP.Core.decode FP.Core.fieldE FP.Core.fieldT at h
  rw [e1, e2] at h
  by_cases c : r.toNat / 2 ^ 52 % 2048 = 2048 - 1
  · rw [if_pos c] at h
    by_cases d : r.toNat % 2 ^ 52 = 0
    · omega
    · rw [if_neg d] at h; exact absurd rfl h
  · omega
theorem dec32 {r : UInt32} (h : vf_n32 r) : FP.Core.decode FP.Core.b32 r.toNat ≠ .nan := by
  have e1 : FP.Core.b32.tails = 2 ^ 23 := by decide
  have e2 : FP.Core.b32.exps = 256 := by decide
  unfold vf_n32 at h
  rw [UInt32.le_iff_toNat_le, UInt32.toNat_and] at h
  have h : r.toNat &&& (2 ^ 31 - 1) ≤ 2139095040 := h
  rw [Nat.and_two_pow_sub_one_eq_mod] at h
  unfold FP.Core.decode FP.Core.fieldE FP.Core.fieldT
  rw [e1, e2]
  split
  · rw [if_pos (by omega)]; intro z; cases z
  · split <;> (intro z; cases z)
theorem dec64 {r : UInt64} (h : vf_n64 r) : FP.Core.decode FP.Core.b64 r.toNat ≠ .nan := by
  have e1 : FP.Core.b64.tails = 2 ^ 52 := by decide
  have e2 : FP.Core.b64.exps = 2048 := by decide
  unfold vf_n64 at h
  rw [UInt64.le_iff_toNat_le, UInt64.toNat_and] at h
  have h : r.toNat &&& (2 ^ 63 - 1) ≤ 9218868437227405312 := h
  rw [Nat.and_two_pow_sub_one_eq_mod] at h
  unfold FP.Core.decode FP.Core.fieldE FP.Core.fieldT
  rw [e1, e2]
  split
  · rw [if_pos (by omega)]; intro z; cases z
  · split <;> (intro z; cases z)
/-- a datum that can be written -/
def DOk (f : FP.Core.Fmt) (d : FP.Core.Datum) : Prop := match d with
  | .nan => False
  | .inf _ => True
  | .fin _ c q => c < 2 ^ f.p ∧ q ≤ f.qmax
theorem rr_ok {f : FP.Core.Fmt} (hf : f = FP.Core.b32 ∨ f = FP.Core.b64) {s : Bool} {a b : Nat} {e : Int} : DOk f (FP.Core.roundRatio f s a b e) := by
  have ht : f.tails < 2 ^ f.p := by rcases hf with e | e <;> subst e <;> decide
  have hq : f.qmin ≤ f.qmax := by rcases hf with e | e <;> subst e <;> decide
  have h0 : 0 < 2 ^ f.p := Nat.two_pow_pos _
  unfold FP.Core.roundRatio
  split
  · exact ⟨h0, hq⟩
  · unfold FP.Core.roundAt FP.Core.settle FP.Core.bound
    split
    · split
      · exact ⟨by assumption, by assumption⟩
      · exact trivial
    · split
      · exact ⟨ht, by assumption⟩
      · exact trivial
theorem ri_ok {f : FP.Core.Fmt} (hf : f = FP.Core.b32 ∨ f = FP.Core.b64) {i : Int} : DOk f (FP.Core.round f (FP.Core.ofInt i)) := rr_ok hf
theorem qu_ok {f : FP.Core.Fmt} (hf : f = FP.Core.b32 ∨ f = FP.Core.b64) {d : FP.Core.Datum} {t : Bool} {c : Nat} {r : Int} (h : d ≠ .nan) (hc : c ≠ 0) : DOk f (FP.Core.quotient f d (.fin t c r)) := by
  cases d with
  | nan => exact absurd rfl h
  | inf s => exact trivial
  | fin s b q =>
    have e : FP.Core.quotient f (.fin s b q) (.fin t c r) = FP.Core.roundRatio f (s != t) b c (q - r) := by simp [FP.Core.quotient, hc]
    rw [e]; exact rr_ok hf
theorem enc32 {d : FP.Core.Datum} (h : DOk FP.Core.b32 d) : vf_n32 (UInt32.ofNat (FP.Core.encode FP.Core.b32 d)) := by
  have e1 : FP.Core.b32.tails = 2 ^ 23 := by decide
  have e2 : FP.Core.b32.exps = 256 := by decide
  have e3 : FP.Core.b32.p = 24 := rfl
  have e4 : FP.Core.b32.qmax = 104 := by decide
  have e5 : FP.Core.b32.qmin = -149 := by decide
  have key : ∀ (s : Bool) (e t : Nat), e * 2 ^ 23 + t ≤ 255 * 2 ^ 23 → vf_n32 (UInt32.ofNat (FP.Core.assemble FP.Core.b32 s e t)) := by
    intro s e t ht
    unfold vf_n32
    rw [UInt32.le_iff_toNat_le, UInt32.toNat_and]
    show (UInt32.ofNat _).toNat &&& (2 ^ 31 - 1) ≤ 2139095040
    rw [Nat.and_two_pow_sub_one_eq_mod, UInt32.toNat_ofNat']
    unfold FP.Core.assemble
    rw [e1, e2]
    cases s
    · show (0 * 256 + e) * 2 ^ 23 + t |> fun z => z % 2 ^ 32 % 2 ^ 31 ≤ 2139095040
      omega
    · show (1 * 256 + e) * 2 ^ 23 + t |> fun z => z % 2 ^ 32 % 2 ^ 31 ≤ 2139095040
      omega
  cases d with
  | nan => exact h.elim
  | inf s =>
    refine key s _ _ ?_
    rw [e2]; decide
  | fin s c q =>
    obtain ⟨h1, h2⟩ := h
    rw [e3] at h1
    rw [e4] at h2
    show vf_n32 (UInt32.ofNat (if c < FP.Core.b32.tails then FP.Core.assemble FP.Core.b32 s 0 c else FP.Core.assemble FP.Core.b32 s ((q - FP.Core.b32.qmin).toNat + 1) (c - FP.Core.b32.tails)))
    split
    · rename_i hc
      rw [e1] at hc
      exact key s 0 c (by omega)
    · rename_i hc
      rw [e1] at hc
      refine key s _ _ ?_
      rw [e5, e1]
      omega
theorem enc64 {d : FP.Core.Datum} (h : DOk FP.Core.b64 d) : vf_n64 (UInt64.ofNat (FP.Core.encode FP.Core.b64 d)) := by
  have e1 : FP.Core.b64.tails = 2 ^ 52 := by decide
  have e2 : FP.Core.b64.exps = 2048 := by decide
  have e3 : FP.Core.b64.p = 53 := rfl
  have e4 : FP.Core.b64.qmax = 971 := by decide
  have e5 : FP.Core.b64.qmin = -1074 := by decide
  have key : ∀ (s : Bool) (e t : Nat), e * 2 ^ 52 + t ≤ 2047 * 2 ^ 52 → vf_n64 (UInt64.ofNat (FP.Core.assemble FP.Core.b64 s e t)) := by
    intro s e t ht
    unfold vf_n64
    rw [UInt64.le_iff_toNat_le, UInt64.toNat_and]
    show (UInt64.ofNat _).toNat &&& (2 ^ 63 - 1) ≤ 9218868437227405312
    rw [Nat.and_two_pow_sub_one_eq_mod, UInt64.toNat_ofNat']
    unfold FP.Core.assemble
    rw [e1, e2]
    cases s
    · show (0 * 2048 + e) * 2 ^ 52 + t |> fun z => z % 2 ^ 64 % 2 ^ 63 ≤ 9218868437227405312
      omega
    · show (1 * 2048 + e) * 2 ^ 52 + t |> fun z => z % 2 ^ 64 % 2 ^ 63 ≤ 9218868437227405312
      omega
  cases d with
  | nan => exact h.elim
  | inf s =>
    refine key s _ _ ?_
    rw [e2]; decide
  | fin s c q =>
    obtain ⟨h1, h2⟩ := h
    rw [e3] at h1
    rw [e4] at h2
    show vf_n64 (UInt64.ofNat (if c < FP.Core.b64.tails then FP.Core.assemble FP.Core.b64 s 0 c else FP.Core.assemble FP.Core.b64 s ((q - FP.Core.b64.qmin).toNat + 1) (c - FP.Core.b64.tails)))
    split
    · rename_i hc
      rw [e1] at hc
      exact key s 0 c (by omega)
    · rename_i hc
      rw [e1] at hc
      refine key s _ _ ?_
      rw [e5, e1]
      omega
theorem i2f_n (x : Int32) : vf_n32 (FP.i2f x) := enc32 (ri_ok (Or.inl rfl))
theorem i2d_n (x : Int32) : vf_n64 (FP.i2d x) := enc64 (ri_ok (Or.inr rfl))
theorem rn_fin : ∀ n : Nat, n < 33 → 0 < n → ∃ s c q, FP.Core.decode FP.Core.b32 (FP.i2f (nI n)).toNat = .fin s c q ∧ c ≠ 0 := by
  have : ∀ n : Nat, n < 33 → 0 < n → (match FP.Core.decode FP.Core.b32 (FP.i2f (nI n)).toNat with | .fin _ c _ => decide (c ≠ 0) | _ => false) = true := by decide +kernel
  intro n h1 h2
  have z := this n h1 h2
  cases e : FP.Core.decode FP.Core.b32 (FP.i2f (nI n)).toNat with
  | nan => rw [e] at z; cases z
  | inf s => rw [e] at z; cases z
  | fin s c q =>
    rw [e] at z
    exact ⟨s, c, q, rfl, by simpa using z⟩
/-- a mean is a number -/
theorem mean_n (x : Int32) {n : Nat} (h1 : n < 33) (h2 : 0 < n) : vf_n32 (FP.fdiv (FP.i2f x) (FP.i2f (nI n))) := by
  show vf_n32 (UInt32.ofNat (FP.Core.encode FP.Core.b32 (FP.Core.quotient FP.Core.b32 (FP.Core.decode FP.Core.b32 (FP.i2f x).toNat) (FP.Core.decode FP.Core.b32 (FP.i2f (nI n)).toNat))))
  obtain ⟨s, c, q, e, hc⟩ := rn_fin n h1 h2
  rw [e]
  exact enc32 (qu_ok (Or.inl rfl) (dec32 (i2f_n x)) hc)
def c32 : UInt64 := 0x4040000000000000
theorem share_n (x : Int32) : vf_n64 (FP.ddiv (FP.i2d x) c32) := by
  show vf_n64 (UInt64.ofNat (FP.Core.encode FP.Core.b64 (FP.Core.quotient FP.Core.b64 (FP.Core.decode FP.Core.b64 (FP.i2d x).toNat) (FP.Core.decode FP.Core.b64 c32.toNat))))
  have : FP.Core.decode FP.Core.b64 c32.toNat = .fin false 4503599627370496 (-47) := by decide +kernel
  rw [this]
  exact enc64 (qu_ok (Or.inr rfl) (dec64 (i2d_n x)) (by decide))
def mMean (s : MS) (a b : Int32) : UInt32 × MS := if isSp a b = true then (FP.fdiv (FP.i2f (mSum s (nn a) (sp a b))) (FP.i2f (nI (nn b + 1 - nn a))), mI s 20 0) else (FP.i2f 0, mI (mI s 20 0) 20 1)
def mShare (s : MS) (x : Int32) : UInt64 × MS := if isCo x = true then (FP.ddiv (FP.i2d (mal (s.A 0) x 32 0 0)) c32, mI s 20 0) else (FP.i2d 0, mI (mI s 20 0) 20 1)
theorem pv_f {G : GE} {h0 : AH} {ad : Nat → Nat} {s s1 : MS} {v v1 : UInt32} (e1 : v = v1) (e2 : s = s1) : PV (.float v1) (mput G h0 ad s1) (.inl (some (.float v))) (mput G h0 ad s) := by
  subst e1 e2; exact ⟨rfl, rfl⟩
theorem pv_d {G : GE} {h0 : AH} {ad : Nat → Nat} {s s1 : MS} {v v1 : UInt64} (e1 : v = v1) (e2 : s = s1) : PV (.double v1) (mput G h0 ad s1) (.inl (some (.double v))) (mput G h0 ad s) := by
  subst e1 e2; exact ⟨rfl, rfl⟩
theorem m_mean (l : Launch) (G : GE) {h0 : AH} {ad : Nat → Nat} (hA : MAd ad) (s : MS) (a b : Int32) : GM l G yX8_mean (ws_ yX8_mean cX8_mean 3 (some .float)) 4 [.ref (ad 20), .int a, .int b] (mput G h0 ad s) (0) (PV (.float (mMean s a b).1) (mput G h0 ad (mMean s a b).2)) := by
  refine GM.of (by decide) (dk rfl) ?_
  intro X eL eG eh ok fn
  subst eL; subst eG
  show GW X _ 0 0 [some (.ref (ad 20)), some (.int a), some (.int b)] []
  refine g_aload_n ok dX8_mean_0 rfl ?_
  refine g_iconst ok (v := 0) dX8_mean_1 rfl ?_
  refine m_put ok hA 20 q2255 (by decide) dX8_mean_2 ⟨rfl, rfl⟩ ?_
  refine g_iload_n ok dX8_mean_5 rfl ?_
  refine g_iload_n ok dX8_mean_6 rfl ?_
  refine g_callS ok q2315 q2316 q75 q2317 dX8_mean_7 (m_isSpan X.l X.G _ a b) (nm_ (by decide : nmb _ 2 = true)) (dl rfl) (dk rfl) rfl rfl (dk rfl) (dk rfl) (kV ?_) xV
  refine g_if_eq ok (tgt := 30) dX8_mean_10 (by decide) (fun c10 => ?_) (fun c10 => ?_)
  · have c10' := bI_e c10
    refine g_aload_n ok dX8_mean_30 rfl ?_
    refine g_iconst ok (v := 1) dX8_mean_31 rfl ?_
    refine g_callV ok q2362 q2364 qs33 q75 q2365 (m_recv ok hA) dX8_mean_32 (m_raises X.l X.G hA (h0 := h0) (mI s 20 0) 1) (nm_ (by decide : nmb _ 1 = true)) (dl rfl) (dk rfl) rfl rfl (dk rfl) (dk rfl) (kV ?_) xV
    refine g_i2f ok dX8_mean_35 ?_
    exact g_fret ok fn rfl dX8_mean_36 (pv_f (by simp [mMean, c10']) (by simp [mMean, c10'])) (dk rfl)
  · have c10' := bI_n c10
    have hs_ : mMean s a b = (FP.fdiv (FP.i2f (mSum s (nn a) (sp a b))) (FP.i2f (nI (nn b + 1 - nn a))), mI s 20 0) := by unfold mMean; rw [if_pos c10']
    rw [hs_] at fn
    clear hs_
    obtain ⟨e1, e2, h3, h4⟩ := isSp_n c10'
    have e3 : sp a b = nn b + 1 - nn a := rfl
    try rw [e3] at fn
    clear e3
    generalize nn a = i at *
    subst e1
    generalize nn b = j at *
    subst e2
    refine g_aload_n ok dX8_mean_13 rfl ?_
    refine g_iload_n ok dX8_mean_14 rfl ?_
    refine g_iload_n ok dX8_mean_15 rfl ?_
    refine g_callV ok q2346 q2348 qs29 q75 q2349 (m_recv ok hA) dX8_mean_16 (m_sumN X.l X.G hA (h0 := h0) (mI s 20 0) i j (by omega) (by omega)) (nm_ (by decide : nmb _ 2 = true)) (dl rfl) (dk rfl) rfl rfl (dk rfl) (dk rfl) (kV (v := .int (sm (MS.A s 0) (j + 1 - i) i 0)) ?_) xV
    refine g_i2f ok dX8_mean_19 ?_
    refine g_iload_n ok dX8_mean_20 rfl ?_
    refine g_iload_n ok dX8_mean_21 rfl ?_
    refine g_isubN ok dX8_mean_22 (c := (j - i)) (a := j) (b := i) rfl rfl (by omega) (by omega) ?_
    refine g_iconst ok (v := 1) dX8_mean_23 rfl ?_
    refine g_iaddN ok dX8_mean_24 (c := ((j - i) + 1)) (a := (j - i)) (b := 1) rfl rfl rfl ?_
    refine g_i2f ok dX8_mean_25 ?_
    rw [show j - i + 1 = j + 1 - i by omega]
    refine g_fdiv ok dX8_mean_26 (mean_n _ (by omega) (by omega)) ?_
    refine g_goto ok dX8_mean_27 (tgt := 36) (by decide) ?_
    exact g_fret ok fn rfl dX8_mean_36 (pv_f rfl rfl) (dk rfl)
theorem m_share (l : Launch) (G : GE) {h0 : AH} {ad : Nat → Nat} (hA : MAd ad) (s : MS) (x : Int32) : GM l G yX8_share (ws_ yX8_share cX8_share 2 (some .double)) 3 [.ref (ad 20), .int x] (mput G h0 ad s) (0) (PV (.double (mShare s x).1) (mput G h0 ad (mShare s x).2)) := by
  refine GM.of (by decide) (dk rfl) ?_
  intro X eL eG eh ok fn
  subst eL; subst eG
  show GW X _ 0 0 [some (.ref (ad 20)), some (.int x)] []
  refine g_aload_n ok dX8_share_0 rfl ?_
  refine g_iconst ok (v := 0) dX8_share_1 rfl ?_
  refine m_put ok hA 20 q2255 (by decide) dX8_share_2 ⟨rfl, rfl⟩ ?_
  refine g_iload_n ok dX8_share_5 rfl ?_
  refine g_callS ok q2390 q2391 q75 q2392 dX8_share_6 (m_isColour X.l X.G _ x) (nm_ (by decide : nmb _ 1 = true)) (dl rfl) (dk rfl) rfl rfl (dk rfl) (dk rfl) (kV ?_) xV
  refine g_if_eq ok (tgt := 25) dX8_share_9 (by decide) (fun c9 => ?_) (fun c9 => ?_)
  · have c9' := bI_e c9
    refine g_aload_n ok dX8_share_25 rfl ?_
    refine g_iconst ok (v := 1) dX8_share_26 rfl ?_
    refine g_callV ok q2362 q2364 qs33 q75 q2365 (m_recv ok hA) dX8_share_27 (m_raises X.l X.G hA (h0 := h0) (mI s 20 0) 1) (nm_ (by decide : nmb _ 1 = true)) (dl rfl) (dk rfl) rfl rfl (dk rfl) (dk rfl) (kV ?_) xV
    refine g_i2d ok dX8_share_30 ?_
    exact g_dret ok fn rfl dX8_share_31 (pv_d (by simp [mShare, mI_A, c9']) (by simp [mShare, c9'])) (dk rfl)
  · have c9' := bI_n c9
    refine g_aload_n ok dX8_share_12 rfl ?_
    refine g_iload_n ok dX8_share_13 rfl ?_
    refine g_callV ok q2509 q2511 qs46 q75 q2512 (m_recv ok hA) dX8_share_14 (m_many X.l X.G hA (h0 := h0) (mI s 20 0) x) (nm_ (by decide : nmb _ 1 = true)) (dl rfl) (dk rfl) rfl rfl (dk rfl) (dk rfl) (kV (v := .int (mal (MS.A s 0) x 32 0 0)) ?_) xV
    refine g_i2d ok dX8_share_17 ?_
    refine g_ldc2d ok (v := c32) q2572 dX8_share_18 ?_
    refine g_ddiv ok dX8_share_21 (share_n _) ?_
    refine g_goto ok dX8_share_22 (tgt := 31) (by decide) ?_
    exact g_dret ok fn rfl dX8_share_31 (pv_d (by simp [mShare, mI_A, c9']) (by simp [mShare, c9'])) (dk rfl)
