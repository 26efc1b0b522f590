/-! the SpanRuler: account -/
set_option maxRecDepth 100000
abbrev cX1_account : ByteArray := prog_1_method_55_code
def yX1_account : MethodName := ⟨RX1, "account", "(I)I"⟩
def dkwX1_account_7 : List UInt8 := [180, 0, 126, 180, 1, 123, 167, 0, 17, 42, 180, 1, 126, 167, 0, 10, 42, 180, 0, 133, 182, 0, 148, 172]
abbrev dktX1_account_7 : List UInt8 := dkwX1_account_7 ++ []
def dkwX1_account_6 : List UInt8 := [167, 0, 47, 42, 180, 0, 126, 180, 1, 119, 167, 0, 37, 42, 180, 0, 126, 180, 1, 120, 167, 0, 27, 42]
abbrev dktX1_account_6 : List UInt8 := dkwX1_account_6 ++ dktX1_account_7
def dkwX1_account_5 : List UInt8 := [167, 0, 70, 42, 180, 0, 126, 180, 1, 116, 167, 0, 60, 42, 180, 0, 126, 180, 0, 174, 182, 0, 148]
abbrev dktX1_account_5 : List UInt8 := dkwX1_account_5 ++ dktX1_account_6
def dkwX1_account_4 : List UInt8 := [182, 0, 148, 167, 0, 90, 42, 180, 0, 126, 180, 1, 110, 167, 0, 80, 42, 180, 0, 126, 180, 1, 113]
abbrev dktX1_account_4 : List UInt8 := dkwX1_account_4 ++ dktX1_account_5
def dkwX1_account_3 : List UInt8 := [167, 0, 117, 16, 32, 42, 180, 0, 126, 3, 182, 1, 105, 100, 167, 0, 103, 42, 180, 0, 126, 180, 0, 185]
abbrev dktX1_account_3 : List UInt8 := dkwX1_account_3 ++ dktX1_account_4
def dkwX1_account_2 : List UInt8 := [42, 180, 0, 126, 3, 16, 31, 182, 1, 9, 167, 0, 131, 42, 180, 0, 126, 3, 16, 31, 3, 182, 1, 33]
abbrev dktX1_account_2 : List UInt8 := dkwX1_account_2 ++ dktX1_account_3
def dkwX1_account_1 : List UInt8 := [170, 0, 0, 0, 195, 0, 0, 0, 0, 0, 0, 0, 11, 0, 0, 0, 61, 0, 0, 0, 74, 0, 0, 0, 88, 0, 0, 0, 102, 0, 0, 0, 115, 0, 0, 0, 125, 0, 0, 0, 135, 0, 0, 0, 145, 0, 0, 0, 158, 0, 0, 0, 168, 0, 0, 0, 178, 0, 0, 0, 188]
abbrev dktX1_account_1 : List UInt8 := dkwX1_account_1 ++ dktX1_account_2
def dkwX1_account_0 : List UInt8 := [27, 3, 16, 12, 184, 0, 3, 184, 0, 170, 27]
abbrev dktX1_account_0 : List UInt8 := dkwX1_account_0 ++ dktX1_account_1
theorem dksX1_account_0 : cX1_account.data.toList.drop 0 = dktX1_account_0 := by decide +kernel
theorem dksX1_account_1 : cX1_account.data.toList.drop 11 = dktX1_account_1 := dk_seg dksX1_account_0 11 rfl rfl
theorem dksX1_account_2 : cX1_account.data.toList.drop 72 = dktX1_account_2 := dk_seg dksX1_account_1 61 rfl rfl
theorem dksX1_account_3 : cX1_account.data.toList.drop 96 = dktX1_account_3 := dk_seg dksX1_account_2 24 rfl rfl
theorem dksX1_account_4 : cX1_account.data.toList.drop 120 = dktX1_account_4 := dk_seg dksX1_account_3 24 rfl rfl
theorem dksX1_account_5 : cX1_account.data.toList.drop 143 = dktX1_account_5 := dk_seg dksX1_account_4 23 rfl rfl
theorem dksX1_account_6 : cX1_account.data.toList.drop 166 = dktX1_account_6 := dk_seg dksX1_account_5 23 rfl rfl
theorem dksX1_account_7 : cX1_account.data.toList.drop 190 = dktX1_account_7 := dk_seg dksX1_account_6 24 rfl rfl
theorem dX1_account_0 : decode cX1_account 0 = .ok (.iload_n 1, 1) := dk_27 (dk_at dksX1_account_0 0 rfl rfl)
theorem dX1_account_1 : decode cX1_account 1 = .ok (.iconst 0, 1) := dk_3 (dk_at dksX1_account_0 1 rfl rfl)
theorem dX1_account_2 : decode cX1_account 2 = .ok (.bipush 12, 2) := dk_16 12 (dk_at dksX1_account_0 2 rfl rfl)
theorem dX1_account_4 : decode cX1_account 4 = .ok (.invokestatic 3, 3) := dk_184 0 3 (dk_at dksX1_account_0 4 rfl rfl)
theorem dX1_account_7 : decode cX1_account 7 = .ok (.invokestatic 170, 3) := dk_184 0 170 (dk_at dksX1_account_0 7 rfl rfl)
theorem dX1_account_10 : decode cX1_account 10 = .ok (.iload_n 1, 1) := dk_27 (dk_at dksX1_account_0 10 rfl rfl)
theorem dX1_account_11 : decode cX1_account 11 = .ok (.tableswitch 195 0 11 #[61, 74, 88, 102, 115, 125, 135, 145, 158, 168, 178, 188], 61) := by decide +kernel
theorem dX1_account_72 : decode cX1_account 72 = .ok (.aload_n 0, 1) := dk_42 (dk_at dksX1_account_2 0 rfl rfl)
theorem dX1_account_73 : decode cX1_account 73 = .ok (.getfield 126, 3) := dk_180 0 126 (dk_at dksX1_account_2 1 rfl rfl)
theorem dX1_account_76 : decode cX1_account 76 = .ok (.iconst 0, 1) := dk_3 (dk_at dksX1_account_2 4 rfl rfl)
theorem dX1_account_77 : decode cX1_account 77 = .ok (.bipush 31, 2) := dk_16 31 (dk_at dksX1_account_2 5 rfl rfl)
theorem dX1_account_79 : decode cX1_account 79 = .ok (.invokevirtual 265, 3) := dk_182 1 9 (dk_at dksX1_account_2 7 rfl rfl)
theorem dX1_account_82 : decode cX1_account 82 = .ok (.goto 131, 3) := dk_167 0 131 (dk_at dksX1_account_2 10 rfl rfl)
theorem dX1_account_85 : decode cX1_account 85 = .ok (.aload_n 0, 1) := dk_42 (dk_at dksX1_account_2 13 rfl rfl)
theorem dX1_account_86 : decode cX1_account 86 = .ok (.getfield 126, 3) := dk_180 0 126 (dk_at dksX1_account_2 14 rfl rfl)
theorem dX1_account_89 : decode cX1_account 89 = .ok (.iconst 0, 1) := dk_3 (dk_at dksX1_account_2 17 rfl rfl)
theorem dX1_account_90 : decode cX1_account 90 = .ok (.bipush 31, 2) := dk_16 31 (dk_at dksX1_account_2 18 rfl rfl)
theorem dX1_account_92 : decode cX1_account 92 = .ok (.iconst 0, 1) := dk_3 (dk_at dksX1_account_2 20 rfl rfl)
theorem dX1_account_93 : decode cX1_account 93 = .ok (.invokevirtual 289, 3) := dk_182 1 33 (dk_at dksX1_account_2 21 rfl rfl)
theorem dX1_account_96 : decode cX1_account 96 = .ok (.goto 117, 3) := dk_167 0 117 (dk_at dksX1_account_3 0 rfl rfl)
theorem dX1_account_99 : decode cX1_account 99 = .ok (.bipush 32, 2) := dk_16 32 (dk_at dksX1_account_3 3 rfl rfl)
theorem dX1_account_101 : decode cX1_account 101 = .ok (.aload_n 0, 1) := dk_42 (dk_at dksX1_account_3 5 rfl rfl)
theorem dX1_account_102 : decode cX1_account 102 = .ok (.getfield 126, 3) := dk_180 0 126 (dk_at dksX1_account_3 6 rfl rfl)
theorem dX1_account_105 : decode cX1_account 105 = .ok (.iconst 0, 1) := dk_3 (dk_at dksX1_account_3 9 rfl rfl)
theorem dX1_account_106 : decode cX1_account 106 = .ok (.invokevirtual 361, 3) := dk_182 1 105 (dk_at dksX1_account_3 10 rfl rfl)
theorem dX1_account_109 : decode cX1_account 109 = .ok (.isub, 1) := dk_100 (dk_at dksX1_account_3 13 rfl rfl)
theorem dX1_account_110 : decode cX1_account 110 = .ok (.goto 103, 3) := dk_167 0 103 (dk_at dksX1_account_3 14 rfl rfl)
theorem dX1_account_113 : decode cX1_account 113 = .ok (.aload_n 0, 1) := dk_42 (dk_at dksX1_account_3 17 rfl rfl)
theorem dX1_account_114 : decode cX1_account 114 = .ok (.getfield 126, 3) := dk_180 0 126 (dk_at dksX1_account_3 18 rfl rfl)
theorem dX1_account_117 : decode cX1_account 117 = .ok (.getfield 185, 3) := dk_180 0 185 (dk_at dksX1_account_3 21 rfl rfl)
theorem dX1_account_120 : decode cX1_account 120 = .ok (.invokevirtual 148, 3) := dk_182 0 148 (dk_at dksX1_account_4 0 rfl rfl)
theorem dX1_account_123 : decode cX1_account 123 = .ok (.goto 90, 3) := dk_167 0 90 (dk_at dksX1_account_4 3 rfl rfl)
theorem dX1_account_126 : decode cX1_account 126 = .ok (.aload_n 0, 1) := dk_42 (dk_at dksX1_account_4 6 rfl rfl)
theorem dX1_account_127 : decode cX1_account 127 = .ok (.getfield 126, 3) := dk_180 0 126 (dk_at dksX1_account_4 7 rfl rfl)
theorem dX1_account_130 : decode cX1_account 130 = .ok (.getfield 366, 3) := dk_180 1 110 (dk_at dksX1_account_4 10 rfl rfl)
theorem dX1_account_133 : decode cX1_account 133 = .ok (.goto 80, 3) := dk_167 0 80 (dk_at dksX1_account_4 13 rfl rfl)
theorem dX1_account_136 : decode cX1_account 136 = .ok (.aload_n 0, 1) := dk_42 (dk_at dksX1_account_4 16 rfl rfl)
theorem dX1_account_137 : decode cX1_account 137 = .ok (.getfield 126, 3) := dk_180 0 126 (dk_at dksX1_account_4 17 rfl rfl)
theorem dX1_account_140 : decode cX1_account 140 = .ok (.getfield 369, 3) := dk_180 1 113 (dk_at dksX1_account_4 20 rfl rfl)
theorem dX1_account_143 : decode cX1_account 143 = .ok (.goto 70, 3) := dk_167 0 70 (dk_at dksX1_account_5 0 rfl rfl)
theorem dX1_account_146 : decode cX1_account 146 = .ok (.aload_n 0, 1) := dk_42 (dk_at dksX1_account_5 3 rfl rfl)
theorem dX1_account_147 : decode cX1_account 147 = .ok (.getfield 126, 3) := dk_180 0 126 (dk_at dksX1_account_5 4 rfl rfl)
theorem dX1_account_150 : decode cX1_account 150 = .ok (.getfield 372, 3) := dk_180 1 116 (dk_at dksX1_account_5 7 rfl rfl)
theorem dX1_account_153 : decode cX1_account 153 = .ok (.goto 60, 3) := dk_167 0 60 (dk_at dksX1_account_5 10 rfl rfl)
theorem dX1_account_156 : decode cX1_account 156 = .ok (.aload_n 0, 1) := dk_42 (dk_at dksX1_account_5 13 rfl rfl)
theorem dX1_account_157 : decode cX1_account 157 = .ok (.getfield 126, 3) := dk_180 0 126 (dk_at dksX1_account_5 14 rfl rfl)
theorem dX1_account_160 : decode cX1_account 160 = .ok (.getfield 174, 3) := dk_180 0 174 (dk_at dksX1_account_5 17 rfl rfl)
theorem dX1_account_163 : decode cX1_account 163 = .ok (.invokevirtual 148, 3) := dk_182 0 148 (dk_at dksX1_account_5 20 rfl rfl)
theorem dX1_account_166 : decode cX1_account 166 = .ok (.goto 47, 3) := dk_167 0 47 (dk_at dksX1_account_6 0 rfl rfl)
theorem dX1_account_169 : decode cX1_account 169 = .ok (.aload_n 0, 1) := dk_42 (dk_at dksX1_account_6 3 rfl rfl)
theorem dX1_account_170 : decode cX1_account 170 = .ok (.getfield 126, 3) := dk_180 0 126 (dk_at dksX1_account_6 4 rfl rfl)
theorem dX1_account_173 : decode cX1_account 173 = .ok (.getfield 375, 3) := dk_180 1 119 (dk_at dksX1_account_6 7 rfl rfl)
theorem dX1_account_176 : decode cX1_account 176 = .ok (.goto 37, 3) := dk_167 0 37 (dk_at dksX1_account_6 10 rfl rfl)
theorem dX1_account_179 : decode cX1_account 179 = .ok (.aload_n 0, 1) := dk_42 (dk_at dksX1_account_6 13 rfl rfl)
theorem dX1_account_180 : decode cX1_account 180 = .ok (.getfield 126, 3) := dk_180 0 126 (dk_at dksX1_account_6 14 rfl rfl)
theorem dX1_account_183 : decode cX1_account 183 = .ok (.getfield 376, 3) := dk_180 1 120 (dk_at dksX1_account_6 17 rfl rfl)
theorem dX1_account_186 : decode cX1_account 186 = .ok (.goto 27, 3) := dk_167 0 27 (dk_at dksX1_account_6 20 rfl rfl)
theorem dX1_account_189 : decode cX1_account 189 = .ok (.aload_n 0, 1) := dk_42 (dk_at dksX1_account_6 23 rfl rfl)
theorem dX1_account_190 : decode cX1_account 190 = .ok (.getfield 126, 3) := dk_180 0 126 (dk_at dksX1_account_7 0 rfl rfl)
theorem dX1_account_193 : decode cX1_account 193 = .ok (.getfield 379, 3) := dk_180 1 123 (dk_at dksX1_account_7 3 rfl rfl)
theorem dX1_account_196 : decode cX1_account 196 = .ok (.goto 17, 3) := dk_167 0 17 (dk_at dksX1_account_7 6 rfl rfl)
theorem dX1_account_199 : decode cX1_account 199 = .ok (.aload_n 0, 1) := dk_42 (dk_at dksX1_account_7 9 rfl rfl)
theorem dX1_account_200 : decode cX1_account 200 = .ok (.getfield 382, 3) := dk_180 1 126 (dk_at dksX1_account_7 10 rfl rfl)
theorem dX1_account_203 : decode cX1_account 203 = .ok (.goto 10, 3) := dk_167 0 10 (dk_at dksX1_account_7 13 rfl rfl)
theorem dX1_account_206 : decode cX1_account 206 = .ok (.aload_n 0, 1) := dk_42 (dk_at dksX1_account_7 16 rfl rfl)
theorem dX1_account_207 : decode cX1_account 207 = .ok (.getfield 133, 3) := dk_180 0 133 (dk_at dksX1_account_7 17 rfl rfl)
theorem dX1_account_210 : decode cX1_account 210 = .ok (.invokevirtual 148, 3) := dk_182 0 148 (dk_at dksX1_account_7 20 rfl rfl)
theorem dX1_account_213 : decode cX1_account 213 = .ok (.ireturn, 1) := dk_172 (dk_at dksX1_account_7 23 rfl rfl)
theorem q251 : (Jvm.Cond.fieldLinkNest "SpanRuler" (366 : Nat) "SpanRuler$Ruler" "done" "I" "SpanRuler") ∈ lw_tbl := lw_at lw_m1 191 rfl
theorem q253 : (Jvm.Cond.fieldLinkNest "SpanRuler" (369 : Nat) "SpanRuler$Ruler" "missed" "I" "SpanRuler") ∈ lw_tbl := lw_at lw_m1 193 rfl
theorem q255 : (Jvm.Cond.fieldLinkNest "SpanRuler" (372 : Nat) "SpanRuler$Ruler" "struck" "I" "SpanRuler") ∈ lw_tbl := lw_at lw_m1 195 rfl
theorem q257 : (Jvm.Cond.fieldLinkNest "SpanRuler" (375 : Nat) "SpanRuler$Ruler" "ticks" "I" "SpanRuler") ∈ lw_tbl := lw_at lw_m1 197 rfl
theorem q259 : (Jvm.Cond.fieldLinkNest "SpanRuler" (376 : Nat) "SpanRuler$Ruler" "acts" "I" "SpanRuler") ∈ lw_tbl := lw_at lw_m1 199 rfl
theorem q261 : (Jvm.Cond.fieldLinkNest "SpanRuler" (379 : Nat) "SpanRuler$Ruler" "painted" "I" "SpanRuler") ∈ lw_tbl := lw_at lw_m1 201 rfl
def sgnOk (n : Nat) : Bool := decide (sgn (Int32.ofInt ((n : Int) - 999)) = 0 ↔ n = 999)
theorem sgn_all : ∀ n, n < 1999 → sgnOk n = true := by
  have h : (List.range 1999).all sgnOk = true := by decide +kernel
  intro n hn
  exact List.all_eq_true.mp h n (List.mem_range.mpr hn)
theorem sgn_0 {x : Int32} (h : rg x) : sgn x = 0 ↔ x = 0 := by
  obtain ⟨a1, a2⟩ := inR_i.mp h
  have b1 : -999 ≤ x.toInt := Int32.le_iff_toInt_le.mp a1
  have b2 : x.toInt ≤ 999 := Int32.le_iff_toInt_le.mp a2
  have k := of_decide_eq_true (sgn_all (x.toInt + 999).toNat (by omega))
  have e : Int32.ofInt (((x.toInt + 999).toNat : Int) - 999) = x := by
    rw [show (((x.toInt + 999).toNat : Int) - 999) = x.toInt by omega, Int32.ofInt_toInt]
  rw [e] at k
  rw [k]
  constructor
  · intro z
    have : x.toInt = 0 := by omega
    rw [← Int32.ofInt_toInt x, this]; rfl
  · intro z; subst z; rfl
theorem cnl_zcl {R : Nat → Int32} (h : ∀ c, c < 32 → rg (R (8 + c))) : ∀ (n c : Nat) (v : Int32), c + n ≤ 32 → cnl R 0 n c v = zcl R n c v := by
  intro n
  induction n with
  | zero => intro c v _; rfl
  | succ n ih =>
    intro c v hc
    show cnl R 0 n (c + 1) _ = zcl R n (c + 1) _
    rw [ih (c + 1) _ (by omega)]
    congr 1
    by_cases z : R (8 + c) = 0
    · rw [if_pos ((sgn_0 (h c (by omega))).mpr z), if_pos z]
    · rw [if_neg (fun w => z ((sgn_0 (h c (by omega))).mp w)), if_neg z]
theorem inR_12 {k : Int32} (h : inR k 0 12 = true) : ∃ i, k = nI i ∧ i < 13 := by
  obtain ⟨a1, a2⟩ := inR_i.mp h
  obtain ⟨i, hi, e⟩ := nI_of2 (M := 12) (n := 12) rfl (Int32.not_lt.mpr a1) a2
  exact ⟨i, e, by omega⟩
theorem s_account (l : Launch) (G : GE) (h : AH) (x : Nat) (s : MS) (S0 : SRAt G h x s) (k : Int32) : GM l G yX1_account (ws_ yX1_account cX1_account 2 (some .int)) 15 [.ref x, .int k] (h) (1600) (SPost G x (ex1 IAE) (mAccount s k)) := by
  refine GM.of (by decide) (dk rfl) ?_
  intro X eL eG eh ok fn
  subst eL; subst eG
  show GW X _ 0 0 [some (.ref x), some (.int k)] []
  obtain ⟨own, hr, ru, sv, hl, hd, hc, hm, hf, inp, ln, bt, rf, S⟩ := S0
  obtain ⟨rt, cl, nl, nd, nc, nm, nf, vl, vd, vc, vm, vf, y⟩ := S.2.2.2.2.2.2.2.2.1.1.1
  have iR := y.2.2.2.2.2.1
  rcases Bool.eq_false_or_eq_true (inR k 0 12) with hs | hs
  · obtain ⟨i, ei, hi⟩ := inR_12 hs
    subst ei
    rcases (by omega : i = 0 ∨ i = 1 ∨ i = 2 ∨ i = 3 ∨ i = 4 ∨ i = 5 ∨ i = 6 ∨ i = 7 ∨ i = 8 ∨ i = 9 ∨ i = 10 ∨ i = 11 ∨ i = 12) with e | e | e | e | e | e | e | e | e | e | e | e | e
    · subst e
      refine g_iload_n ok dX1_account_0 rfl ?_
      refine g_iconst ok (v := 0) dX1_account_1 rfl ?_
      refine g_bipush ok (v := 12) dX1_account_2 rfl ?_
      refine g_callS ok q1001 q1002 q61 q1003 dX1_account_4 (x_isIn X.l X.G _ (nI 0) 0 12) (nm_ (by decide : nmb _ 3 = true)) (dl rfl) (dk rfl) rfl rfl (dk rfl) (by omega) (kV ?_) xV
      rw [hs]
      refine g_callS ok q1019 q1020 q61 q1021 dX1_account_7 (x_chkA1 X.l X.G _) (nm_ (by decide : nmb _ 1 = true)) (dl rfl) (dk rfl) rfl rfl (dk rfl) (by omega) (kN ?_) xN
      refine g_iload_n ok dX1_account_10 rfl ?_
      refine g_tableIn ok (tgt := 72) (off := 61) dX1_account_11 (by decide) (by decide) rfl (by decide) ?_
      refine g_aload_n ok dX1_account_72 rfl ?_
      refine g_get ok ck_X1 0 q319 (Or.inl rfl) (by decide) dX1_account_73 (Rd.h (S.2.2.1)) rfl ?_
      refine g_iconst ok (v := 0) dX1_account_76 rfl ?_
      refine g_bipush ok (v := 31) dX1_account_77 rfl ?_
      refine g_callV ok q912 q913 q914 q62 q915 (Recv.ob ok gc_X2 (Rd.h (S.1 _ _ y.1.1))) dX1_account_79 (GM.fr S.1 (x_sum X.l X.G hr (fun q => own q = ru) ru (s.A 0) rt cl nl vl _ _ _ _ _ _ y.1 0 31 (by omega) (by omega))) (nm_ (by decide : nmb _ 2 = true)) (dl rfl) (dk rfl) rfl rfl (dk rfl) (by omega) (kFR fun v1_ hr1_ h1_ ⟨e1_, q1_, g1_⟩ f1_ => ?_) xFR
      subst e1_
      obtain ⟨S1_, y1_⟩ := SRx.ask S y q1_ g1_ f1_
      refine g_goto ok dX1_account_82 (tgt := 213) (by decide) ?_
      have pf : SPost X.G x (ex1 IAE) (mAccount s (nI 0)) (.inl (some (.int (sm (s.A 0) (31 + 1 - 0) 0 0)))) h1_ := by
        unfold mAccount; rw [if_pos hs]
        exact SPost.ok (v := acF s (nn (nI 0))) S1_.at
      exact g_iret ok fn rfl dX1_account_213 pf (by omega)
    · subst e
      refine g_iload_n ok dX1_account_0 rfl ?_
      refine g_iconst ok (v := 0) dX1_account_1 rfl ?_
      refine g_bipush ok (v := 12) dX1_account_2 rfl ?_
      refine g_callS ok q1001 q1002 q61 q1003 dX1_account_4 (x_isIn X.l X.G _ (nI 1) 0 12) (nm_ (by decide : nmb _ 3 = true)) (dl rfl) (dk rfl) rfl rfl (dk rfl) (by omega) (kV ?_) xV
      rw [hs]
      refine g_callS ok q1019 q1020 q61 q1021 dX1_account_7 (x_chkA1 X.l X.G _) (nm_ (by decide : nmb _ 1 = true)) (dl rfl) (dk rfl) rfl rfl (dk rfl) (by omega) (kN ?_) xN
      refine g_iload_n ok dX1_account_10 rfl ?_
      refine g_tableIn ok (tgt := 85) (off := 74) dX1_account_11 (by decide) (by decide) rfl (by decide) ?_
      refine g_aload_n ok dX1_account_85 rfl ?_
      refine g_get ok ck_X1 0 q319 (Or.inl rfl) (by decide) dX1_account_86 (Rd.h (S.2.2.1)) rfl ?_
      refine g_iconst ok (v := 0) dX1_account_89 rfl ?_
      refine g_bipush ok (v := 31) dX1_account_90 rfl ?_
      refine g_iconst ok (v := 0) dX1_account_92 rfl ?_
      refine g_callV ok q1389 q1390 q1391 q62 q1392 (Recv.ob ok gc_X2 (Rd.h (S.1 _ _ y.1.1))) dX1_account_93 (GM.fr S.1 (x_count X.l X.G hr (fun q => own q = ru) ru (s.A 0) rt cl nl vl _ _ _ _ _ _ y.1 0 31 (by omega) (by omega) 0)) (nm_ (by decide : nmb _ 3 = true)) (dl rfl) (dk rfl) rfl rfl (dk rfl) (by omega) (kFR fun v1_ hr1_ h1_ ⟨e1_, q1_, g1_⟩ f1_ => ?_) xFR
      subst e1_
      obtain ⟨S1_, y1_⟩ := SRx.ask S y q1_ g1_ f1_
      refine g_goto ok dX1_account_96 (tgt := 213) (by decide) ?_
      have pf : SPost X.G x (ex1 IAE) (mAccount s (nI 1)) (.inl (some (.int (cnl (s.A 0) 0 (31 + 1 - 0) 0 0)))) h1_ := by
        unfold mAccount; rw [if_pos hs]
        rw [show ((cnl (s.A 0) 0 (31 + 1 - 0) 0 0) : Int32) = acF s (nn (nI 1)) from (cnl_zcl iR.2.2.1 32 0 0 (by omega))]
        exact SPost.ok (v := acF s (nn (nI 1))) S1_.at
      exact g_iret ok fn rfl dX1_account_213 pf (by omega)
    · subst e
      refine g_iload_n ok dX1_account_0 rfl ?_
      refine g_iconst ok (v := 0) dX1_account_1 rfl ?_
      refine g_bipush ok (v := 12) dX1_account_2 rfl ?_
      refine g_callS ok q1001 q1002 q61 q1003 dX1_account_4 (x_isIn X.l X.G _ (nI 2) 0 12) (nm_ (by decide : nmb _ 3 = true)) (dl rfl) (dk rfl) rfl rfl (dk rfl) (by omega) (kV ?_) xV
      rw [hs]
      refine g_callS ok q1019 q1020 q61 q1021 dX1_account_7 (x_chkA1 X.l X.G _) (nm_ (by decide : nmb _ 1 = true)) (dl rfl) (dk rfl) rfl rfl (dk rfl) (by omega) (kN ?_) xN
      refine g_iload_n ok dX1_account_10 rfl ?_
      refine g_tableIn ok (tgt := 99) (off := 88) dX1_account_11 (by decide) (by decide) rfl (by decide) ?_
      refine g_bipush ok (v := 32) dX1_account_99 rfl ?_
      refine g_aload_n ok dX1_account_101 rfl ?_
      refine g_get ok ck_X1 0 q319 (Or.inl rfl) (by decide) dX1_account_102 (Rd.h (S.2.2.1)) rfl ?_
      refine g_iconst ok (v := 0) dX1_account_105 rfl ?_
      refine g_callV ok q1641 q1456 q1457 q62 q1458 (Recv.ob ok gc_X2 (Rd.h (S.1 _ _ y.1.1))) dX1_account_106 (GM.fr S.1 (x_cellsWith X.l X.G hr (fun q => own q = ru) ru (s.A 0) rt cl nl vl _ _ _ _ _ _ y.1 0)) (nm_ (by decide : nmb _ 1 = true)) (dl rfl) (dk rfl) rfl rfl (dk rfl) (by omega) (kFR fun v1_ hr1_ h1_ ⟨e1_, q1_, g1_⟩ f1_ => ?_) xFR
      subst e1_
      obtain ⟨S1_, y1_⟩ := SRx.ask S y q1_ g1_ f1_
      refine g_isub ok dX1_account_109 ?_
      refine g_goto ok dX1_account_110 (tgt := 213) (by decide) ?_
      have pf : SPost X.G x (ex1 IAE) (mAccount s (nI 2)) (.inl (some (.int (32 - (mal (s.A 0) 0 32 0 0))))) h1_ := by
        unfold mAccount; rw [if_pos hs]
        exact SPost.ok (v := acF s (nn (nI 2))) S1_.at
      exact g_iret ok fn rfl dX1_account_213 pf (by omega)
    · subst e
      have aln := y.2.1.kp (fun e w => S.1 _ _ w) (fun z w => S.1 _ _ w)
      refine g_iload_n ok dX1_account_0 rfl ?_
      refine g_iconst ok (v := 0) dX1_account_1 rfl ?_
      refine g_bipush ok (v := 12) dX1_account_2 rfl ?_
      refine g_callS ok q1001 q1002 q61 q1003 dX1_account_4 (x_isIn X.l X.G _ (nI 3) 0 12) (nm_ (by decide : nmb _ 3 = true)) (dl rfl) (dk rfl) rfl rfl (dk rfl) (by omega) (kV ?_) xV
      rw [hs]
      refine g_callS ok q1019 q1020 q61 q1021 dX1_account_7 (x_chkA1 X.l X.G _) (nm_ (by decide : nmb _ 1 = true)) (dl rfl) (dk rfl) rfl rfl (dk rfl) (by omega) (kN ?_) xN
      refine g_iload_n ok dX1_account_10 rfl ?_
      refine g_tableIn ok (tgt := 113) (off := 102) dX1_account_11 (by decide) (by decide) rfl (by decide) ?_
      refine g_aload_n ok dX1_account_113 rfl ?_
      refine g_get ok ck_X1 0 q319 (Or.inl rfl) (by decide) dX1_account_114 (Rd.h (S.2.2.1)) rfl ?_
      refine g_getN ok ck_X2 2 q247 rfl (by decide) dX1_account_117 (Rd.h (S.1 _ _ y.1.1)) rfl ?_
      refine g_callV ok q1118 q1119 q1120 q70 q1121 (Recv.ob ok gc_J2 (Rd.h aln.1)) dX1_account_120 (al_size X.l X.G _ nl nd nc (rN (s.A 0)) nm nf aln) (nm_ (by decide : nmb _ 0 = true)) (dl rfl) (dk rfl) rfl rfl (dk rfl) (by omega) (kV ?_) xV
      refine g_goto ok dX1_account_123 (tgt := 213) (by decide) ?_
      have pf : SPost X.G x (ex1 IAE) (mAccount s (nI 3)) (.inl (some (.int (nI (rN (s.A 0)))))) h := by
        unfold mAccount; rw [if_pos hs]
        rw [show ((nI (rN (s.A 0))) : Int32) = acF s (nn (nI 3)) from iR.1.1.symm]
        exact SPost.ok (v := acF s (nn (nI 3))) S.at
      exact g_iret ok fn rfl dX1_account_213 pf (by omega)
    · subst e
      refine g_iload_n ok dX1_account_0 rfl ?_
      refine g_iconst ok (v := 0) dX1_account_1 rfl ?_
      refine g_bipush ok (v := 12) dX1_account_2 rfl ?_
      refine g_callS ok q1001 q1002 q61 q1003 dX1_account_4 (x_isIn X.l X.G _ (nI 4) 0 12) (nm_ (by decide : nmb _ 3 = true)) (dl rfl) (dk rfl) rfl rfl (dk rfl) (by omega) (kV ?_) xV
      rw [hs]
      refine g_callS ok q1019 q1020 q61 q1021 dX1_account_7 (x_chkA1 X.l X.G _) (nm_ (by decide : nmb _ 1 = true)) (dl rfl) (dk rfl) rfl rfl (dk rfl) (by omega) (kN ?_) xN
      refine g_iload_n ok dX1_account_10 rfl ?_
      refine g_tableIn ok (tgt := 126) (off := 115) dX1_account_11 (by decide) (by decide) rfl (by decide) ?_
      refine g_aload_n ok dX1_account_126 rfl ?_
      refine g_get ok ck_X1 0 q319 (Or.inl rfl) (by decide) dX1_account_127 (Rd.h (S.2.2.1)) rfl ?_
      refine g_getN ok ck_X2 4 q251 rfl (by decide) dX1_account_130 (Rd.h (S.1 _ _ y.1.1)) rfl ?_
      refine g_goto ok dX1_account_133 (tgt := 213) (by decide) ?_
      have pf : SPost X.G x (ex1 IAE) (mAccount s (nI 4)) (.inl (some (.int (s.A 0 3)))) h := by
        unfold mAccount; rw [if_pos hs]
        exact SPost.ok (v := acF s (nn (nI 4))) S.at
      exact g_iret ok fn rfl dX1_account_213 pf (by omega)
    · subst e
      refine g_iload_n ok dX1_account_0 rfl ?_
      refine g_iconst ok (v := 0) dX1_account_1 rfl ?_
      refine g_bipush ok (v := 12) dX1_account_2 rfl ?_
      refine g_callS ok q1001 q1002 q61 q1003 dX1_account_4 (x_isIn X.l X.G _ (nI 5) 0 12) (nm_ (by decide : nmb _ 3 = true)) (dl rfl) (dk rfl) rfl rfl (dk rfl) (by omega) (kV ?_) xV
      rw [hs]
      refine g_callS ok q1019 q1020 q61 q1021 dX1_account_7 (x_chkA1 X.l X.G _) (nm_ (by decide : nmb _ 1 = true)) (dl rfl) (dk rfl) rfl rfl (dk rfl) (by omega) (kN ?_) xN
      refine g_iload_n ok dX1_account_10 rfl ?_
      refine g_tableIn ok (tgt := 136) (off := 125) dX1_account_11 (by decide) (by decide) rfl (by decide) ?_
      refine g_aload_n ok dX1_account_136 rfl ?_
      refine g_get ok ck_X1 0 q319 (Or.inl rfl) (by decide) dX1_account_137 (Rd.h (S.2.2.1)) rfl ?_
      refine g_getN ok ck_X2 5 q253 rfl (by decide) dX1_account_140 (Rd.h (S.1 _ _ y.1.1)) rfl ?_
      refine g_goto ok dX1_account_143 (tgt := 213) (by decide) ?_
      have pf : SPost X.G x (ex1 IAE) (mAccount s (nI 5)) (.inl (some (.int (s.A 0 4)))) h := by
        unfold mAccount; rw [if_pos hs]
        exact SPost.ok (v := acF s (nn (nI 5))) S.at
      exact g_iret ok fn rfl dX1_account_213 pf (by omega)
    · subst e
      refine g_iload_n ok dX1_account_0 rfl ?_
      refine g_iconst ok (v := 0) dX1_account_1 rfl ?_
      refine g_bipush ok (v := 12) dX1_account_2 rfl ?_
      refine g_callS ok q1001 q1002 q61 q1003 dX1_account_4 (x_isIn X.l X.G _ (nI 6) 0 12) (nm_ (by decide : nmb _ 3 = true)) (dl rfl) (dk rfl) rfl rfl (dk rfl) (by omega) (kV ?_) xV
      rw [hs]
      refine g_callS ok q1019 q1020 q61 q1021 dX1_account_7 (x_chkA1 X.l X.G _) (nm_ (by decide : nmb _ 1 = true)) (dl rfl) (dk rfl) rfl rfl (dk rfl) (by omega) (kN ?_) xN
      refine g_iload_n ok dX1_account_10 rfl ?_
      refine g_tableIn ok (tgt := 146) (off := 135) dX1_account_11 (by decide) (by decide) rfl (by decide) ?_
      refine g_aload_n ok dX1_account_146 rfl ?_
      refine g_get ok ck_X1 0 q319 (Or.inl rfl) (by decide) dX1_account_147 (Rd.h (S.2.2.1)) rfl ?_
      refine g_getN ok ck_X2 6 q255 rfl (by decide) dX1_account_150 (Rd.h (S.1 _ _ y.1.1)) rfl ?_
      refine g_goto ok dX1_account_153 (tgt := 213) (by decide) ?_
      have pf : SPost X.G x (ex1 IAE) (mAccount s (nI 6)) (.inl (some (.int (s.A 0 5)))) h := by
        unfold mAccount; rw [if_pos hs]
        exact SPost.ok (v := acF s (nn (nI 6))) S.at
      exact g_iret ok fn rfl dX1_account_213 pf (by omega)
    · subst e
      have aln := y.2.2.2.1.kp (fun e w => S.1 _ _ w) (fun z w => S.1 _ _ w)
      refine g_iload_n ok dX1_account_0 rfl ?_
      refine g_iconst ok (v := 0) dX1_account_1 rfl ?_
      refine g_bipush ok (v := 12) dX1_account_2 rfl ?_
      refine g_callS ok q1001 q1002 q61 q1003 dX1_account_4 (x_isIn X.l X.G _ (nI 7) 0 12) (nm_ (by decide : nmb _ 3 = true)) (dl rfl) (dk rfl) rfl rfl (dk rfl) (by omega) (kV ?_) xV
      rw [hs]
      refine g_callS ok q1019 q1020 q61 q1021 dX1_account_7 (x_chkA1 X.l X.G _) (nm_ (by decide : nmb _ 1 = true)) (dl rfl) (dk rfl) rfl rfl (dk rfl) (by omega) (kN ?_) xN
      refine g_iload_n ok dX1_account_10 rfl ?_
      refine g_tableIn ok (tgt := 156) (off := 145) dX1_account_11 (by decide) (by decide) rfl (by decide) ?_
      refine g_aload_n ok dX1_account_156 rfl ?_
      refine g_get ok ck_X1 0 q319 (Or.inl rfl) (by decide) dX1_account_157 (Rd.h (S.2.2.1)) rfl ?_
      refine g_getN ok ck_X2 3 q249 rfl (by decide) dX1_account_160 (Rd.h (S.1 _ _ y.1.1)) rfl ?_
      refine g_callV ok q1118 q1119 q1120 q70 q1121 (Recv.ob ok gc_J2 (Rd.h aln.1)) dX1_account_163 (al_size X.l X.G _ vl vd vc (rV (s.A 0)) vm vf aln) (nm_ (by decide : nmb _ 0 = true)) (dl rfl) (dk rfl) rfl rfl (dk rfl) (by omega) (kV ?_) xV
      refine g_goto ok dX1_account_166 (tgt := 213) (by decide) ?_
      have pf : SPost X.G x (ex1 IAE) (mAccount s (nI 7)) (.inl (some (.int (nI (rV (s.A 0)))))) h := by
        unfold mAccount; rw [if_pos hs]
        rw [show ((nI (rV (s.A 0))) : Int32) = acF s (nn (nI 7)) from iR.2.1.1.symm]
        exact SPost.ok (v := acF s (nn (nI 7))) S.at
      exact g_iret ok fn rfl dX1_account_213 pf (by omega)
    · subst e
      refine g_iload_n ok dX1_account_0 rfl ?_
      refine g_iconst ok (v := 0) dX1_account_1 rfl ?_
      refine g_bipush ok (v := 12) dX1_account_2 rfl ?_
      refine g_callS ok q1001 q1002 q61 q1003 dX1_account_4 (x_isIn X.l X.G _ (nI 8) 0 12) (nm_ (by decide : nmb _ 3 = true)) (dl rfl) (dk rfl) rfl rfl (dk rfl) (by omega) (kV ?_) xV
      rw [hs]
      refine g_callS ok q1019 q1020 q61 q1021 dX1_account_7 (x_chkA1 X.l X.G _) (nm_ (by decide : nmb _ 1 = true)) (dl rfl) (dk rfl) rfl rfl (dk rfl) (by omega) (kN ?_) xN
      refine g_iload_n ok dX1_account_10 rfl ?_
      refine g_tableIn ok (tgt := 169) (off := 158) dX1_account_11 (by decide) (by decide) rfl (by decide) ?_
      refine g_aload_n ok dX1_account_169 rfl ?_
      refine g_get ok ck_X1 0 q319 (Or.inl rfl) (by decide) dX1_account_170 (Rd.h (S.2.2.1)) rfl ?_
      refine g_getN ok ck_X2 7 q257 rfl (by decide) dX1_account_173 (Rd.h (S.1 _ _ y.1.1)) rfl ?_
      refine g_goto ok dX1_account_176 (tgt := 213) (by decide) ?_
      have pf : SPost X.G x (ex1 IAE) (mAccount s (nI 8)) (.inl (some (.int (s.A 0 0)))) h := by
        unfold mAccount; rw [if_pos hs]
        exact SPost.ok (v := acF s (nn (nI 8))) S.at
      exact g_iret ok fn rfl dX1_account_213 pf (by omega)
    · subst e
      refine g_iload_n ok dX1_account_0 rfl ?_
      refine g_iconst ok (v := 0) dX1_account_1 rfl ?_
      refine g_bipush ok (v := 12) dX1_account_2 rfl ?_
      refine g_callS ok q1001 q1002 q61 q1003 dX1_account_4 (x_isIn X.l X.G _ (nI 9) 0 12) (nm_ (by decide : nmb _ 3 = true)) (dl rfl) (dk rfl) rfl rfl (dk rfl) (by omega) (kV ?_) xV
      rw [hs]
      refine g_callS ok q1019 q1020 q61 q1021 dX1_account_7 (x_chkA1 X.l X.G _) (nm_ (by decide : nmb _ 1 = true)) (dl rfl) (dk rfl) rfl rfl (dk rfl) (by omega) (kN ?_) xN
      refine g_iload_n ok dX1_account_10 rfl ?_
      refine g_tableIn ok (tgt := 179) (off := 168) dX1_account_11 (by decide) (by decide) rfl (by decide) ?_
      refine g_aload_n ok dX1_account_179 rfl ?_
      refine g_get ok ck_X1 0 q319 (Or.inl rfl) (by decide) dX1_account_180 (Rd.h (S.2.2.1)) rfl ?_
      refine g_getN ok ck_X2 8 q259 rfl (by decide) dX1_account_183 (Rd.h (S.1 _ _ y.1.1)) rfl ?_
      refine g_goto ok dX1_account_186 (tgt := 213) (by decide) ?_
      have pf : SPost X.G x (ex1 IAE) (mAccount s (nI 9)) (.inl (some (.int (s.A 0 6)))) h := by
        unfold mAccount; rw [if_pos hs]
        exact SPost.ok (v := acF s (nn (nI 9))) S.at
      exact g_iret ok fn rfl dX1_account_213 pf (by omega)
    · subst e
      refine g_iload_n ok dX1_account_0 rfl ?_
      refine g_iconst ok (v := 0) dX1_account_1 rfl ?_
      refine g_bipush ok (v := 12) dX1_account_2 rfl ?_
      refine g_callS ok q1001 q1002 q61 q1003 dX1_account_4 (x_isIn X.l X.G _ (nI 10) 0 12) (nm_ (by decide : nmb _ 3 = true)) (dl rfl) (dk rfl) rfl rfl (dk rfl) (by omega) (kV ?_) xV
      rw [hs]
      refine g_callS ok q1019 q1020 q61 q1021 dX1_account_7 (x_chkA1 X.l X.G _) (nm_ (by decide : nmb _ 1 = true)) (dl rfl) (dk rfl) rfl rfl (dk rfl) (by omega) (kN ?_) xN
      refine g_iload_n ok dX1_account_10 rfl ?_
      refine g_tableIn ok (tgt := 189) (off := 178) dX1_account_11 (by decide) (by decide) rfl (by decide) ?_
      refine g_aload_n ok dX1_account_189 rfl ?_
      refine g_get ok ck_X1 0 q319 (Or.inl rfl) (by decide) dX1_account_190 (Rd.h (S.2.2.1)) rfl ?_
      refine g_getN ok ck_X2 9 q261 rfl (by decide) dX1_account_193 (Rd.h (S.1 _ _ y.1.1)) rfl ?_
      refine g_goto ok dX1_account_196 (tgt := 213) (by decide) ?_
      have pf : SPost X.G x (ex1 IAE) (mAccount s (nI 10)) (.inl (some (.int (s.A 0 7)))) h := by
        unfold mAccount; rw [if_pos hs]
        exact SPost.ok (v := acF s (nn (nI 10))) S.at
      exact g_iret ok fn rfl dX1_account_213 pf (by omega)
    · subst e
      refine g_iload_n ok dX1_account_0 rfl ?_
      refine g_iconst ok (v := 0) dX1_account_1 rfl ?_
      refine g_bipush ok (v := 12) dX1_account_2 rfl ?_
      refine g_callS ok q1001 q1002 q61 q1003 dX1_account_4 (x_isIn X.l X.G _ (nI 11) 0 12) (nm_ (by decide : nmb _ 3 = true)) (dl rfl) (dk rfl) rfl rfl (dk rfl) (by omega) (kV ?_) xV
      rw [hs]
      refine g_callS ok q1019 q1020 q61 q1021 dX1_account_7 (x_chkA1 X.l X.G _) (nm_ (by decide : nmb _ 1 = true)) (dl rfl) (dk rfl) rfl rfl (dk rfl) (by omega) (kN ?_) xN
      refine g_iload_n ok dX1_account_10 rfl ?_
      refine g_tableIn ok (tgt := 199) (off := 188) dX1_account_11 (by decide) (by decide) rfl (by decide) ?_
      refine g_aload_n ok dX1_account_199 rfl ?_
      refine g_get ok ck_X1 5 q324 (Or.inl rfl) (by decide) dX1_account_200 (Rd.h (S.2.2.1)) rfl ?_
      refine g_goto ok dX1_account_203 (tgt := 213) (by decide) ?_
      have pf : SPost X.G x (ex1 IAE) (mAccount s (nI 11)) (.inl (some (.int (s.I 10)))) h := by
        unfold mAccount; rw [if_pos hs]
        exact SPost.ok (v := acF s (nn (nI 11))) S.at
      exact g_iret ok fn rfl dX1_account_213 pf (by omega)
    · subst e
      have aln := S.2.2.2.2.2.1
      refine g_iload_n ok dX1_account_0 rfl ?_
      refine g_iconst ok (v := 0) dX1_account_1 rfl ?_
      refine g_bipush ok (v := 12) dX1_account_2 rfl ?_
      refine g_callS ok q1001 q1002 q61 q1003 dX1_account_4 (x_isIn X.l X.G _ (nI 12) 0 12) (nm_ (by decide : nmb _ 3 = true)) (dl rfl) (dk rfl) rfl rfl (dk rfl) (by omega) (kV ?_) xV
      rw [hs]
      refine g_callS ok q1019 q1020 q61 q1021 dX1_account_7 (x_chkA1 X.l X.G _) (nm_ (by decide : nmb _ 1 = true)) (dl rfl) (dk rfl) rfl rfl (dk rfl) (by omega) (kN ?_) xN
      refine g_iload_n ok dX1_account_10 rfl ?_
      refine g_tableOut ok (tgt := 206) dX1_account_11 (by decide) (by decide) ?_
      refine g_aload_n ok dX1_account_206 rfl ?_
      refine g_get ok ck_X1 2 q321 (Or.inl rfl) (by decide) dX1_account_207 (Rd.h (S.2.2.1)) rfl ?_
      refine g_callV ok q1118 q1119 q1120 q70 q1121 (Recv.ob ok gc_J2 (Rd.h aln.1)) dX1_account_210 (al_size X.l X.G _ hl hd hc (mU s) hm hf aln) (nm_ (by decide : nmb _ 0 = true)) (dl rfl) (dk rfl) rfl rfl (dk rfl) (by omega) (kV ?_) xV
      have pf : SPost X.G x (ex1 IAE) (mAccount s (nI 12)) (.inl (some (.int (nI (mU s))))) h := by
        unfold mAccount; rw [if_pos hs]
        rw [show ((nI (mU s)) : Int32) = acF s (nn (nI 12)) from S.2.2.2.2.2.2.2.1.1.symm]
        exact SPost.ok (v := acF s (nn (nI 12))) S.at
      exact g_iret ok fn rfl dX1_account_213 pf (by omega)
  · refine g_iload_n ok dX1_account_0 rfl ?_
    refine g_iconst ok (v := 0) dX1_account_1 rfl ?_
    refine g_bipush ok (v := 12) dX1_account_2 rfl ?_
    refine g_callS ok q1001 q1002 q61 q1003 dX1_account_4 (x_isIn X.l X.G _ k 0 12) (nm_ (by decide : nmb _ 3 = true)) (dl rfl) (dk rfl) rfl rfl (dk rfl) (by omega) (kV ?_) xV
    rw [hs]
    refine g_callS ok q1019 q1020 q61 q1021 dX1_account_7 (x_chkA0 X.l X.G _) (nm_ (by decide : nmb _ 1 = true)) (dl rfl) (dk rfl) rfl rfl (dk rfl) (by omega) kT (xT fun qx fx kx => ?_)
    have pf : SPost X.G x (ex1 IAE) (mAccount s k) (.inr (IAE, qx)) (up h qx (ob 18 [])) := by
      unfold mAccount; rw [if_neg (by rw [hs]; decide)]; exact SPost.no (S.at.mi (k := 20) (v := 0) (by omega)) fx (by decide) rfl
    exact g_out ok fn (fun z hz => nomatch hz) pf (by omega)
