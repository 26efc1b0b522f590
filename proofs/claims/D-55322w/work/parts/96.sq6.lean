/-! the SpanRuler is asked, 5: noteOf -/
set_option maxRecDepth 100000
abbrev cJ7_ordinal : ByteArray := prog_28_method_2_code
def yJ7_ordinal : MethodName := ⟨RJ7, "ordinal", "()I"⟩
theorem dJ7_ordinal_0 : decode cJ7_ordinal 0 = .ok (.aload_n 0, 1) := by decide +kernel
theorem dJ7_ordinal_1 : decode cJ7_ordinal 1 = .ok (.getfield 7, 3) := by decide +kernel
theorem dJ7_ordinal_4 : decode cJ7_ordinal 4 = .ok (.ireturn, 1) := by decide +kernel
abbrev cX1_noteOf : ByteArray := prog_1_method_28_code
def yX1_noteOf : MethodName := ⟨RX1, "noteOf", "(II)I"⟩
def dkwX1_noteOf_3 : List UInt8 := [45, 180, 0, 254, 167, 0, 7, 45, 180, 1, 1, 172]
abbrev dktX1_noteOf_3 : List UInt8 := dkwX1_noteOf_3 ++ []
def dkwX1_noteOf_2 : List UInt8 := [45, 180, 0, 242, 182, 0, 245, 167, 0, 28, 45, 180, 0, 248, 167, 0, 21, 45, 180, 0, 251, 167, 0, 14]
abbrev dktX1_noteOf_2 : List UInt8 := dkwX1_noteOf_2 ++ dktX1_noteOf_3
def dkwX1_noteOf_1 : List UInt8 := [170, 0, 0, 0, 0, 0, 0, 63, 0, 0, 0, 0, 0, 0, 0, 3, 0, 0, 0, 32, 0, 0, 0, 42, 0, 0, 0, 49, 0, 0, 0, 56]
abbrev dktX1_noteOf_1 : List UInt8 := dkwX1_noteOf_1 ++ dktX1_noteOf_2
def dkwX1_noteOf_0 : List UInt8 := [42, 27, 182, 0, 234, 78, 28, 3, 7, 184, 0, 3, 184, 0, 170, 28]
abbrev dktX1_noteOf_0 : List UInt8 := dkwX1_noteOf_0 ++ dktX1_noteOf_1
theorem dksX1_noteOf_0 : cX1_noteOf.data.toList.drop 0 = dktX1_noteOf_0 := by decide +kernel
theorem dksX1_noteOf_1 : cX1_noteOf.data.toList.drop 16 = dktX1_noteOf_1 := dk_seg dksX1_noteOf_0 16 rfl rfl
theorem dksX1_noteOf_2 : cX1_noteOf.data.toList.drop 48 = dktX1_noteOf_2 := dk_seg dksX1_noteOf_1 32 rfl rfl
theorem dksX1_noteOf_3 : cX1_noteOf.data.toList.drop 72 = dktX1_noteOf_3 := dk_seg dksX1_noteOf_2 24 rfl rfl
theorem dX1_noteOf_0 : decode cX1_noteOf 0 = .ok (.aload_n 0, 1) := dk_42 (dk_at dksX1_noteOf_0 0 rfl rfl)
theorem dX1_noteOf_1 : decode cX1_noteOf 1 = .ok (.iload_n 1, 1) := dk_27 (dk_at dksX1_noteOf_0 1 rfl rfl)
theorem dX1_noteOf_2 : decode cX1_noteOf 2 = .ok (.invokevirtual 234, 3) := dk_182 0 234 (dk_at dksX1_noteOf_0 2 rfl rfl)
theorem dX1_noteOf_5 : decode cX1_noteOf 5 = .ok (.astore_n 3, 1) := dk_78 (dk_at dksX1_noteOf_0 5 rfl rfl)
theorem dX1_noteOf_6 : decode cX1_noteOf 6 = .ok (.iload_n 2, 1) := dk_28 (dk_at dksX1_noteOf_0 6 rfl rfl)
theorem dX1_noteOf_7 : decode cX1_noteOf 7 = .ok (.iconst 0, 1) := dk_3 (dk_at dksX1_noteOf_0 7 rfl rfl)
theorem dX1_noteOf_8 : decode cX1_noteOf 8 = .ok (.iconst 4, 1) := dk_7 (dk_at dksX1_noteOf_0 8 rfl rfl)
theorem dX1_noteOf_9 : decode cX1_noteOf 9 = .ok (.invokestatic 3, 3) := dk_184 0 3 (dk_at dksX1_noteOf_0 9 rfl rfl)
theorem dX1_noteOf_12 : decode cX1_noteOf 12 = .ok (.invokestatic 170, 3) := dk_184 0 170 (dk_at dksX1_noteOf_0 12 rfl rfl)
theorem dX1_noteOf_15 : decode cX1_noteOf 15 = .ok (.iload_n 2, 1) := dk_28 (dk_at dksX1_noteOf_0 15 rfl rfl)
theorem dX1_noteOf_16 : decode cX1_noteOf 16 = .ok (.tableswitch 63 0 3 #[32, 42, 49, 56], 32) := by decide +kernel
theorem dX1_noteOf_48 : decode cX1_noteOf 48 = .ok (.aload_n 3, 1) := dk_45 (dk_at dksX1_noteOf_2 0 rfl rfl)
theorem dX1_noteOf_49 : decode cX1_noteOf 49 = .ok (.getfield 242, 3) := dk_180 0 242 (dk_at dksX1_noteOf_2 1 rfl rfl)
theorem dX1_noteOf_52 : decode cX1_noteOf 52 = .ok (.invokevirtual 245, 3) := dk_182 0 245 (dk_at dksX1_noteOf_2 4 rfl rfl)
theorem dX1_noteOf_55 : decode cX1_noteOf 55 = .ok (.goto 28, 3) := dk_167 0 28 (dk_at dksX1_noteOf_2 7 rfl rfl)
theorem dX1_noteOf_58 : decode cX1_noteOf 58 = .ok (.aload_n 3, 1) := dk_45 (dk_at dksX1_noteOf_2 10 rfl rfl)
theorem dX1_noteOf_59 : decode cX1_noteOf 59 = .ok (.getfield 248, 3) := dk_180 0 248 (dk_at dksX1_noteOf_2 11 rfl rfl)
theorem dX1_noteOf_62 : decode cX1_noteOf 62 = .ok (.goto 21, 3) := dk_167 0 21 (dk_at dksX1_noteOf_2 14 rfl rfl)
theorem dX1_noteOf_65 : decode cX1_noteOf 65 = .ok (.aload_n 3, 1) := dk_45 (dk_at dksX1_noteOf_2 17 rfl rfl)
theorem dX1_noteOf_66 : decode cX1_noteOf 66 = .ok (.getfield 251, 3) := dk_180 0 251 (dk_at dksX1_noteOf_2 18 rfl rfl)
theorem dX1_noteOf_69 : decode cX1_noteOf 69 = .ok (.goto 14, 3) := dk_167 0 14 (dk_at dksX1_noteOf_2 21 rfl rfl)
theorem dX1_noteOf_72 : decode cX1_noteOf 72 = .ok (.aload_n 3, 1) := dk_45 (dk_at dksX1_noteOf_3 0 rfl rfl)
theorem dX1_noteOf_73 : decode cX1_noteOf 73 = .ok (.getfield 254, 3) := dk_180 0 254 (dk_at dksX1_noteOf_3 1 rfl rfl)
theorem dX1_noteOf_76 : decode cX1_noteOf 76 = .ok (.goto 7, 3) := dk_167 0 7 (dk_at dksX1_noteOf_3 4 rfl rfl)
theorem dX1_noteOf_79 : decode cX1_noteOf 79 = .ok (.aload_n 3, 1) := dk_45 (dk_at dksX1_noteOf_3 7 rfl rfl)
theorem dX1_noteOf_80 : decode cX1_noteOf 80 = .ok (.getfield 257, 3) := dk_180 1 1 (dk_at dksX1_noteOf_3 8 rfl rfl)
theorem dX1_noteOf_83 : decode cX1_noteOf 83 = .ok (.ireturn, 1) := dk_172 (dk_at dksX1_noteOf_3 11 rfl rfl)
theorem q2792 : (Jvm.Cond.fieldLink "java/lang/Enum" (7 : Nat) "java/lang/Enum" "ordinal" "I") ∈ lw_all := lw_g (lw_at lw_m12 92 rfl) rfl
theorem q824 : (Jvm.Cond.fieldLinkNest "SpanRuler" (242 : Nat) "SpanRuler$Note" "kind" "LSpanRuler$Kind;" "SpanRuler") ∈ lw_tbl := lw_at lw_m4 44 rfl
theorem q1263 : (Jvm.Cond.declares ({ cls := "java/lang/Enum", name := "ordinal", desc := "()I" } : Jvm.MethodName)) ∈ lw_tbl := lw_at lw_m6 3 rfl
theorem q1261 : (Jvm.Cond.methodLink "SpanRuler" (245 : Nat) ({ cls := "SpanRuler$Kind", name := "ordinal", desc := "()I" } : Jvm.MethodName)) ∈ lw_all := lw_g (lw_at lw_m6 1 rfl) rfl
theorem q76 : (Jvm.Cond.initialized "java/lang/Enum") ∈ lw_all := lw_g (lw_at lw_m1 16 rfl) rfl
theorem q1268 : (Jvm.Cond.code ({ cls := "java/lang/Enum", name := "ordinal", desc := "()I" } : Jvm.MethodName) prog_28_method_2_code (1 : Nat) (Option.some Jvm.ClassFile.FieldType.int)) ∈ lw_all := lw_g (lw_at lw_m6 8 rfl) rfl
theorem q1267 : (Jvm.Cond.instanceMethod ({ cls := "java/lang/Enum", name := "ordinal", desc := "()I" } : Jvm.MethodName)) ∈ lw_all := lw_g (lw_at lw_m6 7 rfl) rfl
theorem q1262 : (Jvm.Cond.sameMethod "SpanRuler$Kind" "java/lang/Enum" "ordinal" "()I") ∈ lw_all := lw_g (lw_at lw_m6 2 rfl) rfl
theorem q1264 : (Jvm.Cond.selects "SpanRuler$Kind$1" ({ cls := "SpanRuler$Kind", name := "ordinal", desc := "()I" } : Jvm.MethodName) ({ cls := "java/lang/Enum", name := "ordinal", desc := "()I" } : Jvm.MethodName)) ∈ lw_all := lw_g (lw_at lw_m6 4 rfl) rfl
theorem q827 : (Jvm.Cond.fieldLinkNest "SpanRuler" (248 : Nat) "SpanRuler$Note" "from" "I" "SpanRuler") ∈ lw_tbl := lw_at lw_m4 47 rfl
theorem q830 : (Jvm.Cond.fieldLinkNest "SpanRuler" (251 : Nat) "SpanRuler$Note" "to" "I" "SpanRuler") ∈ lw_tbl := lw_at lw_m4 50 rfl
theorem q833 : (Jvm.Cond.fieldLinkNest "SpanRuler" (254 : Nat) "SpanRuler$Note" "number" "I" "SpanRuler") ∈ lw_tbl := lw_at lw_m4 53 rfl
theorem q836 : (Jvm.Cond.fieldLinkNest "SpanRuler" (257 : Nat) "SpanRuler$Note" "ticks" "I" "SpanRuler") ∈ lw_tbl := lw_at lw_m4 56 rfl
theorem q1265 : (Jvm.Cond.selects "SpanRuler$Kind$2" ({ cls := "SpanRuler$Kind", name := "ordinal", desc := "()I" } : Jvm.MethodName) ({ cls := "java/lang/Enum", name := "ordinal", desc := "()I" } : Jvm.MethodName)) ∈ lw_all := lw_g (lw_at lw_m6 5 rfl) rfl
theorem q1266 : (Jvm.Cond.selects "SpanRuler$Kind$3" ({ cls := "SpanRuler$Kind", name := "ordinal", desc := "()I" } : Jvm.MethodName) ({ cls := "java/lang/Enum", name := "ordinal", desc := "()I" } : Jvm.MethodName)) ∈ lw_all := lw_g (lw_at lw_m6 6 rfl) rfl
theorem x_ordK0 (l : Launch) (G : GE) (h : AH) : GM l G yJ7_ordinal (ws_ yJ7_ordinal cJ7_ordinal 1 (some .int)) 1 [.ref (G.ga "K0")] (h) (0) (PV (.int 0) h) := by
  refine GM.of (by decide) (dk rfl) ?_
  intro X eL eG eh ok fn
  subst eL; subst eG
  show GW X _ 0 0 [some (.ref (X.G.ga "K0"))] []
  refine g_aload_n ok dJ7_ordinal_0 rfl ?_
  refine g_ord ok (kn := "K0") (C := "SpanRuler$Kind$1") (v := 0) (by simp [gkn]) q2792 dJ7_ordinal_1 ?_
  exact g_iret ok fn rfl dJ7_ordinal_4 ⟨rfl, rfl⟩ (by omega)
theorem x_ordK1 (l : Launch) (G : GE) (h : AH) : GM l G yJ7_ordinal (ws_ yJ7_ordinal cJ7_ordinal 1 (some .int)) 1 [.ref (G.ga "K1")] (h) (0) (PV (.int 1) h) := by
  refine GM.of (by decide) (dk rfl) ?_
  intro X eL eG eh ok fn
  subst eL; subst eG
  show GW X _ 0 0 [some (.ref (X.G.ga "K1"))] []
  refine g_aload_n ok dJ7_ordinal_0 rfl ?_
  refine g_ord ok (kn := "K1") (C := "SpanRuler$Kind$2") (v := 1) (by simp [gkn]) q2792 dJ7_ordinal_1 ?_
  exact g_iret ok fn rfl dJ7_ordinal_4 ⟨rfl, rfl⟩ (by omega)
theorem x_ordK2 (l : Launch) (G : GE) (h : AH) : GM l G yJ7_ordinal (ws_ yJ7_ordinal cJ7_ordinal 1 (some .int)) 1 [.ref (G.ga "K2")] (h) (0) (PV (.int 2) h) := by
  refine GM.of (by decide) (dk rfl) ?_
  intro X eL eG eh ok fn
  subst eL; subst eG
  show GW X _ 0 0 [some (.ref (X.G.ga "K2"))] []
  refine g_aload_n ok dJ7_ordinal_0 rfl ?_
  refine g_ord ok (kn := "K2") (C := "SpanRuler$Kind$3") (v := 2) (by simp [gkn]) q2792 dJ7_ordinal_1 ?_
  exact g_iret ok fn rfl dJ7_ordinal_4 ⟨rfl, rfl⟩ (by omega)
theorem inR_4 {k : Int32} (h : inR k 0 4 = true) : ∃ i, k = nI i ∧ i < 5 := by
  obtain ⟨a1, a2⟩ := inR_i.mp h
  obtain ⟨i, hi, e⟩ := nI_of2 (M := 4) (n := 4) rfl (Int32.not_lt.mpr a1) a2
  exact ⟨i, e, by omega⟩
theorem s_noteOf (l : Launch) (G : GE) (h : AH) (x : Nat) (s : MS) (S0 : SRAt G h x s) (p : Int32) (wd : Int32) : GM l G yX1_noteOf (ws_ yX1_noteOf cX1_noteOf 4 (some .int)) 16 [.ref x, .int p, .int wd] (h) (6) (SPost G x (ex2 IOOBE IAE) (mNoteOf s p wd)) := by
  refine GM.of (by decide) (dk rfl) ?_
  intro X eL eG eh ok fn
  subst eL; subst eG
  show GW X _ 0 0 [some (.ref x), some (.int p), some (.int wd), none] []
  obtain ⟨own, hr, ru, sv, hl, hd, hc, hm, hf, inp, ln, bt, rf, S⟩ := S0
  obtain ⟨rt, cl, nl, nd, nc, nm, nf, vl, vd, vc, vm, vf, y⟩ := S.2.2.2.2.2.2.2.2.1.1.1
  have iR := y.2.2.2.2.2.1
  have n10 := iR.1.2
  have v5 := iR.2.1.2
  rcases Bool.eq_false_or_eq_true (inR p 0 (nI (rN (s.A 0)) - 1)) with hs | hs
  · obtain ⟨i, ei, hi⟩ := inR_lt hs (by omega)
    subst ei
    obtain ⟨b, kb, nb⟩ := y.2.2.1 i hi
    have rb := S.1 _ _ nb
    have is1 : mIsN s (nI i) = true := by unfold mIsN; rw [iR.1.1]; exact hs
    have no := iR.2.2.2.2.1 i hi
    rcases Bool.eq_false_or_eq_true (inR wd 0 4) with hw | hw
    · obtain ⟨m, em, hm5⟩ := inR_4 hw
      subst em
      rcases k_case no.1 with ek | ek | ek
      · have nbk := S.1 _ _ nb
        rw [ek, kd0] at nbk
        rcases (by omega : m = 0 ∨ m = 1 ∨ m = 2 ∨ m = 3 ∨ m = 4) with e | e | e | e | e
        · subst e
          refine g_aload_n ok dX1_noteOf_0 rfl ?_
          refine g_iload_n ok dX1_noteOf_1 rfl ?_
          refine g_callV ok q1236 q1238 qs9 q61 q1239 (Recv.ob ok gc_X1 (Rd.h (S.2.2.1))) dX1_noteOf_2 (s_noteAt1 X.l X.G _ x own hr s ru sv hl hd hc hm hf inp ln bt rf S rt cl nl nd nc nm nf vl vd vc vm vf y i hi b kb _ rb) (nm_ (by decide : nmb _ 1 = true)) (dl rfl) (dk rfl) rfl rfl (dk rfl) (by omega) (kV ?_) xV
          refine g_astore_n ok dX1_noteOf_5 (ls1 := [some (.ref x), some (.int (nI i)), some (.int (nI 0)), some (.ref b)]) (dl rfl) rfl ?_
          refine g_iload_n ok dX1_noteOf_6 rfl ?_
          refine g_iconst ok (v := 0) dX1_noteOf_7 rfl ?_
          refine g_iconst ok (v := 4) dX1_noteOf_8 rfl ?_
          refine g_callS ok q1001 q1002 q61 q1003 dX1_noteOf_9 (x_isIn X.l X.G _ (nI 0) 0 4) (nm_ (by decide : nmb _ 3 = true)) (dl rfl) (dk rfl) rfl rfl (dk rfl) (by omega) (kV ?_) xV
          rw [hw]
          refine g_callS ok q1019 q1020 q61 q1021 dX1_noteOf_12 (x_chkA1 X.l X.G _) (nm_ (by decide : nmb _ 1 = true)) (dl rfl) (dk rfl) rfl rfl (dk rfl) (by omega) (kN ?_) xN
          refine g_iload_n ok dX1_noteOf_15 rfl ?_
          refine g_tableIn ok (tgt := 48) (off := 32) dX1_noteOf_16 (by decide) (by decide) rfl (by decide) ?_
          refine g_aload_n ok dX1_noteOf_48 rfl ?_
          refine g_getN ok ck_X10 0 q824 rfl (by decide) dX1_noteOf_49 (Rd.h nbk) rfl ?_
          refine g_callU ok (C := "SpanRuler$Kind$1") (owner := "java/lang/Enum") q1261 q1262 q1264 q1267 q76 q1268 (ok.declA q1263) (by decide) ((Recv.kd (v := 0) (by simp [gkn]))) dX1_noteOf_52 (x_ordK0 X.l X.G _) (nm_ (by decide : nmb _ 0 = true)) (dl rfl) (dk rfl) rfl rfl (dk rfl) (by omega) (kV ?_) xV
          refine g_goto ok dX1_noteOf_55 (tgt := 83) (by decide) ?_
          have pf : SPost X.G x (ex2 IOOBE IAE) (mNoteOf s (nI i) (nI 0)) (.inl (some (.int 0))) h := by
            unfold mNoteOf; rw [if_pos is1, if_pos hw]; simp only [nn_nI (by omega : i < 2 ^ 31)]
            rw [show s.A 0 (72 + 5 * i + nn (nI 0)) = 0 from ek]; exact SPost.ok S.at
          exact g_iret ok fn rfl dX1_noteOf_83 pf (by omega)
        · subst e
          refine g_aload_n ok dX1_noteOf_0 rfl ?_
          refine g_iload_n ok dX1_noteOf_1 rfl ?_
          refine g_callV ok q1236 q1238 qs9 q61 q1239 (Recv.ob ok gc_X1 (Rd.h (S.2.2.1))) dX1_noteOf_2 (s_noteAt1 X.l X.G _ x own hr s ru sv hl hd hc hm hf inp ln bt rf S rt cl nl nd nc nm nf vl vd vc vm vf y i hi b kb _ rb) (nm_ (by decide : nmb _ 1 = true)) (dl rfl) (dk rfl) rfl rfl (dk rfl) (by omega) (kV ?_) xV
          refine g_astore_n ok dX1_noteOf_5 (ls1 := [some (.ref x), some (.int (nI i)), some (.int (nI 1)), some (.ref b)]) (dl rfl) rfl ?_
          refine g_iload_n ok dX1_noteOf_6 rfl ?_
          refine g_iconst ok (v := 0) dX1_noteOf_7 rfl ?_
          refine g_iconst ok (v := 4) dX1_noteOf_8 rfl ?_
          refine g_callS ok q1001 q1002 q61 q1003 dX1_noteOf_9 (x_isIn X.l X.G _ (nI 1) 0 4) (nm_ (by decide : nmb _ 3 = true)) (dl rfl) (dk rfl) rfl rfl (dk rfl) (by omega) (kV ?_) xV
          rw [hw]
          refine g_callS ok q1019 q1020 q61 q1021 dX1_noteOf_12 (x_chkA1 X.l X.G _) (nm_ (by decide : nmb _ 1 = true)) (dl rfl) (dk rfl) rfl rfl (dk rfl) (by omega) (kN ?_) xN
          refine g_iload_n ok dX1_noteOf_15 rfl ?_
          refine g_tableIn ok (tgt := 58) (off := 42) dX1_noteOf_16 (by decide) (by decide) rfl (by decide) ?_
          refine g_aload_n ok dX1_noteOf_58 rfl ?_
          refine g_getN ok ck_X10 1 q827 rfl (by decide) dX1_noteOf_59 (Rd.h nbk) rfl ?_
          refine g_goto ok dX1_noteOf_62 (tgt := 83) (by decide) ?_
          have pf : SPost X.G x (ex2 IOOBE IAE) (mNoteOf s (nI i) (nI 1)) (.inl (some (.int (s.A 0 (72 + 5 * i + 1))))) h := by
            unfold mNoteOf; rw [if_pos is1, if_pos hw]; simp only [nn_nI (by omega : i < 2 ^ 31)]
            exact SPost.ok (v := s.A 0 (72 + 5 * i + 1)) S.at
          exact g_iret ok fn rfl dX1_noteOf_83 pf (by omega)
        · subst e
          refine g_aload_n ok dX1_noteOf_0 rfl ?_
          refine g_iload_n ok dX1_noteOf_1 rfl ?_
          refine g_callV ok q1236 q1238 qs9 q61 q1239 (Recv.ob ok gc_X1 (Rd.h (S.2.2.1))) dX1_noteOf_2 (s_noteAt1 X.l X.G _ x own hr s ru sv hl hd hc hm hf inp ln bt rf S rt cl nl nd nc nm nf vl vd vc vm vf y i hi b kb _ rb) (nm_ (by decide : nmb _ 1 = true)) (dl rfl) (dk rfl) rfl rfl (dk rfl) (by omega) (kV ?_) xV
          refine g_astore_n ok dX1_noteOf_5 (ls1 := [some (.ref x), some (.int (nI i)), some (.int (nI 2)), some (.ref b)]) (dl rfl) rfl ?_
          refine g_iload_n ok dX1_noteOf_6 rfl ?_
          refine g_iconst ok (v := 0) dX1_noteOf_7 rfl ?_
          refine g_iconst ok (v := 4) dX1_noteOf_8 rfl ?_
          refine g_callS ok q1001 q1002 q61 q1003 dX1_noteOf_9 (x_isIn X.l X.G _ (nI 2) 0 4) (nm_ (by decide : nmb _ 3 = true)) (dl rfl) (dk rfl) rfl rfl (dk rfl) (by omega) (kV ?_) xV
          rw [hw]
          refine g_callS ok q1019 q1020 q61 q1021 dX1_noteOf_12 (x_chkA1 X.l X.G _) (nm_ (by decide : nmb _ 1 = true)) (dl rfl) (dk rfl) rfl rfl (dk rfl) (by omega) (kN ?_) xN
          refine g_iload_n ok dX1_noteOf_15 rfl ?_
          refine g_tableIn ok (tgt := 65) (off := 49) dX1_noteOf_16 (by decide) (by decide) rfl (by decide) ?_
          refine g_aload_n ok dX1_noteOf_65 rfl ?_
          refine g_getN ok ck_X10 2 q830 rfl (by decide) dX1_noteOf_66 (Rd.h nbk) rfl ?_
          refine g_goto ok dX1_noteOf_69 (tgt := 83) (by decide) ?_
          have pf : SPost X.G x (ex2 IOOBE IAE) (mNoteOf s (nI i) (nI 2)) (.inl (some (.int (s.A 0 (72 + 5 * i + 2))))) h := by
            unfold mNoteOf; rw [if_pos is1, if_pos hw]; simp only [nn_nI (by omega : i < 2 ^ 31)]
            exact SPost.ok (v := s.A 0 (72 + 5 * i + 2)) S.at
          exact g_iret ok fn rfl dX1_noteOf_83 pf (by omega)
        · subst e
          refine g_aload_n ok dX1_noteOf_0 rfl ?_
          refine g_iload_n ok dX1_noteOf_1 rfl ?_
          refine g_callV ok q1236 q1238 qs9 q61 q1239 (Recv.ob ok gc_X1 (Rd.h (S.2.2.1))) dX1_noteOf_2 (s_noteAt1 X.l X.G _ x own hr s ru sv hl hd hc hm hf inp ln bt rf S rt cl nl nd nc nm nf vl vd vc vm vf y i hi b kb _ rb) (nm_ (by decide : nmb _ 1 = true)) (dl rfl) (dk rfl) rfl rfl (dk rfl) (by omega) (kV ?_) xV
          refine g_astore_n ok dX1_noteOf_5 (ls1 := [some (.ref x), some (.int (nI i)), some (.int (nI 3)), some (.ref b)]) (dl rfl) rfl ?_
          refine g_iload_n ok dX1_noteOf_6 rfl ?_
          refine g_iconst ok (v := 0) dX1_noteOf_7 rfl ?_
          refine g_iconst ok (v := 4) dX1_noteOf_8 rfl ?_
          refine g_callS ok q1001 q1002 q61 q1003 dX1_noteOf_9 (x_isIn X.l X.G _ (nI 3) 0 4) (nm_ (by decide : nmb _ 3 = true)) (dl rfl) (dk rfl) rfl rfl (dk rfl) (by omega) (kV ?_) xV
          rw [hw]
          refine g_callS ok q1019 q1020 q61 q1021 dX1_noteOf_12 (x_chkA1 X.l X.G _) (nm_ (by decide : nmb _ 1 = true)) (dl rfl) (dk rfl) rfl rfl (dk rfl) (by omega) (kN ?_) xN
          refine g_iload_n ok dX1_noteOf_15 rfl ?_
          refine g_tableIn ok (tgt := 72) (off := 56) dX1_noteOf_16 (by decide) (by decide) rfl (by decide) ?_
          refine g_aload_n ok dX1_noteOf_72 rfl ?_
          refine g_getN ok ck_X10 3 q833 rfl (by decide) dX1_noteOf_73 (Rd.h nbk) rfl ?_
          refine g_goto ok dX1_noteOf_76 (tgt := 83) (by decide) ?_
          have pf : SPost X.G x (ex2 IOOBE IAE) (mNoteOf s (nI i) (nI 3)) (.inl (some (.int (s.A 0 (72 + 5 * i + 3))))) h := by
            unfold mNoteOf; rw [if_pos is1, if_pos hw]; simp only [nn_nI (by omega : i < 2 ^ 31)]
            exact SPost.ok (v := s.A 0 (72 + 5 * i + 3)) S.at
          exact g_iret ok fn rfl dX1_noteOf_83 pf (by omega)
        · subst e
          refine g_aload_n ok dX1_noteOf_0 rfl ?_
          refine g_iload_n ok dX1_noteOf_1 rfl ?_
          refine g_callV ok q1236 q1238 qs9 q61 q1239 (Recv.ob ok gc_X1 (Rd.h (S.2.2.1))) dX1_noteOf_2 (s_noteAt1 X.l X.G _ x own hr s ru sv hl hd hc hm hf inp ln bt rf S rt cl nl nd nc nm nf vl vd vc vm vf y i hi b kb _ rb) (nm_ (by decide : nmb _ 1 = true)) (dl rfl) (dk rfl) rfl rfl (dk rfl) (by omega) (kV ?_) xV
          refine g_astore_n ok dX1_noteOf_5 (ls1 := [some (.ref x), some (.int (nI i)), some (.int (nI 4)), some (.ref b)]) (dl rfl) rfl ?_
          refine g_iload_n ok dX1_noteOf_6 rfl ?_
          refine g_iconst ok (v := 0) dX1_noteOf_7 rfl ?_
          refine g_iconst ok (v := 4) dX1_noteOf_8 rfl ?_
          refine g_callS ok q1001 q1002 q61 q1003 dX1_noteOf_9 (x_isIn X.l X.G _ (nI 4) 0 4) (nm_ (by decide : nmb _ 3 = true)) (dl rfl) (dk rfl) rfl rfl (dk rfl) (by omega) (kV ?_) xV
          rw [hw]
          refine g_callS ok q1019 q1020 q61 q1021 dX1_noteOf_12 (x_chkA1 X.l X.G _) (nm_ (by decide : nmb _ 1 = true)) (dl rfl) (dk rfl) rfl rfl (dk rfl) (by omega) (kN ?_) xN
          refine g_iload_n ok dX1_noteOf_15 rfl ?_
          refine g_tableOut ok (tgt := 79) dX1_noteOf_16 (by decide) (by decide) ?_
          refine g_aload_n ok dX1_noteOf_79 rfl ?_
          refine g_getN ok ck_X10 4 q836 rfl (by decide) dX1_noteOf_80 (Rd.h nbk) rfl ?_
          have pf : SPost X.G x (ex2 IOOBE IAE) (mNoteOf s (nI i) (nI 4)) (.inl (some (.int (s.A 0 (72 + 5 * i + 4))))) h := by
            unfold mNoteOf; rw [if_pos is1, if_pos hw]; simp only [nn_nI (by omega : i < 2 ^ 31)]
            exact SPost.ok (v := s.A 0 (72 + 5 * i + 4)) S.at
          exact g_iret ok fn rfl dX1_noteOf_83 pf (by omega)
      · have nbk := S.1 _ _ nb
        rw [ek, kd1] at nbk
        rcases (by omega : m = 0 ∨ m = 1 ∨ m = 2 ∨ m = 3 ∨ m = 4) with e | e | e | e | e
        · subst e
          refine g_aload_n ok dX1_noteOf_0 rfl ?_
          refine g_iload_n ok dX1_noteOf_1 rfl ?_
          refine g_callV ok q1236 q1238 qs9 q61 q1239 (Recv.ob ok gc_X1 (Rd.h (S.2.2.1))) dX1_noteOf_2 (s_noteAt1 X.l X.G _ x own hr s ru sv hl hd hc hm hf inp ln bt rf S rt cl nl nd nc nm nf vl vd vc vm vf y i hi b kb _ rb) (nm_ (by decide : nmb _ 1 = true)) (dl rfl) (dk rfl) rfl rfl (dk rfl) (by omega) (kV ?_) xV
          refine g_astore_n ok dX1_noteOf_5 (ls1 := [some (.ref x), some (.int (nI i)), some (.int (nI 0)), some (.ref b)]) (dl rfl) rfl ?_
          refine g_iload_n ok dX1_noteOf_6 rfl ?_
          refine g_iconst ok (v := 0) dX1_noteOf_7 rfl ?_
          refine g_iconst ok (v := 4) dX1_noteOf_8 rfl ?_
          refine g_callS ok q1001 q1002 q61 q1003 dX1_noteOf_9 (x_isIn X.l X.G _ (nI 0) 0 4) (nm_ (by decide : nmb _ 3 = true)) (dl rfl) (dk rfl) rfl rfl (dk rfl) (by omega) (kV ?_) xV
          rw [hw]
          refine g_callS ok q1019 q1020 q61 q1021 dX1_noteOf_12 (x_chkA1 X.l X.G _) (nm_ (by decide : nmb _ 1 = true)) (dl rfl) (dk rfl) rfl rfl (dk rfl) (by omega) (kN ?_) xN
          refine g_iload_n ok dX1_noteOf_15 rfl ?_
          refine g_tableIn ok (tgt := 48) (off := 32) dX1_noteOf_16 (by decide) (by decide) rfl (by decide) ?_
          refine g_aload_n ok dX1_noteOf_48 rfl ?_
          refine g_getN ok ck_X10 0 q824 rfl (by decide) dX1_noteOf_49 (Rd.h nbk) rfl ?_
          refine g_callU ok (C := "SpanRuler$Kind$2") (owner := "java/lang/Enum") q1261 q1262 q1265 q1267 q76 q1268 (ok.declA q1263) (by decide) ((Recv.kd (v := 1) (by simp [gkn]))) dX1_noteOf_52 (x_ordK1 X.l X.G _) (nm_ (by decide : nmb _ 0 = true)) (dl rfl) (dk rfl) rfl rfl (dk rfl) (by omega) (kV ?_) xV
          refine g_goto ok dX1_noteOf_55 (tgt := 83) (by decide) ?_
          have pf : SPost X.G x (ex2 IOOBE IAE) (mNoteOf s (nI i) (nI 0)) (.inl (some (.int 1))) h := by
            unfold mNoteOf; rw [if_pos is1, if_pos hw]; simp only [nn_nI (by omega : i < 2 ^ 31)]
            rw [show s.A 0 (72 + 5 * i + nn (nI 0)) = 1 from ek]; exact SPost.ok S.at
          exact g_iret ok fn rfl dX1_noteOf_83 pf (by omega)
        · subst e
          refine g_aload_n ok dX1_noteOf_0 rfl ?_
          refine g_iload_n ok dX1_noteOf_1 rfl ?_
          refine g_callV ok q1236 q1238 qs9 q61 q1239 (Recv.ob ok gc_X1 (Rd.h (S.2.2.1))) dX1_noteOf_2 (s_noteAt1 X.l X.G _ x own hr s ru sv hl hd hc hm hf inp ln bt rf S rt cl nl nd nc nm nf vl vd vc vm vf y i hi b kb _ rb) (nm_ (by decide : nmb _ 1 = true)) (dl rfl) (dk rfl) rfl rfl (dk rfl) (by omega) (kV ?_) xV
          refine g_astore_n ok dX1_noteOf_5 (ls1 := [some (.ref x), some (.int (nI i)), some (.int (nI 1)), some (.ref b)]) (dl rfl) rfl ?_
          refine g_iload_n ok dX1_noteOf_6 rfl ?_
          refine g_iconst ok (v := 0) dX1_noteOf_7 rfl ?_
          refine g_iconst ok (v := 4) dX1_noteOf_8 rfl ?_
          refine g_callS ok q1001 q1002 q61 q1003 dX1_noteOf_9 (x_isIn X.l X.G _ (nI 1) 0 4) (nm_ (by decide : nmb _ 3 = true)) (dl rfl) (dk rfl) rfl rfl (dk rfl) (by omega) (kV ?_) xV
          rw [hw]
          refine g_callS ok q1019 q1020 q61 q1021 dX1_noteOf_12 (x_chkA1 X.l X.G _) (nm_ (by decide : nmb _ 1 = true)) (dl rfl) (dk rfl) rfl rfl (dk rfl) (by omega) (kN ?_) xN
          refine g_iload_n ok dX1_noteOf_15 rfl ?_
          refine g_tableIn ok (tgt := 58) (off := 42) dX1_noteOf_16 (by decide) (by decide) rfl (by decide) ?_
          refine g_aload_n ok dX1_noteOf_58 rfl ?_
          refine g_getN ok ck_X10 1 q827 rfl (by decide) dX1_noteOf_59 (Rd.h nbk) rfl ?_
          refine g_goto ok dX1_noteOf_62 (tgt := 83) (by decide) ?_
          have pf : SPost X.G x (ex2 IOOBE IAE) (mNoteOf s (nI i) (nI 1)) (.inl (some (.int (s.A 0 (72 + 5 * i + 1))))) h := by
            unfold mNoteOf; rw [if_pos is1, if_pos hw]; simp only [nn_nI (by omega : i < 2 ^ 31)]
            exact SPost.ok (v := s.A 0 (72 + 5 * i + 1)) S.at
          exact g_iret ok fn rfl dX1_noteOf_83 pf (by omega)
        · subst e
          refine g_aload_n ok dX1_noteOf_0 rfl ?_
          refine g_iload_n ok dX1_noteOf_1 rfl ?_
          refine g_callV ok q1236 q1238 qs9 q61 q1239 (Recv.ob ok gc_X1 (Rd.h (S.2.2.1))) dX1_noteOf_2 (s_noteAt1 X.l X.G _ x own hr s ru sv hl hd hc hm hf inp ln bt rf S rt cl nl nd nc nm nf vl vd vc vm vf y i hi b kb _ rb) (nm_ (by decide : nmb _ 1 = true)) (dl rfl) (dk rfl) rfl rfl (dk rfl) (by omega) (kV ?_) xV
          refine g_astore_n ok dX1_noteOf_5 (ls1 := [some (.ref x), some (.int (nI i)), some (.int (nI 2)), some (.ref b)]) (dl rfl) rfl ?_
          refine g_iload_n ok dX1_noteOf_6 rfl ?_
          refine g_iconst ok (v := 0) dX1_noteOf_7 rfl ?_
          refine g_iconst ok (v := 4) dX1_noteOf_8 rfl ?_
          refine g_callS ok q1001 q1002 q61 q1003 dX1_noteOf_9 (x_isIn X.l X.G _ (nI 2) 0 4) (nm_ (by decide : nmb _ 3 = true)) (dl rfl) (dk rfl) rfl rfl (dk rfl) (by omega) (kV ?_) xV
          rw [hw]
          refine g_callS ok q1019 q1020 q61 q1021 dX1_noteOf_12 (x_chkA1 X.l X.G _) (nm_ (by decide : nmb _ 1 = true)) (dl rfl) (dk rfl) rfl rfl (dk rfl) (by omega) (kN ?_) xN
          refine g_iload_n ok dX1_noteOf_15 rfl ?_
          refine g_tableIn ok (tgt := 65) (off := 49) dX1_noteOf_16 (by decide) (by decide) rfl (by decide) ?_
          refine g_aload_n ok dX1_noteOf_65 rfl ?_
          refine g_getN ok ck_X10 2 q830 rfl (by decide) dX1_noteOf_66 (Rd.h nbk) rfl ?_
          refine g_goto ok dX1_noteOf_69 (tgt := 83) (by decide) ?_
          have pf : SPost X.G x (ex2 IOOBE IAE) (mNoteOf s (nI i) (nI 2)) (.inl (some (.int (s.A 0 (72 + 5 * i + 2))))) h := by
            unfold mNoteOf; rw [if_pos is1, if_pos hw]; simp only [nn_nI (by omega : i < 2 ^ 31)]
            exact SPost.ok (v := s.A 0 (72 + 5 * i + 2)) S.at
          exact g_iret ok fn rfl dX1_noteOf_83 pf (by omega)
        · subst e
          refine g_aload_n ok dX1_noteOf_0 rfl ?_
          refine g_iload_n ok dX1_noteOf_1 rfl ?_
          refine g_callV ok q1236 q1238 qs9 q61 q1239 (Recv.ob ok gc_X1 (Rd.h (S.2.2.1))) dX1_noteOf_2 (s_noteAt1 X.l X.G _ x own hr s ru sv hl hd hc hm hf inp ln bt rf S rt cl nl nd nc nm nf vl vd vc vm vf y i hi b kb _ rb) (nm_ (by decide : nmb _ 1 = true)) (dl rfl) (dk rfl) rfl rfl (dk rfl) (by omega) (kV ?_) xV
          refine g_astore_n ok dX1_noteOf_5 (ls1 := [some (.ref x), some (.int (nI i)), some (.int (nI 3)), some (.ref b)]) (dl rfl) rfl ?_
          refine g_iload_n ok dX1_noteOf_6 rfl ?_
          refine g_iconst ok (v := 0) dX1_noteOf_7 rfl ?_
          refine g_iconst ok (v := 4) dX1_noteOf_8 rfl ?_
          refine g_callS ok q1001 q1002 q61 q1003 dX1_noteOf_9 (x_isIn X.l X.G _ (nI 3) 0 4) (nm_ (by decide : nmb _ 3 = true)) (dl rfl) (dk rfl) rfl rfl (dk rfl) (by omega) (kV ?_) xV
          rw [hw]
          refine g_callS ok q1019 q1020 q61 q1021 dX1_noteOf_12 (x_chkA1 X.l X.G _) (nm_ (by decide : nmb _ 1 = true)) (dl rfl) (dk rfl) rfl rfl (dk rfl) (by omega) (kN ?_) xN
          refine g_iload_n ok dX1_noteOf_15 rfl ?_
          refine g_tableIn ok (tgt := 72) (off := 56) dX1_noteOf_16 (by decide) (by decide) rfl (by decide) ?_
          refine g_aload_n ok dX1_noteOf_72 rfl ?_
          refine g_getN ok ck_X10 3 q833 rfl (by decide) dX1_noteOf_73 (Rd.h nbk) rfl ?_
          refine g_goto ok dX1_noteOf_76 (tgt := 83) (by decide) ?_
          have pf : SPost X.G x (ex2 IOOBE IAE) (mNoteOf s (nI i) (nI 3)) (.inl (some (.int (s.A 0 (72 + 5 * i + 3))))) h := by
            unfold mNoteOf; rw [if_pos is1, if_pos hw]; simp only [nn_nI (by omega : i < 2 ^ 31)]
            exact SPost.ok (v := s.A 0 (72 + 5 * i + 3)) S.at
          exact g_iret ok fn rfl dX1_noteOf_83 pf (by omega)
        · subst e
          refine g_aload_n ok dX1_noteOf_0 rfl ?_
          refine g_iload_n ok dX1_noteOf_1 rfl ?_
          refine g_callV ok q1236 q1238 qs9 q61 q1239 (Recv.ob ok gc_X1 (Rd.h (S.2.2.1))) dX1_noteOf_2 (s_noteAt1 X.l X.G _ x own hr s ru sv hl hd hc hm hf inp ln bt rf S rt cl nl nd nc nm nf vl vd vc vm vf y i hi b kb _ rb) (nm_ (by decide : nmb _ 1 = true)) (dl rfl) (dk rfl) rfl rfl (dk rfl) (by omega) (kV ?_) xV
          refine g_astore_n ok dX1_noteOf_5 (ls1 := [some (.ref x), some (.int (nI i)), some (.int (nI 4)), some (.ref b)]) (dl rfl) rfl ?_
          refine g_iload_n ok dX1_noteOf_6 rfl ?_
          refine g_iconst ok (v := 0) dX1_noteOf_7 rfl ?_
          refine g_iconst ok (v := 4) dX1_noteOf_8 rfl ?_
          refine g_callS ok q1001 q1002 q61 q1003 dX1_noteOf_9 (x_isIn X.l X.G _ (nI 4) 0 4) (nm_ (by decide : nmb _ 3 = true)) (dl rfl) (dk rfl) rfl rfl (dk rfl) (by omega) (kV ?_) xV
          rw [hw]
          refine g_callS ok q1019 q1020 q61 q1021 dX1_noteOf_12 (x_chkA1 X.l X.G _) (nm_ (by decide : nmb _ 1 = true)) (dl rfl) (dk rfl) rfl rfl (dk rfl) (by omega) (kN ?_) xN
          refine g_iload_n ok dX1_noteOf_15 rfl ?_
          refine g_tableOut ok (tgt := 79) dX1_noteOf_16 (by decide) (by decide) ?_
          refine g_aload_n ok dX1_noteOf_79 rfl ?_
          refine g_getN ok ck_X10 4 q836 rfl (by decide) dX1_noteOf_80 (Rd.h nbk) rfl ?_
          have pf : SPost X.G x (ex2 IOOBE IAE) (mNoteOf s (nI i) (nI 4)) (.inl (some (.int (s.A 0 (72 + 5 * i + 4))))) h := by
            unfold mNoteOf; rw [if_pos is1, if_pos hw]; simp only [nn_nI (by omega : i < 2 ^ 31)]
            exact SPost.ok (v := s.A 0 (72 + 5 * i + 4)) S.at
          exact g_iret ok fn rfl dX1_noteOf_83 pf (by omega)
      · have nbk := S.1 _ _ nb
        rw [ek, kd2] at nbk
        rcases (by omega : m = 0 ∨ m = 1 ∨ m = 2 ∨ m = 3 ∨ m = 4) with e | e | e | e | e
        · subst e
          refine g_aload_n ok dX1_noteOf_0 rfl ?_
          refine g_iload_n ok dX1_noteOf_1 rfl ?_
          refine g_callV ok q1236 q1238 qs9 q61 q1239 (Recv.ob ok gc_X1 (Rd.h (S.2.2.1))) dX1_noteOf_2 (s_noteAt1 X.l X.G _ x own hr s ru sv hl hd hc hm hf inp ln bt rf S rt cl nl nd nc nm nf vl vd vc vm vf y i hi b kb _ rb) (nm_ (by decide : nmb _ 1 = true)) (dl rfl) (dk rfl) rfl rfl (dk rfl) (by omega) (kV ?_) xV
          refine g_astore_n ok dX1_noteOf_5 (ls1 := [some (.ref x), some (.int (nI i)), some (.int (nI 0)), some (.ref b)]) (dl rfl) rfl ?_
          refine g_iload_n ok dX1_noteOf_6 rfl ?_
          refine g_iconst ok (v := 0) dX1_noteOf_7 rfl ?_
          refine g_iconst ok (v := 4) dX1_noteOf_8 rfl ?_
          refine g_callS ok q1001 q1002 q61 q1003 dX1_noteOf_9 (x_isIn X.l X.G _ (nI 0) 0 4) (nm_ (by decide : nmb _ 3 = true)) (dl rfl) (dk rfl) rfl rfl (dk rfl) (by omega) (kV ?_) xV
          rw [hw]
          refine g_callS ok q1019 q1020 q61 q1021 dX1_noteOf_12 (x_chkA1 X.l X.G _) (nm_ (by decide : nmb _ 1 = true)) (dl rfl) (dk rfl) rfl rfl (dk rfl) (by omega) (kN ?_) xN
          refine g_iload_n ok dX1_noteOf_15 rfl ?_
          refine g_tableIn ok (tgt := 48) (off := 32) dX1_noteOf_16 (by decide) (by decide) rfl (by decide) ?_
          refine g_aload_n ok dX1_noteOf_48 rfl ?_
          refine g_getN ok ck_X10 0 q824 rfl (by decide) dX1_noteOf_49 (Rd.h nbk) rfl ?_
          refine g_callU ok (C := "SpanRuler$Kind$3") (owner := "java/lang/Enum") q1261 q1262 q1266 q1267 q76 q1268 (ok.declA q1263) (by decide) ((Recv.kd (v := 2) (by simp [gkn]))) dX1_noteOf_52 (x_ordK2 X.l X.G _) (nm_ (by decide : nmb _ 0 = true)) (dl rfl) (dk rfl) rfl rfl (dk rfl) (by omega) (kV ?_) xV
          refine g_goto ok dX1_noteOf_55 (tgt := 83) (by decide) ?_
          have pf : SPost X.G x (ex2 IOOBE IAE) (mNoteOf s (nI i) (nI 0)) (.inl (some (.int 2))) h := by
            unfold mNoteOf; rw [if_pos is1, if_pos hw]; simp only [nn_nI (by omega : i < 2 ^ 31)]
            rw [show s.A 0 (72 + 5 * i + nn (nI 0)) = 2 from ek]; exact SPost.ok S.at
          exact g_iret ok fn rfl dX1_noteOf_83 pf (by omega)
        · subst e
          refine g_aload_n ok dX1_noteOf_0 rfl ?_
          refine g_iload_n ok dX1_noteOf_1 rfl ?_
          refine g_callV ok q1236 q1238 qs9 q61 q1239 (Recv.ob ok gc_X1 (Rd.h (S.2.2.1))) dX1_noteOf_2 (s_noteAt1 X.l X.G _ x own hr s ru sv hl hd hc hm hf inp ln bt rf S rt cl nl nd nc nm nf vl vd vc vm vf y i hi b kb _ rb) (nm_ (by decide : nmb _ 1 = true)) (dl rfl) (dk rfl) rfl rfl (dk rfl) (by omega) (kV ?_) xV
          refine g_astore_n ok dX1_noteOf_5 (ls1 := [some (.ref x), some (.int (nI i)), some (.int (nI 1)), some (.ref b)]) (dl rfl) rfl ?_
          refine g_iload_n ok dX1_noteOf_6 rfl ?_
          refine g_iconst ok (v := 0) dX1_noteOf_7 rfl ?_
          refine g_iconst ok (v := 4) dX1_noteOf_8 rfl ?_
          refine g_callS ok q1001 q1002 q61 q1003 dX1_noteOf_9 (x_isIn X.l X.G _ (nI 1) 0 4) (nm_ (by decide : nmb _ 3 = true)) (dl rfl) (dk rfl) rfl rfl (dk rfl) (by omega) (kV ?_) xV
          rw [hw]
          refine g_callS ok q1019 q1020 q61 q1021 dX1_noteOf_12 (x_chkA1 X.l X.G _) (nm_ (by decide : nmb _ 1 = true)) (dl rfl) (dk rfl) rfl rfl (dk rfl) (by omega) (kN ?_) xN
          refine g_iload_n ok dX1_noteOf_15 rfl ?_
          refine g_tableIn ok (tgt := 58) (off := 42) dX1_noteOf_16 (by decide) (by decide) rfl (by decide) ?_
          refine g_aload_n ok dX1_noteOf_58 rfl ?_
          refine g_getN ok ck_X10 1 q827 rfl (by decide) dX1_noteOf_59 (Rd.h nbk) rfl ?_
          refine g_goto ok dX1_noteOf_62 (tgt := 83) (by decide) ?_
          have pf : SPost X.G x (ex2 IOOBE IAE) (mNoteOf s (nI i) (nI 1)) (.inl (some (.int (s.A 0 (72 + 5 * i + 1))))) h := by
            unfold mNoteOf; rw [if_pos is1, if_pos hw]; simp only [nn_nI (by omega : i < 2 ^ 31)]
            exact SPost.ok (v := s.A 0 (72 + 5 * i + 1)) S.at
          exact g_iret ok fn rfl dX1_noteOf_83 pf (by omega)
        · subst e
          refine g_aload_n ok dX1_noteOf_0 rfl ?_
          refine g_iload_n ok dX1_noteOf_1 rfl ?_
          refine g_callV ok q1236 q1238 qs9 q61 q1239 (Recv.ob ok gc_X1 (Rd.h (S.2.2.1))) dX1_noteOf_2 (s_noteAt1 X.l X.G _ x own hr s ru sv hl hd hc hm hf inp ln bt rf S rt cl nl nd nc nm nf vl vd vc vm vf y i hi b kb _ rb) (nm_ (by decide : nmb _ 1 = true)) (dl rfl) (dk rfl) rfl rfl (dk rfl) (by omega) (kV ?_) xV
          refine g_astore_n ok dX1_noteOf_5 (ls1 := [some (.ref x), some (.int (nI i)), some (.int (nI 2)), some (.ref b)]) (dl rfl) rfl ?_
          refine g_iload_n ok dX1_noteOf_6 rfl ?_
          refine g_iconst ok (v := 0) dX1_noteOf_7 rfl ?_
          refine g_iconst ok (v := 4) dX1_noteOf_8 rfl ?_
          refine g_callS ok q1001 q1002 q61 q1003 dX1_noteOf_9 (x_isIn X.l X.G _ (nI 2) 0 4) (nm_ (by decide : nmb _ 3 = true)) (dl rfl) (dk rfl) rfl rfl (dk rfl) (by omega) (kV ?_) xV
          rw [hw]
          refine g_callS ok q1019 q1020 q61 q1021 dX1_noteOf_12 (x_chkA1 X.l X.G _) (nm_ (by decide : nmb _ 1 = true)) (dl rfl) (dk rfl) rfl rfl (dk rfl) (by omega) (kN ?_) xN
          refine g_iload_n ok dX1_noteOf_15 rfl ?_
          refine g_tableIn ok (tgt := 65) (off := 49) dX1_noteOf_16 (by decide) (by decide) rfl (by decide) ?_
          refine g_aload_n ok dX1_noteOf_65 rfl ?_
          refine g_getN ok ck_X10 2 q830 rfl (by decide) dX1_noteOf_66 (Rd.h nbk) rfl ?_
          refine g_goto ok dX1_noteOf_69 (tgt := 83) (by decide) ?_
          have pf : SPost X.G x (ex2 IOOBE IAE) (mNoteOf s (nI i) (nI 2)) (.inl (some (.int (s.A 0 (72 + 5 * i + 2))))) h := by
            unfold mNoteOf; rw [if_pos is1, if_pos hw]; simp only [nn_nI (by omega : i < 2 ^ 31)]
            exact SPost.ok (v := s.A 0 (72 + 5 * i + 2)) S.at
          exact g_iret ok fn rfl dX1_noteOf_83 pf (by omega)
        · subst e
          refine g_aload_n ok dX1_noteOf_0 rfl ?_
          refine g_iload_n ok dX1_noteOf_1 rfl ?_
          refine g_callV ok q1236 q1238 qs9 q61 q1239 (Recv.ob ok gc_X1 (Rd.h (S.2.2.1))) dX1_noteOf_2 (s_noteAt1 X.l X.G _ x own hr s ru sv hl hd hc hm hf inp ln bt rf S rt cl nl nd nc nm nf vl vd vc vm vf y i hi b kb _ rb) (nm_ (by decide : nmb _ 1 = true)) (dl rfl) (dk rfl) rfl rfl (dk rfl) (by omega) (kV ?_) xV
          refine g_astore_n ok dX1_noteOf_5 (ls1 := [some (.ref x), some (.int (nI i)), some (.int (nI 3)), some (.ref b)]) (dl rfl) rfl ?_
          refine g_iload_n ok dX1_noteOf_6 rfl ?_
          refine g_iconst ok (v := 0) dX1_noteOf_7 rfl ?_
          refine g_iconst ok (v := 4) dX1_noteOf_8 rfl ?_
          refine g_callS ok q1001 q1002 q61 q1003 dX1_noteOf_9 (x_isIn X.l X.G _ (nI 3) 0 4) (nm_ (by decide : nmb _ 3 = true)) (dl rfl) (dk rfl) rfl rfl (dk rfl) (by omega) (kV ?_) xV
          rw [hw]
          refine g_callS ok q1019 q1020 q61 q1021 dX1_noteOf_12 (x_chkA1 X.l X.G _) (nm_ (by decide : nmb _ 1 = true)) (dl rfl) (dk rfl) rfl rfl (dk rfl) (by omega) (kN ?_) xN
          refine g_iload_n ok dX1_noteOf_15 rfl ?_
          refine g_tableIn ok (tgt := 72) (off := 56) dX1_noteOf_16 (by decide) (by decide) rfl (by decide) ?_
          refine g_aload_n ok dX1_noteOf_72 rfl ?_
          refine g_getN ok ck_X10 3 q833 rfl (by decide) dX1_noteOf_73 (Rd.h nbk) rfl ?_
          refine g_goto ok dX1_noteOf_76 (tgt := 83) (by decide) ?_
          have pf : SPost X.G x (ex2 IOOBE IAE) (mNoteOf s (nI i) (nI 3)) (.inl (some (.int (s.A 0 (72 + 5 * i + 3))))) h := by
            unfold mNoteOf; rw [if_pos is1, if_pos hw]; simp only [nn_nI (by omega : i < 2 ^ 31)]
            exact SPost.ok (v := s.A 0 (72 + 5 * i + 3)) S.at
          exact g_iret ok fn rfl dX1_noteOf_83 pf (by omega)
        · subst e
          refine g_aload_n ok dX1_noteOf_0 rfl ?_
          refine g_iload_n ok dX1_noteOf_1 rfl ?_
          refine g_callV ok q1236 q1238 qs9 q61 q1239 (Recv.ob ok gc_X1 (Rd.h (S.2.2.1))) dX1_noteOf_2 (s_noteAt1 X.l X.G _ x own hr s ru sv hl hd hc hm hf inp ln bt rf S rt cl nl nd nc nm nf vl vd vc vm vf y i hi b kb _ rb) (nm_ (by decide : nmb _ 1 = true)) (dl rfl) (dk rfl) rfl rfl (dk rfl) (by omega) (kV ?_) xV
          refine g_astore_n ok dX1_noteOf_5 (ls1 := [some (.ref x), some (.int (nI i)), some (.int (nI 4)), some (.ref b)]) (dl rfl) rfl ?_
          refine g_iload_n ok dX1_noteOf_6 rfl ?_
          refine g_iconst ok (v := 0) dX1_noteOf_7 rfl ?_
          refine g_iconst ok (v := 4) dX1_noteOf_8 rfl ?_
          refine g_callS ok q1001 q1002 q61 q1003 dX1_noteOf_9 (x_isIn X.l X.G _ (nI 4) 0 4) (nm_ (by decide : nmb _ 3 = true)) (dl rfl) (dk rfl) rfl rfl (dk rfl) (by omega) (kV ?_) xV
          rw [hw]
          refine g_callS ok q1019 q1020 q61 q1021 dX1_noteOf_12 (x_chkA1 X.l X.G _) (nm_ (by decide : nmb _ 1 = true)) (dl rfl) (dk rfl) rfl rfl (dk rfl) (by omega) (kN ?_) xN
          refine g_iload_n ok dX1_noteOf_15 rfl ?_
          refine g_tableOut ok (tgt := 79) dX1_noteOf_16 (by decide) (by decide) ?_
          refine g_aload_n ok dX1_noteOf_79 rfl ?_
          refine g_getN ok ck_X10 4 q836 rfl (by decide) dX1_noteOf_80 (Rd.h nbk) rfl ?_
          have pf : SPost X.G x (ex2 IOOBE IAE) (mNoteOf s (nI i) (nI 4)) (.inl (some (.int (s.A 0 (72 + 5 * i + 4))))) h := by
            unfold mNoteOf; rw [if_pos is1, if_pos hw]; simp only [nn_nI (by omega : i < 2 ^ 31)]
            exact SPost.ok (v := s.A 0 (72 + 5 * i + 4)) S.at
          exact g_iret ok fn rfl dX1_noteOf_83 pf (by omega)
    · refine g_aload_n ok dX1_noteOf_0 rfl ?_
      refine g_iload_n ok dX1_noteOf_1 rfl ?_
      refine g_callV ok q1236 q1238 qs9 q61 q1239 (Recv.ob ok gc_X1 (Rd.h (S.2.2.1))) dX1_noteOf_2 (s_noteAt1 X.l X.G _ x own hr s ru sv hl hd hc hm hf inp ln bt rf S rt cl nl nd nc nm nf vl vd vc vm vf y i hi b kb _ rb) (nm_ (by decide : nmb _ 1 = true)) (dl rfl) (dk rfl) rfl rfl (dk rfl) (by omega) (kV ?_) xV
      refine g_astore_n ok dX1_noteOf_5 (ls1 := [some (.ref x), some (.int (nI i)), some (.int wd), some (.ref b)]) (dl rfl) rfl ?_
      refine g_iload_n ok dX1_noteOf_6 rfl ?_
      refine g_iconst ok (v := 0) dX1_noteOf_7 rfl ?_
      refine g_iconst ok (v := 4) dX1_noteOf_8 rfl ?_
      refine g_callS ok q1001 q1002 q61 q1003 dX1_noteOf_9 (x_isIn X.l X.G _ wd 0 4) (nm_ (by decide : nmb _ 3 = true)) (dl rfl) (dk rfl) rfl rfl (dk rfl) (by omega) (kV ?_) xV
      rw [hw]
      refine g_callS ok q1019 q1020 q61 q1021 dX1_noteOf_12 (x_chkA0 X.l X.G _) (nm_ (by decide : nmb _ 1 = true)) (dl rfl) (dk rfl) rfl rfl (dk rfl) (by omega) kT (xT fun qx fx kx => ?_)
      have pf : SPost X.G x (ex2 IOOBE IAE) (mNoteOf s (nI i) wd) (.inr (IAE, qx)) (up h qx (ob 18 [])) := by
        unfold mNoteOf; rw [if_pos is1, if_neg (by rw [hw]; decide)]; exact SPost.no S.at fx (by decide) rfl
      exact g_out ok fn (fun z hz => nomatch hz) pf (by omega)
  · have is0 : mIsN s p = false := by unfold mIsN; rw [iR.1.1]; exact hs
    refine g_aload_n ok dX1_noteOf_0 rfl ?_
    refine g_iload_n ok dX1_noteOf_1 rfl ?_
    refine g_callV ok q1236 q1238 qs9 q61 q1239 (Recv.ob ok gc_X1 (Rd.h (S.2.2.1))) dX1_noteOf_2 (s_noteAt0 X.l X.G _ x own hr s ru sv hl hd hc hm hf inp ln bt rf S rt cl nl nd nc nm nf vl vd vc vm vf y p hs) (nm_ (by decide : nmb _ 1 = true)) (dl rfl) (dk rfl) rfl rfl (dk rfl) (by omega) kT (xT fun qx fx kx => ?_)
    have pf : SPost X.G x (ex2 IOOBE IAE) (mNoteOf s p wd) (.inr (IOOBE, qx)) (up h qx (ob 19 [])) := by
      unfold mNoteOf; rw [if_neg (by rw [is0]; decide)]; exact SPost.no S.at fx (by decide) rfl
    exact g_out ok fn (fun z hz => nomatch hz) pf (by omega)
