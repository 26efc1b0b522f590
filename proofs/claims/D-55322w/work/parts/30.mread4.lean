/-! THE MODEL: its read, 4 -/
set_option maxRecDepth 100000
abbrev cX8_read : ByteArray := prog_19_method_80_code
def yX8_read : MethodName := ⟨RX8, "read", "()I"⟩
def dkwX8_read_6 : List UInt8 := [154, 0, 9, 42, 28, 182, 0, 54, 172, 42, 182, 1, 22, 42, 29, 4, 96, 182, 0, 58, 172]
abbrev dktX8_read_6 : List UInt8 := dkwX8_read_6 ++ []
def dkwX8_read_5 : List UInt8 := [182, 0, 227, 153, 0, 7, 4, 167, 0, 4, 3, 54, 4, 167, 255, 218, 42, 3, 181, 0, 206, 29]
abbrev dktX8_read_5 : List UInt8 := dkwX8_read_5 ++ dktX8_read_6
def dkwX8_read_4 : List UInt8 := [153, 0, 39, 42, 182, 1, 16, 60, 42, 182, 1, 19, 62, 132, 2, 1, 29, 154, 0, 16, 42, 16, 59]
abbrev dktX8_read_4 : List UInt8 := dkwX8_read_4 ++ dktX8_read_5
def dkwX8_read_3 : List UInt8 := [181, 0, 206, 42, 4, 182, 0, 58, 172, 42, 3, 181, 0, 209, 3, 61, 3, 62, 4, 54, 4, 21, 4]
abbrev dktX8_read_3 : List UInt8 := dkwX8_read_3 ++ dktX8_read_4
def dkwX8_read_2 : List UInt8 := [167, 0, 4, 3, 60, 167, 255, 219, 27, 154, 0, 22, 42, 42, 180, 0, 209, 181, 0, 41, 42, 3]
abbrev dktX8_read_2 : List UInt8 := dkwX8_read_2 ++ dktX8_read_3
def dkwX8_read_1 : List UInt8 := [180, 0, 206, 162, 0, 28, 42, 16, 59, 182, 0, 227, 153, 0, 14, 42, 182, 1, 16, 153, 0, 7, 4]
abbrev dktX8_read_1 : List UInt8 := dkwX8_read_1 ++ dktX8_read_2
def dkwX8_read_0 : List UInt8 := [42, 182, 0, 107, 42, 3, 181, 0, 209, 42, 182, 1, 16, 60, 27, 153, 0, 39, 42, 180, 0, 209, 42]
abbrev dktX8_read_0 : List UInt8 := dkwX8_read_0 ++ dktX8_read_1
theorem dksX8_read_0 : cX8_read.data.toList.drop 0 = dktX8_read_0 := by decide +kernel
theorem dksX8_read_1 : cX8_read.data.toList.drop 23 = dktX8_read_1 := dk_seg dksX8_read_0 23 rfl rfl
theorem dksX8_read_2 : cX8_read.data.toList.drop 46 = dktX8_read_2 := dk_seg dksX8_read_1 23 rfl rfl
theorem dksX8_read_3 : cX8_read.data.toList.drop 68 = dktX8_read_3 := dk_seg dksX8_read_2 22 rfl rfl
theorem dksX8_read_4 : cX8_read.data.toList.drop 91 = dktX8_read_4 := dk_seg dksX8_read_3 23 rfl rfl
theorem dksX8_read_5 : cX8_read.data.toList.drop 114 = dktX8_read_5 := dk_seg dksX8_read_4 23 rfl rfl
theorem dksX8_read_6 : cX8_read.data.toList.drop 136 = dktX8_read_6 := dk_seg dksX8_read_5 22 rfl rfl
theorem dX8_read_0 : decode cX8_read 0 = .ok (.aload_n 0, 1) := dk_42 (dk_at dksX8_read_0 0 rfl rfl)
theorem dX8_read_1 : decode cX8_read 1 = .ok (.invokevirtual 107, 3) := dk_182 0 107 (dk_at dksX8_read_0 1 rfl rfl)
theorem dX8_read_4 : decode cX8_read 4 = .ok (.aload_n 0, 1) := dk_42 (dk_at dksX8_read_0 4 rfl rfl)
theorem dX8_read_5 : decode cX8_read 5 = .ok (.iconst 0, 1) := dk_3 (dk_at dksX8_read_0 5 rfl rfl)
theorem dX8_read_6 : decode cX8_read 6 = .ok (.putfield 209, 3) := dk_181 0 209 (dk_at dksX8_read_0 6 rfl rfl)
theorem dX8_read_9 : decode cX8_read 9 = .ok (.aload_n 0, 1) := dk_42 (dk_at dksX8_read_0 9 rfl rfl)
theorem dX8_read_10 : decode cX8_read 10 = .ok (.invokevirtual 272, 3) := dk_182 1 16 (dk_at dksX8_read_0 10 rfl rfl)
theorem dX8_read_13 : decode cX8_read 13 = .ok (.istore_n 1, 1) := dk_60 (dk_at dksX8_read_0 13 rfl rfl)
theorem dX8_read_14 : decode cX8_read 14 = .ok (.iload_n 1, 1) := dk_27 (dk_at dksX8_read_0 14 rfl rfl)
theorem dX8_read_15 : decode cX8_read 15 = .ok (.ifCond .eq 39, 3) := dk_153 0 39 (dk_at dksX8_read_0 15 rfl rfl)
theorem dX8_read_18 : decode cX8_read 18 = .ok (.aload_n 0, 1) := dk_42 (dk_at dksX8_read_0 18 rfl rfl)
theorem dX8_read_19 : decode cX8_read 19 = .ok (.getfield 209, 3) := dk_180 0 209 (dk_at dksX8_read_0 19 rfl rfl)
theorem dX8_read_22 : decode cX8_read 22 = .ok (.aload_n 0, 1) := dk_42 (dk_at dksX8_read_0 22 rfl rfl)
theorem dX8_read_23 : decode cX8_read 23 = .ok (.getfield 206, 3) := dk_180 0 206 (dk_at dksX8_read_1 0 rfl rfl)
theorem dX8_read_26 : decode cX8_read 26 = .ok (.if_icmp .ge 28, 3) := dk_162 0 28 (dk_at dksX8_read_1 3 rfl rfl)
theorem dX8_read_29 : decode cX8_read 29 = .ok (.aload_n 0, 1) := dk_42 (dk_at dksX8_read_1 6 rfl rfl)
theorem dX8_read_30 : decode cX8_read 30 = .ok (.bipush 59, 2) := dk_16 59 (dk_at dksX8_read_1 7 rfl rfl)
theorem dX8_read_32 : decode cX8_read 32 = .ok (.invokevirtual 227, 3) := dk_182 0 227 (dk_at dksX8_read_1 9 rfl rfl)
theorem dX8_read_35 : decode cX8_read 35 = .ok (.ifCond .eq 14, 3) := dk_153 0 14 (dk_at dksX8_read_1 12 rfl rfl)
theorem dX8_read_38 : decode cX8_read 38 = .ok (.aload_n 0, 1) := dk_42 (dk_at dksX8_read_1 15 rfl rfl)
theorem dX8_read_39 : decode cX8_read 39 = .ok (.invokevirtual 272, 3) := dk_182 1 16 (dk_at dksX8_read_1 16 rfl rfl)
theorem dX8_read_42 : decode cX8_read 42 = .ok (.ifCond .eq 7, 3) := dk_153 0 7 (dk_at dksX8_read_1 19 rfl rfl)
theorem dX8_read_45 : decode cX8_read 45 = .ok (.iconst 1, 1) := dk_4 (dk_at dksX8_read_1 22 rfl rfl)
theorem dX8_read_46 : decode cX8_read 46 = .ok (.goto 4, 3) := dk_167 0 4 (dk_at dksX8_read_2 0 rfl rfl)
theorem dX8_read_49 : decode cX8_read 49 = .ok (.iconst 0, 1) := dk_3 (dk_at dksX8_read_2 3 rfl rfl)
theorem dX8_read_50 : decode cX8_read 50 = .ok (.istore_n 1, 1) := dk_60 (dk_at dksX8_read_2 4 rfl rfl)
theorem dX8_read_51 : decode cX8_read 51 = .ok (.goto (-37), 3) := dk_167 255 219 (dk_at dksX8_read_2 5 rfl rfl)
theorem dX8_read_54 : decode cX8_read 54 = .ok (.iload_n 1, 1) := dk_27 (dk_at dksX8_read_2 8 rfl rfl)
theorem dX8_read_55 : decode cX8_read 55 = .ok (.ifCond .ne 22, 3) := dk_154 0 22 (dk_at dksX8_read_2 9 rfl rfl)
theorem dX8_read_58 : decode cX8_read 58 = .ok (.aload_n 0, 1) := dk_42 (dk_at dksX8_read_2 12 rfl rfl)
theorem dX8_read_59 : decode cX8_read 59 = .ok (.aload_n 0, 1) := dk_42 (dk_at dksX8_read_2 13 rfl rfl)
theorem dX8_read_60 : decode cX8_read 60 = .ok (.getfield 209, 3) := dk_180 0 209 (dk_at dksX8_read_2 14 rfl rfl)
theorem dX8_read_63 : decode cX8_read 63 = .ok (.putfield 41, 3) := dk_181 0 41 (dk_at dksX8_read_2 17 rfl rfl)
theorem dX8_read_66 : decode cX8_read 66 = .ok (.aload_n 0, 1) := dk_42 (dk_at dksX8_read_2 20 rfl rfl)
theorem dX8_read_67 : decode cX8_read 67 = .ok (.iconst 0, 1) := dk_3 (dk_at dksX8_read_2 21 rfl rfl)
theorem dX8_read_68 : decode cX8_read 68 = .ok (.putfield 206, 3) := dk_181 0 206 (dk_at dksX8_read_3 0 rfl rfl)
theorem dX8_read_71 : decode cX8_read 71 = .ok (.aload_n 0, 1) := dk_42 (dk_at dksX8_read_3 3 rfl rfl)
theorem dX8_read_72 : decode cX8_read 72 = .ok (.iconst 1, 1) := dk_4 (dk_at dksX8_read_3 4 rfl rfl)
theorem dX8_read_73 : decode cX8_read 73 = .ok (.invokevirtual 58, 3) := dk_182 0 58 (dk_at dksX8_read_3 5 rfl rfl)
theorem dX8_read_76 : decode cX8_read 76 = .ok (.ireturn, 1) := dk_172 (dk_at dksX8_read_3 8 rfl rfl)
theorem dX8_read_77 : decode cX8_read 77 = .ok (.aload_n 0, 1) := dk_42 (dk_at dksX8_read_3 9 rfl rfl)
theorem dX8_read_78 : decode cX8_read 78 = .ok (.iconst 0, 1) := dk_3 (dk_at dksX8_read_3 10 rfl rfl)
theorem dX8_read_79 : decode cX8_read 79 = .ok (.putfield 209, 3) := dk_181 0 209 (dk_at dksX8_read_3 11 rfl rfl)
theorem dX8_read_82 : decode cX8_read 82 = .ok (.iconst 0, 1) := dk_3 (dk_at dksX8_read_3 14 rfl rfl)
theorem dX8_read_83 : decode cX8_read 83 = .ok (.istore_n 2, 1) := dk_61 (dk_at dksX8_read_3 15 rfl rfl)
theorem dX8_read_84 : decode cX8_read 84 = .ok (.iconst 0, 1) := dk_3 (dk_at dksX8_read_3 16 rfl rfl)
theorem dX8_read_85 : decode cX8_read 85 = .ok (.istore_n 3, 1) := dk_62 (dk_at dksX8_read_3 17 rfl rfl)
theorem dX8_read_86 : decode cX8_read 86 = .ok (.iconst 1, 1) := dk_4 (dk_at dksX8_read_3 18 rfl rfl)
theorem dX8_read_87 : decode cX8_read 87 = .ok (.istore 4, 2) := dk_54 4 (dk_at dksX8_read_3 19 rfl rfl)
theorem dX8_read_89 : decode cX8_read 89 = .ok (.iload 4, 2) := dk_21 4 (dk_at dksX8_read_3 21 rfl rfl)
theorem dX8_read_91 : decode cX8_read 91 = .ok (.ifCond .eq 39, 3) := dk_153 0 39 (dk_at dksX8_read_4 0 rfl rfl)
theorem dX8_read_94 : decode cX8_read 94 = .ok (.aload_n 0, 1) := dk_42 (dk_at dksX8_read_4 3 rfl rfl)
theorem dX8_read_95 : decode cX8_read 95 = .ok (.invokevirtual 272, 3) := dk_182 1 16 (dk_at dksX8_read_4 4 rfl rfl)
theorem dX8_read_98 : decode cX8_read 98 = .ok (.istore_n 1, 1) := dk_60 (dk_at dksX8_read_4 7 rfl rfl)
theorem dX8_read_99 : decode cX8_read 99 = .ok (.aload_n 0, 1) := dk_42 (dk_at dksX8_read_4 8 rfl rfl)
theorem dX8_read_100 : decode cX8_read 100 = .ok (.invokevirtual 275, 3) := dk_182 1 19 (dk_at dksX8_read_4 9 rfl rfl)
theorem dX8_read_103 : decode cX8_read 103 = .ok (.istore_n 3, 1) := dk_62 (dk_at dksX8_read_4 12 rfl rfl)
theorem dX8_read_104 : decode cX8_read 104 = .ok (.iinc 2 1, 3) := dk_132 2 1 (dk_at dksX8_read_4 13 rfl rfl)
theorem dX8_read_107 : decode cX8_read 107 = .ok (.iload_n 3, 1) := dk_29 (dk_at dksX8_read_4 16 rfl rfl)
theorem dX8_read_108 : decode cX8_read 108 = .ok (.ifCond .ne 16, 3) := dk_154 0 16 (dk_at dksX8_read_4 17 rfl rfl)
theorem dX8_read_111 : decode cX8_read 111 = .ok (.aload_n 0, 1) := dk_42 (dk_at dksX8_read_4 20 rfl rfl)
theorem dX8_read_112 : decode cX8_read 112 = .ok (.bipush 59, 2) := dk_16 59 (dk_at dksX8_read_4 21 rfl rfl)
theorem dX8_read_114 : decode cX8_read 114 = .ok (.invokevirtual 227, 3) := dk_182 0 227 (dk_at dksX8_read_5 0 rfl rfl)
theorem dX8_read_117 : decode cX8_read 117 = .ok (.ifCond .eq 7, 3) := dk_153 0 7 (dk_at dksX8_read_5 3 rfl rfl)
theorem dX8_read_120 : decode cX8_read 120 = .ok (.iconst 1, 1) := dk_4 (dk_at dksX8_read_5 6 rfl rfl)
theorem dX8_read_121 : decode cX8_read 121 = .ok (.goto 4, 3) := dk_167 0 4 (dk_at dksX8_read_5 7 rfl rfl)
theorem dX8_read_124 : decode cX8_read 124 = .ok (.iconst 0, 1) := dk_3 (dk_at dksX8_read_5 10 rfl rfl)
theorem dX8_read_125 : decode cX8_read 125 = .ok (.istore 4, 2) := dk_54 4 (dk_at dksX8_read_5 11 rfl rfl)
theorem dX8_read_127 : decode cX8_read 127 = .ok (.goto (-38), 3) := dk_167 255 218 (dk_at dksX8_read_5 13 rfl rfl)
theorem dX8_read_130 : decode cX8_read 130 = .ok (.aload_n 0, 1) := dk_42 (dk_at dksX8_read_5 16 rfl rfl)
theorem dX8_read_131 : decode cX8_read 131 = .ok (.iconst 0, 1) := dk_3 (dk_at dksX8_read_5 17 rfl rfl)
theorem dX8_read_132 : decode cX8_read 132 = .ok (.putfield 206, 3) := dk_181 0 206 (dk_at dksX8_read_5 18 rfl rfl)
theorem dX8_read_135 : decode cX8_read 135 = .ok (.iload_n 3, 1) := dk_29 (dk_at dksX8_read_5 21 rfl rfl)
theorem dX8_read_136 : decode cX8_read 136 = .ok (.ifCond .ne 9, 3) := dk_154 0 9 (dk_at dksX8_read_6 0 rfl rfl)
theorem dX8_read_139 : decode cX8_read 139 = .ok (.aload_n 0, 1) := dk_42 (dk_at dksX8_read_6 3 rfl rfl)
theorem dX8_read_140 : decode cX8_read 140 = .ok (.iload_n 2, 1) := dk_28 (dk_at dksX8_read_6 4 rfl rfl)
theorem dX8_read_141 : decode cX8_read 141 = .ok (.invokevirtual 54, 3) := dk_182 0 54 (dk_at dksX8_read_6 5 rfl rfl)
theorem dX8_read_144 : decode cX8_read 144 = .ok (.ireturn, 1) := dk_172 (dk_at dksX8_read_6 8 rfl rfl)
theorem dX8_read_145 : decode cX8_read 145 = .ok (.aload_n 0, 1) := dk_42 (dk_at dksX8_read_6 9 rfl rfl)
theorem dX8_read_146 : decode cX8_read 146 = .ok (.invokevirtual 278, 3) := dk_182 1 22 (dk_at dksX8_read_6 10 rfl rfl)
theorem dX8_read_149 : decode cX8_read 149 = .ok (.aload_n 0, 1) := dk_42 (dk_at dksX8_read_6 13 rfl rfl)
theorem dX8_read_150 : decode cX8_read 150 = .ok (.iload_n 3, 1) := dk_29 (dk_at dksX8_read_6 14 rfl rfl)
theorem dX8_read_151 : decode cX8_read 151 = .ok (.iconst 1, 1) := dk_4 (dk_at dksX8_read_6 15 rfl rfl)
theorem dX8_read_152 : decode cX8_read 152 = .ok (.iadd, 1) := dk_96 (dk_at dksX8_read_6 16 rfl rfl)
theorem dX8_read_153 : decode cX8_read 153 = .ok (.invokevirtual 58, 3) := dk_182 0 58 (dk_at dksX8_read_6 17 rfl rfl)
theorem dX8_read_156 : decode cX8_read 156 = .ok (.ireturn, 1) := dk_172 (dk_at dksX8_read_6 20 rfl rfl)
theorem q2585 : (Jvm.Cond.methodLink "SpanRulerModel" (272 : Nat) ({ cls := "SpanRulerModel", name := "isCommand", desc := "()Z" } : Jvm.MethodName)) ∈ lw_all := lw_g (lw_at lw_m11 125 rfl) rfl
theorem q2588 : (Jvm.Cond.code ({ cls := "SpanRulerModel", name := "isCommand", desc := "()Z" } : Jvm.MethodName) prog_19_method_78_code (3 : Nat) (Option.some Jvm.ClassFile.FieldType.boolean)) ∈ lw_all := lw_g (lw_at lw_m11 128 rfl) rfl
theorem q2587 : (Jvm.Cond.instanceMethod ({ cls := "SpanRulerModel", name := "isCommand", desc := "()Z" } : Jvm.MethodName)) ∈ lw_all := lw_g (lw_at lw_m11 127 rfl) rfl
theorem q2701 : (Jvm.Cond.methodLink "SpanRulerModel" (278 : Nat) ({ cls := "SpanRulerModel", name := "comesBack", desc := "()V" } : Jvm.MethodName)) ∈ lw_all := lw_g (lw_at lw_m12 1 rfl) rfl
theorem q2704 : (Jvm.Cond.code ({ cls := "SpanRulerModel", name := "comesBack", desc := "()V" } : Jvm.MethodName) prog_19_method_6_code (2 : Nat) (Option.none : Option Jvm.ClassFile.FieldType)) ∈ lw_all := lw_g (lw_at lw_m12 4 rfl) rfl
theorem q2703 : (Jvm.Cond.instanceMethod ({ cls := "SpanRulerModel", name := "comesBack", desc := "()V" } : Jvm.MethodName)) ∈ lw_all := lw_g (lw_at lw_m12 3 rfl) rfl
theorem q2697 : (Jvm.Cond.methodLink "SpanRulerModel" (275 : Nat) ({ cls := "SpanRulerModel", name := "carries", desc := "()I" } : Jvm.MethodName)) ∈ lw_all := lw_g (lw_at lw_m11 237 rfl) rfl
theorem q2700 : (Jvm.Cond.code ({ cls := "SpanRulerModel", name := "carries", desc := "()I" } : Jvm.MethodName) prog_19_method_79_code (3 : Nat) (Option.some Jvm.ClassFile.FieldType.int)) ∈ lw_all := lw_g (lw_at lw_m12 0 rfl) rfl
theorem q2699 : (Jvm.Cond.instanceMethod ({ cls := "SpanRulerModel", name := "carries", desc := "()I" } : Jvm.MethodName)) ∈ lw_all := lw_g (lw_at lw_m11 239 rfl) rfl
theorem rd_po {s : MS} (h : mTo s) : mPo (mI (mTries s) 11 0) := by
  obtain ⟨h1, h2⟩ := h
  have e : ∀ i, i ≠ 20 → (mTries s).I i = s.I i := fun i hi => by rw [mTries_I, upd_ne hi]
  have e10 : (mI (mTries s) 11 0).I 10 = s.I 10 := by rw [mI_I, upd_ne (by decide), e 10 (by decide)]
  have e11 : (mI (mTries s) 11 0).I 11 = 0 := by rw [mI_I, upd_at]
  have eL : mL (mI (mTries s) 11 0) = nn (s.I 10) := by unfold mL; rw [e10]
  have eP : mP (mI (mTries s) 11 0) = 0 := by unfold mP; rw [e11]; rfl
  exact ⟨by rw [e10, eL]; exact h1, by rw [eL]; exact h2, by rw [e11, eP]; rfl, by rw [eP]; exact Nat.zero_le _⟩
theorem mI_ok {s : MS} {k : Nat} {v : Int32} (h : mOk s) : mOk (mI s k v) := h
theorem mI_vo {s : MS} {k : Nat} {v : Int32} (h : mVo s) : mVo (mI s k v) := h
theorem mI_uo {s : MS} {k : Nat} {v : Int32} (hk : k ≠ 4) (h : mUo s) : mUo (mI s k v) := mUo_I (upd_ne (Ne.symm hk)) h
theorem Alk.rfl {s : MS} : Alk s s := ⟨Eq.refl _, Eq.refl _, Eq.refl _⟩
theorem rd_inv {s : MS} (y0 : mUo s) (y1 : mOk s) (y2 : mVo s) : Alk (mI (mTries s) 11 0) (mI (mTries s) 11 0) ∧ mOk (mI (mTries s) 11 0) ∧ mVo (mI (mTries s) 11 0) ∧ mUo (mI (mTries s) 11 0) := ⟨Alk.rfl, mI_ok (mTries_ok y1), mI_vo (mTries_vo y2), mI_uo (by decide) (mTries_u y0)⟩
theorem rdL_po : ∀ (m : Nat) (r : Bool × MS), mPo r.2 → mPo (rdL m r).2 := by
  intro m
  induction m with
  | zero => intro r h; exact h
  | succ m ih =>
    intro r h
    unfold rdL
    split
    · exact ih _ (rdS_po h)
    · exact h
theorem m_read (l : Launch) (G : GE) {h0 : AH} {ad : Nat → Nat} (hA : MAd ad) (s : MS) (y0 : mUo s) (y1 : mOk s) (y2 : mVo s) (y3 : mTo s) : GM l G yX8_read (ws_ yX8_read cX8_read 5 (some .int)) 9 [.ref (ad 20)] (mput G h0 ad s) (3000) (PR fun v h' => ∃ h0' w, h' = mput G h0' ad (mW (mRead s).2 w) ∧ Sub h0 h0' ∧ v = .int (mRead s).1) := by
  refine GM.of (by decide) (dk rfl) ?_
  intro X eL eG eh ok fn
  subst eL; subst eG
  show GW X _ 0 0 [some (.ref (ad 20)), none, none, none, none] []
  have pa := rd_po y3
  refine g_aload_n ok dX8_read_0 rfl ?_
  refine g_callV ok q2307 q2309 qs23 q75 q2310 (m_recv ok hA) dX8_read_1 (m_tries X.l X.G hA (h0 := h0) s ) (nm_ (by decide : nmb _ 0 = true)) (dl rfl) (dk rfl) rfl rfl (dk rfl) (by omega) (kN ?_) xN
  refine g_aload_n ok dX8_read_4 rfl ?_
  refine g_iconst ok (v := 0) dX8_read_5 rfl ?_
  refine m_put ok hA 11 q2246 (by decide) dX8_read_6 ⟨rfl, rfl⟩ ?_
  obtain ⟨a, ha⟩ : ∃ a : MS, mI (mTries s) 11 0 = a := ⟨_, rfl⟩
  have fa : Alk a a ∧ mOk a ∧ mVo a ∧ mUo a := by rw [← ha]; exact rd_inv y0 y1 y2
  have hr1 : rd1 s = rdL 61 (mCmd a) := by unfold rd1; rw [ha]
  rw [ha] at pa ⊢
  refine g_aload_n ok dX8_read_9 rfl ?_
  refine g_callV ok q2585 q2587 qs52 q75 q2588 (m_recv ok hA) dX8_read_10 (m_cmd X.l X.G hA (h0 := h0) a pa) (nm_ (by decide : nmb _ 0 = true)) (dl rfl) (dk rfl) rfl rfl (dk rfl) (by omega) (kR fun v hh ⟨h1, w1, u1, u2, u3, u4⟩ => ?_) xR
  subst u1 u3
  refine g_istore_n ok dX8_read_13 (ls1 := [some (.ref (ad 20)), some (.int (bI (mCmd a).1)), none, none, none]) (dl rfl) rfl ?_
  have tail : ∀ (F : Bool × MS) (h1 : AH) (w : Nat) (k : Nat), rdL 61 (mCmd a) = F → mPo F.2 → Sub h0 h1 → k ≤ 1400 → GW X (mput X.G h1 ad (mW F.2 w)) k 54 [some (.ref (ad 20)), some (.int (bI F.1)), none, none, none] [] := by
    intro F h1 w k hF pF sF hk
    obtain ⟨b, t⟩ := F
    cases b with
    | false =>
      have hF1 : rd1 s = (false, t) := hr1.trans hF
      show GW X (mput X.G h1 ad (mW t w)) k 54 [some (.ref (ad 20)), some (.int (bI false)), none, none, none] []
      refine g_iload_n ok dX8_read_54 rfl ?_
      refine g_if_ne ok (tgt := 77) dX8_read_55 (by decide) (fun c => absurd rfl c) (fun _ => ?_)
      refine g_aload_n ok dX8_read_58 rfl ?_
      refine g_aload_n ok dX8_read_59 rfl ?_
      refine m_get ok hA 11 q2246 (by decide) dX8_read_60 (v := .int (MS.I (mW t w) 11)) rfl ?_
      refine m_put ok hA 14 q2249 (by decide) dX8_read_63 ⟨rfl, rfl⟩ ?_
      refine g_aload_n ok dX8_read_66 rfl ?_
      refine g_iconst ok (v := 0) dX8_read_67 rfl ?_
      refine m_put ok hA 10 q2245 (by decide) dX8_read_68 ⟨rfl, rfl⟩ ?_
      refine g_aload_n ok dX8_read_71 rfl ?_
      refine g_iconst ok (v := 1) dX8_read_72 rfl ?_
      refine g_callV ok q2362 q2364 qs33 q75 q2365 (m_recv ok hA) dX8_read_73 (m_raises X.l X.G hA (h0 := h1) (mI (mI (mW t w) 14 (MS.I (mW t w) 11)) 10 0) 1) (nm_ (by decide : nmb _ 1 = true)) (dl rfl) (dk rfl) rfl rfl (dk rfl) (by omega) (kV ?_) xV
      exact g_iret ok fn rfl dX8_read_76 ⟨_, rfl, h1, w, by unfold mRead; rw [hF1]; rfl, sF, by unfold mRead; rw [hF1]; rfl⟩ (by omega)
    | true =>
      have hF1 : rd1 s = (true, t) := hr1.trans hF
      show GW X (mput X.G h1 ad (mW t w)) k 54 [some (.ref (ad 20)), some (.int (bI true)), none, none, none] []
      refine g_iload_n ok dX8_read_54 rfl ?_
      refine g_if_ne ok (tgt := 77) dX8_read_55 (by decide) (fun _ => ?_) (fun c => absurd c (by decide))
      have fr : Fr a t := by have z := Fr.cmd.trans (Fr.rdL 61 (mCmd a)); rw [hF] at z; exact z
      refine g_aload_n ok dX8_read_77 rfl ?_
      refine g_iconst ok (v := 0) dX8_read_78 rfl ?_
      refine m_put ok hA 11 q2246 (by decide) dX8_read_79 ⟨rfl, rfl⟩ ?_
      have e2 : rd2 s = rdM 62 0 (mI t 11 0) := by unfold rd2; rw [hF1]
      have fg : Alk a (mI t 11 0) := ⟨fr.1 9 (by decide), fr.2 10 (by decide), by rw [mI_I, upd_at, ← ha, mI_I, upd_at]⟩
      show GW X (mput X.G h1 ad (mW (mI t 11 0) w)) _ _ _ _
      refine g_iconst ok (v := 0) dX8_read_82 rfl ?_
      refine g_istore_n ok dX8_read_83 (ls1 := [some (.ref (ad 20)), some (.int (bI true)), some (.int 0), none, none]) (dl rfl) rfl ?_
      refine g_iconst ok (v := 0) dX8_read_84 rfl ?_
      refine g_istore_n ok dX8_read_85 (ls1 := [some (.ref (ad 20)), some (.int (bI true)), some (.int 0), some (.int 0), none]) (dl rfl) rfl ?_
      refine g_iconst ok (v := 1) dX8_read_86 rfl ?_
      refine g_istore ok dX8_read_87 (ls1 := [some (.ref (ad 20)), some (.int (bI true)), some (.int 0), some (.int 0), some (.int 1)]) (dl rfl) rfl ?_
      show GW X (mput X.G h1 ad (mW (mI t 11 0) w)) _ 89 [some (.ref (ad 20)), some (.int 1), some (.int 0), some (.int 0), some (.int 1)] []
      have fin : ∀ (n no : Int32) (t : MS) (h2 : AH) (w2 k2 : Nat) (v1 : Int32), rd2 s = (n, no, t) → mUo t → Sub h0 h2 → k2 ≤ 2900 → GW X (mput X.G h2 ad (mW t w2)) k2 130 [some (.ref (ad 20)), some (.int v1), some (.int n), some (.int no), some (.int 0)] [] := by
        intro n no t h2 w2 k2 v1 h5 h6 h7 h8
        have hm : mRead s = (if no = 0 then (n, mKeeps (mI t 10 0)) else (0, mI (mBack (mI t 10 0)) 20 (no + 1))) := by unfold mRead; rw [hF1, if_pos rfl, h5]
        refine g_aload_n ok dX8_read_130 rfl ?_
        refine g_iconst ok (v := 0) dX8_read_131 rfl ?_
        refine m_put ok hA 10 q2245 (by decide) dX8_read_132 ⟨rfl, rfl⟩ ?_
        show GW X (mput X.G h2 ad (mW (mI t 10 0) w2)) _ _ _ _
        refine g_iload_n ok dX8_read_135 rfl ?_
        refine g_if_ne ok (tgt := 145) dX8_read_136 (by decide) (fun c136 => ?_) (fun c136 => ?_)
        · refine g_aload_n ok dX8_read_145 rfl ?_
          refine g_callV ok q2701 q2703 qs59 q75 q2704 (m_recv ok hA) dX8_read_146 (m_comesBack X.l X.G hA (h0 := h2) (mW (mI t 10 0) w2) ) (nm_ (by decide : nmb _ 0 = true)) (dl rfl) (dk rfl) rfl rfl (dk rfl) (by omega) (kN ?_) xN
          refine g_aload_n ok dX8_read_149 rfl ?_
          refine g_iload_n ok dX8_read_150 rfl ?_
          refine g_iconst ok (v := 1) dX8_read_151 rfl ?_
          refine g_iadd ok dX8_read_152 ?_
          refine g_callV ok q2362 q2364 qs33 q75 q2365 (m_recv ok hA) dX8_read_153 (m_raises X.l X.G hA (h0 := h2) (mBack (mW (mI t 10 0) w2)) (no + 1)) (nm_ (by decide : nmb _ 1 = true)) (dl rfl) (dk rfl) rfl rfl (dk rfl) (by omega) (kV ?_) xV
          exact g_iret ok fn rfl dX8_read_156 ⟨_, rfl, h2, w2, by rw [hm, if_neg (show ¬ no = 0 from c136), mBack_W]; rfl, h7, by rw [hm, if_neg (show ¬ no = 0 from c136)]⟩ (by omega)
        · refine g_aload_n ok dX8_read_139 rfl ?_
          refine g_iload_n ok dX8_read_140 rfl ?_
          refine g_callV ok q2358 q2360 qs32 q75 q2361 (m_recv ok hA) dX8_read_141 (m_keeps X.l X.G hA (h0 := h2) (mW (mI t 10 0) w2) n (mUo_I (s := t) rfl h6)) (nm_ (by decide : nmb _ 1 = true)) (dl rfl) (dk rfl) rfl rfl (dk rfl) (by omega) (kV ?_) xV
          exact g_iret ok fn rfl dX8_read_144 ⟨_, rfl, h2, w2, by rw [hm, if_pos (show no = 0 from c136), mKeeps_W], h7, by rw [hm, if_pos (show no = 0 from c136)]⟩ (by omega)
      have lq : ∀ (m : Nat) (r : MS) (j : Nat) (t : MS) (n no v1 : Int32) (h2 : AH) (w2 k2 : Nat), mL t - mP t < m → rdM m n t = rd2 s → Alk r t → mPo t → mOk t → mVo t → mUo t → (rdL j (mCmd r)).1 = true → Sub h0 h2 → k2 + 22 * m ≤ 2900 → mL (mCmd r).2 - mP (mCmd r).2 ≤ j → GW X (mput X.G h2 ad (mW t w2)) k2 89 [some (.ref (ad 20)), some (.int v1), some (.int n), some (.int no), some (.int 1)] [] := by
        intro m
        induction m with
        | zero => intro r j t n no v1 h2 w2 k2 d0; omega
        | succ m ih =>
          intro r j t n no v1 h2 w2 k2 d0 d1 d2 d3 d4 d5 d6 d7 d8 d9 d10
          have cr : (mCmd r).1 = true := by
            cases e : (mCmd r).1 with
            | true => rfl
            | false => rw [show mCmd r = (false, (mCmd r).2) from by rw [← e], rdL_f] at d7; exact d7
          obtain ⟨q1, q2, q3⟩ := d2.cmd
          have ct : (mCmd t).1 = true := q1.trans cr
          have hx : ∃ x, (ooS t (tch tW) W6).1 = some x ∧ mK t = x ∧ x ∈ W6 := by
            cases e : (ooS t (tch tW) W6).1 with
            | none => unfold mCmd at ct; rw [e] at ct; cases ct
            | some x => exact ⟨x, rfl, by unfold mK; rw [e]; rfl, ooL_mem W6 0 x e⟩
          obtain ⟨x, x1, x2, x3⟩ := hx
          have hc := carry_ok (x := mK t) (Fr.cmd.ok d4) (Fr.cmd.vo d5)
          have hn := Nw.carry (s := (mCmd t).2) (x := mK t)
          have hu := hn.uo (Fr.cmd.uo d6)
          have pc0 := mCmd_P d3
          have pc1 := hn.alk.po (mCmd_po d3)
          have pe := hn.alk.P
          refine g_iload ok dX8_read_89 rfl ?_
          refine g_if_eq ok (tgt := 130) dX8_read_91 (by decide) (fun c_ => absurd c_ (fun e_ => by have := (nI_eq (a := 1) (b := 0) (by omega) (by omega)).mp e_; omega)) (fun _ => ?_)
          refine g_aload_n ok dX8_read_94 rfl ?_
          refine g_callV ok q2585 q2587 qs52 q75 q2588 (m_recv ok hA) dX8_read_95 (m_cmd X.l X.G hA (h0 := h2) (mW t w2) d3) (nm_ (by decide : nmb _ 0 = true)) (dl rfl) (dk rfl) rfl rfl (dk rfl) (by omega) (kR fun v hh ⟨h3, w3, u1, u2, u3, u4⟩ => ?_) xR
          subst u1 u3
          rw [mCmd_W] at u4 ⊢
          rw [ct]
          show GW X (mput X.G h3 ad (mW (mCmd t).2 w3)) _ _ _ [.int (bI true)]
          refine g_istore_n ok dX8_read_98 (ls1 := [some (.ref (ad 20)), some (.int (bI true)), some (.int n), some (.int no), some (.int 1)]) (dl rfl) rfl ?_
          refine g_aload_n ok dX8_read_99 rfl ?_
          refine g_callV ok q2697 q2699 qs58 q75 q2700 (m_recv ok hA) dX8_read_100 (m_carries X.l X.G hA (h0 := h3) (mW (mCmd t).2 w3) (mK t) (by rw [x2]; exact x3) (Fr.cmd.ok d4) (Fr.cmd.vo d5) (by have z := u4 ct; rw [ooS_W, x1] at z; rw [x2]; exact z)) (nm_ (by decide : nmb _ 0 = true)) (dl rfl) (dk rfl) rfl rfl (dk rfl) (by omega) (kV ?_) xV
          rw [mCarry_W]
          show GW X (mput X.G h3 ad (mW (rdC t).2 w3)) _ _ _ [.int (rdC t).1]
          have hc : mOk (rdC t).2 ∧ mVo (rdC t).2 := hc
          have hu : mUo (rdC t).2 := hu
          have pc1 : mPo (rdC t).2 := pc1
          have pe : mP (rdC t).2 = mP (mCmd t).2 ∧ mL (rdC t).2 = mL (mCmd t).2 := pe
          have d1 : (if (rdC t).1 = 0 then (if (mTakes (rdC t).2 59).1 = true then rdM m (n + 1) (mTakes (rdC t).2 59).2 else (n + 1, 0, (mTakes (rdC t).2 59).2)) else (n + 1, (rdC t).1, (rdC t).2)) = rd2 s := d1
          refine g_istore_n ok dX8_read_103 (ls1 := [some (.ref (ad 20)), some (.int (bI true)), some (.int n), some (.int (rdC t).1), some (.int 1)]) (dl rfl) rfl ?_
          refine g_iinc ok dX8_read_104 rfl (v := (n + 1)) rfl (ls1 := [some (.ref (ad 20)), some (.int (bI true)), some (.int (n + 1)), some (.int (rdC t).1), some (.int 1)]) rfl ?_
          refine g_iload_n ok dX8_read_107 rfl ?_
          refine g_if_ne ok (tgt := 124) dX8_read_108 (by decide) (fun c108 => ?_) (fun c108 => ?_)
          · refine g_iconst ok (v := 0) dX8_read_124 rfl ?_
            refine g_istore ok dX8_read_125 (ls1 := [some (.ref (ad 20)), some (.int (bI true)), some (.int (n + 1)), some (.int (rdC t).1), some (.int 0)]) (dl rfl) rfl ?_
            refine g_goto ok dX8_read_127 (tgt := 89) (by decide) ?_
            refine g_iload ok dX8_read_89 rfl ?_
            refine g_if_eq ok (tgt := 130) dX8_read_91 (by decide) (fun _ => ?_) (fun c => absurd rfl c)
            exact fin _ _ _ h3 w3 _ _ (by rw [if_neg c108] at d1; exact d1.symm) hu (d8.trans u2) (by omega)
          · rw [if_pos c108] at d1
            have tk := mTakes_W (s := (rdC t).2) (w := w3) (c := 59)
            have pk := mTakes_P (c := 59) pc1
            have pq := mTakes_po (c := 59) pc1
            refine g_aload_n ok dX8_read_111 rfl ?_
            refine g_bipush ok (v := 59) dX8_read_112 rfl ?_
            refine g_callV ok q2685 q2687 qs56 q75 q2688 (m_recv ok hA) dX8_read_114 (m_takes X.l X.G hA (h0 := h3) (mW (rdC t).2 w3) 59 pc1) (nm_ (by decide : nmb _ 1 = true)) (dl rfl) (dk rfl) rfl rfl (dk rfl) (by omega) (kV ?_) xV
            rw [tk]
            show GW X (mput X.G h3 ad (mW (mTakes (rdC t).2 59).2 w3)) _ _ _ [.int (bI (mTakes (rdC t).2 59).1)]
            refine g_if_eq ok (tgt := 124) dX8_read_117 (by decide) (fun c117 => ?_) (fun c117 => ?_)
            · have c117' := bI_e c117
              rw [if_neg (by rw [c117']; decide)] at d1
              rw [c108]
              refine g_iconst ok (v := 0) dX8_read_124 rfl ?_
              refine g_istore ok dX8_read_125 (ls1 := [some (.ref (ad 20)), some (.int (bI true)), some (.int (n + 1)), some (.int 0), some (.int 0)]) (dl rfl) rfl ?_
              refine g_goto ok dX8_read_127 (tgt := 89) (by decide) ?_
              refine g_iload ok dX8_read_89 rfl ?_
              refine g_if_eq ok (tgt := 130) dX8_read_91 (by decide) (fun _ => ?_) (fun c => absurd rfl c)
              exact fin _ _ _ h3 w3 _ _ d1.symm (Fr.takes.uo hu) (d8.trans u2) (by omega)
            · have c117' := bI_n c117
              rw [if_pos c117'] at d1
              have pt := pk.2.2 c117'
              have al : Alk (mCmd r).2 (rdC t).2 := ⟨hn.alk.1.trans q2.1, hn.alk.2.1.trans q2.2.1, hn.alk.2.2.trans q2.2.2⟩
              obtain ⟨z1, z2⟩ := al.takes 59
              have zp := al.P
              have zt : (mTakes (mCmd r).2 59).1 = true := z1.symm.trans c117'
              have hlt : mP (mCmd r).2 < mL (mCmd r).2 := by
                by_cases e : mP (mCmd r).2 = mL (mCmd r).2
                · unfold mTakes at zt; rw [if_pos e] at zt; cases zt
                · have z9 := pc1.2.2.2; omega
              cases j with
              | zero => omega
              | succ j =>
                rw [rdL, if_pos ⟨cr, hlt⟩] at d7
                have er : rdS (mCmd r).2 = mCmd (mTakes (mCmd r).2 59).2 := by unfold rdS; rw [if_pos zt]
                rw [er] at d7
                have p9 : mPo (mTakes (mCmd r).2 59).2 := by
                  obtain ⟨w1_, w2_⟩ := z2.P
                  unfold mPo; rw [← w1_, ← w2_, ← z2.2.1, ← z2.2.2]; exact pq
                have pm := mCmd_P p9
                have z8 := z2.P
                refine g_iconst ok (v := 1) dX8_read_120 rfl ?_
                refine g_goto ok dX8_read_121 (tgt := 125) (by decide) ?_
                refine g_istore ok dX8_read_125 (ls1 := [some (.ref (ad 20)), some (.int (bI true)), some (.int (n + 1)), some (.int (rdC t).1), some (.int 1)]) (dl rfl) rfl ?_
                refine g_goto ok dX8_read_127 (tgt := 89) (by decide) ?_
                exact ih (mTakes (mCmd r).2 59).2 j _ _ _ _ h3 w3 _ (by omega) d1 z2 pq (Fr.takes.ok hc.1) (Fr.takes.vo hc.2) (Fr.takes.uo hu) d7 (d8.trans u2) (by omega) (by omega)
      exact lq 62 a 61 (mI t 11 0) 0 0 1 h1 w _ (by have := (fg.po pa).2.1; omega) e2.symm fg (fg.po pa) (fr.ok fa.2.1) (fr.vo fa.2.2.1) (mUo_I (s := t) rfl (fr.uo fa.2.2.2)) (by rw [hF]) sF (by omega) (by have := (mCmd_po pa).2.1; omega)
  have lp : ∀ (m : Nat) (r : Bool × MS) (h1 : AH) (w : Nat) (k : Nat), (r.1 = true → mL r.2 - mP r.2 ≤ m) → rdL m r = rdL 61 (mCmd a) → mPo r.2 → Sub h0 h1 → k + 22 * m ≤ 1400 → GW X (mput X.G h1 ad (mW r.2 w)) k 14 [some (.ref (ad 20)), some (.int (bI r.1)), none, none, none] [] := by
    intro m
    induction m with
    | zero =>
      intro r h1 w k g0 g1 g2 g3 g4
      obtain ⟨b, t⟩ := r
      cases b with
      | false =>
        simp only at g2
        show GW X (mput X.G h1 ad (mW t w)) k 14 [some (.ref (ad 20)), some (.int (bI false)), none, none, none] []
        refine g_iload_n ok dX8_read_14 rfl ?_
        refine g_if_eq ok (tgt := 54) dX8_read_15 (by decide) (fun _ => ?_) (fun c => absurd rfl c)
        rw [rdL_f] at g1
        exact tail (false, t) h1 w k g1.symm g2 g3 (by omega)
      | true =>
        simp only at g2
        have g0 : mL t - mP t ≤ _ := g0 rfl
        show GW X (mput X.G h1 ad (mW t w)) k 14 [some (.ref (ad 20)), some (.int (bI true)), none, none, none] []
        refine g_iload_n ok dX8_read_14 rfl ?_
        refine g_if_eq ok (tgt := 54) dX8_read_15 (by decide) (fun c => absurd c (by decide)) (fun _ => ?_)
        obtain ⟨p1, p2, p3, p4⟩ := id g2
        refine g_aload_n ok dX8_read_18 rfl ?_
        refine m_get ok hA 11 q2246 (by decide) dX8_read_19 (v := .int (nI (mP t))) (congrArg (fun z => some (Value.int z)) p3) ?_
        refine g_aload_n ok dX8_read_22 rfl ?_
        refine m_get ok hA 10 q2245 (by decide) dX8_read_23 (v := .int (nI (mL t))) (congrArg (fun z => some (Value.int z)) p1) ?_
        have pl : ¬ mP t < mL t := by omega
        refine g_icmp_ge ok (tgt := 54) dX8_read_26 (by decide) (fun _ => ?_) (fun c_ => absurd (nI_le (a := (mL t)) (b := (mP t)) (by omega) (by omega)) c_)
        rw [rdL_e pl] at g1
        exact tail (true, t) h1 w k g1.symm g2 g3 (by omega)
    | succ m ih =>
      intro r h1 w k g0 g1 g2 g3 g4
      obtain ⟨b, t⟩ := r
      cases b with
      | false =>
        simp only at g2
        show GW X (mput X.G h1 ad (mW t w)) k 14 [some (.ref (ad 20)), some (.int (bI false)), none, none, none] []
        refine g_iload_n ok dX8_read_14 rfl ?_
        refine g_if_eq ok (tgt := 54) dX8_read_15 (by decide) (fun _ => ?_) (fun c => absurd rfl c)
        rw [rdL_f] at g1
        exact tail (false, t) h1 w k g1.symm g2 g3 (by omega)
      | true =>
        simp only at g2
        have g0 : mL t - mP t ≤ _ := g0 rfl
        show GW X (mput X.G h1 ad (mW t w)) k 14 [some (.ref (ad 20)), some (.int (bI true)), none, none, none] []
        refine g_iload_n ok dX8_read_14 rfl ?_
        refine g_if_eq ok (tgt := 54) dX8_read_15 (by decide) (fun c => absurd c (by decide)) (fun _ => ?_)
        obtain ⟨p1, p2, p3, p4⟩ := id g2
        refine g_aload_n ok dX8_read_18 rfl ?_
        refine m_get ok hA 11 q2246 (by decide) dX8_read_19 (v := .int (nI (mP t))) (congrArg (fun z => some (Value.int z)) p3) ?_
        refine g_aload_n ok dX8_read_22 rfl ?_
        refine m_get ok hA 10 q2245 (by decide) dX8_read_23 (v := .int (nI (mL t))) (congrArg (fun z => some (Value.int z)) p1) ?_
        by_cases pl : mP t < mL t
        · refine g_icmp_ge ok (tgt := 54) dX8_read_26 (by decide) (fun c_ => absurd c_ (nI_ge (a := (mP t)) (b := (mL t)) (by omega) (by omega))) (fun _ => ?_)
          rw [rdL, if_pos ⟨rfl, pl⟩] at g1
          have tk := mTakes_W (s := t) (w := w) (c := 59)
          have pk := mTakes_P (c := 59) g2
          have pq := mTakes_po (c := 59) g2
          have ps := rdS_P g2
          have pz := rdS_po g2
          refine g_aload_n ok dX8_read_29 rfl ?_
          refine g_bipush ok (v := 59) dX8_read_30 rfl ?_
          refine g_callV ok q2685 q2687 qs56 q75 q2688 (m_recv ok hA) dX8_read_32 (m_takes X.l X.G hA (h0 := h1) (mW t w) 59 g2) (nm_ (by decide : nmb _ 1 = true)) (dl rfl) (dk rfl) rfl rfl (dk rfl) (by omega) (kV ?_) xV
          rw [tk]
          show GW X (mput X.G h1 ad (mW (mTakes t 59).2 w)) _ _ _ [.int (bI (mTakes t 59).1)]
          refine g_if_eq ok (tgt := 49) dX8_read_35 (by decide) (fun c35 => ?_) (fun c35 => ?_)
          · have c35' := bI_e c35
            have er : rdS t = (false, (mTakes t 59).2) := by unfold rdS; rw [if_neg (by rw [c35']; decide)]
            refine g_iconst ok (v := 0) dX8_read_49 rfl ?_
            refine g_istore_n ok dX8_read_50 (ls1 := [some (.ref (ad 20)), some (.int 0), none, none, none]) (dl rfl) rfl ?_
            refine g_goto ok dX8_read_51 (tgt := 14) (by decide) ?_
            rw [er] at g1 pz
            exact ih (false, (mTakes t 59).2) h1 w _ (fun z => by cases z) g1 pz g3 (by omega)
          · have c35' := bI_n c35
            have er : rdS t = mCmd (mTakes t 59).2 := by unfold rdS; rw [if_pos c35']
            refine g_aload_n ok dX8_read_38 rfl ?_
            refine g_callV ok q2585 q2587 qs52 q75 q2588 (m_recv ok hA) dX8_read_39 (m_cmd X.l X.G hA (h0 := h1) (mW (mTakes t 59).2 w) pq) (nm_ (by decide : nmb _ 0 = true)) (dl rfl) (dk rfl) rfl rfl (dk rfl) (by omega) (kR fun v hh ⟨h2, w2, u1, u2, u3, u4⟩ => ?_) xR
            subst u1 u3
            rw [mCmd_W] at u4 ⊢
            show GW X (mput X.G h2 ad (mW (mCmd (mTakes t 59).2).2 w2)) _ _ _ [.int (bI (mCmd (mTakes t 59).2).1)]
            refine g_if_eq ok (tgt := 49) dX8_read_42 (by decide) (fun c42 => ?_) (fun c42 => ?_)
            · have c42' := bI_e c42
              have ez : rdS t = (false, (mCmd (mTakes t 59).2).2) := by rw [er, ← c42']
              refine g_iconst ok (v := 0) dX8_read_49 rfl ?_
              refine g_istore_n ok dX8_read_50 (ls1 := [some (.ref (ad 20)), some (.int 0), none, none, none]) (dl rfl) rfl ?_
              refine g_goto ok dX8_read_51 (tgt := 14) (by decide) ?_
              rw [ez] at g1 pz ps
              exact ih (false, (mCmd (mTakes t 59).2).2) h2 w2 _ (fun _ => by have h8 := (mCmd_P pq); have := pk.2.2 c35'; have := pk.1; simp only; omega) g1 pz (g3.trans u2) (by omega)
            · have c42' := bI_n c42
              have ez : rdS t = (true, (mCmd (mTakes t 59).2).2) := by rw [er, ← c42']
              refine g_iconst ok (v := 1) dX8_read_45 rfl ?_
              refine g_goto ok dX8_read_46 (tgt := 50) (by decide) ?_
              refine g_istore_n ok dX8_read_50 (ls1 := [some (.ref (ad 20)), some (.int 1), none, none, none]) (dl rfl) rfl ?_
              refine g_goto ok dX8_read_51 (tgt := 14) (by decide) ?_
              rw [ez] at g1 pz ps
              exact ih (true, (mCmd (mTakes t 59).2).2) h2 w2 _ (fun _ => by have := ps.1; have := ps.2 rfl; simp only at *; omega) g1 pz (g3.trans u2) (by omega)
        · refine g_icmp_ge ok (tgt := 54) dX8_read_26 (by decide) (fun _ => ?_) (fun c_ => absurd (nI_le (a := (mL t)) (b := (mP t)) (by omega) (by omega)) c_)
          rw [rdL_e pl] at g1
          exact tail (true, t) h1 w k g1.symm g2 g3 (by omega)
  exact lp 61 (mCmd a) h1 w1 _ (fun _ => by have := (mCmd_po pa).2.1; omega) rfl (mCmd_po pa) u2 (by omega)
