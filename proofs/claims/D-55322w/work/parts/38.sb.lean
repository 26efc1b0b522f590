/-! super calls; the JDK's builder -/
set_option maxRecDepth 100000
abbrev cJ3_isLatin1 : ByteArray := prog_21_method_68_code
def yJ3_isLatin1 : MethodName := ⟨RJ3, "isLatin1", "()Z"⟩
def dkwJ3_isLatin1_0 : List UInt8 := [178, 0, 18, 153, 0, 14, 42, 180, 0, 22, 154, 0, 7, 4, 167, 0, 4, 3, 172]
abbrev dktJ3_isLatin1_0 : List UInt8 := dkwJ3_isLatin1_0 ++ []
theorem dksJ3_isLatin1_0 : cJ3_isLatin1.data.toList.drop 0 = dktJ3_isLatin1_0 := by decide +kernel
theorem dJ3_isLatin1_0 : decode cJ3_isLatin1 0 = .ok (.getstatic 18, 3) := dk_178 0 18 (dk_at dksJ3_isLatin1_0 0 rfl rfl)
theorem dJ3_isLatin1_3 : decode cJ3_isLatin1 3 = .ok (.ifCond .eq 14, 3) := dk_153 0 14 (dk_at dksJ3_isLatin1_0 3 rfl rfl)
theorem dJ3_isLatin1_6 : decode cJ3_isLatin1 6 = .ok (.aload_n 0, 1) := dk_42 (dk_at dksJ3_isLatin1_0 6 rfl rfl)
theorem dJ3_isLatin1_7 : decode cJ3_isLatin1 7 = .ok (.getfield 22, 3) := dk_180 0 22 (dk_at dksJ3_isLatin1_0 7 rfl rfl)
theorem dJ3_isLatin1_10 : decode cJ3_isLatin1 10 = .ok (.ifCond .ne 7, 3) := dk_154 0 7 (dk_at dksJ3_isLatin1_0 10 rfl rfl)
theorem dJ3_isLatin1_13 : decode cJ3_isLatin1 13 = .ok (.iconst 1, 1) := dk_4 (dk_at dksJ3_isLatin1_0 13 rfl rfl)
theorem dJ3_isLatin1_14 : decode cJ3_isLatin1 14 = .ok (.goto 4, 3) := dk_167 0 4 (dk_at dksJ3_isLatin1_0 14 rfl rfl)
theorem dJ3_isLatin1_17 : decode cJ3_isLatin1 17 = .ok (.iconst 0, 1) := dk_3 (dk_at dksJ3_isLatin1_0 17 rfl rfl)
theorem dJ3_isLatin1_18 : decode cJ3_isLatin1 18 = .ok (.ireturn, 1) := dk_172 (dk_at dksJ3_isLatin1_0 18 rfl rfl)
abbrev cJ3_length : ByteArray := prog_21_method_6_code
def yJ3_length : MethodName := ⟨RJ3, "length", "()I"⟩
theorem dJ3_length_0 : decode cJ3_length 0 = .ok (.aload_n 0, 1) := by decide +kernel
theorem dJ3_length_1 : decode cJ3_length 1 = .ok (.getfield 79, 3) := by decide +kernel
theorem dJ3_length_4 : decode cJ3_length 4 = .ok (.ireturn, 1) := by decide +kernel
abbrev cJ3_getValue : ByteArray := prog_21_method_64_code
def yJ3_getValue : MethodName := ⟨RJ3, "getValue", "()[B"⟩
theorem dJ3_getValue_0 : decode cJ3_getValue 0 = .ok (.aload_n 0, 1) := by decide +kernel
theorem dJ3_getValue_1 : decode cJ3_getValue 1 = .ok (.getfield 15, 3) := by decide +kernel
theorem dJ3_getValue_4 : decode cJ3_getValue 4 = .ok (.areturn, 1) := by decide +kernel
abbrev cJ4_length : ByteArray := prog_40_method_93_code
def yJ4_length : MethodName := ⟨RJ4, "length", "()I"⟩
theorem dJ4_length_0 : decode cJ4_length 0 = .ok (.aload_n 0, 1) := by decide +kernel
theorem dJ4_length_1 : decode cJ4_length 1 = .ok (.invokespecial 343, 3) := by decide +kernel
theorem dJ4_length_4 : decode cJ4_length 4 = .ok (.ireturn, 1) := by decide +kernel
abbrev cJ3_newCapacity : ByteArray := prog_21_method_10_code
def yJ3_newCapacity : MethodName := ⟨RJ3, "newCapacity", "(I)I"⟩
def dkwJ3_newCapacity_2 : List UInt8 := [183, 0, 124, 191, 21, 5, 42, 180, 0, 22, 122, 172]
abbrev dktJ3_newCapacity_2 : List UInt8 := dkwJ3_newCapacity_2 ++ []
def dkwJ3_newCapacity_1 : List UInt8 := [180, 0, 22, 120, 96, 184, 0, 114, 54, 5, 21, 5, 18, 39, 160, 0, 13, 187, 0, 120, 89, 18, 122]
abbrev dktJ3_newCapacity_1 : List UInt8 := dkwJ3_newCapacity_1 ++ dktJ3_newCapacity_2
def dkwJ3_newCapacity_0 : List UInt8 := [42, 180, 0, 15, 190, 61, 27, 42, 180, 0, 22, 120, 62, 29, 28, 100, 54, 4, 28, 21, 4, 28, 5, 42]
abbrev dktJ3_newCapacity_0 : List UInt8 := dkwJ3_newCapacity_0 ++ dktJ3_newCapacity_1
theorem dksJ3_newCapacity_0 : cJ3_newCapacity.data.toList.drop 0 = dktJ3_newCapacity_0 := by decide +kernel
theorem dksJ3_newCapacity_1 : cJ3_newCapacity.data.toList.drop 24 = dktJ3_newCapacity_1 := dk_seg dksJ3_newCapacity_0 24 rfl rfl
theorem dksJ3_newCapacity_2 : cJ3_newCapacity.data.toList.drop 47 = dktJ3_newCapacity_2 := dk_seg dksJ3_newCapacity_1 23 rfl rfl
theorem dJ3_newCapacity_0 : decode cJ3_newCapacity 0 = .ok (.aload_n 0, 1) := dk_42 (dk_at dksJ3_newCapacity_0 0 rfl rfl)
theorem dJ3_newCapacity_1 : decode cJ3_newCapacity 1 = .ok (.getfield 15, 3) := dk_180 0 15 (dk_at dksJ3_newCapacity_0 1 rfl rfl)
theorem dJ3_newCapacity_4 : decode cJ3_newCapacity 4 = .ok (.arraylength, 1) := dk_190 (dk_at dksJ3_newCapacity_0 4 rfl rfl)
theorem dJ3_newCapacity_5 : decode cJ3_newCapacity 5 = .ok (.istore_n 2, 1) := dk_61 (dk_at dksJ3_newCapacity_0 5 rfl rfl)
theorem dJ3_newCapacity_6 : decode cJ3_newCapacity 6 = .ok (.iload_n 1, 1) := dk_27 (dk_at dksJ3_newCapacity_0 6 rfl rfl)
theorem dJ3_newCapacity_7 : decode cJ3_newCapacity 7 = .ok (.aload_n 0, 1) := dk_42 (dk_at dksJ3_newCapacity_0 7 rfl rfl)
theorem dJ3_newCapacity_8 : decode cJ3_newCapacity 8 = .ok (.getfield 22, 3) := dk_180 0 22 (dk_at dksJ3_newCapacity_0 8 rfl rfl)
theorem dJ3_newCapacity_11 : decode cJ3_newCapacity 11 = .ok (.ishl, 1) := dk_120 (dk_at dksJ3_newCapacity_0 11 rfl rfl)
theorem dJ3_newCapacity_12 : decode cJ3_newCapacity 12 = .ok (.istore_n 3, 1) := dk_62 (dk_at dksJ3_newCapacity_0 12 rfl rfl)
theorem dJ3_newCapacity_13 : decode cJ3_newCapacity 13 = .ok (.iload_n 3, 1) := dk_29 (dk_at dksJ3_newCapacity_0 13 rfl rfl)
theorem dJ3_newCapacity_14 : decode cJ3_newCapacity 14 = .ok (.iload_n 2, 1) := dk_28 (dk_at dksJ3_newCapacity_0 14 rfl rfl)
theorem dJ3_newCapacity_15 : decode cJ3_newCapacity 15 = .ok (.isub, 1) := dk_100 (dk_at dksJ3_newCapacity_0 15 rfl rfl)
theorem dJ3_newCapacity_16 : decode cJ3_newCapacity 16 = .ok (.istore 4, 2) := dk_54 4 (dk_at dksJ3_newCapacity_0 16 rfl rfl)
theorem dJ3_newCapacity_18 : decode cJ3_newCapacity 18 = .ok (.iload_n 2, 1) := dk_28 (dk_at dksJ3_newCapacity_0 18 rfl rfl)
theorem dJ3_newCapacity_19 : decode cJ3_newCapacity 19 = .ok (.iload 4, 2) := dk_21 4 (dk_at dksJ3_newCapacity_0 19 rfl rfl)
theorem dJ3_newCapacity_21 : decode cJ3_newCapacity 21 = .ok (.iload_n 2, 1) := dk_28 (dk_at dksJ3_newCapacity_0 21 rfl rfl)
theorem dJ3_newCapacity_22 : decode cJ3_newCapacity 22 = .ok (.iconst 2, 1) := dk_5 (dk_at dksJ3_newCapacity_0 22 rfl rfl)
theorem dJ3_newCapacity_23 : decode cJ3_newCapacity 23 = .ok (.aload_n 0, 1) := dk_42 (dk_at dksJ3_newCapacity_0 23 rfl rfl)
theorem dJ3_newCapacity_24 : decode cJ3_newCapacity 24 = .ok (.getfield 22, 3) := dk_180 0 22 (dk_at dksJ3_newCapacity_1 0 rfl rfl)
theorem dJ3_newCapacity_27 : decode cJ3_newCapacity 27 = .ok (.ishl, 1) := dk_120 (dk_at dksJ3_newCapacity_1 3 rfl rfl)
theorem dJ3_newCapacity_28 : decode cJ3_newCapacity 28 = .ok (.iadd, 1) := dk_96 (dk_at dksJ3_newCapacity_1 4 rfl rfl)
theorem dJ3_newCapacity_29 : decode cJ3_newCapacity 29 = .ok (.invokestatic 114, 3) := dk_184 0 114 (dk_at dksJ3_newCapacity_1 5 rfl rfl)
theorem dJ3_newCapacity_32 : decode cJ3_newCapacity 32 = .ok (.istore 5, 2) := dk_54 5 (dk_at dksJ3_newCapacity_1 8 rfl rfl)
theorem dJ3_newCapacity_34 : decode cJ3_newCapacity 34 = .ok (.iload 5, 2) := dk_21 5 (dk_at dksJ3_newCapacity_1 10 rfl rfl)
theorem dJ3_newCapacity_36 : decode cJ3_newCapacity 36 = .ok (.ldc 39, 2) := dk_18 39 (dk_at dksJ3_newCapacity_1 12 rfl rfl)
theorem dJ3_newCapacity_38 : decode cJ3_newCapacity 38 = .ok (.if_icmp .ne 13, 3) := dk_160 0 13 (dk_at dksJ3_newCapacity_1 14 rfl rfl)
theorem dJ3_newCapacity_41 : decode cJ3_newCapacity 41 = .ok (.new 120, 3) := dk_187 0 120 (dk_at dksJ3_newCapacity_1 17 rfl rfl)
theorem dJ3_newCapacity_44 : decode cJ3_newCapacity 44 = .ok (.dup, 1) := dk_89 (dk_at dksJ3_newCapacity_1 20 rfl rfl)
theorem dJ3_newCapacity_45 : decode cJ3_newCapacity 45 = .ok (.ldc 122, 2) := dk_18 122 (dk_at dksJ3_newCapacity_1 21 rfl rfl)
theorem dJ3_newCapacity_47 : decode cJ3_newCapacity 47 = .ok (.invokespecial 124, 3) := dk_183 0 124 (dk_at dksJ3_newCapacity_2 0 rfl rfl)
theorem dJ3_newCapacity_50 : decode cJ3_newCapacity 50 = .ok (.athrow, 1) := dk_191 (dk_at dksJ3_newCapacity_2 3 rfl rfl)
theorem dJ3_newCapacity_51 : decode cJ3_newCapacity 51 = .ok (.iload 5, 2) := dk_21 5 (dk_at dksJ3_newCapacity_2 4 rfl rfl)
theorem dJ3_newCapacity_53 : decode cJ3_newCapacity 53 = .ok (.aload_n 0, 1) := dk_42 (dk_at dksJ3_newCapacity_2 6 rfl rfl)
theorem dJ3_newCapacity_54 : decode cJ3_newCapacity 54 = .ok (.getfield 22, 3) := dk_180 0 22 (dk_at dksJ3_newCapacity_2 7 rfl rfl)
theorem dJ3_newCapacity_57 : decode cJ3_newCapacity 57 = .ok (.ishr, 1) := dk_122 (dk_at dksJ3_newCapacity_2 10 rfl rfl)
theorem dJ3_newCapacity_58 : decode cJ3_newCapacity 58 = .ok (.ireturn, 1) := dk_172 (dk_at dksJ3_newCapacity_2 11 rfl rfl)
theorem q294 : (Jvm.Cond.fieldLink "java/lang/AbstractStringBuilder" (18 : Nat) "java/lang/String" "COMPACT_STRINGS" "Z") ∈ lw_all := lw_g (lw_at lw_m1 234 rfl) rfl
theorem q304 : (Jvm.Cond.fieldLink "java/lang/AbstractStringBuilder" (22 : Nat) "java/lang/AbstractStringBuilder" "coder" "B") ∈ lw_all := lw_g (lw_at lw_m2 4 rfl) rfl
theorem q307 : (Jvm.Cond.fieldLink "java/lang/AbstractStringBuilder" (79 : Nat) "java/lang/AbstractStringBuilder" "count" "I") ∈ lw_all := lw_g (lw_at lw_m2 7 rfl) rfl
theorem q303 : (Jvm.Cond.fieldLink "java/lang/AbstractStringBuilder" (15 : Nat) "java/lang/AbstractStringBuilder" "value" "[B") ∈ lw_all := lw_g (lw_at lw_m2 3 rfl) rfl
theorem q730 : (Jvm.Cond.methodLink "java/lang/StringBuilder" (343 : Nat) ({ cls := "java/lang/AbstractStringBuilder", name := "length", desc := "()I" } : Jvm.MethodName)) ∈ lw_all := lw_g (lw_at lw_m3 190 rfl) rfl
theorem q726 : (Jvm.Cond.sameMethod "java/lang/AbstractStringBuilder" "java/lang/AbstractStringBuilder" "length" "()I") ∈ lw_all := lw_g (lw_at lw_m3 186 rfl) rfl
theorem q316 : (Jvm.Cond.superclass "java/lang/StringBuilder" "java/lang/AbstractStringBuilder") ∈ lw_all := lw_g (lw_at lw_m2 16 rfl) rfl
theorem q725 : (Jvm.Cond.instanceMethod ({ cls := "java/lang/AbstractStringBuilder", name := "length", desc := "()I" } : Jvm.MethodName)) ∈ lw_all := lw_g (lw_at lw_m3 185 rfl) rfl
theorem q71 : (Jvm.Cond.initialized "java/lang/AbstractStringBuilder") ∈ lw_all := lw_g (lw_at lw_m1 11 rfl) rfl
theorem q731 : (Jvm.Cond.code ({ cls := "java/lang/AbstractStringBuilder", name := "length", desc := "()I" } : Jvm.MethodName) prog_21_method_6_code (1 : Nat) (Option.some Jvm.ClassFile.FieldType.int)) ∈ lw_all := lw_g (lw_at lw_m3 191 rfl) rfl
theorem q572 : (Jvm.Cond.methodLink "java/lang/AbstractStringBuilder" (114 : Nat) ({ cls := "jdk/internal/util/ArraysSupport", name := "newLength", desc := "(III)I" } : Jvm.MethodName)) ∈ lw_all := lw_g (lw_at lw_m3 32 rfl) rfl
theorem q582 : (Jvm.Cond.constant "java/lang/AbstractStringBuilder" (39 : Nat) (2147483647 : Int32)) ∈ lw_all := lw_g (lw_at lw_m3 42 rfl) rfl
section
variable {X : GX} {yM : MethodName} {cc : ByteArray} {nL : Nat} {rT : Option FieldType} {hH : List (Nat × Nat × Nat × Nat)} {lV kB : Nat} {hA : AH} {kc pc : Nat} {ls : List (Option Value)} {st : List Value}
/-- super.y(..) -/
theorem g_callSU (ok : Ok X yM cc nL rT hH lV kB) {ci : Nat} {r : vw_C} {fs : List Value} {y : MethodName} {b : Nat} {bytes : ByteArray} {maxL Lc Kc index : Nat} {ret : Option FieldType} {av st0 : List Value} {Pc : Out → AH → Prop}
    (w1 : Cond.methodLink yM.cls index y ∈ lw_all) (w2 : Cond.sameMethod y.cls y.cls y.name y.desc ∈ lw_all) (w3 : Cond.superclass yM.cls y.cls ∈ lw_all) (w4 : Cond.instanceMethod y ∈ lw_all) (w5 : Cond.initialized y.cls ∈ lw_all) (w6 : Cond.code y bytes maxL ret ∈ lw_all) (hno : y.name ≠ "<init>") (hci : gcl[ci]? = some r) (hr : Rd X.G hA b (ob ci fs)) (hd : decode cc pc = .ok (.invokespecial index, 3)) (hM : GM X.l X.G y (ws_ y bytes maxL ret) Lc (.ref b :: av) hA Kc Pc)
    (hn : Nm y av.length) (hLv : Lc < lV) (hml : maxL ≤ 100) (hln : ls.length = nL) (hst : av.reverse ++ .ref b :: st = st0) (hs : (st.map fun v => v.category).sum ≤ 8) (hk : kc + Kc ≤ kB)
    (kk : ∀ v h', Pc (.inl v) h' → GW X h' (kc + Kc) (pc + 3) ls (v.toList ++ st)) (kx : ∀ E q h', Pc (.inr (E, q)) h' → GWX X h' (kc + Kc) pc ls st E q) : GW X hA kc pc ls st0 := by
  obtain ⟨r1, r2, r3, r4⟩ := ok.rm
  have hT : GoodIn lw_all (va_wsSU yM.cls index y (ws_ y bytes maxL ret)) := by
    refine lw_app ?_ (lw_meth w6)
    intro w hw
    simp only [List.mem_cons, List.not_mem_nil, or_false] at hw
    rcases hw with e | e | e | e | e <;> rw [e] <;> assumption
  refine g_callR (a := (Value.ref b :: av).toArray) (fun H locs la hP hL => ?_) kk kx
  exact vx_runSU (ok.k.1 ci r hci).2 ok.1 (hM ok.tr H.size) (va_cwSU av.length ok.ts hT rfl rfl rfl ⟨hno, hn.2.2⟩ (g_rm ok hLv hml)) (g_preV ok hP (Recv.ob ok hci hr)) rfl rfl (hL.1.trans hln) hst.symm (lv_room hs) hd ⟨by omega, by omega⟩
end
/-- a builder at a: bytes at b, cap of them, n in use, f -/
def SB (G : GE) (h : AH) (a b cap n : Nat) (m : Int32) (f : Nat → Int32) : Prop := h a = some (ob 14 [.ref b, .int 0, .int m, .int (nI n)]) ∧ h b = some (aB G cap f) ∧ n ≤ cap ∧ cap < 1000 ∧ Asc cap f
theorem sb_latin (l : Launch) (G : GE) (h : AH) (a b cap n : Nat) (m : Int32) (f : Nat → Int32) (y0 : SB G h a b cap n m f) : GM l G yJ3_isLatin1 (ws_ yJ3_isLatin1 cJ3_isLatin1 1 (some .boolean)) 1 [.ref a] (h) (0) (PV (.int 1) h) := by
  refine GM.of (by decide) (dk rfl) ?_
  intro X eL eG eh ok fn
  subst eL; subst eG
  show GW X _ 0 0 [some (.ref a)] []
  obtain ⟨ra, rb, rn, rs, ras⟩ := id y0
  have nba : b ≠ a := fun z => by subst z; rw [ra] at rb; cases rb
  refine g_gets ok (C := "java/lang/String") (n := "COMPACT_STRINGS") (d := "Z") (v := .int 1) (by simp [gzs]) q294 dJ3_isLatin1_0 ?_
  refine g_if_eq ok (tgt := 17) dJ3_isLatin1_3 (by decide) (fun c_ => absurd c_ (fun e_ => by have := (nI_eq (a := 1) (b := 0) (by omega) (by omega)).mp e_; omega)) (fun _ => ?_)
  refine g_aload_n ok dJ3_isLatin1_6 rfl ?_
  refine g_get ok ck_J4 1 q304 (Or.inl rfl) (by decide) dJ3_isLatin1_7 (Rd.h (ra)) rfl ?_
  refine g_if_ne ok (tgt := 17) dJ3_isLatin1_10 (by decide) (fun c_ => absurd (congrArg nI (by omega : 0 = 0)) c_) (fun _ => ?_)
  refine g_iconst ok (v := 1) dJ3_isLatin1_13 rfl ?_
  refine g_goto ok dJ3_isLatin1_14 (tgt := 18) (by decide) ?_
  exact g_zret ok fn rfl rfl dJ3_isLatin1_18 (pv_h rfl) (by omega)
theorem sb_len0 (l : Launch) (G : GE) (h : AH) (a b cap n : Nat) (m : Int32) (f : Nat → Int32) (y0 : SB G h a b cap n m f) : GM l G yJ3_length (ws_ yJ3_length cJ3_length 1 (some .int)) 1 [.ref a] (h) (0) (PV (.int (nI n)) h) := by
  refine GM.of (by decide) (dk rfl) ?_
  intro X eL eG eh ok fn
  subst eL; subst eG
  show GW X _ 0 0 [some (.ref a)] []
  obtain ⟨ra, rb, rn, rs, ras⟩ := id y0
  have nba : b ≠ a := fun z => by subst z; rw [ra] at rb; cases rb
  refine g_aload_n ok dJ3_length_0 rfl ?_
  refine g_get ok ck_J4 3 q307 (Or.inl rfl) (by decide) dJ3_length_1 (Rd.h (ra)) rfl ?_
  exact g_iret ok fn rfl dJ3_length_4 (pv_h rfl) (by omega)
theorem sb_value (l : Launch) (G : GE) (h : AH) (a b cap n : Nat) (m : Int32) (f : Nat → Int32) (y0 : SB G h a b cap n m f) : GM l G yJ3_getValue (ws_ yJ3_getValue cJ3_getValue 1 (some (.array .byte))) 1 [.ref a] (h) (0) (PV (.ref b) h) := by
  refine GM.of (by decide) (dk rfl) ?_
  intro X eL eG eh ok fn
  subst eL; subst eG
  show GW X _ 0 0 [some (.ref a)] []
  obtain ⟨ra, rb, rn, rs, ras⟩ := id y0
  have nba : b ≠ a := fun z => by subst z; rw [ra] at rb; cases rb
  refine g_aload_n ok dJ3_getValue_0 rfl ?_
  refine g_get ok ck_J4 0 q303 (Or.inl rfl) (by decide) dJ3_getValue_1 (Rd.h (ra)) rfl ?_
  exact g_aret ok fn rfl (Or.inr ⟨_, rfl⟩) (Or.inr ⟨_, rfl⟩) dJ3_getValue_4 (pv_n rfl) (by omega)
theorem sb_length (l : Launch) (G : GE) (h : AH) (a b cap n : Nat) (m : Int32) (f : Nat → Int32) (y0 : SB G h a b cap n m f) : GM l G yJ4_length (ws_ yJ4_length cJ4_length 1 (some .int)) 2 [.ref a] (h) (0) (PV (.int (nI n)) h) := by
  refine GM.of (by decide) (dk rfl) ?_
  intro X eL eG eh ok fn
  subst eL; subst eG
  show GW X _ 0 0 [some (.ref a)] []
  obtain ⟨ra, rb, rn, rs, ras⟩ := id y0
  have nba : b ≠ a := fun z => by subst z; rw [ra] at rb; cases rb
  refine g_aload_n ok dJ4_length_0 rfl ?_
  refine g_callSU ok q730 q726 q316 q725 q71 q731 (by decide) gc_J4 (Rd.h (ra)) dJ4_length_1 (sb_len0 X.l X.G _ a b cap n m f y0) (nm_ (by decide : nmb _ 0 = true)) (dl rfl) (dk rfl) rfl rfl (dk rfl) (by omega) (kV ?_) xV
  exact g_iret ok fn rfl dJ4_length_4 (pv_h rfl) (by omega)
theorem ishl0 (x : Int32) : x <<< ((0 : Int32) &&& 31) = x := by
  have e : ((0 : Int32) &&& 31) = 0 := rfl
  rw [e]
  exact Int32.shiftLeft_zero
theorem sb_newCap (l : Launch) (G : GE) (h : AH) (a b cap n : Nat) (m : Int32) (f : Nat → Int32) (y0 : SB G h a b cap n m f) (k : Nat) (hk : cap < k) (hk2 : k < 1000) : GM l G yJ3_newCapacity (ws_ yJ3_newCapacity cJ3_newCapacity 6 (some .int)) 3 [.ref a, .int (nI k)] (h) (0) (PV (.int (nI (cap + max (k - cap) (cap + 2)))) h) := by
  refine GM.of (by decide) (dk rfl) ?_
  intro X eL eG eh ok fn
  subst eL; subst eG
  show GW X _ 0 0 [some (.ref a), some (.int (nI k)), none, none, none, none] []
  obtain ⟨ra, rb, rn, rs, ras⟩ := id y0
  have nba : b ≠ a := fun z => by subst z; rw [ra] at rb; cases rb
  refine g_aload_n ok dJ3_newCapacity_0 rfl ?_
  refine g_get ok ck_J4 0 q303 (Or.inl rfl) (by decide) dJ3_newCapacity_1 (Rd.h (ra)) rfl ?_
  refine g_alen ok dJ3_newCapacity_4 (Rd.h (rb)) (gt_b _) ?_
  refine g_istore_n ok dJ3_newCapacity_5 (ls1 := [some (.ref a), some (.int (nI k)), some (.int (nI cap)), none, none, none]) (dl rfl) rfl ?_
  refine g_iload_n ok dJ3_newCapacity_6 rfl ?_
  refine g_aload_n ok dJ3_newCapacity_7 rfl ?_
  refine g_get ok ck_J4 1 q304 (Or.inl rfl) (by decide) dJ3_newCapacity_8 (Rd.h (ra)) rfl ?_
  refine g_ishl ok dJ3_newCapacity_11 ?_
  rw [ishl0]
  refine g_istore_n ok dJ3_newCapacity_12 (ls1 := [some (.ref a), some (.int (nI k)), some (.int (nI cap)), some (.int (nI k)), none, none]) (dl rfl) rfl ?_
  refine g_iload_n ok dJ3_newCapacity_13 rfl ?_
  refine g_iload_n ok dJ3_newCapacity_14 rfl ?_
  refine g_isubN ok dJ3_newCapacity_15 (c := (k - cap)) (a := k) (b := cap) rfl rfl (by omega) (by omega) ?_
  refine g_istore ok dJ3_newCapacity_16 (ls1 := [some (.ref a), some (.int (nI k)), some (.int (nI cap)), some (.int (nI k)), some (.int (nI (k - cap))), none]) (dl rfl) rfl ?_
  refine g_iload_n ok dJ3_newCapacity_18 rfl ?_
  refine g_iload ok dJ3_newCapacity_19 rfl ?_
  refine g_iload_n ok dJ3_newCapacity_21 rfl ?_
  refine g_iconst ok (v := 2) dJ3_newCapacity_22 rfl ?_
  refine g_aload_n ok dJ3_newCapacity_23 rfl ?_
  refine g_get ok ck_J4 1 q304 (Or.inl rfl) (by decide) dJ3_newCapacity_24 (Rd.h (ra)) rfl ?_
  refine g_ishl ok dJ3_newCapacity_27 ?_
  rw [ishl0, show (2 : Int32) = nI 2 from rfl]
  refine g_iaddN ok dJ3_newCapacity_28 (c := (cap + 2)) (a := cap) (b := 2) rfl rfl rfl ?_
  refine g_callS ok q572 q573 q89 q574 dJ3_newCapacity_29 (a_newLength X.l X.G _ cap (k - cap) (cap + 2) (by omega) (by omega) (by omega) (by omega)) (nm_ (by decide : nmb _ 3 = true)) (dl rfl) (dk rfl) rfl rfl (dk rfl) (by omega) (kV ?_) xV
  refine g_istore ok dJ3_newCapacity_32 (ls1 := [some (.ref a), some (.int (nI k)), some (.int (nI cap)), some (.int (nI k)), some (.int (nI (k - cap))), some (.int (nI (cap + max (k - cap) (cap + 2))))]) (dl rfl) rfl ?_
  obtain ⟨z, hz⟩ : ∃ z, cap + max (k - cap) (cap + 2) = z := ⟨_, rfl⟩
  rw [hz]
  refine g_iload ok dJ3_newCapacity_34 rfl ?_
  refine g_ldc ok (v := 2147483647) q582 dJ3_newCapacity_36 ?_
  refine g_icmp_ne ok (tgt := 51) dJ3_newCapacity_38 (by decide) (fun _ => ?_) (fun c => absurd ((nI_eq (a := z) (b := 2147483647) (by omega) (by omega)).mp c) (by omega))
  refine g_iload ok dJ3_newCapacity_51 rfl ?_
  refine g_aload_n ok dJ3_newCapacity_53 rfl ?_
  refine g_get ok ck_J4 1 q304 (Or.inl rfl) (by decide) dJ3_newCapacity_54 (Rd.h (ra)) rfl ?_
  refine g_ishr ok dJ3_newCapacity_57 ?_
  rw [ishr0]
  exact g_iret ok fn rfl dJ3_newCapacity_58 (pv_h (by rw [hz])) (by omega)
