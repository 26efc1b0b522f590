/-! THE JDK's strings, 2 -/
set_option maxRecDepth 100000
abbrev cJ21_charAt : ByteArray := prog_42_method_2_code
def yJ21_charAt : MethodName := ⟨RJ21, "charAt", "([BI)C"⟩
def dkwJ21_charAt_0 : List UInt8 := [27, 42, 190, 184, 0, 9, 42, 27, 51, 17, 0, 255, 126, 146, 172]
abbrev dktJ21_charAt_0 : List UInt8 := dkwJ21_charAt_0 ++ []
theorem dksJ21_charAt_0 : cJ21_charAt.data.toList.drop 0 = dktJ21_charAt_0 := by decide +kernel
theorem dJ21_charAt_0 : decode cJ21_charAt 0 = .ok (.iload_n 1, 1) := dk_27 (dk_at dksJ21_charAt_0 0 rfl rfl)
theorem dJ21_charAt_1 : decode cJ21_charAt 1 = .ok (.aload_n 0, 1) := dk_42 (dk_at dksJ21_charAt_0 1 rfl rfl)
theorem dJ21_charAt_2 : decode cJ21_charAt 2 = .ok (.arraylength, 1) := dk_190 (dk_at dksJ21_charAt_0 2 rfl rfl)
theorem dJ21_charAt_3 : decode cJ21_charAt 3 = .ok (.invokestatic 9, 3) := dk_184 0 9 (dk_at dksJ21_charAt_0 3 rfl rfl)
theorem dJ21_charAt_6 : decode cJ21_charAt 6 = .ok (.aload_n 0, 1) := dk_42 (dk_at dksJ21_charAt_0 6 rfl rfl)
theorem dJ21_charAt_7 : decode cJ21_charAt 7 = .ok (.iload_n 1, 1) := dk_27 (dk_at dksJ21_charAt_0 7 rfl rfl)
theorem dJ21_charAt_8 : decode cJ21_charAt 8 = .ok (.baload, 1) := dk_51 (dk_at dksJ21_charAt_0 8 rfl rfl)
theorem dJ21_charAt_9 : decode cJ21_charAt 9 = .ok (.sipush 255, 3) := dk_17 0 255 (dk_at dksJ21_charAt_0 9 rfl rfl)
theorem dJ21_charAt_12 : decode cJ21_charAt 12 = .ok (.iand, 1) := dk_126 (dk_at dksJ21_charAt_0 12 rfl rfl)
theorem dJ21_charAt_13 : decode cJ21_charAt 13 = .ok (.i2c, 1) := dk_146 (dk_at dksJ21_charAt_0 13 rfl rfl)
theorem dJ21_charAt_14 : decode cJ21_charAt 14 = .ok (.ireturn, 1) := dk_172 (dk_at dksJ21_charAt_0 14 rfl rfl)
abbrev cJ5_charAt : ByteArray := prog_39_method_56_code
def yJ5_charAt : MethodName := ⟨RJ5, "charAt", "(I)C"⟩
def dkwJ5_charAt_1 : List UInt8 := [172]
abbrev dktJ5_charAt_1 : List UInt8 := dkwJ5_charAt_1 ++ []
def dkwJ5_charAt_0 : List UInt8 := [42, 182, 1, 236, 153, 0, 12, 42, 180, 0, 9, 27, 184, 1, 239, 172, 42, 180, 0, 9, 27, 184, 1, 242]
abbrev dktJ5_charAt_0 : List UInt8 := dkwJ5_charAt_0 ++ dktJ5_charAt_1
theorem dksJ5_charAt_0 : cJ5_charAt.data.toList.drop 0 = dktJ5_charAt_0 := by decide +kernel
theorem dksJ5_charAt_1 : cJ5_charAt.data.toList.drop 24 = dktJ5_charAt_1 := dk_seg dksJ5_charAt_0 24 rfl rfl
theorem dJ5_charAt_0 : decode cJ5_charAt 0 = .ok (.aload_n 0, 1) := dk_42 (dk_at dksJ5_charAt_0 0 rfl rfl)
theorem dJ5_charAt_1 : decode cJ5_charAt 1 = .ok (.invokevirtual 492, 3) := dk_182 1 236 (dk_at dksJ5_charAt_0 1 rfl rfl)
theorem dJ5_charAt_4 : decode cJ5_charAt 4 = .ok (.ifCond .eq 12, 3) := dk_153 0 12 (dk_at dksJ5_charAt_0 4 rfl rfl)
theorem dJ5_charAt_7 : decode cJ5_charAt 7 = .ok (.aload_n 0, 1) := dk_42 (dk_at dksJ5_charAt_0 7 rfl rfl)
theorem dJ5_charAt_8 : decode cJ5_charAt 8 = .ok (.getfield 9, 3) := dk_180 0 9 (dk_at dksJ5_charAt_0 8 rfl rfl)
theorem dJ5_charAt_11 : decode cJ5_charAt 11 = .ok (.iload_n 1, 1) := dk_27 (dk_at dksJ5_charAt_0 11 rfl rfl)
theorem dJ5_charAt_12 : decode cJ5_charAt 12 = .ok (.invokestatic 495, 3) := dk_184 1 239 (dk_at dksJ5_charAt_0 12 rfl rfl)
theorem dJ5_charAt_15 : decode cJ5_charAt 15 = .ok (.ireturn, 1) := dk_172 (dk_at dksJ5_charAt_0 15 rfl rfl)
theorem dJ5_charAt_16 : decode cJ5_charAt 16 = .ok (.aload_n 0, 1) := dk_42 (dk_at dksJ5_charAt_0 16 rfl rfl)
theorem dJ5_charAt_17 : decode cJ5_charAt 17 = .ok (.getfield 9, 3) := dk_180 0 9 (dk_at dksJ5_charAt_0 17 rfl rfl)
theorem dJ5_charAt_20 : decode cJ5_charAt 20 = .ok (.iload_n 1, 1) := dk_27 (dk_at dksJ5_charAt_0 20 rfl rfl)
theorem dJ5_charAt_21 : decode cJ5_charAt 21 = .ok (.invokestatic 498, 3) := dk_184 1 242 (dk_at dksJ5_charAt_0 21 rfl rfl)
theorem dJ5_charAt_24 : decode cJ5_charAt 24 = .ok (.ireturn, 1) := dk_172 (dk_at dksJ5_charAt_1 0 rfl rfl)
abbrev cJ21_equals : ByteArray := prog_42_method_13_code
def yJ21_equals : MethodName := ⟨RJ21, "equals", "([B[B)Z"⟩
def dkwJ21_equals_1 : List UInt8 := [3, 172, 132, 2, 1, 167, 255, 236, 4, 172, 3, 172]
abbrev dktJ21_equals_1 : List UInt8 := dkwJ21_equals_1 ++ []
def dkwJ21_equals_0 : List UInt8 := [42, 190, 43, 190, 160, 0, 30, 3, 61, 28, 42, 190, 162, 0, 20, 42, 28, 51, 43, 28, 51, 159, 0, 5]
abbrev dktJ21_equals_0 : List UInt8 := dkwJ21_equals_0 ++ dktJ21_equals_1
theorem dksJ21_equals_0 : cJ21_equals.data.toList.drop 0 = dktJ21_equals_0 := by decide +kernel
theorem dksJ21_equals_1 : cJ21_equals.data.toList.drop 24 = dktJ21_equals_1 := dk_seg dksJ21_equals_0 24 rfl rfl
theorem dJ21_equals_0 : decode cJ21_equals 0 = .ok (.aload_n 0, 1) := dk_42 (dk_at dksJ21_equals_0 0 rfl rfl)
theorem dJ21_equals_1 : decode cJ21_equals 1 = .ok (.arraylength, 1) := dk_190 (dk_at dksJ21_equals_0 1 rfl rfl)
theorem dJ21_equals_2 : decode cJ21_equals 2 = .ok (.aload_n 1, 1) := dk_43 (dk_at dksJ21_equals_0 2 rfl rfl)
theorem dJ21_equals_3 : decode cJ21_equals 3 = .ok (.arraylength, 1) := dk_190 (dk_at dksJ21_equals_0 3 rfl rfl)
theorem dJ21_equals_4 : decode cJ21_equals 4 = .ok (.if_icmp .ne 30, 3) := dk_160 0 30 (dk_at dksJ21_equals_0 4 rfl rfl)
theorem dJ21_equals_7 : decode cJ21_equals 7 = .ok (.iconst 0, 1) := dk_3 (dk_at dksJ21_equals_0 7 rfl rfl)
theorem dJ21_equals_8 : decode cJ21_equals 8 = .ok (.istore_n 2, 1) := dk_61 (dk_at dksJ21_equals_0 8 rfl rfl)
theorem dJ21_equals_9 : decode cJ21_equals 9 = .ok (.iload_n 2, 1) := dk_28 (dk_at dksJ21_equals_0 9 rfl rfl)
theorem dJ21_equals_10 : decode cJ21_equals 10 = .ok (.aload_n 0, 1) := dk_42 (dk_at dksJ21_equals_0 10 rfl rfl)
theorem dJ21_equals_11 : decode cJ21_equals 11 = .ok (.arraylength, 1) := dk_190 (dk_at dksJ21_equals_0 11 rfl rfl)
theorem dJ21_equals_12 : decode cJ21_equals 12 = .ok (.if_icmp .ge 20, 3) := dk_162 0 20 (dk_at dksJ21_equals_0 12 rfl rfl)
theorem dJ21_equals_15 : decode cJ21_equals 15 = .ok (.aload_n 0, 1) := dk_42 (dk_at dksJ21_equals_0 15 rfl rfl)
theorem dJ21_equals_16 : decode cJ21_equals 16 = .ok (.iload_n 2, 1) := dk_28 (dk_at dksJ21_equals_0 16 rfl rfl)
theorem dJ21_equals_17 : decode cJ21_equals 17 = .ok (.baload, 1) := dk_51 (dk_at dksJ21_equals_0 17 rfl rfl)
theorem dJ21_equals_18 : decode cJ21_equals 18 = .ok (.aload_n 1, 1) := dk_43 (dk_at dksJ21_equals_0 18 rfl rfl)
theorem dJ21_equals_19 : decode cJ21_equals 19 = .ok (.iload_n 2, 1) := dk_28 (dk_at dksJ21_equals_0 19 rfl rfl)
theorem dJ21_equals_20 : decode cJ21_equals 20 = .ok (.baload, 1) := dk_51 (dk_at dksJ21_equals_0 20 rfl rfl)
theorem dJ21_equals_21 : decode cJ21_equals 21 = .ok (.if_icmp .eq 5, 3) := dk_159 0 5 (dk_at dksJ21_equals_0 21 rfl rfl)
theorem dJ21_equals_24 : decode cJ21_equals 24 = .ok (.iconst 0, 1) := dk_3 (dk_at dksJ21_equals_1 0 rfl rfl)
theorem dJ21_equals_25 : decode cJ21_equals 25 = .ok (.ireturn, 1) := dk_172 (dk_at dksJ21_equals_1 1 rfl rfl)
theorem dJ21_equals_26 : decode cJ21_equals 26 = .ok (.iinc 2 1, 3) := dk_132 2 1 (dk_at dksJ21_equals_1 2 rfl rfl)
theorem dJ21_equals_29 : decode cJ21_equals 29 = .ok (.goto (-20), 3) := dk_167 255 236 (dk_at dksJ21_equals_1 5 rfl rfl)
theorem dJ21_equals_32 : decode cJ21_equals 32 = .ok (.iconst 1, 1) := dk_4 (dk_at dksJ21_equals_1 8 rfl rfl)
theorem dJ21_equals_33 : decode cJ21_equals 33 = .ok (.ireturn, 1) := dk_172 (dk_at dksJ21_equals_1 9 rfl rfl)
theorem dJ21_equals_34 : decode cJ21_equals 34 = .ok (.iconst 0, 1) := dk_3 (dk_at dksJ21_equals_1 10 rfl rfl)
theorem dJ21_equals_35 : decode cJ21_equals 35 = .ok (.ireturn, 1) := dk_172 (dk_at dksJ21_equals_1 11 rfl rfl)
abbrev cJ5_equals : ByteArray := prog_39_method_66_code
def yJ5_equals : MethodName := ⟨RJ5, "equals", "(Ljava/lang/Object;)Z"⟩
def dkwJ5_equals_2 : List UInt8 := [184, 2, 29, 153, 0, 7, 4, 167, 0, 4, 3, 172]
abbrev dktJ5_equals_2 : List UInt8 := dkwJ5_equals_2 ++ []
def dkwJ5_equals_1 : List UInt8 := [153, 0, 14, 42, 180, 0, 15, 44, 180, 0, 15, 160, 0, 21, 42, 180, 0, 9, 44, 180, 0, 9]
abbrev dktJ5_equals_1 : List UInt8 := dkwJ5_equals_1 ++ dktJ5_equals_2
def dkwJ5_equals_0 : List UInt8 := [42, 43, 166, 0, 5, 4, 172, 43, 193, 0, 10, 153, 0, 43, 43, 192, 0, 10, 77, 178, 0, 38]
abbrev dktJ5_equals_0 : List UInt8 := dkwJ5_equals_0 ++ dktJ5_equals_1
theorem dksJ5_equals_0 : cJ5_equals.data.toList.drop 0 = dktJ5_equals_0 := by decide +kernel
theorem dksJ5_equals_1 : cJ5_equals.data.toList.drop 22 = dktJ5_equals_1 := dk_seg dksJ5_equals_0 22 rfl rfl
theorem dksJ5_equals_2 : cJ5_equals.data.toList.drop 44 = dktJ5_equals_2 := dk_seg dksJ5_equals_1 22 rfl rfl
theorem dJ5_equals_0 : decode cJ5_equals 0 = .ok (.aload_n 0, 1) := dk_42 (dk_at dksJ5_equals_0 0 rfl rfl)
theorem dJ5_equals_1 : decode cJ5_equals 1 = .ok (.aload_n 1, 1) := dk_43 (dk_at dksJ5_equals_0 1 rfl rfl)
theorem dJ5_equals_2 : decode cJ5_equals 2 = .ok (.if_acmp .ne 5, 3) := dk_166 0 5 (dk_at dksJ5_equals_0 2 rfl rfl)
theorem dJ5_equals_5 : decode cJ5_equals 5 = .ok (.iconst 1, 1) := dk_4 (dk_at dksJ5_equals_0 5 rfl rfl)
theorem dJ5_equals_6 : decode cJ5_equals 6 = .ok (.ireturn, 1) := dk_172 (dk_at dksJ5_equals_0 6 rfl rfl)
theorem dJ5_equals_7 : decode cJ5_equals 7 = .ok (.aload_n 1, 1) := dk_43 (dk_at dksJ5_equals_0 7 rfl rfl)
theorem dJ5_equals_8 : decode cJ5_equals 8 = .ok (.instanceof 10, 3) := dk_193 0 10 (dk_at dksJ5_equals_0 8 rfl rfl)
theorem dJ5_equals_11 : decode cJ5_equals 11 = .ok (.ifCond .eq 43, 3) := dk_153 0 43 (dk_at dksJ5_equals_0 11 rfl rfl)
theorem dJ5_equals_14 : decode cJ5_equals 14 = .ok (.aload_n 1, 1) := dk_43 (dk_at dksJ5_equals_0 14 rfl rfl)
theorem dJ5_equals_15 : decode cJ5_equals 15 = .ok (.checkcast 10, 3) := dk_192 0 10 (dk_at dksJ5_equals_0 15 rfl rfl)
theorem dJ5_equals_18 : decode cJ5_equals 18 = .ok (.astore_n 2, 1) := dk_77 (dk_at dksJ5_equals_0 18 rfl rfl)
theorem dJ5_equals_19 : decode cJ5_equals 19 = .ok (.getstatic 38, 3) := dk_178 0 38 (dk_at dksJ5_equals_0 19 rfl rfl)
theorem dJ5_equals_22 : decode cJ5_equals 22 = .ok (.ifCond .eq 14, 3) := dk_153 0 14 (dk_at dksJ5_equals_1 0 rfl rfl)
theorem dJ5_equals_25 : decode cJ5_equals 25 = .ok (.aload_n 0, 1) := dk_42 (dk_at dksJ5_equals_1 3 rfl rfl)
theorem dJ5_equals_26 : decode cJ5_equals 26 = .ok (.getfield 15, 3) := dk_180 0 15 (dk_at dksJ5_equals_1 4 rfl rfl)
theorem dJ5_equals_29 : decode cJ5_equals 29 = .ok (.aload_n 2, 1) := dk_44 (dk_at dksJ5_equals_1 7 rfl rfl)
theorem dJ5_equals_30 : decode cJ5_equals 30 = .ok (.getfield 15, 3) := dk_180 0 15 (dk_at dksJ5_equals_1 8 rfl rfl)
theorem dJ5_equals_33 : decode cJ5_equals 33 = .ok (.if_icmp .ne 21, 3) := dk_160 0 21 (dk_at dksJ5_equals_1 11 rfl rfl)
theorem dJ5_equals_36 : decode cJ5_equals 36 = .ok (.aload_n 0, 1) := dk_42 (dk_at dksJ5_equals_1 14 rfl rfl)
theorem dJ5_equals_37 : decode cJ5_equals 37 = .ok (.getfield 9, 3) := dk_180 0 9 (dk_at dksJ5_equals_1 15 rfl rfl)
theorem dJ5_equals_40 : decode cJ5_equals 40 = .ok (.aload_n 2, 1) := dk_44 (dk_at dksJ5_equals_1 18 rfl rfl)
theorem dJ5_equals_41 : decode cJ5_equals 41 = .ok (.getfield 9, 3) := dk_180 0 9 (dk_at dksJ5_equals_1 19 rfl rfl)
theorem dJ5_equals_44 : decode cJ5_equals 44 = .ok (.invokestatic 541, 3) := dk_184 2 29 (dk_at dksJ5_equals_2 0 rfl rfl)
theorem dJ5_equals_47 : decode cJ5_equals 47 = .ok (.ifCond .eq 7, 3) := dk_153 0 7 (dk_at dksJ5_equals_2 3 rfl rfl)
theorem dJ5_equals_50 : decode cJ5_equals 50 = .ok (.iconst 1, 1) := dk_4 (dk_at dksJ5_equals_2 6 rfl rfl)
theorem dJ5_equals_51 : decode cJ5_equals 51 = .ok (.goto 4, 3) := dk_167 0 4 (dk_at dksJ5_equals_2 7 rfl rfl)
theorem dJ5_equals_54 : decode cJ5_equals 54 = .ok (.iconst 0, 1) := dk_3 (dk_at dksJ5_equals_2 10 rfl rfl)
theorem dJ5_equals_55 : decode cJ5_equals 55 = .ok (.ireturn, 1) := dk_172 (dk_at dksJ5_equals_2 11 rfl rfl)
theorem q2643 : (Jvm.Cond.methodLink "java/lang/StringLatin1" (9 : Nat) ({ cls := "java/lang/String", name := "checkIndex", desc := "(II)V" } : Jvm.MethodName)) ∈ lw_all := lw_g (lw_at lw_m11 183 rfl) rfl
theorem q1624 : (Jvm.Cond.code ({ cls := "java/lang/String", name := "checkIndex", desc := "(II)V" } : Jvm.MethodName) prog_39_method_155_code (2 : Nat) (Option.none : Option Jvm.ClassFile.FieldType)) ∈ lw_all := lw_g (lw_at lw_m7 124 rfl) rfl
theorem q1623 : (Jvm.Cond.static ({ cls := "java/lang/String", name := "checkIndex", desc := "(II)V" } : Jvm.MethodName)) ∈ lw_all := lw_g (lw_at lw_m7 123 rfl) rfl
theorem q2053 : (Jvm.Cond.methodLink "java/lang/String" (492 : Nat) ({ cls := "java/lang/String", name := "isLatin1", desc := "()Z" } : Jvm.MethodName)) ∈ lw_all := lw_g (lw_at lw_m9 73 rfl) rfl
theorem q2056 : (Jvm.Cond.code ({ cls := "java/lang/String", name := "isLatin1", desc := "()Z" } : Jvm.MethodName) prog_39_method_154_code (1 : Nat) (Option.some Jvm.ClassFile.FieldType.boolean)) ∈ lw_all := lw_g (lw_at lw_m9 76 rfl) rfl
theorem q2054 : (Jvm.Cond.instanceMethod ({ cls := "java/lang/String", name := "isLatin1", desc := "()Z" } : Jvm.MethodName)) ∈ lw_all := lw_g (lw_at lw_m9 74 rfl) rfl
theorem q2055 : (Jvm.Cond.selects "java/lang/String" ({ cls := "java/lang/String", name := "isLatin1", desc := "()Z" } : Jvm.MethodName) ({ cls := "java/lang/String", name := "isLatin1", desc := "()Z" } : Jvm.MethodName)) ∈ lw_all := lw_g (lw_at lw_m9 75 rfl) rfl
theorem q2640 : (Jvm.Cond.methodLink "java/lang/String" (495 : Nat) ({ cls := "java/lang/StringLatin1", name := "charAt", desc := "([BI)C" } : Jvm.MethodName)) ∈ lw_all := lw_g (lw_at lw_m11 180 rfl) rfl
theorem q92 : (Jvm.Cond.initialized "java/lang/StringLatin1") ∈ lw_all := lw_g (lw_at lw_m1 32 rfl) rfl
theorem q2642 : (Jvm.Cond.code ({ cls := "java/lang/StringLatin1", name := "charAt", desc := "([BI)C" } : Jvm.MethodName) prog_42_method_2_code (2 : Nat) (Option.some Jvm.ClassFile.FieldType.char)) ∈ lw_all := lw_g (lw_at lw_m11 182 rfl) rfl
theorem q2641 : (Jvm.Cond.static ({ cls := "java/lang/StringLatin1", name := "charAt", desc := "([BI)C" } : Jvm.MethodName)) ∈ lw_all := lw_g (lw_at lw_m11 181 rfl) rfl
theorem q1824 : (Jvm.Cond.classLink "java/lang/String" (10 : Nat) "java/lang/String") ∈ lw_all := lw_g (lw_at lw_m8 84 rfl) rfl
theorem q1825 : (Jvm.Cond.methodLink "java/lang/String" (541 : Nat) ({ cls := "java/lang/StringLatin1", name := "equals", desc := "([B[B)Z" } : Jvm.MethodName)) ∈ lw_all := lw_g (lw_at lw_m8 85 rfl) rfl
theorem q1827 : (Jvm.Cond.code ({ cls := "java/lang/StringLatin1", name := "equals", desc := "([B[B)Z" } : Jvm.MethodName) prog_42_method_13_code (3 : Nat) (Option.some Jvm.ClassFile.FieldType.boolean)) ∈ lw_all := lw_g (lw_at lw_m8 87 rfl) rfl
theorem q1826 : (Jvm.Cond.static ({ cls := "java/lang/StringLatin1", name := "equals", desc := "([B[B)Z" } : Jvm.MethodName)) ∈ lw_all := lw_g (lw_at lw_m8 86 rfl) rfl
/-- bytes that are ASCII -/
def Asc (n : Nat) (f : Nat → Int32) : Prop := ∀ j, j < n → ∃ q, q < 128 ∧ f j = nI q
/-- equal bytes from j on -/
def eqL (f g : Nat → Int32) : Nat → Nat → Bool
  | 0, _ => true
  | m + 1, j => if f j = g j then eqL f g m (j + 1) else false
theorem eqL_t {f g : Nat → Int32} {m j : Nat} {F : Bool} (h : f j = g j) (z : eqL f g (m + 1) j = F) : eqL f g m (j + 1) = F := by
  rw [eqL, if_pos h] at z; exact z
theorem eqL_f {f g : Nat → Int32} {m j : Nat} {F : Bool} (h : ¬ f j = g j) (z : eqL f g (m + 1) j = F) : false = F := by
  rw [eqL, if_neg h] at z; exact z
def eqS (n1 : Nat) (f1 : Nat → Int32) (n2 : Nat) (f2 : Nat → Int32) : Bool := decide (n1 = n2) && eqL f1 f2 n1 0
theorem eqL_refl (f : Nat → Int32) : ∀ m j, eqL f f m j = true := by
  intro m
  induction m with
  | zero => intro j; rfl
  | succ m ih => intro j; rw [eqL, if_pos rfl]; exact ih _
/-- the first place of a byte -/
def ixL (f : Nat → Int32) (c : Int32) : Nat → Nat → Int32
  | 0, _ => -1
  | m + 1, j => if f j = c then nI j else ixL f c m (j + 1)
theorem ixL_t {f : Nat → Int32} {c F : Int32} {m j : Nat} (h : f j = c) (z : ixL f c (m + 1) j = F) : nI j = F := by
  rw [ixL, if_pos h] at z; exact z
theorem ixL_f {f : Nat → Int32} {c F : Int32} {m j : Nat} (h : ¬ f j = c) (z : ixL f c (m + 1) j = F) : ixL f c m (j + 1) = F := by
  rw [ixL, if_neg h] at z; exact z
/-- a hash -/
def haL (f : Nat → Int32) : Nat → Nat → Int32 → Int32
  | 0, _, v => v
  | m + 1, j, v => haL f m (j + 1) (31 * v + (f j &&& 255))
theorem and255 {q : Nat} (h : q < 256) : nI q &&& 255 = nI q := by
  rw [pk_andN (by omega) 8 rfl, Nat.mod_eq_of_lt h]
theorem i2bN {q : Nat} (h : q < 128) : (nI q).toInt8.toInt32 = nI q := by
  revert h; revert q
  decide +kernel
theorem l_charAt (l : Launch) (G : GE) (h : AH) (b n : Nat) (f : Nat → Int32) (r2 : Rd G h b (aB G n f)) (r3 : n < 1000) (i : Nat) (hi : i < n) (ha : Asc n f) : GM l G yJ21_charAt (ws_ yJ21_charAt cJ21_charAt 2 (some .char)) 3 [.ref b, .int (nI i)] (h) (0) (PV (.int (f i)) h) := by
  refine GM.of (by decide) (dk rfl) ?_
  intro X eL eG eh ok fn
  subst eL; subst eG
  show GW X _ 0 0 [some (.ref b), some (.int (nI i))] []
  obtain ⟨q, q1, q2⟩ := ha i hi
  refine g_iload_n ok dJ21_charAt_0 rfl ?_
  refine g_aload_n ok dJ21_charAt_1 rfl ?_
  refine g_alen ok dJ21_charAt_2 (r2) (gt_b _) ?_
  refine g_callS ok q2643 q1623 q73 q1624 dJ21_charAt_3 (s_checkIndex X.l X.G _ i n (by omega) (by omega)) (nm_ (by decide : nmb _ 2 = true)) (dl rfl) (dk rfl) rfl rfl (dk rfl) (by omega) (kN ?_) xN
  refine g_aload_n ok dJ21_charAt_6 rfl ?_
  refine g_iload_n ok dJ21_charAt_7 rfl ?_
  refine g_bald ok (j := i) dJ21_charAt_8 (r2) rfl (by omega) (by omega) ?_
  rw [q2]
  refine g_sipush ok (v := 255) dJ21_charAt_9 rfl ?_
  refine g_iand ok dJ21_charAt_12 ?_
  rw [and255 (by omega)]
  refine g_i2cN ok dJ21_charAt_13 (a := q) rfl (by omega) ?_
  exact g_zret ok fn rfl (pk_charN (by omega)).1 dJ21_charAt_14 ⟨by rw [q2], rfl⟩ (by omega)
theorem s_charAt (l : Launch) (G : GE) (h : AH) (a b n : Nat) (f : Nat → Int32) (y0 : StrA G h a b n f) (i : Nat) (hi : i < n) (ha : Asc n f) : GM l G yJ5_charAt (ws_ yJ5_charAt cJ5_charAt 2 (some .char)) 4 [.ref a, .int (nI i)] (h) (0) (PV (.int (f i)) h) := by
  refine GM.of (by decide) (dk rfl) ?_
  intro X eL eG eh ok fn
  subst eL; subst eG
  show GW X _ 0 0 [some (.ref a), some (.int (nI i))] []
  obtain ⟨⟨hsa, hza, r1a⟩, r2a, r3a⟩ := id y0
  refine g_aload_n ok dJ5_charAt_0 rfl ?_
  refine g_callV ok q2053 q2054 q2055 q73 q2056 (Recv.ob ok gc_J5 (r1a)) dJ5_charAt_1 (s_latin X.l X.G _ a b n f y0) (nm_ (by decide : nmb _ 0 = true)) (dl rfl) (dk rfl) rfl rfl (dk rfl) (by omega) (kV ?_) xV
  refine g_if_eq ok (tgt := 16) dJ5_charAt_4 (by decide) (fun c_ => absurd c_ (fun e_ => by have := (nI_eq (a := 1) (b := 0) (by omega) (by omega)).mp e_; omega)) (fun _ => ?_)
  refine g_aload_n ok dJ5_charAt_7 rfl ?_
  refine g_get ok ck_J5 0 q784 (Or.inl rfl) (by decide) dJ5_charAt_8 (r1a) rfl ?_
  refine g_iload_n ok dJ5_charAt_11 rfl ?_
  refine g_callS ok q2640 q2641 q92 q2642 dJ5_charAt_12 (l_charAt X.l X.G _ b n f (r2a) (by omega) i (by omega) (by assumption)) (nm_ (by decide : nmb _ 2 = true)) (dl rfl) (dk rfl) rfl rfl (dk rfl) (by omega) (kV ?_) xV
  obtain ⟨q, q1, q2⟩ := ha i hi
  exact g_zret ok fn rfl (by rw [q2]; exact (pk_charN (by omega)).1) dJ5_charAt_15 ⟨rfl, rfl⟩ (by omega)
theorem l_equals (l : Launch) (G : GE) (h : AH) (b n : Nat) (f : Nat → Int32) (r2 : Rd G h b (aB G n f)) (r3 : n < 1000) (c m : Nat) (g : Nat → Int32) (s2 : Rd G h c (aB G m g)) (s3 : m < 1000) : GM l G yJ21_equals (ws_ yJ21_equals cJ21_equals 3 (some .boolean)) 1 [.ref b, .ref c] (h) (0) (PV (.int (bI (eqS n f m g))) h) := by
  refine GM.of (by decide) (dk rfl) ?_
  intro X eL eG eh ok fn
  subst eL; subst eG
  show GW X _ 0 0 [some (.ref b), some (.ref c), none] []
  refine g_aload_n ok dJ21_equals_0 rfl ?_
  refine g_alen ok dJ21_equals_1 (r2) (gt_b _) ?_
  refine g_aload_n ok dJ21_equals_2 rfl ?_
  refine g_alen ok dJ21_equals_3 (s2) (gt_b _) ?_
  by_cases hnm : n = m
  · subst hnm
    refine g_icmp_ne ok (tgt := 34) dJ21_equals_4 (by decide) (fun c_ => absurd (congrArg nI (by omega : n = n)) c_) (fun _ => ?_)
    obtain ⟨F, hF⟩ : ∃ F : Bool, eqL f g n 0 = F := ⟨_, rfl⟩
    have e0 : eqS n f n g = F := by unfold eqS; rw [hF, decide_eq_true rfl]; rfl
    rw [e0] at fn
    refine g_iconst ok (v := 0) dJ21_equals_7 rfl ?_
    refine g_istore_n ok dJ21_equals_8 (ls1 := [some (.ref b), some (.ref c), some (.int 0)]) (dl rfl) rfl ?_
    have lp : ∀ (k : Nat) (j : Nat), (j + k = n) → (eqL f g k j = F) → GW X h 0 9 [some (.ref b), some (.ref c), some (.int (nI j))] [] := by
      intro k
      induction k with
      | zero =>
        intro j g0 g1
        refine g_iload_n ok dJ21_equals_9 rfl ?_
        refine g_aload_n ok dJ21_equals_10 rfl ?_
        refine g_alen ok dJ21_equals_11 (r2) (gt_b _) ?_
        refine g_icmp_ge ok (tgt := 32) dJ21_equals_12 (by decide) (fun _ => ?_) (fun c_ => absurd (nI_le (a := n) (b := j) (by omega) (by omega)) c_)
        have g1 : true = F := g1
        subst g1
        refine g_iconst ok (v := 1) dJ21_equals_32 rfl ?_
        exact g_zret ok fn rfl rfl dJ21_equals_33 (pv_h rfl) (by omega)
      | succ k ih =>
        intro j g0 g1
        refine g_iload_n ok dJ21_equals_9 rfl ?_
        refine g_aload_n ok dJ21_equals_10 rfl ?_
        refine g_alen ok dJ21_equals_11 (r2) (gt_b _) ?_
        refine g_icmp_ge ok (tgt := 32) dJ21_equals_12 (by decide) (fun c_ => absurd c_ (nI_ge (a := j) (b := n) (by omega) (by omega))) (fun _ => ?_)
        refine g_aload_n ok dJ21_equals_15 rfl ?_
        refine g_iload_n ok dJ21_equals_16 rfl ?_
        refine g_bald ok (j := j) dJ21_equals_17 (r2) rfl (by omega) (by omega) ?_
        refine g_aload_n ok dJ21_equals_18 rfl ?_
        refine g_iload_n ok dJ21_equals_19 rfl ?_
        refine g_bald ok (j := j) dJ21_equals_20 (s2) rfl (by omega) (by omega) ?_
        refine g_icmp_eq ok (tgt := 26) dJ21_equals_21 (by decide) (fun c21 => ?_) (fun c21 => ?_)
        · refine g_iincN ok dJ21_equals_26 (c := j) rfl rfl (ls1 := [some (.ref b), some (.ref c), some (.int (nI (j + 1)))]) rfl ?_
          refine g_goto ok dJ21_equals_29 (tgt := 9) (by decide) ?_
          exact ih _ (by omega) (eqL_t c21 g1)
        · refine g_iconst ok (v := 0) dJ21_equals_24 rfl ?_
          have g1 := eqL_f c21 g1
          subst g1
          exact g_zret ok fn rfl rfl dJ21_equals_25 (pv_h rfl) (by omega)
    exact lp n 0 (by omega) hF
  · refine g_icmp_ne ok (tgt := 34) dJ21_equals_4 (by decide) (fun _ => ?_) (fun c_ => absurd c_ (fun e_ => by have := (nI_eq (a := n) (b := m) (by omega) (by omega)).mp e_; omega))
    refine g_iconst ok (v := 0) dJ21_equals_34 rfl ?_
    exact g_zret ok fn rfl rfl dJ21_equals_35 (pv_h (by unfold eqS; rw [decide_eq_false hnm]; rfl)) (by omega)
theorem s_equals (l : Launch) (G : GE) (h : AH) (a b n : Nat) (f : Nat → Int32) (y0 : StrA G h a b n f) (c d m : Nat) (g : Nat → Int32) (y1 : StrA G h c d m g) : GM l G yJ5_equals (ws_ yJ5_equals cJ5_equals 3 (some .boolean)) 3 [.ref a, .ref c] (h) (0) (PV (.int (bI (eqS n f m g))) h) := by
  refine GM.of (by decide) (dk rfl) ?_
  intro X eL eG eh ok fn
  subst eL; subst eG
  show GW X _ 0 0 [some (.ref a), some (.ref c), none] []
  obtain ⟨⟨hsa, hza, r1a⟩, r2a, r3a⟩ := id y0
  obtain ⟨⟨hsc, hzc, r1c⟩, r2c, r3c⟩ := id y1
  refine g_aload_n ok dJ5_equals_0 rfl ?_
  refine g_aload_n ok dJ5_equals_1 rfl ?_
  refine g_acmp_ne ok (rx := some a) (ry := some c) (tgt := 7) dJ5_equals_2 (by decide) (fun c2 => ?_) (fun c2 => ?_)
  · refine g_aload_n ok dJ5_equals_7 rfl ?_
    refine g_instE ok q1824 dJ5_equals_8 (Recv.ob ok gc_J5 r1c) ?_
    refine g_if_eq ok (tgt := 54) dJ5_equals_11 (by decide) (fun c_ => absurd c_ (fun e_ => by have := (nI_eq (a := 1) (b := 0) (by omega) (by omega)).mp e_; omega)) (fun _ => ?_)
    refine g_aload_n ok dJ5_equals_14 rfl ?_
    refine g_castE ok q1824 dJ5_equals_15 (Recv.ob ok gc_J5 r1c) ?_
    refine g_astore_n ok dJ5_equals_18 (ls1 := [some (.ref a), some (.ref c), some (.ref c)]) (dl rfl) rfl ?_
    refine g_gets ok (C := "java/lang/String") (n := "COMPACT_STRINGS") (d := "Z") (v := .int 1) (by simp [gzs]) q636 dJ5_equals_19 ?_
    refine g_if_eq ok (tgt := 36) dJ5_equals_22 (by decide) (fun c_ => absurd c_ (fun e_ => by have := (nI_eq (a := 1) (b := 0) (by omega) (by omega)).mp e_; omega)) (fun _ => ?_)
    refine g_aload_n ok dJ5_equals_25 rfl ?_
    refine g_get ok ck_J5 1 q785 (Or.inl rfl) (by decide) dJ5_equals_26 (r1a) rfl ?_
    refine g_aload_n ok dJ5_equals_29 rfl ?_
    refine g_get ok ck_J5 1 q785 (Or.inl rfl) (by decide) dJ5_equals_30 (r1c) rfl ?_
    refine g_icmp_ne ok (tgt := 54) dJ5_equals_33 (by decide) (fun c_ => absurd (congrArg nI (by omega : 0 = 0)) c_) (fun _ => ?_)
    refine g_aload_n ok dJ5_equals_36 rfl ?_
    refine g_get ok ck_J5 0 q784 (Or.inl rfl) (by decide) dJ5_equals_37 (r1a) rfl ?_
    refine g_aload_n ok dJ5_equals_40 rfl ?_
    refine g_get ok ck_J5 0 q784 (Or.inl rfl) (by decide) dJ5_equals_41 (r1c) rfl ?_
    refine g_callS ok q1825 q1826 q92 q1827 dJ5_equals_44 (l_equals X.l X.G _ b n f (r2a) (by omega) d m g (r2c) (by omega)) (nm_ (by decide : nmb _ 2 = true)) (dl rfl) (dk rfl) rfl rfl (dk rfl) (by omega) (kV ?_) xV
    refine g_if_eq ok (tgt := 54) dJ5_equals_47 (by decide) (fun c47 => ?_) (fun c47 => ?_)
    · have c47' := bI_e c47
      refine g_iconst ok (v := 0) dJ5_equals_54 rfl ?_
      exact g_zret ok fn rfl rfl dJ5_equals_55 (pv_h (by have z_ := c47'; rw [z_]; rfl)) (by omega)
    · have c47' := bI_n c47
      refine g_iconst ok (v := 1) dJ5_equals_50 rfl ?_
      refine g_goto ok dJ5_equals_51 (tgt := 55) (by decide) ?_
      exact g_zret ok fn rfl rfl dJ5_equals_55 (pv_h (by have z_ := c47'; rw [z_]; rfl)) (by omega)
  · cases c2
    refine g_rdeq r1a r1c fun e1 => ?_
    cases e1
    refine g_rdeq r2a r2c fun e2 => ?_
    have e3 : n = m := by have := congrArg (fun z : va_E => match z with | .inl q => q.2.1 | .inr _ => 0) e2; exact this
    subst e3
    have e4 : f = g := by cases e2; rfl
    subst e4
    refine g_iconst ok (v := 1) dJ5_equals_5 rfl ?_
    exact g_zret ok fn rfl rfl dJ5_equals_6 (pv_h (by unfold eqS; rw [decide_eq_true rfl, eqL_refl]; rfl)) (by omega)
