/-! the tree: hands, joins -/
set_option maxRecDepth 100000
abbrev cX6_hands : ByteArray := prog_4_method_4_code
def yX6_hands : MethodName := ⟨RX6, "hands", "()V"⟩
def dkwX6_hands_1 : List UInt8 := [180, 0, 20, 42, 180, 0, 10, 182, 0, 55, 42, 187, 0, 7, 89, 4, 3, 183, 0, 9, 181, 0, 10, 177]
abbrev dktX6_hands_1 : List UInt8 := dkwX6_hands_1 ++ []
def dkwX6_hands_0 : List UInt8 := [42, 180, 0, 10, 182, 0, 51, 154, 0, 38, 42, 180, 0, 16, 42, 180, 0, 10, 182, 0, 55, 42]
abbrev dktX6_hands_0 : List UInt8 := dkwX6_hands_0 ++ dktX6_hands_1
theorem dksX6_hands_0 : cX6_hands.data.toList.drop 0 = dktX6_hands_0 := by decide +kernel
theorem dksX6_hands_1 : cX6_hands.data.toList.drop 22 = dktX6_hands_1 := dk_seg dksX6_hands_0 22 rfl rfl
theorem dX6_hands_0 : decode cX6_hands 0 = .ok (.aload_n 0, 1) := dk_42 (dk_at dksX6_hands_0 0 rfl rfl)
theorem dX6_hands_1 : decode cX6_hands 1 = .ok (.getfield 10, 3) := dk_180 0 10 (dk_at dksX6_hands_0 1 rfl rfl)
theorem dX6_hands_4 : decode cX6_hands 4 = .ok (.invokevirtual 51, 3) := dk_182 0 51 (dk_at dksX6_hands_0 4 rfl rfl)
theorem dX6_hands_7 : decode cX6_hands 7 = .ok (.ifCond .ne 38, 3) := dk_154 0 38 (dk_at dksX6_hands_0 7 rfl rfl)
theorem dX6_hands_10 : decode cX6_hands 10 = .ok (.aload_n 0, 1) := dk_42 (dk_at dksX6_hands_0 10 rfl rfl)
theorem dX6_hands_11 : decode cX6_hands 11 = .ok (.getfield 16, 3) := dk_180 0 16 (dk_at dksX6_hands_0 11 rfl rfl)
theorem dX6_hands_14 : decode cX6_hands 14 = .ok (.aload_n 0, 1) := dk_42 (dk_at dksX6_hands_0 14 rfl rfl)
theorem dX6_hands_15 : decode cX6_hands 15 = .ok (.getfield 10, 3) := dk_180 0 10 (dk_at dksX6_hands_0 15 rfl rfl)
theorem dX6_hands_18 : decode cX6_hands 18 = .ok (.invokevirtual 55, 3) := dk_182 0 55 (dk_at dksX6_hands_0 18 rfl rfl)
theorem dX6_hands_21 : decode cX6_hands 21 = .ok (.aload_n 0, 1) := dk_42 (dk_at dksX6_hands_0 21 rfl rfl)
theorem dX6_hands_22 : decode cX6_hands 22 = .ok (.getfield 20, 3) := dk_180 0 20 (dk_at dksX6_hands_1 0 rfl rfl)
theorem dX6_hands_25 : decode cX6_hands 25 = .ok (.aload_n 0, 1) := dk_42 (dk_at dksX6_hands_1 3 rfl rfl)
theorem dX6_hands_26 : decode cX6_hands 26 = .ok (.getfield 10, 3) := dk_180 0 10 (dk_at dksX6_hands_1 4 rfl rfl)
theorem dX6_hands_29 : decode cX6_hands 29 = .ok (.invokevirtual 55, 3) := dk_182 0 55 (dk_at dksX6_hands_1 7 rfl rfl)
theorem dX6_hands_32 : decode cX6_hands 32 = .ok (.aload_n 0, 1) := dk_42 (dk_at dksX6_hands_1 10 rfl rfl)
theorem dX6_hands_33 : decode cX6_hands 33 = .ok (.new 7, 3) := dk_187 0 7 (dk_at dksX6_hands_1 11 rfl rfl)
theorem dX6_hands_36 : decode cX6_hands 36 = .ok (.dup, 1) := dk_89 (dk_at dksX6_hands_1 14 rfl rfl)
theorem dX6_hands_37 : decode cX6_hands 37 = .ok (.iconst 1, 1) := dk_4 (dk_at dksX6_hands_1 15 rfl rfl)
theorem dX6_hands_38 : decode cX6_hands 38 = .ok (.iconst 0, 1) := dk_3 (dk_at dksX6_hands_1 16 rfl rfl)
theorem dX6_hands_39 : decode cX6_hands 39 = .ok (.invokespecial 9, 3) := dk_183 0 9 (dk_at dksX6_hands_1 17 rfl rfl)
theorem dX6_hands_42 : decode cX6_hands 42 = .ok (.putfield 10, 3) := dk_181 0 10 (dk_at dksX6_hands_1 20 rfl rfl)
theorem dX6_hands_45 : decode cX6_hands 45 = .ok (.return_, 1) := dk_177 (dk_at dksX6_hands_1 23 rfl rfl)
abbrev cX6_left : ByteArray := prog_4_method_5_code
def yX6_left : MethodName := ⟨RX6, "left", "()LSpanRuler$Node;"⟩
theorem dX6_left_0 : decode cX6_left 0 = .ok (.aload_n 0, 1) := by decide +kernel
theorem dX6_left_1 : decode cX6_left 1 = .ok (.getfield 16, 3) := by decide +kernel
theorem dX6_left_4 : decode cX6_left 4 = .ok (.areturn, 1) := by decide +kernel
abbrev cX6_right : ByteArray := prog_4_method_6_code
def yX6_right : MethodName := ⟨RX6, "right", "()LSpanRuler$Node;"⟩
theorem dX6_right_0 : decode cX6_right 0 = .ok (.aload_n 0, 1) := by decide +kernel
theorem dX6_right_1 : decode cX6_right 1 = .ok (.getfield 20, 3) := by decide +kernel
theorem dX6_right_4 : decode cX6_right 4 = .ok (.areturn, 1) := by decide +kernel
abbrev cX6_joins : ByteArray := prog_4_method_7_code
def yX6_joins : MethodName := ⟨RX6, "joins", "()V"⟩
def dkwX6_joins_2 : List UInt8 := [42, 180, 0, 20, 180, 0, 70, 184, 0, 73, 181, 0, 76, 177]
abbrev dktX6_joins_2 : List UInt8 := dkwX6_joins_2 ++ []
def dkwX6_joins_1 : List UInt8 := [180, 0, 60, 42, 180, 0, 20, 180, 0, 60, 184, 0, 63, 181, 0, 69, 42, 42, 180, 0, 16, 180, 0, 70]
abbrev dktX6_joins_1 : List UInt8 := dkwX6_joins_1 ++ dktX6_joins_2
def dkwX6_joins_0 : List UInt8 := [42, 42, 180, 0, 16, 180, 0, 56, 42, 180, 0, 20, 180, 0, 56, 96, 181, 0, 59, 42, 42, 180, 0, 16]
abbrev dktX6_joins_0 : List UInt8 := dkwX6_joins_0 ++ dktX6_joins_1
theorem dksX6_joins_0 : cX6_joins.data.toList.drop 0 = dktX6_joins_0 := by decide +kernel
theorem dksX6_joins_1 : cX6_joins.data.toList.drop 24 = dktX6_joins_1 := dk_seg dksX6_joins_0 24 rfl rfl
theorem dksX6_joins_2 : cX6_joins.data.toList.drop 48 = dktX6_joins_2 := dk_seg dksX6_joins_1 24 rfl rfl
theorem dX6_joins_0 : decode cX6_joins 0 = .ok (.aload_n 0, 1) := dk_42 (dk_at dksX6_joins_0 0 rfl rfl)
theorem dX6_joins_1 : decode cX6_joins 1 = .ok (.aload_n 0, 1) := dk_42 (dk_at dksX6_joins_0 1 rfl rfl)
theorem dX6_joins_2 : decode cX6_joins 2 = .ok (.getfield 16, 3) := dk_180 0 16 (dk_at dksX6_joins_0 2 rfl rfl)
theorem dX6_joins_5 : decode cX6_joins 5 = .ok (.getfield 56, 3) := dk_180 0 56 (dk_at dksX6_joins_0 5 rfl rfl)
theorem dX6_joins_8 : decode cX6_joins 8 = .ok (.aload_n 0, 1) := dk_42 (dk_at dksX6_joins_0 8 rfl rfl)
theorem dX6_joins_9 : decode cX6_joins 9 = .ok (.getfield 20, 3) := dk_180 0 20 (dk_at dksX6_joins_0 9 rfl rfl)
theorem dX6_joins_12 : decode cX6_joins 12 = .ok (.getfield 56, 3) := dk_180 0 56 (dk_at dksX6_joins_0 12 rfl rfl)
theorem dX6_joins_15 : decode cX6_joins 15 = .ok (.iadd, 1) := dk_96 (dk_at dksX6_joins_0 15 rfl rfl)
theorem dX6_joins_16 : decode cX6_joins 16 = .ok (.putfield 59, 3) := dk_181 0 59 (dk_at dksX6_joins_0 16 rfl rfl)
theorem dX6_joins_19 : decode cX6_joins 19 = .ok (.aload_n 0, 1) := dk_42 (dk_at dksX6_joins_0 19 rfl rfl)
theorem dX6_joins_20 : decode cX6_joins 20 = .ok (.aload_n 0, 1) := dk_42 (dk_at dksX6_joins_0 20 rfl rfl)
theorem dX6_joins_21 : decode cX6_joins 21 = .ok (.getfield 16, 3) := dk_180 0 16 (dk_at dksX6_joins_0 21 rfl rfl)
theorem dX6_joins_24 : decode cX6_joins 24 = .ok (.getfield 60, 3) := dk_180 0 60 (dk_at dksX6_joins_1 0 rfl rfl)
theorem dX6_joins_27 : decode cX6_joins 27 = .ok (.aload_n 0, 1) := dk_42 (dk_at dksX6_joins_1 3 rfl rfl)
theorem dX6_joins_28 : decode cX6_joins 28 = .ok (.getfield 20, 3) := dk_180 0 20 (dk_at dksX6_joins_1 4 rfl rfl)
theorem dX6_joins_31 : decode cX6_joins 31 = .ok (.getfield 60, 3) := dk_180 0 60 (dk_at dksX6_joins_1 7 rfl rfl)
theorem dX6_joins_34 : decode cX6_joins 34 = .ok (.invokestatic 63, 3) := dk_184 0 63 (dk_at dksX6_joins_1 10 rfl rfl)
theorem dX6_joins_37 : decode cX6_joins 37 = .ok (.putfield 69, 3) := dk_181 0 69 (dk_at dksX6_joins_1 13 rfl rfl)
theorem dX6_joins_40 : decode cX6_joins 40 = .ok (.aload_n 0, 1) := dk_42 (dk_at dksX6_joins_1 16 rfl rfl)
theorem dX6_joins_41 : decode cX6_joins 41 = .ok (.aload_n 0, 1) := dk_42 (dk_at dksX6_joins_1 17 rfl rfl)
theorem dX6_joins_42 : decode cX6_joins 42 = .ok (.getfield 16, 3) := dk_180 0 16 (dk_at dksX6_joins_1 18 rfl rfl)
theorem dX6_joins_45 : decode cX6_joins 45 = .ok (.getfield 70, 3) := dk_180 0 70 (dk_at dksX6_joins_1 21 rfl rfl)
theorem dX6_joins_48 : decode cX6_joins 48 = .ok (.aload_n 0, 1) := dk_42 (dk_at dksX6_joins_2 0 rfl rfl)
theorem dX6_joins_49 : decode cX6_joins 49 = .ok (.getfield 20, 3) := dk_180 0 20 (dk_at dksX6_joins_2 1 rfl rfl)
theorem dX6_joins_52 : decode cX6_joins 52 = .ok (.getfield 70, 3) := dk_180 0 70 (dk_at dksX6_joins_2 4 rfl rfl)
theorem dX6_joins_55 : decode cX6_joins 55 = .ok (.invokestatic 73, 3) := dk_184 0 73 (dk_at dksX6_joins_2 7 rfl rfl)
theorem dX6_joins_58 : decode cX6_joins 58 = .ok (.putfield 76, 3) := dk_181 0 76 (dk_at dksX6_joins_2 10 rfl rfl)
theorem dX6_joins_61 : decode cX6_joins 61 = .ok (.return_, 1) := dk_177 (dk_at dksX6_joins_2 13 rfl rfl)
theorem q938 : (Jvm.Cond.methodLink "SpanRuler$Branch" (51 : Nat) ({ cls := "SpanRuler$Act", name := "isNothing", desc := "()Z" } : Jvm.MethodName)) ∈ lw_all := lw_g (lw_at lw_m4 158 rfl) rfl
theorem q941 : (Jvm.Cond.code ({ cls := "SpanRuler$Act", name := "isNothing", desc := "()Z" } : Jvm.MethodName) prog_2_method_6_code (1 : Nat) (Option.some Jvm.ClassFile.FieldType.boolean)) ∈ lw_all := lw_g (lw_at lw_m4 161 rfl) rfl
theorem q939 : (Jvm.Cond.instanceMethod ({ cls := "SpanRuler$Act", name := "isNothing", desc := "()Z" } : Jvm.MethodName)) ∈ lw_all := lw_g (lw_at lw_m4 159 rfl) rfl
theorem q940 : (Jvm.Cond.selects "SpanRuler$Act" ({ cls := "SpanRuler$Act", name := "isNothing", desc := "()Z" } : Jvm.MethodName) ({ cls := "SpanRuler$Act", name := "isNothing", desc := "()Z" } : Jvm.MethodName)) ∈ lw_all := lw_g (lw_at lw_m4 160 rfl) rfl
theorem q198 : (Jvm.Cond.fieldLink "SpanRuler$Branch" (16 : Nat) "SpanRuler$Branch" "left" "LSpanRuler$Node;") ∈ lw_all := lw_g (lw_at lw_m1 138 rfl) rfl
theorem q950 : (Jvm.Cond.declares ({ cls := "SpanRuler$Node", name := "takes", desc := "(LSpanRuler$Act;)V" } : Jvm.MethodName)) ∈ lw_tbl := lw_at lw_m4 170 rfl
theorem q942 : (Jvm.Cond.methodLink "SpanRuler$Branch" (55 : Nat) ({ cls := "SpanRuler$Node", name := "takes", desc := "(LSpanRuler$Act;)V" } : Jvm.MethodName)) ∈ lw_all := lw_g (lw_at lw_m4 162 rfl) rfl
theorem q944 : (Jvm.Cond.sameMethod "SpanRuler$Node" "SpanRuler$Node" "takes" "(LSpanRuler$Act;)V") ∈ lw_all := lw_g (lw_at lw_m4 164 rfl) rfl
theorem q971 : (Jvm.Cond.selects "SpanRuler$Leaf" ({ cls := "SpanRuler$Node", name := "takes", desc := "(LSpanRuler$Act;)V" } : Jvm.MethodName) ({ cls := "SpanRuler$Node", name := "takes", desc := "(LSpanRuler$Act;)V" } : Jvm.MethodName)) ∈ lw_all := lw_g (lw_at lw_m4 191 rfl) rfl
theorem q199 : (Jvm.Cond.fieldLink "SpanRuler$Branch" (20 : Nat) "SpanRuler$Branch" "right" "LSpanRuler$Node;") ∈ lw_all := lw_g (lw_at lw_m1 139 rfl) rfl
theorem q185 : (Jvm.Cond.classLink "SpanRuler$Branch" (7 : Nat) "SpanRuler$Act") ∈ lw_all := lw_g (lw_at lw_m1 125 rfl) rfl
theorem q187 : (Jvm.Cond.methodLink "SpanRuler$Branch" (9 : Nat) ({ cls := "SpanRuler$Act", name := "<init>", desc := "(II)V" } : Jvm.MethodName)) ∈ lw_all := lw_g (lw_at lw_m1 127 rfl) rfl
theorem q66 : (Jvm.Cond.initialized "SpanRuler$Branch") ∈ lw_all := lw_g (lw_at lw_m1 6 rfl) rfl
theorem q947 : (Jvm.Cond.code ({ cls := "SpanRuler$Branch", name := "takes", desc := "(LSpanRuler$Act;)V" } : Jvm.MethodName) prog_4_method_3_code (2 : Nat) (Option.none : Option Jvm.ClassFile.FieldType)) ∈ lw_all := lw_g (lw_at lw_m4 167 rfl) rfl
theorem q946 : (Jvm.Cond.instanceMethod ({ cls := "SpanRuler$Branch", name := "takes", desc := "(LSpanRuler$Act;)V" } : Jvm.MethodName)) ∈ lw_all := lw_g (lw_at lw_m4 166 rfl) rfl
theorem q945 : (Jvm.Cond.selects "SpanRuler$Branch" ({ cls := "SpanRuler$Node", name := "takes", desc := "(LSpanRuler$Act;)V" } : Jvm.MethodName) ({ cls := "SpanRuler$Branch", name := "takes", desc := "(LSpanRuler$Act;)V" } : Jvm.MethodName)) ∈ lw_all := lw_g (lw_at lw_m4 165 rfl) rfl
theorem q150 : (Jvm.Cond.fieldLink "SpanRuler$Branch" (56 : Nat) "SpanRuler$Node" "sum" "I") ∈ lw_all := lw_g (lw_at lw_m1 90 rfl) rfl
theorem q152 : (Jvm.Cond.sameField "SpanRuler$Branch" "SpanRuler$Node" "sum" "I") ∈ lw_all := lw_g (lw_at lw_m1 92 rfl) rfl
theorem q151 : (Jvm.Cond.fieldLink "SpanRuler$Branch" (59 : Nat) "SpanRuler$Branch" "sum" "I") ∈ lw_all := lw_g (lw_at lw_m1 91 rfl) rfl
theorem q155 : (Jvm.Cond.fieldLink "SpanRuler$Branch" (60 : Nat) "SpanRuler$Node" "greatest" "I") ∈ lw_all := lw_g (lw_at lw_m1 95 rfl) rfl
theorem q1111 : (Jvm.Cond.methodLink "SpanRuler$Branch" (63 : Nat) ({ cls := "java/lang/Math", name := "max", desc := "(II)I" } : Jvm.MethodName)) ∈ lw_all := lw_g (lw_at lw_m5 91 rfl) rfl
theorem q157 : (Jvm.Cond.sameField "SpanRuler$Branch" "SpanRuler$Node" "greatest" "I") ∈ lw_all := lw_g (lw_at lw_m1 97 rfl) rfl
theorem q156 : (Jvm.Cond.fieldLink "SpanRuler$Branch" (69 : Nat) "SpanRuler$Branch" "greatest" "I") ∈ lw_all := lw_g (lw_at lw_m1 96 rfl) rfl
theorem q160 : (Jvm.Cond.fieldLink "SpanRuler$Branch" (70 : Nat) "SpanRuler$Node" "least" "I") ∈ lw_all := lw_g (lw_at lw_m1 100 rfl) rfl
theorem q1112 : (Jvm.Cond.methodLink "SpanRuler$Branch" (73 : Nat) ({ cls := "java/lang/Math", name := "min", desc := "(II)I" } : Jvm.MethodName)) ∈ lw_all := lw_g (lw_at lw_m5 92 rfl) rfl
theorem q162 : (Jvm.Cond.sameField "SpanRuler$Branch" "SpanRuler$Node" "least" "I") ∈ lw_all := lw_g (lw_at lw_m1 102 rfl) rfl
theorem q161 : (Jvm.Cond.fieldLink "SpanRuler$Branch" (76 : Nat) "SpanRuler$Branch" "least" "I") ∈ lw_all := lw_g (lw_at lw_m1 101 rfl) rfl
theorem t_takes0 (l : Launch) (G : GE) {h : AH} {P : Nat → Prop} {v : Nat → Int32} {lo a u : Nat} {f x : Int32} (T : TreeAt h P 0 v lo a) (ru : h u = some (ob 4 [.int f, .int x])) (hf : fac f) (hr : ∀ c, lo ≤ c → c < lo + sz 0 → rg (f * v c + x)) (h32 : lo + sz 0 ≤ 32) :
    GM l G yX3_takes (ws_ yX3_takes cX3_takes 3 none) 2 [.ref a, .ref u] h 0 (PQ fun h' => TreeAt h' P 0 (fun c => f * v c + x) lo a ∧ Chg P lo (sz 0) h h') := by
  have h32' : lo < 32 := by simp only [sz] at h32; omega
  have nua : u ≠ a := fun z => by subst z; rw [T.2.2] at ru; cases ru
  refine (x_ntakesX4 l G h a lo lo (v lo) (v lo) (v lo) u f x T.2.2 (Rd.h ru) nua).post fun o h' e => ⟨e.1, ?_⟩
  rw [e.2]
  have e1 : f * v lo + x * (nI lo - nI lo + 1) = f * v lo + x := by rw [Int32.sub_self, Int32.zero_add, Int32.mul_one]
  refine ⟨⟨T.1, hr lo (Nat.le_refl _) (by simp only [sz]; omega), ?_⟩, Chg.put T.2.2 T.1 ⟨2, lo, lo, _, rfl, Or.inl rfl, Nat.le_refl _, Nat.le_refl _, by simp only [sz]; omega, h32'⟩⟩
  rw [up_self, e1, ite_self]
theorem nI_span {lo n : Nat} (h : 0 < n) : nI (lo + n - 1) - nI lo + 1 = nI n := by
  rw [pk_sub (by omega), nI_1]
  congr 1; omega
theorem t_takesB (l : Launch) (G : GE) {h : AH} {P : Nat → Prop} {d : Nat} {v : Nat → Int32} {lo a u : Nat} {f x : Int32} (T : TreeAt h P (d + 1) v lo a) (ru : h u = some (ob 4 [.int f, .int x])) (hf : fac f) (hr : ∀ c, lo ≤ c → c < lo + sz (d + 1) → rg (f * v c + x)) (h32 : lo + sz (d + 1) ≤ 32) :
    GM l G yX6_takes (ws_ yX6_takes cX6_takes 2 none) 3 [.ref a, .ref u] h 3 (PQ fun h' => TreeAt h' P (d + 1) (fun c => f * v c + x) lo a ∧ Chg P lo (sz (d + 1)) h h') := by
  obtain ⟨cl, cr, ct, f0, x0, g, m, w, ⟨n1, n2, n3, n4, n5, n6, n7, n8⟩, tl, tr⟩ := TreeAt.opn (d := d) T
  have es : sz (d + 1) = sz d + sz d := rfl
  have sp := sz_pos d
  rw [es] at hr h32 ⊢
  refine (x_btakes l G h a lo (lo + (sz d + sz d) - 1) (tsum v (sz d + sz d) lo) g m cl cr ct u f x f0 x0 n2 ru n5).post fun o h' e => ⟨e.1, ?_⟩
  obtain ⟨t2, k1, k2, k3⟩ := e.2
  subst k3
  obtain ⟨m1, m2⟩ := act_mx hf n8 hr n3 n4
  have nat : a ≠ t2 := fun z => by subst z; rw [n2] at k1; cases k1
  have ha1 : up h t2 (ob 4 [.int (f0 * f), .int (x0 * f + x)]) a = some (ob 3 [.int (nI lo), .int (nI (lo + (sz d + sz d) - 1)), .int (tsum v (sz d + sz d) lo), .int g, .int m, .ref cl, .ref cr, .ref ct]) := (up_ne nat).trans n2
  refine ⟨⟨cl, cr, t2, f0 * f, x0 * f + x, _, _, w, ⟨n1, ?_, m1, m2, ?_, fac_mul n6 hf, fun c p q => ?_, hr⟩, (tl.upN k1 (by omega)).upA ha1 (Or.inr rfl) (by omega) (by omega) (by omega) (by omega), (tr.upN k1 (by omega)).upA ha1 (Or.inr rfl) (by omega) (by omega) (by omega) (by omega)⟩, (Chg.new k1).trans (Chg.put ha1 n1 ⟨3, lo, _, _, rfl, Or.inr rfl, Nat.le_refl _, by omega, by omega, by omega⟩)⟩
  · rw [up_self, tsum_act, nI_span (by omega)]
  · rw [up_ne (Ne.symm nat), up_self]
  · show f * v c + x = _
    rw [n7 c p q, act_then]
theorem t_hands0 (l : Launch) (G : GE) (h : AH) (P : Nat → Prop) (v : Nat → Int32) (lo a : Nat) (T : TreeAt h P (0 + 1) v lo a) (h32 : lo + sz (0 + 1) ≤ 32) : GM l G yX6_hands (ws_ yX6_hands cX6_hands 1 none) 4 [.ref a] (h) (9) (PQ fun h' => ∃ cl cr ct g m, TNode h' P v lo (sz 0) a cl cr ct 1 0 g m v ∧ TreeAt h' P 0 v lo cl ∧ TreeAt h' P 0 v (lo + sz 0) cr ∧ Chg P lo (sz (0 + 1)) h h') := by
  refine GM.of (by decide) (dk rfl) ?_
  intro X eL eG eh ok fn
  subst eL; subst eG
  show GW X _ 0 0 [some (.ref a)] []
  obtain ⟨cl, cr, ct, f, s, g, m, w, ⟨n1, n2, n3, n4, n5, n6, n7, n8⟩, tl, tr⟩ := TreeAt.opn (d := 0) T
  have es : sz (0 + 1) = sz 0 + sz 0 := rfl
  have sp := sz_pos 0
  rw [es] at h32
  have nta : ct ≠ a := fun z => by subst z; rw [n2] at n5; cases n5
  have hr : ∀ c, lo ≤ c → c < lo + (sz 0 + sz 0) → rg (f * w c + s) := fun c p q => by rw [← n7 c p q]; exact n8 c p q
  refine g_aload_n ok dX6_hands_0 rfl ?_
  refine g_get ok ck_X6 7 q200 (Or.inl rfl) (by decide) dX6_hands_1 (Rd.h (n2)) rfl ?_
  refine g_callV ok q938 q939 q940 q67 q941 (Recv.ob ok gc_X7 (Rd.h (n5))) dX6_hands_4 (x_nothing X.l X.G _ ct f s (Rd.h (n5)) ) (nm_ (by decide : nmb _ 0 = true)) (dl rfl) (dk rfl) rfl rfl (dk rfl) (by omega) (kV ?_) xV
  refine g_if_ne ok (tgt := 45) dX6_hands_7 (by decide) (fun c7 => ?_) (fun c7 => ?_)
  · have c7' := bI_n c7
    have e12 : f = 1 ∧ s = 0 := by simpa using c7'
    obtain ⟨e1, e2⟩ := e12
    subst e1 e2
    have ev : ∀ c, lo ≤ c → c < lo + (sz 0 + sz 0) → w c = v c := fun c p q => by rw [n7 c p q, Int32.one_mul, Int32.add_zero]
    exact g_vret ok fn rfl dX6_hands_45 ⟨rfl, cl, cr, ct, g, m, ⟨n1, n2, n3, n4, n5, n6, fun c _ _ => by rw [Int32.one_mul, Int32.add_zero], n8⟩, tl.congr (fun c p q => ev c (by omega) (by omega)), tr.congr (fun c p q => ev c (by omega) (by omega)), Chg.refl _ _ _ _⟩ (by omega)
  · have c7' := bI_e c7
    refine g_aload_n ok dX6_hands_10 rfl ?_
    refine g_get ok ck_X6 5 q198 (Or.inl rfl) (by decide) dX6_hands_11 (Rd.h (n2)) rfl ?_
    refine g_aload_n ok dX6_hands_14 rfl ?_
    refine g_get ok ck_X6 7 q200 (Or.inl rfl) (by decide) dX6_hands_15 (Rd.h (n2)) rfl ?_
    refine g_callU ok (C := "SpanRuler$Leaf") (owner := "SpanRuler$Node") q942 q944 q971 q943 q63 q952 (ok.declA q950) (by decide) (recv_leaf ok (tl)) dX6_hands_18 (t_takes0 X.l X.G tl n5 n6 (fun c p q => hr c (by omega) (by omega)) (by omega)) (nm_ (by decide : nmb _ 1 = true)) (dl rfl) (dk rfl) rfl rfl (dk rfl) (by omega) (kQ fun h1 ⟨u1, u2⟩ => ?_) xQ
    have o2 := u2.node n2 (by omega) (by omega) (by omega)
    have o5 := u2.other n5 ⟨by decide, by decide⟩
    have tr1 := u2.tree tr (by omega) (Or.inr (Or.inr (by omega)))
    refine g_aload_n ok dX6_hands_21 rfl ?_
    refine g_get ok ck_X6 6 q199 (Or.inl rfl) (by decide) dX6_hands_22 (Rd.h (o2)) rfl ?_
    refine g_aload_n ok dX6_hands_25 rfl ?_
    refine g_get ok ck_X6 7 q200 (Or.inl rfl) (by decide) dX6_hands_26 (Rd.h (o2)) rfl ?_
    refine g_callU ok (C := "SpanRuler$Leaf") (owner := "SpanRuler$Node") q942 q944 q971 q943 q63 q952 (ok.declA q950) (by decide) (recv_leaf ok (tr1)) dX6_hands_29 (t_takes0 X.l X.G tr1 o5 n6 (fun c p q => hr c (by omega) (by omega)) (by omega)) (nm_ (by decide : nmb _ 1 = true)) (dl rfl) (dk rfl) rfl rfl (dk rfl) (by omega) (kQ fun h2 ⟨u3, u4⟩ => ?_) xQ
    have p2 := u4.node o2 (by omega) (by omega) (by omega)
    have p5 := u4.other o5 ⟨by decide, by decide⟩
    have tl2 := u4.tree u1 (by omega) (Or.inr (Or.inl (by omega)))
    refine g_aload_n ok dX6_hands_32 rfl ?_
    refine g_new ok ck_X7 q185 q186 q67 dX6_hands_33 (fs := [.int 0, .int 0]) (by intro j hj; rcases (by omega : j = 0 ∨ j = 1) with rfl | rfl <;> rfl) (by omega) (fun t2 hat2 hkt2 h0t2 => ?_)
    have ne0 := Rd.ne (Rd.h (p2)) hat2 hkt2
    have ne1 := Rd.ne (Rd.h (p5)) hat2 hkt2
    refine g_dup ok dX6_hands_36 rfl ?_
    refine g_iconst ok (v := 1) dX6_hands_37 rfl ?_
    refine g_iconst ok (v := 0) dX6_hands_38 rfl ?_
    refine g_callI ok q187 q188 q67 q189 rfl dX6_hands_39 (x_actInit X.l X.G _ t2 1 0 up_self) (nm_ (by decide : nmb _ 2 = true)) (dl rfl) (dk rfl) rfl rfl (dk rfl) (by omega) (kN ?_) xN
    simp only [up_up]
    refine g_put ok ck_X6 7 q200 (Or.inl rfl) (by decide) rfl dX6_hands_42 ((up_ne ne0).trans (p2)) (dl rfl) rfl rfl (fs1 := [.int (nI lo), .int (nI (lo + (sz 0 + sz 0) - 1)), .int (tsum v (sz 0 + sz 0) lo), .int g, .int m, .ref cl, .ref cr, .ref t2]) rfl (?_)
    have ha1 := (up_ne (h := h2) (e := ob 4 [.int 1, .int 0]) ne0).trans p2
    have ev : ∀ c, lo ≤ c → c < lo + (sz 0 + sz 0) → f * w c + s = v c := fun c p q => (n7 c p q).symm
    refine g_vret ok fn rfl dX6_hands_45 ⟨rfl, cl, cr, t2, g, m, ⟨n1, up_self, n3, n4, (up_ne (Ne.symm ne0)).trans up_self, Or.inr (Or.inl rfl), fun c _ _ => by rw [Int32.one_mul, Int32.add_zero], n8⟩, ?_, ?_, ?_⟩ (by omega)
    · exact ((tl2.congr (fun c p q => ev c (by omega) (by omega))).upN hat2 (by omega)).upA ha1 (Or.inr rfl) (by omega) (by omega) (by omega) (by omega)
    · exact ((u3.congr (fun c p q => ev c (by omega) (by omega))).upN hat2 (by omega)).upA ha1 (Or.inr rfl) (by omega) (by omega) (by omega) (by omega)
    · rw [es]; exact ((u2.wide (by omega) (by omega)).trans (u4.wide (by omega) (by omega))).trans ((Chg.new hat2).trans (Chg.put ha1 n1 ⟨3, lo, _, _, rfl, Or.inr rfl, Nat.le_refl _, by omega, by omega, by omega⟩))
theorem t_handsS (l : Launch) (G : GE) (h : AH) (P : Nat → Prop) (d : Nat) (v : Nat → Int32) (lo a : Nat) (T : TreeAt h P ((d + 1) + 1) v lo a) (h32 : lo + sz ((d + 1) + 1) ≤ 32) : GM l G yX6_hands (ws_ yX6_hands cX6_hands 1 none) 4 [.ref a] (h) (9) (PQ fun h' => ∃ cl cr ct g m, TNode h' P v lo (sz (d + 1)) a cl cr ct 1 0 g m v ∧ TreeAt h' P (d + 1) v lo cl ∧ TreeAt h' P (d + 1) v (lo + sz (d + 1)) cr ∧ Chg P lo (sz ((d + 1) + 1)) h h') := by
  refine GM.of (by decide) (dk rfl) ?_
  intro X eL eG eh ok fn
  subst eL; subst eG
  show GW X _ 0 0 [some (.ref a)] []
  obtain ⟨cl, cr, ct, f, s, g, m, w, ⟨n1, n2, n3, n4, n5, n6, n7, n8⟩, tl, tr⟩ := TreeAt.opn (d := (d + 1)) T
  have es : sz ((d + 1) + 1) = sz (d + 1) + sz (d + 1) := rfl
  have sp := sz_pos (d + 1)
  rw [es] at h32
  have nta : ct ≠ a := fun z => by subst z; rw [n2] at n5; cases n5
  have hr : ∀ c, lo ≤ c → c < lo + (sz (d + 1) + sz (d + 1)) → rg (f * w c + s) := fun c p q => by rw [← n7 c p q]; exact n8 c p q
  refine g_aload_n ok dX6_hands_0 rfl ?_
  refine g_get ok ck_X6 7 q200 (Or.inl rfl) (by decide) dX6_hands_1 (Rd.h (n2)) rfl ?_
  refine g_callV ok q938 q939 q940 q67 q941 (Recv.ob ok gc_X7 (Rd.h (n5))) dX6_hands_4 (x_nothing X.l X.G _ ct f s (Rd.h (n5)) ) (nm_ (by decide : nmb _ 0 = true)) (dl rfl) (dk rfl) rfl rfl (dk rfl) (by omega) (kV ?_) xV
  refine g_if_ne ok (tgt := 45) dX6_hands_7 (by decide) (fun c7 => ?_) (fun c7 => ?_)
  · have c7' := bI_n c7
    have e12 : f = 1 ∧ s = 0 := by simpa using c7'
    obtain ⟨e1, e2⟩ := e12
    subst e1 e2
    have ev : ∀ c, lo ≤ c → c < lo + (sz (d + 1) + sz (d + 1)) → w c = v c := fun c p q => by rw [n7 c p q, Int32.one_mul, Int32.add_zero]
    exact g_vret ok fn rfl dX6_hands_45 ⟨rfl, cl, cr, ct, g, m, ⟨n1, n2, n3, n4, n5, n6, fun c _ _ => by rw [Int32.one_mul, Int32.add_zero], n8⟩, tl.congr (fun c p q => ev c (by omega) (by omega)), tr.congr (fun c p q => ev c (by omega) (by omega)), Chg.refl _ _ _ _⟩ (by omega)
  · have c7' := bI_e c7
    refine g_aload_n ok dX6_hands_10 rfl ?_
    refine g_get ok ck_X6 5 q198 (Or.inl rfl) (by decide) dX6_hands_11 (Rd.h (n2)) rfl ?_
    refine g_aload_n ok dX6_hands_14 rfl ?_
    refine g_get ok ck_X6 7 q200 (Or.inl rfl) (by decide) dX6_hands_15 (Rd.h (n2)) rfl ?_
    refine g_callU ok (C := "SpanRuler$Branch") (owner := "SpanRuler$Node") q942 q944 q945 q946 q66 q947 (ok.declA q950) (by decide) (recv_br ok (tl)) dX6_hands_18 (t_takesB X.l X.G tl n5 n6 (fun c p q => hr c (by omega) (by omega)) (by omega)) (nm_ (by decide : nmb _ 1 = true)) (dl rfl) (dk rfl) rfl rfl (dk rfl) (by omega) (kQ fun h1 ⟨u1, u2⟩ => ?_) xQ
    have o2 := u2.node n2 (by omega) (by omega) (by omega)
    have o5 := u2.other n5 ⟨by decide, by decide⟩
    have tr1 := u2.tree tr (by omega) (Or.inr (Or.inr (by omega)))
    refine g_aload_n ok dX6_hands_21 rfl ?_
    refine g_get ok ck_X6 6 q199 (Or.inl rfl) (by decide) dX6_hands_22 (Rd.h (o2)) rfl ?_
    refine g_aload_n ok dX6_hands_25 rfl ?_
    refine g_get ok ck_X6 7 q200 (Or.inl rfl) (by decide) dX6_hands_26 (Rd.h (o2)) rfl ?_
    refine g_callU ok (C := "SpanRuler$Branch") (owner := "SpanRuler$Node") q942 q944 q945 q946 q66 q947 (ok.declA q950) (by decide) (recv_br ok (tr1)) dX6_hands_29 (t_takesB X.l X.G tr1 o5 n6 (fun c p q => hr c (by omega) (by omega)) (by omega)) (nm_ (by decide : nmb _ 1 = true)) (dl rfl) (dk rfl) rfl rfl (dk rfl) (by omega) (kQ fun h2 ⟨u3, u4⟩ => ?_) xQ
    have p2 := u4.node o2 (by omega) (by omega) (by omega)
    have p5 := u4.other o5 ⟨by decide, by decide⟩
    have tl2 := u4.tree u1 (by omega) (Or.inr (Or.inl (by omega)))
    refine g_aload_n ok dX6_hands_32 rfl ?_
    refine g_new ok ck_X7 q185 q186 q67 dX6_hands_33 (fs := [.int 0, .int 0]) (by intro j hj; rcases (by omega : j = 0 ∨ j = 1) with rfl | rfl <;> rfl) (by omega) (fun t2 hat2 hkt2 h0t2 => ?_)
    have ne0 := Rd.ne (Rd.h (p2)) hat2 hkt2
    have ne1 := Rd.ne (Rd.h (p5)) hat2 hkt2
    refine g_dup ok dX6_hands_36 rfl ?_
    refine g_iconst ok (v := 1) dX6_hands_37 rfl ?_
    refine g_iconst ok (v := 0) dX6_hands_38 rfl ?_
    refine g_callI ok q187 q188 q67 q189 rfl dX6_hands_39 (x_actInit X.l X.G _ t2 1 0 up_self) (nm_ (by decide : nmb _ 2 = true)) (dl rfl) (dk rfl) rfl rfl (dk rfl) (by omega) (kN ?_) xN
    simp only [up_up]
    refine g_put ok ck_X6 7 q200 (Or.inl rfl) (by decide) rfl dX6_hands_42 ((up_ne ne0).trans (p2)) (dl rfl) rfl rfl (fs1 := [.int (nI lo), .int (nI (lo + (sz (d + 1) + sz (d + 1)) - 1)), .int (tsum v (sz (d + 1) + sz (d + 1)) lo), .int g, .int m, .ref cl, .ref cr, .ref t2]) rfl (?_)
    have ha1 := (up_ne (h := h2) (e := ob 4 [.int 1, .int 0]) ne0).trans p2
    have ev : ∀ c, lo ≤ c → c < lo + (sz (d + 1) + sz (d + 1)) → f * w c + s = v c := fun c p q => (n7 c p q).symm
    refine g_vret ok fn rfl dX6_hands_45 ⟨rfl, cl, cr, t2, g, m, ⟨n1, up_self, n3, n4, (up_ne (Ne.symm ne0)).trans up_self, Or.inr (Or.inl rfl), fun c _ _ => by rw [Int32.one_mul, Int32.add_zero], n8⟩, ?_, ?_, ?_⟩ (by omega)
    · exact ((tl2.congr (fun c p q => ev c (by omega) (by omega))).upN hat2 (by omega)).upA ha1 (Or.inr rfl) (by omega) (by omega) (by omega) (by omega)
    · exact ((u3.congr (fun c p q => ev c (by omega) (by omega))).upN hat2 (by omega)).upA ha1 (Or.inr rfl) (by omega) (by omega) (by omega) (by omega)
    · rw [es]; exact ((u2.wide (by omega) (by omega)).trans (u4.wide (by omega) (by omega))).trans ((Chg.new hat2).trans (Chg.put ha1 n1 ⟨3, lo, _, _, rfl, Or.inr rfl, Nat.le_refl _, by omega, by omega, by omega⟩))
theorem t_hands (l : Launch) (G : GE) (h : AH) (P : Nat → Prop) (d : Nat) (v : Nat → Int32) (lo a : Nat) (T : TreeAt h P (d + 1) v lo a) (h32 : lo + sz (d + 1) ≤ 32) : GM l G yX6_hands (ws_ yX6_hands cX6_hands 1 none) 4 [.ref a] h 9 (PQ fun h' => ∃ cl cr ct g m, TNode h' P v lo (sz d) a cl cr ct 1 0 g m v ∧ TreeAt h' P d v lo cl ∧ TreeAt h' P d v (lo + sz d) cr ∧ Chg P lo (sz (d + 1)) h h') := by
  cases d with
  | zero => exact t_hands0 l G h P v lo a T h32
  | succ d => exact t_handsS l G h P d v lo a T h32
theorem x_left (l : Launch) (G : GE) (h : AH) (a i j : Nat) (s g m : Int32) (kl kr kt : Nat) (ra : Rd G h a (ob 3 [.int (nI i), .int (nI j), .int s, .int g, .int m, .ref kl, .ref kr, .ref kt])) : GM l G yX6_left (ws_ yX6_left cX6_left 1 (some (.object "SpanRuler$Node"))) 1 [.ref a] (h) (0) (PV (.ref kl) h) := by
  refine GM.of (by decide) (dk rfl) ?_
  intro X eL eG eh ok fn
  subst eL; subst eG
  show GW X _ 0 0 [some (.ref a)] []
  refine g_aload_n ok dX6_left_0 rfl ?_
  refine g_get ok ck_X6 5 q198 (Or.inl rfl) (by decide) dX6_left_1 (ra) rfl ?_
  exact g_aret ok fn rfl (Or.inl ⟨_, rfl⟩) (Or.inr ⟨_, rfl⟩) dX6_left_4 ⟨rfl, rfl⟩ (by omega)
theorem x_right (l : Launch) (G : GE) (h : AH) (a i j : Nat) (s g m : Int32) (kl kr kt : Nat) (ra : Rd G h a (ob 3 [.int (nI i), .int (nI j), .int s, .int g, .int m, .ref kl, .ref kr, .ref kt])) : GM l G yX6_right (ws_ yX6_right cX6_right 1 (some (.object "SpanRuler$Node"))) 1 [.ref a] (h) (0) (PV (.ref kr) h) := by
  refine GM.of (by decide) (dk rfl) ?_
  intro X eL eG eh ok fn
  subst eL; subst eG
  show GW X _ 0 0 [some (.ref a)] []
  refine g_aload_n ok dX6_right_0 rfl ?_
  refine g_get ok ck_X6 6 q199 (Or.inl rfl) (by decide) dX6_right_1 (ra) rfl ?_
  exact g_aret ok fn rfl (Or.inl ⟨_, rfl⟩) (Or.inr ⟨_, rfl⟩) dX6_right_4 ⟨rfl, rfl⟩ (by omega)
theorem nd_ne {h : AH} {a b ci ci' i j i' j' : Nat} {fs fs' : List Value} (r1 : h a = some (ob ci (.int (nI i) :: .int (nI j) :: fs))) (r2 : h b = some (ob ci' (.int (nI i') :: .int (nI j') :: fs'))) (z : a = b) (h1 : i < 2 ^ 31) (h2 : j < 2 ^ 31) (h3 : i' < 2 ^ 31) (h4 : j' < 2 ^ 31) (hn : ¬ (i = i' ∧ j = j')) : False := by
  subst z
  rw [r1] at r2
  exact hn (nd_inj (Option.some.inj r2) h1 h2 h3 h4)
theorem t_joins0 (l : Launch) (G : GE) (h : AH) (P : Nat → Prop) (v : Nat → Int32) (lo a cl cr ct : Nat) (S g m : Int32) (hp : P a) (ra : h a = some (ob 3 [.int (nI lo), .int (nI (lo + (sz 0 + sz 0) - 1)), .int S, .int g, .int m, .ref cl, .ref cr, .ref ct])) (rt : h ct = some (ob 4 [.int 1, .int 0])) (tl : TreeAt h P 0 v lo cl) (tr : TreeAt h P 0 v (lo + sz 0) cr) (h32 : lo + sz (0 + 1) ≤ 32) : GM l G yX6_joins (ws_ yX6_joins cX6_joins 1 none) 3 [.ref a] (h) (0) (PQ fun h' => TreeAt h' P (0 + 1) v lo a ∧ Chg P lo (sz (0 + 1)) h h') := by
  refine GM.of (by decide) (dk rfl) ?_
  intro X eL eG eh ok fn
  subst eL; subst eG
  show GW X _ 0 0 [some (.ref a)] []
  have es : sz (0 + 1) = sz 0 + sz 0 := rfl
  have sp := sz_pos 0
  rw [es] at h32
  have ctl := tl.rng
  have ctr := tr.rng
  obtain ⟨l1, l2, l3⟩ := TreeAt.opn0 tl
  obtain ⟨r1, r2, r3⟩ := TreeAt.opn0 tr
  have ml : Mx v lo (sz 0) (v lo) := Mx.one
  have mr : Mx v (lo + sz 0) (sz 0) (v (lo + sz 0)) := Mx.one
  have il : Mn v lo (sz 0) (v lo) := Mn.one
  have ir : Mn v (lo + sz 0) (sz 0) (v (lo + sz 0)) := Mn.one
  have sl : v lo = tsum v (sz 0) lo := (Int32.add_zero _).symm
  have sr : v (lo + sz 0) = tsum v (sz 0) (lo + sz 0) := (Int32.add_zero _).symm
  have nla : cl ≠ a := fun z => by subst z; rw [l3] at ra; cases ra
  have nra : cr ≠ a := fun z => by subst z; rw [r3] at ra; cases ra
  have nta : ct ≠ a := fun z => by subst z; rw [ra] at rt; cases rt
  refine g_aload_n ok dX6_joins_0 rfl ?_
  refine g_aload_n ok dX6_joins_1 rfl ?_
  refine g_get ok ck_X6 5 q198 (Or.inl rfl) (by decide) dX6_joins_2 (Rd.h (ra)) rfl ?_
  refine g_get ok ck_X4 2 q150 (Or.inl rfl) (by decide) dX6_joins_5 (Rd.h (l3)) rfl ?_
  refine g_aload_n ok dX6_joins_8 rfl ?_
  refine g_get ok ck_X6 6 q199 (Or.inl rfl) (by decide) dX6_joins_9 (Rd.h (ra)) rfl ?_
  refine g_get ok ck_X4 2 q150 (Or.inl rfl) (by decide) dX6_joins_12 (Rd.h (r3)) rfl ?_
  refine g_iadd ok dX6_joins_15 ?_
  refine g_put ok ck_X6 2 q151 (Or.inr q152) (by decide) rfl dX6_joins_16 (ra) (dl rfl) rfl rfl (fs1 := [.int (nI lo), .int (nI (lo + (sz 0 + sz 0) - 1)), .int ((v lo) + (v (lo + sz 0))), .int g, .int m, .ref cl, .ref cr, .ref ct]) rfl (?_)
  refine g_aload_n ok dX6_joins_19 rfl ?_
  refine g_aload_n ok dX6_joins_20 rfl ?_
  refine g_get ok ck_X6 5 q198 (Or.inl rfl) (by decide) dX6_joins_21 (Rd.h (up_self)) rfl ?_
  refine g_get ok ck_X4 3 q155 (Or.inl rfl) (by decide) dX6_joins_24 (Rd.h ((up_ne nla).trans (l3))) rfl ?_
  refine g_aload_n ok dX6_joins_27 rfl ?_
  refine g_get ok ck_X6 6 q199 (Or.inl rfl) (by decide) dX6_joins_28 (Rd.h (up_self)) rfl ?_
  refine g_get ok ck_X4 3 q155 (Or.inl rfl) (by decide) dX6_joins_31 (Rd.h ((up_ne nra).trans (r3))) rfl ?_
  refine g_max ok q1111 q576 q90 q577 dX6_joins_34 (dk rfl) rfl (dk rfl) (by omega) ?_
  refine g_put ok ck_X6 3 q156 (Or.inr q157) (by decide) rfl dX6_joins_37 (up_self) (dl rfl) rfl rfl (fs1 := [.int (nI lo), .int (nI (lo + (sz 0 + sz 0) - 1)), .int ((v lo) + (v (lo + sz 0))), .int (if (v lo) < (v (lo + sz 0)) then (v (lo + sz 0)) else (v lo)), .int m, .ref cl, .ref cr, .ref ct]) rfl (?_)
  refine g_aload_n ok dX6_joins_40 rfl ?_
  refine g_aload_n ok dX6_joins_41 rfl ?_
  refine g_get ok ck_X6 5 q198 (Or.inl rfl) (by decide) dX6_joins_42 (Rd.h (up_self)) rfl ?_
  refine g_get ok ck_X4 4 q160 (Or.inl rfl) (by decide) dX6_joins_45 (Rd.h ((up_ne nla).trans ((up_ne nla).trans (l3)))) rfl ?_
  refine g_aload_n ok dX6_joins_48 rfl ?_
  refine g_get ok ck_X6 6 q199 (Or.inl rfl) (by decide) dX6_joins_49 (Rd.h (up_self)) rfl ?_
  refine g_get ok ck_X4 4 q160 (Or.inl rfl) (by decide) dX6_joins_52 (Rd.h ((up_ne nra).trans ((up_ne nra).trans (r3)))) rfl ?_
  refine g_min ok q1112 q594 q90 q595 dX6_joins_55 (dk rfl) rfl (dk rfl) (by omega) ?_
  refine g_put ok ck_X6 4 q161 (Or.inr q162) (by decide) rfl dX6_joins_58 (up_self) (dl rfl) rfl rfl (fs1 := [.int (nI lo), .int (nI (lo + (sz 0 + sz 0) - 1)), .int ((v lo) + (v (lo + sz 0))), .int (if (v lo) < (v (lo + sz 0)) then (v (lo + sz 0)) else (v lo)), .int (if (v (lo + sz 0)) < (v lo) then (v (lo + sz 0)) else (v lo)), .ref cl, .ref cr, .ref ct]) rfl (?_)
  refine g_vret ok fn rfl dX6_joins_61 ⟨rfl, ?_⟩ (by omega)
  simp only [up_up]
  refine ⟨TreeAt.mk (d := 0) (w := v) ⟨hp, up_self.trans ?_, ml.join mr, il.join ir, (up_ne nta).trans rt, Or.inr (Or.inl rfl), fun c _ _ => by rw [Int32.one_mul, Int32.add_zero], fun c p q => ?_⟩ (tl.upA ra (Or.inr rfl) (by omega) (by omega) (by omega) (by omega)) (tr.upA ra (Or.inr rfl) (by omega) (by omega) (by omega) (by omega)), ?_⟩
  · rw [tsum_add v (sz 0) (sz 0) lo, sl, sr]
  · by_cases z : c < lo + sz 0
    · exact ctl c p z
    · exact ctr c (by omega) (by omega)
  · rw [es]; exact Chg.put ra hp ⟨3, lo, _, _, rfl, Or.inr rfl, Nat.le_refl _, by omega, by omega, by omega⟩
theorem t_joinsS (l : Launch) (G : GE) (h : AH) (P : Nat → Prop) (d : Nat) (v : Nat → Int32) (lo a cl cr ct : Nat) (S g m : Int32) (hp : P a) (ra : h a = some (ob 3 [.int (nI lo), .int (nI (lo + (sz (d + 1) + sz (d + 1)) - 1)), .int S, .int g, .int m, .ref cl, .ref cr, .ref ct])) (rt : h ct = some (ob 4 [.int 1, .int 0])) (tl : TreeAt h P (d + 1) v lo cl) (tr : TreeAt h P (d + 1) v (lo + sz (d + 1)) cr) (h32 : lo + sz ((d + 1) + 1) ≤ 32) : GM l G yX6_joins (ws_ yX6_joins cX6_joins 1 none) 3 [.ref a] (h) (0) (PQ fun h' => TreeAt h' P ((d + 1) + 1) v lo a ∧ Chg P lo (sz ((d + 1) + 1)) h h') := by
  refine GM.of (by decide) (dk rfl) ?_
  intro X eL eG eh ok fn
  subst eL; subst eG
  show GW X _ 0 0 [some (.ref a)] []
  have es : sz ((d + 1) + 1) = sz (d + 1) + sz (d + 1) := rfl
  have sp := sz_pos (d + 1)
  rw [es] at h32
  have ctl := tl.rng
  have ctr := tr.rng
  obtain ⟨al, bl, tl0, fl, xl, gl, ml0, wl, ⟨l1, l3, ml, il, -⟩, -⟩ := TreeAt.opn (d := d) tl
  obtain ⟨ar, br, tr0, fr, xr, gr, mr0, wr, ⟨r1, r3, mr, ir, -⟩, -⟩ := TreeAt.opn (d := d) tr
  have es2 : sz (d + 1) = sz d + sz d := rfl
  have sp2 := sz_pos d
  have sl : tsum v (sz d + sz d) lo = tsum v (sz (d + 1)) lo := rfl
  have sr : tsum v (sz d + sz d) (lo + sz (d + 1)) = tsum v (sz (d + 1)) (lo + sz (d + 1)) := rfl
  have nla : cl ≠ a := fun z => nd_ne l3 ra z (by omega) (by omega) (by omega) (by omega) (by omega)
  have nra : cr ≠ a := fun z => nd_ne r3 ra z (by omega) (by omega) (by omega) (by omega) (by omega)
  have nta : ct ≠ a := fun z => by subst z; rw [ra] at rt; cases rt
  refine g_aload_n ok dX6_joins_0 rfl ?_
  refine g_aload_n ok dX6_joins_1 rfl ?_
  refine g_get ok ck_X6 5 q198 (Or.inl rfl) (by decide) dX6_joins_2 (Rd.h (ra)) rfl ?_
  refine g_get ok ck_X6 2 q150 (Or.inl rfl) (by decide) dX6_joins_5 (Rd.h (l3)) rfl ?_
  refine g_aload_n ok dX6_joins_8 rfl ?_
  refine g_get ok ck_X6 6 q199 (Or.inl rfl) (by decide) dX6_joins_9 (Rd.h (ra)) rfl ?_
  refine g_get ok ck_X6 2 q150 (Or.inl rfl) (by decide) dX6_joins_12 (Rd.h (r3)) rfl ?_
  refine g_iadd ok dX6_joins_15 ?_
  refine g_put ok ck_X6 2 q151 (Or.inr q152) (by decide) rfl dX6_joins_16 (ra) (dl rfl) rfl rfl (fs1 := [.int (nI lo), .int (nI (lo + (sz (d + 1) + sz (d + 1)) - 1)), .int ((tsum v (sz d + sz d) lo) + (tsum v (sz d + sz d) (lo + sz (d + 1)))), .int g, .int m, .ref cl, .ref cr, .ref ct]) rfl (?_)
  refine g_aload_n ok dX6_joins_19 rfl ?_
  refine g_aload_n ok dX6_joins_20 rfl ?_
  refine g_get ok ck_X6 5 q198 (Or.inl rfl) (by decide) dX6_joins_21 (Rd.h (up_self)) rfl ?_
  refine g_get ok ck_X6 3 q155 (Or.inl rfl) (by decide) dX6_joins_24 (Rd.h ((up_ne nla).trans (l3))) rfl ?_
  refine g_aload_n ok dX6_joins_27 rfl ?_
  refine g_get ok ck_X6 6 q199 (Or.inl rfl) (by decide) dX6_joins_28 (Rd.h (up_self)) rfl ?_
  refine g_get ok ck_X6 3 q155 (Or.inl rfl) (by decide) dX6_joins_31 (Rd.h ((up_ne nra).trans (r3))) rfl ?_
  refine g_max ok q1111 q576 q90 q577 dX6_joins_34 (dk rfl) rfl (dk rfl) (by omega) ?_
  refine g_put ok ck_X6 3 q156 (Or.inr q157) (by decide) rfl dX6_joins_37 (up_self) (dl rfl) rfl rfl (fs1 := [.int (nI lo), .int (nI (lo + (sz (d + 1) + sz (d + 1)) - 1)), .int ((tsum v (sz d + sz d) lo) + (tsum v (sz d + sz d) (lo + sz (d + 1)))), .int (if gl < gr then gr else gl), .int m, .ref cl, .ref cr, .ref ct]) rfl (?_)
  refine g_aload_n ok dX6_joins_40 rfl ?_
  refine g_aload_n ok dX6_joins_41 rfl ?_
  refine g_get ok ck_X6 5 q198 (Or.inl rfl) (by decide) dX6_joins_42 (Rd.h (up_self)) rfl ?_
  refine g_get ok ck_X6 4 q160 (Or.inl rfl) (by decide) dX6_joins_45 (Rd.h ((up_ne nla).trans ((up_ne nla).trans (l3)))) rfl ?_
  refine g_aload_n ok dX6_joins_48 rfl ?_
  refine g_get ok ck_X6 6 q199 (Or.inl rfl) (by decide) dX6_joins_49 (Rd.h (up_self)) rfl ?_
  refine g_get ok ck_X6 4 q160 (Or.inl rfl) (by decide) dX6_joins_52 (Rd.h ((up_ne nra).trans ((up_ne nra).trans (r3)))) rfl ?_
  refine g_min ok q1112 q594 q90 q595 dX6_joins_55 (dk rfl) rfl (dk rfl) (by omega) ?_
  refine g_put ok ck_X6 4 q161 (Or.inr q162) (by decide) rfl dX6_joins_58 (up_self) (dl rfl) rfl rfl (fs1 := [.int (nI lo), .int (nI (lo + (sz (d + 1) + sz (d + 1)) - 1)), .int ((tsum v (sz d + sz d) lo) + (tsum v (sz d + sz d) (lo + sz (d + 1)))), .int (if gl < gr then gr else gl), .int (if mr0 < ml0 then mr0 else ml0), .ref cl, .ref cr, .ref ct]) rfl (?_)
  refine g_vret ok fn rfl dX6_joins_61 ⟨rfl, ?_⟩ (by omega)
  simp only [up_up]
  refine ⟨TreeAt.mk (d := (d + 1)) (w := v) ⟨hp, up_self.trans ?_, ml.join mr, il.join ir, (up_ne nta).trans rt, Or.inr (Or.inl rfl), fun c _ _ => by rw [Int32.one_mul, Int32.add_zero], fun c p q => ?_⟩ (tl.upA ra (Or.inr rfl) (by omega) (by omega) (by omega) (by omega)) (tr.upA ra (Or.inr rfl) (by omega) (by omega) (by omega) (by omega)), ?_⟩
  · rw [tsum_add v (sz (d + 1)) (sz (d + 1)) lo, sl, sr]
  · by_cases z : c < lo + sz (d + 1)
    · exact ctl c p z
    · exact ctr c (by omega) (by omega)
  · rw [es]; exact Chg.put ra hp ⟨3, lo, _, _, rfl, Or.inr rfl, Nat.le_refl _, by omega, by omega, by omega⟩
theorem t_joins (l : Launch) (G : GE) (h : AH) (P : Nat → Prop) (d : Nat) (v : Nat → Int32) (lo a cl cr ct : Nat) (S g m : Int32) (hp : P a) (ra : h a = some (ob 3 [.int (nI lo), .int (nI (lo + (sz d + sz d) - 1)), .int S, .int g, .int m, .ref cl, .ref cr, .ref ct])) (rt : h ct = some (ob 4 [.int 1, .int 0])) (tl : TreeAt h P d v lo cl) (tr : TreeAt h P d v (lo + sz d) cr) (h32 : lo + sz (d + 1) ≤ 32) : GM l G yX6_joins (ws_ yX6_joins cX6_joins 1 none) 3 [.ref a] h 0 (PQ fun h' => TreeAt h' P (d + 1) v lo a ∧ Chg P lo (sz (d + 1)) h h') := by
  cases d with
  | zero => exact t_joins0 l G h P v lo a cl cr ct S g m hp ra rt tl tr h32
  | succ d => exact t_joinsS l G h P d v lo a cl cr ct S g m hp ra rt tl tr h32
