/-! the ruler is asked, 4: leaving, versions -/
set_option maxRecDepth 100000
abbrev cX2_leaving : ByteArray := prog_16_method_6_code
def yX2_leaving : MethodName := ⟨RX2, "leaving", "(IILSpanRuler$Act;)I"⟩
def dkwX2_leaving_3 : List UInt8 := [17, 3, 231, 184, 0, 109, 154, 0, 6, 21, 5, 172, 132, 5, 1, 167, 255, 217, 2, 172]
abbrev dktX2_leaving_3 : List UInt8 := dkwX2_leaving_3 ++ []
def dkwX2_leaving_2 : List UInt8 := [21, 5, 28, 163, 0, 39, 21, 4, 154, 0, 34, 45, 42, 21, 5, 182, 0, 106, 182, 0, 97, 17, 252, 25]
abbrev dktX2_leaving_2 : List UInt8 := dkwX2_leaving_2 ++ dktX2_leaving_3
def dkwX2_leaving_1 : List UInt8 := [27, 28, 184, 0, 103, 182, 0, 97, 17, 252, 25, 161, 0, 7, 4, 167, 0, 4, 3, 54, 4, 27, 54, 5]
abbrev dktX2_leaving_1 : List UInt8 := dkwX2_leaving_1 ++ dktX2_leaving_2
def dkwX2_leaving_0 : List UInt8 := [45, 42, 180, 0, 13, 27, 28, 184, 0, 94, 182, 0, 97, 17, 3, 231, 163, 0, 26, 45, 42, 180, 0, 13]
abbrev dktX2_leaving_0 : List UInt8 := dkwX2_leaving_0 ++ dktX2_leaving_1
theorem dksX2_leaving_0 : cX2_leaving.data.toList.drop 0 = dktX2_leaving_0 := by decide +kernel
theorem dksX2_leaving_1 : cX2_leaving.data.toList.drop 24 = dktX2_leaving_1 := dk_seg dksX2_leaving_0 24 rfl rfl
theorem dksX2_leaving_2 : cX2_leaving.data.toList.drop 48 = dktX2_leaving_2 := dk_seg dksX2_leaving_1 24 rfl rfl
theorem dksX2_leaving_3 : cX2_leaving.data.toList.drop 72 = dktX2_leaving_3 := dk_seg dksX2_leaving_2 24 rfl rfl
theorem dX2_leaving_0 : decode cX2_leaving 0 = .ok (.aload_n 3, 1) := dk_45 (dk_at dksX2_leaving_0 0 rfl rfl)
theorem dX2_leaving_1 : decode cX2_leaving 1 = .ok (.aload_n 0, 1) := dk_42 (dk_at dksX2_leaving_0 1 rfl rfl)
theorem dX2_leaving_2 : decode cX2_leaving 2 = .ok (.getfield 13, 3) := dk_180 0 13 (dk_at dksX2_leaving_0 2 rfl rfl)
theorem dX2_leaving_5 : decode cX2_leaving 5 = .ok (.iload_n 1, 1) := dk_27 (dk_at dksX2_leaving_0 5 rfl rfl)
theorem dX2_leaving_6 : decode cX2_leaving 6 = .ok (.iload_n 2, 1) := dk_28 (dk_at dksX2_leaving_0 6 rfl rfl)
theorem dX2_leaving_7 : decode cX2_leaving 7 = .ok (.invokestatic 94, 3) := dk_184 0 94 (dk_at dksX2_leaving_0 7 rfl rfl)
theorem dX2_leaving_10 : decode cX2_leaving 10 = .ok (.invokevirtual 97, 3) := dk_182 0 97 (dk_at dksX2_leaving_0 10 rfl rfl)
theorem dX2_leaving_13 : decode cX2_leaving 13 = .ok (.sipush 999, 3) := dk_17 3 231 (dk_at dksX2_leaving_0 13 rfl rfl)
theorem dX2_leaving_16 : decode cX2_leaving 16 = .ok (.if_icmp .gt 26, 3) := dk_163 0 26 (dk_at dksX2_leaving_0 16 rfl rfl)
theorem dX2_leaving_19 : decode cX2_leaving 19 = .ok (.aload_n 3, 1) := dk_45 (dk_at dksX2_leaving_0 19 rfl rfl)
theorem dX2_leaving_20 : decode cX2_leaving 20 = .ok (.aload_n 0, 1) := dk_42 (dk_at dksX2_leaving_0 20 rfl rfl)
theorem dX2_leaving_21 : decode cX2_leaving 21 = .ok (.getfield 13, 3) := dk_180 0 13 (dk_at dksX2_leaving_0 21 rfl rfl)
theorem dX2_leaving_24 : decode cX2_leaving 24 = .ok (.iload_n 1, 1) := dk_27 (dk_at dksX2_leaving_1 0 rfl rfl)
theorem dX2_leaving_25 : decode cX2_leaving 25 = .ok (.iload_n 2, 1) := dk_28 (dk_at dksX2_leaving_1 1 rfl rfl)
theorem dX2_leaving_26 : decode cX2_leaving 26 = .ok (.invokestatic 103, 3) := dk_184 0 103 (dk_at dksX2_leaving_1 2 rfl rfl)
theorem dX2_leaving_29 : decode cX2_leaving 29 = .ok (.invokevirtual 97, 3) := dk_182 0 97 (dk_at dksX2_leaving_1 5 rfl rfl)
theorem dX2_leaving_32 : decode cX2_leaving 32 = .ok (.sipush (-999), 3) := dk_17 252 25 (dk_at dksX2_leaving_1 8 rfl rfl)
theorem dX2_leaving_35 : decode cX2_leaving 35 = .ok (.if_icmp .lt 7, 3) := dk_161 0 7 (dk_at dksX2_leaving_1 11 rfl rfl)
theorem dX2_leaving_38 : decode cX2_leaving 38 = .ok (.iconst 1, 1) := dk_4 (dk_at dksX2_leaving_1 14 rfl rfl)
theorem dX2_leaving_39 : decode cX2_leaving 39 = .ok (.goto 4, 3) := dk_167 0 4 (dk_at dksX2_leaving_1 15 rfl rfl)
theorem dX2_leaving_42 : decode cX2_leaving 42 = .ok (.iconst 0, 1) := dk_3 (dk_at dksX2_leaving_1 18 rfl rfl)
theorem dX2_leaving_43 : decode cX2_leaving 43 = .ok (.istore 4, 2) := dk_54 4 (dk_at dksX2_leaving_1 19 rfl rfl)
theorem dX2_leaving_45 : decode cX2_leaving 45 = .ok (.iload_n 1, 1) := dk_27 (dk_at dksX2_leaving_1 21 rfl rfl)
theorem dX2_leaving_46 : decode cX2_leaving 46 = .ok (.istore 5, 2) := dk_54 5 (dk_at dksX2_leaving_1 22 rfl rfl)
theorem dX2_leaving_48 : decode cX2_leaving 48 = .ok (.iload 5, 2) := dk_21 5 (dk_at dksX2_leaving_2 0 rfl rfl)
theorem dX2_leaving_50 : decode cX2_leaving 50 = .ok (.iload_n 2, 1) := dk_28 (dk_at dksX2_leaving_2 2 rfl rfl)
theorem dX2_leaving_51 : decode cX2_leaving 51 = .ok (.if_icmp .gt 39, 3) := dk_163 0 39 (dk_at dksX2_leaving_2 3 rfl rfl)
theorem dX2_leaving_54 : decode cX2_leaving 54 = .ok (.iload 4, 2) := dk_21 4 (dk_at dksX2_leaving_2 6 rfl rfl)
theorem dX2_leaving_56 : decode cX2_leaving 56 = .ok (.ifCond .ne 34, 3) := dk_154 0 34 (dk_at dksX2_leaving_2 8 rfl rfl)
theorem dX2_leaving_59 : decode cX2_leaving 59 = .ok (.aload_n 3, 1) := dk_45 (dk_at dksX2_leaving_2 11 rfl rfl)
theorem dX2_leaving_60 : decode cX2_leaving 60 = .ok (.aload_n 0, 1) := dk_42 (dk_at dksX2_leaving_2 12 rfl rfl)
theorem dX2_leaving_61 : decode cX2_leaving 61 = .ok (.iload 5, 2) := dk_21 5 (dk_at dksX2_leaving_2 13 rfl rfl)
theorem dX2_leaving_63 : decode cX2_leaving 63 = .ok (.invokevirtual 106, 3) := dk_182 0 106 (dk_at dksX2_leaving_2 15 rfl rfl)
theorem dX2_leaving_66 : decode cX2_leaving 66 = .ok (.invokevirtual 97, 3) := dk_182 0 97 (dk_at dksX2_leaving_2 18 rfl rfl)
theorem dX2_leaving_69 : decode cX2_leaving 69 = .ok (.sipush (-999), 3) := dk_17 252 25 (dk_at dksX2_leaving_2 21 rfl rfl)
theorem dX2_leaving_72 : decode cX2_leaving 72 = .ok (.sipush 999, 3) := dk_17 3 231 (dk_at dksX2_leaving_3 0 rfl rfl)
theorem dX2_leaving_75 : decode cX2_leaving 75 = .ok (.invokestatic 109, 3) := dk_184 0 109 (dk_at dksX2_leaving_3 3 rfl rfl)
theorem dX2_leaving_78 : decode cX2_leaving 78 = .ok (.ifCond .ne 6, 3) := dk_154 0 6 (dk_at dksX2_leaving_3 6 rfl rfl)
theorem dX2_leaving_81 : decode cX2_leaving 81 = .ok (.iload 5, 2) := dk_21 5 (dk_at dksX2_leaving_3 9 rfl rfl)
theorem dX2_leaving_83 : decode cX2_leaving 83 = .ok (.ireturn, 1) := dk_172 (dk_at dksX2_leaving_3 11 rfl rfl)
theorem dX2_leaving_84 : decode cX2_leaving 84 = .ok (.iinc 5 1, 3) := dk_132 5 1 (dk_at dksX2_leaving_3 12 rfl rfl)
theorem dX2_leaving_87 : decode cX2_leaving 87 = .ok (.goto (-39), 3) := dk_167 255 217 (dk_at dksX2_leaving_3 15 rfl rfl)
theorem dX2_leaving_90 : decode cX2_leaving 90 = .ok (.iconst (-1), 1) := dk_2 (dk_at dksX2_leaving_3 18 rfl rfl)
theorem dX2_leaving_91 : decode cX2_leaving 91 = .ok (.ireturn, 1) := dk_172 (dk_at dksX2_leaving_3 19 rfl rfl)
abbrev cX12_isAlike : ByteArray := prog_17_method_2_code
def yX12_isAlike : MethodName := ⟨RX12, "isAlike", "(LSpanRuler$Version;I)Z"⟩
def dkwX12_isAlike_1 : List UInt8 := [180, 0, 15, 28, 46, 160, 0, 7, 4, 167, 0, 4, 3, 172]
abbrev dktX12_isAlike_1 : List UInt8 := dkwX12_isAlike_1 ++ []
def dkwX12_isAlike_0 : List UInt8 := [42, 180, 0, 9, 28, 46, 43, 180, 0, 9, 28, 46, 160, 0, 22, 42, 180, 0, 15, 28, 46, 43]
abbrev dktX12_isAlike_0 : List UInt8 := dkwX12_isAlike_0 ++ dktX12_isAlike_1
theorem dksX12_isAlike_0 : cX12_isAlike.data.toList.drop 0 = dktX12_isAlike_0 := by decide +kernel
theorem dksX12_isAlike_1 : cX12_isAlike.data.toList.drop 22 = dktX12_isAlike_1 := dk_seg dksX12_isAlike_0 22 rfl rfl
theorem dX12_isAlike_0 : decode cX12_isAlike 0 = .ok (.aload_n 0, 1) := dk_42 (dk_at dksX12_isAlike_0 0 rfl rfl)
theorem dX12_isAlike_1 : decode cX12_isAlike 1 = .ok (.getfield 9, 3) := dk_180 0 9 (dk_at dksX12_isAlike_0 1 rfl rfl)
theorem dX12_isAlike_4 : decode cX12_isAlike 4 = .ok (.iload_n 2, 1) := dk_28 (dk_at dksX12_isAlike_0 4 rfl rfl)
theorem dX12_isAlike_5 : decode cX12_isAlike 5 = .ok (.iaload, 1) := dk_46 (dk_at dksX12_isAlike_0 5 rfl rfl)
theorem dX12_isAlike_6 : decode cX12_isAlike 6 = .ok (.aload_n 1, 1) := dk_43 (dk_at dksX12_isAlike_0 6 rfl rfl)
theorem dX12_isAlike_7 : decode cX12_isAlike 7 = .ok (.getfield 9, 3) := dk_180 0 9 (dk_at dksX12_isAlike_0 7 rfl rfl)
theorem dX12_isAlike_10 : decode cX12_isAlike 10 = .ok (.iload_n 2, 1) := dk_28 (dk_at dksX12_isAlike_0 10 rfl rfl)
theorem dX12_isAlike_11 : decode cX12_isAlike 11 = .ok (.iaload, 1) := dk_46 (dk_at dksX12_isAlike_0 11 rfl rfl)
theorem dX12_isAlike_12 : decode cX12_isAlike 12 = .ok (.if_icmp .ne 22, 3) := dk_160 0 22 (dk_at dksX12_isAlike_0 12 rfl rfl)
theorem dX12_isAlike_15 : decode cX12_isAlike 15 = .ok (.aload_n 0, 1) := dk_42 (dk_at dksX12_isAlike_0 15 rfl rfl)
theorem dX12_isAlike_16 : decode cX12_isAlike 16 = .ok (.getfield 15, 3) := dk_180 0 15 (dk_at dksX12_isAlike_0 16 rfl rfl)
theorem dX12_isAlike_19 : decode cX12_isAlike 19 = .ok (.iload_n 2, 1) := dk_28 (dk_at dksX12_isAlike_0 19 rfl rfl)
theorem dX12_isAlike_20 : decode cX12_isAlike 20 = .ok (.iaload, 1) := dk_46 (dk_at dksX12_isAlike_0 20 rfl rfl)
theorem dX12_isAlike_21 : decode cX12_isAlike 21 = .ok (.aload_n 1, 1) := dk_43 (dk_at dksX12_isAlike_0 21 rfl rfl)
theorem dX12_isAlike_22 : decode cX12_isAlike 22 = .ok (.getfield 15, 3) := dk_180 0 15 (dk_at dksX12_isAlike_1 0 rfl rfl)
theorem dX12_isAlike_25 : decode cX12_isAlike 25 = .ok (.iload_n 2, 1) := dk_28 (dk_at dksX12_isAlike_1 3 rfl rfl)
theorem dX12_isAlike_26 : decode cX12_isAlike 26 = .ok (.iaload, 1) := dk_46 (dk_at dksX12_isAlike_1 4 rfl rfl)
theorem dX12_isAlike_27 : decode cX12_isAlike 27 = .ok (.if_icmp .ne 7, 3) := dk_160 0 7 (dk_at dksX12_isAlike_1 5 rfl rfl)
theorem dX12_isAlike_30 : decode cX12_isAlike 30 = .ok (.iconst 1, 1) := dk_4 (dk_at dksX12_isAlike_1 8 rfl rfl)
theorem dX12_isAlike_31 : decode cX12_isAlike 31 = .ok (.goto 4, 3) := dk_167 0 4 (dk_at dksX12_isAlike_1 9 rfl rfl)
theorem dX12_isAlike_34 : decode cX12_isAlike 34 = .ok (.iconst 0, 1) := dk_3 (dk_at dksX12_isAlike_1 12 rfl rfl)
theorem dX12_isAlike_35 : decode cX12_isAlike 35 = .ok (.ireturn, 1) := dk_172 (dk_at dksX12_isAlike_1 13 rfl rfl)
abbrev cX12_differs : ByteArray := prog_17_method_3_code
def yX12_differs : MethodName := ⟨RX12, "differs", "(LSpanRuler$Version;II)I"⟩
def dkwX12_differs_1 : List UInt8 := [3, 167, 0, 4, 4, 96, 54, 4, 132, 5, 1, 167, 255, 227, 21, 4, 172]
abbrev dktX12_differs_1 : List UInt8 := dkwX12_differs_1 ++ []
def dkwX12_differs_0 : List UInt8 := [3, 54, 4, 28, 54, 5, 21, 5, 29, 163, 0, 29, 21, 4, 42, 43, 21, 5, 182, 0, 18, 153, 0, 7]
abbrev dktX12_differs_0 : List UInt8 := dkwX12_differs_0 ++ dktX12_differs_1
theorem dksX12_differs_0 : cX12_differs.data.toList.drop 0 = dktX12_differs_0 := by decide +kernel
theorem dksX12_differs_1 : cX12_differs.data.toList.drop 24 = dktX12_differs_1 := dk_seg dksX12_differs_0 24 rfl rfl
theorem dX12_differs_0 : decode cX12_differs 0 = .ok (.iconst 0, 1) := dk_3 (dk_at dksX12_differs_0 0 rfl rfl)
theorem dX12_differs_1 : decode cX12_differs 1 = .ok (.istore 4, 2) := dk_54 4 (dk_at dksX12_differs_0 1 rfl rfl)
theorem dX12_differs_3 : decode cX12_differs 3 = .ok (.iload_n 2, 1) := dk_28 (dk_at dksX12_differs_0 3 rfl rfl)
theorem dX12_differs_4 : decode cX12_differs 4 = .ok (.istore 5, 2) := dk_54 5 (dk_at dksX12_differs_0 4 rfl rfl)
theorem dX12_differs_6 : decode cX12_differs 6 = .ok (.iload 5, 2) := dk_21 5 (dk_at dksX12_differs_0 6 rfl rfl)
theorem dX12_differs_8 : decode cX12_differs 8 = .ok (.iload_n 3, 1) := dk_29 (dk_at dksX12_differs_0 8 rfl rfl)
theorem dX12_differs_9 : decode cX12_differs 9 = .ok (.if_icmp .gt 29, 3) := dk_163 0 29 (dk_at dksX12_differs_0 9 rfl rfl)
theorem dX12_differs_12 : decode cX12_differs 12 = .ok (.iload 4, 2) := dk_21 4 (dk_at dksX12_differs_0 12 rfl rfl)
theorem dX12_differs_14 : decode cX12_differs 14 = .ok (.aload_n 0, 1) := dk_42 (dk_at dksX12_differs_0 14 rfl rfl)
theorem dX12_differs_15 : decode cX12_differs 15 = .ok (.aload_n 1, 1) := dk_43 (dk_at dksX12_differs_0 15 rfl rfl)
theorem dX12_differs_16 : decode cX12_differs 16 = .ok (.iload 5, 2) := dk_21 5 (dk_at dksX12_differs_0 16 rfl rfl)
theorem dX12_differs_18 : decode cX12_differs 18 = .ok (.invokevirtual 18, 3) := dk_182 0 18 (dk_at dksX12_differs_0 18 rfl rfl)
theorem dX12_differs_21 : decode cX12_differs 21 = .ok (.ifCond .eq 7, 3) := dk_153 0 7 (dk_at dksX12_differs_0 21 rfl rfl)
theorem dX12_differs_24 : decode cX12_differs 24 = .ok (.iconst 0, 1) := dk_3 (dk_at dksX12_differs_1 0 rfl rfl)
theorem dX12_differs_25 : decode cX12_differs 25 = .ok (.goto 4, 3) := dk_167 0 4 (dk_at dksX12_differs_1 1 rfl rfl)
theorem dX12_differs_28 : decode cX12_differs 28 = .ok (.iconst 1, 1) := dk_4 (dk_at dksX12_differs_1 4 rfl rfl)
theorem dX12_differs_29 : decode cX12_differs 29 = .ok (.iadd, 1) := dk_96 (dk_at dksX12_differs_1 5 rfl rfl)
theorem dX12_differs_30 : decode cX12_differs 30 = .ok (.istore 4, 2) := dk_54 4 (dk_at dksX12_differs_1 6 rfl rfl)
theorem dX12_differs_32 : decode cX12_differs 32 = .ok (.iinc 5 1, 3) := dk_132 5 1 (dk_at dksX12_differs_1 8 rfl rfl)
theorem dX12_differs_35 : decode cX12_differs 35 = .ok (.goto (-29), 3) := dk_167 255 227 (dk_at dksX12_differs_1 11 rfl rfl)
theorem dX12_differs_38 : decode cX12_differs 38 = .ok (.iload 4, 2) := dk_21 4 (dk_at dksX12_differs_1 14 rfl rfl)
theorem dX12_differs_40 : decode cX12_differs 40 = .ok (.ireturn, 1) := dk_172 (dk_at dksX12_differs_1 16 rfl rfl)
theorem q1059 : (Jvm.Cond.methodLink "SpanRuler$Ruler" (97 : Nat) ({ cls := "SpanRuler$Act", name := "on", desc := "(I)I" } : Jvm.MethodName)) ∈ lw_all := lw_g (lw_at lw_m5 39 rfl) rfl
theorem q1069 : (Jvm.Cond.methodLinkNest "SpanRuler$Ruler" (109 : Nat) ({ cls := "SpanRuler", name := "isIn", desc := "(III)Z" } : Jvm.MethodName) "SpanRuler") ∈ lw_tbl := lw_at lw_m5 49 rfl
theorem q1479 : (Jvm.Cond.fieldLink "SpanRuler$Version" (9 : Nat) "SpanRuler$Version" "numbers" "[I") ∈ lw_all := lw_g (lw_at lw_m6 219 rfl) rfl
theorem q1482 : (Jvm.Cond.fieldLink "SpanRuler$Version" (15 : Nat) "SpanRuler$Version" "colours" "[I") ∈ lw_all := lw_g (lw_at lw_m6 222 rfl) rfl
theorem q1510 : (Jvm.Cond.methodLink "SpanRuler$Version" (18 : Nat) ({ cls := "SpanRuler$Version", name := "isAlike", desc := "(LSpanRuler$Version;I)Z" } : Jvm.MethodName)) ∈ lw_all := lw_g (lw_at lw_m7 10 rfl) rfl
theorem q99 : (Jvm.Cond.initialized "SpanRuler$Version") ∈ lw_all := lw_g (lw_at lw_m1 39 rfl) rfl
theorem q1513 : (Jvm.Cond.code ({ cls := "SpanRuler$Version", name := "isAlike", desc := "(LSpanRuler$Version;I)Z" } : Jvm.MethodName) prog_17_method_2_code (3 : Nat) (Option.some Jvm.ClassFile.FieldType.boolean)) ∈ lw_all := lw_g (lw_at lw_m7 13 rfl) rfl
theorem q1511 : (Jvm.Cond.instanceMethod ({ cls := "SpanRuler$Version", name := "isAlike", desc := "(LSpanRuler$Version;I)Z" } : Jvm.MethodName)) ∈ lw_all := lw_g (lw_at lw_m7 11 rfl) rfl
theorem q1512 : (Jvm.Cond.selects "SpanRuler$Version" ({ cls := "SpanRuler$Version", name := "isAlike", desc := "(LSpanRuler$Version;I)Z" } : Jvm.MethodName) ({ cls := "SpanRuler$Version", name := "isAlike", desc := "(LSpanRuler$Version;I)Z" } : Jvm.MethodName)) ∈ lw_all := lw_g (lw_at lw_m7 12 rfl) rfl
/-- an act's factor and shift, by its kind -/
def fK (k : Int32) : Int32 := if k = 0 then 1 else if k = 1 then 0 else -1
def sK (k x : Int32) : Int32 := if k = 0 then x else if k = 1 then x else 0
theorem mby_fs (k w x : Int32) : mby k w x = fK k * w + sK k x := by
  unfold mby fK sK
  split
  · rw [Int32.one_mul]
  · split
    · rw [Int32.zero_mul, Int32.zero_add]
    · rw [Int32.neg_mul, Int32.one_mul, Int32.add_zero]
theorem fK_fac (k : Int32) : fac (fK k) := by
  unfold fK
  split
  · exact Or.inr (Or.inl rfl)
  · split
    · exact Or.inl rfl
    · exact Or.inr (Or.inr rfl)
theorem inR_int {x lo hi : Int32} (h : inR x lo hi = true) : lo.toInt ≤ x.toInt ∧ x.toInt ≤ hi.toInt := by
  obtain ⟨h1, h2⟩ := inR_i.mp h
  rw [Int32.le_iff_toInt_le] at h1 h2
  exact ⟨h1, h2⟩
/-- when the greatest and the least stay in their range, all do -/
theorem safe_all {k x g m w : Int32} (hn : isNu k x = true) (hg : rg g) (hm : rg m) (hw : rg w) (h1 : w ≤ g) (h2 : m ≤ w) (s1 : fK k * g + sK k x ≤ 999) (s2 : -999 ≤ fK k * m + sK k x) : rg (mby k w x) := by
  unfold mby
  unfold isNu at hn
  unfold fK sK at s1 s2
  have ig := rg_int hg
  have im := rg_int hm
  have iw := rg_int hw
  by_cases k0 : k = 0
  · rw [if_pos k0] at hn s1 s2 ⊢
    rw [if_pos k0] at s1 s2
    rw [Int32.one_mul] at s1 s2
    have ix := inR_int hn
    have e1 : ((-99 : Int32)).toInt = -99 := rfl
    have e2 : ((99 : Int32)).toInt = 99 := rfl
    have a1 : (g + x).toInt = g.toInt + x.toInt := by rw [Int32.toInt_add, Int.bmod_eq_of_le (by omega) (by omega)]
    have a2 : (m + x).toInt = m.toInt + x.toInt := by rw [Int32.toInt_add, Int.bmod_eq_of_le (by omega) (by omega)]
    have a3 : (w + x).toInt = w.toInt + x.toInt := by rw [Int32.toInt_add, Int.bmod_eq_of_le (by omega) (by omega)]
    rw [Int32.le_iff_toInt_le] at h1 h2 s1 s2
    have e3 : ((999 : Int32)).toInt = 999 := rfl
    have e4 : ((-999 : Int32)).toInt = -999 := rfl
    exact rg_of (by omega) (by omega)
  · rw [if_neg k0] at hn s1 s2 ⊢
    rw [if_neg k0] at s1 s2
    by_cases k1 : k = 1
    · rw [if_pos k1] at hn ⊢; exact hn
    · rw [if_neg k1]; exact rg_negr hw
theorem x_leaving (l : Launch) (G : GE) (h : AH) (P : Nat → Prop) (a : Nat) (R : Nat → Int32) (rt cl nl vl : Nat) (i3 i4 i5 i0 i6 i7 : Int32) (q0 : RQ G h P a R rt cl [.ref nl, .ref vl, .int i3, .int i4, .int i5, .int i0, .int i6, .int i7]) (i j : Nat) (hij : i ≤ j) (hj : j < 32) (u : Nat) (k x : Int32) (hn : isNu k x = true) (ru : h u = some (ob 4 [.int (fK k), .int (sK k x)])) : GM l G yX2_leaving (ws_ yX2_leaving cX2_leaving 6 (some .int)) 12 [.ref a, .int (nI i), .int (nI j), .ref u] (h) (1800) (PR fun u h' => u = .int (lvF R k x (j + 1 - i) i) ∧ RQ G h' P a R rt cl [.ref nl, .ref vl, .int i3, .int i4, .int i5, .int i0, .int i6, .int i7] ∧ Chg P 0 32 h h') := by
  refine GM.of (by decide) (dk rfl) ?_
  intro X eL eG eh ok fn
  subst eL; subst eG
  show GW X _ 0 0 [some (.ref a), some (.int (nI i)), some (.int (nI j)), some (.ref u), none, none] []
  obtain ⟨ra1, rT1, cf1, rc1, rf1⟩ := id q0
  have rr := rT1.rng
  have s5 : sz 5 = 32 := rfl
  refine g_aload_n ok dX2_leaving_0 rfl ?_
  refine g_aload_n ok dX2_leaving_1 rfl ?_
  refine g_get ok ck_X2 0 q243 (Or.inl rfl) (by decide) dX2_leaving_2 (Rd.h (ra1)) rfl ?_
  refine g_iload_n ok dX2_leaving_5 rfl ?_
  refine g_iload_n ok dX2_leaving_6 rfl ?_
  refine g_callSN ok q1054 q1055 q61 q1056 dX2_leaving_7 (q_greatestOf X.l X.G P i j (by omega) (by omega) 5 _ _ 0 rt 100 rT1 (by decide) (cst_two i (by omega) j (by omega))) (nm_ (by decide : nmb _ 3 = true)) (dl rfl) (dk rfl) rfl rfl (dk rfl) (by omega) (kR fun u1_ h1_ ⟨g1_, e1_, s1_, t1_, c1_⟩ => ?_) xR
  subst e1_
  have q1_ := RQ.chg q0 c1_ t1_
  obtain ⟨ra2, rT2, cf2, rc2, rf2⟩ := id q1_
  refine g_callV ok q1059 q958 q959 q67 q960 (Recv.ob ok gc_X7 (Rd.h (Chg.other c1_ (ru) ⟨by decide, by decide⟩))) dX2_leaving_10 (x_on X.l X.G _ u (fK k) (sK k x) (Rd.h (Chg.other c1_ (ru) ⟨by decide, by decide⟩)) g1_) (nm_ (by decide : nmb _ 1 = true)) (dl rfl) (dk rfl) rfl rfl (dk rfl) (by omega) (kV ?_) xV
  refine g_sipush ok (v := 999) dX2_leaving_13 rfl ?_
  refine g_icmp_gt ok (tgt := 42) dX2_leaving_16 (by decide) (fun c16 => ?_) (fun c16 => ?_)
  · have c16' := Int32.not_le.mpr c16
    refine g_iconst ok (v := 0) dX2_leaving_42 rfl ?_
    refine g_istore ok dX2_leaving_43 (ls1 := [some (.ref a), some (.int (nI i)), some (.int (nI j)), some (.ref u), some (.int 0), none]) (dl rfl) rfl ?_
    refine g_iload_n ok dX2_leaving_45 rfl ?_
    refine g_istore ok dX2_leaving_46 (ls1 := [some (.ref a), some (.int (nI i)), some (.int (nI j)), some (.ref u), some (.int 0), some (.int (nI i))]) (dl rfl) rfl ?_
    have lp : ∀ (n : Nat) (c : Nat) (Hlp : AH) (klp : Nat), (c + n = j + 1) → (lvF R k x n c = lvF R k x (j + 1 - i) i) → (RQ X.G Hlp P a R rt cl [.ref nl, .ref vl, .int i3, .int i4, .int i5, .int i0, .int i6, .int i7]) → (Chg P 0 32 h Hlp) → (Hlp u = some (ob 4 [.int (fK k), .int (sK k x)])) → (klp + 48 * n ≤ 1800) → GW X Hlp klp 48 [some (.ref a), some (.int (nI i)), some (.int (nI j)), some (.ref u), some (.int 0), some (.int (nI c))] [] := by
      intro n
      induction n with
      | zero => 
        intro c Hlp klp lph0 lph1 qlp glp ulp blp
        obtain ⟨ra3, rT3, cf3, rc3, rf3⟩ := id qlp
        refine g_iload ok dX2_leaving_48 rfl ?_
        refine g_iload_n ok dX2_leaving_50 rfl ?_
        refine g_icmp_gt ok (tgt := 90) dX2_leaving_51 (by decide) (fun _ => ?_) (fun c_ => absurd (nI_lt (a := j) (b := c) (by omega) (by omega)) c_)
        refine g_iconst ok (v := -1) dX2_leaving_90 rfl ?_
        exact g_iret ok fn rfl dX2_leaving_91 ⟨_, rfl, congrArg Value.int lph1, qlp, glp⟩ (by omega)
      | succ n ih => 
        intro c Hlp klp lph0 lph1 qlp glp ulp blp
        obtain ⟨ra3, rT3, cf3, rc3, rf3⟩ := id qlp
        refine g_iload ok dX2_leaving_48 rfl ?_
        refine g_iload_n ok dX2_leaving_50 rfl ?_
        refine g_icmp_gt ok (tgt := 90) dX2_leaving_51 (by decide) (fun c_ => absurd c_ (nI_nlt (a := j) (b := c) (by omega) (by omega))) (fun _ => ?_)
        refine g_iload ok dX2_leaving_54 rfl ?_
        refine g_if_ne ok (tgt := 90) dX2_leaving_56 (by decide) (fun c_ => absurd rfl c_) (fun _ => ?_)
        refine g_aload_n ok dX2_leaving_59 rfl ?_
        refine g_aload_n ok dX2_leaving_60 rfl ?_
        refine g_iload ok dX2_leaving_61 rfl ?_
        refine g_callV ok q1065 q1066 q1067 q62 q1068 (Recv.ob ok gc_X2 (Rd.h (ra3))) dX2_leaving_63 (x_number X.l X.G _ P a R rt cl nl vl i3 i4 i5 i0 i6 i7 qlp c (by omega)) (nm_ (by decide : nmb _ 1 = true)) (dl rfl) (dk rfl) rfl rfl (dk rfl) (by omega) (kR fun u2_ h2_ ⟨e2_, q2_, g2_⟩ => ?_) xR
        subst e2_
        obtain ⟨ra4, rT4, cf4, rc4, rf4⟩ := id q2_
        refine g_callV ok q1059 q958 q959 q67 q960 (Recv.ob ok gc_X7 (Rd.h (Chg.other g2_ (ulp) ⟨by decide, by decide⟩))) dX2_leaving_66 (x_on X.l X.G _ u (fK k) (sK k x) (Rd.h (Chg.other g2_ (ulp) ⟨by decide, by decide⟩)) (R (8 + c))) (nm_ (by decide : nmb _ 1 = true)) (dl rfl) (dk rfl) rfl rfl (dk rfl) (by omega) (kV ?_) xV
        rw [← mby_fs]
        refine g_sipush ok (v := -999) dX2_leaving_69 rfl ?_
        refine g_sipush ok (v := 999) dX2_leaving_72 rfl ?_
        refine g_callSN ok q1069 q1002 q61 q1003 dX2_leaving_75 (x_isIn X.l X.G _ (mby k (R (8 + c)) x) (-999) 999) (nm_ (by decide : nmb _ 3 = true)) (dl rfl) (dk rfl) rfl rfl (dk rfl) (by omega) (kV ?_) xV
        refine g_if_ne ok (tgt := 84) dX2_leaving_78 (by decide) (fun c78 => ?_) (fun c78 => ?_)
        · have c78' := bI_n c78
          refine g_iincN ok dX2_leaving_84 (c := c) rfl rfl (ls1 := [some (.ref a), some (.int (nI i)), some (.int (nI j)), some (.ref u), some (.int 0), some (.int (nI (c + 1)))]) rfl ?_
          refine g_goto ok dX2_leaving_87 (tgt := 48) (by decide) ?_
          exact ih (c + 1) _ _ (by omega) (by rw [← lph1, lvF, c78']; rfl) q2_ ((glp).trans g2_) (Chg.other g2_ (ulp) ⟨by decide, by decide⟩) (by omega)
        · have c78' := bI_e c78
          refine g_iload ok dX2_leaving_81 rfl ?_
          exact g_iret ok fn rfl dX2_leaving_83 ⟨_, rfl, congrArg Value.int (by rw [← lph1, lvF, c78']; rfl), q2_, (glp).trans g2_⟩ (by omega)
    exact lp (j + 1 - i) i _ _ (by omega) rfl q1_ ((Chg.refl _ _ _ _).trans c1_) (Chg.other c1_ (ru) ⟨by decide, by decide⟩) (by omega)
  · have c16' := Int32.not_lt.mp c16
    refine g_aload_n ok dX2_leaving_19 rfl ?_
    refine g_aload_n ok dX2_leaving_20 rfl ?_
    refine g_get ok ck_X2 0 q243 (Or.inl rfl) (by decide) dX2_leaving_21 (Rd.h (ra2)) rfl ?_
    refine g_iload_n ok dX2_leaving_24 rfl ?_
    refine g_iload_n ok dX2_leaving_25 rfl ?_
    refine g_callSN ok q1060 q1061 q61 q1062 dX2_leaving_26 (q_leastOf X.l X.G P i j (by omega) (by omega) 5 _ _ 0 rt 100 rT2 (by decide) (cst_two i (by omega) j (by omega))) (nm_ (by decide : nmb _ 3 = true)) (dl rfl) (dk rfl) rfl rfl (dk rfl) (by omega) (kR fun u2_ h2_ ⟨g2_, e2_, s2_, t2_, c2_⟩ => ?_) xR
    subst e2_
    have q2_ := RQ.chg q1_ c2_ t2_
    obtain ⟨ra3, rT3, cf3, rc3, rf3⟩ := id q2_
    refine g_callV ok q1059 q958 q959 q67 q960 (Recv.ob ok gc_X7 (Rd.h (Chg.other c2_ ((Chg.other c1_ (ru) ⟨by decide, by decide⟩)) ⟨by decide, by decide⟩))) dX2_leaving_29 (x_on X.l X.G _ u (fK k) (sK k x) (Rd.h (Chg.other c2_ ((Chg.other c1_ (ru) ⟨by decide, by decide⟩)) ⟨by decide, by decide⟩)) g2_) (nm_ (by decide : nmb _ 1 = true)) (dl rfl) (dk rfl) rfl rfl (dk rfl) (by omega) (kV ?_) xV
    refine g_sipush ok (v := -999) dX2_leaving_32 rfl ?_
    refine g_icmp_lt ok (tgt := 42) dX2_leaving_35 (by decide) (fun c35 => ?_) (fun c35 => ?_)
    · have c35' := Int32.not_le.mpr c35
      refine g_iconst ok (v := 0) dX2_leaving_42 rfl ?_
      refine g_istore ok dX2_leaving_43 (ls1 := [some (.ref a), some (.int (nI i)), some (.int (nI j)), some (.ref u), some (.int 0), none]) (dl rfl) rfl ?_
      refine g_iload_n ok dX2_leaving_45 rfl ?_
      refine g_istore ok dX2_leaving_46 (ls1 := [some (.ref a), some (.int (nI i)), some (.int (nI j)), some (.ref u), some (.int 0), some (.int (nI i))]) (dl rfl) rfl ?_
      have lp : ∀ (n : Nat) (c : Nat) (Hlp : AH) (klp : Nat), (c + n = j + 1) → (lvF R k x n c = lvF R k x (j + 1 - i) i) → (RQ X.G Hlp P a R rt cl [.ref nl, .ref vl, .int i3, .int i4, .int i5, .int i0, .int i6, .int i7]) → (Chg P 0 32 h Hlp) → (Hlp u = some (ob 4 [.int (fK k), .int (sK k x)])) → (klp + 48 * n ≤ 1800) → GW X Hlp klp 48 [some (.ref a), some (.int (nI i)), some (.int (nI j)), some (.ref u), some (.int 0), some (.int (nI c))] [] := by
        intro n
        induction n with
        | zero => 
          intro c Hlp klp lph0 lph1 qlp glp ulp blp
          obtain ⟨ra4, rT4, cf4, rc4, rf4⟩ := id qlp
          refine g_iload ok dX2_leaving_48 rfl ?_
          refine g_iload_n ok dX2_leaving_50 rfl ?_
          refine g_icmp_gt ok (tgt := 90) dX2_leaving_51 (by decide) (fun _ => ?_) (fun c_ => absurd (nI_lt (a := j) (b := c) (by omega) (by omega)) c_)
          refine g_iconst ok (v := -1) dX2_leaving_90 rfl ?_
          exact g_iret ok fn rfl dX2_leaving_91 ⟨_, rfl, congrArg Value.int lph1, qlp, glp⟩ (by omega)
        | succ n ih => 
          intro c Hlp klp lph0 lph1 qlp glp ulp blp
          obtain ⟨ra4, rT4, cf4, rc4, rf4⟩ := id qlp
          refine g_iload ok dX2_leaving_48 rfl ?_
          refine g_iload_n ok dX2_leaving_50 rfl ?_
          refine g_icmp_gt ok (tgt := 90) dX2_leaving_51 (by decide) (fun c_ => absurd c_ (nI_nlt (a := j) (b := c) (by omega) (by omega))) (fun _ => ?_)
          refine g_iload ok dX2_leaving_54 rfl ?_
          refine g_if_ne ok (tgt := 90) dX2_leaving_56 (by decide) (fun c_ => absurd rfl c_) (fun _ => ?_)
          refine g_aload_n ok dX2_leaving_59 rfl ?_
          refine g_aload_n ok dX2_leaving_60 rfl ?_
          refine g_iload ok dX2_leaving_61 rfl ?_
          refine g_callV ok q1065 q1066 q1067 q62 q1068 (Recv.ob ok gc_X2 (Rd.h (ra4))) dX2_leaving_63 (x_number X.l X.G _ P a R rt cl nl vl i3 i4 i5 i0 i6 i7 qlp c (by omega)) (nm_ (by decide : nmb _ 1 = true)) (dl rfl) (dk rfl) rfl rfl (dk rfl) (by omega) (kR fun u3_ h3_ ⟨e3_, q3_, g3_⟩ => ?_) xR
          subst e3_
          obtain ⟨ra5, rT5, cf5, rc5, rf5⟩ := id q3_
          refine g_callV ok q1059 q958 q959 q67 q960 (Recv.ob ok gc_X7 (Rd.h (Chg.other g3_ (ulp) ⟨by decide, by decide⟩))) dX2_leaving_66 (x_on X.l X.G _ u (fK k) (sK k x) (Rd.h (Chg.other g3_ (ulp) ⟨by decide, by decide⟩)) (R (8 + c))) (nm_ (by decide : nmb _ 1 = true)) (dl rfl) (dk rfl) rfl rfl (dk rfl) (by omega) (kV ?_) xV
          rw [← mby_fs]
          refine g_sipush ok (v := -999) dX2_leaving_69 rfl ?_
          refine g_sipush ok (v := 999) dX2_leaving_72 rfl ?_
          refine g_callSN ok q1069 q1002 q61 q1003 dX2_leaving_75 (x_isIn X.l X.G _ (mby k (R (8 + c)) x) (-999) 999) (nm_ (by decide : nmb _ 3 = true)) (dl rfl) (dk rfl) rfl rfl (dk rfl) (by omega) (kV ?_) xV
          refine g_if_ne ok (tgt := 84) dX2_leaving_78 (by decide) (fun c78 => ?_) (fun c78 => ?_)
          · have c78' := bI_n c78
            refine g_iincN ok dX2_leaving_84 (c := c) rfl rfl (ls1 := [some (.ref a), some (.int (nI i)), some (.int (nI j)), some (.ref u), some (.int 0), some (.int (nI (c + 1)))]) rfl ?_
            refine g_goto ok dX2_leaving_87 (tgt := 48) (by decide) ?_
            exact ih (c + 1) _ _ (by omega) (by rw [← lph1, lvF, c78']; rfl) q3_ ((glp).trans g3_) (Chg.other g3_ (ulp) ⟨by decide, by decide⟩) (by omega)
          · have c78' := bI_e c78
            refine g_iload ok dX2_leaving_81 rfl ?_
            exact g_iret ok fn rfl dX2_leaving_83 ⟨_, rfl, congrArg Value.int (by rw [← lph1, lvF, c78']; rfl), q3_, (glp).trans g3_⟩ (by omega)
      exact lp (j + 1 - i) i _ _ (by omega) rfl q2_ (((Chg.refl _ _ _ _).trans c1_).trans c2_) (Chg.other c2_ ((Chg.other c1_ (ru) ⟨by decide, by decide⟩)) ⟨by decide, by decide⟩) (by omega)
    · have c35' := Int32.not_lt.mp c35
      refine g_iconst ok (v := 1) dX2_leaving_38 rfl ?_
      refine g_goto ok dX2_leaving_39 (tgt := 43) (by decide) ?_
      refine g_istore ok dX2_leaving_43 (ls1 := [some (.ref a), some (.int (nI i)), some (.int (nI j)), some (.ref u), some (.int 1), none]) (dl rfl) rfl ?_
      refine g_iload_n ok dX2_leaving_45 rfl ?_
      refine g_istore ok dX2_leaving_46 (ls1 := [some (.ref a), some (.int (nI i)), some (.int (nI j)), some (.ref u), some (.int 1), some (.int (nI i))]) (dl rfl) rfl ?_
      refine g_iload ok dX2_leaving_48 rfl ?_
      refine g_iload_n ok dX2_leaving_50 rfl ?_
      refine g_icmp_gt ok (tgt := 90) dX2_leaving_51 (by decide) (fun c_ => absurd c_ (nI_nlt (a := j) (b := i) (by omega) (by omega))) (fun _ => ?_)
      refine g_iload ok dX2_leaving_54 rfl ?_
      refine g_if_ne ok (tgt := 90) dX2_leaving_56 (by decide) (fun _ => ?_) (fun c_ => absurd c_ (by decide))
      have al : ∀ c, i ≤ c → c < i + (j + 1 - i) → inR (mby k (R (8 + c)) x) (-999) 999 = true := fun c a b => by
        have hgg := s1_
        have hmm := s2_
        have rgg : rg g1_ := hgg.2.elim (fun ⟨c, p1, p2, p3, p4, p5⟩ => by rw [← p5]; exact rr c p1 p2) (fun p => (p.2 i (Nat.zero_le _) (by omega) (Nat.le_refl _) hij).elim)
        have rmm : rg g2_ := hmm.2.elim (fun ⟨c, p1, p2, p3, p4, p5⟩ => by rw [← p5]; exact rr c p1 p2) (fun p => (p.2 i (Nat.zero_le _) (by omega) (Nat.le_refl _) hij).elim)
        exact safe_all hn rgg rmm (rr c (Nat.zero_le _) (by omega)) (hgg.1 c (Nat.zero_le _) (by omega) a (by omega)) (hmm.1 c (Nat.zero_le _) (by omega) a (by omega)) (Int32.not_lt.mp c16) (Int32.not_lt.mp c35)
      refine g_iconst ok (v := -1) dX2_leaving_90 rfl ?_
      exact g_iret ok fn rfl dX2_leaving_91 ⟨_, rfl, congrArg Value.int (lvF_no _ _ al).symm, q2_, ((Chg.refl _ _ _ _).trans c1_).trans c2_⟩ (by omega)
theorem x_alikeV (l : Launch) (G : GE) (h : AH) (a b na ca nb cb : Nat) (p q r s : Nat → Int32) (ra : h a = some (ob 8 [.ref na, .ref ca])) (rb : h b = some (ob 8 [.ref nb, .ref cb])) (r1 : h na = some (aI G 32 p)) (r2 : h ca = some (aI G 32 q)) (r3 : h nb = some (aI G 32 r)) (r4 : h cb = some (aI G 32 s)) (c : Nat) (hc : c < 32) : GM l G yX12_isAlike (ws_ yX12_isAlike cX12_isAlike 3 (some .boolean)) 1 [.ref a, .ref b, .int (nI c)] (h) (0) (PV (.int (bI (decide (p c = r c) && decide (q c = s c)))) h) := by
  refine GM.of (by decide) (dk rfl) ?_
  intro X eL eG eh ok fn
  subst eL; subst eG
  show GW X _ 0 0 [some (.ref a), some (.ref b), some (.int (nI c))] []
  refine g_aload_n ok dX12_isAlike_0 rfl ?_
  refine g_get ok ck_X12 0 q1479 (Or.inl rfl) (by decide) dX12_isAlike_1 (Rd.h ra) rfl ?_
  refine g_iload_n ok dX12_isAlike_4 rfl ?_
  refine g_iald ok (j := c) dX12_isAlike_5 (Rd.h r1) rfl (by omega) (by omega) ?_
  refine g_aload_n ok dX12_isAlike_6 rfl ?_
  refine g_get ok ck_X12 0 q1479 (Or.inl rfl) (by decide) dX12_isAlike_7 (Rd.h rb) rfl ?_
  refine g_iload_n ok dX12_isAlike_10 rfl ?_
  refine g_iald ok (j := c) dX12_isAlike_11 (Rd.h r3) rfl (by omega) (by omega) ?_
  refine g_icmp_ne ok (tgt := 34) dX12_isAlike_12 (by decide) (fun c12 => ?_) (fun c12 => ?_)
  · refine g_iconst ok (v := 0) dX12_isAlike_34 rfl ?_
    exact g_zret ok fn rfl rfl dX12_isAlike_35 (pv_h (by simp [bI, c12])) (by omega)
  · refine g_aload_n ok dX12_isAlike_15 rfl ?_
    refine g_get ok ck_X12 1 q1482 (Or.inl rfl) (by decide) dX12_isAlike_16 (Rd.h ra) rfl ?_
    refine g_iload_n ok dX12_isAlike_19 rfl ?_
    refine g_iald ok (j := c) dX12_isAlike_20 (Rd.h r2) rfl (by omega) (by omega) ?_
    refine g_aload_n ok dX12_isAlike_21 rfl ?_
    refine g_get ok ck_X12 1 q1482 (Or.inl rfl) (by decide) dX12_isAlike_22 (Rd.h rb) rfl ?_
    refine g_iload_n ok dX12_isAlike_25 rfl ?_
    refine g_iald ok (j := c) dX12_isAlike_26 (Rd.h r4) rfl (by omega) (by omega) ?_
    refine g_icmp_ne ok (tgt := 34) dX12_isAlike_27 (by decide) (fun c27 => ?_) (fun c27 => ?_)
    · refine g_iconst ok (v := 0) dX12_isAlike_34 rfl ?_
      exact g_zret ok fn rfl rfl dX12_isAlike_35 (pv_h (by simp [bI, c12, c27])) (by omega)
    · refine g_iconst ok (v := 1) dX12_isAlike_30 rfl ?_
      refine g_goto ok dX12_isAlike_31 (tgt := 35) (by decide) ?_
      exact g_zret ok fn rfl rfl dX12_isAlike_35 (pv_h (by simp [bI, c12, c27])) (by omega)
theorem x_differs (l : Launch) (G : GE) (h : AH) (a b na ca nb cb : Nat) (p q r s : Nat → Int32) (ra : h a = some (ob 8 [.ref na, .ref ca])) (rb : h b = some (ob 8 [.ref nb, .ref cb])) (r1 : h na = some (aI G 32 p)) (r2 : h ca = some (aI G 32 q)) (r3 : h nb = some (aI G 32 r)) (r4 : h cb = some (aI G 32 s)) (i j : Nat) (hij : i ≤ j) (hj : j < 32) : GM l G yX12_differs (ws_ yX12_differs cX12_differs 6 (some .int)) 2 [.ref a, .ref b, .int (nI i), .int (nI j)] (h) (0) (PV (.int (dfv p q r s (j + 1 - i) i 0)) h) := by
  refine GM.of (by decide) (dk rfl) ?_
  intro X eL eG eh ok fn
  subst eL; subst eG
  show GW X _ 0 0 [some (.ref a), some (.ref b), some (.int (nI i)), some (.int (nI j)), none, none] []
  refine g_iconst ok (v := 0) dX12_differs_0 rfl ?_
  refine g_istore ok dX12_differs_1 (ls1 := [some (.ref a), some (.ref b), some (.int (nI i)), some (.int (nI j)), some (.int 0), none]) (dl rfl) rfl ?_
  refine g_iload_n ok dX12_differs_3 rfl ?_
  refine g_istore ok dX12_differs_4 (ls1 := [some (.ref a), some (.ref b), some (.int (nI i)), some (.int (nI j)), some (.int 0), some (.int (nI i))]) (dl rfl) rfl ?_
  have lp : ∀ (n : Nat) (c : Nat) (m : Int32), (c + n = j + 1) → (dfv p q r s n c m = dfv p q r s (j + 1 - i) i 0) → GW X h 0 6 [some (.ref a), some (.ref b), some (.int (nI i)), some (.int (nI j)), some (.int m), some (.int (nI c))] [] := by
    intro n
    induction n with
    | zero => 
      intro c m lph0 lph1
      refine g_iload ok dX12_differs_6 rfl ?_
      refine g_iload_n ok dX12_differs_8 rfl ?_
      refine g_icmp_gt ok (tgt := 38) dX12_differs_9 (by decide) (fun _ => ?_) (fun c_ => absurd (nI_lt (a := j) (b := c) (by omega) (by omega)) c_)
      refine g_iload ok dX12_differs_38 rfl ?_
      exact g_iret ok fn rfl dX12_differs_40 (pv_h lph1) (by omega)
    | succ n ih => 
      intro c m lph0 lph1
      refine g_iload ok dX12_differs_6 rfl ?_
      refine g_iload_n ok dX12_differs_8 rfl ?_
      refine g_icmp_gt ok (tgt := 38) dX12_differs_9 (by decide) (fun c_ => absurd c_ (nI_nlt (a := j) (b := c) (by omega) (by omega))) (fun _ => ?_)
      refine g_iload ok dX12_differs_12 rfl ?_
      refine g_aload_n ok dX12_differs_14 rfl ?_
      refine g_aload_n ok dX12_differs_15 rfl ?_
      refine g_iload ok dX12_differs_16 rfl ?_
      refine g_callV ok q1510 q1511 q1512 q99 q1513 (Recv.ob ok gc_X12 (Rd.h ra)) dX12_differs_18 (x_alikeV X.l X.G _ a b na ca nb cb p q r s ra rb r1 r2 r3 r4 c (by omega)) (nm_ (by decide : nmb _ 2 = true)) (dl rfl) (dk rfl) rfl rfl (dk rfl) (by omega) (kV ?_) xV
      refine g_if_eq ok (tgt := 28) dX12_differs_21 (by decide) (fun c21 => ?_) (fun c21 => ?_)
      · have c21' := bI_e c21
        refine g_iconst ok (v := 1) dX12_differs_28 rfl ?_
        refine g_iadd ok dX12_differs_29 ?_
        refine g_istore ok dX12_differs_30 (ls1 := [some (.ref a), some (.ref b), some (.int (nI i)), some (.int (nI j)), some (.int (m + 1)), some (.int (nI c))]) (dl rfl) rfl ?_
        refine g_iincN ok dX12_differs_32 (c := c) rfl rfl (ls1 := [some (.ref a), some (.ref b), some (.int (nI i)), some (.int (nI j)), some (.int (m + 1)), some (.int (nI (c + 1)))]) rfl ?_
        refine g_goto ok dX12_differs_35 (tgt := 6) (by decide) ?_
        exact ih (c + 1) (m + 1) (by omega) (by rw [← lph1, dfv]; first | rw [if_pos (by simpa using c21'), Int32.add_zero] | rw [if_neg (by simpa using c21')])
      · have c21' := bI_n c21
        refine g_iconst ok (v := 0) dX12_differs_24 rfl ?_
        refine g_goto ok dX12_differs_25 (tgt := 29) (by decide) ?_
        refine g_iadd ok dX12_differs_29 ?_
        refine g_istore ok dX12_differs_30 (ls1 := [some (.ref a), some (.ref b), some (.int (nI i)), some (.int (nI j)), some (.int (m + 0)), some (.int (nI c))]) (dl rfl) rfl ?_
        refine g_iincN ok dX12_differs_32 (c := c) rfl rfl (ls1 := [some (.ref a), some (.ref b), some (.int (nI i)), some (.int (nI j)), some (.int (m + 0)), some (.int (nI (c + 1)))]) rfl ?_
        refine g_goto ok dX12_differs_35 (tgt := 6) (by decide) ?_
        exact ih (c + 1) (m + 0) (by omega) (by rw [← lph1, dfv]; first | rw [if_pos (by simpa using c21'), Int32.add_zero] | rw [if_neg (by simpa using c21')])
  exact lp (j + 1 - i) i 0 (by omega) rfl
