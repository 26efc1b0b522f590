/-! the SpanRuler changes, 1 -/
set_option maxRecDepth 100000
abbrev cX1_set : ByteArray := prog_1_method_23_code
def yX1_set : MethodName := ⟨RX1, "set", "(III)I"⟩
def dkwX1_set_2 : List UInt8 := [182, 0, 200, 172]
abbrev dktX1_set_2 : List UInt8 := dkwX1_set_2 ++ []
def dkwX1_set_1 : List UInt8 := [184, 0, 170, 42, 180, 0, 126, 182, 0, 193, 58, 4, 42, 25, 4, 25, 4, 27, 28, 29, 182, 0, 208]
abbrev dktX1_set_1 : List UInt8 := dkwX1_set_1 ++ dktX1_set_2
def dkwX1_set_0 : List UInt8 := [27, 28, 184, 0, 167, 153, 0, 17, 178, 0, 37, 29, 182, 0, 190, 153, 0, 7, 4, 167, 0, 4, 3]
abbrev dktX1_set_0 : List UInt8 := dkwX1_set_0 ++ dktX1_set_1
theorem dksX1_set_0 : cX1_set.data.toList.drop 0 = dktX1_set_0 := by decide +kernel
theorem dksX1_set_1 : cX1_set.data.toList.drop 23 = dktX1_set_1 := dk_seg dksX1_set_0 23 rfl rfl
theorem dksX1_set_2 : cX1_set.data.toList.drop 46 = dktX1_set_2 := dk_seg dksX1_set_1 23 rfl rfl
theorem dX1_set_0 : decode cX1_set 0 = .ok (.iload_n 1, 1) := dk_27 (dk_at dksX1_set_0 0 rfl rfl)
theorem dX1_set_1 : decode cX1_set 1 = .ok (.iload_n 2, 1) := dk_28 (dk_at dksX1_set_0 1 rfl rfl)
theorem dX1_set_2 : decode cX1_set 2 = .ok (.invokestatic 167, 3) := dk_184 0 167 (dk_at dksX1_set_0 2 rfl rfl)
theorem dX1_set_5 : decode cX1_set 5 = .ok (.ifCond .eq 17, 3) := dk_153 0 17 (dk_at dksX1_set_0 5 rfl rfl)
theorem dX1_set_8 : decode cX1_set 8 = .ok (.getstatic 37, 3) := dk_178 0 37 (dk_at dksX1_set_0 8 rfl rfl)
theorem dX1_set_11 : decode cX1_set 11 = .ok (.iload_n 3, 1) := dk_29 (dk_at dksX1_set_0 11 rfl rfl)
theorem dX1_set_12 : decode cX1_set 12 = .ok (.invokevirtual 190, 3) := dk_182 0 190 (dk_at dksX1_set_0 12 rfl rfl)
theorem dX1_set_15 : decode cX1_set 15 = .ok (.ifCond .eq 7, 3) := dk_153 0 7 (dk_at dksX1_set_0 15 rfl rfl)
theorem dX1_set_18 : decode cX1_set 18 = .ok (.iconst 1, 1) := dk_4 (dk_at dksX1_set_0 18 rfl rfl)
theorem dX1_set_19 : decode cX1_set 19 = .ok (.goto 4, 3) := dk_167 0 4 (dk_at dksX1_set_0 19 rfl rfl)
theorem dX1_set_22 : decode cX1_set 22 = .ok (.iconst 0, 1) := dk_3 (dk_at dksX1_set_0 22 rfl rfl)
theorem dX1_set_23 : decode cX1_set 23 = .ok (.invokestatic 170, 3) := dk_184 0 170 (dk_at dksX1_set_1 0 rfl rfl)
theorem dX1_set_26 : decode cX1_set 26 = .ok (.aload_n 0, 1) := dk_42 (dk_at dksX1_set_1 3 rfl rfl)
theorem dX1_set_27 : decode cX1_set 27 = .ok (.getfield 126, 3) := dk_180 0 126 (dk_at dksX1_set_1 4 rfl rfl)
theorem dX1_set_30 : decode cX1_set 30 = .ok (.invokevirtual 193, 3) := dk_182 0 193 (dk_at dksX1_set_1 7 rfl rfl)
theorem dX1_set_33 : decode cX1_set 33 = .ok (.astore 4, 2) := dk_58 4 (dk_at dksX1_set_1 10 rfl rfl)
theorem dX1_set_35 : decode cX1_set 35 = .ok (.aload_n 0, 1) := dk_42 (dk_at dksX1_set_1 12 rfl rfl)
theorem dX1_set_36 : decode cX1_set 36 = .ok (.aload 4, 2) := dk_25 4 (dk_at dksX1_set_1 13 rfl rfl)
theorem dX1_set_38 : decode cX1_set 38 = .ok (.aload 4, 2) := dk_25 4 (dk_at dksX1_set_1 15 rfl rfl)
theorem dX1_set_40 : decode cX1_set 40 = .ok (.iload_n 1, 1) := dk_27 (dk_at dksX1_set_1 17 rfl rfl)
theorem dX1_set_41 : decode cX1_set 41 = .ok (.iload_n 2, 1) := dk_28 (dk_at dksX1_set_1 18 rfl rfl)
theorem dX1_set_42 : decode cX1_set 42 = .ok (.iload_n 3, 1) := dk_29 (dk_at dksX1_set_1 19 rfl rfl)
theorem dX1_set_43 : decode cX1_set 43 = .ok (.invokevirtual 208, 3) := dk_182 0 208 (dk_at dksX1_set_1 20 rfl rfl)
theorem dX1_set_46 : decode cX1_set 46 = .ok (.invokevirtual 200, 3) := dk_182 0 200 (dk_at dksX1_set_2 0 rfl rfl)
theorem dX1_set_49 : decode cX1_set 49 = .ok (.ireturn, 1) := dk_172 (dk_at dksX1_set_2 3 rfl rfl)
abbrev cX1_turn : ByteArray := prog_1_method_24_code
def yX1_turn : MethodName := ⟨RX1, "turn", "(II)I"⟩
def dkwX1_turn_1 : List UInt8 := [172]
abbrev dktX1_turn_1 : List UInt8 := dkwX1_turn_1 ++ []
def dkwX1_turn_0 : List UInt8 := [27, 28, 184, 0, 211, 42, 180, 0, 126, 182, 0, 193, 78, 42, 45, 45, 27, 28, 182, 0, 214, 182, 0, 200]
abbrev dktX1_turn_0 : List UInt8 := dkwX1_turn_0 ++ dktX1_turn_1
theorem dksX1_turn_0 : cX1_turn.data.toList.drop 0 = dktX1_turn_0 := by decide +kernel
theorem dksX1_turn_1 : cX1_turn.data.toList.drop 24 = dktX1_turn_1 := dk_seg dksX1_turn_0 24 rfl rfl
theorem dX1_turn_0 : decode cX1_turn 0 = .ok (.iload_n 1, 1) := dk_27 (dk_at dksX1_turn_0 0 rfl rfl)
theorem dX1_turn_1 : decode cX1_turn 1 = .ok (.iload_n 2, 1) := dk_28 (dk_at dksX1_turn_0 1 rfl rfl)
theorem dX1_turn_2 : decode cX1_turn 2 = .ok (.invokestatic 211, 3) := dk_184 0 211 (dk_at dksX1_turn_0 2 rfl rfl)
theorem dX1_turn_5 : decode cX1_turn 5 = .ok (.aload_n 0, 1) := dk_42 (dk_at dksX1_turn_0 5 rfl rfl)
theorem dX1_turn_6 : decode cX1_turn 6 = .ok (.getfield 126, 3) := dk_180 0 126 (dk_at dksX1_turn_0 6 rfl rfl)
theorem dX1_turn_9 : decode cX1_turn 9 = .ok (.invokevirtual 193, 3) := dk_182 0 193 (dk_at dksX1_turn_0 9 rfl rfl)
theorem dX1_turn_12 : decode cX1_turn 12 = .ok (.astore_n 3, 1) := dk_78 (dk_at dksX1_turn_0 12 rfl rfl)
theorem dX1_turn_13 : decode cX1_turn 13 = .ok (.aload_n 0, 1) := dk_42 (dk_at dksX1_turn_0 13 rfl rfl)
theorem dX1_turn_14 : decode cX1_turn 14 = .ok (.aload_n 3, 1) := dk_45 (dk_at dksX1_turn_0 14 rfl rfl)
theorem dX1_turn_15 : decode cX1_turn 15 = .ok (.aload_n 3, 1) := dk_45 (dk_at dksX1_turn_0 15 rfl rfl)
theorem dX1_turn_16 : decode cX1_turn 16 = .ok (.iload_n 1, 1) := dk_27 (dk_at dksX1_turn_0 16 rfl rfl)
theorem dX1_turn_17 : decode cX1_turn 17 = .ok (.iload_n 2, 1) := dk_28 (dk_at dksX1_turn_0 17 rfl rfl)
theorem dX1_turn_18 : decode cX1_turn 18 = .ok (.invokevirtual 214, 3) := dk_182 0 214 (dk_at dksX1_turn_0 18 rfl rfl)
theorem dX1_turn_21 : decode cX1_turn 21 = .ok (.invokevirtual 200, 3) := dk_182 0 200 (dk_at dksX1_turn_0 21 rfl rfl)
theorem dX1_turn_24 : decode cX1_turn 24 = .ok (.ireturn, 1) := dk_172 (dk_at dksX1_turn_1 0 rfl rfl)
abbrev cX1_paint : ByteArray := prog_1_method_25_code
def yX1_paint : MethodName := ⟨RX1, "paint", "(III)I"⟩
def dkwX1_paint_1 : List UInt8 := [180, 0, 126, 182, 0, 193, 58, 4, 42, 25, 4, 25, 4, 27, 28, 29, 182, 0, 220, 182, 0, 200, 172]
abbrev dktX1_paint_1 : List UInt8 := dkwX1_paint_1 ++ []
def dkwX1_paint_0 : List UInt8 := [27, 28, 184, 0, 167, 153, 0, 14, 29, 184, 0, 217, 153, 0, 7, 4, 167, 0, 4, 3, 184, 0, 170, 42]
abbrev dktX1_paint_0 : List UInt8 := dkwX1_paint_0 ++ dktX1_paint_1
theorem dksX1_paint_0 : cX1_paint.data.toList.drop 0 = dktX1_paint_0 := by decide +kernel
theorem dksX1_paint_1 : cX1_paint.data.toList.drop 24 = dktX1_paint_1 := dk_seg dksX1_paint_0 24 rfl rfl
theorem dX1_paint_0 : decode cX1_paint 0 = .ok (.iload_n 1, 1) := dk_27 (dk_at dksX1_paint_0 0 rfl rfl)
theorem dX1_paint_1 : decode cX1_paint 1 = .ok (.iload_n 2, 1) := dk_28 (dk_at dksX1_paint_0 1 rfl rfl)
theorem dX1_paint_2 : decode cX1_paint 2 = .ok (.invokestatic 167, 3) := dk_184 0 167 (dk_at dksX1_paint_0 2 rfl rfl)
theorem dX1_paint_5 : decode cX1_paint 5 = .ok (.ifCond .eq 14, 3) := dk_153 0 14 (dk_at dksX1_paint_0 5 rfl rfl)
theorem dX1_paint_8 : decode cX1_paint 8 = .ok (.iload_n 3, 1) := dk_29 (dk_at dksX1_paint_0 8 rfl rfl)
theorem dX1_paint_9 : decode cX1_paint 9 = .ok (.invokestatic 217, 3) := dk_184 0 217 (dk_at dksX1_paint_0 9 rfl rfl)
theorem dX1_paint_12 : decode cX1_paint 12 = .ok (.ifCond .eq 7, 3) := dk_153 0 7 (dk_at dksX1_paint_0 12 rfl rfl)
theorem dX1_paint_15 : decode cX1_paint 15 = .ok (.iconst 1, 1) := dk_4 (dk_at dksX1_paint_0 15 rfl rfl)
theorem dX1_paint_16 : decode cX1_paint 16 = .ok (.goto 4, 3) := dk_167 0 4 (dk_at dksX1_paint_0 16 rfl rfl)
theorem dX1_paint_19 : decode cX1_paint 19 = .ok (.iconst 0, 1) := dk_3 (dk_at dksX1_paint_0 19 rfl rfl)
theorem dX1_paint_20 : decode cX1_paint 20 = .ok (.invokestatic 170, 3) := dk_184 0 170 (dk_at dksX1_paint_0 20 rfl rfl)
theorem dX1_paint_23 : decode cX1_paint 23 = .ok (.aload_n 0, 1) := dk_42 (dk_at dksX1_paint_0 23 rfl rfl)
theorem dX1_paint_24 : decode cX1_paint 24 = .ok (.getfield 126, 3) := dk_180 0 126 (dk_at dksX1_paint_1 0 rfl rfl)
theorem dX1_paint_27 : decode cX1_paint 27 = .ok (.invokevirtual 193, 3) := dk_182 0 193 (dk_at dksX1_paint_1 3 rfl rfl)
theorem dX1_paint_30 : decode cX1_paint 30 = .ok (.astore 4, 2) := dk_58 4 (dk_at dksX1_paint_1 6 rfl rfl)
theorem dX1_paint_32 : decode cX1_paint 32 = .ok (.aload_n 0, 1) := dk_42 (dk_at dksX1_paint_1 8 rfl rfl)
theorem dX1_paint_33 : decode cX1_paint 33 = .ok (.aload 4, 2) := dk_25 4 (dk_at dksX1_paint_1 9 rfl rfl)
theorem dX1_paint_35 : decode cX1_paint 35 = .ok (.aload 4, 2) := dk_25 4 (dk_at dksX1_paint_1 11 rfl rfl)
theorem dX1_paint_37 : decode cX1_paint 37 = .ok (.iload_n 1, 1) := dk_27 (dk_at dksX1_paint_1 13 rfl rfl)
theorem dX1_paint_38 : decode cX1_paint 38 = .ok (.iload_n 2, 1) := dk_28 (dk_at dksX1_paint_1 14 rfl rfl)
theorem dX1_paint_39 : decode cX1_paint 39 = .ok (.iload_n 3, 1) := dk_29 (dk_at dksX1_paint_1 15 rfl rfl)
theorem dX1_paint_40 : decode cX1_paint 40 = .ok (.invokevirtual 220, 3) := dk_182 0 220 (dk_at dksX1_paint_1 16 rfl rfl)
theorem dX1_paint_43 : decode cX1_paint 43 = .ok (.invokevirtual 200, 3) := dk_182 0 200 (dk_at dksX1_paint_1 19 rfl rfl)
theorem dX1_paint_46 : decode cX1_paint 46 = .ok (.ireturn, 1) := dk_172 (dk_at dksX1_paint_1 22 rfl rfl)
theorem q1158 : (Jvm.Cond.fieldLink "SpanRuler" (37 : Nat) "SpanRuler$Kind" "SET" "LSpanRuler$Kind;") ∈ lw_all := lw_g (lw_at lw_m5 138 rfl) rfl
theorem q1007 : (Jvm.Cond.instanceMethod ({ cls := "SpanRuler$Kind", name := "may", desc := "(I)Z" } : Jvm.MethodName)) ∈ lw_all := lw_g (lw_at lw_m4 227 rfl) rfl
theorem q1018 : (Jvm.Cond.code ({ cls := "SpanRuler$Kind", name := "may", desc := "(I)Z" } : Jvm.MethodName) prog_7_method_5_code (2 : Nat) (Option.some Jvm.ClassFile.FieldType.boolean)) ∈ lw_all := lw_g (lw_at lw_m4 238 rfl) rfl
theorem q1006 : (Jvm.Cond.methodLink "SpanRuler" (190 : Nat) ({ cls := "SpanRuler$Kind", name := "may", desc := "(I)Z" } : Jvm.MethodName)) ∈ lw_all := lw_g (lw_at lw_m4 226 rfl) rfl
theorem q1008 : (Jvm.Cond.sameMethod "SpanRuler$Kind" "SpanRuler$Kind" "may" "(I)Z") ∈ lw_all := lw_g (lw_at lw_m4 228 rfl) rfl
theorem q1013 : (Jvm.Cond.selects "SpanRuler$Kind$2" ({ cls := "SpanRuler$Kind", name := "may", desc := "(I)Z" } : Jvm.MethodName) ({ cls := "SpanRuler$Kind$2", name := "may", desc := "(I)Z" } : Jvm.MethodName)) ∈ lw_all := lw_g (lw_at lw_m4 233 rfl) rfl
theorem q1014 : (Jvm.Cond.instanceMethod ({ cls := "SpanRuler$Kind$2", name := "may", desc := "(I)Z" } : Jvm.MethodName)) ∈ lw_all := lw_g (lw_at lw_m4 234 rfl) rfl
theorem q1015 : (Jvm.Cond.code ({ cls := "SpanRuler$Kind$2", name := "may", desc := "(I)Z" } : Jvm.MethodName) prog_9_method_3_code (2 : Nat) (Option.some Jvm.ClassFile.FieldType.boolean)) ∈ lw_all := lw_g (lw_at lw_m4 235 rfl) rfl
theorem q348 : (Jvm.Cond.methodLink "SpanRuler" (193 : Nat) ({ cls := "SpanRuler$Ruler", name := "copy", desc := "()LSpanRuler$Ruler;" } : Jvm.MethodName)) ∈ lw_all := lw_g (lw_at lw_m2 48 rfl) rfl
theorem q351 : (Jvm.Cond.code ({ cls := "SpanRuler$Ruler", name := "copy", desc := "()LSpanRuler$Ruler;" } : Jvm.MethodName) prog_16_method_2_code (4 : Nat) (Option.some (Jvm.ClassFile.FieldType.object "SpanRuler$Ruler"))) ∈ lw_all := lw_g (lw_at lw_m2 51 rfl) rfl
theorem q349 : (Jvm.Cond.instanceMethod ({ cls := "SpanRuler$Ruler", name := "copy", desc := "()LSpanRuler$Ruler;" } : Jvm.MethodName)) ∈ lw_all := lw_g (lw_at lw_m2 49 rfl) rfl
theorem q350 : (Jvm.Cond.selects "SpanRuler$Ruler" ({ cls := "SpanRuler$Ruler", name := "copy", desc := "()LSpanRuler$Ruler;" } : Jvm.MethodName) ({ cls := "SpanRuler$Ruler", name := "copy", desc := "()LSpanRuler$Ruler;" } : Jvm.MethodName)) ∈ lw_all := lw_g (lw_at lw_m2 50 rfl) rfl
theorem q1160 : (Jvm.Cond.methodLink "SpanRuler" (208 : Nat) ({ cls := "SpanRuler$Ruler", name := "set", desc := "(III)I" } : Jvm.MethodName)) ∈ lw_all := lw_g (lw_at lw_m5 140 rfl) rfl
theorem q1163 : (Jvm.Cond.code ({ cls := "SpanRuler$Ruler", name := "set", desc := "(III)I" } : Jvm.MethodName) prog_16_method_9_code (5 : Nat) (Option.some Jvm.ClassFile.FieldType.int)) ∈ lw_all := lw_g (lw_at lw_m5 143 rfl) rfl
theorem q1161 : (Jvm.Cond.instanceMethod ({ cls := "SpanRuler$Ruler", name := "set", desc := "(III)I" } : Jvm.MethodName)) ∈ lw_all := lw_g (lw_at lw_m5 141 rfl) rfl
theorem q1162 : (Jvm.Cond.selects "SpanRuler$Ruler" ({ cls := "SpanRuler$Ruler", name := "set", desc := "(III)I" } : Jvm.MethodName) ({ cls := "SpanRuler$Ruler", name := "set", desc := "(III)I" } : Jvm.MethodName)) ∈ lw_all := lw_g (lw_at lw_m5 142 rfl) rfl
theorem q1114 : (Jvm.Cond.methodLink "SpanRuler" (200 : Nat) ({ cls := "SpanRuler", name := "become", desc := "(LSpanRuler$Ruler;I)I" } : Jvm.MethodName)) ∈ lw_all := lw_g (lw_at lw_m5 94 rfl) rfl
theorem q1117 : (Jvm.Cond.code ({ cls := "SpanRuler", name := "become", desc := "(LSpanRuler$Ruler;I)I" } : Jvm.MethodName) prog_1_method_17_code (3 : Nat) (Option.some Jvm.ClassFile.FieldType.int)) ∈ lw_all := lw_g (lw_at lw_m5 97 rfl) rfl
theorem q1116 : (Jvm.Cond.instanceMethod ({ cls := "SpanRuler", name := "become", desc := "(LSpanRuler$Ruler;I)I" } : Jvm.MethodName)) ∈ lw_all := lw_g (lw_at lw_m5 96 rfl) rfl
theorem q1175 : (Jvm.Cond.methodLink "SpanRuler" (214 : Nat) ({ cls := "SpanRuler$Ruler", name := "turn", desc := "(II)I" } : Jvm.MethodName)) ∈ lw_all := lw_g (lw_at lw_m5 155 rfl) rfl
theorem q1178 : (Jvm.Cond.code ({ cls := "SpanRuler$Ruler", name := "turn", desc := "(II)I" } : Jvm.MethodName) prog_16_method_10_code (3 : Nat) (Option.some Jvm.ClassFile.FieldType.int)) ∈ lw_all := lw_g (lw_at lw_m5 158 rfl) rfl
theorem q1176 : (Jvm.Cond.instanceMethod ({ cls := "SpanRuler$Ruler", name := "turn", desc := "(II)I" } : Jvm.MethodName)) ∈ lw_all := lw_g (lw_at lw_m5 156 rfl) rfl
theorem q1177 : (Jvm.Cond.selects "SpanRuler$Ruler" ({ cls := "SpanRuler$Ruler", name := "turn", desc := "(II)I" } : Jvm.MethodName) ({ cls := "SpanRuler$Ruler", name := "turn", desc := "(II)I" } : Jvm.MethodName)) ∈ lw_all := lw_g (lw_at lw_m5 157 rfl) rfl
theorem q1191 : (Jvm.Cond.methodLink "SpanRuler" (220 : Nat) ({ cls := "SpanRuler$Ruler", name := "paint", desc := "(III)I" } : Jvm.MethodName)) ∈ lw_all := lw_g (lw_at lw_m5 171 rfl) rfl
theorem q1194 : (Jvm.Cond.code ({ cls := "SpanRuler$Ruler", name := "paint", desc := "(III)I" } : Jvm.MethodName) prog_16_method_22_code (6 : Nat) (Option.some Jvm.ClassFile.FieldType.int)) ∈ lw_all := lw_g (lw_at lw_m5 174 rfl) rfl
theorem q1192 : (Jvm.Cond.instanceMethod ({ cls := "SpanRuler$Ruler", name := "paint", desc := "(III)I" } : Jvm.MethodName)) ∈ lw_all := lw_g (lw_at lw_m5 172 rfl) rfl
theorem q1193 : (Jvm.Cond.selects "SpanRuler$Ruler" ({ cls := "SpanRuler$Ruler", name := "paint", desc := "(III)I" } : Jvm.MethodName) ({ cls := "SpanRuler$Ruler", name := "paint", desc := "(III)I" } : Jvm.MethodName)) ∈ lw_all := lw_g (lw_at lw_m5 173 rfl) rfl
theorem RulerM.o0 {G : GE} {h0 h : AH} {a : Nat} {R : Nat → Int32} (m : RulerM G h0 h a R) : ∃ l, h a = some (ob 1 l) := m.at.obj
theorem mEnds_n {t : MS} {c : Int32} (h : c ≠ 0) : mEnds t c = (0, mI t 20 c) := if_neg h
theorem mEnds_0 {t : MS} : mEnds t 0 = (t.I 19, mKeeps t) := if_pos rfl
theorem mI_19 {t : MS} {v : Int32} : (mI t 19 v).I 19 = v := (show upd t.I 19 v 19 = v from upd_at)
/-- after a refusal of arguments: the model only tried -/
theorem SRAt.tries {G : GE} {h : AH} {x : Nat} {s : MS} (S : SRAt G h x s) : SRAt G h x (mTries s) := by
  obtain ⟨own, hr, ru, sv, hl, hd, hc, hm, hf, inp, ln, bt, rf, S⟩ := S
  refine ⟨own, hr, ru, sv, hl, hd, hc, hm, hf, inp, ln, bt, rf, ?_⟩
  have e : ∀ j, j < 17 → (mTries s).I j = s.I j := fun j hj => by rw [mTries_I, upd_ne (by omega)]
  have eu : mU (mTries s) = mU s := by unfold mU; rw [e 4 (by omega)]
  unfold SRx SRs SRi SRl SRe mUo mTo mLi at *
  rw [eu, mTries_A s (show 0 ≠ 1 by decide), mTries_A s (show 3 ≠ 1 by decide), mTries_A s (show 5 ≠ 1 by decide), mTries_A s (show 7 ≠ 1 by decide), mTries_A s (show 9 ≠ 1 by decide), e 10 (by omega), e 4 (by omega), e 8 (by omega), e 14 (by omega), e 15 (by omega), e 16 (by omega), e 6 (by omega)]
  exact S
theorem s_set (l : Launch) (G : GE) (h : AH) (x : Nat) (s : MS) (S0 : SRAt G h x s) (a : Int32) (b : Int32) (x1 : Int32) : GM l G yX1_set (ws_ yX1_set cX1_set 5 (some .int)) 18 [.ref x, .int a, .int b, .int x1] (h) (5000) (SPost G x (ex1 IAE) (mSet s a b x1)) := by
  refine GM.of (by decide) (dk rfl) ?_
  intro X eL eG eh ok fn
  subst eL; subst eG
  show GW X _ 0 0 [some (.ref x), some (.int a), some (.int b), some (.int x1), none] []
  obtain ⟨own, hr, ru, sv, hl, hd, hc, hm, hf, inp, ln, bt, rf, S⟩ := S0
  obtain ⟨rt, cl, nl, nd, nc, nm, nf, vl, vd, vc, vm, vf, y⟩ := S.2.2.2.2.2.2.2.2.1.1.1
  rcases Bool.eq_false_or_eq_true (isSp a b) with hs | hs
  · obtain ⟨i, j, ea, eb, hij, hj⟩ : ∃ i j, a = nI i ∧ b = nI j ∧ i ≤ j ∧ j < 32 := ⟨_, _, isSp_n hs⟩
    subst ea; subst eb
    rcases Bool.eq_false_or_eq_true (isNu 1 x1) with hn | hn
    · refine g_iload_n ok dX1_set_0 rfl ?_
      refine g_iload_n ok dX1_set_1 rfl ?_
      refine g_callS ok q995 q996 q61 q997 dX1_set_2 (x_isSpan X.l X.G _ (nI i) (nI j)) (nm_ (by decide : nmb _ 2 = true)) (dl rfl) (dk rfl) rfl rfl (dk rfl) (by omega) (kV ?_) xV
      refine g_if_eq ok (tgt := 22) dX1_set_5 (by decide) (fun c_ => absurd c_ (by rw [hs]; decide)) (fun _ => ?_)
      refine g_gets ok (C := "SpanRuler$Kind") (n := "SET") (d := "LSpanRuler$Kind;") (v := .ref (X.G.ga "K1")) (by simp [gzs]) q1158 dX1_set_8 ?_
      refine g_iload_n ok dX1_set_11 rfl ?_
      refine g_callUR ok (C := "SpanRuler$Kind$2") (owner := "SpanRuler$Kind") q1006 q1008 q1013 q1014 q1015 (ok.declI q1007 q1018) (by decide) ((Recv.kd (v := 1) (by simp [gkn]))) dX1_set_12 (r_mayX17 X.l X.G _ (X.G.ga "K1") x1) (nm_ (by decide : nmb _ 1 = true)) (dl rfl) (dk rfl) rfl rfl (dk rfl) (by omega) (kV ?_) xV
      refine g_if_eq ok (tgt := 22) dX1_set_15 (by decide) (fun c_ => absurd c_ (by rw [hn]; decide)) (fun _ => ?_)
      refine g_iconst ok (v := 1) dX1_set_18 rfl ?_
      refine g_goto ok dX1_set_19 (tgt := 23) (by decide) ?_
      refine g_callS ok q1019 q1020 q61 q1021 dX1_set_23 (x_chkA1 X.l X.G _) (nm_ (by decide : nmb _ 1 = true)) (dl rfl) (dk rfl) rfl rfl (dk rfl) (by omega) (kN ?_) xN
      refine g_aload_n ok dX1_set_26 rfl ?_
      refine g_get ok ck_X1 0 q319 (Or.inl rfl) (by decide) dX1_set_27 (Rd.h (S.2.2.1)) rfl ?_
      refine g_callV ok q348 q349 q350 q62 q351 (Recv.ob ok gc_X2 (Rd.h (S.1 _ _ y.1.1))) dX1_set_30 (GM.fr S.1 (x_copy X.l X.G hr (fun q => own q = ru) ru (s.A 0) S.2.2.2.2.2.2.2.2.1.1.1)) (nm_ (by decide : nmb _ 0 = true)) (dl rfl) (dk rfl) rfl rfl (dk rfl) (by omega) (kFR fun uC hrC hC ⟨c, eC, mC⟩ fC => ?_) xFR
      subst eC
      obtain ⟨lc, hc0⟩ := mC.o0
      have kC := fC.keep
      refine g_astore ok dX1_set_33 (ls1 := [some (.ref x), some (.int (nI i)), some (.int (nI j)), some (.int x1), some (.ref c)]) (dl rfl) rfl ?_
      refine g_aload_n ok dX1_set_35 rfl ?_
      refine g_aload ok dX1_set_36 rfl ?_
      refine g_aload ok dX1_set_38 rfl ?_
      refine g_iload_n ok dX1_set_40 rfl ?_
      refine g_iload_n ok dX1_set_41 rfl ?_
      refine g_iload_n ok dX1_set_42 rfl ?_
      refine g_callV ok q1160 q1161 q1162 q62 q1163 (Recv.ob ok gc_X2 (Rd.h (kC _ _ hc0))) dX1_set_43 (GM.fr kC (u_set X.l X.G hr hrC c (s.A 0) mC i j (by omega) (by omega) x1 hn)) (nm_ (by decide : nmb _ 3 = true)) (dl rfl) (dk rfl) rfl rfl (dk rfl) (by omega) (kFR fun uM hrM hM ⟨eM, mM⟩ fM => ?_) xFR
      subst eM
      obtain ⟨own2, S2, yc, nc, nf, nv⟩ := SRx.copied S mM fM.keep (fun q e a b => fM.out q e (fC.out q e a b).1 (fC.out q e a b).2)
      have tk : TkOk (rAct 1 x1 i j (s.A 0)) := S.2.2.2.2.2.2.2.2.1.1.2.of rAct_N (fun q hq => rAct_q (by omega) (by omega))
      refine g_callV ok q1114 q1116 qs6 q61 q1117 (Recv.ob ok gc_X1 (Rd.h (S2.2.2.1))) dX1_set_46 (s_become X.l X.G hM x own2 hrM s ru sv hl hd hc hm hf inp ln bt rf S2 c (rAct 1 x1 i j (s.A 0)) yc tk nc nf nv (sm (s.A 0) (j + 1 - i) i 0)) (nm_ (by decide : nmb _ 2 = true)) (dl rfl) (dk rfl) rfl rfl (dk rfl) (by omega) (kR fun u9 h9 ⟨e9, B9⟩ => ?_) xR
      subst e9
      have pf : SPost X.G x (ex1 IAE) (mSet s (nI i) (nI j) x1) (.inl (some (.int (sm (s.A 0) (j + 1 - i) i 0)))) h9 := by
        unfold mSet mSets; rw [if_pos ⟨hs, hn⟩]
        show SPost _ _ _ (mEnds _ 0) _ _
        rw [mEnds_0]; dsimp only; rw [mI_19]; unfold mSum sp; simp only [nn_nI (by omega : i < 2 ^ 31), nn_nI (by omega : j < 2 ^ 31)]
        try rw [mTries_A s (by decide)]
        refine SPost.ends (B9 _ (Bec.keeps (Tri.mI (Tri.acts (Tri.tries s)) (by omega)) S.2.2.2.2.2.2.2.1 (fun q _ => act_eq hij hj (mTries s) (mTries_A s (by decide)) q))) ?_
        rw [mKeeps_I (by decide)]; rw [mI_I, upd_ne (by omega), mActs_I, mTries_I, upd_at]
      exact g_iret ok fn rfl dX1_set_49 pf (by omega)
    · refine g_iload_n ok dX1_set_0 rfl ?_
      refine g_iload_n ok dX1_set_1 rfl ?_
      refine g_callS ok q995 q996 q61 q997 dX1_set_2 (x_isSpan X.l X.G _ (nI i) (nI j)) (nm_ (by decide : nmb _ 2 = true)) (dl rfl) (dk rfl) rfl rfl (dk rfl) (by omega) (kV ?_) xV
      refine g_if_eq ok (tgt := 22) dX1_set_5 (by decide) (fun c_ => absurd c_ (by rw [hs]; decide)) (fun _ => ?_)
      refine g_gets ok (C := "SpanRuler$Kind") (n := "SET") (d := "LSpanRuler$Kind;") (v := .ref (X.G.ga "K1")) (by simp [gzs]) q1158 dX1_set_8 ?_
      refine g_iload_n ok dX1_set_11 rfl ?_
      refine g_callUR ok (C := "SpanRuler$Kind$2") (owner := "SpanRuler$Kind") q1006 q1008 q1013 q1014 q1015 (ok.declI q1007 q1018) (by decide) ((Recv.kd (v := 1) (by simp [gkn]))) dX1_set_12 (r_mayX17 X.l X.G _ (X.G.ga "K1") x1) (nm_ (by decide : nmb _ 1 = true)) (dl rfl) (dk rfl) rfl rfl (dk rfl) (by omega) (kV ?_) xV
      refine g_if_eq ok (tgt := 22) dX1_set_15 (by decide) (fun _ => ?_) (fun c_ => absurd (by rw [hn]; rfl) c_)
      refine g_iconst ok (v := 0) dX1_set_22 rfl ?_
      refine g_callS ok q1019 q1020 q61 q1021 dX1_set_23 (x_chkA0 X.l X.G _) (nm_ (by decide : nmb _ 1 = true)) (dl rfl) (dk rfl) rfl rfl (dk rfl) (by omega) kT (xT fun qx fx kx => ?_)
      have pf : SPost X.G x (ex1 IAE) (mSet s (nI i) (nI j) x1) (.inr (IAE, qx)) (up h qx (ob 18 [])) := by
        unfold mSet mSets; rw [if_neg (fun w_ => by rw [hn] at w_; exact absurd w_.2 (by decide))]
        show SPost _ _ _ (mEnds (mTries s) 1) _ _
        rw [mEnds_n (by decide)]
        exact SPost.no S.at.tries fx (by decide) rfl
      exact g_out ok fn (fun z hz => nomatch hz) pf (by omega)
  · refine g_iload_n ok dX1_set_0 rfl ?_
    refine g_iload_n ok dX1_set_1 rfl ?_
    refine g_callS ok q995 q996 q61 q997 dX1_set_2 (x_isSpan X.l X.G _ a b) (nm_ (by decide : nmb _ 2 = true)) (dl rfl) (dk rfl) rfl rfl (dk rfl) (by omega) (kV ?_) xV
    refine g_if_eq ok (tgt := 22) dX1_set_5 (by decide) (fun _ => ?_) (fun c_ => absurd (by rw [hs]; rfl) c_)
    refine g_iconst ok (v := 0) dX1_set_22 rfl ?_
    refine g_callS ok q1019 q1020 q61 q1021 dX1_set_23 (x_chkA0 X.l X.G _) (nm_ (by decide : nmb _ 1 = true)) (dl rfl) (dk rfl) rfl rfl (dk rfl) (by omega) kT (xT fun qx fx kx => ?_)
    have pf : SPost X.G x (ex1 IAE) (mSet s a b x1) (.inr (IAE, qx)) (up h qx (ob 18 [])) := by
      unfold mSet mSets; rw [if_neg (fun w_ => by rw [hs] at w_; exact absurd w_.1 (by decide))]
      show SPost _ _ _ (mEnds (mTries s) 1) _ _
      rw [mEnds_n (by decide)]
      exact SPost.no S.at.tries fx (by decide) rfl
    exact g_out ok fn (fun z hz => nomatch hz) pf (by omega)
theorem act_fun {s : MS} {k x : Int32} {i j : Nat} (hij : i ≤ j) (hj : j < 32) : (mActs k x (j + 1 - i) i (mTries s)).A 0 = rAct k x i j (s.A 0) := (funext (act_eq hij hj (mTries s) (mTries_A s (by decide)))).symm
theorem pal_rpl (x : Int32) : ∀ (n c : Nat) (m : Int32) (t : MS), (pal x n c m t).1 = (rpl x n c m (t.A 0)).1 ∧ (pal x n c m t).2.A 0 = (rpl x n c m (t.A 0)).2 ∧ ∀ i, i ≠ 0 → (pal x n c m t).2.A i = t.A i := by
  intro n
  induction n with
  | zero => intro c m t; exact ⟨rfl, rfl, fun i hi => rfl⟩
  | succ n ih =>
    intro c m t
    obtain ⟨a1, a2, a3⟩ := ih (c + 1) (if t.A 0 (40 + c) = x then m else m + 1) (mA t 0 (40 + c) x)
    rw [mA_A, if_pos rfl] at a1 a2
    exact ⟨a1, a2, fun i hi => (a3 i hi).trans (mA_0 hi)⟩
theorem rpl_o (x : Int32) : ∀ (n c : Nat) (m : Int32) (R : Nat → Int32) (q : Nat), c + n ≤ 32 → q < 40 ∨ 72 ≤ q → (rpl x n c m R).2 q = R q := by
  intro n
  induction n with
  | zero => intro c m R q _ _; rfl
  | succ n ih =>
    intro c m R q hc hq
    show (rpl x n (c + 1) _ _).2 q = _
    rw [ih (c + 1) _ _ q (by omega) hq, upd_ne (by omega)]
theorem s_turn (l : Launch) (G : GE) (h : AH) (x : Nat) (s : MS) (S0 : SRAt G h x s) (a : Int32) (b : Int32) : GM l G yX1_turn (ws_ yX1_turn cX1_turn 4 (some .int)) 18 [.ref x, .int a, .int b] (h) (5000) (SPost G x (ex1 IAE) (mTurn s a b)) := by
  refine GM.of (by decide) (dk rfl) ?_
  intro X eL eG eh ok fn
  subst eL; subst eG
  show GW X _ 0 0 [some (.ref x), some (.int a), some (.int b), none] []
  obtain ⟨own, hr, ru, sv, hl, hd, hc, hm, hf, inp, ln, bt, rf, S⟩ := S0
  obtain ⟨rt, cl, nl, nd, nc, nm, nf, vl, vd, vc, vm, vf, y⟩ := S.2.2.2.2.2.2.2.2.1.1.1
  rcases Bool.eq_false_or_eq_true (isSp a b) with hs | hs
  · obtain ⟨i, j, ea, eb, hij, hj⟩ : ∃ i j, a = nI i ∧ b = nI j ∧ i ≤ j ∧ j < 32 := ⟨_, _, isSp_n hs⟩
    subst ea; subst eb
    refine g_iload_n ok dX1_turn_0 rfl ?_
    refine g_iload_n ok dX1_turn_1 rfl ?_
    refine g_callS ok q1172 q1173 q61 q1174 dX1_turn_2 (x_chkP1 X.l X.G _ (nI i) (nI j) hs) (nm_ (by decide : nmb _ 2 = true)) (dl rfl) (dk rfl) rfl rfl (dk rfl) (by omega) (kN ?_) xN
    refine g_aload_n ok dX1_turn_5 rfl ?_
    refine g_get ok ck_X1 0 q319 (Or.inl rfl) (by decide) dX1_turn_6 (Rd.h (S.2.2.1)) rfl ?_
    refine g_callV ok q348 q349 q350 q62 q351 (Recv.ob ok gc_X2 (Rd.h (S.1 _ _ y.1.1))) dX1_turn_9 (GM.fr S.1 (x_copy X.l X.G hr (fun q => own q = ru) ru (s.A 0) S.2.2.2.2.2.2.2.2.1.1.1)) (nm_ (by decide : nmb _ 0 = true)) (dl rfl) (dk rfl) rfl rfl (dk rfl) (by omega) (kFR fun uC hrC hC ⟨c, eC, mC⟩ fC => ?_) xFR
    subst eC
    obtain ⟨lc, hc0⟩ := mC.o0
    have kC := fC.keep
    refine g_astore_n ok dX1_turn_12 (ls1 := [some (.ref x), some (.int (nI i)), some (.int (nI j)), some (.ref c)]) (dl rfl) rfl ?_
    refine g_aload_n ok dX1_turn_13 rfl ?_
    refine g_aload_n ok dX1_turn_14 rfl ?_
    refine g_aload_n ok dX1_turn_15 rfl ?_
    refine g_iload_n ok dX1_turn_16 rfl ?_
    refine g_iload_n ok dX1_turn_17 rfl ?_
    refine g_callV ok q1175 q1176 q1177 q62 q1178 (Recv.ob ok gc_X2 (Rd.h (kC _ _ hc0))) dX1_turn_18 (GM.fr kC (u_turn X.l X.G hr hrC c (s.A 0) mC i j (by omega) (by omega))) (nm_ (by decide : nmb _ 2 = true)) (dl rfl) (dk rfl) rfl rfl (dk rfl) (by omega) (kFR fun uM hrM hM ⟨eM, mM⟩ fM => ?_) xFR
    subst eM
    obtain ⟨own2, S2, yc, nc, nf, nv⟩ := SRx.copied S mM fM.keep (fun q e a b => fM.out q e (fC.out q e a b).1 (fC.out q e a b).2)
    have tk : TkOk (rAct 2 0 i j (s.A 0)) := S.2.2.2.2.2.2.2.2.1.1.2.of rAct_N (fun q hq => rAct_q (by omega) (by omega))
    refine g_callV ok q1114 q1116 qs6 q61 q1117 (Recv.ob ok gc_X1 (Rd.h (S2.2.2.1))) dX1_turn_21 (s_become X.l X.G hM x own2 hrM s ru sv hl hd hc hm hf inp ln bt rf S2 c (rAct 2 0 i j (s.A 0)) yc tk nc nf nv (sm (rAct 2 0 i j (s.A 0)) (j + 1 - i) i 0)) (nm_ (by decide : nmb _ 2 = true)) (dl rfl) (dk rfl) rfl rfl (dk rfl) (by omega) (kR fun u9 h9 ⟨e9, B9⟩ => ?_) xR
    subst e9
    have pf : SPost X.G x (ex1 IAE) (mTurn s (nI i) (nI j)) (.inl (some (.int (sm (rAct 2 0 i j (s.A 0)) (j + 1 - i) i 0)))) h9 := by
      unfold mTurn mTurns; rw [if_pos hs]
      show SPost _ _ _ (mEnds _ 0) _ _
      rw [mEnds_0]; dsimp only; rw [mI_19]; unfold mSum sp; simp only [nn_nI (by omega : i < 2 ^ 31), nn_nI (by omega : j < 2 ^ 31)]
      rw [act_fun hij hj]
      refine SPost.ends (B9 _ (Bec.keeps (Tri.mI (Tri.acts (Tri.tries s)) (by omega)) S.2.2.2.2.2.2.2.1 (fun q _ => act_eq hij hj (mTries s) (mTries_A s (by decide)) q))) ?_
      rw [mKeeps_I (by decide)]; rw [mI_I, upd_ne (by omega), mActs_I, mTries_I, upd_at]
    exact g_iret ok fn rfl dX1_turn_24 pf (by omega)
  · refine g_iload_n ok dX1_turn_0 rfl ?_
    refine g_iload_n ok dX1_turn_1 rfl ?_
    refine g_callS ok q1172 q1173 q61 q1174 dX1_turn_2 (x_chkP0 X.l X.G _ a b hs) (nm_ (by decide : nmb _ 2 = true)) (dl rfl) (dk rfl) rfl rfl (dk rfl) (by omega) kT (xT fun qx fx kx => ?_)
    have pf : SPost X.G x (ex1 IAE) (mTurn s a b) (.inr (IAE, qx)) (up h qx (ob 18 [])) := by
      unfold mTurn mTurns; rw [if_neg (by rw [hs]; decide)]
      show SPost _ _ _ (mEnds (mTries s) 1) _ _
      rw [mEnds_n (by decide)]
      exact SPost.no S.at.tries fx (by decide) rfl
    exact g_out ok fn (fun z hz => nomatch hz) pf (by omega)
theorem s_paint (l : Launch) (G : GE) (h : AH) (x : Nat) (s : MS) (S0 : SRAt G h x s) (a : Int32) (b : Int32) (x1 : Int32) : GM l G yX1_paint (ws_ yX1_paint cX1_paint 5 (some .int)) 18 [.ref x, .int a, .int b, .int x1] (h) (5000) (SPost G x (ex1 IAE) (mPaint s a b x1)) := by
  refine GM.of (by decide) (dk rfl) ?_
  intro X eL eG eh ok fn
  subst eL; subst eG
  show GW X _ 0 0 [some (.ref x), some (.int a), some (.int b), some (.int x1), none] []
  obtain ⟨own, hr, ru, sv, hl, hd, hc, hm, hf, inp, ln, bt, rf, S⟩ := S0
  obtain ⟨rt, cl, nl, nd, nc, nm, nf, vl, vd, vc, vm, vf, y⟩ := S.2.2.2.2.2.2.2.2.1.1.1
  rcases Bool.eq_false_or_eq_true (isSp a b) with hs | hs
  · obtain ⟨i, j, ea, eb, hij, hj⟩ : ∃ i j, a = nI i ∧ b = nI j ∧ i ≤ j ∧ j < 32 := ⟨_, _, isSp_n hs⟩
    subst ea; subst eb
    rcases Bool.eq_false_or_eq_true (isCo x1) with hn | hn
    · refine g_iload_n ok dX1_paint_0 rfl ?_
      refine g_iload_n ok dX1_paint_1 rfl ?_
      refine g_callS ok q995 q996 q61 q997 dX1_paint_2 (x_isSpan X.l X.G _ (nI i) (nI j)) (nm_ (by decide : nmb _ 2 = true)) (dl rfl) (dk rfl) rfl rfl (dk rfl) (by omega) (kV ?_) xV
      refine g_if_eq ok (tgt := 19) dX1_paint_5 (by decide) (fun c_ => absurd c_ (by rw [hs]; decide)) (fun _ => ?_)
      refine g_iload_n ok dX1_paint_8 rfl ?_
      refine g_callS ok q1188 q1189 q61 q1190 dX1_paint_9 (x_isColour X.l X.G _ x1) (nm_ (by decide : nmb _ 1 = true)) (dl rfl) (dk rfl) rfl rfl (dk rfl) (by omega) (kV ?_) xV
      refine g_if_eq ok (tgt := 19) dX1_paint_12 (by decide) (fun c_ => absurd c_ (by rw [hn]; decide)) (fun _ => ?_)
      refine g_iconst ok (v := 1) dX1_paint_15 rfl ?_
      refine g_goto ok dX1_paint_16 (tgt := 20) (by decide) ?_
      refine g_callS ok q1019 q1020 q61 q1021 dX1_paint_20 (x_chkA1 X.l X.G _) (nm_ (by decide : nmb _ 1 = true)) (dl rfl) (dk rfl) rfl rfl (dk rfl) (by omega) (kN ?_) xN
      refine g_aload_n ok dX1_paint_23 rfl ?_
      refine g_get ok ck_X1 0 q319 (Or.inl rfl) (by decide) dX1_paint_24 (Rd.h (S.2.2.1)) rfl ?_
      refine g_callV ok q348 q349 q350 q62 q351 (Recv.ob ok gc_X2 (Rd.h (S.1 _ _ y.1.1))) dX1_paint_27 (GM.fr S.1 (x_copy X.l X.G hr (fun q => own q = ru) ru (s.A 0) S.2.2.2.2.2.2.2.2.1.1.1)) (nm_ (by decide : nmb _ 0 = true)) (dl rfl) (dk rfl) rfl rfl (dk rfl) (by omega) (kFR fun uC hrC hC ⟨c, eC, mC⟩ fC => ?_) xFR
      subst eC
      obtain ⟨lc, hc0⟩ := mC.o0
      have kC := fC.keep
      refine g_astore ok dX1_paint_30 (ls1 := [some (.ref x), some (.int (nI i)), some (.int (nI j)), some (.int x1), some (.ref c)]) (dl rfl) rfl ?_
      refine g_aload_n ok dX1_paint_32 rfl ?_
      refine g_aload ok dX1_paint_33 rfl ?_
      refine g_aload ok dX1_paint_35 rfl ?_
      refine g_iload_n ok dX1_paint_37 rfl ?_
      refine g_iload_n ok dX1_paint_38 rfl ?_
      refine g_iload_n ok dX1_paint_39 rfl ?_
      refine g_callV ok q1191 q1192 q1193 q62 q1194 (Recv.ob ok gc_X2 (Rd.h (kC _ _ hc0))) dX1_paint_40 (GM.fr kC (u_paint X.l X.G hr hrC c (s.A 0) mC i j (by omega) (by omega) x1 hn)) (nm_ (by decide : nmb _ 3 = true)) (dl rfl) (dk rfl) rfl rfl (dk rfl) (by omega) (kFR fun uM hrM hM ⟨eM, mM⟩ fM => ?_) xFR
      subst eM
      obtain ⟨own2, S2, yc, nc, nf, nv⟩ := SRx.copied S mM fM.keep (fun q e a b => fM.out q e (fC.out q e a b).1 (fC.out q e a b).2)
      have tk : TkOk (upd (rpl x1 (j + 1 - i) i 0 (s.A 0)).2 7 ((rpl x1 (j + 1 - i) i 0 (s.A 0)).2 7 + (rpl x1 (j + 1 - i) i 0 (s.A 0)).1)) := S.2.2.2.2.2.2.2.2.1.1.2.of (by unfold rN; rw [upd_ne (by omega), rpl_o _ _ _ _ _ _ (by omega) (by omega)]) (fun q hq => by rw [upd_ne (by omega), rpl_o _ _ _ _ _ _ (by omega) (by omega)])
      refine g_callV ok q1114 q1116 qs6 q61 q1117 (Recv.ob ok gc_X1 (Rd.h (S2.2.2.1))) dX1_paint_43 (s_become X.l X.G hM x own2 hrM s ru sv hl hd hc hm hf inp ln bt rf S2 c (upd (rpl x1 (j + 1 - i) i 0 (s.A 0)).2 7 ((rpl x1 (j + 1 - i) i 0 (s.A 0)).2 7 + (rpl x1 (j + 1 - i) i 0 (s.A 0)).1)) yc tk nc nf nv ((rpl x1 (j + 1 - i) i 0 (s.A 0)).1)) (nm_ (by decide : nmb _ 2 = true)) (dl rfl) (dk rfl) rfl rfl (dk rfl) (by omega) (kR fun u9 h9 ⟨e9, B9⟩ => ?_) xR
      subst e9
      have pf : SPost X.G x (ex1 IAE) (mPaint s (nI i) (nI j) x1) (.inl (some (.int ((rpl x1 (j + 1 - i) i 0 (s.A 0)).1)))) h9 := by
        obtain ⟨pp1, pp2, pp3⟩ := pal_rpl x1 (j + 1 - i) i 0 (mTries s)
        rw [mTries_A s (by decide)] at pp1 pp2
        unfold mPaint mPaints; rw [if_pos ⟨hs, hn⟩]
        show SPost _ _ _ (mEnds _ 0) _ _
        rw [mEnds_0]; dsimp only; rw [mI_19]; unfold sp; simp only [nn_nI (by omega : i < 2 ^ 31), nn_nI (by omega : j < 2 ^ 31)]
        rw [pp1]
        refine SPost.ends (B9 _ (Bec.keeps (Tri.mI (Tri.mA ((Tri.tries s).of pp3 (fun i _ => by rw [pal_I]))) (by omega)) S.2.2.2.2.2.2.2.1 (fun q _ => by rw [mI_A, mA_A, if_pos rfl, pp2]))) ?_
        rw [mKeeps_I (by decide)]; rw [mI_I, upd_ne (by omega), mA_I, pal_I, mTries_I, upd_at]
      exact g_iret ok fn rfl dX1_paint_46 pf (by omega)
    · refine g_iload_n ok dX1_paint_0 rfl ?_
      refine g_iload_n ok dX1_paint_1 rfl ?_
      refine g_callS ok q995 q996 q61 q997 dX1_paint_2 (x_isSpan X.l X.G _ (nI i) (nI j)) (nm_ (by decide : nmb _ 2 = true)) (dl rfl) (dk rfl) rfl rfl (dk rfl) (by omega) (kV ?_) xV
      refine g_if_eq ok (tgt := 19) dX1_paint_5 (by decide) (fun c_ => absurd c_ (by rw [hs]; decide)) (fun _ => ?_)
      refine g_iload_n ok dX1_paint_8 rfl ?_
      refine g_callS ok q1188 q1189 q61 q1190 dX1_paint_9 (x_isColour X.l X.G _ x1) (nm_ (by decide : nmb _ 1 = true)) (dl rfl) (dk rfl) rfl rfl (dk rfl) (by omega) (kV ?_) xV
      refine g_if_eq ok (tgt := 19) dX1_paint_12 (by decide) (fun _ => ?_) (fun c_ => absurd (by rw [hn]; rfl) c_)
      refine g_iconst ok (v := 0) dX1_paint_19 rfl ?_
      refine g_callS ok q1019 q1020 q61 q1021 dX1_paint_20 (x_chkA0 X.l X.G _) (nm_ (by decide : nmb _ 1 = true)) (dl rfl) (dk rfl) rfl rfl (dk rfl) (by omega) kT (xT fun qx fx kx => ?_)
      have pf : SPost X.G x (ex1 IAE) (mPaint s (nI i) (nI j) x1) (.inr (IAE, qx)) (up h qx (ob 18 [])) := by
        unfold mPaint mPaints; rw [if_neg (fun w_ => by rw [hn] at w_; exact absurd w_.2 (by decide))]
        show SPost _ _ _ (mEnds (mTries s) 1) _ _
        rw [mEnds_n (by decide)]
        exact SPost.no S.at.tries fx (by decide) rfl
      exact g_out ok fn (fun z hz => nomatch hz) pf (by omega)
  · refine g_iload_n ok dX1_paint_0 rfl ?_
    refine g_iload_n ok dX1_paint_1 rfl ?_
    refine g_callS ok q995 q996 q61 q997 dX1_paint_2 (x_isSpan X.l X.G _ a b) (nm_ (by decide : nmb _ 2 = true)) (dl rfl) (dk rfl) rfl rfl (dk rfl) (by omega) (kV ?_) xV
    refine g_if_eq ok (tgt := 19) dX1_paint_5 (by decide) (fun _ => ?_) (fun c_ => absurd (by rw [hs]; rfl) c_)
    refine g_iconst ok (v := 0) dX1_paint_19 rfl ?_
    refine g_callS ok q1019 q1020 q61 q1021 dX1_paint_20 (x_chkA0 X.l X.G _) (nm_ (by decide : nmb _ 1 = true)) (dl rfl) (dk rfl) rfl rfl (dk rfl) (by omega) kT (xT fun qx fx kx => ?_)
    have pf : SPost X.G x (ex1 IAE) (mPaint s a b x1) (.inr (IAE, qx)) (up h qx (ob 18 [])) := by
      unfold mPaint mPaints; rw [if_neg (fun w_ => by rw [hs] at w_; exact absurd w_.1 (by decide))]
      show SPost _ _ _ (mEnds (mTries s) 1) _ _
      rw [mEnds_n (by decide)]
      exact SPost.no S.at.tries fx (by decide) rfl
    exact g_out ok fn (fun z hz => nomatch hz) pf (by omega)
