-- ===== PART A: goes FIRST, ahead of the names: the tables' words, and 'selects' of the private methods out of them =====
/-- a private method of a class that the tables say can be made, by its rows of tables_1 -/
def lw_okq (q : MethodName × Nat) : Prop := (q.1.cls ≠ "java/lang/invoke/MethodHandle" ∧ q.1.cls ≠ "java/lang/invoke/VarHandle") ∧ Cond.instantiable q.1.cls q.2 ∈ tables_1 ∧ Cond.privateMethod q.1 ∈ tables_1 ∧ Cond.instanceMethod q.1 ∈ tables_1
set_option maxRecDepth 100000
theorem lw_t1 {w : Cond} (h : w ∈ tables_1_1) : w ∈ tables_1 := List.mem_append_left _ h
theorem lw_t2 {w : Cond} (h : w ∈ tables_1_2) : w ∈ tables_1 := List.mem_append_right _ (List.mem_append_left _ h)
theorem lw_t3 {w : Cond} (h : w ∈ tables_1_3) : w ∈ tables_1 := List.mem_append_right _ (List.mem_append_right _ (List.mem_append_left _ h))
theorem lw_t4 {w : Cond} (h : w ∈ tables_1_4) : w ∈ tables_1 := List.mem_append_right _ (List.mem_append_right _ (List.mem_append_right _ (List.mem_append_left _ h)))
theorem lw_t5 {w : Cond} (h : w ∈ tables_1_5) : w ∈ tables_1 := List.mem_append_right _ (List.mem_append_right _ (List.mem_append_right _ (List.mem_append_right _ (List.mem_append_left _ h))))
theorem lw_t6 {w : Cond} (h : w ∈ tables_1_6) : w ∈ tables_1 := List.mem_append_right _ (List.mem_append_right _ (List.mem_append_right _ (List.mem_append_right _ (List.mem_append_right _ (List.mem_append_left _ h)))))
theorem lw_t7 {w : Cond} (h : w ∈ tables_1_7) : w ∈ tables_1 := List.mem_append_right _ (List.mem_append_right _ (List.mem_append_right _ (List.mem_append_right _ (List.mem_append_right _ (List.mem_append_right _ (List.mem_append_left _ h))))))
theorem lw_t8 {w : Cond} (h : w ∈ tables_1_8) : w ∈ tables_1 := List.mem_append_right _ (List.mem_append_right _ (List.mem_append_right _ (List.mem_append_right _ (List.mem_append_right _ (List.mem_append_right _ (List.mem_append_right _ (List.mem_append_left _ h)))))))
theorem lw_t9 {w : Cond} (h : w ∈ tables_1_9) : w ∈ tables_1 := List.mem_append_right _ (List.mem_append_right _ (List.mem_append_right _ (List.mem_append_right _ (List.mem_append_right _ (List.mem_append_right _ (List.mem_append_right _ (List.mem_append_right _ (List.mem_append_left _ h))))))))
theorem lw_t10 {w : Cond} (h : w ∈ tables_1_10) : w ∈ tables_1 := List.mem_append_right _ (List.mem_append_right _ (List.mem_append_right _ (List.mem_append_right _ (List.mem_append_right _ (List.mem_append_right _ (List.mem_append_right _ (List.mem_append_right _ (List.mem_append_right _ (List.mem_append_left _ h)))))))))
theorem lw_t11 {w : Cond} (h : w ∈ tables_1_11) : w ∈ tables_1 := List.mem_append_right _ (List.mem_append_right _ (List.mem_append_right _ (List.mem_append_right _ (List.mem_append_right _ (List.mem_append_right _ (List.mem_append_right _ (List.mem_append_right _ (List.mem_append_right _ (List.mem_append_right _ (List.mem_append_left _ h))))))))))
theorem lw_t12 {w : Cond} (h : w ∈ tables_1_12) : w ∈ tables_1 := List.mem_append_right _ (List.mem_append_right _ (List.mem_append_right _ (List.mem_append_right _ (List.mem_append_right _ (List.mem_append_right _ (List.mem_append_right _ (List.mem_append_right _ (List.mem_append_right _ (List.mem_append_right _ (List.mem_append_right _ h))))))))))
theorem lw_p0 : lw_okq (⟨"java/lang/Throwable", "fillInStackTrace", "(I)Ljava/lang/Throwable;"⟩, 6) := ⟨⟨by decide +kernel, by decide +kernel⟩, lw_t2 (List.mem_of_getElem? (i := 177) rfl), lw_t2 (List.mem_of_getElem? (i := 175) rfl), lw_t2 (List.mem_of_getElem? (i := 176) rfl)⟩
theorem lw_p1 : lw_okq (⟨"java/util/ArrayList", "add", "(Ljava/lang/Object;[Ljava/lang/Object;I)V"⟩, 3) := ⟨⟨by decide +kernel, by decide +kernel⟩, lw_t1 (List.mem_of_getElem? (i := 154) rfl), lw_t4 (List.mem_of_getElem? (i := 73) rfl), lw_t4 (List.mem_of_getElem? (i := 74) rfl)⟩
theorem lw_p2 : lw_okq (⟨"java/util/ArrayList", "grow", "()[Ljava/lang/Object;"⟩, 3) := ⟨⟨by decide +kernel, by decide +kernel⟩, lw_t1 (List.mem_of_getElem? (i := 154) rfl), lw_t4 (List.mem_of_getElem? (i := 77) rfl), lw_t4 (List.mem_of_getElem? (i := 78) rfl)⟩
theorem lw_p3 : lw_okq (⟨"java/util/ArrayList", "grow", "(I)[Ljava/lang/Object;"⟩, 3) := ⟨⟨by decide +kernel, by decide +kernel⟩, lw_t1 (List.mem_of_getElem? (i := 154) rfl), lw_t4 (List.mem_of_getElem? (i := 81) rfl), lw_t4 (List.mem_of_getElem? (i := 82) rfl)⟩
theorem lw_p4 : lw_okq (⟨"SpanRuler$Ruler", "leaving", "(IILSpanRuler$Act;)I"⟩, 10) := ⟨⟨by decide +kernel, by decide +kernel⟩, lw_t1 (List.mem_of_getElem? (i := 64) rfl), lw_t5 (List.mem_of_getElem? (i := 31) rfl), lw_t5 (List.mem_of_getElem? (i := 32) rfl)⟩
theorem lw_p5 : lw_okq (⟨"SpanRuler$Ruler", "does", "(IILSpanRuler$Act;)V"⟩, 10) := ⟨⟨by decide +kernel, by decide +kernel⟩, lw_t1 (List.mem_of_getElem? (i := 64) rfl), lw_t5 (List.mem_of_getElem? (i := 76) rfl), lw_t5 (List.mem_of_getElem? (i := 77) rfl)⟩
theorem lw_p6 : lw_okq (⟨"SpanRuler", "become", "(LSpanRuler$Ruler;I)I"⟩, 8) := ⟨⟨by decide +kernel, by decide +kernel⟩, lw_t1 (List.mem_of_getElem? (i := 56) rfl), lw_t5 (List.mem_of_getElem? (i := 95) rfl), lw_t5 (List.mem_of_getElem? (i := 96) rfl)⟩
theorem lw_p7 : lw_okq (⟨"java/util/ArrayList", "fastRemove", "([Ljava/lang/Object;I)V"⟩, 3) := ⟨⟨by decide +kernel, by decide +kernel⟩, lw_t1 (List.mem_of_getElem? (i := 154) rfl), lw_t5 (List.mem_of_getElem? (i := 107) rfl), lw_t5 (List.mem_of_getElem? (i := 108) rfl)⟩
theorem lw_p8 : lw_okq (⟨"SpanRuler", "kept", "(LSpanRuler$Refusal;)Ljava/lang/UnsupportedOperationException;"⟩, 8) := ⟨⟨by decide +kernel, by decide +kernel⟩, lw_t1 (List.mem_of_getElem? (i := 56) rfl), lw_t5 (List.mem_of_getElem? (i := 113) rfl), lw_t5 (List.mem_of_getElem? (i := 114) rfl)⟩
theorem lw_p9 : lw_okq (⟨"SpanRuler", "noteAt", "(I)LSpanRuler$Note;"⟩, 8) := ⟨⟨by decide +kernel, by decide +kernel⟩, lw_t1 (List.mem_of_getElem? (i := 56) rfl), lw_t5 (List.mem_of_getElem? (i := 217) rfl), lw_t5 (List.mem_of_getElem? (i := 218) rfl)⟩
theorem lw_p10 : lw_okq (⟨"SpanRuler$Ruler", "tickGoesBy", "()I"⟩, 10) := ⟨⟨by decide +kernel, by decide +kernel⟩, lw_t1 (List.mem_of_getElem? (i := 64) rfl), lw_t6 (List.mem_of_getElem? (i := 21) rfl), lw_t6 (List.mem_of_getElem? (i := 22) rfl)⟩
theorem lw_p11 : lw_okq (⟨"SpanRuler$Ruler", "isDone", "(LSpanRuler$Note;)Z"⟩, 10) := ⟨⟨by decide +kernel, by decide +kernel⟩, lw_t1 (List.mem_of_getElem? (i := 64) rfl), lw_t6 (List.mem_of_getElem? (i := 30) rfl), lw_t6 (List.mem_of_getElem? (i := 31) rfl)⟩
theorem lw_p12 : lw_okq (⟨"SpanRuler", "versionAt", "(I)LSpanRuler$Version;"⟩, 8) := ⟨⟨by decide +kernel, by decide +kernel⟩, lw_t1 (List.mem_of_getElem? (i := 56) rfl), lw_t6 (List.mem_of_getElem? (i := 238) rfl), lw_t6 (List.mem_of_getElem? (i := 239) rfl)⟩
theorem lw_p13 : lw_okq (⟨"SpanRuler$Parser", "command", "()LSpanRuler$Command;"⟩, 4) := ⟨⟨by decide +kernel, by decide +kernel⟩, lw_t7 (List.mem_of_getElem? (i := 185) rfl), lw_t7 (List.mem_of_getElem? (i := 211) rfl), lw_t7 (List.mem_of_getElem? (i := 212) rfl)⟩
theorem lw_p14 : lw_okq (⟨"SpanRuler$Parser", "word", "(Ljava/util/List;)Ljava/lang/String;"⟩, 4) := ⟨⟨by decide +kernel, by decide +kernel⟩, lw_t7 (List.mem_of_getElem? (i := 185) rfl), lw_t8 (List.mem_of_getElem? (i := 33) rfl), lw_t8 (List.mem_of_getElem? (i := 34) rfl)⟩
theorem lw_p15 : lw_okq (⟨"SpanRuler$Parser", "peek", "()C"⟩, 4) := ⟨⟨by decide +kernel, by decide +kernel⟩, lw_t7 (List.mem_of_getElem? (i := 185) rfl), lw_t8 (List.mem_of_getElem? (i := 115) rfl), lw_t8 (List.mem_of_getElem? (i := 116) rfl)⟩
def lw_privs_1 : List (MethodName × Nat) := [(⟨"java/lang/Throwable", "fillInStackTrace", "(I)Ljava/lang/Throwable;"⟩, 6), (⟨"java/util/ArrayList", "add", "(Ljava/lang/Object;[Ljava/lang/Object;I)V"⟩, 3), (⟨"java/util/ArrayList", "grow", "()[Ljava/lang/Object;"⟩, 3), (⟨"java/util/ArrayList", "grow", "(I)[Ljava/lang/Object;"⟩, 3), (⟨"SpanRuler$Ruler", "leaving", "(IILSpanRuler$Act;)I"⟩, 10), (⟨"SpanRuler$Ruler", "does", "(IILSpanRuler$Act;)V"⟩, 10), (⟨"SpanRuler", "become", "(LSpanRuler$Ruler;I)I"⟩, 8), (⟨"java/util/ArrayList", "fastRemove", "([Ljava/lang/Object;I)V"⟩, 3), (⟨"SpanRuler", "kept", "(LSpanRuler$Refusal;)Ljava/lang/UnsupportedOperationException;"⟩, 8), (⟨"SpanRuler", "noteAt", "(I)LSpanRuler$Note;"⟩, 8), (⟨"SpanRuler$Ruler", "tickGoesBy", "()I"⟩, 10), (⟨"SpanRuler$Ruler", "isDone", "(LSpanRuler$Note;)Z"⟩, 10), (⟨"SpanRuler", "versionAt", "(I)LSpanRuler$Version;"⟩, 8), (⟨"SpanRuler$Parser", "command", "()LSpanRuler$Command;"⟩, 4), (⟨"SpanRuler$Parser", "word", "(Ljava/util/List;)Ljava/lang/String;"⟩, 4), (⟨"SpanRuler$Parser", "peek", "()C"⟩, 4)]
theorem lw_r1 : ∀ q ∈ lw_privs_1, lw_okq q := List.forall_mem_cons.mpr ⟨lw_p0, List.forall_mem_cons.mpr ⟨lw_p1, List.forall_mem_cons.mpr ⟨lw_p2, List.forall_mem_cons.mpr ⟨lw_p3, List.forall_mem_cons.mpr ⟨lw_p4, List.forall_mem_cons.mpr ⟨lw_p5, List.forall_mem_cons.mpr ⟨lw_p6, List.forall_mem_cons.mpr ⟨lw_p7, List.forall_mem_cons.mpr ⟨lw_p8, List.forall_mem_cons.mpr ⟨lw_p9, List.forall_mem_cons.mpr ⟨lw_p10, List.forall_mem_cons.mpr ⟨lw_p11, List.forall_mem_cons.mpr ⟨lw_p12, List.forall_mem_cons.mpr ⟨lw_p13, List.forall_mem_cons.mpr ⟨lw_p14, List.forall_mem_cons.mpr ⟨lw_p15, fun _ h => absurd h List.not_mem_nil⟩⟩⟩⟩⟩⟩⟩⟩⟩⟩⟩⟩⟩⟩⟩⟩
theorem lw_p16 : lw_okq (⟨"SpanRuler$Parser", "number", "()I"⟩, 4) := ⟨⟨by decide +kernel, by decide +kernel⟩, lw_t7 (List.mem_of_getElem? (i := 185) rfl), lw_t9 (List.mem_of_getElem? (i := 134) rfl), lw_t9 (List.mem_of_getElem? (i := 135) rfl)⟩
theorem lw_p17 : lw_okq (⟨"SpanRuler$Parser", "next", "(CC)I"⟩, 4) := ⟨⟨by decide +kernel, by decide +kernel⟩, lw_t7 (List.mem_of_getElem? (i := 185) rfl), lw_t9 (List.mem_of_getElem? (i := 138) rfl), lw_t9 (List.mem_of_getElem? (i := 139) rfl)⟩
theorem lw_p18 : lw_okq (⟨"SpanRuler$Parser", "digits", "()I"⟩, 4) := ⟨⟨by decide +kernel, by decide +kernel⟩, lw_t7 (List.mem_of_getElem? (i := 185) rfl), lw_t9 (List.mem_of_getElem? (i := 143) rfl), lw_t9 (List.mem_of_getElem? (i := 144) rfl)⟩
theorem lw_p19 : lw_okq (⟨"SpanRuler$Parser", "ofSpan", "(Ljava/lang/String;)LSpanRuler$Command;"⟩, 4) := ⟨⟨by decide +kernel, by decide +kernel⟩, lw_t7 (List.mem_of_getElem? (i := 185) rfl), lw_t9 (List.mem_of_getElem? (i := 164) rfl), lw_t9 (List.mem_of_getElem? (i := 165) rfl)⟩
theorem lw_p20 : lw_okq (⟨"SpanRuler$Parser", "colour", "()I"⟩, 4) := ⟨⟨by decide +kernel, by decide +kernel⟩, lw_t7 (List.mem_of_getElem? (i := 185) rfl), lw_t9 (List.mem_of_getElem? (i := 168) rfl), lw_t9 (List.mem_of_getElem? (i := 169) rfl)⟩
theorem lw_p21 : lw_okq (⟨"SpanRuler$Parser", "signed", "()I"⟩, 4) := ⟨⟨by decide +kernel, by decide +kernel⟩, lw_t7 (List.mem_of_getElem? (i := 185) rfl), lw_t9 (List.mem_of_getElem? (i := 179) rfl), lw_t9 (List.mem_of_getElem? (i := 180) rfl)⟩
theorem lw_p22 : lw_okq (⟨"SpanRuler$Command", "onSpan", "(LSpanRuler$Ruler;)I"⟩, 4) := ⟨⟨by decide +kernel, by decide +kernel⟩, lw_t9 (List.mem_of_getElem? (i := 132) rfl), lw_t9 (List.mem_of_getElem? (i := 202) rfl), lw_t9 (List.mem_of_getElem? (i := 203) rfl)⟩
theorem lw_p23 : lw_okq (⟨"SpanRulerModel", "tries", "()V"⟩, 21) := ⟨⟨by decide +kernel, by decide +kernel⟩, lw_t10 (List.mem_of_getElem? (i := 9) rfl), lw_t10 (List.mem_of_getElem? (i := 88) rfl), lw_t10 (List.mem_of_getElem? (i := 89) rfl)⟩
theorem lw_p24 : lw_okq (⟨"SpanRulerModel", "adds", "(III)I"⟩, 21) := ⟨⟨by decide +kernel, by decide +kernel⟩, lw_t10 (List.mem_of_getElem? (i := 9) rfl), lw_t10 (List.mem_of_getElem? (i := 92) rfl), lw_t10 (List.mem_of_getElem? (i := 93) rfl)⟩
theorem lw_p25 : lw_okq (⟨"SpanRulerModel", "leaving", "(IIII)I"⟩, 21) := ⟨⟨by decide +kernel, by decide +kernel⟩, lw_t10 (List.mem_of_getElem? (i := 9) rfl), lw_t10 (List.mem_of_getElem? (i := 108) rfl), lw_t10 (List.mem_of_getElem? (i := 109) rfl)⟩
theorem lw_p26 : lw_okq (⟨"SpanRulerModel", "number", "(I)I"⟩, 21) := ⟨⟨by decide +kernel, by decide +kernel⟩, lw_t10 (List.mem_of_getElem? (i := 9) rfl), lw_t10 (List.mem_of_getElem? (i := 112) rfl), lw_t10 (List.mem_of_getElem? (i := 113) rfl)⟩
theorem lw_p27 : lw_okq (⟨"SpanRulerModel", "refuses", "(II)I"⟩, 21) := ⟨⟨by decide +kernel, by decide +kernel⟩, lw_t10 (List.mem_of_getElem? (i := 9) rfl), lw_t10 (List.mem_of_getElem? (i := 119) rfl), lw_t10 (List.mem_of_getElem? (i := 120) rfl)⟩
theorem lw_p28 : lw_okq (⟨"SpanRulerModel", "acts", "(IIII)V"⟩, 21) := ⟨⟨by decide +kernel, by decide +kernel⟩, lw_t10 (List.mem_of_getElem? (i := 9) rfl), lw_t10 (List.mem_of_getElem? (i := 123) rfl), lw_t10 (List.mem_of_getElem? (i := 124) rfl)⟩
theorem lw_p29 : lw_okq (⟨"SpanRulerModel", "sumOfSpan", "(II)I"⟩, 21) := ⟨⟨by decide +kernel, by decide +kernel⟩, lw_t10 (List.mem_of_getElem? (i := 9) rfl), lw_t10 (List.mem_of_getElem? (i := 127) rfl), lw_t10 (List.mem_of_getElem? (i := 128) rfl)⟩
theorem lw_p30 : lw_okq (⟨"SpanRulerModel", "does", "(I)I"⟩, 21) := ⟨⟨by decide +kernel, by decide +kernel⟩, lw_t10 (List.mem_of_getElem? (i := 9) rfl), lw_t10 (List.mem_of_getElem? (i := 131) rfl), lw_t10 (List.mem_of_getElem? (i := 132) rfl)⟩
theorem lw_p31 : lw_okq (⟨"SpanRulerModel", "ends", "(I)I"⟩, 21) := ⟨⟨by decide +kernel, by decide +kernel⟩, lw_t10 (List.mem_of_getElem? (i := 9) rfl), lw_t10 (List.mem_of_getElem? (i := 135) rfl), lw_t10 (List.mem_of_getElem? (i := 136) rfl)⟩
def lw_privs_2 : List (MethodName × Nat) := [(⟨"SpanRuler$Parser", "number", "()I"⟩, 4), (⟨"SpanRuler$Parser", "next", "(CC)I"⟩, 4), (⟨"SpanRuler$Parser", "digits", "()I"⟩, 4), (⟨"SpanRuler$Parser", "ofSpan", "(Ljava/lang/String;)LSpanRuler$Command;"⟩, 4), (⟨"SpanRuler$Parser", "colour", "()I"⟩, 4), (⟨"SpanRuler$Parser", "signed", "()I"⟩, 4), (⟨"SpanRuler$Command", "onSpan", "(LSpanRuler$Ruler;)I"⟩, 4), (⟨"SpanRulerModel", "tries", "()V"⟩, 21), (⟨"SpanRulerModel", "adds", "(III)I"⟩, 21), (⟨"SpanRulerModel", "leaving", "(IIII)I"⟩, 21), (⟨"SpanRulerModel", "number", "(I)I"⟩, 21), (⟨"SpanRulerModel", "refuses", "(II)I"⟩, 21), (⟨"SpanRulerModel", "acts", "(IIII)V"⟩, 21), (⟨"SpanRulerModel", "sumOfSpan", "(II)I"⟩, 21), (⟨"SpanRulerModel", "does", "(I)I"⟩, 21), (⟨"SpanRulerModel", "ends", "(I)I"⟩, 21)]
theorem lw_r2 : ∀ q ∈ lw_privs_2, lw_okq q := List.forall_mem_cons.mpr ⟨lw_p16, List.forall_mem_cons.mpr ⟨lw_p17, List.forall_mem_cons.mpr ⟨lw_p18, List.forall_mem_cons.mpr ⟨lw_p19, List.forall_mem_cons.mpr ⟨lw_p20, List.forall_mem_cons.mpr ⟨lw_p21, List.forall_mem_cons.mpr ⟨lw_p22, List.forall_mem_cons.mpr ⟨lw_p23, List.forall_mem_cons.mpr ⟨lw_p24, List.forall_mem_cons.mpr ⟨lw_p25, List.forall_mem_cons.mpr ⟨lw_p26, List.forall_mem_cons.mpr ⟨lw_p27, List.forall_mem_cons.mpr ⟨lw_p28, List.forall_mem_cons.mpr ⟨lw_p29, List.forall_mem_cons.mpr ⟨lw_p30, List.forall_mem_cons.mpr ⟨lw_p31, fun _ h => absurd h List.not_mem_nil⟩⟩⟩⟩⟩⟩⟩⟩⟩⟩⟩⟩⟩⟩⟩⟩
theorem lw_p32 : lw_okq (⟨"SpanRulerModel", "keeps", "(I)I"⟩, 21) := ⟨⟨by decide +kernel, by decide +kernel⟩, lw_t10 (List.mem_of_getElem? (i := 9) rfl), lw_t10 (List.mem_of_getElem? (i := 139) rfl), lw_t10 (List.mem_of_getElem? (i := 140) rfl)⟩
theorem lw_p33 : lw_okq (⟨"SpanRulerModel", "raises", "(I)I"⟩, 21) := ⟨⟨by decide +kernel, by decide +kernel⟩, lw_t10 (List.mem_of_getElem? (i := 9) rfl), lw_t10 (List.mem_of_getElem? (i := 143) rfl), lw_t10 (List.mem_of_getElem? (i := 144) rfl)⟩
theorem lw_p34 : lw_okq (⟨"SpanRulerModel", "sets", "(III)I"⟩, 21) := ⟨⟨by decide +kernel, by decide +kernel⟩, lw_t10 (List.mem_of_getElem? (i := 9) rfl), lw_t10 (List.mem_of_getElem? (i := 151) rfl), lw_t10 (List.mem_of_getElem? (i := 152) rfl)⟩
theorem lw_p35 : lw_okq (⟨"SpanRulerModel", "turns", "(II)I"⟩, 21) := ⟨⟨by decide +kernel, by decide +kernel⟩, lw_t10 (List.mem_of_getElem? (i := 9) rfl), lw_t10 (List.mem_of_getElem? (i := 159) rfl), lw_t10 (List.mem_of_getElem? (i := 160) rfl)⟩
theorem lw_p36 : lw_okq (⟨"SpanRulerModel", "paints", "(III)I"⟩, 21) := ⟨⟨by decide +kernel, by decide +kernel⟩, lw_t10 (List.mem_of_getElem? (i := 9) rfl), lw_t10 (List.mem_of_getElem? (i := 167) rfl), lw_t10 (List.mem_of_getElem? (i := 168) rfl)⟩
theorem lw_p37 : lw_okq (⟨"SpanRulerModel", "colour", "(I)I"⟩, 21) := ⟨⟨by decide +kernel, by decide +kernel⟩, lw_t10 (List.mem_of_getElem? (i := 9) rfl), lw_t10 (List.mem_of_getElem? (i := 174) rfl), lw_t10 (List.mem_of_getElem? (i := 175) rfl)⟩
theorem lw_p38 : lw_okq (⟨"SpanRulerModel", "isNote", "(I)Z"⟩, 21) := ⟨⟨by decide +kernel, by decide +kernel⟩, lw_t10 (List.mem_of_getElem? (i := 9) rfl), lw_t10 (List.mem_of_getElem? (i := 186) rfl), lw_t10 (List.mem_of_getElem? (i := 187) rfl)⟩
theorem lw_p39 : lw_okq (⟨"SpanRulerModel", "noted", "(II)I"⟩, 21) := ⟨⟨by decide +kernel, by decide +kernel⟩, lw_t10 (List.mem_of_getElem? (i := 9) rfl), lw_t10 (List.mem_of_getElem? (i := 190) rfl), lw_t10 (List.mem_of_getElem? (i := 191) rfl)⟩
theorem lw_p40 : lw_okq (⟨"SpanRulerModel", "goes", "(I)V"⟩, 21) := ⟨⟨by decide +kernel, by decide +kernel⟩, lw_t10 (List.mem_of_getElem? (i := 9) rfl), lw_t10 (List.mem_of_getElem? (i := 194) rfl), lw_t10 (List.mem_of_getElem? (i := 195) rfl)⟩
theorem lw_p41 : lw_okq (⟨"SpanRulerModel", "ticks", "(I)I"⟩, 21) := ⟨⟨by decide +kernel, by decide +kernel⟩, lw_t10 (List.mem_of_getElem? (i := 9) rfl), lw_t10 (List.mem_of_getElem? (i := 206) rfl), lw_t10 (List.mem_of_getElem? (i := 207) rfl)⟩
theorem lw_p42 : lw_okq (⟨"SpanRulerModel", "ticksOn", "()I"⟩, 21) := ⟨⟨by decide +kernel, by decide +kernel⟩, lw_t10 (List.mem_of_getElem? (i := 9) rfl), lw_t10 (List.mem_of_getElem? (i := 210) rfl), lw_t10 (List.mem_of_getElem? (i := 211) rfl)⟩
theorem lw_p43 : lw_okq (⟨"SpanRulerModel", "finds", "(II)I"⟩, 21) := ⟨⟨by decide +kernel, by decide +kernel⟩, lw_t10 (List.mem_of_getElem? (i := 9) rfl), lw_t10 (List.mem_of_getElem? (i := 231) rfl), lw_t10 (List.mem_of_getElem? (i := 232) rfl)⟩
theorem lw_p44 : lw_okq (⟨"SpanRulerModel", "worth", "(I)I"⟩, 21) := ⟨⟨by decide +kernel, by decide +kernel⟩, lw_t10 (List.mem_of_getElem? (i := 9) rfl), lw_t11 (List.mem_of_getElem? (i := 38) rfl), lw_t11 (List.mem_of_getElem? (i := 39) rfl)⟩
theorem lw_p45 : lw_okq (⟨"SpanRulerModel", "isAhead", "(II)Z"⟩, 21) := ⟨⟨by decide +kernel, by decide +kernel⟩, lw_t10 (List.mem_of_getElem? (i := 9) rfl), lw_t11 (List.mem_of_getElem? (i := 46) rfl), lw_t11 (List.mem_of_getElem? (i := 47) rfl)⟩
theorem lw_p46 : lw_okq (⟨"SpanRulerModel", "many", "(I)I"⟩, 21) := ⟨⟨by decide +kernel, by decide +kernel⟩, lw_t10 (List.mem_of_getElem? (i := 9) rfl), lw_t11 (List.mem_of_getElem? (i := 50) rfl), lw_t11 (List.mem_of_getElem? (i := 51) rfl)⟩
theorem lw_p47 : lw_okq (⟨"SpanRulerModel", "keepsVersion", "()I"⟩, 21) := ⟨⟨by decide +kernel, by decide +kernel⟩, lw_t10 (List.mem_of_getElem? (i := 9) rfl), lw_t11 (List.mem_of_getElem? (i := 58) rfl), lw_t11 (List.mem_of_getElem? (i := 59) rfl)⟩
def lw_privs_3 : List (MethodName × Nat) := [(⟨"SpanRulerModel", "keeps", "(I)I"⟩, 21), (⟨"SpanRulerModel", "raises", "(I)I"⟩, 21), (⟨"SpanRulerModel", "sets", "(III)I"⟩, 21), (⟨"SpanRulerModel", "turns", "(II)I"⟩, 21), (⟨"SpanRulerModel", "paints", "(III)I"⟩, 21), (⟨"SpanRulerModel", "colour", "(I)I"⟩, 21), (⟨"SpanRulerModel", "isNote", "(I)Z"⟩, 21), (⟨"SpanRulerModel", "noted", "(II)I"⟩, 21), (⟨"SpanRulerModel", "goes", "(I)V"⟩, 21), (⟨"SpanRulerModel", "ticks", "(I)I"⟩, 21), (⟨"SpanRulerModel", "ticksOn", "()I"⟩, 21), (⟨"SpanRulerModel", "finds", "(II)I"⟩, 21), (⟨"SpanRulerModel", "worth", "(I)I"⟩, 21), (⟨"SpanRulerModel", "isAhead", "(II)Z"⟩, 21), (⟨"SpanRulerModel", "many", "(I)I"⟩, 21), (⟨"SpanRulerModel", "keepsVersion", "()I"⟩, 21)]
theorem lw_r3 : ∀ q ∈ lw_privs_3, lw_okq q := List.forall_mem_cons.mpr ⟨lw_p32, List.forall_mem_cons.mpr ⟨lw_p33, List.forall_mem_cons.mpr ⟨lw_p34, List.forall_mem_cons.mpr ⟨lw_p35, List.forall_mem_cons.mpr ⟨lw_p36, List.forall_mem_cons.mpr ⟨lw_p37, List.forall_mem_cons.mpr ⟨lw_p38, List.forall_mem_cons.mpr ⟨lw_p39, List.forall_mem_cons.mpr ⟨lw_p40, List.forall_mem_cons.mpr ⟨lw_p41, List.forall_mem_cons.mpr ⟨lw_p42, List.forall_mem_cons.mpr ⟨lw_p43, List.forall_mem_cons.mpr ⟨lw_p44, List.forall_mem_cons.mpr ⟨lw_p45, List.forall_mem_cons.mpr ⟨lw_p46, List.forall_mem_cons.mpr ⟨lw_p47, fun _ h => absurd h List.not_mem_nil⟩⟩⟩⟩⟩⟩⟩⟩⟩⟩⟩⟩⟩⟩⟩⟩
theorem lw_p48 : lw_okq (⟨"SpanRulerModel", "isVersion", "(I)Z"⟩, 21) := ⟨⟨by decide +kernel, by decide +kernel⟩, lw_t10 (List.mem_of_getElem? (i := 9) rfl), lw_t11 (List.mem_of_getElem? (i := 66) rfl), lw_t11 (List.mem_of_getElem? (i := 67) rfl)⟩
theorem lw_p49 : lw_okq (⟨"SpanRulerModel", "different", "(III)I"⟩, 21) := ⟨⟨by decide +kernel, by decide +kernel⟩, lw_t10 (List.mem_of_getElem? (i := 9) rfl), lw_t11 (List.mem_of_getElem? (i := 70) rfl), lw_t11 (List.mem_of_getElem? (i := 71) rfl)⟩
theorem lw_p50 : lw_okq (⟨"SpanRulerModel", "had", "(IIZ)I"⟩, 21) := ⟨⟨by decide +kernel, by decide +kernel⟩, lw_t10 (List.mem_of_getElem? (i := 9) rfl), lw_t11 (List.mem_of_getElem? (i := 74) rfl), lw_t11 (List.mem_of_getElem? (i := 75) rfl)⟩
theorem lw_p51 : lw_okq (⟨"SpanRulerModel", "writesNumber", "(I)V"⟩, 21) := ⟨⟨by decide +kernel, by decide +kernel⟩, lw_t10 (List.mem_of_getElem? (i := 9) rfl), lw_t11 (List.mem_of_getElem? (i := 94) rfl), lw_t11 (List.mem_of_getElem? (i := 95) rfl)⟩
theorem lw_p52 : lw_okq (⟨"SpanRulerModel", "isCommand", "()Z"⟩, 21) := ⟨⟨by decide +kernel, by decide +kernel⟩, lw_t10 (List.mem_of_getElem? (i := 9) rfl), lw_t11 (List.mem_of_getElem? (i := 126) rfl), lw_t11 (List.mem_of_getElem? (i := 127) rfl)⟩
theorem lw_p53 : lw_okq (⟨"SpanRulerModel", "isOneOf", "(Ljava/lang/String;)Z"⟩, 21) := ⟨⟨by decide +kernel, by decide +kernel⟩, lw_t10 (List.mem_of_getElem? (i := 9) rfl), lw_t11 (List.mem_of_getElem? (i := 131) rfl), lw_t11 (List.mem_of_getElem? (i := 132) rfl)⟩
theorem lw_p54 : lw_okq (⟨"SpanRulerModel", "isSpanTold", "()Z"⟩, 21) := ⟨⟨by decide +kernel, by decide +kernel⟩, lw_t10 (List.mem_of_getElem? (i := 9) rfl), lw_t11 (List.mem_of_getElem? (i := 218) rfl), lw_t11 (List.mem_of_getElem? (i := 219) rfl)⟩
theorem lw_p55 : lw_okq (⟨"SpanRulerModel", "isNumber", "(IZ)Z"⟩, 21) := ⟨⟨by decide +kernel, by decide +kernel⟩, lw_t10 (List.mem_of_getElem? (i := 9) rfl), lw_t11 (List.mem_of_getElem? (i := 222) rfl), lw_t11 (List.mem_of_getElem? (i := 223) rfl)⟩
theorem lw_p56 : lw_okq (⟨"SpanRulerModel", "takes", "(C)Z"⟩, 21) := ⟨⟨by decide +kernel, by decide +kernel⟩, lw_t10 (List.mem_of_getElem? (i := 9) rfl), lw_t11 (List.mem_of_getElem? (i := 226) rfl), lw_t11 (List.mem_of_getElem? (i := 227) rfl)⟩
theorem lw_p57 : lw_okq (⟨"SpanRulerModel", "isPainted", "()Z"⟩, 21) := ⟨⟨by decide +kernel, by decide +kernel⟩, lw_t10 (List.mem_of_getElem? (i := 9) rfl), lw_t11 (List.mem_of_getElem? (i := 230) rfl), lw_t11 (List.mem_of_getElem? (i := 231) rfl)⟩
theorem lw_p58 : lw_okq (⟨"SpanRulerModel", "carries", "()I"⟩, 21) := ⟨⟨by decide +kernel, by decide +kernel⟩, lw_t10 (List.mem_of_getElem? (i := 9) rfl), lw_t11 (List.mem_of_getElem? (i := 238) rfl), lw_t11 (List.mem_of_getElem? (i := 239) rfl)⟩
theorem lw_p59 : lw_okq (⟨"SpanRulerModel", "comesBack", "()V"⟩, 21) := ⟨⟨by decide +kernel, by decide +kernel⟩, lw_t10 (List.mem_of_getElem? (i := 9) rfl), lw_t12 (List.mem_of_getElem? (i := 2) rfl), lw_t12 (List.mem_of_getElem? (i := 3) rfl)⟩
def lw_privs_4 : List (MethodName × Nat) := [(⟨"SpanRulerModel", "isVersion", "(I)Z"⟩, 21), (⟨"SpanRulerModel", "different", "(III)I"⟩, 21), (⟨"SpanRulerModel", "had", "(IIZ)I"⟩, 21), (⟨"SpanRulerModel", "writesNumber", "(I)V"⟩, 21), (⟨"SpanRulerModel", "isCommand", "()Z"⟩, 21), (⟨"SpanRulerModel", "isOneOf", "(Ljava/lang/String;)Z"⟩, 21), (⟨"SpanRulerModel", "isSpanTold", "()Z"⟩, 21), (⟨"SpanRulerModel", "isNumber", "(IZ)Z"⟩, 21), (⟨"SpanRulerModel", "takes", "(C)Z"⟩, 21), (⟨"SpanRulerModel", "isPainted", "()Z"⟩, 21), (⟨"SpanRulerModel", "carries", "()I"⟩, 21), (⟨"SpanRulerModel", "comesBack", "()V"⟩, 21)]
theorem lw_r4 : ∀ q ∈ lw_privs_4, lw_okq q := List.forall_mem_cons.mpr ⟨lw_p48, List.forall_mem_cons.mpr ⟨lw_p49, List.forall_mem_cons.mpr ⟨lw_p50, List.forall_mem_cons.mpr ⟨lw_p51, List.forall_mem_cons.mpr ⟨lw_p52, List.forall_mem_cons.mpr ⟨lw_p53, List.forall_mem_cons.mpr ⟨lw_p54, List.forall_mem_cons.mpr ⟨lw_p55, List.forall_mem_cons.mpr ⟨lw_p56, List.forall_mem_cons.mpr ⟨lw_p57, List.forall_mem_cons.mpr ⟨lw_p58, List.forall_mem_cons.mpr ⟨lw_p59, fun _ h => absurd h List.not_mem_nil⟩⟩⟩⟩⟩⟩⟩⟩⟩⟩⟩⟩
def lw_privs : List (MethodName × Nat) := lw_privs_1 ++ (lw_privs_2 ++ (lw_privs_3 ++ (lw_privs_4)))
def lw_tbl : List Cond := k2_sels lw_privs ++ tables_1
theorem lw_privs_ok : ∀ q ∈ lw_privs, lw_okq q := by
  show ∀ q ∈ lw_privs_1 ++ (lw_privs_2 ++ (lw_privs_3 ++ (lw_privs_4))), lw_okq q
  exact List.forall_mem_append.mpr ⟨lw_r1, List.forall_mem_append.mpr ⟨lw_r2, List.forall_mem_append.mpr ⟨lw_r3, lw_r4⟩⟩⟩
-- ===== ONE list of words for every method: the tables' words that hold all through a run =====
def lw_all : List Cond := lw_tbl.filter goodWord
/-- a word of the tables by its place: claim/WORDS.tsv -/
theorem lw_w {w : Cond} (i : Nat) (h : lw_tbl[i]? = some w) (g : goodWord w = true) : w ∈ lw_all := List.mem_filter.mpr ⟨List.mem_of_getElem? h, g⟩
theorem lw_all_tbl {w : Cond} (h : w ∈ lw_all) : w ∈ lw_tbl := (List.mem_filter.mp h).1
theorem lw_self : GoodIn lw_all lw_all := fun w h => ⟨h, good_of_word (List.mem_filter.mp h).2⟩
/-- a class's field words, by their places -/
theorem lw_in (ws : List Cond) (ps : List Nat) (hp : ws = ps.filterMap (fun i => lw_tbl[i]?)) (hg : ws.all goodWord = true) : ∀ w ∈ ws, w ∈ lw_all := by
  intro w h
  have h1 := List.all_eq_true.mp hg w h
  rw [hp] at h
  obtain ⟨i, -, hi⟩ := List.mem_filterMap.mp h
  exact lw_w i hi h1
/-- the words of a contract for the method y with code b, L locals, answer r -/
abbrev ws_ (y : MethodName) (b : ByteArray) (L : Nat) (r : Option FieldType) : List Cond := Cond.code y b L r :: lw_all
theorem lw_meth {y : MethodName} {b : ByteArray} {L : Nat} {r : Option FieldType} (h : Cond.code y b L r ∈ lw_all) : GoodIn lw_all (ws_ y b L r) := by
  intro w hw
  rcases List.mem_cons.mp hw with e | e
  · rw [e]
    exact lw_self _ h
  · exact lw_self _ e
theorem lw_app {a c : List Cond} (ha : ∀ w ∈ a, w ∈ lw_all) (hc : GoodIn lw_all c) : GoodIn lw_all (a ++ c) := by
  intro w hw
  rcases List.mem_append.mp hw with e | e
  · exact lw_self w (ha w e)
  · exact hc w e
/-- what a call through an object asks: cwV n hts (lw_V ..) -/
theorem lw_V {own : String} {idx : Nat} {C : String} {y : MethodName} {b : ByteArray} {L : Nat} {r : Option FieldType} (h1 : Cond.methodLink own idx y ∈ lw_all) (h2 : Cond.instanceMethod y ∈ lw_all) (h3 : Cond.selects C y y ∈ lw_all) (h4 : Cond.initialized C ∈ lw_all) (h5 : Cond.code y b L r ∈ lw_all) : GoodIn lw_all (wsV own idx C y (ws_ y b L r)) := by
  refine lw_app ?_ (lw_meth h5)
  intro w hw
  simp only [List.mem_cons, List.not_mem_nil, or_false] at hw
  rcases hw with e | e | e | e
  · rw [e]; exact h1
  · rw [e]; exact h2
  · rw [e]; exact h3
  · rw [e]; exact h4
/-- what a static call asks: va_cwS n hts (lw_S ..) -/
theorem lw_S {own : String} {idx : Nat} {y : MethodName} {b : ByteArray} {L : Nat} {r : Option FieldType} (h1 : Cond.methodLink own idx y ∈ lw_all) (h2 : Cond.static y ∈ lw_all) (h3 : Cond.initialized y.cls ∈ lw_all) (h4 : Cond.code y b L r ∈ lw_all) : GoodIn lw_all (va_wsS own idx y (ws_ y b L r)) := by
  refine lw_app ?_ (lw_meth h4)
  intro w hw
  simp only [List.mem_cons, List.not_mem_nil, or_false] at hw
  rcases hw with e | e | e
  · rw [e]; exact h1
  · rw [e]; exact h2
  · rw [e]; exact h3
/-- the words of a contract for a method WITH HANDLERS (hh: its table) -/
abbrev wsW_ (y : MethodName) (b : ByteArray) (L : Nat) (r : Option FieldType) (hh : List (Nat × Nat × Nat × Nat)) : List Cond := Cond.codeWith y b L r hh :: lw_all
theorem lw_methW {y : MethodName} {b : ByteArray} {L : Nat} {r : Option FieldType} {hh : List (Nat × Nat × Nat × Nat)} (h : Cond.codeWith y b L r hh ∈ lw_all) : GoodIn lw_all (wsW_ y b L r hh) := by
  intro w hw
  rcases List.mem_cons.mp hw with e | e
  · rw [e]
    exact lw_self _ h
  · exact lw_self _ e
/-- any list of words by their places (lw_in), good -/
theorem lw_good {ws : List Cond} (h : ∀ w ∈ ws, w ∈ lw_all) : GoodIn lw_all ws := fun w hw => lw_self w (h w hw)
/-- what a call of a method with handlers asks: vx_cwVW n hts (lw_VW ..), vx_cwSW n hts (lw_SW ..) -/
theorem lw_VW {own : String} {idx : Nat} {C : String} {y : MethodName} {b : ByteArray} {L : Nat} {r : Option FieldType} {hh : List (Nat × Nat × Nat × Nat)} (h1 : Cond.methodLink own idx y ∈ lw_all) (h2 : Cond.instanceMethod y ∈ lw_all) (h3 : Cond.selects C y y ∈ lw_all) (h4 : Cond.initialized C ∈ lw_all) (h5 : Cond.codeWith y b L r hh ∈ lw_all) : GoodIn lw_all (wsV own idx C y (wsW_ y b L r hh)) := by
  refine lw_app ?_ (lw_methW h5)
  intro w hw
  simp only [List.mem_cons, List.not_mem_nil, or_false] at hw
  rcases hw with e | e | e | e
  · rw [e]; exact h1
  · rw [e]; exact h2
  · rw [e]; exact h3
  · rw [e]; exact h4
theorem lw_SW {own : String} {idx : Nat} {y : MethodName} {b : ByteArray} {L : Nat} {r : Option FieldType} {hh : List (Nat × Nat × Nat × Nat)} (h1 : Cond.methodLink own idx y ∈ lw_all) (h2 : Cond.static y ∈ lw_all) (h3 : Cond.initialized y.cls ∈ lw_all) (h4 : Cond.codeWith y b L r hh ∈ lw_all) : GoodIn lw_all (va_wsS own idx y (wsW_ y b L r hh)) := by
  refine lw_app ?_ (lw_methW h4)
  intro w hw
  simp only [List.mem_cons, List.not_mem_nil, or_false] at hw
  rcases hw with e | e | e
  · rw [e]; exact h1
  · rw [e]; exact h2
  · rw [e]; exact h3
/-- a word by its place in its run of the tables -/
theorem lw_at {r : List Cond} (hr : ∀ w ∈ r, w ∈ lw_tbl) {w : Cond} (i : Nat) (h : r[i]? = some w) : w ∈ lw_tbl := hr w (List.mem_of_getElem? h)
theorem lw_g {w : Cond} (h : w ∈ lw_tbl) (g : goodWord w = true) : w ∈ lw_all := List.mem_filter.mpr ⟨h, g⟩
theorem lw_ms : ∀ w ∈ k2_sels lw_privs, w ∈ lw_tbl := fun w h => show w ∈ k2_sels lw_privs ++ tables_1 from List.mem_append_left _ h
theorem lw_m1 : ∀ w ∈ tables_1_1, w ∈ lw_tbl := fun w h => show w ∈ k2_sels lw_privs ++ tables_1 from List.mem_append_right (k2_sels lw_privs) (show w ∈ tables_1 from List.mem_append_left _ h)
theorem lw_m2 : ∀ w ∈ tables_1_2, w ∈ lw_tbl := fun w h => show w ∈ k2_sels lw_privs ++ tables_1 from List.mem_append_right (k2_sels lw_privs) (show w ∈ tables_1 from List.mem_append_right _ (List.mem_append_left _ h))
theorem lw_m3 : ∀ w ∈ tables_1_3, w ∈ lw_tbl := fun w h => show w ∈ k2_sels lw_privs ++ tables_1 from List.mem_append_right (k2_sels lw_privs) (show w ∈ tables_1 from List.mem_append_right _ (List.mem_append_right _ (List.mem_append_left _ h)))
theorem lw_m4 : ∀ w ∈ tables_1_4, w ∈ lw_tbl := fun w h => show w ∈ k2_sels lw_privs ++ tables_1 from List.mem_append_right (k2_sels lw_privs) (show w ∈ tables_1 from List.mem_append_right _ (List.mem_append_right _ (List.mem_append_right _ (List.mem_append_left _ h))))
theorem lw_m5 : ∀ w ∈ tables_1_5, w ∈ lw_tbl := fun w h => show w ∈ k2_sels lw_privs ++ tables_1 from List.mem_append_right (k2_sels lw_privs) (show w ∈ tables_1 from List.mem_append_right _ (List.mem_append_right _ (List.mem_append_right _ (List.mem_append_right _ (List.mem_append_left _ h)))))
theorem lw_m6 : ∀ w ∈ tables_1_6, w ∈ lw_tbl := fun w h => show w ∈ k2_sels lw_privs ++ tables_1 from List.mem_append_right (k2_sels lw_privs) (show w ∈ tables_1 from List.mem_append_right _ (List.mem_append_right _ (List.mem_append_right _ (List.mem_append_right _ (List.mem_append_right _ (List.mem_append_left _ h))))))
theorem lw_m7 : ∀ w ∈ tables_1_7, w ∈ lw_tbl := fun w h => show w ∈ k2_sels lw_privs ++ tables_1 from List.mem_append_right (k2_sels lw_privs) (show w ∈ tables_1 from List.mem_append_right _ (List.mem_append_right _ (List.mem_append_right _ (List.mem_append_right _ (List.mem_append_right _ (List.mem_append_right _ (List.mem_append_left _ h)))))))
theorem lw_m8 : ∀ w ∈ tables_1_8, w ∈ lw_tbl := fun w h => show w ∈ k2_sels lw_privs ++ tables_1 from List.mem_append_right (k2_sels lw_privs) (show w ∈ tables_1 from List.mem_append_right _ (List.mem_append_right _ (List.mem_append_right _ (List.mem_append_right _ (List.mem_append_right _ (List.mem_append_right _ (List.mem_append_right _ (List.mem_append_left _ h))))))))
theorem lw_m9 : ∀ w ∈ tables_1_9, w ∈ lw_tbl := fun w h => show w ∈ k2_sels lw_privs ++ tables_1 from List.mem_append_right (k2_sels lw_privs) (show w ∈ tables_1 from List.mem_append_right _ (List.mem_append_right _ (List.mem_append_right _ (List.mem_append_right _ (List.mem_append_right _ (List.mem_append_right _ (List.mem_append_right _ (List.mem_append_right _ (List.mem_append_left _ h)))))))))
theorem lw_m10 : ∀ w ∈ tables_1_10, w ∈ lw_tbl := fun w h => show w ∈ k2_sels lw_privs ++ tables_1 from List.mem_append_right (k2_sels lw_privs) (show w ∈ tables_1 from List.mem_append_right _ (List.mem_append_right _ (List.mem_append_right _ (List.mem_append_right _ (List.mem_append_right _ (List.mem_append_right _ (List.mem_append_right _ (List.mem_append_right _ (List.mem_append_right _ (List.mem_append_left _ h))))))))))
theorem lw_m11 : ∀ w ∈ tables_1_11, w ∈ lw_tbl := fun w h => show w ∈ k2_sels lw_privs ++ tables_1 from List.mem_append_right (k2_sels lw_privs) (show w ∈ tables_1 from List.mem_append_right _ (List.mem_append_right _ (List.mem_append_right _ (List.mem_append_right _ (List.mem_append_right _ (List.mem_append_right _ (List.mem_append_right _ (List.mem_append_right _ (List.mem_append_right _ (List.mem_append_right _ (List.mem_append_left _ h)))))))))))
theorem lw_m12 : ∀ w ∈ tables_1_12, w ∈ lw_tbl := fun w h => show w ∈ k2_sels lw_privs ++ tables_1 from List.mem_append_right (k2_sels lw_privs) (show w ∈ tables_1 from List.mem_append_right _ (List.mem_append_right _ (List.mem_append_right _ (List.mem_append_right _ (List.mem_append_right _ (List.mem_append_right _ (List.mem_append_right _ (List.mem_append_right _ (List.mem_append_right _ (List.mem_append_right _ (List.mem_append_right _ h)))))))))))
theorem qs0 : (Cond.selects "java/lang/Throwable" ⟨"java/lang/Throwable", "fillInStackTrace", "(I)Ljava/lang/Throwable;"⟩ ⟨"java/lang/Throwable", "fillInStackTrace", "(I)Ljava/lang/Throwable;"⟩) ∈ lw_all := lw_g (lw_at lw_ms 0 rfl) rfl
theorem qs1 : (Cond.selects "java/util/ArrayList" ⟨"java/util/ArrayList", "add", "(Ljava/lang/Object;[Ljava/lang/Object;I)V"⟩ ⟨"java/util/ArrayList", "add", "(Ljava/lang/Object;[Ljava/lang/Object;I)V"⟩) ∈ lw_all := lw_g (lw_at lw_ms 1 rfl) rfl
theorem qs2 : (Cond.selects "java/util/ArrayList" ⟨"java/util/ArrayList", "grow", "()[Ljava/lang/Object;"⟩ ⟨"java/util/ArrayList", "grow", "()[Ljava/lang/Object;"⟩) ∈ lw_all := lw_g (lw_at lw_ms 2 rfl) rfl
theorem qs3 : (Cond.selects "java/util/ArrayList" ⟨"java/util/ArrayList", "grow", "(I)[Ljava/lang/Object;"⟩ ⟨"java/util/ArrayList", "grow", "(I)[Ljava/lang/Object;"⟩) ∈ lw_all := lw_g (lw_at lw_ms 3 rfl) rfl
theorem qs4 : (Cond.selects "SpanRuler$Ruler" ⟨"SpanRuler$Ruler", "leaving", "(IILSpanRuler$Act;)I"⟩ ⟨"SpanRuler$Ruler", "leaving", "(IILSpanRuler$Act;)I"⟩) ∈ lw_all := lw_g (lw_at lw_ms 4 rfl) rfl
theorem qs5 : (Cond.selects "SpanRuler$Ruler" ⟨"SpanRuler$Ruler", "does", "(IILSpanRuler$Act;)V"⟩ ⟨"SpanRuler$Ruler", "does", "(IILSpanRuler$Act;)V"⟩) ∈ lw_all := lw_g (lw_at lw_ms 5 rfl) rfl
theorem qs6 : (Cond.selects "SpanRuler" ⟨"SpanRuler", "become", "(LSpanRuler$Ruler;I)I"⟩ ⟨"SpanRuler", "become", "(LSpanRuler$Ruler;I)I"⟩) ∈ lw_all := lw_g (lw_at lw_ms 6 rfl) rfl
theorem qs7 : (Cond.selects "java/util/ArrayList" ⟨"java/util/ArrayList", "fastRemove", "([Ljava/lang/Object;I)V"⟩ ⟨"java/util/ArrayList", "fastRemove", "([Ljava/lang/Object;I)V"⟩) ∈ lw_all := lw_g (lw_at lw_ms 7 rfl) rfl
theorem qs8 : (Cond.selects "SpanRuler" ⟨"SpanRuler", "kept", "(LSpanRuler$Refusal;)Ljava/lang/UnsupportedOperationException;"⟩ ⟨"SpanRuler", "kept", "(LSpanRuler$Refusal;)Ljava/lang/UnsupportedOperationException;"⟩) ∈ lw_all := lw_g (lw_at lw_ms 8 rfl) rfl
theorem qs9 : (Cond.selects "SpanRuler" ⟨"SpanRuler", "noteAt", "(I)LSpanRuler$Note;"⟩ ⟨"SpanRuler", "noteAt", "(I)LSpanRuler$Note;"⟩) ∈ lw_all := lw_g (lw_at lw_ms 9 rfl) rfl
theorem qs10 : (Cond.selects "SpanRuler$Ruler" ⟨"SpanRuler$Ruler", "tickGoesBy", "()I"⟩ ⟨"SpanRuler$Ruler", "tickGoesBy", "()I"⟩) ∈ lw_all := lw_g (lw_at lw_ms 10 rfl) rfl
theorem qs11 : (Cond.selects "SpanRuler$Ruler" ⟨"SpanRuler$Ruler", "isDone", "(LSpanRuler$Note;)Z"⟩ ⟨"SpanRuler$Ruler", "isDone", "(LSpanRuler$Note;)Z"⟩) ∈ lw_all := lw_g (lw_at lw_ms 11 rfl) rfl
theorem qs12 : (Cond.selects "SpanRuler" ⟨"SpanRuler", "versionAt", "(I)LSpanRuler$Version;"⟩ ⟨"SpanRuler", "versionAt", "(I)LSpanRuler$Version;"⟩) ∈ lw_all := lw_g (lw_at lw_ms 12 rfl) rfl
theorem qs13 : (Cond.selects "SpanRuler$Parser" ⟨"SpanRuler$Parser", "command", "()LSpanRuler$Command;"⟩ ⟨"SpanRuler$Parser", "command", "()LSpanRuler$Command;"⟩) ∈ lw_all := lw_g (lw_at lw_ms 13 rfl) rfl
theorem qs14 : (Cond.selects "SpanRuler$Parser" ⟨"SpanRuler$Parser", "word", "(Ljava/util/List;)Ljava/lang/String;"⟩ ⟨"SpanRuler$Parser", "word", "(Ljava/util/List;)Ljava/lang/String;"⟩) ∈ lw_all := lw_g (lw_at lw_ms 14 rfl) rfl
theorem qs15 : (Cond.selects "SpanRuler$Parser" ⟨"SpanRuler$Parser", "peek", "()C"⟩ ⟨"SpanRuler$Parser", "peek", "()C"⟩) ∈ lw_all := lw_g (lw_at lw_ms 15 rfl) rfl
theorem qs16 : (Cond.selects "SpanRuler$Parser" ⟨"SpanRuler$Parser", "number", "()I"⟩ ⟨"SpanRuler$Parser", "number", "()I"⟩) ∈ lw_all := lw_g (lw_at lw_ms 16 rfl) rfl
theorem qs17 : (Cond.selects "SpanRuler$Parser" ⟨"SpanRuler$Parser", "next", "(CC)I"⟩ ⟨"SpanRuler$Parser", "next", "(CC)I"⟩) ∈ lw_all := lw_g (lw_at lw_ms 17 rfl) rfl
theorem qs18 : (Cond.selects "SpanRuler$Parser" ⟨"SpanRuler$Parser", "digits", "()I"⟩ ⟨"SpanRuler$Parser", "digits", "()I"⟩) ∈ lw_all := lw_g (lw_at lw_ms 18 rfl) rfl
theorem qs19 : (Cond.selects "SpanRuler$Parser" ⟨"SpanRuler$Parser", "ofSpan", "(Ljava/lang/String;)LSpanRuler$Command;"⟩ ⟨"SpanRuler$Parser", "ofSpan", "(Ljava/lang/String;)LSpanRuler$Command;"⟩) ∈ lw_all := lw_g (lw_at lw_ms 19 rfl) rfl
theorem qs20 : (Cond.selects "SpanRuler$Parser" ⟨"SpanRuler$Parser", "colour", "()I"⟩ ⟨"SpanRuler$Parser", "colour", "()I"⟩) ∈ lw_all := lw_g (lw_at lw_ms 20 rfl) rfl
theorem qs21 : (Cond.selects "SpanRuler$Parser" ⟨"SpanRuler$Parser", "signed", "()I"⟩ ⟨"SpanRuler$Parser", "signed", "()I"⟩) ∈ lw_all := lw_g (lw_at lw_ms 21 rfl) rfl
theorem qs22 : (Cond.selects "SpanRuler$Command" ⟨"SpanRuler$Command", "onSpan", "(LSpanRuler$Ruler;)I"⟩ ⟨"SpanRuler$Command", "onSpan", "(LSpanRuler$Ruler;)I"⟩) ∈ lw_all := lw_g (lw_at lw_ms 22 rfl) rfl
theorem qs23 : (Cond.selects "SpanRulerModel" ⟨"SpanRulerModel", "tries", "()V"⟩ ⟨"SpanRulerModel", "tries", "()V"⟩) ∈ lw_all := lw_g (lw_at lw_ms 23 rfl) rfl
theorem qs24 : (Cond.selects "SpanRulerModel" ⟨"SpanRulerModel", "adds", "(III)I"⟩ ⟨"SpanRulerModel", "adds", "(III)I"⟩) ∈ lw_all := lw_g (lw_at lw_ms 24 rfl) rfl
theorem qs25 : (Cond.selects "SpanRulerModel" ⟨"SpanRulerModel", "leaving", "(IIII)I"⟩ ⟨"SpanRulerModel", "leaving", "(IIII)I"⟩) ∈ lw_all := lw_g (lw_at lw_ms 25 rfl) rfl
theorem qs26 : (Cond.selects "SpanRulerModel" ⟨"SpanRulerModel", "number", "(I)I"⟩ ⟨"SpanRulerModel", "number", "(I)I"⟩) ∈ lw_all := lw_g (lw_at lw_ms 26 rfl) rfl
theorem qs27 : (Cond.selects "SpanRulerModel" ⟨"SpanRulerModel", "refuses", "(II)I"⟩ ⟨"SpanRulerModel", "refuses", "(II)I"⟩) ∈ lw_all := lw_g (lw_at lw_ms 27 rfl) rfl
theorem qs28 : (Cond.selects "SpanRulerModel" ⟨"SpanRulerModel", "acts", "(IIII)V"⟩ ⟨"SpanRulerModel", "acts", "(IIII)V"⟩) ∈ lw_all := lw_g (lw_at lw_ms 28 rfl) rfl
theorem qs29 : (Cond.selects "SpanRulerModel" ⟨"SpanRulerModel", "sumOfSpan", "(II)I"⟩ ⟨"SpanRulerModel", "sumOfSpan", "(II)I"⟩) ∈ lw_all := lw_g (lw_at lw_ms 29 rfl) rfl
theorem qs30 : (Cond.selects "SpanRulerModel" ⟨"SpanRulerModel", "does", "(I)I"⟩ ⟨"SpanRulerModel", "does", "(I)I"⟩) ∈ lw_all := lw_g (lw_at lw_ms 30 rfl) rfl
theorem qs31 : (Cond.selects "SpanRulerModel" ⟨"SpanRulerModel", "ends", "(I)I"⟩ ⟨"SpanRulerModel", "ends", "(I)I"⟩) ∈ lw_all := lw_g (lw_at lw_ms 31 rfl) rfl
theorem qs32 : (Cond.selects "SpanRulerModel" ⟨"SpanRulerModel", "keeps", "(I)I"⟩ ⟨"SpanRulerModel", "keeps", "(I)I"⟩) ∈ lw_all := lw_g (lw_at lw_ms 32 rfl) rfl
theorem qs33 : (Cond.selects "SpanRulerModel" ⟨"SpanRulerModel", "raises", "(I)I"⟩ ⟨"SpanRulerModel", "raises", "(I)I"⟩) ∈ lw_all := lw_g (lw_at lw_ms 33 rfl) rfl
theorem qs34 : (Cond.selects "SpanRulerModel" ⟨"SpanRulerModel", "sets", "(III)I"⟩ ⟨"SpanRulerModel", "sets", "(III)I"⟩) ∈ lw_all := lw_g (lw_at lw_ms 34 rfl) rfl
theorem qs35 : (Cond.selects "SpanRulerModel" ⟨"SpanRulerModel", "turns", "(II)I"⟩ ⟨"SpanRulerModel", "turns", "(II)I"⟩) ∈ lw_all := lw_g (lw_at lw_ms 35 rfl) rfl
theorem qs36 : (Cond.selects "SpanRulerModel" ⟨"SpanRulerModel", "paints", "(III)I"⟩ ⟨"SpanRulerModel", "paints", "(III)I"⟩) ∈ lw_all := lw_g (lw_at lw_ms 36 rfl) rfl
theorem qs37 : (Cond.selects "SpanRulerModel" ⟨"SpanRulerModel", "colour", "(I)I"⟩ ⟨"SpanRulerModel", "colour", "(I)I"⟩) ∈ lw_all := lw_g (lw_at lw_ms 37 rfl) rfl
theorem qs38 : (Cond.selects "SpanRulerModel" ⟨"SpanRulerModel", "isNote", "(I)Z"⟩ ⟨"SpanRulerModel", "isNote", "(I)Z"⟩) ∈ lw_all := lw_g (lw_at lw_ms 38 rfl) rfl
theorem qs39 : (Cond.selects "SpanRulerModel" ⟨"SpanRulerModel", "noted", "(II)I"⟩ ⟨"SpanRulerModel", "noted", "(II)I"⟩) ∈ lw_all := lw_g (lw_at lw_ms 39 rfl) rfl
theorem qs40 : (Cond.selects "SpanRulerModel" ⟨"SpanRulerModel", "goes", "(I)V"⟩ ⟨"SpanRulerModel", "goes", "(I)V"⟩) ∈ lw_all := lw_g (lw_at lw_ms 40 rfl) rfl
theorem qs41 : (Cond.selects "SpanRulerModel" ⟨"SpanRulerModel", "ticks", "(I)I"⟩ ⟨"SpanRulerModel", "ticks", "(I)I"⟩) ∈ lw_all := lw_g (lw_at lw_ms 41 rfl) rfl
theorem qs42 : (Cond.selects "SpanRulerModel" ⟨"SpanRulerModel", "ticksOn", "()I"⟩ ⟨"SpanRulerModel", "ticksOn", "()I"⟩) ∈ lw_all := lw_g (lw_at lw_ms 42 rfl) rfl
theorem qs43 : (Cond.selects "SpanRulerModel" ⟨"SpanRulerModel", "finds", "(II)I"⟩ ⟨"SpanRulerModel", "finds", "(II)I"⟩) ∈ lw_all := lw_g (lw_at lw_ms 43 rfl) rfl
theorem qs44 : (Cond.selects "SpanRulerModel" ⟨"SpanRulerModel", "worth", "(I)I"⟩ ⟨"SpanRulerModel", "worth", "(I)I"⟩) ∈ lw_all := lw_g (lw_at lw_ms 44 rfl) rfl
theorem qs45 : (Cond.selects "SpanRulerModel" ⟨"SpanRulerModel", "isAhead", "(II)Z"⟩ ⟨"SpanRulerModel", "isAhead", "(II)Z"⟩) ∈ lw_all := lw_g (lw_at lw_ms 45 rfl) rfl
theorem qs46 : (Cond.selects "SpanRulerModel" ⟨"SpanRulerModel", "many", "(I)I"⟩ ⟨"SpanRulerModel", "many", "(I)I"⟩) ∈ lw_all := lw_g (lw_at lw_ms 46 rfl) rfl
theorem qs47 : (Cond.selects "SpanRulerModel" ⟨"SpanRulerModel", "keepsVersion", "()I"⟩ ⟨"SpanRulerModel", "keepsVersion", "()I"⟩) ∈ lw_all := lw_g (lw_at lw_ms 47 rfl) rfl
theorem qs48 : (Cond.selects "SpanRulerModel" ⟨"SpanRulerModel", "isVersion", "(I)Z"⟩ ⟨"SpanRulerModel", "isVersion", "(I)Z"⟩) ∈ lw_all := lw_g (lw_at lw_ms 48 rfl) rfl
theorem qs49 : (Cond.selects "SpanRulerModel" ⟨"SpanRulerModel", "different", "(III)I"⟩ ⟨"SpanRulerModel", "different", "(III)I"⟩) ∈ lw_all := lw_g (lw_at lw_ms 49 rfl) rfl
theorem qs50 : (Cond.selects "SpanRulerModel" ⟨"SpanRulerModel", "had", "(IIZ)I"⟩ ⟨"SpanRulerModel", "had", "(IIZ)I"⟩) ∈ lw_all := lw_g (lw_at lw_ms 50 rfl) rfl
theorem qs51 : (Cond.selects "SpanRulerModel" ⟨"SpanRulerModel", "writesNumber", "(I)V"⟩ ⟨"SpanRulerModel", "writesNumber", "(I)V"⟩) ∈ lw_all := lw_g (lw_at lw_ms 51 rfl) rfl
theorem qs52 : (Cond.selects "SpanRulerModel" ⟨"SpanRulerModel", "isCommand", "()Z"⟩ ⟨"SpanRulerModel", "isCommand", "()Z"⟩) ∈ lw_all := lw_g (lw_at lw_ms 52 rfl) rfl
theorem qs53 : (Cond.selects "SpanRulerModel" ⟨"SpanRulerModel", "isOneOf", "(Ljava/lang/String;)Z"⟩ ⟨"SpanRulerModel", "isOneOf", "(Ljava/lang/String;)Z"⟩) ∈ lw_all := lw_g (lw_at lw_ms 53 rfl) rfl
theorem qs54 : (Cond.selects "SpanRulerModel" ⟨"SpanRulerModel", "isSpanTold", "()Z"⟩ ⟨"SpanRulerModel", "isSpanTold", "()Z"⟩) ∈ lw_all := lw_g (lw_at lw_ms 54 rfl) rfl
theorem qs55 : (Cond.selects "SpanRulerModel" ⟨"SpanRulerModel", "isNumber", "(IZ)Z"⟩ ⟨"SpanRulerModel", "isNumber", "(IZ)Z"⟩) ∈ lw_all := lw_g (lw_at lw_ms 55 rfl) rfl
theorem qs56 : (Cond.selects "SpanRulerModel" ⟨"SpanRulerModel", "takes", "(C)Z"⟩ ⟨"SpanRulerModel", "takes", "(C)Z"⟩) ∈ lw_all := lw_g (lw_at lw_ms 56 rfl) rfl
theorem qs57 : (Cond.selects "SpanRulerModel" ⟨"SpanRulerModel", "isPainted", "()Z"⟩ ⟨"SpanRulerModel", "isPainted", "()Z"⟩) ∈ lw_all := lw_g (lw_at lw_ms 57 rfl) rfl
theorem qs58 : (Cond.selects "SpanRulerModel" ⟨"SpanRulerModel", "carries", "()I"⟩ ⟨"SpanRulerModel", "carries", "()I"⟩) ∈ lw_all := lw_g (lw_at lw_ms 58 rfl) rfl
theorem qs59 : (Cond.selects "SpanRulerModel" ⟨"SpanRulerModel", "comesBack", "()V"⟩ ⟨"SpanRulerModel", "comesBack", "()V"⟩) ∈ lw_all := lw_g (lw_at lw_ms 59 rfl) rfl
