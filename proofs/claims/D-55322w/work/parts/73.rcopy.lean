/-! rulers: copied -/
set_option maxRecDepth 100000
abbrev cX2_copy : ByteArray := prog_16_method_2_code
def yX2_copy : MethodName := ⟨RX2, "copy", "()LSpanRuler$Ruler;"⟩
def dkwX2_copy_6 : List UInt8 := [180, 0, 81, 181, 0, 81, 43, 42, 180, 0, 84, 181, 0, 84, 43, 42, 180, 0, 87, 181, 0, 87, 43, 176]
abbrev dktX2_copy_6 : List UInt8 := dkwX2_copy_6 ++ []
def dkwX2_copy_5 : List UInt8 := [180, 0, 71, 181, 0, 71, 43, 42, 180, 0, 75, 181, 0, 75, 43, 42, 180, 0, 78, 181, 0, 78, 43, 42]
abbrev dktX2_copy_5 : List UInt8 := dkwX2_copy_5 ++ dktX2_copy_6
def dkwX2_copy_4 : List UInt8 := [185, 0, 56, 1, 0, 192, 0, 69, 78, 43, 180, 0, 30, 45, 182, 0, 65, 87, 167, 255, 228, 43, 42]
abbrev dktX2_copy_4 : List UInt8 := dkwX2_copy_4 ++ dktX2_copy_5
def dkwX2_copy_3 : List UInt8 := [87, 167, 255, 225, 42, 180, 0, 30, 182, 0, 46, 77, 44, 185, 0, 50, 1, 0, 153, 0, 25, 44]
abbrev dktX2_copy_3 : List UInt8 := dkwX2_copy_3 ++ dktX2_copy_4
def dkwX2_copy_2 : List UInt8 := [153, 0, 28, 44, 185, 0, 56, 1, 0, 192, 0, 60, 78, 43, 180, 0, 26, 45, 182, 0, 62, 182, 0, 65]
abbrev dktX2_copy_2 : List UInt8 := dkwX2_copy_2 ++ dktX2_copy_3
def dkwX2_copy_1 : List UInt8 := [43, 180, 0, 19, 3, 16, 32, 184, 0, 40, 42, 180, 0, 26, 182, 0, 46, 77, 44, 185, 0, 50, 1, 0]
abbrev dktX2_copy_1 : List UInt8 := dkwX2_copy_1 ++ dktX2_copy_2
def dkwX2_copy_0 : List UInt8 := [187, 0, 14, 89, 183, 0, 33, 76, 43, 42, 180, 0, 13, 182, 0, 34, 181, 0, 13, 42, 180, 0, 19, 3]
abbrev dktX2_copy_0 : List UInt8 := dkwX2_copy_0 ++ dktX2_copy_1
theorem dksX2_copy_0 : cX2_copy.data.toList.drop 0 = dktX2_copy_0 := by decide +kernel
theorem dksX2_copy_1 : cX2_copy.data.toList.drop 24 = dktX2_copy_1 := dk_seg dksX2_copy_0 24 rfl rfl
theorem dksX2_copy_2 : cX2_copy.data.toList.drop 48 = dktX2_copy_2 := dk_seg dksX2_copy_1 24 rfl rfl
theorem dksX2_copy_3 : cX2_copy.data.toList.drop 72 = dktX2_copy_3 := dk_seg dksX2_copy_2 24 rfl rfl
theorem dksX2_copy_4 : cX2_copy.data.toList.drop 94 = dktX2_copy_4 := dk_seg dksX2_copy_3 22 rfl rfl
theorem dksX2_copy_5 : cX2_copy.data.toList.drop 117 = dktX2_copy_5 := dk_seg dksX2_copy_4 23 rfl rfl
theorem dksX2_copy_6 : cX2_copy.data.toList.drop 141 = dktX2_copy_6 := dk_seg dksX2_copy_5 24 rfl rfl
theorem dX2_copy_0 : decode cX2_copy 0 = .ok (.new 14, 3) := dk_187 0 14 (dk_at dksX2_copy_0 0 rfl rfl)
theorem dX2_copy_3 : decode cX2_copy 3 = .ok (.dup, 1) := dk_89 (dk_at dksX2_copy_0 3 rfl rfl)
theorem dX2_copy_4 : decode cX2_copy 4 = .ok (.invokespecial 33, 3) := dk_183 0 33 (dk_at dksX2_copy_0 4 rfl rfl)
theorem dX2_copy_7 : decode cX2_copy 7 = .ok (.astore_n 1, 1) := dk_76 (dk_at dksX2_copy_0 7 rfl rfl)
theorem dX2_copy_8 : decode cX2_copy 8 = .ok (.aload_n 1, 1) := dk_43 (dk_at dksX2_copy_0 8 rfl rfl)
theorem dX2_copy_9 : decode cX2_copy 9 = .ok (.aload_n 0, 1) := dk_42 (dk_at dksX2_copy_0 9 rfl rfl)
theorem dX2_copy_10 : decode cX2_copy 10 = .ok (.getfield 13, 3) := dk_180 0 13 (dk_at dksX2_copy_0 10 rfl rfl)
theorem dX2_copy_13 : decode cX2_copy 13 = .ok (.invokevirtual 34, 3) := dk_182 0 34 (dk_at dksX2_copy_0 13 rfl rfl)
theorem dX2_copy_16 : decode cX2_copy 16 = .ok (.putfield 13, 3) := dk_181 0 13 (dk_at dksX2_copy_0 16 rfl rfl)
theorem dX2_copy_19 : decode cX2_copy 19 = .ok (.aload_n 0, 1) := dk_42 (dk_at dksX2_copy_0 19 rfl rfl)
theorem dX2_copy_20 : decode cX2_copy 20 = .ok (.getfield 19, 3) := dk_180 0 19 (dk_at dksX2_copy_0 20 rfl rfl)
theorem dX2_copy_23 : decode cX2_copy 23 = .ok (.iconst 0, 1) := dk_3 (dk_at dksX2_copy_0 23 rfl rfl)
theorem dX2_copy_24 : decode cX2_copy 24 = .ok (.aload_n 1, 1) := dk_43 (dk_at dksX2_copy_1 0 rfl rfl)
theorem dX2_copy_25 : decode cX2_copy 25 = .ok (.getfield 19, 3) := dk_180 0 19 (dk_at dksX2_copy_1 1 rfl rfl)
theorem dX2_copy_28 : decode cX2_copy 28 = .ok (.iconst 0, 1) := dk_3 (dk_at dksX2_copy_1 4 rfl rfl)
theorem dX2_copy_29 : decode cX2_copy 29 = .ok (.bipush 32, 2) := dk_16 32 (dk_at dksX2_copy_1 5 rfl rfl)
theorem dX2_copy_31 : decode cX2_copy 31 = .ok (.invokestatic 40, 3) := dk_184 0 40 (dk_at dksX2_copy_1 7 rfl rfl)
theorem dX2_copy_34 : decode cX2_copy 34 = .ok (.aload_n 0, 1) := dk_42 (dk_at dksX2_copy_1 10 rfl rfl)
theorem dX2_copy_35 : decode cX2_copy 35 = .ok (.getfield 26, 3) := dk_180 0 26 (dk_at dksX2_copy_1 11 rfl rfl)
theorem dX2_copy_38 : decode cX2_copy 38 = .ok (.invokevirtual 46, 3) := dk_182 0 46 (dk_at dksX2_copy_1 14 rfl rfl)
theorem dX2_copy_41 : decode cX2_copy 41 = .ok (.astore_n 2, 1) := dk_77 (dk_at dksX2_copy_1 17 rfl rfl)
theorem dX2_copy_42 : decode cX2_copy 42 = .ok (.aload_n 2, 1) := dk_44 (dk_at dksX2_copy_1 18 rfl rfl)
theorem dX2_copy_43 : decode cX2_copy 43 = .ok (.invokeinterface 50 1, 5) := by decide +kernel
theorem dX2_copy_48 : decode cX2_copy 48 = .ok (.ifCond .eq 28, 3) := dk_153 0 28 (dk_at dksX2_copy_2 0 rfl rfl)
theorem dX2_copy_51 : decode cX2_copy 51 = .ok (.aload_n 2, 1) := dk_44 (dk_at dksX2_copy_2 3 rfl rfl)
theorem dX2_copy_52 : decode cX2_copy 52 = .ok (.invokeinterface 56 1, 5) := by decide +kernel
theorem dX2_copy_57 : decode cX2_copy 57 = .ok (.checkcast 60, 3) := dk_192 0 60 (dk_at dksX2_copy_2 9 rfl rfl)
theorem dX2_copy_60 : decode cX2_copy 60 = .ok (.astore_n 3, 1) := dk_78 (dk_at dksX2_copy_2 12 rfl rfl)
theorem dX2_copy_61 : decode cX2_copy 61 = .ok (.aload_n 1, 1) := dk_43 (dk_at dksX2_copy_2 13 rfl rfl)
theorem dX2_copy_62 : decode cX2_copy 62 = .ok (.getfield 26, 3) := dk_180 0 26 (dk_at dksX2_copy_2 14 rfl rfl)
theorem dX2_copy_65 : decode cX2_copy 65 = .ok (.aload_n 3, 1) := dk_45 (dk_at dksX2_copy_2 17 rfl rfl)
theorem dX2_copy_66 : decode cX2_copy 66 = .ok (.invokevirtual 62, 3) := dk_182 0 62 (dk_at dksX2_copy_2 18 rfl rfl)
theorem dX2_copy_69 : decode cX2_copy 69 = .ok (.invokevirtual 65, 3) := dk_182 0 65 (dk_at dksX2_copy_2 21 rfl rfl)
theorem dX2_copy_72 : decode cX2_copy 72 = .ok (.pop, 1) := dk_87 (dk_at dksX2_copy_3 0 rfl rfl)
theorem dX2_copy_73 : decode cX2_copy 73 = .ok (.goto (-31), 3) := dk_167 255 225 (dk_at dksX2_copy_3 1 rfl rfl)
theorem dX2_copy_76 : decode cX2_copy 76 = .ok (.aload_n 0, 1) := dk_42 (dk_at dksX2_copy_3 4 rfl rfl)
theorem dX2_copy_77 : decode cX2_copy 77 = .ok (.getfield 30, 3) := dk_180 0 30 (dk_at dksX2_copy_3 5 rfl rfl)
theorem dX2_copy_80 : decode cX2_copy 80 = .ok (.invokevirtual 46, 3) := dk_182 0 46 (dk_at dksX2_copy_3 8 rfl rfl)
theorem dX2_copy_83 : decode cX2_copy 83 = .ok (.astore_n 2, 1) := dk_77 (dk_at dksX2_copy_3 11 rfl rfl)
theorem dX2_copy_84 : decode cX2_copy 84 = .ok (.aload_n 2, 1) := dk_44 (dk_at dksX2_copy_3 12 rfl rfl)
theorem dX2_copy_85 : decode cX2_copy 85 = .ok (.invokeinterface 50 1, 5) := by decide +kernel
theorem dX2_copy_90 : decode cX2_copy 90 = .ok (.ifCond .eq 25, 3) := dk_153 0 25 (dk_at dksX2_copy_3 18 rfl rfl)
theorem dX2_copy_93 : decode cX2_copy 93 = .ok (.aload_n 2, 1) := dk_44 (dk_at dksX2_copy_3 21 rfl rfl)
theorem dX2_copy_94 : decode cX2_copy 94 = .ok (.invokeinterface 56 1, 5) := by decide +kernel
theorem dX2_copy_99 : decode cX2_copy 99 = .ok (.checkcast 69, 3) := dk_192 0 69 (dk_at dksX2_copy_4 5 rfl rfl)
theorem dX2_copy_102 : decode cX2_copy 102 = .ok (.astore_n 3, 1) := dk_78 (dk_at dksX2_copy_4 8 rfl rfl)
theorem dX2_copy_103 : decode cX2_copy 103 = .ok (.aload_n 1, 1) := dk_43 (dk_at dksX2_copy_4 9 rfl rfl)
theorem dX2_copy_104 : decode cX2_copy 104 = .ok (.getfield 30, 3) := dk_180 0 30 (dk_at dksX2_copy_4 10 rfl rfl)
theorem dX2_copy_107 : decode cX2_copy 107 = .ok (.aload_n 3, 1) := dk_45 (dk_at dksX2_copy_4 13 rfl rfl)
theorem dX2_copy_108 : decode cX2_copy 108 = .ok (.invokevirtual 65, 3) := dk_182 0 65 (dk_at dksX2_copy_4 14 rfl rfl)
theorem dX2_copy_111 : decode cX2_copy 111 = .ok (.pop, 1) := dk_87 (dk_at dksX2_copy_4 17 rfl rfl)
theorem dX2_copy_112 : decode cX2_copy 112 = .ok (.goto (-28), 3) := dk_167 255 228 (dk_at dksX2_copy_4 18 rfl rfl)
theorem dX2_copy_115 : decode cX2_copy 115 = .ok (.aload_n 1, 1) := dk_43 (dk_at dksX2_copy_4 21 rfl rfl)
theorem dX2_copy_116 : decode cX2_copy 116 = .ok (.aload_n 0, 1) := dk_42 (dk_at dksX2_copy_4 22 rfl rfl)
theorem dX2_copy_117 : decode cX2_copy 117 = .ok (.getfield 71, 3) := dk_180 0 71 (dk_at dksX2_copy_5 0 rfl rfl)
theorem dX2_copy_120 : decode cX2_copy 120 = .ok (.putfield 71, 3) := dk_181 0 71 (dk_at dksX2_copy_5 3 rfl rfl)
theorem dX2_copy_123 : decode cX2_copy 123 = .ok (.aload_n 1, 1) := dk_43 (dk_at dksX2_copy_5 6 rfl rfl)
theorem dX2_copy_124 : decode cX2_copy 124 = .ok (.aload_n 0, 1) := dk_42 (dk_at dksX2_copy_5 7 rfl rfl)
theorem dX2_copy_125 : decode cX2_copy 125 = .ok (.getfield 75, 3) := dk_180 0 75 (dk_at dksX2_copy_5 8 rfl rfl)
theorem dX2_copy_128 : decode cX2_copy 128 = .ok (.putfield 75, 3) := dk_181 0 75 (dk_at dksX2_copy_5 11 rfl rfl)
theorem dX2_copy_131 : decode cX2_copy 131 = .ok (.aload_n 1, 1) := dk_43 (dk_at dksX2_copy_5 14 rfl rfl)
theorem dX2_copy_132 : decode cX2_copy 132 = .ok (.aload_n 0, 1) := dk_42 (dk_at dksX2_copy_5 15 rfl rfl)
theorem dX2_copy_133 : decode cX2_copy 133 = .ok (.getfield 78, 3) := dk_180 0 78 (dk_at dksX2_copy_5 16 rfl rfl)
theorem dX2_copy_136 : decode cX2_copy 136 = .ok (.putfield 78, 3) := dk_181 0 78 (dk_at dksX2_copy_5 19 rfl rfl)
theorem dX2_copy_139 : decode cX2_copy 139 = .ok (.aload_n 1, 1) := dk_43 (dk_at dksX2_copy_5 22 rfl rfl)
theorem dX2_copy_140 : decode cX2_copy 140 = .ok (.aload_n 0, 1) := dk_42 (dk_at dksX2_copy_5 23 rfl rfl)
theorem dX2_copy_141 : decode cX2_copy 141 = .ok (.getfield 81, 3) := dk_180 0 81 (dk_at dksX2_copy_6 0 rfl rfl)
theorem dX2_copy_144 : decode cX2_copy 144 = .ok (.putfield 81, 3) := dk_181 0 81 (dk_at dksX2_copy_6 3 rfl rfl)
theorem dX2_copy_147 : decode cX2_copy 147 = .ok (.aload_n 1, 1) := dk_43 (dk_at dksX2_copy_6 6 rfl rfl)
theorem dX2_copy_148 : decode cX2_copy 148 = .ok (.aload_n 0, 1) := dk_42 (dk_at dksX2_copy_6 7 rfl rfl)
theorem dX2_copy_149 : decode cX2_copy 149 = .ok (.getfield 84, 3) := dk_180 0 84 (dk_at dksX2_copy_6 8 rfl rfl)
theorem dX2_copy_152 : decode cX2_copy 152 = .ok (.putfield 84, 3) := dk_181 0 84 (dk_at dksX2_copy_6 11 rfl rfl)
theorem dX2_copy_155 : decode cX2_copy 155 = .ok (.aload_n 1, 1) := dk_43 (dk_at dksX2_copy_6 14 rfl rfl)
theorem dX2_copy_156 : decode cX2_copy 156 = .ok (.aload_n 0, 1) := dk_42 (dk_at dksX2_copy_6 15 rfl rfl)
theorem dX2_copy_157 : decode cX2_copy 157 = .ok (.getfield 87, 3) := dk_180 0 87 (dk_at dksX2_copy_6 16 rfl rfl)
theorem dX2_copy_160 : decode cX2_copy 160 = .ok (.putfield 87, 3) := dk_181 0 87 (dk_at dksX2_copy_6 19 rfl rfl)
theorem dX2_copy_163 : decode cX2_copy 163 = .ok (.aload_n 1, 1) := dk_43 (dk_at dksX2_copy_6 22 rfl rfl)
theorem dX2_copy_164 : decode cX2_copy 164 = .ok (.areturn, 1) := dk_176 (dk_at dksX2_copy_6 23 rfl rfl)
theorem q124 : (Jvm.Cond.instantiable "SpanRuler$Ruler" (10 : Nat)) ∈ lw_all := lw_g (lw_at lw_m1 64 rfl) rfl
theorem q352 : (Jvm.Cond.classLink "SpanRuler$Ruler" (14 : Nat) "SpanRuler$Ruler") ∈ lw_all := lw_g (lw_at lw_m2 52 rfl) rfl
theorem q353 : (Jvm.Cond.methodLink "SpanRuler$Ruler" (33 : Nat) ({ cls := "SpanRuler$Ruler", name := "<init>", desc := "()V" } : Jvm.MethodName)) ∈ lw_all := lw_g (lw_at lw_m2 53 rfl) rfl
theorem q127 : (Jvm.Cond.code ({ cls := "SpanRuler$Ruler", name := "<init>", desc := "()V" } : Jvm.MethodName) prog_16_method_1_code (1 : Nat) (Option.none : Option Jvm.ClassFile.FieldType)) ∈ lw_all := lw_g (lw_at lw_m1 67 rfl) rfl
theorem q126 : (Jvm.Cond.instanceMethod ({ cls := "SpanRuler$Ruler", name := "<init>", desc := "()V" } : Jvm.MethodName)) ∈ lw_all := lw_g (lw_at lw_m1 66 rfl) rfl
theorem q354 : (Jvm.Cond.methodLink "SpanRuler$Ruler" (34 : Nat) ({ cls := "SpanRuler$Node", name := "copy", desc := "()LSpanRuler$Node;" } : Jvm.MethodName)) ∈ lw_all := lw_g (lw_at lw_m2 54 rfl) rfl
theorem q377 : (Jvm.Cond.methodLink "SpanRuler$Ruler" (40 : Nat) ({ cls := "java/lang/System", name := "arraycopy", desc := "(Ljava/lang/Object;ILjava/lang/Object;II)V" } : Jvm.MethodName)) ∈ lw_all := lw_g (lw_at lw_m2 77 rfl) rfl
theorem q848 : (Jvm.Cond.methodLink "SpanRuler$Ruler" (65 : Nat) ({ cls := "java/util/ArrayList", name := "add", desc := "(Ljava/lang/Object;)Z" } : Jvm.MethodName)) ∈ lw_all := lw_g (lw_at lw_m4 68 rfl) rfl
theorem q851 : (Jvm.Cond.code ({ cls := "java/util/ArrayList", name := "add", desc := "(Ljava/lang/Object;)Z" } : Jvm.MethodName) prog_52_method_25_code (2 : Nat) (Option.some Jvm.ClassFile.FieldType.boolean)) ∈ lw_all := lw_g (lw_at lw_m4 71 rfl) rfl
theorem q849 : (Jvm.Cond.instanceMethod ({ cls := "java/util/ArrayList", name := "add", desc := "(Ljava/lang/Object;)Z" } : Jvm.MethodName)) ∈ lw_all := lw_g (lw_at lw_m4 69 rfl) rfl
theorem q850 : (Jvm.Cond.selects "java/util/ArrayList" ({ cls := "java/util/ArrayList", name := "add", desc := "(Ljava/lang/Object;)Z" } : Jvm.MethodName) ({ cls := "java/util/ArrayList", name := "add", desc := "(Ljava/lang/Object;)Z" } : Jvm.MethodName)) ∈ lw_all := lw_g (lw_at lw_m4 70 rfl) rfl
theorem q812 : (Jvm.Cond.methodLink "SpanRuler$Ruler" (62 : Nat) ({ cls := "SpanRuler$Note", name := "copy", desc := "()LSpanRuler$Note;" } : Jvm.MethodName)) ∈ lw_all := lw_g (lw_at lw_m4 32 rfl) rfl
theorem q815 : (Jvm.Cond.code ({ cls := "SpanRuler$Note", name := "copy", desc := "()LSpanRuler$Note;" } : Jvm.MethodName) prog_13_method_2_code (1 : Nat) (Option.some (Jvm.ClassFile.FieldType.object "SpanRuler$Note"))) ∈ lw_all := lw_g (lw_at lw_m4 35 rfl) rfl
theorem q813 : (Jvm.Cond.instanceMethod ({ cls := "SpanRuler$Note", name := "copy", desc := "()LSpanRuler$Note;" } : Jvm.MethodName)) ∈ lw_all := lw_g (lw_at lw_m4 33 rfl) rfl
theorem q814 : (Jvm.Cond.selects "SpanRuler$Note" ({ cls := "SpanRuler$Note", name := "copy", desc := "()LSpanRuler$Note;" } : Jvm.MethodName) ({ cls := "SpanRuler$Note", name := "copy", desc := "()LSpanRuler$Note;" } : Jvm.MethodName)) ∈ lw_all := lw_g (lw_at lw_m4 34 rfl) rfl
theorem x_copy (l : Launch) (G : GE) (h : AH) (P : Nat → Prop) (a : Nat) (R : Nat → Int32) (r0 : RulerAt G h P a R) : GM l G yX2_copy (ws_ yX2_copy cX2_copy 4 (some (.object "SpanRuler$Ruler"))) 13 [.ref a] (h) (3300) (PR fun u h' => ∃ c, u = .ref c ∧ RulerM G h h' c R) := by
  refine GM.of (by decide) (dk rfl) ?_
  intro X eL eG eh ok fn
  subst eL; subst eG
  show GW X _ 0 0 [some (.ref a), none, none, none] []
  obtain ⟨rt0, cl0, nl0, nd0, nc0, nm0, nf0, vl0, vd0, vc0, vm0, vf0, S0⟩ := r0
  obtain ⟨cf0, S0c, S0f⟩ := S0.1.2.2
  have iR := S0.2.2.2.2.2.1
  refine g_new ok ck_X2 q352 q124 q62 dX2_copy_0 (fs := [.null, .null, .null, .null, .int 0, .int 0, .int 0, .int 0, .int 0, .int 0]) (by intro j hj; rcases (by omega : j = 0 ∨ j = 1 ∨ j = 2 ∨ j = 3 ∨ j = 4 ∨ j = 5 ∨ j = 6 ∨ j = 7 ∨ j = 8 ∨ j = 9) with rfl | rfl | rfl | rfl | rfl | rfl | rfl | rfl | rfl | rfl <;> rfl) (by omega) (fun c hac hkc h0c => ?_)
  refine g_dup ok dX2_copy_3 rfl ?_
  refine g_callI ok q353 q126 q62 q127 rfl dX2_copy_4 (x_rinit X.l X.G h _ c up_self (KeepAll.new hac) hac) (nm_ (by decide : nmb _ 0 = true)) (dk rfl) (dk rfl) rfl rfl (dk rfl) (by omega) (kQ fun h1 (m1 : RulerM X.G h h1 c rO) => ?_) xQ
  obtain ⟨rt, cl, nl, nd, nc, nm, nf, vl, vd, vc, vm, vf, y1, z1⟩ := id m1
  have mq2 : RQ X.G h1 (fun q => h q = none) c rO rt cl [.ref nl, .ref vl, .int (rO 3), .int (rO 4), .int (rO 5), .int (rO 0), .int (rO 6), .int (rO 7)] := y1.1
  obtain ⟨ra1, rT1, cf1, rc1, rf1⟩ := id mq2
  have nca1 : cl ≠ c := fun z_ => by have w_ := rc1; rw [z_, ra1] at w_; cases w_
  have s1 := Rul.all S0 z1.1
  obtain ⟨sa1, sT1, scf1, sc1, sf1⟩ := id s1.1
  refine g_astore_n ok dX2_copy_7 (ls1 := [some (.ref a), some (.ref c), none, none]) (dl rfl) rfl ?_
  refine g_aload_n ok dX2_copy_8 rfl ?_
  refine g_aload_n ok dX2_copy_9 rfl ?_
  refine g_get ok ck_X2 0 q243 (Or.inl rfl) (by decide) dX2_copy_10 (Rd.h sa1) rfl ?_
  refine g_callU ok (C := "SpanRuler$Branch") (owner := "SpanRuler$Node") q354 q356 q357 q358 q66 q359 (ok.declA q355) (by decide) ((recv_br ok sT1)) dX2_copy_13 (c_br X.l X.G 4 _ P _ 0 rt0 564 sT1 (by decide) (by rw [trc5]; exact Nat.le_refl _)) (nm_ (by decide : nmb _ 0 = true)) (dk rfl) (dk rfl) rfl rfl (dk rfl) (by omega) (kR fun u2 h2 ⟨b, e2, t2, k2⟩ => ?_) xR
  subst e2
  refine g_put ok ck_X2 0 q243 (Or.inl rfl) (by decide) rfl dX2_copy_16 (k2 c _ ra1) (dl rfl) rfl rfl (fs1 := [.ref b, .ref cl, .ref nl, .ref vl, .int (rO 3), .int (rO 4), .int (rO 5), .int (rO 0), .int (rO 6), .int (rO 7)]) rfl (?_)
  have t3 : TreeAt h2 (fun q => h q = none) 5 (fun c => rC8 R 40 (8 + c)) 0 b := (TreeAt.mono (fun q z _ => KeepAll.nn0 z1.1 z) 5 _ _ _ t2).congr (fun q _ hq => (rC8_in (by omega) (by have : sz 5 = 32 := rfl; omega)).symm)
  obtain ⟨yr, zr⟩ := Rul.root (S := rC8 R 40) y1 z1 k2 t3 (fun q hq => rC8_out hq)
  have m2 : RulerM X.G h (up h2 c (ob 1 [.ref b, .ref cl, .ref nl, .ref vl, .int (rO 3), .int (rO 4), .int (rO 5), .int (rO 0), .int (rO 6), .int (rO 7)])) c (rC8 R 40) := ⟨b, cl, nl, nd, nc, nm, nf, vl, vd, vc, vm, vf, yr, zr⟩
  generalize eqHq1 : (up h2 c (ob 1 [.ref b, .ref cl, .ref nl, .ref vl, .int (rO 3), .int (rO 4), .int (rO 5), .int (rO 0), .int (rO 6), .int (rO 7)])) = Hq1 at m2 ⊢
  obtain ⟨rt, cl, nl, nd, nc, nm, nf, vl, vd, vc, vm, vf, y3, z3⟩ := id m2
  have mq4 : RQ X.G Hq1 (fun q => h q = none) c (rC8 R 40) rt cl [.ref nl, .ref vl, .int ((rC8 R 40) 3), .int ((rC8 R 40) 4), .int ((rC8 R 40) 5), .int ((rC8 R 40) 0), .int ((rC8 R 40) 6), .int ((rC8 R 40) 7)] := y3.1
  obtain ⟨ra2, rT2, cf2, rc2, rf2⟩ := id mq4
  have nca2 : cl ≠ c := fun z_ => by have w_ := rc2; rw [z_, ra2] at w_; cases w_
  have s2 := Rul.all S0 z3.1
  obtain ⟨sa2, sT2, scf2, sc2, sf2⟩ := id s2.1
  have nsc : cl0 ≠ cl := fun z_ => by have w_ := z3.2.2.1; rw [← z_, S0c] at w_; cases w_
  have nsa : a ≠ cl := fun z_ => by have w_ := z3.2.2.1; rw [← z_, S0.1.1] at w_; cases w_
  refine g_aload_n ok dX2_copy_19 rfl ?_
  refine g_get ok ck_X2 1 q244 (Or.inl rfl) (by decide) dX2_copy_20 (Rd.h sa2) rfl ?_
  refine g_iconst ok (v := 0) dX2_copy_23 rfl ?_
  refine g_aload_n ok dX2_copy_24 rfl ?_
  refine g_get ok ck_X2 1 q244 (Or.inl rfl) (by decide) dX2_copy_25 (Rd.h (ra2)) rfl ?_
  refine g_iconst ok (v := 0) dX2_copy_28 rfl ?_
  refine g_bipush ok (v := 32) dX2_copy_29 rfl ?_
  refine g_copyi ok (sp := 0) (dp := 0) (n := 32) q377 q379 q378 q82 (gt_i _) rfl dX2_copy_31 (Rd.h sc2) (rc2) (fun _ _ => rfl) rfl rfl rfl (by omega) (by omega) (by omega) (by omega) (dl rfl) rfl (dk rfl) ?_
  have k1 := cpy_col (g := cf2) sf2
  have k3 : ∀ q, q < 40 ∨ 72 ≤ q → rC8 R 72 q = rC8 R 40 q := by
    intro q hq; by_cases q1 : q < 8
    · rw [rC8_out (Or.inl q1), rC8_out (Or.inl q1)]
    · rcases hq with hq | hq
      · rw [rC8_in (by omega) (by omega), rC8_in (by omega) (by omega)]
      · rw [rC8_out (by omega), rC8_out (by omega)]
  have k4 : ∀ q, q < 32 → isCo (rC8 R 72 (40 + q)) = true := fun q hq => by rw [rC8_in (by omega) (by omega)]; exact iR.2.2.2.1 q hq
  obtain ⟨yc, zc⟩ := Rul.cols y3 z3 rc2 k3 k1 k4
  have m3 : RulerM X.G h (up Hq1 cl (aI X.G 32 (va_cpy scf2 cf2 0 0 32))) c (rCp R 0 0) := RulerM.congr ⟨rt, cl, nl, nd, nc, nm, nf, vl, vd, vc, vm, vf, yc, zc⟩ rC8_REq
  generalize eqHq2 : (up Hq1 cl (aI X.G 32 (va_cpy scf2 cf2 0 0 32))) = Hq2 at m3 ⊢
  obtain ⟨rt, cl, nl, nd, nc, nm, nf, vl, vd, vc, vm, vf, y5, z5⟩ := id m3
  have mq6 : RQ X.G Hq2 (fun q => h q = none) c (rCp R 0 0) rt cl [.ref nl, .ref vl, .int ((rCp R 0 0) 3), .int ((rCp R 0 0) 4), .int ((rCp R 0 0) 5), .int ((rCp R 0 0) 0), .int ((rCp R 0 0) 6), .int ((rCp R 0 0) 7)] := y5.1
  obtain ⟨ra3, rT3, cf3, rc3, rf3⟩ := id mq6
  have nca3 : cl ≠ c := fun z_ => by have w_ := rc3; rw [z_, ra3] at w_; cases w_
  have s3 := Rul.all S0 z5.1
  obtain ⟨sa3, sT3, scf3, sc3, sf3⟩ := id s3.1
  refine g_aload_n ok dX2_copy_34 rfl ?_
  refine g_get ok ck_X2 2 q246 (Or.inl rfl) (by decide) dX2_copy_35 (Rd.h sa3) rfl ?_
  refine g_callV ok q380 q381 q382 q70 q383 (Recv.ob ok gc_J2 (Rd.h s3.2.1.1)) dX2_copy_38 (al_iter X.l X.G _ nl0 nd0 nc0 (rN R) nm0 nf0 s3.2.1) (nm_ (by decide : nmb _ 0 = true)) (dk rfl) (dk rfl) rfl rfl (dk rfl) (by omega) (kR fun iut iht ⟨t, eit, ift, iqt, ikt⟩ => ?_) xR
  subst eit; subst ikt
  refine g_astore_n ok dX2_copy_41 (ls1 := [some (.ref a), some (.ref c), some (.ref t), none]) (dl rfl) rfl ?_
  have ht0 : h t = none := KeepAll.nn0 z5.1 ift
  have mt := RulerM.new (e := ob 13 [.int 0, .int (-1), .int nm0, .ref nl0]) ⟨rt, cl, nl, nd, nc, nm, nf, vl, vd, vc, vm, vf, y5, z5⟩ ift
  have lp : ∀ (n p : Nat) (lr : Int32) (H : AH) (kq : Nat), (p + n = rN R) → RulerM X.G h H c (rCp R p 0) → H t = some (ob 13 [.int (nI p), .int lr, .int nm0, .ref nl0]) → kq + 140 * n ≤ 2600 → GW X H kq 42 [some (.ref a), some (.ref c), some (.ref t), none] [] := by
    intro n
    induction n with
    | zero => 
      intro p lr H kq e0 mp it kb
      obtain ⟨rt, cl, nl, nd, nc, nm, nf, vl, vd, vc, vm, vf, y7, z7⟩ := id mp
      have mq8 : RQ X.G H (fun q => h q = none) c (rCp R p 0) rt cl [.ref nl, .ref vl, .int ((rCp R p 0) 3), .int ((rCp R p 0) 4), .int ((rCp R p 0) 5), .int ((rCp R p 0) 0), .int ((rCp R p 0) 6), .int ((rCp R p 0) 7)] := y7.1
      obtain ⟨ra4, rT4, cf4, rc4, rf4⟩ := id mq8
      have nca4 : cl ≠ c := fun z_ => by have w_ := rc4; rw [z_, ra4] at w_; cases w_
      have s4 := Rul.all S0 z7.1
      obtain ⟨sa4, sT4, scf4, sc4, sf4⟩ := id s4.1
      refine g_aload_n ok dX2_copy_42 rfl ?_
      refine g_callF ok (x := ({ cls := "java/util/Iterator", name := "hasNext", desc := "()Z" } : Jvm.MethodName)) q404 (by simp [ifl]) q408 q410 q411 q409 q407 q83 q412 gc_J12 (Recv.ob ok gc_J12 (Rd.h it)) dX2_copy_43 (it_has X.l X.G _ nl0 nd0 nc0 (rN R) nm0 nf0 s4.2.1 t p lr it (by omega)) (nm_ (by decide : nmb _ 0 = true)) (dk rfl) (dk rfl) rfl rfl (dk rfl) (by omega) (kV ?_) xV
      refine g_if_eq ok (tgt := 76) dX2_copy_48 (by decide) (fun _ => ?_) (fun c_ => absurd (by rw [decide_eq_false (by omega)]; rfl) c_)
      have ep : p = rN R := by omega
      subst ep
      have mq9 : RQ X.G H (fun q => h q = none) c (rCp R (rN R) 0) rt cl [.ref nl, .ref vl, .int ((rCp R (rN R) 0) 3), .int ((rCp R (rN R) 0) 4), .int ((rCp R (rN R) 0) 5), .int ((rCp R (rN R) 0) 0), .int ((rCp R (rN R) 0) 6), .int ((rCp R (rN R) 0) 7)] := y7.1
      obtain ⟨ra5, rT5, cf5, rc5, rf5⟩ := id mq9
      have nca5 : cl ≠ c := fun z_ => by have w_ := rc5; rw [z_, ra5] at w_; cases w_
      have s5 := Rul.all S0 z7.1
      obtain ⟨sa5, sT5, scf5, sc5, sf5⟩ := id s5.1
      refine g_aload_n ok dX2_copy_76 rfl ?_
      refine g_get ok ck_X2 3 q248 (Or.inl rfl) (by decide) dX2_copy_77 (Rd.h sa5) rfl ?_
      refine g_callV ok q380 q381 q382 q70 q383 (Recv.ob ok gc_J2 (Rd.h s5.2.2.2.1.1)) dX2_copy_80 (al_iter X.l X.G _ vl0 vd0 vc0 (rV R) vm0 vf0 s5.2.2.2.1) (nm_ (by decide : nmb _ 0 = true)) (dk rfl) (dk rfl) rfl rfl (dk rfl) (by omega) (kR fun iui ihi ⟨i, eii, ifi, iqi, iki⟩ => ?_) xR
      subst eii; subst iki
      refine g_astore_n ok dX2_copy_83 (ls1 := [some (.ref a), some (.ref c), some (.ref i), none]) (dl rfl) rfl ?_
      have hi0 : h i = none := KeepAll.nn0 z7.1 ifi
      have mi := RulerM.new (e := ob 13 [.int 0, .int (-1), .int vm0, .ref vl0]) ⟨rt, cl, nl, nd, nc, nm, nf, vl, vd, vc, vm, vf, y7, z7⟩ ifi
      have lp2 : ∀ (n j : Nat) (lr : Int32) (H : AH) (kq : Nat), (j + n = rV R) → RulerM X.G h H c (rCp R (rN R) j) → H i = some (ob 13 [.int (nI j), .int lr, .int vm0, .ref vl0]) → kq + 134 * n ≤ 3300 → GW X H kq 84 [some (.ref a), some (.ref c), some (.ref i), none] [] := by
        intro n
        induction n with
        | zero => 
          intro j lr2 H2 kq2 e02 mp2 it2 kb2
          obtain ⟨rt, cl, nl, nd, nc, nm, nf, vl, vd, vc, vm, vf, y10, z10⟩ := id mp2
          have mq11 : RQ X.G H2 (fun q => h q = none) c (rCp R (rN R) j) rt cl [.ref nl, .ref vl, .int ((rCp R (rN R) j) 3), .int ((rCp R (rN R) j) 4), .int ((rCp R (rN R) j) 5), .int ((rCp R (rN R) j) 0), .int ((rCp R (rN R) j) 6), .int ((rCp R (rN R) j) 7)] := y10.1
          obtain ⟨ra6, rT6, cf6, rc6, rf6⟩ := id mq11
          have nca6 : cl ≠ c := fun z_ => by have w_ := rc6; rw [z_, ra6] at w_; cases w_
          have s6 := Rul.all S0 z10.1
          obtain ⟨sa6, sT6, scf6, sc6, sf6⟩ := id s6.1
          refine g_aload_n ok dX2_copy_84 rfl ?_
          refine g_callF ok (x := ({ cls := "java/util/Iterator", name := "hasNext", desc := "()Z" } : Jvm.MethodName)) q404 (by simp [ifl]) q408 q410 q411 q409 q407 q83 q412 gc_J12 (Recv.ob ok gc_J12 (Rd.h it2)) dX2_copy_85 (it_has X.l X.G _ vl0 vd0 vc0 (rV R) vm0 vf0 s6.2.2.2.1 i j lr2 it2 (by omega)) (nm_ (by decide : nmb _ 0 = true)) (dk rfl) (dk rfl) rfl rfl (dk rfl) (by omega) (kV ?_) xV
          refine g_if_eq ok (tgt := 115) dX2_copy_90 (by decide) (fun _ => ?_) (fun c_ => absurd (by rw [decide_eq_false (by omega)]; rfl) c_)
          have ej : j = rV R := by omega
          subst ej
          have mq12 : RQ X.G H2 (fun q => h q = none) c (rCp R (rN R) (rV R)) rt cl [.ref nl, .ref vl, .int ((rCp R (rN R) (rV R)) 3), .int ((rCp R (rN R) (rV R)) 4), .int ((rCp R (rN R) (rV R)) 5), .int ((rCp R (rN R) (rV R)) 0), .int ((rCp R (rN R) (rV R)) 6), .int ((rCp R (rN R) (rV R)) 7)] := y10.1
          obtain ⟨ra7, rT7, cf7, rc7, rf7⟩ := id mq12
          have nca7 : cl ≠ c := fun z_ => by have w_ := rc7; rw [z_, ra7] at w_; cases w_
          have s7 := Rul.all S0 z10.1
          obtain ⟨sa7, sT7, scf7, sc7, sf7⟩ := id s7.1
          have nca : a ≠ c := fun z_ => by have w_ := z10.2.1; rw [← z_, S0.1.1] at w_; cases w_
          refine g_aload_n ok dX2_copy_115 rfl ?_
          refine g_aload_n ok dX2_copy_116 rfl ?_
          refine g_get ok ck_X2 4 q250 (Or.inl rfl) (by decide) dX2_copy_117 (Rd.h sa7) rfl ?_
          refine g_put ok ck_X2 4 q250 (Or.inl rfl) (by decide) rfl dX2_copy_120 (ra7) (dl rfl) rfl rfl (fs1 := [.ref rt, .ref cl, .ref nl, .ref vl, .int (R 3), .int ((rCp R (rN R) (rV R)) 4), .int ((rCp R (rN R) (rV R)) 5), .int ((rCp R (rN R) (rV R)) 0), .int ((rCp R (rN R) (rV R)) 6), .int ((rCp R (rN R) (rV R)) 7)]) rfl (?_)
          refine g_aload_n ok dX2_copy_123 rfl ?_
          refine g_aload_n ok dX2_copy_124 rfl ?_
          refine g_get ok ck_X2 5 q252 (Or.inl rfl) (by decide) dX2_copy_125 (Rd.up (Rd.h sa7) nca) rfl ?_
          refine g_put ok ck_X2 5 q252 (Or.inl rfl) (by decide) rfl dX2_copy_128 (up_self) (dl rfl) rfl rfl (fs1 := [.ref rt, .ref cl, .ref nl, .ref vl, .int (R 3), .int (R 4), .int ((rCp R (rN R) (rV R)) 5), .int ((rCp R (rN R) (rV R)) 0), .int ((rCp R (rN R) (rV R)) 6), .int ((rCp R (rN R) (rV R)) 7)]) rfl (?_)
          refine g_aload_n ok dX2_copy_131 rfl ?_
          refine g_aload_n ok dX2_copy_132 rfl ?_
          refine g_get ok ck_X2 6 q254 (Or.inl rfl) (by decide) dX2_copy_133 (Rd.up (Rd.up (Rd.h sa7) nca) nca) rfl ?_
          refine g_put ok ck_X2 6 q254 (Or.inl rfl) (by decide) rfl dX2_copy_136 (up_self) (dl rfl) rfl rfl (fs1 := [.ref rt, .ref cl, .ref nl, .ref vl, .int (R 3), .int (R 4), .int (R 5), .int ((rCp R (rN R) (rV R)) 0), .int ((rCp R (rN R) (rV R)) 6), .int ((rCp R (rN R) (rV R)) 7)]) rfl (?_)
          refine g_aload_n ok dX2_copy_139 rfl ?_
          refine g_aload_n ok dX2_copy_140 rfl ?_
          refine g_get ok ck_X2 7 q256 (Or.inl rfl) (by decide) dX2_copy_141 (Rd.up (Rd.up (Rd.up (Rd.h sa7) nca) nca) nca) rfl ?_
          refine g_put ok ck_X2 7 q256 (Or.inl rfl) (by decide) rfl dX2_copy_144 (up_self) (dl rfl) rfl rfl (fs1 := [.ref rt, .ref cl, .ref nl, .ref vl, .int (R 3), .int (R 4), .int (R 5), .int (R 0), .int ((rCp R (rN R) (rV R)) 6), .int ((rCp R (rN R) (rV R)) 7)]) rfl (?_)
          refine g_aload_n ok dX2_copy_147 rfl ?_
          refine g_aload_n ok dX2_copy_148 rfl ?_
          refine g_get ok ck_X2 8 q258 (Or.inl rfl) (by decide) dX2_copy_149 (Rd.up (Rd.up (Rd.up (Rd.up (Rd.h sa7) nca) nca) nca) nca) rfl ?_
          refine g_put ok ck_X2 8 q258 (Or.inl rfl) (by decide) rfl dX2_copy_152 (up_self) (dl rfl) rfl rfl (fs1 := [.ref rt, .ref cl, .ref nl, .ref vl, .int (R 3), .int (R 4), .int (R 5), .int (R 0), .int (R 6), .int ((rCp R (rN R) (rV R)) 7)]) rfl (?_)
          refine g_aload_n ok dX2_copy_155 rfl ?_
          refine g_aload_n ok dX2_copy_156 rfl ?_
          refine g_get ok ck_X2 9 q260 (Or.inl rfl) (by decide) dX2_copy_157 (Rd.up (Rd.up (Rd.up (Rd.up (Rd.up (Rd.h sa7) nca) nca) nca) nca) nca) rfl ?_
          refine g_put ok ck_X2 9 q260 (Or.inl rfl) (by decide) rfl dX2_copy_160 (up_self) (dl rfl) rfl rfl (fs1 := [.ref rt, .ref cl, .ref nl, .ref vl, .int (R 3), .int (R 4), .int (R 5), .int (R 0), .int (R 6), .int (R 7)]) rfl (?_)
          refine g_aload_n ok dX2_copy_163 rfl ?_
          have e40 : ∀ q, q = 1 ∨ q = 2 ∨ 40 ≤ q → R q = rCp R (rN R) (rV R) q := by
            intro q hq; rcases hq with hq | hq | hq
            · subst hq; rw [rCp_1]; exact iR.1.1
            · subst hq; rw [rCp_2]; exact iR.2.1.1
            · exact (rCp_hi (by omega)).symm
          have mz := RulerM.setR (S := R) y10 z10 (Chg.refl _ _ _ _) (y10.1.2.1.congr (fun q _ _ => rCp_hi (by omega))) e40
          refine g_aret ok fn rfl (Or.inl ⟨_, rfl⟩) (Or.inr ⟨_, rfl⟩) dX2_copy_164 ⟨_, rfl, c, rfl, ?_⟩ (by omega)
          simp only [up_up]
          exact mz
        | succ n ih2 => 
          intro j lr2 H2 kq2 e02 mp2 it2 kb2
          obtain ⟨rt, cl, nl, nd, nc, nm, nf, vl, vd, vc, vm, vf, y10, z10⟩ := id mp2
          have mq11 : RQ X.G H2 (fun q => h q = none) c (rCp R (rN R) j) rt cl [.ref nl, .ref vl, .int ((rCp R (rN R) j) 3), .int ((rCp R (rN R) j) 4), .int ((rCp R (rN R) j) 5), .int ((rCp R (rN R) j) 0), .int ((rCp R (rN R) j) 6), .int ((rCp R (rN R) j) 7)] := y10.1
          obtain ⟨ra6, rT6, cf6, rc6, rf6⟩ := id mq11
          have nca6 : cl ≠ c := fun z_ => by have w_ := rc6; rw [z_, ra6] at w_; cases w_
          have s6 := Rul.all S0 z10.1
          obtain ⟨sa6, sT6, scf6, sc6, sf6⟩ := id s6.1
          refine g_aload_n ok dX2_copy_84 rfl ?_
          refine g_callF ok (x := ({ cls := "java/util/Iterator", name := "hasNext", desc := "()Z" } : Jvm.MethodName)) q404 (by simp [ifl]) q408 q410 q411 q409 q407 q83 q412 gc_J12 (Recv.ob ok gc_J12 (Rd.h it2)) dX2_copy_85 (it_has X.l X.G _ vl0 vd0 vc0 (rV R) vm0 vf0 s6.2.2.2.1 i j lr2 it2 (by omega)) (nm_ (by decide : nmb _ 0 = true)) (dk rfl) (dk rfl) rfl rfl (dk rfl) (by omega) (kV ?_) xV
          refine g_if_eq ok (tgt := 115) dX2_copy_90 (by decide) (fun c_ => absurd c_ (by rw [decide_eq_true (by omega)]; decide)) (fun _ => ?_)
          obtain ⟨b, kb1, vb⟩ := s6.2.2.2.2.1 j (by omega)
          obtain ⟨bb, kb3, vb0⟩ := S0.2.2.2.2.1 j (by omega)
          have eb : bb = b := Option.some.inj (kb3.symm.trans kb1)
          subst eb
          obtain ⟨na, ca, wn, wc, w1, w2, w3, w4⟩ := id vb
          obtain ⟨na0, ca0, wn0, wc0, u1, u2, u3, u4⟩ := id vb0
          refine g_aload_n ok dX2_copy_93 rfl ?_
          refine g_callF ok (x := ({ cls := "java/util/Iterator", name := "next", desc := "()Ljava/lang/Object;" } : Jvm.MethodName)) q420 (by simp [ifl]) q423 q425 q426 q424 q407 q83 q427 gc_J12 (Recv.ob ok gc_J12 (Rd.h it2)) dX2_copy_94 (it_next X.l X.G _ vl0 vd0 vc0 (rV R) vm0 vf0 s6.2.2.2.1 i j lr2 it2 (by omega) bb kb1) (nm_ (by decide : nmb _ 0 = true)) (dk rfl) (dk rfl) rfl rfl (dk rfl) (by omega) (kV ?_) xV
          obtain ⟨y8, z8⟩ := RF.put (e := (ob 13 [.int (nI (j + 1)), .int (nI j), .int vm0, .ref vl0])) y10 z10 it2 (by decide) hi0
          have k8 : KeepAll h (up H2 i (ob 13 [.int (nI (j + 1)), .int (nI j), .int vm0, .ref vl0])) := z8.1
          have vb8 : VersAt X.G (up H2 i (ob 13 [.int (nI (j + 1)), .int (nI j), .int vm0, .ref vl0])) bb R j := vb0.kp (fun q l z_ => k8 _ _ z_) (fun q y z_ => k8 _ _ z_)
          have w18 := k8 _ _ u1
          have it8 : (up H2 i (ob 13 [.int (nI (j + 1)), .int (nI j), .int vm0, .ref vl0])) i = some (ob 13 [.int (nI (j + 1)), .int (nI j), .int vm0, .ref vl0]) := up_self
          have mq12 : RQ X.G (up H2 i (ob 13 [.int (nI (j + 1)), .int (nI j), .int vm0, .ref vl0])) (fun q => h q = none) c (rCp R (rN R) j) rt cl [.ref nl, .ref vl, .int ((rCp R (rN R) j) 3), .int ((rCp R (rN R) j) 4), .int ((rCp R (rN R) j) 5), .int ((rCp R (rN R) j) 0), .int ((rCp R (rN R) j) 6), .int ((rCp R (rN R) j) 7)] := y8.1
          obtain ⟨ra7, rT7, cf7, rc7, rf7⟩ := id mq12
          have nca7 : cl ≠ c := fun z_ => by have w_ := rc7; rw [z_, ra7] at w_; cases w_
          have cN7 := y8.2.2.2.2.2.2.2
          refine g_castE ok q911 dX2_copy_99 (Recv.ob ok gc_X12 (Rd.h w18)) ?_
          refine g_astore_n ok dX2_copy_102 (ls1 := [some (.ref a), some (.ref c), some (.ref i), some (.ref bb)]) (dl rfl) rfl ?_
          refine g_aload_n ok dX2_copy_103 rfl ?_
          refine g_get ok ck_X2 3 q248 (Or.inl rfl) (by decide) dX2_copy_104 (Rd.h (ra7)) rfl ?_
          refine g_aload_n ok dX2_copy_107 rfl ?_
          refine g_khn (ok.tab.kst.2.1) (fun hE7 => ?_)
          refine g_callV ok q848 q849 q850 q70 q851 (Recv.ob ok gc_J2 (Rd.h y8.2.2.2.1.1)) dX2_copy_108 (al_add X.l X.G _ vl vd vc (rV (rCp R (rN R) j)) vm vf y8.2.2.2.1 bb 8 _ _ gc_X12 (by decide) (Rd.h w18) (by omega) (els_vers y8) (fun z_ => by have w_ := y8.2.2.2.1.1; rw [← z_, w18] at w_; cases w_)) (nm_ (by decide : nmb _ 1 = true)) (dk rfl) (dk rfl) rfl rfl (dk rfl) (by omega) (kR fun u6 h6 ⟨e6, k6⟩ => ?_) xR
          subst e6
          refine g_khn (ok.tab.kst.2.1) (fun hE6 => ?_)
          refine g_pop ok dX2_copy_111 rfl ?_
          refine g_goto ok dX2_copy_112 (tgt := 84) (by decide) ?_
          refine g_drop 3 (ls1 := [some (.ref a), some (.ref c), some (.ref i), none]) rfl ?_
          have hp10 := iR.2.1.2
          have eN := rCp_V (R := R) (p := rN R) (v := j) (by omega)
          have it6 : h6 i = some (ob 13 [.int (nI (j + 1)), .int (nI j), .int vm0, .ref vl0]) := by obtain ⟨d9, c9, g9, v1, v2, v3, v4, v5⟩ := k6; exact al_neo y8.2.2.2.1 hE7 v4 it8 (by decide)
          have hd : ∀ na ca, (up H2 i (ob 13 [.int (nI (j + 1)), .int (nI j), .int vm0, .ref vl0])) bb = some (ob 8 [.ref na, .ref ca]) → na ≠ cl ∧ ca ≠ cl := fun n9 c9 z_ => by have q9 := w18.symm.trans z_; cases q9; exact ⟨fun z9 => (by have w_ := z8.2.2.1; rw [← z9, u2] at w_; cases w_), fun z9 => (by have w_ := z8.2.2.1; rw [← z9, u3] at w_; cases w_)⟩
          have m6 := RulerM.addV (S := rCp R (rN R) (j + 1)) y8 z8 (by rw [eN]; omega) k6 hE7 hE6 (by rw [eN]; exact rCp_2) (fun q hq _ => rCp_sV hq) (by rw [eN]; exact rCp_vers vb8) hd (by rw [eN]; intro c hc; rw [rCp_hi (by omega), rCp_hi (by omega)]; exact iR.2.2.2.2.2 j (by omega) c hc)
          exact ih2 (j + 1) (nI j) _ _ (by omega) m6 it6 (by omega)
      exact lp2 (rV R) 0 (-1) _ _ (by omega) mi up_self (by have hp10 := iR.2.1.2; omega)
    | succ n ih => 
      intro p lr H kq e0 mp it kb
      obtain ⟨rt, cl, nl, nd, nc, nm, nf, vl, vd, vc, vm, vf, y7, z7⟩ := id mp
      have mq8 : RQ X.G H (fun q => h q = none) c (rCp R p 0) rt cl [.ref nl, .ref vl, .int ((rCp R p 0) 3), .int ((rCp R p 0) 4), .int ((rCp R p 0) 5), .int ((rCp R p 0) 0), .int ((rCp R p 0) 6), .int ((rCp R p 0) 7)] := y7.1
      obtain ⟨ra4, rT4, cf4, rc4, rf4⟩ := id mq8
      have nca4 : cl ≠ c := fun z_ => by have w_ := rc4; rw [z_, ra4] at w_; cases w_
      have s4 := Rul.all S0 z7.1
      obtain ⟨sa4, sT4, scf4, sc4, sf4⟩ := id s4.1
      refine g_aload_n ok dX2_copy_42 rfl ?_
      refine g_callF ok (x := ({ cls := "java/util/Iterator", name := "hasNext", desc := "()Z" } : Jvm.MethodName)) q404 (by simp [ifl]) q408 q410 q411 q409 q407 q83 q412 gc_J12 (Recv.ob ok gc_J12 (Rd.h it)) dX2_copy_43 (it_has X.l X.G _ nl0 nd0 nc0 (rN R) nm0 nf0 s4.2.1 t p lr it (by omega)) (nm_ (by decide : nmb _ 0 = true)) (dk rfl) (dk rfl) rfl rfl (dk rfl) (by omega) (kV ?_) xV
      refine g_if_eq ok (tgt := 76) dX2_copy_48 (by decide) (fun c_ => absurd c_ (by rw [decide_eq_true (by omega)]; decide)) (fun _ => ?_)
      obtain ⟨b, kb1, nb⟩ := s4.2.2.1 p (by omega)
      refine g_aload_n ok dX2_copy_51 rfl ?_
      refine g_callF ok (x := ({ cls := "java/util/Iterator", name := "next", desc := "()Ljava/lang/Object;" } : Jvm.MethodName)) q420 (by simp [ifl]) q423 q425 q426 q424 q407 q83 q427 gc_J12 (Recv.ob ok gc_J12 (Rd.h it)) dX2_copy_52 (it_next X.l X.G _ nl0 nd0 nc0 (rN R) nm0 nf0 s4.2.1 t p lr it (by omega) b kb1) (nm_ (by decide : nmb _ 0 = true)) (dk rfl) (dk rfl) rfl rfl (dk rfl) (by omega) (kV ?_) xV
      obtain ⟨y8, z8⟩ := RF.put (e := (ob 13 [.int (nI (p + 1)), .int (nI p), .int nm0, .ref nl0])) y7 z7 it (by decide) ht0
      have nbt : b ≠ t := fun z_ => by unfold NoteAt at nb; rw [z_, it] at nb; cases nb
      have nb8 := (up_ne (e := (ob 13 [.int (nI (p + 1)), .int (nI p), .int nm0, .ref nl0])) nbt).trans nb
      have it8 : (up H t (ob 13 [.int (nI (p + 1)), .int (nI p), .int nm0, .ref nl0])) t = some (ob 13 [.int (nI (p + 1)), .int (nI p), .int nm0, .ref nl0]) := up_self
      have mq9 : RQ X.G (up H t (ob 13 [.int (nI (p + 1)), .int (nI p), .int nm0, .ref nl0])) (fun q => h q = none) c (rCp R p 0) rt cl [.ref nl, .ref vl, .int ((rCp R p 0) 3), .int ((rCp R p 0) 4), .int ((rCp R p 0) 5), .int ((rCp R p 0) 0), .int ((rCp R p 0) 6), .int ((rCp R p 0) 7)] := y8.1
      obtain ⟨ra5, rT5, cf5, rc5, rf5⟩ := id mq9
      have nca5 : cl ≠ c := fun z_ => by have w_ := rc5; rw [z_, ra5] at w_; cases w_
      refine g_castE ok q811 dX2_copy_57 (Recv.ob ok gc_X10 (Rd.h (nb8))) ?_
      refine g_astore_n ok dX2_copy_60 (ls1 := [some (.ref a), some (.ref c), some (.ref t), some (.ref b)]) (dl rfl) rfl ?_
      refine g_aload_n ok dX2_copy_61 rfl ?_
      refine g_get ok ck_X2 2 q246 (Or.inl rfl) (by decide) dX2_copy_62 (Rd.h (ra5)) rfl ?_
      refine g_aload_n ok dX2_copy_65 rfl ?_
      refine g_callV ok q812 q813 q814 q95 q815 (Recv.ob ok gc_X10 (Rd.h (nb8))) dX2_copy_66 (x_noteCopy X.l X.G _ b _ _ _ _ _ (Rd.h nb8)) (nm_ (by decide : nmb _ 0 = true)) (dk rfl) (dk rfl) rfl rfl (dk rfl) (by omega) (kR fun u4 h4 ⟨b2, e4, f4, f5, e7⟩ => ?_) xR
      subst e4; subst e7
      obtain ⟨y7, z7⟩ := RF.new (e := (ob 6 [.ref (X.G.ga (kd (R (72 + 5 * p + 0)))), .int (R (72 + 5 * p + 1)), .int (R (72 + 5 * p + 2)), .int (R (72 + 5 * p + 3)), .int (R (72 + 5 * p + 4))])) y8 z8 f4
      have mq10 : RQ X.G (up (up H t (ob 13 [.int (nI (p + 1)), .int (nI p), .int nm0, .ref nl0])) b2 (ob 6 [.ref (X.G.ga (kd (R (72 + 5 * p + 0)))), .int (R (72 + 5 * p + 1)), .int (R (72 + 5 * p + 2)), .int (R (72 + 5 * p + 3)), .int (R (72 + 5 * p + 4))])) (fun q => h q = none) c (rCp R p 0) rt cl [.ref nl, .ref vl, .int ((rCp R p 0) 3), .int ((rCp R p 0) 4), .int ((rCp R p 0) 5), .int ((rCp R p 0) 0), .int ((rCp R p 0) 6), .int ((rCp R p 0) 7)] := y7.1
      obtain ⟨ra6, rT6, cf6, rc6, rf6⟩ := id mq10
      have nca6 : cl ≠ c := fun z_ => by have w_ := rc6; rw [z_, ra6] at w_; cases w_
      have nb7 : NoteAt X.G (up (up H t (ob 13 [.int (nI (p + 1)), .int (nI p), .int nm0, .ref nl0])) b2 (ob 6 [.ref (X.G.ga (kd (R (72 + 5 * p + 0)))), .int (R (72 + 5 * p + 1)), .int (R (72 + 5 * p + 2)), .int (R (72 + 5 * p + 3)), .int (R (72 + 5 * p + 4))])) b2 R p := up_self
      have it7 : (up (up H t (ob 13 [.int (nI (p + 1)), .int (nI p), .int nm0, .ref nl0])) b2 (ob 6 [.ref (X.G.ga (kd (R (72 + 5 * p + 0)))), .int (R (72 + 5 * p + 1)), .int (R (72 + 5 * p + 2)), .int (R (72 + 5 * p + 3)), .int (R (72 + 5 * p + 4))])) t = some (ob 13 [.int (nI (p + 1)), .int (nI p), .int nm0, .ref nl0]) := (up_ne (fun z_ => by rw [← z_, it8] at f4; cases f4)).trans it8
      have hb2 : h b2 = none := KeepAll.nn0 z8.1 f4
      have cN7 := y7.2.2.2.2.2.2.1
      refine g_khn (ok.tab.kst.2.1) (fun hE7 => ?_)
      refine g_callV ok q848 q849 q850 q70 q851 (Recv.ob ok gc_J2 (Rd.h y7.2.1.1)) dX2_copy_69 (al_add X.l X.G _ nl nd nc (rN (rCp R p 0)) nm nf y7.2.1 b2 6 _ _ gc_X10 (by decide) (Rd.h nb7) (by omega) (els_note y7) (fun z_ => by have w_ := y7.2.1.1; rw [← z_, nb7] at w_; cases w_)) (nm_ (by decide : nmb _ 1 = true)) (dk rfl) (dk rfl) rfl rfl (dk rfl) (by omega) (kR fun u6 h6 ⟨e6, k6⟩ => ?_) xR
      subst e6
      refine g_khn (ok.tab.kst.2.1) (fun hE6 => ?_)
      refine g_pop ok dX2_copy_72 rfl ?_
      refine g_goto ok dX2_copy_73 (tgt := 42) (by decide) ?_
      refine g_drop 3 (ls1 := [some (.ref a), some (.ref c), some (.ref t), none]) rfl ?_
      have hp10 := iR.1.2
      have eN := rCp_N (R := R) (p := p) (v := 0) (by omega)
      have it6 : h6 t = some (ob 13 [.int (nI (p + 1)), .int (nI p), .int nm0, .ref nl0]) := by obtain ⟨d9, c9, g9, v1, v2, v3, v4, v5⟩ := k6; exact al_neo y7.2.1 hE7 v4 it7 (by decide)
      have hd : ∀ q, q < rN (rCp R p 0) → nf q ≠ some b2 := fun q hq z_ => by obtain ⟨b9, w1, w2⟩ := y8.2.2.1 q hq; rw [z_] at w1; cases w1; unfold NoteAt at w2; rw [f4] at w2; cases w2
      have m6 := RulerM.addN (S := rCp R (p + 1) 0) y7 z7 (by rw [eN]; omega) k6 hE7 hE6 (by rw [eN]; exact rCp_1) (fun q hq _ => rCp_sN hq) (by rw [eN]; exact rCp_note nb7) hb2 hd (by rw [eN]; exact (iR.2.2.2.2.1 p (by omega)).congr (fun w hw => (rCp_hi (by omega)).symm))
      exact ih (p + 1) (nI p) _ _ (by omega) m6 it6 (by omega)
  exact lp (rN R) 0 (-1) _ _ (by omega) mt up_self (by have hp10 := iR.1.2; omega)
