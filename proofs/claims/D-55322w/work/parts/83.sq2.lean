/-! the SpanRuler is asked, 2 -/
set_option maxRecDepth 100000
abbrev cX1_mean : ByteArray := prog_1_method_53_code
def yX1_mean : MethodName := ⟨RX1, "mean", "(II)F"⟩
def dkwX1_mean_0 : List UInt8 := [27, 28, 184, 0, 211, 42, 180, 0, 126, 27, 28, 182, 1, 9, 134, 28, 27, 100, 4, 96, 134, 110, 174]
abbrev dktX1_mean_0 : List UInt8 := dkwX1_mean_0 ++ []
theorem dksX1_mean_0 : cX1_mean.data.toList.drop 0 = dktX1_mean_0 := by decide +kernel
theorem dX1_mean_0 : decode cX1_mean 0 = .ok (.iload_n 1, 1) := dk_27 (dk_at dksX1_mean_0 0 rfl rfl)
theorem dX1_mean_1 : decode cX1_mean 1 = .ok (.iload_n 2, 1) := dk_28 (dk_at dksX1_mean_0 1 rfl rfl)
theorem dX1_mean_2 : decode cX1_mean 2 = .ok (.invokestatic 211, 3) := dk_184 0 211 (dk_at dksX1_mean_0 2 rfl rfl)
theorem dX1_mean_5 : decode cX1_mean 5 = .ok (.aload_n 0, 1) := dk_42 (dk_at dksX1_mean_0 5 rfl rfl)
theorem dX1_mean_6 : decode cX1_mean 6 = .ok (.getfield 126, 3) := dk_180 0 126 (dk_at dksX1_mean_0 6 rfl rfl)
theorem dX1_mean_9 : decode cX1_mean 9 = .ok (.iload_n 1, 1) := dk_27 (dk_at dksX1_mean_0 9 rfl rfl)
theorem dX1_mean_10 : decode cX1_mean 10 = .ok (.iload_n 2, 1) := dk_28 (dk_at dksX1_mean_0 10 rfl rfl)
theorem dX1_mean_11 : decode cX1_mean 11 = .ok (.invokevirtual 265, 3) := dk_182 1 9 (dk_at dksX1_mean_0 11 rfl rfl)
theorem dX1_mean_14 : decode cX1_mean 14 = .ok (.i2f, 1) := dk_134 (dk_at dksX1_mean_0 14 rfl rfl)
theorem dX1_mean_15 : decode cX1_mean 15 = .ok (.iload_n 2, 1) := dk_28 (dk_at dksX1_mean_0 15 rfl rfl)
theorem dX1_mean_16 : decode cX1_mean 16 = .ok (.iload_n 1, 1) := dk_27 (dk_at dksX1_mean_0 16 rfl rfl)
theorem dX1_mean_17 : decode cX1_mean 17 = .ok (.isub, 1) := dk_100 (dk_at dksX1_mean_0 17 rfl rfl)
theorem dX1_mean_18 : decode cX1_mean 18 = .ok (.iconst 1, 1) := dk_4 (dk_at dksX1_mean_0 18 rfl rfl)
theorem dX1_mean_19 : decode cX1_mean 19 = .ok (.iadd, 1) := dk_96 (dk_at dksX1_mean_0 19 rfl rfl)
theorem dX1_mean_20 : decode cX1_mean 20 = .ok (.i2f, 1) := dk_134 (dk_at dksX1_mean_0 20 rfl rfl)
theorem dX1_mean_21 : decode cX1_mean 21 = .ok (.fdiv, 1) := dk_110 (dk_at dksX1_mean_0 21 rfl rfl)
theorem dX1_mean_22 : decode cX1_mean 22 = .ok (.freturn, 1) := dk_174 (dk_at dksX1_mean_0 22 rfl rfl)
abbrev cX1_share : ByteArray := prog_1_method_54_code
def yX1_share : MethodName := ⟨RX1, "share", "(I)D"⟩
def dkwX1_share_0 : List UInt8 := [27, 184, 0, 217, 184, 0, 170, 42, 180, 0, 126, 27, 182, 1, 105, 135, 20, 1, 108, 111, 175]
abbrev dktX1_share_0 : List UInt8 := dkwX1_share_0 ++ []
theorem dksX1_share_0 : cX1_share.data.toList.drop 0 = dktX1_share_0 := by decide +kernel
theorem dX1_share_0 : decode cX1_share 0 = .ok (.iload_n 1, 1) := dk_27 (dk_at dksX1_share_0 0 rfl rfl)
theorem dX1_share_1 : decode cX1_share 1 = .ok (.invokestatic 217, 3) := dk_184 0 217 (dk_at dksX1_share_0 1 rfl rfl)
theorem dX1_share_4 : decode cX1_share 4 = .ok (.invokestatic 170, 3) := dk_184 0 170 (dk_at dksX1_share_0 4 rfl rfl)
theorem dX1_share_7 : decode cX1_share 7 = .ok (.aload_n 0, 1) := dk_42 (dk_at dksX1_share_0 7 rfl rfl)
theorem dX1_share_8 : decode cX1_share 8 = .ok (.getfield 126, 3) := dk_180 0 126 (dk_at dksX1_share_0 8 rfl rfl)
theorem dX1_share_11 : decode cX1_share 11 = .ok (.iload_n 1, 1) := dk_27 (dk_at dksX1_share_0 11 rfl rfl)
theorem dX1_share_12 : decode cX1_share 12 = .ok (.invokevirtual 361, 3) := dk_182 1 105 (dk_at dksX1_share_0 12 rfl rfl)
theorem dX1_share_15 : decode cX1_share 15 = .ok (.i2d, 1) := dk_135 (dk_at dksX1_share_0 15 rfl rfl)
theorem dX1_share_16 : decode cX1_share 16 = .ok (.ldc2_w 364, 3) := dk_20 1 108 (dk_at dksX1_share_0 16 rfl rfl)
theorem dX1_share_19 : decode cX1_share 19 = .ok (.ddiv, 1) := dk_111 (dk_at dksX1_share_0 19 rfl rfl)
theorem dX1_share_20 : decode cX1_share 20 = .ok (.dreturn, 1) := dk_175 (dk_at dksX1_share_0 20 rfl rfl)
abbrev cX1_errorPosition : ByteArray := prog_1_method_58_code
def yX1_errorPosition : MethodName := ⟨RX1, "errorPosition", "()I"⟩
def dkwX1_errorPosition_0 : List UInt8 := [42, 180, 1, 165, 198, 0, 7, 4, 167, 0, 4, 3, 184, 1, 30, 42, 180, 1, 165, 180, 1, 169, 172]
abbrev dktX1_errorPosition_0 : List UInt8 := dkwX1_errorPosition_0 ++ []
theorem dksX1_errorPosition_0 : cX1_errorPosition.data.toList.drop 0 = dktX1_errorPosition_0 := by decide +kernel
theorem dX1_errorPosition_0 : decode cX1_errorPosition 0 = .ok (.aload_n 0, 1) := dk_42 (dk_at dksX1_errorPosition_0 0 rfl rfl)
theorem dX1_errorPosition_1 : decode cX1_errorPosition 1 = .ok (.getfield 421, 3) := dk_180 1 165 (dk_at dksX1_errorPosition_0 1 rfl rfl)
theorem dX1_errorPosition_4 : decode cX1_errorPosition 4 = .ok (.ifnull 7, 3) := dk_198 0 7 (dk_at dksX1_errorPosition_0 4 rfl rfl)
theorem dX1_errorPosition_7 : decode cX1_errorPosition 7 = .ok (.iconst 1, 1) := dk_4 (dk_at dksX1_errorPosition_0 7 rfl rfl)
theorem dX1_errorPosition_8 : decode cX1_errorPosition 8 = .ok (.goto 4, 3) := dk_167 0 4 (dk_at dksX1_errorPosition_0 8 rfl rfl)
theorem dX1_errorPosition_11 : decode cX1_errorPosition 11 = .ok (.iconst 0, 1) := dk_3 (dk_at dksX1_errorPosition_0 11 rfl rfl)
theorem dX1_errorPosition_12 : decode cX1_errorPosition 12 = .ok (.invokestatic 286, 3) := dk_184 1 30 (dk_at dksX1_errorPosition_0 12 rfl rfl)
theorem dX1_errorPosition_15 : decode cX1_errorPosition 15 = .ok (.aload_n 0, 1) := dk_42 (dk_at dksX1_errorPosition_0 15 rfl rfl)
theorem dX1_errorPosition_16 : decode cX1_errorPosition 16 = .ok (.getfield 421, 3) := dk_180 1 165 (dk_at dksX1_errorPosition_0 16 rfl rfl)
theorem dX1_errorPosition_19 : decode cX1_errorPosition 19 = .ok (.getfield 425, 3) := dk_180 1 169 (dk_at dksX1_errorPosition_0 19 rfl rfl)
theorem dX1_errorPosition_22 : decode cX1_errorPosition 22 = .ok (.ireturn, 1) := dk_172 (dk_at dksX1_errorPosition_0 22 rfl rfl)
abbrev cX1_reason : ByteArray := prog_1_method_59_code
def yX1_reason : MethodName := ⟨RX1, "reason", "(Z)I"⟩
def dkwX1_reason_1 : List UInt8 := [180, 1, 172, 167, 0, 10, 42, 180, 0, 160, 180, 1, 175, 172]
abbrev dktX1_reason_1 : List UInt8 := dkwX1_reason_1 ++ []
def dkwX1_reason_0 : List UInt8 := [42, 180, 0, 160, 198, 0, 7, 4, 167, 0, 4, 3, 184, 1, 30, 27, 153, 0, 13, 42, 180, 0, 160]
abbrev dktX1_reason_0 : List UInt8 := dkwX1_reason_0 ++ dktX1_reason_1
theorem dksX1_reason_0 : cX1_reason.data.toList.drop 0 = dktX1_reason_0 := by decide +kernel
theorem dksX1_reason_1 : cX1_reason.data.toList.drop 23 = dktX1_reason_1 := dk_seg dksX1_reason_0 23 rfl rfl
theorem dX1_reason_0 : decode cX1_reason 0 = .ok (.aload_n 0, 1) := dk_42 (dk_at dksX1_reason_0 0 rfl rfl)
theorem dX1_reason_1 : decode cX1_reason 1 = .ok (.getfield 160, 3) := dk_180 0 160 (dk_at dksX1_reason_0 1 rfl rfl)
theorem dX1_reason_4 : decode cX1_reason 4 = .ok (.ifnull 7, 3) := dk_198 0 7 (dk_at dksX1_reason_0 4 rfl rfl)
theorem dX1_reason_7 : decode cX1_reason 7 = .ok (.iconst 1, 1) := dk_4 (dk_at dksX1_reason_0 7 rfl rfl)
theorem dX1_reason_8 : decode cX1_reason 8 = .ok (.goto 4, 3) := dk_167 0 4 (dk_at dksX1_reason_0 8 rfl rfl)
theorem dX1_reason_11 : decode cX1_reason 11 = .ok (.iconst 0, 1) := dk_3 (dk_at dksX1_reason_0 11 rfl rfl)
theorem dX1_reason_12 : decode cX1_reason 12 = .ok (.invokestatic 286, 3) := dk_184 1 30 (dk_at dksX1_reason_0 12 rfl rfl)
theorem dX1_reason_15 : decode cX1_reason 15 = .ok (.iload_n 1, 1) := dk_27 (dk_at dksX1_reason_0 15 rfl rfl)
theorem dX1_reason_16 : decode cX1_reason 16 = .ok (.ifCond .eq 13, 3) := dk_153 0 13 (dk_at dksX1_reason_0 16 rfl rfl)
theorem dX1_reason_19 : decode cX1_reason 19 = .ok (.aload_n 0, 1) := dk_42 (dk_at dksX1_reason_0 19 rfl rfl)
theorem dX1_reason_20 : decode cX1_reason 20 = .ok (.getfield 160, 3) := dk_180 0 160 (dk_at dksX1_reason_0 20 rfl rfl)
theorem dX1_reason_23 : decode cX1_reason 23 = .ok (.getfield 428, 3) := dk_180 1 172 (dk_at dksX1_reason_1 0 rfl rfl)
theorem dX1_reason_26 : decode cX1_reason 26 = .ok (.goto 10, 3) := dk_167 0 10 (dk_at dksX1_reason_1 3 rfl rfl)
theorem dX1_reason_29 : decode cX1_reason 29 = .ok (.aload_n 0, 1) := dk_42 (dk_at dksX1_reason_1 6 rfl rfl)
theorem dX1_reason_30 : decode cX1_reason 30 = .ok (.getfield 160, 3) := dk_180 0 160 (dk_at dksX1_reason_1 7 rfl rfl)
theorem dX1_reason_33 : decode cX1_reason 33 = .ok (.getfield 431, 3) := dk_180 1 175 (dk_at dksX1_reason_1 10 rfl rfl)
theorem dX1_reason_36 : decode cX1_reason 36 = .ok (.ireturn, 1) := dk_172 (dk_at dksX1_reason_1 13 rfl rfl)
abbrev cX1_character : ByteArray := prog_1_method_52_code
def yX1_character : MethodName := ⟨RX1, "character", "(I)C"⟩
def dkwX1_character_1 : List UInt8 := [182, 1, 101, 172]
abbrev dktX1_character_1 : List UInt8 := dkwX1_character_1 ++ []
def dkwX1_character_0 : List UInt8 := [27, 3, 42, 180, 0, 144, 182, 1, 98, 4, 100, 184, 0, 3, 184, 1, 30, 42, 180, 0, 144, 27]
abbrev dktX1_character_0 : List UInt8 := dkwX1_character_0 ++ dktX1_character_1
theorem dksX1_character_0 : cX1_character.data.toList.drop 0 = dktX1_character_0 := by decide +kernel
theorem dksX1_character_1 : cX1_character.data.toList.drop 22 = dktX1_character_1 := dk_seg dksX1_character_0 22 rfl rfl
theorem dX1_character_0 : decode cX1_character 0 = .ok (.iload_n 1, 1) := dk_27 (dk_at dksX1_character_0 0 rfl rfl)
theorem dX1_character_1 : decode cX1_character 1 = .ok (.iconst 0, 1) := dk_3 (dk_at dksX1_character_0 1 rfl rfl)
theorem dX1_character_2 : decode cX1_character 2 = .ok (.aload_n 0, 1) := dk_42 (dk_at dksX1_character_0 2 rfl rfl)
theorem dX1_character_3 : decode cX1_character 3 = .ok (.getfield 144, 3) := dk_180 0 144 (dk_at dksX1_character_0 3 rfl rfl)
theorem dX1_character_6 : decode cX1_character 6 = .ok (.invokevirtual 354, 3) := dk_182 1 98 (dk_at dksX1_character_0 6 rfl rfl)
theorem dX1_character_9 : decode cX1_character 9 = .ok (.iconst 1, 1) := dk_4 (dk_at dksX1_character_0 9 rfl rfl)
theorem dX1_character_10 : decode cX1_character 10 = .ok (.isub, 1) := dk_100 (dk_at dksX1_character_0 10 rfl rfl)
theorem dX1_character_11 : decode cX1_character 11 = .ok (.invokestatic 3, 3) := dk_184 0 3 (dk_at dksX1_character_0 11 rfl rfl)
theorem dX1_character_14 : decode cX1_character 14 = .ok (.invokestatic 286, 3) := dk_184 1 30 (dk_at dksX1_character_0 14 rfl rfl)
theorem dX1_character_17 : decode cX1_character 17 = .ok (.aload_n 0, 1) := dk_42 (dk_at dksX1_character_0 17 rfl rfl)
theorem dX1_character_18 : decode cX1_character 18 = .ok (.getfield 144, 3) := dk_180 0 144 (dk_at dksX1_character_0 18 rfl rfl)
theorem dX1_character_21 : decode cX1_character 21 = .ok (.iload_n 1, 1) := dk_27 (dk_at dksX1_character_0 21 rfl rfl)
theorem dX1_character_22 : decode cX1_character 22 = .ok (.invokevirtual 357, 3) := dk_182 1 101 (dk_at dksX1_character_1 0 rfl rfl)
theorem dX1_character_25 : decode cX1_character 25 = .ok (.ireturn, 1) := dk_172 (dk_at dksX1_character_1 3 rfl rfl)
abbrev cX1_append : ByteArray := prog_1_method_56_code
def yX1_append : MethodName := ⟨RX1, "append", "(C)I"⟩
def dkwX1_append_2 : List UInt8 := [42, 180, 1, 126, 172]
abbrev dktX1_append_2 : List UInt8 := dkwX1_append_2 ++ []
def dkwX1_append_1 : List UInt8 := [3, 184, 1, 129, 42, 180, 0, 137, 42, 180, 1, 126, 27, 85, 42, 89, 180, 1, 126, 4, 96, 181, 1, 126]
abbrev dktX1_append_1 : List UInt8 := dkwX1_append_1 ++ dktX1_append_2
def dkwX1_append_0 : List UInt8 := [27, 16, 32, 16, 126, 184, 0, 3, 184, 0, 170, 42, 180, 1, 126, 16, 60, 162, 0, 7, 4, 167, 0, 4]
abbrev dktX1_append_0 : List UInt8 := dkwX1_append_0 ++ dktX1_append_1
theorem dksX1_append_0 : cX1_append.data.toList.drop 0 = dktX1_append_0 := by decide +kernel
theorem dksX1_append_1 : cX1_append.data.toList.drop 24 = dktX1_append_1 := dk_seg dksX1_append_0 24 rfl rfl
theorem dksX1_append_2 : cX1_append.data.toList.drop 48 = dktX1_append_2 := dk_seg dksX1_append_1 24 rfl rfl
theorem dX1_append_0 : decode cX1_append 0 = .ok (.iload_n 1, 1) := dk_27 (dk_at dksX1_append_0 0 rfl rfl)
theorem dX1_append_1 : decode cX1_append 1 = .ok (.bipush 32, 2) := dk_16 32 (dk_at dksX1_append_0 1 rfl rfl)
theorem dX1_append_3 : decode cX1_append 3 = .ok (.bipush 126, 2) := dk_16 126 (dk_at dksX1_append_0 3 rfl rfl)
theorem dX1_append_5 : decode cX1_append 5 = .ok (.invokestatic 3, 3) := dk_184 0 3 (dk_at dksX1_append_0 5 rfl rfl)
theorem dX1_append_8 : decode cX1_append 8 = .ok (.invokestatic 170, 3) := dk_184 0 170 (dk_at dksX1_append_0 8 rfl rfl)
theorem dX1_append_11 : decode cX1_append 11 = .ok (.aload_n 0, 1) := dk_42 (dk_at dksX1_append_0 11 rfl rfl)
theorem dX1_append_12 : decode cX1_append 12 = .ok (.getfield 382, 3) := dk_180 1 126 (dk_at dksX1_append_0 12 rfl rfl)
theorem dX1_append_15 : decode cX1_append 15 = .ok (.bipush 60, 2) := dk_16 60 (dk_at dksX1_append_0 15 rfl rfl)
theorem dX1_append_17 : decode cX1_append 17 = .ok (.if_icmp .ge 7, 3) := dk_162 0 7 (dk_at dksX1_append_0 17 rfl rfl)
theorem dX1_append_20 : decode cX1_append 20 = .ok (.iconst 1, 1) := dk_4 (dk_at dksX1_append_0 20 rfl rfl)
theorem dX1_append_21 : decode cX1_append 21 = .ok (.goto 4, 3) := dk_167 0 4 (dk_at dksX1_append_0 21 rfl rfl)
theorem dX1_append_24 : decode cX1_append 24 = .ok (.iconst 0, 1) := dk_3 (dk_at dksX1_append_1 0 rfl rfl)
theorem dX1_append_25 : decode cX1_append 25 = .ok (.invokestatic 385, 3) := dk_184 1 129 (dk_at dksX1_append_1 1 rfl rfl)
theorem dX1_append_28 : decode cX1_append 28 = .ok (.aload_n 0, 1) := dk_42 (dk_at dksX1_append_1 4 rfl rfl)
theorem dX1_append_29 : decode cX1_append 29 = .ok (.getfield 137, 3) := dk_180 0 137 (dk_at dksX1_append_1 5 rfl rfl)
theorem dX1_append_32 : decode cX1_append 32 = .ok (.aload_n 0, 1) := dk_42 (dk_at dksX1_append_1 8 rfl rfl)
theorem dX1_append_33 : decode cX1_append 33 = .ok (.getfield 382, 3) := dk_180 1 126 (dk_at dksX1_append_1 9 rfl rfl)
theorem dX1_append_36 : decode cX1_append 36 = .ok (.iload_n 1, 1) := dk_27 (dk_at dksX1_append_1 12 rfl rfl)
theorem dX1_append_37 : decode cX1_append 37 = .ok (.castore, 1) := dk_85 (dk_at dksX1_append_1 13 rfl rfl)
theorem dX1_append_38 : decode cX1_append 38 = .ok (.aload_n 0, 1) := dk_42 (dk_at dksX1_append_1 14 rfl rfl)
theorem dX1_append_39 : decode cX1_append 39 = .ok (.dup, 1) := dk_89 (dk_at dksX1_append_1 15 rfl rfl)
theorem dX1_append_40 : decode cX1_append 40 = .ok (.getfield 382, 3) := dk_180 1 126 (dk_at dksX1_append_1 16 rfl rfl)
theorem dX1_append_43 : decode cX1_append 43 = .ok (.iconst 1, 1) := dk_4 (dk_at dksX1_append_1 19 rfl rfl)
theorem dX1_append_44 : decode cX1_append 44 = .ok (.iadd, 1) := dk_96 (dk_at dksX1_append_1 20 rfl rfl)
theorem dX1_append_45 : decode cX1_append 45 = .ok (.putfield 382, 3) := dk_181 1 126 (dk_at dksX1_append_1 21 rfl rfl)
theorem dX1_append_48 : decode cX1_append 48 = .ok (.aload_n 0, 1) := dk_42 (dk_at dksX1_append_2 0 rfl rfl)
theorem dX1_append_49 : decode cX1_append 49 = .ok (.getfield 382, 3) := dk_180 1 126 (dk_at dksX1_append_2 1 rfl rfl)
theorem dX1_append_52 : decode cX1_append 52 = .ok (.ireturn, 1) := dk_172 (dk_at dksX1_append_2 4 rfl rfl)
theorem q1641 : (Jvm.Cond.methodLink "SpanRuler" (361 : Nat) ({ cls := "SpanRuler$Ruler", name := "cellsWith", desc := "(I)I" } : Jvm.MethodName)) ∈ lw_all := lw_g (lw_at lw_m7 141 rfl) rfl
theorem q1642 : (Jvm.Cond.constantDouble "SpanRuler" (364 : Nat) (4629700416936869888 : UInt64)) ∈ lw_all := lw_g (lw_at lw_m7 142 rfl) rfl
theorem q325 : (Jvm.Cond.fieldLink "SpanRuler" (421 : Nat) "SpanRuler" "badText" "LSpanRuler$BadText;") ∈ lw_all := lw_g (lw_at lw_m2 25 rfl) rfl
theorem q1377 : (Jvm.Cond.methodLink "SpanRuler" (286 : Nat) ({ cls := "SpanRuler", name := "checkElement", desc := "(Z)V" } : Jvm.MethodName)) ∈ lw_all := lw_g (lw_at lw_m6 117 rfl) rfl
theorem q1379 : (Jvm.Cond.code ({ cls := "SpanRuler", name := "checkElement", desc := "(Z)V" } : Jvm.MethodName) prog_1_method_8_code (1 : Nat) (Option.none : Option Jvm.ClassFile.FieldType)) ∈ lw_all := lw_g (lw_at lw_m6 119 rfl) rfl
theorem q1378 : (Jvm.Cond.static ({ cls := "SpanRuler", name := "checkElement", desc := "(Z)V" } : Jvm.MethodName)) ∈ lw_all := lw_g (lw_at lw_m6 118 rfl) rfl
theorem q2044 : (Jvm.Cond.fieldLinkNest "SpanRuler" (425 : Nat) "SpanRuler$BadText" "position" "I" "SpanRuler") ∈ lw_tbl := lw_at lw_m9 64 rfl
theorem q1086 : (Jvm.Cond.fieldLinkNest "SpanRuler" (431 : Nat) "SpanRuler$Refusal" "reason" "I" "SpanRuler") ∈ lw_tbl := lw_at lw_m5 66 rfl
theorem q1088 : (Jvm.Cond.fieldLinkNest "SpanRuler" (428 : Nat) "SpanRuler$Refusal" "detail" "I" "SpanRuler") ∈ lw_tbl := lw_at lw_m5 68 rfl
theorem q323 : (Jvm.Cond.fieldLink "SpanRuler" (144 : Nat) "SpanRuler" "line" "Ljava/lang/StringBuilder;") ∈ lw_all := lw_g (lw_at lw_m2 23 rfl) rfl
theorem q1606 : (Jvm.Cond.methodLink "SpanRuler" (354 : Nat) ({ cls := "java/lang/StringBuilder", name := "length", desc := "()I" } : Jvm.MethodName)) ∈ lw_all := lw_g (lw_at lw_m7 106 rfl) rfl
theorem q2741 : (Jvm.Cond.selects "java/lang/StringBuilder" ({ cls := "java/lang/StringBuilder", name := "length", desc := "()I" } : Jvm.MethodName) ({ cls := "java/lang/StringBuilder", name := "length", desc := "()I" } : Jvm.MethodName)) ∈ lw_all := lw_g (lw_at lw_m12 41 rfl) rfl
theorem q1614 : (Jvm.Cond.methodLink "SpanRuler" (357 : Nat) ({ cls := "java/lang/StringBuilder", name := "charAt", desc := "(I)C" } : Jvm.MethodName)) ∈ lw_all := lw_g (lw_at lw_m7 114 rfl) rfl
theorem q1617 : (Jvm.Cond.code ({ cls := "java/lang/StringBuilder", name := "charAt", desc := "(I)C" } : Jvm.MethodName) prog_40_method_88_code (2 : Nat) (Option.some Jvm.ClassFile.FieldType.char)) ∈ lw_all := lw_g (lw_at lw_m7 117 rfl) rfl
theorem q1615 : (Jvm.Cond.instanceMethod ({ cls := "java/lang/StringBuilder", name := "charAt", desc := "(I)C" } : Jvm.MethodName)) ∈ lw_all := lw_g (lw_at lw_m7 115 rfl) rfl
theorem q1616 : (Jvm.Cond.selects "java/lang/StringBuilder" ({ cls := "java/lang/StringBuilder", name := "charAt", desc := "(I)C" } : Jvm.MethodName) ({ cls := "java/lang/StringBuilder", name := "charAt", desc := "(I)C" } : Jvm.MethodName)) ∈ lw_all := lw_g (lw_at lw_m7 116 rfl) rfl
theorem q324 : (Jvm.Cond.fieldLink "SpanRuler" (382 : Nat) "SpanRuler" "typed" "I") ∈ lw_all := lw_g (lw_at lw_m2 24 rfl) rfl
theorem q1658 : (Jvm.Cond.methodLink "SpanRuler" (385 : Nat) ({ cls := "SpanRuler", name := "checkState", desc := "(Z)V" } : Jvm.MethodName)) ∈ lw_all := lw_g (lw_at lw_m7 158 rfl) rfl
theorem q1660 : (Jvm.Cond.code ({ cls := "SpanRuler", name := "checkState", desc := "(Z)V" } : Jvm.MethodName) prog_1_method_7_code (1 : Nat) (Option.none : Option Jvm.ClassFile.FieldType)) ∈ lw_all := lw_g (lw_at lw_m7 160 rfl) rfl
theorem q1659 : (Jvm.Cond.static ({ cls := "SpanRuler", name := "checkState", desc := "(Z)V" } : Jvm.MethodName)) ∈ lw_all := lw_g (lw_at lw_m7 159 rfl) rfl
theorem q322 : (Jvm.Cond.fieldLink "SpanRuler" (137 : Nat) "SpanRuler" "input" "[C") ∈ lw_all := lw_g (lw_at lw_m2 22 rfl) rfl
def SPV (G : GE) (x : Nat) (ex : Int32 → String) (v : Value) (s' : MS) : Out → AH → Prop := fun o h' => SRAt G h' x s' ∧ ((s'.I 20 = 0 ∧ o = .inl (some v)) ∨ (s'.I 20 ≠ 0 ∧ ∃ q, o = .inr (ex (s'.I 20), q)))
theorem SPV.ok {G : GE} {x : Nat} {ex : Int32 → String} {h : AH} {s : MS} {v : Value} (S : SRAt G h x s) : SPV G x ex v (mI s 20 0) (.inl (some v)) h := ⟨S.mi (by omega), Or.inl ⟨(show upd s.I 20 0 20 = 0 from upd_at), rfl⟩⟩
theorem SPV.no {G : GE} {x q : Nat} {ex : Int32 → String} {h : AH} {s : MS} {v : Value} {c : Int32} {E : String} {e : va_E} (S : SRAt G h x s) (f : h q = none) (hc : c ≠ 0) (he : ex c = E) : SPV G x ex v (mI s 20 c) (.inr (E, q)) (up h q e) :=
  ⟨(S.all (KeepAll.new f)).mi (by omega), Or.inr ⟨by show upd s.I 20 c 20 ≠ 0; rw [upd_at]; exact hc, q, by show _ = Sum.inr (ex (upd s.I 20 c 20), q); rw [upd_at, he]⟩⟩
theorem SRs.congr {G : GE} {own : Nat → Nat} {hr : AH} {s s' : MS} {ru : Nat} {sv : Value} {hf : Nat → Option Nat} (T : SRs G own hr s ru sv hf) (a0 : s'.A 0 = s.A 0) (a3 : s'.A 3 = s.A 3) (a5 : s'.A 5 = s.A 5) (i4 : s'.I 4 = s.I 4) (i6 : s'.I 6 = s.I 6) : SRs G own hr s' ru sv hf := by
  unfold SRs mU at *; rw [a0, a3, a5, i4, i6]; exact T
theorem SRl.congr {G : GE} {hr h : AH} {s s' : MS} {ln inp : Nat} (T : SRl G hr h s ln inp) (a7 : s'.A 7 = s.A 7) (i8 : s'.I 8 = s.I 8) : SRl G hr h s' ln inp := by
  unfold SRl mLi at *; rw [a7, i8]; exact T
theorem SRe.congr {hr h : AH} {s s' : MS} {bt rf : Value} (T : SRe hr h s bt rf) (i14 : s'.I 14 = s.I 14) (i15 : s'.I 15 = s.I 15) (i16 : s'.I 16 = s.I 16) : SRe hr h s' bt rf := by
  unfold SRe at *; rw [i14, i15, i16]; exact T
theorem SRi.congr {G : GE} {hr h : AH} {s s' : MS} {inp : Nat} (T : SRi G hr h s inp) (a9 : s'.A 9 = s.A 9) (i10 : s'.I 10 = s.I 10) : SRi G hr h s' inp := by
  unfold SRi mTo at *; rw [a9, i10]; exact T
/-- other cells of the heap change: what is told there stays -/
theorem AL.mv {G : GE} {h h' : AH} {a d cap n : Nat} {mc : Int32} {f : Nat → Option Nat} (x : AL G h a d cap n mc f) (o : ∀ q l, h q = some (ob 12 l) → h' q = some (ob 12 l)) (r : ∀ q n f, h q = some (aR G n f) → h' q = some (aR G n f)) : AL G h' a d cap n mc f := ⟨o _ _ x.1, x.2.1.imp id (fun z => ⟨z.1, r _ _ _ z.2⟩), x.2.2⟩
theorem SRl.mv {G : GE} {hr h h' : AH} {s : MS} {ln inp : Nat} (T : SRl G hr h s ln inp) (o : ∀ q l, h q = some (ob 14 l) → h' q = some (ob 14 l)) (r : ∀ q n f, q ≠ inp → h q = some (aB G n f) → h' q = some (aB G n f)) : SRl G hr h' s ln inp := by
  obtain ⟨l1, l2, b, c, m, f, l3, l3b, l4, l5, l6⟩ := T
  exact ⟨l1, l2, b, c, m, f, l3, l3b, ⟨o _ _ l4.1, r _ _ _ l3b l4.2.1, l4.2.2⟩, l5, l6⟩
theorem SRe.mv {hr h h' : AH} {s : MS} {bt rf : Value} (T : SRe hr h s bt rf) (o : ∀ q ci l, h q = some (ob ci l) → ci = 10 ∨ ci = 7 → h' q = some (ob ci l)) : SRe hr h' s bt rf := by
  obtain ⟨e1, e2⟩ := T
  refine ⟨e1.imp id ?_, e2.imp id ?_⟩
  · rintro ⟨b, u, v, b1, b2, b3, b4⟩; exact ⟨b, u, v, b1, b2, o _ _ _ b3 (by omega), b4⟩
  · rintro ⟨b, u, v, b1, b2, b3, b4⟩; exact ⟨b, u, v, b1, b2, o _ _ _ b3 (by omega), b4⟩
theorem SRi.mv {G : GE} {hr h h' : AH} {s : MS} {inp : Nat} (T : SRi G hr h s inp) (r : ∀ q n f, h q = some (aC G n f) → h' q = some (aC G n f)) : SRi G hr h' s inp := by
  obtain ⟨i1, i2, f, i3, i4⟩ := T
  exact ⟨i1, i2, f, r _ _ _ i3, i4⟩
theorem aR_aC {G : GE} {n m : Nat} {f : Nat → Option Nat} {g : Nat → Int32} (e : aR G n f = aC G m g) : False := by
  have := (Prod.mk.inj (Prod.mk.inj (Sum.inl.inj e)).2).2
  cases this
theorem ob_ne {h : AH} {x q ci cj : Nat} {l l2 : List Value} (a : h x = some (ob ci l)) (b : h q = some (ob cj l2)) (n : ci ≠ cj) : q ≠ x := fun e => by
  subst e; rw [a] at b; cases b; exact n rfl
theorem ob_na {h : AH} {x q ci : Nat} {l : List Value} {y : ClassId × vp_A} (a : h x = some (ob ci l)) (b : h q = some (.inl y)) : q ≠ x := fun e => by
  subst e; rw [a] at b; cases b
/-- one more character is typed -/
theorem SRx.typed {G : GE} {own : Nat → Nat} {hr h : AH} {x : Nat} {s : MS} {ru : Nat} {sv : Value} {hl hd hc : Nat} {hm : Int32} {hf : Nat → Option Nat} {inp ln : Nat} {bt rf : Value} (S : SRx G own hr h x s ru sv hl hd hc hm hf inp ln bt rf) {fi : Nat → Int32} (hi : h inp = some (aC G 60 fi)) (hfi : ∀ c, c < nn (s.I 10) → fi c = s.A 9 c) (ht : nn (s.I 10) < 60) (c : Int32) :
    SRAt G (up (up h inp (aC G 60 (upd fi (nn (s.I 10)) c))) x (ob 0 [.ref ru, sv, .ref hl, .ref inp, .ref ln, .int (nI (nn (s.I 10) + 1)), bt, rf])) x (mA (mI (mI s 20 0) 10 (nI (nn (s.I 10) + 1))) 9 (nn (s.I 10)) c) := by
  obtain ⟨s1, s2, s3, s4, s5, s6, s7, s8, s9, s10, s11, s12⟩ := S
  have n10 : nn (nI (nn (s.I 10) + 1)) = nn (s.I 10) + 1 := nn_nI (by omega)
  have mo : ∀ q ci l, h q = some (ob ci l) → ci ≠ 0 → (up (up h inp (aC G 60 (upd fi (nn (s.I 10)) c))) x (ob 0 [.ref ru, sv, .ref hl, .ref inp, .ref ln, .int (nI (nn (s.I 10) + 1)), bt, rf])) q = some (ob ci l) := fun q ci l w n => by
    rw [up_ne (ob_ne s3 w (Ne.symm n)), up_ne (fun e => by rw [e, hi] at w; cases w)]; exact w
  have mr : ∀ q y, h q = some (.inl y) → q ≠ inp → (up (up h inp (aC G 60 (upd fi (nn (s.I 10)) c))) x (ob 0 [.ref ru, sv, .ref hl, .ref inp, .ref ln, .int (nI (nn (s.I 10) + 1)), bt, rf])) q = some (.inl y) := fun q y w n => by
    rw [up_ne (ob_na s3 w), up_ne n]; exact w
  refine ⟨own, hr, ru, sv, hl, hd, hc, hm, hf, inp, ln, bt, rf, (s1.put s10.1).put s2, s2, ?_, s4, s5, ?_, s7, ?_, s9.congr rfl rfl rfl rfl rfl, ?_, (s11.mv (fun q l w => mo q 14 l w (by decide)) (fun q n f z w => mr q _ w z)).congr rfl rfl, (s12.mv (fun q ci l w z => mo q ci l w (by omega))).congr rfl rfl rfl⟩
  · rw [up_self]; rfl
  · exact s6.mv (fun q l w => mo q 12 l w (by decide)) (fun q n f w => mr q _ w (fun e => by rw [e, hi] at w; exact aR_aC (Option.some.inj w).symm))
  · exact s8
  · refine ⟨s10.1, ⟨congrArg nI n10.symm, by show nn (nI (nn (s.I 10) + 1)) ≤ 60; rw [n10]; omega⟩, upd fi (nn (s.I 10)) c, ?_, fun d hd => ?_⟩
    · rw [up_ne (ob_na s3 hi), up_self]
    · have hd2 : d < nn (nI (nn (s.I 10) + 1)) := hd
      rw [n10] at hd2
      show upd fi (nn (s.I 10)) c d = upd (s.A 9) (nn (s.I 10)) c d
      by_cases e : d = nn (s.I 10)
      · rw [e, upd_at, upd_at]
      · rw [upd_ne e, upd_ne e]; exact hfi d (by omega)
theorem chr_of {c : Int32} (h : inR c 32 126 = true) : ∃ k, k < 65536 ∧ c = nI k := by
  obtain ⟨a1, a2⟩ := inR_i.mp h
  obtain ⟨i, hi, e⟩ := nI_of2 (M := 126) (n := 126) rfl (Int32.not_lt.mpr (Int32.le_trans (by decide) a1)) a2
  exact ⟨i, by omega, e⟩
theorem inR_lt {c : Int32} {n : Nat} (h : inR c 0 (nI n - 1) = true) (hn : n < 2 ^ 31) : ∃ i, c = nI i ∧ i < n := by
  obtain ⟨a1, a2⟩ := inR_i.mp h
  cases n with
  | zero => exact absurd (Int32.le_trans a1 a2) (by decide)
  | succ m =>
    rw [nI_pred] at a2
    obtain ⟨i, hi, e⟩ := nI_of2 (M := nI m) (n := m) (nI_toInt (by omega)) (Int32.not_lt.mpr a1) a2
    exact ⟨i, e, by omega⟩
theorem s_mean (l : Launch) (G : GE) (h : AH) (x : Nat) (s : MS) (S0 : SRAt G h x s) (a : Int32) (b : Int32) : GM l G yX1_mean (ws_ yX1_mean cX1_mean 3 (some .float)) 15 [.ref x, .int a, .int b] (h) (100) (SPV G x (ex1 IAE) (.float (mMean s a b).1) ((mMean s a b).2)) := by
  refine GM.of (by decide) (dk rfl) ?_
  intro X eL eG eh ok fn
  subst eL; subst eG
  show GW X _ 0 0 [some (.ref x), some (.int a), some (.int b)] []
  obtain ⟨own, hr, ru, sv, hl, hd, hc, hm, hf, inp, ln, bt, rf, S⟩ := S0
  obtain ⟨rt, cl, nl, nd, nc, nm, nf, vl, vd, vc, vm, vf, y⟩ := S.2.2.2.2.2.2.2.2.1.1.1
  rcases Bool.eq_false_or_eq_true (isSp a b) with hs | hs
  · obtain ⟨i, j, ea, eb, hij, hj⟩ : ∃ i j, a = nI i ∧ b = nI j ∧ i ≤ j ∧ j < 32 := ⟨_, _, isSp_n hs⟩
    subst ea; subst eb
    refine g_iload_n ok dX1_mean_0 rfl ?_
    refine g_iload_n ok dX1_mean_1 rfl ?_
    refine g_callS ok q1172 q1173 q61 q1174 dX1_mean_2 (x_chkP1 X.l X.G _ (nI i) (nI j) hs) (nm_ (by decide : nmb _ 2 = true)) (dl rfl) (dk rfl) rfl rfl (dk rfl) (by omega) (kN ?_) xN
    refine g_aload_n ok dX1_mean_5 rfl ?_
    refine g_get ok ck_X1 0 q319 (Or.inl rfl) (by decide) dX1_mean_6 (Rd.h (S.2.2.1)) rfl ?_
    refine g_iload_n ok dX1_mean_9 rfl ?_
    refine g_iload_n ok dX1_mean_10 rfl ?_
    refine g_callV ok q912 q913 q914 q62 q915 (Recv.ob ok gc_X2 (Rd.h (S.1 _ _ y.1.1))) dX1_mean_11 (GM.fr S.1 (x_sum X.l X.G hr (fun q => own q = ru) ru (s.A 0) rt cl nl vl _ _ _ _ _ _ y.1 i j (by omega) (by omega))) (nm_ (by decide : nmb _ 2 = true)) (dl rfl) (dk rfl) rfl rfl (dk rfl) (by omega) (kFR fun v1_ hr1_ h1_ ⟨e1_, q1_, g1_⟩ f1_ => ?_) xFR
    subst e1_
    obtain ⟨S1_, y1_⟩ := SRx.ask S y q1_ g1_ f1_
    refine g_i2f ok dX1_mean_14 ?_
    refine g_iload_n ok dX1_mean_15 rfl ?_
    refine g_iload_n ok dX1_mean_16 rfl ?_
    refine g_isub ok dX1_mean_17 ?_
    refine g_iconst ok (v := 1) dX1_mean_18 rfl ?_
    refine g_iadd ok dX1_mean_19 ?_
    rw [show (((nI j) - (nI i)) + 1) = nI (j + 1 - i) by rw [pk_sub (by omega), nI_1]; congr 1; omega]
    refine g_i2f ok dX1_mean_20 ?_
    refine g_fdiv ok dX1_mean_21 (mean_n _ (by omega) (by omega)) ?_
    have pf : SPV X.G x (ex1 IAE) (.float (mMean s (nI i) (nI j)).1) (mMean s (nI i) (nI j)).2 (.inl (some (.float (FP.fdiv (FP.i2f (sm (s.A 0) (j + 1 - i) i 0)) (FP.i2f (nI (j + 1 - i))))))) h1_ := by
      unfold mMean; rw [if_pos hs]; unfold mSum sp; simp only [nn_nI (by omega : i < 2 ^ 31), nn_nI (by omega : j < 2 ^ 31)]; exact SPV.ok S1_.at
    exact g_fret ok fn rfl dX1_mean_22 pf (by omega)
  · refine g_iload_n ok dX1_mean_0 rfl ?_
    refine g_iload_n ok dX1_mean_1 rfl ?_
    refine g_callS ok q1172 q1173 q61 q1174 dX1_mean_2 (x_chkP0 X.l X.G _ a b hs) (nm_ (by decide : nmb _ 2 = true)) (dl rfl) (dk rfl) rfl rfl (dk rfl) (by omega) kT (xT fun qx fx kx => ?_)
    have pf : SPV X.G x (ex1 IAE) (.float (mMean s a b).1) ((mMean s a b).2) (.inr (IAE, qx)) (up h qx (ob 18 [])) := by
      unfold mMean; rw [if_neg (by rw [hs]; decide)]; exact SPV.no (S.at.mi (k := 20) (v := 0) (by omega)) fx (by decide) rfl
    exact g_out ok fn (fun z hz => nomatch hz) pf (by omega)
theorem s_share (l : Launch) (G : GE) (h : AH) (x : Nat) (s : MS) (S0 : SRAt G h x s) (c : Int32) : GM l G yX1_share (ws_ yX1_share cX1_share 2 (some .double)) 15 [.ref x, .int c] (h) (6) (SPV G x (ex1 IAE) (.double (mShare s c).1) ((mShare s c).2)) := by
  refine GM.of (by decide) (dk rfl) ?_
  intro X eL eG eh ok fn
  subst eL; subst eG
  show GW X _ 0 0 [some (.ref x), some (.int c)] []
  obtain ⟨own, hr, ru, sv, hl, hd, hc, hm, hf, inp, ln, bt, rf, S⟩ := S0
  obtain ⟨rt, cl, nl, nd, nc, nm, nf, vl, vd, vc, vm, vf, y⟩ := S.2.2.2.2.2.2.2.2.1.1.1
  rcases Bool.eq_false_or_eq_true (isCo c) with hs | hs
  · refine g_iload_n ok dX1_share_0 rfl ?_
    refine g_callS ok q1188 q1189 q61 q1190 dX1_share_1 (x_isColour X.l X.G _ c) (nm_ (by decide : nmb _ 1 = true)) (dl rfl) (dk rfl) rfl rfl (dk rfl) (by omega) (kV ?_) xV
    rw [hs]
    refine g_callS ok q1019 q1020 q61 q1021 dX1_share_4 (x_chkA1 X.l X.G _) (nm_ (by decide : nmb _ 1 = true)) (dl rfl) (dk rfl) rfl rfl (dk rfl) (by omega) (kN ?_) xN
    refine g_aload_n ok dX1_share_7 rfl ?_
    refine g_get ok ck_X1 0 q319 (Or.inl rfl) (by decide) dX1_share_8 (Rd.h (S.2.2.1)) rfl ?_
    refine g_iload_n ok dX1_share_11 rfl ?_
    refine g_callV ok q1641 q1456 q1457 q62 q1458 (Recv.ob ok gc_X2 (Rd.h (S.1 _ _ y.1.1))) dX1_share_12 (GM.fr S.1 (x_cellsWith X.l X.G hr (fun q => own q = ru) ru (s.A 0) rt cl nl vl _ _ _ _ _ _ y.1 c)) (nm_ (by decide : nmb _ 1 = true)) (dl rfl) (dk rfl) rfl rfl (dk rfl) (by omega) (kFR fun v1_ hr1_ h1_ ⟨e1_, q1_, g1_⟩ f1_ => ?_) xFR
    subst e1_
    obtain ⟨S1_, y1_⟩ := SRx.ask S y q1_ g1_ f1_
    refine g_i2d ok dX1_share_15 ?_
    refine g_ldc2d ok (v := c32) q1642 dX1_share_16 ?_
    refine g_ddiv ok dX1_share_19 (share_n _) ?_
    have pf : SPV X.G x (ex1 IAE) (.double (mShare s c).1) (mShare s c).2 (.inl (some (.double (FP.ddiv (FP.i2d (mal (s.A 0) c 32 0 0)) c32)))) h1_ := by
      unfold mShare; rw [if_pos hs]; exact SPV.ok S1_.at
    exact g_dret ok fn rfl dX1_share_20 pf (by omega)
  · refine g_iload_n ok dX1_share_0 rfl ?_
    refine g_callS ok q1188 q1189 q61 q1190 dX1_share_1 (x_isColour X.l X.G _ c) (nm_ (by decide : nmb _ 1 = true)) (dl rfl) (dk rfl) rfl rfl (dk rfl) (by omega) (kV ?_) xV
    rw [hs]
    refine g_callS ok q1019 q1020 q61 q1021 dX1_share_4 (x_chkA0 X.l X.G _) (nm_ (by decide : nmb _ 1 = true)) (dl rfl) (dk rfl) rfl rfl (dk rfl) (by omega) kT (xT fun qx fx kx => ?_)
    have pf : SPV X.G x (ex1 IAE) (.double (mShare s c).1) ((mShare s c).2) (.inr (IAE, qx)) (up h qx (ob 18 [])) := by
      unfold mShare; rw [if_neg (by rw [hs]; decide)]; exact SPV.no (S.at.mi (k := 20) (v := 0) (by omega)) fx (by decide) rfl
    exact g_out ok fn (fun z hz => nomatch hz) pf (by omega)
theorem s_err (l : Launch) (G : GE) (h : AH) (x : Nat) (s : MS) (S0 : SRAt G h x s) : GM l G yX1_errorPosition (ws_ yX1_errorPosition cX1_errorPosition 1 (some .int)) 15 [.ref x] (h) (6) (SPost G x (ex1 NSEE) (mErr s)) := by
  refine GM.of (by decide) (dk rfl) ?_
  intro X eL eG eh ok fn
  subst eL; subst eG
  show GW X _ 0 0 [some (.ref x)] []
  obtain ⟨own, hr, ru, sv, hl, hd, hc, hm, hf, inp, ln, bt, rf, S⟩ := S0
  obtain ⟨rt, cl, nl, nd, nc, nm, nf, vl, vd, vc, vm, vf, y⟩ := S.2.2.2.2.2.2.2.2.1.1.1
  rcases S.2.2.2.2.2.2.2.2.2.2.2.1 with ⟨e, n⟩ | ⟨b, u, v, e, b1, b2, n⟩
  · subst e
    refine g_aload_n ok dX1_errorPosition_0 rfl ?_
    refine g_get ok ck_X1 6 q325 (Or.inl rfl) (by decide) dX1_errorPosition_1 (Rd.h (S.2.2.1)) rfl ?_
    refine g_ifnullN ok (tgt := 11) dX1_errorPosition_4 (by decide) ?_
    refine g_iconst ok (v := 0) dX1_errorPosition_11 rfl ?_
    refine g_callS ok q1377 q1378 q61 q1379 dX1_errorPosition_12 (x_chkE0 X.l X.G _) (nm_ (by decide : nmb _ 1 = true)) (dl rfl) (dk rfl) rfl rfl (dk rfl) (by omega) kT (xT fun qx fx kx => ?_)
    have pf : SPost X.G x (ex1 NSEE) (mErr s) (.inr (NSEE, qx)) (up h qx (ob 21 [])) := by
      unfold mErr; rw [if_pos n]; exact SPost.no (S.at.mi (k := 20) (v := 0) (by omega)) fx (by decide) rfl
    exact g_out ok fn (fun z hz => nomatch hz) pf (by omega)
  · subst e
    refine g_aload_n ok dX1_errorPosition_0 rfl ?_
    refine g_get ok ck_X1 6 q325 (Or.inl rfl) (by decide) dX1_errorPosition_1 (Rd.h (S.2.2.1)) rfl ?_
    refine g_ifnull ok dX1_errorPosition_4 ?_
    refine g_iconst ok (v := 1) dX1_errorPosition_7 rfl ?_
    refine g_goto ok dX1_errorPosition_8 (tgt := 12) (by decide) ?_
    refine g_callS ok q1377 q1378 q61 q1379 dX1_errorPosition_12 (x_chkE1 X.l X.G _) (nm_ (by decide : nmb _ 1 = true)) (dl rfl) (dk rfl) rfl rfl (dk rfl) (by omega) (kN ?_) xN
    refine g_aload_n ok dX1_errorPosition_15 rfl ?_
    refine g_get ok ck_X1 6 q325 (Or.inl rfl) (by decide) dX1_errorPosition_16 (Rd.h (S.2.2.1)) rfl ?_
    refine g_getN ok ck_X14 6 q2044 rfl (by decide) dX1_errorPosition_19 (Rd.h b2) rfl ?_
    have pf : SPost X.G x (ex1 NSEE) (mErr s) (.inl (some (.int (s.I 14)))) h := by
      unfold mErr; rw [if_neg n]; exact SPost.ok S.at
    exact g_iret ok fn rfl dX1_errorPosition_22 pf (by omega)
theorem s_reason (l : Launch) (G : GE) (h : AH) (x : Nat) (s : MS) (S0 : SRAt G h x s) (z : Int32) : GM l G yX1_reason (ws_ yX1_reason cX1_reason 2 (some .int)) 15 [.ref x, .int z] (h) (6) (SPost G x (ex1 NSEE) (mReason s z)) := by
  refine GM.of (by decide) (dk rfl) ?_
  intro X eL eG eh ok fn
  subst eL; subst eG
  show GW X _ 0 0 [some (.ref x), some (.int z)] []
  obtain ⟨own, hr, ru, sv, hl, hd, hc, hm, hf, inp, ln, bt, rf, S⟩ := S0
  obtain ⟨rt, cl, nl, nd, nc, nm, nf, vl, vd, vc, vm, vf, y⟩ := S.2.2.2.2.2.2.2.2.1.1.1
  rcases S.2.2.2.2.2.2.2.2.2.2.2.2 with ⟨e, n⟩ | ⟨b, u, v, e, b1, b2, n⟩
  · subst e
    refine g_aload_n ok dX1_reason_0 rfl ?_
    refine g_get ok ck_X1 7 q326 (Or.inl rfl) (by decide) dX1_reason_1 (Rd.h (S.2.2.1)) rfl ?_
    refine g_ifnullN ok (tgt := 11) dX1_reason_4 (by decide) ?_
    refine g_iconst ok (v := 0) dX1_reason_11 rfl ?_
    refine g_callS ok q1377 q1378 q61 q1379 dX1_reason_12 (x_chkE0 X.l X.G _) (nm_ (by decide : nmb _ 1 = true)) (dl rfl) (dk rfl) rfl rfl (dk rfl) (by omega) kT (xT fun qx fx kx => ?_)
    have pf : SPost X.G x (ex1 NSEE) (mReason s z) (.inr (NSEE, qx)) (up h qx (ob 21 [])) := by
      unfold mReason; rw [if_pos n]; exact SPost.no (S.at.mi (k := 20) (v := 0) (by omega)) fx (by decide) rfl
    exact g_out ok fn (fun z hz => nomatch hz) pf (by omega)
  · subst e
    refine g_aload_n ok dX1_reason_0 rfl ?_
    refine g_get ok ck_X1 7 q326 (Or.inl rfl) (by decide) dX1_reason_1 (Rd.h (S.2.2.1)) rfl ?_
    refine g_ifnull ok dX1_reason_4 ?_
    refine g_iconst ok (v := 1) dX1_reason_7 rfl ?_
    refine g_goto ok dX1_reason_8 (tgt := 12) (by decide) ?_
    refine g_callS ok q1377 q1378 q61 q1379 dX1_reason_12 (x_chkE1 X.l X.G _) (nm_ (by decide : nmb _ 1 = true)) (dl rfl) (dk rfl) rfl rfl (dk rfl) (by omega) (kN ?_) xN
    refine g_iload_n ok dX1_reason_15 rfl ?_
    refine g_if_eq ok (tgt := 29) dX1_reason_16 (by decide) (fun c16 => ?_) (fun c16 => ?_)
    · refine g_aload_n ok dX1_reason_29 rfl ?_
      refine g_get ok ck_X1 7 q326 (Or.inl rfl) (by decide) dX1_reason_30 (Rd.h (S.2.2.1)) rfl ?_
      refine g_getN ok ck_X11 6 q1086 rfl (by decide) dX1_reason_33 (Rd.h b2) rfl ?_
      have pf : SPost X.G x (ex1 NSEE) (mReason s z) (.inl (some (.int (s.I 15)))) h := by
        unfold mReason; rw [if_neg n]; first | rw [if_pos (by assumption)]; exact SPost.ok S.at | rw [if_neg (by assumption)]; exact SPost.ok S.at
      exact g_iret ok fn rfl dX1_reason_36 pf (by omega)
    · refine g_aload_n ok dX1_reason_19 rfl ?_
      refine g_get ok ck_X1 7 q326 (Or.inl rfl) (by decide) dX1_reason_20 (Rd.h (S.2.2.1)) rfl ?_
      refine g_getN ok ck_X11 7 q1088 rfl (by decide) dX1_reason_23 (Rd.h b2) rfl ?_
      refine g_goto ok dX1_reason_26 (tgt := 36) (by decide) ?_
      have pf : SPost X.G x (ex1 NSEE) (mReason s z) (.inl (some (.int (s.I 16)))) h := by
        unfold mReason; rw [if_neg n]; first | rw [if_pos (by assumption)]; exact SPost.ok S.at | rw [if_neg (by assumption)]; exact SPost.ok S.at
      exact g_iret ok fn rfl dX1_reason_36 pf (by omega)
theorem s_char (l : Launch) (G : GE) (h : AH) (x : Nat) (s : MS) (S0 : SRAt G h x s) (c : Int32) : GM l G yX1_character (ws_ yX1_character cX1_character 2 (some .char)) 15 [.ref x, .int c] (h) (6) (SPost G x (ex1 NSEE) (mChar s c)) := by
  refine GM.of (by decide) (dk rfl) ?_
  intro X eL eG eh ok fn
  subst eL; subst eG
  show GW X _ 0 0 [some (.ref x), some (.int c)] []
  obtain ⟨own, hr, ru, sv, hl, hd, hc, hm, hf, inp, ln, bt, rf, S⟩ := S0
  obtain ⟨rt, cl, nl, nd, nc, nm, nf, vl, vd, vc, vm, vf, y⟩ := S.2.2.2.2.2.2.2.2.1.1.1
  obtain ⟨l1, l2, lb, lc, lm, lf, l3, l3b, l4, l5, l6⟩ := S.2.2.2.2.2.2.2.2.2.2.1
  have l22 := l2.2.1
  rcases Bool.eq_false_or_eq_true (inR c 0 (nI (nn (s.I 8)) - 1)) with hs | hs
  · obtain ⟨i, ei, hi⟩ : ∃ i, c = nI i ∧ i < nn (s.I 8) := inR_lt hs (by have := l2.2.1; omega)
    subst ei
    refine g_iload_n ok dX1_character_0 rfl ?_
    refine g_iconst ok (v := 0) dX1_character_1 rfl ?_
    refine g_aload_n ok dX1_character_2 rfl ?_
    refine g_get ok ck_X1 4 q323 (Or.inl rfl) (by decide) dX1_character_3 (Rd.h (S.2.2.1)) rfl ?_
    refine g_callV ok q1606 q728 q2741 q72 q729 (Recv.ob ok gc_J4 (Rd.h l4.1)) dX1_character_6 (sb_length X.l X.G _ ln lb lc (nn (s.I 8)) lm lf l4) (nm_ (by decide : nmb _ 0 = true)) (dl rfl) (dk rfl) rfl rfl (dk rfl) (by omega) (kV ?_) xV
    refine g_iconst ok (v := 1) dX1_character_9 rfl ?_
    refine g_isub ok dX1_character_10 ?_
    refine g_callS ok q1001 q1002 q61 q1003 dX1_character_11 (x_isIn X.l X.G _ (nI i) 0 ((nI (nn (s.I 8))) - 1)) (nm_ (by decide : nmb _ 3 = true)) (dl rfl) (dk rfl) rfl rfl (dk rfl) (by omega) (kV ?_) xV
    rw [hs]
    refine g_callS ok q1377 q1378 q61 q1379 dX1_character_14 (x_chkE1 X.l X.G _) (nm_ (by decide : nmb _ 1 = true)) (dl rfl) (dk rfl) rfl rfl (dk rfl) (by omega) (kN ?_) xN
    refine g_aload_n ok dX1_character_17 rfl ?_
    refine g_get ok ck_X1 4 q323 (Or.inl rfl) (by decide) dX1_character_18 (Rd.h (S.2.2.1)) rfl ?_
    refine g_iload_n ok dX1_character_21 rfl ?_
    refine g_callV ok q1614 q1615 q1616 q72 q1617 (Recv.ob ok gc_J4 (Rd.h l4.1)) dX1_character_22 (sb_charAt X.l X.G _ ln lb lc (nn (s.I 8)) lm lf l4 i (by omega)) (nm_ (by decide : nmb _ 1 = true)) (dl rfl) (dk rfl) rfl rfl (dk rfl) (by omega) (kV ?_) xV
    have pf : SPost X.G x (ex1 NSEE) (mChar s (nI i)) (.inl (some (.int (lf i)))) h := by
      unfold mChar mIsL; rw [l2.1, if_pos hs, l6 i hi, nn_nI (by omega)]; exact SPost.ok S.at
    exact g_zret ok fn rfl (by obtain ⟨q, q1, q2⟩ := l2.2.2 i hi; rw [l6 i hi, q2]; exact (pk_charN q1).1) dX1_character_25 pf (by omega)
  · refine g_iload_n ok dX1_character_0 rfl ?_
    refine g_iconst ok (v := 0) dX1_character_1 rfl ?_
    refine g_aload_n ok dX1_character_2 rfl ?_
    refine g_get ok ck_X1 4 q323 (Or.inl rfl) (by decide) dX1_character_3 (Rd.h (S.2.2.1)) rfl ?_
    refine g_callV ok q1606 q728 q2741 q72 q729 (Recv.ob ok gc_J4 (Rd.h l4.1)) dX1_character_6 (sb_length X.l X.G _ ln lb lc (nn (s.I 8)) lm lf l4) (nm_ (by decide : nmb _ 0 = true)) (dl rfl) (dk rfl) rfl rfl (dk rfl) (by omega) (kV ?_) xV
    refine g_iconst ok (v := 1) dX1_character_9 rfl ?_
    refine g_isub ok dX1_character_10 ?_
    refine g_callS ok q1001 q1002 q61 q1003 dX1_character_11 (x_isIn X.l X.G _ c 0 ((nI (nn (s.I 8))) - 1)) (nm_ (by decide : nmb _ 3 = true)) (dl rfl) (dk rfl) rfl rfl (dk rfl) (by omega) (kV ?_) xV
    rw [hs]
    refine g_callS ok q1377 q1378 q61 q1379 dX1_character_14 (x_chkE0 X.l X.G _) (nm_ (by decide : nmb _ 1 = true)) (dl rfl) (dk rfl) rfl rfl (dk rfl) (by omega) kT (xT fun qx fx kx => ?_)
    have pf : SPost X.G x (ex1 NSEE) (mChar s c) (.inr (NSEE, qx)) (up h qx (ob 21 [])) := by
      unfold mChar mIsL; rw [l2.1, if_neg (by rw [hs]; decide)]; exact SPost.no S.at fx (by decide) rfl
    exact g_out ok fn (fun z hz => nomatch hz) pf (by omega)
theorem s_append (l : Launch) (G : GE) (h : AH) (x : Nat) (s : MS) (S0 : SRAt G h x s) (c : Int32) : GM l G yX1_append (ws_ yX1_append cX1_append 2 (some .int)) 15 [.ref x, .int c] (h) (6) (SPost G x (ex2 IAE ISE) (mAppend s c)) := by
  refine GM.of (by decide) (dk rfl) ?_
  intro X eL eG eh ok fn
  subst eL; subst eG
  show GW X _ 0 0 [some (.ref x), some (.int c)] []
  obtain ⟨own, hr, ru, sv, hl, hd, hc, hm, hf, inp, ln, bt, rf, S⟩ := S0
  obtain ⟨rt, cl, nl, nd, nc, nm, nf, vl, vd, vc, vm, vf, y⟩ := S.2.2.2.2.2.2.2.2.1.1.1
  obtain ⟨i1, i2, fi, i3, i4⟩ := S.2.2.2.2.2.2.2.2.2.1
  rcases Bool.eq_false_or_eq_true (inR c 32 126) with hs | hs
  · by_cases t60 : nn (s.I 10) = 60
    · have ty : s.I 10 = nI 60 := by rw [i2.1, t60]
      refine g_iload_n ok dX1_append_0 rfl ?_
      refine g_bipush ok (v := 32) dX1_append_1 rfl ?_
      refine g_bipush ok (v := 126) dX1_append_3 rfl ?_
      refine g_callS ok q1001 q1002 q61 q1003 dX1_append_5 (x_isIn X.l X.G _ c 32 126) (nm_ (by decide : nmb _ 3 = true)) (dl rfl) (dk rfl) rfl rfl (dk rfl) (by omega) (kV ?_) xV
      rw [hs]
      refine g_callS ok q1019 q1020 q61 q1021 dX1_append_8 (x_chkA1 X.l X.G _) (nm_ (by decide : nmb _ 1 = true)) (dl rfl) (dk rfl) rfl rfl (dk rfl) (by omega) (kN ?_) xN
      refine g_aload_n ok dX1_append_11 rfl ?_
      refine g_get ok ck_X1 5 q324 (Or.inl rfl) (by decide) dX1_append_12 (Rd.h (S.2.2.1)) rfl ?_
      refine g_bipush ok (v := 60) dX1_append_15 rfl ?_
      rw [ty]
      refine g_icmp_ge ok (tgt := 24) dX1_append_17 (by decide) (fun _ => ?_) (fun c_ => absurd (Int32.not_le.mp c_) (by decide))
      refine g_iconst ok (v := 0) dX1_append_24 rfl ?_
      refine g_callS ok q1658 q1659 q61 q1660 dX1_append_25 (x_chkS0 X.l X.G _) (nm_ (by decide : nmb _ 1 = true)) (dl rfl) (dk rfl) rfl rfl (dk rfl) (by omega) kT (xT fun qx fx kx => ?_)
      have pf : SPost X.G x (ex2 IAE ISE) (mAppend s c) (.inr (ISE, qx)) (up h qx (ob 20 [])) := by
        unfold mAppend; rw [if_pos hs, if_pos t60]; exact SPost.no (S.at.mi (k := 20) (v := 0) (by omega)) fx (by decide) rfl
      exact g_out ok fn (fun z hz => nomatch hz) pf (by omega)
    · have t6 : nn (s.I 10) < 60 := by have := i2.2; omega
      refine g_iload_n ok dX1_append_0 rfl ?_
      refine g_bipush ok (v := 32) dX1_append_1 rfl ?_
      refine g_bipush ok (v := 126) dX1_append_3 rfl ?_
      refine g_callS ok q1001 q1002 q61 q1003 dX1_append_5 (x_isIn X.l X.G _ c 32 126) (nm_ (by decide : nmb _ 3 = true)) (dl rfl) (dk rfl) rfl rfl (dk rfl) (by omega) (kV ?_) xV
      rw [hs]
      refine g_callS ok q1019 q1020 q61 q1021 dX1_append_8 (x_chkA1 X.l X.G _) (nm_ (by decide : nmb _ 1 = true)) (dl rfl) (dk rfl) rfl rfl (dk rfl) (by omega) (kN ?_) xN
      refine g_aload_n ok dX1_append_11 rfl ?_
      refine g_get ok ck_X1 5 q324 (Or.inl rfl) (by decide) dX1_append_12 (Rd.h (S.2.2.1)) rfl ?_
      refine g_bipush ok (v := 60) dX1_append_15 rfl ?_
      have tl : s.I 10 < 60 := by rw [i2.1]; exact (nI_lt (b := 60) t6 (by decide) : nI (nn (s.I 10)) < nI 60)
      refine g_icmp_ge ok (tgt := 24) dX1_append_17 (by decide) (fun c_ => absurd c_ (Int32.not_le.mpr tl)) (fun _ => ?_)
      refine g_iconst ok (v := 1) dX1_append_20 rfl ?_
      refine g_goto ok dX1_append_21 (tgt := 25) (by decide) ?_
      refine g_callS ok q1658 q1659 q61 q1660 dX1_append_25 (x_chkS1 X.l X.G _) (nm_ (by decide : nmb _ 1 = true)) (dl rfl) (dk rfl) rfl rfl (dk rfl) (by omega) (kN ?_) xN
      refine g_aload_n ok dX1_append_28 rfl ?_
      refine g_get ok ck_X1 3 q322 (Or.inl rfl) (by decide) dX1_append_29 (Rd.h (S.2.2.1)) rfl ?_
      refine g_aload_n ok dX1_append_32 rfl ?_
      refine g_get ok ck_X1 5 q324 (Or.inl rfl) (by decide) dX1_append_33 (Rd.h (S.2.2.1)) rfl ?_
      refine g_iload_n ok dX1_append_36 rfl ?_
      have ch : ∃ k, k < 65536 ∧ c = nI k := chr_of hs
      obtain ⟨ck, ck1, ck2⟩ := ch
      refine g_cast ok (j := nn (s.I 10)) dX1_append_37 (i3) i2.1 t6 (by decide) (by rw [ck2]; exact (pk_charN ck1).1) (?_)
      have nix : inp ≠ x := ob_na S.2.2.1 i3
      refine g_aload_n ok dX1_append_38 rfl ?_
      refine g_dup ok dX1_append_39 rfl ?_
      refine g_get ok ck_X1 5 q324 (Or.inl rfl) (by decide) dX1_append_40 (Rd.h ((up_ne (Ne.symm nix)).trans S.2.2.1)) rfl ?_
      refine g_iconst ok (v := 1) dX1_append_43 rfl ?_
      refine g_iadd ok dX1_append_44 ?_
      rw [show s.I 10 + 1 = nI (nn (s.I 10) + 1) by rw [i2.1, nI_1, nn_nI (by omega)]]
      refine g_put ok ck_X1 5 q324 (Or.inl rfl) (by decide) rfl dX1_append_45 ((up_ne (Ne.symm nix)).trans S.2.2.1) (dl rfl) rfl rfl (fs1 := [.ref ru, sv, .ref hl, .ref inp, .ref ln, .int (nI (nn (s.I 10) + 1)), bt, rf]) rfl (?_)
      refine g_aload_n ok dX1_append_48 rfl ?_
      refine g_get ok ck_X1 5 q324 (Or.inl rfl) (by decide) dX1_append_49 (Rd.h (up_self)) rfl ?_
      have pf : SPost X.G x (ex2 IAE ISE) (mAppend s c) (.inl (some (.int (nI (nn (s.I 10) + 1))))) (up (up h inp (aC X.G 60 (upd fi (nn (s.I 10)) c))) x (ob 0 [.ref ru, sv, .ref hl, .ref inp, .ref ln, .int (nI (nn (s.I 10) + 1)), bt, rf])) := by
        unfold mAppend; rw [if_pos hs, if_neg t60]; exact ⟨SRx.typed S i3 i4 t6 c, Or.inl ⟨(show upd (upd s.I 20 0) 10 (nI (nn (s.I 10) + 1)) 20 = 0 by rw [upd_ne (by omega), upd_at]), rfl⟩⟩
      exact g_iret ok fn rfl dX1_append_52 pf (by omega)
  · refine g_iload_n ok dX1_append_0 rfl ?_
    refine g_bipush ok (v := 32) dX1_append_1 rfl ?_
    refine g_bipush ok (v := 126) dX1_append_3 rfl ?_
    refine g_callS ok q1001 q1002 q61 q1003 dX1_append_5 (x_isIn X.l X.G _ c 32 126) (nm_ (by decide : nmb _ 3 = true)) (dl rfl) (dk rfl) rfl rfl (dk rfl) (by omega) (kV ?_) xV
    rw [hs]
    refine g_callS ok q1019 q1020 q61 q1021 dX1_append_8 (x_chkA0 X.l X.G _) (nm_ (by decide : nmb _ 1 = true)) (dl rfl) (dk rfl) rfl rfl (dk rfl) (by omega) kT (xT fun qx fx kx => ?_)
    have pf : SPost X.G x (ex2 IAE ISE) (mAppend s c) (.inr (IAE, qx)) (up h qx (ob 18 [])) := by
      unfold mAppend; rw [if_neg (by rw [hs]; decide)]; exact SPost.no (S.at.mi (k := 20) (v := 0) (by omega)) fx (by decide) rfl
    exact g_out ok fn (fun z hz => nomatch hz) pf (by omega)
