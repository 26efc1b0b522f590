/-! THE JDK's lists, 2 -/
set_option maxRecDepth 100000
abbrev cJ18_newLength : ByteArray := prog_72_method_27_code
def yJ18_newLength : MethodName := ⟨RJ18, "newLength", "(III)I"⟩
def dkwJ18_newLength_1 : List UInt8 := [184, 0, 201, 172]
abbrev dktJ18_newLength_1 : List UInt8 := dkwJ18_newLength_1 ++ []
def dkwJ18_newLength_0 : List UInt8 := [26, 27, 28, 184, 0, 194, 96, 62, 3, 29, 162, 0, 11, 29, 18, 200, 163, 0, 5, 29, 172, 26, 27]
abbrev dktJ18_newLength_0 : List UInt8 := dkwJ18_newLength_0 ++ dktJ18_newLength_1
theorem dksJ18_newLength_0 : cJ18_newLength.data.toList.drop 0 = dktJ18_newLength_0 := by decide +kernel
theorem dksJ18_newLength_1 : cJ18_newLength.data.toList.drop 23 = dktJ18_newLength_1 := dk_seg dksJ18_newLength_0 23 rfl rfl
theorem dJ18_newLength_0 : decode cJ18_newLength 0 = .ok (.iload_n 0, 1) := dk_26 (dk_at dksJ18_newLength_0 0 rfl rfl)
theorem dJ18_newLength_1 : decode cJ18_newLength 1 = .ok (.iload_n 1, 1) := dk_27 (dk_at dksJ18_newLength_0 1 rfl rfl)
theorem dJ18_newLength_2 : decode cJ18_newLength 2 = .ok (.iload_n 2, 1) := dk_28 (dk_at dksJ18_newLength_0 2 rfl rfl)
theorem dJ18_newLength_3 : decode cJ18_newLength 3 = .ok (.invokestatic 194, 3) := dk_184 0 194 (dk_at dksJ18_newLength_0 3 rfl rfl)
theorem dJ18_newLength_6 : decode cJ18_newLength 6 = .ok (.iadd, 1) := dk_96 (dk_at dksJ18_newLength_0 6 rfl rfl)
theorem dJ18_newLength_7 : decode cJ18_newLength 7 = .ok (.istore_n 3, 1) := dk_62 (dk_at dksJ18_newLength_0 7 rfl rfl)
theorem dJ18_newLength_8 : decode cJ18_newLength 8 = .ok (.iconst 0, 1) := dk_3 (dk_at dksJ18_newLength_0 8 rfl rfl)
theorem dJ18_newLength_9 : decode cJ18_newLength 9 = .ok (.iload_n 3, 1) := dk_29 (dk_at dksJ18_newLength_0 9 rfl rfl)
theorem dJ18_newLength_10 : decode cJ18_newLength 10 = .ok (.if_icmp .ge 11, 3) := dk_162 0 11 (dk_at dksJ18_newLength_0 10 rfl rfl)
theorem dJ18_newLength_13 : decode cJ18_newLength 13 = .ok (.iload_n 3, 1) := dk_29 (dk_at dksJ18_newLength_0 13 rfl rfl)
theorem dJ18_newLength_14 : decode cJ18_newLength 14 = .ok (.ldc 200, 2) := dk_18 200 (dk_at dksJ18_newLength_0 14 rfl rfl)
theorem dJ18_newLength_16 : decode cJ18_newLength 16 = .ok (.if_icmp .gt 5, 3) := dk_163 0 5 (dk_at dksJ18_newLength_0 16 rfl rfl)
theorem dJ18_newLength_19 : decode cJ18_newLength 19 = .ok (.iload_n 3, 1) := dk_29 (dk_at dksJ18_newLength_0 19 rfl rfl)
theorem dJ18_newLength_20 : decode cJ18_newLength 20 = .ok (.ireturn, 1) := dk_172 (dk_at dksJ18_newLength_0 20 rfl rfl)
theorem dJ18_newLength_21 : decode cJ18_newLength 21 = .ok (.iload_n 0, 1) := dk_26 (dk_at dksJ18_newLength_0 21 rfl rfl)
theorem dJ18_newLength_22 : decode cJ18_newLength 22 = .ok (.iload_n 1, 1) := dk_27 (dk_at dksJ18_newLength_0 22 rfl rfl)
theorem dJ18_newLength_23 : decode cJ18_newLength 23 = .ok (.invokestatic 201, 3) := dk_184 0 201 (dk_at dksJ18_newLength_1 0 rfl rfl)
theorem dJ18_newLength_26 : decode cJ18_newLength 26 = .ok (.ireturn, 1) := dk_172 (dk_at dksJ18_newLength_1 3 rfl rfl)
abbrev cJ20_copyOf_3 : ByteArray := prog_54_method_120_code
def yJ20_copyOf_3 : MethodName := ⟨RJ20, "copyOf", "([Ljava/lang/Object;ILjava/lang/Class;)[Ljava/lang/Object;"⟩
def dkwJ20_copyOf_3_1 : List UInt8 := [78, 42, 3, 45, 3, 42, 190, 27, 184, 1, 48, 184, 0, 150, 45, 176]
abbrev dktJ20_copyOf_3_1 : List UInt8 := dkwJ20_copyOf_3_1 ++ []
def dkwJ20_copyOf_3_0 : List UInt8 := [44, 18, 110, 166, 0, 10, 27, 189, 0, 2, 167, 0, 14, 44, 182, 0, 90, 27, 184, 0, 95, 192, 0, 110]
abbrev dktJ20_copyOf_3_0 : List UInt8 := dkwJ20_copyOf_3_0 ++ dktJ20_copyOf_3_1
theorem dksJ20_copyOf_3_0 : cJ20_copyOf_3.data.toList.drop 0 = dktJ20_copyOf_3_0 := by decide +kernel
theorem dksJ20_copyOf_3_1 : cJ20_copyOf_3.data.toList.drop 24 = dktJ20_copyOf_3_1 := dk_seg dksJ20_copyOf_3_0 24 rfl rfl
theorem dJ20_copyOf_3_0 : decode cJ20_copyOf_3 0 = .ok (.aload_n 2, 1) := dk_44 (dk_at dksJ20_copyOf_3_0 0 rfl rfl)
theorem dJ20_copyOf_3_1 : decode cJ20_copyOf_3 1 = .ok (.ldc 110, 2) := dk_18 110 (dk_at dksJ20_copyOf_3_0 1 rfl rfl)
theorem dJ20_copyOf_3_3 : decode cJ20_copyOf_3 3 = .ok (.if_acmp .ne 10, 3) := dk_166 0 10 (dk_at dksJ20_copyOf_3_0 3 rfl rfl)
theorem dJ20_copyOf_3_6 : decode cJ20_copyOf_3 6 = .ok (.iload_n 1, 1) := dk_27 (dk_at dksJ20_copyOf_3_0 6 rfl rfl)
theorem dJ20_copyOf_3_7 : decode cJ20_copyOf_3 7 = .ok (.anewarray 2, 3) := dk_189 0 2 (dk_at dksJ20_copyOf_3_0 7 rfl rfl)
theorem dJ20_copyOf_3_10 : decode cJ20_copyOf_3 10 = .ok (.goto 14, 3) := dk_167 0 14 (dk_at dksJ20_copyOf_3_0 10 rfl rfl)
theorem dJ20_copyOf_3_13 : decode cJ20_copyOf_3 13 = .ok (.aload_n 2, 1) := dk_44 (dk_at dksJ20_copyOf_3_0 13 rfl rfl)
theorem dJ20_copyOf_3_14 : decode cJ20_copyOf_3 14 = .ok (.invokevirtual 90, 3) := dk_182 0 90 (dk_at dksJ20_copyOf_3_0 14 rfl rfl)
theorem dJ20_copyOf_3_17 : decode cJ20_copyOf_3 17 = .ok (.iload_n 1, 1) := dk_27 (dk_at dksJ20_copyOf_3_0 17 rfl rfl)
theorem dJ20_copyOf_3_18 : decode cJ20_copyOf_3 18 = .ok (.invokestatic 95, 3) := dk_184 0 95 (dk_at dksJ20_copyOf_3_0 18 rfl rfl)
theorem dJ20_copyOf_3_21 : decode cJ20_copyOf_3 21 = .ok (.checkcast 110, 3) := dk_192 0 110 (dk_at dksJ20_copyOf_3_0 21 rfl rfl)
theorem dJ20_copyOf_3_24 : decode cJ20_copyOf_3 24 = .ok (.astore_n 3, 1) := dk_78 (dk_at dksJ20_copyOf_3_1 0 rfl rfl)
theorem dJ20_copyOf_3_25 : decode cJ20_copyOf_3 25 = .ok (.aload_n 0, 1) := dk_42 (dk_at dksJ20_copyOf_3_1 1 rfl rfl)
theorem dJ20_copyOf_3_26 : decode cJ20_copyOf_3 26 = .ok (.iconst 0, 1) := dk_3 (dk_at dksJ20_copyOf_3_1 2 rfl rfl)
theorem dJ20_copyOf_3_27 : decode cJ20_copyOf_3 27 = .ok (.aload_n 3, 1) := dk_45 (dk_at dksJ20_copyOf_3_1 3 rfl rfl)
theorem dJ20_copyOf_3_28 : decode cJ20_copyOf_3 28 = .ok (.iconst 0, 1) := dk_3 (dk_at dksJ20_copyOf_3_1 4 rfl rfl)
theorem dJ20_copyOf_3_29 : decode cJ20_copyOf_3 29 = .ok (.aload_n 0, 1) := dk_42 (dk_at dksJ20_copyOf_3_1 5 rfl rfl)
theorem dJ20_copyOf_3_30 : decode cJ20_copyOf_3 30 = .ok (.arraylength, 1) := dk_190 (dk_at dksJ20_copyOf_3_1 6 rfl rfl)
theorem dJ20_copyOf_3_31 : decode cJ20_copyOf_3 31 = .ok (.iload_n 1, 1) := dk_27 (dk_at dksJ20_copyOf_3_1 7 rfl rfl)
theorem dJ20_copyOf_3_32 : decode cJ20_copyOf_3 32 = .ok (.invokestatic 304, 3) := dk_184 1 48 (dk_at dksJ20_copyOf_3_1 8 rfl rfl)
theorem dJ20_copyOf_3_35 : decode cJ20_copyOf_3 35 = .ok (.invokestatic 150, 3) := dk_184 0 150 (dk_at dksJ20_copyOf_3_1 11 rfl rfl)
theorem dJ20_copyOf_3_38 : decode cJ20_copyOf_3 38 = .ok (.aload_n 3, 1) := dk_45 (dk_at dksJ20_copyOf_3_1 14 rfl rfl)
theorem dJ20_copyOf_3_39 : decode cJ20_copyOf_3 39 = .ok (.areturn, 1) := dk_176 (dk_at dksJ20_copyOf_3_1 15 rfl rfl)
abbrev cJ20_copyOf_2 : ByteArray := prog_54_method_119_code
def yJ20_copyOf_2 : MethodName := ⟨RJ20, "copyOf", "([Ljava/lang/Object;I)[Ljava/lang/Object;"⟩
def dkwJ20_copyOf_2_0 : List UInt8 := [42, 27, 42, 182, 0, 86, 184, 1, 44, 176]
abbrev dktJ20_copyOf_2_0 : List UInt8 := dkwJ20_copyOf_2_0 ++ []
theorem dksJ20_copyOf_2_0 : cJ20_copyOf_2.data.toList.drop 0 = dktJ20_copyOf_2_0 := by decide +kernel
theorem dJ20_copyOf_2_0 : decode cJ20_copyOf_2 0 = .ok (.aload_n 0, 1) := dk_42 (dk_at dksJ20_copyOf_2_0 0 rfl rfl)
theorem dJ20_copyOf_2_1 : decode cJ20_copyOf_2 1 = .ok (.iload_n 1, 1) := dk_27 (dk_at dksJ20_copyOf_2_0 1 rfl rfl)
theorem dJ20_copyOf_2_2 : decode cJ20_copyOf_2 2 = .ok (.aload_n 0, 1) := dk_42 (dk_at dksJ20_copyOf_2_0 2 rfl rfl)
theorem dJ20_copyOf_2_3 : decode cJ20_copyOf_2 3 = .ok (.invokevirtual 86, 3) := dk_182 0 86 (dk_at dksJ20_copyOf_2_0 3 rfl rfl)
theorem dJ20_copyOf_2_6 : decode cJ20_copyOf_2 6 = .ok (.invokestatic 300, 3) := dk_184 1 44 (dk_at dksJ20_copyOf_2_0 6 rfl rfl)
theorem dJ20_copyOf_2_9 : decode cJ20_copyOf_2 9 = .ok (.areturn, 1) := dk_176 (dk_at dksJ20_copyOf_2_0 9 rfl rfl)
abbrev cJ2_grow_2 : ByteArray := prog_52_method_6_code
def yJ2_grow_2 : MethodName := ⟨RJ2, "grow", "(I)[Ljava/lang/Object;"⟩
def dkwJ2_grow_2_2 : List UInt8 := [27, 184, 0, 79, 189, 0, 7, 90, 181, 0, 9, 176]
abbrev dktJ2_grow_2_2 : List UInt8 := dkwJ2_grow_2_2 ++ []
def dkwJ2_grow_2_1 : List UInt8 := [28, 4, 122, 184, 0, 73, 62, 42, 42, 180, 0, 9, 29, 184, 0, 66, 90, 181, 0, 9, 176, 42, 16, 10]
abbrev dktJ2_grow_2_1 : List UInt8 := dkwJ2_grow_2_1 ++ dktJ2_grow_2_2
def dkwJ2_grow_2_0 : List UInt8 := [42, 180, 0, 9, 190, 61, 28, 157, 0, 13, 42, 180, 0, 9, 178, 0, 39, 165, 0, 28, 28, 27, 28, 100]
abbrev dktJ2_grow_2_0 : List UInt8 := dkwJ2_grow_2_0 ++ dktJ2_grow_2_1
theorem dksJ2_grow_2_0 : cJ2_grow_2.data.toList.drop 0 = dktJ2_grow_2_0 := by decide +kernel
theorem dksJ2_grow_2_1 : cJ2_grow_2.data.toList.drop 24 = dktJ2_grow_2_1 := dk_seg dksJ2_grow_2_0 24 rfl rfl
theorem dksJ2_grow_2_2 : cJ2_grow_2.data.toList.drop 48 = dktJ2_grow_2_2 := dk_seg dksJ2_grow_2_1 24 rfl rfl
theorem dJ2_grow_2_0 : decode cJ2_grow_2 0 = .ok (.aload_n 0, 1) := dk_42 (dk_at dksJ2_grow_2_0 0 rfl rfl)
theorem dJ2_grow_2_1 : decode cJ2_grow_2 1 = .ok (.getfield 9, 3) := dk_180 0 9 (dk_at dksJ2_grow_2_0 1 rfl rfl)
theorem dJ2_grow_2_4 : decode cJ2_grow_2 4 = .ok (.arraylength, 1) := dk_190 (dk_at dksJ2_grow_2_0 4 rfl rfl)
theorem dJ2_grow_2_5 : decode cJ2_grow_2 5 = .ok (.istore_n 2, 1) := dk_61 (dk_at dksJ2_grow_2_0 5 rfl rfl)
theorem dJ2_grow_2_6 : decode cJ2_grow_2 6 = .ok (.iload_n 2, 1) := dk_28 (dk_at dksJ2_grow_2_0 6 rfl rfl)
theorem dJ2_grow_2_7 : decode cJ2_grow_2 7 = .ok (.ifCond .gt 13, 3) := dk_157 0 13 (dk_at dksJ2_grow_2_0 7 rfl rfl)
theorem dJ2_grow_2_10 : decode cJ2_grow_2 10 = .ok (.aload_n 0, 1) := dk_42 (dk_at dksJ2_grow_2_0 10 rfl rfl)
theorem dJ2_grow_2_11 : decode cJ2_grow_2 11 = .ok (.getfield 9, 3) := dk_180 0 9 (dk_at dksJ2_grow_2_0 11 rfl rfl)
theorem dJ2_grow_2_14 : decode cJ2_grow_2 14 = .ok (.getstatic 39, 3) := dk_178 0 39 (dk_at dksJ2_grow_2_0 14 rfl rfl)
theorem dJ2_grow_2_17 : decode cJ2_grow_2 17 = .ok (.if_acmp .eq 28, 3) := dk_165 0 28 (dk_at dksJ2_grow_2_0 17 rfl rfl)
theorem dJ2_grow_2_20 : decode cJ2_grow_2 20 = .ok (.iload_n 2, 1) := dk_28 (dk_at dksJ2_grow_2_0 20 rfl rfl)
theorem dJ2_grow_2_21 : decode cJ2_grow_2 21 = .ok (.iload_n 1, 1) := dk_27 (dk_at dksJ2_grow_2_0 21 rfl rfl)
theorem dJ2_grow_2_22 : decode cJ2_grow_2 22 = .ok (.iload_n 2, 1) := dk_28 (dk_at dksJ2_grow_2_0 22 rfl rfl)
theorem dJ2_grow_2_23 : decode cJ2_grow_2 23 = .ok (.isub, 1) := dk_100 (dk_at dksJ2_grow_2_0 23 rfl rfl)
theorem dJ2_grow_2_24 : decode cJ2_grow_2 24 = .ok (.iload_n 2, 1) := dk_28 (dk_at dksJ2_grow_2_1 0 rfl rfl)
theorem dJ2_grow_2_25 : decode cJ2_grow_2 25 = .ok (.iconst 1, 1) := dk_4 (dk_at dksJ2_grow_2_1 1 rfl rfl)
theorem dJ2_grow_2_26 : decode cJ2_grow_2 26 = .ok (.ishr, 1) := dk_122 (dk_at dksJ2_grow_2_1 2 rfl rfl)
theorem dJ2_grow_2_27 : decode cJ2_grow_2 27 = .ok (.invokestatic 73, 3) := dk_184 0 73 (dk_at dksJ2_grow_2_1 3 rfl rfl)
theorem dJ2_grow_2_30 : decode cJ2_grow_2 30 = .ok (.istore_n 3, 1) := dk_62 (dk_at dksJ2_grow_2_1 6 rfl rfl)
theorem dJ2_grow_2_31 : decode cJ2_grow_2 31 = .ok (.aload_n 0, 1) := dk_42 (dk_at dksJ2_grow_2_1 7 rfl rfl)
theorem dJ2_grow_2_32 : decode cJ2_grow_2 32 = .ok (.aload_n 0, 1) := dk_42 (dk_at dksJ2_grow_2_1 8 rfl rfl)
theorem dJ2_grow_2_33 : decode cJ2_grow_2 33 = .ok (.getfield 9, 3) := dk_180 0 9 (dk_at dksJ2_grow_2_1 9 rfl rfl)
theorem dJ2_grow_2_36 : decode cJ2_grow_2 36 = .ok (.iload_n 3, 1) := dk_29 (dk_at dksJ2_grow_2_1 12 rfl rfl)
theorem dJ2_grow_2_37 : decode cJ2_grow_2 37 = .ok (.invokestatic 66, 3) := dk_184 0 66 (dk_at dksJ2_grow_2_1 13 rfl rfl)
theorem dJ2_grow_2_40 : decode cJ2_grow_2 40 = .ok (.dup_x1, 1) := dk_90 (dk_at dksJ2_grow_2_1 16 rfl rfl)
theorem dJ2_grow_2_41 : decode cJ2_grow_2 41 = .ok (.putfield 9, 3) := dk_181 0 9 (dk_at dksJ2_grow_2_1 17 rfl rfl)
theorem dJ2_grow_2_44 : decode cJ2_grow_2 44 = .ok (.areturn, 1) := dk_176 (dk_at dksJ2_grow_2_1 20 rfl rfl)
theorem dJ2_grow_2_45 : decode cJ2_grow_2 45 = .ok (.aload_n 0, 1) := dk_42 (dk_at dksJ2_grow_2_1 21 rfl rfl)
theorem dJ2_grow_2_46 : decode cJ2_grow_2 46 = .ok (.bipush 10, 2) := dk_16 10 (dk_at dksJ2_grow_2_1 22 rfl rfl)
theorem dJ2_grow_2_48 : decode cJ2_grow_2 48 = .ok (.iload_n 1, 1) := dk_27 (dk_at dksJ2_grow_2_2 0 rfl rfl)
theorem dJ2_grow_2_49 : decode cJ2_grow_2 49 = .ok (.invokestatic 79, 3) := dk_184 0 79 (dk_at dksJ2_grow_2_2 1 rfl rfl)
theorem dJ2_grow_2_52 : decode cJ2_grow_2 52 = .ok (.anewarray 7, 3) := dk_189 0 7 (dk_at dksJ2_grow_2_2 4 rfl rfl)
theorem dJ2_grow_2_55 : decode cJ2_grow_2 55 = .ok (.dup_x1, 1) := dk_90 (dk_at dksJ2_grow_2_2 7 rfl rfl)
theorem dJ2_grow_2_56 : decode cJ2_grow_2 56 = .ok (.putfield 9, 3) := dk_181 0 9 (dk_at dksJ2_grow_2_2 8 rfl rfl)
theorem dJ2_grow_2_59 : decode cJ2_grow_2 59 = .ok (.areturn, 1) := dk_176 (dk_at dksJ2_grow_2_2 11 rfl rfl)
theorem q575 : (Jvm.Cond.methodLink "jdk/internal/util/ArraysSupport" (194 : Nat) ({ cls := "java/lang/Math", name := "max", desc := "(II)I" } : Jvm.MethodName)) ∈ lw_all := lw_g (lw_at lw_m3 35 rfl) rfl
theorem q578 : (Jvm.Cond.constant "jdk/internal/util/ArraysSupport" (200 : Nat) (2147483639 : Int32)) ∈ lw_all := lw_g (lw_at lw_m3 38 rfl) rfl
theorem q906 : (Jvm.Cond.classLink "java/util/Arrays" (110 : Nat) "[Ljava/lang/Object;") ∈ lw_all := lw_g (lw_at lw_m4 126 rfl) rfl
theorem q908 : (Jvm.Cond.classLink "java/util/Arrays" (2 : Nat) "java/lang/Object") ∈ lw_all := lw_g (lw_at lw_m4 128 rfl) rfl
theorem q868 : (Jvm.Cond.methodLink "java/util/Arrays" (86 : Nat) ({ cls := "java/lang/Object", name := "getClass", desc := "()Ljava/lang/Class;" } : Jvm.MethodName)) ∈ lw_all := lw_g (lw_at lw_m4 88 rfl) rfl
theorem q2783 : (Jvm.Cond.declares ({ cls := "java/lang/Object", name := "getClass", desc := "()Ljava/lang/Class;" } : Jvm.MethodName)) ∈ lw_tbl := lw_at lw_m12 83 rfl
theorem q2782 : (Jvm.Cond.selects "[Ljava/lang/Object;" ({ cls := "java/lang/Object", name := "getClass", desc := "()Ljava/lang/Class;" } : Jvm.MethodName) ({ cls := "java/lang/Object", name := "getClass", desc := "()Ljava/lang/Class;" } : Jvm.MethodName)) ∈ lw_all := lw_g (lw_at lw_m12 82 rfl) rfl
theorem q869 : (Jvm.Cond.instanceMethod ({ cls := "java/lang/Object", name := "getClass", desc := "()Ljava/lang/Class;" } : Jvm.MethodName)) ∈ lw_all := lw_g (lw_at lw_m4 89 rfl) rfl
theorem q902 : (Jvm.Cond.native ({ cls := "java/lang/Object", name := "getClass", desc := "()Ljava/lang/Class;" } : Jvm.MethodName)) ∈ lw_all := lw_g (lw_at lw_m4 122 rfl) rfl
theorem q903 : (Jvm.Cond.methodLink "java/util/Arrays" (300 : Nat) ({ cls := "java/util/Arrays", name := "copyOf", desc := "([Ljava/lang/Object;ILjava/lang/Class;)[Ljava/lang/Object;" } : Jvm.MethodName)) ∈ lw_all := lw_g (lw_at lw_m4 123 rfl) rfl
theorem q905 : (Jvm.Cond.code ({ cls := "java/util/Arrays", name := "copyOf", desc := "([Ljava/lang/Object;ILjava/lang/Class;)[Ljava/lang/Object;" } : Jvm.MethodName) prog_54_method_120_code (4 : Nat) (Option.some (Jvm.ClassFile.FieldType.array (Jvm.ClassFile.FieldType.object "java/lang/Object")))) ∈ lw_all := lw_g (lw_at lw_m4 125 rfl) rfl
theorem q904 : (Jvm.Cond.static ({ cls := "java/util/Arrays", name := "copyOf", desc := "([Ljava/lang/Object;ILjava/lang/Class;)[Ljava/lang/Object;" } : Jvm.MethodName)) ∈ lw_all := lw_g (lw_at lw_m4 124 rfl) rfl
theorem q909 : (Jvm.Cond.methodLink "java/util/ArrayList" (79 : Nat) ({ cls := "java/lang/Math", name := "max", desc := "(II)I" } : Jvm.MethodName)) ∈ lw_all := lw_g (lw_at lw_m4 129 rfl) rfl
theorem q910 : (Jvm.Cond.classLink "java/util/ArrayList" (7 : Nat) "java/lang/Object") ∈ lw_all := lw_g (lw_at lw_m4 130 rfl) rfl
theorem q864 : (Jvm.Cond.methodLink "java/util/ArrayList" (73 : Nat) ({ cls := "jdk/internal/util/ArraysSupport", name := "newLength", desc := "(III)I" } : Jvm.MethodName)) ∈ lw_all := lw_g (lw_at lw_m4 84 rfl) rfl
theorem q574 : (Jvm.Cond.code ({ cls := "jdk/internal/util/ArraysSupport", name := "newLength", desc := "(III)I" } : Jvm.MethodName) prog_72_method_27_code (4 : Nat) (Option.some Jvm.ClassFile.FieldType.int)) ∈ lw_all := lw_g (lw_at lw_m3 34 rfl) rfl
theorem q573 : (Jvm.Cond.static ({ cls := "jdk/internal/util/ArraysSupport", name := "newLength", desc := "(III)I" } : Jvm.MethodName)) ∈ lw_all := lw_g (lw_at lw_m3 33 rfl) rfl
theorem q865 : (Jvm.Cond.methodLink "java/util/ArrayList" (66 : Nat) ({ cls := "java/util/Arrays", name := "copyOf", desc := "([Ljava/lang/Object;I)[Ljava/lang/Object;" } : Jvm.MethodName)) ∈ lw_all := lw_g (lw_at lw_m4 85 rfl) rfl
theorem q867 : (Jvm.Cond.code ({ cls := "java/util/Arrays", name := "copyOf", desc := "([Ljava/lang/Object;I)[Ljava/lang/Object;" } : Jvm.MethodName) prog_54_method_119_code (2 : Nat) (Option.some (Jvm.ClassFile.FieldType.array (Jvm.ClassFile.FieldType.object "java/lang/Object")))) ∈ lw_all := lw_g (lw_at lw_m4 87 rfl) rfl
theorem q866 : (Jvm.Cond.static ({ cls := "java/util/Arrays", name := "copyOf", desc := "([Ljava/lang/Object;I)[Ljava/lang/Object;" } : Jvm.MethodName)) ∈ lw_all := lw_g (lw_at lw_m4 86 rfl) rfl
section
variable {X : GX} {yM : MethodName} {cc : ByteArray} {nL : Nat} {rT : Option FieldType} {hH : List (Nat × Nat × Nat × Nat)} {lV kB : Nat} {hA : AH} {kc pc : Nat} {ls : List (Option Value)} {st : List Value}
theorem gr_name {G : GE} {U : State} (hK : va_K G.1 gcl (gtys G) U) : U.vm.findClass "[Ljava/lang/Object;" = some (G.2.1 5) := by
  obtain ⟨j, hj⟩ := List.getElem?_of_mem (gt_r G)
  obtain ⟨kA9, comp9, g1, g2, g3, g4⟩ := (hK.2 j _ hj).2
  exact g4
theorem g_getC (ok : Ok X yM cc nL rT hH lV kB) {a n index : Nat} {f : Nat → Option Nat} (w1 : Cond.methodLink yM.cls index ({ cls := "java/lang/Object", name := "getClass", desc := "()Ljava/lang/Class;" } : Jvm.MethodName) ∈ lw_all) (w2 : Cond.declares ({ cls := "java/lang/Object", name := "getClass", desc := "()Ljava/lang/Class;" } : Jvm.MethodName) ∈ lw_tbl) (w3 : Cond.selects "[Ljava/lang/Object;" ({ cls := "java/lang/Object", name := "getClass", desc := "()Ljava/lang/Class;" } : Jvm.MethodName) ({ cls := "java/lang/Object", name := "getClass", desc := "()Ljava/lang/Class;" } : Jvm.MethodName) ∈ lw_all) (w4 : Cond.instanceMethod ({ cls := "java/lang/Object", name := "getClass", desc := "()Ljava/lang/Class;" } : Jvm.MethodName) ∈ lw_all) (w5 : Cond.native ({ cls := "java/lang/Object", name := "getClass", desc := "()Ljava/lang/Class;" } : Jvm.MethodName) ∈ lw_all) (hd : decode cc pc = .ok (.invokevirtual index, 3)) (hr : hA a = some (aR X.G n f)) (hLv : 1 ≤ lV) (hln : ls.length = nL) (hs : (st.map fun v => v.category).sum ≤ 8) (kk : GW X hA kc (pc + 3) ls (.ref (X.G.ga "M0") :: st)) : GW X hA kc pc ls (.ref a :: st) := by
  intro H locs la hP hG hS hL
  obtain ⟨r1, r2, r3, r4⟩ := ok.rm
  exact va_getC ok.x ok.b (by rw [ok.ml]; exact (hL.1.trans hln).symm) ok.own (ok.ts _ w1) (va_Dc.use (ok.tab.2.1 _ w2 rfl)) (ok.ts _ w3) (ok.ts _ w4) (ok.ts _ w5) ok.tab.2.2.2.2.2.2.2 ⟨_, hP.1 a _ hr, rfl, gr_name ok.k⟩ (by omega) (by omega) hd (kk H locs la hP hG hS hL)
theorem g_ldcM (ok : Ok X yM cc nL rT hH lV kB) {index : Nat} (hlink : Cond.classLink yM.cls index "[Ljava/lang/Object;" ∈ lw_all) (hd : decode cc pc = .ok (.ldc index, 2)) (kk : GW X hA kc (pc + 2) ls (.ref (X.G.ga "M0") :: st)) : GW X hA kc pc ls st :=
  fun H locs la hP hG hS hL => va_ldcM ok.x ok.b ok.own (ok.ts _ hlink) ok.tab.2.2.2.2.2.2.2 hd (kk H locs la hP hG hS hL)
theorem g_castR (ok : Ok X yM cc nL rT hH lV kB) {a n index : Nat} {f : Nat → Option Nat} (hlink : Cond.classLink yM.cls index "[Ljava/lang/Object;" ∈ lw_all) (hd : decode cc pc = .ok (.checkcast index, 3)) (hr : hA a = some (aR X.G n f)) (kk : GW X hA kc (pc + 3) ls (.ref a :: st)) : GW X hA kc pc ls (.ref a :: st) := by
  intro H locs la hP hG hS hL
  refine va_castA (D := X.G.1) (cl := gcl) (ws := [(a, aR X.G n f)]) ok.x ok.b ok.own (ok.ts _ hlink) ?_ 0 (by rfl) (gr_name ok.k) hd (kk H locs la hP hG hS hL)
  intro q x hq
  match q, hq with
  | 0, hq => cases hq; exact hP.1 a _ hr
end
/-- the elements are objects that are known -/
def Els (G : GE) (h : AH) (f : Nat → Option Nat) (n : Nat) : Prop := ∀ j, j < n → ∀ y, f j = some y → ∃ ci fs, ci < 18 ∧ Rd G h y (ob ci fs)
theorem Els.up {G : GE} {h : AH} {f : Nat → Option Nat} {n e : Nat} {x : va_E} (l : Els G h f n) (he : h e = none) (hk : G.kh e = none) : Els G (up h e x) f n := fun j hj y hy => by
  obtain ⟨ci, fs, h1, h2⟩ := l j hj y hy
  exact ⟨ci, fs, h1, h2.up (h2.ne he hk)⟩
theorem mxL {a b : Nat} (ha : a < 2 ^ 31 := by omega) (hb : b < 2 ^ 31 := by omega) : (if nI a < nI b then nI b else nI a) = nI (max a b) := mx_nI ha hb
theorem a_newLength (l : Launch) (G : GE) (h : AH) (n m q : Nat) (hn : n < 10000) (hm : 0 < m) (hm2 : m < 10000) (hq : q < 10000) : GM l G yJ18_newLength (ws_ yJ18_newLength cJ18_newLength 4 (some .int)) 2 [.int (nI n), .int (nI m), .int (nI q)] (h) (0) (PV (.int (nI (n + max m q))) h) := by
  refine GM.of (by decide) (dk rfl) ?_
  intro X eL eG eh ok fn
  subst eL; subst eG
  show GW X _ 0 0 [some (.int (nI n)), some (.int (nI m)), some (.int (nI q)), none] []
  refine g_iload_n ok dJ18_newLength_0 rfl ?_
  refine g_iload_n ok dJ18_newLength_1 rfl ?_
  refine g_iload_n ok dJ18_newLength_2 rfl ?_
  refine g_max ok q575 q576 q90 q577 dJ18_newLength_3 (dk rfl) rfl (dk rfl) (by omega) ?_
  rw [mxL]
  refine g_iaddN ok dJ18_newLength_6 (c := (n + (max m q))) (a := n) (b := (max m q)) rfl rfl rfl ?_
  refine g_istore_n ok dJ18_newLength_7 (ls1 := [some (.int (nI n)), some (.int (nI m)), some (.int (nI q)), some (.int (nI (n + (max m q))))]) (dl rfl) rfl ?_
  refine g_iconst ok (v := 0) dJ18_newLength_8 rfl ?_
  refine g_iload_n ok dJ18_newLength_9 rfl ?_
  refine g_icmp_ge ok (tgt := 21) dJ18_newLength_10 (by decide) (fun c_ => absurd c_ (nI_ge (a := 0) (b := (n + (max m q))) (by omega) (by omega))) (fun _ => ?_)
  refine g_iload_n ok dJ18_newLength_13 rfl ?_
  refine g_ldc ok (v := 2147483639) q578 dJ18_newLength_14 ?_
  refine g_icmp_gt ok (tgt := 21) dJ18_newLength_16 (by decide) (fun c_ => absurd c_ (nI_nlt (a := 2147483639) (b := (n + (max m q))) (by omega) (by omega))) (fun _ => ?_)
  refine g_iload_n ok dJ18_newLength_19 rfl ?_
  exact g_iret ok fn rfl dJ18_newLength_20 (pv_h rfl) (by omega)
theorem a_copyOf3 (l : Launch) (G : GE) (h : AH) (d cap m : Nat) (f : Nat → Option Nat) (r2 : h d = some (aR G cap f)) (hm : cap ≤ m) (hm2 : m < 10000) (hel : Els G h f cap) : GM l G yJ20_copyOf_3 (ws_ yJ20_copyOf_3 cJ20_copyOf_3 4 (some (.array (.object "java/lang/Object")))) 2 [.ref d, .int (nI m), .ref (G.ga "M0")] (h) (m + 1) (PR fun v h' => ∃ e, v = .ref e ∧ h e = none ∧ G.kh e = none ∧ h' = up h e (aR G m (va_cpy f (fun _ => none) 0 0 cap))) := by
  refine GM.of (by decide) (dk rfl) ?_
  intro X eL eG eh ok fn
  subst eL; subst eG
  show GW X _ 0 0 [some (.ref d), some (.int (nI m)), some (.ref (X.G.ga "M0")), none] []
  refine g_aload_n ok dJ20_copyOf_3_0 rfl ?_
  refine g_ldcM ok q906 dJ20_copyOf_3_1 ?_
  refine g_acmp_ne ok (rx := some (X.G.ga "M0")) (ry := some (X.G.ga "M0")) (tgt := 13) dJ20_copyOf_3_3 (by decide) (fun c => absurd rfl c) (fun _ => ?_)
  refine g_iload_n ok dJ20_copyOf_3_6 rfl ?_
  refine g_newr ok (n := m) q908 dJ20_copyOf_3_7 rfl (by omega) (by omega) (fun e hae hke h0e => ?_)
  have ne0 := Rd.ne (Rd.h (r2)) hae hke
  refine g_goto ok dJ20_copyOf_3_10 (tgt := 24) (by decide) ?_
  refine g_astore_n ok dJ20_copyOf_3_24 (ls1 := [some (.ref d), some (.int (nI m)), some (.ref (X.G.ga "M0")), some (.ref e)]) (dl rfl) rfl ?_
  refine g_aload_n ok dJ20_copyOf_3_25 rfl ?_
  refine g_iconst ok (v := 0) dJ20_copyOf_3_26 rfl ?_
  refine g_aload_n ok dJ20_copyOf_3_27 rfl ?_
  refine g_iconst ok (v := 0) dJ20_copyOf_3_28 rfl ?_
  refine g_aload_n ok dJ20_copyOf_3_29 rfl ?_
  refine g_alen ok dJ20_copyOf_3_30 (Rd.h ((up_ne ne0).trans (r2))) (gt_r _) ?_
  refine g_iload_n ok dJ20_copyOf_3_31 rfl ?_
  refine g_min ok q593 q594 q90 q595 dJ20_copyOf_3_32 (dk rfl) rfl (dk rfl) (by omega) ?_
  rw [mnR (by omega) (by omega)]
  refine g_copyr ok (sp := 0) (dp := 0) (n := cap) q596 q379 q378 q82 dJ20_copyOf_3_35 (Rd.h ((up_ne ne0).trans (r2))) (up_self) (fun i hi y hy => (hel.up hae hke) i hi y (by rw [Nat.zero_add] at hy; exact hy)) rfl rfl rfl (by omega) (by omega) (by omega) (by omega) (dl rfl) rfl (dk rfl) ?_
  refine g_aload_n ok dJ20_copyOf_3_38 rfl ?_
  exact g_aret ok fn rfl (Or.inr ⟨_, rfl⟩) (Or.inr ⟨_, rfl⟩) dJ20_copyOf_3_39 ⟨_, rfl, e, rfl, hae, hke, up_up⟩ (by omega)
theorem a_copyOf2 (l : Launch) (G : GE) (h : AH) (d cap m : Nat) (f : Nat → Option Nat) (r2 : h d = some (aR G cap f)) (hm : cap ≤ m) (hm2 : m < 10000) (hel : Els G h f cap) : GM l G yJ20_copyOf_2 (ws_ yJ20_copyOf_2 cJ20_copyOf_2 2 (some (.array (.object "java/lang/Object")))) 3 [.ref d, .int (nI m)] (h) (m + 1) (PR fun v h' => ∃ e, v = .ref e ∧ h e = none ∧ G.kh e = none ∧ h' = up h e (aR G m (va_cpy f (fun _ => none) 0 0 cap))) := by
  refine GM.of (by decide) (dk rfl) ?_
  intro X eL eG eh ok fn
  subst eL; subst eG
  show GW X _ 0 0 [some (.ref d), some (.int (nI m))] []
  refine g_aload_n ok dJ20_copyOf_2_0 rfl ?_
  refine g_iload_n ok dJ20_copyOf_2_1 rfl ?_
  refine g_aload_n ok dJ20_copyOf_2_2 rfl ?_
  refine g_getC ok q868 q2783 q2782 q869 q902 dJ20_copyOf_2_3 (r2) (dl rfl) rfl (dk rfl) ?_
  refine g_callS ok q903 q904 q91 q905 dJ20_copyOf_2_6 (a_copyOf3 X.l X.G _ d cap m f (r2) (by omega) (by omega) hel) (nm_ (by decide : nmb _ 3 = true)) (dl rfl) (dk rfl) rfl rfl (dk rfl) (by omega) (kR fun v hh ⟨e6, z1, z2, z3, z4⟩ => ?_) xR
  subst z1; subst z4
  have ne0 := Rd.ne (Rd.h (r2)) z2 z3
  exact g_aret ok fn rfl (Or.inr ⟨_, rfl⟩) (Or.inr ⟨_, rfl⟩) dJ20_copyOf_2_9 ⟨_, rfl, e6, rfl, z2, z3, rfl⟩ (by omega)
theorem cpy0 {f g : Nat → Option Nat} {n j : Nat} (h : j < n) : va_cpy f g 0 0 n j = f j := by
  rw [pk_cpy_in (by omega) (by omega)]
  congr 1; omega
/-- after a growth: the new array at e, of m cells, with the elements of before -/
def Grown (G : GE) (h h' : AH) (a e m n : Nat) (mc : Int32) (f g : Nat → Option Nat) : Prop := h e = none ∧ G.kh e = none ∧ a ≠ e ∧ h' = up (up h e (aR G m g)) a (ob 12 [.int mc, .ref e, .int (nI n)]) ∧ n < m ∧ (m < 1000 ∧ m ≤ 2 * n + 10) ∧ ∀ j, j < n → g j = f j
theorem al_grow (l : Launch) (G : GE) (h : AH) (a d cap n : Nat) (mc : Int32) (f : Nat → Option Nat) (y0 : AL G h a d cap n mc f) (hf : n = cap) (hc : cap < 400) (hel : Els G h f cap) : GM l G yJ2_grow_2 (ws_ yJ2_grow_2 cJ2_grow_2 4 (some (.array (.object "java/lang/Object")))) 4 [.ref a, .int (nI (n + 1))] (h) (2 * cap + 12) (PR fun v h' => ∃ e m g, v = .ref e ∧ Grown G h h' a e m n mc f g) := by
  refine GM.of (by decide) (dk rfl) ?_
  intro X eL eG eh ok fn
  subst eL; subst eG
  show GW X _ 0 0 [some (.ref a), some (.int (nI (n + 1))), none, none] []
  have ra := AL.rd ok.tab y0
  obtain ⟨rl, rc, rn, rs⟩ := id y0
  rcases rc with ⟨c0, c1, c2⟩ | ⟨c0, c1⟩
  · subst c0 c1 c2
    have n0 : n = 0 := by omega
    subst n0
    refine g_aload_n ok dJ2_grow_2_0 rfl ?_
    refine g_get ok ck_J2 1 q227 (Or.inl rfl) (by decide) dJ2_grow_2_1 (Rd.h (rl)) rfl ?_
    refine g_alen ok dJ2_grow_2_4 (Rd.k ok.tab.kst.2.1) (gt_r _) ?_
    refine g_istore_n ok dJ2_grow_2_5 (ls1 := [some (.ref a), some (.int (nI (0 + 1))), some (.int (nI 0)), none]) (dl rfl) rfl ?_
    refine g_iload_n ok dJ2_grow_2_6 rfl ?_
    refine g_if_gt ok (tgt := 20) dJ2_grow_2_7 (by decide) (fun c_ => absurd c_ (nI_nlt (a := 0) (b := 0) (by omega) (by omega))) (fun _ => ?_)
    refine g_aload_n ok dJ2_grow_2_10 rfl ?_
    refine g_get ok ck_J2 1 q227 (Or.inl rfl) (by decide) dJ2_grow_2_11 (Rd.h (rl)) rfl ?_
    refine g_gets ok (C := "java/util/ArrayList") (n := "DEFAULTCAPACITY_EMPTY_ELEMENTDATA") (d := "[Ljava/lang/Object;") (v := .ref (X.G.ga "E0")) (by simp [gzs]) q225 dJ2_grow_2_14 ?_
    refine g_acmp_eq ok (rx := some (X.G.ga "E0")) (ry := some (X.G.ga "E0")) (tgt := 45) dJ2_grow_2_17 (by decide) (fun _ => ?_) (fun c => absurd rfl c)
    refine g_aload_n ok dJ2_grow_2_45 rfl ?_
    refine g_bipush ok (v := 10) dJ2_grow_2_46 rfl ?_
    refine g_iload_n ok dJ2_grow_2_48 rfl ?_
    refine g_max ok q909 q576 q90 q577 dJ2_grow_2_49 (dk rfl) rfl (dk rfl) (by omega) ?_
    rw [if_neg (by decide)]
    refine g_newr ok (n := 10) q910 dJ2_grow_2_52 rfl (by decide) (by omega) (fun e hae hke h0e => ?_)
    have ne0 := Rd.ne (Rd.h (rl)) hae hke
    have ne1 := Rd.ne (Rd.k ok.tab.kst.2.1) hae hke
    refine g_dup_x1 ok dJ2_grow_2_55 rfl rfl ?_
    refine g_put ok ck_J2 1 q227 (Or.inl rfl) (by decide) rfl dJ2_grow_2_56 ((up_ne ne0).trans (rl)) (dl rfl) rfl rfl (fs1 := [.int mc, .ref e, .int (nI 0)]) rfl (?_)
    exact g_aret ok fn rfl (Or.inr ⟨_, rfl⟩) (Or.inr ⟨_, rfl⟩) dJ2_grow_2_59 ⟨_, rfl, e, 10, _, rfl, hae, hke, ne0, rfl, by decide, ⟨by decide, by decide⟩, fun j hj => absurd hj (Nat.not_lt_zero j)⟩ (by omega)
  · have nda : d ≠ a := fun e => by subst e; rw [rl] at c1; cases c1
    refine g_aload_n ok dJ2_grow_2_0 rfl ?_
    refine g_get ok ck_J2 1 q227 (Or.inl rfl) (by decide) dJ2_grow_2_1 (Rd.h (rl)) rfl ?_
    refine g_alen ok dJ2_grow_2_4 (Rd.h (c1)) (gt_r _) ?_
    refine g_istore_n ok dJ2_grow_2_5 (ls1 := [some (.ref a), some (.int (nI (n + 1))), some (.int (nI cap)), none]) (dl rfl) rfl ?_
    refine g_iload_n ok dJ2_grow_2_6 rfl ?_
    refine g_if_gt ok (tgt := 20) dJ2_grow_2_7 (by decide) (fun _ => ?_) (fun c_ => absurd (nI_lt (a := 0) (b := cap) (by omega) (by omega)) c_)
    refine g_iload_n ok dJ2_grow_2_20 rfl ?_
    refine g_iload_n ok dJ2_grow_2_21 rfl ?_
    refine g_iload_n ok dJ2_grow_2_22 rfl ?_
    refine g_isubN ok dJ2_grow_2_23 (c := 1) (a := (n + 1)) (b := cap) rfl rfl (by omega) (by omega) ?_
    refine g_iload_n ok dJ2_grow_2_24 rfl ?_
    refine g_iconst ok (v := 1) dJ2_grow_2_25 rfl ?_
    refine g_ishr ok dJ2_grow_2_26 ?_
    rw [show ((1 : Int32) &&& 31) = 1 from rfl, pk_shrN (by omega) 1 1 (by decide)]
    refine g_callS ok q864 q573 q89 q574 dJ2_grow_2_27 (a_newLength X.l X.G _ cap 1 (cap / 2 ^ 1) (by omega) (by omega) (by omega) (by omega)) (nm_ (by decide : nmb _ 3 = true)) (dl rfl) (dk rfl) rfl rfl (dk rfl) (by omega) (kV ?_) xV
    obtain ⟨m, hm⟩ : ∃ m, cap + max 1 (cap / 2 ^ 1) = m := ⟨_, rfl⟩
    have hm2 : cap < m ∧ m ≤ 2 * cap + 1 := by omega
    rw [hm]
    refine g_istore_n ok dJ2_grow_2_30 (ls1 := [some (.ref a), some (.int (nI (n + 1))), some (.int (nI cap)), some (.int (nI m))]) (dl rfl) rfl ?_
    refine g_aload_n ok dJ2_grow_2_31 rfl ?_
    refine g_aload_n ok dJ2_grow_2_32 rfl ?_
    refine g_get ok ck_J2 1 q227 (Or.inl rfl) (by decide) dJ2_grow_2_33 (Rd.h (rl)) rfl ?_
    refine g_iload_n ok dJ2_grow_2_36 rfl ?_
    refine g_callS ok q865 q866 q91 q867 dJ2_grow_2_37 (a_copyOf2 X.l X.G _ d cap m f (c1) (by omega) (by omega) hel) (nm_ (by decide : nmb _ 2 = true)) (dl rfl) (dk rfl) rfl rfl (dk rfl) (by omega) (kR fun v hh ⟨e37, z1, z2, z3, z4⟩ => ?_) xR
    subst z1; subst z4
    have ne0 := Rd.ne (Rd.h (rl)) z2 z3
    have ne1 := Rd.ne (Rd.h (c1)) z2 z3
    refine g_dup_x1 ok dJ2_grow_2_40 rfl rfl ?_
    refine g_put ok ck_J2 1 q227 (Or.inl rfl) (by decide) rfl dJ2_grow_2_41 ((up_ne ne0).trans (rl)) (dl rfl) rfl rfl (fs1 := [.int mc, .ref e37, .int (nI n)]) rfl (?_)
    exact g_aret ok fn rfl (Or.inr ⟨_, rfl⟩) (Or.inr ⟨_, rfl⟩) dJ2_grow_2_44 ⟨_, rfl, e37, m, _, rfl, z2, z3, ne0, rfl, by omega, ⟨by omega, by omega⟩, fun j hj => cpy0 (by omega)⟩ (by omega)
