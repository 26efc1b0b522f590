/-! exceptions -/
set_option maxRecDepth 100000
theorem q78 : (Jvm.Cond.initialized "java/lang/Throwable") ∈ lw_all := lw_g (lw_at lw_m1 18 rfl) rfl
theorem q454 : (Jvm.Cond.superclass "java/lang/Throwable" "java/lang/Object") ∈ lw_all := lw_g (lw_at lw_m2 154 rfl) rfl
theorem q463 : (Jvm.Cond.instanceMethod ({ cls := "java/lang/Throwable", name := "fillInStackTrace", desc := "()Ljava/lang/Throwable;" } : Jvm.MethodName)) ∈ lw_all := lw_g (lw_at lw_m2 163 rfl) rfl
theorem q473 : (Jvm.Cond.codeSync ({ cls := "java/lang/Throwable", name := "fillInStackTrace", desc := "()Ljava/lang/Throwable;" } : Jvm.MethodName) prog_46_method_18_code (1 : Nat) (Option.some (Jvm.ClassFile.FieldType.object "java/lang/Throwable"))) ∈ lw_all := lw_g (lw_at lw_m2 173 rfl) rfl
theorem q476 : (Jvm.Cond.instanceMethod ({ cls := "java/lang/Throwable", name := "fillInStackTrace", desc := "(I)Ljava/lang/Throwable;" } : Jvm.MethodName)) ∈ lw_all := lw_g (lw_at lw_m2 176 rfl) rfl
theorem q478 : (Jvm.Cond.native ({ cls := "java/lang/Throwable", name := "fillInStackTrace", desc := "(I)Ljava/lang/Throwable;" } : Jvm.MethodName)) ∈ lw_all := lw_g (lw_at lw_m2 178 rfl) rfl
theorem q455 : (Jvm.Cond.instanceMethod ({ cls := "java/lang/Throwable", name := "<init>", desc := "()V" } : Jvm.MethodName)) ∈ lw_all := lw_g (lw_at lw_m2 155 rfl) rfl
theorem q456 : (Jvm.Cond.code ({ cls := "java/lang/Throwable", name := "<init>", desc := "()V" } : Jvm.MethodName) prog_46_method_1_code (1 : Nat) (Option.none : Option Jvm.ClassFile.FieldType)) ∈ lw_all := lw_g (lw_at lw_m2 156 rfl) rfl
theorem q457 : (Jvm.Cond.methodLink "java/lang/Throwable" (1 : Nat) ({ cls := "java/lang/Object", name := "<init>", desc := "()V" } : Jvm.MethodName)) ∈ lw_all := lw_g (lw_at lw_m2 157 rfl) rfl
theorem q462 : (Jvm.Cond.methodLink "java/lang/Throwable" (27 : Nat) ({ cls := "java/lang/Throwable", name := "fillInStackTrace", desc := "()Ljava/lang/Throwable;" } : Jvm.MethodName)) ∈ lw_all := lw_g (lw_at lw_m2 162 rfl) rfl
theorem q474 : (Jvm.Cond.methodLink "java/lang/Throwable" (202 : Nat) ({ cls := "java/lang/Throwable", name := "fillInStackTrace", desc := "(I)Ljava/lang/Throwable;" } : Jvm.MethodName)) ∈ lw_all := lw_g (lw_at lw_m2 174 rfl) rfl
theorem q491 : (Jvm.Cond.fieldLink "java/lang/Throwable" (7 : Nat) "java/lang/Throwable" "cause" "Ljava/lang/Throwable;") ∈ lw_all := lw_g (lw_at lw_m2 191 rfl) rfl
theorem q444 : (Jvm.Cond.lays "java/lang/Throwable" "java/lang/Throwable" "cause" "Ljava/lang/Throwable;") ∈ lw_all := lw_g (lw_at lw_m2 144 rfl) rfl
theorem q492 : (Jvm.Cond.fieldLink "java/lang/Throwable" (17 : Nat) "java/lang/Throwable" "stackTrace" "[Ljava/lang/StackTraceElement;") ∈ lw_all := lw_g (lw_at lw_m2 192 rfl) rfl
theorem q446 : (Jvm.Cond.lays "java/lang/Throwable" "java/lang/Throwable" "stackTrace" "[Ljava/lang/StackTraceElement;") ∈ lw_all := lw_g (lw_at lw_m2 146 rfl) rfl
theorem q493 : (Jvm.Cond.fieldLink "java/lang/Throwable" (24 : Nat) "java/lang/Throwable" "suppressedExceptions" "Ljava/util/List;") ∈ lw_all := lw_g (lw_at lw_m2 193 rfl) rfl
theorem q448 : (Jvm.Cond.lays "java/lang/Throwable" "java/lang/Throwable" "suppressedExceptions" "Ljava/util/List;") ∈ lw_all := lw_g (lw_at lw_m2 148 rfl) rfl
theorem q458 : (Jvm.Cond.fieldLink "java/lang/Throwable" (13 : Nat) "java/lang/Throwable" "UNASSIGNED_STACK" "[Ljava/lang/StackTraceElement;") ∈ lw_all := lw_g (lw_at lw_m2 158 rfl) rfl
theorem q460 : (Jvm.Cond.fieldLink "java/lang/Throwable" (20 : Nat) "java/lang/Throwable" "SUPPRESSED_SENTINEL" "Ljava/util/List;") ∈ lw_all := lw_g (lw_at lw_m2 160 rfl) rfl
theorem q450 : (Jvm.Cond.lays "java/lang/Throwable" "java/lang/Throwable" "detailMessage" "Ljava/lang/String;") ∈ lw_all := lw_g (lw_at lw_m2 150 rfl) rfl
theorem q486 : (Jvm.Cond.instanceMethod ({ cls := "java/lang/Exception", name := "<init>", desc := "()V" } : Jvm.MethodName)) ∈ lw_all := lw_g (lw_at lw_m2 186 rfl) rfl
theorem q487 : (Jvm.Cond.code ({ cls := "java/lang/Exception", name := "<init>", desc := "()V" } : Jvm.MethodName) prog_29_method_1_code (1 : Nat) (Option.none : Option Jvm.ClassFile.FieldType)) ∈ lw_all := lw_g (lw_at lw_m2 187 rfl) rfl
theorem q488 : (Jvm.Cond.methodLink "java/lang/Exception" (1 : Nat) ({ cls := "java/lang/Throwable", name := "<init>", desc := "()V" } : Jvm.MethodName)) ∈ lw_all := lw_g (lw_at lw_m2 188 rfl) rfl
theorem q439 : (Jvm.Cond.declares ({ cls := "java/lang/Throwable", name := "<init>", desc := "()V" } : Jvm.MethodName)) ∈ lw_tbl := lw_at lw_m2 139 rfl
theorem q483 : (Jvm.Cond.instanceMethod ({ cls := "java/lang/RuntimeException", name := "<init>", desc := "()V" } : Jvm.MethodName)) ∈ lw_all := lw_g (lw_at lw_m2 183 rfl) rfl
theorem q484 : (Jvm.Cond.code ({ cls := "java/lang/RuntimeException", name := "<init>", desc := "()V" } : Jvm.MethodName) prog_38_method_1_code (1 : Nat) (Option.none : Option Jvm.ClassFile.FieldType)) ∈ lw_all := lw_g (lw_at lw_m2 184 rfl) rfl
theorem q485 : (Jvm.Cond.methodLink "java/lang/RuntimeException" (1 : Nat) ({ cls := "java/lang/Exception", name := "<init>", desc := "()V" } : Jvm.MethodName)) ∈ lw_all := lw_g (lw_at lw_m2 185 rfl) rfl
theorem q437 : (Jvm.Cond.declares ({ cls := "java/lang/Exception", name := "<init>", desc := "()V" } : Jvm.MethodName)) ∈ lw_tbl := lw_at lw_m2 137 rfl
theorem q1024 : (Jvm.Cond.instanceMethod ({ cls := "java/lang/IllegalArgumentException", name := "<init>", desc := "()V" } : Jvm.MethodName)) ∈ lw_all := lw_g (lw_at lw_m5 4 rfl) rfl
theorem q1025 : (Jvm.Cond.code ({ cls := "java/lang/IllegalArgumentException", name := "<init>", desc := "()V" } : Jvm.MethodName) prog_30_method_1_code (1 : Nat) (Option.none : Option Jvm.ClassFile.FieldType)) ∈ lw_all := lw_g (lw_at lw_m5 5 rfl) rfl
theorem q1026 : (Jvm.Cond.methodLink "java/lang/IllegalArgumentException" (1 : Nat) ({ cls := "java/lang/RuntimeException", name := "<init>", desc := "()V" } : Jvm.MethodName)) ∈ lw_all := lw_g (lw_at lw_m5 6 rfl) rfl
theorem q435 : (Jvm.Cond.declares ({ cls := "java/lang/RuntimeException", name := "<init>", desc := "()V" } : Jvm.MethodName)) ∈ lw_tbl := lw_at lw_m2 135 rfl
theorem q743 : (Jvm.Cond.instantiable "java/lang/IllegalArgumentException" (6 : Nat)) ∈ lw_all := lw_g (lw_at lw_m3 203 rfl) rfl
theorem q744 : (Jvm.Cond.castable "java/lang/IllegalArgumentException" "java/lang/IllegalArgumentException") ∈ lw_tbl := lw_at lw_m3 204 rfl
theorem q745 : (Jvm.Cond.selects "java/lang/IllegalArgumentException" ({ cls := "java/lang/Throwable", name := "fillInStackTrace", desc := "(I)Ljava/lang/Throwable;" } : Jvm.MethodName) ({ cls := "java/lang/Throwable", name := "fillInStackTrace", desc := "(I)Ljava/lang/Throwable;" } : Jvm.MethodName)) ∈ lw_all := lw_g (lw_at lw_m3 205 rfl) rfl
theorem q468 : (Jvm.Cond.selects "java/lang/IllegalArgumentException" ({ cls := "java/lang/Throwable", name := "fillInStackTrace", desc := "()Ljava/lang/Throwable;" } : Jvm.MethodName) ({ cls := "java/lang/Throwable", name := "fillInStackTrace", desc := "()Ljava/lang/Throwable;" } : Jvm.MethodName)) ∈ lw_all := lw_g (lw_at lw_m2 168 rfl) rfl
theorem q746 : (Jvm.Cond.lays "java/lang/IllegalArgumentException" "java/lang/Throwable" "cause" "Ljava/lang/Throwable;") ∈ lw_all := lw_g (lw_at lw_m3 206 rfl) rfl
theorem q747 : (Jvm.Cond.lays "java/lang/IllegalArgumentException" "java/lang/Throwable" "stackTrace" "[Ljava/lang/StackTraceElement;") ∈ lw_all := lw_g (lw_at lw_m3 207 rfl) rfl
theorem q748 : (Jvm.Cond.lays "java/lang/IllegalArgumentException" "java/lang/Throwable" "suppressedExceptions" "Ljava/util/List;") ∈ lw_all := lw_g (lw_at lw_m3 208 rfl) rfl
theorem q749 : (Jvm.Cond.lays "java/lang/IllegalArgumentException" "java/lang/Throwable" "detailMessage" "Ljava/lang/String;") ∈ lw_all := lw_g (lw_at lw_m3 209 rfl) rfl
theorem q453 : (Jvm.Cond.fieldLink "java/lang/Throwable" (198 : Nat) "java/lang/Throwable" "backtrace" "Ljava/lang/Object;") ∈ lw_all := lw_g (lw_at lw_m2 153 rfl) rfl
theorem q452 : (Jvm.Cond.lays "java/lang/Throwable" "java/lang/Throwable" "backtrace" "Ljava/lang/Object;") ∈ lw_all := lw_g (lw_at lw_m2 152 rfl) rfl
theorem q750 : (Jvm.Cond.lays "java/lang/IllegalArgumentException" "java/lang/Throwable" "backtrace" "Ljava/lang/Object;") ∈ lw_all := lw_g (lw_at lw_m3 210 rfl) rfl
theorem q1245 : (Jvm.Cond.instanceMethod ({ cls := "java/lang/IndexOutOfBoundsException", name := "<init>", desc := "()V" } : Jvm.MethodName)) ∈ lw_all := lw_g (lw_at lw_m5 225 rfl) rfl
theorem q1246 : (Jvm.Cond.code ({ cls := "java/lang/IndexOutOfBoundsException", name := "<init>", desc := "()V" } : Jvm.MethodName) prog_32_method_1_code (1 : Nat) (Option.none : Option Jvm.ClassFile.FieldType)) ∈ lw_all := lw_g (lw_at lw_m5 226 rfl) rfl
theorem q1247 : (Jvm.Cond.methodLink "java/lang/IndexOutOfBoundsException" (1 : Nat) ({ cls := "java/lang/RuntimeException", name := "<init>", desc := "()V" } : Jvm.MethodName)) ∈ lw_all := lw_g (lw_at lw_m5 227 rfl) rfl
theorem q542 : (Jvm.Cond.instantiable "java/lang/IndexOutOfBoundsException" (6 : Nat)) ∈ lw_all := lw_g (lw_at lw_m3 2 rfl) rfl
theorem q543 : (Jvm.Cond.castable "java/lang/IndexOutOfBoundsException" "java/lang/IndexOutOfBoundsException") ∈ lw_tbl := lw_at lw_m3 3 rfl
theorem q544 : (Jvm.Cond.selects "java/lang/IndexOutOfBoundsException" ({ cls := "java/lang/Throwable", name := "fillInStackTrace", desc := "(I)Ljava/lang/Throwable;" } : Jvm.MethodName) ({ cls := "java/lang/Throwable", name := "fillInStackTrace", desc := "(I)Ljava/lang/Throwable;" } : Jvm.MethodName)) ∈ lw_all := lw_g (lw_at lw_m3 4 rfl) rfl
theorem q470 : (Jvm.Cond.selects "java/lang/IndexOutOfBoundsException" ({ cls := "java/lang/Throwable", name := "fillInStackTrace", desc := "()Ljava/lang/Throwable;" } : Jvm.MethodName) ({ cls := "java/lang/Throwable", name := "fillInStackTrace", desc := "()Ljava/lang/Throwable;" } : Jvm.MethodName)) ∈ lw_all := lw_g (lw_at lw_m2 170 rfl) rfl
theorem q545 : (Jvm.Cond.lays "java/lang/IndexOutOfBoundsException" "java/lang/Throwable" "cause" "Ljava/lang/Throwable;") ∈ lw_all := lw_g (lw_at lw_m3 5 rfl) rfl
theorem q546 : (Jvm.Cond.lays "java/lang/IndexOutOfBoundsException" "java/lang/Throwable" "stackTrace" "[Ljava/lang/StackTraceElement;") ∈ lw_all := lw_g (lw_at lw_m3 6 rfl) rfl
theorem q547 : (Jvm.Cond.lays "java/lang/IndexOutOfBoundsException" "java/lang/Throwable" "suppressedExceptions" "Ljava/util/List;") ∈ lw_all := lw_g (lw_at lw_m3 7 rfl) rfl
theorem q548 : (Jvm.Cond.lays "java/lang/IndexOutOfBoundsException" "java/lang/Throwable" "detailMessage" "Ljava/lang/String;") ∈ lw_all := lw_g (lw_at lw_m3 8 rfl) rfl
theorem q549 : (Jvm.Cond.lays "java/lang/IndexOutOfBoundsException" "java/lang/Throwable" "backtrace" "Ljava/lang/Object;") ∈ lw_all := lw_g (lw_at lw_m3 9 rfl) rfl
theorem q1671 : (Jvm.Cond.instanceMethod ({ cls := "java/lang/IllegalStateException", name := "<init>", desc := "()V" } : Jvm.MethodName)) ∈ lw_all := lw_g (lw_at lw_m7 171 rfl) rfl
theorem q1672 : (Jvm.Cond.code ({ cls := "java/lang/IllegalStateException", name := "<init>", desc := "()V" } : Jvm.MethodName) prog_31_method_1_code (1 : Nat) (Option.none : Option Jvm.ClassFile.FieldType)) ∈ lw_all := lw_g (lw_at lw_m7 172 rfl) rfl
theorem q1673 : (Jvm.Cond.methodLink "java/lang/IllegalStateException" (1 : Nat) ({ cls := "java/lang/RuntimeException", name := "<init>", desc := "()V" } : Jvm.MethodName)) ∈ lw_all := lw_g (lw_at lw_m7 173 rfl) rfl
theorem q1662 : (Jvm.Cond.instantiable "java/lang/IllegalStateException" (6 : Nat)) ∈ lw_all := lw_g (lw_at lw_m7 162 rfl) rfl
theorem q1663 : (Jvm.Cond.castable "java/lang/IllegalStateException" "java/lang/IllegalStateException") ∈ lw_tbl := lw_at lw_m7 163 rfl
theorem q1664 : (Jvm.Cond.selects "java/lang/IllegalStateException" ({ cls := "java/lang/Throwable", name := "fillInStackTrace", desc := "(I)Ljava/lang/Throwable;" } : Jvm.MethodName) ({ cls := "java/lang/Throwable", name := "fillInStackTrace", desc := "(I)Ljava/lang/Throwable;" } : Jvm.MethodName)) ∈ lw_all := lw_g (lw_at lw_m7 164 rfl) rfl
theorem q469 : (Jvm.Cond.selects "java/lang/IllegalStateException" ({ cls := "java/lang/Throwable", name := "fillInStackTrace", desc := "()Ljava/lang/Throwable;" } : Jvm.MethodName) ({ cls := "java/lang/Throwable", name := "fillInStackTrace", desc := "()Ljava/lang/Throwable;" } : Jvm.MethodName)) ∈ lw_all := lw_g (lw_at lw_m2 169 rfl) rfl
theorem q1665 : (Jvm.Cond.lays "java/lang/IllegalStateException" "java/lang/Throwable" "cause" "Ljava/lang/Throwable;") ∈ lw_all := lw_g (lw_at lw_m7 165 rfl) rfl
theorem q1666 : (Jvm.Cond.lays "java/lang/IllegalStateException" "java/lang/Throwable" "stackTrace" "[Ljava/lang/StackTraceElement;") ∈ lw_all := lw_g (lw_at lw_m7 166 rfl) rfl
theorem q1667 : (Jvm.Cond.lays "java/lang/IllegalStateException" "java/lang/Throwable" "suppressedExceptions" "Ljava/util/List;") ∈ lw_all := lw_g (lw_at lw_m7 167 rfl) rfl
theorem q1668 : (Jvm.Cond.lays "java/lang/IllegalStateException" "java/lang/Throwable" "detailMessage" "Ljava/lang/String;") ∈ lw_all := lw_g (lw_at lw_m7 168 rfl) rfl
theorem q1669 : (Jvm.Cond.lays "java/lang/IllegalStateException" "java/lang/Throwable" "backtrace" "Ljava/lang/Object;") ∈ lw_all := lw_g (lw_at lw_m7 169 rfl) rfl
theorem q480 : (Jvm.Cond.instanceMethod ({ cls := "java/util/NoSuchElementException", name := "<init>", desc := "()V" } : Jvm.MethodName)) ∈ lw_all := lw_g (lw_at lw_m2 180 rfl) rfl
theorem q481 : (Jvm.Cond.code ({ cls := "java/util/NoSuchElementException", name := "<init>", desc := "()V" } : Jvm.MethodName) prog_65_method_1_code (1 : Nat) (Option.none : Option Jvm.ClassFile.FieldType)) ∈ lw_all := lw_g (lw_at lw_m2 181 rfl) rfl
theorem q482 : (Jvm.Cond.methodLink "java/util/NoSuchElementException" (1 : Nat) ({ cls := "java/lang/RuntimeException", name := "<init>", desc := "()V" } : Jvm.MethodName)) ∈ lw_all := lw_g (lw_at lw_m2 182 rfl) rfl
theorem q433 : (Jvm.Cond.instantiable "java/util/NoSuchElementException" (6 : Nat)) ∈ lw_all := lw_g (lw_at lw_m2 133 rfl) rfl
theorem q434 : (Jvm.Cond.castable "java/util/NoSuchElementException" "java/util/NoSuchElementException") ∈ lw_tbl := lw_at lw_m2 134 rfl
theorem q441 : (Jvm.Cond.selects "java/util/NoSuchElementException" ({ cls := "java/lang/Throwable", name := "fillInStackTrace", desc := "(I)Ljava/lang/Throwable;" } : Jvm.MethodName) ({ cls := "java/lang/Throwable", name := "fillInStackTrace", desc := "(I)Ljava/lang/Throwable;" } : Jvm.MethodName)) ∈ lw_all := lw_g (lw_at lw_m2 141 rfl) rfl
theorem q442 : (Jvm.Cond.selects "java/util/NoSuchElementException" ({ cls := "java/lang/Throwable", name := "fillInStackTrace", desc := "()Ljava/lang/Throwable;" } : Jvm.MethodName) ({ cls := "java/lang/Throwable", name := "fillInStackTrace", desc := "()Ljava/lang/Throwable;" } : Jvm.MethodName)) ∈ lw_all := lw_g (lw_at lw_m2 142 rfl) rfl
theorem q443 : (Jvm.Cond.lays "java/util/NoSuchElementException" "java/lang/Throwable" "cause" "Ljava/lang/Throwable;") ∈ lw_all := lw_g (lw_at lw_m2 143 rfl) rfl
theorem q445 : (Jvm.Cond.lays "java/util/NoSuchElementException" "java/lang/Throwable" "stackTrace" "[Ljava/lang/StackTraceElement;") ∈ lw_all := lw_g (lw_at lw_m2 145 rfl) rfl
theorem q447 : (Jvm.Cond.lays "java/util/NoSuchElementException" "java/lang/Throwable" "suppressedExceptions" "Ljava/util/List;") ∈ lw_all := lw_g (lw_at lw_m2 147 rfl) rfl
theorem q449 : (Jvm.Cond.lays "java/util/NoSuchElementException" "java/lang/Throwable" "detailMessage" "Ljava/lang/String;") ∈ lw_all := lw_g (lw_at lw_m2 149 rfl) rfl
theorem q451 : (Jvm.Cond.lays "java/util/NoSuchElementException" "java/lang/Throwable" "backtrace" "Ljava/lang/Object;") ∈ lw_all := lw_g (lw_at lw_m2 151 rfl) rfl
theorem q1146 : (Jvm.Cond.instanceMethod ({ cls := "java/lang/UnsupportedOperationException", name := "<init>", desc := "()V" } : Jvm.MethodName)) ∈ lw_all := lw_g (lw_at lw_m5 126 rfl) rfl
theorem q1147 : (Jvm.Cond.code ({ cls := "java/lang/UnsupportedOperationException", name := "<init>", desc := "()V" } : Jvm.MethodName) prog_47_method_1_code (1 : Nat) (Option.none : Option Jvm.ClassFile.FieldType)) ∈ lw_all := lw_g (lw_at lw_m5 127 rfl) rfl
theorem q1148 : (Jvm.Cond.methodLink "java/lang/UnsupportedOperationException" (1 : Nat) ({ cls := "java/lang/RuntimeException", name := "<init>", desc := "()V" } : Jvm.MethodName)) ∈ lw_all := lw_g (lw_at lw_m5 128 rfl) rfl
theorem q1137 : (Jvm.Cond.instantiable "java/lang/UnsupportedOperationException" (6 : Nat)) ∈ lw_all := lw_g (lw_at lw_m5 117 rfl) rfl
theorem q1138 : (Jvm.Cond.castable "java/lang/UnsupportedOperationException" "java/lang/UnsupportedOperationException") ∈ lw_tbl := lw_at lw_m5 118 rfl
theorem q1139 : (Jvm.Cond.selects "java/lang/UnsupportedOperationException" ({ cls := "java/lang/Throwable", name := "fillInStackTrace", desc := "(I)Ljava/lang/Throwable;" } : Jvm.MethodName) ({ cls := "java/lang/Throwable", name := "fillInStackTrace", desc := "(I)Ljava/lang/Throwable;" } : Jvm.MethodName)) ∈ lw_all := lw_g (lw_at lw_m5 119 rfl) rfl
theorem q472 : (Jvm.Cond.selects "java/lang/UnsupportedOperationException" ({ cls := "java/lang/Throwable", name := "fillInStackTrace", desc := "()Ljava/lang/Throwable;" } : Jvm.MethodName) ({ cls := "java/lang/Throwable", name := "fillInStackTrace", desc := "()Ljava/lang/Throwable;" } : Jvm.MethodName)) ∈ lw_all := lw_g (lw_at lw_m2 172 rfl) rfl
theorem q1140 : (Jvm.Cond.lays "java/lang/UnsupportedOperationException" "java/lang/Throwable" "cause" "Ljava/lang/Throwable;") ∈ lw_all := lw_g (lw_at lw_m5 120 rfl) rfl
theorem q1141 : (Jvm.Cond.lays "java/lang/UnsupportedOperationException" "java/lang/Throwable" "stackTrace" "[Ljava/lang/StackTraceElement;") ∈ lw_all := lw_g (lw_at lw_m5 121 rfl) rfl
theorem q1142 : (Jvm.Cond.lays "java/lang/UnsupportedOperationException" "java/lang/Throwable" "suppressedExceptions" "Ljava/util/List;") ∈ lw_all := lw_g (lw_at lw_m5 122 rfl) rfl
theorem q1143 : (Jvm.Cond.lays "java/lang/UnsupportedOperationException" "java/lang/Throwable" "detailMessage" "Ljava/lang/String;") ∈ lw_all := lw_g (lw_at lw_m5 123 rfl) rfl
theorem q1144 : (Jvm.Cond.lays "java/lang/UnsupportedOperationException" "java/lang/Throwable" "backtrace" "Ljava/lang/Object;") ∈ lw_all := lw_g (lw_at lw_m5 124 rfl) rfl
/-! exceptions: what the words say -/
def XA (X : GX) (L : List Cond) : Prop := ∀ w ∈ L, vx_no w = true → w.before X.args X.s = true ∧ vx_ot w = true
theorem XA.n {X : GX} : XA X [] := fun _ h => nomatch h
theorem XA.c {X : GX} {w : Cond} {B : List Cond} (h : vx_no w = true → w.before X.args X.s = true ∧ vx_ot w = true) (t : XA X B) : XA X (w :: B) := fun w' h' => (List.mem_cons.mp h').elim (fun e => by rw [e]; exact h) (t w')
theorem XA.app {X : GX} {A B : List Cond} (a : XA X A) (b : XA X B) : XA X (A ++ B) := fun w h => (List.mem_append.mp h).elim (a w) (b w)
section
variable {X : GX} {yM : MethodName} {cc : ByteArray} {nL : Nat} {rT : Option FieldType} {hH : List (Nat × Nat × Nat × Nat)} {lV kB : Nat} {hA : AH} {kc pc : Nat} {ls : List (Option Value)} {st : List Value}
theorem xa_g (ok : Ok X yM cc nL rT hH lV kB) {w : Cond} (h : w ∈ lw_all) : vx_no w = true → w.before X.args X.s = true ∧ vx_ot w = true := fun _ => ⟨ok.ts w h, by
  have g : goodWord w = true := (List.mem_filter.mp h).2
  unfold vx_ot; rw [g, Bool.or_true]⟩
theorem xa_t (ok : Ok X yM cc nL rT hH lV kB) {w : Cond} (h : w ∈ lw_tbl) (i : isTw w = true) (o : w.onTables = true) : vx_no w = true → w.before X.args X.s = true ∧ vx_ot w = true := fun _ => ⟨va_Nw.use o (ok.tw h i), by
  unfold vx_ot; rw [o, Bool.true_or]⟩
theorem xa_thr (ok : Ok X yM cc nL rT hH lV kB) : XA X Bundle.throwableAtoms := (XA.c (xa_g ok q78) (XA.c (xa_g ok q454) (XA.c (xa_g ok q463) (XA.c (xa_g ok q473) (XA.c (xa_g ok q476) (XA.c (xa_g ok q478) (XA.c (xa_g ok q455) (XA.c (xa_g ok q456) (XA.c (xa_g ok q121) (XA.c (xa_g ok q122) (XA.c (xa_g ok q457) (XA.c (xa_g ok q462) (XA.c (xa_g ok q474) (XA.c (xa_g ok q491) (XA.c (xa_g ok q444) (XA.c (xa_g ok q492) (XA.c (xa_g ok q446) (XA.c (xa_g ok q493) (XA.c (xa_g ok q448) (XA.c (xa_g ok q458) (XA.c (fun h => absurd h (by decide)) (XA.c (xa_g ok q460) (XA.c (fun h => absurd h (by decide)) (XA.c (xa_g ok q450) XA.n))))))))))))))))))))))))
theorem xa_exc (ok : Ok X yM cc nL rT hH lV kB) : XA X (Bundle.chain0Atoms "java/lang/Exception" []) := (XA.c (xa_g ok q486) (XA.c (xa_g ok q487) (XA.c (xa_g ok q488) (XA.c (xa_g ok q455) (XA.c (xa_t ok q439 rfl rfl) XA.n)))))
theorem xa_rt (ok : Ok X yM cc nL rT hH lV kB) : XA X (Bundle.chain0Atoms "java/lang/RuntimeException" ["java/lang/Exception"]) := (XA.c (xa_g ok q483) (XA.c (xa_g ok q484) (XA.c (xa_g ok q485) (XA.c (xa_g ok q486) (XA.c (xa_t ok q437 rfl rfl) (xa_exc ok))))))
theorem xa_J11 (ok : Ok X yM cc nL rT hH lV kB) {ic : Nat} (hi : Cond.methodLink yM.cls ic (Bundle.init0 "java/lang/IllegalArgumentException") ∈ lw_all) : XA X (Bundle.ownAtoms0 yM.cls ic "java/lang/IllegalArgumentException" ["java/lang/RuntimeException", "java/lang/Exception"]) := XA.app (XA.app (xa_thr ok) (XA.c (xa_g ok q1024) (XA.c (xa_g ok q1025) (XA.c (xa_g ok q1026) (XA.c (xa_g ok q483) (XA.c (xa_t ok q435 rfl rfl) (xa_rt ok))))))) (XA.c (xa_g ok hi) (XA.c (xa_g ok q743) (XA.c (xa_t ok q744 rfl rfl) (XA.c (xa_g ok q745) (XA.c (xa_g ok q468) (XA.c (xa_g ok q746) (XA.c (xa_g ok q747) (XA.c (xa_g ok q748) (XA.c (xa_g ok q749) (XA.c (fun h => absurd h (by decide)) (XA.c (fun h => absurd h (by decide)) (XA.c (xa_g ok q453) (XA.c (xa_g ok q452) (XA.c (xa_g ok q750) XA.n))))))))))))))
theorem xa_J17 (ok : Ok X yM cc nL rT hH lV kB) {ic : Nat} (hi : Cond.methodLink yM.cls ic (Bundle.init0 "java/lang/IndexOutOfBoundsException") ∈ lw_all) : XA X (Bundle.ownAtoms0 yM.cls ic "java/lang/IndexOutOfBoundsException" ["java/lang/RuntimeException", "java/lang/Exception"]) := XA.app (XA.app (xa_thr ok) (XA.c (xa_g ok q1245) (XA.c (xa_g ok q1246) (XA.c (xa_g ok q1247) (XA.c (xa_g ok q483) (XA.c (xa_t ok q435 rfl rfl) (xa_rt ok))))))) (XA.c (xa_g ok hi) (XA.c (xa_g ok q542) (XA.c (xa_t ok q543 rfl rfl) (XA.c (xa_g ok q544) (XA.c (xa_g ok q470) (XA.c (xa_g ok q545) (XA.c (xa_g ok q546) (XA.c (xa_g ok q547) (XA.c (xa_g ok q548) (XA.c (fun h => absurd h (by decide)) (XA.c (fun h => absurd h (by decide)) (XA.c (xa_g ok q453) (XA.c (xa_g ok q452) (XA.c (xa_g ok q549) XA.n))))))))))))))
theorem xa_J26 (ok : Ok X yM cc nL rT hH lV kB) {ic : Nat} (hi : Cond.methodLink yM.cls ic (Bundle.init0 "java/lang/IllegalStateException") ∈ lw_all) : XA X (Bundle.ownAtoms0 yM.cls ic "java/lang/IllegalStateException" ["java/lang/RuntimeException", "java/lang/Exception"]) := XA.app (XA.app (xa_thr ok) (XA.c (xa_g ok q1671) (XA.c (xa_g ok q1672) (XA.c (xa_g ok q1673) (XA.c (xa_g ok q483) (XA.c (xa_t ok q435 rfl rfl) (xa_rt ok))))))) (XA.c (xa_g ok hi) (XA.c (xa_g ok q1662) (XA.c (xa_t ok q1663 rfl rfl) (XA.c (xa_g ok q1664) (XA.c (xa_g ok q469) (XA.c (xa_g ok q1665) (XA.c (xa_g ok q1666) (XA.c (xa_g ok q1667) (XA.c (xa_g ok q1668) (XA.c (fun h => absurd h (by decide)) (XA.c (fun h => absurd h (by decide)) (XA.c (xa_g ok q453) (XA.c (xa_g ok q452) (XA.c (xa_g ok q1669) XA.n))))))))))))))
theorem xa_J13 (ok : Ok X yM cc nL rT hH lV kB) {ic : Nat} (hi : Cond.methodLink yM.cls ic (Bundle.init0 "java/util/NoSuchElementException") ∈ lw_all) : XA X (Bundle.ownAtoms0 yM.cls ic "java/util/NoSuchElementException" ["java/lang/RuntimeException", "java/lang/Exception"]) := XA.app (XA.app (xa_thr ok) (XA.c (xa_g ok q480) (XA.c (xa_g ok q481) (XA.c (xa_g ok q482) (XA.c (xa_g ok q483) (XA.c (xa_t ok q435 rfl rfl) (xa_rt ok))))))) (XA.c (xa_g ok hi) (XA.c (xa_g ok q433) (XA.c (xa_t ok q434 rfl rfl) (XA.c (xa_g ok q441) (XA.c (xa_g ok q442) (XA.c (xa_g ok q443) (XA.c (xa_g ok q445) (XA.c (xa_g ok q447) (XA.c (xa_g ok q449) (XA.c (fun h => absurd h (by decide)) (XA.c (fun h => absurd h (by decide)) (XA.c (xa_g ok q453) (XA.c (xa_g ok q452) (XA.c (xa_g ok q451) XA.n))))))))))))))
theorem xa_J23 (ok : Ok X yM cc nL rT hH lV kB) {ic : Nat} (hi : Cond.methodLink yM.cls ic (Bundle.init0 "java/lang/UnsupportedOperationException") ∈ lw_all) : XA X (Bundle.ownAtoms0 yM.cls ic "java/lang/UnsupportedOperationException" ["java/lang/RuntimeException", "java/lang/Exception"]) := XA.app (XA.app (xa_thr ok) (XA.c (xa_g ok q1146) (XA.c (xa_g ok q1147) (XA.c (xa_g ok q1148) (XA.c (xa_g ok q483) (XA.c (xa_t ok q435 rfl rfl) (xa_rt ok))))))) (XA.c (xa_g ok hi) (XA.c (xa_g ok q1137) (XA.c (xa_t ok q1138 rfl rfl) (XA.c (xa_g ok q1139) (XA.c (xa_g ok q472) (XA.c (xa_g ok q1140) (XA.c (xa_g ok q1141) (XA.c (xa_g ok q1142) (XA.c (xa_g ok q1143) (XA.c (fun h => absurd h (by decide)) (XA.c (fun h => absurd h (by decide)) (XA.c (xa_g ok q453) (XA.c (xa_g ok q452) (XA.c (xa_g ok q1144) XA.n))))))))))))))
/-- 'new E()' of the JDK's -/
theorem g_make0 (ok : Ok X yM cc nL rT hH lV kB) {cls : String} {T0 : u_T} {ik ic ci : Nat} (hc : gcl[ci]? = some (cls, T0, 0)) (hf : Bundle.fit cls = true) (hcl : Cond.classLink yM.cls ik cls ∈ lw_all) (hini : Cond.initialized cls ∈ lw_all) (hw : XA X (Bundle.ownAtoms0 yM.cls ic cls ["java/lang/RuntimeException", "java/lang/Exception"])) (d0 : decode cc pc = .ok (.new ik, 3)) (d3 : decode cc (pc + 3) = .ok (.dup, 1)) (d4 : decode cc (pc + 4) = .ok (.invokespecial ic, 3)) (hln : ls.length = nL) (hs : (st.map fun v => v.category).sum ≤ 8) (hLv : 1 ≤ lV) (hk : kc + 6 ≤ kB)
    (kk : ∀ a, hA a = none → X.G.kh a = none → X.h0 a = none → GW X (up hA a (ob ci [])) (kc + 6) (pc + 7) ls (.ref a :: st)) : GW X hA kc pc ls st := by
  intro H locs la hP hG hS hL
  obtain ⟨r1, r2, r3, r4⟩ := ok.rm
  have hat : ∀ w ∈ vx_at0 yM.cls ic cls ["java/lang/RuntimeException", "java/lang/Exception"], w.before X.args X.s = true ∧ vx_ot w = true := fun w h => hw w (List.mem_filter.mp h).1 (List.mem_filter.mp h).2
  refine vx_make0 (D := X.G.1) (cl := gcl) (tys := gtys X.G) (ws := []) (A := gA X.h0 X.s.heap.size) ok.x ok.b ok.tr ok.own hf (fun n hn => ?_) (ok.ts _ hcl) (ok.ts _ hini) (fun w h => (hat w h).1) (fun w h => ?_) ok.zu ok.zs hS (hL.1.trans (hln.trans ok.ml.symm)) d0 d3 d4 ok.k (fun k q h => nomatch h) ?_ (fun q hq => Or.inr hq) hc ?_ ?_ (by omega) (by omega) ?_
  · simp only [List.mem_cons, List.not_mem_nil, or_false] at hn
    rcases hn with e | e <;> subst e <;> decide
  · rcases List.mem_cons.mp h with e | h
    · rw [e]; exact (xa_g ok hcl (by rfl)).2
    · rcases List.mem_cons.mp h with e | h
      · rw [e]; exact (xa_g ok hini (by rfl)).2
      · exact (hat w h).2
  · exact ⟨(fun i j p q h => nomatch h), (fun k q h => nomatch h)⟩
  · show 2 + 3 < _
    omega
  · show _ + (13 * 3 + 42) ≤ _
    omega
  · intro q H1 hP1 hD1 hS1 eq hsz hsame T hT S
    subst eq
    have hq := hP1 0 _ rfl
    exact kk H.size hP.fresh.1 hP.fresh.2 (ok.fresh hS.1) H1 locs la (hP.upd (Or.inr (Nat.le_refl _)) (fun q hq _ => hsame q hq) hq) (hG.up (Or.inr hS.1)) hS1 hL T hT (stand_widen S (by omega) (by omega))
end
