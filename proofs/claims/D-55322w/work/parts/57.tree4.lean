/-! the tree: made, copied -/
set_option maxRecDepth 100000
abbrev cX3_init : ByteArray := prog_12_method_1_code
def yX3_init : MethodName := ⟨RX3, "<init>", "(II)V"⟩
def dkwX3_init_0 : List UInt8 := [42, 183, 0, 1, 42, 27, 181, 0, 7, 42, 28, 181, 0, 13, 177]
abbrev dktX3_init_0 : List UInt8 := dkwX3_init_0 ++ []
theorem dksX3_init_0 : cX3_init.data.toList.drop 0 = dktX3_init_0 := by decide +kernel
theorem dX3_init_0 : decode cX3_init 0 = .ok (.aload_n 0, 1) := dk_42 (dk_at dksX3_init_0 0 rfl rfl)
theorem dX3_init_1 : decode cX3_init 1 = .ok (.invokespecial 1, 3) := dk_183 0 1 (dk_at dksX3_init_0 1 rfl rfl)
theorem dX3_init_4 : decode cX3_init 4 = .ok (.aload_n 0, 1) := dk_42 (dk_at dksX3_init_0 4 rfl rfl)
theorem dX3_init_5 : decode cX3_init 5 = .ok (.iload_n 1, 1) := dk_27 (dk_at dksX3_init_0 5 rfl rfl)
theorem dX3_init_6 : decode cX3_init 6 = .ok (.putfield 7, 3) := dk_181 0 7 (dk_at dksX3_init_0 6 rfl rfl)
theorem dX3_init_9 : decode cX3_init 9 = .ok (.aload_n 0, 1) := dk_42 (dk_at dksX3_init_0 9 rfl rfl)
theorem dX3_init_10 : decode cX3_init 10 = .ok (.iload_n 2, 1) := dk_28 (dk_at dksX3_init_0 10 rfl rfl)
theorem dX3_init_11 : decode cX3_init 11 = .ok (.putfield 13, 3) := dk_181 0 13 (dk_at dksX3_init_0 11 rfl rfl)
theorem dX3_init_14 : decode cX3_init 14 = .ok (.return_, 1) := dk_177 (dk_at dksX3_init_0 14 rfl rfl)
abbrev cX4_init : ByteArray := prog_11_method_1_code
def yX4_init : MethodName := ⟨RX4, "<init>", "(I)V"⟩
def dkwX4_init_0 : List UInt8 := [42, 27, 27, 183, 0, 1, 177]
abbrev dktX4_init_0 : List UInt8 := dkwX4_init_0 ++ []
theorem dksX4_init_0 : cX4_init.data.toList.drop 0 = dktX4_init_0 := by decide +kernel
theorem dX4_init_0 : decode cX4_init 0 = .ok (.aload_n 0, 1) := dk_42 (dk_at dksX4_init_0 0 rfl rfl)
theorem dX4_init_1 : decode cX4_init 1 = .ok (.iload_n 1, 1) := dk_27 (dk_at dksX4_init_0 1 rfl rfl)
theorem dX4_init_2 : decode cX4_init 2 = .ok (.iload_n 1, 1) := dk_27 (dk_at dksX4_init_0 2 rfl rfl)
theorem dX4_init_3 : decode cX4_init 3 = .ok (.invokespecial 1, 3) := dk_183 0 1 (dk_at dksX4_init_0 3 rfl rfl)
theorem dX4_init_6 : decode cX4_init 6 = .ok (.return_, 1) := dk_177 (dk_at dksX4_init_0 6 rfl rfl)
abbrev cX5_init : ByteArray := prog_6_method_1_code
def yX5_init : MethodName := ⟨RX5, "<init>", "(II)V"⟩
def dkwX5_init_0 : List UInt8 := [42, 27, 28, 183, 0, 1, 177]
abbrev dktX5_init_0 : List UInt8 := dkwX5_init_0 ++ []
theorem dksX5_init_0 : cX5_init.data.toList.drop 0 = dktX5_init_0 := by decide +kernel
theorem dX5_init_0 : decode cX5_init 0 = .ok (.aload_n 0, 1) := dk_42 (dk_at dksX5_init_0 0 rfl rfl)
theorem dX5_init_1 : decode cX5_init 1 = .ok (.iload_n 1, 1) := dk_27 (dk_at dksX5_init_0 1 rfl rfl)
theorem dX5_init_2 : decode cX5_init 2 = .ok (.iload_n 2, 1) := dk_28 (dk_at dksX5_init_0 2 rfl rfl)
theorem dX5_init_3 : decode cX5_init 3 = .ok (.invokespecial 1, 3) := dk_183 0 1 (dk_at dksX5_init_0 3 rfl rfl)
theorem dX5_init_6 : decode cX5_init 6 = .ok (.return_, 1) := dk_177 (dk_at dksX5_init_0 6 rfl rfl)
abbrev cX6_init : ByteArray := prog_4_method_1_code
def yX6_init : MethodName := ⟨RX6, "<init>", "(IILSpanRuler$Node;LSpanRuler$Node;)V"⟩
def dkwX6_init_1 : List UInt8 := [42, 25, 4, 181, 0, 20, 177]
abbrev dktX6_init_1 : List UInt8 := dkwX6_init_1 ++ []
def dkwX6_init_0 : List UInt8 := [42, 27, 28, 183, 0, 1, 42, 187, 0, 7, 89, 4, 3, 183, 0, 9, 181, 0, 10, 42, 45, 181, 0, 16]
abbrev dktX6_init_0 : List UInt8 := dkwX6_init_0 ++ dktX6_init_1
theorem dksX6_init_0 : cX6_init.data.toList.drop 0 = dktX6_init_0 := by decide +kernel
theorem dksX6_init_1 : cX6_init.data.toList.drop 24 = dktX6_init_1 := dk_seg dksX6_init_0 24 rfl rfl
theorem dX6_init_0 : decode cX6_init 0 = .ok (.aload_n 0, 1) := dk_42 (dk_at dksX6_init_0 0 rfl rfl)
theorem dX6_init_1 : decode cX6_init 1 = .ok (.iload_n 1, 1) := dk_27 (dk_at dksX6_init_0 1 rfl rfl)
theorem dX6_init_2 : decode cX6_init 2 = .ok (.iload_n 2, 1) := dk_28 (dk_at dksX6_init_0 2 rfl rfl)
theorem dX6_init_3 : decode cX6_init 3 = .ok (.invokespecial 1, 3) := dk_183 0 1 (dk_at dksX6_init_0 3 rfl rfl)
theorem dX6_init_6 : decode cX6_init 6 = .ok (.aload_n 0, 1) := dk_42 (dk_at dksX6_init_0 6 rfl rfl)
theorem dX6_init_7 : decode cX6_init 7 = .ok (.new 7, 3) := dk_187 0 7 (dk_at dksX6_init_0 7 rfl rfl)
theorem dX6_init_10 : decode cX6_init 10 = .ok (.dup, 1) := dk_89 (dk_at dksX6_init_0 10 rfl rfl)
theorem dX6_init_11 : decode cX6_init 11 = .ok (.iconst 1, 1) := dk_4 (dk_at dksX6_init_0 11 rfl rfl)
theorem dX6_init_12 : decode cX6_init 12 = .ok (.iconst 0, 1) := dk_3 (dk_at dksX6_init_0 12 rfl rfl)
theorem dX6_init_13 : decode cX6_init 13 = .ok (.invokespecial 9, 3) := dk_183 0 9 (dk_at dksX6_init_0 13 rfl rfl)
theorem dX6_init_16 : decode cX6_init 16 = .ok (.putfield 10, 3) := dk_181 0 10 (dk_at dksX6_init_0 16 rfl rfl)
theorem dX6_init_19 : decode cX6_init 19 = .ok (.aload_n 0, 1) := dk_42 (dk_at dksX6_init_0 19 rfl rfl)
theorem dX6_init_20 : decode cX6_init 20 = .ok (.aload_n 3, 1) := dk_45 (dk_at dksX6_init_0 20 rfl rfl)
theorem dX6_init_21 : decode cX6_init 21 = .ok (.putfield 16, 3) := dk_181 0 16 (dk_at dksX6_init_0 21 rfl rfl)
theorem dX6_init_24 : decode cX6_init 24 = .ok (.aload_n 0, 1) := dk_42 (dk_at dksX6_init_1 0 rfl rfl)
theorem dX6_init_25 : decode cX6_init 25 = .ok (.aload 4, 2) := dk_25 4 (dk_at dksX6_init_1 1 rfl rfl)
theorem dX6_init_27 : decode cX6_init 27 = .ok (.putfield 20, 3) := dk_181 0 20 (dk_at dksX6_init_1 3 rfl rfl)
theorem dX6_init_30 : decode cX6_init 30 = .ok (.return_, 1) := dk_177 (dk_at dksX6_init_1 6 rfl rfl)
abbrev cX1_tree : ByteArray := prog_1_method_11_code
def yX1_tree : MethodName := ⟨RX1, "tree", "(II)LSpanRuler$Node;"⟩
def dkwX1_tree_1 : List UInt8 := [187, 0, 48, 89, 26, 27, 26, 28, 184, 0, 50, 28, 4, 96, 27, 184, 0, 50, 183, 0, 54, 176]
abbrev dktX1_tree_1 : List UInt8 := dkwX1_tree_1 ++ []
def dkwX1_tree_0 : List UInt8 := [26, 27, 96, 5, 108, 61, 26, 27, 160, 0, 14, 187, 0, 43, 89, 26, 183, 0, 45, 167, 0, 24]
abbrev dktX1_tree_0 : List UInt8 := dkwX1_tree_0 ++ dktX1_tree_1
theorem dksX1_tree_0 : cX1_tree.data.toList.drop 0 = dktX1_tree_0 := by decide +kernel
theorem dksX1_tree_1 : cX1_tree.data.toList.drop 22 = dktX1_tree_1 := dk_seg dksX1_tree_0 22 rfl rfl
theorem dX1_tree_0 : decode cX1_tree 0 = .ok (.iload_n 0, 1) := dk_26 (dk_at dksX1_tree_0 0 rfl rfl)
theorem dX1_tree_1 : decode cX1_tree 1 = .ok (.iload_n 1, 1) := dk_27 (dk_at dksX1_tree_0 1 rfl rfl)
theorem dX1_tree_2 : decode cX1_tree 2 = .ok (.iadd, 1) := dk_96 (dk_at dksX1_tree_0 2 rfl rfl)
theorem dX1_tree_3 : decode cX1_tree 3 = .ok (.iconst 2, 1) := dk_5 (dk_at dksX1_tree_0 3 rfl rfl)
theorem dX1_tree_4 : decode cX1_tree 4 = .ok (.idiv, 1) := dk_108 (dk_at dksX1_tree_0 4 rfl rfl)
theorem dX1_tree_5 : decode cX1_tree 5 = .ok (.istore_n 2, 1) := dk_61 (dk_at dksX1_tree_0 5 rfl rfl)
theorem dX1_tree_6 : decode cX1_tree 6 = .ok (.iload_n 0, 1) := dk_26 (dk_at dksX1_tree_0 6 rfl rfl)
theorem dX1_tree_7 : decode cX1_tree 7 = .ok (.iload_n 1, 1) := dk_27 (dk_at dksX1_tree_0 7 rfl rfl)
theorem dX1_tree_8 : decode cX1_tree 8 = .ok (.if_icmp .ne 14, 3) := dk_160 0 14 (dk_at dksX1_tree_0 8 rfl rfl)
theorem dX1_tree_11 : decode cX1_tree 11 = .ok (.new 43, 3) := dk_187 0 43 (dk_at dksX1_tree_0 11 rfl rfl)
theorem dX1_tree_14 : decode cX1_tree 14 = .ok (.dup, 1) := dk_89 (dk_at dksX1_tree_0 14 rfl rfl)
theorem dX1_tree_15 : decode cX1_tree 15 = .ok (.iload_n 0, 1) := dk_26 (dk_at dksX1_tree_0 15 rfl rfl)
theorem dX1_tree_16 : decode cX1_tree 16 = .ok (.invokespecial 45, 3) := dk_183 0 45 (dk_at dksX1_tree_0 16 rfl rfl)
theorem dX1_tree_19 : decode cX1_tree 19 = .ok (.goto 24, 3) := dk_167 0 24 (dk_at dksX1_tree_0 19 rfl rfl)
theorem dX1_tree_22 : decode cX1_tree 22 = .ok (.new 48, 3) := dk_187 0 48 (dk_at dksX1_tree_1 0 rfl rfl)
theorem dX1_tree_25 : decode cX1_tree 25 = .ok (.dup, 1) := dk_89 (dk_at dksX1_tree_1 3 rfl rfl)
theorem dX1_tree_26 : decode cX1_tree 26 = .ok (.iload_n 0, 1) := dk_26 (dk_at dksX1_tree_1 4 rfl rfl)
theorem dX1_tree_27 : decode cX1_tree 27 = .ok (.iload_n 1, 1) := dk_27 (dk_at dksX1_tree_1 5 rfl rfl)
theorem dX1_tree_28 : decode cX1_tree 28 = .ok (.iload_n 0, 1) := dk_26 (dk_at dksX1_tree_1 6 rfl rfl)
theorem dX1_tree_29 : decode cX1_tree 29 = .ok (.iload_n 2, 1) := dk_28 (dk_at dksX1_tree_1 7 rfl rfl)
theorem dX1_tree_30 : decode cX1_tree 30 = .ok (.invokestatic 50, 3) := dk_184 0 50 (dk_at dksX1_tree_1 8 rfl rfl)
theorem dX1_tree_33 : decode cX1_tree 33 = .ok (.iload_n 2, 1) := dk_28 (dk_at dksX1_tree_1 11 rfl rfl)
theorem dX1_tree_34 : decode cX1_tree 34 = .ok (.iconst 1, 1) := dk_4 (dk_at dksX1_tree_1 12 rfl rfl)
theorem dX1_tree_35 : decode cX1_tree 35 = .ok (.iadd, 1) := dk_96 (dk_at dksX1_tree_1 13 rfl rfl)
theorem dX1_tree_36 : decode cX1_tree 36 = .ok (.iload_n 1, 1) := dk_27 (dk_at dksX1_tree_1 14 rfl rfl)
theorem dX1_tree_37 : decode cX1_tree 37 = .ok (.invokestatic 50, 3) := dk_184 0 50 (dk_at dksX1_tree_1 15 rfl rfl)
theorem dX1_tree_40 : decode cX1_tree 40 = .ok (.invokespecial 54, 3) := dk_183 0 54 (dk_at dksX1_tree_1 18 rfl rfl)
theorem dX1_tree_43 : decode cX1_tree 43 = .ok (.areturn, 1) := dk_176 (dk_at dksX1_tree_1 21 rfl rfl)
theorem q140 : (Jvm.Cond.methodLink "SpanRuler$Node" (1 : Nat) ({ cls := "java/lang/Object", name := "<init>", desc := "()V" } : Jvm.MethodName)) ∈ lw_all := lw_g (lw_at lw_m1 80 rfl) rfl
theorem q137 : (Jvm.Cond.methodLink "SpanRuler$Leaf" (1 : Nat) ({ cls := "SpanRuler$Node", name := "<init>", desc := "(II)V" } : Jvm.MethodName)) ∈ lw_all := lw_g (lw_at lw_m1 77 rfl) rfl
theorem q139 : (Jvm.Cond.code ({ cls := "SpanRuler$Node", name := "<init>", desc := "(II)V" } : Jvm.MethodName) prog_12_method_1_code (3 : Nat) (Option.none : Option Jvm.ClassFile.FieldType)) ∈ lw_all := lw_g (lw_at lw_m1 79 rfl) rfl
theorem q138 : (Jvm.Cond.instanceMethod ({ cls := "SpanRuler$Node", name := "<init>", desc := "(II)V" } : Jvm.MethodName)) ∈ lw_all := lw_g (lw_at lw_m1 78 rfl) rfl
theorem q184 : (Jvm.Cond.methodLink "SpanRuler$Inner" (1 : Nat) ({ cls := "SpanRuler$Node", name := "<init>", desc := "(II)V" } : Jvm.MethodName)) ∈ lw_all := lw_g (lw_at lw_m1 124 rfl) rfl
theorem q181 : (Jvm.Cond.methodLink "SpanRuler$Branch" (1 : Nat) ({ cls := "SpanRuler$Inner", name := "<init>", desc := "(II)V" } : Jvm.MethodName)) ∈ lw_all := lw_g (lw_at lw_m1 121 rfl) rfl
theorem q65 : (Jvm.Cond.initialized "SpanRuler$Inner") ∈ lw_all := lw_g (lw_at lw_m1 5 rfl) rfl
theorem q183 : (Jvm.Cond.code ({ cls := "SpanRuler$Inner", name := "<init>", desc := "(II)V" } : Jvm.MethodName) prog_6_method_1_code (3 : Nat) (Option.none : Option Jvm.ClassFile.FieldType)) ∈ lw_all := lw_g (lw_at lw_m1 123 rfl) rfl
theorem q182 : (Jvm.Cond.instanceMethod ({ cls := "SpanRuler$Inner", name := "<init>", desc := "(II)V" } : Jvm.MethodName)) ∈ lw_all := lw_g (lw_at lw_m1 122 rfl) rfl
theorem q133 : (Jvm.Cond.instantiable "SpanRuler$Leaf" (5 : Nat)) ∈ lw_all := lw_g (lw_at lw_m1 73 rfl) rfl
theorem q64 : (Jvm.Cond.initialized "SpanRuler$Leaf") ∈ lw_all := lw_g (lw_at lw_m1 4 rfl) rfl
theorem q132 : (Jvm.Cond.classLink "SpanRuler" (43 : Nat) "SpanRuler$Leaf") ∈ lw_all := lw_g (lw_at lw_m1 72 rfl) rfl
theorem q134 : (Jvm.Cond.methodLink "SpanRuler" (45 : Nat) ({ cls := "SpanRuler$Leaf", name := "<init>", desc := "(I)V" } : Jvm.MethodName)) ∈ lw_all := lw_g (lw_at lw_m1 74 rfl) rfl
theorem q136 : (Jvm.Cond.code ({ cls := "SpanRuler$Leaf", name := "<init>", desc := "(I)V" } : Jvm.MethodName) prog_11_method_1_code (2 : Nat) (Option.none : Option Jvm.ClassFile.FieldType)) ∈ lw_all := lw_g (lw_at lw_m1 76 rfl) rfl
theorem q135 : (Jvm.Cond.instanceMethod ({ cls := "SpanRuler$Leaf", name := "<init>", desc := "(I)V" } : Jvm.MethodName)) ∈ lw_all := lw_g (lw_at lw_m1 75 rfl) rfl
theorem q176 : (Jvm.Cond.instantiable "SpanRuler$Branch" (8 : Nat)) ∈ lw_all := lw_g (lw_at lw_m1 116 rfl) rfl
theorem q177 : (Jvm.Cond.methodLink "SpanRuler" (50 : Nat) ({ cls := "SpanRuler", name := "tree", desc := "(II)LSpanRuler$Node;" } : Jvm.MethodName)) ∈ lw_all := lw_g (lw_at lw_m1 117 rfl) rfl
theorem q131 : (Jvm.Cond.code ({ cls := "SpanRuler", name := "tree", desc := "(II)LSpanRuler$Node;" } : Jvm.MethodName) prog_1_method_11_code (3 : Nat) (Option.some (Jvm.ClassFile.FieldType.object "SpanRuler$Node"))) ∈ lw_all := lw_g (lw_at lw_m1 71 rfl) rfl
theorem q130 : (Jvm.Cond.static ({ cls := "SpanRuler", name := "tree", desc := "(II)LSpanRuler$Node;" } : Jvm.MethodName)) ∈ lw_all := lw_g (lw_at lw_m1 70 rfl) rfl
theorem q178 : (Jvm.Cond.methodLink "SpanRuler" (54 : Nat) ({ cls := "SpanRuler$Branch", name := "<init>", desc := "(IILSpanRuler$Node;LSpanRuler$Node;)V" } : Jvm.MethodName)) ∈ lw_all := lw_g (lw_at lw_m1 118 rfl) rfl
theorem q180 : (Jvm.Cond.code ({ cls := "SpanRuler$Branch", name := "<init>", desc := "(IILSpanRuler$Node;LSpanRuler$Node;)V" } : Jvm.MethodName) prog_4_method_1_code (5 : Nat) (Option.none : Option Jvm.ClassFile.FieldType)) ∈ lw_all := lw_g (lw_at lw_m1 120 rfl) rfl
theorem q179 : (Jvm.Cond.instanceMethod ({ cls := "SpanRuler$Branch", name := "<init>", desc := "(IILSpanRuler$Node;LSpanRuler$Node;)V" } : Jvm.MethodName)) ∈ lw_all := lw_g (lw_at lw_m1 119 rfl) rfl
def KeepAll (h h' : AH) : Prop := ∀ q e, h q = some e → h' q = some e
theorem KeepAll.refl (h : AH) : KeepAll h h := fun _ _ x => x
theorem KeepAll.trans {h h1 h2 : AH} (a : KeepAll h h1) (b : KeepAll h1 h2) : KeepAll h h2 := fun q e x => b q e (a q e x)
theorem KeepAll.new {h : AH} {t : Nat} {e : va_E} (ht : h t = none) : KeepAll h (up h t e) := fun q e x => by
  rw [up_ne (fun z => by subst z; rw [ht] at x; cases x)]; exact x
/-- what was written was new -/
theorem KeepAll.put {h h1 : AH} {a : Nat} {e : va_E} (k : KeepAll h h1) (ha : h a = none) : KeepAll h (up h1 a e) := fun q e x => by
  rw [up_ne (fun z => by subst z; rw [ha] at x; cases x)]; exact k q e x
theorem KeepAll.nn0 {h h1 : AH} (k : KeepAll h h1) {q : Nat} (n : h1 q = none) : h q = none := by
  cases e : h q with
  | none => rfl
  | some y => rw [k q y e] at n; cases n
theorem KeepAll.tree {h h1 : AH} (k : KeepAll h h1) {P : Nat → Prop} {d : Nat} {v : Nat → Int32} {lo a : Nat} (x : TreeAt h P d v lo a) (h32 : lo + sz d ≤ 32) : TreeAt h1 P d v lo a := TreeAt.keep d v lo a h32 x fun q e z _ => k q e z
theorem KeepAll.rd {G : GE} {h h1 : AH} (k : KeepAll h h1) {a : Nat} {e : va_E} (r : Rd G h a e) : Rd G h1 a e := r.elim (fun z => Or.inl (k a e z)) Or.inr
/-- what a tree costs -/
def trc : Nat → Nat
  | 0 => 6
  | d + 1 => 12 + trc d + trc d
theorem mid_ {lo k : Nat} (h : 0 < k) (hb : lo + k + k < 1000) : nI (lo + (lo + (k + k) - 1)) / 2 = nI (lo + k - 1) := by
  rw [show (2 : Int32) = nI 2 from rfl, pk_div (by omega) (by omega) (by omega)]
  congr 1; omega
theorem x_ninitX4 (l : Launch) (G : GE) (h : AH) (a : Nat) (i0 j0 s g m : Int32) (ra : h a = some (ob 2 [.int i0, .int j0, .int s, .int g, .int m])) (x y : Int32) : GM l G yX3_init (ws_ yX3_init cX3_init 3 none) 1 [.ref a, .int x, .int y] (h) (0) (PN (up h a (ob 2 [.int x, .int y, .int s, .int g, .int m]))) := by
  refine GM.of (by decide) (dk rfl) ?_
  intro X eL eG eh ok fn
  subst eL; subst eG
  show GW X _ 0 0 [some (.ref a), some (.int x), some (.int y)] []
  refine g_aload_n ok dX3_init_0 rfl ?_
  refine g_objInit ok q140 q121 q122 dX3_init_1 (dk rfl) rfl (dk rfl) ?_
  refine g_aload_n ok dX3_init_4 rfl ?_
  refine g_iload_n ok dX3_init_5 rfl ?_
  refine g_putF ok ck_X4 0 q141 rfl (by decide) rfl rfl rfl dX3_init_6 (ra) (dl rfl) rfl rfl (fs1 := [.int x, .int j0, .int s, .int g, .int m]) rfl (?_)
  refine g_aload_n ok dX3_init_9 rfl ?_
  refine g_iload_n ok dX3_init_10 rfl ?_
  refine g_putF ok ck_X4 1 q146 rfl (by decide) rfl rfl rfl dX3_init_11 (up_self) (dl rfl) rfl rfl (fs1 := [.int x, .int y, .int s, .int g, .int m]) rfl (?_)
  exact g_vret ok fn rfl dX3_init_14 ⟨rfl, up_up⟩ (by omega)
theorem x_ninitX6 (l : Launch) (G : GE) (h : AH) (a : Nat) (i0 j0 s g m : Int32) (l0 r0 t0 : Value) (ra : h a = some (ob 3 [.int i0, .int j0, .int s, .int g, .int m, l0, r0, t0])) (x y : Int32) : GM l G yX3_init (ws_ yX3_init cX3_init 3 none) 1 [.ref a, .int x, .int y] (h) (0) (PN (up h a (ob 3 [.int x, .int y, .int s, .int g, .int m, l0, r0, t0]))) := by
  refine GM.of (by decide) (dk rfl) ?_
  intro X eL eG eh ok fn
  subst eL; subst eG
  show GW X _ 0 0 [some (.ref a), some (.int x), some (.int y)] []
  refine g_aload_n ok dX3_init_0 rfl ?_
  refine g_objInit ok q140 q121 q122 dX3_init_1 (dk rfl) rfl (dk rfl) ?_
  refine g_aload_n ok dX3_init_4 rfl ?_
  refine g_iload_n ok dX3_init_5 rfl ?_
  refine g_putF ok ck_X6 0 q141 rfl (by decide) rfl rfl rfl dX3_init_6 (ra) (dl rfl) rfl rfl (fs1 := [.int x, .int j0, .int s, .int g, .int m, l0, r0, t0]) rfl (?_)
  refine g_aload_n ok dX3_init_9 rfl ?_
  refine g_iload_n ok dX3_init_10 rfl ?_
  refine g_putF ok ck_X6 1 q146 rfl (by decide) rfl rfl rfl dX3_init_11 (up_self) (dl rfl) rfl rfl (fs1 := [.int x, .int y, .int s, .int g, .int m, l0, r0, t0]) rfl (?_)
  exact g_vret ok fn rfl dX3_init_14 ⟨rfl, up_up⟩ (by omega)
theorem x_linit (l : Launch) (G : GE) (h : AH) (a : Nat) (i0 j0 s g m : Int32) (ra : h a = some (ob 2 [.int i0, .int j0, .int s, .int g, .int m])) (x : Int32) : GM l G yX4_init (ws_ yX4_init cX4_init 2 none) 2 [.ref a, .int x] (h) (0) (PN (up h a (ob 2 [.int x, .int x, .int s, .int g, .int m]))) := by
  refine GM.of (by decide) (dk rfl) ?_
  intro X eL eG eh ok fn
  subst eL; subst eG
  show GW X _ 0 0 [some (.ref a), some (.int x)] []
  refine g_aload_n ok dX4_init_0 rfl ?_
  refine g_iload_n ok dX4_init_1 rfl ?_
  refine g_iload_n ok dX4_init_2 rfl ?_
  refine g_callI ok q137 q138 q63 q139 rfl dX4_init_3 (x_ninitX4 X.l X.G _ a i0 j0 s g m (ra) x x) (nm_ (by decide : nmb _ 2 = true)) (dl rfl) (dk rfl) rfl rfl (dk rfl) (by omega) (kN ?_) xN
  exact g_vret ok fn rfl dX4_init_6 ⟨rfl, rfl⟩ (by omega)
theorem x_iinit (l : Launch) (G : GE) (h : AH) (a : Nat) (i0 j0 s g m : Int32) (l0 r0 t0 : Value) (ra : h a = some (ob 3 [.int i0, .int j0, .int s, .int g, .int m, l0, r0, t0])) (x y : Int32) : GM l G yX5_init (ws_ yX5_init cX5_init 3 none) 2 [.ref a, .int x, .int y] (h) (0) (PN (up h a (ob 3 [.int x, .int y, .int s, .int g, .int m, l0, r0, t0]))) := by
  refine GM.of (by decide) (dk rfl) ?_
  intro X eL eG eh ok fn
  subst eL; subst eG
  show GW X _ 0 0 [some (.ref a), some (.int x), some (.int y)] []
  refine g_aload_n ok dX5_init_0 rfl ?_
  refine g_iload_n ok dX5_init_1 rfl ?_
  refine g_iload_n ok dX5_init_2 rfl ?_
  refine g_callI ok q184 q138 q63 q139 rfl dX5_init_3 (x_ninitX6 X.l X.G _ a i0 j0 s g m l0 r0 t0 (ra) x y) (nm_ (by decide : nmb _ 2 = true)) (dl rfl) (dk rfl) rfl rfl (dk rfl) (by omega) (kN ?_) xN
  exact g_vret ok fn rfl dX5_init_6 ⟨rfl, rfl⟩ (by omega)
theorem x_binit (l : Launch) (G : GE) (h : AH) (a : Nat) (ra : h a = some (ob 3 [.int 0, .int 0, .int 0, .int 0, .int 0, .null, .null, .null])) (x y : Int32) (cl cr : Nat) : GM l G yX6_init (ws_ yX6_init cX6_init 5 none) 3 [.ref a, .int x, .int y, .ref cl, .ref cr] (h) (3) (PQ fun h' => ∃ t, h t = none ∧ G.kh t = none ∧ h' = up (up h t (ob 4 [.int 1, .int 0])) a (ob 3 [.int x, .int y, .int 0, .int 0, .int 0, .ref cl, .ref cr, .ref t])) := by
  refine GM.of (by decide) (dk rfl) ?_
  intro X eL eG eh ok fn
  subst eL; subst eG
  show GW X _ 0 0 [some (.ref a), some (.int x), some (.int y), some (.ref cl), some (.ref cr)] []
  refine g_aload_n ok dX6_init_0 rfl ?_
  refine g_iload_n ok dX6_init_1 rfl ?_
  refine g_iload_n ok dX6_init_2 rfl ?_
  refine g_callI ok q181 q182 q65 q183 rfl dX6_init_3 (x_iinit X.l X.G _ a 0 0 0 0 0 .null .null .null (ra) x y) (nm_ (by decide : nmb _ 2 = true)) (dl rfl) (dk rfl) rfl rfl (dk rfl) (by omega) (kN ?_) xN
  refine g_aload_n ok dX6_init_6 rfl ?_
  refine g_new ok ck_X7 q185 q186 q67 dX6_init_7 (fs := [.int 0, .int 0]) (by intro j hj; rcases (by omega : j = 0 ∨ j = 1) with rfl | rfl <;> rfl) (by omega) (fun t hat hkt h0t => ?_)
  have ne0 := Rd.ne (Rd.h (up_self)) hat hkt
  refine g_dup ok dX6_init_10 rfl ?_
  refine g_iconst ok (v := 1) dX6_init_11 rfl ?_
  refine g_iconst ok (v := 0) dX6_init_12 rfl ?_
  refine g_callI ok q187 q188 q67 q189 rfl dX6_init_13 (x_actInit X.l X.G _ t 1 0 up_self) (nm_ (by decide : nmb _ 2 = true)) (dl rfl) (dk rfl) rfl rfl (dk rfl) (by omega) (kN ?_) xN
  simp only [up_up]
  refine g_put ok ck_X6 7 q200 (Or.inl rfl) (by decide) rfl dX6_init_16 ((up_ne ne0).trans (up_self)) (dl rfl) rfl rfl (fs1 := [.int x, .int y, .int 0, .int 0, .int 0, .null, .null, .ref t]) rfl (?_)
  refine g_aload_n ok dX6_init_19 rfl ?_
  refine g_aload_n ok dX6_init_20 rfl ?_
  refine g_putF ok ck_X6 5 q198 rfl (by decide) rfl rfl rfl dX6_init_21 (up_self) (dl rfl) rfl rfl (fs1 := [.int x, .int y, .int 0, .int 0, .int 0, .ref cl, .null, .ref t]) rfl (?_)
  refine g_aload_n ok dX6_init_24 rfl ?_
  refine g_aload ok dX6_init_25 rfl ?_
  refine g_putF ok ck_X6 6 q199 rfl (by decide) rfl rfl rfl dX6_init_27 (up_self) (dl rfl) rfl rfl (fs1 := [.int x, .int y, .int 0, .int 0, .int 0, .ref cl, .ref cr, .ref t]) rfl (?_)
  refine g_vret ok fn rfl dX6_init_30 ⟨rfl, t, up_none hat, hkt, ?_⟩ (by omega)
  funext z; by_cases z1 : z = a
  · subst z1; rw [up_self, up_self]
  · simp only [up_ne z1]; by_cases z2 : z = t
    · subst z2; simp only [up_self]
    · simp only [up_ne z2, up_ne z1]
def T_tree (l : Launch) (G : GE) (d Lv : Nat) : Prop := ∀ (h : AH) (lo hi K : Nat), hi = lo + sz d - 1 → lo + sz d ≤ 32 → trc d ≤ K → GM l G yX1_tree (ws_ yX1_tree cX1_tree 3 (some (.object "SpanRuler$Node"))) Lv [.int (nI lo), .int (nI hi)] h K (PR fun u h' => ∃ a, u = .ref a ∧ TreeAt h' (fun q => h q = none) d (fun _ => 0) lo a ∧ KeepAll h h')
theorem q_tree0 (l : Launch) (G : GE) (h : AH) (lo hi K : Nat) (e : hi = lo + sz 0 - 1) (h32 : lo + sz 0 ≤ 32) (hK : trc 0 ≤ K) : GM l G yX1_tree (ws_ yX1_tree cX1_tree 3 (some (.object "SpanRuler$Node"))) 5 [.int (nI lo), .int (nI hi)] (h) (K) (PR fun u h' => ∃ a, u = .ref a ∧ TreeAt h' (fun q => h q = none) 0 (fun _ => 0) lo a ∧ KeepAll h h') := by
  refine GM.of (by decide) (dk rfl) ?_
  intro X eL eG eh ok fn
  subst eL; subst eG
  show GW X _ 0 0 [some (.int (nI lo)), some (.int (nI hi)), none] []
  have z0 : sz 0 = 1 := rfl
  have z2 : hi = lo := by omega
  subst z2
  have hK2 : 6 ≤ K := hK
  refine g_iload_n ok dX1_tree_0 rfl ?_
  refine g_iload_n ok dX1_tree_1 rfl ?_
  refine g_iaddN ok dX1_tree_2 (c := (hi + hi)) (a := hi) (b := hi) rfl rfl rfl ?_
  refine g_iconst ok (v := 2) dX1_tree_3 rfl ?_
  refine g_idiv ok dX1_tree_4 (by decide) ?_
  refine g_istore_n ok dX1_tree_5 (ls1 := [some (.int (nI hi)), some (.int (nI hi)), some (.int ((nI (hi + hi)) / 2))]) (dl rfl) rfl ?_
  refine g_iload_n ok dX1_tree_6 rfl ?_
  refine g_iload_n ok dX1_tree_7 rfl ?_
  refine g_icmp_ne ok (tgt := 22) dX1_tree_8 (by decide) (fun c_ => absurd (congrArg nI (by omega : hi = hi)) c_) (fun _ => ?_)
  refine g_new ok ck_X4 q132 q133 q64 dX1_tree_11 (fs := [.int 0, .int 0, .int 0, .int 0, .int 0]) (by intro j hj; rcases (by omega : j = 0 ∨ j = 1 ∨ j = 2 ∨ j = 3 ∨ j = 4) with rfl | rfl | rfl | rfl | rfl <;> rfl) (by omega) (fun a haa hka h0a => ?_)
  refine g_dup ok dX1_tree_14 rfl ?_
  refine g_iload_n ok dX1_tree_15 rfl ?_
  refine g_callI ok q134 q135 q64 q136 rfl dX1_tree_16 (x_linit X.l X.G _ a 0 0 0 0 0 (up_self) (nI hi)) (nm_ (by decide : nmb _ 1 = true)) (by omega) (dk rfl) rfl rfl (dk rfl) (by omega) (kN ?_) xN
  refine g_goto ok dX1_tree_19 (tgt := 43) (by decide) ?_
  exact g_aret ok fn rfl (Or.inl ⟨_, rfl⟩) (Or.inr ⟨_, rfl⟩) dX1_tree_43 ⟨_, rfl, a, rfl, ⟨haa, (by decide : inR 0 (-999) 999 = true), up_self⟩, (KeepAll.new haa).put haa⟩ (by omega)
theorem q_treeS (l : Launch) (G : GE) (d : Nat) (ih : T_tree l G d (5 + d)) (h : AH) (lo hi K : Nat) (e : hi = lo + sz (d + 1) - 1) (h32 : lo + sz (d + 1) ≤ 32) (hK : trc (d + 1) ≤ K) : GM l G yX1_tree (ws_ yX1_tree cX1_tree 3 (some (.object "SpanRuler$Node"))) (6 + d) [.int (nI lo), .int (nI hi)] (h) (K) (PR fun u h' => ∃ a, u = .ref a ∧ TreeAt h' (fun q => h q = none) (d + 1) (fun _ => 0) lo a ∧ KeepAll h h') := by
  refine GM.of (by decide) (dk rfl) ?_
  intro X eL eG eh ok fn
  subst eL; subst eG
  show GW X _ 0 0 [some (.int (nI lo)), some (.int (nI hi)), none] []
  have es : sz (d + 1) = sz d + sz d := rfl
  have sp := sz_pos d
  rw [es] at e h32
  subst e
  have hK2 : 12 + trc d + trc d ≤ K := hK
  refine g_iload_n ok dX1_tree_0 rfl ?_
  refine g_iload_n ok dX1_tree_1 rfl ?_
  refine g_iaddN ok dX1_tree_2 (c := (lo + (lo + (sz d + sz d) - 1))) (a := lo) (b := (lo + (sz d + sz d) - 1)) rfl rfl rfl ?_
  refine g_iconst ok (v := 2) dX1_tree_3 rfl ?_
  refine g_idiv ok dX1_tree_4 (by decide) ?_
  rw [mid_ (k := sz d) sp (by omega)]
  refine g_istore_n ok dX1_tree_5 (ls1 := [some (.int (nI lo)), some (.int (nI (lo + (sz d + sz d) - 1))), some (.int (nI (lo + sz d - 1)))]) (dl rfl) rfl ?_
  refine g_iload_n ok dX1_tree_6 rfl ?_
  refine g_iload_n ok dX1_tree_7 rfl ?_
  refine g_icmp_ne ok (tgt := 22) dX1_tree_8 (by decide) (fun _ => ?_) (fun c_ => absurd c_ (fun e_ => by have := (nI_eq (a := lo) (b := (lo + (sz d + sz d) - 1)) (by omega) (by omega)).mp e_; omega))
  refine g_new ok ck_X6 q175 q176 q66 dX1_tree_22 (fs := [.int 0, .int 0, .int 0, .int 0, .int 0, .null, .null, .null]) (by intro j hj; rcases (by omega : j = 0 ∨ j = 1 ∨ j = 2 ∨ j = 3 ∨ j = 4 ∨ j = 5 ∨ j = 6 ∨ j = 7) with rfl | rfl | rfl | rfl | rfl | rfl | rfl | rfl <;> rfl) (by omega) (fun a haa hka h0a => ?_)
  refine g_dup ok dX1_tree_25 rfl ?_
  refine g_iload_n ok dX1_tree_26 rfl ?_
  refine g_iload_n ok dX1_tree_27 rfl ?_
  refine g_iload_n ok dX1_tree_28 rfl ?_
  refine g_iload_n ok dX1_tree_29 rfl ?_
  refine g_callS ok q177 q130 q61 q131 dX1_tree_30 (ih _ lo (lo + sz d - 1) (trc d) (by omega) (by omega) (Nat.le_refl _)) (nm_ (by decide : nmb _ 2 = true)) (by omega) (dk rfl) rfl rfl (dk rfl) (by omega) (kR fun u1 h1 ⟨cl, e1, t1, k1⟩ => ?_) xR
  subst e1
  have r1 := k1 a _ up_self
  refine g_iload_n ok dX1_tree_33 rfl ?_
  refine g_iconst ok (v := 1) dX1_tree_34 rfl ?_
  refine g_iaddN ok dX1_tree_35 (c := ((lo + sz d - 1) + 1)) (a := (lo + sz d - 1)) (b := 1) rfl rfl rfl ?_
  refine g_iload_n ok dX1_tree_36 rfl ?_
  refine g_callS ok q177 q130 q61 q131 dX1_tree_37 (ih _ (lo + sz d - 1 + 1) (lo + (sz d + sz d) - 1) (trc d) (by omega) (by omega) (Nat.le_refl _)) (nm_ (by decide : nmb _ 2 = true)) (by omega) (dk rfl) rfl rfl (dk rfl) (by omega) (kR fun u2 h2 ⟨cr, e2, t2, k2⟩ => ?_) xR
  subst e2
  have r2 := k2 a _ r1
  have e9 : lo + sz d - 1 + 1 = lo + sz d := by omega
  rw [e9] at t2
  refine g_callI ok q178 q179 q66 q180 rfl dX1_tree_40 (x_binit X.l X.G _ a r2 (nI lo) (nI (lo + (sz d + sz d) - 1)) cl cr) (nm_ (by decide : nmb _ 4 = true)) (by omega) (dk rfl) rfl rfl (dk rfl) (by omega) (kQ fun h3 ⟨t, c1, c2, c3⟩ => ?_) xQ
  subst c3
  have c4 : h2 t = none := c1
  have nat : a ≠ t := fun z => by subst z; rw [r2] at c1; cases c1
  have ha1 := (up_ne (h := h2) (e := ob 4 [.int 1, .int 0]) nat).trans r2
  have k12 : KeepAll h h2 := ((KeepAll.new haa).trans k1).trans k2
  have ht0 : h t = none := k12.nn0 c1
  have pl : ∀ q, up h a (ob 3 [.int 0, .int 0, .int 0, .int 0, .int 0, .null, .null, .null]) q = none → h q = none := fun q z => up_none z
  have tl0 : TreeAt h2 (fun q => up h a (ob 3 [.int 0, .int 0, .int 0, .int 0, .int 0, .null, .null, .null]) q = none) d (fun _ => 0) lo cl := k2.tree t1 (by omega)
  have tr0 : TreeAt h2 (fun q => up h a (ob 3 [.int 0, .int 0, .int 0, .int 0, .int 0, .null, .null, .null]) q = none) d (fun _ => 0) (lo + sz d) cr := TreeAt.mono (fun q z _ => k1.nn0 z) d _ _ _ t2
  have na : ¬ up h a (ob 3 [.int 0, .int 0, .int 0, .int 0, .int 0, .null, .null, .null]) a = none := by rw [up_self]; exact fun z => by cases z
  have up2 : ∀ lo2 b, lo2 + sz d ≤ 32 → TreeAt h2 (fun q => up h a (ob 3 [.int 0, .int 0, .int 0, .int 0, .int 0, .null, .null, .null]) q = none) d (fun _ => 0) lo2 b → ∀ e, TreeAt (up (up h2 t (ob 4 [.int 1, .int 0])) a e) (fun q => h q = none) d (fun _ => 0) lo2 b := by
    intro lo2 b hb x e
    refine TreeAt.mono (fun q z _ => pl q z) d _ _ _ (TreeAt.keep d _ _ _ hb (x.upN (e := ob 4 [.int 1, .int 0]) c1 hb) fun q e2 z1 z2 => ?_)
    rw [up_ne (fun z => ?_)]; exact z1
    subst z; rcases z2 with z2 | ⟨l2, z2⟩
    · exact na z2.1
    · rw [ha1, z2] at z1; cases z1
  refine g_aret ok fn rfl (Or.inl ⟨_, rfl⟩) (Or.inr ⟨_, rfl⟩) dX1_tree_43 ⟨_, rfl, a, rfl, ⟨cl, cr, t, 1, 0, 0, 0, fun _ => 0, ⟨haa, ?_, ?_, ?_, (up_ne (Ne.symm nat)).trans up_self, Or.inr (Or.inl rfl), fun c _ _ => by simp, fun c _ _ => (by decide : inR 0 (-999) 999 = true)⟩, up2 lo cl (by omega) tl0 _, up2 (lo + sz d) cr (by omega) tr0 _⟩, (k12.trans (KeepAll.new c1)).put haa⟩ (by omega)
  · rw [up_self, tsum_zero _ _ (fun _ _ _ => rfl)]
  · exact ⟨fun _ _ _ => Int32.le_refl _, lo, Nat.le_refl _, by omega, rfl⟩
  · exact ⟨fun _ _ _ => Int32.le_refl _, lo, Nat.le_refl _, by omega, rfl⟩
theorem q_tree (l : Launch) (G : GE) : ∀ d, T_tree l G d (5 + d) := by
  intro d
  induction d with
  | zero => exact fun h lo hi K e h32 hK => q_tree0 l G h lo hi K e h32 hK
  | succ d ih =>
    intro h lo hi K e h32 hK
    rw [show 5 + (d + 1) = 6 + d by omega]
    exact q_treeS l G d ih h lo hi K e h32 hK
