/-! THE JDK's lists -/
set_option maxRecDepth 100000
abbrev cJ2_size : ByteArray := prog_52_method_8_code
def yJ2_size : MethodName := ⟨RJ2, "size", "()I"⟩
theorem dJ2_size_0 : decode cJ2_size 0 = .ok (.aload_n 0, 1) := by decide +kernel
theorem dJ2_size_1 : decode cJ2_size 1 = .ok (.getfield 48, 3) := by decide +kernel
theorem dJ2_size_4 : decode cJ2_size 4 = .ok (.ireturn, 1) := by decide +kernel
abbrev cJ2_elementData : ByteArray := prog_52_method_18_code
def yJ2_elementData : MethodName := ⟨RJ2, "elementData", "(I)Ljava/lang/Object;"⟩
def dkwJ2_elementData_0 : List UInt8 := [42, 180, 0, 9, 27, 50, 176]
abbrev dktJ2_elementData_0 : List UInt8 := dkwJ2_elementData_0 ++ []
theorem dksJ2_elementData_0 : cJ2_elementData.data.toList.drop 0 = dktJ2_elementData_0 := by decide +kernel
theorem dJ2_elementData_0 : decode cJ2_elementData 0 = .ok (.aload_n 0, 1) := dk_42 (dk_at dksJ2_elementData_0 0 rfl rfl)
theorem dJ2_elementData_1 : decode cJ2_elementData 1 = .ok (.getfield 9, 3) := dk_180 0 9 (dk_at dksJ2_elementData_0 1 rfl rfl)
theorem dJ2_elementData_4 : decode cJ2_elementData 4 = .ok (.iload_n 1, 1) := dk_27 (dk_at dksJ2_elementData_0 4 rfl rfl)
theorem dJ2_elementData_5 : decode cJ2_elementData 5 = .ok (.aaload, 1) := dk_50 (dk_at dksJ2_elementData_0 5 rfl rfl)
theorem dJ2_elementData_6 : decode cJ2_elementData 6 = .ok (.areturn, 1) := dk_176 (dk_at dksJ2_elementData_0 6 rfl rfl)
abbrev cJ2_get : ByteArray := prog_52_method_20_code
def yJ2_get : MethodName := ⟨RJ2, "get", "(I)Ljava/lang/Object;"⟩
def dkwJ2_get_0 : List UInt8 := [27, 42, 180, 0, 48, 184, 0, 118, 87, 42, 27, 182, 0, 123, 176]
abbrev dktJ2_get_0 : List UInt8 := dkwJ2_get_0 ++ []
theorem dksJ2_get_0 : cJ2_get.data.toList.drop 0 = dktJ2_get_0 := by decide +kernel
theorem dJ2_get_0 : decode cJ2_get 0 = .ok (.iload_n 1, 1) := dk_27 (dk_at dksJ2_get_0 0 rfl rfl)
theorem dJ2_get_1 : decode cJ2_get 1 = .ok (.aload_n 0, 1) := dk_42 (dk_at dksJ2_get_0 1 rfl rfl)
theorem dJ2_get_2 : decode cJ2_get 2 = .ok (.getfield 48, 3) := dk_180 0 48 (dk_at dksJ2_get_0 2 rfl rfl)
theorem dJ2_get_5 : decode cJ2_get 5 = .ok (.invokestatic 118, 3) := dk_184 0 118 (dk_at dksJ2_get_0 5 rfl rfl)
theorem dJ2_get_8 : decode cJ2_get 8 = .ok (.pop, 1) := dk_87 (dk_at dksJ2_get_0 8 rfl rfl)
theorem dJ2_get_9 : decode cJ2_get 9 = .ok (.aload_n 0, 1) := dk_42 (dk_at dksJ2_get_0 9 rfl rfl)
theorem dJ2_get_10 : decode cJ2_get 10 = .ok (.iload_n 1, 1) := dk_27 (dk_at dksJ2_get_0 10 rfl rfl)
theorem dJ2_get_11 : decode cJ2_get 11 = .ok (.invokevirtual 123, 3) := dk_182 0 123 (dk_at dksJ2_get_0 11 rfl rfl)
theorem dJ2_get_14 : decode cJ2_get 14 = .ok (.areturn, 1) := dk_176 (dk_at dksJ2_get_0 14 rfl rfl)
abbrev cJ0_init : ByteArray := prog_50_method_1_code
def yJ0_init : MethodName := ⟨RJ0, "<init>", "()V"⟩
theorem dJ0_init_0 : decode cJ0_init 0 = .ok (.aload_n 0, 1) := by decide +kernel
theorem dJ0_init_1 : decode cJ0_init 1 = .ok (.invokespecial 1, 3) := by decide +kernel
theorem dJ0_init_4 : decode cJ0_init 4 = .ok (.return_, 1) := by decide +kernel
abbrev cJ1_init : ByteArray := prog_51_method_1_code
def yJ1_init : MethodName := ⟨RJ1, "<init>", "()V"⟩
def dkwJ1_init_0 : List UInt8 := [42, 183, 0, 1, 42, 3, 181, 0, 7, 177]
abbrev dktJ1_init_0 : List UInt8 := dkwJ1_init_0 ++ []
theorem dksJ1_init_0 : cJ1_init.data.toList.drop 0 = dktJ1_init_0 := by decide +kernel
theorem dJ1_init_0 : decode cJ1_init 0 = .ok (.aload_n 0, 1) := dk_42 (dk_at dksJ1_init_0 0 rfl rfl)
theorem dJ1_init_1 : decode cJ1_init 1 = .ok (.invokespecial 1, 3) := dk_183 0 1 (dk_at dksJ1_init_0 1 rfl rfl)
theorem dJ1_init_4 : decode cJ1_init 4 = .ok (.aload_n 0, 1) := dk_42 (dk_at dksJ1_init_0 4 rfl rfl)
theorem dJ1_init_5 : decode cJ1_init 5 = .ok (.iconst 0, 1) := dk_3 (dk_at dksJ1_init_0 5 rfl rfl)
theorem dJ1_init_6 : decode cJ1_init 6 = .ok (.putfield 7, 3) := dk_181 0 7 (dk_at dksJ1_init_0 6 rfl rfl)
theorem dJ1_init_9 : decode cJ1_init 9 = .ok (.return_, 1) := dk_177 (dk_at dksJ1_init_0 9 rfl rfl)
abbrev cJ2_init : ByteArray := prog_52_method_2_code
def yJ2_init : MethodName := ⟨RJ2, "<init>", "()V"⟩
def dkwJ2_init_0 : List UInt8 := [42, 183, 0, 1, 42, 178, 0, 39, 181, 0, 9, 177]
abbrev dktJ2_init_0 : List UInt8 := dkwJ2_init_0 ++ []
theorem dksJ2_init_0 : cJ2_init.data.toList.drop 0 = dktJ2_init_0 := by decide +kernel
theorem dJ2_init_0 : decode cJ2_init 0 = .ok (.aload_n 0, 1) := dk_42 (dk_at dksJ2_init_0 0 rfl rfl)
theorem dJ2_init_1 : decode cJ2_init 1 = .ok (.invokespecial 1, 3) := dk_183 0 1 (dk_at dksJ2_init_0 1 rfl rfl)
theorem dJ2_init_4 : decode cJ2_init 4 = .ok (.aload_n 0, 1) := dk_42 (dk_at dksJ2_init_0 4 rfl rfl)
theorem dJ2_init_5 : decode cJ2_init 5 = .ok (.getstatic 39, 3) := dk_178 0 39 (dk_at dksJ2_init_0 5 rfl rfl)
theorem dJ2_init_8 : decode cJ2_init 8 = .ok (.putfield 9, 3) := dk_181 0 9 (dk_at dksJ2_init_0 8 rfl rfl)
theorem dJ2_init_11 : decode cJ2_init 11 = .ok (.return_, 1) := dk_177 (dk_at dksJ2_init_0 11 rfl rfl)
theorem q230 : (Jvm.Cond.fieldLink "java/util/ArrayList" (48 : Nat) "java/util/ArrayList" "size" "I") ∈ lw_all := lw_g (lw_at lw_m1 170 rfl) rfl
theorem q227 : (Jvm.Cond.fieldLink "java/util/ArrayList" (9 : Nat) "java/util/ArrayList" "elementData" "[Ljava/lang/Object;") ∈ lw_all := lw_g (lw_at lw_m1 167 rfl) rfl
theorem q517 : (Jvm.Cond.methodLink "java/util/ArrayList" (118 : Nat) ({ cls := "java/util/Objects", name := "checkIndex", desc := "(II)I" } : Jvm.MethodName)) ∈ lw_all := lw_g (lw_at lw_m2 217 rfl) rfl
theorem q85 : (Jvm.Cond.initialized "java/util/Objects") ∈ lw_all := lw_g (lw_at lw_m1 25 rfl) rfl
theorem q519 : (Jvm.Cond.code ({ cls := "java/util/Objects", name := "checkIndex", desc := "(II)I" } : Jvm.MethodName) prog_66_method_17_code (2 : Nat) (Option.some Jvm.ClassFile.FieldType.int)) ∈ lw_all := lw_g (lw_at lw_m2 219 rfl) rfl
theorem q518 : (Jvm.Cond.static ({ cls := "java/util/Objects", name := "checkIndex", desc := "(II)I" } : Jvm.MethodName)) ∈ lw_all := lw_g (lw_at lw_m2 218 rfl) rfl
theorem q523 : (Jvm.Cond.methodLink "java/util/ArrayList" (123 : Nat) ({ cls := "java/util/ArrayList", name := "elementData", desc := "(I)Ljava/lang/Object;" } : Jvm.MethodName)) ∈ lw_all := lw_g (lw_at lw_m2 223 rfl) rfl
theorem q70 : (Jvm.Cond.initialized "java/util/ArrayList") ∈ lw_all := lw_g (lw_at lw_m1 10 rfl) rfl
theorem q526 : (Jvm.Cond.code ({ cls := "java/util/ArrayList", name := "elementData", desc := "(I)Ljava/lang/Object;" } : Jvm.MethodName) prog_52_method_18_code (2 : Nat) (Option.some (Jvm.ClassFile.FieldType.object "java/lang/Object"))) ∈ lw_all := lw_g (lw_at lw_m2 226 rfl) rfl
theorem q524 : (Jvm.Cond.instanceMethod ({ cls := "java/util/ArrayList", name := "elementData", desc := "(I)Ljava/lang/Object;" } : Jvm.MethodName)) ∈ lw_all := lw_g (lw_at lw_m2 224 rfl) rfl
theorem q525 : (Jvm.Cond.selects "java/util/ArrayList" ({ cls := "java/util/ArrayList", name := "elementData", desc := "(I)Ljava/lang/Object;" } : Jvm.MethodName) ({ cls := "java/util/ArrayList", name := "elementData", desc := "(I)Ljava/lang/Object;" } : Jvm.MethodName)) ∈ lw_all := lw_g (lw_at lw_m2 225 rfl) rfl
theorem q224 : (Jvm.Cond.methodLink "java/util/AbstractCollection" (1 : Nat) ({ cls := "java/lang/Object", name := "<init>", desc := "()V" } : Jvm.MethodName)) ∈ lw_all := lw_g (lw_at lw_m1 164 rfl) rfl
theorem q221 : (Jvm.Cond.methodLink "java/util/AbstractList" (1 : Nat) ({ cls := "java/util/AbstractCollection", name := "<init>", desc := "()V" } : Jvm.MethodName)) ∈ lw_all := lw_g (lw_at lw_m1 161 rfl) rfl
theorem q68 : (Jvm.Cond.initialized "java/util/AbstractCollection") ∈ lw_all := lw_g (lw_at lw_m1 8 rfl) rfl
theorem q223 : (Jvm.Cond.code ({ cls := "java/util/AbstractCollection", name := "<init>", desc := "()V" } : Jvm.MethodName) prog_50_method_1_code (1 : Nat) (Option.none : Option Jvm.ClassFile.FieldType)) ∈ lw_all := lw_g (lw_at lw_m1 163 rfl) rfl
theorem q222 : (Jvm.Cond.instanceMethod ({ cls := "java/util/AbstractCollection", name := "<init>", desc := "()V" } : Jvm.MethodName)) ∈ lw_all := lw_g (lw_at lw_m1 162 rfl) rfl
theorem q231 : (Jvm.Cond.fieldLink "java/util/AbstractList" (7 : Nat) "java/util/AbstractList" "modCount" "I") ∈ lw_all := lw_g (lw_at lw_m1 171 rfl) rfl
theorem q218 : (Jvm.Cond.methodLink "java/util/ArrayList" (1 : Nat) ({ cls := "java/util/AbstractList", name := "<init>", desc := "()V" } : Jvm.MethodName)) ∈ lw_all := lw_g (lw_at lw_m1 158 rfl) rfl
theorem q69 : (Jvm.Cond.initialized "java/util/AbstractList") ∈ lw_all := lw_g (lw_at lw_m1 9 rfl) rfl
theorem q220 : (Jvm.Cond.code ({ cls := "java/util/AbstractList", name := "<init>", desc := "()V" } : Jvm.MethodName) prog_51_method_1_code (1 : Nat) (Option.none : Option Jvm.ClassFile.FieldType)) ∈ lw_all := lw_g (lw_at lw_m1 160 rfl) rfl
theorem q219 : (Jvm.Cond.instanceMethod ({ cls := "java/util/AbstractList", name := "<init>", desc := "()V" } : Jvm.MethodName)) ∈ lw_all := lw_g (lw_at lw_m1 159 rfl) rfl
theorem q225 : (Jvm.Cond.fieldLink "java/util/ArrayList" (39 : Nat) "java/util/ArrayList" "DEFAULTCAPACITY_EMPTY_ELEMENTDATA" "[Ljava/lang/Object;") ∈ lw_all := lw_g (lw_at lw_m1 165 rfl) rfl
/-- a list at a: its array at d of cap cells, n elements f, mc changes -/
def AL (G : GE) (h : AH) (a d cap n : Nat) (mc : Int32) (f : Nat → Option Nat) : Prop := h a = some (ob 12 [.int mc, .ref d, .int (nI n)]) ∧ ((cap = 0 ∧ d = G.ga "E0" ∧ f = fun _ => none) ∨ (0 < cap ∧ h d = some (aR G cap f))) ∧ n ≤ cap ∧ cap < 1000
theorem AL.rd {G : GE} {U : State} {h : AH} {a d cap n : Nat} {mc : Int32} {f : Nat → Option Nat} (T : Tab G U) (x : AL G h a d cap n mc f) : Rd G h d (aR G cap f) := by
  obtain ⟨h1, ⟨h2, h3, h4⟩ | ⟨h2, h3⟩, h5⟩ := x
  · subst h2 h3 h4
    exact Or.inr T.kst.2.1
  · exact Or.inl h3
theorem pv_n {h : AH} {v v1 : Value} (e1 : v = v1) : PV v1 h (.inl (some v)) h := by
  subst e1; exact ⟨rfl, rfl⟩
theorem al_size (l : Launch) (G : GE) (h : AH) (a d cap n : Nat) (mc : Int32) (f : Nat → Option Nat) (y0 : AL G h a d cap n mc f) : GM l G yJ2_size (ws_ yJ2_size cJ2_size 1 (some .int)) 1 [.ref a] (h) (0) (PV (.int (nI n)) h) := by
  refine GM.of (by decide) (dk rfl) ?_
  intro X eL eG eh ok fn
  subst eL; subst eG
  show GW X _ 0 0 [some (.ref a)] []
  have ra := AL.rd ok.tab y0
  obtain ⟨rl, rc, rn, rs⟩ := id y0
  refine g_aload_n ok dJ2_size_0 rfl ?_
  refine g_get ok ck_J2 2 q230 (Or.inl rfl) (by decide) dJ2_size_1 (Rd.h (rl)) rfl ?_
  exact g_iret ok fn rfl dJ2_size_4 (pv_h rfl) (by omega)
theorem al_elem (l : Launch) (G : GE) (h : AH) (a d cap n : Nat) (mc : Int32) (f : Nat → Option Nat) (y0 : AL G h a d cap n mc f) (i x : Nat) (hi : i < n) (hx : f i = some x) : GM l G yJ2_elementData (ws_ yJ2_elementData cJ2_elementData 2 (some (.object "java/lang/Object"))) 1 [.ref a, .int (nI i)] (h) (0) (PV (.ref x) h) := by
  refine GM.of (by decide) (dk rfl) ?_
  intro X eL eG eh ok fn
  subst eL; subst eG
  show GW X _ 0 0 [some (.ref a), some (.int (nI i))] []
  have ra := AL.rd ok.tab y0
  obtain ⟨rl, rc, rn, rs⟩ := id y0
  refine g_aload_n ok dJ2_elementData_0 rfl ?_
  refine g_get ok ck_J2 1 q227 (Or.inl rfl) (by decide) dJ2_elementData_1 (Rd.h (rl)) rfl ?_
  refine g_iload_n ok dJ2_elementData_4 rfl ?_
  refine g_aald ok (j := i) dJ2_elementData_5 (ra) rfl (by omega) (by omega) ?_
  exact g_aret ok fn rfl (Or.inl ⟨_, rfl⟩) (by rw [hx]; exact Or.inr ⟨_, rfl⟩) dJ2_elementData_6 (pv_n (by rw [hx]; rfl)) (by omega)
theorem al_get (l : Launch) (G : GE) (h : AH) (a d cap n : Nat) (mc : Int32) (f : Nat → Option Nat) (y0 : AL G h a d cap n mc f) (i x : Nat) (hi : i < n) (hx : f i = some x) : GM l G yJ2_get (ws_ yJ2_get cJ2_get 2 (some (.object "java/lang/Object"))) 4 [.ref a, .int (nI i)] (h) (0) (PV (.ref x) h) := by
  refine GM.of (by decide) (dk rfl) ?_
  intro X eL eG eh ok fn
  subst eL; subst eG
  show GW X _ 0 0 [some (.ref a), some (.int (nI i))] []
  have ra := AL.rd ok.tab y0
  obtain ⟨rl, rc, rn, rs⟩ := id y0
  refine g_iload_n ok dJ2_get_0 rfl ?_
  refine g_aload_n ok dJ2_get_1 rfl ?_
  refine g_get ok ck_J2 2 q230 (Or.inl rfl) (by decide) dJ2_get_2 (Rd.h (rl)) rfl ?_
  refine g_callS ok q517 q518 q85 q519 dJ2_get_5 (o_checkIndex X.l X.G _ i n (by omega) (by omega)) (nm_ (by decide : nmb _ 2 = true)) (dl rfl) (dk rfl) rfl rfl (dk rfl) (by omega) (kV ?_) xV
  refine g_pop ok dJ2_get_8 rfl ?_
  refine g_aload_n ok dJ2_get_9 rfl ?_
  refine g_iload_n ok dJ2_get_10 rfl ?_
  refine g_callV ok q523 q524 q525 q70 q526 (Recv.ob ok gc_J2 (Rd.h (rl))) dJ2_get_11 (al_elem X.l X.G _ a d cap n mc f y0 i x hi hx) (nm_ (by decide : nmb _ 1 = true)) (dl rfl) (dk rfl) rfl rfl (dk rfl) (by omega) (kV ?_) xV
  exact g_aret ok fn rfl (Or.inl ⟨_, rfl⟩) (Or.inr ⟨_, rfl⟩) dJ2_get_14 (pv_n rfl) (by omega)
theorem ac_init (l : Launch) (G : GE) (h : AH) (a : Nat) : GM l G yJ0_init (ws_ yJ0_init cJ0_init 1 none) 2 [.ref a] (h) (0) (PN h) := by
  refine GM.of (by decide) (dk rfl) ?_
  intro X eL eG eh ok fn
  subst eL; subst eG
  show GW X _ 0 0 [some (.ref a)] []
  refine g_aload_n ok dJ0_init_0 rfl ?_
  refine g_objInit ok q224 q121 q122 dJ0_init_1 (dk rfl) rfl (dk rfl) ?_
  exact g_vret ok fn rfl dJ0_init_4 ⟨rfl, rfl⟩ (by omega)
theorem abl_init (l : Launch) (G : GE) (h : AH) (a : Nat) (m0 n0 : Int32) (v0 : Value) (ra : h a = some (ob 12 [.int m0, v0, .int n0])) : GM l G yJ1_init (ws_ yJ1_init cJ1_init 1 none) 3 [.ref a] (h) (0) (PN (up h a (ob 12 [.int 0, v0, .int n0]))) := by
  refine GM.of (by decide) (dk rfl) ?_
  intro X eL eG eh ok fn
  subst eL; subst eG
  show GW X _ 0 0 [some (.ref a)] []
  refine g_aload_n ok dJ1_init_0 rfl ?_
  refine g_callI ok q221 q222 q68 q223 rfl dJ1_init_1 (ac_init X.l X.G _ a) (nm_ (by decide : nmb _ 0 = true)) (dl rfl) (dk rfl) rfl rfl (dk rfl) (by omega) (kN ?_) xN
  refine g_aload_n ok dJ1_init_4 rfl ?_
  refine g_iconst ok (v := 0) dJ1_init_5 rfl ?_
  refine g_put ok ck_J2 0 q231 (Or.inl rfl) (by decide) rfl dJ1_init_6 (ra) (dl rfl) rfl rfl (fs1 := [.int 0, v0, .int n0]) rfl (?_)
  exact g_vret ok fn rfl dJ1_init_9 ⟨rfl, rfl⟩ (by omega)
theorem al_init (l : Launch) (G : GE) (h : AH) (a : Nat) (ra : h a = some (ob 12 [.int 0, .null, .int 0])) : GM l G yJ2_init (ws_ yJ2_init cJ2_init 1 none) 4 [.ref a] (h) (0) (PN (up h a (ob 12 [.int 0, .ref (G.ga "E0"), .int 0]))) := by
  refine GM.of (by decide) (dk rfl) ?_
  intro X eL eG eh ok fn
  subst eL; subst eG
  show GW X _ 0 0 [some (.ref a)] []
  refine g_aload_n ok dJ2_init_0 rfl ?_
  refine g_callI ok q218 q219 q69 q220 rfl dJ2_init_1 (abl_init X.l X.G _ a _ _ _ (ra)) (nm_ (by decide : nmb _ 0 = true)) (dl rfl) (dk rfl) rfl rfl (dk rfl) (by omega) (kN ?_) xN
  refine g_aload_n ok dJ2_init_4 rfl ?_
  refine g_gets ok (C := "java/util/ArrayList") (n := "DEFAULTCAPACITY_EMPTY_ELEMENTDATA") (d := "[Ljava/lang/Object;") (v := .ref (X.G.ga "E0")) (by simp [gzs]) q225 dJ2_init_5 ?_
  refine g_put ok ck_J2 1 q227 (Or.inl rfl) (by decide) rfl dJ2_init_8 (up_self) (dl rfl) rfl rfl (fs1 := [.int 0, .ref (X.G.ga "E0"), .int 0]) rfl (?_)
  exact g_vret ok fn rfl dJ2_init_11 ⟨rfl, by rw [up_up]⟩ (by omega)
