/-! THE FRAME OF THE WALKS: the heap's picture as a function of addresses; contracts over it; what stays true of a state's tables -/
set_option maxRecDepth 100000
abbrev AH : Type := Nat → Option va_E
def up (h : AH) (a : Nat) (e : va_E) : AH := fun q => if q = a then some e else h q
theorem up_self {h : AH} {a : Nat} {e : va_E} : up h a e a = some e := by simp [up]
theorem up_ne {h : AH} {a b : Nat} {e : va_E} (n : b ≠ a) : up h a e b = h b := by simp [up, n]
/-- the environment: the classes, the array classes, the constant cells, addresses by a name, a value that is only carried -/
abbrev GE : Type := va_G × (Nat → ClassId) × AH × (String → Nat) × Value
def gtys (G : GE) : List (ClassId × FieldType) := [(G.2.1 0, .int), (G.2.1 1, .char), (G.2.1 2, .byte), (G.2.1 3, .long), (G.2.1 4, .double), (G.2.1 5, .object "java/lang/Object")]
abbrev GE.kh (G : GE) : AH := G.2.2.1
abbrev GE.ga (G : GE) : String → Nat := G.2.2.2.1
abbrev GE.gv (G : GE) : Value := G.2.2.2.2
abbrev ob (c : Nat) (fs : List Value) : va_E := .inr (c, fs)
abbrev aI (G : GE) (n : Nat) (f : Nat → Int32) : va_E := .inl (G.2.1 0, n, .inl f)
abbrev aC (G : GE) (n : Nat) (f : Nat → Int32) : va_E := .inl (G.2.1 1, n, .inl f)
abbrev aB (G : GE) (n : Nat) (f : Nat → Int32) : va_E := .inl (G.2.1 2, n, .inl f)
abbrev aJ (G : GE) (n : Nat) (f : Nat → Int64) : va_E := .inl (G.2.1 3, n, .inr (.inl f))
abbrev aD (G : GE) (n : Nat) (f : Nat → UInt64) : va_E := .inl (G.2.1 4, n, .inr (.inr (.inr (.inl f))))
abbrev aR (G : GE) (n : Nat) (f : Nat → Option Nat) : va_E := .inl (G.2.1 5, n, .inr (.inr (.inr (.inr f))))
def avl (x : vp_A) (j : Nat) : Value := match x.2 with
  | .inl f => .int (f j)
  | .inr (.inl f) => .long (f j)
  | .inr (.inr (.inl f)) => .float (f j)
  | .inr (.inr (.inr (.inl f))) => .double (f j)
  | .inr (.inr (.inr (.inr f))) => va_rf (f j)
/-- a cell that is read only: what is asked of it -/
def kAt (G : GE) (U : State) (q : Nat × va_E) (H : Heap) : Prop := match q.2 with
  | .inl x => ∃ cell : Cell, H[q.1]? = some cell ∧ (∀ ty, (x.1, ty) ∈ gtys G → U.isArrayOf cell ty) ∧ cell.vm ≠ .unknown ∧ x.2.1 ≤ cell.slots.size ∧ cell.slots.size.toInt32 = Int32.ofNat x.2.1 ∧ ∀ j, j < x.2.1 → cell.slots[j]? = some (avl x.2 j)
  | .inr o => ∃ (r : vw_C) (cell : Cell), gcl[o.1]? = some r ∧ H[q.1]? = some cell ∧ cell.cls = G.1.1 o.1 ∧ cell.vm ≠ .unknown ∧ cell.vm.isStatics = false ∧ ∀ k, k < r.2.2 → cell.slots[G.1.2 o.1 k]? = some (vp_V o.2 k)
/-- statics that nobody writes -/
def gzs (G : GE) : List (String × String × String × Value) := [("SpanRuler$Kind", "ADD", "LSpanRuler$Kind;", .ref (G.ga "K0")), ("SpanRuler$Kind", "SET", "LSpanRuler$Kind;", .ref (G.ga "K1")), ("SpanRuler$Kind", "TURN", "LSpanRuler$Kind;", .ref (G.ga "K2")), ("java/lang/String", "COMPACT_STRINGS", "Z", .int 1), ("java/util/ArrayList", "DEFAULTCAPACITY_EMPTY_ELEMENTDATA", "[Ljava/lang/Object;", .ref (G.ga "E0")), ("java/lang/Integer", "DigitOnes", "[B", .ref (G.ga "DO")), ("java/lang/Integer", "DigitTens", "[B", .ref (G.ga "DT")), ("java/util/ImmutableCollections", "$assertionsDisabled", "Z", .int 1), ("jdk/internal/util/Preconditions", "SIOOBE_FORMATTER", "Ljava/util/function/BiFunction;", G.gv)]
def gkn : List (String × String × Int32) := [("K0", "SpanRuler$Kind$1", 0), ("K1", "SpanRuler$Kind$2", 1), ("K2", "SpanRuler$Kind$3", 2)]
/-- the heap H is as h says, in state U -/
def Hp (G : GE) (h : AH) (U : State) (H : Heap) : Prop :=
  (∀ a e, h a = some e → va_at G.1 gcl (a, e) H) ∧ (∀ a e, G.kh a = some e → kAt G U (a, e) H ∧ h a = none) ∧
  (∀ z ∈ gzs G, va_Z z.1 z.2.1 z.2.2.1 z.2.2.2 (fun q => h q ≠ none) U H) ∧
  (∀ k ∈ gkn, va_O k.2.1 (G.ga k.1) (fun q => h q ≠ none) U H ∧ va_OF "java/lang/Enum" "ordinal" "I" (.int k.2.2) (G.ga k.1) (fun q => h q ≠ none) U H) ∧
  vx_Zq Bundle.tN "UNASSIGNED_STACK" Bundle.steD (fun q => h q ≠ none) U H ∧ vx_Zq Bundle.tN "SUPPRESSED_SENTINEL" Bundle.listD (fun q => h q ≠ none) U H
theorem kAt.moved {G : GE} {u U : State} {q : Nat × va_E} {H : Heap} (hvm : u.vm.Alike U.vm) (h : kAt G u q H) : kAt G U q H := by
  obtain ⟨a, e⟩ := q
  cases e with
  | inl x =>
    obtain ⟨cell, h1, h2, h3⟩ := h
    exact ⟨cell, h1, fun ty hty => State.isArrayOf_alike hvm (h2 ty hty), h3⟩
  | inr o => exact h
theorem kAt.kept {G : GE} {U : State} {q : Nat × va_E} {H H1 : Heap} (h : kAt G U q H) (hq : H1[q.1]? = H[q.1]?) : kAt G U q H1 := by
  obtain ⟨a, e⟩ := q
  cases e with
  | inl x =>
    obtain ⟨cell, h1, h2⟩ := h
    exact ⟨cell, hq.trans h1, h2⟩
  | inr o =>
    obtain ⟨r, cell, h1, h2, h3⟩ := h
    exact ⟨r, cell, h1, hq.trans h2, h3⟩
theorem kAt.lt {G : GE} {U : State} {q : Nat × va_E} {H : Heap} (h : kAt G U q H) : q.1 < H.size := by
  obtain ⟨a, e⟩ := q
  cases e with
  | inl x =>
    obtain ⟨cell, h1, h2⟩ := h
    exact (Array.getElem?_eq_some_iff.mp h1).1
  | inr o =>
    obtain ⟨r, cell, h1, h2, h3⟩ := h
    exact (Array.getElem?_eq_some_iff.mp h2).1
theorem Hp.lt {G : GE} {h : AH} {U : State} {H : Heap} (x : Hp G h U H) {a : Nat} (ha : h a ≠ none) : a < H.size := by
  cases e : h a with
  | none => exact absurd e ha
  | some y => exact (x.1 a y e).lt
theorem Hp.moved {G : GE} {h : AH} {u U : State} {H : Heap} (hvm : u.vm.Alike U.vm) (x : Hp G h u H) : Hp G h U H := by
  obtain ⟨h1, h2, h3, h4, h5, h6⟩ := x
  exact ⟨h1, fun a e ha => ⟨(h2 a e ha).1.moved hvm, (h2 a e ha).2⟩, fun z hz => (h3 z hz).moved hvm, fun k hk => ⟨(h4 k hk).1.moved hvm, (h4 k hk).2.moved hvm⟩, h5.moved hvm, h6.moved hvm⟩
/-- less is known -/
theorem Hp.less {G : GE} {h h' : AH} {U : State} {H : Heap} (x : Hp G h U H) (hl : ∀ q e, h' q = some e → h q = some e) : Hp G h' U H := by
  have hn : ∀ q, h' q ≠ none → h q ≠ none := by
    intro q hq
    cases e : h' q with
    | none => exact absurd e hq
    | some y => rw [hl q y e]; exact fun z => by cases z
  obtain ⟨h1, h2, h3, h4, h5, h6⟩ := x
  refine ⟨fun a e ha => h1 a e (hl a e ha), fun a e ha => ⟨(h2 a e ha).1, ?_⟩, fun z hz => (h3 z hz).narrow hn, fun k hk => ⟨(h4 k hk).1.narrow hn, (h4 k hk).2.narrow hn⟩, h5.narrow hn, h6.narrow hn⟩
  cases e' : h' a with
  | none => rfl
  | some y =>
    have z := (h2 a e ha).2
    rw [hl a y e'] at z
    cases z
theorem z_upd {C n d : String} {v : Value} {A B : Nat → Prop} {U : State} {H H1 : Heap} (x : va_Z C n d v A U H) (key : ∀ b : Nat, b < H.size → ¬ A b → H1[b]? = H[b]?) (nA : ∀ b : Nat, b < H.size → ¬ A b → ¬ B b) : va_Z C n d v B U H1 := by
  obtain ⟨cf, kf, fi, f, b, cell, g1, g2, g3, g4, g5, g6, g7, g8⟩ := x
  have hl := (Array.getElem?_eq_some_iff.mp g5).1
  exact ⟨cf, kf, fi, f, b, cell, g1, g2, g3, g4, by rw [key _ hl g8]; exact g5, g6, g7, nA _ hl g8⟩
theorem zq_upd {C n d : String} {A B : Nat → Prop} {U : State} {H H1 : Heap} (x : vx_Zq C n d A U H) (key : ∀ b : Nat, b < H.size → ¬ A b → H1[b]? = H[b]?) (nA : ∀ b : Nat, b < H.size → ¬ A b → ¬ B b) : vx_Zq C n d B U H1 := by
  obtain ⟨hz, c, k, i, f, b, cell, g1, g2, g3, g4, g5, g6, g7, g8, g9, g10⟩ := x
  have hl := (Array.getElem?_eq_some_iff.mp g5).1
  refine ⟨?_, c, k, i, f, b, cell, g1, g2, g3, g4, by rw [key _ hl g10]; exact g5, g6, g7, g8, g9, nA _ hl g10⟩
  rcases hz with hz | ⟨t, hz⟩
  · exact Or.inl (z_upd hz key nA)
  · exact Or.inr ⟨t, z_upd hz key nA⟩
/-- one cell is written, or comes -/
theorem Hp.upd {G : GE} {h : AH} {U : State} {H H1 : Heap} (x : Hp G h U H) {a : Nat} {e : va_E} (ha : h a ≠ none ∨ H.size ≤ a) (hq : ∀ q : Nat, q < H.size → q ≠ a → H1[q]? = H[q]?) (he : va_at G.1 gcl (a, e) H1) : Hp G (up h a e) U H1 := by
  have hx := x
  obtain ⟨h1, h2, h3, h4, h5, h6⟩ := x
  have old : ∀ b : Nat, b < H.size → ¬ h b ≠ none → b ≠ a := by
    intro b hb hn e'
    subst e'
    rcases ha with q | q
    · exact hn q
    · omega
  have key : ∀ b : Nat, b < H.size → ¬ h b ≠ none → H1[b]? = H[b]? := fun b hb hn => hq b hb (old b hb hn)
  have nA : ∀ b : Nat, b < H.size → ¬ h b ≠ none → ¬ up h a e b ≠ none := fun b hb hn => by rw [up_ne (old b hb hn)]; exact hn
  refine ⟨fun b e' hb => ?_, fun b e' hb => ?_, fun z hz => ?_, fun k hk => ⟨?_, ?_⟩, zq_upd h5 key nA, zq_upd h6 key nA⟩
  · by_cases q : b = a
    · subst q
      rw [up_self] at hb
      cases hb
      exact he
    · rw [up_ne q] at hb
      exact (h1 b e' hb).kept (hq b (h1 b e' hb).lt q)
  · have hl := (h2 b e' hb).1.lt
    have hn : ¬ h b ≠ none := fun z => z (h2 b e' hb).2
    exact ⟨(h2 b e' hb).1.kept (key b hl hn), by rw [up_ne (old b hl hn)]; exact (h2 b e' hb).2⟩
  · exact z_upd (h3 z hz) key nA
  · obtain ⟨cell, g1, g2, g3, g4⟩ := (h4 k hk).1
    have hl := (Array.getElem?_eq_some_iff.mp g1).1
    exact ⟨cell, by rw [key _ hl g4]; exact g1, g2, g3, nA _ hl g4⟩
  · obtain ⟨cf, i, fi, f, cell, g1, g2, g3, g4, g5, g6⟩ := (h4 k hk).2
    have hl := (Array.getElem?_eq_some_iff.mp g3).1
    exact ⟨cf, i, fi, f, cell, g1, g2, by rw [key _ hl g6]; exact g3, g4, g5, nA _ hl g6⟩
/-- only new cells came, none is told of -/
theorem Hp.grown {G : GE} {h : AH} {U : State} {H H1 : Heap} (x : Hp G h U H) (hq : ∀ q : Nat, q < H.size → H1[q]? = H[q]?) : Hp G h U H1 := by
  obtain ⟨h1, h2, h3, h4, h5, h6⟩ := x
  exact ⟨fun a e ha => (h1 a e ha).kept (hq a (h1 a e ha).lt), fun a e ha => ⟨(h2 a e ha).1.kept (hq a (h2 a e ha).1.lt), (h2 a e ha).2⟩, fun z hz => (h3 z hz).kept (fun q hl _ => hq q hl), fun k hk => ⟨(h4 k hk).1.kept (fun q hl _ => hq q hl), (h4 k hk).2.kept (fun q hl _ => hq q hl)⟩, h5.kept (fun q hl _ => hq q hl), h6.kept (fun q hl _ => hq q hl)⟩
/-- words of the tables that ride in no list -/
def isTw : Cond → Bool
  | .fieldLinkNest .. => true
  | .methodLinkNest .. => true
  | .castable .. => true
  | .declares .. => true
  | .publicMethod .. => true
  | .privateMethod .. => true
  | .unhidden .. => true
  | _ => false
def ifl : List MethodName := [⟨"java/util/Iterator", "hasNext", "()Z"⟩, ⟨"java/util/Iterator", "next", "()Ljava/lang/Object;"⟩, ⟨"java/util/List", "get", "(I)Ljava/lang/Object;"⟩, ⟨"java/util/List", "contains", "(Ljava/lang/Object;)Z"⟩, ⟨"java/util/List", "iterator", "()Ljava/util/Iterator;"⟩]
def ncl : List (String × String) := [("java/lang/UnsupportedOperationException", "java/lang/IllegalArgumentException"), ("java/lang/IllegalArgumentException", "java/lang/IndexOutOfBoundsException"), ("java/util/NoSuchElementException", "java/lang/IndexOutOfBoundsException"), ("java/lang/IllegalStateException", "java/lang/IllegalArgumentException"), ("java/lang/UnsupportedOperationException", "java/lang/IllegalStateException"), ("java/lang/IllegalStateException", "SpanRuler$BadText"), ("java/lang/IllegalStateException", "SpanRuler$Refusal"), ("SpanRuler$Refusal", "SpanRuler$BadText")]
/-- String constants: class, place, text -/
def glit : List (String × Nat × String) := [("SpanRuler", 330, ""), ("SpanRuler", 341, " "), ("SpanRuler", 332, "r"), ("SpanRuler", 334, "g"), ("SpanRuler", 336, "b"), ("SpanRuler$Parser", 130, "add"), ("SpanRuler$Parser", 132, "set"), ("SpanRuler$Parser", 115, "turn"), ("SpanRuler$Parser", 117, "paint"), ("SpanRuler$Parser", 134, "tick"), ("SpanRuler$Parser", 136, "keep"), ("SpanRuler$Parser", 90, "none"), ("SpanRuler$Parser", 92, "red"), ("SpanRuler$Parser", 94, "green"), ("SpanRuler$Parser", 96, "blue"), ("SpanRuler$Command", 75, "tick"), ("SpanRuler$Command", 77, "keep"), ("SpanRuler$Command", 39, "add"), ("SpanRuler$Command", 45, "set"), ("SpanRuler$Command", 47, "turn"), ("SpanRulerModel", 32, ""), ("SpanRulerModel", 256, "add set turn paint tick keep "), ("SpanRulerModel", 261, "add"), ("SpanRulerModel", 263, "set"), ("SpanRulerModel", 265, "turn"), ("SpanRulerModel", 254, "paint"), ("SpanRulerModel", 267, "tick"), ("SpanRulerModel", 238, "none red green blue "), ("SpanRulerModel", 244, "none"), ("SpanRulerModel", 250, "red"), ("SpanRulerModel", 252, "green")]
/-- the constant strings, and their bytes' number -/
def gtx : List String := ["", " ", "r", "g", "b", "add", "set", "turn", "paint", "tick", "keep", "none", "red", "green", "blue", "add set turn paint tick keep ", "none red green blue "]
/-- a text's characters as ints -/
def tch (t : String) (j : Nat) : Int32 := Int32.ofNat ((t.toList.getD j 'a').toNat)
/-- Java's hash of a text -/
def thash (t : String) : Int32 := t.toList.foldl (fun h c => h * 31 + Int32.ofNat c.toNat) 0
/-- the constant cells -/
def Kst (G : GE) : Prop :=
  (∀ t ∈ gtx, G.kh (G.ga ("L:" ++ t)) = some (ob 15 [.ref (G.ga ("V:" ++ t)), .int 0, .int (thash t), .int (if thash t = 0 then 1 else 0)]) ∧ G.kh (G.ga ("V:" ++ t)) = some (aB G t.length (tch t))) ∧
  G.kh (G.ga "E0") = some (aR G 0 (fun _ => none)) ∧
  G.kh (G.ga "DO") = some (aB G 100 (fun j => Int32.ofNat (48 + j % 10))) ∧ G.kh (G.ga "DT") = some (aB G 100 (fun j => Int32.ofNat (48 + j / 10))) ∧ (G.gv = .null ∨ ∃ a, G.gv = .ref a)
/-- what the tables say, all through a run -/
def Tab (G : GE) (U : State) : Prop :=
  va_K G.1 gcl (gtys G) U ∧ (∀ w ∈ lw_tbl, isTw w = true → w.before #[] U = true) ∧ va_AO "java/lang/Object" U ∧ (∀ x ∈ ifl, (Cond.declares x).before #[] U = true ∧ (Cond.interfaceMethod x.cls x.cls x.name x.desc).before #[] U = true) ∧
  (∀ q ∈ ncl, va_Nc q.1 q.2 U) ∧ (∀ r ∈ glit, vk_R r.1 r.2.1 r.2.2 (G.ga ("L:" ++ r.2.2)) U) ∧ Kst G ∧ va_Mi "[Ljava/lang/Object;" (G.ga "M0") U
theorem Tab.warm {G : GE} {s U : State} (hW : s.WarmedH U.vm) (x : Tab G s) : Tab G U := by
  obtain ⟨h1, h2, h3, h4, h5, h6, h7, h8⟩ := x
  have same : ∀ {w : Cond}, w.onTables = true → w.before #[] (s.setVm U.vm) = true → w.before #[] U = true := fun hw h => va_tabs hw (rfl : (s.setVm U.vm).vm = U.vm) h
  refine ⟨va_K.moved hW.alike h1, fun w hw hi => ?_, va_AO.moved hW.alike h3, fun y hy => ?_, fun q hq => (h5 q hq).moved hW.alike, fun r hr => (h6 r hr).warm hW, h7, h8.moved hW.alike⟩
  · have hb := h2 w hw hi
    cases w with
    | fieldLinkNest a i b n d h => exact va_Nw.warmF hW hb
    | methodLinkNest a i x h => exact va_Nw.warmM hW hb
    | castable C T => exact va_Nw.warmC hW hb
    | declares x => exact va_Nw.warmD hW hb
    | publicMethod y => exact same rfl (by rw [Cond.publicMethod_setVm hW.alike]; exact hb)
    | privateMethod y => exact same rfl (by rw [Cond.privateMethod_setVm hW.alike]; exact hb)
    | unhidden C n d => exact same rfl (by rw [Cond.unhidden_setVm hW.alike]; exact hb)
    | _ => exact absurd hi (by simp [isTw])
  · obtain ⟨a1, a2⟩ := h4 y hy
    obtain ⟨r, meth, hn, -⟩ := Cond.declares_spec a1
    have hx : y.cls ≠ "java/lang/invoke/MethodHandle" ∧ y.cls ≠ "java/lang/invoke/VarHandle" := by
      simp only [ifl, List.mem_cons, List.not_mem_nil, or_false] at hy
      rcases hy with e | e | e | e | e <;> subst e <;> decide
    exact ⟨same rfl (by rw [Cond.declares_setVm hW.alike]; exact a1), same rfl (by rw [Cond.interfaceMethod_setVm hW.alike (r := r) hn hx]; exact a2)⟩
/-- an array class is of one type -/
theorem gtys_one {G : GE} {U : State} (hK : va_K G.1 gcl (gtys G) U) {c : ClassId} {t1 t2 : FieldType} (h1 : (c, t1) ∈ gtys G) (h2 : (c, t2) ∈ gtys G) : t1 = t2 := by
  obtain ⟨i, hi⟩ := List.getElem?_of_mem h1
  obtain ⟨j, hj⟩ := List.getElem?_of_mem h2
  obtain ⟨-, k, hk, comp, hkind⟩ := (hK.2 i _ hi).1 0 (fun _ => .null)
  obtain ⟨-, k', hk', comp', hkind'⟩ := (hK.2 j _ hj).1 0 (fun _ => .null)
  cases hk.symm.trans hk'
  rw [hkind] at hkind'
  cases hkind'
  rfl
/-- what is read: of the moving cells, or of the constant ones -/
def Rd (G : GE) (h : AH) (a : Nat) (e : va_E) : Prop := h a = some e ∨ G.kh a = some e
theorem Rd.h {G : GE} {h : AH} {a : Nat} {e : va_E} (x : h a = some e) : Rd G h a e := Or.inl x
theorem Rd.k {G : GE} {h : AH} {a : Nat} {e : va_E} (x : G.kh a = some e) : Rd G h a e := Or.inr x
theorem kAt.of {G : GE} {U : State} {H : Heap} (hK : va_K G.1 gcl (gtys G) U) {q : Nat × va_E} (h : va_at G.1 gcl q H) : kAt G U q H := by
  obtain ⟨a, e⟩ := q
  cases e with
  | inr o =>
    obtain ⟨r, h1, cell, q1, q2, q3, q4⟩ := h
    exact ⟨r, cell, h1, q1, q2, (by rw [q3]; exact fun z => by cases z), (by rw [q3]; rfl), q4⟩
  | inl x =>
    obtain ⟨c, n, y⟩ := x
    have hc : H[a]? = some (vp_cell c (n, y)) := h
    rcases y with f | f | f | f | f
    all_goals
      refine ⟨_, hc, fun ty hty => ?_, (fun z => by cases z), ?_, ?_, fun j hj => ?_⟩
      · obtain ⟨i, hi⟩ := List.getElem?_of_mem hty
        exact (hK.2 i _ hi).1 n _
      · show n ≤ (arrV _ _ _).slots.size
        rw [arrV_size]; exact Nat.le_refl n
      · show (arrV _ _ _).slots.size.toInt32 = _
        rw [arrV_size]
      · show (arrV _ _ _).slots[_]? = _
        rw [arrV_read _ _ hj]; rfl
theorem Hp.rd {G : GE} {h : AH} {U : State} {H : Heap} (x : Hp G h U H) (hK : va_K G.1 gcl (gtys G) U) {a : Nat} {e : va_E} (r : Rd G h a e) : kAt G U (a, e) H := by
  rcases r with r | r
  · exact kAt.of hK (x.1 a e r)
  · exact (x.2.1 a e r).1
/-! contracts -/
def gA (h : AH) (sz : Nat) : Nat → Prop := fun q => h q ≠ none ∨ sz ≤ q
theorem zq_area {C n d : String} {h : AH} {U : State} (x : vx_Zq C n d (fun q => h q ≠ none) U U.heap) : vx_Zq C n d (gA h U.heap.size) U U.heap := zq_upd x (fun _ _ _ => rfl) (fun b hb hn z => z.elim hn (fun w => absurd hb (Nat.not_lt.mpr w)))
def Gr (h h' : AH) (sz : Nat) : Prop := ∀ q, h' q ≠ none → h q ≠ none ∨ sz ≤ q
abbrev Out : Type := Option Value ⊕ (String × Nat)
def gPc (G : GE) (av : List Value) (h : AH) (sz : Nat) : Array Value → State → Prop := fun v U => v = av.toArray ∧ U.heap.size = sz ∧ Tab G U ∧ Hp G h U U.heap
def gQc (G : GE) (h : AH) (sz : Nat) (P : Out → AH → Prop) : Array Value → State → Outcome → State → Prop := fun _ st o t => ∃ v h', o = .returned v ∧ P (.inl v) h' ∧ Hp G h' t t.heap ∧ Gr h h' sz ∧ va_F (gA h sz) st t
def gXC (G : GE) (h : AH) (sz : Nat) (P : Out → AH → Prop) : String → Addr → State → State → Prop := fun E q st t => ∃ h', P (.inr (E, q)) h' ∧ Hp G h' t t.heap ∧ Gr h h' sz ∧ va_F (gA h sz) st t
def rmL (Lv K : Nat) : Room := { frames := 10 * Lv, cells := K, slots := K, locals := 150 * Lv }
/-- A METHOD'S CONTRACT: with the arguments av and the heap's picture h, at most K cells and K slots being new, it ends with P of its answer (or of what it throws) and of the new picture -/
def GM (l : Launch) (G : GE) (y : MethodName) (ws : List Cond) (Lv : Nat) (av : List Value) (h : AH) (K : Nat) (P : Out → AH → Prop) : Prop :=
  l.stackTraces = false → ∀ sz, vx_Met l y ws (rmL Lv K) (gPc G av h sz) (gQc G h sz P) (gXC G h sz P) K K (gA h sz)
/-- where a walk stands: all that doesn't move in a method -/
abbrev GX : Type := Launch × GE × Room × AH × (State → Prop) × Program × Env × State × MethodId × Array Value × List Frame × Method × Code
abbrev GX.l (X : GX) : Launch := X.1
abbrev GX.G (X : GX) : GE := X.2.1
abbrev GX.R (X : GX) : Room := X.2.2.1
abbrev GX.h0 (X : GX) : AH := X.2.2.2.1
abbrev GX.Q (X : GX) : State → Prop := X.2.2.2.2.1
abbrev GX.p (X : GX) : Program := X.2.2.2.2.2.1
abbrev GX.e (X : GX) : Env := X.2.2.2.2.2.2.1
abbrev GX.s (X : GX) : State := X.2.2.2.2.2.2.2.1
abbrev GX.m (X : GX) : MethodId := X.2.2.2.2.2.2.2.2.1
abbrev GX.args (X : GX) : Array Value := X.2.2.2.2.2.2.2.2.2.1
abbrev GX.below (X : GX) : List Frame := X.2.2.2.2.2.2.2.2.2.2.1
abbrev GX.meth (X : GX) : Method := X.2.2.2.2.2.2.2.2.2.2.2.1
abbrev GX.c (X : GX) : Code := X.2.2.2.2.2.2.2.2.2.2.2.2
/-- the locals -/
def lpr (ls : List (Option Value)) : List (Nat × Value) := (List.range ls.length).filterMap (fun i => (ls.getD i none).map (fun v => (i, v)))
def gl (la : Array Slot) (ls : List (Option Value)) : Prop := lv_has la ls.length (lpr ls)
theorem lpr_mem {ls : List (Option Value)} {i : Nat} {v : Value} : (i, v) ∈ lpr ls ↔ ls[i]? = some (some v) := by
  unfold lpr
  rw [List.mem_filterMap]
  constructor
  · rintro ⟨j, hj, hv⟩
    rw [List.mem_range] at hj
    rw [List.getD_eq_getElem?_getD, List.getElem?_eq_getElem hj] at hv
    cases e : ls[j] with
    | none => rw [e] at hv; cases hv
    | some w =>
      rw [e] at hv
      cases hv
      rw [List.getElem?_eq_getElem hj, e]
  · intro h
    have hl := (List.getElem?_eq_some_iff.mp h).1
    exact ⟨i, List.mem_range.mpr hl, by rw [List.getD_eq_getElem?_getD, h]; rfl⟩
theorem gl.at {la : Array Slot} {ls : List (Option Value)} (h : gl la ls) {i : Nat} {v : Value} (hv : ls[i]? = some (some v)) : la[i]? = some (.val v) := h.2.2 (i, v) (lpr_mem.mpr hv)
/-- from a list of held values to locals that say no more -/
theorem gl.of {la : Array Slot} {n : Nat} {l : List (Nat × Value)} (h : lv_has la n l) {ls : List (Option Value)} (hn : ls.length = n) (hs : ∀ i v, ls[i]? = some (some v) → (i, v) ∈ l) : gl la ls := by
  refine ⟨h.1.trans hn.symm, h.2.1, fun q hq => h.2.2 q (hs q.1 q.2 (lpr_mem.mp hq))⟩
def k1 (ls : List (Option Value)) (i : Nat) : List (Option Value) := match i with
  | 0 => ls
  | j + 1 => match ls[j]? with
    | some (some v) => if v.category = 2 then ls.set j none else ls
    | _ => ls
def sto1 (ls : List (Option Value)) (i : Nat) (v : Value) : List (Option Value) := (k1 ls i).set i (some v)
def sto2 (ls : List (Option Value)) (i : Nat) (v : Value) : List (Option Value) := ((k1 ls i).set i (some v)).set (i + 1) none
theorem k1_len {ls : List (Option Value)} {i : Nat} : (k1 ls i).length = ls.length := by
  unfold k1
  split
  · rfl
  · split
    · split <;> simp
    · rfl
theorem k1_at {ls : List (Option Value)} {i j : Nat} {v : Value} (h : (k1 ls i)[j]? = some (some v)) : ls[j]? = some (some v) ∧ ¬ (j + 1 = i ∧ v.category = 2) := by
  unfold k1 at h
  split at h
  · exact ⟨h, fun q => by omega⟩
  · rename_i i
    split at h
    · rename_i w hw
      split at h
      · rename_i hc
        by_cases q : j = i
        · subst q
          have hl := (List.getElem?_eq_some_iff.mp hw).1
          rw [List.getElem?_set_self hl] at h
          cases h
        · rw [List.getElem?_set_ne (Ne.symm q)] at h
          exact ⟨h, fun z => q (by omega)⟩
      · rename_i hc
        refine ⟨h, fun z => hc ?_⟩
        have : j = i := by omega
        subst this
        rw [hw] at h
        cases h
        exact z.2
    · rename_i hno
      refine ⟨h, fun z => ?_⟩
      have : j = i := by omega
      subst this
      exact hno v h
theorem gl.st1 {la : Array Slot} {ls : List (Option Value)} (h : gl la ls) {i : Nat} {v : Value} (hi : i < ls.length) (hc : v.category = 1) : ∃ la', storeLocals la i v = some la' ∧ gl la' (sto1 ls i v) := by
  obtain ⟨la', e, h'⟩ := lv_store1 h hi hc
  refine ⟨la', e, gl.of h' (by simp [sto1, k1_len]) fun j w hw => ?_⟩
  unfold sto1 at hw
  by_cases q : j = i
  · subst q
    rw [List.getElem?_set_self (by rw [k1_len]; exact hi)] at hw
    cases hw
    exact List.mem_cons_self
  · rw [List.getElem?_set_ne (Ne.symm q)] at hw
    obtain ⟨h1, h2⟩ := k1_at hw
    refine List.mem_cons_of_mem _ (List.mem_filter.mpr ⟨lpr_mem.mpr h1, ?_⟩)
    simp only [Bool.and_eq_true, Bool.not_eq_true', beq_eq_false_iff_ne, ne_eq, Bool.and_eq_false_iff]
    refine ⟨q, ?_⟩
    by_cases z : j + 1 = i
    · exact Or.inr (fun y => h2 ⟨z, y⟩)
    · exact Or.inl z
theorem gl.st2 {la : Array Slot} {ls : List (Option Value)} (h : gl la ls) {i : Nat} {v : Value} (hi : i + 1 < ls.length) (hc : v.category = 2) : ∃ la', storeLocals la i v = some la' ∧ gl la' (sto2 ls i v) := by
  obtain ⟨la', e, h'⟩ := lv_store2 h hi hc
  refine ⟨la', e, gl.of h' (by simp [sto2, k1_len]) fun j w hw => ?_⟩
  unfold sto2 at hw
  by_cases q1 : j = i + 1
  · subst q1
    rw [List.getElem?_set_self (by simp [k1_len]; omega)] at hw
    cases hw
  · rw [List.getElem?_set_ne (Ne.symm q1)] at hw
    by_cases q : j = i
    · subst q
      rw [List.getElem?_set_self (by rw [k1_len]; omega)] at hw
      cases hw
      exact List.mem_cons_self
    · rw [List.getElem?_set_ne (Ne.symm q)] at hw
      obtain ⟨h1, h2⟩ := k1_at hw
      refine List.mem_cons_of_mem _ (List.mem_filter.mpr ⟨lpr_mem.mpr h1, ?_⟩)
      simp only [Bool.and_eq_true, Bool.not_eq_true', beq_eq_false_iff_ne, ne_eq, Bool.and_eq_false_iff]
      refine ⟨q, q1, ?_⟩
      by_cases z : j + 1 = i
      · exact Or.inr (fun y => h2 ⟨z, y⟩)
      · exact Or.inl z
/-- WHERE A WALK STANDS: picture h, k cells and slots used, at pc, with locals ls and stack st, it comes to its end -/
def GW (X : GX) (h : AH) (k pc : Nat) (ls : List (Option Value)) (st : List Value) : Prop :=
  ∀ (H : Heap) (locs : List Loc) (la : Array Slot), Hp X.G h X.s H → Gr X.h0 h X.s.heap.size → va_S (gA X.h0 X.s.heap.size) X.s.heap H locs → gl la ls →
    W X.p X.l X.e X.R X.s X.m X.args X.below X.meth X.c H locs k k X.Q (F0 X.m pc la st)
/-- .. with q of class E thrown -/
def GWX (X : GX) (h : AH) (k pc : Nat) (ls : List (Option Value)) (st : List Value) (E : String) (q : Nat) : Prop :=
  ∀ (H : Heap) (locs : List Loc) (la : Array Slot) (ce : Cell), Hp X.G h X.s H → Gr X.h0 h X.s.heap.size → va_S (gA X.h0 X.s.heap.size) X.s.heap H locs → gl la ls → H[q]? = some ce → ce.vm = .none → X.s.vm.findClass E = some ce.cls →
    vx_W X.p X.l X.e X.R X.s X.m X.args X.below X.meth X.c H locs k k X.Q (F0 X.m pc la st) q
/-- what is known all through a method y, of code cc, nL locals, answer ret, handlers hh, room of level Lv, K cells and slots -/
def Ok (X : GX) (y : MethodName) (cc : ByteArray) (nL : Nat) (ret : Option FieldType) (hh : List (Nat × Nat × Nat × Nat)) (Lv K : Nat) : Prop :=
  (X.p.tables.exec = Jvm.exec ∧ X.c.code = cc ∧ X.c.maxLocals = nL ∧ X.s.vm.findClass y.cls = some X.m.cls ∧ ∀ w ∈ lw_all, w.before X.args X.s = true) ∧
  Tab X.G X.s ∧ X.meth.locks = false ∧ X.meth.name = y.name ∧ X.meth.sig.returnType = ret ∧ X.c.exceptionTable.toList = tableOf hh ∧ X.l.stackTraces = false ∧
  (10 * Lv ≤ X.R.frames ∧ 150 * Lv ≤ X.R.locals ∧ K ≤ X.R.cells ∧ K ≤ X.R.slots) ∧ (∀ q, X.h0 q ≠ none → q < X.s.heap.size) ∧ vx_Zq Bundle.tN "UNASSIGNED_STACK" Bundle.steD (gA X.h0 X.s.heap.size) X.s X.s.heap ∧ vx_Zq Bundle.tN "SUPPRESSED_SENTINEL" Bundle.listD (gA X.h0 X.s.heap.size) X.s X.s.heap
/-- what it owes at its end -/
def Fn (X : GX) (K : Nat) (P : Out → AH → Prop) : Prop := X.Q = vx_MQ X.below (gQc X.G X.h0 X.s.heap.size P) (gXC X.G X.h0 X.s.heap.size P) X.args X.s K K (gA X.h0 X.s.heap.size)
