/-! ROWS: an instruction, a row (the simple ones written by gen/mkrows.py out of the kit's lv_ rows) -/
set_option maxRecDepth 100000
section
variable {X : GX} {yM : MethodName} {cc : ByteArray} {nL : Nat} {rT : Option FieldType} {hH : List (Nat × Nat × Nat × Nat)} {lV kB : Nat} {hA : AH} {kc pc : Nat} {ls : List (Option Value)} {st : List Value}
theorem Ok.x (ok : Ok X yM cc nL rT hH lV kB) : X.p.tables.exec = Jvm.exec := ok.1.1
theorem Ok.b (ok : Ok X yM cc nL rT hH lV kB) : X.c.code = cc := ok.1.2.1
theorem Ok.ml (ok : Ok X yM cc nL rT hH lV kB) : X.c.maxLocals = nL := ok.1.2.2.1
theorem Ok.own (ok : Ok X yM cc nL rT hH lV kB) : X.s.vm.findClass yM.cls = some X.m.cls := ok.1.2.2.2.1
theorem Ok.ts (ok : Ok X yM cc nL rT hH lV kB) : ∀ w ∈ lw_all, w.before X.args X.s = true := ok.1.2.2.2.2
theorem Ok.tab (ok : Ok X yM cc nL rT hH lV kB) : Tab X.G X.s := ok.2.1
theorem Ok.locks (ok : Ok X yM cc nL rT hH lV kB) : X.meth.locks = false := ok.2.2.1
theorem Ok.nm (ok : Ok X yM cc nL rT hH lV kB) : X.meth.name = yM.name := ok.2.2.2.1
theorem Ok.ret (ok : Ok X yM cc nL rT hH lV kB) : X.meth.sig.returnType = rT := ok.2.2.2.2.1
theorem Ok.hh (ok : Ok X yM cc nL rT hH lV kB) : X.c.exceptionTable.toList = tableOf hH := ok.2.2.2.2.2.1
theorem Ok.tr (ok : Ok X yM cc nL rT hH lV kB) : X.l.stackTraces = false := ok.2.2.2.2.2.2.1
theorem Ok.rm (ok : Ok X yM cc nL rT hH lV kB) : 10 * lV ≤ X.R.frames ∧ 150 * lV ≤ X.R.locals ∧ kB ≤ X.R.cells ∧ kB ≤ X.R.slots := ok.2.2.2.2.2.2.2.1
theorem Ok.h0 (ok : Ok X yM cc nL rT hH lV kB) : ∀ q, X.h0 q ≠ none → q < X.s.heap.size := ok.2.2.2.2.2.2.2.2.1
theorem Ok.zu (ok : Ok X yM cc nL rT hH lV kB) : vx_Zq Bundle.tN "UNASSIGNED_STACK" Bundle.steD (gA X.h0 X.s.heap.size) X.s X.s.heap := ok.2.2.2.2.2.2.2.2.2.1
theorem Ok.zs (ok : Ok X yM cc nL rT hH lV kB) : vx_Zq Bundle.tN "SUPPRESSED_SENTINEL" Bundle.listD (gA X.h0 X.s.heap.size) X.s X.s.heap := ok.2.2.2.2.2.2.2.2.2.2
theorem Ok.k (ok : Ok X yM cc nL rT hH lV kB) : va_K X.G.1 gcl (gtys X.G) X.s := ok.2.1.1
theorem Ok.tw (ok : Ok X yM cc nL rT hH lV kB) {w : Cond} (hw : w ∈ lw_tbl) (hi : isTw w = true) : va_Nw w X.s := ok.2.1.2.1 w hw hi
/-- less is known from here on -/
theorem g_less {h1 : AH} (hl : ∀ q e, h1 q = some e → hA q = some e) (kk : GW X h1 kc pc ls st) : GW X hA kc pc ls st := by
  intro H locs la hP hG hS hL
  refine kk H locs la (hP.less hl) (fun q hq => hG q ?_) hS hL
  cases e : h1 q with
  | none => exact absurd e hq
  | some y => rw [hl q y e]; exact fun z => by cases z
theorem g_room {k1 : Nat} (hk : kc ≤ k1) (kk : GW X hA k1 pc ls st) : GW X hA kc pc ls st := by
  intro H locs la hP hG hS hL T hT S
  exact kk H locs la hP hG hS hL T hT (stand_widen S hk hk)
theorem g_eq {h1 : AH} {ls1 : List (Option Value)} {st1 : List Value} {k1 pc1 : Nat} (e1 : hA = h1) (e2 : kc = k1) (e3 : pc = pc1) (e4 : ls = ls1) (e5 : st = st1) (kk : GW X h1 k1 pc1 ls1 st1) : GW X hA kc pc ls st := by
  subst e1; subst e2; subst e3; subst e4; subst e5; exact kk
theorem g_iconst (ok : Ok X yM cc nL rT hH lV kB) {n : Int} {v : Int32} (hdg : decode cc pc = .ok (.iconst n, 1)) (hv : Int32.ofInt n = v) (k_ : GW X hA kc (pc + 1) ls (.int v :: st)) : GW X hA kc pc ls (st) :=
  fun H locs la hP hG hS hL => lv_iconst ok.x ok.b hdg hv (k_ H locs la hP hG hS hL)
theorem g_bipush (ok : Ok X yM cc nL rT hH lV kB) {n : Int} {v : Int32} (hdg : decode cc pc = .ok (.bipush n, 2)) (hv : (Int8.ofInt n).toInt32 = v) (k_ : GW X hA kc (pc + 2) ls (.int v :: st)) : GW X hA kc pc ls (st) :=
  fun H locs la hP hG hS hL => lv_bipush ok.x ok.b hdg hv (k_ H locs la hP hG hS hL)
theorem g_sipush (ok : Ok X yM cc nL rT hH lV kB) {n : Int} {v : Int32} (hdg : decode cc pc = .ok (.sipush n, 3)) (hv : (Int16.ofInt n).toInt32 = v) (k_ : GW X hA kc (pc + 3) ls (.int v :: st)) : GW X hA kc pc ls (st) :=
  fun H locs la hP hG hS hL => lv_sipush ok.x ok.b hdg hv (k_ H locs la hP hG hS hL)
theorem g_lconst (ok : Ok X yM cc nL rT hH lV kB) {n : Fin 2} {v : Int64} (hdg : decode cc pc = .ok (.lconst n, 1)) (hv : Int64.ofNat (n : Nat) = v) (k_ : GW X hA kc (pc + 1) ls (.long v :: st)) : GW X hA kc pc ls (st) :=
  fun H locs la hP hG hS hL => lv_lconst ok.x ok.b hdg hv (k_ H locs la hP hG hS hL)
theorem g_null (ok : Ok X yM cc nL rT hH lV kB) (hdg : decode cc pc = .ok (.aconst_null, 1)) (k_ : GW X hA kc (pc + 1) ls (.null :: st)) : GW X hA kc pc ls st :=
  fun H locs la hP hG hS hL => lv_null ok.x ok.b hdg (k_ H locs la hP hG hS hL)
theorem g_iadd (ok : Ok X yM cc nL rT hH lV kB) {x y : Int32} (hdg : decode cc pc = .ok (.iadd, 1)) (k_ : GW X hA kc (pc + 1) ls (.int (x + y) :: st)) : GW X hA kc pc ls (.int y :: .int x :: st) :=
  fun H locs la hP hG hS hL => lv_iadd ok.x ok.b hdg (k_ H locs la hP hG hS hL)
theorem g_isub (ok : Ok X yM cc nL rT hH lV kB) {x y : Int32} (hdg : decode cc pc = .ok (.isub, 1)) (k_ : GW X hA kc (pc + 1) ls (.int (x - y) :: st)) : GW X hA kc pc ls (.int y :: .int x :: st) :=
  fun H locs la hP hG hS hL => lv_isub ok.x ok.b hdg (k_ H locs la hP hG hS hL)
theorem g_imul (ok : Ok X yM cc nL rT hH lV kB) {x y : Int32} (hdg : decode cc pc = .ok (.imul, 1)) (k_ : GW X hA kc (pc + 1) ls (.int (x * y) :: st)) : GW X hA kc pc ls (.int y :: .int x :: st) :=
  fun H locs la hP hG hS hL => lv_imul ok.x ok.b hdg (k_ H locs la hP hG hS hL)
theorem g_iand (ok : Ok X yM cc nL rT hH lV kB) {x y : Int32} (hdg : decode cc pc = .ok (.iand, 1)) (k_ : GW X hA kc (pc + 1) ls (.int (x &&& y) :: st)) : GW X hA kc pc ls (.int y :: .int x :: st) :=
  fun H locs la hP hG hS hL => lv_iand ok.x ok.b hdg (k_ H locs la hP hG hS hL)
theorem g_ior (ok : Ok X yM cc nL rT hH lV kB) {x y : Int32} (hdg : decode cc pc = .ok (.ior, 1)) (k_ : GW X hA kc (pc + 1) ls (.int (x ||| y) :: st)) : GW X hA kc pc ls (.int y :: .int x :: st) :=
  fun H locs la hP hG hS hL => lv_ior ok.x ok.b hdg (k_ H locs la hP hG hS hL)
theorem g_ixor (ok : Ok X yM cc nL rT hH lV kB) {x y : Int32} (hdg : decode cc pc = .ok (.ixor, 1)) (k_ : GW X hA kc (pc + 1) ls (.int (x ^^^ y) :: st)) : GW X hA kc pc ls (.int y :: .int x :: st) :=
  fun H locs la hP hG hS hL => lv_ixor ok.x ok.b hdg (k_ H locs la hP hG hS hL)
theorem g_idiv (ok : Ok X yM cc nL rT hH lV kB) {x y : Int32} (hdg : decode cc pc = .ok (.idiv, 1)) (hne : ¬ y = 0) (k_ : GW X hA kc (pc + 1) ls (.int (x / y) :: st)) : GW X hA kc pc ls (.int y :: .int x :: st) :=
  fun H locs la hP hG hS hL => lv_idiv ok.x ok.b hdg hne (k_ H locs la hP hG hS hL)
theorem g_irem (ok : Ok X yM cc nL rT hH lV kB) {x y : Int32} (hdg : decode cc pc = .ok (.irem, 1)) (hne : ¬ y = 0) (k_ : GW X hA kc (pc + 1) ls (.int (x - x / y * y) :: st)) : GW X hA kc pc ls (.int y :: .int x :: st) :=
  fun H locs la hP hG hS hL => lv_irem ok.x ok.b hdg hne (k_ H locs la hP hG hS hL)
theorem g_ineg (ok : Ok X yM cc nL rT hH lV kB) {x : Int32} (hdg : decode cc pc = .ok (.ineg, 1)) (k_ : GW X hA kc (pc + 1) ls (.int (-x) :: st)) : GW X hA kc pc ls (.int x :: st) :=
  fun H locs la hP hG hS hL => lv_ineg ok.x ok.b hdg (k_ H locs la hP hG hS hL)
theorem g_ladd (ok : Ok X yM cc nL rT hH lV kB) {x y : Int64} (hdg : decode cc pc = .ok (.ladd, 1)) (k_ : GW X hA kc (pc + 1) ls (.long (x + y) :: st)) : GW X hA kc pc ls (.long y :: .long x :: st) :=
  fun H locs la hP hG hS hL => lv_ladd ok.x ok.b hdg (k_ H locs la hP hG hS hL)
theorem g_lsub (ok : Ok X yM cc nL rT hH lV kB) {x y : Int64} (hdg : decode cc pc = .ok (.lsub, 1)) (k_ : GW X hA kc (pc + 1) ls (.long (x - y) :: st)) : GW X hA kc pc ls (.long y :: .long x :: st) :=
  fun H locs la hP hG hS hL => lv_lsub ok.x ok.b hdg (k_ H locs la hP hG hS hL)
theorem g_lxor (ok : Ok X yM cc nL rT hH lV kB) {x y : Int64} (hdg : decode cc pc = .ok (.lxor, 1)) (k_ : GW X hA kc (pc + 1) ls (.long (x ^^^ y) :: st)) : GW X hA kc pc ls (.long y :: .long x :: st) :=
  fun H locs la hP hG hS hL => lv_lxor ok.x ok.b hdg (k_ H locs la hP hG hS hL)
theorem g_ishl (ok : Ok X yM cc nL rT hH lV kB) {x y : Int32} (hdg : decode cc pc = .ok (.ishl, 1)) (k_ : GW X hA kc (pc + 1) ls (.int (x <<< (y &&& 31)) :: st)) : GW X hA kc pc ls (.int y :: .int x :: st) :=
  fun H locs la hP hG hS hL => lv_ishl ok.x ok.b hdg (k_ H locs la hP hG hS hL)
theorem g_ishr (ok : Ok X yM cc nL rT hH lV kB) {x y : Int32} (hdg : decode cc pc = .ok (.ishr, 1)) (k_ : GW X hA kc (pc + 1) ls (.int (x >>> (y &&& 31)) :: st)) : GW X hA kc pc ls (.int y :: .int x :: st) :=
  fun H locs la hP hG hS hL => lv_ishr ok.x ok.b hdg (k_ H locs la hP hG hS hL)
theorem g_i2l (ok : Ok X yM cc nL rT hH lV kB) {x : Int32} {v : Int64} (hdg : decode cc pc = .ok (.i2l, 1)) (hv : x.toInt64 = v) (k_ : GW X hA kc (pc + 1) ls (.long v :: st)) : GW X hA kc pc ls (.int x :: st) :=
  fun H locs la hP hG hS hL => lv_i2l ok.x ok.b hdg hv (k_ H locs la hP hG hS hL)
theorem g_l2i (ok : Ok X yM cc nL rT hH lV kB) {x : Int64} {v : Int32} (hdg : decode cc pc = .ok (.l2i, 1)) (hv : x.toInt32 = v) (k_ : GW X hA kc (pc + 1) ls (.int v :: st)) : GW X hA kc pc ls (.long x :: st) :=
  fun H locs la hP hG hS hL => lv_l2i ok.x ok.b hdg hv (k_ H locs la hP hG hS hL)
theorem g_i2b (ok : Ok X yM cc nL rT hH lV kB) {x : Int32} {v : Int32} (hdg : decode cc pc = .ok (.i2b, 1)) (hv : x.toInt8.toInt32 = v) (k_ : GW X hA kc (pc + 1) ls (.int v :: st)) : GW X hA kc pc ls (.int x :: st) :=
  fun H locs la hP hG hS hL => lv_i2b ok.x ok.b hdg hv (k_ H locs la hP hG hS hL)
theorem g_i2c (ok : Ok X yM cc nL rT hH lV kB) {x : Int32} {v : Int32} (hdg : decode cc pc = .ok (.i2c, 1)) (hv : (x.toUInt32 % 65536).toInt32 = v) (k_ : GW X hA kc (pc + 1) ls (.int v :: st)) : GW X hA kc pc ls (.int x :: st) :=
  fun H locs la hP hG hS hL => lv_i2c ok.x ok.b hdg hv (k_ H locs la hP hG hS hL)
theorem g_iushr (ok : Ok X yM cc nL rT hH lV kB) {x y v : Int32} (hdg : decode cc pc = .ok (.iushr, 1)) (hv : (x.toUInt32 >>> (y.toUInt32 &&& Int32.toUInt32 31)).toInt32 = v) (k_ : GW X hA kc (pc + 1) ls (.int v :: st)) : GW X hA kc pc ls (.int y :: .int x :: st) :=
  fun H locs la hP hG hS hL => lv_iushr ok.x ok.b hdg hv (k_ H locs la hP hG hS hL)
theorem g_lshl (ok : Ok X yM cc nL rT hH lV kB) {x v : Int64} {y : Int32} (hdg : decode cc pc = .ok (.lshl, 1)) (hv : x <<< (y.toInt64 &&& 63) = v) (k_ : GW X hA kc (pc + 1) ls (.long v :: st)) : GW X hA kc pc ls (.int y :: .long x :: st) :=
  fun H locs la hP hG hS hL => lv_lshl ok.x ok.b hdg hv (k_ H locs la hP hG hS hL)
theorem g_dup (ok : Ok X yM cc nL rT hH lV kB) {va : Value} (hdg : decode cc pc = .ok (.dup, 1)) (hva : va.category = 1) (k_ : GW X hA kc (pc + 1) ls (va :: va :: st)) : GW X hA kc pc ls (va :: st) :=
  fun H locs la hP hG hS hL => lv_dup ok.x ok.b hdg hva (k_ H locs la hP hG hS hL)
theorem g_pop (ok : Ok X yM cc nL rT hH lV kB) {va : Value} (hdg : decode cc pc = .ok (.pop, 1)) (hva : va.category = 1) (k_ : GW X hA kc (pc + 1) ls (st)) : GW X hA kc pc ls (va :: st) :=
  fun H locs la hP hG hS hL => lv_pop ok.x ok.b hdg hva (k_ H locs la hP hG hS hL)
theorem g_dup_x1 (ok : Ok X yM cc nL rT hH lV kB) {va vb : Value} (hdg : decode cc pc = .ok (.dup_x1, 1)) (hva : va.category = 1) (hvb : vb.category = 1) (k_ : GW X hA kc (pc + 1) ls (va :: vb :: va :: st)) : GW X hA kc pc ls (va :: vb :: st) :=
  fun H locs la hP hG hS hL => lv_dup_x1 ok.x ok.b hdg hva hvb (k_ H locs la hP hG hS hL)
theorem g_dup2_11 (ok : Ok X yM cc nL rT hH lV kB) {va vb : Value} (hdg : decode cc pc = .ok (.dup2, 1)) (hva : va.category = 1) (hvb : vb.category = 1) (k_ : GW X hA kc (pc + 1) ls (va :: vb :: va :: vb :: st)) : GW X hA kc pc ls (va :: vb :: st) :=
  fun H locs la hP hG hS hL => lv_dup2_11 ok.x ok.b hdg hva hvb (k_ H locs la hP hG hS hL)
theorem g_pop2_2 (ok : Ok X yM cc nL rT hH lV kB) {va : Value} (hdg : decode cc pc = .ok (.pop2, 1)) (hva : va.category = 2) (k_ : GW X hA kc (pc + 1) ls (st)) : GW X hA kc pc ls (va :: st) :=
  fun H locs la hP hG hS hL => lv_pop2_2 ok.x ok.b hdg hva (k_ H locs la hP hG hS hL)
theorem g_if_eq (ok : Ok X yM cc nL rT hH lV kB) {x : Int32} {off : Int} {tgt : Nat} (hdg : decode cc pc = .ok (.ifCond .eq off, 3)) (ht : (pc : Int) + off = (tgt : Int)) (kt_ : x = 0 → GW X hA kc tgt ls st) (kf_ : ¬ x = 0 → GW X hA kc (pc + 3) ls st) : GW X hA kc pc ls (.int x :: st) :=
  fun H locs la hP hG hS hL => lv_if_eq ok.x ok.b hdg ht (fun c => kt_ c H locs la hP hG hS hL) (fun c => kf_ c H locs la hP hG hS hL)
theorem g_icmp_eq (ok : Ok X yM cc nL rT hH lV kB) {x y : Int32} {off : Int} {tgt : Nat} (hdg : decode cc pc = .ok (.if_icmp .eq off, 3)) (ht : (pc : Int) + off = (tgt : Int)) (kt_ : x = y → GW X hA kc tgt ls st) (kf_ : ¬ x = y → GW X hA kc (pc + 3) ls st) : GW X hA kc pc ls (.int y :: .int x :: st) :=
  fun H locs la hP hG hS hL => lv_icmp_eq ok.x ok.b hdg ht (fun c => kt_ c H locs la hP hG hS hL) (fun c => kf_ c H locs la hP hG hS hL)
theorem g_if_ne (ok : Ok X yM cc nL rT hH lV kB) {x : Int32} {off : Int} {tgt : Nat} (hdg : decode cc pc = .ok (.ifCond .ne off, 3)) (ht : (pc : Int) + off = (tgt : Int)) (kt_ : ¬ x = 0 → GW X hA kc tgt ls st) (kf_ : x = 0 → GW X hA kc (pc + 3) ls st) : GW X hA kc pc ls (.int x :: st) :=
  fun H locs la hP hG hS hL => lv_if_ne ok.x ok.b hdg ht (fun c => kt_ c H locs la hP hG hS hL) (fun c => kf_ c H locs la hP hG hS hL)
theorem g_icmp_ne (ok : Ok X yM cc nL rT hH lV kB) {x y : Int32} {off : Int} {tgt : Nat} (hdg : decode cc pc = .ok (.if_icmp .ne off, 3)) (ht : (pc : Int) + off = (tgt : Int)) (kt_ : ¬ x = y → GW X hA kc tgt ls st) (kf_ : x = y → GW X hA kc (pc + 3) ls st) : GW X hA kc pc ls (.int y :: .int x :: st) :=
  fun H locs la hP hG hS hL => lv_icmp_ne ok.x ok.b hdg ht (fun c => kt_ c H locs la hP hG hS hL) (fun c => kf_ c H locs la hP hG hS hL)
theorem g_if_lt (ok : Ok X yM cc nL rT hH lV kB) {x : Int32} {off : Int} {tgt : Nat} (hdg : decode cc pc = .ok (.ifCond .lt off, 3)) (ht : (pc : Int) + off = (tgt : Int)) (kt_ : x < 0 → GW X hA kc tgt ls st) (kf_ : ¬ x < 0 → GW X hA kc (pc + 3) ls st) : GW X hA kc pc ls (.int x :: st) :=
  fun H locs la hP hG hS hL => lv_if_lt ok.x ok.b hdg ht (fun c => kt_ c H locs la hP hG hS hL) (fun c => kf_ c H locs la hP hG hS hL)
theorem g_icmp_lt (ok : Ok X yM cc nL rT hH lV kB) {x y : Int32} {off : Int} {tgt : Nat} (hdg : decode cc pc = .ok (.if_icmp .lt off, 3)) (ht : (pc : Int) + off = (tgt : Int)) (kt_ : x < y → GW X hA kc tgt ls st) (kf_ : ¬ x < y → GW X hA kc (pc + 3) ls st) : GW X hA kc pc ls (.int y :: .int x :: st) :=
  fun H locs la hP hG hS hL => lv_icmp_lt ok.x ok.b hdg ht (fun c => kt_ c H locs la hP hG hS hL) (fun c => kf_ c H locs la hP hG hS hL)
theorem g_if_ge (ok : Ok X yM cc nL rT hH lV kB) {x : Int32} {off : Int} {tgt : Nat} (hdg : decode cc pc = .ok (.ifCond .ge off, 3)) (ht : (pc : Int) + off = (tgt : Int)) (kt_ : 0 ≤ x → GW X hA kc tgt ls st) (kf_ : ¬ 0 ≤ x → GW X hA kc (pc + 3) ls st) : GW X hA kc pc ls (.int x :: st) :=
  fun H locs la hP hG hS hL => lv_if_ge ok.x ok.b hdg ht (fun c => kt_ c H locs la hP hG hS hL) (fun c => kf_ c H locs la hP hG hS hL)
theorem g_icmp_ge (ok : Ok X yM cc nL rT hH lV kB) {x y : Int32} {off : Int} {tgt : Nat} (hdg : decode cc pc = .ok (.if_icmp .ge off, 3)) (ht : (pc : Int) + off = (tgt : Int)) (kt_ : y ≤ x → GW X hA kc tgt ls st) (kf_ : ¬ y ≤ x → GW X hA kc (pc + 3) ls st) : GW X hA kc pc ls (.int y :: .int x :: st) :=
  fun H locs la hP hG hS hL => lv_icmp_ge ok.x ok.b hdg ht (fun c => kt_ c H locs la hP hG hS hL) (fun c => kf_ c H locs la hP hG hS hL)
theorem g_if_gt (ok : Ok X yM cc nL rT hH lV kB) {x : Int32} {off : Int} {tgt : Nat} (hdg : decode cc pc = .ok (.ifCond .gt off, 3)) (ht : (pc : Int) + off = (tgt : Int)) (kt_ : 0 < x → GW X hA kc tgt ls st) (kf_ : ¬ 0 < x → GW X hA kc (pc + 3) ls st) : GW X hA kc pc ls (.int x :: st) :=
  fun H locs la hP hG hS hL => lv_if_gt ok.x ok.b hdg ht (fun c => kt_ c H locs la hP hG hS hL) (fun c => kf_ c H locs la hP hG hS hL)
theorem g_icmp_gt (ok : Ok X yM cc nL rT hH lV kB) {x y : Int32} {off : Int} {tgt : Nat} (hdg : decode cc pc = .ok (.if_icmp .gt off, 3)) (ht : (pc : Int) + off = (tgt : Int)) (kt_ : y < x → GW X hA kc tgt ls st) (kf_ : ¬ y < x → GW X hA kc (pc + 3) ls st) : GW X hA kc pc ls (.int y :: .int x :: st) :=
  fun H locs la hP hG hS hL => lv_icmp_gt ok.x ok.b hdg ht (fun c => kt_ c H locs la hP hG hS hL) (fun c => kf_ c H locs la hP hG hS hL)
theorem g_if_le (ok : Ok X yM cc nL rT hH lV kB) {x : Int32} {off : Int} {tgt : Nat} (hdg : decode cc pc = .ok (.ifCond .le off, 3)) (ht : (pc : Int) + off = (tgt : Int)) (kt_ : x ≤ 0 → GW X hA kc tgt ls st) (kf_ : ¬ x ≤ 0 → GW X hA kc (pc + 3) ls st) : GW X hA kc pc ls (.int x :: st) :=
  fun H locs la hP hG hS hL => lv_if_le ok.x ok.b hdg ht (fun c => kt_ c H locs la hP hG hS hL) (fun c => kf_ c H locs la hP hG hS hL)
theorem g_icmp_le (ok : Ok X yM cc nL rT hH lV kB) {x y : Int32} {off : Int} {tgt : Nat} (hdg : decode cc pc = .ok (.if_icmp .le off, 3)) (ht : (pc : Int) + off = (tgt : Int)) (kt_ : x ≤ y → GW X hA kc tgt ls st) (kf_ : ¬ x ≤ y → GW X hA kc (pc + 3) ls st) : GW X hA kc pc ls (.int y :: .int x :: st) :=
  fun H locs la hP hG hS hL => lv_icmp_le ok.x ok.b hdg ht (fun c => kt_ c H locs la hP hG hS hL) (fun c => kf_ c H locs la hP hG hS hL)
theorem g_goto (ok : Ok X yM cc nL rT hH lV kB) {off : Int} {tgt : Nat} (hdg : decode cc pc = .ok (.goto off, 3)) (ht : (pc : Int) + off = (tgt : Int)) (k_ : GW X hA kc tgt ls st) : GW X hA kc pc ls st :=
  fun H locs la hP hG hS hL => lv_goto ok.x ok.b hdg ht (k_ H locs la hP hG hS hL)
theorem g_i2f (ok : Ok X yM cc nL rT hH lV kB) {x : Int32} (hdg : decode cc pc = .ok (.i2f, 1)) (k_ : GW X hA kc (pc + 1) ls (.float (FP.i2f x) :: st)) : GW X hA kc pc ls (.int x :: st) :=
  fun H locs la hP hG hS hL => lv_i2f ok.x ok.b hdg (k_ H locs la hP hG hS hL)
theorem g_i2d (ok : Ok X yM cc nL rT hH lV kB) {x : Int32} (hdg : decode cc pc = .ok (.i2d, 1)) (k_ : GW X hA kc (pc + 1) ls (.double (FP.i2d x) :: st)) : GW X hA kc pc ls (.int x :: st) :=
  fun H locs la hP hG hS hL => lv_i2d ok.x ok.b hdg (k_ H locs la hP hG hS hL)
theorem g_f2d (ok : Ok X yM cc nL rT hH lV kB) {x : UInt32} (hdg : decode cc pc = .ok (.f2d, 1)) (hne : vf_n64 (FP.f2d x)) (k_ : GW X hA kc (pc + 1) ls (.double (FP.f2d x) :: st)) : GW X hA kc pc ls (.float x :: st) :=
  fun H locs la hP hG hS hL => lv_f2d ok.x ok.b hdg hne (k_ H locs la hP hG hS hL)
theorem g_fdiv (ok : Ok X yM cc nL rT hH lV kB) {x y : UInt32} (hdg : decode cc pc = .ok (.fdiv, 1)) (hne : vf_n32 (FP.fdiv x y)) (k_ : GW X hA kc (pc + 1) ls (.float (FP.fdiv x y) :: st)) : GW X hA kc pc ls (.float y :: .float x :: st) :=
  fun H locs la hP hG hS hL => lv_fdiv ok.x ok.b hdg hne (k_ H locs la hP hG hS hL)
theorem g_ddiv (ok : Ok X yM cc nL rT hH lV kB) {x y : UInt64} (hdg : decode cc pc = .ok (.ddiv, 1)) (hne : vf_n64 (FP.ddiv x y)) (k_ : GW X hA kc (pc + 1) ls (.double (FP.ddiv x y) :: st)) : GW X hA kc pc ls (.double y :: .double x :: st) :=
  fun H locs la hP hG hS hL => lv_ddiv ok.x ok.b hdg hne (k_ H locs la hP hG hS hL)
theorem g_fcmp (ok : Ok X yM cc nL rT hH lV kB) {x y : UInt32} {op : CmpOp} (hdg : decode cc pc = .ok (.fcmp op, 1)) (k_ : GW X hA kc (pc + 1) ls (.int (Op.cmpValue (FP.fcmp x y) op) :: st)) : GW X hA kc pc ls (.float y :: .float x :: st) :=
  fun H locs la hP hG hS hL => lv_fcmp ok.x ok.b hdg (k_ H locs la hP hG hS hL)
theorem g_dcmp (ok : Ok X yM cc nL rT hH lV kB) {x y : UInt64} {op : CmpOp} (hdg : decode cc pc = .ok (.dcmp op, 1)) (k_ : GW X hA kc (pc + 1) ls (.int (Op.cmpValue (FP.dcmp x y) op) :: st)) : GW X hA kc pc ls (.double y :: .double x :: st) :=
  fun H locs la hP hG hS hL => lv_dcmp ok.x ok.b hdg (k_ H locs la hP hG hS hL)
theorem g_lookup (ok : Ok X yM cc nL rT hH lV kB) {dflt : Int} {ps : Array (Int × Int)} {len : Nat} {x : Int32} {off : Int} {tgt : Nat} (hdg : decode cc pc = .ok (.lookupswitch dflt ps, len)) (hp : (ps.toList.zip (ps.toList.drop 1)).all (fun (a, next) => a.1 < next.1) = true) (ho : Op.lookupswitch.offset ps.toList dflt x.toInt = off) (ht : (pc : Int) + off = (tgt : Int)) (k_ : GW X hA kc tgt ls st) : GW X hA kc pc ls (.int x :: st) :=
  fun H locs la hP hG hS hL => lv_lookup ok.x ok.b hdg hp ho ht (k_ H locs la hP hG hS hL)
theorem g_tableOut (ok : Ok X yM cc nL rT hH lV kB) {dflt lo hi : Int} {offs : Array Int} {len : Nat} {x : Int32} {tgt : Nat} (hdg : decode cc pc = .ok (.tableswitch dflt lo hi offs, len)) (h : x.toInt < lo ∨ hi < x.toInt) (ht : (pc : Int) + dflt = (tgt : Int)) (k_ : GW X hA kc tgt ls st) : GW X hA kc pc ls (.int x :: st) :=
  fun H locs la hP hG hS hL => lv_tableOut ok.x ok.b hdg h ht (k_ H locs la hP hG hS hL)
theorem g_tableIn (ok : Ok X yM cc nL rT hH lV kB) {dflt lo hi : Int} {offs : Array Int} {len : Nat} {x : Int32} {off : Int} {tgt : Nat} (hdg : decode cc pc = .ok (.tableswitch dflt lo hi offs, len)) (h1 : ¬ x.toInt < lo) (h2 : ¬ hi < x.toInt) (ho : offs[(x.toInt - lo).toNat]? = some off) (ht : (pc : Int) + off = (tgt : Int)) (k_ : GW X hA kc tgt ls st) : GW X hA kc pc ls (.int x :: st) :=
  fun H locs la hP hG hS hL => lv_tableIn ok.x ok.b hdg h1 h2 ho ht (k_ H locs la hP hG hS hL)
theorem g_ifnonnull (ok : Ok X yM cc nL rT hH lV kB) {x : Nat} {off : Int} {tgt : Nat} (hdg : decode cc pc = .ok (.ifnonnull off, 3)) (ht : (pc : Int) + off = (tgt : Int)) (k_ : GW X hA kc tgt ls st) : GW X hA kc pc ls (.ref x :: st) :=
  fun H locs la hP hG hS hL => lv_ifnonnull ok.x ok.b hdg ht (k_ H locs la hP hG hS hL)
theorem g_ifnull (ok : Ok X yM cc nL rT hH lV kB) {x : Nat} {off : Int} (hdg : decode cc pc = .ok (.ifnull off, 3)) (k_ : GW X hA kc (pc + 3) ls st) : GW X hA kc pc ls (.ref x :: st) :=
  fun H locs la hP hG hS hL => lv_ifnull ok.x ok.b hdg (k_ H locs la hP hG hS hL)
theorem g_ifnullN (ok : Ok X yM cc nL rT hH lV kB) {off : Int} {tgt : Nat} (hdg : decode cc pc = .ok (.ifnull off, 3)) (ht : (pc : Int) + off = (tgt : Int)) (k_ : GW X hA kc tgt ls st) : GW X hA kc pc ls (.null :: st) :=
  fun H locs la hP hG hS hL => lv_ifnullN ok.x ok.b hdg ht (k_ H locs la hP hG hS hL)
theorem g_ifnonnullN (ok : Ok X yM cc nL rT hH lV kB) {off : Int} (hdg : decode cc pc = .ok (.ifnonnull off, 3)) (k_ : GW X hA kc (pc + 3) ls st) : GW X hA kc pc ls (.null :: st) :=
  fun H locs la hP hG hS hL => lv_ifnonnullN ok.x ok.b hdg (k_ H locs la hP hG hS hL)
theorem g_acmp_eq (ok : Ok X yM cc nL rT hH lV kB) {rx ry : Option Nat} {off : Int} {tgt : Nat} (hdg : decode cc pc = .ok (.if_acmp .eq off, 3)) (ht : (pc : Int) + off = (tgt : Int)) (kt_ : rx = ry → GW X hA kc tgt ls st) (kf_ : ¬ rx = ry → GW X hA kc (pc + 3) ls st) : GW X hA kc pc ls (va_rf ry :: va_rf rx :: st) :=
  fun H locs la hP hG hS hL => lv_acmp_eq ok.x ok.b hdg ht (fun c => kt_ c H locs la hP hG hS hL) (fun c => kf_ c H locs la hP hG hS hL)
theorem g_acmp_ne (ok : Ok X yM cc nL rT hH lV kB) {rx ry : Option Nat} {off : Int} {tgt : Nat} (hdg : decode cc pc = .ok (.if_acmp .ne off, 3)) (ht : (pc : Int) + off = (tgt : Int)) (kt_ : ¬ rx = ry → GW X hA kc tgt ls st) (kf_ : rx = ry → GW X hA kc (pc + 3) ls st) : GW X hA kc pc ls (va_rf ry :: va_rf rx :: st) :=
  fun H locs la hP hG hS hL => lv_acmp_ne ok.x ok.b hdg ht (fun c => kt_ c H locs la hP hG hS hL) (fun c => kf_ c H locs la hP hG hS hL)
theorem g_castN (ok : Ok X yM cc nL rT hH lV kB) {index : Nat} (hdg : decode cc pc = .ok (.checkcast index, 3)) (k_ : GW X hA kc (pc + 3) ls (.null :: st)) : GW X hA kc pc ls (.null :: st) :=
  fun H locs la hP hG hS hL => lv_castN ok.x ok.b hdg (k_ H locs la hP hG hS hL)
theorem g_instN (ok : Ok X yM cc nL rT hH lV kB) {index : Nat} (hdg : decode cc pc = .ok (.instanceof index, 3)) (k_ : GW X hA kc (pc + 3) ls (.int 0 :: st)) : GW X hA kc pc ls (.null :: st) :=
  fun H locs la hP hG hS hL => lv_instN ok.x ok.b hdg (k_ H locs la hP hG hS hL)
theorem g_iload_n (ok : Ok X yM cc nL rT hH lV kB) {n : Fin 4} {v : Int32} (hd : decode cc pc = .ok (.iload_n n, 1)) (hl : ls[(n : Nat)]? = some (some (.int v))) (kk : GW X hA kc (pc + 1) ls (.int v :: st)) : GW X hA kc pc ls st :=
  fun H locs la hP hG hS hL => lv_iload_n ok.x ok.b hd rfl (hL.at hl) (kk H locs la hP hG hS hL)
theorem g_iload (ok : Ok X yM cc nL rT hH lV kB) {n : Nat} {v : Int32} (hd : decode cc pc = .ok (.iload n, 2)) (hl : ls[n]? = some (some (.int v))) (kk : GW X hA kc (pc + 2) ls (.int v :: st)) : GW X hA kc pc ls st :=
  fun H locs la hP hG hS hL => lv_iload ok.x ok.b hd (hL.at hl) (kk H locs la hP hG hS hL)
theorem g_lload_n (ok : Ok X yM cc nL rT hH lV kB) {n : Fin 4} {v : Int64} (hd : decode cc pc = .ok (.lload_n n, 1)) (hl : ls[(n : Nat)]? = some (some (.long v))) (kk : GW X hA kc (pc + 1) ls (.long v :: st)) : GW X hA kc pc ls st :=
  fun H locs la hP hG hS hL => lv_lload_n ok.x ok.b hd rfl (hL.at hl) (kk H locs la hP hG hS hL)
theorem g_lload (ok : Ok X yM cc nL rT hH lV kB) {n : Nat} {v : Int64} (hd : decode cc pc = .ok (.lload n, 2)) (hl : ls[n]? = some (some (.long v))) (kk : GW X hA kc (pc + 2) ls (.long v :: st)) : GW X hA kc pc ls st :=
  fun H locs la hP hG hS hL => lv_lload ok.x ok.b hd (hL.at hl) (kk H locs la hP hG hS hL)
theorem g_fload_n (ok : Ok X yM cc nL rT hH lV kB) {n : Fin 4} {v : UInt32} (hd : decode cc pc = .ok (.fload_n n, 1)) (hl : ls[(n : Nat)]? = some (some (.float v))) (kk : GW X hA kc (pc + 1) ls (.float v :: st)) : GW X hA kc pc ls st :=
  fun H locs la hP hG hS hL => lv_fload_n ok.x ok.b hd rfl (hL.at hl) (kk H locs la hP hG hS hL)
theorem g_fload (ok : Ok X yM cc nL rT hH lV kB) {n : Nat} {v : UInt32} (hd : decode cc pc = .ok (.fload n, 2)) (hl : ls[n]? = some (some (.float v))) (kk : GW X hA kc (pc + 2) ls (.float v :: st)) : GW X hA kc pc ls st :=
  fun H locs la hP hG hS hL => lv_fload ok.x ok.b hd (hL.at hl) (kk H locs la hP hG hS hL)
theorem g_dload_n (ok : Ok X yM cc nL rT hH lV kB) {n : Fin 4} {v : UInt64} (hd : decode cc pc = .ok (.dload_n n, 1)) (hl : ls[(n : Nat)]? = some (some (.double v))) (kk : GW X hA kc (pc + 1) ls (.double v :: st)) : GW X hA kc pc ls st :=
  fun H locs la hP hG hS hL => lv_dload_n ok.x ok.b hd rfl (hL.at hl) (kk H locs la hP hG hS hL)
theorem g_dload (ok : Ok X yM cc nL rT hH lV kB) {n : Nat} {v : UInt64} (hd : decode cc pc = .ok (.dload n, 2)) (hl : ls[n]? = some (some (.double v))) (kk : GW X hA kc (pc + 2) ls (.double v :: st)) : GW X hA kc pc ls st :=
  fun H locs la hP hG hS hL => lv_dload ok.x ok.b hd (hL.at hl) (kk H locs la hP hG hS hL)
theorem g_aload_n (ok : Ok X yM cc nL rT hH lV kB) {n : Fin 4} {v : Nat} (hd : decode cc pc = .ok (.aload_n n, 1)) (hl : ls[(n : Nat)]? = some (some (.ref v))) (kk : GW X hA kc (pc + 1) ls (.ref v :: st)) : GW X hA kc pc ls st :=
  fun H locs la hP hG hS hL => lv_aload_n ok.x ok.b hd rfl (hL.at hl) (kk H locs la hP hG hS hL)
theorem g_aload (ok : Ok X yM cc nL rT hH lV kB) {n : Nat} {v : Nat} (hd : decode cc pc = .ok (.aload n, 2)) (hl : ls[n]? = some (some (.ref v))) (kk : GW X hA kc (pc + 2) ls (.ref v :: st)) : GW X hA kc pc ls st :=
  fun H locs la hP hG hS hL => lv_aload ok.x ok.b hd (hL.at hl) (kk H locs la hP hG hS hL)
theorem g_aload_nN (ok : Ok X yM cc nL rT hH lV kB) {n : Fin 4} (hd : decode cc pc = .ok (.aload_n n, 1)) (hl : ls[(n : Nat)]? = some (some .null)) (kk : GW X hA kc (pc + 1) ls (.null :: st)) : GW X hA kc pc ls st :=
  fun H locs la hP hG hS hL => lv_aload_nN ok.x ok.b hd rfl (hL.at hl) (kk H locs la hP hG hS hL)
theorem g_aloadN (ok : Ok X yM cc nL rT hH lV kB) {n : Nat} (hd : decode cc pc = .ok (.aload n, 2)) (hl : ls[n]? = some (some .null)) (kk : GW X hA kc (pc + 2) ls (.null :: st)) : GW X hA kc pc ls st :=
  fun H locs la hP hG hS hL => lv_aloadN ok.x ok.b hd (hL.at hl) (kk H locs la hP hG hS hL)
theorem g_istore_n (ok : Ok X yM cc nL rT hH lV kB) {n : Fin 4} {v : Int32} {ls1 : List (Option Value)} (hd : decode cc pc = .ok (.istore_n n, 1)) (hn : (n : Nat) < ls.length) (hl : sto1 ls n (.int v) = ls1) (kk : GW X hA kc (pc + 1) ls1 st) : GW X hA kc pc ls (.int v :: st) := by
  subst hl
  intro H locs la hP hG hS hL T hT S
  obtain ⟨la1, e, hL1⟩ := hL.st1 (v := .int v) hn rfl
  obtain ⟨t, a, b⟩ := kk H locs la1 hP hG hS hL1 T hT S
  refine ⟨t, ?_, b⟩
  have hx := ok.x
  have hb := ok.b
  jvm_step S.here [S.here.top, ↓top_set S.here.top, hx, hb, hd, e]
  exact a
theorem g_istore (ok : Ok X yM cc nL rT hH lV kB) {n : Nat} {v : Int32} {ls1 : List (Option Value)} (hd : decode cc pc = .ok (.istore n, 2)) (hn : (n : Nat) < ls.length) (hl : sto1 ls n (.int v) = ls1) (kk : GW X hA kc (pc + 2) ls1 st) : GW X hA kc pc ls (.int v :: st) := by
  subst hl
  intro H locs la hP hG hS hL T hT S
  obtain ⟨la1, e, hL1⟩ := hL.st1 (v := .int v) hn rfl
  obtain ⟨t, a, b⟩ := kk H locs la1 hP hG hS hL1 T hT S
  refine ⟨t, ?_, b⟩
  have hx := ok.x
  have hb := ok.b
  jvm_step S.here [S.here.top, ↓top_set S.here.top, hx, hb, hd, e]
  exact a
theorem g_lstore_n (ok : Ok X yM cc nL rT hH lV kB) {n : Fin 4} {v : Int64} {ls1 : List (Option Value)} (hd : decode cc pc = .ok (.lstore_n n, 1)) (hn : (n : Nat) + 1 < ls.length) (hl : sto2 ls n (.long v) = ls1) (kk : GW X hA kc (pc + 1) ls1 st) : GW X hA kc pc ls (.long v :: st) := by
  subst hl
  intro H locs la hP hG hS hL T hT S
  obtain ⟨la1, e, hL1⟩ := hL.st2 (v := .long v) hn rfl
  obtain ⟨t, a, b⟩ := kk H locs la1 hP hG hS hL1 T hT S
  refine ⟨t, ?_, b⟩
  have hx := ok.x
  have hb := ok.b
  jvm_step S.here [S.here.top, ↓top_set S.here.top, hx, hb, hd, e]
  exact a
theorem g_lstore (ok : Ok X yM cc nL rT hH lV kB) {n : Nat} {v : Int64} {ls1 : List (Option Value)} (hd : decode cc pc = .ok (.lstore n, 2)) (hn : (n : Nat) + 1 < ls.length) (hl : sto2 ls n (.long v) = ls1) (kk : GW X hA kc (pc + 2) ls1 st) : GW X hA kc pc ls (.long v :: st) := by
  subst hl
  intro H locs la hP hG hS hL T hT S
  obtain ⟨la1, e, hL1⟩ := hL.st2 (v := .long v) hn rfl
  obtain ⟨t, a, b⟩ := kk H locs la1 hP hG hS hL1 T hT S
  refine ⟨t, ?_, b⟩
  have hx := ok.x
  have hb := ok.b
  jvm_step S.here [S.here.top, ↓top_set S.here.top, hx, hb, hd, e]
  exact a
theorem g_fstore (ok : Ok X yM cc nL rT hH lV kB) {n : Nat} {v : UInt32} {ls1 : List (Option Value)} (hd : decode cc pc = .ok (.fstore n, 2)) (hn : (n : Nat) < ls.length) (hl : sto1 ls n (.float v) = ls1) (kk : GW X hA kc (pc + 2) ls1 st) : GW X hA kc pc ls (.float v :: st) := by
  subst hl
  intro H locs la hP hG hS hL T hT S
  obtain ⟨la1, e, hL1⟩ := hL.st1 (v := .float v) hn rfl
  obtain ⟨t, a, b⟩ := kk H locs la1 hP hG hS hL1 T hT S
  refine ⟨t, ?_, b⟩
  have hx := ok.x
  have hb := ok.b
  jvm_step S.here [S.here.top, ↓top_set S.here.top, hx, hb, hd, e]
  exact a
theorem g_dstore (ok : Ok X yM cc nL rT hH lV kB) {n : Nat} {v : UInt64} {ls1 : List (Option Value)} (hd : decode cc pc = .ok (.dstore n, 2)) (hn : (n : Nat) + 1 < ls.length) (hl : sto2 ls n (.double v) = ls1) (kk : GW X hA kc (pc + 2) ls1 st) : GW X hA kc pc ls (.double v :: st) := by
  subst hl
  intro H locs la hP hG hS hL T hT S
  obtain ⟨la1, e, hL1⟩ := hL.st2 (v := .double v) hn rfl
  obtain ⟨t, a, b⟩ := kk H locs la1 hP hG hS hL1 T hT S
  refine ⟨t, ?_, b⟩
  have hx := ok.x
  have hb := ok.b
  jvm_step S.here [S.here.top, ↓top_set S.here.top, hx, hb, hd, e]
  exact a
theorem g_astore_n (ok : Ok X yM cc nL rT hH lV kB) {n : Fin 4} {v : Nat} {ls1 : List (Option Value)} (hd : decode cc pc = .ok (.astore_n n, 1)) (hn : (n : Nat) < ls.length) (hl : sto1 ls n (.ref v) = ls1) (kk : GW X hA kc (pc + 1) ls1 st) : GW X hA kc pc ls (.ref v :: st) := by
  subst hl
  intro H locs la hP hG hS hL T hT S
  obtain ⟨la1, e, hL1⟩ := hL.st1 (v := .ref v) hn rfl
  obtain ⟨t, a, b⟩ := kk H locs la1 hP hG hS hL1 T hT S
  refine ⟨t, ?_, b⟩
  have hx := ok.x
  have hb := ok.b
  jvm_step S.here [S.here.top, ↓top_set S.here.top, hx, hb, hd, e, Value.isRef]
  exact a
theorem g_astore (ok : Ok X yM cc nL rT hH lV kB) {n : Nat} {v : Nat} {ls1 : List (Option Value)} (hd : decode cc pc = .ok (.astore n, 2)) (hn : (n : Nat) < ls.length) (hl : sto1 ls n (.ref v) = ls1) (kk : GW X hA kc (pc + 2) ls1 st) : GW X hA kc pc ls (.ref v :: st) := by
  subst hl
  intro H locs la hP hG hS hL T hT S
  obtain ⟨la1, e, hL1⟩ := hL.st1 (v := .ref v) hn rfl
  obtain ⟨t, a, b⟩ := kk H locs la1 hP hG hS hL1 T hT S
  refine ⟨t, ?_, b⟩
  have hx := ok.x
  have hb := ok.b
  jvm_step S.here [S.here.top, ↓top_set S.here.top, hx, hb, hd, e, Value.isRef]
  exact a
theorem g_astore_nN (ok : Ok X yM cc nL rT hH lV kB) {n : Fin 4} {ls1 : List (Option Value)} (hd : decode cc pc = .ok (.astore_n n, 1)) (hn : (n : Nat) < ls.length) (hl : sto1 ls n .null = ls1) (kk : GW X hA kc (pc + 1) ls1 st) : GW X hA kc pc ls (.null :: st) := by
  subst hl
  intro H locs la hP hG hS hL T hT S
  obtain ⟨la1, e, hL1⟩ := hL.st1 (v := .null) hn rfl
  obtain ⟨t, a, b⟩ := kk H locs la1 hP hG hS hL1 T hT S
  refine ⟨t, ?_, b⟩
  have hx := ok.x
  have hb := ok.b
  jvm_step S.here [S.here.top, ↓top_set S.here.top, hx, hb, hd, e, Value.isRef]
  exact a
theorem g_astoreN (ok : Ok X yM cc nL rT hH lV kB) {n : Nat} {ls1 : List (Option Value)} (hd : decode cc pc = .ok (.astore n, 2)) (hn : (n : Nat) < ls.length) (hl : sto1 ls n .null = ls1) (kk : GW X hA kc (pc + 2) ls1 st) : GW X hA kc pc ls (.null :: st) := by
  subst hl
  intro H locs la hP hG hS hL T hT S
  obtain ⟨la1, e, hL1⟩ := hL.st1 (v := .null) hn rfl
  obtain ⟨t, a, b⟩ := kk H locs la1 hP hG hS hL1 T hT S
  refine ⟨t, ?_, b⟩
  have hx := ok.x
  have hb := ok.b
  jvm_step S.here [S.here.top, ↓top_set S.here.top, hx, hb, hd, e, Value.isRef]
  exact a
theorem g_iinc (ok : Ok X yM cc nL rT hH lV kB) {i : Nat} {n : Int} {x v : Int32} {ls1 : List (Option Value)} (hd : decode cc pc = .ok (.iinc i n, 3)) (hx : ls[i]? = some (some (.int x))) (hv : x + Int32.ofInt n = v) (hl : sto1 ls i (.int v) = ls1) (kk : GW X hA kc (pc + 3) ls1 st) : GW X hA kc pc ls st := by
  subst hl; subst hv
  intro H locs la hP hG hS hL T hT S
  have hi : i < ls.length := (List.getElem?_eq_some_iff.mp hx).1
  have hg1 := hL.at hx
  obtain ⟨la1, e, hL1⟩ := hL.st1 (v := .int (x + Int32.ofInt n)) hi rfl
  obtain ⟨t, a, b⟩ := kk H locs la1 hP hG hS hL1 T hT S
  refine ⟨t, ?_, b⟩
  have hx := ok.x
  have hb := ok.b
  jvm_step S.here [S.here.top, ↓top_set S.here.top, hx, hb, hd, hg1, e]
  exact a
theorem g_lcmp (ok : Ok X yM cc nL rT hH lV kB) {x y : Int64} (hd : decode cc pc = .ok (.lcmp, 1)) (kk : GW X hA kc (pc + 1) ls (.int (lg_cmp x y) :: st)) : GW X hA kc pc ls (.long y :: .long x :: st) :=
  fun H locs la hP hG hS hL => W.lcmp ok.x ok.b hd (kk H locs la hP hG hS hL)
theorem g_ldc (ok : Ok X yM cc nL rT hH lV kB) {index : Nat} {v : Int32} (hc : Cond.constant yM.cls index v ∈ lw_all) (hd : decode cc pc = .ok (.ldc index, 2)) (kk : GW X hA kc (pc + 2) ls (.int v :: st)) : GW X hA kc pc ls st :=
  fun H locs la hP hG hS hL => lv_ldc ok.x ok.b ok.own (ok.ts _ hc) hd (kk H locs la hP hG hS hL)
theorem g_ldc2d (ok : Ok X yM cc nL rT hH lV kB) {index : Nat} {v : UInt64} (hc : Cond.constantDouble yM.cls index v ∈ lw_all) (hd : decode cc pc = .ok (.ldc2_w index, 3)) (kk : GW X hA kc (pc + 3) ls (.double v :: st)) : GW X hA kc pc ls st :=
  fun H locs la hP hG hS hL => lv_ldc2d ok.x ok.b ok.own (ok.ts _ hc) hd (kk H locs la hP hG hS hL)
end
