/-! the SpanRuler: undo, save, restore -/
set_option maxRecDepth 100000
def Sm7 (s s' : MS) : Prop := s'.I 8 = s.I 8 ∧ s'.I 10 = s.I 10 ∧ s'.I 14 = s.I 14 ∧ s'.I 15 = s.I 15 ∧ s'.I 16 = s.I 16 ∧ s'.A 7 = s.A 7 ∧ s'.A 9 = s.A 9
theorem SRx.setr {G : GE} {own own' : Nat → Nat} {hr h : AH} {x : Nat} {s s' : MS} {ru ru' : Nat} {sv sv' : Value} {hl hd hc : Nat} {hm : Int32} {hf : Nat → Option Nat} {inp ln : Nat} {bt rf : Value} (S : SRx G own hr h x s ru sv hl hd hc hm hf inp ln bt rf) (T : SRs G own' hr s' ru' sv' hf) (u : s'.I 4 = s.I 4) (e : Sm7 s s') :
    SRx G own' hr (up h x (ob 0 [.ref ru', sv', .ref hl, .ref inp, .ref ln, .int (s.I 10), bt, rf])) x s' ru' sv' hl hd hc hm hf inp ln bt rf := by
  obtain ⟨s1, s2, s3, s4, s5, s6, s7, s8, s9, s10, s11, s12⟩ := S
  obtain ⟨i8, i10, i14, i15, i16, a7, a9⟩ := e
  have mo : ∀ z ci l, h z = some (ob ci l) → ci ≠ 0 → up h x (ob 0 [.ref ru', sv', .ref hl, .ref inp, .ref ln, .int (s.I 10), bt, rf]) z = some (ob ci l) := fun z ci l v n => (up_ne (ob_ne s3 v (Ne.symm n))).trans v
  have mr : ∀ z y, h z = some (.inl y) → up h x (ob 0 [.ref ru', sv', .ref hl, .ref inp, .ref ln, .int (s.I 10), bt, rf]) z = some (.inl y) := fun z y v => (up_ne (ob_na s3 v)).trans v
  have eu : mU s' = mU s := by unfold mU; rw [u]
  refine ⟨s1.put s2, s2, ?_, s4, s5, ?_, s7, ?_, T, (s10.mv (fun q n f v => mr q _ v)).congr a9 i10, (s11.mv (fun q l v => mo q 14 l v (by decide)) (fun q n f _ v => mr q _ v)).congr a7 i8, (s12.mv (fun q ci l v z => mo q ci l v (by omega))).congr i14 i15 i16⟩
  · rw [up_self, i10]
  · rw [eu]; exact s6.mv (fun q l v => mo q 12 l v (by decide)) (fun q n f v => mr q _ v)
  · unfold mUo; rw [eu, u]; exact s8
theorem SRx.setl {G : GE} {own : Nat → Nat} {hr h h' : AH} {x : Nat} {s s' : MS} {ru : Nat} {sv : Value} {hl hd hc : Nat} {hm : Int32} {hf : Nat → Option Nat} {inp ln : Nat} {bt rf : Value} (S : SRx G own hr h x s ru sv hl hd hc hm hf inp ln bt rf) (hE : h (G.ga "E0") = none) (k : KeepA h h' hl hd) {hm' : Int32} {g : Nat → Option Nat} (al : AL G h' hl hd hc (mU s') hm' g) (T : SRs G own hr s' ru sv g) (u : mUo s') (e : Sm7 s s') :
    SRx G own hr h' x s' ru sv hl hd hc hm' g inp ln bt rf := by
  obtain ⟨r1, r2, r3, r4, r5⟩ := S.rest hE k
  obtain ⟨i8, i10, i14, i15, i16, a7, a9⟩ := e
  exact ⟨r1, S.2.1, by rw [i10]; exact r2, S.2.2.2.1, S.2.2.2.2.1, al, S.2.2.2.2.2.2.1, u, T, r3.congr a9 i10, r4.congr a7 i8, r5.congr i14 i15 i16⟩
/-- one ruler, known by its address, was asked -/
theorem SRs.asked {G : GE} {own : Nat → Nat} {hr hr' : AH} {s : MS} {ru : Nat} {sv : Value} {hf : Nat → Option Nat} {c : Nat} {R : Nat → Int32} {rt cl nl nd nc vl vd vc : Nat} {nm vm : Int32} {nf vf : Nat → Option Nat} (T : SRs G own hr s ru sv hf) (y : Rul G hr (fun q => own q = c) c R rt cl nl nd nc nm nf vl vd vc vm vf) {ro : List Value} (q : RQ G hr' (fun q => own q = c) c R rt cl ro) (ch : Chg (fun q => own q = c) 0 32 hr hr') (h1 : ru = c → s.A 0 = R) (h2 : ∀ j, j < mU s → hf j ≠ some c) (h3 : sv = .ref c → s.A 5 = R) : SRs G own hr' s ru sv hf := by
  have y2 : RulerAt G hr' (fun q => own q = c) c R := ⟨_, _, _, _, _, _, _, _, _, _, _, _, y.chg ch q.2.1⟩
  obtain ⟨t1, t2, t3, t4⟩ := T
  have mv : ∀ (a : Nat) (T : Nat → Int32), RulerAt G hr (fun q => own q = a) a T → (a = c → T = R) → RulerAt G hr' (fun q => own q = a) a T := fun a T w z => by
    by_cases e : a = c
    · have := z e
      subst e; rw [this]; exact y2
    · exact w.chgOther ch (fun q u v => e (v.symm.trans u))
  refine ⟨⟨mv _ _ t1.1 h1, t1.2⟩, fun j hj => ?_, t3, ?_⟩
  · obtain ⟨a, a1, a2, a3, a4⟩ := t2 j hj
    exact ⟨a, a1, a2, mv _ _ a3 (fun e => absurd (by rw [a1, e]) (h2 j hj)), a4⟩
  · rcases t4 with a | ⟨a, a1, a2, a3, a4, a5, a6⟩
    · exact Or.inl a
    · exact Or.inr ⟨a, a1, a2, a3, a4, mv _ _ a5 (fun e => h3 (by rw [a1, e])), a6⟩
theorem SRs.undone {G : GE} {own : Nat → Nat} {hr : AH} {s s1 : MS} {ru : Nat} {sv : Value} {hf g : Nat → Option Nat} (T : SRs G own hr s ru sv hf) (u : mU s1 + 1 = mU s) (hg : ∀ j, j < mU s1 → g j = hf j) (a0 : s1.A 0 = s.A 0) (a3 : s1.A 3 = s.A 3) (a5 : s1.A 5 = s.A 5) (i6 : s1.I 6 = s.I 6) : SRs G own hr s1 ru sv g := by
  obtain ⟨t1, t2, t3, t4⟩ := T
  refine ⟨by rw [a0]; exact t1, fun j hj => ?_, fun i j hij hj => by rw [hg i (by omega), hg j hj]; exact t3 i j hij (by omega), ?_⟩
  · rw [hg j hj, a3]; exact t2 j (by omega)
  · rw [a5, i6]
    rcases t4 with a | ⟨a, b1, b2, b3, b4, b5, b6⟩
    · exact Or.inl a
    · exact Or.inr ⟨a, b1, b2, b3, fun j hj => by rw [hg j hj]; exact b4 j (by omega), b5, b6⟩
