set_option maxRecDepth 100000
/-! ===== expressions: higher is no less ===== -/
theorem EcX.up {g : GP} {im : Mem} : ∀ h, (∀ q f, (EcX g im h).1 q f → (EcX g im (h + 1)).1 q f) ∧ (∀ q t, (EcX g im h).2 q t → (EcX g im (h + 1)).2 q t)
  | 0 => ⟨fun _ _ z => absurd z (fun w => w), fun _ _ z => absurd z (fun w => w)⟩
  | h + 1 => by
    obtain ⟨ihE, ihT⟩ := EcX.up (g := g) (im := im) h
    refine ⟨fun q f z => ?_, fun q t z => ?_⟩
    · rcases z with ⟨n, h1, h2⟩ | ⟨c, h1, h2⟩ | ⟨a, b, s, f1, f2, h1, h2, h3, h4, h5⟩ | ⟨a, b, l, f1, f2, h1, h3, h4, h5⟩ | ⟨a, b, c, f1, f2, t, h1, h3, h4, h5, h6⟩
      · exact Or.inl ⟨n, h1, h2⟩
      · exact Or.inr (Or.inl ⟨c, h1, h2⟩)
      · exact Or.inr (Or.inr (Or.inl ⟨a, b, s, f1, f2, h1, h2, ihE _ _ h3, ihE _ _ h4, h5⟩))
      · exact Or.inr (Or.inr (Or.inr (Or.inl ⟨a, b, l, f1, f2, h1, ihE _ _ h3, ihE _ _ h4, h5⟩)))
      · exact Or.inr (Or.inr (Or.inr (Or.inr ⟨a, b, c, f1, f2, t, h1, ihE _ _ h3, ihE _ _ h4, ihT _ _ h5, h6⟩)))
    · rcases z with ⟨al, p, e, n, m, mc, fn, ts, h1, h2, h3, h4, h5⟩ | ⟨p, t1, h1, h2, h3⟩ | ⟨a, b, s, f1, f2, h1, h2, h3, h4, h5⟩
      · exact Or.inl ⟨al, p, e, n, m, mc, fn, ts, h1, h2, h3, fun j hj => by
          obtain ⟨r, e1, e2⟩ := h4 j hj
          exact ⟨r, e1, ihT _ _ e2⟩, h5⟩
      · exact Or.inr (Or.inl ⟨p, t1, h1, ihT _ _ h2, h3⟩)
      · exact Or.inr (Or.inr ⟨a, b, s, f1, f2, h1, h2, ihE _ _ h3, ihE _ _ h4, h5⟩)
theorem EcX.leE {g : GP} {im : Mem} {q : Nat} {f : Fn4} {h : Nat} (z : (EcX g im h).1 q f) : ∀ k, (EcX g im (h + k)).1 q f
  | 0 => z
  | k + 1 => (EcX.up (h + k)).1 _ _ (EcX.leE z k)
theorem EcX.leT {g : GP} {im : Mem} {q : Nat} {t : Fb4} {h : Nat} (z : (EcX g im h).2 q t) : ∀ k, (EcX g im (h + k)).2 q t
  | 0 => z
  | k + 1 => (EcX.up (h + k)).2 _ _ (EcX.leT z k)
/-- an expression that computes what these codes compute -/
def GdE (g : GP) (im : Mem) (h q : Nat) (L : List Cd) : Prop := ∃ f : Fn4, (EcX g im h).1 q f ∧ DenE L f
def GdT (g : GP) (im : Mem) (h q : Nat) (L : List Cd) : Prop := ∃ t : Fb4, (EcX g im h).2 q t ∧ DenT L t
section GD
variable {g : GP} {im im1 : Mem} {h h1 q a b c : Nat} {L L1 L2 : List Cd}
theorem GdE.mono (z : GdE g im h q L) (hm : ∀ a e, im a = some e → im1 a = some e) (hh : h ≤ h1) : GdE g im1 h1 q L := by
  obtain ⟨f, e1, e2⟩ := z
  refine ⟨f, (EcX.mono hm h1).1 _ _ ?_, e2⟩
  have := EcX.leE e1 (h1 - h)
  rw [show h + (h1 - h) = h1 by omega] at this
  exact this
theorem GdT.mono (z : GdT g im h q L) (hm : ∀ a e, im a = some e → im1 a = some e) (hh : h ≤ h1) : GdT g im1 h1 q L := by
  obtain ⟨f, e1, e2⟩ := z
  refine ⟨f, (EcX.mono hm h1).2 _ _ ?_, e2⟩
  have := EcX.leT e1 (h1 - h)
  rw [show h + (h1 - h) = h1 by omega] at this
  exact this
theorem GdE.pos (z : GdE g im h q L) : 1 ≤ h := by
  obtain ⟨f, e1, -⟩ := z
  cases h with
  | zero => exact absurd e1 (fun w => w)
  | succ h => omega
theorem GdT.pos (z : GdT g im h q L) : 1 ≤ h := by
  obtain ⟨f, e1, -⟩ := z
  cases h with
  | zero => exact absurd e1 (fun w => w)
  | succ h => omega
theorem GdE.mkN {v : Int32} (hq : im q = some (.inr (24, [.int v]))) : GdE g im 1 q [(0, v)] := ⟨_, Or.inl ⟨v, hq, rfl⟩, DenE.num v⟩
/-- the letter of a told name -/
def letC (k : Nat) : Int32 := if k = 0 then nI 119 else if k = 1 then nI 121 else if k = 2 then nI 115 else if k = 3 then nI 112 else nI 105
theorem nm_tol {k : Nat} (hk : k < 5) (wk so pe gr : Int32) : tolW wk so pe gr (nI k) = nmX (letC k) wk so pe gr := by
  rcases (by omega : k = 0 ∨ k = 1 ∨ k = 2 ∨ k = 3 ∨ k = 4) with rfl | rfl | rfl | rfl | rfl <;> rfl
theorem GdE.mkName {k : Nat} (hk : k < 5) (hq : im q = some (.inr (25, [.int (letC k)]))) : GdE g im 1 q [(15, nI k)] := by
  refine ⟨nmX (letC k), Or.inr (Or.inl ⟨letC k, hq, ?_, rfl⟩), (DenE.told (nI k)).cg (fun w x y z => nm_tol hk w x y z)⟩
  rcases (by omega : k = 0 ∨ k = 1 ∨ k = 2 ∨ k = 3 ∨ k = 4) with rfl | rfl | rfl | rfl | rfl <;> decide
/-- the code of a sign -/
def sgc (k : Nat) : Int32 := if k = 1 then nI 43 else if k = 2 then nI 45 else if k = 3 then nI 42 else if k = 4 then nI 47 else nI 37
theorem wV_op {k : Nat} (hk : 1 ≤ k ∧ k ≤ 5) (x y : Int32) : workedV (nI k) x y = opX (sgc k) x y := by
  rcases (by omega : k = 1 ∨ k = 2 ∨ k = 3 ∨ k = 4 ∨ k = 5) with rfl | rfl | rfl | rfl | rfl <;> rfl
theorem GdE.mkTwo {k : Nat} (hk : 1 ≤ k ∧ k ≤ 5) (hq : im q = some (.inr (26, [.ref a, .ref b, .int (sgc k)]))) (z1 : GdE g im h a L1) (z2 : GdE g im h b L2) : GdE g im (h + 1) q (L1 ++ (L2 ++ [(k, nI 0)])) := by
  obtain ⟨f1, a1, a2⟩ := z1
  obtain ⟨f2, b1, b2⟩ := z2
  refine ⟨fun w x y z => opX (sgc k) (f1 w x y z) (f2 w x y z), Or.inr (Or.inr (Or.inl ⟨a, b, sgc k, f1, f2, hq, ?_, a1, b1, rfl⟩)), (DenE.op a2 b2 (by omega) (by omega) (by omega) (by omega) (by omega)).cg (fun w x y z => wV_op hk _ _)⟩
  rcases (by omega : k = 1 ∨ k = 2 ∨ k = 3 ∨ k = 4 ∨ k = 5) with rfl | rfl | rfl | rfl | rfl <;> decide
theorem wV_6 {a b : Int32} : workedV (nI 6) a b = if b ≤ a then b else a := rfl
theorem wV_7 {a b : Int32} : workedV (nI 7) a b = if a ≤ b then b else a := rfl
theorem le_lt_min (x y : Int32) : (if y ≤ x then y else x) = if y < x then y else x := by
  by_cases h : y < x
  · rw [if_pos h, if_pos (Int32.le_of_lt h)]
  · rw [if_neg h]
    split
    · rename_i h2
      exact Int32.le_antisymm h2 (Int32.not_lt.mp h)
    · rfl
theorem le_lt_max (x y : Int32) : (if x ≤ y then y else x) = if x < y then y else x := by
  by_cases h : x < y
  · rw [if_pos h, if_pos (Int32.le_of_lt h)]
  · rw [if_neg h]
    split
    · rename_i h2
      exact Int32.le_antisymm (Int32.not_lt.mp h) h2
    · rfl
theorem GdE.mkBound {l : Bool} (hq : im q = some (.inr (27, [.ref a, .ref b, .int (nI 32), .int (bI l)]))) (z1 : GdE g im h a L1) (z2 : GdE g im h b L2) : GdE g im (h + 1) q (L1 ++ (L2 ++ [(if l = true then 6 else 7, nI 0)])) := by
  obtain ⟨f1, a1, a2⟩ := z1
  obtain ⟨f2, b1, b2⟩ := z2
  refine ⟨_, Or.inr (Or.inr (Or.inr (Or.inl ⟨a, b, l, f1, f2, hq, a1, b1, rfl⟩))), ?_⟩
  cases l
  · exact (DenE.op (k := 7) a2 b2 (by decide) (by decide) (by decide) (by decide) (by decide)).cg (fun w x y z => by rw [wV_7, le_lt_max]; rfl)
  · exact (DenE.op (k := 6) a2 b2 (by decide) (by decide) (by decide) (by decide) (by decide)).cg (fun w x y z => by rw [wV_6, le_lt_min]; rfl)
theorem GdE.mkIf (hq : im q = some (.inr (32, [.ref a, .ref b, .int (nI 63), .ref c]))) (z : GdT g im h c L) (z1 : GdE g im h a L1) (z2 : GdE g im h b L2) : GdE g im (h + 1) q (L ++ (L1 ++ (L2 ++ [(8, nI 0)]))) := by
  obtain ⟨t, t1, t2⟩ := z
  obtain ⟨f1, a1, a2⟩ := z1
  obtain ⟨f2, b1, b2⟩ := z2
  exact ⟨_, Or.inr (Or.inr (Or.inr (Or.inr ⟨a, b, c, f1, f2, t, hq, a1, b1, t1, rfl⟩))), DenE.ite t2 a2 b2⟩
theorem GdT.mkNot (hq : im q = some (.inr (30, [.ref a]))) (z : GdT g im h a L) : GdT g im (h + 1) q (L ++ [(11, nI 0)]) := by
  obtain ⟨t, t1, t2⟩ := z
  exact ⟨_, Or.inr (Or.inl ⟨a, t, hq, t1, rfl⟩), t2.neg⟩
/-- the code of a comparison -/
def cmc (k : Nat) : Int32 := if k = 12 then nI 60 else if k = 13 then nI 62 else nI 61
theorem wV_12 {a b : Int32} : workedV (nI 12) a b = if b ≤ a then nI 0 else nI 1 := rfl
theorem wV_13 {a b : Int32} : workedV (nI 13) a b = if a ≤ b then nI 0 else nI 1 := rfl
theorem wV_14 {a b : Int32} : workedV (nI 14) a b = if a = b then nI 1 else nI 0 := rfl
theorem wV_cm {k : Nat} (hk : 12 ≤ k ∧ k ≤ 14) (x y : Int32) : workedV (nI k) x y = bI (cmX (cmc k) x y) := by
  rcases (by omega : k = 12 ∨ k = 13 ∨ k = 14) with rfl | rfl | rfl
  · rw [wV_12, show cmX (cmc 12) x y = decide (x < y) from rfl]
    by_cases h : y ≤ x
    · rw [if_pos h, decide_eq_false (Int32.not_lt.mpr h)]; rfl
    · rw [if_neg h, decide_eq_true (Int32.not_le.mp h)]; rfl
  · rw [wV_13, show cmX (cmc 13) x y = decide (y < x) from rfl]
    by_cases h : x ≤ y
    · rw [if_pos h, decide_eq_false (Int32.not_lt.mpr h)]; rfl
    · rw [if_neg h, decide_eq_true (Int32.not_le.mp h)]; rfl
  · rw [wV_14, show cmX (cmc 14) x y = decide (x = y) from rfl]
    by_cases h : x = y
    · rw [if_pos h, decide_eq_true h]; rfl
    · rw [if_neg h, decide_eq_false h]; rfl
theorem GdT.mkCmp {k : Nat} (hk : 12 ≤ k ∧ k ≤ 14) (hq : im q = some (.inr (31, [.ref a, .ref b, .int (cmc k)]))) (z1 : GdE g im h a L1) (z2 : GdE g im h b L2) : GdT g im (h + 1) q (L1 ++ (L2 ++ [(k, nI 0)])) := by
  obtain ⟨f1, a1, a2⟩ := z1
  obtain ⟨f2, b1, b2⟩ := z2
  refine ⟨fun w x y z => cmX (cmc k) (f1 w x y z) (f2 w x y z), Or.inr (Or.inr ⟨a, b, cmc k, f1, f2, hq, ?_, a1, b1, rfl⟩), DenT.of a2 b2 (by omega) (by omega) (by omega) (by omega) (by omega) (fun w x y z => wV_cm hk _ _)⟩
  rcases (by omega : k = 12 ∨ k = 13 ∨ k = 14) with rfl | rfl | rfl <;> decide
end GD
/-! ===== cells made since: im of them never changes ===== -/
def NwX (μ0 M im : Mem) : Prop := ∀ x e, im x = some e → M x = some e ∧ μ0 x = none
def imU (i1 i2 : Mem) : Mem := fun x => match i1 x with
  | some e => some e
  | none => i2 x
theorem imU_l {i1 i2 : Mem} : ∀ a e, i1 a = some e → imU i1 i2 a = some e := fun a e h => by unfold imU; rw [h]
theorem imU_r {i1 i2 : Mem} {x : Nat} (h : i1 x = none) : imU i1 i2 x = i2 x := by unfold imU; rw [h]
theorem imU_some {i1 i2 : Mem} {x : Nat} {e : va_E} (h : imU i1 i2 x = some e) : i1 x = some e ∨ (i1 x = none ∧ i2 x = some e) := by
  unfold imU at h
  cases h1 : i1 x with
  | some e1 => rw [h1] at h; exact Or.inl h
  | none => rw [h1] at h; exact Or.inr ⟨rfl, h⟩
/-- the reader stands at p, o are open; what was there at μ is there; im was made since and stays -/
def StX (μ : Mem) (rd t n p o : Nat) (im M : Mem) : Prop := RdX μ rd t n p o M ∧ NwX μ M im ∧ μ rd ≠ none
section ST
variable {μ i9 im2 M M1 : Mem} {r9 t n p o p1 o1 q : Nat} {c e : va_E}
theorem StX.rf (h : μ r9 = some (rdO t n p o)) : StX μ r9 t n p o (fun _ => none) μ := ⟨⟨h, fun _ _ _ z => z⟩, fun _ _ z => (by cases z), by rw [h]; exact fun z => (by cases z)⟩
theorem StX.rd (h : StX μ r9 t n p o i9 M) : M r9 = some (rdO t n p o) := h.1.1
theorem StX.get (h : StX μ r9 t n p o i9 M) {x : Nat} (hx : x ≠ r9) (k : μ x = some e) : M x = some e := h.1.2 x e hx k
theorem StX.im (h : StX μ r9 t n p o i9 M) {x : Nat} (k : i9 x = some e) : M x = some e := (h.2.1 x e k).1
theorem StX.mu (h : StX μ r9 t n p o i9 M) {x : Nat} (k : M x = none) : μ x = none := by
  cases hx : μ x with
  | none => rfl
  | some e =>
    by_cases z : x = r9
    · rw [z, h.1.1] at k; cases k
    · rw [h.1.2 x e z hx] at k; cases k
theorem StX.imn (h : StX μ r9 t n p o i9 M) {x : Nat} (k : M x = none) : i9 x = none := by
  cases hx : i9 x with
  | none => rfl
  | some e => rw [(h.2.1 x e hx).1] at k; cases k
theorem StX.nrd (h : StX μ r9 t n p o i9 M) {x : Nat} (k : M x = none) : x ≠ r9 := fun z => by rw [z, h.1.1] at k; cases k
theorem StX.imrd (h : StX μ r9 t n p o i9 M) : i9 r9 = none := by
  cases hx : i9 r9 with
  | none => rfl
  | some e => exact absurd (h.2.1 r9 e hx).2 h.2.2
/-- it moves -/
theorem StX.of (h : StX μ r9 t n p o i9 M) : StX μ r9 t n p1 o1 i9 (mset M r9 (rdO t n p1 o1)) := ⟨h.1.of, fun x e k => by
  have hx : x ≠ r9 := fun z => by rw [z, h.imrd] at k; cases k
  exact ⟨(mset_n hx).trans (h.2.1 x e k).1, (h.2.1 x e k).2⟩, h.2.2⟩
/-- another cell made since, not among those that stay -/
theorem StX.cell (h : StX μ r9 t n p o i9 M) (hq : q ≠ r9) (h1 : μ q = none) (h2 : i9 q = none) : StX μ r9 t n p o i9 (mset M q c) := ⟨⟨(mset_n (Ne.symm hq)).trans h.1.1, fun x e hx k => (mset_n (fun z => by rw [z, h1] at k; cases k)).trans (h.1.2 x e hx k)⟩, fun x e k => ⟨(mset_n (fun z => by rw [z, h2] at k; cases k)).trans (h.2.1 x e k).1, (h.2.1 x e k).2⟩, h.2.2⟩
theorem StX.new (h : StX μ r9 t n p o i9 M) (hq : M q = none) : StX μ r9 t n p o i9 (mset M q c) := h.cell (h.nrd hq) (h.mu hq) (h.imn hq)
/-- and now it stays -/
theorem StX.keep (h : StX μ r9 t n p o i9 M) (h1 : μ q = none) (h2 : M q = some c) : StX μ r9 t n p o (mset i9 q c) M := ⟨h.1, fun x e k => by
  by_cases z : x = q
  · subst z
    rw [mset_s] at k
    cases k
    exact ⟨h2, h1⟩
  · rw [mset_n z] at k
    exact h.2.1 x e k, h.2.2⟩
theorem mset_up {i : Mem} (h : i q = none) : ∀ a x, i a = some x → mset i q c a = some x := fun a x k => (mset_n (fun z => by rw [z, h] at k; cases k)).trans k
/-- a call that makes nothing that stays -/
theorem StX.callV (h : StX μ r9 t n p o i9 M) (k : RdX M r9 t n p1 o1 M1) : StX μ r9 t n p1 o1 i9 M1 := ⟨h.1.tr k, fun x e hx => ⟨k.2 x e (fun z => by rw [z, h.imrd] at hx; cases hx) (h.2.1 x e hx).1, (h.2.1 x e hx).2⟩, h.2.2⟩
/-- a call that makes more -/
theorem StX.call (h : StX μ r9 t n p o i9 M) (k : RdX M r9 t n p1 o1 M1) (k2 : NwX M M1 im2) : StX μ r9 t n p1 o1 (imU i9 im2) M1 := ⟨h.1.tr k, fun x e hx => by
  rcases imU_some hx with z | ⟨-, z⟩
  · exact (h.callV k).2.1 x e z
  · exact ⟨(k2 x e z).1, h.mu (k2 x e z).2⟩, h.2.2⟩
theorem NwX.no (k : NwX M M1 im2) (h : M q = some e) : im2 q = none := by
  cases hx : im2 q with
  | none => rfl
  | some e1 => rw [(k q e1 hx).2] at h; cases h
theorem StX.upr (h : StX μ r9 t n p o i9 M) (k2 : NwX M M1 im2) : ∀ a e, im2 a = some e → imU i9 im2 a = some e := fun a e z => (imU_r (h.imn (k2 a e z).2)).trans z
theorem imU_no (h1 : i9 q = none) (h2 : im2 q = none) : imU i9 im2 q = none := (imU_r h1).trans h2
theorem StX.fault (h : StX μ r9 t n p o i9 M) (k : PeX M r9 M1) : PeX μ r9 M1 := h.1.trP k
end ST
/-! ===== the parser, forward ===== -/
theorem appR_nil {x : RP} : appR [] x = x := by
  rcases x with e | ⟨p, o, L⟩ <;> rfl
theorem thenR_assoc {r : Option RP} {f h : Nat → Nat → Option RP} : thenR (thenR r f) h = thenR r (fun p o => thenR (f p o) h) := by
  rcases r with _ | e | ⟨p, o, L⟩
  · rfl
  · rfl
  · show ((f p o).map (appR L)).bind (fun r => bindR r h) = ((thenR (f p o) h)).map (appR L)
    rcases hf : f p o with _ | e | ⟨p1, o1, L1⟩
    · rfl
    · rfl
    · show (h p1 o1).map (appR (L ++ L1)) = ((h p1 o1).map (appR L1)).map (appR L)
      cases h p1 o1 with
      | none => rfl
      | some x => show some (appR (L ++ L1) x) = some (appR L (appR L1 x)); rw [appR_app]
theorem thenR_cases {r : Option RP} {f : Nat → Nat → Option RP} {x : RP} (h : thenR r f = some x) : (∃ k w, r = some (.inl (k, w)) ∧ x = .inl (k, w)) ∨ ∃ p o L x2, r = some (.inr (p, o, L)) ∧ f p o = some x2 ∧ x = appR L x2 := by
  rcases r with _ | e | ⟨p, o, L⟩
  · cases h
  · have h1 : some (Sum.inl e : RP) = some x := h
    cases h1
    exact Or.inl ⟨e.1, e.2, rfl, rfl⟩
  · have h1 : (f p o).map (appR L) = some x := h
    cases hf : f p o with
    | none => rw [hf] at h1; cases h1
    | some x2 =>
      rw [hf] at h1
      exact Or.inr ⟨p, o, L, x2, rfl, hf, (Option.some.inj h1).symm⟩
def liftV : (Nat × Nat) ⊕ (Nat × Nat) → RP
  | .inl e => .inl e
  | .inr z => .inr (z.1, z.2, [])
theorem thenV_cases {v : (Nat × Nat) ⊕ (Nat × Nat)} {f : Nat → Nat → Option RP} {x : RP} (h : thenR (some (liftV v)) f = some x) : (∃ k w, v = .inl (k, w) ∧ x = .inl (k, w)) ∨ ∃ p o, v = .inr (p, o) ∧ f p o = some x := by
  rcases v with e | z
  · have h1 : some (Sum.inl e : RP) = some x := h
    cases h1
    exact Or.inl ⟨e.1, e.2, rfl, rfl⟩
  · have h1 : (f z.1 z.2).map (appR []) = some x := h
    cases hf : f z.1 z.2 with
    | none => rw [hf] at h1; cases h1
    | some x2 =>
      rw [hf] at h1
      have h2 : appR [] x2 = x := Option.some.inj h1
      rw [appR_nil] at h2
      subst h2
      exact Or.inr ⟨z.1, z.2, rfl, hf⟩
section PV
variable {B : Nat → Nat} {n : Nat}
theorem signP_V (hB : ∀ k, n ≤ k → B k = 0) {ch p o : Nat} (h0 : 0 < ch) : signP B n ch p o = some (liftV (needP B n ch p o)) := by
  unfold signP needP
  by_cases c : B (sk B n p) = ch
  · have hl : sk B n p < n := by
      rcases Nat.lt_or_ge (sk B n p) n with z | z
      · exact z
      · rw [hB _ z] at c; omega
    rw [if_pos ⟨hl, c⟩, if_pos c]
    rfl
  · rw [if_neg (fun z => c z.2), if_neg c]
    rfl
theorem opensP_V {b p o : Nat} : opensP b p o = some (liftV (opensR b p o)) := by
  unfold opensP opensR
  split <;> rfl
theorem bracketP_V {p o : Nat} : bracketP B n p o = some (liftV (bracketR B n p o)) := by
  unfold bracketP bracketR
  split
  · exact opensP_V
  · rfl
theorem closesP_V (hB : ∀ k, n ≤ k → B k = 0) {ch p o : Nat} (h0 : 0 < ch) : closesP B n ch p o = some (liftV (closesR B n ch p o)) := by
  unfold closesP closesR
  rw [signP_V hB h0]
  cases needP B n ch p o <;> rfl
/-- how many codes at least -/
theorem PF_min : ∀ (f tag p o p1 o1 : Nat) (L : List Cd), PF B n f tag p o = some (.inr (p1, o1, L)) → ((tag = 0 ∨ tag = 2 ∨ tag = 4) → 1 ≤ L.length) ∧ ((tag = 5 ∨ tag = 7 ∨ tag = 9) → 3 ≤ L.length) := by
  intro f
  induction f with
  | zero => intro tag p o p1 o1 L h; cases h
  | succ f ih =>
    intro tag p o p1 o1 L h
    refine ⟨fun ht => ?_, fun ht => ?_⟩
    · rcases ht with rfl | rfl | rfl
      · rw [PF_0] at h
        obtain ⟨p2, o2, L1, L2, e1, e2, rfl⟩ := thenR_inr h
        have := (ih _ _ _ _ _ _ e1).1 (by omega)
        simp; omega
      · rw [PF_2] at h
        obtain ⟨p2, o2, L1, L2, e1, e2, rfl⟩ := thenR_inr h
        have := (ih _ _ _ _ _ _ e1).1 (by omega)
        simp; omega
      · rw [PF_4] at h
        split at h
        · unfold figP at h
          split at h
          · cases h
          · cases h; simp
        · cases hw : firstW B toldW (sk B n p) 5 0 with
          | some k => rw [hw] at h; cases h; simp
          | none =>
            rw [hw] at h
            have h : (if B (sk B n p) = 40 then parP (B := B) (n := n) f (sk B n p) o else if isW B (sk B n p) wLeast = true ∨ isW B (sk B n p) wMost = true then leastP (B := B) (n := n) f (sk B n p) o else if isW B (sk B n p) wIf = true then ifP (B := B) (n := n) f (sk B n p) o else some (.inl (1, sk B n p))) = some (.inr (p1, o1, L)) := h
            split at h
            · unfold parP at h
              obtain ⟨p2, o2, L1, L2, e1, e2, rfl⟩ := thenR_inr h
              obtain ⟨p3, o3, L3, L4, e3, e4, rfl⟩ := thenR_inr e1
              have := (ih _ _ _ _ _ _ e4).1 (by omega)
              simp; omega
            · split at h
              · unfold leastP at h
                obtain ⟨p2, o2, L1, L2, e1, e2, rfl⟩ := thenR_inr h
                cases e2
                simp
              · split at h
                · unfold ifP at h
                  obtain ⟨p2, o2, L1, L2, e1, e2, rfl⟩ := thenR_inr h
                  cases e2
                  simp
                · cases h
    · rcases ht with rfl | rfl | rfl
      · rw [PF_5] at h
        obtain ⟨p2, o2, L1, L2, e1, e2, rfl⟩ := thenR_inr h
        have := (ih _ _ _ _ _ _ e1).2 (by omega)
        simp; omega
      · rw [PF_7] at h
        obtain ⟨p2, o2, L1, L2, e1, e2, rfl⟩ := thenR_inr h
        have := (ih _ _ _ _ _ _ e1).2 (by omega)
        simp; omega
      · rw [PF_9] at h
        split at h
        · unfold notP at h
          obtain ⟨p2, o2, L1, L2, e1, e2, rfl⟩ := thenR_inr h
          obtain ⟨p3, o3, L3, L4, e3, e4, rfl⟩ := thenR_inr e1
          obtain ⟨p4, o4, L5, L6, e5, e6, rfl⟩ := thenR_inr e3
          have := (ih _ _ _ _ _ _ e6).2 (by omega)
          simp; omega
        · split at h
          · unfold brkP at h
            obtain ⟨p2, o2, L1, L2, e1, e2, rfl⟩ := thenR_inr h
            obtain ⟨p3, o3, L3, L4, e3, e4, rfl⟩ := thenR_inr e1
            have := (ih _ _ _ _ _ _ e4).2 (by omega)
            simp; omega
          · obtain ⟨p2, o2, L1, L2, e1, e2, rfl⟩ := thenR_inr h
            have h1 := (ih _ _ _ _ _ _ e1).1 (by omega)
            unfold cmpT at e2
            split at e2
            · obtain ⟨p3, o3, L3, L4, e3, e4, rfl⟩ := thenR_inr e2
              have h2 := (ih _ _ _ _ _ _ e3).1 (by omega)
              cases e4
              simp; omega
            · cases e2
/-- a parser that goes on by c bytes at least -/
def MnP (n c : Nat) (f : Nat → Nat → Option RP) : Prop := ∀ p o p1 o1 L, p ≤ n → f p o = some (.inr (p1, o1, L)) → p + c ≤ p1 ∧ p1 ≤ n
theorem MnP.then {c1 c2 : Nat} {f h : Nat → Nat → Option RP} (hf : MnP n c1 f) (hh : MnP n c2 h) : MnP n (c1 + c2) (fun p o => thenR (f p o) h) := fun p o p1 o1 L hp e => by
  obtain ⟨p2, o2, L1, L2, e1, e2, -⟩ := thenR_inr e
  obtain ⟨a1, a2⟩ := hf _ _ _ _ _ hp e1
  obtain ⟨b1, b2⟩ := hh _ _ _ _ _ a2 e2
  exact ⟨by omega, b2⟩
theorem MnP.PFE (hB : ∀ k, n ≤ k → B k = 0) {f tag : Nat} (ht : tag = 0 ∨ tag = 2 ∨ tag = 4) : MnP n 1 (PF B n f tag) := fun p o p1 o1 L hp e => by
  obtain ⟨-, a, b⟩ := PF_in hB f tag p o (by omega) hp _ _ _ e
  have := (PF_min f tag _ _ _ _ _ e).1 ht
  exact ⟨by omega, b⟩
theorem MnP.PFT (hB : ∀ k, n ≤ k → B k = 0) {f tag : Nat} (ht : tag = 5 ∨ tag = 7 ∨ tag = 9) : MnP n 3 (PF B n f tag) := fun p o p1 o1 L hp e => by
  obtain ⟨-, a, b⟩ := PF_in hB f tag p o (by omega) hp _ _ _ e
  have := (PF_min f tag _ _ _ _ _ e).2 ht
  exact ⟨by omega, b⟩
theorem MnP.PFL (hB : ∀ k, n ≤ k → B k = 0) {f tag : Nat} (ht : tag ≤ 9) : MnP n 0 (PF B n f tag) := fun p o p1 o1 L hp e => by
  obtain ⟨-, a, b⟩ := PF_in hB f tag p o ht hp _ _ _ e
  exact ⟨by omega, b⟩
theorem MnP.emit {k : Nat} {v : Int32} : MnP n 0 (emitP k v) := fun p o p1 o1 L hp e => by
  cases e
  exact ⟨Nat.le_refl _, hp⟩
theorem MnP.less : MnP n 0 (fun p o => some (.inr (p, o - 1, []))) := fun p o p1 o1 L hp e => by
  cases e
  exact ⟨Nat.le_refl _, hp⟩
theorem MnP.sign (hB : ∀ k, n ≤ k → B k = 0) {ch : Nat} (h0 : 0 < ch) : MnP n 1 (signP B n ch) := fun p o p1 o1 L hp e => by
  have hq := sk_in (B := B) hp
  unfold signP at e
  split at e
  · cases e; exact ⟨by omega, by omega⟩
  · cases e
theorem MnP.closes (hB : ∀ k, n ≤ k → B k = 0) {ch : Nat} (h0 : 0 < ch) : MnP n 1 (closesP B n ch) := fun p o p1 o1 L hp e => by
  unfold closesP at e
  obtain ⟨p2, o2, L1, L2, e1, e2, -⟩ := thenR_inr e
  obtain ⟨a, b⟩ := MnP.sign hB h0 _ _ _ _ _ hp e1
  cases e2
  exact ⟨a, b⟩
theorem MnP.cmp (hB : ∀ k, n ≤ k → B k = 0) {f : Nat} : MnP n 2 (cmpT (B := B) (n := n) f) := fun p o p1 o1 L hp e => by
  have hq := sk_in (B := B) hp
  unfold cmpT at e
  split at e
  · rename_i h1
    have hl : sk B n p < n := by
      rcases Nat.lt_or_ge (sk B n p) n with z | z
      · exact z
      · rw [hB _ z] at h1; omega
    obtain ⟨p2, o2, L1, L2, e1, e2, -⟩ := thenR_inr e
    obtain ⟨a, b⟩ := MnP.PFE hB (Or.inl rfl) _ _ _ _ _ (by omega) e1
    cases e2
    exact ⟨by omega, b⟩
  · cases e
end PV
/-! ===== room: by the bytes that are read ===== -/
def coX (K ks kf n p : Nat) : RP → Nat
  | .inl _ => K * (n - p) + kf
  | .inr (p1, _, _) => K * (p1 - p) - ks
theorem coX_app {K ks kf n p : Nat} {L : List Cd} {x : RP} : coX K ks kf n p (appR L x) = coX K ks kf n p x := by
  rcases x with e | ⟨p1, o, L1⟩ <;> rfl
/-- how a reader's method ends: a Wrong, or something made -/
def RVX (g : GP) (G : GP → Mem → Nat → Nat → List Cd → Prop) (μ0 : Mem) (rd t n p hk : Nat) (x : RP) : OC → Mem → Prop := fun o9 M => match x with
  | .inl (k, w) => ∃ q, o9 = .inr ("SettlerColony$Wrong", q) ∧ M q = some (wr0 (nI k) (nI w)) ∧ PeX μ0 rd M
  | .inr (p1, o1, L) => ∃ q im h, o9 = .inl (some (.ref q)) ∧ StX μ0 rd t n p1 o1 im M ∧ G g im h q L ∧ h + hk ≤ p1 - p + 1
/-- a reader's method -/
def KX (g : GP) (G : GP → Mem → Nat → Nat → List Cd → Prop) (rd t n : Nat) (r : Nat → Int32) (y : MethodName) (ws : List Cond) (hk k ks kf kt ku : Nat) (P : Nat → Nat → Option RP) : Prop := ∀ (p o d : Nat) (μ : Mem) (x : RP), p ≤ n → o ≤ 8 → 20 + 8 * (8 - o) + k ≤ d → μ rd = some (rdO t n p o) → μ t = some (intX g 2 300 r) → P p o = some x → PM g y ws d (coX 16 ks kf n p x) (coX 200 kt ku n p x) [.ref rd] μ (RVX g G μ rd t n p hk x)
def KAX (g : GP) (rd t n : Nat) (r : Nat → Int32) (B : Nat → Nat) (f : Nat) : Prop := KX g GdE rd t n r yX18_expr (ws_ yX18_expr cX18_expr 3 (some (.object "SettlerColony$Expr"))) 1 3 15 5 192 40 (PF B n f 0) ∧ KX g GdE rd t n r yX18_term (ws_ yX18_term cX18_term 3 (some (.object "SettlerColony$Expr"))) 1 2 15 5 192 40 (PF B n f 2) ∧ KX g GdE rd t n r yX18_unit (ws_ yX18_unit cX18_unit 5 (some (.object "SettlerColony$Expr"))) 1 1 15 5 192 40 (PF B n f 4) ∧ KX g GdT rd t n r yX18_one (ws_ yX18_one cX18_one 3 (some (.object "SettlerColony$Cond"))) 2 4 41 9 549 72 (PF B n f 9) ∧ KX g GdT rd t n r yX18_all (ws_ yX18_all cX18_all 2 (some (.object "SettlerColony$Cond"))) 1 5 33 12 360 78 (PF B n f 7) ∧ KX g GdT rd t n r yX18_any (ws_ yX18_any cX18_any 2 (some (.object "SettlerColony$Cond"))) 0 6 25 15 171 84 (PF B n f 5)
section VX
variable {g : GP} {own : String} {cc : ByteArray} {nL : Nat} {i : MI} {d C N pc : Nat} {ls : List (Nat × Value)} {rest : List Value} {μ : Mem} {Q : OC → Mem → Prop}
/-- a reader's method is called: it throws, or something was made -/
theorem pl_callVR {ci nf : Nat} {Cn : String} {Tn : u_T} {ty : Nat → FieldType} {fs : List Value} {a : Nat} {y : MethodName} {b : ByteArray} {L n d1 C1 N1 C2 N2 index : Nat} {r : Option FieldType} {rd t n9 p9 hk : Nat} {X9 : RP} {G9 : GP → Mem → Nat → Nat → List Cd → Prop} {st : List Value} (As : List Value) (cl : CLk ci Cn Tn nf ty) (md : MDy y b L r n) (hy : y.cls = Cn) (h1 : Cond.methodLink own index y ∈ lw_all) (h2 : Cond.instanceMethod y ∈ lw_all) (h3 : Cond.selects Cn y y ∈ lw_all) (h4 : Cond.initialized Cn ∈ lw_all) (hdg : decode cc pc = .ok (.invokevirtual index, 3)) (hst : st = As.reverse ++ .ref a :: rest) (hn : As.length = n) (hr8 : (rest.map fun v => v.category).sum ≤ 8) (hm : μ a = some (.inr (ci, fs))) (hM : PM g y (ws_ y b L r) d1 C1 N1 (.ref a :: As) μ (RVX g G9 μ rd t n9 p9 hk X9)) (hd : d1 + 1 ≤ d) (hC : C1 + C2 ≤ C) (hN : N1 + N2 ≤ N) (kr : ∀ (p1 o1 : Nat) (L : List Cd) (q h : Nat) (im M1 : Mem), X9 = .inr (p1, o1, L) → StX μ rd t n9 p1 o1 im M1 → G9 g im h q L → h + hk ≤ p1 - p9 + 1 → PJ g own cc nL i d C2 N2 (pc + 3) ls (.ref q :: rest) M1 Q) (kx : ∀ (k w q : Nat) (M1 : Mem), X9 = .inl (k, w) → M1 q = some (wr0 (nI k) (nI w)) → PeX μ rd M1 → PX g own cc nL i d C2 N2 pc ls rest "SettlerColony$Wrong" q M1 Q) : PJ g own cc nL i d C N pc ls st μ Q :=
  pj_callV As cl md hy h1 h2 h3 h4 hdg hst hn hr8 hm hM hd hC hN (fun v9 μ8 h => by
    rcases X9 with ⟨k, w⟩ | ⟨p1, o1, L⟩
    · obtain ⟨q, e1, -⟩ := h
      cases e1
    · obtain ⟨q, im, h9, e1, h1, h2, h3⟩ := h
      cases e1
      exact kr p1 o1 L q h9 im μ8 rfl h1 h2 h3) (fun E9 q μ8 h => by
    rcases X9 with ⟨k, w⟩ | ⟨p1, o1, L⟩
    · obtain ⟨q9, e1, h1, h2⟩ := h
      cases e1
      exact kx k w q μ8 rfl h1 h2
    · obtain ⟨q9, im, h9, e1, -⟩ := h
      cases e1)
end VX
