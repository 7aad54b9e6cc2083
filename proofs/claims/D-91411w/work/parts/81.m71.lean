set_option maxRecDepth 100000
/-! ===== THE CLASS's MEMORY: cells by kind, world and number; ints in one function ===== -/
/-- ints (kind, world, number, place), sizes (kind, world), longs, floats (zone, week) -/
abbrev XS : Type := (Nat → Nat → Nat → Nat → Int32) × (Nat → Nat → Nat) × (Nat → Int64) × (Nat → Nat → UInt32)
abbrev XE : Type := Nat → Nat → Int32
/-- what a text tells by names, whether it makes fall -/
abbrev XD : Type := Nat → (Nat → Option (Int32 → Int32 → Int32 → Int32 → Int32)) × Int32
abbrev XA : Type := Nat → Nat → Nat → Nat
/-- hidden: what never changes; who is held where; lists' places and counts (the wilds A 48, the lots A 49, texts A 50, prices paid A 51 never change) -/
abbrev XT : Type := Mem × (Nat → Nat → Nat) × (Nat → Nat → Nat) × (Nat → Nat → Int32)
abbrev tIm (τ : XT) : Mem := τ.1
abbrev tHd (τ : XT) : Nat → Nat → Nat := τ.2.1
abbrev tCp (τ : XT) : Nat → Nat → Nat := τ.2.2.1
abbrev tMc (τ : XT) : Nat → Nat → Int32 := τ.2.2.2
/-- a price paid: an Integer made since, or one of the start's heap -/
def PdX (g : GP) (im : Mem) (q : Nat) (v : Int32) : Prop := im q = some (.inr (1, [.int v])) ∨ (va_O "java/lang/Integer" q (gF g) (gS g) (gS g).heap ∧ va_OF "java/lang/Integer" "value" "I" (.int v) q (gF g) (gS g) (gS g).heap)
theorem PdX.mono {g : GP} {im im1 : Mem} {q : Nat} {v : Int32} (h : PdX g im q v) (hm : ∀ a e, im a = some e → im1 a = some e) : PdX g im1 q v := h.elim (fun z => Or.inl (hm _ _ z)) Or.inr
/-- the j-th of a list -/
def elX (A : XA) (k w : Nat) (r : Nat → Int32) (j : Nat) : Nat := if k = 2 then A 34 w j else if k = 4 then A 35 w j else if k = 6 then A 36 w j else if k = 8 then A 38 w j else if k = 10 then A 40 w j else if k = 16 then A 51 0 j else A 35 0 (tN (r j))
def intX (g : GP) (t n : Nat) (r : Nat → Int32) : va_E := .inl (gA g t, n, .inl r)
def lsX (A : XA) (τ : XT) (k w n : Nat) : va_E := .inr (2, [.int (tMc τ k w), .ref (A (k + 1) w 0), .int (nI n)])
def ldX (g : GP) (A : XA) (τ : XT) (k w n : Nat) (r : Nat → Int32) : va_E := .inl (gA g 5, tCp τ k w, .inr (.inr (.inr (.inr (fun j => if j < n then some (elX A k w r j) else none)))))
def coO (A : XA) (L : Nat → Int64) (r : Nat → Int32) : va_E := .inr (11, [.ref (A 1 0 0), .ref (A 1 1 0), .int (r 2), .int (r 3), .int (r 4), .int (r 5), .int (r 6), .ref (A 41 0 0), .ref (A 12 0 0), .ref (A 14 0 0), .ref (A 16 0 0), .ref (A 42 0 0), .ref (A 43 0 0), .ref (A 44 0 0), .ref (A 45 0 0), .ref (A 46 0 0), .int (r 16), .int (r 17), .int (r 18), .long (L 32), .long (L 33), .ref (A 47 0 0)])
def woO (A : XA) (w : Nat) (r : Nat → Int32) : va_E := .inr (22, [.int (r 0), .int (r 1), .int (r 2), .int (r 3), .int (r 4), .int (r 5), .int (r 6), .int (r 7), .int (r 8), .int (r 9), .int (r 10), .int (r 11), .ref (A 2 w 0), .ref (A 27 0 0), .ref (A 28 0 0), .ref (A 18 w 0), .ref (A 19 w 0), .ref (A 20 w 0), .ref (A 21 w 0), .ref (A 48 w 0), .ref (A 49 w 0), .ref (A 29 0 0), .ref (A 22 w 0), .ref (A 23 w 0), .ref (A 24 w 0), .ref (A 25 w 0), .ref (A 4 w 0), .ref (A 6 w 0), .ref (A 8 w 0), .ref (A 10 w 0), .ref (A 26 w 0), if w = 0 then .ref (A 33 0 0) else .null])
def akO (r : Nat → Int32) : va_E := .inr (33, [.int (r 0), .int (r 1), .int (r 2), .int (r 3)])
def rnO (A : XA) : va_E := .inr (34, [.ref (A 30 0 0), .ref (A 31 0 0)])
def rwA (g : GP) (A : XA) (S : Nat → Nat → Nat) : va_E := .inl (gA g 8, 4, .inr (.inr (.inr (.inr (fun z => if S 32 z = 1 then some (A 32 0 z) else none)))))
def flA (g : GP) (f : Nat → UInt32) : va_E := .inl (gA g 4, 1000, .inr (.inr (.inl f)))
def slO (q : Nat) : va_E := .inr (35, [.ref q])
/-- a slot of the tries holds nothing till set has been there (S 63 1: so many are) -/
def slW (S : Nat → Nat → Nat) (w i q : Nat) : va_E := if w = 1 ∧ S 63 1 ≤ i then .inr (35, [.null]) else slO q
theorem slW_r {S : Nat → Nat → Nat} {w i q : Nat} (h : w = 1 → i < S 63 1) : slW S w i q = slO q := if_neg (fun z => absurd (h z.1) (Nat.not_lt.mpr z.2))
/-- what a cell holds: its own ints r, and what all see -/
def shX (g : GP) (A : XA) (τ : XT) (S : Nat → Nat → Nat) (L : Nat → Int64) (fl : Nat → UInt32) (k w i : Nat) (r : Nat → Int32) : va_E :=
  match k with
  | 0 => coO A L r
  | 1 => woO A w r
  | 2 => lsX A τ 2 w (S 2 w) | 3 => ldX g A τ 2 w (S 2 w) r
  | 4 => lsX A τ 4 w (S 4 w) | 5 => ldX g A τ 4 w (S 4 w) r
  | 6 => lsX A τ 6 w (S 6 w) | 7 => ldX g A τ 6 w (S 6 w) r
  | 8 => lsX A τ 8 w (S 8 w) | 9 => ldX g A τ 8 w (S 8 w) r
  | 10 => lsX A τ 10 w (S 10 w) | 11 => ldX g A τ 10 w (S 10 w) r
  | 12 => lsX A τ 12 w (S 12 w) | 13 => ldX g A τ 12 w (S 12 w) r
  | 14 => lsX A τ 14 w (S 14 w) | 15 => ldX g A τ 14 w (S 14 w) r
  | 16 => lsX A τ 16 w (S 16 w) | 17 => ldX g A τ 16 w (S 16 w) r
  | 18 => intX g 0 96 r | 19 => intX g 0 96 r | 20 => intX g 0 96 r | 21 => intX g 3 96 r
  | 22 => intX g 0 4 r | 23 => intX g 0 4 r | 24 => intX g 0 4 r | 25 => intX g 0 12 r
  | 26 => akO r
  | 27 => intX g 2 96 r | 28 => intX g 3 96 r
  | 29 => rnO A | 30 => rwA g A S | 31 => intX g 0 4 r | 32 => flA g fl
  | 33 => intX g 0 6006 r
  | 34 => slW S w i (tHd τ w i)
  | 35 => pO r | 36 => paO r (A 37 w i) | 37 => intX g 0 12 r
  | 38 => lwO r (A 50 0 i) (A 39 w i) | 39 => intX g 3 100 r | 40 => biO r
  | 41 => intX g 2 300 r | 42 => intX g 3 100 r | 43 => intX g 0 3 r | 44 => intX g 0 3 r | 45 => intX g 0 2 r | 46 => intX g 0 2 r
  | _ => intX g 0 196 r
def celX (g : GP) (A : XA) (τ : XT) (ν : XS) (k w i : Nat) : va_E := shX g A τ ν.2.1 ν.2.2.1 (ν.2.2.2 i) k w i (ν.1 k w i)
/-- worlds of a kind; numbers of a kind -/
def wNX (k : Nat) : Nat := if k = 0 ∨ (12 ≤ k ∧ k ≤ 17) ∨ k = 25 ∨ (27 ≤ k ∧ k ≤ 33) ∨ (41 ≤ k ∧ k ≤ 47) then 1 else if k ≤ 40 then 2 else 0
def cNX (S : Nat → Nat → Nat) (k w : Nat) : Nat := if k = 34 then 96 else if k = 35 then S 4 w else if k = 36 ∨ k = 37 then S 6 w else if k = 38 ∨ k = 39 then S 8 w else if k = 40 then S 10 w else if k = 32 then 4 else 1
def LvX (S : Nat → Nat → Nat) (k w i : Nat) : Prop := w < wNX k ∧ i < cNX S k w ∧ (k = 32 → S 32 i = 1)
def sI (ν : XS) (k w i j : Nat) (v : Int32) : XS := (fun k' w' i' => if k' = k ∧ w' = w ∧ i' = i then upd (ν.1 k w i) j v else ν.1 k' w' i', ν.2)
theorem sI_eq {ν : XS} {k w i j : Nat} {v : Int32} : (sI ν k w i j v).1 k w i = upd (ν.1 k w i) j v := by simp [sI]
theorem sI_ne {ν : XS} {k w i j k' w' i' : Nat} {v : Int32} (h : ¬ (k' = k ∧ w' = w ∧ i' = i)) : (sI ν k w i j v).1 k' w' i' = ν.1 k' w' i' := by simp only [sI]; rw [if_neg h]
/-- a holding at q: kind, holder, paid, law -/
def HoC (im : Mem) (q : Nat) (r : Nat → Int32) : Prop :=
  (r 0 = nI 0 ∧ r 1 = -1 ∧ r 2 = -1 ∧ im q = some (.inr (37, []))) ∨ (r 0 = nI 1 ∧ r 1 = -1 ∧ r 2 = -1 ∧ im q = some (.inr (38, [])))
  ∨ (r 0 = nI 3 ∧ im q = some (.inr (16, [.int (r 1), .int (r 2), .int (r 3)]))) ∨ (r 0 = nI 4 ∧ r 2 = -1 ∧ im q = some (.inr (18, [.int (r 1)])))
  ∨ (r 0 = nI 5 ∧ im q = some (.inr (17, [.int (r 1), .int (r 2), .int (r 3)]))) ∨ (r 0 = nI 6 ∧ r 2 = -1 ∧ im q = some (.inr (19, [.int (r 1)])))
theorem HoC.mono {im im1 : Mem} {q : Nat} {r : Nat → Int32} (h : HoC im q r) (hm : ∀ a e, im a = some e → im1 a = some e) : HoC im1 q r := by
  rcases h with ⟨a, b, c, h⟩ | ⟨a, b, c, h⟩ | ⟨a, h⟩ | ⟨a, b, h⟩ | ⟨a, h⟩ | ⟨a, b, h⟩
  · exact Or.inl ⟨a, b, c, hm _ _ h⟩
  · exact Or.inr (Or.inl ⟨a, b, c, hm _ _ h⟩)
  · exact Or.inr (Or.inr (Or.inl ⟨a, hm _ _ h⟩))
  · exact Or.inr (Or.inr (Or.inr (Or.inl ⟨a, b, hm _ _ h⟩)))
  · exact Or.inr (Or.inr (Or.inr (Or.inr (Or.inl ⟨a, hm _ _ h⟩))))
  · exact Or.inr (Or.inr (Or.inr (Or.inr (Or.inr ⟨a, b, hm _ _ h⟩))))
theorem HoC.some {im : Mem} {q : Nat} {r : Nat → Int32} (h : HoC im q r) : ∃ e, im q = some e := by
  rcases h with ⟨a, b, c, h⟩ | ⟨a, b, c, h⟩ | ⟨a, h⟩ | ⟨a, b, h⟩ | ⟨a, h⟩ | ⟨a, b, h⟩ <;> exact ⟨_, h⟩
/-! expressions and tests, by height -/
abbrev Fn4 : Type := Int32 → Int32 → Int32 → Int32 → Int32
def opX (s : Int32) (a b : Int32) : Int32 := if s = nI 43 then a + b else if s = nI 45 then a - b else if s = nI 42 then a * b else if s = nI 47 then (if b = 0 then nI 0 else a / b) else (if b = 0 then nI 0 else a - a / b * b)
def nmX (c : Int32) : Fn4 := fun wk so pe gr => if c = nI 119 then wk else if c = nI 121 then wk / nI 52 else if c = nI 112 then pe else if c = nI 105 then gr else so
def cmX (s a b : Int32) : Bool := if s = nI 60 then decide (a < b) else if s = nI 62 then decide (b < a) else decide (a = b)
def EcX (g : GP) (im : Mem) : Nat → (Nat → Fn4 → Prop) × (Nat → (Int32 → Int32 → Int32 → Int32 → Bool) → Prop)
  | 0 => (fun _ _ => False, fun _ _ => False)
  | h + 1 =>
    let E := (EcX g im h).1
    let T := (EcX g im h).2
    (fun q f =>
      (∃ n, im q = some (.inr (24, [.int n])) ∧ f = fun _ _ _ _ => n)
      ∨ (∃ c, im q = some (.inr (25, [.int c])) ∧ (c = nI 119 ∨ c = nI 121 ∨ c = nI 112 ∨ c = nI 105 ∨ c = nI 115) ∧ f = nmX c)
      ∨ (∃ a b s f1 f2, im q = some (.inr (26, [.ref a, .ref b, .int s])) ∧ (s = nI 43 ∨ s = nI 45 ∨ s = nI 42 ∨ s = nI 47 ∨ s = nI 37) ∧ E a f1 ∧ E b f2 ∧ f = fun w x y z => opX s (f1 w x y z) (f2 w x y z))
      ∨ (∃ a b l f1 f2, im q = some (.inr (27, [.ref a, .ref b, .int (nI 32), .int (bI l)])) ∧ E a f1 ∧ E b f2 ∧ f = fun w x y z => if l = true then (if f2 w x y z < f1 w x y z then f2 w x y z else f1 w x y z) else (if f1 w x y z < f2 w x y z then f2 w x y z else f1 w x y z))
      ∨ (∃ a b c f1 f2 t, im q = some (.inr (32, [.ref a, .ref b, .int (nI 63), .ref c])) ∧ E a f1 ∧ E b f2 ∧ T c t ∧ f = fun w x y z => if t w x y z = true then f1 w x y z else f2 w x y z),
     fun q t =>
      (∃ (al : Bool) (p e n m : Nat) (mc : Int32) (fn : Nat → Option Nat) (ts : Nat → Int32 → Int32 → Int32 → Int32 → Bool), im q = some (.inr (if al = true then 29 else 28, [.ref p])) ∧ LstC g im p e n m fn mc ∧ n < 1000 ∧ (∀ j, j < n → ∃ r, fn j = some r ∧ T r (ts j)) ∧ t = fun w x y z => if al = true then !(anyN (fun j => !(ts j w x y z)) n) else anyN (fun j => ts j w x y z) n)
      ∨ (∃ p t1, im q = some (.inr (30, [.ref p])) ∧ T p t1 ∧ t = fun w x y z => !(t1 w x y z))
      ∨ (∃ a b s f1 f2, im q = some (.inr (31, [.ref a, .ref b, .int s])) ∧ (s = nI 60 ∨ s = nI 62 ∨ s = nI 61) ∧ E a f1 ∧ E b f2 ∧ t = fun w x y z => cmX s (f1 w x y z) (f2 w x y z)))
theorem EcX.mono {g : GP} {im im1 : Mem} (hm : ∀ a e, im a = some e → im1 a = some e) : ∀ h, (∀ q f, (EcX g im h).1 q f → (EcX g im1 h).1 q f) ∧ (∀ q t, (EcX g im h).2 q t → (EcX g im1 h).2 q t)
  | 0 => ⟨fun _ _ z => z, fun _ _ z => z⟩
  | h + 1 => by
    obtain ⟨ihE, ihT⟩ := EcX.mono hm h
    refine ⟨fun q f z => ?_, fun q t z => ?_⟩
    · rcases z with ⟨n, h1, h2⟩ | ⟨c, h1, h2⟩ | ⟨a, b, s, f1, f2, h1, h2, h3, h4, h5⟩ | ⟨a, b, l, f1, f2, h1, h3, h4, h5⟩ | ⟨a, b, c, f1, f2, t, h1, h3, h4, h5, h6⟩
      · exact Or.inl ⟨n, hm _ _ h1, h2⟩
      · exact Or.inr (Or.inl ⟨c, hm _ _ h1, h2⟩)
      · exact Or.inr (Or.inr (Or.inl ⟨a, b, s, f1, f2, hm _ _ h1, h2, ihE _ _ h3, ihE _ _ h4, h5⟩))
      · exact Or.inr (Or.inr (Or.inr (Or.inl ⟨a, b, l, f1, f2, hm _ _ h1, ihE _ _ h3, ihE _ _ h4, h5⟩)))
      · exact Or.inr (Or.inr (Or.inr (Or.inr ⟨a, b, c, f1, f2, t, hm _ _ h1, ihE _ _ h3, ihE _ _ h4, ihT _ _ h5, h6⟩)))
    · rcases z with ⟨al, p, e, n, m, mc, fn, ts, h1, h2, h3, h4, h5⟩ | ⟨p, t1, h1, h2, h3⟩ | ⟨a, b, s, f1, f2, h1, h2, h3, h4, h5⟩
      · refine Or.inl ⟨al, p, e, n, m, mc, fn, ts, hm _ _ h1, ⟨hm _ _ h2.1, hm _ _ h2.2.1, h2.2.2⟩, h3, fun j hj => ?_, h5⟩
        obtain ⟨r, e1, e2⟩ := h4 j hj
        exact ⟨r, e1, ihT _ _ e2⟩
      · exact Or.inr (Or.inl ⟨p, t1, hm _ _ h1, ihT _ _ h2, h3⟩)
      · exact Or.inr (Or.inr ⟨a, b, s, f1, f2, hm _ _ h1, h2, ihE _ _ h3, ihE _ _ h4, h5⟩)
/-- a text: eight names, each told or not -/
def TxC (g : GP) (im : Mem) (q : Nat) (x : (Nat → Option Fn4) × Int32) : Prop :=
  ∃ a f, im q = some (.inr (21, [.ref a, .int x.2])) ∧ im a = some (.inl (gA g 7, 8, .inr (.inr (.inr (.inr f))))) ∧ ∀ k, k < 8 → (x.1 k = none ∧ f k = none) ∨ ∃ φ r h, h ≤ 300 ∧ x.1 k = some φ ∧ f k = some r ∧ (EcX g im h).1 r φ
theorem TxC.mono {g : GP} {im im1 : Mem} {q : Nat} {x : (Nat → Option Fn4) × Int32} (h : TxC g im q x) (hm : ∀ a e, im a = some e → im1 a = some e) : TxC g im1 q x := by
  obtain ⟨a, f, h1, h2, h3⟩ := h
  refine ⟨a, f, hm _ _ h1, hm _ _ h2, fun k hk => ?_⟩
  rcases h3 k hk with z | ⟨φ, r, n, z0, z1, z2, z3⟩
  · exact Or.inl z
  · exact Or.inr ⟨φ, r, n, z0, z1, z2, (EcX.mono hm n).1 _ _ z3⟩
