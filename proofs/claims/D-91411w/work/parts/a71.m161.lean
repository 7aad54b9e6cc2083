set_option maxRecDepth 100000
section GK
variable {g : GP} {own : String} {cc : ByteArray} {nL : Nat} {i : MI} {d C N pc : Nat} {ls : List (Nat × Value)} {st : List Value} {μ : Mem} {Q : OC → Mem → Prop}
theorem thk {T : Prop} (h : T) (k : T → PJ g own cc nL i d C N pc ls st μ Q) : PJ g own cc nL i d C N pc ls st μ Q := k h
end GK
/-- sizes of both worlds' lists; what orders and asks tell -/
def RZ (S : Nat → Nat → Nat) (V : Nat → Nat → Nat → Nat → Int32) : Prop := (S 2 0 = 96 ∧ S 2 1 = 96) ∧ (S 4 0 ≤ 100 ∧ S 6 0 ≤ 4 ∧ S 8 0 ≤ 12 ∧ S 10 0 ≤ 20) ∧ (S 4 1 ≤ S 4 0 ∧ S 6 1 ≤ S 6 0 ∧ S 8 1 ≤ S 8 0 ∧ S 10 1 ≤ S 10 0) ∧ (∀ j, j < S 12 0 → tN (V 13 0 0 j) < S 4 0) ∧ (∀ j, j < S 14 0 → tN (V 15 0 0 j) < S 4 0)
/-- the class's cells, by their ints -/
def RV (g : GP) (P : Nat → Prop) (F : Mem) (A : XA) (S : Nat → Nat → Nat) (V : Nat → Nat → Nat → Nat → Int32) (L : Nat → Int64) (fl : Nat → Nat → UInt32) (dn : XD) (M : Mem) : Prop := RZ S V ∧ ∃ τ : XT, RX g P F A τ dn (V, S, L, fl) M
section GK2
variable {g : GP} {own : String} {cc : ByteArray} {nL : Nat} {i : MI} {d C N pc : Nat} {ls : List (Nat × Value)} {st : List Value} {μ : Mem} {Q : OC → Mem → Prop} {P : Nat → Prop} {F : Mem} {A : XA} {S : Nat → Nat → Nat} {V : Nat → Nat → Nat → Nat → Int32} {L : Nat → Int64} {fl : Nat → Nat → UInt32} {dn : XD}
theorem rvk (h : RV g P F A S V L fl dn μ) (k : ∀ M : Mem, RV g P F A S V L fl dn M → PJ g own cc nL i d C N pc ls st M Q) : PJ g own cc nL i d C N pc ls st μ Q := k μ h
theorem rvf {q : Nat} {x : va_E} (h : RV g P F A S V L fl dn μ) (hq : μ q = some x) (k : ∀ M : Mem, RV g P F A S V L fl dn M → M q = some x → PJ g own cc nL i d C N pc ls st M Q) : PJ g own cc nL i d C N pc ls st μ Q := k μ h hq
theorem rvf2 {q v : Nat} {x y : va_E} (h : RV g P F A S V L fl dn μ) (hq : μ q = some x) (hv : μ v = some y) (k : ∀ M : Mem, RV g P F A S V L fl dn M → M q = some x → M v = some y → PJ g own cc nL i d C N pc ls st M Q) : PJ g own cc nL i d C N pc ls st μ Q := k μ h hq hv
end GK2
section RVl
variable {g : GP} {P P1 : Nat → Prop} {F F1 : Mem} {A : XA} {S : Nat → Nat → Nat} {V : Nat → Nat → Nat → Nat → Int32} {L : Nat → Int64} {fl : Nat → Nat → UInt32} {dn : XD} {M : Mem}
theorem RV.mono (h : RV g P F A S V L fl dn M) {M1 : Mem} (hm : ∀ a x, M a = some x → M1 a = some x) : RV g P F A S V L fl dn M1 := by
  obtain ⟨z, τ, hR⟩ := h
  exact ⟨z, τ, hR.mono hm⟩
theorem RV.fresh {q : Nat} {x : va_E} (h : RV g P F A S V L fl dn M) (hq : M q = none) : RV g P F A S V L fl dn (mset M q x) := h.mono (fresh_up hq)
theorem RV.own {q : Nat} {c : va_E} (h : RV g P F A S V L fl dn M) (hq : M q = none) : RV g (fun a => P a ∨ a = q) (mset F q c) A S V L fl dn (mset M q c) ∧ F q = none := by
  obtain ⟨z, τ, hR⟩ := h
  refine ⟨⟨z, τ, hR.own hq⟩, ?_⟩
  cases hf : F q with
  | none => rfl
  | some x => rw [hR.f hf] at hq; cases hq
theorem RV.pf (h : RV g P F A S V L fl dn M) : ∀ a, P a → F a ≠ none := by
  obtain ⟨z, τ, hR⟩ := h
  exact fun a ha => (hR.2.2.2.2.2.1 a ha).1
theorem RV.r1 (h : RV g P F A S V L fl dn M) {w : Nat} (hw : w < 2) : M (A 1 w 0) = some (woO A w (V 1 w 0)) := by
  obtain ⟨z, τ, hR⟩ := h
  exact hR.gt (k := 1) (w := w) (i := 0) (LvX.one (by decide) (by simp [wNX]; omega))
theorem RV.r35 (h : RV g P F A S V L fl dn M) {w i : Nat} (hw : w < 2) (hi : i < S 4 w) : M (A 35 w i) = some (pO (V 35 w i)) := by
  obtain ⟨z, τ, hR⟩ := h
  exact hR.gt (k := 35) (w := w) (i := i) (LvX.k35 hw hi)
theorem RV.r36 (h : RV g P F A S V L fl dn M) {w i : Nat} (hw : w < 2) (hi : i < S 6 w) : M (A 36 w i) = some (paO (V 36 w i) (A 37 w i)) := by
  obtain ⟨z, τ, hR⟩ := h
  exact hR.gt (k := 36) (w := w) (i := i) (LvX.k36 (Or.inl rfl) hw hi)
theorem RV.r37 (h : RV g P F A S V L fl dn M) {w i : Nat} (hw : w < 2) (hi : i < S 6 w) : M (A 37 w i) = some (intX g 0 12 (V 37 w i)) := by
  obtain ⟨z, τ, hR⟩ := h
  exact hR.gt (k := 37) (w := w) (i := i) (LvX.k36 (Or.inr rfl) hw hi)
theorem RV.r38 (h : RV g P F A S V L fl dn M) {w i : Nat} (hw : w < 2) (hi : i < S 8 w) : M (A 38 w i) = some (lwO (V 38 w i) (A 50 0 i) (A 39 w i)) := by
  obtain ⟨z, τ, hR⟩ := h
  exact hR.gt (k := 38) (w := w) (i := i) (LvX.k38 (Or.inl rfl) hw hi)
theorem RV.r40 (h : RV g P F A S V L fl dn M) {w i : Nat} (hw : w < 2) (hi : i < S 10 w) : M (A 40 w i) = some (biO (V 40 w i)) := by
  obtain ⟨z, τ, hR⟩ := h
  exact hR.gt (k := 40) (w := w) (i := i) (LvX.k40 hw hi)
theorem RV.inj (h : RV g P F A S V L fl dn M) {k w i k2 w2 i2 : Nat} (h1 : LvX S k w i) (h2 : LvX S k2 w2 i2) (hn : ¬ (k = k2 ∧ w = w2 ∧ i = i2)) : A k w i ≠ A k2 w2 i2 := by
  obtain ⟨z, τ, hR⟩ := h
  exact fun e => hn (hR.2.1 _ _ _ _ _ _ h1 h2 e)
/-- the ints of a cell replaced -/
def rV (V : Nat → Nat → Nat → Nat → Int32) (k w i : Nat) (r : Nat → Int32) : Nat → Nat → Nat → Nat → Int32 := fun k' w' i' => if k' = k ∧ w' = w ∧ i' = i then r else V k' w' i'
theorem rV_eq {V : Nat → Nat → Nat → Nat → Int32} {k w i : Nat} {r : Nat → Int32} : rV V k w i r k w i = r := if_pos ⟨rfl, rfl, rfl⟩
theorem rV_ne {V : Nat → Nat → Nat → Nat → Int32} {k w i k' w' i' : Nat} {r : Nat → Int32} (h : ¬ (k' = k ∧ w' = w ∧ i' = i)) : rV V k w i r k' w' i' = V k' w' i' := if_neg h
theorem RZ.put {k w i : Nat} {r : Nat → Int32} (z : RZ S V) (hw : w = 1) : RZ S (rV V k w i r) := by
  obtain ⟨z1, z2, z3, z4, z5⟩ := z
  subst hw
  refine ⟨z1, z2, z3, fun j hj => ?_, fun j hj => ?_⟩
  · rw [rV_ne (by omega)]; exact z4 j hj
  · rw [rV_ne (by omega)]; exact z5 j hj
theorem RV.put (h : RV g P F A S V L fl dn M) {k i : Nat} (hl : LvX S k 1 i) (h34 : k ≠ 34) (h17 : k ≠ 17) (r : Nat → Int32) {c : va_E} (hc : ∀ τ, c = shX g A τ S L (fl i) k 1 i r) : RV g P F A S (rV V k 1 i r) L fl dn (mset M (A k 1 i) c) := by
  obtain ⟨z, τ, hR⟩ := h
  refine ⟨z.put rfl, τ, ?_⟩
  rw [hc τ]
  exact hR.putR hl h34 h17 r
/-- a slot of the world of tries gets what the other one's has -/
theorem RX.slot1 {τ : XT} {ν : XS} (h : RX g P F A τ dn ν M) {s q : Nat} {r : Nat → Int32} (hs : s < 96) (hx : s ≤ ν.2.1 63 1) (hq : HoC (tIm τ) q r) : RX g P F A (τ.1, fun w' s' => if w' = 1 ∧ s' = s then q else tHd τ w' s', τ.2.2) dn (rV ν.1 34 1 s r, SnX ν.2.1 63 1 (max (ν.2.1 63 1) (s + 1)), ν.2.2) (mset M (A 34 1 s) (slO q)) := by
  obtain ⟨h1, h2, h3, h4, h5, h6, h7⟩ := h
  have hl : LvX ν.2.1 34 1 s := LvX.k34 (by decide) hs
  have eS : ∀ x y, x < 63 → SnX ν.2.1 63 1 (max (ν.2.1 63 1) (s + 1)) x y = ν.2.1 x y := fun x y hx => SnX_ne (by omega)
  have e63 : SnX ν.2.1 63 1 (max (ν.2.1 63 1) (s + 1)) 63 1 = max (ν.2.1 63 1) (s + 1) := SnX_eq
  generalize hS9 : SnX ν.2.1 63 1 (max (ν.2.1 63 1) (s + 1)) = S9 at eS e63 ⊢
  have eL : ∀ k w i, LvX S9 k w i → LvX ν.2.1 k w i := fun k w i ⟨a, b, c⟩ => ⟨a, by
    unfold cNX at b ⊢
    rw [eS 4 w (by decide), eS 6 w (by decide), eS 8 w (by decide), eS 10 w (by decide)] at b
    exact b, fun z => by rw [← eS 32 i (by decide)]; exact c z⟩
  refine ⟨fun k' w' i' hl9 => ?_, fun k w i k' w' i' a b => h2 _ _ _ _ _ _ (eL _ _ _ a) (eL _ _ _ b), fun k w i a => h3 _ _ _ (eL _ _ _ a), fun a e hf => ?_, fun a e hf => ?_, h6, ?_⟩
  · have hl' := eL _ _ _ hl9
    by_cases e : k' = 34 ∧ w' = 1 ∧ i' = s
    · obtain ⟨rfl, rfl, rfl⟩ := e
      rw [mset_s]
      show some (slO q) = some (slW S9 1 i' (if 1 = 1 ∧ i' = i' then q else tHd τ 1 i'))
      rw [if_pos ⟨rfl, rfl⟩, slW_r (fun _ => by rw [e63]; omega)]
    · rw [mset_n (fun z => e (h2 _ _ _ _ _ _ hl' hl z)), h1 _ _ _ hl']
      by_cases hk : k' = 34
      · subst hk
        have e2 : ¬ (w' = 1 ∧ i' = s) := fun z => e ⟨rfl, z⟩
        show some (slW ν.2.1 w' i' (tHd τ w' i')) = some (slW S9 w' i' (if w' = 1 ∧ i' = s then q else tHd τ w' i'))
        rw [if_neg e2]
        unfold slW
        rw [e63]
        by_cases c : w' = 1 ∧ ν.2.1 63 1 ≤ i'
        · rw [if_pos c, if_pos ⟨c.1, by omega⟩]
        · rw [if_neg c, if_neg (fun z => c ⟨z.1, by omega⟩)]
      · have er : rV ν.1 34 1 s r k' w' i' = ν.1 k' w' i' := rV_ne (fun z => hk z.1)
        show some (shX g A τ ν.2.1 ν.2.2.1 (ν.2.2.2 i') k' w' i' (ν.1 k' w' i')) = some (shX g A (τ.1, fun w' s' => if w' = 1 ∧ s' = s then q else tHd τ w' s', τ.2.2) S9 ν.2.2.1 (ν.2.2.2 i') k' w' i' (rV ν.1 34 1 s r k' w' i'))
        rw [er]
        congr 1
        unfold shX
        split <;> first | exact absurd rfl hk | rfl | (rw [eS _ _ (by decide)]; rfl) | (unfold rwA; simp only [eS 32 _ (by decide)])
  · rw [mset_n (fun z => by rw [z, (h3 _ _ _ hl).1] at hf; cases hf)]
    exact h4 _ _ hf
  · have hf : tIm τ a = some e := hf
    rw [mset_n (fun z => by rw [z, (h3 _ _ _ hl).2] at hf; cases hf)]
    exact h5 _ _ hf
  · refine ⟨fun w9 s9 hw9 hs9 => ?_, fun w hw => ⟨(h7.2.1 w hw).1, (h7.2.1 w hw).2.1, (h7.2.1 w hw).2.2.trans (eS 59 0 (by decide)).symm⟩, fun l hl => h7.2.2.1 l (by rw [← eS 8 0 (by decide)]; exact hl), fun k hk => ?_, fun k w hk => by show S9 k w ≤ _ ∧ _; rw [eS k w (by omega)]; exact h7.2.2.2.2 k w hk⟩
    · show HoC (tIm τ) (if w9 = 1 ∧ s9 = s then q else tHd τ w9 s9) (rV ν.1 34 1 s r 34 w9 s9)
      by_cases e : w9 = 1 ∧ s9 = s
      · obtain ⟨rfl, rfl⟩ := e
        rw [if_pos ⟨rfl, rfl⟩, rV_eq]
        exact hq
      · rw [if_neg e, rV_ne (fun z => e z.2)]
        exact h7.1 w9 s9 hw9 hs9
    · show PdX g (tIm τ) (A 51 0 k) (rV ν.1 34 1 s r 17 0 0 k)
      rw [rV_ne (fun z => by omega)]
      exact h7.2.2.2.1 k (by rw [← eS 16 0 (by decide)]; exact hk)
theorem RV.slot (h : RV g P F A S V L fl dn M) {s : Nat} (hs : s < 96) (hx : s ≤ S 63 1) : ∃ (q : Nat) (x : Value), M (A 34 0 s) = some (slO q) ∧ M (A 34 1 s) = some (.inr (35, [x])) ∧ RV g P F A (SnX S 63 1 (max (S 63 1) (s + 1))) (rV V 34 1 s (V 34 0 s)) L fl dn (mset M (A 34 1 s) (slO q)) := by
  obtain ⟨z, τ, hR⟩ := h
  have hR1 := hR.slot1 (s := s) (q := tHd τ 0 s) (r := V 34 0 s) hs hx (hR.2.2.2.2.2.2.1 0 s (by decide) hs)
  have e1 := hR.gt (k := 34) (w := 1) (i := s) (LvX.k34 (by decide) hs)
  have eS : ∀ x y, x < 63 → SnX S 63 1 (max (S 63 1) (s + 1)) x y = S x y := fun x y hx => SnX_ne (by omega)
  have z1 : RZ (SnX S 63 1 (max (S 63 1) (s + 1))) (rV V 34 1 s (V 34 0 s)) := by
    obtain ⟨a1, a2, a3, a4, a5⟩ := z.put (k := 34) (w := 1) (i := s) (r := V 34 0 s) rfl
    exact ⟨by rw [eS 2 0 (by decide), eS 2 1 (by decide)]; exact a1, by rw [eS 4 0 (by decide), eS 6 0 (by decide), eS 8 0 (by decide), eS 10 0 (by decide)]; exact a2, by rw [eS 4 0 (by decide), eS 6 0 (by decide), eS 8 0 (by decide), eS 10 0 (by decide), eS 4 1 (by decide), eS 6 1 (by decide), eS 8 1 (by decide), eS 10 1 (by decide)]; exact a3, fun j hj => by rw [eS 4 0 (by decide)]; exact a4 j (by rw [← eS 12 0 (by decide)]; exact hj), fun j hj => by rw [eS 4 0 (by decide)]; exact a5 j (by rw [← eS 14 0 (by decide)]; exact hj)⟩
  refine ⟨tHd τ 0 s, if 1 = 1 ∧ S 63 1 ≤ s then .null else .ref (tHd τ 1 s), (hR.gt (k := 34) (w := 0) (i := s) (LvX.k34 (by decide) hs)).trans (congrArg some (show celX g A τ (V, S, L, fl) 34 0 s = slO (tHd τ 0 s) from slW_r (S := S) (w := 0) (i := s) (fun y => absurd y (by decide)))), e1.trans (congrArg some ?_), z1, _, hR1⟩
  show slW S 1 s (tHd τ 1 s) = _
  unfold slW slO
  split <;> rfl
theorem dataX_eq {A1 : XA} {k ko w n m1 q : Nat} {r : Nat → Int32} (hk : (k = 4 ∧ ko = 35) ∨ (k = 6 ∧ ko = 36) ∨ (k = 8 ∧ ko = 38) ∨ (k = 10 ∧ ko = 40)) (ho : ∀ j, j < n → A1 ko w j = A ko w j) (hn : A1 ko w n = q) : dataX g A1 k w m1 (n + 1) r = lstA g m1 (fun j => if j < n then (if j < n then some (A ko w j) else none) else if j = n then some q else none) := by
  unfold dataX lstA
  have ef : (fun j => if j < n + 1 then some (elX A1 k w r j) else none) = (fun j => if j < n then (if j < n then some (A ko w j) else none) else if j = n then some q else none) := by
    funext j
    have ee : elX A1 k w r j = A1 ko w j := by rcases hk with ⟨z1, z2⟩ | ⟨z1, z2⟩ | ⟨z1, z2⟩ | ⟨z1, z2⟩ <;> (subst z1; subst z2; rfl)
    rw [ee]
    by_cases h1 : j < n
    · rw [if_pos (by omega), if_pos h1, if_pos h1, ho j h1]
    · by_cases h2 : j = n
      · rw [if_pos (by omega), if_neg h1, if_pos h2, h2, hn]
      · rw [if_neg (by omega), if_neg h1, if_neg h2]
  rw [ef]
theorem RZ.s1 {k ko kq n : Nat} {r rv : Nat → Int32} (z : RZ S V) (hk : (k = 4 ∧ n = S 4 1 ∧ S 4 1 < S 4 0) ∨ (k = 6 ∧ n = S 6 1 ∧ S 6 1 < S 6 0) ∨ (k = 8 ∧ n = S 8 1 ∧ S 8 1 < S 8 0) ∨ (k = 10 ∧ n = S 10 1 ∧ S 10 1 < S 10 0)) : RZ (S1X S k 1) (rV (rV V kq 1 n rv) ko 1 n r) := by
  have z9 := z
  obtain ⟨z1, z2, z3, z4, z5⟩ := z
  have e0 : ∀ x, S1X S k 1 x 0 = S x 0 := fun x => S1X_ne (by omega)
  refine ⟨?_, ?_, ?_, fun j hj => ?_, fun j hj => ?_⟩
  · rw [e0, S1X_ne (by omega)]; exact z1
  · rw [e0, e0, e0, e0]; exact z2
  · rw [e0, e0, e0, e0]
    unfold S1X
    rcases hk with ⟨rfl, -, h⟩ | ⟨rfl, -, h⟩ | ⟨rfl, -, h⟩ | ⟨rfl, -, h⟩ <;> simp <;> omega
  · rw [e0] at hj ⊢
    rw [rV_ne (by omega), rV_ne (by omega)]
    exact z4 j hj
  · rw [e0] at hj ⊢
    rw [rV_ne (by omega), rV_ne (by omega)]
    exact z5 j hj
theorem rV_two {k w i : Nat} {r s : Nat → Int32} : rV (rV V k w i r) k w i s = rV V k w i s := by
  funext k' w' i'
  unfold rV
  by_cases h : k' = k ∧ w' = w ∧ i' = i
  · rw [if_pos h, if_pos h]
  · rw [if_neg h, if_neg h, if_neg h]
/-- a new person or bill in the world of tries -/
theorem RV.add1 {k ko q q2 m1 : Nat} {mc1 : Int32} {r : Nat → Int32} (h : RV g P1 F1 A S V L fl dn M) (hk : (k = 4 ∧ ko = 35 ∧ S 4 1 < S 4 0) ∨ (k = 10 ∧ ko = 40 ∧ S 10 1 < S 10 0)) (hF1 : ∀ a e, F a = some e → F1 a = some e) (hP : ∀ a, P a → P1 a) (hPF : ∀ a, P a → F a ≠ none) (hq : P1 q) (hqF : F q = none) (hqM : M q = some (if k = 4 then pO r else biO r)) (hq2 : q2 = A (k + 1) 1 0 ∨ M q2 = none) (hm : S k 1 + 1 ≤ m1 ∧ m1 < 1000) :
  RV g P F (A1X A k ko 1 (S k 1) q q2) (S1X S k 1) (rV V ko 1 (S k 1) r) L fl dn (mset (mset M q2 (lstA g m1 (fun j => if j < S k 1 then (if j < S k 1 then some (A ko 1 j) else none) else if j = S k 1 then some q else none))) (A k 1 0) (lstO mc1 q2 (S k 1 + 1))) := by
  obtain ⟨z, τ, hR⟩ := h
  have hk2 : (k = 4 ∧ ko = 35) ∨ (k = 10 ∧ ko = 40) := hk.elim (fun y => Or.inl ⟨y.1, y.2.1⟩) (fun y => Or.inr ⟨y.1, y.2.1⟩)
  have hR2 := RX.addO (mc1 := mc1) (r := r) hR hk2 hF1 hP hPF (by decide) hq hqF hqM hq2 hm ⟨by show S 2 0 ≤ 96; rw [z.1.1]; omega, by show S 2 1 ≤ 96; rw [z.1.2]; omega⟩ z.2.2.1.2.2.1 z.2.2.2.1 z.2.2.2.2
  have hz := z.s1 (k := k) (ko := ko) (kq := ko) (n := S k 1) (r := r) (rv := r) (by rcases hk with ⟨rfl, -, y⟩ | ⟨rfl, -, y⟩ <;> simp <;> exact y)
  rw [rV_two] at hz
  refine ⟨hz, T1X τ k 1 m1 mc1, ?_⟩
  have em := dataX_eq (g := g) (A := A) (A1 := A1X A k ko 1 (S k 1) q q2) (k := k) (ko := ko) (w := 1) (n := S k 1) (m1 := m1) (q := q) (r := V (k + 1) 1 0) (by omega) (fun j hj => by unfold A1X; rw [if_neg (by omega), if_neg (by omega)]) (if_pos ⟨rfl, rfl, rfl⟩)
  rw [← em]
  exact hR2
/-- a new party or law in the world of tries -/
theorem RV.add2 {k ko kq q qv q2 m1 : Nat} {mc1 : Int32} {r rv : Nat → Int32} (h : RV g P1 F1 A S V L fl dn M) (hk : (k = 6 ∧ ko = 36 ∧ kq = 37 ∧ S 6 1 < S 6 0) ∨ (k = 8 ∧ ko = 38 ∧ kq = 39 ∧ S 8 1 < S 8 0)) (hF1 : ∀ a e, F a = some e → F1 a = some e) (hP : ∀ a, P a → P1 a) (hPF : ∀ a, P a → F a ≠ none) (hq : P1 q) (hqF : F q = none) (hqM : M q = some (if k = 6 then paO r qv else lwO r (A 50 0 (S k 1)) qv)) (hv : P1 qv) (hvF : F qv = none) (hvM : M qv = some (if k = 6 then intX g 0 12 rv else intX g 3 100 rv)) (hqv : q ≠ qv) (hq2 : q2 = A (k + 1) 1 0 ∨ M q2 = none) (hm : S k 1 + 1 ≤ m1 ∧ m1 < 1000) :
  RV g P F (A2X A k ko kq 1 (S k 1) q qv q2) (S1X S k 1) (rV (rV V kq 1 (S k 1) rv) ko 1 (S k 1) r) L fl dn (mset (mset M q2 (lstA g m1 (fun j => if j < S k 1 then (if j < S k 1 then some (A ko 1 j) else none) else if j = S k 1 then some q else none))) (A k 1 0) (lstO mc1 q2 (S k 1 + 1))) := by
  obtain ⟨z, τ, hR⟩ := h
  have hk2 : (k = 6 ∧ ko = 36 ∧ kq = 37) ∨ (k = 8 ∧ ko = 38 ∧ kq = 39) := hk.elim (fun y => Or.inl ⟨y.1, y.2.1, y.2.2.1⟩) (fun y => Or.inr ⟨y.1, y.2.1, y.2.2.1⟩)
  have hR2 := RX.addQ (mc1 := mc1) (r := r) (rv := rv) hR hk2 hF1 hP hPF (by decide) hq hqF hqM hv hvF hvM hqv (fun _ y => absurd y (by decide)) (fun y _ => by rcases hk with ⟨e, -⟩ | ⟨-, -, -, t⟩; omega; exact t) hq2 hm ⟨by show S 2 0 ≤ 96; rw [z.1.1]; omega, by show S 2 1 ≤ 96; rw [z.1.2]; omega⟩ z.2.2.1.2.2.1 z.2.2.2.1 z.2.2.2.2
  have hz := z.s1 (k := k) (ko := ko) (kq := kq) (n := S k 1) (r := r) (rv := rv) (by rcases hk with ⟨rfl, -, -, y⟩ | ⟨rfl, -, -, y⟩ <;> simp <;> exact y)
  refine ⟨hz, T1X τ k 1 m1 mc1, ?_⟩
  have em := dataX_eq (g := g) (A := A) (A1 := A2X A k ko kq 1 (S k 1) q qv q2) (k := k) (ko := ko) (w := 1) (n := S k 1) (m1 := m1) (q := q) (r := V (k + 1) 1 0) (by omega) (fun j hj => by unfold A2X; rw [if_neg (by omega), if_neg (by omega), if_neg (by omega)]) (if_pos ⟨rfl, rfl, rfl⟩)
  rw [← em]
  have ev : (N2X (V, S, L, fl) k ko kq 1 r rv) = (rV (rV V kq 1 (S k 1) rv) ko 1 (S k 1) r, S1X S k 1, L, fl) := rfl
  rw [← ev]
  exact hR2
end RVl
theorem RV.LA4 {g : GP} {P : Nat → Prop} {F : Mem} {A : XA} {S : Nat → Nat → Nat} {V : Nat → Nat → Nat → Nat → Int32} {L : Nat → Int64} {fl : Nat → Nat → UInt32} {dn : XD} {M : Mem} (h : RV g P F A S V L fl dn M) {w : Nat} (hw : w < 2) : ∃ (m : Nat) (mc : Int32), LstC g M (A 4 w 0) (A 5 w 0) (S 4 w) m (fun j => if j < S 4 w then some (A 35 w j) else none) mc ∧ (1 ≤ m ∧ m < 1000) ∧ (∀ i, i < S 4 w → ∀ y, (fun j => if j < S 4 w then some (A 35 w j) else none) i = some y → ElO M "java/lang/Object" y) ∧ (∀ i, i < S 4 w → ∀ y, (fun j => if j < S 4 w then some (A 35 w j) else none) i = some y → y ≠ A 4 w 0) := by
  obtain ⟨z, τ, hR⟩ := h
  have hc := hR.2.2.2.2.2.2.2.2.2.2 4 w (by decide)
  have hw1 : w < wNX 4 := by simp [wNX]; omega
  have hw2 : w < wNX 5 := by simp [wNX]; omega
  refine ⟨tCp τ 4 w, tMc τ 4 w, ⟨hR.gt (k := 4) (w := w) (i := 0) (LvX.one (by decide) hw1), hR.gt (k := 5) (w := w) (i := 0) (LvX.one (by decide) hw2), hc.1, Nat.lt_trans hc.2.2 (by decide)⟩, hc.2, fun i hi y hy => ?_, fun i hi y hy => ?_⟩
  · have e9 := (if_pos hi).symm.trans hy
    cases e9
    exact ⟨12, _, _, (hR.gt (k := 35) (w := w) (i := i) (LvX.k35 hw hi)).trans rfl, rfl, q3237⟩
  · have e9 := (if_pos hi).symm.trans hy
    cases e9
    exact (ne_oo (hR.gt (k := 35) (w := w) (i := i) (LvX.k35 hw hi)) (hR.gt (k := 4) (w := w) (i := 0) (LvX.one (by decide) hw1)) (by decide))
theorem RV.LA6 {g : GP} {P : Nat → Prop} {F : Mem} {A : XA} {S : Nat → Nat → Nat} {V : Nat → Nat → Nat → Nat → Int32} {L : Nat → Int64} {fl : Nat → Nat → UInt32} {dn : XD} {M : Mem} (h : RV g P F A S V L fl dn M) {w : Nat} (hw : w < 2) : ∃ (m : Nat) (mc : Int32), LstC g M (A 6 w 0) (A 7 w 0) (S 6 w) m (fun j => if j < S 6 w then some (A 36 w j) else none) mc ∧ (1 ≤ m ∧ m < 1000) ∧ (∀ i, i < S 6 w → ∀ y, (fun j => if j < S 6 w then some (A 36 w j) else none) i = some y → ElO M "java/lang/Object" y) ∧ (∀ i, i < S 6 w → ∀ y, (fun j => if j < S 6 w then some (A 36 w j) else none) i = some y → y ≠ A 6 w 0) := by
  obtain ⟨z, τ, hR⟩ := h
  have hc := hR.2.2.2.2.2.2.2.2.2.2 6 w (by decide)
  have hw1 : w < wNX 6 := by simp [wNX]; omega
  have hw2 : w < wNX 7 := by simp [wNX]; omega
  refine ⟨tCp τ 6 w, tMc τ 6 w, ⟨hR.gt (k := 6) (w := w) (i := 0) (LvX.one (by decide) hw1), hR.gt (k := 7) (w := w) (i := 0) (LvX.one (by decide) hw2), hc.1, Nat.lt_trans hc.2.2 (by decide)⟩, hc.2, fun i hi y hy => ?_, fun i hi y hy => ?_⟩
  · have e9 := (if_pos hi).symm.trans hy
    cases e9
    exact ⟨13, _, _, (hR.gt (k := 36) (w := w) (i := i) (LvX.k36 (Or.inl rfl) hw hi)).trans rfl, rfl, q3255⟩
  · have e9 := (if_pos hi).symm.trans hy
    cases e9
    exact (ne_oo (hR.gt (k := 36) (w := w) (i := i) (LvX.k36 (Or.inl rfl) hw hi)) (hR.gt (k := 6) (w := w) (i := 0) (LvX.one (by decide) hw1)) (by decide))
theorem RV.LA8 {g : GP} {P : Nat → Prop} {F : Mem} {A : XA} {S : Nat → Nat → Nat} {V : Nat → Nat → Nat → Nat → Int32} {L : Nat → Int64} {fl : Nat → Nat → UInt32} {dn : XD} {M : Mem} (h : RV g P F A S V L fl dn M) {w : Nat} (hw : w < 2) : ∃ (m : Nat) (mc : Int32), LstC g M (A 8 w 0) (A 9 w 0) (S 8 w) m (fun j => if j < S 8 w then some (A 38 w j) else none) mc ∧ (1 ≤ m ∧ m < 1000) ∧ (∀ i, i < S 8 w → ∀ y, (fun j => if j < S 8 w then some (A 38 w j) else none) i = some y → ElO M "java/lang/Object" y) ∧ (∀ i, i < S 8 w → ∀ y, (fun j => if j < S 8 w then some (A 38 w j) else none) i = some y → y ≠ A 8 w 0) := by
  obtain ⟨z, τ, hR⟩ := h
  have hc := hR.2.2.2.2.2.2.2.2.2.2 8 w (by decide)
  have hw1 : w < wNX 8 := by simp [wNX]; omega
  have hw2 : w < wNX 9 := by simp [wNX]; omega
  refine ⟨tCp τ 8 w, tMc τ 8 w, ⟨hR.gt (k := 8) (w := w) (i := 0) (LvX.one (by decide) hw1), hR.gt (k := 9) (w := w) (i := 0) (LvX.one (by decide) hw2), hc.1, Nat.lt_trans hc.2.2 (by decide)⟩, hc.2, fun i hi y hy => ?_, fun i hi y hy => ?_⟩
  · have e9 := (if_pos hi).symm.trans hy
    cases e9
    exact ⟨14, _, _, (hR.gt (k := 38) (w := w) (i := i) (LvX.k38 (Or.inl rfl) hw hi)).trans rfl, rfl, q3256⟩
  · have e9 := (if_pos hi).symm.trans hy
    cases e9
    exact (ne_oo (hR.gt (k := 38) (w := w) (i := i) (LvX.k38 (Or.inl rfl) hw hi)) (hR.gt (k := 8) (w := w) (i := 0) (LvX.one (by decide) hw1)) (by decide))
theorem RV.LA10 {g : GP} {P : Nat → Prop} {F : Mem} {A : XA} {S : Nat → Nat → Nat} {V : Nat → Nat → Nat → Nat → Int32} {L : Nat → Int64} {fl : Nat → Nat → UInt32} {dn : XD} {M : Mem} (h : RV g P F A S V L fl dn M) {w : Nat} (hw : w < 2) : ∃ (m : Nat) (mc : Int32), LstC g M (A 10 w 0) (A 11 w 0) (S 10 w) m (fun j => if j < S 10 w then some (A 40 w j) else none) mc ∧ (1 ≤ m ∧ m < 1000) ∧ (∀ i, i < S 10 w → ∀ y, (fun j => if j < S 10 w then some (A 40 w j) else none) i = some y → ElO M "java/lang/Object" y) ∧ (∀ i, i < S 10 w → ∀ y, (fun j => if j < S 10 w then some (A 40 w j) else none) i = some y → y ≠ A 10 w 0) := by
  obtain ⟨z, τ, hR⟩ := h
  have hc := hR.2.2.2.2.2.2.2.2.2.2 10 w (by decide)
  have hw1 : w < wNX 10 := by simp [wNX]; omega
  have hw2 : w < wNX 11 := by simp [wNX]; omega
  refine ⟨tCp τ 10 w, tMc τ 10 w, ⟨hR.gt (k := 10) (w := w) (i := 0) (LvX.one (by decide) hw1), hR.gt (k := 11) (w := w) (i := 0) (LvX.one (by decide) hw2), hc.1, Nat.lt_trans hc.2.2 (by decide)⟩, hc.2, fun i hi y hy => ?_, fun i hi y hy => ?_⟩
  · have e9 := (if_pos hi).symm.trans hy
    cases e9
    exact ⟨15, _, _, (hR.gt (k := 40) (w := w) (i := i) (LvX.k40 hw hi)).trans rfl, rfl, q3257⟩
  · have e9 := (if_pos hi).symm.trans hy
    cases e9
    exact (ne_oo (hR.gt (k := 40) (w := w) (i := i) (LvX.k40 hw hi)) (hR.gt (k := 10) (w := w) (i := 0) (LvX.one (by decide) hw1)) (by decide))
theorem RV.LA2 {g : GP} {P : Nat → Prop} {F : Mem} {A : XA} {S : Nat → Nat → Nat} {V : Nat → Nat → Nat → Nat → Int32} {L : Nat → Int64} {fl : Nat → Nat → UInt32} {dn : XD} {M : Mem} (h : RV g P F A S V L fl dn M) {w : Nat} (hw : w < 2) : ∃ (m : Nat) (mc : Int32), LstC g M (A 2 w 0) (A 3 w 0) (S 2 w) m (fun j => if j < S 2 w then some (A 34 w j) else none) mc := by
  obtain ⟨z, τ, hR⟩ := h
  have hc := hR.2.2.2.2.2.2.2.2.2.2 2 w (by decide)
  exact ⟨tCp τ 2 w, tMc τ 2 w, hR.gt (k := 2) (w := w) (i := 0) (LvX.one (by decide) (by simp [wNX]; omega)), hR.gt (k := 3) (w := w) (i := 0) (LvX.one (by decide) (by simp [wNX]; omega)), hc.1, Nat.lt_trans hc.2.2 (by decide)⟩
theorem RV.r18 {g : GP} {P : Nat → Prop} {F : Mem} {A : XA} {S : Nat → Nat → Nat} {V : Nat → Nat → Nat → Nat → Int32} {L : Nat → Int64} {fl : Nat → Nat → UInt32} {dn : XD} {M : Mem} (h : RV g P F A S V L fl dn M) {w : Nat} (hw : w < 2) : M (A 18 w 0) = some (.inl (gA g 0, 96, .inl (V 18 w 0))) := by
  obtain ⟨z, τ, hR⟩ := h
  exact hR.gt (k := 18) (w := w) (i := 0) (LvX.one (by decide) (by simp [wNX]; omega))
theorem RV.r19 {g : GP} {P : Nat → Prop} {F : Mem} {A : XA} {S : Nat → Nat → Nat} {V : Nat → Nat → Nat → Nat → Int32} {L : Nat → Int64} {fl : Nat → Nat → UInt32} {dn : XD} {M : Mem} (h : RV g P F A S V L fl dn M) {w : Nat} (hw : w < 2) : M (A 19 w 0) = some (.inl (gA g 0, 96, .inl (V 19 w 0))) := by
  obtain ⟨z, τ, hR⟩ := h
  exact hR.gt (k := 19) (w := w) (i := 0) (LvX.one (by decide) (by simp [wNX]; omega))
theorem RV.r20 {g : GP} {P : Nat → Prop} {F : Mem} {A : XA} {S : Nat → Nat → Nat} {V : Nat → Nat → Nat → Nat → Int32} {L : Nat → Int64} {fl : Nat → Nat → UInt32} {dn : XD} {M : Mem} (h : RV g P F A S V L fl dn M) {w : Nat} (hw : w < 2) : M (A 20 w 0) = some (.inl (gA g 0, 96, .inl (V 20 w 0))) := by
  obtain ⟨z, τ, hR⟩ := h
  exact hR.gt (k := 20) (w := w) (i := 0) (LvX.one (by decide) (by simp [wNX]; omega))
theorem RV.r21 {g : GP} {P : Nat → Prop} {F : Mem} {A : XA} {S : Nat → Nat → Nat} {V : Nat → Nat → Nat → Nat → Int32} {L : Nat → Int64} {fl : Nat → Nat → UInt32} {dn : XD} {M : Mem} (h : RV g P F A S V L fl dn M) {w : Nat} (hw : w < 2) : M (A 21 w 0) = some (.inl (gA g 3, 96, .inl (V 21 w 0))) := by
  obtain ⟨z, τ, hR⟩ := h
  exact hR.gt (k := 21) (w := w) (i := 0) (LvX.one (by decide) (by simp [wNX]; omega))
theorem RV.r22 {g : GP} {P : Nat → Prop} {F : Mem} {A : XA} {S : Nat → Nat → Nat} {V : Nat → Nat → Nat → Nat → Int32} {L : Nat → Int64} {fl : Nat → Nat → UInt32} {dn : XD} {M : Mem} (h : RV g P F A S V L fl dn M) {w : Nat} (hw : w < 2) : M (A 22 w 0) = some (.inl (gA g 0, 4, .inl (V 22 w 0))) := by
  obtain ⟨z, τ, hR⟩ := h
  exact hR.gt (k := 22) (w := w) (i := 0) (LvX.one (by decide) (by simp [wNX]; omega))
theorem RV.r23 {g : GP} {P : Nat → Prop} {F : Mem} {A : XA} {S : Nat → Nat → Nat} {V : Nat → Nat → Nat → Nat → Int32} {L : Nat → Int64} {fl : Nat → Nat → UInt32} {dn : XD} {M : Mem} (h : RV g P F A S V L fl dn M) {w : Nat} (hw : w < 2) : M (A 23 w 0) = some (.inl (gA g 0, 4, .inl (V 23 w 0))) := by
  obtain ⟨z, τ, hR⟩ := h
  exact hR.gt (k := 23) (w := w) (i := 0) (LvX.one (by decide) (by simp [wNX]; omega))
theorem RV.r24 {g : GP} {P : Nat → Prop} {F : Mem} {A : XA} {S : Nat → Nat → Nat} {V : Nat → Nat → Nat → Nat → Int32} {L : Nat → Int64} {fl : Nat → Nat → UInt32} {dn : XD} {M : Mem} (h : RV g P F A S V L fl dn M) {w : Nat} (hw : w < 2) : M (A 24 w 0) = some (.inl (gA g 0, 4, .inl (V 24 w 0))) := by
  obtain ⟨z, τ, hR⟩ := h
  exact hR.gt (k := 24) (w := w) (i := 0) (LvX.one (by decide) (by simp [wNX]; omega))
set_option maxHeartbeats 600000 in
theorem k_X11_set {g : GP} {μ : Mem} {d : Nat} (hd : 1 ≤ d) {a b q v : Nat} {f f2 u u2 : Nat → Int32} {k : Nat} (h : μ a = some (paO f q)) (h2 : μ b = some (paO f2 v)) (hq : μ q = some (intX g 0 12 u)) (hv : μ v = some (intX g 0 12 u2)) (hab : b ≠ a) (hk : f2 2 = nI k) (hk12 : k ≤ 12) : PM g yX11_set (ws_ yX11_set cX11_set 2 none) d 0 0 [.ref a, .ref b] μ (rQ none (mset (mset μ a (paO (fun j => if j = 0 then f 0 else f2 j) q)) q (intX g 0 12 (va_cpy u2 u 0 0 k)))) := by
  refine PM.of (by decide +kernel) (Nat.le_of_ble_eq_true rfl) ?_
  refine PJ.ok (fun G => ?_)
  show PJ g _ _ _ _ d 0 0 0 [(0, .ref a), (1, .ref b)] [] _ _
  refine pl_aload_n (pc := 0) dX11_set_0 rfl rfl ?_
  refine pl_aload_n (pc := 1) dX11_set_1 rfl rfl ?_
  refine pj_getf (pc := 2) ckX11 1 q1430 dX11_set_2 (by decide) h2 rfl ?_
  refine pj_putf (pc := 5) ckX11 1 q1430 dX11_set_5 (by decide) rfl h rfl rfl (Nat.le_of_ble_eq_true rfl) ?_
  refine pl_aload_n (pc := 8) dX11_set_8 rfl rfl ?_
  refine pl_aload_n (pc := 9) dX11_set_9 rfl rfl ?_
  refine pj_getf (pc := 10) ckX11 2 q1433 dX11_set_10 (by decide) (show (mset μ a _) b = _ from by rw [mset_n hab]; exact h2) rfl ?_
  refine pj_putf (pc := 13) ckX11 2 q1433 dX11_set_13 (by decide) rfl mset_s rfl rfl (Nat.le_of_ble_eq_true rfl) ?_
  refine PJ.conv rfl rfl mset_m ?_
  have hq1 : (mset μ a (paO (fun j => if j = 0 then f 0 else f2 j) q)) q = some (intX g 0 12 u) := by rw [mset_n (ne_oa (n := 0) h hq).symm]; exact hq
  have hv1 : (mset μ a (paO (fun j => if j = 0 then f 0 else f2 j) q)) v = some (intX g 0 12 u2) := by rw [mset_n (ne_oa (n := 0) h hv).symm]; exact hv
  have hA : (mset μ a (paO (fun j => if j = 0 then f 0 else f2 j) q)) a = some (paO (fun j => if j = 0 then f 0 else f2 j) q) := mset_s
  have hB : (mset μ a (paO (fun j => if j = 0 then f 0 else f2 j) q)) b = some (paO f2 v) := by rw [mset_n hab]; exact h2
  refine PJ.conv rfl rfl (show _ = mset μ a (paO (fun j => if j = 0 then f 0 else f2 j) q) from rfl) ?_
  refine pl_aload_n (pc := 16) dX11_set_16 rfl rfl ?_
  refine pj_getf (pc := 17) ckX11 3 q1436 dX11_set_17 (by decide) hB rfl ?_
  refine pl_iconst (pc := 20) (v := 0) dX11_set_20 (by rfl) ?_
  refine pl_aload_n (pc := 21) dX11_set_21 rfl rfl ?_
  refine pj_getf (pc := 22) ckX11 3 q1436 dX11_set_22 (by decide) hA rfl ?_
  refine pl_iconst (pc := 25) (v := 0) dX11_set_25 (by rfl) ?_
  refine pl_aload_n (pc := 26) dX11_set_26 rfl rfl ?_
  refine pj_getf (pc := 27) ckX11 2 q1433 dX11_set_27 (by decide) hA rfl ?_
  refine PJ.top (y := nI k) hk ?_
  refine pj_copyi (pc := 30) 0 q1489 dX11_set_30 hv1 hq1 rfl rfl (sp := 0) (dp := 0) (k := k) (by omega) (by omega) (by decide) (by decide) (fun _ _ => rfl) (by omega) (Nat.le_of_ble_eq_true rfl) ?_
  refine pj_vret (pc := 33) dX11_set_33 rfl ?_
  exact ⟨rfl, rfl⟩
set_option maxHeartbeats 600000 in
theorem k_X12_set {g : GP} {μ : Mem} {d : Nat} (hd : 1 ≤ d) {a b t t2 v v2 : Nat} {f f2 : Nat → Int32} (h : μ a = some (lwO f t v)) (h2 : μ b = some (lwO f2 t2 v2)) (hab : b ≠ a) (hz : f2 7 = nI 0 ∨ f2 7 = nI 1) : PM g yX12_set (ws_ yX12_set cX12_set 2 none) d 0 0 [.ref a, .ref b] μ (rQ none (mset μ a (lwO (fun k => if k = 5 ∨ k = 6 then f k else f2 k) t v))) := by
  refine PM.of (by decide +kernel) (Nat.le_of_ble_eq_true rfl) ?_
  refine PJ.ok (fun G => ?_)
  show PJ g _ _ _ _ d 0 0 0 [(0, .ref a), (1, .ref b)] [] _ _
  refine pl_aload_n (pc := 0) dX12_set_0 rfl rfl ?_
  refine pl_aload_n (pc := 1) dX12_set_1 rfl rfl ?_
  refine pj_getf (pc := 2) ckX12 1 q1497 dX12_set_2 (by decide) h2 rfl ?_
  refine pj_putf (pc := 5) ckX12 1 q1497 dX12_set_5 (by decide) rfl h rfl rfl (Nat.le_of_ble_eq_true rfl) ?_
  refine pl_aload_n (pc := 8) dX12_set_8 rfl rfl ?_
  refine pl_aload_n (pc := 9) dX12_set_9 rfl rfl ?_
  refine pj_getf (pc := 10) ckX12 2 q1500 dX12_set_10 (by decide) (show (mset μ a _) b = _ from by rw [mset_n hab]; exact h2) rfl ?_
  refine pj_putf (pc := 13) ckX12 2 q1500 dX12_set_13 (by decide) rfl mset_s rfl rfl (Nat.le_of_ble_eq_true rfl) ?_
  refine PJ.conv rfl rfl mset_m ?_
  refine pl_aload_n (pc := 16) dX12_set_16 rfl rfl ?_
  refine pl_aload_n (pc := 17) dX12_set_17 rfl rfl ?_
  refine pj_getf (pc := 18) ckX12 3 q1502 dX12_set_18 (by decide) (show (mset μ a _) b = _ from by rw [mset_n hab]; exact h2) rfl ?_
  refine pj_putf (pc := 21) ckX12 3 q1502 dX12_set_21 (by decide) rfl mset_s rfl rfl (Nat.le_of_ble_eq_true rfl) ?_
  refine PJ.conv rfl rfl mset_m ?_
  refine pl_aload_n (pc := 24) dX12_set_24 rfl rfl ?_
  refine pl_aload_n (pc := 25) dX12_set_25 rfl rfl ?_
  refine pj_getf (pc := 26) ckX12 4 q1504 dX12_set_26 (by decide) (show (mset μ a _) b = _ from by rw [mset_n hab]; exact h2) rfl ?_
  refine pj_putf (pc := 29) ckX12 4 q1504 dX12_set_29 (by decide) rfl mset_s rfl rfl (Nat.le_of_ble_eq_true rfl) ?_
  refine PJ.conv rfl rfl mset_m ?_
  refine pl_aload_n (pc := 32) dX12_set_32 rfl rfl ?_
  refine pl_aload_n (pc := 33) dX12_set_33 rfl rfl ?_
  refine pj_getf (pc := 34) ckX12 7 q1509 dX12_set_34 (by decide) (show (mset μ a _) b = _ from by rw [mset_n hab]; exact h2) rfl ?_
  refine pj_putf (pc := 37) ckX12 7 q1509 dX12_set_37 (by decide) rfl mset_s (by rcases hz with z9 | z9 <;> (rw [z9]; rfl)) (by rcases hz with z9 | z9 <;> (rw [z9]; rfl)) (Nat.le_of_ble_eq_true rfl) ?_
  refine PJ.conv rfl rfl mset_m ?_
  refine pj_vret (pc := 40) dX12_set_40 rfl ?_
  exact ⟨rfl, rfl⟩
set_option maxHeartbeats 600000 in
theorem k_X12_init {g : GP} {μ : Mem} {d : Nat} (hd : 2 ≤ d) {q x : Nat} (hm : μ q = some (.inr (14, [.null, .int 0, .int 0, .int 0, .int 0, .int 0, .int 0, .int 0, .null]))) : PM g yX12_init (ws_ yX12_init cX12_init 2 none) d 1 100 [.ref q, .ref x] μ (WQ none (fun M => ∃ qv, μ qv = none ∧ qv ≠ q ∧ M = mset (mset (mset μ q (.inr (14, [.null, .int 0, .int (-1), .int (-1), .int (-1), .int 0, .int 0, .int 0, .null]))) qv (intX g 3 100 (fun _ => 0))) q (.inr (14, [.ref x, .int 0, .int (-1), .int (-1), .int (-1), .int 0, .int 0, .int 0, .ref qv])))) := by
  refine PM.of (by decide +kernel) (Nat.le_of_ble_eq_true rfl) ?_
  refine PJ.ok (fun G => ?_)
  show PJ g _ _ _ _ d 1 100 0 [(0, .ref q), (1, .ref x)] [] _ _
  refine pl_aload_n (pc := 0) dX12_init_0 rfl rfl ?_
  refine pj_objInit (pc := 1) q1494 q187 q188 dX12_init_1 (by omega) (by decide) ?_
  refine pl_aload_n (pc := 4) dX12_init_4 rfl rfl ?_
  refine pj_iconst (pc := 5) (v := (-1)) dX12_init_5 (by rfl) ?_
  refine pj_putf (pc := 6) ckX12 2 q1500 dX12_init_6 (by decide) rfl hm rfl rfl (Nat.le_of_ble_eq_true rfl) ?_
  refine pl_aload_n (pc := 9) dX12_init_9 rfl rfl ?_
  refine pj_iconst (pc := 10) (v := (-1)) dX12_init_10 (by rfl) ?_
  refine pj_putf (pc := 11) ckX12 3 q1502 dX12_init_11 (by decide) rfl mset_s rfl rfl (Nat.le_of_ble_eq_true rfl) ?_
  refine PJ.mem mset_m ?_
  refine pl_aload_n (pc := 14) dX12_init_14 rfl rfl ?_
  refine pj_iconst (pc := 15) (v := (-1)) dX12_init_15 (by rfl) ?_
  refine pj_putf (pc := 16) ckX12 4 q1504 dX12_init_16 (by decide) rfl mset_s rfl rfl (Nat.le_of_ble_eq_true rfl) ?_
  refine PJ.mem mset_m ?_
  refine pl_aload_n (pc := 19) dX12_init_19 rfl rfl ?_
  refine pl_bipush (pc := 20) (v := 100) dX12_init_20 (by rfl) ?_
  refine pj_newa (pc := 22) (C1 := 0) (N1 := 0) (t0 := 3) (a0 := (100, .inl (fun _ => 0))) dX12_init_22 q573 rfl rfl (fun _ => rfl) (Int32.not_lt.mpr (nI_pos' (by omega))) (nI_clamp (by omega)) (by decide) (by omega) (by omega) (fun q_22 hn_22 gq_22 => ?_)
  refine pj_putfF (pc := 24) ckX12 8 q1512 dX12_init_24 (by decide) rfl rfl rfl (fresh_up hn_22 _ _ mset_s) rfl rfl (Nat.le_of_ble_eq_true rfl) ?_
  refine pl_aload_n (pc := 27) dX12_init_27 rfl rfl ?_
  refine pl_aload_n (pc := 28) dX12_init_28 rfl rfl ?_
  refine pj_putfF (pc := 29) ckX12 0 q1495 dX12_init_29 (by decide) rfl rfl rfl mset_s rfl rfl (Nat.le_of_ble_eq_true rfl) ?_
  refine PJ.mem mset_m ?_
  refine pj_vret (pc := 32) dX12_init_32 rfl ?_
  have hne : q_22 ≠ q := fun z => by rw [z, mset_s] at hn_22; cases hn_22
  exact ⟨rfl, q_22, by rw [mset_n hne] at hn_22; exact hn_22, hne, rfl⟩
