set_option maxRecDepth 100000
section AD
variable {g : GP} {P P1 : Nat → Prop} {F F1 : Mem} {A A1 : XA} {τ τ1 : XT} {dn dn1 : XD} {ν ν1 : XS} {M M1 : Mem}
/-- a fresh cell, kept as a frame -/
theorem RX.own (h : RX g P F A τ dn ν M) {q : Nat} {c : va_E} (hq : M q = none) : RX g (fun a => P a ∨ a = q) (mset F q c) A τ dn ν (mset M q c) := by
  obtain ⟨h1, h2, h3, h4, h5, h6, h7⟩ := h
  have hA : ∀ k w i, LvX ν.2.1 k w i → A k w i ≠ q := fun k w i hl z => by
    have := h1 _ _ _ hl
    rw [z, hq] at this
    cases this
  have hI : ∀ a e, tIm τ a = some e → a ≠ q := fun a e he z => by
    have := h5 _ _ he
    rw [z, hq] at this
    cases this
  refine ⟨fun k w i hl => ?_, h2, fun k w i hl => ⟨?_, (h3 _ _ _ hl).2⟩, fun a e hf => ?_, fun a e hf => ?_, fun a ha => ?_, h7⟩
  · rw [mset_n (hA _ _ _ hl)]
    exact h1 _ _ _ hl
  · rw [mset_n (hA _ _ _ hl)]
    exact (h3 _ _ _ hl).1
  · by_cases ea : a = q
    · subst ea
      rw [mset_s] at hf ⊢
      exact hf
    · rw [mset_n ea] at hf ⊢
      exact h4 _ _ hf
  · rw [mset_n (hI _ _ hf)]
    exact h5 _ _ hf
  · by_cases ea : a = q
    · subst ea
      refine ⟨(by rw [mset_s]; exact fun z => by cases z), ?_⟩
      cases hi : tIm τ a with
      | none => rfl
      | some e => exact absurd rfl (hI _ _ hi)
    · rcases ha with ha | ha
      · rw [mset_n ea]
        exact h6 a ha
      · exact absurd ha ea
/-- the class's cells are more: new ones are such that were owned and are not any more -/
theorem RX.more (h : RX g P1 F1 A τ dn ν M) (hF1 : ∀ a e, F a = some e → F1 a = some e) (hP : ∀ a, P a → P1 a) (hPF : ∀ a, P a → F a ≠ none) (kd wd : Nat)
  (hL : ∀ k w i, LvX ν1.2.1 k w i → LvX ν.2.1 k w i ∨ (P1 (A1 k w i) ∧ F (A1 k w i) = none))
  (hcell : ∀ k w i, LvX ν1.2.1 k w i → M1 (A1 k w i) = some (celX g A1 τ1 ν1 k w i))
  (hold : ∀ k w i, LvX ν.2.1 k w i → A1 k w i = A k w i ∨ (M (A1 k w i) = none ∧ k = kd ∧ w = wd ∧ i = 0))
  (hni : ∀ k w i k' w' i', LvX ν1.2.1 k w i → LvX ν1.2.1 k' w' i' → ¬ LvX ν.2.1 k w i → ¬ LvX ν.2.1 k' w' i' → A1 k w i = A1 k' w' i' → k = k' ∧ w = w' ∧ i = i')
  (hF : ∀ a e, F a = some e → M1 a = some e) (hi : tIm τ1 = tIm τ) (him : ∀ a e, tIm τ a = some e → M1 a = some e) (hx : ImX g A1 τ1 dn1 ν1) : RX g P F A1 τ1 dn1 ν1 M1 := by
  obtain ⟨h1, h2, h3, h4, h5, h6, h7⟩ := h
  have hs : ∀ a, P1 a → M a ≠ none := fun a ha z => by
    obtain ⟨e, he⟩ := Option.ne_none_iff_exists'.mp (h6 a ha).1
    rw [h4 _ _ he] at z
    cases z
  have on : ∀ k w i k' w' i', LvX ν.2.1 k w i → P1 (A1 k' w' i') → A1 k w i ≠ A1 k' w' i' := fun k w i k' w' i' hl hp z => by
    rcases hold k w i hl with e | ⟨e, -⟩
    · rw [← z, e] at hp
      exact (h6 _ hp).1 (h3 _ _ _ hl).1
    · rw [z] at e
      exact hs _ hp e
  refine ⟨hcell, fun k w i k' w' i' hl hl' he => ?_, fun k w i hl => ?_, hF, fun a e ha => by rw [hi] at ha; exact him a e ha, fun a ha => ⟨hPF a ha, by rw [hi]; exact (h6 a (hP a ha)).2⟩, hx⟩
  · rcases Classical.em (LvX ν.2.1 k w i) with o | o
    · rcases Classical.em (LvX ν.2.1 k' w' i') with o' | o'
      · rcases hold k w i o with e | ⟨e, r1, r2, r3⟩
        · rcases hold k' w' i' o' with e' | ⟨e', -⟩
          · rw [e, e'] at he
            exact h2 _ _ _ _ _ _ o o' he
          · rw [← he, e, h1 _ _ _ o] at e'
            cases e'
        · rcases hold k' w' i' o' with e' | ⟨e', s1, s2, s3⟩
          · rw [he, e', h1 _ _ _ o'] at e
            cases e
          · exact ⟨r1.trans s1.symm, r2.trans s2.symm, r3.trans s3.symm⟩
      · exact absurd he (on _ _ _ _ _ _ o ((hL _ _ _ hl').resolve_left o').1)
    · rcases Classical.em (LvX ν.2.1 k' w' i') with o' | o'
      · exact absurd he.symm (on _ _ _ _ _ _ o' ((hL _ _ _ hl).resolve_left o).1)
      · exact hni _ _ _ _ _ _ hl hl' o o' he
  · rw [hi]
    rcases Classical.em (LvX ν.2.1 k w i) with o | o
    · have nF : ∀ a, M a = none → F a = none ∧ tIm τ a = none := fun a ha => by
        refine ⟨?_, ?_⟩
        · cases hf : F a with
          | none => rfl
          | some e => rw [h4 _ _ (hF1 _ _ hf)] at ha; cases ha
        · cases hf : tIm τ a with
          | none => rfl
          | some e => rw [h5 _ _ hf] at ha; cases ha
      rcases hold k w i o with e | ⟨e, -⟩
      · rw [e]
        refine ⟨?_, (h3 _ _ _ o).2⟩
        cases hf : F (A k w i) with
        | none => rfl
        | some x =>
          have z := hF1 _ _ hf
          rw [(h3 _ _ _ o).1] at z
          cases z
      · exact nF _ e
    · have := (hL _ _ _ hl).resolve_left o
      exact ⟨this.2, (h6 _ this.1).2⟩
end AD
section AG
variable {g : GP} {A A1 : XA} {τ τ1 : XT} {ν ν1 : XS} {kl wl : Nat}
/-- cells that a list's growth leaves as they are -/
theorem celX_ag (hk : kl = 4 ∨ kl = 6 ∨ kl = 8 ∨ kl = 10 ∨ kl = 12 ∨ kl = 14 ∨ kl = 16)
  (hag : ∀ k w i, (LvX ν.2.1 k w i ∨ (k = 48 ∧ w < 2 ∧ i = 0) ∨ (k = 49 ∧ w < 2 ∧ i = 0) ∨ (k = 50 ∧ w = 0 ∧ i < ν.2.1 8 0) ∨ (k = 51 ∧ w = 0 ∧ i < ν.2.1 16 0) ∨ (k = 32 ∨ k = 25)) → ¬ (k = kl + 1 ∧ w = wl) → A1 k w i = A k w i)
  (hν : ∀ k w i, LvX ν.2.1 k w i → ν1.1 k w i = ν.1 k w i) (hr : ν1.2.2 = ν.2.2) (hS : ∀ x y, ¬ (x = kl ∧ y = wl) → ν1.2.1 x y = ν.2.1 x y) (hh : tHd τ1 = tHd τ) (hc : ∀ x y, ¬ (x = kl ∧ y = wl) → tCp τ1 x y = tCp τ x y ∧ tMc τ1 x y = tMc τ x y)
  (h2 : ν.2.1 2 0 ≤ 96 ∧ ν.2.1 2 1 ≤ 96) (h8 : ν.2.1 8 1 ≤ ν.2.1 8 0) (hO : ∀ j, j < ν.2.1 12 0 → tN (ν.1 13 0 0 j) < ν.2.1 4 0) (hQ : ∀ j, j < ν.2.1 14 0 → tN (ν.1 15 0 0 j) < ν.2.1 4 0) :
  ∀ k w i, LvX ν.2.1 k w i → ¬ (k = kl ∧ w = wl) → ¬ (k = kl + 1 ∧ w = wl) → celX g A1 τ1 ν1 k w i = celX g A τ ν k w i := by
  intro k w i hl n1 n2
  have hw : w < 2 := by
    have := hl.1
    unfold wNX at this
    split at this
    · omega
    · split at this <;> omega
  have c1 : ∀ k w, w < wNX k → (k = 0 ∨ k = 1 ∨ (k ≤ 33 ∧ k ≠ 32) ∨ 41 ≤ k) → LvX ν.2.1 k w 0 := fun k w h0 h1 => ⟨h0, by unfold cNX; rw [if_neg (by omega), if_neg (by omega), if_neg (by omega), if_neg (by omega), if_neg (by omega), if_neg (by omega)]; decide, fun z => by omega⟩
  have a0 : ∀ k, (k = 41 ∨ k = 12 ∨ k = 14 ∨ k = 16 ∨ k = 42 ∨ k = 43 ∨ k = 44 ∨ k = 45 ∨ k = 46 ∨ k = 47 ∨ k = 27 ∨ k = 28 ∨ k = 29 ∨ k = 25 ∨ k = 30 ∨ k = 31 ∨ k = 33) → A1 k 0 0 = A k 0 0 := fun k h => hag k 0 0 (Or.inl (c1 k 0 (by rcases h with h | h | h | h | h | h | h | h | h | h | h | h | h | h | h | h | h <;> (subst h; decide)) (by omega))) (by omega)
  have a1 : ∀ k, (k = 1 ∨ k = 2 ∨ k = 18 ∨ k = 19 ∨ k = 20 ∨ k = 21 ∨ k = 22 ∨ k = 23 ∨ k = 24 ∨ k = 4 ∨ k = 6 ∨ k = 8 ∨ k = 10 ∨ k = 26) → ∀ y, y < 2 → A1 k y 0 = A k y 0 := fun k h y hy => hag k y 0 (Or.inl (c1 k y (by rcases h with h | h | h | h | h | h | h | h | h | h | h | h | h | h <;> (subst h; exact hy)) (by omega))) (by omega)
  have a48 : ∀ y, y < 2 → A1 48 y 0 = A 48 y 0 := fun y hy => hag _ _ _ (Or.inr (Or.inl ⟨rfl, hy, rfl⟩)) (by omega)
  have a49 : ∀ y, y < 2 → A1 49 y 0 = A 49 y 0 := fun y hy => hag _ _ _ (Or.inr (Or.inr (Or.inl ⟨rfl, hy, rfl⟩))) (by omega)
  have el : ∀ x, (x = 2 ∨ x = 4 ∨ x = 6 ∨ x = 8 ∨ x = 10) → ∀ j, j < ν.2.1 x w → ∀ r, elX A1 x w r j = elX A x w r j := fun x hx j hj r => by
    rcases hx with e | e | e | e | e <;> subst e
    · exact hag 34 w j (Or.inl ⟨hw, by show j < 96; rcases (by omega : w = 0 ∨ w = 1) with e | e <;> subst e <;> omega, fun z => by cases z⟩) (by omega)
    · exact hag 35 w j (Or.inl ⟨hw, hj, fun z => by cases z⟩) (by omega)
    · exact hag 36 w j (Or.inl ⟨hw, hj, fun z => by cases z⟩) (by omega)
    · exact hag 38 w j (Or.inl ⟨hw, hj, fun z => by cases z⟩) (by omega)
    · exact hag 40 w j (Or.inl ⟨hw, hj, fun z => by cases z⟩) (by omega)
  have p35 : ∀ p, p < ν.2.1 4 0 → A1 35 0 p = A 35 0 p := fun p hp => hag 35 0 p (Or.inl ⟨by decide, hp, fun z => by cases z⟩) (by omega)
  have ls : ∀ x, (x = 2 ∨ x = 4 ∨ x = 6 ∨ x = 8 ∨ x = 10 ∨ x = 12 ∨ x = 14 ∨ x = 16) → w < wNX x → ¬ (x = kl ∧ w = wl) → lsX A1 τ1 x w (ν1.2.1 x w) = lsX A τ x w (ν.2.1 x w) := fun x hx hwx hn => by
    unfold lsX
    rw [hS x w hn, (hc x w hn).2, hag (x + 1) w 0 (Or.inl (c1 (x + 1) w (by rcases hx with e | e | e | e | e | e | e | e <;> (subst e; exact hwx)) (by omega))) (by omega)]
  have ld : ∀ x, (x = 2 ∨ x = 4 ∨ x = 6 ∨ x = 8 ∨ x = 10 ∨ x = 12 ∨ x = 14 ∨ x = 16) → ¬ (x = kl ∧ w = wl) → ∀ r, (∀ j, j < ν.2.1 x w → elX A1 x w r j = elX A x w r j) → ldX g A1 τ1 x w (ν1.2.1 x w) r = ldX g A τ x w (ν.2.1 x w) r := fun x hx hn r he => by
    unfold ldX
    rw [hS x w hn, (hc x w hn).1]
    have e9 : (fun j => if j < ν.2.1 x w then some (elX A1 x w r j) else none) = (fun j => if j < ν.2.1 x w then some (elX A x w r j) else none) := by
      funext j
      by_cases hj : j < ν.2.1 x w
      · rw [if_pos hj, if_pos hj, he j hj]
      · rw [if_neg hj, if_neg hj]
    rw [e9]
  have hwk := hl.1
  have one : ∀ x, 12 ≤ x → x ≤ 17 → w < wNX x → w = 0 := fun x h1 h2 h3 => by
    unfold wNX at h3
    rw [if_pos (by omega)] at h3
    omega
  unfold celX
  rw [hν k w i hl, hr]
  rcases (by omega : k = 0 ∨ k = 1 ∨ k = 2 ∨ k = 3 ∨ k = 4 ∨ k = 5 ∨ k = 6 ∨ k = 7 ∨ k = 8 ∨ k = 9 ∨ k = 10 ∨ k = 11 ∨ k = 12 ∨ k = 13 ∨ k = 14 ∨ k = 15 ∨ k = 16 ∨ k = 17 ∨ k = 30 ∨ k = 29 ∨ k = 34 ∨ k = 36 ∨ k = 38 ∨ (18 ≤ k ∧ k ≠ 30 ∧ k ≠ 29 ∧ k ≠ 34 ∧ k ≠ 36 ∧ k ≠ 38)) with e | e | e | e | e | e | e | e | e | e | e | e | e | e | e | e | e | e | e | e | e | e | e | e
  · subst e
    simp only [shX, coO, a1 1 (by decide) 0 (by decide), a1 1 (by decide) 1 (by decide), a0 41 (by decide), a0 12 (by decide), a0 14 (by decide), a0 16 (by decide), a0 42 (by decide), a0 43 (by decide), a0 44 (by decide), a0 45 (by decide), a0 46 (by decide), a0 47 (by decide)]
  · subst e
    simp only [shX, woO, a1 2 (by decide) w hw, a0 27 (by decide), a0 28 (by decide), a1 18 (by decide) w hw, a1 19 (by decide) w hw, a1 20 (by decide) w hw, a1 21 (by decide) w hw, a48 w hw, a49 w hw, a0 29 (by decide), a1 22 (by decide) w hw, a1 23 (by decide) w hw, a1 24 (by decide) w hw, hag 25 w 0 (Or.inr (Or.inr (Or.inr (Or.inr (Or.inr (Or.inr rfl)))))) (by omega), a1 4 (by decide) w hw, a1 6 (by decide) w hw, a1 8 (by decide) w hw, a1 10 (by decide) w hw, a1 26 (by decide) w hw, a0 33 (by decide)]
  · subst e; exact ls 2 (by decide) hwk n1
  · subst e; exact ld 2 (by decide) (by omega) _ (fun j hj => el 2 (by decide) j hj _)
  · subst e; exact ls 4 (by decide) hwk n1
  · subst e; exact ld 4 (by decide) (by omega) _ (fun j hj => el 4 (by decide) j hj _)
  · subst e; exact ls 6 (by decide) hwk n1
  · subst e; exact ld 6 (by decide) (by omega) _ (fun j hj => el 6 (by decide) j hj _)
  · subst e; exact ls 8 (by decide) hwk n1
  · subst e; exact ld 8 (by decide) (by omega) _ (fun j hj => el 8 (by decide) j hj _)
  · subst e; exact ls 10 (by decide) hwk n1
  · subst e; exact ld 10 (by decide) (by omega) _ (fun j hj => el 10 (by decide) j hj _)
  · subst e; exact ls 12 (by decide) hwk n1
  · subst e
    have w0 := one 13 (by decide) (by decide) hwk
    have i0 : i = 0 := by have := hl.2.1; unfold cNX at this; simp at this; exact this
    subst w0; subst i0
    exact ld 12 (by decide) (by omega) _ (fun j hj => p35 _ (hO j hj))
  · subst e; exact ls 14 (by decide) hwk n1
  · subst e
    have w0 := one 15 (by decide) (by decide) hwk
    have i0 : i = 0 := by have := hl.2.1; unfold cNX at this; simp at this; exact this
    subst w0; subst i0
    exact ld 14 (by decide) (by omega) _ (fun j hj => p35 _ (hQ j hj))
  · subst e; exact ls 16 (by decide) hwk n1
  · subst e
    have w0 := one 17 (by decide) (by decide) hwk
    subst w0
    exact ld 16 (by decide) (by omega) _ (fun j hj => hag 51 0 j (Or.inr (Or.inr (Or.inr (Or.inr (Or.inl ⟨rfl, rfl, hj⟩))))) (by omega))
  · subst e
    simp only [shX, rwA]
    have e9 : (fun z => if ν1.2.1 32 z = 1 then some (A1 32 0 z) else none) = (fun z => if ν.2.1 32 z = 1 then some (A 32 0 z) else none) := by
      funext z
      rw [hS 32 z (by omega), hag 32 0 z (Or.inr (Or.inr (Or.inr (Or.inr (Or.inr (Or.inl rfl)))))) (by omega)]
    rw [e9]
  · subst e
    simp only [shX, rnO, a0 30 (by decide), a0 31 (by decide)]
  · subst e
    simp only [shX, slW, hS 63 1 (by omega), hh]
  · subst e
    simp only [shX]
    rw [hag 37 w i (Or.inl ⟨hl.1, hl.2.1, fun z => by cases z⟩) (by omega)]
  · subst e
    simp only [shX]
    have hi8 : i < ν.2.1 8 w := hl.2.1
    have hi0 : i < ν.2.1 8 0 := by rcases (by omega : w = 0 ∨ w = 1) with e | e <;> subst e <;> omega
    rw [hag 39 w i (Or.inl ⟨hl.1, hl.2.1, fun z => by cases z⟩) (by omega), hag 50 0 i (Or.inr (Or.inr (Or.inr (Or.inl ⟨rfl, rfl, hi0⟩)))) (by omega)]
  · unfold shX
    split <;> first | rfl | omega
end AG
/-- a list one longer -/
def S1X (S : Nat → Nat → Nat) (k w : Nat) : Nat → Nat → Nat := fun x y => if x = k ∧ y = w then S k w + 1 else S x y
/-- where things are, with a new one (kind ko, number n) at q and the list's elements at q2 -/
def A1X (A : XA) (k ko w n q q2 : Nat) : XA := fun k' w' i' => if k' = ko ∧ w' = w ∧ i' = n then q else if k' = k + 1 ∧ w' = w ∧ i' = 0 then q2 else A k' w' i'
def T1X (τ : XT) (k w m1 : Nat) (mc1 : Int32) : XT := (tIm τ, tHd τ, (fun x y => if x = k ∧ y = w then m1 else tCp τ x y), (fun x y => if x = k ∧ y = w then mc1 else tMc τ x y))
def N1X (ν : XS) (k ko w : Nat) (r : Nat → Int32) : XS := ((fun k' w' i' => if k' = ko ∧ w' = w ∧ i' = ν.2.1 k w then r else ν.1 k' w' i'), S1X ν.2.1 k w, ν.2.2)
def dataX (g : GP) (A1 : XA) (k w m1 n : Nat) (r : Nat → Int32) : va_E := .inl (gA g 5, m1, .inr (.inr (.inr (.inr (fun j => if j < n then some (elX A1 k w r j) else none)))))
section AP
variable {g : GP} {P P1 : Nat → Prop} {F F1 : Mem} {A : XA} {τ : XT} {dn : XD} {ν : XS} {M : Mem} {k ko w q q2 m1 : Nat} {mc1 : Int32} {r : Nat → Int32}
/-- an object is added to a list: people (4, 35) or bills (10, 40) -/
theorem RX.addO (h : RX g P1 F1 A τ dn ν M) (hk : (k = 4 ∧ ko = 35) ∨ (k = 10 ∧ ko = 40)) (hF1 : ∀ a e, F a = some e → F1 a = some e) (hP : ∀ a, P a → P1 a) (hPF : ∀ a, P a → F a ≠ none) (hw : w < 2)
  (hq : P1 q) (hqF : F q = none) (hqM : M q = some (if k = 4 then pO r else biO r)) (hq2 : q2 = A (k + 1) w 0 ∨ M q2 = none) (hm : ν.2.1 k w + 1 ≤ m1 ∧ m1 < 1000)
  (h2 : ν.2.1 2 0 ≤ 96 ∧ ν.2.1 2 1 ≤ 96) (h8 : ν.2.1 8 1 ≤ ν.2.1 8 0) (hO : ∀ j, j < ν.2.1 12 0 → tN (ν.1 13 0 0 j) < ν.2.1 4 0) (hQ : ∀ j, j < ν.2.1 14 0 → tN (ν.1 15 0 0 j) < ν.2.1 4 0) :
  RX g P F (A1X A k ko w (ν.2.1 k w) q q2) (T1X τ k w m1 mc1) dn (N1X ν k ko w r) (mset (mset M q2 (dataX g (A1X A k ko w (ν.2.1 k w) q q2) k w m1 (ν.2.1 k w + 1) (ν.1 (k + 1) w 0))) (A k w 0) (.inr (2, [.int mc1, .ref q2, .int (nI (ν.2.1 k w + 1))]))) := by
  have cN : ∀ S : Nat → Nat → Nat, cNX S ko w = S k w := fun S => by rcases hk with ⟨e1, e2⟩ | ⟨e1, e2⟩ <;> (subst e1; subst e2; simp [cNX])
  have kb : k ≤ 16 ∧ k + 1 ≠ ko ∧ k ≠ ko := by omega
  have hlk : LvX ν.2.1 k w 0 := by rcases hk with ⟨e1, e2⟩ | ⟨e1, e2⟩ <;> (subst e1; exact ⟨by simp [wNX]; omega, by simp [cNX], fun z => by cases z⟩)
  have hld : LvX ν.2.1 (k + 1) w 0 := by rcases hk with ⟨e1, e2⟩ | ⟨e1, e2⟩ <;> (subst e1; exact ⟨by simp [wNX]; omega, by simp [cNX], fun z => by cases z⟩)
  have hnol : ¬ LvX ν.2.1 ko w (ν.2.1 k w) := fun z => by have := z.2.1; rw [cN] at this; omega
  have newi : ∀ k' w' i', LvX (S1X ν.2.1 k w) k' w' i' → LvX ν.2.1 k' w' i' ∨ (k' = ko ∧ w' = w ∧ i' = ν.2.1 k w) := fun k' w' i' hl => by
    obtain ⟨l1, l2, l3⟩ := hl
    by_cases e : k' = ko ∧ w' = w
    · obtain ⟨rfl, rfl⟩ := e
      have l4 : i' < S1X ν.2.1 k w' k w' := by have l5 := l2; rw [cN] at l5; exact l5
      unfold S1X at l4
      rw [if_pos ⟨rfl, rfl⟩] at l4
      rcases Nat.lt_or_ge i' (ν.2.1 k w') with z | z
      · exact Or.inl ⟨l1, by rw [cN]; exact z, fun z9 => by omega⟩
      · exact Or.inr ⟨rfl, rfl, by omega⟩
    · refine Or.inl ⟨l1, ?_, fun z => ?_⟩
      · have sx : ∀ x, (x = 4 ∧ k' = 35) ∨ (x = 6 ∧ (k' = 36 ∨ k' = 37)) ∨ (x = 8 ∧ (k' = 38 ∨ k' = 39)) ∨ (x = 10 ∧ k' = 40) → S1X ν.2.1 k w x w' = ν.2.1 x w' := fun x hx => by
          unfold S1X
          rw [if_neg (by omega)]
        unfold cNX at l2 ⊢
        by_cases e34 : k' = 34
        · rw [if_pos e34] at l2 ⊢; exact l2
        · rw [if_neg e34] at l2 ⊢
          by_cases e35 : k' = 35
          · rw [if_pos e35] at l2 ⊢; rw [sx 4 (by omega)] at l2; exact l2
          · rw [if_neg e35] at l2 ⊢
            by_cases e36 : k' = 36 ∨ k' = 37
            · rw [if_pos e36] at l2 ⊢; rw [sx 6 (by omega)] at l2; exact l2
            · rw [if_neg e36] at l2 ⊢
              by_cases e38 : k' = 38 ∨ k' = 39
              · rw [if_pos e38] at l2 ⊢; rw [sx 8 (by omega)] at l2; exact l2
              · rw [if_neg e38] at l2 ⊢
                by_cases e40 : k' = 40
                · rw [if_pos e40] at l2 ⊢; rw [sx 10 (by omega)] at l2; exact l2
                · rw [if_neg e40] at l2 ⊢; exact l2
      · have := l3 z
        unfold S1X at this
        rw [if_neg (by omega)] at this
        exact this
  have a1old : ∀ k' w' i', LvX ν.2.1 k' w' i' → ¬ (k' = k + 1 ∧ w' = w ∧ i' = 0) → A1X A k ko w (ν.2.1 k w) q q2 k' w' i' = A k' w' i' := fun k' w' i' hl hn => by
    unfold A1X
    rw [if_neg (fun z => hnol (by obtain ⟨z1, z2, z3⟩ := z; subst z1; subst z2; rw [z3] at hl; exact hl)), if_neg hn]
  have a1d : A1X A k ko w (ν.2.1 k w) q q2 (k + 1) w 0 = q2 := by
    unfold A1X
    rw [if_neg (by omega), if_pos ⟨rfl, rfl, rfl⟩]
  have a1n : A1X A k ko w (ν.2.1 k w) q q2 ko w (ν.2.1 k w) = q := by
    unfold A1X
    rw [if_pos ⟨rfl, rfl, rfl⟩]
  obtain ⟨h1, hinj, h3, h4, h5, h6, h7⟩ := id h
  have hF1q : F1 q ≠ none := (h6 q hq).1
  have nq : ∀ k' w' i', LvX ν.2.1 k' w' i' → A k' w' i' ≠ q := fun k' w' i' hl z => hF1q (by rw [← z]; exact (h3 _ _ _ hl).1)
  have q2n : ∀ k' w' i', LvX ν.2.1 k' w' i' → ¬ (k' = k + 1 ∧ w' = w ∧ i' = 0) → A k' w' i' ≠ q2 := fun k' w' i' hl hn z => by
    rcases hq2 with e | e
    · rw [e] at z
      exact hn (hinj _ _ _ _ _ _ hl hld z)
    · rw [← z, h1 _ _ _ hl] at e
      cases e
  have nqq : q ≠ q2 := fun z => by
    rcases hq2 with e | e
    · exact nq _ _ _ hld (e.symm.trans z.symm)
    · rw [← z, hqM] at e
      cases e
  have keepM : ∀ a e, (∀ k' w' i', LvX ν.2.1 k' w' i' → A k' w' i' ≠ a) → M a = some e → mset (mset M q2 (dataX g (A1X A k ko w (ν.2.1 k w) q q2) k w m1 (ν.2.1 k w + 1) (ν.1 (k + 1) w 0))) (A k w 0) (.inr (2, [.int mc1, .ref q2, .int (nI (ν.2.1 k w + 1))])) a = some e := fun a e ha hM => by
    rw [mset_n (Ne.symm (ha _ _ _ hlk)), mset_n (fun z => ?_)]
    · exact hM
    · rcases hq2 with e2 | e2
      · exact ha _ _ _ hld (e2.symm.trans z.symm)
      · rw [← z, hM] at e2
        cases e2
  refine RX.more h hF1 hP hPF (k + 1) w (fun k' w' i' hl => ?_) (fun k' w' i' hl => ?_) (fun k' w' i' hl => ?_) (fun k' w' i' x y z hl hl' hn hn' _ => ?_) (fun a e hf => ?_) rfl (fun a e hf => ?_) ?_
  · rcases newi _ _ _ hl with z | ⟨z1, z2, z3⟩
    · exact Or.inl z
    · subst z1; subst z2; subst z3
      rw [a1n]
      exact Or.inr ⟨hq, hqF⟩
  · rcases newi _ _ _ hl with z | ⟨z1, z2, z3⟩
    · by_cases e1 : k' = k ∧ w' = w
      · obtain ⟨rfl, rfl⟩ := e1
        have i0 : i' = 0 := by
          have l2 := z.2.1
          unfold cNX at l2
          rw [if_neg (by omega), if_neg (by omega), if_neg (by omega), if_neg (by omega), if_neg (by omega), if_neg (by omega)] at l2
          omega
        subst i0
        rw [a1old _ _ _ z (by omega), mset_s]
        have es : celX g (A1X A k' ko w' (ν.2.1 k' w') q q2) (T1X τ k' w' m1 mc1) (N1X ν k' ko w' r) k' w' 0 = lsX (A1X A k' ko w' (ν.2.1 k' w') q q2) (T1X τ k' w' m1 mc1) k' w' (S1X ν.2.1 k' w' k' w') := by rcases hk with ⟨e1, e2⟩ | ⟨e1, e2⟩ <;> (subst e1; subst e2; rfl)
        rw [es]
        unfold lsX
        rw [a1d]
        simp [T1X, S1X, tMc, tCp]
      · by_cases e2 : k' = k + 1 ∧ w' = w
        · obtain ⟨rfl, rfl⟩ := e2
          have i0 : i' = 0 := by
            have l2 := z.2.1
            unfold cNX at l2
            rw [if_neg (by omega), if_neg (by omega), if_neg (by omega), if_neg (by omega), if_neg (by omega), if_neg (by omega)] at l2
            omega
          subst i0
          rw [a1d, mset_n (Ne.symm (q2n _ _ _ hlk (by omega))), mset_s]
          have es : celX g (A1X A k ko w' (ν.2.1 k w') q q2) (T1X τ k w' m1 mc1) (N1X ν k ko w' r) (k + 1) w' 0 = ldX g (A1X A k ko w' (ν.2.1 k w') q q2) (T1X τ k w' m1 mc1) k w' (S1X ν.2.1 k w' k w') ((N1X ν k ko w' r).1 (k + 1) w' 0) := by rcases hk with ⟨e1, e2⟩ | ⟨e1, e2⟩ <;> (subst e1; subst e2; rfl)
          rw [es]
          have er : (N1X ν k ko w' r).1 (k + 1) w' 0 = ν.1 (k + 1) w' 0 := if_neg (by omega)
          rw [er]
          unfold ldX dataX
          simp [T1X, S1X, tMc, tCp]
        · rw [a1old _ _ _ z (by omega), mset_n (fun y => e1 (by have := hinj _ _ _ _ _ _ z hlk y; exact ⟨this.1, this.2.1⟩)), mset_n (q2n _ _ _ z (by omega)), h1 _ _ _ z]
          refine congrArg some (celX_ag (A := A) (τ := τ) (ν := ν) (kl := k) (wl := w) (A1 := A1X A k ko w (ν.2.1 k w) q q2) (τ1 := T1X τ k w m1 mc1) (ν1 := N1X ν k ko w r) (by omega) (fun k9 w9 i9 h9 n9 => ?_) (fun k9 w9 i9 h9 => ?_) rfl (fun x y hxy => ?_) rfl (fun x y hxy => ⟨?_, ?_⟩) h2 h8 hO hQ k' w' i' z e1 e2).symm
          · unfold A1X
            rw [if_neg (fun y => ?_), if_neg (by omega)]
            obtain ⟨y1, y2, y3⟩ := y
            subst y1; subst y2; subst y3
            rcases h9 with h9 | h9 | h9 | h9 | h9 | h9
            · exact hnol h9
            all_goals omega
          · refine if_neg (fun y => ?_)
            obtain ⟨y1, y2, y3⟩ := y
            subst y1; subst y2; subst y3
            exact hnol h9
          · exact if_neg hxy
          · exact if_neg hxy
          · exact if_neg hxy
    · subst z1; subst z2; subst z3
      rw [a1n, mset_n (Ne.symm (nq _ _ _ hlk)), mset_n nqq, hqM]
      have er : (N1X ν k k' w' r).1 k' w' (ν.2.1 k w') = r := if_pos ⟨rfl, rfl, rfl⟩
      rcases hk with ⟨e1, e2⟩ | ⟨e1, e2⟩
      · subst e1; subst e2
        rw [if_pos rfl]
        show _ = some (pO ((N1X ν 4 35 w' r).1 35 w' (ν.2.1 4 w')))
        rw [er]
      · subst e1; subst e2
        rw [if_neg (by decide)]
        show _ = some (biO ((N1X ν 10 40 w' r).1 40 w' (ν.2.1 10 w')))
        rw [er]
  · by_cases e : k' = k + 1 ∧ w' = w ∧ i' = 0
    · obtain ⟨rfl, rfl, rfl⟩ := e
      rw [a1d]
      rcases hq2 with e2 | e2
      · exact Or.inl e2
      · exact Or.inr ⟨e2, rfl, rfl, rfl⟩
    · exact Or.inl (a1old _ _ _ hl e)
  · have e1 := (newi _ _ _ hl).resolve_left hn
    have e2 := (newi _ _ _ hl').resolve_left hn'
    exact ⟨e1.1.trans e2.1.symm, e1.2.1.trans e2.2.1.symm, e1.2.2.trans e2.2.2.symm⟩
  · exact keepM a e (fun k' w' i' hl z => by have := (h3 _ _ _ hl).1; rw [z, hF1 _ _ hf] at this; cases this) (h4 _ _ (hF1 _ _ hf))
  · exact keepM a e (fun k' w' i' hl z => by have := (h3 _ _ _ hl).2; rw [z, hf] at this; cases this) (h5 _ _ hf)
  · obtain ⟨i1, i2, i3, i4, i5⟩ := h7
    have eA : ∀ k' w' i', k' ≠ ko → k' ≠ k + 1 → A1X A k ko w (ν.2.1 k w) q q2 k' w' i' = A k' w' i' := fun k' w' i' n1 n2 => by
      unfold A1X
      rw [if_neg (fun z => n1 z.1), if_neg (fun z => n2 z.1)]
    refine ⟨fun w' s hw' hs => ?_, fun w' hw' => ?_, fun l hl => ?_, fun x hx => ?_, fun x y hx50 => ?_⟩
    · rw [show (N1X ν k ko w r).1 34 w' s = ν.1 34 w' s from if_neg (by omega)]
      exact i1 w' s hw' hs
    · rw [eA 48 w' 0 (by omega) (by omega), eA 49 w' 0 (by omega) (by omega), eA 0 0 0 (by omega) (by omega)]
      refine ⟨(i2 w' hw').1, (i2 w' hw').2.1, (i2 w' hw').2.2.trans ?_⟩
      show ν.2.1 59 0 = S1X ν.2.1 k w 59 0
      unfold S1X
      rw [if_neg (by omega)]
    · rw [eA 50 0 l (by omega) (by omega)]
      exact i3 l (by have : l < S1X ν.2.1 k w 8 0 := hl; unfold S1X at this; rw [if_neg (by omega)] at this; exact this)
    · rw [eA 51 0 x (by omega) (by omega), show (N1X ν k ko w r).1 17 0 0 = ν.1 17 0 0 from if_neg (by omega)]
      exact i4 x (by have : x < S1X ν.2.1 k w 16 0 := hx; unfold S1X at this; rw [if_neg (by omega)] at this; exact this)
    · show S1X ν.2.1 k w x y ≤ (if x = k ∧ y = w then m1 else tCp τ x y) ∧ 1 ≤ (if x = k ∧ y = w then m1 else tCp τ x y) ∧ (if x = k ∧ y = w then m1 else tCp τ x y) < 1000
      unfold S1X
      by_cases e : x = k ∧ y = w
      · rw [if_pos e, if_pos e]; exact ⟨hm.1, Nat.le_trans (Nat.le_add_left 1 _) hm.1, hm.2⟩
      · rw [if_neg e, if_neg e]; exact i5 x y hx50
end AP
