set_option maxRecDepth 100000
/-- nothing that lives or that others own -/
def DdX (P : Nat → Prop) (A : XA) (S : Nat → Nat → Nat) (q : Nat) : Prop := ¬ P q ∧ ∀ k w i, LvX S k w i → A k w i ≠ q
def hoR (σ : MS) (s : Nat) : Nat → Int32 := fun j => if j = 0 then sec σ s 0 else if j = 1 then sec σ s 1 else if j = 2 then sec σ s 5 else sec σ s 6
/-- what holds a section, as it is written: kind, holder, paid, law -/
def hoS (σ : MS) (s : Nat) (k h p l : Int32) : MS := sR (sR (sR (sR σ (8 * s + 0) k) (8 * s + 1) h) (8 * s + 5) p) (8 * s + 6) l
def ho4 (k h p l : Int32) : Nat → Int32 := fun j => if j = 0 then k else if j = 1 then h else if j = 2 then p else l
theorem HoC.cg {im : Mem} {q : Nat} {r r1 : Nat → Int32} (h : HoC im q r) (h0 : r1 0 = r 0) (h1 : r1 1 = r 1) (h2 : r1 2 = r 2) (h3 : r1 3 = r 3) : HoC im q r1 := by
  unfold HoC at h ⊢
  rw [h0, h1, h2, h3]
  exact h
theorem HoC.down {im M : Mem} {q : Nat} {r : Nat → Int32} {x : va_E} (h : HoC M q r) (hm : M q = Option.some x) (hi : im q = Option.some x) : HoC im q r := by
  unfold HoC at h ⊢
  rw [hm] at h
  rw [hi]
  exact h
section RXa
variable {g : GP} {P : Nat → Prop} {F : Mem} {A : XA} {τ : XT} {dn : XD} {ν : XS} {M : Mem}
theorem RX.addI (h : RX g P F A τ dn ν M) {q : Nat} {x : va_E} (hq : M q = some x) (hd : DdX P A ν.2.1 q) : RX g P F A (mset (tIm τ) q x, τ.2) dn ν M := by
  obtain ⟨h1, h2, h3, h4, h5, h6, h7⟩ := h
  have hn : ∀ a y, tIm τ a = some y → mset (tIm τ) q x a = some y := fun a y hy => by
    by_cases e : a = q
    · subst e
      rw [h5 _ _ hy] at hq
      rw [mset_s, hq]
    · rw [mset_n e]
      exact hy
  refine ⟨h1, h2, fun k w i hl => ⟨(h3 _ _ _ hl).1, ?_⟩, h4, fun a y hf => ?_, fun a ha => ⟨(h6 a ha).1, ?_⟩, ?_⟩
  · show mset (tIm τ) q x (A k w i) = none
    rw [mset_n (hd.2 _ _ _ hl)]
    exact (h3 _ _ _ hl).2
  · have hf : mset (tIm τ) q x a = some y := hf
    by_cases e : a = q
    · subst e
      rw [mset_s] at hf
      rw [hq]
      exact hf
    · rw [mset_n e] at hf
      exact h5 _ _ hf
  · show mset (tIm τ) q x a = none
    rw [mset_n (show a ≠ q from fun z => hd.1 (z ▸ ha))]
    exact (h6 a ha).2
  · exact ⟨fun w s hw hs => (h7.1 w s hw hs).mono hn, fun w hw => ⟨hn _ _ (h7.2.1 w hw).1, hn _ _ (h7.2.1 w hw).2.1, (h7.2.1 w hw).2.2⟩, fun l hl => (h7.2.2.1 l hl).mono hn, ⟨fun k hk => (h7.2.2.2.1 k hk).mono hn, h7.2.2.2.2⟩⟩
theorem RX.dd (h : RX g P F A τ dn ν M) {q : Nat} (hq : M q = none) : DdX P A ν.2.1 q := by
  refine ⟨fun hp => ?_, fun k w i hl z => ?_⟩
  · obtain ⟨x, hx⟩ := Option.ne_none_iff_exists'.mp (h.2.2.2.2.2.1 q hp).1
    rw [h.2.2.2.1 _ _ hx] at hq
    cases hq
  · have := h.1 _ _ _ hl
    rw [z, hq] at this
    cases this
theorem RX.ddI (h : RX g P F A τ dn ν M) {q : Nat} {x : va_E} (hq : tIm τ q = some x) : DdX P A ν.2.1 q := by
  refine ⟨fun hp => ?_, fun k w i hl z => ?_⟩
  · rw [(h.2.2.2.2.2.1 q hp).2] at hq
    cases hq
  · have := (h.2.2.1 _ _ _ hl).2
    rw [z, hq] at this
    cases this
end RXa
section SXa
variable {g : GP} {P : Nat → Prop} {F : Mem} {A : XA} {w : Nat} {S : Nat → Nat → Nat} {b : XS} {σ : MS} {e : XE} {M : Mem}
theorem SX.dd (h : SX g P F A w S b σ e M) {q : Nat} (hq : M q = none) : DdX P A S q := by
  obtain ⟨τ, dn, fl, hR, -⟩ := h
  exact hR.dd hq
/-- the colony itself does not move -/
theorem SX.col (h : SX g P F A w S b σ e M) : A 0 0 0 = S 59 0 := by
  obtain ⟨τ, dn, fl, hR, hz, -⟩ := h
  exact (hR.2.2.2.2.2.2.2.1 0 (by decide)).2.2
theorem SX.lot (h : SX g P F A w S b σ e M) : M (A 49 w 0) = some (.inr (38, [])) ∧ DdX P A S (A 49 w 0) := by
  obtain ⟨τ, dn, fl, hR, hz, -⟩ := h
  have h1 := (hR.2.2.2.2.2.2.2.1 w hz.1).2.1
  exact ⟨hR.im h1, hR.ddI h1⟩
theorem SX.wild (h : SX g P F A w S b σ e M) : M (A 48 w 0) = some (.inr (37, [])) ∧ DdX P A S (A 48 w 0) := by
  obtain ⟨τ, dn, fl, hR, hz, -⟩ := h
  have h1 := (hR.2.2.2.2.2.2.2.1 w hz.1).1
  exact ⟨hR.im h1, hR.ddI h1⟩
/-- what stands at a section -/
theorem SX.held (h : SX g P F A w S b σ e M) {s : Nat} (hs : s < 96) : ∃ q, M (A 34 w s) = some (slO q) ∧ HoC M q (hoR σ s) ∧ DdX P A S q := by
  obtain ⟨τ, dn, fl, hR, hz, -⟩ := h
  have h1 := hR.2.2.2.2.2.2.1 w s hz.1 hs
  obtain ⟨x, hx⟩ := h1.some
  refine ⟨tHd τ w s, (hR.gt (k := 34) (w := w) (i := s) (LvX.k34 hz.1 hs)).trans (congrArg some (slW_r (hz.x1 hs))), (h1.mono (fun a y hy => hR.im hy)).cg ?_ ?_ ?_ ?_, hR.ddI hx⟩
  · exact (V34_0 hz hs).symm
  · exact (V34_1 hz hs).symm
  · exact (V34_2 hz hs).symm
  · exact (V34_3 hz hs).symm
/-- a section gets what stands at q -/
theorem SX.slot (h : SX g P F A w S b σ e M) {s q : Nat} {k1 h1 p1 l1 : Int32} (hs : s < 96) (hq : HoC M q (ho4 k1 h1 p1 l1)) (hd : DdX P A S q) : SX g P F A w S b (hoS σ s k1 h1 p1 l1) e (mset M (A 34 w s) (slO q)) := by
  obtain ⟨τ, dn, fl, hR, hz, hf, hdn⟩ := h
  obtain ⟨x, hx⟩ := hq.some
  have hR1 := hR.addI hx hd
  have hq1 : HoC (mset (tIm τ) q x) q (ho4 k1 h1 p1 l1) := hq.down hx mset_s
  obtain ⟨τ1, -, hR2⟩ := hR1.slot (r := fun j => if j < 4 then ho4 k1 h1 p1 l1 j else (VX w S b σ e) 34 w s j) hz.1 hs (hz.x1 hs) (hq1.cg rfl rfl rfl rfl)
  refine ⟨τ1, dn, fl, ?_, hz, hf.cg rfl rfl, hdn.cg rfl rfl rfl rfl⟩
  have ev : VX w S b (hoS σ s k1 h1 p1 l1) e = (fun k' w' i' => if k' = 34 ∧ w' = w ∧ i' = s then (fun j => if j < 4 then ho4 k1 h1 p1 l1 j else (VX w S b σ e) 34 w s j) else (VX w S b σ e) k' w' i') := by
    have y : (Nat → Nat → Nat) × (Nat → Int64) × (Nat → Nat → UInt32) := (S, σ.2.2, fl)
    have hi := iN_34 hz hs
    unfold hoS
    rw [VX_A (y := y) (k := 34) (i := s) (j := 3) hz hi (by decide) rfl, VX_A (y := y) (k := 34) (i := s) (j := 2) hz hi (by decide) rfl, VX_A (y := y) (k := 34) (i := s) (j := 1) hz hi (by decide) rfl, VX_A (y := y) (k := 34) (i := s) (j := 0) hz hi (by decide) rfl]
    funext k' w' i' j'
    by_cases c : k' = 34 ∧ w' = w ∧ i' = s
    · obtain ⟨rfl, rfl, rfl⟩ := c
      rw [if_pos ⟨rfl, rfl, rfl⟩]
      show (sI _ 34 w' i' 3 l1).1 34 w' i' j' = _
      rw [sI_eq]
      simp only [upd]
      by_cases j3 : j' = 3
      · subst j3; simp [ho4]
      · rw [if_neg j3]
        show (sI _ 34 w' i' 2 p1).1 34 w' i' j' = _
        rw [sI_eq]
        simp only [upd]
        by_cases j2 : j' = 2
        · subst j2; simp [ho4]
        · rw [if_neg j2]
          show (sI _ 34 w' i' 1 h1).1 34 w' i' j' = _
          rw [sI_eq]
          simp only [upd]
          by_cases j1 : j' = 1
          · subst j1; simp [ho4]
          · rw [if_neg j1]
            show (sI _ 34 w' i' 0 k1).1 34 w' i' j' = _
            rw [sI_eq]
            simp only [upd]
            by_cases j0 : j' = 0
            · subst j0; simp [ho4]
            · rw [if_neg j0, if_neg (by omega)]
    · rw [if_neg c]
      have c2 : ¬ (k' = 34 ∧ w' = wkX w 34 ∧ i' = s) := c
      show (sI _ 34 (wkX w 34) s 3 l1).1 k' w' i' j' = _
      rw [sI_ne c2]
      show (sI _ 34 (wkX w 34) s 2 p1).1 k' w' i' j' = _
      rw [sI_ne c2]
      show (sI _ 34 (wkX w 34) s 1 h1).1 k' w' i' j' = _
      rw [sI_ne c2]
      show (sI _ 34 (wkX w 34) s 0 k1).1 k' w' i' j' = _
      rw [sI_ne c2]
  rw [ev]
  exact hR2
end SXa
