set_option maxRecDepth 100000
/-- the rows that the class keeps -/
def mapR (j : Nat) : Prop := (j < 768 ∧ j % 8 ≠ 2 ∧ j % 8 ≠ 7) ∨ (768 ≤ j ∧ j < 1568 ∧ j % 8 ≠ 7) ∨ (1568 ≤ j ∧ j < 1640 ∧ (j - 1568) % 6 < 3) ∨ (1640 ≤ j ∧ j < 1720 ∧ (j - 1640) % 4 ≠ 3) ∨ (1720 ≤ j ∧ j < 1780 ∧ (j - 1720) % 15 < 3) ∨ (1780 ≤ j ∧ j < 2124) ∨ j = 2129 ∨ j = 2131
def OkM (t : Nat × Nat × Nat) : Prop := t.1 = 0 → t.2.1 = 1 → mapR t.2.2
theorem OkM.it {p : Prop} [Decidable p] {a b : Nat × Nat × Nat} (h : OkM a) (k : OkM b) : OkM (if p then a else b) := by
  by_cases c : p
  · rw [if_pos c]; exact h
  · rw [if_neg c]; exact k
theorem OkM.r {c a x : Nat} (h : mapR x) : OkM (c, a, x) := fun _ _ => h
theorem OkM.n {c a x : Nat} (h : c ≠ 0) : OkM (c, a, x) := fun z _ => absurd z h
theorem OkM.m {c a x : Nat} (h : a ≠ 1) : OkM (c, a, x) := fun _ z => absurd z h
theorem TXr_0 {w i j : Nat} (hi : i < 1) (hj : j < 19) : OkM (TX w 0 i j) := (OkM.it (OkM.n (by decide)) (OkM.it (OkM.n (by decide)) (OkM.it (OkM.r (by unfold mapR; omega)) (OkM.it (OkM.n (by decide)) (OkM.it (OkM.n (by decide)) (OkM.it (OkM.n (by decide)) (OkM.it (OkM.n (by decide)) (OkM.it (OkM.n (by decide)) (OkM.n (by decide))))))))))
theorem TXr_1 {w i j : Nat} (hi : i < 1) (hj : j < 12) : OkM (TX w 1 i j) := (OkM.it (OkM.r (by unfold mapR; omega)) (OkM.it (OkM.r (by unfold mapR; omega)) (OkM.it (OkM.r (by unfold mapR; omega)) (OkM.it (OkM.r (by unfold mapR; omega)) (OkM.it (OkM.it (OkM.r (by unfold mapR; omega)) (OkM.n (by decide))) (OkM.it (OkM.it (OkM.r (by unfold mapR; omega)) (OkM.n (by decide))) (OkM.it (OkM.r (by unfold mapR; omega)) (OkM.it (OkM.r (by unfold mapR; omega)) (OkM.it (OkM.it (OkM.r (by unfold mapR; omega)) (OkM.n (by decide))) (OkM.it (OkM.n (by decide)) (OkM.it (OkM.n (by decide)) (OkM.it (OkM.n (by decide)) (OkM.n (by decide))))))))))))))
theorem TXr_13 {w i j : Nat} (hi : i < 1) (hj : j < 100) : OkM (TX w 13 i j) := (OkM.r (by unfold mapR; omega))
theorem TXr_15 {w i j : Nat} (hi : i < 1) (hj : j < 12) : OkM (TX w 15 i j) := (OkM.r (by unfold mapR; omega))
theorem TXr_17 {w i j : Nat} (hi : i < 1) (hj : j < 100) : OkM (TX w 17 i j) := (OkM.r (by unfold mapR; omega))
theorem TXr_18 {w i j : Nat} (hi : i < 1) (hj : j < 96) : OkM (TX w 18 i j) := (OkM.n (by decide))
theorem TXr_19 {w i j : Nat} (hi : i < 1) (hj : j < 96) : OkM (TX w 19 i j) := (OkM.r (by unfold mapR; omega))
theorem TXr_20 {w i j : Nat} (hi : i < 1) (hj : j < 96) : OkM (TX w 20 i j) := (OkM.n (by decide))
theorem TXr_21 {w i j : Nat} (hi : i < 1) (hj : j < 96) : OkM (TX w 21 i j) := (OkM.r (by unfold mapR; omega))
theorem TXr_22 {w i j : Nat} (hi : i < 1) (hj : j < 4) : OkM (TX w 22 i j) := (OkM.r (by unfold mapR; omega))
theorem TXr_23 {w i j : Nat} (hi : i < 1) (hj : j < 4) : OkM (TX w 23 i j) := (OkM.r (by unfold mapR; omega))
theorem TXr_24 {w i j : Nat} (hi : i < 1) (hj : j < 4) : OkM (TX w 24 i j) := (OkM.r (by unfold mapR; omega))
theorem TXr_25 {w i j : Nat} (hi : i < 1) (hj : j < 12) : OkM (TX w 25 i j) := (OkM.r (by unfold mapR; omega))
theorem TXr_26 {w i j : Nat} (hi : i < 1) (hj : j < 4) : OkM (TX w 26 i j) := (OkM.n (by decide))
theorem TXr_27 {w i j : Nat} (hi : i < 1) (hj : j < 96) : OkM (TX w 27 i j) := (OkM.m (by decide))
theorem TXr_28 {w i j : Nat} (hi : i < 1) (hj : j < 96) : OkM (TX w 28 i j) := (OkM.m (by decide))
theorem TXr_31 {w i j : Nat} (hi : i < 1) (hj : j < 4) : OkM (TX w 31 i j) := (OkM.m (by decide))
theorem TXr_33 {w i j : Nat} (hi : i < 1) (hj : j < 6006) : OkM (TX w 33 i j) := (OkM.n (by decide))
theorem TXr_34 {w i j : Nat} (hi : i < 96) (hj : j < 4) : OkM (TX w 34 i j) := (OkM.it (OkM.r (by unfold mapR; omega)) (OkM.it (OkM.r (by unfold mapR; omega)) (OkM.it (OkM.r (by unfold mapR; omega)) (OkM.it (OkM.r (by unfold mapR; omega)) (OkM.n (by decide))))))
theorem TXr_35 {w i j : Nat} (hi : i < 100) (hj : j < 10) : OkM (TX w 35 i j) := (OkM.it (OkM.n (by decide)) (OkM.it (OkM.it (OkM.r (by unfold mapR; omega)) (OkM.n (by decide))) (OkM.it (OkM.r (by unfold mapR; omega)) (OkM.it (OkM.r (by unfold mapR; omega)) (OkM.it (OkM.r (by unfold mapR; omega)) (OkM.it (OkM.n (by decide)) (OkM.it (OkM.n (by decide)) (OkM.it (OkM.r (by unfold mapR; omega)) (OkM.it (OkM.r (by unfold mapR; omega)) (OkM.it (OkM.r (by unfold mapR; omega)) (OkM.n (by decide))))))))))))
theorem TXr_36 {w i j : Nat} (hi : i < 4) (hj : j < 3) : OkM (TX w 36 i j) := (OkM.it (OkM.r (by unfold mapR; omega)) (OkM.it (OkM.r (by unfold mapR; omega)) (OkM.it (OkM.r (by unfold mapR; omega)) (OkM.n (by decide)))))
theorem TXr_37 {w i j : Nat} (hi : i < 4) (hj : j < 12) : OkM (TX w 37 i j) := (OkM.n (by decide))
theorem TXr_38 {w i j : Nat} (hi : i < 12) (hj : j < 8) : OkM (TX w 38 i j) := (OkM.it (OkM.r (by unfold mapR; omega)) (OkM.it (OkM.n (by decide)) (OkM.it (OkM.n (by decide)) (OkM.it (OkM.n (by decide)) (OkM.it (OkM.it (OkM.r (by unfold mapR; omega)) (OkM.n (by decide))) (OkM.it (OkM.it (OkM.r (by unfold mapR; omega)) (OkM.n (by decide))) (OkM.it (OkM.n (by decide)) (OkM.n (by decide)))))))))
theorem TXr_39 {w i j : Nat} (hi : i < 12) (hj : j < 100) : OkM (TX w 39 i j) := (OkM.it (OkM.m (by decide)) (OkM.n (by decide)))
theorem TXr_40 {w i j : Nat} (hi : i < 20) (hj : j < 4) : OkM (TX w 40 i j) := (OkM.it (OkM.r (by unfold mapR; omega)) (OkM.it (OkM.n (by decide)) (OkM.it (OkM.r (by unfold mapR; omega)) (OkM.it (OkM.r (by unfold mapR; omega)) (OkM.n (by decide))))))
theorem TXr_41 {w i j : Nat} (hi : i < 1) (hj : j < 300) : OkM (TX w 41 i j) := (OkM.m (by decide))
theorem TXr_42 {w i j : Nat} (hi : i < 1) (hj : j < 100) : OkM (TX w 42 i j) := (OkM.r (by unfold mapR; omega))
theorem TXr_43 {w i j : Nat} (hi : i < 1) (hj : j < 3) : OkM (TX w 43 i j) := (OkM.m (by decide))
theorem TXr_44 {w i j : Nat} (hi : i < 1) (hj : j < 3) : OkM (TX w 44 i j) := (OkM.m (by decide))
theorem TXr_45 {w i j : Nat} (hi : i < 1) (hj : j < 2) : OkM (TX w 45 i j) := (OkM.n (by decide))
theorem TXr_46 {w i j : Nat} (hi : i < 1) (hj : j < 2) : OkM (TX w 46 i j) := (OkM.n (by decide))
theorem TXr_47 {w i j : Nat} (hi : i < 1) (hj : j < 196) : OkM (TX w 47 i j) := (OkM.m (by decide))
theorem TXr_ok {w k i j : Nat} {S : Nat → Nat → Nat} (hz : SzX w S) (hi : i < iNX S w k) (hj : j < jNX k) (h0 : (TX w k i j).1 = 0) (h1 : (TX w k i j).2.1 = 1) : mapR (TX w k i j).2.2 := by
  obtain ⟨z1, z2, z3, z4, z5, z6, z7⟩ := hz
  match k, hi, hj, h0, h1 with
  | 0, hi, hj, h0, h1 => exact TXr_0 (by have h9 := iN_le_0 hi; omega) hj h0 h1
  | 1, hi, hj, h0, h1 => exact TXr_1 (by have h9 := iN_le_1 hi; omega) hj h0 h1
  | 2, hi, hj, h0, h1 => exact absurd (show (4 : Nat) = 0 from h0) (by decide)
  | 3, hi, hj, h0, h1 => exact absurd (show (4 : Nat) = 0 from h0) (by decide)
  | 4, hi, hj, h0, h1 => exact absurd (show (4 : Nat) = 0 from h0) (by decide)
  | 5, hi, hj, h0, h1 => exact absurd (show (4 : Nat) = 0 from h0) (by decide)
  | 6, hi, hj, h0, h1 => exact absurd (show (4 : Nat) = 0 from h0) (by decide)
  | 7, hi, hj, h0, h1 => exact absurd (show (4 : Nat) = 0 from h0) (by decide)
  | 8, hi, hj, h0, h1 => exact absurd (show (4 : Nat) = 0 from h0) (by decide)
  | 9, hi, hj, h0, h1 => exact absurd (show (4 : Nat) = 0 from h0) (by decide)
  | 10, hi, hj, h0, h1 => exact absurd (show (4 : Nat) = 0 from h0) (by decide)
  | 11, hi, hj, h0, h1 => exact absurd (show (4 : Nat) = 0 from h0) (by decide)
  | 12, hi, hj, h0, h1 => exact absurd (show (4 : Nat) = 0 from h0) (by decide)
  | 13, hi, hj, h0, h1 => exact TXr_13 (by have h9 := iN_le_13 hi; omega) hj h0 h1
  | 14, hi, hj, h0, h1 => exact absurd (show (4 : Nat) = 0 from h0) (by decide)
  | 15, hi, hj, h0, h1 => exact TXr_15 (by have h9 := iN_le_15 hi; omega) hj h0 h1
  | 16, hi, hj, h0, h1 => exact absurd (show (4 : Nat) = 0 from h0) (by decide)
  | 17, hi, hj, h0, h1 => exact TXr_17 (by have h9 := iN_le_17 hi; omega) hj h0 h1
  | 18, hi, hj, h0, h1 => exact TXr_18 (by have h9 := iN_le_18 hi; omega) hj h0 h1
  | 19, hi, hj, h0, h1 => exact TXr_19 (by have h9 := iN_le_19 hi; omega) hj h0 h1
  | 20, hi, hj, h0, h1 => exact TXr_20 (by have h9 := iN_le_20 hi; omega) hj h0 h1
  | 21, hi, hj, h0, h1 => exact TXr_21 (by have h9 := iN_le_21 hi; omega) hj h0 h1
  | 22, hi, hj, h0, h1 => exact TXr_22 (by have h9 := iN_le_22 hi; omega) hj h0 h1
  | 23, hi, hj, h0, h1 => exact TXr_23 (by have h9 := iN_le_23 hi; omega) hj h0 h1
  | 24, hi, hj, h0, h1 => exact TXr_24 (by have h9 := iN_le_24 hi; omega) hj h0 h1
  | 25, hi, hj, h0, h1 => exact TXr_25 (by have h9 := iN_le_25 hi; omega) hj h0 h1
  | 26, hi, hj, h0, h1 => exact TXr_26 (by have h9 := iN_le_26 hi; omega) hj h0 h1
  | 27, hi, hj, h0, h1 => exact TXr_27 (by have h9 := iN_le_27 hi; omega) hj h0 h1
  | 28, hi, hj, h0, h1 => exact TXr_28 (by have h9 := iN_le_28 hi; omega) hj h0 h1
  | 29, hi, hj, h0, h1 => exact absurd (show (4 : Nat) = 0 from h0) (by decide)
  | 30, hi, hj, h0, h1 => exact absurd (show (4 : Nat) = 0 from h0) (by decide)
  | 31, hi, hj, h0, h1 => exact TXr_31 (by have h9 := iN_le_31 hi; omega) hj h0 h1
  | 32, hi, hj, h0, h1 => exact absurd (show (4 : Nat) = 0 from h0) (by decide)
  | 33, hi, hj, h0, h1 => exact TXr_33 (by have h9 := iN_le_33 hi; omega) hj h0 h1
  | 34, hi, hj, h0, h1 => exact TXr_34 (by have h9 := iN_le_34 hi; omega) hj h0 h1
  | 35, hi, hj, h0, h1 => exact TXr_35 (by have h9 := iN_le_35 hi; omega) hj h0 h1
  | 36, hi, hj, h0, h1 => exact TXr_36 (by have h9 := iN_le_36 hi; omega) hj h0 h1
  | 37, hi, hj, h0, h1 => exact TXr_37 (by have h9 := iN_le_37 hi; omega) hj h0 h1
  | 38, hi, hj, h0, h1 => exact TXr_38 (by have h9 := iN_le_38 hi; omega) hj h0 h1
  | 39, hi, hj, h0, h1 => exact TXr_39 (by have h9 := iN_le_39 hi; omega) hj h0 h1
  | 40, hi, hj, h0, h1 => exact TXr_40 (by have h9 := iN_le_40 hi; omega) hj h0 h1
  | 41, hi, hj, h0, h1 => exact TXr_41 (by have h9 := iN_le_41 hi; omega) hj h0 h1
  | 42, hi, hj, h0, h1 => exact TXr_42 (by have h9 := iN_le_42 hi; omega) hj h0 h1
  | 43, hi, hj, h0, h1 => exact TXr_43 (by have h9 := iN_le_43 hi; omega) hj h0 h1
  | 44, hi, hj, h0, h1 => exact TXr_44 (by have h9 := iN_le_44 hi; omega) hj h0 h1
  | 45, hi, hj, h0, h1 => exact TXr_45 (by have h9 := iN_le_45 hi; omega) hj h0 h1
  | 46, hi, hj, h0, h1 => exact TXr_46 (by have h9 := iN_le_46 hi; omega) hj h0 h1
  | 47, hi, hj, h0, h1 => exact TXr_47 (by have h9 := iN_le_47 hi; omega) hj h0 h1
  | k9 + 48, hi, hj, h0, h1 => exact absurd (show (4 : Nat) = 0 from h0) (by decide)
theorem SX.cgR {g : GP} {P : Nat → Prop} {F : Mem} {A : XA} {w : Nat} {S : Nat → Nat → Nat} {b : XS} {σ : MS} {e : XE} {M : Mem} (h : SX g P F A w S b σ e M) {σ1 : MS} (hr : ∀ j, mapR j → row σ1 j = row σ j) (ha : ∀ a, a ≠ 1 → a ≠ 2 → a ≠ 13 → a ≠ 14 → σ1.2.1 a = σ.2.1 a) (hf : ∀ x, x = 9 ∨ x = 13 ∨ x = 29 ∨ x = 28 ∨ x = 31 ∨ x = 23 ∨ x = 24 ∨ x = 7 → σ1.1 x = σ.1 x) (hl : σ1.2.2 = σ.2.2) : SX g P F A w S b σ1 e M := by
  obtain ⟨τ, dn, fl, hR, hz, hfl, hd⟩ := h
  refine ⟨τ, dn, fl, ?_, hz, hfl.cg (ha 5 (by decide) (by decide) (by decide) (by decide)) (ha 6 (by decide) (by decide) (by decide) (by decide)), hd.cg (ha 8 (by decide) (by decide) (by decide) (by decide)) (ha 9 (by decide) (by decide) (by decide) (by decide)) (ha 10 (by decide) (by decide) (by decide) (by decide)) (ha 11 (by decide) (by decide) (by decide) (by decide))⟩
  have ev : VX w S b σ1 e = VX w S b σ e := by
    funext k w' i j
    simp only [VX]
    by_cases hc : w' = wkX w k ∧ i < iNX S w k ∧ j < jNX k
    · rw [if_pos hc, if_pos hc]
      have hi := invX_k (w := w) (i := i) (j := j) (k := k)
      simp only [vaX]
      by_cases h0 : (TX w k i j).1 = 0
      · rw [if_pos h0, if_pos h0]
        by_cases h1 : (TX w k i j).2.1 = 1
        · have := hr _ (TXr_ok hz hc.2.1 hc.2.2 h0 h1)
          rw [h1]
          exact this
        · rw [ha _ h1 (hi.1 h0).1 (hi.1 h0).2.1 (hi.1 h0).2.2]
      · rw [if_neg h0, if_neg h0]
        by_cases h1 : (TX w k i j).1 = 1
        · rw [if_pos h1, if_pos h1, hf _ (hi.2 h1)]
        · rw [if_neg h1, if_neg h1]
    · rw [if_neg hc, if_neg hc]
  rw [ev, hl]
  exact hR
/-- the class's memory at rest, as the model's numbers have it -/
def SB (g : GP) (P : Nat → Prop) (F : Mem) (A : XA) (w : Nat) (S : Nat → Nat → Nat) (b : XS) (σ : MS) (nw : Nat) (M : Mem) : Prop := ∃ e, SX g P F A w S b σ e M ∧ TieX w S σ e nw
/-- nothing but rows, the pile and the kept row changed -/
def OnR (σ τ : MS) : Prop := (∀ a, a ≠ 1 → a ≠ 2 → a ≠ 13 → a ≠ 14 → τ.2.1 a = σ.2.1 a) ∧ (∀ x, τ.1 x = σ.1 x) ∧ τ.2.2 = σ.2.2 ∧ τ.2.1 14 = σ.2.1 14
theorem OnR.rf {σ : MS} : OnR σ σ := ⟨fun _ _ _ _ _ => rfl, fun _ => rfl, rfl, rfl⟩
theorem OnR.R {σ τ : MS} {j : Nat} {v : Int32} (h : OnR σ τ) : OnR σ (sR τ j v) := ⟨fun a h1 h2 h3 h4 => (wA_k h1).trans (h.1 a h1 h2 h3 h4), h.2.1, h.2.2.1, (wA_k (by decide)).trans h.2.2.2⟩
theorem OnR.P {σ τ : MS} {f : Nat → Int32} (h : OnR σ τ) : OnR σ (sA τ 13 f) := ⟨fun a h1 h2 h3 h4 => (show (sA τ 13 f).2.1 a = τ.2.1 a by simp [sA, h3]).trans (h.1 a h1 h2 h3 h4), h.2.1, h.2.2.1, (show (sA τ 13 f).2.1 14 = τ.2.1 14 by simp [sA]).trans h.2.2.2⟩
theorem OnR.sy {σ τ : MS} (h : OnR σ τ) : OnR τ σ := ⟨fun a h1 h2 h3 h4 => (h.1 a h1 h2 h3 h4).symm, fun x => (h.2.1 x).symm, h.2.2.1.symm, h.2.2.2.symm⟩
theorem OnR.tr {σ τ υ : MS} (h : OnR σ τ) (k : OnR τ υ) : OnR σ υ := ⟨fun a h1 h2 h3 h4 => (k.1 a h1 h2 h3 h4).trans (h.1 a h1 h2 h3 h4), fun x => (k.2.1 x).trans (h.2.1 x), k.2.2.1.trans h.2.2.1, k.2.2.2.trans h.2.2.2⟩
theorem OnR.it {p : Prop} [Decidable p] {σ τ υ : MS} (h : OnR σ τ) (k : OnR σ υ) : OnR σ (if p then τ else υ) := by
  split
  · exact h
  · exact k
theorem OnR.fr {σ τ : MS} (h : Fr σ τ) : OnR σ τ := ⟨fun a h1 _ h3 _ => h.2.1 a h1 h3, fun x => congrFun h.1 x, h.2.2, h.2.1 14 (by decide) (by decide)⟩
theorem SX.onR {g : GP} {P : Nat → Prop} {F : Mem} {A : XA} {w : Nat} {S : Nat → Nat → Nat} {b : XS} {σ : MS} {e : XE} {M : Mem} (h : SX g P F A w S b σ e M) {σ1 : MS} (hr : ∀ j, mapR j → row σ1 j = row σ j) (ho : OnR σ σ1) : SX g P F A w S b σ1 e M := h.cgR hr ho.1 (fun x _ => ho.2.1 x) ho.2.2.1
/-- what an act means lies in 0..1000 -/
theorem mean_in {σ : MS} {n nl name : Nat} {gr : Int32} (hname : name < 8) (t1 : σ.1 23 ≤ 0 ∨ ∃ k, k ≤ 1000 ∧ σ.1 23 = nI k) (t2 : σ.1 24 = -1 ∨ ∃ k, k ≤ 100 ∧ σ.1 24 = nI k) : ∃ k, k ≤ 1000 ∧ (meanV σ n nl name gr).1 = nI k := by
  have bnd : ∀ v : Int32, ∃ k, k ≤ 1000 ∧ boundedV name v = nI k := by
    intro v
    simp only [boundedV]
    by_cases h1 : ¬ (if name = 0 then nI 1 else nI 0) ≤ v
    · rw [if_pos h1]
      by_cases h0 : name = 0
      · rw [if_pos h0]; exact ⟨1, by decide, rfl⟩
      · rw [if_neg h0]; exact ⟨0, by decide, rfl⟩
    · rw [if_neg h1]
      by_cases h2 : ¬ v ≤ (if name = 1 then nI 100 else nI 1000)
      · rw [if_pos h2]
        by_cases h0 : name = 1
        · rw [if_pos h0]; exact ⟨100, by decide, rfl⟩
        · rw [if_neg h0]; exact ⟨1000, by decide, rfl⟩
      · rw [if_neg h2]
        have h3 := Classical.not_not.mp h1
        have h4 := Classical.not_not.mp h2
        have h5 : ¬ v < 0 := fun z => by
          by_cases h0 : name = 0
          · rw [if_pos h0] at h3; exact absurd (Int32.lt_of_le_of_lt h3 z) (by decide)
          · rw [if_neg h0] at h3; exact absurd (Int32.lt_of_le_of_lt h3 z) (by decide)
        obtain ⟨j, hj, rfl⟩ := nI_of h5
        refine ⟨j, ?_, rfl⟩
        by_cases h0 : name = 1
        · rw [if_pos h0] at h4
          have := (nI_leI hj (by decide)).mp h4
          omega
        · rw [if_neg h0] at h4
          exact (nI_leI hj (by decide)).mp h4
  unfold meanV
  by_cases c1 : name = 0 ∧ ¬ σ.1 23 ≤ 0
  · rw [if_pos c1]
    rcases t1 with z | z
    · exact absurd z c1.2
    · exact z
  · rw [if_neg c1]
    by_cases c2 : name = 1 ∧ ¬ σ.1 24 < 0
    · rw [if_pos c2]
      rcases t2 with z | ⟨k, hk, z⟩
      · exact absurd (show σ.1 24 < 0 by rw [z]; decide) c2.2
      · exact ⟨k, by omega, z⟩
    · rw [if_neg c2]
      by_cases c3 : lawI σ nl name = -1
      · rw [if_pos c3]
        have : ∀ x, x < 8 → ∃ k, k ≤ 1000 ∧ withoutV (nI x) = nI k := by
          intro x hx
          match x, hx with
          | 0, _ => exact ⟨20, by decide, rfl⟩
          | 1, _ => exact ⟨50, by decide, rfl⟩
          | 2, _ => exact ⟨2, by decide, rfl⟩
          | 3, _ => exact ⟨5, by decide, rfl⟩
          | 4, _ => exact ⟨1, by decide, rfl⟩
          | 5, _ => exact ⟨0, by decide, rfl⟩
          | 6, _ => exact ⟨4, by decide, rfl⟩
          | 7, _ => exact ⟨1, by decide, rfl⟩
        exact this name hname
      · rw [if_neg c3]
        exact bnd _
