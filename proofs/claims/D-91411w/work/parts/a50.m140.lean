set_option maxRecDepth 100000
theorem shf_row {pl : Nat} {σ : MS} : ∀ (m : Nat) {j : Nat}, row (upto (shfA pl) m σ) j = if 2092 + pl ≤ j ∧ j < 2092 + pl + m then row σ (j + 1) else row σ j
  | 0, j => by
    rw [if_neg (by omega)]
    rfl
  | m + 1, j => by
    show row (sR (upto (shfA pl) m σ) (2092 + (pl + m)) (row (upto (shfA pl) m σ) (2092 + (pl + m) + 1))) j = _
    by_cases h : j = 2092 + (pl + m)
    · subst h
      rw [rowS_eq, shf_row m, if_neg (by omega), if_pos (by omega)]
    · rw [rowS_ne h, shf_row m]
      by_cases h1 : 2092 + pl ≤ j ∧ j < 2092 + pl + m
      · rw [if_pos h1, if_pos (by omega)]
      · rw [if_neg h1, if_neg (by omega)]
theorem OnR.shf {pl : Nat} {σ : MS} : ∀ m : Nat, OnR σ (upto (shfA pl) m σ)
  | 0 => OnR.rf
  | m + 1 => (OnR.shf m).R
theorem VX_shf {S : Nat → Nat → Nat} {b : XS} {σ : MS} {e : XE} {pl : Nat} (hz : SzX 0 S) : ∀ m : Nat, pl + m ≤ 12 → ∀ k' w' i', ¬ (k' = 15 ∧ w' = 0 ∧ i' = 0) → VX 0 S b (upto (shfA pl) m σ) e k' w' i' = VX 0 S b σ e k' w' i'
  | 0, _, _, _, _, _ => rfl
  | m + 1, hm, k', w', i', hn => by
    have hA := VX_A (b := b) (σ := upto (shfA pl) m σ) (e := e) (v := row (upto (shfA pl) m σ) (2092 + (pl + m) + 1)) (y := (S, σ.2.2, fun _ _ => 0)) (k := 15) (i := 0) (j := pl + m) hz (iN_15 hz) (show pl + m < jNX 15 by show pl + m < 12; omega) (show TX 0 15 0 (pl + m) = (0, 1, 2092 + (pl + m)) from rfl)
    refine (congrFun (congrFun (congrFun hA k') w') i').trans ?_
    refine (sI_ne hn).trans ?_
    exact VX_shf hz m (by omega) k' w' i' hn
theorem SX.rm14 {g : GP} {P : Nat → Prop} {F : Mem} {A : XA} {S : Nat → Nat → Nat} {b : XS} {σ : MS} {e : XE} {M : Mem} {k i m1 : Nat} {mc1 : Int32} (h : SX g P F A 0 S b σ e M) (hn : S 14 0 = k + 1) (hk : k + 1 ≤ 12) (hi : i < k + 1) (hm : k + 1 ≤ m1 ∧ m1 < 1000) (or : OrX 0 S b σ e) :
  SX g P F A 0 (SnX S 14 0 k) b (upto (shfA i) (k - i) σ) e (mset (mset M (A 15 0 0) (lstA g m1 (rmF (fun j => if j < S 14 0 then some (A 35 0 (tN (VX 0 S b σ e 15 0 0 j))) else none) (S 14 0) i))) (A 14 0 0) (lstO mc1 (A 15 0 0) (S 14 0 - 1))) := by
  have h4 := h.hz.2.1
  obtain ⟨τ, dn, fl, hR, hz, hf, hd⟩ := h
  have on : OnR σ (upto (shfA i) (k - i) σ) := OnR.shf _
  have eV : VX 0 (SnX S 14 0 k) b (upto (shfA i) (k - i) σ) e = VX 0 S b (upto (shfA i) (k - i) σ) e := VX_sz (fun x hx y => SnX_ne (by omega))
  have hR2 := RX.lst (k := 14) (n1 := k) (m1 := m1) (q2 := A 15 0 0) (mc1 := mc1) (r1 := VX 0 S b (upto (shfA i) (k - i) σ) e 15 0 0) (A1 := A) hR (by decide) (Or.inl rfl) ⟨by omega, by omega, hm.2⟩ (fun _ _ _ _ _ => rfl) rfl (fun _ _ => rfl) (fun z => absurd z (by decide)) (S2_le hz) or.1 or.2.1 or.2.2
  have hR3 := hR2.cgI (f := VX 0 (SnX S 14 0 k) b (upto (shfA i) (k - i) σ) e) (fun k' w' i' _ => ?_)
  · refine ⟨T1X τ 14 0 m1 mc1, dn, fl, ?_, ?_, ?_, ?_⟩
    · have ef : (fun j => if j < k then some (elX A 14 0 (VX 0 S b (upto (shfA i) (k - i) σ) e 15 0 0) j) else none) = rmF (fun j => if j < S 14 0 then some (A 35 0 (tN (VX 0 S b σ e 15 0 0 j))) else none) (S 14 0) i := by
        funext j
        have ee : elX A 14 0 (VX 0 S b (upto (shfA i) (k - i) σ) e 15 0 0) j = A 35 0 (tN (VX 0 S b (upto (shfA i) (k - i) σ) e 15 0 0 j)) := rfl
        rw [ee, hn]
        unfold rmF
        by_cases h1 : j < k
        · rw [if_pos h1, V15 hz (by omega), shf_row]
          by_cases h2 : j < i
          · rw [if_pos h2, if_neg (by omega)]
            dsimp only
            rw [if_pos (by omega), V15 hz (by omega)]
          · rw [if_neg h2, if_pos (by omega), if_pos (by omega)]
            dsimp only
            rw [if_pos (by omega), V15 hz (by omega)]
            rfl
        · rw [if_neg h1, if_neg (by omega), if_neg (by omega)]
      have em : ldX g A (T1X τ 14 0 m1 mc1) 14 0 k (VX 0 S b (upto (shfA i) (k - i) σ) e 15 0 0) = lstA g m1 (rmF (fun j => if j < S 14 0 then some (A 35 0 (tN (VX 0 S b σ e 15 0 0 j))) else none) (S 14 0) i) := by
        unfold ldX lstA
        rw [ef]
        rfl
      rw [← em, show S 14 0 - 1 = k by omega, on.2.2.1]
      exact hR3
    · obtain ⟨z1, z2, z3, z4, z5, z6, z7, z8⟩ := hz
      refine ⟨z1, ?_, ?_, ?_, ?_, ?_, ?_, ?_⟩
      · rw [SnX_ne (by omega)]; exact z2
      · rw [SnX_ne (by omega)]; exact z3
      · rw [SnX_ne (by omega)]; exact z4
      · rw [SnX_ne (by omega)]; exact z5
      · rw [SnX_ne (by omega)]; exact z6
      · rw [SnX_ne (by omega)]; exact z7
      · exact ⟨Nat.le_refl _, fun e9 => absurd e9 (by decide)⟩
    · intro z hz9
      rw [SnX_ne (by omega)]
      exact hf.cg (on.1 5 (by decide) (by decide) (by decide) (by decide)) (on.1 6 (by decide) (by decide) (by decide) (by decide)) z hz9
    · rw [SnX_ne (by omega)]
      exact hd.cg (on.1 8 (by decide) (by decide) (by decide) (by decide)) (on.1 9 (by decide) (by decide) (by decide) (by decide)) (on.1 10 (by decide) (by decide) (by decide) (by decide)) (on.1 11 (by decide) (by decide) (by decide) (by decide))
  · show VX 0 (SnX S 14 0 k) b (upto (shfA i) (k - i) σ) e k' w' i' = (if k' = 15 ∧ w' = 0 ∧ i' = 0 then VX 0 S b (upto (shfA i) (k - i) σ) e 15 0 0 else VX 0 S b σ e k' w' i')
    rw [eV]
    by_cases c : k' = 15 ∧ w' = 0 ∧ i' = 0
    · rw [if_pos c, c.1, c.2.1, c.2.2]
    · rw [if_neg c]
      exact VX_shf hz _ (by omega) k' w' i' c
/-- one draw: in the class's order, in the model's -/
def dr1 (k pl : Nat) (σ : MS) : MS := upto (shfA pl) (k - pl) (let σ1 := sR σ (2080 + tN (row σ 2131)) (row σ (2092 + pl)); sR σ1 2131 (row σ1 2131 + nI 1))
theorem dr1_row {k pl dr : Nat} {σ : MS} (hd : row σ 2131 = nI dr) (hdr : dr < 12) (hpl : pl < k + 1) (hk : k < 12) (j : Nat) : row (dr1 k pl σ) j = row (sR (sR (upto (shfA pl) (k - pl) σ) (2080 + dr) (row σ (2092 + pl))) 2131 (nI (dr + 1))) j := by
  unfold dr1
  dsimp only
  rw [hd, tN_nI (by omega), show row (sR σ (2080 + dr) (row σ (2092 + pl))) 2131 = nI dr from (rowS_ne (by omega)).trans hd, nI_add, shf_row]
  by_cases h : 2092 + pl ≤ j ∧ j < 2092 + pl + (k - pl)
  · rw [if_pos h, rowS_ne (by omega), rowS_ne (by omega), rowS_ne (by omega), rowS_ne (by omega), shf_row, if_pos h]
  · rw [if_neg h]
    by_cases h1 : j = 2131
    · subst h1
      rw [rowS_eq, rowS_eq]
    · rw [rowS_ne h1, rowS_ne h1]
      by_cases h2 : j = 2080 + dr
      · subst h2
        rw [rowS_eq, rowS_eq]
      · rw [rowS_ne h2, rowS_ne h2, shf_row, if_neg h]
theorem OnR.dr1 {k pl : Nat} {σ : MS} : OnR σ (dr1 k pl σ) := (OnR.rf.R.R).tr (OnR.shf _)
theorem drawF_1 {k L : Nat} {σ : MS} : drawF (k + 1) L σ = drawF k (L % fac k) (dr1 k (L / fac k) σ) := rfl
theorem dr1_2131 {k pl dr : Nat} {σ : MS} (hd : row σ 2131 = nI dr) (hdr : dr < 12) (hpl : pl < k + 1) (hk : k < 12) : row (dr1 k pl σ) 2131 = nI (dr + 1) := (dr1_row hd hdr hpl hk 2131).trans rowS_eq
theorem dr1_o {k pl dr j : Nat} {σ : MS} (hd : row σ 2131 = nI dr) (hdr : dr < 12) (hpl : pl < k + 1) (hk : k < 12) (h1 : j < 2080 ∨ 2104 ≤ j) (h2 : j ≠ 2131) : row (dr1 k pl σ) j = row σ j := by
  rw [dr1_row hd hdr hpl hk, rowS_ne h2, rowS_ne (by omega), shf_row, if_neg (by omega)]
theorem dr1_el {k pl dr n : Nat} {σ : MS} (hd : row σ 2131 = nI dr) (hdr : dr < 12) (hpl : pl < k + 1) (hk : k < 12) (h : ∀ j, j < k + 1 → ∃ p, p < n ∧ row σ (2092 + j) = nI p) : ∀ j, j < k → ∃ p, p < n ∧ row (dr1 k pl σ) (2092 + j) = nI p := fun j hj => by
  rw [dr1_row hd hdr hpl hk, rowS_ne (by omega), rowS_ne (by omega), shf_row]
  by_cases c : 2092 + pl ≤ 2092 + j ∧ 2092 + j < 2092 + pl + (k - pl)
  · rw [if_pos c]
    exact h (j + 1) (by omega)
  · rw [if_neg c]
    exact h j (by omega)
theorem or_ask {S : Nat → Nat → Nat} {b : XS} {σ : MS} {e : XE} (hz : SzX 0 S) (h8 : S 8 1 ≤ S 8 0) (h12 : S 12 0 ≤ 100) (h14 : S 14 0 ≤ 12) (ho : ∀ j, j < S 12 0 → ∃ p, p < S 4 0 ∧ row σ (1780 + 3 * j + 0) = nI p) (ha : ∀ j, j < S 14 0 → ∃ p, p < S 4 0 ∧ row σ (2092 + j) = nI p) : OrX 0 S b σ e := by
  have h4 := hz.2.1
  refine ⟨h8, fun j hj => ?_, fun j hj => ?_⟩
  · obtain ⟨p, hp, e9⟩ := ho j hj
    rw [V13 hz (by omega), e9, tN_nI (by omega)]
    exact hp
  · obtain ⟨p, hp, e9⟩ := ha j hj
    rw [V15 hz (by omega), e9, tN_nI (by omega)]
    exact hp
theorem fac_s (n : Nat) : fac (n + 1) = fac n * (n + 1) := Nat.mul_comm _ _
