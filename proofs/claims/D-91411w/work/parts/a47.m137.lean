set_option maxRecDepth 100000
theorem SX.lst16 {g : GP} {P : Nat → Prop} {F : Mem} {A : XA} {S : Nat → Nat → Nat} {b : XS} {σ : MS} {e : XE} {M : Mem} {n q q2 m1 : Nat} {mc1 v : Int32} {M1 : Mem} (h : SX g P F A 0 S b σ e M) (hn4 : n = S 16 0) (hn : n < 100) (hv : (M1 = M ∧ IcX g q v) ∨ (M q = none ∧ M1 = mset M q (.inr (1, [.int v])))) (hq2 : q2 = A 17 0 0 ∨ M1 q2 = none) (hm : n + 1 ≤ m1 ∧ m1 < 1000) (or : OrX 0 S b σ e) :
  SX g P F (fun k' w' i' => if k' = 17 ∧ w' = 0 ∧ i' = 0 then q2 else if k' = 51 ∧ w' = 0 ∧ i' = n then q else A k' w' i') 0 (SnX S 16 0 (n + 1)) b (sR σ (1780 + 3 * n + 1) v) e (mset (mset M1 q2 (lstA g m1 (fun j => if j < n then (if j < n then some (A 51 0 j) else none) else if j = n then some q else none))) (A 16 0 0) (lstO mc1 q2 (n + 1))) := by
  have h4 := h.hz.2.1
  obtain ⟨τ, dn, fl, hR, hz, hf, hd⟩ := h
  have hA := VX_A (b := b) (σ := σ) (e := e) (v := v) (y := (S, σ.2.2, fl)) (k := 17) (i := 0) (j := n) hz (iN_17 hz) (show n < jNX 17 by show n < 100; exact hn) (show TX 0 17 0 n = (0, 1, 1780 + 3 * n + 1) from rfl)
  have eV : VX 0 (SnX S 16 0 (n + 1)) b (sR σ (1780 + 3 * n + 1) v) e = VX 0 S b (sR σ (1780 + 3 * n + 1) v) e := VX_sz (fun x hx y => SnX_ne (by omega))
  have hvj : ∀ j, VX 0 S b (sR σ (1780 + 3 * n + 1) v) e 17 0 0 j = if j = n then v else VX 0 S b σ e 17 0 0 j := fun j => by
    have e9 := congrFun (congrFun (congrFun (congrFun hA 17) 0) 0) j
    refine e9.trans ?_
    show (sI _ 17 0 0 n v).1 17 0 0 j = _
    rw [sI_eq]
    rfl
  have key : ∃ τ1 : XT, RX g P F A τ1 dn (VX 0 S b σ e, S, σ.2.2, fl) M1 ∧ PdX g (tIm τ1) q v := by
    rcases hv with ⟨rfl, hc⟩ | ⟨hq, rfl⟩
    · exact ⟨τ, hR, Or.inr hc⟩
    · exact ⟨_, hR.newI hq, Or.inl mset_s⟩
  obtain ⟨τ1, hR1, hpd⟩ := key
  have hPJ : ∀ j, j < n + 1 → PdX g (tIm τ1) ((fun k' w' i' => if k' = 17 ∧ w' = 0 ∧ i' = 0 then q2 else if k' = 51 ∧ w' = 0 ∧ i' = n then q else A k' w' i') 51 0 j) (VX 0 S b (sR σ (1780 + 3 * n + 1) v) e 17 0 0 j) := fun j hj => by
    dsimp only
    rw [if_neg (fun z => by omega), hvj j]
    by_cases h2 : j = n
    · rw [if_pos ⟨rfl, rfl, h2⟩, if_pos h2]
      exact hpd
    · rw [if_neg (fun z => h2 z.2.2), if_neg h2]
      exact hR1.2.2.2.2.2.2.2.2.2.1 j (show j < S 16 0 by omega)
  have hR2 := RX.lst (k := 16) (n1 := n + 1) (m1 := m1) (q2 := q2) (mc1 := mc1) (r1 := VX 0 S b (sR σ (1780 + 3 * n + 1) v) e 17 0 0) (A1 := fun k' w' i' => if k' = 17 ∧ w' = 0 ∧ i' = 0 then q2 else if k' = 51 ∧ w' = 0 ∧ i' = n then q else A k' w' i') hR1 (by decide) hq2 ⟨hm.1, by omega, hm.2⟩ (fun k' w' i' h51 hne => by rw [if_neg hne, if_neg (fun z => h51 z.1)]) (if_pos ⟨rfl, rfl, rfl⟩) (fun i hi => by have hi2 : i < S 16 0 := hi; rw [if_neg (fun z => by omega), if_neg (fun z => by omega)]) (fun _ j hj => hPJ j hj) (S2_le hz) or.1 or.2.1 or.2.2
  have hR3 := hR2.cgI (f := VX 0 (SnX S 16 0 (n + 1)) b (sR σ (1780 + 3 * n + 1) v) e) (fun k' w' i' _ => ?_)
  · refine ⟨T1X τ1 16 0 m1 mc1, dn, fl, ?_, ?_, ?_, ?_⟩
    · have ef : (fun j => if j < n + 1 then some (elX (fun k' w' i' => if k' = 17 ∧ w' = 0 ∧ i' = 0 then q2 else if k' = 51 ∧ w' = 0 ∧ i' = n then q else A k' w' i') 16 0 (VX 0 S b (sR σ (1780 + 3 * n + 1) v) e 17 0 0) j) else none) = (fun j => if j < n then (if j < n then some (A 51 0 j) else none) else if j = n then some q else none) := by
        funext j
        have ee : elX (fun k' w' i' => if k' = 17 ∧ w' = 0 ∧ i' = 0 then q2 else if k' = 51 ∧ w' = 0 ∧ i' = n then q else A k' w' i') 16 0 (VX 0 S b (sR σ (1780 + 3 * n + 1) v) e 17 0 0) j = (fun k' w' i' => if k' = 17 ∧ w' = 0 ∧ i' = 0 then q2 else if k' = 51 ∧ w' = 0 ∧ i' = n then q else A k' w' i') 51 0 j := rfl
        rw [ee]
        dsimp only
        by_cases h1 : j < n
        · rw [if_pos (by omega), if_pos h1, if_pos h1, if_neg (fun z => by omega), if_neg (fun z => by omega)]
        · by_cases h2 : j = n
          · rw [if_pos (by omega), if_neg h1, if_pos h2, if_neg (fun z => by omega), if_pos ⟨rfl, rfl, h2⟩]
          · rw [if_neg (by omega), if_neg h1, if_neg h2]
      have em : ldX g (fun k' w' i' => if k' = 17 ∧ w' = 0 ∧ i' = 0 then q2 else if k' = 51 ∧ w' = 0 ∧ i' = n then q else A k' w' i') (T1X τ1 16 0 m1 mc1) 16 0 (n + 1) (VX 0 S b (sR σ (1780 + 3 * n + 1) v) e 17 0 0) = lstA g m1 (fun j => if j < n then (if j < n then some (A 51 0 j) else none) else if j = n then some q else none) := by
        unfold ldX lstA
        rw [ef]
        rfl
      rw [← em]
      exact hR3
    · obtain ⟨z1, z2, z3, z4, z5, z6, z7, z8⟩ := hz
      refine ⟨z1, ?_, ?_, ?_, ?_, ?_, ?_, ?_⟩
      · rw [SnX_ne (by omega)]; exact z2
      · rw [SnX_ne (by omega)]; exact z3
      · rw [SnX_ne (by omega)]; exact z4
      · rw [SnX_ne (by omega)]; exact z5
      · rw [SnX_ne (by omega)]; exact z6
      · rw [SnX_ne (by omega)]; exact z7
      · exact ⟨Nat.le_refl _, fun e9 => absurd e9 (by decide)⟩
    · intro z hz9
      rw [SnX_ne (by omega)]
      exact hf.cg (wA_k (by decide)) (wA_k (by decide)) z hz9
    · rw [SnX_ne (by omega)]
      exact hd.cg (wA_k (by decide)) (wA_k (by decide)) (wA_k (by decide)) (wA_k (by decide))
  · show VX 0 (SnX S 16 0 (n + 1)) b (sR σ (1780 + 3 * n + 1) v) e k' w' i' = (if k' = 17 ∧ w' = 0 ∧ i' = 0 then VX 0 S b (sR σ (1780 + 3 * n + 1) v) e 17 0 0 else VX 0 S b σ e k' w' i')
    rw [eV]
    by_cases c : k' = 17 ∧ w' = 0 ∧ i' = 0
    · rw [if_pos c, c.1, c.2.1, c.2.2]
    · rw [if_neg c]
      refine (congrFun (congrFun (congrFun hA k') w') i').trans ?_
      exact sI_ne c
theorem SX.LA16 {g : GP} {P : Nat → Prop} {F : Mem} {A : XA} {S : Nat → Nat → Nat} {b : XS} {σ : MS} {e : XE} {M : Mem} (h : SX g P F A 0 S b σ e M) (gf : ∀ a x, M a = some x → gF g a) : ∃ (m : Nat) (mc : Int32), LstC g M (A 16 0 0) (A 17 0 0) (S 16 0) m (fun j => if j < S 16 0 then some (A 51 0 j) else none) mc ∧ (1 ≤ m ∧ m < 1000) ∧ (∀ i, i < S 16 0 → ∀ y, (fun j => if j < S 16 0 then some (A 51 0 j) else none) i = some y → ElZ g M "java/lang/Object" y) ∧ (∀ i, i < S 16 0 → ∀ y, (fun j => if j < S 16 0 then some (A 51 0 j) else none) i = some y → y ≠ A 16 0 0) := by
  obtain ⟨τ, dn, fl, hR, hz, -⟩ := h
  have hc := hR.2.2.2.2.2.2.2.2.2.2 16 0 (by decide)
  have l16 := hR.gt (k := 16) (w := 0) (i := 0) (LvX.one (by decide) (by decide))
  refine ⟨tCp τ 16 0, tMc τ 16 0, ⟨l16, hR.gt (k := 17) (w := 0) (i := 0) (LvX.one (by decide) (by decide)), hc.1, Nat.lt_trans hc.2.2 (by decide)⟩, hc.2, fun i hi y hy => ?_, fun i hi y hy => ?_⟩
  · have e9 := (if_pos hi).symm.trans hy
    cases e9
    rcases hR.2.2.2.2.2.2.2.2.2.1 i hi with z | z
    · exact Or.inl ⟨1, _, _, hR.im z, rfl, q3259⟩
    · exact Or.inr ⟨_, z.1, q3259⟩
  · have e9 := (if_pos hi).symm.trans hy
    cases e9
    rcases hR.2.2.2.2.2.2.2.2.2.1 i hi with z | z
    · exact ne_oo (hR.im z) l16 (by decide)
    · intro z9
      obtain ⟨cell, -, -, -, hn⟩ := z.1
      exact hn (by rw [z9]; exact gf _ _ l16)
theorem or_cg {S : Nat → Nat → Nat} {b : XS} {σ σ1 : MS} {e e1 : XE} (hz : SzX 0 S) (h12 : S 12 0 ≤ 100) (h14 : S 14 0 ≤ 12) (or : OrX 0 S b σ e) (hr : ∀ j, 1780 ≤ j → j < 2104 → row σ1 j = row σ j) : OrX 0 S b σ1 e1 := by
  refine ⟨or.1, fun j hj => ?_, fun j hj => ?_⟩
  · rw [V13 hz (by omega), hr _ (by omega) (by omega), ← V13 (b := b) (e := e) hz (by omega)]
    exact or.2.1 j hj
  · rw [V15 hz (by omega), hr _ (by omega) (by omega), ← V15 (b := b) (e := e) hz (by omega)]
    exact or.2.2 j hj
theorem or_push {S : Nat → Nat → Nat} {b : XS} {σ : MS} {e : XE} {n p : Nat} (hz : SzX 0 S) (hn : n = S 12 0) (h12 : n < 100) (h14 : S 14 0 ≤ 12) (or : OrX 0 S b σ e) (hp : p < S 4 0) : OrX 0 (SnX S 12 0 (n + 1)) b (sR σ (1780 + 3 * n + 0) (nI p)) e := by
  have h4 := hz.2.1
  have eV : VX 0 (SnX S 12 0 (n + 1)) b (sR σ (1780 + 3 * n + 0) (nI p)) e = VX 0 S b (sR σ (1780 + 3 * n + 0) (nI p)) e := VX_sz (fun x hx y => SnX_ne (by omega))
  refine ⟨by rw [SnX_ne (by omega), SnX_ne (by omega)]; exact or.1, fun j hj => ?_, fun j hj => ?_⟩
  · rw [SnX_eq] at hj
    rw [eV, SnX_ne (by omega), V13 hz (by omega)]
    by_cases e1 : j = n
    · subst e1
      rw [show row (sR σ (1780 + 3 * j + 0) (nI p)) (1780 + 3 * j + 0) = nI p from rowS_eq, tN_nI (by omega)]
      exact hp
    · rw [show row (sR σ (1780 + 3 * n + 0) (nI p)) (1780 + 3 * j + 0) = row σ (1780 + 3 * j + 0) from rowS_ne (by omega), ← V13 (b := b) (e := e) hz (by omega)]
      exact or.2.1 j (by omega)
  · rw [SnX_ne (by omega)] at hj
    rw [eV, SnX_ne (by omega), V15 hz (by omega), show row (sR σ (1780 + 3 * n + 0) (nI p)) (2092 + j) = row σ (2092 + j) from rowS_ne (by omega), ← V15 (b := b) (e := e) hz (by omega)]
    exact or.2.2 j hj
theorem cnt_lt {p : Nat → Bool} {k : Nat} (h : p k = false) : ∀ {n : Nat}, k < n → cnt p n < n
  | n + 1, hk => by
    have z := cnt_le p n
    by_cases e : k = n
    · subst e
      rw [cnt_f h]
      omega
    · have z2 := cnt_lt h (n := n) (by omega)
      cases hp : p n with
      | true => rw [cnt_t hp]; omega
      | false => rw [cnt_f hp]; omega
theorem ord_rows {σ : MS} {p q : Nat} {x1 x2 x3 x4 x5 x6 : Int32} (hp : p < 100) (hq : q < 100) (z : row σ (1780 + 3 * q + 2) = nI 0) {j : Nat} (hj : j ≠ 2128) : row (sR (sR (sR (sR (sR (sR (sR σ (768 + 8 * p + 1) x1) 2120 x2) (1780 + 3 * q + 0) x3) (1780 + 3 * q + 1) x4) (1780 + 3 * q + 2) (nI 0)) (768 + 8 * p + 6) x5) 2128 x6) j = row (sR (sR (sR (sR (sR σ (768 + 8 * p + 1) x1) 2120 x2) (768 + 8 * p + 6) x5) (1780 + 3 * q + 0) x3) (1780 + 3 * q + 1) x4) j := by
  rw [show ∀ {υ : MS}, row (sR υ 2128 x6) j = row υ j from fun {υ} => rowS_ne hj]
  by_cases h2 : j = 1780 + 3 * q + 2
  · refine ((rowS_ne (by omega)).trans ((congrArg _ h2).trans rowS_eq)).trans ?_
    exact ((rowS_ne (by omega)).trans ((rowS_ne (by omega)).trans ((rowS_ne (by omega)).trans ((rowS_ne (by omega)).trans ((rowS_ne (by omega)).trans ((congrArg _ h2).trans z)))))).symm
  · by_cases h6 : j = 768 + 8 * p + 6
    · subst h6
      exact rowS_eq.trans ((rowS_ne (by omega)).trans ((rowS_ne (by omega)).trans rowS_eq)).symm
    · refine ((rowS_ne h6).trans (rowS_ne h2)).trans ?_
      by_cases h1 : j = 1780 + 3 * q + 1
      · subst h1
        exact rowS_eq.trans rowS_eq.symm
      · refine (rowS_ne h1).trans (Eq.trans ?_ (rowS_ne h1).symm)
        by_cases h0 : j = 1780 + 3 * q + 0
        · subst h0
          exact rowS_eq.trans rowS_eq.symm
        · exact (rowS_ne h0).trans ((rowS_ne h0).trans (rowS_ne h6)).symm
theorem bnd_in {name : Nat} (hname : name < 8) : ∀ v : Int32, ∃ k, k ≤ 1000 ∧ boundedV name v = nI k := by
  intro v
  simp only [boundedV]
  by_cases h1 : ¬ (if name = 0 then nI 1 else nI 0) ≤ v
  · rw [if_pos h1]
    by_cases h0 : name = 0
    · rw [if_pos h0]; exact ⟨1, by decide, rfl⟩
    · rw [if_neg h0]; exact ⟨0, by decide, rfl⟩
  · rw [if_neg h1]
    by_cases h2 : ¬ v ≤ (if name = 1 then nI 100 else nI 1000)
    · rw [if_pos h2]
      by_cases h0 : name = 1
      · rw [if_pos h0]; exact ⟨100, by decide, rfl⟩
      · rw [if_neg h0]; exact ⟨1000, by decide, rfl⟩
    · rw [if_neg h2]
      have h3 := Classical.not_not.mp h1
      have h4 := Classical.not_not.mp h2
      have h5 : ¬ v < 0 := fun z => by
        by_cases h0 : name = 0
        · rw [if_pos h0] at h3; exact absurd (Int32.lt_of_le_of_lt h3 z) (by decide)
        · rw [if_neg h0] at h3; exact absurd (Int32.lt_of_le_of_lt h3 z) (by decide)
      obtain ⟨j, hj, rfl⟩ := nI_of h5
      refine ⟨j, ?_, rfl⟩
      by_cases h0 : name = 1
      · rw [if_pos h0] at h4
        have := (nI_leI hj (by decide)).mp h4
        omega
      · rw [if_neg h0] at h4
        exact (nI_leI hj (by decide)).mp h4
theorem home_in {σ : MS} {nw : Nat} : ∃ k, k ≤ 1000 ∧ (homeV σ nw).1 = nI k := by
  unfold homeV
  by_cases h1 : nw < 34
  · rw [if_pos h1]
    exact ⟨20, by decide, rfl⟩
  · rw [if_neg h1]
    dsimp only
    split
    · exact ⟨20, by decide, rfl⟩
    · exact bnd_in (by decide) _
/-- what order makes -/
def ordS (σ : MS) (nw p q m k : Nat) : MS := sR (sR (sR (sR (sR (sR (sR (sH σ nw) (768 + 8 * p + 1) (nI (m - k))) 2120 (row σ 2120 + nI k)) (1780 + 3 * q + 0) (nI p)) (1780 + 3 * q + 1) (nI k)) (1780 + 3 * q + 2) (nI 0)) (768 + 8 * p + 6) (nI q)) 2128 (nI (q + 1))
theorem p_order_yes {σ : MS} {n nw q p m k : Nat} (hp : p < n) (hn : n ≤ 100) (hq : q < 100) (h2 : per (s0 σ) p 2 = 0) (h6 : per (s0 σ) p 6 < 0) (hm : per (s0 σ) p 1 = nI m) (hM : m ≤ 1000000) (hk : k ≤ 1000) (hv : (homeV (s0 σ) nw).1 = nI k) (hc : nI k ≤ per (s0 σ) p 1) (hor : row (s0 σ) 2128 = nI q) : p_order σ n nw q (nI p) = (nI q, ordS (s0 σ) nw p q m k) := by
  have pt := (pays_to (σ := sH (s0 σ) nw) (q := p) (m := m) (k := k) (v := nI k) hm rfl hM (by omega) hc).1
  unfold p_order
  rw [inN_nI hp (by omega), if_neg (by decide), tN_nI (by omega)]
  dsimp only
  rw [if_neg (fun z => z h2), if_neg (fun z => z h6), hv, if_neg (fun z => z hc), pt]
  unfold ordS
  have e20 : row (sR (sH (s0 σ) nw) (768 + 8 * p + 1) (nI (m - k))) 2120 = row (s0 σ) 2120 := (rowS_ne (by omega)).trans rfl
  rw [e20]
  have e28 : row (sR (sR (sR (sR (sR (sR (sH (s0 σ) nw) (768 + 8 * p + 1) (nI (m - k))) 2120 (row (s0 σ) 2120 + nI k)) (1780 + 3 * q + 0) (nI p)) (1780 + 3 * q + 1) (nI k)) (1780 + 3 * q + 2) (nI 0)) (768 + 8 * p + 6) (nI q)) 2128 = nI q := (rowS_ne (by omega)).trans ((rowS_ne (by omega)).trans ((rowS_ne (by omega)).trans ((rowS_ne (by omega)).trans ((rowS_ne (by omega)).trans ((rowS_ne (by omega)).trans hor)))))
  rw [e28, nI_add]
set_option maxHeartbeats 600000 in
theorem x_X1_order {g : GP} {μ : Mem} {d : Nat} {P : Nat → Prop} {F : Mem} {A : XA} {S : Nat → Nat → Nat} {b : XS} {σ : MS} {nor nw : Nat} (s : SB g P F A 0 S b σ nw μ) (iv : IvG σ (S 4 0) (S 8 0) (S 10 0) (S 6 0) nor nw) (rs : RsX σ) (ak : AkX S σ nor) (h16 : S 16 0 = S 12 0) (od : ∀ p, p < S 4 0 → per σ p 6 < 0 → per σ p 6 = -1) (zo : S 12 0 < 100 → row σ (1780 + 3 * S 12 0 + 2) = nI 0) (hd : 330 ≤ d) {p : Int32} : PM g yX1_order (ws_ yX1_order cX1_order 4 (some .int)) d 3 310 [.ref (A 0 0 0), .int p] μ (CQ ["java/lang/IndexOutOfBoundsException"] (p_order σ (S 4 0) nw (S 12 0) p) (fun τ M => ∃ A1 S1, row τ 2128 = nI (S1 12 0) ∧ S1 16 0 = S1 12 0 ∧ (∀ x, x ≠ 12 ∧ x ≠ 16 → ∀ y, S1 x y = S x y) ∧ SB g P F A1 0 S1 b τ nw M)) := by
  refine PM.of (by decide +kernel) (Nat.le_of_ble_eq_true rfl) ?_
  refine PJ.ok (fun G => ?_)
  show PJ g _ _ _ _ d 3 310 0 [(0, .ref (A 0 0 0)), (1, .int p)] [] _ _
  obtain ⟨ρ, hs0⟩ : ∃ ρ, ρ = sF σ 0 (nI 0) := ⟨_, rfl⟩
  have hs9 : s0 σ = ρ := hs0.symm
  have s1 := s.F0 (x := nI 0)
  rw [← hs0] at s1
  obtain ⟨e, h, t⟩ := s1
  have iv1 : IvG ρ (S 4 0) (S 8 0) (S 10 0) (S 6 0) nor nw := by rw [hs0]; exact iv.f0
  have rs1 : RsX ρ := by rw [hs0]; exact rs
  have h00 : ρ.1 0 = nI 0 := by rw [hs0]; rfl
  have hS4 := h.hz.2.1
  have hS6 := h.hz.2.2.1
  have hS8 := h.hz.2.2.2.1
  have hS10 := h.hz.2.2.2.2.1
  have ak1 : AkX S ρ nor := by rw [hs0]; exact ak.cg (fun _ _ _ => rfl)
  have od0 : ∀ p, p < S 4 0 → per ρ p 6 < 0 → per ρ p 6 = -1 := by rw [hs0]; exact od
  have zo0 : S 12 0 < 100 → row ρ (1780 + 3 * S 12 0 + 2) = nI 0 := by rw [hs0]; exact zo
  have or1 := or_of (b := b) (e := e) h.hz iv1 ak1
  have hOR := iv1.hOR
  have hS12 : row ρ 2128 = nI (S 12 0) := by rw [ak1.2.1]; exact iv1.hor
  cases hap_p : inN p (S 4 0) with
  | false =>
    refine pl_aload_n (pc := 0) dX1_order_0 rfl rfl ?_
    refine pl_iload_n (pc := 1) dX1_order_1 rfl rfl ?_
    refine pl_callVX (pc := 2) (As := [_]) (C1 := 1) (N1 := 6) (C2 := 0) (N2 := 0) (E8 := "java/lang/IndexOutOfBoundsException") ckX1 mdX1_personOf rfl q1411 q1413 qs9 q125 dX1_order_2 rfl rfl (Nat.le_of_ble_eq_true rfl) (h.r0) (x_X1_personOf_no (d := d - 1) (by omega) h hap_p) (by omega) (by omega) (by omega) (fun q_2 M_2 hM_2 => ?_)
    refine px_out0 rfl ?_
    exact CQ.no 0 (v := nI 0) (τ := sF ρ 0 (nI 1)) (by rw [show sF ρ 0 (nI 1) = th σ 1 by rw [hs0]]; first | (simp only [p_order, hs9, hap_p, ↓reduceIte]; first | done | rfl) | (simp [p_order, hs9, hap_p, Int32.not_lt, Int32.not_le]; first | done | rfl)) rfl rfl (⟨A, S, hS12, h16, fun _ _ _ => rfl, SB.mono (SB.F0 ⟨_, h, t⟩) hM_2⟩)
  | true =>
    obtain ⟨j_p, hj_p, rfl⟩ := inN_of (by omega) hap_p
    have g_p := tN_nI (n := j_p) (by omega)
    refine pl_aload_n (pc := 0) dX1_order_0 rfl rfl ?_
    refine pl_iload_n (pc := 1) dX1_order_1 rfl rfl ?_
    refine pl_callVd (pc := 2) (As := [_]) (C1 := 0) (N1 := 0) (C2 := 3) (N2 := 310) ckX1 mdX1_personOf rfl q1411 q1413 qs9 q125 dX1_order_2 rfl rfl (Nat.le_of_ble_eq_true rfl) (h.r0) (x_X1_personOf_ok (d := d - 1) (by omega) h (by omega)) (by omega) (by omega) (by omega) ?_
    refine pj_astore_n (pc := 5) (lv' := [(2, _), (0, _), (1, _)]) dX1_order_5 rfl (by decide) rfl ?_
    refine pl_aload_n (pc := 6) dX1_order_6 rfl rfl ?_
    refine pj_getfN (pc := 7) ckX10 3 q1075 dX1_order_7 (by decide) (h.r35 (by omega)) rfl ?_
    refine pj_if_eq (pc := 10) (tgt := 15) dX1_order_10 (by decide) (fun c10 => ?_) (fun c10 => ?_)
    · have dIS : per ρ j_p 2 = 0 := c10
      refine pl_aload_n (pc := 15) dX1_order_15 rfl rfl ?_
      refine pj_getfN (pc := 16) ckX10 7 q1086 dX1_order_16 (by decide) (h.r35 (by omega)) rfl ?_
      refine pj_iconst (pc := 19) (v := (-1)) dX1_order_19 (by rfl) ?_
      refine pj_icmp_eq (pc := 20) (tgt := 26) dX1_order_20 (by decide) (fun c20 => ?_) (fun c20 => ?_)
      · have d19 : per ρ j_p 6 < 0 := by rw [show per ρ j_p 6 = -1 from c20]; decide
        have hq100 : S 12 0 < 100 := by
          have z1 := iv1.cor
          have z2 := cnt_lt (p := isOrd ρ) (k := j_p) (by unfold isOrd; rw [decide_eq_true d19]; rfl) hj_p
          have z3 := ak1.2.1
          omega
        refine pl_aload_n (pc := 26) dX1_order_26 rfl rfl ?_
        refine pj_getf (pc := 27) ckX1 0 q853 dX1_order_27 (by decide) (h.r0) rfl ?_
        refine pl_callVWd (pc := 30) (As := []) (C1 := 0) (N1 := 0) (C2 := 3) (N2 := 310) ckX2 mdX2_quoted rfl q936 q937 q938 q126 dX1_order_30 rfl rfl (Nat.le_of_ble_eq_true rfl) (h.r1) (x_X2_quoted (d := d - 1) (by omega) h t iv1) (by omega) (by omega) (by omega) (fun My1 qy1 => ?_)
        obtain ⟨e_4, he_4, y1⟩ := qy1
        refine pj_istore_n (pc := 33) (lv' := [(3, _), (2, _), (0, _), (1, _)]) dX1_order_33 rfl (by decide) rfl ?_
        refine pl_aload_n (pc := 34) dX1_order_34 rfl rfl ?_
        refine pj_getfN (pc := 35) ckX10 2 q1072 dX1_order_35 (by decide) (y1.r35 (by omega)) rfl ?_
        obtain ⟨k_v, hk_v, ek_v⟩ := home_in (σ := ρ) (nw := nw)
        refine pl_iload_n (pc := 38) dX1_order_38 rfl rfl ?_
        refine pj_icmp_ge (pc := 39) (tgt := 45) dX1_order_39 (by decide) (fun c39 => ?_) (fun c39 => ?_)
        · obtain ⟨m_p, hm_p, em_p⟩ := t.coins hj_p
          have pt := pays_to em_p ek_v hm_p (by omega) c39
          refine pl_aload_n (pc := 45) dX1_order_45 rfl rfl ?_
          refine pj_dup (pc := 46) dX1_order_46 rfl ?_
          refine pj_getfN (pc := 47) ckX10 2 q1072 dX1_order_47 (by decide) (y1.r35 (by omega)) rfl ?_
          refine pl_iload_n (pc := 50) dX1_order_50 rfl rfl ?_
          refine pj_isub (pc := 51) dX1_order_51 ?_
          refine PJ.top (y := nI (m_p - k_v)) pt.2 ?_
          refine pj_putfN (pc := 52) ckX10 2 q1072 dX1_order_52 (by decide) rfl (y1.r35 (by omega)) rfl rfl (Nat.le_of_ble_eq_true rfl) ?_
          refine sxk (y1.p35_2 (by omega)) (fun My2 y2 => ?_)
          refine pl_aload_n (pc := 55) dX1_order_55 rfl rfl ?_
          refine pj_getf (pc := 56) ckX1 0 q853 dX1_order_56 (by decide) (y2.r0) rfl ?_
          refine pj_dup (pc := 59) dX1_order_59 rfl ?_
          refine pj_getfN (pc := 60) ckX2 4 q732 dX1_order_60 (by decide) (y2.r1) rfl ?_
          refine pl_iload_n (pc := 63) dX1_order_63 rfl rfl ?_
          refine pj_iadd (pc := 64) dX1_order_64 ?_
          refine PJ.top (y := row ρ 2120 + nI k_v) (by rw [← ek_v]; exact congrArg (· + (homeV ρ nw).1) (rowS_ne (by omega))) ?_
          refine pj_putfN (pc := 65) ckX2 4 q732 dX1_order_65 (by decide) rfl (y2.r1) rfl rfl (Nat.le_of_ble_eq_true rfl) ?_
          refine sxk (y2.p1_4) (fun My3 y3 => ?_)
          refine pl_aload_n (pc := 68) dX1_order_68 rfl rfl ?_
          refine pl_aload_n (pc := 69) dX1_order_69 rfl rfl ?_
          refine pj_getf (pc := 70) ckX1 8 q861 dX1_order_70 (by decide) (y3.r0) rfl ?_
          obtain ⟨m_73, c_73, l_73⟩ := y3.L12
          refine pl_callVd (pc := 73) (As := []) (C1 := 0) (N1 := 0) (C2 := 3) (N2 := 310) ckJ2 mdJ2_size rfl q1049 q948 q949 q129 dX1_order_73 rfl rfl (Nat.le_of_ble_eq_true rfl) l_73.1 (k_J2_size (d := d - 1) (by omega) l_73) (by omega) (by omega) (by omega) ?_
          refine pj_putfN (pc := 76) ckX10 7 q1086 dX1_order_76 (by decide) rfl (y3.r35 (by omega)) rfl rfl (Nat.le_of_ble_eq_true rfl) ?_
          refine sxk (y3.p35_7 (by omega)) (fun My4 y4 => ?_)
          refine pl_aload_n (pc := 79) dX1_order_79 rfl rfl ?_
          refine pj_getf (pc := 80) ckX1 8 q861 dX1_order_80 (by decide) (y4.r0) rfl ?_
          refine pl_aload_n (pc := 83) dX1_order_83 rfl rfl ?_
          have yb := SX.at9 (υ := (sR (sR (sR ρ (768 + 8 * j_p + 1) (nI (m_p - k_v))) 2120 (row ρ 2120 + nI k_v)) (768 + 8 * j_p + 6) (nI (S 12 0)))) y4 rfl
          have or2 : OrX 0 S b (sR (sR (sR ρ (768 + 8 * j_p + 1) (nI (m_p - k_v))) 2120 (row ρ 2120 + nI k_v)) (768 + 8 * j_p + 6) (nI (S 12 0))) e_4 := or_cg h.hz (by omega) ak1.2.2.1 or1 (fun j h1 h2 => (rowS_ne (by omega)).trans ((rowS_ne (by omega)).trans (rowS_ne (by omega))))
          obtain ⟨m_84, c_84, l_84, b_84, el_84, ne_84⟩ := yb.LA12 or2.2.1
          refine pl_add (pc := 84) (C1 := 2) (N1 := 159) q1114 dX1_order_84 (by omega) l_84 (by omega) b_84 (fun j hj => if_neg (by omega)) el_84 (yb.pr hj_p) rfl q3237 (ne_oo (yb.pr hj_p) l_84.1 (by decide)) ne_84 (Nat.le_of_ble_eq_true rfl) (by omega) (by omega) (fun q2 m1 mc1 hq2 hm1 hm2 => ?_)
          refine sxk (yb.lst12 rfl (by omega) hj_p hq2 ⟨hm1, hm2⟩ or2) (fun My8 y8 => ?_)
          have or3 := or_push (b := b) (e := e_4) (σ := (sR (sR (sR ρ (768 + 8 * j_p + 1) (nI (m_p - k_v))) 2120 (row ρ 2120 + nI k_v)) (768 + 8 * j_p + 6) (nI (S 12 0)))) h.hz rfl hq100 ak1.2.2.1 or2 hj_p
          refine pj_pop (pc := 87) dX1_order_87 rfl ?_
          refine pl_aload_n (pc := 88) dX1_order_88 rfl rfl ?_
          refine pj_getf (pc := 89) ckX1 10 q863 dX1_order_89 (by decide) (y8.r0) rfl ?_
          refine pl_iload_n (pc := 92) dX1_order_92 rfl rfl ?_
          refine PJ.top (y := nI k_v) ek_v ?_
          refine pl_callSQ (pc := 93) (As := [_]) (C1 := 1) (N1 := 1) (C2 := 1) (N2 := 158) mdJ18_valueOf q1752 q1753 q146 dX1_order_93 rfl rfl (Nat.le_of_ble_eq_true rfl) (k_J18_valueOf (n := k_v) (d := d - 1) (by omega) (by omega)) (by omega) (by omega) (by omega) (fun q_93 M_93 hv_93 => ?_)
          have y93 := SX.mono y8 (M1 := M_93) (fun a x hx => hv_93.elim (fun z => by rw [z.1]; exact hx) (fun z => by rw [z.2]; exact fresh_up z.1 a x hx))
          refine PJ.gf (fun gf => ?_)
          obtain ⟨m_96, c_96, l_96, b_96, el_96, ne_96⟩ := y93.LA16 gf
          have hz96 : ElZ g M_93 "java/lang/Object" q_93 ∧ q_93 ≠ A 16 0 0 := by
            rcases hv_93 with ⟨z, hc⟩ | ⟨z1, z2⟩
            · exact ⟨Or.inr ⟨_, hc.1, q3259⟩, fun z9 => by
                obtain ⟨cell, -, -, -, hn⟩ := hc.1
                exact hn (by rw [z9]; exact gf _ _ l_96.1)⟩
            · have z3 : M_93 q_93 = some (.inr (1, [.int (nI k_v)])) := by rw [z2]; exact mset_s
              exact ⟨Or.inl ⟨1, _, _, z3, rfl, q3259⟩, ne_oo z3 l_96.1 (by decide)⟩
          have h16b : S 16 0 < 100 := by rw [h16]; omega
          refine pl_addZ (pc := 96) (C1 := 0) (N1 := 7) q1114 dX1_order_96 (by omega) l_96 (show S 16 0 ≤ 100 by omega) b_96 (fun j hj => if_neg (Nat.not_lt.mpr hj)) el_96 hz96.1 hz96.2 ne_96 (Nat.le_of_ble_eq_true rfl) (by omega) (by omega) (fun q3 m2 mc2 hq3 hm3 hm4 => ?_)
          refine sxk (y8.lst16 (n := S 16 0) rfl h16b hv_93 hq3 ⟨hm3, hm4⟩ or3) (fun My9 y9 => ?_)
          rw [h16] at y9
          have hjp9 : j_p < SnX (SnX S 12 0 (S 12 0 + 1)) 16 0 (S 12 0 + 1) 4 0 := hj_p
          refine pj_pop (pc := 99) dX1_order_99 rfl ?_
          refine pl_aload_n (pc := 100) dX1_order_100 rfl rfl ?_
          refine pj_getfN (pc := 101) ckX10 7 q1086 dX1_order_101 (by decide) (y9.r35 (by omega)) rfl ?_
          refine PJ.top (y := nI (S 12 0)) ((rowS_ne (by omega)).trans ((rowS_ne (by omega)).trans rowS_eq)) ?_
          refine pj_iret (pc := 104) dX1_order_104 rfl ?_
          obtain ⟨υ, hυ⟩ : ∃ υ, υ = ordS ρ nw j_p (S 12 0) m_p k_v := ⟨_, rfl⟩
          have zo1 : row ρ (1780 + 3 * S 12 0 + 2) = nI 0 := zo0 hq100
          have onr : OnR (sR (sR (sR (sR (sR ρ (768 + 8 * j_p + 1) (nI (m_p - k_v))) 2120 (row ρ 2120 + nI k_v)) (768 + 8 * j_p + 6) (nI (S 12 0))) (1780 + 3 * S 12 0 + 0) (nI j_p)) (1780 + 3 * S 12 0 + 1) (nI k_v)) υ := by rw [hυ]; exact OnR.rf.R.R.R.R.R.sy.tr OnR.rf.P.R.R.R.R.R.R.R
          have hru : ∀ j, j ≠ 2128 → row υ j = row (sR (sR (sR (sR (sR ρ (768 + 8 * j_p + 1) (nI (m_p - k_v))) 2120 (row ρ 2120 + nI k_v)) (768 + 8 * j_p + 6) (nI (S 12 0))) (1780 + 3 * S 12 0 + 0) (nI j_p)) (1780 + 3 * S 12 0 + 1) (nI k_v)) j := fun j hj => by rw [hυ]; exact ord_rows (σ := sH ρ nw) (by omega) hq100 zo1 hj
          have g8 := SX.onR (σ1 := υ) y9 (fun j hj => hru j (fun z => by subst z; unfold mapR at hj; omega)) onr
          have t8 := coin_tie1 (m := m_p - k_v) (t.e9 he_4) h.hz hj_p (by omega)
          have t9 : TieX 0 S υ e_4 nw := t8.cg h.hz (fun j hj => (hru j (fun z => hj (by unfold fr0; omega))).trans ((rowS_ne (fun z => hj (by unfold fr0; omega))).trans ((rowS_ne (fun z => hj (by unfold fr0; omega))).trans ((rowS_ne (fun z => hj (by unfold fr0; omega))).trans (rowS_ne (fun z => hj (by unfold fr0; omega))))))) (by rw [hυ]; rfl) (by rw [hυ]; rfl) (fun _ _ => by rw [hυ]; rfl) (by rw [hυ]; rfl) (by rw [hυ]; rfl)
          exact CQ.ok (τ := υ) (by rw [p_order_yes hj_p hS4 hq100 (by rw [hs9]; exact dIS) (by rw [hs9]; exact d19) (by rw [hs9]; exact em_p) hm_p hk_v (by rw [hs9]; exact ek_v) (by rw [hs9, ← ek_v]; exact c39) (by rw [hs9]; exact hS12), hs9, hυ]) (by rw [hυ]; exact h00) ⟨_, SnX (SnX S 12 0 (S 12 0 + 1)) 16 0 (S 12 0 + 1), (by rw [hυ]; exact rowS_eq), rfl, fun x hx y => by rw [SnX_ne (fun z => hx.2 z.1), SnX_ne (fun z => hx.1 z.1)], _, g8, t9.sz (fun x hx y => by rw [SnX_ne (by omega), SnX_ne (by omega)])⟩
        · refine pj_bipush (pc := 42) (v := (-3)) dX1_order_42 (by rfl) ?_
          refine pj_iret (pc := 44) dX1_order_44 rfl ?_
          exact CQ.ok (τ := sH ρ nw) (by unfold p_order; rw [hs9, hap_p, if_neg (by decide), g_p]; dsimp only; rw [if_neg (fun z => z dIS), if_neg (fun z => z d19), if_pos c39]) (by exact h00) ⟨A, S, hS12, h16, fun _ _ _ => rfl, SB.P ⟨_, y1, t.e9 he_4⟩⟩
      · have d19 : ¬ per ρ j_p 6 < 0 := fun z => c20 (od0 j_p hj_p z)
        refine pj_bipush (pc := 23) (v := (-2)) dX1_order_23 (by rfl) ?_
        refine pj_iret (pc := 25) dX1_order_25 rfl ?_
        exact CQ.ok (τ := ρ) (by first | (simp only [p_order, hs9, ← hs0, hap_p, g_p, eq_true c10, dIS, c20, d19, ↓reduceIte]; first | done | rfl) | (simp [p_order, hs9, ← hs0, hap_p, g_p, eq_true c10, dIS, c20, d19, Int32.not_lt, Int32.not_le]; first | done | rfl)) (by exact h00) ⟨A, S, hS12, h16, fun _ _ _ => rfl, _, h, t⟩
    · refine pj_iconst (pc := 13) (v := (-1)) dX1_order_13 (by rfl) ?_
      refine pj_iret (pc := 14) dX1_order_14 rfl ?_
      exact CQ.ok (τ := ρ) (by first | (simp only [p_order, hs9, ← hs0, hap_p, g_p, c10, ↓reduceIte]; first | done | rfl) | (simp [p_order, hs9, ← hs0, hap_p, g_p, c10, Int32.not_lt, Int32.not_le]; first | done | rfl)) (by exact h00) ⟨A, S, hS12, h16, fun _ _ _ => rfl, _, h, t⟩
