set_option maxRecDepth 100000
theorem VX_sz {w : Nat} {S S1 : Nat → Nat → Nat} {b : XS} {σ : MS} {e : XE} (hS : ∀ x, x = 4 ∨ x = 6 ∨ x = 8 ∨ x = 10 → ∀ y, S1 x y = S x y) : VX w S1 b σ e = VX w S b σ e := by
  have ec : cNX S1 = cNX S := by
    funext k y
    unfold cNX
    rw [hS 4 (by decide) y, hS 6 (by decide) y, hS 8 (by decide) y, hS 10 (by decide) y]
  have ei : iNX S1 w = iNX S w := by
    funext k
    unfold iNX
    rw [ec]
  unfold VX
  rw [ei]
theorem TieX.sz {w : Nat} {S S1 : Nat → Nat → Nat} {σ : MS} {e : XE} {nw : Nat} (h : TieX w S σ e nw) (hS : ∀ x, x = 4 ∨ x = 6 ∨ x = 8 ∨ x = 10 ∨ 60 ≤ x → ∀ y, S1 x y = S x y) : TieX w S1 σ e nw := by
  unfold TieX GhX at h ⊢
  rw [hS 4 (by decide) w, hS 6 (by decide) w, hS 8 (by decide) w, hS 10 (by decide) w, show S1 60 = S 60 from funext (hS 60 (by decide)), show S1 61 = S 61 from funext (hS 61 (by decide)), show S1 62 = S 62 from funext (hS 62 (by decide))]
  exact h
theorem SX.inj35 {g : GP} {P : Nat → Prop} {F : Mem} {A : XA} {w : Nat} {S : Nat → Nat → Nat} {b : XS} {σ : MS} {e : XE} {M : Mem} (h : SX g P F A w S b σ e M) {p q : Nat} (hp : p < S 4 0) (hq : q < S 4 0) (he : A 35 0 p = A 35 0 q) : p = q := by
  obtain ⟨τ, dn, fl, hR, -⟩ := h
  exact (hR.2.1 35 0 p 35 0 q (LvX.k35 (by decide) hp) (LvX.k35 (by decide) hq) he).2.2
theorem asked_eq {g : GP} {P : Nat → Prop} {F : Mem} {A : XA} {S : Nat → Nat → Nat} {b : XS} {σ : MS} {e : XE} {M : Mem} {nor p : Nat} (h : SX g P F A 0 S b σ e M) (ak : AkX S σ nor) (hp : p < S 4 0) : anyN (fun i => decide ((fun j => if j < S 14 0 then some (A 35 0 (tN (VX 0 S b σ e 15 0 0 j))) else none) i = some (A 35 0 p))) (S 14 0) = askedV σ (S 14 0) (nI p) := by
  have h4 := h.hz.2.1
  refine anyN_cg (fun i hi => ?_)
  have h14 := ak.2.2.1
  obtain ⟨q, hq, eq⟩ := ak.2.2.2 i hi
  show decide ((if i < S 14 0 then some (A 35 0 (tN (VX 0 S b σ e 15 0 0 i))) else none) = some (A 35 0 p)) = decide (row σ (2092 + i) = nI p)
  rw [if_pos hi, V15 h.hz (by omega), eq, tN_nI (by omega)]
  by_cases e1 : q = p
  · subst e1
    rw [decide_eq_true rfl, decide_eq_true rfl]
  · rw [decide_eq_false (fun z => e1 (h.inj35 hq hp (Option.some.inj z))), decide_eq_false (fun z => e1 ((nI_eq (by omega) (by omega)).mp z))]
theorem p_ask_yes {σ : MS} {n as dr p : Nat} (hp : p < n) (hn : n ≤ 100) (h0 : nI 2 ≤ per (s0 σ) p 2) (h1 : askedV (s0 σ) as (nI p) = false) (h2 : acreV (s0 σ) dr (nI p) = false) (h3 : ¬ as + dr = 12) (has : as ≤ 12) (ha : row (s0 σ) 2130 = nI as) : p_ask σ n as dr (nI p) = (nI (as + 1), sR (sR (s0 σ) (2092 + as) (nI p)) 2130 (nI (as + 1))) := by
  unfold p_ask
  rw [inN_nI hp (by omega), if_neg (by decide), tN_nI (by omega)]
  dsimp only
  rw [if_neg (by rw [decide_eq_true h0]; decide), h1, if_neg (by decide), h2, if_neg (by decide), if_neg h3, show row (sR (s0 σ) (2092 + as) (nI p)) 2130 = nI as from (rowS_ne (by omega)).trans ha, nI_add, rowS_eq]
theorem SX.lst14 {g : GP} {P : Nat → Prop} {F : Mem} {A : XA} {S : Nat → Nat → Nat} {b : XS} {σ : MS} {e : XE} {M : Mem} {n p q2 m1 : Nat} {mc1 : Int32} (h : SX g P F A 0 S b σ e M) (hn4 : n = S 14 0) (hn : n < 12) (hp : p < S 4 0) (hq2 : q2 = A 15 0 0 ∨ M q2 = none) (hm : n + 1 ≤ m1 ∧ m1 < 1000) (or : OrX 0 S b σ e) :
  SX g P F (fun k' w' i' => if k' = 15 ∧ w' = 0 ∧ i' = 0 then q2 else A k' w' i') 0 (SnX S 14 0 (n + 1)) b (sR σ (2092 + n) (nI p)) e (mset (mset M q2 (lstA g m1 (fun j => if j < n then (if j < n then some (A 35 0 (tN (VX 0 S b σ e 15 0 0 j))) else none) else if j = n then some (A 35 0 p) else none))) (A 14 0 0) (lstO mc1 q2 (n + 1))) := by
  have h4 := h.hz.2.1
  obtain ⟨τ, dn, fl, hR, hz, hf, hd⟩ := h
  have hA := VX_A (b := b) (σ := σ) (e := e) (v := nI p) (y := (S, σ.2.2, fl)) (k := 15) (i := 0) (j := n) hz (iN_15 hz) (show n < jNX 15 by show n < 12; exact hn) (show TX 0 15 0 n = (0, 1, 2092 + n) from rfl)
  have eV : VX 0 (SnX S 14 0 (n + 1)) b (sR σ (2092 + n) (nI p)) e = VX 0 S b (sR σ (2092 + n) (nI p)) e := VX_sz (fun x hx y => SnX_ne (by omega))
  have hvj : ∀ j, VX 0 S b (sR σ (2092 + n) (nI p)) e 15 0 0 j = if j = n then nI p else VX 0 S b σ e 15 0 0 j := fun j => by
    have e9 := congrFun (congrFun (congrFun (congrFun hA 15) 0) 0) j
    refine e9.trans ?_
    show (sI _ 15 0 0 n (nI p)).1 15 0 0 j = _
    rw [sI_eq]
    rfl
  have hR2 := RX.lst (k := 14) (n1 := n + 1) (m1 := m1) (q2 := q2) (mc1 := mc1) (r1 := VX 0 S b (sR σ (2092 + n) (nI p)) e 15 0 0) (A1 := fun k' w' i' => if k' = 15 ∧ w' = 0 ∧ i' = 0 then q2 else A k' w' i') hR (by decide) hq2 ⟨hm.1, by omega, hm.2⟩ (fun k' w' i' _ hne => if_neg hne) (if_pos ⟨rfl, rfl, rfl⟩) (fun i _ => if_neg (by omega)) (fun z => absurd z (by decide)) (S2_le hz) or.1 or.2.1 or.2.2
  have hR3 := hR2.cgI (f := VX 0 (SnX S 14 0 (n + 1)) b (sR σ (2092 + n) (nI p)) e) (fun k' w' i' _ => ?_)
  · refine ⟨T1X τ 14 0 m1 mc1, dn, fl, ?_, ?_, ?_, ?_⟩
    · have ef : (fun j => if j < n + 1 then some (elX (fun k' w' i' => if k' = 15 ∧ w' = 0 ∧ i' = 0 then q2 else A k' w' i') 14 0 (VX 0 S b (sR σ (2092 + n) (nI p)) e 15 0 0) j) else none) = (fun j => if j < n then (if j < n then some (A 35 0 (tN (VX 0 S b σ e 15 0 0 j))) else none) else if j = n then some (A 35 0 p) else none) := by
        funext j
        have ee : elX (fun k' w' i' => if k' = 15 ∧ w' = 0 ∧ i' = 0 then q2 else A k' w' i') 14 0 (VX 0 S b (sR σ (2092 + n) (nI p)) e 15 0 0) j = A 35 0 (tN (VX 0 S b (sR σ (2092 + n) (nI p)) e 15 0 0 j)) := rfl
        rw [ee, hvj j]
        by_cases h1 : j < n
        · rw [if_pos (by omega), if_pos h1, if_pos h1, if_neg (by omega)]
        · by_cases h2 : j = n
          · rw [if_pos (by omega), if_neg h1, if_pos h2, if_pos h2, tN_nI (by omega)]
          · rw [if_neg (by omega), if_neg h1, if_neg h2]
      have em : ldX g (fun k' w' i' => if k' = 15 ∧ w' = 0 ∧ i' = 0 then q2 else A k' w' i') (T1X τ 14 0 m1 mc1) 14 0 (n + 1) (VX 0 S b (sR σ (2092 + n) (nI p)) e 15 0 0) = lstA g m1 (fun j => if j < n then (if j < n then some (A 35 0 (tN (VX 0 S b σ e 15 0 0 j))) else none) else if j = n then some (A 35 0 p) else none) := by
        unfold ldX lstA
        rw [ef]
        rfl
      rw [← em]
      exact hR3
    · obtain ⟨z1, z2, z3, z4, z5, z6, z7, z8⟩ := hz
      refine ⟨z1, ?_, ?_, ?_, ?_, ?_, ?_, ?_⟩
      · rw [SnX_ne (by omega)]; exact z2
      · rw [SnX_ne (by omega)]; exact z3
      · rw [SnX_ne (by omega)]; exact z4
      · rw [SnX_ne (by omega)]; exact z5
      · rw [SnX_ne (by omega)]; exact z6
      · rw [SnX_ne (by omega)]; exact z7
      · exact ⟨Nat.le_refl _, fun e9 => absurd e9 (by decide)⟩
    · intro z hz9
      rw [SnX_ne (by omega)]
      exact hf.cg (wA_k (by decide)) (wA_k (by decide)) z hz9
    · rw [SnX_ne (by omega)]
      exact hd.cg (wA_k (by decide)) (wA_k (by decide)) (wA_k (by decide)) (wA_k (by decide))
  · show VX 0 (SnX S 14 0 (n + 1)) b (sR σ (2092 + n) (nI p)) e k' w' i' = (if k' = 15 ∧ w' = 0 ∧ i' = 0 then VX 0 S b (sR σ (2092 + n) (nI p)) e 15 0 0 else VX 0 S b σ e k' w' i')
    rw [eV]
    by_cases c : k' = 15 ∧ w' = 0 ∧ i' = 0
    · rw [if_pos c, c.1, c.2.1, c.2.2]
    · rw [if_neg c]
      refine (congrFun (congrFun (congrFun hA k') w') i').trans ?_
      exact sI_ne c
theorem SX.lst12 {g : GP} {P : Nat → Prop} {F : Mem} {A : XA} {S : Nat → Nat → Nat} {b : XS} {σ : MS} {e : XE} {M : Mem} {n p q2 m1 : Nat} {mc1 : Int32} (h : SX g P F A 0 S b σ e M) (hn4 : n = S 12 0) (hn : n < 100) (hp : p < S 4 0) (hq2 : q2 = A 13 0 0 ∨ M q2 = none) (hm : n + 1 ≤ m1 ∧ m1 < 1000) (or : OrX 0 S b σ e) :
  SX g P F (fun k' w' i' => if k' = 13 ∧ w' = 0 ∧ i' = 0 then q2 else A k' w' i') 0 (SnX S 12 0 (n + 1)) b (sR σ (1780 + 3 * n + 0) (nI p)) e (mset (mset M q2 (lstA g m1 (fun j => if j < n then (if j < n then some (A 35 0 (tN (VX 0 S b σ e 13 0 0 j))) else none) else if j = n then some (A 35 0 p) else none))) (A 12 0 0) (lstO mc1 q2 (n + 1))) := by
  have h4 := h.hz.2.1
  obtain ⟨τ, dn, fl, hR, hz, hf, hd⟩ := h
  have hA := VX_A (b := b) (σ := σ) (e := e) (v := nI p) (y := (S, σ.2.2, fl)) (k := 13) (i := 0) (j := n) hz (iN_13 hz) (show n < jNX 13 by show n < 100; exact hn) (show TX 0 13 0 n = (0, 1, 1780 + 3 * n + 0) from rfl)
  have eV : VX 0 (SnX S 12 0 (n + 1)) b (sR σ (1780 + 3 * n + 0) (nI p)) e = VX 0 S b (sR σ (1780 + 3 * n + 0) (nI p)) e := VX_sz (fun x hx y => SnX_ne (by omega))
  have hvj : ∀ j, VX 0 S b (sR σ (1780 + 3 * n + 0) (nI p)) e 13 0 0 j = if j = n then nI p else VX 0 S b σ e 13 0 0 j := fun j => by
    have e9 := congrFun (congrFun (congrFun (congrFun hA 13) 0) 0) j
    refine e9.trans ?_
    show (sI _ 13 0 0 n (nI p)).1 13 0 0 j = _
    rw [sI_eq]
    rfl
  have hR2 := RX.lst (k := 12) (n1 := n + 1) (m1 := m1) (q2 := q2) (mc1 := mc1) (r1 := VX 0 S b (sR σ (1780 + 3 * n + 0) (nI p)) e 13 0 0) (A1 := fun k' w' i' => if k' = 13 ∧ w' = 0 ∧ i' = 0 then q2 else A k' w' i') hR (by decide) hq2 ⟨hm.1, by omega, hm.2⟩ (fun k' w' i' _ hne => if_neg hne) (if_pos ⟨rfl, rfl, rfl⟩) (fun i _ => if_neg (by omega)) (fun z => absurd z (by decide)) (S2_le hz) or.1 or.2.1 or.2.2
  have hR3 := hR2.cgI (f := VX 0 (SnX S 12 0 (n + 1)) b (sR σ (1780 + 3 * n + 0) (nI p)) e) (fun k' w' i' _ => ?_)
  · refine ⟨T1X τ 12 0 m1 mc1, dn, fl, ?_, ?_, ?_, ?_⟩
    · have ef : (fun j => if j < n + 1 then some (elX (fun k' w' i' => if k' = 13 ∧ w' = 0 ∧ i' = 0 then q2 else A k' w' i') 12 0 (VX 0 S b (sR σ (1780 + 3 * n + 0) (nI p)) e 13 0 0) j) else none) = (fun j => if j < n then (if j < n then some (A 35 0 (tN (VX 0 S b σ e 13 0 0 j))) else none) else if j = n then some (A 35 0 p) else none) := by
        funext j
        have ee : elX (fun k' w' i' => if k' = 13 ∧ w' = 0 ∧ i' = 0 then q2 else A k' w' i') 12 0 (VX 0 S b (sR σ (1780 + 3 * n + 0) (nI p)) e 13 0 0) j = A 35 0 (tN (VX 0 S b (sR σ (1780 + 3 * n + 0) (nI p)) e 13 0 0 j)) := rfl
        rw [ee, hvj j]
        by_cases h1 : j < n
        · rw [if_pos (by omega), if_pos h1, if_pos h1, if_neg (by omega)]
        · by_cases h2 : j = n
          · rw [if_pos (by omega), if_neg h1, if_pos h2, if_pos h2, tN_nI (by omega)]
          · rw [if_neg (by omega), if_neg h1, if_neg h2]
      have em : ldX g (fun k' w' i' => if k' = 13 ∧ w' = 0 ∧ i' = 0 then q2 else A k' w' i') (T1X τ 12 0 m1 mc1) 12 0 (n + 1) (VX 0 S b (sR σ (1780 + 3 * n + 0) (nI p)) e 13 0 0) = lstA g m1 (fun j => if j < n then (if j < n then some (A 35 0 (tN (VX 0 S b σ e 13 0 0 j))) else none) else if j = n then some (A 35 0 p) else none) := by
        unfold ldX lstA
        rw [ef]
        rfl
      rw [← em]
      exact hR3
    · obtain ⟨z1, z2, z3, z4, z5, z6, z7, z8⟩ := hz
      refine ⟨z1, ?_, ?_, ?_, ?_, ?_, ?_, ?_⟩
      · rw [SnX_ne (by omega)]; exact z2
      · rw [SnX_ne (by omega)]; exact z3
      · rw [SnX_ne (by omega)]; exact z4
      · rw [SnX_ne (by omega)]; exact z5
      · rw [SnX_ne (by omega)]; exact z6
      · rw [SnX_ne (by omega)]; exact z7
      · exact ⟨Nat.le_refl _, fun e9 => absurd e9 (by decide)⟩
    · intro z hz9
      rw [SnX_ne (by omega)]
      exact hf.cg (wA_k (by decide)) (wA_k (by decide)) z hz9
    · rw [SnX_ne (by omega)]
      exact hd.cg (wA_k (by decide)) (wA_k (by decide)) (wA_k (by decide)) (wA_k (by decide))
  · show VX 0 (SnX S 12 0 (n + 1)) b (sR σ (1780 + 3 * n + 0) (nI p)) e k' w' i' = (if k' = 13 ∧ w' = 0 ∧ i' = 0 then VX 0 S b (sR σ (1780 + 3 * n + 0) (nI p)) e 13 0 0 else VX 0 S b σ e k' w' i')
    rw [eV]
    by_cases c : k' = 13 ∧ w' = 0 ∧ i' = 0
    · rw [if_pos c, c.1, c.2.1, c.2.2]
    · rw [if_neg c]
      refine (congrFun (congrFun (congrFun hA k') w') i').trans ?_
      exact sI_ne c
set_option maxHeartbeats 600000 in
theorem x_X1_ask {g : GP} {μ : Mem} {d : Nat} {P : Nat → Prop} {F : Mem} {A : XA} {S : Nat → Nat → Nat} {b : XS} {σ : MS} {nor nw : Nat} (s : SB g P F A 0 S b σ nw μ) (iv : IvG σ (S 4 0) (S 8 0) (S 10 0) (S 6 0) nor nw) (rs : RsX σ) {dr : Nat} (hdr : row σ 2131 = nI dr) (hDR : dr ≤ 12) (ak : AkX S σ nor) (has : row σ 2130 = nI (S 14 0)) (hsum : S 14 0 + dr ≤ 12) (hd : 12 ≤ d) {p : Int32} : PM g yX1_ask (ws_ yX1_ask cX1_ask 3 (some .int)) d 2 160 [.ref (A 0 0 0), .int p] μ (CQ ["java/lang/IndexOutOfBoundsException"] (p_ask σ (S 4 0) (S 14 0) dr p) (fun τ M => ∃ A1 S1, row τ 2130 = nI (S1 14 0) ∧ (∀ x, x ≠ 14 → ∀ y, S1 x y = S x y) ∧ S1 14 1 = S 14 1 ∧ (S1 = S ∨ S1 14 0 = S 14 0 + 1) ∧ SB g P F A1 0 S1 b τ nw M)) := by
  refine PM.of (by decide +kernel) (Nat.le_of_ble_eq_true rfl) ?_
  refine PJ.ok (fun G => ?_)
  show PJ g _ _ _ _ d 2 160 0 [(0, .ref (A 0 0 0)), (1, .int p)] [] _ _
  obtain ⟨ρ, hs0⟩ : ∃ ρ, ρ = sF σ 0 (nI 0) := ⟨_, rfl⟩
  have hs9 : s0 σ = ρ := hs0.symm
  have s1 := s.F0 (x := nI 0)
  rw [← hs0] at s1
  obtain ⟨e, h, t⟩ := s1
  have iv1 : IvG ρ (S 4 0) (S 8 0) (S 10 0) (S 6 0) nor nw := by rw [hs0]; exact iv.f0
  have rs1 : RsX ρ := by rw [hs0]; exact rs
  have h00 : ρ.1 0 = nI 0 := by rw [hs0]; rfl
  have hS4 := h.hz.2.1
  have hS6 := h.hz.2.2.1
  have hS8 := h.hz.2.2.2.1
  have hS10 := h.hz.2.2.2.2.1
  have hdr1 : row ρ 2131 = nI dr := by rw [hs0]; exact hdr
  have ak1 : AkX S ρ nor := by rw [hs0]; exact ak.cg (fun _ _ _ => rfl)
  have has1 : row ρ 2130 = nI (S 14 0) := by rw [hs0]; exact has
  have or1 := or_of (b := b) (e := e) h.hz iv1 ak1
  have has9 := ak1.2.2.1
  cases hap_p : inN p (S 4 0) with
  | false =>
    refine pl_aload_n (pc := 0) dX1_ask_0 rfl rfl ?_
    refine pl_iload_n (pc := 1) dX1_ask_1 rfl rfl ?_
    refine pl_callVX (pc := 2) (As := [_]) (C1 := 1) (N1 := 6) (C2 := 0) (N2 := 0) (E8 := "java/lang/IndexOutOfBoundsException") ckX1 mdX1_personOf rfl q1411 q1413 qs9 q125 dX1_ask_2 rfl rfl (Nat.le_of_ble_eq_true rfl) (h.r0) (x_X1_personOf_no (d := d - 1) (by omega) h hap_p) (by omega) (by omega) (by omega) (fun q_2 M_2 hM_2 => ?_)
    refine px_out0 rfl ?_
    exact CQ.no 0 (v := nI 0) (τ := sF ρ 0 (nI 1)) (by rw [show sF ρ 0 (nI 1) = th σ 1 by rw [hs0]]; first | (simp only [p_ask, hs9, hap_p, ↓reduceIte]; first | done | rfl) | (simp [p_ask, hs9, hap_p, Int32.not_lt, Int32.not_le]; first | done | rfl)) rfl rfl (⟨A, S, has1, fun _ _ _ => rfl, rfl, Or.inl rfl, SB.mono (SB.F0 ⟨_, h, t⟩) hM_2⟩)
  | true =>
    obtain ⟨j_p, hj_p, rfl⟩ := inN_of (by omega) hap_p
    have g_p := tN_nI (n := j_p) (by omega)
    refine pl_aload_n (pc := 0) dX1_ask_0 rfl rfl ?_
    refine pl_iload_n (pc := 1) dX1_ask_1 rfl rfl ?_
    refine pl_callVd (pc := 2) (As := [_]) (C1 := 0) (N1 := 0) (C2 := 2) (N2 := 160) ckX1 mdX1_personOf rfl q1411 q1413 qs9 q125 dX1_ask_2 rfl rfl (Nat.le_of_ble_eq_true rfl) (h.r0) (x_X1_personOf_ok (d := d - 1) (by omega) h (by omega)) (by omega) (by omega) (by omega) ?_
    refine pj_astore_n (pc := 5) (lv' := [(2, _), (0, _), (1, _)]) dX1_ask_5 rfl (by decide) rfl ?_
    refine pl_aload_n (pc := 6) dX1_ask_6 rfl rfl ?_
    refine pl_callVd (pc := 7) (As := []) (C1 := 0) (N1 := 0) (C2 := 2) (N2 := 160) ckX10 mdX10_isHere rfl q1591 q1192 q1193 q158 dX1_ask_7 rfl rfl (Nat.le_of_ble_eq_true rfl) (h.r35 (by omega)) (x_X10_isHere (d := d - 1) (by omega) h (by omega)) (by omega) (by omega) (by omega) ?_
    refine pl_if_neB (pc := 10) (tgt := 15) dX1_ask_10 (by decide) (fun c10 => ?_) (fun c10 => ?_)
    · refine pl_aload_n (pc := 15) dX1_ask_15 rfl rfl ?_
      refine pl_aload_n (pc := 16) dX1_ask_16 rfl rfl ?_
      refine pl_callVd (pc := 17) (As := [_]) (C1 := 0) (N1 := 0) (C2 := 2) (N2 := 160) ckX1 mdX1_hasAcre rfl q1592 q1594 qs12 q125 dX1_ask_17 rfl rfl (Nat.le_of_ble_eq_true rfl) (h.r0) (x_X1_hasAcre (d := d - 1) (by omega) h hj_p hdr1 hDR) (by omega) (by omega) (by omega) ?_
      refine pl_if_neB (pc := 20) (tgt := 34) dX1_ask_20 (by decide) (fun c20 => ?_) (fun c20 => ?_)
      · refine pj_bipush (pc := 34) (v := (-2)) dX1_ask_34 (by rfl) ?_
        refine pj_iret (pc := 36) dX1_ask_36 rfl ?_
        exact CQ.ok (τ := ρ) (by first | (simp only [p_ask, hs9, ← hs0, hap_p, g_p, c10, c20, ↓reduceIte]; first | done | rfl) | (simp [p_ask, hs9, ← hs0, hap_p, g_p, c10, c20, Int32.not_lt, Int32.not_le]; first | done | rfl)) (by exact h00) ⟨A, S, has1, fun _ _ _ => rfl, rfl, Or.inl rfl, _, h, t⟩
      · refine pl_aload_n (pc := 23) dX1_ask_23 rfl rfl ?_
        refine pj_getf (pc := 24) ckX1 9 q862 dX1_ask_24 (by decide) (h.r0) rfl ?_
        refine pl_aload_n (pc := 27) dX1_ask_27 rfl rfl ?_
        obtain ⟨m_28, c_28, l_28, b_28, el_28, ne_28⟩ := h.LA14 or1.2.2
        refine pl_callVd (pc := 28) (As := [_]) (C1 := 0) (N1 := 0) (C2 := 2) (N2 := 160) ckJ2 mdJ2_contains rfl q1596 q1597 q1598 q129 dX1_ask_28 rfl rfl (Nat.le_of_ble_eq_true rfl) l_28.1 (k_J2_contains (d := d - 1) (by omega) l_28 (h.pr hj_p) (fun i hi => ⟨_, if_pos hi⟩)) (by omega) (by omega) (by omega) ?_
        refine PJ.top (y := bI (askedV ρ (S 14 0) (nI j_p))) (congrArg bI (asked_eq h ak1 hj_p)) ?_
        refine pl_if_eqB (pc := 31) (tgt := 37) dX1_ask_31 (by decide) (fun c31 => ?_) (fun c31 => ?_)
        · refine pl_aload_n (pc := 37) dX1_ask_37 rfl rfl ?_
          refine pj_getf (pc := 38) ckX1 9 q862 dX1_ask_38 (by decide) (h.r0) rfl ?_
          obtain ⟨m_41, c_41, l_41⟩ := h.L14
          refine pl_callVd (pc := 41) (As := []) (C1 := 0) (N1 := 0) (C2 := 2) (N2 := 160) ckJ2 mdJ2_size rfl q1049 q948 q949 q129 dX1_ask_41 rfl rfl (Nat.le_of_ble_eq_true rfl) l_41.1 (k_J2_size (d := d - 1) (by omega) l_41) (by omega) (by omega) (by omega) ?_
          refine pl_aload_n (pc := 44) dX1_ask_44 rfl rfl ?_
          refine pj_getf (pc := 45) ckX1 0 q853 dX1_ask_45 (by decide) (h.r0) rfl ?_
          refine pj_getfN (pc := 48) ckX2 8 q740 dX1_ask_48 (by decide) (h.r1) rfl ?_
          refine PJ.top (y := nI dr) hdr1 ?_
          refine pl_iadd (pc := 51) dX1_ask_51 ?_
          refine pl_bipush (pc := 52) (v := 12) dX1_ask_52 (by rfl) ?_
          refine pl_icmp_ne (pc := 54) (tgt := 60) dX1_ask_54 (by decide) (by omega) (by omega) (fun c54 => ?_) (fun c54 => ?_)
          · refine pl_aload_n (pc := 60) dX1_ask_60 rfl rfl ?_
            refine pj_getf (pc := 61) ckX1 9 q862 dX1_ask_61 (by decide) (h.r0) rfl ?_
            refine pl_aload_n (pc := 64) dX1_ask_64 rfl rfl ?_
            obtain ⟨m_65, c_65, l_65, b_65, el_65, ne_65⟩ := h.LA14 or1.2.2
            refine pl_add (pc := 65) (C1 := 1) (N1 := 9) q1114 dX1_ask_65 (by omega) l_65 (by omega) b_65 (fun j hj => if_neg (by omega)) el_65 (h.pr hj_p) rfl q3237 (ne_oo (h.pr hj_p) l_65.1 (by decide)) ne_65 (Nat.le_of_ble_eq_true rfl) (by omega) (by omega) (fun q2 m1 mc1 hq2 hm1 hm2 => ?_)
            refine sxk (h.lst14 rfl (by omega) hj_p hq2 ⟨hm1, hm2⟩ or1) (fun My1 y1 => ?_)
            refine pj_pop (pc := 68) dX1_ask_68 rfl ?_
            refine pl_aload_n (pc := 69) dX1_ask_69 rfl rfl ?_
            refine pj_getf (pc := 70) ckX1 9 q862 dX1_ask_70 (by decide) (y1.r0) rfl ?_
            obtain ⟨m_73, c_73, l_73⟩ := y1.L14
            refine pl_callVd (pc := 73) (As := []) (C1 := 0) (N1 := 0) (C2 := 1) (N2 := 9) ckJ2 mdJ2_size rfl q1049 q948 q949 q129 dX1_ask_73 rfl rfl (Nat.le_of_ble_eq_true rfl) l_73.1 (k_J2_size (d := d - 1) (by omega) l_73) (by omega) (by omega) (by omega) ?_
            refine PJ.top (y := nI (S 14 0 + 1)) (by rw [show SnX S 14 0 (S 14 0 + 1) 14 0 = S 14 0 + 1 from SnX_eq]) ?_
            refine pj_iret (pc := 76) dX1_ask_76 rfl ?_
            have g8 := SX.onR (σ1 := sR (sR ρ (2092 + S 14 0) (nI j_p)) 2130 (nI (S 14 0 + 1))) y1 (fun j hj => rowS_ne (fun z => by subst z; unfold mapR at hj; omega)) OnR.rf.R
            have t8 : TieX 0 S (sR (sR ρ (2092 + S 14 0) (nI j_p)) 2130 (nI (S 14 0 + 1))) e nw := t.cg h.hz (fun j hj => (rowS_ne (fun z => hj (by unfold fr0; omega))).trans (rowS_ne (fun z => hj (by unfold fr0; omega)))) (by simp [sA]) (by simp [sA]) (fun _ _ => by simp [sA]) rfl rfl
            exact CQ.ok (by rw [p_ask_yes hj_p hS4 (by rw [hs9]; exact of_decide_eq_true c10) (by rw [hs9]; exact c31) (by rw [hs9]; exact c20) c54 has9 (by rw [hs9]; exact has1), hs9]) (by exact h00) ⟨_, SnX S 14 0 (S 14 0 + 1), by rw [SnX_eq]; exact rowS_eq, fun x hx y => SnX_ne (fun z => hx z.1), SnX_ne (by omega), Or.inr (by rw [SnX_eq]), _, g8, t8.sz (fun x hx y => SnX_ne (by omega))⟩
          · refine pj_bipush (pc := 57) (v := (-3)) dX1_ask_57 (by rfl) ?_
            refine pj_iret (pc := 59) dX1_ask_59 rfl ?_
            exact CQ.ok (τ := ρ) (by first | (simp only [p_ask, hs9, ← hs0, hap_p, g_p, c10, c20, c31, eq_true c54, ↓reduceIte]; first | done | rfl) | (simp [p_ask, hs9, ← hs0, hap_p, g_p, c10, c20, c31, eq_true c54, Int32.not_lt, Int32.not_le]; first | done | rfl)) (by exact h00) ⟨A, S, has1, fun _ _ _ => rfl, rfl, Or.inl rfl, _, h, t⟩
        · refine pj_bipush (pc := 34) (v := (-2)) dX1_ask_34 (by rfl) ?_
          refine pj_iret (pc := 36) dX1_ask_36 rfl ?_
          exact CQ.ok (τ := ρ) (by first | (simp only [p_ask, hs9, ← hs0, hap_p, g_p, c10, c20, c31, ↓reduceIte]; first | done | rfl) | (simp [p_ask, hs9, ← hs0, hap_p, g_p, c10, c20, c31, Int32.not_lt, Int32.not_le]; first | done | rfl)) (by exact h00) ⟨A, S, has1, fun _ _ _ => rfl, rfl, Or.inl rfl, _, h, t⟩
    · refine pj_iconst (pc := 13) (v := (-1)) dX1_ask_13 (by rfl) ?_
      refine pj_iret (pc := 14) dX1_ask_14 rfl ?_
      exact CQ.ok (τ := ρ) (by first | (simp only [p_ask, hs9, ← hs0, hap_p, g_p, c10, ↓reduceIte]; first | done | rfl) | (simp [p_ask, hs9, ← hs0, hap_p, g_p, c10, Int32.not_lt, Int32.not_le]; first | done | rfl)) (by exact h00) ⟨A, S, has1, fun _ _ _ => rfl, rfl, Or.inl rfl, _, h, t⟩
