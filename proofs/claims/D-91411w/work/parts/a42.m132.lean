set_option maxRecDepth 100000
section TQ
variable {g : GP} {P P1 : Nat → Prop} {F F1 : Mem} {A : XA} {w : Nat} {S S1 : Nat → Nat → Nat} {b : XS} {σ : MS} {e : XE} {M : Mem} {nw q qv q2 m1 n k : Nat} {mc1 : Int32}
def SpX (S : Nat → Nat → Nat) (w n k : Nat) : Nat → Nat → Nat := SnX (SnX S 6 w (n + 1)) 60 n k
theorem SpX_6 {y : Nat} : SpX S w n k 6 y = if y = w then n + 1 else S 6 y := by
  unfold SpX
  rw [SnX_ne (by omega)]
  by_cases h : y = w
  · rw [if_pos h, h, SnX_eq]
  · rw [if_neg h, SnX_ne (fun z => h z.2)]
theorem SpX_o {x y : Nat} (h : x ≠ 6 ∧ x ≠ 60) : SpX S w n k x y = S x y := by
  unfold SpX
  rw [SnX_ne (by omega), SnX_ne (by omega)]
theorem SpX_60 {y : Nat} : SpX S w n k 60 y = if y = n then k else S 60 y := by
  unfold SpX
  by_cases h : y = n
  · rw [if_pos h, h, SnX_eq]
  · rw [if_neg h, SnX_ne (by omega), SnX_ne (by omega)]
/-- the baseline with an empty queue -/
def b37 (b : XS) (n : Nat) : XS := ((fun k' w' i' => if k' = 37 ∧ w' = 0 ∧ i' = n then fun _ => 0 else b.1 k' w' i'), b.2)
theorem SzX.n6 (hz : SzX w S) (hn : n ≤ 4) : SzX w (SnX S 6 w n) := by
  obtain ⟨z1, z2, z3, z4, z5, z6, z7, z8⟩ := hz
  refine ⟨z1, ?_, by rw [SnX_eq]; exact hn, ?_, ?_, ?_, ?_, ?_⟩
  · rw [SnX_ne (by omega)]; exact z2
  · rw [SnX_ne (by omega)]; exact z4
  · rw [SnX_ne (by omega)]; exact z5
  · rw [SnX_ne (by omega)]; exact z6
  · rw [SnX_ne (by omega)]; exact z7
  · exact ⟨by rw [SnX_ne (by omega), SnX_ne (by omega)]; exact z8.1, fun e9 => by rw [SnX_ne (by omega)]; exact z8.2 e9⟩
theorem p_party_ok (hn : row (s0 σ) 2127 = nI n) (hn9 : n < 4) (hk : 1 ≤ k ∧ k ≤ 9) : p_party σ n (nI k) = (nI n, sR (sR (s0 σ) (1720 + 15 * n + 0) (nI k)) 2127 (nI (n + 1))) := by
  unfold p_party
  rw [if_neg (show ¬ nI k < nI 1 from fun z => by have := (nI_ltI (by omega) (by decide)).mp z; omega), if_neg (show ¬ ¬ nI k ≤ nI 9 from fun z => z ((nI_leI (by omega) (by decide)).mpr hk.2)), if_neg (show ¬ n = 4 by omega)]
  dsimp only
  rw [show row (sR (s0 σ) (1720 + 15 * n + 0) (nI k)) 2127 = nI n from (rowS_ne (by omega)).trans hn, nI_add]
  rw [show row (sR (sR (s0 σ) (1720 + 15 * n + 0) (nI k)) 2127 (nI (n + 1))) 2127 - nI 1 = nI n from by rw [rowS_eq, nI_pdec (by omega)]; rfl]
theorem tie_party_add (t : TieX w S σ e nw) (hz : SzX w S) (hn : n = S 6 w) (hn9 : n < 4) (hk : 1 ≤ k ∧ k ≤ 9) (h2 : row σ (1720 + 15 * n + 2) = nI 0) : TieX w (SpX S w n k) (sR (sR σ (1720 + 15 * n + 0) (nI k)) 2127 (nI (n + 1))) (rowE e (10 + n) 12 (fun _ => 0)) nw := by
  have z4 := hz.2.1
  have z8 := hz.2.2.2.1
  have z10 := hz.2.2.2.2.1
  have on : OnR σ (sR (sR σ (1720 + 15 * n + 0) (nI k)) 2127 (nI (n + 1))) := OnR.rf.R.R
  have ro : ∀ j, j ≠ 2127 → j ≠ 1720 + 15 * n + 0 → row (sR (sR σ (1720 + 15 * n + 0) (nI k)) 2127 (nI (n + 1))) j = row σ j := fun j h1 h2 => (rowS_ne h1).trans (rowS_ne h2)
  obtain ⟨τ, hτ⟩ : ∃ τ, τ = sR (sR σ (1720 + 15 * n + 0) (nI k)) 2127 (nI (n + 1)) := ⟨_, rfl⟩
  have r0 : row τ (1720 + 15 * n) = nI k := by rw [hτ, rowS_ne (by omega)]; exact rowS_eq
  rw [← hτ] at on ro ⊢
  have hp : ∀ j p, p < S 4 w → j < 8 → per τ p j = per σ p j := fun j p hp hj => ro _ (by omega) (by omega)
  have s0 : ∀ j a, a < 96 → j < 8 → sec τ a j = sec σ a j := fun j a ha hj => ro _ (by omega) (by omega)
  have lw : ∀ k9 j, k9 < S 8 w → j < 6 → lawv τ k9 j = lawv σ k9 j := fun k9 j hk hj => ro _ (by omega) (by omega)
  have bw : ∀ k9 j, k9 < S 10 w → j < 4 → row τ (1640 + 4 * k9 + j) = row σ (1640 + 4 * k9 + j) := fun k9 j hk hj => ro _ (by omega) (by omega)
  have qw : ∀ a j, a < n → j < 15 → row τ (1720 + 15 * a + j) = row σ (1720 + 15 * a + j) := fun a j ha hj => ro _ (by omega) (by omega)
  have e4 : SpX S w n k 4 w = S 4 w := SpX_o (by decide)
  have e6 : SpX S w n k 6 w = n + 1 := by rw [SpX_6, if_pos rfl]
  have e8 : SpX S w n k 8 w = S 8 w := SpX_o (by decide)
  have e10 : SpX S w n k 10 w = S 10 w := SpX_o (by decide)
  have hee : ∀ a, a ≠ 10 + n → rowE e (10 + n) 12 (fun _ => 0) a = e a := fun a h => by
    funext x
    unfold rowE
    rw [if_neg (fun z => h z.1)]
  have a3 := on.1 3 (by decide) (by decide) (by decide) (by decide)
  have a4 := on.1 4 (by decide) (by decide) (by decide) (by decide)
  refine ⟨fun p hp9 => ?_, fun p hp9 => ?_, fun x hx => ?_, fun x hx => ?_, fun x hx => ?_, fun x hx => ?_, fun a ha j hj2 hj => ?_, fun p hp9 h3 => ?_, fun x hx => ⟨fun hf p hp9 ep => ?_, (t.ps hx).cg (s0 0 x hx (by decide)) (s0 3 x hx (by decide)) (s0 4 x hx (by decide)) (s0 5 x hx (by decide)) a3⟩, fun x hx => ?_, fun hw k9 hk j hj => ?_, fun p hp9 => ?_, ?_, ?_, ⟨fun a ha => ?_, fun x hx => ?_⟩⟩
  · rw [e4] at hp9 ⊢
    rw [hee 0 (by omega), t.hands hp9]
    exact congrArg nI (cnt_cg (fun o ho => by rw [hp 2 o ho (by decide), hp 3 o ho (by decide)])).symm
  · rw [e4] at hp9
    rw [hee 1 (by omega), t.farms hp9]
    exact congrArg nI (cnt_cg (fun c hc => by rw [s0 0 c hc (by decide), s0 1 c hc (by decide)])).symm
  · rw [hee 2 (by omega), s0 0 x hx (by decide), s0 7 x hx (by decide), a3, a4]
    exact t.miles hx
  · rw [hee 3 (by omega), s0 0 x hx (by decide), s0 2 x hx (by decide)]
    exact t.ends hx
  · rw [e8] at hx
    rw [hee 6 (by omega), hee 15 (by omega), lw x 4 hx (by decide), lw x 5 hx (by decide)]
    exact t.said hx
  · rw [e10] at hx
    have h := t.due hx
    unfold DuX at h ⊢
    rw [hee 16 (by omega), bw x 2 hx (by decide), bw x 3 hx (by decide)]
    exact h
  · rw [e6] at ha
    by_cases ea : a = n
    · subst ea
      rw [show row τ (1720 + 15 * a + 2) = nI 0 from (ro _ (by omega) (by omega)).trans h2, tN_nI (by decide)] at hj
      exact absurd hj (Nat.not_lt_zero _)
    · rw [qw a 2 (by omega) (by decide)] at hj
      rw [hee (10 + a) (by omega), t.queue (by omega) hj2 hj]
      have := qw a (3 + j) (by omega) (by omega)
      rw [← Nat.add_assoc] at this
      exact this.symm
  · rw [e4] at hp9
    rw [hp 2 p hp9 (by decide)] at h3
    rw [hp 3 p hp9 (by decide)]
    exact t.boss hp9 h3
  · rw [e4] at hp9
    rw [s0 0 x hx (by decide)] at hf
    rw [s0 1 x hx (by decide)] at ep
    rw [hp 2 p hp9 (by decide)]
    exact t.own hx hf hp9 ep
  · rw [e8] at hx
    have h := t.hist hx
    unfold HiX at h ⊢
    rw [hee 4 (by omega), hee 5 (by omega), lw x 0 hx (by decide), lw x 3 hx (by decide), on.2.2.2]
    exact h
  · rw [hee 7 (by omega), on.2.2.2]
    exact t.rows hw hk hj
  · rw [e4] at hp9
    rw [hp 1 p hp9 (by decide)]
    exact t.coins hp9
  · rw [on.2.1, on.2.1]
    exact ⟨t.tr1, t.tr2⟩
  · rw [e6]
    refine ⟨fun a ha => ?_, fun a ha => ?_⟩
    · obtain ⟨m, x1, x2, x3⟩ := t.ivd.1 a ha
      exact ⟨m, by rw [a3, a4]; exact x1, x2, fun z => by rw [s0 0 a ha (by decide)] at z; rw [s0 7 a ha (by decide)]; exact x3 z⟩
    · by_cases ea : a = n
      · subst ea
        exact ⟨k, hk.1, hk.2, r0⟩
      · rw [qw a 0 (by omega) (by decide)]
        exact t.ivd.2 a (by omega)
  · rw [e6] at ha
    rw [SpX_60]
    by_cases ea : a = n
    · subst ea
      rw [if_pos rfl]
      exact r0
    · rw [if_neg ea]
      exact (qw a 0 (by omega) (by decide)).trans (t.gh.1 a (by omega))
  · rw [e10] at hx
    rw [SpX_o (by decide), SpX_o (by decide), hee 16 (by omega)]
    exact ⟨(bw x 0 hx (by decide)).trans (t.gh.2 x hx).1, (t.gh.2 x hx).2⟩
theorem rowE_vx (hz : SzX 0 S) (hn : S 6 0 ≤ n) (hn9 : n < 4) {u : Nat → Int32} : VX 0 S b σ (rowE e (10 + n) 12 u) = VX 0 S b σ e := by
  refine VX_cgE hz (fun k i j hi hj h2 => ?_)
  unfold rowE
  rw [if_neg]
  intro z
  have h3 := invX_ok hz hi hj (by rw [h2]; decide)
  have eT : TX 0 k i j = (2, 10 + n, (TX 0 k i j).2.2) := Prod.ext h2 (Prod.ext z.1 rfl)
  rw [eT] at h3
  have h4 : invX (2, 10 + n, (TX 0 k i j).2.2) = (37, n, (TX 0 k i j).2.2) := by
    show inv4 (10 + n) _ = _
    rcases (by omega : n = 0 ∨ n = 1 ∨ n = 2 ∨ n = 3) with e9 | e9 | e9 | e9 <;> (subst e9; rfl)
  rw [h4] at h3
  have h5 := congrArg (fun q => q.1) h3
  have h6 := congrArg (fun q => q.2.1) h3
  have h7 : (37 : Nat) = k := h5
  have h8 : n = i := h6
  subst h7
  subst h8
  exact iN_o36 (Or.inr rfl) hn hi
/-- a new party in world 0 -/
theorem party_sx (h : SX g P1 F1 A 0 S b σ e M) (hn4 : n = S 6 0) (hn9 : n < 4) (h1 : row σ (1720 + 15 * n + 1) = nI 0) (h2 : row σ (1720 + 15 * n + 2) = nI 0) (hF1 : ∀ a e, F a = some e → F1 a = some e) (hP : ∀ a, P a → P1 a) (hPF : ∀ a, P a → F a ≠ none) (hq : P1 q) (hqF : F q = none) (hqM : M q = some (.inr (13, [.int (nI k), .int (nI 0), .int (nI 0), .ref qv]))) (hv : P1 qv) (hvF : F qv = none) (hvM : M qv = some (intX g 0 12 (fun _ => 0))) (hqv : q ≠ qv) (hq2 : q2 = A 7 0 0 ∨ M q2 = none) (hm : n + 1 ≤ m1 ∧ m1 < 1000) (or : OrX 0 S b σ e) :
  SX g P F (A2X A 6 36 37 0 n q qv q2) 0 (SnX S 6 0 (n + 1)) (b37 b n) (sR σ (1720 + 15 * n + 0) (nI k)) (rowE e (10 + n) 12 (fun _ => 0)) (mset (mset M q2 (lstA g m1 (fun j => if j < n then (if j < n then some (A 36 0 j) else none) else if j = n then some q else none))) (A 6 0 0) (lstO mc1 q2 (n + 1))) := by
  have hz := h.hz
  have hz1 := hz.n6 (n := n + 1) (by omega)
  have hi1 : n < SnX S 6 0 (n + 1) 6 0 := by rw [SnX_eq]; omega
  have eS : SnX S 6 0 (n + 1) = S1X S 6 0 := by rw [hn4]; rfl
  have iv : invX (0, 1, 1720 + 15 * n + 0) = (36, n, 0) := by
    show inv1 (1720 + 15 * n + 0) = _
    unfold inv1
    rw [if_neg (by omega), if_neg (by omega), if_neg (by omega), if_neg (by omega), if_pos (by omega)]
    exact t3 rfl (by omega) (by omega)
  have eV : VX 0 S b (sR σ (1720 + 15 * n + 0) (nI k)) (rowE e (10 + n) 12 (fun _ => 0)) = VX 0 S b σ e := (rowE_vx hz (by omega) hn9).trans (VX_oA (k0 := 36) (i0 := n) (j0 := 0) hz iv (iN_o36 (Or.inl rfl) (by omega)))
  have nl : ∀ k' w' i', LvX S k' w' i' → ¬ (k' = 37 ∧ w' = 0 ∧ i' = n) := fun k' w' i' hl z => by
    obtain ⟨z1, z2, z3⟩ := z
    subst z1; subst z2; subst z3
    have := hl.2.1
    simp [cNX] at this
    omega
  have key := SX.add2 (k := 6) (ko := 36) (kq := 37) (b1 := b37 b n) (σ1 := sR σ (1720 + 15 * n + 0) (nI k)) (e1 := rowE e (10 + n) 12 (fun _ => 0)) (q := q) (qv := qv) (q2 := q2) (m1 := m1) (mc1 := mc1) h (Or.inl ⟨rfl, rfl, rfl⟩) hF1 hP hPF hq hqF ?_ hv hvF ?_ hqv (fun z => by cases z) (fun k' w' i' hl => (VX_b (b := b) (if_neg (nl _ _ _ hl))).trans (congrFun (congrFun (congrFun eV k') w') i')) (fun a ha => wA_k (by omega)) rfl hq2 (by rw [← hn4]; exact hm) (by rw [← eS]; exact hz1) or (fun z => by cases z)
  · rw [← eS, ← hn4] at key
    exact key
  · rw [← eS, ← hn4, hqM, if_pos rfl]
    unfold paO
    rw [V36_0 hz1 hi1, V36_1 hz1 hi1, V36_2 hz1 hi1, rowS_eq, rowS_ne (by omega), rowS_ne (by omega), h1, h2]
  · rw [← eS, ← hn4, hvM, if_pos rfl]
    have ef : VX 0 (SnX S 6 0 (n + 1)) (b37 b n) (sR σ (1720 + 15 * n + 0) (nI k)) (rowE e (10 + n) 12 (fun _ => 0)) 37 0 n = fun _ => 0 := by
      funext j
      by_cases hj : j < 12
      · rw [V37 hz1 hi1 hj]
        unfold rowE
        rw [if_pos ⟨rfl, hj⟩]
      · simp only [VX]
        rw [if_neg (fun z => hj z.2.2)]
        show (if 37 = 37 ∧ 0 = 0 ∧ n = n then fun _ => 0 else b.1 37 0 n : Nat → Int32) j = 0
        rw [if_pos ⟨rfl, rfl, rfl⟩]
    rw [ef]
end TQ
set_option maxHeartbeats 600000 in
theorem k_X11_init {g : GP} {μ : Mem} {d : Nat} (hd : 2 ≤ d) {q : Nat} {x : Int32} (hm : μ q = some (.inr (13, [.int 0, .int 0, .int 0, .null]))) : PM g yX11_init (ws_ yX11_init cX11_init 2 none) d 1 12 [.ref q, .int x] μ (WQ none (fun M => ∃ qv, μ qv = none ∧ M = mset (mset μ qv (intX g 0 12 (fun _ => 0))) q (.inr (13, [.int x, .int 0, .int 0, .ref qv])))) := by
  refine PM.of (by decide +kernel) (Nat.le_of_ble_eq_true rfl) ?_
  refine PJ.ok (fun G => ?_)
  show PJ g _ _ _ _ d 1 12 0 [(0, .ref q), (1, .int x)] [] _ _
  refine pl_aload_n (pc := 0) dX11_init_0 rfl rfl ?_
  refine pj_objInit (pc := 1) q1427 q187 q188 dX11_init_1 (by omega) (by decide) ?_
  refine pl_aload_n (pc := 4) dX11_init_4 rfl rfl ?_
  refine pl_bipush (pc := 5) (v := 12) dX11_init_5 (by rfl) ?_
  refine pj_newa (pc := 7) (C1 := 0) (N1 := 0) (t0 := 0) (a0 := (12, .inl (fun _ => 0))) dX11_init_7 q572 rfl rfl (fun _ => rfl) (Int32.not_lt.mpr (nI_pos' (by omega))) (nI_clamp (by omega)) (by decide) (by omega) (by omega) (fun q_7 hn_7 gq_7 => ?_)
  refine pj_putfF (pc := 9) ckX11 3 q1436 dX11_init_9 (by decide) rfl rfl rfl (fresh_up hn_7 _ _ hm) rfl rfl (Nat.le_of_ble_eq_true rfl) ?_
  refine pl_aload_n (pc := 12) dX11_init_12 rfl rfl ?_
  refine pl_iload_n (pc := 13) dX11_init_13 rfl rfl ?_
  refine pj_putfF (pc := 14) ckX11 0 q1428 dX11_init_14 (by decide) rfl rfl rfl mset_s rfl rfl (Nat.le_of_ble_eq_true rfl) ?_
  refine PJ.mem mset_m ?_
  refine pj_vret (pc := 17) dX11_init_17 rfl ?_
  exact ⟨rfl, q_7, hn_7, rfl⟩
set_option maxHeartbeats 600000 in
theorem x_X1_party {g : GP} {μ : Mem} {d : Nat} {P : Nat → Prop} {F : Mem} {A : XA} {S : Nat → Nat → Nat} {b : XS} {σ : MS} {nor nw : Nat} (s : SB g P F A 0 S b σ nw μ) (iv : IvG σ (S 4 0) (S 8 0) (S 10 0) (S 6 0) nor nw) (rs : RsX σ) (ak : AkX S σ nor) (zp : S 6 0 < 4 → row σ (1720 + 15 * S 6 0 + 1) = nI 0 ∧ row σ (1720 + 15 * S 6 0 + 2) = nI 0) (hd : 12 ≤ d) {v : Int32} : PM g yX1_party (ws_ yX1_party cX1_party 2 (some .int)) d 3 168 [.ref (A 0 0 0), .int v] μ (CQ ["java/lang/IllegalArgumentException"] (p_party σ (S 6 0) v) (fun τ M => ∃ A1 S1 b1, row τ 2127 = nI (S1 6 0) ∧ (∀ x, (x ≠ 6 ∧ x ≠ 60) → ∀ y, S1 x y = S x y) ∧ S1 6 1 = S 6 1 ∧ ((S1 = S ∧ b1 = b) ∨ (S1 6 0 = S 6 0 + 1 ∧ b1 = b37 b (S 6 0) ∧ ∀ y, y < S 6 0 → S1 60 y = S 60 y)) ∧ SB g P F A1 0 S1 b1 τ nw M)) := by
  refine PM.of (by decide +kernel) (Nat.le_of_ble_eq_true rfl) ?_
  refine PJ.ok (fun G => ?_)
  show PJ g _ _ _ _ d 3 168 0 [(0, .ref (A 0 0 0)), (1, .int v)] [] _ _
  obtain ⟨ρ, hs0⟩ : ∃ ρ, ρ = sF σ 0 (nI 0) := ⟨_, rfl⟩
  have hs9 : s0 σ = ρ := hs0.symm
  have s1 := s.F0 (x := nI 0)
  rw [← hs0] at s1
  obtain ⟨e, h, t⟩ := s1
  have iv1 : IvG ρ (S 4 0) (S 8 0) (S 10 0) (S 6 0) nor nw := by rw [hs0]; exact iv.f0
  have rs1 : RsX ρ := by rw [hs0]; exact rs
  have h00 : ρ.1 0 = nI 0 := by rw [hs0]; rfl
  have hS4 := h.hz.2.1
  have hS6 := h.hz.2.2.1
  have hS8 := h.hz.2.2.2.1
  have hS10 := h.hz.2.2.2.2.1
  have ak1 : AkX S ρ nor := by rw [hs0]; exact ak.cg (fun _ _ _ => rfl)
  have zp0 : S 6 0 < 4 → row ρ (1720 + 15 * S 6 0 + 1) = nI 0 ∧ row ρ (1720 + 15 * S 6 0 + 2) = nI 0 := by rw [hs0]; exact zp
  refine pl_iload_n (pc := 0) dX1_party_0 rfl rfl ?_
  refine pl_iconst (pc := 1) (v := 1) dX1_party_1 (by rfl) ?_
  refine pj_icmp_lt (pc := 2) (tgt := 15) dX1_party_2 (by decide) (fun c2 => ?_) (fun c2 => ?_)
  · refine pl_iconst (pc := 15) (v := 0) dX1_party_15 (by rfl) ?_
    refine pl_callSX (pc := 16) (As := [_]) (C1 := 1) (N1 := 6) (C2 := 0) (N2 := 0) (E8 := "java/lang/IllegalArgumentException") mdX1_need q1262 q1263 q125 dX1_party_16 rfl rfl (Nat.le_of_ble_eq_true rfl) (k_X1_need_no (d := d - 1) (by omega) rfl) (by omega) (by omega) (by omega) (fun q_16 M_16 hM_16 => ?_)
    refine px_out0 rfl ?_
    exact CQ.no 0 (v := nI 0) (τ := sF ρ 0 (nI 1)) (by rw [show sF ρ 0 (nI 1) = th σ 1 by rw [hs0]]; first | (simp only [p_party, hs9, c2, ↓reduceIte]; first | done | rfl) | (simp [p_party, hs9, c2, Int32.not_lt, Int32.not_le]; first | done | rfl)) rfl rfl (⟨A, S, b, iv1.hq, fun _ _ _ => rfl, rfl, Or.inl ⟨rfl, rfl⟩, SB.mono (SB.F0 ⟨_, h, t⟩) hM_16⟩)
  · refine pl_iload_n (pc := 5) dX1_party_5 rfl rfl ?_
    refine pl_bipush (pc := 6) (v := 9) dX1_party_6 (by rfl) ?_
    refine pj_icmp_gt (pc := 8) (tgt := 15) dX1_party_8 (by decide) (fun c8 => ?_) (fun c8 => ?_)
    · refine pl_iconst (pc := 15) (v := 0) dX1_party_15 (by rfl) ?_
      refine pl_callSX (pc := 16) (As := [_]) (C1 := 1) (N1 := 6) (C2 := 0) (N2 := 0) (E8 := "java/lang/IllegalArgumentException") mdX1_need q1262 q1263 q125 dX1_party_16 rfl rfl (Nat.le_of_ble_eq_true rfl) (k_X1_need_no (d := d - 1) (by omega) rfl) (by omega) (by omega) (by omega) (fun q_16 M_16 hM_16 => ?_)
      refine px_out0 rfl ?_
      exact CQ.no 0 (v := nI 0) (τ := sF ρ 0 (nI 1)) (by rw [show sF ρ 0 (nI 1) = th σ 1 by rw [hs0]]; first | (simp only [p_party, hs9, c2, c8, ↓reduceIte]; first | done | rfl) | (simp [p_party, hs9, c2, c8, Int32.not_lt, Int32.not_le]; first | done | rfl)) rfl rfl (⟨A, S, b, iv1.hq, fun _ _ _ => rfl, rfl, Or.inl ⟨rfl, rfl⟩, SB.mono (SB.F0 ⟨_, h, t⟩) hM_16⟩)
    · refine pl_iconst (pc := 11) (v := 1) dX1_party_11 (by rfl) ?_
      refine pj_goto (pc := 12) (tgt := 16) dX1_party_12 (by decide) ?_
      refine pl_callSv (pc := 16) (As := [_]) (C1 := 0) (N1 := 0) (C2 := 3) (N2 := 168) mdX1_need q1262 q1263 q125 dX1_party_16 rfl rfl (Nat.le_of_ble_eq_true rfl) (k_X1_need_ok (d := d - 1) (by omega) (by decide)) (by omega) (by omega) (by omega) ?_
      obtain ⟨j_v, hj_v, rfl⟩ := inN_of (x := v) (n := 10) (by omega) (by simp only [inN, Bool.and_eq_true, decide_eq_true_eq]; exact ⟨Int32.le_trans (show (0 : Int32) ≤ nI 1 by decide) (Int32.not_lt.mp c2), Int32.lt_of_le_of_lt (Int32.not_lt.mp c8) (by decide)⟩)
      have g_v := tN_nI (n := j_v) (by omega)
      refine pl_aload_n (pc := 19) dX1_party_19 rfl rfl ?_
      refine pj_getf (pc := 20) ckX1 0 q853 dX1_party_20 (by decide) (h.r0) rfl ?_
      refine pj_getfN (pc := 23) ckX2 27 q775 dX1_party_23 (by decide) (h.r1) rfl ?_
      obtain ⟨m_26, c_26, l_26⟩ := h.L6
      refine pl_callVd (pc := 26) (As := []) (C1 := 0) (N1 := 0) (C2 := 3) (N2 := 168) ckJ2 mdJ2_size rfl q1049 q948 q949 q129 dX1_party_26 rfl rfl (Nat.le_of_ble_eq_true rfl) l_26.1 (k_J2_size (d := d - 1) (by omega) l_26) (by omega) (by omega) (by omega) ?_
      refine pl_iconst (pc := 29) (v := 4) dX1_party_29 (by rfl) ?_
      refine pl_icmp_ne (pc := 30) (tgt := 35) dX1_party_30 (by decide) (by omega) (by omega) (fun c30 => ?_) (fun c30 => ?_)
      · have hn9 : S 6 0 < 4 := by omega
        have hv1 : 1 ≤ j_v := (nI_leI (by decide) (by omega)).mp (Int32.not_lt.mp c2)
        have zp1 := zp0 hn9
        refine pl_aload_n (pc := 35) dX1_party_35 rfl rfl ?_
        refine pj_getf (pc := 36) ckX1 0 q853 dX1_party_36 (by decide) (h.r0) rfl ?_
        refine pj_getfN (pc := 39) ckX2 27 q775 dX1_party_39 (by decide) (h.r1) rfl ?_
        refine pj_new (pc := 42) (C1 := 2) (N1 := 164) ckX11 q1422 q1423 q159 dX1_party_42 _ dfX11 (by omega) (by omega) (fun q_42 hn_42 gq_42 => ?_)
        refine sxh (h.fresh hn_42) (fun y1 => ?_)
        refine pj_dup (pc := 45) dX1_party_45 rfl ?_
        refine pl_iload_n (pc := 46) dX1_party_46 rfl rfl ?_
        refine pl_callIWv (pc := 47) (As := [_]) (C1 := 1) (N1 := 12) (C2 := 1) (N2 := 152) mdX11_init rfl q1424 q1425 q159 dX1_party_47 rfl rfl (Nat.le_of_ble_eq_true rfl) (k_X11_init (d := d - 1) (by omega) mset_s) (by omega) (by omega) (by omega) (fun My2 qy2 => ?_)
        obtain ⟨qv_47, hv_47, e_47⟩ := qy2
        subst e_47
        have nv_47 : qv_47 ≠ q_42 := fun z => by rw [z, mset_s] at hv_47; cases hv_47
        have hv0_47 : μ qv_47 = none := by rw [mset_n nv_47] at hv_47; exact hv_47
        refine PJ.mem (mset3 nv_47) ?_
        obtain ⟨owa_47, fv_47⟩ := h.own hv0_47 (c := intX g 0 12 (fun _ => 0))
        obtain ⟨owb_47, fq_47⟩ := owa_47.own (show mset μ qv_47 (intX g 0 12 (fun _ => 0)) q_42 = none by rw [mset_n (Ne.symm nv_47)]; exact hn_42) (c := (.inr (13, [.int (nI j_v), .int 0, .int 0, .ref qv_47])))
        have fq0_47 : F q_42 = none := by rw [mset_n (Ne.symm nv_47)] at fq_47; exact fq_47
        refine sxf2 owb_47 mset_s ((mset_n nv_47).trans mset_s) (fun My3 y3 hc_47 hcv_47 => ?_)
        obtain ⟨m_50, c_50, l_50, b_50, el_50, ne_50⟩ := y3.LA6
        refine pl_add (pc := 50) (C1 := 0) (N1 := 1) q1114 dX1_party_50 (by omega) l_50 (by omega) b_50 (fun j hj => if_neg (by omega)) el_50 hc_47 rfl q3255 (ne_oo hc_47 l_50.1 (by decide)) ne_50 (Nat.le_of_ble_eq_true rfl) (by omega) (by omega) (fun q2 m1 mc1 hq2 hm1 hm2 => ?_)
        refine sxk (party_sx (k := j_v) y3 rfl hn9 zp1.1 zp1.2 (fun a x z => own_keep fq_47 a x (own_keep fv_47 a x z)) (fun _ z => Or.inl (Or.inl z)) h.pf (Or.inr rfl) fq0_47 hc_47 (Or.inl (Or.inr rfl)) fv_47 hcv_47 (Ne.symm nv_47) hq2 ⟨hm1, hm2⟩ (or_of h.hz iv1 ak1)) (fun My4 y4 => ?_)
        refine pj_pop (pc := 53) dX1_party_53 rfl ?_
        refine pl_aload_n (pc := 54) dX1_party_54 rfl rfl ?_
        refine pj_getf (pc := 55) ckX1 0 q853 dX1_party_55 (by decide) (y4.r0) rfl ?_
        refine pj_getfN (pc := 58) ckX2 27 q775 dX1_party_58 (by decide) (y4.r1) rfl ?_
        obtain ⟨m_61, c_61, l_61⟩ := y4.L6
        refine pl_callVd (pc := 61) (As := []) (C1 := 0) (N1 := 0) (C2 := 0) (N2 := 1) ckJ2 mdJ2_size rfl q1049 q948 q949 q129 dX1_party_61 rfl rfl (Nat.le_of_ble_eq_true rfl) l_61.1 (k_J2_size (d := d - 1) (by omega) l_61) (by omega) (by omega) (by omega) ?_
        refine PJ.top (y := nI (S 6 0 + 1)) (by rw [show SnX S 6 0 (S 6 0 + 1) 6 0 = S 6 0 + 1 from SnX_eq]) ?_
        refine pl_iconst (pc := 64) (v := 1) dX1_party_64 (by rfl) ?_
        refine pj_isub (pc := 65) dX1_party_65 ?_
        refine PJ.top (y := nI (S 6 0)) (by rw [nI_pdec (by omega)]; rfl) ?_
        refine pj_iret (pc := 66) dX1_party_66 rfl ?_
        have g8 : SX g P F (A2X A 6 36 37 0 (S 6 0) q_42 qv_47 q2) 0 (SnX S 6 0 (S 6 0 + 1)) (b37 b (S 6 0)) (sR (sR ρ (1720 + 15 * S 6 0 + 0) (nI j_v)) 2127 (nI (S 6 0 + 1))) (rowE e (10 + S 6 0) 12 (fun _ => 0)) _ := SX.onR (σ := sR ρ (1720 + 15 * S 6 0 + 0) (nI j_v)) y4 (fun j hj => rowS_ne (fun z => by subst z; unfold mapR at hj; omega)) OnR.rf.R
        have g9 := g8.gho (S1 := SpX S 0 (S 6 0) j_v) (fun x y hx => by unfold SpX; rw [SnX_ne (by omega)]) (by unfold SpX; rw [SnX_ne (by omega)]) (by unfold SpX; rw [SnX_ne (by omega)])
        exact CQ.ok (τ := sR (sR ρ (1720 + 15 * S 6 0 + 0) (nI j_v)) 2127 (nI (S 6 0 + 1))) (by rw [p_party_ok (by rw [hs9]; exact iv1.hq) hn9 ⟨hv1, by omega⟩, hs9]) (by exact h00) ⟨(A2X A 6 36 37 0 (S 6 0) q_42 qv_47 q2), SpX S 0 (S 6 0) j_v, b37 b (S 6 0), by rw [SpX_6, if_pos rfl]; exact rowS_eq, fun x hx y => SpX_o hx, by rw [SpX_6, if_neg (by decide)], Or.inr ⟨by rw [SpX_6, if_pos rfl], rfl, fun y hy => by rw [SpX_60, if_neg (by omega)]⟩, _, g9, tie_party_add t h.hz rfl hn9 ⟨hv1, by omega⟩ zp1.2⟩
      · refine pj_iconst (pc := 33) (v := (-1)) dX1_party_33 (by rfl) ?_
        refine pj_iret (pc := 34) dX1_party_34 rfl ?_
        exact CQ.ok (τ := ρ) (by first | (simp only [p_party, hs9, ← hs0, c2, c8, g_v, eq_true c30, ↓reduceIte]; first | done | rfl) | (simp [p_party, hs9, ← hs0, c2, c8, g_v, eq_true c30, Int32.not_lt, Int32.not_le]; first | done | rfl)) (by exact h00) ⟨A, S, b, iv1.hq, fun _ _ _ => rfl, rfl, Or.inl ⟨rfl, rfl⟩, _, h, t⟩
