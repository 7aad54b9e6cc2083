set_option maxRecDepth 100000
theorem sF_2 {σ : MS} {j : Nat} {v : Int32} : (sF σ j v).2 = σ.2 := rfl
theorem row_sF {σ : MS} {j k : Nat} {v : Int32} : row (sF σ j v) k = row σ k := rfl
theorem inN_cases {x : Int32} {n : Nat} (hn : n < 2147483648) : (if x < 0 then true else if ¬ x < nI n then true else false) = !inN x n := by
  by_cases h : x < 0
  · rw [if_pos h]
    have : inN x n = false := by
      simp only [inN, Bool.and_eq_false_iff, decide_eq_false_iff_not]
      exact Or.inl (fun z => Int32.lt_irrefl (Int32.lt_of_lt_of_le h z))
    rw [this]; rfl
  · rw [if_neg h]
    by_cases h2 : x < nI n
    · have : inN x n = true := by
        simp only [inN, Bool.and_eq_true, decide_eq_true_eq]
        exact ⟨Int32.not_lt.mp h, h2⟩
      rw [if_neg (fun z => z h2), this]; rfl
    · have : inN x n = false := by
        simp only [inN, Bool.and_eq_false_iff, decide_eq_false_iff_not]
        exact Or.inr h2
      rw [if_pos h2, this]; rfl
theorem p_acre_in {σ : MS} {k : Int32} : p_acre σ k = if inN k 12 = false then (nI 0, th σ 1) else (row (s0 σ) (2080 + tN k), s0 σ) := by
  have e := inN_cases (x := k) (n := 12) (by decide)
  unfold p_acre
  by_cases h : k < 0
  · rw [if_pos h] at e
    have e1 : inN k 12 = false := by revert e; cases inN k 12 <;> simp
    rw [if_pos h, if_pos e1]
  · rw [if_neg h] at e
    by_cases h2 : k < nI 12
    · rw [if_neg (fun z => z h2)] at e
      have e1 : inN k 12 = true := by revert e; cases inN k 12 <;> simp
      rw [if_neg h, if_neg (fun z => z h2), if_neg (by rw [e1]; decide)]
    · rw [if_pos h2] at e
      have e1 : inN k 12 = false := by revert e; cases inN k 12 <;> simp
      rw [if_neg h, if_pos h2, if_pos e1]
/-- rows that nothing is tied to, the votes and what a bill is among them -/
def fr9 (j : Nat) : Prop := fr0 j ∨ (1568 ≤ j ∧ j < 1640 ∧ ((j - 1568) % 6 = 1 ∨ (j - 1568) % 6 = 2)) ∨ (1640 ≤ j ∧ j < 1720 ∧ (j - 1640) % 4 = 1)
theorem TieX.cg9 {w : Nat} {S : Nat → Nat → Nat} {σ τ : MS} {e : XE} {nw : Nat} (t : TieX w S σ e nw) (hz : SzX w S) (hr : ∀ j, ¬ fr9 j → row τ j = row σ j) (a3 : τ.2.1 3 = σ.2.1 3) (a4 : τ.2.1 4 = σ.2.1 4) (a14 : τ.2.1 14 = σ.2.1 14) (h23 : τ.1 23 = σ.1 23) (h24 : τ.1 24 = σ.1 24) : TieX w S τ e nw := by
  have z1 := hz.2.1
  have z6 := hz.2.2.1
  have z8 := hz.2.2.2.1
  have z10 := hz.2.2.2.2.1
  have s0 : ∀ j a, a < 96 → (j = 0 ∨ j = 1 ∨ j = 2 ∨ j = 3 ∨ j = 4 ∨ j = 5 ∨ j = 7) → sec τ a j = sec σ a j := fun j a ha hj => hr _ (by unfold fr9 fr0; omega)
  have hq : ∀ j a, a < S 4 w → (j = 1 ∨ j = 2 ∨ j = 3) → per τ a j = per σ a j := fun j a ha hj => hr _ (by unfold fr9 fr0; omega)
  have lw : ∀ l j, l < S 8 w → (j = 0 ∨ j = 3 ∨ j = 4 ∨ j = 5) → lawv τ l j = lawv σ l j := fun l j hl hj => hr _ (by unfold fr9 fr0; omega)
  have bw : ∀ k j, k < S 10 w → (j = 2 ∨ j = 3) → row τ (1640 + 4 * k + j) = row σ (1640 + 4 * k + j) := fun k j hk hj => hr _ (by unfold fr9 fr0; omega)
  have qw : ∀ a j, a < S 6 w → j < 15 → row τ (1720 + 15 * a + j) = row σ (1720 + 15 * a + j) := fun a j ha hj => hr _ (by unfold fr9 fr0; omega)
  refine ⟨tHa_cg t (fun a ha => hq 2 a ha (by decide)) (fun a ha => hq 3 a ha (by decide)) (fun _ _ => rfl), tFa_cg t (fun c hc => s0 0 c hc (by decide)) (fun c hc => s0 1 c hc (by decide)) (fun _ _ => rfl), tMi_cg t (fun c hc => s0 0 c hc (by decide)) (fun c hc => s0 7 c hc (by decide)) a3 a4 (fun _ _ => rfl), tEn_cg t (fun c hc => s0 0 c hc (by decide)) (fun c hc => s0 2 c hc (by decide)) (fun _ _ => rfl), tSa_cg t (fun l hl => lw l 4 hl (by decide)) (fun l hl => lw l 5 hl (by decide)) (fun _ _ => rfl) (fun _ _ => rfl), tDu_cg t (fun k hk => bw k 2 hk (by decide)) (fun k hk => bw k 3 hk (by decide)) (fun _ _ => rfl), tQu_cg t qw (fun a _ _ _ => rfl), tBo_cg t (fun a ha => hq 2 a ha (by decide)) (fun a ha => hq 3 a ha (by decide)), tOw_cg t (fun c hc => s0 0 c hc (by decide)) (fun c hc => s0 1 c hc (by decide)) (fun p hp z => (hq 2 p hp (by decide)).trans z) (fun c hc => s0 3 c hc (by decide)) (fun c hc => s0 4 c hc (by decide)) (fun c hc => s0 5 c hc (by decide)) a3, tHi_cg t (fun l hl => lw l 0 hl (by decide)) (fun l hl => lw l 3 hl (by decide)) (fun j _ => by rw [a14]) (fun _ _ => rfl) (fun _ _ => rfl), tRo_cg t (fun j _ => by rw [a14]) (fun _ _ => rfl), tCo_cg t (fun a ha => hq 1 a ha (by decide)), tTr_cg t h23 h24, ?_, tGh_cg t (fun a ha => qw a 0 ha (by decide)) (fun k hk => hr _ (by unfold fr9 fr0; omega)) (fun _ _ => rfl)⟩
  refine ⟨fun a ha => ?_, fun a ha => ?_⟩
  · obtain ⟨m, m1, m2, m3⟩ := t.ivd.1 a ha
    refine ⟨m, by rw [a3, a4]; exact m1, m2, fun z => ?_⟩
    rw [s0 0 a ha (by decide)] at z
    rw [s0 7 a ha (by decide)]
    exact m3 z
  · rw [qw a 0 ha (by decide)]
    exact t.ivd.2 a ha
/-- nothing is tried in the colony's own world -/
def RsX (σ : MS) : Prop := σ.1 7 = -1 ∧ σ.1 23 = nI 0 ∧ σ.1 24 = -1
theorem fall_rest {σ : MS} {z w : Nat} (h : RsX σ) : fallV σ z w = fallC σ z w := by
  unfold fallV fallC
  rw [if_neg (fun z => z (by rw [h.1]; decide))]
set_option maxHeartbeats 600000 in
theorem x_X1_seen {g : GP} {μ : Mem} {d : Nat} {P : Nat → Prop} {F : Mem} {A : XA} {S : Nat → Nat → Nat} {b : XS} {σ : MS} {nor nw : Nat} (s : SB g P F A 0 S b σ nw μ) (iv : IvG σ (S 4 0) (S 8 0) (S 10 0) (S 6 0) nor nw) (rs : RsX σ) (hd : 8 ≤ d) {z : Int32} : PM g yX1_seen (ws_ yX1_seen cX1_seen 2 (some .int)) d 1 6 [.ref (A 0 0 0), .int z] μ (CQ ["java/lang/IndexOutOfBoundsException"] (p_seen σ z) (fun τ M => SB g P F A 0 S b τ nw M)) := by
  refine PM.of (by decide +kernel) (Nat.le_of_ble_eq_true rfl) ?_
  refine PJ.ok (fun G => ?_)
  show PJ g _ _ _ _ d 1 6 0 [(0, .ref (A 0 0 0)), (1, .int z)] [] _ _
  obtain ⟨e, h, t⟩ := s
  have hS4 := h.hz.2.1
  have hS6 := h.hz.2.2.1
  have hS8 := h.hz.2.2.2.1
  have hS10 := h.hz.2.2.2.2.1
  cases hap_z : inN z 4 with
  | false =>
    refine pl_iload_n (pc := 0) dX1_seen_0 rfl rfl ?_
    refine pl_iconst (pc := 1) (v := 4) dX1_seen_1 (by rfl) ?_
    refine pl_callSX (pc := 2) (As := [_, _]) (C1 := 1) (N1 := 6) (C2 := 0) (N2 := 0) (E8 := "java/lang/IndexOutOfBoundsException") mdX1_there q1243 q1244 q125 dX1_seen_2 rfl rfl (Nat.le_of_ble_eq_true rfl) (k_X1_there_no (d := d - 1) (by omega) hap_z) (by omega) (by omega) (by omega) (fun q_2 M_2 hM_2 => ?_)
    refine px_out0 rfl ?_
    exact CQ.no 0 (v := nI 0) (τ := th σ 1) (by first | (simp only [p_seen, hap_z, row_sF, ↓reduceIte]; first | done | rfl) | (simp [p_seen, hap_z, row_sF, Int32.not_lt, Int32.not_le]; first | done | rfl)) rfl rfl (SB.mono (SB.F0 (SB.F0 ⟨_, h, t⟩)) hM_2)
  | true =>
    obtain ⟨j_z, hj_z, rfl⟩ := inN_of (by omega) hap_z
    have g_z := tN_nI (n := j_z) (by omega)
    refine pl_iload_n (pc := 0) dX1_seen_0 rfl rfl ?_
    refine pl_iconst (pc := 1) (v := 4) dX1_seen_1 (by rfl) ?_
    refine pl_callSv (pc := 2) (As := [_, _]) (C1 := 0) (N1 := 0) (C2 := 1) (N2 := 6) mdX1_there q1243 q1244 q125 dX1_seen_2 rfl rfl (Nat.le_of_ble_eq_true rfl) (k_X1_there_ok (d := d - 1) (by omega) (by omega) (by omega)) (by omega) (by omega) (by omega) ?_
    refine pl_aload_n (pc := 5) dX1_seen_5 rfl rfl ?_
    refine pj_getf (pc := 6) ckX1 0 q853 dX1_seen_6 (by decide) (h.r0) rfl ?_
    refine pj_getfN (pc := 9) ckX2 23 q768 dX1_seen_9 (by decide) (h.r1) rfl ?_
    refine pl_iload_n (pc := 12) dX1_seen_12 rfl rfl ?_
    refine pl_iald (pc := 13) (n := 4) dX1_seen_13 (h.r23) (by omega) (by decide) ?_
    refine PJ.top (h.v23 (by omega)) ?_
    refine pj_iret (pc := 14) dX1_seen_14 rfl ?_
    exact CQ.ok (τ := s0 σ) (by first | (simp only [p_seen, hap_z, g_z, row_sF, ↓reduceIte]; first | done | rfl) | (simp [p_seen, hap_z, g_z, row_sF, Int32.not_lt, Int32.not_le]; first | done | rfl)) rfl (SB.F0 ⟨_, h, t⟩)
set_option maxHeartbeats 600000 in
theorem x_X1_acre {g : GP} {μ : Mem} {d : Nat} {P : Nat → Prop} {F : Mem} {A : XA} {S : Nat → Nat → Nat} {b : XS} {σ : MS} {nor nw : Nat} (s : SB g P F A 0 S b σ nw μ) (iv : IvG σ (S 4 0) (S 8 0) (S 10 0) (S 6 0) nor nw) (rs : RsX σ) (hd : 8 ≤ d) {k : Int32} : PM g yX1_acre (ws_ yX1_acre cX1_acre 2 (some .int)) d 1 6 [.ref (A 0 0 0), .int k] μ (CQ ["java/lang/IndexOutOfBoundsException"] (p_acre σ k) (fun τ M => SB g P F A 0 S b τ nw M)) := by
  refine PM.of (by decide +kernel) (Nat.le_of_ble_eq_true rfl) ?_
  refine PJ.ok (fun G => ?_)
  show PJ g _ _ _ _ d 1 6 0 [(0, .ref (A 0 0 0)), (1, .int k)] [] _ _
  obtain ⟨e, h, t⟩ := s
  have hS4 := h.hz.2.1
  have hS6 := h.hz.2.2.1
  have hS8 := h.hz.2.2.2.1
  have hS10 := h.hz.2.2.2.2.1
  cases hap_k : inN k 12 with
  | false =>
    refine pl_iload_n (pc := 0) dX1_acre_0 rfl rfl ?_
    refine pl_bipush (pc := 1) (v := 12) dX1_acre_1 (by rfl) ?_
    refine pl_callSX (pc := 3) (As := [_, _]) (C1 := 1) (N1 := 6) (C2 := 0) (N2 := 0) (E8 := "java/lang/IndexOutOfBoundsException") mdX1_there q1243 q1244 q125 dX1_acre_3 rfl rfl (Nat.le_of_ble_eq_true rfl) (k_X1_there_no (d := d - 1) (by omega) hap_k) (by omega) (by omega) (by omega) (fun q_3 M_3 hM_3 => ?_)
    refine px_out0 rfl ?_
    exact CQ.no 0 (v := nI 0) (τ := th σ 1) (by first | (simp only [p_acre_in, hap_k, row_sF, ↓reduceIte]; first | done | rfl) | (simp [p_acre_in, hap_k, row_sF, Int32.not_lt, Int32.not_le]; first | done | rfl)) rfl rfl (SB.mono (SB.F0 (SB.F0 ⟨_, h, t⟩)) hM_3)
  | true =>
    obtain ⟨j_k, hj_k, rfl⟩ := inN_of (by omega) hap_k
    have g_k := tN_nI (n := j_k) (by omega)
    refine pl_iload_n (pc := 0) dX1_acre_0 rfl rfl ?_
    refine pl_bipush (pc := 1) (v := 12) dX1_acre_1 (by rfl) ?_
    refine pl_callSv (pc := 3) (As := [_, _]) (C1 := 0) (N1 := 0) (C2 := 1) (N2 := 6) mdX1_there q1243 q1244 q125 dX1_acre_3 rfl rfl (Nat.le_of_ble_eq_true rfl) (k_X1_there_ok (d := d - 1) (by omega) (by omega) (by omega)) (by omega) (by omega) (by omega) ?_
    refine pl_aload_n (pc := 6) dX1_acre_6 rfl rfl ?_
    refine pj_getf (pc := 7) ckX1 0 q853 dX1_acre_7 (by decide) (h.r0) rfl ?_
    refine pj_getfN (pc := 10) ckX2 25 q771 dX1_acre_10 (by decide) (h.r1) rfl ?_
    refine pl_iload_n (pc := 13) dX1_acre_13 rfl rfl ?_
    refine pl_iald (pc := 14) (n := 12) dX1_acre_14 (h.r25) (by omega) (by decide) ?_
    refine PJ.top (h.v25 (by omega)) ?_
    refine pj_iret (pc := 15) dX1_acre_15 rfl ?_
    exact CQ.ok (τ := s0 σ) (by first | (simp only [p_acre_in, hap_k, g_k, row_sF, ↓reduceIte]; first | done | rfl) | (simp [p_acre_in, hap_k, g_k, row_sF, Int32.not_lt, Int32.not_le]; first | done | rfl)) rfl (SB.F0 ⟨_, h, t⟩)
set_option maxHeartbeats 600000 in
theorem x_X1_force {g : GP} {μ : Mem} {d : Nat} {P : Nat → Prop} {F : Mem} {A : XA} {S : Nat → Nat → Nat} {b : XS} {σ : MS} {nor nw : Nat} (s : SB g P F A 0 S b σ nw μ) (iv : IvG σ (S 4 0) (S 8 0) (S 10 0) (S 6 0) nor nw) (rs : RsX σ) (hd : 9 ≤ d) {l : Int32} : PM g yX1_force (ws_ yX1_force cX1_force 2 (some .int)) d 1 6 [.ref (A 0 0 0), .int l] μ (CQ ["java/lang/IndexOutOfBoundsException"] (p_force σ (S 8 0) l) (fun τ M => SB g P F A 0 S b τ nw M)) := by
  refine PM.of (by decide +kernel) (Nat.le_of_ble_eq_true rfl) ?_
  refine PJ.ok (fun G => ?_)
  show PJ g _ _ _ _ d 1 6 0 [(0, .ref (A 0 0 0)), (1, .int l)] [] _ _
  obtain ⟨e, h, t⟩ := s
  have hS4 := h.hz.2.1
  have hS6 := h.hz.2.2.1
  have hS8 := h.hz.2.2.2.1
  have hS10 := h.hz.2.2.2.2.1
  cases hap_l : inN l (S 8 0) with
  | false =>
    refine pl_aload_n (pc := 0) dX1_force_0 rfl rfl ?_
    refine pl_iload_n (pc := 1) dX1_force_1 rfl rfl ?_
    refine pl_callVX (pc := 2) (As := [_]) (C1 := 1) (N1 := 6) (C2 := 0) (N2 := 0) (E8 := "java/lang/IndexOutOfBoundsException") ckX1 mdX1_lawOf rfl q2248 q2250 qs33 q125 dX1_force_2 rfl rfl (Nat.le_of_ble_eq_true rfl) (h.r0) (x_X1_lawOf_no (d := d - 1) (by omega) h hap_l) (by omega) (by omega) (by omega) (fun q_2 M_2 hM_2 => ?_)
    refine px_out0 rfl ?_
    exact CQ.no 0 (v := nI 0) (τ := th σ 1) (by first | (simp only [p_force, hap_l, row_sF, ↓reduceIte]; first | done | rfl) | (simp [p_force, hap_l, row_sF, Int32.not_lt, Int32.not_le]; first | done | rfl)) rfl rfl (SB.mono (SB.F0 (SB.F0 ⟨_, h, t⟩)) hM_2)
  | true =>
    obtain ⟨j_l, hj_l, rfl⟩ := inN_of (by omega) hap_l
    have g_l := tN_nI (n := j_l) (by omega)
    refine pl_aload_n (pc := 0) dX1_force_0 rfl rfl ?_
    refine pl_iload_n (pc := 1) dX1_force_1 rfl rfl ?_
    refine pl_callVd (pc := 2) (As := [_]) (C1 := 0) (N1 := 0) (C2 := 1) (N2 := 6) ckX1 mdX1_lawOf rfl q2248 q2250 qs33 q125 dX1_force_2 rfl rfl (Nat.le_of_ble_eq_true rfl) (h.r0) (x_X1_lawOf_ok (d := d - 1) (by omega) h (by omega)) (by omega) (by omega) (by omega) ?_
    refine pj_getfN (pc := 5) ckX12 1 q1499 dX1_force_5 (by decide) (h.r38 (by omega)) rfl ?_
    refine pj_iret (pc := 8) dX1_force_8 rfl ?_
    exact CQ.ok (τ := s0 σ) (by first | (simp only [p_force, hap_l, g_l, row_sF, ↓reduceIte]; first | done | rfl) | (simp [p_force, hap_l, g_l, row_sF, Int32.not_lt, Int32.not_le]; first | done | rfl)) rfl (SB.F0 ⟨_, h, t⟩)
set_option maxHeartbeats 600000 in
theorem x_X1_billed {g : GP} {μ : Mem} {d : Nat} {P : Nat → Prop} {F : Mem} {A : XA} {S : Nat → Nat → Nat} {b : XS} {σ : MS} {nor nw : Nat} (s : SB g P F A 0 S b σ nw μ) (iv : IvG σ (S 4 0) (S 8 0) (S 10 0) (S 6 0) nor nw) (rs : RsX σ) (hd : 9 ≤ d) {l : Int32} : PM g yX1_billed (ws_ yX1_billed cX1_billed 2 (some .int)) d 1 6 [.ref (A 0 0 0), .int l] μ (CQ ["java/lang/IndexOutOfBoundsException"] (p_billed σ (S 10 0) l) (fun τ M => SB g P F A 0 S b τ nw M)) := by
  refine PM.of (by decide +kernel) (Nat.le_of_ble_eq_true rfl) ?_
  refine PJ.ok (fun G => ?_)
  show PJ g _ _ _ _ d 1 6 0 [(0, .ref (A 0 0 0)), (1, .int l)] [] _ _
  obtain ⟨e, h, t⟩ := s
  have hS4 := h.hz.2.1
  have hS6 := h.hz.2.2.1
  have hS8 := h.hz.2.2.2.1
  have hS10 := h.hz.2.2.2.2.1
  cases hap_l : inN l (S 10 0) with
  | false =>
    refine pl_aload_n (pc := 0) dX1_billed_0 rfl rfl ?_
    refine pl_iload_n (pc := 1) dX1_billed_1 rfl rfl ?_
    refine pl_callVX (pc := 2) (As := [_]) (C1 := 1) (N1 := 6) (C2 := 0) (N2 := 0) (E8 := "java/lang/IndexOutOfBoundsException") ckX1 mdX1_billOf rfl q2312 q2314 qs34 q125 dX1_billed_2 rfl rfl (Nat.le_of_ble_eq_true rfl) (h.r0) (x_X1_billOf_no (d := d - 1) (by omega) h hap_l) (by omega) (by omega) (by omega) (fun q_2 M_2 hM_2 => ?_)
    refine px_out0 rfl ?_
    exact CQ.no 0 (v := nI 0) (τ := th σ 1) (by first | (simp only [p_billed, hap_l, row_sF, ↓reduceIte]; first | done | rfl) | (simp [p_billed, hap_l, row_sF, Int32.not_lt, Int32.not_le]; first | done | rfl)) rfl rfl (SB.mono (SB.F0 (SB.F0 ⟨_, h, t⟩)) hM_2)
  | true =>
    obtain ⟨j_l, hj_l, rfl⟩ := inN_of (by omega) hap_l
    have g_l := tN_nI (n := j_l) (by omega)
    refine pl_aload_n (pc := 0) dX1_billed_0 rfl rfl ?_
    refine pl_iload_n (pc := 1) dX1_billed_1 rfl rfl ?_
    refine pl_callVd (pc := 2) (As := [_]) (C1 := 0) (N1 := 0) (C2 := 1) (N2 := 6) ckX1 mdX1_billOf rfl q2312 q2314 qs34 q125 dX1_billed_2 rfl rfl (Nat.le_of_ble_eq_true rfl) (h.r0) (x_X1_billOf_ok (d := d - 1) (by omega) h (by omega)) (by omega) (by omega) (by omega) ?_
    refine pj_getfN (pc := 5) ckX13 3 q1552 dX1_billed_5 (by decide) (h.r40 (by omega)) rfl ?_
    refine pj_iret (pc := 8) dX1_billed_8 rfl ?_
    exact CQ.ok (τ := s0 σ) (by first | (simp only [p_billed, hap_l, g_l, row_sF, ↓reduceIte]; first | done | rfl) | (simp [p_billed, hap_l, g_l, row_sF, Int32.not_lt, Int32.not_le]; first | done | rfl)) rfl (SB.F0 ⟨_, h, t⟩)
set_option maxHeartbeats 600000 in
theorem x_X1_promise {g : GP} {μ : Mem} {d : Nat} {P : Nat → Prop} {F : Mem} {A : XA} {S : Nat → Nat → Nat} {b : XS} {σ : MS} {nor nw : Nat} (s : SB g P F A 0 S b σ nw μ) (iv : IvG σ (S 4 0) (S 8 0) (S 10 0) (S 6 0) nor nw) (rs : RsX σ) (hd : 9 ≤ d) {c : Int32} : PM g yX1_promise (ws_ yX1_promise cX1_promise 2 (some .int)) d 1 6 [.ref (A 0 0 0), .int c] μ (CQ ["java/lang/IndexOutOfBoundsException"] (p_promise σ c) (fun τ M => SB g P F A 0 S b τ nw M)) := by
  refine PM.of (by decide +kernel) (Nat.le_of_ble_eq_true rfl) ?_
  refine PJ.ok (fun G => ?_)
  show PJ g _ _ _ _ d 1 6 0 [(0, .ref (A 0 0 0)), (1, .int c)] [] _ _
  obtain ⟨e, h, t⟩ := s
  have hS4 := h.hz.2.1
  have hS6 := h.hz.2.2.1
  have hS8 := h.hz.2.2.2.1
  have hS10 := h.hz.2.2.2.2.1
  cases hap_c : inN c 96 with
  | false =>
    refine pl_aload_n (pc := 0) dX1_promise_0 rfl rfl ?_
    refine pl_iload_n (pc := 1) dX1_promise_1 rfl rfl ?_
    refine pl_callVX (pc := 2) (As := [_]) (C1 := 1) (N1 := 6) (C2 := 0) (N2 := 0) (E8 := "java/lang/IndexOutOfBoundsException") ckX1 mdX1_slotOf rfl q1239 q1241 qs7 q125 dX1_promise_2 rfl rfl (Nat.le_of_ble_eq_true rfl) (h.r0) (x_X1_slotOf_no (d := d - 1) (by omega) h hap_c) (by omega) (by omega) (by omega) (fun q_2 M_2 hM_2 => ?_)
    refine px_out0 rfl ?_
    exact CQ.no 0 (v := nI 0) (τ := th σ 1) (by first | (simp only [p_promise, hap_c, row_sF, ↓reduceIte]; first | done | rfl) | (simp [p_promise, hap_c, row_sF, Int32.not_lt, Int32.not_le]; first | done | rfl)) rfl rfl (SB.mono (SB.F0 (SB.F0 ⟨_, h, t⟩)) hM_2)
  | true =>
    obtain ⟨j_c, hj_c, rfl⟩ := inN_of (by omega) hap_c
    have g_c := tN_nI (n := j_c) (by omega)
    refine pl_aload_n (pc := 0) dX1_promise_0 rfl rfl ?_
    refine pl_iload_n (pc := 1) dX1_promise_1 rfl rfl ?_
    obtain ⟨q_2, hm_2, hq_2, hdd_2⟩ := h.held (s := j_c) (by omega)
    refine pl_callVd (pc := 2) (As := [_]) (C1 := 0) (N1 := 0) (C2 := 1) (N2 := 6) ckX1 mdX1_slotOf rfl q1239 q1241 qs7 q125 dX1_promise_2 rfl rfl (Nat.le_of_ble_eq_true rfl) (h.r0) (x_X1_slotOf_ok (d := d - 1) (by omega) h (by omega)) (by omega) (by omega) (by omega) ?_
    refine pj_pop (pc := 5) dX1_promise_5 rfl ?_
    refine pl_aload_n (pc := 6) dX1_promise_6 rfl rfl ?_
    refine pj_getf (pc := 7) ckX1 0 q853 dX1_promise_7 (by decide) (h.r0) rfl ?_
    refine pl_iload_n (pc := 10) dX1_promise_10 rfl rfl ?_
    refine pl_callVd (pc := 11) (As := [_]) (C1 := 0) (N1 := 0) (C2 := 1) (N2 := 6) ckX2 mdX2_promise rfl q1326 q1327 q1328 q126 dX1_promise_11 rfl rfl (Nat.le_of_ble_eq_true rfl) (h.r1) (x_X2_promise (d := d - 1) (by omega) h (by omega)) (by omega) (by omega) (by omega) ?_
    refine pj_iret (pc := 14) dX1_promise_14 rfl ?_
    exact CQ.ok (τ := s0 σ) (by first | (simp only [p_promise, hap_c, g_c, row_sF, ↓reduceIte]; first | done | rfl) | (simp [p_promise, hap_c, g_c, row_sF, Int32.not_lt, Int32.not_le]; first | done | rfl)) rfl (SB.F0 ⟨_, h, t⟩)
