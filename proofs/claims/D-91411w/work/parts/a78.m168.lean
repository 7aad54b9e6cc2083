set_option maxRecDepth 100000
section FW
variable {σ : MS} {n nl p : Nat}
theorem mean_tr {gr : Int32} (h : ¬ σ.1 23 ≤ 0) : (meanV σ n nl 0 gr).1 = σ.1 23 := by
  unfold meanV
  rw [if_pos ⟨rfl, h⟩]
theorem psi_A {f : Nat → Int32} : psi (sA σ 13 f) = psi σ := by
  unfold psi
  exact cnt_cg (fun i _ => by rw [NsX_cg rowP rowP])
theorem live2_sold {c : Nat} (h23 : ¬ σ.1 23 ≤ 0) (t1 : σ.1 23 ≤ 0 ∨ ∃ k, k ≤ 1000 ∧ σ.1 23 = nI k) (h2 : ¬ per σ p 2 = nI 4) (hc : c < 96) (hb : bestB σ 96 = nI c) (hl : sec σ c 0 = nI 1) (hf : ¬ per σ p 1 < (meanV σ n nl 0 (σ.2.1 3 c)).1 + nI 10) : MnX σ (live2 n nl p σ) ∧ psi (live2 n nl p σ) + 1 = psi σ := by
  have m1 := mean_tr (σ := σ) (n := n) (nl := nl) (gr := σ.2.1 3 c) h23
  rw [m1] at hf
  obtain ⟨k, hk, ek⟩ := t1.resolve_left h23
  have hle : σ.1 23 ≤ per σ p 1 := by
    rw [ek] at hf ⊢
    rw [nI_add] at hf
    exact Int32.le_trans ((nI_leI (by omega) (by omega)).mpr (by omega)) (Int32.not_lt.mp hf)
  rw [live2_yes h2 hc hb (by rw [m1]; exact hf)]
  have h23' : ¬ (sM σ n nl 0 (σ.2.1 3 c)).1 23 ≤ 0 := h23
  rw [p_sells_yes (law := -1) (by rw [mean_tr h23']; exact hle) (by rw [if_pos h23'])]
  have s1 := sell_psi (σ := sA (sM σ n nl 0 (σ.2.1 3 c)) 13 (meanV (sM σ n nl 0 (σ.2.1 3 c)) n nl 0 ((sM σ n nl 0 (σ.2.1 3 c)).2.1 3 c)).2) (n := n) (nl := nl) (p := p) (c := c) (v := (meanV (sM σ n nl 0 (σ.2.1 3 c)) n nl 0 ((sM σ n nl 0 (σ.2.1 3 c)).2.1 3 c)).1) hc hl
  refine ⟨((MnX.rf.A (by decide)).A (by decide)).tr s1.1, s1.2.trans ?_⟩
  exact psi_A.trans psi_A
theorem mn_live2 (h23 : ¬ σ.1 23 ≤ 0) (t1 : σ.1 23 ≤ 0 ∨ ∃ k, k ≤ 1000 ∧ σ.1 23 = nI k) : MnX σ (live2 n nl p σ) := by
  by_cases h2 : per σ p 2 = nI 4
  · rw [live2_own h2]
    exact MnX.rf
  · rcases bestB_l σ 96 with eb | ⟨c, hc, eb, hl⟩
    · rw [live2_no h2 eb]
      exact MnX.rf
    · by_cases hf : per σ p 1 < (meanV σ n nl 0 (σ.2.1 3 c)).1 + nI 10
      · rw [live2_few h2 hc eb hf]
        exact MnX.rf.A (by decide)
      · exact (live2_sold h23 t1 h2 hc eb hl hf).1
def TrO (σ : MS) : Prop := ¬ σ.1 23 ≤ 0 ∧ (σ.1 23 ≤ 0 ∨ ∃ k, k ≤ 1000 ∧ σ.1 23 = nI k)
theorem TrO.fr {τ : MS} (h : TrO σ) (f : Fr σ τ) : TrO τ := by
  unfold TrO
  rw [f.1]
  exact h
theorem mn_lives (h : TrO σ) : MnX σ (s_lives n nl p σ) := by
  have f1 := fr_live1 n nl p σ
  have h1 : TrO (live1 n nl p σ) := h.fr f1
  exact (((mn_live1 n nl p σ).tr (mn_live2 h1.1 h1.2)).tr (mn_live3 n nl p _)).tr (mn_live4 p _)
theorem mn_livesI (h : TrO σ) : MnX σ (livesI n nl p σ) := MnX.it MnX.rf (mn_lives h)
theorem fr_livesI : Fr σ (livesI n nl p σ) := Fr.it Fr.rf (fr_lives _ _ _ _)
theorem TrO.q (h : TrO σ) : ∀ k, TrO (uq (livesI n nl) k σ) := fun k => h.fr (Fr.q (fun i τ => fr_livesI) Fr.rf k)
theorem mn_uq (h : TrO σ) {i : Nat} : ∀ k, i ≤ k → MnX (uq (livesI n nl) i σ) (uq (livesI n nl) k σ)
  | 0, hi => by rw [show i = 0 by omega]; exact MnX.rf
  | k + 1, hi => by
    by_cases e : i = k + 1
    · rw [e]; exact MnX.rf
    · rw [uq_s _ k]
      exact (mn_uq h k (by omega)).tr (mn_livesI (h.q k))
end FW
set_option maxHeartbeats 600000 in
theorem x_X2_wantsF {g : GP} {μ : Mem} {d : Nat} {P : Nat → Prop} {F : Mem} {A : XA} {w : Nat} {S : Nat → Nat → Nat} {b : XS} {σ : MS} {nor nw : Nat} (hd : 340 ≤ d) (s : SB g P F A w S b σ nw μ) (iv : IvG σ (S 4 w) (S 8 w) (S 10 w) (S 6 w) nor nw) {p : Nat} (hp : p < S 4 w) (h2 : ¬ per σ p 2 = nI 4) (h9 : TrO σ) : PM g yX2_wants (ws_ yX2_wants cX2_wants 3 none) d (psi σ - psi (live2 (S 4 w) (S 8 w) p σ)) (3 * (psi σ - psi (live2 (S 4 w) (S 8 w) p σ))) [.ref (A 1 w 0), .ref (A 35 w p)] μ (WQ none (SB g P F A w S b (live2 (S 4 w) (S 8 w) p σ) nw)) := by
  refine PM.of (by decide +kernel) (Nat.le_of_ble_eq_true rfl) ?_
  refine PJ.ok (fun G => ?_)
  show PJ g _ _ _ _ d (psi σ - psi (live2 (S 4 w) (S 8 w) p σ)) (3 * (psi σ - psi (live2 (S 4 w) (S 8 w) p σ))) 0 [(0, .ref (A 1 w 0)), (1, .ref (A 35 w p))] [] _ _
  obtain ⟨e, h, t⟩ := s
  have hS4 := h.hz.2.1
  have hS6 := h.hz.2.2.1
  have hS8 := h.hz.2.2.2.1
  have hS10 := h.hz.2.2.2.2.1
  refine pl_aload_n (pc := 0) dX2_wants_0 rfl rfl ?_
  refine pl_callVd (pc := 1) (As := []) (C1 := 0) (N1 := 0) (C2 := (psi σ - psi (live2 (S 4 w) (S 8 w) p σ))) (N2 := (3 * (psi σ - psi (live2 (S 4 w) (S 8 w) p σ)))) ckX2 mdX2_bestLot rfl q2407 q2409 qs42 q126 dX2_wants_1 rfl rfl (Nat.le_of_ble_eq_true rfl) (h.r1) (x_X2_bestLot (d := d - 1) (by omega) h) (by omega) (by omega) (by omega) ?_
  refine pj_istore_n (pc := 4) (lv' := [(2, _), (0, _), (1, _)]) dX2_wants_4 rfl (by decide) rfl ?_
  refine pl_iload_n (pc := 5) dX2_wants_5 rfl rfl ?_
  refine pj_iconst (pc := 6) (v := (-1)) dX2_wants_6 (by rfl) ?_
  rcases bestB_l σ 96 with eb | ⟨c, hc, eb, hl⟩
  · rw [eb]
    refine pj_icmp_eq (pc := 7) (tgt := 38) dX2_wants_7 (by decide) (fun _ => ?_) (fun z => absurd rfl z)
    refine pj_vret (pc := 38) dX2_wants_38 rfl ?_
    rw [live2_no h2 eb]
    exact ⟨rfl, e, h, t⟩
  · have p_c : ¬ nI c < 0 := Int32.not_lt.mpr (nI_pos' (by omega))
    have n_c : ¬ nI c = -1 := fun z => p_c (by rw [z]; decide)
    rw [eb]
    refine pj_icmp_eq (pc := 7) (tgt := 38) dX2_wants_7 (by decide) (fun z => absurd z n_c) (fun _ => ?_)
    refine pl_aload_n (pc := 10) dX2_wants_10 rfl rfl ?_
    refine pl_iconst (pc := 11) (v := 0) dX2_wants_11 (by rfl) ?_
    refine pl_aload_n (pc := 12) dX2_wants_12 rfl rfl ?_
    refine pj_getf (pc := 13) ckX2 13 q749 dX2_wants_13 (by decide) (h.r1) rfl ?_
    refine pl_iload_n (pc := 16) dX2_wants_16 rfl rfl ?_
    refine pl_bald (pc := 17) (n := 96) dX2_wants_17 (h.r27) (by omega) (by decide) ?_
    refine PJ.top (h.v27 (by omega)) ?_
    refine pl_callVWd (pc := 18) (As := [_, _]) (C1 := 0) (N1 := 0) (C2 := (psi σ - psi (live2 (S 4 w) (S 8 w) p σ))) (N2 := (3 * (psi σ - psi (live2 (S 4 w) (S 8 w) p σ)))) ckX2 mdX2_means rfl q1707 q1708 q1709 q126 dX2_wants_18 rfl rfl (Nat.le_of_ble_eq_true rfl) (h.r1) (x_X2_means (d := d - 1) (by omega) h (by omega) t.ht) (by omega) (by omega) (by omega) (fun My1 qy1 => ?_)
    obtain ⟨e_18, he_18, y1⟩ := qy1
    refine pl_bipush (pc := 21) (v := 10) dX2_wants_21 (by rfl) ?_
    refine pj_iadd (pc := 23) dX2_wants_23 ?_
    refine pl_aload_n (pc := 24) dX2_wants_24 rfl rfl ?_
    refine pj_getfN (pc := 25) ckX10 2 q1071 dX2_wants_25 (by decide) (y1.r35 hp) rfl ?_
    refine pj_icmp_gt (pc := 28) (tgt := 38) dX2_wants_28 (by decide) (fun c28 => ?_) (fun c28 => ?_)
    · refine pj_vret (pc := 38) dX2_wants_38 rfl ?_
      rw [live2_few h2 hc eb c28]
      exact ⟨rfl, SB.P ⟨e_18, y1, t.e9 he_18⟩⟩
    · refine pl_aload_n (pc := 31) dX2_wants_31 rfl rfl ?_
      refine pl_aload_n (pc := 32) dX2_wants_32 rfl rfl ?_
      refine pl_iload_n (pc := 33) dX2_wants_33 rfl rfl ?_
      have s_34 : SB g P F A w S b (sM σ (S 4 w) (S 8 w) 0 (σ.2.1 3 c)) nw _ := SB.P ⟨_, y1, t.e9 he_18⟩
      have iv_34 : IvG (sM σ (S 4 w) (S 8 w) 0 (σ.2.1 3 c)) (S 4 w) (S 8 w) (S 10 w) (S 6 w) nor nw := iv.sA1
      have w_34 := (live2_sold h9.1 h9.2 h2 hc eb hl c28).2
      refine PJ.widen (C1 := 1) (N1 := 3) (by omega) (by omega) ?_
      refine pl_callVWd (pc := 34) (As := [_, _]) (C1 := 1) (N1 := 3) (C2 := 0) (N2 := 0) ckX2 mdX2_sells rfl q2413 q1704 q1705 q126 dX2_wants_34 rfl rfl (Nat.le_of_ble_eq_true rfl) (y1.r1) (x_X2_sells (d := d - 1) (by omega) s_34 iv_34 hp hc hl) (by omega) (by omega) (by omega) (fun My2 qy2 => ?_)
      refine pj_pop (pc := 37) dX2_wants_37 rfl ?_
      refine pj_vret (pc := 38) dX2_wants_38 rfl ?_
      rw [live2_yes h2 hc eb c28]
      exact ⟨rfl, qy2⟩
