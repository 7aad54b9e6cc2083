set_option maxRecDepth 100000
theorem SX.at9 {g : GP} {P : Nat → Prop} {F : Mem} {A : XA} {w : Nat} {S : Nat → Nat → Nat} {b : XS} {σ υ : MS} {e : XE} {M : Mem} (h : SX g P F A w S b σ e M) (hs : υ = σ) : SX g P F A w S b υ e M := by
  subst hs
  exact h
section PA
variable {g : GP} {P : Nat → Prop} {F : Mem} {A : XA} {w : Nat} {S : Nat → Nat → Nat} {b : XS} {σ : MS} {e e1 : XE} {M : Mem} {nw c : Nat} {k p x : Int32}
/-- a new pasture at a lot -/
theorem past_tie (y : SX g P F A w S b (putsS σ c (nI 6) p (-1) (-1)) (putsE e c (nI 0)) M) (t : TieX w S σ e nw) (hc : c < 96) (hl : sec σ c 0 = nI 1) : SB g P F A w S b (s_holds σ c (nI 6) p) nw M := by
  have on : OnR σ (s_holds σ c (nI 6) p) := OnR.holds
  have k0 : ∀ j, j < 7 → sec (s_holds σ c (nI 6) p) c j = if j = 0 then nI 6 else if j = 1 then p else if j = 5 then -1 else if j = 6 then -1 else nI 0 := fun j hj => holds_sec hj
  refine ⟨putsE e c (nI 0), puts_holds hc y, tie_put t y.hz hc (by rw [hl]; decide) (by rw [k0 0 (by decide), if_pos rfl]; decide) (by rw [k0 0 (by decide), if_pos rfl]; decide) (fun j _ hj => holds_row (by omega)) ?_ (on.1 3 (by decide) (by decide) (by decide) (by decide)) (on.1 4 (by decide) (by decide) (by decide) (by decide)) on.2.2.2 (on.2.1 23) (on.2.1 24) (fun q hq => ?_) (fun q hq => ?_) (fun a a2 a3 => ?_)⟩
  · unfold PsX
    rw [k0 0 (by decide), k0 3 (by decide), k0 4 (by decide), k0 5 (by decide), on.1 3 (by decide) (by decide) (by decide) (by decide)]
    exact ⟨fun z => absurd (show nI 6 = nI 3 from z) (by decide), ⟨0, by decide, rfl, fun _ => rfl⟩, (t.ps hc).2.2.1, Or.inl rfl⟩
  · by_cases eq : q = c
    · subst eq; simp [uE_if, putsE]
    · simp [uE_if, putsE, eq]
  · rw [k0 0 (by decide)]
    by_cases eq : q = c
    · subst eq; simp [uE_if, putsE]; first | done | exact fun z => absurd z (by decide)
    · simp [uE_if, putsE, eq]
  · simp [uE, putsE, a2, a3]
/-- a new run at a lot: it ends at week x -/
theorem run_tie (y : SX g P F A w S b (putsS σ c (nI 4) p (-1) (-1)) (uE (putsE e c (nI 0)) 3 c x) M) (t : TieX w S σ e nw) (hc : c < 96) (hl : sec σ c 0 = nI 1) : SB g P F A w S b (sR (s_holds σ c (nI 4) p) (8 * c + 2) x) nw M := by
  have on : OnR σ (sR (s_holds σ c (nI 4) p) (8 * c + 2) x) := OnR.holds.R
  have k0 : ∀ j, j < 7 → j ≠ 2 → sec (sR (s_holds σ c (nI 4) p) (8 * c + 2) x) c j = if j = 0 then nI 4 else if j = 1 then p else if j = 5 then -1 else if j = 6 then -1 else nI 0 := fun j hj h2 => (rowS_ne (by omega)).trans (holds_sec hj)
  have k2 : sec (sR (s_holds σ c (nI 4) p) (8 * c + 2) x) c 2 = x := rowS_eq
  refine ⟨_, (puts_holds hc y).onR (fun j hj => rowS_ne (fun z => by subst z; unfold mapR at hj; omega)) OnR.rf.R, tie_put t y.hz hc (by rw [hl]; decide) (by rw [k0 0 (by decide) (by decide), if_pos rfl]; decide) (by rw [k0 0 (by decide) (by decide), if_pos rfl]; decide) (fun j _ hj => (rowS_ne (by omega)).trans (holds_row (by omega))) ?_ (on.1 3 (by decide) (by decide) (by decide) (by decide)) (on.1 4 (by decide) (by decide) (by decide) (by decide)) on.2.2.2 (on.2.1 23) (on.2.1 24) (fun q hq => ?_) (fun q hq => ?_) (fun a a2 a3 => ?_)⟩
  · unfold PsX
    rw [k0 0 (by decide) (by decide), k0 3 (by decide) (by decide), k0 4 (by decide) (by decide), k0 5 (by decide) (by decide), on.1 3 (by decide) (by decide) (by decide) (by decide)]
    exact ⟨fun z => absurd (show nI 4 = nI 3 from z) (by decide), ⟨0, by decide, rfl, fun _ => rfl⟩, (t.ps hc).2.2.1, Or.inl rfl⟩
  · by_cases eq : q = c
    · subst eq; simp [uE_if, putsE]
    · simp [uE_if, putsE, eq]
  · rw [k0 0 (by decide) (by decide), k2, if_pos (show (if (0 : Nat) = 0 then nI 4 else if (0 : Nat) = 1 then p else if (0 : Nat) = 5 then -1 else if (0 : Nat) = 6 then -1 else nI 0) = nI 4 from rfl)]
    by_cases eq : q = c
    · subst eq; simp [uE_if, putsE]
    · simp [uE_if, putsE, eq]
  · simp [uE, putsE, a2, a3]
/-- a pasture becomes a run again -/
theorem rerun_tie (y : SX g P F A w S b (hoS σ c (nI 4) p (-1) (sec σ c 6)) (uE e 3 c x) M) (t : TieX w S σ e nw) (hc : c < 96) (h0 : isPastV (sec σ c 0) = true) (h1 : sec σ c 1 = p) (h5 : sec σ c 5 = -1) : SB g P F A w S b (sR (sR σ (8 * c + 0) (nI 4)) (8 * c + 2) x) nw M := by
  rw [hoS_self h1 h5 rfl] at y
  have h7 : e 2 c = nI 0 := by
    rw [t.miles hc, if_neg (fun z => by rw [z] at h0; exact absurd h0 (by decide))]
  have hf : isFarmV (sec σ c 0) = false := by
    cases hh : isFarmV (sec σ c 0) with
    | false => rfl
    | true =>
      simp only [isFarmV, isPastV, Bool.or_eq_true, decide_eq_true_eq] at hh h0
      rcases hh with z | z <;> rw [z] at h0 <;> rcases h0 with z0 | z0 <;> exact absurd z0 (by decide)
  have k0 : sec (sR (sR σ (8 * c + 0) (nI 4)) (8 * c + 2) x) c 0 = nI 4 := (rowS_ne (by omega)).trans rowS_eq
  have kk : ∀ j, j ≠ 0 → j ≠ 2 → sec (sR (sR σ (8 * c + 0) (nI 4)) (8 * c + 2) x) c j = sec σ c j := fun j h0 h2 => (rowS_ne (by omega)).trans (rowS_ne (by omega))
  have k2 : sec (sR (sR σ (8 * c + 0) (nI 4)) (8 * c + 2) x) c 2 = x := rowS_eq
  refine ⟨_, y.onR (fun j hj => rowS_ne (fun z => by subst z; unfold mapR at hj; omega)) OnR.rf.R, tie_put t y.hz hc hf (by rw [k0]; decide) (by rw [k0]; decide) (fun j _ hj => (rowS_ne (by omega)).trans (rowS_ne (by omega))) ?_ (by simp [sA]) (by simp [sA]) (by simp [sA]) rfl rfl (fun q hq => ?_) (fun q hq => ?_) (fun a a2 a3 => ?_)⟩
  · have ps := t.ps hc
    unfold PsX at ps ⊢
    rw [k0, kk 3 (by decide) (by decide), kk 4 (by decide) (by decide), kk 5 (by decide) (by decide)]
    obtain ⟨ks, q1, q2, -⟩ := ps.2.1
    refine ⟨fun z => absurd z (by decide), ⟨ks, q1, q2, fun z => absurd z (by decide)⟩, ?_, ?_⟩
    · have a3 : (sR (sR σ (8 * c + 0) (nI 4)) (8 * c + 2) x).2.1 3 = σ.2.1 3 := by simp [sA]
      rw [a3]
      exact ps.2.2.1
    · rcases ps.2.2.2 with z | z
      · exact Or.inl z
      · exact Or.inr ⟨z.1, by decide⟩
  · by_cases eq : q = c
    · subst eq
      rw [if_pos rfl, uE_ne (by omega)]
      exact h7
    · rw [if_neg eq, uE_ne (by omega)]
  · rw [k0, k2, if_pos rfl, uE_if]
    by_cases eq : q = c
    · rw [if_pos ⟨rfl, eq⟩, if_pos eq]
    · rw [if_neg (fun z => eq z.2), if_neg eq]
  · simp [uE, a3]
/-- coins are paid, perhaps to the treasury -/
theorem coin_tie {q m : Nat} {z : Int32} (t : TieX w S σ e nw) (hz : SzX w S) (hq : q < S 4 w) (hm : m ≤ 1000000) : TieX w S (sR (sR σ (768 + 8 * q + 1) (nI m)) 2118 z) e nw := by
  have z1 := hz.2.1
  refine t.coin hz (fun j hj hp => (rowS_ne (fun z => by subst z; exact hj (by unfold fr0; omega))).trans (rowS_ne (hp q hq))) (fun a ha => ?_) (by simp [sA]) (by simp [sA]) (fun _ _ => by simp [sA]) rfl rfl
  by_cases ea : a = q
  · subst ea
    exact ⟨m, hm, (rowS_ne (by omega)).trans rowS_eq⟩
  · obtain ⟨m9, h1, h2⟩ := t.coins ha
    exact ⟨m9, h1, ((rowS_ne (by omega)).trans (rowS_ne (by omega))).trans h2⟩
theorem coin_tie1 {q m : Nat} (t : TieX w S σ e nw) (hz : SzX w S) (hq : q < S 4 w) (hm : m ≤ 1000000) : TieX w S (sR σ (768 + 8 * q + 1) (nI m)) e nw := by
  have z1 := hz.2.1
  refine t.coin hz (fun j hj hp => rowS_ne (hp q hq)) (fun a ha => ?_) (by simp [sA]) (by simp [sA]) (fun _ _ => by simp [sA]) rfl rfl
  by_cases ea : a = q
  · subst ea
    exact ⟨m, hm, rowS_eq⟩
  · obtain ⟨m9, h1, h2⟩ := t.coins ha
    exact ⟨m9, h1, (rowS_ne (by omega)).trans h2⟩
theorem pays_to {q m k : Nat} {v : Int32} (ha : per σ q 1 = nI m) (hb : v = nI k) (hm : m ≤ 1000000) (hk : k ≤ 1000000) (h : v ≤ per σ q 1) : s_pays σ q (-v) = sR σ (768 + 8 * q + 1) (nI (m - k)) ∧ per σ q 1 - v = nI (m - k) := by
  have q9 := pay_sub ha hb hm hk h
  refine ⟨?_, q9.2.1⟩
  unfold s_pays
  rw [q9.2.2, q9.2.1]
end PA
set_option maxHeartbeats 600000 in
theorem x_X1_squat {g : GP} {μ : Mem} {d : Nat} {P : Nat → Prop} {F : Mem} {A : XA} {S : Nat → Nat → Nat} {b : XS} {σ : MS} {nor nw : Nat} (s : SB g P F A 0 S b σ nw μ) (iv : IvG σ (S 4 0) (S 8 0) (S 10 0) (S 6 0) nor nw) (rs : RsX σ) (hd : 330 ≤ d) {p : Int32} {c : Int32} : PM g yX1_squat (ws_ yX1_squat cX1_squat 5 (some .int)) d 1 6 [.ref (A 0 0 0), .int p, .int c] μ (CQ ["java/lang/IndexOutOfBoundsException"] (p_squat σ (S 4 0) (S 8 0) p c) (fun τ M => SB g P F A 0 S b τ nw M)) := by
  refine PM.of (by decide +kernel) (Nat.le_of_ble_eq_true rfl) ?_
  refine PJ.ok (fun G => ?_)
  show PJ g _ _ _ _ d 1 6 0 [(0, .ref (A 0 0 0)), (1, .int p), (2, .int c)] [] _ _
  obtain ⟨ρ, hs0⟩ : ∃ ρ, ρ = sF σ 0 (nI 0) := ⟨_, rfl⟩
  have hs9 : s0 σ = ρ := hs0.symm
  have s1 := s.F0 (x := nI 0)
  rw [← hs0] at s1
  obtain ⟨e, h, t⟩ := s1
  have iv1 : IvG ρ (S 4 0) (S 8 0) (S 10 0) (S 6 0) nor nw := by rw [hs0]; exact iv.f0
  have rs1 : RsX ρ := by rw [hs0]; exact rs
  have h00 : ρ.1 0 = nI 0 := by rw [hs0]; rfl
  have hS4 := h.hz.2.1
  have hS6 := h.hz.2.2.1
  have hS8 := h.hz.2.2.2.1
  have hS10 := h.hz.2.2.2.2.1
  cases hap_p : inN p (S 4 0) with
  | false =>
    refine pl_aload_n (pc := 0) dX1_squat_0 rfl rfl ?_
    refine pl_iload_n (pc := 1) dX1_squat_1 rfl rfl ?_
    refine pl_callVX (pc := 2) (As := [_]) (C1 := 1) (N1 := 6) (C2 := 0) (N2 := 0) (E8 := "java/lang/IndexOutOfBoundsException") ckX1 mdX1_personOf rfl q1411 q1413 qs9 q125 dX1_squat_2 rfl rfl (Nat.le_of_ble_eq_true rfl) (h.r0) (x_X1_personOf_no (d := d - 1) (by omega) h hap_p) (by omega) (by omega) (by omega) (fun q_2 M_2 hM_2 => ?_)
    refine px_out0 rfl ?_
    exact CQ.no 0 (v := nI 0) (τ := sF ρ 0 (nI 1)) (by rw [show sF ρ 0 (nI 1) = th σ 1 by rw [hs0]]; first | (simp only [p_squat, hap_p, ↓reduceIte]; first | done | rfl) | (simp [p_squat, hap_p, Int32.not_lt, Int32.not_le]; first | done | rfl)) rfl rfl (SB.mono (SB.F0 ⟨_, h, t⟩) hM_2)
  | true =>
    obtain ⟨j_p, hj_p, rfl⟩ := inN_of (by omega) hap_p
    have g_p := tN_nI (n := j_p) (by omega)
    cases hap_c : inN c 96 with
    | false =>
      refine pl_aload_n (pc := 0) dX1_squat_0 rfl rfl ?_
      refine pl_iload_n (pc := 1) dX1_squat_1 rfl rfl ?_
      refine pl_callVd (pc := 2) (As := [_]) (C1 := 0) (N1 := 0) (C2 := 1) (N2 := 6) ckX1 mdX1_personOf rfl q1411 q1413 qs9 q125 dX1_squat_2 rfl rfl (Nat.le_of_ble_eq_true rfl) (h.r0) (x_X1_personOf_ok (d := d - 1) (by omega) h (by omega)) (by omega) (by omega) (by omega) ?_
      refine pj_astore_n (pc := 5) (lv' := [(3, _), (0, _), (1, _), (2, _)]) dX1_squat_5 rfl (by decide) rfl ?_
      refine pl_aload_n (pc := 6) dX1_squat_6 rfl rfl ?_
      refine pl_iload_n (pc := 7) dX1_squat_7 rfl rfl ?_
      refine pl_callVX (pc := 8) (As := [_]) (C1 := 1) (N1 := 6) (C2 := 0) (N2 := 0) (E8 := "java/lang/IndexOutOfBoundsException") ckX1 mdX1_slotOf rfl q1239 q1241 qs7 q125 dX1_squat_8 rfl rfl (Nat.le_of_ble_eq_true rfl) (h.r0) (x_X1_slotOf_no (d := d - 1) (by omega) h hap_c) (by omega) (by omega) (by omega) (fun q_8 M_8 hM_8 => ?_)
      refine px_out0 rfl ?_
      exact CQ.no 0 (v := nI 0) (τ := sF ρ 0 (nI 1)) (by rw [show sF ρ 0 (nI 1) = th σ 1 by rw [hs0]]; first | (simp only [p_squat, hap_p, g_p, hap_c, ↓reduceIte]; first | done | rfl) | (simp [p_squat, hap_p, g_p, hap_c, Int32.not_lt, Int32.not_le]; first | done | rfl)) rfl rfl (SB.mono (SB.F0 ⟨_, h, t⟩) hM_8)
    | true =>
      obtain ⟨j_c, hj_c, rfl⟩ := inN_of (by omega) hap_c
      have g_c := tN_nI (n := j_c) (by omega)
      refine pl_aload_n (pc := 0) dX1_squat_0 rfl rfl ?_
      refine pl_iload_n (pc := 1) dX1_squat_1 rfl rfl ?_
      refine pl_callVd (pc := 2) (As := [_]) (C1 := 0) (N1 := 0) (C2 := 1) (N2 := 6) ckX1 mdX1_personOf rfl q1411 q1413 qs9 q125 dX1_squat_2 rfl rfl (Nat.le_of_ble_eq_true rfl) (h.r0) (x_X1_personOf_ok (d := d - 1) (by omega) h (by omega)) (by omega) (by omega) (by omega) ?_
      refine pj_astore_n (pc := 5) (lv' := [(3, _), (0, _), (1, _), (2, _)]) dX1_squat_5 rfl (by decide) rfl ?_
      refine pl_aload_n (pc := 6) dX1_squat_6 rfl rfl ?_
      refine pl_iload_n (pc := 7) dX1_squat_7 rfl rfl ?_
      obtain ⟨q_8, hm_8, hq_8, hdd_8⟩ := h.held (s := j_c) (by omega)
      refine pl_callVd (pc := 8) (As := [_]) (C1 := 0) (N1 := 0) (C2 := 1) (N2 := 6) ckX1 mdX1_slotOf rfl q1239 q1241 qs7 q125 dX1_squat_8 rfl rfl (Nat.le_of_ble_eq_true rfl) (h.r0) (x_X1_slotOf_ok (d := d - 1) (by omega) h (by omega)) (by omega) (by omega) (by omega) ?_
      refine pj_astore (pc := 11) (lv' := [(4, _), (3, _), (0, _), (1, _), (2, _)]) dX1_squat_11 (by decide) rfl ?_
      refine pl_aload_n (pc := 13) dX1_squat_13 rfl rfl ?_
      refine pl_callVd (pc := 14) (As := []) (C1 := 0) (N1 := 0) (C2 := 1) (N2 := 6) ckX10 mdX10_isHere rfl q1591 q1192 q1193 q158 dX1_squat_14 rfl rfl (Nat.le_of_ble_eq_true rfl) (h.r35 (by omega)) (x_X10_isHere (d := d - 1) (by omega) h (by omega)) (by omega) (by omega) (by omega) ?_
      refine pl_if_neB (pc := 17) (tgt := 22) dX1_squat_17 (by decide) (fun c17 => ?_) (fun c17 => ?_)
      · refine pl_aload (pc := 22) dX1_squat_22 rfl ?_
        refine pl_callVd (pc := 24) (As := []) (C1 := 0) (N1 := 0) (C2 := 1) (N2 := 6) ckX8 mdX8_isLot rfl q1698 q1699 q1700 q152 dX1_squat_24 rfl rfl (Nat.le_of_ble_eq_true rfl) hm_8 (k_X8_isLot (d := d - 1) (by omega) hm_8 hq_8) (by omega) (by omega) (by omega) ?_
        refine PJ.top (ho_isLot) ?_
        refine pl_if_neB (pc := 27) (tgt := 33) dX1_squat_27 (by decide) (fun c27 => ?_) (fun c27 => ?_)
        · have d27 : sec ρ j_c 0 = nI 1 := of_decide_eq_true c27
          refine pl_aload_n (pc := 33) dX1_squat_33 rfl rfl ?_
          refine pj_getf (pc := 34) ckX1 0 q853 dX1_squat_34 (by decide) (h.r0) rfl ?_
          refine pl_bipush (pc := 37) (v := 7) dX1_squat_37 (by rfl) ?_
          refine pl_iconst (pc := 39) (v := 0) dX1_squat_39 (by rfl) ?_
          refine pl_callVWd (pc := 40) (As := [_, _]) (C1 := 0) (N1 := 0) (C2 := 1) (N2 := 6) ckX2 mdX2_means rfl q1782 q1708 q1709 q126 dX1_squat_40 rfl rfl (Nat.le_of_ble_eq_true rfl) (h.r1) (x_X2_means (d := d - 1) (by omega) h (by omega) t.ht) (by omega) (by omega) (by omega) (fun My1 qy1 => ?_)
          obtain ⟨e_40, he_40, y1⟩ := qy1
          refine pj_if_ne (pc := 43) (tgt := 49) dX1_squat_43 (by decide) (fun c43 => ?_) (fun c43 => ?_)
          · refine pl_aload_n (pc := 49) dX1_squat_49 rfl rfl ?_
            refine pj_getf (pc := 50) ckX1 0 q853 dX1_squat_50 (by decide) (y1.r0) rfl ?_
            refine pl_iload_n (pc := 53) dX1_squat_53 rfl rfl ?_
            refine pj_new (pc := 54) (C1 := 0) (N1 := 5) ckX17 q1821 q1822 q166 dX1_squat_54 _ dfX17 (by omega) (by omega) (fun q_54 hn_54 gq_54 => ?_)
            refine sxh (y1.fresh hn_54) (fun y2 => ?_)
            refine pj_dup (pc := 57) dX1_squat_57 rfl ?_
            refine pl_aload_n (pc := 58) dX1_squat_58 rfl rfl ?_
            refine pj_getfN (pc := 59) ckX10 0 q1066 dX1_squat_59 (by decide) (y2.r35 (by omega)) rfl ?_
            refine pl_callIv (pc := 62) (As := [_]) (C1 := 0) (N1 := 0) (C2 := 0) (N2 := 5) mdX17_init rfl q1823 q1824 q166 dX1_squat_62 rfl rfl (Nat.le_of_ble_eq_true rfl) (k_X17_init (d := d - 1) (by omega) mset_s) (by omega) (by omega) (by omega) ?_
            refine PJ.mem mset_m ?_
            have dd_62 := y1.dd hn_54
            refine sxf (y1.fresh hn_54) mset_s (fun My3 y3 hm_62 => ?_)
            have hq_62 := (Or.inr (Or.inr (Or.inr (Or.inr (Or.inr ⟨rfl, rfl, hm_62⟩)))) : HoC My3 q_54 (ho4 (nI 6) (nI j_p) (-1) (-1)))
            refine pl_callVWv (pc := 65) (As := [_, _]) (C1 := 0) (N1 := 0) (C2 := 0) (N2 := 5) ckX2 mdX2_puts rfl q1275 q704 q705 q126 dX1_squat_65 rfl rfl (Nat.le_of_ble_eq_true rfl) (y3.r1) (x_X2_puts (d := d - 1) (by omega) y3 (by omega) hq_62 dd_62 (by decide)) (by omega) (by omega) (by omega) (fun My4 y4 => ?_)
            refine pl_iconst (pc := 68) (v := 1) dX1_squat_68 (by rfl) ?_
            refine pj_iret (pc := 69) dX1_squat_69 rfl ?_
            have g9 := past_tie y4 (t.e9 he_40) hj_c d27
            exact CQ.ok (τ := s_holds (sM ρ (S 4 0) (S 8 0) 7 (nI 0)) j_c (nI 6) (nI j_p)) (by first | (simp only [p_squat, hs9, ← hs0, hap_p, g_p, hap_c, g_c, c17, c27, d27, c43, ↓reduceIte]; first | done | rfl) | (simp [p_squat, hs9, ← hs0, hap_p, g_p, hap_c, g_c, c17, c27, d27, c43, Int32.not_lt, Int32.not_le]; first | done | rfl)) (by exact h00) (by rw [holds_sA13]; exact g9.P)
          · refine pj_bipush (pc := 46) (v := (-3)) dX1_squat_46 (by rfl) ?_
            refine pj_iret (pc := 48) dX1_squat_48 rfl ?_
            exact CQ.ok (τ := sM ρ (S 4 0) (S 8 0) 7 (nI 0)) (by first | (simp only [p_squat, hs9, ← hs0, hap_p, g_p, hap_c, g_c, c17, c27, d27, eq_true c43, ↓reduceIte]; first | done | rfl) | (simp [p_squat, hs9, ← hs0, hap_p, g_p, hap_c, g_c, c17, c27, d27, eq_true c43, Int32.not_lt, Int32.not_le]; first | done | rfl)) (by exact h00) (SB.P ⟨_, y1, t.e9 he_40⟩)
        · have d27 : ¬ sec ρ j_c 0 = nI 1 := of_decide_eq_false c27
          refine pj_bipush (pc := 30) (v := (-2)) dX1_squat_30 (by rfl) ?_
          refine pj_iret (pc := 32) dX1_squat_32 rfl ?_
          exact CQ.ok (τ := ρ) (by first | (simp only [p_squat, hs9, ← hs0, hap_p, g_p, hap_c, g_c, c17, c27, d27, ↓reduceIte]; first | done | rfl) | (simp [p_squat, hs9, ← hs0, hap_p, g_p, hap_c, g_c, c17, c27, d27, Int32.not_lt, Int32.not_le]; first | done | rfl)) h00 ⟨_, h, t⟩
      · refine pj_iconst (pc := 20) (v := (-1)) dX1_squat_20 (by rfl) ?_
        refine pj_iret (pc := 21) dX1_squat_21 rfl ?_
        exact CQ.ok (τ := ρ) (by first | (simp only [p_squat, hs9, ← hs0, hap_p, g_p, hap_c, g_c, c17, ↓reduceIte]; first | done | rfl) | (simp [p_squat, hs9, ← hs0, hap_p, g_p, hap_c, g_c, c17, Int32.not_lt, Int32.not_le]; first | done | rfl)) h00 ⟨_, h, t⟩
theorem p_run_new {σ : MS} {n nl p c : Nat} (hp : p < n) (hn : n ≤ 100) (hc : c < 96) (h2 : nI 2 ≤ per (s0 σ) p 2) (ho : ownPastV (s0 σ) p c = false) (hl : sec (s0 σ) c 0 = nI 1) (hv : (meanV (s0 σ) n nl 3 (nI 0)).1 ≤ per (s0 σ) p 1) : p_run σ n nl (nI p) (nI c) = ((meanV (s0 σ) n nl 3 (nI 0)).1, sA (sR (s_holds (sR (s_pays (s0 σ) p (-(meanV (s0 σ) n nl 3 (nI 0)).1)) 2118 (row (s_pays (s0 σ) p (-(meanV (s0 σ) n nl 3 (nI 0)).1)) 2118 + (meanV (s0 σ) n nl 3 (nI 0)).1)) c (nI 4) (nI p)) (8 * c + 2) (row (sR (s_pays (s0 σ) p (-(meanV (s0 σ) n nl 3 (nI 0)).1)) 2118 (row (s_pays (s0 σ) p (-(meanV (s0 σ) n nl 3 (nI 0)).1)) 2118 + (meanV (s0 σ) n nl 3 (nI 0)).1)) 2116 + nI 52)) 13 (meanV (s0 σ) n nl 3 (nI 0)).2) := by
  unfold p_run
  rw [inN_nI hp (by omega), inN_nI hc (by decide), if_neg (by decide), if_neg (by decide), tN_nI (by omega), tN_nI (by omega)]
  dsimp only
  rw [if_neg (by rw [decide_eq_true h2]; decide), if_neg (fun z => z.1 hl), if_neg (fun z => z hv), ho, if_neg (by decide)]
  simp only [sM, pays_sA13, sR_sA13, rowP, holds_sA13]
  rw [sR_self (σ := s_holds _ c (nI 4) (nI p)) (j := 8 * c + 0) (v := nI 4) ((holds_sec (j := 0) (by decide)).trans rfl), holds_row (j := 2116) (by omega)]
theorem p_run_own {σ : MS} {n nl p c : Nat} (hp : p < n) (hn : n ≤ 100) (hc : c < 96) (h2 : nI 2 ≤ per (s0 σ) p 2) (ho : ownPastV (s0 σ) p c = true) (hv : (meanV (s0 σ) n nl 3 (nI 0)).1 ≤ per (s0 σ) p 1) : p_run σ n nl (nI p) (nI c) = ((meanV (s0 σ) n nl 3 (nI 0)).1, sA (sR (sR (sR (s_pays (s0 σ) p (-(meanV (s0 σ) n nl 3 (nI 0)).1)) 2118 (row (s_pays (s0 σ) p (-(meanV (s0 σ) n nl 3 (nI 0)).1)) 2118 + (meanV (s0 σ) n nl 3 (nI 0)).1)) (8 * c + 0) (nI 4)) (8 * c + 2) (row (sR (s_pays (s0 σ) p (-(meanV (s0 σ) n nl 3 (nI 0)).1)) 2118 (row (s_pays (s0 σ) p (-(meanV (s0 σ) n nl 3 (nI 0)).1)) 2118 + (meanV (s0 σ) n nl 3 (nI 0)).1)) 2116 + nI 52)) 13 (meanV (s0 σ) n nl 3 (nI 0)).2) := by
  unfold p_run
  rw [inN_nI hp (by omega), inN_nI hc (by decide), if_neg (by decide), if_neg (by decide), tN_nI (by omega), tN_nI (by omega)]
  dsimp only
  rw [if_neg (by rw [decide_eq_true h2]; decide), if_neg (fun z => by rw [ho] at z; exact absurd z.2 (by decide)), if_neg (fun z => z hv), ho, if_pos rfl]
  simp only [sM, pays_sA13, sR_sA13, rowP]
  rw [rowS_ne (show 2116 ≠ 8 * c + 0 by omega)]
set_option maxHeartbeats 600000 in
theorem x_X1_run {g : GP} {μ : Mem} {d : Nat} {P : Nat → Prop} {F : Mem} {A : XA} {S : Nat → Nat → Nat} {b : XS} {σ : MS} {nor nw : Nat} (s : SB g P F A 0 S b σ nw μ) (iv : IvG σ (S 4 0) (S 8 0) (S 10 0) (S 6 0) nor nw) (rs : RsX σ) (hd : 330 ≤ d) {p : Int32} {c : Int32} : PM g yX1_run (ws_ yX1_run cX1_run 7 (some .int)) d 1 6 [.ref (A 0 0 0), .int p, .int c] μ (CQ ["java/lang/IndexOutOfBoundsException"] (p_run σ (S 4 0) (S 8 0) p c) (fun τ M => SB g P F A 0 S b τ nw M)) := by
  refine PM.of (by decide +kernel) (Nat.le_of_ble_eq_true rfl) ?_
  refine PJ.ok (fun G => ?_)
  show PJ g _ _ _ _ d 1 6 0 [(0, .ref (A 0 0 0)), (1, .int p), (2, .int c)] [] _ _
  obtain ⟨ρ, hs0⟩ : ∃ ρ, ρ = sF σ 0 (nI 0) := ⟨_, rfl⟩
  have hs9 : s0 σ = ρ := hs0.symm
  have s1 := s.F0 (x := nI 0)
  rw [← hs0] at s1
  obtain ⟨e, h, t⟩ := s1
  have iv1 : IvG ρ (S 4 0) (S 8 0) (S 10 0) (S 6 0) nor nw := by rw [hs0]; exact iv.f0
  have rs1 : RsX ρ := by rw [hs0]; exact rs
  have h00 : ρ.1 0 = nI 0 := by rw [hs0]; rfl
  have hS4 := h.hz.2.1
  have hS6 := h.hz.2.2.1
  have hS8 := h.hz.2.2.2.1
  have hS10 := h.hz.2.2.2.2.1
  cases hap_p : inN p (S 4 0) with
  | false =>
    refine pl_aload_n (pc := 0) dX1_run_0 rfl rfl ?_
    refine pl_iload_n (pc := 1) dX1_run_1 rfl rfl ?_
    refine pl_callVX (pc := 2) (As := [_]) (C1 := 1) (N1 := 6) (C2 := 0) (N2 := 0) (E8 := "java/lang/IndexOutOfBoundsException") ckX1 mdX1_personOf rfl q1411 q1413 qs9 q125 dX1_run_2 rfl rfl (Nat.le_of_ble_eq_true rfl) (h.r0) (x_X1_personOf_no (d := d - 1) (by omega) h hap_p) (by omega) (by omega) (by omega) (fun q_2 M_2 hM_2 => ?_)
    refine px_out0 rfl ?_
    exact CQ.no 0 (v := nI 0) (τ := sF ρ 0 (nI 1)) (by rw [show sF ρ 0 (nI 1) = th σ 1 by rw [hs0]]; first | (simp only [p_run, hap_p, ↓reduceIte]; first | done | rfl) | (simp [p_run, hap_p, Int32.not_lt, Int32.not_le]; first | done | rfl)) rfl rfl (SB.mono (SB.F0 ⟨_, h, t⟩) hM_2)
  | true =>
    obtain ⟨j_p, hj_p, rfl⟩ := inN_of (by omega) hap_p
    have g_p := tN_nI (n := j_p) (by omega)
    cases hap_c : inN c 96 with
    | false =>
      refine pl_aload_n (pc := 0) dX1_run_0 rfl rfl ?_
      refine pl_iload_n (pc := 1) dX1_run_1 rfl rfl ?_
      refine pl_callVd (pc := 2) (As := [_]) (C1 := 0) (N1 := 0) (C2 := 1) (N2 := 6) ckX1 mdX1_personOf rfl q1411 q1413 qs9 q125 dX1_run_2 rfl rfl (Nat.le_of_ble_eq_true rfl) (h.r0) (x_X1_personOf_ok (d := d - 1) (by omega) h (by omega)) (by omega) (by omega) (by omega) ?_
      refine pj_astore_n (pc := 5) (lv' := [(3, _), (0, _), (1, _), (2, _)]) dX1_run_5 rfl (by decide) rfl ?_
      refine pl_aload_n (pc := 6) dX1_run_6 rfl rfl ?_
      refine pl_iload_n (pc := 7) dX1_run_7 rfl rfl ?_
      refine pl_callVX (pc := 8) (As := [_]) (C1 := 1) (N1 := 6) (C2 := 0) (N2 := 0) (E8 := "java/lang/IndexOutOfBoundsException") ckX1 mdX1_slotOf rfl q1239 q1241 qs7 q125 dX1_run_8 rfl rfl (Nat.le_of_ble_eq_true rfl) (h.r0) (x_X1_slotOf_no (d := d - 1) (by omega) h hap_c) (by omega) (by omega) (by omega) (fun q_8 M_8 hM_8 => ?_)
      refine px_out0 rfl ?_
      exact CQ.no 0 (v := nI 0) (τ := sF ρ 0 (nI 1)) (by rw [show sF ρ 0 (nI 1) = th σ 1 by rw [hs0]]; first | (simp only [p_run, hap_p, g_p, hap_c, ↓reduceIte]; first | done | rfl) | (simp [p_run, hap_p, g_p, hap_c, Int32.not_lt, Int32.not_le]; first | done | rfl)) rfl rfl (SB.mono (SB.F0 ⟨_, h, t⟩) hM_8)
    | true =>
      obtain ⟨j_c, hj_c, rfl⟩ := inN_of (by omega) hap_c
      have g_c := tN_nI (n := j_c) (by omega)
      refine pl_aload_n (pc := 0) dX1_run_0 rfl rfl ?_
      refine pl_iload_n (pc := 1) dX1_run_1 rfl rfl ?_
      refine pl_callVd (pc := 2) (As := [_]) (C1 := 0) (N1 := 0) (C2 := 1) (N2 := 6) ckX1 mdX1_personOf rfl q1411 q1413 qs9 q125 dX1_run_2 rfl rfl (Nat.le_of_ble_eq_true rfl) (h.r0) (x_X1_personOf_ok (d := d - 1) (by omega) h (by omega)) (by omega) (by omega) (by omega) ?_
      refine pj_astore_n (pc := 5) (lv' := [(3, _), (0, _), (1, _), (2, _)]) dX1_run_5 rfl (by decide) rfl ?_
      refine pl_aload_n (pc := 6) dX1_run_6 rfl rfl ?_
      refine pl_iload_n (pc := 7) dX1_run_7 rfl rfl ?_
      obtain ⟨q_8, hm_8, hq_8, hdd_8⟩ := h.held (s := j_c) (by omega)
      refine pl_callVd (pc := 8) (As := [_]) (C1 := 0) (N1 := 0) (C2 := 1) (N2 := 6) ckX1 mdX1_slotOf rfl q1239 q1241 qs7 q125 dX1_run_8 rfl rfl (Nat.le_of_ble_eq_true rfl) (h.r0) (x_X1_slotOf_ok (d := d - 1) (by omega) h (by omega)) (by omega) (by omega) (by omega) ?_
      refine pj_astore (pc := 11) (lv' := [(4, _), (3, _), (0, _), (1, _), (2, _)]) dX1_run_11 (by decide) rfl ?_
      refine pl_aload_n (pc := 13) dX1_run_13 rfl rfl ?_
      refine pl_callVd (pc := 14) (As := []) (C1 := 0) (N1 := 0) (C2 := 1) (N2 := 6) ckX10 mdX10_isHere rfl q1591 q1192 q1193 q158 dX1_run_14 rfl rfl (Nat.le_of_ble_eq_true rfl) (h.r35 (by omega)) (x_X10_isHere (d := d - 1) (by omega) h (by omega)) (by omega) (by omega) (by omega) ?_
      refine pl_if_neB (pc := 17) (tgt := 22) dX1_run_17 (by decide) (fun c17 => ?_) (fun c17 => ?_)
      · have dH : decide (nI 2 ≤ per ρ j_p 2) = true := c17
        refine pl_aload (pc := 22) dX1_run_22 rfl ?_
        refine pl_callVd (pc := 24) (As := []) (C1 := 0) (N1 := 0) (C2 := 1) (N2 := 6) ckX8 mdX8_pasture rfl q1341 q1342 q1343 q152 dX1_run_24 rfl rfl (Nat.le_of_ble_eq_true rfl) hm_8 (k_X8_pasture (d := d - 1) (by omega) hm_8 hq_8) (by omega) (by omega) (by omega) ?_
        by_cases cP : isPastV (sec ρ j_c 0) = true
        · rw [if_pos (show isPastV (hoR ρ j_c 0) = true from cP)]
          refine pj_astore (pc := 27) (lv' := [(5, _), (4, _), (3, _), (0, _), (1, _), (2, _)]) dX1_run_27 (by decide) rfl ?_
          refine pl_aload (pc := 29) dX1_run_29 rfl ?_
          refine pl_callVd (pc := 31) (As := []) (C1 := 0) (N1 := 0) (C2 := 1) (N2 := 6) ckX8 mdX8_isLot rfl q1698 q1699 q1700 q152 dX1_run_31 rfl rfl (Nat.le_of_ble_eq_true rfl) hm_8 (k_X8_isLot (d := d - 1) (by omega) hm_8 hq_8) (by omega) (by omega) (by omega) ?_
          refine PJ.top (ho_isLot) ?_
          refine pl_if_neB (pc := 34) (tgt := 57) dX1_run_34 (by decide) (fun c34 => ?_) (fun c34 => ?_)
          · exact absurd cP (by rw [show sec ρ j_c 0 = nI 1 from of_decide_eq_true c34]; decide)
          · refine pl_aload (pc := 37) dX1_run_37 rfl ?_
            refine pj_ifnull (pc := 39) dX1_run_39 ?_
            refine pl_aload (pc := 42) dX1_run_42 rfl ?_
            refine ph_holder_P (pc := 44) hq_8 cP q1803 dX1_run_44 (by omega) (Nat.le_of_ble_eq_true rfl) ?_
            refine pl_aload_n (pc := 47) dX1_run_47 rfl rfl ?_
            refine pj_getfN (pc := 48) ckX10 0 q1066 dX1_run_48 (by decide) (h.r35 (by omega)) rfl ?_
            refine pj_icmp_eq (pc := 51) (tgt := 57) dX1_run_51 (by decide) (fun c51 => ?_) (fun c51 => ?_)
            · have h1_c : sec ρ j_c 1 = nI j_p := c51
              have hown : ownPastV ρ j_p j_c = true := by unfold ownPastV; rw [cP, decide_eq_true h1_c]; rfl
              refine pl_aload_n (pc := 57) dX1_run_57 rfl rfl ?_
              refine pj_getf (pc := 58) ckX1 0 q853 dX1_run_58 (by decide) (h.r0) rfl ?_
              refine pl_iconst (pc := 61) (v := 3) dX1_run_61 (by rfl) ?_
              refine pl_iconst (pc := 62) (v := 0) dX1_run_62 (by rfl) ?_
              refine pl_callVWd (pc := 63) (As := [_, _]) (C1 := 0) (N1 := 0) (C2 := 1) (N2 := 6) ckX2 mdX2_means rfl q1782 q1708 q1709 q126 dX1_run_63 rfl rfl (Nat.le_of_ble_eq_true rfl) (h.r1) (x_X2_means (d := d - 1) (by omega) h (by omega) t.ht) (by omega) (by omega) (by omega) (fun My1 qy1 => ?_)
              obtain ⟨e_63, he_63, y1⟩ := qy1
              refine pj_istore (pc := 66) (lv' := [(6, _), (5, _), (4, _), (3, _), (0, _), (1, _), (2, _)]) dX1_run_66 (by decide) rfl ?_
              refine pl_aload_n (pc := 68) dX1_run_68 rfl rfl ?_
              refine pj_getfN (pc := 69) ckX10 2 q1072 dX1_run_69 (by decide) (y1.r35 (by omega)) rfl ?_
              refine pl_iload (pc := 72) dX1_run_72 rfl ?_
              refine pj_icmp_ge (pc := 74) (tgt := 80) dX1_run_74 (by decide) (fun c74 => ?_) (fun c74 => ?_)
              · obtain ⟨m_p, hm_p, em_p⟩ := t.coins hj_p
                obtain ⟨k_v, hk_v, ek_v⟩ := mean_in (σ := ρ) (n := S 4 0) (nl := S 8 0) (name := 3) (gr := nI 0) (by decide) t.tr1 t.tr2
                have pt := pays_to em_p ek_v hm_p (by omega) c74
                refine pl_aload_n (pc := 80) dX1_run_80 rfl rfl ?_
                refine pj_dup (pc := 81) dX1_run_81 rfl ?_
                refine pj_getfN (pc := 82) ckX10 2 q1072 dX1_run_82 (by decide) (y1.r35 (by omega)) rfl ?_
                refine pl_iload (pc := 85) dX1_run_85 rfl ?_
                refine pj_isub (pc := 87) dX1_run_87 ?_
                refine pj_putfN (pc := 88) ckX10 2 q1072 dX1_run_88 (by decide) rfl (y1.r35 (by omega)) rfl rfl (Nat.le_of_ble_eq_true rfl) ?_
                refine sxk (y1.p35_2 (by omega)) (fun My2 y2 => ?_)
                rw [pt.2] at y2
                refine pl_aload_n (pc := 91) dX1_run_91 rfl rfl ?_
                refine pj_getf (pc := 92) ckX1 0 q853 dX1_run_92 (by decide) (y2.r0) rfl ?_
                refine pj_dup (pc := 95) dX1_run_95 rfl ?_
                refine pj_getfN (pc := 96) ckX2 2 q730 dX1_run_96 (by decide) (y2.r1) rfl ?_
                refine pl_iload (pc := 99) dX1_run_99 rfl ?_
                refine pj_iadd (pc := 101) dX1_run_101 ?_
                refine pj_putfN (pc := 102) ckX2 2 q730 dX1_run_102 (by decide) rfl (y2.r1) rfl rfl (Nat.le_of_ble_eq_true rfl) ?_
                refine sxk (y2.p1_2) (fun My3 y3 => ?_)
                obtain ⟨υ, hυ⟩ : ∃ υ, υ = sR (sR ρ (768 + 8 * j_p + 1) (nI (m_p - k_v))) 2118 (row (sR ρ (768 + 8 * j_p + 1) (nI (m_p - k_v))) 2118 + (meanV ρ (S 4 0) (S 8 0) 3 (nI 0)).1) := ⟨_, rfl⟩
                have yu := SX.at9 y3 hυ
                have tu : TieX 0 S υ e_63 nw := by rw [hυ]; exact coin_tie (t.e9 he_63) h.hz hj_p (by omega)
                have ru : ∀ j, j ≠ 768 + 8 * j_p + 1 → j ≠ 2118 → row υ j = row ρ j := fun j h1 h2 => by rw [hυ]; exact (rowS_ne h2).trans (rowS_ne h1)
                refine pl_aload (pc := 105) dX1_run_105 rfl ?_
                refine pj_ifnonnull (pc := 107) (tgt := 132) dX1_run_107 (by decide) ?_
                refine pl_aload (pc := 132) dX1_run_132 rfl ?_
                refine pj_new (pc := 134) (C1 := 0) (N1 := 5) ckX16 q1804 q1805 q165 dX1_run_134 _ dfX16 (by omega) (by omega) (fun q_134 hn_134 gq_134 => ?_)
                refine sxh (yu.fresh hn_134) (fun y4 => ?_)
                refine pj_dup (pc := 137) dX1_run_137 rfl ?_
                refine pl_aload_n (pc := 138) dX1_run_138 rfl rfl ?_
                refine pj_getfN (pc := 139) ckX10 0 q1066 dX1_run_139 (by decide) (y4.r35 (by omega)) rfl ?_
                refine pl_callIv (pc := 142) (As := [_]) (C1 := 0) (N1 := 0) (C2 := 0) (N2 := 5) mdX16_init rfl q1806 q1807 q165 dX1_run_142 rfl rfl (Nat.le_of_ble_eq_true rfl) (k_X16_init (d := d - 1) (by omega) mset_s) (by omega) (by omega) (by omega) ?_
                refine PJ.mem mset_m ?_
                have dd_142 := yu.dd hn_134
                refine sxf (yu.fresh hn_134) mset_s (fun My5 y5 hm_142 => ?_)
                have hq_142 := (Or.inr (Or.inr (Or.inr (Or.inl ⟨rfl, rfl, hm_142⟩))) : HoC My5 q_134 (ho4 (nI 4) (nI j_p) (-1) (sec υ j_c 6)))
                obtain ⟨q_145, hm_145, hq_145, hdd_145⟩ := y5.held (s := j_c) hj_c
                refine pj_putfN (pc := 145) ckX8 0 q628 dX1_run_145 (by decide) rfl hm_145 rfl rfl (Nat.le_of_ble_eq_true rfl) ?_
                refine sxk (y5.slot hj_c hq_142 dd_142) (fun My6 y6 => ?_)
                refine pl_aload_n (pc := 148) dX1_run_148 rfl rfl ?_
                refine pj_getf (pc := 149) ckX1 0 q853 dX1_run_149 (by decide) (y6.r0) rfl ?_
                refine pj_getfN (pc := 152) ckX2 17 q758 dX1_run_152 (by decide) (y6.r1) rfl ?_
                refine pl_iload_n (pc := 155) dX1_run_155 rfl rfl ?_
                refine pl_aload_n (pc := 156) dX1_run_156 rfl rfl ?_
                refine pj_getf (pc := 157) ckX1 0 q853 dX1_run_157 (by decide) (y6.r0) rfl ?_
                refine pj_getfN (pc := 160) ckX2 0 q726 dX1_run_160 (by decide) (y6.r1) rfl ?_
                refine PJ.top (y := row υ 2116) (by unfold hoS; rw [rowS_ne (by omega), rowS_ne (by omega), rowS_ne (by omega), rowS_ne (by omega)]) ?_
                refine pl_bipush (pc := 163) (v := 52) dX1_run_163 (by rfl) ?_
                refine pj_iadd (pc := 165) dX1_run_165 ?_
                refine pl_iast (pc := 166) (n := 96) dX1_run_166 (y6.r20) (by omega) (by decide) ?_
                refine sxk (y6.p20 (by omega)) (fun My7 y7 => ?_)
                refine pl_iload (pc := 167) dX1_run_167 rfl ?_
                refine pj_iret (pc := 169) dX1_run_169 rfl ?_
                have g9 := rerun_tie y7 tu hj_c (by rw [show sec υ j_c 0 = sec ρ j_c 0 from ru _ (by omega) (by omega)]; exact cP) (by rw [show sec υ j_c 1 = sec ρ j_c 1 from ru _ (by omega) (by omega)]; exact h1_c) (by rw [show sec υ j_c 5 = sec ρ j_c 5 from ru _ (by omega) (by omega)]; exact hq_8.past cP)
                exact CQ.ok (by rw [p_run_own hj_p hS4 hj_c (by rw [hs9]; exact of_decide_eq_true dH) (by rw [hs9]; exact hown) (by rw [hs9]; exact c74), hs9, pt.1, ← hυ]) (by show υ.1 0 = nI 0; rw [hυ]; exact h00) (SB.P (f := (meanV ρ (S 4 0) (S 8 0) 3 (nI 0)).2) g9)
              · refine pj_bipush (pc := 77) (v := (-3)) dX1_run_77 (by rfl) ?_
                refine pj_iret (pc := 79) dX1_run_79 rfl ?_
                exact CQ.ok (τ := sM ρ (S 4 0) (S 8 0) 3 (nI 0)) (by first | (simp only [p_run, hs9, ← hs0, hap_p, g_p, hap_c, g_c, c17, c34, eq_true c51, hown, c74, ↓reduceIte]; first | done | rfl) | (simp [p_run, hs9, ← hs0, hap_p, g_p, hap_c, g_c, c17, c34, eq_true c51, hown, c74, Int32.not_lt, Int32.not_le]; first | done | rfl)) (by exact h00) (SB.P ⟨_, y1, t.e9 he_63⟩)
            · have d34 : ¬ sec ρ j_c 0 = nI 1 := of_decide_eq_false c34
              have hown : ownPastV ρ j_p j_c = false := by unfold ownPastV; rw [show decide (sec ρ j_c 1 = nI j_p) = false from decide_eq_false c51]; simp
              refine pj_bipush (pc := 54) (v := (-2)) dX1_run_54 (by rfl) ?_
              refine pj_iret (pc := 56) dX1_run_56 rfl ?_
              exact CQ.ok (τ := sM ρ (S 4 0) (S 8 0) 3 (nI 0)) (by first | (simp only [p_run, hs9, ← hs0, hap_p, g_p, hap_c, g_c, c17, c34, c51, hown, d34, ↓reduceIte]; first | done | rfl) | (simp [p_run, hs9, ← hs0, hap_p, g_p, hap_c, g_c, c17, c34, c51, hown, d34, Int32.not_lt, Int32.not_le]; first | done | rfl)) (by exact h00) (SB.P ⟨_, h, t⟩)
        · rw [if_neg (show ¬ isPastV (hoR ρ j_c 0) = true from cP)]
          have hown : ownPastV ρ j_p j_c = false := by unfold ownPastV; rw [Bool.eq_false_iff.mpr cP]; rfl
          refine pj_astoreN (pc := 27) (lv' := [(5, _), (4, _), (3, _), (0, _), (1, _), (2, _)]) dX1_run_27 (by decide) rfl ?_
          refine pl_aload (pc := 29) dX1_run_29 rfl ?_
          refine pl_callVd (pc := 31) (As := []) (C1 := 0) (N1 := 0) (C2 := 1) (N2 := 6) ckX8 mdX8_isLot rfl q1698 q1699 q1700 q152 dX1_run_31 rfl rfl (Nat.le_of_ble_eq_true rfl) hm_8 (k_X8_isLot (d := d - 1) (by omega) hm_8 hq_8) (by omega) (by omega) (by omega) ?_
          refine PJ.top (ho_isLot) ?_
          refine pl_if_neB (pc := 34) (tgt := 57) dX1_run_34 (by decide) (fun c34 => ?_) (fun c34 => ?_)
          · have d34 : sec ρ j_c 0 = nI 1 := of_decide_eq_true c34
            refine pl_aload_n (pc := 57) dX1_run_57 rfl rfl ?_
            refine pj_getf (pc := 58) ckX1 0 q853 dX1_run_58 (by decide) (h.r0) rfl ?_
            refine pl_iconst (pc := 61) (v := 3) dX1_run_61 (by rfl) ?_
            refine pl_iconst (pc := 62) (v := 0) dX1_run_62 (by rfl) ?_
            refine pl_callVWd (pc := 63) (As := [_, _]) (C1 := 0) (N1 := 0) (C2 := 1) (N2 := 6) ckX2 mdX2_means rfl q1782 q1708 q1709 q126 dX1_run_63 rfl rfl (Nat.le_of_ble_eq_true rfl) (h.r1) (x_X2_means (d := d - 1) (by omega) h (by omega) t.ht) (by omega) (by omega) (by omega) (fun My8 qy8 => ?_)
            obtain ⟨e_63, he_63, y8⟩ := qy8
            refine pj_istore (pc := 66) (lv' := [(6, _), (5, _), (4, _), (3, _), (0, _), (1, _), (2, _)]) dX1_run_66 (by decide) rfl ?_
            refine pl_aload_n (pc := 68) dX1_run_68 rfl rfl ?_
            refine pj_getfN (pc := 69) ckX10 2 q1072 dX1_run_69 (by decide) (y8.r35 (by omega)) rfl ?_
            refine pl_iload (pc := 72) dX1_run_72 rfl ?_
            refine pj_icmp_ge (pc := 74) (tgt := 80) dX1_run_74 (by decide) (fun c74 => ?_) (fun c74 => ?_)
            · obtain ⟨m_p, hm_p, em_p⟩ := t.coins hj_p
              obtain ⟨k_v, hk_v, ek_v⟩ := mean_in (σ := ρ) (n := S 4 0) (nl := S 8 0) (name := 3) (gr := nI 0) (by decide) t.tr1 t.tr2
              have pt := pays_to em_p ek_v hm_p (by omega) c74
              refine pl_aload_n (pc := 80) dX1_run_80 rfl rfl ?_
              refine pj_dup (pc := 81) dX1_run_81 rfl ?_
              refine pj_getfN (pc := 82) ckX10 2 q1072 dX1_run_82 (by decide) (y8.r35 (by omega)) rfl ?_
              refine pl_iload (pc := 85) dX1_run_85 rfl ?_
              refine pj_isub (pc := 87) dX1_run_87 ?_
              refine pj_putfN (pc := 88) ckX10 2 q1072 dX1_run_88 (by decide) rfl (y8.r35 (by omega)) rfl rfl (Nat.le_of_ble_eq_true rfl) ?_
              refine sxk (y8.p35_2 (by omega)) (fun My9 y9 => ?_)
              rw [pt.2] at y9
              refine pl_aload_n (pc := 91) dX1_run_91 rfl rfl ?_
              refine pj_getf (pc := 92) ckX1 0 q853 dX1_run_92 (by decide) (y9.r0) rfl ?_
              refine pj_dup (pc := 95) dX1_run_95 rfl ?_
              refine pj_getfN (pc := 96) ckX2 2 q730 dX1_run_96 (by decide) (y9.r1) rfl ?_
              refine pl_iload (pc := 99) dX1_run_99 rfl ?_
              refine pj_iadd (pc := 101) dX1_run_101 ?_
              refine pj_putfN (pc := 102) ckX2 2 q730 dX1_run_102 (by decide) rfl (y9.r1) rfl rfl (Nat.le_of_ble_eq_true rfl) ?_
              refine sxk (y9.p1_2) (fun My10 y10 => ?_)
              obtain ⟨υ, hυ⟩ : ∃ υ, υ = sR (sR ρ (768 + 8 * j_p + 1) (nI (m_p - k_v))) 2118 (row (sR ρ (768 + 8 * j_p + 1) (nI (m_p - k_v))) 2118 + (meanV ρ (S 4 0) (S 8 0) 3 (nI 0)).1) := ⟨_, rfl⟩
              have yu := SX.at9 y10 hυ
              have tu : TieX 0 S υ e_63 nw := by rw [hυ]; exact coin_tie (t.e9 he_63) h.hz hj_p (by omega)
              have ru : ∀ j, j ≠ 768 + 8 * j_p + 1 → j ≠ 2118 → row υ j = row ρ j := fun j h1 h2 => by rw [hυ]; exact (rowS_ne h2).trans (rowS_ne h1)
              refine pl_aloadN (pc := 105) dX1_run_105 rfl ?_
              refine pj_ifnonnullN (pc := 107) dX1_run_107 ?_
              refine pl_aload_n (pc := 110) dX1_run_110 rfl rfl ?_
              refine pj_getf (pc := 111) ckX1 0 q853 dX1_run_111 (by decide) (yu.r0) rfl ?_
              refine pl_iload_n (pc := 114) dX1_run_114 rfl rfl ?_
              refine pj_new (pc := 115) (C1 := 0) (N1 := 5) ckX16 q1804 q1805 q165 dX1_run_115 _ dfX16 (by omega) (by omega) (fun q_115 hn_115 gq_115 => ?_)
              refine sxh (yu.fresh hn_115) (fun y11 => ?_)
              refine pj_dup (pc := 118) dX1_run_118 rfl ?_
              refine pl_aload_n (pc := 119) dX1_run_119 rfl rfl ?_
              refine pj_getfN (pc := 120) ckX10 0 q1066 dX1_run_120 (by decide) (y11.r35 (by omega)) rfl ?_
              refine pl_callIv (pc := 123) (As := [_]) (C1 := 0) (N1 := 0) (C2 := 0) (N2 := 5) mdX16_init rfl q1806 q1807 q165 dX1_run_123 rfl rfl (Nat.le_of_ble_eq_true rfl) (k_X16_init (d := d - 1) (by omega) mset_s) (by omega) (by omega) (by omega) ?_
              refine PJ.mem mset_m ?_
              have dd_123 := yu.dd hn_115
              refine sxf (yu.fresh hn_115) mset_s (fun My12 y12 hm_123 => ?_)
              have hq_123 := (Or.inr (Or.inr (Or.inr (Or.inl ⟨rfl, rfl, hm_123⟩))) : HoC My12 q_115 (ho4 (nI 4) (nI j_p) (-1) (-1)))
              refine pl_callVWv (pc := 126) (As := [_, _]) (C1 := 0) (N1 := 0) (C2 := 0) (N2 := 5) ckX2 mdX2_puts rfl q1275 q704 q705 q126 dX1_run_126 rfl rfl (Nat.le_of_ble_eq_true rfl) (y12.r1) (x_X2_puts (d := d - 1) (by omega) y12 (by omega) hq_123 dd_123 (by decide)) (by omega) (by omega) (by omega) (fun My13 y13 => ?_)
              refine pj_goto (pc := 129) (tgt := 148) dX1_run_129 (by decide) ?_
              refine pl_aload_n (pc := 148) dX1_run_148 rfl rfl ?_
              refine pj_getf (pc := 149) ckX1 0 q853 dX1_run_149 (by decide) (y13.r0) rfl ?_
              refine pj_getfN (pc := 152) ckX2 17 q758 dX1_run_152 (by decide) (y13.r1) rfl ?_
              refine pl_iload_n (pc := 155) dX1_run_155 rfl rfl ?_
              refine pl_aload_n (pc := 156) dX1_run_156 rfl rfl ?_
              refine pj_getf (pc := 157) ckX1 0 q853 dX1_run_157 (by decide) (y13.r0) rfl ?_
              refine pj_getfN (pc := 160) ckX2 0 q726 dX1_run_160 (by decide) (y13.r1) rfl ?_
              refine PJ.top (y := row υ 2116) (puts_row (by omega)) ?_
              refine pl_bipush (pc := 163) (v := 52) dX1_run_163 (by rfl) ?_
              refine pj_iadd (pc := 165) dX1_run_165 ?_
              refine pl_iast (pc := 166) (n := 96) dX1_run_166 (y13.r20) (by omega) (by decide) ?_
              refine sxk (y13.p20 (by omega)) (fun My14 y14 => ?_)
              refine pl_iload (pc := 167) dX1_run_167 rfl ?_
              refine pj_iret (pc := 169) dX1_run_169 rfl ?_
              have g9 := run_tie y14 tu hj_c (by rw [show sec υ j_c 0 = sec ρ j_c 0 from ru _ (by omega) (by omega)]; exact d34)
              exact CQ.ok (by rw [p_run_new hj_p hS4 hj_c (by rw [hs9]; exact of_decide_eq_true dH) (by rw [hs9]; exact hown) (by rw [hs9]; exact d34) (by rw [hs9]; exact c74), hs9, pt.1, ← hυ]) (by show υ.1 0 = nI 0; rw [hυ]; exact h00) (SB.P (f := (meanV ρ (S 4 0) (S 8 0) 3 (nI 0)).2) g9)
            · refine pj_bipush (pc := 77) (v := (-3)) dX1_run_77 (by rfl) ?_
              refine pj_iret (pc := 79) dX1_run_79 rfl ?_
              exact CQ.ok (τ := sM ρ (S 4 0) (S 8 0) 3 (nI 0)) (by first | (simp only [p_run, hs9, ← hs0, hap_p, g_p, hap_c, g_c, c17, hown, c34, d34, c74, ↓reduceIte]; first | done | rfl) | (simp [p_run, hs9, ← hs0, hap_p, g_p, hap_c, g_c, c17, hown, c34, d34, c74, Int32.not_lt, Int32.not_le]; first | done | rfl)) (by exact h00) (SB.P ⟨_, y8, t.e9 he_63⟩)
          · refine pl_aloadN (pc := 37) dX1_run_37 rfl ?_
            refine pj_ifnullN (pc := 39) (tgt := 54) dX1_run_39 (by decide) ?_
            have d34 : ¬ sec ρ j_c 0 = nI 1 := of_decide_eq_false c34
            refine pj_bipush (pc := 54) (v := (-2)) dX1_run_54 (by rfl) ?_
            refine pj_iret (pc := 56) dX1_run_56 rfl ?_
            exact CQ.ok (τ := sM ρ (S 4 0) (S 8 0) 3 (nI 0)) (by first | (simp only [p_run, hs9, ← hs0, hap_p, g_p, hap_c, g_c, c17, hown, c34, d34, ↓reduceIte]; first | done | rfl) | (simp [p_run, hs9, ← hs0, hap_p, g_p, hap_c, g_c, c17, hown, c34, d34, Int32.not_lt, Int32.not_le]; first | done | rfl)) (by exact h00) (SB.P ⟨_, h, t⟩)
      · refine pj_iconst (pc := 20) (v := (-1)) dX1_run_20 (by rfl) ?_
        refine pj_iret (pc := 21) dX1_run_21 rfl ?_
        exact CQ.ok (τ := ρ) (by first | (simp only [p_run, hs9, ← hs0, hap_p, g_p, hap_c, g_c, c17, ↓reduceIte]; first | done | rfl) | (simp [p_run, hs9, ← hs0, hap_p, g_p, hap_c, g_c, c17, Int32.not_lt, Int32.not_le]; first | done | rfl)) h00 ⟨_, h, t⟩
