set_option maxRecDepth 100000
theorem sR_self {σ : MS} {j : Nat} {v : Int32} (h : row σ j = v) : sR σ j v = σ := by
  refine Prod.ext rfl (Prod.ext ?_ rfl)
  funext a x
  by_cases ha : a = 1
  · subst ha
    show row (sR σ j v) x = row σ x
    rw [rowS_if]
    by_cases h1 : x = j
    · rw [if_pos h1, h1, h]
    · rw [if_neg h1]
  · simp [sA, ha]
theorem hoS_self {σ : MS} {c : Nat} {k h p l : Int32} (h1 : row σ (8 * c + 1) = h) (h5 : row σ (8 * c + 5) = p) (h6 : row σ (8 * c + 6) = l) : hoS σ c k h p l = sR σ (8 * c + 0) k := by
  unfold hoS
  rw [sR_self (σ := sR σ (8 * c + 0) k) (j := 8 * c + 1) (by rw [rowS_ne (by omega)]; exact h1), sR_self (σ := sR σ (8 * c + 0) k) (j := 8 * c + 5) (by rw [rowS_ne (by omega)]; exact h5), sR_self (σ := sR σ (8 * c + 0) k) (j := 8 * c + 6) (by rw [rowS_ne (by omega)]; exact h6)]
theorem holds_sA13 {σ : MS} {c : Nat} {h p : Int32} {f : Nat → Int32} : s_holds (sA σ 13 f) c h p = sA (s_holds σ c h p) 13 f := by
  simp only [s_holds, sR_sA13]
theorem i2b_n : ∀ j, j < 10 → (nI j).toInt8.toInt32 = nI j := by decide +kernel
theorem narb_n : ∀ j, j < 10 → vp_nar .byte (nI j) = nI j := by decide +kernel
section LD
variable {g : GP} {P : Nat → Prop} {F : Mem} {A : XA} {w : Nat} {S : Nat → Nat → Nat} {b : XS} {σ τ : MS} {e e1 : XE} {M : Mem} {nw c : Nat}
/-- soil and water of a wild section are told -/
theorem tie_land {v x : Int32} {m k : Nat} (t : TieX w S σ e nw) (hz : SzX w S) (hc : c < 96) (hw : sec σ c 0 = nI 0) (hm : milesV x v = nI m) (hm1 : 1 ≤ m ∧ m ≤ 12) (hv : v = nI k) (hk : k ≤ 9) (hτ : τ = sR (wA (wA σ 3 c v) 4 c x) (8 * c + 7) (nI 0)) (he2 : ∀ q, q < 96 → e1 2 q = if q = c then milesV x v else e 2 q) (he : ∀ a, a ≠ 2 → a ≠ 3 → e1 a = e a) (he3 : ∀ q, q < 96 → e1 3 q = if q = c then -1 else e 3 q) : TieX w S τ e1 nw := by
  have z1 := hz.2.1
  have z6 := hz.2.2.1
  have z8 := hz.2.2.2.1
  have z10 := hz.2.2.2.2.1
  have hr : ∀ j, j ≠ 8 * c + 7 → row τ j = row σ j := fun j hj => by rw [hτ]; exact (rowS_ne hj).trans rfl
  have h7 : sec τ c 7 = nI 0 := by rw [hτ]; exact rowS_eq
  have a3 : ∀ q, τ.2.1 3 q = if q = c then v else σ.2.1 3 q := fun q => by
    rw [hτ]
    by_cases hq : q = c <;> simp [sA, upd, hq]
  have a4 : ∀ q, τ.2.1 4 q = if q = c then x else σ.2.1 4 q := fun q => by
    rw [hτ]
    by_cases hq : q = c <;> simp [sA, upd, hq]
  have a14 : τ.2.1 14 = σ.2.1 14 := by rw [hτ]; simp [sA]
  have h23 : τ.1 23 = σ.1 23 := by rw [hτ]; rfl
  have h24 : τ.1 24 = σ.1 24 := by rw [hτ]; rfl
  have s0 : ∀ j a, a < 96 → (j = 0 ∨ j = 1 ∨ j = 2 ∨ j = 3 ∨ j = 4 ∨ j = 5) → sec τ a j = sec σ a j := fun j a ha hj => hr _ (by omega)
  have hq : ∀ j a, a < S 4 w → j < 8 → per τ a j = per σ a j := fun j a ha hj => hr _ (by omega)
  have lw : ∀ l j, l < S 8 w → j < 6 → lawv τ l j = lawv σ l j := fun l j hl hj => hr _ (by omega)
  have bw : ∀ k j, k < S 10 w → j < 4 → row τ (1640 + 4 * k + j) = row σ (1640 + 4 * k + j) := fun k j hk hj => hr _ (by omega)
  have qw : ∀ a j, a < S 6 w → j < 15 → row τ (1720 + 15 * a + j) = row σ (1720 + 15 * a + j) := fun a j ha hj => hr _ (by omega)
  refine ⟨tHa_cg t (fun a ha => hq 2 a ha (by decide)) (fun a ha => hq 3 a ha (by decide)) (fun _ _ => by rw [he 0 (by decide) (by decide)]), tFa_cg t (fun c hc => s0 0 c hc (by decide)) (fun c hc => s0 1 c hc (by decide)) (fun _ _ => by rw [he 1 (by decide) (by decide)]), fun a ha => ?_, fun a ha => ?_, tSa_cg t (fun l hl => lw l 4 hl (by decide)) (fun l hl => lw l 5 hl (by decide)) (fun _ _ => by rw [he 6 (by decide) (by decide)]) (fun _ _ => by rw [he 15 (by decide) (by decide)]), tDu_cg t (fun k hk => bw k 2 hk (by decide)) (fun k hk => bw k 3 hk (by decide)) (fun _ _ => by rw [he 16 (by decide) (by decide)]), tQu_cg t qw (fun a _ _ _ => by rw [he (10 + a) (by omega) (by omega)]), tBo_cg t (fun a ha => hq 2 a ha (by decide)) (fun a ha => hq 3 a ha (by decide)), fun a ha => ⟨fun hf p hp z => ?_, ?_⟩, tHi_cg t (fun l hl => lw l 0 hl (by decide)) (fun l hl => lw l 3 hl (by decide)) (fun j _ => by rw [a14]) (fun _ _ => by rw [he 4 (by decide) (by decide)]) (fun _ _ => by rw [he 5 (by decide) (by decide)]), tRo_cg t (fun j _ => by rw [a14]) (fun _ _ => by rw [he 7 (by decide) (by decide)]), tCo_cg t (fun a ha => hq 1 a ha (by decide)), tTr_cg t h23 h24, ⟨fun a ha => ?_, fun a ha => ?_⟩, tGh_cg t (fun a ha => qw a 0 ha (by decide)) (fun k hk => bw k 0 hk (by decide)) (fun _ _ => by rw [he 16 (by decide) (by decide)])⟩
  · rw [he2 a ha, s0 0 a ha (by decide), a3, a4]
    by_cases eq : a = c
    · subst eq
      rw [if_pos rfl, if_pos rfl, if_pos rfl, if_pos hw, h7]
      exact (Int32.sub_zero _).symm
    · rw [if_neg eq, if_neg eq, if_neg eq, t.miles ha, show sec τ a 7 = sec σ a 7 from hr _ (by omega)]
  · rw [he3 a ha, s0 0 a ha (by decide)]
    by_cases eq : a = c
    · subst eq
      rw [if_pos rfl, if_neg (by rw [hw]; decide)]
    · rw [if_neg eq, t.ends ha, s0 2 a ha (by decide)]
  · rw [s0 0 a ha (by decide)] at hf
    rw [s0 1 a ha (by decide)] at z
    rw [hq 2 p hp (by decide)]
    exact t.own ha hf hp z
  · have ps := t.ps ha
    unfold PsX at ps ⊢
    rw [s0 0 a ha (by decide), s0 3 a ha (by decide), s0 4 a ha (by decide), s0 5 a ha (by decide), a3]
    refine ⟨ps.1, ps.2.1, ?_, ps.2.2.2⟩
    by_cases eq : a = c
    · rw [if_pos eq]
      exact ⟨k, hk, hv⟩
    · rw [if_neg eq]
      exact ps.2.2.1
  · obtain ⟨m9, x1, x2, x3⟩ := t.ivd.1 a ha
    rw [a3, a4, s0 0 a ha (by decide)]
    by_cases eq : a = c
    · subst eq
      rw [if_pos rfl, if_pos rfl]
      exact ⟨m, hm, hm1.2, fun _ => ⟨0, h7, by omega⟩⟩
    · rw [if_neg eq, if_neg eq]
      exact ⟨m9, x1, x2, fun z => by rw [show sec τ a 7 = sec σ a 7 from hr _ (by omega)]; exact x3 z⟩
  · rw [show row τ (1720 + 15 * a + 0) = row σ (1720 + 15 * a + 0) from hr _ (by omega)]
    exact t.ivd.2 a ha
theorem miles_in (bw : Bool) : ∀ k, k < 10 → ∃ m, milesV (bI bw) (nI k) = nI m ∧ 1 ≤ m ∧ m ≤ 12 := by
  intro k hk
  refine ⟨6 + (if bw then 3 else 0) + (9 - k) / 3, ?_, ?_, ?_⟩
  · have h : ∀ k, k < 10 → milesV (bI true) (nI k) = nI (6 + 3 + (9 - k) / 3) ∧ milesV (bI false) (nI k) = nI (6 + 0 + (9 - k) / 3) := by decide +kernel
    cases bw
    · exact (h k hk).2
    · exact (h k hk).1
  · omega
  · cases bw <;> simp <;> omega
/-- what was written at a wild section is what the model has -/
theorem land_tie {k : Nat} {bw : Bool} {l1 : Int32} (y : SX g P F A w S b (putsS (wA (wA σ 3 c (nI k)) 4 c (bI bw)) c (nI 0) (-1) (-1) l1) (putsE e c (milesV ((wA (wA σ 3 c (nI k)) 4 c (bI bw)).2.1 4 c) ((wA (wA σ 3 c (nI k)) 4 c (bI bw)).2.1 3 c))) M) (hl1 : l1 = sec σ c 6) (t : TieX w S σ e nw) (hc : c < 96) (hk : k < 10) (hw : sec σ c 0 = nI 0) (h1 : sec σ c 1 = -1) (h5 : sec σ c 5 = -1) : SB g P F A w S b (sR (wA (wA σ 3 c (nI k)) 4 c (bI bw)) (8 * c + 7) (nI 0)) nw M := by
  have ps := t.ps hc
  have e3 : sec σ c 3 = nI 0 := by
    obtain ⟨k9, -, x1, x2⟩ := ps.2.1
    rw [x1, x2 (by rw [hw]; decide)]
  have e4 : sec σ c 4 = nI 0 := by
    rcases ps.2.2.2 with z | z
    · exact z
    · rw [hw] at z
      exact absurd z.2 (by decide)
  obtain ⟨ρ, hρ⟩ : ∃ ρ, ρ = wA (wA σ 3 c (nI k)) 4 c (bI bw) := ⟨_, rfl⟩
  have rr : ∀ j, row ρ j = row σ j := fun j => by rw [hρ]; rfl
  have b3 : ρ.2.1 3 c = nI k := by rw [hρ]; simp [sA, upd]
  have b4 : ρ.2.1 4 c = bI bw := by rw [hρ]; simp [sA, upd]
  rw [← hρ, b3, b4] at y
  have eY : putsS ρ c (nI 0) (-1) (-1) l1 = ρ := by
    unfold putsS
    rw [hoS_self (by rw [rr]; exact h1) (by rw [rr]; exact h5) (by rw [rr]; exact hl1.symm), sR_self (σ := ρ) (j := 8 * c + 0) (by rw [rr]; exact hw), sR_self (σ := ρ) (j := 8 * c + 3) (by rw [rr]; exact e3), sR_self (σ := ρ) (j := 8 * c + 4) (by rw [rr]; exact e4)]
  rw [eY] at y
  obtain ⟨m, m1, m2⟩ := miles_in bw k hk
  have g8 : SX g P F A w S b (sR ρ (8 * c + 7) (nI 0)) _ M := y.onR (fun j hj => rowS_ne (fun z => by subst z; unfold mapR at hj; omega)) OnR.rf.R
  rw [← hρ]
  exact ⟨_, g8, tie_land t y.hz hc hw m1 m2 rfl (by omega) (by rw [hρ]) (fun q hq => by simp [putsE, uE_if]) (fun a a2 a3 => by simp [putsE, uE, a2, a3]) (fun q hq => by simp [putsE, uE_if])⟩
end LD
theorem HoC.wild {im : Mem} {q : Nat} {r : Nat → Int32} (h : HoC im q r) (h0 : r 0 = nI 0) : r 1 = -1 ∧ r 2 = -1 := by
  rcases h with ⟨a, b, c, h⟩ | ⟨a, b, c, h⟩ | ⟨a, h⟩ | ⟨a, b, h⟩ | ⟨a, h⟩ | ⟨a, b, h⟩
  · exact ⟨b, c⟩
  · exact ⟨b, c⟩
  all_goals (rw [a] at h0; exact absurd h0 (by decide))
theorem HoC.past {im : Mem} {q : Nat} {r : Nat → Int32} (h : HoC im q r) (h0 : isPastV (r 0) = true) : r 2 = -1 := by
  rcases h with ⟨a, b, c, h⟩ | ⟨a, b, c, h⟩ | ⟨a, h⟩ | ⟨a, b, h⟩ | ⟨a, h⟩ | ⟨a, b, h⟩
  · exact c
  · exact c
  · rw [a] at h0; exact absurd h0 (by decide)
  · exact b
  · rw [a] at h0; exact absurd h0 (by decide)
  · exact b
set_option maxHeartbeats 600000 in
theorem x_X1_land {g : GP} {μ : Mem} {d : Nat} {P : Nat → Prop} {F : Mem} {A : XA} {S : Nat → Nat → Nat} {b : XS} {σ : MS} {nor nw : Nat} (s : SB g P F A 0 S b σ nw μ) (iv : IvG σ (S 4 0) (S 8 0) (S 10 0) (S 6 0) nor nw) (rs : RsX σ) (hd : 9 ≤ d) {c : Int32} {v : Int32} {u : Bool} : PM g yX1_land (ws_ yX1_land cX1_land 5 (some .int)) d 1 6 [.ref (A 0 0 0), .int c, .int v, .int (bI u)] μ (CQ ["java/lang/IndexOutOfBoundsException", "java/lang/IllegalArgumentException"] (p_land σ c v u) (fun τ M => SB g P F A 0 S b τ nw M)) := by
  refine PM.of (by decide +kernel) (Nat.le_of_ble_eq_true rfl) ?_
  refine PJ.ok (fun G => ?_)
  show PJ g _ _ _ _ d 1 6 0 [(0, .ref (A 0 0 0)), (1, .int c), (2, .int v), (3, .int (bI u))] [] _ _
  obtain ⟨ρ, hs0⟩ : ∃ ρ, ρ = sF σ 0 (nI 0) := ⟨_, rfl⟩
  have hs9 : s0 σ = ρ := hs0.symm
  have s1 := s.F0 (x := nI 0)
  rw [← hs0] at s1
  obtain ⟨e, h, t⟩ := s1
  have iv1 : IvG ρ (S 4 0) (S 8 0) (S 10 0) (S 6 0) nor nw := by rw [hs0]; exact iv.f0
  have rs1 : RsX ρ := by rw [hs0]; exact rs
  have h00 : ρ.1 0 = nI 0 := by rw [hs0]; rfl
  have hS4 := h.hz.2.1
  have hS6 := h.hz.2.2.1
  have hS8 := h.hz.2.2.2.1
  have hS10 := h.hz.2.2.2.2.1
  cases hap_c : inN c 96 with
  | false =>
    refine pl_aload_n (pc := 0) dX1_land_0 rfl rfl ?_
    refine pl_iload_n (pc := 1) dX1_land_1 rfl rfl ?_
    refine pl_callVX (pc := 2) (As := [_]) (C1 := 1) (N1 := 6) (C2 := 0) (N2 := 0) (E8 := "java/lang/IndexOutOfBoundsException") ckX1 mdX1_slotOf rfl q1239 q1241 qs7 q125 dX1_land_2 rfl rfl (Nat.le_of_ble_eq_true rfl) (h.r0) (x_X1_slotOf_no (d := d - 1) (by omega) h hap_c) (by omega) (by omega) (by omega) (fun q_2 M_2 hM_2 => ?_)
    refine px_out0 rfl ?_
    exact CQ.no 0 (v := nI 0) (τ := sF ρ 0 (nI 1)) (by rw [show sF ρ 0 (nI 1) = th σ 1 by rw [hs0]]; first | (simp only [p_land, hap_c, ↓reduceIte]; first | done | rfl) | (simp [p_land, hap_c, Int32.not_lt, Int32.not_le]; first | done | rfl)) rfl rfl (SB.mono (SB.F0 ⟨_, h, t⟩) hM_2)
  | true =>
    obtain ⟨j_c, hj_c, rfl⟩ := inN_of (by omega) hap_c
    have g_c := tN_nI (n := j_c) (by omega)
    refine pl_aload_n (pc := 0) dX1_land_0 rfl rfl ?_
    refine pl_iload_n (pc := 1) dX1_land_1 rfl rfl ?_
    obtain ⟨q_2, hm_2, hq_2, hdd_2⟩ := h.held (s := j_c) (by omega)
    refine pl_callVd (pc := 2) (As := [_]) (C1 := 0) (N1 := 0) (C2 := 1) (N2 := 6) ckX1 mdX1_slotOf rfl q1239 q1241 qs7 q125 dX1_land_2 rfl rfl (Nat.le_of_ble_eq_true rfl) (h.r0) (x_X1_slotOf_ok (d := d - 1) (by omega) h (by omega)) (by omega) (by omega) (by omega) ?_
    refine pj_astore (pc := 5) (lv' := [(4, _), (0, _), (1, _), (2, _), (3, _)]) dX1_land_5 (by decide) rfl ?_
    refine pl_iload_n (pc := 7) dX1_land_7 rfl rfl ?_
    refine pj_if_lt (pc := 8) (tgt := 21) dX1_land_8 (by decide) (fun c8 => ?_) (fun c8 => ?_)
    · refine pl_iconst (pc := 21) (v := 0) dX1_land_21 (by rfl) ?_
      refine pl_callSX (pc := 22) (As := [_]) (C1 := 1) (N1 := 6) (C2 := 0) (N2 := 0) (E8 := "java/lang/IllegalArgumentException") mdX1_need q1262 q1263 q125 dX1_land_22 rfl rfl (Nat.le_of_ble_eq_true rfl) (k_X1_need_no (d := d - 1) (by omega) rfl) (by omega) (by omega) (by omega) (fun q_22 M_22 hM_22 => ?_)
      refine px_out0 rfl ?_
      exact CQ.no 1 (v := nI 0) (τ := sF ρ 0 (nI 2)) (by rw [show sF ρ 0 (nI 2) = th σ 2 by rw [hs0]]; first | (simp only [p_land, hap_c, g_c, c8, ↓reduceIte]; first | done | rfl) | (simp [p_land, hap_c, g_c, c8, Int32.not_lt, Int32.not_le]; first | done | rfl)) rfl rfl (SB.mono (SB.F0 ⟨_, h, t⟩) hM_22)
    · refine pl_iload_n (pc := 11) dX1_land_11 rfl rfl ?_
      refine pl_bipush (pc := 12) (v := 9) dX1_land_12 (by rfl) ?_
      refine pj_icmp_gt (pc := 14) (tgt := 21) dX1_land_14 (by decide) (fun c14 => ?_) (fun c14 => ?_)
      · refine pl_iconst (pc := 21) (v := 0) dX1_land_21 (by rfl) ?_
        refine pl_callSX (pc := 22) (As := [_]) (C1 := 1) (N1 := 6) (C2 := 0) (N2 := 0) (E8 := "java/lang/IllegalArgumentException") mdX1_need q1262 q1263 q125 dX1_land_22 rfl rfl (Nat.le_of_ble_eq_true rfl) (k_X1_need_no (d := d - 1) (by omega) rfl) (by omega) (by omega) (by omega) (fun q_22 M_22 hM_22 => ?_)
        refine px_out0 rfl ?_
        exact CQ.no 1 (v := nI 0) (τ := sF ρ 0 (nI 2)) (by rw [show sF ρ 0 (nI 2) = th σ 2 by rw [hs0]]; first | (simp only [p_land, hap_c, g_c, c8, c14, ↓reduceIte]; first | done | rfl) | (simp [p_land, hap_c, g_c, c8, c14, Int32.not_lt, Int32.not_le]; first | done | rfl)) rfl rfl (SB.mono (SB.F0 ⟨_, h, t⟩) hM_22)
      · refine pl_iconst (pc := 17) (v := 1) dX1_land_17 (by rfl) ?_
        refine pj_goto (pc := 18) (tgt := 22) dX1_land_18 (by decide) ?_
        refine pl_callSv (pc := 22) (As := [_]) (C1 := 0) (N1 := 0) (C2 := 1) (N2 := 6) mdX1_need q1262 q1263 q125 dX1_land_22 rfl rfl (Nat.le_of_ble_eq_true rfl) (k_X1_need_ok (d := d - 1) (by omega) (by decide)) (by omega) (by omega) (by omega) ?_
        obtain ⟨j_v, hj_v, rfl⟩ := inN_of (x := v) (n := 10) (by omega) (by simp only [inN, Bool.and_eq_true, decide_eq_true_eq]; exact ⟨Int32.not_lt.mp c8, Int32.lt_of_le_of_lt (Int32.not_lt.mp c14) (by decide)⟩)
        have g_v := tN_nI (n := j_v) (by omega)
        refine pl_aload (pc := 25) dX1_land_25 rfl ?_
        refine pl_callVd (pc := 27) (As := []) (C1 := 0) (N1 := 0) (C2 := 1) (N2 := 6) ckX8 mdX8_isWild rfl q1270 q1271 q1272 q152 dX1_land_27 rfl rfl (Nat.le_of_ble_eq_true rfl) hm_2 (k_X8_isWild (d := d - 1) (by omega) hm_2 hq_2) (by omega) (by omega) (by omega) ?_
        refine PJ.top (ho_isWild) ?_
        refine pl_if_neB (pc := 30) (tgt := 35) dX1_land_30 (by decide) (fun c30 => ?_) (fun c30 => ?_)
        · have d30 : sec ρ j_c 0 = 0 := of_decide_eq_true c30
          have hq1_2 : sec ρ j_c 1 = -1 ∧ sec ρ j_c 5 = -1 := hq_2.wild d30
          refine pl_aload_n (pc := 35) dX1_land_35 rfl rfl ?_
          refine pj_getf (pc := 36) ckX1 0 q853 dX1_land_36 (by decide) (h.r0) rfl ?_
          refine pj_getfN (pc := 39) ckX2 13 q750 dX1_land_39 (by decide) (h.r1) rfl ?_
          refine pl_iload_n (pc := 42) dX1_land_42 rfl rfl ?_
          refine pl_iload_n (pc := 43) dX1_land_43 rfl rfl ?_
          refine pj_i2b (pc := 44) dX1_land_44 rfl ?_
          refine PJ.top (y := nI j_v) (i2b_n j_v hj_v) ?_
          refine pl_bast (pc := 45) (n := 96) dX1_land_45 (h.r27) (by omega) (by decide) ?_
          refine sxk (h.p27 (by omega)) (fun My1 y1 => ?_)
          rw [narb_n j_v hj_v] at y1
          refine pl_aload_n (pc := 46) dX1_land_46 rfl rfl ?_
          refine pj_getf (pc := 47) ckX1 0 q853 dX1_land_47 (by decide) (y1.r0) rfl ?_
          refine pj_getfN (pc := 50) ckX2 14 q752 dX1_land_50 (by decide) (y1.r1) rfl ?_
          refine pl_iload_n (pc := 53) dX1_land_53 rfl rfl ?_
          refine pl_iload_n (pc := 54) dX1_land_54 rfl rfl ?_
          refine pl_zast (pc := 55) (n := 96) dX1_land_55 (y1.r28) (by omega) (by decide) ?_
          refine sxk (y1.p28 (by omega)) (fun My2 y2 => ?_)
          rw [nar_bI] at y2
          refine pl_aload_n (pc := 56) dX1_land_56 rfl rfl ?_
          refine pj_getf (pc := 57) ckX1 0 q853 dX1_land_57 (by decide) (y2.r0) rfl ?_
          refine pl_iload_n (pc := 60) dX1_land_60 rfl rfl ?_
          refine pl_aload_n (pc := 61) dX1_land_61 rfl rfl ?_
          refine pj_getf (pc := 62) ckX1 0 q853 dX1_land_62 (by decide) (y2.r0) rfl ?_
          refine pj_getfN (pc := 65) ckX2 19 q762 dX1_land_65 (by decide) (y2.r1) rfl ?_
          refine pl_callVWv (pc := 68) (As := [_, _]) (C1 := 0) (N1 := 0) (C2 := 1) (N2 := 6) ckX2 mdX2_puts rfl q1275 q704 q705 q126 dX1_land_68 rfl rfl (Nat.le_of_ble_eq_true rfl) (y2.r1) (x_X2_puts_w (l1 := sec ρ j_c 6) (d := d - 1) (by omega) y2 hj_c) (by omega) (by omega) (by omega) (fun My3 y3 => ?_)
          refine pl_iconst (pc := 71) (v := 1) dX1_land_71 (by rfl) ?_
          refine pj_iret (pc := 72) dX1_land_72 rfl ?_
          have g9 := land_tie y3 rfl t hj_c hj_v d30 hq1_2.1 hq1_2.2
          exact CQ.ok (by first | (simp only [p_land, hs9, ← hs0, hap_c, g_c, c8, c14, g_v, c30, d30, ↓reduceIte]; first | done | rfl) | (simp [p_land, hs9, ← hs0, hap_c, g_c, c8, c14, g_v, c30, d30, Int32.not_lt, Int32.not_le]; first | done | rfl)) (by exact h00) g9
        · have d30 : ¬ sec ρ j_c 0 = 0 := of_decide_eq_false c30
          refine pj_iconst (pc := 33) (v := (-1)) dX1_land_33 (by rfl) ?_
          refine pj_iret (pc := 34) dX1_land_34 rfl ?_
          exact CQ.ok (τ := ρ) (by first | (simp only [p_land, hs9, ← hs0, hap_c, g_c, c8, c14, g_v, c30, d30, ↓reduceIte]; first | done | rfl) | (simp [p_land, hs9, ← hs0, hap_c, g_c, c8, c14, g_v, c30, d30, Int32.not_lt, Int32.not_le]; first | done | rfl)) h00 ⟨_, h, t⟩
theorem p_queue_yes {σ : MS} {q p c k : Nat} (hp : p < q) (hq : q ≤ 4) (hc : c < 96) (h1 : row (s0 σ) (1720 + 15 * p + 2) = nI k) (hk : k < 12) (hw : sec (s0 σ) c 0 = nI 0) : p_queue σ q (nI p) (nI c) = (nI (k + 1), sR (sR (s0 σ) (1720 + 15 * p + 3 + k) (nI c)) (1720 + 15 * p + 2) (nI (k + 1))) := by
  have r1 : row (sR (s0 σ) (1720 + 15 * p + 3 + k) (nI c)) (1720 + 15 * p + 2) = nI k := (rowS_ne (by omega)).trans h1
  unfold p_queue
  rw [inN_nI hp (by omega), inN_nI hc (by decide), if_neg (by decide), if_neg (by decide), tN_nI (by omega), tN_nI (by omega)]
  dsimp only
  rw [h1, tN_nI (by omega), if_neg (fun z => by have := (nI_eq (by omega) (by decide)).mp z; omega), if_neg (fun z => z hw), r1, nI_add, rowS_eq]
section QU
variable {g : GP} {P : Nat → Prop} {F : Mem} {A : XA} {w : Nat} {S : Nat → Nat → Nat} {b : XS} {σ : MS} {e : XE} {M : Mem} {nw i c k : Nat}
theorem queue_tie (y : SX g P F A w S b (wA σ 1 (1720 + 15 * i + 2) (nI (k + 1))) (uE e (10 + i) k (nI c)) M) (t : TieX w S σ e nw) (hi : i < S 6 w) (h1 : row σ (1720 + 15 * i + 2) = nI k) (hk : k < 12) : SB g P F A w S b (sR (sR σ (1720 + 15 * i + 3 + k) (nI c)) (1720 + 15 * i + 2) (nI (k + 1))) nw M := by
  have z6 := y.hz.2.2.1
  have hr : ∀ j, row (sR (sR σ (1720 + 15 * i + 3 + k) (nI c)) (1720 + 15 * i + 2) (nI (k + 1))) j = if j = 1720 + 15 * i + 2 then nI (k + 1) else if j = 1720 + 15 * i + 3 + k then nI c else row σ j := fun j => by rw [rowS_if, rowS_if]
  refine ⟨_, y.onR (fun j hj => ?_) (OnR.rf.R.sy.tr OnR.rf.R.R), tie_party t y.hz hi (fun j _ hj => ?_) (fun j hj2 hj => ?_) (fun a ha => ?_) (by simp [sA]) (by simp [sA]) (by simp [sA]) rfl rfl⟩
  · show _ = row (sR σ (1720 + 15 * i + 2) (nI (k + 1))) j
    rw [hr, rowS_if, if_neg (show ¬ j = 1720 + 15 * i + 3 + k from fun z => by subst z; unfold mapR at hj; omega)]
  · rw [hr, if_neg (by omega), if_neg (by omega)]
  · rw [hr, if_pos rfl, tN_nI (by omega)] at hj
    rw [hr, if_neg (by omega)]
    by_cases ej : j = k
    · subst ej
      rw [if_pos rfl, uE_eq]
    · rw [if_neg (by omega), uE_ne (fun z => ej z.2), t.queue hi hj2 (by rw [h1, tN_nI (by omega)]; omega)]
  · unfold uE
    rw [if_neg ha]
end QU
set_option maxHeartbeats 600000 in
theorem x_X1_queue {g : GP} {μ : Mem} {d : Nat} {P : Nat → Prop} {F : Mem} {A : XA} {S : Nat → Nat → Nat} {b : XS} {σ : MS} {nor nw : Nat} (s : SB g P F A 0 S b σ nw μ) (iv : IvG σ (S 4 0) (S 8 0) (S 10 0) (S 6 0) nor nw) (rs : RsX σ) (hd : 9 ≤ d) {p : Int32} {c : Int32} : PM g yX1_queue (ws_ yX1_queue cX1_queue 5 (some .int)) d 1 6 [.ref (A 0 0 0), .int p, .int c] μ (CQ ["java/lang/IndexOutOfBoundsException"] (p_queue σ (S 6 0) p c) (fun τ M => SB g P F A 0 S b τ nw M)) := by
  refine PM.of (by decide +kernel) (Nat.le_of_ble_eq_true rfl) ?_
  refine PJ.ok (fun G => ?_)
  show PJ g _ _ _ _ d 1 6 0 [(0, .ref (A 0 0 0)), (1, .int p), (2, .int c)] [] _ _
  obtain ⟨ρ, hs0⟩ : ∃ ρ, ρ = sF σ 0 (nI 0) := ⟨_, rfl⟩
  have hs9 : s0 σ = ρ := hs0.symm
  have s1 := s.F0 (x := nI 0)
  rw [← hs0] at s1
  obtain ⟨e, h, t⟩ := s1
  have iv1 : IvG ρ (S 4 0) (S 8 0) (S 10 0) (S 6 0) nor nw := by rw [hs0]; exact iv.f0
  have rs1 : RsX ρ := by rw [hs0]; exact rs
  have h00 : ρ.1 0 = nI 0 := by rw [hs0]; rfl
  have hS4 := h.hz.2.1
  have hS6 := h.hz.2.2.1
  have hS8 := h.hz.2.2.2.1
  have hS10 := h.hz.2.2.2.2.1
  cases hap_p : inN p (S 6 0) with
  | false =>
    refine pl_aload_n (pc := 0) dX1_queue_0 rfl rfl ?_
    refine pl_iload_n (pc := 1) dX1_queue_1 rfl rfl ?_
    refine pl_callVX (pc := 2) (As := [_]) (C1 := 1) (N1 := 6) (C2 := 0) (N2 := 0) (E8 := "java/lang/IndexOutOfBoundsException") ckX1 mdX1_partyOf rfl q1455 q1457 qs10 q125 dX1_queue_2 rfl rfl (Nat.le_of_ble_eq_true rfl) (h.r0) (x_X1_partyOf_no (d := d - 1) (by omega) h hap_p) (by omega) (by omega) (by omega) (fun q_2 M_2 hM_2 => ?_)
    refine px_out0 rfl ?_
    exact CQ.no 0 (v := nI 0) (τ := sF ρ 0 (nI 1)) (by rw [show sF ρ 0 (nI 1) = th σ 1 by rw [hs0]]; first | (simp only [p_queue, hap_p, ↓reduceIte]; first | done | rfl) | (simp [p_queue, hap_p, Int32.not_lt, Int32.not_le]; first | done | rfl)) rfl rfl (SB.mono (SB.F0 ⟨_, h, t⟩) hM_2)
  | true =>
    obtain ⟨j_p, hj_p, rfl⟩ := inN_of (by omega) hap_p
    have g_p := tN_nI (n := j_p) (by omega)
    cases hap_c : inN c 96 with
    | false =>
      refine pl_aload_n (pc := 0) dX1_queue_0 rfl rfl ?_
      refine pl_iload_n (pc := 1) dX1_queue_1 rfl rfl ?_
      refine pl_callVd (pc := 2) (As := [_]) (C1 := 0) (N1 := 0) (C2 := 1) (N2 := 6) ckX1 mdX1_partyOf rfl q1455 q1457 qs10 q125 dX1_queue_2 rfl rfl (Nat.le_of_ble_eq_true rfl) (h.r0) (x_X1_partyOf_ok (d := d - 1) (by omega) h (by omega)) (by omega) (by omega) (by omega) ?_
      refine pj_astore_n (pc := 5) (lv' := [(3, _), (0, _), (1, _), (2, _)]) dX1_queue_5 rfl (by decide) rfl ?_
      refine pl_aload_n (pc := 6) dX1_queue_6 rfl rfl ?_
      refine pl_iload_n (pc := 7) dX1_queue_7 rfl rfl ?_
      refine pl_callVX (pc := 8) (As := [_]) (C1 := 1) (N1 := 6) (C2 := 0) (N2 := 0) (E8 := "java/lang/IndexOutOfBoundsException") ckX1 mdX1_slotOf rfl q1239 q1241 qs7 q125 dX1_queue_8 rfl rfl (Nat.le_of_ble_eq_true rfl) (h.r0) (x_X1_slotOf_no (d := d - 1) (by omega) h hap_c) (by omega) (by omega) (by omega) (fun q_8 M_8 hM_8 => ?_)
      refine px_out0 rfl ?_
      exact CQ.no 0 (v := nI 0) (τ := sF ρ 0 (nI 1)) (by rw [show sF ρ 0 (nI 1) = th σ 1 by rw [hs0]]; first | (simp only [p_queue, hap_p, g_p, hap_c, ↓reduceIte]; first | done | rfl) | (simp [p_queue, hap_p, g_p, hap_c, Int32.not_lt, Int32.not_le]; first | done | rfl)) rfl rfl (SB.mono (SB.F0 ⟨_, h, t⟩) hM_8)
    | true =>
      obtain ⟨j_c, hj_c, rfl⟩ := inN_of (by omega) hap_c
      have g_c := tN_nI (n := j_c) (by omega)
      refine pl_aload_n (pc := 0) dX1_queue_0 rfl rfl ?_
      refine pl_iload_n (pc := 1) dX1_queue_1 rfl rfl ?_
      refine pl_callVd (pc := 2) (As := [_]) (C1 := 0) (N1 := 0) (C2 := 1) (N2 := 6) ckX1 mdX1_partyOf rfl q1455 q1457 qs10 q125 dX1_queue_2 rfl rfl (Nat.le_of_ble_eq_true rfl) (h.r0) (x_X1_partyOf_ok (d := d - 1) (by omega) h (by omega)) (by omega) (by omega) (by omega) ?_
      refine pj_astore_n (pc := 5) (lv' := [(3, _), (0, _), (1, _), (2, _)]) dX1_queue_5 rfl (by decide) rfl ?_
      refine pl_aload_n (pc := 6) dX1_queue_6 rfl rfl ?_
      refine pl_iload_n (pc := 7) dX1_queue_7 rfl rfl ?_
      obtain ⟨q_8, hm_8, hq_8, hdd_8⟩ := h.held (s := j_c) (by omega)
      refine pl_callVd (pc := 8) (As := [_]) (C1 := 0) (N1 := 0) (C2 := 1) (N2 := 6) ckX1 mdX1_slotOf rfl q1239 q1241 qs7 q125 dX1_queue_8 rfl rfl (Nat.le_of_ble_eq_true rfl) (h.r0) (x_X1_slotOf_ok (d := d - 1) (by omega) h (by omega)) (by omega) (by omega) (by omega) ?_
      refine pj_astore (pc := 11) (lv' := [(4, _), (3, _), (0, _), (1, _), (2, _)]) dX1_queue_11 (by decide) rfl ?_
      obtain ⟨⟨kq, hkq⟩, -⟩ := iv1.par j_p (by omega)
      refine pl_aload_n (pc := 13) dX1_queue_13 rfl rfl ?_
      refine pj_getfN (pc := 14) ckX11 2 q1434 dX1_queue_14 (by decide) (h.r36 (by omega)) rfl ?_
      refine pl_bipush (pc := 17) (v := 12) dX1_queue_17 (by rfl) ?_
      refine pj_icmp_ne (pc := 19) (tgt := 24) dX1_queue_19 (by decide) (fun c19 => ?_) (fun c19 => ?_)
      · refine pl_aload (pc := 24) dX1_queue_24 rfl ?_
        refine pl_callVd (pc := 26) (As := []) (C1 := 0) (N1 := 0) (C2 := 1) (N2 := 6) ckX8 mdX8_isWild rfl q1270 q1271 q1272 q152 dX1_queue_26 rfl rfl (Nat.le_of_ble_eq_true rfl) hm_8 (k_X8_isWild (d := d - 1) (by omega) hm_8 hq_8) (by omega) (by omega) (by omega) ?_
        refine PJ.top (ho_isWild) ?_
        refine pl_if_neB (pc := 29) (tgt := 35) dX1_queue_29 (by decide) (fun c29 => ?_) (fun c29 => ?_)
        · refine pl_aload_n (pc := 35) dX1_queue_35 rfl rfl ?_
          refine pj_getfN (pc := 36) ckX11 3 q1437 dX1_queue_36 (by decide) (h.r36 (by omega)) rfl ?_
          refine pl_aload_n (pc := 39) dX1_queue_39 rfl rfl ?_
          refine pj_getfN (pc := 40) ckX11 2 q1434 dX1_queue_40 (by decide) (h.r36 (by omega)) rfl ?_
          have hk12 : kq < 12 := Nat.lt_of_le_of_ne hkq.2.1 (fun z => c19 (by rw [hkq.1, z]))
          refine PJ.top (y := nI kq) hkq.1 ?_
          refine pl_iload_n (pc := 43) dX1_queue_43 rfl rfl ?_
          refine pl_iast (pc := 44) (n := 12) dX1_queue_44 (h.r37 (by omega)) (by omega) (by decide) ?_
          refine sxk (h.p37 (by omega) (by omega)) (fun My1 y1 => ?_)
          refine pl_aload_n (pc := 45) dX1_queue_45 rfl rfl ?_
          refine pj_dup (pc := 46) dX1_queue_46 rfl ?_
          refine pj_getfN (pc := 47) ckX11 2 q1434 dX1_queue_47 (by decide) (y1.r36 (by omega)) rfl ?_
          refine PJ.top (y := nI kq) hkq.1 ?_
          refine pl_iconst (pc := 50) (v := 1) dX1_queue_50 (by rfl) ?_
          refine pl_iadd (pc := 51) dX1_queue_51 ?_
          refine pj_putfN (pc := 52) ckX11 2 q1434 dX1_queue_52 (by decide) rfl (y1.r36 (by omega)) rfl rfl (Nat.le_of_ble_eq_true rfl) ?_
          refine sxk (y1.p36_2 (by omega)) (fun My2 y2 => ?_)
          refine pl_aload_n (pc := 55) dX1_queue_55 rfl rfl ?_
          refine pj_getfN (pc := 56) ckX11 2 q1434 dX1_queue_56 (by decide) (y2.r36 (by omega)) rfl ?_
          refine PJ.top (y := nI (kq + 1)) (rowS_eq) ?_
          refine pj_iret (pc := 59) dX1_queue_59 rfl ?_
          have g9 := queue_tie y2 t hj_p hkq.1 hk12
          exact CQ.ok (by rw [p_queue_yes hj_p hS6 hj_c (show row (s0 σ) (1720 + 15 * j_p + 2) = nI kq by rw [hs9]; exact hkq.1) hk12 (show sec (s0 σ) j_c 0 = nI 0 by rw [hs9]; exact of_decide_eq_true c29), hs9]) (by exact h00) g9
        · have d29 : ¬ sec ρ j_c 0 = 0 := of_decide_eq_false c29
          refine pj_bipush (pc := 32) (v := (-2)) dX1_queue_32 (by rfl) ?_
          refine pj_iret (pc := 34) dX1_queue_34 rfl ?_
          exact CQ.ok (τ := ρ) (by first | (simp only [p_queue, hs9, ← hs0, hap_p, g_p, hap_c, g_c, c19, c29, d29, ↓reduceIte]; first | done | rfl) | (simp [p_queue, hs9, ← hs0, hap_p, g_p, hap_c, g_c, c19, c29, d29, Int32.not_lt, Int32.not_le]; first | done | rfl)) h00 ⟨_, h, t⟩
      · refine pj_iconst (pc := 22) (v := (-1)) dX1_queue_22 (by rfl) ?_
        refine pj_iret (pc := 23) dX1_queue_23 rfl ?_
        exact CQ.ok (τ := ρ) (by first | (simp only [p_queue, hs9, ← hs0, hap_p, g_p, hap_c, g_c, eq_true c19, ↓reduceIte]; first | done | rfl) | (simp [p_queue, hs9, ← hs0, hap_p, g_p, hap_c, g_c, eq_true c19, Int32.not_lt, Int32.not_le]; first | done | rfl)) h00 ⟨_, h, t⟩
set_option maxHeartbeats 600000 in
theorem x_X1_buy {g : GP} {μ : Mem} {d : Nat} {P : Nat → Prop} {F : Mem} {A : XA} {S : Nat → Nat → Nat} {b : XS} {σ : MS} {nor nw : Nat} (s : SB g P F A 0 S b σ nw μ) (iv : IvG σ (S 4 0) (S 8 0) (S 10 0) (S 6 0) nor nw) (rs : RsX σ) (hd : 332 ≤ d) {p : Int32} {c : Int32} : PM g yX1_buy (ws_ yX1_buy cX1_buy 5 (some .int)) d 1 6 [.ref (A 0 0 0), .int p, .int c] μ (CQ ["java/lang/IndexOutOfBoundsException"] (p_buy σ (S 4 0) (S 8 0) p c) (fun τ M => SB g P F A 0 S b τ nw M)) := by
  refine PM.of (by decide +kernel) (Nat.le_of_ble_eq_true rfl) ?_
  refine PJ.ok (fun G => ?_)
  show PJ g _ _ _ _ d 1 6 0 [(0, .ref (A 0 0 0)), (1, .int p), (2, .int c)] [] _ _
  obtain ⟨ρ, hs0⟩ : ∃ ρ, ρ = sF σ 0 (nI 0) := ⟨_, rfl⟩
  have hs9 : s0 σ = ρ := hs0.symm
  have s1 := s.F0 (x := nI 0)
  rw [← hs0] at s1
  obtain ⟨e, h, t⟩ := s1
  have iv1 : IvG ρ (S 4 0) (S 8 0) (S 10 0) (S 6 0) nor nw := by rw [hs0]; exact iv.f0
  have rs1 : RsX ρ := by rw [hs0]; exact rs
  have h00 : ρ.1 0 = nI 0 := by rw [hs0]; rfl
  have hS4 := h.hz.2.1
  have hS6 := h.hz.2.2.1
  have hS8 := h.hz.2.2.2.1
  have hS10 := h.hz.2.2.2.2.1
  cases hap_p : inN p (S 4 0) with
  | false =>
    refine pl_aload_n (pc := 0) dX1_buy_0 rfl rfl ?_
    refine pl_iload_n (pc := 1) dX1_buy_1 rfl rfl ?_
    refine pl_callVX (pc := 2) (As := [_]) (C1 := 1) (N1 := 6) (C2 := 0) (N2 := 0) (E8 := "java/lang/IndexOutOfBoundsException") ckX1 mdX1_personOf rfl q1411 q1413 qs9 q125 dX1_buy_2 rfl rfl (Nat.le_of_ble_eq_true rfl) (h.r0) (x_X1_personOf_no (d := d - 1) (by omega) h hap_p) (by omega) (by omega) (by omega) (fun q_2 M_2 hM_2 => ?_)
    refine px_out0 rfl ?_
    exact CQ.no 0 (v := nI 0) (τ := sF ρ 0 (nI 1)) (by rw [show sF ρ 0 (nI 1) = th σ 1 by rw [hs0]]; first | (simp only [p_buy, hap_p, ↓reduceIte]; first | done | rfl) | (simp [p_buy, hap_p, Int32.not_lt, Int32.not_le]; first | done | rfl)) rfl rfl (SB.mono (SB.F0 ⟨_, h, t⟩) hM_2)
  | true =>
    obtain ⟨j_p, hj_p, rfl⟩ := inN_of (by omega) hap_p
    have g_p := tN_nI (n := j_p) (by omega)
    cases hap_c : inN c 96 with
    | false =>
      refine pl_aload_n (pc := 0) dX1_buy_0 rfl rfl ?_
      refine pl_iload_n (pc := 1) dX1_buy_1 rfl rfl ?_
      refine pl_callVd (pc := 2) (As := [_]) (C1 := 0) (N1 := 0) (C2 := 1) (N2 := 6) ckX1 mdX1_personOf rfl q1411 q1413 qs9 q125 dX1_buy_2 rfl rfl (Nat.le_of_ble_eq_true rfl) (h.r0) (x_X1_personOf_ok (d := d - 1) (by omega) h (by omega)) (by omega) (by omega) (by omega) ?_
      refine pj_astore_n (pc := 5) (lv' := [(3, _), (0, _), (1, _), (2, _)]) dX1_buy_5 rfl (by decide) rfl ?_
      refine pl_aload_n (pc := 6) dX1_buy_6 rfl rfl ?_
      refine pl_iload_n (pc := 7) dX1_buy_7 rfl rfl ?_
      refine pl_callVX (pc := 8) (As := [_]) (C1 := 1) (N1 := 6) (C2 := 0) (N2 := 0) (E8 := "java/lang/IndexOutOfBoundsException") ckX1 mdX1_slotOf rfl q1239 q1241 qs7 q125 dX1_buy_8 rfl rfl (Nat.le_of_ble_eq_true rfl) (h.r0) (x_X1_slotOf_no (d := d - 1) (by omega) h hap_c) (by omega) (by omega) (by omega) (fun q_8 M_8 hM_8 => ?_)
      refine px_out0 rfl ?_
      exact CQ.no 0 (v := nI 0) (τ := sF ρ 0 (nI 1)) (by rw [show sF ρ 0 (nI 1) = th σ 1 by rw [hs0]]; first | (simp only [p_buy, hap_p, g_p, hap_c, ↓reduceIte]; first | done | rfl) | (simp [p_buy, hap_p, g_p, hap_c, Int32.not_lt, Int32.not_le]; first | done | rfl)) rfl rfl (SB.mono (SB.F0 ⟨_, h, t⟩) hM_8)
    | true =>
      obtain ⟨j_c, hj_c, rfl⟩ := inN_of (by omega) hap_c
      have g_c := tN_nI (n := j_c) (by omega)
      refine pl_aload_n (pc := 0) dX1_buy_0 rfl rfl ?_
      refine pl_iload_n (pc := 1) dX1_buy_1 rfl rfl ?_
      refine pl_callVd (pc := 2) (As := [_]) (C1 := 0) (N1 := 0) (C2 := 1) (N2 := 6) ckX1 mdX1_personOf rfl q1411 q1413 qs9 q125 dX1_buy_2 rfl rfl (Nat.le_of_ble_eq_true rfl) (h.r0) (x_X1_personOf_ok (d := d - 1) (by omega) h (by omega)) (by omega) (by omega) (by omega) ?_
      refine pj_astore_n (pc := 5) (lv' := [(3, _), (0, _), (1, _), (2, _)]) dX1_buy_5 rfl (by decide) rfl ?_
      refine pl_aload_n (pc := 6) dX1_buy_6 rfl rfl ?_
      refine pl_iload_n (pc := 7) dX1_buy_7 rfl rfl ?_
      obtain ⟨q_8, hm_8, hq_8, hdd_8⟩ := h.held (s := j_c) (by omega)
      refine pl_callVd (pc := 8) (As := [_]) (C1 := 0) (N1 := 0) (C2 := 1) (N2 := 6) ckX1 mdX1_slotOf rfl q1239 q1241 qs7 q125 dX1_buy_8 rfl rfl (Nat.le_of_ble_eq_true rfl) (h.r0) (x_X1_slotOf_ok (d := d - 1) (by omega) h (by omega)) (by omega) (by omega) (by omega) ?_
      refine pj_astore (pc := 11) (lv' := [(4, _), (3, _), (0, _), (1, _), (2, _)]) dX1_buy_11 (by decide) rfl ?_
      refine pl_aload_n (pc := 13) dX1_buy_13 rfl rfl ?_
      refine pl_callVd (pc := 14) (As := []) (C1 := 0) (N1 := 0) (C2 := 1) (N2 := 6) ckX10 mdX10_isHere rfl q1591 q1192 q1193 q158 dX1_buy_14 rfl rfl (Nat.le_of_ble_eq_true rfl) (h.r35 (by omega)) (x_X10_isHere (d := d - 1) (by omega) h (by omega)) (by omega) (by omega) (by omega) ?_
      refine pl_if_neB (pc := 17) (tgt := 22) dX1_buy_17 (by decide) (fun c17 => ?_) (fun c17 => ?_)
      · refine pl_aload (pc := 22) dX1_buy_22 rfl ?_
        refine pl_callVd (pc := 24) (As := []) (C1 := 0) (N1 := 0) (C2 := 1) (N2 := 6) ckX8 mdX8_isLot rfl q1698 q1699 q1700 q152 dX1_buy_24 rfl rfl (Nat.le_of_ble_eq_true rfl) hm_8 (k_X8_isLot (d := d - 1) (by omega) hm_8 hq_8) (by omega) (by omega) (by omega) ?_
        refine PJ.top (ho_isLot) ?_
        refine pl_if_eqB (pc := 27) (tgt := 42) dX1_buy_27 (by decide) (fun c27 => ?_) (fun c27 => ?_)
        · have d27 : ¬ sec ρ j_c 0 = nI 1 := of_decide_eq_false c27
          refine pj_bipush (pc := 42) (v := (-2)) dX1_buy_42 (by rfl) ?_
          refine pj_iret (pc := 44) dX1_buy_44 rfl ?_
          exact CQ.ok (τ := ρ) (by first | (simp only [p_buy, hs9, ← hs0, hap_p, g_p, hap_c, g_c, c17, c27, d27, ↓reduceIte]; first | done | rfl) | (simp [p_buy, hs9, ← hs0, hap_p, g_p, hap_c, g_c, c17, c27, d27, Int32.not_lt, Int32.not_le]; first | done | rfl)) h00 ⟨_, h, t⟩
        · have d27 : sec ρ j_c 0 = nI 1 := of_decide_eq_true c27
          refine pl_aload_n (pc := 30) dX1_buy_30 rfl rfl ?_
          refine pj_getf (pc := 31) ckX1 0 q853 dX1_buy_31 (by decide) (h.r0) rfl ?_
          refine pl_aload_n (pc := 34) dX1_buy_34 rfl rfl ?_
          refine pl_iload_n (pc := 35) dX1_buy_35 rfl rfl ?_
          refine pl_callVWd (pc := 36) (As := [_, _]) (C1 := 1) (N1 := 3) (C2 := 0) (N2 := 3) ckX2 mdX2_sells rfl q1703 q1704 q1705 q126 dX1_buy_36 rfl rfl (Nat.le_of_ble_eq_true rfl) (h.r1) (x_X2_sells (d := d - 1) (by omega) ⟨_, h, t⟩ iv1 hj_p hj_c d27) (by omega) (by omega) (by omega) (fun My1 qy1 => ?_)
          refine pj_goto (pc := 39) (tgt := 44) dX1_buy_39 (by decide) ?_
          refine pj_iret (pc := 44) dX1_buy_44 rfl ?_
          exact CQ.ok (τ := (p_sells ρ (S 4 0) (S 8 0) j_p j_c).2) (by first | (simp only [p_buy, hs9, ← hs0, hap_p, g_p, hap_c, g_c, c17, c27, d27, ↓reduceIte]; first | done | rfl) | (simp [p_buy, hs9, ← hs0, hap_p, g_p, hap_c, g_c, c17, c27, d27, Int32.not_lt, Int32.not_le]; first | done | rfl)) ((congrFun (fr_sells ρ (S 4 0) (S 8 0) j_p j_c).1 0).trans h00) qy1
      · refine pj_iconst (pc := 20) (v := (-1)) dX1_buy_20 (by rfl) ?_
        refine pj_iret (pc := 21) dX1_buy_21 rfl ?_
        exact CQ.ok (τ := ρ) (by first | (simp only [p_buy, hs9, ← hs0, hap_p, g_p, hap_c, g_c, c17, ↓reduceIte]; first | done | rfl) | (simp [p_buy, hs9, ← hs0, hap_p, g_p, hap_c, g_c, c17, Int32.not_lt, Int32.not_le]; first | done | rfl)) h00 ⟨_, h, t⟩
