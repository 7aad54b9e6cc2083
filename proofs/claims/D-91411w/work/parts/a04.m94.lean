set_option maxRecDepth 100000
theorem spays_row {σ : MS} {p j : Nat} {a : Int32} : row (s_pays σ p a) j = if j = 768 + 8 * p + 1 then (if ¬ per σ p 1 + a ≤ 1000000 then 1000000 else per σ p 1 + a) else row σ j := by
  unfold s_pays
  exact rowS_if
section PD
variable {g : GP} {P : Nat → Prop} {F : Mem} {A : XA} {w : Nat} {S : Nat → Nat → Nat} {b : XS} {σ : MS} {e : XE} {M : Mem} {nor nw p o : Nat}
theorem paid_no (h : SX g P F A w S b (leavesS σ p) (leavesE σ e p) M) (t : TieX w S σ e nw) (iv : IvG σ (S 4 w) (S 8 w) (S 10 w) (S 6 w) nor nw) (hp : p < S 4 w) (h2 : per σ p 2 = nI 3) (ho : o < S 4 w) (h3 : per σ p 3 = nI o) (hc : per σ o 1 < (meanV σ (S 4 w) (S 8 w) 2 (nI 0)).1) : SB g P F A w S b (live1 (S 4 w) (S 8 w) p σ) nw M := by
  have hz := h.hz
  have hS4 := hz.2.1
  have go : tN (per σ p 3) = o := by rw [h3]; exact tN_nI (by omega)
  have eS : leavesS σ p = sR (sR σ (768 + 8 * p + 3) (-1)) (768 + 8 * p + 2) (nI 2) := if_pos h2
  have eE : leavesE σ e p = uE e 0 o (e 0 o - nI 1) := by
    unfold leavesE
    rw [if_pos h2, go]
  have el : live1 (S 4 w) (S 8 w) p σ = sR (sR (sM σ (S 4 w) (S 8 w) 2 (nI 0)) (768 + 8 * p + 2) (nI 2)) (768 + 8 * p + 3) (-1) := by
    unfold live1
    rw [go]
    dsimp only
    rw [if_neg (fun z => z h2), if_pos hc]
  rw [eS, eE] at h
  rw [el]
  refine ⟨_, h.onR (fun j _ => ?_) (OnR.rf.R.R.sy.tr OnR.rf.P.R.R), tie_free t hz rfl iv hp ho h2 h3 (fun j _ g2 g3 => ?_) ?_ rowS_eq (by simp [sA]) (by simp [sA]) (by simp [sA]) rfl rfl⟩
  · by_cases j3 : j = 768 + 8 * p + 3
    · subst j3
      rw [rowS_eq, rowS_ne (by omega), rowS_eq]
    · rw [rowS_ne j3]
      by_cases j2 : j = 768 + 8 * p + 2
      · subst j2
        rw [rowS_eq, rowS_eq]
      · rw [rowS_ne j2, rowS_ne j2, rowS_ne j3]
        exact rowP
  · rw [rowS_ne g3, rowS_ne g2]
    exact rowP
  · show row _ (768 + 8 * p + 2) = _
    rw [rowS_ne (by omega), rowS_eq]
theorem paid_yes (h : SX g P F A w S b (s_pays (sR σ (768 + 8 * o + 1) (per σ o 1 - (meanV σ (S 4 w) (S 8 w) 2 (nI 0)).1)) p (meanV σ (S 4 w) (S 8 w) 2 (nI 0)).1) e M) (t : TieX w S σ e nw) (hp : p < S 4 w) (h2 : per σ p 2 = nI 3) (ho : o < S 4 w) (h3 : per σ p 3 = nI o) (hc : ¬ per σ o 1 < (meanV σ (S 4 w) (S 8 w) 2 (nI 0)).1) : SB g P F A w S b (live1 (S 4 w) (S 8 w) p σ) nw M := by
  have hz := h.hz
  have hS4 := hz.2.1
  have go : tN (per σ p 3) = o := by rw [h3]; exact tN_nI (by omega)
  obtain ⟨k, hk, ek⟩ := mean_in (σ := σ) (n := S 4 w) (nl := S 8 w) (name := 2) (gr := nI 0) (by decide) t.tr1 t.tr2
  obtain ⟨m, hm, em⟩ := t.coins ho
  obtain ⟨q1, q2, q3⟩ := pay_sub em ek hm (by omega) (Int32.not_lt.mp hc)
  have el : live1 (S 4 w) (S 8 w) p σ = s_pays (sR (sM σ (S 4 w) (S 8 w) 2 (nI 0)) (768 + 8 * o + 1) (per σ o 1 - (meanV σ (S 4 w) (S 8 w) 2 (nI 0)).1)) p (meanV σ (S 4 w) (S 8 w) 2 (nI 0)).1 := by
    unfold live1
    rw [go]
    dsimp only
    rw [if_neg (fun z => z h2), if_neg hc]
    congr 1
    unfold s_pays
    show sR _ _ (if ¬ per σ o 1 + -(meanV σ (S 4 w) (S 8 w) 2 (nI 0)).1 ≤ 1000000 then 1000000 else per σ o 1 + -(meanV σ (S 4 w) (S 8 w) 2 (nI 0)).1) = _
    rw [q3]
  rw [el]
  generalize hv : (meanV σ (S 4 w) (S 8 w) 2 (nI 0)).1 = v at *
  have hrow : ∀ j, row (s_pays (sR (sM σ (S 4 w) (S 8 w) 2 (nI 0)) (768 + 8 * o + 1) (per σ o 1 - v)) p v) j = row (s_pays (sR σ (768 + 8 * o + 1) (per σ o 1 - v)) p v) j := fun j => by
    have r : ∀ j, row (sR (sM σ (S 4 w) (S 8 w) 2 (nI 0)) (768 + 8 * o + 1) (per σ o 1 - v)) j = row (sR σ (768 + 8 * o + 1) (per σ o 1 - v)) j := fun j => by
      rw [rowS_if, rowS_if]
      rfl
    rw [spays_row, spays_row]
    simp only [per, r]
  have on1 : OnR σ (s_pays (sR (sM σ (S 4 w) (S 8 w) 2 (nI 0)) (768 + 8 * o + 1) (per σ o 1 - v)) p v) := OnR.rf.P.R.R
  have on2 : OnR σ (s_pays (sR σ (768 + 8 * o + 1) (per σ o 1 - v)) p v) := OnR.rf.R.R
  refine ⟨e, h.onR (fun j _ => hrow j) (on2.sy.tr on1), t.coin hz (fun j _ hj => ?_) (fun q hq => ?_) (on1.1 3 (by decide) (by decide) (by decide) (by decide)) (on1.1 4 (by decide) (by decide) (by decide) (by decide)) (fun j _ => by rw [on1.2.2.2]) (on1.2.1 23) (on1.2.1 24)⟩
  · rw [hrow, spays_row, if_neg (hj p hp), rowS_ne (hj o ho)]
  · show ∃ m, m ≤ 1000000 ∧ row _ (768 + 8 * q + 1) = nI m
    rw [hrow, spays_row]
    have hb : ∀ x, x < S 4 w → ∃ m, m ≤ 1000000 ∧ row (sR σ (768 + 8 * o + 1) (per σ o 1 - v)) (768 + 8 * x + 1) = nI m := fun x hx => by
      rw [rowS_if]
      split
      · exact ⟨m - k, by omega, q2⟩
      · exact t.coins hx
    split
    · obtain ⟨m1, hm1, em1⟩ := hb p hp
      exact gets_in em1 ek hm1 (by omega)
    · exact hb q hq
theorem bestB_l (σ : MS) : ∀ i, bestB σ i = -1 ∨ ∃ b, b < i ∧ bestB σ i = nI b ∧ sec σ b 0 = nI 1
  | 0 => Or.inl rfl
  | i + 1 => by
    have up : bestB σ i = -1 ∨ ∃ b, b < i + 1 ∧ bestB σ i = nI b ∧ sec σ b 0 = nI 1 := by
      rcases bestB_l σ i with h | ⟨b, hb, e, e1⟩
      · exact Or.inl h
      · exact Or.inr ⟨b, by omega, e, e1⟩
    simp only [bestB]
    by_cases h1 : sec σ i 0 = nI 1
    · rw [if_neg (fun z => z h1)]
      split
      · exact Or.inr ⟨i, by omega, rfl, h1⟩
      · split
        · exact up
        · exact Or.inr ⟨i, by omega, rfl, h1⟩
    · rw [if_pos h1]
      exact up
theorem live2_no {n nl : Nat} (h2 : ¬ per σ p 2 = nI 4) (hb : bestB σ 96 = -1) : live2 n nl p σ = σ := by
  unfold live2
  rw [if_neg h2, if_pos (by rw [hb]; decide)]
theorem live2_few {n nl c : Nat} (h2 : ¬ per σ p 2 = nI 4) (hc : c < 96) (hb : bestB σ 96 = nI c) (hf : per σ p 1 < (meanV σ n nl 0 (σ.2.1 3 c)).1 + nI 10) : live2 n nl p σ = sM σ n nl 0 (σ.2.1 3 c) := by
  unfold live2
  rw [if_neg h2, if_neg (by rw [hb]; exact Int32.not_lt.mpr (nI_pos' (by omega))), hb, tN_nI (by omega)]
  exact if_pos hf
theorem live2_yes {n nl c : Nat} (h2 : ¬ per σ p 2 = nI 4) (hc : c < 96) (hb : bestB σ 96 = nI c) (hf : ¬ per σ p 1 < (meanV σ n nl 0 (σ.2.1 3 c)).1 + nI 10) : live2 n nl p σ = (p_sells (sM σ n nl 0 (σ.2.1 3 c)) n nl p c).2 := by
  unfold live2
  rw [if_neg h2, if_neg (by rw [hb]; exact Int32.not_lt.mpr (nI_pos' (by omega))), hb, tN_nI (by omega)]
  exact if_neg hf
end PD
set_option maxHeartbeats 600000 in
theorem x_X2_isPaid {g : GP} {μ : Mem} {d : Nat} {P : Nat → Prop} {F : Mem} {A : XA} {w : Nat} {S : Nat → Nat → Nat} {b : XS} {σ : MS} {nor nw : Nat} (hd : 325 ≤ d) (s : SB g P F A w S b σ nw μ) (iv : IvG σ (S 4 w) (S 8 w) (S 10 w) (S 6 w) nor nw) {p : Nat} (hp : p < S 4 w) (h2 : per σ p 2 = nI 3) : PM g yX2_isPaid (ws_ yX2_isPaid cX2_isPaid 4 none) d 0 0 [.ref (A 1 w 0), .ref (A 35 w p)] μ (WQ none (SB g P F A w S b (live1 (S 4 w) (S 8 w) p σ) nw)) := by
  refine PM.of (by decide +kernel) (Nat.le_of_ble_eq_true rfl) ?_
  refine PJ.ok (fun G => ?_)
  show PJ g _ _ _ _ d 0 0 0 [(0, .ref (A 1 w 0)), (1, .ref (A 35 w p))] [] _ _
  obtain ⟨e, h, t⟩ := s
  have hS4 := h.hz.2.1
  have hS6 := h.hz.2.2.1
  have hS8 := h.hz.2.2.2.1
  have hS10 := h.hz.2.2.2.2.1
  refine pl_aload_n (pc := 0) dX2_isPaid_0 rfl rfl ?_
  refine pj_getf (pc := 1) ckX2 26 q772 dX2_isPaid_1 (by decide) (h.r1) rfl ?_
  refine pl_aload_n (pc := 4) dX2_isPaid_4 rfl rfl ?_
  refine pj_getfN (pc := 5) ckX10 4 q1077 dX2_isPaid_5 (by decide) (h.r35 hp) rfl ?_
  obtain ⟨o, ho, eo⟩ := iv.hire p hp h2
  refine PJ.top (y := nI o) eo ?_
  obtain ⟨m_8, c_8, l_8⟩ := h.L4
  refine pl_callVd (pc := 8) (As := [_]) (C1 := 0) (N1 := 0) (C2 := 0) (N2 := 0) ckJ2 mdJ2_get rfl q707 q708 q709 q129 dX2_isPaid_8 rfl rfl (Nat.le_of_ble_eq_true rfl) l_8.1 (k_J2_get (d := d - 1) (by omega) l_8 (j := o) ho (if_pos ho)) (by omega) (by omega) (by omega) ?_
  refine pj_castS (pc := 11) ckX10 q1190 dX2_isPaid_11 (h.r35 ho) ?_
  refine pj_astore_n (pc := 14) (lv' := [(2, _), (0, _), (1, _)]) dX2_isPaid_14 rfl (by decide) rfl ?_
  refine pl_aload_n (pc := 15) dX2_isPaid_15 rfl rfl ?_
  refine pl_iconst (pc := 16) (v := 2) dX2_isPaid_16 (by rfl) ?_
  refine pl_iconst (pc := 17) (v := 0) dX2_isPaid_17 (by rfl) ?_
  refine pl_callVWd (pc := 18) (As := [_, _]) (C1 := 0) (N1 := 0) (C2 := 0) (N2 := 0) ckX2 mdX2_means rfl q1707 q1708 q1709 q126 dX2_isPaid_18 rfl rfl (Nat.le_of_ble_eq_true rfl) (h.r1) (x_X2_means (d := d - 1) (by omega) h (by omega) t.ht) (by omega) (by omega) (by omega) (fun My1 qy1 => ?_)
  obtain ⟨e_18, he_18, y1⟩ := qy1
  refine pj_istore_n (pc := 21) (lv' := [(3, _), (2, _), (0, _), (1, _)]) dX2_isPaid_21 rfl (by decide) rfl ?_
  refine pl_aload_n (pc := 22) dX2_isPaid_22 rfl rfl ?_
  refine pj_getfN (pc := 23) ckX10 2 q1071 dX2_isPaid_23 (by decide) (y1.r35 ho) rfl ?_
  refine pl_iload_n (pc := 26) dX2_isPaid_26 rfl rfl ?_
  refine pj_icmp_ge (pc := 27) (tgt := 36) dX2_isPaid_27 (by decide) (fun c27 => ?_) (fun c27 => ?_)
  · refine pl_aload_n (pc := 36) dX2_isPaid_36 rfl rfl ?_
    refine pj_dup (pc := 37) dX2_isPaid_37 rfl ?_
    refine pj_getfN (pc := 38) ckX10 2 q1071 dX2_isPaid_38 (by decide) (y1.r35 ho) rfl ?_
    refine pl_iload_n (pc := 41) dX2_isPaid_41 rfl rfl ?_
    refine pj_isub (pc := 42) dX2_isPaid_42 ?_
    refine pj_putfN (pc := 43) ckX10 2 q1071 dX2_isPaid_43 (by decide) rfl (y1.r35 ho) rfl rfl (Nat.le_of_ble_eq_true rfl) ?_
    refine sxk (y1.p35_2 ho) (fun My2 y2 => ?_)
    refine pl_aload_n (pc := 46) dX2_isPaid_46 rfl rfl ?_
    refine pl_iload_n (pc := 47) dX2_isPaid_47 rfl rfl ?_
    refine pl_callVWv (pc := 48) (As := [_]) (C1 := 0) (N1 := 0) (C2 := 0) (N2 := 0) ckX10 mdX10_gets rfl q2380 q2381 q2382 q158 dX2_isPaid_48 rfl rfl (Nat.le_of_ble_eq_true rfl) (y2.r35 hp) (x_X10_gets (d := d - 1) (by omega) y2 hp) (by omega) (by omega) (by omega) (fun My3 y3 => ?_)
    refine pj_vret (pc := 51) dX2_isPaid_51 rfl ?_
    exact ⟨rfl, paid_yes y3 (t.e9 he_18) hp h2 ho eo (Int32.not_lt.mpr c27)⟩
  · refine pl_aload_n (pc := 30) dX2_isPaid_30 rfl rfl ?_
    refine pl_aload_n (pc := 31) dX2_isPaid_31 rfl rfl ?_
    refine pl_callVWv (pc := 32) (As := [_]) (C1 := 0) (N1 := 0) (C2 := 0) (N2 := 0) ckX2 mdX2_leaves rfl q1741 q1742 q1743 q126 dX2_isPaid_32 rfl rfl (Nat.le_of_ble_eq_true rfl) (y1.r1) (x_X2_leaves (d := d - 1) (by omega) y1 hp (fun _ => ⟨o, ho, eo⟩)) (by omega) (by omega) (by omega) (fun My4 y4 => ?_)
    refine pj_vret (pc := 35) dX2_isPaid_35 rfl ?_
    exact ⟨rfl, paid_no y4 (t.e9 he_18) iv hp h2 ho eo (Int32.not_le.mp c27)⟩
set_option maxHeartbeats 600000 in
theorem x_X2_wants {g : GP} {μ : Mem} {d : Nat} {P : Nat → Prop} {F : Mem} {A : XA} {w : Nat} {S : Nat → Nat → Nat} {b : XS} {σ : MS} {nor nw : Nat} (hd : 340 ≤ d) (s : SB g P F A w S b σ nw μ) (iv : IvG σ (S 4 w) (S 8 w) (S 10 w) (S 6 w) nor nw) {p : Nat} (hp : p < S 4 w) (h2 : ¬ per σ p 2 = nI 4) : PM g yX2_wants (ws_ yX2_wants cX2_wants 3 none) d 1 3 [.ref (A 1 w 0), .ref (A 35 w p)] μ (WQ none (SB g P F A w S b (live2 (S 4 w) (S 8 w) p σ) nw)) := by
  refine PM.of (by decide +kernel) (Nat.le_of_ble_eq_true rfl) ?_
  refine PJ.ok (fun G => ?_)
  show PJ g _ _ _ _ d 1 3 0 [(0, .ref (A 1 w 0)), (1, .ref (A 35 w p))] [] _ _
  obtain ⟨e, h, t⟩ := s
  have hS4 := h.hz.2.1
  have hS6 := h.hz.2.2.1
  have hS8 := h.hz.2.2.2.1
  have hS10 := h.hz.2.2.2.2.1
  refine pl_aload_n (pc := 0) dX2_wants_0 rfl rfl ?_
  refine pl_callVd (pc := 1) (As := []) (C1 := 0) (N1 := 0) (C2 := 1) (N2 := 3) ckX2 mdX2_bestLot rfl q2407 q2409 qs42 q126 dX2_wants_1 rfl rfl (Nat.le_of_ble_eq_true rfl) (h.r1) (x_X2_bestLot (d := d - 1) (by omega) h) (by omega) (by omega) (by omega) ?_
  refine pj_istore_n (pc := 4) (lv' := [(2, _), (0, _), (1, _)]) dX2_wants_4 rfl (by decide) rfl ?_
  refine pl_iload_n (pc := 5) dX2_wants_5 rfl rfl ?_
  refine pj_iconst (pc := 6) (v := (-1)) dX2_wants_6 (by rfl) ?_
  rcases bestB_l σ 96 with eb | ⟨c, hc, eb, hl⟩
  · rw [eb]
    refine pj_icmp_eq (pc := 7) (tgt := 38) dX2_wants_7 (by decide) (fun _ => ?_) (fun z => absurd rfl z)
    refine pj_vret (pc := 38) dX2_wants_38 rfl ?_
    rw [live2_no h2 eb]
    exact ⟨rfl, e, h, t⟩
  · have p_c : ¬ nI c < 0 := Int32.not_lt.mpr (nI_pos' (by omega))
    have n_c : ¬ nI c = -1 := fun z => p_c (by rw [z]; decide)
    rw [eb]
    refine pj_icmp_eq (pc := 7) (tgt := 38) dX2_wants_7 (by decide) (fun z => absurd z n_c) (fun _ => ?_)
    refine pl_aload_n (pc := 10) dX2_wants_10 rfl rfl ?_
    refine pl_iconst (pc := 11) (v := 0) dX2_wants_11 (by rfl) ?_
    refine pl_aload_n (pc := 12) dX2_wants_12 rfl rfl ?_
    refine pj_getf (pc := 13) ckX2 13 q749 dX2_wants_13 (by decide) (h.r1) rfl ?_
    refine pl_iload_n (pc := 16) dX2_wants_16 rfl rfl ?_
    refine pl_bald (pc := 17) (n := 96) dX2_wants_17 (h.r27) (by omega) (by decide) ?_
    refine PJ.top (h.v27 (by omega)) ?_
    refine pl_callVWd (pc := 18) (As := [_, _]) (C1 := 0) (N1 := 0) (C2 := 1) (N2 := 3) ckX2 mdX2_means rfl q1707 q1708 q1709 q126 dX2_wants_18 rfl rfl (Nat.le_of_ble_eq_true rfl) (h.r1) (x_X2_means (d := d - 1) (by omega) h (by omega) t.ht) (by omega) (by omega) (by omega) (fun My1 qy1 => ?_)
    obtain ⟨e_18, he_18, y1⟩ := qy1
    refine pl_bipush (pc := 21) (v := 10) dX2_wants_21 (by rfl) ?_
    refine pj_iadd (pc := 23) dX2_wants_23 ?_
    refine pl_aload_n (pc := 24) dX2_wants_24 rfl rfl ?_
    refine pj_getfN (pc := 25) ckX10 2 q1071 dX2_wants_25 (by decide) (y1.r35 hp) rfl ?_
    refine pj_icmp_gt (pc := 28) (tgt := 38) dX2_wants_28 (by decide) (fun c28 => ?_) (fun c28 => ?_)
    · refine pj_vret (pc := 38) dX2_wants_38 rfl ?_
      rw [live2_few h2 hc eb c28]
      exact ⟨rfl, SB.P ⟨e_18, y1, t.e9 he_18⟩⟩
    · refine pl_aload_n (pc := 31) dX2_wants_31 rfl rfl ?_
      refine pl_aload_n (pc := 32) dX2_wants_32 rfl rfl ?_
      refine pl_iload_n (pc := 33) dX2_wants_33 rfl rfl ?_
      have s_34 : SB g P F A w S b (sM σ (S 4 w) (S 8 w) 0 (σ.2.1 3 c)) nw _ := SB.P ⟨_, y1, t.e9 he_18⟩
      have iv_34 : IvG (sM σ (S 4 w) (S 8 w) 0 (σ.2.1 3 c)) (S 4 w) (S 8 w) (S 10 w) (S 6 w) nor nw := iv.sA1
      refine pl_callVWd (pc := 34) (As := [_, _]) (C1 := 1) (N1 := 3) (C2 := 0) (N2 := 0) ckX2 mdX2_sells rfl q2413 q1704 q1705 q126 dX2_wants_34 rfl rfl (Nat.le_of_ble_eq_true rfl) (y1.r1) (x_X2_sells (d := d - 1) (by omega) s_34 iv_34 hp hc hl) (by omega) (by omega) (by omega) (fun My2 qy2 => ?_)
      refine pj_pop (pc := 37) dX2_wants_37 rfl ?_
      refine pj_vret (pc := 38) dX2_wants_38 rfl ?_
      rw [live2_yes h2 hc eb c28]
      exact ⟨rfl, qy2⟩
