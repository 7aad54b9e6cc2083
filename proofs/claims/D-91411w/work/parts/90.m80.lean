set_option maxRecDepth 100000
theorem SzX.s2 {w : Nat} {S : Nat → Nat → Nat} (h : SzX w S) : S 2 w = 96 := by
  obtain ⟨h1, -, -, -, -, h2, h3, -⟩ := h
  match w, h1 with
  | 0, _ => exact h2
  | 1, _ => exact h3
section SXk
variable {g : GP} {own : String} {cc : ByteArray} {nL : Nat} {i : MI} {d C N pc : Nat} {ls : List (Nat × Value)} {st rest : List Value} {μ : Mem} {Q : OC → Mem → Prop} {P : Nat → Prop} {F : Mem} {A : XA} {w : Nat} {S : Nat → Nat → Nat} {b : XS} {σ : MS} {e : XE}
theorem sxk (h : SX g P F A w S b σ e μ) (k : ∀ M : Mem, SX g P F A w S b σ e M → PJ g own cc nL i d C N pc ls st M Q) : PJ g own cc nL i d C N pc ls st μ Q := k μ h
end SXk
theorem ho_kind {σ : MS} {s : Nat} : hoR σ s 0 = sec σ s 0 := rfl
theorem ho_holder {σ : MS} {s : Nat} : hoR σ s 1 = sec σ s 1 := rfl
theorem ho_paid {σ : MS} {s : Nat} : hoR σ s 2 = sec σ s 5 := rfl
theorem ho_isFarm {σ : MS} {s : Nat} : bI (isFarmV (hoR σ s 0)) = bI (isFarmV (sec σ s 0)) := rfl
theorem ho_isPasture {σ : MS} {s : Nat} : bI (isPastV (hoR σ s 0)) = bI (isPastV (sec σ s 0)) := rfl
theorem ho_ends {σ : MS} {s : Nat} : bI (decide (hoR σ s 0 = nI 4)) = bI (decide (sec σ s 0 = nI 4)) := rfl
theorem ho_isWild {σ : MS} {s : Nat} : bI (decide (hoR σ s 0 = nI 0)) = bI (decide (sec σ s 0 = nI 0)) := rfl
theorem ho_isLot {σ : MS} {s : Nat} : bI (decide (hoR σ s 0 = nI 1)) = bI (decide (sec σ s 0 = nI 1)) := rfl
section PH
variable {g : GP} {own : String} {cc : ByteArray} {nL : Nat} {i : MI} {d C N pc : Nat} {ls : List (Nat × Value)} {rest : List Value} {μ : Mem} {Q : OC → Mem → Prop} {q index : Nat} {r : Nat → Int32}
theorem ph_instWild (hq : HoC μ q r) (hlink : Cond.classLink own index "SettlerColony$Wild" ∈ lw_all) (hdg : decode cc pc = .ok (.instanceof index, 3)) (kk : PJ g own cc nL i d C N (pc + 3) ls (.int (bI (decide (r 0 = nI 0))) :: rest) μ Q) : PJ g own cc nL i d C N pc ls (.ref q :: rest) μ Q := by
  rcases hq with ⟨e0, e1, e2, hm⟩ | ⟨e0, e1, e2, hm⟩ | ⟨e0, hm⟩ | ⟨e0, e2, hm⟩ | ⟨e0, hm⟩ | ⟨e0, e2, hm⟩
  · rw [e0] at kk
    exact pj_instS ckX4 hlink hdg hm kk
  · rw [e0] at kk
    exact pj_instNo ckX5 hlink (fun G => va_Nc.of (nr_leaf G [2, 0, 0, 4, 1] (by decide +kernel))) hdg hm kk
  · rw [e0] at kk
    exact pj_instNo ckX14 hlink (fun G => va_Nc.of (nr_leaf G [2, 0, 0, 1, 2, 1] (by decide +kernel))) hdg hm kk
  · rw [e0] at kk
    exact pj_instNo ckX16 hlink (fun G => va_Nc.of (nr_leaf G [2, 0, 0, 1, 1, 0, 1] (by decide +kernel))) hdg hm kk
  · rw [e0] at kk
    exact pj_instNo ckX15 hlink (fun G => va_Nc.of (nr_leaf G [2, 0, 0, 1, 1, 1] (by decide +kernel))) hdg hm kk
  · rw [e0] at kk
    exact pj_instNo ckX17 hlink (fun G => va_Nc.of (nr_leaf G [2, 0, 0, 1, 1, 0, 0, 0] (by decide +kernel))) hdg hm kk
theorem ph_instRun (hq : HoC μ q r) (hlink : Cond.classLink own index "SettlerColony$Run" ∈ lw_all) (hdg : decode cc pc = .ok (.instanceof index, 3)) (kk : PJ g own cc nL i d C N (pc + 3) ls (.int (bI (isPastV (r 0))) :: rest) μ Q) : PJ g own cc nL i d C N pc ls (.ref q :: rest) μ Q := by
  rcases hq with ⟨e0, e1, e2, hm⟩ | ⟨e0, e1, e2, hm⟩ | ⟨e0, hm⟩ | ⟨e0, e2, hm⟩ | ⟨e0, hm⟩ | ⟨e0, e2, hm⟩
  · rw [e0] at kk
    exact pj_instNo ckX4 hlink (fun G => va_Nc.of (nr_leaf G [2, 0, 0, 0, 0, 2, 0, 0] (by decide +kernel))) hdg hm kk
  · rw [e0] at kk
    exact pj_instNo ckX5 hlink (fun G => va_Nc.of (nr_leaf G [2, 0, 0, 0, 0, 1, 1] (by decide +kernel))) hdg hm kk
  · rw [e0] at kk
    exact pj_instNo ckX14 hlink (fun G => va_Nc.of (nr_leaf G [1, 7, 0, 0] (by decide +kernel))) hdg hm kk
  · rw [e0] at kk
    exact pj_instS ckX16 hlink hdg hm kk
  · rw [e0] at kk
    exact pj_instNo ckX15 hlink (fun G => va_Nc.of (nr_leaf G [1, 6, 0, 1] (by decide +kernel))) hdg hm kk
  · rw [e0] at kk
    exact pj_instY ckX17 hlink q3231 hdg hm kk
theorem ph_instCountry (hq : HoC μ q r) (hlink : Cond.classLink own index "SettlerColony$Country" ∈ lw_all) (hdg : decode cc pc = .ok (.instanceof index, 3)) (kk : PJ g own cc nL i d C N (pc + 3) ls (.int (bI (isFarmV (r 0))) :: rest) μ Q) : PJ g own cc nL i d C N pc ls (.ref q :: rest) μ Q := by
  rcases hq with ⟨e0, e1, e2, hm⟩ | ⟨e0, e1, e2, hm⟩ | ⟨e0, hm⟩ | ⟨e0, e2, hm⟩ | ⟨e0, hm⟩ | ⟨e0, e2, hm⟩
  · rw [e0] at kk
    exact pj_instNo ckX4 hlink (fun G => va_Nc.of (nr_leaf G [1, 0, 3, 1, 0, 0, 0] (by decide +kernel))) hdg hm kk
  · rw [e0] at kk
    exact pj_instNo ckX5 hlink (fun G => va_Nc.of (nr_leaf G [1, 0, 3, 0, 2] (by decide +kernel))) hdg hm kk
  · rw [e0] at kk
    exact pj_instS ckX14 hlink hdg hm kk
  · rw [e0] at kk
    exact pj_instNo ckX16 hlink (fun G => va_Nc.of (nr_leaf G [1, 0, 2, 1, 2] (by decide +kernel))) hdg hm kk
  · rw [e0] at kk
    exact pj_instY ckX15 hlink q3236 hdg hm kk
  · rw [e0] at kk
    exact pj_instNo ckX17 hlink (fun G => va_Nc.of (nr_leaf G [1, 0, 2, 1, 1, 1] (by decide +kernel))) hdg hm kk
theorem ph_castHolding (hq : HoC μ q r) (hlink : Cond.classLink own index "SettlerColony$Holding" ∈ lw_all) (hdg : decode cc pc = .ok (.checkcast index, 3)) (kk : PJ g own cc nL i d C N (pc + 3) ls (.ref q :: rest) μ Q) : PJ g own cc nL i d C N pc ls (.ref q :: rest) μ Q := by
  rcases hq with ⟨e0, e1, e2, hm⟩ | ⟨e0, e1, e2, hm⟩ | ⟨e0, hm⟩ | ⟨e0, e2, hm⟩ | ⟨e0, hm⟩ | ⟨e0, e2, hm⟩
  · exact pj_castY ckX4 hlink q3230 hdg hm kk
  · exact pj_castY ckX5 hlink q3226 hdg hm kk
  · exact pj_castY ckX14 hlink q3225 hdg hm kk
  · exact pj_castY ckX16 hlink q3228 hdg hm kk
  · exact pj_castY ckX15 hlink q3227 hdg hm kk
  · exact pj_castY ckX17 hlink q3229 hdg hm kk
theorem ph_castRun (hq : HoC μ q r) (hc : isPastV (r 0) = true) (hlink : Cond.classLink own index "SettlerColony$Run" ∈ lw_all) (hdg : decode cc pc = .ok (.checkcast index, 3)) (kk : PJ g own cc nL i d C N (pc + 3) ls (.ref q :: rest) μ Q) : PJ g own cc nL i d C N pc ls (.ref q :: rest) μ Q := by
  rcases hq with ⟨e0, e1, e2, hm⟩ | ⟨e0, e1, e2, hm⟩ | ⟨e0, hm⟩ | ⟨e0, e2, hm⟩ | ⟨e0, hm⟩ | ⟨e0, e2, hm⟩
  · rw [e0] at hc
    exact absurd hc (by decide)
  · rw [e0] at hc
    exact absurd hc (by decide)
  · rw [e0] at hc
    exact absurd hc (by decide)
  · exact pj_castS ckX16 hlink hdg hm kk
  · rw [e0] at hc
    exact absurd hc (by decide)
  · exact pj_castY ckX17 hlink q3231 hdg hm kk
theorem ph_castCountry (hq : HoC μ q r) (hc : isFarmV (r 0) = true) (hlink : Cond.classLink own index "SettlerColony$Country" ∈ lw_all) (hdg : decode cc pc = .ok (.checkcast index, 3)) (kk : PJ g own cc nL i d C N (pc + 3) ls (.ref q :: rest) μ Q) : PJ g own cc nL i d C N pc ls (.ref q :: rest) μ Q := by
  rcases hq with ⟨e0, e1, e2, hm⟩ | ⟨e0, e1, e2, hm⟩ | ⟨e0, hm⟩ | ⟨e0, e2, hm⟩ | ⟨e0, hm⟩ | ⟨e0, e2, hm⟩
  · rw [e0] at hc
    exact absurd hc (by decide)
  · rw [e0] at hc
    exact absurd hc (by decide)
  · exact pj_castS ckX14 hlink hdg hm kk
  · rw [e0] at hc
    exact absurd hc (by decide)
  · exact pj_castY ckX15 hlink q3236 hdg hm kk
  · rw [e0] at hc
    exact absurd hc (by decide)
theorem ph_castLot (hq : HoC μ q r) (hc : ¬ r 0 = nI 0) (hlink : Cond.classLink own index "SettlerColony$Lot" ∈ lw_all) (hdg : decode cc pc = .ok (.checkcast index, 3)) (kk : PJ g own cc nL i d C N (pc + 3) ls (.ref q :: rest) μ Q) : PJ g own cc nL i d C N pc ls (.ref q :: rest) μ Q := by
  rcases hq with ⟨e0, e1, e2, hm⟩ | ⟨e0, e1, e2, hm⟩ | ⟨e0, hm⟩ | ⟨e0, e2, hm⟩ | ⟨e0, hm⟩ | ⟨e0, e2, hm⟩
  · rw [e0] at hc
    exact absurd hc (by decide)
  · exact pj_castS ckX5 hlink hdg hm kk
  · exact pj_castY ckX14 hlink q3232 hdg hm kk
  · exact pj_castY ckX16 hlink q3234 hdg hm kk
  · exact pj_castY ckX15 hlink q3233 hdg hm kk
  · exact pj_castY ckX17 hlink q3235 hdg hm kk
end PH
set_option maxHeartbeats 600000 in
theorem k_X8_holding {g : GP} {μ : Mem} {d : Nat} (hd : 1 ≤ d) {a q : Nat} {r : Nat → Int32} (hm : μ a = some (slO q)) (hq : HoC μ q r) : PM g yX8_holding (ws_ yX8_holding cX8_holding 1 (some (.object "SettlerColony$Holding"))) d 0 0 [.ref a] μ (rQ (some (.ref q)) μ) := by
  refine PM.of (by decide +kernel) (Nat.le_of_ble_eq_true rfl) ?_
  refine PJ.ok (fun G => ?_)
  show PJ g _ _ _ _ d 0 0 0 [(0, .ref a)] [] _ _
  refine pl_aload_n (pc := 0) dX8_holding_0 rfl rfl ?_
  refine pj_getf (pc := 1) ckX8 0 q626 dX8_holding_1 (by decide) hm rfl ?_
  refine ph_castHolding (pc := 4) hq q1131 dX8_holding_4 ?_
  refine pj_aret (pc := 7) dX8_holding_7 rfl (Or.inl ⟨_, rfl⟩) (Or.inr ⟨_, rfl⟩) ?_
  exact ⟨rfl, rfl⟩
set_option maxHeartbeats 600000 in
theorem k_X8_isWild {g : GP} {μ : Mem} {d : Nat} (hd : 1 ≤ d) {a q : Nat} {r : Nat → Int32} (hm : μ a = some (slO q)) (hq : HoC μ q r) : PM g yX8_isWild (ws_ yX8_isWild cX8_isWild 1 (some .boolean)) d 0 0 [.ref a] μ (rQ (some (.int (bI (decide (r 0 = nI 0))))) μ) := by
  refine PM.of (by decide +kernel) (Nat.le_of_ble_eq_true rfl) ?_
  refine PJ.ok (fun G => ?_)
  show PJ g _ _ _ _ d 0 0 0 [(0, .ref a)] [] _ _
  refine pl_aload_n (pc := 0) dX8_isWild_0 rfl rfl ?_
  refine pj_getf (pc := 1) ckX8 0 q626 dX8_isWild_1 (by decide) hm rfl ?_
  refine ph_instWild (pc := 4) hq q1274 dX8_isWild_4 ?_
  refine pj_zret (pc := 7) .boolean dX8_isWild_7 rfl (narrow_bI _) ?_
  exact ⟨rfl, rfl⟩
set_option maxHeartbeats 600000 in
theorem k_X8_isLot {g : GP} {μ : Mem} {d : Nat} (hd : 3 ≤ d) {a q : Nat} {r : Nat → Int32} (hm : μ a = some (slO q)) (hq : HoC μ q r) : PM g yX8_isLot (ws_ yX8_isLot cX8_isLot 1 (some .boolean)) d 0 0 [.ref a] μ (rQ (some (.int (bI (decide (r 0 = nI 1))))) μ) := by
  refine PM.of (by decide +kernel) (Nat.le_of_ble_eq_true rfl) ?_
  refine PJ.ok (fun G => ?_)
  show PJ g _ _ _ _ d 0 0 0 [(0, .ref a)] [] _ _
  refine pl_aload_n (pc := 0) dX8_isLot_0 rfl rfl ?_
  refine pl_callVd (pc := 1) (As := []) (C1 := 0) (N1 := 0) (C2 := 0) (N2 := 0) ckX8 mdX8_holding rfl q1702 q1128 q1129 q152 dX8_isLot_1 rfl rfl (Nat.le_of_ble_eq_true rfl) hm (k_X8_holding (d := d - 1) (by omega) hm hq) (by omega) (by omega) (by omega) ?_
  refine ph_kind (pc := 4) hq (fun G => dw_at G 16 rfl) (fun G => dw_at G 1 rfl) dX8_isLot_4 (by omega) (Nat.le_of_ble_eq_true rfl) ?_
  refine pl_iconst (pc := 7) (v := 1) dX8_isLot_7 (by rfl) ?_
  refine pj_icmp_ne (pc := 8) (tgt := 15) dX8_isLot_8 (by decide) (fun c8 => ?_) (fun c8 => ?_)
  · refine pl_iconst (pc := 15) (v := 0) dX8_isLot_15 (by rfl) ?_
    refine pj_zret (pc := 16) .boolean dX8_isLot_16 rfl (by rfl) ?_
    refine ⟨?_, rfl⟩
    have e9 : decide (r 0 = nI 1) = false := by simp [c8]
    rw [e9]
    rfl
  · refine pl_iconst (pc := 11) (v := 1) dX8_isLot_11 (by rfl) ?_
    refine pj_goto (pc := 12) (tgt := 16) dX8_isLot_12 (by decide) ?_
    refine pj_zret (pc := 16) .boolean dX8_isLot_16 rfl (by rfl) ?_
    refine ⟨?_, rfl⟩
    have e9 : decide (r 0 = nI 1) = true := by simp [c8]
    rw [e9]
    rfl
set_option maxHeartbeats 600000 in
theorem k_X8_pasture {g : GP} {μ : Mem} {d : Nat} (hd : 1 ≤ d) {a q : Nat} {r : Nat → Int32} (hm : μ a = some (slO q)) (hq : HoC μ q r) : PM g yX8_pasture (ws_ yX8_pasture cX8_pasture 1 (some (.object "SettlerColony$Run"))) d 0 0 [.ref a] μ (rQ (some (if isPastV (r 0) = true then .ref q else .null)) μ) := by
  refine PM.of (by decide +kernel) (Nat.le_of_ble_eq_true rfl) ?_
  refine PJ.ok (fun G => ?_)
  show PJ g _ _ _ _ d 0 0 0 [(0, .ref a)] [] _ _
  refine pl_aload_n (pc := 0) dX8_pasture_0 rfl rfl ?_
  refine pj_getf (pc := 1) ckX8 0 q626 dX8_pasture_1 (by decide) hm rfl ?_
  refine ph_instRun (pc := 4) hq q1345 dX8_pasture_4 ?_
  refine pl_if_eqB (pc := 7) (tgt := 20) dX8_pasture_7 (by decide) (fun c7 => ?_) (fun c7 => ?_)
  · refine pj_null (pc := 20) dX8_pasture_20 ?_
    refine pj_aret (pc := 21) dX8_pasture_21 rfl (Or.inl ⟨_, rfl⟩) (Or.inl rfl) ?_
    exact ⟨by rw [c7]; rfl, rfl⟩
  · refine pl_aload_n (pc := 10) dX8_pasture_10 rfl rfl ?_
    refine pj_getf (pc := 11) ckX8 0 q626 dX8_pasture_11 (by decide) hm rfl ?_
    refine ph_castRun (pc := 14) hq c7 q1345 dX8_pasture_14 ?_
    refine pj_goto (pc := 17) (tgt := 21) dX8_pasture_17 (by decide) ?_
    refine pj_aret (pc := 21) dX8_pasture_21 rfl (Or.inl ⟨_, rfl⟩) (Or.inr ⟨_, rfl⟩) ?_
    exact ⟨by rw [c7]; rfl, rfl⟩
set_option maxHeartbeats 600000 in
theorem k_X8_farm {g : GP} {μ : Mem} {d : Nat} (hd : 1 ≤ d) {a q : Nat} {r : Nat → Int32} (hm : μ a = some (slO q)) (hq : HoC μ q r) : PM g yX8_farm (ws_ yX8_farm cX8_farm 1 (some (.object "SettlerColony$Country"))) d 0 0 [.ref a] μ (rQ (some (if isFarmV (r 0) = true then .ref q else .null)) μ) := by
  refine PM.of (by decide +kernel) (Nat.le_of_ble_eq_true rfl) ?_
  refine PJ.ok (fun G => ?_)
  show PJ g _ _ _ _ d 0 0 0 [(0, .ref a)] [] _ _
  refine pl_aload_n (pc := 0) dX8_farm_0 rfl rfl ?_
  refine pj_getf (pc := 1) ckX8 0 q626 dX8_farm_1 (by decide) hm rfl ?_
  refine ph_instCountry (pc := 4) hq q2369 dX8_farm_4 ?_
  refine pl_if_eqB (pc := 7) (tgt := 20) dX8_farm_7 (by decide) (fun c7 => ?_) (fun c7 => ?_)
  · refine pj_null (pc := 20) dX8_farm_20 ?_
    refine pj_aret (pc := 21) dX8_farm_21 rfl (Or.inl ⟨_, rfl⟩) (Or.inl rfl) ?_
    exact ⟨by rw [c7]; rfl, rfl⟩
  · refine pl_aload_n (pc := 10) dX8_farm_10 rfl rfl ?_
    refine pj_getf (pc := 11) ckX8 0 q626 dX8_farm_11 (by decide) hm rfl ?_
    refine ph_castCountry (pc := 14) hq c7 q2369 dX8_farm_14 ?_
    refine pj_goto (pc := 17) (tgt := 21) dX8_farm_17 (by decide) ?_
    refine pj_aret (pc := 21) dX8_farm_21 rfl (Or.inl ⟨_, rfl⟩) (Or.inr ⟨_, rfl⟩) ?_
    exact ⟨by rw [c7]; rfl, rfl⟩
set_option maxHeartbeats 600000 in
theorem x_X2_at {g : GP} {μ : Mem} {d : Nat} {P : Nat → Prop} {F : Mem} {A : XA} {w : Nat} {S : Nat → Nat → Nat} {b : XS} {σ : MS} {e : XE}(hd : 4 ≤ d) (h : SX g P F A w S b σ e μ) {s q : Nat} (hs : s < 96) (hm : μ (A 34 w s) = some (slO q)) (hq : HoC μ q (hoR σ s)) : PM g yX2_at (ws_ yX2_at cX2_at 2 (some (.object "SettlerColony$Holding"))) d 0 0 [.ref (A 1 w 0), .int (nI s)] μ (rQ (some (.ref q)) μ) := by
  refine PM.of (by decide +kernel) (Nat.le_of_ble_eq_true rfl) ?_
  refine PJ.ok (fun G => ?_)
  show PJ g _ _ _ _ d 0 0 0 [(0, .ref (A 1 w 0)), (1, .int (nI s))] [] _ _
  refine pl_aload_n (pc := 0) dX2_at_0 rfl rfl ?_
  refine pj_getf (pc := 1) ckX2 12 q747 dX2_at_1 (by decide) (h.r1) rfl ?_
  refine pl_iload_n (pc := 4) dX2_at_4 rfl rfl ?_
  obtain ⟨m_5, c_5, l_5⟩ := h.L2
  refine pl_callVd (pc := 5) (As := [_]) (C1 := 0) (N1 := 0) (C2 := 0) (N2 := 0) ckJ2 mdJ2_get rfl q707 q708 q709 q129 dX2_at_5 rfl rfl (Nat.le_of_ble_eq_true rfl) l_5.1 (k_J2_get (d := d - 1) (by omega) l_5 (j := s) (by rw [h.hz.s2]; omega) (if_pos (by rw [h.hz.s2]; omega))) (by omega) (by omega) (by omega) ?_
  refine pj_castS (pc := 8) ckX8 q620 dX2_at_8 hm ?_
  refine pl_callVd (pc := 11) (As := []) (C1 := 0) (N1 := 0) (C2 := 0) (N2 := 0) ckX8 mdX8_holding rfl q1127 q1128 q1129 q152 dX2_at_11 rfl rfl (Nat.le_of_ble_eq_true rfl) hm (k_X8_holding (d := d - 1) (by omega) hm hq) (by omega) (by omega) (by omega) ?_
  refine pj_aret (pc := 14) dX2_at_14 rfl (Or.inl ⟨_, rfl⟩) (Or.inr ⟨_, rfl⟩) ?_
  exact ⟨rfl, rfl⟩
set_option maxHeartbeats 600000 in
theorem x_X2_wanted {g : GP} {μ : Mem} {d : Nat} {P : Nat → Prop} {F : Mem} {A : XA} {w : Nat} {S : Nat → Nat → Nat} {b : XS} {σ : MS} {e : XE}(hd : 1 ≤ d) (h : SX g P F A w S b σ e μ) {s : Nat} (hs : s < 96) : PM g yX2_wanted (ws_ yX2_wanted cX2_wanted 2 (some .int)) d 0 0 [.ref (A 1 w 0), .int (nI s)] μ (rQ (some (.int (milesV (σ.2.1 4 s) (σ.2.1 3 s)))) μ) := by
  refine PM.of (by decide +kernel) (Nat.le_of_ble_eq_true rfl) ?_
  refine PJ.ok (fun G => ?_)
  show PJ g _ _ _ _ d 0 0 0 [(0, .ref (A 1 w 0)), (1, .int (nI s))] [] _ _
  refine pl_bipush (pc := 0) (v := 6) dX2_wanted_0 (by rfl) ?_
  refine pl_aload_n (pc := 2) dX2_wanted_2 rfl rfl ?_
  refine pj_getf (pc := 3) ckX2 14 q751 dX2_wanted_3 (by decide) (h.r1) rfl ?_
  refine pl_iload_n (pc := 6) dX2_wanted_6 rfl rfl ?_
  refine pl_zald (pc := 7) (n := 96) dX2_wanted_7 (h.r28) (by omega) (by decide) ?_
  refine PJ.top (h.v28 (by omega)) ?_
  refine pj_if_eq (pc := 8) (tgt := 15) dX2_wanted_8 (by decide) (fun c8 => ?_) (fun c8 => ?_)
  · refine pl_iconst (pc := 15) (v := 0) dX2_wanted_15 (by rfl) ?_
    refine pl_iadd (pc := 16) dX2_wanted_16 ?_
    refine pl_bipush (pc := 17) (v := 9) dX2_wanted_17 (by rfl) ?_
    refine pl_aload_n (pc := 19) dX2_wanted_19 rfl rfl ?_
    refine pj_getf (pc := 20) ckX2 13 q749 dX2_wanted_20 (by decide) (h.r1) rfl ?_
    refine pl_iload_n (pc := 23) dX2_wanted_23 rfl rfl ?_
    refine pl_bald (pc := 24) (n := 96) dX2_wanted_24 (h.r27) (by omega) (by decide) ?_
    refine PJ.top (h.v27 (by omega)) ?_
    refine pj_isub (pc := 25) dX2_wanted_25 ?_
    refine pl_iconst (pc := 26) (v := 3) dX2_wanted_26 (by rfl) ?_
    refine pj_idiv (pc := 27) dX2_wanted_27 (by decide) ?_
    refine pj_iadd (pc := 28) dX2_wanted_28 ?_
    refine pj_iret (pc := 29) dX2_wanted_29 rfl ?_
    exact ⟨vI (by simp [milesV, nI_add, *]), rfl⟩
  · refine pl_iconst (pc := 11) (v := 3) dX2_wanted_11 (by rfl) ?_
    refine pj_goto (pc := 12) (tgt := 16) dX2_wanted_12 (by decide) ?_
    refine pl_iadd (pc := 16) dX2_wanted_16 ?_
    refine pl_bipush (pc := 17) (v := 9) dX2_wanted_17 (by rfl) ?_
    refine pl_aload_n (pc := 19) dX2_wanted_19 rfl rfl ?_
    refine pj_getf (pc := 20) ckX2 13 q749 dX2_wanted_20 (by decide) (h.r1) rfl ?_
    refine pl_iload_n (pc := 23) dX2_wanted_23 rfl rfl ?_
    refine pl_bald (pc := 24) (n := 96) dX2_wanted_24 (h.r27) (by omega) (by decide) ?_
    refine PJ.top (h.v27 (by omega)) ?_
    refine pj_isub (pc := 25) dX2_wanted_25 ?_
    refine pl_iconst (pc := 26) (v := 3) dX2_wanted_26 (by rfl) ?_
    refine pj_idiv (pc := 27) dX2_wanted_27 (by decide) ?_
    refine pj_iadd (pc := 28) dX2_wanted_28 ?_
    refine pj_iret (pc := 29) dX2_wanted_29 rfl ?_
    exact ⟨vI (by simp [milesV, nI_add, *]), rfl⟩
