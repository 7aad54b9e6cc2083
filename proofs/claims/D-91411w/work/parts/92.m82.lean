set_option maxRecDepth 100000
section LSW
variable {g : GP} {own : String} {cc : ByteArray} {nL : Nat} {i : MI} {d C N pc : Nat} {ls : List (Nat × Value)} {rest : List Value} {μ : Mem} {Q : OC → Mem → Prop}
theorem pl_lsw {x : Int32} (K : Nat) {dflt : Int} {ps : Array (Int × Int)} {len : Nat} {off : Int} {tgt : Nat} (hdg : decode cc pc = .ok (.lookupswitch dflt ps, len)) (hp : (ps.toList.zip (ps.toList.drop 1)).all (fun (a, next) => a.1 < next.1) = true) (ho : Op.lookupswitch.offset ps.toList dflt (nI K).toInt = off) (ht : (pc : Int) + off = (tgt : Int)) (kt : x = nI K → PJ g own cc nL i d C N tgt ls rest μ Q) (kf : ¬ x = nI K → PJ g own cc nL i d C N pc ls (.int x :: rest) μ Q) : PJ g own cc nL i d C N pc ls (.int x :: rest) μ Q := by
  by_cases hx : x = nI K
  · subst hx
    exact pj_lookup hdg hp ho ht (kt rfl)
  · exact kf hx
end LSW
set_option maxHeartbeats 600000 in
theorem x_X2_farms {g : GP} {μ : Mem} {d : Nat} {P : Nat → Prop} {F : Mem} {A : XA} {w : Nat} {S : Nat → Nat → Nat} {b : XS} {σ : MS} {e : XE}(hd : 5 ≤ d) (h : SX g P F A w S b σ e μ)  : PM g yX2_farms (ws_ yX2_farms cX2_farms 3 (some .int)) d 0 0 [.ref (A 1 w 0)] μ (rQ (some (.int (nI (farmsC σ 96)))) μ) := by
  refine PM.of (by decide +kernel) (Nat.le_of_ble_eq_true rfl) ?_
  refine PJ.ok (fun G => ?_)
  show PJ g _ _ _ _ d 0 0 0 [(0, .ref (A 1 w 0))] [] _ _
  refine pl_iconst (pc := 0) (v := 0) dX2_farms_0 (by rfl) ?_
  refine pj_istore_n (pc := 1) (lv' := [(1, _), (0, _)]) dX2_farms_1 rfl (by decide) rfl ?_
  refine pl_iconst (pc := 2) (v := 0) dX2_farms_2 (by rfl) ?_
  refine pj_istore_n (pc := 3) (lv' := [(2, _), (1, _), (0, _)]) dX2_farms_3 rfl (by decide) rfl ?_
  refine ind_dn (n := 96) (P := fun i => PJ g _ _ _ _ d 0 0 4 [(2, .int (nI i)), (1, .int (nI (farmsC σ i))), (0, .ref (A 1 w 0))] [] μ _) (fun i hi ih => ?_) 0 (Nat.zero_le _)
  refine pl_iload_n (pc := 4) dX2_farms_4 rfl rfl ?_
  refine pl_bipush (pc := 5) (v := 96) dX2_farms_5 (by rfl) ?_
  refine pl_icmp_ge (pc := 7) (tgt := 35) dX2_farms_7 (by decide) (by omega) (by omega) (fun c7 => ?_) (fun c7 => ?_)
  · refine pl_iload_n (pc := 35) dX2_farms_35 rfl rfl ?_
    refine pj_iret (pc := 36) dX2_farms_36 rfl ?_
    have e : i = 96 := by omega
    subst e
    exact ⟨rfl, rfl⟩
  · refine pl_iload_n (pc := 10) dX2_farms_10 rfl rfl ?_
    refine pl_aload_n (pc := 11) dX2_farms_11 rfl rfl ?_
    refine pl_iload_n (pc := 12) dX2_farms_12 rfl rfl ?_
    obtain ⟨q_13, hm_13, hq_13, hdd_13⟩ := h.held (s := _) (by omega)
    refine pl_callVd (pc := 13) (As := [_]) (C1 := 0) (N1 := 0) (C2 := 0) (N2 := 0) ckX2 mdX2_at rfl q1199 q1124 q1125 q126 dX2_farms_13 rfl rfl (Nat.le_of_ble_eq_true rfl) (h.r1) (x_X2_at (d := d - 1) (by omega) h (by omega) hm_13 hq_13) (by omega) (by omega) (by omega) ?_
    refine ph_isFarm (pc := 16) hq_13 (fun G => dw_at G 4 rfl) (fun G => dw_at G 5 rfl) dX2_farms_16 (by omega) (Nat.le_of_ble_eq_true rfl) ?_
    refine PJ.top ho_isFarm ?_
    refine pl_if_eqB (pc := 19) (tgt := 26) dX2_farms_19 (by decide) (fun c19 => ?_) (fun c19 => ?_)
    · refine pl_iconst (pc := 26) (v := 0) dX2_farms_26 (by rfl) ?_
      refine pl_iadd (pc := 27) dX2_farms_27 ?_
      refine pj_istore_n (pc := 28) (lv' := [(1, _), (2, _), (0, _)]) dX2_farms_28 rfl (by decide) rfl ?_
      refine pl_iinc1 (pc := 29) (lv' := [(2, _), (1, _), (0, _)]) dX2_farms_29 rfl rfl (by decide) rfl ?_
      refine pj_goto (pc := 32) (tgt := 4) dX2_farms_32 (by decide) ?_
      exact PJ.conv (by first | (simp [cnt, c7, c19]; done) | (simp [cnt, c7, c19]; rfl)) rfl rfl (ih (by omega))
    · refine pl_iconst (pc := 22) (v := 1) dX2_farms_22 (by rfl) ?_
      refine pj_goto (pc := 23) (tgt := 27) dX2_farms_23 (by decide) ?_
      refine pl_iadd (pc := 27) dX2_farms_27 ?_
      refine pj_istore_n (pc := 28) (lv' := [(1, _), (2, _), (0, _)]) dX2_farms_28 rfl (by decide) rfl ?_
      refine pl_iinc1 (pc := 29) (lv' := [(2, _), (1, _), (0, _)]) dX2_farms_29 rfl rfl (by decide) rfl ?_
      refine pj_goto (pc := 32) (tgt := 4) dX2_farms_32 (by decide) ?_
      exact PJ.conv (by first | (simp [cnt, c7, c19]; done) | (simp [cnt, c7, c19]; rfl)) rfl rfl (ih (by omega))
set_option maxHeartbeats 600000 in
theorem x_X2_here {g : GP} {μ : Mem} {d : Nat} {P : Nat → Prop} {F : Mem} {A : XA} {w : Nat} {S : Nat → Nat → Nat} {b : XS} {σ : MS} {e : XE}(hd : 4 ≤ d) (h : SX g P F A w S b σ e μ)  : PM g yX2_here (ws_ yX2_here cX2_here 3 (some .int)) d 0 0 [.ref (A 1 w 0)] μ (rQ (some (.int (nI (hereC σ (S 4 w))))) μ) := by
  refine PM.of (by decide +kernel) (Nat.le_of_ble_eq_true rfl) ?_
  refine PJ.ok (fun G => ?_)
  show PJ g _ _ _ _ d 0 0 0 [(0, .ref (A 1 w 0))] [] _ _
  have hS4 := h.hz.2.1
  refine pl_iconst (pc := 0) (v := 0) dX2_here_0 (by rfl) ?_
  refine pj_istore_n (pc := 1) (lv' := [(1, _), (0, _)]) dX2_here_1 rfl (by decide) rfl ?_
  refine pl_iconst (pc := 2) (v := 0) dX2_here_2 (by rfl) ?_
  refine pj_istore_n (pc := 3) (lv' := [(2, _), (1, _), (0, _)]) dX2_here_3 rfl (by decide) rfl ?_
  refine ind_dn (n := (S 4 w)) (P := fun i => PJ g _ _ _ _ d 0 0 4 [(2, .int (nI i)), (1, .int (nI (hereC σ i))), (0, .ref (A 1 w 0))] [] μ _) (fun i hi ih => ?_) 0 (Nat.zero_le _)
  refine pl_iload_n (pc := 4) dX2_here_4 rfl rfl ?_
  refine pl_aload_n (pc := 5) dX2_here_5 rfl rfl ?_
  refine pj_getf (pc := 6) ckX2 26 q772 dX2_here_6 (by decide) (h.r1) rfl ?_
  obtain ⟨m_9, c_9, l_9⟩ := h.L4
  refine pl_callVd (pc := 9) (As := []) (C1 := 0) (N1 := 0) (C2 := 0) (N2 := 0) ckJ2 mdJ2_size rfl q947 q948 q949 q129 dX2_here_9 rfl rfl (Nat.le_of_ble_eq_true rfl) l_9.1 (k_J2_size (d := d - 1) (by omega) l_9) (by omega) (by omega) (by omega) ?_
  refine pl_icmp_ge (pc := 12) (tgt := 46) dX2_here_12 (by decide) (by omega) (by omega) (fun c12 => ?_) (fun c12 => ?_)
  · refine pl_iload_n (pc := 46) dX2_here_46 rfl rfl ?_
    refine pj_iret (pc := 47) dX2_here_47 rfl ?_
    have e : i = S 4 w := by omega
    subst e
    exact ⟨rfl, rfl⟩
  · refine pl_iload_n (pc := 15) dX2_here_15 rfl rfl ?_
    refine pl_aload_n (pc := 16) dX2_here_16 rfl rfl ?_
    refine pj_getf (pc := 17) ckX2 26 q772 dX2_here_17 (by decide) (h.r1) rfl ?_
    refine pl_iload_n (pc := 20) dX2_here_20 rfl rfl ?_
    obtain ⟨m_21, c_21, l_21⟩ := h.L4
    refine pl_callVd (pc := 21) (As := [_]) (C1 := 0) (N1 := 0) (C2 := 0) (N2 := 0) ckJ2 mdJ2_get rfl q707 q708 q709 q129 dX2_here_21 rfl rfl (Nat.le_of_ble_eq_true rfl) l_21.1 (k_J2_get (d := d - 1) (by omega) l_21 (j := _) (by omega) (if_pos (by omega))) (by omega) (by omega) (by omega) ?_
    refine pj_castS (pc := 24) ckX10 q1190 dX2_here_24 (h.r35 (by omega)) ?_
    refine pl_callVd (pc := 27) (As := []) (C1 := 0) (N1 := 0) (C2 := 0) (N2 := 0) ckX10 mdX10_isHere rfl q1191 q1192 q1193 q158 dX2_here_27 rfl rfl (Nat.le_of_ble_eq_true rfl) (h.r35 (by omega)) (x_X10_isHere (d := d - 1) (by omega) h (by omega)) (by omega) (by omega) (by omega) ?_
    refine pl_if_eqB (pc := 30) (tgt := 37) dX2_here_30 (by decide) (fun c30 => ?_) (fun c30 => ?_)
    · refine pl_iconst (pc := 37) (v := 0) dX2_here_37 (by rfl) ?_
      refine pl_iadd (pc := 38) dX2_here_38 ?_
      refine pj_istore_n (pc := 39) (lv' := [(1, _), (2, _), (0, _)]) dX2_here_39 rfl (by decide) rfl ?_
      refine pl_iinc1 (pc := 40) (lv' := [(2, _), (1, _), (0, _)]) dX2_here_40 rfl rfl (by decide) rfl ?_
      refine pj_goto (pc := 43) (tgt := 4) dX2_here_43 (by decide) ?_
      exact PJ.conv (by first | (simp [cnt, c12, c30]; done) | (simp [cnt, c12, c30]; rfl)) rfl rfl (ih (by omega))
    · refine pl_iconst (pc := 33) (v := 1) dX2_here_33 (by rfl) ?_
      refine pj_goto (pc := 34) (tgt := 38) dX2_here_34 (by decide) ?_
      refine pl_iadd (pc := 38) dX2_here_38 ?_
      refine pj_istore_n (pc := 39) (lv' := [(1, _), (2, _), (0, _)]) dX2_here_39 rfl (by decide) rfl ?_
      refine pl_iinc1 (pc := 40) (lv' := [(2, _), (1, _), (0, _)]) dX2_here_40 rfl rfl (by decide) rfl ?_
      refine pj_goto (pc := 43) (tgt := 4) dX2_here_43 (by decide) ?_
      exact PJ.conv (by first | (simp [cnt, c12, c30]; done) | (simp [cnt, c12, c30]; rfl)) rfl rfl (ih (by omega))
set_option maxHeartbeats 600000 in
theorem x_X2_hired {g : GP} {μ : Mem} {d : Nat} {P : Nat → Prop} {F : Mem} {A : XA} {w : Nat} {S : Nat → Nat → Nat} {b : XS} {σ : MS} {e : XE}(hd : 4 ≤ d) (h : SX g P F A w S b σ e μ)  : PM g yX2_hired (ws_ yX2_hired cX2_hired 3 (some .int)) d 0 0 [.ref (A 1 w 0)] μ (rQ (some (.int (nI (hiredA σ (S 4 w))))) μ) := by
  refine PM.of (by decide +kernel) (Nat.le_of_ble_eq_true rfl) ?_
  refine PJ.ok (fun G => ?_)
  show PJ g _ _ _ _ d 0 0 0 [(0, .ref (A 1 w 0))] [] _ _
  have hS4 := h.hz.2.1
  refine pl_iconst (pc := 0) (v := 0) dX2_hired_0 (by rfl) ?_
  refine pj_istore_n (pc := 1) (lv' := [(1, _), (0, _)]) dX2_hired_1 rfl (by decide) rfl ?_
  refine pl_iconst (pc := 2) (v := 0) dX2_hired_2 (by rfl) ?_
  refine pj_istore_n (pc := 3) (lv' := [(2, _), (1, _), (0, _)]) dX2_hired_3 rfl (by decide) rfl ?_
  refine ind_dn (n := (S 4 w)) (P := fun i => PJ g _ _ _ _ d 0 0 4 [(2, .int (nI i)), (1, .int (nI (hiredA σ i))), (0, .ref (A 1 w 0))] [] μ _) (fun i hi ih => ?_) 0 (Nat.zero_le _)
  refine pl_iload_n (pc := 4) dX2_hired_4 rfl rfl ?_
  refine pl_aload_n (pc := 5) dX2_hired_5 rfl rfl ?_
  refine pj_getf (pc := 6) ckX2 26 q772 dX2_hired_6 (by decide) (h.r1) rfl ?_
  obtain ⟨m_9, c_9, l_9⟩ := h.L4
  refine pl_callVd (pc := 9) (As := []) (C1 := 0) (N1 := 0) (C2 := 0) (N2 := 0) ckJ2 mdJ2_size rfl q947 q948 q949 q129 dX2_hired_9 rfl rfl (Nat.le_of_ble_eq_true rfl) l_9.1 (k_J2_size (d := d - 1) (by omega) l_9) (by omega) (by omega) (by omega) ?_
  refine pl_icmp_ge (pc := 12) (tgt := 47) dX2_hired_12 (by decide) (by omega) (by omega) (fun c12 => ?_) (fun c12 => ?_)
  · refine pl_iload_n (pc := 47) dX2_hired_47 rfl rfl ?_
    refine pj_iret (pc := 48) dX2_hired_48 rfl ?_
    have e : i = S 4 w := by omega
    subst e
    exact ⟨rfl, rfl⟩
  · refine pl_iload_n (pc := 15) dX2_hired_15 rfl rfl ?_
    refine pl_aload_n (pc := 16) dX2_hired_16 rfl rfl ?_
    refine pj_getf (pc := 17) ckX2 26 q772 dX2_hired_17 (by decide) (h.r1) rfl ?_
    refine pl_iload_n (pc := 20) dX2_hired_20 rfl rfl ?_
    obtain ⟨m_21, c_21, l_21⟩ := h.L4
    refine pl_callVd (pc := 21) (As := [_]) (C1 := 0) (N1 := 0) (C2 := 0) (N2 := 0) ckJ2 mdJ2_get rfl q707 q708 q709 q129 dX2_hired_21 rfl rfl (Nat.le_of_ble_eq_true rfl) l_21.1 (k_J2_get (d := d - 1) (by omega) l_21 (j := _) (by omega) (if_pos (by omega))) (by omega) (by omega) (by omega) ?_
    refine pj_castS (pc := 24) ckX10 q1190 dX2_hired_24 (h.r35 (by omega)) ?_
    refine pj_getfN (pc := 27) ckX10 3 q1074 dX2_hired_27 (by decide) (h.r35 (by omega)) rfl ?_
    refine pl_iconst (pc := 30) (v := 3) dX2_hired_30 (by rfl) ?_
    refine pj_icmp_ne (pc := 31) (tgt := 38) dX2_hired_31 (by decide) (fun c31 => ?_) (fun c31 => ?_)
    · refine pl_iconst (pc := 38) (v := 0) dX2_hired_38 (by rfl) ?_
      refine pl_iadd (pc := 39) dX2_hired_39 ?_
      refine pj_istore_n (pc := 40) (lv' := [(1, _), (2, _), (0, _)]) dX2_hired_40 rfl (by decide) rfl ?_
      refine pl_iinc1 (pc := 41) (lv' := [(2, _), (1, _), (0, _)]) dX2_hired_41 rfl rfl (by decide) rfl ?_
      refine pj_goto (pc := 44) (tgt := 4) dX2_hired_44 (by decide) ?_
      exact PJ.conv (by first | (simp [cnt, c12, c31]; done) | (simp [cnt, c12, c31]; rfl)) rfl rfl (ih (by omega))
    · refine pl_iconst (pc := 34) (v := 1) dX2_hired_34 (by rfl) ?_
      refine pj_goto (pc := 35) (tgt := 39) dX2_hired_35 (by decide) ?_
      refine pl_iadd (pc := 39) dX2_hired_39 ?_
      refine pj_istore_n (pc := 40) (lv' := [(1, _), (2, _), (0, _)]) dX2_hired_40 rfl (by decide) rfl ?_
      refine pl_iinc1 (pc := 41) (lv' := [(2, _), (1, _), (0, _)]) dX2_hired_41 rfl rfl (by decide) rfl ?_
      refine pj_goto (pc := 44) (tgt := 4) dX2_hired_44 (by decide) ?_
      exact PJ.conv (by first | (simp [cnt, c12, eq_true c31]; done) | (simp [cnt, c12, eq_true c31]; rfl)) rfl rfl (ih (by omega))
set_option maxHeartbeats 600000 in
theorem k_X1_zoneOf {g : GP} {μ : Mem} {d : Nat} (hd : 1 ≤ d) {s : Nat} (hs : s < 96) : PM g yX1_zoneOf (ws_ yX1_zoneOf cX1_zoneOf 1 (some .int)) d 0 0 [.int (nI s)] μ (rQ (some (.int (nI (s % 12 / 3)))) μ) := by
  refine PM.of (by decide +kernel) (Nat.le_of_ble_eq_true rfl) ?_
  refine PJ.ok (fun G => ?_)
  show PJ g _ _ _ _ d 0 0 0 [(0, .int (nI s))] [] _ _
  refine pl_iload_n (pc := 0) dX1_zoneOf_0 rfl rfl ?_
  refine pl_bipush (pc := 1) (v := 12) dX1_zoneOf_1 (by rfl) ?_
  refine pl_irem (pc := 3) dX1_zoneOf_3 (by omega) (by decide) (by decide) ?_
  refine pl_iconst (pc := 4) (v := 3) dX1_zoneOf_4 (by rfl) ?_
  refine pl_idiv (pc := 5) dX1_zoneOf_5 (by omega) (by decide) (by decide) ?_
  refine pj_iret (pc := 6) dX1_zoneOf_6 rfl ?_
  exact ⟨rfl, rfl⟩
set_option maxHeartbeats 600000 in
theorem x_X2_promise {g : GP} {μ : Mem} {d : Nat} {P : Nat → Prop} {F : Mem} {A : XA} {w : Nat} {S : Nat → Nat → Nat} {b : XS} {σ : MS} {e : XE}(hd : 2 ≤ d) (h : SX g P F A w S b σ e μ) {s : Nat} (hs : s < 96) : PM g yX2_promise (ws_ yX2_promise cX2_promise 3 (some .int)) d 0 0 [.ref (A 1 w 0), .int (nI s)] μ (rQ (some (.int (promiseV σ s))) μ) := by
  refine PM.of (by decide +kernel) (Nat.le_of_ble_eq_true rfl) ?_
  refine PJ.ok (fun G => ?_)
  show PJ g _ _ _ _ d 0 0 0 [(0, .ref (A 1 w 0)), (1, .int (nI s))] [] _ _
  refine pl_iload_n (pc := 0) dX2_promise_0 rfl rfl ?_
  refine pl_callSNd (pc := 1) (As := [_]) (C1 := 0) (N1 := 0) (C2 := 0) (N2 := 0) mdX1_zoneOf q1330 q1331 q125 dX2_promise_1 rfl rfl (Nat.le_of_ble_eq_true rfl) (k_X1_zoneOf (d := d - 1) (by omega) (by omega)) (by omega) (by omega) (by omega) ?_
  refine pj_istore_n (pc := 4) (lv' := [(2, _), (0, _), (1, _)]) dX2_promise_4 rfl (by decide) rfl ?_
  refine pl_bipush (pc := 5) (v := 10) dX2_promise_5 (by rfl) ?_
  refine pl_aload_n (pc := 7) dX2_promise_7 rfl rfl ?_
  refine pj_getf (pc := 8) ckX2 13 q749 dX2_promise_8 (by decide) (h.r1) rfl ?_
  refine pl_iload_n (pc := 11) dX2_promise_11 rfl rfl ?_
  refine pl_bald (pc := 12) (n := 96) dX2_promise_12 (h.r27) (by omega) (by decide) ?_
  refine PJ.top (h.v27 (by omega)) ?_
  refine pj_imul (pc := 13) dX2_promise_13 ?_
  refine pl_aload_n (pc := 14) dX2_promise_14 rfl rfl ?_
  refine pj_getf (pc := 15) ckX2 23 q767 dX2_promise_15 (by decide) (h.r1) rfl ?_
  refine pl_iload_n (pc := 18) dX2_promise_18 rfl rfl ?_
  refine pl_iald (pc := 19) (n := 4) dX2_promise_19 (h.r23) (by omega) (by decide) ?_
  refine PJ.top (h.v23 (by omega)) ?_
  refine pj_if_ne (pc := 20) (tgt := 27) dX2_promise_20 (by decide) (fun c20 => ?_) (fun c20 => ?_)
  · refine pl_aload_n (pc := 27) dX2_promise_27 rfl rfl ?_
    refine pj_getf (pc := 28) ckX2 24 q769 dX2_promise_28 (by decide) (h.r1) rfl ?_
    refine pl_iload_n (pc := 31) dX2_promise_31 rfl rfl ?_
    refine pl_iald (pc := 32) (n := 4) dX2_promise_32 (h.r24) (by omega) (by decide) ?_
    refine PJ.top (h.v24 (by omega)) ?_
    refine pl_aload_n (pc := 33) dX2_promise_33 rfl rfl ?_
    refine pj_getf (pc := 34) ckX2 23 q767 dX2_promise_34 (by decide) (h.r1) rfl ?_
    refine pl_iload_n (pc := 37) dX2_promise_37 rfl rfl ?_
    refine pl_iald (pc := 38) (n := 4) dX2_promise_38 (h.r23) (by omega) (by decide) ?_
    refine PJ.top (h.v23 (by omega)) ?_
    refine pj_idiv (pc := 39) dX2_promise_39 c20 ?_
    refine pl_bipush (pc := 40) (v := 10) dX2_promise_40 (by rfl) ?_
    refine pj_idiv (pc := 42) dX2_promise_42 (by decide) ?_
    refine pj_iadd (pc := 43) dX2_promise_43 ?_
    refine pj_iret (pc := 44) dX2_promise_44 rfl ?_
    exact ⟨vIe (by simp [promiseV, c20]) rfl, rfl⟩
  · refine pl_iconst (pc := 23) (v := 0) dX2_promise_23 (by rfl) ?_
    refine pj_goto (pc := 24) (tgt := 43) dX2_promise_24 (by decide) ?_
    refine pj_iadd (pc := 43) dX2_promise_43 ?_
    refine pj_iret (pc := 44) dX2_promise_44 rfl ?_
    exact ⟨vIe (by simp [promiseV, eq_true c20]) rfl, rfl⟩
set_option maxHeartbeats 600000 in
theorem x_X2_bestLot {g : GP} {μ : Mem} {d : Nat} {P : Nat → Prop} {F : Mem} {A : XA} {w : Nat} {S : Nat → Nat → Nat} {b : XS} {σ : MS} {e : XE}(hd : 5 ≤ d) (h : SX g P F A w S b σ e μ)  : PM g yX2_bestLot (ws_ yX2_bestLot cX2_bestLot 3 (some .int)) d 0 0 [.ref (A 1 w 0)] μ (rQ (some (.int (bestB σ 96))) μ) := by
  refine PM.of (by decide +kernel) (Nat.le_of_ble_eq_true rfl) ?_
  refine PJ.ok (fun G => ?_)
  show PJ g _ _ _ _ d 0 0 0 [(0, .ref (A 1 w 0))] [] _ _
  refine pj_iconst (pc := 0) (v := (-1)) dX2_bestLot_0 (by rfl) ?_
  refine pj_istore_n (pc := 1) (lv' := [(1, _), (0, _)]) dX2_bestLot_1 rfl (by decide) rfl ?_
  refine pl_iconst (pc := 2) (v := 0) dX2_bestLot_2 (by rfl) ?_
  refine pj_istore_n (pc := 3) (lv' := [(2, _), (1, _), (0, _)]) dX2_bestLot_3 rfl (by decide) rfl ?_
  refine ind_dn (n := 96) (P := fun i => PJ g _ _ _ _ d 0 0 4 [(2, .int (nI i)), (1, .int (bestB σ i)), (0, .ref (A 1 w 0))] [] μ _) (fun i hi ih => ?_) 0 (Nat.zero_le _)
  refine pl_iload_n (pc := 4) dX2_bestLot_4 rfl rfl ?_
  refine pl_bipush (pc := 5) (v := 96) dX2_bestLot_5 (by rfl) ?_
  refine pl_icmp_ge (pc := 7) (tgt := 53) dX2_bestLot_7 (by decide) (by omega) (by omega) (fun c7 => ?_) (fun c7 => ?_)
  · refine pl_iload_n (pc := 53) dX2_bestLot_53 rfl rfl ?_
    refine pj_iret (pc := 54) dX2_bestLot_54 rfl ?_
    have e : i = 96 := by omega
    subst e
    exact ⟨rfl, rfl⟩
  · refine pl_aload_n (pc := 10) dX2_bestLot_10 rfl rfl ?_
    refine pj_getf (pc := 11) ckX2 12 q747 dX2_bestLot_11 (by decide) (h.r1) rfl ?_
    refine pl_iload_n (pc := 14) dX2_bestLot_14 rfl rfl ?_
    obtain ⟨m_15, c_15, l_15⟩ := h.L2
    refine pl_callVd (pc := 15) (As := [_]) (C1 := 0) (N1 := 0) (C2 := 0) (N2 := 0) ckJ2 mdJ2_get rfl q707 q708 q709 q129 dX2_bestLot_15 rfl rfl (Nat.le_of_ble_eq_true rfl) l_15.1 (k_J2_get (d := d - 1) (by omega) l_15 (j := _) (by rw [h.hz.s2]; omega) (if_pos (by rw [h.hz.s2]; omega))) (by omega) (by omega) (by omega) ?_
    obtain ⟨q_15, hm_15, hq_15, hdd_15⟩ := h.held (s := _) (by omega)
    refine pj_castS (pc := 18) ckX8 q620 dX2_bestLot_18 hm_15 ?_
    refine pl_callVd (pc := 21) (As := []) (C1 := 0) (N1 := 0) (C2 := 0) (N2 := 0) ckX8 mdX8_isLot rfl q2411 q1699 q1700 q152 dX2_bestLot_21 rfl rfl (Nat.le_of_ble_eq_true rfl) hm_15 (k_X8_isLot (d := d - 1) (by omega) hm_15 hq_15) (by omega) (by omega) (by omega) ?_
    refine PJ.top (ho_isLot) ?_
    refine pl_if_eqB (pc := 24) (tgt := 47) dX2_bestLot_24 (by decide) (fun c24 => ?_) (fun c24 => ?_)
    · refine pl_iinc1 (pc := 47) (lv' := [(2, _), (1, _), (0, _)]) dX2_bestLot_47 rfl rfl (by decide) rfl ?_
      refine pj_goto (pc := 50) (tgt := 4) dX2_bestLot_50 (by decide) ?_
      have d24 := c24
      simp only [decide_eq_true_eq, decide_eq_false_iff_not] at d24
      exact PJ.conv (by first | (simp [bestB, d24, c7, c24]; done) | (simp [bestB, d24, c7, c24]; rfl)) rfl rfl (ih (by omega))
    · refine pl_iload_n (pc := 27) dX2_bestLot_27 rfl rfl ?_
      refine pj_iconst (pc := 28) (v := (-1)) dX2_bestLot_28 (by rfl) ?_
      rcases bestB_c σ i with eb | ⟨bb, hbb, eb⟩
      · rw [eb]
        refine pj_icmp_eq (pc := 29) (tgt := 45) dX2_bestLot_29 (by decide) (fun _ => ?_) (fun z => absurd rfl z)
        refine pl_iload_n (pc := 45) dX2_bestLot_45 rfl rfl ?_
        refine pj_istore_n (pc := 46) (lv' := [(1, _), (2, _), (0, _)]) dX2_bestLot_46 rfl (by decide) rfl ?_
        refine pl_iinc1 (pc := 47) (lv' := [(2, _), (1, _), (0, _)]) dX2_bestLot_47 rfl rfl (by decide) rfl ?_
        refine pj_goto (pc := 50) (tgt := 4) dX2_bestLot_50 (by decide) ?_
        have d24 := c24
        simp only [decide_eq_true_eq, decide_eq_false_iff_not] at d24
        exact PJ.conv (by first | (simp [bestB, d24, c7, c24, eb]; done) | (simp [bestB, d24, c7, c24, eb]; rfl)) rfl rfl (ih (by omega))
      · have g_b := tN_nI (n := bb) (by omega)
        have p_b : ¬ nI bb < 0 := Int32.not_lt.mpr (nI_pos' (by omega))
        have n_b : ¬ nI bb = -1 := fun z => p_b (by rw [z]; decide)
        rw [eb]
        refine pj_icmp_eq (pc := 29) (tgt := 45) dX2_bestLot_29 (by decide) (fun z => absurd z n_b) (fun _ => ?_)
        refine pl_aload_n (pc := 32) dX2_bestLot_32 rfl rfl ?_
        refine pl_iload_n (pc := 33) dX2_bestLot_33 rfl rfl ?_
        refine pl_callVd (pc := 34) (As := [_]) (C1 := 0) (N1 := 0) (C2 := 0) (N2 := 0) ckX2 mdX2_promise rfl q2412 q1327 q1328 q126 dX2_bestLot_34 rfl rfl (Nat.le_of_ble_eq_true rfl) (h.r1) (x_X2_promise (d := d - 1) (by omega) h (by omega)) (by omega) (by omega) (by omega) ?_
        refine pl_aload_n (pc := 37) dX2_bestLot_37 rfl rfl ?_
        refine pl_iload_n (pc := 38) dX2_bestLot_38 rfl rfl ?_
        refine pl_callVd (pc := 39) (As := [_]) (C1 := 0) (N1 := 0) (C2 := 0) (N2 := 0) ckX2 mdX2_promise rfl q2412 q1327 q1328 q126 dX2_bestLot_39 rfl rfl (Nat.le_of_ble_eq_true rfl) (h.r1) (x_X2_promise (d := d - 1) (by omega) h (by omega)) (by omega) (by omega) (by omega) ?_
        refine pj_icmp_le (pc := 42) (tgt := 47) dX2_bestLot_42 (by decide) (fun c42 => ?_) (fun c42 => ?_)
        · refine pl_iinc1 (pc := 47) (lv' := [(2, _), (1, _), (0, _)]) dX2_bestLot_47 rfl rfl (by decide) rfl ?_
          refine pj_goto (pc := 50) (tgt := 4) dX2_bestLot_50 (by decide) ?_
          have d24 := c24
          simp only [decide_eq_true_eq, decide_eq_false_iff_not] at d24
          exact PJ.conv (by first | (simp [bestB, d24, c7, c24, eb, g_b, p_b, c42]; done) | (simp [bestB, d24, c7, c24, eb, g_b, p_b, c42]; rfl)) rfl rfl (ih (by omega))
        · refine pl_iload_n (pc := 45) dX2_bestLot_45 rfl rfl ?_
          refine pj_istore_n (pc := 46) (lv' := [(1, _), (2, _), (0, _)]) dX2_bestLot_46 rfl (by decide) rfl ?_
          refine pl_iinc1 (pc := 47) (lv' := [(2, _), (1, _), (0, _)]) dX2_bestLot_47 rfl rfl (by decide) rfl ?_
          refine pj_goto (pc := 50) (tgt := 4) dX2_bestLot_50 (by decide) ?_
          have d24 := c24
          simp only [decide_eq_true_eq, decide_eq_false_iff_not] at d24
          exact PJ.conv (by first | (simp [bestB, d24, c7, c24, eb, g_b, p_b, c42]; done) | (simp [bestB, d24, c7, c24, eb, g_b, p_b, c42]; rfl)) rfl rfl (ih (by omega))
set_option maxHeartbeats 600000 in
theorem k_X2_band {g : GP} {μ : Mem} {d : Nat} (hd : 1 ≤ d) {r : Int32} : PM g yX2_band (ws_ yX2_band cX2_band 1 (some .int)) d 0 0 [.int r] μ (rQ (some (.int (bandV r))) μ) := by
  refine PM.of (by decide +kernel) (Nat.le_of_ble_eq_true rfl) ?_
  refine PJ.ok (fun G => ?_)
  show PJ g _ _ _ _ d 0 0 0 [(0, .int r)] [] _ _
  refine pl_iload_n (pc := 0) dX2_band_0 rfl rfl ?_
  refine pl_sipush (pc := 1) (v := 300) dX2_band_1 (by rfl) ?_
  refine pj_icmp_ge (pc := 4) (tgt := 11) dX2_band_4 (by decide) (fun c4 => ?_) (fun c4 => ?_)
  · refine pl_iload_n (pc := 11) dX2_band_11 rfl rfl ?_
    refine pl_sipush (pc := 12) (v := 600) dX2_band_12 (by rfl) ?_
    refine pj_icmp_ge (pc := 15) (tgt := 22) dX2_band_15 (by decide) (fun c15 => ?_) (fun c15 => ?_)
    · refine pl_iload_n (pc := 22) dX2_band_22 rfl rfl ?_
      refine pl_sipush (pc := 23) (v := 900) dX2_band_23 (by rfl) ?_
      refine pj_icmp_ge (pc := 26) (tgt := 33) dX2_band_26 (by decide) (fun c26 => ?_) (fun c26 => ?_)
      · refine pl_iload_n (pc := 33) dX2_band_33 rfl rfl ?_
        refine pl_sipush (pc := 34) (v := 1500) dX2_band_34 (by rfl) ?_
        refine pj_icmp_ge (pc := 37) (tgt := 44) dX2_band_37 (by decide) (fun c37 => ?_) (fun c37 => ?_)
        · refine pl_iconst (pc := 44) (v := 1) dX2_band_44 (by rfl) ?_
          refine pj_iret (pc := 45) dX2_band_45 rfl ?_
          exact ⟨vI (by simp [bandV, ← Int32.not_le, *]), rfl⟩
        · refine pl_iconst (pc := 40) (v := 3) dX2_band_40 (by rfl) ?_
          refine pj_goto (pc := 41) (tgt := 45) dX2_band_41 (by decide) ?_
          refine pj_iret (pc := 45) dX2_band_45 rfl ?_
          exact ⟨vI (by simp [bandV, ← Int32.not_le, *]), rfl⟩
      · refine pl_iconst (pc := 29) (v := 2) dX2_band_29 (by rfl) ?_
        refine pj_goto (pc := 30) (tgt := 45) dX2_band_30 (by decide) ?_
        refine pj_iret (pc := 45) dX2_band_45 rfl ?_
        exact ⟨vI (by simp [bandV, ← Int32.not_le, *]), rfl⟩
    · refine pl_iconst (pc := 18) (v := 1) dX2_band_18 (by rfl) ?_
      refine pj_goto (pc := 19) (tgt := 45) dX2_band_19 (by decide) ?_
      refine pj_iret (pc := 45) dX2_band_45 rfl ?_
      exact ⟨vI (by simp [bandV, ← Int32.not_le, *]), rfl⟩
  · refine pl_iconst (pc := 7) (v := 0) dX2_band_7 (by rfl) ?_
    refine pj_goto (pc := 8) (tgt := 45) dX2_band_8 (by decide) ?_
    refine pj_iret (pc := 45) dX2_band_45 rfl ?_
    exact ⟨vI (by simp [bandV, ← Int32.not_le, *]), rfl⟩
set_option maxHeartbeats 600000 in
theorem k_X2_plain {g : GP} {μ : Mem} {d : Nat} (hd : 1 ≤ d) {name : Nat} (hn : name < 8) : PM g yX2_plain (ws_ yX2_plain cX2_plain 1 (some .int)) d 0 0 [.int (nI name)] μ (rQ (some (.int (withoutV (nI name)))) μ) := by
  refine PM.of (by decide +kernel) (Nat.le_of_ble_eq_true rfl) ?_
  refine PJ.ok (fun G => ?_)
  show PJ g _ _ _ _ d 0 0 0 [(0, .int (nI name))] [] _ _
  refine pl_iload_n (pc := 0) dX2_plain_0 rfl rfl ?_
  refine pl_tsw (pc := 1) 0 (tgt := 44) dX2_plain_1 (by rfl) (by decide) (by decide) (by rfl) (by decide) (fun c1_0 => ?_) (fun c1_0 => ?_)
  · refine pl_bipush (pc := 44) (v := 20) dX2_plain_44 (by rfl) ?_
    refine pj_iret (pc := 46) dX2_plain_46 rfl ?_
    exact ⟨vIe (by first | (simp [withoutV, eq_true c1_0]; done) | (simp [withoutV, eq_true c1_0]; rfl)) rfl, rfl⟩
  refine pl_tsw (pc := 1) 1 (tgt := 47) dX2_plain_1 (by rfl) (by decide) (by decide) (by rfl) (by decide) (fun c1_1 => ?_) (fun c1_1 => ?_)
  · refine pl_bipush (pc := 47) (v := 50) dX2_plain_47 (by rfl) ?_
    refine pj_iret (pc := 49) dX2_plain_49 rfl ?_
    exact ⟨vIe (by first | (simp [withoutV, c1_0, eq_true c1_1]; done) | (simp [withoutV, c1_0, eq_true c1_1]; rfl)) rfl, rfl⟩
  refine pl_tsw (pc := 1) 2 (tgt := 50) dX2_plain_1 (by rfl) (by decide) (by decide) (by rfl) (by decide) (fun c1_2 => ?_) (fun c1_2 => ?_)
  · refine pl_iconst (pc := 50) (v := 2) dX2_plain_50 (by rfl) ?_
    refine pj_iret (pc := 51) dX2_plain_51 rfl ?_
    exact ⟨vIe (by first | (simp [withoutV, c1_0, c1_1, eq_true c1_2]; done) | (simp [withoutV, c1_0, c1_1, eq_true c1_2]; rfl)) rfl, rfl⟩
  refine pl_tsw (pc := 1) 3 (tgt := 52) dX2_plain_1 (by rfl) (by decide) (by decide) (by rfl) (by decide) (fun c1_3 => ?_) (fun c1_3 => ?_)
  · refine pl_iconst (pc := 52) (v := 5) dX2_plain_52 (by rfl) ?_
    refine pj_iret (pc := 53) dX2_plain_53 rfl ?_
    exact ⟨vIe (by first | (simp [withoutV, c1_0, c1_1, c1_2, eq_true c1_3]; done) | (simp [withoutV, c1_0, c1_1, c1_2, eq_true c1_3]; rfl)) rfl, rfl⟩
  refine pl_tsw (pc := 1) 4 (tgt := 58) dX2_plain_1 (by rfl) (by decide) (by decide) (by rfl) (by decide) (fun c1_4 => ?_) (fun c1_4 => ?_)
  · refine pl_iconst (pc := 58) (v := 1) dX2_plain_58 (by rfl) ?_
    refine pj_iret (pc := 59) dX2_plain_59 rfl ?_
    have n4 := eq_true c1_4
    exact ⟨vIe (by rw [c1_4]; first | rfl | decide) rfl, rfl⟩
  refine pl_tsw (pc := 1) 5 (tgt := 54) dX2_plain_1 (by rfl) (by decide) (by decide) (by rfl) (by decide) (fun c1_5 => ?_) (fun c1_5 => ?_)
  · refine pl_iconst (pc := 54) (v := 0) dX2_plain_54 (by rfl) ?_
    refine pj_iret (pc := 55) dX2_plain_55 rfl ?_
    exact ⟨vIe (by first | (simp [withoutV, c1_0, c1_1, c1_2, c1_3, c1_4, eq_true c1_5]; done) | (simp [withoutV, c1_0, c1_1, c1_2, c1_3, c1_4, eq_true c1_5]; rfl)) rfl, rfl⟩
  refine pl_tsw (pc := 1) 6 (tgt := 56) dX2_plain_1 (by rfl) (by decide) (by decide) (by rfl) (by decide) (fun c1_6 => ?_) (fun c1_6 => ?_)
  · refine pl_iconst (pc := 56) (v := 4) dX2_plain_56 (by rfl) ?_
    refine pj_iret (pc := 57) dX2_plain_57 rfl ?_
    exact ⟨vIe (by first | (simp [withoutV, c1_0, c1_1, c1_2, c1_3, c1_4, c1_5, eq_true c1_6]; done) | (simp [withoutV, c1_0, c1_1, c1_2, c1_3, c1_4, c1_5, eq_true c1_6]; rfl)) rfl, rfl⟩
  refine pj_tableOut (pc := 1) (tgt := 58) dX2_plain_1 (by have q0 := nI_nec c1_0; have q1 := nI_nec c1_1; have q2 := nI_nec c1_2; have q3 := nI_nec c1_3; have q4 := nI_nec c1_4; have q5 := nI_nec c1_5; have q6 := nI_nec c1_6; omega) (by decide) ?_
  refine pl_iconst (pc := 58) (v := 1) dX2_plain_58 (by rfl) ?_
  refine pj_iret (pc := 59) dX2_plain_59 rfl ?_
  rcases (by omega : name = 4 ∨ name = 7 ∨ ¬ (name = 4 ∨ name = 7)) with e | e | e
  · subst e; exact ⟨rfl, rfl⟩
  · subst e; exact ⟨rfl, rfl⟩
  · refine absurd (?_ : name = 4 ∨ name = 7) e
    have n0 : name ≠ 0 := fun z => c1_0 (by rw [z])
    have n1 : name ≠ 1 := fun z => c1_1 (by rw [z])
    have n2 : name ≠ 2 := fun z => c1_2 (by rw [z])
    have n3 : name ≠ 3 := fun z => c1_3 (by rw [z])
    have n5 : name ≠ 5 := fun z => c1_5 (by rw [z])
    have n6 : name ≠ 6 := fun z => c1_6 (by rw [z])
    omega
theorem bnd_eq {lo hi v : Int32} (h : lo ≤ hi) : (if lo < (if v < hi then v else hi) then (if v < hi then v else hi) else lo) = (if ¬ lo ≤ v then lo else if ¬ v ≤ hi then hi else v) := by
  rw [minR]
  by_cases h1 : v ≤ hi
  · rw [if_neg (show ¬ ¬ v ≤ hi from fun z => z h1)]
    by_cases h2 : lo ≤ v
    · rw [if_neg (show ¬ ¬ lo ≤ v from fun z => z h2)]
      by_cases h3 : lo < v
      · rw [if_pos h3]
      · rw [if_neg h3]; exact Int32.le_antisymm h2 (Int32.not_lt.mp h3)
    · rw [if_pos h2, if_neg (fun z => h2 (Int32.le_of_lt z))]
  · rw [if_pos h1]
    have h4 : lo ≤ v := Int32.le_trans h (Int32.le_of_lt (Int32.not_le.mp h1))
    rw [if_neg (show ¬ ¬ lo ≤ v from fun z => z h4)]
    by_cases h3 : lo < hi
    · rw [if_pos h3]
    · rw [if_neg h3]; exact Int32.le_antisymm h (Int32.not_lt.mp h3)
set_option maxHeartbeats 600000 in
theorem x_X2_bounded {g : GP} {μ : Mem} {d : Nat} (hd : 2 ≤ d) {name : Nat} (hn : name < 8) {v : Int32} : PM g yX2_bounded (ws_ yX2_bounded cX2_bounded 2 (some .int)) d 0 0 [.int (nI name), .int v] μ (rQ (some (.int (boundedV name v))) μ) := by
  refine PM.of (by decide +kernel) (Nat.le_of_ble_eq_true rfl) ?_
  refine PJ.ok (fun G => ?_)
  show PJ g _ _ _ _ d 0 0 0 [(0, .int (nI name)), (1, .int v)] [] _ _
  refine pl_iload_n (pc := 0) dX2_bounded_0 rfl rfl ?_
  refine pl_lsw (pc := 1) 0 (tgt := 28) dX2_bounded_1 (by rfl) (by rfl) (by decide) (fun c1_0 => ?_) (fun c1_0 => ?_)
  · refine pl_iconst (pc := 28) (v := 1) dX2_bounded_28 (by rfl) ?_
    refine pl_sipush (pc := 29) (v := 1000) dX2_bounded_29 (by rfl) ?_
    refine pl_iload_n (pc := 32) dX2_bounded_32 rfl rfl ?_
    refine pj_mmin (pc := 33) q1033 dX2_bounded_33 (by omega) (Nat.le_of_ble_eq_true rfl) ?_
    refine pj_mmax (pc := 36) q1034 dX2_bounded_36 (by omega) (Nat.le_of_ble_eq_true rfl) ?_
    refine pj_iret (pc := 39) dX2_bounded_39 rfl ?_
    have n0 : name = 0 := (nI_eq (by omega) (by decide)).mp c1_0
    subst n0
    exact ⟨vI ((bnd_eq (by decide)).trans (by simp [boundedV])), rfl⟩
  refine pl_lsw (pc := 1) 1 (tgt := 40) dX2_bounded_1 (by rfl) (by rfl) (by decide) (fun c1_1 => ?_) (fun c1_1 => ?_)
  · refine pl_iconst (pc := 40) (v := 0) dX2_bounded_40 (by rfl) ?_
    refine pl_bipush (pc := 41) (v := 100) dX2_bounded_41 (by rfl) ?_
    refine pl_iload_n (pc := 43) dX2_bounded_43 rfl rfl ?_
    refine pj_mmin (pc := 44) q1033 dX2_bounded_44 (by omega) (Nat.le_of_ble_eq_true rfl) ?_
    refine pj_mmax (pc := 47) q1034 dX2_bounded_47 (by omega) (Nat.le_of_ble_eq_true rfl) ?_
    refine pj_iret (pc := 50) dX2_bounded_50 rfl ?_
    have n1 : name = 1 := (nI_eq (by omega) (by decide)).mp c1_1
    subst n1
    exact ⟨vI ((bnd_eq (by decide)).trans (by simp [boundedV])), rfl⟩
  refine pj_lookup (pc := 1) (tgt := 51) dX2_bounded_1 (by rfl) ((lv_osw c1_0 rfl).trans ((lv_osw c1_1 rfl).trans (show Op.lookupswitch.offset [] (50) _ = 50 from rfl))) (by decide) ?_
  refine pl_iconst (pc := 51) (v := 0) dX2_bounded_51 (by rfl) ?_
  refine pl_sipush (pc := 52) (v := 1000) dX2_bounded_52 (by rfl) ?_
  refine pl_iload_n (pc := 55) dX2_bounded_55 rfl rfl ?_
  refine pj_mmin (pc := 56) q1033 dX2_bounded_56 (by omega) (Nat.le_of_ble_eq_true rfl) ?_
  refine pj_mmax (pc := 59) q1034 dX2_bounded_59 (by omega) (Nat.le_of_ble_eq_true rfl) ?_
  refine pj_iret (pc := 62) dX2_bounded_62 rfl ?_
  have n0 : ¬ name = 0 := fun z => c1_0 (by rw [z])
  have n1 : ¬ name = 1 := fun z => c1_1 (by rw [z])
  exact ⟨vI ((bnd_eq (by decide)).trans (by simp [boundedV, n0, n1])), rfl⟩
