set_option maxRecDepth 100000
def forcesV (σ : MS) (n : Nat) : Int32 := upto (fun l b => b ||| (if isForceV (lawv σ l 0) = true then nI 1 <<< (nI l &&& 31) else nI 0)) n (nI 0)
def tells (σ : MS) (bits : Int32) (name l : Nat) : Bool := decide ((bits >>> (nI l &&& 31)) &&& nI 1 = nI 1) && decide (0 ≤ σ.2.1 10 (8 * l + name))
abbrev tellerV (σ : MS) (bits : Int32) (name : Nat) : Int32 := lastI (tells σ bits name) 12
def boundedV (name : Nat) (v : Int32) : Int32 := let low := if name = 0 then nI 1 else nI 0; let high := if name = 1 then nI 100 else nI 1000; if ¬ low ≤ v then low else if ¬ v ≤ high then high else v
def withoutV (x : Int32) : Int32 := if x = nI 0 then nI 20 else if x = nI 1 then nI 50 else if x = nI 2 then nI 2 else if x = nI 3 then nI 5 else if x = nI 4 then nI 1 else if x = nI 5 then nI 0 else if x = nI 6 then nI 4 else if x = nI 7 then nI 1 else nI 4
def p_count (σ : MS) (n : Nat) (w : Int32) : Int32 × MS := (let σ := s0 σ;
  if w = nI 0 then row σ 2116 else if w = nI 1 then row σ 2124 else if w = nI 2 then nI (hereC σ n) else if w = nI 3 then nI (farmsC σ 96) else if w = nI 4 then row σ 2117 else if w = nI 5 then row σ 2118 else if w = nI 6 then row σ 2122 else if w = nI 7 then row σ 2125 else if w = nI 8 then row σ 2129 else if w = nI 9 then row σ 2126 else if w = nI 10 then row σ 2127 else if w = nI 11 then row σ 2128 else if w = nI 12 then row σ 2123 else if w = nI 13 then σ.1 9 else if w = nI 14 then row σ 2131 else -1, s0 σ)
def p_number (σ : MS) (k : Int32) : Int32 × MS := (if k < 0 then -1 else if (s0 σ).1 31 ≤ k then -1 else (s0 σ).2.1 17 (tN k), s0 σ)
def p_tear (σ : MS) (k m : Int32) : Int32 × MS := if k < 0 then (-1, s0 σ) else if k < (s0 σ).1 31 then (let σ1 := wA (s0 σ) 17 (tN k) ((s0 σ).2.1 17 (tN k) ^^^ m); (σ1.2.1 17 (tN k), σ1)) else (-1, s0 σ)
def p_prices (σ : MS) (a b c : Int32) : MS :=
  if a < nI 1 then th σ 1 else if nI 1000 < a then th σ 1 else if b < nI 1 then th σ 1 else if nI 1000 < b then th σ 1 else if c < nI 1 then th σ 1 else if ¬ c ≤ nI 1000 then th σ 1
  else wA (wA (wA (sF (s0 σ) 28 (nI 1)) 15 0 a) 15 1 b) 15 2 c
def isRainV (v : Int32) : Bool := !decide (v < 0) && !decide (nI 500 < v)
def p_worst (σ : MS) (n a b c : Int32) : MS :=
  if n < nI 1 then th σ 1 else if nI 3 < n then th σ 1 else if isRainV a = false then th σ 1 else if isRainV b = false then th σ 1 else if isRainV c = false then th σ 1
  else wA (wA (wA (sF (s0 σ) 29 n) 16 0 a) 16 1 b) 16 2 c
def p_as (σ : MS) (nw : Nat) (w h x : Int32) : Int32 × MS :=
  if h < 0 then (nI 0, th σ 1) else if nI 1 < h then (nI 0, th σ 1) else if x < 0 then (nI 0, th σ 1) else if ¬ x ≤ nI 5 then (nI 0, th σ 1)
  else (if inN w nw = false then -2000000000 else if h = nI 1 ∧ ¬ w ≤ nI nw - nI 34 then -2000000000 else (s0 σ).2.1 14 (7 * tN w + tN x), s0 σ)
def homePassV (σ : MS) (nw : Nat) : Int32 := (if nw < 34 then nI 0 else σ.2.1 14 (7 * (nw - 34) + 5)) + row σ 2120 - row σ 2121
def tl (σ : MS) (z w : Nat) : Bool := decide (z < 4) && (!decide (rm σ z ≤ nI w) && decide (0 ≤ rn σ z w))
def nbN (σ : MS) (z w : Nat) : Nat := (if 0 < z ∧ tl σ (z - 1) w = true then 1 else 0) + (if tl σ (z + 1) w = true then 1 else 0)
def nbS (σ : MS) (z w : Nat) : Int32 := (if tl σ (z + 1) w = true then (if 0 < z ∧ tl σ (z - 1) w = true then nI 0 + rn σ (z - 1) w else nI 0) + rn σ (z + 1) w else (if 0 < z ∧ tl σ (z - 1) w = true then nI 0 + rn σ (z - 1) w else nI 0))
def fallV (σ : MS) (z w : Nat) : Int32 := if ¬ σ.1 7 < 0 then σ.1 7 else if ¬ nI w < rm σ z then nI 10 else if ¬ rn σ z w < 0 then rn σ z w else if nbN σ z w = 0 then nI 0 else nbS σ z w / nI (nbN σ z w)
set_option maxHeartbeats 4000000 in
theorem w_X9_forces {g : GP} {ad : Nat → Nat} {μ : Mem} {σ : MS} {d : Nat}  {n : Nat} (hd : 2 ≤ d) (hA : Inj ad 18) (hl : row σ 2125 = nI n) (hL : n ≤ 12) : PM g yX9_forces (ws_ yX9_forces cX9_forces 3 (some .int)) d 0 0 [.ref (ad 0)] (mm g ad μ σ) (rQ (some (.int (forcesV σ n))) (mm g ad μ (σ))) := by
  refine PM.of (by decide +kernel) (Nat.le_of_ble_eq_true rfl) ?_
  show PJ g _ _ _ _ d 0 0 0 [(0, .ref (ad 0))] [] _ _
  refine pl_iconst (pc := 0) (v := 0) dX9_forces_0 (by rfl) ?_
  refine pj_istore_n (pc := 1) (lv' := [(1, _), (0, _)]) dX9_forces_1 rfl (by decide) rfl ?_
  refine pl_iconst (pc := 2) (v := 0) dX9_forces_2 (by rfl) ?_
  refine pj_istore_n (pc := 3) (lv' := [(2, _), (1, _), (0, _)]) dX9_forces_3 rfl (by decide) rfl ?_
  refine ind_dn (n := n) (P := fun i => PJ g _ _ _ _ d 0 0 4 [(2, .int (nI i)), (1, .int (forcesV σ i)), (0, .ref (ad 0))] [] (mm g ad μ σ) _) (fun i hi ih => ?_) 0 (Nat.zero_le _)
  refine pl_iload_n (pc := 4) dX9_forces_4 rfl rfl ?_
  refine pl_aload_n (pc := 5) dX9_forces_5 rfl rfl ?_
  refine pj_getf (pc := 6) ckX9 1 q2517 dX9_forces_6 (by decide) (mm_o hA) rfl ?_
  refine pl_sipush (pc := 9) (v := 2125) dX9_forces_9 (by rfl) ?_
  refine pl_iald (pc := 12) (n := 2132) dX9_forces_12 (mm_a hA 1 (by decide) (by decide)) (by omega) (by decide) ?_
  refine PJ.top (y := nI _) (hl) ?_
  refine pl_icmp_ge (pc := 13) (tgt := 44) dX9_forces_13 (by decide) (by omega) (by omega) (fun c13 => ?_) (fun c13 => ?_)
  · refine pl_iload_n (pc := 44) dX9_forces_44 rfl rfl ?_
    refine pj_iret (pc := 45) dX9_forces_45 rfl ?_
    have e9 : i = n := by omega
    subst e9
    exact ⟨rfl, rfl⟩
  · refine pl_iload_n (pc := 16) dX9_forces_16 rfl rfl ?_
    refine pl_aload_n (pc := 17) dX9_forces_17 rfl rfl ?_
    refine pl_iload_n (pc := 18) dX9_forces_18 rfl rfl ?_
    refine pl_iconst (pc := 19) (v := 0) dX9_forces_19 (by rfl) ?_
    refine pl_callVd (pc := 20) (As := [_, _]) (C2 := 0) (N2 := 0) ckX9 mdX9_ofLaw rfl q2934 q2936 qs94 q154 dX9_forces_20 rfl rfl (Nat.le_of_ble_eq_true rfl) (mm_o hA) (w_X9_ofLaw (d := d - 1) (by omega) hA (by first | omega | assumption | exact hn | exact hl | exact hb | exact hq | exact hdr | exact has) (by first | omega | assumption | exact hn | exact hl | exact hb | exact hq | exact hdr | exact has)) (by omega) (by decide) (by decide) ?_
    refine pl_callSd (pc := 23) (As := [_]) (C2 := 0) (N2 := 0) mdX9_isForce q2938 q2939 q154 dX9_forces_23 rfl rfl (Nat.le_of_ble_eq_true rfl) (w_X9_isForce (d := d - 1) (by omega)) (by omega) (by decide) (by decide) ?_
    refine pl_if_eqB (pc := 26) (tgt := 35) dX9_forces_26 (by decide) (fun c26 => ?_) (fun c26 => ?_)
    · refine pl_iconst (pc := 35) (v := 0) dX9_forces_35 (by rfl) ?_
      refine pj_ior (pc := 36) dX9_forces_36 ?_
      refine pj_istore_n (pc := 37) (lv' := [(1, _), (2, _), (0, _)]) dX9_forces_37 rfl (by decide) rfl ?_
      refine pl_iinc1 (pc := 38) (lv' := [(2, _), (1, _), (0, _)]) dX9_forces_38 rfl rfl (by decide) rfl ?_
      refine pj_goto (pc := 41) (tgt := 4) dX9_forces_41 (by decide) ?_
      exact PJ.conv (by simp [forcesV, upto, c13, c26]) rfl rfl (ih (by omega))
    · refine pl_iconst (pc := 29) (v := 1) dX9_forces_29 (by rfl) ?_
      refine pl_iload_n (pc := 30) dX9_forces_30 rfl rfl ?_
      refine pj_ishl (pc := 31) dX9_forces_31 ?_
      refine pj_goto (pc := 32) (tgt := 36) dX9_forces_32 (by decide) ?_
      refine pj_ior (pc := 36) dX9_forces_36 ?_
      refine pj_istore_n (pc := 37) (lv' := [(1, _), (2, _), (0, _)]) dX9_forces_37 rfl (by decide) rfl ?_
      refine pl_iinc1 (pc := 38) (lv' := [(2, _), (1, _), (0, _)]) dX9_forces_38 rfl rfl (by decide) rfl ?_
      refine pj_goto (pc := 41) (tgt := 4) dX9_forces_41 (by decide) ?_
      exact PJ.conv (by simp [forcesV, upto, c13, c26]) rfl rfl (ih (by omega))
set_option maxHeartbeats 4000000 in
theorem w_X9_teller {g : GP} {ad : Nat → Nat} {μ : Mem} {σ : MS} {d : Nat} {bits : Int32} {name : Nat}  (hd : 1 ≤ d) (hA : Inj ad 18) (hname : name < 8) : PM g yX9_teller (ws_ yX9_teller cX9_teller 4 (some .int)) d 0 0 [.ref (ad 0), .int bits, .int (nI name)] (mm g ad μ σ) (rQ (some (.int (tellerV σ bits name))) (mm g ad μ (σ))) := by
  refine PM.of (by decide +kernel) (Nat.le_of_ble_eq_true rfl) ?_
  show PJ g _ _ _ _ d 0 0 0 [(0, .ref (ad 0)), (1, .int bits), (2, .int (nI name))] [] _ _
  have key : ∀ i, i ≤ 12 → lastI (tells σ bits name) i = lastI (tells σ bits name) 12 → PJ g yX9_teller.cls cX9_teller 4 (some .int, yX9_teller.name, []) d 0 0 3 [(3, .int (dnI i)), (2, .int (nI name)), (1, .int bits), (0, .ref (ad 0))] [] (mm g ad μ σ) (rQ (some (.int (tellerV σ bits name))) (mm g ad μ σ)) := by
    intro i
    induction i with
    | zero =>
      intro _ hv
      refine pl_iload_n (pc := 3) dX9_teller_3 rfl rfl ?_
      refine pj_if_lt (pc := 4) (tgt := 38) dX9_teller_4 (by decide) (fun _ => ?_) (fun h => absurd h (by decide))
      refine pj_iconst (pc := 38) (v := (-1)) dX9_teller_38 (by rfl) ?_
      refine pj_iret (pc := 39) dX9_teller_39 rfl ?_
      exact ⟨vIe (hv.symm.trans rfl).symm rfl, rfl⟩
    | succ i ih =>
      intro hi hv
      show PJ g yX9_teller.cls cX9_teller 4 (some .int, yX9_teller.name, []) d 0 0 3 [(3, .int (nI i)), (2, .int (nI name)), (1, .int bits), (0, .ref (ad 0))] [] (mm g ad μ σ) _
      refine pl_iload_n (pc := 3) dX9_teller_3 rfl rfl ?_
      refine pl_if_ltN (pc := 4) dX9_teller_4 ⟨38, by decide⟩ (by omega) ?_
      refine pl_iload_n (pc := 7) dX9_teller_7 rfl rfl ?_
      refine pl_iload_n (pc := 8) dX9_teller_8 rfl rfl ?_
      refine pj_ishr (pc := 9) dX9_teller_9 ?_
      refine pl_iconst (pc := 10) (v := 1) dX9_teller_10 (by rfl) ?_
      refine pj_iand (pc := 11) dX9_teller_11 ?_
      refine pl_iconst (pc := 12) (v := 1) dX9_teller_12 (by rfl) ?_
      refine pj_icmp_ne (pc := 13) (tgt := 32) dX9_teller_13 (by decide) (fun c13 => ?_) (fun c13 => ?_)
      · refine pl_iinc (pc := 32) (lv' := [(3, _), (2, _), (1, _), (0, _)]) dX9_teller_32 rfl (dnI_of _) (by decide) rfl ?_
        refine pj_goto (pc := 35) (tgt := 3) dX9_teller_35 (by decide) ?_
        refine ih (by omega) ?_
        rw [← hv]
        simp [lastI, tells, c13]
      · refine pl_aload_n (pc := 16) dX9_teller_16 rfl rfl ?_
        refine pj_getf (pc := 17) ckX9 19 q2535 dX9_teller_17 (by decide) (mm_o hA) rfl ?_
        refine pl_bipush (pc := 20) (v := 8) dX9_teller_20 (by rfl) ?_
        refine pl_iload_n (pc := 22) dX9_teller_22 rfl rfl ?_
        refine pl_imul (pc := 23) dX9_teller_23 ?_
        refine pl_iload_n (pc := 24) dX9_teller_24 rfl rfl ?_
        refine pl_iadd (pc := 25) dX9_teller_25 ?_
        refine pl_iald (pc := 26) (n := 96) dX9_teller_26 (mm_a hA 10 (by decide) (by decide)) (by omega) (by decide) ?_
        refine pj_if_lt (pc := 27) (tgt := 32) dX9_teller_27 (by decide) (fun c27 => ?_) (fun c27 => ?_)
        · refine pl_iinc (pc := 32) (lv' := [(3, _), (2, _), (1, _), (0, _)]) dX9_teller_32 rfl (dnI_of _) (by decide) rfl ?_
          refine pj_goto (pc := 35) (tgt := 3) dX9_teller_35 (by decide) ?_
          refine ih (by omega) ?_
          rw [← hv]
          simp [lastI, tells, eq_true c13, Int32.not_le.mpr c27]
        · refine pl_iload_n (pc := 30) dX9_teller_30 rfl rfl ?_
          refine pj_iret (pc := 31) dX9_teller_31 rfl ?_
          exact ⟨vIe (by show _ = lastI (tells σ bits name) 12; rw [← hv]; simp [lastI, tells, eq_true c13, Int32.not_lt.mp c27]) rfl, rfl⟩
  refine pl_bipush (pc := 0) (v := 11) dX9_teller_0 (by rfl) ?_
  refine pj_istore_n (pc := 2) (lv' := [(3, _), (0, _), (1, _), (2, _)]) dX9_teller_2 rfl (by decide) rfl ?_
  refine PJ.sub [0, 3, 2, 1] rfl ?_
  exact key 12 (by decide) rfl
set_option maxHeartbeats 4000000 in
theorem w_X9_bounded {g : GP} {μ : Mem} {d : Nat} {name : Nat} {v : Int32}  (hd : 1 ≤ d) (hname : name < 8) : PM g yX9_bounded (ws_ yX9_bounded cX9_bounded 4 (some .int)) d 0 0 [.int (nI name), .int v] μ (rQ (some (.int (boundedV name v))) μ) := by
  refine PM.of (by decide +kernel) (Nat.le_of_ble_eq_true rfl) ?_
  show PJ g _ _ _ _ d 0 0 0 [(0, .int (nI name)), (1, .int v)] [] _ _
  refine pl_iload_n (pc := 0) dX9_bounded_0 rfl rfl ?_
  refine pl_if_neN (pc := 1) (tgt := 8) dX9_bounded_1 (by decide) (by omega) (fun c1 => ?_) (fun c1 => ?_)
  · refine pl_iconst (pc := 8) (v := 0) dX9_bounded_8 (by rfl) ?_
    refine pj_istore_n (pc := 9) (lv' := [(2, _), (0, _), (1, _)]) dX9_bounded_9 rfl (by decide) rfl ?_
    refine pl_iload_n (pc := 10) dX9_bounded_10 rfl rfl ?_
    refine pl_iconst (pc := 11) (v := 1) dX9_bounded_11 (by rfl) ?_
    refine pl_icmp_ne (pc := 12) (tgt := 20) dX9_bounded_12 (by decide) (by omega) (by omega) (fun c12 => ?_) (fun c12 => ?_)
    · refine pl_sipush (pc := 20) (v := 1000) dX9_bounded_20 (by rfl) ?_
      refine pj_istore_n (pc := 23) (lv' := [(3, _), (2, _), (0, _), (1, _)]) dX9_bounded_23 rfl (by decide) rfl ?_
      refine pl_iload_n (pc := 24) dX9_bounded_24 rfl rfl ?_
      refine pl_iload_n (pc := 25) dX9_bounded_25 rfl rfl ?_
      refine pj_icmp_ge (pc := 26) (tgt := 33) dX9_bounded_26 (by decide) (fun c26 => ?_) (fun c26 => ?_)
      · refine pl_iload_n (pc := 33) dX9_bounded_33 rfl rfl ?_
        refine pl_iload_n (pc := 34) dX9_bounded_34 rfl rfl ?_
        refine pj_icmp_le (pc := 35) (tgt := 42) dX9_bounded_35 (by decide) (fun c35 => ?_) (fun c35 => ?_)
        · refine pl_iload_n (pc := 42) dX9_bounded_42 rfl rfl ?_
          refine pj_iret (pc := 43) dX9_bounded_43 rfl ?_
          exact ⟨vIe (by simp [boundedV, show ¬ name = 0 by omega, c12, c26, c35]) rfl, rfl⟩
        · refine pl_iload_n (pc := 38) dX9_bounded_38 rfl rfl ?_
          refine pj_goto (pc := 39) (tgt := 43) dX9_bounded_39 (by decide) ?_
          refine pj_iret (pc := 43) dX9_bounded_43 rfl ?_
          exact ⟨vIe (by simp [boundedV, show ¬ name = 0 by omega, c12, c26, c35]) rfl, rfl⟩
      · refine pl_iload_n (pc := 29) dX9_bounded_29 rfl rfl ?_
        refine pj_goto (pc := 30) (tgt := 43) dX9_bounded_30 (by decide) ?_
        refine pj_iret (pc := 43) dX9_bounded_43 rfl ?_
        exact ⟨vIe (by simp [boundedV, show ¬ name = 0 by omega, c12, c26]) rfl, rfl⟩
    · refine pl_bipush (pc := 15) (v := 100) dX9_bounded_15 (by rfl) ?_
      refine pj_goto (pc := 17) (tgt := 23) dX9_bounded_17 (by decide) ?_
      refine pj_istore_n (pc := 23) (lv' := [(3, _), (2, _), (0, _), (1, _)]) dX9_bounded_23 rfl (by decide) rfl ?_
      refine pl_iload_n (pc := 24) dX9_bounded_24 rfl rfl ?_
      refine pl_iload_n (pc := 25) dX9_bounded_25 rfl rfl ?_
      refine pj_icmp_ge (pc := 26) (tgt := 33) dX9_bounded_26 (by decide) (fun c26 => ?_) (fun c26 => ?_)
      · refine pl_iload_n (pc := 33) dX9_bounded_33 rfl rfl ?_
        refine pl_iload_n (pc := 34) dX9_bounded_34 rfl rfl ?_
        refine pj_icmp_le (pc := 35) (tgt := 42) dX9_bounded_35 (by decide) (fun c35 => ?_) (fun c35 => ?_)
        · refine pl_iload_n (pc := 42) dX9_bounded_42 rfl rfl ?_
          refine pj_iret (pc := 43) dX9_bounded_43 rfl ?_
          exact ⟨vIe (by simp [boundedV, show ¬ name = 0 by omega, eq_true c12, c26, c35]) rfl, rfl⟩
        · refine pl_iload_n (pc := 38) dX9_bounded_38 rfl rfl ?_
          refine pj_goto (pc := 39) (tgt := 43) dX9_bounded_39 (by decide) ?_
          refine pj_iret (pc := 43) dX9_bounded_43 rfl ?_
          exact ⟨vIe (by simp [boundedV, show ¬ name = 0 by omega, eq_true c12, c26, c35]) rfl, rfl⟩
      · refine pl_iload_n (pc := 29) dX9_bounded_29 rfl rfl ?_
        refine pj_goto (pc := 30) (tgt := 43) dX9_bounded_30 (by decide) ?_
        refine pj_iret (pc := 43) dX9_bounded_43 rfl ?_
        exact ⟨vIe (by simp [boundedV, show ¬ name = 0 by omega, eq_true c12, c26]) rfl, rfl⟩
  · refine pl_iconst (pc := 4) (v := 1) dX9_bounded_4 (by rfl) ?_
    refine pj_goto (pc := 5) (tgt := 9) dX9_bounded_5 (by decide) ?_
    refine pj_istore_n (pc := 9) (lv' := [(2, _), (0, _), (1, _)]) dX9_bounded_9 rfl (by decide) rfl ?_
    refine pl_iload_n (pc := 10) dX9_bounded_10 rfl rfl ?_
    refine pl_iconst (pc := 11) (v := 1) dX9_bounded_11 (by rfl) ?_
    refine pl_icmp_ne (pc := 12) (tgt := 20) dX9_bounded_12 (by decide) (by omega) (by omega) (fun c12 => ?_) (fun c12 => ?_)
    · refine pl_sipush (pc := 20) (v := 1000) dX9_bounded_20 (by rfl) ?_
      refine pj_istore_n (pc := 23) (lv' := [(3, _), (2, _), (0, _), (1, _)]) dX9_bounded_23 rfl (by decide) rfl ?_
      refine pl_iload_n (pc := 24) dX9_bounded_24 rfl rfl ?_
      refine pl_iload_n (pc := 25) dX9_bounded_25 rfl rfl ?_
      refine pj_icmp_ge (pc := 26) (tgt := 33) dX9_bounded_26 (by decide) (fun c26 => ?_) (fun c26 => ?_)
      · refine pl_iload_n (pc := 33) dX9_bounded_33 rfl rfl ?_
        refine pl_iload_n (pc := 34) dX9_bounded_34 rfl rfl ?_
        refine pj_icmp_le (pc := 35) (tgt := 42) dX9_bounded_35 (by decide) (fun c35 => ?_) (fun c35 => ?_)
        · refine pl_iload_n (pc := 42) dX9_bounded_42 rfl rfl ?_
          refine pj_iret (pc := 43) dX9_bounded_43 rfl ?_
          exact ⟨vIe (by simp [boundedV, eq_true c1, c12, c26, c35]) rfl, rfl⟩
        · refine pl_iload_n (pc := 38) dX9_bounded_38 rfl rfl ?_
          refine pj_goto (pc := 39) (tgt := 43) dX9_bounded_39 (by decide) ?_
          refine pj_iret (pc := 43) dX9_bounded_43 rfl ?_
          exact ⟨vIe (by simp [boundedV, eq_true c1, c12, c26, c35]) rfl, rfl⟩
      · refine pl_iload_n (pc := 29) dX9_bounded_29 rfl rfl ?_
        refine pj_goto (pc := 30) (tgt := 43) dX9_bounded_30 (by decide) ?_
        refine pj_iret (pc := 43) dX9_bounded_43 rfl ?_
        exact ⟨vIe (by simp [boundedV, eq_true c1, c12, c26]) rfl, rfl⟩
    · refine pl_bipush (pc := 15) (v := 100) dX9_bounded_15 (by rfl) ?_
      refine pj_goto (pc := 17) (tgt := 23) dX9_bounded_17 (by decide) ?_
      refine pj_istore_n (pc := 23) (lv' := [(3, _), (2, _), (0, _), (1, _)]) dX9_bounded_23 rfl (by decide) rfl ?_
      refine pl_iload_n (pc := 24) dX9_bounded_24 rfl rfl ?_
      refine pl_iload_n (pc := 25) dX9_bounded_25 rfl rfl ?_
      refine pj_icmp_ge (pc := 26) (tgt := 33) dX9_bounded_26 (by decide) (fun c26 => ?_) (fun c26 => ?_)
      · refine pl_iload_n (pc := 33) dX9_bounded_33 rfl rfl ?_
        refine pl_iload_n (pc := 34) dX9_bounded_34 rfl rfl ?_
        refine pj_icmp_le (pc := 35) (tgt := 42) dX9_bounded_35 (by decide) (fun c35 => ?_) (fun c35 => ?_)
        · refine pl_iload_n (pc := 42) dX9_bounded_42 rfl rfl ?_
          refine pj_iret (pc := 43) dX9_bounded_43 rfl ?_
          exact ⟨vIe (by simp [boundedV, eq_true c1, eq_true c12, c26, c35]) rfl, rfl⟩
        · refine pl_iload_n (pc := 38) dX9_bounded_38 rfl rfl ?_
          refine pj_goto (pc := 39) (tgt := 43) dX9_bounded_39 (by decide) ?_
          refine pj_iret (pc := 43) dX9_bounded_43 rfl ?_
          exact ⟨vIe (by simp [boundedV, eq_true c1, eq_true c12, c26, c35]) rfl, rfl⟩
      · refine pl_iload_n (pc := 29) dX9_bounded_29 rfl rfl ?_
        refine pj_goto (pc := 30) (tgt := 43) dX9_bounded_30 (by decide) ?_
        refine pj_iret (pc := 43) dX9_bounded_43 rfl ?_
        exact ⟨vIe (by simp [boundedV, eq_true c1, eq_true c12, c26]) rfl, rfl⟩
set_option maxHeartbeats 4000000 in
theorem w_X9_without {g : GP} {μ : Mem} {d : Nat} {x : Int32}  (hd : 1 ≤ d) : PM g yX9_without (ws_ yX9_without cX9_without 1 (some .int)) d 0 0 [.int x] μ (rQ (some (.int (withoutV x))) μ) := by
  refine PM.of (by decide +kernel) (Nat.le_of_ble_eq_true rfl) ?_
  show PJ g _ _ _ _ d 0 0 0 [(0, .int x)] [] _ _
  refine pl_iload_n (pc := 0) dX9_without_0 rfl rfl ?_
  refine pl_tsw (pc := 1) 0 (tgt := 48) dX9_without_1 (by rfl) (by decide) (by decide) (by rfl) (by decide) (fun c1_0 => ?_) (fun c1_0 => ?_)
  · refine pl_bipush (pc := 48) (v := 20) dX9_without_48 (by rfl) ?_
    refine pj_iret (pc := 50) dX9_without_50 rfl ?_
    exact ⟨vIe (by simp [withoutV, eq_true c1_0]) rfl, rfl⟩
  refine pl_tsw (pc := 1) 1 (tgt := 51) dX9_without_1 (by rfl) (by decide) (by decide) (by rfl) (by decide) (fun c1_1 => ?_) (fun c1_1 => ?_)
  · refine pl_bipush (pc := 51) (v := 50) dX9_without_51 (by rfl) ?_
    refine pj_iret (pc := 53) dX9_without_53 rfl ?_
    exact ⟨vIe (by simp [withoutV, c1_0, eq_true c1_1]) rfl, rfl⟩
  refine pl_tsw (pc := 1) 2 (tgt := 54) dX9_without_1 (by rfl) (by decide) (by decide) (by rfl) (by decide) (fun c1_2 => ?_) (fun c1_2 => ?_)
  · refine pl_iconst (pc := 54) (v := 2) dX9_without_54 (by rfl) ?_
    refine pj_iret (pc := 55) dX9_without_55 rfl ?_
    exact ⟨vIe (by simp [withoutV, c1_0, c1_1, eq_true c1_2]) rfl, rfl⟩
  refine pl_tsw (pc := 1) 3 (tgt := 56) dX9_without_1 (by rfl) (by decide) (by decide) (by rfl) (by decide) (fun c1_3 => ?_) (fun c1_3 => ?_)
  · refine pl_iconst (pc := 56) (v := 5) dX9_without_56 (by rfl) ?_
    refine pj_iret (pc := 57) dX9_without_57 rfl ?_
    exact ⟨vIe (by simp [withoutV, c1_0, c1_1, c1_2, eq_true c1_3]) rfl, rfl⟩
  refine pl_tsw (pc := 1) 4 (tgt := 58) dX9_without_1 (by rfl) (by decide) (by decide) (by rfl) (by decide) (fun c1_4 => ?_) (fun c1_4 => ?_)
  · refine pl_iconst (pc := 58) (v := 1) dX9_without_58 (by rfl) ?_
    refine pj_iret (pc := 59) dX9_without_59 rfl ?_
    exact ⟨vIe (by simp [withoutV, c1_0, c1_1, c1_2, c1_3, eq_true c1_4]) rfl, rfl⟩
  refine pl_tsw (pc := 1) 5 (tgt := 60) dX9_without_1 (by rfl) (by decide) (by decide) (by rfl) (by decide) (fun c1_5 => ?_) (fun c1_5 => ?_)
  · refine pl_iconst (pc := 60) (v := 0) dX9_without_60 (by rfl) ?_
    refine pj_iret (pc := 61) dX9_without_61 rfl ?_
    exact ⟨vIe (by simp [withoutV, c1_0, c1_1, c1_2, c1_3, c1_4, eq_true c1_5]) rfl, rfl⟩
  refine pl_tsw (pc := 1) 6 (tgt := 62) dX9_without_1 (by rfl) (by decide) (by decide) (by rfl) (by decide) (fun c1_6 => ?_) (fun c1_6 => ?_)
  · refine pl_iconst (pc := 62) (v := 4) dX9_without_62 (by rfl) ?_
    refine pj_iret (pc := 63) dX9_without_63 rfl ?_
    exact ⟨vIe (by simp [withoutV, c1_0, c1_1, c1_2, c1_3, c1_4, c1_5, eq_true c1_6]) rfl, rfl⟩
  refine pl_tsw (pc := 1) 7 (tgt := 58) dX9_without_1 (by rfl) (by decide) (by decide) (by rfl) (by decide) (fun c1_7 => ?_) (fun c1_7 => ?_)
  · refine pl_iconst (pc := 58) (v := 1) dX9_without_58 (by rfl) ?_
    refine pj_iret (pc := 59) dX9_without_59 rfl ?_
    exact ⟨vIe (by simp [withoutV, c1_0, c1_1, c1_2, c1_3, c1_4, c1_5, c1_6, eq_true c1_7]) rfl, rfl⟩
  refine pj_tableOut (pc := 1) (tgt := 62) dX9_without_1 (by have q0 := nI_nec c1_0; have q1 := nI_nec c1_1; have q2 := nI_nec c1_2; have q3 := nI_nec c1_3; have q4 := nI_nec c1_4; have q5 := nI_nec c1_5; have q6 := nI_nec c1_6; have q7 := nI_nec c1_7; omega) (by decide) ?_
  refine pl_iconst (pc := 62) (v := 4) dX9_without_62 (by rfl) ?_
  refine pj_iret (pc := 63) dX9_without_63 rfl ?_
  exact ⟨vIe (by simp [withoutV, c1_0, c1_1, c1_2, c1_3, c1_4, c1_5, c1_6, c1_7]) rfl, rfl⟩
set_option maxHeartbeats 4000000 in
theorem w_X9_count {g : GP} {ad : Nat → Nat} {μ : Mem} {σ : MS} {d : Nat} {w : Int32} {n : Nat} (hd : 4 ≤ d) (hA : Inj ad 18) (hn : row σ 2124 = nI n) (hP : n ≤ 100) : PM g yX9_count (ws_ yX9_count cX9_count 2 (some .int)) d 0 0 [.ref (ad 0), .int w] (mm g ad μ σ) (rQ (some (.int ((p_count σ n w).1))) (mm g ad μ ((p_count σ n w).2))) := by
  refine PM.of (by decide +kernel) (Nat.le_of_ble_eq_true rfl) ?_
  show PJ g _ _ _ _ d 0 0 0 [(0, .ref (ad 0)), (1, .int w)] [] _ _
  refine pl_aload_n (pc := 0) dX9_count_0 rfl rfl ?_
  refine pl_iconst (pc := 1) (v := 0) dX9_count_1 (by rfl) ?_
  refine pm_putI (pc := 2) 0 hA q2516 dX9_count_2 (by decide) rfl (by rfl) (by rfl) rfl ?_
  refine pl_iload_n (pc := 5) dX9_count_5 rfl rfl ?_
  refine pl_tsw (pc := 6) 0 (tgt := 80) dX9_count_6 (by rfl) (by decide) (by decide) (by rfl) (by decide) (fun c6_0 => ?_) (fun c6_0 => ?_)
  · refine pl_aload_n (pc := 80) dX9_count_80 rfl rfl ?_
    refine pj_getf (pc := 81) ckX9 1 q2517 dX9_count_81 (by decide) (mm_o hA) rfl ?_
    refine pl_sipush (pc := 84) (v := 2116) dX9_count_84 (by rfl) ?_
    refine pl_iald (pc := 87) (n := 2132) dX9_count_87 (mm_a hA 1 (by decide) (by decide)) (by omega) (by decide) ?_
    refine pj_iret (pc := 88) dX9_count_88 rfl ?_
    exact ⟨vIe (by simp [p_count, eq_true c6_0]) rfl, congrArg (mm g ad μ) (by simp [p_count, eq_true c6_0])⟩
  refine pl_tsw (pc := 6) 1 (tgt := 89) dX9_count_6 (by rfl) (by decide) (by decide) (by rfl) (by decide) (fun c6_1 => ?_) (fun c6_1 => ?_)
  · refine pl_aload_n (pc := 89) dX9_count_89 rfl rfl ?_
    refine pj_getf (pc := 90) ckX9 1 q2517 dX9_count_90 (by decide) (mm_o hA) rfl ?_
    refine pl_sipush (pc := 93) (v := 2124) dX9_count_93 (by rfl) ?_
    refine pl_iald (pc := 96) (n := 2132) dX9_count_96 (mm_a hA 1 (by decide) (by decide)) (by omega) (by decide) ?_
    refine pj_iret (pc := 97) dX9_count_97 rfl ?_
    exact ⟨vIe (by simp [p_count, c6_0, eq_true c6_1]) rfl, congrArg (mm g ad μ) (by simp [p_count, c6_0, eq_true c6_1])⟩
  refine pl_tsw (pc := 6) 2 (tgt := 98) dX9_count_6 (by rfl) (by decide) (by decide) (by rfl) (by decide) (fun c6_2 => ?_) (fun c6_2 => ?_)
  · refine pl_aload_n (pc := 98) dX9_count_98 rfl rfl ?_
    refine pl_callVd (pc := 99) (As := []) (C2 := 0) (N2 := 0) ckX9 mdX9_here rfl q2952 q2954 qs97 q154 dX9_count_99 rfl rfl (Nat.le_of_ble_eq_true rfl) (mm_o hA) (w_X9_here (d := d - 1) (by omega) hA (by first | omega | assumption | exact hn | exact hl | exact hb | exact hq | exact hdr | exact has) (by first | omega | assumption | exact hn | exact hl | exact hb | exact hq | exact hdr | exact has)) (by omega) (by decide) (by decide) ?_
    refine pj_iret (pc := 102) dX9_count_102 rfl ?_
    exact ⟨vIe (by simp [p_count, c6_0, c6_1, eq_true c6_2]) rfl, congrArg (mm g ad μ) (by simp [p_count, c6_0, c6_1, eq_true c6_2])⟩
  refine pl_tsw (pc := 6) 3 (tgt := 103) dX9_count_6 (by rfl) (by decide) (by decide) (by rfl) (by decide) (fun c6_3 => ?_) (fun c6_3 => ?_)
  · refine pl_aload_n (pc := 103) dX9_count_103 rfl rfl ?_
    refine pl_callVd (pc := 104) (As := []) (C2 := 0) (N2 := 0) ckX9 mdX9_farms rfl q2948 q2950 qs96 q154 dX9_count_104 rfl rfl (Nat.le_of_ble_eq_true rfl) (mm_o hA) (w_X9_farms (d := d - 1) (by omega) hA) (by omega) (by decide) (by decide) ?_
    refine pj_iret (pc := 107) dX9_count_107 rfl ?_
    exact ⟨vIe (by simp [p_count, c6_0, c6_1, c6_2, eq_true c6_3]) rfl, congrArg (mm g ad μ) (by simp [p_count, c6_0, c6_1, c6_2, eq_true c6_3])⟩
  refine pl_tsw (pc := 6) 4 (tgt := 108) dX9_count_6 (by rfl) (by decide) (by decide) (by rfl) (by decide) (fun c6_4 => ?_) (fun c6_4 => ?_)
  · refine pl_aload_n (pc := 108) dX9_count_108 rfl rfl ?_
    refine pj_getf (pc := 109) ckX9 1 q2517 dX9_count_109 (by decide) (mm_o hA) rfl ?_
    refine pl_sipush (pc := 112) (v := 2117) dX9_count_112 (by rfl) ?_
    refine pl_iald (pc := 115) (n := 2132) dX9_count_115 (mm_a hA 1 (by decide) (by decide)) (by omega) (by decide) ?_
    refine pj_iret (pc := 116) dX9_count_116 rfl ?_
    exact ⟨vIe (by simp [p_count, c6_0, c6_1, c6_2, c6_3, eq_true c6_4]) rfl, congrArg (mm g ad μ) (by simp [p_count, c6_0, c6_1, c6_2, c6_3, eq_true c6_4])⟩
  refine pl_tsw (pc := 6) 5 (tgt := 117) dX9_count_6 (by rfl) (by decide) (by decide) (by rfl) (by decide) (fun c6_5 => ?_) (fun c6_5 => ?_)
  · refine pl_aload_n (pc := 117) dX9_count_117 rfl rfl ?_
    refine pj_getf (pc := 118) ckX9 1 q2517 dX9_count_118 (by decide) (mm_o hA) rfl ?_
    refine pl_sipush (pc := 121) (v := 2118) dX9_count_121 (by rfl) ?_
    refine pl_iald (pc := 124) (n := 2132) dX9_count_124 (mm_a hA 1 (by decide) (by decide)) (by omega) (by decide) ?_
    refine pj_iret (pc := 125) dX9_count_125 rfl ?_
    exact ⟨vIe (by simp [p_count, c6_0, c6_1, c6_2, c6_3, c6_4, eq_true c6_5]) rfl, congrArg (mm g ad μ) (by simp [p_count, c6_0, c6_1, c6_2, c6_3, c6_4, eq_true c6_5])⟩
  refine pl_tsw (pc := 6) 6 (tgt := 126) dX9_count_6 (by rfl) (by decide) (by decide) (by rfl) (by decide) (fun c6_6 => ?_) (fun c6_6 => ?_)
  · refine pl_aload_n (pc := 126) dX9_count_126 rfl rfl ?_
    refine pj_getf (pc := 127) ckX9 1 q2517 dX9_count_127 (by decide) (mm_o hA) rfl ?_
    refine pl_sipush (pc := 130) (v := 2122) dX9_count_130 (by rfl) ?_
    refine pl_iald (pc := 133) (n := 2132) dX9_count_133 (mm_a hA 1 (by decide) (by decide)) (by omega) (by decide) ?_
    refine pj_iret (pc := 134) dX9_count_134 rfl ?_
    exact ⟨vIe (by simp [p_count, c6_0, c6_1, c6_2, c6_3, c6_4, c6_5, eq_true c6_6]) rfl, congrArg (mm g ad μ) (by simp [p_count, c6_0, c6_1, c6_2, c6_3, c6_4, c6_5, eq_true c6_6])⟩
  refine pl_tsw (pc := 6) 7 (tgt := 135) dX9_count_6 (by rfl) (by decide) (by decide) (by rfl) (by decide) (fun c6_7 => ?_) (fun c6_7 => ?_)
  · refine pl_aload_n (pc := 135) dX9_count_135 rfl rfl ?_
    refine pj_getf (pc := 136) ckX9 1 q2517 dX9_count_136 (by decide) (mm_o hA) rfl ?_
    refine pl_sipush (pc := 139) (v := 2125) dX9_count_139 (by rfl) ?_
    refine pl_iald (pc := 142) (n := 2132) dX9_count_142 (mm_a hA 1 (by decide) (by decide)) (by omega) (by decide) ?_
    refine pj_iret (pc := 143) dX9_count_143 rfl ?_
    exact ⟨vIe (by simp [p_count, c6_0, c6_1, c6_2, c6_3, c6_4, c6_5, c6_6, eq_true c6_7]) rfl, congrArg (mm g ad μ) (by simp [p_count, c6_0, c6_1, c6_2, c6_3, c6_4, c6_5, c6_6, eq_true c6_7])⟩
  refine pl_tsw (pc := 6) 8 (tgt := 144) dX9_count_6 (by rfl) (by decide) (by decide) (by rfl) (by decide) (fun c6_8 => ?_) (fun c6_8 => ?_)
  · refine pl_aload_n (pc := 144) dX9_count_144 rfl rfl ?_
    refine pj_getf (pc := 145) ckX9 1 q2517 dX9_count_145 (by decide) (mm_o hA) rfl ?_
    refine pl_sipush (pc := 148) (v := 2129) dX9_count_148 (by rfl) ?_
    refine pl_iald (pc := 151) (n := 2132) dX9_count_151 (mm_a hA 1 (by decide) (by decide)) (by omega) (by decide) ?_
    refine pj_iret (pc := 152) dX9_count_152 rfl ?_
    exact ⟨vIe (by simp [p_count, c6_0, c6_1, c6_2, c6_3, c6_4, c6_5, c6_6, c6_7, eq_true c6_8]) rfl, congrArg (mm g ad μ) (by simp [p_count, c6_0, c6_1, c6_2, c6_3, c6_4, c6_5, c6_6, c6_7, eq_true c6_8])⟩
  refine pl_tsw (pc := 6) 9 (tgt := 153) dX9_count_6 (by rfl) (by decide) (by decide) (by rfl) (by decide) (fun c6_9 => ?_) (fun c6_9 => ?_)
  · refine pl_aload_n (pc := 153) dX9_count_153 rfl rfl ?_
    refine pj_getf (pc := 154) ckX9 1 q2517 dX9_count_154 (by decide) (mm_o hA) rfl ?_
    refine pl_sipush (pc := 157) (v := 2126) dX9_count_157 (by rfl) ?_
    refine pl_iald (pc := 160) (n := 2132) dX9_count_160 (mm_a hA 1 (by decide) (by decide)) (by omega) (by decide) ?_
    refine pj_iret (pc := 161) dX9_count_161 rfl ?_
    exact ⟨vIe (by simp [p_count, c6_0, c6_1, c6_2, c6_3, c6_4, c6_5, c6_6, c6_7, c6_8, eq_true c6_9]) rfl, congrArg (mm g ad μ) (by simp [p_count, c6_0, c6_1, c6_2, c6_3, c6_4, c6_5, c6_6, c6_7, c6_8, eq_true c6_9])⟩
  refine pl_tsw (pc := 6) 10 (tgt := 162) dX9_count_6 (by rfl) (by decide) (by decide) (by rfl) (by decide) (fun c6_10 => ?_) (fun c6_10 => ?_)
  · refine pl_aload_n (pc := 162) dX9_count_162 rfl rfl ?_
    refine pj_getf (pc := 163) ckX9 1 q2517 dX9_count_163 (by decide) (mm_o hA) rfl ?_
    refine pl_sipush (pc := 166) (v := 2127) dX9_count_166 (by rfl) ?_
    refine pl_iald (pc := 169) (n := 2132) dX9_count_169 (mm_a hA 1 (by decide) (by decide)) (by omega) (by decide) ?_
    refine pj_iret (pc := 170) dX9_count_170 rfl ?_
    exact ⟨vIe (by simp [p_count, c6_0, c6_1, c6_2, c6_3, c6_4, c6_5, c6_6, c6_7, c6_8, c6_9, eq_true c6_10]) rfl, congrArg (mm g ad μ) (by simp [p_count, c6_0, c6_1, c6_2, c6_3, c6_4, c6_5, c6_6, c6_7, c6_8, c6_9, eq_true c6_10])⟩
  refine pl_tsw (pc := 6) 11 (tgt := 171) dX9_count_6 (by rfl) (by decide) (by decide) (by rfl) (by decide) (fun c6_11 => ?_) (fun c6_11 => ?_)
  · refine pl_aload_n (pc := 171) dX9_count_171 rfl rfl ?_
    refine pj_getf (pc := 172) ckX9 1 q2517 dX9_count_172 (by decide) (mm_o hA) rfl ?_
    refine pl_sipush (pc := 175) (v := 2128) dX9_count_175 (by rfl) ?_
    refine pl_iald (pc := 178) (n := 2132) dX9_count_178 (mm_a hA 1 (by decide) (by decide)) (by omega) (by decide) ?_
    refine pj_iret (pc := 179) dX9_count_179 rfl ?_
    exact ⟨vIe (by simp [p_count, c6_0, c6_1, c6_2, c6_3, c6_4, c6_5, c6_6, c6_7, c6_8, c6_9, c6_10, eq_true c6_11]) rfl, congrArg (mm g ad μ) (by simp [p_count, c6_0, c6_1, c6_2, c6_3, c6_4, c6_5, c6_6, c6_7, c6_8, c6_9, c6_10, eq_true c6_11])⟩
  refine pl_tsw (pc := 6) 12 (tgt := 180) dX9_count_6 (by rfl) (by decide) (by decide) (by rfl) (by decide) (fun c6_12 => ?_) (fun c6_12 => ?_)
  · refine pl_aload_n (pc := 180) dX9_count_180 rfl rfl ?_
    refine pj_getf (pc := 181) ckX9 1 q2517 dX9_count_181 (by decide) (mm_o hA) rfl ?_
    refine pl_sipush (pc := 184) (v := 2123) dX9_count_184 (by rfl) ?_
    refine pl_iald (pc := 187) (n := 2132) dX9_count_187 (mm_a hA 1 (by decide) (by decide)) (by omega) (by decide) ?_
    refine pj_iret (pc := 188) dX9_count_188 rfl ?_
    exact ⟨vIe (by simp [p_count, c6_0, c6_1, c6_2, c6_3, c6_4, c6_5, c6_6, c6_7, c6_8, c6_9, c6_10, c6_11, eq_true c6_12]) rfl, congrArg (mm g ad μ) (by simp [p_count, c6_0, c6_1, c6_2, c6_3, c6_4, c6_5, c6_6, c6_7, c6_8, c6_9, c6_10, c6_11, eq_true c6_12])⟩
  refine pl_tsw (pc := 6) 13 (tgt := 189) dX9_count_6 (by rfl) (by decide) (by decide) (by rfl) (by decide) (fun c6_13 => ?_) (fun c6_13 => ?_)
  · refine pl_aload_n (pc := 189) dX9_count_189 rfl rfl ?_
    refine pj_getf (pc := 190) ckX9 9 q2525 dX9_count_190 (by decide) (mm_o hA) rfl ?_
    refine pj_iret (pc := 193) dX9_count_193 rfl ?_
    exact ⟨vIe (by simp [p_count, c6_0, c6_1, c6_2, c6_3, c6_4, c6_5, c6_6, c6_7, c6_8, c6_9, c6_10, c6_11, c6_12, eq_true c6_13]) rfl, congrArg (mm g ad μ) (by simp [p_count, c6_0, c6_1, c6_2, c6_3, c6_4, c6_5, c6_6, c6_7, c6_8, c6_9, c6_10, c6_11, c6_12, eq_true c6_13])⟩
  refine pl_tsw (pc := 6) 14 (tgt := 194) dX9_count_6 (by rfl) (by decide) (by decide) (by rfl) (by decide) (fun c6_14 => ?_) (fun c6_14 => ?_)
  · refine pl_aload_n (pc := 194) dX9_count_194 rfl rfl ?_
    refine pj_getf (pc := 195) ckX9 1 q2517 dX9_count_195 (by decide) (mm_o hA) rfl ?_
    refine pl_sipush (pc := 198) (v := 2131) dX9_count_198 (by rfl) ?_
    refine pl_iald (pc := 201) (n := 2132) dX9_count_201 (mm_a hA 1 (by decide) (by decide)) (by omega) (by decide) ?_
    refine pj_iret (pc := 202) dX9_count_202 rfl ?_
    exact ⟨vIe (by simp [p_count, c6_0, c6_1, c6_2, c6_3, c6_4, c6_5, c6_6, c6_7, c6_8, c6_9, c6_10, c6_11, c6_12, c6_13, eq_true c6_14]) rfl, congrArg (mm g ad μ) (by simp [p_count, c6_0, c6_1, c6_2, c6_3, c6_4, c6_5, c6_6, c6_7, c6_8, c6_9, c6_10, c6_11, c6_12, c6_13, eq_true c6_14])⟩
  refine pj_tableOut (pc := 6) (tgt := 203) dX9_count_6 (by have q0 := nI_nec c6_0; have q1 := nI_nec c6_1; have q2 := nI_nec c6_2; have q3 := nI_nec c6_3; have q4 := nI_nec c6_4; have q5 := nI_nec c6_5; have q6 := nI_nec c6_6; have q7 := nI_nec c6_7; have q8 := nI_nec c6_8; have q9 := nI_nec c6_9; have q10 := nI_nec c6_10; have q11 := nI_nec c6_11; have q12 := nI_nec c6_12; have q13 := nI_nec c6_13; have q14 := nI_nec c6_14; omega) (by decide) ?_
  refine pj_iconst (pc := 203) (v := (-1)) dX9_count_203 (by rfl) ?_
  refine pj_iret (pc := 204) dX9_count_204 rfl ?_
  exact ⟨vIe (by simp [p_count, c6_0, c6_1, c6_2, c6_3, c6_4, c6_5, c6_6, c6_7, c6_8, c6_9, c6_10, c6_11, c6_12, c6_13, c6_14]) rfl, congrArg (mm g ad μ) (by simp [p_count, c6_0, c6_1, c6_2, c6_3, c6_4, c6_5, c6_6, c6_7, c6_8, c6_9, c6_10, c6_11, c6_12, c6_13, c6_14])⟩
set_option maxHeartbeats 4000000 in
theorem w_X9_number {g : GP} {ad : Nat → Nat} {μ : Mem} {σ : MS} {d : Nat} {k : Int32} {im : Nat} (hd : 1 ≤ d) (hA : Inj ad 18) (him : σ.1 31 = nI im) (hIM : im ≤ 196) : PM g yX9_number (ws_ yX9_number cX9_number 2 (some .int)) d 0 0 [.ref (ad 0), .int k] (mm g ad μ σ) (rQ (some (.int ((p_number σ k).1))) (mm g ad μ ((p_number σ k).2))) := by
  refine PM.of (by decide +kernel) (Nat.le_of_ble_eq_true rfl) ?_
  show PJ g _ _ _ _ d 0 0 0 [(0, .ref (ad 0)), (1, .int k)] [] _ _
  refine pl_aload_n (pc := 0) dX9_number_0 rfl rfl ?_
  refine pl_iconst (pc := 1) (v := 0) dX9_number_1 (by rfl) ?_
  refine pm_putI (pc := 2) 0 hA q2516 dX9_number_2 (by decide) rfl (by rfl) (by rfl) rfl ?_
  refine pl_iload_n (pc := 5) dX9_number_5 rfl rfl ?_
  refine pj_if_lt (pc := 6) (tgt := 26) dX9_number_6 (by decide) (fun c6 => ?_) (fun c6 => ?_)
  · refine pj_iconst (pc := 26) (v := (-1)) dX9_number_26 (by rfl) ?_
    refine pj_iret (pc := 27) dX9_number_27 rfl ?_
    exact ⟨vIe (by simp [p_number, c6]) rfl, congrArg (mm g ad μ) (by simp [p_number, c6])⟩
  · refine pl_iload_n (pc := 9) dX9_number_9 rfl rfl ?_
    refine pl_aload_n (pc := 10) dX9_number_10 rfl rfl ?_
    refine pj_getf (pc := 11) ckX9 31 q2547 dX9_number_11 (by decide) (mm_o hA) rfl ?_
    refine pj_icmp_ge (pc := 14) (tgt := 26) dX9_number_14 (by decide) (fun c14 => ?_) (fun c14 => ?_)
    · refine pj_iconst (pc := 26) (v := (-1)) dX9_number_26 (by rfl) ?_
      refine pj_iret (pc := 27) dX9_number_27 rfl ?_
      exact ⟨vIe (by simp [p_number, c6, c14]) rfl, congrArg (mm g ad μ) (by simp [p_number, c6, c14])⟩
    · obtain ⟨j_k, hj_k, rfl⟩ := inN_of (n := im) (by omega) (inN_ok c6 (by have := c14; rw [show (sF σ 0 (nI 0)).1 31 = nI im from him] at this; exact this))
      have f_k := inN_nI hj_k (by omega)
      have g_k := nI_clamp (n := j_k) (by omega)
      refine pl_aload_n (pc := 17) dX9_number_17 rfl rfl ?_
      refine pj_getf (pc := 18) ckX9 30 q2546 dX9_number_18 (by decide) (mm_o hA) rfl ?_
      refine pl_iload_n (pc := 21) dX9_number_21 rfl rfl ?_
      refine pl_iald (pc := 22) (n := 196) dX9_number_22 (mm_a hA 17 (by decide) (by decide)) (by omega) (by decide) ?_
      refine pj_goto (pc := 23) (tgt := 27) dX9_number_23 (by decide) ?_
      refine pj_iret (pc := 27) dX9_number_27 rfl ?_
      exact ⟨vIe (by simp [p_number, c6, c14, f_k, g_k]) rfl, congrArg (mm g ad μ) (by simp [p_number, c6, c14, f_k, g_k])⟩
set_option maxHeartbeats 4000000 in
theorem w_X9_prices {g : GP} {ad : Nat → Nat} {μ : Mem} {σ : MS} {d : Nat} {a : Int32} {b : Int32} {c : Int32}  (hd : 2 ≤ d) (hA : Inj ad 18) : PM g yX9_prices (ws_ yX9_prices cX9_prices 4 none) d 0 0 [.ref (ad 0), .int a, .int b, .int c] (mm g ad μ σ) (rQ none (mm g ad μ (p_prices σ a b c))) := by
  refine PM.of (by decide +kernel) (Nat.le_of_ble_eq_true rfl) ?_
  show PJ g _ _ _ _ d 0 0 0 [(0, .ref (ad 0)), (1, .int a), (2, .int b), (3, .int c)] [] _ _
  refine pl_aload_n (pc := 0) dX9_prices_0 rfl rfl ?_
  refine pl_iconst (pc := 1) (v := 0) dX9_prices_1 (by rfl) ?_
  refine pm_putI (pc := 2) 0 hA q2516 dX9_prices_2 (by decide) rfl (by rfl) (by rfl) rfl ?_
  refine pl_aload_n (pc := 5) dX9_prices_5 rfl rfl ?_
  refine pl_iload_n (pc := 6) dX9_prices_6 rfl rfl ?_
  refine pl_iconst (pc := 7) (v := 1) dX9_prices_7 (by rfl) ?_
  refine pj_icmp_lt (pc := 8) (tgt := 42) dX9_prices_8 (by decide) (fun c8 => ?_) (fun c8 => ?_)
  · refine pl_iconst (pc := 42) (v := 1) dX9_prices_42 (by rfl) ?_
    refine pj_goto (pc := 43) (tgt := 47) dX9_prices_43 (by decide) ?_
    refine pl_iconst (pc := 47) (v := 1) dX9_prices_47 (by rfl) ?_
    refine pl_callVd (pc := 48) (As := [_, _]) (C2 := 0) (N2 := 0) ckX9 mdX9_bad rfl q2631 q2633 qs50 q154 dX9_prices_48 rfl rfl (Nat.le_of_ble_eq_true rfl) (mm_o hA) (w_bad_1 (d := d - 1) (by omega) hA) (by omega) (by decide) (by decide) ?_
    refine pj_if_eq (pc := 51) (tgt := 55) dX9_prices_51 (by decide) (fun h => absurd h (by decide)) (fun _ => ?_)
    refine pj_vret (pc := 54) dX9_prices_54 rfl ?_
    exact ⟨rfl, congrArg (mm g ad μ) (by simp [p_prices, c8])⟩
  · refine pl_iload_n (pc := 11) dX9_prices_11 rfl rfl ?_
    refine pl_sipush (pc := 12) (v := 1000) dX9_prices_12 (by rfl) ?_
    refine pj_icmp_gt (pc := 15) (tgt := 42) dX9_prices_15 (by decide) (fun c15 => ?_) (fun c15 => ?_)
    · refine pl_iconst (pc := 42) (v := 1) dX9_prices_42 (by rfl) ?_
      refine pj_goto (pc := 43) (tgt := 47) dX9_prices_43 (by decide) ?_
      refine pl_iconst (pc := 47) (v := 1) dX9_prices_47 (by rfl) ?_
      refine pl_callVd (pc := 48) (As := [_, _]) (C2 := 0) (N2 := 0) ckX9 mdX9_bad rfl q2631 q2633 qs50 q154 dX9_prices_48 rfl rfl (Nat.le_of_ble_eq_true rfl) (mm_o hA) (w_bad_1 (d := d - 1) (by omega) hA) (by omega) (by decide) (by decide) ?_
      refine pj_if_eq (pc := 51) (tgt := 55) dX9_prices_51 (by decide) (fun h => absurd h (by decide)) (fun _ => ?_)
      refine pj_vret (pc := 54) dX9_prices_54 rfl ?_
      exact ⟨rfl, congrArg (mm g ad μ) (by simp [p_prices, c8, c15])⟩
    · refine pl_iload_n (pc := 18) dX9_prices_18 rfl rfl ?_
      refine pl_iconst (pc := 19) (v := 1) dX9_prices_19 (by rfl) ?_
      refine pj_icmp_lt (pc := 20) (tgt := 42) dX9_prices_20 (by decide) (fun c20 => ?_) (fun c20 => ?_)
      · refine pl_iconst (pc := 42) (v := 1) dX9_prices_42 (by rfl) ?_
        refine pj_goto (pc := 43) (tgt := 47) dX9_prices_43 (by decide) ?_
        refine pl_iconst (pc := 47) (v := 1) dX9_prices_47 (by rfl) ?_
        refine pl_callVd (pc := 48) (As := [_, _]) (C2 := 0) (N2 := 0) ckX9 mdX9_bad rfl q2631 q2633 qs50 q154 dX9_prices_48 rfl rfl (Nat.le_of_ble_eq_true rfl) (mm_o hA) (w_bad_1 (d := d - 1) (by omega) hA) (by omega) (by decide) (by decide) ?_
        refine pj_if_eq (pc := 51) (tgt := 55) dX9_prices_51 (by decide) (fun h => absurd h (by decide)) (fun _ => ?_)
        refine pj_vret (pc := 54) dX9_prices_54 rfl ?_
        exact ⟨rfl, congrArg (mm g ad μ) (by simp [p_prices, c8, c15, c20])⟩
      · refine pl_iload_n (pc := 23) dX9_prices_23 rfl rfl ?_
        refine pl_sipush (pc := 24) (v := 1000) dX9_prices_24 (by rfl) ?_
        refine pj_icmp_gt (pc := 27) (tgt := 42) dX9_prices_27 (by decide) (fun c27 => ?_) (fun c27 => ?_)
        · refine pl_iconst (pc := 42) (v := 1) dX9_prices_42 (by rfl) ?_
          refine pj_goto (pc := 43) (tgt := 47) dX9_prices_43 (by decide) ?_
          refine pl_iconst (pc := 47) (v := 1) dX9_prices_47 (by rfl) ?_
          refine pl_callVd (pc := 48) (As := [_, _]) (C2 := 0) (N2 := 0) ckX9 mdX9_bad rfl q2631 q2633 qs50 q154 dX9_prices_48 rfl rfl (Nat.le_of_ble_eq_true rfl) (mm_o hA) (w_bad_1 (d := d - 1) (by omega) hA) (by omega) (by decide) (by decide) ?_
          refine pj_if_eq (pc := 51) (tgt := 55) dX9_prices_51 (by decide) (fun h => absurd h (by decide)) (fun _ => ?_)
          refine pj_vret (pc := 54) dX9_prices_54 rfl ?_
          exact ⟨rfl, congrArg (mm g ad μ) (by simp [p_prices, c8, c15, c20, c27])⟩
        · refine pl_iload_n (pc := 30) dX9_prices_30 rfl rfl ?_
          refine pl_iconst (pc := 31) (v := 1) dX9_prices_31 (by rfl) ?_
          refine pj_icmp_lt (pc := 32) (tgt := 42) dX9_prices_32 (by decide) (fun c32 => ?_) (fun c32 => ?_)
          · refine pl_iconst (pc := 42) (v := 1) dX9_prices_42 (by rfl) ?_
            refine pj_goto (pc := 43) (tgt := 47) dX9_prices_43 (by decide) ?_
            refine pl_iconst (pc := 47) (v := 1) dX9_prices_47 (by rfl) ?_
            refine pl_callVd (pc := 48) (As := [_, _]) (C2 := 0) (N2 := 0) ckX9 mdX9_bad rfl q2631 q2633 qs50 q154 dX9_prices_48 rfl rfl (Nat.le_of_ble_eq_true rfl) (mm_o hA) (w_bad_1 (d := d - 1) (by omega) hA) (by omega) (by decide) (by decide) ?_
            refine pj_if_eq (pc := 51) (tgt := 55) dX9_prices_51 (by decide) (fun h => absurd h (by decide)) (fun _ => ?_)
            refine pj_vret (pc := 54) dX9_prices_54 rfl ?_
            exact ⟨rfl, congrArg (mm g ad μ) (by simp [p_prices, c8, c15, c20, c27, c32])⟩
          · refine pl_iload_n (pc := 35) dX9_prices_35 rfl rfl ?_
            refine pl_sipush (pc := 36) (v := 1000) dX9_prices_36 (by rfl) ?_
            refine pj_icmp_le (pc := 39) (tgt := 46) dX9_prices_39 (by decide) (fun c39 => ?_) (fun c39 => ?_)
            · refine pl_iconst (pc := 46) (v := 0) dX9_prices_46 (by rfl) ?_
              refine pl_iconst (pc := 47) (v := 1) dX9_prices_47 (by rfl) ?_
              refine pl_callVd (pc := 48) (As := [_, _]) (C2 := 0) (N2 := 0) ckX9 mdX9_bad rfl q2631 q2633 qs50 q154 dX9_prices_48 rfl rfl (Nat.le_of_ble_eq_true rfl) (mm_o hA) (w_bad_0 (d := d - 1) (by omega) hA) (by omega) (by decide) (by decide) ?_
              refine pj_if_eq (pc := 51) (tgt := 55) dX9_prices_51 (by decide) (fun _ => ?_) (fun h => absurd h (by decide))
              refine pl_aload_n (pc := 55) dX9_prices_55 rfl rfl ?_
              refine pl_iconst (pc := 56) (v := 1) dX9_prices_56 (by rfl) ?_
              refine pm_putI (pc := 57) 28 hA q2544 dX9_prices_57 (by decide) rfl (by rfl) (by rfl) rfl ?_
              refine pl_aload_n (pc := 60) dX9_prices_60 rfl rfl ?_
              refine pj_getf (pc := 61) ckX9 26 q2542 dX9_prices_61 (by decide) (mm_o hA) rfl ?_
              refine pl_iconst (pc := 64) (v := 0) dX9_prices_64 (by rfl) ?_
              refine pl_iload_n (pc := 65) dX9_prices_65 rfl rfl ?_
              refine pm_iast (pc := 66) 15 hA (by decide) (by decide) rfl dX9_prices_66 (show _ < 3 by omega) (by decide) ?_
              refine pl_aload_n (pc := 67) dX9_prices_67 rfl rfl ?_
              refine pj_getf (pc := 68) ckX9 26 q2542 dX9_prices_68 (by decide) (mm_o hA) rfl ?_
              refine pl_iconst (pc := 71) (v := 1) dX9_prices_71 (by rfl) ?_
              refine pl_iload_n (pc := 72) dX9_prices_72 rfl rfl ?_
              refine pm_iast (pc := 73) 15 hA (by decide) (by decide) rfl dX9_prices_73 (show _ < 3 by omega) (by decide) ?_
              refine pl_aload_n (pc := 74) dX9_prices_74 rfl rfl ?_
              refine pj_getf (pc := 75) ckX9 26 q2542 dX9_prices_75 (by decide) (mm_o hA) rfl ?_
              refine pl_iconst (pc := 78) (v := 2) dX9_prices_78 (by rfl) ?_
              refine pl_iload_n (pc := 79) dX9_prices_79 rfl rfl ?_
              refine pm_iast (pc := 80) 15 hA (by decide) (by decide) rfl dX9_prices_80 (show _ < 3 by omega) (by decide) ?_
              refine pj_vret (pc := 81) dX9_prices_81 rfl ?_
              exact ⟨rfl, congrArg (mm g ad μ) (by simp [p_prices, c8, c15, c20, c27, c32, c39])⟩
            · refine pl_iconst (pc := 42) (v := 1) dX9_prices_42 (by rfl) ?_
              refine pj_goto (pc := 43) (tgt := 47) dX9_prices_43 (by decide) ?_
              refine pl_iconst (pc := 47) (v := 1) dX9_prices_47 (by rfl) ?_
              refine pl_callVd (pc := 48) (As := [_, _]) (C2 := 0) (N2 := 0) ckX9 mdX9_bad rfl q2631 q2633 qs50 q154 dX9_prices_48 rfl rfl (Nat.le_of_ble_eq_true rfl) (mm_o hA) (w_bad_1 (d := d - 1) (by omega) hA) (by omega) (by decide) (by decide) ?_
              refine pj_if_eq (pc := 51) (tgt := 55) dX9_prices_51 (by decide) (fun h => absurd h (by decide)) (fun _ => ?_)
              refine pj_vret (pc := 54) dX9_prices_54 rfl ?_
              exact ⟨rfl, congrArg (mm g ad μ) (by simp [p_prices, c8, c15, c20, c27, c32, c39])⟩
set_option maxHeartbeats 4000000 in
theorem w_X9_isRain {g : GP} {μ : Mem} {d : Nat} {v : Int32}  (hd : 1 ≤ d) : PM g yX9_isRain (ws_ yX9_isRain cX9_isRain 1 (some .boolean)) d 0 0 [.int v] μ (rQ (some (.int (bI (isRainV v)))) μ) := by
  refine PM.of (by decide +kernel) (Nat.le_of_ble_eq_true rfl) ?_
  show PJ g _ _ _ _ d 0 0 0 [(0, .int v)] [] _ _
  refine pl_iload_n (pc := 0) dX9_isRain_0 rfl rfl ?_
  refine pj_if_lt (pc := 1) (tgt := 15) dX9_isRain_1 (by decide) (fun c1 => ?_) (fun c1 => ?_)
  · refine pl_iconst (pc := 15) (v := 0) dX9_isRain_15 (by rfl) ?_
    refine pj_zret (pc := 16) .boolean dX9_isRain_16 rfl (by rfl) ?_
    exact ⟨vB0 (by simp [isRainV, c1]), rfl⟩
  · refine pl_iload_n (pc := 4) dX9_isRain_4 rfl rfl ?_
    refine pl_sipush (pc := 5) (v := 500) dX9_isRain_5 (by rfl) ?_
    refine pj_icmp_gt (pc := 8) (tgt := 15) dX9_isRain_8 (by decide) (fun c8 => ?_) (fun c8 => ?_)
    · refine pl_iconst (pc := 15) (v := 0) dX9_isRain_15 (by rfl) ?_
      refine pj_zret (pc := 16) .boolean dX9_isRain_16 rfl (by rfl) ?_
      exact ⟨vB0 (by simp [isRainV, c1, c8]), rfl⟩
    · refine pl_iconst (pc := 11) (v := 1) dX9_isRain_11 (by rfl) ?_
      refine pj_goto (pc := 12) (tgt := 16) dX9_isRain_12 (by decide) ?_
      refine pj_zret (pc := 16) .boolean dX9_isRain_16 rfl (by rfl) ?_
      exact ⟨vB1 (by simp [isRainV, c1, c8]), rfl⟩
set_option maxHeartbeats 4000000 in
theorem w_X9_worst {g : GP} {ad : Nat → Nat} {μ : Mem} {σ : MS} {d : Nat} {n : Int32} {a : Int32} {b : Int32} {c : Int32}  (hd : 2 ≤ d) (hA : Inj ad 18) : PM g yX9_worst (ws_ yX9_worst cX9_worst 5 none) d 0 0 [.ref (ad 0), .int n, .int a, .int b, .int c] (mm g ad μ σ) (rQ none (mm g ad μ (p_worst σ n a b c))) := by
  refine PM.of (by decide +kernel) (Nat.le_of_ble_eq_true rfl) ?_
  show PJ g _ _ _ _ d 0 0 0 [(0, .ref (ad 0)), (1, .int n), (2, .int a), (3, .int b), (4, .int c)] [] _ _
  refine pl_aload_n (pc := 0) dX9_worst_0 rfl rfl ?_
  refine pl_iconst (pc := 1) (v := 0) dX9_worst_1 (by rfl) ?_
  refine pm_putI (pc := 2) 0 hA q2516 dX9_worst_2 (by decide) rfl (by rfl) (by rfl) rfl ?_
  refine pl_aload_n (pc := 5) dX9_worst_5 rfl rfl ?_
  refine pl_iload_n (pc := 6) dX9_worst_6 rfl rfl ?_
  refine pl_iconst (pc := 7) (v := 1) dX9_worst_7 (by rfl) ?_
  refine pj_icmp_lt (pc := 8) (tgt := 38) dX9_worst_8 (by decide) (fun c8 => ?_) (fun c8 => ?_)
  · refine pl_iconst (pc := 38) (v := 1) dX9_worst_38 (by rfl) ?_
    refine pj_goto (pc := 39) (tgt := 43) dX9_worst_39 (by decide) ?_
    refine pl_iconst (pc := 43) (v := 1) dX9_worst_43 (by rfl) ?_
    refine pl_callVd (pc := 44) (As := [_, _]) (C2 := 0) (N2 := 0) ckX9 mdX9_bad rfl q2631 q2633 qs50 q154 dX9_worst_44 rfl rfl (Nat.le_of_ble_eq_true rfl) (mm_o hA) (w_bad_1 (d := d - 1) (by omega) hA) (by omega) (by decide) (by decide) ?_
    refine pj_if_eq (pc := 47) (tgt := 51) dX9_worst_47 (by decide) (fun h => absurd h (by decide)) (fun _ => ?_)
    refine pj_vret (pc := 50) dX9_worst_50 rfl ?_
    exact ⟨rfl, congrArg (mm g ad μ) (by simp [p_worst, c8])⟩
  · refine pl_iload_n (pc := 11) dX9_worst_11 rfl rfl ?_
    refine pl_iconst (pc := 12) (v := 3) dX9_worst_12 (by rfl) ?_
    refine pj_icmp_gt (pc := 13) (tgt := 38) dX9_worst_13 (by decide) (fun c13 => ?_) (fun c13 => ?_)
    · refine pl_iconst (pc := 38) (v := 1) dX9_worst_38 (by rfl) ?_
      refine pj_goto (pc := 39) (tgt := 43) dX9_worst_39 (by decide) ?_
      refine pl_iconst (pc := 43) (v := 1) dX9_worst_43 (by rfl) ?_
      refine pl_callVd (pc := 44) (As := [_, _]) (C2 := 0) (N2 := 0) ckX9 mdX9_bad rfl q2631 q2633 qs50 q154 dX9_worst_44 rfl rfl (Nat.le_of_ble_eq_true rfl) (mm_o hA) (w_bad_1 (d := d - 1) (by omega) hA) (by omega) (by decide) (by decide) ?_
      refine pj_if_eq (pc := 47) (tgt := 51) dX9_worst_47 (by decide) (fun h => absurd h (by decide)) (fun _ => ?_)
      refine pj_vret (pc := 50) dX9_worst_50 rfl ?_
      exact ⟨rfl, congrArg (mm g ad μ) (by simp [p_worst, c8, c13])⟩
    · refine pl_iload_n (pc := 16) dX9_worst_16 rfl rfl ?_
      refine pl_callSd (pc := 17) (As := [_]) (C2 := 0) (N2 := 0) mdX9_isRain q3170 q3171 q154 dX9_worst_17 rfl rfl (Nat.le_of_ble_eq_true rfl) (w_X9_isRain (d := d - 1) (by omega)) (by omega) (by decide) (by decide) ?_
      refine pl_if_eqB (pc := 20) (tgt := 38) dX9_worst_20 (by decide) (fun c20 => ?_) (fun c20 => ?_)
      · refine pl_iconst (pc := 38) (v := 1) dX9_worst_38 (by rfl) ?_
        refine pj_goto (pc := 39) (tgt := 43) dX9_worst_39 (by decide) ?_
        refine pl_iconst (pc := 43) (v := 1) dX9_worst_43 (by rfl) ?_
        refine pl_callVd (pc := 44) (As := [_, _]) (C2 := 0) (N2 := 0) ckX9 mdX9_bad rfl q2631 q2633 qs50 q154 dX9_worst_44 rfl rfl (Nat.le_of_ble_eq_true rfl) (mm_o hA) (w_bad_1 (d := d - 1) (by omega) hA) (by omega) (by decide) (by decide) ?_
        refine pj_if_eq (pc := 47) (tgt := 51) dX9_worst_47 (by decide) (fun h => absurd h (by decide)) (fun _ => ?_)
        refine pj_vret (pc := 50) dX9_worst_50 rfl ?_
        exact ⟨rfl, congrArg (mm g ad μ) (by simp [p_worst, c8, c13, c20])⟩
      · refine pl_iload_n (pc := 23) dX9_worst_23 rfl rfl ?_
        refine pl_callSd (pc := 24) (As := [_]) (C2 := 0) (N2 := 0) mdX9_isRain q3170 q3171 q154 dX9_worst_24 rfl rfl (Nat.le_of_ble_eq_true rfl) (w_X9_isRain (d := d - 1) (by omega)) (by omega) (by decide) (by decide) ?_
        refine pl_if_eqB (pc := 27) (tgt := 38) dX9_worst_27 (by decide) (fun c27 => ?_) (fun c27 => ?_)
        · refine pl_iconst (pc := 38) (v := 1) dX9_worst_38 (by rfl) ?_
          refine pj_goto (pc := 39) (tgt := 43) dX9_worst_39 (by decide) ?_
          refine pl_iconst (pc := 43) (v := 1) dX9_worst_43 (by rfl) ?_
          refine pl_callVd (pc := 44) (As := [_, _]) (C2 := 0) (N2 := 0) ckX9 mdX9_bad rfl q2631 q2633 qs50 q154 dX9_worst_44 rfl rfl (Nat.le_of_ble_eq_true rfl) (mm_o hA) (w_bad_1 (d := d - 1) (by omega) hA) (by omega) (by decide) (by decide) ?_
          refine pj_if_eq (pc := 47) (tgt := 51) dX9_worst_47 (by decide) (fun h => absurd h (by decide)) (fun _ => ?_)
          refine pj_vret (pc := 50) dX9_worst_50 rfl ?_
          exact ⟨rfl, congrArg (mm g ad μ) (by simp [p_worst, c8, c13, c20, c27])⟩
        · refine pl_iload (pc := 30) dX9_worst_30 rfl ?_
          refine pl_callSd (pc := 32) (As := [_]) (C2 := 0) (N2 := 0) mdX9_isRain q3170 q3171 q154 dX9_worst_32 rfl rfl (Nat.le_of_ble_eq_true rfl) (w_X9_isRain (d := d - 1) (by omega)) (by omega) (by decide) (by decide) ?_
          refine pl_if_neB (pc := 35) (tgt := 42) dX9_worst_35 (by decide) (fun c35 => ?_) (fun c35 => ?_)
          · refine pl_iconst (pc := 42) (v := 0) dX9_worst_42 (by rfl) ?_
            refine pl_iconst (pc := 43) (v := 1) dX9_worst_43 (by rfl) ?_
            refine pl_callVd (pc := 44) (As := [_, _]) (C2 := 0) (N2 := 0) ckX9 mdX9_bad rfl q2631 q2633 qs50 q154 dX9_worst_44 rfl rfl (Nat.le_of_ble_eq_true rfl) (mm_o hA) (w_bad_0 (d := d - 1) (by omega) hA) (by omega) (by decide) (by decide) ?_
            refine pj_if_eq (pc := 47) (tgt := 51) dX9_worst_47 (by decide) (fun _ => ?_) (fun h => absurd h (by decide))
            refine pl_aload_n (pc := 51) dX9_worst_51 rfl rfl ?_
            refine pl_iload_n (pc := 52) dX9_worst_52 rfl rfl ?_
            refine pm_putI (pc := 53) 29 hA q2545 dX9_worst_53 (by decide) rfl (by rfl) (by rfl) rfl ?_
            refine pl_aload_n (pc := 56) dX9_worst_56 rfl rfl ?_
            refine pj_getf (pc := 57) ckX9 27 q2543 dX9_worst_57 (by decide) (mm_o hA) rfl ?_
            refine pl_iconst (pc := 60) (v := 0) dX9_worst_60 (by rfl) ?_
            refine pl_iload_n (pc := 61) dX9_worst_61 rfl rfl ?_
            refine pm_iast (pc := 62) 16 hA (by decide) (by decide) rfl dX9_worst_62 (show _ < 3 by omega) (by decide) ?_
            refine pl_aload_n (pc := 63) dX9_worst_63 rfl rfl ?_
            refine pj_getf (pc := 64) ckX9 27 q2543 dX9_worst_64 (by decide) (mm_o hA) rfl ?_
            refine pl_iconst (pc := 67) (v := 1) dX9_worst_67 (by rfl) ?_
            refine pl_iload_n (pc := 68) dX9_worst_68 rfl rfl ?_
            refine pm_iast (pc := 69) 16 hA (by decide) (by decide) rfl dX9_worst_69 (show _ < 3 by omega) (by decide) ?_
            refine pl_aload_n (pc := 70) dX9_worst_70 rfl rfl ?_
            refine pj_getf (pc := 71) ckX9 27 q2543 dX9_worst_71 (by decide) (mm_o hA) rfl ?_
            refine pl_iconst (pc := 74) (v := 2) dX9_worst_74 (by rfl) ?_
            refine pl_iload (pc := 75) dX9_worst_75 rfl ?_
            refine pm_iast (pc := 77) 16 hA (by decide) (by decide) rfl dX9_worst_77 (show _ < 3 by omega) (by decide) ?_
            refine pj_vret (pc := 78) dX9_worst_78 rfl ?_
            exact ⟨rfl, congrArg (mm g ad μ) (by simp [p_worst, c8, c13, c20, c27, c35])⟩
          · refine pl_iconst (pc := 38) (v := 1) dX9_worst_38 (by rfl) ?_
            refine pj_goto (pc := 39) (tgt := 43) dX9_worst_39 (by decide) ?_
            refine pl_iconst (pc := 43) (v := 1) dX9_worst_43 (by rfl) ?_
            refine pl_callVd (pc := 44) (As := [_, _]) (C2 := 0) (N2 := 0) ckX9 mdX9_bad rfl q2631 q2633 qs50 q154 dX9_worst_44 rfl rfl (Nat.le_of_ble_eq_true rfl) (mm_o hA) (w_bad_1 (d := d - 1) (by omega) hA) (by omega) (by decide) (by decide) ?_
            refine pj_if_eq (pc := 47) (tgt := 51) dX9_worst_47 (by decide) (fun h => absurd h (by decide)) (fun _ => ?_)
            refine pj_vret (pc := 50) dX9_worst_50 rfl ?_
            exact ⟨rfl, congrArg (mm g ad μ) (by simp [p_worst, c8, c13, c20, c27, c35])⟩
