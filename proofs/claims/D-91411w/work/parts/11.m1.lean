set_option maxRecDepth 100000
def isFarmV (h : Int32) : Bool := decide (h = nI 3) || decide (h = nI 5)
def isPastV (h : Int32) : Bool := decide (h = nI 4) || decide (h = nI 6)
def isForceV (h : Int32) : Bool := decide (h = nI 2) || decide (h = nI 3)
def bandV (r : Int32) : Int32 := if r < nI 300 then nI 0 else if r < nI 600 then nI 1 else if r < nI 900 then nI 2 else if r < nI 1500 then nI 3 else nI 1
def milesV (wet : Int32) (soil : Int32) : Int32 := nI 6 + (if wet = 0 then nI 0 else nI 3) + (nI 9 - soil) / nI 3
set_option maxHeartbeats 4000000 in
theorem w_X9_thrown {g : GP} {ad : Nat → Nat} {μ : Mem} {σ : MS} {d : Nat}   (hd : 1 ≤ d) (hA : Inj ad 18) : PM g yX9_thrown (ws_ yX9_thrown cX9_thrown 1 (some .int)) d 0 0 [.ref (ad 0)] (mm g ad μ σ) (rQ (some (.int (σ.1 0))) (mm g ad μ (σ))) := by
  refine PM.of (by decide +kernel) (Nat.le_of_ble_eq_true rfl) ?_
  show PJ g _ _ _ _ d 0 0 0 [(0, .ref (ad 0))] [] _ _
  refine pl_aload_n (pc := 0) dX9_thrown_0 rfl rfl ?_
  refine pj_getf (pc := 1) ckX9 0 q2516 dX9_thrown_1 (by decide) (mm_o hA) rfl ?_
  refine pj_iret (pc := 4) dX9_thrown_4 rfl ?_
  exact ⟨rfl, rfl⟩
set_option maxHeartbeats 4000000 in
theorem w_X9_bad {g : GP} {ad : Nat → Nat} {μ : Mem} {σ : MS} {d : Nat} {b : Bool} {v : Int32}  (hd : 1 ≤ d) (hA : Inj ad 18) : PM g yX9_bad (ws_ yX9_bad cX9_bad 3 (some .boolean)) d 0 0 [.ref (ad 0), .int (bI b), .int v] (mm g ad μ σ) (rQ (some (.int (bI (b)))) (mm g ad μ (if b then sF σ 0 v else σ))) := by
  refine PM.of (by decide +kernel) (Nat.le_of_ble_eq_true rfl) ?_
  show PJ g _ _ _ _ d 0 0 0 [(0, .ref (ad 0)), (1, .int (bI b)), (2, .int v)] [] _ _
  refine pl_iload_n (pc := 0) dX9_bad_0 rfl rfl ?_
  refine pl_if_eqB (pc := 1) (tgt := 9) dX9_bad_1 (by decide) (fun c1 => ?_) (fun c1 => ?_)
  · refine pl_iload_n (pc := 9) dX9_bad_9 rfl rfl ?_
    refine pj_zret (pc := 10) .boolean dX9_bad_10 rfl (narrow_bI _) ?_
    exact ⟨rfl, by simp [*]⟩
  · refine pl_aload_n (pc := 4) dX9_bad_4 rfl rfl ?_
    refine pl_iload_n (pc := 5) dX9_bad_5 rfl rfl ?_
    refine pm_putI (pc := 6) 0 hA q2516 dX9_bad_6 (by decide) rfl (by rfl) (by rfl) rfl ?_
    refine pl_iload_n (pc := 9) dX9_bad_9 rfl rfl ?_
    refine pj_zret (pc := 10) .boolean dX9_bad_10 rfl (narrow_bI _) ?_
    exact ⟨rfl, by simp [*]⟩
set_option maxHeartbeats 4000000 in
theorem w_X9_sec {g : GP} {ad : Nat → Nat} {μ : Mem} {σ : MS} {d : Nat} {c : Nat} {w : Nat}  (hd : 1 ≤ d) (hA : Inj ad 18) (hc : c < 96) (hw : w < 8) : PM g yX9_sec (ws_ yX9_sec cX9_sec 3 (some .int)) d 0 0 [.ref (ad 0), .int (nI c), .int (nI w)] (mm g ad μ σ) (rQ (some (.int (sec σ c w))) (mm g ad μ (σ))) := by
  refine PM.of (by decide +kernel) (Nat.le_of_ble_eq_true rfl) ?_
  show PJ g _ _ _ _ d 0 0 0 [(0, .ref (ad 0)), (1, .int (nI c)), (2, .int (nI w))] [] _ _
  refine pl_aload_n (pc := 0) dX9_sec_0 rfl rfl ?_
  refine pj_getf (pc := 1) ckX9 1 q2517 dX9_sec_1 (by decide) (mm_o hA) rfl ?_
  refine pl_bipush (pc := 4) (v := 8) dX9_sec_4 (by rfl) ?_
  refine pl_iload_n (pc := 6) dX9_sec_6 rfl rfl ?_
  refine pl_imul (pc := 7) dX9_sec_7 ?_
  refine pl_iload_n (pc := 8) dX9_sec_8 rfl rfl ?_
  refine pl_iadd (pc := 9) dX9_sec_9 ?_
  refine pl_iald (pc := 10) (n := 2132) dX9_sec_10 (mm_a hA 1 (by decide) (by decide)) (by omega) (by decide) ?_
  refine pj_iret (pc := 11) dX9_sec_11 rfl ?_
  exact ⟨rfl, rfl⟩
set_option maxHeartbeats 4000000 in
theorem w_X9_per {g : GP} {ad : Nat → Nat} {μ : Mem} {σ : MS} {d : Nat} {p : Nat} {w : Nat}  (hd : 1 ≤ d) (hA : Inj ad 18) (hp : p < 100) (hw : w < 8) : PM g yX9_per (ws_ yX9_per cX9_per 3 (some .int)) d 0 0 [.ref (ad 0), .int (nI p), .int (nI w)] (mm g ad μ σ) (rQ (some (.int (per σ p w))) (mm g ad μ (σ))) := by
  refine PM.of (by decide +kernel) (Nat.le_of_ble_eq_true rfl) ?_
  show PJ g _ _ _ _ d 0 0 0 [(0, .ref (ad 0)), (1, .int (nI p)), (2, .int (nI w))] [] _ _
  refine pl_aload_n (pc := 0) dX9_per_0 rfl rfl ?_
  refine pj_getf (pc := 1) ckX9 1 q2517 dX9_per_1 (by decide) (mm_o hA) rfl ?_
  refine pl_sipush (pc := 4) (v := 768) dX9_per_4 (by rfl) ?_
  refine pl_bipush (pc := 7) (v := 8) dX9_per_7 (by rfl) ?_
  refine pl_iload_n (pc := 9) dX9_per_9 rfl rfl ?_
  refine pl_imul (pc := 10) dX9_per_10 ?_
  refine pl_iadd (pc := 11) dX9_per_11 ?_
  refine pl_iload_n (pc := 12) dX9_per_12 rfl rfl ?_
  refine pl_iadd (pc := 13) dX9_per_13 ?_
  refine pl_iald (pc := 14) (n := 2132) dX9_per_14 (mm_a hA 1 (by decide) (by decide)) (by omega) (by decide) ?_
  refine pj_iret (pc := 15) dX9_per_15 rfl ?_
  exact ⟨rfl, rfl⟩
set_option maxHeartbeats 4000000 in
theorem w_X9_setPer {g : GP} {ad : Nat → Nat} {μ : Mem} {σ : MS} {d : Nat} {p : Nat} {w : Nat} {v : Int32}  (hd : 1 ≤ d) (hA : Inj ad 18) (hp : p < 100) (hw : w < 8) : PM g yX9_setPer (ws_ yX9_setPer cX9_setPer 4 none) d 0 0 [.ref (ad 0), .int (nI p), .int (nI w), .int v] (mm g ad μ σ) (rQ none (mm g ad μ (sR σ (768 + 8 * p + w) v))) := by
  refine PM.of (by decide +kernel) (Nat.le_of_ble_eq_true rfl) ?_
  show PJ g _ _ _ _ d 0 0 0 [(0, .ref (ad 0)), (1, .int (nI p)), (2, .int (nI w)), (3, .int v)] [] _ _
  refine pl_aload_n (pc := 0) dX9_setPer_0 rfl rfl ?_
  refine pj_getf (pc := 1) ckX9 1 q2517 dX9_setPer_1 (by decide) (mm_o hA) rfl ?_
  refine pl_sipush (pc := 4) (v := 768) dX9_setPer_4 (by rfl) ?_
  refine pl_bipush (pc := 7) (v := 8) dX9_setPer_7 (by rfl) ?_
  refine pl_iload_n (pc := 9) dX9_setPer_9 rfl rfl ?_
  refine pl_imul (pc := 10) dX9_setPer_10 ?_
  refine pl_iadd (pc := 11) dX9_setPer_11 ?_
  refine pl_iload_n (pc := 12) dX9_setPer_12 rfl rfl ?_
  refine pl_iadd (pc := 13) dX9_setPer_13 ?_
  refine pl_iload_n (pc := 14) dX9_setPer_14 rfl rfl ?_
  refine pm_iast (pc := 15) 1 hA (by decide) (by decide) rfl dX9_setPer_15 (show _ < 2132 by omega) (by decide) ?_
  refine pj_vret (pc := 16) dX9_setPer_16 rfl ?_
  exact ⟨rfl, rfl⟩
set_option maxHeartbeats 4000000 in
theorem w_X9_ofLaw {g : GP} {ad : Nat → Nat} {μ : Mem} {σ : MS} {d : Nat} {l : Nat} {w : Nat}  (hd : 1 ≤ d) (hA : Inj ad 18) (hl : l < 12) (hw : w < 6) : PM g yX9_ofLaw (ws_ yX9_ofLaw cX9_ofLaw 3 (some .int)) d 0 0 [.ref (ad 0), .int (nI l), .int (nI w)] (mm g ad μ σ) (rQ (some (.int (lawv σ l w))) (mm g ad μ (σ))) := by
  refine PM.of (by decide +kernel) (Nat.le_of_ble_eq_true rfl) ?_
  show PJ g _ _ _ _ d 0 0 0 [(0, .ref (ad 0)), (1, .int (nI l)), (2, .int (nI w))] [] _ _
  refine pl_aload_n (pc := 0) dX9_ofLaw_0 rfl rfl ?_
  refine pj_getf (pc := 1) ckX9 1 q2517 dX9_ofLaw_1 (by decide) (mm_o hA) rfl ?_
  refine pl_sipush (pc := 4) (v := 1568) dX9_ofLaw_4 (by rfl) ?_
  refine pl_bipush (pc := 7) (v := 6) dX9_ofLaw_7 (by rfl) ?_
  refine pl_iload_n (pc := 9) dX9_ofLaw_9 rfl rfl ?_
  refine pl_imul (pc := 10) dX9_ofLaw_10 ?_
  refine pl_iadd (pc := 11) dX9_ofLaw_11 ?_
  refine pl_iload_n (pc := 12) dX9_ofLaw_12 rfl rfl ?_
  refine pl_iadd (pc := 13) dX9_ofLaw_13 ?_
  refine pl_iald (pc := 14) (n := 2132) dX9_ofLaw_14 (mm_a hA 1 (by decide) (by decide)) (by omega) (by decide) ?_
  refine pj_iret (pc := 15) dX9_ofLaw_15 rfl ?_
  exact ⟨rfl, rfl⟩
set_option maxHeartbeats 4000000 in
theorem w_X9_isSection {g : GP} {ad : Nat → Nat} {μ : Mem} {σ : MS} {d : Nat} {c : Int32}  (hd : 1 ≤ d) (hA : Inj ad 18) : PM g yX9_isSection (ws_ yX9_isSection cX9_isSection 2 (some .boolean)) d 0 0 [.ref (ad 0), .int c] (mm g ad μ σ) (rQ (some (.int (bI (inN c 96)))) (mm g ad μ (σ))) := by
  refine PM.of (by decide +kernel) (Nat.le_of_ble_eq_true rfl) ?_
  show PJ g _ _ _ _ d 0 0 0 [(0, .ref (ad 0)), (1, .int c)] [] _ _
  refine pl_iload_n (pc := 0) dX9_isSection_0 rfl rfl ?_
  refine pj_if_lt (pc := 1) (tgt := 14) dX9_isSection_1 (by decide) (fun c1 => ?_) (fun c1 => ?_)
  · refine pl_iconst (pc := 14) (v := 0) dX9_isSection_14 (by rfl) ?_
    refine pj_zret (pc := 15) .boolean dX9_isSection_15 rfl (by rfl) ?_
    exact ⟨vB0 (by first | exact inN_lt0 c1 | exact inN_ge c7 | exact inN_ok c1 c7), rfl⟩
  · refine pl_iload_n (pc := 4) dX9_isSection_4 rfl rfl ?_
    refine pl_bipush (pc := 5) (v := 96) dX9_isSection_5 (by rfl) ?_
    refine pj_icmp_ge (pc := 7) (tgt := 14) dX9_isSection_7 (by decide) (fun c7 => ?_) (fun c7 => ?_)
    · refine pl_iconst (pc := 14) (v := 0) dX9_isSection_14 (by rfl) ?_
      refine pj_zret (pc := 15) .boolean dX9_isSection_15 rfl (by rfl) ?_
      exact ⟨vB0 (by first | exact inN_lt0 c1 | exact inN_ge c7 | exact inN_ok c1 c7), rfl⟩
    · refine pl_iconst (pc := 10) (v := 1) dX9_isSection_10 (by rfl) ?_
      refine pj_goto (pc := 11) (tgt := 15) dX9_isSection_11 (by decide) ?_
      refine pj_zret (pc := 15) .boolean dX9_isSection_15 rfl (by rfl) ?_
      exact ⟨vB1 (by first | exact inN_lt0 c1 | exact inN_ge c7 | exact inN_ok c1 c7), rfl⟩
set_option maxHeartbeats 4000000 in
theorem w_X9_isZone {g : GP} {ad : Nat → Nat} {μ : Mem} {σ : MS} {d : Nat} {c : Int32}  (hd : 1 ≤ d) (hA : Inj ad 18) : PM g yX9_isZone (ws_ yX9_isZone cX9_isZone 2 (some .boolean)) d 0 0 [.ref (ad 0), .int c] (mm g ad μ σ) (rQ (some (.int (bI (inN c 4)))) (mm g ad μ (σ))) := by
  refine PM.of (by decide +kernel) (Nat.le_of_ble_eq_true rfl) ?_
  show PJ g _ _ _ _ d 0 0 0 [(0, .ref (ad 0)), (1, .int c)] [] _ _
  refine pl_iload_n (pc := 0) dX9_isZone_0 rfl rfl ?_
  refine pj_if_lt (pc := 1) (tgt := 13) dX9_isZone_1 (by decide) (fun c1 => ?_) (fun c1 => ?_)
  · refine pl_iconst (pc := 13) (v := 0) dX9_isZone_13 (by rfl) ?_
    refine pj_zret (pc := 14) .boolean dX9_isZone_14 rfl (by rfl) ?_
    exact ⟨vB0 (by first | exact inN_lt0 c1 | exact inN_ge c6 | exact inN_ok c1 c6), rfl⟩
  · refine pl_iload_n (pc := 4) dX9_isZone_4 rfl rfl ?_
    refine pl_iconst (pc := 5) (v := 4) dX9_isZone_5 (by rfl) ?_
    refine pj_icmp_ge (pc := 6) (tgt := 13) dX9_isZone_6 (by decide) (fun c6 => ?_) (fun c6 => ?_)
    · refine pl_iconst (pc := 13) (v := 0) dX9_isZone_13 (by rfl) ?_
      refine pj_zret (pc := 14) .boolean dX9_isZone_14 rfl (by rfl) ?_
      exact ⟨vB0 (by first | exact inN_lt0 c1 | exact inN_ge c6 | exact inN_ok c1 c6), rfl⟩
    · refine pl_iconst (pc := 9) (v := 1) dX9_isZone_9 (by rfl) ?_
      refine pj_goto (pc := 10) (tgt := 14) dX9_isZone_10 (by decide) ?_
      refine pj_zret (pc := 14) .boolean dX9_isZone_14 rfl (by rfl) ?_
      exact ⟨vB1 (by first | exact inN_lt0 c1 | exact inN_ge c6 | exact inN_ok c1 c6), rfl⟩
set_option maxHeartbeats 4000000 in
theorem w_X9_isPerson {g : GP} {ad : Nat → Nat} {μ : Mem} {σ : MS} {d : Nat} {c : Int32} {n : Nat} (hd : 1 ≤ d) (hA : Inj ad 18) (hn : row σ 2124 = nI n) : PM g yX9_isPerson (ws_ yX9_isPerson cX9_isPerson 2 (some .boolean)) d 0 0 [.ref (ad 0), .int c] (mm g ad μ σ) (rQ (some (.int (bI (inN c n)))) (mm g ad μ (σ))) := by
  refine PM.of (by decide +kernel) (Nat.le_of_ble_eq_true rfl) ?_
  show PJ g _ _ _ _ d 0 0 0 [(0, .ref (ad 0)), (1, .int c)] [] _ _
  refine pl_iload_n (pc := 0) dX9_isPerson_0 rfl rfl ?_
  refine pj_if_lt (pc := 1) (tgt := 20) dX9_isPerson_1 (by decide) (fun c1 => ?_) (fun c1 => ?_)
  · refine pl_iconst (pc := 20) (v := 0) dX9_isPerson_20 (by rfl) ?_
    refine pj_zret (pc := 21) .boolean dX9_isPerson_21 rfl (by rfl) ?_
    exact ⟨vB0 (by first | exact inN_lt0 c1 | exact inN_ge (by simpa only [hn] using c13) | exact inN_ok c1 (by simpa only [hn] using c13)), rfl⟩
  · refine pl_iload_n (pc := 4) dX9_isPerson_4 rfl rfl ?_
    refine pl_aload_n (pc := 5) dX9_isPerson_5 rfl rfl ?_
    refine pj_getf (pc := 6) ckX9 1 q2517 dX9_isPerson_6 (by decide) (mm_o hA) rfl ?_
    refine pl_sipush (pc := 9) (v := 2124) dX9_isPerson_9 (by rfl) ?_
    refine pl_iald (pc := 12) (n := 2132) dX9_isPerson_12 (mm_a hA 1 (by decide) (by decide)) (by omega) (by decide) ?_
    refine pj_icmp_ge (pc := 13) (tgt := 20) dX9_isPerson_13 (by decide) (fun c13 => ?_) (fun c13 => ?_)
    · refine pl_iconst (pc := 20) (v := 0) dX9_isPerson_20 (by rfl) ?_
      refine pj_zret (pc := 21) .boolean dX9_isPerson_21 rfl (by rfl) ?_
      exact ⟨vB0 (by first | exact inN_lt0 c1 | exact inN_ge (by simpa only [hn] using c13) | exact inN_ok c1 (by simpa only [hn] using c13)), rfl⟩
    · refine pl_iconst (pc := 16) (v := 1) dX9_isPerson_16 (by rfl) ?_
      refine pj_goto (pc := 17) (tgt := 21) dX9_isPerson_17 (by decide) ?_
      refine pj_zret (pc := 21) .boolean dX9_isPerson_21 rfl (by rfl) ?_
      exact ⟨vB1 (by first | exact inN_lt0 c1 | exact inN_ge (by simpa only [hn] using c13) | exact inN_ok c1 (by simpa only [hn] using c13)), rfl⟩
set_option maxHeartbeats 4000000 in
theorem w_X9_isParty {g : GP} {ad : Nat → Nat} {μ : Mem} {σ : MS} {d : Nat} {c : Int32} {n : Nat} (hd : 1 ≤ d) (hA : Inj ad 18) (hn : row σ 2127 = nI n) : PM g yX9_isParty (ws_ yX9_isParty cX9_isParty 2 (some .boolean)) d 0 0 [.ref (ad 0), .int c] (mm g ad μ σ) (rQ (some (.int (bI (inN c n)))) (mm g ad μ (σ))) := by
  refine PM.of (by decide +kernel) (Nat.le_of_ble_eq_true rfl) ?_
  show PJ g _ _ _ _ d 0 0 0 [(0, .ref (ad 0)), (1, .int c)] [] _ _
  refine pl_iload_n (pc := 0) dX9_isParty_0 rfl rfl ?_
  refine pj_if_lt (pc := 1) (tgt := 20) dX9_isParty_1 (by decide) (fun c1 => ?_) (fun c1 => ?_)
  · refine pl_iconst (pc := 20) (v := 0) dX9_isParty_20 (by rfl) ?_
    refine pj_zret (pc := 21) .boolean dX9_isParty_21 rfl (by rfl) ?_
    exact ⟨vB0 (by first | exact inN_lt0 c1 | exact inN_ge (by simpa only [hn] using c13) | exact inN_ok c1 (by simpa only [hn] using c13)), rfl⟩
  · refine pl_iload_n (pc := 4) dX9_isParty_4 rfl rfl ?_
    refine pl_aload_n (pc := 5) dX9_isParty_5 rfl rfl ?_
    refine pj_getf (pc := 6) ckX9 1 q2517 dX9_isParty_6 (by decide) (mm_o hA) rfl ?_
    refine pl_sipush (pc := 9) (v := 2127) dX9_isParty_9 (by rfl) ?_
    refine pl_iald (pc := 12) (n := 2132) dX9_isParty_12 (mm_a hA 1 (by decide) (by decide)) (by omega) (by decide) ?_
    refine pj_icmp_ge (pc := 13) (tgt := 20) dX9_isParty_13 (by decide) (fun c13 => ?_) (fun c13 => ?_)
    · refine pl_iconst (pc := 20) (v := 0) dX9_isParty_20 (by rfl) ?_
      refine pj_zret (pc := 21) .boolean dX9_isParty_21 rfl (by rfl) ?_
      exact ⟨vB0 (by first | exact inN_lt0 c1 | exact inN_ge (by simpa only [hn] using c13) | exact inN_ok c1 (by simpa only [hn] using c13)), rfl⟩
    · refine pl_iconst (pc := 16) (v := 1) dX9_isParty_16 (by rfl) ?_
      refine pj_goto (pc := 17) (tgt := 21) dX9_isParty_17 (by decide) ?_
      refine pj_zret (pc := 21) .boolean dX9_isParty_21 rfl (by rfl) ?_
      exact ⟨vB1 (by first | exact inN_lt0 c1 | exact inN_ge (by simpa only [hn] using c13) | exact inN_ok c1 (by simpa only [hn] using c13)), rfl⟩
set_option maxHeartbeats 4000000 in
theorem w_X9_isLaw {g : GP} {ad : Nat → Nat} {μ : Mem} {σ : MS} {d : Nat} {c : Int32} {n : Nat} (hd : 1 ≤ d) (hA : Inj ad 18) (hn : row σ 2125 = nI n) : PM g yX9_isLaw (ws_ yX9_isLaw cX9_isLaw 2 (some .boolean)) d 0 0 [.ref (ad 0), .int c] (mm g ad μ σ) (rQ (some (.int (bI (inN c n)))) (mm g ad μ (σ))) := by
  refine PM.of (by decide +kernel) (Nat.le_of_ble_eq_true rfl) ?_
  show PJ g _ _ _ _ d 0 0 0 [(0, .ref (ad 0)), (1, .int c)] [] _ _
  refine pl_iload_n (pc := 0) dX9_isLaw_0 rfl rfl ?_
  refine pj_if_lt (pc := 1) (tgt := 20) dX9_isLaw_1 (by decide) (fun c1 => ?_) (fun c1 => ?_)
  · refine pl_iconst (pc := 20) (v := 0) dX9_isLaw_20 (by rfl) ?_
    refine pj_zret (pc := 21) .boolean dX9_isLaw_21 rfl (by rfl) ?_
    exact ⟨vB0 (by first | exact inN_lt0 c1 | exact inN_ge (by simpa only [hn] using c13) | exact inN_ok c1 (by simpa only [hn] using c13)), rfl⟩
  · refine pl_iload_n (pc := 4) dX9_isLaw_4 rfl rfl ?_
    refine pl_aload_n (pc := 5) dX9_isLaw_5 rfl rfl ?_
    refine pj_getf (pc := 6) ckX9 1 q2517 dX9_isLaw_6 (by decide) (mm_o hA) rfl ?_
    refine pl_sipush (pc := 9) (v := 2125) dX9_isLaw_9 (by rfl) ?_
    refine pl_iald (pc := 12) (n := 2132) dX9_isLaw_12 (mm_a hA 1 (by decide) (by decide)) (by omega) (by decide) ?_
    refine pj_icmp_ge (pc := 13) (tgt := 20) dX9_isLaw_13 (by decide) (fun c13 => ?_) (fun c13 => ?_)
    · refine pl_iconst (pc := 20) (v := 0) dX9_isLaw_20 (by rfl) ?_
      refine pj_zret (pc := 21) .boolean dX9_isLaw_21 rfl (by rfl) ?_
      exact ⟨vB0 (by first | exact inN_lt0 c1 | exact inN_ge (by simpa only [hn] using c13) | exact inN_ok c1 (by simpa only [hn] using c13)), rfl⟩
    · refine pl_iconst (pc := 16) (v := 1) dX9_isLaw_16 (by rfl) ?_
      refine pj_goto (pc := 17) (tgt := 21) dX9_isLaw_17 (by decide) ?_
      refine pj_zret (pc := 21) .boolean dX9_isLaw_21 rfl (by rfl) ?_
      exact ⟨vB1 (by first | exact inN_lt0 c1 | exact inN_ge (by simpa only [hn] using c13) | exact inN_ok c1 (by simpa only [hn] using c13)), rfl⟩
set_option maxHeartbeats 4000000 in
theorem w_X9_isBill {g : GP} {ad : Nat → Nat} {μ : Mem} {σ : MS} {d : Nat} {c : Int32} {n : Nat} (hd : 1 ≤ d) (hA : Inj ad 18) (hn : row σ 2126 = nI n) : PM g yX9_isBill (ws_ yX9_isBill cX9_isBill 2 (some .boolean)) d 0 0 [.ref (ad 0), .int c] (mm g ad μ σ) (rQ (some (.int (bI (inN c n)))) (mm g ad μ (σ))) := by
  refine PM.of (by decide +kernel) (Nat.le_of_ble_eq_true rfl) ?_
  show PJ g _ _ _ _ d 0 0 0 [(0, .ref (ad 0)), (1, .int c)] [] _ _
  refine pl_iload_n (pc := 0) dX9_isBill_0 rfl rfl ?_
  refine pj_if_lt (pc := 1) (tgt := 20) dX9_isBill_1 (by decide) (fun c1 => ?_) (fun c1 => ?_)
  · refine pl_iconst (pc := 20) (v := 0) dX9_isBill_20 (by rfl) ?_
    refine pj_zret (pc := 21) .boolean dX9_isBill_21 rfl (by rfl) ?_
    exact ⟨vB0 (by first | exact inN_lt0 c1 | exact inN_ge (by simpa only [hn] using c13) | exact inN_ok c1 (by simpa only [hn] using c13)), rfl⟩
  · refine pl_iload_n (pc := 4) dX9_isBill_4 rfl rfl ?_
    refine pl_aload_n (pc := 5) dX9_isBill_5 rfl rfl ?_
    refine pj_getf (pc := 6) ckX9 1 q2517 dX9_isBill_6 (by decide) (mm_o hA) rfl ?_
    refine pl_sipush (pc := 9) (v := 2126) dX9_isBill_9 (by rfl) ?_
    refine pl_iald (pc := 12) (n := 2132) dX9_isBill_12 (mm_a hA 1 (by decide) (by decide)) (by omega) (by decide) ?_
    refine pj_icmp_ge (pc := 13) (tgt := 20) dX9_isBill_13 (by decide) (fun c13 => ?_) (fun c13 => ?_)
    · refine pl_iconst (pc := 20) (v := 0) dX9_isBill_20 (by rfl) ?_
      refine pj_zret (pc := 21) .boolean dX9_isBill_21 rfl (by rfl) ?_
      exact ⟨vB0 (by first | exact inN_lt0 c1 | exact inN_ge (by simpa only [hn] using c13) | exact inN_ok c1 (by simpa only [hn] using c13)), rfl⟩
    · refine pl_iconst (pc := 16) (v := 1) dX9_isBill_16 (by rfl) ?_
      refine pj_goto (pc := 17) (tgt := 21) dX9_isBill_17 (by decide) ?_
      refine pj_zret (pc := 21) .boolean dX9_isBill_21 rfl (by rfl) ?_
      exact ⟨vB1 (by first | exact inN_lt0 c1 | exact inN_ge (by simpa only [hn] using c13) | exact inN_ok c1 (by simpa only [hn] using c13)), rfl⟩
set_option maxHeartbeats 4000000 in
theorem w_X9_isHere {g : GP} {ad : Nat → Nat} {μ : Mem} {σ : MS} {d : Nat} {p : Nat}  (hd : 2 ≤ d) (hA : Inj ad 18) (hp : p < 100) : PM g yX9_isHere (ws_ yX9_isHere cX9_isHere 2 (some .boolean)) d 0 0 [.ref (ad 0), .int (nI p)] (mm g ad μ σ) (rQ (some (.int (bI (decide (nI 2 ≤ per σ p 2))))) (mm g ad μ (σ))) := by
  refine PM.of (by decide +kernel) (Nat.le_of_ble_eq_true rfl) ?_
  show PJ g _ _ _ _ d 0 0 0 [(0, .ref (ad 0)), (1, .int (nI p))] [] _ _
  refine pl_aload_n (pc := 0) dX9_isHere_0 rfl rfl ?_
  refine pl_iload_n (pc := 1) dX9_isHere_1 rfl rfl ?_
  refine pl_iconst (pc := 2) (v := 2) dX9_isHere_2 (by rfl) ?_
  refine pl_callVd (pc := 3) (As := [_, _]) (C2 := 0) (N2 := 0) ckX9 mdX9_per rfl q2713 q2715 qs59 q154 dX9_isHere_3 rfl rfl (Nat.le_of_ble_eq_true rfl) (mm_o hA) (w_X9_per (d := d - 1) (by omega) hA hp (by decide)) (by omega) (by decide) (by decide) ?_
  refine pl_iconst (pc := 6) (v := 2) dX9_isHere_6 (by rfl) ?_
  refine pj_icmp_lt (pc := 7) (tgt := 14) dX9_isHere_7 (by decide) (fun c7 => ?_) (fun c7 => ?_)
  · refine pl_iconst (pc := 14) (v := 0) dX9_isHere_14 (by rfl) ?_
    refine pj_zret (pc := 15) .boolean dX9_isHere_15 rfl (by rfl) ?_
    exact ⟨vB0 (by simp_all [Int32.not_lt, Int32.not_le]), rfl⟩
  · refine pl_iconst (pc := 10) (v := 1) dX9_isHere_10 (by rfl) ?_
    refine pj_goto (pc := 11) (tgt := 15) dX9_isHere_11 (by decide) ?_
    refine pj_zret (pc := 15) .boolean dX9_isHere_15 rfl (by rfl) ?_
    exact ⟨vB1 (by simp_all [Int32.not_lt, Int32.not_le]), rfl⟩
set_option maxHeartbeats 4000000 in
theorem w_X9_zoneOf {g : GP} {μ : Mem} {d : Nat} {c : Nat}  (hd : 1 ≤ d) (hc : c < 96) : PM g yX9_zoneOf (ws_ yX9_zoneOf cX9_zoneOf 1 (some .int)) d 0 0 [.int (nI c)] μ (rQ (some (.int (nI (c % 12 / 3)))) μ) := by
  refine PM.of (by decide +kernel) (Nat.le_of_ble_eq_true rfl) ?_
  show PJ g _ _ _ _ d 0 0 0 [(0, .int (nI c))] [] _ _
  refine pl_iload_n (pc := 0) dX9_zoneOf_0 rfl rfl ?_
  refine pl_bipush (pc := 1) (v := 12) dX9_zoneOf_1 (by rfl) ?_
  refine pl_irem (pc := 3) dX9_zoneOf_3 (by omega) (by decide) (by decide) ?_
  refine pl_iconst (pc := 4) (v := 3) dX9_zoneOf_4 (by rfl) ?_
  refine pl_idiv (pc := 5) dX9_zoneOf_5 (by omega) (by decide) (by decide) ?_
  refine pj_iret (pc := 6) dX9_zoneOf_6 rfl ?_
  exact ⟨rfl, rfl⟩
set_option maxHeartbeats 4000000 in
theorem w_X9_isFarm {g : GP} {μ : Mem} {d : Nat} {h : Int32}  (hd : 1 ≤ d) : PM g yX9_isFarm (ws_ yX9_isFarm cX9_isFarm 1 (some .boolean)) d 0 0 [.int h] μ (rQ (some (.int (bI (isFarmV h)))) μ) := by
  refine PM.of (by decide +kernel) (Nat.le_of_ble_eq_true rfl) ?_
  show PJ g _ _ _ _ d 0 0 0 [(0, .int h)] [] _ _
  refine pl_iload_n (pc := 0) dX9_isFarm_0 rfl rfl ?_
  refine pl_iconst (pc := 1) (v := 3) dX9_isFarm_1 (by rfl) ?_
  refine pj_icmp_eq (pc := 2) (tgt := 10) dX9_isFarm_2 (by decide) (fun c2 => ?_) (fun c2 => ?_)
  · refine pl_iconst (pc := 10) (v := 1) dX9_isFarm_10 (by rfl) ?_
    refine pj_goto (pc := 11) (tgt := 15) dX9_isFarm_11 (by decide) ?_
    refine pj_zret (pc := 15) .boolean dX9_isFarm_15 rfl (by rfl) ?_
    exact ⟨vB1 (by simp [isFarmV, *]), rfl⟩
  · refine pl_iload_n (pc := 5) dX9_isFarm_5 rfl rfl ?_
    refine pl_iconst (pc := 6) (v := 5) dX9_isFarm_6 (by rfl) ?_
    refine pj_icmp_ne (pc := 7) (tgt := 14) dX9_isFarm_7 (by decide) (fun c7 => ?_) (fun c7 => ?_)
    · refine pl_iconst (pc := 14) (v := 0) dX9_isFarm_14 (by rfl) ?_
      refine pj_zret (pc := 15) .boolean dX9_isFarm_15 rfl (by rfl) ?_
      exact ⟨vB0 (by simp [isFarmV, *]), rfl⟩
    · refine pl_iconst (pc := 10) (v := 1) dX9_isFarm_10 (by rfl) ?_
      refine pj_goto (pc := 11) (tgt := 15) dX9_isFarm_11 (by decide) ?_
      refine pj_zret (pc := 15) .boolean dX9_isFarm_15 rfl (by rfl) ?_
      exact ⟨vB1 (by simp [isFarmV, *]), rfl⟩
set_option maxHeartbeats 4000000 in
theorem w_X9_isPasture {g : GP} {μ : Mem} {d : Nat} {h : Int32}  (hd : 1 ≤ d) : PM g yX9_isPasture (ws_ yX9_isPasture cX9_isPasture 1 (some .boolean)) d 0 0 [.int h] μ (rQ (some (.int (bI (isPastV h)))) μ) := by
  refine PM.of (by decide +kernel) (Nat.le_of_ble_eq_true rfl) ?_
  show PJ g _ _ _ _ d 0 0 0 [(0, .int h)] [] _ _
  refine pl_iload_n (pc := 0) dX9_isPasture_0 rfl rfl ?_
  refine pl_iconst (pc := 1) (v := 4) dX9_isPasture_1 (by rfl) ?_
  refine pj_icmp_eq (pc := 2) (tgt := 11) dX9_isPasture_2 (by decide) (fun c2 => ?_) (fun c2 => ?_)
  · refine pl_iconst (pc := 11) (v := 1) dX9_isPasture_11 (by rfl) ?_
    refine pj_goto (pc := 12) (tgt := 16) dX9_isPasture_12 (by decide) ?_
    refine pj_zret (pc := 16) .boolean dX9_isPasture_16 rfl (by rfl) ?_
    exact ⟨vB1 (by simp [isPastV, *]), rfl⟩
  · refine pl_iload_n (pc := 5) dX9_isPasture_5 rfl rfl ?_
    refine pl_bipush (pc := 6) (v := 6) dX9_isPasture_6 (by rfl) ?_
    refine pj_icmp_ne (pc := 8) (tgt := 15) dX9_isPasture_8 (by decide) (fun c8 => ?_) (fun c8 => ?_)
    · refine pl_iconst (pc := 15) (v := 0) dX9_isPasture_15 (by rfl) ?_
      refine pj_zret (pc := 16) .boolean dX9_isPasture_16 rfl (by rfl) ?_
      exact ⟨vB0 (by simp [isPastV, *]), rfl⟩
    · refine pl_iconst (pc := 11) (v := 1) dX9_isPasture_11 (by rfl) ?_
      refine pj_goto (pc := 12) (tgt := 16) dX9_isPasture_12 (by decide) ?_
      refine pj_zret (pc := 16) .boolean dX9_isPasture_16 rfl (by rfl) ?_
      exact ⟨vB1 (by simp [isPastV, *]), rfl⟩
set_option maxHeartbeats 4000000 in
theorem w_X9_isForce {g : GP} {μ : Mem} {d : Nat} {h : Int32}  (hd : 1 ≤ d) : PM g yX9_isForce (ws_ yX9_isForce cX9_isForce 1 (some .boolean)) d 0 0 [.int h] μ (rQ (some (.int (bI (isForceV h)))) μ) := by
  refine PM.of (by decide +kernel) (Nat.le_of_ble_eq_true rfl) ?_
  show PJ g _ _ _ _ d 0 0 0 [(0, .int h)] [] _ _
  refine pl_iload_n (pc := 0) dX9_isForce_0 rfl rfl ?_
  refine pl_iconst (pc := 1) (v := 2) dX9_isForce_1 (by rfl) ?_
  refine pj_icmp_eq (pc := 2) (tgt := 10) dX9_isForce_2 (by decide) (fun c2 => ?_) (fun c2 => ?_)
  · refine pl_iconst (pc := 10) (v := 1) dX9_isForce_10 (by rfl) ?_
    refine pj_goto (pc := 11) (tgt := 15) dX9_isForce_11 (by decide) ?_
    refine pj_zret (pc := 15) .boolean dX9_isForce_15 rfl (by rfl) ?_
    exact ⟨vB1 (by simp [isForceV, *]), rfl⟩
  · refine pl_iload_n (pc := 5) dX9_isForce_5 rfl rfl ?_
    refine pl_iconst (pc := 6) (v := 3) dX9_isForce_6 (by rfl) ?_
    refine pj_icmp_ne (pc := 7) (tgt := 14) dX9_isForce_7 (by decide) (fun c7 => ?_) (fun c7 => ?_)
    · refine pl_iconst (pc := 14) (v := 0) dX9_isForce_14 (by rfl) ?_
      refine pj_zret (pc := 15) .boolean dX9_isForce_15 rfl (by rfl) ?_
      exact ⟨vB0 (by simp [isForceV, *]), rfl⟩
    · refine pl_iconst (pc := 10) (v := 1) dX9_isForce_10 (by rfl) ?_
      refine pj_goto (pc := 11) (tgt := 15) dX9_isForce_11 (by decide) ?_
      refine pj_zret (pc := 15) .boolean dX9_isForce_15 rfl (by rfl) ?_
      exact ⟨vB1 (by simp [isForceV, *]), rfl⟩
set_option maxHeartbeats 4000000 in
theorem w_X9_bandOf {g : GP} {μ : Mem} {d : Nat} {r : Int32}  (hd : 1 ≤ d) : PM g yX9_bandOf (ws_ yX9_bandOf cX9_bandOf 1 (some .int)) d 0 0 [.int r] μ (rQ (some (.int (bandV r))) μ) := by
  refine PM.of (by decide +kernel) (Nat.le_of_ble_eq_true rfl) ?_
  show PJ g _ _ _ _ d 0 0 0 [(0, .int r)] [] _ _
  refine pl_iload_n (pc := 0) dX9_bandOf_0 rfl rfl ?_
  refine pl_sipush (pc := 1) (v := 300) dX9_bandOf_1 (by rfl) ?_
  refine pj_icmp_ge (pc := 4) (tgt := 11) dX9_bandOf_4 (by decide) (fun c4 => ?_) (fun c4 => ?_)
  · refine pl_iload_n (pc := 11) dX9_bandOf_11 rfl rfl ?_
    refine pl_sipush (pc := 12) (v := 600) dX9_bandOf_12 (by rfl) ?_
    refine pj_icmp_ge (pc := 15) (tgt := 22) dX9_bandOf_15 (by decide) (fun c15 => ?_) (fun c15 => ?_)
    · refine pl_iload_n (pc := 22) dX9_bandOf_22 rfl rfl ?_
      refine pl_sipush (pc := 23) (v := 900) dX9_bandOf_23 (by rfl) ?_
      refine pj_icmp_ge (pc := 26) (tgt := 33) dX9_bandOf_26 (by decide) (fun c26 => ?_) (fun c26 => ?_)
      · refine pl_iload_n (pc := 33) dX9_bandOf_33 rfl rfl ?_
        refine pl_sipush (pc := 34) (v := 1500) dX9_bandOf_34 (by rfl) ?_
        refine pj_icmp_ge (pc := 37) (tgt := 44) dX9_bandOf_37 (by decide) (fun c37 => ?_) (fun c37 => ?_)
        · refine pl_iconst (pc := 44) (v := 1) dX9_bandOf_44 (by rfl) ?_
          refine pj_iret (pc := 45) dX9_bandOf_45 rfl ?_
          exact ⟨vI (by simp [bandV, ← Int32.not_le, *]), rfl⟩
        · refine pl_iconst (pc := 40) (v := 3) dX9_bandOf_40 (by rfl) ?_
          refine pj_goto (pc := 41) (tgt := 45) dX9_bandOf_41 (by decide) ?_
          refine pj_iret (pc := 45) dX9_bandOf_45 rfl ?_
          exact ⟨vI (by simp [bandV, ← Int32.not_le, *]), rfl⟩
      · refine pl_iconst (pc := 29) (v := 2) dX9_bandOf_29 (by rfl) ?_
        refine pj_goto (pc := 30) (tgt := 45) dX9_bandOf_30 (by decide) ?_
        refine pj_iret (pc := 45) dX9_bandOf_45 rfl ?_
        exact ⟨vI (by simp [bandV, ← Int32.not_le, *]), rfl⟩
    · refine pl_iconst (pc := 18) (v := 1) dX9_bandOf_18 (by rfl) ?_
      refine pj_goto (pc := 19) (tgt := 45) dX9_bandOf_19 (by decide) ?_
      refine pj_iret (pc := 45) dX9_bandOf_45 rfl ?_
      exact ⟨vI (by simp [bandV, ← Int32.not_le, *]), rfl⟩
  · refine pl_iconst (pc := 7) (v := 0) dX9_bandOf_7 (by rfl) ?_
    refine pj_goto (pc := 8) (tgt := 45) dX9_bandOf_8 (by decide) ?_
    refine pj_iret (pc := 45) dX9_bandOf_45 rfl ?_
    exact ⟨vI (by simp [bandV, ← Int32.not_le, *]), rfl⟩
set_option maxHeartbeats 4000000 in
theorem w_X9_miles {g : GP} {ad : Nat → Nat} {μ : Mem} {σ : MS} {d : Nat} {c : Nat}  (hd : 1 ≤ d) (hA : Inj ad 18) (hc : c < 96) : PM g yX9_miles (ws_ yX9_miles cX9_miles 2 (some .int)) d 0 0 [.ref (ad 0), .int (nI c)] (mm g ad μ σ) (rQ (some (.int (milesV (σ.2.1 4 c) (σ.2.1 3 c)))) (mm g ad μ (σ))) := by
  refine PM.of (by decide +kernel) (Nat.le_of_ble_eq_true rfl) ?_
  show PJ g _ _ _ _ d 0 0 0 [(0, .ref (ad 0)), (1, .int (nI c))] [] _ _
  refine pl_bipush (pc := 0) (v := 6) dX9_miles_0 (by rfl) ?_
  refine pl_aload_n (pc := 2) dX9_miles_2 rfl rfl ?_
  refine pj_getf (pc := 3) ckX9 4 q2520 dX9_miles_3 (by decide) (mm_o hA) rfl ?_
  refine pl_iload_n (pc := 6) dX9_miles_6 rfl rfl ?_
  refine pl_zald (pc := 7) (n := 96) dX9_miles_7 (mm_a hA 4 (by decide) (by decide)) (by omega) (by decide) ?_
  refine pj_if_eq (pc := 8) (tgt := 15) dX9_miles_8 (by decide) (fun c8 => ?_) (fun c8 => ?_)
  · refine pl_iconst (pc := 15) (v := 0) dX9_miles_15 (by rfl) ?_
    refine pl_iadd (pc := 16) dX9_miles_16 ?_
    refine pl_bipush (pc := 17) (v := 9) dX9_miles_17 (by rfl) ?_
    refine pl_aload_n (pc := 19) dX9_miles_19 rfl rfl ?_
    refine pj_getf (pc := 20) ckX9 3 q2519 dX9_miles_20 (by decide) (mm_o hA) rfl ?_
    refine pl_iload_n (pc := 23) dX9_miles_23 rfl rfl ?_
    refine pl_iald (pc := 24) (n := 96) dX9_miles_24 (mm_a hA 3 (by decide) (by decide)) (by omega) (by decide) ?_
    refine pj_isub (pc := 25) dX9_miles_25 ?_
    refine pl_iconst (pc := 26) (v := 3) dX9_miles_26 (by rfl) ?_
    refine pj_idiv (pc := 27) dX9_miles_27 (by decide) ?_
    refine pj_iadd (pc := 28) dX9_miles_28 ?_
    refine pj_iret (pc := 29) dX9_miles_29 rfl ?_
    exact ⟨vI (by simp [milesV, nI_add, *]), rfl⟩
  · refine pl_iconst (pc := 11) (v := 3) dX9_miles_11 (by rfl) ?_
    refine pj_goto (pc := 12) (tgt := 16) dX9_miles_12 (by decide) ?_
    refine pl_iadd (pc := 16) dX9_miles_16 ?_
    refine pl_bipush (pc := 17) (v := 9) dX9_miles_17 (by rfl) ?_
    refine pl_aload_n (pc := 19) dX9_miles_19 rfl rfl ?_
    refine pj_getf (pc := 20) ckX9 3 q2519 dX9_miles_20 (by decide) (mm_o hA) rfl ?_
    refine pl_iload_n (pc := 23) dX9_miles_23 rfl rfl ?_
    refine pl_iald (pc := 24) (n := 96) dX9_miles_24 (mm_a hA 3 (by decide) (by decide)) (by omega) (by decide) ?_
    refine pj_isub (pc := 25) dX9_miles_25 ?_
    refine pl_iconst (pc := 26) (v := 3) dX9_miles_26 (by rfl) ?_
    refine pj_idiv (pc := 27) dX9_miles_27 (by decide) ?_
    refine pj_iadd (pc := 28) dX9_miles_28 ?_
    refine pj_iret (pc := 29) dX9_miles_29 rfl ?_
    exact ⟨vI (by simp [milesV, nI_add, *]), rfl⟩
set_option maxHeartbeats 4000000 in
theorem w_X9_holds {g : GP} {ad : Nat → Nat} {μ : Mem} {σ : MS} {d : Nat} {c : Nat} {h : Int32} {p : Int32}  (hd : 1 ≤ d) (hA : Inj ad 18) (hc : c < 96) : PM g yX9_holds (ws_ yX9_holds cX9_holds 4 none) d 0 0 [.ref (ad 0), .int (nI c), .int h, .int p] (mm g ad μ σ) (rQ none (mm g ad μ (sR (sR (sR (sR (sR (sR (sR σ (8 * c + 0) h) (8 * c + 1) p) (8 * c + 2) (nI 0)) (8 * c + 3) (nI 0)) (8 * c + 4) (nI 0)) (8 * c + 5) (-1)) (8 * c + 6) (-1)))) := by
  refine PM.of (by decide +kernel) (Nat.le_of_ble_eq_true rfl) ?_
  show PJ g _ _ _ _ d 0 0 0 [(0, .ref (ad 0)), (1, .int (nI c)), (2, .int h), (3, .int p)] [] _ _
  refine pl_aload_n (pc := 0) dX9_holds_0 rfl rfl ?_
  refine pj_getf (pc := 1) ckX9 1 q2517 dX9_holds_1 (by decide) (mm_o hA) rfl ?_
  refine pl_bipush (pc := 4) (v := 8) dX9_holds_4 (by rfl) ?_
  refine pl_iload_n (pc := 6) dX9_holds_6 rfl rfl ?_
  refine pl_imul (pc := 7) dX9_holds_7 ?_
  refine pl_iconst (pc := 8) (v := 0) dX9_holds_8 (by rfl) ?_
  refine pl_iadd (pc := 9) dX9_holds_9 ?_
  refine pl_iload_n (pc := 10) dX9_holds_10 rfl rfl ?_
  refine pm_iast (pc := 11) 1 hA (by decide) (by decide) rfl dX9_holds_11 (show _ < 2132 by omega) (by decide) ?_
  refine pl_aload_n (pc := 12) dX9_holds_12 rfl rfl ?_
  refine pj_getf (pc := 13) ckX9 1 q2517 dX9_holds_13 (by decide) (mm_o hA) rfl ?_
  refine pl_bipush (pc := 16) (v := 8) dX9_holds_16 (by rfl) ?_
  refine pl_iload_n (pc := 18) dX9_holds_18 rfl rfl ?_
  refine pl_imul (pc := 19) dX9_holds_19 ?_
  refine pl_iconst (pc := 20) (v := 1) dX9_holds_20 (by rfl) ?_
  refine pl_iadd (pc := 21) dX9_holds_21 ?_
  refine pl_iload_n (pc := 22) dX9_holds_22 rfl rfl ?_
  refine pm_iast (pc := 23) 1 hA (by decide) (by decide) rfl dX9_holds_23 (show _ < 2132 by omega) (by decide) ?_
  refine pl_aload_n (pc := 24) dX9_holds_24 rfl rfl ?_
  refine pj_getf (pc := 25) ckX9 1 q2517 dX9_holds_25 (by decide) (mm_o hA) rfl ?_
  refine pl_bipush (pc := 28) (v := 8) dX9_holds_28 (by rfl) ?_
  refine pl_iload_n (pc := 30) dX9_holds_30 rfl rfl ?_
  refine pl_imul (pc := 31) dX9_holds_31 ?_
  refine pl_iconst (pc := 32) (v := 2) dX9_holds_32 (by rfl) ?_
  refine pl_iadd (pc := 33) dX9_holds_33 ?_
  refine pl_iconst (pc := 34) (v := 0) dX9_holds_34 (by rfl) ?_
  refine pm_iast (pc := 35) 1 hA (by decide) (by decide) rfl dX9_holds_35 (show _ < 2132 by omega) (by decide) ?_
  refine pl_aload_n (pc := 36) dX9_holds_36 rfl rfl ?_
  refine pj_getf (pc := 37) ckX9 1 q2517 dX9_holds_37 (by decide) (mm_o hA) rfl ?_
  refine pl_bipush (pc := 40) (v := 8) dX9_holds_40 (by rfl) ?_
  refine pl_iload_n (pc := 42) dX9_holds_42 rfl rfl ?_
  refine pl_imul (pc := 43) dX9_holds_43 ?_
  refine pl_iconst (pc := 44) (v := 3) dX9_holds_44 (by rfl) ?_
  refine pl_iadd (pc := 45) dX9_holds_45 ?_
  refine pl_iconst (pc := 46) (v := 0) dX9_holds_46 (by rfl) ?_
  refine pm_iast (pc := 47) 1 hA (by decide) (by decide) rfl dX9_holds_47 (show _ < 2132 by omega) (by decide) ?_
  refine pl_aload_n (pc := 48) dX9_holds_48 rfl rfl ?_
  refine pj_getf (pc := 49) ckX9 1 q2517 dX9_holds_49 (by decide) (mm_o hA) rfl ?_
  refine pl_bipush (pc := 52) (v := 8) dX9_holds_52 (by rfl) ?_
  refine pl_iload_n (pc := 54) dX9_holds_54 rfl rfl ?_
  refine pl_imul (pc := 55) dX9_holds_55 ?_
  refine pl_iconst (pc := 56) (v := 4) dX9_holds_56 (by rfl) ?_
  refine pl_iadd (pc := 57) dX9_holds_57 ?_
  refine pl_iconst (pc := 58) (v := 0) dX9_holds_58 (by rfl) ?_
  refine pm_iast (pc := 59) 1 hA (by decide) (by decide) rfl dX9_holds_59 (show _ < 2132 by omega) (by decide) ?_
  refine pl_aload_n (pc := 60) dX9_holds_60 rfl rfl ?_
  refine pj_getf (pc := 61) ckX9 1 q2517 dX9_holds_61 (by decide) (mm_o hA) rfl ?_
  refine pl_bipush (pc := 64) (v := 8) dX9_holds_64 (by rfl) ?_
  refine pl_iload_n (pc := 66) dX9_holds_66 rfl rfl ?_
  refine pl_imul (pc := 67) dX9_holds_67 ?_
  refine pl_iconst (pc := 68) (v := 5) dX9_holds_68 (by rfl) ?_
  refine pl_iadd (pc := 69) dX9_holds_69 ?_
  refine pj_iconst (pc := 70) (v := (-1)) dX9_holds_70 (by rfl) ?_
  refine pm_iast (pc := 71) 1 hA (by decide) (by decide) rfl dX9_holds_71 (show _ < 2132 by omega) (by decide) ?_
  refine pl_aload_n (pc := 72) dX9_holds_72 rfl rfl ?_
  refine pj_getf (pc := 73) ckX9 1 q2517 dX9_holds_73 (by decide) (mm_o hA) rfl ?_
  refine pl_bipush (pc := 76) (v := 8) dX9_holds_76 (by rfl) ?_
  refine pl_iload_n (pc := 78) dX9_holds_78 rfl rfl ?_
  refine pl_imul (pc := 79) dX9_holds_79 ?_
  refine pl_bipush (pc := 80) (v := 6) dX9_holds_80 (by rfl) ?_
  refine pl_iadd (pc := 82) dX9_holds_82 ?_
  refine pj_iconst (pc := 83) (v := (-1)) dX9_holds_83 (by rfl) ?_
  refine pm_iast (pc := 84) 1 hA (by decide) (by decide) rfl dX9_holds_84 (show _ < 2132 by omega) (by decide) ?_
  refine pj_vret (pc := 85) dX9_holds_85 rfl ?_
  exact ⟨rfl, rfl⟩
