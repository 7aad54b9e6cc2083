set_option maxRecDepth 100000
/-- a bill's cell: sum sent hands is -/
def biO (f : Nat → Int32) : va_E := .inr (15, [.int (f 0), .int (f 1), .int (f 2), .int (f 3)])
/-- a law's cell: its text, is from until read yes no saysYes, who has voted -/
def lwO (f : Nat → Int32) (t v : Nat) : va_E := .inr (14, [.ref t, .int (f 1), .int (f 2), .int (f 3), .int (f 4), .int (f 5), .int (f 6), .int (f 7), .ref v])
set_option maxHeartbeats 600000 in
theorem k_X13_set {g : GP} {μ : Mem} {d : Nat} (hd : 1 ≤ d) {a b : Nat} {f f2 : Nat → Int32} (h : μ a = some (biO f)) (h2 : μ b = some (biO f2)) (hab : b ≠ a) : PM g yX13_set (ws_ yX13_set cX13_set 2 none) d 0 0 [.ref a, .ref b] μ (rQ none (mset μ a (biO (fun k => if k < 2 then f k else f2 k)))) := by
  refine PM.of (by decide +kernel) (Nat.le_of_ble_eq_true rfl) ?_
  refine PJ.ok (fun G => ?_)
  show PJ g _ _ _ _ d 0 0 0 [(0, .ref a), (1, .ref b)] [] _ _
  refine pl_aload_n (pc := 0) dX13_set_0 rfl rfl ?_
  refine pl_aload_n (pc := 1) dX13_set_1 rfl rfl ?_
  refine pj_getf (pc := 2) ckX13 2 q1547 dX13_set_2 (by decide) h2 rfl ?_
  refine pj_putf (pc := 5) ckX13 2 q1547 dX13_set_5 (by decide) rfl h rfl rfl (Nat.le_of_ble_eq_true rfl) ?_
  refine pl_aload_n (pc := 8) dX13_set_8 rfl rfl ?_
  refine pl_aload_n (pc := 9) dX13_set_9 rfl rfl ?_
  refine pj_getf (pc := 10) ckX13 3 q1550 dX13_set_10 (by decide) (show (mset μ a _) b = _ from by rw [mset_n hab]; exact h2) rfl ?_
  refine pj_putf (pc := 13) ckX13 3 q1550 dX13_set_13 (by decide) rfl mset_s rfl rfl (Nat.le_of_ble_eq_true rfl) ?_
  refine PJ.conv rfl rfl mset_m ?_
  refine pj_vret (pc := 16) dX13_set_16 rfl ?_
  exact ⟨rfl, rfl⟩
set_option maxHeartbeats 600000 in
theorem k_X12_isIn {g : GP} {μ : Mem} {d : Nat} (hd : 1 ≤ d) {a t v : Nat} {f : Nat → Int32} (h : μ a = some (lwO f t v)) : PM g yX12_isIn (ws_ yX12_isIn cX12_isIn 1 (some .boolean)) d 0 0 [.ref a] μ (rQ (some (.int (bI (decide (f 1 = nI 2) || decide (f 1 = nI 3))))) μ) := by
  refine PM.of (by decide +kernel) (Nat.le_of_ble_eq_true rfl) ?_
  refine PJ.ok (fun G => ?_)
  show PJ g _ _ _ _ d 0 0 0 [(0, .ref a)] [] _ _
  refine pl_aload_n (pc := 0) dX12_isIn_0 rfl rfl ?_
  refine pj_getf (pc := 1) ckX12 1 q1497 dX12_isIn_1 (by decide) h rfl ?_
  refine pl_iconst (pc := 4) (v := 2) dX12_isIn_4 (by rfl) ?_
  refine pj_icmp_eq (pc := 5) (tgt := 16) dX12_isIn_5 (by decide) (fun c5 => ?_) (fun c5 => ?_)
  · refine pl_iconst (pc := 16) (v := 1) dX12_isIn_16 (by rfl) ?_
    refine pj_goto (pc := 17) (tgt := 21) dX12_isIn_17 (by decide) ?_
    refine pj_zret (pc := 21) .boolean dX12_isIn_21 rfl (by rfl) ?_
    refine ⟨?_, rfl⟩
    have e9 : (decide (f 1 = nI 2) || decide (f 1 = nI 3)) = true := by simp [eq_true c5]
    rw [e9]
    rfl
  · refine pl_aload_n (pc := 8) dX12_isIn_8 rfl rfl ?_
    refine pj_getf (pc := 9) ckX12 1 q1497 dX12_isIn_9 (by decide) h rfl ?_
    refine pl_iconst (pc := 12) (v := 3) dX12_isIn_12 (by rfl) ?_
    refine pj_icmp_ne (pc := 13) (tgt := 20) dX12_isIn_13 (by decide) (fun c13 => ?_) (fun c13 => ?_)
    · refine pl_iconst (pc := 20) (v := 0) dX12_isIn_20 (by rfl) ?_
      refine pj_zret (pc := 21) .boolean dX12_isIn_21 rfl (by rfl) ?_
      refine ⟨?_, rfl⟩
      have e9 : (decide (f 1 = nI 2) || decide (f 1 = nI 3)) = false := by simp [c5, c13]
      rw [e9]
      rfl
    · refine pl_iconst (pc := 16) (v := 1) dX12_isIn_16 (by rfl) ?_
      refine pj_goto (pc := 17) (tgt := 21) dX12_isIn_17 (by decide) ?_
      refine pj_zret (pc := 21) .boolean dX12_isIn_21 rfl (by rfl) ?_
      refine ⟨?_, rfl⟩
      have e9 : (decide (f 1 = nI 2) || decide (f 1 = nI 3)) = true := by simp [c5, eq_true c13]
      rw [e9]
      rfl
set_option maxHeartbeats 600000 in
theorem k_X12_wasIn {g : GP} {μ : Mem} {d : Nat} (hd : 1 ≤ d) {a t v : Nat} {f : Nat → Int32} (h : μ a = some (lwO f t v)) {x : Int32} : PM g yX12_wasIn (ws_ yX12_wasIn cX12_wasIn 2 (some .boolean)) d 0 0 [.ref a, .int x] μ (rQ (some (.int (bI (!decide (f 2 = -1) && !decide (x < f 2) && (decide (f 3 = -1) || !decide (f 3 ≤ x)))))) μ) := by
  refine PM.of (by decide +kernel) (Nat.le_of_ble_eq_true rfl) ?_
  refine PJ.ok (fun G => ?_)
  show PJ g _ _ _ _ d 0 0 0 [(0, .ref a), (1, .int x)] [] _ _
  refine pl_aload_n (pc := 0) dX12_wasIn_0 rfl rfl ?_
  refine pj_getf (pc := 1) ckX12 2 q1500 dX12_wasIn_1 (by decide) h rfl ?_
  refine pj_iconst (pc := 4) (v := (-1)) dX12_wasIn_4 (by rfl) ?_
  refine pj_icmp_eq (pc := 5) (tgt := 36) dX12_wasIn_5 (by decide) (fun c5 => ?_) (fun c5 => ?_)
  · refine pl_iconst (pc := 36) (v := 0) dX12_wasIn_36 (by rfl) ?_
    refine pj_zret (pc := 37) .boolean dX12_wasIn_37 rfl (by rfl) ?_
    refine ⟨?_, rfl⟩
    have e9 : (!decide (f 2 = -1) && !decide (x < f 2) && (decide (f 3 = -1) || !decide (f 3 ≤ x))) = false := by simp [eq_true c5]
    rw [e9]
    rfl
  · refine pl_aload_n (pc := 8) dX12_wasIn_8 rfl rfl ?_
    refine pj_getf (pc := 9) ckX12 2 q1500 dX12_wasIn_9 (by decide) h rfl ?_
    refine pl_iload_n (pc := 12) dX12_wasIn_12 rfl rfl ?_
    refine pj_icmp_gt (pc := 13) (tgt := 36) dX12_wasIn_13 (by decide) (fun c13 => ?_) (fun c13 => ?_)
    · refine pl_iconst (pc := 36) (v := 0) dX12_wasIn_36 (by rfl) ?_
      refine pj_zret (pc := 37) .boolean dX12_wasIn_37 rfl (by rfl) ?_
      refine ⟨?_, rfl⟩
      have e9 : (!decide (f 2 = -1) && !decide (x < f 2) && (decide (f 3 = -1) || !decide (f 3 ≤ x))) = false := by simp [c5, c13]
      rw [e9]
      rfl
    · refine pl_aload_n (pc := 16) dX12_wasIn_16 rfl rfl ?_
      refine pj_getf (pc := 17) ckX12 3 q1502 dX12_wasIn_17 (by decide) h rfl ?_
      refine pj_iconst (pc := 20) (v := (-1)) dX12_wasIn_20 (by rfl) ?_
      refine pj_icmp_eq (pc := 21) (tgt := 32) dX12_wasIn_21 (by decide) (fun c21 => ?_) (fun c21 => ?_)
      · refine pl_iconst (pc := 32) (v := 1) dX12_wasIn_32 (by rfl) ?_
        refine pj_goto (pc := 33) (tgt := 37) dX12_wasIn_33 (by decide) ?_
        refine pj_zret (pc := 37) .boolean dX12_wasIn_37 rfl (by rfl) ?_
        refine ⟨?_, rfl⟩
        have e9 : (!decide (f 2 = -1) && !decide (x < f 2) && (decide (f 3 = -1) || !decide (f 3 ≤ x))) = true := by simp [c5, c13, eq_true c21]
        rw [e9]
        rfl
      · refine pl_aload_n (pc := 24) dX12_wasIn_24 rfl rfl ?_
        refine pj_getf (pc := 25) ckX12 3 q1502 dX12_wasIn_25 (by decide) h rfl ?_
        refine pl_iload_n (pc := 28) dX12_wasIn_28 rfl rfl ?_
        refine pj_icmp_le (pc := 29) (tgt := 36) dX12_wasIn_29 (by decide) (fun c29 => ?_) (fun c29 => ?_)
        · refine pl_iconst (pc := 36) (v := 0) dX12_wasIn_36 (by rfl) ?_
          refine pj_zret (pc := 37) .boolean dX12_wasIn_37 rfl (by rfl) ?_
          refine ⟨?_, rfl⟩
          have e9 : (!decide (f 2 = -1) && !decide (x < f 2) && (decide (f 3 = -1) || !decide (f 3 ≤ x))) = false := by simp [c5, c13, c21, c29]
          rw [e9]
          rfl
        · refine pl_iconst (pc := 32) (v := 1) dX12_wasIn_32 (by rfl) ?_
          refine pj_goto (pc := 33) (tgt := 37) dX12_wasIn_33 (by decide) ?_
          refine pj_zret (pc := 37) .boolean dX12_wasIn_37 rfl (by rfl) ?_
          refine ⟨?_, rfl⟩
          have e9 : (!decide (f 2 = -1) && !decide (x < f 2) && (decide (f 3 = -1) || !decide (f 3 ≤ x))) = true := by simp [c5, c13, c21, c29]
          rw [e9]
          rfl
