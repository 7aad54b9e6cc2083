set_option maxRecDepth 100000
def minI (a b : Int32) : Int32 := if a ≤ b then a else b
def maxI (a b : Int32) : Int32 := if b ≤ a then a else b
def absI (a : Int32) : Int32 := if 0 ≤ a then a else -a
/-- a person's cell: number trade coins is boss hands farms order hungry lands -/
def pO (f : Nat → Int32) : va_E := .inr (12, [.int (f 0), .int (f 1), .int (f 2), .int (f 3), .int (f 4), .int (f 5), .int (f 6), .int (f 7), .int (f 8), .int (f 9)])
set_option maxHeartbeats 600000 in
theorem k_X10_isHere {g : GP} {μ : Mem} {d : Nat} (hd : 1 ≤ d) {a : Nat} {f : Nat → Int32} (h : μ a = some (pO f)) : PM g yX10_isHere (ws_ yX10_isHere cX10_isHere 1 (some .boolean)) d 0 0 [.ref a] μ (rQ (some (.int (bI (decide (¬ f 3 < nI 2))))) μ) := by
  refine PM.of (by decide +kernel) (Nat.le_of_ble_eq_true rfl) ?_
  refine PJ.ok (fun G => ?_)
  show PJ g _ _ _ _ d 0 0 0 [(0, .ref a)] [] _ _
  refine pl_aload_n (pc := 0) dX10_isHere_0 rfl rfl ?_
  refine pj_getf (pc := 1) ckX10 3 q1073 dX10_isHere_1 (by decide) h rfl ?_
  refine pl_iconst (pc := 4) (v := 2) dX10_isHere_4 (by rfl) ?_
  refine pj_icmp_lt (pc := 5) (tgt := 12) dX10_isHere_5 (by decide) (fun c5 => ?_) (fun c5 => ?_)
  · refine pl_iconst (pc := 12) (v := 0) dX10_isHere_12 (by rfl) ?_
    refine pj_zret (pc := 13) .boolean dX10_isHere_13 rfl (by rfl) ?_
    refine ⟨?_, rfl⟩
    have e9 : decide (¬ f 3 < nI 2) = false := by simp [c5]
    rw [e9]
    rfl
  · refine pl_iconst (pc := 8) (v := 1) dX10_isHere_8 (by rfl) ?_
    refine pj_goto (pc := 9) (tgt := 13) dX10_isHere_9 (by decide) ?_
    refine pj_zret (pc := 13) .boolean dX10_isHere_13 rfl (by rfl) ?_
    refine ⟨?_, rfl⟩
    have e9 : decide (¬ f 3 < nI 2) = true := by simp [c5]
    rw [e9]
    rfl
set_option maxHeartbeats 600000 in
theorem k_X10_set {g : GP} {μ : Mem} {d : Nat} (hd : 1 ≤ d) {a b : Nat} {f f2 : Nat → Int32} (h : μ a = some (pO f)) (h2 : μ b = some (pO f2)) (hab : b ≠ a) : PM g yX10_set (ws_ yX10_set cX10_set 2 none) d 0 0 [.ref a, .ref b] μ (rQ none (mset μ a (pO (fun k => if k < 2 then f k else f2 k)))) := by
  refine PM.of (by decide +kernel) (Nat.le_of_ble_eq_true rfl) ?_
  refine PJ.ok (fun G => ?_)
  show PJ g _ _ _ _ d 0 0 0 [(0, .ref a), (1, .ref b)] [] _ _
  refine pl_aload_n (pc := 0) dX10_set_0 rfl rfl ?_
  refine pl_aload_n (pc := 1) dX10_set_1 rfl rfl ?_
  refine pj_getf (pc := 2) ckX10 2 q1070 dX10_set_2 (by decide) h2 rfl ?_
  refine pj_putf (pc := 5) ckX10 2 q1070 dX10_set_5 (by decide) rfl h rfl rfl (Nat.le_of_ble_eq_true rfl) ?_
  refine pl_aload_n (pc := 8) dX10_set_8 rfl rfl ?_
  refine pl_aload_n (pc := 9) dX10_set_9 rfl rfl ?_
  refine pj_getf (pc := 10) ckX10 3 q1073 dX10_set_10 (by decide) (show (mset μ a _) b = _ from by rw [mset_n hab]; exact h2) rfl ?_
  refine pj_putf (pc := 13) ckX10 3 q1073 dX10_set_13 (by decide) rfl mset_s rfl rfl (Nat.le_of_ble_eq_true rfl) ?_
  refine PJ.conv rfl rfl mset_m ?_
  refine pl_aload_n (pc := 16) dX10_set_16 rfl rfl ?_
  refine pl_aload_n (pc := 17) dX10_set_17 rfl rfl ?_
  refine pj_getf (pc := 18) ckX10 4 q1076 dX10_set_18 (by decide) (show (mset μ a _) b = _ from by rw [mset_n hab]; exact h2) rfl ?_
  refine pj_putf (pc := 21) ckX10 4 q1076 dX10_set_21 (by decide) rfl mset_s rfl rfl (Nat.le_of_ble_eq_true rfl) ?_
  refine PJ.conv rfl rfl mset_m ?_
  refine pl_aload_n (pc := 24) dX10_set_24 rfl rfl ?_
  refine pl_aload_n (pc := 25) dX10_set_25 rfl rfl ?_
  refine pj_getf (pc := 26) ckX10 5 q1079 dX10_set_26 (by decide) (show (mset μ a _) b = _ from by rw [mset_n hab]; exact h2) rfl ?_
  refine pj_putf (pc := 29) ckX10 5 q1079 dX10_set_29 (by decide) rfl mset_s rfl rfl (Nat.le_of_ble_eq_true rfl) ?_
  refine PJ.conv rfl rfl mset_m ?_
  refine pl_aload_n (pc := 32) dX10_set_32 rfl rfl ?_
  refine pl_aload_n (pc := 33) dX10_set_33 rfl rfl ?_
  refine pj_getf (pc := 34) ckX10 6 q1082 dX10_set_34 (by decide) (show (mset μ a _) b = _ from by rw [mset_n hab]; exact h2) rfl ?_
  refine pj_putf (pc := 37) ckX10 6 q1082 dX10_set_37 (by decide) rfl mset_s rfl rfl (Nat.le_of_ble_eq_true rfl) ?_
  refine PJ.conv rfl rfl mset_m ?_
  refine pl_aload_n (pc := 40) dX10_set_40 rfl rfl ?_
  refine pl_aload_n (pc := 41) dX10_set_41 rfl rfl ?_
  refine pj_getf (pc := 42) ckX10 7 q1085 dX10_set_42 (by decide) (show (mset μ a _) b = _ from by rw [mset_n hab]; exact h2) rfl ?_
  refine pj_putf (pc := 45) ckX10 7 q1085 dX10_set_45 (by decide) rfl mset_s rfl rfl (Nat.le_of_ble_eq_true rfl) ?_
  refine PJ.conv rfl rfl mset_m ?_
  refine pl_aload_n (pc := 48) dX10_set_48 rfl rfl ?_
  refine pl_aload_n (pc := 49) dX10_set_49 rfl rfl ?_
  refine pj_getf (pc := 50) ckX10 8 q1087 dX10_set_50 (by decide) (show (mset μ a _) b = _ from by rw [mset_n hab]; exact h2) rfl ?_
  refine pj_putf (pc := 53) ckX10 8 q1087 dX10_set_53 (by decide) rfl mset_s rfl rfl (Nat.le_of_ble_eq_true rfl) ?_
  refine PJ.conv rfl rfl mset_m ?_
  refine pl_aload_n (pc := 56) dX10_set_56 rfl rfl ?_
  refine pl_aload_n (pc := 57) dX10_set_57 rfl rfl ?_
  refine pj_getf (pc := 58) ckX10 9 q1090 dX10_set_58 (by decide) (show (mset μ a _) b = _ from by rw [mset_n hab]; exact h2) rfl ?_
  refine pj_putf (pc := 61) ckX10 9 q1090 dX10_set_61 (by decide) rfl mset_s rfl rfl (Nat.le_of_ble_eq_true rfl) ?_
  refine PJ.conv rfl rfl mset_m ?_
  refine pj_vret (pc := 64) dX10_set_64 rfl ?_
  exact ⟨rfl, rfl⟩
