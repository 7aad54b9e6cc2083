set_option maxRecDepth 100000
theorem dfJ2 : ∀ j, j < 3 → defaultValue (tyJ2 j) = vp_V [.int 0, .null, .int 0] j := by
  intro j hj
  rcases (by omega : j = 0 ∨ j = 1 ∨ j = 2) with rfl | rfl | rfl <;> rfl
set_option maxHeartbeats 600000 in
theorem k_X26_init {g : GP} {μ : Mem} {d : Nat} (hd : 5 ≤ d) {q : Nat} (hm : μ q = some (.inr (28, [.null]))) : PM g yX26_init (ws_ yX26_init cX26_init 1 none) d 2 5 [.ref q] μ (WQ none (fun M => ∃ p e9, μ p = none ∧ μ e9 = none ∧ e9 ≠ p ∧ q ≠ p ∧ q ≠ e9 ∧ M = mset (mset (mset μ e9 (lstA g 2 (fun _ => none))) p (.inr (2, [.int (nI 0), .ref e9, .int 0]))) q (.inr (28, [.ref p])))) := by
  refine PM.of (by decide +kernel) (Nat.le_of_ble_eq_true rfl) ?_
  refine PJ.ok (fun G => ?_)
  show PJ g _ _ _ _ d 2 5 0 [(0, .ref q)] [] _ _
  refine pl_aload_n (pc := 0) dX26_init_0 rfl rfl ?_
  refine pj_objInit (pc := 1) q2163 q187 q188 dX26_init_1 (by omega) (by decide) ?_
  refine pl_aload_n (pc := 4) dX26_init_4 rfl rfl ?_
  refine pj_new (pc := 5) (C1 := 1) (N1 := 2) ckJ2 q2164 q196 q129 dX26_init_5 _ dfJ2 (by omega) (by omega) (fun q_5 hn_5 gq_5 => ?_)
  refine pj_dup (pc := 8) dX26_init_8 rfl ?_
  refine pl_iconst (pc := 9) (v := 2) dX26_init_9 (by rfl) ?_
  refine pl_callIWv (pc := 10) (As := [_]) (C1 := 1) (N1 := 2) (C2 := 0) (N2 := 0) mdJ2_init rfl q2165 q198 q129 dX26_init_10 rfl rfl (Nat.le_of_ble_eq_true rfl) (k_J2_init (d := d - 1) (by omega) mset_s) (by omega) (by omega) (by omega) (fun My1 qy1 => ?_)
  obtain ⟨e9, he1, he2, rfl⟩ := qy1
  have hq5 : q ≠ q_5 := fun z => by rw [← z, hm] at hn_5; cases hn_5
  have hqe : q ≠ e9 := fun z => by rw [← z, mset_n hq5, hm] at he1; cases he1
  refine pj_putfF (pc := 13) ckX26 0 q2166 dX26_init_13 (by decide) rfl rfl rfl ((mset_n hq5).trans ((mset_n hqe).trans ((mset_n hq5).trans hm))) rfl rfl (Nat.le_of_ble_eq_true rfl) ?_
  refine pj_vret (pc := 16) dX26_init_16 rfl ?_
  exact ⟨rfl, q_5, e9, hn_5, by rw [mset_n he2] at he1; exact he1, he2, hq5, hqe, by rw [mset_c (Ne.symm he2), mset_m]; rfl⟩
set_option maxHeartbeats 600000 in
theorem k_X26_init_a {g : GP} {μ : Mem} {d : Nat} (hd : 5 ≤ d) {q : Nat} (hm : μ q = some (.inr (29, [.null]))) : PM g yX26_init (ws_ yX26_init cX26_init 1 none) d 2 5 [.ref q] μ (WQ none (fun M => ∃ p e9, μ p = none ∧ μ e9 = none ∧ e9 ≠ p ∧ q ≠ p ∧ q ≠ e9 ∧ M = mset (mset (mset μ e9 (lstA g 2 (fun _ => none))) p (.inr (2, [.int (nI 0), .ref e9, .int 0]))) q (.inr (29, [.ref p])))) := by
  refine PM.of (by decide +kernel) (Nat.le_of_ble_eq_true rfl) ?_
  refine PJ.ok (fun G => ?_)
  show PJ g _ _ _ _ d 2 5 0 [(0, .ref q)] [] _ _
  refine pl_aload_n (pc := 0) dX26_init_0 rfl rfl ?_
  refine pj_objInit (pc := 1) q2163 q187 q188 dX26_init_1 (by omega) (by decide) ?_
  refine pl_aload_n (pc := 4) dX26_init_4 rfl rfl ?_
  refine pj_new (pc := 5) (C1 := 1) (N1 := 2) ckJ2 q2164 q196 q129 dX26_init_5 _ dfJ2 (by omega) (by omega) (fun q_5 hn_5 gq_5 => ?_)
  refine pj_dup (pc := 8) dX26_init_8 rfl ?_
  refine pl_iconst (pc := 9) (v := 2) dX26_init_9 (by rfl) ?_
  refine pl_callIWv (pc := 10) (As := [_]) (C1 := 1) (N1 := 2) (C2 := 0) (N2 := 0) mdJ2_init rfl q2165 q198 q129 dX26_init_10 rfl rfl (Nat.le_of_ble_eq_true rfl) (k_J2_init (d := d - 1) (by omega) mset_s) (by omega) (by omega) (by omega) (fun My1 qy1 => ?_)
  obtain ⟨e9, he1, he2, rfl⟩ := qy1
  have hq5 : q ≠ q_5 := fun z => by rw [← z, hm] at hn_5; cases hn_5
  have hqe : q ≠ e9 := fun z => by rw [← z, mset_n hq5, hm] at he1; cases he1
  refine pj_putfF (pc := 13) ckX27 0 q2166 dX26_init_13 (by decide) rfl rfl rfl ((mset_n hq5).trans ((mset_n hqe).trans ((mset_n hq5).trans hm))) rfl rfl (Nat.le_of_ble_eq_true rfl) ?_
  refine pj_vret (pc := 16) dX26_init_16 rfl ?_
  exact ⟨rfl, q_5, e9, hn_5, by rw [mset_n he2] at he1; exact he1, he2, hq5, hqe, by rw [mset_c (Ne.symm he2), mset_m]; rfl⟩
