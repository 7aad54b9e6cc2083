set_option maxRecDepth 100000
set_option maxHeartbeats 600000 in
theorem k_J0_init {g : GP} {μ : Mem} {d : Nat} (hd : 1 ≤ d) {q : Nat}  : PM g yJ0_init (ws_ yJ0_init cJ0_init 1 none) d 0 0 [.ref q] μ (rQ none μ) := by
  refine PM.of (by decide +kernel) (Nat.le_of_ble_eq_true rfl) ?_
  refine PJ.ok (fun G => ?_)
  show PJ g _ _ _ _ d 0 0 0 [(0, .ref q)] [] _ _
  refine pl_aload_n (pc := 0) dJ0_init_0 rfl rfl ?_
  refine pj_objInit (pc := 1) q206 q187 q188 dJ0_init_1 (by omega) (by decide) ?_
  refine pj_vret (pc := 4) dJ0_init_4 rfl ?_
  exact ⟨rfl, rfl⟩
set_option maxHeartbeats 600000 in
theorem k_J1_init {g : GP} {μ : Mem} {d : Nat} (hd : 2 ≤ d) {q : Nat} {m9 s9 : Int32} (hm : μ q = some (.inr (2, [.int m9, .null, .int s9]))) : PM g yJ1_init (ws_ yJ1_init cJ1_init 1 none) d 0 0 [.ref q] μ (rQ none (mset μ q (.inr (2, [.int (nI 0), .null, .int s9])))) := by
  refine PM.of (by decide +kernel) (Nat.le_of_ble_eq_true rfl) ?_
  refine PJ.ok (fun G => ?_)
  show PJ g _ _ _ _ d 0 0 0 [(0, .ref q)] [] _ _
  refine pl_aload_n (pc := 0) dJ1_init_0 rfl rfl ?_
  refine pl_callIv (pc := 1) (As := []) (C1 := 0) (N1 := 0) (C2 := 0) (N2 := 0) mdJ0_init rfl q203 q204 q127 dJ1_init_1 rfl rfl (Nat.le_of_ble_eq_true rfl) (k_J0_init (d := d - 1) (by omega)) (by omega) (by omega) (by omega) ?_
  refine pl_aload_n (pc := 4) dJ1_init_4 rfl rfl ?_
  refine pl_iconst (pc := 5) (v := 0) dJ1_init_5 (by rfl) ?_
  refine pj_putf (pc := 6) ckJ2 0 q552 dJ1_init_6 (by decide) rfl hm rfl rfl (Nat.le_of_ble_eq_true rfl) ?_
  refine pj_vret (pc := 9) dJ1_init_9 rfl ?_
  exact ⟨rfl, rfl⟩
set_option maxHeartbeats 600000 in
theorem k_J2_init {g : GP} {μ : Mem} {d : Nat} (hd : 4 ≤ d) {q : Nat} {m9 : Int32} (hm : μ q = some (.inr (2, [.int m9, .null, .int 0]))) : PM g yJ2_init (ws_ yJ2_init cJ2_init 2 none) d 1 2 [.ref q, .int (nI 2)] μ (WQ none (fun M => ∃ e9, μ e9 = none ∧ e9 ≠ q ∧ M = mset (mset μ e9 (lstA g 2 (fun _ => none))) q (.inr (2, [.int (nI 0), .ref e9, .int 0])))) := by
  refine PM.of (by decide +kernel) (Nat.le_of_ble_eq_true rfl) ?_
  refine PJ.ok (fun G => ?_)
  show PJ g _ _ _ _ d 1 2 0 [(0, .ref q), (1, .int (nI 2))] [] _ _
  refine pl_aload_n (pc := 0) dJ2_init_0 rfl rfl ?_
  refine pl_callIv (pc := 1) (As := []) (C1 := 0) (N1 := 0) (C2 := 1) (N2 := 2) mdJ1_init rfl q200 q201 q128 dJ2_init_1 rfl rfl (Nat.le_of_ble_eq_true rfl) (k_J1_init (d := d - 1) (by omega) hm) (by omega) (by omega) (by omega) ?_
  refine pl_iload_n (pc := 4) dJ2_init_4 rfl rfl ?_
  refine pj_if_le (pc := 5) (tgt := 19) dJ2_init_5 (by decide) (fun h => absurd h (by decide)) (fun _ => ?_)
  refine pl_aload_n (pc := 8) dJ2_init_8 rfl rfl ?_
  refine pl_iload_n (pc := 9) dJ2_init_9 rfl rfl ?_
  refine pj_newq (pc := 10) (C1 := 0) (N1 := 0) (t0 := 5) (N9 := 2) dJ2_init_10 q207 q208 rfl (by decide) (by decide) (by decide) (by omega) (by omega) (fun q_10 hn_10 gq_10 => ?_)
  have hne : q ≠ q_10 := fun z => by rw [← z, mset_s] at hn_10; cases hn_10
  refine pj_putf (pc := 13) ckJ2 1 q550 dJ2_init_13 (by decide) rfl ((mset_n hne).trans mset_s) rfl rfl (Nat.le_of_ble_eq_true rfl) ?_
  refine pj_goto (pc := 16) (tgt := 60) dJ2_init_16 (by decide) ?_
  refine pj_vret (pc := 60) dJ2_init_60 rfl ?_
  exact ⟨rfl, q_10, by rw [mset_n (Ne.symm hne)] at hn_10; exact hn_10, Ne.symm hne, by rw [mset_c hne, mset_m]; rfl⟩
