set_option maxRecDepth 100000
set_option maxHeartbeats 600000 in
theorem k_X19_init {g : GP} {μ : Mem} {d : Nat} (hd : 2 ≤ d) {q : Nat} (hm : μ q = some (.inr (21, [.null, .int 0]))) : PM g yX19_init (ws_ yX19_init cX19_init 1 none) d 1 8 [.ref q] μ (WQ none (fun M => ∃ e9, μ e9 = none ∧ e9 ≠ q ∧ M = mset (mset μ e9 (.inl (gA g 7, 8, .inr (.inr (.inr (.inr (fun _ => none))))))) q (.inr (21, [.ref e9, .int 0])))) := by
  refine PM.of (by decide +kernel) (Nat.le_of_ble_eq_true rfl) ?_
  refine PJ.ok (fun G => ?_)
  show PJ g _ _ _ _ d 1 8 0 [(0, .ref q)] [] _ _
  refine pl_aload_n (pc := 0) dX19_init_0 rfl rfl ?_
  refine pj_objInit (pc := 1) q1883 q187 q188 dX19_init_1 (by omega) (by decide) ?_
  refine pl_aload_n (pc := 4) dX19_init_4 rfl rfl ?_
  refine pl_bipush (pc := 5) (v := 8) dX19_init_5 (by rfl) ?_
  refine pj_newq (pc := 7) (C1 := 0) (N1 := 0) (t0 := 7) (N9 := 8) dX19_init_7 q1884 q1885 rfl (by decide) (by decide) (by decide) (by omega) (by omega) (fun q_7 hn_7 gq_7 => ?_)
  have hne : q ≠ q_7 := fun z => by rw [← z, hm] at hn_7; cases hn_7
  refine pj_putfF (pc := 10) ckX19 0 q1886 dX19_init_10 (by decide) rfl rfl rfl ((mset_n hne).trans hm) rfl rfl (Nat.le_of_ble_eq_true rfl) ?_
  refine pj_vret (pc := 13) dX19_init_13 rfl ?_
  exact ⟨rfl, q_7, hn_7, Ne.symm hne, rfl⟩
