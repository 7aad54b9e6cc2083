set_option maxRecDepth 100000
theorem unas {g : GP} (G : OkG g) : va_Zq "java/lang/Throwable" "UNASSIGNED_STACK" "[Ljava/lang/StackTraceElement;" (gF g) (gS g) (gS g).heap := va_Zqof (G_tbl G q238) (G_tbl G (lw_all_tbl q130)) (nr_leaf G [7, 1, 1] (by decide +kernel)) (gF_out g)
theorem sups {g : GP} (G : OkG g) : va_Zq "java/lang/Throwable" "SUPPRESSED_SENTINEL" "Ljava/util/List;" (gF g) (gS g) (gS g).heap := va_Zqof (G_tbl G q240) (G_tbl G (lw_all_tbl q130)) (nr_leaf G [7, 1, 0, 0] (by decide +kernel)) (gF_out g)
/-- a Wrong, fresh -/
def wr0 (k p : Int32) : va_E := .inr (23, [.null, .null, .null, .null, .null, .int 0, .int k, .int p])
set_option maxHeartbeats 600000 in
theorem k_J3_init_3 {g : GP} {μ : Mem} {d : Nat} (hd : 1 ≤ d) {q : Nat} (hm : μ q = some (wr0 0 0)) : PM g yJ3_init_3 (ws_ yJ3_init_3 cJ3_init_3 5 none) d 0 0 [.ref q, .null, .null, .int (nI 0), .int (nI 0)] μ (rQ none (mset μ q (wr0 0 0))) := by
  refine PM.of (by decide +kernel) (Nat.le_of_ble_eq_true rfl) ?_
  refine PJ.ok (fun G => ?_)
  show PJ g _ _ _ _ d 0 0 0 [(0, .ref q), (1, .null), (2, .null), (3, .int (nI 0)), (4, .int (nI 0))] [] _ _
  rcases unas G with hz1 | ⟨z1, hz1⟩
  · rcases sups G with hz2 | ⟨z2, hz2⟩
    · refine pl_aload_n (pc := 0) dJ3_init_3_0 rfl rfl ?_
      refine pj_objInit (pc := 1) q236 q187 q188 dJ3_init_3_1 (by omega) (by decide) ?_
      refine pl_aload_n (pc := 4) dJ3_init_3_4 rfl rfl ?_
      refine pl_aload_n (pc := 5) dJ3_init_3_5 rfl rfl ?_
      refine pj_putf (pc := 6) ckX20 0 q294 dJ3_init_3_6 (by decide) rfl hm rfl rfl (Nat.le_of_ble_eq_true rfl) ?_
      refine pl_aload_n (pc := 9) dJ3_init_3_9 rfl rfl ?_
      refine pj_gets (pc := 10) hz1 q237 dJ3_init_3_10 ?_
      refine pj_putf (pc := 13) ckX20 1 q295 dJ3_init_3_13 (by decide) rfl mset_s rfl rfl (Nat.le_of_ble_eq_true rfl) ?_
      refine PJ.mem mset_m ?_
      refine pl_aload_n (pc := 16) dJ3_init_3_16 rfl rfl ?_
      refine pj_gets (pc := 17) hz2 q239 dJ3_init_3_17 ?_
      refine pj_putf (pc := 20) ckX20 2 q296 dJ3_init_3_20 (by decide) rfl mset_s rfl rfl (Nat.le_of_ble_eq_true rfl) ?_
      refine PJ.mem mset_m ?_
      refine pl_iload (pc := 23) dJ3_init_3_23 rfl ?_
      refine pj_if_eq (pc := 25) (tgt := 36) dJ3_init_3_25 (by decide) (fun _ => ?_) (fun h => absurd h (by decide))
      refine pl_aload_n (pc := 36) dJ3_init_3_36 rfl rfl ?_
      refine pj_null (pc := 37) dJ3_init_3_37 ?_
      refine pj_putf (pc := 38) ckX20 1 q295 dJ3_init_3_38 (by decide) rfl mset_s rfl rfl (Nat.le_of_ble_eq_true rfl) ?_
      refine PJ.mem mset_m ?_
      refine pl_aload_n (pc := 41) dJ3_init_3_41 rfl rfl ?_
      refine pl_aload_nN (pc := 42) dJ3_init_3_42 rfl rfl ?_
      refine pj_putf (pc := 43) ckX20 3 q293 dJ3_init_3_43 (by decide) rfl mset_s rfl rfl (Nat.le_of_ble_eq_true rfl) ?_
      refine PJ.mem mset_m ?_
      refine pl_aload_n (pc := 46) dJ3_init_3_46 rfl rfl ?_
      refine pl_aload_nN (pc := 47) dJ3_init_3_47 rfl rfl ?_
      refine pj_putf (pc := 48) ckX20 0 q294 dJ3_init_3_48 (by decide) rfl mset_s rfl rfl (Nat.le_of_ble_eq_true rfl) ?_
      refine PJ.mem mset_m ?_
      refine pl_iload_n (pc := 51) dJ3_init_3_51 rfl rfl ?_
      refine pj_if_ne (pc := 52) (tgt := 60) dJ3_init_3_52 (by decide) (fun h => absurd h (by decide)) (fun _ => ?_)
      refine pl_aload_n (pc := 55) dJ3_init_3_55 rfl rfl ?_
      refine pj_null (pc := 56) dJ3_init_3_56 ?_
      refine pj_putf (pc := 57) ckX20 2 q296 dJ3_init_3_57 (by decide) rfl mset_s rfl rfl (Nat.le_of_ble_eq_true rfl) ?_
      refine PJ.mem mset_m ?_
      refine pj_vret (pc := 60) dJ3_init_3_60 rfl ?_
      exact ⟨rfl, rfl⟩
    · refine pl_aload_n (pc := 0) dJ3_init_3_0 rfl rfl ?_
      refine pj_objInit (pc := 1) q236 q187 q188 dJ3_init_3_1 (by omega) (by decide) ?_
      refine pl_aload_n (pc := 4) dJ3_init_3_4 rfl rfl ?_
      refine pl_aload_n (pc := 5) dJ3_init_3_5 rfl rfl ?_
      refine pj_putf (pc := 6) ckX20 0 q294 dJ3_init_3_6 (by decide) rfl hm rfl rfl (Nat.le_of_ble_eq_true rfl) ?_
      refine pl_aload_n (pc := 9) dJ3_init_3_9 rfl rfl ?_
      refine pj_gets (pc := 10) hz1 q237 dJ3_init_3_10 ?_
      refine pj_putf (pc := 13) ckX20 1 q295 dJ3_init_3_13 (by decide) rfl mset_s rfl rfl (Nat.le_of_ble_eq_true rfl) ?_
      refine PJ.mem mset_m ?_
      refine pl_aload_n (pc := 16) dJ3_init_3_16 rfl rfl ?_
      refine pj_gets (pc := 17) hz2 q239 dJ3_init_3_17 ?_
      refine pj_putf (pc := 20) ckX20 2 q296 dJ3_init_3_20 (by decide) rfl mset_s rfl rfl (Nat.le_of_ble_eq_true rfl) ?_
      refine PJ.mem mset_m ?_
      refine pl_iload (pc := 23) dJ3_init_3_23 rfl ?_
      refine pj_if_eq (pc := 25) (tgt := 36) dJ3_init_3_25 (by decide) (fun _ => ?_) (fun h => absurd h (by decide))
      refine pl_aload_n (pc := 36) dJ3_init_3_36 rfl rfl ?_
      refine pj_null (pc := 37) dJ3_init_3_37 ?_
      refine pj_putf (pc := 38) ckX20 1 q295 dJ3_init_3_38 (by decide) rfl mset_s rfl rfl (Nat.le_of_ble_eq_true rfl) ?_
      refine PJ.mem mset_m ?_
      refine pl_aload_n (pc := 41) dJ3_init_3_41 rfl rfl ?_
      refine pl_aload_nN (pc := 42) dJ3_init_3_42 rfl rfl ?_
      refine pj_putf (pc := 43) ckX20 3 q293 dJ3_init_3_43 (by decide) rfl mset_s rfl rfl (Nat.le_of_ble_eq_true rfl) ?_
      refine PJ.mem mset_m ?_
      refine pl_aload_n (pc := 46) dJ3_init_3_46 rfl rfl ?_
      refine pl_aload_nN (pc := 47) dJ3_init_3_47 rfl rfl ?_
      refine pj_putf (pc := 48) ckX20 0 q294 dJ3_init_3_48 (by decide) rfl mset_s rfl rfl (Nat.le_of_ble_eq_true rfl) ?_
      refine PJ.mem mset_m ?_
      refine pl_iload_n (pc := 51) dJ3_init_3_51 rfl rfl ?_
      refine pj_if_ne (pc := 52) (tgt := 60) dJ3_init_3_52 (by decide) (fun h => absurd h (by decide)) (fun _ => ?_)
      refine pl_aload_n (pc := 55) dJ3_init_3_55 rfl rfl ?_
      refine pj_null (pc := 56) dJ3_init_3_56 ?_
      refine pj_putf (pc := 57) ckX20 2 q296 dJ3_init_3_57 (by decide) rfl mset_s rfl rfl (Nat.le_of_ble_eq_true rfl) ?_
      refine PJ.mem mset_m ?_
      refine pj_vret (pc := 60) dJ3_init_3_60 rfl ?_
      exact ⟨rfl, rfl⟩
  · rcases sups G with hz2 | ⟨z2, hz2⟩
    · refine pl_aload_n (pc := 0) dJ3_init_3_0 rfl rfl ?_
      refine pj_objInit (pc := 1) q236 q187 q188 dJ3_init_3_1 (by omega) (by decide) ?_
      refine pl_aload_n (pc := 4) dJ3_init_3_4 rfl rfl ?_
      refine pl_aload_n (pc := 5) dJ3_init_3_5 rfl rfl ?_
      refine pj_putf (pc := 6) ckX20 0 q294 dJ3_init_3_6 (by decide) rfl hm rfl rfl (Nat.le_of_ble_eq_true rfl) ?_
      refine pl_aload_n (pc := 9) dJ3_init_3_9 rfl rfl ?_
      refine pj_gets (pc := 10) hz1 q237 dJ3_init_3_10 ?_
      refine pj_putf (pc := 13) ckX20 1 q295 dJ3_init_3_13 (by decide) rfl mset_s rfl rfl (Nat.le_of_ble_eq_true rfl) ?_
      refine PJ.mem mset_m ?_
      refine pl_aload_n (pc := 16) dJ3_init_3_16 rfl rfl ?_
      refine pj_gets (pc := 17) hz2 q239 dJ3_init_3_17 ?_
      refine pj_putf (pc := 20) ckX20 2 q296 dJ3_init_3_20 (by decide) rfl mset_s rfl rfl (Nat.le_of_ble_eq_true rfl) ?_
      refine PJ.mem mset_m ?_
      refine pl_iload (pc := 23) dJ3_init_3_23 rfl ?_
      refine pj_if_eq (pc := 25) (tgt := 36) dJ3_init_3_25 (by decide) (fun _ => ?_) (fun h => absurd h (by decide))
      refine pl_aload_n (pc := 36) dJ3_init_3_36 rfl rfl ?_
      refine pj_null (pc := 37) dJ3_init_3_37 ?_
      refine pj_putf (pc := 38) ckX20 1 q295 dJ3_init_3_38 (by decide) rfl mset_s rfl rfl (Nat.le_of_ble_eq_true rfl) ?_
      refine PJ.mem mset_m ?_
      refine pl_aload_n (pc := 41) dJ3_init_3_41 rfl rfl ?_
      refine pl_aload_nN (pc := 42) dJ3_init_3_42 rfl rfl ?_
      refine pj_putf (pc := 43) ckX20 3 q293 dJ3_init_3_43 (by decide) rfl mset_s rfl rfl (Nat.le_of_ble_eq_true rfl) ?_
      refine PJ.mem mset_m ?_
      refine pl_aload_n (pc := 46) dJ3_init_3_46 rfl rfl ?_
      refine pl_aload_nN (pc := 47) dJ3_init_3_47 rfl rfl ?_
      refine pj_putf (pc := 48) ckX20 0 q294 dJ3_init_3_48 (by decide) rfl mset_s rfl rfl (Nat.le_of_ble_eq_true rfl) ?_
      refine PJ.mem mset_m ?_
      refine pl_iload_n (pc := 51) dJ3_init_3_51 rfl rfl ?_
      refine pj_if_ne (pc := 52) (tgt := 60) dJ3_init_3_52 (by decide) (fun h => absurd h (by decide)) (fun _ => ?_)
      refine pl_aload_n (pc := 55) dJ3_init_3_55 rfl rfl ?_
      refine pj_null (pc := 56) dJ3_init_3_56 ?_
      refine pj_putf (pc := 57) ckX20 2 q296 dJ3_init_3_57 (by decide) rfl mset_s rfl rfl (Nat.le_of_ble_eq_true rfl) ?_
      refine PJ.mem mset_m ?_
      refine pj_vret (pc := 60) dJ3_init_3_60 rfl ?_
      exact ⟨rfl, rfl⟩
    · refine pl_aload_n (pc := 0) dJ3_init_3_0 rfl rfl ?_
      refine pj_objInit (pc := 1) q236 q187 q188 dJ3_init_3_1 (by omega) (by decide) ?_
      refine pl_aload_n (pc := 4) dJ3_init_3_4 rfl rfl ?_
      refine pl_aload_n (pc := 5) dJ3_init_3_5 rfl rfl ?_
      refine pj_putf (pc := 6) ckX20 0 q294 dJ3_init_3_6 (by decide) rfl hm rfl rfl (Nat.le_of_ble_eq_true rfl) ?_
      refine pl_aload_n (pc := 9) dJ3_init_3_9 rfl rfl ?_
      refine pj_gets (pc := 10) hz1 q237 dJ3_init_3_10 ?_
      refine pj_putf (pc := 13) ckX20 1 q295 dJ3_init_3_13 (by decide) rfl mset_s rfl rfl (Nat.le_of_ble_eq_true rfl) ?_
      refine PJ.mem mset_m ?_
      refine pl_aload_n (pc := 16) dJ3_init_3_16 rfl rfl ?_
      refine pj_gets (pc := 17) hz2 q239 dJ3_init_3_17 ?_
      refine pj_putf (pc := 20) ckX20 2 q296 dJ3_init_3_20 (by decide) rfl mset_s rfl rfl (Nat.le_of_ble_eq_true rfl) ?_
      refine PJ.mem mset_m ?_
      refine pl_iload (pc := 23) dJ3_init_3_23 rfl ?_
      refine pj_if_eq (pc := 25) (tgt := 36) dJ3_init_3_25 (by decide) (fun _ => ?_) (fun h => absurd h (by decide))
      refine pl_aload_n (pc := 36) dJ3_init_3_36 rfl rfl ?_
      refine pj_null (pc := 37) dJ3_init_3_37 ?_
      refine pj_putf (pc := 38) ckX20 1 q295 dJ3_init_3_38 (by decide) rfl mset_s rfl rfl (Nat.le_of_ble_eq_true rfl) ?_
      refine PJ.mem mset_m ?_
      refine pl_aload_n (pc := 41) dJ3_init_3_41 rfl rfl ?_
      refine pl_aload_nN (pc := 42) dJ3_init_3_42 rfl rfl ?_
      refine pj_putf (pc := 43) ckX20 3 q293 dJ3_init_3_43 (by decide) rfl mset_s rfl rfl (Nat.le_of_ble_eq_true rfl) ?_
      refine PJ.mem mset_m ?_
      refine pl_aload_n (pc := 46) dJ3_init_3_46 rfl rfl ?_
      refine pl_aload_nN (pc := 47) dJ3_init_3_47 rfl rfl ?_
      refine pj_putf (pc := 48) ckX20 0 q294 dJ3_init_3_48 (by decide) rfl mset_s rfl rfl (Nat.le_of_ble_eq_true rfl) ?_
      refine PJ.mem mset_m ?_
      refine pl_iload_n (pc := 51) dJ3_init_3_51 rfl rfl ?_
      refine pj_if_ne (pc := 52) (tgt := 60) dJ3_init_3_52 (by decide) (fun h => absurd h (by decide)) (fun _ => ?_)
      refine pl_aload_n (pc := 55) dJ3_init_3_55 rfl rfl ?_
      refine pj_null (pc := 56) dJ3_init_3_56 ?_
      refine pj_putf (pc := 57) ckX20 2 q296 dJ3_init_3_57 (by decide) rfl mset_s rfl rfl (Nat.le_of_ble_eq_true rfl) ?_
      refine PJ.mem mset_m ?_
      refine pj_vret (pc := 60) dJ3_init_3_60 rfl ?_
      exact ⟨rfl, rfl⟩
set_option maxHeartbeats 600000 in
theorem k_J4_init_3 {g : GP} {μ : Mem} {d : Nat} (hd : 2 ≤ d) {q : Nat} (hm : μ q = some (wr0 0 0)) : PM g yJ4_init_3 (ws_ yJ4_init_3 cJ4_init_3 5 none) d 0 0 [.ref q, .null, .null, .int (nI 0), .int (nI 0)] μ (rQ none (mset μ q (wr0 0 0))) := by
  refine PM.of (by decide +kernel) (Nat.le_of_ble_eq_true rfl) ?_
  refine PJ.ok (fun G => ?_)
  show PJ g _ _ _ _ d 0 0 0 [(0, .ref q), (1, .null), (2, .null), (3, .int (nI 0)), (4, .int (nI 0))] [] _ _
  refine pl_aload_n (pc := 0) dJ4_init_3_0 rfl rfl ?_
  refine pl_aload_nN (pc := 1) dJ4_init_3_1 rfl rfl ?_
  refine pl_aload_nN (pc := 2) dJ4_init_3_2 rfl rfl ?_
  refine pl_iload_n (pc := 3) dJ4_init_3_3 rfl rfl ?_
  refine pl_iload (pc := 4) dJ4_init_3_4 rfl ?_
  refine pl_callIv (pc := 6) (As := [_, _, _, _]) (C1 := 0) (N1 := 0) (C2 := 0) (N2 := 0) mdJ3_init_3 rfl q2021 q2022 q130 dJ4_init_3_6 rfl rfl (Nat.le_of_ble_eq_true rfl) (k_J3_init_3 (d := d - 1) (by omega) hm) (by omega) (by omega) (by omega) ?_
  refine pj_vret (pc := 9) dJ4_init_3_9 rfl ?_
  exact ⟨rfl, rfl⟩
set_option maxHeartbeats 600000 in
theorem k_X20_init {g : GP} {μ : Mem} {d : Nat} (hd : 3 ≤ d) {q : Nat} (hm : μ q = some (wr0 0 0)) {k p : Int32} : PM g yX20_init (ws_ yX20_init cX20_init 3 none) d 0 0 [.ref q, .int k, .int p] μ (rQ none (mset μ q (wr0 k p))) := by
  refine PM.of (by decide +kernel) (Nat.le_of_ble_eq_true rfl) ?_
  refine PJ.ok (fun G => ?_)
  show PJ g _ _ _ _ d 0 0 0 [(0, .ref q), (1, .int k), (2, .int p)] [] _ _
  refine pl_aload_n (pc := 0) dX20_init_0 rfl rfl ?_
  refine pj_null (pc := 1) dX20_init_1 ?_
  refine pj_null (pc := 2) dX20_init_2 ?_
  refine pl_iconst (pc := 3) (v := 0) dX20_init_3 (by rfl) ?_
  refine pl_iconst (pc := 4) (v := 0) dX20_init_4 (by rfl) ?_
  refine pl_callIv (pc := 5) (As := [_, _, _, _]) (C1 := 0) (N1 := 0) (C2 := 0) (N2 := 0) mdJ4_init_3 rfl q2018 q2019 q131 dX20_init_5 rfl rfl (Nat.le_of_ble_eq_true rfl) (k_J4_init_3 (d := d - 1) (by omega) hm) (by omega) (by omega) (by omega) ?_
  refine pl_aload_n (pc := 8) dX20_init_8 rfl rfl ?_
  refine pl_iload_n (pc := 9) dX20_init_9 rfl rfl ?_
  refine pj_putfF (pc := 10) ckX20 6 q2024 dX20_init_10 (by decide) rfl rfl rfl mset_s rfl rfl (Nat.le_of_ble_eq_true rfl) ?_
  refine PJ.mem mset_m ?_
  refine pl_aload_n (pc := 13) dX20_init_13 rfl rfl ?_
  refine pl_iload_n (pc := 14) dX20_init_14 rfl rfl ?_
  refine pj_putfF (pc := 15) ckX20 7 q2026 dX20_init_15 (by decide) rfl rfl rfl mset_s rfl rfl (Nat.le_of_ble_eq_true rfl) ?_
  refine PJ.mem mset_m ?_
  refine pj_vret (pc := 18) dX20_init_18 rfl ?_
  exact ⟨rfl, rfl⟩
