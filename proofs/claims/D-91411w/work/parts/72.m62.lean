set_option maxRecDepth 100000
theorem maxN {a b : Nat} (ha : a < 100000) (hb : b < 100000) : (if nI a < nI b then nI b else nI a) = nI (if a < b then b else a) := by
  by_cases h : a < b
  · rw [if_pos h, if_pos ((nI_ltI (by omega) (by omega)).mpr h)]
  · rw [if_neg h, if_neg (fun z => h ((nI_ltI (by omega) (by omega)).mp z))]
set_option maxHeartbeats 600000 in
theorem k_J12_newLength {g : GP} {μ : Mem} {d : Nat} (hd : 1 ≤ d) {n a b : Nat} (hn : n < 100000) (ha : a < 100000) (hb : b < 100000) (ha1 : 1 ≤ a) : PM g yJ12_newLength (ws_ yJ12_newLength cJ12_newLength 4 (some .int)) d 0 0 [.int (nI n), .int (nI a), .int (nI b)] μ (rQ (some (.int (nI (n + (if a < b then b else a))))) μ) := by
  refine PM.of (by decide +kernel) (Nat.le_of_ble_eq_true rfl) ?_
  refine PJ.ok (fun G => ?_)
  show PJ g _ _ _ _ d 0 0 0 [(0, .int (nI n)), (1, .int (nI a)), (2, .int (nI b))] [] _ _
  have hm : (if a < b then b else a) < 100000 := by split <;> assumption
  have hM1 : 1 ≤ (if a < b then b else a) := by split <;> omega
  refine pl_iload_n (pc := 0) dJ12_newLength_0 rfl rfl ?_
  refine pl_iload_n (pc := 1) dJ12_newLength_1 rfl rfl ?_
  refine pl_iload_n (pc := 2) dJ12_newLength_2 rfl rfl ?_
  refine pj_mmax (pc := 3) q343 dJ12_newLength_3 (by omega) (Nat.le_of_ble_eq_true rfl) ?_
  refine PJ.top (y := nI (if a < b then b else a)) (maxN ha hb) ?_
  refine pl_iadd (pc := 6) dJ12_newLength_6 ?_
  refine pj_istore_n (pc := 7) (lv' := [(3, _), (0, _), (1, _), (2, _)]) dJ12_newLength_7 rfl (by decide) rfl ?_
  refine pl_iconst (pc := 8) (v := 0) dJ12_newLength_8 (by rfl) ?_
  refine pl_iload_n (pc := 9) dJ12_newLength_9 rfl rfl ?_
  refine pl_icmp_ge (pc := 10) (tgt := 21) dJ12_newLength_10 (by decide) (by omega) (by omega) (fun c10 => ?_) (fun c10 => ?_)
  · exact absurd c10 (by omega)
  · refine pl_iload_n (pc := 13) dJ12_newLength_13 rfl rfl ?_
    refine pj_ldc (pc := 14) q346 dJ12_newLength_14 ?_
    refine pj_icmp_gt (pc := 16) (tgt := 21) dJ12_newLength_16 (by decide) (fun c16 => ?_) (fun c16 => ?_)
    · exact absurd c16 (nI_nlt (a := 2147483639) (b := _) (by omega) (by decide))
    · refine pl_iload_n (pc := 19) dJ12_newLength_19 rfl rfl ?_
      refine pj_iret (pc := 20) dJ12_newLength_20 rfl ?_
      exact ⟨rfl, rfl⟩
