set_option maxRecDepth 100000
set_option maxHeartbeats 600000 in
theorem k_J14_copyOf_3 {g : GP} {μ : Mem} {d : Nat} (hd : 2 ≤ d) {a n k mi : Nat} {f : Nat → Option Nat} (hm : μ a = some (lstA g n f)) (hel : ∀ i, i < n → ∀ y, f i = some y → ElO μ "java/lang/Object" y) (hnk : n ≤ k) (hk : k < 100000) (hM : va_Mi "[Ljava/lang/Object;" mi (gS g)) : PM g yJ14_copyOf_3 (ws_ yJ14_copyOf_3 cJ14_copyOf_3 4 (some (.array (.object "java/lang/Object")))) d 1 k [.ref a, .int (nI k), .ref mi] μ (fun o M => ∃ q : Nat, o = .inl (some (.ref q)) ∧ μ q = none ∧ gF g q ∧ M = mset μ q (lstA g k (va_cpy f (fun _ => none) 0 0 n))) := by
  refine PM.of (by decide +kernel) (Nat.le_of_ble_eq_true rfl) ?_
  refine PJ.ok (fun G => ?_)
  show PJ g _ _ _ _ d 1 k 0 [(0, .ref a), (1, .int (nI k)), (2, .ref mi)] [] _ _
  refine pl_aload_n (pc := 0) dJ14_copyOf_3_0 rfl rfl ?_
  refine pj_ldcM (pc := 1) hM q700 dJ14_copyOf_3_1 ?_
  refine pj_acmp_ne (pc := 3) (tgt := 13) (rx := some mi) (ry := some mi) dJ14_copyOf_3_3 (by decide) (fun h => absurd rfl h) (fun _ => ?_)
  refine pl_iload_n (pc := 6) dJ14_copyOf_3_6 rfl rfl ?_
  refine pj_newq (pc := 7) (t0 := 5) (N9 := k) (C1 := 0) (N1 := 0) dJ14_copyOf_3_7 q701 q208 rfl (Int32.not_lt.mpr (nI_pos' (by omega))) (nI_clamp (by omega)) (by omega) (by omega) (by omega) (fun q hq gq => ?_)
  have hqa : q ≠ a := fun z => by rw [z, hm] at hq; cases hq
  have hm2 : (mset μ q (lstA g k (fun _ => none))) a = some (lstA g n f) := by rw [mset_n (Ne.symm hqa)]; exact hm
  have hq2 : (mset μ q (lstA g k (fun _ => none))) q = some (lstA g k (fun _ => none)) := mset_s
  have hel2 : ∀ i, i < n → ∀ y, f (0 + i) = some y → ElO (mset μ q (lstA g k (fun _ => none))) "java/lang/Object" y := by
    intro i hi y hy
    obtain ⟨ci, vs, r, h1, h2, h3⟩ := hel i hi y (by rw [← hy, Nat.zero_add])
    exact ⟨ci, vs, r, by rw [mset_n (fun z => by rw [z, hq] at h1; cases h1)]; exact h1, h2, h3⟩
  refine pj_goto (pc := 10) (tgt := 24) dJ14_copyOf_3_10 (by decide) ?_
  refine pj_astore_n (pc := 24) (lv' := [(3, _), (0, _), (1, _), (2, _)]) dJ14_copyOf_3_24 rfl (by decide) rfl ?_
  refine pl_aload_n (pc := 25) dJ14_copyOf_3_25 rfl rfl ?_
  refine pl_iconst (pc := 26) (v := 0) dJ14_copyOf_3_26 (by rfl) ?_
  refine pl_aload_n (pc := 27) dJ14_copyOf_3_27 rfl rfl ?_
  refine pl_iconst (pc := 28) (v := 0) dJ14_copyOf_3_28 (by rfl) ?_
  refine pl_aload_n (pc := 29) dJ14_copyOf_3_29 rfl rfl ?_
  refine pj_alen (pc := 30) 5 dJ14_copyOf_3_30 hm2 rfl (v := nI n) rfl ?_
  refine pl_iload_n (pc := 31) dJ14_copyOf_3_31 rfl rfl ?_
  refine pj_mmin (pc := 32) q361 dJ14_copyOf_3_32 (by omega) (Nat.le_of_ble_eq_true rfl) ?_
  refine PJ.top (y := nI n) (if_neg (nI_nlt hnk (by omega))) ?_
  refine pj_copyq (pc := 35) 5 q364 dJ14_copyOf_3_35 hm2 hq2 rfl (sp := 0) (dp := 0) (k := n) (by omega) (by omega) (by omega) (by omega) hel2 (by omega) (Nat.le_of_ble_eq_true rfl) ?_
  refine PJ.conv rfl rfl mset_m ?_
  refine pl_aload_n (pc := 38) dJ14_copyOf_3_38 rfl rfl ?_
  refine pj_aret (pc := 39) dJ14_copyOf_3_39 rfl (Or.inr ⟨_, rfl⟩) (Or.inr ⟨_, rfl⟩) ?_
  exact ⟨q, rfl, hq, gq, rfl⟩
