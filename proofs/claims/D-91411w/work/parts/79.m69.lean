set_option maxRecDepth 100000
set_option maxHeartbeats 600000 in
theorem k_J2_add_2g {g : GP} {μ : Mem} {d : Nat} (hd : 6 ≤ d) {a e n : Nat} {f : Nat → Option Nat} {mc : Int32} (hl : LstC g μ a e n n f mc) (hn1 : 1 ≤ n) (hn5 : n < 50000) (hel : ∀ i, i < n → ∀ y, f i = some y → ElO μ "java/lang/Object" y) {p ci : Nat} {vs : List Value} {r : vw_C} (hv : μ p = some (.inr (ci, vs))) (hc : vwCl[ci]? = some r) (hca : Cond.castable r.1 "java/lang/Object" ∈ lw_tbl) (hpa : p ≠ a) : PM g yJ2_add_2 (ws_ yJ2_add_2 cJ2_add_2 4 none) d 1 (grN n) [.ref a, .ref p, .ref e, .int (nI n)] μ (fun o M => ∃ q : Nat, o = .inl none ∧ μ q = none ∧ gF g q ∧ M = mset (mset μ a (lstO mc q (n + 1))) q (lstA g (grN n) (va_up (va_cpy f (fun _ => none) 0 0 n) n (some p)))) := by
  refine PM.of (by decide +kernel) (Nat.le_of_ble_eq_true rfl) ?_
  refine PJ.ok (fun G => ?_)
  show PJ g _ _ _ _ d 1 (grN n) 0 [(0, .ref a), (1, .ref p), (2, .ref e), (3, .int (nI n))] [] _ _
  obtain ⟨h1, h2, h3, h4⟩ := id hl
  refine pl_iload_n (pc := 0) dJ2_add_2_0 rfl rfl ?_
  refine pl_aload_n (pc := 1) dJ2_add_2_1 rfl rfl ?_
  refine pj_alen (pc := 2) 5 dJ2_add_2_2 hl.2.1 rfl (v := nI n) rfl ?_
  refine pl_icmp_ne (pc := 3) (tgt := 11) dJ2_add_2_3 (by decide) (by omega) (by omega) (fun c3 => ?_) (fun c3 => ?_)
  · exact absurd rfl c3
  · refine pl_aload_n (pc := 6) dJ2_add_2_6 rfl rfl ?_
    refine pl_callVQ (pc := 7) (As := []) (C2 := 0) (N2 := 0) ckJ2 mdJ2_grow rfl q640 q642 qs2 q129 dJ2_add_2_7 rfl rfl (Nat.le_of_ble_eq_true rfl) hl.1 (k_J2_grow (d := d - 1) (by omega) hl hn1 hn5 hel) (by omega) (Nat.le_refl _) (Nat.le_refl _) (fun q M hq => ?_)
    obtain ⟨hq, gq, rfl⟩ := hq
    have hg := grN_in hn5
    have hqa : q ≠ a := fun z => by rw [z, hl.1] at hq; cases hq
    have hqp : p ≠ q := fun z => by rw [z, hq] at hv; cases hv
    have hl2 : LstC g (mset (mset μ q (lstA g (grN n) (va_cpy f (fun _ => none) 0 0 n))) a (lstO mc q n)) a q n (grN n) (va_cpy f (fun _ => none) 0 0 n) mc := ⟨mset_s, by rw [mset_n hqa]; exact mset_s, by omega, hg.2⟩
    have hv2 : (mset (mset μ q (lstA g (grN n) (va_cpy f (fun _ => none) 0 0 n))) a (lstO mc q n)) p = some (.inr (ci, vs)) := by rw [mset_n hpa, mset_n hqp]; exact hv
    refine pj_astore_n (pc := 10) (lv' := [(2, _), (0, _), (1, _), (3, _)]) dJ2_add_2_10 rfl (by decide) rfl ?_
    refine pl_aload_n (pc := 11) dJ2_add_2_11 rfl rfl ?_
    refine pl_iload_n (pc := 12) dJ2_add_2_12 rfl rfl ?_
    refine pl_aload_n (pc := 13) dJ2_add_2_13 rfl rfl ?_
    refine pl_astq (pc := 14) 5 dJ2_add_2_14 hl2.2.1 rfl hv2 hc hca hg.1 (by omega) ?_
    have hl3 := hl2.a (f1 := va_up (va_cpy f (fun _ => none) 0 0 n) n (some p))
    refine pl_aload_n (pc := 15) dJ2_add_2_15 rfl rfl ?_
    refine pl_iload_n (pc := 16) dJ2_add_2_16 rfl rfl ?_
    refine pl_iconst (pc := 17) (v := 1) dJ2_add_2_17 (by rfl) ?_
    refine pl_iadd (pc := 18) dJ2_add_2_18 ?_
    refine pj_putf (pc := 19) ckJ2 2 q551 dJ2_add_2_19 (by decide) rfl hl3.1 rfl rfl (Nat.le_of_ble_eq_true rfl) ?_
    refine pj_vret (pc := 22) dJ2_add_2_22 rfl ?_
    exact ⟨q, rfl, hq, gq, by rw [mset_c hqa, mset_m, mset_c hqa, mset_m]; rfl⟩
