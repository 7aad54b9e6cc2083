set_option maxRecDepth 100000
set_option maxHeartbeats 600000 in
theorem k_J2_grow {g : GP} {μ : Mem} {d : Nat} (hd : 5 ≤ d) {a e n : Nat} {f : Nat → Option Nat} {mc : Int32} (hl : LstC g μ a e n n f mc) (hn1 : 1 ≤ n) (hn5 : n < 50000) (hel : ∀ i, i < n → ∀ y, f i = some y → ElO μ "java/lang/Object" y) : PM g yJ2_grow (ws_ yJ2_grow cJ2_grow 1 (some (.array (.object "java/lang/Object")))) d 1 (grN n) [.ref a] μ (fun o M => ∃ q : Nat, o = .inl (some (.ref q)) ∧ μ q = none ∧ gF g q ∧ M = mset (mset μ q (lstA g (grN n) (va_cpy f (fun _ => none) 0 0 n))) a (lstO mc q n)) := by
  refine PM.of (by decide +kernel) (Nat.le_of_ble_eq_true rfl) ?_
  refine PJ.ok (fun G => ?_)
  show PJ g _ _ _ _ d 1 (grN n) 0 [(0, .ref a)] [] _ _
  obtain ⟨h1, h2, h3, h4⟩ := id hl
  refine pl_aload_n (pc := 0) dJ2_grow_0 rfl rfl ?_
  refine pl_aload_n (pc := 1) dJ2_grow_1 rfl rfl ?_
  refine pj_getf (pc := 2) ckJ2 2 q551 dJ2_grow_2 (by decide) hl.1 rfl ?_
  refine pl_iconst (pc := 5) (v := 1) dJ2_grow_5 (by rfl) ?_
  refine pl_iadd (pc := 6) dJ2_grow_6 ?_
  refine pl_callVQ (pc := 7) (As := [_]) (C2 := 0) (N2 := 0) ckJ2 mdJ2_grow_2 rfl q644 q646 qs3 q129 dJ2_grow_7 rfl rfl (Nat.le_of_ble_eq_true rfl) hl.1 (k_J2_grow_2 (d := d - 1) (by omega) hl hn1 hn5 hel) (by omega) (Nat.le_refl _) (Nat.le_refl _) (fun q M hq => ?_)
  refine pj_aret (pc := 10) dJ2_grow_10 rfl (Or.inr ⟨_, rfl⟩) (Or.inr ⟨_, rfl⟩) ?_
  exact ⟨q, rfl, hq⟩
