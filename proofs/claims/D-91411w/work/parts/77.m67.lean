set_option maxRecDepth 100000
/-- how many places an array of n has when it grows -/
def grN (n : Nat) : Nat := n + (if 1 < n / 2 then n / 2 else 1)
theorem grN_in {n : Nat} (h : n < 50000) : n < grN n ∧ grN n < 100000 := by unfold grN; split <;> omega
theorem shr1 {n : Nat} (h : n < 2 ^ 31) : nI n >>> ((nI 1) &&& 31) = nI (n / 2) := by
  have k := pk_shrN (n := n) h (nI 1 &&& 31) 1 (by decide)
  rw [Nat.pow_one] at k
  exact k
set_option maxHeartbeats 600000 in
theorem k_J2_grow_2 {g : GP} {μ : Mem} {d : Nat} (hd : 4 ≤ d) {a e n : Nat} {f : Nat → Option Nat} {mc : Int32} (hl : LstC g μ a e n n f mc) (hn1 : 1 ≤ n) (hn5 : n < 50000) (hel : ∀ i, i < n → ∀ y, f i = some y → ElO μ "java/lang/Object" y) : PM g yJ2_grow_2 (ws_ yJ2_grow_2 cJ2_grow_2 4 (some (.array (.object "java/lang/Object")))) d 1 (grN n) [.ref a, .int (nI (n + 1))] μ (fun o M => ∃ q : Nat, o = .inl (some (.ref q)) ∧ μ q = none ∧ gF g q ∧ M = mset (mset μ q (lstA g (grN n) (va_cpy f (fun _ => none) 0 0 n))) a (lstO mc q n)) := by
  refine PM.of (by decide +kernel) (Nat.le_of_ble_eq_true rfl) ?_
  refine PJ.ok (fun G => ?_)
  show PJ g _ _ _ _ d 1 (grN n) 0 [(0, .ref a), (1, .int (nI (n + 1)))] [] _ _
  obtain ⟨h1, h2, h3, h4⟩ := id hl
  refine pl_aload_n (pc := 0) dJ2_grow_2_0 rfl rfl ?_
  refine pj_getf (pc := 1) ckJ2 1 q550 dJ2_grow_2_1 (by decide) hl.1 rfl ?_
  refine pj_alen (pc := 4) 5 dJ2_grow_2_4 hl.2.1 rfl (v := nI n) rfl ?_
  refine pj_istore_n (pc := 5) (lv' := [(2, _), (0, _), (1, _)]) dJ2_grow_2_5 rfl (by decide) rfl ?_
  refine pl_iload_n (pc := 6) dJ2_grow_2_6 rfl rfl ?_
  refine pl_if_gtN (pc := 7) (tgt := 20) dJ2_grow_2_7 (by decide) (by omega) (fun c7 => ?_) (fun c7 => ?_)
  · refine pl_iload_n (pc := 20) dJ2_grow_2_20 rfl rfl ?_
    refine pl_iload_n (pc := 21) dJ2_grow_2_21 rfl rfl ?_
    refine pl_iload_n (pc := 22) dJ2_grow_2_22 rfl rfl ?_
    refine pl_isub (pc := 23) dJ2_grow_2_23 (by omega) ?_
    refine PJ.top (y := nI 1) (by rw [show n + 1 - n = 1 by omega]) ?_
    refine pl_iload_n (pc := 24) dJ2_grow_2_24 rfl rfl ?_
    refine pl_iconst (pc := 25) (v := 1) dJ2_grow_2_25 (by rfl) ?_
    refine pj_ishr (pc := 26) dJ2_grow_2_26 ?_
    refine PJ.top (y := nI (n / 2)) (shr1 (by omega)) ?_
    refine pl_callSd (pc := 27) (As := [_, _, _]) (C2 := 1) (N2 := grN n) mdJ12_newLength q650 q341 q139 dJ2_grow_2_27 rfl rfl (Nat.le_of_ble_eq_true rfl) (k_J12_newLength (d := d - 1) (by omega) (by omega) (by omega) (by omega) (by decide)) (by omega) (by omega) (by omega) ?_
    refine PJ.top (y := nI (grN n)) rfl ?_
    refine pj_istore_n (pc := 30) (lv' := [(3, _), (2, _), (0, _), (1, _)]) dJ2_grow_2_30 rfl (by decide) rfl ?_
    refine pl_aload_n (pc := 31) dJ2_grow_2_31 rfl rfl ?_
    refine pl_aload_n (pc := 32) dJ2_grow_2_32 rfl rfl ?_
    refine pj_getf (pc := 33) ckJ2 1 q550 dJ2_grow_2_33 (by decide) hl.1 rfl ?_
    refine pl_iload_n (pc := 36) dJ2_grow_2_36 rfl rfl ?_
    refine pl_callSQ (pc := 37) (As := [_, _]) (C2 := 0) (N2 := 0) mdJ14_copyOf_2 q651 q652 q141 dJ2_grow_2_37 rfl rfl (Nat.le_of_ble_eq_true rfl) (k_J14_copyOf_2 (d := d - 1) (by omega) hl.2.1 hel (Nat.le_of_lt (grN_in hn5).1) (grN_in hn5).2) (by omega) (Nat.le_refl _) (Nat.le_refl _) (fun q M hq => ?_)
    obtain ⟨hq, gq, rfl⟩ := hq
    have hqa : q ≠ a := fun z => by rw [z, hl.1] at hq; cases hq
    have h1 : (mset μ q (lstA g (grN n) (va_cpy f (fun _ => none) 0 0 n))) a = some (lstO mc e n) := by rw [mset_n (Ne.symm hqa)]; exact hl.1
    refine pj_dup_x1 (pc := 40) dJ2_grow_2_40 rfl rfl ?_
    refine pj_putf (pc := 41) ckJ2 1 q550 dJ2_grow_2_41 (by decide) rfl h1 rfl rfl (Nat.le_of_ble_eq_true rfl) ?_
    refine pj_aret (pc := 44) dJ2_grow_2_44 rfl (Or.inr ⟨_, rfl⟩) (Or.inr ⟨_, rfl⟩) ?_
    exact ⟨q, rfl, hq, gq, rfl⟩
  · exact absurd c7 (by omega)
