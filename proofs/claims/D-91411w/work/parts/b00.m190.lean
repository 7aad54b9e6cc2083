set_option maxRecDepth 100000
def closesR (B : Nat → Nat) (n ch p o : Nat) : (Nat × Nat) ⊕ (Nat × Nat) := match needP B n ch p o with
  | .inl z => .inl z
  | .inr z => .inr (z.1, z.2 - 1)
theorem needP_o {B : Nat → Nat} {n ch p o p1 o1 : Nat} (h : needP B n ch p o = .inr (p1, o1)) : o1 = o ∧ p1 = sk B n p + 1 ∧ B (sk B n p) = ch := by
  unfold needP at h
  by_cases c : B (sk B n p) = ch
  · rw [if_pos c] at h
    cases h
    exact ⟨rfl, rfl, c⟩
  · rw [if_neg c] at h
    cases h
set_option maxHeartbeats 600000 in
theorem x_X18_closes {g : GP} {μ : Mem} {d : Nat} {rd t n p o : Nat} {r : Nat → Int32} {B : Nat → Nat} (hd : 6 ≤ d) (h0 : μ rd = some (rdO t n p o)) (ht : μ t = some (intX g 2 300 r)) (htr : t ≠ rd) (tx : TxR r n B) (hp : p ≤ n) {ch : Nat} (hch : ch < 128) (hch0 : 0 < ch) (ho1 : 1 ≤ o) : PM g yX18_closes (ws_ yX18_closes cX18_closes 2 none) d 1 8 [.ref rd, .int (nI ch)] μ (RV0 μ rd t n (closesR B n ch p o)) := by
  refine PM.of (by decide +kernel) (Nat.le_of_ble_eq_true rfl) ?_
  refine PJ.ok (fun G => ?_)
  show PJ g _ _ _ _ d 1 8 0 [(0, .ref rd), (1, .int (nI ch))] [] _ _
  have hn3 := tx.1
  refine pl_aload_n (pc := 0) dX18_closes_0 rfl rfl ?_
  refine pl_iload_n (pc := 1) dX18_closes_1 rfl rfl ?_
  refine pl_callVE (pc := 2) (As := [_]) (C1 := 1) (N1 := 8) (C2 := 0) (N2 := 0) ckX18 mdX18_need rfl q2045 q2047 qs20 q167 dX18_closes_2 rfl rfl (Nat.le_of_ble_eq_true rfl) h0 (x_X18_need (d := d - 1) (by omega) h0 ht htr tx hp hch hch0) (by omega) (by omega) (by omega) (fun p1 o1 M1 hx hX => ?_) (fun k9 w9 q9 M1 hx hq hP => px_out0 rfl (by unfold closesR; rw [hx]; exact ⟨q9, rfl, hq, hP⟩))
  obtain ⟨rfl, e1, -⟩ := needP_o hx
  refine pl_aload_n (pc := 5) dX18_closes_5 rfl rfl ?_
  refine pj_dup (pc := 6) dX18_closes_6 rfl ?_
  refine pj_getf (pc := 7) ckX18 3 q1864 dX18_closes_7 (by decide) hX.1 rfl ?_
  refine pl_iconst (pc := 10) (v := 1) dX18_closes_10 (by rfl) ?_
  refine pj_isub (pc := 11) dX18_closes_11 ?_
  refine PJ.top (y := nI (o1 - 1)) (pk_sub ho1) ?_
  refine pj_putf (pc := 12) ckX18 3 q1864 dX18_closes_12 (by decide) rfl hX.1 rfl rfl (Nat.le_of_ble_eq_true rfl) ?_
  refine pj_vret (pc := 15) dX18_closes_15 rfl ?_
  unfold closesR
  rw [hx]
  exact ⟨rfl, hX.of⟩
