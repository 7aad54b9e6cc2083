set_option maxRecDepth 100000
def bracketR (B : Nat → Nat) (n p o : Nat) : (Nat × Nat) ⊕ (Nat × Nat) := if B (sk B n p) = 40 then opensR 1 (sk B n p) o else .inl (1, sk B n p)
theorem RdX.tr {μ M M1 : Mem} {rd t n p o p1 o1 : Nat} (h : RdX μ rd t n p o M) (k : RdX M rd t n p1 o1 M1) : RdX μ rd t n p1 o1 M1 := ⟨k.1, fun x e hx he => k.2 x e hx (h.2 x e hx he)⟩
theorem RdX.trP {μ M M1 : Mem} {rd t n p o : Nat} (h : RdX μ rd t n p o M) (k : PeX M rd M1) : PeX μ rd M1 := fun x e hx he => k x e hx (h.2 x e hx he)
set_option maxHeartbeats 600000 in
theorem x_X18_bracket {g : GP} {μ : Mem} {d : Nat} {rd t n p o : Nat} {r : Nat → Int32} {B : Nat → Nat} (hd : 6 ≤ d) (h0 : μ rd = some (rdO t n p o)) (ht : μ t = some (intX g 2 300 r)) (htr : t ≠ rd) (tx : TxR r n B) (hp : p ≤ n) (ho : o ≤ 8) : PM g yX18_bracket (ws_ yX18_bracket cX18_bracket 1 none) d 1 8 [.ref rd] μ (RV0 μ rd t n (bracketR B n p o)) := by
  refine PM.of (by decide +kernel) (Nat.le_of_ble_eq_true rfl) ?_
  refine PJ.ok (fun G => ?_)
  show PJ g _ _ _ _ d 1 8 0 [(0, .ref rd)] [] _ _
  have h := RdS.rf h0
  have hn3 := tx.1
  refine pl_aload_n (pc := 0) dX18_bracket_0 rfl rfl ?_
  refine pl_callVWd (pc := 1) (As := []) (C1 := 0) (N1 := 0) (C2 := 1) (N2 := 8) ckX18 mdX18_sign rfl q1896 q1898 qs15 q167 dX18_bracket_1 rfl rfl (Nat.le_of_ble_eq_true rfl) (h.1) (x_X18_sign (d := d - 1) (by omega) h0 ht htr tx hp) (by omega) (by omega) (by omega) (fun My1 qy1 => ?_)
  have y1 := qy1
  refine pl_bipush (pc := 4) (v := 40) dX18_bracket_4 (by rfl) ?_
  refine pj_icmp_eq (pc := 6) (tgt := 14) dX18_bracket_6 (by decide) (fun c6 => ?_) (fun c6 => ?_)
  · refine pl_aload_n (pc := 14) dX18_bracket_14 rfl rfl ?_
    refine pl_iconst (pc := 15) (v := 1) dX18_bracket_15 (by rfl) ?_
    have e9 : bracketR B n p o = opensR 1 (sk B n p) o := if_pos ((sB_eq _ (tx.2.2.1 _) 40 (by decide)).mp c6)
    rw [e9]
    have hs9 := (sk_in (B := B) hp).2
    refine pl_callVE (pc := 16) (As := [_]) (C1 := 1) (N1 := 8) (C2 := 0) (N2 := 0) ckX18 mdX18_opens rfl q2079 q2081 qs25 q167 dX18_bracket_16 rfl rfl (Nat.le_of_ble_eq_true rfl) y1.1 (x_X18_opens (d := d - 1) (by omega) y1.1 hs9 hn3 ho (by decide)) (by omega) (by omega) (by omega) (fun p1 o1 M1 hx hX => ?_) (fun k9 w9 q9 M1 hx hq hP => px_out0 rfl (by rw [hx]; exact ⟨q9, rfl, hq, (RdS.X y1).trP hP⟩))
    refine pj_vret (pc := 19) dX18_bracket_19 rfl ?_
    rw [hx]
    exact ⟨rfl, (RdS.X y1).tr hX⟩
  · refine pl_aload_n (pc := 9) dX18_bracket_9 rfl rfl ?_
    refine pl_callVQ (pc := 10) (As := []) (C1 := 1) (N1 := 8) (C2 := 0) (N2 := 0) ckX18 mdX18_wrong rfl q2002 q2004 qs17 q167 dX18_bracket_10 rfl rfl (Nat.le_of_ble_eq_true rfl) y1.1 (k_X18_wrong (d := d - 1) (by omega) y1.1) (by omega) (by omega) (by omega) (fun q_9 M_9 hM_9 => ?_)
    obtain ⟨hn9, rfl⟩ := hM_9
    refine pj_athrow (pc := 13) ckX20 dX18_bracket_13 mset_s ?_
    refine px_out0 rfl ?_
    have e9 : bracketR B n p o = .inl (1, sk B n p) := if_neg (fun z => c6 ((sB_eq _ (tx.2.2.1 _) 40 (by decide)).mpr z))
    rw [e9]
    exact ⟨q_9, rfl, mset_s, RdX.new (RdS.X y1) hn9⟩
