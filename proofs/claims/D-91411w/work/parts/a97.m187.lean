set_option maxRecDepth 100000
/-- what was there is there, but for the reader -/
def PeX (μ0 : Mem) (rd : Nat) (M : Mem) : Prop := ∀ x e, x ≠ rd → μ0 x = some e → M x = some e
/-- a step of the reader: a fault (kind, place), or where it stands and how many are open -/
def RV0 (μ0 : Mem) (rd t n : Nat) (x : (Nat × Nat) ⊕ (Nat × Nat)) : OC → Mem → Prop := fun o9 M => match x with
  | .inl (k, w) => ∃ q, o9 = .inr ("SettlerColony$Wrong", q) ∧ M q = some (wr0 (nI k) (nI w)) ∧ PeX μ0 rd M
  | .inr (p, o) => o9 = .inl none ∧ RdX μ0 rd t n p o M
theorem RdS.X {μ0 M : Mem} {rd t n p o : Nat} (h : RdS μ0 rd t n p o M) : RdX μ0 rd t n p o M := ⟨h.1, fun x e hx he => (h.2 x hx).trans he⟩
theorem RdX.new {μ0 M : Mem} {rd t n p o q : Nat} {c : va_E} (h : RdX μ0 rd t n p o M) (hq : M q = none) : PeX μ0 rd (mset M q c) := fun x e hx he => (mset_n (fun z => by have h2 := h.2 x e hx he; rw [z, hq] at h2; cases h2)).trans (h.2 x e hx he)
def needP (B : Nat → Nat) (n ch p o : Nat) : (Nat × Nat) ⊕ (Nat × Nat) := if B (sk B n p) = ch then .inr (sk B n p + 1, o) else .inl (1, sk B n p)
set_option maxHeartbeats 600000 in
theorem k_X18_wrong {g : GP} {μ : Mem} {d : Nat} (hd : 4 ≤ d) {rd t n p o : Nat} (h0 : μ rd = some (rdO t n p o)) : PM g yX18_wrong (ws_ yX18_wrong cX18_wrong 1 (some (.object "SettlerColony$Wrong"))) d 1 8 [.ref rd] μ (fun o9 M => ∃ q : Nat, o9 = .inl (some (.ref q)) ∧ μ q = none ∧ M = mset μ q (wr0 (nI 1) (nI p))) := by
  refine PM.of (by decide +kernel) (Nat.le_of_ble_eq_true rfl) ?_
  refine PJ.ok (fun G => ?_)
  show PJ g _ _ _ _ d 1 8 0 [(0, .ref rd)] [] _ _
  refine pj_new (pc := 0) (C1 := 0) (N1 := 0) ckX20 q2006 q2007 q169 dX18_wrong_0 _ dfX20 (by omega) (by omega) (fun q_0 hn_0 gq_0 => ?_)
  refine pj_dup (pc := 3) dX18_wrong_3 rfl ?_
  have hne : rd ≠ q_0 := fun z => by rw [← z, h0] at hn_0; cases hn_0
  refine pl_iconst (pc := 4) (v := 1) dX18_wrong_4 (by rfl) ?_
  refine pl_aload_n (pc := 5) dX18_wrong_5 rfl rfl ?_
  refine pj_getf (pc := 6) ckX18 2 q1863 dX18_wrong_6 (by decide) ((mset_n hne).trans h0) rfl ?_
  refine pl_callIv (pc := 9) (As := [_, _]) (C1 := 0) (N1 := 0) (C2 := 0) (N2 := 0) mdX20_init rfl q2015 q2016 q169 dX18_wrong_9 rfl rfl (Nat.le_of_ble_eq_true rfl) (k_X20_init (d := d - 1) (by omega) mset_s) (by omega) (by omega) (by omega) ?_
  refine PJ.mem mset_m ?_
  refine pj_aret (pc := 12) dX18_wrong_12 rfl (Or.inl ⟨_, rfl⟩) (Or.inr ⟨_, rfl⟩) ?_
  exact ⟨q_0, rfl, hn_0, rfl⟩
set_option maxHeartbeats 600000 in
theorem x_X18_need {g : GP} {μ : Mem} {d : Nat} {rd t n p o : Nat} {r : Nat → Int32} {B : Nat → Nat} (hd : 5 ≤ d) (h0 : μ rd = some (rdO t n p o)) (ht : μ t = some (intX g 2 300 r)) (htr : t ≠ rd) (tx : TxR r n B) (hp : p ≤ n) {ch : Nat} (hch : ch < 128) (hch0 : 0 < ch) : PM g yX18_need (ws_ yX18_need cX18_need 2 none) d 1 8 [.ref rd, .int (nI ch)] μ (RV0 μ rd t n (needP B n ch p o)) := by
  refine PM.of (by decide +kernel) (Nat.le_of_ble_eq_true rfl) ?_
  refine PJ.ok (fun G => ?_)
  show PJ g _ _ _ _ d 1 8 0 [(0, .ref rd), (1, .int (nI ch))] [] _ _
  have h := RdS.rf h0
  have hn3 := tx.1
  refine pl_aload_n (pc := 0) dX18_need_0 rfl rfl ?_
  refine pl_callVWd (pc := 1) (As := []) (C1 := 0) (N1 := 0) (C2 := 1) (N2 := 8) ckX18 mdX18_sign rfl q1896 q1898 qs15 q167 dX18_need_1 rfl rfl (Nat.le_of_ble_eq_true rfl) (h.1) (x_X18_sign (d := d - 1) (by omega) h0 ht htr tx hp) (by omega) (by omega) (by omega) (fun My1 qy1 => ?_)
  have y1 := qy1
  refine pl_iload_n (pc := 4) dX18_need_4 rfl rfl ?_
  refine pj_icmp_eq (pc := 5) (tgt := 13) dX18_need_5 (by decide) (fun c5 => ?_) (fun c5 => ?_)
  · refine pl_aload_n (pc := 13) dX18_need_13 rfl rfl ?_
    refine pj_dup (pc := 14) dX18_need_14 rfl ?_
    refine pj_getf (pc := 15) ckX18 2 q1863 dX18_need_15 (by decide) (y1.1) rfl ?_
    refine pl_iconst (pc := 18) (v := 1) dX18_need_18 (by rfl) ?_
    refine pl_iadd (pc := 19) dX18_need_19 ?_
    refine pj_putf (pc := 20) ckX18 2 q1863 dX18_need_20 (by decide) rfl y1.1 rfl rfl (Nat.le_of_ble_eq_true rfl) ?_
    refine sxg (T := RdS μ rd t n (sk B n p + 1) o) (RdS.put (p1 := (sk B n p + 1)) (o1 := o) y1) (fun My2 y2 => ?_)
    refine pj_vret (pc := 23) dX18_need_23 rfl ?_
    have e9 : needP B n ch p o = .inr (sk B n p + 1, o) := if_pos ((sB_eq _ (tx.2.2.1 _) ch hch).mp c5)
    rw [e9]
    exact ⟨rfl, y2.X⟩
  · refine pl_aload_n (pc := 8) dX18_need_8 rfl rfl ?_
    refine pl_callVQ (pc := 9) (As := []) (C1 := 1) (N1 := 8) (C2 := 0) (N2 := 0) ckX18 mdX18_wrong rfl q2002 q2004 qs17 q167 dX18_need_9 rfl rfl (Nat.le_of_ble_eq_true rfl) y1.1 (k_X18_wrong (d := d - 1) (by omega) y1.1) (by omega) (by omega) (by omega) (fun q_9 M_9 hM_9 => ?_)
    obtain ⟨hn9, rfl⟩ := hM_9
    refine pj_athrow (pc := 12) ckX20 dX18_need_12 mset_s ?_
    refine px_out0 rfl ?_
    have e9 : needP B n ch p o = .inl (1, sk B n p) := if_neg (fun z => c5 ((sB_eq _ (tx.2.2.1 _) ch hch).mpr z))
    rw [e9]
    exact ⟨q_9, rfl, mset_s, RdX.new (RdS.X y1) hn9⟩
