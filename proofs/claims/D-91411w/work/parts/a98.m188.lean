set_option maxRecDepth 100000
def opensR (b p o : Nat) : (Nat × Nat) ⊕ (Nat × Nat) := if o = 8 then .inl (3, p) else .inr (p + b, o + 1)
set_option maxHeartbeats 600000 in
theorem x_X18_opens {g : GP} {μ : Mem} {d : Nat} {rd t n p o : Nat} (hd : 4 ≤ d) (h0 : μ rd = some (rdO t n p o)) (hp : p ≤ n) (hn3 : n ≤ 300) (ho : o ≤ 8) {b : Nat} (hb : b ≤ 3) : PM g yX18_opens (ws_ yX18_opens cX18_opens 2 none) d 1 8 [.ref rd, .int (nI b)] μ (RV0 μ rd t n (opensR b p o)) := by
  refine PM.of (by decide +kernel) (Nat.le_of_ble_eq_true rfl) ?_
  refine PJ.ok (fun G => ?_)
  show PJ g _ _ _ _ d 1 8 0 [(0, .ref rd), (1, .int (nI b))] [] _ _
  have h := RdS.rf h0
  refine pl_aload_n (pc := 0) dX18_opens_0 rfl rfl ?_
  refine pj_getf (pc := 1) ckX18 3 q1864 dX18_opens_1 (by decide) (h.1) rfl ?_
  refine pl_bipush (pc := 4) (v := 8) dX18_opens_4 (by rfl) ?_
  refine pl_icmp_ne (pc := 6) (tgt := 22) dX18_opens_6 (by decide) (by omega) (by omega) (fun c6 => ?_) (fun c6 => ?_)
  · refine pl_aload_n (pc := 22) dX18_opens_22 rfl rfl ?_
    refine pj_dup (pc := 23) dX18_opens_23 rfl ?_
    refine pj_getf (pc := 24) ckX18 3 q1864 dX18_opens_24 (by decide) (h.1) rfl ?_
    refine pl_iconst (pc := 27) (v := 1) dX18_opens_27 (by rfl) ?_
    refine pl_iadd (pc := 28) dX18_opens_28 ?_
    refine pj_putf (pc := 29) ckX18 3 q1864 dX18_opens_29 (by decide) rfl h.1 rfl rfl (Nat.le_of_ble_eq_true rfl) ?_
    refine sxg (T := RdS μ rd t n p (o + 1)) (RdS.put (p1 := p) (o1 := (o + 1)) h) (fun My1 y1 => ?_)
    refine pl_aload_n (pc := 32) dX18_opens_32 rfl rfl ?_
    refine pj_dup (pc := 33) dX18_opens_33 rfl ?_
    refine pj_getf (pc := 34) ckX18 2 q1863 dX18_opens_34 (by decide) (y1.1) rfl ?_
    refine pl_iload_n (pc := 37) dX18_opens_37 rfl rfl ?_
    refine pl_iadd (pc := 38) dX18_opens_38 ?_
    refine pj_putf (pc := 39) ckX18 2 q1863 dX18_opens_39 (by decide) rfl y1.1 rfl rfl (Nat.le_of_ble_eq_true rfl) ?_
    refine sxg (T := RdS μ rd t n (p + b) (o + 1)) (RdS.put (p1 := (p + b)) (o1 := (o + 1)) y1) (fun My2 y2 => ?_)
    refine pj_vret (pc := 42) dX18_opens_42 rfl ?_
    have e9 : opensR b p o = .inr (p + b, o + 1) := if_neg (by omega)
    rw [e9]
    exact ⟨rfl, y2.X⟩
  · refine pj_new (pc := 9) (C1 := 0) (N1 := 0) ckX20 q2006 q2007 q169 dX18_opens_9 _ dfX20 (by omega) (by omega) (fun q_9 hn_9 gq_9 => ?_)
    refine pj_dup (pc := 12) dX18_opens_12 rfl ?_
    refine pl_iconst (pc := 13) (v := 3) dX18_opens_13 (by rfl) ?_
    have hne : rd ≠ q_9 := fun z => by rw [← z, h0] at hn_9; cases hn_9
    refine pl_aload_n (pc := 14) dX18_opens_14 rfl rfl ?_
    refine pj_getf (pc := 15) ckX18 2 q1863 dX18_opens_15 (by decide) ((mset_n hne).trans h0) rfl ?_
    refine pl_callIv (pc := 18) (As := [_, _]) (C1 := 0) (N1 := 0) (C2 := 0) (N2 := 0) mdX20_init rfl q2015 q2016 q169 dX18_opens_18 rfl rfl (Nat.le_of_ble_eq_true rfl) (k_X20_init (d := d - 1) (by omega) mset_s) (by omega) (by omega) (by omega) ?_
    refine PJ.mem mset_m ?_
    refine pj_athrow (pc := 21) ckX20 dX18_opens_21 mset_s ?_
    refine px_out0 rfl ?_
    have e9 : opensR b p o = .inl (3, p) := if_pos (by omega)
    rw [e9]
    exact ⟨q_9, rfl, mset_s, RdX.new (RdS.X h) hn_9⟩
