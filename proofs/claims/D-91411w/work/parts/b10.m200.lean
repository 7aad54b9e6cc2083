set_option maxRecDepth 100000
theorem StX.ofX {μ M : Mem} {rd t n p o p0 o0 : Nat} (h : RdX μ rd t n p o M) (h0 : μ rd = some (rdO t n p0 o0)) : StX μ rd t n p o (fun _ => none) M := ⟨h, fun _ _ z => absurd z (by simp), by rw [h0]; exact fun z => by cases z⟩
theorem dg_no1 : ∀ b, b < 256 → sB b < nI 48 → isD b = false := by decide +kernel
theorem dg_no2 : ∀ b, b < 256 → nI 57 < sB b → isD b = false := by decide +kernel
theorem dg_yes : ∀ b, b < 256 → ¬ sB b < nI 48 → ¬ nI 57 < sB b → isD b = true := by decide +kernel
theorem dg_in {b : Nat} (h : isD b = true) : 48 ≤ b ∧ b ≤ 57 := by
  unfold isD at h
  rw [Bool.and_eq_true, decide_eq_true_eq, decide_eq_true_eq] at h
  exact h
def minF (w b : Nat) : Nat := if 10000 < 10 * w + (b - 48) then 10000 else 10 * w + (b - 48)
theorem fig_min {w b : Nat} (hw : w ≤ 10000) (hb : 48 ≤ b ∧ b ≤ 57) : (if nI 10000 < nI (10 * w) + sB b - nI 48 then nI 10000 else nI (10 * w) + sB b - nI 48) = nI (minF w b) := by
  have e : nI (10 * w) + sB b - nI 48 = nI (10 * w + (b - 48)) := by
    rw [show sB b = nI b from if_pos (by omega), nI_add, pk_sub (by omega)]
    congr 1
    omega
  rw [e]
  unfold minF
  by_cases c : 10000 < 10 * w + (b - 48)
  · rw [if_pos c, if_pos (Int32.not_le.mp (fun z => by have := (nI_leI (by omega) (by omega)).mp z; omega))]
  · rw [if_neg c, if_neg (fun z => Int32.not_le.mpr z ((nI_leI (by omega) (by omega)).mpr (by omega)))]
def figW (v b : Nat) : Nat := if v ≤ 100000 then 10 * v + (b - 48) else v
theorem figW_in {v b : Nat} (hv : v ≤ 1000009) (hb : b ≤ 57) : figW v b ≤ 1000009 := by
  unfold figW
  split <;> omega
/-- the class's number and the model's -/
def capF (v : Nat) : Nat := if v ≤ 9999 then v else 10000
theorem cap_step {v b : Nat} (hb : 48 ≤ b ∧ b ≤ 57) : minF (capF v) b = capF (figW v b) := by
  unfold minF capF figW
  split <;> split <;> split <;> (try split) <;> omega
theorem fig_step {B : Nat → Nat} {n i v : Nat} (hi : i < n) (hv : v ≤ 1000009) (hd : isD (B i) = true) : figF B (n - i) i (nI v) = figF B (n - (i + 1)) (i + 1) (nI (figW v (B i))) := by
  obtain ⟨f, hf⟩ : ∃ f, n - i = f + 1 := ⟨n - i - 1, by omega⟩
  have hb := dg_in hd
  rw [hf, show n - (i + 1) = f by omega]
  show (if isD (B i) = false then (i, nI v) else figF B f (i + 1) (if ¬ nI v ≤ 100000 then nI v else nI 10 * nI v + nI (B i) - nI 48)) = _
  rw [if_neg (by rw [hd]; decide)]
  congr 1
  unfold figW
  have h1 : (nI v ≤ (100000 : Int32)) ↔ v ≤ 100000 := nI_leI (b := 100000) (by omega) (by omega)
  by_cases c : v ≤ 100000
  · rw [if_neg (fun z => z (h1.mpr c)), if_pos c, pk_mul, nI_add, pk_sub (by omega)]
    congr 1
    omega
  · rw [if_pos (fun z => c (h1.mp z)), if_neg c]
theorem fig_end {B : Nat → Nat} {n i v : Nat} (h : n ≤ i ∨ isD (B i) = false) : figF B (n - i) i (nI v) = (i, nI v) := by
  rcases Nat.eq_zero_or_pos (n - i) with z | z
  · rw [z]
    rfl
  · obtain ⟨f, hf⟩ : ∃ f, n - i = f + 1 := ⟨n - i - 1, by omega⟩
    rw [hf]
    show (if isD (B i) = false then (i, nI v) else _) = _
    rw [if_pos (h.resolve_left (by omega))]
set_option maxHeartbeats 600000 in
theorem x_X18_number {g : GP} {μ : Mem} {d : Nat} {rd t n p o : Nat} {r : Nat → Int32} {B : Nat → Nat} (hd : 6 ≤ d) (h0 : μ rd = some (rdO t n p o)) (ht : μ t = some (intX g 2 300 r)) (htr : t ≠ rd) (tx : TxR r n B) (hp : p ≤ n) {x : RP} (hdg : isD (B p) = true) (hx : figP B n p o = some x) : PM g yX18_number (ws_ yX18_number cX18_number 3 (some (.object "SettlerColony$Expr"))) d 1 8 [.ref rd] μ (RVX g GdE μ rd t n p 1 x) := by
  refine PM.of (by decide +kernel) (Nat.le_of_ble_eq_true rfl) ?_
  refine PJ.ok (fun G => ?_)
  show PJ g _ _ _ _ d 1 8 0 [(0, .ref rd)] [] _ _
  have h := RdS.rf h0
  have hn3 := tx.1
  refine pl_aload_n (pc := 0) dX18_number_0 rfl rfl ?_
  refine pj_getf (pc := 1) ckX18 2 q1863 dX18_number_1 (by decide) (h.1) rfl ?_
  refine pj_istore_n (pc := 4) (lv' := [(1, _), (0, _)]) dX18_number_4 rfl (by decide) rfl ?_
  refine pl_iconst (pc := 5) (v := 0) dX18_number_5 (by rfl) ?_
  refine pj_istore_n (pc := 6) (lv' := [(2, _), (1, _), (0, _)]) dX18_number_6 rfl (by decide) rfl ?_
  refine ind_dn (n := n) (P := fun i => ∀ M9 w v, RdS μ rd t n i o M9 → p ≤ i → figF B (n - p) p (nI 0) = figF B (n - i) i (nI v) → v ≤ 1000009 → w = capF v → PJ g _ _ _ _ d 1 8 7 [(2, .int (nI w)), (1, .int (nI p)), (0, .ref rd)] [] M9 _) (fun i hi ih M9 w v h9 hpi hv hv2 hw => ?_) p hp _ 0 0 h (Nat.le_refl _) rfl (by decide) rfl
  refine pl_aload_n (pc := 7) dX18_number_7 rfl rfl ?_
  refine pj_getf (pc := 8) ckX18 2 q1863 dX18_number_8 (by decide) (h9.1) rfl ?_
  refine pl_aload_n (pc := 11) dX18_number_11 rfl rfl ?_
  refine pj_getf (pc := 12) ckX18 1 q1862 dX18_number_12 (by decide) (h9.1) rfl ?_
  refine pl_icmp_ge (pc := 15) (tgt := 83) dX18_number_15 (by decide) (by omega) (by omega) (fun c15 => ?_) (fun c15 => ?_)
  · have e2 : figF B (n - p) p (nI 0) = (i, nI v) := hv.trans (fig_end (Or.inl (by omega)))
    have hw2 : w ≤ 10000 := by rw [hw]; unfold capF; split <;> omega
    refine pl_iload_n (pc := 83) dX18_number_83 rfl rfl ?_
    refine pl_sipush (pc := 84) (v := 9999) dX18_number_84 (by rfl) ?_
    refine pl_icmp_le (pc := 87) (tgt := 100) dX18_number_87 (by decide) (by omega) (by omega) (fun c87 => ?_) (fun c87 => ?_)
    · refine pj_new (pc := 100) (C1 := 0) (N1 := 7) ckX22 q2066 q2067 q171 dX18_number_100 _ dfX22 (by omega) (by omega) (fun q_100 hn_100 gq_100 => ?_)
      refine pj_dup (pc := 103) dX18_number_103 rfl ?_
      refine pl_iload_n (pc := 104) dX18_number_104 rfl rfl ?_
      refine pl_callIv (pc := 105) (As := [_]) (C1 := 0) (N1 := 0) (C2 := 0) (N2 := 7) mdX22_init rfl q2068 q2069 q171 dX18_number_105 rfl rfl (Nat.le_of_ble_eq_true rfl) (k_X22_init (d := d - 1) (by omega) mset_s) (by omega) (by omega) (by omega) ?_
      refine PJ.mem mset_m ?_
      refine pj_aret (pc := 108) dX18_number_108 rfl (Or.inl ⟨_, rfl⟩) (Or.inr ⟨_, rfl⟩) ?_
      have hv9 : v ≤ 9999 := Decidable.byContradiction (fun z => by rw [hw, show capF v = 10000 from if_neg z] at c87; omega)
      have ew : w = v := by rw [hw]; exact if_pos hv9
      subst ew
      have ex : x = .inr (i, o, [(0, nI w)]) := by
        unfold figP at hx
        rw [e2, if_neg (show ¬ ¬ (i, nI w).2 ≤ nI 9999 from fun z => z ((nI_leI (by omega) (by omega)).mpr hv9))] at hx
        exact (Option.some.inj hx).symm
      subst ex
      have hz := figF_in tx.2.2.2 (n - p) p (nI 0) hp
      rw [e2] at hz
      have hz2 : p < i := hz.2.2 hdg ((Nat.lt_or_ge p n).elim (fun z => by omega) (fun z => by rw [tx.2.2.2 p z] at hdg; cases hdg))
      have hS := StX.ofX (RdS.X h9) h0
      exact ⟨q_100, _, 1, rfl, (hS.new hn_100).keep (hS.mu hn_100) mset_s, GdE.mkN mset_s, by omega⟩
    · refine pj_new (pc := 90) (C1 := 0) (N1 := 0) ckX20 q2006 q2007 q169 dX18_number_90 _ dfX20 (by omega) (by omega) (fun q_90 hn_90 gq_90 => ?_)
      refine pj_dup (pc := 93) dX18_number_93 rfl ?_
      refine pl_iconst (pc := 94) (v := 2) dX18_number_94 (by rfl) ?_
      refine pl_iload_n (pc := 95) dX18_number_95 rfl rfl ?_
      refine pl_callIv (pc := 96) (As := [_, _]) (C1 := 0) (N1 := 0) (C2 := 0) (N2 := 0) mdX20_init rfl q2015 q2016 q169 dX18_number_96 rfl rfl (Nat.le_of_ble_eq_true rfl) (k_X20_init (d := d - 1) (by omega) mset_s) (by omega) (by omega) (by omega) ?_
      refine PJ.mem mset_m ?_
      refine pj_athrow (pc := 99) ckX20 dX18_number_99 mset_s ?_
      refine px_out0 rfl ?_
      have hv9 : ¬ v ≤ 9999 := fun z => by rw [hw, show capF v = v from if_pos z] at c87; omega
      have ex : x = .inl (2, p) := by
        unfold figP at hx
        rw [e2, if_pos (show ¬ (i, nI v).2 ≤ nI 9999 from fun z => hv9 ((nI_leI (by omega) (by omega)).mp z))] at hx
        exact (Option.some.inj hx).symm
      subst ex
      exact ⟨q_90, rfl, mset_s, RdX.new (RdS.X h9) hn_90⟩
  · refine pl_aload_n (pc := 18) dX18_number_18 rfl rfl ?_
    refine pj_getf (pc := 19) ckX18 0 q1861 dX18_number_19 (by decide) (h9.1) rfl ?_
    refine pl_aload_n (pc := 22) dX18_number_22 rfl rfl ?_
    refine pj_getf (pc := 23) ckX18 2 q1863 dX18_number_23 (by decide) (h9.1) rfl ?_
    refine pl_bald (pc := 26) (n := 300) dX18_number_26 ((h9.2 t htr).trans ht) (by omega) (by decide) ?_
    refine PJ.top (y := sB (B i)) (tx.2.1 _ (by omega)) ?_
    refine pl_bipush (pc := 27) (v := 48) dX18_number_27 (by rfl) ?_
    refine pj_icmp_lt (pc := 29) (tgt := 83) dX18_number_29 (by decide) (fun c29 => ?_) (fun c29 => ?_)
    · have e2 : figF B (n - p) p (nI 0) = (i, nI v) := hv.trans (fig_end (Or.inr (dg_no1 _ (tx.2.2.1 i) c29)))
      have hw2 : w ≤ 10000 := by rw [hw]; unfold capF; split <;> omega
      refine pl_iload_n (pc := 83) dX18_number_83 rfl rfl ?_
      refine pl_sipush (pc := 84) (v := 9999) dX18_number_84 (by rfl) ?_
      refine pl_icmp_le (pc := 87) (tgt := 100) dX18_number_87 (by decide) (by omega) (by omega) (fun c87 => ?_) (fun c87 => ?_)
      · refine pj_new (pc := 100) (C1 := 0) (N1 := 7) ckX22 q2066 q2067 q171 dX18_number_100 _ dfX22 (by omega) (by omega) (fun q_100 hn_100 gq_100 => ?_)
        refine pj_dup (pc := 103) dX18_number_103 rfl ?_
        refine pl_iload_n (pc := 104) dX18_number_104 rfl rfl ?_
        refine pl_callIv (pc := 105) (As := [_]) (C1 := 0) (N1 := 0) (C2 := 0) (N2 := 7) mdX22_init rfl q2068 q2069 q171 dX18_number_105 rfl rfl (Nat.le_of_ble_eq_true rfl) (k_X22_init (d := d - 1) (by omega) mset_s) (by omega) (by omega) (by omega) ?_
        refine PJ.mem mset_m ?_
        refine pj_aret (pc := 108) dX18_number_108 rfl (Or.inl ⟨_, rfl⟩) (Or.inr ⟨_, rfl⟩) ?_
        have hv9 : v ≤ 9999 := Decidable.byContradiction (fun z => by rw [hw, show capF v = 10000 from if_neg z] at c87; omega)
        have ew : w = v := by rw [hw]; exact if_pos hv9
        subst ew
        have ex : x = .inr (i, o, [(0, nI w)]) := by
          unfold figP at hx
          rw [e2, if_neg (show ¬ ¬ (i, nI w).2 ≤ nI 9999 from fun z => z ((nI_leI (by omega) (by omega)).mpr hv9))] at hx
          exact (Option.some.inj hx).symm
        subst ex
        have hz := figF_in tx.2.2.2 (n - p) p (nI 0) hp
        rw [e2] at hz
        have hz2 : p < i := hz.2.2 hdg ((Nat.lt_or_ge p n).elim (fun z => by omega) (fun z => by rw [tx.2.2.2 p z] at hdg; cases hdg))
        have hS := StX.ofX (RdS.X h9) h0
        exact ⟨q_100, _, 1, rfl, (hS.new hn_100).keep (hS.mu hn_100) mset_s, GdE.mkN mset_s, by omega⟩
      · refine pj_new (pc := 90) (C1 := 0) (N1 := 0) ckX20 q2006 q2007 q169 dX18_number_90 _ dfX20 (by omega) (by omega) (fun q_90 hn_90 gq_90 => ?_)
        refine pj_dup (pc := 93) dX18_number_93 rfl ?_
        refine pl_iconst (pc := 94) (v := 2) dX18_number_94 (by rfl) ?_
        refine pl_iload_n (pc := 95) dX18_number_95 rfl rfl ?_
        refine pl_callIv (pc := 96) (As := [_, _]) (C1 := 0) (N1 := 0) (C2 := 0) (N2 := 0) mdX20_init rfl q2015 q2016 q169 dX18_number_96 rfl rfl (Nat.le_of_ble_eq_true rfl) (k_X20_init (d := d - 1) (by omega) mset_s) (by omega) (by omega) (by omega) ?_
        refine PJ.mem mset_m ?_
        refine pj_athrow (pc := 99) ckX20 dX18_number_99 mset_s ?_
        refine px_out0 rfl ?_
        have hv9 : ¬ v ≤ 9999 := fun z => by rw [hw, show capF v = v from if_pos z] at c87; omega
        have ex : x = .inl (2, p) := by
          unfold figP at hx
          rw [e2, if_pos (show ¬ (i, nI v).2 ≤ nI 9999 from fun z => hv9 ((nI_leI (by omega) (by omega)).mp z))] at hx
          exact (Option.some.inj hx).symm
        subst ex
        exact ⟨q_90, rfl, mset_s, RdX.new (RdS.X h9) hn_90⟩
    · refine pl_aload_n (pc := 32) dX18_number_32 rfl rfl ?_
      refine pj_getf (pc := 33) ckX18 0 q1861 dX18_number_33 (by decide) (h9.1) rfl ?_
      refine pl_aload_n (pc := 36) dX18_number_36 rfl rfl ?_
      refine pj_getf (pc := 37) ckX18 2 q1863 dX18_number_37 (by decide) (h9.1) rfl ?_
      refine pl_bald (pc := 40) (n := 300) dX18_number_40 ((h9.2 t htr).trans ht) (by omega) (by decide) ?_
      refine PJ.top (y := sB (B i)) (tx.2.1 _ (by omega)) ?_
      refine pl_bipush (pc := 41) (v := 57) dX18_number_41 (by rfl) ?_
      refine pj_icmp_gt (pc := 43) (tgt := 83) dX18_number_43 (by decide) (fun c43 => ?_) (fun c43 => ?_)
      · have e2 : figF B (n - p) p (nI 0) = (i, nI v) := hv.trans (fig_end (Or.inr (dg_no2 _ (tx.2.2.1 i) c43)))
        have hw2 : w ≤ 10000 := by rw [hw]; unfold capF; split <;> omega
        refine pl_iload_n (pc := 83) dX18_number_83 rfl rfl ?_
        refine pl_sipush (pc := 84) (v := 9999) dX18_number_84 (by rfl) ?_
        refine pl_icmp_le (pc := 87) (tgt := 100) dX18_number_87 (by decide) (by omega) (by omega) (fun c87 => ?_) (fun c87 => ?_)
        · refine pj_new (pc := 100) (C1 := 0) (N1 := 7) ckX22 q2066 q2067 q171 dX18_number_100 _ dfX22 (by omega) (by omega) (fun q_100 hn_100 gq_100 => ?_)
          refine pj_dup (pc := 103) dX18_number_103 rfl ?_
          refine pl_iload_n (pc := 104) dX18_number_104 rfl rfl ?_
          refine pl_callIv (pc := 105) (As := [_]) (C1 := 0) (N1 := 0) (C2 := 0) (N2 := 7) mdX22_init rfl q2068 q2069 q171 dX18_number_105 rfl rfl (Nat.le_of_ble_eq_true rfl) (k_X22_init (d := d - 1) (by omega) mset_s) (by omega) (by omega) (by omega) ?_
          refine PJ.mem mset_m ?_
          refine pj_aret (pc := 108) dX18_number_108 rfl (Or.inl ⟨_, rfl⟩) (Or.inr ⟨_, rfl⟩) ?_
          have hv9 : v ≤ 9999 := Decidable.byContradiction (fun z => by rw [hw, show capF v = 10000 from if_neg z] at c87; omega)
          have ew : w = v := by rw [hw]; exact if_pos hv9
          subst ew
          have ex : x = .inr (i, o, [(0, nI w)]) := by
            unfold figP at hx
            rw [e2, if_neg (show ¬ ¬ (i, nI w).2 ≤ nI 9999 from fun z => z ((nI_leI (by omega) (by omega)).mpr hv9))] at hx
            exact (Option.some.inj hx).symm
          subst ex
          have hz := figF_in tx.2.2.2 (n - p) p (nI 0) hp
          rw [e2] at hz
          have hz2 : p < i := hz.2.2 hdg ((Nat.lt_or_ge p n).elim (fun z => by omega) (fun z => by rw [tx.2.2.2 p z] at hdg; cases hdg))
          have hS := StX.ofX (RdS.X h9) h0
          exact ⟨q_100, _, 1, rfl, (hS.new hn_100).keep (hS.mu hn_100) mset_s, GdE.mkN mset_s, by omega⟩
        · refine pj_new (pc := 90) (C1 := 0) (N1 := 0) ckX20 q2006 q2007 q169 dX18_number_90 _ dfX20 (by omega) (by omega) (fun q_90 hn_90 gq_90 => ?_)
          refine pj_dup (pc := 93) dX18_number_93 rfl ?_
          refine pl_iconst (pc := 94) (v := 2) dX18_number_94 (by rfl) ?_
          refine pl_iload_n (pc := 95) dX18_number_95 rfl rfl ?_
          refine pl_callIv (pc := 96) (As := [_, _]) (C1 := 0) (N1 := 0) (C2 := 0) (N2 := 0) mdX20_init rfl q2015 q2016 q169 dX18_number_96 rfl rfl (Nat.le_of_ble_eq_true rfl) (k_X20_init (d := d - 1) (by omega) mset_s) (by omega) (by omega) (by omega) ?_
          refine PJ.mem mset_m ?_
          refine pj_athrow (pc := 99) ckX20 dX18_number_99 mset_s ?_
          refine px_out0 rfl ?_
          have hv9 : ¬ v ≤ 9999 := fun z => by rw [hw, show capF v = v from if_pos z] at c87; omega
          have ex : x = .inl (2, p) := by
            unfold figP at hx
            rw [e2, if_pos (show ¬ (i, nI v).2 ≤ nI 9999 from fun z => hv9 ((nI_leI (by omega) (by omega)).mp z))] at hx
            exact (Option.some.inj hx).symm
          subst ex
          exact ⟨q_90, rfl, mset_s, RdX.new (RdS.X h9) hn_90⟩
      · have hD := dg_yes _ (tx.2.2.1 i) c29 c43
        have hw2 : w ≤ 10000 := by rw [hw]; unfold capF; split <;> omega
        refine pl_bipush (pc := 46) (v := 10) dX18_number_46 (by rfl) ?_
        refine pl_iload_n (pc := 48) dX18_number_48 rfl rfl ?_
        refine pl_imul (pc := 49) dX18_number_49 ?_
        refine pl_aload_n (pc := 50) dX18_number_50 rfl rfl ?_
        refine pj_getf (pc := 51) ckX18 0 q1861 dX18_number_51 (by decide) (h9.1) rfl ?_
        refine pl_aload_n (pc := 54) dX18_number_54 rfl rfl ?_
        refine pj_getf (pc := 55) ckX18 2 q1863 dX18_number_55 (by decide) (h9.1) rfl ?_
        refine pl_bald (pc := 58) (n := 300) dX18_number_58 ((h9.2 t htr).trans ht) (by omega) (by decide) ?_
        refine PJ.top (y := sB (B i)) (tx.2.1 _ (by omega)) ?_
        refine pj_iadd (pc := 59) dX18_number_59 ?_
        refine pl_bipush (pc := 60) (v := 48) dX18_number_60 (by rfl) ?_
        refine pj_isub (pc := 62) dX18_number_62 ?_
        refine pl_sipush (pc := 63) (v := 10000) dX18_number_63 (by rfl) ?_
        refine pj_mmin (pc := 66) q2065 dX18_number_66 (by omega) (Nat.le_of_ble_eq_true rfl) ?_
        refine PJ.top (y := nI (minF w (B i))) (fig_min hw2 (dg_in hD)) ?_
        refine pj_istore_n (pc := 69) (lv' := [(2, _), (1, _), (0, _)]) dX18_number_69 rfl (by decide) rfl ?_
        refine pl_aload_n (pc := 70) dX18_number_70 rfl rfl ?_
        refine pj_dup (pc := 71) dX18_number_71 rfl ?_
        refine pj_getf (pc := 72) ckX18 2 q1863 dX18_number_72 (by decide) (h9.1) rfl ?_
        refine pl_iconst (pc := 75) (v := 1) dX18_number_75 (by rfl) ?_
        refine pl_iadd (pc := 76) dX18_number_76 ?_
        refine pj_putf (pc := 77) ckX18 2 q1863 dX18_number_77 (by decide) rfl h9.1 rfl rfl (Nat.le_of_ble_eq_true rfl) ?_
        refine sxg (T := RdS μ rd t n (i + 1) o) (RdS.put (p1 := (i + 1)) (o1 := o) h9) (fun My1 y1 => ?_)
        refine pj_goto (pc := 80) (tgt := 7) dX18_number_80 (by decide) ?_
        exact ih (by omega) _ _ (figW v (B i)) y1 (by omega) (hv.trans (fig_step (by omega) hv2 hD)) (figW_in hv2 (dg_in hD).2) (by rw [hw]; exact cap_step (dg_in hD))
theorem i2cB : ∀ n, n < 256 → (((nI n &&& nI 255).toUInt32 % 65536).toInt32) = nI n := by decide +kernel
set_option maxHeartbeats 600000 in
theorem k_J16_charAt_m {g : GP} {μ : Mem} {d : Nat} {w n : Nat} {f : Nat → Int32} (hd : 3 ≤ d) (hw : μ w = some (intX g 2 n f)) (hn : n < 1000) {j b : Nat} (hj : j < n) (hf : f j = nI b) (hb : b < 256) : PM g yJ16_charAt (ws_ yJ16_charAt cJ16_charAt 2 (some .char)) d 0 0 [.ref w, .int (nI j)] μ (rQ (some (.int (nI b))) μ) := by
  refine PM.of (by decide +kernel) (Nat.le_of_ble_eq_true rfl) ?_
  refine PJ.ok (fun G => ?_)
  show PJ g _ _ _ _ d 0 0 0 [(0, .ref w), (1, .int (nI j))] [] _ _
  refine pl_iload_n (pc := 0) dJ16_charAt_0 rfl rfl ?_
  refine pl_aload_n (pc := 1) dJ16_charAt_1 rfl rfl ?_
  refine pj_alen (pc := 2) 2 dJ16_charAt_2 hw rfl (v := nI n) rfl ?_
  refine pl_callSv (pc := 3) (As := [_, _]) (C1 := 0) (N1 := 0) (C2 := 0) (N2 := 0) mdJ9_checkIndex q2104 q1924 q136 dJ16_charAt_3 rfl rfl (Nat.le_of_ble_eq_true rfl) (k_J9_checkIndex (d := d - 1) (by omega) hj (by omega)) (by omega) (by omega) (by omega) ?_
  refine pl_aload_n (pc := 6) dJ16_charAt_6 rfl rfl ?_
  refine pl_iload_n (pc := 7) dJ16_charAt_7 rfl rfl ?_
  refine pl_bald (pc := 8) (n := n) dJ16_charAt_8 hw (by omega) (by omega) ?_
  refine PJ.top (y := nI b) hf ?_
  refine pl_sipush (pc := 9) (v := 255) dJ16_charAt_9 (by rfl) ?_
  refine pj_iand (pc := 12) dJ16_charAt_12 ?_
  refine pj_i2c (pc := 13) dJ16_charAt_13 rfl ?_
  refine PJ.top (y := nI b) (i2cB b hb) ?_
  refine pj_zret (pc := 14) .char dJ16_charAt_14 rfl (pk_charN (by omega)).1 ?_
  exact ⟨rfl, rfl⟩
set_option maxHeartbeats 600000 in
theorem k_J9_charAt_m {g : GP} {μ : Mem} {d : Nat} {q w n : Nat} {f : Nat → Int32} {hh zz : Int32} (hd : 4 ≤ d) (h : StM g q w n f hh zz μ) (hn : n < 1000) {j b : Nat} (hj : j < n) (hf : f j = nI b) (hb : b < 256) : PM g yJ9_charAt (ws_ yJ9_charAt cJ9_charAt 2 (some .char)) d 0 0 [.ref q, .int (nI j)] μ (rQ (some (.int (nI b))) μ) := by
  refine PM.of (by decide +kernel) (Nat.le_of_ble_eq_true rfl) ?_
  refine PJ.ok (fun G => ?_)
  show PJ g _ _ _ _ d 0 0 0 [(0, .ref q), (1, .int (nI j))] [] _ _
  refine pl_aload_n (pc := 0) dJ9_charAt_0 rfl rfl ?_
  refine pl_callVd (pc := 1) (As := []) (C1 := 0) (N1 := 0) (C2 := 0) (N2 := 0) ckJ9 mdJ9_isLatin1 rfl q1935 q1936 q1937 q136 dJ9_charAt_1 rfl rfl (Nat.le_of_ble_eq_true rfl) (h.1) (k_J9_isLatin1_m (d := d - 1) (by omega) h hn) (by omega) (by omega) (by omega) ?_
  refine pj_if_eq (pc := 4) (tgt := 16) dJ9_charAt_4 (by decide) (fun h => absurd h (by decide)) (fun _ => ?_)
  refine pl_aload_n (pc := 7) dJ9_charAt_7 rfl rfl ?_
  refine pj_getf (pc := 8) ckJ9 0 q536 dJ9_charAt_8 (by decide) (h.1) rfl ?_
  refine pl_iload_n (pc := 11) dJ9_charAt_11 rfl rfl ?_
  refine pl_callSd (pc := 12) (As := [_, _]) (C1 := 0) (N1 := 0) (C2 := 0) (N2 := 0) mdJ16_charAt q2101 q2102 q144 dJ9_charAt_12 rfl rfl (Nat.le_of_ble_eq_true rfl) (k_J16_charAt_m (d := d - 1) (by omega) h.2 hn hj hf hb) (by omega) (by omega) (by omega) ?_
  refine pj_zret (pc := 15) .char dJ9_charAt_15 rfl (pk_charN (by omega)).1 ?_
  exact ⟨rfl, rfl⟩
