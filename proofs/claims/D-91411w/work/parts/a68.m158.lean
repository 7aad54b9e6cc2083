set_option maxRecDepth 100000
theorem x_X1_sailsQ {g : GP} {μ : Mem} {d : Nat} {P : Nat → Prop} {F : Mem} {A : XA} {S : Nat → Nat → Nat} {b : XS} {σ : MS} {e : XE} (hd : 2 ≤ d) (h : SX g P F A 0 S b σ e μ) {p q : Nat} (hp : p < S 4 0) (hq : A 35 0 p = q) : PM g yX1_sails (ws_ yX1_sails cX1_sails 2 none) d 0 0 [.ref (A 0 0 0), .ref q] μ (WQ none (SX g P F A 0 S b (sR (sR σ (768 + 8 * p + 2) (nI 1)) (768 + 8 * p + 5) (row σ 2116 + nI 34)) e)) := by
  subst hq
  exact x_X1_sails hd h hp
def shA (f h u k : Nat) : Nat → Int32 := upd (upd (upd (upd (fun _ => 0) 0 (nI f)) 1 (nI h)) 2 (nI u)) 3 (nI k)
theorem shA_at {f h u k z : Nat} (hz : z < 4) : shA f h u k z = nI (cnT f h u k z) := by
  rcases (by omega : z = 0 ∨ z = 1 ∨ z = 2 ∨ z = 3) with e | e | e | e <;> subst e <;> simp [shA, upd, cnT]
/-- a ship's people added: what stands beside -/
theorem adds_ak {S : Nat → Nat → Nat} {τ : MS} {nor n : Nat} {t c s l : Int32} (ak : AkX S τ nor) (hn : row τ 2124 = nI n) (hn9 : n < 100) : AkX (SnX S 4 0 (S 4 0 + 1)) (s_adds τ t c s l) nor :=
  (ak.cg (fun j h1 h2 => by rw [adds_row hn (by omega), if_neg (by omega), if_neg (by omega), if_neg (by omega), if_neg (by omega), if_neg (by omega), if_neg (by omega), if_neg (by omega), if_neg (by omega)])).n4 (Nat.le_succ _)
theorem adds_2116 {τ : MS} {n : Nat} {t c s l : Int32} (hn : row τ 2124 = nI n) (hn9 : n < 100) : row (s_adds τ t c s l) 2116 = row τ 2116 := by
  rw [adds_row hn (by omega), if_neg (by omega), if_neg (by omega), if_neg (by omega), if_neg (by omega), if_neg (by omega), if_neg (by omega), if_neg (by omega), if_neg (by omega)]
theorem ship1_iv2 {σ : MS} {n nl nb q nor nw : Nat} {y : Int32} (v : IvG σ n nl nb q nor nw) : IvG (sR σ 2121 y) n nl nb q nor nw := v.sR1 (by unfold fr1 fr2; omega)
set_option maxHeartbeats 600000 in
theorem x_X1_ship {g : GP} {μ : Mem} {d : Nat} {P : Nat → Prop} {F : Mem} {A : XA} {S : Nat → Nat → Nat} {b : XS} {σ : MS} {nor nw : Nat} (s : SB g P F A 0 S b σ nw μ) (iv : IvG σ (S 4 0) (S 8 0) (S 10 0) (S 6 0) nor nw) (rs : RsX σ) (ak : AkX S σ nor) (od : OdX σ (S 4 0) nor) (hd : 12 ≤ d) {xf : Int32} {xh : Int32} {xu : Int32} {xk : Int32} : PM g yX1_ship (wsW_ yX1_ship cX1_ship 10 (some .int) [(22, 48, 51, 408)]) d 208 16600 [.ref (A 0 0 0), .int xf, .int xh, .int xu, .int xk] μ (CQ [] (p_ship σ (S 4 0) nw xf xh xu xk) (fun τ M => ∃ A1 n1, n1 ≤ 100 ∧ row τ 2124 = nI n1 ∧ SB g P F A1 0 (SnX S 4 0 n1) b τ nw M)) := by
  refine PM.ofH (by decide +kernel) (Nat.le_of_ble_eq_true rfl) ?_
  refine PJ.ok (fun G => ?_)
  show PJ g _ _ _ _ d 208 16600 0 [(0, .ref (A 0 0 0)), (1, .int xf), (2, .int xh), (3, .int xu), (4, .int xk)] [] _ _
  obtain ⟨ρ, hs0⟩ : ∃ ρ, ρ = sF σ 0 (nI 0) := ⟨_, rfl⟩
  have hs9 : s0 σ = ρ := hs0.symm
  have s1 := s.F0 (x := nI 0)
  rw [← hs0] at s1
  obtain ⟨e, h, t⟩ := s1
  have iv1 : IvG ρ (S 4 0) (S 8 0) (S 10 0) (S 6 0) nor nw := by rw [hs0]; exact iv.f0
  have rs1 : RsX ρ := by rw [hs0]; exact rs
  have h00 : ρ.1 0 = nI 0 := by rw [hs0]; rfl
  have hS4 := h.hz.2.1
  have hS6 := h.hz.2.2.1
  have hS8 := h.hz.2.2.2.1
  have hS10 := h.hz.2.2.2.2.1
  have ak1 : AkX S ρ nor := by rw [hs0]; exact ak.cg (fun _ _ _ => rfl)
  have od1 : OdX ρ (S 4 0) nor := by rw [hs0]; exact od.cg (fun _ _ => rfl) (fun _ _ => rfl)
  have hOR := iv1.hOR
  by_cases hf : xf < 0
  · refine pl_iconst (pc := 0) (v := 4) dX1_ship_0 (by rfl) ?_
    refine pj_newa (pc := 1) (C1 := 207) (N1 := 16596) (t0 := 0) (a0 := (4, .inl (fun _ => 0))) dX1_ship_1 q572 rfl rfl (fun _ => rfl) (Int32.not_lt.mpr (nI_pos' (by omega))) (nI_clamp (by omega)) (by decide) (by omega) (by omega) (fun q_1 hn_1 gq_1 => ?_)
    refine pj_dup (pc := 3) dX1_ship_3 rfl ?_
    refine pl_iconst (pc := 4) (v := 0) dX1_ship_4 (by rfl) ?_
    refine pl_iload_n (pc := 5) dX1_ship_5 rfl rfl ?_
    refine pl_iast (pc := 6) (n := 4) dX1_ship_6 mset_s (by decide) (by decide) ?_
    refine PJ.mem mset_m ?_
    refine pj_dup (pc := 7) dX1_ship_7 rfl ?_
    refine pl_iconst (pc := 8) (v := 1) dX1_ship_8 (by rfl) ?_
    refine pl_iload_n (pc := 9) dX1_ship_9 rfl rfl ?_
    refine pl_iast (pc := 10) (n := 4) dX1_ship_10 mset_s (by decide) (by decide) ?_
    refine PJ.mem mset_m ?_
    refine pj_dup (pc := 11) dX1_ship_11 rfl ?_
    refine pl_iconst (pc := 12) (v := 2) dX1_ship_12 (by rfl) ?_
    refine pl_iload_n (pc := 13) dX1_ship_13 rfl rfl ?_
    refine pl_iast (pc := 14) (n := 4) dX1_ship_14 mset_s (by decide) (by decide) ?_
    refine PJ.mem mset_m ?_
    refine pj_dup (pc := 15) dX1_ship_15 rfl ?_
    refine pl_iconst (pc := 16) (v := 3) dX1_ship_16 (by rfl) ?_
    refine pl_iload (pc := 17) dX1_ship_17 rfl ?_
    refine pl_iast (pc := 19) (n := 4) dX1_ship_19 mset_s (by decide) (by decide) ?_
    refine PJ.mem mset_m ?_
    obtain ⟨ow_1, fq_1⟩ := h.own hn_1 (c := .inl (gA g 0, 4, .inl (upd (upd (upd (upd (fun _ => 0) 0 (xf)) 1 (xh)) 2 (xu)) 3 (xk))))
    refine sxk ow_1 (fun My1 y1 => ?_)
    refine pj_astore (pc := 20) (lv' := [(6, _), (0, _), (1, _), (2, _), (3, _), (4, _)]) dX1_ship_20 (by decide) rfl ?_
    refine pl_iload_n (pc := 22) dX1_ship_22 rfl rfl ?_
    refine pj_callS (pc := 23) (As := [_]) (C1 := 3) (N1 := 54) (C2 := 0) (N2 := 0) mdX1_rowOf q1043 q1044 q125 dX1_ship_23 rfl rfl (Nat.le_of_ble_eq_true rfl) (k_X1_rowOf_no (d := d - 1) (by omega) hf) (by omega) (by omega) (by omega) (fun v9 μ8 h9 => ?_) (fun E9 q μ8 h9 => ?_)
    · obtain ⟨⟨q1, e1⟩, -⟩ := h9
      cases e1
    · obtain ⟨⟨q1, e1⟩, rfl⟩ := h9
      cases e1
      refine px_catch (name := "java/lang/NegativeArraySizeException") [] ⟨22, 48, 51, 408⟩ [] rfl (fun z hz => by cases hz) (by decide) (by decide) q1039 q275 ?_
      refine pj_astore (pc := 51) (lv' := [(7, _), (6, _), (0, _), (1, _), (2, _), (3, _), (4, _)]) dX1_ship_51 (by decide) rfl ?_
      refine pj_iconst (pc := 53) (v := (-1)) dX1_ship_53 (by rfl) ?_
      refine pj_iret (pc := 54) dX1_ship_54 rfl ?_
      exact CQ.ok (τ := ρ) (by unfold p_ship; rw [hs9]; rw [if_pos hf]) (by exact h00) ⟨A, S 4 0, hS4, iv1.hn, by rw [SnX_id]; exact ⟨_, y1.drop (own_keep fq_1) (fun _ z => Or.inl z) h.pf, t⟩⟩
  · obtain ⟨j_f, hj_f, rfl⟩ := nI_of hf
    by_cases hh : xh < 0
    · refine pl_iconst (pc := 0) (v := 4) dX1_ship_0 (by rfl) ?_
      refine pj_newa (pc := 1) (C1 := 207) (N1 := 16596) (t0 := 0) (a0 := (4, .inl (fun _ => 0))) dX1_ship_1 q572 rfl rfl (fun _ => rfl) (Int32.not_lt.mpr (nI_pos' (by omega))) (nI_clamp (by omega)) (by decide) (by omega) (by omega) (fun q_1 hn_1 gq_1 => ?_)
      refine pj_dup (pc := 3) dX1_ship_3 rfl ?_
      refine pl_iconst (pc := 4) (v := 0) dX1_ship_4 (by rfl) ?_
      refine pl_iload_n (pc := 5) dX1_ship_5 rfl rfl ?_
      refine pl_iast (pc := 6) (n := 4) dX1_ship_6 mset_s (by decide) (by decide) ?_
      refine PJ.mem mset_m ?_
      refine pj_dup (pc := 7) dX1_ship_7 rfl ?_
      refine pl_iconst (pc := 8) (v := 1) dX1_ship_8 (by rfl) ?_
      refine pl_iload_n (pc := 9) dX1_ship_9 rfl rfl ?_
      refine pl_iast (pc := 10) (n := 4) dX1_ship_10 mset_s (by decide) (by decide) ?_
      refine PJ.mem mset_m ?_
      refine pj_dup (pc := 11) dX1_ship_11 rfl ?_
      refine pl_iconst (pc := 12) (v := 2) dX1_ship_12 (by rfl) ?_
      refine pl_iload_n (pc := 13) dX1_ship_13 rfl rfl ?_
      refine pl_iast (pc := 14) (n := 4) dX1_ship_14 mset_s (by decide) (by decide) ?_
      refine PJ.mem mset_m ?_
      refine pj_dup (pc := 15) dX1_ship_15 rfl ?_
      refine pl_iconst (pc := 16) (v := 3) dX1_ship_16 (by rfl) ?_
      refine pl_iload (pc := 17) dX1_ship_17 rfl ?_
      refine pl_iast (pc := 19) (n := 4) dX1_ship_19 mset_s (by decide) (by decide) ?_
      refine PJ.mem mset_m ?_
      obtain ⟨ow_1, fq_1⟩ := h.own hn_1 (c := .inl (gA g 0, 4, .inl (upd (upd (upd (upd (fun _ => 0) 0 (nI j_f)) 1 (xh)) 2 (xu)) 3 (xk))))
      refine sxk ow_1 (fun My1 y1 => ?_)
      refine pj_astore (pc := 20) (lv' := [(6, _), (0, _), (1, _), (2, _), (3, _), (4, _)]) dX1_ship_20 (by decide) rfl ?_
      refine pl_iload_n (pc := 22) dX1_ship_22 rfl rfl ?_
      refine pl_callSQ (pc := 23) (As := [_]) (C1 := 1) (N1 := 101) (C2 := 206) (N2 := 16495) mdX1_rowOf q1043 q1044 q125 dX1_ship_23 rfl rfl (Nat.le_of_ble_eq_true rfl) (k_X1_rowOf_ok (d := d - 1) (by omega) (n := j_f) (by omega)) (by omega) (by omega) (by omega) (fun q_23 M_23 hv_23 => ?_)
      obtain ⟨hn_23, rfl⟩ := hv_23
      refine pj_alen (pc := 26) 6 dX1_ship_26 mset_s rfl rfl ?_
      refine PJ.top (y := nI (min j_f 101)) rfl ?_
      refine sxk (y1.fresh hn_23) (fun My2 y2 => ?_)
      refine pl_iload_n (pc := 27) dX1_ship_27 rfl rfl ?_
      refine pj_callS (pc := 28) (As := [_]) (C1 := 3) (N1 := 54) (C2 := 0) (N2 := 0) mdX1_rowOf q1043 q1044 q125 dX1_ship_28 rfl rfl (Nat.le_of_ble_eq_true rfl) (k_X1_rowOf_no (d := d - 1) (by omega) hh) (by omega) (by omega) (by omega) (fun v9 μ8 h9 => ?_) (fun E9 q μ8 h9 => ?_)
      · obtain ⟨⟨q1, e1⟩, -⟩ := h9
        cases e1
      · obtain ⟨⟨q1, e1⟩, rfl⟩ := h9
        cases e1
        refine px_catch (name := "java/lang/NegativeArraySizeException") [] ⟨22, 48, 51, 408⟩ [] rfl (fun z hz => by cases hz) (by decide) (by decide) q1039 q275 ?_
        refine pj_astore (pc := 51) (lv' := [(7, _), (6, _), (0, _), (1, _), (2, _), (3, _), (4, _)]) dX1_ship_51 (by decide) rfl ?_
        refine pj_iconst (pc := 53) (v := (-1)) dX1_ship_53 (by rfl) ?_
        refine pj_iret (pc := 54) dX1_ship_54 rfl ?_
        exact CQ.ok (τ := ρ) (by unfold p_ship; rw [hs9]; rw [if_neg (Int32.not_lt.mpr (nI_pos' (by omega))), if_pos hh]) (by exact h00) ⟨A, S 4 0, hS4, iv1.hn, by rw [SnX_id]; exact ⟨_, y2.drop (own_keep fq_1) (fun _ z => Or.inl z) h.pf, t⟩⟩
    · obtain ⟨j_h, hj_h, rfl⟩ := nI_of hh
      by_cases hu : xu < 0
      · refine pl_iconst (pc := 0) (v := 4) dX1_ship_0 (by rfl) ?_
        refine pj_newa (pc := 1) (C1 := 207) (N1 := 16596) (t0 := 0) (a0 := (4, .inl (fun _ => 0))) dX1_ship_1 q572 rfl rfl (fun _ => rfl) (Int32.not_lt.mpr (nI_pos' (by omega))) (nI_clamp (by omega)) (by decide) (by omega) (by omega) (fun q_1 hn_1 gq_1 => ?_)
        refine pj_dup (pc := 3) dX1_ship_3 rfl ?_
        refine pl_iconst (pc := 4) (v := 0) dX1_ship_4 (by rfl) ?_
        refine pl_iload_n (pc := 5) dX1_ship_5 rfl rfl ?_
        refine pl_iast (pc := 6) (n := 4) dX1_ship_6 mset_s (by decide) (by decide) ?_
        refine PJ.mem mset_m ?_
        refine pj_dup (pc := 7) dX1_ship_7 rfl ?_
        refine pl_iconst (pc := 8) (v := 1) dX1_ship_8 (by rfl) ?_
        refine pl_iload_n (pc := 9) dX1_ship_9 rfl rfl ?_
        refine pl_iast (pc := 10) (n := 4) dX1_ship_10 mset_s (by decide) (by decide) ?_
        refine PJ.mem mset_m ?_
        refine pj_dup (pc := 11) dX1_ship_11 rfl ?_
        refine pl_iconst (pc := 12) (v := 2) dX1_ship_12 (by rfl) ?_
        refine pl_iload_n (pc := 13) dX1_ship_13 rfl rfl ?_
        refine pl_iast (pc := 14) (n := 4) dX1_ship_14 mset_s (by decide) (by decide) ?_
        refine PJ.mem mset_m ?_
        refine pj_dup (pc := 15) dX1_ship_15 rfl ?_
        refine pl_iconst (pc := 16) (v := 3) dX1_ship_16 (by rfl) ?_
        refine pl_iload (pc := 17) dX1_ship_17 rfl ?_
        refine pl_iast (pc := 19) (n := 4) dX1_ship_19 mset_s (by decide) (by decide) ?_
        refine PJ.mem mset_m ?_
        obtain ⟨ow_1, fq_1⟩ := h.own hn_1 (c := .inl (gA g 0, 4, .inl (upd (upd (upd (upd (fun _ => 0) 0 (nI j_f)) 1 (nI j_h)) 2 (xu)) 3 (xk))))
        refine sxk ow_1 (fun My1 y1 => ?_)
        refine pj_astore (pc := 20) (lv' := [(6, _), (0, _), (1, _), (2, _), (3, _), (4, _)]) dX1_ship_20 (by decide) rfl ?_
        refine pl_iload_n (pc := 22) dX1_ship_22 rfl rfl ?_
        refine pl_callSQ (pc := 23) (As := [_]) (C1 := 1) (N1 := 101) (C2 := 206) (N2 := 16495) mdX1_rowOf q1043 q1044 q125 dX1_ship_23 rfl rfl (Nat.le_of_ble_eq_true rfl) (k_X1_rowOf_ok (d := d - 1) (by omega) (n := j_f) (by omega)) (by omega) (by omega) (by omega) (fun q_23 M_23 hv_23 => ?_)
        obtain ⟨hn_23, rfl⟩ := hv_23
        refine pj_alen (pc := 26) 6 dX1_ship_26 mset_s rfl rfl ?_
        refine PJ.top (y := nI (min j_f 101)) rfl ?_
        refine sxk (y1.fresh hn_23) (fun My2 y2 => ?_)
        refine pl_iload_n (pc := 27) dX1_ship_27 rfl rfl ?_
        refine pl_callSQ (pc := 28) (As := [_]) (C1 := 1) (N1 := 101) (C2 := 205) (N2 := 16394) mdX1_rowOf q1043 q1044 q125 dX1_ship_28 rfl rfl (Nat.le_of_ble_eq_true rfl) (k_X1_rowOf_ok (d := d - 1) (by omega) (n := j_h) (by omega)) (by omega) (by omega) (by omega) (fun q_28 M_28 hv_28 => ?_)
        obtain ⟨hn_28, rfl⟩ := hv_28
        refine pj_alen (pc := 31) 6 dX1_ship_31 mset_s rfl rfl ?_
        refine PJ.top (y := nI (min j_h 101)) rfl ?_
        refine sxk (y2.fresh hn_28) (fun My3 y3 => ?_)
        refine pl_iadd (pc := 32) dX1_ship_32 ?_
        refine pl_iload_n (pc := 33) dX1_ship_33 rfl rfl ?_
        refine pj_callS (pc := 34) (As := [_]) (C1 := 3) (N1 := 54) (C2 := 0) (N2 := 0) mdX1_rowOf q1043 q1044 q125 dX1_ship_34 rfl rfl (Nat.le_of_ble_eq_true rfl) (k_X1_rowOf_no (d := d - 1) (by omega) hu) (by omega) (by omega) (by omega) (fun v9 μ8 h9 => ?_) (fun E9 q μ8 h9 => ?_)
        · obtain ⟨⟨q1, e1⟩, -⟩ := h9
          cases e1
        · obtain ⟨⟨q1, e1⟩, rfl⟩ := h9
          cases e1
          refine px_catch (name := "java/lang/NegativeArraySizeException") [] ⟨22, 48, 51, 408⟩ [] rfl (fun z hz => by cases hz) (by decide) (by decide) q1039 q275 ?_
          refine pj_astore (pc := 51) (lv' := [(7, _), (6, _), (0, _), (1, _), (2, _), (3, _), (4, _)]) dX1_ship_51 (by decide) rfl ?_
          refine pj_iconst (pc := 53) (v := (-1)) dX1_ship_53 (by rfl) ?_
          refine pj_iret (pc := 54) dX1_ship_54 rfl ?_
          exact CQ.ok (τ := ρ) (by unfold p_ship; rw [hs9]; rw [if_neg (Int32.not_lt.mpr (nI_pos' (by omega))), if_neg (Int32.not_lt.mpr (nI_pos' (by omega))), if_pos hu]) (by exact h00) ⟨A, S 4 0, hS4, iv1.hn, by rw [SnX_id]; exact ⟨_, y3.drop (own_keep fq_1) (fun _ z => Or.inl z) h.pf, t⟩⟩
      · obtain ⟨j_u, hj_u, rfl⟩ := nI_of hu
        by_cases hk : xk < 0
        · refine pl_iconst (pc := 0) (v := 4) dX1_ship_0 (by rfl) ?_
          refine pj_newa (pc := 1) (C1 := 207) (N1 := 16596) (t0 := 0) (a0 := (4, .inl (fun _ => 0))) dX1_ship_1 q572 rfl rfl (fun _ => rfl) (Int32.not_lt.mpr (nI_pos' (by omega))) (nI_clamp (by omega)) (by decide) (by omega) (by omega) (fun q_1 hn_1 gq_1 => ?_)
          refine pj_dup (pc := 3) dX1_ship_3 rfl ?_
          refine pl_iconst (pc := 4) (v := 0) dX1_ship_4 (by rfl) ?_
          refine pl_iload_n (pc := 5) dX1_ship_5 rfl rfl ?_
          refine pl_iast (pc := 6) (n := 4) dX1_ship_6 mset_s (by decide) (by decide) ?_
          refine PJ.mem mset_m ?_
          refine pj_dup (pc := 7) dX1_ship_7 rfl ?_
          refine pl_iconst (pc := 8) (v := 1) dX1_ship_8 (by rfl) ?_
          refine pl_iload_n (pc := 9) dX1_ship_9 rfl rfl ?_
          refine pl_iast (pc := 10) (n := 4) dX1_ship_10 mset_s (by decide) (by decide) ?_
          refine PJ.mem mset_m ?_
          refine pj_dup (pc := 11) dX1_ship_11 rfl ?_
          refine pl_iconst (pc := 12) (v := 2) dX1_ship_12 (by rfl) ?_
          refine pl_iload_n (pc := 13) dX1_ship_13 rfl rfl ?_
          refine pl_iast (pc := 14) (n := 4) dX1_ship_14 mset_s (by decide) (by decide) ?_
          refine PJ.mem mset_m ?_
          refine pj_dup (pc := 15) dX1_ship_15 rfl ?_
          refine pl_iconst (pc := 16) (v := 3) dX1_ship_16 (by rfl) ?_
          refine pl_iload (pc := 17) dX1_ship_17 rfl ?_
          refine pl_iast (pc := 19) (n := 4) dX1_ship_19 mset_s (by decide) (by decide) ?_
          refine PJ.mem mset_m ?_
          obtain ⟨ow_1, fq_1⟩ := h.own hn_1 (c := .inl (gA g 0, 4, .inl (upd (upd (upd (upd (fun _ => 0) 0 (nI j_f)) 1 (nI j_h)) 2 (nI j_u)) 3 (xk))))
          refine sxk ow_1 (fun My1 y1 => ?_)
          refine pj_astore (pc := 20) (lv' := [(6, _), (0, _), (1, _), (2, _), (3, _), (4, _)]) dX1_ship_20 (by decide) rfl ?_
          refine pl_iload_n (pc := 22) dX1_ship_22 rfl rfl ?_
          refine pl_callSQ (pc := 23) (As := [_]) (C1 := 1) (N1 := 101) (C2 := 206) (N2 := 16495) mdX1_rowOf q1043 q1044 q125 dX1_ship_23 rfl rfl (Nat.le_of_ble_eq_true rfl) (k_X1_rowOf_ok (d := d - 1) (by omega) (n := j_f) (by omega)) (by omega) (by omega) (by omega) (fun q_23 M_23 hv_23 => ?_)
          obtain ⟨hn_23, rfl⟩ := hv_23
          refine pj_alen (pc := 26) 6 dX1_ship_26 mset_s rfl rfl ?_
          refine PJ.top (y := nI (min j_f 101)) rfl ?_
          refine sxk (y1.fresh hn_23) (fun My2 y2 => ?_)
          refine pl_iload_n (pc := 27) dX1_ship_27 rfl rfl ?_
          refine pl_callSQ (pc := 28) (As := [_]) (C1 := 1) (N1 := 101) (C2 := 205) (N2 := 16394) mdX1_rowOf q1043 q1044 q125 dX1_ship_28 rfl rfl (Nat.le_of_ble_eq_true rfl) (k_X1_rowOf_ok (d := d - 1) (by omega) (n := j_h) (by omega)) (by omega) (by omega) (by omega) (fun q_28 M_28 hv_28 => ?_)
          obtain ⟨hn_28, rfl⟩ := hv_28
          refine pj_alen (pc := 31) 6 dX1_ship_31 mset_s rfl rfl ?_
          refine PJ.top (y := nI (min j_h 101)) rfl ?_
          refine sxk (y2.fresh hn_28) (fun My3 y3 => ?_)
          refine pl_iadd (pc := 32) dX1_ship_32 ?_
          refine pl_iload_n (pc := 33) dX1_ship_33 rfl rfl ?_
          refine pl_callSQ (pc := 34) (As := [_]) (C1 := 1) (N1 := 101) (C2 := 204) (N2 := 16293) mdX1_rowOf q1043 q1044 q125 dX1_ship_34 rfl rfl (Nat.le_of_ble_eq_true rfl) (k_X1_rowOf_ok (d := d - 1) (by omega) (n := j_u) (by omega)) (by omega) (by omega) (by omega) (fun q_34 M_34 hv_34 => ?_)
          obtain ⟨hn_34, rfl⟩ := hv_34
          refine pj_alen (pc := 37) 6 dX1_ship_37 mset_s rfl rfl ?_
          refine PJ.top (y := nI (min j_u 101)) rfl ?_
          refine sxk (y3.fresh hn_34) (fun My4 y4 => ?_)
          refine pl_iadd (pc := 38) dX1_ship_38 ?_
          refine pl_iload (pc := 39) dX1_ship_39 rfl ?_
          refine pj_callS (pc := 41) (As := [_]) (C1 := 3) (N1 := 54) (C2 := 0) (N2 := 0) mdX1_rowOf q1043 q1044 q125 dX1_ship_41 rfl rfl (Nat.le_of_ble_eq_true rfl) (k_X1_rowOf_no (d := d - 1) (by omega) hk) (by omega) (by omega) (by omega) (fun v9 μ8 h9 => ?_) (fun E9 q μ8 h9 => ?_)
          · obtain ⟨⟨q1, e1⟩, -⟩ := h9
            cases e1
          · obtain ⟨⟨q1, e1⟩, rfl⟩ := h9
            cases e1
            refine px_catch (name := "java/lang/NegativeArraySizeException") [] ⟨22, 48, 51, 408⟩ [] rfl (fun z hz => by cases hz) (by decide) (by decide) q1039 q275 ?_
            refine pj_astore (pc := 51) (lv' := [(7, _), (6, _), (0, _), (1, _), (2, _), (3, _), (4, _)]) dX1_ship_51 (by decide) rfl ?_
            refine pj_iconst (pc := 53) (v := (-1)) dX1_ship_53 (by rfl) ?_
            refine pj_iret (pc := 54) dX1_ship_54 rfl ?_
            exact CQ.ok (τ := ρ) (by unfold p_ship; rw [hs9]; rw [if_neg (Int32.not_lt.mpr (nI_pos' (by omega))), if_neg (Int32.not_lt.mpr (nI_pos' (by omega))), if_neg (Int32.not_lt.mpr (nI_pos' (by omega))), if_pos (Int32.not_le.mpr hk)]) (by exact h00) ⟨A, S 4 0, hS4, iv1.hn, by rw [SnX_id]; exact ⟨_, y4.drop (own_keep fq_1) (fun _ z => Or.inl z) h.pf, t⟩⟩
        · obtain ⟨j_k, hj_k, rfl⟩ := nI_of hk
          refine pl_iconst (pc := 0) (v := 4) dX1_ship_0 (by rfl) ?_
          refine pj_newa (pc := 1) (C1 := 207) (N1 := 16596) (t0 := 0) (a0 := (4, .inl (fun _ => 0))) dX1_ship_1 q572 rfl rfl (fun _ => rfl) (Int32.not_lt.mpr (nI_pos' (by omega))) (nI_clamp (by omega)) (by decide) (by omega) (by omega) (fun q_1 hn_1 gq_1 => ?_)
          refine pj_dup (pc := 3) dX1_ship_3 rfl ?_
          refine pl_iconst (pc := 4) (v := 0) dX1_ship_4 (by rfl) ?_
          refine pl_iload_n (pc := 5) dX1_ship_5 rfl rfl ?_
          refine pl_iast (pc := 6) (n := 4) dX1_ship_6 mset_s (by decide) (by decide) ?_
          refine PJ.mem mset_m ?_
          refine pj_dup (pc := 7) dX1_ship_7 rfl ?_
          refine pl_iconst (pc := 8) (v := 1) dX1_ship_8 (by rfl) ?_
          refine pl_iload_n (pc := 9) dX1_ship_9 rfl rfl ?_
          refine pl_iast (pc := 10) (n := 4) dX1_ship_10 mset_s (by decide) (by decide) ?_
          refine PJ.mem mset_m ?_
          refine pj_dup (pc := 11) dX1_ship_11 rfl ?_
          refine pl_iconst (pc := 12) (v := 2) dX1_ship_12 (by rfl) ?_
          refine pl_iload_n (pc := 13) dX1_ship_13 rfl rfl ?_
          refine pl_iast (pc := 14) (n := 4) dX1_ship_14 mset_s (by decide) (by decide) ?_
          refine PJ.mem mset_m ?_
          refine pj_dup (pc := 15) dX1_ship_15 rfl ?_
          refine pl_iconst (pc := 16) (v := 3) dX1_ship_16 (by rfl) ?_
          refine pl_iload (pc := 17) dX1_ship_17 rfl ?_
          refine pl_iast (pc := 19) (n := 4) dX1_ship_19 mset_s (by decide) (by decide) ?_
          refine PJ.mem mset_m ?_
          obtain ⟨ow_1, fq_1⟩ := h.own hn_1 (c := .inl (gA g 0, 4, .inl (upd (upd (upd (upd (fun _ => 0) 0 (nI j_f)) 1 (nI j_h)) 2 (nI j_u)) 3 (nI j_k))))
          refine sxk ow_1 (fun My1 y1 => ?_)
          refine pj_astore (pc := 20) (lv' := [(6, _), (0, _), (1, _), (2, _), (3, _), (4, _)]) dX1_ship_20 (by decide) rfl ?_
          refine pl_iload_n (pc := 22) dX1_ship_22 rfl rfl ?_
          refine pl_callSQ (pc := 23) (As := [_]) (C1 := 1) (N1 := 101) (C2 := 206) (N2 := 16495) mdX1_rowOf q1043 q1044 q125 dX1_ship_23 rfl rfl (Nat.le_of_ble_eq_true rfl) (k_X1_rowOf_ok (d := d - 1) (by omega) (n := j_f) (by omega)) (by omega) (by omega) (by omega) (fun q_23 M_23 hv_23 => ?_)
          obtain ⟨hn_23, rfl⟩ := hv_23
          refine pj_alen (pc := 26) 6 dX1_ship_26 mset_s rfl rfl ?_
          refine PJ.top (y := nI (min j_f 101)) rfl ?_
          refine sxk (y1.fresh hn_23) (fun My2 y2 => ?_)
          refine pl_iload_n (pc := 27) dX1_ship_27 rfl rfl ?_
          refine pl_callSQ (pc := 28) (As := [_]) (C1 := 1) (N1 := 101) (C2 := 205) (N2 := 16394) mdX1_rowOf q1043 q1044 q125 dX1_ship_28 rfl rfl (Nat.le_of_ble_eq_true rfl) (k_X1_rowOf_ok (d := d - 1) (by omega) (n := j_h) (by omega)) (by omega) (by omega) (by omega) (fun q_28 M_28 hv_28 => ?_)
          obtain ⟨hn_28, rfl⟩ := hv_28
          refine pj_alen (pc := 31) 6 dX1_ship_31 mset_s rfl rfl ?_
          refine PJ.top (y := nI (min j_h 101)) rfl ?_
          refine sxk (y2.fresh hn_28) (fun My3 y3 => ?_)
          refine pl_iadd (pc := 32) dX1_ship_32 ?_
          refine pl_iload_n (pc := 33) dX1_ship_33 rfl rfl ?_
          refine pl_callSQ (pc := 34) (As := [_]) (C1 := 1) (N1 := 101) (C2 := 204) (N2 := 16293) mdX1_rowOf q1043 q1044 q125 dX1_ship_34 rfl rfl (Nat.le_of_ble_eq_true rfl) (k_X1_rowOf_ok (d := d - 1) (by omega) (n := j_u) (by omega)) (by omega) (by omega) (by omega) (fun q_34 M_34 hv_34 => ?_)
          obtain ⟨hn_34, rfl⟩ := hv_34
          refine pj_alen (pc := 37) 6 dX1_ship_37 mset_s rfl rfl ?_
          refine PJ.top (y := nI (min j_u 101)) rfl ?_
          refine sxk (y3.fresh hn_34) (fun My4 y4 => ?_)
          refine pl_iadd (pc := 38) dX1_ship_38 ?_
          refine pl_iload (pc := 39) dX1_ship_39 rfl ?_
          refine pl_callSQ (pc := 41) (As := [_]) (C1 := 1) (N1 := 101) (C2 := 203) (N2 := 16192) mdX1_rowOf q1043 q1044 q125 dX1_ship_41 rfl rfl (Nat.le_of_ble_eq_true rfl) (k_X1_rowOf_ok (d := d - 1) (by omega) (n := j_k) (by omega)) (by omega) (by omega) (by omega) (fun q_41 M_41 hv_41 => ?_)
          obtain ⟨hn_41, rfl⟩ := hv_41
          refine pj_alen (pc := 44) 6 dX1_ship_44 mset_s rfl rfl ?_
          refine PJ.top (y := nI (min j_k 101)) rfl ?_
          refine sxk (y4.fresh hn_41) (fun My5 y5 => ?_)
          refine pl_iadd (pc := 45) dX1_ship_45 ?_
          obtain ⟨mn, hmn⟩ : ∃ mn, mn = min j_f 101 + min j_h 101 + min j_u 101 + min j_k 101 := ⟨_, rfl⟩
          rw [← hmn]
          have hmn4 : mn ≤ 404 := by omega
          refine pj_istore (pc := 46) (lv' := [(5, _), (6, _), (0, _), (1, _), (2, _), (3, _), (4, _)]) dX1_ship_46 (by decide) rfl ?_
          refine pj_goto (pc := 48) (tgt := 55) dX1_ship_48 (by decide) ?_
          refine pl_aload_n (pc := 55) dX1_ship_55 rfl rfl ?_
          refine pj_getf (pc := 56) ckX1 4 q857 dX1_ship_56 (by decide) (y5.r0) rfl ?_
          refine pl_bipush (pc := 59) (v := 20) dX1_ship_59 (by rfl) ?_
          refine pj_icmp_ne (pc := 61) (tgt := 67) dX1_ship_61 (by decide) (fun c61 => ?_) (fun c61 => ?_)
          · refine pl_aload_n (pc := 67) dX1_ship_67 rfl rfl ?_
            refine pj_getf (pc := 68) ckX1 0 q853 dX1_ship_68 (by decide) (y5.r0) rfl ?_
            refine pj_getfN (pc := 71) ckX2 26 q773 dX1_ship_71 (by decide) (y5.r1) rfl ?_
            obtain ⟨m_74, c_74, l_74⟩ := y5.L4
            refine pl_callVd (pc := 74) (As := []) (C1 := 0) (N1 := 0) (C2 := 203) (N2 := 16192) ckJ2 mdJ2_size rfl q1049 q948 q949 q129 dX1_ship_74 rfl rfl (Nat.le_of_ble_eq_true rfl) l_74.1 (k_J2_size (d := d - 1) (by omega) l_74) (by omega) (by omega) (by omega) ?_
            refine pl_iload (pc := 77) dX1_ship_77 rfl ?_
            refine pl_iadd (pc := 79) dX1_ship_79 ?_
            refine pl_bipush (pc := 80) (v := 100) dX1_ship_80 (by rfl) ?_
            refine pl_icmp_le (pc := 82) (tgt := 88) dX1_ship_82 (by decide) (by omega) (by omega) (fun c82 => ?_) (fun c82 => ?_)
            · have emn : mn = (j_f + j_h + j_u + j_k) := by omega
              clear hmn
              subst emn
              have htot : S 4 0 + (j_f + j_h + j_u + j_k) ≤ 100 := by omega
              refine pl_bipush (pc := 88) (v := 10) dX1_ship_88 (by rfl) ?_
              refine pl_iload (pc := 90) dX1_ship_90 rfl ?_
              refine pl_imul (pc := 92) dX1_ship_92 ?_
              refine pl_aload_n (pc := 93) dX1_ship_93 rfl rfl ?_
              refine pj_getf (pc := 94) ckX1 0 q853 dX1_ship_94 (by decide) (y5.r0) rfl ?_
              refine pl_callVd (pc := 97) (As := []) (C1 := 0) (N1 := 0) (C2 := 203) (N2 := 16192) ckX2 mdX2_passages rfl q1050 q1051 q1052 q126 dX1_ship_97 rfl rfl (Nat.le_of_ble_eq_true rfl) (y5.r1) (x_X2_passages (d := d - 1) (by omega) y5 t iv1.hnw iv1.hNW) (by omega) (by omega) (by omega) ?_
              refine PJ.top (y := homePassV ρ nw) rfl ?_
              refine pj_icmp_le (pc := 100) (tgt := 106) dX1_ship_100 (by decide) (fun c100 => ?_) (fun c100 => ?_)
              · refine pl_aload_n (pc := 106) dX1_ship_106 rfl rfl ?_
                refine pj_getf (pc := 107) ckX1 0 q853 dX1_ship_107 (by decide) (y5.r0) rfl ?_
                refine pj_dup (pc := 110) dX1_ship_110 rfl ?_
                refine pj_getfN (pc := 111) ckX2 5 q735 dX1_ship_111 (by decide) (y5.r1) rfl ?_
                refine pl_bipush (pc := 114) (v := 10) dX1_ship_114 (by rfl) ?_
                refine pl_iload (pc := 116) dX1_ship_116 rfl ?_
                refine pl_imul (pc := 118) dX1_ship_118 ?_
                refine pj_iadd (pc := 119) dX1_ship_119 ?_
                refine pj_putfN (pc := 120) ckX2 5 q735 dX1_ship_120 (by decide) rfl (y5.r1) rfl rfl (Nat.le_of_ble_eq_true rfl) ?_
                refine sxk (y5.p1_5) (fun My6 y6 => ?_)
                refine pl_iconst (pc := 123) (v := 0) dX1_ship_123 (by rfl) ?_
                refine pj_istore (pc := 124) (lv' := [(7, _), (5, _), (6, _), (0, _), (1, _), (2, _), (3, _), (4, _)]) dX1_ship_124 (by decide) rfl ?_
                have g1 : SX g (fun a => P a ∨ a = q_1) (mset F q_1 (.inl (gA g 0, 4, .inl (shA j_f j_h j_u j_k)))) A 0 S b (sR ρ 2121 (row ρ 2121 + nI (10 * (j_f + j_h + j_u + j_k)))) e _ := y6
                have t1 : TieX 0 S (sR ρ 2121 (row ρ 2121 + nI (10 * (j_f + j_h + j_u + j_k)))) e nw := t.cg g1.hz (fun j hj => rowS_ne (fun z => hj (by unfold fr0; omega))) (by simp [sA]) (by simp [sA]) (fun _ _ => by simp [sA]) rfl rfl
                have iv2 : IvG (sR ρ 2121 (row ρ 2121 + nI (10 * (j_f + j_h + j_u + j_k)))) (S 4 0) (S 8 0) (S 10 0) (S 6 0) nor nw := ship1_iv2 iv1
                have ak2 : AkX S (sR ρ 2121 (row ρ 2121 + nI (10 * (j_f + j_h + j_u + j_k)))) nor := ak1.cg (fun j h1 h2 => rowS_ne (by omega))
                have od2 : OdX (sR ρ 2121 (row ρ 2121 + nI (10 * (j_f + j_h + j_u + j_k)))) (S 4 0) nor := od1.cg (fun p hp => rowS_ne (by omega)) (fun o ho => rowS_ne (by omega))
                have h12 : S 12 0 = nor := ak1.2.1
                have hOR := iv1.hOR
                have f12 : ((sR ρ 2121 (row ρ 2121 + nI (10 * (j_f + j_h + j_u + j_k))))).1 0 = nI 0 := h00
                refine PJ.sub [0, 2, 3] rfl ?_
                refine ind_dn (n := (S 12 0)) (P := fun i => ∀ M9 τ, τ = upto (shipC (nI (nw + 34))) i (sR ρ 2121 (row ρ 2121 + nI (10 * (j_f + j_h + j_u + j_k)))) → SB g (fun a => P a ∨ a = q_1) (mset F q_1 (.inl (gA g 0, 4, .inl (shA j_f j_h j_u j_k)))) A 0 S b τ nw M9 → IvG τ (S 4 0) (S 8 0) (S 10 0) (S 6 0) nor nw → AkX S τ nor → τ.1 0 = nI 0 → PJ g _ _ _ _ d 203 16192 126 [(7, .int (nI i)), (6, .ref q_1), (0, .ref (A 0 0 0))] [] M9 _) (fun i hi ih M9 τ hτ s9 iv9 ak9 f9 => ?_) 0 (Nat.zero_le _) _ _ rfl ⟨_, g1, t1⟩ iv2 ak2 f12
                obtain ⟨e9, h9, t9⟩ := s9
                refine pl_iload (pc := 126) dX1_ship_126 rfl ?_
                refine pl_aload_n (pc := 128) dX1_ship_128 rfl rfl ?_
                refine pj_getf (pc := 129) ckX1 8 q861 dX1_ship_129 (by decide) (h9.r0) rfl ?_
                obtain ⟨m_132, c_132, l_132⟩ := h9.L12
                refine pl_callVd (pc := 132) (As := []) (C1 := 0) (N1 := 0) (C2 := 203) (N2 := 16192) ckJ2 mdJ2_size rfl q1049 q948 q949 q129 dX1_ship_132 rfl rfl (Nat.le_of_ble_eq_true rfl) l_132.1 (k_J2_size (d := d - 1) (by omega) l_132) (by omega) (by omega) (by omega) ?_
                refine pl_icmp_ge (pc := 135) (tgt := 178) dX1_ship_135 (by decide) (by omega) (by omega) (fun c135 => ?_) (fun c135 => ?_)
                · refine pl_iconst (pc := 178) (v := 0) dX1_ship_178 (by rfl) ?_
                  refine pj_istore (pc := 179) (lv' := [(7, _), (6, _), (0, _)]) dX1_ship_179 (by decide) rfl ?_
                  have ei : i = S 12 0 := by omega
                  have hτ2 : τ = uq (ship1 (nI (nw + 34))) (S 4 0) (sR ρ 2121 (row ρ 2121 + nI (10 * (j_f + j_h + j_u + j_k)))) := by rw [hτ, ei, h12]; exact shipC_eq iv2 od2
                  obtain ⟨S0, rfl⟩ : ∃ S0, S0 = S := ⟨S, rfl⟩
                  obtain ⟨n0, hn0⟩ : ∃ n0, n0 = S0 4 0 := ⟨_, rfl⟩
                  obtain ⟨ρ2, hρ2⟩ : ∃ ρ2, ρ2 = τ := ⟨_, rfl⟩
                  rw [← hρ2] at h9 t9 iv9 ak9 f9 hτ2
                  refine PJ.widen (C1 := 2 * (100 - 0)) (N1 := 161 * (100 - 0)) (by omega) (by omega) ?_
                  refine ind_dn (n := 4) (P := fun z => ∀ M9 A S τ, S = SnX S0 4 0 (n0 + (csT j_f j_h j_u j_k z)) → τ = uq (ship2 j_f j_h j_u (nI (nw + 34))) (csT j_f j_h j_u j_k z) ρ2 → SB g (fun a => P a ∨ a = q_1) (mset F q_1 (.inl (gA g 0, 4, .inl (shA j_f j_h j_u j_k)))) A 0 S b τ nw M9 → IvG τ (S 4 0) (S0 8 0) (S0 10 0) (S0 6 0) nor nw → AkX S τ nor → τ.1 0 = nI 0 → PJ g _ _ _ _ d (2 * (100 - (csT j_f j_h j_u j_k z))) (161 * (100 - (csT j_f j_h j_u j_k z))) 181 [(7, .int (nI z)), (6, .ref q_1), (0, .ref (A 0 0 0))] [] M9 _) (fun z hz ih M9 A S τ hSS hτz s9 iv9 ak9 f9 => ?_) 0 (Nat.zero_le _) _ A S0 ρ2 (by rw [hn0]; exact SnX_id.symm) (uq_0 _ _).symm ⟨_, h9, t9⟩ iv9 ak9 f9
                  have ihz := ih
                  obtain ⟨e9, ha, t9⟩ := s9
                  refine pl_iload (pc := 181) dX1_ship_181 rfl ?_
                  refine pl_iconst (pc := 183) (v := 4) dX1_ship_183 (by rfl) ?_
                  refine pl_icmp_ge (pc := 184) (tgt := 253) dX1_ship_184 (by decide) (by omega) (by omega) (fun c184 => ?_) (fun c184 => ?_)
                  · refine pl_aload_n (pc := 253) dX1_ship_253 rfl rfl ?_
                    refine pj_dup (pc := 254) dX1_ship_254 rfl ?_
                    refine pj_getf (pc := 255) ckX1 4 q857 dX1_ship_255 (by decide) (ha.r0) rfl ?_
                    refine pl_iconst (pc := 258) (v := 1) dX1_ship_258 (by rfl) ?_
                    refine pj_iadd (pc := 259) dX1_ship_259 ?_
                    refine pj_putf (pc := 260) ckX1 4 q857 dX1_ship_260 (by decide) rfl (ha.r0) rfl rfl (Nat.le_of_ble_eq_true rfl) ?_
                    refine sxk (ha.p0_4) (fun My7 y7 => ?_)
                    refine pl_aload_n (pc := 263) dX1_ship_263 rfl rfl ?_
                    refine pj_getf (pc := 264) ckX1 4 q857 dX1_ship_264 (by decide) (y7.r0) rfl ?_
                    refine pl_iconst (pc := 267) (v := 1) dX1_ship_267 (by rfl) ?_
                    refine pj_isub (pc := 268) dX1_ship_268 ?_
                    refine pj_iret (pc := 269) dX1_ship_269 rfl ?_
                    have ez : z = 4 := by omega
                    subst ez
                    have e4 : csT j_f j_h j_u j_k 4 = (j_f + j_h + j_u + j_k) := rfl
                    rw [e4] at hSS hτz
                    have hF : shipS (S0 4 0) nw j_f j_h j_u j_k ρ = τ := by unfold shipS; rw [← hτ2, ← hτz]
                    have g8 : SX g (fun a => P a ∨ a = q_1) (mset F q_1 (.inl (gA g 0, 4, .inl (shA j_f j_h j_u j_k)))) A 0 S b (sR τ 2129 (row τ 2129 + nI 1)) e9 _ := y7
                    have t8 : TieX 0 S (sR τ 2129 (row τ 2129 + nI 1)) e9 nw := t9.cg g8.hz (fun j hj => rowS_ne (fun z => hj (by unfold fr0; omega))) (by simp [sA]) (by simp [sA]) (fun _ _ => by simp [sA]) rfl rfl
                    have h4z : S 4 0 = n0 + (j_f + j_h + j_u + j_k) := by rw [hSS]; exact SnX_eq
                    refine CQ.ok (τ := (sR τ 2129 (row τ 2129 + nI 1))) (by rw [p_ship_yes (by omega) (by omega) (by omega) (by omega) (by rw [hs9]; exact c61) (by omega) (by rw [hs9]; exact c100), hs9, hF]; rfl) (by exact f9) ⟨A, n0 + (j_f + j_h + j_u + j_k), by omega, by rw [← h4z]; exact (rowS_ne (by omega)).trans iv9.hn, ?_⟩
                    rw [← hSS]
                    exact ⟨_, g8.drop (own_keep fq_1) (fun _ z => Or.inl z) h.pf, t8⟩
                  · refine pl_iconst (pc := 187) (v := 0) dX1_ship_187 (by rfl) ?_
                    refine pj_istore (pc := 188) (lv' := [(8, _), (7, _), (6, _), (0, _)]) dX1_ship_188 (by decide) rfl ?_
                    have hzc := csT_le (f := j_f) (h := j_h) (u := j_u) (k := j_k) (z := z) (by omega)
                    refine ind_dn (n := (cnT j_f j_h j_u j_k z)) (P := fun k => ∀ M9 A S τ, S = SnX S0 4 0 (n0 + (csT j_f j_h j_u j_k z) + k) → τ = uq (ship2 j_f j_h j_u (nI (nw + 34))) ((csT j_f j_h j_u j_k z) + k) ρ2 → SB g (fun a => P a ∨ a = q_1) (mset F q_1 (.inl (gA g 0, 4, .inl (shA j_f j_h j_u j_k)))) A 0 S b τ nw M9 → IvG τ (S 4 0) (S0 8 0) (S0 10 0) (S0 6 0) nor nw → AkX S τ nor → τ.1 0 = nI 0 → PJ g _ _ _ _ d (2 * (100 - ((csT j_f j_h j_u j_k z) + k))) (161 * (100 - ((csT j_f j_h j_u j_k z) + k))) 190 [(8, .int (nI k)), (7, .int (nI z)), (6, .ref q_1), (0, .ref (A 0 0 0))] [] M9 _) (fun k hk ih M9 A S τ hSk hτk sb ivb akb fb => ?_) 0 (Nat.zero_le _) _ A S τ hSS hτz ⟨_, ha, t9⟩ iv9 ak9 f9
                    obtain ⟨eb, hb, tb⟩ := sb
                    have h4k : S 4 0 = n0 + (csT j_f j_h j_u j_k z) + k := by rw [hSk]; exact SnX_eq
                    refine pl_iload (pc := 190) dX1_ship_190 rfl ?_
                    refine pl_aload (pc := 192) dX1_ship_192 rfl ?_
                    refine pl_iload (pc := 194) dX1_ship_194 rfl ?_
                    refine pl_iald (pc := 196) (n := 4) dX1_ship_196 (hb.f (by exact mset_s)) (by omega) (by decide) ?_
                    refine PJ.top (y := nI (cnT j_f j_h j_u j_k z)) (shA_at (by omega)) ?_
                    refine pl_icmp_ge (pc := 197) (tgt := 247) dX1_ship_197 (by decide) (by omega) (by omega) (fun c197 => ?_) (fun c197 => ?_)
                    · refine pl_iinc1 (pc := 247) (lv' := [(7, _), (8, _), (6, _), (0, _)]) dX1_ship_247 rfl rfl (by decide) rfl ?_
                      refine pj_goto (pc := 250) (tgt := 181) dX1_ship_250 (by decide) ?_
                      refine PJ.sub [0, 2, 3] rfl ?_
                      have ek : k = cnT j_f j_h j_u j_k z := by omega
                      have es : csT j_f j_h j_u j_k (z + 1) = (csT j_f j_h j_u j_k z) + k := by rw [csT_s (by omega), ek]
                      refine PJ.widen (C1 := 2 * (100 - csT j_f j_h j_u j_k (z + 1))) (N1 := 161 * (100 - csT j_f j_h j_u j_k (z + 1))) (by omega) (by omega) ?_
                      exact ihz (by omega) _ A S τ (by rw [es, ← Nat.add_assoc]; exact hSk) (by rw [es]; exact hτk) ⟨_, hb, tb⟩ ivb akb fb
                    · have hck : ((csT j_f j_h j_u j_k z) + k) < 100 := by omega
                      have h4b : S 4 0 < 100 := by omega
                      refine pj_new (pc := 200) (C1 := (2 * (100 - ((csT j_f j_h j_u j_k z) + k)) - 1)) (N1 := (161 * (100 - ((csT j_f j_h j_u j_k z) + k)) - 10)) ckX10 q1047 q1059 q158 dX1_ship_200 _ dfX10 (by omega) (by omega) (fun q_200 hn_200 gq_200 => ?_)
                      refine sxh (hb.fresh hn_200) (fun y8 => ?_)
                      refine pj_dup (pc := 203) dX1_ship_203 rfl ?_
                      refine pl_aload_n (pc := 204) dX1_ship_204 rfl rfl ?_
                      refine pj_getf (pc := 205) ckX1 0 q853 dX1_ship_205 (by decide) (y8.r0) rfl ?_
                      refine pj_getfN (pc := 208) ckX2 26 q773 dX1_ship_208 (by decide) (y8.r1) rfl ?_
                      obtain ⟨m_211, c_211, l_211⟩ := y8.L4
                      refine pl_callVd (pc := 211) (As := []) (C1 := 0) (N1 := 0) (C2 := (2 * (100 - ((csT j_f j_h j_u j_k z) + k)) - 1)) (N2 := (161 * (100 - ((csT j_f j_h j_u j_k z) + k)) - 10)) ckJ2 mdJ2_size rfl q1049 q948 q949 q129 dX1_ship_211 rfl rfl (Nat.le_of_ble_eq_true rfl) l_211.1 (k_J2_size (d := d - 1) (by omega) l_211) (by omega) (by omega) (by omega) ?_
                      refine pl_iload (pc := 214) dX1_ship_214 rfl ?_
                      refine pl_iconst (pc := 216) (v := 5) dX1_ship_216 (by rfl) ?_
                      refine pl_callIv (pc := 217) (As := [_, _, _]) (C1 := 0) (N1 := 0) (C2 := (2 * (100 - ((csT j_f j_h j_u j_k z) + k)) - 1)) (N2 := (161 * (100 - ((csT j_f j_h j_u j_k z) + k)) - 10)) mdX10_init rfl q1060 q1061 q158 dX1_ship_217 rfl rfl (Nat.le_of_ble_eq_true rfl) (k_X10_init (d := d - 1) (by omega) (f := fun _ => 0) mset_s) (by omega) (by omega) (by omega) ?_
                      refine PJ.mem mset_m ?_
                      obtain ⟨ow_217, fq_217⟩ := hb.own hn_200 (c := (.inr (12, [.int (nI (S 4 0)), .int (nI z), .int (nI 5), .int (nI 0), .int (-1), .int (nI 0), .int (nI 0), .int (-1), .int (nI 0), .int (-1)])))
                      refine sxf ow_217 mset_s (fun My9 y9 hc_217 => ?_)
                      refine pj_astore (pc := 220) (lv' := [(9, _), (8, _), (7, _), (6, _), (0, _)]) dX1_ship_220 (by decide) rfl ?_
                      refine pl_aload_n (pc := 222) dX1_ship_222 rfl rfl ?_
                      refine pj_getf (pc := 223) ckX1 0 q853 dX1_ship_223 (by decide) (y9.r0) rfl ?_
                      refine pj_getfN (pc := 226) ckX2 26 q773 dX1_ship_226 (by decide) (y9.r1) rfl ?_
                      refine pl_aload (pc := 229) dX1_ship_229 rfl ?_
                      obtain ⟨m_231, c_231, l_231, b_231, el_231, ne_231⟩ := y9.LA4
                      refine pl_add (pc := 231) (C1 := (2 * (100 - ((csT j_f j_h j_u j_k z) + (k + 1))))) (N1 := (161 * (100 - ((csT j_f j_h j_u j_k z) + (k + 1))))) q1114 dX1_ship_231 (by omega) l_231 (by omega) b_231 (fun j hj => if_neg (by omega)) el_231 hc_217 rfl q3237 (ne_oo hc_217 l_231.1 (by decide)) ne_231 (Nat.le_of_ble_eq_true rfl) (by omega) (by omega) (fun q2 m1 mc1 hq2 hm1 hm2 => ?_)
                      refine sxk (adds_sx (t := nI z) (c := nI 5) (s := nI 0) (l := -1) y9 rfl ivb.hn h4b (own_keep fq_217) (fun _ z9 => Or.inl z9) hb.pf (Or.inr rfl) fq_217 hc_217 hq2 ⟨hm1, hm2⟩ (or_of hb.hz ivb akb)) (fun My10 y10 => ?_)
                      refine pj_pop (pc := 234) dX1_ship_234 rfl ?_
                      refine pl_aload_n (pc := 235) dX1_ship_235 rfl rfl ?_
                      refine pl_aload (pc := 236) dX1_ship_236 rfl ?_
                      refine pl_callVWv (pc := 238) (As := [_]) (C1 := 0) (N1 := 0) (C2 := (2 * (100 - ((csT j_f j_h j_u j_k z) + (k + 1))))) (N2 := (161 * (100 - ((csT j_f j_h j_u j_k z) + (k + 1))))) ckX1 mdX1_sails rfl q1055 q1057 qs5 q125 dX1_ship_238 rfl rfl (Nat.le_of_ble_eq_true rfl) (y10.r0) (x_X1_sailsQ (d := d - 1) (by omega) y10 (p := S 4 0) (by rw [SnX_eq]; omega) (if_pos ⟨rfl, rfl, rfl⟩)) (by omega) (by omega) (by omega) (fun My11 y11 => ?_)
                      refine pl_iinc1 (pc := 241) (lv' := [(8, _), (9, _), (7, _), (6, _), (0, _)]) dX1_ship_241 rfl rfl (by decide) rfl ?_
                      refine pj_goto (pc := 244) (tgt := 190) dX1_ship_244 (by decide) ?_
                      refine PJ.sub [0, 2, 3, 4] rfl ?_
                      have ex : row (s_adds τ (nI z) (nI 5) (nI 0) (-1)) 2116 + nI 34 = (nI (nw + 34)) := by rw [adds_2116 ivb.hn h4b, ivb.hnw]; exact nI_add _ _
                      rw [ex] at y11
                      have yk := y11.onR (σ1 := ship2 j_f j_h j_u (nI (nw + 34)) ((csT j_f j_h j_u j_k z) + k) τ) (fun j _ => by unfold ship2; rw [trade_eq (by omega) (by omega)]; exact adds_sails ivb.hn h4b) ((OnR.adds.R.R).sy.tr OnR.adds)
                      exact ih (by omega) _ (A1X A 4 35 0 (S 4 0) q_200 q2) (SnX S 4 0 (S 4 0 + 1)) _ (by rw [h4k, hSk]; exact SnX_two) (by rw [show (csT j_f j_h j_u j_k z) + (k + 1) = ((csT j_f j_h j_u j_k z) + k) + 1 from (Nat.add_assoc _ _ _).symm, uq_s _ ((csT j_f j_h j_u j_k z) + k), ← hτk]) ⟨_, yk, by unfold ship2; rw [trade_eq (by omega) (by omega)]; exact tie_adds tb hb.hz rfl ivb h4b (by decide) rfl (by decide)⟩ (by unfold ship2; rw [trade_eq (by omega) (by omega), SnX_eq]; exact adds_iv ivb h4b (by decide)) (by unfold ship2; exact adds_ak akb ivb.hn h4b) fb
                · refine pl_aload_n (pc := 138) dX1_ship_138 rfl rfl ?_
                  refine pj_getf (pc := 139) ckX1 8 q861 dX1_ship_139 (by decide) (h9.r0) rfl ?_
                  refine pl_iload (pc := 142) dX1_ship_142 rfl ?_
                  obtain ⟨p_144, hp_144, ep_144⟩ := iv9.of_ i (by omega)
                  obtain ⟨m_144, c_144, l_144⟩ := h9.L12
                  refine pl_callVd (pc := 144) (As := [_]) (C1 := 0) (N1 := 0) (C2 := 203) (N2 := 16192) ckJ2 mdJ2_get rfl q1054 q708 q709 q129 dX1_ship_144 rfl rfl (Nat.le_of_ble_eq_true rfl) l_144.1 (k_J2_get (d := d - 1) (by omega) l_144 (j := i) (by omega) (if_pos (by omega))) (by omega) (by omega) (by omega) ?_
                  rw [show A 35 0 (tN (VX 0 S b τ e9 13 0 0 i)) = A 35 0 p_144 by rw [V13 h9.hz (by omega), ep_144, tN_nI (by omega)]]
                  refine pj_castS (pc := 147) ckX10 q1047 dX1_ship_147 (h9.r35 hp_144) ?_
                  refine pj_getfN (pc := 150) ckX10 3 q1075 dX1_ship_150 (by decide) (h9.r35 hp_144) rfl ?_
                  refine pj_if_ne (pc := 153) (tgt := 172) dX1_ship_153 (by decide) (fun c153 => ?_) (fun c153 => ?_)
                  · refine pl_iinc1 (pc := 172) (lv' := [(7, _), (6, _), (0, _)]) dX1_ship_172 rfl rfl (by decide) rfl ?_
                    refine pj_goto (pc := 175) (tgt := 126) dX1_ship_175 (by decide) ?_
                    exact ih (by omega) _ _ (by show _ = shipC _ i (upto _ i _); rw [← hτ]; unfold shipC; rw [ep_144, tN_nI (by omega), if_neg c153]) ⟨_, h9, t9⟩ iv9 ak9 f9
                  · refine pl_aload_n (pc := 156) dX1_ship_156 rfl rfl ?_
                    refine pl_aload_n (pc := 157) dX1_ship_157 rfl rfl ?_
                    refine pj_getf (pc := 158) ckX1 8 q861 dX1_ship_158 (by decide) (h9.r0) rfl ?_
                    refine pl_iload (pc := 161) dX1_ship_161 rfl ?_
                    obtain ⟨m_163, c_163, l_163⟩ := h9.L12
                    refine pl_callVd (pc := 163) (As := [_]) (C1 := 0) (N1 := 0) (C2 := 203) (N2 := 16192) ckJ2 mdJ2_get rfl q1054 q708 q709 q129 dX1_ship_163 rfl rfl (Nat.le_of_ble_eq_true rfl) l_163.1 (k_J2_get (d := d - 1) (by omega) l_163 (j := i) (by omega) (if_pos (by omega))) (by omega) (by omega) (by omega) ?_
                    rw [show A 35 0 (tN (VX 0 S b τ e9 13 0 0 i)) = A 35 0 p_144 by rw [V13 h9.hz (by omega), ep_144, tN_nI (by omega)]]
                    refine pj_castS (pc := 166) ckX10 q1047 dX1_ship_166 (h9.r35 hp_144) ?_
                    refine pl_callVWv (pc := 169) (As := [_]) (C1 := 0) (N1 := 0) (C2 := 203) (N2 := 16192) ckX1 mdX1_sails rfl q1055 q1057 qs5 q125 dX1_ship_169 rfl rfl (Nat.le_of_ble_eq_true rfl) (h9.r0) (x_X1_sails (d := d - 1) (by omega) h9 hp_144) (by omega) (by omega) (by omega) (fun My12 y12 => ?_)
                    refine pl_iinc1 (pc := 172) (lv' := [(7, _), (6, _), (0, _)]) dX1_ship_172 rfl rfl (by decide) rfl ?_
                    refine pj_goto (pc := 175) (tgt := 126) dX1_ship_175 (by decide) ?_
                    have ex : row τ 2116 + nI 34 = (nI (nw + 34)) := by rw [iv9.hnw]; exact nI_add _ _
                    rw [ex] at y12
                    exact ih (by omega) _ _ (by show _ = shipC _ i (upto _ i _); rw [← hτ]; unfold shipC; rw [ep_144, tN_nI (by omega), if_pos c153]) ⟨_, y12, tie_is t9 h9.hz hp_144 (by rw [show per τ p_144 2 = nI 0 from c153]; decide) (by rw [show per τ p_144 2 = nI 0 from c153]; decide) (fun j hj hne => (rowS_ne (fun z => hj (by unfold fr0; omega))).trans (rowS_ne hne)) (by rw [show per (sR (sR τ (768 + 8 * p_144 + 2) (nI 1)) (768 + 8 * p_144 + 5) (nI (nw + 34))) p_144 2 = nI 1 from (rowS_ne (by omega)).trans rowS_eq]; decide) (by simp [sA]) (by simp [sA]) (by simp [sA]) rfl rfl⟩ (sails_iv iv9 hp_144) (ak9.cg (fun j h1 h2 => (rowS_ne (by omega)).trans (rowS_ne (by omega)))) f9
              · refine pj_bipush (pc := 103) (v := (-4)) dX1_ship_103 (by rfl) ?_
                refine pj_iret (pc := 105) dX1_ship_105 rfl ?_
                exact CQ.ok (τ := ρ) (by rw [p_ship_4 (by omega) (by omega) (by omega) (by omega) (by rw [hs9]; exact c61) (by omega) (by rw [hs9]; exact c100), hs9]) (by exact h00) ⟨A, S 4 0, hS4, iv1.hn, by rw [SnX_id]; exact ⟨_, y5.drop (own_keep fq_1) (fun _ z => Or.inl z) h.pf, t⟩⟩
            · refine pj_bipush (pc := 85) (v := (-3)) dX1_ship_85 (by rfl) ?_
              refine pj_iret (pc := 87) dX1_ship_87 rfl ?_
              exact CQ.ok (τ := ρ) (by rw [p_ship_3 (by omega) (by omega) (by omega) (by omega) (by rw [hs9]; exact c61) (by omega), hs9]) (by exact h00) ⟨A, S 4 0, hS4, iv1.hn, by rw [SnX_id]; exact ⟨_, y5.drop (own_keep fq_1) (fun _ z => Or.inl z) h.pf, t⟩⟩
          · refine pj_bipush (pc := 64) (v := (-2)) dX1_ship_64 (by rfl) ?_
            refine pj_iret (pc := 66) dX1_ship_66 rfl ?_
            exact CQ.ok (τ := ρ) (by rw [p_ship_2 (by omega) (by omega) (by omega) (by omega) (by rw [hs9]; exact c61), hs9]) (by exact h00) ⟨A, S 4 0, hS4, iv1.hn, by rw [SnX_id]; exact ⟨_, y5.drop (own_keep fq_1) (fun _ z => Or.inl z) h.pf, t⟩⟩
