set_option maxRecDepth 100000
section IMG
variable {g : GP} {P : Nat → Prop} {F : Mem} {A : XA} {τ : XT} {dn : XD} {ν : XS} {S : Nat → Nat → Nat} {b : XS} {σ : MS} {e : XE} {M : Mem}
theorem RX.putL (h : RX g P F A τ dn ν M) {L : Nat → Int64} : RX g P F A τ dn (ν.1, ν.2.1, L, ν.2.2.2) (mset M (A 0 0 0) (coO A L (ν.1 0 0 0))) := by
  have hl : LvX ν.2.1 0 0 0 := LvX.one (by decide) (by decide)
  obtain ⟨h1, h2, h3, h4, h5, h6, h7⟩ := h
  refine ⟨fun k w i hl' => ?_, h2, h3, fun a e hf => ?_, fun a e hf => ?_, h6, h7⟩
  · by_cases c : k = 0 ∧ w = 0 ∧ i = 0
    · obtain ⟨rfl, rfl, rfl⟩ := c
      rw [mset_s]
      rfl
    · rw [mset_n (fun z => c (h2 _ _ _ _ _ _ hl' hl z)), h1 _ _ _ hl']
      have hk : k ≠ 0 := fun z => by
        subst z
        have l1 := hl'.1
        have l2 := hl'.2.1
        simp [wNX] at l1
        simp [cNX] at l2
        exact c ⟨rfl, by omega, by omega⟩
      unfold celX shX
      split <;> first | rfl | exact absurd rfl hk
  · rw [mset_n (fun z => by rw [z, (h3 _ _ _ hl).1] at hf; cases hf)]
    exact h4 _ _ hf
  · rw [mset_n (fun z => by rw [z, (h3 _ _ _ hl).2] at hf; cases hf)]
    exact h5 _ _ hf
theorem SX.p0_19 (h : SX g P F A 0 S b σ e M) {v : Int64} : SX g P F A 0 S b (sL σ 32 v) e (mset M (A 0 0 0) (.inr (11, (f0_X A b σ e).set 19 (.long v)))) := by
  obtain ⟨τ, dn, fl, hR, hz, hf, hd⟩ := h
  refine ⟨τ, dn, fl, ?_, hz, hf, hd⟩
  have hc : (.inr (11, (f0_X A b σ e).set 19 (.long v)) : va_E) = coO A (sL σ 32 v).2.2 (VX 0 S b σ e 0 0 0) := by
    show _ = coO A (vp_updL σ.2.2 32 v) _
    simp [coO, f0_X, vp_updL, V0_2 hz, V0_3 hz, V0_4 hz, V0_5 hz, V0_6 hz, V0_16 hz, V0_17 hz, V0_18 hz]
  rw [hc]
  exact hR.putL
theorem SX.p0_20 (h : SX g P F A 0 S b σ e M) {v : Int64} : SX g P F A 0 S b (sL σ 33 v) e (mset M (A 0 0 0) (.inr (11, (f0_X A b σ e).set 20 (.long v)))) := by
  obtain ⟨τ, dn, fl, hR, hz, hf, hd⟩ := h
  refine ⟨τ, dn, fl, ?_, hz, hf, hd⟩
  have hc : (.inr (11, (f0_X A b σ e).set 20 (.long v)) : va_E) = coO A (sL σ 33 v).2.2 (VX 0 S b σ e 0 0 0) := by
    show _ = coO A (vp_updL σ.2.2 33 v) _
    simp [coO, f0_X, vp_updL, V0_2 hz, V0_3 hz, V0_4 hz, V0_5 hz, V0_6 hz, V0_16 hz, V0_17 hz, V0_18 hz]
  rw [hc]
  exact hR.putL
end IMG
/-- the image's sums -/
def isumF (f : Nat → Int32) (pl : Bool) : Nat → Int64
  | 0 => 0
  | k + 1 => isumF f pl k + (f k).toInt64 * (if pl = true then (nI k).toInt64 + 1 else 1)
theorem place_l {k : Nat} (h : k < 1000) : (nI (k + 1)).toInt64 = (nI k).toInt64 + 1 := by
  rw [nI_l (by omega), nI_l (by omega)]
  show lN (k + 1) = lN k + lN 1
  exact (lN_add k 1).symm
theorem sums_ok {σ : MS} : ∀ m, m ≤ 200 → uq sum1 m σ = sL (sL σ 32 (σ.2.2 32 + isumF (σ.2.1 17) false m)) 33 (σ.2.2 33 + isumF (σ.2.1 17) true m)
  | 0, _ => by
    rw [uq_0]
    refine Prod.ext rfl (Prod.ext rfl ?_)
    funext j
    show σ.2.2 j = vp_updL (vp_updL σ.2.2 32 (σ.2.2 32 + 0)) 33 (σ.2.2 33 + 0) j
    unfold vp_updL
    by_cases h3 : j = 33
    · rw [if_pos h3, h3, Int64.add_zero]
    · rw [if_neg h3]
      by_cases h2 : j = 32
      · rw [if_pos h2, h2, Int64.add_zero]
      · rw [if_neg h2]
  | m + 1, hm => by
    rw [uq_s, sums_ok m (by omega)]
    unfold sum1
    refine Prod.ext rfl (Prod.ext rfl ?_)
    funext j
    show vp_updL (vp_updL (vp_updL (vp_updL σ.2.2 32 _) 33 _) 32 _) 33 _ j = vp_updL (vp_updL σ.2.2 32 _) 33 _ j
    by_cases h3 : j = 33
    · subst h3
      simp only [vp_updL, sL, isumF]
      simp
      rw [place_l (by omega), Int64.add_assoc]
    · by_cases h2 : j = 32
      · subst h2
        simp only [vp_updL, sL, isumF]
        simp
        rw [Int64.add_assoc]
      · simp [vp_updL, h2, h3]
theorem chk_ok {σ : MS} : ∀ m, m ≤ 200 → uq (chk1 σ) m (-(σ.2.2 32), -(σ.2.2 33)) = (isumF (σ.2.1 17) false m - σ.2.2 32, isumF (σ.2.1 17) true m - σ.2.2 33)
  | 0, _ => by
    rw [uq_0]
    simp [isumF]
  | m + 1, hm => by
    rw [uq_s, chk_ok m (by omega)]
    unfold chk1
    simp only [isumF]
    rw [place_l (by omega)]
    refine Prod.ext ?_ ?_
    · simp
      rw [Int64.sub_eq_add_neg, Int64.sub_eq_add_neg, Int64.add_assoc, Int64.add_assoc, Int64.add_comm (-σ.2.2 32)]
    · simp
      rw [Int64.sub_eq_add_neg, Int64.sub_eq_add_neg, Int64.add_assoc, Int64.add_assoc, Int64.add_comm (-σ.2.2 33)]
theorem img_val {a h : Int32} (hh : h = if a ≤ nI 1 then -1 else h) : nI 200 * a + h + nI 1 = nI 200 * a + (if a ≤ nI 1 then nI 0 else h + nI 1) := by
  by_cases c : a ≤ nI 1
  · rw [if_pos c] at hh ⊢
    rw [hh, Int32.add_assoc]
    rfl
  · rw [if_neg c, Int32.add_assoc]
theorem img_F {f : Nat → MS → MS} (hf : ∀ c σ j v, f c (sF σ j v) = sF (f c σ) j v) {σ : MS} {j : Nat} {v : Int32} : ∀ k, uq f k (sF σ j v) = sF (uq f k σ) j v
  | 0 => by rw [uq_0, uq_0]
  | k + 1 => by rw [uq_s, uq_s, img_F hf k, hf]
set_option maxHeartbeats 600000 in
theorem x_X1_sum {g : GP} {μ : Mem} {d : Nat} {P : Nat → Prop} {F : Mem} {A : XA} {S : Nat → Nat → Nat} {b : XS} {σ : MS} {e : XE}(hd : 1 ≤ d) (h : SX g P F A 0 S b σ e μ) {pl : Bool} {im : Nat} (him : σ.1 31 = nI im) (hIM : im ≤ 196) : PM g yX1_sum (ws_ yX1_sum cX1_sum 5 (some .long)) d 0 0 [.ref (A 0 0 0), .int (bI pl)] μ (rQ (some (.long (isumF (σ.2.1 17) pl im))) μ) := by
  refine PM.of (by decide +kernel) (Nat.le_of_ble_eq_true rfl) ?_
  refine PJ.ok (fun G => ?_)
  show PJ g _ _ _ _ d 0 0 0 [(0, .ref (A 0 0 0)), (1, .int (bI pl))] [] _ _
  refine pj_lconst (pc := 0) (v := 0) dX1_sum_0 (by rfl) ?_
  refine pj_lstore_n (pc := 1) (lv' := [(2, _), (0, _), (1, _)]) dX1_sum_1 rfl (by decide) rfl ?_
  refine pl_iconst (pc := 2) (v := 0) dX1_sum_2 (by rfl) ?_
  refine pj_istore (pc := 3) (lv' := [(4, _), (2, _), (0, _), (1, _)]) dX1_sum_3 (by decide) rfl ?_
  refine PJ.sub [0, 1, 3, 2] rfl ?_
  refine ind_dn (n := im) (P := fun i => PJ g _ _ _ _ d 0 0 5 [(4, .int (nI i)), (2, .long (isumF (σ.2.1 17) pl i)), (1, .int (bI pl)), (0, .ref (A 0 0 0))] [] μ _) (fun i hi ih => ?_) 0 (Nat.zero_le _)
  refine pl_iload (pc := 5) dX1_sum_5 rfl ?_
  refine pl_aload_n (pc := 7) dX1_sum_7 rfl rfl ?_
  refine pj_getf (pc := 8) ckX1 18 q871 dX1_sum_8 (by decide) (h.r0) rfl ?_
  refine PJ.top (y := nI im) him ?_
  refine pl_icmp_ge (pc := 11) (tgt := 45) dX1_sum_11 (by decide) (by omega) (by omega) (fun c11 => ?_) (fun c11 => ?_)
  · refine pl_lload_n (pc := 45) dX1_sum_45 rfl rfl ?_
    refine pj_lret (pc := 46) dX1_sum_46 rfl ?_
    have ei : i = im := by omega
    subst ei
    exact ⟨rfl, rfl⟩
  · refine pl_lload_n (pc := 14) dX1_sum_14 rfl rfl ?_
    refine pl_aload_n (pc := 15) dX1_sum_15 rfl rfl ?_
    refine pj_getf (pc := 16) ckX1 21 q874 dX1_sum_16 (by decide) (h.r0) rfl ?_
    refine pl_iload (pc := 19) dX1_sum_19 rfl ?_
    refine pl_iald (pc := 21) (n := 196) dX1_sum_21 (h.r47) (by omega) (by decide) ?_
    refine PJ.top (h.v47 (by omega)) ?_
    refine pj_i2l (pc := 22) dX1_sum_22 rfl ?_
    refine pl_iload_n (pc := 23) dX1_sum_23 rfl rfl ?_
    refine pl_if_eqB (pc := 24) (tgt := 35) dX1_sum_24 (by decide) (fun c24 => ?_) (fun c24 => ?_)
    · refine pj_lconst (pc := 35) (v := 1) dX1_sum_35 (by rfl) ?_
      refine pj_lmul (pc := 36) dX1_sum_36 ?_
      refine pj_ladd (pc := 37) dX1_sum_37 ?_
      refine pj_lstore_n (pc := 38) (lv' := [(2, _), (4, _), (1, _), (0, _)]) dX1_sum_38 rfl (by decide) rfl ?_
      refine pl_iinc1 (pc := 39) (lv' := [(4, _), (2, _), (1, _), (0, _)]) dX1_sum_39 rfl rfl (by decide) rfl ?_
      refine pj_goto (pc := 42) (tgt := 5) dX1_sum_42 (by decide) ?_
      exact PJ.conv (by simp [isumF, c24]) rfl rfl (ih (by omega))
    · refine pl_iload (pc := 27) dX1_sum_27 rfl ?_
      refine pj_i2l (pc := 29) dX1_sum_29 rfl ?_
      refine pj_lconst (pc := 30) (v := 1) dX1_sum_30 (by rfl) ?_
      refine pj_ladd (pc := 31) dX1_sum_31 ?_
      refine pj_goto (pc := 32) (tgt := 36) dX1_sum_32 (by decide) ?_
      refine pj_lmul (pc := 36) dX1_sum_36 ?_
      refine pj_ladd (pc := 37) dX1_sum_37 ?_
      refine pj_lstore_n (pc := 38) (lv' := [(2, _), (4, _), (1, _), (0, _)]) dX1_sum_38 rfl (by decide) rfl ?_
      refine pl_iinc1 (pc := 39) (lv' := [(4, _), (2, _), (1, _), (0, _)]) dX1_sum_39 rfl rfl (by decide) rfl ?_
      refine pj_goto (pc := 42) (tgt := 5) dX1_sum_42 (by decide) ?_
      exact PJ.conv (by simp [isumF, c24]) rfl rfl (ih (by omega))
theorem img_A {f : Nat → MS → MS} {a : Nat} (hf : ∀ c σ, (f c σ).2.1 a = σ.2.1 a) {σ : MS} : ∀ k, (uq f k σ).2.1 a = σ.2.1 a
  | 0 => by rw [uq_0]
  | k + 1 => by rw [uq_s, hf, img_A hf k]
set_option maxHeartbeats 600000 in
theorem x_X1_image {g : GP} {μ : Mem} {d : Nat} {P : Nat → Prop} {F : Mem} {A : XA} {S : Nat → Nat → Nat} {b : XS} {σ : MS} {nor nw : Nat} (s : SB g P F A 0 S b σ nw μ) (iv : IvG σ (S 4 0) (S 8 0) (S 10 0) (S 6 0) nor nw) (rs : RsX σ) (hd : 9 ≤ d)  : PM g yX1_image (ws_ yX1_image cX1_image 2 (some .int)) d 1 6 [.ref (A 0 0 0)] μ (CQ [] (p_image σ (S 4 0)) (fun τ M => SB g P F A 0 S b τ nw M)) := by
  refine PM.of (by decide +kernel) (Nat.le_of_ble_eq_true rfl) ?_
  refine PJ.ok (fun G => ?_)
  show PJ g _ _ _ _ d 1 6 0 [(0, .ref (A 0 0 0))] [] _ _
  obtain ⟨ρ, hs0⟩ : ∃ ρ, ρ = sF σ 0 (nI 0) := ⟨_, rfl⟩
  have hs9 : s0 σ = ρ := hs0.symm
  have s1 := s.F0 (x := nI 0)
  rw [← hs0] at s1
  obtain ⟨e, h, t⟩ := s1
  have iv1 : IvG ρ (S 4 0) (S 8 0) (S 10 0) (S 6 0) nor nw := by rw [hs0]; exact iv.f0
  have rs1 : RsX ρ := by rw [hs0]; exact rs
  have h00 : ρ.1 0 = nI 0 := by rw [hs0]; rfl
  have hS4 := h.hz.2.1
  have hS6 := h.hz.2.2.1
  have hS8 := h.hz.2.2.2.1
  have hS10 := h.hz.2.2.2.2.1
  refine pl_iconst (pc := 0) (v := 0) dX1_image_0 (by rfl) ?_
  refine pj_istore_n (pc := 1) (lv' := [(1, _), (0, _)]) dX1_image_1 rfl (by decide) rfl ?_
  refine ind_dn (n := 96) (P := fun i => ∀ M9 τ, τ = uq img1 i ρ → SX g P F A 0 S b τ e M9 → PJ g _ _ _ _ d 1 6 2 [(1, .int (nI i)), (0, .ref (A 0 0 0))] [] M9 _) (fun i hi ih M9 τ hτ h9 => ?_) 0 (Nat.zero_le _) _ ρ (uq_0 _ _).symm h
  refine pl_iload_n (pc := 2) dX1_image_2 rfl rfl ?_
  refine pl_bipush (pc := 3) (v := 96) dX1_image_3 (by rfl) ?_
  refine pl_icmp_ge (pc := 5) (tgt := 49) dX1_image_5 (by decide) (by omega) (by omega) (fun c5 => ?_) (fun c5 => ?_)
  · have ei : i = 96 := by omega
    subst ei
    obtain ⟨υ, hυ⟩ : ∃ υ, υ = τ := ⟨_, rfl⟩
    have h9u := h9
    rw [← hυ] at h9u
    refine pl_iconst (pc := 49) (v := 0) dX1_image_49 (by rfl) ?_
    refine pj_istore_n (pc := 50) (lv' := [(1, _), (0, _)]) dX1_image_50 rfl (by decide) rfl ?_
    refine ind_dn (n := (S 4 0)) (P := fun j => ∀ M9 τ2, τ2 = uq img2 j υ → SX g P F A 0 S b τ2 e M9 → PJ g _ _ _ _ d 1 6 51 [(1, .int (nI j)), (0, .ref (A 0 0 0))] [] M9 _) (fun j hj ih M8 τ2 hτ2 h8 => ?_) 0 (Nat.zero_le _) _ υ (uq_0 _ _).symm h9u
    refine pl_iload_n (pc := 51) dX1_image_51 rfl rfl ?_
    refine pl_aload_n (pc := 52) dX1_image_52 rfl rfl ?_
    refine pj_getf (pc := 53) ckX1 0 q853 dX1_image_53 (by decide) (h8.r0) rfl ?_
    refine pj_getfN (pc := 56) ckX2 26 q773 dX1_image_56 (by decide) (h8.r1) rfl ?_
    obtain ⟨m_59, c_59, l_59⟩ := h8.L4
    refine pl_callVd (pc := 59) (As := []) (C1 := 0) (N1 := 0) (C2 := 1) (N2 := 6) ckJ2 mdJ2_size rfl q1049 q948 q949 q129 dX1_image_59 rfl rfl (Nat.le_of_ble_eq_true rfl) l_59.1 (k_J2_size (d := d - 1) (by omega) l_59) (by omega) (by omega) (by omega) ?_
    refine pl_icmp_ge (pc := 62) (tgt := 118) dX1_image_62 (by decide) (by omega) (by omega) (fun c62 => ?_) (fun c62 => ?_)
    · have ej : j = S 4 0 := by omega
      subst ej
      refine pl_aload_n (pc := 118) dX1_image_118 rfl rfl ?_
      refine pl_bipush (pc := 119) (v := 96) dX1_image_119 (by rfl) ?_
      refine pl_aload_n (pc := 121) dX1_image_121 rfl rfl ?_
      refine pj_getf (pc := 122) ckX1 0 q853 dX1_image_122 (by decide) (h8.r0) rfl ?_
      refine pj_getfN (pc := 125) ckX2 26 q773 dX1_image_125 (by decide) (h8.r1) rfl ?_
      obtain ⟨m_128, c_128, l_128⟩ := h8.L4
      refine pl_callVd (pc := 128) (As := []) (C1 := 0) (N1 := 0) (C2 := 1) (N2 := 6) ckJ2 mdJ2_size rfl q1049 q948 q949 q129 dX1_image_128 rfl rfl (Nat.le_of_ble_eq_true rfl) l_128.1 (k_J2_size (d := d - 1) (by omega) l_128) (by omega) (by omega) (by omega) ?_
      refine pl_iadd (pc := 131) dX1_image_131 ?_
      refine pj_putf (pc := 132) ckX1 18 q871 dX1_image_132 (by decide) rfl (h8.r0) rfl rfl (Nat.le_of_ble_eq_true rfl) ?_
      refine sxk (h8.p0_18) (fun My1 y1 => ?_)
      have him1 : (sF τ2 31 (nI (96 + S 4 0))).1 31 = nI (96 + S 4 0) := by simp [sF, upd]
      have hIM : 96 + S 4 0 ≤ 196 := by omega
      refine pl_aload_n (pc := 135) dX1_image_135 rfl rfl ?_
      refine pl_aload_n (pc := 136) dX1_image_136 rfl rfl ?_
      refine pl_iconst (pc := 137) (v := 0) dX1_image_137 (by rfl) ?_
      refine pl_callVd (pc := 138) (As := [_]) (C1 := 0) (N1 := 0) (C2 := 1) (N2 := 6) ckX1 mdX1_sum rfl q1166 q1168 qs6 q125 dX1_image_138 rfl rfl (Nat.le_of_ble_eq_true rfl) (y1.r0) (x_X1_sum (d := d - 1) (by omega) y1 (pl := false) him1 hIM) (by omega) (by omega) (by omega) ?_
      refine pj_putf (pc := 141) ckX1 19 q872 dX1_image_141 (by decide) rfl (y1.r0) rfl rfl (Nat.le_of_ble_eq_true rfl) ?_
      refine sxk (y1.p0_19) (fun My2 y2 => ?_)
      refine pl_aload_n (pc := 144) dX1_image_144 rfl rfl ?_
      refine pl_aload_n (pc := 145) dX1_image_145 rfl rfl ?_
      refine pl_iconst (pc := 146) (v := 1) dX1_image_146 (by rfl) ?_
      refine pl_callVd (pc := 147) (As := [_]) (C1 := 0) (N1 := 0) (C2 := 1) (N2 := 6) ckX1 mdX1_sum rfl q1166 q1168 qs6 q125 dX1_image_147 rfl rfl (Nat.le_of_ble_eq_true rfl) (y2.r0) (x_X1_sum (d := d - 1) (by omega) y2 (pl := true) him1 hIM) (by omega) (by omega) (by omega) ?_
      refine pj_putf (pc := 150) ckX1 20 q873 dX1_image_150 (by decide) rfl (y2.r0) rfl rfl (Nat.le_of_ble_eq_true rfl) ?_
      refine sxk (y2.p0_20) (fun My3 y3 => ?_)
      refine pl_aload_n (pc := 153) dX1_image_153 rfl rfl ?_
      refine pj_getf (pc := 154) ckX1 18 q871 dX1_image_154 (by decide) (y3.r0) rfl ?_
      refine PJ.top (y := nI (96 + S 4 0)) him1 ?_
      refine pj_iret (pc := 157) dX1_image_157 rfl ?_
      have e1 : imgS (S 4 0) (sF ρ 31 (nI (96 + S 4 0))) = sF τ2 31 (nI (96 + S 4 0)) := by
        unfold imgS
        rw [img_F (f := img1) (fun _ _ _ _ => rfl), img_F (f := img2) (fun _ _ _ _ => rfl), ← hτ, ← hυ, ← hτ2]
      have e2 : s_image (S 4 0) σ = sL (sL (sF τ2 31 (nI (96 + S 4 0))) 32 (isumF (τ2.2.1 17) false (96 + S 4 0))) 33 (isumF (τ2.2.1 17) true (96 + S 4 0)) := by
        unfold s_image
        rw [hs9, e1, sums_ok _ (by omega)]
        refine Prod.ext rfl (Prod.ext rfl ?_)
        funext x
        show vp_updL (vp_updL (vp_updL (vp_updL τ2.2.2 32 0) 33 0) 32 (0 + isumF (τ2.2.1 17) false (96 + S 4 0))) 33 (0 + isumF (τ2.2.1 17) true (96 + S 4 0)) x = vp_updL (vp_updL τ2.2.2 32 (isumF (τ2.2.1 17) false (96 + S 4 0))) 33 (isumF (τ2.2.1 17) true (96 + S 4 0)) x
        rw [Int64.zero_add, Int64.zero_add]
        unfold vp_updL
        by_cases h3 : x = 33
        · simp only [if_pos h3]
        · by_cases h2 : x = 32
          · simp only [if_neg h3, if_pos h2]
          · simp only [if_neg h3, if_neg h2]
      have k1 := (imgq_k (f := img1) (fun _ _ => ⟨rfl, rfl⟩) (σ := ρ) 96)
      have k2 := (imgq_k (f := img2) (fun _ _ => ⟨rfl, rfl⟩) (σ := υ) (S 4 0))
      rw [← hτ, ← hυ] at k1
      rw [← hτ2] at k2
      have ka : ∀ a, a ≠ 17 → τ2.2.1 a = ρ.2.1 a := fun a ha => by rw [hτ2, img_A (f := img2) (fun _ _ => wA_k ha), hυ, hτ, img_A (f := img1) (fun _ _ => wA_k ha)]
      exact CQ.ok (v := nI (96 + S 4 0)) (τ := s_image (S 4 0) σ) (by unfold p_image; rw [e2]; rfl) (by rw [e2]; show τ2.1 0 = nI 0; rw [k2.2, k1.2]; exact h00) (by rw [e2]; exact ⟨_, y3, t.cg h.hz (fun j _ => congrFun (k2.1.trans k1.1) j) (ka 3 (by decide)) (ka 4 (by decide)) (fun j _ => congrFun (ka 14 (by decide)) j) (by show τ2.1 23 = ρ.1 23; rw [k2.2, k1.2]) (by show τ2.1 24 = ρ.1 24; rw [k2.2, k1.2])⟩)
    · refine pl_aload_n (pc := 65) dX1_image_65 rfl rfl ?_
      refine pj_getf (pc := 66) ckX1 21 q874 dX1_image_66 (by decide) (h8.r0) rfl ?_
      refine pl_bipush (pc := 69) (v := 96) dX1_image_69 (by rfl) ?_
      refine pl_iload_n (pc := 71) dX1_image_71 rfl rfl ?_
      refine pl_iadd (pc := 72) dX1_image_72 ?_
      refine pl_bipush (pc := 73) (v := 8) dX1_image_73 (by rfl) ?_
      refine pl_aload_n (pc := 75) dX1_image_75 rfl rfl ?_
      refine pj_getf (pc := 76) ckX1 0 q853 dX1_image_76 (by decide) (h8.r0) rfl ?_
      refine pj_getfN (pc := 79) ckX2 26 q773 dX1_image_79 (by decide) (h8.r1) rfl ?_
      refine pl_iload_n (pc := 82) dX1_image_82 rfl rfl ?_
      obtain ⟨m_83, c_83, l_83⟩ := h8.L4
      refine pl_callVd (pc := 83) (As := [_]) (C1 := 0) (N1 := 0) (C2 := 1) (N2 := 6) ckJ2 mdJ2_get rfl q1054 q708 q709 q129 dX1_image_83 rfl rfl (Nat.le_of_ble_eq_true rfl) l_83.1 (k_J2_get (d := d - 1) (by omega) l_83 (j := j) (by omega) (if_pos (by omega))) (by omega) (by omega) (by omega) ?_
      refine pj_castS (pc := 86) ckX10 q1047 dX1_image_86 (h8.r35 (by omega)) ?_
      refine pj_getfN (pc := 89) ckX10 2 q1072 dX1_image_89 (by decide) (h8.r35 (by omega)) rfl ?_
      refine pj_imul (pc := 92) dX1_image_92 ?_
      refine pl_aload_n (pc := 93) dX1_image_93 rfl rfl ?_
      refine pj_getf (pc := 94) ckX1 0 q853 dX1_image_94 (by decide) (h8.r0) rfl ?_
      refine pj_getfN (pc := 97) ckX2 26 q773 dX1_image_97 (by decide) (h8.r1) rfl ?_
      refine pl_iload_n (pc := 100) dX1_image_100 rfl rfl ?_
      obtain ⟨m_101, c_101, l_101⟩ := h8.L4
      refine pl_callVd (pc := 101) (As := [_]) (C1 := 0) (N1 := 0) (C2 := 1) (N2 := 6) ckJ2 mdJ2_get rfl q1054 q708 q709 q129 dX1_image_101 rfl rfl (Nat.le_of_ble_eq_true rfl) l_101.1 (k_J2_get (d := d - 1) (by omega) l_101 (j := j) (by omega) (if_pos (by omega))) (by omega) (by omega) (by omega) ?_
      refine pj_castS (pc := 104) ckX10 q1047 dX1_image_104 (h8.r35 (by omega)) ?_
      refine pj_getfN (pc := 107) ckX10 3 q1075 dX1_image_107 (by decide) (h8.r35 (by omega)) rfl ?_
      refine pj_iadd (pc := 110) dX1_image_110 ?_
      refine pl_iast (pc := 111) (n := 196) dX1_image_111 (h8.r47) (by omega) (by decide) ?_
      refine sxk (h8.p47 (by omega)) (fun My4 y4 => ?_)
      refine pl_iinc1 (pc := 112) (lv' := [(1, _), (0, _)]) dX1_image_112 rfl rfl (by decide) rfl ?_
      refine pj_goto (pc := 115) (tgt := 51) dX1_image_115 (by decide) ?_
      exact ih (by omega) _ _ (by rw [uq_s, ← hτ2]; rfl) y4
  · refine pl_aload_n (pc := 8) dX1_image_8 rfl rfl ?_
    refine pj_getf (pc := 9) ckX1 21 q874 dX1_image_9 (by decide) (h9.r0) rfl ?_
    refine pl_iload_n (pc := 12) dX1_image_12 rfl rfl ?_
    refine pl_sipush (pc := 13) (v := 200) dX1_image_13 (by rfl) ?_
    refine pl_aload_n (pc := 16) dX1_image_16 rfl rfl ?_
    refine pj_getf (pc := 17) ckX1 0 q853 dX1_image_17 (by decide) (h9.r0) rfl ?_
    refine pl_iload_n (pc := 20) dX1_image_20 rfl rfl ?_
    obtain ⟨q_21, hm_21, hq_21, hdd_21⟩ := h9.held (s := i) (by omega)
    refine pl_callVd (pc := 21) (As := [_]) (C1 := 0) (N1 := 0) (C2 := 1) (N2 := 6) ckX2 mdX2_at rfl q1123 q1124 q1125 q126 dX1_image_21 rfl rfl (Nat.le_of_ble_eq_true rfl) (h9.r1) (x_X2_at (d := d - 1) (by omega) h9 (by omega) hm_21 hq_21) (by omega) (by omega) (by omega) ?_
    refine ph_kind (pc := 24) hq_21 (fun G => dw_at G 0 rfl) (fun G => dw_at G 1 rfl) dX1_image_24 (by omega) (Nat.le_of_ble_eq_true rfl) ?_
    refine PJ.top ho_kind ?_
    refine pj_imul (pc := 27) dX1_image_27 ?_
    refine pl_aload_n (pc := 28) dX1_image_28 rfl rfl ?_
    refine pj_getf (pc := 29) ckX1 0 q853 dX1_image_29 (by decide) (h9.r0) rfl ?_
    refine pl_iload_n (pc := 32) dX1_image_32 rfl rfl ?_
    obtain ⟨q_33, hm_33, hq_33, hdd_33⟩ := h9.held (s := i) (by omega)
    refine pl_callVd (pc := 33) (As := [_]) (C1 := 0) (N1 := 0) (C2 := 1) (N2 := 6) ckX2 mdX2_at rfl q1123 q1124 q1125 q126 dX1_image_33 rfl rfl (Nat.le_of_ble_eq_true rfl) (h9.r1) (x_X2_at (d := d - 1) (by omega) h9 (by omega) hm_33 hq_33) (by omega) (by omega) (by omega) ?_
    refine ph_holder (pc := 36) hq_33 (fun G => dw_at G 2 rfl) (fun G => dw_at G 3 rfl) dX1_image_36 (by omega) (Nat.le_of_ble_eq_true rfl) ?_
    refine PJ.top ho_holder ?_
    refine pj_iadd (pc := 39) dX1_image_39 ?_
    refine pl_iconst (pc := 40) (v := 1) dX1_image_40 (by rfl) ?_
    refine pj_iadd (pc := 41) dX1_image_41 ?_
    refine PJ.top (y := nI 200 * sec τ i 0 + (if sec τ i 0 ≤ nI 1 then nI 0 else sec τ i 1 + nI 1)) (img_val (h := sec τ i 1) hq_21.p1) ?_
    refine pl_iast (pc := 42) (n := 196) dX1_image_42 (h9.r47) (by omega) (by decide) ?_
    refine sxk (h9.p47 (by omega)) (fun My5 y5 => ?_)
    refine pl_iinc1 (pc := 43) (lv' := [(1, _), (0, _)]) dX1_image_43 rfl rfl (by decide) rfl ?_
    refine pj_goto (pc := 46) (tgt := 2) dX1_image_46 (by decide) ?_
    exact ih (by omega) _ _ (by rw [uq_s, ← hτ]; rfl) y5
set_option maxHeartbeats 600000 in
theorem x_X1_check {g : GP} {μ : Mem} {d : Nat} {P : Nat → Prop} {F : Mem} {A : XA} {S : Nat → Nat → Nat} {b : XS} {σ : MS} {nor nw : Nat} (s : SB g P F A 0 S b σ nw μ) (iv : IvG σ (S 4 0) (S 8 0) (S 10 0) (S 6 0) nor nw) (rs : RsX σ) {im : Nat} (him : σ.1 31 = nI im) (hIM : im ≤ 196) (hd : 3 ≤ d)  : PM g yX1_check (ws_ yX1_check cX1_check 5 (some .int)) d 1 6 [.ref (A 0 0 0)] μ (CQ [] (p_check σ im) (fun τ M => SB g P F A 0 S b τ nw M)) := by
  refine PM.of (by decide +kernel) (Nat.le_of_ble_eq_true rfl) ?_
  refine PJ.ok (fun G => ?_)
  show PJ g _ _ _ _ d 1 6 0 [(0, .ref (A 0 0 0))] [] _ _
  obtain ⟨ρ, hs0⟩ : ∃ ρ, ρ = sF σ 0 (nI 0) := ⟨_, rfl⟩
  have hs9 : s0 σ = ρ := hs0.symm
  have s1 := s.F0 (x := nI 0)
  rw [← hs0] at s1
  obtain ⟨e, h, t⟩ := s1
  have iv1 : IvG ρ (S 4 0) (S 8 0) (S 10 0) (S 6 0) nor nw := by rw [hs0]; exact iv.f0
  have rs1 : RsX ρ := by rw [hs0]; exact rs
  have h00 : ρ.1 0 = nI 0 := by rw [hs0]; rfl
  have hS4 := h.hz.2.1
  have hS6 := h.hz.2.2.1
  have hS8 := h.hz.2.2.2.1
  have hS10 := h.hz.2.2.2.2.1
  have him1 : ρ.1 31 = nI im := by rw [hs0]; exact him
  refine pl_aload_n (pc := 0) dX1_check_0 rfl rfl ?_
  refine pl_iconst (pc := 1) (v := 0) dX1_check_1 (by rfl) ?_
  refine pl_callVd (pc := 2) (As := [_]) (C1 := 0) (N1 := 0) (C2 := 1) (N2 := 6) ckX1 mdX1_sum rfl q1166 q1168 qs6 q125 dX1_check_2 rfl rfl (Nat.le_of_ble_eq_true rfl) (h.r0) (x_X1_sum (d := d - 1) (by omega) h (pl := false) him1 hIM) (by omega) (by omega) (by omega) ?_
  refine pl_aload_n (pc := 5) dX1_check_5 rfl rfl ?_
  refine pj_getf (pc := 6) ckX1 19 q872 dX1_check_6 (by decide) (h.r0) rfl ?_
  refine pj_lsub (pc := 9) dX1_check_9 ?_
  refine pj_lstore_n (pc := 10) (lv' := [(1, _), (0, _)]) dX1_check_10 rfl (by decide) rfl ?_
  refine pl_aload_n (pc := 11) dX1_check_11 rfl rfl ?_
  refine pl_iconst (pc := 12) (v := 1) dX1_check_12 (by rfl) ?_
  refine pl_callVd (pc := 13) (As := [_]) (C1 := 0) (N1 := 0) (C2 := 1) (N2 := 6) ckX1 mdX1_sum rfl q1166 q1168 qs6 q125 dX1_check_13 rfl rfl (Nat.le_of_ble_eq_true rfl) (h.r0) (x_X1_sum (d := d - 1) (by omega) h (pl := true) him1 hIM) (by omega) (by omega) (by omega) ?_
  refine pl_aload_n (pc := 16) dX1_check_16 rfl rfl ?_
  refine pj_getf (pc := 17) ckX1 20 q873 dX1_check_17 (by decide) (h.r0) rfl ?_
  refine pj_lsub (pc := 20) dX1_check_20 ?_
  refine pj_lstore_n (pc := 21) (lv' := [(3, _), (1, _), (0, _)]) dX1_check_21 rfl (by decide) rfl ?_
  refine pl_lload_n (pc := 22) dX1_check_22 rfl rfl ?_
  refine pj_lconst (pc := 23) (v := 0) dX1_check_23 (by rfl) ?_
  refine pj_lcmp (pc := 24) dX1_check_24 ?_
  refine pj_if_ne (pc := 25) (tgt := 36) dX1_check_25 (by decide) (fun c25 => ?_) (fun c25 => ?_)
  · have d25 : ¬ (isumF (ρ.2.1 17) false im - ρ.2.2 32) = 0 := fun z => c25 ((lg_cmp_eq _ _).mpr z)
    refine pl_lload_n (pc := 36) dX1_check_36 rfl rfl ?_
    refine pj_lconst (pc := 37) (v := 0) dX1_check_37 (by rfl) ?_
    refine pj_lcmp (pc := 38) dX1_check_38 ?_
    refine pj_if_eq (pc := 39) (tgt := 70) dX1_check_39 (by decide) (fun z9 => absurd z9 c25) (fun _ => ?_)
    refine pl_lload_n (pc := 42) dX1_check_42 rfl rfl ?_
    refine pl_lload_n (pc := 43) dX1_check_43 rfl rfl ?_
    refine pj_lrem (pc := 44) dX1_check_44 (by assumption) ?_
    refine pj_lconst (pc := 45) (v := 0) dX1_check_45 (by rfl) ?_
    refine pj_lcmp (pc := 46) dX1_check_46 ?_
    refine pj_if_ne (pc := 47) (tgt := 70) dX1_check_47 (by decide) (fun c47 => ?_) (fun c47 => ?_)
    · have d47 : ¬ (isumF (ρ.2.1 17) true im - ρ.2.2 33) - (isumF (ρ.2.1 17) true im - ρ.2.2 33) / (isumF (ρ.2.1 17) false im - ρ.2.2 32) * (isumF (ρ.2.1 17) false im - ρ.2.2 32) = 0 := fun z => c47 ((lg_cmp_eq _ _).mpr z)
      refine pj_bipush (pc := 70) (v := (-2)) dX1_check_70 (by rfl) ?_
      refine pj_iret (pc := 72) dX1_check_72 rfl ?_
      have e9 : chkV ρ im = (isumF (ρ.2.1 17) false im - ρ.2.2 32, isumF (ρ.2.1 17) true im - ρ.2.2 33) := chk_ok im (by omega)
      exact CQ.ok (τ := ρ) (by unfold p_check; rw [hs9, e9]; dsimp only; unfold chkA; simp only [c25, d25, c47, d47, ↓reduceIte]; first | done | rfl) (by exact h00) ⟨_, h, t⟩
    · have d47 : (isumF (ρ.2.1 17) true im - ρ.2.2 33) - (isumF (ρ.2.1 17) true im - ρ.2.2 33) / (isumF (ρ.2.1 17) false im - ρ.2.2 32) * (isumF (ρ.2.1 17) false im - ρ.2.2 32) = 0 := (lg_cmp_eq _ _).mp c47
      refine pl_lload_n (pc := 50) dX1_check_50 rfl rfl ?_
      refine pl_lload_n (pc := 51) dX1_check_51 rfl rfl ?_
      refine pj_ldiv (pc := 52) dX1_check_52 (by assumption) ?_
      refine pj_lconst (pc := 53) (v := 1) dX1_check_53 (by rfl) ?_
      refine pj_lcmp (pc := 54) dX1_check_54 ?_
      refine pj_if_lt (pc := 55) (tgt := 70) dX1_check_55 (by decide) (fun c55 => ?_) (fun c55 => ?_)
      · have d55 : (isumF (ρ.2.1 17) true im - ρ.2.2 33) / (isumF (ρ.2.1 17) false im - ρ.2.2 32) < 1 := (lg_cmp_lt _ _).mp c55
        refine pj_bipush (pc := 70) (v := (-2)) dX1_check_70 (by rfl) ?_
        refine pj_iret (pc := 72) dX1_check_72 rfl ?_
        have e9 : chkV ρ im = (isumF (ρ.2.1 17) false im - ρ.2.2 32, isumF (ρ.2.1 17) true im - ρ.2.2 33) := chk_ok im (by omega)
        exact CQ.ok (τ := ρ) (by unfold p_check; rw [hs9, e9]; dsimp only; unfold chkA; simp only [c25, d25, eq_true c47, d47, c55, d55, ↓reduceIte]; first | done | rfl) (by exact h00) ⟨_, h, t⟩
      · have d55 : ¬ (isumF (ρ.2.1 17) true im - ρ.2.2 33) / (isumF (ρ.2.1 17) false im - ρ.2.2 32) < 1 := fun z => c55 ((lg_cmp_lt _ _).mpr z)
        refine pl_lload_n (pc := 58) dX1_check_58 rfl rfl ?_
        refine pl_lload_n (pc := 59) dX1_check_59 rfl rfl ?_
        refine pj_ldiv (pc := 60) dX1_check_60 (by assumption) ?_
        refine pl_aload_n (pc := 61) dX1_check_61 rfl rfl ?_
        refine pj_getf (pc := 62) ckX1 18 q871 dX1_check_62 (by decide) (h.r0) rfl ?_
        refine pj_i2l (pc := 65) dX1_check_65 rfl ?_
        refine pj_lcmp (pc := 66) dX1_check_66 ?_
        refine pj_if_le (pc := 67) (tgt := 73) dX1_check_67 (by decide) (fun c67 => ?_) (fun c67 => ?_)
        · have d67 : ¬ (ρ.1 31).toInt64 < (isumF (ρ.2.1 17) true im - ρ.2.2 33) / (isumF (ρ.2.1 17) false im - ρ.2.2 32) := fun z => absurd ((lg_cmp_le _ _).mp c67) (Int64.not_le.mpr z)
          refine pl_lload_n (pc := 73) dX1_check_73 rfl rfl ?_
          refine pl_lload_n (pc := 74) dX1_check_74 rfl rfl ?_
          refine pj_ldiv (pc := 75) dX1_check_75 (by assumption) ?_
          refine pj_l2i (pc := 76) dX1_check_76 rfl ?_
          refine pl_iconst (pc := 77) (v := 1) dX1_check_77 (by rfl) ?_
          refine pj_isub (pc := 78) dX1_check_78 ?_
          refine pj_iret (pc := 79) dX1_check_79 rfl ?_
          have e9 : chkV ρ im = (isumF (ρ.2.1 17) false im - ρ.2.2 32, isumF (ρ.2.1 17) true im - ρ.2.2 33) := chk_ok im (by omega)
          exact CQ.ok (τ := ρ) (by unfold p_check; rw [hs9, e9]; dsimp only; unfold chkA; simp only [c25, d25, eq_true c47, d47, c55, d55, c67, d67, ↓reduceIte]; first | done | rfl) (by exact h00) ⟨_, h, t⟩
        · have d67 : (ρ.1 31).toInt64 < (isumF (ρ.2.1 17) true im - ρ.2.2 33) / (isumF (ρ.2.1 17) false im - ρ.2.2 32) := Int64.not_le.mp (fun z => c67 ((lg_cmp_le _ _).mpr z))
          refine pj_bipush (pc := 70) (v := (-2)) dX1_check_70 (by rfl) ?_
          refine pj_iret (pc := 72) dX1_check_72 rfl ?_
          have e9 : chkV ρ im = (isumF (ρ.2.1 17) false im - ρ.2.2 32, isumF (ρ.2.1 17) true im - ρ.2.2 33) := chk_ok im (by omega)
          exact CQ.ok (τ := ρ) (by unfold p_check; rw [hs9, e9]; dsimp only; unfold chkA; simp only [c25, d25, eq_true c47, d47, c55, d55, c67, d67, ↓reduceIte]; first | done | rfl) (by exact h00) ⟨_, h, t⟩
  · have d25 : (isumF (ρ.2.1 17) false im - ρ.2.2 32) = 0 := (lg_cmp_eq _ _).mp c25
    refine pl_lload_n (pc := 28) dX1_check_28 rfl rfl ?_
    refine pj_lconst (pc := 29) (v := 0) dX1_check_29 (by rfl) ?_
    refine pj_lcmp (pc := 30) dX1_check_30 ?_
    refine pj_if_ne (pc := 31) (tgt := 36) dX1_check_31 (by decide) (fun c31 => ?_) (fun c31 => ?_)
    · have d31 : ¬ (isumF (ρ.2.1 17) true im - ρ.2.2 33) = 0 := fun z => c31 ((lg_cmp_eq _ _).mpr z)
      refine pl_lload_n (pc := 36) dX1_check_36 rfl rfl ?_
      refine pj_lconst (pc := 37) (v := 0) dX1_check_37 (by rfl) ?_
      refine pj_lcmp (pc := 38) dX1_check_38 ?_
      refine pj_if_eq (pc := 39) (tgt := 70) dX1_check_39 (by decide) (fun _ => ?_) (fun z9 => absurd c25 z9)
      refine pj_bipush (pc := 70) (v := (-2)) dX1_check_70 (by rfl) ?_
      refine pj_iret (pc := 72) dX1_check_72 rfl ?_
      have e9 : chkV ρ im = (isumF (ρ.2.1 17) false im - ρ.2.2 32, isumF (ρ.2.1 17) true im - ρ.2.2 33) := chk_ok im (by omega)
      exact CQ.ok (τ := ρ) (by unfold p_check; rw [hs9, e9]; dsimp only; unfold chkA; simp only [eq_true c25, d25, c31, d31, ↓reduceIte]; first | done | rfl) (by exact h00) ⟨_, h, t⟩
    · have d31 : (isumF (ρ.2.1 17) true im - ρ.2.2 33) = 0 := (lg_cmp_eq _ _).mp c31
      refine pj_iconst (pc := 34) (v := (-1)) dX1_check_34 (by rfl) ?_
      refine pj_iret (pc := 35) dX1_check_35 rfl ?_
      have e9 : chkV ρ im = (isumF (ρ.2.1 17) false im - ρ.2.2 32, isumF (ρ.2.1 17) true im - ρ.2.2 33) := chk_ok im (by omega)
      exact CQ.ok (τ := ρ) (by unfold p_check; rw [hs9, e9]; dsimp only; unfold chkA; simp only [eq_true c25, d25, eq_true c31, d31, ↓reduceIte]; first | done | rfl) (by exact h00) ⟨_, h, t⟩
