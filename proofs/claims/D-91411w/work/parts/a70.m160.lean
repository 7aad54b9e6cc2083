set_option maxRecDepth 100000
theorem x_X7_add_20 {g : GP} {μ : Mem} {d C N : Nat} {P : Nat → Prop} {F : Mem} {A : XA} {w : Nat} {S : Nat → Nat → Nat} {b : XS} {σ : MS} {e : XE} {z m : Nat} {v : Int32} {x : UInt32} (h : SX g P F A w S b σ e μ) (hz : z < 4) (hm : σ.2.1 6 z = nI m) (hm9 : m < 1000) (hv : rnOk v x) (hr : ∀ z, z < 4 → ∃ r, r ≤ 1000 ∧ σ.2.1 6 z = nI r) (hS : S 32 z = 1) : PJ g yX7_add.cls cX7_add 3 (none, yX7_add.name, []) d C N 20 [(0, .ref (A 29 0 0)), (1, .int (nI z)), (2, .float x)] [] μ (WQ none (SX g P F A w S b (rnS σ z m v) e)) := by
  obtain ⟨⟨f0, hf0⟩, n29, n31⟩ := h.r32 hz hS
  have h29 := h.r29
  have h31 := h.r31
  have c29 : mset μ (A 32 0 z) (flA g (vf_upd f0 m x)) (A 29 0 0) = some (.inr (34, [.ref (A 30 0 0), .ref (A 31 0 0)])) := by rw [mset_n n29]; exact h29
  have c31 : mset μ (A 32 0 z) (flA g (vf_upd f0 m x)) (A 31 0 0) = some (.inl (gA g 0, 4, .inl (VX w S b σ e 31 0 0))) := by rw [mset_n n31]; exact h31
  have v31 : VX w S b σ e 31 0 0 z = nI m := (h.v31 hz).trans hm
  obtain ⟨R, hR30, hRz⟩ : ∃ R : Nat → Option Nat, μ (A 30 0 0) = some (.inl (gA g 8, 4, .inr (.inr (.inr (.inr R))))) ∧ R z = some (A 32 0 z) := ⟨_, h.r30, if_pos hS⟩
  refine pl_aload_n (pc := 20) dX7_add_20 rfl rfl ?_
  refine pj_getf (pc := 21) ckX7 0 q612 dX7_add_21 (by decide) h29 rfl ?_
  refine pl_iload_n (pc := 24) dX7_add_24 rfl rfl ?_
  refine pl_aldR (pc := 25) (n := 4) dX7_add_25 hR30 (by omega) (by decide) ?_
  rw [hRz]
  show PJ g _ _ _ _ d C N 26 _ (.ref (A 32 0 z) :: _) _ _
  refine pl_aload_n (pc := 26) dX7_add_26 rfl rfl ?_
  refine pj_getf (pc := 27) ckX7 1 q613 dX7_add_27 (by decide) h29 rfl ?_
  refine pl_iload_n (pc := 30) dX7_add_30 rfl rfl ?_
  refine pl_iald (pc := 31) (n := 4) dX7_add_31 h31 (by omega) (by decide) ?_
  refine PJ.top (y := nI m) v31 ?_
  refine pl_fload_n (pc := 32) dX7_add_32 rfl rfl ?_
  refine pl_fast (pc := 33) (n := 1000) dX7_add_33 hf0 (by omega) (by decide) ?_
  refine pl_aload_n (pc := 34) dX7_add_34 rfl rfl ?_
  refine pj_getf (pc := 35) ckX7 1 q613 dX7_add_35 (by decide) c29 rfl ?_
  refine pl_iload_n (pc := 38) dX7_add_38 rfl rfl ?_
  refine pj_dup2_11 (pc := 39) dX7_add_39 rfl rfl ?_
  refine pl_iald (pc := 40) (n := 4) dX7_add_40 c31 (by omega) (by decide) ?_
  refine PJ.top (y := nI m) v31 ?_
  refine pl_iconst (pc := 41) (v := 1) dX7_add_41 (by rfl) ?_
  refine pl_iadd (pc := 42) dX7_add_42 ?_
  refine pl_iast (pc := 43) (n := 4) dX7_add_43 c31 (by omega) (by decide) ?_
  refine pj_vret (pc := 44) dX7_add_44 rfl ?_
  exact ⟨rfl, h.rainPut hz hS hm hm9 hv hr hf0⟩
def nwC (S : Nat → Nat → Nat) (z : Nat) : Nat := if S 32 z = 1 then 0 else 1
def nwN (S : Nat → Nat → Nat) (z : Nat) : Nat := if S 32 z = 1 then 0 else 1000
theorem x_X7_add {g : GP} {μ : Mem} {d : Nat} {P : Nat → Prop} {F : Mem} {A : XA} {w : Nat} {S : Nat → Nat → Nat} {b : XS} {σ : MS} {e : XE} {z m : Nat} {v : Int32} {x : UInt32} (hd : 1 ≤ d) (h : SX g P F A w S b σ e μ) (hz : z < 4) (hm : σ.2.1 6 z = nI m) (hm9 : m < 1000) (hv : rnOk v x) (hr : ∀ z, z < 4 → ∃ r, r ≤ 1000 ∧ σ.2.1 6 z = nI r) : PM g yX7_add (ws_ yX7_add cX7_add 3 none) d (nwC S z) (nwN S z) [.ref (A 29 0 0), .int (nI z), .float x] μ (WQ none (fun M => ∃ A1 S1, (∀ k w i, k ≠ 32 → A1 k w i = A k w i) ∧ (∀ x y, x ≠ 32 → S1 x y = S x y) ∧ S1 32 z = 1 ∧ SX g P F A1 w S1 b (rnS σ z m v) e M)) := by
  refine PM.of (by decide +kernel) (Nat.le_of_ble_eq_true rfl) ?_
  refine PJ.ok (fun G => ?_)
  show PJ g _ _ _ _ d (nwC S z) (nwN S z) 0 [(0, .ref (A 29 0 0)), (1, .int (nI z)), (2, .float x)] [] _ _
  have h29 := h.r29
  obtain ⟨R, hR30, hRz⟩ : ∃ R : Nat → Option Nat, μ (A 30 0 0) = some (.inl (gA g 8, 4, .inr (.inr (.inr (.inr R))))) ∧ ∀ y, R y = if S 32 y = 1 then some (A 32 0 y) else none := ⟨_, h.r30, fun _ => rfl⟩
  refine pl_aload_n (pc := 0) dX7_add_0 rfl rfl ?_
  refine pj_getf (pc := 1) ckX7 0 q612 dX7_add_1 (by decide) h29 rfl ?_
  refine pl_iload_n (pc := 4) dX7_add_4 rfl rfl ?_
  refine pl_aldR (pc := 5) (n := 4) dX7_add_5 hR30 (by omega) (by decide) ?_
  by_cases c : S 32 z = 1
  · rw [hRz z, if_pos c]
    show PJ g _ _ _ _ d _ _ 6 _ (.ref (A 32 0 z) :: _) _ _
    refine pj_ifnonnull (pc := 6) (tgt := 20) dX7_add_6 (by decide) ?_
    exact PJ.post (fun o M hq => ⟨hq.1, A, S, fun _ _ _ _ => rfl, fun _ _ _ => rfl, c, hq.2⟩) (x_X7_add_20 h hz hm hm9 hv hr c)
  · rw [hRz z, if_neg c]
    show PJ g _ _ _ _ d _ _ 6 _ (.null :: _) _ _
    refine PJ.widen (C1 := 1) (N1 := 1000) (by unfold nwC; rw [if_neg c]; omega) (by unfold nwN; rw [if_neg c]; omega) ?_
    refine pj_ifnonnullN (pc := 6) dX7_add_6 ?_
    refine pl_aload_n (pc := 9) dX7_add_9 rfl rfl ?_
    refine pj_getf (pc := 10) ckX7 0 q612 dX7_add_10 (by decide) h29 rfl ?_
    refine pl_iload_n (pc := 13) dX7_add_13 rfl rfl ?_
    refine pl_sipush (pc := 14) (v := 1000) dX7_add_14 (by rfl) ?_
    refine pj_newa (pc := 17) (C1 := 0) (N1 := 0) (t0 := 4) (a0 := (1000, .inr (.inr (.inl (fun _ => 0))))) dX7_add_17 q1288 rfl rfl (fun _ => rfl) (Int32.not_lt.mpr (nI_pos' (by omega))) (nI_clamp (by omega)) (by decide) (by omega) (by omega) (fun q hq gq => ?_)
    have hne : A 30 0 0 ≠ q := fun y => by rw [y, hq] at hR30; cases hR30
    refine pl_astA (pc := 19) (n := 4) dX7_add_19 (by rw [mset_n hne]; exact hR30) mset_s (by omega) (by decide) ?_
    have eR : va_up R z (some q) = fun y => if SnX S 32 z 1 32 y = 1 then some (AzX A z q 32 0 y) else none := by
      funext y
      unfold va_up AzX
      by_cases ey : y = z
      · subst ey
        rw [if_pos rfl, SnX_eq, if_pos rfl, if_pos ⟨rfl, rfl, rfl⟩]
      · rw [if_neg ey, hRz, SnX_ne (fun t => ey t.2), if_neg (fun t : 32 = 32 ∧ 0 = 0 ∧ y = z => ey t.2.2)]
    rw [eR]
    exact PJ.post (fun o M hq9 => ⟨hq9.1, AzX A z q, SnX S 32 z 1, fun _ _ _ t => if_neg (fun y => t y.1), fun _ _ t => SnX_ne (fun y => t y.1), SnX_eq, hq9.2⟩) (x_X7_add_20 (A := AzX A z q) (S := SnX S 32 z 1) (h.rainNew hz c hq) hz hm hm9 hv hr SnX_eq)
theorem nw_le {S : Nat → Nat → Nat} {z : Nat} : nwC S z ≤ 1 ∧ nwN S z ≤ 1000 := by
  unfold nwC nwN
  split <;> omega
theorem p_rain_yes {σ : MS} {z m : Nat} {v : Int32} (hz : z < 4) (h1 : ¬ v < -1) (h2 : v ≤ nI 500) (hm : (s0 σ).2.1 6 z = nI m) (hm9 : m < 1000) : p_rain σ (nI z) v = (nI (m + 1), rnS (s0 σ) z m v) := by
  unfold p_rain
  rw [inN_nI hz (by decide), if_neg (by decide), if_neg h1, if_neg (fun t => t h2), tN_nI (by omega), hm, if_neg (fun t => by have := (nI_eq (by omega) (by decide)).mp t; omega), tN_nI (by omega)]
  dsimp only
  rw [show (wA (s0 σ) 5 (1000 * z + m) v).2.1 6 z = nI m from hm, nI_add]
  exact Prod.ext ((rnS_6 (σ := s0 σ) (m := m) (v := v)).trans (if_pos rfl)) rfl
theorem rain1_eq {σ : MS} {z m i : Nat} {v : Int32} (hm : rm σ z = nI m) (hm9 : m < 1000) : rain1 z v i σ = rnS σ z m v := by
  unfold rain1
  rw [hm, tN_nI (by omega)]
  dsimp only
  rw [show rm (wA σ 5 (1000 * z + m) v) z = nI m from hm, nI_add]
  rfl
theorem IvG.rain {σ : MS} {n nl nb q nor nw z m : Nat} {x : Int32} (v : IvG σ n nl nb q nor nw) (hm : m < 1000) : IvG (rnS σ z m x) n nl nb q nor nw := by
  refine ⟨v.hn, v.hP, v.hl, v.hL, v.hb, v.hB, v.hq, v.hQ, v.hor, v.hOR, v.hnw, v.hNW, Wc_cg rfl rfl rfl v.hw, v.hF, v.who, v.hire, v.ord, v.cor, v.of_, fun a ha => Pinv_cg (fun j h1 h2 => rfl) (v.par a ha), v.pace, fun y hy => ?_⟩
  rw [rnS_6]
  by_cases e : y = z
  · rw [if_pos e]
    exact ⟨m + 1, by omega, rfl⟩
  · rw [if_neg e]
    exact v.rns y hy
theorem rain_iv {σ : MS} {n nl nb q nor nw : Nat} {z v : Int32} (iv : IvG σ n nl nb q nor nw) : IvG (p_rain σ z v).2 n nl nb q nor nw := by
  have v0 := iv.f0 (j := 0) (x := nI 0)
  cases c1 : inN z 4 with
  | false => unfold p_rain; rw [if_pos c1]; with_reducible exact v0.f0
  | true =>
    obtain ⟨i, hi, rfl⟩ := inN_of (by omega) c1
    by_cases c2 : v < -1
    · unfold p_rain; rw [c1, if_neg (by decide), if_pos c2]; with_reducible exact v0.f0
    · by_cases c3 : v ≤ nI 500
      · obtain ⟨r, hr, er⟩ := v0.rns i hi
        by_cases c4 : r = 1000
        · subst c4
          unfold p_rain
          rw [c1, if_neg (by decide), if_neg c2, if_neg (fun t => t c3), tN_nI (by omega), show (s0 σ).2.1 6 i = nI 1000 from er, if_pos rfl]
          with_reducible exact v0
        · rw [p_rain_yes hi c2 c3 er (by omega)]
          exact v0.rain (by omega)
      · unfold p_rain; rw [c1, if_neg (by decide), if_neg c2, if_pos c3]; with_reducible exact v0.f0
theorem rains_ivS {σ : MS} {n nl nb q nor nw z r : Nat} {x : Int32} (v : IvG σ n nl nb q nor nw) (hr : rm σ z = nI r) : ∀ k, r + k ≤ 1000 → rm (upto (rain1 z x) k σ) z = nI (r + k) ∧ IvG (upto (rain1 z x) k σ) n nl nb q nor nw
  | 0, _ => ⟨hr, v⟩
  | k + 1, h => by
    obtain ⟨h1, h2⟩ := rains_ivS v hr (x := x) k (by omega)
    show rm (rain1 z x k (upto (rain1 z x) k σ)) z = _ ∧ IvG (rain1 z x k (upto (rain1 z x) k σ)) n nl nb q nor nw
    refine ⟨rain1_rm h1, ?_⟩
    rw [rain1_eq h1 (by omega)]
    exact h2.rain (by omega)
theorem rains_iv {σ : MS} {n nl nb q nor nw : Nat} {z v m : Int32} (iv : IvG σ n nl nb q nor nw) : IvG (p_rains σ z v m).2 n nl nb q nor nw := by
  have v0 := iv.f0 (j := 0) (x := nI 0)
  cases c1 : inN z 4 with
  | false => unfold p_rains; rw [if_pos c1]; with_reducible exact v0.f0
  | true =>
    obtain ⟨i, hi, rfl⟩ := inN_of (by omega) c1
    unfold p_rains
    rw [c1, if_neg (by decide), tN_nI (by omega)]
    by_cases c2 : v < 0
    · rw [if_pos c2]; with_reducible exact v0.f0
    · rw [if_neg c2]
      by_cases c3 : nI 500 < v
      · rw [if_pos c3]; with_reducible exact v0.f0
      · rw [if_neg c3]
        by_cases c4 : m < nI 1
        · rw [if_pos c4]; with_reducible exact v0.f0
        · rw [if_neg c4]
          by_cases c5 : ¬ m ≤ nI 1000
          · rw [if_pos c5]; with_reducible exact v0.f0
          · rw [if_neg c5]
            by_cases c6 : ¬ rm (s0 σ) i + m ≤ nI 1000
            · rw [if_pos c6]; with_reducible exact v0
            · rw [if_neg c6]
              obtain ⟨r, hr, er⟩ := v0.rns i hi
              obtain ⟨j, hj, e⟩ := inN_of (x := m) (n := 1001) (by decide) (by simp only [inN, Bool.and_eq_true, decide_eq_true_eq]; exact ⟨Int32.le_of_lt (Int32.lt_of_lt_of_le (by decide) (Int32.not_lt.mp c4)), Int32.lt_of_le_of_lt (Classical.not_not.mp c5) (by decide)⟩)
              have hs : r + j ≤ 1000 := by
                have z := Classical.not_not.mp c6
                rw [show rm (s0 σ) i = nI r from er, e, nI_add] at z
                exact (nI_leI (by omega) (by decide)).mp z
              dsimp only
              rw [e, tN_nI (by omega)]
              exact (rains_ivS v0 er j hs).2
theorem ge0_of {v : Int32} (h1 : ¬ v < -1) (h2 : ¬ v = -1) : 0 ≤ v := by
  rw [Int32.lt_iff_toInt_lt] at h1
  rw [Int32.le_iff_toInt_le]
  have e1 : (-1 : Int32).toInt = -1 := by decide
  have e0 : (0 : Int32).toInt = 0 := by decide
  have h3 : v.toInt ≠ -1 := fun z => h2 (Int32.toInt_inj.mp (z.trans e1.symm))
  omega
set_option maxHeartbeats 600000 in
theorem x_X1_rain {g : GP} {μ : Mem} {d : Nat} {P : Nat → Prop} {F : Mem} {A : XA} {S : Nat → Nat → Nat} {b : XS} {σ : MS} {nor nw : Nat} (s : SB g P F A 0 S b σ nw μ) (iv : IvG σ (S 4 0) (S 8 0) (S 10 0) (S 6 0) nor nw) (rs : RsX σ) (hd : 8 ≤ d) {z : Int32} {v : Int32} : PM g yX1_rain (ws_ yX1_rain cX1_rain 3 (some .int)) d 1 1000 [.ref (A 0 0 0), .int z, .int v] μ (CQ ["java/lang/IndexOutOfBoundsException", "java/lang/IllegalArgumentException"] (p_rain σ z v) (fun τ M => ∃ A1 S1, (∀ x y, x ≠ 32 → S1 x y = S x y) ∧ SB g P F A1 0 S1 b τ nw M)) := by
  refine PM.of (by decide +kernel) (Nat.le_of_ble_eq_true rfl) ?_
  refine PJ.ok (fun G => ?_)
  show PJ g _ _ _ _ d 1 1000 0 [(0, .ref (A 0 0 0)), (1, .int z), (2, .int v)] [] _ _
  obtain ⟨ρ, hs0⟩ : ∃ ρ, ρ = sF σ 0 (nI 0) := ⟨_, rfl⟩
  have hs9 : s0 σ = ρ := hs0.symm
  have s1 := s.F0 (x := nI 0)
  rw [← hs0] at s1
  obtain ⟨e, h, t⟩ := s1
  have iv1 : IvG ρ (S 4 0) (S 8 0) (S 10 0) (S 6 0) nor nw := by rw [hs0]; exact iv.f0
  have rs1 : RsX ρ := by rw [hs0]; exact rs
  have h00 : ρ.1 0 = nI 0 := by rw [hs0]; rfl
  have hS4 := h.hz.2.1
  have hS6 := h.hz.2.2.1
  have hS8 := h.hz.2.2.2.1
  have hS10 := h.hz.2.2.2.2.1
  cases hap_z : inN z 4 with
  | false =>
    refine pl_iload_n (pc := 0) dX1_rain_0 rfl rfl ?_
    refine pl_iconst (pc := 1) (v := 4) dX1_rain_1 (by rfl) ?_
    refine pl_callSX (pc := 2) (As := [_, _]) (C1 := 1) (N1 := 6) (C2 := 0) (N2 := 0) (E8 := "java/lang/IndexOutOfBoundsException") mdX1_there q1243 q1244 q125 dX1_rain_2 rfl rfl (Nat.le_of_ble_eq_true rfl) (k_X1_there_no (d := d - 1) (by omega) hap_z) (by omega) (by omega) (by omega) (fun q_2 M_2 hM_2 => ?_)
    refine px_out0 rfl ?_
    exact CQ.no 0 (v := nI 0) (τ := sF ρ 0 (nI 1)) (by rw [show sF ρ 0 (nI 1) = th σ 1 by rw [hs0]]; first | (simp only [p_rain, hs9, hap_z, ↓reduceIte]; first | done | rfl) | (simp [p_rain, hs9, hap_z, Int32.not_lt, Int32.not_le]; first | done | rfl)) rfl rfl (⟨A, S, fun _ _ _ => rfl, SB.mono (SB.F0 ⟨_, h, t⟩) hM_2⟩)
  | true =>
    obtain ⟨j_z, hj_z, rfl⟩ := inN_of (by omega) hap_z
    have g_z := tN_nI (n := j_z) (by omega)
    refine pl_iload_n (pc := 0) dX1_rain_0 rfl rfl ?_
    refine pl_iconst (pc := 1) (v := 4) dX1_rain_1 (by rfl) ?_
    refine pl_callSv (pc := 2) (As := [_, _]) (C1 := 0) (N1 := 0) (C2 := 1) (N2 := 1000) mdX1_there q1243 q1244 q125 dX1_rain_2 rfl rfl (Nat.le_of_ble_eq_true rfl) (k_X1_there_ok (d := d - 1) (by omega) (by omega) (by omega)) (by omega) (by omega) (by omega) ?_
    refine pl_iload_n (pc := 5) dX1_rain_5 rfl rfl ?_
    refine pj_iconst (pc := 6) (v := (-1)) dX1_rain_6 (by rfl) ?_
    refine pj_icmp_lt (pc := 7) (tgt := 21) dX1_rain_7 (by decide) (fun c7 => ?_) (fun c7 => ?_)
    · refine pl_iconst (pc := 21) (v := 0) dX1_rain_21 (by rfl) ?_
      refine pl_callSX (pc := 22) (As := [_]) (C1 := 1) (N1 := 6) (C2 := 0) (N2 := 0) (E8 := "java/lang/IllegalArgumentException") mdX1_need q1262 q1263 q125 dX1_rain_22 rfl rfl (Nat.le_of_ble_eq_true rfl) (k_X1_need_no (d := d - 1) (by omega) rfl) (by omega) (by omega) (by omega) (fun q_22 M_22 hM_22 => ?_)
      refine px_out0 rfl ?_
      exact CQ.no 1 (v := nI 0) (τ := sF ρ 0 (nI 2)) (by rw [show sF ρ 0 (nI 2) = th σ 2 by rw [hs0]]; first | (simp only [p_rain, hs9, hap_z, g_z, c7, ↓reduceIte]; first | done | rfl) | (simp [p_rain, hs9, hap_z, g_z, c7, Int32.not_lt, Int32.not_le]; first | done | rfl)) rfl rfl (⟨A, S, fun _ _ _ => rfl, SB.mono (SB.F0 ⟨_, h, t⟩) hM_22⟩)
    · refine pl_iload_n (pc := 10) dX1_rain_10 rfl rfl ?_
      refine pl_sipush (pc := 11) (v := 500) dX1_rain_11 (by rfl) ?_
      refine pj_icmp_gt (pc := 14) (tgt := 21) dX1_rain_14 (by decide) (fun c14 => ?_) (fun c14 => ?_)
      · refine pl_iconst (pc := 21) (v := 0) dX1_rain_21 (by rfl) ?_
        refine pl_callSX (pc := 22) (As := [_]) (C1 := 1) (N1 := 6) (C2 := 0) (N2 := 0) (E8 := "java/lang/IllegalArgumentException") mdX1_need q1262 q1263 q125 dX1_rain_22 rfl rfl (Nat.le_of_ble_eq_true rfl) (k_X1_need_no (d := d - 1) (by omega) rfl) (by omega) (by omega) (by omega) (fun q_22 M_22 hM_22 => ?_)
        refine px_out0 rfl ?_
        exact CQ.no 1 (v := nI 0) (τ := sF ρ 0 (nI 2)) (by rw [show sF ρ 0 (nI 2) = th σ 2 by rw [hs0]]; first | (simp only [p_rain, hs9, hap_z, g_z, c7, c14, ↓reduceIte]; first | done | rfl) | (simp [p_rain, hs9, hap_z, g_z, c7, c14, Int32.not_lt, Int32.not_le]; first | done | rfl)) rfl rfl (⟨A, S, fun _ _ _ => rfl, SB.mono (SB.F0 ⟨_, h, t⟩) hM_22⟩)
      · refine pl_iconst (pc := 17) (v := 1) dX1_rain_17 (by rfl) ?_
        refine pj_goto (pc := 18) (tgt := 22) dX1_rain_18 (by decide) ?_
        refine pl_callSv (pc := 22) (As := [_]) (C1 := 0) (N1 := 0) (C2 := 1) (N2 := 1000) mdX1_need q1262 q1263 q125 dX1_rain_22 rfl rfl (Nat.le_of_ble_eq_true rfl) (k_X1_need_ok (d := d - 1) (by omega) (by decide)) (by omega) (by omega) (by omega) ?_
        refine pl_aload_n (pc := 25) dX1_rain_25 rfl rfl ?_
        refine pj_getf (pc := 26) ckX1 0 q853 dX1_rain_26 (by decide) (h.r0) rfl ?_
        refine pj_getfN (pc := 29) ckX2 21 q765 dX1_rain_29 (by decide) (h.r1) rfl ?_
        refine pj_getfN (pc := 32) ckX7 1 q614 dX1_rain_32 (by decide) (h.r29) rfl ?_
        refine pl_iload_n (pc := 35) dX1_rain_35 rfl rfl ?_
        refine pl_iald (pc := 36) (n := 4) dX1_rain_36 (h.r31) (by omega) (by decide) ?_
        refine PJ.top (h.v31 (by omega)) ?_
        refine pl_sipush (pc := 37) (v := 1000) dX1_rain_37 (by rfl) ?_
        refine pj_icmp_ne (pc := 40) (tgt := 45) dX1_rain_40 (by decide) (fun c40 => ?_) (fun c40 => ?_)
        · have hnwC := nw_le (S := S) (z := j_z)
          obtain ⟨m9, hm9, em9⟩ := iv1.rns j_z hj_z
          have hm8 : m9 < 1000 := by
            rcases Nat.lt_or_ge m9 1000 with z9 | z9
            · exact z9
            · exact absurd (show ρ.2.1 6 j_z = nI 1000 by rw [em9, show m9 = 1000 by omega]) c40
          refine pl_aload_n (pc := 45) dX1_rain_45 rfl rfl ?_
          refine pj_getf (pc := 46) ckX1 0 q853 dX1_rain_46 (by decide) (h.r0) rfl ?_
          refine pj_getfN (pc := 49) ckX2 21 q765 dX1_rain_49 (by decide) (h.r1) rfl ?_
          refine pl_iload_n (pc := 52) dX1_rain_52 rfl rfl ?_
          refine pl_iload_n (pc := 53) dX1_rain_53 rfl rfl ?_
          refine pj_iconst (pc := 54) (v := (-1)) dX1_rain_54 (by rfl) ?_
          refine pj_icmp_ne (pc := 55) (tgt := 63) dX1_rain_55 (by decide) (fun c55 => ?_) (fun c55 => ?_)
          · obtain ⟨j_v, hj_v, rfl⟩ := inN_of (x := v) (n := 501) (by omega) (by simp only [inN, Bool.and_eq_true, decide_eq_true_eq]; exact ⟨ge0_of c7 c55, Int32.lt_of_le_of_lt (Int32.not_lt.mp c14) (by decide)⟩)
            have g_v := tN_nI (n := j_v) (by omega)
            refine pl_iload_n (pc := 63) dX1_rain_63 rfl rfl ?_
            refine pj_i2f (pc := 64) dX1_rain_64 ?_
            refine pl_callVWv (pc := 65) (As := [_, _]) (C1 := (nwC S j_z)) (N1 := (nwN S j_z)) (C2 := 0) (N2 := 0) ckX7 mdX7_add rfl q1284 q1285 q1286 q151 dX1_rain_65 rfl rfl (Nat.le_of_ble_eq_true rfl) (h.r29) (x_X7_add (d := d - 1) (by omega) h (v := (nI j_v)) hj_z em9 hm8 (Or.inr ⟨j_v, by omega, rfl, rfl⟩) iv1.rns) (by omega) (by omega) (by omega) (fun My1 qy1 => ?_)
            obtain ⟨A1, S1, hA1, hS1, -, y1⟩ := qy1
            rw [← hA1 0 0 0 (by decide)]
            refine pl_aload_n (pc := 68) dX1_rain_68 rfl rfl ?_
            refine pj_getf (pc := 69) ckX1 0 q853 dX1_rain_69 (by decide) (y1.r0) rfl ?_
            refine pj_getfN (pc := 72) ckX2 21 q765 dX1_rain_72 (by decide) (y1.r1) rfl ?_
            refine pj_getfN (pc := 75) ckX7 1 q614 dX1_rain_75 (by decide) (y1.r29) rfl ?_
            refine pl_iload_n (pc := 78) dX1_rain_78 rfl rfl ?_
            refine pl_iald (pc := 79) (n := 4) dX1_rain_79 (y1.r31) (by omega) (by decide) ?_
            refine PJ.top (y1.v31 (by omega)) ?_
            refine pj_iret (pc := 80) dX1_rain_80 rfl ?_
            have t8 : TieX 0 S (rnS ρ j_z m9 (nI j_v)) e nw := t.cg h.hz (fun _ _ => rfl) rfl rfl (fun _ _ => rfl) rfl rfl
            exact CQ.ok (τ := (rnS ρ j_z m9 (nI j_v))) (by rw [p_rain_yes hj_z c7 (Int32.not_lt.mp c14) (by rw [hs9]; exact em9) hm8, hs9, show (rnS ρ j_z m9 (nI j_v)).2.1 6 j_z = nI (m9 + 1) from rnS_6.trans (if_pos rfl)]) (by exact h00) ⟨A1, S1, hS1, _, y1, t8.sz (fun x hx y => hS1 x y (by omega))⟩
          · refine pj_ldcf (pc := 58) q1283 dX1_rain_58 ?_
            refine pj_goto (pc := 60) (tgt := 65) dX1_rain_60 (by decide) ?_
            refine pl_callVWv (pc := 65) (As := [_, _]) (C1 := (nwC S j_z)) (N1 := (nwN S j_z)) (C2 := 0) (N2 := 0) ckX7 mdX7_add rfl q1284 q1285 q1286 q151 dX1_rain_65 rfl rfl (Nat.le_of_ble_eq_true rfl) (h.r29) (x_X7_add (d := d - 1) (by omega) h (v := v) hj_z em9 hm8 (Or.inl ⟨c55, rfl⟩) iv1.rns) (by omega) (by omega) (by omega) (fun My2 qy2 => ?_)
            obtain ⟨A1, S1, hA1, hS1, -, y2⟩ := qy2
            rw [← hA1 0 0 0 (by decide)]
            refine pl_aload_n (pc := 68) dX1_rain_68 rfl rfl ?_
            refine pj_getf (pc := 69) ckX1 0 q853 dX1_rain_69 (by decide) (y2.r0) rfl ?_
            refine pj_getfN (pc := 72) ckX2 21 q765 dX1_rain_72 (by decide) (y2.r1) rfl ?_
            refine pj_getfN (pc := 75) ckX7 1 q614 dX1_rain_75 (by decide) (y2.r29) rfl ?_
            refine pl_iload_n (pc := 78) dX1_rain_78 rfl rfl ?_
            refine pl_iald (pc := 79) (n := 4) dX1_rain_79 (y2.r31) (by omega) (by decide) ?_
            refine PJ.top (y2.v31 (by omega)) ?_
            refine pj_iret (pc := 80) dX1_rain_80 rfl ?_
            have t8 : TieX 0 S (rnS ρ j_z m9 v) e nw := t.cg h.hz (fun _ _ => rfl) rfl rfl (fun _ _ => rfl) rfl rfl
            exact CQ.ok (τ := (rnS ρ j_z m9 v)) (by rw [p_rain_yes hj_z c7 (Int32.not_lt.mp c14) (by rw [hs9]; exact em9) hm8, hs9, show (rnS ρ j_z m9 v).2.1 6 j_z = nI (m9 + 1) from rnS_6.trans (if_pos rfl)]) (by exact h00) ⟨A1, S1, hS1, _, y2, t8.sz (fun x hx y => hS1 x y (by omega))⟩
        · refine pj_iconst (pc := 43) (v := (-1)) dX1_rain_43 (by rfl) ?_
          refine pj_iret (pc := 44) dX1_rain_44 rfl ?_
          exact CQ.ok (τ := ρ) (by unfold p_rain; rw [inN_nI hj_z (by decide), if_neg (by decide), if_neg c7, if_neg (fun t9 => t9 (Int32.not_lt.mp c14)), g_z, hs9, if_pos c40]) (by exact h00) ⟨A, S, fun _ _ _ => rfl, _, h, t⟩
theorem rains_f {z : Nat} {v : Int32} {σ : MS} : ∀ k, (upto (rain1 z v) k σ).1 = σ.1
  | 0 => rfl
  | k + 1 => (show (rain1 z v k (upto (rain1 z v) k σ)).1 = _ from rfl).trans (rains_f k)
theorem rains_a {z a : Nat} {v : Int32} {σ : MS} (h5 : a ≠ 5) (h6 : a ≠ 6) : ∀ k, (upto (rain1 z v) k σ).2.1 a = σ.2.1 a
  | 0 => rfl
  | k + 1 => ((wA_k h6).trans (wA_k h5)).trans (rains_a h5 h6 k)
theorem rains_o {z j : Nat} {v : Int32} {σ : MS} (k : Nat) : row (upto (rain1 z v) k σ) j = row σ j := congrFun (rains_a (by decide) (by decide) k) j
set_option maxHeartbeats 600000 in
theorem x_X1_rains {g : GP} {μ : Mem} {d : Nat} {P : Nat → Prop} {F : Mem} {A : XA} {S : Nat → Nat → Nat} {b : XS} {σ : MS} {nor nw : Nat} (s : SB g P F A 0 S b σ nw μ) (iv : IvG σ (S 4 0) (S 8 0) (S 10 0) (S 6 0) nor nw) (rs : RsX σ) (hd : 8 ≤ d) {z : Int32} {v : Int32} {m : Int32} : PM g yX1_rains (ws_ yX1_rains cX1_rains 5 (some .int)) d 1 1000 [.ref (A 0 0 0), .int z, .int v, .int m] μ (CQ ["java/lang/IndexOutOfBoundsException", "java/lang/IllegalArgumentException"] (p_rains σ z v m) (fun τ M => ∃ A1 S1, (∀ x y, x ≠ 32 → S1 x y = S x y) ∧ SB g P F A1 0 S1 b τ nw M)) := by
  refine PM.of (by decide +kernel) (Nat.le_of_ble_eq_true rfl) ?_
  refine PJ.ok (fun G => ?_)
  show PJ g _ _ _ _ d 1 1000 0 [(0, .ref (A 0 0 0)), (1, .int z), (2, .int v), (3, .int m)] [] _ _
  obtain ⟨ρ, hs0⟩ : ∃ ρ, ρ = sF σ 0 (nI 0) := ⟨_, rfl⟩
  have hs9 : s0 σ = ρ := hs0.symm
  have s1 := s.F0 (x := nI 0)
  rw [← hs0] at s1
  obtain ⟨e, h, t⟩ := s1
  have iv1 : IvG ρ (S 4 0) (S 8 0) (S 10 0) (S 6 0) nor nw := by rw [hs0]; exact iv.f0
  have rs1 : RsX ρ := by rw [hs0]; exact rs
  have h00 : ρ.1 0 = nI 0 := by rw [hs0]; rfl
  have hS4 := h.hz.2.1
  have hS6 := h.hz.2.2.1
  have hS8 := h.hz.2.2.2.1
  have hS10 := h.hz.2.2.2.2.1
  cases hap_z : inN z 4 with
  | false =>
    refine pl_iload_n (pc := 0) dX1_rains_0 rfl rfl ?_
    refine pl_iconst (pc := 1) (v := 4) dX1_rains_1 (by rfl) ?_
    refine pl_callSX (pc := 2) (As := [_, _]) (C1 := 1) (N1 := 6) (C2 := 0) (N2 := 0) (E8 := "java/lang/IndexOutOfBoundsException") mdX1_there q1243 q1244 q125 dX1_rains_2 rfl rfl (Nat.le_of_ble_eq_true rfl) (k_X1_there_no (d := d - 1) (by omega) hap_z) (by omega) (by omega) (by omega) (fun q_2 M_2 hM_2 => ?_)
    refine px_out0 rfl ?_
    exact CQ.no 0 (v := nI 0) (τ := sF ρ 0 (nI 1)) (by rw [show sF ρ 0 (nI 1) = th σ 1 by rw [hs0]]; first | (simp only [p_rains, hs9, hap_z, ↓reduceIte]; first | done | rfl) | (simp [p_rains, hs9, hap_z, Int32.not_lt, Int32.not_le]; first | done | rfl)) rfl rfl (⟨A, S, fun _ _ _ => rfl, SB.mono (SB.F0 ⟨_, h, t⟩) hM_2⟩)
  | true =>
    obtain ⟨j_z, hj_z, rfl⟩ := inN_of (by omega) hap_z
    have g_z := tN_nI (n := j_z) (by omega)
    refine pl_iload_n (pc := 0) dX1_rains_0 rfl rfl ?_
    refine pl_iconst (pc := 1) (v := 4) dX1_rains_1 (by rfl) ?_
    refine pl_callSv (pc := 2) (As := [_, _]) (C1 := 0) (N1 := 0) (C2 := 1) (N2 := 1000) mdX1_there q1243 q1244 q125 dX1_rains_2 rfl rfl (Nat.le_of_ble_eq_true rfl) (k_X1_there_ok (d := d - 1) (by omega) (by omega) (by omega)) (by omega) (by omega) (by omega) ?_
    refine pl_iload_n (pc := 5) dX1_rains_5 rfl rfl ?_
    refine pj_if_lt (pc := 6) (tgt := 32) dX1_rains_6 (by decide) (fun c6 => ?_) (fun c6 => ?_)
    · refine pl_iconst (pc := 32) (v := 0) dX1_rains_32 (by rfl) ?_
      refine pl_callSX (pc := 33) (As := [_]) (C1 := 1) (N1 := 6) (C2 := 0) (N2 := 0) (E8 := "java/lang/IllegalArgumentException") mdX1_need q1262 q1263 q125 dX1_rains_33 rfl rfl (Nat.le_of_ble_eq_true rfl) (k_X1_need_no (d := d - 1) (by omega) rfl) (by omega) (by omega) (by omega) (fun q_33 M_33 hM_33 => ?_)
      refine px_out0 rfl ?_
      exact CQ.no 1 (v := nI 0) (τ := sF ρ 0 (nI 2)) (by rw [show sF ρ 0 (nI 2) = th σ 2 by rw [hs0]]; first | (simp only [p_rains, hs9, hap_z, g_z, c6, ↓reduceIte]; first | done | rfl) | (simp [p_rains, hs9, hap_z, g_z, c6, Int32.not_lt, Int32.not_le]; first | done | rfl)) rfl rfl (⟨A, S, fun _ _ _ => rfl, SB.mono (SB.F0 ⟨_, h, t⟩) hM_33⟩)
    · refine pl_iload_n (pc := 9) dX1_rains_9 rfl rfl ?_
      refine pl_sipush (pc := 10) (v := 500) dX1_rains_10 (by rfl) ?_
      refine pj_icmp_gt (pc := 13) (tgt := 32) dX1_rains_13 (by decide) (fun c13 => ?_) (fun c13 => ?_)
      · refine pl_iconst (pc := 32) (v := 0) dX1_rains_32 (by rfl) ?_
        refine pl_callSX (pc := 33) (As := [_]) (C1 := 1) (N1 := 6) (C2 := 0) (N2 := 0) (E8 := "java/lang/IllegalArgumentException") mdX1_need q1262 q1263 q125 dX1_rains_33 rfl rfl (Nat.le_of_ble_eq_true rfl) (k_X1_need_no (d := d - 1) (by omega) rfl) (by omega) (by omega) (by omega) (fun q_33 M_33 hM_33 => ?_)
        refine px_out0 rfl ?_
        exact CQ.no 1 (v := nI 0) (τ := sF ρ 0 (nI 2)) (by rw [show sF ρ 0 (nI 2) = th σ 2 by rw [hs0]]; first | (simp only [p_rains, hs9, hap_z, g_z, c6, c13, ↓reduceIte]; first | done | rfl) | (simp [p_rains, hs9, hap_z, g_z, c6, c13, Int32.not_lt, Int32.not_le]; first | done | rfl)) rfl rfl (⟨A, S, fun _ _ _ => rfl, SB.mono (SB.F0 ⟨_, h, t⟩) hM_33⟩)
      · refine pl_iload_n (pc := 16) dX1_rains_16 rfl rfl ?_
        refine pl_iconst (pc := 17) (v := 1) dX1_rains_17 (by rfl) ?_
        refine pj_icmp_lt (pc := 18) (tgt := 32) dX1_rains_18 (by decide) (fun c18 => ?_) (fun c18 => ?_)
        · refine pl_iconst (pc := 32) (v := 0) dX1_rains_32 (by rfl) ?_
          refine pl_callSX (pc := 33) (As := [_]) (C1 := 1) (N1 := 6) (C2 := 0) (N2 := 0) (E8 := "java/lang/IllegalArgumentException") mdX1_need q1262 q1263 q125 dX1_rains_33 rfl rfl (Nat.le_of_ble_eq_true rfl) (k_X1_need_no (d := d - 1) (by omega) rfl) (by omega) (by omega) (by omega) (fun q_33 M_33 hM_33 => ?_)
          refine px_out0 rfl ?_
          exact CQ.no 1 (v := nI 0) (τ := sF ρ 0 (nI 2)) (by rw [show sF ρ 0 (nI 2) = th σ 2 by rw [hs0]]; first | (simp only [p_rains, hs9, hap_z, g_z, c6, c13, c18, ↓reduceIte]; first | done | rfl) | (simp [p_rains, hs9, hap_z, g_z, c6, c13, c18, Int32.not_lt, Int32.not_le]; first | done | rfl)) rfl rfl (⟨A, S, fun _ _ _ => rfl, SB.mono (SB.F0 ⟨_, h, t⟩) hM_33⟩)
        · refine pl_iload_n (pc := 21) dX1_rains_21 rfl rfl ?_
          refine pl_sipush (pc := 22) (v := 1000) dX1_rains_22 (by rfl) ?_
          refine pj_icmp_gt (pc := 25) (tgt := 32) dX1_rains_25 (by decide) (fun c25 => ?_) (fun c25 => ?_)
          · refine pl_iconst (pc := 32) (v := 0) dX1_rains_32 (by rfl) ?_
            refine pl_callSX (pc := 33) (As := [_]) (C1 := 1) (N1 := 6) (C2 := 0) (N2 := 0) (E8 := "java/lang/IllegalArgumentException") mdX1_need q1262 q1263 q125 dX1_rains_33 rfl rfl (Nat.le_of_ble_eq_true rfl) (k_X1_need_no (d := d - 1) (by omega) rfl) (by omega) (by omega) (by omega) (fun q_33 M_33 hM_33 => ?_)
            refine px_out0 rfl ?_
            exact CQ.no 1 (v := nI 0) (τ := sF ρ 0 (nI 2)) (by rw [show sF ρ 0 (nI 2) = th σ 2 by rw [hs0]]; first | (simp only [p_rains, hs9, hap_z, g_z, c6, c13, c18, c25, ↓reduceIte]; first | done | rfl) | (simp [p_rains, hs9, hap_z, g_z, c6, c13, c18, c25, Int32.not_lt, Int32.not_le]; first | done | rfl)) rfl rfl (⟨A, S, fun _ _ _ => rfl, SB.mono (SB.F0 ⟨_, h, t⟩) hM_33⟩)
          · refine pl_iconst (pc := 28) (v := 1) dX1_rains_28 (by rfl) ?_
            refine pj_goto (pc := 29) (tgt := 33) dX1_rains_29 (by decide) ?_
            refine pl_callSv (pc := 33) (As := [_]) (C1 := 0) (N1 := 0) (C2 := 1) (N2 := 1000) mdX1_need q1262 q1263 q125 dX1_rains_33 rfl rfl (Nat.le_of_ble_eq_true rfl) (k_X1_need_ok (d := d - 1) (by omega) (by decide)) (by omega) (by omega) (by omega) ?_
            obtain ⟨r, hr, er⟩ := iv1.rns j_z hj_z
            obtain ⟨j_v, hj_v, rfl⟩ := inN_of (x := v) (n := 501) (by omega) (by simp only [inN, Bool.and_eq_true, decide_eq_true_eq]; exact ⟨Int32.not_lt.mp c6, Int32.lt_of_le_of_lt (Int32.not_lt.mp c13) (by decide)⟩)
            obtain ⟨j_m, hj_m, rfl⟩ := inN_of (x := m) (n := 1001) (by omega) (by simp only [inN, Bool.and_eq_true, decide_eq_true_eq]; exact ⟨Int32.le_of_lt (Int32.lt_of_lt_of_le (by decide) (Int32.not_lt.mp c18)), Int32.lt_of_le_of_lt (Int32.not_lt.mp c25) (by decide)⟩)
            have g_m := tN_nI (n := j_m) (by omega)
            refine pl_aload_n (pc := 36) dX1_rains_36 rfl rfl ?_
            refine pj_getf (pc := 37) ckX1 0 q853 dX1_rains_37 (by decide) (h.r0) rfl ?_
            refine pj_getfN (pc := 40) ckX2 21 q765 dX1_rains_40 (by decide) (h.r1) rfl ?_
            refine pj_getfN (pc := 43) ckX7 1 q614 dX1_rains_43 (by decide) (h.r29) rfl ?_
            refine pl_iload_n (pc := 46) dX1_rains_46 rfl rfl ?_
            refine pl_iald (pc := 47) (n := 4) dX1_rains_47 (h.r31) (by omega) (by decide) ?_
            refine PJ.top (h.v31 (by omega)) ?_
            refine PJ.top (y := nI r) er ?_
            refine pl_iload_n (pc := 48) dX1_rains_48 rfl rfl ?_
            refine pl_iadd (pc := 49) dX1_rains_49 ?_
            refine pl_sipush (pc := 50) (v := 1000) dX1_rains_50 (by rfl) ?_
            refine pl_icmp_le (pc := 53) (tgt := 58) dX1_rains_53 (by decide) (by omega) (by omega) (fun c53 => ?_) (fun c53 => ?_)
            · refine pl_iconst (pc := 58) (v := 0) dX1_rains_58 (by rfl) ?_
              refine pj_istore (pc := 59) (lv' := [(4, _), (0, _), (1, _), (2, _), (3, _)]) dX1_rains_59 (by decide) rfl ?_
              obtain ⟨S0, rfl⟩ : ∃ S0, S0 = S := ⟨S, rfl⟩
              refine PJ.widen (C1 := nwC S0 j_z) (N1 := nwN S0 j_z) (by unfold nwC; split <;> omega) (by unfold nwN; split <;> omega) ?_
              refine PJ.sub [0, 4, 3, 2, 1] rfl ?_
              refine ind_dn (n := j_m) (P := fun i => ∀ M9 A S τ, (∀ x y, x ≠ 32 → S x y = S0 x y) → τ = upto (rain1 j_z (nI j_v)) i ρ → SX g P F A 0 S b τ e M9 → PJ g _ _ _ _ d (nwC S j_z) (nwN S j_z) 61 [(4, .int (nI i)), (3, .int (nI j_m)), (2, .int (nI j_v)), (1, .int (nI j_z)), (0, .ref (A 0 0 0))] [] M9 _) (fun i hi ih M9 A S τ hSS hτ h9 => ?_) 0 (Nat.zero_le _) _ A S0 ρ (fun _ _ _ => rfl) rfl h
              obtain ⟨rmi, ivi⟩ := rains_ivS iv1 er (x := nI j_v) i (by omega)
              rw [← hτ] at rmi ivi
              refine pl_iload (pc := 61) dX1_rains_61 rfl ?_
              refine pl_iload_n (pc := 63) dX1_rains_63 rfl rfl ?_
              refine pl_icmp_ge (pc := 64) (tgt := 86) dX1_rains_64 (by decide) (by omega) (by omega) (fun c64 => ?_) (fun c64 => ?_)
              · refine pl_aload_n (pc := 86) dX1_rains_86 rfl rfl ?_
                refine pj_getf (pc := 87) ckX1 0 q853 dX1_rains_87 (by decide) (h9.r0) rfl ?_
                refine pj_getfN (pc := 90) ckX2 21 q765 dX1_rains_90 (by decide) (h9.r1) rfl ?_
                refine pj_getfN (pc := 93) ckX7 1 q614 dX1_rains_93 (by decide) (h9.r29) rfl ?_
                refine pl_iload_n (pc := 96) dX1_rains_96 rfl rfl ?_
                refine pl_iald (pc := 97) (n := 4) dX1_rains_97 (h9.r31) (by omega) (by decide) ?_
                refine PJ.top (h9.v31 (by omega)) ?_
                refine pj_iret (pc := 98) dX1_rains_98 rfl ?_
                have ei : i = j_m := by omega
                subst ei
                have t8 : TieX 0 S0 τ e nw := t.cg h.hz (fun j _ => by rw [hτ]; exact rains_o _) (by rw [hτ]; exact rains_a (by decide) (by decide) _) (by rw [hτ]; exact rains_a (by decide) (by decide) _) (fun _ _ => by rw [hτ]; exact congrFun (rains_a (by decide) (by decide) _) _) (by rw [hτ]; exact congrFun (rains_f _) 23) (by rw [hτ]; exact congrFun (rains_f _) 24)
                exact CQ.ok (τ := τ) (by unfold p_rains; rw [inN_nI hj_z (by decide), if_neg (by decide), if_neg c6, if_neg c13, if_neg c18, if_neg (fun t9 => t9 (Int32.not_lt.mp c25)), g_z, hs9, show rm ρ j_z = nI r from er, nI_add, if_neg (fun t9 => t9 ((nI_leI (by omega) (by decide)).mpr c53)), g_m, ← hτ]) (by rw [hτ]; exact (congrFun (rains_f _) 0).trans h00) ⟨A, S, hSS, _, h9, t8.sz (fun x hx y => hSS x y (by omega))⟩
              · refine pl_aload_n (pc := 67) dX1_rains_67 rfl rfl ?_
                refine pj_getf (pc := 68) ckX1 0 q853 dX1_rains_68 (by decide) (h9.r0) rfl ?_
                refine pj_getfN (pc := 71) ckX2 21 q765 dX1_rains_71 (by decide) (h9.r1) rfl ?_
                refine pl_iload_n (pc := 74) dX1_rains_74 rfl rfl ?_
                refine pl_iload_n (pc := 75) dX1_rains_75 rfl rfl ?_
                refine pj_i2f (pc := 76) dX1_rains_76 ?_
                refine pl_callVWv (pc := 77) (As := [_, _]) (C1 := (nwC S j_z)) (N1 := (nwN S j_z)) (C2 := 0) (N2 := 0) ckX7 mdX7_add rfl q1284 q1285 q1286 q151 dX1_rains_77 rfl rfl (Nat.le_of_ble_eq_true rfl) (h9.r29) (x_X7_add (d := d - 1) (by omega) h9 (v := nI j_v) hj_z rmi (show r + i < 1000 by omega) (Or.inr ⟨j_v, by omega, rfl, rfl⟩) ivi.rns) (by omega) (by omega) (by omega) (fun My1 qy1 => ?_)
                obtain ⟨A1, S1, hA1, hS1, hS2, y1⟩ := qy1
                rw [← hA1 0 0 0 (by decide)]
                refine pl_iinc1 (pc := 80) (lv' := [(4, _), (3, _), (2, _), (1, _), (0, _)]) dX1_rains_80 rfl rfl (by decide) rfl ?_
                refine pj_goto (pc := 83) (tgt := 61) dX1_rains_83 (by decide) ?_
                refine PJ.widen (C1 := nwC S1 j_z) (N1 := nwN S1 j_z) (by unfold nwC; rw [if_pos hS2]; omega) (by unfold nwN; rw [if_pos hS2]; omega) ?_
                exact ih (by omega) _ A1 S1 _ (fun x y hx => (hS1 x y hx).trans (hSS x y hx)) (by show _ = rain1 j_z (nI j_v) i (upto _ i ρ); rw [← hτ, rain1_eq rmi (by omega)]) y1
            · refine pj_iconst (pc := 56) (v := (-1)) dX1_rains_56 (by rfl) ?_
              refine pj_iret (pc := 57) dX1_rains_57 rfl ?_
              exact CQ.ok (τ := ρ) (by unfold p_rains; rw [inN_nI hj_z (by decide), if_neg (by decide), if_neg c6, if_neg c13, if_neg c18, if_neg (fun t9 => t9 (Int32.not_lt.mp c25)), g_z, hs9, show rm ρ j_z = nI r from er, nI_add, if_pos (fun t9 => by have := (nI_leI (by omega) (by decide)).mp t9; omega)]) (by exact h00) ⟨A, S, fun _ _ _ => rfl, _, h, t⟩
