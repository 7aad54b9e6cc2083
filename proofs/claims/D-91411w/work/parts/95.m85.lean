set_option maxRecDepth 100000
/-- the class's own numbers but for what an expression asked last -/
def E9 (e e1 : XE) : Prop := ∀ a, a ≠ 9 → e1 a = e a
theorem E9.rf {e : XE} : E9 e e := fun _ _ => rfl
theorem E9.tr {e e1 e2 : XE} (h : E9 e e1) (k : E9 e1 e2) : E9 e e2 := fun a ha => (k a ha).trans (h a ha)
theorem E9.u {e e1 : XE} {x : Nat} {v : Int32} (h : E9 e e1) : E9 e (uE e1 9 x v) := fun a ha => (show uE e1 9 x v a = e1 a by unfold uE; rw [if_neg ha]).trans (h a ha)
/-- Ask.of -/
theorem SX.ask {g : GP} {P : Nat → Prop} {F : Mem} {A : XA} {w : Nat} {S : Nat → Nat → Nat} {b : XS} {σ : MS} {e : XE} {M : Mem} (h : SX g P F A w S b σ e M) {wk so pe gr : Int32} : ∃ e1, E9 e e1 ∧ SX g P F A w S b σ e1 (mset M (A 26 w 0) (askO wk so pe gr)) := by
  have h4 := ((h.p26_0 (v := wk)).p26_1 (v := so)).p26_2 (v := pe) |>.p26_3 (v := gr)
  rw [mset_m, mset_m, mset_m] at h4
  exact ⟨_, E9.rf.u.u.u.u, h4⟩
theorem ask_keep {im M : Mem} {q : Nat} {x : va_E} (h : ∀ a y, im a = some y → M a = some y) (hq : im q = none) : ∀ a y, im a = some y → mset M q x a = some y := fun a y hy => by
  rw [mset_n (fun z => by rw [z, hq] at hy; cases hy)]
  exact h a y hy
set_option maxHeartbeats 600000 in
theorem x_X2_means {g : GP} {μ : Mem} {d : Nat} {P : Nat → Prop} {F : Mem} {A : XA} {w : Nat} {S : Nat → Nat → Nat} {b : XS} {σ : MS} {e : XE}(hd : 320 ≤ d) (h : SX g P F A w S b σ e μ) {name : Nat} (hname : name < 8) {gr : Int32} (ht : σ.1 24 = -1 ∨ ¬ σ.1 24 < 0) : PM g yX2_means (ws_ yX2_means cX2_means 4 (some .int)) d 0 0 [.ref (A 1 w 0), .int (nI name), .int gr] μ (WQ (some (.int (meanV σ (S 4 w) (S 8 w) name gr).1)) (fun M => ∃ e1, E9 e e1 ∧ SX g P F A w S b σ e1 M)) := by
  refine PM.of (by decide +kernel) (Nat.le_of_ble_eq_true rfl) ?_
  refine PJ.ok (fun G => ?_)
  show PJ g _ _ _ _ d 0 0 0 [(0, .ref (A 1 w 0)), (1, .int (nI name)), (2, .int gr)] [] _ _
  refine pl_iload_n (pc := 0) dX2_means_0 rfl rfl ?_
  refine pl_if_neN (pc := 1) (tgt := 16) dX2_means_1 (by decide) (by omega) (fun c1 => ?_) (fun c1 => ?_)
  · refine pl_iload_n (pc := 16) dX2_means_16 rfl rfl ?_
    refine pl_iconst (pc := 17) (v := 1) dX2_means_17 (by rfl) ?_
    refine pl_icmp_ne (pc := 18) (tgt := 34) dX2_means_18 (by decide) (by omega) (by omega) (fun c18 => ?_) (fun c18 => ?_)
    · have hm1 : ¬ (name = 0 ∧ ¬ σ.1 23 ≤ 0) := fun z => absurd z.1 (by first | exact c1 | omega)
      have hm2 : ¬ (name = 1 ∧ ¬ σ.1 24 < 0) := fun z => absurd z.1 (by first | exact c18 | omega)
      have hwl : lawI σ (S 8 w) name = whyV σ (S 8 w) name := (why_law h.hz.2.2.2.1).symm
      refine pl_aload_n (pc := 34) dX2_means_34 rfl rfl ?_
      refine pl_iload_n (pc := 35) dX2_means_35 rfl rfl ?_
      refine pl_callVd (pc := 36) (As := [_]) (C1 := 0) (N1 := 0) (C2 := 0) (N2 := 0) ckX2 mdX2_why rfl q1711 q1712 q1713 q126 dX2_means_36 rfl rfl (Nat.le_of_ble_eq_true rfl) (h.r1) (x_X2_why (d := d - 1) (by omega) h (by omega)) (by omega) (by omega) (by omega) ?_
      rcases lastI_c (toldB σ name) (S 8 w) with hs_l | ⟨l, hl, el, htb⟩
      · refine PJ.top (y := -1) hs_l ?_
        have hmv : meanV σ (S 4 w) (S 8 w) name gr = (withoutV (nI name), σ.2.1 13) := by unfold meanV; rw [if_neg hm1, if_neg hm2, if_pos (hwl.trans hs_l)]
        refine pj_istore_n (pc := 39) (lv' := [(3, _), (0, _), (1, _), (2, _)]) dX2_means_39 rfl (by decide) rfl ?_
        refine pl_iload_n (pc := 40) dX2_means_40 rfl rfl ?_
        refine pj_iconst (pc := 41) (v := (-1)) dX2_means_41 (by rfl) ?_
        refine pj_icmp_ne (pc := 42) (tgt := 52) dX2_means_42 (by decide) (fun z => absurd rfl z) (fun _ => ?_)
        refine pl_iload_n (pc := 45) dX2_means_45 rfl rfl ?_
        refine pl_callSd (pc := 46) (As := [_]) (C1 := 0) (N1 := 0) (C2 := 0) (N2 := 0) mdX2_plain q944 q945 q126 dX2_means_46 rfl rfl (Nat.le_of_ble_eq_true rfl) (k_X2_plain (d := d - 1) (by omega) (by omega)) (by omega) (by omega) (by omega) ?_
        refine pj_goto (pc := 49) (tgt := 98) dX2_means_49 (by decide) ?_
        refine pj_iret (pc := 98) dX2_means_98 rfl ?_
        exact ⟨vIe (by rw [hmv]) rfl, e, E9.rf, h⟩
      · refine PJ.top (y := nI l) el ?_
        have hl8 := h.hz.2.2.2.1
        have g_l := tN_nI (n := l) (by omega)
        have el2 : ¬ nI l = -1 := fun z => by have h9 := nI_pos' (n := l) (by omega); rw [z] at h9; exact absurd h9 (by decide)
        have hlaw : lawI σ (S 8 w) name = nI l := hwl.trans el
        have hmv : meanV σ (S 4 w) (S 8 w) name gr = (boundedV name (valV σ l name (row σ 2116) (nI (farmsC σ 96)) (nI (hereC σ (S 4 w))) gr).1, (valV σ l name (row σ 2116) (nI (farmsC σ 96)) (nI (hereC σ (S 4 w))) gr).2) := by unfold meanV; rw [if_neg hm1, if_neg hm2, if_neg (by rw [hlaw]; exact el2), hlaw, g_l]
        refine pj_istore_n (pc := 39) (lv' := [(3, _), (0, _), (1, _), (2, _)]) dX2_means_39 rfl (by decide) rfl ?_
        refine pl_iload_n (pc := 40) dX2_means_40 rfl rfl ?_
        refine pj_iconst (pc := 41) (v := (-1)) dX2_means_41 (by rfl) ?_
        refine pj_icmp_ne (pc := 42) (tgt := 52) dX2_means_42 (by decide) (fun _ => ?_) (fun z => absurd z el2)
        refine pl_iload_n (pc := 52) dX2_means_52 rfl rfl ?_
        refine pl_aload_n (pc := 53) dX2_means_53 rfl rfl ?_
        refine pj_getf (pc := 54) ckX2 28 q776 dX2_means_54 (by decide) (h.r1) rfl ?_
        refine pl_iload_n (pc := 57) dX2_means_57 rfl rfl ?_
        obtain ⟨m_58, c_58, l_58⟩ := h.L8
        refine pl_callVd (pc := 58) (As := [_]) (C1 := 0) (N1 := 0) (C2 := 0) (N2 := 0) ckJ2 mdJ2_get rfl q707 q708 q709 q129 dX2_means_58 rfl rfl (Nat.le_of_ble_eq_true rfl) l_58.1 (k_J2_get (d := d - 1) (by omega) l_58 (j := l) (by omega) (if_pos (by omega))) (by omega) (by omega) (by omega) ?_
        refine pj_castS (pc := 61) ckX12 q951 dX2_means_61 (h.r38 (by omega)) ?_
        refine pj_getfN (pc := 64) ckX12 0 q1496 dX2_means_64 (by decide) (h.r38 (by omega)) rfl ?_
        obtain ⟨im_64, at_64, ft_64, him_64, hak_64, hx_64, ha_64, hf_64⟩ := h.text (l := l) (by omega)
        refine pj_getfN (pc := 67) ckX19 0 q1888 dX2_means_67 (by decide) (him_64 _ _ hx_64) rfl ?_
        refine pl_iload_n (pc := 70) dX2_means_70 rfl rfl ?_
        have hcod : 0 ≤ σ.2.1 10 (8 * l + name) := by
          simp only [toldB, Bool.and_eq_true, decide_eq_true_eq] at htb
          exact htb.2
        rcases hf_64 name (by omega) with ⟨hn_71, hv_71⟩ | ⟨r_71, n_71, hn3_71, hv_71, hp_71, hE_71⟩
        · exact absurd hcod (Int32.not_le.mpr hn_71)
        refine pl_aldE (pc := 71) (n := 8) dX2_means_71 (him_64 _ _ ha_64) (by omega) (by decide) ?_
        rw [hv_71]
        show PJ g _ _ _ _ d _ _ 72 _ (.ref r_71 :: _) _ _
        refine pl_aload_n (pc := 72) dX2_means_72 rfl rfl ?_
        refine pj_getf (pc := 73) ckX2 30 q780 dX2_means_73 (by decide) (h.r1) rfl ?_
        refine pl_aload_n (pc := 76) dX2_means_76 rfl rfl ?_
        refine pj_getf (pc := 77) ckX2 0 q725 dX2_means_77 (by decide) (h.r1) rfl ?_
        refine pl_aload_n (pc := 80) dX2_means_80 rfl rfl ?_
        refine pl_callVd (pc := 81) (As := []) (C1 := 0) (N1 := 0) (C2 := 0) (N2 := 0) ckX2 mdX2_farms rfl q1719 q1196 q1197 q126 dX2_means_81 rfl rfl (Nat.le_of_ble_eq_true rfl) (h.r1) (x_X2_farms (d := d - 1) (by omega) h) (by omega) (by omega) (by omega) ?_
        refine pl_aload_n (pc := 84) dX2_means_84 rfl rfl ?_
        refine pl_callVd (pc := 85) (As := []) (C1 := 0) (N1 := 0) (C2 := 0) (N2 := 0) ckX2 mdX2_here rfl q1720 q1187 q1188 q126 dX2_means_85 rfl rfl (Nat.le_of_ble_eq_true rfl) (h.r1) (x_X2_here (d := d - 1) (by omega) h) (by omega) (by omega) (by omega) ?_
        refine pl_iload_n (pc := 88) dX2_means_88 rfl rfl ?_
        obtain ⟨e_1, he_1, ha_1⟩ := h.ask (wk := row σ 2116) (so := nI (farmsC σ 96)) (pe := nI (hereC σ (S 4 w))) (gr := gr)
        refine pl_callVd (pc := 89) (As := [_, _, _, _]) (C1 := 0) (N1 := 0) (C2 := 0) (N2 := 0) ckX6 mdX6_of rfl q956 q957 q958 q150 dX2_means_89 rfl rfl (Nat.le_of_ble_eq_true rfl) h.r26 (k_X6_of (f := fun j => e 9 j) (d := d - 1) (by omega) h.r26) (by omega) (by omega) (by omega) ?_
        have hE9 := (EcX.mono (ask_keep (x := askO (row σ 2116) (nI (farmsC σ 96)) (nI (hereC σ (S 4 w))) gr) him_64 (hak_64 w h.hz.1)) n_71).1 _ _ hE_71
        refine (evX n_71).1 (pc := 92) hE9 mset_s (by omega) q960 dX2_means_92 (Nat.le_of_ble_eq_true rfl) ?_
        refine pl_callSd (pc := 95) (As := [_, _]) (C1 := 0) (N1 := 0) (C2 := 0) (N2 := 0) mdX2_bounded q1030 q1031 q126 dX2_means_95 rfl rfl (Nat.le_of_ble_eq_true rfl) (x_X2_bounded (d := d - 1) (by omega) (by omega)) (by omega) (by omega) (by omega) ?_
        refine pj_iret (pc := 98) dX2_means_98 rfl ?_
        exact ⟨vIe (by rw [hmv]) rfl, e_1, he_1, ha_1⟩
    · refine pl_aload_n (pc := 21) dX2_means_21 rfl rfl ?_
      refine pj_getf (pc := 22) ckX2 10 q743 dX2_means_22 (by decide) (h.r1) rfl ?_
      refine pj_iconst (pc := 25) (v := (-1)) dX2_means_25 (by rfl) ?_
      refine pj_icmp_eq (pc := 26) (tgt := 34) dX2_means_26 (by decide) (fun c26 => ?_) (fun c26 => ?_)
      · have hm1 : ¬ (name = 0 ∧ ¬ σ.1 23 ≤ 0) := fun z => absurd z.1 (by first | exact c1 | omega)
        have hm2 : ¬ (name = 1 ∧ ¬ σ.1 24 < 0) := fun z => z.2 (by rw [c26]; decide)
        have hwl : lawI σ (S 8 w) name = whyV σ (S 8 w) name := (why_law h.hz.2.2.2.1).symm
        refine pl_aload_n (pc := 34) dX2_means_34 rfl rfl ?_
        refine pl_iload_n (pc := 35) dX2_means_35 rfl rfl ?_
        refine pl_callVd (pc := 36) (As := [_]) (C1 := 0) (N1 := 0) (C2 := 0) (N2 := 0) ckX2 mdX2_why rfl q1711 q1712 q1713 q126 dX2_means_36 rfl rfl (Nat.le_of_ble_eq_true rfl) (h.r1) (x_X2_why (d := d - 1) (by omega) h (by omega)) (by omega) (by omega) (by omega) ?_
        rcases lastI_c (toldB σ name) (S 8 w) with hs_l | ⟨l, hl, el, htb⟩
        · refine PJ.top (y := -1) hs_l ?_
          have hmv : meanV σ (S 4 w) (S 8 w) name gr = (withoutV (nI name), σ.2.1 13) := by unfold meanV; rw [if_neg hm1, if_neg hm2, if_pos (hwl.trans hs_l)]
          refine pj_istore_n (pc := 39) (lv' := [(3, _), (0, _), (1, _), (2, _)]) dX2_means_39 rfl (by decide) rfl ?_
          refine pl_iload_n (pc := 40) dX2_means_40 rfl rfl ?_
          refine pj_iconst (pc := 41) (v := (-1)) dX2_means_41 (by rfl) ?_
          refine pj_icmp_ne (pc := 42) (tgt := 52) dX2_means_42 (by decide) (fun z => absurd rfl z) (fun _ => ?_)
          refine pl_iload_n (pc := 45) dX2_means_45 rfl rfl ?_
          refine pl_callSd (pc := 46) (As := [_]) (C1 := 0) (N1 := 0) (C2 := 0) (N2 := 0) mdX2_plain q944 q945 q126 dX2_means_46 rfl rfl (Nat.le_of_ble_eq_true rfl) (k_X2_plain (d := d - 1) (by omega) (by omega)) (by omega) (by omega) (by omega) ?_
          refine pj_goto (pc := 49) (tgt := 98) dX2_means_49 (by decide) ?_
          refine pj_iret (pc := 98) dX2_means_98 rfl ?_
          exact ⟨vIe (by rw [hmv]) rfl, e, E9.rf, h⟩
        · refine PJ.top (y := nI l) el ?_
          have hl8 := h.hz.2.2.2.1
          have g_l := tN_nI (n := l) (by omega)
          have el2 : ¬ nI l = -1 := fun z => by have h9 := nI_pos' (n := l) (by omega); rw [z] at h9; exact absurd h9 (by decide)
          have hlaw : lawI σ (S 8 w) name = nI l := hwl.trans el
          have hmv : meanV σ (S 4 w) (S 8 w) name gr = (boundedV name (valV σ l name (row σ 2116) (nI (farmsC σ 96)) (nI (hereC σ (S 4 w))) gr).1, (valV σ l name (row σ 2116) (nI (farmsC σ 96)) (nI (hereC σ (S 4 w))) gr).2) := by unfold meanV; rw [if_neg hm1, if_neg hm2, if_neg (by rw [hlaw]; exact el2), hlaw, g_l]
          refine pj_istore_n (pc := 39) (lv' := [(3, _), (0, _), (1, _), (2, _)]) dX2_means_39 rfl (by decide) rfl ?_
          refine pl_iload_n (pc := 40) dX2_means_40 rfl rfl ?_
          refine pj_iconst (pc := 41) (v := (-1)) dX2_means_41 (by rfl) ?_
          refine pj_icmp_ne (pc := 42) (tgt := 52) dX2_means_42 (by decide) (fun _ => ?_) (fun z => absurd z el2)
          refine pl_iload_n (pc := 52) dX2_means_52 rfl rfl ?_
          refine pl_aload_n (pc := 53) dX2_means_53 rfl rfl ?_
          refine pj_getf (pc := 54) ckX2 28 q776 dX2_means_54 (by decide) (h.r1) rfl ?_
          refine pl_iload_n (pc := 57) dX2_means_57 rfl rfl ?_
          obtain ⟨m_58, c_58, l_58⟩ := h.L8
          refine pl_callVd (pc := 58) (As := [_]) (C1 := 0) (N1 := 0) (C2 := 0) (N2 := 0) ckJ2 mdJ2_get rfl q707 q708 q709 q129 dX2_means_58 rfl rfl (Nat.le_of_ble_eq_true rfl) l_58.1 (k_J2_get (d := d - 1) (by omega) l_58 (j := l) (by omega) (if_pos (by omega))) (by omega) (by omega) (by omega) ?_
          refine pj_castS (pc := 61) ckX12 q951 dX2_means_61 (h.r38 (by omega)) ?_
          refine pj_getfN (pc := 64) ckX12 0 q1496 dX2_means_64 (by decide) (h.r38 (by omega)) rfl ?_
          obtain ⟨im_64, at_64, ft_64, him_64, hak_64, hx_64, ha_64, hf_64⟩ := h.text (l := l) (by omega)
          refine pj_getfN (pc := 67) ckX19 0 q1888 dX2_means_67 (by decide) (him_64 _ _ hx_64) rfl ?_
          refine pl_iload_n (pc := 70) dX2_means_70 rfl rfl ?_
          have hcod : 0 ≤ σ.2.1 10 (8 * l + name) := by
            simp only [toldB, Bool.and_eq_true, decide_eq_true_eq] at htb
            exact htb.2
          rcases hf_64 name (by omega) with ⟨hn_71, hv_71⟩ | ⟨r_71, n_71, hn3_71, hv_71, hp_71, hE_71⟩
          · exact absurd hcod (Int32.not_le.mpr hn_71)
          refine pl_aldE (pc := 71) (n := 8) dX2_means_71 (him_64 _ _ ha_64) (by omega) (by decide) ?_
          rw [hv_71]
          show PJ g _ _ _ _ d _ _ 72 _ (.ref r_71 :: _) _ _
          refine pl_aload_n (pc := 72) dX2_means_72 rfl rfl ?_
          refine pj_getf (pc := 73) ckX2 30 q780 dX2_means_73 (by decide) (h.r1) rfl ?_
          refine pl_aload_n (pc := 76) dX2_means_76 rfl rfl ?_
          refine pj_getf (pc := 77) ckX2 0 q725 dX2_means_77 (by decide) (h.r1) rfl ?_
          refine pl_aload_n (pc := 80) dX2_means_80 rfl rfl ?_
          refine pl_callVd (pc := 81) (As := []) (C1 := 0) (N1 := 0) (C2 := 0) (N2 := 0) ckX2 mdX2_farms rfl q1719 q1196 q1197 q126 dX2_means_81 rfl rfl (Nat.le_of_ble_eq_true rfl) (h.r1) (x_X2_farms (d := d - 1) (by omega) h) (by omega) (by omega) (by omega) ?_
          refine pl_aload_n (pc := 84) dX2_means_84 rfl rfl ?_
          refine pl_callVd (pc := 85) (As := []) (C1 := 0) (N1 := 0) (C2 := 0) (N2 := 0) ckX2 mdX2_here rfl q1720 q1187 q1188 q126 dX2_means_85 rfl rfl (Nat.le_of_ble_eq_true rfl) (h.r1) (x_X2_here (d := d - 1) (by omega) h) (by omega) (by omega) (by omega) ?_
          refine pl_iload_n (pc := 88) dX2_means_88 rfl rfl ?_
          obtain ⟨e_1, he_1, ha_1⟩ := h.ask (wk := row σ 2116) (so := nI (farmsC σ 96)) (pe := nI (hereC σ (S 4 w))) (gr := gr)
          refine pl_callVd (pc := 89) (As := [_, _, _, _]) (C1 := 0) (N1 := 0) (C2 := 0) (N2 := 0) ckX6 mdX6_of rfl q956 q957 q958 q150 dX2_means_89 rfl rfl (Nat.le_of_ble_eq_true rfl) h.r26 (k_X6_of (f := fun j => e 9 j) (d := d - 1) (by omega) h.r26) (by omega) (by omega) (by omega) ?_
          have hE9 := (EcX.mono (ask_keep (x := askO (row σ 2116) (nI (farmsC σ 96)) (nI (hereC σ (S 4 w))) gr) him_64 (hak_64 w h.hz.1)) n_71).1 _ _ hE_71
          refine (evX n_71).1 (pc := 92) hE9 mset_s (by omega) q960 dX2_means_92 (Nat.le_of_ble_eq_true rfl) ?_
          refine pl_callSd (pc := 95) (As := [_, _]) (C1 := 0) (N1 := 0) (C2 := 0) (N2 := 0) mdX2_bounded q1030 q1031 q126 dX2_means_95 rfl rfl (Nat.le_of_ble_eq_true rfl) (x_X2_bounded (d := d - 1) (by omega) (by omega)) (by omega) (by omega) (by omega) ?_
          refine pj_iret (pc := 98) dX2_means_98 rfl ?_
          exact ⟨vIe (by rw [hmv]) rfl, e_1, he_1, ha_1⟩
      · refine pl_aload_n (pc := 29) dX2_means_29 rfl rfl ?_
        refine pj_getf (pc := 30) ckX2 10 q743 dX2_means_30 (by decide) (h.r1) rfl ?_
        refine pj_iret (pc := 33) dX2_means_33 rfl ?_
        exact ⟨vIe (by unfold meanV; rw [if_neg (fun z => by have := z.1; omega), if_pos ⟨c18, ht.resolve_left c26⟩]) rfl, e, E9.rf, h⟩
  · refine pl_aload_n (pc := 4) dX2_means_4 rfl rfl ?_
    refine pj_getf (pc := 5) ckX2 9 q741 dX2_means_5 (by decide) (h.r1) rfl ?_
    refine pj_if_le (pc := 8) (tgt := 16) dX2_means_8 (by decide) (fun c8 => ?_) (fun c8 => ?_)
    · refine pl_iload_n (pc := 16) dX2_means_16 rfl rfl ?_
      refine pl_iconst (pc := 17) (v := 1) dX2_means_17 (by rfl) ?_
      refine pl_icmp_ne (pc := 18) (tgt := 34) dX2_means_18 (by decide) (by omega) (by omega) (fun c18 => ?_) (fun c18 => ?_)
      · have hm1 : ¬ (name = 0 ∧ ¬ σ.1 23 ≤ 0) := fun z => z.2 c8
        have hm2 : ¬ (name = 1 ∧ ¬ σ.1 24 < 0) := fun z => absurd z.1 (by first | exact c18 | omega)
        have hwl : lawI σ (S 8 w) name = whyV σ (S 8 w) name := (why_law h.hz.2.2.2.1).symm
        refine pl_aload_n (pc := 34) dX2_means_34 rfl rfl ?_
        refine pl_iload_n (pc := 35) dX2_means_35 rfl rfl ?_
        refine pl_callVd (pc := 36) (As := [_]) (C1 := 0) (N1 := 0) (C2 := 0) (N2 := 0) ckX2 mdX2_why rfl q1711 q1712 q1713 q126 dX2_means_36 rfl rfl (Nat.le_of_ble_eq_true rfl) (h.r1) (x_X2_why (d := d - 1) (by omega) h (by omega)) (by omega) (by omega) (by omega) ?_
        rcases lastI_c (toldB σ name) (S 8 w) with hs_l | ⟨l, hl, el, htb⟩
        · refine PJ.top (y := -1) hs_l ?_
          have hmv : meanV σ (S 4 w) (S 8 w) name gr = (withoutV (nI name), σ.2.1 13) := by unfold meanV; rw [if_neg hm1, if_neg hm2, if_pos (hwl.trans hs_l)]
          refine pj_istore_n (pc := 39) (lv' := [(3, _), (0, _), (1, _), (2, _)]) dX2_means_39 rfl (by decide) rfl ?_
          refine pl_iload_n (pc := 40) dX2_means_40 rfl rfl ?_
          refine pj_iconst (pc := 41) (v := (-1)) dX2_means_41 (by rfl) ?_
          refine pj_icmp_ne (pc := 42) (tgt := 52) dX2_means_42 (by decide) (fun z => absurd rfl z) (fun _ => ?_)
          refine pl_iload_n (pc := 45) dX2_means_45 rfl rfl ?_
          refine pl_callSd (pc := 46) (As := [_]) (C1 := 0) (N1 := 0) (C2 := 0) (N2 := 0) mdX2_plain q944 q945 q126 dX2_means_46 rfl rfl (Nat.le_of_ble_eq_true rfl) (k_X2_plain (d := d - 1) (by omega) (by omega)) (by omega) (by omega) (by omega) ?_
          refine pj_goto (pc := 49) (tgt := 98) dX2_means_49 (by decide) ?_
          refine pj_iret (pc := 98) dX2_means_98 rfl ?_
          exact ⟨vIe (by rw [hmv]) rfl, e, E9.rf, h⟩
        · refine PJ.top (y := nI l) el ?_
          have hl8 := h.hz.2.2.2.1
          have g_l := tN_nI (n := l) (by omega)
          have el2 : ¬ nI l = -1 := fun z => by have h9 := nI_pos' (n := l) (by omega); rw [z] at h9; exact absurd h9 (by decide)
          have hlaw : lawI σ (S 8 w) name = nI l := hwl.trans el
          have hmv : meanV σ (S 4 w) (S 8 w) name gr = (boundedV name (valV σ l name (row σ 2116) (nI (farmsC σ 96)) (nI (hereC σ (S 4 w))) gr).1, (valV σ l name (row σ 2116) (nI (farmsC σ 96)) (nI (hereC σ (S 4 w))) gr).2) := by unfold meanV; rw [if_neg hm1, if_neg hm2, if_neg (by rw [hlaw]; exact el2), hlaw, g_l]
          refine pj_istore_n (pc := 39) (lv' := [(3, _), (0, _), (1, _), (2, _)]) dX2_means_39 rfl (by decide) rfl ?_
          refine pl_iload_n (pc := 40) dX2_means_40 rfl rfl ?_
          refine pj_iconst (pc := 41) (v := (-1)) dX2_means_41 (by rfl) ?_
          refine pj_icmp_ne (pc := 42) (tgt := 52) dX2_means_42 (by decide) (fun _ => ?_) (fun z => absurd z el2)
          refine pl_iload_n (pc := 52) dX2_means_52 rfl rfl ?_
          refine pl_aload_n (pc := 53) dX2_means_53 rfl rfl ?_
          refine pj_getf (pc := 54) ckX2 28 q776 dX2_means_54 (by decide) (h.r1) rfl ?_
          refine pl_iload_n (pc := 57) dX2_means_57 rfl rfl ?_
          obtain ⟨m_58, c_58, l_58⟩ := h.L8
          refine pl_callVd (pc := 58) (As := [_]) (C1 := 0) (N1 := 0) (C2 := 0) (N2 := 0) ckJ2 mdJ2_get rfl q707 q708 q709 q129 dX2_means_58 rfl rfl (Nat.le_of_ble_eq_true rfl) l_58.1 (k_J2_get (d := d - 1) (by omega) l_58 (j := l) (by omega) (if_pos (by omega))) (by omega) (by omega) (by omega) ?_
          refine pj_castS (pc := 61) ckX12 q951 dX2_means_61 (h.r38 (by omega)) ?_
          refine pj_getfN (pc := 64) ckX12 0 q1496 dX2_means_64 (by decide) (h.r38 (by omega)) rfl ?_
          obtain ⟨im_64, at_64, ft_64, him_64, hak_64, hx_64, ha_64, hf_64⟩ := h.text (l := l) (by omega)
          refine pj_getfN (pc := 67) ckX19 0 q1888 dX2_means_67 (by decide) (him_64 _ _ hx_64) rfl ?_
          refine pl_iload_n (pc := 70) dX2_means_70 rfl rfl ?_
          have hcod : 0 ≤ σ.2.1 10 (8 * l + name) := by
            simp only [toldB, Bool.and_eq_true, decide_eq_true_eq] at htb
            exact htb.2
          rcases hf_64 name (by omega) with ⟨hn_71, hv_71⟩ | ⟨r_71, n_71, hn3_71, hv_71, hp_71, hE_71⟩
          · exact absurd hcod (Int32.not_le.mpr hn_71)
          refine pl_aldE (pc := 71) (n := 8) dX2_means_71 (him_64 _ _ ha_64) (by omega) (by decide) ?_
          rw [hv_71]
          show PJ g _ _ _ _ d _ _ 72 _ (.ref r_71 :: _) _ _
          refine pl_aload_n (pc := 72) dX2_means_72 rfl rfl ?_
          refine pj_getf (pc := 73) ckX2 30 q780 dX2_means_73 (by decide) (h.r1) rfl ?_
          refine pl_aload_n (pc := 76) dX2_means_76 rfl rfl ?_
          refine pj_getf (pc := 77) ckX2 0 q725 dX2_means_77 (by decide) (h.r1) rfl ?_
          refine pl_aload_n (pc := 80) dX2_means_80 rfl rfl ?_
          refine pl_callVd (pc := 81) (As := []) (C1 := 0) (N1 := 0) (C2 := 0) (N2 := 0) ckX2 mdX2_farms rfl q1719 q1196 q1197 q126 dX2_means_81 rfl rfl (Nat.le_of_ble_eq_true rfl) (h.r1) (x_X2_farms (d := d - 1) (by omega) h) (by omega) (by omega) (by omega) ?_
          refine pl_aload_n (pc := 84) dX2_means_84 rfl rfl ?_
          refine pl_callVd (pc := 85) (As := []) (C1 := 0) (N1 := 0) (C2 := 0) (N2 := 0) ckX2 mdX2_here rfl q1720 q1187 q1188 q126 dX2_means_85 rfl rfl (Nat.le_of_ble_eq_true rfl) (h.r1) (x_X2_here (d := d - 1) (by omega) h) (by omega) (by omega) (by omega) ?_
          refine pl_iload_n (pc := 88) dX2_means_88 rfl rfl ?_
          obtain ⟨e_1, he_1, ha_1⟩ := h.ask (wk := row σ 2116) (so := nI (farmsC σ 96)) (pe := nI (hereC σ (S 4 w))) (gr := gr)
          refine pl_callVd (pc := 89) (As := [_, _, _, _]) (C1 := 0) (N1 := 0) (C2 := 0) (N2 := 0) ckX6 mdX6_of rfl q956 q957 q958 q150 dX2_means_89 rfl rfl (Nat.le_of_ble_eq_true rfl) h.r26 (k_X6_of (f := fun j => e 9 j) (d := d - 1) (by omega) h.r26) (by omega) (by omega) (by omega) ?_
          have hE9 := (EcX.mono (ask_keep (x := askO (row σ 2116) (nI (farmsC σ 96)) (nI (hereC σ (S 4 w))) gr) him_64 (hak_64 w h.hz.1)) n_71).1 _ _ hE_71
          refine (evX n_71).1 (pc := 92) hE9 mset_s (by omega) q960 dX2_means_92 (Nat.le_of_ble_eq_true rfl) ?_
          refine pl_callSd (pc := 95) (As := [_, _]) (C1 := 0) (N1 := 0) (C2 := 0) (N2 := 0) mdX2_bounded q1030 q1031 q126 dX2_means_95 rfl rfl (Nat.le_of_ble_eq_true rfl) (x_X2_bounded (d := d - 1) (by omega) (by omega)) (by omega) (by omega) (by omega) ?_
          refine pj_iret (pc := 98) dX2_means_98 rfl ?_
          exact ⟨vIe (by rw [hmv]) rfl, e_1, he_1, ha_1⟩
      · refine pl_aload_n (pc := 21) dX2_means_21 rfl rfl ?_
        refine pj_getf (pc := 22) ckX2 10 q743 dX2_means_22 (by decide) (h.r1) rfl ?_
        refine pj_iconst (pc := 25) (v := (-1)) dX2_means_25 (by rfl) ?_
        refine pj_icmp_eq (pc := 26) (tgt := 34) dX2_means_26 (by decide) (fun c26 => ?_) (fun c26 => ?_)
        · have hm1 : ¬ (name = 0 ∧ ¬ σ.1 23 ≤ 0) := fun z => z.2 c8
          have hm2 : ¬ (name = 1 ∧ ¬ σ.1 24 < 0) := fun z => z.2 (by rw [c26]; decide)
          have hwl : lawI σ (S 8 w) name = whyV σ (S 8 w) name := (why_law h.hz.2.2.2.1).symm
          refine pl_aload_n (pc := 34) dX2_means_34 rfl rfl ?_
          refine pl_iload_n (pc := 35) dX2_means_35 rfl rfl ?_
          refine pl_callVd (pc := 36) (As := [_]) (C1 := 0) (N1 := 0) (C2 := 0) (N2 := 0) ckX2 mdX2_why rfl q1711 q1712 q1713 q126 dX2_means_36 rfl rfl (Nat.le_of_ble_eq_true rfl) (h.r1) (x_X2_why (d := d - 1) (by omega) h (by omega)) (by omega) (by omega) (by omega) ?_
          rcases lastI_c (toldB σ name) (S 8 w) with hs_l | ⟨l, hl, el, htb⟩
          · refine PJ.top (y := -1) hs_l ?_
            have hmv : meanV σ (S 4 w) (S 8 w) name gr = (withoutV (nI name), σ.2.1 13) := by unfold meanV; rw [if_neg hm1, if_neg hm2, if_pos (hwl.trans hs_l)]
            refine pj_istore_n (pc := 39) (lv' := [(3, _), (0, _), (1, _), (2, _)]) dX2_means_39 rfl (by decide) rfl ?_
            refine pl_iload_n (pc := 40) dX2_means_40 rfl rfl ?_
            refine pj_iconst (pc := 41) (v := (-1)) dX2_means_41 (by rfl) ?_
            refine pj_icmp_ne (pc := 42) (tgt := 52) dX2_means_42 (by decide) (fun z => absurd rfl z) (fun _ => ?_)
            refine pl_iload_n (pc := 45) dX2_means_45 rfl rfl ?_
            refine pl_callSd (pc := 46) (As := [_]) (C1 := 0) (N1 := 0) (C2 := 0) (N2 := 0) mdX2_plain q944 q945 q126 dX2_means_46 rfl rfl (Nat.le_of_ble_eq_true rfl) (k_X2_plain (d := d - 1) (by omega) (by omega)) (by omega) (by omega) (by omega) ?_
            refine pj_goto (pc := 49) (tgt := 98) dX2_means_49 (by decide) ?_
            refine pj_iret (pc := 98) dX2_means_98 rfl ?_
            exact ⟨vIe (by rw [hmv]) rfl, e, E9.rf, h⟩
          · refine PJ.top (y := nI l) el ?_
            have hl8 := h.hz.2.2.2.1
            have g_l := tN_nI (n := l) (by omega)
            have el2 : ¬ nI l = -1 := fun z => by have h9 := nI_pos' (n := l) (by omega); rw [z] at h9; exact absurd h9 (by decide)
            have hlaw : lawI σ (S 8 w) name = nI l := hwl.trans el
            have hmv : meanV σ (S 4 w) (S 8 w) name gr = (boundedV name (valV σ l name (row σ 2116) (nI (farmsC σ 96)) (nI (hereC σ (S 4 w))) gr).1, (valV σ l name (row σ 2116) (nI (farmsC σ 96)) (nI (hereC σ (S 4 w))) gr).2) := by unfold meanV; rw [if_neg hm1, if_neg hm2, if_neg (by rw [hlaw]; exact el2), hlaw, g_l]
            refine pj_istore_n (pc := 39) (lv' := [(3, _), (0, _), (1, _), (2, _)]) dX2_means_39 rfl (by decide) rfl ?_
            refine pl_iload_n (pc := 40) dX2_means_40 rfl rfl ?_
            refine pj_iconst (pc := 41) (v := (-1)) dX2_means_41 (by rfl) ?_
            refine pj_icmp_ne (pc := 42) (tgt := 52) dX2_means_42 (by decide) (fun _ => ?_) (fun z => absurd z el2)
            refine pl_iload_n (pc := 52) dX2_means_52 rfl rfl ?_
            refine pl_aload_n (pc := 53) dX2_means_53 rfl rfl ?_
            refine pj_getf (pc := 54) ckX2 28 q776 dX2_means_54 (by decide) (h.r1) rfl ?_
            refine pl_iload_n (pc := 57) dX2_means_57 rfl rfl ?_
            obtain ⟨m_58, c_58, l_58⟩ := h.L8
            refine pl_callVd (pc := 58) (As := [_]) (C1 := 0) (N1 := 0) (C2 := 0) (N2 := 0) ckJ2 mdJ2_get rfl q707 q708 q709 q129 dX2_means_58 rfl rfl (Nat.le_of_ble_eq_true rfl) l_58.1 (k_J2_get (d := d - 1) (by omega) l_58 (j := l) (by omega) (if_pos (by omega))) (by omega) (by omega) (by omega) ?_
            refine pj_castS (pc := 61) ckX12 q951 dX2_means_61 (h.r38 (by omega)) ?_
            refine pj_getfN (pc := 64) ckX12 0 q1496 dX2_means_64 (by decide) (h.r38 (by omega)) rfl ?_
            obtain ⟨im_64, at_64, ft_64, him_64, hak_64, hx_64, ha_64, hf_64⟩ := h.text (l := l) (by omega)
            refine pj_getfN (pc := 67) ckX19 0 q1888 dX2_means_67 (by decide) (him_64 _ _ hx_64) rfl ?_
            refine pl_iload_n (pc := 70) dX2_means_70 rfl rfl ?_
            have hcod : 0 ≤ σ.2.1 10 (8 * l + name) := by
              simp only [toldB, Bool.and_eq_true, decide_eq_true_eq] at htb
              exact htb.2
            rcases hf_64 name (by omega) with ⟨hn_71, hv_71⟩ | ⟨r_71, n_71, hn3_71, hv_71, hp_71, hE_71⟩
            · exact absurd hcod (Int32.not_le.mpr hn_71)
            refine pl_aldE (pc := 71) (n := 8) dX2_means_71 (him_64 _ _ ha_64) (by omega) (by decide) ?_
            rw [hv_71]
            show PJ g _ _ _ _ d _ _ 72 _ (.ref r_71 :: _) _ _
            refine pl_aload_n (pc := 72) dX2_means_72 rfl rfl ?_
            refine pj_getf (pc := 73) ckX2 30 q780 dX2_means_73 (by decide) (h.r1) rfl ?_
            refine pl_aload_n (pc := 76) dX2_means_76 rfl rfl ?_
            refine pj_getf (pc := 77) ckX2 0 q725 dX2_means_77 (by decide) (h.r1) rfl ?_
            refine pl_aload_n (pc := 80) dX2_means_80 rfl rfl ?_
            refine pl_callVd (pc := 81) (As := []) (C1 := 0) (N1 := 0) (C2 := 0) (N2 := 0) ckX2 mdX2_farms rfl q1719 q1196 q1197 q126 dX2_means_81 rfl rfl (Nat.le_of_ble_eq_true rfl) (h.r1) (x_X2_farms (d := d - 1) (by omega) h) (by omega) (by omega) (by omega) ?_
            refine pl_aload_n (pc := 84) dX2_means_84 rfl rfl ?_
            refine pl_callVd (pc := 85) (As := []) (C1 := 0) (N1 := 0) (C2 := 0) (N2 := 0) ckX2 mdX2_here rfl q1720 q1187 q1188 q126 dX2_means_85 rfl rfl (Nat.le_of_ble_eq_true rfl) (h.r1) (x_X2_here (d := d - 1) (by omega) h) (by omega) (by omega) (by omega) ?_
            refine pl_iload_n (pc := 88) dX2_means_88 rfl rfl ?_
            obtain ⟨e_1, he_1, ha_1⟩ := h.ask (wk := row σ 2116) (so := nI (farmsC σ 96)) (pe := nI (hereC σ (S 4 w))) (gr := gr)
            refine pl_callVd (pc := 89) (As := [_, _, _, _]) (C1 := 0) (N1 := 0) (C2 := 0) (N2 := 0) ckX6 mdX6_of rfl q956 q957 q958 q150 dX2_means_89 rfl rfl (Nat.le_of_ble_eq_true rfl) h.r26 (k_X6_of (f := fun j => e 9 j) (d := d - 1) (by omega) h.r26) (by omega) (by omega) (by omega) ?_
            have hE9 := (EcX.mono (ask_keep (x := askO (row σ 2116) (nI (farmsC σ 96)) (nI (hereC σ (S 4 w))) gr) him_64 (hak_64 w h.hz.1)) n_71).1 _ _ hE_71
            refine (evX n_71).1 (pc := 92) hE9 mset_s (by omega) q960 dX2_means_92 (Nat.le_of_ble_eq_true rfl) ?_
            refine pl_callSd (pc := 95) (As := [_, _]) (C1 := 0) (N1 := 0) (C2 := 0) (N2 := 0) mdX2_bounded q1030 q1031 q126 dX2_means_95 rfl rfl (Nat.le_of_ble_eq_true rfl) (x_X2_bounded (d := d - 1) (by omega) (by omega)) (by omega) (by omega) (by omega) ?_
            refine pj_iret (pc := 98) dX2_means_98 rfl ?_
            exact ⟨vIe (by rw [hmv]) rfl, e_1, he_1, ha_1⟩
        · refine pl_aload_n (pc := 29) dX2_means_29 rfl rfl ?_
          refine pj_getf (pc := 30) ckX2 10 q743 dX2_means_30 (by decide) (h.r1) rfl ?_
          refine pj_iret (pc := 33) dX2_means_33 rfl ?_
          exact ⟨vIe (by unfold meanV; rw [if_neg (fun z => by have := z.1; omega), if_pos ⟨c18, ht.resolve_left c26⟩]) rfl, e, E9.rf, h⟩
    · refine pl_aload_n (pc := 11) dX2_means_11 rfl rfl ?_
      refine pj_getf (pc := 12) ckX2 9 q741 dX2_means_12 (by decide) (h.r1) rfl ?_
      refine pj_iret (pc := 15) dX2_means_15 rfl ?_
      exact ⟨vIe (by simp [meanV, eq_true c1, c8]) rfl, e, E9.rf, h⟩
