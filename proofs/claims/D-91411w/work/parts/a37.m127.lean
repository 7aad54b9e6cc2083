set_option maxRecDepth 100000
theorem SX.lr {g : GP} {P : Nat → Prop} {F : Mem} {A : XA} {w : Nat} {S : Nat → Nat → Nat} {b : XS} {σ : MS} {e : XE} {M : Mem} (h : SX g P F A w S b σ e M) {i : Nat} (hi : i < S 8 w) : M (A 38 w i) = some (lwO (VX w S b σ e 38 w i) (A 50 0 i) (A 39 w i)) := by
  obtain ⟨τ, dn, fl, hR, hz, -⟩ := h
  exact hR.gt (k := 38) (w := w) (i := i) (LvX.k38 (Or.inl rfl) hz.1 hi)
/-- whether a law was in force at a week, and tells a price -/
def wasT (σ : MS) (e : XE) (k l : Nat) : Bool := WasB (e 4 l) (e 5 l) (nI k) && decide (0 ≤ σ.2.1 10 (8 * l + 0))
theorem was_teller {σ : MS} {e : XE} {w nw n nl nb q nor k : Nat} {S : Nat → Nat → Nat} (t : TieX w S σ e nw) (iv : IvG σ n nl nb q nor nw) (hn : nl = S 8 w) (hk : k < nw) : tellerV σ (σ.2.1 14 (7 * k + 6)) 0 = lastI (wasT σ e k) nl := by
  have hL := iv.hL
  have hF := iv.hF k hk
  have e12 : 12 = nl + (12 - nl) := by omega
  show lastI (tells σ (σ.2.1 14 (7 * k + 6)) 0) 12 = _
  rw [e12, lastI_up (n := nl) (fun i h1 h2 => ?_)]
  · refine lastI_cg (fun i hi => ?_)
    have h := (t.hist (l := i) (by omega)).2.2.2.2.2 k hk
    simp only [tells, wasT]
    by_cases h1 : WasB (e 4 i) (e 5 i) (nI k) = true
    · rw [decide_eq_true (h.mpr h1), h1]
    · rw [decide_eq_false (fun z => h1 (h.mp z)), Bool.eq_false_iff.mpr h1]
  · cases hh : tells σ (σ.2.1 14 (7 * k + 6)) 0 i with
    | false => rfl
    | true => have := (Lb_tells hF (by omega) hh).1; omega
/-- the expression found so far -/
def QuI (g : GP) (A : XA) (σ : MS) (e : XE) (M : Mem) (k i : Nat) (v : Value) : Prop := (lastI (wasT σ e k) i = -1 ∧ v = .null) ∨ ∃ (l r n : Nat) (im : Mem), l < i ∧ lastI (wasT σ e k) i = nI l ∧ v = .ref r ∧ n ≤ 300 ∧ (∀ q x, im q = some x → M q = some x) ∧ im (A 26 0 0) = none ∧ (EcX g im n).1 r (fun wk so pe gr => (valV σ l 0 wk so pe gr).1)
theorem QuI.val {g : GP} {A : XA} {σ : MS} {e : XE} {M : Mem} {k i : Nat} {v : Value} (h : QuI g A σ e M k i v) : v = .null ∨ ∃ r, v = .ref r := by
  rcases h with ⟨h1, h2⟩ | ⟨l, r, n, im, h0, h1, h2, -⟩
  · exact Or.inl h2
  · exact Or.inr ⟨r, h2⟩
theorem QuI.no {g : GP} {A : XA} {σ : MS} {e : XE} {M : Mem} {k i : Nat} {v : Value} (h : QuI g A σ e M k i v) (hw : wasT σ e k i = false) : QuI g A σ e M k (i + 1) v := by
  have e1 : lastI (wasT σ e k) (i + 1) = lastI (wasT σ e k) i := if_neg (by rw [hw]; decide)
  rcases h with ⟨h1, h2⟩ | ⟨l, r, n, im, h0, h1, h2⟩
  · exact Or.inl ⟨e1.trans h1, h2⟩
  · exact Or.inr ⟨l, r, n, im, by omega, e1.trans h1, h2⟩
set_option maxHeartbeats 600000 in
theorem x_X2_quoted {g : GP} {μ : Mem} {d : Nat} {P : Nat → Prop} {F : Mem} {A : XA} {S : Nat → Nat → Nat} {b : XS} {σ : MS} {e : XE}(hd : 320 ≤ d) (h : SX g P F A 0 S b σ e μ) {nw nor : Nat} (t : TieX 0 S σ e nw) (iv : IvG σ (S 4 0) (S 8 0) (S 10 0) (S 6 0) nor nw) : PM g yX2_quoted (ws_ yX2_quoted cX2_quoted 4 (some .int)) d 0 0 [.ref (A 1 0 0)] μ (WQ (some (.int (homeV σ nw).1)) (fun M => ∃ e1, E9 e e1 ∧ SX g P F A 0 S b σ e1 M)) := by
  refine PM.of (by decide +kernel) (Nat.le_of_ble_eq_true rfl) ?_
  refine PJ.ok (fun G => ?_)
  show PJ g _ _ _ _ d 0 0 0 [(0, .ref (A 1 0 0))] [] _ _
  have hS8 := h.hz.2.2.2.1
  have hNW := iv.hNW
  refine pl_aload_n (pc := 0) dX2_quoted_0 rfl rfl ?_
  refine pl_callVd (pc := 1) (As := []) (C1 := 0) (N1 := 0) (C2 := 0) (N2 := 0) ckX2 mdX2_knownWeek rfl q940 q941 q942 q126 dX2_quoted_1 rfl rfl (Nat.le_of_ble_eq_true rfl) (h.r1) (x_X2_knownWeek (d := d - 1) (by omega) h iv.hnw) (by omega) (by omega) (by omega) ?_
  rcases Nat.lt_or_ge nw 34 with hs11 | hs11
  · have hsn := pk_sneg (a := nw) (b := 34) (by decide) hs11
    refine pj_istore_n (pc := 4) (lv' := [(1, _), (0, _)]) dX2_quoted_4 rfl (by decide) rfl ?_
    refine pl_iload_n (pc := 5) dX2_quoted_5 rfl rfl ?_
    refine pj_if_ge (pc := 6) (tgt := 14) dX2_quoted_6 (by decide) (fun z9 => absurd hsn (Int32.not_lt.mpr z9)) (fun _ => ?_)
    refine pl_iconst (pc := 9) (v := 0) dX2_quoted_9 (by rfl) ?_
    refine pl_callSd (pc := 10) (As := [_]) (C1 := 0) (N1 := 0) (C2 := 0) (N2 := 0) mdX2_plain q944 q945 q126 dX2_quoted_10 rfl rfl (Nat.le_of_ble_eq_true rfl) (k_X2_plain (d := d - 1) (by omega) (by omega)) (by omega) (by omega) (by omega) ?_
    refine pj_iret (pc := 13) dX2_quoted_13 rfl ?_
    exact ⟨vIe (by unfold homeV; rw [if_pos hs11]; rfl) rfl, e, E9.rf, h⟩
  · refine PJ.top (y := nI (nw - 34)) (pk_sub hs11) ?_
    obtain ⟨kw, hkw⟩ : ∃ kw, kw = nw - 34 := ⟨_, rfl⟩
    rw [← hkw]
    refine pj_istore_n (pc := 4) (lv' := [(1, _), (0, _)]) dX2_quoted_4 rfl (by decide) rfl ?_
    refine pl_iload_n (pc := 5) dX2_quoted_5 rfl rfl ?_
    refine pj_if_ge (pc := 6) (tgt := 14) dX2_quoted_6 (by decide) (fun _ => ?_) (fun z9 => absurd (nI_pos' (by omega)) z9)
    refine pj_null (pc := 14) dX2_quoted_14 ?_
    refine pj_astore_nN (pc := 15) (lv' := [(2, _), (1, _), (0, _)]) dX2_quoted_15 rfl (by decide) rfl ?_
    refine pl_iconst (pc := 16) (v := 0) dX2_quoted_16 (by rfl) ?_
    refine pj_istore_n (pc := 17) (lv' := [(3, _), (2, _), (1, _), (0, _)]) dX2_quoted_17 rfl (by decide) rfl ?_
    refine ind_dn (n := (S 8 0)) (P := fun i => ∀ M9 v, μ = M9 → QuI g A σ e μ kw i v → PJ g _ _ _ _ d 0 0 18 [(3, .int (nI i)), (2, v), (1, .int (nI kw)), (0, .ref (A 1 0 0))] [] M9 _) (fun i hi ih M9 v e9 qi => ?_) 0 (Nat.zero_le _) _ .null rfl (Or.inl ⟨rfl, rfl⟩)
    subst e9
    refine pl_iload_n (pc := 18) dX2_quoted_18 rfl rfl ?_
    refine pl_aload_n (pc := 19) dX2_quoted_19 rfl rfl ?_
    refine pj_getf (pc := 20) ckX2 28 q776 dX2_quoted_20 (by decide) (h.r1) rfl ?_
    obtain ⟨m_23, c_23, l_23⟩ := h.L8
    refine pl_callVd (pc := 23) (As := []) (C1 := 0) (N1 := 0) (C2 := 0) (N2 := 0) ckJ2 mdJ2_size rfl q947 q948 q949 q129 dX2_quoted_23 rfl rfl (Nat.le_of_ble_eq_true rfl) l_23.1 (k_J2_size (d := d - 1) (by omega) l_23) (by omega) (by omega) (by omega) ?_
    refine pl_icmp_ge (pc := 26) (tgt := 95) dX2_quoted_26 (by decide) (by omega) (by omega) (fun c26 => ?_) (fun c26 => ?_)
    · have ei : i = S 8 0 := by omega
      subst ei
      rcases qi with ⟨hl9, hv9⟩ | ⟨l9, r9, n9, im9, hl9, hlI, hv9, hn9, him9, hak9, hE9⟩
      · subst hv9
        refine pl_aload_nN (pc := 95) dX2_quoted_95 rfl rfl ?_
        refine pj_ifnonnullN (pc := 96) dX2_quoted_96 ?_
        refine pl_iconst (pc := 99) (v := 0) dX2_quoted_99 (by rfl) ?_
        refine pl_callSd (pc := 100) (As := [_]) (C1 := 0) (N1 := 0) (C2 := 0) (N2 := 0) mdX2_plain q944 q945 q126 dX2_quoted_100 rfl rfl (Nat.le_of_ble_eq_true rfl) (k_X2_plain (d := d - 1) (by omega) (by omega)) (by omega) (by omega) (by omega) ?_
        refine pj_goto (pc := 103) (tgt := 143) dX2_quoted_103 (by decide) ?_
        refine pj_iret (pc := 143) dX2_quoted_143 rfl ?_
        exact ⟨vIe (by unfold homeV; rw [if_neg (Nat.not_lt.mpr hs11), ← hkw, was_teller t iv rfl (by omega), hl9]; rfl) rfl, e, E9.rf, h⟩
      · subst hv9
        refine pl_aload_n (pc := 95) dX2_quoted_95 rfl rfl ?_
        refine pj_ifnonnull (pc := 96) (tgt := 106) dX2_quoted_96 (by decide) ?_
        refine pl_iconst (pc := 106) (v := 0) dX2_quoted_106 (by rfl) ?_
        refine pl_aload_n (pc := 107) dX2_quoted_107 rfl rfl ?_
        refine pl_aload_n (pc := 108) dX2_quoted_108 rfl rfl ?_
        refine pj_getf (pc := 109) ckX2 30 q780 dX2_quoted_109 (by decide) (h.r1) rfl ?_
        refine pl_iload_n (pc := 112) dX2_quoted_112 rfl rfl ?_
        refine pl_aload_n (pc := 113) dX2_quoted_113 rfl rfl ?_
        refine pj_getf (pc := 114) ckX2 31 q781 dX2_quoted_114 (by decide) (h.r1) rfl ?_
        refine pl_bipush (pc := 117) (v := 6) dX2_quoted_117 (by rfl) ?_
        refine pl_iload_n (pc := 119) dX2_quoted_119 rfl rfl ?_
        refine pl_imul (pc := 120) dX2_quoted_120 ?_
        refine pl_iconst (pc := 121) (v := 1) dX2_quoted_121 (by rfl) ?_
        refine pl_iadd (pc := 122) dX2_quoted_122 ?_
        refine pl_iald (pc := 123) (n := 6006) dX2_quoted_123 (h.r33) (by omega) (by decide) ?_
        refine PJ.top (h.v33 (by omega)) ?_
        refine PJ.top (y := σ.2.1 14 (7 * kw + 1)) (t.rows rfl (k := kw) (j := 1) (by omega) (by decide)) ?_
        refine pl_aload_n (pc := 124) dX2_quoted_124 rfl rfl ?_
        refine pj_getf (pc := 125) ckX2 31 q781 dX2_quoted_125 (by decide) (h.r1) rfl ?_
        refine pl_bipush (pc := 128) (v := 6) dX2_quoted_128 (by rfl) ?_
        refine pl_iload_n (pc := 130) dX2_quoted_130 rfl rfl ?_
        refine pl_imul (pc := 131) dX2_quoted_131 ?_
        refine pl_iald (pc := 132) (n := 6006) dX2_quoted_132 (h.r33) (by omega) (by decide) ?_
        refine PJ.top (h.v33 (by omega)) ?_
        refine PJ.top (y := σ.2.1 14 (7 * kw + 0)) (t.rows rfl (k := kw) (j := 0) (by omega) (by decide)) ?_
        refine pl_iconst (pc := 133) (v := 0) dX2_quoted_133 (by rfl) ?_
        obtain ⟨e_1, he_1, ha_1⟩ := h.ask (wk := nI kw) (so := σ.2.1 14 (7 * kw + 1)) (pe := σ.2.1 14 (7 * kw + 0)) (gr := nI 0)
        refine pl_callVd (pc := 134) (As := [_, _, _, _]) (C1 := 0) (N1 := 0) (C2 := 0) (N2 := 0) ckX6 mdX6_of rfl q956 q957 q958 q150 dX2_quoted_134 rfl rfl (Nat.le_of_ble_eq_true rfl) h.r26 (k_X6_of (f := fun j => e 9 j) (d := d - 1) (by omega) h.r26) (by omega) (by omega) (by omega) ?_
        have hE8 := (EcX.mono (ask_keep (x := askO (nI kw) (σ.2.1 14 (7 * kw + 1)) (σ.2.1 14 (7 * kw + 0)) (nI 0)) him9 hak9) n9).1 _ _ hE9
        refine (evX n9).1 (pc := 137) hE8 mset_s (by omega) q960 dX2_quoted_137 (Nat.le_of_ble_eq_true rfl) ?_
        refine pl_callSd (pc := 140) (As := [_, _]) (C1 := 0) (N1 := 0) (C2 := 0) (N2 := 0) mdX2_bounded q1030 q1031 q126 dX2_quoted_140 rfl rfl (Nat.le_of_ble_eq_true rfl) (x_X2_bounded (d := d - 1) (by omega) (by omega)) (by omega) (by omega) (by omega) ?_
        refine pj_iret (pc := 143) dX2_quoted_143 rfl ?_
        have n1 : ¬ (nI l9 : Int32) = -1 := fun z => nI_m1 (by omega) z.symm
        exact ⟨vIe (by unfold homeV; rw [if_neg (Nat.not_lt.mpr hs11), ← hkw, was_teller t iv rfl (by omega), hlI]; dsimp only; rw [if_neg n1, tN_nI (by omega)]) rfl, e_1, he_1, ha_1⟩
    · refine pl_aload_n (pc := 29) dX2_quoted_29 rfl rfl ?_
      refine pj_getf (pc := 30) ckX2 28 q776 dX2_quoted_30 (by decide) (h.r1) rfl ?_
      refine pl_iload_n (pc := 33) dX2_quoted_33 rfl rfl ?_
      obtain ⟨m_34, c_34, l_34⟩ := h.L8
      refine pl_callVd (pc := 34) (As := [_]) (C1 := 0) (N1 := 0) (C2 := 0) (N2 := 0) ckJ2 mdJ2_get rfl q707 q708 q709 q129 dX2_quoted_34 rfl rfl (Nat.le_of_ble_eq_true rfl) l_34.1 (k_J2_get (d := d - 1) (by omega) l_34 (j := i) (by omega) (if_pos (by omega))) (by omega) (by omega) (by omega) ?_
      refine pj_castS (pc := 37) ckX12 q951 dX2_quoted_37 (h.r38 (by omega)) ?_
      refine pl_iload_n (pc := 40) dX2_quoted_40 rfl rfl ?_
      refine pl_callVd (pc := 41) (As := [_]) (C1 := 0) (N1 := 0) (C2 := 0) (N2 := 0) ckX12 mdX12_wasIn rfl q952 q953 q954 q160 dX2_quoted_41 rfl rfl (Nat.le_of_ble_eq_true rfl) (h.r38 (by omega)) (k_X12_wasIn (d := d - 1) (by omega) (h.lr (by omega))) (by omega) (by omega) (by omega) ?_
      refine PJ.top (show bI (!decide (VX 0 S b σ e 38 0 i 2 = -1) && !decide (nI kw < VX 0 S b σ e 38 0 i 2) && (decide (VX 0 S b σ e 38 0 i 3 = -1) || !decide (VX 0 S b σ e 38 0 i 3 ≤ nI kw))) = bI (WasB (e 4 i) (e 5 i) (nI kw)) by rw [V38_2 h.hz (by omega), V38_3 h.hz (by omega)]; rfl) ?_
      refine pl_if_eqB (pc := 44) (tgt := 89) dX2_quoted_44 (by decide) (fun c44 => ?_) (fun c44 => ?_)
      · rcases qi.val with hv8 | ⟨r8, hv8⟩
        · subst hv8
          refine pl_iinc1 (pc := 89) (lv' := [(3, _), (2, _), (1, _), (0, _)]) dX2_quoted_89 rfl rfl (by decide) rfl ?_
          refine pj_goto (pc := 92) (tgt := 18) dX2_quoted_92 (by decide) ?_
          exact ih (by omega) _ _ rfl (qi.no (by unfold wasT; rw [c44]; rfl))
        · subst hv8
          refine pl_iinc1 (pc := 89) (lv' := [(3, _), (2, _), (1, _), (0, _)]) dX2_quoted_89 rfl rfl (by decide) rfl ?_
          refine pj_goto (pc := 92) (tgt := 18) dX2_quoted_92 (by decide) ?_
          exact ih (by omega) _ _ rfl (qi.no (by unfold wasT; rw [c44]; rfl))
      · refine pl_aload_n (pc := 47) dX2_quoted_47 rfl rfl ?_
        refine pj_getf (pc := 48) ckX2 28 q776 dX2_quoted_48 (by decide) (h.r1) rfl ?_
        refine pl_iload_n (pc := 51) dX2_quoted_51 rfl rfl ?_
        obtain ⟨m_52, c_52, l_52⟩ := h.L8
        refine pl_callVd (pc := 52) (As := [_]) (C1 := 0) (N1 := 0) (C2 := 0) (N2 := 0) ckJ2 mdJ2_get rfl q707 q708 q709 q129 dX2_quoted_52 rfl rfl (Nat.le_of_ble_eq_true rfl) l_52.1 (k_J2_get (d := d - 1) (by omega) l_52 (j := i) (by omega) (if_pos (by omega))) (by omega) (by omega) (by omega) ?_
        refine pj_castS (pc := 55) ckX12 q951 dX2_quoted_55 (h.r38 (by omega)) ?_
        refine pj_getfN (pc := 58) ckX12 0 q1496 dX2_quoted_58 (by decide) (h.r38 (by omega)) rfl ?_
        obtain ⟨im_58, at_58, ft_58, him_58, hak_58, hx_58, ha_58, hf_58⟩ := h.text (l := i) (by omega)
        refine pj_getfN (pc := 61) ckX19 0 q1888 dX2_quoted_61 (by decide) (him_58 _ _ hx_58) rfl ?_
        refine pl_iconst (pc := 64) (v := 0) dX2_quoted_64 (by rfl) ?_
        rcases hf_58 0 (by decide) with ⟨hn_65, hv_65⟩ | ⟨r_65, n_65, hn3_65, hv_65, hp_65, hE_65⟩
        · refine pl_aldE (pc := 65) (n := 8) dX2_quoted_65 (him_58 _ _ ha_58) (by decide) (by decide) ?_
          rw [hv_65]
          show PJ g _ _ _ _ d _ _ 66 _ (.null :: _) _ _
          refine pj_ifnullN (pc := 66) (tgt := 89) dX2_quoted_66 (by decide) ?_
          rcases qi.val with hv8 | ⟨r8, hv8⟩
          · subst hv8
            refine pl_iinc1 (pc := 89) (lv' := [(3, _), (2, _), (1, _), (0, _)]) dX2_quoted_89 rfl rfl (by decide) rfl ?_
            refine pj_goto (pc := 92) (tgt := 18) dX2_quoted_92 (by decide) ?_
            exact ih (by omega) _ _ rfl (qi.no (by unfold wasT; rw [decide_eq_false (Int32.not_le.mpr hn_65)]; simp))
          · subst hv8
            refine pl_iinc1 (pc := 89) (lv' := [(3, _), (2, _), (1, _), (0, _)]) dX2_quoted_89 rfl rfl (by decide) rfl ?_
            refine pj_goto (pc := 92) (tgt := 18) dX2_quoted_92 (by decide) ?_
            exact ih (by omega) _ _ rfl (qi.no (by unfold wasT; rw [decide_eq_false (Int32.not_le.mpr hn_65)]; simp))
        · refine pl_aldE (pc := 65) (n := 8) dX2_quoted_65 (him_58 _ _ ha_58) (by decide) (by decide) ?_
          rw [hv_65]
          show PJ g _ _ _ _ d _ _ 66 _ (.ref r_65 :: _) _ _
          refine pj_ifnull (pc := 66) dX2_quoted_66 ?_
          refine pl_aload_n (pc := 69) dX2_quoted_69 rfl rfl ?_
          refine pj_getf (pc := 70) ckX2 28 q776 dX2_quoted_70 (by decide) (h.r1) rfl ?_
          refine pl_iload_n (pc := 73) dX2_quoted_73 rfl rfl ?_
          obtain ⟨m_74, c_74, l_74⟩ := h.L8
          refine pl_callVd (pc := 74) (As := [_]) (C1 := 0) (N1 := 0) (C2 := 0) (N2 := 0) ckJ2 mdJ2_get rfl q707 q708 q709 q129 dX2_quoted_74 rfl rfl (Nat.le_of_ble_eq_true rfl) l_74.1 (k_J2_get (d := d - 1) (by omega) l_74 (j := i) (by omega) (if_pos (by omega))) (by omega) (by omega) (by omega) ?_
          refine pj_castS (pc := 77) ckX12 q951 dX2_quoted_77 (h.r38 (by omega)) ?_
          refine pj_getfN (pc := 80) ckX12 0 q1496 dX2_quoted_80 (by decide) (h.r38 (by omega)) rfl ?_
          obtain ⟨im_80, at_80, ft_80, him_80, hak_80, hx_80, ha_80, hf_80⟩ := h.text (l := i) (by omega)
          refine pj_getfN (pc := 83) ckX19 0 q1888 dX2_quoted_83 (by decide) (him_80 _ _ hx_80) rfl ?_
          refine pl_iconst (pc := 86) (v := 0) dX2_quoted_86 (by rfl) ?_
          rcases hf_80 0 (by decide) with ⟨hn_87, hv_87⟩ | ⟨r_87, n_87, hn3_87, hv_87, hp_87, hE_87⟩
          · exact absurd hp_65 (Int32.not_le.mpr hn_87)
          refine pl_aldE (pc := 87) (n := 8) dX2_quoted_87 (him_80 _ _ ha_80) (by decide) (by decide) ?_
          rw [hv_87]
          show PJ g _ _ _ _ d _ _ 88 _ (.ref r_87 :: _) _ _
          refine pj_astore_n (pc := 88) (lv' := [(2, _), (3, _), (1, _), (0, _)]) dX2_quoted_88 rfl (by decide) rfl ?_
          refine pl_iinc1 (pc := 89) (lv' := [(3, _), (2, _), (1, _), (0, _)]) dX2_quoted_89 rfl rfl (by decide) rfl ?_
          refine pj_goto (pc := 92) (tgt := 18) dX2_quoted_92 (by decide) ?_
          exact ih (by omega) _ _ rfl (Or.inr ⟨i, r_87, n_87, im_80, by omega, if_pos (by unfold wasT; rw [c44, decide_eq_true hp_87]; rfl), rfl, hn3_87, him_80, hak_80 0 (by decide), hE_87⟩)
set_option maxHeartbeats 600000 in
theorem x_X1_quoted {g : GP} {μ : Mem} {d : Nat} {P : Nat → Prop} {F : Mem} {A : XA} {S : Nat → Nat → Nat} {b : XS} {σ : MS} {nor nw : Nat} (s : SB g P F A 0 S b σ nw μ) (iv : IvG σ (S 4 0) (S 8 0) (S 10 0) (S 6 0) nor nw) (rs : RsX σ) (hd : 322 ≤ d)  : PM g yX1_quoted (ws_ yX1_quoted cX1_quoted 1 (some .int)) d 1 6 [.ref (A 0 0 0)] μ (CQ [] (p_quoted σ nw) (fun τ M => SB g P F A 0 S b τ nw M)) := by
  refine PM.of (by decide +kernel) (Nat.le_of_ble_eq_true rfl) ?_
  refine PJ.ok (fun G => ?_)
  show PJ g _ _ _ _ d 1 6 0 [(0, .ref (A 0 0 0))] [] _ _
  obtain ⟨ρ, hs0⟩ : ∃ ρ, ρ = sF σ 0 (nI 0) := ⟨_, rfl⟩
  have hs9 : s0 σ = ρ := hs0.symm
  have s1 := s.F0 (x := nI 0)
  rw [← hs0] at s1
  obtain ⟨e, h, t⟩ := s1
  have iv1 : IvG ρ (S 4 0) (S 8 0) (S 10 0) (S 6 0) nor nw := by rw [hs0]; exact iv.f0
  have rs1 : RsX ρ := by rw [hs0]; exact rs
  have h00 : ρ.1 0 = nI 0 := by rw [hs0]; rfl
  have hS4 := h.hz.2.1
  have hS6 := h.hz.2.2.1
  have hS8 := h.hz.2.2.2.1
  have hS10 := h.hz.2.2.2.2.1
  refine pl_aload_n (pc := 0) dX1_quoted_0 rfl rfl ?_
  refine pj_getf (pc := 1) ckX1 0 q853 dX1_quoted_1 (by decide) (h.r0) rfl ?_
  refine pl_callVWd (pc := 4) (As := []) (C1 := 0) (N1 := 0) (C2 := 1) (N2 := 6) ckX2 mdX2_quoted rfl q936 q937 q938 q126 dX1_quoted_4 rfl rfl (Nat.le_of_ble_eq_true rfl) (h.r1) (x_X2_quoted (d := d - 1) (by omega) h t iv1) (by omega) (by omega) (by omega) (fun My1 qy1 => ?_)
  obtain ⟨e_4, he_4, y1⟩ := qy1
  refine pj_iret (pc := 7) dX1_quoted_7 rfl ?_
  exact CQ.ok (τ := sH ρ nw) (by unfold p_quoted; rw [hs9]) (by exact h00) (SB.P ⟨_, y1, t.e9 he_4⟩)
theorem p_as_bad {σ : MS} {nw : Nat} {w h x : Int32} (hb : (¬ h = 0 ∧ ¬ h = nI 1) ∨ x < 0 ∨ nI 6 ≤ x) : p_as σ nw w h x = (nI 0, th σ 1) := by
  unfold p_as
  by_cases h0 : h < 0
  · rw [if_pos h0]
  · rw [if_neg h0]
    by_cases h1 : nI 1 < h
    · rw [if_pos h1]
    · rw [if_neg h1]
      have hh : h = 0 ∨ h = nI 1 := by
        obtain ⟨j, hj, rfl⟩ := nI_of h0
        have : ¬ 1 < j := fun z => h1 ((nI_ltI (by decide) hj).mpr z)
        rcases (by omega : j = 0 ∨ j = 1) with rfl | rfl
        · exact Or.inl rfl
        · exact Or.inr rfl
      by_cases h2 : x < 0
      · rw [if_pos h2]
      · rw [if_neg h2, if_pos]
        rcases hb with z | z | z
        · rcases hh with y | y
          · exact absurd y z.1
          · exact absurd y z.2
        · exact absurd z h2
        · exact fun y => absurd (Int32.lt_of_lt_of_le (show nI 5 < nI 6 by decide) z) (Int32.not_lt.mpr y)
theorem p_as_ok {σ : MS} {nw j : Nat} {w h : Int32} (hh : h = 0 ∨ h = nI 1) (hj : j < 6) : p_as σ nw w h (nI j) = (if inN w nw = false then -2000000000 else if h = nI 1 ∧ ¬ w ≤ nI nw - nI 34 then -2000000000 else (s0 σ).2.1 14 (7 * tN w + j), s0 σ) := by
  unfold p_as
  rw [if_neg (show ¬ h < 0 by rcases hh with z | z <;> rw [z] <;> decide), if_neg (show ¬ nI 1 < h by rcases hh with z | z <;> rw [z] <;> decide), if_neg (show ¬ nI j < 0 from Int32.not_lt.mpr (nI_pos' (by omega))), if_neg (show ¬ ¬ nI j ≤ nI 5 from fun z => z ((nI_leI (by omega) (by decide)).mpr (by omega))), tN_nI (by omega)]
set_option maxHeartbeats 600000 in
theorem x_X1_as {g : GP} {μ : Mem} {d : Nat} {P : Nat → Prop} {F : Mem} {A : XA} {S : Nat → Nat → Nat} {b : XS} {σ : MS} {nor nw : Nat} (s : SB g P F A 0 S b σ nw μ) (iv : IvG σ (S 4 0) (S 8 0) (S 10 0) (S 6 0) nor nw) (rs : RsX σ) (hd : 9 ≤ d) {w : Int32} {h9 : Int32} {x : Int32} : PM g yX1_as (ws_ yX1_as cX1_as 4 (some .int)) d 1 6 [.ref (A 0 0 0), .int w, .int h9, .int x] μ (CQ ["java/lang/IllegalArgumentException"] (p_as σ nw w h9 x) (fun τ M => SB g P F A 0 S b τ nw M)) := by
  refine PM.of (by decide +kernel) (Nat.le_of_ble_eq_true rfl) ?_
  refine PJ.ok (fun G => ?_)
  show PJ g _ _ _ _ d 1 6 0 [(0, .ref (A 0 0 0)), (1, .int w), (2, .int h9), (3, .int x)] [] _ _
  obtain ⟨ρ, hs0⟩ : ∃ ρ, ρ = sF σ 0 (nI 0) := ⟨_, rfl⟩
  have hs9 : s0 σ = ρ := hs0.symm
  have s1 := s.F0 (x := nI 0)
  rw [← hs0] at s1
  obtain ⟨e, h, t⟩ := s1
  have iv1 : IvG ρ (S 4 0) (S 8 0) (S 10 0) (S 6 0) nor nw := by rw [hs0]; exact iv.f0
  have rs1 : RsX ρ := by rw [hs0]; exact rs
  have h00 : ρ.1 0 = nI 0 := by rw [hs0]; rfl
  have hS4 := h.hz.2.1
  have hS6 := h.hz.2.2.1
  have hS8 := h.hz.2.2.2.1
  have hS10 := h.hz.2.2.2.2.1
  refine pl_iload_n (pc := 0) dX1_as_0 rfl rfl ?_
  refine pj_if_eq (pc := 1) (tgt := 9) dX1_as_1 (by decide) (fun c1 => ?_) (fun c1 => ?_)
  · refine pl_iload_n (pc := 9) dX1_as_9 rfl rfl ?_
    refine pj_if_lt (pc := 10) (tgt := 23) dX1_as_10 (by decide) (fun c10 => ?_) (fun c10 => ?_)
    · refine pl_iconst (pc := 23) (v := 0) dX1_as_23 (by rfl) ?_
      refine pl_callSX (pc := 24) (As := [_]) (C1 := 1) (N1 := 6) (C2 := 0) (N2 := 0) (E8 := "java/lang/IllegalArgumentException") mdX1_need q1262 q1263 q125 dX1_as_24 rfl rfl (Nat.le_of_ble_eq_true rfl) (k_X1_need_no (d := d - 1) (by omega) rfl) (by omega) (by omega) (by omega) (fun q_24 M_24 hM_24 => ?_)
      refine px_out0 rfl ?_
      exact CQ.no 0 (v := nI 0) (τ := sF ρ 0 (nI 1)) (by rw [show sF ρ 0 (nI 1) = th σ 1 by rw [hs0]]; exact p_as_bad (Or.inr (Or.inl c10))) rfl rfl (SB.mono (SB.F0 ⟨_, h, t⟩) hM_24)
    · refine pl_iload_n (pc := 13) dX1_as_13 rfl rfl ?_
      refine pl_bipush (pc := 14) (v := 6) dX1_as_14 (by rfl) ?_
      refine pj_icmp_ge (pc := 16) (tgt := 23) dX1_as_16 (by decide) (fun c16 => ?_) (fun c16 => ?_)
      · refine pl_iconst (pc := 23) (v := 0) dX1_as_23 (by rfl) ?_
        refine pl_callSX (pc := 24) (As := [_]) (C1 := 1) (N1 := 6) (C2 := 0) (N2 := 0) (E8 := "java/lang/IllegalArgumentException") mdX1_need q1262 q1263 q125 dX1_as_24 rfl rfl (Nat.le_of_ble_eq_true rfl) (k_X1_need_no (d := d - 1) (by omega) rfl) (by omega) (by omega) (by omega) (fun q_24 M_24 hM_24 => ?_)
        refine px_out0 rfl ?_
        exact CQ.no 0 (v := nI 0) (τ := sF ρ 0 (nI 1)) (by rw [show sF ρ 0 (nI 1) = th σ 1 by rw [hs0]]; exact p_as_bad (Or.inr (Or.inr c16))) rfl rfl (SB.mono (SB.F0 ⟨_, h, t⟩) hM_24)
      · refine pl_iconst (pc := 19) (v := 1) dX1_as_19 (by rfl) ?_
        refine pj_goto (pc := 20) (tgt := 24) dX1_as_20 (by decide) ?_
        refine pl_callSv (pc := 24) (As := [_]) (C1 := 0) (N1 := 0) (C2 := 1) (N2 := 6) mdX1_need q1262 q1263 q125 dX1_as_24 rfl rfl (Nat.le_of_ble_eq_true rfl) (k_X1_need_ok (d := d - 1) (by omega) (by decide)) (by omega) (by omega) (by omega) ?_
        obtain ⟨j_x, hj_x, rfl⟩ := inN_of (x := x) (n := 6) (by omega) (by simp only [inN, Bool.and_eq_true, decide_eq_true_eq]; exact ⟨Int32.not_lt.mp c10, Int32.not_le.mp c16⟩)
        have g_x := tN_nI (n := j_x) (by omega)
        have hh9 : h9 = 0 ∨ h9 = nI 1 := Or.inl c1
        have hNW := iv1.hNW
        refine pl_iload_n (pc := 27) dX1_as_27 rfl rfl ?_
        refine pj_if_lt (pc := 28) (tgt := 58) dX1_as_28 (by decide) (fun c28 => ?_) (fun c28 => ?_)
        · have hin9 : inN w nw = false := inN_lt0 c28
          refine pj_ldcw (pc := 58) q2465 dX1_as_58 ?_
          refine pj_iret (pc := 61) dX1_as_61 rfl ?_
          exact CQ.ok (τ := ρ) (by rw [p_as_ok hh9 hj_x, hs9]; rw [if_pos hin9]; first | done | rfl) (by exact h00) ⟨_, h, t⟩
        · refine pl_iload_n (pc := 31) dX1_as_31 rfl rfl ?_
          refine pl_aload_n (pc := 32) dX1_as_32 rfl rfl ?_
          refine pj_getf (pc := 33) ckX1 0 q853 dX1_as_33 (by decide) (h.r0) rfl ?_
          refine pj_getfN (pc := 36) ckX2 0 q726 dX1_as_36 (by decide) (h.r1) rfl ?_
          refine PJ.top (y := nI nw) iv1.hnw ?_
          refine pj_icmp_ge (pc := 39) (tgt := 58) dX1_as_39 (by decide) (fun c39 => ?_) (fun c39 => ?_)
          · have hin9 : inN w nw = false := inN_ge c39
            refine pj_ldcw (pc := 58) q2465 dX1_as_58 ?_
            refine pj_iret (pc := 61) dX1_as_61 rfl ?_
            exact CQ.ok (τ := ρ) (by rw [p_as_ok hh9 hj_x, hs9]; rw [if_pos hin9]; first | done | rfl) (by exact h00) ⟨_, h, t⟩
          · obtain ⟨j_w, hj_w, rfl⟩ := inN_of (x := w) (n := nw) (by omega) (by simp only [inN, Bool.and_eq_true, decide_eq_true_eq]; exact ⟨Int32.not_lt.mp c28, Int32.not_le.mp c39⟩)
            have g_w := tN_nI (n := j_w) (by omega)
            have hin9 : inN (nI j_w) nw = true := inN_nI hj_w (by omega)
            refine pl_iload_n (pc := 42) dX1_as_42 rfl rfl ?_
            refine pl_iconst (pc := 43) (v := 1) dX1_as_43 (by rfl) ?_
            refine pj_icmp_ne (pc := 44) (tgt := 62) dX1_as_44 (by decide) (fun _ => ?_) (fun z9 => absurd (z9.symm.trans c1) (by decide))
            refine pl_aload_n (pc := 62) dX1_as_62 rfl rfl ?_
            refine pj_getf (pc := 63) ckX1 0 q853 dX1_as_63 (by decide) (h.r0) rfl ?_
            refine pj_getfN (pc := 66) ckX2 31 q782 dX1_as_66 (by decide) (h.r1) rfl ?_
            refine pl_bipush (pc := 69) (v := 6) dX1_as_69 (by rfl) ?_
            refine pl_iload_n (pc := 71) dX1_as_71 rfl rfl ?_
            refine pl_imul (pc := 72) dX1_as_72 ?_
            refine pl_iload_n (pc := 73) dX1_as_73 rfl rfl ?_
            refine pl_iadd (pc := 74) dX1_as_74 ?_
            refine pl_iald (pc := 75) (n := 6006) dX1_as_75 (h.r33) (by omega) (by decide) ?_
            refine PJ.top (h.v33 (by omega)) ?_
            refine PJ.top (y := ρ.2.1 14 (7 * j_w + j_x)) (t.rows rfl (k := j_w) (j := j_x) hj_w hj_x) ?_
            refine pj_iret (pc := 76) dX1_as_76 rfl ?_
            exact CQ.ok (τ := ρ) (by rw [p_as_ok hh9 hj_x, hs9]; rw [if_neg (by rw [hin9]; decide), if_neg (fun z => absurd (z.1.symm.trans c1) (by decide)), tN_nI (by omega)]; first | done | rfl) (by exact h00) ⟨_, h, t⟩
  · refine pl_iload_n (pc := 4) dX1_as_4 rfl rfl ?_
    refine pl_iconst (pc := 5) (v := 1) dX1_as_5 (by rfl) ?_
    refine pj_icmp_ne (pc := 6) (tgt := 23) dX1_as_6 (by decide) (fun c6 => ?_) (fun c6 => ?_)
    · refine pl_iconst (pc := 23) (v := 0) dX1_as_23 (by rfl) ?_
      refine pl_callSX (pc := 24) (As := [_]) (C1 := 1) (N1 := 6) (C2 := 0) (N2 := 0) (E8 := "java/lang/IllegalArgumentException") mdX1_need q1262 q1263 q125 dX1_as_24 rfl rfl (Nat.le_of_ble_eq_true rfl) (k_X1_need_no (d := d - 1) (by omega) rfl) (by omega) (by omega) (by omega) (fun q_24 M_24 hM_24 => ?_)
      refine px_out0 rfl ?_
      exact CQ.no 0 (v := nI 0) (τ := sF ρ 0 (nI 1)) (by rw [show sF ρ 0 (nI 1) = th σ 1 by rw [hs0]]; exact p_as_bad (Or.inl ⟨c1, c6⟩)) rfl rfl (SB.mono (SB.F0 ⟨_, h, t⟩) hM_24)
    · refine pl_iload_n (pc := 9) dX1_as_9 rfl rfl ?_
      refine pj_if_lt (pc := 10) (tgt := 23) dX1_as_10 (by decide) (fun c10 => ?_) (fun c10 => ?_)
      · refine pl_iconst (pc := 23) (v := 0) dX1_as_23 (by rfl) ?_
        refine pl_callSX (pc := 24) (As := [_]) (C1 := 1) (N1 := 6) (C2 := 0) (N2 := 0) (E8 := "java/lang/IllegalArgumentException") mdX1_need q1262 q1263 q125 dX1_as_24 rfl rfl (Nat.le_of_ble_eq_true rfl) (k_X1_need_no (d := d - 1) (by omega) rfl) (by omega) (by omega) (by omega) (fun q_24 M_24 hM_24 => ?_)
        refine px_out0 rfl ?_
        exact CQ.no 0 (v := nI 0) (τ := sF ρ 0 (nI 1)) (by rw [show sF ρ 0 (nI 1) = th σ 1 by rw [hs0]]; exact p_as_bad (Or.inr (Or.inl c10))) rfl rfl (SB.mono (SB.F0 ⟨_, h, t⟩) hM_24)
      · refine pl_iload_n (pc := 13) dX1_as_13 rfl rfl ?_
        refine pl_bipush (pc := 14) (v := 6) dX1_as_14 (by rfl) ?_
        refine pj_icmp_ge (pc := 16) (tgt := 23) dX1_as_16 (by decide) (fun c16 => ?_) (fun c16 => ?_)
        · refine pl_iconst (pc := 23) (v := 0) dX1_as_23 (by rfl) ?_
          refine pl_callSX (pc := 24) (As := [_]) (C1 := 1) (N1 := 6) (C2 := 0) (N2 := 0) (E8 := "java/lang/IllegalArgumentException") mdX1_need q1262 q1263 q125 dX1_as_24 rfl rfl (Nat.le_of_ble_eq_true rfl) (k_X1_need_no (d := d - 1) (by omega) rfl) (by omega) (by omega) (by omega) (fun q_24 M_24 hM_24 => ?_)
          refine px_out0 rfl ?_
          exact CQ.no 0 (v := nI 0) (τ := sF ρ 0 (nI 1)) (by rw [show sF ρ 0 (nI 1) = th σ 1 by rw [hs0]]; exact p_as_bad (Or.inr (Or.inr c16))) rfl rfl (SB.mono (SB.F0 ⟨_, h, t⟩) hM_24)
        · refine pl_iconst (pc := 19) (v := 1) dX1_as_19 (by rfl) ?_
          refine pj_goto (pc := 20) (tgt := 24) dX1_as_20 (by decide) ?_
          refine pl_callSv (pc := 24) (As := [_]) (C1 := 0) (N1 := 0) (C2 := 1) (N2 := 6) mdX1_need q1262 q1263 q125 dX1_as_24 rfl rfl (Nat.le_of_ble_eq_true rfl) (k_X1_need_ok (d := d - 1) (by omega) (by decide)) (by omega) (by omega) (by omega) ?_
          obtain ⟨j_x, hj_x, rfl⟩ := inN_of (x := x) (n := 6) (by omega) (by simp only [inN, Bool.and_eq_true, decide_eq_true_eq]; exact ⟨Int32.not_lt.mp c10, Int32.not_le.mp c16⟩)
          have g_x := tN_nI (n := j_x) (by omega)
          have hh9 : h9 = 0 ∨ h9 = nI 1 := Or.inr c6
          have hNW := iv1.hNW
          refine pl_iload_n (pc := 27) dX1_as_27 rfl rfl ?_
          refine pj_if_lt (pc := 28) (tgt := 58) dX1_as_28 (by decide) (fun c28 => ?_) (fun c28 => ?_)
          · have hin9 : inN w nw = false := inN_lt0 c28
            refine pj_ldcw (pc := 58) q2465 dX1_as_58 ?_
            refine pj_iret (pc := 61) dX1_as_61 rfl ?_
            exact CQ.ok (τ := ρ) (by rw [p_as_ok hh9 hj_x, hs9]; rw [if_pos hin9]; first | done | rfl) (by exact h00) ⟨_, h, t⟩
          · refine pl_iload_n (pc := 31) dX1_as_31 rfl rfl ?_
            refine pl_aload_n (pc := 32) dX1_as_32 rfl rfl ?_
            refine pj_getf (pc := 33) ckX1 0 q853 dX1_as_33 (by decide) (h.r0) rfl ?_
            refine pj_getfN (pc := 36) ckX2 0 q726 dX1_as_36 (by decide) (h.r1) rfl ?_
            refine PJ.top (y := nI nw) iv1.hnw ?_
            refine pj_icmp_ge (pc := 39) (tgt := 58) dX1_as_39 (by decide) (fun c39 => ?_) (fun c39 => ?_)
            · have hin9 : inN w nw = false := inN_ge c39
              refine pj_ldcw (pc := 58) q2465 dX1_as_58 ?_
              refine pj_iret (pc := 61) dX1_as_61 rfl ?_
              exact CQ.ok (τ := ρ) (by rw [p_as_ok hh9 hj_x, hs9]; rw [if_pos hin9]; first | done | rfl) (by exact h00) ⟨_, h, t⟩
            · obtain ⟨j_w, hj_w, rfl⟩ := inN_of (x := w) (n := nw) (by omega) (by simp only [inN, Bool.and_eq_true, decide_eq_true_eq]; exact ⟨Int32.not_lt.mp c28, Int32.not_le.mp c39⟩)
              have g_w := tN_nI (n := j_w) (by omega)
              have hin9 : inN (nI j_w) nw = true := inN_nI hj_w (by omega)
              refine pl_iload_n (pc := 42) dX1_as_42 rfl rfl ?_
              refine pl_iconst (pc := 43) (v := 1) dX1_as_43 (by rfl) ?_
              refine pj_icmp_ne (pc := 44) (tgt := 62) dX1_as_44 (by decide) (fun z9 => absurd c6 z9) (fun _ => ?_)
              refine pl_iload_n (pc := 47) dX1_as_47 rfl rfl ?_
              refine pl_aload_n (pc := 48) dX1_as_48 rfl rfl ?_
              refine pj_getf (pc := 49) ckX1 0 q853 dX1_as_49 (by decide) (h.r0) rfl ?_
              refine pl_callVd (pc := 52) (As := []) (C1 := 0) (N1 := 0) (C2 := 1) (N2 := 6) ckX2 mdX2_knownWeek rfl q2464 q941 q942 q126 dX1_as_52 rfl rfl (Nat.le_of_ble_eq_true rfl) (h.r1) (x_X2_knownWeek (d := d - 1) (by omega) h iv1.hnw) (by omega) (by omega) (by omega) ?_
              refine pj_icmp_le (pc := 55) (tgt := 62) dX1_as_55 (by decide) (fun c55 => ?_) (fun c55 => ?_)
              · refine pl_aload_n (pc := 62) dX1_as_62 rfl rfl ?_
                refine pj_getf (pc := 63) ckX1 0 q853 dX1_as_63 (by decide) (h.r0) rfl ?_
                refine pj_getfN (pc := 66) ckX2 31 q782 dX1_as_66 (by decide) (h.r1) rfl ?_
                refine pl_bipush (pc := 69) (v := 6) dX1_as_69 (by rfl) ?_
                refine pl_iload_n (pc := 71) dX1_as_71 rfl rfl ?_
                refine pl_imul (pc := 72) dX1_as_72 ?_
                refine pl_iload_n (pc := 73) dX1_as_73 rfl rfl ?_
                refine pl_iadd (pc := 74) dX1_as_74 ?_
                refine pl_iald (pc := 75) (n := 6006) dX1_as_75 (h.r33) (by omega) (by decide) ?_
                refine PJ.top (h.v33 (by omega)) ?_
                refine PJ.top (y := ρ.2.1 14 (7 * j_w + j_x)) (t.rows rfl (k := j_w) (j := j_x) hj_w hj_x) ?_
                refine pj_iret (pc := 76) dX1_as_76 rfl ?_
                exact CQ.ok (τ := ρ) (by rw [p_as_ok hh9 hj_x, hs9]; rw [if_neg (by rw [hin9]; decide), if_neg (fun z => z.2 c55), tN_nI (by omega)]; first | done | rfl) (by exact h00) ⟨_, h, t⟩
              · refine pj_ldcw (pc := 58) q2465 dX1_as_58 ?_
                refine pj_iret (pc := 61) dX1_as_61 rfl ?_
                exact CQ.ok (τ := ρ) (by rw [p_as_ok hh9 hj_x, hs9]; rw [if_neg (by rw [hin9]; decide), if_pos ⟨c6, c55⟩]; first | done | rfl) (by exact h00) ⟨_, h, t⟩
set_option maxHeartbeats 600000 in
theorem x_X1_told {g : GP} {μ : Mem} {d : Nat} {P : Nat → Prop} {F : Mem} {A : XA} {w : Nat} {S : Nat → Nat → Nat} {b : XS} {σ : MS} {e : XE}(hd : 6 ≤ d) (h : SX g P F A w S b σ e μ) {x : Int32} : PM g yX1_told (ws_ yX1_told cX1_told 2 (some .int)) d 0 0 [.ref (A 1 w 0), .int x] μ (rQ (some (.int (toldV σ (S 4 w) x))) μ) := by
  refine PM.of (by decide +kernel) (Nat.le_of_ble_eq_true rfl) ?_
  refine PJ.ok (fun G => ?_)
  show PJ g _ _ _ _ d 0 0 0 [(0, .ref (A 1 w 0)), (1, .int x)] [] _ _
  refine pl_iload_n (pc := 0) dX1_told_0 rfl rfl ?_
  refine pl_tsw (pc := 1) 0 (tgt := 36) dX1_told_1 (by rfl) (by decide) (by decide) (by rfl) (by decide) (fun c1_0 => ?_) (fun c1_0 => ?_)
  · refine pl_aload_n (pc := 36) dX1_told_36 rfl rfl ?_
    refine pl_callVd (pc := 37) (As := []) (C1 := 0) (N1 := 0) (C2 := 0) (N2 := 0) ckX2 mdX2_farms rfl q1195 q1196 q1197 q126 dX1_told_37 rfl rfl (Nat.le_of_ble_eq_true rfl) (h.r1) (x_X2_farms (d := d - 1) (by omega) h) (by omega) (by omega) (by omega) ?_
    refine pj_iret (pc := 40) dX1_told_40 rfl ?_
    exact ⟨vIe (by unfold toldV; simp only [eq_true c1_0, ↓reduceIte]; first | done | rfl) rfl, rfl⟩
  refine pl_tsw (pc := 1) 1 (tgt := 41) dX1_told_1 (by rfl) (by decide) (by decide) (by rfl) (by decide) (fun c1_1 => ?_) (fun c1_1 => ?_)
  · refine pl_aload_n (pc := 41) dX1_told_41 rfl rfl ?_
    refine pj_getfN (pc := 42) ckX2 6 q737 dX1_told_42 (by decide) (h.r1) rfl ?_
    refine pj_iret (pc := 45) dX1_told_45 rfl ?_
    exact ⟨vIe (by unfold toldV; simp only [c1_0, eq_true c1_1, ↓reduceIte]; first | done | rfl) rfl, rfl⟩
  refine pl_tsw (pc := 1) 2 (tgt := 46) dX1_told_1 (by rfl) (by decide) (by decide) (by rfl) (by decide) (fun c1_2 => ?_) (fun c1_2 => ?_)
  · refine pl_aload_n (pc := 46) dX1_told_46 rfl rfl ?_
    refine pj_getfN (pc := 47) ckX2 2 q730 dX1_told_47 (by decide) (h.r1) rfl ?_
    refine pj_iret (pc := 50) dX1_told_50 rfl ?_
    exact ⟨vIe (by unfold toldV; simp only [c1_0, c1_1, eq_true c1_2, ↓reduceIte]; first | done | rfl) rfl, rfl⟩
  refine pl_tsw (pc := 1) 3 (tgt := 51) dX1_told_1 (by rfl) (by decide) (by decide) (by rfl) (by decide) (fun c1_3 => ?_) (fun c1_3 => ?_)
  · refine pl_aload_n (pc := 51) dX1_told_51 rfl rfl ?_
    refine pj_getfN (pc := 52) ckX2 1 q728 dX1_told_52 (by decide) (h.r1) rfl ?_
    refine pj_iret (pc := 55) dX1_told_55 rfl ?_
    exact ⟨vIe (by unfold toldV; simp only [c1_0, c1_1, c1_2, eq_true c1_3, ↓reduceIte]; first | done | rfl) rfl, rfl⟩
  refine pl_tsw (pc := 1) 4 (tgt := 56) dX1_told_1 (by rfl) (by decide) (by decide) (by rfl) (by decide) (fun c1_4 => ?_) (fun c1_4 => ?_)
  · refine pl_aload_n (pc := 56) dX1_told_56 rfl rfl ?_
    refine pl_callVd (pc := 57) (As := []) (C1 := 0) (N1 := 0) (C2 := 0) (N2 := 0) ckX2 mdX2_hired rfl q2476 q2477 q2478 q126 dX1_told_57 rfl rfl (Nat.le_of_ble_eq_true rfl) (h.r1) (x_X2_hired (d := d - 1) (by omega) h) (by omega) (by omega) (by omega) ?_
    refine pj_iret (pc := 60) dX1_told_60 rfl ?_
    exact ⟨vIe (by unfold toldV; simp only [c1_0, c1_1, c1_2, c1_3, eq_true c1_4, ↓reduceIte]; first | done | rfl) rfl, rfl⟩
  refine pj_tableOut (pc := 1) (tgt := 61) dX1_told_1 (by have q0 := nI_nec c1_0; have q1 := nI_nec c1_1; have q2 := nI_nec c1_2; have q3 := nI_nec c1_3; have q4 := nI_nec c1_4; omega) (by decide) ?_
  refine pl_aload_n (pc := 61) dX1_told_61 rfl rfl ?_
  refine pl_callVd (pc := 62) (As := []) (C1 := 0) (N1 := 0) (C2 := 0) (N2 := 0) ckX2 mdX2_here rfl q1186 q1187 q1188 q126 dX1_told_62 rfl rfl (Nat.le_of_ble_eq_true rfl) (h.r1) (x_X2_here (d := d - 1) (by omega) h) (by omega) (by omega) (by omega) ?_
  refine pj_iret (pc := 65) dX1_told_65 rfl ?_
  exact ⟨vIe (by unfold toldV; simp only [c1_0, c1_1, c1_2, c1_3, c1_4, ↓reduceIte]; first | done | rfl) rfl, rfl⟩
theorem goes_1 {σ : MS} {n nl nb q nw : Nat} : (s_goes n nl nb q nw σ).1 = σ.1 := by
  have a := (fr_yearI n nw (uq end1 96 (uq (stray1 n nl) 96 (uq (rainz nw) 4 (uq (livesI n nl) n (s_surveysAll q (s_letters n nl nb (s_lands σ n)))))))).1
  have b := (fr_goes5 n nl nb q nw σ).1
  exact (show (s_goes n nl nb q nw σ).1 = (yearI n nw (uq end1 96 (uq (stray1 n nl) 96 (uq (rainz nw) 4 (uq (livesI n nl) n (s_surveysAll q (s_letters n nl nb (s_lands σ n)))))))).1 from rfl).trans (a.trans b)
theorem p_week_ok {σ : MS} {n nl nb q nw j : Nat} (hj : j ≤ 104) (hw : row (s0 σ) 2116 + nI j ≤ nI 1000) : p_week σ n nl nb q nw (nI j) = (row (s_weeks n nl nb q nw j (s0 σ)) 2116, s_weeks n nl nb q nw j (s0 σ)) := by
  unfold p_week
  rw [if_neg (show ¬ nI j < 0 from Int32.not_lt.mpr (nI_pos' (by omega))), if_neg (show ¬ ¬ nI j ≤ nI 104 from fun z => z ((nI_leI (by omega) (by decide)).mpr hj)), if_neg (fun z => z hw), tN_nI (by omega)]
set_option maxHeartbeats 600000 in
theorem x_X1_week {g : GP} {μ : Mem} {d : Nat} {P : Nat → Prop} {F : Mem} {A : XA} {S : Nat → Nat → Nat} {b : XS} {σ : MS} {nor nw : Nat} (s : SB g P F A 0 S b σ nw μ) (iv : IvG σ (S 4 0) (S 8 0) (S 10 0) (S 6 0) nor nw) (rs : RsX σ) (hd : 348 ≤ d) {w : Int32} : PM g yX1_week (ws_ yX1_week cX1_week 3 (some .int)) d 10400 31200 [.ref (A 0 0 0), .int w] μ (CQ ["java/lang/IllegalArgumentException", "java/lang/IllegalStateException"] (p_week σ (S 4 0) (S 8 0) (S 10 0) (S 6 0) nw w) (fun τ M => ∃ n1, row τ 2116 = nI n1 ∧ n1 ≤ 1000 ∧ SB g P F A 0 S b τ n1 M)) := by
  refine PM.of (by decide +kernel) (Nat.le_of_ble_eq_true rfl) ?_
  refine PJ.ok (fun G => ?_)
  show PJ g _ _ _ _ d 10400 31200 0 [(0, .ref (A 0 0 0)), (1, .int w)] [] _ _
  obtain ⟨ρ, hs0⟩ : ∃ ρ, ρ = sF σ 0 (nI 0) := ⟨_, rfl⟩
  have hs9 : s0 σ = ρ := hs0.symm
  have s1 := s.F0 (x := nI 0)
  rw [← hs0] at s1
  obtain ⟨e, h, t⟩ := s1
  have iv1 : IvG ρ (S 4 0) (S 8 0) (S 10 0) (S 6 0) nor nw := by rw [hs0]; exact iv.f0
  have rs1 : RsX ρ := by rw [hs0]; exact rs
  have h00 : ρ.1 0 = nI 0 := by rw [hs0]; rfl
  have hS4 := h.hz.2.1
  have hS6 := h.hz.2.2.1
  have hS8 := h.hz.2.2.2.1
  have hS10 := h.hz.2.2.2.2.1
  refine pl_iload_n (pc := 0) dX1_week_0 rfl rfl ?_
  refine pj_if_lt (pc := 1) (tgt := 14) dX1_week_1 (by decide) (fun c1 => ?_) (fun c1 => ?_)
  · refine pl_iconst (pc := 14) (v := 0) dX1_week_14 (by rfl) ?_
    refine pl_callSX (pc := 15) (As := [_]) (C1 := 1) (N1 := 6) (C2 := 0) (N2 := 0) (E8 := "java/lang/IllegalArgumentException") mdX1_need q1262 q1263 q125 dX1_week_15 rfl rfl (Nat.le_of_ble_eq_true rfl) (k_X1_need_no (d := d - 1) (by omega) rfl) (by omega) (by omega) (by omega) (fun q_15 M_15 hM_15 => ?_)
    refine px_out0 rfl ?_
    exact CQ.no 0 (v := nI 0) (τ := sF ρ 0 (nI 1)) (by rw [show sF ρ 0 (nI 1) = th σ 1 by rw [hs0]]; first | (simp only [p_week, hs9, c1, ↓reduceIte]; first | done | rfl) | (simp [p_week, hs9, c1, Int32.not_lt, Int32.not_le]; first | done | rfl)) rfl rfl (⟨nw, iv1.hnw, iv1.hNW, SB.mono (SB.F0 ⟨_, h, t⟩) hM_15⟩)
  · refine pl_iload_n (pc := 4) dX1_week_4 rfl rfl ?_
    refine pl_bipush (pc := 5) (v := 104) dX1_week_5 (by rfl) ?_
    refine pj_icmp_gt (pc := 7) (tgt := 14) dX1_week_7 (by decide) (fun c7 => ?_) (fun c7 => ?_)
    · refine pl_iconst (pc := 14) (v := 0) dX1_week_14 (by rfl) ?_
      refine pl_callSX (pc := 15) (As := [_]) (C1 := 1) (N1 := 6) (C2 := 0) (N2 := 0) (E8 := "java/lang/IllegalArgumentException") mdX1_need q1262 q1263 q125 dX1_week_15 rfl rfl (Nat.le_of_ble_eq_true rfl) (k_X1_need_no (d := d - 1) (by omega) rfl) (by omega) (by omega) (by omega) (fun q_15 M_15 hM_15 => ?_)
      refine px_out0 rfl ?_
      exact CQ.no 0 (v := nI 0) (τ := sF ρ 0 (nI 1)) (by rw [show sF ρ 0 (nI 1) = th σ 1 by rw [hs0]]; first | (simp only [p_week, hs9, c1, c7, ↓reduceIte]; first | done | rfl) | (simp [p_week, hs9, c1, c7, Int32.not_lt, Int32.not_le]; first | done | rfl)) rfl rfl (⟨nw, iv1.hnw, iv1.hNW, SB.mono (SB.F0 ⟨_, h, t⟩) hM_15⟩)
    · refine pl_iconst (pc := 10) (v := 1) dX1_week_10 (by rfl) ?_
      refine pj_goto (pc := 11) (tgt := 15) dX1_week_11 (by decide) ?_
      refine pl_callSv (pc := 15) (As := [_]) (C1 := 0) (N1 := 0) (C2 := 10400) (N2 := 31200) mdX1_need q1262 q1263 q125 dX1_week_15 rfl rfl (Nat.le_of_ble_eq_true rfl) (k_X1_need_ok (d := d - 1) (by omega) (by decide)) (by omega) (by omega) (by omega) ?_
      refine pl_aload_n (pc := 18) dX1_week_18 rfl rfl ?_
      refine pj_getf (pc := 19) ckX1 0 q853 dX1_week_19 (by decide) (h.r0) rfl ?_
      refine pj_getfN (pc := 22) ckX2 0 q726 dX1_week_22 (by decide) (h.r1) rfl ?_
      refine pl_iload_n (pc := 25) dX1_week_25 rfl rfl ?_
      refine pj_iadd (pc := 26) dX1_week_26 ?_
      refine pl_sipush (pc := 27) (v := 1000) dX1_week_27 (by rfl) ?_
      refine pj_icmp_gt (pc := 30) (tgt := 37) dX1_week_30 (by decide) (fun c30 => ?_) (fun c30 => ?_)
      · refine pl_iconst (pc := 37) (v := 0) dX1_week_37 (by rfl) ?_
        refine pl_callSX (pc := 38) (As := [_]) (C1 := 1) (N1 := 6) (C2 := 0) (N2 := 0) (E8 := "java/lang/IllegalStateException") mdX1_right q2331 q2332 q125 dX1_week_38 rfl rfl (Nat.le_of_ble_eq_true rfl) (k_X1_right_no (d := d - 1) (by omega) rfl) (by omega) (by omega) (by omega) (fun q_38 M_38 hM_38 => ?_)
        refine px_out0 rfl ?_
        exact CQ.no 1 (v := nI 0) (τ := sF ρ 0 (nI 2)) (by rw [show sF ρ 0 (nI 2) = th σ 2 by rw [hs0]]; first | (simp only [p_week, hs9, c1, c7, c30, ↓reduceIte]; first | done | rfl) | (simp [p_week, hs9, c1, c7, c30, Int32.not_lt, Int32.not_le]; first | done | rfl)) rfl rfl (⟨nw, iv1.hnw, iv1.hNW, SB.mono (SB.F0 ⟨_, h, t⟩) hM_38⟩)
      · refine pl_iconst (pc := 33) (v := 1) dX1_week_33 (by rfl) ?_
        refine pj_goto (pc := 34) (tgt := 38) dX1_week_34 (by decide) ?_
        refine pl_callSv (pc := 38) (As := [_]) (C1 := 0) (N1 := 0) (C2 := 10400) (N2 := 31200) mdX1_right q2331 q2332 q125 dX1_week_38 rfl rfl (Nat.le_of_ble_eq_true rfl) (k_X1_right_ok (d := d - 1) (by omega) (by decide)) (by omega) (by omega) (by omega) ?_
        obtain ⟨j_w, hj_w, rfl⟩ := inN_of (x := w) (n := 105) (by omega) (by simp only [inN, Bool.and_eq_true, decide_eq_true_eq]; exact ⟨Int32.not_lt.mp c1, Int32.lt_of_le_of_lt (Int32.not_lt.mp c7) (by decide)⟩)
        have g_w := tN_nI (n := j_w) (by omega)
        have hNW := iv1.hNW
        have hwk : nw + j_w ≤ 1000 := by
          have z9 : nI (nw + j_w) ≤ nI 1000 := by rw [← nI_add, ← iv1.hnw]; exact Int32.not_lt.mp c30
          exact (nI_leI (by omega) (by decide)).mp z9
        refine pl_iconst (pc := 41) (v := 0) dX1_week_41 (by rfl) ?_
        refine pj_istore_n (pc := 42) (lv' := [(2, _), (0, _), (1, _)]) dX1_week_42 rfl (by decide) rfl ?_
        refine PJ.widen (C1 := 100 * (104 - 0)) (N1 := 300 * (104 - 0)) (by omega) (by omega) ?_
        refine PJ.sub [0, 2, 1] rfl ?_
        refine ind_dn (n := j_w) (P := fun i => ∀ M9 τ, τ = s_weeks (S 4 0) (S 8 0) (S 10 0) (S 6 0) nw i ρ → SB g P F A 0 S b τ (nw + i) M9 → IvG τ (S 4 0) (S 8 0) (S 10 0) (S 6 0) nor (nw + i) → τ.1 = ρ.1 → PJ g _ _ _ _ d (100 * (104 - i)) (300 * (104 - i)) 43 [(2, .int (nI i)), (1, .int (nI j_w)), (0, .ref (A 0 0 0))] [] M9 _) (fun i hi ih M9 τ hτ s9 iv9 f9 => ?_) 0 (Nat.zero_le _) _ ρ (by unfold s_weeks; rw [uq_0]) ⟨_, h, t⟩ iv1 rfl
        obtain ⟨e9, h9, t9⟩ := s9
        refine pl_iload_n (pc := 43) dX1_week_43 rfl rfl ?_
        refine pl_iload_n (pc := 44) dX1_week_44 rfl rfl ?_
        refine pl_icmp_ge (pc := 45) (tgt := 61) dX1_week_45 (by decide) (by omega) (by omega) (fun c45 => ?_) (fun c45 => ?_)
        · refine pl_aload_n (pc := 61) dX1_week_61 rfl rfl ?_
          refine pj_getf (pc := 62) ckX1 0 q853 dX1_week_62 (by decide) (h9.r0) rfl ?_
          refine pj_getfN (pc := 65) ckX2 0 q726 dX1_week_65 (by decide) (h9.r1) rfl ?_
          refine pj_iret (pc := 68) dX1_week_68 rfl ?_
          have ei : i = j_w := by omega
          subst ei
          exact CQ.ok (τ := τ) (by rw [p_week_ok (by omega) (by rw [hs9]; exact Int32.not_lt.mp c30), hs9, ← hτ]) (by rw [f9]; exact h00) ⟨_, iv9.hnw, iv9.hNW, _, h9, t9⟩
        · refine pl_aload_n (pc := 48) dX1_week_48 rfl rfl ?_
          refine pj_getf (pc := 49) ckX1 0 q853 dX1_week_49 (by decide) (h9.r0) rfl ?_
          refine pl_callVWv (pc := 52) (As := []) (C1 := (S 4 0)) (N1 := (3 * S 4 0)) (C2 := (100 * (104 - (i + 1)))) (N2 := (300 * (104 - (i + 1)))) ckX2 mdX2_passes rfl q2349 q2350 q2351 q126 dX1_week_52 rfl rfl (Nat.le_of_ble_eq_true rfl) (h9.r1) (x_X2_passes (d := d - 1) (by omega) ⟨_, h9, t9⟩ iv9 (by omega) (Or.inl (by rw [f9]; exact rs1.1))) (by omega) (by omega) (by omega) (fun My1 qy1 => ?_)
          refine pl_iinc1 (pc := 55) (lv' := [(2, _), (1, _), (0, _)]) dX1_week_55 rfl rfl (by decide) rfl ?_
          refine pj_goto (pc := 58) (tgt := 43) dX1_week_58 (by decide) ?_
          exact ih (by omega) _ _ (by unfold s_weeks; rw [uq_s]; show _ = s_goes _ _ _ _ _ (s_weeks _ _ _ _ _ i ρ); rw [← hτ]) qy1 (goes_iv iv9 (by omega)) (goes_1.trans f9)
def KpP (σ τ : MS) : Prop := (∀ k, k ≠ 7 → τ.2.1 k = σ.2.1 k) ∧ (∀ j, j ≠ 9 → τ.1 j = σ.1 j) ∧ τ.2.2 = σ.2.2
theorem KpP.tr {σ τ υ : MS} (h : KpP σ τ) (k : KpP τ υ) : KpP σ υ := ⟨fun a ha => (k.1 a ha).trans (h.1 a ha), fun a ha => (k.2.1 a ha).trans (h.2.1 a ha), k.2.2.trans h.2.2⟩
theorem KpP.put {σ : MS} {s v : Int32} : KpP σ (put1 s v σ) := by
  rw [put1_eq]
  exact ⟨fun k hk => (show (sF (wA σ 7 _ _) 9 _).2.1 k = σ.2.1 k from wA_k hk), fun j hj => (show upd σ.1 9 _ j = σ.1 j by simp [upd, hj]), rfl⟩
theorem kpP_feed4 {σ : MS} {v : Int32} : KpP σ (feed4 v σ) := by
  unfold feed4
  exact ((KpP.put.tr KpP.put).tr KpP.put).tr KpP.put
theorem kpP_feedS {σ : MS} {a b c d e : Int32} : KpP σ (feedS a b c d e σ) := by
  unfold feedS
  exact (((kpP_feed4.tr kpP_feed4).tr kpP_feed4).tr kpP_feed4).tr kpP_feed4
theorem feed4_9 {σ : MS} {v : Int32} {t : Nat} (h : σ.1 9 = nI t) : (feed4 v σ).1 9 = nI (t + 4) := by
  unfold feed4
  exact put1_9 (put1_9 (put1_9 (put1_9 h)))
set_option maxHeartbeats 600000 in
theorem x_X1_put {g : GP} {μ : Mem} {d : Nat} {P : Nat → Prop} {F : Mem} {A : XA} {S : Nat → Nat → Nat} {b : XS} {σ : MS} {e : XE}(hd : 1 ≤ d) (h : SX g P F A 0 S b σ e μ) {v : Int32} {t : Nat} (ht0 : σ.1 9 = nI (t + 0)) (hT : t + 4 ≤ 300) : PM g yX1_put (ws_ yX1_put cX1_put 3 none) d 0 0 [.ref (A 0 0 0), .int v] μ (WQ none (SX g P F A 0 S b (feed4 v σ) e)) := by
  refine PM.of (by decide +kernel) (Nat.le_of_ble_eq_true rfl) ?_
  refine PJ.ok (fun G => ?_)
  show PJ g _ _ _ _ d 0 0 0 [(0, .ref (A 0 0 0)), (1, .int v)] [] _ _
  refine pl_bipush (pc := 0) (v := 24) dX1_put_0 (by rfl) ?_
  refine pj_istore_n (pc := 2) (lv' := [(2, _), (0, _), (1, _)]) dX1_put_2 rfl (by decide) rfl ?_
  refine pl_iload_n (pc := 3) dX1_put_3 rfl rfl ?_
  refine pj_if_lt (pc := 4) (tgt := 36) dX1_put_4 (by decide) (fun h => absurd h (by decide)) (fun _ => ?_)
  refine pl_aload_n (pc := 7) dX1_put_7 rfl rfl ?_
  refine pj_getf (pc := 8) ckX1 7 q860 dX1_put_8 (by decide) (h.r0) rfl ?_
  refine pl_aload_n (pc := 11) dX1_put_11 rfl rfl ?_
  refine pj_getf (pc := 12) ckX1 2 q855 dX1_put_12 (by decide) (h.r0) rfl ?_
  refine PJ.top (y := nI (t + 0)) ht0 ?_
  refine pl_iload_n (pc := 15) dX1_put_15 rfl rfl ?_
  refine pl_iload_n (pc := 16) dX1_put_16 rfl rfl ?_
  refine pj_ishr (pc := 17) dX1_put_17 ?_
  refine pj_i2b (pc := 18) dX1_put_18 rfl ?_
  refine pl_bast (pc := 19) (n := 300) dX1_put_19 (h.r41) (by omega) (by decide) ?_
  refine sxk (h.p41 (by omega)) (fun My1 y1 => ?_)
  refine pl_aload_n (pc := 20) dX1_put_20 rfl rfl ?_
  refine pj_dup (pc := 21) dX1_put_21 rfl ?_
  refine pj_getf (pc := 22) ckX1 2 q855 dX1_put_22 (by decide) (y1.r0) rfl ?_
  refine pl_iconst (pc := 25) (v := 1) dX1_put_25 (by rfl) ?_
  refine pj_iadd (pc := 26) dX1_put_26 ?_
  refine pj_putf (pc := 27) ckX1 2 q855 dX1_put_27 (by decide) rfl (y1.r0) rfl rfl (Nat.le_of_ble_eq_true rfl) ?_
  refine sxk (y1.p0_2) (fun My2 y2 => ?_)
  obtain ⟨σ1, es1⟩ : ∃ s9, s9 = put1 (nI 24) v σ := ⟨_, rfl⟩
  have z1 := SX.at9 (υ := σ1) y2 (by rw [es1, put1_eq, show tN (σ.1 9) = t + 0 by rw [ht0]; exact tN_nI (by omega)]; first | done | rfl)
  have ht1 : σ1.1 9 = nI (t + 1) := by rw [es1]; exact put1_9 ht0
  refine pl_iinc (pc := 30) (v := nI 16) (lv' := [(2, _), (0, _), (1, _)]) dX1_put_30 rfl (by rfl) (by decide) rfl ?_
  refine pj_goto (pc := 33) (tgt := 3) dX1_put_33 (by decide) ?_
  refine pl_iload_n (pc := 3) dX1_put_3 rfl rfl ?_
  refine pj_if_lt (pc := 4) (tgt := 36) dX1_put_4 (by decide) (fun h => absurd h (by decide)) (fun _ => ?_)
  refine pl_aload_n (pc := 7) dX1_put_7 rfl rfl ?_
  refine pj_getf (pc := 8) ckX1 7 q860 dX1_put_8 (by decide) (z1.r0) rfl ?_
  refine pl_aload_n (pc := 11) dX1_put_11 rfl rfl ?_
  refine pj_getf (pc := 12) ckX1 2 q855 dX1_put_12 (by decide) (z1.r0) rfl ?_
  refine PJ.top (y := nI (t + 1)) ht1 ?_
  refine pl_iload_n (pc := 15) dX1_put_15 rfl rfl ?_
  refine pl_iload_n (pc := 16) dX1_put_16 rfl rfl ?_
  refine pj_ishr (pc := 17) dX1_put_17 ?_
  refine pj_i2b (pc := 18) dX1_put_18 rfl ?_
  refine pl_bast (pc := 19) (n := 300) dX1_put_19 (z1.r41) (by omega) (by decide) ?_
  refine sxk (z1.p41 (by omega)) (fun My3 y3 => ?_)
  refine pl_aload_n (pc := 20) dX1_put_20 rfl rfl ?_
  refine pj_dup (pc := 21) dX1_put_21 rfl ?_
  refine pj_getf (pc := 22) ckX1 2 q855 dX1_put_22 (by decide) (y3.r0) rfl ?_
  refine pl_iconst (pc := 25) (v := 1) dX1_put_25 (by rfl) ?_
  refine pj_iadd (pc := 26) dX1_put_26 ?_
  refine pj_putf (pc := 27) ckX1 2 q855 dX1_put_27 (by decide) rfl (y3.r0) rfl rfl (Nat.le_of_ble_eq_true rfl) ?_
  refine sxk (y3.p0_2) (fun My4 y4 => ?_)
  obtain ⟨σ2, es2⟩ : ∃ s9, s9 = put1 (nI 16) v σ1 := ⟨_, rfl⟩
  have z2 := SX.at9 (υ := σ2) y4 (by rw [es2, put1_eq, show tN (σ1.1 9) = t + 1 by rw [ht1]; exact tN_nI (by omega)]; first | done | rfl)
  have ht2 : σ2.1 9 = nI (t + 2) := by rw [es2]; exact put1_9 ht1
  refine pl_iinc (pc := 30) (v := nI 8) (lv' := [(2, _), (0, _), (1, _)]) dX1_put_30 rfl (by rfl) (by decide) rfl ?_
  refine pj_goto (pc := 33) (tgt := 3) dX1_put_33 (by decide) ?_
  refine pl_iload_n (pc := 3) dX1_put_3 rfl rfl ?_
  refine pj_if_lt (pc := 4) (tgt := 36) dX1_put_4 (by decide) (fun h => absurd h (by decide)) (fun _ => ?_)
  refine pl_aload_n (pc := 7) dX1_put_7 rfl rfl ?_
  refine pj_getf (pc := 8) ckX1 7 q860 dX1_put_8 (by decide) (z2.r0) rfl ?_
  refine pl_aload_n (pc := 11) dX1_put_11 rfl rfl ?_
  refine pj_getf (pc := 12) ckX1 2 q855 dX1_put_12 (by decide) (z2.r0) rfl ?_
  refine PJ.top (y := nI (t + 2)) ht2 ?_
  refine pl_iload_n (pc := 15) dX1_put_15 rfl rfl ?_
  refine pl_iload_n (pc := 16) dX1_put_16 rfl rfl ?_
  refine pj_ishr (pc := 17) dX1_put_17 ?_
  refine pj_i2b (pc := 18) dX1_put_18 rfl ?_
  refine pl_bast (pc := 19) (n := 300) dX1_put_19 (z2.r41) (by omega) (by decide) ?_
  refine sxk (z2.p41 (by omega)) (fun My5 y5 => ?_)
  refine pl_aload_n (pc := 20) dX1_put_20 rfl rfl ?_
  refine pj_dup (pc := 21) dX1_put_21 rfl ?_
  refine pj_getf (pc := 22) ckX1 2 q855 dX1_put_22 (by decide) (y5.r0) rfl ?_
  refine pl_iconst (pc := 25) (v := 1) dX1_put_25 (by rfl) ?_
  refine pj_iadd (pc := 26) dX1_put_26 ?_
  refine pj_putf (pc := 27) ckX1 2 q855 dX1_put_27 (by decide) rfl (y5.r0) rfl rfl (Nat.le_of_ble_eq_true rfl) ?_
  refine sxk (y5.p0_2) (fun My6 y6 => ?_)
  obtain ⟨σ3, es3⟩ : ∃ s9, s9 = put1 (nI 8) v σ2 := ⟨_, rfl⟩
  have z3 := SX.at9 (υ := σ3) y6 (by rw [es3, put1_eq, show tN (σ2.1 9) = t + 2 by rw [ht2]; exact tN_nI (by omega)]; first | done | rfl)
  have ht3 : σ3.1 9 = nI (t + 3) := by rw [es3]; exact put1_9 ht2
  refine pl_iinc (pc := 30) (v := nI 0) (lv' := [(2, _), (0, _), (1, _)]) dX1_put_30 rfl (by rfl) (by decide) rfl ?_
  refine pj_goto (pc := 33) (tgt := 3) dX1_put_33 (by decide) ?_
  refine pl_iload_n (pc := 3) dX1_put_3 rfl rfl ?_
  refine pj_if_lt (pc := 4) (tgt := 36) dX1_put_4 (by decide) (fun h => absurd h (by decide)) (fun _ => ?_)
  refine pl_aload_n (pc := 7) dX1_put_7 rfl rfl ?_
  refine pj_getf (pc := 8) ckX1 7 q860 dX1_put_8 (by decide) (z3.r0) rfl ?_
  refine pl_aload_n (pc := 11) dX1_put_11 rfl rfl ?_
  refine pj_getf (pc := 12) ckX1 2 q855 dX1_put_12 (by decide) (z3.r0) rfl ?_
  refine PJ.top (y := nI (t + 3)) ht3 ?_
  refine pl_iload_n (pc := 15) dX1_put_15 rfl rfl ?_
  refine pl_iload_n (pc := 16) dX1_put_16 rfl rfl ?_
  refine pj_ishr (pc := 17) dX1_put_17 ?_
  refine pj_i2b (pc := 18) dX1_put_18 rfl ?_
  refine pl_bast (pc := 19) (n := 300) dX1_put_19 (z3.r41) (by omega) (by decide) ?_
  refine sxk (z3.p41 (by omega)) (fun My7 y7 => ?_)
  refine pl_aload_n (pc := 20) dX1_put_20 rfl rfl ?_
  refine pj_dup (pc := 21) dX1_put_21 rfl ?_
  refine pj_getf (pc := 22) ckX1 2 q855 dX1_put_22 (by decide) (y7.r0) rfl ?_
  refine pl_iconst (pc := 25) (v := 1) dX1_put_25 (by rfl) ?_
  refine pj_iadd (pc := 26) dX1_put_26 ?_
  refine pj_putf (pc := 27) ckX1 2 q855 dX1_put_27 (by decide) rfl (y7.r0) rfl rfl (Nat.le_of_ble_eq_true rfl) ?_
  refine sxk (y7.p0_2) (fun My8 y8 => ?_)
  obtain ⟨σ4, es4⟩ : ∃ s9, s9 = put1 (nI 0) v σ3 := ⟨_, rfl⟩
  have z4 := SX.at9 (υ := σ4) y8 (by rw [es4, put1_eq, show tN (σ3.1 9) = t + 3 by rw [ht3]; exact tN_nI (by omega)]; first | done | rfl)
  have ht4 : σ4.1 9 = nI (t + 4) := by rw [es4]; exact put1_9 ht3
  refine pl_iinc (pc := 30) (lv' := [(2, _), (0, _), (1, _)]) dX1_put_30 rfl rfl (by decide) rfl ?_
  refine pj_goto (pc := 33) (tgt := 3) dX1_put_33 (by decide) ?_
  refine pl_iload_n (pc := 3) dX1_put_3 rfl rfl ?_
  refine pj_if_lt (pc := 4) (tgt := 36) dX1_put_4 (by decide) (fun _ => ?_) (fun h9 => absurd (by decide) h9)
  refine pj_vret (pc := 36) dX1_put_36 rfl ?_
  exact ⟨rfl, by unfold feed4; rw [← es1, ← es2, ← es3, ← es4]; exact z4⟩
set_option maxHeartbeats 600000 in
theorem x_X1_feed {g : GP} {μ : Mem} {d : Nat} {P : Nat → Prop} {F : Mem} {A : XA} {S : Nat → Nat → Nat} {b : XS} {σ : MS} {nor nw : Nat} (s : SB g P F A 0 S b σ nw μ) (iv : IvG σ (S 4 0) (S 8 0) (S 10 0) (S 6 0) nor nw) (rs : RsX σ) {tp : Nat} (htp : σ.1 9 = nI tp) (hTP : tp ≤ 300) (hd : 4 ≤ d) {va : Int32} {vb : Int32} {vc : Int32} {vd : Int32} {ve : Int32} : PM g yX1_feed (ws_ yX1_feed cX1_feed 6 (some .int)) d 1 6 [.ref (A 0 0 0), .int va, .int vb, .int vc, .int vd, .int ve] μ (CQ [] (p_feed σ va vb vc vd ve) (fun τ M => SB g P F A 0 S b τ nw M)) := by
  refine PM.of (by decide +kernel) (Nat.le_of_ble_eq_true rfl) ?_
  refine PJ.ok (fun G => ?_)
  show PJ g _ _ _ _ d 1 6 0 [(0, .ref (A 0 0 0)), (1, .int va), (2, .int vb), (3, .int vc), (4, .int vd), (5, .int ve)] [] _ _
  obtain ⟨ρ, hs0⟩ : ∃ ρ, ρ = sF σ 0 (nI 0) := ⟨_, rfl⟩
  have hs9 : s0 σ = ρ := hs0.symm
  have s1 := s.F0 (x := nI 0)
  rw [← hs0] at s1
  obtain ⟨e, h, t⟩ := s1
  have iv1 : IvG ρ (S 4 0) (S 8 0) (S 10 0) (S 6 0) nor nw := by rw [hs0]; exact iv.f0
  have rs1 : RsX ρ := by rw [hs0]; exact rs
  have h00 : ρ.1 0 = nI 0 := by rw [hs0]; rfl
  have hS4 := h.hz.2.1
  have hS6 := h.hz.2.2.1
  have hS8 := h.hz.2.2.2.1
  have hS10 := h.hz.2.2.2.2.1
  refine pl_aload_n (pc := 0) dX1_feed_0 rfl rfl ?_
  refine pj_getf (pc := 1) ckX1 2 q855 dX1_feed_1 (by decide) (h.r0) rfl ?_
  refine pl_bipush (pc := 4) (v := 20) dX1_feed_4 (by rfl) ?_
  refine pj_iadd (pc := 6) dX1_feed_6 ?_
  refine pl_sipush (pc := 7) (v := 300) dX1_feed_7 (by rfl) ?_
  refine pj_icmp_le (pc := 10) (tgt := 15) dX1_feed_10 (by decide) (fun c10 => ?_) (fun c10 => ?_)
  · have hr0 : ρ.1 9 = nI (tp + 0) := by rw [hs0]; exact htp
    have htp20 : tp + 20 ≤ 300 := by
      have z9 : nI (tp + 20) ≤ nI 300 := by rw [← nI_add]; rw [hr0] at c10; exact c10
      exact (nI_leI (by omega) (by decide)).mp z9
    refine pl_aload_n (pc := 15) dX1_feed_15 rfl rfl ?_
    refine pl_iload_n (pc := 16) dX1_feed_16 rfl rfl ?_
    refine pl_callVWv (pc := 17) (As := [_]) (C1 := 0) (N1 := 0) (C2 := 1) (N2 := 6) ckX1 mdX1_put rfl q924 q926 qs4 q125 dX1_feed_17 rfl rfl (Nat.le_of_ble_eq_true rfl) (h.r0) (x_X1_put (d := d - 1) (by omega) h (t := tp + 0) hr0 (by omega)) (by omega) (by omega) (by omega) (fun My1 y1 => ?_)
    obtain ⟨ρ1, er1⟩ : ∃ s9, s9 = feed4 va ρ := ⟨_, rfl⟩
    rw [← er1] at y1
    have hr1 : ρ1.1 9 = nI (tp + 4) := by rw [er1]; exact feed4_9 hr0
    refine pl_aload_n (pc := 20) dX1_feed_20 rfl rfl ?_
    refine pl_iload_n (pc := 21) dX1_feed_21 rfl rfl ?_
    refine pl_callVWv (pc := 22) (As := [_]) (C1 := 0) (N1 := 0) (C2 := 1) (N2 := 6) ckX1 mdX1_put rfl q924 q926 qs4 q125 dX1_feed_22 rfl rfl (Nat.le_of_ble_eq_true rfl) (y1.r0) (x_X1_put (d := d - 1) (by omega) y1 (t := tp + 4) hr1 (by omega)) (by omega) (by omega) (by omega) (fun My2 y2 => ?_)
    obtain ⟨ρ2, er2⟩ : ∃ s9, s9 = feed4 vb ρ1 := ⟨_, rfl⟩
    rw [← er2] at y2
    have hr2 : ρ2.1 9 = nI (tp + 8) := by rw [er2]; exact feed4_9 hr1
    refine pl_aload_n (pc := 25) dX1_feed_25 rfl rfl ?_
    refine pl_iload_n (pc := 26) dX1_feed_26 rfl rfl ?_
    refine pl_callVWv (pc := 27) (As := [_]) (C1 := 0) (N1 := 0) (C2 := 1) (N2 := 6) ckX1 mdX1_put rfl q924 q926 qs4 q125 dX1_feed_27 rfl rfl (Nat.le_of_ble_eq_true rfl) (y2.r0) (x_X1_put (d := d - 1) (by omega) y2 (t := tp + 8) hr2 (by omega)) (by omega) (by omega) (by omega) (fun My3 y3 => ?_)
    obtain ⟨ρ3, er3⟩ : ∃ s9, s9 = feed4 vc ρ2 := ⟨_, rfl⟩
    rw [← er3] at y3
    have hr3 : ρ3.1 9 = nI (tp + 12) := by rw [er3]; exact feed4_9 hr2
    refine pl_aload_n (pc := 30) dX1_feed_30 rfl rfl ?_
    refine pl_iload (pc := 31) dX1_feed_31 rfl ?_
    refine pl_callVWv (pc := 33) (As := [_]) (C1 := 0) (N1 := 0) (C2 := 1) (N2 := 6) ckX1 mdX1_put rfl q924 q926 qs4 q125 dX1_feed_33 rfl rfl (Nat.le_of_ble_eq_true rfl) (y3.r0) (x_X1_put (d := d - 1) (by omega) y3 (t := tp + 12) hr3 (by omega)) (by omega) (by omega) (by omega) (fun My4 y4 => ?_)
    obtain ⟨ρ4, er4⟩ : ∃ s9, s9 = feed4 vd ρ3 := ⟨_, rfl⟩
    rw [← er4] at y4
    have hr4 : ρ4.1 9 = nI (tp + 16) := by rw [er4]; exact feed4_9 hr3
    refine pl_aload_n (pc := 36) dX1_feed_36 rfl rfl ?_
    refine pl_iload (pc := 37) dX1_feed_37 rfl ?_
    refine pl_callVWv (pc := 39) (As := [_]) (C1 := 0) (N1 := 0) (C2 := 1) (N2 := 6) ckX1 mdX1_put rfl q924 q926 qs4 q125 dX1_feed_39 rfl rfl (Nat.le_of_ble_eq_true rfl) (y4.r0) (x_X1_put (d := d - 1) (by omega) y4 (t := tp + 16) hr4 (by omega)) (by omega) (by omega) (by omega) (fun My5 y5 => ?_)
    obtain ⟨ρ5, er5⟩ : ∃ s9, s9 = feed4 ve ρ4 := ⟨_, rfl⟩
    rw [← er5] at y5
    have hr5 : ρ5.1 9 = nI (tp + 20) := by rw [er5]; exact feed4_9 hr4
    refine pl_aload_n (pc := 42) dX1_feed_42 rfl rfl ?_
    refine pj_getf (pc := 43) ckX1 2 q855 dX1_feed_43 (by decide) (y5.r0) rfl ?_
    refine pj_iret (pc := 46) dX1_feed_46 rfl ?_
    have ef : feedS va vb vc vd ve ρ = ρ5 := by unfold feedS; rw [← er1, ← er2, ← er3, ← er4, ← er5]
    have kp : KpP ρ ρ5 := by rw [← ef]; exact kpP_feedS
    exact CQ.ok (τ := ρ5) (by unfold p_feed; rw [hs9, if_neg (fun z => z c10), ef]) ((kp.2.1 0 (by decide)).trans h00) ⟨_, y5, t.cg h.hz (fun j _ => congrFun (kp.1 1 (by decide)) j) (kp.1 3 (by decide)) (kp.1 4 (by decide)) (fun j _ => congrFun (kp.1 14 (by decide)) j) (kp.2.1 23 (by decide)) (kp.2.1 24 (by decide))⟩
  · refine pj_iconst (pc := 13) (v := (-1)) dX1_feed_13 (by rfl) ?_
    refine pj_iret (pc := 14) dX1_feed_14 rfl ?_
    exact CQ.ok (τ := ρ) (by first | (simp only [p_feed, hs9, ← hs0, c10, ↓reduceIte]; first | done | rfl) | (simp [p_feed, hs9, ← hs0, c10, Int32.not_lt, Int32.not_le]; first | done | rfl)) h00 ⟨_, h, t⟩
