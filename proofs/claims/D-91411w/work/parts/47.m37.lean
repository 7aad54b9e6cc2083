set_option maxRecDepth 100000
theorem PM.toE {g : GP} {y : MethodName} {ws : List Cond} {d C N : Nat} {av : List Value} {ad : Nat → Nat} {μ M : Mem} {v : Option Value} {σ : MS} {P : MS → Prop} (k : PM g y ws d C N av M (rQ v (mm g ad μ σ))) (h : P σ) : PM g y ws d C N av M (rE g ad μ v P) := k.post (fun o M1 q => ⟨q.1, σ, q.2, h⟩)
theorem isW_in {B : Nat → Nat} {n q : Nat} {w : List Nat} (h : isW B q w = true) (hw : ∀ x ∈ w, 0 < x) (hB : ∀ k, n ≤ k → B k = 0) (hq : q ≤ n) : q + w.length ≤ n := by
  rcases Nat.eq_zero_or_pos w.length with e | e
  · omega
  · unfold isW at h
    simp only [Bool.and_eq_true, Bool.not_eq_true'] at h
    have h1 := h.1
    rcases Nat.lt_or_ge (q + (w.length - 1)) n with z | z
    · omega
    · exfalso
      have h2 : anyN (fun i => !decide (B (q + i) = w.getD i 0)) w.length = true := anyN_hit (i := w.length - 1) (by omega) (by
        show (!decide (B (q + (w.length - 1)) = w.getD (w.length - 1) 0)) = true
        rw [hB _ z, decide_eq_false]
        · rfl
        · have := hw _ (getD_in (bs := w) (j := w.length - 1) (by omega))
          omega)
      rw [h1] at h2
      cases h2
set_option maxHeartbeats 600000 in
theorem b_X9_sign {g : GP} {ad : Nat → Nat} {μ : Mem} {σ : MS} {d : Nat} {ch : Int32} {k9 : Nat} (hd : 3 ≤ d) (hA : Inj ad 18) (hb : σ.1 12 = nI k9) (h0 : 0 < k9) (h4 : k9 < 4) : PM g yX9_sign (ws_ yX9_sign cX9_sign 2 none) d 0 0 [.ref (ad 0), .int ch] (mm g ad μ σ) (rQ none (mm g ad μ (σ))) := by
  refine PM.of (by decide +kernel) (Nat.le_of_ble_eq_true rfl) ?_
  show PJ g _ _ _ _ d 0 0 0 [(0, .ref (ad 0)), (1, .int ch)] [] _ _
  refine pl_aload_n (pc := 0) dX9_sign_0 rfl rfl ?_
  refine pj_getf (pc := 1) ckX9 12 q2528 dX9_sign_1 (by decide) (mm_o hA) rfl ?_
  refine PJ.top (y := nI _) (hb) ?_
  refine pl_if_leN (pc := 4) (tgt := 8) dX9_sign_4 (by decide) (by omega) (fun c4 => ?_) (fun c4 => ?_)
  · exact absurd c4 (by omega)
  · refine pj_vret (pc := 7) dX9_sign_7 rfl ?_
    exact ⟨rfl, rfl⟩
set_option maxHeartbeats 600000 in
theorem b_X9_emits {g : GP} {ad : Nat → Nat} {μ : Mem} {σ : MS} {d : Nat} {k : Int32} {v : Int32} {k9 : Nat} (hd : 1 ≤ d) (hA : Inj ad 18) (hb : σ.1 12 = nI k9) (h0 : 0 < k9) (h4 : k9 < 4) : PM g yX9_emits (ws_ yX9_emits cX9_emits 3 none) d 0 0 [.ref (ad 0), .int k, .int v] (mm g ad μ σ) (rQ none (mm g ad μ (σ))) := by
  refine PM.of (by decide +kernel) (Nat.le_of_ble_eq_true rfl) ?_
  show PJ g _ _ _ _ d 0 0 0 [(0, .ref (ad 0)), (1, .int k), (2, .int v)] [] _ _
  refine pl_aload_n (pc := 0) dX9_emits_0 rfl rfl ?_
  refine pj_getf (pc := 1) ckX9 12 q2528 dX9_emits_1 (by decide) (mm_o hA) rfl ?_
  refine PJ.top (y := nI _) (hb) ?_
  refine pl_if_leN (pc := 4) (tgt := 8) dX9_emits_4 (by decide) (by omega) (fun c4 => ?_) (fun c4 => ?_)
  · exact absurd c4 (by omega)
  · refine pj_vret (pc := 7) dX9_emits_7 rfl ?_
    exact ⟨rfl, rfl⟩
set_option maxHeartbeats 600000 in
theorem b_X9_bracket {g : GP} {ad : Nat → Nat} {μ : Mem} {σ : MS} {d : Nat}  {k9 : Nat} (hd : 3 ≤ d) (hA : Inj ad 18) (hb : σ.1 12 = nI k9) (h0 : 0 < k9) (h4 : k9 < 4) : PM g yX9_bracket (ws_ yX9_bracket cX9_bracket 1 none) d 0 0 [.ref (ad 0)] (mm g ad μ σ) (rQ none (mm g ad μ (σ))) := by
  refine PM.of (by decide +kernel) (Nat.le_of_ble_eq_true rfl) ?_
  show PJ g _ _ _ _ d 0 0 0 [(0, .ref (ad 0))] [] _ _
  refine pl_aload_n (pc := 0) dX9_bracket_0 rfl rfl ?_
  refine pj_getf (pc := 1) ckX9 12 q2528 dX9_bracket_1 (by decide) (mm_o hA) rfl ?_
  refine PJ.top (y := nI _) (hb) ?_
  refine pl_if_leN (pc := 4) (tgt := 8) dX9_bracket_4 (by decide) (by omega) (fun c4 => ?_) (fun c4 => ?_)
  · exact absurd c4 (by omega)
  · refine pj_vret (pc := 7) dX9_bracket_7 rfl ?_
    exact ⟨rfl, rfl⟩
set_option maxHeartbeats 600000 in
theorem o_X9_sign {g : GP} {μ : Mem} {d : Nat} (hd : 3 ≤ d) {ad : Nat → Nat} {σ0 σ : MS} {n l c : Nat} {B : Nat → Nat} (hA : Inj ad 18) (tx0 : Txt σ0 n B) (hl : σ0.1 16 = nI l) (hl2 : l < 12) {p o : Nat} {L : List Cd} {r1 : RP} (h : PR n l c σ0 (.inr (p, o, L)) σ) {ch : Nat} (hch : ch < 256) (hr : bindR (.inr (p, o, L)) (signP B n ch) = some r1) : PM g yX9_sign (ws_ yX9_sign cX9_sign 2 none) d 0 0 [.ref (ad 0), .int (nI ch)] (mm g ad μ σ) (rE g ad μ none (PR n l c σ0 r1)) := by
  refine PM.of (by decide +kernel) (Nat.le_of_ble_eq_true rfl) ?_
  refine PJ.ok (fun G => ?_)
  show PJ g _ _ _ _ d 0 0 0 [(0, .ref (ad 0)), (1, .int (nI ch))] [] _ _
  have tx := tx0.of h.1
  have hn3 := tx.2.1
  obtain ⟨-, a1, a2, a3, h4, h5, h6, h7, h8, -⟩ := id h
  have hq := sk_in (B := B) a1
  have hB := tx.2.2.2.1
  have hBq := hB (sk B n p)
  refine pl_aload_n (pc := 0) dX9_sign_0 rfl rfl ?_
  refine pj_getf (pc := 1) ckX9 12 q2528 dX9_sign_1 (by decide) (mm_o hA) rfl ?_
  refine PJ.top (y := nI _) (h5) ?_
  refine pl_if_leN (pc := 4) (tgt := 8) dX9_sign_4 (by decide) (by omega) (fun c4 => ?_) (fun c4 => ?_)
  · refine pl_aload_n (pc := 8) dX9_sign_8 rfl rfl ?_
    refine pl_callVv (pc := 9) (As := []) (C2 := 0) (N2 := 0) ckX9 mdX9_blanks rfl q2804 q2806 qs72 q154 dX9_sign_9 rfl rfl (Nat.le_of_ble_eq_true rfl) (mm_o hA) (w_X9_blanks (d := d - 1) (by omega) hA tx h4 (by omega)) (by omega) (by decide) (by decide) ?_
    refine pl_aload_n (pc := 12) dX9_sign_12 rfl rfl ?_
    refine pj_getf (pc := 13) ckX9 11 q2527 dX9_sign_13 (by decide) (mm_o hA) rfl ?_
    refine PJ.top (y := nI _) (rfl) ?_
    refine pl_aload_n (pc := 16) dX9_sign_16 rfl rfl ?_
    refine pj_getf (pc := 17) ckX9 10 q2526 dX9_sign_17 (by decide) (mm_o hA) rfl ?_
    refine PJ.top (y := nI _) ((tx.F (by decide)).1) ?_
    refine pl_icmp_ge (pc := 20) (tgt := 48) dX9_sign_20 (by decide) (by omega) (by omega) (fun c20 => ?_) (fun c20 => ?_)
    · refine pl_aload_n (pc := 48) dX9_sign_48 rfl rfl ?_
      refine pl_iconst (pc := 49) (v := 1) dX9_sign_49 (by rfl) ?_
      refine pl_aload_n (pc := 50) dX9_sign_50 rfl rfl ?_
      refine pj_getf (pc := 51) ckX9 11 q2527 dX9_sign_51 (by decide) (mm_o hA) rfl ?_
      refine PJ.top (y := nI _) (rfl) ?_
      refine pl_callVv (pc := 54) (As := [_, _]) (C2 := 0) (N2 := 0) ckX9 mdX9_wrong rfl q2838 q2840 qs77 q154 dX9_sign_54 rfl rfl (Nat.le_of_ble_eq_true rfl) (mm_o hA) (w_X9_wrong (d := d - 1) (by omega) hA) (by omega) (by decide) (by decide) ?_
      refine pj_vret (pc := 57) dX9_sign_57 rfl ?_
      have e1 : r1 = .inl (1, sk B n p) := by
        have e9 : ¬ (sk B n p < n ∧ B (sk B n p) = ch) := by omega
        simpa [bindR, signP, appR, e9] using hr.symm
      subst e1
      exact ⟨rfl, _, rfl, (h.at hq.1 hq.2).bad (by decide) (by decide)⟩
    · refine pl_aload_n (pc := 23) dX9_sign_23 rfl rfl ?_
      refine pl_aload_n (pc := 24) dX9_sign_24 rfl rfl ?_
      refine pj_getf (pc := 25) ckX9 11 q2527 dX9_sign_25 (by decide) (mm_o hA) rfl ?_
      refine PJ.top (y := nI _) (rfl) ?_
      refine pl_callVd (pc := 28) (As := [_]) (C2 := 0) (N2 := 0) ckX9 mdX9_byteAt rfl q2808 q2810 qs73 q154 dX9_sign_28 rfl rfl (Nat.le_of_ble_eq_true rfl) (mm_o hA) (w_X9_byteAt (d := d - 1) (by omega) hA (tx.F (by decide)) (by omega)) (by omega) (by decide) (by decide) ?_
      refine pl_iload_n (pc := 31) dX9_sign_31 rfl rfl ?_
      refine pl_icmp_ne (pc := 32) (tgt := 48) dX9_sign_32 (by decide) (by omega) (by omega) (fun c32 => ?_) (fun c32 => ?_)
      · refine pl_aload_n (pc := 48) dX9_sign_48 rfl rfl ?_
        refine pl_iconst (pc := 49) (v := 1) dX9_sign_49 (by rfl) ?_
        refine pl_aload_n (pc := 50) dX9_sign_50 rfl rfl ?_
        refine pj_getf (pc := 51) ckX9 11 q2527 dX9_sign_51 (by decide) (mm_o hA) rfl ?_
        refine PJ.top (y := nI _) (rfl) ?_
        refine pl_callVv (pc := 54) (As := [_, _]) (C2 := 0) (N2 := 0) ckX9 mdX9_wrong rfl q2838 q2840 qs77 q154 dX9_sign_54 rfl rfl (Nat.le_of_ble_eq_true rfl) (mm_o hA) (w_X9_wrong (d := d - 1) (by omega) hA) (by omega) (by decide) (by decide) ?_
        refine pj_vret (pc := 57) dX9_sign_57 rfl ?_
        have e1 : r1 = .inl (1, sk B n p) := by
          have e9 : ¬ (sk B n p < n ∧ B (sk B n p) = ch) := by omega
          simpa [bindR, signP, appR, e9] using hr.symm
        subst e1
        exact ⟨rfl, _, rfl, (h.at hq.1 hq.2).bad (by decide) (by decide)⟩
      · refine pl_aload_n (pc := 35) dX9_sign_35 rfl rfl ?_
        refine pj_dup (pc := 36) dX9_sign_36 rfl ?_
        refine pj_getf (pc := 37) ckX9 11 q2527 dX9_sign_37 (by decide) (mm_o hA) rfl ?_
        refine PJ.top (y := nI _) (rfl) ?_
        refine pl_iconst (pc := 40) (v := 1) dX9_sign_40 (by rfl) ?_
        refine pl_iadd (pc := 41) dX9_sign_41 ?_
        refine pm_putI (pc := 42) 11 hA q2527 dX9_sign_42 (by decide) rfl (by rfl) (by rfl) rfl ?_
        refine pj_goto (pc := 45) (tgt := 57) dX9_sign_45 (by decide) ?_
        refine pj_vret (pc := 57) dX9_sign_57 rfl ?_
        have e1 : r1 = .inr (sk B n p + 1, o, L) := by simpa [bindR, signP, appR, c20, c32] using hr.symm
        subst e1
        exact ⟨rfl, _, rfl, (h.at hq.1 hq.2).at (by omega) (by omega)⟩
  · exact absurd c4 (by omega)
set_option maxHeartbeats 600000 in
theorem o_X9_opens {g : GP} {μ : Mem} {d : Nat} (hd : 2 ≤ d) {ad : Nat → Nat} {σ0 σ : MS} {n l c : Nat} {B : Nat → Nat} (hA : Inj ad 18) (tx0 : Txt σ0 n B) (hl : σ0.1 16 = nI l) (hl2 : l < 12) {p o : Nat} {L : List Cd} {r1 : RP} (h : PR n l c σ0 (.inr (p, o, L)) σ) {b : Nat} (hpb : p + b ≤ n) (hr : bindR (.inr (p, o, L)) (opensP b) = some r1) : PM g yX9_opens (ws_ yX9_opens cX9_opens 2 none) d 0 0 [.ref (ad 0), .int (nI b)] (mm g ad μ σ) (rE g ad μ none (PR n l c σ0 r1)) := by
  refine PM.of (by decide +kernel) (Nat.le_of_ble_eq_true rfl) ?_
  refine PJ.ok (fun G => ?_)
  show PJ g _ _ _ _ d 0 0 0 [(0, .ref (ad 0)), (1, .int (nI b))] [] _ _
  have tx := tx0.of h.1
  have hn3 := tx.2.1
  obtain ⟨-, a1, a2, a3, h4, h5, h6, h7, h8, -⟩ := id h
  have hq := sk_in (B := B) a1
  have hB := tx.2.2.2.1
  refine pl_aload_n (pc := 0) dX9_opens_0 rfl rfl ?_
  refine pj_getf (pc := 1) ckX9 14 q2530 dX9_opens_1 (by decide) (mm_o hA) rfl ?_
  refine PJ.top (y := nI o) h7 ?_
  refine pl_bipush (pc := 4) (v := 8) dX9_opens_4 (by rfl) ?_
  refine pl_icmp_ne (pc := 6) (tgt := 18) dX9_opens_6 (by decide) (by omega) (by omega) (fun c6 => ?_) (fun c6 => ?_)
  · refine pl_aload_n (pc := 18) dX9_opens_18 rfl rfl ?_
    refine pj_dup (pc := 19) dX9_opens_19 rfl ?_
    refine pj_getf (pc := 20) ckX9 14 q2530 dX9_opens_20 (by decide) (mm_o hA) rfl ?_
    refine PJ.top (y := nI o) (h7) ?_
    refine pl_iconst (pc := 23) (v := 1) dX9_opens_23 (by rfl) ?_
    refine pl_iadd (pc := 24) dX9_opens_24 ?_
    refine pm_putI (pc := 25) 14 hA q2530 dX9_opens_25 (by decide) rfl (by rfl) (by rfl) rfl ?_
    refine pl_aload_n (pc := 28) dX9_opens_28 rfl rfl ?_
    refine pj_dup (pc := 29) dX9_opens_29 rfl ?_
    refine pj_getf (pc := 30) ckX9 11 q2527 dX9_opens_30 (by decide) (mm_o hA) rfl ?_
    refine PJ.top (y := nI p) ((sF_ne (by decide)).trans h4) ?_
    refine pl_iload_n (pc := 33) dX9_opens_33 rfl rfl ?_
    refine pl_iadd (pc := 34) dX9_opens_34 ?_
    refine pm_putI (pc := 35) 11 hA q2527 dX9_opens_35 (by decide) rfl (by rfl) (by rfl) rfl ?_
    refine pj_vret (pc := 38) dX9_opens_38 rfl ?_
    have e1 : r1 = .inr (p + b, o + 1, L) := by simpa [bindR, opensP, appR, c6] using hr.symm
    subst e1
    exact ⟨rfl, _, rfl, (h.op (by omega)).at (by omega) hpb⟩
  · refine pl_aload_n (pc := 9) dX9_opens_9 rfl rfl ?_
    refine pl_iconst (pc := 10) (v := 3) dX9_opens_10 (by rfl) ?_
    refine pl_aload_n (pc := 11) dX9_opens_11 rfl rfl ?_
    refine pj_getf (pc := 12) ckX9 11 q2527 dX9_opens_12 (by decide) (mm_o hA) rfl ?_
    refine PJ.top (y := nI p) h4 ?_
    refine pl_callVv (pc := 15) (As := [_, _]) (C2 := 0) (N2 := 0) ckX9 mdX9_wrong rfl q2838 q2840 qs77 q154 dX9_opens_15 rfl rfl (Nat.le_of_ble_eq_true rfl) (mm_o hA) (w_X9_wrong (d := d - 1) (by omega) hA) (by omega) (by decide) (by decide) ?_
    refine pl_aload_n (pc := 18) dX9_opens_18 rfl rfl ?_
    refine pj_dup (pc := 19) dX9_opens_19 rfl ?_
    refine pj_getf (pc := 20) ckX9 14 q2530 dX9_opens_20 (by decide) (mm_o hA) rfl ?_
    refine PJ.top (y := nI o) ((show (wrS σ _ _).1 14 = nI o by unfold wrS; split <;> first | exact h7 | exact (sF_ne (by decide)).trans ((sF_ne (by decide)).trans h7))) ?_
    refine pl_iconst (pc := 23) (v := 1) dX9_opens_23 (by rfl) ?_
    refine pl_iadd (pc := 24) dX9_opens_24 ?_
    refine pm_putI (pc := 25) 14 hA q2530 dX9_opens_25 (by decide) rfl (by rfl) (by rfl) rfl ?_
    refine pl_aload_n (pc := 28) dX9_opens_28 rfl rfl ?_
    refine pj_dup (pc := 29) dX9_opens_29 rfl ?_
    refine pj_getf (pc := 30) ckX9 11 q2527 dX9_opens_30 (by decide) (mm_o hA) rfl ?_
    refine PJ.top (y := nI p) ((sF_ne (by decide)).trans (show (wrS σ _ _).1 11 = nI p by unfold wrS; split <;> first | exact h4 | exact (sF_ne (by decide)).trans ((sF_ne (by decide)).trans h4))) ?_
    refine pl_iload_n (pc := 33) dX9_opens_33 rfl rfl ?_
    refine pl_iadd (pc := 34) dX9_opens_34 ?_
    refine pm_putI (pc := 35) 11 hA q2527 dX9_opens_35 (by decide) rfl (by rfl) (by rfl) rfl ?_
    refine pj_vret (pc := 38) dX9_opens_38 rfl ?_
    have e1 : r1 = .inl (3, p) := by simpa [bindR, opensP, appR, c6] using hr.symm
    subst e1
    refine ⟨rfl, _, rfl, ?_⟩
    exact ((h.bad (w := p) (k := 3) (by decide) (by decide)).badF (Or.inl rfl)).badP (by omega)
