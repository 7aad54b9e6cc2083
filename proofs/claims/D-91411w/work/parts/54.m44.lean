set_option maxRecDepth 100000
set_option maxHeartbeats 400000 in
theorem K_ands {g : GP} {μ : Mem} {ad : Nat → Nat} {σ0 : MS} {n l c : Nat} {B : Nat → Nat} (hA : Inj ad 18) (tx0 : Txt σ0 n B) (hl : σ0.1 16 = nI l) (hl2 : l < 12) {f : Nat} (H : ∀ f1, f1 ≤ f → KA g ad μ n l c σ0 B f1) : Kc g ad μ n l c σ0 B yX9_ands (ws_ yX9_ands cX9_ands 1 none) 7 4 (f + 1) := by
  intro r r1 σ d hd h hr
  have hB := tx0.2.2.2.2
  have hn3 := tx0.2.1
  have hBy := tx0.2.2.2.1
  obtain ⟨rs, hr1, hr2⟩ := thenR_of (show bindR r (fun p o => thenR (PF B n f 9 p o) (PF B n f 8)) = some r1 from hr)
  have hd1 : needd 4 r = needd 3 r + 1 := needd_s 3 r
  have hd9 : 10 + 4 ≤ d := by rcases r with e | ⟨p, o, L⟩ <;> simp only [needd] at hd <;> omega
  have hle := h.le
  have hd2 := needd_in (k := 4) (fun p o hp => PF_in hB f 9 p o (by decide) hp) hr1 (fun p o L e => (hle p o L e).1)
  have key : ∀ f1, f1 ≤ f → ∀ (rs : RP) (σ : MS), PR n l c σ0 rs σ → bindR rs (PF B n f1 8) = some r1 → needd 4 rs ≤ d → OkG g → PJ g yX9_ands.cls cX9_ands 1 (none, yX9_ands.name, []) d 0 0 4 [(0, .ref (ad 0))] [] (mm g ad μ σ) (rE g ad μ none (PR n l c σ0 r1)) := by
    intro f1
    induction f1 with
    | zero =>
      intro hf1 rs σ h hr2 hd2 G
      rcases rs with ⟨k9, w9⟩ | ⟨p, o, L⟩
      · refine pl_aload_n (pc := 4) dX9_ands_4 rfl rfl ?_
        obtain ⟨a294, v294, vr294, sc294⟩ := lit_X9_294 G
        refine pj_ldcwS (pc := 5) vr294 dX9_ands_5 ?_
        refine pl_callVB (pc := 8) (As := [_]) (C2 := 0) (N2 := 0) ckX9 mdX9_eat rfl q2882 q2884 qs85 q154 dX9_ands_8 rfl rfl (Nat.le_of_ble_eq_true rfl) (mm_o hA) (R_eat (d := d - 1) (by omega) hA tx0 hl hl2 h (ws := wAnd) sc294 (by decide) (by decide)) (by omega) (by decide) (by decide) (fun b9 σ q => ?_)
        obtain ⟨e9, h⟩ := q
        rw [e9]
        refine PJ.top (y := nI 0) rfl ?_
        refine pj_if_eq (pc := 11) (tgt := 28) dX9_ands_11 (by decide) (fun _ => ?_) (fun h => absurd h (by decide))
        refine pj_vret (pc := 28) dX9_ands_28 rfl ?_
        rw [bindR_bad hr2]
        exact ⟨rfl, σ, rfl, h⟩
      · cases (show (none : Option RP) = some r1 from hr2)
    | succ f1 ih =>
      intro hf1 rs σ h hr2 hd2 G
      rcases rs with ⟨k9, w9⟩ | ⟨p, o, L⟩
      · refine pl_aload_n (pc := 4) dX9_ands_4 rfl rfl ?_
        obtain ⟨a294, v294, vr294, sc294⟩ := lit_X9_294 G
        refine pj_ldcwS (pc := 5) vr294 dX9_ands_5 ?_
        refine pl_callVB (pc := 8) (As := [_]) (C2 := 0) (N2 := 0) ckX9 mdX9_eat rfl q2882 q2884 qs85 q154 dX9_ands_8 rfl rfl (Nat.le_of_ble_eq_true rfl) (mm_o hA) (R_eat (d := d - 1) (by omega) hA tx0 hl hl2 h (ws := wAnd) sc294 (by decide) (by decide)) (by omega) (by decide) (by decide) (fun b9 σ q => ?_)
        obtain ⟨e9, h⟩ := q
        rw [e9]
        refine PJ.top (y := nI 0) rfl ?_
        refine pj_if_eq (pc := 11) (tgt := 28) dX9_ands_11 (by decide) (fun _ => ?_) (fun h => absurd h (by decide))
        refine pj_vret (pc := 28) dX9_ands_28 rfl ?_
        rw [bindR_bad hr2]
        exact ⟨rfl, σ, rfl, h⟩
      · obtain ⟨hp, ho, hcL⟩ := h.le p o L rfl
        have hq := sk_in (B := B) hp
        refine pl_aload_n (pc := 4) dX9_ands_4 rfl rfl ?_
        obtain ⟨a294, v294, vr294, sc294⟩ := lit_X9_294 G
        refine pj_ldcwS (pc := 5) vr294 dX9_ands_5 ?_
        refine pl_callVB (pc := 8) (As := [_]) (C2 := 0) (N2 := 0) ckX9 mdX9_eat rfl q2882 q2884 qs85 q154 dX9_ands_8 rfl rfl (Nat.le_of_ble_eq_true rfl) (mm_o hA) (R_eat (d := d - 1) (by omega) hA tx0 hl hl2 h (ws := wAnd) sc294 (by decide) (by decide)) (by omega) (by decide) (by decide) (fun b9 σ q => ?_)
        obtain ⟨e9, h⟩ := q
        have e8 : eatR B n wAnd (.inr (p, o, L)) = (isW B (sk B n p) wAnd, .inr (if isW B (sk B n p) wAnd = true then sk B n p + 3 else sk B n p, o, L)) := rfl
        rw [e8] at h e9
        cases hw : isW B (sk B n p) wAnd with
        | false =>
          rw [hw] at h e9
          refine PJ.top (y := nI 0) (by rw [e9]; rfl) ?_
          refine pj_if_eq (pc := 11) (tgt := 28) dX9_ands_11 (by decide) (fun _ => ?_) (fun h => absurd h (by decide))
          refine pj_vret (pc := 28) dX9_ands_28 rfl ?_
          have e1 : r1 = .inr (sk B n p, o, L) := by
            have e2 : (PF B n (f1 + 1) 8 p o).map (appR L) = some r1 := hr2
            rw [PF_8, if_neg (by rw [hw]; decide)] at e2
            simpa [appR] using e2.symm
          subst e1
          exact ⟨rfl, σ, rfl, h⟩
        | true =>
          rw [hw] at h e9
          have h : PR n l c σ0 (.inr (sk B n p + 3, o, L)) σ := h
          refine PJ.top (y := nI 1) (by rw [e9]; rfl) ?_
          have hql : sk B n p + 3 ≤ n := (h.le _ _ _ rfl).1
          have hr3 : bindR (.inr (sk B n p + 3, o, L)) (fun p o => thenR (thenR (PF B n f1 9 p o) (emitP 9 (nI 0))) (PF B n f1 8)) = some r1 := by
            rw [← hr2]
            show _ = (PF B n (f1 + 1) 8 p o).map (appR L)
            rw [PF_8, if_pos hw]
            rfl
          obtain ⟨rs3, hs1, hs2⟩ := thenR_of hr3
          obtain ⟨rs2, hs3, hs4⟩ := thenR_of hs1
          have hroom := room_of (c := c) (L := L) (k := 1) (p := sk B n p + 3) (o := o) (f := PF B n f1 9) (PF_in hB f1 9 _ _ (by decide) (by omega)) (by omega) hs3
          refine pj_if_eq (pc := 11) (tgt := 28) dX9_ands_11 (by decide) (fun h => absurd h (by decide)) (fun _ => ?_)
          refine pl_aload_n (pc := 14) dX9_ands_14 rfl rfl ?_
          refine pl_callVEv (pc := 15) (As := []) (C2 := 0) (N2 := 0) ckX9 mdX9_test rfl q2909 q2911 qs91 q154 dX9_ands_15 rfl rfl (Nat.le_of_ble_eq_true rfl) (mm_o hA) ((H f1 (by omega)).2.2.2.2.2 (.inr (sk B n p + 3, o, L)) rs2 _ (d - 1) (by have e1 : needd 4 (.inr (sk B n p + 3, o, L)) = needd 3 (.inr (sk B n p + 3, o, L)) + 1 := needd_s 3 _; have e2 : needd 4 (.inr (sk B n p + 3, o, L)) = needd 4 (.inr (p, o, L)) := rfl; omega) h hs3) (by omega) (by decide) (by decide) (fun σ h => ?_)
          refine pl_aload_n (pc := 18) dX9_ands_18 rfl rfl ?_
          refine pl_bipush (pc := 19) (v := 9) dX9_ands_19 (by rfl) ?_
          refine pl_iconst (pc := 21) (v := 0) dX9_ands_21 (by rfl) ?_
          refine pl_callVEv (pc := 22) (As := [_, _]) (C2 := 0) (N2 := 0) ckX9 mdX9_emits rfl q2870 q2872 qs84 q154 dX9_ands_22 rfl rfl (Nat.le_of_ble_eq_true rfl) (mm_o hA) (R_emits (d := d - 1) (by omega) hn3 hA hl hl2 h (fun p1 o1 L1 e => (hroom p1 o1 L1 e).1) hs4) (by omega) (by decide) (by decide) (fun σ h => ?_)
          refine pj_goto (pc := 25) (tgt := 4) dX9_ands_25 (by decide) ?_
          exact ih (by omega) rs3 σ h hs2 (step_need (n := p) hs3 hs4 hroom hd2 hd9) G
  refine PM.of (by decide +kernel) (Nat.le_of_ble_eq_true rfl) ?_
  refine PJ.ok (fun G => ?_)
  show PJ g _ _ _ _ d 0 0 0 [(0, .ref (ad 0))] [] _ _
  refine pl_aload_n (pc := 0) dX9_ands_0 rfl rfl ?_
  refine pl_callVEv (pc := 1) (As := []) (C2 := 0) (N2 := 0) ckX9 mdX9_test rfl q2909 q2911 qs91 q154 dX9_ands_1 rfl rfl (Nat.le_of_ble_eq_true rfl) (mm_o hA) ((H f (Nat.le_refl _)).2.2.2.2.2 r rs σ (d - 1) (by omega) h hr1) (by omega) (by decide) (by decide) (fun σ h => ?_)
  exact key f (Nat.le_refl _) rs σ h hr2 (by omega) G
set_option maxHeartbeats 400000 in
theorem K_ors {g : GP} {μ : Mem} {ad : Nat → Nat} {σ0 : MS} {n l c : Nat} {B : Nat → Nat} (hA : Inj ad 18) (tx0 : Txt σ0 n B) (hl : σ0.1 16 = nI l) (hl2 : l < 12) {f : Nat} (H : ∀ f1, f1 ≤ f → KA g ad μ n l c σ0 B f1) : Kc g ad μ n l c σ0 B yX9_ors (ws_ yX9_ors cX9_ors 1 none) 5 5 (f + 1) := by
  intro r r1 σ d hd h hr
  have hB := tx0.2.2.2.2
  have hn3 := tx0.2.1
  have hBy := tx0.2.2.2.1
  obtain ⟨rs, hr1, hr2⟩ := thenR_of (show bindR r (fun p o => thenR (PF B n f 7 p o) (PF B n f 6)) = some r1 from hr)
  have hd1 : needd 5 r = needd 4 r + 1 := needd_s 4 r
  have hd9 : 10 + 5 ≤ d := by rcases r with e | ⟨p, o, L⟩ <;> simp only [needd] at hd <;> omega
  have hle := h.le
  have hd2 := needd_in (k := 5) (fun p o hp => PF_in hB f 7 p o (by decide) hp) hr1 (fun p o L e => (hle p o L e).1)
  have key : ∀ f1, f1 ≤ f → ∀ (rs : RP) (σ : MS), PR n l c σ0 rs σ → bindR rs (PF B n f1 6) = some r1 → needd 5 rs ≤ d → OkG g → PJ g yX9_ors.cls cX9_ors 1 (none, yX9_ors.name, []) d 0 0 4 [(0, .ref (ad 0))] [] (mm g ad μ σ) (rE g ad μ none (PR n l c σ0 r1)) := by
    intro f1
    induction f1 with
    | zero =>
      intro hf1 rs σ h hr2 hd2 G
      rcases rs with ⟨k9, w9⟩ | ⟨p, o, L⟩
      · refine pl_aload_n (pc := 4) dX9_ors_4 rfl rfl ?_
        obtain ⟨a289, v289, vr289, sc289⟩ := lit_X9_289 G
        refine pj_ldcwS (pc := 5) vr289 dX9_ors_5 ?_
        refine pl_callVB (pc := 8) (As := [_]) (C2 := 0) (N2 := 0) ckX9 mdX9_eat rfl q2882 q2884 qs85 q154 dX9_ors_8 rfl rfl (Nat.le_of_ble_eq_true rfl) (mm_o hA) (R_eat (d := d - 1) (by omega) hA tx0 hl hl2 h (ws := wOr) sc289 (by decide) (by decide)) (by omega) (by decide) (by decide) (fun b9 σ q => ?_)
        obtain ⟨e9, h⟩ := q
        rw [e9]
        refine PJ.top (y := nI 0) rfl ?_
        refine pj_if_eq (pc := 11) (tgt := 28) dX9_ors_11 (by decide) (fun _ => ?_) (fun h => absurd h (by decide))
        refine pj_vret (pc := 28) dX9_ors_28 rfl ?_
        rw [bindR_bad hr2]
        exact ⟨rfl, σ, rfl, h⟩
      · cases (show (none : Option RP) = some r1 from hr2)
    | succ f1 ih =>
      intro hf1 rs σ h hr2 hd2 G
      rcases rs with ⟨k9, w9⟩ | ⟨p, o, L⟩
      · refine pl_aload_n (pc := 4) dX9_ors_4 rfl rfl ?_
        obtain ⟨a289, v289, vr289, sc289⟩ := lit_X9_289 G
        refine pj_ldcwS (pc := 5) vr289 dX9_ors_5 ?_
        refine pl_callVB (pc := 8) (As := [_]) (C2 := 0) (N2 := 0) ckX9 mdX9_eat rfl q2882 q2884 qs85 q154 dX9_ors_8 rfl rfl (Nat.le_of_ble_eq_true rfl) (mm_o hA) (R_eat (d := d - 1) (by omega) hA tx0 hl hl2 h (ws := wOr) sc289 (by decide) (by decide)) (by omega) (by decide) (by decide) (fun b9 σ q => ?_)
        obtain ⟨e9, h⟩ := q
        rw [e9]
        refine PJ.top (y := nI 0) rfl ?_
        refine pj_if_eq (pc := 11) (tgt := 28) dX9_ors_11 (by decide) (fun _ => ?_) (fun h => absurd h (by decide))
        refine pj_vret (pc := 28) dX9_ors_28 rfl ?_
        rw [bindR_bad hr2]
        exact ⟨rfl, σ, rfl, h⟩
      · obtain ⟨hp, ho, hcL⟩ := h.le p o L rfl
        have hq := sk_in (B := B) hp
        refine pl_aload_n (pc := 4) dX9_ors_4 rfl rfl ?_
        obtain ⟨a289, v289, vr289, sc289⟩ := lit_X9_289 G
        refine pj_ldcwS (pc := 5) vr289 dX9_ors_5 ?_
        refine pl_callVB (pc := 8) (As := [_]) (C2 := 0) (N2 := 0) ckX9 mdX9_eat rfl q2882 q2884 qs85 q154 dX9_ors_8 rfl rfl (Nat.le_of_ble_eq_true rfl) (mm_o hA) (R_eat (d := d - 1) (by omega) hA tx0 hl hl2 h (ws := wOr) sc289 (by decide) (by decide)) (by omega) (by decide) (by decide) (fun b9 σ q => ?_)
        obtain ⟨e9, h⟩ := q
        have e8 : eatR B n wOr (.inr (p, o, L)) = (isW B (sk B n p) wOr, .inr (if isW B (sk B n p) wOr = true then sk B n p + 2 else sk B n p, o, L)) := rfl
        rw [e8] at h e9
        cases hw : isW B (sk B n p) wOr with
        | false =>
          rw [hw] at h e9
          refine PJ.top (y := nI 0) (by rw [e9]; rfl) ?_
          refine pj_if_eq (pc := 11) (tgt := 28) dX9_ors_11 (by decide) (fun _ => ?_) (fun h => absurd h (by decide))
          refine pj_vret (pc := 28) dX9_ors_28 rfl ?_
          have e1 : r1 = .inr (sk B n p, o, L) := by
            have e2 : (PF B n (f1 + 1) 6 p o).map (appR L) = some r1 := hr2
            rw [PF_6, if_neg (by rw [hw]; decide)] at e2
            simpa [appR] using e2.symm
          subst e1
          exact ⟨rfl, σ, rfl, h⟩
        | true =>
          rw [hw] at h e9
          have h : PR n l c σ0 (.inr (sk B n p + 2, o, L)) σ := h
          refine PJ.top (y := nI 1) (by rw [e9]; rfl) ?_
          have hql : sk B n p + 2 ≤ n := (h.le _ _ _ rfl).1
          have hr3 : bindR (.inr (sk B n p + 2, o, L)) (fun p o => thenR (thenR (PF B n f1 7 p o) (emitP 10 (nI 0))) (PF B n f1 6)) = some r1 := by
            rw [← hr2]
            show _ = (PF B n (f1 + 1) 6 p o).map (appR L)
            rw [PF_6, if_pos hw]
            rfl
          obtain ⟨rs3, hs1, hs2⟩ := thenR_of hr3
          obtain ⟨rs2, hs3, hs4⟩ := thenR_of hs1
          have hroom := room_of (c := c) (L := L) (k := 1) (p := sk B n p + 2) (o := o) (f := PF B n f1 7) (PF_in hB f1 7 _ _ (by decide) (by omega)) (by omega) hs3
          refine pj_if_eq (pc := 11) (tgt := 28) dX9_ors_11 (by decide) (fun h => absurd h (by decide)) (fun _ => ?_)
          refine pl_aload_n (pc := 14) dX9_ors_14 rfl rfl ?_
          refine pl_callVEv (pc := 15) (As := []) (C2 := 0) (N2 := 0) ckX9 mdX9_ands rfl q2905 q2907 qs90 q154 dX9_ors_15 rfl rfl (Nat.le_of_ble_eq_true rfl) (mm_o hA) ((H f1 (by omega)).2.2.2.2.1 (.inr (sk B n p + 2, o, L)) rs2 _ (d - 1) (by have e1 : needd 5 (.inr (sk B n p + 2, o, L)) = needd 4 (.inr (sk B n p + 2, o, L)) + 1 := needd_s 4 _; have e2 : needd 5 (.inr (sk B n p + 2, o, L)) = needd 5 (.inr (p, o, L)) := rfl; omega) h hs3) (by omega) (by decide) (by decide) (fun σ h => ?_)
          refine pl_aload_n (pc := 18) dX9_ors_18 rfl rfl ?_
          refine pl_bipush (pc := 19) (v := 10) dX9_ors_19 (by rfl) ?_
          refine pl_iconst (pc := 21) (v := 0) dX9_ors_21 (by rfl) ?_
          refine pl_callVEv (pc := 22) (As := [_, _]) (C2 := 0) (N2 := 0) ckX9 mdX9_emits rfl q2870 q2872 qs84 q154 dX9_ors_22 rfl rfl (Nat.le_of_ble_eq_true rfl) (mm_o hA) (R_emits (d := d - 1) (by omega) hn3 hA hl hl2 h (fun p1 o1 L1 e => (hroom p1 o1 L1 e).1) hs4) (by omega) (by decide) (by decide) (fun σ h => ?_)
          refine pj_goto (pc := 25) (tgt := 4) dX9_ors_25 (by decide) ?_
          exact ih (by omega) rs3 σ h hs2 (step_need (n := p) hs3 hs4 hroom hd2 hd9) G
  refine PM.of (by decide +kernel) (Nat.le_of_ble_eq_true rfl) ?_
  refine PJ.ok (fun G => ?_)
  show PJ g _ _ _ _ d 0 0 0 [(0, .ref (ad 0))] [] _ _
  refine pl_aload_n (pc := 0) dX9_ors_0 rfl rfl ?_
  refine pl_callVEv (pc := 1) (As := []) (C2 := 0) (N2 := 0) ckX9 mdX9_ands rfl q2905 q2907 qs90 q154 dX9_ors_1 rfl rfl (Nat.le_of_ble_eq_true rfl) (mm_o hA) ((H f (Nat.le_refl _)).2.2.2.2.1 r rs σ (d - 1) (by omega) h hr1) (by omega) (by decide) (by decide) (fun σ h => ?_)
  exact key f (Nat.le_refl _) rs σ h hr2 (by omega) G
