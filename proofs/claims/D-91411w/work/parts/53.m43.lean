set_option maxRecDepth 100000
theorem needd_s (k : Nat) (r : RP) : needd (k + 1) r = needd k r + 1 := by
  rcases r with e | ⟨p, o, L⟩ <;> rfl
theorem needd_lt {k o p p2 : Nat} {L L2 : List Cd} : needd k (.inr (p, o, L)) = needd k (.inr (p2, o, L2)) := rfl
theorem step_need {rank n c d p o k op : Nat} {L : List Cd} {v : Int32} {rs2 rs3 : RP} {f : Nat → Nat → Option RP} (hs3 : bindR (.inr (p, o, L)) f = some rs2) (hs4 : bindR rs2 (emitP op v) = some rs3) (hroom : ∀ p1 o1 L1, rs2 = .inr (p1, o1, L1) → c + L1.length + k ≤ p1 ∧ o1 = o) (hd2 : needd rank (.inr (n, o, L)) ≤ d) (hd9 : 10 + rank ≤ d) : needd rank rs3 ≤ d := by
  rcases rs2 with e | ⟨p1, o1, L1⟩
  · rw [bindR_bad hs4]; exact hd9
  · obtain ⟨-, e⟩ := hroom p1 o1 L1 rfl
    subst e
    cases hs4
    exact hd2
theorem step_le {n c o op : Nat} {v : Int32} {rs2 rs3 : RP} (hs4 : bindR rs2 (emitP op v) = some rs3) (hroom : ∀ p1 o1 L1, rs2 = .inr (p1, o1, L1) → c + L1.length + 1 ≤ p1 ∧ o1 = o) (h2 : ∀ p1 o1 L1, rs2 = .inr (p1, o1, L1) → p1 ≤ n ∧ o1 ≤ 8) : ∀ p1 o1 L1, rs3 = .inr (p1, o1, L1) → p1 ≤ n ∧ o1 ≤ 8 ∧ c + L1.length ≤ p1 := by
  intro p1 o1 L1 e
  subst e
  rcases rs2 with e | ⟨p2, o2, L2⟩
  · have := bindR_bad hs4; cases this
  · cases hs4
    obtain ⟨a, b⟩ := h2 _ _ _ rfl
    obtain ⟨x, -⟩ := hroom _ _ _ rfl
    exact ⟨a, b, by simp; omega⟩
set_option maxHeartbeats 400000 in
theorem K_sum {g : GP} {μ : Mem} {ad : Nat → Nat} {σ0 : MS} {n l c : Nat} {B : Nat → Nat} (hA : Inj ad 18) (tx0 : Txt σ0 n B) (hl : σ0.1 16 = nI l) (hl2 : l < 12) {f : Nat} (H : ∀ f1, f1 ≤ f → KA g ad μ n l c σ0 B f1) : Kc g ad μ n l c σ0 B yX9_sum (ws_ yX9_sum cX9_sum 2 none) 0 2 (f + 1) := by
  intro r r1 σ d hd h hr
  have hB := tx0.2.2.2.2
  have hn3 := tx0.2.1
  have hBy := tx0.2.2.2.1
  obtain ⟨rs, hr1, hr2⟩ := thenR_of (show bindR r (fun p o => thenR (PF B n f 2 p o) (PF B n f 1)) = some r1 from hr)
  have hd1 : needd 2 r = needd 1 r + 1 := needd_s 1 r
  have hd9 : 10 + 2 ≤ d := by rcases r with e | ⟨p, o, L⟩ <;> simp only [needd] at hd <;> omega
  have hle := h.le
  have hd2 := needd_in (k := 2) (fun p o hp => PF_in hB f 2 p o (by decide) hp) hr1 (fun p o L e => (hle p o L e).1)
  have key : ∀ f1, f1 ≤ f → ∀ (rs : RP) (σ : MS), PR n l c σ0 (skR B n rs) σ → bindR rs (PF B n f1 1) = some r1 → needd 2 rs ≤ d → (∀ p o L, rs = .inr (p, o, L) → p ≤ n ∧ o ≤ 8 ∧ c + L.length ≤ p) → PJ g yX9_sum.cls cX9_sum 2 (none, yX9_sum.name, []) d 0 0 8 [(0, .ref (ad 0))] [] (mm g ad μ σ) (rE g ad μ none (PR n l c σ0 r1)) := by
    intro f1
    induction f1 with
    | zero =>
      intro hf1 rs σ h hr2 hd2 hrs
      rcases rs with ⟨k9, w9⟩ | ⟨p, o, L⟩
      · have hk9 := h.2.2.1
        refine pl_aload_n (pc := 8) dX9_sum_8 rfl rfl ?_
        refine pj_getf (pc := 9) ckX9 12 q2528 dX9_sum_9 (by decide) (mm_o hA) rfl ?_
        refine PJ.top (y := nI k9) h.2.2.2.1 ?_
        refine pl_if_neN (pc := 12) (tgt := 87) dX9_sum_12 (by decide) (by omega) (fun c12 => ?_) (fun c12 => ?_)
        · refine pj_vret (pc := 87) dX9_sum_87 rfl ?_
          rw [bindR_bad hr2]
          exact ⟨rfl, σ, rfl, h⟩
        · exact absurd c12 (by have := h.2.1; omega)
      · cases (show (none : Option RP) = some r1 from hr2)
    | succ f1 ih =>
      intro hf1 rs σ h hr2 hd2 hrs
      rcases rs with ⟨k9, w9⟩ | ⟨p, o, L⟩
      · have hk9 := h.2.2.1
        refine pl_aload_n (pc := 8) dX9_sum_8 rfl rfl ?_
        refine pj_getf (pc := 9) ckX9 12 q2528 dX9_sum_9 (by decide) (mm_o hA) rfl ?_
        refine PJ.top (y := nI k9) h.2.2.2.1 ?_
        refine pl_if_neN (pc := 12) (tgt := 87) dX9_sum_12 (by decide) (by omega) (fun c12 => ?_) (fun c12 => ?_)
        · refine pj_vret (pc := 87) dX9_sum_87 rfl ?_
          rw [bindR_bad hr2]
          exact ⟨rfl, σ, rfl, h⟩
        · exact absurd c12 (by have := h.2.1; omega)
      · obtain ⟨hp, ho, hcL⟩ := hrs p o L rfl
        have hq := sk_in (B := B) hp
        have tx := tx0.of h.1
        obtain ⟨-, a1, a2, a3, h4, h5, h6, h7, h8, -⟩ := id h
        have hBq := hBy (sk B n p)
        refine pl_aload_n (pc := 8) dX9_sum_8 rfl rfl ?_
        refine pj_getf (pc := 9) ckX9 12 q2528 dX9_sum_9 (by decide) (mm_o hA) rfl ?_
        refine PJ.top (y := nI _) (h5) ?_
        refine pj_if_ne (pc := 12) (tgt := 87) dX9_sum_12 (by decide) (fun h => absurd h (by decide)) (fun _ => ?_)
        refine pl_aload_n (pc := 15) dX9_sum_15 rfl rfl ?_
        refine pl_aload_n (pc := 16) dX9_sum_16 rfl rfl ?_
        refine pj_getf (pc := 17) ckX9 11 q2527 dX9_sum_17 (by decide) (mm_o hA) rfl ?_
        refine PJ.top (y := nI _) (h4) ?_
        refine pl_callVd (pc := 20) (As := [_]) (C2 := 0) (N2 := 0) ckX9 mdX9_byteAt rfl q2808 q2810 qs73 q154 dX9_sum_20 rfl rfl (Nat.le_of_ble_eq_true rfl) (mm_o hA) (w_X9_byteAt (d := d - 1) (by omega) hA tx (by omega)) (by omega) (by decide) (by decide) ?_
        refine pl_bipush (pc := 23) (v := 43) dX9_sum_23 (by rfl) ?_
        refine pl_icmp_eq (pc := 25) (tgt := 41) dX9_sum_25 (by decide) (by omega) (by omega) (fun c25 => ?_) (fun c25 => ?_)
        · have hlt : sk B n p < n := by
            rcases Nat.lt_or_ge (sk B n p) n with z | z
            · exact z
            · rw [hB _ z] at c25; cases c25
          have hr3 : bindR (.inr (sk B n p + 1, o, L)) (fun p o => thenR (thenR (PF B n f1 2 p o) (emitP 1 (nI 0))) (PF B n f1 1)) = some r1 := by
            rw [← hr2]
            show _ = (PF B n (f1 + 1) 1 p o).map (appR L)
            rw [PF_1, if_pos (Or.inl c25), if_pos c25]
            rfl
          obtain ⟨rs3, hs1, hs2⟩ := thenR_of hr3
          obtain ⟨rs2, hs3, hs4⟩ := thenR_of hs1
          have hroom := room_of (c := c) (L := L) (k := 1) (p := sk B n p + 1) (o := o) (f := PF B n f1 2) (PF_in hB f1 2 _ _ (by decide) (by omega)) (by omega) hs3
          have hd3 := needd_in (k := 2) (fun p o hp => PF_in hB f1 2 p o (by decide) hp) hs3 (fun p o L e => by cases e; omega)
          refine pl_aload_n (pc := 41) dX9_sum_41 rfl rfl ?_
          refine pl_aload_n (pc := 42) dX9_sum_42 rfl rfl ?_
          refine pj_getf (pc := 43) ckX9 11 q2527 dX9_sum_43 (by decide) (mm_o hA) rfl ?_
          refine PJ.top (y := nI _) (h4) ?_
          refine pl_callVd (pc := 46) (As := [_]) (C2 := 0) (N2 := 0) ckX9 mdX9_byteAt rfl q2808 q2810 qs73 q154 dX9_sum_46 rfl rfl (Nat.le_of_ble_eq_true rfl) (mm_o hA) (w_X9_byteAt (d := d - 1) (by omega) hA tx (by omega)) (by omega) (by decide) (by decide) ?_
          refine pj_istore_n (pc := 49) (lv' := [(1, _), (0, _)]) dX9_sum_49 rfl (by decide) rfl ?_
          refine pl_aload_n (pc := 50) dX9_sum_50 rfl rfl ?_
          refine pj_dup (pc := 51) dX9_sum_51 rfl ?_
          refine pj_getf (pc := 52) ckX9 11 q2527 dX9_sum_52 (by decide) (mm_o hA) rfl ?_
          refine PJ.top (y := nI _) (h4) ?_
          refine pl_iconst (pc := 55) (v := 1) dX9_sum_55 (by rfl) ?_
          refine pl_iadd (pc := 56) dX9_sum_56 ?_
          refine pm_putI (pc := 57) 11 hA q2527 dX9_sum_57 (by decide) rfl (by rfl) (by rfl) rfl ?_
          have h := h.at (p1 := sk B n p + 1) (by omega) (by omega)
          refine pl_aload_n (pc := 60) dX9_sum_60 rfl rfl ?_
          refine pl_callVEv (pc := 61) (As := []) (C2 := 0) (N2 := 0) ckX9 mdX9_product rfl q2854 q2856 qs81 q154 dX9_sum_61 rfl rfl (Nat.le_of_ble_eq_true rfl) (mm_o hA) ((H f1 (by omega)).2.1 (.inr (sk B n p + 1, o, L)) rs2 _ (d - 1) (by have e1 : needd 2 (.inr (sk B n p + 1, o, L)) = needd 1 (.inr (sk B n p + 1, o, L)) + 1 := needd_s 1 _; have e2 : needd 2 (.inr (sk B n p + 1, o, L)) = needd 2 (.inr (p, o, L)) := rfl; omega) h hs3) (by omega) (by decide) (by decide) (fun σ h => ?_)
          have hle3 := h.le
          refine pl_aload_n (pc := 64) dX9_sum_64 rfl rfl ?_
          refine pl_iload_n (pc := 65) dX9_sum_65 rfl rfl ?_
          refine pl_bipush (pc := 66) (v := 43) dX9_sum_66 (by rfl) ?_
          refine pl_icmp_ne (pc := 68) (tgt := 75) dX9_sum_68 (by decide) (by omega) (by omega) (fun c68 => ?_) (fun c68 => ?_)
          · exact absurd c25 c68
          · refine pl_iconst (pc := 71) (v := 1) dX9_sum_71 (by rfl) ?_
            refine pj_goto (pc := 72) (tgt := 76) dX9_sum_72 (by decide) ?_
            refine pl_iconst (pc := 76) (v := 0) dX9_sum_76 (by rfl) ?_
            refine pl_callVEv (pc := 77) (As := [_, _]) (C2 := 0) (N2 := 0) ckX9 mdX9_emits rfl q2870 q2872 qs84 q154 dX9_sum_77 rfl rfl (Nat.le_of_ble_eq_true rfl) (mm_o hA) (R_emits (d := d - 1) (by omega) hn3 hA hl hl2 h (fun p1 o1 L1 e => (hroom p1 o1 L1 e).1) hs4) (by omega) (by decide) (by decide) (fun σ h => ?_)
            refine pl_aload_n (pc := 80) dX9_sum_80 rfl rfl ?_
            refine pl_callVEv (pc := 81) (As := []) (C2 := 0) (N2 := 0) ckX9 mdX9_blanks rfl q2804 q2806 qs72 q154 dX9_sum_81 rfl rfl (Nat.le_of_ble_eq_true rfl) (mm_o hA) (R_blanks (d := d - 1) (by omega) hA tx0 h) (by omega) (by decide) (by decide) (fun σ h => ?_)
            refine pj_goto (pc := 84) (tgt := 8) dX9_sum_84 (by decide) ?_
            refine PJ.sub [1] rfl ?_
            refine ih (by omega) rs3 σ h hs2 ?_ ?_
            · exact step_need (n := p) hs3 hs4 hroom hd2 hd9
            · exact step_le hs4 hroom (fun p1 o1 L1 e => ⟨(hle3 p1 o1 L1 e).1, (hle3 p1 o1 L1 e).2.1⟩)
        · refine pl_aload_n (pc := 28) dX9_sum_28 rfl rfl ?_
          refine pl_aload_n (pc := 29) dX9_sum_29 rfl rfl ?_
          refine pj_getf (pc := 30) ckX9 11 q2527 dX9_sum_30 (by decide) (mm_o hA) rfl ?_
          refine PJ.top (y := nI _) (h4) ?_
          refine pl_callVd (pc := 33) (As := [_]) (C2 := 0) (N2 := 0) ckX9 mdX9_byteAt rfl q2808 q2810 qs73 q154 dX9_sum_33 rfl rfl (Nat.le_of_ble_eq_true rfl) (mm_o hA) (w_X9_byteAt (d := d - 1) (by omega) hA tx (by omega)) (by omega) (by decide) (by decide) ?_
          refine pl_bipush (pc := 36) (v := 45) dX9_sum_36 (by rfl) ?_
          refine pl_icmp_ne (pc := 38) (tgt := 87) dX9_sum_38 (by decide) (by omega) (by omega) (fun c38 => ?_) (fun c38 => ?_)
          · refine pj_vret (pc := 87) dX9_sum_87 rfl ?_
            have e1 : r1 = .inr (sk B n p, o, L) := by
              have e2 : (PF B n (f1 + 1) 1 p o).map (appR L) = some r1 := hr2
              rw [PF_1, if_neg (by omega)] at e2
              simpa [appR] using e2.symm
            subst e1
            exact ⟨rfl, σ, rfl, h⟩
          · have hlt : sk B n p < n := by
              rcases Nat.lt_or_ge (sk B n p) n with z | z
              · exact z
              · rw [hB _ z] at c38; cases c38
            have hr3 : bindR (.inr (sk B n p + 1, o, L)) (fun p o => thenR (thenR (PF B n f1 2 p o) (emitP 2 (nI 0))) (PF B n f1 1)) = some r1 := by
              rw [← hr2]
              show _ = (PF B n (f1 + 1) 1 p o).map (appR L)
              rw [PF_1, if_pos (Or.inr c38), if_neg c25]
              rfl
            obtain ⟨rs3, hs1, hs2⟩ := thenR_of hr3
            obtain ⟨rs2, hs3, hs4⟩ := thenR_of hs1
            have hroom := room_of (c := c) (L := L) (k := 1) (p := sk B n p + 1) (o := o) (f := PF B n f1 2) (PF_in hB f1 2 _ _ (by decide) (by omega)) (by omega) hs3
            have hd3 := needd_in (k := 2) (fun p o hp => PF_in hB f1 2 p o (by decide) hp) hs3 (fun p o L e => by cases e; omega)
            refine pl_aload_n (pc := 41) dX9_sum_41 rfl rfl ?_
            refine pl_aload_n (pc := 42) dX9_sum_42 rfl rfl ?_
            refine pj_getf (pc := 43) ckX9 11 q2527 dX9_sum_43 (by decide) (mm_o hA) rfl ?_
            refine PJ.top (y := nI _) (h4) ?_
            refine pl_callVd (pc := 46) (As := [_]) (C2 := 0) (N2 := 0) ckX9 mdX9_byteAt rfl q2808 q2810 qs73 q154 dX9_sum_46 rfl rfl (Nat.le_of_ble_eq_true rfl) (mm_o hA) (w_X9_byteAt (d := d - 1) (by omega) hA tx (by omega)) (by omega) (by decide) (by decide) ?_
            refine pj_istore_n (pc := 49) (lv' := [(1, _), (0, _)]) dX9_sum_49 rfl (by decide) rfl ?_
            refine pl_aload_n (pc := 50) dX9_sum_50 rfl rfl ?_
            refine pj_dup (pc := 51) dX9_sum_51 rfl ?_
            refine pj_getf (pc := 52) ckX9 11 q2527 dX9_sum_52 (by decide) (mm_o hA) rfl ?_
            refine PJ.top (y := nI _) (h4) ?_
            refine pl_iconst (pc := 55) (v := 1) dX9_sum_55 (by rfl) ?_
            refine pl_iadd (pc := 56) dX9_sum_56 ?_
            refine pm_putI (pc := 57) 11 hA q2527 dX9_sum_57 (by decide) rfl (by rfl) (by rfl) rfl ?_
            have h := h.at (p1 := sk B n p + 1) (by omega) (by omega)
            refine pl_aload_n (pc := 60) dX9_sum_60 rfl rfl ?_
            refine pl_callVEv (pc := 61) (As := []) (C2 := 0) (N2 := 0) ckX9 mdX9_product rfl q2854 q2856 qs81 q154 dX9_sum_61 rfl rfl (Nat.le_of_ble_eq_true rfl) (mm_o hA) ((H f1 (by omega)).2.1 (.inr (sk B n p + 1, o, L)) rs2 _ (d - 1) (by have e1 : needd 2 (.inr (sk B n p + 1, o, L)) = needd 1 (.inr (sk B n p + 1, o, L)) + 1 := needd_s 1 _; have e2 : needd 2 (.inr (sk B n p + 1, o, L)) = needd 2 (.inr (p, o, L)) := rfl; omega) h hs3) (by omega) (by decide) (by decide) (fun σ h => ?_)
            have hle3 := h.le
            refine pl_aload_n (pc := 64) dX9_sum_64 rfl rfl ?_
            refine pl_iload_n (pc := 65) dX9_sum_65 rfl rfl ?_
            refine pl_bipush (pc := 66) (v := 43) dX9_sum_66 (by rfl) ?_
            refine pl_icmp_ne (pc := 68) (tgt := 75) dX9_sum_68 (by decide) (by omega) (by omega) (fun c68 => ?_) (fun c68 => ?_)
            · refine pl_iconst (pc := 75) (v := 2) dX9_sum_75 (by rfl) ?_
              refine pl_iconst (pc := 76) (v := 0) dX9_sum_76 (by rfl) ?_
              refine pl_callVEv (pc := 77) (As := [_, _]) (C2 := 0) (N2 := 0) ckX9 mdX9_emits rfl q2870 q2872 qs84 q154 dX9_sum_77 rfl rfl (Nat.le_of_ble_eq_true rfl) (mm_o hA) (R_emits (d := d - 1) (by omega) hn3 hA hl hl2 h (fun p1 o1 L1 e => (hroom p1 o1 L1 e).1) hs4) (by omega) (by decide) (by decide) (fun σ h => ?_)
              refine pl_aload_n (pc := 80) dX9_sum_80 rfl rfl ?_
              refine pl_callVEv (pc := 81) (As := []) (C2 := 0) (N2 := 0) ckX9 mdX9_blanks rfl q2804 q2806 qs72 q154 dX9_sum_81 rfl rfl (Nat.le_of_ble_eq_true rfl) (mm_o hA) (R_blanks (d := d - 1) (by omega) hA tx0 h) (by omega) (by decide) (by decide) (fun σ h => ?_)
              refine pj_goto (pc := 84) (tgt := 8) dX9_sum_84 (by decide) ?_
              refine PJ.sub [1] rfl ?_
              refine ih (by omega) rs3 σ h hs2 ?_ ?_
              · exact step_need (n := p) hs3 hs4 hroom hd2 hd9
              · exact step_le hs4 hroom (fun p1 o1 L1 e => ⟨(hle3 p1 o1 L1 e).1, (hle3 p1 o1 L1 e).2.1⟩)
            · exact absurd c68 c25
  refine PM.of (by decide +kernel) (Nat.le_of_ble_eq_true rfl) ?_
  refine PJ.ok (fun G => ?_)
  show PJ g _ _ _ _ d 0 0 0 [(0, .ref (ad 0))] [] _ _
  refine pl_aload_n (pc := 0) dX9_sum_0 rfl rfl ?_
  refine pl_callVEv (pc := 1) (As := []) (C2 := 0) (N2 := 0) ckX9 mdX9_product rfl q2854 q2856 qs81 q154 dX9_sum_1 rfl rfl (Nat.le_of_ble_eq_true rfl) (mm_o hA) ((H f (Nat.le_refl _)).2.1 r rs σ (d - 1) (by omega) h hr1) (by omega) (by decide) (by decide) (fun σ h => ?_)
  have hle2 := h.le
  refine pl_aload_n (pc := 4) dX9_sum_4 rfl rfl ?_
  refine pl_callVEv (pc := 5) (As := []) (C2 := 0) (N2 := 0) ckX9 mdX9_blanks rfl q2804 q2806 qs72 q154 dX9_sum_5 rfl rfl (Nat.le_of_ble_eq_true rfl) (mm_o hA) (R_blanks (d := d - 1) (by omega) hA tx0 h) (by omega) (by decide) (by decide) (fun σ h => ?_)
  refine key f (Nat.le_refl _) rs σ h hr2 (by omega) ?_
  exact hle2
set_option maxHeartbeats 400000 in
theorem K_product {g : GP} {μ : Mem} {ad : Nat → Nat} {σ0 : MS} {n l c : Nat} {B : Nat → Nat} (hA : Inj ad 18) (tx0 : Txt σ0 n B) (hl : σ0.1 16 = nI l) (hl2 : l < 12) {f : Nat} (H : ∀ f1, f1 ≤ f → KA g ad μ n l c σ0 B f1) : Kc g ad μ n l c σ0 B yX9_product (ws_ yX9_product cX9_product 2 none) 2 1 (f + 1) := by
  intro r r1 σ d hd h hr
  have hB := tx0.2.2.2.2
  have hn3 := tx0.2.1
  have hBy := tx0.2.2.2.1
  obtain ⟨rs, hr1, hr2⟩ := thenR_of (show bindR r (fun p o => thenR (PF B n f 4 p o) (PF B n f 3)) = some r1 from hr)
  have hd1 : needd 1 r = needd 0 r + 1 := needd_s 0 r
  have hd9 : 10 + 1 ≤ d := by rcases r with e | ⟨p, o, L⟩ <;> simp only [needd] at hd <;> omega
  have hle := h.le
  have hd2 := needd_in (k := 1) (fun p o hp => PF_in hB f 4 p o (by decide) hp) hr1 (fun p o L e => (hle p o L e).1)
  have key : ∀ f1, f1 ≤ f → ∀ (rs : RP) (σ : MS), PR n l c σ0 (skR B n rs) σ → bindR rs (PF B n f1 3) = some r1 → needd 1 rs ≤ d → (∀ p o L, rs = .inr (p, o, L) → p ≤ n ∧ o ≤ 8 ∧ c + L.length ≤ p) → PJ g yX9_product.cls cX9_product 2 (none, yX9_product.name, []) d 0 0 8 [(0, .ref (ad 0))] [] (mm g ad μ σ) (rE g ad μ none (PR n l c σ0 r1)) := by
    intro f1
    induction f1 with
    | zero =>
      intro hf1 rs σ h hr2 hd2 hrs
      rcases rs with ⟨k9, w9⟩ | ⟨p, o, L⟩
      · have hk9 := h.2.2.1
        refine pl_aload_n (pc := 8) dX9_product_8 rfl rfl ?_
        refine pj_getf (pc := 9) ckX9 12 q2528 dX9_product_9 (by decide) (mm_o hA) rfl ?_
        refine PJ.top (y := nI k9) h.2.2.2.1 ?_
        refine pl_if_neN (pc := 12) (tgt := 110) dX9_product_12 (by decide) (by omega) (fun c12 => ?_) (fun c12 => ?_)
        · refine pj_vret (pc := 110) dX9_product_110 rfl ?_
          rw [bindR_bad hr2]
          exact ⟨rfl, σ, rfl, h⟩
        · exact absurd c12 (by have := h.2.1; omega)
      · cases (show (none : Option RP) = some r1 from hr2)
    | succ f1 ih =>
      intro hf1 rs σ h hr2 hd2 hrs
      rcases rs with ⟨k9, w9⟩ | ⟨p, o, L⟩
      · have hk9 := h.2.2.1
        refine pl_aload_n (pc := 8) dX9_product_8 rfl rfl ?_
        refine pj_getf (pc := 9) ckX9 12 q2528 dX9_product_9 (by decide) (mm_o hA) rfl ?_
        refine PJ.top (y := nI k9) h.2.2.2.1 ?_
        refine pl_if_neN (pc := 12) (tgt := 110) dX9_product_12 (by decide) (by omega) (fun c12 => ?_) (fun c12 => ?_)
        · refine pj_vret (pc := 110) dX9_product_110 rfl ?_
          rw [bindR_bad hr2]
          exact ⟨rfl, σ, rfl, h⟩
        · exact absurd c12 (by have := h.2.1; omega)
      · obtain ⟨hp, ho, hcL⟩ := hrs p o L rfl
        have hq := sk_in (B := B) hp
        have tx := tx0.of h.1
        obtain ⟨-, a1, a2, a3, h4, h5, h6, h7, h8, -⟩ := id h
        have hBq := hBy (sk B n p)
        refine pl_aload_n (pc := 8) dX9_product_8 rfl rfl ?_
        refine pj_getf (pc := 9) ckX9 12 q2528 dX9_product_9 (by decide) (mm_o hA) rfl ?_
        refine PJ.top (y := nI _) (h5) ?_
        refine pj_if_ne (pc := 12) (tgt := 110) dX9_product_12 (by decide) (fun h => absurd h (by decide)) (fun _ => ?_)
        refine pl_aload_n (pc := 15) dX9_product_15 rfl rfl ?_
        refine pl_aload_n (pc := 16) dX9_product_16 rfl rfl ?_
        refine pj_getf (pc := 17) ckX9 11 q2527 dX9_product_17 (by decide) (mm_o hA) rfl ?_
        refine PJ.top (y := nI _) (h4) ?_
        refine pl_callVd (pc := 20) (As := [_]) (C2 := 0) (N2 := 0) ckX9 mdX9_byteAt rfl q2808 q2810 qs73 q154 dX9_product_20 rfl rfl (Nat.le_of_ble_eq_true rfl) (mm_o hA) (w_X9_byteAt (d := d - 1) (by omega) hA tx (by omega)) (by omega) (by decide) (by decide) ?_
        refine pl_bipush (pc := 23) (v := 42) dX9_product_23 (by rfl) ?_
        refine pl_icmp_eq (pc := 25) (tgt := 54) dX9_product_25 (by decide) (by omega) (by omega) (fun c25 => ?_) (fun c25 => ?_)
        · have hlt : sk B n p < n := by
            rcases Nat.lt_or_ge (sk B n p) n with z | z
            · exact z
            · rw [hB _ z] at c25; cases c25
          have hr3 : bindR (.inr (sk B n p + 1, o, L)) (fun p o => thenR (thenR (PF B n f1 4 p o) (emitP 3 (nI 0))) (PF B n f1 3)) = some r1 := by
            rw [← hr2]
            show _ = (PF B n (f1 + 1) 3 p o).map (appR L)
            rw [PF_3, if_pos (Or.inl c25), if_pos c25]
            rfl
          obtain ⟨rs3, hs1, hs2⟩ := thenR_of hr3
          obtain ⟨rs2, hs3, hs4⟩ := thenR_of hs1
          have hroom := room_of (c := c) (L := L) (k := 1) (p := sk B n p + 1) (o := o) (f := PF B n f1 4) (PF_in hB f1 4 _ _ (by decide) (by omega)) (by omega) hs3
          have hd3 := needd_in (k := 1) (fun p o hp => PF_in hB f1 4 p o (by decide) hp) hs3 (fun p o L e => by cases e; omega)
          refine pl_aload_n (pc := 54) dX9_product_54 rfl rfl ?_
          refine pl_aload_n (pc := 55) dX9_product_55 rfl rfl ?_
          refine pj_getf (pc := 56) ckX9 11 q2527 dX9_product_56 (by decide) (mm_o hA) rfl ?_
          refine PJ.top (y := nI _) (h4) ?_
          refine pl_callVd (pc := 59) (As := [_]) (C2 := 0) (N2 := 0) ckX9 mdX9_byteAt rfl q2808 q2810 qs73 q154 dX9_product_59 rfl rfl (Nat.le_of_ble_eq_true rfl) (mm_o hA) (w_X9_byteAt (d := d - 1) (by omega) hA tx (by omega)) (by omega) (by decide) (by decide) ?_
          refine pj_istore_n (pc := 62) (lv' := [(1, _), (0, _)]) dX9_product_62 rfl (by decide) rfl ?_
          refine pl_aload_n (pc := 63) dX9_product_63 rfl rfl ?_
          refine pj_dup (pc := 64) dX9_product_64 rfl ?_
          refine pj_getf (pc := 65) ckX9 11 q2527 dX9_product_65 (by decide) (mm_o hA) rfl ?_
          refine PJ.top (y := nI _) (h4) ?_
          refine pl_iconst (pc := 68) (v := 1) dX9_product_68 (by rfl) ?_
          refine pl_iadd (pc := 69) dX9_product_69 ?_
          refine pm_putI (pc := 70) 11 hA q2527 dX9_product_70 (by decide) rfl (by rfl) (by rfl) rfl ?_
          have h := h.at (p1 := sk B n p + 1) (by omega) (by omega)
          refine pl_aload_n (pc := 73) dX9_product_73 rfl rfl ?_
          refine pl_callVEv (pc := 74) (As := []) (C2 := 0) (N2 := 0) ckX9 mdX9_one rfl q2858 q2860 qs82 q154 dX9_product_74 rfl rfl (Nat.le_of_ble_eq_true rfl) (mm_o hA) ((H f1 (by omega)).2.2.1 (.inr (sk B n p + 1, o, L)) rs2 _ (d - 1) (by have e1 : needd 1 (.inr (sk B n p + 1, o, L)) = needd 0 (.inr (sk B n p + 1, o, L)) + 1 := needd_s 0 _; have e2 : needd 1 (.inr (sk B n p + 1, o, L)) = needd 1 (.inr (p, o, L)) := rfl; omega) h hs3) (by omega) (by decide) (by decide) (fun σ h => ?_)
          have hle3 := h.le
          refine pl_aload_n (pc := 77) dX9_product_77 rfl rfl ?_
          refine pl_iload_n (pc := 78) dX9_product_78 rfl rfl ?_
          refine pl_bipush (pc := 79) (v := 42) dX9_product_79 (by rfl) ?_
          refine pl_icmp_ne (pc := 81) (tgt := 88) dX9_product_81 (by decide) (by omega) (by omega) (fun c81 => ?_) (fun c81 => ?_)
          · exact absurd c25 c81
          · refine pl_iconst (pc := 84) (v := 3) dX9_product_84 (by rfl) ?_
            refine pj_goto (pc := 85) (tgt := 99) dX9_product_85 (by decide) ?_
            refine pl_iconst (pc := 99) (v := 0) dX9_product_99 (by rfl) ?_
            refine pl_callVEv (pc := 100) (As := [_, _]) (C2 := 0) (N2 := 0) ckX9 mdX9_emits rfl q2870 q2872 qs84 q154 dX9_product_100 rfl rfl (Nat.le_of_ble_eq_true rfl) (mm_o hA) (R_emits (d := d - 1) (by omega) hn3 hA hl hl2 h (fun p1 o1 L1 e => (hroom p1 o1 L1 e).1) hs4) (by omega) (by decide) (by decide) (fun σ h => ?_)
            refine pl_aload_n (pc := 103) dX9_product_103 rfl rfl ?_
            refine pl_callVEv (pc := 104) (As := []) (C2 := 0) (N2 := 0) ckX9 mdX9_blanks rfl q2804 q2806 qs72 q154 dX9_product_104 rfl rfl (Nat.le_of_ble_eq_true rfl) (mm_o hA) (R_blanks (d := d - 1) (by omega) hA tx0 h) (by omega) (by decide) (by decide) (fun σ h => ?_)
            refine pj_goto (pc := 107) (tgt := 8) dX9_product_107 (by decide) ?_
            refine PJ.sub [1] rfl ?_
            refine ih (by omega) rs3 σ h hs2 ?_ ?_
            · exact step_need (n := p) hs3 hs4 hroom hd2 hd9
            · exact step_le hs4 hroom (fun p1 o1 L1 e => ⟨(hle3 p1 o1 L1 e).1, (hle3 p1 o1 L1 e).2.1⟩)
        · refine pl_aload_n (pc := 28) dX9_product_28 rfl rfl ?_
          refine pl_aload_n (pc := 29) dX9_product_29 rfl rfl ?_
          refine pj_getf (pc := 30) ckX9 11 q2527 dX9_product_30 (by decide) (mm_o hA) rfl ?_
          refine PJ.top (y := nI _) (h4) ?_
          refine pl_callVd (pc := 33) (As := [_]) (C2 := 0) (N2 := 0) ckX9 mdX9_byteAt rfl q2808 q2810 qs73 q154 dX9_product_33 rfl rfl (Nat.le_of_ble_eq_true rfl) (mm_o hA) (w_X9_byteAt (d := d - 1) (by omega) hA tx (by omega)) (by omega) (by decide) (by decide) ?_
          refine pl_bipush (pc := 36) (v := 47) dX9_product_36 (by rfl) ?_
          refine pl_icmp_eq (pc := 38) (tgt := 54) dX9_product_38 (by decide) (by omega) (by omega) (fun c38 => ?_) (fun c38 => ?_)
          · have hlt : sk B n p < n := by
              rcases Nat.lt_or_ge (sk B n p) n with z | z
              · exact z
              · rw [hB _ z] at c38; cases c38
            have hr3 : bindR (.inr (sk B n p + 1, o, L)) (fun p o => thenR (thenR (PF B n f1 4 p o) (emitP 4 (nI 0))) (PF B n f1 3)) = some r1 := by
              rw [← hr2]
              show _ = (PF B n (f1 + 1) 3 p o).map (appR L)
              rw [PF_3, if_pos (Or.inr (Or.inl c38)), if_neg c25, if_pos c38]
              rfl
            obtain ⟨rs3, hs1, hs2⟩ := thenR_of hr3
            obtain ⟨rs2, hs3, hs4⟩ := thenR_of hs1
            have hroom := room_of (c := c) (L := L) (k := 1) (p := sk B n p + 1) (o := o) (f := PF B n f1 4) (PF_in hB f1 4 _ _ (by decide) (by omega)) (by omega) hs3
            have hd3 := needd_in (k := 1) (fun p o hp => PF_in hB f1 4 p o (by decide) hp) hs3 (fun p o L e => by cases e; omega)
            refine pl_aload_n (pc := 54) dX9_product_54 rfl rfl ?_
            refine pl_aload_n (pc := 55) dX9_product_55 rfl rfl ?_
            refine pj_getf (pc := 56) ckX9 11 q2527 dX9_product_56 (by decide) (mm_o hA) rfl ?_
            refine PJ.top (y := nI _) (h4) ?_
            refine pl_callVd (pc := 59) (As := [_]) (C2 := 0) (N2 := 0) ckX9 mdX9_byteAt rfl q2808 q2810 qs73 q154 dX9_product_59 rfl rfl (Nat.le_of_ble_eq_true rfl) (mm_o hA) (w_X9_byteAt (d := d - 1) (by omega) hA tx (by omega)) (by omega) (by decide) (by decide) ?_
            refine pj_istore_n (pc := 62) (lv' := [(1, _), (0, _)]) dX9_product_62 rfl (by decide) rfl ?_
            refine pl_aload_n (pc := 63) dX9_product_63 rfl rfl ?_
            refine pj_dup (pc := 64) dX9_product_64 rfl ?_
            refine pj_getf (pc := 65) ckX9 11 q2527 dX9_product_65 (by decide) (mm_o hA) rfl ?_
            refine PJ.top (y := nI _) (h4) ?_
            refine pl_iconst (pc := 68) (v := 1) dX9_product_68 (by rfl) ?_
            refine pl_iadd (pc := 69) dX9_product_69 ?_
            refine pm_putI (pc := 70) 11 hA q2527 dX9_product_70 (by decide) rfl (by rfl) (by rfl) rfl ?_
            have h := h.at (p1 := sk B n p + 1) (by omega) (by omega)
            refine pl_aload_n (pc := 73) dX9_product_73 rfl rfl ?_
            refine pl_callVEv (pc := 74) (As := []) (C2 := 0) (N2 := 0) ckX9 mdX9_one rfl q2858 q2860 qs82 q154 dX9_product_74 rfl rfl (Nat.le_of_ble_eq_true rfl) (mm_o hA) ((H f1 (by omega)).2.2.1 (.inr (sk B n p + 1, o, L)) rs2 _ (d - 1) (by have e1 : needd 1 (.inr (sk B n p + 1, o, L)) = needd 0 (.inr (sk B n p + 1, o, L)) + 1 := needd_s 0 _; have e2 : needd 1 (.inr (sk B n p + 1, o, L)) = needd 1 (.inr (p, o, L)) := rfl; omega) h hs3) (by omega) (by decide) (by decide) (fun σ h => ?_)
            have hle3 := h.le
            refine pl_aload_n (pc := 77) dX9_product_77 rfl rfl ?_
            refine pl_iload_n (pc := 78) dX9_product_78 rfl rfl ?_
            refine pl_bipush (pc := 79) (v := 42) dX9_product_79 (by rfl) ?_
            refine pl_icmp_ne (pc := 81) (tgt := 88) dX9_product_81 (by decide) (by omega) (by omega) (fun c81 => ?_) (fun c81 => ?_)
            · refine pl_iload_n (pc := 88) dX9_product_88 rfl rfl ?_
              refine pl_bipush (pc := 89) (v := 47) dX9_product_89 (by rfl) ?_
              refine pl_icmp_ne (pc := 91) (tgt := 98) dX9_product_91 (by decide) (by omega) (by omega) (fun c91 => ?_) (fun c91 => ?_)
              · exact absurd c38 c91
              · refine pl_iconst (pc := 94) (v := 4) dX9_product_94 (by rfl) ?_
                refine pj_goto (pc := 95) (tgt := 99) dX9_product_95 (by decide) ?_
                refine pl_iconst (pc := 99) (v := 0) dX9_product_99 (by rfl) ?_
                refine pl_callVEv (pc := 100) (As := [_, _]) (C2 := 0) (N2 := 0) ckX9 mdX9_emits rfl q2870 q2872 qs84 q154 dX9_product_100 rfl rfl (Nat.le_of_ble_eq_true rfl) (mm_o hA) (R_emits (d := d - 1) (by omega) hn3 hA hl hl2 h (fun p1 o1 L1 e => (hroom p1 o1 L1 e).1) hs4) (by omega) (by decide) (by decide) (fun σ h => ?_)
                refine pl_aload_n (pc := 103) dX9_product_103 rfl rfl ?_
                refine pl_callVEv (pc := 104) (As := []) (C2 := 0) (N2 := 0) ckX9 mdX9_blanks rfl q2804 q2806 qs72 q154 dX9_product_104 rfl rfl (Nat.le_of_ble_eq_true rfl) (mm_o hA) (R_blanks (d := d - 1) (by omega) hA tx0 h) (by omega) (by decide) (by decide) (fun σ h => ?_)
                refine pj_goto (pc := 107) (tgt := 8) dX9_product_107 (by decide) ?_
                refine PJ.sub [1] rfl ?_
                refine ih (by omega) rs3 σ h hs2 ?_ ?_
                · exact step_need (n := p) hs3 hs4 hroom hd2 hd9
                · exact step_le hs4 hroom (fun p1 o1 L1 e => ⟨(hle3 p1 o1 L1 e).1, (hle3 p1 o1 L1 e).2.1⟩)
            · exact absurd c81 c25
          · refine pl_aload_n (pc := 41) dX9_product_41 rfl rfl ?_
            refine pl_aload_n (pc := 42) dX9_product_42 rfl rfl ?_
            refine pj_getf (pc := 43) ckX9 11 q2527 dX9_product_43 (by decide) (mm_o hA) rfl ?_
            refine PJ.top (y := nI _) (h4) ?_
            refine pl_callVd (pc := 46) (As := [_]) (C2 := 0) (N2 := 0) ckX9 mdX9_byteAt rfl q2808 q2810 qs73 q154 dX9_product_46 rfl rfl (Nat.le_of_ble_eq_true rfl) (mm_o hA) (w_X9_byteAt (d := d - 1) (by omega) hA tx (by omega)) (by omega) (by decide) (by decide) ?_
            refine pl_bipush (pc := 49) (v := 37) dX9_product_49 (by rfl) ?_
            refine pl_icmp_ne (pc := 51) (tgt := 110) dX9_product_51 (by decide) (by omega) (by omega) (fun c51 => ?_) (fun c51 => ?_)
            · refine pj_vret (pc := 110) dX9_product_110 rfl ?_
              have e1 : r1 = .inr (sk B n p, o, L) := by
                have e2 : (PF B n (f1 + 1) 3 p o).map (appR L) = some r1 := hr2
                rw [PF_3, if_neg (by omega)] at e2
                simpa [appR] using e2.symm
              subst e1
              exact ⟨rfl, σ, rfl, h⟩
            · have hlt : sk B n p < n := by
                rcases Nat.lt_or_ge (sk B n p) n with z | z
                · exact z
                · rw [hB _ z] at c51; cases c51
              have hr3 : bindR (.inr (sk B n p + 1, o, L)) (fun p o => thenR (thenR (PF B n f1 4 p o) (emitP 5 (nI 0))) (PF B n f1 3)) = some r1 := by
                rw [← hr2]
                show _ = (PF B n (f1 + 1) 3 p o).map (appR L)
                rw [PF_3, if_pos (Or.inr (Or.inr c51)), if_neg c25, if_neg c38]
                rfl
              obtain ⟨rs3, hs1, hs2⟩ := thenR_of hr3
              obtain ⟨rs2, hs3, hs4⟩ := thenR_of hs1
              have hroom := room_of (c := c) (L := L) (k := 1) (p := sk B n p + 1) (o := o) (f := PF B n f1 4) (PF_in hB f1 4 _ _ (by decide) (by omega)) (by omega) hs3
              have hd3 := needd_in (k := 1) (fun p o hp => PF_in hB f1 4 p o (by decide) hp) hs3 (fun p o L e => by cases e; omega)
              refine pl_aload_n (pc := 54) dX9_product_54 rfl rfl ?_
              refine pl_aload_n (pc := 55) dX9_product_55 rfl rfl ?_
              refine pj_getf (pc := 56) ckX9 11 q2527 dX9_product_56 (by decide) (mm_o hA) rfl ?_
              refine PJ.top (y := nI _) (h4) ?_
              refine pl_callVd (pc := 59) (As := [_]) (C2 := 0) (N2 := 0) ckX9 mdX9_byteAt rfl q2808 q2810 qs73 q154 dX9_product_59 rfl rfl (Nat.le_of_ble_eq_true rfl) (mm_o hA) (w_X9_byteAt (d := d - 1) (by omega) hA tx (by omega)) (by omega) (by decide) (by decide) ?_
              refine pj_istore_n (pc := 62) (lv' := [(1, _), (0, _)]) dX9_product_62 rfl (by decide) rfl ?_
              refine pl_aload_n (pc := 63) dX9_product_63 rfl rfl ?_
              refine pj_dup (pc := 64) dX9_product_64 rfl ?_
              refine pj_getf (pc := 65) ckX9 11 q2527 dX9_product_65 (by decide) (mm_o hA) rfl ?_
              refine PJ.top (y := nI _) (h4) ?_
              refine pl_iconst (pc := 68) (v := 1) dX9_product_68 (by rfl) ?_
              refine pl_iadd (pc := 69) dX9_product_69 ?_
              refine pm_putI (pc := 70) 11 hA q2527 dX9_product_70 (by decide) rfl (by rfl) (by rfl) rfl ?_
              have h := h.at (p1 := sk B n p + 1) (by omega) (by omega)
              refine pl_aload_n (pc := 73) dX9_product_73 rfl rfl ?_
              refine pl_callVEv (pc := 74) (As := []) (C2 := 0) (N2 := 0) ckX9 mdX9_one rfl q2858 q2860 qs82 q154 dX9_product_74 rfl rfl (Nat.le_of_ble_eq_true rfl) (mm_o hA) ((H f1 (by omega)).2.2.1 (.inr (sk B n p + 1, o, L)) rs2 _ (d - 1) (by have e1 : needd 1 (.inr (sk B n p + 1, o, L)) = needd 0 (.inr (sk B n p + 1, o, L)) + 1 := needd_s 0 _; have e2 : needd 1 (.inr (sk B n p + 1, o, L)) = needd 1 (.inr (p, o, L)) := rfl; omega) h hs3) (by omega) (by decide) (by decide) (fun σ h => ?_)
              have hle3 := h.le
              refine pl_aload_n (pc := 77) dX9_product_77 rfl rfl ?_
              refine pl_iload_n (pc := 78) dX9_product_78 rfl rfl ?_
              refine pl_bipush (pc := 79) (v := 42) dX9_product_79 (by rfl) ?_
              refine pl_icmp_ne (pc := 81) (tgt := 88) dX9_product_81 (by decide) (by omega) (by omega) (fun c81 => ?_) (fun c81 => ?_)
              · refine pl_iload_n (pc := 88) dX9_product_88 rfl rfl ?_
                refine pl_bipush (pc := 89) (v := 47) dX9_product_89 (by rfl) ?_
                refine pl_icmp_ne (pc := 91) (tgt := 98) dX9_product_91 (by decide) (by omega) (by omega) (fun c91 => ?_) (fun c91 => ?_)
                · refine pl_iconst (pc := 98) (v := 5) dX9_product_98 (by rfl) ?_
                  refine pl_iconst (pc := 99) (v := 0) dX9_product_99 (by rfl) ?_
                  refine pl_callVEv (pc := 100) (As := [_, _]) (C2 := 0) (N2 := 0) ckX9 mdX9_emits rfl q2870 q2872 qs84 q154 dX9_product_100 rfl rfl (Nat.le_of_ble_eq_true rfl) (mm_o hA) (R_emits (d := d - 1) (by omega) hn3 hA hl hl2 h (fun p1 o1 L1 e => (hroom p1 o1 L1 e).1) hs4) (by omega) (by decide) (by decide) (fun σ h => ?_)
                  refine pl_aload_n (pc := 103) dX9_product_103 rfl rfl ?_
                  refine pl_callVEv (pc := 104) (As := []) (C2 := 0) (N2 := 0) ckX9 mdX9_blanks rfl q2804 q2806 qs72 q154 dX9_product_104 rfl rfl (Nat.le_of_ble_eq_true rfl) (mm_o hA) (R_blanks (d := d - 1) (by omega) hA tx0 h) (by omega) (by decide) (by decide) (fun σ h => ?_)
                  refine pj_goto (pc := 107) (tgt := 8) dX9_product_107 (by decide) ?_
                  refine PJ.sub [1] rfl ?_
                  refine ih (by omega) rs3 σ h hs2 ?_ ?_
                  · exact step_need (n := p) hs3 hs4 hroom hd2 hd9
                  · exact step_le hs4 hroom (fun p1 o1 L1 e => ⟨(hle3 p1 o1 L1 e).1, (hle3 p1 o1 L1 e).2.1⟩)
                · exact absurd c91 c38
              · exact absurd c81 c25
  refine PM.of (by decide +kernel) (Nat.le_of_ble_eq_true rfl) ?_
  refine PJ.ok (fun G => ?_)
  show PJ g _ _ _ _ d 0 0 0 [(0, .ref (ad 0))] [] _ _
  refine pl_aload_n (pc := 0) dX9_product_0 rfl rfl ?_
  refine pl_callVEv (pc := 1) (As := []) (C2 := 0) (N2 := 0) ckX9 mdX9_one rfl q2858 q2860 qs82 q154 dX9_product_1 rfl rfl (Nat.le_of_ble_eq_true rfl) (mm_o hA) ((H f (Nat.le_refl _)).2.2.1 r rs σ (d - 1) (by omega) h hr1) (by omega) (by decide) (by decide) (fun σ h => ?_)
  have hle2 := h.le
  refine pl_aload_n (pc := 4) dX9_product_4 rfl rfl ?_
  refine pl_callVEv (pc := 5) (As := []) (C2 := 0) (N2 := 0) ckX9 mdX9_blanks rfl q2804 q2806 qs72 q154 dX9_product_5 rfl rfl (Nat.le_of_ble_eq_true rfl) (mm_o hA) (R_blanks (d := d - 1) (by omega) hA tx0 h) (by omega) (by decide) (by decide) (fun σ h => ?_)
  refine key f (Nat.le_refl _) rs σ h hr2 (by omega) ?_
  exact hle2
