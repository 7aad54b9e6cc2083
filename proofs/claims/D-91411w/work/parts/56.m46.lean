set_option maxRecDepth 100000
section VA
variable {g : GP} {own : String} {cc : ByteArray} {nL : Nat} {i : MI} {d C N pc : Nat} {ls : List (Nat × Value)} {rest : List Value} {μ : Mem} {Q : OC → Mem → Prop}
theorem pl_callSA {y : MethodName} {b : ByteArray} {L n d1 C1 N1 C2 N2 index : Nat} {r : Option FieldType} {W : List Int32} {st : List Value} (As : List Value) (md : MDy y b L r n) (h1 : Cond.methodLink own index y ∈ lw_all) (h2 : Cond.static y ∈ lw_all) (h3 : Cond.initialized y.cls ∈ lw_all) (hdg : decode cc pc = .ok (.invokestatic index, 3)) (hst : st = As.reverse ++ rest) (hn : As.length = n) (hr8 : (rest.map fun v => v.category).sum ≤ 8) (hM : PM g y (ws_ y b L r) d1 C1 N1 As μ (fun o M => ∃ a v : Nat, o = .inl (some (.ref a)) ∧ M = μ ∧ StrC g a v W)) (hd : d1 + 1 ≤ d) (hC : C1 + C2 ≤ C) (hN : N1 + N2 ≤ N) (kk : ∀ a v : Nat, StrC g a v W → PJ g own cc nL i d C2 N2 (pc + 3) ls (.ref a :: rest) μ Q) : PJ g own cc nL i d C N pc ls st μ Q :=
  pj_callS As md h1 h2 h3 hdg hst hn hr8 hM hd hC hN (fun v9 μ8 h => by
    obtain ⟨a, v, e1, rfl, h1⟩ := h
    cases e1
    exact kk a v h1) (fun E9 q μ8 h => by
    obtain ⟨a, v, e1, -⟩ := h
    cases e1)
end VA
set_option maxHeartbeats 400000 in
theorem K_one {g : GP} {μ : Mem} {ad : Nat → Nat} {σ0 : MS} {n l c : Nat} {B : Nat → Nat} (hA : Inj ad 18) (tx0 : Txt σ0 n B) (hl : σ0.1 16 = nI l) (hl2 : l < 12) {f : Nat} (H : ∀ f1, f1 ≤ f → KA g ad μ n l c σ0 B f1) : Kc g ad μ n l c σ0 B yX9_one (ws_ yX9_one cX9_one 2 none) 4 0 (f + 1) := by
  intro r r1 σ d hd h hr
  have hB := tx0.2.2.2.2
  have hn3 := tx0.2.1
  have hBy := tx0.2.2.2.1
  rcases r with ⟨k9, w9⟩ | ⟨p, o, L⟩
  · rw [bindR_bad hr]
    simp only [needd] at hd
    exact PM.toE (b_X9_one (by omega) hA h.2.2.2.1 h.2.1 h.2.2.1) h
  simp only [needd] at hd
  obtain ⟨hp, ho, hcL⟩ := h.le p o L rfl
  have hq := sk_in (B := B) hp
  have hss := sk_sk (p := p) hB
  have hBq := hBy (sk B n p)
  obtain ⟨-, -, -, -, h4, h5, -⟩ := id h
  refine PM.of (by decide +kernel) (Nat.le_of_ble_eq_true rfl) ?_
  refine PJ.ok (fun G => ?_)
  show PJ g _ _ _ _ d 0 0 0 [(0, .ref (ad 0))] [] _ _
  refine pl_aload_n (pc := 0) dX9_one_0 rfl rfl ?_
  refine pj_getf (pc := 1) ckX9 12 q2528 dX9_one_1 (by decide) (mm_o hA) rfl ?_
  refine PJ.top (y := nI 0) h5 ?_
  refine pj_if_le (pc := 4) (tgt := 8) dX9_one_4 (by decide) (fun _ => ?_) (fun h => absurd h (by decide))
  refine pl_aload_n (pc := 8) dX9_one_8 rfl rfl ?_
  refine pl_callVEv (pc := 9) (As := []) (C2 := 0) (N2 := 0) ckX9 mdX9_blanks rfl q2804 q2806 qs72 q154 dX9_one_9 rfl rfl (Nat.le_of_ble_eq_true rfl) (mm_o hA) (R_blanks (d := d - 1) (by omega) hA tx0 h) (by omega) (by decide) (by decide) (fun σ h => ?_)
  have h : PR n l c σ0 (.inr (sk B n p, o, L)) σ := h
  refine pl_aload_n (pc := 12) dX9_one_12 rfl rfl ?_
  refine pl_aload_n (pc := 13) dX9_one_13 rfl rfl ?_
  refine pj_getf (pc := 14) ckX9 11 q2527 dX9_one_14 (by decide) (mm_o hA) rfl ?_
  refine PJ.top (y := nI (sk B n p)) h.2.2.2.2.1 ?_
  refine pl_callVd (pc := 17) (As := [_]) (C2 := 0) (N2 := 0) ckX9 mdX9_byteAt rfl q2808 q2810 qs73 q154 dX9_one_17 rfl rfl (Nat.le_of_ble_eq_true rfl) (mm_o hA) (w_X9_byteAt (d := d - 1) (by omega) hA (tx0.of h.1) (by omega)) (by omega) (by decide) (by decide) ?_
  refine pl_callSd (pc := 20) (As := [_]) (C2 := 0) (N2 := 0) mdX9_isDigit q2862 q2863 q154 dX9_one_20 rfl rfl (Nat.le_of_ble_eq_true rfl) (PM.ret (w := some (.int (bI (isD (B (sk B n p)))))) (by rw [isD_nI hBq]) rfl (w_X9_isDigit (d := d - 1) (by omega))) (by omega) (by decide) (by decide) ?_
  refine pl_if_eqB (pc := 23) (tgt := 31) dX9_one_23 (by decide) (fun c23 => ?_) (fun c23 => ?_)
  · have hnd : ¬ isD (B (sk B n p)) = true := by rw [c23]; decide
    refine pl_iconst (pc := 31) (v := 0) dX9_one_31 (by rfl) ?_
    refine pj_istore_n (pc := 32) (lv' := [(1, _), (0, _)]) dX9_one_32 rfl (by decide) rfl ?_
    refine pl_iload_n (pc := 33) dX9_one_33 rfl rfl ?_
    refine pl_iconst (pc := 34) (v := 5) dX9_one_34 (by rfl) ?_
    refine pj_icmp_ge (pc := 35) (tgt := 66) dX9_one_35 (by decide) (fun h => absurd h (by decide)) (fun _ => ?_)
    refine pl_aload_n (pc := 38) dX9_one_38 rfl rfl ?_
    refine pl_iload_n (pc := 39) dX9_one_39 rfl rfl ?_
    refine pl_callSA (pc := 40) (As := [_]) (C2 := 0) (N2 := 0) mdX9_toldOf q2874 q2875 q154 dX9_one_40 rfl rfl (Nat.le_of_ble_eq_true rfl) (w_X9_toldOf (d := d - 1) (by omega) (k := 0) (by decide)) (by omega) (by decide) (by decide) (fun a0 v0 sc0 => ?_)
    refine pl_callVB (pc := 43) (As := [_]) (C2 := 0) (N2 := 0) ckX9 mdX9_eat rfl q2882 q2884 qs85 q154 dX9_one_43 rfl rfl (Nat.le_of_ble_eq_true rfl) (mm_o hA) (R_eat (d := d - 1) (by omega) hA tx0 hl hl2 h (ws := toldW 0) sc0 (by decide) (by decide)) (by omega) (by decide) (by decide) (fun b9 σ q9 => ?_)
    obtain ⟨e9, h⟩ := q9
    have e8 : eatR B n (toldW 0) (.inr (sk B n p, o, L)) = (isW B (sk B n (sk B n p)) (toldW 0), .inr (if isW B (sk B n (sk B n p)) (toldW 0) = true then sk B n (sk B n p) + (toldW 0).length else sk B n (sk B n p), o, L)) := rfl
    rw [hss] at e8
    rw [e8] at h e9
    cases hw0 : isW B (sk B n p) (toldW 0)
    · rw [hw0] at h e9
      have h : PR n l c σ0 (.inr (sk B n p, o, L)) σ := h
      refine PJ.top (y := nI 0) (by rw [e9]; rfl) ?_
      refine pj_if_ne (pc := 46) (tgt := 52) dX9_one_46 (by decide) (fun h => absurd h (by decide)) (fun _ => ?_)
      refine pj_goto (pc := 49) (tgt := 60) dX9_one_49 (by decide) ?_
      refine pl_iinc (pc := 60) (v := nI 1) (lv' := [(1, _), (0, _)]) dX9_one_60 rfl (by rfl) (by decide) rfl ?_
      refine pj_goto (pc := 63) (tgt := 33) dX9_one_63 (by decide) ?_
      refine pl_iload_n (pc := 33) dX9_one_33 rfl rfl ?_
      refine pl_iconst (pc := 34) (v := 5) dX9_one_34 (by rfl) ?_
      refine pj_icmp_ge (pc := 35) (tgt := 66) dX9_one_35 (by decide) (fun h => absurd h (by decide)) (fun _ => ?_)
      refine pl_aload_n (pc := 38) dX9_one_38 rfl rfl ?_
      refine pl_iload_n (pc := 39) dX9_one_39 rfl rfl ?_
      refine pl_callSA (pc := 40) (As := [_]) (C2 := 0) (N2 := 0) mdX9_toldOf q2874 q2875 q154 dX9_one_40 rfl rfl (Nat.le_of_ble_eq_true rfl) (w_X9_toldOf (d := d - 1) (by omega) (k := 1) (by decide)) (by omega) (by decide) (by decide) (fun a1 v1 sc1 => ?_)
      refine pl_callVB (pc := 43) (As := [_]) (C2 := 0) (N2 := 0) ckX9 mdX9_eat rfl q2882 q2884 qs85 q154 dX9_one_43 rfl rfl (Nat.le_of_ble_eq_true rfl) (mm_o hA) (R_eat (d := d - 1) (by omega) hA tx0 hl hl2 h (ws := toldW 1) sc1 (by decide) (by decide)) (by omega) (by decide) (by decide) (fun b9 σ q9 => ?_)
      obtain ⟨e9, h⟩ := q9
      have e8 : eatR B n (toldW 1) (.inr (sk B n p, o, L)) = (isW B (sk B n (sk B n p)) (toldW 1), .inr (if isW B (sk B n (sk B n p)) (toldW 1) = true then sk B n (sk B n p) + (toldW 1).length else sk B n (sk B n p), o, L)) := rfl
      rw [hss] at e8
      rw [e8] at h e9
      cases hw1 : isW B (sk B n p) (toldW 1)
      · rw [hw1] at h e9
        have h : PR n l c σ0 (.inr (sk B n p, o, L)) σ := h
        refine PJ.top (y := nI 0) (by rw [e9]; rfl) ?_
        refine pj_if_ne (pc := 46) (tgt := 52) dX9_one_46 (by decide) (fun h => absurd h (by decide)) (fun _ => ?_)
        refine pj_goto (pc := 49) (tgt := 60) dX9_one_49 (by decide) ?_
        refine pl_iinc (pc := 60) (v := nI 2) (lv' := [(1, _), (0, _)]) dX9_one_60 rfl (by rfl) (by decide) rfl ?_
        refine pj_goto (pc := 63) (tgt := 33) dX9_one_63 (by decide) ?_
        refine pl_iload_n (pc := 33) dX9_one_33 rfl rfl ?_
        refine pl_iconst (pc := 34) (v := 5) dX9_one_34 (by rfl) ?_
        refine pj_icmp_ge (pc := 35) (tgt := 66) dX9_one_35 (by decide) (fun h => absurd h (by decide)) (fun _ => ?_)
        refine pl_aload_n (pc := 38) dX9_one_38 rfl rfl ?_
        refine pl_iload_n (pc := 39) dX9_one_39 rfl rfl ?_
        refine pl_callSA (pc := 40) (As := [_]) (C2 := 0) (N2 := 0) mdX9_toldOf q2874 q2875 q154 dX9_one_40 rfl rfl (Nat.le_of_ble_eq_true rfl) (w_X9_toldOf (d := d - 1) (by omega) (k := 2) (by decide)) (by omega) (by decide) (by decide) (fun a2 v2 sc2 => ?_)
        refine pl_callVB (pc := 43) (As := [_]) (C2 := 0) (N2 := 0) ckX9 mdX9_eat rfl q2882 q2884 qs85 q154 dX9_one_43 rfl rfl (Nat.le_of_ble_eq_true rfl) (mm_o hA) (R_eat (d := d - 1) (by omega) hA tx0 hl hl2 h (ws := toldW 2) sc2 (by decide) (by decide)) (by omega) (by decide) (by decide) (fun b9 σ q9 => ?_)
        obtain ⟨e9, h⟩ := q9
        have e8 : eatR B n (toldW 2) (.inr (sk B n p, o, L)) = (isW B (sk B n (sk B n p)) (toldW 2), .inr (if isW B (sk B n (sk B n p)) (toldW 2) = true then sk B n (sk B n p) + (toldW 2).length else sk B n (sk B n p), o, L)) := rfl
        rw [hss] at e8
        rw [e8] at h e9
        cases hw2 : isW B (sk B n p) (toldW 2)
        · rw [hw2] at h e9
          have h : PR n l c σ0 (.inr (sk B n p, o, L)) σ := h
          refine PJ.top (y := nI 0) (by rw [e9]; rfl) ?_
          refine pj_if_ne (pc := 46) (tgt := 52) dX9_one_46 (by decide) (fun h => absurd h (by decide)) (fun _ => ?_)
          refine pj_goto (pc := 49) (tgt := 60) dX9_one_49 (by decide) ?_
          refine pl_iinc (pc := 60) (v := nI 3) (lv' := [(1, _), (0, _)]) dX9_one_60 rfl (by rfl) (by decide) rfl ?_
          refine pj_goto (pc := 63) (tgt := 33) dX9_one_63 (by decide) ?_
          refine pl_iload_n (pc := 33) dX9_one_33 rfl rfl ?_
          refine pl_iconst (pc := 34) (v := 5) dX9_one_34 (by rfl) ?_
          refine pj_icmp_ge (pc := 35) (tgt := 66) dX9_one_35 (by decide) (fun h => absurd h (by decide)) (fun _ => ?_)
          refine pl_aload_n (pc := 38) dX9_one_38 rfl rfl ?_
          refine pl_iload_n (pc := 39) dX9_one_39 rfl rfl ?_
          refine pl_callSA (pc := 40) (As := [_]) (C2 := 0) (N2 := 0) mdX9_toldOf q2874 q2875 q154 dX9_one_40 rfl rfl (Nat.le_of_ble_eq_true rfl) (w_X9_toldOf (d := d - 1) (by omega) (k := 3) (by decide)) (by omega) (by decide) (by decide) (fun a3 v3 sc3 => ?_)
          refine pl_callVB (pc := 43) (As := [_]) (C2 := 0) (N2 := 0) ckX9 mdX9_eat rfl q2882 q2884 qs85 q154 dX9_one_43 rfl rfl (Nat.le_of_ble_eq_true rfl) (mm_o hA) (R_eat (d := d - 1) (by omega) hA tx0 hl hl2 h (ws := toldW 3) sc3 (by decide) (by decide)) (by omega) (by decide) (by decide) (fun b9 σ q9 => ?_)
          obtain ⟨e9, h⟩ := q9
          have e8 : eatR B n (toldW 3) (.inr (sk B n p, o, L)) = (isW B (sk B n (sk B n p)) (toldW 3), .inr (if isW B (sk B n (sk B n p)) (toldW 3) = true then sk B n (sk B n p) + (toldW 3).length else sk B n (sk B n p), o, L)) := rfl
          rw [hss] at e8
          rw [e8] at h e9
          cases hw3 : isW B (sk B n p) (toldW 3)
          · rw [hw3] at h e9
            have h : PR n l c σ0 (.inr (sk B n p, o, L)) σ := h
            refine PJ.top (y := nI 0) (by rw [e9]; rfl) ?_
            refine pj_if_ne (pc := 46) (tgt := 52) dX9_one_46 (by decide) (fun h => absurd h (by decide)) (fun _ => ?_)
            refine pj_goto (pc := 49) (tgt := 60) dX9_one_49 (by decide) ?_
            refine pl_iinc (pc := 60) (v := nI 4) (lv' := [(1, _), (0, _)]) dX9_one_60 rfl (by rfl) (by decide) rfl ?_
            refine pj_goto (pc := 63) (tgt := 33) dX9_one_63 (by decide) ?_
            refine pl_iload_n (pc := 33) dX9_one_33 rfl rfl ?_
            refine pl_iconst (pc := 34) (v := 5) dX9_one_34 (by rfl) ?_
            refine pj_icmp_ge (pc := 35) (tgt := 66) dX9_one_35 (by decide) (fun h => absurd h (by decide)) (fun _ => ?_)
            refine pl_aload_n (pc := 38) dX9_one_38 rfl rfl ?_
            refine pl_iload_n (pc := 39) dX9_one_39 rfl rfl ?_
            refine pl_callSA (pc := 40) (As := [_]) (C2 := 0) (N2 := 0) mdX9_toldOf q2874 q2875 q154 dX9_one_40 rfl rfl (Nat.le_of_ble_eq_true rfl) (w_X9_toldOf (d := d - 1) (by omega) (k := 4) (by decide)) (by omega) (by decide) (by decide) (fun a4 v4 sc4 => ?_)
            refine pl_callVB (pc := 43) (As := [_]) (C2 := 0) (N2 := 0) ckX9 mdX9_eat rfl q2882 q2884 qs85 q154 dX9_one_43 rfl rfl (Nat.le_of_ble_eq_true rfl) (mm_o hA) (R_eat (d := d - 1) (by omega) hA tx0 hl hl2 h (ws := toldW 4) sc4 (by decide) (by decide)) (by omega) (by decide) (by decide) (fun b9 σ q9 => ?_)
            obtain ⟨e9, h⟩ := q9
            have e8 : eatR B n (toldW 4) (.inr (sk B n p, o, L)) = (isW B (sk B n (sk B n p)) (toldW 4), .inr (if isW B (sk B n (sk B n p)) (toldW 4) = true then sk B n (sk B n p) + (toldW 4).length else sk B n (sk B n p), o, L)) := rfl
            rw [hss] at e8
            rw [e8] at h e9
            cases hw4 : isW B (sk B n p) (toldW 4)
            · rw [hw4] at h e9
              have h : PR n l c σ0 (.inr (sk B n p, o, L)) σ := h
              refine PJ.top (y := nI 0) (by rw [e9]; rfl) ?_
              refine pj_if_ne (pc := 46) (tgt := 52) dX9_one_46 (by decide) (fun h => absurd h (by decide)) (fun _ => ?_)
              refine pj_goto (pc := 49) (tgt := 60) dX9_one_49 (by decide) ?_
              refine pl_iinc (pc := 60) (v := nI 5) (lv' := [(1, _), (0, _)]) dX9_one_60 rfl (by rfl) (by decide) rfl ?_
              refine pj_goto (pc := 63) (tgt := 33) dX9_one_63 (by decide) ?_
              refine pl_iload_n (pc := 33) dX9_one_33 rfl rfl ?_
              refine pl_iconst (pc := 34) (v := 5) dX9_one_34 (by rfl) ?_
              refine pj_icmp_ge (pc := 35) (tgt := 66) dX9_one_35 (by decide) (fun _ => ?_) (fun h => absurd h (by decide))
              have hfw : firstW B toldW (sk B n p) 5 0 = none := by simp [firstW, hw0, hw1, hw2, hw3, hw4]
              refine pl_aload_n (pc := 66) dX9_one_66 rfl rfl ?_
              refine pl_aload_n (pc := 67) dX9_one_67 rfl rfl ?_
              refine pj_getf (pc := 68) ckX9 11 q2527 dX9_one_68 (by decide) (mm_o hA) rfl ?_
              refine PJ.top (y := nI (sk B n p)) h.2.2.2.2.1 ?_
              refine pl_callVd (pc := 71) (As := [_]) (C2 := 0) (N2 := 0) ckX9 mdX9_byteAt rfl q2808 q2810 qs73 q154 dX9_one_71 rfl rfl (Nat.le_of_ble_eq_true rfl) (mm_o hA) (w_X9_byteAt (d := d - 1) (by omega) hA (tx0.of h.1) (by omega)) (by omega) (by decide) (by decide) ?_
              refine pl_bipush (pc := 74) (v := 40) dX9_one_74 (by rfl) ?_
              refine pl_icmp_ne (pc := 76) (tgt := 95) dX9_one_76 (by decide) (by omega) (by omega) (fun c76 => ?_) (fun c76 => ?_)
              · refine pl_aload_n (pc := 95) dX9_one_95 rfl rfl ?_
                obtain ⟨a273, v273, vr273, sc273⟩ := lit_X9_273 G
                refine pj_ldcwS (pc := 96) vr273 dX9_one_96 ?_
                refine pl_callVB (pc := 99) (As := [_]) (C2 := 0) (N2 := 0) ckX9 mdX9_isWord rfl q2831 q2833 qs76 q154 dX9_one_99 rfl rfl (Nat.le_of_ble_eq_true rfl) (mm_o hA) (R_isWord (d := d - 1) (by omega) hA tx0 h (ws := wLeast) sc273 (by decide) (by decide)) (by omega) (by decide) (by decide) (fun b9 σ q9 => ?_)
                obtain ⟨e9, h⟩ := q9
                rw [hss] at e9 h
                cases hwl : isW B (sk B n p) wLeast
                · rw [hwl] at e9
                  refine PJ.top (y := nI 0) (by rw [e9]; rfl) ?_
                  refine pj_istore_n (pc := 102) (lv' := [(1, _), (0, _)]) dX9_one_102 rfl (by decide) rfl ?_
                  refine pl_iload_n (pc := 103) dX9_one_103 rfl rfl ?_
                  refine pj_if_ne (pc := 104) (tgt := 117) dX9_one_104 (by decide) (fun h => absurd h (by decide)) (fun _ => ?_)
                  refine pl_aload_n (pc := 107) dX9_one_107 rfl rfl ?_
                  obtain ⟨a275, v275, vr275, sc275⟩ := lit_X9_275 G
                  refine pj_ldcwS (pc := 108) vr275 dX9_one_108 ?_
                  refine pl_callVB (pc := 111) (As := [_]) (C2 := 0) (N2 := 0) ckX9 mdX9_isWord rfl q2831 q2833 qs76 q154 dX9_one_111 rfl rfl (Nat.le_of_ble_eq_true rfl) (mm_o hA) (R_isWord (d := d - 1) (by omega) hA tx0 h (ws := wMost) sc275 (by decide) (by decide)) (by omega) (by decide) (by decide) (fun b9 σ q9 => ?_)
                  obtain ⟨e9, h⟩ := q9
                  rw [hss] at e9 h
                  cases hwm : isW B (sk B n p) wMost
                  · rw [hwm] at e9
                    refine PJ.top (y := nI 0) (by rw [e9]; rfl) ?_
                    refine pj_if_eq (pc := 114) (tgt := 176) dX9_one_114 (by decide) (fun _ => ?_) (fun h => absurd h (by decide))
                    refine pl_aload_n (pc := 176) dX9_one_176 rfl rfl ?_
                    obtain ⟨a280, v280, vr280, sc280⟩ := lit_X9_280 G
                    refine pj_ldcwS (pc := 177) vr280 dX9_one_177 ?_
                    refine pl_callVB (pc := 180) (As := [_]) (C2 := 0) (N2 := 0) ckX9 mdX9_eat rfl q2882 q2884 qs85 q154 dX9_one_180 rfl rfl (Nat.le_of_ble_eq_true rfl) (mm_o hA) (R_eat (d := d - 1) (by omega) hA tx0 hl hl2 h (ws := wIf) sc280 (by decide) (by decide)) (by omega) (by decide) (by decide) (fun b9 σ q9 => ?_)
                    obtain ⟨e9, h⟩ := q9
                    have e8 : eatR B n wIf (.inr (sk B n p, o, L)) = (isW B (sk B n (sk B n p)) wIf, .inr (if isW B (sk B n (sk B n p)) wIf = true then sk B n (sk B n p) + 2 else sk B n (sk B n p), o, L)) := rfl
                    rw [hss] at e8
                    rw [e8] at h e9
                    cases hwi : isW B (sk B n p) wIf
                    · rw [hwi] at h e9
                      have h : PR n l c σ0 (.inr (sk B n p, o, L)) σ := h
                      refine PJ.top (y := nI 0) (by rw [e9]; rfl) ?_
                      refine pj_if_ne (pc := 183) (tgt := 196) dX9_one_183 (by decide) (fun h => absurd h (by decide)) (fun _ => ?_)
                      refine pl_aload_n (pc := 186) dX9_one_186 rfl rfl ?_
                      refine pl_iconst (pc := 187) (v := 1) dX9_one_187 (by rfl) ?_
                      refine pl_aload_n (pc := 188) dX9_one_188 rfl rfl ?_
                      refine pj_getf (pc := 189) ckX9 11 q2527 dX9_one_189 (by decide) (mm_o hA) rfl ?_
                      refine PJ.top (y := nI (sk B n p)) h.2.2.2.2.1 ?_
                      refine pl_callVv (pc := 192) (As := [_, _]) (C2 := 0) (N2 := 0) ckX9 mdX9_wrong rfl q2838 q2840 qs77 q154 dX9_one_192 rfl rfl (Nat.le_of_ble_eq_true rfl) (mm_o hA) (w_X9_wrong (d := d - 1) (by omega) hA) (by omega) (by decide) (by decide) ?_
                      refine pj_vret (pc := 195) dX9_one_195 rfl ?_
                      have e1 : r1 = .inl (1, sk B n p) := by
                        have e2 : (PF B n (f + 1) 4 p o).map (appR L) = some r1 := hr
                        rw [PF_4, if_neg hnd, hfw] at e2
                        have e3 : ((if B (sk B n p) = 40 then _ else _ : Option RP)).map (appR L) = some r1 := e2
                        rw [if_neg c76, if_neg (by rw [hwl, hwm]; decide), if_neg (by rw [hwi]; decide)] at e3
                        exact (Option.some.inj e3).symm
                      subst e1
                      exact ⟨rfl, _, rfl, h.bad (by decide) (by decide)⟩
                    · rw [hwi] at h e9
                      have h : PR n l c σ0 (.inr (sk B n p + 2, o, L)) σ := h
                      refine PJ.top (y := nI 1) (by rw [e9]; rfl) ?_
                      have hql : sk B n p + 2 ≤ n := isW_in hwi (by decide) hB hq.2
                      have hr0 : bindR (.inr (sk B n p + 2, o, L)) (fun p o => thenR (thenR (thenR (thenR (thenR (thenR (thenR (bracketP B n p o) (PF B n f 5)) (signP B n 44)) (PF B n f 0)) (signP B n 44)) (PF B n f 0)) (closesP B n 41)) (emitP 8 (nI 0))) = some r1 := by
                        rw [← hr]
                        show _ = (PF B n (f + 1) 4 p o).map (appR L)
                        rw [PF_4, if_neg hnd, hfw]
                        show _ = (if B (sk B n p) = 40 then _ else _ : Option RP).map (appR L)
                        rw [if_neg c76, if_neg (by rw [hwl, hwm]; decide), if_pos hwi]
                        rfl
                      obtain ⟨rs7, ht7, hs8⟩ := thenR_of hr0
                      obtain ⟨rs6, ht6, hs7⟩ := thenR_of ht7
                      obtain ⟨rs5, ht5, hs6⟩ := thenR_of ht6
                      obtain ⟨rs4, ht4, hs5⟩ := thenR_of ht5
                      obtain ⟨rs3, ht3, hs4⟩ := thenR_of ht4
                      obtain ⟨rs2, ht2, hs3⟩ := thenR_of ht3
                      obtain ⟨rs1, ht1, hs2⟩ := thenR_of ht2
                      have hs1 := ht1
                      have A1 := Adv.brk (c := c) (L := L) hB (hql) (Nat.le_refl _) ho (by omega) hs1
                      have A2 := A1.go (fun p hp => PF_in hB f 5 p _ (by decide) hp) hs2
                      have A3 := A2.go (fun p hp => signP_in hp) hs3
                      have A4 := A3.go (fun p hp => PF_in hB f 0 p _ (by decide) hp) hs4
                      have A5 := A4.go (fun p hp => signP_in hp) hs5
                      have A6 := A5.go (fun p hp => PF_in hB f 0 p _ (by decide) hp) hs6
                      have A7 := A6.close hs7
                      refine pj_if_ne (pc := 183) (tgt := 196) dX9_one_183 (by decide) (fun _ => ?_) (fun h => absurd h (by decide))
                      refine pl_aload_n (pc := 196) dX9_one_196 rfl rfl ?_
                      refine pl_callVEv (pc := 197) (As := []) (C2 := 0) (N2 := 0) ckX9 mdX9_bracket rfl q2896 q2898 qs88 q154 dX9_one_197 rfl rfl (Nat.le_of_ble_eq_true rfl) (mm_o hA) (R_bracket (d := d - 1) (by omega) hA tx0 hl hl2 h hs1) (by omega) (by decide) (by decide) (fun σ h => ?_)
                      refine pl_aload_n (pc := 200) dX9_one_200 rfl rfl ?_
                      refine pl_callVEv (pc := 201) (As := []) (C2 := 0) (N2 := 0) ckX9 mdX9_ors rfl q2901 q2903 qs89 q154 dX9_one_201 rfl rfl (Nat.le_of_ble_eq_true rfl) (mm_o hA) ((H f (Nat.le_refl _)).2.2.2.1 rs1 rs2 _ (d - 1) (A1.need (by omega) (fun _ => by omega)) h hs2) (by omega) (by decide) (by decide) (fun σ h => ?_)
                      refine pl_aload_n (pc := 204) dX9_one_204 rfl rfl ?_
                      refine pl_bipush (pc := 205) (v := 44) dX9_one_205 (by rfl) ?_
                      refine pl_callVEv (pc := 207) (As := [_]) (C2 := 0) (N2 := 0) ckX9 mdX9_sign rfl q2846 q2848 qs79 q154 dX9_one_207 rfl rfl (Nat.le_of_ble_eq_true rfl) (mm_o hA) (R_sign (d := d - 1) (by omega) hA tx0 hl hl2 (by decide) h hs3) (by omega) (by decide) (by decide) (fun σ h => ?_)
                      refine pl_aload_n (pc := 210) dX9_one_210 rfl rfl ?_
                      refine pl_callVEv (pc := 211) (As := []) (C2 := 0) (N2 := 0) ckX9 mdX9_sum rfl q2850 q2852 qs80 q154 dX9_one_211 rfl rfl (Nat.le_of_ble_eq_true rfl) (mm_o hA) ((H f (Nat.le_refl _)).1 rs3 rs4 _ (d - 1) (A3.need (by omega) (fun _ => by omega)) h hs4) (by omega) (by decide) (by decide) (fun σ h => ?_)
                      refine pl_aload_n (pc := 214) dX9_one_214 rfl rfl ?_
                      refine pl_bipush (pc := 215) (v := 44) dX9_one_215 (by rfl) ?_
                      refine pl_callVEv (pc := 217) (As := [_]) (C2 := 0) (N2 := 0) ckX9 mdX9_sign rfl q2846 q2848 qs79 q154 dX9_one_217 rfl rfl (Nat.le_of_ble_eq_true rfl) (mm_o hA) (R_sign (d := d - 1) (by omega) hA tx0 hl hl2 (by decide) h hs5) (by omega) (by decide) (by decide) (fun σ h => ?_)
                      refine pl_aload_n (pc := 220) dX9_one_220 rfl rfl ?_
                      refine pl_callVEv (pc := 221) (As := []) (C2 := 0) (N2 := 0) ckX9 mdX9_sum rfl q2850 q2852 qs80 q154 dX9_one_221 rfl rfl (Nat.le_of_ble_eq_true rfl) (mm_o hA) ((H f (Nat.le_refl _)).1 rs5 rs6 _ (d - 1) (A5.need (by omega) (fun _ => by omega)) h hs6) (by omega) (by decide) (by decide) (fun σ h => ?_)
                      refine pl_aload_n (pc := 224) dX9_one_224 rfl rfl ?_
                      refine pl_bipush (pc := 225) (v := 41) dX9_one_225 (by rfl) ?_
                      refine pl_callVEv (pc := 227) (As := [_]) (C2 := 0) (N2 := 0) ckX9 mdX9_closes rfl q2890 q2892 qs87 q154 dX9_one_227 rfl rfl (Nat.le_of_ble_eq_true rfl) (mm_o hA) (R_closes (d := d - 1) (by omega) hA tx0 hl hl2 h (by decide) hs7 A6.hopen) (by omega) (by decide) (by decide) (fun σ h => ?_)
                      refine pl_aload_n (pc := 230) dX9_one_230 rfl rfl ?_
                      refine pl_bipush (pc := 231) (v := 8) dX9_one_231 (by rfl) ?_
                      refine pl_iconst (pc := 233) (v := 0) dX9_one_233 (by rfl) ?_
                      refine pl_callVEv (pc := 234) (As := [_, _]) (C2 := 0) (N2 := 0) ckX9 mdX9_emits rfl q2870 q2872 qs84 q154 dX9_one_234 rfl rfl (Nat.le_of_ble_eq_true rfl) (mm_o hA) (R_emits (d := d - 1) (by omega) hn3 hA hl hl2 h (A7.room (by decide)) hs8) (by omega) (by decide) (by decide) (fun σ h => ?_)
                      refine pj_vret (pc := 237) dX9_one_237 rfl ?_
                      exact ⟨rfl, σ, rfl, h⟩
                  · rw [hwm] at e9
                    refine PJ.top (y := nI 1) (by rw [e9]; rfl) ?_
                    refine pj_if_eq (pc := 114) (tgt := 176) dX9_one_114 (by decide) (fun h => absurd h (by decide)) (fun _ => ?_)
                    have hql : sk B n p + 4 ≤ n := isW_in hwm (by decide) hB hq.2
                    have hr0 : bindR (.inr (sk B n p + 4, o, L)) (fun p o => thenR (thenR (thenR (thenR (thenR (bracketP B n p o) (PF B n f 0)) (signP B n 44)) (PF B n f 0)) (closesP B n 41)) (emitP 7 (nI 0))) = some r1 := by
                      rw [← hr]
                      show _ = (PF B n (f + 1) 4 p o).map (appR L)
                      rw [PF_4, if_neg hnd, hfw]
                      show _ = (if B (sk B n p) = 40 then _ else _ : Option RP).map (appR L)
                      rw [if_neg c76, if_pos (Or.inr hwm)]
                      unfold leastP
                      rw [if_neg (by rw [hwl]; decide), if_neg (by rw [hwl]; decide)]
                      rfl
                    obtain ⟨rs5, ht5, hs6⟩ := thenR_of hr0
                    obtain ⟨rs4, ht4, hs5⟩ := thenR_of ht5
                    obtain ⟨rs3, ht3, hs4⟩ := thenR_of ht4
                    obtain ⟨rs2, ht2, hs3⟩ := thenR_of ht3
                    obtain ⟨rs1, ht1, hs2⟩ := thenR_of ht2
                    have hs1 := ht1
                    have A1 := Adv.brk (c := c) (L := L) hB (hql) (Nat.le_refl _) ho (by omega) hs1
                    have A2 := A1.go (fun p hp => PF_in hB f 0 p _ (by decide) hp) hs2
                    have A3 := A2.go (fun p hp => signP_in hp) hs3
                    have A4 := A3.go (fun p hp => PF_in hB f 0 p _ (by decide) hp) hs4
                    have A5 := A4.close hs5
                    refine pl_aload_n (pc := 117) dX9_one_117 rfl rfl ?_
                    refine pj_dup (pc := 118) dX9_one_118 rfl ?_
                    refine pj_getf (pc := 119) ckX9 11 q2527 dX9_one_119 (by decide) (mm_o hA) rfl ?_
                    refine PJ.top (y := nI (sk B n p)) h.2.2.2.2.1 ?_
                    refine pl_iload_n (pc := 122) dX9_one_122 rfl rfl ?_
                    refine pj_if_eq (pc := 123) (tgt := 130) dX9_one_123 (by decide) (fun _ => ?_) (fun h => absurd h (by decide))
                    refine pl_iconst (pc := 130) (v := 4) dX9_one_130 (by rfl) ?_
                    refine pl_iadd (pc := 131) dX9_one_131 ?_
                    refine pm_putI (pc := 132) 11 hA q2527 dX9_one_132 (by decide) rfl (by rfl) (by rfl) rfl ?_
                    have h := h.at (p1 := sk B n p + 4) (by omega) hql
                    refine pl_aload_n (pc := 135) dX9_one_135 rfl rfl ?_
                    refine pl_callVEv (pc := 136) (As := []) (C2 := 0) (N2 := 0) ckX9 mdX9_bracket rfl q2896 q2898 qs88 q154 dX9_one_136 rfl rfl (Nat.le_of_ble_eq_true rfl) (mm_o hA) (R_bracket (d := d - 1) (by omega) hA tx0 hl hl2 h hs1) (by omega) (by decide) (by decide) (fun σ h => ?_)
                    refine pl_aload_n (pc := 139) dX9_one_139 rfl rfl ?_
                    refine pl_callVEv (pc := 140) (As := []) (C2 := 0) (N2 := 0) ckX9 mdX9_sum rfl q2850 q2852 qs80 q154 dX9_one_140 rfl rfl (Nat.le_of_ble_eq_true rfl) (mm_o hA) ((H f (Nat.le_refl _)).1 rs1 rs2 _ (d - 1) (A1.need (by omega) (fun _ => by omega)) h hs2) (by omega) (by decide) (by decide) (fun σ h => ?_)
                    refine pl_aload_n (pc := 143) dX9_one_143 rfl rfl ?_
                    refine pl_bipush (pc := 144) (v := 44) dX9_one_144 (by rfl) ?_
                    refine pl_callVEv (pc := 146) (As := [_]) (C2 := 0) (N2 := 0) ckX9 mdX9_sign rfl q2846 q2848 qs79 q154 dX9_one_146 rfl rfl (Nat.le_of_ble_eq_true rfl) (mm_o hA) (R_sign (d := d - 1) (by omega) hA tx0 hl hl2 (by decide) h hs3) (by omega) (by decide) (by decide) (fun σ h => ?_)
                    refine pl_aload_n (pc := 149) dX9_one_149 rfl rfl ?_
                    refine pl_callVEv (pc := 150) (As := []) (C2 := 0) (N2 := 0) ckX9 mdX9_sum rfl q2850 q2852 qs80 q154 dX9_one_150 rfl rfl (Nat.le_of_ble_eq_true rfl) (mm_o hA) ((H f (Nat.le_refl _)).1 rs3 rs4 _ (d - 1) (A3.need (by omega) (fun _ => by omega)) h hs4) (by omega) (by decide) (by decide) (fun σ h => ?_)
                    refine pl_aload_n (pc := 153) dX9_one_153 rfl rfl ?_
                    refine pl_bipush (pc := 154) (v := 41) dX9_one_154 (by rfl) ?_
                    refine pl_callVEv (pc := 156) (As := [_]) (C2 := 0) (N2 := 0) ckX9 mdX9_closes rfl q2890 q2892 qs87 q154 dX9_one_156 rfl rfl (Nat.le_of_ble_eq_true rfl) (mm_o hA) (R_closes (d := d - 1) (by omega) hA tx0 hl hl2 h (by decide) hs5 A4.hopen) (by omega) (by decide) (by decide) (fun σ h => ?_)
                    refine pl_aload_n (pc := 159) dX9_one_159 rfl rfl ?_
                    refine pl_iload_n (pc := 160) dX9_one_160 rfl rfl ?_
                    refine pj_if_eq (pc := 161) (tgt := 169) dX9_one_161 (by decide) (fun _ => ?_) (fun h => absurd h (by decide))
                    refine pl_bipush (pc := 169) (v := 7) dX9_one_169 (by rfl) ?_
                    refine pl_iconst (pc := 171) (v := 0) dX9_one_171 (by rfl) ?_
                    refine pl_callVEv (pc := 172) (As := [_, _]) (C2 := 0) (N2 := 0) ckX9 mdX9_emits rfl q2870 q2872 qs84 q154 dX9_one_172 rfl rfl (Nat.le_of_ble_eq_true rfl) (mm_o hA) (R_emits (d := d - 1) (by omega) hn3 hA hl hl2 h (A5.room (by decide)) hs6) (by omega) (by decide) (by decide) (fun σ h => ?_)
                    refine pj_vret (pc := 175) dX9_one_175 rfl ?_
                    exact ⟨rfl, σ, rfl, h⟩
                · rw [hwl] at e9
                  refine PJ.top (y := nI 1) (by rw [e9]; rfl) ?_
                  refine pj_istore_n (pc := 102) (lv' := [(1, _), (0, _)]) dX9_one_102 rfl (by decide) rfl ?_
                  refine pl_iload_n (pc := 103) dX9_one_103 rfl rfl ?_
                  refine pj_if_ne (pc := 104) (tgt := 117) dX9_one_104 (by decide) (fun _ => ?_) (fun h => absurd h (by decide))
                  have hql : sk B n p + 5 ≤ n := isW_in hwl (by decide) hB hq.2
                  have hr0 : bindR (.inr (sk B n p + 5, o, L)) (fun p o => thenR (thenR (thenR (thenR (thenR (bracketP B n p o) (PF B n f 0)) (signP B n 44)) (PF B n f 0)) (closesP B n 41)) (emitP 6 (nI 0))) = some r1 := by
                    rw [← hr]
                    show _ = (PF B n (f + 1) 4 p o).map (appR L)
                    rw [PF_4, if_neg hnd, hfw]
                    show _ = (if B (sk B n p) = 40 then _ else _ : Option RP).map (appR L)
                    rw [if_neg c76, if_pos (Or.inl hwl)]
                    unfold leastP
                    rw [if_pos hwl, if_pos hwl]
                    rfl
                  obtain ⟨rs5, ht5, hs6⟩ := thenR_of hr0
                  obtain ⟨rs4, ht4, hs5⟩ := thenR_of ht5
                  obtain ⟨rs3, ht3, hs4⟩ := thenR_of ht4
                  obtain ⟨rs2, ht2, hs3⟩ := thenR_of ht3
                  obtain ⟨rs1, ht1, hs2⟩ := thenR_of ht2
                  have hs1 := ht1
                  have A1 := Adv.brk (c := c) (L := L) hB (hql) (Nat.le_refl _) ho (by omega) hs1
                  have A2 := A1.go (fun p hp => PF_in hB f 0 p _ (by decide) hp) hs2
                  have A3 := A2.go (fun p hp => signP_in hp) hs3
                  have A4 := A3.go (fun p hp => PF_in hB f 0 p _ (by decide) hp) hs4
                  have A5 := A4.close hs5
                  refine pl_aload_n (pc := 117) dX9_one_117 rfl rfl ?_
                  refine pj_dup (pc := 118) dX9_one_118 rfl ?_
                  refine pj_getf (pc := 119) ckX9 11 q2527 dX9_one_119 (by decide) (mm_o hA) rfl ?_
                  refine PJ.top (y := nI (sk B n p)) h.2.2.2.2.1 ?_
                  refine pl_iload_n (pc := 122) dX9_one_122 rfl rfl ?_
                  refine pj_if_eq (pc := 123) (tgt := 130) dX9_one_123 (by decide) (fun h => absurd h (by decide)) (fun _ => ?_)
                  refine pl_iconst (pc := 126) (v := 5) dX9_one_126 (by rfl) ?_
                  refine pj_goto (pc := 127) (tgt := 131) dX9_one_127 (by decide) ?_
                  refine pl_iadd (pc := 131) dX9_one_131 ?_
                  refine pm_putI (pc := 132) 11 hA q2527 dX9_one_132 (by decide) rfl (by rfl) (by rfl) rfl ?_
                  have h := h.at (p1 := sk B n p + 5) (by omega) hql
                  refine pl_aload_n (pc := 135) dX9_one_135 rfl rfl ?_
                  refine pl_callVEv (pc := 136) (As := []) (C2 := 0) (N2 := 0) ckX9 mdX9_bracket rfl q2896 q2898 qs88 q154 dX9_one_136 rfl rfl (Nat.le_of_ble_eq_true rfl) (mm_o hA) (R_bracket (d := d - 1) (by omega) hA tx0 hl hl2 h hs1) (by omega) (by decide) (by decide) (fun σ h => ?_)
                  refine pl_aload_n (pc := 139) dX9_one_139 rfl rfl ?_
                  refine pl_callVEv (pc := 140) (As := []) (C2 := 0) (N2 := 0) ckX9 mdX9_sum rfl q2850 q2852 qs80 q154 dX9_one_140 rfl rfl (Nat.le_of_ble_eq_true rfl) (mm_o hA) ((H f (Nat.le_refl _)).1 rs1 rs2 _ (d - 1) (A1.need (by omega) (fun _ => by omega)) h hs2) (by omega) (by decide) (by decide) (fun σ h => ?_)
                  refine pl_aload_n (pc := 143) dX9_one_143 rfl rfl ?_
                  refine pl_bipush (pc := 144) (v := 44) dX9_one_144 (by rfl) ?_
                  refine pl_callVEv (pc := 146) (As := [_]) (C2 := 0) (N2 := 0) ckX9 mdX9_sign rfl q2846 q2848 qs79 q154 dX9_one_146 rfl rfl (Nat.le_of_ble_eq_true rfl) (mm_o hA) (R_sign (d := d - 1) (by omega) hA tx0 hl hl2 (by decide) h hs3) (by omega) (by decide) (by decide) (fun σ h => ?_)
                  refine pl_aload_n (pc := 149) dX9_one_149 rfl rfl ?_
                  refine pl_callVEv (pc := 150) (As := []) (C2 := 0) (N2 := 0) ckX9 mdX9_sum rfl q2850 q2852 qs80 q154 dX9_one_150 rfl rfl (Nat.le_of_ble_eq_true rfl) (mm_o hA) ((H f (Nat.le_refl _)).1 rs3 rs4 _ (d - 1) (A3.need (by omega) (fun _ => by omega)) h hs4) (by omega) (by decide) (by decide) (fun σ h => ?_)
                  refine pl_aload_n (pc := 153) dX9_one_153 rfl rfl ?_
                  refine pl_bipush (pc := 154) (v := 41) dX9_one_154 (by rfl) ?_
                  refine pl_callVEv (pc := 156) (As := [_]) (C2 := 0) (N2 := 0) ckX9 mdX9_closes rfl q2890 q2892 qs87 q154 dX9_one_156 rfl rfl (Nat.le_of_ble_eq_true rfl) (mm_o hA) (R_closes (d := d - 1) (by omega) hA tx0 hl hl2 h (by decide) hs5 A4.hopen) (by omega) (by decide) (by decide) (fun σ h => ?_)
                  refine pl_aload_n (pc := 159) dX9_one_159 rfl rfl ?_
                  refine pl_iload_n (pc := 160) dX9_one_160 rfl rfl ?_
                  refine pj_if_eq (pc := 161) (tgt := 169) dX9_one_161 (by decide) (fun h => absurd h (by decide)) (fun _ => ?_)
                  refine pl_bipush (pc := 164) (v := 6) dX9_one_164 (by rfl) ?_
                  refine pj_goto (pc := 166) (tgt := 171) dX9_one_166 (by decide) ?_
                  refine pl_iconst (pc := 171) (v := 0) dX9_one_171 (by rfl) ?_
                  refine pl_callVEv (pc := 172) (As := [_, _]) (C2 := 0) (N2 := 0) ckX9 mdX9_emits rfl q2870 q2872 qs84 q154 dX9_one_172 rfl rfl (Nat.le_of_ble_eq_true rfl) (mm_o hA) (R_emits (d := d - 1) (by omega) hn3 hA hl hl2 h (A5.room (by decide)) hs6) (by omega) (by decide) (by decide) (fun σ h => ?_)
                  refine pj_vret (pc := 175) dX9_one_175 rfl ?_
                  exact ⟨rfl, σ, rfl, h⟩
              · have hlt : sk B n p < n := by
                  rcases Nat.lt_or_ge (sk B n p) n with z | z
                  · exact z
                  · rw [hB _ z] at c76; cases c76
                have hql : sk B n p + 1 ≤ n := hlt
                have hr0 : bindR (.inr (sk B n p, o, L)) (fun p o => thenR (thenR (opensP 1 p o) (PF B n f 0)) (closesP B n 41)) = some r1 := by
                  rw [← hr]
                  show _ = (PF B n (f + 1) 4 p o).map (appR L)
                  rw [PF_4, if_neg hnd, hfw]
                  show _ = (if B (sk B n p) = 40 then _ else _ : Option RP).map (appR L)
                  rw [if_pos c76]
                  rfl
                obtain ⟨rs2, hs0, hs3⟩ := thenR_of hr0
                obtain ⟨rs1, hs1, hs2⟩ := thenR_of hs0
                have A1 := Adv.opens (c := c) (L := L) hql ho (by omega) hs1
                have A2 := A1.go (fun p hp => PF_in hB f 0 p _ (by decide) hp) hs2
                refine pl_aload_n (pc := 79) dX9_one_79 rfl rfl ?_
                refine pl_iconst (pc := 80) (v := 1) dX9_one_80 (by rfl) ?_
                refine pl_callVEv (pc := 81) (As := [_]) (C2 := 0) (N2 := 0) ckX9 mdX9_opens rfl q2886 q2888 qs86 q154 dX9_one_81 rfl rfl (Nat.le_of_ble_eq_true rfl) (mm_o hA) (o_X9_opens (d := d - 1) (by omega) hA tx0 hl hl2 h hql hs1) (by omega) (by decide) (by decide) (fun σ h => ?_)
                refine pl_aload_n (pc := 84) dX9_one_84 rfl rfl ?_
                refine pl_callVEv (pc := 85) (As := []) (C2 := 0) (N2 := 0) ckX9 mdX9_sum rfl q2850 q2852 qs80 q154 dX9_one_85 rfl rfl (Nat.le_of_ble_eq_true rfl) (mm_o hA) ((H f (Nat.le_refl _)).1 rs1 rs2 _ (d - 1) (A1.need (by omega) (fun _ => by omega)) h hs2) (by omega) (by decide) (by decide) (fun σ h => ?_)
                refine pl_aload_n (pc := 88) dX9_one_88 rfl rfl ?_
                refine pl_bipush (pc := 89) (v := 41) dX9_one_89 (by rfl) ?_
                refine pl_callVEv (pc := 91) (As := [_]) (C2 := 0) (N2 := 0) ckX9 mdX9_closes rfl q2890 q2892 qs87 q154 dX9_one_91 rfl rfl (Nat.le_of_ble_eq_true rfl) (mm_o hA) (R_closes (d := d - 1) (by omega) hA tx0 hl hl2 h (by decide) hs3 A2.hopen) (by omega) (by decide) (by decide) (fun σ h => ?_)
                refine pj_vret (pc := 94) dX9_one_94 rfl ?_
                exact ⟨rfl, σ, rfl, h⟩
            · rw [hw4] at h e9
              have hwl := told_len 4
              have h : PR n l c σ0 (.inr (sk B n p + (toldW 4).length, o, L)) σ := h
              refine PJ.top (y := nI 1) (by rw [e9]; rfl) ?_
              have hfw : firstW B toldW (sk B n p) 5 0 = some 4 := by simp [firstW, hw0, hw1, hw2, hw3, hw4]
              have hr0 : bindR (.inr (sk B n p + (toldW 4).length, o, L)) (emitP 15 (nI 4)) = some r1 := by
                rw [← hr]
                show _ = (PF B n (f + 1) 4 p o).map (appR L)
                rw [PF_4, if_neg hnd, hfw]
                rfl
              refine pj_if_ne (pc := 46) (tgt := 52) dX9_one_46 (by decide) (fun _ => ?_) (fun h => absurd h (by decide))
              refine pl_aload_n (pc := 52) dX9_one_52 rfl rfl ?_
              refine pl_bipush (pc := 53) (v := 15) dX9_one_53 (by rfl) ?_
              refine pl_iload_n (pc := 55) dX9_one_55 rfl rfl ?_
              refine pl_callVEv (pc := 56) (As := [_, _]) (C2 := 0) (N2 := 0) ckX9 mdX9_emits rfl q2870 q2872 qs84 q154 dX9_one_56 rfl rfl (Nat.le_of_ble_eq_true rfl) (mm_o hA) (R_emits (d := d - 1) (by omega) hn3 hA hl hl2 h (fun x y z e => by cases e; omega) hr0) (by omega) (by decide) (by decide) (fun σ h => ?_)
              refine pj_vret (pc := 59) dX9_one_59 rfl ?_
              exact ⟨rfl, σ, rfl, h⟩
          · rw [hw3] at h e9
            have hwl := told_len 3
            have h : PR n l c σ0 (.inr (sk B n p + (toldW 3).length, o, L)) σ := h
            refine PJ.top (y := nI 1) (by rw [e9]; rfl) ?_
            have hfw : firstW B toldW (sk B n p) 5 0 = some 3 := by simp [firstW, hw0, hw1, hw2, hw3]
            have hr0 : bindR (.inr (sk B n p + (toldW 3).length, o, L)) (emitP 15 (nI 3)) = some r1 := by
              rw [← hr]
              show _ = (PF B n (f + 1) 4 p o).map (appR L)
              rw [PF_4, if_neg hnd, hfw]
              rfl
            refine pj_if_ne (pc := 46) (tgt := 52) dX9_one_46 (by decide) (fun _ => ?_) (fun h => absurd h (by decide))
            refine pl_aload_n (pc := 52) dX9_one_52 rfl rfl ?_
            refine pl_bipush (pc := 53) (v := 15) dX9_one_53 (by rfl) ?_
            refine pl_iload_n (pc := 55) dX9_one_55 rfl rfl ?_
            refine pl_callVEv (pc := 56) (As := [_, _]) (C2 := 0) (N2 := 0) ckX9 mdX9_emits rfl q2870 q2872 qs84 q154 dX9_one_56 rfl rfl (Nat.le_of_ble_eq_true rfl) (mm_o hA) (R_emits (d := d - 1) (by omega) hn3 hA hl hl2 h (fun x y z e => by cases e; omega) hr0) (by omega) (by decide) (by decide) (fun σ h => ?_)
            refine pj_vret (pc := 59) dX9_one_59 rfl ?_
            exact ⟨rfl, σ, rfl, h⟩
        · rw [hw2] at h e9
          have hwl := told_len 2
          have h : PR n l c σ0 (.inr (sk B n p + (toldW 2).length, o, L)) σ := h
          refine PJ.top (y := nI 1) (by rw [e9]; rfl) ?_
          have hfw : firstW B toldW (sk B n p) 5 0 = some 2 := by simp [firstW, hw0, hw1, hw2]
          have hr0 : bindR (.inr (sk B n p + (toldW 2).length, o, L)) (emitP 15 (nI 2)) = some r1 := by
            rw [← hr]
            show _ = (PF B n (f + 1) 4 p o).map (appR L)
            rw [PF_4, if_neg hnd, hfw]
            rfl
          refine pj_if_ne (pc := 46) (tgt := 52) dX9_one_46 (by decide) (fun _ => ?_) (fun h => absurd h (by decide))
          refine pl_aload_n (pc := 52) dX9_one_52 rfl rfl ?_
          refine pl_bipush (pc := 53) (v := 15) dX9_one_53 (by rfl) ?_
          refine pl_iload_n (pc := 55) dX9_one_55 rfl rfl ?_
          refine pl_callVEv (pc := 56) (As := [_, _]) (C2 := 0) (N2 := 0) ckX9 mdX9_emits rfl q2870 q2872 qs84 q154 dX9_one_56 rfl rfl (Nat.le_of_ble_eq_true rfl) (mm_o hA) (R_emits (d := d - 1) (by omega) hn3 hA hl hl2 h (fun x y z e => by cases e; omega) hr0) (by omega) (by decide) (by decide) (fun σ h => ?_)
          refine pj_vret (pc := 59) dX9_one_59 rfl ?_
          exact ⟨rfl, σ, rfl, h⟩
      · rw [hw1] at h e9
        have hwl := told_len 1
        have h : PR n l c σ0 (.inr (sk B n p + (toldW 1).length, o, L)) σ := h
        refine PJ.top (y := nI 1) (by rw [e9]; rfl) ?_
        have hfw : firstW B toldW (sk B n p) 5 0 = some 1 := by simp [firstW, hw0, hw1]
        have hr0 : bindR (.inr (sk B n p + (toldW 1).length, o, L)) (emitP 15 (nI 1)) = some r1 := by
          rw [← hr]
          show _ = (PF B n (f + 1) 4 p o).map (appR L)
          rw [PF_4, if_neg hnd, hfw]
          rfl
        refine pj_if_ne (pc := 46) (tgt := 52) dX9_one_46 (by decide) (fun _ => ?_) (fun h => absurd h (by decide))
        refine pl_aload_n (pc := 52) dX9_one_52 rfl rfl ?_
        refine pl_bipush (pc := 53) (v := 15) dX9_one_53 (by rfl) ?_
        refine pl_iload_n (pc := 55) dX9_one_55 rfl rfl ?_
        refine pl_callVEv (pc := 56) (As := [_, _]) (C2 := 0) (N2 := 0) ckX9 mdX9_emits rfl q2870 q2872 qs84 q154 dX9_one_56 rfl rfl (Nat.le_of_ble_eq_true rfl) (mm_o hA) (R_emits (d := d - 1) (by omega) hn3 hA hl hl2 h (fun x y z e => by cases e; omega) hr0) (by omega) (by decide) (by decide) (fun σ h => ?_)
        refine pj_vret (pc := 59) dX9_one_59 rfl ?_
        exact ⟨rfl, σ, rfl, h⟩
    · rw [hw0] at h e9
      have hwl := told_len 0
      have h : PR n l c σ0 (.inr (sk B n p + (toldW 0).length, o, L)) σ := h
      refine PJ.top (y := nI 1) (by rw [e9]; rfl) ?_
      have hfw : firstW B toldW (sk B n p) 5 0 = some 0 := by simp [firstW, hw0]
      have hr0 : bindR (.inr (sk B n p + (toldW 0).length, o, L)) (emitP 15 (nI 0)) = some r1 := by
        rw [← hr]
        show _ = (PF B n (f + 1) 4 p o).map (appR L)
        rw [PF_4, if_neg hnd, hfw]
        rfl
      refine pj_if_ne (pc := 46) (tgt := 52) dX9_one_46 (by decide) (fun _ => ?_) (fun h => absurd h (by decide))
      refine pl_aload_n (pc := 52) dX9_one_52 rfl rfl ?_
      refine pl_bipush (pc := 53) (v := 15) dX9_one_53 (by rfl) ?_
      refine pl_iload_n (pc := 55) dX9_one_55 rfl rfl ?_
      refine pl_callVEv (pc := 56) (As := [_, _]) (C2 := 0) (N2 := 0) ckX9 mdX9_emits rfl q2870 q2872 qs84 q154 dX9_one_56 rfl rfl (Nat.le_of_ble_eq_true rfl) (mm_o hA) (R_emits (d := d - 1) (by omega) hn3 hA hl hl2 h (fun x y z e => by cases e; omega) hr0) (by omega) (by decide) (by decide) (fun σ h => ?_)
      refine pj_vret (pc := 59) dX9_one_59 rfl ?_
      exact ⟨rfl, σ, rfl, h⟩
  · have hrd : bindR (.inr (sk B n p, o, L)) (figP B n) = some r1 := by
      rw [← hr]
      show _ = (PF B n (f + 1) 4 p o).map (appR L)
      rw [PF_4, if_pos c23]
      rfl
    refine pl_aload_n (pc := 26) dX9_one_26 rfl rfl ?_
    refine pl_callVEv (pc := 27) (As := []) (C2 := 0) (N2 := 0) ckX9 mdX9_figures rfl q2865 q2867 qs83 q154 dX9_one_27 rfl rfl (Nat.le_of_ble_eq_true rfl) (mm_o hA) (o_X9_figures (d := d - 1) (by omega) hA tx0 hl hl2 h c23 hrd) (by omega) (by decide) (by decide) (fun σ h => ?_)
    refine pj_vret (pc := 30) dX9_one_30 rfl ?_
    exact ⟨rfl, σ, rfl, h⟩
