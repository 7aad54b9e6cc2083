set_option maxRecDepth 100000
/-- a result so far that has room for k more, o open -/
def Adv (n c k o : Nat) (r : RP) : Prop := ∀ p1 o1 L1, r = .inr (p1, o1, L1) → p1 ≤ n ∧ o1 = o ∧ o ≤ 8 ∧ c + L1.length + k ≤ p1
theorem bindR_inr {p o : Nat} {L : List Cd} {f : Nat → Nat → Option RP} {r2 : RP} (e : bindR (.inr (p, o, L)) f = some r2) : (∃ z, f p o = some (.inl z) ∧ r2 = .inl z) ∨ ∃ p2 o2 L2, f p o = some (.inr (p2, o2, L2)) ∧ r2 = .inr (p2, o2, L ++ L2) := by
  have h1 : (f p o).map (appR L) = some r2 := e
  cases hf1 : f p o with
  | none => rw [hf1] at h1; cases h1
  | some y =>
    rw [hf1] at h1
    rcases y with z | ⟨p2, o2, L2⟩
    · exact Or.inl ⟨z, rfl, (Option.some.inj h1).symm⟩
    · exact Or.inr ⟨p2, o2, L2, rfl, (Option.some.inj h1).symm⟩
theorem Adv.go {n c k o : Nat} {r r2 : RP} {f : Nat → Nat → Option RP} (h : Adv n c k o r) (hf : ∀ p, p ≤ n → GR n p o (f p o)) (e : bindR r f = some r2) : Adv n c k o r2 := by
  rcases r with z | ⟨p, o1, L⟩
  · rw [bindR_bad e]; intro p1 o1 L1 z; cases z
  · obtain ⟨a1, a2, a3, a4⟩ := h _ _ _ rfl
    subst a2
    rcases bindR_inr e with ⟨z, -, rfl⟩ | ⟨p2, o2, L2, e1, rfl⟩
    · intro p1 o1 L1 z; cases z
    · obtain ⟨b1, b2, b3⟩ := hf p a1 _ _ _ e1
      intro p1 o1 L1 z
      cases z
      exact ⟨b3, b1, a3, by simp; omega⟩
theorem Adv.close {n c k o ch : Nat} {B : Nat → Nat} {r r2 : RP} (h : Adv n c k (o + 1) r) (e : bindR r (closesP B n ch) = some r2) : Adv n c k o r2 := by
  rcases r with z | ⟨p, o1, L⟩
  · rw [bindR_bad e]; intro p1 o1 L1 z; cases z
  · obtain ⟨a1, a2, a3, a4⟩ := h _ _ _ rfl
    subst a2
    rcases bindR_inr e with ⟨z, -, rfl⟩ | ⟨p2, o2, L2, e1, rfl⟩
    · intro p1 o1 L1 z; cases z
    · obtain ⟨b1, b2, b3⟩ := closesP_in a1 _ _ _ e1
      intro p1 o1 L1 z
      cases z
      exact ⟨b3, b1, by omega, by simp; omega⟩
theorem Adv.opens {n c o q b : Nat} {L : List Cd} {r : RP} (hq : q + b ≤ n) (ho : o ≤ 8) (hc : c + L.length ≤ q) (e : bindR (.inr (q, o, L)) (opensP b) = some r) : Adv n c b (o + 1) r := by
  rcases bindR_inr e with ⟨z, -, rfl⟩ | ⟨p2, o2, L2, e1, rfl⟩
  · intro p1 o1 L1 z; cases z
  · obtain ⟨a, b1, c1, d1⟩ := opensP_in e1
    intro p1 o1 L1 z
    cases z
    subst c1
    exact ⟨by omega, b1, by omega, by simp; omega⟩
theorem Adv.brk {n c o q q0 : Nat} {B : Nat → Nat} {L : List Cd} {r : RP} (hB : ∀ k, n ≤ k → B k = 0) (hq : q ≤ n) (h0 : q0 ≤ q) (ho : o ≤ 8) (hc : c + L.length ≤ q0) (e : bindR (.inr (q, o, L)) (bracketP B n) = some r) : Adv n c 1 (o + 1) r := by
  rcases bindR_inr e with ⟨z, -, rfl⟩ | ⟨p2, o2, L2, e1, rfl⟩
  · intro p1 o1 L1 z; cases z
  · obtain ⟨a, b1, c1, d1, e9⟩ := bracketP_in hq hB e1
    intro p1 o1 L1 z
    cases z
    subst d1
    exact ⟨b1, c1, by omega, by simp; omega⟩
theorem Adv.need {n c k o kk d : Nat} {r : RP} (h : Adv n c k o r) (h1 : 10 + kk ≤ d) (h2 : o ≤ 8 → 20 + 6 * (8 - o) + kk ≤ d) : needd kk r ≤ d := by
  rcases r with z | ⟨p, o1, L⟩
  · exact h1
  · obtain ⟨a1, a2, a3, a4⟩ := h _ _ _ rfl
    subst a2
    exact h2 a3
theorem Adv.room {n c k o : Nat} {r : RP} (h : Adv n c k o r) (hk : 1 ≤ k) : ∀ p o L, r = .inr (p, o, L) → c + L.length + 1 ≤ p := fun p1 o1 L1 e => by
  obtain ⟨-, -, -, a4⟩ := h _ _ _ e
  omega
theorem Adv.hopen {n c k o ch : Nat} {B : Nat → Nat} {r : RP} (h : Adv n c k (o + 1) r) : ∀ p o1 L, bindR r (signP B n ch) = some (.inr (p, o1, L)) → 1 ≤ o1 := fun p o1 L e => by
  obtain ⟨-, a2, -, -⟩ := (h.go (fun p hp => signP_in hp) e) _ _ _ rfl
  omega
theorem R_isWord {g : GP} {μ : Mem} {d : Nat} (hd : 5 ≤ d) {ad : Nat → Nat} {σ0 σ : MS} {n l c : Nat} {B : Nat → Nat} (hA : Inj ad 18) (tx0 : Txt σ0 n B) {p o : Nat} {L : List Cd} (h : PR n l c σ0 (.inr (p, o, L)) σ) {a v : Nat} {ws : List Nat} (sc : StrC g a v (KN ws)) (hws : ∀ x ∈ ws, 0 < x ∧ x < 256) (hw8 : ws.length ≤ 8) : PM g yX9_isWord (ws_ yX9_isWord cX9_isWord 3 (some .boolean)) d 0 0 [.ref (ad 0), .ref a] (mm g ad μ σ) (fun o9 M => ∃ (b9 : Bool) (σ1 : MS), o9 = .inl (some (.int (bI b9))) ∧ M = mm g ad μ σ1 ∧ b9 = isW B (sk B n p) ws ∧ PR n l c σ0 (.inr (sk B n p, o, L)) σ1) := by
  have tx := tx0.of h.1
  obtain ⟨-, a1, a2, a3, h4, -⟩ := id h
  have hq := sk_in (B := B) a1
  exact (w_X9_isWord hd hA tx sc (KN_pos hws) hw8 h4 a1).post (fun o9 M q => ⟨_, _, q.1, q.2, rfl, h.at hq.1 hq.2⟩)
set_option maxHeartbeats 400000 in
theorem K_test {g : GP} {μ : Mem} {ad : Nat → Nat} {σ0 : MS} {n l c : Nat} {B : Nat → Nat} (hA : Inj ad 18) (tx0 : Txt σ0 n B) (hl : σ0.1 16 = nI l) (hl2 : l < 12) {f : Nat} (H : ∀ f1, f1 ≤ f → KA g ad μ n l c σ0 B f1) : Kc g ad μ n l c σ0 B yX9_test (ws_ yX9_test cX9_test 2 none) 9 3 (f + 1) := by
  intro r r1 σ d hd h hr
  have hB := tx0.2.2.2.2
  have hn3 := tx0.2.1
  have hBy := tx0.2.2.2.1
  rcases r with ⟨k9, w9⟩ | ⟨p, o, L⟩
  · rw [bindR_bad hr]
    simp only [needd] at hd
    exact PM.toE (b_X9_test (by omega) hA h.2.2.2.1 h.2.1 h.2.2.1) h
  simp only [needd] at hd
  obtain ⟨hp, ho, hcL⟩ := h.le p o L rfl
  have hq := sk_in (B := B) hp
  have hss := sk_sk (p := p) hB
  have hBq := hBy (sk B n p)
  obtain ⟨-, -, -, -, h4, h5, -⟩ := id h
  refine PM.of (by decide +kernel) (Nat.le_of_ble_eq_true rfl) ?_
  refine PJ.ok (fun G => ?_)
  show PJ g _ _ _ _ d 0 0 0 [(0, .ref (ad 0))] [] _ _
  refine pl_aload_n (pc := 0) dX9_test_0 rfl rfl ?_
  refine pj_getf (pc := 1) ckX9 12 q2528 dX9_test_1 (by decide) (mm_o hA) rfl ?_
  refine PJ.top (y := nI 0) h5 ?_
  refine pj_if_le (pc := 4) (tgt := 8) dX9_test_4 (by decide) (fun _ => ?_) (fun h => absurd h (by decide))
  refine pl_aload_n (pc := 8) dX9_test_8 rfl rfl ?_
  refine pl_callVEv (pc := 9) (As := []) (C2 := 0) (N2 := 0) ckX9 mdX9_blanks rfl q2804 q2806 qs72 q154 dX9_test_9 rfl rfl (Nat.le_of_ble_eq_true rfl) (mm_o hA) (R_blanks (d := d - 1) (by omega) hA tx0 h) (by omega) (by decide) (by decide) (fun σ h => ?_)
  have h : PR n l c σ0 (.inr (sk B n p, o, L)) σ := h
  refine pl_aload_n (pc := 12) dX9_test_12 rfl rfl ?_
  obtain ⟨a296, v296, vr296, sc296⟩ := lit_X9_296 G
  refine pj_ldcwS (pc := 13) vr296 dX9_test_13 ?_
  refine pl_callVB (pc := 16) (As := [_]) (C2 := 0) (N2 := 0) ckX9 mdX9_isWord rfl q2831 q2833 qs76 q154 dX9_test_16 rfl rfl (Nat.le_of_ble_eq_true rfl) (mm_o hA) (R_isWord (d := d - 1) (by omega) hA tx0 h (ws := wNot) sc296 (by decide) (by decide)) (by omega) (by decide) (by decide) (fun b9 σ q9 => ?_)
  obtain ⟨e9, h⟩ := q9
  rw [hss] at e9 h
  cases hw : isW B (sk B n p) wNot
  · rw [hw] at e9
    refine PJ.top (y := nI 0) (by rw [e9]; rfl) ?_
    refine pj_if_eq (pc := 19) (tgt := 49) dX9_test_19 (by decide) (fun _ => ?_) (fun h => absurd h (by decide))
    refine pl_aload_n (pc := 49) dX9_test_49 rfl rfl ?_
    refine pl_aload_n (pc := 50) dX9_test_50 rfl rfl ?_
    refine pj_getf (pc := 51) ckX9 11 q2527 dX9_test_51 (by decide) (mm_o hA) rfl ?_
    refine PJ.top (y := nI (sk B n p)) h.2.2.2.2.1 ?_
    refine pl_callVd (pc := 54) (As := [_]) (C2 := 0) (N2 := 0) ckX9 mdX9_byteAt rfl q2808 q2810 qs73 q154 dX9_test_54 rfl rfl (Nat.le_of_ble_eq_true rfl) (mm_o hA) (w_X9_byteAt (d := d - 1) (by omega) hA (tx0.of h.1) (by omega)) (by omega) (by decide) (by decide) ?_
    refine pl_bipush (pc := 57) (v := 91) dX9_test_57 (by rfl) ?_
    refine pl_icmp_ne (pc := 59) (tgt := 78) dX9_test_59 (by decide) (by omega) (by omega) (fun c59 => ?_) (fun c59 => ?_)
    · have hr0 : bindR (.inr (sk B n p, o, L)) (fun p o => thenR (PF B n f 0 p o) (cmpT (B := B) (n := n) f)) = some r1 := by
        rw [← hr]
        show _ = (PF B n (f + 1) 9 p o).map (appR L)
        rw [PF_9, if_neg (by rw [hw]; decide), if_neg c59]
        rfl
      obtain ⟨rs1, hs1, hs2⟩ := thenR_of hr0
      have A0 : Adv n c 0 o (.inr (sk B n p, o, L)) := fun x y z e => by cases e; exact ⟨hq.2, rfl, ho, by omega⟩
      have A1 := A0.go (fun p hp => PF_in hB f 0 p _ (by decide) hp) hs1
      refine pl_aload_n (pc := 78) dX9_test_78 rfl rfl ?_
      refine pl_callVEv (pc := 79) (As := []) (C2 := 0) (N2 := 0) ckX9 mdX9_sum rfl q2850 q2852 qs80 q154 dX9_test_79 rfl rfl (Nat.le_of_ble_eq_true rfl) (mm_o hA) ((H f (Nat.le_refl _)).1 (.inr (sk B n p, o, L)) rs1 _ (d - 1) (A0.need (by omega) (fun _ => by omega)) h hs1) (by omega) (by decide) (by decide) (fun σ h => ?_)
      refine pl_aload_n (pc := 82) dX9_test_82 rfl rfl ?_
      refine pj_getf (pc := 83) ckX9 12 q2528 dX9_test_83 (by decide) (mm_o hA) rfl ?_
      rcases rs1 with ⟨k9, w9⟩ | ⟨p1, o1, L1⟩
      · have hk9 := h.2.2.1
        refine PJ.top (y := nI k9) h.2.2.2.1 ?_
        refine pl_if_leN (pc := 86) (tgt := 90) dX9_test_86 (by decide) (by omega) (fun c86 => ?_) (fun c86 => ?_)
        · exact absurd c86 (by have := h.2.1; omega)
        · refine pj_vret (pc := 89) dX9_test_89 rfl ?_
          rw [bindR_bad hs2]
          exact ⟨rfl, σ, rfl, h⟩
      · obtain ⟨hp1, e2, -, hc1⟩ := A1 _ _ _ rfl
        have e2 := e2.symm
        subst e2
        have hq1 := sk_in (B := B) hp1
        have hBq1 := hBy (sk B n p1)
        refine PJ.top (y := nI 0) h.2.2.2.2.2.1 ?_
        refine pj_if_le (pc := 86) (tgt := 90) dX9_test_86 (by decide) (fun _ => ?_) (fun h => absurd h (by decide))
        refine pl_aload_n (pc := 90) dX9_test_90 rfl rfl ?_
        refine pl_callVEv (pc := 91) (As := []) (C2 := 0) (N2 := 0) ckX9 mdX9_blanks rfl q2804 q2806 qs72 q154 dX9_test_91 rfl rfl (Nat.le_of_ble_eq_true rfl) (mm_o hA) (R_blanks (d := d - 1) (by omega) hA tx0 h) (by omega) (by decide) (by decide) (fun σ h => ?_)
        have h : PR n l c σ0 (.inr (sk B n p1, o, L1)) σ := h
        refine pl_aload_n (pc := 94) dX9_test_94 rfl rfl ?_
        refine pl_aload_n (pc := 95) dX9_test_95 rfl rfl ?_
        refine pj_getf (pc := 96) ckX9 11 q2527 dX9_test_96 (by decide) (mm_o hA) rfl ?_
        refine PJ.top (y := nI (sk B n p1)) h.2.2.2.2.1 ?_
        refine pl_callVd (pc := 99) (As := [_]) (C2 := 0) (N2 := 0) ckX9 mdX9_byteAt rfl q2808 q2810 qs73 q154 dX9_test_99 rfl rfl (Nat.le_of_ble_eq_true rfl) (mm_o hA) (w_X9_byteAt (d := d - 1) (by omega) hA (tx0.of h.1) (by omega)) (by omega) (by decide) (by decide) ?_
        refine pj_istore_n (pc := 102) (lv' := [(1, _), (0, _)]) dX9_test_102 rfl (by decide) rfl ?_
        refine pl_iload_n (pc := 103) dX9_test_103 rfl rfl ?_
        refine pl_bipush (pc := 104) (v := 60) dX9_test_104 (by rfl) ?_
        refine pl_icmp_eq (pc := 106) (tgt := 131) dX9_test_106 (by decide) (by omega) (by omega) (fun c106 => ?_) (fun c106 => ?_)
        · have hlt : sk B n p1 < n := by
            rcases Nat.lt_or_ge (sk B n p1) n with z | z
            · exact z
            · rw [hB _ z] at c106; cases c106
          have hr2 : bindR (.inr (sk B n p1 + 1, o, L1)) (fun p o => thenR (PF B n f 0 p o) (emitP 12 (nI 0))) = some r1 := by
            rw [← hs2]
            show _ = (cmpT (B := B) (n := n) f p1 o).map (appR L1)
            unfold cmpT
            rw [if_pos (Or.inl c106), if_pos c106]
            rfl
          obtain ⟨rs2, hs3, hs4⟩ := thenR_of hr2
          have A4 : Adv n c 1 o (.inr (sk B n p1 + 1, o, L1)) := fun x y z e => by cases e; exact ⟨by omega, rfl, ho, by omega⟩
          have A5 := A4.go (fun p hp => PF_in hB f 0 p _ (by decide) hp) hs3
          refine pl_aload_n (pc := 131) dX9_test_131 rfl rfl ?_
          refine pj_dup (pc := 132) dX9_test_132 rfl ?_
          refine pj_getf (pc := 133) ckX9 11 q2527 dX9_test_133 (by decide) (mm_o hA) rfl ?_
          refine PJ.top (y := nI (sk B n p1)) h.2.2.2.2.1 ?_
          refine pl_iconst (pc := 136) (v := 1) dX9_test_136 (by rfl) ?_
          refine pl_iadd (pc := 137) dX9_test_137 ?_
          refine pm_putI (pc := 138) 11 hA q2527 dX9_test_138 (by decide) rfl (by rfl) (by rfl) rfl ?_
          have h := h.at (p1 := sk B n p1 + 1) (by omega) (by omega)
          refine pl_aload_n (pc := 141) dX9_test_141 rfl rfl ?_
          refine pl_callVEv (pc := 142) (As := []) (C2 := 0) (N2 := 0) ckX9 mdX9_sum rfl q2850 q2852 qs80 q154 dX9_test_142 rfl rfl (Nat.le_of_ble_eq_true rfl) (mm_o hA) ((H f (Nat.le_refl _)).1 (.inr (sk B n p1 + 1, o, L1)) rs2 _ (d - 1) (A4.need (by omega) (fun _ => by omega)) h hs3) (by omega) (by decide) (by decide) (fun σ h => ?_)
          refine pl_aload_n (pc := 145) dX9_test_145 rfl rfl ?_
          refine pl_iload_n (pc := 146) dX9_test_146 rfl rfl ?_
          refine pl_bipush (pc := 147) (v := 60) dX9_test_147 (by rfl) ?_
          refine pl_icmp_ne (pc := 149) (tgt := 157) dX9_test_149 (by decide) (by omega) (by omega) (fun c149 => ?_) (fun c149 => ?_)
          · exact absurd c106 c149
          · refine pl_bipush (pc := 152) (v := 12) dX9_test_152 (by rfl) ?_
            refine pj_goto (pc := 154) (tgt := 170) dX9_test_154 (by decide) ?_
            refine pl_iconst (pc := 170) (v := 0) dX9_test_170 (by rfl) ?_
            refine pl_callVEv (pc := 171) (As := [_, _]) (C2 := 0) (N2 := 0) ckX9 mdX9_emits rfl q2870 q2872 qs84 q154 dX9_test_171 rfl rfl (Nat.le_of_ble_eq_true rfl) (mm_o hA) (R_emits (d := d - 1) (by omega) hn3 hA hl hl2 h (A5.room (by decide)) hs4) (by omega) (by decide) (by decide) (fun σ h => ?_)
            refine pj_vret (pc := 174) dX9_test_174 rfl ?_
            exact ⟨rfl, σ, rfl, h⟩
        · refine pl_iload_n (pc := 109) dX9_test_109 rfl rfl ?_
          refine pl_bipush (pc := 110) (v := 62) dX9_test_110 (by rfl) ?_
          refine pl_icmp_eq (pc := 112) (tgt := 131) dX9_test_112 (by decide) (by omega) (by omega) (fun c112 => ?_) (fun c112 => ?_)
          · have hlt : sk B n p1 < n := by
              rcases Nat.lt_or_ge (sk B n p1) n with z | z
              · exact z
              · rw [hB _ z] at c112; cases c112
            have hr2 : bindR (.inr (sk B n p1 + 1, o, L1)) (fun p o => thenR (PF B n f 0 p o) (emitP 13 (nI 0))) = some r1 := by
              rw [← hs2]
              show _ = (cmpT (B := B) (n := n) f p1 o).map (appR L1)
              unfold cmpT
              rw [if_pos (Or.inr (Or.inl c112)), if_neg c106, if_pos c112]
              rfl
            obtain ⟨rs2, hs3, hs4⟩ := thenR_of hr2
            have A4 : Adv n c 1 o (.inr (sk B n p1 + 1, o, L1)) := fun x y z e => by cases e; exact ⟨by omega, rfl, ho, by omega⟩
            have A5 := A4.go (fun p hp => PF_in hB f 0 p _ (by decide) hp) hs3
            refine pl_aload_n (pc := 131) dX9_test_131 rfl rfl ?_
            refine pj_dup (pc := 132) dX9_test_132 rfl ?_
            refine pj_getf (pc := 133) ckX9 11 q2527 dX9_test_133 (by decide) (mm_o hA) rfl ?_
            refine PJ.top (y := nI (sk B n p1)) h.2.2.2.2.1 ?_
            refine pl_iconst (pc := 136) (v := 1) dX9_test_136 (by rfl) ?_
            refine pl_iadd (pc := 137) dX9_test_137 ?_
            refine pm_putI (pc := 138) 11 hA q2527 dX9_test_138 (by decide) rfl (by rfl) (by rfl) rfl ?_
            have h := h.at (p1 := sk B n p1 + 1) (by omega) (by omega)
            refine pl_aload_n (pc := 141) dX9_test_141 rfl rfl ?_
            refine pl_callVEv (pc := 142) (As := []) (C2 := 0) (N2 := 0) ckX9 mdX9_sum rfl q2850 q2852 qs80 q154 dX9_test_142 rfl rfl (Nat.le_of_ble_eq_true rfl) (mm_o hA) ((H f (Nat.le_refl _)).1 (.inr (sk B n p1 + 1, o, L1)) rs2 _ (d - 1) (A4.need (by omega) (fun _ => by omega)) h hs3) (by omega) (by decide) (by decide) (fun σ h => ?_)
            refine pl_aload_n (pc := 145) dX9_test_145 rfl rfl ?_
            refine pl_iload_n (pc := 146) dX9_test_146 rfl rfl ?_
            refine pl_bipush (pc := 147) (v := 60) dX9_test_147 (by rfl) ?_
            refine pl_icmp_ne (pc := 149) (tgt := 157) dX9_test_149 (by decide) (by omega) (by omega) (fun c149 => ?_) (fun c149 => ?_)
            · refine pl_iload_n (pc := 157) dX9_test_157 rfl rfl ?_
              refine pl_bipush (pc := 158) (v := 62) dX9_test_158 (by rfl) ?_
              refine pl_icmp_ne (pc := 160) (tgt := 168) dX9_test_160 (by decide) (by omega) (by omega) (fun c160 => ?_) (fun c160 => ?_)
              · exact absurd c112 c160
              · refine pl_bipush (pc := 163) (v := 13) dX9_test_163 (by rfl) ?_
                refine pj_goto (pc := 165) (tgt := 170) dX9_test_165 (by decide) ?_
                refine pl_iconst (pc := 170) (v := 0) dX9_test_170 (by rfl) ?_
                refine pl_callVEv (pc := 171) (As := [_, _]) (C2 := 0) (N2 := 0) ckX9 mdX9_emits rfl q2870 q2872 qs84 q154 dX9_test_171 rfl rfl (Nat.le_of_ble_eq_true rfl) (mm_o hA) (R_emits (d := d - 1) (by omega) hn3 hA hl hl2 h (A5.room (by decide)) hs4) (by omega) (by decide) (by decide) (fun σ h => ?_)
                refine pj_vret (pc := 174) dX9_test_174 rfl ?_
                exact ⟨rfl, σ, rfl, h⟩
            · exact absurd c149 c106
          · refine pl_iload_n (pc := 115) dX9_test_115 rfl rfl ?_
            refine pl_bipush (pc := 116) (v := 61) dX9_test_116 (by rfl) ?_
            refine pl_icmp_eq (pc := 118) (tgt := 131) dX9_test_118 (by decide) (by omega) (by omega) (fun c118 => ?_) (fun c118 => ?_)
            · have hlt : sk B n p1 < n := by
                rcases Nat.lt_or_ge (sk B n p1) n with z | z
                · exact z
                · rw [hB _ z] at c118; cases c118
              have hr2 : bindR (.inr (sk B n p1 + 1, o, L1)) (fun p o => thenR (PF B n f 0 p o) (emitP 14 (nI 0))) = some r1 := by
                rw [← hs2]
                show _ = (cmpT (B := B) (n := n) f p1 o).map (appR L1)
                unfold cmpT
                rw [if_pos (Or.inr (Or.inr c118)), if_neg c106, if_neg c112]
                rfl
              obtain ⟨rs2, hs3, hs4⟩ := thenR_of hr2
              have A4 : Adv n c 1 o (.inr (sk B n p1 + 1, o, L1)) := fun x y z e => by cases e; exact ⟨by omega, rfl, ho, by omega⟩
              have A5 := A4.go (fun p hp => PF_in hB f 0 p _ (by decide) hp) hs3
              refine pl_aload_n (pc := 131) dX9_test_131 rfl rfl ?_
              refine pj_dup (pc := 132) dX9_test_132 rfl ?_
              refine pj_getf (pc := 133) ckX9 11 q2527 dX9_test_133 (by decide) (mm_o hA) rfl ?_
              refine PJ.top (y := nI (sk B n p1)) h.2.2.2.2.1 ?_
              refine pl_iconst (pc := 136) (v := 1) dX9_test_136 (by rfl) ?_
              refine pl_iadd (pc := 137) dX9_test_137 ?_
              refine pm_putI (pc := 138) 11 hA q2527 dX9_test_138 (by decide) rfl (by rfl) (by rfl) rfl ?_
              have h := h.at (p1 := sk B n p1 + 1) (by omega) (by omega)
              refine pl_aload_n (pc := 141) dX9_test_141 rfl rfl ?_
              refine pl_callVEv (pc := 142) (As := []) (C2 := 0) (N2 := 0) ckX9 mdX9_sum rfl q2850 q2852 qs80 q154 dX9_test_142 rfl rfl (Nat.le_of_ble_eq_true rfl) (mm_o hA) ((H f (Nat.le_refl _)).1 (.inr (sk B n p1 + 1, o, L1)) rs2 _ (d - 1) (A4.need (by omega) (fun _ => by omega)) h hs3) (by omega) (by decide) (by decide) (fun σ h => ?_)
              refine pl_aload_n (pc := 145) dX9_test_145 rfl rfl ?_
              refine pl_iload_n (pc := 146) dX9_test_146 rfl rfl ?_
              refine pl_bipush (pc := 147) (v := 60) dX9_test_147 (by rfl) ?_
              refine pl_icmp_ne (pc := 149) (tgt := 157) dX9_test_149 (by decide) (by omega) (by omega) (fun c149 => ?_) (fun c149 => ?_)
              · refine pl_iload_n (pc := 157) dX9_test_157 rfl rfl ?_
                refine pl_bipush (pc := 158) (v := 62) dX9_test_158 (by rfl) ?_
                refine pl_icmp_ne (pc := 160) (tgt := 168) dX9_test_160 (by decide) (by omega) (by omega) (fun c160 => ?_) (fun c160 => ?_)
                · refine pl_bipush (pc := 168) (v := 14) dX9_test_168 (by rfl) ?_
                  refine pl_iconst (pc := 170) (v := 0) dX9_test_170 (by rfl) ?_
                  refine pl_callVEv (pc := 171) (As := [_, _]) (C2 := 0) (N2 := 0) ckX9 mdX9_emits rfl q2870 q2872 qs84 q154 dX9_test_171 rfl rfl (Nat.le_of_ble_eq_true rfl) (mm_o hA) (R_emits (d := d - 1) (by omega) hn3 hA hl hl2 h (A5.room (by decide)) hs4) (by omega) (by decide) (by decide) (fun σ h => ?_)
                  refine pj_vret (pc := 174) dX9_test_174 rfl ?_
                  exact ⟨rfl, σ, rfl, h⟩
                · exact absurd c160 c112
              · exact absurd c149 c106
            · refine pl_aload_n (pc := 121) dX9_test_121 rfl rfl ?_
              refine pl_iconst (pc := 122) (v := 1) dX9_test_122 (by rfl) ?_
              refine pl_aload_n (pc := 123) dX9_test_123 rfl rfl ?_
              refine pj_getf (pc := 124) ckX9 11 q2527 dX9_test_124 (by decide) (mm_o hA) rfl ?_
              refine PJ.top (y := nI (sk B n p1)) h.2.2.2.2.1 ?_
              refine pl_callVv (pc := 127) (As := [_, _]) (C2 := 0) (N2 := 0) ckX9 mdX9_wrong rfl q2838 q2840 qs77 q154 dX9_test_127 rfl rfl (Nat.le_of_ble_eq_true rfl) (mm_o hA) (w_X9_wrong (d := d - 1) (by omega) hA) (by omega) (by decide) (by decide) ?_
              refine pj_vret (pc := 130) dX9_test_130 rfl ?_
              have e1 : r1 = .inl (1, sk B n p1) := by
                have e2 : (cmpT (B := B) (n := n) f p1 o).map (appR L1) = some r1 := hs2
                unfold cmpT at e2
                rw [if_neg (by omega)] at e2
                exact (Option.some.inj e2).symm
              subst e1
              exact ⟨rfl, _, rfl, h.bad (by decide) (by decide)⟩
    · have hlt : sk B n p < n := by
        rcases Nat.lt_or_ge (sk B n p) n with z | z
        · exact z
        · rw [hB _ z] at c59; cases c59
      have hql : sk B n p + 1 ≤ n := hlt
      have hr0 : bindR (.inr (sk B n p, o, L)) (fun p o => thenR (thenR (opensP 1 p o) (PF B n f 5)) (closesP B n 93)) = some r1 := by
        rw [← hr]
        show _ = (PF B n (f + 1) 9 p o).map (appR L)
        rw [PF_9, if_neg (by rw [hw]; decide), if_pos c59]
        rfl
      obtain ⟨rs2, hs0, hs3⟩ := thenR_of hr0
      obtain ⟨rs1, hs1, hs2⟩ := thenR_of hs0
      have A1 := Adv.opens (c := c) (L := L) hql ho (by omega) hs1
      have A2 := A1.go (fun p hp => PF_in hB f 5 p _ (by decide) hp) hs2
      refine pl_aload_n (pc := 62) dX9_test_62 rfl rfl ?_
      refine pl_iconst (pc := 63) (v := 1) dX9_test_63 (by rfl) ?_
      refine pl_callVEv (pc := 64) (As := [_]) (C2 := 0) (N2 := 0) ckX9 mdX9_opens rfl q2886 q2888 qs86 q154 dX9_test_64 rfl rfl (Nat.le_of_ble_eq_true rfl) (mm_o hA) (o_X9_opens (d := d - 1) (by omega) hA tx0 hl hl2 h hql hs1) (by omega) (by decide) (by decide) (fun σ h => ?_)
      refine pl_aload_n (pc := 67) dX9_test_67 rfl rfl ?_
      refine pl_callVEv (pc := 68) (As := []) (C2 := 0) (N2 := 0) ckX9 mdX9_ors rfl q2901 q2903 qs89 q154 dX9_test_68 rfl rfl (Nat.le_of_ble_eq_true rfl) (mm_o hA) ((H f (Nat.le_refl _)).2.2.2.1 rs1 rs2 _ (d - 1) (A1.need (by omega) (fun _ => by omega)) h hs2) (by omega) (by decide) (by decide) (fun σ h => ?_)
      refine pl_aload_n (pc := 71) dX9_test_71 rfl rfl ?_
      refine pl_bipush (pc := 72) (v := 93) dX9_test_72 (by rfl) ?_
      refine pl_callVEv (pc := 74) (As := [_]) (C2 := 0) (N2 := 0) ckX9 mdX9_closes rfl q2890 q2892 qs87 q154 dX9_test_74 rfl rfl (Nat.le_of_ble_eq_true rfl) (mm_o hA) (R_closes (d := d - 1) (by omega) hA tx0 hl hl2 h (by decide) hs3 A2.hopen) (by omega) (by decide) (by decide) (fun σ h => ?_)
      refine pj_vret (pc := 77) dX9_test_77 rfl ?_
      exact ⟨rfl, σ, rfl, h⟩
  · rw [hw] at e9
    refine PJ.top (y := nI 1) (by rw [e9]; rfl) ?_
    have hql : sk B n p + 3 ≤ n := isW_in hw (by decide) hB hq.2
    have hr0 : bindR (.inr (sk B n p, o, L)) (fun p o => thenR (thenR (thenR (opensP 3 p o) (PF B n f 9)) (fun p o => some (.inr (p, o - 1, [])))) (emitP 11 (nI 0))) = some r1 := by
      rw [← hr]
      show _ = (PF B n (f + 1) 9 p o).map (appR L)
      rw [PF_9, if_pos hw]
      rfl
    obtain ⟨rs3, hs0, hs4⟩ := thenR_of hr0
    obtain ⟨rs2, hs00, hs3⟩ := thenR_of hs0
    obtain ⟨rs1, hs1, hs2⟩ := thenR_of hs00
    have A1 := Adv.opens (c := c) (L := L) hql ho (by omega) hs1
    have A2 := A1.go (fun p hp => PF_in hB f 9 p _ (by decide) hp) hs2
    have A3 : Adv n c 3 o rs3 := by
      rcases rs2 with z | ⟨p2, o2, L2⟩
      · rw [bindR_bad hs3]; intro p1 o1 L1 z; cases z
      · obtain ⟨a1, a2, a3, a4⟩ := A2 _ _ _ rfl
        cases hs3
        subst a2
        intro p1 o1 L1 z
        cases z
        exact ⟨a1, rfl, by omega, by simpa using a4⟩
    refine pj_if_eq (pc := 19) (tgt := 49) dX9_test_19 (by decide) (fun h => absurd h (by decide)) (fun _ => ?_)
    refine pl_aload_n (pc := 22) dX9_test_22 rfl rfl ?_
    refine pl_iconst (pc := 23) (v := 3) dX9_test_23 (by rfl) ?_
    refine pl_callVEv (pc := 24) (As := [_]) (C2 := 0) (N2 := 0) ckX9 mdX9_opens rfl q2886 q2888 qs86 q154 dX9_test_24 rfl rfl (Nat.le_of_ble_eq_true rfl) (mm_o hA) (o_X9_opens (d := d - 1) (by omega) hA tx0 hl hl2 h hql hs1) (by omega) (by decide) (by decide) (fun σ h => ?_)
    refine pl_aload_n (pc := 27) dX9_test_27 rfl rfl ?_
    refine pl_callVEv (pc := 28) (As := []) (C2 := 0) (N2 := 0) ckX9 mdX9_test rfl q2909 q2911 qs91 q154 dX9_test_28 rfl rfl (Nat.le_of_ble_eq_true rfl) (mm_o hA) ((H f (Nat.le_refl _)).2.2.2.2.2 rs1 rs2 _ (d - 1) (A1.need (by omega) (fun _ => by omega)) h hs2) (by omega) (by decide) (by decide) (fun σ h => ?_)
    rcases rs2 with ⟨k9, w9⟩ | ⟨p2, o2, L2⟩
    · have e3 := bindR_bad hs3
      subst e3
      refine pl_aload_n (pc := 31) dX9_test_31 rfl rfl ?_
      refine pj_dup (pc := 32) dX9_test_32 rfl ?_
      refine pj_getf (pc := 33) ckX9 14 q2530 dX9_test_33 (by decide) (mm_o hA) rfl ?_
      refine pl_iconst (pc := 36) (v := 1) dX9_test_36 (by rfl) ?_
      refine pj_isub (pc := 37) dX9_test_37 ?_
      refine pm_putI (pc := 38) 14 hA q2530 dX9_test_38 (by decide) rfl (by rfl) (by rfl) rfl ?_
      refine pl_aload_n (pc := 41) dX9_test_41 rfl rfl ?_
      refine pl_bipush (pc := 42) (v := 11) dX9_test_42 (by rfl) ?_
      refine pl_iconst (pc := 44) (v := 0) dX9_test_44 (by rfl) ?_
      refine pl_callVEv (pc := 45) (As := [_, _]) (C2 := 0) (N2 := 0) ckX9 mdX9_emits rfl q2870 q2872 qs84 q154 dX9_test_45 rfl rfl (Nat.le_of_ble_eq_true rfl) (mm_o hA) (R_emits (d := d - 1) (by omega) hn3 hA hl hl2 (h.badF (Or.inl rfl)) (A3.room (by decide)) hs4) (by omega) (by decide) (by decide) (fun σ h => ?_)
      refine pj_vret (pc := 48) dX9_test_48 rfl ?_
      exact ⟨rfl, σ, rfl, h⟩
    · obtain ⟨-, e2, -, -⟩ := A2 _ _ _ rfl
      have e2 := e2.symm
      subst e2
      have e3 : rs3 = .inr (p2, o + 1 - 1, L2) := by simpa [bindR, appR] using hs3.symm
      subst e3
      obtain ⟨-, -, -, -, -, -, -, h7, -⟩ := id h
      refine pl_aload_n (pc := 31) dX9_test_31 rfl rfl ?_
      refine pj_dup (pc := 32) dX9_test_32 rfl ?_
      refine pj_getf (pc := 33) ckX9 14 q2530 dX9_test_33 (by decide) (mm_o hA) rfl ?_
      refine PJ.top (y := nI (o + 1)) h7 ?_
      refine pl_iconst (pc := 36) (v := 1) dX9_test_36 (by rfl) ?_
      refine pl_isub (pc := 37) dX9_test_37 (by omega) ?_
      refine pm_putI (pc := 38) 14 hA q2530 dX9_test_38 (by decide) rfl (by rfl) (by rfl) rfl ?_
      refine pl_aload_n (pc := 41) dX9_test_41 rfl rfl ?_
      refine pl_bipush (pc := 42) (v := 11) dX9_test_42 (by rfl) ?_
      refine pl_iconst (pc := 44) (v := 0) dX9_test_44 (by rfl) ?_
      refine pl_callVEv (pc := 45) (As := [_, _]) (C2 := 0) (N2 := 0) ckX9 mdX9_emits rfl q2870 q2872 qs84 q154 dX9_test_45 rfl rfl (Nat.le_of_ble_eq_true rfl) (mm_o hA) (R_emits (d := d - 1) (by omega) hn3 hA hl hl2 (h.op (by omega)) (A3.room (by decide)) hs4) (by omega) (by decide) (by decide) (fun σ h => ?_)
      refine pj_vret (pc := 48) dX9_test_48 rfl ?_
      exact ⟨rfl, σ, rfl, h⟩
