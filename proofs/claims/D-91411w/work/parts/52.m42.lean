set_option maxRecDepth 100000
def needd (k : Nat) : RP → Nat
  | .inl _ => 10 + k
  | .inr (_, o, _) => 20 + 6 * (8 - o) + k
/-- a parser's method: what it makes of any result so far -/
def Kc (g : GP) (ad : Nat → Nat) (μ : Mem) (n l c : Nat) (σ0 : MS) (B : Nat → Nat) (y : MethodName) (ws : List Cond) (tag k f : Nat) : Prop := ∀ (r r1 : RP) (σ : MS) (d : Nat), needd k r ≤ d → PR n l c σ0 r σ → bindR r (PF B n f tag) = some r1 → PM g y ws d 0 0 [.ref (ad 0)] (mm g ad μ σ) (rE g ad μ none (PR n l c σ0 r1))
def KA (g : GP) (ad : Nat → Nat) (μ : Mem) (n l c : Nat) (σ0 : MS) (B : Nat → Nat) (f : Nat) : Prop := Kc g ad μ n l c σ0 B yX9_sum (ws_ yX9_sum cX9_sum 2 none) 0 2 f ∧ Kc g ad μ n l c σ0 B yX9_product (ws_ yX9_product cX9_product 2 none) 2 1 f ∧ Kc g ad μ n l c σ0 B yX9_one (ws_ yX9_one cX9_one 2 none) 4 0 f ∧ Kc g ad μ n l c σ0 B yX9_ors (ws_ yX9_ors cX9_ors 1 none) 5 5 f ∧ Kc g ad μ n l c σ0 B yX9_ands (ws_ yX9_ands cX9_ands 1 none) 7 4 f ∧ Kc g ad μ n l c σ0 B yX9_test (ws_ yX9_test cX9_test 2 none) 9 3 f
theorem needd_in {k : Nat} {r : RP} {n : Nat} {x : RP} {f : Nat → Nat → Option RP} (hf : ∀ p o, p ≤ n → GR n p o (f p o)) (h : bindR r f = some x) (hp : ∀ p o L, r = .inr (p, o, L) → p ≤ n) : needd k x ≤ max (10 + k) (needd k r) := by
  rcases r with e | ⟨p, o, L⟩
  · rw [bindR_bad h]; exact Nat.le_max_left _ _
  · rcases x with e | ⟨p2, o2, L2⟩
    · exact Nat.le_max_left _ _
    · have h1 : (f p o).map (appR L) = some (.inr (p2, o2, L2)) := h
      cases hf1 : f p o with
      | none => rw [hf1] at h1; cases h1
      | some y =>
        rw [hf1] at h1
        rcases y with e | ⟨p3, o3, L3⟩
        · cases h1
        · obtain ⟨a, -, -⟩ := hf p o (hp p o L rfl) _ _ _ hf1
          have h2 : appR L (.inr (p3, o3, L3)) = .inr (p2, o2, L2) := Option.some.inj h1
          cases h2
          subst a
          exact Nat.le_max_right _ _
theorem PR.le {n l c : Nat} {σ0 σ : MS} {r : RP} (h : PR n l c σ0 r σ) : ∀ p o L, r = .inr (p, o, L) → p ≤ n ∧ o ≤ 8 ∧ c + L.length ≤ p := fun p o L e => by
  subst e
  exact ⟨h.2.1, h.2.2.1, h.2.2.2.1⟩
/-- a result behind a good step has the room for one more -/
theorem room_of {n c k p o : Nat} {L : List Cd} {f : Nat → Nat → Option RP} {x : RP} (hf : GR n p o (f p o)) (hc : c + L.length + k ≤ p) (h : bindR (.inr (p, o, L)) f = some x) : ∀ p1 o1 L1, x = .inr (p1, o1, L1) → c + L1.length + k ≤ p1 ∧ o1 = o := by
  intro p1 o1 L1 e
  subst e
  have h1 : (f p o).map (appR L) = some (.inr (p1, o1, L1)) := h
  cases hf1 : f p o with
  | none => rw [hf1] at h1; cases h1
  | some y =>
    rw [hf1] at h1
    rcases y with e | ⟨p3, o3, L3⟩
    · cases h1
    · obtain ⟨a, b, -⟩ := hf _ _ _ hf1
      have h2 : appR L (.inr (p3, o3, L3)) = .inr (p1, o1, L1) := Option.some.inj h1
      cases h2
      exact ⟨by simp; omega, a⟩
set_option maxHeartbeats 600000 in
theorem b_X9_one {g : GP} {ad : Nat → Nat} {μ : Mem} {σ : MS} {d : Nat}  {k9 : Nat} (hd : 1 ≤ d) (hA : Inj ad 18) (hb : σ.1 12 = nI k9) (h0 : 0 < k9) (h4 : k9 < 4) : PM g yX9_one (ws_ yX9_one cX9_one 2 none) d 0 0 [.ref (ad 0)] (mm g ad μ σ) (rQ none (mm g ad μ (σ))) := by
  refine PM.of (by decide +kernel) (Nat.le_of_ble_eq_true rfl) ?_
  show PJ g _ _ _ _ d 0 0 0 [(0, .ref (ad 0))] [] _ _
  refine pl_aload_n (pc := 0) dX9_one_0 rfl rfl ?_
  refine pj_getf (pc := 1) ckX9 12 q2528 dX9_one_1 (by decide) (mm_o hA) rfl ?_
  refine PJ.top (y := nI _) (hb) ?_
  refine pl_if_leN (pc := 4) (tgt := 8) dX9_one_4 (by decide) (by omega) (fun c4 => ?_) (fun c4 => ?_)
  · exact absurd c4 (by omega)
  · refine pj_vret (pc := 7) dX9_one_7 rfl ?_
    exact ⟨rfl, rfl⟩
set_option maxHeartbeats 600000 in
theorem b_X9_test {g : GP} {ad : Nat → Nat} {μ : Mem} {σ : MS} {d : Nat}  {k9 : Nat} (hd : 1 ≤ d) (hA : Inj ad 18) (hb : σ.1 12 = nI k9) (h0 : 0 < k9) (h4 : k9 < 4) : PM g yX9_test (ws_ yX9_test cX9_test 2 none) d 0 0 [.ref (ad 0)] (mm g ad μ σ) (rQ none (mm g ad μ (σ))) := by
  refine PM.of (by decide +kernel) (Nat.le_of_ble_eq_true rfl) ?_
  show PJ g _ _ _ _ d 0 0 0 [(0, .ref (ad 0))] [] _ _
  refine pl_aload_n (pc := 0) dX9_test_0 rfl rfl ?_
  refine pj_getf (pc := 1) ckX9 12 q2528 dX9_test_1 (by decide) (mm_o hA) rfl ?_
  refine PJ.top (y := nI _) (hb) ?_
  refine pl_if_leN (pc := 4) (tgt := 8) dX9_test_4 (by decide) (by omega) (fun c4 => ?_) (fun c4 => ?_)
  · exact absurd c4 (by omega)
  · refine pj_vret (pc := 7) dX9_test_7 rfl ?_
    exact ⟨rfl, rfl⟩
set_option maxHeartbeats 600000 in
theorem b_X9_product {g : GP} {μ : Mem} {d : Nat} (hd : 3 ≤ d) {ad : Nat → Nat} {σ0 σ : MS} {n l c k9 w9 : Nat} {B : Nat → Nat} (hA : Inj ad 18) (tx0 : Txt σ0 n B) (hl : σ0.1 16 = nI l) (hl2 : l < 12) (h : PR n l c σ0 (.inl (k9, w9)) σ) : PM g yX9_product (ws_ yX9_product cX9_product 2 none) d 0 0 [.ref (ad 0)] (mm g ad μ σ) (rE g ad μ none (PR n l c σ0 (.inl (k9, w9)))) := by
  refine PM.of (by decide +kernel) (Nat.le_of_ble_eq_true rfl) ?_
  refine PJ.ok (fun G => ?_)
  show PJ g _ _ _ _ d 0 0 0 [(0, .ref (ad 0))] [] _ _
  have hk9 := h.2.2.1
  refine pl_aload_n (pc := 0) dX9_product_0 rfl rfl ?_
  refine pl_callVEv (pc := 1) (As := []) (C2 := 0) (N2 := 0) ckX9 mdX9_one rfl q2858 q2860 qs82 q154 dX9_product_1 rfl rfl (Nat.le_of_ble_eq_true rfl) (mm_o hA) (PM.toE (b_X9_one (d := d - 1) (by omega) hA h.2.2.2.1 h.2.1 h.2.2.1) h) (by omega) (by decide) (by decide) (fun σ h => ?_)
  refine pl_aload_n (pc := 4) dX9_product_4 rfl rfl ?_
  refine pl_callVEv (pc := 5) (As := []) (C2 := 0) (N2 := 0) ckX9 mdX9_blanks rfl q2804 q2806 qs72 q154 dX9_product_5 rfl rfl (Nat.le_of_ble_eq_true rfl) (mm_o hA) (R_blanks (d := d - 1) (by omega) hA tx0 h) (by omega) (by decide) (by decide) (fun σ h => ?_)
  refine pl_aload_n (pc := 8) dX9_product_8 rfl rfl ?_
  refine pj_getf (pc := 9) ckX9 12 q2528 dX9_product_9 (by decide) (mm_o hA) rfl ?_
  refine PJ.top (y := nI k9) h.2.2.2.1 ?_
  refine pl_if_neN (pc := 12) (tgt := 110) dX9_product_12 (by decide) (by omega) (fun c12 => ?_) (fun c12 => ?_)
  · refine pj_vret (pc := 110) dX9_product_110 rfl ?_
    exact ⟨rfl, σ, rfl, h⟩
  · exact absurd c12 (by have := h.2.1; omega)
set_option maxHeartbeats 600000 in
theorem b_X9_sum {g : GP} {μ : Mem} {d : Nat} (hd : 4 ≤ d) {ad : Nat → Nat} {σ0 σ : MS} {n l c k9 w9 : Nat} {B : Nat → Nat} (hA : Inj ad 18) (tx0 : Txt σ0 n B) (hl : σ0.1 16 = nI l) (hl2 : l < 12) (h : PR n l c σ0 (.inl (k9, w9)) σ) : PM g yX9_sum (ws_ yX9_sum cX9_sum 2 none) d 0 0 [.ref (ad 0)] (mm g ad μ σ) (rE g ad μ none (PR n l c σ0 (.inl (k9, w9)))) := by
  refine PM.of (by decide +kernel) (Nat.le_of_ble_eq_true rfl) ?_
  refine PJ.ok (fun G => ?_)
  show PJ g _ _ _ _ d 0 0 0 [(0, .ref (ad 0))] [] _ _
  have hk9 := h.2.2.1
  refine pl_aload_n (pc := 0) dX9_sum_0 rfl rfl ?_
  refine pl_callVEv (pc := 1) (As := []) (C2 := 0) (N2 := 0) ckX9 mdX9_product rfl q2854 q2856 qs81 q154 dX9_sum_1 rfl rfl (Nat.le_of_ble_eq_true rfl) (mm_o hA) (b_X9_product (d := d - 1) (by omega) hA tx0 hl hl2 h) (by omega) (by decide) (by decide) (fun σ h => ?_)
  refine pl_aload_n (pc := 4) dX9_sum_4 rfl rfl ?_
  refine pl_callVEv (pc := 5) (As := []) (C2 := 0) (N2 := 0) ckX9 mdX9_blanks rfl q2804 q2806 qs72 q154 dX9_sum_5 rfl rfl (Nat.le_of_ble_eq_true rfl) (mm_o hA) (R_blanks (d := d - 1) (by omega) hA tx0 h) (by omega) (by decide) (by decide) (fun σ h => ?_)
  refine pl_aload_n (pc := 8) dX9_sum_8 rfl rfl ?_
  refine pj_getf (pc := 9) ckX9 12 q2528 dX9_sum_9 (by decide) (mm_o hA) rfl ?_
  refine PJ.top (y := nI k9) h.2.2.2.1 ?_
  refine pl_if_neN (pc := 12) (tgt := 87) dX9_sum_12 (by decide) (by omega) (fun c12 => ?_) (fun c12 => ?_)
  · refine pj_vret (pc := 87) dX9_sum_87 rfl ?_
    exact ⟨rfl, σ, rfl, h⟩
  · exact absurd c12 (by have := h.2.1; omega)
set_option maxHeartbeats 600000 in
theorem b_X9_ands {g : GP} {μ : Mem} {d : Nat} (hd : 7 ≤ d) {ad : Nat → Nat} {σ0 σ : MS} {n l c k9 w9 : Nat} {B : Nat → Nat} (hA : Inj ad 18) (tx0 : Txt σ0 n B) (hl : σ0.1 16 = nI l) (hl2 : l < 12) (h : PR n l c σ0 (.inl (k9, w9)) σ) : PM g yX9_ands (ws_ yX9_ands cX9_ands 1 none) d 0 0 [.ref (ad 0)] (mm g ad μ σ) (rE g ad μ none (PR n l c σ0 (.inl (k9, w9)))) := by
  refine PM.of (by decide +kernel) (Nat.le_of_ble_eq_true rfl) ?_
  refine PJ.ok (fun G => ?_)
  show PJ g _ _ _ _ d 0 0 0 [(0, .ref (ad 0))] [] _ _
  refine pl_aload_n (pc := 0) dX9_ands_0 rfl rfl ?_
  refine pl_callVEv (pc := 1) (As := []) (C2 := 0) (N2 := 0) ckX9 mdX9_test rfl q2909 q2911 qs91 q154 dX9_ands_1 rfl rfl (Nat.le_of_ble_eq_true rfl) (mm_o hA) (PM.toE (b_X9_test (d := d - 1) (by omega) hA h.2.2.2.1 h.2.1 h.2.2.1) h) (by omega) (by decide) (by decide) (fun σ h => ?_)
  refine pl_aload_n (pc := 4) dX9_ands_4 rfl rfl ?_
  obtain ⟨a294, v294, vr294, sc294⟩ := lit_X9_294 G
  refine pj_ldcwS (pc := 5) vr294 dX9_ands_5 ?_
  refine pl_callVB (pc := 8) (As := [_]) (C2 := 0) (N2 := 0) ckX9 mdX9_eat rfl q2882 q2884 qs85 q154 dX9_ands_8 rfl rfl (Nat.le_of_ble_eq_true rfl) (mm_o hA) (R_eat (d := d - 1) (by omega) hA tx0 hl hl2 h (ws := wAnd) sc294 (by decide) (by decide)) (by omega) (by decide) (by decide) (fun b9 σ q => ?_)
  obtain ⟨e9, h⟩ := q
  rw [e9]
  refine PJ.top (y := nI 0) rfl ?_
  refine pj_if_eq (pc := 11) (tgt := 28) dX9_ands_11 (by decide) (fun _ => ?_) (fun h => absurd h (by decide))
  refine pj_vret (pc := 28) dX9_ands_28 rfl ?_
  exact ⟨rfl, σ, rfl, h⟩
set_option maxHeartbeats 600000 in
theorem b_X9_ors {g : GP} {μ : Mem} {d : Nat} (hd : 8 ≤ d) {ad : Nat → Nat} {σ0 σ : MS} {n l c k9 w9 : Nat} {B : Nat → Nat} (hA : Inj ad 18) (tx0 : Txt σ0 n B) (hl : σ0.1 16 = nI l) (hl2 : l < 12) (h : PR n l c σ0 (.inl (k9, w9)) σ) : PM g yX9_ors (ws_ yX9_ors cX9_ors 1 none) d 0 0 [.ref (ad 0)] (mm g ad μ σ) (rE g ad μ none (PR n l c σ0 (.inl (k9, w9)))) := by
  refine PM.of (by decide +kernel) (Nat.le_of_ble_eq_true rfl) ?_
  refine PJ.ok (fun G => ?_)
  show PJ g _ _ _ _ d 0 0 0 [(0, .ref (ad 0))] [] _ _
  refine pl_aload_n (pc := 0) dX9_ors_0 rfl rfl ?_
  refine pl_callVEv (pc := 1) (As := []) (C2 := 0) (N2 := 0) ckX9 mdX9_ands rfl q2905 q2907 qs90 q154 dX9_ors_1 rfl rfl (Nat.le_of_ble_eq_true rfl) (mm_o hA) (b_X9_ands (d := d - 1) (by omega) hA tx0 hl hl2 h) (by omega) (by decide) (by decide) (fun σ h => ?_)
  refine pl_aload_n (pc := 4) dX9_ors_4 rfl rfl ?_
  obtain ⟨a289, v289, vr289, sc289⟩ := lit_X9_289 G
  refine pj_ldcwS (pc := 5) vr289 dX9_ors_5 ?_
  refine pl_callVB (pc := 8) (As := [_]) (C2 := 0) (N2 := 0) ckX9 mdX9_eat rfl q2882 q2884 qs85 q154 dX9_ors_8 rfl rfl (Nat.le_of_ble_eq_true rfl) (mm_o hA) (R_eat (d := d - 1) (by omega) hA tx0 hl hl2 h (ws := wOr) sc289 (by decide) (by decide)) (by omega) (by decide) (by decide) (fun b9 σ q => ?_)
  obtain ⟨e9, h⟩ := q
  rw [e9]
  refine PJ.top (y := nI 0) rfl ?_
  refine pj_if_eq (pc := 11) (tgt := 28) dX9_ors_11 (by decide) (fun _ => ?_) (fun h => absurd h (by decide))
  refine pj_vret (pc := 28) dX9_ors_28 rfl ?_
  exact ⟨rfl, σ, rfl, h⟩
