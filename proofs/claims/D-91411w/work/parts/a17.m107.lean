set_option maxRecDepth 100000
def dxN (x c : Nat) : Nat := (x % 12 - c % 12) + (c % 12 - x % 12)
def dyN (x c : Nat) : Nat := (x / 12 - c / 12) + (c / 12 - x / 12)
def distN (x c : Nat) : Nat := dxN x c + dyN x c
def nkX (x c g : Nat) : Nat := if x % 12 < c % 12 then x % 12 + min g (dxN x c) else x % 12 - min g (dxN x c)
def nkY (x c g : Nat) : Nat := if x / 12 < c / 12 then x / 12 + (g - min g (dxN x c)) else x / 12 - (g - min g (dxN x c))
def nearK (x c g : Nat) : Nat := 12 * nkY x c g + nkX x c g
theorem nkX_lt {x c g : Nat} : nkX x c g < 12 := by
  unfold nkX dxN
  split <;> omega
theorem nkY_lt {x c g : Nat} (hx : x < 96) (hc : c < 96) (hg : g ≤ distN x c) : nkY x c g < 8 := by
  unfold nkY
  unfold distN dyN dxN at hg
  unfold dxN
  split <;> omega
theorem nearK_lt {x c g : Nat} (hx : x < 96) (hc : c < 96) (hg : g ≤ distN x c) : nearK x c g < 96 := by
  have h1 := nkX_lt (x := x) (c := c) (g := g)
  have h2 := nkY_lt hx hc hg
  unfold nearK
  omega
theorem nearK_0 {x c : Nat} : nearK x c 0 = x := by
  unfold nearK nkX nkY
  rw [Nat.zero_min]
  split <;> split <;> omega
theorem nearK_m {x c g : Nat} (hx : x < 96) (hc : c < 96) (hg : g ≤ distN x c) : nearK x c g % 12 = nkX x c g ∧ nearK x c g / 12 = nkY x c g := by
  have h1 := nkX_lt (x := x) (c := c) (g := g)
  unfold nearK
  omega
theorem nearK_d {x c : Nat} (hx : x < 96) (hc : c < 96) : nearK x c (distN x c) = c := by
  have hX : nkX x c (distN x c) = c % 12 := by
    unfold nkX distN
    rw [Nat.min_eq_right (by omega)]
    unfold dxN
    split <;> omega
  have hY : nkY x c (distN x c) = c / 12 := by
    unfold nkY distN
    rw [Nat.min_eq_right (by omega)]
    unfold dyN
    split <;> omega
  unfold nearK
  rw [hX, hY]
  omega
theorem nearK_s {x c g : Nat} (hx : x < 96) (hc : c < 96) (hg : g + 1 ≤ distN x c) : nearN (nearK x c g) c = nearK x c (g + 1) := by
  obtain ⟨m1, m2⟩ := nearK_m hx hc (show g ≤ distN x c by omega)
  have hl : nearK x c g < c ↔ nkY x c g < c / 12 ∨ (nkY x c g = c / 12 ∧ nkX x c g < c % 12) := by omega
  have e : nearK x c g = 12 * nkY x c g + nkX x c g := rfl
  have e1 : nearK x c (g + 1) = 12 * nkY x c (g + 1) + nkX x c (g + 1) := rfl
  unfold nearN
  rw [m1]
  by_cases h1 : x % 12 < c % 12
  · have eX : ∀ g, nkX x c g = x % 12 + min g (dxN x c) := fun g => if_pos h1
    have ed : dxN x c = c % 12 - x % 12 := by unfold dxN; omega
    by_cases h2 : g < dxN x c
    · have y1 : nkY x c (g + 1) = nkY x c g := by unfold nkY; rw [Nat.min_eq_left (by omega), Nat.min_eq_left (by omega), Nat.sub_self, Nat.sub_self]
      rw [if_pos (by rw [eX, Nat.min_eq_left (by omega)]; omega), e, e1, y1, eX, eX, Nat.min_eq_left (by omega), Nat.min_eq_left (by omega)]
      omega
    · have x1 : nkX x c g = c % 12 := by rw [eX, Nat.min_eq_right (by omega)]; omega
      have x2 : nkX x c (g + 1) = c % 12 := by rw [eX, Nat.min_eq_right (by omega)]; omega
      rw [if_neg (by omega), if_neg (by omega)]
      have hy : dyN x c > 0 := by unfold distN at hg; omega
      unfold dyN at hy
      unfold distN dyN at hg
      have r1 : min g (dxN x c) = dxN x c := Nat.min_eq_right (by omega)
      have r2 : min (g + 1) (dxN x c) = dxN x c := Nat.min_eq_right (by omega)
      by_cases h3 : x / 12 < c / 12
      · have y1 : nkY x c g = x / 12 + (g - dxN x c) := by unfold nkY; rw [if_pos h3, r1]
        have y2 : nkY x c (g + 1) = x / 12 + (g + 1 - dxN x c) := by unfold nkY; rw [if_pos h3, r2]
        rw [if_pos (by omega)]
        omega
      · have y1 : nkY x c g = x / 12 - (g - dxN x c) := by unfold nkY; rw [if_neg h3, r1]
        have y2 : nkY x c (g + 1) = x / 12 - (g + 1 - dxN x c) := by unfold nkY; rw [if_neg h3, r2]
        rw [if_neg (by omega)]
        omega
  · have eX : ∀ g, nkX x c g = x % 12 - min g (dxN x c) := fun g => if_neg h1
    have ed : dxN x c = x % 12 - c % 12 := by unfold dxN; omega
    by_cases h2 : g < dxN x c
    · have y1 : nkY x c (g + 1) = nkY x c g := by unfold nkY; rw [Nat.min_eq_left (by omega), Nat.min_eq_left (by omega), Nat.sub_self, Nat.sub_self]
      rw [if_neg (by rw [eX]; omega), if_pos (by rw [eX, Nat.min_eq_left (by omega)]; omega), e, e1, y1, eX, eX, Nat.min_eq_left (by omega), Nat.min_eq_left (by omega)]
      omega
    · have x1 : nkX x c g = c % 12 := by rw [eX, Nat.min_eq_right (by omega)]; omega
      have x2 : nkX x c (g + 1) = c % 12 := by rw [eX, Nat.min_eq_right (by omega)]; omega
      rw [if_neg (by omega), if_neg (by omega)]
      have hy : dyN x c > 0 := by unfold distN at hg; omega
      unfold dyN at hy
      unfold distN dyN at hg
      have r1 : min g (dxN x c) = dxN x c := Nat.min_eq_right (by omega)
      have r2 : min (g + 1) (dxN x c) = dxN x c := Nat.min_eq_right (by omega)
      by_cases h3 : x / 12 < c / 12
      · have y1 : nkY x c g = x / 12 + (g - dxN x c) := by unfold nkY; rw [if_pos h3, r1]
        have y2 : nkY x c (g + 1) = x / 12 + (g + 1 - dxN x c) := by unfold nkY; rw [if_pos h3, r2]
        rw [if_pos (by omega)]
        omega
      · have y1 : nkY x c g = x / 12 - (g - dxN x c) := by unfold nkY; rw [if_neg h3, r1]
        have y2 : nkY x c (g + 1) = x / 12 - (g + 1 - dxN x c) := by unfold nkY; rw [if_neg h3, r2]
        rw [if_neg (by omega)]
        omega
theorem nearK_eq {x c g : Nat} (hx : x < 96) (hc : c < 96) (hg : g ≤ distN x c) (h : nearK x c g = c) : g = distN x c := by
  obtain ⟨m1, m2⟩ := nearK_m hx hc hg
  rw [h] at m1 m2
  unfold distN dyN at hg ⊢
  unfold nkX at m1
  unfold nkY at m2
  have hd : dxN x c = (x % 12 - c % 12) + (c % 12 - x % 12) := rfl
  by_cases h1 : x % 12 < c % 12
  · rw [if_pos h1] at m1
    by_cases h3 : x / 12 < c / 12
    · rw [if_pos h3] at m2; omega
    · rw [if_neg h3] at m2; omega
  · rw [if_neg h1] at m1
    by_cases h3 : x / 12 < c / 12
    · rw [if_pos h3] at m2; omega
    · rw [if_neg h3] at m2; omega
theorem distN_0 {x c : Nat} (h : distN x c = 0) : x = c := by unfold distN dxN dyN at h; omega
theorem sR_sR {σ : MS} {j : Nat} {v u : Int32} : sR (sR σ j v) j u = sR σ j u := by
  refine Prod.ext rfl (Prod.ext ?_ rfl)
  funext a x
  by_cases ha : a = 1
  · subst ha
    show row (sR (sR σ j v) j u) x = row (sR σ j u) x
    rw [rowS_if, rowS_if, rowS_if]
    split <;> rfl
  · simp [sA, ha]
theorem sR_id {σ : MS} {j : Nat} {v : Int32} (h : row σ j = v) : sR σ j v = σ := by
  refine Prod.ext rfl (Prod.ext ?_ rfl)
  funext a x
  by_cases ha : a = 1
  · subst ha
    show row (sR σ j v) x = row σ x
    rw [rowS_if]
    split
    · rename_i z
      rw [z, h]
    · rfl
  · simp [sA, ha]
/-- what is left of a week of a party with k in its queue and l miles left -/
def survG (a k l : Nat) (σ : MS) : MS := survL a l (drops a k σ)
section SVG
variable {σ : MS} {a k l c x : Nat}
theorem survG_0 (hq : row σ (a + 2) = nI 0) : survG a 0 l σ = σ := survL_e hq
theorem drops_w (e : row σ (a + 3) = nI c) (hc : c < 96) (h : sec σ c 0 = nI 0) : drops a (k + 1) σ = σ := by
  simp only [drops]
  rw [if_pos]
  rw [e, tN_nI (by omega)]
  exact h
theorem survG_d (e : row σ (a + 3) = nI c) (hc : c < 96) (h : ¬ sec σ c 0 = nI 0) : survG a (k + 1) l σ = survG a k l (deqV a σ) := congrArg (survL a l) (drops_s e hc h)
theorem survG_w (e : row σ (a + 3) = nI c) (hc : c < 96) (h : sec σ c 0 = nI 0) : survG a (k + 1) l σ = survL a l σ := congrArg (survL a l) (drops_w e hc h)
/-- one mile of the way -/
theorem surv_way1 (ha : 768 ≤ a) (hq : PaQ σ a (k + 1)) (hx : row σ (a + 1) = nI x) (hx9 : x < 96) (e : row σ (a + 3) = nI c) (hc : c < 96) (h : sec σ c 0 = nI 0) (hne : ¬ x = c) : survL a (l + 1) σ = survL a l (sR σ (a + 1) (nI (nearN x c))) := by
  rw [survL_s hq.1 (by omega) (by have := hq.2.1; omega), surv1_mv hq.1 hq.2.1 hx hx9 e hc hne]
  exact congrArg (survL a l) (drops_w ((rowS_ne (by omega)).trans e) hc ((rowS_ne (by omega)).trans h))
/-- so many miles of the way -/
theorem surv_way (ha : 768 ≤ a) (hq : PaQ σ a (k + 1)) (hx : row σ (a + 1) = nI x) (hx9 : x < 96) (e : row σ (a + 3) = nI c) (hc : c < 96) (h : sec σ c 0 = nI 0) : ∀ g l, g ≤ distN x c → survL a (g + l) σ = survL a l (sR σ (a + 1) (nI (nearK x c g)))
  | 0, l, _ => by rw [nearK_0, Nat.zero_add, sR_id hx]
  | g + 1, l, hg => by
    have ih := surv_way ha hq hx hx9 e hc h g (l + 1) (by omega)
    have hne : ¬ nearK x c g = c := fun z => by
      have := nearK_eq hx9 hc (by omega) z
      omega
    rw [show g + 1 + l = g + (l + 1) by omega, ih, surv_way1 ha (PaQ_sR (by omega) hq) rowS_eq (nearK_lt hx9 hc (by omega)) ((rowS_ne (by omega)).trans e) hc ((rowS_ne (by omega)).trans h) hne, sR_sR, nearK_s hx9 hc hg]
/-- so many miles that are not all -/
theorem surv_dig {m dn : Nat} (ha : 768 ≤ a) (hq : PaQ σ a (k + 1)) (hx : row σ (a + 1) = nI c) (e : row σ (a + 3) = nI c) (hc : c < 96) (h : sec σ c 0 = nI 0) (em : milesV (σ.2.1 4 c) (σ.2.1 3 c) = nI m) (hm : m ≤ 12) (ed : sec σ c 7 = nI dn) : ∀ g l, dn + g < m → survL a (g + l) σ = survL a l (sR σ (8 * c + 7) (nI (dn + g)))
  | 0, l, _ => by
    show survL a (0 + l) σ = survL a l (sR σ (8 * c + 7) (nI dn))
    rw [Nat.zero_add, sR_id ed]
  | g + 1, l, hg => by
    have ih := surv_dig ha hq hx e hc h em hm ed g (l + 1) (by omega)
    have q1 : PaQ (sR σ (8 * c + 7) (nI (dn + g))) a (k + 1) := PaQ_sR (by omega) hq
    have ed1 : dug (sR σ (8 * c + 7) (nI (dn + g))) c = sR σ (8 * c + 7) (nI (dn + (g + 1))) := by
      show sR _ (8 * c + 7) (row (sR σ (8 * c + 7) (nI (dn + g))) (8 * c + 7) + nI 1) = _
      rw [sR_sR, rowS_eq, nI_add]
      rfl
    have e4 : (sR σ (8 * c + 7) (nI (dn + (g + 1)))).2.1 4 = σ.2.1 4 := by simp [sA]
    have e3 : (sR σ (8 * c + 7) (nI (dn + (g + 1)))).2.1 3 = σ.2.1 3 := by simp [sA]
    rw [show g + 1 + l = g + (l + 1) by omega, ih, survL_s q1.1 (by omega) (by have := q1.2.1; omega), surv1_ne q1.1 q1.2.1 ((rowS_ne (by omega)).trans hx) ((rowS_ne (by omega)).trans e) hc ?_, ed1]
    · exact congrArg (survL a l) (drops_w ((rowS_ne (by omega)).trans e) hc ((rowS_ne (by omega)).trans h))
    · rw [ed1, e4, e3, em]
      show ¬ row (sR σ (8 * c + 7) (nI (dn + (g + 1)))) (8 * c + 7) = _
      rw [rowS_eq]
      intro z
      have := (nI_eq (by omega) (by omega)).mp z
      omega
/-- all the miles that are wanted: a lot -/
theorem surv_lot {m dn : Nat} (ha : 1720 ≤ a) (hq : PaQ σ a (k + 1)) (hx : row σ (a + 1) = nI c) (e : row σ (a + 3) = nI c) (hc : c < 96) (h : sec σ c 0 = nI 0) (em : milesV (σ.2.1 4 c) (σ.2.1 3 c) = nI m) (hm : m ≤ 12) (ed : sec σ c 7 = nI dn) (hd : dn < m) : survL a (m - dn + l) σ = survG a k l (deqV a (s_holds (sR σ (8 * c + 7) (nI m)) c (nI 1) (-1))) := by
  have e1 := surv_dig (by omega) hq hx e hc h em hm ed (m - dn - 1) (l + 1) (by omega)
  rw [show m - dn + l = m - dn - 1 + (l + 1) by omega, e1]
  have q1 : PaQ (sR σ (8 * c + 7) (nI (dn + (m - dn - 1)))) a (k + 1) := PaQ_sR (by omega) hq
  have ed1 : dug (sR σ (8 * c + 7) (nI (dn + (m - dn - 1)))) c = sR σ (8 * c + 7) (nI m) := by
    show sR _ (8 * c + 7) (row (sR σ (8 * c + 7) (nI (dn + (m - dn - 1)))) (8 * c + 7) + nI 1) = _
    rw [sR_sR, rowS_eq, nI_add, show dn + (m - dn - 1) + 1 = m by omega]
  have e4 : (sR σ (8 * c + 7) (nI m)).2.1 4 = σ.2.1 4 := by simp [sA]
  have e3 : (sR σ (8 * c + 7) (nI m)).2.1 3 = σ.2.1 3 := by simp [sA]
  rw [survL_s q1.1 (by omega) (by have := q1.2.1; omega), surv1_eq q1.1 q1.2.1 ((rowS_ne (by omega)).trans hx) ((rowS_ne (by omega)).trans e) hc ?_, ed1]
  · refine congrArg (survL a l) (drops_s (c := c) ((holds_row (by omega)).trans ((rowS_ne (by omega)).trans e)) hc ?_)
    intro z
    have z1 : sec (s_holds (sR σ (8 * c + 7) (nI m)) c (nI 1) (-1)) c 0 = nI 1 := by
      show row (s_holds (sR σ (8 * c + 7) (nI m)) c (nI 1) (-1)) (8 * c + 0) = _
      rw [rowS_ne (by omega), rowS_ne (by omega), rowS_ne (by omega), rowS_ne (by omega), rowS_ne (by omega), rowS_ne (by omega), rowS_eq]
    rw [z1] at z
    exact absurd z (by decide)
  · rw [ed1, e4, e3, em]
    show row (sR σ (8 * c + 7) (nI m)) (8 * c + 7) = _
    rw [rowS_eq]
end SVG
