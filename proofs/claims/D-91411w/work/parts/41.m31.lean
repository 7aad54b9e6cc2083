set_option maxRecDepth 100000
def sumN (f : Nat → Nat) : Nat → Nat
  | 0 => 0
  | n + 1 => sumN f n + f n
theorem sumN_cg {f h : Nat → Nat} : ∀ {n : Nat}, (∀ j, j < n → f j = h j) → sumN f n = sumN h n
  | 0, _ => rfl
  | n + 1, e => by simp only [sumN]; rw [sumN_cg (n := n) (fun j hj => e j (by omega)), e n (by omega)]
/-- a sum that changes at one place -/
theorem sumN_at {f h : Nat → Nat} {c : Nat} : ∀ {n : Nat}, c < n → (∀ j, j < n → j ≠ c → f j = h j) → sumN f n + h c = sumN h n + f c
  | n + 1, hc, e => by
    simp only [sumN]
    by_cases h1 : c = n
    · subst h1
      rw [sumN_cg (n := c) (fun j hj => e j (by omega) (by omega))]
      omega
    · have := sumN_at (n := n) (f := f) (h := h) (c := c) (by omega) (fun j hj => e j (by omega))
      rw [e n (by omega) (by omega)]
      omega
theorem sumN_le {f : Nat → Nat} {b : Nat} : ∀ {n : Nat}, (∀ j, j < n → f j ≤ b) → sumN f n ≤ n * b
  | 0, _ => by simp [sumN]
  | n + 1, e => by
    have := sumN_le (n := n) (f := f) (b := b) (fun j hj => e j (by omega))
    have := e n (by omega)
    simp only [sumN, Nat.succ_mul]
    omega
def remC (σ : MS) (c : Nat) : Nat := if sec σ c 0 = nI 0 then tN (milesV (σ.2.1 4 c) (σ.2.1 3 c)) - tN (sec σ c 7) else 0
def dstN (x c : Nat) : Nat := (x % 12 - c % 12) + (c % 12 - x % 12) + ((x / 12 - c / 12) + (c / 12 - x / 12))
def parM (σ : MS) (a : Nat) : Nat := 20 * tN (row σ (a + 2)) + (if tN (row σ (a + 2)) = 0 then 0 else dstN (tN (row σ (a + 1))) (tN (row σ (a + 3))))
def PhiS (σ : MS) : Nat := 20 * sumN (remC σ) 96 + sumN (fun b => parM σ (1720 + 15 * b)) 4
/-- the miles that are done are less than those that are wanted; paces -/
def IvD (σ : MS) (q : Nat) : Prop := (∀ c, c < 96 → ∃ m, milesV (σ.2.1 4 c) (σ.2.1 3 c) = nI m ∧ m ≤ 12 ∧ (sec σ c 0 = nI 0 → ∃ dn, sec σ c 7 = nI dn ∧ dn < m)) ∧ ∀ a, a < q → ∃ v, 1 ≤ v ∧ v ≤ 9 ∧ row σ (1720 + 15 * a + 0) = nI v
theorem dst_le {x c : Nat} (hx : x < 96) (hc : c < 96) : dstN x c ≤ 18 := by unfold dstN; omega
theorem dst_near {x c : Nat} (hx : x < 96) (hc : c < 96) (h : x ≠ c) : dstN (nearN x c) c + 1 = dstN x c := by
  unfold nearN dstN
  split
  · omega
  · split
    · omega
    · split <;> omega
theorem parM_q {σ : MS} {a q x : Nat} (h : PaQ σ a q) (hx : row σ (a + 1) = nI x) (hx2 : x < 96) : parM σ a = 20 * q + (if q = 0 then 0 else dstN x (tN (row σ (a + 3)))) := by
  have h12 := h.2.1
  unfold parM
  rw [h.1, hx, tN_nI (by omega), tN_nI (by omega)]
theorem parM_le {σ : MS} {a q x : Nat} (h : PaQ σ a q) (hx : row σ (a + 1) = nI x) (hx2 : x < 96) : parM σ a ≤ 20 * q + 18 := by
  have h12 := h.2.1
  rw [parM_q h hx hx2]
  split
  · omega
  · obtain ⟨c, hc, e⟩ := h.2.2 0 (by omega)
    rw [show row σ (a + 3) = nI c from e, tN_nI (by omega)]
    have := dst_le hx2 hc
    omega
theorem parM_ge {σ : MS} {a q x : Nat} (h : PaQ σ a q) (hx : row σ (a + 1) = nI x) (hx2 : x < 96) : 20 * q ≤ parM σ a := by
  rw [parM_q h hx hx2]; omega
theorem drops_M {a : Nat} : ∀ (q x : Nat) (σ : MS), PaQ σ a q → row σ (a + 1) = nI x → x < 96 → (parM (drops a q σ) a ≤ parM σ a ∧ (0 < q → parM (drops a q σ) a < parM σ a ∨ (drops a q σ = σ ∧ sec σ (tN (row σ (a + 3))) 0 = 0)))
  | 0, _, _, _, _, _ => ⟨Nat.le_refl _, fun z => absurd z (Nat.lt_irrefl _)⟩
  | q + 1, x, σ, h, hx, hx2 => by
    by_cases hs : sec σ (tN (row σ (a + 3))) 0 = 0
    · have e1 : drops a (q + 1) σ = σ := by simp only [drops, if_pos hs]
      rw [e1]
      exact ⟨Nat.le_refl _, fun _ => Or.inr ⟨rfl, hs⟩⟩
    · have e1 : drops a (q + 1) σ = drops a q (deqV a σ) := by simp only [drops, if_neg hs]
      have hd := PaQ_deq h
      have hx1 : row (deqV a σ) (a + 1) = nI x := (deq_other h (Or.inr (Or.inr (Or.inr rfl)))).trans hx
      have ih := (drops_M q x (deqV a σ) hd hx1 hx2).1
      have l1 := parM_le hd hx1 hx2
      have l2 := parM_ge h hx hx2
      rw [e1]
      exact ⟨by omega, fun _ => Or.inl (by omega)⟩
theorem remC_cg {σ τ : MS} (h : ∀ j, j < 768 → row τ j = row σ j) (h3 : τ.2.1 3 = σ.2.1 3) (h4 : τ.2.1 4 = σ.2.1 4) {c : Nat} (hc : c < 96) : remC τ c = remC σ c := by
  unfold remC
  rw [show sec τ c 0 = sec σ c 0 from h _ (by omega), show sec τ c 7 = sec σ c 7 from h _ (by omega), h3, h4]
theorem parM_cg {σ τ : MS} {a : Nat} (h : ∀ j, a ≤ j → j < a + 15 → row τ j = row σ j) : parM τ a = parM σ a := by
  unfold parM
  rw [h _ (by omega) (by omega), h _ (by omega) (by omega), h _ (by omega) (by omega)]
theorem IvD.cg {σ τ : MS} {q : Nat} (v : IvD σ q) (h : ∀ c, c < 96 → row τ (8 * c + 0) = row σ (8 * c + 0) ∧ row τ (8 * c + 7) = row σ (8 * c + 7)) (h3 : τ.2.1 3 = σ.2.1 3) (h4 : τ.2.1 4 = σ.2.1 4) (hp : ∀ a, a < q → row τ (1720 + 15 * a + 0) = row σ (1720 + 15 * a + 0)) : IvD τ q := by
  refine ⟨fun c hc => ?_, fun a ha => by rw [hp a ha]; exact v.2 a ha⟩
  obtain ⟨m, e, hm, k⟩ := v.1 c hc
  rw [h3, h4]
  refine ⟨m, e, hm, fun h0 => ?_⟩
  rw [show sec τ c 0 = sec σ c 0 from (h c hc).1] at h0
  rw [show sec τ c 7 = sec σ c 7 from (h c hc).2]
  exact k h0
/-- a block of a party changed, nothing else that counts -/
theorem phi_par {σ τ : MS} {b : Nat} (hb : b < 4) (h : ∀ j, j < 1720 + 15 * b ∨ 1720 + 15 * b + 15 ≤ j → row τ j = row σ j) (h3 : τ.2.1 3 = σ.2.1 3) (h4 : τ.2.1 4 = σ.2.1 4) : PhiS τ + parM σ (1720 + 15 * b) = PhiS σ + parM τ (1720 + 15 * b) := by
  unfold PhiS
  rw [sumN_cg (f := remC τ) (h := remC σ) (fun c hc => remC_cg (fun j hj => h j (by omega)) h3 h4 hc)]
  have := sumN_at (f := fun b => parM τ (1720 + 15 * b)) (h := fun b => parM σ (1720 + 15 * b)) (c := b) (n := 4) hb (fun j hj hne => parM_cg (fun k h1 h2 => h k (by omega)))
  omega
theorem drops_phi {σ : MS} {b q x : Nat} (hb : b < 4) (h : PaQ σ (1720 + 15 * b) q) (hx : row σ (1720 + 15 * b + 1) = nI x) (hx2 : x < 96) : PhiS (drops (1720 + 15 * b) q σ) ≤ PhiS σ ∧ (0 < q → PhiS (drops (1720 + 15 * b) q σ) < PhiS σ ∨ (drops (1720 + 15 * b) q σ = σ ∧ sec σ (tN (row σ (1720 + 15 * b + 3))) 0 = 0)) := by
  obtain ⟨-, p3, -, p5, -⟩ := drops_ok q σ h
  have e := phi_par (τ := drops (1720 + 15 * b) q σ) hb (fun j hj => p3 j (by omega)) (p5 3 (by decide)) (p5 4 (by decide))
  obtain ⟨d1, d2⟩ := drops_M q x σ h hx hx2
  refine ⟨by omega, fun hq => ?_⟩
  rcases d2 hq with h1 | h1
  · exact Or.inl (by omega)
  · exact Or.inr h1
theorem drops_ivd {σ : MS} {b q k : Nat} (hb : b < 4) (hq : q ≤ 4) (h : PaQ σ (1720 + 15 * b) k) (v : IvD σ q) : IvD (drops (1720 + 15 * b) k σ) q := by
  obtain ⟨-, p3, -, p5, -⟩ := drops_ok k σ h
  refine v.cg (fun c hc => ⟨p3 _ (by omega), p3 _ (by omega)⟩) (p5 3 (by decide)) (p5 4 (by decide)) (fun a ha => ?_)
  by_cases e : a = b
  · subst e
    exact p3 _ (by omega)
  · exact p3 _ (by omega)
theorem dug_phi {σ : MS} {c dn m : Nat} (hc : c < 96) (h0 : sec σ c 0 = nI 0) (e : milesV (σ.2.1 4 c) (σ.2.1 3 c) = nI m) (hm : m ≤ 12) (ed : sec σ c 7 = nI dn) (hd : dn < m) : PhiS (dug σ c) + 20 = PhiS σ := by
  have hr : ∀ j, j ≠ 8 * c + 7 → row (dug σ c) j = row σ j := fun j hj => rowS_ne hj
  have h1 := sumN_at (f := remC (dug σ c)) (h := remC σ) (c := c) (n := 96) hc (fun j hj hne => by
    unfold remC
    rw [show sec (dug σ c) j 0 = sec σ j 0 from hr _ (by omega), show sec (dug σ c) j 7 = sec σ j 7 from hr _ (by omega)]
    rfl)
  have h2 : remC σ c = m - dn := by
    unfold remC
    rw [if_pos h0, e, ed, tN_nI (by omega), tN_nI (by omega)]
  have h3 : remC (dug σ c) c = m - (dn + 1) := by
    unfold remC
    rw [show sec (dug σ c) c 0 = sec σ c 0 from hr _ (by omega), if_pos h0, show sec (dug σ c) c 7 = nI (dn + 1) from rowS_eq.trans (by rw [show row σ (8 * c + 7) = nI dn from ed, nI_add])]
    show tN (milesV (σ.2.1 4 c) (σ.2.1 3 c)) - _ = _
    rw [e, tN_nI (by omega), tN_nI (by omega)]
  unfold PhiS
  rw [sumN_cg (f := fun b => parM (dug σ c) (1720 + 15 * b)) (h := fun b => parM σ (1720 + 15 * b)) (fun b hb => parM_cg (fun j h1 h2 => hr j (by omega)))]
  omega
theorem holds_phi {σ : MS} {c : Nat} {h9 p9 : Int32} (hc : c < 96) (hh : ¬ h9 = nI 0) : PhiS (s_holds σ c h9 p9) ≤ PhiS σ := by
  have hr : ∀ j, (j < 8 * c ∨ 8 * c + 7 ≤ j) → row (s_holds σ c h9 p9) j = row σ j := fun j hj => holds_row hj
  have h1 := sumN_at (f := remC (s_holds σ c h9 p9)) (h := remC σ) (c := c) (n := 96) hc (fun j hj hne => by
    unfold remC
    rw [show sec (s_holds σ c h9 p9) j 0 = sec σ j 0 from hr _ (by omega), show sec (s_holds σ c h9 p9) j 7 = sec σ j 7 from hr _ (by omega)]
    rfl)
  have h3 : remC (s_holds σ c h9 p9) c = 0 := by
    unfold remC
    rw [show sec (s_holds σ c h9 p9) c 0 = h9 by
      show row _ (8 * c + 0) = h9
      rw [rowS_ne (by omega), rowS_ne (by omega), rowS_ne (by omega), rowS_ne (by omega), rowS_ne (by omega), rowS_ne (by omega), rowS_eq], if_neg hh]
  unfold PhiS
  rw [sumN_cg (f := fun b => parM (s_holds σ c h9 p9) (1720 + 15 * b)) (h := fun b => parM σ (1720 + 15 * b)) (fun b hb => parM_cg (fun j h1 h2 => hr j (by omega)))]
  omega
theorem IvD.holds {σ : MS} {c q : Nat} {h9 p9 : Int32} (v : IvD σ q) (hc : c < 96) (hh : ¬ h9 = nI 0) : IvD (s_holds σ c h9 p9) q := by
  have hr : ∀ j, (j < 8 * c ∨ 8 * c + 7 ≤ j) → row (s_holds σ c h9 p9) j = row σ j := fun j hj => holds_row hj
  have e0 : sec (s_holds σ c h9 p9) c 0 = h9 := by
    show row _ (8 * c + 0) = h9
    rw [rowS_ne (by omega), rowS_ne (by omega), rowS_ne (by omega), rowS_ne (by omega), rowS_ne (by omega), rowS_ne (by omega), rowS_eq]
  refine ⟨fun o ho => ?_, fun a ha => ?_⟩
  · obtain ⟨m, e, hm, k⟩ := v.1 o ho
    refine ⟨m, e, hm, fun h0 => ?_⟩
    by_cases eo : o = c
    · subst eo
      exact absurd (e0.symm.trans h0) hh
    · rw [show sec (s_holds σ c h9 p9) o 0 = sec σ o 0 from hr _ (by omega)] at h0
      rw [show sec (s_holds σ c h9 p9) o 7 = sec σ o 7 from hr _ (by omega)]
      exact k h0
  · rw [hr _ (by omega)]
    exact v.2 a ha
theorem ivd_dug {σ : MS} {c q dn m : Nat} (v : IvD σ q) (hc : c < 96) (e : milesV (σ.2.1 4 c) (σ.2.1 3 c) = nI m) (hm : m ≤ 12) (ed : sec σ c 7 = nI dn) (hd : dn + 1 < m) : IvD (dug σ c) q := by
  have hr : ∀ j, j ≠ 8 * c + 7 → row (dug σ c) j = row σ j := fun j hj => rowS_ne hj
  refine ⟨fun o ho => ?_, fun a ha => by rw [hr _ (by omega)]; exact v.2 a ha⟩
  obtain ⟨m1, e1, hm1, k⟩ := v.1 o ho
  refine ⟨m1, e1, hm1, fun h0 => ?_⟩
  by_cases eo : o = c
  · subst eo
    have em : m1 = m := (nI_eq (by omega) (by omega)).mp (e1.symm.trans e)
    exact ⟨dn + 1, rowS_eq.trans (by rw [show row σ (8 * o + 7) = nI dn from ed, nI_add]), by omega⟩
  · rw [show sec (dug σ c) o 0 = sec σ o 0 from hr _ (by omega)] at h0
    rw [show sec (dug σ c) o 7 = sec σ o 7 from hr _ (by omega)]
    exact k h0
theorem dug_holds_ivd {σ : MS} {c q : Nat} {h9 p9 : Int32} (v : IvD σ q) (hc : c < 96) (hh : ¬ h9 = nI 0) : IvD (s_holds (dug σ c) c h9 p9) q := by
  have v1 := v.holds (p9 := p9) hc hh
  have h7 : ∀ j, j ≠ 8 * c + 7 → row (s_holds (dug σ c) c h9 p9) j = row (s_holds σ c h9 p9) j := by
    intro j hj
    by_cases h1 : j < 8 * c ∨ 8 * c + 7 ≤ j
    · rw [holds_row h1, holds_row h1]
      exact rowS_ne hj
    · rcases (by omega : j = 8 * c + 0 ∨ j = 8 * c + 1 ∨ j = 8 * c + 2 ∨ j = 8 * c + 3 ∨ j = 8 * c + 4 ∨ j = 8 * c + 5 ∨ j = 8 * c + 6) with e | e | e | e | e | e | e 
      · subst e; exact ((rowS_ne (by omega)).trans ((rowS_ne (by omega)).trans ((rowS_ne (by omega)).trans ((rowS_ne (by omega)).trans ((rowS_ne (by omega)).trans ((rowS_ne (by omega)).trans (rowS_eq))))))).trans ((rowS_ne (by omega)).trans ((rowS_ne (by omega)).trans ((rowS_ne (by omega)).trans ((rowS_ne (by omega)).trans ((rowS_ne (by omega)).trans ((rowS_ne (by omega)).trans (rowS_eq))))))).symm
      · subst e; exact ((rowS_ne (by omega)).trans ((rowS_ne (by omega)).trans ((rowS_ne (by omega)).trans ((rowS_ne (by omega)).trans ((rowS_ne (by omega)).trans (rowS_eq)))))).trans ((rowS_ne (by omega)).trans ((rowS_ne (by omega)).trans ((rowS_ne (by omega)).trans ((rowS_ne (by omega)).trans ((rowS_ne (by omega)).trans (rowS_eq)))))).symm
      · subst e; exact ((rowS_ne (by omega)).trans ((rowS_ne (by omega)).trans ((rowS_ne (by omega)).trans ((rowS_ne (by omega)).trans (rowS_eq))))).trans ((rowS_ne (by omega)).trans ((rowS_ne (by omega)).trans ((rowS_ne (by omega)).trans ((rowS_ne (by omega)).trans (rowS_eq))))).symm
      · subst e; exact ((rowS_ne (by omega)).trans ((rowS_ne (by omega)).trans ((rowS_ne (by omega)).trans (rowS_eq)))).trans ((rowS_ne (by omega)).trans ((rowS_ne (by omega)).trans ((rowS_ne (by omega)).trans (rowS_eq)))).symm
      · subst e; exact ((rowS_ne (by omega)).trans ((rowS_ne (by omega)).trans (rowS_eq))).trans ((rowS_ne (by omega)).trans ((rowS_ne (by omega)).trans (rowS_eq))).symm
      · subst e; exact ((rowS_ne (by omega)).trans (rowS_eq)).trans ((rowS_ne (by omega)).trans (rowS_eq)).symm
      · subst e; exact (rowS_eq).trans (rowS_eq).symm
  have e0 : sec (s_holds (dug σ c) c h9 p9) c 0 = h9 := by
    show row _ (8 * c + 0) = h9
    rw [rowS_ne (by omega), rowS_ne (by omega), rowS_ne (by omega), rowS_ne (by omega), rowS_ne (by omega), rowS_ne (by omega), rowS_eq]
  refine ⟨fun o ho => ?_, fun a ha => by rw [h7 _ (by omega)]; exact v1.2 a ha⟩
  obtain ⟨m, e, hm, k⟩ := v1.1 o ho
  refine ⟨m, e, hm, fun h0 => ?_⟩
  by_cases eo : o = c
  · subst eo
    exact absurd (e0.symm.trans h0) hh
  · rw [show sec (s_holds (dug σ c) c h9 p9) o 0 = sec (s_holds σ c h9 p9) o 0 from h7 _ (by omega)] at h0
    rw [show sec (s_holds (dug σ c) c h9 p9) o 7 = sec (s_holds σ c h9 p9) o 7 from h7 _ (by omega)]
    exact k h0
def FOk (σ : MS) (a : Nat) : Prop := ∀ k, PaQ σ a k → 0 < k → sec σ (tN (row σ (a + 3))) 0 = nI 0
theorem drops_fok {σ : MS} {b k : Nat} (h : PaQ σ (1720 + 15 * b) k) : FOk (drops (1720 + 15 * b) k σ) (1720 + 15 * b) := by
  obtain ⟨⟨q1, l1, p1, p2⟩, p3, -⟩ := drops_ok k σ h
  have hk := h.2.1
  intro k2 h2 h0
  have h12 := h2.2.1
  have hk12 := h.2.1
  have e : k2 = q1 := (nI_eq (by omega) (by omega)).mp (h2.1.symm.trans p1.1)
  subst e
  obtain ⟨c, hc, ec, hw⟩ := p2 h0
  rw [ec, tN_nI (by omega)]
  exact (p3 _ (by omega)).trans (hw (by omega))
theorem surv1_phi {σ : MS} {b k q : Nat} (hb : b < 4) (hq4 : q ≤ 4) (h : PaQ σ (1720 + 15 * b) k) (h0 : 0 < k) {x : Nat} (hx : x < 96) (ex : row σ (1720 + 15 * b + 1) = nI x) (hF : FOk σ (1720 + 15 * b)) (v : IvD σ q) : PhiS (surv1 (1720 + 15 * b) σ) < PhiS σ ∧ IvD (surv1 (1720 + 15 * b) σ) q ∧ FOk (surv1 (1720 + 15 * b) σ) (1720 + 15 * b) := by
  have hk12 := h.2.1
  obtain ⟨c, hc, ec⟩ := h.2.2 0 h0
  have ec' : row σ (1720 + 15 * b + 3) = nI c := ec
  have hw := hF k h h0
  rw [ec', tN_nI (by omega)] at hw
  obtain ⟨m, em, hm, kd⟩ := v.1 c hc
  obtain ⟨dn, ed, hd⟩ := kd hw
  by_cases hxc : x = c
  · subst hxc
    have pd := dug_phi hc hw em hm ed hd
    have q1 : PaQ (dug σ x) (1720 + 15 * b) k := PaQ_sR (by omega) h
    have x1 : row (dug σ x) (1720 + 15 * b + 1) = nI x := (rowS_ne (by omega)).trans ex
    by_cases h2 : sec (dug σ x) x 7 = milesV ((dug σ x).2.1 4 x) ((dug σ x).2.1 3 x)
    · rw [surv1_eq h.1 hk12 ex ec hc h2]
      have q2 : PaQ (s_holds (dug σ x) x (nI 1) (-1)) (1720 + 15 * b) k := PaQ_holds hc (by omega) q1
      have x2 : row (s_holds (dug σ x) x (nI 1) (-1)) (1720 + 15 * b + 1) = nI x := (holds_row (by omega)).trans x1
      have d1 := (drops_phi hb q2 x2 hx).1
      have d2 := holds_phi (σ := dug σ x) (h9 := nI 1) (p9 := -1) hc (by decide)
      exact ⟨by omega, drops_ivd hb hq4 q2 (dug_holds_ivd v hc (by decide)), drops_fok q2⟩
    · rw [surv1_ne h.1 hk12 ex ec hc h2]
      have d1 := (drops_phi hb q1 x1 hx).1
      have hd1 : dn + 1 < m := by
        rcases Nat.lt_or_ge (dn + 1) m with z | z
        · exact z
        · exfalso
          apply h2
          have e9 : sec (dug σ x) x 7 = nI (dn + 1) := rowS_eq.trans (by rw [show row σ (8 * x + 7) = nI dn from ed, nI_add])
          rw [e9, show dn + 1 = m by omega]
          exact em.symm
      exact ⟨by omega, drops_ivd hb hq4 q1 (ivd_dug v hc em hm ed hd1), drops_fok q1⟩
  · rw [surv1_mv h.1 hk12 ex hx ec hc hxc]
    have q1 : PaQ (sR σ (1720 + 15 * b + 1) (nI (nearN x c))) (1720 + 15 * b) k := PaQ_sR (by omega) h
    have x1 : row (sR σ (1720 + 15 * b + 1) (nI (nearN x c))) (1720 + 15 * b + 1) = nI (nearN x c) := rowS_eq
    have hn := nearN_lt hx hc hxc
    have d1 := (drops_phi hb q1 x1 hn).1
    have d2 := phi_par (σ := σ) (τ := sR σ (1720 + 15 * b + 1) (nI (nearN x c))) hb (fun j hj => rowS_ne (by omega)) rfl rfl
    have e1 := parM_q h ex hx
    have e2 := parM_q q1 x1 hn
    rw [if_neg (by omega), ec', tN_nI (by omega)] at e1
    rw [if_neg (by omega), show row (sR σ (1720 + 15 * b + 1) (nI (nearN x c))) (1720 + 15 * b + 3) = nI c from (rowS_ne (by omega)).trans ec', tN_nI (by omega)] at e2
    have e3 := dst_near hx hc hxc
    refine ⟨by omega, drops_ivd hb hq4 q1 (v.cg (fun o ho => ⟨rowS_ne (by omega), rowS_ne (by omega)⟩) rfl rfl (fun a ha => rowS_ne (by omega))), drops_fok q1⟩
theorem survL_phi {n nl nb q nor nw b : Nat} (hb : b < 4) (hq4 : q ≤ 4) : ∀ (l : Nat) (σ : MS), IvG σ n nl nb q nor nw → IvD σ q → FOk σ (1720 + 15 * b) → PhiS (survL (1720 + 15 * b) l σ) ≤ PhiS σ ∧ IvD (survL (1720 + 15 * b) l σ) q ∧ (0 < l → ¬ row σ (1720 + 15 * b + 2) ≤ 0 → PhiS (survL (1720 + 15 * b) l σ) < PhiS σ)
  | 0, _, _, d, _ => ⟨Nat.le_refl _, d, fun z => absurd z (Nat.lt_irrefl _)⟩
  | l + 1, σ, v, d, f => by
    by_cases h : row σ (1720 + 15 * b + 2) ≤ 0
    · have e : survL (1720 + 15 * b) (l + 1) σ = σ := by simp only [survL]; rw [if_pos h]
      rw [e]
      exact ⟨Nat.le_refl _, d, fun _ z => absurd h z⟩
    · have e : survL (1720 + 15 * b) (l + 1) σ = survL (1720 + 15 * b) l (surv1 (1720 + 15 * b) σ) := by simp only [survL]; rw [if_neg h]
      rw [e]
      obtain ⟨⟨k, hk⟩, x, hx, ex⟩ := v.par b hb
      have hk0 : 0 < k := by
        rcases Nat.eq_zero_or_pos k with z | z
        · exact absurd (by rw [hk.1, z]; decide) h
        · exact z
      obtain ⟨a1, a2, a3⟩ := surv1_phi hb hq4 hk hk0 hx ex f d
      obtain ⟨b1, b2, -⟩ := survL_phi hb hq4 l _ (surv1_iv v hb h) a2 a3
      exact ⟨by omega, b2, fun _ _ => by omega⟩
theorem surveys_phi {σ : MS} {n nl nb q nor nw b : Nat} (hb : b < q) (v : IvG σ n nl nb q nor nw) (d : IvD σ q) : PhiS (s_surveys σ b) ≤ PhiS σ ∧ IvD (s_surveys σ b) q ∧ (¬ row σ (1720 + 15 * b + 2) ≤ 0 → PhiS (s_surveys σ b) < PhiS σ) := by
  have hQ := v.hQ
  have hb4 : b < 4 := by omega
  obtain ⟨⟨k, hk⟩, x, hx, ex⟩ := v.par b hb4
  have hk12 := hk.2.1
  obtain ⟨pv, pv1, pv9, ep⟩ := d.2 b hb
  obtain ⟨-, p3, -⟩ := drops_ok k σ hk
  have e : s_surveys σ b = survL (1720 + 15 * b) pv (drops (1720 + 15 * b) k σ) := by
    unfold s_surveys
    simp only []
    rw [hk.1, tN_nI (by omega), p3 _ (by omega), ep, tN_nI (by omega)]
  rw [e]
  obtain ⟨d1, d2⟩ := drops_phi hb4 hk ex hx
  obtain ⟨l1, l2, l3⟩ := survL_phi hb4 hQ pv _ (v.drops hb4 hk) (drops_ivd hb4 hQ hk d) (drops_fok hk)
  refine ⟨by omega, l2, fun h => ?_⟩
  have hk0 : 0 < k := by
    rcases Nat.eq_zero_or_pos k with z | z
    · exact absurd (by rw [hk.1, z]; decide) h
    · exact z
  rcases d2 hk0 with z | ⟨z, -⟩
  · omega
  · have := l3 (by omega) (by rw [z]; exact h)
    omega
theorem surv1_row {σ : MS} {b k j : Nat} (h : PaQ σ (1720 + 15 * b) k) (h0 : 0 < k) {x : Nat} (hx : x < 96) (ex : row σ (1720 + 15 * b + 1) = nI x) (hj : 768 ≤ j) (hj2 : j < 1720 + 15 * b ∨ 1720 + 15 * b + 15 ≤ j) : row (surv1 (1720 + 15 * b) σ) j = row σ j := by
  have hk12 := h.2.1
  obtain ⟨c, hc, ec⟩ := h.2.2 0 h0
  by_cases hxc : x = c
  · subst hxc
    have q1 : PaQ (dug σ x) (1720 + 15 * b) k := PaQ_sR (by omega) h
    have r1 : row (dug σ x) j = row σ j := rowS_ne (by omega)
    by_cases h2 : sec (dug σ x) x 7 = milesV ((dug σ x).2.1 4 x) ((dug σ x).2.1 3 x)
    · rw [surv1_eq h.1 hk12 ex ec hc h2]
      have q2 : PaQ (s_holds (dug σ x) x (nI 1) (-1)) (1720 + 15 * b) k := PaQ_holds hc (by omega) q1
      exact ((drops_ok k _ q2).2.1 j (by omega)).trans ((holds_row (by omega)).trans r1)
    · rw [surv1_ne h.1 hk12 ex ec hc h2]
      exact ((drops_ok k _ q1).2.1 j (by omega)).trans r1
  · rw [surv1_mv h.1 hk12 ex hx ec hc hxc]
    have q1 : PaQ (sR σ (1720 + 15 * b + 1) (nI (nearN x c))) (1720 + 15 * b) k := PaQ_sR (by omega) h
    exact ((drops_ok k _ q1).2.1 j (by omega)).trans (rowS_ne (by omega))
theorem survL_row {n nl nb q nor nw b j : Nat} (hb : b < 4) (hj : 768 ≤ j) (hj2 : j < 1720 + 15 * b ∨ 1720 + 15 * b + 15 ≤ j) : ∀ (l : Nat) (σ : MS), IvG σ n nl nb q nor nw → row (survL (1720 + 15 * b) l σ) j = row σ j
  | 0, _, _ => rfl
  | l + 1, σ, v => by
    by_cases h : row σ (1720 + 15 * b + 2) ≤ 0
    · have e : survL (1720 + 15 * b) (l + 1) σ = σ := by simp only [survL]; rw [if_pos h]
      rw [e]
    · have e : survL (1720 + 15 * b) (l + 1) σ = survL (1720 + 15 * b) l (surv1 (1720 + 15 * b) σ) := by simp only [survL]; rw [if_neg h]
      rw [e]
      obtain ⟨⟨k, hk⟩, x, hx, ex⟩ := v.par b hb
      have hk0 : 0 < k := by
        rcases Nat.eq_zero_or_pos k with z | z
        · exact absurd (by rw [hk.1, z]; decide) h
        · exact z
      exact (survL_row hb hj hj2 l _ (surv1_iv v hb h)).trans (surv1_row hk hk0 hx ex hj hj2)
theorem surveys_row {σ : MS} {n nl nb q nor nw b j : Nat} (hb : b < 4) (v : IvG σ n nl nb q nor nw) (hj : 1720 + 15 * b + 15 ≤ j) : row (s_surveys σ b) j = row σ j := by
  obtain ⟨⟨k, hk⟩, x, hx, ex⟩ := v.par b hb
  obtain ⟨-, p3, -⟩ := drops_ok k σ hk
  have hk12 := hk.2.1
  unfold s_surveys
  simp only []
  rw [hk.1, tN_nI (by omega)]
  exact (survL_row hb (by omega) (by omega) _ _ (v.drops hb hk)).trans (p3 _ (by omega))
theorem surveysAll_phi {n nl nb q nor nw : Nat} : ∀ (k : Nat) (σ : MS), k ≤ q → IvG σ n nl nb q nor nw → IvD σ q → PhiS (s_surveysAll k σ) ≤ PhiS σ ∧ IvD (s_surveysAll k σ) q ∧ (queuedV σ k = true → PhiS (s_surveysAll k σ) < PhiS σ) ∧ (∀ j, 1720 + 15 * k ≤ j → row (s_surveysAll k σ) j = row σ j)
  | 0, _, _, _, d => ⟨Nat.le_refl _, d, fun z => by simp [queuedV, anyN] at z, fun _ _ => rfl⟩
  | k + 1, σ, hk, v, d => by
    have hQ := v.hQ
    obtain ⟨a1, a2, a3, a4⟩ := surveysAll_phi k σ (by omega) v d
    have v1 : IvG (s_surveysAll k σ) n nl nb q nor nw := upto_iv (f := survey1) (m := q) (fun i τ hi h => surveys_iv h (by omega)) v k (by omega)
    obtain ⟨b1, b2, b3⟩ := surveys_phi (b := k) (by omega) v1 a2
    have e : s_surveysAll (k + 1) σ = s_surveys (s_surveysAll k σ) k := rfl
    rw [e]
    refine ⟨by omega, b2, fun h => ?_, fun j hj => ?_⟩
    · by_cases h1 : queuedV σ k = true
      · have := a3 h1
        omega
      · have h2 : ¬ row σ (1720 + 15 * k + 2) ≤ 0 := by
          intro z
          apply h1
          have h9 : (queuedV σ k || decide (¬ row σ (1720 + 15 * k + 2) ≤ 0)) = true := h
          simpa [z] using h9
        have := b3 (by rw [a4 _ (by omega)]; exact h2)
        omega
    · rw [← a4 j (by omega)]
      exact surveys_row (by omega) v1 (by omega)
def lotF (q c : Nat) : Nat → Nat → MS → Nat × MS
  | 0, k, σ => (k, σ)
  | f + 1, k, σ => if ¬ sec σ c 0 = 0 then (k, σ) else if queuedV σ q = false then (k, σ) else lotF q c f (k + 1) (s_surveysAll q σ)
def lotR (q c : Nat) (σ : MS) : Nat × MS := lotF q c (PhiS σ + 1) 0 σ
def p_lot (σ : MS) (q : Nat) (c : Int32) : Int32 × MS := if inN c 96 = false then (nI 0, th σ 1) else if ¬ sec (s0 σ) (tN c) 0 = 0 then (nI 0, s0 σ) else (if sec (lotR q (tN c) (s_saves (s0 σ))).2 (tN c) 0 = 0 then -1 else nI (lotR q (tN c) (s_saves (s0 σ))).1, s_back (lotR q (tN c) (s_saves (s0 σ))).2)
theorem phi_le {σ : MS} {n nl nb q nor nw : Nat} (v : IvG σ n nl nb q nor nw) (d : IvD σ q) : PhiS σ ≤ 40000 := by
  have h1 := sumN_le (f := remC σ) (b := 12) (n := 96) (fun c hc => by
    obtain ⟨m, e, hm, -⟩ := d.1 c hc
    unfold remC
    split
    · rw [e, tN_nI (by omega)]
      omega
    · omega)
  have h2 := sumN_le (f := fun b => parM σ (1720 + 15 * b)) (b := 258) (n := 4) (fun b hb => by
    obtain ⟨⟨k, hk⟩, x, hx, ex⟩ := v.par b hb
    have := parM_le hk ex hx
    have := hk.2.1
    show parM σ (1720 + 15 * b) ≤ 258
    omega)
  unfold PhiS
  omega
theorem IvD.f0 {σ : MS} {q j : Nat} {x : Int32} (v : IvD σ q) : IvD (sF σ j x) q := v
theorem IvD.saves {σ : MS} {q : Nat} (v : IvD σ q) : IvD (s_saves σ) q := v.cg (fun _ _ => ⟨rfl, rfl⟩) rfl rfl (fun _ _ => rfl)
set_option maxHeartbeats 4000000 in
theorem w_X9_lot {g : GP} {ad : Nat → Nat} {μ : Mem} {σ : MS} {d : Nat} {c : Int32} {n nl nb q nor nw : Nat} (hd : 7 ≤ d) (hA : Inj ad 18) (iv : IvG σ n nl nb q nor nw) (dv : IvD σ q) : PM g yX9_lot (ws_ yX9_lot cX9_lot 4 (some .int)) d 0 0 [.ref (ad 0), .int c] (mm g ad μ σ) (rQ (some (.int ((p_lot σ q c).1))) (mm g ad μ ((p_lot σ q c).2))) := by
  refine PM.of (by decide +kernel) (Nat.le_of_ble_eq_true rfl) ?_
  show PJ g _ _ _ _ d 0 0 0 [(0, .ref (ad 0)), (1, .int c)] [] _ _
  have key : ∀ (c : Nat), c < 96 → ∀ (f k : Nat) (σ : MS), IvG σ n nl nb q nor nw → IvD σ q → PhiS σ < f → k + f ≤ 50000 → PJ g yX9_lot.cls cX9_lot 4 (some .int, yX9_lot.name, []) d 0 0 45 [(2, .int (nI k)), (1, .int (nI c)), (0, .ref (ad 0))] [] (mm g ad μ σ) (rQ (some (.int (if sec (lotF q c f k σ).2 c 0 = 0 then -1 else nI (lotF q c f k σ).1))) (mm g ad μ (s_back (lotF q c f k σ).2))) := by
    intro c hc f
    induction f with
    | zero => intro k σ _ _ h; exact absurd h (Nat.not_lt_zero _)
    | succ f ih =>
      intro k σ iv dv hf hk
      refine pl_aload_n (pc := 45) dX9_lot_45 rfl rfl ?_
      refine pl_iload_n (pc := 46) dX9_lot_46 rfl rfl ?_
      refine pl_iconst (pc := 47) (v := 0) dX9_lot_47 (by rfl) ?_
      refine pl_callVd (pc := 48) (As := [_, _]) (C2 := 0) (N2 := 0) ckX9 mdX9_sec rfl q2635 q2637 qs51 q154 dX9_lot_48 rfl rfl (Nat.le_of_ble_eq_true rfl) (mm_o hA) (w_X9_sec (d := d - 1) (by omega) hA (by omega) (by decide)) (by omega) (by decide) (by decide) ?_
      refine pj_if_ne (pc := 51) (tgt := 71) dX9_lot_51 (by decide) (fun c51 => ?_) (fun c51 => ?_)
      · refine pl_aload_n (pc := 71) dX9_lot_71 rfl rfl ?_
        refine pl_iload_n (pc := 72) dX9_lot_72 rfl rfl ?_
        refine pl_iconst (pc := 73) (v := 0) dX9_lot_73 (by rfl) ?_
        refine pl_callVd (pc := 74) (As := [_, _]) (C2 := 0) (N2 := 0) ckX9 mdX9_sec rfl q2635 q2637 qs51 q154 dX9_lot_74 rfl rfl (Nat.le_of_ble_eq_true rfl) (mm_o hA) (w_X9_sec (d := d - 1) (by omega) hA (by omega) (by decide)) (by omega) (by decide) (by decide) ?_
        refine pj_if_eq (pc := 77) (tgt := 84) dX9_lot_77 (by decide) (fun c77 => ?_) (fun c77 => ?_)
        · exact absurd c77 c51
        · refine pl_iconst (pc := 80) (v := 1) dX9_lot_80 (by rfl) ?_
          refine pj_goto (pc := 81) (tgt := 85) dX9_lot_81 (by decide) ?_
          refine pj_istore_n (pc := 85) (lv' := [(3, _), (2, _), (1, _), (0, _)]) dX9_lot_85 rfl (by decide) rfl ?_
          refine pl_aload_n (pc := 86) dX9_lot_86 rfl rfl ?_
          refine pl_callVv (pc := 87) (As := []) (C2 := 0) (N2 := 0) ckX9 mdX9_back rfl q2776 q2778 qs70 q154 dX9_lot_87 rfl rfl (Nat.le_of_ble_eq_true rfl) (mm_o hA) (w_X9_back (d := d - 1) (by omega) hA) (by omega) (by decide) (by decide) ?_
          refine pl_iload_n (pc := 90) dX9_lot_90 rfl rfl ?_
          refine pj_if_eq (pc := 91) (tgt := 98) dX9_lot_91 (by decide) (fun h => absurd h (by decide)) (fun _ => ?_)
          refine pl_iload_n (pc := 94) dX9_lot_94 rfl rfl ?_
          refine pj_goto (pc := 95) (tgt := 99) dX9_lot_95 (by decide) ?_
          refine pj_iret (pc := 99) dX9_lot_99 rfl ?_
          exact ⟨vIe (by simp [lotF, c51, c77]) rfl, congrArg (mm g ad μ) (by simp [lotF, c51, c77])⟩
      · refine pl_aload_n (pc := 54) dX9_lot_54 rfl rfl ?_
        refine pl_callVd (pc := 55) (As := []) (C2 := 0) (N2 := 0) ckX9 mdX9_isQueued rfl q2749 q2751 qs64 q154 dX9_lot_55 rfl rfl (Nat.le_of_ble_eq_true rfl) (mm_o hA) (w_X9_isQueued (d := d - 1) (by omega) hA iv.hq iv.hQ) (by omega) (by decide) (by decide) ?_
        refine pl_if_eqB (pc := 58) (tgt := 71) dX9_lot_58 (by decide) (fun c58 => ?_) (fun c58 => ?_)
        · refine pl_aload_n (pc := 71) dX9_lot_71 rfl rfl ?_
          refine pl_iload_n (pc := 72) dX9_lot_72 rfl rfl ?_
          refine pl_iconst (pc := 73) (v := 0) dX9_lot_73 (by rfl) ?_
          refine pl_callVd (pc := 74) (As := [_, _]) (C2 := 0) (N2 := 0) ckX9 mdX9_sec rfl q2635 q2637 qs51 q154 dX9_lot_74 rfl rfl (Nat.le_of_ble_eq_true rfl) (mm_o hA) (w_X9_sec (d := d - 1) (by omega) hA (by omega) (by decide)) (by omega) (by decide) (by decide) ?_
          refine pj_if_eq (pc := 77) (tgt := 84) dX9_lot_77 (by decide) (fun c77 => ?_) (fun c77 => ?_)
          · refine pl_iconst (pc := 84) (v := 0) dX9_lot_84 (by rfl) ?_
            refine pj_istore_n (pc := 85) (lv' := [(3, _), (2, _), (1, _), (0, _)]) dX9_lot_85 rfl (by decide) rfl ?_
            refine pl_aload_n (pc := 86) dX9_lot_86 rfl rfl ?_
            refine pl_callVv (pc := 87) (As := []) (C2 := 0) (N2 := 0) ckX9 mdX9_back rfl q2776 q2778 qs70 q154 dX9_lot_87 rfl rfl (Nat.le_of_ble_eq_true rfl) (mm_o hA) (w_X9_back (d := d - 1) (by omega) hA) (by omega) (by decide) (by decide) ?_
            refine pl_iload_n (pc := 90) dX9_lot_90 rfl rfl ?_
            refine pj_if_eq (pc := 91) (tgt := 98) dX9_lot_91 (by decide) (fun _ => ?_) (fun h => absurd h (by decide))
            refine pj_iconst (pc := 98) (v := (-1)) dX9_lot_98 (by rfl) ?_
            refine pj_iret (pc := 99) dX9_lot_99 rfl ?_
            exact ⟨vIe (by simp [lotF, eq_true c51, c58, eq_true c77]) rfl, congrArg (mm g ad μ) (by simp [lotF, eq_true c51, c58, eq_true c77])⟩
          · exact absurd c51 c77
        · refine pl_aload_n (pc := 61) dX9_lot_61 rfl rfl ?_
          refine pl_callVv (pc := 62) (As := []) (C2 := 0) (N2 := 0) ckX9 mdX9_surveysAll rfl q2753 q2755 qs65 q154 dX9_lot_62 rfl rfl (Nat.le_of_ble_eq_true rfl) (mm_o hA) (w_X9_surveysAll (d := d - 1) (by omega) hA iv) (by omega) (by decide) (by decide) ?_
          refine pl_iinc1 (pc := 65) (lv' := [(2, _), (1, _), (0, _)]) dX9_lot_65 rfl rfl (by decide) rfl ?_
          refine pj_goto (pc := 68) (tgt := 45) dX9_lot_68 (by decide) ?_
          rw [show lotF q c (f + 1) k σ = lotF q c f (k + 1) (s_surveysAll q σ) from by simp only [lotF]; rw [if_neg (fun z => z c51), if_neg (by rw [c58]; decide)]]
          have ph := surveysAll_phi q σ (Nat.le_refl _) iv dv
          exact ih (k + 1) _ (surveysAll_iv iv) ph.2.1 (by have := ph.2.2.1 c58; omega) (by omega)
  refine pl_aload_n (pc := 0) dX9_lot_0 rfl rfl ?_
  refine pl_iconst (pc := 1) (v := 0) dX9_lot_1 (by rfl) ?_
  refine pm_putI (pc := 2) 0 hA q2516 dX9_lot_2 (by decide) rfl (by rfl) (by rfl) rfl ?_
  refine pl_aload_n (pc := 5) dX9_lot_5 rfl rfl ?_
  refine pl_aload_n (pc := 6) dX9_lot_6 rfl rfl ?_
  refine pl_iload_n (pc := 7) dX9_lot_7 rfl rfl ?_
  refine pl_callVd (pc := 8) (As := [_]) (C2 := 0) (N2 := 0) ckX9 mdX9_isSection rfl q2627 q2629 qs49 q154 dX9_lot_8 rfl rfl (Nat.le_of_ble_eq_true rfl) (mm_o hA) (w_X9_isSection (d := d - 1) (by omega) hA) (by omega) (by decide) (by decide) ?_
  refine pl_if_neB (pc := 11) (tgt := 18) dX9_lot_11 (by decide) (fun c11 => ?_) (fun c11 => ?_)
  · obtain ⟨j_c, hj_c, rfl⟩ := inN_of (by decide) c11
    have f_c := inN_nI hj_c (by omega)
    have g_c := nI_clamp (n := j_c) (by omega)
    refine pl_iconst (pc := 18) (v := 0) dX9_lot_18 (by rfl) ?_
    refine pl_iconst (pc := 19) (v := 1) dX9_lot_19 (by rfl) ?_
    refine pl_callVd (pc := 20) (As := [_, _]) (C2 := 0) (N2 := 0) ckX9 mdX9_bad rfl q2631 q2633 qs50 q154 dX9_lot_20 rfl rfl (Nat.le_of_ble_eq_true rfl) (mm_o hA) (w_bad_0 (d := d - 1) (by omega) hA) (by omega) (by decide) (by decide) ?_
    refine pj_if_eq (pc := 23) (tgt := 28) dX9_lot_23 (by decide) (fun _ => ?_) (fun h => absurd h (by decide))
    refine pl_aload_n (pc := 28) dX9_lot_28 rfl rfl ?_
    refine pl_iload_n (pc := 29) dX9_lot_29 rfl rfl ?_
    refine pl_iconst (pc := 30) (v := 0) dX9_lot_30 (by rfl) ?_
    refine pl_callVd (pc := 31) (As := [_, _]) (C2 := 0) (N2 := 0) ckX9 mdX9_sec rfl q2635 q2637 qs51 q154 dX9_lot_31 rfl rfl (Nat.le_of_ble_eq_true rfl) (mm_o hA) (w_X9_sec (d := d - 1) (by omega) hA (by omega) (by decide)) (by omega) (by decide) (by decide) ?_
    refine pj_if_eq (pc := 34) (tgt := 39) dX9_lot_34 (by decide) (fun c34 => ?_) (fun c34 => ?_)
    · refine pl_aload_n (pc := 39) dX9_lot_39 rfl rfl ?_
      refine pl_callVv (pc := 40) (As := []) (C2 := 0) (N2 := 0) ckX9 mdX9_saves rfl q2745 q2747 qs63 q154 dX9_lot_40 rfl rfl (Nat.le_of_ble_eq_true rfl) (mm_o hA) (w_X9_saves (d := d - 1) (by omega) hA) (by omega) (by decide) (by decide) ?_
      refine pl_iconst (pc := 43) (v := 0) dX9_lot_43 (by rfl) ?_
      refine pj_istore_n (pc := 44) (lv' := [(2, _), (0, _), (1, _)]) dX9_lot_44 rfl (by decide) rfl ?_
      refine PJ.sub [0, 2, 1] rfl ?_
      have e7 : p_lot σ q (nI j_c) = (if sec (lotR q j_c (s_saves (s0 σ))).2 j_c 0 = 0 then -1 else nI (lotR q j_c (s_saves (s0 σ))).1, s_back (lotR q j_c (s_saves (s0 σ))).2) := by simp [p_lot, c11, f_c, g_c, eq_true c34]
      rw [e7]
      have ph : PhiS (s_saves (s0 σ)) ≤ 40000 := phi_le (saves_iv (iv.f0 (j := 0) (x := nI 0))) (dv.saves)
      exact key j_c hj_c (PhiS (s_saves (s0 σ)) + 1) 0 _ (saves_iv iv.f0) dv.saves (Nat.lt_succ_self _) (by omega)
    · refine pl_iconst (pc := 37) (v := 0) dX9_lot_37 (by rfl) ?_
      refine pj_iret (pc := 38) dX9_lot_38 rfl ?_
      exact ⟨vIe (by simp [p_lot, c11, f_c, g_c, c34]) rfl, congrArg (mm g ad μ) (by simp [p_lot, c11, f_c, g_c, c34])⟩
  · refine pl_iconst (pc := 14) (v := 1) dX9_lot_14 (by rfl) ?_
    refine pj_goto (pc := 15) (tgt := 19) dX9_lot_15 (by decide) ?_
    refine pl_iconst (pc := 19) (v := 1) dX9_lot_19 (by rfl) ?_
    refine pl_callVd (pc := 20) (As := [_, _]) (C2 := 0) (N2 := 0) ckX9 mdX9_bad rfl q2631 q2633 qs50 q154 dX9_lot_20 rfl rfl (Nat.le_of_ble_eq_true rfl) (mm_o hA) (w_bad_1 (d := d - 1) (by omega) hA) (by omega) (by decide) (by decide) ?_
    refine pj_if_eq (pc := 23) (tgt := 28) dX9_lot_23 (by decide) (fun h => absurd h (by decide)) (fun _ => ?_)
    refine pl_iconst (pc := 26) (v := 0) dX9_lot_26 (by rfl) ?_
    refine pj_iret (pc := 27) dX9_lot_27 rfl ?_
    exact ⟨vIe (by simp [p_lot, c11]) rfl, congrArg (mm g ad μ) (by simp [p_lot, c11])⟩
