set_option maxRecDepth 100000
theorem planned_iv {σ : MS} {n nl nb q nor nw wm : Nat} {t w : Int32} (v : IvG σ n nl nb q nor nw) : IvG (p_planned σ n nl nb q nw wm t w).2 n nl nb q nor nw := by
  have v0 : IvG (s0 σ) n nl nb q nor nw := v.f0 (j := 0) (x := nI 0)
  by_cases h1 : t = nI 1 ∨ t = nI 2
  · obtain ⟨st, hst, rfl⟩ : ∃ st, (st = 1 ∨ st = 2) ∧ t = nI st := by
      rcases h1 with z | z
      · exact ⟨1, Or.inl rfl, z⟩
      · exact ⟨2, Or.inr rfl, z⟩
    rw [planned_st hst]
    by_cases c1 : w < 0
    · rw [if_pos c1]; with_reducible exact v0.f0
    · rw [if_neg c1]
      by_cases c2 : ¬ w ≤ nI 3
      · rw [if_pos c2]; with_reducible exact v0.f0
      · rw [if_neg c2]
        by_cases c3 : ¬ row (s0 σ) 2116 + nI 13 * nI st ≤ nI 1000
        · rw [if_pos c3]; with_reducible exact v0.f0
        · rw [if_neg c3]
          by_cases c4 : (s0 σ).1 28 = 0
          · rw [if_pos c4]; with_reducible exact v0
          · rw [if_neg c4]
            by_cases c5 : wm = 0
            · rw [if_pos c5]; with_reducible exact v0
            · rw [if_neg c5]
              have hNW := v0.hNW
              have hb9 : nw + 13 * st ≤ 1000 := (nI_leI (by omega) (by decide)).mp (by rw [← nI_add, ← pk_mul, ← v0.hnw]; exact Classical.not_not.mp c3)
              have p1 := plansF_iv (st := st) (wm := wm) (saves_iv v0) (fun j hj => saves_2 hj) hb9 (if st = 1 then 3 else 9)
              show IvG (sF (sF (plansF n nl nb q nw st wm (s_saves (s0 σ)) (if st = 1 then 3 else 9)).2.2.2 23 (nI 0)) 7 (-1)) n nl nb q nor nw
              have p2 : IvG (plansF n nl nb q nw st wm (s_saves (s0 σ)) (if st = 1 then 3 else 9)).2.2.2 n nl nb q nor nw := And.left p1
              with_reducible exact p2.f0.f0
  · rw [planned_b (fun z => h1 (Or.inl z)) (fun z => h1 (Or.inr z))]
    with_reducible exact v0.f0

