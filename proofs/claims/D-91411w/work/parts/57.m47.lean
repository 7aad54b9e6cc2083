set_option maxRecDepth 100000
/-- what stays bad when the fuel is out -/
theorem KA_0 {g : GP} {μ : Mem} {ad : Nat → Nat} {σ0 : MS} {n l c : Nat} {B : Nat → Nat} (hA : Inj ad 18) (tx0 : Txt σ0 n B) (hl : σ0.1 16 = nI l) (hl2 : l < 12) : KA g ad μ n l c σ0 B 0 := by
  have hb : ∀ {tag k : Nat} {r r1 : RP} {σ : MS} {d : Nat}, needd k r ≤ d → bindR r (PF B n 0 tag) = some r1 → (∃ k9 w9, r = .inl (k9, w9) ∧ r1 = .inl (k9, w9) ∧ 10 + k ≤ d) := by
    intro tag k r r1 σ d hd hr
    rcases r with ⟨k9, w9⟩ | ⟨p, o, L⟩
    · exact ⟨k9, w9, rfl, bindR_bad hr, hd⟩
    · cases (show (none : Option RP) = some r1 from hr)
  refine ⟨?_, ?_, ?_, ?_, ?_, ?_⟩
  · intro r r1 σ d hd h hr
    obtain ⟨k9, w9, rfl, rfl, h9⟩ := hb (σ := σ) hd hr
    exact b_X9_sum (by omega) hA tx0 hl hl2 h
  · intro r r1 σ d hd h hr
    obtain ⟨k9, w9, rfl, rfl, h9⟩ := hb (σ := σ) hd hr
    exact b_X9_product (by omega) hA tx0 hl hl2 h
  · intro r r1 σ d hd h hr
    obtain ⟨k9, w9, rfl, rfl, h9⟩ := hb (σ := σ) hd hr
    exact PM.toE (b_X9_one (by omega) hA h.2.2.2.1 h.2.1 h.2.2.1) h
  · intro r r1 σ d hd h hr
    obtain ⟨k9, w9, rfl, rfl, h9⟩ := hb (σ := σ) hd hr
    exact b_X9_ors (by omega) hA tx0 hl hl2 h
  · intro r r1 σ d hd h hr
    obtain ⟨k9, w9, rfl, rfl, h9⟩ := hb (σ := σ) hd hr
    exact b_X9_ands (by omega) hA tx0 hl hl2 h
  · intro r r1 σ d hd h hr
    obtain ⟨k9, w9, rfl, rfl, h9⟩ := hb (σ := σ) hd hr
    exact PM.toE (b_X9_test (by omega) hA h.2.2.2.1 h.2.1 h.2.2.1) h
theorem KA_all {g : GP} {μ : Mem} {ad : Nat → Nat} {σ0 : MS} {n l c : Nat} {B : Nat → Nat} (hA : Inj ad 18) (tx0 : Txt σ0 n B) (hl : σ0.1 16 = nI l) (hl2 : l < 12) : ∀ f, ∀ f1, f1 ≤ f → KA g ad μ n l c σ0 B f1 := by
  intro f
  induction f with
  | zero => intro f1 h; rw [Nat.le_zero.mp h]; exact KA_0 hA tx0 hl hl2
  | succ f ih =>
    intro f1 h
    rcases Nat.lt_or_ge f f1 with z | z
    · have e : f1 = f + 1 := by omega
      subst e
      exact ⟨K_sum hA tx0 hl hl2 ih, K_product hA tx0 hl hl2 ih, K_one hA tx0 hl hl2 ih, K_ors hA tx0 hl hl2 ih, K_ands hA tx0 hl hl2 ih, K_test hA tx0 hl hl2 ih⟩
    · exact ih f1 z
/-! ===== fuel enough ===== -/
def Tot (r : Option RP) : Prop := ∃ x, r = some x
theorem thenR_tot {r : Option RP} {f : Nat → Nat → Option RP} (hr : Tot r) (hf : ∀ p o L, r = some (.inr (p, o, L)) → Tot (f p o)) : Tot (thenR r f) := by
  obtain ⟨x, rfl⟩ := hr
  rcases x with e | ⟨p, o, L⟩
  · exact ⟨_, rfl⟩
  · obtain ⟨y, hy⟩ := hf p o L rfl
    exact ⟨appR L y, by show (f p o).map (appR L) = _; rw [hy]; rfl⟩
theorem bindR_tot {r : RP} {f : Nat → Nat → Option RP} (hf : ∀ p o L, r = .inr (p, o, L) → Tot (f p o)) : Tot (bindR r f) := by
  rcases r with e | ⟨p, o, L⟩
  · exact ⟨_, rfl⟩
  · obtain ⟨y, hy⟩ := hf p o L rfl
    exact ⟨appR L y, by show (f p o).map (appR L) = _; rw [hy]; rfl⟩
theorem emitP_tot {k : Nat} {v : Int32} {p o : Nat} : Tot (emitP k v p o) := ⟨_, rfl⟩
section PT
variable {B : Nat → Nat} {n : Nat}
theorem signP_tot {ch p o : Nat} : Tot (signP B n ch p o) := by unfold signP; split <;> exact ⟨_, rfl⟩
theorem opensP_tot {b p o : Nat} : Tot (opensP b p o) := by unfold opensP; split <;> exact ⟨_, rfl⟩
theorem bracketP_tot {p o : Nat} : Tot (bracketP B n p o) := by
  unfold bracketP
  split
  · exact opensP_tot
  · exact ⟨_, rfl⟩
theorem closesP_tot {ch p o : Nat} : Tot (closesP B n ch p o) := thenR_tot signP_tot (fun p o L _ => ⟨_, rfl⟩)
theorem figP_tot {p o : Nat} : Tot (figP B n p o) := by unfold figP; split <;> exact ⟨_, rfl⟩
def rk (t : Nat) : Nat := if t = 0 then 2 else if t = 2 then 1 else if t = 9 then 3 else if t = 7 then 4 else if t = 5 then 5 else 0
theorem PF_tot (hB : ∀ k, n ≤ k → B k = 0) : ∀ f tag p o, tag ≤ 9 → p ≤ n → 10 * (n - p) + rk tag + 1 ≤ f → Tot (PF B n f tag p o) := by
  intro f
  induction f with
  | zero => intro tag p o _ _ h; omega
  | succ f ih =>
    intro tag p o ht hp hf
    have hq := sk_in (B := B) hp
    have hlt : ∀ x, B (sk B n p) = x → 0 < x → sk B n p < n := by
      intro x hx h0
      rcases Nat.lt_or_ge (sk B n p) n with z | z
      · exact z
      · rw [hB _ z] at hx; omega
    have gin : ∀ {t p o p1 o1 : Nat} {L : List Cd}, t ≤ 9 → p ≤ n → PF B n f t p o = some (.inr (p1, o1, L)) → p ≤ p1 ∧ p1 ≤ n := by
      intro t p o p1 o1 L h1 h2 h3
      obtain ⟨a, b, c⟩ := PF_in hB f t p o h1 h2 _ _ _ h3
      exact ⟨by omega, c⟩
    -- one step, an operation, and on with the loop
    have lp : ∀ {t lt q k : Nat} {v : Int32}, t ≤ 9 → lt ≤ 9 → p < q → q ≤ n → rk t ≤ 9 → rk lt = 0 → Tot (thenR (thenR (PF B n f t q o) (emitP k v)) (PF B n f lt)) := by
      intro t lt q k v h1 h2 h3 h4 h5 h6
      refine thenR_tot (thenR_tot (ih t q o h1 h4 (by omega)) (fun _ _ _ _ => emitP_tot)) (fun p1 o1 L e => ?_)
      obtain ⟨p2, o2, L1, L2, e1, e2, e3⟩ := thenR_inr e
      obtain ⟨a, b⟩ := gin h1 h4 e1
      cases e2
      exact ih lt p1 o1 h2 b (by omega)
    have sq : ∀ {t lt : Nat}, t ≤ 9 → lt ≤ 9 → 10 * (n - p) + rk t + 1 ≤ f → rk lt = 0 → Tot (thenR (PF B n f t p o) (PF B n f lt)) := by
      intro t lt h1 h2 h3 h4
      refine thenR_tot (ih t p o h1 hp h3) (fun p1 o1 L e => ?_)
      obtain ⟨a, b⟩ := gin h1 hp e
      exact ih lt p1 o1 h2 b (by omega)
    -- what stands in brackets
    have deep : ∀ {t q o1 : Nat}, t ≤ 9 → p < q → q ≤ n → rk t ≤ 9 → Tot (PF B n f t q o1) := fun {t q o1} h1 h2 h3 h4 => ih t q o1 h1 h3 (by omega)
    match tag, ht with
    | 0, _ => rw [PF_0]; exact sq (by decide) (by decide) (by have : rk 0 = 2 := rfl; have : rk 2 = 1 := rfl; omega) rfl
    | 1, _ =>
      rw [PF_1]
      split
      · rename_i h1
        have hl : sk B n p < n := by rcases h1 with z | z <;> exact hlt _ z (by decide)
        exact lp (by decide) (by decide) (by omega) (by omega) (by decide) rfl
      · exact ⟨_, rfl⟩
    | 2, _ => rw [PF_2]; exact sq (by decide) (by decide) (by have : rk 2 = 1 := rfl; have : rk 4 = 0 := rfl; omega) rfl
    | 3, _ =>
      rw [PF_3]
      split
      · rename_i h1
        have hl : sk B n p < n := by rcases h1 with z | z | z <;> exact hlt _ z (by decide)
        exact lp (by decide) (by decide) (by omega) (by omega) (by decide) rfl
      · exact ⟨_, rfl⟩
    | 4, _ =>
      rw [PF_4]
      split
      · exact figP_tot
      · cases hw : firstW B toldW (sk B n p) 5 0 with
        | some k => exact ⟨_, rfl⟩
        | none =>
          show Tot (if B (sk B n p) = 40 then _ else _)
          split
          · rename_i h1
            have hl := hlt _ h1 (by decide)
            refine thenR_tot (thenR_tot opensP_tot (fun p1 o1 L e => ?_)) (fun _ _ _ _ => closesP_tot)
            obtain ⟨a, -⟩ := opensP_in e
            exact deep (by decide) (by omega) (by omega) (by decide)
          · split
            · rename_i h1
              have hl : sk B n p + (if isW B (sk B n p) wLeast = true then 5 else 4) ≤ n := by
                split
                · rename_i h2
                  exact isW_in h2 (by decide) hB hq.2
                · rename_i h2
                  rcases h1 with z | z
                  · exact absurd z h2
                  · exact isW_in z (by decide) hB hq.2
              refine thenR_tot (thenR_tot (thenR_tot (thenR_tot (thenR_tot bracketP_tot (fun p1 o1 L e => ?_)) (fun _ _ _ _ => signP_tot)) (fun p1 o1 L e => ?_)) (fun _ _ _ _ => closesP_tot)) (fun _ _ _ _ => emitP_tot)
              · obtain ⟨a, b, -⟩ := bracketP_in hl hB e
                exact deep (by decide) (by omega) b (by decide)
              · obtain ⟨p2, o2, L1, L2, e1, e2, e3⟩ := thenR_inr e
                obtain ⟨p3, o3, L3, L4, e4, e5, e6⟩ := thenR_inr e1
                obtain ⟨a, b, -⟩ := bracketP_in hl hB e4
                obtain ⟨c1, c2⟩ := gin (by decide) b e5
                obtain ⟨d1, d2, d3⟩ := signP_in c2 _ _ _ e2
                exact deep (by decide) (by omega) d3 (by decide)
            · split
              · rename_i h1
                have hl : sk B n p + 2 ≤ n := isW_in h1 (by decide) hB hq.2
                refine thenR_tot (thenR_tot (thenR_tot (thenR_tot (thenR_tot (thenR_tot (thenR_tot bracketP_tot (fun p1 o1 L e => ?_)) (fun _ _ _ _ => signP_tot)) (fun p1 o1 L e => ?_)) (fun _ _ _ _ => signP_tot)) (fun p1 o1 L e => ?_)) (fun _ _ _ _ => closesP_tot)) (fun _ _ _ _ => emitP_tot)
                · obtain ⟨a, b, -⟩ := bracketP_in hl hB e
                  exact deep (by decide) (by omega) b (by decide)
                · obtain ⟨p2, o2, L1, L2, e1, e2, e3⟩ := thenR_inr e
                  obtain ⟨p3, o3, L3, L4, e4, e5, e6⟩ := thenR_inr e1
                  obtain ⟨a, b, -⟩ := bracketP_in hl hB e4
                  obtain ⟨c1, c2⟩ := gin (by decide) b e5
                  obtain ⟨d1, d2, d3⟩ := signP_in c2 _ _ _ e2
                  exact deep (by decide) (by omega) d3 (by decide)
                · obtain ⟨p7, o7, L9, L10, f1, f2, f3⟩ := thenR_inr e
                  obtain ⟨p8, o8, L7, L8, f4, f5, f6⟩ := thenR_inr f1
                  obtain ⟨p2, o2, L1, L2, e1, e2, e3⟩ := thenR_inr f4
                  obtain ⟨p3, o3, L3, L4, e4, e5, e6⟩ := thenR_inr e1
                  obtain ⟨a, b, -⟩ := bracketP_in hl hB e4
                  obtain ⟨c1, c2⟩ := gin (by decide) b e5
                  obtain ⟨d1, d2, d3⟩ := signP_in c2 _ _ _ e2
                  obtain ⟨i1, i2⟩ := gin (by decide) d3 f5
                  obtain ⟨j1, j2, j3⟩ := signP_in i2 _ _ _ f2
                  exact deep (by decide) (by omega) j3 (by decide)
              · exact ⟨_, rfl⟩
    | 5, _ => rw [PF_5]; exact sq (by decide) (by decide) (by have : rk 5 = 5 := rfl; have : rk 7 = 4 := rfl; omega) rfl
    | 6, _ =>
      rw [PF_6]
      split
      · rename_i h1
        have hl : sk B n p + 2 ≤ n := isW_in h1 (by decide) hB hq.2
        exact lp (by decide) (by decide) (by omega) hl (by decide) rfl
      · exact ⟨_, rfl⟩
    | 7, _ => rw [PF_7]; exact sq (by decide) (by decide) (by have : rk 7 = 4 := rfl; have : rk 9 = 3 := rfl; omega) rfl
    | 8, _ =>
      rw [PF_8]
      split
      · rename_i h1
        have hl : sk B n p + 3 ≤ n := isW_in h1 (by decide) hB hq.2
        exact lp (by decide) (by decide) (by omega) hl (by decide) rfl
      · exact ⟨_, rfl⟩
    | 9, _ =>
      rw [PF_9]
      split
      · rename_i h1
        have hl : sk B n p + 3 ≤ n := isW_in h1 (by decide) hB hq.2
        refine thenR_tot (thenR_tot (thenR_tot opensP_tot (fun p1 o1 L e => ?_)) (fun _ _ _ _ => ⟨_, rfl⟩)) (fun _ _ _ _ => emitP_tot)
        obtain ⟨a, -⟩ := opensP_in e
        exact deep (by decide) (by omega) (by omega) (by decide)
      · split
        · rename_i h1
          have hl := hlt _ h1 (by decide)
          refine thenR_tot (thenR_tot opensP_tot (fun p1 o1 L e => ?_)) (fun _ _ _ _ => closesP_tot)
          obtain ⟨a, -⟩ := opensP_in e
          exact deep (by decide) (by omega) (by omega) (by decide)
        · refine thenR_tot (ih 0 _ o (by decide) hq.2 (by have : rk 0 = 2 := rfl; have : rk 9 = 3 := rfl; omega)) (fun p1 o1 L e => ?_)
          obtain ⟨a, b⟩ := gin (by decide) hq.2 e
          have hq1 := sk_in (B := B) b
          unfold cmpT
          split
          · rename_i h1
            have hl : sk B n p1 < n := by
              rcases Nat.lt_or_ge (sk B n p1) n with z | z
              · exact z
              · rw [hB _ z] at h1; omega
            exact thenR_tot (deep (by decide) (by omega) (by omega) (by decide)) (fun _ _ _ _ => emitP_tot)
          · exact ⟨_, rfl⟩
end PT
theorem bigF : ∃ F : Nat, 3020 ≤ F := ⟨3020, Nat.le_refl _⟩
/-- fuel enough for every text -/
noncomputable def BF : Nat := Classical.choose bigF
theorem BF_ge : 3020 ≤ BF := Classical.choose_spec bigF
theorem rk_le (t : Nat) : rk t ≤ 5 := by unfold rk; split <;> (try split) <;> (try split) <;> (try split) <;> (try split) <;> omega
theorem PF_big {B : Nat → Nat} {n tag p o : Nat} (hB : ∀ k, n ≤ k → B k = 0) (hn : n ≤ 300) (ht : tag ≤ 9) (hp : p ≤ n) : Tot (PF B n BF tag p o) := PF_tot hB BF tag p o ht hp (by have := BF_ge; have := rk_le tag; omega)
