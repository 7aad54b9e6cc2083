set_option maxRecDepth 100000
theorem nI00 : nI 0 = (0 : Int32) := rfl
theorem ini_n {x : Nat} (h : 2116 ≤ x) (h2 : x ≠ 2117) (h3 : x ≠ 2118) : row σ0C x = nI 0 := ini_z (by omega) h2 h3 (by omega)
theorem ini_iv : IvG σ0C 0 0 0 0 0 0 :=
  ⟨ini_n (by decide) (by decide) (by decide), by decide, ini_n (by decide) (by decide) (by decide), by decide, ini_n (by decide) (by decide) (by decide), by decide, ini_n (by decide) (by decide) (by decide), by decide, ini_n (by decide) (by decide) (by decide), by decide, ini_n (by decide) (by decide) (by decide), by decide,
   fun l hl => absurd hl (Nat.not_lt_zero _), fun w hw => absurd hw (Nat.not_lt_zero _), fun c hc => Or.inl (ini_0 (by omega) (by omega)), fun p hp => absurd hp (Nat.not_lt_zero _), fun p hp => absurd hp (Nat.not_lt_zero _), Nat.le_refl _, fun o ho => absurd ho (Nat.not_lt_zero _),
   fun a ha => ⟨⟨0, ini_z (by omega) (by omega) (by omega) (by omega), by decide, fun k hk => absurd hk (Nat.not_lt_zero _)⟩, 0, by decide, ini_z (by omega) (by omega) (by omega) (by omega)⟩, fun a ha => absurd ha (Nat.not_lt_zero _), fun z hz => ⟨0, by decide, ini_a (by decide) (by decide) (by decide)⟩⟩
theorem ini_past : isPastV (nI 0) = false := by decide
theorem ini_mi : milesV (nI 0) (nI 5) = nI 7 := by decide
theorem ini_so {c : Nat} (hc : c < 96) : σ0C.2.1 3 c = nI 5 := (ini_3 (a := 96)).trans (if_pos hc)
theorem ini_we {c : Nat} : σ0C.2.1 4 c = nI 0 := ini_a (by decide) (by decide) (by decide)
theorem ini_ivd : IvD σ0C 0 := by
  refine ⟨fun c hc => ⟨7, ?_, by decide, fun _ => ⟨0, ini_0 (by omega) (by omega), by decide⟩⟩, fun a ha => absurd ha (Nat.not_lt_zero _)⟩
  rw [ini_so hc, ini_we]
  exact ini_mi
theorem ini_tie {q : Nat} : TieX 0 (S0C q) σ0C e0C 0 := by
  have s0 : ∀ c, c < 96 → sec σ0C c 0 = nI 0 := fun c hc => ini_0 (by omega) (by omega)
  refine ⟨fun p hp => absurd hp (Nat.not_lt_zero _), fun p hp => absurd hp (Nat.not_lt_zero _), fun c hc => ?_, fun c hc => ?_, fun l hl => absurd hl (Nat.not_lt_zero _), fun k hk => absurd hk (Nat.not_lt_zero _), fun a ha => absurd ha (Nat.not_lt_zero _), fun p hp => absurd hp (Nat.not_lt_zero _), fun c hc => ⟨fun h => ?_, ?_⟩, fun l hl => absurd hl (Nat.not_lt_zero _), fun _ k hk => absurd hk (Nat.not_lt_zero _), fun p hp => absurd hp (Nat.not_lt_zero _), ⟨Or.inl (by decide), Or.inl rfl⟩, ini_ivd, ⟨fun a ha => absurd ha (Nat.not_lt_zero _), fun k hk => absurd hk (Nat.not_lt_zero _)⟩⟩
  · rw [if_pos (s0 c hc), ini_so hc, ini_we, ini_mi, show sec σ0C c 7 = nI 0 from ini_0 (by omega) (by omega)]
    show nI 7 = nI 7 - nI 0
    decide
  · rw [if_neg (by rw [s0 c hc]; decide)]
    rfl
  · rw [s0 c hc] at h
    exact absurd h (by decide)
  · refine ⟨fun z => ?_, ⟨0, by decide, ini_0 (by omega) (by omega), fun _ => rfl⟩, ⟨5, by decide, ini_so hc⟩, Or.inl (ini_0 (by omega) (by omega))⟩
    rw [s0 c hc] at z
    exact absurd z (by decide)
theorem ini_rs : RsX σ0C := ⟨rfl, rfl, rfl⟩
theorem ini_ak {q : Nat} : AkX (S0C q) σ0C 0 := ⟨Nat.le_refl _, rfl, Nat.zero_le _, fun j hj => absurd hj (Nat.not_lt_zero _)⟩
theorem ini_bs {q : Nat} : BsX (S0C q) (b0C q) := ⟨⟨Nat.le_refl _, Nat.le_refl _, Nat.le_refl _, Nat.le_refl _⟩, fun p hp => absurd hp (Nat.not_lt_zero _), fun a ha => absurd ha (Nat.not_lt_zero _), fun k hk => absurd hk (Nat.not_lt_zero _)⟩
theorem ini_od : OdX σ0C 0 0 := ⟨fun o p ho => absurd ho (Nat.not_lt_zero _), fun o p ho => absurd ho (Nat.not_lt_zero _)⟩
theorem ini_hu : HuX 0 σ0C := ⟨0, Nat.le_refl _, ini_n (by decide) (by decide) (by decide)⟩
theorem ini_lwk : LwK σ0C 0 := fun l hl => absurd hl (Nat.not_lt_zero _)
theorem ini_lzk : LzK σ0C 0 := fun l _ hl => ⟨fun j hj => ini_z (by omega) (by omega) (by omega) (by omega), fun j hj => ini_a (by decide) (by decide) (by decide)⟩
theorem ini_tp : TpX σ0C := fun k hk => ⟨0, by decide, (ini_a (by decide) (by decide) (by decide)).trans (by decide)⟩
theorem ini_lwi {q : Nat} : LwI (S0C q) σ0C 0 0 0 0 := by
  refine ⟨ini_rs, ini_ak, rfl, ini_n (by decide) (by decide) (by decide), ini_n (by decide) (by decide) (by decide), Nat.le_of_ble_eq_true rfl, fun p hp => absurd hp (Nat.not_lt_zero _), fun k hk => absurd hk (Nat.not_lt_zero _), fun k _ hk => ini_z (by omega) (by omega) (by omega) (by omega), fun k _ hk => ⟨ini_z (by omega) (by omega) (by omega) (by omega), ini_z (by omega) (by omega) (by omega) (by omega)⟩, fun a _ ha => ⟨ini_z (by omega) (by omega) (by omega) (by omega), ini_z (by omega) (by omega) (by omega) (by omega)⟩, fun l hl => absurd hl (Nat.not_lt_zero _), rfl, by decide, rfl, by decide, rfl, by decide⟩
/-- the colony just made is the model's start -/
theorem SB.start {g : GP} {P : Nat → Prop} {F μ M : Mem} {q : Nat} {ad : Nat → Nat} (h : Bl (mset μ q (coN ad)) 255 ad (ceC g ad) M) (hF : ∀ a e, F a = some e → μ a = some e ∧ a ≠ q) (hP : ∀ a, P a → F a ≠ none) : SB g P F (AiC q ad) 0 (S0C q) (b0C q) σ0C 0 M := ⟨e0C, SX.start h hF hP, ini_tie⟩
