set_option maxRecDepth 100000
section PT
variable {w : Nat} {S : Nat → Nat → Nat} {σ τ : MS} {e e1 : XE} {nw : Nat}
/-- a party's place and queue changed -/
theorem tie_party {i : Nat} (t : TieX w S σ e nw) (hz : SzX w S) (hi : i < S 6 w) (hr : ∀ j, ¬ fr0 j → (j < 1720 + 15 * i ∨ 1720 + 15 * i + 15 ≤ j ∨ j = 1720 + 15 * i) → row τ j = row σ j) (hq9 : ∀ j, j < 12 → j < tN (row τ (1720 + 15 * i + 2)) → e1 (10 + i) j = row τ (1720 + 15 * i + 3 + j)) (he : ∀ a, a ≠ 10 + i → e1 a = e a) (a3 : τ.2.1 3 = σ.2.1 3) (a4 : τ.2.1 4 = σ.2.1 4) (a14 : τ.2.1 14 = σ.2.1 14) (h23 : τ.1 23 = σ.1 23) (h24 : τ.1 24 = σ.1 24) : TieX w S τ e1 nw := by
  have z1 := hz.2.1
  have z6 := hz.2.2.1
  have z8 := hz.2.2.2.1
  have z10 := hz.2.2.2.2.1
  have s0 : ∀ j a, a < 96 → (j = 0 ∨ j = 1 ∨ j = 2 ∨ j = 3 ∨ j = 4 ∨ j = 5 ∨ j = 7) → sec τ a j = sec σ a j := fun j a ha hj => hr _ (fun z => by have := fr0_sec (c := a) (j := j) ha (by omega) z; omega) (by omega)
  have hq : ∀ j a, a < S 4 w → (j = 1 ∨ j = 2 ∨ j = 3) → per τ a j = per σ a j := fun j a ha hj => hr _ (fun z => by have := fr0_per (p := a) (by omega) (by omega) z; omega) (by omega)
  have lw : ∀ l j, l < S 8 w → j < 6 → lawv τ l j = lawv σ l j := fun l j hl hj => hr _ (by unfold fr0; omega) (by omega)
  have bw : ∀ k j, k < S 10 w → j < 4 → row τ (1640 + 4 * k + j) = row σ (1640 + 4 * k + j) := fun k j hk hj => hr _ (by unfold fr0; omega) (by omega)
  have qw : ∀ a j, a < S 6 w → a ≠ i → j < 15 → row τ (1720 + 15 * a + j) = row σ (1720 + 15 * a + j) := fun a j ha hne hj => hr _ (by unfold fr0; omega) (by omega)
  refine ⟨tHa_cg t (fun a ha => hq 2 a ha (by decide)) (fun a ha => hq 3 a ha (by decide)) (fun _ _ => by rw [he 0 (by omega)]), tFa_cg t (fun c hc => s0 0 c hc (by decide)) (fun c hc => s0 1 c hc (by decide)) (fun _ _ => by rw [he 1 (by omega)]), tMi_cg t (fun c hc => s0 0 c hc (by decide)) (fun c hc => s0 7 c hc (by decide)) a3 a4 (fun _ _ => by rw [he 2 (by omega)]), tEn_cg t (fun c hc => s0 0 c hc (by decide)) (fun c hc => s0 2 c hc (by decide)) (fun _ _ => by rw [he 3 (by omega)]), tSa_cg t (fun l hl => lw l 4 hl (by decide)) (fun l hl => lw l 5 hl (by decide)) (fun _ _ => by rw [he 6 (by omega)]) (fun _ _ => by rw [he 15 (by omega)]), tDu_cg t (fun k hk => bw k 2 hk (by decide)) (fun k hk => bw k 3 hk (by decide)) (fun _ _ => by rw [he 16 (by omega)]), fun a ha j hj2 hj => ?_, tBo_cg t (fun a ha => hq 2 a ha (by decide)) (fun a ha => hq 3 a ha (by decide)), tOw_cg t (fun c hc => s0 0 c hc (by decide)) (fun c hc => s0 1 c hc (by decide)) (fun p hp z => (hq 2 p hp (by decide)).trans z) (fun c hc => s0 3 c hc (by decide)) (fun c hc => s0 4 c hc (by decide)) (fun c hc => s0 5 c hc (by decide)) a3, tHi_cg t (fun l hl => lw l 0 hl (by decide)) (fun l hl => lw l 3 hl (by decide)) (fun j _ => by rw [a14]) (fun _ _ => by rw [he 4 (by omega)]) (fun _ _ => by rw [he 5 (by omega)]), tRo_cg t (fun j _ => by rw [a14]) (fun _ _ => by rw [he 7 (by omega)]), tCo_cg t (fun a ha => hq 1 a ha (by decide)), tTr_cg t h23 h24, ?_, tGh_cg t (fun a ha => hr _ (by unfold fr0; omega) (by omega)) (fun k hk => bw k 0 hk (by decide)) (fun _ _ => by rw [he 16 (by omega)])⟩
  · by_cases ea : a = i
    · subst ea; exact hq9 j hj2 hj
    · rw [qw a 2 ha ea (by decide)] at hj
      rw [he (10 + a) (by omega), t.queue ha hj2 hj]
      have := qw a (3 + j) ha ea (by omega)
      rw [← Nat.add_assoc] at this
      exact this.symm
  · refine ⟨fun a ha => ?_, fun a ha => ?_⟩
    · obtain ⟨m, m1, m2, m3⟩ := t.ivd.1 a ha
      refine ⟨m, by rw [a3, a4]; exact m1, m2, fun z => ?_⟩
      rw [s0 0 a ha (by decide)] at z
      rw [s0 7 a ha (by decide)]
      exact m3 z
    · have e9 : row τ (1720 + 15 * a + 0) = row σ (1720 + 15 * a + 0) := hr _ (by unfold fr0; omega) (by omega)
      rw [e9]
      exact t.ivd.2 a ha
/-- what is at a section changed: no farm before, no farm and not wild now -/
theorem tie_put {c : Nat} (t : TieX w S σ e nw) (hz : SzX w S) (hc : c < 96) (hf0 : isFarmV (sec σ c 0) = false) (hf1 : isFarmV (sec τ c 0) = false) (hw1 : ¬ sec τ c 0 = nI 0) (hr : ∀ j, ¬ fr0 j → (j < 8 * c ∨ 8 * c + 8 ≤ j) → row τ j = row σ j) (tp : PsX τ c) (a3 : τ.2.1 3 = σ.2.1 3) (a4 : τ.2.1 4 = σ.2.1 4) (a14 : τ.2.1 14 = σ.2.1 14) (h23 : τ.1 23 = σ.1 23) (h24 : τ.1 24 = σ.1 24) (o2 : ∀ q, q < 96 → e1 2 q = if q = c then nI 0 else e 2 q) (o3 : ∀ q, q < 96 → e1 3 q = if q = c then (if sec τ c 0 = nI 4 then sec τ c 2 else -1) else e 3 q) (he : ∀ a, a ≠ 2 → a ≠ 3 → e1 a = e a) : TieX w S τ e1 nw := by
  have z1 := hz.2.1
  have z6 := hz.2.2.1
  have z8 := hz.2.2.2.1
  have z10 := hz.2.2.2.2.1
  have s0 : ∀ j a, a < 96 → a ≠ c → (j = 0 ∨ j = 1 ∨ j = 2 ∨ j = 3 ∨ j = 4 ∨ j = 5 ∨ j = 7) → sec τ a j = sec σ a j := fun j a ha hne hj => hr _ (fun z => by have := fr0_sec (c := a) (j := j) ha (by omega) z; omega) (by omega)
  have hq : ∀ j a, a < S 4 w → (j = 1 ∨ j = 2 ∨ j = 3) → per τ a j = per σ a j := fun j a ha hj => hr _ (fun z => by have := fr0_per (p := a) (by omega) (by omega) z; omega) (by omega)
  have lw : ∀ l j, l < S 8 w → j < 6 → lawv τ l j = lawv σ l j := fun l j hl hj => hr _ (by unfold fr0; omega) (by omega)
  have bw : ∀ k j, k < S 10 w → j < 4 → row τ (1640 + 4 * k + j) = row σ (1640 + 4 * k + j) := fun k j hk hj => hr _ (by unfold fr0; omega) (by omega)
  have qw : ∀ a j, a < S 6 w → j < 15 → row τ (1720 + 15 * a + j) = row σ (1720 + 15 * a + j) := fun a j ha hj => hr _ (by unfold fr0; omega) (by omega)
  refine ⟨tHa_cg t (fun a ha => hq 2 a ha (by decide)) (fun a ha => hq 3 a ha (by decide)) (fun _ _ => by rw [he 0 (by decide) (by decide)]), fun a ha => ?_, fun a ha => ?_, fun a ha => ?_, tSa_cg t (fun l hl => lw l 4 hl (by decide)) (fun l hl => lw l 5 hl (by decide)) (fun _ _ => by rw [he 6 (by decide) (by decide)]) (fun _ _ => by rw [he 15 (by decide) (by decide)]), tDu_cg t (fun k hk => bw k 2 hk (by decide)) (fun k hk => bw k 3 hk (by decide)) (fun _ _ => by rw [he 16 (by decide) (by decide)]), tQu_cg t qw (fun a _ _ _ => by rw [he (10 + a) (by omega) (by omega)]), tBo_cg t (fun a ha => hq 2 a ha (by decide)) (fun a ha => hq 3 a ha (by decide)), fun a ha => ⟨fun hf x hx z => ?_, ?_⟩, tHi_cg t (fun l hl => lw l 0 hl (by decide)) (fun l hl => lw l 3 hl (by decide)) (fun j _ => by rw [a14]) (fun _ _ => by rw [he 4 (by decide) (by decide)]) (fun _ _ => by rw [he 5 (by decide) (by decide)]), tRo_cg t (fun j _ => by rw [a14]) (fun _ _ => by rw [he 7 (by decide) (by decide)]), tCo_cg t (fun a ha => hq 1 a ha (by decide)), tTr_cg t h23 h24, ?_, tGh_cg t (fun a ha => qw a 0 ha (by decide)) (fun k hk => bw k 0 hk (by decide)) (fun _ _ => by rw [he 16 (by decide) (by decide)])⟩
  · rw [he 1 (by decide) (by decide), t.farms ha]
    refine congrArg nI (cnt_cg (fun x hx => ?_)).symm
    by_cases ex : x = c
    · subst ex
      rw [hf0, hf1]
      rfl
    · rw [s0 0 x hx ex (by decide), s0 1 x hx ex (by decide)]
  · rw [o2 a ha]
    by_cases e9 : a = c
    · subst e9
      rw [if_pos rfl, if_neg hw1]
    · rw [if_neg e9, s0 0 a ha e9 (by decide), s0 7 a ha e9 (by decide), a3, a4]
      exact t.miles ha
  · rw [o3 a ha]
    by_cases e9 : a = c
    · subst e9
      rw [if_pos rfl]
    · rw [if_neg e9, s0 0 a ha e9 (by decide), s0 2 a ha e9 (by decide)]
      exact t.ends ha
  · have e9 : a ≠ c := fun z9 => by subst z9; rw [hf1] at hf; cases hf
    rw [s0 0 a ha e9 (by decide)] at hf
    rw [s0 1 a ha e9 (by decide)] at z
    rw [hq 2 x hx (by decide)]
    exact t.own ha hf hx z
  · by_cases e9 : a = c
    · subst e9; exact tp
    · exact (t.ps ha).cg (s0 0 a ha e9 (by decide)) (s0 3 a ha e9 (by decide)) (s0 4 a ha e9 (by decide)) (s0 5 a ha e9 (by decide)) a3
  · refine ⟨fun a ha => ?_, fun a ha => ?_⟩
    · obtain ⟨m, m1, m2, m3⟩ := t.ivd.1 a ha
      refine ⟨m, by rw [a3, a4]; exact m1, m2, fun z => ?_⟩
      by_cases e9 : a = c
      · subst e9
        exact absurd z hw1
      · rw [s0 0 a ha e9 (by decide)] at z
        rw [s0 7 a ha e9 (by decide)]
        exact m3 z
    · rw [qw a 0 ha (by decide)]
      exact t.ivd.2 a ha
/-- so many miles are done at a wild section -/
theorem tie_miles {c m d1 : Nat} (t : TieX w S σ e nw) (hz : SzX w S) (hc : c < 96) (hw : sec σ c 0 = nI 0) (em : milesV (σ.2.1 4 c) (σ.2.1 3 c) = nI m) (hm : m ≤ 12) (hd : d1 < m) : TieX w S (sR σ (8 * c + 7) (nI d1)) (uE e 2 c (nI (m - d1))) nw := by
  have z1 := hz.2.1
  have z6 := hz.2.2.1
  have z8 := hz.2.2.2.1
  have z10 := hz.2.2.2.2.1
  have he : ∀ a, a ≠ 2 → uE e 2 c (nI (m - d1)) a = e a := fun a ha => by unfold uE; rw [if_neg ha]
  have hr : ∀ j, j ≠ 8 * c + 7 → row (sR σ (8 * c + 7) (nI d1)) j = row σ j := fun j hj => rowS_ne hj
  have s0 : ∀ j a, a < 96 → (j = 0 ∨ j = 1 ∨ j = 2 ∨ j = 3 ∨ j = 4 ∨ j = 5) → sec (sR σ (8 * c + 7) (nI d1)) a j = sec σ a j := fun j a ha hj => hr _ (by omega)
  have hq : ∀ j a, a < S 4 w → (j = 1 ∨ j = 2 ∨ j = 3) → per (sR σ (8 * c + 7) (nI d1)) a j = per σ a j := fun j a ha hj => hr _ (by omega)
  have lw : ∀ l j, l < S 8 w → j < 6 → lawv (sR σ (8 * c + 7) (nI d1)) l j = lawv σ l j := fun l j hl hj => hr _ (by omega)
  have bw : ∀ k j, k < S 10 w → j < 4 → row (sR σ (8 * c + 7) (nI d1)) (1640 + 4 * k + j) = row σ (1640 + 4 * k + j) := fun k j hk hj => hr _ (by omega)
  have qw : ∀ a j, a < S 6 w → j < 15 → row (sR σ (8 * c + 7) (nI d1)) (1720 + 15 * a + j) = row σ (1720 + 15 * a + j) := fun a j ha hj => hr _ (by omega)
  have a3 : (sR σ (8 * c + 7) (nI d1)).2.1 3 = σ.2.1 3 := by simp [sA]
  have a4 : (sR σ (8 * c + 7) (nI d1)).2.1 4 = σ.2.1 4 := by simp [sA]
  have a14 : (sR σ (8 * c + 7) (nI d1)).2.1 14 = σ.2.1 14 := by simp [sA]
  refine ⟨tHa_cg t (fun a ha => hq 2 a ha (by decide)) (fun a ha => hq 3 a ha (by decide)) (fun _ _ => by rw [he 0 (by decide)]), tFa_cg t (fun c hc => s0 0 c hc (by decide)) (fun c hc => s0 1 c hc (by decide)) (fun _ _ => by rw [he 1 (by decide)]), fun a ha => ?_, tEn_cg t (fun c hc => s0 0 c hc (by decide)) (fun c hc => s0 2 c hc (by decide)) (fun _ _ => by rw [he 3 (by decide)]), tSa_cg t (fun l hl => lw l 4 hl (by decide)) (fun l hl => lw l 5 hl (by decide)) (fun _ _ => by rw [he 6 (by decide)]) (fun _ _ => by rw [he 15 (by decide)]), tDu_cg t (fun k hk => bw k 2 hk (by decide)) (fun k hk => bw k 3 hk (by decide)) (fun _ _ => by rw [he 16 (by decide)]), tQu_cg t qw (fun a _ _ _ => by rw [he (10 + a) (by omega)]), tBo_cg t (fun a ha => hq 2 a ha (by decide)) (fun a ha => hq 3 a ha (by decide)), tOw_cg t (fun c hc => s0 0 c hc (by decide)) (fun c hc => s0 1 c hc (by decide)) (fun p hp z => (hq 2 p hp (by decide)).trans z) (fun c hc => s0 3 c hc (by decide)) (fun c hc => s0 4 c hc (by decide)) (fun c hc => s0 5 c hc (by decide)) a3, tHi_cg t (fun l hl => lw l 0 hl (by decide)) (fun l hl => lw l 3 hl (by decide)) (fun j _ => by rw [a14]) (fun _ _ => by rw [he 4 (by decide)]) (fun _ _ => by rw [he 5 (by decide)]), tRo_cg t (fun j _ => by rw [a14]) (fun _ _ => by rw [he 7 (by decide)]), tCo_cg t (fun a ha => hq 1 a ha (by decide)), tTr_cg t rfl rfl, ?_, tGh_cg t (fun a ha => qw a 0 ha (by decide)) (fun k hk => bw k 0 hk (by decide)) (fun _ _ => by rw [he 16 (by decide)])⟩
  · rw [s0 0 a ha (by decide), a3, a4]
    by_cases e9 : a = c
    · subst e9
      rw [uE_eq, if_pos hw, em, show sec (sR σ (8 * a + 7) (nI d1)) a 7 = nI d1 from rowS_eq, pk_sub (by omega)]
    · rw [uE_ne (fun z => e9 z.2), show sec (sR σ (8 * c + 7) (nI d1)) a 7 = sec σ a 7 from hr _ (by omega)]
      exact t.miles ha
  · refine ⟨fun a ha => ?_, fun a ha => ?_⟩
    · obtain ⟨m9, m1, m2, m3⟩ := t.ivd.1 a ha
      refine ⟨m9, by rw [a3, a4]; exact m1, m2, fun z => ?_⟩
      rw [s0 0 a ha (by decide)] at z
      by_cases e9 : a = c
      · subst e9
        refine ⟨d1, rowS_eq, ?_⟩
        have := (nI_eq (by omega) (by omega)).mp (m1.symm.trans em)
        omega
      · rw [show sec (sR σ (8 * c + 7) (nI d1)) a 7 = sec σ a 7 from hr _ (by omega)]
        exact m3 z
    · rw [qw a 0 ha (by decide)]
      exact t.ivd.2 a ha
end PT
/-- a row of the class's own numbers, all of it new -/
def rowE (e : XE) (a n : Nat) (u : Nat → Int32) : XE := fun b x => if b = a ∧ x < n then u x else e b x
theorem rowE_s {e : XE} {a n : Nat} {u : Nat → Int32} : uE (rowE e a n u) a n (u n) = rowE e a (n + 1) u := by
  funext b x
  rw [uE_if]
  unfold rowE
  by_cases h : b = a ∧ x = n
  · rw [if_pos h, if_pos ⟨h.1, by omega⟩, h.2]
  · rw [if_neg h]
    by_cases h2 : b = a ∧ x < n
    · rw [if_pos h2, if_pos ⟨h2.1, by omega⟩]
    · rw [if_neg h2, if_neg (fun z => by
        by_cases hx : x = n
        · exact h ⟨z.1, hx⟩
        · exact h2 ⟨z.1, by omega⟩)]
theorem rowE_0 {e : XE} {a : Nat} {u : Nat → Int32} : rowE e a 0 u = e := by
  funext b x
  unfold rowE
  rw [if_neg (fun z => absurd z.2 (Nat.not_lt_zero _))]
theorem mset_id {M : Mem} {a : Nat} {x : va_E} (h : M a = some x) : mset M a x = M := by
  funext b
  by_cases hb : b = a
  · subst hb
    rw [mset_s, h]
  · rw [mset_n hb]
section PS
variable {g : GP} {P : Nat → Prop} {F : Mem} {A : XA} {w : Nat} {S : Nat → Nat → Nat} {b : XS} {σ : MS} {e : XE} {M : Mem} {nor nw i k : Nat}
theorem SX.all37 (h : SX g P F A w S b σ e M) (hi : i < S 6 w) {u : Nat → Int32} (hu : ∀ j, 12 ≤ j → u j = VX w S b σ e 37 w i j) : SX g P F A w S b σ (rowE e (10 + i) 12 u) (mset M (A 37 w i) (.inl (gA g 0, 12, .inl u))) := by
  have key : ∀ n, n ≤ 12 → SX g P F A w S b σ (rowE e (10 + i) n u) (mset M (A 37 w i) (.inl (gA g 0, 12, .inl (fun j => if j < n then u j else VX w S b σ e 37 w i j)))) := by
    intro n
    induction n with
    | zero =>
      intro _
      rw [rowE_0, mset_id]
      · exact h
      · rw [h.r37 hi]
        rfl
    | succ n ih =>
      intro hn
      have h1 := ih (by omega)
      have r := h1.r37 hi
      rw [mset_s] at r
      have rv : (fun j => if j < n then u j else VX w S b σ e 37 w i j) = VX w S b σ (rowE e (10 + i) n u) 37 w i := by
        have r1 := Option.some.inj r
        have r2 := Sum.inl.inj r1
        have r3 := congrArg (fun z => z.2.2) r2
        exact Sum.inl.inj r3
      have h2 := h1.p37 hi (j := n) (by omega) (v := u n)
      rw [mset_m, rowE_s, ← rv] at h2
      have e9 : upd (fun j => if j < n then u j else VX w S b σ e 37 w i j) n (u n) = fun j => if j < n + 1 then u j else VX w S b σ e 37 w i j := by
        funext j
        unfold upd
        by_cases hj : j = n
        · subst hj
          rw [if_pos rfl, if_pos (by omega)]
        · rw [if_neg hj]
          show (if j < n then u j else VX w S b σ e 37 w i j) = _
          by_cases h3 : j < n
          · rw [if_pos h3, if_pos (by omega)]
          · rw [if_neg h3, if_neg (by omega)]
      rw [e9] at h2
      exact h2
  have h12 := key 12 (Nat.le_refl _)
  have e9 : (fun j => if j < 12 then u j else VX w S b σ e 37 w i j) = u := by
    funext j
    by_cases hj : j < 12
    · rw [if_pos hj]
    · rw [if_neg hj, hu j (by omega)]
  rw [e9] at h12
  exact h12
/-- a queue without its first -/
def shE (e : XE) (i k : Nat) : XE := rowE e (10 + i) 12 (fun j => if j < k then e (10 + i) (j + 1) else e (10 + i) j)
theorem x_X11_passes {d : Nat} {μ : Mem} (hd : 1 ≤ d) (h : SX g P F A w S b σ e μ) (hi : i < S 6 w) (hk : row σ (1720 + 15 * i + 2) = nI (k + 1)) (hk12 : k < 12) : PM g yX11_passes (ws_ yX11_passes cX11_passes 1 none) d 0 0 [.ref (A 36 w i)] μ (WQ none (SX g P F A w S b (sR σ (1720 + 15 * i + 2) (nI k)) (shE e i k))) := by
  refine (k_X11_passes (f := fun j => row σ (1720 + 15 * i + j)) (u := VX w S b σ e 37 w i) (k := k) hd (h.r36 hi) (h.r37 hi) hk hk12).post (fun o M1 q => ?_)
  obtain ⟨q1, q2⟩ := q
  subst q2
  refine ⟨q1, ?_⟩
  have h2 : SX g P F A w S b (sR σ (1720 + 15 * i + 2) (nI k)) e (mset μ (A 36 w i) (paO (upd (fun j => row σ (1720 + 15 * i + j)) 2 (nI k)) (A 37 w i))) := h.p36_2 hi
  have hne : A 37 w i ≠ A 36 w i := (ne_oa (n := 0) (h.r36 hi) (h.r37 hi)).symm
  have r := h2.r37 hi
  rw [mset_n hne, h.r37 hi] at r
  have rv : VX w S b σ e 37 w i = VX w S b (sR σ (1720 + 15 * i + 2) (nI k)) e 37 w i := Sum.inl.inj (congrArg (fun z => z.2.2) (Sum.inl.inj (Option.some.inj r)))
  have h3 := h2.all37 hi (u := va_cpy (VX w S b σ e 37 w i) (VX w S b σ e 37 w i) 1 0 k) (fun j hj => by rw [pk_cpy_out (Or.inr (by omega)), rv])
  have e9 : rowE e (10 + i) 12 (va_cpy (VX w S b σ e 37 w i) (VX w S b σ e 37 w i) 1 0 k) = shE e i k := by
    funext a x
    unfold shE rowE
    by_cases hx : a = 10 + i ∧ x < 12
    · rw [if_pos hx, if_pos hx]
      show _ = (if x < k then e (10 + i) (x + 1) else e (10 + i) x)
      by_cases hj : x < k
      · rw [if_pos hj, pk_cpy_in (by omega) (by omega), h.v37 hi (by omega), show 1 + (x - 0) = x + 1 by omega]
      · rw [if_neg hj, pk_cpy_out (Or.inr (by omega)), h.v37 hi hx.2]
    · rw [if_neg hx, if_neg hx]
  rw [e9] at h3
  exact h3
theorem OnR.deq {a : Nat} : OnR σ (deqV a σ) := by
  have h := deq_arr (a := a) (σ := σ)
  exact ⟨fun k h1 _ _ _ => h.2.1 k h1, fun x => congrFun h.1 x, h.2.2, h.2.1 14 (by decide)⟩
theorem deq_tie (h : SX g P F A w S b (sR σ (1720 + 15 * i + 2) (nI k)) (shE e i k) M) (t : TieX w S σ e nw) (hi : i < S 6 w) (hq : PaQ σ (1720 + 15 * i) (k + 1)) : SB g P F A w S b (deqV (1720 + 15 * i) σ) nw M := by
  have hz := h.hz
  have z6 := hz.2.2.1
  have hk := hq.2.1
  have on : OnR σ (deqV (1720 + 15 * i) σ) := OnR.deq
  have dr : ∀ j, row (deqV (1720 + 15 * i) σ) j = if j = 1720 + 15 * i + 2 then nI k else if 1720 + 15 * i + 3 ≤ j ∧ j < 1720 + 15 * i + 3 + k then row σ (j + 1) else row σ j := fun j => deq_row hq.1 (by omega)
  refine ⟨shE e i k, h.onR (fun j hj => ?_) (OnR.rf.R.sy.tr on), tie_party t hz hi (fun j _ hj => ?_) (fun j hj2 hj => ?_) (fun a ha => ?_) (on.1 3 (by decide) (by decide) (by decide) (by decide)) (on.1 4 (by decide) (by decide) (by decide) (by decide)) on.2.2.2 (on.2.1 23) (on.2.1 24)⟩
  · rw [dr, rowS_if]
    by_cases e1 : j = 1720 + 15 * i + 2
    · rw [if_pos e1, if_pos e1]
    · rw [if_neg e1, if_neg e1, if_neg (fun z => by unfold mapR at hj; omega)]
  · rw [dr, if_neg (by omega), if_neg (by omega)]
  · rw [dr, if_pos rfl, tN_nI (by omega)] at hj
    rw [dr, if_neg (by omega), if_pos (by omega)]
    unfold shE rowE
    rw [if_pos ⟨rfl, hj2⟩]
    show (if j < k then e (10 + i) (j + 1) else e (10 + i) j) = _
    rw [if_pos hj, t.queue hi (by omega) (by rw [hq.1, tN_nI (by omega)]; omega)]
    rfl
  · funext x
    unfold shE rowE
    rw [if_neg (fun z => ha z.1)]
theorem x_X11_passB {d : Nat} {μ : Mem} (hd : 1 ≤ d) (s : SB g P F A w S b σ nw μ) (hi : i < S 6 w) (hq : PaQ σ (1720 + 15 * i) (k + 1)) : PM g yX11_passes (ws_ yX11_passes cX11_passes 1 none) d 0 0 [.ref (A 36 w i)] μ (WQ none (SB g P F A w S b (deqV (1720 + 15 * i) σ) nw)) := by
  obtain ⟨e, h, t⟩ := s
  exact (x_X11_passes hd h hi hq.1 (by have := hq.2.1; omega)).post (fun o M1 q => ⟨q.1, deq_tie q.2 t hi hq⟩)
theorem hold7 {c : Nat} {x h9 p9 : Int32} {j : Nat} (hj : j ≠ 8 * c + 7) : row (s_holds (sR σ (8 * c + 7) x) c h9 p9) j = row (s_holds σ c h9 p9) j := by
  by_cases hb : 8 * c ≤ j ∧ j < 8 * c + 7
  · obtain ⟨i, rfl⟩ : ∃ i, j = 8 * c + i := ⟨j - 8 * c, by omega⟩
    rw [holds_sec (by omega), holds_sec (by omega)]
  · rw [holds_row (by omega), holds_row (by omega), rowS_ne hj]
/-- a wild section is a lot -/
theorem lot_tie {c : Nat} {e1 : XE} {x : Int32} (y : SX g P F A w S b (putsS σ c (nI 1) (-1) (-1) (-1)) (putsE e1 c (nI 0)) M) (he : ∀ a, a ≠ 2 → e1 a = e a) (h2 : ∀ q, q ≠ c → e1 2 q = e 2 q) (t : TieX w S σ e nw) (hc : c < 96) (hw : sec σ c 0 = nI 0) : SB g P F A w S b (s_holds (sR σ (8 * c + 7) x) c (nI 1) (-1)) nw M := by
  have hz := y.hz
  have y1 := puts_holds hc y
  have on : OnR σ (s_holds (sR σ (8 * c + 7) x) c (nI 1) (-1)) := OnR.rf.R.tr OnR.holds
  have k0 : ∀ j, j < 7 → sec (s_holds (sR σ (8 * c + 7) x) c (nI 1) (-1)) c j = if j = 0 then nI 1 else if j = 1 then -1 else if j = 5 then -1 else if j = 6 then -1 else nI 0 := fun j hj => holds_sec hj
  refine ⟨putsE e1 c (nI 0), y1.onR (fun j hj => hold7 (fun z => by subst z; unfold mapR at hj; omega)) (OnR.holds.sy.tr on), tie_put t hz hc (by rw [hw]; decide) (by rw [k0 0 (by decide)]; decide) (by rw [k0 0 (by decide)]; decide) (fun j _ hj => by rw [holds_row (by omega), rowS_ne (by omega)]) ?_ (on.1 3 (by decide) (by decide) (by decide) (by decide)) (on.1 4 (by decide) (by decide) (by decide) (by decide)) on.2.2.2 (on.2.1 23) (on.2.1 24) (fun q hq => ?_) (fun q hq => ?_) (fun a a2 a3 => ?_)⟩
  · unfold PsX
    rw [k0 0 (by decide), k0 3 (by decide), k0 4 (by decide), k0 5 (by decide), on.1 3 (by decide) (by decide) (by decide) (by decide)]
    exact ⟨fun z => absurd z (by decide), ⟨0, by decide, rfl, fun _ => rfl⟩, (t.ps hc).2.2.1, Or.inl rfl⟩
  · by_cases eq : q = c
    · subst eq; simp [uE_if, putsE]
    · simp [uE_if, putsE, eq, h2 q eq]
  · rw [k0 0 (by decide)]
    by_cases eq : q = c
    · subst eq; simp [uE_if, putsE]; exact fun z => absurd z (by decide)
    · simp [uE_if, putsE, eq, he 3 (by decide)]
  · rw [← he a a2]
    simp [uE, putsE, a2, a3]
end PS
