set_option maxRecDepth 100000
/-- a result that goes on from p, o -/
def GR (n p o : Nat) (r : Option RP) : Prop := ∀ p1 o1 L, r = some (.inr (p1, o1, L)) → o1 = o ∧ p + L.length ≤ p1 ∧ p1 ≤ n
theorem thenR_inr {r : Option RP} {f : Nat → Nat → Option RP} {p1 o1 : Nat} {L : List Cd} (h : thenR r f = some (.inr (p1, o1, L))) : ∃ p o L1 L2, r = some (.inr (p, o, L1)) ∧ f p o = some (.inr (p1, o1, L2)) ∧ L = L1 ++ L2 := by
  rcases r with _ | e | ⟨p, o, L1⟩
  · cases h
  · cases h
  · have h1 : (f p o).map (appR L1) = some (.inr (p1, o1, L)) := h
    cases hf : f p o with
    | none => rw [hf] at h1; cases h1
    | some r2 =>
      rw [hf] at h1
      rcases r2 with e | ⟨p2, o2, L2⟩
      · cases h1
      · have h2 : appR L1 (.inr (p2, o2, L2)) = .inr (p1, o1, L) := Option.some.inj h1
        cases h2
        exact ⟨p, o, L1, L2, rfl, hf, rfl⟩
/-- one behind the other: the second may emit k more -/
theorem GR.then {n p o p0 : Nat} {k : Nat} {r : Option RP} {f : Nat → Nat → Option RP} (hp : p + k ≤ p0) (h1 : GR n p0 o r) (h2 : ∀ p, p ≤ n → ∀ p1 o1 L, f p o = some (.inr (p1, o1, L)) → o1 = o ∧ p + L.length ≤ p1 + k ∧ p1 ≤ n) : GR n p o (thenR r f) := by
  intro p1 o1 L h
  obtain ⟨p2, o2, L1, L2, e1, e2, e3⟩ := thenR_inr h
  obtain ⟨a1, a2, a3⟩ := h1 _ _ _ e1
  subst a1
  obtain ⟨b1, b2, b3⟩ := h2 p2 a3 _ _ _ e2
  subst e3
  exact ⟨b1, by simp; omega, b3⟩
theorem emitP_in {n k o : Nat} {v : Int32} : ∀ p, p ≤ n → ∀ p1 o1 L, emitP k v p o = some (.inr (p1, o1, L)) → o1 = o ∧ p + L.length ≤ p1 + 1 ∧ p1 ≤ n := by
  intro p hp p1 o1 L h
  cases h
  exact ⟨rfl, by simp, hp⟩
theorem GR.le {n p p0 o : Nat} {r : Option RP} (h : GR n p0 o r) (hp : p ≤ p0) : GR n p o r := fun p1 o1 L e => by
  obtain ⟨a, b, c⟩ := h p1 o1 L e
  exact ⟨a, by omega, c⟩
theorem GR.to {n p o k : Nat} {r : Option RP} (h : GR n p o r) : ∀ p1 o1 L, r = some (.inr (p1, o1, L)) → o1 = o ∧ p + L.length ≤ p1 + k ∧ p1 ≤ n := fun p1 o1 L e => by
  obtain ⟨a, b, c⟩ := h p1 o1 L e
  exact ⟨a, by omega, c⟩
section PI
variable {B : Nat → Nat} {n : Nat}
theorem signP_in {ch o : Nat} {p : Nat} (hp : p ≤ n) : GR n p o (signP B n ch p o) := by
  have hq := sk_in (B := B) hp
  intro p1 o1 L h
  unfold signP at h
  split at h
  · cases h; exact ⟨rfl, by simp; omega, by omega⟩
  · cases h
theorem closesP_in {ch o : Nat} {p : Nat} (hp : p ≤ n) : GR n p o (closesP B n ch p (o + 1)) := by
  intro p1 o1 L h
  unfold closesP at h
  obtain ⟨p2, o2, L1, L2, e1, e2, e3⟩ := thenR_inr h
  obtain ⟨a1, a2, a3⟩ := signP_in hp _ _ _ e1
  cases e2
  subst e3
  exact ⟨by omega, by simpa using a2, a3⟩
theorem opensP_in {b o p p1 o1 : Nat} {L : List Cd} (h : opensP b p o = some (.inr (p1, o1, L))) : p1 = p + b ∧ o1 = o + 1 ∧ L = [] ∧ o ≠ 8 := by
  unfold opensP at h
  split at h
  · cases h
  · cases h; exact ⟨rfl, rfl, rfl, by assumption⟩
theorem bracketP_in {o p p1 o1 : Nat} {L : List Cd} (hp : p ≤ n) (hB : ∀ k, n ≤ k → B k = 0) (h : bracketP B n p o = some (.inr (p1, o1, L))) : p < p1 ∧ p1 ≤ n ∧ o1 = o + 1 ∧ L = [] ∧ o ≠ 8 := by
  have hq := sk_in (B := B) hp
  unfold bracketP at h
  split at h
  · rename_i h0
    obtain ⟨a1, a2, a3, a4⟩ := opensP_in h
    have : sk B n p < n := by
      rcases Nat.lt_or_ge (sk B n p) n with z | z
      · exact z
      · rw [hB _ z] at h0; cases h0
    exact ⟨by omega, by omega, a2, a3, a4⟩
  · cases h
theorem figF_in (hB : ∀ k, n ≤ k → B k = 0) : ∀ f p v, p ≤ n → p ≤ (figF B f p v).1 ∧ (figF B f p v).1 ≤ n ∧ (isD (B p) = true → 0 < f → p < (figF B f p v).1)
  | 0, p, v, hp => ⟨Nat.le_refl _, hp, fun _ z => absurd z (Nat.lt_irrefl _)⟩
  | f + 1, p, v, hp => by
    simp only [figF]
    split
    · rename_i h
      exact ⟨Nat.le_refl _, hp, fun z => by rw [h] at z; cases z⟩
    · rename_i h
      have hp2 : p < n := by
        rcases Nat.lt_or_ge p n with z | z
        · exact z
        · rw [hB _ z] at h; exact absurd rfl h
      obtain ⟨a, b, -⟩ := figF_in hB f (p + 1) (if ¬ v ≤ 100000 then v else nI 10 * v + nI (B p) - nI 48) (by omega)
      exact ⟨by omega, b, fun _ _ => by omega⟩
theorem firstW_in {w : Nat → List Nat} {q : Nat} : ∀ m k j, firstW B w q m k = some j → isW B q (w j) = true
  | 0, _, _, h => by cases h
  | m + 1, k, j, h => by
    simp only [firstW] at h
    split at h
    · rename_i h1; cases h; exact h1
    · exact firstW_in m (k + 1) j h
theorem PF_0 {f p o : Nat} : PF B n (f + 1) 0 p o = thenR (PF B n f 2 p o) (PF B n f 1) := rfl
theorem PF_1 {f p o : Nat} : PF B n (f + 1) 1 p o = if B (sk B n p) = 43 ∨ B (sk B n p) = 45 then thenR (thenR (PF B n f 2 (sk B n p + 1) o) (emitP (if B (sk B n p) = 43 then 1 else 2) (nI 0))) (PF B n f 1) else some (.inr (sk B n p, o, [])) := rfl
theorem PF_2 {f p o : Nat} : PF B n (f + 1) 2 p o = thenR (PF B n f 4 p o) (PF B n f 3) := rfl
theorem PF_3 {f p o : Nat} : PF B n (f + 1) 3 p o = if B (sk B n p) = 42 ∨ B (sk B n p) = 47 ∨ B (sk B n p) = 37 then thenR (thenR (PF B n f 4 (sk B n p + 1) o) (emitP (if B (sk B n p) = 42 then 3 else if B (sk B n p) = 47 then 4 else 5) (nI 0))) (PF B n f 3) else some (.inr (sk B n p, o, [])) := rfl
def leastP (f q o : Nat) : Option RP := thenR (thenR (thenR (thenR (thenR (bracketP B n (q + (if isW B q wLeast = true then 5 else 4)) o) (PF B n f 0)) (signP B n 44)) (PF B n f 0)) (closesP B n 41)) (emitP (if isW B q wLeast = true then 6 else 7) (nI 0))
def ifP (f q o : Nat) : Option RP := thenR (thenR (thenR (thenR (thenR (thenR (thenR (bracketP B n (q + 2) o) (PF B n f 5)) (signP B n 44)) (PF B n f 0)) (signP B n 44)) (PF B n f 0)) (closesP B n 41)) (emitP 8 (nI 0))
def parP (f q o : Nat) : Option RP := thenR (thenR (opensP 1 q o) (PF B n f 0)) (closesP B n 41)
theorem PF_4 {f p o : Nat} : PF B n (f + 1) 4 p o = if isD (B (sk B n p)) = true then figP B n (sk B n p) o else match firstW B toldW (sk B n p) 5 0 with
        | some k => some (.inr (sk B n p + (toldW k).length, o, [(15, nI k)]))
        | none => if B (sk B n p) = 40 then parP (B := B) (n := n) f (sk B n p) o else if isW B (sk B n p) wLeast = true ∨ isW B (sk B n p) wMost = true then leastP (B := B) (n := n) f (sk B n p) o else if isW B (sk B n p) wIf = true then ifP (B := B) (n := n) f (sk B n p) o else some (.inl (1, sk B n p)) := rfl
theorem PF_5 {f p o : Nat} : PF B n (f + 1) 5 p o = thenR (PF B n f 7 p o) (PF B n f 6) := rfl
theorem PF_6 {f p o : Nat} : PF B n (f + 1) 6 p o = if isW B (sk B n p) wOr = true then thenR (thenR (PF B n f 7 (sk B n p + 2) o) (emitP 10 (nI 0))) (PF B n f 6) else some (.inr (sk B n p, o, [])) := rfl
theorem PF_7 {f p o : Nat} : PF B n (f + 1) 7 p o = thenR (PF B n f 9 p o) (PF B n f 8) := rfl
theorem PF_8 {f p o : Nat} : PF B n (f + 1) 8 p o = if isW B (sk B n p) wAnd = true then thenR (thenR (PF B n f 9 (sk B n p + 3) o) (emitP 9 (nI 0))) (PF B n f 8) else some (.inr (sk B n p, o, [])) := rfl
def notP (f q o : Nat) : Option RP := thenR (thenR (thenR (opensP 3 q o) (PF B n f 9)) (fun p o => some (.inr (p, o - 1, [])))) (emitP 11 (nI 0))
def brkP (f q o : Nat) : Option RP := thenR (thenR (opensP 1 q o) (PF B n f 5)) (closesP B n 93)
def cmpT (f p o : Nat) : Option RP := if B (sk B n p) = 60 ∨ B (sk B n p) = 62 ∨ B (sk B n p) = 61 then thenR (PF B n f 0 (sk B n p + 1) o) (emitP (if B (sk B n p) = 60 then 12 else if B (sk B n p) = 62 then 13 else 14) (nI 0)) else some (.inl (1, sk B n p))
theorem PF_9 {f p o : Nat} : PF B n (f + 1) 9 p o = if isW B (sk B n p) wNot = true then notP (B := B) (n := n) f (sk B n p) o else if B (sk B n p) = 91 then brkP (B := B) (n := n) f (sk B n p) o else thenR (PF B n f 0 (sk B n p) o) (cmpT (B := B) (n := n) f) := rfl
/-- what stands in brackets -/
theorem inner {p k o p2 o2 : Nat} {L : List Cd} {r : Option RP} {f h : Nat → Nat → Option RP} (hr : ∀ p1 o1 L, r = some (.inr (p1, o1, L)) → p + k ≤ p1 ∧ p1 ≤ n ∧ o1 = o + 1 ∧ L = []) (hf : ∀ p1 o1, p1 ≤ n → GR n p1 o1 (f p1 o1)) (hh : ∀ p1, p1 ≤ n → GR n p1 o (h p1 (o + 1))) (e : thenR (thenR r f) h = some (.inr (p2, o2, L))) : o2 = o ∧ p + k + L.length ≤ p2 ∧ p2 ≤ n := by
  obtain ⟨p1, o1, L1, L2, e1, e2, e3⟩ := thenR_inr e
  obtain ⟨p3, o3, L3, L4, e4, e5, e6⟩ := thenR_inr e1
  obtain ⟨a1, a2, a3, a4⟩ := hr _ _ _ e4
  subst a3 a4
  obtain ⟨b1, b2, b3⟩ := hf p3 _ a2 _ _ _ e5
  subst b1
  obtain ⟨c1, c2, c3⟩ := hh p1 b3 _ _ _ e2
  subst e6 e3
  exact ⟨c1, by simp; omega, c3⟩
theorem op_hr {b q o : Nat} (hb : q + b ≤ n) : ∀ p1 o1 L, opensP b q o = some (.inr (p1, o1, L)) → q + b ≤ p1 ∧ p1 ≤ n ∧ o1 = o + 1 ∧ L = [] := fun p1 o1 L h => by
  obtain ⟨a, b, c, -⟩ := opensP_in h
  exact ⟨by omega, by omega, b, c⟩
theorem bk_hr {k q q1 o : Nat} (hB : ∀ k, n ≤ k → B k = 0) (hq : q1 ≤ n) (hk : q + k ≤ q1 + 1) : ∀ p1 o1 L, bracketP B n q1 o = some (.inr (p1, o1, L)) → q + k ≤ p1 ∧ p1 ≤ n ∧ o1 = o + 1 ∧ L = [] := fun p1 o1 L h => by
  obtain ⟨a, b, c, d, -⟩ := bracketP_in hq hB h
  exact ⟨by omega, b, c, d⟩
theorem GR.seq {p o : Nat} {r : Option RP} {f : Nat → Nat → Option RP} (h1 : GR n p o r) (h2 : ∀ p, p ≤ n → GR n p o (f p o)) : GR n p o (thenR r f) := GR.then (k := 0) (Nat.le_refl _) h1 (fun p hp => (h2 p hp).to)
theorem told_ok (k : Nat) : ∀ x ∈ toldW k, 0 < x ∧ x < 256 := by
  match k with
  | 0 => decide
  | 1 => decide
  | 2 => decide
  | 3 => decide
  | k + 4 => show ∀ x ∈ [115, 111, 105, 108], 0 < x ∧ x < 256; decide
theorem told_nz (k : Nat) : ∀ x ∈ toldW k, 0 < x := fun x hx => (told_ok k x hx).1
theorem told_len (k : Nat) : 1 ≤ (toldW k).length := by
  match k with
  | 0 => decide
  | 1 => decide
  | 2 => decide
  | 3 => decide
  | k + 4 => show 1 ≤ [115, 111, 105, 108].length; decide
theorem PF_in (hB : ∀ k, n ≤ k → B k = 0) : ∀ f tag p o, tag ≤ 9 → p ≤ n → GR n p o (PF B n f tag p o) := by
  intro f
  induction f with
  | zero => intro tag p o _ _ p1 o1 L h; cases h
  | succ f ih =>
    intro tag p o ht hp
    have hq := sk_in (B := B) hp
    have hlt : ∀ x, B (sk B n p) = x → 0 < x → sk B n p < n := by
      intro x hx h0
      rcases Nat.lt_or_ge (sk B n p) n with z | z
      · exact z
      · rw [hB _ z] at hx; omega
    have stop : GR n p o (some (.inr (sk B n p, o, []))) := by
      intro p1 o1 L h; cases h; exact ⟨rfl, by simpa using hq.1, hq.2⟩
    have flt : ∀ e, GR n p o (some (.inl e)) := fun e p1 o1 L h => by cases h
    match tag, ht with
    | 0, _ => rw [PF_0]; exact (ih 2 p o (by decide) hp).seq (fun p hp => ih 1 p o (by decide) hp)
    | 1, _ =>
      rw [PF_1]
      split
      · rename_i h1
        have hl : sk B n p < n := by rcases h1 with z | z <;> exact hlt _ z (by decide)
        exact (GR.then (k := 1) (p := p) (p0 := sk B n p + 1) (by omega) (ih 2 _ o (by decide) (by omega)) emitP_in).seq (fun p hp => ih 1 p o (by decide) hp)
      · exact stop
    | 2, _ => rw [PF_2]; exact (ih 4 p o (by decide) hp).seq (fun p hp => ih 3 p o (by decide) hp)
    | 3, _ =>
      rw [PF_3]
      split
      · rename_i h1
        have hl : sk B n p < n := by rcases h1 with z | z | z <;> exact hlt _ z (by decide)
        exact (GR.then (k := 1) (p := p) (p0 := sk B n p + 1) (by omega) (ih 4 _ o (by decide) (by omega)) emitP_in).seq (fun p hp => ih 3 p o (by decide) hp)
      · exact stop
    | 4, _ =>
      rw [PF_4]
      split
      · rename_i hd
        have hl : sk B n p < n := by
          rcases Nat.lt_or_ge (sk B n p) n with z | z
          · exact z
          · rw [hB _ z] at hd; cases hd
        intro p1 o1 L h
        unfold figP at h
        split at h
        · cases h
        · cases h
          obtain ⟨a, b, c⟩ := figF_in hB (n - sk B n p) (sk B n p) (nI 0) hq.2
          have := c hd (by omega)
          exact ⟨rfl, by simp; omega, b⟩
      · cases hw : firstW B toldW (sk B n p) 5 0 with
        | some k =>
          have h1 := isW_in (firstW_in _ _ _ hw) (told_nz k) hB hq.2
          have h2 := told_len k
          intro p1 o1 L h
          cases h
          exact ⟨rfl, by simp; omega, h1⟩
        | none =>
          show GR n p o (if B (sk B n p) = 40 then _ else _)
          split
          · rename_i h1
            have hl := hlt _ h1 (by decide)
            intro p2 o2 L e
            obtain ⟨a, b, c⟩ := inner (op_hr (by omega)) (fun p1 o1 hp => ih 0 p1 o1 (by decide) hp) (fun p1 hp => closesP_in hp) e
            exact ⟨a, by omega, c⟩
          · split
            · rename_i h1
              have hl : sk B n p + (if isW B (sk B n p) wLeast = true then 5 else 4) ≤ n := by
                split
                · rename_i h2
                  exact isW_in h2 (by decide) hB hq.2
                · rename_i h2
                  rcases h1 with z | z
                  · exact absurd z h2
                  · exact isW_in z (by decide) hB hq.2
              have hl2 : 4 ≤ (if isW B (sk B n p) wLeast = true then 5 else 4) := by split <;> decide
              intro p2 o2 L e
              obtain ⟨p3, o3, L3, L4, e1, e2, e3⟩ := thenR_inr e
              obtain ⟨p4, o4, L5, L6, f1, f2, f3⟩ := thenR_inr e1
              obtain ⟨p5, o5, L7, L8, g1, g2, g3⟩ := thenR_inr f1
              obtain ⟨p6, o6, L9, L10, k1, k2, k3⟩ := thenR_inr g1
              obtain ⟨p7, o7, L11, L12, m1, m2, m3⟩ := thenR_inr k1
              obtain ⟨a1, a2, a3, a4⟩ := bk_hr (q := sk B n p) (k := 4) hB hl (by omega) _ _ _ m1
              subst a3 a4
              obtain ⟨b1, b2, b3⟩ := ih 0 _ _ (by decide) a2 _ _ _ m2
              subst b1
              obtain ⟨c1, c2, c3⟩ := signP_in b3 _ _ _ k2
              subst c1
              obtain ⟨d1, d2, d3⟩ := ih 0 _ _ (by decide) c3 _ _ _ g2
              subst d1
              obtain ⟨i1, i2, i3⟩ := closesP_in d3 _ _ _ f2
              subst i1
              cases e2
              subst m3 k3 g3 f3 e3
              exact ⟨rfl, by simp; omega, i3⟩
            · split
              · rename_i h1
                have hl : sk B n p + 2 ≤ n := isW_in h1 (by decide) hB hq.2
                intro p2 o2 L e
                obtain ⟨p3, o3, L3, L4, e1, e2, e3⟩ := thenR_inr e
                obtain ⟨p4, o4, L5, L6, f1, f2, f3⟩ := thenR_inr e1
                obtain ⟨p5, o5, L7, L8, g1, g2, g3⟩ := thenR_inr f1
                obtain ⟨p6, o6, L9, L10, k1, k2, k3⟩ := thenR_inr g1
                obtain ⟨p7, o7, L11, L12, m1, m2, m3⟩ := thenR_inr k1
                obtain ⟨p8, o8, L13, L14, x1, x2, x3⟩ := thenR_inr m1
                obtain ⟨p9, o9, L15, L16, y1, y2, y3⟩ := thenR_inr x1
                obtain ⟨a1, a2, a3, a4⟩ := bk_hr (q := sk B n p) (k := 2) hB hl (by omega) _ _ _ y1
                subst a3 a4
                obtain ⟨b1, b2, b3⟩ := ih 5 _ _ (by decide) a2 _ _ _ y2
                subst b1
                obtain ⟨c1, c2, c3⟩ := signP_in b3 _ _ _ x2
                subst c1
                obtain ⟨d1, d2, d3⟩ := ih 0 _ _ (by decide) c3 _ _ _ m2
                subst d1
                obtain ⟨q1, q2, q3⟩ := signP_in d3 _ _ _ k2
                subst q1
                obtain ⟨r1, r2, r3⟩ := ih 0 _ _ (by decide) q3 _ _ _ g2
                subst r1
                obtain ⟨i1, i2, i3⟩ := closesP_in r3 _ _ _ f2
                subst i1
                cases e2
                subst y3 x3 m3 k3 g3 f3 e3
                exact ⟨rfl, by simp; omega, i3⟩
              · exact flt _
    | 5, _ => rw [PF_5]; exact (ih 7 p o (by decide) hp).seq (fun p hp => ih 6 p o (by decide) hp)
    | 6, _ =>
      rw [PF_6]
      split
      · rename_i h1
        have hl : sk B n p + 2 ≤ n := isW_in h1 (by decide) hB hq.2
        exact (GR.then (k := 1) (p := p) (p0 := sk B n p + 2) (by omega) (ih 7 _ o (by decide) hl) emitP_in).seq (fun p hp => ih 6 p o (by decide) hp)
      · exact stop
    | 7, _ => rw [PF_7]; exact (ih 9 p o (by decide) hp).seq (fun p hp => ih 8 p o (by decide) hp)
    | 8, _ =>
      rw [PF_8]
      split
      · rename_i h1
        have hl : sk B n p + 3 ≤ n := isW_in h1 (by decide) hB hq.2
        exact (GR.then (k := 1) (p := p) (p0 := sk B n p + 3) (by omega) (ih 9 _ o (by decide) hl) emitP_in).seq (fun p hp => ih 8 p o (by decide) hp)
      · exact stop
    | 9, _ =>
      rw [PF_9]
      split
      · rename_i h1
        have hl : sk B n p + 3 ≤ n := isW_in h1 (by decide) hB hq.2
        intro p2 o2 L e
        obtain ⟨p3, o3, L3, L4, e1, e2, e3⟩ := thenR_inr e
        obtain ⟨a, b, c⟩ := inner (op_hr hl) (fun p1 o1 hp => ih 9 p1 o1 (by decide) hp) (fun p1 hp p5 o5 L5 z => by cases z; exact ⟨by omega, by simp, hp⟩) e1
        subst a
        cases e2
        subst e3
        exact ⟨rfl, by simp; omega, c⟩
      · split
        · rename_i h1
          have hl := hlt _ h1 (by decide)
          intro p2 o2 L e
          obtain ⟨a, b, c⟩ := inner (op_hr (by omega)) (fun p1 o1 hp => ih 5 p1 o1 (by decide) hp) (fun p1 hp => closesP_in hp) e
          exact ⟨a, by omega, c⟩
        · refine GR.seq ((ih 0 _ o (by decide) hq.2).le hq.1) (fun p1 hp1 => ?_)
          have hq1 := sk_in (B := B) hp1
          unfold cmpT
          split
          · rename_i h1
            have hl : sk B n p1 < n := by
              rcases Nat.lt_or_ge (sk B n p1) n with z | z
              · exact z
              · rw [hB _ z] at h1; omega
            exact GR.then (k := 1) (p := p1) (p0 := sk B n p1 + 1) (by omega) (ih 0 _ o (by decide) (by omega)) emitP_in
          · intro p5 o5 L5 z; cases z
end PI
