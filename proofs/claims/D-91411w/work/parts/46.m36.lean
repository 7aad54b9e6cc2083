set_option maxRecDepth 100000
/-! ===== the parser of a law's text, purely: a fault (kind, place), or where it stands, how many are open, what was told ===== -/
abbrev Cd : Type := Nat × Int32
abbrev RP : Type := (Nat × Nat) ⊕ (Nat × Nat × List Cd)
def appR (L : List Cd) : RP → RP
  | .inl e => .inl e
  | .inr (p, o, L2) => .inr (p, o, L ++ L2)
def bindR (r : RP) (f : Nat → Nat → Option RP) : Option RP := match r with
  | .inl e => some (.inl e)
  | .inr (p, o, L) => (f p o).map (appR L)
def thenR (r : Option RP) (f : Nat → Nat → Option RP) : Option RP := r.bind (fun r => bindR r f)
def emitP (k : Nat) (v : Int32) (p o : Nat) : Option RP := some (.inr (p, o, [(k, v)]))
def isD (c : Nat) : Bool := decide (48 ≤ c) && decide (c ≤ 57)
section PP
variable (B : Nat → Nat) (n : Nat)
def signP (ch : Nat) (p o : Nat) : Option RP := if sk B n p < n ∧ B (sk B n p) = ch then some (.inr (sk B n p + 1, o, [])) else some (.inl (1, sk B n p))
def opensP (b : Nat) (p o : Nat) : Option RP := if o = 8 then some (.inl (3, p)) else some (.inr (p + b, o + 1, []))
def bracketP (p o : Nat) : Option RP := if B (sk B n p) = 40 then opensP 1 (sk B n p) o else some (.inl (1, sk B n p))
def closesP (ch : Nat) (p o : Nat) : Option RP := thenR (signP B n ch p o) (fun p o => some (.inr (p, o - 1, [])))
def moveP (q : Nat) (_ o : Nat) : Option RP := some (.inr (q, o, []))
/-- figures: the place behind, the number (some number above 9999 if it is greater) -/
def figF : Nat → Nat → Int32 → Nat × Int32
  | 0, p, v => (p, v)
  | f + 1, p, v => if isD (B p) = false then (p, v) else figF f (p + 1) (if ¬ v ≤ 100000 then v else nI 10 * v + nI (B p) - nI 48)
def figP (p o : Nat) : Option RP := if ¬ (figF B (n - p) p (nI 0)).2 ≤ nI 9999 then some (.inl (2, p)) else some (.inr ((figF B (n - p) p (nI 0)).1, o, [(0, (figF B (n - p) p (nI 0)).2)]))
def toldW : Nat → List Nat
  | 0 => [119, 101, 101, 107] | 1 => [121, 101, 97, 114] | 2 => [115, 111, 108, 100] | 3 => [112, 101, 111, 112, 108, 101] | _ => [115, 111, 105, 108]
def nameW : Nat → List Nat
  | 0 => [112, 114, 105, 99, 101] | 1 => [115, 104, 97, 114, 101] | 2 => [119, 97, 103, 101] | 3 => [114, 117, 110] | 4 => [102, 105, 110, 101] | 5 => [118, 111, 116, 101, 115] | 6 => [99, 104, 111, 105, 99, 101] | _ => [115, 113, 117, 97, 116]
/-- the first of some words that stands here -/
def firstW (w : Nat → List Nat) (q : Nat) : Nat → Nat → Option Nat
  | 0, _ => none
  | m + 1, k => if isW B q (w k) = true then some k else firstW w q m (k + 1)
def wLeast : List Nat := [108, 101, 97, 115, 116]
def wMost : List Nat := [109, 111, 115, 116]
def wIf : List Nat := [105, 102]
def wNot : List Nat := [110, 111, 116]
def wAnd : List Nat := [97, 110, 100]
def wOr : List Nat := [111, 114]
def wUndo : List Nat := [117, 110, 100, 111]
def wFall : List Nat := [102, 97, 108, 108]
def wStand : List Nat := [115, 116, 97, 110, 100]
/-- 0 sum 1 its loop 2 product 3 its loop 4 one 5 ors 6 its loop 7 ands 8 its loop 9 test -/
def PF : Nat → Nat → Nat → Nat → Option RP
  | 0, _, _, _ => none
  | f + 1, tag, p, o =>
    let q := sk B n p
    if tag = 0 then thenR (PF f 2 p o) (PF f 1)
    else if tag = 1 then (if B q = 43 ∨ B q = 45 then thenR (thenR (PF f 2 (q + 1) o) (emitP (if B q = 43 then 1 else 2) (nI 0))) (PF f 1) else some (.inr (q, o, [])))
    else if tag = 2 then thenR (PF f 4 p o) (PF f 3)
    else if tag = 3 then (if B q = 42 ∨ B q = 47 ∨ B q = 37 then thenR (thenR (PF f 4 (q + 1) o) (emitP (if B q = 42 then 3 else if B q = 47 then 4 else 5) (nI 0))) (PF f 3) else some (.inr (q, o, [])))
    else if tag = 4 then
      (if isD (B q) = true then figP B n q o
      else match firstW B toldW q 5 0 with
        | some k => some (.inr (q + (toldW k).length, o, [(15, nI k)]))
        | none =>
          if B q = 40 then thenR (thenR (opensP 1 q o) (PF f 0)) (closesP B n 41)
          else if isW B q wLeast = true ∨ isW B q wMost = true then thenR (thenR (thenR (thenR (thenR (bracketP B n (q + (if isW B q wLeast = true then 5 else 4)) o) (PF f 0)) (signP B n 44)) (PF f 0)) (closesP B n 41)) (emitP (if isW B q wLeast = true then 6 else 7) (nI 0))
          else if isW B q wIf = true then thenR (thenR (thenR (thenR (thenR (thenR (thenR (bracketP B n (q + 2) o) (PF f 5)) (signP B n 44)) (PF f 0)) (signP B n 44)) (PF f 0)) (closesP B n 41)) (emitP 8 (nI 0))
          else some (.inl (1, q)))
    else if tag = 5 then thenR (PF f 7 p o) (PF f 6)
    else if tag = 6 then (if isW B q wOr = true then thenR (thenR (PF f 7 (q + 2) o) (emitP 10 (nI 0))) (PF f 6) else some (.inr (q, o, [])))
    else if tag = 7 then thenR (PF f 9 p o) (PF f 8)
    else if tag = 8 then (if isW B q wAnd = true then thenR (thenR (PF f 9 (q + 3) o) (emitP 9 (nI 0))) (PF f 8) else some (.inr (q, o, [])))
    else
      (if isW B q wNot = true then thenR (thenR (thenR (opensP 3 q o) (PF f 9)) (fun p o => some (.inr (p, o - 1, [])))) (emitP 11 (nI 0))
      else if B q = 91 then thenR (thenR (opensP 1 q o) (PF f 5)) (closesP B n 93)
      else thenR (PF f 0 q o) (fun p o => if B (sk B n p) = 60 ∨ B (sk B n p) = 62 ∨ B (sk B n p) = 61 then thenR (PF f 0 (sk B n p + 1) o) (emitP (if B (sk B n p) = 60 then 12 else if B (sk B n p) = 62 then 13 else 14) (nI 0)) else some (.inl (1, sk B n p))))
end PP
/-! ===== how the model's numbers hold a result ===== -/
def Sam (l c : Nat) (σ σ1 : MS) : Prop := (∀ j, ¬ (11 ≤ j ∧ j ≤ 15) → σ1.1 j = σ.1 j) ∧ (∀ k, k ≠ 8 → k ≠ 9 → σ1.2.1 k = σ.2.1 k) ∧ (∀ j, (j < 400 * l + c ∨ 400 * l + 400 ≤ j) → σ1.2.1 8 j = σ.2.1 8 j ∧ σ1.2.1 9 j = σ.2.1 9 j) ∧ σ1.2.2 = σ.2.2
theorem Sam.rf {l c : Nat} {σ : MS} : Sam l c σ σ := ⟨fun _ _ => rfl, fun _ _ _ => rfl, fun _ _ => ⟨rfl, rfl⟩, rfl⟩
theorem Sam.F {l c j : Nat} {σ σ1 : MS} {x : Int32} (h : Sam l c σ σ1) (hj : 11 ≤ j ∧ j ≤ 15) : Sam l c σ (sF σ1 j x) := by
  refine ⟨fun k hk => ?_, h.2.1, h.2.2.1, h.2.2.2⟩
  rw [← h.1 k hk]
  simp only [sF, upd]
  rw [if_neg (by omega)]
theorem sF_eq {σ : MS} {j : Nat} {x : Int32} : (sF σ j x).1 j = x := by simp [sF, upd]
theorem sF_ne {σ : MS} {j k : Nat} {x : Int32} (h : k ≠ j) : (sF σ j x).1 k = σ.1 k := by simp [sF, upd, h]
/-- what holds of a result -/
def PRr (n l c : Nat) (σ0 σ : MS) : RP → Prop
  | .inl (k, w) => 0 < k ∧ k < 4 ∧ σ.1 12 = nI k ∧ σ.1 13 = nI w ∧ ∃ p, p ≤ n + 5 ∧ σ.1 11 = nI p
  | .inr (p, o, L) => p ≤ n ∧ o ≤ 8 ∧ c + L.length ≤ p ∧ σ.1 11 = nI p ∧ σ.1 12 = nI 0 ∧ σ.1 13 = σ0.1 13 ∧ σ.1 14 = nI o ∧ σ.1 15 = nI (c + L.length) ∧ ∀ i, i < L.length → σ.2.1 8 (400 * l + c + i) = nI (L.getD i (0, 0)).1 ∧ σ.2.1 9 (400 * l + c + i) = (L.getD i (0, 0)).2
def PR (n l c : Nat) (σ0 : MS) (r : RP) (σ : MS) : Prop := Sam l c σ0 σ ∧ PRr n l c σ0 σ r
theorem Txt.of {σ σ1 : MS} {n l c : Nat} {B : Nat → Nat} (t : Txt σ n B) (h : Sam l c σ σ1) : Txt σ1 n B := ⟨(h.1 10 (by omega)).trans t.1, t.2.1, fun k hk => by rw [h.2.1 7 (by decide) (by decide)]; exact t.2.2.1 k hk, t.2.2.2⟩
theorem PR.at {n l c p o p1 : Nat} {L : List Cd} {σ0 σ : MS} (h : PR n l c σ0 (.inr (p, o, L)) σ) (h1 : p ≤ p1) (h2 : p1 ≤ n) : PR n l c σ0 (.inr (p1, o, L)) (sF σ 11 (nI p1)) := by
  obtain ⟨s, a1, a2, a3, a4, a5, a6, a7, a8, a9⟩ := h
  exact ⟨s.F (by omega), h2, a2, by omega, sF_eq, (sF_ne (by decide)).trans a5, (sF_ne (by decide)).trans a6, (sF_ne (by decide)).trans a7, (sF_ne (by decide)).trans a8, a9⟩
theorem PR.op {n l c p o o1 : Nat} {L : List Cd} {σ0 σ : MS} (h : PR n l c σ0 (.inr (p, o, L)) σ) (h1 : o1 ≤ 8) : PR n l c σ0 (.inr (p, o1, L)) (sF σ 14 (nI o1)) := by
  obtain ⟨s, a1, a2, a3, a4, a5, a6, a7, a8, a9⟩ := h
  exact ⟨s.F (by omega), a1, h1, a3, (sF_ne (by decide)).trans a4, (sF_ne (by decide)).trans a5, (sF_ne (by decide)).trans a6, sF_eq, (sF_ne (by decide)).trans a8, a9⟩
theorem PR.bad {n l c p o k w : Nat} {L : List Cd} {σ0 σ : MS} (h : PR n l c σ0 (.inr (p, o, L)) σ) (h0 : 0 < k) (hk : k < 4) : PR n l c σ0 (.inl (k, w)) (wrS σ (nI k) (nI w)) := by
  obtain ⟨s, a1, a2, a3, a4, a5, a6, a7, a8, a9⟩ := h
  have e : wrS σ (nI k) (nI w) = sF (sF σ 12 (nI k)) 13 (nI w) := by
    unfold wrS
    rw [if_neg]
    intro z
    apply z
    rw [a5]
    decide
  rw [e]
  exact ⟨(s.F (by omega)).F (by omega), h0, hk, (sF_ne (by decide)).trans sF_eq, sF_eq, p, by omega, (sF_ne (by decide)).trans ((sF_ne (by decide)).trans a4)⟩
theorem PR.badF {n l c k w j : Nat} {σ0 σ : MS} {x : Int32} (h : PR n l c σ0 (.inl (k, w)) σ) (hj : j = 14 ∨ j = 15) : PR n l c σ0 (.inl (k, w)) (sF σ j x) := by
  obtain ⟨s, a1, a2, a3, a4, p, a5, a6⟩ := h
  exact ⟨s.F (by omega), a1, a2, (sF_ne (by omega)).trans a3, (sF_ne (by omega)).trans a4, p, a5, (sF_ne (by omega)).trans a6⟩
theorem PR.badP {n l c k w p : Nat} {σ0 σ : MS} (h : PR n l c σ0 (.inl (k, w)) σ) (hp : p ≤ n + 5) : PR n l c σ0 (.inl (k, w)) (sF σ 11 (nI p)) := by
  obtain ⟨s, a1, a2, a3, a4, -⟩ := h
  exact ⟨s.F (by omega), a1, a2, (sF_ne (by omega)).trans a3, (sF_ne (by omega)).trans a4, p, hp, sF_eq⟩
theorem PR.em {n l c p o k : Nat} {v : Int32} {L : List Cd} {σ0 σ : MS} (hl : σ0.1 16 = nI l) (hl2 : l < 12) (hn : n ≤ 300) (h : PR n l c σ0 (.inr (p, o, L)) σ) (h1 : c + L.length + 1 ≤ p) : PR n l c σ0 (.inr (p, o, L ++ [(k, v)])) (emS σ (nI k) v) := by
  obtain ⟨s, a1, a2, a3, a4, a5, a6, a7, a8, a9⟩ := h
  have e16 : tN (σ.1 16) = l := by rw [s.1 16 (by omega), hl, tN_nI (by omega)]
  have e15 : tN (σ.1 15) = c + L.length := by rw [a8, tN_nI (by omega)]
  have e : emS σ (nI k) v = sF (wA (wA σ 8 (400 * l + (c + L.length)) (nI k)) 9 (400 * l + (c + L.length)) v) 15 (nI (c + (L.length + 1))) := by
    unfold emS
    rw [if_neg (by intro z; apply z; rw [a5]; decide)]
    simp only []
    rw [e16, e15]
    congr 1
    show σ.1 15 + nI 1 = _
    rw [a8, nI_add]
    rfl
  rw [e]
  have w8 : ∀ j, (sF (wA (wA σ 8 (400 * l + (c + L.length)) (nI k)) 9 (400 * l + (c + L.length)) v) 15 (nI (c + (L.length + 1)))).2.1 8 j = if j = 400 * l + (c + L.length) then nI k else σ.2.1 8 j := fun j => by simp [sF, sA, upd]
  have w9 : ∀ j, (sF (wA (wA σ 8 (400 * l + (c + L.length)) (nI k)) 9 (400 * l + (c + L.length)) v) 15 (nI (c + (L.length + 1)))).2.1 9 j = if j = 400 * l + (c + L.length) then v else σ.2.1 9 j := fun j => by simp [sF, sA, upd]
  refine ⟨⟨fun j hj => (sF_ne (by omega)).trans (s.1 j hj), fun j h8 h9 => by
      show (wA (wA σ 8 _ _) 9 _ _).2.1 j = _
      simp only [sA]
      rw [if_neg h9, if_neg h8]
      exact s.2.1 j h8 h9, fun j hj => ?_, s.2.2.2⟩, a1, a2, by simp; omega, (sF_ne (by decide)).trans a4, (sF_ne (by decide)).trans a5, (sF_ne (by decide)).trans a6, (sF_ne (by decide)).trans a7, ?_, fun i hi => ?_⟩
  · rw [w8, w9, if_neg (by omega), if_neg (by omega)]
    exact s.2.2.1 j hj
  · rw [sF_eq]; simp
  · rw [w8, w9]
    have hi2 : i < L.length + 1 := by simpa using hi
    by_cases e9 : i = L.length
    · subst e9
      rw [if_pos (by omega), if_pos (by omega)]
      simp [List.getD]
    · rw [if_neg (by omega), if_neg (by omega)]
      have e8 : (L ++ [(k, v)]).getD i (0, 0) = L.getD i (0, 0) := by
        simp only [List.getD]
        rw [List.getElem?_append_left (by omega)]
      rw [e8]
      exact a9 i (by omega)
/-- an end with some numbers -/
def rE (g : GP) (ad : Nat → Nat) (μ : Mem) (v : Option Value) (P : MS → Prop) : OC → Mem → Prop := fun o M => o = .inl v ∧ ∃ σ, M = mm g ad μ σ ∧ P σ
