set_option maxRecDepth 100000
section VE
variable {g : GP} {own : String} {cc : ByteArray} {nL : Nat} {i : MI} {d C N pc : Nat} {ls : List (Nat × Value)} {rest : List Value} {μ : Mem} {Q : OC → Mem → Prop}
/-- a step of the reader is called: it goes on, or a Wrong is thrown -/
theorem pl_callVE {ci nf : Nat} {Cn : String} {Tn : u_T} {ty : Nat → FieldType} {fs : List Value} {a : Nat} {y : MethodName} {b : ByteArray} {L n d1 C1 N1 C2 N2 index : Nat} {r : Option FieldType} {rd t n9 : Nat} {x : (Nat × Nat) ⊕ (Nat × Nat)} {st : List Value} (As : List Value) (cl : CLk ci Cn Tn nf ty) (md : MDy y b L r n) (hy : y.cls = Cn) (h1 : Cond.methodLink own index y ∈ lw_all) (h2 : Cond.instanceMethod y ∈ lw_all) (h3 : Cond.selects Cn y y ∈ lw_all) (h4 : Cond.initialized Cn ∈ lw_all) (hdg : decode cc pc = .ok (.invokevirtual index, 3)) (hst : st = As.reverse ++ .ref a :: rest) (hn : As.length = n) (hr8 : (rest.map fun v => v.category).sum ≤ 8) (hm : μ a = some (.inr (ci, fs))) (hM : PM g y (ws_ y b L r) d1 C1 N1 (.ref a :: As) μ (RV0 μ rd t n9 x)) (hd : d1 + 1 ≤ d) (hC : C1 + C2 ≤ C) (hN : N1 + N2 ≤ N) (kr : ∀ (p1 o1 : Nat) (M1 : Mem), x = .inr (p1, o1) → RdX μ rd t n9 p1 o1 M1 → PJ g own cc nL i d C2 N2 (pc + 3) ls rest M1 Q) (kx : ∀ (k w q : Nat) (M1 : Mem), x = .inl (k, w) → M1 q = some (wr0 (nI k) (nI w)) → PeX μ rd M1 → PX g own cc nL i d C2 N2 pc ls rest "SettlerColony$Wrong" q M1 Q) : PJ g own cc nL i d C N pc ls st μ Q :=
  pj_callV As cl md hy h1 h2 h3 h4 hdg hst hn hr8 hm hM hd hC hN (fun v9 μ8 h => by
    cases hx : x with
    | inl z =>
      rw [hx] at h
      obtain ⟨q, e1, -⟩ := h
      cases e1
    | inr z =>
      rw [hx] at h
      obtain ⟨e1, h1⟩ := h
      cases e1
      exact kr z.1 z.2 μ8 hx h1) (fun E9 q μ8 h => by
    cases hx : x with
    | inl z =>
      rw [hx] at h
      obtain ⟨q9, e1, h1, h2⟩ := h
      cases e1
      exact kx z.1 z.2 q μ8 hx h1 h2
    | inr z =>
      rw [hx] at h
      obtain ⟨e1, -⟩ := h
      cases e1)
end VE
