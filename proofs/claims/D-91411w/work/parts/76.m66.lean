set_option maxRecDepth 100000
section VQ
variable {g : GP} {own : String} {cc : ByteArray} {nL : Nat} {i : MI} {d C N pc : Nat} {ls : List (Nat × Value)} {rest : List Value} {μ : Mem} {Q : OC → Mem → Prop}
theorem pl_callSQ {y : MethodName} {b : ByteArray} {L n d1 C1 N1 C2 N2 index : Nat} {r : Option FieldType} {P : Nat → Mem → Prop} {st : List Value} (As : List Value) (md : MDy y b L r n) (h1 : Cond.methodLink own index y ∈ lw_all) (h2 : Cond.static y ∈ lw_all) (h3 : Cond.initialized y.cls ∈ lw_all) (hdg : decode cc pc = .ok (.invokestatic index, 3)) (hst : st = As.reverse ++ rest) (hn : As.length = n) (hr8 : (rest.map fun v => v.category).sum ≤ 8) (hM : PM g y (ws_ y b L r) d1 C1 N1 As μ (fun o M => ∃ q : Nat, o = .inl (some (.ref q)) ∧ P q M)) (hd : d1 + 1 ≤ d) (hC : C1 + C2 ≤ C) (hN : N1 + N2 ≤ N) (kk : ∀ (q : Nat) (M : Mem), P q M → PJ g own cc nL i d C2 N2 (pc + 3) ls (.ref q :: rest) M Q) : PJ g own cc nL i d C N pc ls st μ Q :=
  pj_callS As md h1 h2 h3 hdg hst hn hr8 hM hd hC hN (fun v9 μ8 h => by
    obtain ⟨q, e1, h1⟩ := h
    cases e1
    exact kk q μ8 h1) (fun E9 q μ8 h => by
    obtain ⟨q, e1, -⟩ := h
    cases e1)
theorem pl_callVQ {ci nf : Nat} {Cn : String} {Tn : u_T} {ty : Nat → FieldType} {fs : List Value} {a : Nat} {y : MethodName} {b : ByteArray} {L n d1 C1 N1 C2 N2 index : Nat} {r : Option FieldType} {P : Nat → Mem → Prop} {st : List Value} (As : List Value) (cl : CLk ci Cn Tn nf ty) (md : MDy y b L r n) (hy : y.cls = Cn) (h1 : Cond.methodLink own index y ∈ lw_all) (h2 : Cond.instanceMethod y ∈ lw_all) (h3 : Cond.selects Cn y y ∈ lw_all) (h4 : Cond.initialized Cn ∈ lw_all) (hdg : decode cc pc = .ok (.invokevirtual index, 3)) (hst : st = As.reverse ++ .ref a :: rest) (hn : As.length = n) (hr8 : (rest.map fun v => v.category).sum ≤ 8) (hm : μ a = some (.inr (ci, fs))) (hM : PM g y (ws_ y b L r) d1 C1 N1 (.ref a :: As) μ (fun o M => ∃ q : Nat, o = .inl (some (.ref q)) ∧ P q M)) (hd : d1 + 1 ≤ d) (hC : C1 + C2 ≤ C) (hN : N1 + N2 ≤ N) (kk : ∀ (q : Nat) (M : Mem), P q M → PJ g own cc nL i d C2 N2 (pc + 3) ls (.ref q :: rest) M Q) : PJ g own cc nL i d C N pc ls st μ Q :=
  pj_callV As cl md hy h1 h2 h3 h4 hdg hst hn hr8 hm hM hd hC hN (fun v9 μ8 h => by
    obtain ⟨q, e1, h1⟩ := h
    cases e1
    exact kk q μ8 h1) (fun E9 q μ8 h => by
    obtain ⟨q, e1, -⟩ := h
    cases e1)
end VQ
set_option maxHeartbeats 600000 in
theorem k_J14_copyOf_2 {g : GP} {μ : Mem} {d : Nat} (hd : 3 ≤ d) {a n k : Nat} {f : Nat → Option Nat} (hm : μ a = some (lstA g n f)) (hel : ∀ i, i < n → ∀ y, f i = some y → ElO μ "java/lang/Object" y) (hnk : n ≤ k) (hk : k < 100000) : PM g yJ14_copyOf_2 (ws_ yJ14_copyOf_2 cJ14_copyOf_2 2 (some (.array (.object "java/lang/Object")))) d 1 k [.ref a, .int (nI k)] μ (fun o M => ∃ q : Nat, o = .inl (some (.ref q)) ∧ μ q = none ∧ gF g q ∧ M = mset μ q (lstA g k (va_cpy f (fun _ => none) 0 0 n))) := by
  refine PM.of (by decide +kernel) (Nat.le_of_ble_eq_true rfl) ?_
  refine PJ.ok (fun G => ?_)
  show PJ g _ _ _ _ d 1 k 0 [(0, .ref a), (1, .int (nI k))] [] _ _
  refine pl_aload_n (pc := 0) dJ14_copyOf_2_0 rfl rfl ?_
  refine pl_iload_n (pc := 1) dJ14_copyOf_2_1 rfl rfl ?_
  refine pl_aload_n (pc := 2) dJ14_copyOf_2_2 rfl rfl ?_
  obtain ⟨mi, hM⟩ := mirO G
  refine pj_getCO (pc := 3) hM q654 hm (by omega) (Nat.le_of_ble_eq_true rfl) dJ14_copyOf_2_3 ?_
  refine pl_callSQ (pc := 6) (As := [_, _, _]) (C2 := 0) (N2 := 0) mdJ14_copyOf_3 q697 q698 q141 dJ14_copyOf_2_6 rfl rfl (Nat.le_of_ble_eq_true rfl) (k_J14_copyOf_3 (d := d - 1) (by omega) hm hel hnk hk hM) (by omega) (Nat.le_refl _) (Nat.le_refl _) (fun q M hq => ?_)
  refine pj_aret (pc := 9) dJ14_copyOf_2_9 rfl (Or.inr ⟨_, rfl⟩) (Or.inr ⟨_, rfl⟩) ?_
  exact ⟨q, rfl, hq⟩
