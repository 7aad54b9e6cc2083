set_option maxRecDepth 100000
section VN
variable {g : GP} {own : String} {cc : ByteArray} {nL : Nat} {i : MI} {d C N pc : Nat} {ls : List (Nat × Value)} {rest : List Value} {μ : Mem} {Q : OC → Mem → Prop}
theorem pl_callVQn {ci nf : Nat} {Cn : String} {Tn : u_T} {ty : Nat → FieldType} {fs : List Value} {a : Nat} {y : MethodName} {b : ByteArray} {L n d1 C1 N1 C2 N2 index : Nat} {r : Option FieldType} {P : Nat → Mem → Prop} {st : List Value} (As : List Value) (cl : CLk ci Cn Tn nf ty) (md : MDy y b L r n) (hy : y.cls = Cn) (h1 : Cond.methodLink own index y ∈ lw_all) (h2 : Cond.instanceMethod y ∈ lw_all) (h3 : Cond.selects Cn y y ∈ lw_all) (h4 : Cond.initialized Cn ∈ lw_all) (hdg : decode cc pc = .ok (.invokevirtual index, 3)) (hst : st = As.reverse ++ .ref a :: rest) (hn : As.length = n) (hr8 : (rest.map fun v => v.category).sum ≤ 8) (hm : μ a = some (.inr (ci, fs))) (hM : PM g y (ws_ y b L r) d1 C1 N1 (.ref a :: As) μ (fun o M => ∃ q : Nat, o = .inl none ∧ P q M)) (hd : d1 + 1 ≤ d) (hC : C1 + C2 ≤ C) (hN : N1 + N2 ≤ N) (kk : ∀ (q : Nat) (M : Mem), P q M → PJ g own cc nL i d C2 N2 (pc + 3) ls rest M Q) : PJ g own cc nL i d C N pc ls st μ Q :=
  pj_callV As cl md hy h1 h2 h3 h4 hdg hst hn hr8 hm hM hd hC hN (fun v9 μ8 h => by
    obtain ⟨q, e1, h1⟩ := h
    cases e1
    exact kk q μ8 h1) (fun E9 q μ8 h => by
    obtain ⟨q, e1, -⟩ := h
    cases e1)
end VN
set_option maxHeartbeats 600000 in
theorem k_J2_addg {g : GP} {μ : Mem} {d : Nat} (hd : 7 ≤ d) {a e n : Nat} {f : Nat → Option Nat} {mc : Int32} (hl : LstC g μ a e n n f mc) (hn1 : 1 ≤ n) (hn5 : n < 50000) (hel : ∀ i, i < n → ∀ y, f i = some y → ElO μ "java/lang/Object" y) {p ci : Nat} {vs : List Value} {r : vw_C} (hv : μ p = some (.inr (ci, vs))) (hc : vwCl[ci]? = some r) (hca : Cond.castable r.1 "java/lang/Object" ∈ lw_tbl) (hpa : p ≠ a) (hea : ∀ i, i < n → ∀ y, f i = some y → y ≠ a) : PM g yJ2_add (ws_ yJ2_add cJ2_add 2 (some .boolean)) d 1 (grN n) [.ref a, .ref p] μ (fun o M => ∃ q : Nat, o = .inl (some (.int (nI 1))) ∧ μ q = none ∧ gF g q ∧ M = mset (mset μ a (lstO (mc + nI 1) q (n + 1))) q (lstA g (grN n) (va_up (va_cpy f (fun _ => none) 0 0 n) n (some p)))) := by
  refine PM.of (by decide +kernel) (Nat.le_of_ble_eq_true rfl) ?_
  refine PJ.ok (fun G => ?_)
  show PJ g _ _ _ _ d 1 (grN n) 0 [(0, .ref a), (1, .ref p)] [] _ _
  obtain ⟨h1, h2, h3, h4⟩ := id hl
  refine pl_aload_n (pc := 0) dJ2_add_0 rfl rfl ?_
  refine pj_dup (pc := 1) dJ2_add_1 rfl ?_
  refine pj_getfS (pc := 2) ckJ2 0 q553 q554 dJ2_add_2 (by decide) hl.1 rfl ?_
  refine pl_iconst (pc := 5) (v := 1) dJ2_add_5 (by rfl) ?_
  refine pj_iadd (pc := 6) dJ2_add_6 ?_
  refine pj_putfS (pc := 7) ckJ2 0 q553 q554 dJ2_add_7 (by decide) rfl hl.1 rfl rfl (Nat.le_of_ble_eq_true rfl) ?_
  have hl1 : LstC g (mset μ a (lstO (mc + nI 1) e n)) a e n n f (mc + nI 1) := hl.o h3
  have hv1 : (mset μ a (lstO (mc + nI 1) e n)) p = some (.inr (ci, vs)) := by rw [mset_n hpa]; exact hv
  have hel1 : ∀ i, i < n → ∀ y, f i = some y → ElO (mset μ a (lstO (mc + nI 1) e n)) "java/lang/Object" y := by
    intro i hi y hy
    obtain ⟨c9, v9, r9, z1, z2, z3⟩ := hel i hi y hy
    exact ⟨c9, v9, r9, by rw [mset_n (hea i hi y hy)]; exact z1, z2, z3⟩
  refine pl_aload_n (pc := 10) dJ2_add_10 rfl rfl ?_
  refine pl_aload_n (pc := 11) dJ2_add_11 rfl rfl ?_
  refine pl_aload_n (pc := 12) dJ2_add_12 rfl rfl ?_
  refine pj_getf (pc := 13) ckJ2 1 q550 dJ2_add_13 (by decide) hl1.1 rfl ?_
  refine pl_aload_n (pc := 16) dJ2_add_16 rfl rfl ?_
  refine pj_getf (pc := 17) ckJ2 2 q551 dJ2_add_17 (by decide) hl1.1 rfl ?_
  refine pl_callVQn (pc := 20) (As := [_, _, _]) (C2 := 0) (N2 := 0) ckJ2 mdJ2_add_2 rfl q636 q638 qs1 q129 dJ2_add_20 rfl rfl (Nat.le_of_ble_eq_true rfl) hl1.1 (k_J2_add_2g (d := d - 1) (by omega) hl1 hn1 hn5 hel1 hv1 hc hca hpa) (by omega) (Nat.le_refl _) (Nat.le_refl _) (fun q M hq => ?_)
  obtain ⟨hq, gq, rfl⟩ := hq
  have hqa : q ≠ a := fun z => by rw [z, mset_s] at hq; cases hq
  have hq0 : μ q = none := by rw [mset_n hqa] at hq; exact hq
  refine pl_iconst (pc := 23) (v := 1) dJ2_add_23 (by rfl) ?_
  refine pj_zret (pc := 24) .boolean dJ2_add_24 rfl (by rfl) ?_
  exact ⟨q, rfl, hq0, gq, by rw [mset_m]⟩
