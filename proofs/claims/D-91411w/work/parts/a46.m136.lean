set_option maxRecDepth 100000
/-- an Integer of the start's cache -/
def IcX (g : GP) (q : Nat) (v : Int32) : Prop := va_O "java/lang/Integer" q (gF g) (gS g) (gS g).heap ∧ va_OF "java/lang/Integer" "value" "I" (.int v) q (gF g) (gS g) (gS g).heap
def ElZ (g : GP) (μ : Mem) (E : String) (y : Nat) : Prop := ElO μ E y ∨ ∃ C : String, va_O C y (gF g) (gS g) (gS g).heap ∧ Cond.castable C E ∈ lw_tbl
theorem ElO.set {μ : Mem} {E : String} {y a : Nat} {x : va_E} (h : ElO μ E y) (hn : ∀ x, μ y = some x → y ≠ a) : ElO (mset μ a x) E y := by
  obtain ⟨ci, vs, r, h1, h2⟩ := h
  exact ⟨ci, vs, r, by rw [mset_n (hn _ h1)]; exact h1, h2⟩
theorem ElZ.set {g : GP} {μ : Mem} {E : String} {y a : Nat} {x : va_E} (h : ElZ g μ E y) (hn : ∀ x, μ y = some x → y ≠ a) : ElZ g (mset μ a x) E y := h.elim (fun z => Or.inl (z.set hn)) Or.inr
theorem ElZ.new {g : GP} {μ : Mem} {E : String} {y q : Nat} {x : va_E} (h : ElZ g μ E y) (hq : μ q = none) : ElZ g (mset μ q x) E y := h.set (fun x hx z => by rw [z, hq] at hx; cases hx)
theorem ElZ.two {g : GP} {μ : Mem} {E : String} {y q a : Nat} {x x1 : va_E} (h : ElZ g μ E y) (hq : μ q = none) (hn : ∀ x, μ y = some x → y ≠ a) : ElZ g (mset (mset μ q x) a x1) E y :=
  h.elim (fun z => Or.inl ((z.set (fun x hx z => by rw [z, hq] at hx; cases hx)).set (fun x hx => by
    obtain ⟨ci, vs, r, h1, -⟩ := z
    exact hn _ h1))) Or.inr
section ZR
variable {g : GP} {own : String} {cc : ByteArray} {nL : Nat} {i : MI} {d C N pc : Nat} {ls : List (Nat × Value)} {rest : List Value} {μ : Mem} {Q : OC → Mem → Prop}
theorem pj_astz {a v n : Nat} {E : String} {f : Nat → Option Nat} {j : Int32} (t0 : Nat) (hdg : decode cc pc = .ok (.aastore, 1)) (hm : μ a = some (.inl (gA g t0, n, .inr (.inr (.inr (.inr f)))))) (ht : (tysG g)[t0]? = some (gA g t0, .object E)) (hv : ElZ g μ E v) (hin : vp_in j n) (kk : PJ g own cc nL i d C N (pc + 1) ls rest (mset μ a (.inl (gA g t0, n, .inr (.inr (.inr (.inr (va_up f j.toNatClampNeg (some v)))))))) Q) : PJ g own cc nL i d C N pc ls (.ref v :: .int j :: .ref a :: rest) μ Q := by
  rcases hv with ⟨ci, vs, r, h1, h2, h3⟩ | ⟨Cn, hO, hca⟩
  · exact pj_astq t0 hdg hm ht h1 h2 h3 hin kk
  · intro G p e R s m args below meth c E9 H locs cells slots K K9 B arr hl9
    obtain ⟨ws, hP, hD, hmm⟩ := Sim.list B.2.2.2.2.1
    obtain ⟨q0, hq0⟩ := (hmm _ _).mp hm
    have hO2 := (hO.moved E9.2.2.2.2.2.2.2.2.2.1.1.alike).kept (H1 := s.heap) (fun a ha _ => E9.2.2.2.2.2.2.2.2.2.1.2.2 a ha)
    have hO3 := hO2.kept (H1 := H) (fun a ha hA => B.2.2.2.2.2.2.1 a ha hA)
    obtain ⟨cell, c1, c2, c3, -⟩ := hO3
    exact vb_astq (C := Cn) E9.1 E9.2.1 (G.K E9.2.2.2.2.2.2.2.2.2.1) hP hD B.2.2.2.2.2 q0 t0 hq0 ht ⟨cell, c1, c2, c3⟩ (vb_asgC (va_Nw.warmC E9.2.2.2.2.2.2.2.2.2.1.1 (va_Nw.of rfl (G_tbl G hca)))) hin hdg (fun H1 locs1 hP1 hD1 hS1 => kk G p e R s m args below meth c E9 H1 locs1 cells slots K K9 (B.mem (Sim.set hmm hq0 hP1 hD1) hS1) arr hl9)
theorem pl_astz {a v n k : Nat} {E : String} {f : Nat → Option Nat} (t0 : Nat) (hdg : decode cc pc = .ok (.aastore, 1)) (hm : μ a = some (.inl (gA g t0, n, .inr (.inr (.inr (.inr f)))))) (ht : (tysG g)[t0]? = some (gA g t0, .object E)) (hv : ElZ g μ E v) (hk : k < n) (hn : n < 2147483648) (kk : PJ g own cc nL i d C N (pc + 1) ls rest (mset μ a (.inl (gA g t0, n, .inr (.inr (.inr (.inr (va_up f k (some v)))))))) Q) : PJ g own cc nL i d C N pc ls (.ref v :: .int (nI k) :: .ref a :: rest) μ Q := pj_astz t0 hdg hm ht hv (vp_in_nI hk hn) (by rw [nI_clamp (Nat.lt_trans hk hn)]; exact kk)
theorem pj_copyz {a0 a n0 n1 index : Nat} {f f1 : Nat → Option Nat} {E : String} {sp dp k : Nat} (t0 : Nat) (hlink : Cond.methodLink own index arraycopyName ∈ lw_all) (hdg : decode cc pc = .ok (.invokestatic index, 3)) (hm0 : μ a0 = some (.inl (gA g t0, n0, .inr (.inr (.inr (.inr f)))))) (hm1 : μ a = some (.inl (gA g t0, n1, .inr (.inr (.inr (.inr f1)))))) (ht : (tysG g)[t0]? = some (gA g t0, .object E)) (h4 : sp + k ≤ n0) (h5 : dp + k ≤ n1) (hn0 : n0 < 2147483648) (hn1 : n1 < 2147483648) (hel : ∀ i, i < k → ∀ y, f (sp + i) = some y → ElZ g μ E y) (hd : 1 ≤ d) (hr : (rest.map fun v => v.category).sum ≤ 8)
    (kk : PJ g own cc nL i d C N (pc + 3) ls rest (mset μ a (.inl (gA g t0, n1, .inr (.inr (.inr (.inr (va_cpy f f1 sp dp k))))))) Q) : PJ g own cc nL i d C N pc ls (.int (nI k) :: .int (nI dp) :: .ref a :: .int (nI sp) :: .ref a0 :: rest) μ Q := by
  intro G p e R s m args below meth c E9 H locs cells slots K K9 B arr hl9
  obtain ⟨ws, hP, hD, hmm⟩ := Sim.list B.2.2.2.2.1
  obtain ⟨q0, hq0⟩ := (hmm _ _).mp hm0
  obtain ⟨q1, hq1⟩ := (hmm _ _).mp hm1
  have e1 : (nI sp).toNatClampNeg = sp := nI_clamp (by omega)
  have e2 : (nI dp).toNatClampNeg = dp := nI_clamp (by omega)
  have e3 : (nI k).toNatClampNeg = k := nI_clamp (by omega)
  have hw9 : nativeFrameWords "java/lang/System" "arraycopy" 5 ≤ 60 := by decide +kernel
  have nn : ∀ z : Nat, z < 2147483648 → ¬ nI z < 0 := fun z hz => Int32.not_lt.mpr (nI_pos' (by omega))
  have hK := G.K E9.2.2.2.2.2.2.2.2.2.1
  refine va_copyM E9.1 E9.2.1 (by rw [E9.2.2.1]; exact hl9.1.symm) E9.2.2.2.1 (E9.2.2.2.2.1 _ hlink) (E9.2.2.2.2.1 _ q366) (E9.2.2.2.2.1 _ q365) (E9.2.2.2.2.1 _ q142) hK hP hD B.2.2.2.2.2 q0 q1 t0 t0 hq0 hq1 ht ht (nn sp (by omega)) (nn dp (by omega)) (nn k (by omega)) (by rw [e1, e3]; exact h4) (by rw [e2, e3]; exact h5) (fun i hi y hy => ?_) (by rw [E9.2.2.2.2.2.2.2.2.2.2.1]; exact hd) (by rw [E9.2.2.2.2.2.2.2.2.2.2.2]; omega) hdg (fun H1 locs1 hP1 hD1 hS1 => by
    rw [e1, e2, e3] at hP1 hD1
    exact kk G p e R s m args below meth c E9 H1 locs1 cells slots K K9 (B.mem (Sim.set hmm hq1 hP1 hD1) hS1) arr hl9)
  rw [e3] at hi
  rw [e1] at hy
  rcases hel i hi y hy with ⟨ci, vs, r, h1, h2, h3⟩ | ⟨Cn, hO, hca⟩
  · obtain ⟨qk, hqk⟩ := (hmm _ _).mp h1
    refine va_rAny hK hP hqk h2 (fun comp c0 hc1 hc0 => ?_)
    obtain ⟨c3, t3, f1, f2, f3⟩ := Cond.castable_spec (va_Nw.use (A := #[]) rfl (va_Nw.warmC E9.2.2.2.2.2.2.2.2.2.1.1 (va_Nw.of rfl (G_tbl G h3))))
    cases hc0.symm.trans f1
    cases hc1.symm.trans f2
    exact f3
  · have hO2 := (hO.moved E9.2.2.2.2.2.2.2.2.2.1.1.alike).kept (H1 := s.heap) (fun a ha _ => E9.2.2.2.2.2.2.2.2.2.1.2.2 a ha)
    have hO3 := hO2.kept (H1 := H) (fun a ha hA => B.2.2.2.2.2.2.1 a ha hA)
    obtain ⟨cell, c1, c2, c3, -⟩ := hO3
    obtain ⟨kC, hkC, -⟩ := Vm.findClass_spec c3
    exact ⟨cell, c1, c2, ⟨kC, hkC⟩, fun comp h => vb_asgC (va_Nw.warmC E9.2.2.2.2.2.2.2.2.2.1.1 (va_Nw.of rfl (G_tbl G hca))) comp _ h c3⟩
end ZR
set_option maxHeartbeats 600000 in
theorem k_J14_copyOf_3z {g : GP} {μ : Mem} {d : Nat} (hd : 2 ≤ d) {a n k mi : Nat} {f : Nat → Option Nat} (hm : μ a = some (lstA g n f)) (hel : ∀ i, i < n → ∀ y, f i = some y → ElZ g μ "java/lang/Object" y) (hnk : n ≤ k) (hk : k < 100000) (hM : va_Mi "[Ljava/lang/Object;" mi (gS g)) : PM g yJ14_copyOf_3 (ws_ yJ14_copyOf_3 cJ14_copyOf_3 4 (some (.array (.object "java/lang/Object")))) d 1 k [.ref a, .int (nI k), .ref mi] μ (fun o M => ∃ q : Nat, o = .inl (some (.ref q)) ∧ μ q = none ∧ gF g q ∧ M = mset μ q (lstA g k (va_cpy f (fun _ => none) 0 0 n))) := by
  refine PM.of (by decide +kernel) (Nat.le_of_ble_eq_true rfl) ?_
  refine PJ.ok (fun G => ?_)
  show PJ g _ _ _ _ d 1 k 0 [(0, .ref a), (1, .int (nI k)), (2, .ref mi)] [] _ _
  refine pl_aload_n (pc := 0) dJ14_copyOf_3_0 rfl rfl ?_
  refine pj_ldcM (pc := 1) hM q700 dJ14_copyOf_3_1 ?_
  refine pj_acmp_ne (pc := 3) (tgt := 13) (rx := some mi) (ry := some mi) dJ14_copyOf_3_3 (by decide) (fun h => absurd rfl h) (fun _ => ?_)
  refine pl_iload_n (pc := 6) dJ14_copyOf_3_6 rfl rfl ?_
  refine pj_newq (pc := 7) (t0 := 5) (N9 := k) (C1 := 0) (N1 := 0) dJ14_copyOf_3_7 q701 q208 rfl (Int32.not_lt.mpr (nI_pos' (by omega))) (nI_clamp (by omega)) (by omega) (by omega) (by omega) (fun q hq gq => ?_)
  have hqa : q ≠ a := fun z => by rw [z, hm] at hq; cases hq
  have hm2 : (mset μ q (lstA g k (fun _ => none))) a = some (lstA g n f) := by rw [mset_n (Ne.symm hqa)]; exact hm
  have hq2 : (mset μ q (lstA g k (fun _ => none))) q = some (lstA g k (fun _ => none)) := mset_s
  have hel2 : ∀ i, i < n → ∀ y, f (0 + i) = some y → ElZ g (mset μ q (lstA g k (fun _ => none))) "java/lang/Object" y := fun i hi y hy => (hel i hi y (by rw [← hy, Nat.zero_add])).new hq
  refine pj_goto (pc := 10) (tgt := 24) dJ14_copyOf_3_10 (by decide) ?_
  refine pj_astore_n (pc := 24) (lv' := [(3, _), (0, _), (1, _), (2, _)]) dJ14_copyOf_3_24 rfl (by decide) rfl ?_
  refine pl_aload_n (pc := 25) dJ14_copyOf_3_25 rfl rfl ?_
  refine pl_iconst (pc := 26) (v := 0) dJ14_copyOf_3_26 (by rfl) ?_
  refine pl_aload_n (pc := 27) dJ14_copyOf_3_27 rfl rfl ?_
  refine pl_iconst (pc := 28) (v := 0) dJ14_copyOf_3_28 (by rfl) ?_
  refine pl_aload_n (pc := 29) dJ14_copyOf_3_29 rfl rfl ?_
  refine pj_alen (pc := 30) 5 dJ14_copyOf_3_30 hm2 rfl (v := nI n) rfl ?_
  refine pl_iload_n (pc := 31) dJ14_copyOf_3_31 rfl rfl ?_
  refine pj_mmin (pc := 32) q361 dJ14_copyOf_3_32 (by omega) (Nat.le_of_ble_eq_true rfl) ?_
  refine PJ.top (y := nI n) (if_neg (nI_nlt hnk (by omega))) ?_
  refine pj_copyz (pc := 35) 5 q364 dJ14_copyOf_3_35 hm2 hq2 rfl (sp := 0) (dp := 0) (k := n) (by omega) (by omega) (by omega) (by omega) hel2 (by omega) (Nat.le_of_ble_eq_true rfl) ?_
  refine PJ.conv rfl rfl mset_m ?_
  refine pl_aload_n (pc := 38) dJ14_copyOf_3_38 rfl rfl ?_
  refine pj_aret (pc := 39) dJ14_copyOf_3_39 rfl (Or.inr ⟨_, rfl⟩) (Or.inr ⟨_, rfl⟩) ?_
  exact ⟨q, rfl, hq, gq, rfl⟩
set_option maxHeartbeats 600000 in
theorem k_J14_copyOf_2z {g : GP} {μ : Mem} {d : Nat} (hd : 3 ≤ d) {a n k : Nat} {f : Nat → Option Nat} (hm : μ a = some (lstA g n f)) (hel : ∀ i, i < n → ∀ y, f i = some y → ElZ g μ "java/lang/Object" y) (hnk : n ≤ k) (hk : k < 100000) : PM g yJ14_copyOf_2 (ws_ yJ14_copyOf_2 cJ14_copyOf_2 2 (some (.array (.object "java/lang/Object")))) d 1 k [.ref a, .int (nI k)] μ (fun o M => ∃ q : Nat, o = .inl (some (.ref q)) ∧ μ q = none ∧ gF g q ∧ M = mset μ q (lstA g k (va_cpy f (fun _ => none) 0 0 n))) := by
  refine PM.of (by decide +kernel) (Nat.le_of_ble_eq_true rfl) ?_
  refine PJ.ok (fun G => ?_)
  show PJ g _ _ _ _ d 1 k 0 [(0, .ref a), (1, .int (nI k))] [] _ _
  refine pl_aload_n (pc := 0) dJ14_copyOf_2_0 rfl rfl ?_
  refine pl_iload_n (pc := 1) dJ14_copyOf_2_1 rfl rfl ?_
  refine pl_aload_n (pc := 2) dJ14_copyOf_2_2 rfl rfl ?_
  obtain ⟨mi, hM⟩ := mirO G
  refine pj_getCO (pc := 3) hM q654 hm (by omega) (Nat.le_of_ble_eq_true rfl) dJ14_copyOf_2_3 ?_
  refine pl_callSQ (pc := 6) (As := [_, _, _]) (C2 := 0) (N2 := 0) mdJ14_copyOf_3 q697 q698 q141 dJ14_copyOf_2_6 rfl rfl (Nat.le_of_ble_eq_true rfl) (k_J14_copyOf_3z (d := d - 1) (by omega) hm hel hnk hk hM) (by omega) (Nat.le_refl _) (Nat.le_refl _) (fun q M hq => ?_)
  refine pj_aret (pc := 9) dJ14_copyOf_2_9 rfl (Or.inr ⟨_, rfl⟩) (Or.inr ⟨_, rfl⟩) ?_
  exact ⟨q, rfl, hq⟩
set_option maxHeartbeats 600000 in
theorem k_J2_grow_2z {g : GP} {μ : Mem} {d : Nat} (hd : 4 ≤ d) {a e n : Nat} {f : Nat → Option Nat} {mc : Int32} (hl : LstC g μ a e n n f mc) (hn1 : 1 ≤ n) (hn5 : n < 50000) (hel : ∀ i, i < n → ∀ y, f i = some y → ElZ g μ "java/lang/Object" y) : PM g yJ2_grow_2 (ws_ yJ2_grow_2 cJ2_grow_2 4 (some (.array (.object "java/lang/Object")))) d 1 (grN n) [.ref a, .int (nI (n + 1))] μ (fun o M => ∃ q : Nat, o = .inl (some (.ref q)) ∧ μ q = none ∧ gF g q ∧ M = mset (mset μ q (lstA g (grN n) (va_cpy f (fun _ => none) 0 0 n))) a (lstO mc q n)) := by
  refine PM.of (by decide +kernel) (Nat.le_of_ble_eq_true rfl) ?_
  refine PJ.ok (fun G => ?_)
  show PJ g _ _ _ _ d 1 (grN n) 0 [(0, .ref a), (1, .int (nI (n + 1)))] [] _ _
  obtain ⟨h1, h2, h3, h4⟩ := id hl
  refine pl_aload_n (pc := 0) dJ2_grow_2_0 rfl rfl ?_
  refine pj_getf (pc := 1) ckJ2 1 q550 dJ2_grow_2_1 (by decide) hl.1 rfl ?_
  refine pj_alen (pc := 4) 5 dJ2_grow_2_4 hl.2.1 rfl (v := nI n) rfl ?_
  refine pj_istore_n (pc := 5) (lv' := [(2, _), (0, _), (1, _)]) dJ2_grow_2_5 rfl (by decide) rfl ?_
  refine pl_iload_n (pc := 6) dJ2_grow_2_6 rfl rfl ?_
  refine pl_if_gtN (pc := 7) (tgt := 20) dJ2_grow_2_7 (by decide) (by omega) (fun c7 => ?_) (fun c7 => ?_)
  · refine pl_iload_n (pc := 20) dJ2_grow_2_20 rfl rfl ?_
    refine pl_iload_n (pc := 21) dJ2_grow_2_21 rfl rfl ?_
    refine pl_iload_n (pc := 22) dJ2_grow_2_22 rfl rfl ?_
    refine pl_isub (pc := 23) dJ2_grow_2_23 (by omega) ?_
    refine PJ.top (y := nI 1) (by rw [show n + 1 - n = 1 by omega]) ?_
    refine pl_iload_n (pc := 24) dJ2_grow_2_24 rfl rfl ?_
    refine pl_iconst (pc := 25) (v := 1) dJ2_grow_2_25 (by rfl) ?_
    refine pj_ishr (pc := 26) dJ2_grow_2_26 ?_
    refine PJ.top (y := nI (n / 2)) (shr1 (by omega)) ?_
    refine pl_callSd (pc := 27) (As := [_, _, _]) (C2 := 1) (N2 := grN n) mdJ12_newLength q650 q341 q139 dJ2_grow_2_27 rfl rfl (Nat.le_of_ble_eq_true rfl) (k_J12_newLength (d := d - 1) (by omega) (by omega) (by omega) (by omega) (by decide)) (by omega) (by omega) (by omega) ?_
    refine PJ.top (y := nI (grN n)) rfl ?_
    refine pj_istore_n (pc := 30) (lv' := [(3, _), (2, _), (0, _), (1, _)]) dJ2_grow_2_30 rfl (by decide) rfl ?_
    refine pl_aload_n (pc := 31) dJ2_grow_2_31 rfl rfl ?_
    refine pl_aload_n (pc := 32) dJ2_grow_2_32 rfl rfl ?_
    refine pj_getf (pc := 33) ckJ2 1 q550 dJ2_grow_2_33 (by decide) hl.1 rfl ?_
    refine pl_iload_n (pc := 36) dJ2_grow_2_36 rfl rfl ?_
    refine pl_callSQ (pc := 37) (As := [_, _]) (C2 := 0) (N2 := 0) mdJ14_copyOf_2 q651 q652 q141 dJ2_grow_2_37 rfl rfl (Nat.le_of_ble_eq_true rfl) (k_J14_copyOf_2z (d := d - 1) (by omega) hl.2.1 hel (Nat.le_of_lt (grN_in hn5).1) (grN_in hn5).2) (by omega) (Nat.le_refl _) (Nat.le_refl _) (fun q M hq => ?_)
    obtain ⟨hq, gq, rfl⟩ := hq
    have hqa : q ≠ a := fun z => by rw [z, hl.1] at hq; cases hq
    have h1 : (mset μ q (lstA g (grN n) (va_cpy f (fun _ => none) 0 0 n))) a = some (lstO mc e n) := by rw [mset_n (Ne.symm hqa)]; exact hl.1
    refine pj_dup_x1 (pc := 40) dJ2_grow_2_40 rfl rfl ?_
    refine pj_putf (pc := 41) ckJ2 1 q550 dJ2_grow_2_41 (by decide) rfl h1 rfl rfl (Nat.le_of_ble_eq_true rfl) ?_
    refine pj_aret (pc := 44) dJ2_grow_2_44 rfl (Or.inr ⟨_, rfl⟩) (Or.inr ⟨_, rfl⟩) ?_
    exact ⟨q, rfl, hq, gq, rfl⟩
  · exact absurd c7 (by omega)
set_option maxHeartbeats 600000 in
theorem k_J2_growz {g : GP} {μ : Mem} {d : Nat} (hd : 5 ≤ d) {a e n : Nat} {f : Nat → Option Nat} {mc : Int32} (hl : LstC g μ a e n n f mc) (hn1 : 1 ≤ n) (hn5 : n < 50000) (hel : ∀ i, i < n → ∀ y, f i = some y → ElZ g μ "java/lang/Object" y) : PM g yJ2_grow (ws_ yJ2_grow cJ2_grow 1 (some (.array (.object "java/lang/Object")))) d 1 (grN n) [.ref a] μ (fun o M => ∃ q : Nat, o = .inl (some (.ref q)) ∧ μ q = none ∧ gF g q ∧ M = mset (mset μ q (lstA g (grN n) (va_cpy f (fun _ => none) 0 0 n))) a (lstO mc q n)) := by
  refine PM.of (by decide +kernel) (Nat.le_of_ble_eq_true rfl) ?_
  refine PJ.ok (fun G => ?_)
  show PJ g _ _ _ _ d 1 (grN n) 0 [(0, .ref a)] [] _ _
  obtain ⟨h1, h2, h3, h4⟩ := id hl
  refine pl_aload_n (pc := 0) dJ2_grow_0 rfl rfl ?_
  refine pl_aload_n (pc := 1) dJ2_grow_1 rfl rfl ?_
  refine pj_getf (pc := 2) ckJ2 2 q551 dJ2_grow_2 (by decide) hl.1 rfl ?_
  refine pl_iconst (pc := 5) (v := 1) dJ2_grow_5 (by rfl) ?_
  refine pl_iadd (pc := 6) dJ2_grow_6 ?_
  refine pl_callVQ (pc := 7) (As := [_]) (C2 := 0) (N2 := 0) ckJ2 mdJ2_grow_2 rfl q644 q646 qs3 q129 dJ2_grow_7 rfl rfl (Nat.le_of_ble_eq_true rfl) hl.1 (k_J2_grow_2z (d := d - 1) (by omega) hl hn1 hn5 hel) (by omega) (Nat.le_refl _) (Nat.le_refl _) (fun q M hq => ?_)
  refine pj_aret (pc := 10) dJ2_grow_10 rfl (Or.inr ⟨_, rfl⟩) (Or.inr ⟨_, rfl⟩) ?_
  exact ⟨q, rfl, hq⟩
set_option maxHeartbeats 600000 in
theorem k_J2_add_2z {g : GP} {μ : Mem} {d : Nat} (hd : 1 ≤ d) {a e n m : Nat} {f : Nat → Option Nat} {mc : Int32} (hl : LstC g μ a e n m f mc) {p : Nat} (hv : ElZ g μ "java/lang/Object" p) (hnm : n < m) : PM g yJ2_add_2 (ws_ yJ2_add_2 cJ2_add_2 4 none) d 0 0 [.ref a, .ref p, .ref e, .int (nI n)] μ (rQ none (mset (mset μ a (lstO mc e (n + 1))) e (lstA g m (va_up f n (some p))))) := by
  refine PM.of (by decide +kernel) (Nat.le_of_ble_eq_true rfl) ?_
  refine PJ.ok (fun G => ?_)
  show PJ g _ _ _ _ d 0 0 0 [(0, .ref a), (1, .ref p), (2, .ref e), (3, .int (nI n))] [] _ _
  obtain ⟨h1, h2, h3, h4⟩ := id hl
  refine pl_iload_n (pc := 0) dJ2_add_2_0 rfl rfl ?_
  refine pl_aload_n (pc := 1) dJ2_add_2_1 rfl rfl ?_
  refine pj_alen (pc := 2) 5 dJ2_add_2_2 hl.2.1 rfl (v := nI m) rfl ?_
  refine pl_icmp_ne (pc := 3) (tgt := 11) dJ2_add_2_3 (by decide) (by omega) (by omega) (fun c3 => ?_) (fun c3 => ?_)
  · refine pl_aload_n (pc := 11) dJ2_add_2_11 rfl rfl ?_
    refine pl_iload_n (pc := 12) dJ2_add_2_12 rfl rfl ?_
    refine pl_aload_n (pc := 13) dJ2_add_2_13 rfl rfl ?_
    refine pl_astz (pc := 14) 5 dJ2_add_2_14 hl.2.1 rfl hv hnm (by omega) ?_
    have hl2 := hl.a (f1 := va_up f n (some p))
    refine pl_aload_n (pc := 15) dJ2_add_2_15 rfl rfl ?_
    refine pl_iload_n (pc := 16) dJ2_add_2_16 rfl rfl ?_
    refine pl_iconst (pc := 17) (v := 1) dJ2_add_2_17 (by rfl) ?_
    refine pl_iadd (pc := 18) dJ2_add_2_18 ?_
    refine pj_putf (pc := 19) ckJ2 2 q551 dJ2_add_2_19 (by decide) rfl hl2.1 rfl rfl (Nat.le_of_ble_eq_true rfl) ?_
    refine pj_vret (pc := 22) dJ2_add_2_22 rfl ?_
    exact ⟨rfl, (mset_c hl.ne).symm⟩
  · exact absurd c3 (by omega)
set_option maxHeartbeats 600000 in
theorem k_J2_addz {g : GP} {μ : Mem} {d : Nat} (hd : 2 ≤ d) {a e n m : Nat} {f : Nat → Option Nat} {mc : Int32} (hl : LstC g μ a e n m f mc) {p : Nat} (hv : ElZ g μ "java/lang/Object" p) (hnm : n < m) (hpa : p ≠ a) : PM g yJ2_add (ws_ yJ2_add cJ2_add 2 (some .boolean)) d 0 0 [.ref a, .ref p] μ (rQ (some (.int (nI 1))) (mset (mset μ a (lstO (mc + nI 1) e (n + 1))) e (lstA g m (va_up f n (some p))))) := by
  refine PM.of (by decide +kernel) (Nat.le_of_ble_eq_true rfl) ?_
  refine PJ.ok (fun G => ?_)
  show PJ g _ _ _ _ d 0 0 0 [(0, .ref a), (1, .ref p)] [] _ _
  obtain ⟨h1, h2, h3, h4⟩ := id hl
  refine pl_aload_n (pc := 0) dJ2_add_0 rfl rfl ?_
  refine pj_dup (pc := 1) dJ2_add_1 rfl ?_
  refine pj_getfS (pc := 2) ckJ2 0 q553 q554 dJ2_add_2 (by decide) hl.1 rfl ?_
  refine pl_iconst (pc := 5) (v := 1) dJ2_add_5 (by rfl) ?_
  refine pj_iadd (pc := 6) dJ2_add_6 ?_
  refine pj_putfS (pc := 7) ckJ2 0 q553 q554 dJ2_add_7 (by decide) rfl hl.1 rfl rfl (Nat.le_of_ble_eq_true rfl) ?_
  have hl1 : LstC g (mset μ a (lstO (mc + nI 1) e n)) a e n m f (mc + nI 1) := hl.o h3
  have hv1 : ElZ g (mset μ a (lstO (mc + nI 1) e n)) "java/lang/Object" p := hv.set (fun _ _ => hpa)
  refine pl_aload_n (pc := 10) dJ2_add_10 rfl rfl ?_
  refine pl_aload_n (pc := 11) dJ2_add_11 rfl rfl ?_
  refine pl_aload_n (pc := 12) dJ2_add_12 rfl rfl ?_
  refine pj_getf (pc := 13) ckJ2 1 q550 dJ2_add_13 (by decide) hl1.1 rfl ?_
  refine pl_aload_n (pc := 16) dJ2_add_16 rfl rfl ?_
  refine pj_getf (pc := 17) ckJ2 2 q551 dJ2_add_17 (by decide) hl1.1 rfl ?_
  refine pl_callVv (pc := 20) (As := [_, _, _]) (C2 := 0) (N2 := 0) ckJ2 mdJ2_add_2 rfl q636 q638 qs1 q129 dJ2_add_20 rfl rfl (Nat.le_of_ble_eq_true rfl) hl1.1 (k_J2_add_2z (d := d - 1) (by omega) hl1 hv1 hnm) (by omega) (by decide) (by decide) ?_
  refine pl_iconst (pc := 23) (v := 1) dJ2_add_23 (by rfl) ?_
  refine pj_zret (pc := 24) .boolean dJ2_add_24 rfl (by rfl) ?_
  exact ⟨rfl, by rw [mset_m]⟩
set_option maxHeartbeats 600000 in
theorem k_J2_add_2gz {g : GP} {μ : Mem} {d : Nat} (hd : 6 ≤ d) {a e n : Nat} {f : Nat → Option Nat} {mc : Int32} (hl : LstC g μ a e n n f mc) (hn1 : 1 ≤ n) (hn5 : n < 50000) (hel : ∀ i, i < n → ∀ y, f i = some y → ElZ g μ "java/lang/Object" y) {p : Nat} (hv : ElZ g μ "java/lang/Object" p) (hpa : p ≠ a) : PM g yJ2_add_2 (ws_ yJ2_add_2 cJ2_add_2 4 none) d 1 (grN n) [.ref a, .ref p, .ref e, .int (nI n)] μ (fun o M => ∃ q : Nat, o = .inl none ∧ μ q = none ∧ gF g q ∧ M = mset (mset μ a (lstO mc q (n + 1))) q (lstA g (grN n) (va_up (va_cpy f (fun _ => none) 0 0 n) n (some p)))) := by
  refine PM.of (by decide +kernel) (Nat.le_of_ble_eq_true rfl) ?_
  refine PJ.ok (fun G => ?_)
  show PJ g _ _ _ _ d 1 (grN n) 0 [(0, .ref a), (1, .ref p), (2, .ref e), (3, .int (nI n))] [] _ _
  obtain ⟨h1, h2, h3, h4⟩ := id hl
  refine pl_iload_n (pc := 0) dJ2_add_2_0 rfl rfl ?_
  refine pl_aload_n (pc := 1) dJ2_add_2_1 rfl rfl ?_
  refine pj_alen (pc := 2) 5 dJ2_add_2_2 hl.2.1 rfl (v := nI n) rfl ?_
  refine pl_icmp_ne (pc := 3) (tgt := 11) dJ2_add_2_3 (by decide) (by omega) (by omega) (fun c3 => ?_) (fun c3 => ?_)
  · exact absurd rfl c3
  · refine pl_aload_n (pc := 6) dJ2_add_2_6 rfl rfl ?_
    refine pl_callVQ (pc := 7) (As := []) (C2 := 0) (N2 := 0) ckJ2 mdJ2_grow rfl q640 q642 qs2 q129 dJ2_add_2_7 rfl rfl (Nat.le_of_ble_eq_true rfl) hl.1 (k_J2_growz (d := d - 1) (by omega) hl hn1 hn5 hel) (by omega) (Nat.le_refl _) (Nat.le_refl _) (fun q M hq => ?_)
    obtain ⟨hq, gq, rfl⟩ := hq
    have hg := grN_in hn5
    have hqa : q ≠ a := fun z => by rw [z, hl.1] at hq; cases hq
    have hl2 : LstC g (mset (mset μ q (lstA g (grN n) (va_cpy f (fun _ => none) 0 0 n))) a (lstO mc q n)) a q n (grN n) (va_cpy f (fun _ => none) 0 0 n) mc := ⟨mset_s, by rw [mset_n hqa]; exact mset_s, by omega, hg.2⟩
    have hv2 : ElZ g (mset (mset μ q (lstA g (grN n) (va_cpy f (fun _ => none) 0 0 n))) a (lstO mc q n)) "java/lang/Object" p := hv.two hq (fun _ _ => hpa)
    refine pj_astore_n (pc := 10) (lv' := [(2, _), (0, _), (1, _), (3, _)]) dJ2_add_2_10 rfl (by decide) rfl ?_
    refine pl_aload_n (pc := 11) dJ2_add_2_11 rfl rfl ?_
    refine pl_iload_n (pc := 12) dJ2_add_2_12 rfl rfl ?_
    refine pl_aload_n (pc := 13) dJ2_add_2_13 rfl rfl ?_
    refine pl_astz (pc := 14) 5 dJ2_add_2_14 hl2.2.1 rfl hv2 hg.1 (by omega) ?_
    have hl3 := hl2.a (f1 := va_up (va_cpy f (fun _ => none) 0 0 n) n (some p))
    refine pl_aload_n (pc := 15) dJ2_add_2_15 rfl rfl ?_
    refine pl_iload_n (pc := 16) dJ2_add_2_16 rfl rfl ?_
    refine pl_iconst (pc := 17) (v := 1) dJ2_add_2_17 (by rfl) ?_
    refine pl_iadd (pc := 18) dJ2_add_2_18 ?_
    refine pj_putf (pc := 19) ckJ2 2 q551 dJ2_add_2_19 (by decide) rfl hl3.1 rfl rfl (Nat.le_of_ble_eq_true rfl) ?_
    refine pj_vret (pc := 22) dJ2_add_2_22 rfl ?_
    exact ⟨q, rfl, hq, gq, by rw [mset_c hqa, mset_m, mset_c hqa, mset_m]; rfl⟩
set_option maxHeartbeats 600000 in
theorem k_J2_addgz {g : GP} {μ : Mem} {d : Nat} (hd : 7 ≤ d) {a e n : Nat} {f : Nat → Option Nat} {mc : Int32} (hl : LstC g μ a e n n f mc) (hn1 : 1 ≤ n) (hn5 : n < 50000) (hel : ∀ i, i < n → ∀ y, f i = some y → ElZ g μ "java/lang/Object" y) {p : Nat} (hv : ElZ g μ "java/lang/Object" p) (hpa : p ≠ a) (hea : ∀ i, i < n → ∀ y, f i = some y → y ≠ a) : PM g yJ2_add (ws_ yJ2_add cJ2_add 2 (some .boolean)) d 1 (grN n) [.ref a, .ref p] μ (fun o M => ∃ q : Nat, o = .inl (some (.int (nI 1))) ∧ μ q = none ∧ gF g q ∧ M = mset (mset μ a (lstO (mc + nI 1) q (n + 1))) q (lstA g (grN n) (va_up (va_cpy f (fun _ => none) 0 0 n) n (some p)))) := by
  refine PM.of (by decide +kernel) (Nat.le_of_ble_eq_true rfl) ?_
  refine PJ.ok (fun G => ?_)
  show PJ g _ _ _ _ d 1 (grN n) 0 [(0, .ref a), (1, .ref p)] [] _ _
  obtain ⟨h1, h2, h3, h4⟩ := id hl
  refine pl_aload_n (pc := 0) dJ2_add_0 rfl rfl ?_
  refine pj_dup (pc := 1) dJ2_add_1 rfl ?_
  refine pj_getfS (pc := 2) ckJ2 0 q553 q554 dJ2_add_2 (by decide) hl.1 rfl ?_
  refine pl_iconst (pc := 5) (v := 1) dJ2_add_5 (by rfl) ?_
  refine pj_iadd (pc := 6) dJ2_add_6 ?_
  refine pj_putfS (pc := 7) ckJ2 0 q553 q554 dJ2_add_7 (by decide) rfl hl.1 rfl rfl (Nat.le_of_ble_eq_true rfl) ?_
  have hl1 : LstC g (mset μ a (lstO (mc + nI 1) e n)) a e n n f (mc + nI 1) := hl.o h3
  have hv1 : ElZ g (mset μ a (lstO (mc + nI 1) e n)) "java/lang/Object" p := hv.set (fun _ _ => hpa)
  have hel1 : ∀ i, i < n → ∀ y, f i = some y → ElZ g (mset μ a (lstO (mc + nI 1) e n)) "java/lang/Object" y := fun i hi y hy => (hel i hi y hy).set (fun _ _ => hea i hi y hy)
  refine pl_aload_n (pc := 10) dJ2_add_10 rfl rfl ?_
  refine pl_aload_n (pc := 11) dJ2_add_11 rfl rfl ?_
  refine pl_aload_n (pc := 12) dJ2_add_12 rfl rfl ?_
  refine pj_getf (pc := 13) ckJ2 1 q550 dJ2_add_13 (by decide) hl1.1 rfl ?_
  refine pl_aload_n (pc := 16) dJ2_add_16 rfl rfl ?_
  refine pj_getf (pc := 17) ckJ2 2 q551 dJ2_add_17 (by decide) hl1.1 rfl ?_
  refine pl_callVQn (pc := 20) (As := [_, _, _]) (C2 := 0) (N2 := 0) ckJ2 mdJ2_add_2 rfl q636 q638 qs1 q129 dJ2_add_20 rfl rfl (Nat.le_of_ble_eq_true rfl) hl1.1 (k_J2_add_2gz (d := d - 1) (by omega) hl1 hn1 hn5 hel1 hv1 hpa) (by omega) (Nat.le_refl _) (Nat.le_refl _) (fun q M hq => ?_)
  obtain ⟨hq, gq, rfl⟩ := hq
  have hqa : q ≠ a := fun z => by rw [z, mset_s] at hq; cases hq
  have hq0 : μ q = none := by rw [mset_n hqa] at hq; exact hq
  refine pl_iconst (pc := 23) (v := 1) dJ2_add_23 (by rfl) ?_
  refine pj_zret (pc := 24) .boolean dJ2_add_24 rfl (by rfl) ?_
  exact ⟨q, rfl, hq0, gq, by rw [mset_m]⟩
section AL
variable {g : GP} {own : String} {cc : ByteArray} {nL : Nat} {i : MI} {d C N pc : Nat} {ls : List (Nat × Value)} {rest : List Value} {μ : Mem} {Q : OC → Mem → Prop}
/-- whatever is in the memory lies where the start's heap does not -/
theorem PJ.gf {st : List Value} (k : (∀ a e, μ a = some e → gF g a) → PJ g own cc nL i d C N pc ls st μ Q) : PJ g own cc nL i d C N pc ls st μ Q := by
  intro G p e R s m args below meth c E9 H locs cells slots K K9 B arr hl9
  exact k (fun a x hx => (B.2.2.2.2.1 a x hx).1) G p e R s m args below meth c E9 H locs cells slots K K9 B arr hl9
/-- ArrayList.add, whether it grows or not -/
theorem pl_addZ {a e n m p index C1 N1 : Nat} {f : Nat → Option Nat} {mc : Int32} (h1 : Cond.methodLink own index (⟨"java/util/ArrayList", "add", "(Ljava/lang/Object;)Z"⟩ : MethodName) ∈ lw_all) (hdg : decode cc pc = .ok (.invokevirtual index, 3)) (hd : 8 ≤ d) (hl : LstC g μ a e n m f mc) (hn : n ≤ 100) (hm : 1 ≤ m ∧ m < 1000) (hf : ∀ j, n ≤ j → f j = none) (hel : ∀ i, i < n → ∀ y, f i = some y → ElZ g μ "java/lang/Object" y) (hv : ElZ g μ "java/lang/Object" p) (hpa : p ≠ a) (hea : ∀ i, i < n → ∀ y, f i = some y → y ≠ a) (hr8 : (rest.map fun v => v.category).sum ≤ 8) (hC : C1 + 1 ≤ C) (hN : N1 + 151 ≤ N)
    (kk : ∀ (q2 m1 : Nat) (mc1 : Int32), (q2 = e ∨ μ q2 = none) → n + 1 ≤ m1 → m1 < 1000 → PJ g own cc nL i d C1 N1 (pc + 3) ls (.int (nI 1) :: rest) (mset (mset μ q2 (lstA g m1 (fun j => if j < n then f j else if j = n then some p else none))) a (lstO mc1 q2 (n + 1))) Q) : PJ g own cc nL i d C N pc ls (.ref p :: .ref a :: rest) μ Q := by
  by_cases hnm : n < m
  · refine PJ.widen (C1 := C1) (N1 := N1) (by omega) (by omega) ?_
    refine pl_callVd (As := [.ref p]) (C1 := 0) (N1 := 0) (C2 := C1) (N2 := N1) ckJ2 mdJ2_add rfl h1 q633 q634 q129 hdg rfl rfl hr8 hl.1 (k_J2_addz (d := d - 1) (by omega) hl hv hnm hpa) (by omega) (by omega) (by omega) ?_
    rw [lst_keep (g := g) (m := m) hf, mset_c hl.ne]
    exact kk e m (mc + nI 1) (Or.inl rfl) hnm hm.2
  · have e1 : m = n := by have := hl.2.2.1; omega
    subst e1
    have hg : grN m ≤ 151 := by unfold grN; split <;> omega
    have hg2 : m + 1 ≤ grN m := by unfold grN; split <;> omega
    refine pj_callV (As := [.ref p]) (C1 := 1) (N1 := grN m) (C2 := C1) (N2 := N1) ckJ2 mdJ2_add rfl h1 q633 q634 q129 hdg rfl rfl hr8 hl.1 (k_J2_addgz (d := d - 1) (by omega) hl hm.1 (by omega) hel hv hpa hea) (by omega) (by omega) (by omega) (fun v M hq => ?_) (fun E9 q M hq => ?_)
    · obtain ⟨q, e2, hq0, -, rfl⟩ := hq
      cases e2
      have hqa : a ≠ q := fun z => by rw [← z, hl.1] at hq0; cases hq0
      rw [lst_grow (g := g), mset_c hqa]
      exact kk q (grN m) (mc + nI 1) (Or.inr hq0) hg2 (by omega)
    · obtain ⟨q1, e2, -⟩ := hq
      cases e2
end AL
theorem st_high {g : GP} (G : OkG g) : va_Z "java/lang/Integer$IntegerCache" "high" "I" (.int 127) (gF g) (gS g) (gS g).heap := va_Zof (G_tbl G q1756) (G_tbl G (lw_all_tbl q163)) (va_eqi (nr_leaf G [2, 2, 4] (by decide +kernel))) (gF_out g)
theorem ic_start {g : GP} (G : OkG g) : ∃ (t : Nat) (ad : Nat → Nat), va_Z "java/lang/Integer$IntegerCache" "cache" "[Ljava/lang/Integer;" (.ref t) (gF g) (gS g) (gS g).heap ∧ va_T (.object "java/lang/Integer") t 256 (fun j => .ref (ad j)) (gF g) (gS g) (gS g).heap ∧ vb_C ad (gF g) (gS g) (gS g).heap := by
  have hl : (Term.length (.static "java/lang/Integer$IntegerCache" "cache" "[Ljava/lang/Integer;")).eval #[Value.ref (gb g)] (gS g) none [] (gS g) = some (.int (Int32.ofNat 256)) := va_eqt (nr_leaf G [2, 2, 2, 1] (by decide +kernel))
  obtain ⟨ad, hC, hel⟩ := vb_Cof (args := #[Value.ref (gb g)]) (s := gS g) (A := gF g) (st := .static "java/lang/Integer$IntegerCache" "cache" "[Ljava/lang/Integer;") (by decide) hl (nr_leaf G [2, 2, 2, 0, 1] (by decide +kernel)) (gF_out g)
  obtain ⟨t, ht, hT⟩ := va_Tof (ty := .object "java/lang/Integer") (args := #[Value.ref (gb g)]) (s := gS g) (A := gF g) (N := 256) (f := fun j => .ref (ad j)) (by decide) (nr_leaf G [2, 2, 3, 0, 0] (by decide +kernel)) hl hel (gF_out g)
  exact ⟨t, ad, va_Zref (G_tbl G q1758) (G_tbl G (lw_all_tbl q163)) ht (gF_out g), hT, hC⟩
section KI
variable {g : GP} {own : String} {cc : ByteArray} {nL : Nat} {i : MI} {d C N pc : Nat} {ls : List (Nat × Value)} {rest : List Value} {μ : Mem} {Q : OC → Mem → Prop}
theorem pj_aaldK {C9 : String} {t n j : Nat} {f : Nat → Value} {v : Value} (hT : va_T (.object C9) t n f (gF g) (gS g) (gS g).heap) (hj : j < n) (hn : n < 2147483648) (hv : f j = v) (hdg : decode cc pc = .ok (.aaload, 1)) (kk : PJ g own cc nL i d C N (pc + 1) ls (v :: rest) μ Q) : PJ g own cc nL i d C N pc ls (.int (nI j) :: .ref t :: rest) μ Q :=
  fun G p e R s m args below meth c E H locs cells slots K K9 B arr hl9 => vb_tq E.1 E.2.1 ((hT.moved E.2.2.2.2.2.2.2.2.2.1.1.alike).kept (fun a ha _ => E.2.2.2.2.2.2.2.2.2.1.2.2 a ha)) B.2.2.2.2.2 (vp_in_nI hj hn) (by rw [nI_clamp (Nat.lt_trans hj hn)]; exact hv) hdg (kk G p e R s m args below meth c E H locs cells slots K K9 B arr hl9)
end KI
theorem dfJ18 : ∀ j, j < 1 → defaultValue (tyJ18 j) = vp_V [.int 0] j := fun j hj => by
  match j, hj with
  | 0, _ => rfl
theorem vb_cn {n : Nat} : vb_c (n + 128) = nI n := by
  show nI (n + 128) - 128 = nI n
  rw [← nI_add, show nI 128 = (128 : Int32) from rfl]
  exact Int32.add_sub_cancel _ _
theorem k_J17_init {g : GP} {μ : Mem} {d : Nat} (hd : 1 ≤ d) {q : Nat} : PM g yJ17_init (ws_ yJ17_init cJ17_init 1 none) d 0 0 [.ref q] μ (rQ none μ) := by
  refine PM.of (by decide +kernel) (Nat.le_of_ble_eq_true rfl) ?_
  refine PJ.ok (fun G => ?_)
  show PJ g _ _ _ _ d 0 0 0 [(0, .ref q)] [] _ _
  refine pl_aload_n (pc := 0) dJ17_init_0 rfl rfl ?_
  refine pj_objInit (pc := 1) q1766 q187 q188 dJ17_init_1 (by omega) (by decide) ?_
  refine pj_vret (pc := 4) dJ17_init_4 rfl ?_
  exact ⟨rfl, rfl⟩
theorem k_J18_init {g : GP} {μ : Mem} {d : Nat} (hd : 2 ≤ d) {q : Nat} {v x9 : Int32} (hm : μ q = some (.inr (1, [.int x9]))) : PM g yJ18_init (ws_ yJ18_init cJ18_init 2 none) d 0 0 [.ref q, .int v] μ (rQ none (mset μ q (.inr (1, [.int v])))) := by
  refine PM.of (by decide +kernel) (Nat.le_of_ble_eq_true rfl) ?_
  refine PJ.ok (fun G => ?_)
  show PJ g _ _ _ _ d 0 0 0 [(0, .ref q), (1, .int v)] [] _ _
  refine pl_aload_n (pc := 0) dJ18_init_0 rfl rfl ?_
  refine pl_callIv (pc := 1) (As := []) (C1 := 0) (N1 := 0) (C2 := 0) (N2 := 0) mdJ17_init rfl q1763 q1764 q145 dJ18_init_1 rfl rfl (Nat.le_of_ble_eq_true rfl) (k_J17_init (d := d - 1) (by omega)) (by omega) (by omega) (by omega) ?_
  refine pl_aload_n (pc := 4) dJ18_init_4 rfl rfl ?_
  refine pl_iload_n (pc := 5) dJ18_init_5 rfl rfl ?_
  refine pj_putfF (pc := 6) ckJ18 0 q1767 dJ18_init_6 (by decide) rfl rfl rfl hm rfl rfl (Nat.le_of_ble_eq_true rfl) ?_
  refine pj_vret (pc := 9) dJ18_init_9 rfl ?_
  exact ⟨rfl, rfl⟩
/-- Integer.valueOf: of the cache, or made -/
theorem k_J18_valueOf {g : GP} {μ : Mem} {d : Nat} (hd : 3 ≤ d) {n : Nat} (hn : n < 2147483000) : PM g yJ18_valueOf (ws_ yJ18_valueOf cJ18_valueOf 1 (some (.object "java/lang/Integer"))) d 1 1 [.int (nI n)] μ (fun o M => ∃ q : Nat, o = .inl (some (.ref q)) ∧ ((M = μ ∧ IcX g q (nI n)) ∨ (μ q = none ∧ M = mset μ q (.inr (1, [.int (nI n)]))))) := by
  refine PM.of (by decide +kernel) (Nat.le_of_ble_eq_true rfl) ?_
  refine PJ.ok (fun G => ?_)
  show PJ g _ _ _ _ d 1 1 0 [(0, .int (nI n))] [] _ _
  obtain ⟨t, ad, hZ, hT, hC⟩ := ic_start G
  refine pl_iload_n (pc := 0) dJ18_valueOf_0 rfl rfl ?_
  refine pj_bipush (pc := 1) (v := -128) dJ18_valueOf_1 (by rfl) ?_
  refine pj_icmp_lt (pc := 3) (tgt := 23) dJ18_valueOf_3 (by decide) (fun c => absurd c (Int32.not_lt.mpr (Int32.le_trans (by decide) (nI_pos' (by omega))))) (fun c => ?_)
  refine pl_iload_n (pc := 6) dJ18_valueOf_6 rfl rfl ?_
  refine pj_gets (pc := 7) (st_high G) q1755 dJ18_valueOf_7 ?_
  refine pj_icmp_gt (pc := 10) (tgt := 23) dJ18_valueOf_10 (by decide) (fun c => ?_) (fun c => ?_)
  · refine pj_new (pc := 23) (C1 := 0) (N1 := 0) ckJ18 q1648 q1759 q146 dJ18_valueOf_23 [.int 0] dfJ18 (by omega) (by omega) (fun q hq gq => ?_)
    refine pj_dup (pc := 26) dJ18_valueOf_26 rfl ?_
    refine pl_iload_n (pc := 27) dJ18_valueOf_27 rfl rfl ?_
    refine pl_callIv (pc := 28) (As := [.int (nI n)]) (C1 := 0) (N1 := 0) (C2 := 0) (N2 := 0) mdJ18_init rfl q1760 q1761 q146 dJ18_valueOf_28 rfl rfl (Nat.le_of_ble_eq_true rfl) (k_J18_init (d := d - 1) (by omega) mset_s) (by omega) (by omega) (by omega) ?_
    refine PJ.mem mset_m ?_
    refine pj_aret (pc := 31) dJ18_valueOf_31 rfl (Or.inl ⟨_, rfl⟩) (Or.inr ⟨_, rfl⟩) ?_
    exact ⟨q, rfl, Or.inr ⟨hq, rfl⟩⟩
  · have hlt : n < 128 := by
      have c2 : ¬ nI 127 < nI n := c
      have c3 := Int32.not_lt.mp c2
      have c4 := (nI_leI (by omega) (by decide)).mp c3
      omega
    refine pj_gets (pc := 13) hZ q1757 dJ18_valueOf_13 ?_
    refine pl_iload_n (pc := 16) dJ18_valueOf_16 rfl rfl ?_
    refine pl_sipush (pc := 17) (v := 128) dJ18_valueOf_17 (by rfl) ?_
    refine pl_iadd (pc := 20) dJ18_valueOf_20 ?_
    refine pj_aaldK (pc := 21) hT (show n + 128 < 256 by omega) (by decide) rfl dJ18_valueOf_21 ?_
    refine pj_aret (pc := 22) dJ18_valueOf_22 rfl (Or.inl ⟨_, rfl⟩) (Or.inr ⟨_, rfl⟩) ?_
    refine ⟨ad (n + 128), rfl, Or.inl ⟨rfl, hC.1 _ (by omega), ?_⟩⟩
    have h2 : va_OF "java/lang/Integer" "value" "I" (.int (vb_c (n + 128))) (ad (n + 128)) (gF g) (gS g) (gS g).heap := hC.2 (n + 128) (by omega)
    rw [vb_cn] at h2
    exact h2
theorem k_J18_intValue {g : GP} {μ : Mem} {d q : Nat} {v : Int32} (hm : μ q = some (.inr (1, [.int v]))) : PM g yJ18_intValue (ws_ yJ18_intValue cJ18_intValue 1 (some .int)) d 0 0 [.ref q] μ (rQ (some (.int v)) μ) := by
  refine PM.of (by decide +kernel) (Nat.le_of_ble_eq_true rfl) ?_
  refine PJ.ok (fun G => ?_)
  show PJ g _ _ _ _ d 0 0 0 [(0, .ref q)] [] _ _
  refine pl_aload_n (pc := 0) dJ18_intValue_0 rfl rfl ?_
  refine pj_getf (pc := 1) ckJ18 0 q1767 dJ18_intValue_1 (by decide) hm rfl ?_
  refine pj_iret (pc := 4) dJ18_intValue_4 rfl ?_
  exact ⟨rfl, rfl⟩
theorem k_J18_intValueK {g : GP} {μ : Mem} {d q : Nat} {v : Int32} (hq : IcX g q v) : PM g yJ18_intValue (ws_ yJ18_intValue cJ18_intValue 1 (some .int)) d 0 0 [.ref q] μ (rQ (some (.int v)) μ) := by
  refine PM.of (by decide +kernel) (Nat.le_of_ble_eq_true rfl) ?_
  refine PJ.ok (fun G => ?_)
  show PJ g _ _ _ _ d 0 0 0 [(0, .ref q)] [] _ _
  refine pl_aload_n (pc := 0) dJ18_intValue_0 rfl rfl ?_
  refine pj_getfK (pc := 1) hq.2 q1767 dJ18_intValue_1 ?_
  refine pj_iret (pc := 4) dJ18_intValue_4 rfl ?_
  exact ⟨rfl, rfl⟩
