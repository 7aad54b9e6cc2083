set_option maxRecDepth 100000
section OWF
variable {l : Launch}
theorem vx_ofWF {y : MethodName} {ws ws' : List Cond} {rm : Room} {Pc : Array Value → State → Prop} {Qc : Array Value → State → Outcome → State → Prop} {XC : String → Addr → State → State → Prop} {mc ms : Nat} {free : Addr → Prop} {cc : ByteArray} {maxL : Nat} {ret : Option FieldType}
    (hy : plainFor y = true) (hw : ws = Cond.code y cc maxL ret :: ws')
    (body : ∀ p e s m args below meth c s₁, BodyLoose p l y (headSpec ws rm) cc maxL ret e s m args below meth c s₁ → c.maxLocals = maxL → (∀ x ∈ c.exceptionTable.toList, False) → Pc args s →
      W p l e (headSpec ws rm).room s m args below meth c s.heap [] 0 0 (vx_MQ below Qc XC args s mc ms free) (entryFrame m args maxL)) : vx_Met l y ws rm Pc Qc XC mc ms free := by
  refine MetFree.of_bodySF (code := cc) (maxLocals := maxL) (ret := ret) hy ?_ ?_
  · intro args s m h hn
    obtain ⟨meth, c, h1, h2, h3, h4, h5, h6, -, -⟩ := Cond.code_spec hn (atoms_spec (ws := ws) h _ (by rw [hw]; exact List.mem_cons_self))
    exact ⟨meth, c, h1, h2, h3, h4, h5, h6⟩
  · intro p e s m args below meth c s₁ B hml hP _
    have hh0 : s₁.heap = s.heap := by rw [B.state]; rfl
    have ht : ∀ x ∈ c.exceptionTable.toList, False := by
      obtain ⟨meth9, c9, h1, h2, -, -, -, -, h7, -⟩ := Cond.code_spec B.named (atoms_spec (ws := ws) B.pre _ (by rw [hw]; exact List.mem_cons_self))
      cases Option.some.inj (h1.symm.trans B.method)
      cases Option.some.inj (h2.symm.trans (Stand.of_body B).code)
      intro x hx
      rw [Array.isEmpty_iff.mp h7] at hx
      cases hx
    obtain ⟨t, a1, o, b1, b2, b3⟩ := body p e s m args below meth c s₁ B hml ht hP s₁ hh0 (Stand.of_body B)
    exact ⟨t, o, a1, b1, b2, b3⟩
end OWF
theorem PM.ofF {g : GP} {y : MethodName} {cc : ByteArray} {nL d C N : Nat} {ret : Option FieldType} {av : List Value} {μ : Mem} {Q : OC → Mem → Prop} (hy : plainFor y = true) (hlen : (lg_sl av).length ≤ nL)
    (k : PJ g y.cls cc nL (ret, y.name, []) d C N 0 (lv_args 0 av) [] μ Q) : PM g y (ws_ y cc nL ret) d C N av μ Q := by
  intro G
  refine vx_ofWF hy rfl ?_
  intro p e s m args below meth c s₁ B hml htab hv
  obtain ⟨rfl, hsim, hwk⟩ := hv
  have hts := atoms_spec (ws := ws_ y cc nL ret) B.pre
  rw [lg_entry_eq]
  refine k G p e _ s m _ below meth c ⟨B.exec, B.bytes, hml, findClass_of_methodNamed B.named, fun w h => hts w (List.mem_cons_of_mem _ h), B.returns, B.notSynchronized, (name_of_methodNamed B.named B.method).1, ?_, hwk, rfl, rfl⟩ s.heap [] 0 0 C N ⟨by omega, Nat.le_refl _, by omega, Nat.le_refl _, hsim, va_S.rf⟩ _ (lv_entry av hlen)
  cases hq : c.exceptionTable.toList with
  | nil => rfl
  | cons x l => exact (htab x (by rw [hq]; exact List.mem_cons_self)).elim
def fstI (p : Nat → Bool) : Nat → Int32
  | 0 => -1
  | n + 1 => if 0 ≤ fstI p n then fstI p n else if p n = true then nI n else -1
theorem fstI_no {p : Nat → Bool} {i : Nat} (h : fstI p i = -1) (hp : p i = false) : fstI p (i + 1) = -1 := by
  simp only [fstI]
  rw [h, if_neg (show ¬ (0 : Int32) ≤ -1 by decide), hp, if_neg (by decide)]
theorem fstI_hit {p : Nat → Bool} {i : Nat} (h : fstI p i = -1) (hp : p i = true) (hi : i < 2147483648) : ∀ k, fstI p (i + 1 + k) = nI i
  | 0 => by
    show fstI p (i + 1) = _
    simp only [fstI]
    rw [h, if_neg (show ¬ (0 : Int32) ≤ -1 by decide), hp, if_pos rfl]
  | k + 1 => by
    have e := fstI_hit h hp hi k
    show fstI p ((i + 1 + k) + 1) = _
    simp only [fstI]
    rw [e, if_pos (nI_pos' (by omega))]
theorem fstI_any {p : Nat → Bool} : ∀ {n : Nat}, n < 2147483648 → (fstI p n = -1 ∧ anyN p n = false) ∨ (¬ fstI p n < 0 ∧ anyN p n = true)
  | 0, _ => Or.inl ⟨rfl, rfl⟩
  | n + 1, hn => by
    rcases fstI_any (p := p) (n := n) (by omega) with ⟨h1, h2⟩ | ⟨h1, h2⟩
    · cases hp : p n with
      | false => exact Or.inl ⟨fstI_no h1 hp, anyN_up h2 hp⟩
      | true =>
        refine Or.inr ⟨?_, anyN_hit (i := n) (by omega) hp⟩
        rw [show n + 1 = n + 1 + 0 from rfl, fstI_hit h1 hp (by omega) 0]
        exact Int32.not_lt.mpr (nI_pos' (by omega))
    · refine Or.inr ⟨?_, ?_⟩
      · simp only [fstI]
        rw [if_pos (Int32.not_lt.mp h1)]
        exact h1
      · unfold anyN
        rw [h2]
        rfl
set_option maxHeartbeats 600000 in
theorem k_J24_equals {g : GP} {μ : Mem} {d : Nat} (hd : 1 ≤ d) {a c : Nat} : PM g yJ24_equals (ws_ yJ24_equals cJ24_equals 2 (some .boolean)) d 0 0 [.ref a, .ref c] μ (rQ (some (.int (bI (decide (a = c))))) μ) := by
  refine PM.ofF (by decide +kernel) (Nat.le_of_ble_eq_true rfl) ?_
  refine PJ.ok (fun G => ?_)
  show PJ g _ _ _ _ d 0 0 0 [(0, .ref a), (1, .ref c)] [] _ _
  refine pl_aload_n (pc := 0) dJ24_equals_0 rfl rfl ?_
  refine pl_aload_n (pc := 1) dJ24_equals_1 rfl rfl ?_
  by_cases hac : a = c
  · subst hac
    refine pj_acmp_ne (pc := 2) (tgt := 9) (rx := some a) (ry := some a) dJ24_equals_2 (by decide) (fun z => absurd rfl z) (fun _ => ?_)
    refine pl_iconst (pc := 5) (v := 1) dJ24_equals_5 (by rfl) ?_
    refine pj_goto (pc := 6) (tgt := 10) dJ24_equals_6 (by decide) ?_
    refine pj_zret (pc := 10) .boolean dJ24_equals_10 rfl (by rfl) ?_
    have e9 : decide (a = a) = true := decide_eq_true rfl
    rw [e9]
    exact ⟨rfl, rfl⟩
  · refine pj_acmp_ne (pc := 2) (tgt := 9) (rx := some a) (ry := some c) dJ24_equals_2 (by decide) (fun _ => ?_) (fun z => absurd (Option.some.inj z) hac)
    refine pl_iconst (pc := 9) (v := 0) dJ24_equals_9 (by rfl) ?_
    refine pj_zret (pc := 10) .boolean dJ24_equals_10 rfl (by rfl) ?_
    rw [decide_eq_false hac]
    exact ⟨rfl, rfl⟩
set_option maxHeartbeats 600000 in
theorem k_J2_indexOfRange {g : GP} {μ : Mem} {d : Nat} (hd : 2 ≤ d) {a e n m : Nat} {f : Nat → Option Nat} {mc : Int32} (hl : LstC g μ a e n m f mc) {p : Nat} {vs : List Value} (hv : μ p = some (.inr (12, vs))) (hel : ∀ i, i < n → ∃ y, f i = some y) : PM g yJ2_indexOfRange (ws_ yJ2_indexOfRange cJ2_indexOfRange 6 (some .int)) d 0 0 [.ref a, .ref p, .int (nI 0), .int (nI n)] μ (rQ (some (.int (fstI (fun i => decide (f i = some p)) n))) μ) := by
  refine PM.of (by decide +kernel) (Nat.le_of_ble_eq_true rfl) ?_
  refine PJ.ok (fun G => ?_)
  show PJ g _ _ _ _ d 0 0 0 [(0, .ref a), (1, .ref p), (2, .int (nI 0)), (3, .int (nI n))] [] _ _
  obtain ⟨h1, h2, h3, h4⟩ := id hl
  refine pl_aload_n (pc := 0) dJ2_indexOfRange_0 rfl rfl ?_
  refine pj_getf (pc := 1) ckJ2 1 q550 dJ2_indexOfRange_1 (by decide) hl.1 rfl ?_
  refine pj_astore (pc := 4) (lv' := [(4, _), (0, _), (1, _), (2, _), (3, _)]) dJ2_indexOfRange_4 (by decide) rfl ?_
  refine pl_aload_n (pc := 6) dJ2_indexOfRange_6 rfl rfl ?_
  refine pj_ifnonnull (pc := 7) (tgt := 39) dJ2_indexOfRange_7 (by decide) ?_
  refine pl_iload_n (pc := 39) dJ2_indexOfRange_39 rfl rfl ?_
  refine pj_istore (pc := 40) (lv' := [(5, _), (4, _), (0, _), (1, _), (2, _), (3, _)]) dJ2_indexOfRange_40 (by decide) rfl ?_
  refine PJ.sub [0, 1, 5, 3, 2] rfl ?_
  refine ind_dn (n := n) (P := fun i => ∀ M9, μ = M9 → fstI (fun i => decide (f i = some p)) i = -1 → PJ g _ _ _ _ d 0 0 42 [(5, .int (nI i)), (4, .ref e), (3, .int (nI n)), (1, .ref p), (0, .ref a)] [] M9 _) (fun i hi ih M9 e9 hs => ?_) 0 (Nat.zero_le _) _ rfl rfl
  subst e9
  refine pl_iload (pc := 42) dJ2_indexOfRange_42 rfl ?_
  refine pl_iload_n (pc := 44) dJ2_indexOfRange_44 rfl rfl ?_
  refine pl_icmp_ge (pc := 45) (tgt := 69) dJ2_indexOfRange_45 (by decide) (by omega) (by omega) (fun c45 => ?_) (fun c45 => ?_)
  · refine pj_iconst (pc := 69) (v := (-1)) dJ2_indexOfRange_69 (by rfl) ?_
    refine pj_iret (pc := 70) dJ2_indexOfRange_70 rfl ?_
    have ei : i = n := by omega
    subst ei
    rw [hs]
    exact ⟨rfl, rfl⟩
  · refine pl_aload_n (pc := 48) dJ2_indexOfRange_48 rfl rfl ?_
    refine pl_aload (pc := 49) dJ2_indexOfRange_49 rfl ?_
    refine pl_iload (pc := 51) dJ2_indexOfRange_51 rfl ?_
    obtain ⟨y_53, hy_53⟩ := hel i (by omega)
    refine pl_aldO (pc := 53) dJ2_indexOfRange_53 hl.2.1 (by omega) (by omega) ?_
    rw [hy_53]
    show PJ g _ _ _ _ d _ _ 54 _ (.ref y_53 :: _) _ _
    refine pl_callOd (pc := 54) (As := [_]) (C1 := 0) (N1 := 0) (C2 := 0) (N2 := 0) ckX10 mdJ24_equals (lk_all q1609) (lk_all q1611) (dcl_t q1608) (by decide) q1628 q1610 q3219 dJ2_indexOfRange_54 rfl rfl (Nat.le_of_ble_eq_true rfl) hv (k_J24_equals (d := d - 1) (by omega)) (by omega) (by omega) (by omega) ?_
    refine pl_if_eqB (pc := 57) (tgt := 63) dJ2_indexOfRange_57 (by decide) (fun c57 => ?_) (fun c57 => ?_)
    · refine pl_iinc1 (pc := 63) (lv' := [(5, _), (4, _), (3, _), (1, _), (0, _)]) dJ2_indexOfRange_63 rfl rfl (by decide) rfl ?_
      refine pj_goto (pc := 66) (tgt := 42) dJ2_indexOfRange_66 (by decide) ?_
      exact ih (by omega) _ rfl (fstI_no hs (decide_eq_false (fun z => absurd (Option.some.inj (hy_53.symm.trans z)).symm (of_decide_eq_false c57))))
    · refine pl_iload (pc := 60) dJ2_indexOfRange_60 rfl ?_
      refine pj_iret (pc := 62) dJ2_indexOfRange_62 rfl ?_
      have e9 : fstI (fun i => decide (f i = some p)) n = nI i := by
        have h9 := fstI_hit (p := fun i => decide (f i = some p)) hs (decide_eq_true (hy_53.trans (congrArg some (of_decide_eq_true c57).symm))) (by omega) (n - (i + 1))
        rw [show i + 1 + (n - (i + 1)) = n by omega] at h9
        exact h9
      rw [e9]
      exact ⟨rfl, rfl⟩
set_option maxHeartbeats 600000 in
theorem k_J2_indexOf {g : GP} {μ : Mem} {d : Nat} (hd : 3 ≤ d) {a e n m : Nat} {f : Nat → Option Nat} {mc : Int32} (hl : LstC g μ a e n m f mc) {p : Nat} {vs : List Value} (hv : μ p = some (.inr (12, vs))) (hel : ∀ i, i < n → ∃ y, f i = some y) : PM g yJ2_indexOf (ws_ yJ2_indexOf cJ2_indexOf 2 (some .int)) d 0 0 [.ref a, .ref p] μ (rQ (some (.int (fstI (fun i => decide (f i = some p)) n))) μ) := by
  refine PM.of (by decide +kernel) (Nat.le_of_ble_eq_true rfl) ?_
  refine PJ.ok (fun G => ?_)
  show PJ g _ _ _ _ d 0 0 0 [(0, .ref a), (1, .ref p)] [] _ _
  obtain ⟨h1, h2, h3, h4⟩ := id hl
  refine pl_aload_n (pc := 0) dJ2_indexOf_0 rfl rfl ?_
  refine pl_aload_n (pc := 1) dJ2_indexOf_1 rfl rfl ?_
  refine pl_iconst (pc := 2) (v := 0) dJ2_indexOf_2 (by rfl) ?_
  refine pl_aload_n (pc := 3) dJ2_indexOf_3 rfl rfl ?_
  refine pj_getf (pc := 4) ckJ2 2 q551 dJ2_indexOf_4 (by decide) hl.1 rfl ?_
  refine pl_callVd (pc := 7) (As := [_, _, _]) (C1 := 0) (N1 := 0) (C2 := 0) (N2 := 0) ckJ2 mdJ2_indexOfRange rfl q1604 q1605 q1606 q129 dJ2_indexOf_7 rfl rfl (Nat.le_of_ble_eq_true rfl) hl.1 (k_J2_indexOfRange (d := d - 1) (by omega) hl hv hel) (by omega) (by omega) (by omega) ?_
  refine pj_iret (pc := 10) dJ2_indexOf_10 rfl ?_
  exact ⟨rfl, rfl⟩
set_option maxHeartbeats 600000 in
theorem k_J2_contains {g : GP} {μ : Mem} {d : Nat} (hd : 4 ≤ d) {a e n m : Nat} {f : Nat → Option Nat} {mc : Int32} (hl : LstC g μ a e n m f mc) {p : Nat} {vs : List Value} (hv : μ p = some (.inr (12, vs))) (hel : ∀ i, i < n → ∃ y, f i = some y) : PM g yJ2_contains (ws_ yJ2_contains cJ2_contains 2 (some .boolean)) d 0 0 [.ref a, .ref p] μ (rQ (some (.int (bI (anyN (fun i => decide (f i = some p)) n)))) μ) := by
  refine PM.of (by decide +kernel) (Nat.le_of_ble_eq_true rfl) ?_
  refine PJ.ok (fun G => ?_)
  show PJ g _ _ _ _ d 0 0 0 [(0, .ref a), (1, .ref p)] [] _ _
  obtain ⟨h1, h2, h3, h4⟩ := id hl
  refine pl_aload_n (pc := 0) dJ2_contains_0 rfl rfl ?_
  refine pl_aload_n (pc := 1) dJ2_contains_1 rfl rfl ?_
  refine pl_callVd (pc := 2) (As := [_]) (C1 := 0) (N1 := 0) (C2 := 0) (N2 := 0) ckJ2 mdJ2_indexOf rfl q1600 q1601 q1602 q129 dJ2_contains_2 rfl rfl (Nat.le_of_ble_eq_true rfl) hl.1 (k_J2_indexOf (d := d - 1) (by omega) hl hv hel) (by omega) (by omega) (by omega) ?_
  refine pj_if_lt (pc := 5) (tgt := 12) dJ2_contains_5 (by decide) (fun c5 => ?_) (fun c5 => ?_)
  · refine pl_iconst (pc := 12) (v := 0) dJ2_contains_12 (by rfl) ?_
    refine pj_zret (pc := 13) .boolean dJ2_contains_13 rfl (by rfl) ?_
    rcases fstI_any (p := fun i => decide (f i = some p)) (n := n) (by omega) with ⟨_, z2⟩ | ⟨z1, _⟩
    · rw [z2]; exact ⟨rfl, rfl⟩
    · exact absurd c5 z1
  · refine pl_iconst (pc := 8) (v := 1) dJ2_contains_8 (by rfl) ?_
    refine pj_goto (pc := 9) (tgt := 13) dJ2_contains_9 (by decide) ?_
    refine pj_zret (pc := 13) .boolean dJ2_contains_13 rfl (by rfl) ?_
    rcases fstI_any (p := fun i => decide (f i = some p)) (n := n) (by omega) with ⟨z1, _⟩ | ⟨_, z2⟩
    · exact absurd (by rw [z1]; decide) c5
    · rw [z2]; exact ⟨rfl, rfl⟩
