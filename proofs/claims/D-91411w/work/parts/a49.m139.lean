set_option maxRecDepth 100000
/-- a list without its i-th -/
def rmF (f : Nat → Option Nat) (n i : Nat) : Nat → Option Nat := fun j => if j < i then f j else if j < n - 1 then f (j + 1) else none
theorem rmF_cpy {f : Nat → Option Nat} {n i : Nat} (hi : i < n - 1) (hf : ∀ j, n ≤ j → f j = none) : va_up (va_cpy f f (i + 1) i (n - 1 - i)) (n - 1) none = rmF f n i := by
  funext j
  unfold va_up rmF
  by_cases h : j = n - 1
  · subst h
    rw [if_pos rfl, if_neg (by omega), if_neg (by omega)]
  · rw [if_neg h]
    by_cases h1 : j < i
    · rw [if_pos h1, pk_cpy_out (Or.inl (by omega))]
    · rw [if_neg h1]
      by_cases h2 : j < n - 1
      · rw [if_pos h2, pk_cpy_in (by omega) (by omega)]
        exact congrArg f (by omega)
      · rw [if_neg h2, pk_cpy_out (Or.inr (by omega))]
        exact hf j (by omega)
theorem rmF_last {f : Nat → Option Nat} {n i : Nat} (hi : i = n - 1) (hn : 0 < n) (hf : ∀ j, n ≤ j → f j = none) : va_up f (n - 1) none = rmF f n i := by
  funext j
  unfold va_up rmF
  by_cases h : j = n - 1
  · subst h
    rw [if_pos rfl, if_neg (by omega), if_neg (by omega)]
  · rw [if_neg h]
    by_cases h1 : j < i
    · rw [if_pos h1]
    · rw [if_neg h1, if_neg (by omega), hf j (by omega)]
theorem k_J2_fastRemove {g : GP} {μ : Mem} {d : Nat} (hd : 1 ≤ d) {a e n m i : Nat} {f : Nat → Option Nat} {mc : Int32} (hl : LstC g μ a e n m f mc) (hi : i < n) (hf : ∀ j, n ≤ j → f j = none) (hel : ∀ i, i < n → ∀ y, f i = some y → ElO μ "java/lang/Object" y) (hea : ∀ i, i < n → ∀ y, f i = some y → y ≠ a) : PM g yJ2_fastRemove (ws_ yJ2_fastRemove cJ2_fastRemove 4 none) d 0 0 [.ref a, .ref e, .int (nI i)] μ (rQ none (mset (mset μ e (lstA g m (rmF f n i))) a (lstO (mc + nI 1) e (n - 1)))) := by
  refine PM.of (by decide +kernel) (Nat.le_of_ble_eq_true rfl) ?_
  refine PJ.ok (fun G => ?_)
  show PJ g _ _ _ _ d 0 0 0 [(0, .ref a), (1, .ref e), (2, .int (nI i))] [] _ _
  obtain ⟨h1, h2, h3, h4⟩ := id hl
  refine pl_aload_n (pc := 0) dJ2_fastRemove_0 rfl rfl ?_
  refine pj_dup (pc := 1) dJ2_fastRemove_1 rfl ?_
  refine pj_getfS (pc := 2) ckJ2 0 q553 q554 dJ2_fastRemove_2 (by decide) hl.1 rfl ?_
  refine pl_iconst (pc := 5) (v := 1) dJ2_fastRemove_5 (by rfl) ?_
  refine pj_iadd (pc := 6) dJ2_fastRemove_6 ?_
  refine pj_putfS (pc := 7) ckJ2 0 q553 q554 dJ2_fastRemove_7 (by decide) rfl hl.1 rfl rfl (Nat.le_of_ble_eq_true rfl) ?_
  have hl1 : LstC g (mset μ a (lstO (mc + nI 1) e n)) a e n m f (mc + nI 1) := hl.o h3
  have hel1 : ∀ i, i < n → ∀ y, f i = some y → ElO (mset μ a (lstO (mc + nI 1) e n)) "java/lang/Object" y := fun i hi y hy => (hel i hi y hy).set (fun _ _ => hea i hi y hy)
  refine pl_aload_n (pc := 10) dJ2_fastRemove_10 rfl rfl ?_
  refine pj_getf (pc := 11) ckJ2 2 q551 dJ2_fastRemove_11 (by decide) hl1.1 rfl ?_
  refine pl_iconst (pc := 14) (v := 1) dJ2_fastRemove_14 (by rfl) ?_
  refine pl_isub (pc := 15) dJ2_fastRemove_15 (by omega) ?_
  refine pj_dup (pc := 16) dJ2_fastRemove_16 rfl ?_
  refine pj_istore_n (pc := 17) (lv' := [(3, _), (0, _), (1, _), (2, _)]) dJ2_fastRemove_17 rfl (by decide) rfl ?_
  refine pl_iload_n (pc := 18) dJ2_fastRemove_18 rfl rfl ?_
  have last : ∀ f1 : Nat → Option Nat, va_up f1 (n - 1) none = rmF f n i → LstC g (mset μ a (lstO (mc + nI 1) e n)) a e n m f (mc + nI 1) → PJ g yJ2_fastRemove.cls cJ2_fastRemove 4 (none, yJ2_fastRemove.name, []) d 0 0 34 [(3, .int (nI (n - 1))), (0, .ref a), (1, .ref e), (2, .int (nI i))] [] (mset (mset μ a (lstO (mc + nI 1) e n)) e (lstA g m f1)) (rQ none (mset (mset μ e (lstA g m (rmF f n i))) a (lstO (mc + nI 1) e (n - 1)))) := by
    intro f1 hf1 hl9
    have hl2 := hl9.a (f1 := f1)
    refine pl_aload_n (pc := 34) dJ2_fastRemove_34 rfl rfl ?_
    refine pl_aload_n (pc := 35) dJ2_fastRemove_35 rfl rfl ?_
    refine pl_iload_n (pc := 36) dJ2_fastRemove_36 rfl rfl ?_
    refine pj_dup_x1 (pc := 37) dJ2_fastRemove_37 rfl rfl ?_
    refine pj_putf (pc := 38) ckJ2 2 q551 dJ2_fastRemove_38 (by decide) rfl hl2.1 rfl rfl (Nat.le_of_ble_eq_true rfl) ?_
    have hl3 := hl2.o (mc1 := mc + nI 1) (n1 := n - 1) (by omega)
    refine pj_null (pc := 41) dJ2_fastRemove_41 ?_
    refine pl_astn (pc := 42) 5 dJ2_fastRemove_42 hl3.2.1 rfl (by omega) (by omega) ?_
    refine pj_vret (pc := 43) dJ2_fastRemove_43 rfl ?_
    refine ⟨rfl, ?_⟩
    rw [hf1, mset_c hl.ne, mset_m, mset_c hl.ne, mset_m]
    rfl
  refine pl_icmp_le (pc := 19) (tgt := 34) dJ2_fastRemove_19 (by decide) (by omega) (by omega) (fun c => ?_) (fun c => ?_)
  · have e9 : mset μ a (lstO (mc + nI 1) e n) = mset (mset μ a (lstO (mc + nI 1) e n)) e (lstA g m f) := by
      funext x
      by_cases hx : x = e
      · subst hx
        rw [mset_s]
        exact hl1.2.1
      · rw [mset_n hx]
    refine PJ.mem e9 ?_
    exact last f (rmF_last (by omega) (by omega) hf) hl1
  · refine pl_aload_n (pc := 22) dJ2_fastRemove_22 rfl rfl ?_
    refine pl_iload_n (pc := 23) dJ2_fastRemove_23 rfl rfl ?_
    refine pl_iconst (pc := 24) (v := 1) dJ2_fastRemove_24 (by rfl) ?_
    refine pl_iadd (pc := 25) dJ2_fastRemove_25 ?_
    refine pl_aload_n (pc := 26) dJ2_fastRemove_26 rfl rfl ?_
    refine pl_iload_n (pc := 27) dJ2_fastRemove_27 rfl rfl ?_
    refine pl_iload_n (pc := 28) dJ2_fastRemove_28 rfl rfl ?_
    refine pl_iload_n (pc := 29) dJ2_fastRemove_29 rfl rfl ?_
    refine pl_isub (pc := 30) dJ2_fastRemove_30 (by omega) ?_
    refine pj_copyq (pc := 31) 5 q1683 dJ2_fastRemove_31 hl1.2.1 hl1.2.1 rfl (sp := i + 1) (dp := i) (k := n - 1 - i) (by omega) (by omega) (by omega) (by omega) (fun j hj y hy => hel1 (i + 1 + j) (by omega) y hy) (by omega) (Nat.le_of_ble_eq_true rfl) ?_
    exact last _ (rmF_cpy (by omega) hf) hl1
theorem k_J2_remove {g : GP} {μ : Mem} {d : Nat} (hd : 3 ≤ d) {a e n m i p : Nat} {f : Nat → Option Nat} {mc : Int32} (hl : LstC g μ a e n m f mc) (hi : i < n) (hp : f i = some p) (hf : ∀ j, n ≤ j → f j = none) (hel : ∀ i, i < n → ∀ y, f i = some y → ElO μ "java/lang/Object" y) (hea : ∀ i, i < n → ∀ y, f i = some y → y ≠ a) : PM g yJ2_remove (ws_ yJ2_remove cJ2_remove 4 (some (.object "java/lang/Object"))) d 0 0 [.ref a, .int (nI i)] μ (rQ (some (.ref p)) (mset (mset μ e (lstA g m (rmF f n i))) a (lstO (mc + nI 1) e (n - 1)))) := by
  refine PM.of (by decide +kernel) (Nat.le_of_ble_eq_true rfl) ?_
  refine PJ.ok (fun G => ?_)
  show PJ g _ _ _ _ d 0 0 0 [(0, .ref a), (1, .int (nI i))] [] _ _
  obtain ⟨h1, h2, h3, h4⟩ := id hl
  refine pl_iload_n (pc := 0) dJ2_remove_0 rfl rfl ?_
  refine pl_aload_n (pc := 1) dJ2_remove_1 rfl rfl ?_
  refine pj_getf (pc := 2) ckJ2 2 q551 dJ2_remove_2 (by decide) hl.1 rfl ?_
  refine pl_callSd (pc := 5) (As := [_, _]) (C2 := 0) (N2 := 0) mdJ19_checkIndex q711 q712 q153 dJ2_remove_5 rfl rfl (Nat.le_of_ble_eq_true rfl) (k_J19_checkIndex (d := d - 1) (by omega) hi (by omega)) (by omega) (by decide) (by decide) ?_
  refine pj_pop (pc := 8) dJ2_remove_8 rfl ?_
  refine pl_aload_n (pc := 9) dJ2_remove_9 rfl rfl ?_
  refine pj_getf (pc := 10) ckJ2 1 q550 dJ2_remove_10 (by decide) hl.1 rfl ?_
  refine pj_astore_n (pc := 13) (lv' := [(2, _), (0, _), (1, _)]) dJ2_remove_13 rfl (by decide) rfl ?_
  refine pl_aload_n (pc := 14) dJ2_remove_14 rfl rfl ?_
  refine pl_iload_n (pc := 15) dJ2_remove_15 rfl rfl ?_
  refine pl_aldO (pc := 16) dJ2_remove_16 hl.2.1 (by omega) (by omega) ?_
  rw [hp]
  refine pj_astore_n (pc := 17) (lv' := [(3, .ref p), (2, _), (0, _), (1, _)]) dJ2_remove_17 rfl (by decide) rfl ?_
  refine pl_aload_n (pc := 18) dJ2_remove_18 rfl rfl ?_
  refine pl_aload_n (pc := 19) dJ2_remove_19 rfl rfl ?_
  refine pl_iload_n (pc := 20) dJ2_remove_20 rfl rfl ?_
  refine pl_callVv (pc := 21) (As := [_, _]) (C1 := 0) (N1 := 0) (C2 := 0) (N2 := 0) ckJ2 mdJ2_fastRemove rfl q1679 q1681 qs13 q129 dJ2_remove_21 rfl rfl (Nat.le_of_ble_eq_true rfl) hl.1 (k_J2_fastRemove (d := d - 1) (by omega) hl hi hf hel hea) (by omega) (by omega) (by omega) ?_
  refine pl_aload_n (pc := 24) dJ2_remove_24 rfl rfl ?_
  refine pj_aret (pc := 25) dJ2_remove_25 rfl (Or.inl ⟨_, rfl⟩) (Or.inr ⟨_, rfl⟩) ?_
  exact ⟨rfl, rfl⟩
