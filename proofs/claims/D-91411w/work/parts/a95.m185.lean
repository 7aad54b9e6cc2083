set_option maxRecDepth 100000
theorem anyN_ff {p : Nat → Bool} : ∀ {n : Nat}, anyN p n = false ↔ ∀ i, i < n → p i = false
  | 0 => ⟨fun _ _ h => absurd h (Nat.not_lt_zero _), fun _ => rfl⟩
  | n + 1 => by
    constructor
    · intro h i hi
      cases hp : p i
      · rfl
      · rw [anyN_hit hi hp] at h
        cases h
    · intro h
      exact anyN_up (anyN_ff.mpr (fun i hi => h i (by omega))) (h n (by omega))
theorem wlF_sp {B : Nat → Nat} : ∀ (f q : Nat), wlF B f q ≤ f ∧ (∀ i, i < wlF B f q → isLt (B (q + i)) = true) ∧ (wlF B f q = f ∨ isLt (B (q + wlF B f q)) = false)
  | 0, q => ⟨Nat.le_refl _, fun _ h => absurd h (Nat.not_lt_zero _), Or.inl rfl⟩
  | f + 1, q => by
    obtain ⟨h1, h2, h3⟩ := wlF_sp (B := B) f (q + 1)
    by_cases c : isLt (B q) = true
    · have e : wlF B (f + 1) q = wlF B f (q + 1) + 1 := by simp only [wlF]; rw [if_pos c]
      rw [e]
      refine ⟨by omega, fun i hi => ?_, h3.elim (fun z => Or.inl (by omega)) (fun z => Or.inr (by rw [show q + (wlF B f (q + 1) + 1) = q + 1 + wlF B f (q + 1) by omega]; exact z))⟩
      rcases Nat.eq_zero_or_pos i with z | z
      · rw [z]; exact c
      · rw [show q + i = q + 1 + (i - 1) by omega]
        exact h2 (i - 1) (by omega)
    · have e : wlF B (f + 1) q = 0 := by simp only [wlF]; rw [if_neg c]
      rw [e]
      exact ⟨Nat.zero_le _, fun _ h => absurd h (Nat.not_lt_zero _), Or.inr (Bool.not_eq_true _ ▸ c)⟩
theorem lt_out {b : Nat} : isLt b = false ↔ (b < 97 ∨ 122 < b) := by
  unfold isLt
  rw [Bool.and_eq_false_iff, decide_eq_false_iff_not, decide_eq_false_iff_not]
  omega
/-- the word that stands here is the literal: as the model asks it -/
theorem eqW_isW {f : Nat → Int32} {B : Nat → Nat} {Q : Nat} {bs : List Nat} (hf : ∀ i, i < wlen B Q → f i = nI (B (Q + i))) (hB : ∀ k, B k < 256) (hbs : ∀ x ∈ bs, isLt x = true) (hl : bs.length < 8) : eqW f (wlen B Q) bs = isW B Q bs := by
  obtain ⟨s1, s2, s3⟩ := wlF_sp (B := B) 8 Q
  have hx : ∀ i, i < bs.length → isLt (bs.getD i 0) = true := fun i hi => hbs _ (getD_in hi)
  have hlt : ∀ i, i < bs.length → bs.getD i 0 ≤ 122 := fun i hi => (lt_in (hx i hi)).2
  apply Bool.eq_iff_iff.mpr
  unfold eqW isW
  rw [Bool.and_eq_true, Bool.and_eq_true, decide_eq_true_eq, Bool.not_eq_true', Bool.not_eq_true', Bool.or_eq_true, decide_eq_true_eq, decide_eq_true_eq, anyN_ff, anyN_ff]
  constructor
  · rintro ⟨h1, h2⟩
    refine ⟨fun i hi => ?_, ?_⟩
    · have h3 := h2 i (by omega)
      rw [Bool.not_eq_false', decide_eq_true_eq, hf i (by omega)] at h3
      have h4 := hB (Q + i)
      have h5 := hlt i hi
      rw [Bool.not_eq_false', decide_eq_true_eq]
      exact (nI_eq (by omega) (by omega)).mp h3
    · rw [← h1]
      exact lt_out.mp (s3.resolve_left (by show ¬ wlen B Q = 8; omega))
  · rintro ⟨h1, h2⟩
    have h3 : ∀ i, i < bs.length → B (Q + i) = bs.getD i 0 := fun i hi => by
      have h4 := h1 i hi
      rw [Bool.not_eq_false', decide_eq_true_eq] at h4
      exact h4
    have hw : wlen B Q = bs.length := wlF_at 8 bs.length Q (by omega) (fun i hi => by rw [h3 i hi]; exact hx i hi) (Or.inr (lt_out.mpr h2))
    refine ⟨hw, fun i hi => ?_⟩
    rw [Bool.not_eq_false', decide_eq_true_eq, hf i hi, h3 i (by omega)]
theorem RdX.of {μ M : Mem} {rd t n p o : Nat} (h : RdX μ rd t n p o M) {p1 o1 : Nat} : RdX μ rd t n p1 o1 (mset M rd (rdO t n p1 o1)) := ⟨mset_s, fun x e hx he => (mset_n hx).trans (h.2 x e hx he)⟩
set_option maxHeartbeats 600000 in
theorem x_X18_takes {g : GP} {μ : Mem} {d : Nat} {rd t n p o : Nat} {r : Nat → Int32} {B : Nat → Nat} (hd : 8 ≤ d) (h0 : μ rd = some (rdO t n p o)) (ht : μ t = some (intX g 2 300 r)) (htr : t ≠ rd) (tx : TxR r n B) (hp : p ≤ n) {a v : Nat} {bs : List Nat} (sc : StrC g a v (KN bs)) (hbs : ∀ x ∈ bs, isLt x = true) (hl : bs.length < 8) : PM g yX18_takes (ws_ yX18_takes cX18_takes 2 (some .boolean)) d 4 32 [.ref rd, .ref a] μ (WQ (some (.int (bI (isW B (sk B n p) bs)))) (RdX μ rd t n (if isW B (sk B n p) bs = true then sk B n p + bs.length else sk B n p) o)) := by
  refine PM.of (by decide +kernel) (Nat.le_of_ble_eq_true rfl) ?_
  refine PJ.ok (fun G => ?_)
  show PJ g _ _ _ _ d 4 32 0 [(0, .ref rd), (1, .ref a)] [] _ _
  have hn3 := tx.1
  refine pl_aload_n (pc := 0) dX18_takes_0 rfl rfl ?_
  refine pl_callVQ (pc := 1) (As := []) (C1 := 4) (N1 := 32) (C2 := 0) (N2 := 0) ckX18 mdX18_word rfl q1900 q1902 qs16 q167 dX18_takes_1 rfl rfl (Nat.le_of_ble_eq_true rfl) h0 (x_X18_word (d := d - 1) (by omega) h0 ht htr tx hp) (by omega) (by omega) (by omega) (fun q_1 M_1 hM_1 => ?_)
  obtain ⟨gq1, w9, f, hst, hf, hX, -⟩ := hM_1
  have hwl := (wlF_sp (B := B) 8 (sk B n p)).1
  have hwl2 : wlen B (sk B n p) < 1000 := Nat.lt_of_le_of_lt hwl (by decide)
  refine pl_aload_n (pc := 4) dX18_takes_4 rfl rfl ?_
  have hq9 := k_J9_equals_m (μ := M_1) (d := d - 1) (by omega) hst hwl2 gq1 sc (by omega)
  rw [eqW_isW hf tx.2.2.1 hbs hl] at hq9
  refine pl_callVd (pc := 5) (As := [_]) (C1 := 0) (N1 := 0) (C2 := 0) (N2 := 0) ckJ9 mdJ9_equals rfl q1993 q1655 q3212 q136 dX18_takes_5 rfl rfl (Nat.le_of_ble_eq_true rfl) hst.1 (hq9) (by omega) (by omega) (by omega) ?_
  refine pl_if_neB (pc := 8) (tgt := 13) dX18_takes_8 (by decide) (fun c8 => ?_) (fun c8 => ?_)
  · refine pl_aload_n (pc := 13) dX18_takes_13 rfl rfl ?_
    refine pj_dup (pc := 14) dX18_takes_14 rfl ?_
    refine pj_getf (pc := 15) ckX18 2 q1863 dX18_takes_15 (by decide) hX.1 rfl ?_
    refine pl_aload_n (pc := 18) dX18_takes_18 rfl rfl ?_
    refine pl_callKd (pc := 19) (As := []) (C1 := 0) (N1 := 0) (C2 := 0) (N2 := 0) mdJ9_length rfl q2034 q399 q400 q136 dX18_takes_19 rfl rfl (Nat.le_of_ble_eq_true rfl) sc.1 (k_J9_length (d := d - 1) (by omega) sc) (by omega) (by omega) (by omega) ?_
    refine pl_iadd (pc := 22) dX18_takes_22 ?_
    refine pj_putf (pc := 23) ckX18 2 q1863 dX18_takes_23 (by decide) rfl hX.1 rfl rfl (Nat.le_of_ble_eq_true rfl) ?_
    refine pl_iconst (pc := 26) (v := 1) dX18_takes_26 (by rfl) ?_
    refine pj_zret (pc := 27) .boolean dX18_takes_27 rfl (by rfl) ?_
    have e9 : isW B (sk B n p) bs = true := c8
    rw [e9]
    exact ⟨rfl, hX.of⟩
  · refine pl_iconst (pc := 11) (v := 0) dX18_takes_11 (by rfl) ?_
    refine pj_zret (pc := 12) .boolean dX18_takes_12 rfl (by rfl) ?_
    have e9 : isW B (sk B n p) bs = false := c8
    rw [e9]
    exact ⟨rfl, hX⟩
