set_option maxRecDepth 100000
theorem SbM.base {g : GP} {μ M : Mem} {a v n : Nat} {f : Nat → Int32} {c : va_E} (h : SbM g (mset μ a c) a v f n M) : SbM g μ a v f n M := ⟨h.1, h.2.1, h.2.2.1, fun x h1 h2 => (h.2.2.2 x h1 h2).trans (mset_n h1)⟩
def isLt (b : Nat) : Bool := decide (97 ≤ b) && decide (b ≤ 122)
/-- how many letters stand at q, up to some -/
def wlF (B : Nat → Nat) : Nat → Nat → Nat
  | 0, _ => 0
  | f + 1, q => if isLt (B q) = true then wlF B f (q + 1) + 1 else 0
def wlen (B : Nat → Nat) (q : Nat) : Nat := wlF B 8 q
theorem wlF_at {B : Nat → Nat} : ∀ (f j q : Nat), j ≤ f → (∀ i, i < j → isLt (B (q + i)) = true) → (j = f ∨ isLt (B (q + j)) = false) → wlF B f q = j
  | 0, j, q, h, _, _ => by
    have : j = 0 := by omega
    subst this
    rfl
  | f + 1, 0, q, _, _, h2 => by
    have h3 := h2.resolve_left (by omega)
    simp only [wlF]
    rw [show B q = B (q + 0) from rfl, h3]
    rfl
  | f + 1, j + 1, q, h, h1, h2 => by
    have h0 := h1 0 (by omega)
    simp only [wlF]
    rw [show B q = B (q + 0) from rfl, h0, if_pos rfl]
    rw [wlF_at f j (q + 1) (by omega) (fun i hi => by rw [show q + 1 + i = q + (i + 1) by omega]; exact h1 (i + 1) (by omega)) (h2.elim (fun z => Or.inl (by omega)) (fun z => Or.inr (by rw [show q + 1 + j = q + (j + 1) by omega]; exact z)))]
theorem lt_no1 : ∀ b, b < 256 → sB b < nI 97 → isLt b = false := by decide +kernel
theorem lt_no2 : ∀ b, b < 256 → nI 122 < sB b → isLt b = false := by decide +kernel
theorem lt_yes : ∀ b, b < 256 → ¬ sB b < nI 97 → ¬ nI 122 < sB b → isLt b = true := by decide +kernel
theorem lt_in {b : Nat} (h : isLt b = true) : 97 ≤ b ∧ b ≤ 122 := by
  unfold isLt at h
  rw [Bool.and_eq_true, decide_eq_true_eq, decide_eq_true_eq] at h
  exact h
theorem i2cL : ∀ b, b < 128 → ((sB b).toUInt32 % 65536).toInt32 = nI b := by decide +kernel
/-- the reader stands at p; what was there is there -/
def RdX (μ0 : Mem) (rd t n p o : Nat) (M : Mem) : Prop := M rd = some (rdO t n p o) ∧ ∀ x e, x ≠ rd → μ0 x = some e → M x = some e
set_option maxHeartbeats 600000 in
theorem x_X18_word {g : GP} {μ : Mem} {d : Nat} {rd t n p o : Nat} {r : Nat → Int32} {B : Nat → Nat} (hd : 7 ≤ d) (h0 : μ rd = some (rdO t n p o)) (ht : μ t = some (intX g 2 300 r)) (htr : t ≠ rd) (tx : TxR r n B) (hp : p ≤ n)  : PM g yX18_word (ws_ yX18_word cX18_word 3 (some (.object "java/lang/String"))) d 4 32 [.ref rd] μ (fun o9 M => ∃ q : Nat, o9 = .inl (some (.ref q)) ∧ gF g q ∧ ∃ w9 f, StM g q w9 (wlen B (sk B n p)) f 0 0 M ∧ (∀ i, i < wlen B (sk B n p) → f i = nI (B (sk B n p + i))) ∧ RdX μ rd t n (sk B n p) o M ∧ μ q = none) := by
  refine PM.of (by decide +kernel) (Nat.le_of_ble_eq_true rfl) ?_
  refine PJ.ok (fun G => ?_)
  show PJ g _ _ _ _ d 4 32 0 [(0, .ref rd)] [] _ _
  have h := RdS.rf h0
  have hn3 := tx.1
  obtain ⟨Q, hQ⟩ : ∃ Q, Q = sk B n p := ⟨_, rfl⟩
  have hQn := (sk_in (B := B) hp).2
  rw [← hQ] at hQn ⊢
  refine pl_aload_n (pc := 0) dX18_word_0 rfl rfl ?_
  refine pl_callVWd (pc := 1) (As := []) (C1 := 0) (N1 := 0) (C2 := 4) (N2 := 32) ckX18 mdX18_sign rfl q1896 q1898 qs15 q167 dX18_word_1 rfl rfl (Nat.le_of_ble_eq_true rfl) (h.1) (x_X18_sign (d := d - 1) (by omega) h0 ht htr tx hp) (by omega) (by omega) (by omega) (fun My1 qy1 => ?_)
  rw [← hQ] at qy1
  have y1 := qy1
  have hS := qy1
  refine pj_pop (pc := 4) dX18_word_4 rfl ?_
  refine pj_new (pc := 5) (C1 := 3) (N1 := 28) ckJ8 q1904 q257 q135 dX18_word_5 _ dfJ8 (by omega) (by omega) (fun q_5 hn_5 gq_5 => ?_)
  refine pj_dup (pc := 8) dX18_word_8 rfl ?_
  refine pl_callIWv (pc := 9) (As := []) (C1 := 1) (N1 := 16) (C2 := 2) (N2 := 12) mdJ8_init rfl q1905 q259 q135 dX18_word_9 rfl rfl (Nat.le_of_ble_eq_true rfl) (k_J8_init (d := d - 1) (by omega) mset_s) (by omega) (by omega) (by omega) (fun My2 qy2 => ?_)
  obtain ⟨v_9, hv_9, y2⟩ := qy2
  have y2 := y2.base
  refine pj_astore_n (pc := 12) (lv' := [(1, _), (0, _)]) dX18_word_12 rfl (by decide) rfl ?_
  have hMt := (hS.2 t htr).trans ht
  have hra : rd ≠ q_5 := fun z => by rw [← z, hS.1] at hn_5; cases hn_5
  have hta : t ≠ q_5 := fun z => by rw [← z, hMt] at hn_5; cases hn_5
  have hrv : rd ≠ v_9 := fun z => by rw [← z, mset_n hra, hS.1] at hv_9; cases hv_9
  have htv : t ≠ v_9 := fun z => by rw [← z, mset_n hta, hMt] at hv_9; cases hv_9
  refine pl_aload_n (pc := 13) dX18_word_13 rfl rfl ?_
  refine pj_getf (pc := 14) ckX18 2 q1863 dX18_word_14 (by decide) ((y2.2.2.2 rd hra hrv).trans hS.1) rfl ?_
  refine pj_istore_n (pc := 17) (lv' := [(2, _), (1, _), (0, _)]) dX18_word_17 rfl (by decide) rfl ?_
  refine ind_dn (n := 8) (P := fun j => ∀ M9 f, SbM g My1 q_5 v_9 f j M9 → (∀ i, i < j → f i = nI (B (Q + i)) ∧ isLt (B (Q + i)) = true) → PJ g _ _ _ _ d 2 12 18 [(2, .int (nI (Q + j))), (1, .ref q_5), (0, .ref rd)] [] M9 _) (fun j hj ih M9 f h9 hf => ?_) 0 (Nat.zero_le _) _ _ y2 (fun i hi => absurd hi (Nat.not_lt_zero _))
  refine pl_iload_n (pc := 18) dX18_word_18 rfl rfl ?_
  refine pl_aload_n (pc := 19) dX18_word_19 rfl rfl ?_
  refine pj_getf (pc := 20) ckX18 1 q1862 dX18_word_20 (by decide) ((h9.2.2.2 rd hra hrv).trans hS.1) rfl ?_
  refine pl_icmp_ge (pc := 23) (tgt := 75) dX18_word_23 (by decide) (by omega) (by omega) (fun c23 => ?_) (fun c23 => ?_)
  · have hW : wlen B Q = j := wlF_at 8 j Q (by omega) (fun i hi => (hf i hi).2) (Or.inr (by rw [tx.2.2.2 _ (show n ≤ Q + j by omega)]; rfl))
    refine pl_aload_n (pc := 75) dX18_word_75 rfl rfl ?_
    refine pl_callVQ (pc := 76) (As := []) (C1 := 2) (N1 := 4 + j) (C2 := 0) (N2 := 0) ckJ8 mdJ8_toString rfl q1927 q467 q468 q135 dX18_word_76 rfl rfl (Nat.le_of_ble_eq_true rfl) h9.1 (k_J8_toString (d := d - 1) (by omega) h9 (by omega) (fun i hi => ⟨B (Q + i), by have := lt_in (hf i hi).2; omega, (hf i hi).1⟩)) (by omega) (by omega) (by omega) (fun q_76 M_76 hM_76 => ?_)
    obtain ⟨hn76, gq76, w9, hw1, hw2, rfl⟩ := hM_76
    refine pj_aret (pc := 79) dX18_word_79 rfl (Or.inl ⟨_, rfl⟩) (Or.inr ⟨_, rfl⟩) ?_
    have hup : ∀ x e, My1 x = some e → mset (mset M9 w9 (intX g 2 j (va_cpy f (fun _ => 0) 0 0 j))) q_76 (.inr (10, [.ref w9, .int 0, .int 0, .int 0])) x = some e := fun x e hx => by
      have x1 : x ≠ q_5 := fun z => by rw [z, hn_5] at hx; cases hx
      have x2 : x ≠ v_9 := fun z => by rw [z] at hx; rw [mset_n (Ne.symm h9.2.2.1)] at hv_9; rw [hv_9] at hx; cases hx
      have x3 : M9 x = some e := (h9.2.2.2 x x1 x2).trans hx
      have x4 : x ≠ q_76 := fun z => by rw [z, hn76] at x3; cases x3
      have x5 : x ≠ w9 := fun z => by rw [z, hw1] at x3; cases x3
      rw [mset_n x4, mset_n x5]
      exact x3
    have hz1 : My1 q_76 = none := by
      cases hz : My1 q_76 with
      | none => rfl
      | some e => have hz2 := hup q_76 e hz; have x1 : q_76 ≠ q_5 := fun z => by rw [z, hn_5] at hz; cases hz
                  have x2 : q_76 ≠ v_9 := fun z => by rw [z] at hz; rw [mset_n (Ne.symm h9.2.2.1)] at hv_9; rw [hv_9] at hz; cases hz
                  rw [(h9.2.2.2 q_76 x1 x2).trans hz] at hn76; cases hn76
    have hz3 : μ q_76 = none := (hS.2 q_76 (fun z => by rw [z, hS.1] at hz1; cases hz1)).symm.trans hz1
    refine ⟨q_76, rfl, gq76, w9, va_cpy f (fun _ => 0) 0 0 j, ⟨mset_s, ?_⟩, ?_, ⟨hup _ _ hS.1, fun x e hx he => hup x e ((hS.2 x hx).trans he)⟩, hz3⟩
    · rw [mset_n hw2, mset_s, hW]
    · intro i hi
      rw [hW] at hi
      unfold va_cpy
      rw [if_pos (by omega), show 0 + (i - 0) = i by omega]
      exact (hf i hi).1
  · have hb8 := tx.2.2.1 (Q + j)
    refine pl_aload_n (pc := 26) dX18_word_26 rfl rfl ?_
    refine pj_getf (pc := 27) ckX18 0 q1861 dX18_word_27 (by decide) ((h9.2.2.2 rd hra hrv).trans hS.1) rfl ?_
    refine pl_iload_n (pc := 30) dX18_word_30 rfl rfl ?_
    refine pl_bald (pc := 31) (n := 300) dX18_word_31 ((h9.2.2.2 t hta htv).trans ((hS.2 t htr).trans ht)) (by omega) (by decide) ?_
    refine PJ.top (y := sB (B (Q + j))) (tx.2.1 _ (by omega)) ?_
    refine pl_bipush (pc := 32) (v := 97) dX18_word_32 (by rfl) ?_
    refine pj_icmp_lt (pc := 34) (tgt := 75) dX18_word_34 (by decide) (fun c34 => ?_) (fun c34 => ?_)
    · have hW : wlen B Q = j := wlF_at 8 j Q (by omega) (fun i hi => (hf i hi).2) (Or.inr (lt_no1 _ hb8 c34))
      refine pl_aload_n (pc := 75) dX18_word_75 rfl rfl ?_
      refine pl_callVQ (pc := 76) (As := []) (C1 := 2) (N1 := 4 + j) (C2 := 0) (N2 := 0) ckJ8 mdJ8_toString rfl q1927 q467 q468 q135 dX18_word_76 rfl rfl (Nat.le_of_ble_eq_true rfl) h9.1 (k_J8_toString (d := d - 1) (by omega) h9 (by omega) (fun i hi => ⟨B (Q + i), by have := lt_in (hf i hi).2; omega, (hf i hi).1⟩)) (by omega) (by omega) (by omega) (fun q_76 M_76 hM_76 => ?_)
      obtain ⟨hn76, gq76, w9, hw1, hw2, rfl⟩ := hM_76
      refine pj_aret (pc := 79) dX18_word_79 rfl (Or.inl ⟨_, rfl⟩) (Or.inr ⟨_, rfl⟩) ?_
      have hup : ∀ x e, My1 x = some e → mset (mset M9 w9 (intX g 2 j (va_cpy f (fun _ => 0) 0 0 j))) q_76 (.inr (10, [.ref w9, .int 0, .int 0, .int 0])) x = some e := fun x e hx => by
        have x1 : x ≠ q_5 := fun z => by rw [z, hn_5] at hx; cases hx
        have x2 : x ≠ v_9 := fun z => by rw [z] at hx; rw [mset_n (Ne.symm h9.2.2.1)] at hv_9; rw [hv_9] at hx; cases hx
        have x3 : M9 x = some e := (h9.2.2.2 x x1 x2).trans hx
        have x4 : x ≠ q_76 := fun z => by rw [z, hn76] at x3; cases x3
        have x5 : x ≠ w9 := fun z => by rw [z, hw1] at x3; cases x3
        rw [mset_n x4, mset_n x5]
        exact x3
      have hz1 : My1 q_76 = none := by
        cases hz : My1 q_76 with
        | none => rfl
        | some e => have hz2 := hup q_76 e hz; have x1 : q_76 ≠ q_5 := fun z => by rw [z, hn_5] at hz; cases hz
                    have x2 : q_76 ≠ v_9 := fun z => by rw [z] at hz; rw [mset_n (Ne.symm h9.2.2.1)] at hv_9; rw [hv_9] at hz; cases hz
                    rw [(h9.2.2.2 q_76 x1 x2).trans hz] at hn76; cases hn76
      have hz3 : μ q_76 = none := (hS.2 q_76 (fun z => by rw [z, hS.1] at hz1; cases hz1)).symm.trans hz1
      refine ⟨q_76, rfl, gq76, w9, va_cpy f (fun _ => 0) 0 0 j, ⟨mset_s, ?_⟩, ?_, ⟨hup _ _ hS.1, fun x e hx he => hup x e ((hS.2 x hx).trans he)⟩, hz3⟩
      · rw [mset_n hw2, mset_s, hW]
      · intro i hi
        rw [hW] at hi
        unfold va_cpy
        rw [if_pos (by omega), show 0 + (i - 0) = i by omega]
        exact (hf i hi).1
    · refine pl_aload_n (pc := 37) dX18_word_37 rfl rfl ?_
      refine pj_getf (pc := 38) ckX18 0 q1861 dX18_word_38 (by decide) ((h9.2.2.2 rd hra hrv).trans hS.1) rfl ?_
      refine pl_iload_n (pc := 41) dX18_word_41 rfl rfl ?_
      refine pl_bald (pc := 42) (n := 300) dX18_word_42 ((h9.2.2.2 t hta htv).trans ((hS.2 t htr).trans ht)) (by omega) (by decide) ?_
      refine PJ.top (y := sB (B (Q + j))) (tx.2.1 _ (by omega)) ?_
      refine pl_bipush (pc := 43) (v := 122) dX18_word_43 (by rfl) ?_
      refine pj_icmp_gt (pc := 45) (tgt := 75) dX18_word_45 (by decide) (fun c45 => ?_) (fun c45 => ?_)
      · have hW : wlen B Q = j := wlF_at 8 j Q (by omega) (fun i hi => (hf i hi).2) (Or.inr (lt_no2 _ hb8 c45))
        refine pl_aload_n (pc := 75) dX18_word_75 rfl rfl ?_
        refine pl_callVQ (pc := 76) (As := []) (C1 := 2) (N1 := 4 + j) (C2 := 0) (N2 := 0) ckJ8 mdJ8_toString rfl q1927 q467 q468 q135 dX18_word_76 rfl rfl (Nat.le_of_ble_eq_true rfl) h9.1 (k_J8_toString (d := d - 1) (by omega) h9 (by omega) (fun i hi => ⟨B (Q + i), by have := lt_in (hf i hi).2; omega, (hf i hi).1⟩)) (by omega) (by omega) (by omega) (fun q_76 M_76 hM_76 => ?_)
        obtain ⟨hn76, gq76, w9, hw1, hw2, rfl⟩ := hM_76
        refine pj_aret (pc := 79) dX18_word_79 rfl (Or.inl ⟨_, rfl⟩) (Or.inr ⟨_, rfl⟩) ?_
        have hup : ∀ x e, My1 x = some e → mset (mset M9 w9 (intX g 2 j (va_cpy f (fun _ => 0) 0 0 j))) q_76 (.inr (10, [.ref w9, .int 0, .int 0, .int 0])) x = some e := fun x e hx => by
          have x1 : x ≠ q_5 := fun z => by rw [z, hn_5] at hx; cases hx
          have x2 : x ≠ v_9 := fun z => by rw [z] at hx; rw [mset_n (Ne.symm h9.2.2.1)] at hv_9; rw [hv_9] at hx; cases hx
          have x3 : M9 x = some e := (h9.2.2.2 x x1 x2).trans hx
          have x4 : x ≠ q_76 := fun z => by rw [z, hn76] at x3; cases x3
          have x5 : x ≠ w9 := fun z => by rw [z, hw1] at x3; cases x3
          rw [mset_n x4, mset_n x5]
          exact x3
        have hz1 : My1 q_76 = none := by
          cases hz : My1 q_76 with
          | none => rfl
          | some e => have hz2 := hup q_76 e hz; have x1 : q_76 ≠ q_5 := fun z => by rw [z, hn_5] at hz; cases hz
                      have x2 : q_76 ≠ v_9 := fun z => by rw [z] at hz; rw [mset_n (Ne.symm h9.2.2.1)] at hv_9; rw [hv_9] at hz; cases hz
                      rw [(h9.2.2.2 q_76 x1 x2).trans hz] at hn76; cases hn76
        have hz3 : μ q_76 = none := (hS.2 q_76 (fun z => by rw [z, hS.1] at hz1; cases hz1)).symm.trans hz1
        refine ⟨q_76, rfl, gq76, w9, va_cpy f (fun _ => 0) 0 0 j, ⟨mset_s, ?_⟩, ?_, ⟨hup _ _ hS.1, fun x e hx he => hup x e ((hS.2 x hx).trans he)⟩, hz3⟩
        · rw [mset_n hw2, mset_s, hW]
        · intro i hi
          rw [hW] at hi
          unfold va_cpy
          rw [if_pos (by omega), show 0 + (i - 0) = i by omega]
          exact (hf i hi).1
      · have hL := lt_yes _ hb8 c34 c45
        have hL2 := lt_in hL
        refine pl_aload_n (pc := 48) dX18_word_48 rfl rfl ?_
        refine pl_callVd (pc := 49) (As := []) (C1 := 0) (N1 := 0) (C2 := 2) (N2 := 12) ckJ8 mdJ8_length rfl q1906 q488 q3210 q135 dX18_word_49 rfl rfl (Nat.le_of_ble_eq_true rfl) (h9.1) (k_J8_length (d := d - 1) (by omega) h9) (by omega) (by omega) (by omega) ?_
        refine pl_bipush (pc := 52) (v := 8) dX18_word_52 (by rfl) ?_
        refine pl_icmp_ge (pc := 54) (tgt := 75) dX18_word_54 (by decide) (by omega) (by omega) (fun c54 => ?_) (fun c54 => ?_)
        · have hW : wlen B Q = j := wlF_at 8 j Q (by omega) (fun i hi => (hf i hi).2) (Or.inl (by omega))
          refine pl_aload_n (pc := 75) dX18_word_75 rfl rfl ?_
          refine pl_callVQ (pc := 76) (As := []) (C1 := 2) (N1 := 4 + j) (C2 := 0) (N2 := 0) ckJ8 mdJ8_toString rfl q1927 q467 q468 q135 dX18_word_76 rfl rfl (Nat.le_of_ble_eq_true rfl) h9.1 (k_J8_toString (d := d - 1) (by omega) h9 (by omega) (fun i hi => ⟨B (Q + i), by have := lt_in (hf i hi).2; omega, (hf i hi).1⟩)) (by omega) (by omega) (by omega) (fun q_76 M_76 hM_76 => ?_)
          obtain ⟨hn76, gq76, w9, hw1, hw2, rfl⟩ := hM_76
          refine pj_aret (pc := 79) dX18_word_79 rfl (Or.inl ⟨_, rfl⟩) (Or.inr ⟨_, rfl⟩) ?_
          have hup : ∀ x e, My1 x = some e → mset (mset M9 w9 (intX g 2 j (va_cpy f (fun _ => 0) 0 0 j))) q_76 (.inr (10, [.ref w9, .int 0, .int 0, .int 0])) x = some e := fun x e hx => by
            have x1 : x ≠ q_5 := fun z => by rw [z, hn_5] at hx; cases hx
            have x2 : x ≠ v_9 := fun z => by rw [z] at hx; rw [mset_n (Ne.symm h9.2.2.1)] at hv_9; rw [hv_9] at hx; cases hx
            have x3 : M9 x = some e := (h9.2.2.2 x x1 x2).trans hx
            have x4 : x ≠ q_76 := fun z => by rw [z, hn76] at x3; cases x3
            have x5 : x ≠ w9 := fun z => by rw [z, hw1] at x3; cases x3
            rw [mset_n x4, mset_n x5]
            exact x3
          have hz1 : My1 q_76 = none := by
            cases hz : My1 q_76 with
            | none => rfl
            | some e => have hz2 := hup q_76 e hz; have x1 : q_76 ≠ q_5 := fun z => by rw [z, hn_5] at hz; cases hz
                        have x2 : q_76 ≠ v_9 := fun z => by rw [z] at hz; rw [mset_n (Ne.symm h9.2.2.1)] at hv_9; rw [hv_9] at hz; cases hz
                        rw [(h9.2.2.2 q_76 x1 x2).trans hz] at hn76; cases hn76
          have hz3 : μ q_76 = none := (hS.2 q_76 (fun z => by rw [z, hS.1] at hz1; cases hz1)).symm.trans hz1
          refine ⟨q_76, rfl, gq76, w9, va_cpy f (fun _ => 0) 0 0 j, ⟨mset_s, ?_⟩, ?_, ⟨hup _ _ hS.1, fun x e hx he => hup x e ((hS.2 x hx).trans he)⟩, hz3⟩
          · rw [mset_n hw2, mset_s, hW]
          · intro i hi
            rw [hW] at hi
            unfold va_cpy
            rw [if_pos (by omega), show 0 + (i - 0) = i by omega]
            exact (hf i hi).1
        · refine pl_aload_n (pc := 57) dX18_word_57 rfl rfl ?_
          refine pl_aload_n (pc := 58) dX18_word_58 rfl rfl ?_
          refine pj_getf (pc := 59) ckX18 0 q1861 dX18_word_59 (by decide) ((h9.2.2.2 rd hra hrv).trans hS.1) rfl ?_
          refine pl_iload_n (pc := 62) dX18_word_62 rfl rfl ?_
          refine pl_bald (pc := 63) (n := 300) dX18_word_63 ((h9.2.2.2 t hta htv).trans ((hS.2 t htr).trans ht)) (by omega) (by decide) ?_
          refine PJ.top (y := sB (B (Q + j))) (tx.2.1 _ (by omega)) ?_
          refine pj_i2c (pc := 64) dX18_word_64 rfl ?_
          refine PJ.top (y := nI (B (Q + j))) (i2cL _ (by omega)) ?_
          refine pl_callVWd (pc := 65) (As := [_]) (C1 := 0) (N1 := 0) (C2 := 2) (N2 := 12) ckJ8 mdJ8_append_3 rfl q1907 q1908 q1909 q135 dX18_word_65 rfl rfl (Nat.le_of_ble_eq_true rfl) (h9.1) (k_J8_append_3 (d := d - 1) (by omega) h9 (by omega) (by omega)) (by omega) (by omega) (by omega) (fun My3 qy3 => ?_)
          have y3 := qy3
          refine pj_pop (pc := 68) dX18_word_68 rfl ?_
          refine pl_iinc1 (pc := 69) (lv' := [(2, _), (1, _), (0, _)]) dX18_word_69 rfl rfl (by decide) rfl ?_
          refine pj_goto (pc := 72) (tgt := 18) dX18_word_72 (by decide) ?_
          exact ih (by omega) _ _ y3 (fun i hi => by
            by_cases z : i = j
            · subst z
              exact ⟨if_pos rfl, hL⟩
            · exact ⟨(if_neg z).trans (hf i (by omega)).1, (hf i (by omega)).2⟩)
