set_option maxRecDepth 100000
theorem isW_fst {B : Nat → Nat} {q : Nat} {w : List Nat} (h : isW B q w = true) (hw : 0 < w.length) : B q = w.getD 0 0 := by
  unfold isW at h
  rw [Bool.and_eq_true, Bool.not_eq_true', anyN_ff] at h
  have h1 := h.1 0 hw
  rw [Bool.not_eq_false', decide_eq_true_eq] at h1
  exact h1
theorem StX.but {μ im M M1 : Mem} {rd t n p o q : Nat} (h : StX μ rd t n p o im M) (hq : q ≠ rd) (h1 : μ q = none) (h2 : im q = none) (k : ∀ x, x ≠ q → M1 x = M x) : StX μ rd t n p o im M1 :=
  ⟨⟨(k rd (Ne.symm hq)).trans h.1.1, fun x e hx hm => (k x (fun z => by rw [z, h1] at hm; cases hm)).trans (h.1.2 x e hx hm)⟩, fun x e hm => ⟨(k x (fun z => by rw [z, h2] at hm; cases hm)).trans (h.2.1 x e hm).1, (h.2.1 x e hm).2⟩, h.2.2⟩
theorem unitW_t : ∀ k, k < 5 → unitW k = toldW k := by
  intro k hk
  rcases (by omega : k = 0 ∨ k = 1 ∨ k = 2 ∨ k = 3 ∨ k = 4) with rfl | rfl | rfl | rfl | rfl <;> rfl
section UP
variable {B : Nat → Nat} {n f p o : Nat}
theorem told_no40 {ch : Nat} (hc : ch < 97) (h : B p = ch) : ∀ j, j < 8 → ¬ isW B p (unitW j) = true := fun j hj hw => by
  have h1 := isW_fst hw (by rcases (by omega : j = 0 ∨ j = 1 ∨ j = 2 ∨ j = 3 ∨ j = 4 ∨ j = 5 ∨ j = 6 ∨ j = 7) with rfl | rfl | rfl | rfl | rfl | rfl | rfl | rfl <;> decide)
  have h2 : 97 ≤ (unitW j).getD 0 0 := by rcases (by omega : j = 0 ∨ j = 1 ∨ j = 2 ∨ j = 3 ∨ j = 4 ∨ j = 5 ∨ j = 6 ∨ j = 7) with rfl | rfl | rfl | rfl | rfl | rfl | rfl | rfl <;> decide
  omega
theorem first_none (h : ∀ j, j < 8 → ¬ isW B p (unitW j) = true) : firstW B toldW p 5 0 = none := firstW_no 5 0 (fun j hj hw => h j (by omega) (by rw [unitW_t j (by omega)]; exact hw))
theorem P4_par (hD : isD (B (sk B n p)) = false) (h : B (sk B n p) = 40) : PF B n (f + 1) 4 p o = parP (B := B) (n := n) f (sk B n p) o := by
  rw [PF_4, if_neg (by rw [hD]; decide), first_none (told_no40 (by decide) h)]
  show (if B (sk B n p) = 40 then _ else _) = _
  rw [if_pos h]
theorem P4_told {k : Nat} (hk : k < 5) (hD : isD (B (sk B n p)) = false) (h : firstW B toldW (sk B n p) 5 0 = some k) : PF B n (f + 1) 4 p o = some (.inr (sk B n p + (toldW k).length, o, [(15, nI k)])) := by
  rw [PF_4, if_neg (by rw [hD]; decide), h]
theorem leastP_b {q : Nat} : leastP (B := B) (n := n) f q o = boundP B n f (isW B q wLeast) (q + (if isW B q wLeast = true then 5 else 4)) o := by
  unfold leastP boundP
  simp only [thenR_assoc]
theorem ifP_c {q : Nat} : ifP (B := B) (n := n) f q o = choiceP B n f (q + 2) o := by
  unfold ifP choiceP
  simp only [thenR_assoc]
theorem P4_least (hD : isD (B (sk B n p)) = false) (h40 : ¬ B (sk B n p) = 40) (h5 : firstW B toldW (sk B n p) 5 0 = none) (h : isW B (sk B n p) wLeast = true ∨ isW B (sk B n p) wMost = true) : PF B n (f + 1) 4 p o = boundP B n f (isW B (sk B n p) wLeast) (sk B n p + (if isW B (sk B n p) wLeast = true then 5 else 4)) o := by
  rw [PF_4, if_neg (by rw [hD]; decide), h5]
  show (if B (sk B n p) = 40 then _ else _) = _
  rw [if_neg h40, if_pos h]
  exact leastP_b
theorem P4_if (hD : isD (B (sk B n p)) = false) (h40 : ¬ B (sk B n p) = 40) (h5 : firstW B toldW (sk B n p) 5 0 = none) (h : ¬ (isW B (sk B n p) wLeast = true ∨ isW B (sk B n p) wMost = true)) (h2 : isW B (sk B n p) wIf = true) : PF B n (f + 1) 4 p o = choiceP B n f (sk B n p + 2) o := by
  rw [PF_4, if_neg (by rw [hD]; decide), h5]
  show (if B (sk B n p) = 40 then _ else _) = _
  rw [if_neg h40, if_neg h, if_pos h2]
  exact ifP_c
theorem P4_no (hD : isD (B (sk B n p)) = false) (h40 : ¬ B (sk B n p) = 40) (h : ∀ j, j < 8 → ¬ isW B (sk B n p) (unitW j) = true) : PF B n (f + 1) 4 p o = some (.inl (1, sk B n p)) := by
  rw [PF_4, if_neg (by rw [hD]; decide), first_none h]
  show (if B (sk B n p) = 40 then _ else _) = _
  rw [if_neg h40, if_neg (fun z => z.elim (h 5 (by decide)) (h 6 (by decide))), if_neg (show ¬ isW B (sk B n p) wIf = true from h 7 (by decide))]
theorem MnP.bound (hB : ∀ k, n ≤ k → B k = 0) {l : Bool} : MnP n 5 (boundP B n f l) := fun p o p1 o1 L hp e => by
  unfold boundP at e
  rw [bracketP_V] at e
  rcases thenV_cases e with ⟨k, w, -, hx⟩ | ⟨p2, o2, hv, hx⟩
  · cases hx
  · obtain ⟨-, a, b, -⟩ := bracket_in hB hp hv
    obtain ⟨c, d⟩ := (MnP.then (MnP.PFE (tag := 0) hB (by decide)) (MnP.then (MnP.sign (ch := 44) hB (by decide)) (MnP.then (MnP.PFE (tag := 0) hB (by decide)) (MnP.then (MnP.closes (ch := 41) hB (by decide)) MnP.emit)))) _ _ _ _ _ b hx
    exact ⟨by omega, d⟩
theorem MnP.choice (hB : ∀ k, n ≤ k → B k = 0) : MnP n 9 (choiceP B n f) := fun p o p1 o1 L hp e => by
  unfold choiceP at e
  rw [bracketP_V] at e
  rcases thenV_cases e with ⟨k, w, -, hx⟩ | ⟨p2, o2, hv, hx⟩
  · cases hx
  · obtain ⟨-, a, b, -⟩ := bracket_in hB hp hv
    obtain ⟨c, d⟩ := (MnP.then (MnP.PFT (tag := 5) hB (by decide)) (MnP.then (MnP.sign (ch := 44) hB (by decide)) (MnP.then (MnP.PFE (tag := 0) hB (by decide)) (MnP.then (MnP.sign (ch := 44) hB (by decide)) (MnP.then (MnP.PFE (tag := 0) hB (by decide)) (MnP.then (MnP.closes (ch := 41) hB (by decide)) MnP.emit)))))) _ _ _ _ _ b hx
    exact ⟨by omega, d⟩
theorem toldW_4 : ∀ k, 4 ≤ (toldW k).length := fun k => by
  match k with
  | 0 => decide
  | 1 => decide
  | 2 => decide
  | 3 => decide
  | k + 4 => show 4 ≤ [115, 111, 105, 108].length; decide
/-- a unit that is no figures and no brackets -/
theorem unit_min (hB : ∀ k, n ≤ k → B k = 0) (hp : p ≤ n) (hD : isD (B (sk B n p)) = false) (h40 : ¬ B (sk B n p) = 40) {p1 o1 : Nat} {L : List Cd} (h : PF B n (f + 1) 4 p o = some (.inr (p1, o1, L))) : sk B n p + 4 ≤ p1 ∧ p1 ≤ n := by
  have hq := sk_in (B := B) hp
  cases h5 : firstW B toldW (sk B n p) 5 0 with
  | some k =>
    have hk := firstW_lt _ _ _ h5
    have h1 := isW_in (firstW_in _ _ _ h5) (told_nz k) hB hq.2
    have h2 := toldW_4 k
    rw [P4_told (by omega) hD h5] at h
    cases h
    exact ⟨by omega, h1⟩
  | none =>
    by_cases hl : isW B (sk B n p) wLeast = true ∨ isW B (sk B n p) wMost = true
    · rw [P4_least hD h40 h5 hl] at h
      have h4 : sk B n p + (if isW B (sk B n p) wLeast = true then 5 else 4) ≤ n := by
        split
        · rename_i h2
          exact isW_in h2 (by decide) hB hq.2
        · rename_i h2
          exact isW_in (hl.resolve_left h2) (by decide) hB hq.2
      obtain ⟨a, b⟩ := MnP.bound hB _ _ _ _ _ h4 h
      exact ⟨by split at a <;> omega, b⟩
    · by_cases hi : isW B (sk B n p) wIf = true
      · rw [P4_if hD h40 h5 hl hi] at h
        obtain ⟨a, b⟩ := MnP.choice hB _ _ _ _ _ (isW_in hi (by decide) hB hq.2) h
        exact ⟨by omega, b⟩
      · rw [PF_4, if_neg (by rw [hD]; decide), h5] at h
        have h : (if B (sk B n p) = 40 then parP (B := B) (n := n) f (sk B n p) o else if isW B (sk B n p) wLeast = true ∨ isW B (sk B n p) wMost = true then leastP (B := B) (n := n) f (sk B n p) o else if isW B (sk B n p) wIf = true then ifP (B := B) (n := n) f (sk B n p) o else some (.inl (1, sk B n p))) = some (.inr (p1, o1, L)) := h
        rw [if_neg h40, if_neg hl, if_neg hi] at h
        cases h
end UP
set_option maxHeartbeats 400000 in
theorem K_X18_one {g : GP} {rd t n : Nat} {r : Nat → Int32} {B : Nat → Nat} (htr : t ≠ rd) (tx : TxR r n B) {f : Nat} (H : ∀ f1, f1 ≤ f → KAX g rd t n r B f1) : KX g GdT rd t n r yX18_one (ws_ yX18_one cX18_one 3 (some (.object "SettlerColony$Cond"))) 2 4 41 9 549 72 (PF B n (f + 1) 9) := by
  intro p o d μ x hp ho hd h0 ht hx
  have hn3 := tx.1
  have hB := tx.2.2.2
  have y0 := StX.rf h0
  have hsk := sk_in (B := B) hp
  have hss := sk_sk (p := p) hB
  have hx0 : PF B n (f + 1) 9 (sk B n p) o = some x := by
    rw [PF_9, hss]
    rw [PF_9] at hx
    exact hx
  have hg_0 : ∀ pf of Lf, x = .inr (pf, of, Lf) → sk B n p + 3 ≤ pf ∧ pf ≤ n := fun pf of Lf e => MnP.PFT (tag := 9) hB (by decide) _ _ _ _ _ hsk.2 (show _ = some (Sum.inr (pf, of, Lf)) by rw [← e]; exact hx0)
  rw [PF_9] at hx
  refine PM.of (by decide +kernel) (Nat.le_of_ble_eq_true rfl) ?_
  refine PJ.ok (fun G => ?_)
  show PJ g _ _ _ _ d (coX 16 41 9 n p x) (coX 200 549 72 n p x) 0 [(0, .ref rd)] [] _ _
  refine pl_aload_n (pc := 0) dX18_one_0 rfl rfl ?_
  refine pl_callVWd (pc := 1) (As := []) (C1 := 0) (N1 := 0) (C2 := (coX 16 41 9 n p x)) (N2 := (coX 200 549 72 n p x)) ckX18 mdX18_sign rfl q1896 q1898 qs15 q167 dX18_one_1 rfl rfl (Nat.le_of_ble_eq_true rfl) y0.rd (x_X18_sign (d := d - 1) (by omega) y0.rd (y0.get htr ht) htr tx (by omega)) (by omega) (by omega) (by omega) (fun My31 qy31 => ?_)
  have y31 := y0.callV (RdS.X qy31)
  have hpy31 := (sk_in (B := B) (show p ≤ n by omega))
  refine pl_bipush (pc := 4) (v := 91) dX18_one_4 (by rfl) ?_
  refine pj_icmp_ne (pc := 6) (tgt := 27) dX18_one_6 (by decide) (fun c6 => ?_) (fun c6 => ?_)
  · refine pl_aload_n (pc := 27) dX18_one_27 rfl rfl ?_
    refine pl_callVQ (pc := 28) (As := []) (C1 := 4) (N1 := 32) (C2 := (coX 16 45 5 n (sk B n p) x)) (N2 := (coX 200 581 40 n (sk B n p) x)) ckX18 mdX18_word rfl q1900 q1902 qs16 q167 dX18_one_28 rfl rfl (Nat.le_of_ble_eq_true rfl) y31.rd (x_X18_word (d := d - 1) (by omega) y31.rd (y31.get htr ht) htr tx (by omega)) (by omega) (by rcases x with ⟨_, _⟩ | ⟨_, _, _⟩ <;> simp only [coX, appR] <;> first | omega | (have h9 := hg_0 _ _ _ rfl; omega)) (by rcases x with ⟨_, _⟩ | ⟨_, _, _⟩ <;> simp only [coX, appR] <;> first | omega | (have h9 := hg_0 _ _ _ rfl; omega)) (fun q_28 M_28 hM => ?_)
    obtain ⟨gq, w9, f9, hst, hf, hX, hfr⟩ := hM
    rw [hss] at hst hf hX
    have yw := y31.callV hX
    have hwl := (wlF_sp (B := B) 8 (sk B n p)).1
    have hwl2 : wlen B (sk B n p) < 1000 := Nat.lt_of_le_of_lt hwl (by decide)
    obtain ⟨a221, v221, vr221, sc221⟩ := lit_X18_221 G
    refine pj_ldcS (pc := 31) vr221 dX18_one_31 ?_
    have hq33 := k_J9_equals_m (μ := M_28) (d := d - 1) (bs := wNot) (by omega) hst hwl2 gq sc221 (by decide)
    rw [eqW_isW hf tx.2.2.1 (by decide) (by decide)] at hq33
    refine pl_callVd (pc := 33) (As := [_]) (C1 := 0) (N1 := 0) (C2 := (coX 16 45 5 n (sk B n p) x)) (N2 := (coX 200 581 40 n (sk B n p) x)) ckJ9 mdJ9_equals rfl q1993 q1655 q3212 q136 dX18_one_33 rfl rfl (Nat.le_of_ble_eq_true rfl) hst.1 (hq33) (by omega) (by omega) (by omega) ?_
    refine pl_if_eqB (pc := 36) (tgt := 68) dX18_one_36 (by decide) (fun c36 => ?_) (fun c36 => ?_)
    · have hc91 : ¬ B (sk B n p) = 91 := fun z => c6 ((sB_eq _ (tx.2.2.1 _) 91 (by decide)).mpr z)
      rw [if_neg (show ¬ isW B (sk B n p) wNot = true by rw [c36]; decide), if_neg hc91] at hx
      refine pl_aload_n (pc := 68) dX18_one_68 rfl rfl ?_
      obtain ⟨X_69, hX_69, hx⟩ := thenR_get hx
      rcases X_69 with ⟨k9, w9⟩ | ⟨p_69, o_69, L_69⟩
      · have e9 := bind_l hx
        subst e9
        refine pl_callVR (pc := 69) (As := []) (C1 := _) (N1 := _) (C2 := 0) (N2 := 0) ckX18 mdX18_expr rfl q2049 q2051 qs21 q167 dX18_one_69 rfl rfl (Nat.le_of_ble_eq_true rfl) yw.rd ((H f (Nat.le_refl _)).1 (sk B n p) o (d - 1) _ (.inl (k9, w9)) (by omega) (by omega) (by omega) yw.rd (yw.get htr ht) hX_69) (by omega) (by simp only [coX, appR]; omega) (by simp only [coX, appR]; omega) (fun _ _ _ _ _ _ _ e _ _ _ => by cases e) (fun k8 w8 q8 M8 e8 hq8 hP8 => by cases e8; exact px_out0 rfl ⟨q8, rfl, hq8, yw.fault hP8⟩)
      obtain ⟨x_69, hz_69, ez_69⟩ := bind_r hx
      clear hx
      subst ez_69
      have hx := hz_69
      obtain ⟨ho_69, hi_69, hn_69⟩ := PF_in hB f 0 _ _ (by decide) (by omega) _ _ _ hX_69
      have hm_69 := (PF_min f 0 _ _ _ _ _ hX_69).1 (by decide)
      have hg_69 : ∀ pf of Lf, x_69 = .inr (pf, of, Lf) → p_69 + 2 ≤ pf ∧ pf ≤ n := fun pf of Lf e => by have h9 := (MnP.cmp hB) _ _ _ _ _ (show p_69 ≤ n by omega) (show _ = some (Sum.inr (pf, of, Lf)) by rw [← e]; exact hx); exact ⟨by omega, h9.2⟩
      refine pl_callVR (pc := 69) (As := []) (C1 := _) (N1 := _) (C2 := (coX 16 30 5 n p_69 x_69)) (N2 := (coX 200 389 40 n p_69 x_69)) ckX18 mdX18_expr rfl q2049 q2051 qs21 q167 dX18_one_69 rfl rfl (Nat.le_of_ble_eq_true rfl) yw.rd ((H f (Nat.le_refl _)).1 (sk B n p) o (d - 1) _ (.inr (p_69, o_69, L_69)) (by omega) (by omega) (by omega) yw.rd (yw.get htr ht) hX_69) (by omega) (by rcases x_69 with ⟨_, _⟩ | ⟨_, _, _⟩ <;> simp only [coX, appR] <;> first | omega | (have h9 := hg_69 _ _ _ rfl; omega)) (by rcases x_69 with ⟨_, _⟩ | ⟨_, _, _⟩ <;> simp only [coX, appR] <;> first | omega | (have h9 := hg_69 _ _ _ rfl; omega)) (fun p9 o9 L9 q_69 h_69 im_69 M_69 e9 y9 z_69 hh_69 => ?_) (fun _ _ _ _ e _ _ => by cases e)
      cases e9
      have y32 := yw.call y9.1 y9.2.1
      have u_69 := yw.upr y9.2.1
      refine pj_astore_n (pc := 72) (lv' := [(1, _), (0, _)]) dX18_one_72 rfl (by decide) rfl ?_
      refine pl_aload_n (pc := 73) dX18_one_73 rfl rfl ?_
      refine pl_callVWd (pc := 74) (As := []) (C1 := 0) (N1 := 0) (C2 := (coX 16 30 5 n p_69 x_69)) (N2 := (coX 200 389 40 n p_69 x_69)) ckX18 mdX18_sign rfl q1896 q1898 qs15 q167 dX18_one_74 rfl rfl (Nat.le_of_ble_eq_true rfl) y32.rd (x_X18_sign (d := d - 1) (by omega) y32.rd (y32.get htr ht) htr tx (by omega)) (by omega) (by omega) (by omega) (fun My33 qy33 => ?_)
      have y33 := y32.callV (RdS.X qy33)
      have hpy33 := (sk_in (B := B) (show p_69 ≤ n by omega))
      refine pj_istore_n (pc := 77) (lv' := [(2, _), (1, _), (0, _)]) dX18_one_77 rfl (by decide) rfl ?_
      refine pl_iload_n (pc := 78) dX18_one_78 rfl rfl ?_
      refine pl_bipush (pc := 79) (v := 60) dX18_one_79 (by rfl) ?_
      refine pj_icmp_eq (pc := 81) (tgt := 101) dX18_one_81 (by decide) (fun c81 => ?_) (fun c81 => ?_)
      · have hc : B (sk B n p_69) = 60 := (sB_eq _ (tx.2.2.1 _) 60 (by decide)).mp c81
        have hlt : sk B n p_69 < n := by
          rcases Nat.lt_or_ge (sk B n p_69) n with z9 | z9
          · omega
          · rw [hB _ z9] at hc; cases hc
        unfold cmpT at hx
        rw [if_pos (Or.inl hc), if_pos hc] at hx
        obtain ⟨X3, hX3, hx3⟩ := thenR_get hx
        rcases X3 with ⟨k9, w9⟩ | ⟨p3, o3, L3⟩
        · have e9 := bind_l hx3
          subst e9
          refine PJ.widen (C1 := 1 + (16 * (n - (sk B n p_69 + 1)) + 5)) (N1 := 3 + (200 * (n - (sk B n p_69 + 1)) + 40)) (by simp only [coX, appR]; omega) (by simp only [coX, appR]; omega) ?_
          refine pl_aload_n (pc := 101) dX18_one_101 rfl rfl ?_
          refine pj_dup (pc := 102) dX18_one_102 rfl ?_
          refine pj_getf (pc := 103) ckX18 2 q1863 dX18_one_103 (by decide) y33.rd rfl ?_
          refine pl_iconst (pc := 106) (v := 1) dX18_one_106 (by rfl) ?_
          refine pl_iadd (pc := 107) dX18_one_107 ?_
          refine pj_putf (pc := 108) ckX18 2 q1863 dX18_one_108 (by decide) rfl y33.rd rfl rfl (Nat.le_of_ble_eq_true rfl) ?_
          refine PJ.mem (show _ = (mset My33 rd (rdO t n (sk B n p_69 + 1) o_69)) from rfl) ?_
          have y34 := StX.of (p1 := (sk B n p_69 + 1)) (o1 := o_69) y33
          refine pj_new (pc := 111) (C1 := (16 * (n - (sk B n p_69 + 1)) + 5)) (N1 := (200 * (n - (sk B n p_69 + 1)) + 40)) ckX29 q2201 q2202 q178 dX18_one_111 _ dfX29 (by omega) (by omega) (fun q_111 hn_111 gq_111 => ?_)
          refine pj_dup (pc := 114) dX18_one_114 rfl ?_
          refine pl_aload_n (pc := 115) dX18_one_115 rfl rfl ?_
          refine pl_iload_n (pc := 116) dX18_one_116 rfl rfl ?_
          refine pj_i2c (pc := 117) dX18_one_117 rfl ?_
          refine PJ.top (y := cmc 12) (by rw [c81]; decide) ?_
          refine pl_aload_n (pc := 118) dX18_one_118 rfl rfl ?_
          have w_9 := StX.new (c := (.inr (31, [.null, .null, .int 0]))) y34 hn_111
          refine pl_callVR (pc := 119) (As := []) (C1 := _) (N1 := _) (C2 := 0) (N2 := 0) ckX18 mdX18_expr rfl q2049 q2051 qs21 q167 dX18_one_119 rfl rfl (Nat.le_of_ble_eq_true rfl) w_9.rd ((H f (Nat.le_refl _)).1 (sk B n p_69 + 1) o_69 (d - 1) _ (.inl (k9, w9)) (by omega) (by omega) (by omega) w_9.rd (w_9.get htr ht) hX3) (by omega) (Nat.le_refl _) (Nat.le_refl _) (fun _ _ _ _ _ _ _ e _ _ _ => by cases e) (fun k8 w8 q8 M8 e8 hq8 hP8 => by cases e8; exact px_out0 rfl ⟨q8, rfl, hq8, w_9.fault hP8⟩)
        · obtain ⟨x4, hx4, rfl⟩ := bind_r hx3
          cases hx4
          obtain ⟨ho3, hi3, hn9⟩ := PF_in hB f 0 _ _ (by decide) (by omega) _ _ _ hX3
          have hm3 := (PF_min f 0 _ _ _ _ _ hX3).1 (by decide)
          refine PJ.widen (C1 := 1 + (16 * (p3 - (sk B n p_69 + 1)) - 15)) (N1 := 3 + (200 * (p3 - (sk B n p_69 + 1)) - 192)) (by simp only [coX, appR]; omega) (by simp only [coX, appR]; omega) ?_
          refine pl_aload_n (pc := 101) dX18_one_101 rfl rfl ?_
          refine pj_dup (pc := 102) dX18_one_102 rfl ?_
          refine pj_getf (pc := 103) ckX18 2 q1863 dX18_one_103 (by decide) y33.rd rfl ?_
          refine pl_iconst (pc := 106) (v := 1) dX18_one_106 (by rfl) ?_
          refine pl_iadd (pc := 107) dX18_one_107 ?_
          refine pj_putf (pc := 108) ckX18 2 q1863 dX18_one_108 (by decide) rfl y33.rd rfl rfl (Nat.le_of_ble_eq_true rfl) ?_
          refine PJ.mem (show _ = (mset My33 rd (rdO t n (sk B n p_69 + 1) o_69)) from rfl) ?_
          have y35 := StX.of (p1 := (sk B n p_69 + 1)) (o1 := o_69) y33
          refine pj_new (pc := 111) (C1 := (16 * (p3 - (sk B n p_69 + 1)) - 15)) (N1 := (200 * (p3 - (sk B n p_69 + 1)) - 192)) ckX29 q2201 q2202 q178 dX18_one_111 _ dfX29 (by omega) (by omega) (fun q_111 hn_111 gq_111 => ?_)
          refine pj_dup (pc := 114) dX18_one_114 rfl ?_
          refine pl_aload_n (pc := 115) dX18_one_115 rfl rfl ?_
          refine pl_iload_n (pc := 116) dX18_one_116 rfl rfl ?_
          refine pj_i2c (pc := 117) dX18_one_117 rfl ?_
          refine PJ.top (y := cmc 12) (by rw [c81]; decide) ?_
          refine pl_aload_n (pc := 118) dX18_one_118 rfl rfl ?_
          have w_9 := StX.new (c := (.inr (31, [.null, .null, .int 0]))) y35 hn_111
          refine pl_callVR (pc := 119) (As := []) (C1 := _) (N1 := _) (C2 := 0) (N2 := 0) ckX18 mdX18_expr rfl q2049 q2051 qs21 q167 dX18_one_119 rfl rfl (Nat.le_of_ble_eq_true rfl) w_9.rd ((H f (Nat.le_refl _)).1 (sk B n p_69 + 1) o_69 (d - 1) _ (.inr (p3, o3, L3)) (by omega) (by omega) (by omega) w_9.rd (w_9.get htr ht) hX3) (by omega) (Nat.le_refl _) (Nat.le_refl _) (fun p9 o9 L9 q_3 h_3 im_3 M_3 e9 y9 z_3 hh_3 => ?_) (fun _ _ _ _ e _ _ => by cases e)
          cases e9
          have y_3 := w_9.call y9.1 y9.2.1
          have u_3 := w_9.upr y9.2.1
          have m_3 : M_3 q_111 = some (.inr (31, [.null, .null, .int 0])) := y9.get (y35.nrd hn_111) mset_s
          have i_3 := imU_no (y35.imn hn_111) (y9.2.1.no (mset_s (μ := _) (a := q_111)))
          refine pl_callIv (pc := 122) (As := [_, _, _]) (C1 := 0) (N1 := 0) (C2 := 0) (N2 := 0) mdX29_init rfl q2203 q2204 q178 dX18_one_122 rfl rfl (Nat.le_of_ble_eq_true rfl) (k_X29_init (d := d - 1) (by omega) (by rfl) (by rfl) m_3) (by omega) (by omega) (by omega) ?_
          refine pj_aret (pc := 125) dX18_one_125 rfl (Or.inl ⟨_, rfl⟩) (Or.inr ⟨_, rfl⟩) ?_
          have y_4 := (StX.cell (c := (.inr (31, [.ref q_69, .ref q_3, .int (cmc 12)]))) y_3 (y35.nrd hn_111) (y35.mu hn_111) i_3).keep (y35.mu hn_111) mset_s
          have z_4 := GdT.mkCmp (q := q_111) (k := 12) (im := mset (imU _ im_3) q_111 (.inr (31, [.ref q_69, .ref q_3, .int (cmc 12)]))) (by decide) mset_s (z_69.mono (fun a e w => mset_up i_3 a e (imU_l a e (u_69 a e w))) (Nat.le_max_left h_69 h_3)) (z_3.mono (fun a e w => mset_up i_3 a e (u_3 a e w)) (Nat.le_max_right h_69 h_3))
          exact ⟨q_111, _, _, rfl, y_4, z_4, by omega⟩
      · refine pl_iload_n (pc := 84) dX18_one_84 rfl rfl ?_
        refine pl_bipush (pc := 85) (v := 62) dX18_one_85 (by rfl) ?_
        refine pj_icmp_eq (pc := 87) (tgt := 101) dX18_one_87 (by decide) (fun c87 => ?_) (fun c87 => ?_)
        · have hc : B (sk B n p_69) = 62 := (sB_eq _ (tx.2.2.1 _) 62 (by decide)).mp c87
          have hlt : sk B n p_69 < n := by
            rcases Nat.lt_or_ge (sk B n p_69) n with z9 | z9
            · omega
            · rw [hB _ z9] at hc; cases hc
          unfold cmpT at hx
          rw [if_pos (Or.inr (Or.inl hc)), if_neg (by rw [hc]; decide), if_pos hc] at hx
          obtain ⟨X3, hX3, hx3⟩ := thenR_get hx
          rcases X3 with ⟨k9, w9⟩ | ⟨p3, o3, L3⟩
          · have e9 := bind_l hx3
            subst e9
            refine PJ.widen (C1 := 1 + (16 * (n - (sk B n p_69 + 1)) + 5)) (N1 := 3 + (200 * (n - (sk B n p_69 + 1)) + 40)) (by simp only [coX, appR]; omega) (by simp only [coX, appR]; omega) ?_
            refine pl_aload_n (pc := 101) dX18_one_101 rfl rfl ?_
            refine pj_dup (pc := 102) dX18_one_102 rfl ?_
            refine pj_getf (pc := 103) ckX18 2 q1863 dX18_one_103 (by decide) y33.rd rfl ?_
            refine pl_iconst (pc := 106) (v := 1) dX18_one_106 (by rfl) ?_
            refine pl_iadd (pc := 107) dX18_one_107 ?_
            refine pj_putf (pc := 108) ckX18 2 q1863 dX18_one_108 (by decide) rfl y33.rd rfl rfl (Nat.le_of_ble_eq_true rfl) ?_
            refine PJ.mem (show _ = (mset My33 rd (rdO t n (sk B n p_69 + 1) o_69)) from rfl) ?_
            have y36 := StX.of (p1 := (sk B n p_69 + 1)) (o1 := o_69) y33
            refine pj_new (pc := 111) (C1 := (16 * (n - (sk B n p_69 + 1)) + 5)) (N1 := (200 * (n - (sk B n p_69 + 1)) + 40)) ckX29 q2201 q2202 q178 dX18_one_111 _ dfX29 (by omega) (by omega) (fun q_111 hn_111 gq_111 => ?_)
            refine pj_dup (pc := 114) dX18_one_114 rfl ?_
            refine pl_aload_n (pc := 115) dX18_one_115 rfl rfl ?_
            refine pl_iload_n (pc := 116) dX18_one_116 rfl rfl ?_
            refine pj_i2c (pc := 117) dX18_one_117 rfl ?_
            refine PJ.top (y := cmc 13) (by rw [c87]; decide) ?_
            refine pl_aload_n (pc := 118) dX18_one_118 rfl rfl ?_
            have w_9 := StX.new (c := (.inr (31, [.null, .null, .int 0]))) y36 hn_111
            refine pl_callVR (pc := 119) (As := []) (C1 := _) (N1 := _) (C2 := 0) (N2 := 0) ckX18 mdX18_expr rfl q2049 q2051 qs21 q167 dX18_one_119 rfl rfl (Nat.le_of_ble_eq_true rfl) w_9.rd ((H f (Nat.le_refl _)).1 (sk B n p_69 + 1) o_69 (d - 1) _ (.inl (k9, w9)) (by omega) (by omega) (by omega) w_9.rd (w_9.get htr ht) hX3) (by omega) (Nat.le_refl _) (Nat.le_refl _) (fun _ _ _ _ _ _ _ e _ _ _ => by cases e) (fun k8 w8 q8 M8 e8 hq8 hP8 => by cases e8; exact px_out0 rfl ⟨q8, rfl, hq8, w_9.fault hP8⟩)
          · obtain ⟨x4, hx4, rfl⟩ := bind_r hx3
            cases hx4
            obtain ⟨ho3, hi3, hn9⟩ := PF_in hB f 0 _ _ (by decide) (by omega) _ _ _ hX3
            have hm3 := (PF_min f 0 _ _ _ _ _ hX3).1 (by decide)
            refine PJ.widen (C1 := 1 + (16 * (p3 - (sk B n p_69 + 1)) - 15)) (N1 := 3 + (200 * (p3 - (sk B n p_69 + 1)) - 192)) (by simp only [coX, appR]; omega) (by simp only [coX, appR]; omega) ?_
            refine pl_aload_n (pc := 101) dX18_one_101 rfl rfl ?_
            refine pj_dup (pc := 102) dX18_one_102 rfl ?_
            refine pj_getf (pc := 103) ckX18 2 q1863 dX18_one_103 (by decide) y33.rd rfl ?_
            refine pl_iconst (pc := 106) (v := 1) dX18_one_106 (by rfl) ?_
            refine pl_iadd (pc := 107) dX18_one_107 ?_
            refine pj_putf (pc := 108) ckX18 2 q1863 dX18_one_108 (by decide) rfl y33.rd rfl rfl (Nat.le_of_ble_eq_true rfl) ?_
            refine PJ.mem (show _ = (mset My33 rd (rdO t n (sk B n p_69 + 1) o_69)) from rfl) ?_
            have y37 := StX.of (p1 := (sk B n p_69 + 1)) (o1 := o_69) y33
            refine pj_new (pc := 111) (C1 := (16 * (p3 - (sk B n p_69 + 1)) - 15)) (N1 := (200 * (p3 - (sk B n p_69 + 1)) - 192)) ckX29 q2201 q2202 q178 dX18_one_111 _ dfX29 (by omega) (by omega) (fun q_111 hn_111 gq_111 => ?_)
            refine pj_dup (pc := 114) dX18_one_114 rfl ?_
            refine pl_aload_n (pc := 115) dX18_one_115 rfl rfl ?_
            refine pl_iload_n (pc := 116) dX18_one_116 rfl rfl ?_
            refine pj_i2c (pc := 117) dX18_one_117 rfl ?_
            refine PJ.top (y := cmc 13) (by rw [c87]; decide) ?_
            refine pl_aload_n (pc := 118) dX18_one_118 rfl rfl ?_
            have w_9 := StX.new (c := (.inr (31, [.null, .null, .int 0]))) y37 hn_111
            refine pl_callVR (pc := 119) (As := []) (C1 := _) (N1 := _) (C2 := 0) (N2 := 0) ckX18 mdX18_expr rfl q2049 q2051 qs21 q167 dX18_one_119 rfl rfl (Nat.le_of_ble_eq_true rfl) w_9.rd ((H f (Nat.le_refl _)).1 (sk B n p_69 + 1) o_69 (d - 1) _ (.inr (p3, o3, L3)) (by omega) (by omega) (by omega) w_9.rd (w_9.get htr ht) hX3) (by omega) (Nat.le_refl _) (Nat.le_refl _) (fun p9 o9 L9 q_3 h_3 im_3 M_3 e9 y9 z_3 hh_3 => ?_) (fun _ _ _ _ e _ _ => by cases e)
            cases e9
            have y_3 := w_9.call y9.1 y9.2.1
            have u_3 := w_9.upr y9.2.1
            have m_3 : M_3 q_111 = some (.inr (31, [.null, .null, .int 0])) := y9.get (y37.nrd hn_111) mset_s
            have i_3 := imU_no (y37.imn hn_111) (y9.2.1.no (mset_s (μ := _) (a := q_111)))
            refine pl_callIv (pc := 122) (As := [_, _, _]) (C1 := 0) (N1 := 0) (C2 := 0) (N2 := 0) mdX29_init rfl q2203 q2204 q178 dX18_one_122 rfl rfl (Nat.le_of_ble_eq_true rfl) (k_X29_init (d := d - 1) (by omega) (by rfl) (by rfl) m_3) (by omega) (by omega) (by omega) ?_
            refine pj_aret (pc := 125) dX18_one_125 rfl (Or.inl ⟨_, rfl⟩) (Or.inr ⟨_, rfl⟩) ?_
            have y_4 := (StX.cell (c := (.inr (31, [.ref q_69, .ref q_3, .int (cmc 13)]))) y_3 (y37.nrd hn_111) (y37.mu hn_111) i_3).keep (y37.mu hn_111) mset_s
            have z_4 := GdT.mkCmp (q := q_111) (k := 13) (im := mset (imU _ im_3) q_111 (.inr (31, [.ref q_69, .ref q_3, .int (cmc 13)]))) (by decide) mset_s (z_69.mono (fun a e w => mset_up i_3 a e (imU_l a e (u_69 a e w))) (Nat.le_max_left h_69 h_3)) (z_3.mono (fun a e w => mset_up i_3 a e (u_3 a e w)) (Nat.le_max_right h_69 h_3))
            exact ⟨q_111, _, _, rfl, y_4, z_4, by omega⟩
        · refine pl_iload_n (pc := 90) dX18_one_90 rfl rfl ?_
          refine pl_bipush (pc := 91) (v := 61) dX18_one_91 (by rfl) ?_
          refine pj_icmp_eq (pc := 93) (tgt := 101) dX18_one_93 (by decide) (fun c93 => ?_) (fun c93 => ?_)
          · have hc : B (sk B n p_69) = 61 := (sB_eq _ (tx.2.2.1 _) 61 (by decide)).mp c93
            have hlt : sk B n p_69 < n := by
              rcases Nat.lt_or_ge (sk B n p_69) n with z9 | z9
              · omega
              · rw [hB _ z9] at hc; cases hc
            unfold cmpT at hx
            rw [if_pos (Or.inr (Or.inr hc)), if_neg (by rw [hc]; decide), if_neg (by rw [hc]; decide)] at hx
            obtain ⟨X3, hX3, hx3⟩ := thenR_get hx
            rcases X3 with ⟨k9, w9⟩ | ⟨p3, o3, L3⟩
            · have e9 := bind_l hx3
              subst e9
              refine PJ.widen (C1 := 1 + (16 * (n - (sk B n p_69 + 1)) + 5)) (N1 := 3 + (200 * (n - (sk B n p_69 + 1)) + 40)) (by simp only [coX, appR]; omega) (by simp only [coX, appR]; omega) ?_
              refine pl_aload_n (pc := 101) dX18_one_101 rfl rfl ?_
              refine pj_dup (pc := 102) dX18_one_102 rfl ?_
              refine pj_getf (pc := 103) ckX18 2 q1863 dX18_one_103 (by decide) y33.rd rfl ?_
              refine pl_iconst (pc := 106) (v := 1) dX18_one_106 (by rfl) ?_
              refine pl_iadd (pc := 107) dX18_one_107 ?_
              refine pj_putf (pc := 108) ckX18 2 q1863 dX18_one_108 (by decide) rfl y33.rd rfl rfl (Nat.le_of_ble_eq_true rfl) ?_
              refine PJ.mem (show _ = (mset My33 rd (rdO t n (sk B n p_69 + 1) o_69)) from rfl) ?_
              have y38 := StX.of (p1 := (sk B n p_69 + 1)) (o1 := o_69) y33
              refine pj_new (pc := 111) (C1 := (16 * (n - (sk B n p_69 + 1)) + 5)) (N1 := (200 * (n - (sk B n p_69 + 1)) + 40)) ckX29 q2201 q2202 q178 dX18_one_111 _ dfX29 (by omega) (by omega) (fun q_111 hn_111 gq_111 => ?_)
              refine pj_dup (pc := 114) dX18_one_114 rfl ?_
              refine pl_aload_n (pc := 115) dX18_one_115 rfl rfl ?_
              refine pl_iload_n (pc := 116) dX18_one_116 rfl rfl ?_
              refine pj_i2c (pc := 117) dX18_one_117 rfl ?_
              refine PJ.top (y := cmc 14) (by rw [c93]; decide) ?_
              refine pl_aload_n (pc := 118) dX18_one_118 rfl rfl ?_
              have w_9 := StX.new (c := (.inr (31, [.null, .null, .int 0]))) y38 hn_111
              refine pl_callVR (pc := 119) (As := []) (C1 := _) (N1 := _) (C2 := 0) (N2 := 0) ckX18 mdX18_expr rfl q2049 q2051 qs21 q167 dX18_one_119 rfl rfl (Nat.le_of_ble_eq_true rfl) w_9.rd ((H f (Nat.le_refl _)).1 (sk B n p_69 + 1) o_69 (d - 1) _ (.inl (k9, w9)) (by omega) (by omega) (by omega) w_9.rd (w_9.get htr ht) hX3) (by omega) (Nat.le_refl _) (Nat.le_refl _) (fun _ _ _ _ _ _ _ e _ _ _ => by cases e) (fun k8 w8 q8 M8 e8 hq8 hP8 => by cases e8; exact px_out0 rfl ⟨q8, rfl, hq8, w_9.fault hP8⟩)
            · obtain ⟨x4, hx4, rfl⟩ := bind_r hx3
              cases hx4
              obtain ⟨ho3, hi3, hn9⟩ := PF_in hB f 0 _ _ (by decide) (by omega) _ _ _ hX3
              have hm3 := (PF_min f 0 _ _ _ _ _ hX3).1 (by decide)
              refine PJ.widen (C1 := 1 + (16 * (p3 - (sk B n p_69 + 1)) - 15)) (N1 := 3 + (200 * (p3 - (sk B n p_69 + 1)) - 192)) (by simp only [coX, appR]; omega) (by simp only [coX, appR]; omega) ?_
              refine pl_aload_n (pc := 101) dX18_one_101 rfl rfl ?_
              refine pj_dup (pc := 102) dX18_one_102 rfl ?_
              refine pj_getf (pc := 103) ckX18 2 q1863 dX18_one_103 (by decide) y33.rd rfl ?_
              refine pl_iconst (pc := 106) (v := 1) dX18_one_106 (by rfl) ?_
              refine pl_iadd (pc := 107) dX18_one_107 ?_
              refine pj_putf (pc := 108) ckX18 2 q1863 dX18_one_108 (by decide) rfl y33.rd rfl rfl (Nat.le_of_ble_eq_true rfl) ?_
              refine PJ.mem (show _ = (mset My33 rd (rdO t n (sk B n p_69 + 1) o_69)) from rfl) ?_
              have y39 := StX.of (p1 := (sk B n p_69 + 1)) (o1 := o_69) y33
              refine pj_new (pc := 111) (C1 := (16 * (p3 - (sk B n p_69 + 1)) - 15)) (N1 := (200 * (p3 - (sk B n p_69 + 1)) - 192)) ckX29 q2201 q2202 q178 dX18_one_111 _ dfX29 (by omega) (by omega) (fun q_111 hn_111 gq_111 => ?_)
              refine pj_dup (pc := 114) dX18_one_114 rfl ?_
              refine pl_aload_n (pc := 115) dX18_one_115 rfl rfl ?_
              refine pl_iload_n (pc := 116) dX18_one_116 rfl rfl ?_
              refine pj_i2c (pc := 117) dX18_one_117 rfl ?_
              refine PJ.top (y := cmc 14) (by rw [c93]; decide) ?_
              refine pl_aload_n (pc := 118) dX18_one_118 rfl rfl ?_
              have w_9 := StX.new (c := (.inr (31, [.null, .null, .int 0]))) y39 hn_111
              refine pl_callVR (pc := 119) (As := []) (C1 := _) (N1 := _) (C2 := 0) (N2 := 0) ckX18 mdX18_expr rfl q2049 q2051 qs21 q167 dX18_one_119 rfl rfl (Nat.le_of_ble_eq_true rfl) w_9.rd ((H f (Nat.le_refl _)).1 (sk B n p_69 + 1) o_69 (d - 1) _ (.inr (p3, o3, L3)) (by omega) (by omega) (by omega) w_9.rd (w_9.get htr ht) hX3) (by omega) (Nat.le_refl _) (Nat.le_refl _) (fun p9 o9 L9 q_3 h_3 im_3 M_3 e9 y9 z_3 hh_3 => ?_) (fun _ _ _ _ e _ _ => by cases e)
              cases e9
              have y_3 := w_9.call y9.1 y9.2.1
              have u_3 := w_9.upr y9.2.1
              have m_3 : M_3 q_111 = some (.inr (31, [.null, .null, .int 0])) := y9.get (y39.nrd hn_111) mset_s
              have i_3 := imU_no (y39.imn hn_111) (y9.2.1.no (mset_s (μ := _) (a := q_111)))
              refine pl_callIv (pc := 122) (As := [_, _, _]) (C1 := 0) (N1 := 0) (C2 := 0) (N2 := 0) mdX29_init rfl q2203 q2204 q178 dX18_one_122 rfl rfl (Nat.le_of_ble_eq_true rfl) (k_X29_init (d := d - 1) (by omega) (by rfl) (by rfl) m_3) (by omega) (by omega) (by omega) ?_
              refine pj_aret (pc := 125) dX18_one_125 rfl (Or.inl ⟨_, rfl⟩) (Or.inr ⟨_, rfl⟩) ?_
              have y_4 := (StX.cell (c := (.inr (31, [.ref q_69, .ref q_3, .int (cmc 14)]))) y_3 (y39.nrd hn_111) (y39.mu hn_111) i_3).keep (y39.mu hn_111) mset_s
              have z_4 := GdT.mkCmp (q := q_111) (k := 14) (im := mset (imU _ im_3) q_111 (.inr (31, [.ref q_69, .ref q_3, .int (cmc 14)]))) (by decide) mset_s (z_69.mono (fun a e w => mset_up i_3 a e (imU_l a e (u_69 a e w))) (Nat.le_max_left h_69 h_3)) (z_3.mono (fun a e w => mset_up i_3 a e (u_3 a e w)) (Nat.le_max_right h_69 h_3))
              exact ⟨q_111, _, _, rfl, y_4, z_4, by omega⟩
          · refine pl_aload_n (pc := 96) dX18_one_96 rfl rfl ?_
            have hne : ¬ (B (sk B n p_69) = 60 ∨ B (sk B n p_69) = 62 ∨ B (sk B n p_69) = 61) := fun zz => by
              rcases zz with zz | zz | zz
              · exact c81 ((sB_eq _ (tx.2.2.1 _) 60 (by decide)).mpr zz)
              · exact c87 ((sB_eq _ (tx.2.2.1 _) 62 (by decide)).mpr zz)
              · exact c93 ((sB_eq _ (tx.2.2.1 _) 61 (by decide)).mpr zz)
            unfold cmpT at hx
            rw [if_neg hne] at hx
            cases hx
            refine pl_callVQ (pc := 97) (As := []) (C1 := 1) (N1 := 8) (C2 := 0) (N2 := 0) ckX18 mdX18_wrong rfl q2002 q2004 qs17 q167 dX18_one_97 rfl rfl (Nat.le_of_ble_eq_true rfl) y33.rd (k_X18_wrong (d := d - 1) (by omega) y33.rd) (by omega) (by simp only [coX, appR]; omega) (by simp only [coX, appR]; omega) (fun q_9 M_9 hM_9 => ?_)
            obtain ⟨hn9, rfl⟩ := hM_9
            refine pj_athrow (pc := 100) ckX20 dX18_one_100 mset_s ?_
            exact px_out0 rfl ⟨q_9, rfl, mset_s, (StX.new (c := wr0 (nI 1) (nI (sk B n p_69))) y33 hn9).1.2⟩
    · have hin3 : sk B n p + 3 ≤ n := isW_in c36 (by decide) hB hsk.2
      rw [if_pos c36] at hx
      unfold notP at hx
      rw [thenR_assoc, thenR_assoc] at hx
      refine pl_aload_n (pc := 39) dX18_one_39 rfl rfl ?_
      refine pl_iconst (pc := 40) (v := 3) dX18_one_40 (by rfl) ?_
      rw [opensP_V] at hx
      rcases thenV_cases (v := opensR 3 (sk B n p) o) hx with ⟨k9, w9, hv, rfl⟩ | ⟨p_41, o_41, hv_41, hx⟩
      · refine pl_callVE (pc := 41) (As := [_]) (C1 := 1) (N1 := 8) (C2 := 0) (N2 := 0) ckX18 mdX18_opens rfl q2079 q2081 qs25 q167 dX18_one_41 rfl rfl (Nat.le_of_ble_eq_true rfl) yw.rd (x_X18_opens (d := d - 1) (by omega) yw.rd (by omega) hn3 (by omega) (by decide)) (by omega) (by simp only [coX, appR]; omega) (by simp only [coX, appR]; omega) (fun _ _ _ e _ => by rw [hv] at e; cases e) (fun k8 w8 q8 M8 e8 hq8 hP8 => by rw [hv] at e8; cases e8; exact px_out0 rfl ⟨q8, rfl, hq8, yw.fault hP8⟩)
      have hi_41 := opens_in hv_41
      have hg_41 : ∀ pf of Lf, x = .inr (pf, of, Lf) → p_41 + 3 ≤ pf ∧ pf ≤ n := fun pf of Lf e => by have h9 := (MnP.then (MnP.PFT (tag := 9) hB (by decide)) (MnP.then MnP.less MnP.emit)) _ _ _ _ _ (show p_41 ≤ n by omega) (show _ = some (Sum.inr (pf, of, Lf)) by rw [← e]; exact hx); exact ⟨by omega, h9.2⟩
      refine pl_callVE (pc := 41) (As := [_]) (C1 := 1) (N1 := 8) (C2 := (coX 16 0 9 n p_41 x + 2)) (N2 := (coX 200 0 72 n p_41 x + 11)) ckX18 mdX18_opens rfl q2079 q2081 qs25 q167 dX18_one_41 rfl rfl (Nat.le_of_ble_eq_true rfl) yw.rd (x_X18_opens (d := d - 1) (by omega) yw.rd (by omega) hn3 (by omega) (by decide)) (by omega) (by rcases x with ⟨_, _⟩ | ⟨_, _, _⟩ <;> simp only [coX, appR] <;> first | omega | (have h9 := hg_41 _ _ _ rfl; omega)) (by rcases x with ⟨_, _⟩ | ⟨_, _, _⟩ <;> simp only [coX, appR] <;> first | omega | (have h9 := hg_41 _ _ _ rfl; omega)) (fun p9 o9 M_41 e9 hX_41 => ?_) (fun _ _ _ _ e _ _ => by rw [hv_41] at e; cases e)
      rw [hv_41] at e9
      cases e9
      have y40 := yw.callV hX_41
      refine pj_new (pc := 44) (C1 := (coX 16 0 9 n p_41 x + 1)) (N1 := (coX 200 0 72 n p_41 x + 10)) ckX28 q2191 q2192 q177 dX18_one_44 _ dfX28 (by omega) (by omega) (fun q_44 hn_44 gq_44 => ?_)
      have w_44 := StX.new (c := (.inr (30, [.null]))) y40 hn_44
      have r_q44 := y40.nrd hn_44
      refine pj_dup (pc := 47) dX18_one_47 rfl ?_
      refine pl_aload_n (pc := 48) dX18_one_48 rfl rfl ?_
      obtain ⟨X_49, hX_49, hx⟩ := thenR_get hx
      rcases X_49 with ⟨k9, w9⟩ | ⟨p_49, o_49, L_49⟩
      · have e9 := bind_l hx
        subst e9
        refine pl_callVR (pc := 49) (As := []) (C1 := _) (N1 := _) (C2 := 0) (N2 := 0) ckX18 mdX18_one rfl q2186 q2188 qs32 q167 dX18_one_49 rfl rfl (Nat.le_of_ble_eq_true rfl) w_44.rd ((H f (Nat.le_refl _)).2.2.2.1 p_41 o_41 (d - 1) _ (.inl (k9, w9)) (by omega) (by omega) (by omega) w_44.rd (w_44.get htr ht) hX_49) (by omega) (by simp only [coX, appR]; omega) (by simp only [coX, appR]; omega) (fun _ _ _ _ _ _ _ e _ _ _ => by cases e) (fun k8 w8 q8 M8 e8 hq8 hP8 => by cases e8; exact px_out0 rfl ⟨q8, rfl, hq8, w_44.fault hP8⟩)
      obtain ⟨x_49, hz_49, ez_49⟩ := bind_r hx
      clear hx
      subst ez_49
      have hx := hz_49
      obtain ⟨ho_49, hi_49, hn_49⟩ := PF_in hB f 9 _ _ (by decide) (by omega) _ _ _ hX_49
      have hm_49 := (PF_min f 9 _ _ _ _ _ hX_49).2 (by decide)
      have hg_49 : ∀ pf of Lf, x_49 = .inr (pf, of, Lf) → p_49 + 0 ≤ pf ∧ pf ≤ n := fun pf of Lf e => by have h9 := (MnP.then MnP.less MnP.emit) _ _ _ _ _ (show p_49 ≤ n by omega) (show _ = some (Sum.inr (pf, of, Lf)) by rw [← e]; exact hx); exact ⟨by omega, h9.2⟩
      refine pl_callVR (pc := 49) (As := []) (C1 := _) (N1 := _) (C2 := (coX 16 0 9 n p_49 x_49 + 42)) (N2 := (coX 200 0 72 n p_49 x_49 + 559)) ckX18 mdX18_one rfl q2186 q2188 qs32 q167 dX18_one_49 rfl rfl (Nat.le_of_ble_eq_true rfl) w_44.rd ((H f (Nat.le_refl _)).2.2.2.1 p_41 o_41 (d - 1) _ (.inr (p_49, o_49, L_49)) (by omega) (by omega) (by omega) w_44.rd (w_44.get htr ht) hX_49) (by omega) (by rcases x_49 with ⟨_, _⟩ | ⟨_, _, _⟩ <;> simp only [coX, appR] <;> first | omega | (have h9 := hg_49 _ _ _ rfl; omega)) (by rcases x_49 with ⟨_, _⟩ | ⟨_, _, _⟩ <;> simp only [coX, appR] <;> first | omega | (have h9 := hg_49 _ _ _ rfl; omega)) (fun p9 o9 L9 q_49 h_49 im_49 M_49 e9 y9 z_49 hh_49 => ?_) (fun _ _ _ _ e _ _ => by cases e)
      cases e9
      have y41 := w_44.call y9.1 y9.2.1
      have u_49 := w_44.upr y9.2.1
      have n_q44_49 := y9.2.1.no (mset_s (μ := _) (a := q_44))
      have m_q44_49 := y9.get r_q44 (mset_s (μ := _) (a := q_44))
      refine pl_callIv (pc := 52) (As := [_]) (C1 := 0) (N1 := 0) (C2 := (coX 16 0 9 n p_49 x_49 + 42)) (N2 := (coX 200 0 72 n p_49 x_49 + 559)) mdX28_init rfl q2193 q2194 q177 dX18_one_52 rfl rfl (Nat.le_of_ble_eq_true rfl) (k_X28_init (d := d - 1) (by omega) m_q44_49) (by omega) (by omega) (by omega) ?_
      have i_44 := imU_no (i9 := fun _ => none) rfl n_q44_49
      have y_44 := (StX.cell (c := (.inr (30, [.ref q_49]))) y41 (y40.nrd hn_44) (y40.mu hn_44) i_44).keep (y40.mu hn_44) mset_s
      have z_44 := GdT.mkNot (q := q_44) (a := q_49) (im := mset (imU _ im_49) q_44 (.inr (30, [.ref q_49]))) mset_s (z_49.mono (fun a e w => mset_up i_44 a e (u_49 a e w)) (Nat.le_refl _))
      refine pj_astore_n (pc := 55) (lv' := [(1, _), (0, _)]) dX18_one_55 rfl (by decide) rfl ?_
      refine pl_aload_n (pc := 56) dX18_one_56 rfl rfl ?_
      refine pj_dup (pc := 57) dX18_one_57 rfl ?_
      refine pj_getf (pc := 58) ckX18 3 q1864 dX18_one_58 (by decide) y_44.rd rfl ?_
      refine pl_iconst (pc := 61) (v := 1) dX18_one_61 (by rfl) ?_
      refine pl_isub (pc := 62) dX18_one_62 (by omega) ?_
      refine pj_putf (pc := 63) ckX18 3 q1864 dX18_one_63 (by decide) rfl y_44.rd rfl rfl (Nat.le_of_ble_eq_true rfl) ?_
      refine PJ.mem (show _ = (mset (mset M_49 q_44 (.inr (30, [.ref q_49]))) rd (rdO t n p_49 (o_49 - 1))) from rfl) ?_
      have y42 := StX.of (p1 := p_49) (o1 := (o_49 - 1)) y_44
      refine pl_aload_n (pc := 66) dX18_one_66 rfl rfl ?_
      refine pj_aret (pc := 67) dX18_one_67 rfl (Or.inl ⟨_, rfl⟩) (Or.inr ⟨_, rfl⟩) ?_
      have hx9 := less_get hx
      cases hx9
      exact ⟨q_44, _, _, rfl, y42, z_44, by omega⟩
  · have hc : B (sk B n p) = 91 := (sB_eq _ (tx.2.2.1 _) 91 (by decide)).mp c6
    have hlt9 : sk B n p < n := (Nat.lt_or_ge (sk B n p) n).elim id (fun z9 => by rw [hB _ z9] at hc; cases hc)
    rw [if_neg (fun z => by have h9 := isW_fst z (by decide); rw [hc] at h9; cases h9), if_pos hc] at hx
    unfold brkP at hx
    rw [thenR_assoc] at hx
    refine pl_aload_n (pc := 9) dX18_one_9 rfl rfl ?_
    refine pl_iconst (pc := 10) (v := 1) dX18_one_10 (by rfl) ?_
    rw [opensP_V] at hx
    rcases thenV_cases (v := opensR 1 (sk B n p) o) hx with ⟨k9, w9, hv, rfl⟩ | ⟨p_11, o_11, hv_11, hx⟩
    · refine pl_callVE (pc := 11) (As := [_]) (C1 := 1) (N1 := 8) (C2 := 0) (N2 := 0) ckX18 mdX18_opens rfl q2079 q2081 qs25 q167 dX18_one_11 rfl rfl (Nat.le_of_ble_eq_true rfl) y31.rd (x_X18_opens (d := d - 1) (by omega) y31.rd (by omega) hn3 (by omega) (by decide)) (by omega) (by simp only [coX, appR]; omega) (by simp only [coX, appR]; omega) (fun _ _ _ e _ => by rw [hv] at e; cases e) (fun k8 w8 q8 M8 e8 hq8 hP8 => by rw [hv] at e8; cases e8; exact px_out0 rfl ⟨q8, rfl, hq8, y31.fault hP8⟩)
    have hi_11 := opens_in hv_11
    have hg_11 : ∀ pf of Lf, x = .inr (pf, of, Lf) → p_11 + 4 ≤ pf ∧ pf ≤ n := fun pf of Lf e => by have h9 := (MnP.then (MnP.PFT (tag := 5) hB (by decide)) (MnP.closes (ch := 93) hB (by decide))) _ _ _ _ _ (show p_11 ≤ n by omega) (show _ = some (Sum.inr (pf, of, Lf)) by rw [← e]; exact hx); exact ⟨by omega, h9.2⟩
    refine pl_callVE (pc := 11) (As := [_]) (C1 := 1) (N1 := 8) (C2 := (coX 16 26 15 n p_11 x)) (N2 := (coX 200 357 84 n p_11 x)) ckX18 mdX18_opens rfl q2079 q2081 qs25 q167 dX18_one_11 rfl rfl (Nat.le_of_ble_eq_true rfl) y31.rd (x_X18_opens (d := d - 1) (by omega) y31.rd (by omega) hn3 (by omega) (by decide)) (by omega) (by rcases x with ⟨_, _⟩ | ⟨_, _, _⟩ <;> simp only [coX, appR] <;> first | omega | (have h9 := hg_11 _ _ _ rfl; omega)) (by rcases x with ⟨_, _⟩ | ⟨_, _, _⟩ <;> simp only [coX, appR] <;> first | omega | (have h9 := hg_11 _ _ _ rfl; omega)) (fun p9 o9 M_11 e9 hX_11 => ?_) (fun _ _ _ _ e _ _ => by rw [hv_11] at e; cases e)
    rw [hv_11] at e9
    cases e9
    have y43 := y31.callV hX_11
    refine pl_aload_n (pc := 14) dX18_one_14 rfl rfl ?_
    obtain ⟨X_15, hX_15, hx⟩ := thenR_get hx
    rcases X_15 with ⟨k9, w9⟩ | ⟨p_15, o_15, L_15⟩
    · have e9 := bind_l hx
      subst e9
      refine pl_callVR (pc := 15) (As := []) (C1 := _) (N1 := _) (C2 := 0) (N2 := 0) ckX18 mdX18_any rfl q2154 q2156 qs30 q167 dX18_one_15 rfl rfl (Nat.le_of_ble_eq_true rfl) y43.rd ((H f (Nat.le_refl _)).2.2.2.2.2 p_11 o_11 (d - 1) _ (.inl (k9, w9)) (by omega) (by omega) (by omega) y43.rd (y43.get htr ht) hX_15) (by omega) (by simp only [coX, appR]; omega) (by simp only [coX, appR]; omega) (fun _ _ _ _ _ _ _ e _ _ _ => by cases e) (fun k8 w8 q8 M8 e8 hq8 hP8 => by cases e8; exact px_out0 rfl ⟨q8, rfl, hq8, y43.fault hP8⟩)
    obtain ⟨x_15, hz_15, ez_15⟩ := bind_r hx
    clear hx
    subst ez_15
    have hx := hz_15
    obtain ⟨ho_15, hi_15, hn_15⟩ := PF_in hB f 5 _ _ (by decide) (by omega) _ _ _ hX_15
    have hm_15 := (PF_min f 5 _ _ _ _ _ hX_15).2 (by decide)
    have hg_15 : ∀ pf of Lf, x_15 = .inr (pf, of, Lf) → p_15 + 1 ≤ pf ∧ pf ≤ n := fun pf of Lf e => by have h9 := (MnP.closes (ch := 93) hB (by decide)) _ _ _ _ _ (show p_15 ≤ n by omega) (show _ = some (Sum.inr (pf, of, Lf)) by rw [← e]; exact hx); exact ⟨by omega, h9.2⟩
    refine pl_callVR (pc := 15) (As := []) (C1 := _) (N1 := _) (C2 := (coX 16 1 15 n p_15 x_15)) (N2 := (coX 200 186 84 n p_15 x_15)) ckX18 mdX18_any rfl q2154 q2156 qs30 q167 dX18_one_15 rfl rfl (Nat.le_of_ble_eq_true rfl) y43.rd ((H f (Nat.le_refl _)).2.2.2.2.2 p_11 o_11 (d - 1) _ (.inr (p_15, o_15, L_15)) (by omega) (by omega) (by omega) y43.rd (y43.get htr ht) hX_15) (by omega) (by rcases x_15 with ⟨_, _⟩ | ⟨_, _, _⟩ <;> simp only [coX, appR] <;> first | omega | (have h9 := hg_15 _ _ _ rfl; omega)) (by rcases x_15 with ⟨_, _⟩ | ⟨_, _, _⟩ <;> simp only [coX, appR] <;> first | omega | (have h9 := hg_15 _ _ _ rfl; omega)) (fun p9 o9 L9 q_15 h_15 im_15 M_15 e9 y9 z_15 hh_15 => ?_) (fun _ _ _ _ e _ _ => by cases e)
    cases e9
    have y44 := y43.call y9.1 y9.2.1
    have u_15 := y43.upr y9.2.1
    refine pj_astore_n (pc := 18) (lv' := [(1, _), (0, _)]) dX18_one_18 rfl (by decide) rfl ?_
    refine pl_aload_n (pc := 19) dX18_one_19 rfl rfl ?_
    refine pl_bipush (pc := 20) (v := 93) dX18_one_20 (by rfl) ?_
    rw [closesP_V (ch := 93) hB (by decide)] at hx
    rcases lastV_cases (v := closesR B n 93 p_15 o_15) hx with ⟨k9, w9, hv, rfl⟩ | ⟨p_22, o_22, hv_22, rfl⟩
    · refine pl_callVE (pc := 22) (As := [_]) (C1 := 1) (N1 := 8) (C2 := 0) (N2 := 0) ckX18 mdX18_closes rfl q2083 q2085 qs26 q167 dX18_one_22 rfl rfl (Nat.le_of_ble_eq_true rfl) y44.rd (x_X18_closes (d := d - 1) (by omega) y44.rd (y44.get htr ht) htr tx (by omega) (by decide) (by decide) (by omega)) (by omega) (by simp only [coX, appR]; omega) (by simp only [coX, appR]; omega) (fun _ _ _ e _ => by rw [hv] at e; cases e) (fun k8 w8 q8 M8 e8 hq8 hP8 => by rw [hv] at e8; cases e8; exact px_out0 rfl ⟨q8, rfl, hq8, y44.fault hP8⟩)
    have hi_22 := closes_in hB (by decide) (by omega) hv_22
    refine pl_callVE (pc := 22) (As := [_]) (C1 := 1) (N1 := 8) (C2 := (coX 16 0 15 n p_22 (.inr (p_22, o_22, [])) + 14)) (N2 := (coX 200 0 84 n p_22 (.inr (p_22, o_22, [])) + 6)) ckX18 mdX18_closes rfl q2083 q2085 qs26 q167 dX18_one_22 rfl rfl (Nat.le_of_ble_eq_true rfl) y44.rd (x_X18_closes (d := d - 1) (by omega) y44.rd (y44.get htr ht) htr tx (by omega) (by decide) (by decide) (by omega)) (by omega) (by simp only [coX, appR]; omega) (by simp only [coX, appR]; omega) (fun p9 o9 M_22 e9 hX_22 => ?_) (fun _ _ _ _ e _ _ => by rw [hv_22] at e; cases e)
    rw [hv_22] at e9
    cases e9
    have y45 := y44.callV hX_22
    refine pl_aload_n (pc := 25) dX18_one_25 rfl rfl ?_
    refine pj_aret (pc := 26) dX18_one_26 rfl (Or.inl ⟨_, rfl⟩) (Or.inr ⟨_, rfl⟩) ?_
    rw [appR_end]
    exact ⟨q_15, _, h_15, rfl, y45, z_15.mono (fun a e w => u_15 a e w) (Nat.le_refl _), by omega⟩
