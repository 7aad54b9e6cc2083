set_option maxRecDepth 100000
def toldB (σ : MS) (name l : Nat) : Bool := isForceV (lawv σ l 0) && decide (0 ≤ σ.2.1 10 (8 * l + name))
def whyV (σ : MS) (nl name : Nat) : Int32 := lastI (toldB σ name) nl
theorem force_bit (σ : MS) : ∀ n, n ≤ 12 → ∀ l, l < 12 → ((forcesV σ n >>> (nI l &&& 31)) &&& nI 1 = nI 1 ↔ (l < n ∧ isForceV (lawv σ l 0) = true))
  | 0, _, l, hl => by
    have h : ∀ l, l < 12 → ¬ ((nI 0 : Int32) >>> (nI l &&& 31)) &&& nI 1 = nI 1 := by decide +kernel
    exact ⟨fun z => absurd z (h l hl), fun z => absurd z.1 (Nat.not_lt_zero _)⟩
  | n + 1, hn, l, hl => by
    have ih := force_bit σ n (by omega) l hl
    have lb := Lb_forces σ n (by omega)
    show ((forcesV σ n ||| (if isForceV (lawv σ n 0) = true then nI 1 <<< (nI n &&& 31) else nI 0)) >>> _) &&& nI 1 = nI 1 ↔ _
    rw [Int32.shiftRight_or, or_and1]
    by_cases hf : isForceV (lawv σ n 0) = true
    · rw [if_pos hf]
      by_cases e : l = n
      · subst e
        have h : ∀ l, l < 12 → nI 0 ||| (((nI 1 <<< (nI l &&& 31)) >>> (nI l &&& 31)) &&& nI 1) = nI 1 := by decide +kernel
        rw [lb l (Nat.le_refl _) hl, h l hl]
        exact ⟨fun _ => ⟨by omega, hf⟩, fun _ => rfl⟩
      · have h : ∀ n, n < 12 → ∀ l, l < 12 → ¬ l = n → ((nI 1 <<< (nI n &&& 31)) >>> (nI l &&& 31)) &&& nI 1 = nI 0 := by decide +kernel
        have h0 : ∀ x : Int32, x ||| nI 0 = x := fun x => by show x ||| 0 = x; exact Int32.or_zero
        rw [h n (by omega) l hl e, h0, ih]
        exact ⟨fun z => ⟨by omega, z.2⟩, fun z => ⟨by omega, z.2⟩⟩
    · rw [if_neg hf]
      have h : ∀ l, l < 12 → ((nI 0 : Int32) >>> (nI l &&& 31)) &&& nI 1 = nI 0 := by decide +kernel
      have h0 : ∀ x : Int32, x ||| nI 0 = x := fun x => by show x ||| 0 = x; exact Int32.or_zero
      rw [h l hl, h0, ih]
      refine ⟨fun z => ⟨by omega, z.2⟩, fun z => ⟨?_, z.2⟩⟩
      rcases Nat.lt_or_ge l n with h1 | h1
      · exact h1
      · have : l = n := by omega
        rw [this] at z
        exact absurd z.2 hf
theorem lastI_cg {p p' : Nat → Bool} : ∀ {n : Nat}, (∀ i, i < n → p i = p' i) → lastI p n = lastI p' n
  | 0, _ => rfl
  | n + 1, h => by
    have e := lastI_cg (n := n) (fun i hi => h i (by omega))
    simp only [lastI, e, h n (by omega)]
theorem lastI_up {p : Nat → Bool} {n : Nat} : ∀ {k : Nat}, (∀ i, n ≤ i → i < n + k → p i = false) → lastI p (n + k) = lastI p n
  | 0, _ => rfl
  | k + 1, h => by
    show (if p (n + k) = true then _ else _) = _
    rw [if_neg (by rw [h (n + k) (by omega) (by omega)]; decide)]
    exact lastI_up (fun i h1 h2 => h i h1 (by omega))
theorem why_law {σ : MS} {nl name : Nat} (hL : nl ≤ 12) : whyV σ nl name = lawI σ nl name := by
  have e : ∀ l, l < 12 → tells σ (forcesV σ nl) name l = (decide (l < nl) && toldB σ name l) := by
    intro l hl
    have h := force_bit σ nl hL l hl
    simp only [tells, toldB]
    by_cases h1 : l < nl ∧ isForceV (lawv σ l 0) = true
    · rw [decide_eq_true (h.mpr h1)]
      simp [h1.1, h1.2]
    · rw [decide_eq_false (fun z => h1 (h.mp z))]
      by_cases h2 : l < nl
      · have h3 : isForceV (lawv σ l 0) = false := by
          cases hh : isForceV (lawv σ l 0) with
          | false => rfl
          | true => exact absurd ⟨h2, hh⟩ h1
        simp [h3]
      · simp [h2]
  show lastI (toldB σ name) nl = lastI (tells σ (forcesV σ nl) name) 12
  rw [lastI_cg (p := tells σ (forcesV σ nl) name) (n := 12) e]
  have e12 : 12 = nl + (12 - nl) := by omega
  rw [e12, lastI_up (n := nl) (fun i h1 h2 => by simp; intro h3; omega)]
  exact lastI_cg (fun i hi => by simp [hi])
/-- a law's text -/
theorem SX.text {g : GP} {P : Nat → Prop} {F : Mem} {A : XA} {w : Nat} {S : Nat → Nat → Nat} {b : XS} {σ : MS} {e : XE} {M : Mem} (h : SX g P F A w S b σ e M) {l : Nat} (hl : l < S 8 w) : ∃ (im : Mem) (a : Nat) (f : Nat → Option Nat), (∀ q x, im q = some x → M q = some x) ∧ (∀ w', w' < 2 → im (A 26 w' 0) = none) ∧ im (A 50 0 l) = some (.inr (21, [.ref a, .int (σ.2.1 11 l)])) ∧ im a = some (.inl (gA g 7, 8, .inr (.inr (.inr (.inr f))))) ∧ ∀ k, k < 8 → (σ.2.1 10 (8 * l + k) < 0 ∧ f k = none) ∨ ∃ r n, n ≤ 300 ∧ f k = some r ∧ 0 ≤ σ.2.1 10 (8 * l + k) ∧ (EcX g im n).1 r (fun wk so pe gr => (valV σ l k wk so pe gr).1) := by
  obtain ⟨τ, dn, fl, hR, hz, -, hd⟩ := h
  have hl0 : l < S 8 0 := Nat.lt_of_lt_of_le hl hz.2.2.2.2.2.2.2.1
  obtain ⟨a, f, h1, h2, h3⟩ := hR.2.2.2.2.2.2.2.2.1 l hl0
  obtain ⟨d1, d2⟩ := hd l hl
  refine ⟨tIm τ, a, f, fun q x hx => hR.im hx, fun w' hw' => (hR.2.2.1 26 w' 0 (LvX.one (by decide) (by simp [wNX]; omega))).2, by rw [← d1]; exact h1, h2, fun k hk => ?_⟩
  rcases d2 k hk with ⟨z1, z2⟩ | ⟨φ, ca, z1, z2, z3, z4⟩
  · rcases h3 k hk with ⟨y1, y2⟩ | ⟨φ, r, n, y0, y1, -⟩
    · exact Or.inl ⟨z2, y2⟩
    · rw [z1] at y1; cases y1
  · rcases h3 k hk with ⟨y1, -⟩ | ⟨φ1, r, n, y0, y1, y2, y3⟩
    · rw [z1] at y1; cases y1
    · rw [z1] at y1
      cases y1
      refine Or.inr ⟨r, n, y0, y2, by rw [z2]; exact nI_pos' (by omega), ?_⟩
      have ev : (fun wk so pe gr => (valV σ l k wk so pe gr).1) = φ := by
        funext wk so pe gr
        obtain ⟨p', hp⟩ := z4 wk so pe gr (σ.2.1 13)
        unfold valV
        rw [z2, tN_nI (by omega), hp]
        rfl
      rw [ev]
      exact y3
theorem dnI_sub (n : Nat) : nI n - nI 1 = dnI n := by
  cases n with
  | zero => rfl
  | succ n => exact pk_sub (Nat.succ_le_succ (Nat.zero_le n))
theorem isIn_V {x : Int32} : (decide (x = nI 2) || decide (x = nI 3)) = isForceV x := rfl
set_option maxHeartbeats 600000 in
theorem x_X12_isIn {g : GP} {μ : Mem} {d : Nat} {P : Nat → Prop} {F : Mem} {A : XA} {w : Nat} {S : Nat → Nat → Nat} {b : XS} {σ : MS} {e : XE}(hd : 1 ≤ d) (h : SX g P F A w S b σ e μ) {l : Nat} (hl : l < S 8 w) : PM g yX12_isIn (ws_ yX12_isIn cX12_isIn 1 (some .boolean)) d 0 0 [.ref (A 38 w l)] μ (rQ (some (.int (bI (isForceV (lawv σ l 0))))) μ) := by
  refine PM.of (by decide +kernel) (Nat.le_of_ble_eq_true rfl) ?_
  refine PJ.ok (fun G => ?_)
  show PJ g _ _ _ _ d 0 0 0 [(0, .ref (A 38 w l))] [] _ _
  refine pl_aload_n (pc := 0) dX12_isIn_0 rfl rfl ?_
  refine pj_getf (pc := 1) ckX12 1 q1497 dX12_isIn_1 (by decide) (h.r38 hl) rfl ?_
  refine pl_iconst (pc := 4) (v := 2) dX12_isIn_4 (by rfl) ?_
  refine pj_icmp_eq (pc := 5) (tgt := 16) dX12_isIn_5 (by decide) (fun c5 => ?_) (fun c5 => ?_)
  · refine pl_iconst (pc := 16) (v := 1) dX12_isIn_16 (by rfl) ?_
    refine pj_goto (pc := 17) (tgt := 21) dX12_isIn_17 (by decide) ?_
    refine pj_zret (pc := 21) .boolean dX12_isIn_21 rfl (by rfl) ?_
    refine ⟨?_, rfl⟩
    have e9 : isForceV (lawv σ l 0) = true := by simp [isForceV, eq_true c5]
    rw [e9]
    rfl
  · refine pl_aload_n (pc := 8) dX12_isIn_8 rfl rfl ?_
    refine pj_getf (pc := 9) ckX12 1 q1497 dX12_isIn_9 (by decide) (h.r38 hl) rfl ?_
    refine pl_iconst (pc := 12) (v := 3) dX12_isIn_12 (by rfl) ?_
    refine pj_icmp_ne (pc := 13) (tgt := 20) dX12_isIn_13 (by decide) (fun c13 => ?_) (fun c13 => ?_)
    · refine pl_iconst (pc := 20) (v := 0) dX12_isIn_20 (by rfl) ?_
      refine pj_zret (pc := 21) .boolean dX12_isIn_21 rfl (by rfl) ?_
      refine ⟨?_, rfl⟩
      have e9 : isForceV (lawv σ l 0) = false := by simp [isForceV, c5, c13]
      rw [e9]
      rfl
    · refine pl_iconst (pc := 16) (v := 1) dX12_isIn_16 (by rfl) ?_
      refine pj_goto (pc := 17) (tgt := 21) dX12_isIn_17 (by decide) ?_
      refine pj_zret (pc := 21) .boolean dX12_isIn_21 rfl (by rfl) ?_
      refine ⟨?_, rfl⟩
      have e9 : isForceV (lawv σ l 0) = true := by simp [isForceV, c5, eq_true c13]
      rw [e9]
      rfl
set_option maxHeartbeats 600000 in
theorem x_X2_why {g : GP} {μ : Mem} {d : Nat} {P : Nat → Prop} {F : Mem} {A : XA} {w : Nat} {S : Nat → Nat → Nat} {b : XS} {σ : MS} {e : XE}(hd : 4 ≤ d) (h : SX g P F A w S b σ e μ) {name : Nat} (hname : name < 8) : PM g yX2_why (ws_ yX2_why cX2_why 3 (some .int)) d 0 0 [.ref (A 1 w 0), .int (nI name)] μ (rQ (some (.int (whyV σ (S 8 w) name))) μ) := by
  refine PM.of (by decide +kernel) (Nat.le_of_ble_eq_true rfl) ?_
  refine PJ.ok (fun G => ?_)
  show PJ g _ _ _ _ d 0 0 0 [(0, .ref (A 1 w 0)), (1, .int (nI name))] [] _ _
  have hS8 := h.hz.2.2.2.1
  have key : ∀ i, i ≤ S 8 w → lastI (toldB σ name) i = whyV σ (S 8 w) name → PJ g yX2_why.cls cX2_why 3 (some .int, yX2_why.name, []) d 0 0 10 [(2, .int (dnI i)), (1, .int (nI name)), (0, .ref (A 1 w 0))] [] μ (rQ (some (.int (whyV σ (S 8 w) name))) μ) := by
    intro i
    induction i with
    | zero =>
      intro hi hv
      show PJ g yX2_why.cls cX2_why 3 (some .int, yX2_why.name, []) d 0 0 10 [(2, .int (-1)), (1, .int (nI name)), (0, .ref (A 1 w 0))] [] μ _
      refine pl_iload_n (pc := 10) dX2_why_10 rfl rfl ?_
      refine pj_if_lt (pc := 11) (tgt := 61) dX2_why_11 (by decide) (fun _ => ?_) (fun h => absurd h (by decide))
      refine pj_iconst (pc := 61) (v := (-1)) dX2_why_61 (by rfl) ?_
      refine pj_iret (pc := 62) dX2_why_62 rfl ?_
      exact ⟨vIe hv rfl, rfl⟩
    | succ i ih =>
      intro hi hv
      show PJ g yX2_why.cls cX2_why 3 (some .int, yX2_why.name, []) d 0 0 10 [(2, .int (nI i)), (1, .int (nI name)), (0, .ref (A 1 w 0))] [] μ _
      refine pl_iload_n (pc := 10) dX2_why_10 rfl rfl ?_
      refine pl_if_ltN (pc := 11) dX2_why_11 ⟨61, by decide⟩ (by omega) ?_
      refine pl_aload_n (pc := 14) dX2_why_14 rfl rfl ?_
      refine pj_getf (pc := 15) ckX2 28 q776 dX2_why_15 (by decide) (h.r1) rfl ?_
      refine pl_iload_n (pc := 18) dX2_why_18 rfl rfl ?_
      obtain ⟨m_19, c_19, l_19⟩ := h.L8
      refine pl_callVd (pc := 19) (As := [_]) (C1 := 0) (N1 := 0) (C2 := 0) (N2 := 0) ckJ2 mdJ2_get rfl q707 q708 q709 q129 dX2_why_19 rfl rfl (Nat.le_of_ble_eq_true rfl) l_19.1 (k_J2_get (d := d - 1) (by omega) l_19 (j := i) (by omega) (if_pos (by omega))) (by omega) (by omega) (by omega) ?_
      refine pj_castS (pc := 22) ckX12 q951 dX2_why_22 (h.r38 (by omega)) ?_
      refine pl_callVd (pc := 25) (As := []) (C1 := 0) (N1 := 0) (C2 := 0) (N2 := 0) ckX12 mdX12_isIn rfl q1715 q1716 q1717 q160 dX2_why_25 rfl rfl (Nat.le_of_ble_eq_true rfl) (h.r38 (by omega)) (x_X12_isIn (d := d - 1) (by omega) h (by omega)) (by omega) (by omega) (by omega) ?_
      refine pl_if_eqB (pc := 28) (tgt := 55) dX2_why_28 (by decide) (fun c28 => ?_) (fun c28 => ?_)
      · refine pl_iinc (pc := 55) (lv' := [(2, _), (1, _), (0, _)]) dX2_why_55 rfl rfl (by decide) rfl ?_
        refine pj_goto (pc := 58) (tgt := 10) dX2_why_58 (by decide) ?_
        exact PJ.conv (by rw [show (Int32.ofInt (-1)) = (-1 : Int32) from rfl, dnI_of]; first | done | rfl) rfl rfl (ih (by omega) (by rw [← hv]; show _ = (if toldB σ name i = true then nI i else lastI (toldB σ name) i); rw [if_neg (by simp [toldB, c28])]))
      · refine pl_aload_n (pc := 31) dX2_why_31 rfl rfl ?_
        refine pj_getf (pc := 32) ckX2 28 q776 dX2_why_32 (by decide) (h.r1) rfl ?_
        refine pl_iload_n (pc := 35) dX2_why_35 rfl rfl ?_
        obtain ⟨m_36, c_36, l_36⟩ := h.L8
        refine pl_callVd (pc := 36) (As := [_]) (C1 := 0) (N1 := 0) (C2 := 0) (N2 := 0) ckJ2 mdJ2_get rfl q707 q708 q709 q129 dX2_why_36 rfl rfl (Nat.le_of_ble_eq_true rfl) l_36.1 (k_J2_get (d := d - 1) (by omega) l_36 (j := i) (by omega) (if_pos (by omega))) (by omega) (by omega) (by omega) ?_
        refine pj_castS (pc := 39) ckX12 q951 dX2_why_39 (h.r38 (by omega)) ?_
        refine pj_getfN (pc := 42) ckX12 0 q1496 dX2_why_42 (by decide) (h.r38 (by omega)) rfl ?_
        obtain ⟨im_42, at_42, ft_42, him_42, hak_42, hx_42, ha_42, hf_42⟩ := h.text (l := i) (by omega)
        refine pj_getfN (pc := 45) ckX19 0 q1888 dX2_why_45 (by decide) (him_42 _ _ hx_42) rfl ?_
        refine pl_iload_n (pc := 48) dX2_why_48 rfl rfl ?_
        rcases hf_42 name (by omega) with ⟨hn_49, hv_49⟩ | ⟨r_49, n_49, hn3_49, hv_49, hp_49, hE_49⟩
        · refine pl_aldE (pc := 49) (n := 8) dX2_why_49 (him_42 _ _ ha_42) (by omega) (by decide) ?_
          rw [hv_49]
          show PJ g _ _ _ _ d _ _ 50 _ (.null :: _) _ _
          refine pj_ifnullN (pc := 50) (tgt := 55) dX2_why_50 (by decide) ?_
          refine pl_iinc (pc := 55) (lv' := [(2, _), (1, _), (0, _)]) dX2_why_55 rfl rfl (by decide) rfl ?_
          refine pj_goto (pc := 58) (tgt := 10) dX2_why_58 (by decide) ?_
          exact PJ.conv (by rw [show (Int32.ofInt (-1)) = (-1 : Int32) from rfl, dnI_of]; first | done | rfl) rfl rfl (ih (by omega) (by rw [← hv]; show _ = (if toldB σ name i = true then nI i else lastI (toldB σ name) i); rw [if_neg (by simp [toldB, c28, show ¬ (0 : Int32) ≤ σ.2.1 10 (8 * i + name) from Int32.not_le.mpr hn_49])]))
        · refine pl_aldE (pc := 49) (n := 8) dX2_why_49 (him_42 _ _ ha_42) (by omega) (by decide) ?_
          rw [hv_49]
          show PJ g _ _ _ _ d _ _ 50 _ (.ref r_49 :: _) _ _
          refine pj_ifnull (pc := 50) dX2_why_50 ?_
          refine pl_iload_n (pc := 53) dX2_why_53 rfl rfl ?_
          refine pj_iret (pc := 54) dX2_why_54 rfl ?_
          exact ⟨vIe (by rw [← hv]; show _ = (if toldB σ name i = true then nI i else lastI (toldB σ name) i); rw [if_pos (by simp [toldB, c28, hp_49])]) rfl, rfl⟩
  refine pl_aload_n (pc := 0) dX2_why_0 rfl rfl ?_
  refine pj_getf (pc := 1) ckX2 28 q776 dX2_why_1 (by decide) (h.r1) rfl ?_
  obtain ⟨m_4, c_4, l_4⟩ := h.L8
  refine pl_callVd (pc := 4) (As := []) (C1 := 0) (N1 := 0) (C2 := 0) (N2 := 0) ckJ2 mdJ2_size rfl q947 q948 q949 q129 dX2_why_4 rfl rfl (Nat.le_of_ble_eq_true rfl) l_4.1 (k_J2_size (d := d - 1) (by omega) l_4) (by omega) (by omega) (by omega) ?_
  refine pl_iconst (pc := 7) (v := 1) dX2_why_7 (by rfl) ?_
  refine pj_isub (pc := 8) dX2_why_8 ?_
  refine pj_istore_n (pc := 9) (lv' := [(2, _), (0, _), (1, _)]) dX2_why_9 rfl (by decide) rfl ?_
  refine PJ.sub [0, 2, 1] rfl ?_
  exact PJ.conv (by rw [dnI_sub]; first | done | rfl) rfl rfl (key (S 8 w) (Nat.le_refl _) rfl)
