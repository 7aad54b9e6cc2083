set_option maxRecDepth 100000
theorem lastI_c (p : Nat → Bool) : ∀ n, lastI p n = -1 ∨ ∃ l, l < n ∧ lastI p n = nI l ∧ p l = true
  | 0 => Or.inl rfl
  | n + 1 => by
    by_cases h : p n = true
    · exact Or.inr ⟨n, by omega, by simp [lastI, h], h⟩
    · have e : lastI p (n + 1) = lastI p n := by simp [lastI, h]
      rw [e]
      rcases lastI_c p n with h1 | ⟨l, a, b, c⟩
      · exact Or.inl h1
      · exact Or.inr ⟨l, by omega, b, c⟩
/-- no law from n on is told in these bits -/
def Lb (b : Int32) (n : Nat) : Prop := ∀ l, n ≤ l → l < 12 → (b >>> (nI l &&& 31)) &&& nI 1 = nI 0
theorem Lb_mono {b : Int32} {n m : Nat} (h : Lb b n) (hm : n ≤ m) : Lb b m := fun l h1 h2 => h l (by omega) h2
theorem or_and1 (x y : Int32) : (x ||| y) &&& nI 1 = (x &&& nI 1) ||| (y &&& nI 1) := by
  apply Int32.toBitVec_inj.mp
  simp only [Int32.toBitVec_and, Int32.toBitVec_or]
  ext i
  simp [BitVec.getElem_and, BitVec.getElem_or, Bool.and_or_distrib_right]
theorem Lb_forces (σ : MS) : ∀ n, n ≤ 12 → Lb (forcesV σ n) n
  | 0, _ => fun l _ hl => by
    have h : ∀ l, l < 12 → ((0 : Int32) >>> (nI l &&& 31)) &&& nI 1 = nI 0 := by decide +kernel
    exact h l hl
  | n + 1, hn => fun l h1 h2 => by
    have ih := Lb_forces σ n (by omega) l (by omega) h2
    show ((forcesV σ n ||| _) >>> _) &&& nI 1 = nI 0
    rw [Int32.shiftRight_or, or_and1, ih]
    split
    · have h : ∀ n, n < 12 → ∀ l, l < 12 → n < l → nI 0 ||| (((nI 1 <<< (nI n &&& 31)) >>> (nI l &&& 31)) &&& nI 1) = nI 0 := by decide +kernel
      exact h n (by omega) l h2 (by omega)
    · have h : ∀ l, l < 12 → nI 0 ||| ((nI 0 >>> (nI l &&& 31)) &&& nI 1) = nI 0 := by decide +kernel
      exact h l h2
theorem Lb_tells {σ : MS} {b : Int32} {n name l : Nat} (h : Lb b n) (hl : l < 12) (ht : tells σ b name l = true) : l < n ∧ 0 ≤ σ.2.1 10 (8 * l + name) := by
  simp only [tells, Bool.and_eq_true, decide_eq_true_eq] at ht
  refine ⟨?_, ht.2⟩
  by_cases hn : n ≤ l
  · have := h l hn hl
    rw [this] at ht
    exact absurd ht.1 (by decide)
  · omega
/-- every code that a law tells can be run -/
def Wc (σ : MS) (nl : Nat) : Prop := ∀ l, l < nl → ∀ name, name < 8 → 0 ≤ σ.2.1 10 (8 * l + name) → ∃ ca, σ.2.1 10 (8 * l + name) = nI ca ∧ ca < 4800 ∧ ∀ wk so pe gr pile, ∃ r, vrun σ wk so pe gr 4800 (400 * l + ca) 0 pile = some r
def valV (σ : MS) (l name : Nat) (wk so pe gr : Int32) : Int32 × (Nat → Int32) := (vrun σ wk so pe gr 4800 (400 * l + tN (σ.2.1 10 (8 * l + name))) 0 (σ.2.1 13)).getD (0, σ.2.1 13)
theorem w_value {g : GP} {ad : Nat → Nat} {μ : Mem} {σ : MS} {l name : Nat} {wk so pe gr : Int32} {d nl : Nat} (hd : 2 ≤ d) (hA : Inj ad 18) (hL : nl ≤ 12) (hw : Wc σ nl) (hl : l < nl) (hname : name < 8) (h0 : 0 ≤ σ.2.1 10 (8 * l + name)) : PM g yX9_value (ws_ yX9_value cX9_value 11 (some .int)) d 0 0 [.ref (ad 0), .int (nI l), .int (nI name), .int wk, .int so, .int pe, .int gr] (mm g ad μ σ) (rQ (some (.int (valV σ l name wk so pe gr).1)) (mm g ad μ (sA σ 13 (valV σ l name wk so pe gr).2))) := by
  obtain ⟨ca, h1, h2, h3⟩ := hw l hl name hname h0
  obtain ⟨r, hr⟩ := h3 wk so pe gr (σ.2.1 13)
  have e : valV σ l name wk so pe gr = r := by
    unfold valV
    rw [h1, tN_nI (by omega), hr]
    rfl
  rw [e]
  exact w_X9_value hd hA (by omega) hname h1 (by omega) hr
def lawI (σ : MS) (nl name : Nat) : Int32 := tellerV σ (forcesV σ nl) name
def meanV (σ : MS) (n nl name : Nat) (gr : Int32) : Int32 × (Nat → Int32) := if name = 0 ∧ ¬ σ.1 23 ≤ 0 then (σ.1 23, σ.2.1 13) else if name = 1 ∧ ¬ σ.1 24 < 0 then (σ.1 24, σ.2.1 13)
  else if lawI σ nl name = -1 then (withoutV (nI name), σ.2.1 13) else (boundedV name (valV σ (tN (lawI σ nl name)) name (row σ 2116) (nI (farmsC σ 96)) (nI (hereC σ n)) gr).1, (valV σ (tN (lawI σ nl name)) name (row σ 2116) (nI (farmsC σ 96)) (nI (hereC σ n)) gr).2)
set_option maxHeartbeats 4000000 in
theorem w_X9_meaning {g : GP} {ad : Nat → Nat} {μ : Mem} {σ : MS} {d : Nat} {name : Nat} {gr : Int32} {n nl : Nat} (hd : 4 ≤ d) (hA : Inj ad 18) (hn : row σ 2124 = nI n) (hP : n ≤ 100) (hl : row σ 2125 = nI nl) (hL : nl ≤ 12) (hw : Wc σ nl) (hname : name < 8) : PM g yX9_meaning (ws_ yX9_meaning cX9_meaning 4 (some .int)) d 0 0 [.ref (ad 0), .int (nI name), .int gr] (mm g ad μ σ) (rQ (some (.int ((meanV σ n nl name gr).1))) (mm g ad μ (sA σ 13 (meanV σ n nl name gr).2))) := by
  refine PM.of (by decide +kernel) (Nat.le_of_ble_eq_true rfl) ?_
  show PJ g _ _ _ _ d 0 0 0 [(0, .ref (ad 0)), (1, .int (nI name)), (2, .int gr)] [] _ _
  refine pl_iload_n (pc := 0) dX9_meaning_0 rfl rfl ?_
  refine pl_if_neN (pc := 1) (tgt := 16) dX9_meaning_1 (by decide) (by omega) (fun c1 => ?_) (fun c1 => ?_)
  · refine pl_iload_n (pc := 16) dX9_meaning_16 rfl rfl ?_
    refine pl_iconst (pc := 17) (v := 1) dX9_meaning_17 (by rfl) ?_
    refine pl_icmp_ne (pc := 18) (tgt := 33) dX9_meaning_18 (by decide) (by omega) (by omega) (fun c18 => ?_) (fun c18 => ?_)
    · refine pl_aload_n (pc := 33) dX9_meaning_33 rfl rfl ?_
      refine pl_aload_n (pc := 34) dX9_meaning_34 rfl rfl ?_
      refine pl_callVd (pc := 35) (As := []) (C2 := 0) (N2 := 0) ckX9 mdX9_forces rfl q2930 q2932 qs93 q154 dX9_meaning_35 rfl rfl (Nat.le_of_ble_eq_true rfl) (mm_o hA) (w_X9_forces (d := d - 1) (by omega) hA (by first | omega | assumption | exact hn | exact hl | exact hb | exact hq | exact hdr | exact has) (by first | omega | assumption | exact hn | exact hl | exact hb | exact hq | exact hdr | exact has)) (by omega) (by decide) (by decide) ?_
      refine pl_iload_n (pc := 38) dX9_meaning_38 rfl rfl ?_
      refine pl_callVd (pc := 39) (As := [_, _]) (C2 := 0) (N2 := 0) ckX9 mdX9_teller rfl q2941 q2943 qs95 q154 dX9_meaning_39 rfl rfl (Nat.le_of_ble_eq_true rfl) (mm_o hA) (w_X9_teller (d := d - 1) (by omega) hA (by first | omega | assumption | exact hn | exact hl | exact hb | exact hq | exact hdr | exact has)) (by omega) (by decide) (by decide) ?_
      rcases lastI_c (tells σ (forcesV σ nl) name) 12 with hs42 | hs42
      · refine PJ.top (y := -1) hs42 ?_
        refine pj_istore_n (pc := 42) (lv' := [(3, _), (0, _), (1, _), (2, _)]) dX9_meaning_42 rfl (by decide) rfl ?_
        refine pl_iload_n (pc := 43) dX9_meaning_43 rfl rfl ?_
        refine pj_if_ge (pc := 44) (tgt := 54) dX9_meaning_44 (by decide) (fun h => absurd h (by decide)) (fun _ => ?_)
        refine pl_iload_n (pc := 47) dX9_meaning_47 rfl rfl ?_
        refine pl_callSd (pc := 48) (As := [_]) (C2 := 0) (N2 := 0) mdX9_without q2945 q2946 q154 dX9_meaning_48 rfl rfl (Nat.le_of_ble_eq_true rfl) (w_X9_without (d := d - 1) (by omega)) (by omega) (by decide) (by decide) ?_
        refine pj_goto (pc := 51) (tgt := 81) dX9_meaning_51 (by decide) ?_
        refine pj_iret (pc := 81) dX9_meaning_81 rfl ?_
        exact ⟨vIe (by simp [meanV, show ¬ name = 0 by omega, c18, show lawI σ nl name = -1 from hs42]) rfl, congrArg (mm g ad μ) (by simp [meanV, show ¬ name = 0 by omega, c18, show lawI σ nl name = -1 from hs42, sA_id])⟩
      · obtain ⟨l, hl12, el, ht⟩ := hs42
        refine PJ.top (y := nI l) el ?_
        obtain ⟨hlt, h0⟩ := Lb_tells (Lb_forces σ nl hL) hl12 ht
        have g_l := tN_nI (n := l) (by omega)
        have el1 : lawI σ nl name = nI l := el
        have el2 : ¬ nI l = -1 := fun z => by have h9 := nI_pos' (n := l) (by omega); rw [z] at h9; exact absurd h9 (by decide)
        refine pj_istore_n (pc := 42) (lv' := [(3, _), (0, _), (1, _), (2, _)]) dX9_meaning_42 rfl (by decide) rfl ?_
        refine pl_iload_n (pc := 43) dX9_meaning_43 rfl rfl ?_
        refine pj_if_ge (pc := 44) (tgt := 54) dX9_meaning_44 (by decide) (fun _ => ?_) (fun h => absurd (nI_pos' (by omega)) h)
        refine pl_iload_n (pc := 54) dX9_meaning_54 rfl rfl ?_
        refine pl_aload_n (pc := 55) dX9_meaning_55 rfl rfl ?_
        refine pl_iload_n (pc := 56) dX9_meaning_56 rfl rfl ?_
        refine pl_iload_n (pc := 57) dX9_meaning_57 rfl rfl ?_
        refine pl_aload_n (pc := 58) dX9_meaning_58 rfl rfl ?_
        refine pj_getf (pc := 59) ckX9 1 q2517 dX9_meaning_59 (by decide) (mm_o hA) rfl ?_
        refine pl_sipush (pc := 62) (v := 2116) dX9_meaning_62 (by rfl) ?_
        refine pl_iald (pc := 65) (n := 2132) dX9_meaning_65 (mm_a hA 1 (by decide) (by decide)) (by omega) (by decide) ?_
        refine pl_aload_n (pc := 66) dX9_meaning_66 rfl rfl ?_
        refine pl_callVd (pc := 67) (As := []) (C2 := 0) (N2 := 0) ckX9 mdX9_farms rfl q2948 q2950 qs96 q154 dX9_meaning_67 rfl rfl (Nat.le_of_ble_eq_true rfl) (mm_o hA) (w_X9_farms (d := d - 1) (by omega) hA) (by omega) (by decide) (by decide) ?_
        refine pl_aload_n (pc := 70) dX9_meaning_70 rfl rfl ?_
        refine pl_callVd (pc := 71) (As := []) (C2 := 0) (N2 := 0) ckX9 mdX9_here rfl q2952 q2954 qs97 q154 dX9_meaning_71 rfl rfl (Nat.le_of_ble_eq_true rfl) (mm_o hA) (w_X9_here (d := d - 1) (by omega) hA (by first | omega | assumption | exact hn | exact hl | exact hb | exact hq | exact hdr | exact has) (by first | omega | assumption | exact hn | exact hl | exact hb | exact hq | exact hdr | exact has)) (by omega) (by decide) (by decide) ?_
        refine pl_iload_n (pc := 74) dX9_meaning_74 rfl rfl ?_
        refine pl_callVd (pc := 75) (As := [_, _, _, _, _, _]) (C2 := 0) (N2 := 0) ckX9 mdX9_value rfl q2956 q2958 qs98 q154 dX9_meaning_75 rfl rfl (Nat.le_of_ble_eq_true rfl) (mm_o hA) (w_value (d := d - 1) (by omega) hA hL hw hlt hname h0) (by omega) (by decide) (by decide) ?_
        refine pl_callSd (pc := 78) (As := [_, _]) (C2 := 0) (N2 := 0) mdX9_bounded q2963 q2964 q154 dX9_meaning_78 rfl rfl (Nat.le_of_ble_eq_true rfl) (w_X9_bounded (d := d - 1) (by omega) (by first | omega | assumption | exact hn | exact hl | exact hb | exact hq | exact hdr | exact has)) (by omega) (by decide) (by decide) ?_
        refine pj_iret (pc := 81) dX9_meaning_81 rfl ?_
        exact ⟨vIe (by simp [meanV, show ¬ name = 0 by omega, c18, el1, el2, g_l]) rfl, congrArg (mm g ad μ) (by simp [meanV, show ¬ name = 0 by omega, c18, el1, el2, g_l, sA_id])⟩
    · refine pl_aload_n (pc := 21) dX9_meaning_21 rfl rfl ?_
      refine pj_getf (pc := 22) ckX9 24 q2540 dX9_meaning_22 (by decide) (mm_o hA) rfl ?_
      refine pj_if_lt (pc := 25) (tgt := 33) dX9_meaning_25 (by decide) (fun c25 => ?_) (fun c25 => ?_)
      · refine pl_aload_n (pc := 33) dX9_meaning_33 rfl rfl ?_
        refine pl_aload_n (pc := 34) dX9_meaning_34 rfl rfl ?_
        refine pl_callVd (pc := 35) (As := []) (C2 := 0) (N2 := 0) ckX9 mdX9_forces rfl q2930 q2932 qs93 q154 dX9_meaning_35 rfl rfl (Nat.le_of_ble_eq_true rfl) (mm_o hA) (w_X9_forces (d := d - 1) (by omega) hA (by first | omega | assumption | exact hn | exact hl | exact hb | exact hq | exact hdr | exact has) (by first | omega | assumption | exact hn | exact hl | exact hb | exact hq | exact hdr | exact has)) (by omega) (by decide) (by decide) ?_
        refine pl_iload_n (pc := 38) dX9_meaning_38 rfl rfl ?_
        refine pl_callVd (pc := 39) (As := [_, _]) (C2 := 0) (N2 := 0) ckX9 mdX9_teller rfl q2941 q2943 qs95 q154 dX9_meaning_39 rfl rfl (Nat.le_of_ble_eq_true rfl) (mm_o hA) (w_X9_teller (d := d - 1) (by omega) hA (by first | omega | assumption | exact hn | exact hl | exact hb | exact hq | exact hdr | exact has)) (by omega) (by decide) (by decide) ?_
        rcases lastI_c (tells σ (forcesV σ nl) name) 12 with hs42 | hs42
        · refine PJ.top (y := -1) hs42 ?_
          refine pj_istore_n (pc := 42) (lv' := [(3, _), (0, _), (1, _), (2, _)]) dX9_meaning_42 rfl (by decide) rfl ?_
          refine pl_iload_n (pc := 43) dX9_meaning_43 rfl rfl ?_
          refine pj_if_ge (pc := 44) (tgt := 54) dX9_meaning_44 (by decide) (fun h => absurd h (by decide)) (fun _ => ?_)
          refine pl_iload_n (pc := 47) dX9_meaning_47 rfl rfl ?_
          refine pl_callSd (pc := 48) (As := [_]) (C2 := 0) (N2 := 0) mdX9_without q2945 q2946 q154 dX9_meaning_48 rfl rfl (Nat.le_of_ble_eq_true rfl) (w_X9_without (d := d - 1) (by omega)) (by omega) (by decide) (by decide) ?_
          refine pj_goto (pc := 51) (tgt := 81) dX9_meaning_51 (by decide) ?_
          refine pj_iret (pc := 81) dX9_meaning_81 rfl ?_
          exact ⟨vIe (by simp [meanV, show ¬ name = 0 by omega, eq_true c18, c25, show lawI σ nl name = -1 from hs42]) rfl, congrArg (mm g ad μ) (by simp [meanV, show ¬ name = 0 by omega, eq_true c18, c25, show lawI σ nl name = -1 from hs42, sA_id])⟩
        · obtain ⟨l, hl12, el, ht⟩ := hs42
          refine PJ.top (y := nI l) el ?_
          obtain ⟨hlt, h0⟩ := Lb_tells (Lb_forces σ nl hL) hl12 ht
          have g_l := tN_nI (n := l) (by omega)
          have el1 : lawI σ nl name = nI l := el
          have el2 : ¬ nI l = -1 := fun z => by have h9 := nI_pos' (n := l) (by omega); rw [z] at h9; exact absurd h9 (by decide)
          refine pj_istore_n (pc := 42) (lv' := [(3, _), (0, _), (1, _), (2, _)]) dX9_meaning_42 rfl (by decide) rfl ?_
          refine pl_iload_n (pc := 43) dX9_meaning_43 rfl rfl ?_
          refine pj_if_ge (pc := 44) (tgt := 54) dX9_meaning_44 (by decide) (fun _ => ?_) (fun h => absurd (nI_pos' (by omega)) h)
          refine pl_iload_n (pc := 54) dX9_meaning_54 rfl rfl ?_
          refine pl_aload_n (pc := 55) dX9_meaning_55 rfl rfl ?_
          refine pl_iload_n (pc := 56) dX9_meaning_56 rfl rfl ?_
          refine pl_iload_n (pc := 57) dX9_meaning_57 rfl rfl ?_
          refine pl_aload_n (pc := 58) dX9_meaning_58 rfl rfl ?_
          refine pj_getf (pc := 59) ckX9 1 q2517 dX9_meaning_59 (by decide) (mm_o hA) rfl ?_
          refine pl_sipush (pc := 62) (v := 2116) dX9_meaning_62 (by rfl) ?_
          refine pl_iald (pc := 65) (n := 2132) dX9_meaning_65 (mm_a hA 1 (by decide) (by decide)) (by omega) (by decide) ?_
          refine pl_aload_n (pc := 66) dX9_meaning_66 rfl rfl ?_
          refine pl_callVd (pc := 67) (As := []) (C2 := 0) (N2 := 0) ckX9 mdX9_farms rfl q2948 q2950 qs96 q154 dX9_meaning_67 rfl rfl (Nat.le_of_ble_eq_true rfl) (mm_o hA) (w_X9_farms (d := d - 1) (by omega) hA) (by omega) (by decide) (by decide) ?_
          refine pl_aload_n (pc := 70) dX9_meaning_70 rfl rfl ?_
          refine pl_callVd (pc := 71) (As := []) (C2 := 0) (N2 := 0) ckX9 mdX9_here rfl q2952 q2954 qs97 q154 dX9_meaning_71 rfl rfl (Nat.le_of_ble_eq_true rfl) (mm_o hA) (w_X9_here (d := d - 1) (by omega) hA (by first | omega | assumption | exact hn | exact hl | exact hb | exact hq | exact hdr | exact has) (by first | omega | assumption | exact hn | exact hl | exact hb | exact hq | exact hdr | exact has)) (by omega) (by decide) (by decide) ?_
          refine pl_iload_n (pc := 74) dX9_meaning_74 rfl rfl ?_
          refine pl_callVd (pc := 75) (As := [_, _, _, _, _, _]) (C2 := 0) (N2 := 0) ckX9 mdX9_value rfl q2956 q2958 qs98 q154 dX9_meaning_75 rfl rfl (Nat.le_of_ble_eq_true rfl) (mm_o hA) (w_value (d := d - 1) (by omega) hA hL hw hlt hname h0) (by omega) (by decide) (by decide) ?_
          refine pl_callSd (pc := 78) (As := [_, _]) (C2 := 0) (N2 := 0) mdX9_bounded q2963 q2964 q154 dX9_meaning_78 rfl rfl (Nat.le_of_ble_eq_true rfl) (w_X9_bounded (d := d - 1) (by omega) (by first | omega | assumption | exact hn | exact hl | exact hb | exact hq | exact hdr | exact has)) (by omega) (by decide) (by decide) ?_
          refine pj_iret (pc := 81) dX9_meaning_81 rfl ?_
          exact ⟨vIe (by simp [meanV, show ¬ name = 0 by omega, eq_true c18, c25, el1, el2, g_l]) rfl, congrArg (mm g ad μ) (by simp [meanV, show ¬ name = 0 by omega, eq_true c18, c25, el1, el2, g_l, sA_id])⟩
      · refine pl_aload_n (pc := 28) dX9_meaning_28 rfl rfl ?_
        refine pj_getf (pc := 29) ckX9 24 q2540 dX9_meaning_29 (by decide) (mm_o hA) rfl ?_
        refine pj_iret (pc := 32) dX9_meaning_32 rfl ?_
        exact ⟨vIe (by simp [meanV, show ¬ name = 0 by omega, eq_true c18, c25]) rfl, congrArg (mm g ad μ) (by simp [meanV, show ¬ name = 0 by omega, eq_true c18, c25, sA_id])⟩
  · refine pl_aload_n (pc := 4) dX9_meaning_4 rfl rfl ?_
    refine pj_getf (pc := 5) ckX9 23 q2539 dX9_meaning_5 (by decide) (mm_o hA) rfl ?_
    refine pj_if_le (pc := 8) (tgt := 16) dX9_meaning_8 (by decide) (fun c8 => ?_) (fun c8 => ?_)
    · refine pl_iload_n (pc := 16) dX9_meaning_16 rfl rfl ?_
      refine pl_iconst (pc := 17) (v := 1) dX9_meaning_17 (by rfl) ?_
      refine pl_icmp_ne (pc := 18) (tgt := 33) dX9_meaning_18 (by decide) (by omega) (by omega) (fun c18 => ?_) (fun c18 => ?_)
      · refine pl_aload_n (pc := 33) dX9_meaning_33 rfl rfl ?_
        refine pl_aload_n (pc := 34) dX9_meaning_34 rfl rfl ?_
        refine pl_callVd (pc := 35) (As := []) (C2 := 0) (N2 := 0) ckX9 mdX9_forces rfl q2930 q2932 qs93 q154 dX9_meaning_35 rfl rfl (Nat.le_of_ble_eq_true rfl) (mm_o hA) (w_X9_forces (d := d - 1) (by omega) hA (by first | omega | assumption | exact hn | exact hl | exact hb | exact hq | exact hdr | exact has) (by first | omega | assumption | exact hn | exact hl | exact hb | exact hq | exact hdr | exact has)) (by omega) (by decide) (by decide) ?_
        refine pl_iload_n (pc := 38) dX9_meaning_38 rfl rfl ?_
        refine pl_callVd (pc := 39) (As := [_, _]) (C2 := 0) (N2 := 0) ckX9 mdX9_teller rfl q2941 q2943 qs95 q154 dX9_meaning_39 rfl rfl (Nat.le_of_ble_eq_true rfl) (mm_o hA) (w_X9_teller (d := d - 1) (by omega) hA (by first | omega | assumption | exact hn | exact hl | exact hb | exact hq | exact hdr | exact has)) (by omega) (by decide) (by decide) ?_
        rcases lastI_c (tells σ (forcesV σ nl) name) 12 with hs42 | hs42
        · refine PJ.top (y := -1) hs42 ?_
          refine pj_istore_n (pc := 42) (lv' := [(3, _), (0, _), (1, _), (2, _)]) dX9_meaning_42 rfl (by decide) rfl ?_
          refine pl_iload_n (pc := 43) dX9_meaning_43 rfl rfl ?_
          refine pj_if_ge (pc := 44) (tgt := 54) dX9_meaning_44 (by decide) (fun h => absurd h (by decide)) (fun _ => ?_)
          refine pl_iload_n (pc := 47) dX9_meaning_47 rfl rfl ?_
          refine pl_callSd (pc := 48) (As := [_]) (C2 := 0) (N2 := 0) mdX9_without q2945 q2946 q154 dX9_meaning_48 rfl rfl (Nat.le_of_ble_eq_true rfl) (w_X9_without (d := d - 1) (by omega)) (by omega) (by decide) (by decide) ?_
          refine pj_goto (pc := 51) (tgt := 81) dX9_meaning_51 (by decide) ?_
          refine pj_iret (pc := 81) dX9_meaning_81 rfl ?_
          exact ⟨vIe (by simp [meanV, eq_true c1, c8, c18, show lawI σ nl name = -1 from hs42]) rfl, congrArg (mm g ad μ) (by simp [meanV, eq_true c1, c8, c18, show lawI σ nl name = -1 from hs42, sA_id])⟩
        · obtain ⟨l, hl12, el, ht⟩ := hs42
          refine PJ.top (y := nI l) el ?_
          obtain ⟨hlt, h0⟩ := Lb_tells (Lb_forces σ nl hL) hl12 ht
          have g_l := tN_nI (n := l) (by omega)
          have el1 : lawI σ nl name = nI l := el
          have el2 : ¬ nI l = -1 := fun z => by have h9 := nI_pos' (n := l) (by omega); rw [z] at h9; exact absurd h9 (by decide)
          refine pj_istore_n (pc := 42) (lv' := [(3, _), (0, _), (1, _), (2, _)]) dX9_meaning_42 rfl (by decide) rfl ?_
          refine pl_iload_n (pc := 43) dX9_meaning_43 rfl rfl ?_
          refine pj_if_ge (pc := 44) (tgt := 54) dX9_meaning_44 (by decide) (fun _ => ?_) (fun h => absurd (nI_pos' (by omega)) h)
          refine pl_iload_n (pc := 54) dX9_meaning_54 rfl rfl ?_
          refine pl_aload_n (pc := 55) dX9_meaning_55 rfl rfl ?_
          refine pl_iload_n (pc := 56) dX9_meaning_56 rfl rfl ?_
          refine pl_iload_n (pc := 57) dX9_meaning_57 rfl rfl ?_
          refine pl_aload_n (pc := 58) dX9_meaning_58 rfl rfl ?_
          refine pj_getf (pc := 59) ckX9 1 q2517 dX9_meaning_59 (by decide) (mm_o hA) rfl ?_
          refine pl_sipush (pc := 62) (v := 2116) dX9_meaning_62 (by rfl) ?_
          refine pl_iald (pc := 65) (n := 2132) dX9_meaning_65 (mm_a hA 1 (by decide) (by decide)) (by omega) (by decide) ?_
          refine pl_aload_n (pc := 66) dX9_meaning_66 rfl rfl ?_
          refine pl_callVd (pc := 67) (As := []) (C2 := 0) (N2 := 0) ckX9 mdX9_farms rfl q2948 q2950 qs96 q154 dX9_meaning_67 rfl rfl (Nat.le_of_ble_eq_true rfl) (mm_o hA) (w_X9_farms (d := d - 1) (by omega) hA) (by omega) (by decide) (by decide) ?_
          refine pl_aload_n (pc := 70) dX9_meaning_70 rfl rfl ?_
          refine pl_callVd (pc := 71) (As := []) (C2 := 0) (N2 := 0) ckX9 mdX9_here rfl q2952 q2954 qs97 q154 dX9_meaning_71 rfl rfl (Nat.le_of_ble_eq_true rfl) (mm_o hA) (w_X9_here (d := d - 1) (by omega) hA (by first | omega | assumption | exact hn | exact hl | exact hb | exact hq | exact hdr | exact has) (by first | omega | assumption | exact hn | exact hl | exact hb | exact hq | exact hdr | exact has)) (by omega) (by decide) (by decide) ?_
          refine pl_iload_n (pc := 74) dX9_meaning_74 rfl rfl ?_
          refine pl_callVd (pc := 75) (As := [_, _, _, _, _, _]) (C2 := 0) (N2 := 0) ckX9 mdX9_value rfl q2956 q2958 qs98 q154 dX9_meaning_75 rfl rfl (Nat.le_of_ble_eq_true rfl) (mm_o hA) (w_value (d := d - 1) (by omega) hA hL hw hlt hname h0) (by omega) (by decide) (by decide) ?_
          refine pl_callSd (pc := 78) (As := [_, _]) (C2 := 0) (N2 := 0) mdX9_bounded q2963 q2964 q154 dX9_meaning_78 rfl rfl (Nat.le_of_ble_eq_true rfl) (w_X9_bounded (d := d - 1) (by omega) (by first | omega | assumption | exact hn | exact hl | exact hb | exact hq | exact hdr | exact has)) (by omega) (by decide) (by decide) ?_
          refine pj_iret (pc := 81) dX9_meaning_81 rfl ?_
          exact ⟨vIe (by simp [meanV, eq_true c1, c8, c18, el1, el2, g_l]) rfl, congrArg (mm g ad μ) (by simp [meanV, eq_true c1, c8, c18, el1, el2, g_l, sA_id])⟩
      · refine pl_aload_n (pc := 21) dX9_meaning_21 rfl rfl ?_
        refine pj_getf (pc := 22) ckX9 24 q2540 dX9_meaning_22 (by decide) (mm_o hA) rfl ?_
        refine pj_if_lt (pc := 25) (tgt := 33) dX9_meaning_25 (by decide) (fun c25 => ?_) (fun c25 => ?_)
        · refine pl_aload_n (pc := 33) dX9_meaning_33 rfl rfl ?_
          refine pl_aload_n (pc := 34) dX9_meaning_34 rfl rfl ?_
          refine pl_callVd (pc := 35) (As := []) (C2 := 0) (N2 := 0) ckX9 mdX9_forces rfl q2930 q2932 qs93 q154 dX9_meaning_35 rfl rfl (Nat.le_of_ble_eq_true rfl) (mm_o hA) (w_X9_forces (d := d - 1) (by omega) hA (by first | omega | assumption | exact hn | exact hl | exact hb | exact hq | exact hdr | exact has) (by first | omega | assumption | exact hn | exact hl | exact hb | exact hq | exact hdr | exact has)) (by omega) (by decide) (by decide) ?_
          refine pl_iload_n (pc := 38) dX9_meaning_38 rfl rfl ?_
          refine pl_callVd (pc := 39) (As := [_, _]) (C2 := 0) (N2 := 0) ckX9 mdX9_teller rfl q2941 q2943 qs95 q154 dX9_meaning_39 rfl rfl (Nat.le_of_ble_eq_true rfl) (mm_o hA) (w_X9_teller (d := d - 1) (by omega) hA (by first | omega | assumption | exact hn | exact hl | exact hb | exact hq | exact hdr | exact has)) (by omega) (by decide) (by decide) ?_
          rcases lastI_c (tells σ (forcesV σ nl) name) 12 with hs42 | hs42
          · refine PJ.top (y := -1) hs42 ?_
            refine pj_istore_n (pc := 42) (lv' := [(3, _), (0, _), (1, _), (2, _)]) dX9_meaning_42 rfl (by decide) rfl ?_
            refine pl_iload_n (pc := 43) dX9_meaning_43 rfl rfl ?_
            refine pj_if_ge (pc := 44) (tgt := 54) dX9_meaning_44 (by decide) (fun h => absurd h (by decide)) (fun _ => ?_)
            refine pl_iload_n (pc := 47) dX9_meaning_47 rfl rfl ?_
            refine pl_callSd (pc := 48) (As := [_]) (C2 := 0) (N2 := 0) mdX9_without q2945 q2946 q154 dX9_meaning_48 rfl rfl (Nat.le_of_ble_eq_true rfl) (w_X9_without (d := d - 1) (by omega)) (by omega) (by decide) (by decide) ?_
            refine pj_goto (pc := 51) (tgt := 81) dX9_meaning_51 (by decide) ?_
            refine pj_iret (pc := 81) dX9_meaning_81 rfl ?_
            exact ⟨vIe (by simp [meanV, eq_true c1, c8, eq_true c18, c25, show lawI σ nl name = -1 from hs42]) rfl, congrArg (mm g ad μ) (by simp [meanV, eq_true c1, c8, eq_true c18, c25, show lawI σ nl name = -1 from hs42, sA_id])⟩
          · obtain ⟨l, hl12, el, ht⟩ := hs42
            refine PJ.top (y := nI l) el ?_
            obtain ⟨hlt, h0⟩ := Lb_tells (Lb_forces σ nl hL) hl12 ht
            have g_l := tN_nI (n := l) (by omega)
            have el1 : lawI σ nl name = nI l := el
            have el2 : ¬ nI l = -1 := fun z => by have h9 := nI_pos' (n := l) (by omega); rw [z] at h9; exact absurd h9 (by decide)
            refine pj_istore_n (pc := 42) (lv' := [(3, _), (0, _), (1, _), (2, _)]) dX9_meaning_42 rfl (by decide) rfl ?_
            refine pl_iload_n (pc := 43) dX9_meaning_43 rfl rfl ?_
            refine pj_if_ge (pc := 44) (tgt := 54) dX9_meaning_44 (by decide) (fun _ => ?_) (fun h => absurd (nI_pos' (by omega)) h)
            refine pl_iload_n (pc := 54) dX9_meaning_54 rfl rfl ?_
            refine pl_aload_n (pc := 55) dX9_meaning_55 rfl rfl ?_
            refine pl_iload_n (pc := 56) dX9_meaning_56 rfl rfl ?_
            refine pl_iload_n (pc := 57) dX9_meaning_57 rfl rfl ?_
            refine pl_aload_n (pc := 58) dX9_meaning_58 rfl rfl ?_
            refine pj_getf (pc := 59) ckX9 1 q2517 dX9_meaning_59 (by decide) (mm_o hA) rfl ?_
            refine pl_sipush (pc := 62) (v := 2116) dX9_meaning_62 (by rfl) ?_
            refine pl_iald (pc := 65) (n := 2132) dX9_meaning_65 (mm_a hA 1 (by decide) (by decide)) (by omega) (by decide) ?_
            refine pl_aload_n (pc := 66) dX9_meaning_66 rfl rfl ?_
            refine pl_callVd (pc := 67) (As := []) (C2 := 0) (N2 := 0) ckX9 mdX9_farms rfl q2948 q2950 qs96 q154 dX9_meaning_67 rfl rfl (Nat.le_of_ble_eq_true rfl) (mm_o hA) (w_X9_farms (d := d - 1) (by omega) hA) (by omega) (by decide) (by decide) ?_
            refine pl_aload_n (pc := 70) dX9_meaning_70 rfl rfl ?_
            refine pl_callVd (pc := 71) (As := []) (C2 := 0) (N2 := 0) ckX9 mdX9_here rfl q2952 q2954 qs97 q154 dX9_meaning_71 rfl rfl (Nat.le_of_ble_eq_true rfl) (mm_o hA) (w_X9_here (d := d - 1) (by omega) hA (by first | omega | assumption | exact hn | exact hl | exact hb | exact hq | exact hdr | exact has) (by first | omega | assumption | exact hn | exact hl | exact hb | exact hq | exact hdr | exact has)) (by omega) (by decide) (by decide) ?_
            refine pl_iload_n (pc := 74) dX9_meaning_74 rfl rfl ?_
            refine pl_callVd (pc := 75) (As := [_, _, _, _, _, _]) (C2 := 0) (N2 := 0) ckX9 mdX9_value rfl q2956 q2958 qs98 q154 dX9_meaning_75 rfl rfl (Nat.le_of_ble_eq_true rfl) (mm_o hA) (w_value (d := d - 1) (by omega) hA hL hw hlt hname h0) (by omega) (by decide) (by decide) ?_
            refine pl_callSd (pc := 78) (As := [_, _]) (C2 := 0) (N2 := 0) mdX9_bounded q2963 q2964 q154 dX9_meaning_78 rfl rfl (Nat.le_of_ble_eq_true rfl) (w_X9_bounded (d := d - 1) (by omega) (by first | omega | assumption | exact hn | exact hl | exact hb | exact hq | exact hdr | exact has)) (by omega) (by decide) (by decide) ?_
            refine pj_iret (pc := 81) dX9_meaning_81 rfl ?_
            exact ⟨vIe (by simp [meanV, eq_true c1, c8, eq_true c18, c25, el1, el2, g_l]) rfl, congrArg (mm g ad μ) (by simp [meanV, eq_true c1, c8, eq_true c18, c25, el1, el2, g_l, sA_id])⟩
        · refine pl_aload_n (pc := 28) dX9_meaning_28 rfl rfl ?_
          refine pj_getf (pc := 29) ckX9 24 q2540 dX9_meaning_29 (by decide) (mm_o hA) rfl ?_
          refine pj_iret (pc := 32) dX9_meaning_32 rfl ?_
          exact ⟨vIe (by simp [meanV, eq_true c1, c8, eq_true c18, c25]) rfl, congrArg (mm g ad μ) (by simp [meanV, eq_true c1, c8, eq_true c18, c25, sA_id])⟩
    · refine pl_aload_n (pc := 11) dX9_meaning_11 rfl rfl ?_
      refine pj_getf (pc := 12) ckX9 23 q2539 dX9_meaning_12 (by decide) (mm_o hA) rfl ?_
      refine pj_iret (pc := 15) dX9_meaning_15 rfl ?_
      exact ⟨vIe (by simp [meanV, eq_true c1, c8]) rfl, congrArg (mm g ad μ) (by simp [meanV, eq_true c1, c8, sA_id])⟩
