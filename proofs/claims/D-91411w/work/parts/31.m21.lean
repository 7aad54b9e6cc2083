set_option maxRecDepth 100000
def besideV (c : Nat) (w : Int32) : Int32 := if w = nI 0 then (if 12 ≤ c then nI (c - 12) else -1) else if w = nI 1 then (if c % 12 = 0 then -1 else nI (c - 1)) else if w = nI 2 then (if c % 12 < 11 then nI (c + 1) else -1) else (if c + 12 < 96 then nI (c + 12) else -1)
theorem besideV_c {c : Nat} {w : Int32} (hc : c < 96) : besideV c w = -1 ∨ ∃ n, n < 96 ∧ besideV c w = nI n := by
  unfold besideV
  split
  · split
    · exact Or.inr ⟨_, by omega, rfl⟩
    · exact Or.inl rfl
  · split
    · split
      · exact Or.inl rfl
      · exact Or.inr ⟨_, by omega, rfl⟩
    · split
      · split
        · exact Or.inr ⟨_, by omega, rfl⟩
        · exact Or.inl rfl
      · split
        · exact Or.inr ⟨_, by omega, rfl⟩
        · exact Or.inl rfl
theorem Who.past {σ : MS} {n c : Nat} (h : Who σ n c) (h2 : isPastV (sec σ c 0) = true) : ∃ p, p < n ∧ sec σ c 1 = nI p := by
  rcases h with e | e | h
  · rw [e] at h2; exact absurd h2 (by decide)
  · rw [e] at h2; exact absurd h2 (by decide)
  · exact h.2
theorem Who.farm {σ : MS} {n c : Nat} (h : Who σ n c) (h2 : isFarmV (sec σ c 0) = true) : ∃ p, p < n ∧ sec σ c 1 = nI p := by
  rcases h with e | e | h
  · rw [e] at h2; exact absurd h2 (by decide)
  · rw [e] at h2; exact absurd h2 (by decide)
  · exact h.2
def strayB (σ : MS) (c : Nat) (p : Int32) : Nat → Int32
  | 0 => -1
  | i + 1 => if 0 ≤ strayB σ c p i then strayB σ c p i else if besideV c (nI i) < 0 then strayB σ c p i else if isFarmV (sec σ (tN (besideV c (nI i))) 0) = false then strayB σ c p i else if sec σ (tN (besideV c (nI i))) 1 = p then strayB σ c p i else besideV c (nI i)
theorem strayB_c {σ : MS} {c : Nat} {p : Int32} (hc : c < 96) : ∀ i, strayB σ c p i = -1 ∨ ∃ b, b < 96 ∧ strayB σ c p i = nI b ∧ isFarmV (sec σ b 0) = true
  | 0 => Or.inl rfl
  | i + 1 => by
    simp only [strayB]
    split
    · exact strayB_c hc i
    · split
      · exact strayB_c hc i
      · split
        · exact strayB_c hc i
        · split
          · exact strayB_c hc i
          · rename_i h1 h2 h3 h4
            rcases besideV_c (w := nI i) hc with e | ⟨b, hb, e⟩
            · exact Or.inl e
            · refine Or.inr ⟨b, hb, e, ?_⟩
              rw [e, tN_nI (by omega)] at h3
              exact Bool.not_eq_false _ ▸ h3
theorem strayB_stay {σ : MS} {c i : Nat} {p : Int32} (h : 0 ≤ strayB σ c p i) : ∀ k, strayB σ c p (i + k) = strayB σ c p i
  | 0 => rfl
  | k + 1 => by
    have e := strayB_stay h k
    show strayB σ c p (i + k + 1) = _
    simp only [strayB]
    rw [e, if_pos h]
set_option maxHeartbeats 4000000 in
theorem w_X9_beside {g : GP} {μ : Mem} {d : Nat} {c : Nat} {w : Int32}  (hd : 1 ≤ d) (hc : c < 96) : PM g yX9_beside (ws_ yX9_beside cX9_beside 3 (some .int)) d 0 0 [.int (nI c), .int w] μ (rQ (some (.int (besideV c w))) μ) := by
  refine PM.of (by decide +kernel) (Nat.le_of_ble_eq_true rfl) ?_
  show PJ g _ _ _ _ d 0 0 0 [(0, .int (nI c)), (1, .int w)] [] _ _
  refine pl_iload_n (pc := 0) dX9_beside_0 rfl rfl ?_
  refine pl_bipush (pc := 1) (v := 12) dX9_beside_1 (by rfl) ?_
  refine pl_irem (pc := 3) dX9_beside_3 (by omega) (by decide) (by decide) ?_
  refine pj_istore_n (pc := 4) (lv' := [(2, _), (0, _), (1, _)]) dX9_beside_4 rfl (by decide) rfl ?_
  refine pl_iload_n (pc := 5) dX9_beside_5 rfl rfl ?_
  refine pl_tsw (pc := 6) 0 (tgt := 32) dX9_beside_6 (by rfl) (by decide) (by decide) (by rfl) (by decide) (fun c6_0 => ?_) (fun c6_0 => ?_)
  · refine pl_iload_n (pc := 32) dX9_beside_32 rfl rfl ?_
    refine pl_bipush (pc := 33) (v := 12) dX9_beside_33 (by rfl) ?_
    refine pl_icmp_lt (pc := 35) (tgt := 45) dX9_beside_35 (by decide) (by omega) (by omega) (fun c35 => ?_) (fun c35 => ?_)
    · refine pj_iconst (pc := 45) (v := (-1)) dX9_beside_45 (by rfl) ?_
      refine pj_iret (pc := 46) dX9_beside_46 rfl ?_
      exact ⟨vIe (by simp only [besideV, eq_true c6_0, ↓reduceIte]; split <;> first | rfl | (exfalso; omega)) rfl, rfl⟩
    · refine pl_iload_n (pc := 38) dX9_beside_38 rfl rfl ?_
      refine pl_bipush (pc := 39) (v := 12) dX9_beside_39 (by rfl) ?_
      refine pl_isub (pc := 41) dX9_beside_41 c35 ?_
      refine pj_goto (pc := 42) (tgt := 46) dX9_beside_42 (by decide) ?_
      refine pj_iret (pc := 46) dX9_beside_46 rfl ?_
      exact ⟨vIe (by simp only [besideV, eq_true c6_0, ↓reduceIte]; split <;> first | rfl | (exfalso; omega)) rfl, rfl⟩
  refine pl_tsw (pc := 6) 1 (tgt := 47) dX9_beside_6 (by rfl) (by decide) (by decide) (by rfl) (by decide) (fun c6_1 => ?_) (fun c6_1 => ?_)
  · refine pl_iload_n (pc := 47) dX9_beside_47 rfl rfl ?_
    refine pl_if_leN (pc := 48) (tgt := 57) dX9_beside_48 (by decide) (by omega) (fun c48 => ?_) (fun c48 => ?_)
    · refine pj_iconst (pc := 57) (v := (-1)) dX9_beside_57 (by rfl) ?_
      refine pj_iret (pc := 58) dX9_beside_58 rfl ?_
      exact ⟨vIe (by simp only [besideV, c6_0, eq_true c6_1, ↓reduceIte]; split <;> first | rfl | (exfalso; omega)) rfl, rfl⟩
    · refine pl_iload_n (pc := 51) dX9_beside_51 rfl rfl ?_
      refine pl_iconst (pc := 52) (v := 1) dX9_beside_52 (by rfl) ?_
      refine pl_isub (pc := 53) dX9_beside_53 (by omega) ?_
      refine pj_goto (pc := 54) (tgt := 58) dX9_beside_54 (by decide) ?_
      refine pj_iret (pc := 58) dX9_beside_58 rfl ?_
      exact ⟨vIe (by simp only [besideV, c6_0, eq_true c6_1, ↓reduceIte]; split <;> first | rfl | (exfalso; omega)) rfl, rfl⟩
  refine pl_tsw (pc := 6) 2 (tgt := 59) dX9_beside_6 (by rfl) (by decide) (by decide) (by rfl) (by decide) (fun c6_2 => ?_) (fun c6_2 => ?_)
  · refine pl_iload_n (pc := 59) dX9_beside_59 rfl rfl ?_
    refine pl_bipush (pc := 60) (v := 11) dX9_beside_60 (by rfl) ?_
    refine pl_icmp_ge (pc := 62) (tgt := 71) dX9_beside_62 (by decide) (by omega) (by omega) (fun c62 => ?_) (fun c62 => ?_)
    · refine pj_iconst (pc := 71) (v := (-1)) dX9_beside_71 (by rfl) ?_
      refine pj_iret (pc := 72) dX9_beside_72 rfl ?_
      exact ⟨vIe (by simp only [besideV, c6_0, c6_1, eq_true c6_2, ↓reduceIte]; split <;> first | rfl | (exfalso; omega)) rfl, rfl⟩
    · refine pl_iload_n (pc := 65) dX9_beside_65 rfl rfl ?_
      refine pl_iconst (pc := 66) (v := 1) dX9_beside_66 (by rfl) ?_
      refine pl_iadd (pc := 67) dX9_beside_67 ?_
      refine pj_goto (pc := 68) (tgt := 72) dX9_beside_68 (by decide) ?_
      refine pj_iret (pc := 72) dX9_beside_72 rfl ?_
      exact ⟨vIe (by simp only [besideV, c6_0, c6_1, eq_true c6_2, ↓reduceIte]; split <;> first | rfl | (exfalso; omega)) rfl, rfl⟩
  refine pj_tableOut (pc := 6) (tgt := 73) dX9_beside_6 (by have q0 := nI_nec c6_0; have q1 := nI_nec c6_1; have q2 := nI_nec c6_2; omega) (by decide) ?_
  refine pl_iload_n (pc := 73) dX9_beside_73 rfl rfl ?_
  refine pl_bipush (pc := 74) (v := 12) dX9_beside_74 (by rfl) ?_
  refine pl_iadd (pc := 76) dX9_beside_76 ?_
  refine pl_bipush (pc := 77) (v := 96) dX9_beside_77 (by rfl) ?_
  refine pl_icmp_ge (pc := 79) (tgt := 89) dX9_beside_79 (by decide) (by omega) (by omega) (fun c79 => ?_) (fun c79 => ?_)
  · refine pj_iconst (pc := 89) (v := (-1)) dX9_beside_89 (by rfl) ?_
    refine pj_iret (pc := 90) dX9_beside_90 rfl ?_
    exact ⟨vIe (by simp only [besideV, c6_0, c6_1, c6_2, ↓reduceIte]; split <;> first | rfl | (exfalso; omega)) rfl, rfl⟩
  · refine pl_iload_n (pc := 82) dX9_beside_82 rfl rfl ?_
    refine pl_bipush (pc := 83) (v := 12) dX9_beside_83 (by rfl) ?_
    refine pl_iadd (pc := 85) dX9_beside_85 ?_
    refine pj_goto (pc := 86) (tgt := 90) dX9_beside_86 (by decide) ?_
    refine pj_iret (pc := 90) dX9_beside_90 rfl ?_
    exact ⟨vIe (by simp only [besideV, c6_0, c6_1, c6_2, ↓reduceIte]; split <;> first | rfl | (exfalso; omega)) rfl, rfl⟩
def strayS (n nl c : Nat) (m : Int32) (σ : MS) : MS := let p := tN (sec σ c 1); if ¬ 0 ≤ strayB σ c (sec σ c 1) 4 then sR σ (8 * c + 3) (row σ (8 * c + 3) - m) else (let b := tN (strayB σ c (sec σ c 1) 4); let due := (meanV σ n nl 4 (nI 0)).1 * m; let has := per σ p 1; let sum := if has ≤ due then has else due; let σ := s_pays (sM σ n nl 4 (nI 0)) p (-sum); s_pays σ (tN (sec σ b 1)) sum)
def s_strays (n nl c : Nat) (σ : MS) : MS := if isPastV (sec σ c 0) = false then σ else if sec σ c 3 < nI 8 then σ else if sec σ c 4 = nI 1 then σ else strayS n nl c (sec σ c 3 / nI 8) σ
theorem strayS_iv {σ : MS} {n nl nb q nor nw c : Nat} {m : Int32} (v : IvG σ n nl nb q nor nw) (hc : c < 96) (hp : isPastV (sec σ c 0) = true) : IvG (strayS n nl c m σ) n nl nb q nor nw := by
  have hP := v.hP
  obtain ⟨p, hp1, ep⟩ := (v.who c hc).past hp
  unfold strayS
  simp only []
  split
  · exact v.sR1 (by unfold fr1 fr2; omega)
  · rename_i h
    rcases strayB_c (σ := σ) (p := sec σ c 1) hc 4 with e | ⟨b, hb, e, hf⟩
    · rw [e] at h
      exact absurd (show ¬ (0 : Int32) ≤ -1 by decide) h
    · obtain ⟨o, ho, eo⟩ := (v.who b hb).farm hf
      rw [ep, tN_nI (by omega), ← ep, e, tN_nI (by omega)]
      have v1 : ∀ x, IvG (s_pays (sM σ n nl 4 (nI 0)) p x) n nl nb q nor nw := fun x => (v.sA1).pays hp1
      have e2 : ∀ x, sec (s_pays (sM σ n nl 4 (nI 0)) p x) b 1 = nI o := fun x => (rowS_ne (by omega)).trans eo
      rw [e2, tN_nI (by omega)]
      exact (v1 _).pays ho
theorem strays_iv {σ : MS} {n nl nb q nor nw c : Nat} (v : IvG σ n nl nb q nor nw) (hc : c < 96) : IvG (s_strays n nl c σ) n nl nb q nor nw := by
  unfold s_strays
  split
  · exact v
  · rename_i h
    split
    · exact v
    · split
      · exact v
      · exact strayS_iv v hc (Bool.not_eq_false _ ▸ h)
