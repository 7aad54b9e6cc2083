set_option maxRecDepth 100000
theorem pays_comm {σ : MS} {k p : Nat} {v x : Int32} (h : k ≠ 768 + 8 * p + 1) : s_pays (sR σ k v) p x = sR (s_pays σ p x) k v := by
  unfold s_pays
  rw [show per (sR σ k v) p 1 = per σ p 1 from rowS_ne (Ne.symm h)]
  exact sR_comm h
theorem farm1_no {σ : MS} {n c : Nat} (h : isFarmV (sec σ c 0) = false) : farm1 n c σ = σ := by
  unfold farm1
  exact if_pos h
theorem farm1_yes {σ : MS} {n c p : Nat} (h : isFarmV (sec σ c 0) = true) (e1 : sec σ c 1 = nI p) (hp : p < 100) (h4 : per σ p 2 = nI 4) : farm1 n c σ = s_pays (sR σ 2117 (row σ 2117 + σ.2.1 3 c * bandV (row σ (2104 + c % 12 / 3)) * nI (1 + hiredC σ n (nI p)))) p (σ.2.1 3 c * bandV (row σ (2104 + c % 12 / 3)) * nI (1 + hiredC σ n (nI p)) / nI 2) := by
  unfold farm1
  rw [if_neg (by rw [h]; decide), e1, tN_nI (by omega), if_neg (fun z => z h4)]
theorem farm1_sR {σ : MS} {n c j : Nat} {v : Int32} (hc : c < 96) (hj : j < 96) (hn : n ≤ 100) : farm1 n j (sR σ (8 * c + 3) v) = sR (farm1 n j σ) (8 * c + 3) v := by
  have r : ∀ i, i ≠ 8 * c + 3 → row (sR σ (8 * c + 3) v) i = row σ i := fun i hi => rowS_ne hi
  have r3 : (sR σ (8 * c + 3) v).2.1 3 = σ.2.1 3 := by simp [sA]
  have rh : ∀ x, hiredC (sR σ (8 * c + 3) v) n x = hiredC σ n x := fun x => cnt_cg (fun o ho => by rw [show per (sR σ (8 * c + 3) v) o 2 = per σ o 2 from r _ (by omega), show per (sR σ (8 * c + 3) v) o 3 = per σ o 3 from r _ (by omega)])
  unfold farm1
  dsimp only
  rw [show sec (sR σ (8 * c + 3) v) j 0 = sec σ j 0 from r _ (by omega), show sec (sR σ (8 * c + 3) v) j 1 = sec σ j 1 from r _ (by omega), show per (sR σ (8 * c + 3) v) (tN (sec σ j 1)) 2 = per σ (tN (sec σ j 1)) 2 from r _ (by omega), r3, r (2104 + j % 12 / 3) (by omega), rh, r 2117 (by omega)]
  by_cases h : isFarmV (sec σ j 0) = false
  · rw [if_pos h, if_pos h]
  · rw [if_neg h, if_neg h]
    by_cases h4 : ¬ per σ (tN (sec σ j 1)) 2 = nI 4
    · rw [if_pos h4, if_pos h4]
    · rw [if_neg h4, if_neg h4, sR_comm (show 8 * c + 3 ≠ 2117 by omega), pays_comm (by omega)]
theorem farm1_row {σ : MS} {n c i : Nat} (hi : i < 768) : row (farm1 n c σ) i = row σ i := by
  unfold farm1
  dsimp only
  split
  · rfl
  · split
    · rfl
    · unfold s_pays
      rw [rowS_ne (by omega), rowS_ne (by omega)]
theorem past_farm {σ : MS} {n c j : Nat} (hc : c < 96) (hj : j < 96) (hn : n ≤ 100) : past1 c (farm1 n j σ) = farm1 n j (past1 c σ) := by
  unfold past1
  dsimp only
  rw [show sec (farm1 n j σ) c 0 = sec σ c 0 from farm1_row (by omega), show sec (farm1 n j σ) c 3 = sec σ c 3 from farm1_row (by omega)]
  by_cases h : isPastV (sec σ c 0) = false
  · rw [if_pos h, if_pos h]
  · rw [if_neg h, if_neg h, farm1_sR hc hj hn]
theorem year_step {σ : MS} {n : Nat} (hn : n ≤ 100) {j : Nat} (hj : j < 96) : uq past1 (j + 1) (uq (farm1 n) (j + 1) σ) = farm1 n j (past1 j (uq past1 j (uq (farm1 n) j σ))) := by
  have key : ∀ i, i ≤ 96 → ∀ Y, uq past1 i (farm1 n j Y) = farm1 n j (uq past1 i Y) := by
    intro i
    induction i with
    | zero => intro _ Y; rw [uq_0, uq_0]
    | succ i ih => intro hi Y; rw [uq_s, ih (by omega), past_farm (by omega) hj hn, uq_s]
  rw [uq_s (farm1 n), key (j + 1) (by omega), uq_s past1]
theorem past1_eq {σ : MS} {c ks : Nat} (e3 : sec σ c 3 = nI ks) (hk : ks ≤ 1000) (h0 : isPastV (sec σ c 0) = false → ks = 0) : sR σ (8 * c + 3) (nI (min 1000 (ks + ks / 4))) = past1 c σ := by
  unfold past1
  dsimp only
  by_cases h : isPastV (sec σ c 0) = false
  · have := h0 h
    subst this
    rw [if_pos h]
    exact sR_id e3
  · rw [if_neg h, e3, pk_div (by omega) (by decide) (by decide), nI_add]
    congr 1
    by_cases h2 : ks + ks / 4 ≤ 1000
    · rw [if_neg (fun z => z ((nI_leI (by omega) (by decide)).mpr h2)), Nat.min_eq_right h2]
    · rw [if_pos (fun z => h2 ((nI_leI (by omega) (by decide)).mp z)), Nat.min_eq_left (by omega)]
/-- the zones that are held, as bits -/
def heldV (σ : MS) : Nat → Int32
  | 0 => nI 0
  | i + 1 => if sec σ i 0 ≤ nI 1 then heldV σ i else heldV σ i ||| (nI 1 <<< (nI (i % 12 / 3) &&& 31))
theorem bits4 : ∀ m : Fin 16, ∀ y : Fin 4, (nI m.1 ||| (nI 1 <<< (nI y.1 &&& 31)) = nI (m.1 ||| (1 <<< y.1))) ∧ (m.1 ||| (1 <<< y.1)) < 16 ∧ ∀ z : Fin 4, (nI (m.1 ||| (1 <<< y.1)) >>> (nI z.1 &&& 31)) &&& nI 1 = if y.1 = z.1 then nI 1 else (nI m.1 >>> (nI z.1 &&& 31)) &&& nI 1 := by decide +kernel
theorem held_bits {σ : MS} : ∀ i, ∃ m, m < 16 ∧ heldV σ i = nI m ∧ ∀ z, z < 4 → (nI m >>> (nI z &&& 31)) &&& nI 1 = if anyN (zc σ z) i = true then nI 1 else nI 0
  | 0 => ⟨0, by decide, rfl, fun z hz => by
      rw [if_neg (by simp [anyN])]
      exact (show ∀ z : Fin 4, (nI 0 >>> (nI z.1 &&& 31)) &&& nI 1 = nI 0 by decide +kernel) ⟨z, hz⟩⟩
  | i + 1 => by
    obtain ⟨m, hm, e, hb⟩ := held_bits (σ := σ) i
    by_cases h : sec σ i 0 ≤ nI 1
    · refine ⟨m, hm, (if_pos h).trans e, fun z hz => ?_⟩
      rw [hb z hz]
      have : anyN (zc σ z) (i + 1) = anyN (zc σ z) i := by simp [anyN, zc, h]
      rw [this]
    · obtain ⟨b1, b2, b3⟩ := bits4 ⟨m, hm⟩ ⟨i % 12 / 3, by omega⟩
      refine ⟨m ||| (1 <<< (i % 12 / 3)), b2, ((if_neg h).trans (by rw [e])).trans b1, fun z hz => ?_⟩
      have b4 := b3 ⟨z, hz⟩
      simp only at b4
      rw [b4, hb z hz]
      by_cases hz2 : i % 12 / 3 = z
      · have : anyN (zc σ z) (i + 1) = true := by simp [anyN, zc, h, hz2]
        rw [if_pos hz2, if_pos this]
      · have : anyN (zc σ z) (i + 1) = anyN (zc σ z) i := by simp [anyN, zc, hz2]
        rw [if_neg hz2, this]
theorem anyN_cg {p q : Nat → Bool} : ∀ {n : Nat}, (∀ i, i < n → p i = q i) → anyN p n = anyN q n
  | 0, _ => rfl
  | n + 1, h => by
    have e := anyN_cg (n := n) (fun i hi => h i (by omega))
    simp only [anyN, e, h n (by omega)]
theorem bandV_in (r : Int32) : ∃ k, k ≤ 3 ∧ bandV r = nI k := by
  unfold bandV
  split
  · exact ⟨0, by decide, rfl⟩
  · split
    · exact ⟨1, by decide, rfl⟩
    · split
      · exact ⟨2, by decide, rfl⟩
      · split
        · exact ⟨3, by decide, rfl⟩
        · exact ⟨1, by decide, rfl⟩
theorem crop_in {a b r : Int32} {k h : Nat} (ha : a = nI k) (hk : k ≤ 9) (hh : h ≤ 101) (e : b = a * bandV r * nI h) : ∃ m, m ≤ 1000000 ∧ b / nI 2 = nI m := by
  obtain ⟨kb, hkb, ekb⟩ := bandV_in r
  rw [e, ha, ekb, pk_mul, pk_mul]
  have h1 : k * kb ≤ 27 := Nat.mul_le_mul hk hkb
  have h2 : k * kb * h ≤ 2727 := Nat.mul_le_mul h1 hh
  exact ⟨k * kb * h / 2, by omega, pk_div (by omega) (by decide) (by decide)⟩
theorem HoC.one {M : Mem} {q : Nat} {r : Nat → Int32} (h : HoC M q r) (h1 : r 0 = nI 0 ∨ r 0 = nI 1) : r 1 = -1 := by
  rcases h with ⟨a, b, _⟩ | ⟨a, b, _⟩ | ⟨a, _⟩ | ⟨a, _⟩ | ⟨a, _⟩ | ⟨a, _⟩
  · exact b
  · exact b
  all_goals (rw [a] at h1; rcases h1 with z | z <;> exact absurd z (by decide))
theorem held_iff {σ : MS} {M : Mem} {n c q : Nat} (hw : Who σ n c) (hn : n ≤ 100) (hq : HoC M q (hoR σ c)) : (sec σ c 0 ≤ nI 1 ∧ sec σ c 1 = -1) ∨ (¬ sec σ c 0 ≤ nI 1 ∧ ¬ sec σ c 1 = -1) := by
  rcases hw with e | e | ⟨e, p, hp, ep⟩
  · exact Or.inl ⟨by rw [e]; decide, hq.one (Or.inl e)⟩
  · exact Or.inl ⟨by rw [e]; decide, hq.one (Or.inr e)⟩
  · refine Or.inr ⟨?_, fun z => nI_m1 (n := p) (by omega) (z.symm.trans ep)⟩
    rcases e with e | e | e | e <;> · rw [e]; decide
set_option maxHeartbeats 600000 in
theorem x_X2_harvests {g : GP} {μ : Mem} {d : Nat} {P : Nat → Prop} {F : Mem} {A : XA} {w : Nat} {S : Nat → Nat → Nat} {b : XS} {σ : MS} {nor nw : Nat} (hd : 6 ≤ d) (s : SB g P F A w S b σ nw μ) (iv : IvG σ (S 4 w) (S 8 w) (S 10 w) (S 6 w) nor nw)  : PM g yX2_harvests (ws_ yX2_harvests cX2_harvests 5 none) d 0 0 [.ref (A 1 w 0)] μ (WQ none (SB g P F A w S b (s_yearEnds (S 4 w) σ) nw)) := by
  refine PM.of (by decide +kernel) (Nat.le_of_ble_eq_true rfl) ?_
  refine PJ.ok (fun G => ?_)
  show PJ g _ _ _ _ d 0 0 0 [(0, .ref (A 1 w 0))] [] _ _
  obtain ⟨e, h, t⟩ := s
  have hS4 := h.hz.2.1
  have hS6 := h.hz.2.2.1
  have hS8 := h.hz.2.2.2.1
  have hS10 := h.hz.2.2.2.2.1
  refine pl_iconst (pc := 0) (v := 0) dX2_harvests_0 (by rfl) ?_
  refine pj_istore_n (pc := 1) (lv' := [(1, _), (0, _)]) dX2_harvests_1 rfl (by decide) rfl ?_
  refine pl_iconst (pc := 2) (v := 0) dX2_harvests_2 (by rfl) ?_
  refine pj_istore_n (pc := 3) (lv' := [(2, _), (1, _), (0, _)]) dX2_harvests_3 rfl (by decide) rfl ?_
  refine ind_dn (n := 96) (P := fun i => PJ g _ _ _ _ d 0 0 4 [(2, .int (nI i)), (1, .int (heldV σ i)), (0, .ref (A 1 w 0))] [] μ _) (fun i hi ih => ?_) 0 (Nat.zero_le _)
  refine pl_iload_n (pc := 4) dX2_harvests_4 rfl rfl ?_
  refine pl_bipush (pc := 5) (v := 96) dX2_harvests_5 (by rfl) ?_
  refine pl_icmp_ge (pc := 7) (tgt := 37) dX2_harvests_7 (by decide) (by omega) (by omega) (fun c7 => ?_) (fun c7 => ?_)
  · have ei : i = 96 := by omega
    subst ei
    refine pl_iconst (pc := 37) (v := 0) dX2_harvests_37 (by rfl) ?_
    refine pj_istore_n (pc := 38) (lv' := [(2, _), (1, _), (0, _)]) dX2_harvests_38 rfl (by decide) rfl ?_
    refine ind_dn (n := 4) (P := fun i => ∀ M9 τ, τ = uq seen1 i σ → (∀ j, j < 2104 → row τ j = row σ j) → SB g P F A w S b τ nw M9 → IvG τ (S 4 w) (S 8 w) (S 10 w) (S 6 w) nor nw → PJ g _ _ _ _ d 0 0 39 [(2, .int (nI i)), (1, .int (heldV σ 96)), (0, .ref (A 1 w 0))] [] M9 _) (fun i hi ih M9 τ hτ hR9 s9 iv9 => ?_) 0 (Nat.zero_le _) _ σ (uq_0 _ _).symm (fun _ _ => rfl) ⟨e, h, t⟩ iv
    obtain ⟨e9, h9, t9⟩ := s9
    refine pl_iload_n (pc := 39) dX2_harvests_39 rfl rfl ?_
    refine pl_iconst (pc := 40) (v := 4) dX2_harvests_40 (by rfl) ?_
    refine pl_icmp_ge (pc := 41) (tgt := 86) dX2_harvests_41 (by decide) (by omega) (by omega) (fun c41 => ?_) (fun c41 => ?_)
    · have ei : i = 4 := by omega
      subst ei
      refine pl_iconst (pc := 86) (v := 0) dX2_harvests_86 (by rfl) ?_
      refine pj_istore_n (pc := 87) (lv' := [(2, _), (1, _), (0, _)]) dX2_harvests_87 rfl (by decide) rfl ?_
      refine ind_dn (n := 96) (P := fun j => ∀ M9 τ1, τ1 = uq past1 j (uq (farm1 (S 4 w)) j τ) → SB g P F A w S b τ1 nw M9 → IvG τ1 (S 4 w) (S 8 w) (S 10 w) (S 6 w) nor nw → PJ g _ _ _ _ d 0 0 88 [(2, .int (nI j)), (1, .int (heldV σ 96)), (0, .ref (A 1 w 0))] [] M9 _) (fun j hj ih M8 τ1 hτ1 s8 iv8 => ?_) 0 (Nat.zero_le _) _ τ (by rw [uq_0, uq_0]) ⟨_, h9, t9⟩ iv9
      obtain ⟨e8, h8, t8⟩ := s8
      refine pl_iload_n (pc := 88) dX2_harvests_88 rfl rfl ?_
      refine pl_bipush (pc := 89) (v := 96) dX2_harvests_89 (by rfl) ?_
      refine pl_icmp_ge (pc := 91) (tgt := 218) dX2_harvests_91 (by decide) (by omega) (by omega) (fun c91 => ?_) (fun c91 => ?_)
      · have ej : j = 96 := by omega
        subst ej
        refine pl_iconst (pc := 218) (v := 0) dX2_harvests_218 (by rfl) ?_
        refine pj_istore_n (pc := 219) (lv' := [(2, _), (1, _), (0, _)]) dX2_harvests_219 rfl (by decide) rfl ?_
        refine ind_dn (n := 4) (P := fun k => ∀ M9 τ2, τ2 = uq zero1 k τ1 → SB g P F A w S b τ2 nw M9 → IvG τ2 (S 4 w) (S 8 w) (S 10 w) (S 6 w) nor nw → PJ g _ _ _ _ d 0 0 220 [(2, .int (nI k)), (1, .int (heldV σ 96)), (0, .ref (A 1 w 0))] [] M9 _) (fun k hk ih M7 τ2 hτ2 s7 iv7 => ?_) 0 (Nat.zero_le _) _ τ1 (uq_0 _ _).symm ⟨_, h8, t8⟩ iv8
        obtain ⟨e7, h7, t7⟩ := s7
        refine pl_iload_n (pc := 220) dX2_harvests_220 rfl rfl ?_
        refine pl_iconst (pc := 221) (v := 4) dX2_harvests_221 (by rfl) ?_
        refine pl_icmp_ge (pc := 222) (tgt := 238) dX2_harvests_222 (by decide) (by omega) (by omega) (fun c222 => ?_) (fun c222 => ?_)
        · refine pj_vret (pc := 238) dX2_harvests_238 rfl ?_
          have ek : k = 4 := by omega
          subst ek
          unfold s_yearEnds
          rw [← hτ, ← hτ1, ← hτ2]
          exact ⟨rfl, _, h7, t7⟩
        · refine pl_aload_n (pc := 225) dX2_harvests_225 rfl rfl ?_
          refine pj_getf (pc := 226) ckX2 22 q766 dX2_harvests_226 (by decide) (h7.r1) rfl ?_
          refine pl_iload_n (pc := 229) dX2_harvests_229 rfl rfl ?_
          refine pl_iconst (pc := 230) (v := 0) dX2_harvests_230 (by rfl) ?_
          refine pl_iast (pc := 231) (n := 4) dX2_harvests_231 (h7.r22) (by omega) (by decide) ?_
          refine sxk (h7.p22 (by omega)) (fun My1 y1 => ?_)
          refine pl_iinc1 (pc := 232) (lv' := [(2, _), (1, _), (0, _)]) dX2_harvests_232 rfl rfl (by decide) rfl ?_
          refine pj_goto (pc := 235) (tgt := 220) dX2_harvests_235 (by decide) ?_
          have g8 : SX g P F A w S b (zero1 k τ2) e7 _ := y1
          exact ih (by omega) _ _ (by rw [uq_s, ← hτ2]) ⟨_, g8, t7.cg g8.hz (fun j hj => rowS_ne (fun z => hj (by unfold fr0; omega))) (by simp [zero1, sA]) (by simp [zero1, sA]) (fun _ _ => by simp [zero1, sA]) rfl rfl⟩ (zero1_iv (by omega) iv7)
      · obtain ⟨ks, hks, eks, ek0⟩ := (t8.ps (c := j) (by omega)).2.1
        refine pl_aload_n (pc := 94) dX2_harvests_94 rfl rfl ?_
        refine pj_getf (pc := 95) ckX2 16 q755 dX2_harvests_95 (by decide) (h8.r1) rfl ?_
        refine pl_iload_n (pc := 98) dX2_harvests_98 rfl rfl ?_
        refine pl_sipush (pc := 99) (v := 1000) dX2_harvests_99 (by rfl) ?_
        refine pl_aload_n (pc := 102) dX2_harvests_102 rfl rfl ?_
        refine pj_getf (pc := 103) ckX2 16 q755 dX2_harvests_103 (by decide) (h8.r1) rfl ?_
        refine pl_iload_n (pc := 106) dX2_harvests_106 rfl rfl ?_
        refine pl_iald (pc := 107) (n := 96) dX2_harvests_107 (h8.r19) (by omega) (by decide) ?_
        refine PJ.top (h8.v19 (by omega)) ?_
        refine PJ.top (y := nI ks) eks ?_
        refine pl_aload_n (pc := 108) dX2_harvests_108 rfl rfl ?_
        refine pj_getf (pc := 109) ckX2 16 q755 dX2_harvests_109 (by decide) (h8.r1) rfl ?_
        refine pl_iload_n (pc := 112) dX2_harvests_112 rfl rfl ?_
        refine pl_iald (pc := 113) (n := 96) dX2_harvests_113 (h8.r19) (by omega) (by decide) ?_
        refine PJ.top (h8.v19 (by omega)) ?_
        refine PJ.top (y := nI ks) eks ?_
        refine pl_iconst (pc := 114) (v := 4) dX2_harvests_114 (by rfl) ?_
        refine pl_idiv (pc := 115) dX2_harvests_115 (by omega) (by decide) (by decide) ?_
        refine pl_iadd (pc := 116) dX2_harvests_116 ?_
        refine pj_mmin (pc := 117) q1033 dX2_harvests_117 (by omega) (Nat.le_of_ble_eq_true rfl) ?_
        refine PJ.top (y := nI (min 1000 (ks + ks / 4))) (min_nI (by omega) (by omega)) ?_
        refine pl_iast (pc := 120) (n := 96) dX2_harvests_120 (h8.r19) (by omega) (by decide) ?_
        refine sxk (h8.p19 (by omega)) (fun My2 y2 => ?_)
        have ep1 : sR τ1 (8 * j + 3) (nI (min 1000 (ks + ks / 4))) = past1 j τ1 := past1_eq eks hks ek0
        have g0 : SX g P F A w S b (sR τ1 (8 * j + 3) (nI (min 1000 (ks + ks / 4)))) e8 _ := y2
        have t7 : TieX w S (past1 j τ1) e8 nw := by
          by_cases cp : isPastV (sec τ1 j 0) = true
          · rw [← ep1]
            exact tie_many t8 g0.hz (by omega) cp (Nat.min_le_left _ _)
          · rw [show past1 j τ1 = τ1 from if_pos (Bool.not_eq_true _ ▸ cp)]
            exact t8
        have iv7 : IvG (past1 j τ1) (S 4 w) (S 8 w) (S 10 w) (S 6 w) nor nw := past1_iv (by omega) iv8
        rw [ep1] at g0
        obtain ⟨υ, hυ⟩ : ∃ υ, υ = past1 j τ1 := ⟨_, rfl⟩
        rw [← hυ] at g0 t7 iv7
        refine pl_aload_n (pc := 121) dX2_harvests_121 rfl rfl ?_
        refine pl_iload_n (pc := 122) dX2_harvests_122 rfl rfl ?_
        obtain ⟨q_123, hm_123, hq_123, hdd_123⟩ := g0.held (s := j) (by omega)
        refine pl_callVd (pc := 123) (As := [_]) (C1 := 0) (N1 := 0) (C2 := 0) (N2 := 0) ckX2 mdX2_at rfl q1199 q1124 q1125 q126 dX2_harvests_123 rfl rfl (Nat.le_of_ble_eq_true rfl) (g0.r1) (x_X2_at (d := d - 1) (by omega) g0 (by omega) hm_123 hq_123) (by omega) (by omega) (by omega) ?_
        refine ph_isFarm (pc := 126) hq_123 (fun G => dw_at G 4 rfl) (fun G => dw_at G 5 rfl) dX2_harvests_126 (by omega) (Nat.le_of_ble_eq_true rfl) ?_
        refine PJ.top ho_isFarm ?_
        refine pl_if_neB (pc := 129) (tgt := 135) dX2_harvests_129 (by decide) (fun c129 => ?_) (fun c129 => ?_)
        · refine pl_aload_n (pc := 135) dX2_harvests_135 rfl rfl ?_
          refine pj_getf (pc := 136) ckX2 26 q772 dX2_harvests_136 (by decide) (g0.r1) rfl ?_
          refine pl_aload_n (pc := 139) dX2_harvests_139 rfl rfl ?_
          refine pl_iload_n (pc := 140) dX2_harvests_140 rfl rfl ?_
          obtain ⟨q_141, hm_141, hq_141, hdd_141⟩ := g0.held (s := j) (by omega)
          refine pl_callVd (pc := 141) (As := [_]) (C1 := 0) (N1 := 0) (C2 := 0) (N2 := 0) ckX2 mdX2_at rfl q1199 q1124 q1125 q126 dX2_harvests_141 rfl rfl (Nat.le_of_ble_eq_true rfl) (g0.r1) (x_X2_at (d := d - 1) (by omega) g0 (by omega) hm_141 hq_141) (by omega) (by omega) (by omega) ?_
          refine ph_holder (pc := 144) hq_141 (fun G => dw_at G 17 rfl) (fun G => dw_at G 3 rfl) dX2_harvests_144 (by omega) (Nat.le_of_ble_eq_true rfl) ?_
          refine PJ.top ho_holder ?_
          obtain ⟨p, hp, ep⟩ := (iv7.who j (by omega)).farm c129
          refine PJ.top (y := nI p) ep ?_
          obtain ⟨m_147, c_147, l_147⟩ := g0.L4
          refine pl_callVd (pc := 147) (As := [_]) (C1 := 0) (N1 := 0) (C2 := 0) (N2 := 0) ckJ2 mdJ2_get rfl q707 q708 q709 q129 dX2_harvests_147 rfl rfl (Nat.le_of_ble_eq_true rfl) l_147.1 (k_J2_get (d := d - 1) (by omega) l_147 (j := p) hp (if_pos hp)) (by omega) (by omega) (by omega) ?_
          refine pj_castS (pc := 150) ckX10 q1190 dX2_harvests_150 (g0.r35 hp) ?_
          refine pj_astore_n (pc := 153) (lv' := [(3, _), (2, _), (1, _), (0, _)]) dX2_harvests_153 rfl (by decide) rfl ?_
          refine pl_aload_n (pc := 154) dX2_harvests_154 rfl rfl ?_
          refine pj_getfN (pc := 155) ckX10 3 q1074 dX2_harvests_155 (by decide) (g0.r35 hp) rfl ?_
          refine PJ.top (y := nI 4) (t7.own (by omega) c129 hp ep) ?_
          refine pl_iconst (pc := 158) (v := 4) dX2_harvests_158 (by rfl) ?_
          refine pj_icmp_eq (pc := 159) (tgt := 165) dX2_harvests_159 (by decide) (fun _ => ?_) (fun h => absurd h (by decide))
          refine pl_aload_n (pc := 165) dX2_harvests_165 rfl rfl ?_
          refine pj_getf (pc := 166) ckX2 13 q749 dX2_harvests_166 (by decide) (g0.r1) rfl ?_
          refine pl_iload_n (pc := 169) dX2_harvests_169 rfl rfl ?_
          refine pl_bald (pc := 170) (n := 96) dX2_harvests_170 (g0.r27) (by omega) (by decide) ?_
          refine PJ.top (g0.v27 (by omega)) ?_
          refine pl_aload_n (pc := 171) dX2_harvests_171 rfl rfl ?_
          refine pj_getf (pc := 172) ckX2 22 q766 dX2_harvests_172 (by decide) (g0.r1) rfl ?_
          refine pl_iload_n (pc := 175) dX2_harvests_175 rfl rfl ?_
          refine pl_callSNd (pc := 176) (As := [_]) (C1 := 0) (N1 := 0) (C2 := 0) (N2 := 0) mdX1_zoneOf q1330 q1331 q125 dX2_harvests_176 rfl rfl (Nat.le_of_ble_eq_true rfl) (k_X1_zoneOf (d := d - 1) (by omega) (by omega)) (by omega) (by omega) (by omega) ?_
          refine pl_iald (pc := 179) (n := 4) dX2_harvests_179 (g0.r22) (by omega) (by decide) ?_
          refine PJ.top (g0.v22 (by omega)) ?_
          refine pl_callSd (pc := 180) (As := [_]) (C1 := 0) (N1 := 0) (C2 := 0) (N2 := 0) mdX2_band q2450 q2451 q126 dX2_harvests_180 rfl rfl (Nat.le_of_ble_eq_true rfl) (k_X2_band (d := d - 1) (by omega)) (by omega) (by omega) (by omega) ?_
          refine pj_imul (pc := 183) dX2_harvests_183 ?_
          refine pl_iconst (pc := 184) (v := 1) dX2_harvests_184 (by rfl) ?_
          refine pl_aload_n (pc := 185) dX2_harvests_185 rfl rfl ?_
          refine pj_getfN (pc := 186) ckX10 5 q1080 dX2_harvests_186 (by decide) (g0.r35 hp) rfl ?_
          refine PJ.top (y := nI (hiredC υ (S 4 w) (nI p))) (t7.hands hp) ?_
          refine pl_iadd (pc := 189) dX2_harvests_189 ?_
          refine pj_imul (pc := 190) dX2_harvests_190 ?_
          refine pj_istore (pc := 191) (lv' := [(4, _), (3, _), (2, _), (1, _), (0, _)]) dX2_harvests_191 (by decide) rfl ?_
          refine pl_aload_n (pc := 193) dX2_harvests_193 rfl rfl ?_
          refine pj_dup (pc := 194) dX2_harvests_194 rfl ?_
          refine pj_getf (pc := 195) ckX2 1 q727 dX2_harvests_195 (by decide) (g0.r1) rfl ?_
          refine pl_iload (pc := 198) dX2_harvests_198 rfl ?_
          refine pj_iadd (pc := 200) dX2_harvests_200 ?_
          refine pj_putf (pc := 201) ckX2 1 q727 dX2_harvests_201 (by decide) rfl (g0.r1) rfl rfl (Nat.le_of_ble_eq_true rfl) ?_
          refine sxk (g0.p1_1) (fun My3 y3 => ?_)
          refine pl_aload_n (pc := 204) dX2_harvests_204 rfl rfl ?_
          refine pl_iload (pc := 205) dX2_harvests_205 rfl ?_
          refine pl_iconst (pc := 207) (v := 2) dX2_harvests_207 (by rfl) ?_
          refine pj_idiv (pc := 208) dX2_harvests_208 (by decide) ?_
          refine pl_callVWv (pc := 209) (As := [_]) (C1 := 0) (N1 := 0) (C2 := 0) (N2 := 0) ckX10 mdX10_gets rfl q2380 q2381 q2382 q158 dX2_harvests_209 rfl rfl (Nat.le_of_ble_eq_true rfl) (y3.r35 hp) (x_X10_gets (d := d - 1) (by omega) y3 hp) (by omega) (by omega) (by omega) (fun My4 y4 => ?_)
          refine pl_iinc1 (pc := 212) (lv' := [(2, _), (4, _), (3, _), (1, _), (0, _)]) dX2_harvests_212 rfl rfl (by decide) rfl ?_
          refine pj_goto (pc := 215) (tgt := 88) dX2_harvests_215 (by decide) ?_
          refine PJ.sub [0, 3, 4] rfl ?_
          have e8 := farm1_yes (n := S 4 w) c129 ep (by omega) (t7.own (by omega) c129 hp ep)
          have iv6 := farm1_iv (n := S 4 w) (c := j) (by omega) iv7
          rw [e8] at iv6
          have g6 : SX g P F A w S b (s_pays (sR υ 2117 (row υ 2117 + (υ.2.1 3 j * bandV (row υ (2104 + j % 12 / 3)) * nI (1 + hiredC υ (S 4 w) (nI p))))) p ((υ.2.1 3 j * bandV (row υ (2104 + j % 12 / 3)) * nI (1 + hiredC υ (S 4 w) (nI p))) / nI 2)) _ _ := y4
          have c_h : hiredC υ (S 4 w) (nI p) ≤ S 4 w := cnt_le _ _
          obtain ⟨kz, hkz, ekz⟩ := (t7.ps (c := j) (by omega)).2.2.1
          obtain ⟨mq, hmq, emq⟩ := crop_in (r := row υ (2104 + j % 12 / 3)) ekz hkz (show 1 + hiredC υ (S 4 w) (nI p) ≤ 101 by omega) rfl
          have t6 : TieX w S (s_pays (sR υ 2117 (row υ 2117 + (υ.2.1 3 j * bandV (row υ (2104 + j % 12 / 3)) * nI (1 + hiredC υ (S 4 w) (nI p))))) p ((υ.2.1 3 j * bandV (row υ (2104 + j % 12 / 3)) * nI (1 + hiredC υ (S 4 w) (nI p))) / nI 2)) _ nw := t7.coin g6.hz (fun j z1 z2 => by unfold s_pays; rw [rowS_ne (z2 p hp), rowS_ne (fun z => z1 (by unfold fr0; omega))]) (fun x hx => by
            obtain ⟨m, hm, em⟩ := t7.coins hx
            by_cases ex : x = p
            · subst ex
              obtain ⟨m1, hm1, em1⟩ := gets_in em emq hm hmq
              refine ⟨m1, hm1, ?_⟩
              unfold s_pays
              show row (sR _ (768 + 8 * x + 1) _) (768 + 8 * x + 1) = _
              rw [rowS_eq]
              have e2 : ∀ v, per (sR υ 2117 v) x 1 = per υ x 1 := fun v => rowS_ne (by omega)
              rw [e2]
              exact em1
            · refine ⟨m, hm, ?_⟩
              unfold s_pays
              show row (sR (sR υ 2117 _) (768 + 8 * p + 1) _) (768 + 8 * x + 1) = _
              rw [rowS_ne (by omega), rowS_ne (by omega)]
              exact em) (by simp [sA, s_pays]) (by simp [sA, s_pays]) (fun _ _ => by simp [sA, s_pays]) rfl rfl
          exact ih (by omega) _ _ (by rw [year_step hS4 (by omega), ← hτ1, ← hυ, e8]) ⟨_, g6, t6⟩ iv6
        · refine pj_goto (pc := 132) (tgt := 212) dX2_harvests_132 (by decide) ?_
          refine pl_iinc1 (pc := 212) (lv' := [(2, _), (1, _), (0, _)]) dX2_harvests_212 rfl rfl (by decide) rfl ?_
          refine pj_goto (pc := 215) (tgt := 88) dX2_harvests_215 (by decide) ?_
          exact ih (by omega) _ _ (by rw [year_step hS4 (by omega), ← hτ1, ← hυ, farm1_no c129]) ⟨_, g0, t7⟩ iv7
    · refine pl_iload_n (pc := 44) dX2_harvests_44 rfl rfl ?_
      refine pl_iload_n (pc := 45) dX2_harvests_45 rfl rfl ?_
      refine pj_ishr (pc := 46) dX2_harvests_46 ?_
      refine pl_iconst (pc := 47) (v := 1) dX2_harvests_47 (by rfl) ?_
      refine pj_iand (pc := 48) dX2_harvests_48 ?_
      obtain ⟨mb, hmb, emb, hbt⟩ := held_bits (σ := σ) 96
      have ezc : anyN (zc τ i) 96 = anyN (zc σ i) 96 := anyN_cg (fun c hc => by unfold zc; rw [show sec τ c 0 = sec σ c 0 from hR9 _ (by omega)])
      by_cases cz : anyN (zc σ i) 96 = true
      · refine PJ.top (y := nI 1) (by rw [emb, hbt i (by omega), if_pos cz]) ?_
        refine pj_if_ne (pc := 49) (tgt := 55) dX2_harvests_49 (by decide) (fun _ => ?_) (fun h => absurd h (by decide))
        refine pl_aload_n (pc := 55) dX2_harvests_55 rfl rfl ?_
        refine pj_getf (pc := 56) ckX2 23 q767 dX2_harvests_56 (by decide) (h9.r1) rfl ?_
        refine pl_iload_n (pc := 59) dX2_harvests_59 rfl rfl ?_
        refine pj_dup2_11 (pc := 60) dX2_harvests_60 rfl rfl ?_
        refine pl_iald (pc := 61) (n := 4) dX2_harvests_61 (h9.r23) (by omega) (by decide) ?_
        refine PJ.top (h9.v23 (by omega)) ?_
        refine pl_iconst (pc := 62) (v := 1) dX2_harvests_62 (by rfl) ?_
        refine pj_iadd (pc := 63) dX2_harvests_63 ?_
        refine pl_iast (pc := 64) (n := 4) dX2_harvests_64 (h9.r23) (by omega) (by decide) ?_
        refine sxk (h9.p23 (by omega)) (fun My5 y5 => ?_)
        refine pl_aload_n (pc := 65) dX2_harvests_65 rfl rfl ?_
        refine pj_getf (pc := 66) ckX2 24 q769 dX2_harvests_66 (by decide) (y5.r1) rfl ?_
        refine pl_iload_n (pc := 69) dX2_harvests_69 rfl rfl ?_
        refine pj_dup2_11 (pc := 70) dX2_harvests_70 rfl rfl ?_
        refine pl_iald (pc := 71) (n := 4) dX2_harvests_71 (y5.r24) (by omega) (by decide) ?_
        refine PJ.top (y5.v24 (by omega)) ?_
        refine pl_aload_n (pc := 72) dX2_harvests_72 rfl rfl ?_
        refine pj_getf (pc := 73) ckX2 22 q766 dX2_harvests_73 (by decide) (y5.r1) rfl ?_
        refine pl_iload_n (pc := 76) dX2_harvests_76 rfl rfl ?_
        refine pl_iald (pc := 77) (n := 4) dX2_harvests_77 (y5.r22) (by omega) (by decide) ?_
        refine PJ.top (y5.v22 (by omega)) ?_
        refine pj_iadd (pc := 78) dX2_harvests_78 ?_
        refine pl_iast (pc := 79) (n := 4) dX2_harvests_79 (y5.r24) (by omega) (by decide) ?_
        refine sxk (y5.p24 (by omega)) (fun My6 y6 => ?_)
        refine pl_iinc1 (pc := 80) (lv' := [(2, _), (1, _), (0, _)]) dX2_harvests_80 rfl rfl (by decide) rfl ?_
        refine pj_goto (pc := 83) (tgt := 39) dX2_harvests_83 (by decide) ?_
        have e8 : seen1 i τ = (sR (sR τ (2108 + i) (row τ (2108 + i) + nI 1)) (2112 + i) (row (sR τ (2108 + i) (row τ (2108 + i) + nI 1)) (2112 + i) + row (sR τ (2108 + i) (row τ (2108 + i) + nI 1)) (2104 + i))) := if_neg (by rw [ezc, cz]; decide)
        have iv8 := seen1_iv (z := i) (by omega) iv9
        rw [e8] at iv8
        have g8 : SX g P F A w S b (sR (sR τ (2108 + i) (row τ (2108 + i) + nI 1)) (2112 + i) (row (sR τ (2108 + i) (row τ (2108 + i) + nI 1)) (2112 + i) + row (sR τ (2108 + i) (row τ (2108 + i) + nI 1)) (2104 + i))) e9 _ := y6
        exact ih (by omega) _ _ (by rw [uq_s, ← hτ]; exact e8.symm) (fun j hj => by rw [rowS_ne (by omega), rowS_ne (by omega)]; exact hR9 j hj) ⟨_, g8, t9.cg g8.hz (fun j hj => by rw [rowS_ne (fun z => hj (by unfold fr0; omega)), rowS_ne (fun z => hj (by unfold fr0; omega))]) (by simp [sA]) (by simp [sA]) (fun _ _ => by simp [sA]) rfl rfl⟩ iv8
      · refine PJ.top (y := nI 0) (by rw [emb, hbt i (by omega), if_neg cz]) ?_
        refine pj_if_ne (pc := 49) (tgt := 55) dX2_harvests_49 (by decide) (fun h => absurd h (by decide)) (fun _ => ?_)
        refine pj_goto (pc := 52) (tgt := 80) dX2_harvests_52 (by decide) ?_
        refine pl_iinc1 (pc := 80) (lv' := [(2, _), (1, _), (0, _)]) dX2_harvests_80 rfl rfl (by decide) rfl ?_
        refine pj_goto (pc := 83) (tgt := 39) dX2_harvests_83 (by decide) ?_
        have e8 : seen1 i τ = τ := if_pos (by rw [ezc]; exact Bool.not_eq_true _ ▸ cz)
        exact ih (by omega) _ _ (by rw [uq_s, ← hτ]; exact e8.symm) hR9 ⟨_, h9, t9⟩ iv9
  · refine pl_aload_n (pc := 10) dX2_harvests_10 rfl rfl ?_
    refine pl_iload_n (pc := 11) dX2_harvests_11 rfl rfl ?_
    obtain ⟨q_12, hm_12, hq_12, hdd_12⟩ := h.held (s := i) (by omega)
    refine pl_callVd (pc := 12) (As := [_]) (C1 := 0) (N1 := 0) (C2 := 0) (N2 := 0) ckX2 mdX2_at rfl q1199 q1124 q1125 q126 dX2_harvests_12 rfl rfl (Nat.le_of_ble_eq_true rfl) (h.r1) (x_X2_at (d := d - 1) (by omega) h (by omega) hm_12 hq_12) (by omega) (by omega) (by omega) ?_
    refine ph_holder (pc := 15) hq_12 (fun G => dw_at G 17 rfl) (fun G => dw_at G 3 rfl) dX2_harvests_15 (by omega) (Nat.le_of_ble_eq_true rfl) ?_
    refine PJ.top ho_holder ?_
    refine pj_iconst (pc := 18) (v := (-1)) dX2_harvests_18 (by rfl) ?_
    rcases held_iff (iv.who i (by omega)) hS4 hq_12 with ⟨ck, ch⟩ | ⟨ck, ch⟩
    · refine pj_icmp_eq (pc := 19) (tgt := 31) dX2_harvests_19 (by decide) (fun _ => ?_) (fun z => absurd ch z)
      refine pl_iinc1 (pc := 31) (lv' := [(2, _), (1, _), (0, _)]) dX2_harvests_31 rfl rfl (by decide) rfl ?_
      refine pj_goto (pc := 34) (tgt := 4) dX2_harvests_34 (by decide) ?_
      exact PJ.conv (by rw [show heldV σ (i + 1) = _ from if_pos ck]; first | done | rfl) rfl rfl (ih (by omega))
    · refine pj_icmp_eq (pc := 19) (tgt := 31) dX2_harvests_19 (by decide) (fun z => absurd z ch) (fun _ => ?_)
      refine pl_iload_n (pc := 22) dX2_harvests_22 rfl rfl ?_
      refine pl_iconst (pc := 23) (v := 1) dX2_harvests_23 (by rfl) ?_
      refine pl_iload_n (pc := 24) dX2_harvests_24 rfl rfl ?_
      refine pl_callSNd (pc := 25) (As := [_]) (C1 := 0) (N1 := 0) (C2 := 0) (N2 := 0) mdX1_zoneOf q1330 q1331 q125 dX2_harvests_25 rfl rfl (Nat.le_of_ble_eq_true rfl) (k_X1_zoneOf (d := d - 1) (by omega) (by omega)) (by omega) (by omega) (by omega) ?_
      refine pj_ishl (pc := 28) dX2_harvests_28 ?_
      refine pj_ior (pc := 29) dX2_harvests_29 ?_
      refine pj_istore_n (pc := 30) (lv' := [(1, _), (2, _), (0, _)]) dX2_harvests_30 rfl (by decide) rfl ?_
      refine pl_iinc1 (pc := 31) (lv' := [(2, _), (1, _), (0, _)]) dX2_harvests_31 rfl rfl (by decide) rfl ?_
      refine pj_goto (pc := 34) (tgt := 4) dX2_harvests_34 (by decide) ?_
      exact PJ.conv (by rw [show heldV σ (i + 1) = _ from if_neg ck]; first | done | rfl) rfl rfl (ih (by omega))
