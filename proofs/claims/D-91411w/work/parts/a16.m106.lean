set_option maxRecDepth 100000
section ST
variable {σ : MS} {c i : Nat} {p : Int32}
theorem strayB_no (h : strayB σ c p i = -1) (hx : besideV c (nI i) = -1 ∨ ∃ b, b < 96 ∧ besideV c (nI i) = nI b ∧ (isFarmV (sec σ b 0) = false ∨ sec σ b 1 = p)) : strayB σ c p (i + 1) = -1 := by
  simp only [strayB]
  rw [h, if_neg (show ¬ (0 : Int32) ≤ -1 by decide)]
  rcases hx with e | ⟨b, hb, e, hx⟩
  · rw [e, if_pos (by decide)]
  · rw [e, tN_nI (by omega), if_neg (Int32.not_lt.mpr (nI_pos' (by omega)))]
    by_cases hf : isFarmV (sec σ b 0) = false
    · rw [if_pos hf]
    · rw [if_neg hf]
      rcases hx with z | z
      · exact absurd z hf
      · rw [if_pos z]
theorem strayB_yes {b : Nat} (h : strayB σ c p i = -1) (hi : i < 4) (hb : b < 96) (e : besideV c (nI i) = nI b) (hf : isFarmV (sec σ b 0) = true) (hp : ¬ sec σ b 1 = p) : strayB σ c p 4 = nI b := by
  have e1 : strayB σ c p (i + 1) = nI b := by
    simp only [strayB]
    rw [h, if_neg (show ¬ (0 : Int32) ≤ -1 by decide), e, tN_nI (by omega), if_neg (Int32.not_lt.mpr (nI_pos' (by omega))), if_neg (by rw [hf]; decide), if_neg hp]
  have e2 := strayB_stay (σ := σ) (c := c) (p := p) (i := i + 1) (by rw [e1]; exact nI_pos' (by omega)) (4 - (i + 1))
  rw [show i + 1 + (4 - (i + 1)) = 4 by omega] at e2
  exact e2.trans e1
theorem strays_no1 {n nl : Nat} (h : isPastV (sec σ c 0) = false) : s_strays n nl c σ = σ := by
  unfold s_strays
  exact if_pos h
theorem strays_no2 {n nl : Nat} (h : sec σ c 3 < nI 8) : s_strays n nl c σ = σ := by
  unfold s_strays
  split
  · rfl
  · first | rfl | exact if_pos h
theorem strays_no3 {n nl : Nat} (h : sec σ c 4 = nI 1) : s_strays n nl c σ = σ := by
  unfold s_strays
  split
  · rfl
  · split
    · rfl
    · first | rfl | exact if_pos h
theorem strays_S {n nl ks : Nat} (h1 : isPastV (sec σ c 0) = true) (e3 : sec σ c 3 = nI ks) (hk : ks ≤ 1000) (h8 : 8 ≤ ks) (h4 : ¬ sec σ c 4 = nI 1) : s_strays n nl c σ = strayS n nl c (nI (ks / 8)) σ := by
  unfold s_strays
  rw [if_neg (by rw [h1]; decide), if_neg (fun z => by rw [e3] at z; have := (nI_ltI (by omega) (by decide)).mp z; omega), if_neg h4, e3, pk_div (by omega) (by decide) (by decide)]
theorem strays_out {n nl ks : Nat} (h1 : isPastV (sec σ c 0) = true) (e3 : sec σ c 3 = nI ks) (hk : ks ≤ 1000) (h8 : 8 ≤ ks) (h4 : ¬ sec σ c 4 = nI 1) (hb : strayB σ c (sec σ c 1) 4 = -1) : s_strays n nl c σ = sR σ (8 * c + 3) (nI (ks - ks / 8)) := by
  rw [strays_S h1 e3 hk h8 h4]
  unfold strayS
  dsimp only
  rw [hb, if_pos (show ¬ (0 : Int32) ≤ -1 by decide), show row σ (8 * c + 3) = nI ks from e3, pk_sub (Nat.div_le_self _ _)]
theorem sR_sA13 {j : Nat} {v : Int32} {f : Nat → Int32} : sR (sA σ 13 f) j v = sA (sR σ j v) 13 f := by
  refine Prod.ext rfl (Prod.ext ?_ rfl)
  funext a x
  show (sR (sA σ 13 f) j v).2.1 a x = (sA (sR σ j v) 13 f).2.1 a x
  by_cases h1 : a = 1
  · subst h1
    show row (sR (sA σ 13 f) j v) x = row (sA (sR σ j v) 13 f) x
    rw [rowP, rowS_if, rowS_if, rowP]
  · by_cases h13 : a = 13
    · subst h13
      simp [sA]
    · simp [sA, h1, h13]
theorem pays_sA13 {q : Nat} {v : Int32} {f : Nat → Int32} : s_pays (sA σ 13 f) q v = sA (s_pays σ q v) 13 f := by
  unfold s_pays
  rw [show per (sA σ 13 f) q 1 = per σ q 1 from rowP]
  exact sR_sA13
theorem strays_fine {n nl ks km m p b o : Nat} (h1 : isPastV (sec σ c 0) = true) (e3 : sec σ c 3 = nI ks) (hk : ks ≤ 1000) (h8 : 8 ≤ ks) (h4 : ¬ sec σ c 4 = nI 1) (e1 : sec σ c 1 = nI p) (hp : p < 100) (hb : strayB σ c (nI p) 4 = nI b) (hb9 : b < 96) (eo : sec σ b 1 = nI o) (ho : o < 100) (em : per σ p 1 = nI m) (hm : m ≤ 1000000) (ek : (meanV σ n nl 4 (nI 0)).1 = nI km) (hkm : km ≤ 1000) :
    ∃ ff, s_strays n nl c σ = sA (s_pays (sR σ (768 + 8 * p + 1) (nI (m - min m (ks / 8 * km)))) o (nI (min m (ks / 8 * km)))) 13 ff := by
  rw [strays_S h1 e3 hk h8 h4]
  obtain ⟨ff, hff⟩ : ∃ ff, sM σ n nl 4 (nI 0) = sA σ 13 ff := ⟨_, rfl⟩
  have hd : ks / 8 ≤ 125 := by omega
  have hx : ks / 8 * km ≤ 125000 := Nat.le_trans (Nat.mul_le_mul hd hkm) (by decide)
  have es : (if nI m ≤ nI (ks / 8 * km) then nI m else nI (ks / 8 * km)) = nI (min m (ks / 8 * km)) := by
    by_cases h : m ≤ ks / 8 * km
    · rw [if_pos ((nI_leI (by omega) (by omega)).mpr h), Nat.min_eq_left h]
    · rw [if_neg (fun z => h ((nI_leI (by omega) (by omega)).mp z)), Nat.min_eq_right (by omega)]
  refine ⟨ff, ?_⟩
  unfold strayS
  dsimp only
  rw [e1, tN_nI (by omega), hb, if_neg (fun z => z (nI_pos' (by omega))), tN_nI (by omega), em, ek, pk_mul, Nat.mul_comm km, es, hff, pays_sA13, pays_sA13]
  have q := pay_sub em (rfl : nI (min m (ks / 8 * km)) = nI (min m (ks / 8 * km))) hm (by omega) (by rw [em]; exact (nI_leI (by omega) (by omega)).mpr (Nat.min_le_left _ _))
  have e9 : s_pays σ p (-nI (min m (ks / 8 * km))) = sR σ (768 + 8 * p + 1) (nI (m - min m (ks / 8 * km))) := by
    unfold s_pays
    rw [q.2.2, q.2.1]
  have e8 : sec (sA (s_pays σ p (-nI (min m (ks / 8 * km)))) 13 ff) b 1 = nI o := by
    rw [e9]
    show row (sA _ 13 ff) (8 * b + 1) = _
    rw [rowP, rowS_ne (by omega)]
    exact eo
  rw [e8, tN_nI (by omega), e9]
end ST
section SD
variable {w : Nat} {S : Nat → Nat → Nat} {σ τ : MS} {e : XE} {nw c : Nat}
/-- stock or fence of a section changed -/
theorem tie_stock (t : TieX w S σ e nw) (hz : SzX w S) (hc : c < 96) (hr : ∀ j, ¬ fr0 j → j ≠ 8 * c + 3 → j ≠ 8 * c + 4 → row τ j = row σ j) (tp : PsX τ c) (a3 : τ.2.1 3 = σ.2.1 3) (a4 : τ.2.1 4 = σ.2.1 4) (a14 : τ.2.1 14 = σ.2.1 14) (h23 : τ.1 23 = σ.1 23) (h24 : τ.1 24 = σ.1 24) : TieX w S τ e nw := by
  have z1 := hz.2.1
  have z6 := hz.2.2.1
  have z8 := hz.2.2.2.1
  have z10 := hz.2.2.2.2.1
  have s0 : ∀ j a, a < 96 → (j = 0 ∨ j = 1 ∨ j = 2 ∨ j = 5 ∨ j = 7) → sec τ a j = sec σ a j := fun j a ha hj => hr _ (fun z => by have := fr0_sec (c := a) (j := j) ha (by omega) z; omega) (by omega) (by omega)
  have s3 : ∀ j a, a < 96 → a ≠ c → (j = 3 ∨ j = 4) → sec τ a j = sec σ a j := fun j a ha hne hj => hr _ (fun z => by have := fr0_sec (c := a) (j := j) ha (by omega) z; omega) (by omega) (by omega)
  have hq : ∀ j a, a < S 4 w → (j = 1 ∨ j = 2 ∨ j = 3) → per τ a j = per σ a j := fun j a ha hj => hr _ (fun z => by have := fr0_per (p := a) (by omega) (by omega) z; omega) (by omega) (by omega)
  have lw : ∀ l j, l < S 8 w → j < 6 → lawv τ l j = lawv σ l j := fun l j hl hj => hr _ (by unfold fr0; omega) (by omega) (by omega)
  have bw : ∀ k j, k < S 10 w → j < 4 → row τ (1640 + 4 * k + j) = row σ (1640 + 4 * k + j) := fun k j hk hj => hr _ (by unfold fr0; omega) (by omega) (by omega)
  have qw : ∀ a j, a < S 6 w → j < 15 → row τ (1720 + 15 * a + j) = row σ (1720 + 15 * a + j) := fun a j ha hj => hr _ (by unfold fr0; omega) (by omega) (by omega)
  refine ⟨tHa_cg t (fun a ha => hq 2 a ha (by decide)) (fun a ha => hq 3 a ha (by decide)) (fun _ _ => rfl), tFa_cg t (fun c hc => s0 0 c hc (by decide)) (fun c hc => s0 1 c hc (by decide)) (fun _ _ => rfl), tMi_cg t (fun c hc => s0 0 c hc (by decide)) (fun c hc => s0 7 c hc (by decide)) a3 a4 (fun _ _ => rfl), tEn_cg t (fun c hc => s0 0 c hc (by decide)) (fun c hc => s0 2 c hc (by decide)) (fun _ _ => rfl), tSa_cg t (fun l hl => lw l 4 hl (by decide)) (fun l hl => lw l 5 hl (by decide)) (fun _ _ => rfl) (fun _ _ => rfl), tDu_cg t (fun k hk => bw k 2 hk (by decide)) (fun k hk => bw k 3 hk (by decide)) (fun _ _ => rfl), tQu_cg t qw (fun a _ _ _ => rfl), tBo_cg t (fun a ha => hq 2 a ha (by decide)) (fun a ha => hq 3 a ha (by decide)), fun a ha => ⟨fun hf p hp z => ?_, ?_⟩, tHi_cg t (fun l hl => lw l 0 hl (by decide)) (fun l hl => lw l 3 hl (by decide)) (fun j _ => by rw [a14]) (fun _ _ => rfl) (fun _ _ => rfl), tRo_cg t (fun j _ => by rw [a14]) (fun _ _ => rfl), tCo_cg t (fun a ha => hq 1 a ha (by decide)), tTr_cg t h23 h24, ?_, tGh_cg t (fun a ha => qw a 0 ha (by decide)) (fun k hk => bw k 0 hk (by decide)) (fun _ _ => rfl)⟩
  · rw [s0 0 a ha (by decide)] at hf
    rw [s0 1 a ha (by decide)] at z
    rw [hq 2 p hp (by decide)]
    exact t.own ha hf hp z
  · by_cases ea : a = c
    · subst ea; exact tp
    · exact (t.ps ha).cg (s0 0 a ha (by decide)) (s3 3 a ha ea (by decide)) (s3 4 a ha ea (by decide)) (s0 5 a ha (by decide)) a3
  · refine ⟨fun a ha => ?_, fun a ha => ?_⟩
    · obtain ⟨m, m1, m2, m3⟩ := t.ivd.1 a ha
      refine ⟨m, by rw [a3, a4]; exact m1, m2, fun z => ?_⟩
      rw [s0 0 a ha (by decide)] at z
      rw [s0 7 a ha (by decide)]
      exact m3 z
    · rw [qw a 0 ha (by decide)]
      exact t.ivd.2 a ha
/-- so much stock at a pasture -/
theorem tie_many {k : Nat} (t : TieX w S σ e nw) (hz : SzX w S) (hc : c < 96) (hp : isPastV (sec σ c 0) = true) (hk : k ≤ 1000) : TieX w S (sR σ (8 * c + 3) (nI k)) e nw := by
  have r : ∀ j, j ≠ 3 → sec (sR σ (8 * c + 3) (nI k)) c j = sec σ c j := fun j hj => rowS_ne (by omega)
  refine tie_stock t hz hc (fun j _ h3 _ => rowS_ne h3) ?_ (by simp [sA]) (by simp [sA]) (by simp [sA]) rfl rfl
  obtain ⟨p1, p2, p3, p4⟩ := t.ps hc
  unfold PsX
  rw [r 0 (by decide), r 4 (by decide), r 5 (by decide)]
  exact ⟨p1, ⟨k, hk, rowS_eq, fun z => by rw [hp] at z; cases z⟩, by simpa [sA] using p3, p4⟩
end SD
set_option maxHeartbeats 600000 in
theorem k_X1_beside {g : GP} {μ : Mem} {d : Nat} (hd : 1 ≤ d) {s y : Nat} (hs : s < 96) (hy : y < 4) : PM g yX1_beside (ws_ yX1_beside cX1_beside 2 (some .int)) d 0 0 [.int (nI s), .int (nI y)] μ (rQ (some (.int (besideV s (nI y)))) μ) := by
  refine PM.of (by decide +kernel) (Nat.le_of_ble_eq_true rfl) ?_
  refine PJ.ok (fun G => ?_)
  show PJ g _ _ _ _ d 0 0 0 [(0, .int (nI s)), (1, .int (nI y))] [] _ _
  refine pl_iload_n (pc := 0) dX1_beside_0 rfl rfl ?_
  refine pl_tsw (pc := 1) 0 (tgt := 28) dX1_beside_1 (by rfl) (by decide) (by decide) (by rfl) (by decide) (fun c1_0 => ?_) (fun c1_0 => ?_)
  · refine pl_iload_n (pc := 28) dX1_beside_28 rfl rfl ?_
    refine pl_bipush (pc := 29) (v := 12) dX1_beside_29 (by rfl) ?_
    refine pl_icmp_lt (pc := 31) (tgt := 41) dX1_beside_31 (by decide) (by omega) (by omega) (fun c31 => ?_) (fun c31 => ?_)
    · refine pj_iconst (pc := 41) (v := (-1)) dX1_beside_41 (by rfl) ?_
      refine pj_iret (pc := 42) dX1_beside_42 rfl ?_
      exact ⟨vIe (by simp only [besideV, eq_true c1_0, ↓reduceIte]; split <;> first | rfl | (exfalso; omega)) rfl, rfl⟩
    · refine pl_iload_n (pc := 34) dX1_beside_34 rfl rfl ?_
      refine pl_bipush (pc := 35) (v := 12) dX1_beside_35 (by rfl) ?_
      refine pl_isub (pc := 37) dX1_beside_37 (by omega) ?_
      refine pj_goto (pc := 38) (tgt := 42) dX1_beside_38 (by decide) ?_
      refine pj_iret (pc := 42) dX1_beside_42 rfl ?_
      exact ⟨vIe (by simp only [besideV, eq_true c1_0, ↓reduceIte]; split <;> first | rfl | (exfalso; omega)) rfl, rfl⟩
  refine pl_tsw (pc := 1) 1 (tgt := 43) dX1_beside_1 (by rfl) (by decide) (by decide) (by rfl) (by decide) (fun c1_1 => ?_) (fun c1_1 => ?_)
  · refine pl_iload_n (pc := 43) dX1_beside_43 rfl rfl ?_
    refine pl_bipush (pc := 44) (v := 12) dX1_beside_44 (by rfl) ?_
    refine pl_irem (pc := 46) dX1_beside_46 (by omega) (by decide) (by decide) ?_
    refine pl_if_leN (pc := 47) (tgt := 56) dX1_beside_47 (by decide) (by omega) (fun c47 => ?_) (fun c47 => ?_)
    · refine pj_iconst (pc := 56) (v := (-1)) dX1_beside_56 (by rfl) ?_
      refine pj_iret (pc := 57) dX1_beside_57 rfl ?_
      exact ⟨vIe (by simp only [besideV, c1_0, eq_true c1_1, ↓reduceIte]; split <;> first | rfl | (exfalso; omega)) rfl, rfl⟩
    · refine pl_iload_n (pc := 50) dX1_beside_50 rfl rfl ?_
      refine pl_iconst (pc := 51) (v := 1) dX1_beside_51 (by rfl) ?_
      refine pl_isub (pc := 52) dX1_beside_52 (by omega) ?_
      refine pj_goto (pc := 53) (tgt := 57) dX1_beside_53 (by decide) ?_
      refine pj_iret (pc := 57) dX1_beside_57 rfl ?_
      exact ⟨vIe (by simp only [besideV, c1_0, eq_true c1_1, ↓reduceIte]; split <;> first | rfl | (exfalso; omega)) rfl, rfl⟩
  refine pl_tsw (pc := 1) 2 (tgt := 58) dX1_beside_1 (by rfl) (by decide) (by decide) (by rfl) (by decide) (fun c1_2 => ?_) (fun c1_2 => ?_)
  · refine pl_iload_n (pc := 58) dX1_beside_58 rfl rfl ?_
    refine pl_bipush (pc := 59) (v := 12) dX1_beside_59 (by rfl) ?_
    refine pl_irem (pc := 61) dX1_beside_61 (by omega) (by decide) (by decide) ?_
    refine pl_bipush (pc := 62) (v := 11) dX1_beside_62 (by rfl) ?_
    refine pl_icmp_ge (pc := 64) (tgt := 73) dX1_beside_64 (by decide) (by omega) (by omega) (fun c64 => ?_) (fun c64 => ?_)
    · refine pj_iconst (pc := 73) (v := (-1)) dX1_beside_73 (by rfl) ?_
      refine pj_iret (pc := 74) dX1_beside_74 rfl ?_
      exact ⟨vIe (by simp only [besideV, c1_0, c1_1, eq_true c1_2, ↓reduceIte]; split <;> first | rfl | (exfalso; omega)) rfl, rfl⟩
    · refine pl_iload_n (pc := 67) dX1_beside_67 rfl rfl ?_
      refine pl_iconst (pc := 68) (v := 1) dX1_beside_68 (by rfl) ?_
      refine pl_iadd (pc := 69) dX1_beside_69 ?_
      refine pj_goto (pc := 70) (tgt := 74) dX1_beside_70 (by decide) ?_
      refine pj_iret (pc := 74) dX1_beside_74 rfl ?_
      exact ⟨vIe (by simp only [besideV, c1_0, c1_1, eq_true c1_2, ↓reduceIte]; split <;> first | rfl | (exfalso; omega)) rfl, rfl⟩
  refine pj_tableOut (pc := 1) (tgt := 75) dX1_beside_1 (by have q0 := nI_nec c1_0; have q1 := nI_nec c1_1; have q2 := nI_nec c1_2; omega) (by decide) ?_
  refine pl_iload_n (pc := 75) dX1_beside_75 rfl rfl ?_
  refine pl_bipush (pc := 76) (v := 12) dX1_beside_76 (by rfl) ?_
  refine pl_iadd (pc := 78) dX1_beside_78 ?_
  refine pl_bipush (pc := 79) (v := 96) dX1_beside_79 (by rfl) ?_
  refine pl_icmp_ge (pc := 81) (tgt := 91) dX1_beside_81 (by decide) (by omega) (by omega) (fun c81 => ?_) (fun c81 => ?_)
  · refine pj_iconst (pc := 91) (v := (-1)) dX1_beside_91 (by rfl) ?_
    refine pj_iret (pc := 92) dX1_beside_92 rfl ?_
    exact ⟨vIe (by simp only [besideV, c1_0, c1_1, c1_2, ↓reduceIte]; split <;> first | rfl | (exfalso; omega)) rfl, rfl⟩
  · refine pl_iload_n (pc := 84) dX1_beside_84 rfl rfl ?_
    refine pl_bipush (pc := 85) (v := 12) dX1_beside_85 (by rfl) ?_
    refine pl_iadd (pc := 87) dX1_beside_87 ?_
    refine pj_goto (pc := 88) (tgt := 92) dX1_beside_88 (by decide) ?_
    refine pj_iret (pc := 92) dX1_beside_92 rfl ?_
    exact ⟨vIe (by simp only [besideV, c1_0, c1_1, c1_2, ↓reduceIte]; split <;> first | rfl | (exfalso; omega)) rfl, rfl⟩
set_option maxHeartbeats 600000 in
theorem x_X2_straysTo {g : GP} {μ : Mem} {d : Nat} {P : Nat → Prop} {F : Mem} {A : XA} {w : Nat} {S : Nat → Nat → Nat} {b : XS} {σ : MS} {e : XE}(hd : 6 ≤ d) (h : SX g P F A w S b σ e μ) {c : Nat} (hc : c < 96) {x : Int32} : PM g yX2_straysTo (ws_ yX2_straysTo cX2_straysTo 5 (some .int)) d 0 0 [.ref (A 1 w 0), .int (nI c), .int x] μ (rQ (some (.int (strayB σ c x 4))) μ) := by
  refine PM.of (by decide +kernel) (Nat.le_of_ble_eq_true rfl) ?_
  refine PJ.ok (fun G => ?_)
  show PJ g _ _ _ _ d 0 0 0 [(0, .ref (A 1 w 0)), (1, .int (nI c)), (2, .int x)] [] _ _
  refine pl_iconst (pc := 0) (v := 0) dX2_straysTo_0 (by rfl) ?_
  refine pj_istore_n (pc := 1) (lv' := [(3, _), (0, _), (1, _), (2, _)]) dX2_straysTo_1 rfl (by decide) rfl ?_
  refine PJ.sub [0, 3, 2, 1] rfl ?_
  refine ind_dn (n := 4) (P := fun i => ∀ M9, μ = M9 → strayB σ c x i = -1 → PJ g _ _ _ _ d 0 0 2 [(3, .int (nI i)), (2, .int x), (1, .int (nI c)), (0, .ref (A 1 w 0))] [] M9 _) (fun i hi ih M9 e9 hs => ?_) 0 (Nat.zero_le _) _ rfl rfl
  subst e9
  refine pl_iload_n (pc := 2) dX2_straysTo_2 rfl rfl ?_
  refine pl_iconst (pc := 3) (v := 4) dX2_straysTo_3 (by rfl) ?_
  refine pl_icmp_ge (pc := 4) (tgt := 54) dX2_straysTo_4 (by decide) (by omega) (by omega) (fun c4 => ?_) (fun c4 => ?_)
  · refine pj_iconst (pc := 54) (v := (-1)) dX2_straysTo_54 (by rfl) ?_
    refine pj_iret (pc := 55) dX2_straysTo_55 rfl ?_
    have ei : i = 4 := by omega
    subst ei
    rw [hs]
    exact ⟨rfl, rfl⟩
  · refine pl_iload_n (pc := 7) dX2_straysTo_7 rfl rfl ?_
    refine pl_iload_n (pc := 8) dX2_straysTo_8 rfl rfl ?_
    refine pl_callSNd (pc := 9) (As := [_, _]) (C1 := 0) (N1 := 0) (C2 := 0) (N2 := 0) mdX1_beside q2429 q2430 q125 dX2_straysTo_9 rfl rfl (Nat.le_of_ble_eq_true rfl) (k_X1_beside (d := d - 1) (by omega) (by omega) (by omega)) (by omega) (by omega) (by omega) ?_
    rcases besideV_c (w := nI i) hc with eb | ⟨b1, hb1, eb⟩
    · refine PJ.top (y := (-1 : Int32)) eb ?_
      refine pj_istore (pc := 12) (lv' := [(4, _), (3, _), (2, _), (1, _), (0, _)]) dX2_straysTo_12 (by decide) rfl ?_
      refine pl_iload (pc := 14) dX2_straysTo_14 rfl ?_
      refine pj_iconst (pc := 16) (v := (-1)) dX2_straysTo_16 (by rfl) ?_
      refine pj_icmp_eq (pc := 17) (tgt := 48) dX2_straysTo_17 (by decide) (fun _ => ?_) (fun z => absurd rfl z)
      refine pl_iinc1 (pc := 48) (lv' := [(3, _), (4, _), (2, _), (1, _), (0, _)]) dX2_straysTo_48 rfl rfl (by decide) rfl ?_
      refine pj_goto (pc := 51) (tgt := 2) dX2_straysTo_51 (by decide) ?_
      refine PJ.sub [0, 2, 3, 4] rfl ?_
      exact ih (by omega) _ rfl (strayB_no hs (Or.inl eb))
    · refine PJ.top (y := nI b1) eb ?_
      refine pj_istore (pc := 12) (lv' := [(4, _), (3, _), (2, _), (1, _), (0, _)]) dX2_straysTo_12 (by decide) rfl ?_
      refine pl_iload (pc := 14) dX2_straysTo_14 rfl ?_
      refine pj_iconst (pc := 16) (v := (-1)) dX2_straysTo_16 (by rfl) ?_
      refine pj_icmp_eq (pc := 17) (tgt := 48) dX2_straysTo_17 (by decide) (fun z => absurd z.symm (nI_m1 (by omega))) (fun _ => ?_)
      refine pl_aload_n (pc := 20) dX2_straysTo_20 rfl rfl ?_
      refine pl_iload (pc := 21) dX2_straysTo_21 rfl ?_
      obtain ⟨q_23, hm_23, hq_23, hdd_23⟩ := h.held (s := b1) (by omega)
      refine pl_callVd (pc := 23) (As := [_]) (C1 := 0) (N1 := 0) (C2 := 0) (N2 := 0) ckX2 mdX2_at rfl q1199 q1124 q1125 q126 dX2_straysTo_23 rfl rfl (Nat.le_of_ble_eq_true rfl) (h.r1) (x_X2_at (d := d - 1) (by omega) h (by omega) hm_23 hq_23) (by omega) (by omega) (by omega) ?_
      refine ph_isFarm (pc := 26) hq_23 (fun G => dw_at G 4 rfl) (fun G => dw_at G 5 rfl) dX2_straysTo_26 (by omega) (Nat.le_of_ble_eq_true rfl) ?_
      refine PJ.top ho_isFarm ?_
      refine pl_if_eqB (pc := 29) (tgt := 48) dX2_straysTo_29 (by decide) (fun c29 => ?_) (fun c29 => ?_)
      · refine pl_iinc1 (pc := 48) (lv' := [(3, _), (4, _), (2, _), (1, _), (0, _)]) dX2_straysTo_48 rfl rfl (by decide) rfl ?_
        refine pj_goto (pc := 51) (tgt := 2) dX2_straysTo_51 (by decide) ?_
        refine PJ.sub [0, 2, 3, 4] rfl ?_
        exact ih (by omega) _ rfl (strayB_no hs (Or.inr ⟨b1, hb1, eb, Or.inl c29⟩))
      · refine pl_aload_n (pc := 32) dX2_straysTo_32 rfl rfl ?_
        refine pl_iload (pc := 33) dX2_straysTo_33 rfl ?_
        obtain ⟨q_35, hm_35, hq_35, hdd_35⟩ := h.held (s := b1) (by omega)
        refine pl_callVd (pc := 35) (As := [_]) (C1 := 0) (N1 := 0) (C2 := 0) (N2 := 0) ckX2 mdX2_at rfl q1199 q1124 q1125 q126 dX2_straysTo_35 rfl rfl (Nat.le_of_ble_eq_true rfl) (h.r1) (x_X2_at (d := d - 1) (by omega) h (by omega) hm_35 hq_35) (by omega) (by omega) (by omega) ?_
        refine ph_holder (pc := 38) hq_35 (fun G => dw_at G 17 rfl) (fun G => dw_at G 3 rfl) dX2_straysTo_38 (by omega) (Nat.le_of_ble_eq_true rfl) ?_
        refine PJ.top ho_holder ?_
        refine PJ.top (y := sec σ b1 1) rfl ?_
        refine pl_iload_n (pc := 41) dX2_straysTo_41 rfl rfl ?_
        refine pj_icmp_eq (pc := 42) (tgt := 48) dX2_straysTo_42 (by decide) (fun c42 => ?_) (fun c42 => ?_)
        · refine pl_iinc1 (pc := 48) (lv' := [(3, _), (4, _), (2, _), (1, _), (0, _)]) dX2_straysTo_48 rfl rfl (by decide) rfl ?_
          refine pj_goto (pc := 51) (tgt := 2) dX2_straysTo_51 (by decide) ?_
          refine PJ.sub [0, 2, 3, 4] rfl ?_
          exact ih (by omega) _ rfl (strayB_no hs (Or.inr ⟨b1, hb1, eb, Or.inr c42⟩))
        · refine pl_iload (pc := 45) dX2_straysTo_45 rfl ?_
          refine pj_iret (pc := 47) dX2_straysTo_47 rfl ?_
          rw [strayB_yes hs (by omega) hb1 eb c29 c42]
          exact ⟨rfl, rfl⟩
theorem min_nI {a b : Nat} (ha : a < 2147483648) (hb : b < 2147483648) : (if nI b < nI a then nI b else nI a) = nI (min a b) := by
  by_cases h : b < a
  · rw [if_pos ((nI_ltI hb ha).mpr h), Nat.min_eq_right (by omega)]
  · rw [if_neg (fun z => h ((nI_ltI hb ha).mp z)), Nat.min_eq_left (by omega)]
theorem ph_holder_P {g : GP} {own : String} {cc : ByteArray} {nL : Nat} {i : MI} {d C N pc : Nat} {ls : List (Nat × Value)} {rest : List Value} {μ : Mem} {Q : OC → Mem → Prop} {q index : Nat} {r : Nat → Int32} (hq : HoC μ q r) (hf : isPastV (r 0) = true) (hl : Cond.methodLink own index (⟨"SettlerColony$Run", "holder", "()I"⟩ : MethodName) ∈ lw_all) (hdg : decode cc pc = .ok (.invokevirtual index, 3)) (hd : 2 ≤ d) (hr8 : (rest.map fun v => v.category).sum ≤ 8) (kk : PJ g own cc nL i d C N (pc + 3) ls (.int (r 1) :: rest) μ Q) : PJ g own cc nL i d C N pc ls (.ref q :: rest) μ Q := by
  rcases hq with ⟨e0, e1, e2, hm⟩ | ⟨e0, e1, e2, hm⟩ | ⟨e0, hm⟩ | ⟨e0, e2, hm⟩ | ⟨e0, hm⟩ | ⟨e0, e2, hm⟩
  · exact absurd hf (by rw [e0]; decide)
  · exact absurd hf (by rw [e0]; decide)
  · exact absurd hf (by rw [e0]; decide)
  · exact pl_callVd (As := []) (C1 := 0) (N1 := 0) (C2 := C) (N2 := N) ckX16 mdX16_holder rfl hl q1159 q3208 q165 hdg rfl rfl hr8 hm (k_X16_holder (d := d - 1) (by omega) hm) (by omega) (by omega) (by omega) kk
  · exact absurd hf (by rw [e0]; decide)
  · exact pl_callOd (As := []) (x := (⟨"SettlerColony$Run", "holder", "()I"⟩ : MethodName)) (owner := "SettlerColony$Run") (C1 := 0) (N1 := 0) (C2 := C) (N2 := N) ckX17 mdX16_holder (lk_all hl) (lk_all q3207) (dcl_c q1159 q1160) (by decide) q3209 q1159 q165 hdg rfl rfl hr8 hm (k_X17_holder (d := d - 1) (by omega) hm) (by omega) (by omega) (by omega) kk
set_option maxHeartbeats 600000 in
theorem x_X2_strays {g : GP} {μ : Mem} {d : Nat} {P : Nat → Prop} {F : Mem} {A : XA} {w : Nat} {S : Nat → Nat → Nat} {b : XS} {σ : MS} {nor nw : Nat} (hd : 330 ≤ d) (s : SB g P F A w S b σ nw μ) (iv : IvG σ (S 4 w) (S 8 w) (S 10 w) (S 6 w) nor nw)  : PM g yX2_strays (ws_ yX2_strays cX2_strays 7 none) d 0 0 [.ref (A 1 w 0)] μ (WQ none (SB g P F A w S b (uq (stray1 (S 4 w) (S 8 w)) 96 σ) nw)) := by
  refine PM.of (by decide +kernel) (Nat.le_of_ble_eq_true rfl) ?_
  refine PJ.ok (fun G => ?_)
  show PJ g _ _ _ _ d 0 0 0 [(0, .ref (A 1 w 0))] [] _ _
  obtain ⟨e, h, t⟩ := s
  have hS4 := h.hz.2.1
  have hS6 := h.hz.2.2.1
  have hS8 := h.hz.2.2.2.1
  have hS10 := h.hz.2.2.2.2.1
  refine pl_iconst (pc := 0) (v := 0) dX2_strays_0 (by rfl) ?_
  refine pj_istore_n (pc := 1) (lv' := [(1, _), (0, _)]) dX2_strays_1 rfl (by decide) rfl ?_
  refine ind_dn (n := 96) (P := fun i => ∀ M9 τ, τ = uq (stray1 (S 4 w) (S 8 w)) i σ → SB g P F A w S b τ nw M9 → IvG τ (S 4 w) (S 8 w) (S 10 w) (S 6 w) nor nw → PJ g _ _ _ _ d 0 0 2 [(1, .int (nI i)), (0, .ref (A 1 w 0))] [] M9 _) (fun i hi ih M9 τ hτ s9 iv9 => ?_) 0 (Nat.zero_le _) _ _ (uq_0 _ _).symm ⟨e, h, t⟩ iv
  obtain ⟨e9, h9, t9⟩ := s9
  refine pl_iload_n (pc := 2) dX2_strays_2 rfl rfl ?_
  refine pl_bipush (pc := 3) (v := 96) dX2_strays_3 (by rfl) ?_
  refine pl_icmp_ge (pc := 5) (tgt := 166) dX2_strays_5 (by decide) (by omega) (by omega) (fun c5 => ?_) (fun c5 => ?_)
  · refine pj_vret (pc := 166) dX2_strays_166 rfl ?_
    have ei : i = 96 := by omega
    subst ei
    rw [← hτ]
    exact ⟨rfl, _, h9, t9⟩
  · refine pl_aload_n (pc := 8) dX2_strays_8 rfl rfl ?_
    refine pj_getf (pc := 9) ckX2 12 q747 dX2_strays_9 (by decide) (h9.r1) rfl ?_
    refine pl_iload_n (pc := 12) dX2_strays_12 rfl rfl ?_
    obtain ⟨m_13, c_13, l_13⟩ := h9.L2
    refine pl_callVd (pc := 13) (As := [_]) (C1 := 0) (N1 := 0) (C2 := 0) (N2 := 0) ckJ2 mdJ2_get rfl q707 q708 q709 q129 dX2_strays_13 rfl rfl (Nat.le_of_ble_eq_true rfl) l_13.1 (k_J2_get (d := d - 1) (by omega) l_13 (j := i) (by rw [h9.hz.s2]; omega) (if_pos (by rw [h9.hz.s2]; omega))) (by omega) (by omega) (by omega) ?_
    obtain ⟨q_13, hm_13, hq_13, hdd_13⟩ := h9.held (s := i) (by omega)
    refine pj_castS (pc := 16) ckX8 q620 dX2_strays_16 hm_13 ?_
    refine pl_callVd (pc := 19) (As := []) (C1 := 0) (N1 := 0) (C2 := 0) (N2 := 0) ckX8 mdX8_pasture rfl q2423 q1342 q1343 q152 dX2_strays_19 rfl rfl (Nat.le_of_ble_eq_true rfl) hm_13 (k_X8_pasture (d := d - 1) (by omega) hm_13 hq_13) (by omega) (by omega) (by omega) ?_
    by_cases cP : isPastV (sec τ i 0) = true
    · rw [if_pos (show isPastV (hoR τ i 0) = true from cP)]
      obtain ⟨p, hp, ep⟩ := (iv9.who i (by omega)).past cP
      obtain ⟨ks, hks, eks, -⟩ := (t9.ps (c := i) (by omega)).2.1
      refine pj_astore_n (pc := 22) (lv' := [(2, _), (1, _), (0, _)]) dX2_strays_22 rfl (by decide) rfl ?_
      refine pl_aload_n (pc := 23) dX2_strays_23 rfl rfl ?_
      refine pj_ifnull (pc := 24) dX2_strays_24 ?_
      refine pl_aload_n (pc := 27) dX2_strays_27 rfl rfl ?_
      refine pj_getf (pc := 28) ckX2 16 q755 dX2_strays_28 (by decide) (h9.r1) rfl ?_
      refine pl_iload_n (pc := 31) dX2_strays_31 rfl rfl ?_
      refine pl_iald (pc := 32) (n := 96) dX2_strays_32 (h9.r19) (by omega) (by decide) ?_
      refine PJ.top (h9.v19 (by omega)) ?_
      refine PJ.top (y := nI ks) eks ?_
      refine pl_bipush (pc := 33) (v := 8) dX2_strays_33 (by rfl) ?_
      refine pl_icmp_lt (pc := 35) (tgt := 160) dX2_strays_35 (by decide) (by omega) (by omega) (fun c35 => ?_) (fun c35 => ?_)
      · refine pl_iinc1 (pc := 160) (lv' := [(1, _), (2, _), (0, _)]) dX2_strays_160 rfl rfl (by decide) rfl ?_
        refine pj_goto (pc := 163) (tgt := 2) dX2_strays_163 (by decide) ?_
        refine PJ.sub [0, 2] rfl ?_
        have e8 := strays_no2 (n := S 4 w) (nl := S 8 w) (σ := τ) (c := i) (by rw [eks]; exact (nI_ltI (by omega) (by decide)).mpr c35)
        exact ih (by omega) _ _ (by rw [uq_s, ← hτ]; exact (e8).symm) ⟨_, h9, t9⟩ iv9
      · refine pl_aload_n (pc := 38) dX2_strays_38 rfl rfl ?_
        refine pj_getf (pc := 39) ckX2 18 q759 dX2_strays_39 (by decide) (h9.r1) rfl ?_
        refine pl_iload_n (pc := 42) dX2_strays_42 rfl rfl ?_
        refine pl_zald (pc := 43) (n := 96) dX2_strays_43 (h9.r21) (by omega) (by decide) ?_
        refine PJ.top (h9.v21 (by omega)) ?_
        rcases (t9.ps (c := i) (by omega)).2.2.2 with c4 | ⟨c4, -⟩
        · refine PJ.top (y := nI 0) c4 ?_
          refine pj_if_eq (pc := 44) (tgt := 50) dX2_strays_44 (by decide) (fun _ => ?_) (fun h => absurd h (by decide))
          refine pl_aload_n (pc := 50) dX2_strays_50 rfl rfl ?_
          refine pj_getf (pc := 51) ckX2 16 q755 dX2_strays_51 (by decide) (h9.r1) rfl ?_
          refine pl_iload_n (pc := 54) dX2_strays_54 rfl rfl ?_
          refine pl_iald (pc := 55) (n := 96) dX2_strays_55 (h9.r19) (by omega) (by decide) ?_
          refine PJ.top (h9.v19 (by omega)) ?_
          refine PJ.top (y := nI ks) eks ?_
          refine pl_bipush (pc := 56) (v := 8) dX2_strays_56 (by rfl) ?_
          refine pl_idiv (pc := 58) dX2_strays_58 (by omega) (by decide) (by decide) ?_
          refine pj_istore_n (pc := 59) (lv' := [(3, _), (2, _), (1, _), (0, _)]) dX2_strays_59 rfl (by decide) rfl ?_
          refine pl_aload_n (pc := 60) dX2_strays_60 rfl rfl ?_
          refine pl_iload_n (pc := 61) dX2_strays_61 rfl rfl ?_
          refine pl_aload_n (pc := 62) dX2_strays_62 rfl rfl ?_
          refine ph_holder_P (pc := 63) hq_13 (show isPastV (hoR τ i 0) = true from cP) q2424 dX2_strays_63 (by omega) (Nat.le_of_ble_eq_true rfl) ?_
          refine PJ.top (y := nI p) ep ?_
          refine pl_callVd (pc := 66) (As := [_, _]) (C1 := 0) (N1 := 0) (C2 := 0) (N2 := 0) ckX2 mdX2_straysTo rfl q2425 q2427 qs45 q126 dX2_strays_66 rfl rfl (Nat.le_of_ble_eq_true rfl) (h9.r1) (x_X2_straysTo (d := d - 1) (by omega) h9 (by omega)) (by omega) (by omega) (by omega) ?_
          rcases strayB_c (σ := τ) (c := i) (p := nI p) (by omega) 4 with eb | ⟨b1, hb1, eb, fb⟩
          · refine PJ.top (y := (-1 : Int32)) eb ?_
            refine pj_istore (pc := 69) (lv' := [(4, _), (3, _), (2, _), (1, _), (0, _)]) dX2_strays_69 (by decide) rfl ?_
            refine pl_iload (pc := 71) dX2_strays_71 rfl ?_
            refine pj_iconst (pc := 73) (v := (-1)) dX2_strays_73 (by rfl) ?_
            refine pj_icmp_ne (pc := 74) (tgt := 90) dX2_strays_74 (by decide) (fun z => absurd rfl z) (fun _ => ?_)
            refine pl_aload_n (pc := 77) dX2_strays_77 rfl rfl ?_
            refine pj_getf (pc := 78) ckX2 16 q755 dX2_strays_78 (by decide) (h9.r1) rfl ?_
            refine pl_iload_n (pc := 81) dX2_strays_81 rfl rfl ?_
            refine pj_dup2_11 (pc := 82) dX2_strays_82 rfl rfl ?_
            refine pl_iald (pc := 83) (n := 96) dX2_strays_83 (h9.r19) (by omega) (by decide) ?_
            refine PJ.top (h9.v19 (by omega)) ?_
            refine PJ.top (y := nI ks) eks ?_
            refine pl_iload_n (pc := 84) dX2_strays_84 rfl rfl ?_
            refine pl_isub (pc := 85) dX2_strays_85 (Nat.div_le_self _ _) ?_
            refine pl_iast (pc := 86) (n := 96) dX2_strays_86 (h9.r19) (by omega) (by decide) ?_
            refine sxk (h9.p19 (by omega)) (fun My1 y1 => ?_)
            refine pj_goto (pc := 87) (tgt := 160) dX2_strays_87 (by decide) ?_
            refine pl_iinc1 (pc := 160) (lv' := [(1, _), (4, _), (3, _), (2, _), (0, _)]) dX2_strays_160 rfl rfl (by decide) rfl ?_
            refine pj_goto (pc := 163) (tgt := 2) dX2_strays_163 (by decide) ?_
            refine PJ.sub [0, 4] rfl ?_
            have e8 := strays_out (n := S 4 w) (nl := S 8 w) (σ := τ) (c := i) cP eks hks (by omega) (by rw [c4]; decide) (by rw [ep]; exact eb)
            have iv8 := stray1_iv (n := S 4 w) (nl := S 8 w) (c := i) (by omega) iv9
            unfold stray1 at iv8
            rw [e8] at iv8
            exact ih (by omega) _ _ (by rw [uq_s, ← hτ]; exact (e8).symm) ⟨_, y1, tie_many t9 y1.hz (by omega) cP (by omega)⟩ iv8
          · refine PJ.top (y := nI b1) eb ?_
            refine pj_istore (pc := 69) (lv' := [(4, _), (3, _), (2, _), (1, _), (0, _)]) dX2_strays_69 (by decide) rfl ?_
            refine pl_iload (pc := 71) dX2_strays_71 rfl ?_
            refine pj_iconst (pc := 73) (v := (-1)) dX2_strays_73 (by rfl) ?_
            refine pj_icmp_ne (pc := 74) (tgt := 90) dX2_strays_74 (by decide) (fun _ => ?_) (fun z => absurd z.symm (nI_m1 (by omega)))
            refine pl_aload_n (pc := 90) dX2_strays_90 rfl rfl ?_
            refine pj_getf (pc := 91) ckX2 26 q772 dX2_strays_91 (by decide) (h9.r1) rfl ?_
            refine pl_aload_n (pc := 94) dX2_strays_94 rfl rfl ?_
            refine ph_holder_P (pc := 95) hq_13 (show isPastV (hoR τ i 0) = true from cP) q2424 dX2_strays_95 (by omega) (Nat.le_of_ble_eq_true rfl) ?_
            refine PJ.top (y := nI p) ep ?_
            obtain ⟨m_98, c_98, l_98⟩ := h9.L4
            refine pl_callVd (pc := 98) (As := [_]) (C1 := 0) (N1 := 0) (C2 := 0) (N2 := 0) ckJ2 mdJ2_get rfl q707 q708 q709 q129 dX2_strays_98 rfl rfl (Nat.le_of_ble_eq_true rfl) l_98.1 (k_J2_get (d := d - 1) (by omega) l_98 (j := p) hp (if_pos hp)) (by omega) (by omega) (by omega) ?_
            refine pj_castS (pc := 101) ckX10 q1190 dX2_strays_101 (h9.r35 hp) ?_
            refine pj_astore (pc := 104) (lv' := [(5, _), (4, _), (3, _), (2, _), (1, _), (0, _)]) dX2_strays_104 (by decide) rfl ?_
            refine pl_aload (pc := 106) dX2_strays_106 rfl ?_
            refine pj_getfN (pc := 108) ckX10 2 q1071 dX2_strays_108 (by decide) (h9.r35 hp) rfl ?_
            obtain ⟨m, hm, em⟩ := t9.coins hp
            refine PJ.top (y := nI m) em ?_
            refine pl_iload_n (pc := 111) dX2_strays_111 rfl rfl ?_
            refine pl_aload_n (pc := 112) dX2_strays_112 rfl rfl ?_
            refine pl_iconst (pc := 113) (v := 4) dX2_strays_113 (by rfl) ?_
            refine pl_iconst (pc := 114) (v := 0) dX2_strays_114 (by rfl) ?_
            refine pl_callVWd (pc := 115) (As := [_, _]) (C1 := 0) (N1 := 0) (C2 := 0) (N2 := 0) ckX2 mdX2_means rfl q1707 q1708 q1709 q126 dX2_strays_115 rfl rfl (Nat.le_of_ble_eq_true rfl) (h9.r1) (x_X2_means (d := d - 1) (by omega) h9 (by omega) t9.ht) (by omega) (by omega) (by omega) (fun My2 qy2 => ?_)
            obtain ⟨e_115, he_115, y2⟩ := qy2
            obtain ⟨km, hkm, ekm⟩ := mean_in (σ := τ) (n := S 4 w) (nl := S 8 w) (name := 4) (gr := nI 0) (by decide) t9.tr1 t9.tr2
            refine PJ.top (y := nI km) ekm ?_
            refine pl_imul (pc := 118) dX2_strays_118 ?_
            refine pj_mmin (pc := 119) q1033 dX2_strays_119 (by omega) (Nat.le_of_ble_eq_true rfl) ?_
            have hx9 : ks / 8 * km ≤ 125000 := Nat.le_trans (Nat.mul_le_mul (show ks / 8 ≤ 125 by omega) hkm) (by decide)
            refine PJ.top (y := nI (min m (ks / 8 * km))) (min_nI (by omega) (by omega)) ?_
            have hmn : (min m (ks / 8 * km)) ≤ m := Nat.min_le_left _ _
            refine pj_istore (pc := 122) (lv' := [(6, _), (5, _), (4, _), (3, _), (2, _), (1, _), (0, _)]) dX2_strays_122 (by decide) rfl ?_
            refine pl_aload (pc := 124) dX2_strays_124 rfl ?_
            refine pj_dup (pc := 126) dX2_strays_126 rfl ?_
            refine pj_getfN (pc := 127) ckX10 2 q1071 dX2_strays_127 (by decide) (y2.r35 hp) rfl ?_
            refine PJ.top (y := nI m) em ?_
            refine pl_iload (pc := 130) dX2_strays_130 rfl ?_
            refine pl_isub (pc := 132) dX2_strays_132 hmn ?_
            refine pj_putfN (pc := 133) ckX10 2 q1071 dX2_strays_133 (by decide) rfl (y2.r35 hp) rfl rfl (Nat.le_of_ble_eq_true rfl) ?_
            refine sxk (y2.p35_2 hp) (fun My3 y3 => ?_)
            refine pl_aload_n (pc := 136) dX2_strays_136 rfl rfl ?_
            refine pj_getf (pc := 137) ckX2 26 q772 dX2_strays_137 (by decide) (y3.r1) rfl ?_
            refine pl_aload_n (pc := 140) dX2_strays_140 rfl rfl ?_
            refine pl_iload (pc := 141) dX2_strays_141 rfl ?_
            obtain ⟨q_143, hm_143, hq_143, hdd_143⟩ := y3.held (s := b1) hb1
            refine pl_callVd (pc := 143) (As := [_]) (C1 := 0) (N1 := 0) (C2 := 0) (N2 := 0) ckX2 mdX2_at rfl q1199 q1124 q1125 q126 dX2_strays_143 rfl rfl (Nat.le_of_ble_eq_true rfl) (y3.r1) (x_X2_at (d := d - 1) (by omega) y3 hb1 hm_143 hq_143) (by omega) (by omega) (by omega) ?_
            refine ph_holder (pc := 146) hq_143 (fun G => dw_at G 17 rfl) (fun G => dw_at G 3 rfl) dX2_strays_146 (by omega) (Nat.le_of_ble_eq_true rfl) ?_
            refine PJ.top ho_holder ?_
            obtain ⟨o, ho, eo⟩ := (iv9.who b1 hb1).farm fb
            refine PJ.top (y := nI o) ((rowS_ne (by omega)).trans eo) ?_
            obtain ⟨m_149, c_149, l_149⟩ := y3.L4
            refine pl_callVd (pc := 149) (As := [_]) (C1 := 0) (N1 := 0) (C2 := 0) (N2 := 0) ckJ2 mdJ2_get rfl q707 q708 q709 q129 dX2_strays_149 rfl rfl (Nat.le_of_ble_eq_true rfl) l_149.1 (k_J2_get (d := d - 1) (by omega) l_149 (j := o) ho (if_pos ho)) (by omega) (by omega) (by omega) ?_
            refine pj_castS (pc := 152) ckX10 q1190 dX2_strays_152 (y3.r35 ho) ?_
            refine pl_iload (pc := 155) dX2_strays_155 rfl ?_
            refine pl_callVWv (pc := 157) (As := [_]) (C1 := 0) (N1 := 0) (C2 := 0) (N2 := 0) ckX10 mdX10_gets rfl q2380 q2381 q2382 q158 dX2_strays_157 rfl rfl (Nat.le_of_ble_eq_true rfl) (y3.r35 ho) (x_X10_gets (d := d - 1) (by omega) y3 ho) (by omega) (by omega) (by omega) (fun My4 y4 => ?_)
            refine pl_iinc1 (pc := 160) (lv' := [(1, _), (6, _), (5, _), (4, _), (3, _), (2, _), (0, _)]) dX2_strays_160 rfl rfl (by decide) rfl ?_
            refine pj_goto (pc := 163) (tgt := 2) dX2_strays_163 (by decide) ?_
            refine PJ.sub [0, 6] rfl ?_
            obtain ⟨ff, e8⟩ := strays_fine (n := S 4 w) (nl := S 8 w) (σ := τ) (c := i) cP eks hks (by omega) (by rw [c4]; decide) ep (by omega) eb hb1 eo (by omega) em hm ekm hkm
            have iv8 := stray1_iv (n := S 4 w) (nl := S 8 w) (c := i) (by omega) iv9
            unfold stray1 at iv8
            rw [e8] at iv8
            have g8 : SX g P F A w S b (s_pays (sR τ (768 + 8 * p + 1) (nI (m - (min m (ks / 8 * km))))) o (nI (min m (ks / 8 * km)))) e_115 _ := y4
            have t8 : TieX w S (s_pays (sR τ (768 + 8 * p + 1) (nI (m - (min m (ks / 8 * km))))) o (nI (min m (ks / 8 * km)))) e_115 nw := (t9.e9 he_115).coin g8.hz (fun j z1 z2 => by unfold s_pays; rw [rowS_ne (z2 o ho), rowS_ne (z2 p hp)]) (fun x hx => by
              have c1 : ∃ m1, m1 ≤ 1000000 ∧ per (sR τ (768 + 8 * p + 1) (nI (m - (min m (ks / 8 * km))))) x 1 = nI m1 := by
                by_cases ex : x = p
                · subst ex
                  exact ⟨_, by omega, rowS_eq⟩
                · obtain ⟨m2, hm2, em2⟩ := t9.coins hx
                  exact ⟨m2, hm2, (rowS_ne (by omega)).trans em2⟩
              obtain ⟨m1, hm1, em1⟩ := c1
              by_cases ex : x = o
              · subst ex
                obtain ⟨m3, hm3, em3⟩ := gets_in em1 (rfl : nI (min m (ks / 8 * km)) = nI (min m (ks / 8 * km))) hm1 (by omega)
                exact ⟨m3, hm3, (show row (s_pays _ x _) (768 + 8 * x + 1) = _ from rowS_eq).trans em3⟩
              · exact ⟨m1, hm1, (show row (s_pays _ o _) (768 + 8 * x + 1) = _ from rowS_ne (by omega)).trans em1⟩) (by simp [sA, s_pays]) (by simp [sA, s_pays]) (fun _ _ => by simp [sA, s_pays]) rfl rfl
            exact ih (by omega) _ _ (by rw [uq_s, ← hτ]; exact (e8).symm) (SB.P ⟨_, g8, t8⟩) iv8
        · refine PJ.top (y := nI 1) c4 ?_
          refine pj_if_eq (pc := 44) (tgt := 50) dX2_strays_44 (by decide) (fun h => absurd h (by decide)) (fun _ => ?_)
          refine pj_goto (pc := 47) (tgt := 160) dX2_strays_47 (by decide) ?_
          refine pl_iinc1 (pc := 160) (lv' := [(1, _), (2, _), (0, _)]) dX2_strays_160 rfl rfl (by decide) rfl ?_
          refine pj_goto (pc := 163) (tgt := 2) dX2_strays_163 (by decide) ?_
          refine PJ.sub [0, 2] rfl ?_
          have e8 := strays_no3 (n := S 4 w) (nl := S 8 w) (σ := τ) (c := i) c4
          exact ih (by omega) _ _ (by rw [uq_s, ← hτ]; exact (e8).symm) ⟨_, h9, t9⟩ iv9
    · rw [if_neg (show ¬ isPastV (hoR τ i 0) = true from cP)]
      refine pj_astore_nN (pc := 22) (lv' := [(2, _), (1, _), (0, _)]) dX2_strays_22 rfl (by decide) rfl ?_
      refine pl_aload_nN (pc := 23) dX2_strays_23 rfl rfl ?_
      refine pj_ifnullN (pc := 24) (tgt := 160) dX2_strays_24 (by decide) ?_
      refine pl_iinc1 (pc := 160) (lv' := [(1, _), (2, _), (0, _)]) dX2_strays_160 rfl rfl (by decide) rfl ?_
      refine pj_goto (pc := 163) (tgt := 2) dX2_strays_163 (by decide) ?_
      refine PJ.sub [0, 2] rfl ?_
      have e8 := strays_no1 (n := S 4 w) (nl := S 8 w) (σ := τ) (c := i) (Bool.not_eq_true _ ▸ cP)
      exact ih (by omega) _ _ (by rw [uq_s, ← hτ]; exact (e8).symm) ⟨_, h9, t9⟩ iv9
