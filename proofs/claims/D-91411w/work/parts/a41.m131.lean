set_option maxRecDepth 100000
theorem mset3 {μ : Mem} {q v : Nat} {x a c : va_E} (h : v ≠ q) : mset (mset (mset μ q x) v a) q c = mset (mset μ v a) q c := by
  funext y
  unfold mset
  by_cases h1 : y = q <;> by_cases h2 : y = v <;> simp [h1, h2]
section SG
variable {g : GP} {P : Nat → Prop} {F : Mem} {A : XA} {w : Nat} {S S1 : Nat → Nat → Nat} {b : XS} {σ : MS} {e : XE} {M : Mem}
/-- what the sizes' list keeps beside the sizes may be another -/
theorem SX.gho (h : SX g P F A w S b σ e M) (hS : ∀ x y, x < 50 → S1 x y = S x y) (h63 : S1 63 1 = S 63 1) (h59 : S1 59 0 = S 59 0) : SX g P F A w S1 b σ e M := by
  obtain ⟨τ, dn, fl, hR, hz, hf, hd⟩ := h
  have ec : cNX S1 = cNX S := by
    funext k y
    unfold cNX
    rw [hS 4 y (by decide), hS 6 y (by decide), hS 8 y (by decide), hS 10 y (by decide)]
  have ei : iNX S1 w = iNX S w := by
    funext k
    unfold iNX
    rw [ec]
  have eV : VX w S1 b σ e = VX w S b σ e := by
    unfold VX
    rw [ei]
  have eL : ∀ k y i, LvX S1 k y i ↔ LvX S k y i := fun k y i => by
    unfold LvX
    rw [ec, hS 32 i (by decide)]
  refine ⟨τ, dn, fl, ?_, ?_, ?_, ?_⟩
  · obtain ⟨h1, h2, h3, h4, h5, h6, h7, h8, h9, h10, h11⟩ := hR
    rw [eV]
    refine ⟨fun k y i hl => ?_, fun k y i k' y' i' hl hl' => h2 _ _ _ _ _ _ ((eL _ _ _).mp hl) ((eL _ _ _).mp hl'), fun k y i hl => h3 _ _ _ ((eL _ _ _).mp hl), h4, h5, h6, h7, fun y hy => ⟨(h8 y hy).1, (h8 y hy).2.1, (h8 y hy).2.2.trans h59.symm⟩, fun l hl => h9 l (by show l < S 8 0; rw [← hS 8 0 (by decide)]; exact hl), fun q hq => h10 q (by show q < S 16 0; rw [← hS 16 0 (by decide)]; exact hq), fun k y hk => ?_⟩
    · rw [h1 _ _ _ ((eL _ _ _).mp hl)]
      show some (shX g A τ S σ.2.2 (fl i) k y i (VX w S b σ e k y i)) = some (shX g A τ S1 σ.2.2 (fl i) k y i (VX w S b σ e k y i))
      have hk := hl.1
      unfold shX
      split <;> first | rfl | (rw [hS _ _ (by decide)]) | (unfold rwA; simp only [hS 32 _ (by decide)]) | (unfold slW; rw [h63])
    · show S1 k y ≤ _ ∧ _
      rw [hS k y hk]
      exact h11 k y hk
  · obtain ⟨z1, z2, z3, z4, z5, z6, z7, z8⟩ := hz
    exact ⟨z1, by rw [hS 4 w (by decide)]; exact z2, by rw [hS 6 w (by decide)]; exact z3, by rw [hS 8 w (by decide)]; exact z4, by rw [hS 10 w (by decide)]; exact z5, by rw [hS 2 0 (by decide)]; exact z6, by rw [hS 2 1 (by decide)]; exact z7, by rw [hS 8 w (by decide), hS 8 0 (by decide)]; exact z8.1, fun e9 => by rw [h63]; exact z8.2 e9⟩
  · intro z hz9
    rw [hS 32 z (by decide)]
    exact hf z hz9
  · rw [hS 8 w (by decide)]
    exact hd
end SG
section SF2
variable {g : GP} {own : String} {cc : ByteArray} {nL : Nat} {i : MI} {d C N pc : Nat} {ls : List (Nat × Value)} {st : List Value} {μ : Mem} {Q : OC → Mem → Prop} {P : Nat → Prop} {F : Mem} {A : XA} {w : Nat} {S : Nat → Nat → Nat} {b : XS} {σ : MS} {e : XE}
theorem sxf2 {q v : Nat} {x y : va_E} (h : SX g P F A w S b σ e μ) (hq : μ q = some x) (hv : μ v = some y) (k : ∀ M : Mem, SX g P F A w S b σ e M → M q = some x → M v = some y → PJ g own cc nL i d C N pc ls st M Q) : PJ g own cc nL i d C N pc ls st μ Q := k μ h hq hv
end SF2
section TB
variable {g : GP} {P P1 : Nat → Prop} {F F1 : Mem} {A : XA} {w : Nat} {S : Nat → Nat → Nat} {b : XS} {σ : MS} {e : XE} {M : Mem} {nw q q2 m1 n k : Nat} {mc1 : Int32}
/-- the sizes when a bill is added -/
def SbX (S : Nat → Nat → Nat) (w n k nw : Nat) : Nat → Nat → Nat := SnX (SnX (SnX S 10 w (n + 1)) 61 n k) 62 n nw
theorem SbX_10 {y : Nat} : SbX S w n k nw 10 y = if y = w then n + 1 else S 10 y := by
  unfold SbX
  rw [SnX_ne (by omega), SnX_ne (by omega)]
  by_cases h : y = w
  · rw [if_pos h, h, SnX_eq]
  · rw [if_neg h, SnX_ne (fun z => h z.2)]
theorem SbX_o {x y : Nat} (h : x ≠ 10 ∧ x ≠ 61 ∧ x ≠ 62) : SbX S w n k nw x y = S x y := by
  unfold SbX
  rw [SnX_ne (by omega), SnX_ne (by omega), SnX_ne (by omega)]
theorem SbX_61 {y : Nat} : SbX S w n k nw 61 y = if y = n then k else S 61 y := by
  unfold SbX
  rw [SnX_ne (by omega)]
  by_cases h : y = n
  · rw [if_pos h, h, SnX_eq]
  · rw [if_neg h, SnX_ne (by omega), SnX_ne (by omega)]
theorem SbX_62 {y : Nat} : SbX S w n k nw 62 y = if y = n then nw else S 62 y := by
  unfold SbX
  by_cases h : y = n
  · rw [if_pos h, h, SnX_eq]
  · rw [if_neg h, SnX_ne (by omega), SnX_ne (by omega), SnX_ne (by omega)]
/-- the model's rows when a bill is added -/
def billS (σ : MS) (n k nw : Nat) : MS := sR (sR (sR (sR σ (1640 + 4 * n + 0) (nI k)) (1640 + 4 * n + 3) (nI (nw + 34))) 2118 (row σ 2118 + nI k)) 2126 (nI (n + 1))
theorem bill_row {j : Nat} : row (billS σ n k nw) j = if j = 2126 then nI (n + 1) else if j = 2118 then row σ 2118 + nI k else if j = 1640 + 4 * n + 3 then nI (nw + 34) else if j = 1640 + 4 * n + 0 then nI k else row σ j := by
  unfold billS
  simp only [rowS_if]
theorem OnR.bill : OnR σ (billS σ n k nw) := OnR.rf.R.R.R.R
theorem p_bill_ok {nb : Nat} (hn : row (s0 σ) 2126 = nI nb) (hnb : nb < 20) (hw : row (s0 σ) 2116 = nI nw) (hk : 1 ≤ k ∧ k ≤ 10000) : p_bill σ nb (nI k) = (nI nb, billS (s0 σ) nb k nw) := by
  unfold p_bill billS
  rw [if_neg (show ¬ nI k < nI 1 from fun z => by have := (nI_ltI (by omega) (by decide)).mp z; omega), if_neg (show ¬ ¬ nI k ≤ nI 10000 from fun z => z ((nI_leI (by omega) (by decide)).mpr hk.2)), if_neg (show ¬ nb = 20 by omega)]
  dsimp only
  rw [show row (sR (s0 σ) (1640 + 4 * nb + 0) (nI k)) 2116 = nI nw from (rowS_ne (by omega)).trans hw, nI_add]
  rw [show row (sR (sR (s0 σ) (1640 + 4 * nb + 0) (nI k)) (1640 + 4 * nb + 3) (nI (nw + 34))) 2118 = row (s0 σ) 2118 from (rowS_ne (by omega)).trans (rowS_ne (by omega))]
  rw [show row (sR (sR (sR (s0 σ) (1640 + 4 * nb + 0) (nI k)) (1640 + 4 * nb + 3) (nI (nw + 34))) 2118 (row (s0 σ) 2118 + nI k)) 2126 = nI nb from (rowS_ne (by omega)).trans ((rowS_ne (by omega)).trans ((rowS_ne (by omega)).trans hn)), nI_add]
  rw [show row (sR (sR (sR (sR (s0 σ) (1640 + 4 * nb + 0) (nI k)) (1640 + 4 * nb + 3) (nI (nw + 34))) 2118 (row (s0 σ) 2118 + nI k)) 2126 (nI (nb + 1))) 2126 - nI 1 = nI nb from by rw [rowS_eq, nI_pdec (by omega)]; rfl]
theorem tie_bill_add (t : TieX w S σ e nw) (hz : SzX w S) (hn : n = S 10 w) (hn9 : n < 20) (h1 : row σ (1640 + 4 * n + 1) = nI 0) (h2 : row σ (1640 + 4 * n + 2) = nI 0) : TieX w (SbX S w n k nw) (billS σ n k nw) (uE e 16 n (nI nw)) nw := by
  have z4 := hz.2.1
  have z6 := hz.2.2.1
  have z8 := hz.2.2.2.1
  have on : OnR σ (billS σ n k nw) := OnR.bill
  have ro : ∀ j, j ≠ 2126 → j ≠ 2118 → j ≠ 1640 + 4 * n + 3 → j ≠ 1640 + 4 * n + 0 → row (billS σ n k nw) j = row σ j := fun j h1 h2 h3 h4 => by
    rw [bill_row, if_neg h1, if_neg h2, if_neg h3, if_neg h4]
  have hp : ∀ j p, p < S 4 w → j < 8 → per (billS σ n k nw) p j = per σ p j := fun j p hp hj => ro _ (by omega) (by omega) (by omega) (by omega)
  have s0 : ∀ j a, a < 96 → j < 8 → sec (billS σ n k nw) a j = sec σ a j := fun j a ha hj => ro _ (by omega) (by omega) (by omega) (by omega)
  have lw : ∀ k9 j, k9 < S 8 w → j < 6 → lawv (billS σ n k nw) k9 j = lawv σ k9 j := fun k9 j hk hj => ro _ (by omega) (by omega) (by omega) (by omega)
  have bw : ∀ k9 j, k9 < n → j < 4 → row (billS σ n k nw) (1640 + 4 * k9 + j) = row σ (1640 + 4 * k9 + j) := fun k9 j hk hj => ro _ (by omega) (by omega) (by omega) (by omega)
  have qw : ∀ a j, a < S 6 w → j < 15 → row (billS σ n k nw) (1720 + 15 * a + j) = row σ (1720 + 15 * a + j) := fun a j ha hj => ro _ (by omega) (by omega) (by omega) (by omega)
  have e4 : SbX S w n k nw 4 w = S 4 w := SbX_o (by decide)
  have e6 : SbX S w n k nw 6 w = S 6 w := SbX_o (by decide)
  have e8 : SbX S w n k nw 8 w = S 8 w := SbX_o (by decide)
  have e10 : SbX S w n k nw 10 w = n + 1 := by rw [SbX_10, if_pos rfl]
  have hee : ∀ a, a ≠ 16 → uE e 16 n (nI nw) a = e a := fun a h => by
    unfold uE
    rw [if_neg h]
  have a3 := on.1 3 (by decide) (by decide) (by decide) (by decide)
  have a4 := on.1 4 (by decide) (by decide) (by decide) (by decide)
  have b0 : row (billS σ n k nw) (1640 + 4 * n) = nI k := by rw [bill_row, if_neg (by omega), if_neg (by omega), if_neg (by omega), if_pos (by omega)]
  have b2 : row (billS σ n k nw) (1640 + 4 * n + 2) = nI 0 := (ro _ (by omega) (by omega) (by omega) (by omega)).trans h2
  have b3 : row (billS σ n k nw) (1640 + 4 * n + 3) = nI (nw + 34) := by rw [bill_row, if_neg (by omega), if_neg (by omega), if_pos rfl]
  refine ⟨fun p hp9 => ?_, fun p hp9 => ?_, fun x hx => ?_, fun x hx => ?_, fun x hx => ?_, fun x hx => ?_, fun a ha j hj2 hj => ?_, fun p hp9 h3 => ?_, fun x hx => ⟨fun hf p hp9 ep => ?_, (t.ps hx).cg (s0 0 x hx (by decide)) (s0 3 x hx (by decide)) (s0 4 x hx (by decide)) (s0 5 x hx (by decide)) a3⟩, fun x hx => ?_, fun hw k9 hk j hj => ?_, fun p hp9 => ?_, ?_, ?_, ⟨fun a ha => ?_, fun x hx => ?_⟩⟩
  · rw [e4] at hp9 ⊢
    rw [hee 0 (by decide), t.hands hp9]
    exact congrArg nI (cnt_cg (fun o ho => by rw [hp 2 o ho (by decide), hp 3 o ho (by decide)])).symm
  · rw [e4] at hp9
    rw [hee 1 (by decide), t.farms hp9]
    exact congrArg nI (cnt_cg (fun c hc => by rw [s0 0 c hc (by decide), s0 1 c hc (by decide)])).symm
  · rw [hee 2 (by decide), s0 0 x hx (by decide), s0 7 x hx (by decide), a3, a4]
    exact t.miles hx
  · rw [hee 3 (by decide), s0 0 x hx (by decide), s0 2 x hx (by decide)]
    exact t.ends hx
  · rw [e8] at hx
    rw [hee 6 (by decide), hee 15 (by decide), lw x 4 hx (by decide), lw x 5 hx (by decide)]
    exact t.said hx
  · rw [e10] at hx
    by_cases ex : x = n
    · subst ex
      unfold DuX
      rw [b2, b3, uE_eq, ← nI_add]
      exact ⟨fun _ => rfl, fun z => absurd z (by decide), Or.inl rfl⟩
    · have h := t.due (k := x) (by omega)
      unfold DuX at h ⊢
      rw [bw x 2 (by omega) (by decide), bw x 3 (by omega) (by decide), uE_ne (fun z => ex z.2)]
      exact h
  · rw [e6] at ha
    rw [qw a 2 ha (by decide)] at hj
    rw [hee (10 + a) (by omega), t.queue ha hj2 hj]
    have := qw a (3 + j) ha (by omega)
    rw [← Nat.add_assoc] at this
    exact this.symm
  · rw [e4] at hp9
    rw [hp 2 p hp9 (by decide)] at h3
    rw [hp 3 p hp9 (by decide)]
    exact t.boss hp9 h3
  · rw [e4] at hp9
    rw [s0 0 x hx (by decide)] at hf
    rw [s0 1 x hx (by decide)] at ep
    rw [hp 2 p hp9 (by decide)]
    exact t.own hx hf hp9 ep
  · rw [e8] at hx
    have h := t.hist hx
    unfold HiX at h ⊢
    rw [hee 4 (by decide), hee 5 (by decide), lw x 0 hx (by decide), lw x 3 hx (by decide), on.2.2.2]
    exact h
  · rw [hee 7 (by decide), on.2.2.2]
    exact t.rows hw hk hj
  · rw [e4] at hp9
    rw [hp 1 p hp9 (by decide)]
    exact t.coins hp9
  · rw [on.2.1, on.2.1]
    exact ⟨t.tr1, t.tr2⟩
  · rw [e6]
    exact t.ivd.cg (fun x hx => ⟨s0 0 x hx (by decide), s0 7 x hx (by decide)⟩) a3 a4 (fun a ha => qw a 0 ha (by decide))
  · rw [e6] at ha
    rw [SbX_o (by decide)]
    exact (qw a 0 ha (by decide)).trans (t.gh.1 a ha)
  · rw [e10] at hx
    rw [SbX_61, SbX_62]
    by_cases ex : x = n
    · subst ex
      rw [if_pos rfl, if_pos rfl, uE_eq]
      exact ⟨b0, rfl⟩
    · rw [if_neg ex, if_neg ex, uE_ne (fun z => ex z.2)]
      exact ⟨(bw x 0 (by omega) (by decide)).trans (t.gh.2 x (by omega)).1, (t.gh.2 x (by omega)).2⟩
theorem SzX.n10 (hz : SzX w S) (hn : n ≤ 20) : SzX w (SnX S 10 w n) := by
  obtain ⟨z1, z2, z3, z4, z5, z6, z7, z8⟩ := hz
  refine ⟨z1, ?_, ?_, ?_, by rw [SnX_eq]; exact hn, ?_, ?_, ?_⟩
  · rw [SnX_ne (by omega)]; exact z2
  · rw [SnX_ne (by omega)]; exact z3
  · rw [SnX_ne (by omega)]; exact z4
  · rw [SnX_ne (by omega)]; exact z6
  · rw [SnX_ne (by omega)]; exact z7
  · exact ⟨by rw [SnX_ne (by omega), SnX_ne (by omega)]; exact z8.1, fun e9 => by rw [SnX_ne (by omega)]; exact z8.2 e9⟩
/-- a new bill is added to world 0's list (treasury and count come later) -/
theorem bill_sx (h : SX g P1 F1 A 0 S b σ e M) (hn4 : n = S 10 0) (hn9 : n < 20) (h1 : row σ (1640 + 4 * n + 1) = nI 0) (h2 : row σ (1640 + 4 * n + 2) = nI 0) (hF1 : ∀ a e, F a = some e → F1 a = some e) (hP : ∀ a, P a → P1 a) (hPF : ∀ a, P a → F a ≠ none) (hq : P1 q) (hqF : F q = none) (hqM : M q = some (.inr (15, [.int (nI k), .int (nI nw), .int (nI 0), .int (nI 0)]))) (hq2 : q2 = A 11 0 0 ∨ M q2 = none) (hm : n + 1 ≤ m1 ∧ m1 < 1000) (or : OrX 0 S b σ e) :
  SX g P F (A1X A 10 40 0 n q q2) 0 (SnX S 10 0 (n + 1)) b (sR σ (1640 + 4 * n + 0) (nI k)) (uE e 16 n (nI nw)) (mset (mset M q2 (lstA g m1 (fun j => if j < n then (if j < n then some (A 40 0 j) else none) else if j = n then some q else none))) (A 10 0 0) (lstO mc1 q2 (n + 1))) := by
  subst hn4
  have hz := h.hz
  have hz1 := hz.n10 (n := S 10 0 + 1) (by omega)
  have hi1 : S 10 0 < SnX S 10 0 (S 10 0 + 1) 10 0 := by rw [SnX_eq]; omega
  have eV : VX 0 S b (sR σ (1640 + 4 * S 10 0 + 0) (nI k)) (uE e 16 (S 10 0) (nI nw)) = VX 0 S b σ e := by
    rw [VX_oE (k0 := 40) (i0 := S 10 0) (j0 := 1) hz rfl (iN_o40 (Nat.le_refl _))]
    refine VX_oA (k0 := 40) (i0 := S 10 0) (j0 := 0) hz ?_ (iN_o40 (Nat.le_refl _))
    show inv1 (1640 + 4 * S 10 0 + 0) = _
    unfold inv1
    rw [if_neg (by omega), if_neg (by omega), if_neg (by omega), if_pos (by omega), if_pos (by omega)]
    exact t3 rfl (by omega) rfl
  refine SX.add1 (k := 10) (ko := 40) h (Or.inr ⟨rfl, rfl⟩) hF1 hP hPF hq hqF ?_ eV (fun a ha => wA_k (by omega)) rfl hq2 hm hz1 or
  rw [hqM, if_neg (by decide)]
  show _ = some (biO (VX 0 (SnX S 10 0 (S 10 0 + 1)) b (sR σ (1640 + 4 * S 10 0 + 0) (nI k)) _ 40 0 (S 10 0)))
  unfold biO
  rw [V40_0 hz1 hi1, V40_1 hz1 hi1, V40_2 hz1 hi1, V40_3 hz1 hi1, rowS_eq, uE_eq, rowS_ne (by omega), rowS_ne (by omega), h1, h2]
end TB
set_option maxHeartbeats 600000 in
theorem x_X1_bill {g : GP} {μ : Mem} {d : Nat} {P : Nat → Prop} {F : Mem} {A : XA} {S : Nat → Nat → Nat} {b : XS} {σ : MS} {nor nw : Nat} (s : SB g P F A 0 S b σ nw μ) (iv : IvG σ (S 4 0) (S 8 0) (S 10 0) (S 6 0) nor nw) (rs : RsX σ) (ak : AkX S σ nor) (zb : S 10 0 < 20 → row σ (1640 + 4 * S 10 0 + 1) = nI 0 ∧ row σ (1640 + 4 * S 10 0 + 2) = nI 0) (hd : 12 ≤ d) {v : Int32} : PM g yX1_bill (ws_ yX1_bill cX1_bill 2 (some .int)) d 2 160 [.ref (A 0 0 0), .int v] μ (CQ ["java/lang/IllegalArgumentException"] (p_bill σ (S 10 0) v) (fun τ M => ∃ A1 S1, row τ 2126 = nI (S1 10 0) ∧ (∀ x, (x ≠ 10 ∧ x ≠ 61 ∧ x ≠ 62) → ∀ y, S1 x y = S x y) ∧ S1 10 1 = S 10 1 ∧ (S1 = S ∨ (S1 10 0 = S 10 0 + 1 ∧ ∀ y, y < S 10 0 → S1 61 y = S 61 y ∧ S1 62 y = S 62 y)) ∧ SB g P F A1 0 S1 b τ nw M)) := by
  refine PM.of (by decide +kernel) (Nat.le_of_ble_eq_true rfl) ?_
  refine PJ.ok (fun G => ?_)
  show PJ g _ _ _ _ d 2 160 0 [(0, .ref (A 0 0 0)), (1, .int v)] [] _ _
  obtain ⟨ρ, hs0⟩ : ∃ ρ, ρ = sF σ 0 (nI 0) := ⟨_, rfl⟩
  have hs9 : s0 σ = ρ := hs0.symm
  have s1 := s.F0 (x := nI 0)
  rw [← hs0] at s1
  obtain ⟨e, h, t⟩ := s1
  have iv1 : IvG ρ (S 4 0) (S 8 0) (S 10 0) (S 6 0) nor nw := by rw [hs0]; exact iv.f0
  have rs1 : RsX ρ := by rw [hs0]; exact rs
  have h00 : ρ.1 0 = nI 0 := by rw [hs0]; rfl
  have hS4 := h.hz.2.1
  have hS6 := h.hz.2.2.1
  have hS8 := h.hz.2.2.2.1
  have hS10 := h.hz.2.2.2.2.1
  have ak1 : AkX S ρ nor := by rw [hs0]; exact ak.cg (fun _ _ _ => rfl)
  have zb0 : S 10 0 < 20 → row ρ (1640 + 4 * S 10 0 + 1) = nI 0 ∧ row ρ (1640 + 4 * S 10 0 + 2) = nI 0 := by rw [hs0]; exact zb
  refine pl_iload_n (pc := 0) dX1_bill_0 rfl rfl ?_
  refine pl_iconst (pc := 1) (v := 1) dX1_bill_1 (by rfl) ?_
  refine pj_icmp_lt (pc := 2) (tgt := 16) dX1_bill_2 (by decide) (fun c2 => ?_) (fun c2 => ?_)
  · refine pl_iconst (pc := 16) (v := 0) dX1_bill_16 (by rfl) ?_
    refine pl_callSX (pc := 17) (As := [_]) (C1 := 1) (N1 := 6) (C2 := 0) (N2 := 0) (E8 := "java/lang/IllegalArgumentException") mdX1_need q1262 q1263 q125 dX1_bill_17 rfl rfl (Nat.le_of_ble_eq_true rfl) (k_X1_need_no (d := d - 1) (by omega) rfl) (by omega) (by omega) (by omega) (fun q_17 M_17 hM_17 => ?_)
    refine px_out0 rfl ?_
    exact CQ.no 0 (v := nI 0) (τ := sF ρ 0 (nI 1)) (by rw [show sF ρ 0 (nI 1) = th σ 1 by rw [hs0]]; first | (simp only [p_bill, hs9, c2, ↓reduceIte]; first | done | rfl) | (simp [p_bill, hs9, c2, Int32.not_lt, Int32.not_le]; first | done | rfl)) rfl rfl (⟨A, S, iv1.hb, fun _ _ _ => rfl, rfl, Or.inl rfl, SB.mono (SB.F0 ⟨_, h, t⟩) hM_17⟩)
  · refine pl_iload_n (pc := 5) dX1_bill_5 rfl rfl ?_
    refine pl_sipush (pc := 6) (v := 10000) dX1_bill_6 (by rfl) ?_
    refine pj_icmp_gt (pc := 9) (tgt := 16) dX1_bill_9 (by decide) (fun c9 => ?_) (fun c9 => ?_)
    · refine pl_iconst (pc := 16) (v := 0) dX1_bill_16 (by rfl) ?_
      refine pl_callSX (pc := 17) (As := [_]) (C1 := 1) (N1 := 6) (C2 := 0) (N2 := 0) (E8 := "java/lang/IllegalArgumentException") mdX1_need q1262 q1263 q125 dX1_bill_17 rfl rfl (Nat.le_of_ble_eq_true rfl) (k_X1_need_no (d := d - 1) (by omega) rfl) (by omega) (by omega) (by omega) (fun q_17 M_17 hM_17 => ?_)
      refine px_out0 rfl ?_
      exact CQ.no 0 (v := nI 0) (τ := sF ρ 0 (nI 1)) (by rw [show sF ρ 0 (nI 1) = th σ 1 by rw [hs0]]; first | (simp only [p_bill, hs9, c2, c9, ↓reduceIte]; first | done | rfl) | (simp [p_bill, hs9, c2, c9, Int32.not_lt, Int32.not_le]; first | done | rfl)) rfl rfl (⟨A, S, iv1.hb, fun _ _ _ => rfl, rfl, Or.inl rfl, SB.mono (SB.F0 ⟨_, h, t⟩) hM_17⟩)
    · refine pl_iconst (pc := 12) (v := 1) dX1_bill_12 (by rfl) ?_
      refine pj_goto (pc := 13) (tgt := 17) dX1_bill_13 (by decide) ?_
      refine pl_callSv (pc := 17) (As := [_]) (C1 := 0) (N1 := 0) (C2 := 2) (N2 := 160) mdX1_need q1262 q1263 q125 dX1_bill_17 rfl rfl (Nat.le_of_ble_eq_true rfl) (k_X1_need_ok (d := d - 1) (by omega) (by decide)) (by omega) (by omega) (by omega) ?_
      obtain ⟨j_v, hj_v, rfl⟩ := inN_of (x := v) (n := 10001) (by omega) (by simp only [inN, Bool.and_eq_true, decide_eq_true_eq]; exact ⟨Int32.le_trans (show (0 : Int32) ≤ nI 1 by decide) (Int32.not_lt.mp c2), Int32.lt_of_le_of_lt (Int32.not_lt.mp c9) (by decide)⟩)
      have g_v := tN_nI (n := j_v) (by omega)
      refine pl_aload_n (pc := 20) dX1_bill_20 rfl rfl ?_
      refine pj_getf (pc := 21) ckX1 0 q853 dX1_bill_21 (by decide) (h.r0) rfl ?_
      refine pj_getfN (pc := 24) ckX2 29 q779 dX1_bill_24 (by decide) (h.r1) rfl ?_
      obtain ⟨m_27, c_27, l_27⟩ := h.L10
      refine pl_callVd (pc := 27) (As := []) (C1 := 0) (N1 := 0) (C2 := 2) (N2 := 160) ckJ2 mdJ2_size rfl q1049 q948 q949 q129 dX1_bill_27 rfl rfl (Nat.le_of_ble_eq_true rfl) l_27.1 (k_J2_size (d := d - 1) (by omega) l_27) (by omega) (by omega) (by omega) ?_
      refine pl_bipush (pc := 30) (v := 20) dX1_bill_30 (by rfl) ?_
      refine pl_icmp_ne (pc := 32) (tgt := 37) dX1_bill_32 (by decide) (by omega) (by omega) (fun c32 => ?_) (fun c32 => ?_)
      · have hn9 : S 10 0 < 20 := by omega
        have hv1 : 1 ≤ j_v := by
          have z9 := Int32.not_lt.mp c2
          exact (nI_leI (by decide) (by omega)).mp z9
        have zb1 := zb0 hn9
        refine pl_aload_n (pc := 37) dX1_bill_37 rfl rfl ?_
        refine pj_getf (pc := 38) ckX1 0 q853 dX1_bill_38 (by decide) (h.r0) rfl ?_
        refine pj_getfN (pc := 41) ckX2 29 q779 dX1_bill_41 (by decide) (h.r1) rfl ?_
        refine pj_new (pc := 44) (C1 := 1) (N1 := 156) ckX13 q2303 q1538 q161 dX1_bill_44 _ dfX13 (by omega) (by omega) (fun q_44 hn_44 gq_44 => ?_)
        refine sxh (h.fresh hn_44) (fun y1 => ?_)
        refine pj_dup (pc := 47) dX1_bill_47 rfl ?_
        refine pl_iload_n (pc := 48) dX1_bill_48 rfl rfl ?_
        refine pl_aload_n (pc := 49) dX1_bill_49 rfl rfl ?_
        refine pj_getf (pc := 50) ckX1 0 q853 dX1_bill_50 (by decide) (y1.r0) rfl ?_
        refine pj_getfN (pc := 53) ckX2 0 q726 dX1_bill_53 (by decide) (y1.r1) rfl ?_
        refine PJ.top (y := nI nw) iv1.hnw ?_
        refine pl_callIv (pc := 56) (As := [_, _]) (C1 := 0) (N1 := 0) (C2 := 1) (N2 := 156) mdX13_init rfl q2304 q1540 q161 dX1_bill_56 rfl rfl (Nat.le_of_ble_eq_true rfl) (k_X13_init (d := d - 1) (by omega) (f := fun _ => 0) mset_s) (by omega) (by omega) (by omega) ?_
        refine PJ.mem mset_m ?_
        obtain ⟨ow_56, fq_56⟩ := h.own hn_44 (c := (.inr (15, [.int (nI j_v), .int (nI nw), .int (nI 0), .int (nI 0)])))
        refine sxf ow_56 mset_s (fun My2 y2 hc_56 => ?_)
        obtain ⟨m_59, c_59, l_59, b_59, el_59, ne_59⟩ := y2.LA10
        refine pl_add (pc := 59) (C1 := 0) (N1 := 5) q1114 dX1_bill_59 (by omega) l_59 (by omega) b_59 (fun j hj => if_neg (by omega)) el_59 hc_56 rfl q3257 (ne_oo hc_56 l_59.1 (by decide)) ne_59 (Nat.le_of_ble_eq_true rfl) (by omega) (by omega) (fun q2 m1 mc1 hq2 hm1 hm2 => ?_)
        refine sxk (bill_sx (k := j_v) (nw := nw) y2 rfl hn9 zb1.1 zb1.2 (own_keep fq_56) (fun _ z => Or.inl z) h.pf (Or.inr rfl) fq_56 hc_56 hq2 ⟨hm1, hm2⟩ (or_of h.hz iv1 ak1)) (fun My3 y3 => ?_)
        refine pj_pop (pc := 62) dX1_bill_62 rfl ?_
        refine pl_aload_n (pc := 63) dX1_bill_63 rfl rfl ?_
        refine pj_getf (pc := 64) ckX1 0 q853 dX1_bill_64 (by decide) (y3.r0) rfl ?_
        refine pj_dup (pc := 67) dX1_bill_67 rfl ?_
        refine pj_getfN (pc := 68) ckX2 2 q730 dX1_bill_68 (by decide) (y3.r1) rfl ?_
        refine pl_iload_n (pc := 71) dX1_bill_71 rfl rfl ?_
        refine pj_iadd (pc := 72) dX1_bill_72 ?_
        refine pj_putfN (pc := 73) ckX2 2 q730 dX1_bill_73 (by decide) rfl (y3.r1) rfl rfl (Nat.le_of_ble_eq_true rfl) ?_
        refine sxk (y3.p1_2) (fun My4 y4 => ?_)
        refine pl_aload_n (pc := 76) dX1_bill_76 rfl rfl ?_
        refine pj_getf (pc := 77) ckX1 0 q853 dX1_bill_77 (by decide) (y4.r0) rfl ?_
        refine pj_getfN (pc := 80) ckX2 29 q779 dX1_bill_80 (by decide) (y4.r1) rfl ?_
        obtain ⟨m_83, c_83, l_83⟩ := y4.L10
        refine pl_callVd (pc := 83) (As := []) (C1 := 0) (N1 := 0) (C2 := 0) (N2 := 5) ckJ2 mdJ2_size rfl q1049 q948 q949 q129 dX1_bill_83 rfl rfl (Nat.le_of_ble_eq_true rfl) l_83.1 (k_J2_size (d := d - 1) (by omega) l_83) (by omega) (by omega) (by omega) ?_
        refine PJ.top (y := nI (S 10 0 + 1)) (by rw [show SnX S 10 0 (S 10 0 + 1) 10 0 = S 10 0 + 1 from SnX_eq]) ?_
        refine pl_iconst (pc := 86) (v := 1) dX1_bill_86 (by rfl) ?_
        refine pj_isub (pc := 87) dX1_bill_87 ?_
        refine PJ.top (y := nI (S 10 0)) (by rw [nI_pdec (by omega)]; rfl) ?_
        refine pj_iret (pc := 88) dX1_bill_88 rfl ?_
        have r18 : row (sR ρ (1640 + 4 * S 10 0 + 0) (nI j_v)) 2118 = row ρ 2118 := rowS_ne (by omega)
        have g7 := SX.at9 (υ := sR (sR ρ (1640 + 4 * S 10 0 + 0) (nI j_v)) 2118 (row ρ 2118 + nI j_v)) y4 (by rw [← r18]; first | done | rfl)
        have g8 : SX g P F (A1X A 10 40 0 (S 10 0) q_44 q2) 0 (SnX S 10 0 (S 10 0 + 1)) b (billS ρ (S 10 0) j_v nw) (uE e 16 (S 10 0) (nI nw)) _ := g7.onR (fun j hj => by rw [bill_row, rowS_if, rowS_if, if_neg (show ¬ j = 2126 from fun z => by subst z; unfold mapR at hj; omega), if_neg (show ¬ j = 1640 + 4 * S 10 0 + 3 from fun z => by subst z; unfold mapR at hj; omega)]) (OnR.rf.R.R.sy.tr OnR.bill)
        have g9 := g8.gho (S1 := SbX S 0 (S 10 0) j_v nw) (fun x y hx => by unfold SbX; rw [SnX_ne (by omega), SnX_ne (by omega)]) (by unfold SbX; rw [SnX_ne (by omega), SnX_ne (by omega)]) (by unfold SbX; rw [SnX_ne (by omega), SnX_ne (by omega)])
        exact CQ.ok (τ := billS ρ (S 10 0) j_v nw) (by rw [p_bill_ok (by rw [hs9]; exact iv1.hb) hn9 (by rw [hs9]; exact iv1.hnw) ⟨hv1, by omega⟩, hs9]) (by exact h00) ⟨A1X A 10 40 0 (S 10 0) q_44 q2, SbX S 0 (S 10 0) j_v nw, by rw [SbX_10, if_pos rfl, bill_row, if_pos rfl], fun x hx y => SbX_o hx, by rw [SbX_10, if_neg (by decide)], Or.inr ⟨by rw [SbX_10, if_pos rfl], fun y hy => ⟨by rw [SbX_61, if_neg (by omega)], by rw [SbX_62, if_neg (by omega)]⟩⟩, _, g9, tie_bill_add t h.hz rfl hn9 zb1.1 zb1.2⟩
      · refine pj_iconst (pc := 35) (v := (-1)) dX1_bill_35 (by rfl) ?_
        refine pj_iret (pc := 36) dX1_bill_36 rfl ?_
        exact CQ.ok (τ := ρ) (by first | (simp only [p_bill, hs9, ← hs0, c2, c9, g_v, eq_true c32, ↓reduceIte]; first | done | rfl) | (simp [p_bill, hs9, ← hs0, c2, c9, g_v, eq_true c32, Int32.not_lt, Int32.not_le]; first | done | rfl)) (by exact h00) ⟨A, S, iv1.hb, fun _ _ _ => rfl, rfl, Or.inl rfl, _, h, t⟩
