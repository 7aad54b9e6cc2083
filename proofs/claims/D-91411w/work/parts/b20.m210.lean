set_option maxRecDepth 100000
/-- what a law's reading tells fits: one list of codes, each name's at its place -/
def PlcX (Al : LA) (L : List Cd) : Prop := ∀ k, k < 8 → ∀ LE, Al k = some LE → ∃ m, m + LE.length ≤ L.length ∧ ∀ i, i < LE.length → LE.getD i (0, 0) = L.getD (m + i) (0, 0)
theorem clauseP_len {B : Nat → Nat} {n p p2 k : Nat} {LE : List Cd} (hB : ∀ k, n ≤ k → B k = 0) (hp : p ≤ n) (h : clauseP B n p = .inr (p2, .inl (k, LE))) : sk B n p + LE.length ≤ p2 ∧ p2 ≤ n := by
  have hq := sk_in (B := B) hp
  unfold clauseP at h
  cases hf : firstW B nameW (sk B n p) 8 0 with
  | some k9 =>
    rw [hf] at h
    have h2 : nameC k9 (nameP B n (sk B n p + (nameW k9).length) 0) = .inr (p2, .inl (k, LE)) := h
    have hw := firstW_in _ _ _ hf
    have h8 := firstW_lt _ _ _ hf
    have hl := isW_in hw (fun x hx => Nat.lt_of_lt_of_le (by decide) (lt_in ((nameW_l k9 h8).1 x hx)).1) hB hq.2
    have h3 := nameW_3 k9
    cases hy : nameP B n (sk B n p + (nameW k9).length) 0 with
    | none => rw [hy] at h2; cases h2
    | some y =>
      rw [hy] at h2
      rcases y with ⟨a, b⟩ | ⟨p3, o3, L3⟩
      · cases h2
      · have h4 : (Sum.inr (p3, .inl (k9, L3)) : CR) = .inr (p2, .inl (k, LE)) := h2
        cases h4
        obtain ⟨a, b, c⟩ := nameP_in hB hl _ _ _ hy
        exact ⟨by omega, c⟩
  | none =>
    rw [hf] at h
    have h2 : (if isW B (sk B n p) wUndo = true then (if isW B (sk B n (sk B n p + 4)) wFall = true then undoP B n (sk B n (sk B n p + 4) + 4) true else if isW B (sk B n (sk B n p + 4)) wStand = true then undoP B n (sk B n (sk B n p + 4) + 5) false else .inl (1, sk B n (sk B n p + 4))) else .inl (1, sk B n p) : CR) = .inr (p2, .inl (k, LE)) := h
    have hu : ∀ p b, undoP B n p b ≠ .inr (p2, .inl (k, LE)) := by
      intro p b z
      unfold undoP at z
      split at z <;> cases z
    split at h2
    · split at h2
      · exact absurd h2 (hu _ _)
      · split at h2
        · exact absurd h2 (hu _ _)
        · cases h2
    · cases h2
theorem clauseP_le {B : Nat → Nat} {n p p2 : Nat} {x : (Nat × List Cd) ⊕ Bool} (hB : ∀ k, n ≤ k → B k = 0) (hp : p ≤ n) (h : clauseP B n p = .inr (p2, x)) : sk B n p ≤ p2 ∧ p2 ≤ n := by
  rcases x with ⟨k, LE⟩ | b
  · obtain ⟨a, c⟩ := clauseP_len hB hp h
    exact ⟨by omega, c⟩
  · have hq := sk_in (B := B) hp
    unfold clauseP at h
    cases hf : firstW B nameW (sk B n p) 8 0 with
    | some k9 =>
      rw [hf] at h
      have h2 : nameC k9 (nameP B n (sk B n p + (nameW k9).length) 0) = .inr (p2, .inr b) := h
      cases hy : nameP B n (sk B n p + (nameW k9).length) 0 with
      | none => rw [hy] at h2; cases h2
      | some y =>
        rw [hy] at h2
        rcases y with ⟨a, b⟩ | ⟨p3, o3, L3⟩ <;> cases h2
    | none =>
      rw [hf] at h
      have h2 : (if isW B (sk B n p) wUndo = true then (if isW B (sk B n (sk B n p + 4)) wFall = true then undoP B n (sk B n (sk B n p + 4) + 4) true else if isW B (sk B n (sk B n p + 4)) wStand = true then undoP B n (sk B n (sk B n p + 4) + 5) false else .inl (1, sk B n (sk B n p + 4))) else .inl (1, sk B n p) : CR) = .inr (p2, .inr b) := h
      have hu : ∀ q b9, q ≤ n → undoP B n q b9 = .inr (p2, .inr b) → q ≤ p2 ∧ p2 ≤ n := by
        intro q b9 hq9 z
        unfold undoP at z
        cases hs : signP B n 59 q 0 with
        | none => rw [hs] at z; cases z
        | some y =>
          rw [hs] at z
          rcases y with ⟨a, b⟩ | ⟨p3, o3, L3⟩
          · cases z
          · have z2 : (Sum.inr (p3, .inr b9) : CR) = .inr (p2, .inr b) := z
            cases z2
            obtain ⟨a, c⟩ := MnP.sign hB (by decide) _ _ _ _ _ hq9 hs
            exact ⟨by omega, c⟩
      split at h2
      · rename_i c1
        have e1 : sk B n p + 4 ≤ n := isW_in c1 (by decide) hB hq.2
        have hq2 := sk_in (B := B) e1
        split at h2
        · rename_i c2
          have e2 : sk B n (sk B n p + 4) + 4 ≤ n := isW_in c2 (by decide) hB hq2.2
          obtain ⟨a, c⟩ := hu _ _ e2 h2
          exact ⟨by omega, c⟩
        · split at h2
          · rename_i c2
            have e2 : sk B n (sk B n p + 4) + 5 ≤ n := isW_in c2 (by decide) hB hq2.2
            obtain ⟨a, c⟩ := hu _ _ e2 h2
            exact ⟨by omega, c⟩
          · cases h2
      · cases h2
theorem lawP_plc {B : Nat → Nat} {n : Nat} (hB : ∀ k, n ≤ k → B k = 0) : ∀ (j p : Nat) (Al A2 : LA) (fb f2 : Bool) (L : List Cd), p ≤ n → L.length ≤ p → PlcX Al L → lawP B n j p Al fb = .inr (A2, f2) → ∃ L2 : List Cd, L2.length ≤ n ∧ PlcX A2 L2
  | 0, p, Al, A2, fb, f2, L, hp, hL, hA, h => by
    by_cases c : p < n
    · rw [lawP_0 c] at h; cases h
    · rw [lawP_e c] at h; cases h; exact ⟨L, by omega, hA⟩
  | j + 1, p, Al, A2, fb, f2, L, hp, hL, hA, h => by
    by_cases c : p < n
    · cases hc : clauseP B n p with
      | inl z => rw [lawP_f (k := z.1) (w := z.2) c hc] at h; cases h
      | inr z =>
        obtain ⟨p2, x⟩ := z
        rw [lawP_s c hc] at h
        have hq := sk_in (B := B) hp
        obtain ⟨l1, l2⟩ := clauseP_le hB hp hc
        have hq2 := sk_in (B := B) l2
        rcases x with ⟨k, LE⟩ | b
        · obtain ⟨m1, m2⟩ := clauseP_len hB hp hc
          refine lawP_plc hB j (sk B n p2) _ A2 _ f2 (L ++ LE) hq2.2 (by simp; omega) (fun k9 hk9 LE9 e => ?_) h
          have e2 : (if k9 = k then some LE else Al k9) = some LE9 := e
          by_cases ek : k9 = k
          · rw [if_pos ek] at e2
            cases e2
            exact ⟨L.length, by simp, fun i hi => getD_app2.symm⟩
          · rw [if_neg ek] at e2
            obtain ⟨m, a, b⟩ := hA k9 hk9 LE9 e2
            exact ⟨m, by simp; omega, fun i hi => (b i hi).trans (getD_app (by omega)).symm⟩
        · exact lawP_plc hB j (sk B n p2) _ A2 _ f2 L hq2.2 (by omega) hA h
    · rw [lawP_e c] at h; cases h; exact ⟨L, by omega, hA⟩
/-- there is a memory that tells the law -/
theorem ex_law {B : Nat → Nat} {n l : Nat} {A2 : LA} {f2 : Bool} (hB : ∀ k, n ≤ k → B k = 0) (hn : n ≤ 300) (h : lawP B n 10 (sk B n 0) A0 false = .inr (A2, f2)) (σ : MS) : ∃ σp : MS, SamL l σ σp ∧ σp.1 = σ.1 ∧ LawM l A2 f2 σp := by
  obtain ⟨L, hL, hP⟩ := lawP_plc hB 10 (sk B n 0) A0 A2 false f2 [] (sk_in (B := B) (Nat.zero_le n)).2 (Nat.zero_le _) (fun _ _ _ e => by cases e) h
  have ch : ∀ k, ∃ v : Int32, k < 8 → (A2 k = none → v = -1) ∧ ∀ LE, A2 k = some LE → ∃ m, v = nI m ∧ m + LE.length ≤ L.length ∧ ∀ i, i < LE.length → LE.getD i (0, 0) = L.getD (m + i) (0, 0) := fun k => by
    by_cases hk : k < 8
    · cases e : A2 k with
      | none => exact ⟨-1, fun _ => ⟨fun _ => rfl, fun LE z => by cases z⟩⟩
      | some LE =>
        obtain ⟨m, a, b⟩ := hP k hk LE e
        exact ⟨nI m, fun _ => ⟨fun z => (by cases z), fun LE9 z => by cases z; exact ⟨m, rfl, a, b⟩⟩⟩
    · exact ⟨0, fun z => absurd z hk⟩
  obtain ⟨v, hv⟩ := Classical.skolem.mp ch
  refine ⟨(σ.1, (fun a => if a = 8 then (fun j => if 400 * l ≤ j ∧ j < 400 * l + 400 then nI (L.getD (j - 400 * l) (0, 0)).1 else σ.2.1 8 j) else if a = 9 then (fun j => if 400 * l ≤ j ∧ j < 400 * l + 400 then (L.getD (j - 400 * l) (0, 0)).2 else σ.2.1 9 j) else if a = 10 then (fun j => if 8 * l ≤ j ∧ j < 8 * l + 8 then v (j - 8 * l) else σ.2.1 10 j) else if a = 11 then (fun j => if j = l then bI f2 else σ.2.1 11 j) else σ.2.1 a), σ.2.2), ⟨fun _ _ => rfl, fun k h8 h9 h10 h11 => ?_, fun j hj => ⟨?_, ?_⟩, fun j hj => ?_, fun j hj => ?_, rfl⟩, rfl, fun k hk => ⟨fun e => ?_, fun LE e => ?_⟩, ?_⟩
  · show (if k = 8 then _ else if k = 9 then _ else if k = 10 then _ else if k = 11 then _ else σ.2.1 k) = _
    rw [if_neg h8, if_neg h9, if_neg h10, if_neg h11]
  · exact if_neg (by omega)
  · exact if_neg (by omega)
  · exact if_neg (by omega)
  · exact if_neg hj
  · show (if 8 * l ≤ 8 * l + k ∧ 8 * l + k < 8 * l + 8 then v (8 * l + k - 8 * l) else σ.2.1 10 (8 * l + k)) = -1
    rw [if_pos (by omega), show 8 * l + k - 8 * l = k by omega]
    exact (hv k hk).1 e
  · obtain ⟨m, a, b, c⟩ := (hv k hk).2 LE e
    refine ⟨m, ?_, by omega, fun i hi => ⟨?_, ?_⟩⟩
    · show (if 8 * l ≤ 8 * l + k ∧ 8 * l + k < 8 * l + 8 then v (8 * l + k - 8 * l) else σ.2.1 10 (8 * l + k)) = nI m
      rw [if_pos (by omega), show 8 * l + k - 8 * l = k by omega]
      exact a
    · show (if 400 * l ≤ 400 * l + m + i ∧ 400 * l + m + i < 400 * l + 400 then nI (L.getD (400 * l + m + i - 400 * l) (0, 0)).1 else _) = _
      rw [if_pos (by omega), show 400 * l + m + i - 400 * l = m + i by omega, c i hi]
    · show (if 400 * l ≤ 400 * l + m + i ∧ 400 * l + m + i < 400 * l + 400 then (L.getD (400 * l + m + i - 400 * l) (0, 0)).2 else _) = _
      rw [if_pos (by omega), show 400 * l + m + i - 400 * l = m + i by omega, c i hi]
  · show (if l = l then bI f2 else _) = _
    rw [if_pos rfl]
/-! ===== the model's own numbers behind law ===== -/
theorem IvG.lw {σ τ : MS} {n nl nl1 nb q nor nw : Nat} (v : IvG σ n nl nb q nor nw) (hl : nl ≤ nl1) (hl2 : nl1 ≤ 12) (hr : ∀ j, j ≠ 2125 → row τ j = row σ j) (h25 : row τ 2125 = nI nl1) (h6 : τ.2.1 6 = σ.2.1 6) (h14 : τ.2.1 14 = σ.2.1 14) (hw : Wc τ nl1) : IvG τ n nl1 nb q nor nw := by
  have hP := v.hP
  have hOR := v.hOR
  have hQ := v.hQ
  have s0 : ∀ c j, c < 96 → j < 8 → sec τ c j = sec σ c j := fun c j _ _ => hr _ (by omega)
  have p0 : ∀ p j, p < n → j < 8 → per τ p j = per σ p j := fun p j _ _ => hr _ (by omega)
  refine ⟨(hr _ (by omega)).trans v.hn, v.hP, h25, hl2, (hr _ (by omega)).trans v.hb, v.hB, (hr _ (by omega)).trans v.hq, v.hQ, (hr _ (by omega)).trans v.hor, v.hOR, (hr _ (by omega)).trans v.hnw, v.hNW, hw, fun w hw => by rw [h14]; exact Lb_mono (v.hF w hw) hl, fun c hc => ?_, fun p hp => ?_, fun p hp h0 => ?_, ?_, fun o ho => ?_, fun a ha => Pinv_cg (fun j h1 h2 => hr j (by omega)) (v.par a ha), fun a ha => ?_, fun z hz => by rw [h6]; exact v.rns z hz⟩
  · unfold Who
    rw [s0 c 0 hc (by decide), s0 c 1 hc (by decide)]
    exact v.who c hc
  · unfold Hire
    rw [p0 p 2 hp (by decide), p0 p 3 hp (by decide)]
    exact v.hire p hp
  · rw [p0 p 6 hp (by decide)] at h0 ⊢
    exact v.ord p hp h0
  · rw [cnt_cg (p' := isOrd σ) (fun p hp => by unfold isOrd; rw [p0 p 6 hp (by decide)])]
    exact v.cor
  · obtain ⟨p, hp, e⟩ := v.of_ o ho
    exact ⟨p, hp, (hr _ (by omega)).trans e⟩
  · obtain ⟨x, hx, e⟩ := v.pace a ha
    exact ⟨x, hx, (hr _ (by omega)).trans e⟩
theorem tie_law_add {S : Nat → Nat → Nat} {σ : MS} {e : XE} {nw n : Nat} (t : TieX 0 S σ e nw) (hz : SzX 0 S) (hn : n = S 8 0) (hn9 : n < 12) (h6 : ∀ j, j < 6 → lawv σ n j = nI 0) (hb : ∀ w, w < nw → Lb (σ.2.1 14 (7 * w + 6)) n) : TieX 0 (SnX S 8 0 (n + 1)) σ (lawE e n) nw := by
  have e8 : SnX S 8 0 (n + 1) 8 0 = n + 1 := SnX_eq
  have eo : ∀ x y, x ≠ 8 → SnX S 8 0 (n + 1) x y = S x y := fun x y h => SnX_ne (fun z => h z.1)
  have hee : ∀ a, a ≠ 4 → a ≠ 5 → a ≠ 6 → a ≠ 15 → lawE e n a = e a := fun a a1 a2 a3 a4 => funext fun x => lawE_o (fun z => by omega)
  have hex : ∀ a x, x ≠ n → lawE e n a x = e a x := fun a x h => lawE_o (fun z => h z.2)
  have q4 := eo 4 0 (by decide)
  have q6 := eo 6 0 (by decide)
  have q10 := eo 10 0 (by decide)
  obtain ⟨t1, t2, t3, t4, t5, t6, t7, t8, t9, t10, t11, t12, t13, t14, t15⟩ := t
  have hqa : ∀ a, lawE e n (10 + a) = if 10 + a = 15 then lawE e n (10 + a) else e (10 + a) := fun a => by
    by_cases h : 10 + a = 15
    · rw [if_pos h]
    · rw [if_neg h, hee _ (by omega) (by omega) (by omega) h]
  have hz6 := hz.2.2.1
  refine ⟨?_, ?_, ?_, ?_, fun l hl => ?_, ?_, fun a ha => ?_, ?_, ?_, fun l hl => ?_, ?_, ?_, t13, ?_, ?_⟩
  · rw [q4, hee 0 (by decide) (by decide) (by decide) (by decide)]; exact t1
  · rw [q4, hee 1 (by decide) (by decide) (by decide) (by decide)]; exact t2
  · rw [hee 2 (by decide) (by decide) (by decide) (by decide)]; exact t3
  · rw [hee 3 (by decide) (by decide) (by decide) (by decide)]; exact t4
  · rw [e8] at hl
    by_cases c : l = n
    · rw [c, lawE_6, lawE_15, h6 4 (by decide), if_pos rfl, if_neg (by decide)]
      exact ⟨rfl, rfl⟩
    · rw [hex 6 l c, hex 15 l c]
      exact t5 l (by omega)
  · rw [q10]
    intro k hk
    unfold DuX
    rw [hee 16 (by decide) (by decide) (by decide) (by decide)]
    exact t6 k hk
  · rw [q6] at ha
    rw [hee (10 + a) (by omega) (by omega) (by omega) (by omega)]
    exact t7 a ha
  · rw [q4]; exact t8
  · rw [q4]; exact t9
  · rw [e8] at hl
    by_cases c : l = n
    · subst c
      have l0 : lawv σ l 0 = nI 0 := h6 0 (by decide)
      refine ⟨Or.inl l0, fun _ => lawE_4, fun z => ?_, fun _ => lawE_5, fun z => ?_, fun k hk => ?_⟩
      · rw [l0] at z
        rcases z with z | z | z <;> exact absurd z (by decide)
      · rw [l0] at z
        exact absurd z (by decide)
      · rw [lawE_4, lawE_5, hb k hk l (Nat.le_refl _) hn9]
        constructor
        · intro z; exact absurd z (by decide)
        · intro z; simp [WasB] at z
    · unfold HiX
      rw [hex 4 l c, hex 5 l c]
      exact t10 l (by omega)
  · rw [hee 7 (by decide) (by decide) (by decide) (by decide)]; exact t11
  · rw [q4]; exact t12
  · rw [q6]; exact t14
  · unfold GhX
    rw [q6, q10, hee 16 (by decide) (by decide) (by decide) (by decide)]
    refine ⟨fun a ha => ?_, fun k hk => ?_⟩
    · rw [eo 60 a (by decide)]; exact t15.1 a ha
    · rw [eo 61 k (by decide), eo 62 k (by decide)]; exact t15.2 k hk
/-- a memory of the class, seen with other laws' codes -/
theorem SX.cgD {g : GP} {P : Nat → Prop} {F : Mem} {A : XA} {w : Nat} {S : Nat → Nat → Nat} {b : XS} {σ σ1 : MS} {e : XE} {M : Mem} (h : SX g P F A w S b σ e M) (hr : ∀ j, mapR j → row σ1 j = row σ j) (ha : ∀ a, a ≠ 1 → a ≠ 2 → a ≠ 13 → a ≠ 14 → a ≠ 8 → a ≠ 9 → a ≠ 10 → a ≠ 11 → σ1.2.1 a = σ.2.1 a) (hf : ∀ x, x = 9 ∨ x = 13 ∨ x = 29 ∨ x = 28 ∨ x = 31 ∨ x = 23 ∨ x = 24 ∨ x = 7 → σ1.1 x = σ.1 x) (hl : σ1.2.2 = σ.2.2) (hd : ∀ dn, DnX σ (S 8 w) dn → DnX σ1 (S 8 w) dn) : SX g P F A w S b σ1 e M := by
  obtain ⟨τ, dn, fl, hR, hz, hfl, hdn⟩ := h
  exact ⟨τ, dn, fl, by rw [VX_law hz hr ha hf, hl]; exact hR, hz, hfl.cg (ha 5 (by decide) (by decide) (by decide) (by decide) (by decide) (by decide) (by decide) (by decide)) (ha 6 (by decide) (by decide) (by decide) (by decide) (by decide) (by decide) (by decide) (by decide)), hd dn hdn⟩
