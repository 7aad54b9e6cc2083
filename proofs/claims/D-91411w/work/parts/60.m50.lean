set_option maxRecDepth 100000
theorem SamL.FF {l j : Nat} {v : Int32} {σ σ1 : MS} (h : SamL l σ σ1) : SamL l (sF σ j v) (sF σ1 j v) := ⟨fun q hq => by
  show upd σ1.1 j v q = upd σ.1 j v q
  unfold upd
  split
  · rfl
  · exact h.1 q hq, h.2⟩
theorem Txt.ofL {σ σ1 : MS} {n l : Nat} {B : Nat → Nat} (t : Txt σ n B) (h : SamL l σ σ1) : Txt σ1 n B := ⟨(h.1 10 (by omega)).trans t.1, t.2.1, fun k hk => by rw [h.2.1 7 (by decide) (by decide) (by decide) (by decide)]; exact t.2.2.1 k hk, t.2.2.2⟩
theorem PR.self {n l c p o : Nat} {L : List Cd} {σ0 σ : MS} (h : PR n l c σ0 (.inr (p, o, L)) σ) : PR n l c σ (.inr (p, o, L)) σ := by
  obtain ⟨-, a1, a2, a3, a4, a5, a6, a7, a8, a9⟩ := h
  exact ⟨Sam.rf, a1, a2, a3, a4, a5, rfl, a7, a8, a9⟩
abbrev LA : Type := Nat → Option (List Cd)
def updA (A : LA) : ((Nat × List Cd) ⊕ Bool) → LA
  | .inl (k, LE) => fun j => if j = k then some LE else A j
  | .inr _ => A
def updF (fb : Bool) : ((Nat × List Cd) ⊕ Bool) → Bool
  | .inl _ => fb
  | .inr b => b
/-- a law's text: clauses, ten at most -/
noncomputable def lawP (B : Nat → Nat) (n : Nat) : Nat → Nat → LA → Bool → (Nat × Nat) ⊕ (LA × Bool)
  | 0, p, A, fb => if p < n then .inl (if isCl B (sk B n p) = true then 3 else 1, sk B n p) else .inr (A, fb)
  | j + 1, p, A, fb => if p < n then (match clauseP B n p with
      | .inl e => .inl e
      | .inr (p2, x) => lawP B n j (sk B n p2) (updA A x) (updF fb x)) else .inr (A, fb)
/-- what is told so far -/
def LawI (l : Nat) (L : List Cd) (A : LA) (fb : Bool) (σ : MS) : Prop := (∀ k, k < 8 → (A k = none → σ.2.1 10 (8 * l + k) = -1) ∧ ∀ LE, A k = some LE → ∃ m, σ.2.1 10 (8 * l + k) = nI m ∧ m + LE.length ≤ L.length ∧ ∀ i, i < LE.length → LE.getD i (0, 0) = L.getD (m + i) (0, 0)) ∧ σ.2.1 11 l = bI fb
/-- a law in the model's numbers -/
def LawM (l : Nat) (A : LA) (fb : Bool) (σ : MS) : Prop := (∀ k, k < 8 → (A k = none → σ.2.1 10 (8 * l + k) = -1) ∧ ∀ LE, A k = some LE → ∃ m, σ.2.1 10 (8 * l + k) = nI m ∧ m + LE.length ≤ 300 ∧ ∀ i, i < LE.length → σ.2.1 8 (400 * l + m + i) = nI (LE.getD i (0, 0)).1 ∧ σ.2.1 9 (400 * l + m + i) = (LE.getD i (0, 0)).2) ∧ σ.2.1 11 l = bI fb
theorem getD_app {L L2 : List Cd} {i : Nat} (h : i < L.length) : (L ++ L2).getD i (0, 0) = L.getD i (0, 0) := by
  simp only [List.getD]
  rw [List.getElem?_append_left h]
theorem getD_app2 {L L2 : List Cd} {i : Nat} : (L ++ L2).getD (L.length + i) (0, 0) = L2.getD i (0, 0) := by
  simp only [List.getD]
  rw [List.getElem?_append_right (by omega)]
  congr 2
  omega
theorem LawI.step {n l p2 : Nat} {L : List Cd} {A : LA} {fb : Bool} {σ σ1 : MS} {x : (Nat × List Cd) ⊕ Bool} (h : LawI l L A fb σ) (hp : PR n l 0 (effS σ l L.length x) (.inr (p2, 0, L ++ LEof x)) σ1) (hk : ∀ k LE, x = .inl (k, LE) → k < 8) : LawI l (L ++ LEof x) (updA A x) (updF fb x) σ1 := by
  have e10 := hp.1.2.1 10 (by decide) (by decide)
  have e11 := hp.1.2.1 11 (by decide) (by decide)
  rcases x with ⟨k, LE⟩ | b
  · have h9 : ∀ j, σ1.2.1 10 j = if j = 8 * l + k then nI L.length else σ.2.1 10 j := fun j => by rw [e10]; simp [effS, sA, upd]
    refine ⟨fun j hj => ⟨fun e => ?_, fun LE2 e => ?_⟩, ?_⟩
    · rw [h9]
      have e2 : (if j = k then some LE else A j) = none := e
      split at e2
      · cases e2
      · rename_i hne
        rw [if_neg (by omega)]
        exact (h.1 j hj).1 e2
    · rw [h9]
      have e2 : (if j = k then some LE else A j) = some LE2 := e
      split at e2
      · rename_i he
        cases e2
        subst he
        rw [if_pos rfl]
        exact ⟨L.length, rfl, by simp [LEof], fun i hi => getD_app2.symm⟩
      · rename_i hne
        rw [if_neg (by omega)]
        obtain ⟨m, a, b, c⟩ := (h.1 j hj).2 LE2 e2
        exact ⟨m, a, by simp; omega, fun i hi => (c i hi).trans (getD_app (by omega)).symm⟩
    · rw [e11]; exact h.2
  · have h9 : ∀ j, σ1.2.1 10 j = σ.2.1 10 j := fun j => by rw [e10]; rfl
    refine ⟨fun j hj => ⟨fun e => ?_, fun LE2 e => ?_⟩, ?_⟩
    · rw [h9]; exact (h.1 j hj).1 e
    · rw [h9]
      obtain ⟨m, a, b, c⟩ := (h.1 j hj).2 LE2 e
      exact ⟨m, a, by simp; omega, fun i hi => (c i hi).trans (getD_app (by omega)).symm⟩
    · rw [e11]; show upd (σ.2.1 11) l (bI b) l = _; simp [upd, updF]
theorem LawI.end {n l p : Nat} {L : List Cd} {A : LA} {fb : Bool} {σ σ0 : MS} (h : LawI l L A fb σ) (hp : PR n l 0 σ0 (.inr (p, 0, L)) σ) (hn : n ≤ 300) : LawM l A fb σ := by
  obtain ⟨-, a1, a2, a3, a4, a5, a6, a7, a8, a9⟩ := hp
  refine ⟨fun k hk => ⟨(h.1 k hk).1, fun LE e => ?_⟩, h.2⟩
  obtain ⟨m, b1, b2, b3⟩ := (h.1 k hk).2 LE e
  refine ⟨m, b1, by omega, fun i hi => ?_⟩
  rw [b3 i hi]
  have := a9 (m + i) (by omega)
  rw [show 400 * l + 0 + (m + i) = 400 * l + m + i by omega] at this
  exact this
theorem clauseP_k {B : Nat → Nat} {n p p2 k : Nat} {LE : List Cd} (h : clauseP B n p = .inr (p2, .inl (k, LE))) : k < 8 := by
  unfold clauseP at h
  cases hf : firstW B nameW (sk B n p) 8 0 with
  | some k9 =>
    rw [hf] at h
    have h2 : nameC k9 (nameP B n (sk B n p + (nameW k9).length) 0) = .inr (p2, .inl (k, LE)) := h
    have := firstW_lt _ _ _ hf
    unfold nameC at h2
    split at h2
    · cases h2; omega
    · cases h2
    · cases h2
  | none =>
    rw [hf] at h
    have h2 : (if isW B (sk B n p) wUndo = true then (if isW B (sk B n (sk B n p + 4)) wFall = true then undoP B n (sk B n (sk B n p + 4) + 4) true else if isW B (sk B n (sk B n p + 4)) wStand = true then undoP B n (sk B n (sk B n p + 4) + 5) false else .inl (1, sk B n (sk B n p + 4))) else .inl (1, sk B n p) : CR) = .inr (p2, .inl (k, LE)) := h
    have hu : ∀ p b, undoP B n p b ≠ .inr (p2, .inl (k, LE)) := by
      intro p b z
      unfold undoP at z
      split at z <;> cases z
    split at h2
    · split at h2
      · exact absurd h2 (hu _ _)
      · split at h2
        · exact absurd h2 (hu _ _)
        · cases h2
    · cases h2
def A0 : LA := fun _ => none
/-- how the model's law answers -/
def LawR (B : Nat → Nat) (n l : Nat) (σb : MS) : (Nat × Nat) ⊕ (LA × Bool) → Int32 → MS → Prop
  | .inl (k, w), v, σ1 => v = nI k - nI 10 ∧ 0 < k ∧ k < 4 ∧ SamL l σb σ1 ∧ σ1.1 13 = nI w
  | .inr (A, fb), v, σ1 => v = nI l ∧ ∃ σp, σ1 = sR σp 2125 (nI (l + 1)) ∧ SamL l σb σp ∧ σp.1 13 = -1 ∧ LawM l A fb σp
def lawB (σ : MS) (n l : Nat) : MS := sF (sF (sF (s0 σ) 10 (nI n)) 9 (nI 0)) 16 (nI l)
/-- where the reading begins -/
theorem law_start {σ : MS} {n l : Nat} : ∃ f : MS → Prop, True := ⟨fun _ => True, trivial⟩
set_option maxHeartbeats 800000 in
theorem w_X9_law {g : GP} {μ : Mem} {d : Nat} (hd : 73 ≤ d) {ad : Nat → Nat} {σ : MS} {n l t : Nat} {B : Nat → Nat} (hA : Inj ad 18) (tx : Txt (sF σ 10 (nI n)) n B) (ht : σ.1 9 = nI t) (ht3 : t ≤ 300) (hnt : n ≤ t) (hl : row σ 2125 = nI l) (hl2 : l < 12) : PM g yX9_law (ws_ yX9_law cX9_law 3 (some .int)) d 0 0 [.ref (ad 0), .int (nI n)] (mm g ad μ σ) (fun o M => ∃ v σ1, o = .inl (some (.int v)) ∧ M = mm g ad μ σ1 ∧ LawR B n l (lawB σ n l) (lawP B n 10 (sk B n 0) A0 false) v σ1) := by
  have hB := tx.2.2.2.2
  have hn3 := tx.2.1
  have hBy := tx.2.2.2.1
  have txb : Txt (lawB σ n l) n B := ⟨rfl, tx.2.1, tx.2.2⟩
  have hlb : row (lawB σ n l) 2125 = nI l := hl
  refine PM.of (by decide +kernel) (Nat.le_of_ble_eq_true rfl) ?_
  refine PJ.ok (fun G => ?_)
  have bad : ∀ (i : Nat) (σ9 : MS) (k w : Nat), SamL l (lawB σ n l) σ9 → σ9.1 12 = nI k → 0 < k → k < 4 → σ9.1 13 = nI w → lawP B n 10 (sk B n 0) A0 false = .inl (k, w) → PJ g yX9_law.cls cX9_law 3 (some .int, yX9_law.name, []) d 0 0 139 [(2, .int (nI i)), (1, .int (nI n)), (0, .ref (ad 0))] [] (mm g ad μ σ9) (fun o M => ∃ v σ1, o = .inl (some (.int v)) ∧ M = mm g ad μ σ1 ∧ LawR B n l (lawB σ n l) (lawP B n 10 (sk B n 0) A0 false) v σ1) := by
    intro i σ9 k w hS e12 k0 k4 e13 hP
    refine pl_aload_n (pc := 139) dX9_law_139 rfl rfl ?_
    refine pj_getf (pc := 140) ckX9 12 q2528 dX9_law_140 (by decide) (mm_o hA) rfl ?_
    refine PJ.top (y := nI _) (e12) ?_
    refine pl_if_neN (pc := 143) (tgt := 200) dX9_law_143 (by decide) (by omega) (fun c143 => ?_) (fun c143 => ?_)
    · refine pl_aload_n (pc := 200) dX9_law_200 rfl rfl ?_
      refine pj_getf (pc := 201) ckX9 12 q2528 dX9_law_201 (by decide) (mm_o hA) rfl ?_
      refine PJ.top (y := nI _) (e12) ?_
      refine pl_if_leN (pc := 204) (tgt := 215) dX9_law_204 (by decide) (by omega) (fun c204 => ?_) (fun c204 => ?_)
      · exact absurd c204 (by omega)
      · refine pl_aload_n (pc := 207) dX9_law_207 rfl rfl ?_
        refine pj_getf (pc := 208) ckX9 12 q2528 dX9_law_208 (by decide) (mm_o hA) rfl ?_
        refine PJ.top (y := nI _) (e12) ?_
        refine pl_bipush (pc := 211) (v := 10) dX9_law_211 (by rfl) ?_
        refine pj_isub (pc := 213) dX9_law_213 ?_
        refine pj_iret (pc := 214) dX9_law_214 rfl ?_
        exact ⟨_, σ9, rfl, rfl, by rw [hP]; exact ⟨rfl, k0, k4, hS, e13⟩⟩
    · exact absurd c143 (by omega)
  have key : ∀ (j i p : Nat) (A : LA) (fb : Bool) (L : List Cd) (σ9 : MS), i + j = 10 → SamL l (lawB σ n l) σ9 → PR n l 0 σ9 (.inr (p, 0, L)) σ9 → σ9.1 13 = -1 → LawI l L A fb σ9 → lawP B n 10 (sk B n 0) A0 false = lawP B n j p A fb → PJ g yX9_law.cls cX9_law 3 (some .int, yX9_law.name, []) d 0 0 139 [(2, .int (nI i)), (1, .int (nI n)), (0, .ref (ad 0))] [] (mm g ad μ σ9) (fun o M => ∃ v σ1, o = .inl (some (.int v)) ∧ M = mm g ad μ σ1 ∧ LawR B n l (lawB σ n l) (lawP B n 10 (sk B n 0) A0 false) v σ1) := by
    intro j
    induction j with
    | zero =>
      intro i p A fb L σ9 hij hS h e13 hI hP
      obtain ⟨hp, -, hcL⟩ := h.le p 0 L rfl
      have hq := sk_in (B := B) hp
      have hss := sk_sk (p := p) hB
      have tx0 := txb.ofL hS
      have hl9 : σ9.1 16 = nI l := hS.1 16 (by omega)
      have hrow : row σ9 2125 = nI l := by
        show σ9.2.1 1 2125 = _
        rw [hS.2.1 1 (by decide) (by decide) (by decide) (by decide)]
        exact hlb
      obtain ⟨-, -, -, -, h4, h5, -⟩ := id h
      have hi : i = 10 := by omega
      subst hi
      refine pl_aload_n (pc := 139) dX9_law_139 rfl rfl ?_
      refine pj_getf (pc := 140) ckX9 12 q2528 dX9_law_140 (by decide) (mm_o hA) rfl ?_
      refine PJ.top (y := nI 0) h5 ?_
      refine pj_if_ne (pc := 143) (tgt := 200) dX9_law_143 (by decide) (fun h => absurd h (by decide)) (fun _ => ?_)
      refine pl_aload_n (pc := 146) dX9_law_146 rfl rfl ?_
      refine pj_getf (pc := 147) ckX9 11 q2527 dX9_law_147 (by decide) (mm_o hA) rfl ?_
      refine PJ.top (y := nI p) h4 ?_
      refine pl_aload_n (pc := 150) dX9_law_150 rfl rfl ?_
      refine pj_getf (pc := 151) ckX9 10 q2526 dX9_law_151 (by decide) (mm_o hA) rfl ?_
      refine PJ.top (y := nI n) tx0.1 ?_
      refine pl_icmp_ge (pc := 154) (tgt := 200) dX9_law_154 (by decide) (by omega) (by omega) (fun c154 => ?_) (fun c154 => ?_)
      · refine pl_aload_n (pc := 200) dX9_law_200 rfl rfl ?_
        refine pj_getf (pc := 201) ckX9 12 q2528 dX9_law_201 (by decide) (mm_o hA) rfl ?_
        refine PJ.top (y := nI 0) h5 ?_
        refine pj_if_le (pc := 204) (tgt := 215) dX9_law_204 (by decide) (fun _ => ?_) (fun h => absurd h (by decide))
        refine pl_aload_n (pc := 215) dX9_law_215 rfl rfl ?_
        refine pj_getf (pc := 216) ckX9 1 q2517 dX9_law_216 (by decide) (mm_o hA) rfl ?_
        refine pl_sipush (pc := 219) (v := 2125) dX9_law_219 (by rfl) ?_
        refine pj_dup2_11 (pc := 222) dX9_law_222 rfl rfl ?_
        refine pl_iald (pc := 223) (n := 2132) dX9_law_223 (mm_a hA 1 (by decide) (by decide)) (by decide) (by decide) ?_
        refine PJ.top (y := nI _) (hrow) ?_
        refine pl_iconst (pc := 224) (v := 1) dX9_law_224 (by rfl) ?_
        refine pl_iadd (pc := 225) dX9_law_225 ?_
        refine pm_iast (pc := 226) 1 hA (by decide) (by decide) rfl dX9_law_226 (show _ < 2132 by omega) (by decide) ?_
        refine pl_aload_n (pc := 227) dX9_law_227 rfl rfl ?_
        refine pj_getf (pc := 228) ckX9 16 q2532 dX9_law_228 (by decide) (mm_o hA) rfl ?_
        refine PJ.top (y := nI l) hl9 ?_
        refine pj_iret (pc := 231) dX9_law_231 rfl ?_
        refine ⟨_, _, rfl, rfl, ?_⟩
        rw [hP]
        show LawR B n l (lawB σ n l) (if p < n then _ else _) _ _
        rw [if_neg (show ¬ p < n by omega)]
        exact ⟨rfl, σ9, rfl, hS, e13, hI.end h hn3⟩
      · refine pl_iload_n (pc := 157) dX9_law_157 rfl rfl ?_
        refine pl_bipush (pc := 158) (v := 10) dX9_law_158 (by rfl) ?_
        refine pj_icmp_ne (pc := 160) (tgt := 186) dX9_law_160 (by decide) (fun h => absurd h (by decide)) (fun _ => ?_)
        refine pl_aload_n (pc := 163) dX9_law_163 rfl rfl ?_
        refine pl_aload_n (pc := 164) dX9_law_164 rfl rfl ?_
        refine pl_callVEd (pc := 165) (As := []) (C2 := 0) (N2 := 0) ckX9 mdX9_isClause rfl q2812 q2814 qs74 q154 dX9_law_165 rfl rfl (Nat.le_of_ble_eq_true rfl) (mm_o hA) (o_X9_isClause (d := d - 1) (by omega) hA tx0 h) (by omega) (by decide) (by decide) (fun σ h => ?_)
        refine pl_if_eqB (pc := 168) (tgt := 175) dX9_law_168 (by decide) (fun c168 => ?_) (fun c168 => ?_)
        · refine pl_iconst (pc := 175) (v := 1) dX9_law_175 (by rfl) ?_
          refine pl_aload_n (pc := 176) dX9_law_176 rfl rfl ?_
          refine pj_getf (pc := 177) ckX9 11 q2527 dX9_law_177 (by decide) (mm_o hA) rfl ?_
          refine PJ.top (y := nI (sk B n p)) h.2.2.2.2.1 ?_
          refine pl_callVv (pc := 180) (As := [_, _]) (C2 := 0) (N2 := 0) ckX9 mdX9_wrong rfl q2838 q2840 qs77 q154 dX9_law_180 rfl rfl (Nat.le_of_ble_eq_true rfl) (mm_o hA) (w_X9_wrong (d := d - 1) (by omega) hA) (by omega) (by decide) (by decide) ?_
          refine pj_goto (pc := 183) (tgt := 139) dX9_law_183 (by decide) ?_
          have hb := h.bad (k := 1) (w := sk B n p) (by decide) (by decide)
          exact bad 10 _ 1 (sk B n p) (hS.tr hb.1.L) hb.2.2.2.1 (by decide) (by decide) hb.2.2.2.2.1 (by
            rw [hP]
            show (if p < n then _ else _ : (Nat × Nat) ⊕ (LA × Bool)) = _
            rw [if_pos c154, if_neg (by rw [c168]; decide)])
        · refine pl_iconst (pc := 171) (v := 3) dX9_law_171 (by rfl) ?_
          refine pj_goto (pc := 172) (tgt := 176) dX9_law_172 (by decide) ?_
          refine pl_aload_n (pc := 176) dX9_law_176 rfl rfl ?_
          refine pj_getf (pc := 177) ckX9 11 q2527 dX9_law_177 (by decide) (mm_o hA) rfl ?_
          refine PJ.top (y := nI (sk B n p)) h.2.2.2.2.1 ?_
          refine pl_callVv (pc := 180) (As := [_, _]) (C2 := 0) (N2 := 0) ckX9 mdX9_wrong rfl q2838 q2840 qs77 q154 dX9_law_180 rfl rfl (Nat.le_of_ble_eq_true rfl) (mm_o hA) (w_X9_wrong (d := d - 1) (by omega) hA) (by omega) (by decide) (by decide) ?_
          refine pj_goto (pc := 183) (tgt := 139) dX9_law_183 (by decide) ?_
          have hb := h.bad (k := 3) (w := sk B n p) (by decide) (by decide)
          exact bad 10 _ 3 (sk B n p) (hS.tr hb.1.L) hb.2.2.2.1 (by decide) (by decide) hb.2.2.2.2.1 (by
            rw [hP]
            show (if p < n then _ else _ : (Nat × Nat) ⊕ (LA × Bool)) = _
            rw [if_pos c154, if_pos c168])
    | succ j ih =>
      intro i p A fb L σ9 hij hS h e13 hI hP
      obtain ⟨hp, -, hcL⟩ := h.le p 0 L rfl
      have hq := sk_in (B := B) hp
      have hss := sk_sk (p := p) hB
      have tx0 := txb.ofL hS
      have hl9 : σ9.1 16 = nI l := hS.1 16 (by omega)
      have hrow : row σ9 2125 = nI l := by
        show σ9.2.1 1 2125 = _
        rw [hS.2.1 1 (by decide) (by decide) (by decide) (by decide)]
        exact hlb
      obtain ⟨-, -, -, -, h4, h5, -⟩ := id h
      refine pl_aload_n (pc := 139) dX9_law_139 rfl rfl ?_
      refine pj_getf (pc := 140) ckX9 12 q2528 dX9_law_140 (by decide) (mm_o hA) rfl ?_
      refine PJ.top (y := nI 0) h5 ?_
      refine pj_if_ne (pc := 143) (tgt := 200) dX9_law_143 (by decide) (fun h => absurd h (by decide)) (fun _ => ?_)
      refine pl_aload_n (pc := 146) dX9_law_146 rfl rfl ?_
      refine pj_getf (pc := 147) ckX9 11 q2527 dX9_law_147 (by decide) (mm_o hA) rfl ?_
      refine PJ.top (y := nI p) h4 ?_
      refine pl_aload_n (pc := 150) dX9_law_150 rfl rfl ?_
      refine pj_getf (pc := 151) ckX9 10 q2526 dX9_law_151 (by decide) (mm_o hA) rfl ?_
      refine PJ.top (y := nI n) tx0.1 ?_
      refine pl_icmp_ge (pc := 154) (tgt := 200) dX9_law_154 (by decide) (by omega) (by omega) (fun c154 => ?_) (fun c154 => ?_)
      · refine pl_aload_n (pc := 200) dX9_law_200 rfl rfl ?_
        refine pj_getf (pc := 201) ckX9 12 q2528 dX9_law_201 (by decide) (mm_o hA) rfl ?_
        refine PJ.top (y := nI 0) h5 ?_
        refine pj_if_le (pc := 204) (tgt := 215) dX9_law_204 (by decide) (fun _ => ?_) (fun h => absurd h (by decide))
        refine pl_aload_n (pc := 215) dX9_law_215 rfl rfl ?_
        refine pj_getf (pc := 216) ckX9 1 q2517 dX9_law_216 (by decide) (mm_o hA) rfl ?_
        refine pl_sipush (pc := 219) (v := 2125) dX9_law_219 (by rfl) ?_
        refine pj_dup2_11 (pc := 222) dX9_law_222 rfl rfl ?_
        refine pl_iald (pc := 223) (n := 2132) dX9_law_223 (mm_a hA 1 (by decide) (by decide)) (by decide) (by decide) ?_
        refine PJ.top (y := nI _) (hrow) ?_
        refine pl_iconst (pc := 224) (v := 1) dX9_law_224 (by rfl) ?_
        refine pl_iadd (pc := 225) dX9_law_225 ?_
        refine pm_iast (pc := 226) 1 hA (by decide) (by decide) rfl dX9_law_226 (show _ < 2132 by omega) (by decide) ?_
        refine pl_aload_n (pc := 227) dX9_law_227 rfl rfl ?_
        refine pj_getf (pc := 228) ckX9 16 q2532 dX9_law_228 (by decide) (mm_o hA) rfl ?_
        refine PJ.top (y := nI l) hl9 ?_
        refine pj_iret (pc := 231) dX9_law_231 rfl ?_
        refine ⟨_, _, rfl, rfl, ?_⟩
        rw [hP]
        show LawR B n l (lawB σ n l) (if p < n then _ else _) _ _
        rw [if_neg (show ¬ p < n by omega)]
        exact ⟨rfl, σ9, rfl, hS, e13, hI.end h hn3⟩
      · refine pl_iload_n (pc := 157) dX9_law_157 rfl rfl ?_
        refine pl_bipush (pc := 158) (v := 10) dX9_law_158 (by rfl) ?_
        refine pl_icmp_ne (pc := 160) (tgt := 186) dX9_law_160 (by decide) (by omega) (by omega) (fun c160 => ?_) (fun c160 => ?_)
        · refine pl_aload_n (pc := 186) dX9_law_186 rfl rfl ?_
          refine pl_callVEv (pc := 187) (As := []) (C2 := 0) (N2 := 0) ckX9 mdX9_clause rfl q2842 q2844 qs78 q154 dX9_law_187 rfl rfl (Nat.le_of_ble_eq_true rfl) (mm_o hA) (w_X9_clause (d := d - 1) (by omega) hA tx0 hl9 hl2 h) (by omega) (by decide) (by decide) (fun σ8 h8 => ?_)
          rcases hcl : clauseP B n p with ⟨k9, w9⟩ | ⟨p2, x⟩
          · rw [hcl] at h8
            obtain ⟨σe, hS2, h8⟩ := h8
            refine pl_iinc1 (pc := 190) (lv' := [(2, _), (1, _), (0, _)]) dX9_law_190 rfl rfl (by decide) rfl ?_
            refine pl_aload_n (pc := 193) dX9_law_193 rfl rfl ?_
            refine pl_callVEv (pc := 194) (As := []) (C2 := 0) (N2 := 0) ckX9 mdX9_blanks rfl q2804 q2806 qs72 q154 dX9_law_194 rfl rfl (Nat.le_of_ble_eq_true rfl) (mm_o hA) (R_blanks (d := d - 1) (by omega) hA (tx0.ofL hS2) h8) (by omega) (by decide) (by decide) (fun σ7 h7 => ?_)
            refine pj_goto (pc := 197) (tgt := 139) dX9_law_197 (by decide) ?_
            exact bad (i + 1) σ7 k9 w9 ((hS.tr hS2).tr h7.1.L) h7.2.2.2.1 h7.2.1 h7.2.2.1 h7.2.2.2.2.1 (by
              rw [hP]
              show (if p < n then _ else _ : (Nat × Nat) ⊕ (LA × Bool)) = _
              rw [if_pos c154, hcl])
          · rw [hcl] at h8
            have h8 : PR n l 0 (effS σ9 l L.length x) (.inr (p2, 0, L ++ LEof x)) σ8 := h8
            have hk9 : ∀ k LE, x = .inl (k, LE) → k < 8 := fun k LE e => by subst e; exact clauseP_k hcl
            have hSe : SamL l σ9 (effS σ9 l L.length x) := by
              rcases x with ⟨k, LE⟩ | b
              · exact SamL.A10 (hk9 k LE rfl)
              · exact SamL.A11
            have hSe13 : (effS σ9 l L.length x).1 13 = σ9.1 13 := by
              rcases x with ⟨k, LE⟩ | b <;> rfl
            have txe := tx0.ofL hSe
            refine pl_iinc1 (pc := 190) (lv' := [(2, _), (1, _), (0, _)]) dX9_law_190 rfl rfl (by decide) rfl ?_
            refine pl_aload_n (pc := 193) dX9_law_193 rfl rfl ?_
            refine pl_callVEv (pc := 194) (As := []) (C2 := 0) (N2 := 0) ckX9 mdX9_blanks rfl q2804 q2806 qs72 q154 dX9_law_194 rfl rfl (Nat.le_of_ble_eq_true rfl) (mm_o hA) (R_blanks (d := d - 1) (by omega) hA txe h8) (by omega) (by decide) (by decide) (fun σ7 h7 => ?_)
            refine pj_goto (pc := 197) (tgt := 139) dX9_law_197 (by decide) ?_
            have h7 : PR n l 0 (effS σ9 l L.length x) (.inr (sk B n p2, 0, L ++ LEof x)) σ7 := h7
            refine ih (i + 1) (sk B n p2) (updA A x) (updF fb x) (L ++ LEof x) σ7 (by omega) ((hS.tr hSe).tr h7.1.L) h7.self ?_ (hI.step h7 hk9) ?_
            · obtain ⟨-, -, -, -, -, -, a6, -⟩ := h7
              rw [a6, hSe13]
              exact e13
            · rw [hP]
              show (if p < n then _ else _ : (Nat × Nat) ⊕ (LA × Bool)) = _
              rw [if_pos c154, hcl]
        · exact absurd c160 (by omega)
  have hgo : ∀ σi : MS, SamL l (lawB σ n l) σi → PR n l 0 σi (.inr (0, 0, [])) σi → σi.1 13 = -1 → LawI l [] A0 false σi → PJ g yX9_law.cls cX9_law 3 (some .int, yX9_law.name, []) d 0 0 135 [(2, .int (nI 0)), (1, .int (nI n)), (0, .ref (ad 0))] [] (mm g ad μ σi) (fun o M => ∃ v σ1, o = .inl (some (.int v)) ∧ M = mm g ad μ σ1 ∧ LawR B n l (lawB σ n l) (lawP B n 10 (sk B n 0) A0 false) v σ1) := by
    intro σi hS hi e13 hI
    have txi := txb.ofL hS
    refine pl_aload_n (pc := 135) dX9_law_135 rfl rfl ?_
    refine pl_callVEv (pc := 136) (As := []) (C2 := 0) (N2 := 0) ckX9 mdX9_blanks rfl q2804 q2806 qs72 q154 dX9_law_136 rfl rfl (Nat.le_of_ble_eq_true rfl) (mm_o hA) (R_blanks (d := d - 1) (by omega) hA txi hi) (by omega) (by decide) (by decide) (fun σ7 h7 => ?_)
    have h7 : PR n l 0 σi (.inr (sk B n 0, 0, [])) σ7 := h7
    refine key 10 0 (sk B n 0) A0 false [] σ7 rfl (hS.tr h7.1.L) h7.self (by obtain ⟨-, -, -, -, -, -, a6, -⟩ := h7; rw [a6]; exact e13) ?_ rfl
    have e10 := h7.1.2.1 10 (by decide) (by decide)
    have e11 := h7.1.2.1 11 (by decide) (by decide)
    exact ⟨fun k hk => ⟨fun e => by rw [e10]; exact (hI.1 k hk).1 e, fun LE e => (by cases e)⟩, by rw [e11]; exact hI.2⟩
  show PJ g _ _ _ _ d 0 0 0 [(0, .ref (ad 0)), (1, .int (nI n))] [] _ _
  refine pl_aload_n (pc := 0) dX9_law_0 rfl rfl ?_
  refine pl_iconst (pc := 1) (v := 0) dX9_law_1 (by rfl) ?_
  refine pm_putI (pc := 2) 0 hA q2516 dX9_law_2 (by decide) rfl (by rfl) (by rfl) rfl ?_
  refine pl_aload_n (pc := 5) dX9_law_5 rfl rfl ?_
  refine pl_iload_n (pc := 6) dX9_law_6 rfl rfl ?_
  refine pl_if_ltN (pc := 7) dX9_law_7 ⟨18, by decide⟩ (by omega) ?_
  refine pl_iload_n (pc := 10) dX9_law_10 rfl rfl ?_
  refine pl_aload_n (pc := 11) dX9_law_11 rfl rfl ?_
  refine pj_getf (pc := 12) ckX9 9 q2525 dX9_law_12 (by decide) (mm_o hA) rfl ?_
  refine PJ.top (y := nI _) (ht) ?_
  refine pl_icmp_le (pc := 15) (tgt := 22) dX9_law_15 (by decide) (by omega) (by omega) (fun c15 => ?_) (fun c15 => ?_)
  · refine pl_iconst (pc := 22) (v := 0) dX9_law_22 (by rfl) ?_
    refine pl_iconst (pc := 23) (v := 1) dX9_law_23 (by rfl) ?_
    refine pl_callVd (pc := 24) (As := [_, _]) (C2 := 0) (N2 := 0) ckX9 mdX9_bad rfl q2631 q2633 qs50 q154 dX9_law_24 rfl rfl (Nat.le_of_ble_eq_true rfl) (mm_o hA) (w_bad_0 (d := d - 1) (by omega) hA) (by omega) (by decide) (by decide) ?_
    refine pj_if_eq (pc := 27) (tgt := 32) dX9_law_27 (by decide) (fun _ => ?_) (fun h => absurd h (by decide))
    refine pl_aload_n (pc := 32) dX9_law_32 rfl rfl ?_
    refine pl_iload_n (pc := 33) dX9_law_33 rfl rfl ?_
    refine pm_putI (pc := 34) 10 hA q2526 dX9_law_34 (by decide) rfl (by rfl) (by rfl) rfl ?_
    refine pl_aload_n (pc := 37) dX9_law_37 rfl rfl ?_
    refine pl_iconst (pc := 38) (v := 0) dX9_law_38 (by rfl) ?_
    refine pm_putI (pc := 39) 9 hA q2525 dX9_law_39 (by decide) rfl (by rfl) (by rfl) rfl ?_
    refine pl_aload_n (pc := 42) dX9_law_42 rfl rfl ?_
    refine pj_getf (pc := 43) ckX9 1 q2517 dX9_law_43 (by decide) (mm_o hA) rfl ?_
    refine pl_sipush (pc := 46) (v := 2125) dX9_law_46 (by rfl) ?_
    refine pl_iald (pc := 49) (n := 2132) dX9_law_49 (mm_a hA 1 (by decide) (by decide)) (by decide) (by decide) ?_
    refine PJ.top (y := nI _) (hl) ?_
    refine pl_bipush (pc := 50) (v := 12) dX9_law_50 (by rfl) ?_
    refine pl_icmp_ne (pc := 52) (tgt := 57) dX9_law_52 (by decide) (by omega) (by omega) (fun c52 => ?_) (fun c52 => ?_)
    · refine pl_aload_n (pc := 57) dX9_law_57 rfl rfl ?_
      refine pl_iconst (pc := 58) (v := 0) dX9_law_58 (by rfl) ?_
      refine pm_putI (pc := 59) 11 hA q2527 dX9_law_59 (by decide) rfl (by rfl) (by rfl) rfl ?_
      refine pl_aload_n (pc := 62) dX9_law_62 rfl rfl ?_
      refine pl_iconst (pc := 63) (v := 0) dX9_law_63 (by rfl) ?_
      refine pm_putI (pc := 64) 12 hA q2528 dX9_law_64 (by decide) rfl (by rfl) (by rfl) rfl ?_
      refine pl_aload_n (pc := 67) dX9_law_67 rfl rfl ?_
      refine pj_iconst (pc := 68) (v := (-1)) dX9_law_68 (by rfl) ?_
      refine pm_putI (pc := 69) 13 hA q2529 dX9_law_69 (by decide) rfl (by rfl) (by rfl) rfl ?_
      refine pl_aload_n (pc := 72) dX9_law_72 rfl rfl ?_
      refine pl_iconst (pc := 73) (v := 0) dX9_law_73 (by rfl) ?_
      refine pm_putI (pc := 74) 14 hA q2530 dX9_law_74 (by decide) rfl (by rfl) (by rfl) rfl ?_
      refine pl_aload_n (pc := 77) dX9_law_77 rfl rfl ?_
      refine pl_iconst (pc := 78) (v := 0) dX9_law_78 (by rfl) ?_
      refine pm_putI (pc := 79) 15 hA q2531 dX9_law_79 (by decide) rfl (by rfl) (by rfl) rfl ?_
      refine pl_aload_n (pc := 82) dX9_law_82 rfl rfl ?_
      refine pl_aload_n (pc := 83) dX9_law_83 rfl rfl ?_
      refine pj_getf (pc := 84) ckX9 1 q2517 dX9_law_84 (by decide) (mm_o hA) rfl ?_
      refine pl_sipush (pc := 87) (v := 2125) dX9_law_87 (by rfl) ?_
      refine pl_iald (pc := 90) (n := 2132) dX9_law_90 (mm_a hA 1 (by decide) (by decide)) (by decide) (by decide) ?_
      refine PJ.top (y := nI _) (hl) ?_
      refine pm_putI (pc := 91) 16 hA q2532 dX9_law_91 (by decide) rfl (by rfl) (by rfl) rfl ?_
      refine pl_aload_n (pc := 94) dX9_law_94 rfl rfl ?_
      refine pj_getf (pc := 95) ckX9 20 q2536 dX9_law_95 (by decide) (mm_o hA) rfl ?_
      refine pl_aload_n (pc := 98) dX9_law_98 rfl rfl ?_
      refine pj_getf (pc := 99) ckX9 16 q2532 dX9_law_99 (by decide) (mm_o hA) rfl ?_
      refine PJ.top (y := nI l) rfl ?_
      refine pl_iconst (pc := 102) (v := 0) dX9_law_102 (by rfl) ?_
      refine pm_zast (pc := 103) 11 hA (by decide) (by decide) rfl dX9_law_103 (show _ < 12 by omega) (by decide) ?_
      refine pl_iconst (pc := 104) (v := 0) dX9_law_104 (by rfl) ?_
      refine pj_istore_n (pc := 105) (lv' := [(2, _), (0, _), (1, _)]) dX9_law_105 rfl (by decide) rfl ?_
      refine pl_iload_n (pc := 106) dX9_law_106 rfl rfl ?_
      refine pl_bipush (pc := 107) (v := 8) dX9_law_107 (by rfl) ?_
      refine pj_icmp_ge (pc := 109) (tgt := 133) dX9_law_109 (by decide) (fun h => absurd h (by decide)) (fun _ => ?_)
      refine pl_aload_n (pc := 112) dX9_law_112 rfl rfl ?_
      refine pj_getf (pc := 113) ckX9 19 q2535 dX9_law_113 (by decide) (mm_o hA) rfl ?_
      refine pl_bipush (pc := 116) (v := 8) dX9_law_116 (by rfl) ?_
      refine pl_aload_n (pc := 118) dX9_law_118 rfl rfl ?_
      refine pj_getf (pc := 119) ckX9 16 q2532 dX9_law_119 (by decide) (mm_o hA) rfl ?_
      refine PJ.top (y := nI l) rfl ?_
      refine pl_imul (pc := 122) dX9_law_122 ?_
      refine pl_iload_n (pc := 123) dX9_law_123 rfl rfl ?_
      refine pl_iadd (pc := 124) dX9_law_124 ?_
      refine pj_iconst (pc := 125) (v := (-1)) dX9_law_125 (by rfl) ?_
      refine pm_iast (pc := 126) 10 hA (by decide) (by decide) rfl dX9_law_126 (show _ < 96 by omega) (by decide) ?_
      refine pl_iinc (pc := 127) (v := nI 1) (lv' := [(2, _), (0, _), (1, _)]) dX9_law_127 rfl (by rfl) (by decide) rfl ?_
      refine pj_goto (pc := 130) (tgt := 106) dX9_law_130 (by decide) ?_
      refine pl_iload_n (pc := 106) dX9_law_106 rfl rfl ?_
      refine pl_bipush (pc := 107) (v := 8) dX9_law_107 (by rfl) ?_
      refine pj_icmp_ge (pc := 109) (tgt := 133) dX9_law_109 (by decide) (fun h => absurd h (by decide)) (fun _ => ?_)
      refine pl_aload_n (pc := 112) dX9_law_112 rfl rfl ?_
      refine pj_getf (pc := 113) ckX9 19 q2535 dX9_law_113 (by decide) (mm_o hA) rfl ?_
      refine pl_bipush (pc := 116) (v := 8) dX9_law_116 (by rfl) ?_
      refine pl_aload_n (pc := 118) dX9_law_118 rfl rfl ?_
      refine pj_getf (pc := 119) ckX9 16 q2532 dX9_law_119 (by decide) (mm_o hA) rfl ?_
      refine PJ.top (y := nI l) rfl ?_
      refine pl_imul (pc := 122) dX9_law_122 ?_
      refine pl_iload_n (pc := 123) dX9_law_123 rfl rfl ?_
      refine pl_iadd (pc := 124) dX9_law_124 ?_
      refine pj_iconst (pc := 125) (v := (-1)) dX9_law_125 (by rfl) ?_
      refine pm_iast (pc := 126) 10 hA (by decide) (by decide) rfl dX9_law_126 (show _ < 96 by omega) (by decide) ?_
      refine pl_iinc (pc := 127) (v := nI 2) (lv' := [(2, _), (0, _), (1, _)]) dX9_law_127 rfl (by rfl) (by decide) rfl ?_
      refine pj_goto (pc := 130) (tgt := 106) dX9_law_130 (by decide) ?_
      refine pl_iload_n (pc := 106) dX9_law_106 rfl rfl ?_
      refine pl_bipush (pc := 107) (v := 8) dX9_law_107 (by rfl) ?_
      refine pj_icmp_ge (pc := 109) (tgt := 133) dX9_law_109 (by decide) (fun h => absurd h (by decide)) (fun _ => ?_)
      refine pl_aload_n (pc := 112) dX9_law_112 rfl rfl ?_
      refine pj_getf (pc := 113) ckX9 19 q2535 dX9_law_113 (by decide) (mm_o hA) rfl ?_
      refine pl_bipush (pc := 116) (v := 8) dX9_law_116 (by rfl) ?_
      refine pl_aload_n (pc := 118) dX9_law_118 rfl rfl ?_
      refine pj_getf (pc := 119) ckX9 16 q2532 dX9_law_119 (by decide) (mm_o hA) rfl ?_
      refine PJ.top (y := nI l) rfl ?_
      refine pl_imul (pc := 122) dX9_law_122 ?_
      refine pl_iload_n (pc := 123) dX9_law_123 rfl rfl ?_
      refine pl_iadd (pc := 124) dX9_law_124 ?_
      refine pj_iconst (pc := 125) (v := (-1)) dX9_law_125 (by rfl) ?_
      refine pm_iast (pc := 126) 10 hA (by decide) (by decide) rfl dX9_law_126 (show _ < 96 by omega) (by decide) ?_
      refine pl_iinc (pc := 127) (v := nI 3) (lv' := [(2, _), (0, _), (1, _)]) dX9_law_127 rfl (by rfl) (by decide) rfl ?_
      refine pj_goto (pc := 130) (tgt := 106) dX9_law_130 (by decide) ?_
      refine pl_iload_n (pc := 106) dX9_law_106 rfl rfl ?_
      refine pl_bipush (pc := 107) (v := 8) dX9_law_107 (by rfl) ?_
      refine pj_icmp_ge (pc := 109) (tgt := 133) dX9_law_109 (by decide) (fun h => absurd h (by decide)) (fun _ => ?_)
      refine pl_aload_n (pc := 112) dX9_law_112 rfl rfl ?_
      refine pj_getf (pc := 113) ckX9 19 q2535 dX9_law_113 (by decide) (mm_o hA) rfl ?_
      refine pl_bipush (pc := 116) (v := 8) dX9_law_116 (by rfl) ?_
      refine pl_aload_n (pc := 118) dX9_law_118 rfl rfl ?_
      refine pj_getf (pc := 119) ckX9 16 q2532 dX9_law_119 (by decide) (mm_o hA) rfl ?_
      refine PJ.top (y := nI l) rfl ?_
      refine pl_imul (pc := 122) dX9_law_122 ?_
      refine pl_iload_n (pc := 123) dX9_law_123 rfl rfl ?_
      refine pl_iadd (pc := 124) dX9_law_124 ?_
      refine pj_iconst (pc := 125) (v := (-1)) dX9_law_125 (by rfl) ?_
      refine pm_iast (pc := 126) 10 hA (by decide) (by decide) rfl dX9_law_126 (show _ < 96 by omega) (by decide) ?_
      refine pl_iinc (pc := 127) (v := nI 4) (lv' := [(2, _), (0, _), (1, _)]) dX9_law_127 rfl (by rfl) (by decide) rfl ?_
      refine pj_goto (pc := 130) (tgt := 106) dX9_law_130 (by decide) ?_
      refine pl_iload_n (pc := 106) dX9_law_106 rfl rfl ?_
      refine pl_bipush (pc := 107) (v := 8) dX9_law_107 (by rfl) ?_
      refine pj_icmp_ge (pc := 109) (tgt := 133) dX9_law_109 (by decide) (fun h => absurd h (by decide)) (fun _ => ?_)
      refine pl_aload_n (pc := 112) dX9_law_112 rfl rfl ?_
      refine pj_getf (pc := 113) ckX9 19 q2535 dX9_law_113 (by decide) (mm_o hA) rfl ?_
      refine pl_bipush (pc := 116) (v := 8) dX9_law_116 (by rfl) ?_
      refine pl_aload_n (pc := 118) dX9_law_118 rfl rfl ?_
      refine pj_getf (pc := 119) ckX9 16 q2532 dX9_law_119 (by decide) (mm_o hA) rfl ?_
      refine PJ.top (y := nI l) rfl ?_
      refine pl_imul (pc := 122) dX9_law_122 ?_
      refine pl_iload_n (pc := 123) dX9_law_123 rfl rfl ?_
      refine pl_iadd (pc := 124) dX9_law_124 ?_
      refine pj_iconst (pc := 125) (v := (-1)) dX9_law_125 (by rfl) ?_
      refine pm_iast (pc := 126) 10 hA (by decide) (by decide) rfl dX9_law_126 (show _ < 96 by omega) (by decide) ?_
      refine pl_iinc (pc := 127) (v := nI 5) (lv' := [(2, _), (0, _), (1, _)]) dX9_law_127 rfl (by rfl) (by decide) rfl ?_
      refine pj_goto (pc := 130) (tgt := 106) dX9_law_130 (by decide) ?_
      refine pl_iload_n (pc := 106) dX9_law_106 rfl rfl ?_
      refine pl_bipush (pc := 107) (v := 8) dX9_law_107 (by rfl) ?_
      refine pj_icmp_ge (pc := 109) (tgt := 133) dX9_law_109 (by decide) (fun h => absurd h (by decide)) (fun _ => ?_)
      refine pl_aload_n (pc := 112) dX9_law_112 rfl rfl ?_
      refine pj_getf (pc := 113) ckX9 19 q2535 dX9_law_113 (by decide) (mm_o hA) rfl ?_
      refine pl_bipush (pc := 116) (v := 8) dX9_law_116 (by rfl) ?_
      refine pl_aload_n (pc := 118) dX9_law_118 rfl rfl ?_
      refine pj_getf (pc := 119) ckX9 16 q2532 dX9_law_119 (by decide) (mm_o hA) rfl ?_
      refine PJ.top (y := nI l) rfl ?_
      refine pl_imul (pc := 122) dX9_law_122 ?_
      refine pl_iload_n (pc := 123) dX9_law_123 rfl rfl ?_
      refine pl_iadd (pc := 124) dX9_law_124 ?_
      refine pj_iconst (pc := 125) (v := (-1)) dX9_law_125 (by rfl) ?_
      refine pm_iast (pc := 126) 10 hA (by decide) (by decide) rfl dX9_law_126 (show _ < 96 by omega) (by decide) ?_
      refine pl_iinc (pc := 127) (v := nI 6) (lv' := [(2, _), (0, _), (1, _)]) dX9_law_127 rfl (by rfl) (by decide) rfl ?_
      refine pj_goto (pc := 130) (tgt := 106) dX9_law_130 (by decide) ?_
      refine pl_iload_n (pc := 106) dX9_law_106 rfl rfl ?_
      refine pl_bipush (pc := 107) (v := 8) dX9_law_107 (by rfl) ?_
      refine pj_icmp_ge (pc := 109) (tgt := 133) dX9_law_109 (by decide) (fun h => absurd h (by decide)) (fun _ => ?_)
      refine pl_aload_n (pc := 112) dX9_law_112 rfl rfl ?_
      refine pj_getf (pc := 113) ckX9 19 q2535 dX9_law_113 (by decide) (mm_o hA) rfl ?_
      refine pl_bipush (pc := 116) (v := 8) dX9_law_116 (by rfl) ?_
      refine pl_aload_n (pc := 118) dX9_law_118 rfl rfl ?_
      refine pj_getf (pc := 119) ckX9 16 q2532 dX9_law_119 (by decide) (mm_o hA) rfl ?_
      refine PJ.top (y := nI l) rfl ?_
      refine pl_imul (pc := 122) dX9_law_122 ?_
      refine pl_iload_n (pc := 123) dX9_law_123 rfl rfl ?_
      refine pl_iadd (pc := 124) dX9_law_124 ?_
      refine pj_iconst (pc := 125) (v := (-1)) dX9_law_125 (by rfl) ?_
      refine pm_iast (pc := 126) 10 hA (by decide) (by decide) rfl dX9_law_126 (show _ < 96 by omega) (by decide) ?_
      refine pl_iinc (pc := 127) (v := nI 7) (lv' := [(2, _), (0, _), (1, _)]) dX9_law_127 rfl (by rfl) (by decide) rfl ?_
      refine pj_goto (pc := 130) (tgt := 106) dX9_law_130 (by decide) ?_
      refine pl_iload_n (pc := 106) dX9_law_106 rfl rfl ?_
      refine pl_bipush (pc := 107) (v := 8) dX9_law_107 (by rfl) ?_
      refine pj_icmp_ge (pc := 109) (tgt := 133) dX9_law_109 (by decide) (fun h => absurd h (by decide)) (fun _ => ?_)
      refine pl_aload_n (pc := 112) dX9_law_112 rfl rfl ?_
      refine pj_getf (pc := 113) ckX9 19 q2535 dX9_law_113 (by decide) (mm_o hA) rfl ?_
      refine pl_bipush (pc := 116) (v := 8) dX9_law_116 (by rfl) ?_
      refine pl_aload_n (pc := 118) dX9_law_118 rfl rfl ?_
      refine pj_getf (pc := 119) ckX9 16 q2532 dX9_law_119 (by decide) (mm_o hA) rfl ?_
      refine PJ.top (y := nI l) rfl ?_
      refine pl_imul (pc := 122) dX9_law_122 ?_
      refine pl_iload_n (pc := 123) dX9_law_123 rfl rfl ?_
      refine pl_iadd (pc := 124) dX9_law_124 ?_
      refine pj_iconst (pc := 125) (v := (-1)) dX9_law_125 (by rfl) ?_
      refine pm_iast (pc := 126) 10 hA (by decide) (by decide) rfl dX9_law_126 (show _ < 96 by omega) (by decide) ?_
      refine pl_iinc (pc := 127) (v := nI 8) (lv' := [(2, _), (0, _), (1, _)]) dX9_law_127 rfl (by rfl) (by decide) rfl ?_
      refine pj_goto (pc := 130) (tgt := 106) dX9_law_130 (by decide) ?_
      refine pl_iload_n (pc := 106) dX9_law_106 rfl rfl ?_
      refine pl_bipush (pc := 107) (v := 8) dX9_law_107 (by rfl) ?_
      refine pj_icmp_ge (pc := 109) (tgt := 133) dX9_law_109 (by decide) (fun _ => ?_) (fun h => absurd h (by decide))
      refine pl_iconst (pc := 133) (v := 0) dX9_law_133 (by rfl) ?_
      refine pj_istore_n (pc := 134) (lv' := [(2, _), (0, _), (1, _)]) dX9_law_134 rfl (by decide) rfl ?_
      refine PJ.sub [0, 2, 1] rfl ?_
      have hS := (SamL.FF (j := 16) (v := nI l) (((((SamL.rf.F (l := l) (σ := (sF (sF (s0 σ) 10 (nI n)) 9 (nI 0))) (x := nI 0) (j := 11) (by omega)).F (x := nI 0) (j := 12) (by omega)).F (x := -1) (j := 13) (by omega)).F (x := nI 0) (j := 14) (by omega)).F (x := nI 0) (j := 15) (by omega))).tr (SamL.A11 (v := vp_nar .boolean (nI 0)))
      have hS := hS.tr (SamL.A10 (k := 0) (v := -1) (by decide))
      have hS := hS.tr (SamL.A10 (k := 1) (v := -1) (by decide))
      have hS := hS.tr (SamL.A10 (k := 2) (v := -1) (by decide))
      have hS := hS.tr (SamL.A10 (k := 3) (v := -1) (by decide))
      have hS := hS.tr (SamL.A10 (k := 4) (v := -1) (by decide))
      have hS := hS.tr (SamL.A10 (k := 5) (v := -1) (by decide))
      have hS := hS.tr (SamL.A10 (k := 6) (v := -1) (by decide))
      have hS := hS.tr (SamL.A10 (k := 7) (v := -1) (by decide))
      refine hgo _ hS ⟨Sam.rf, Nat.zero_le _, Nat.zero_le _, Nat.le_refl _, rfl, rfl, rfl, rfl, rfl, fun i hi => absurd hi (Nat.not_lt_zero _)⟩ rfl ⟨fun k hk => ⟨fun _ => ?_, fun LE e => (by cases e)⟩, ?_⟩
      · have : k = 0 ∨ k = 1 ∨ k = 2 ∨ k = 3 ∨ k = 4 ∨ k = 5 ∨ k = 6 ∨ k = 7 := by omega
        rcases this with e | e | e | e | e | e | e | e <;> subst e <;> simp [sA, upd]
      · simp [sA, upd]; rfl
    · exact absurd c52 (by omega)
  · exact absurd c15 (by omega)
