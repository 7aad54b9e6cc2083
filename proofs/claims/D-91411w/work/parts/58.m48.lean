set_option maxRecDepth 100000
theorem Txt.A {σ : MS} {n k : Nat} {B : Nat → Nat} {f : Nat → Int32} (t : Txt σ n B) (hk : 7 ≠ k) : Txt (sA σ k f) n B := ⟨t.1, t.2.1, fun j hj => by
  show (if 7 = k then f else σ.2.1 7) j &&& nI 255 = _
  rw [if_neg hk]
  exact t.2.2.1 j hj, t.2.2.2⟩
theorem PR.A {n l c : Nat} {σ0 σ : MS} {r : RP} {k j : Nat} {v : Int32} (h : PR n l c σ0 r σ) (h8 : 8 ≠ k) (h9 : 9 ≠ k) : PR n l c (sA σ0 k (upd (σ0.2.1 k) j v)) r (sA σ k (upd (σ.2.1 k) j v)) := by
  obtain ⟨⟨s1, s2, s3, s4⟩, h⟩ := h
  refine ⟨⟨s1, fun q q8 q9 => ?_, fun j hj => ?_, s4⟩, ?_⟩
  · show (if q = k then upd (σ.2.1 k) j v else σ.2.1 q) = (if q = k then upd (σ0.2.1 k) j v else σ0.2.1 q)
    split
    · rename_i e
      rw [s2 k (e ▸ q8) (e ▸ q9)]
    · exact s2 q q8 q9
  · show (if 8 = k then _ else σ.2.1 8) j = (if 8 = k then _ else σ0.2.1 8) j ∧ (if 9 = k then _ else σ.2.1 9) j = (if 9 = k then _ else σ0.2.1 9) j
    rw [if_neg h8, if_neg h9, if_neg h8, if_neg h9]
    exact s3 j hj
  · rcases r with ⟨a, b⟩ | ⟨p, o, L⟩
    · exact h
    · obtain ⟨a1, a2, a3, a4, a5, a6, a7, a8, a9⟩ := h
      refine ⟨a1, a2, a3, a4, a5, a6, a7, a8, fun i hi => ?_⟩
      show (if 8 = k then _ else σ.2.1 8) _ = _ ∧ (if 9 = k then _ else σ.2.1 9) _ = _
      rw [if_neg h8, if_neg h9]
      exact a9 i hi
/-- what a law's reading leaves alone -/
def SamL (l : Nat) (σ σ1 : MS) : Prop := (∀ j, ¬ (11 ≤ j ∧ j ≤ 15) → σ1.1 j = σ.1 j) ∧ (∀ k, k ≠ 8 → k ≠ 9 → k ≠ 10 → k ≠ 11 → σ1.2.1 k = σ.2.1 k) ∧ (∀ j, (j < 400 * l ∨ 400 * l + 400 ≤ j) → σ1.2.1 8 j = σ.2.1 8 j ∧ σ1.2.1 9 j = σ.2.1 9 j) ∧ (∀ j, (j < 8 * l ∨ 8 * l + 8 ≤ j) → σ1.2.1 10 j = σ.2.1 10 j) ∧ (∀ j, j ≠ l → σ1.2.1 11 j = σ.2.1 11 j) ∧ σ1.2.2 = σ.2.2
theorem SamL.rf {l : Nat} {σ : MS} : SamL l σ σ := ⟨fun _ _ => rfl, fun _ _ _ _ _ => rfl, fun _ _ => ⟨rfl, rfl⟩, fun _ _ => rfl, fun _ _ => rfl, rfl⟩
theorem SamL.tr {l : Nat} {σ σ1 σ2 : MS} (h : SamL l σ σ1) (h1 : SamL l σ1 σ2) : SamL l σ σ2 := ⟨fun j hj => (h1.1 j hj).trans (h.1 j hj), fun k a b c d => (h1.2.1 k a b c d).trans (h.2.1 k a b c d), fun j hj => ⟨((h1.2.2.1 j hj).1).trans (h.2.2.1 j hj).1, ((h1.2.2.1 j hj).2).trans (h.2.2.1 j hj).2⟩, fun j hj => (h1.2.2.2.1 j hj).trans (h.2.2.2.1 j hj), fun j hj => (h1.2.2.2.2.1 j hj).trans (h.2.2.2.2.1 j hj), h1.2.2.2.2.2.trans h.2.2.2.2.2⟩
theorem Sam.L {l : Nat} {σ σ1 : MS} (h : Sam l 0 σ σ1) : SamL l σ σ1 := ⟨h.1, fun k a b _ _ => h.2.1 k a b, fun j hj => h.2.2.1 j (by omega), fun j _ => by rw [h.2.1 10 (by decide) (by decide)], fun j _ => by rw [h.2.1 11 (by decide) (by decide)], h.2.2.2⟩
theorem SamL.A10 {l k : Nat} {v : Int32} {σ : MS} (hk : k < 8) : SamL l σ (wA σ 10 (8 * l + k) v) := by
  refine ⟨fun _ _ => rfl, fun q _ _ h10 _ => ?_, fun _ _ => ⟨rfl, rfl⟩, fun j hj => ?_, fun _ _ => rfl, rfl⟩
  · show (if q = 10 then _ else σ.2.1 q) = _
    rw [if_neg h10]
  · show upd (σ.2.1 10) (8 * l + k) v j = _
    unfold upd
    rw [if_neg (by omega)]
theorem SamL.A11 {l : Nat} {v : Int32} {σ : MS} : SamL l σ (wA σ 11 l v) := by
  refine ⟨fun _ _ => rfl, fun q _ _ _ h11 => ?_, fun _ _ => ⟨rfl, rfl⟩, fun _ _ => rfl, fun j hj => ?_, rfl⟩
  · show (if q = 11 then _ else σ.2.1 q) = _
    rw [if_neg h11]
  · show upd (σ.2.1 11) l v j = _
    unfold upd
    rw [if_neg hj]
theorem SamL.F {l j : Nat} {x : Int32} {σ σ1 : MS} (h : SamL l σ σ1) (hj : 11 ≤ j ∧ j ≤ 15) : SamL l σ (sF σ1 j x) := ⟨fun q hq => (sF_ne (by omega)).trans (h.1 q hq), h.2⟩
theorem firstW_lt {B : Nat → Nat} {w : Nat → List Nat} {q : Nat} : ∀ m k j, firstW B w q m k = some j → j < k + m
  | 0, _, _, h => by cases h
  | m + 1, k, j, h => by
    simp only [firstW] at h
    split at h
    · cases h; omega
    · have := firstW_lt m (k + 1) j h; omega
theorem name_ok (k : Nat) : ∀ x ∈ nameW k, 0 < x ∧ x < 256 := by
  match k with
  | 0 => decide
  | 1 => decide
  | 2 => decide
  | 3 => decide
  | 4 => decide
  | 5 => decide
  | 6 => decide
  | k + 7 => show ∀ x ∈ [115, 113, 117, 97, 116], 0 < x ∧ x < 256; decide
theorem name_len (k : Nat) : 3 ≤ (nameW k).length ∧ (nameW k).length ≤ 6 := by
  match k with
  | 0 => decide
  | 1 => decide
  | 2 => decide
  | 3 => decide
  | 4 => decide
  | 5 => decide
  | 6 => decide
  | k + 7 => show 3 ≤ [115, 113, 117, 97, 116].length ∧ [115, 113, 117, 97, 116].length ≤ 6; decide
def nhV : Option Nat → Int32 | some k => nI k | none => -1
set_option maxHeartbeats 600000 in
theorem o_X9_nameHere {g : GP} {μ : Mem} {d : Nat} (hd : 6 ≤ d) {ad : Nat → Nat} {σ0 σ : MS} {n l c : Nat} {B : Nat → Nat} (hA : Inj ad 18) (tx0 : Txt σ0 n B) {p o : Nat} {L : List Cd} (h : PR n l c σ0 (.inr (p, o, L)) σ) : PM g yX9_nameHere (ws_ yX9_nameHere cX9_nameHere 2 (some .int)) d 0 0 [.ref (ad 0)] (mm g ad μ σ) (rE g ad μ (some (.int (nhV (firstW B nameW (sk B n p) 8 0)))) (PR n l c σ0 (.inr (sk B n p, o, L)))) := by
  refine PM.of (by decide +kernel) (Nat.le_of_ble_eq_true rfl) ?_
  refine PJ.ok (fun G => ?_)
  show PJ g _ _ _ _ d 0 0 0 [(0, .ref (ad 0))] [] _ _
  have hB := tx0.2.2.2.2
  have hss := sk_sk (p := p) hB
  refine pl_iconst (pc := 0) (v := 0) dX9_nameHere_0 (by rfl) ?_
  refine pj_istore_n (pc := 1) (lv' := [(1, _), (0, _)]) dX9_nameHere_1 rfl (by decide) rfl ?_
  refine pl_iload_n (pc := 2) dX9_nameHere_2 rfl rfl ?_
  refine pl_bipush (pc := 3) (v := 8) dX9_nameHere_3 (by rfl) ?_
  refine pj_icmp_ge (pc := 5) (tgt := 27) dX9_nameHere_5 (by decide) (fun h => absurd h (by decide)) (fun _ => ?_)
  refine pl_aload_n (pc := 8) dX9_nameHere_8 rfl rfl ?_
  refine pl_iload_n (pc := 9) dX9_nameHere_9 rfl rfl ?_
  refine pl_callSA (pc := 10) (As := [_]) (C2 := 0) (N2 := 0) mdX9_nameOf q2820 q2821 q154 dX9_nameHere_10 rfl rfl (Nat.le_of_ble_eq_true rfl) (w_X9_nameOf (d := d - 1) (by omega) (k := 0) (by decide)) (by omega) (by decide) (by decide) (fun a0 v0 sc0 => ?_)
  refine pl_callVB (pc := 13) (As := [_]) (C2 := 0) (N2 := 0) ckX9 mdX9_isWord rfl q2831 q2833 qs76 q154 dX9_nameHere_13 rfl rfl (Nat.le_of_ble_eq_true rfl) (mm_o hA) (R_isWord (d := d - 1) (by omega) hA tx0 h (ws := nameW 0) sc0 (by decide) (by decide)) (by omega) (by decide) (by decide) (fun b9 σ q9 => ?_)
  obtain ⟨e9, h⟩ := q9
  cases hw0 : isW B (sk B n p) (nameW 0)
  · rw [hw0] at e9
    refine PJ.top (y := nI 0) (by rw [e9]; rfl) ?_
    refine pj_if_eq (pc := 16) (tgt := 21) dX9_nameHere_16 (by decide) (fun _ => ?_) (fun h => absurd h (by decide))
    refine pl_iinc (pc := 21) (v := nI 1) (lv' := [(1, _), (0, _)]) dX9_nameHere_21 rfl (by rfl) (by decide) rfl ?_
    refine pj_goto (pc := 24) (tgt := 2) dX9_nameHere_24 (by decide) ?_
    refine pl_iload_n (pc := 2) dX9_nameHere_2 rfl rfl ?_
    refine pl_bipush (pc := 3) (v := 8) dX9_nameHere_3 (by rfl) ?_
    refine pj_icmp_ge (pc := 5) (tgt := 27) dX9_nameHere_5 (by decide) (fun h => absurd h (by decide)) (fun _ => ?_)
    refine pl_aload_n (pc := 8) dX9_nameHere_8 rfl rfl ?_
    refine pl_iload_n (pc := 9) dX9_nameHere_9 rfl rfl ?_
    refine pl_callSA (pc := 10) (As := [_]) (C2 := 0) (N2 := 0) mdX9_nameOf q2820 q2821 q154 dX9_nameHere_10 rfl rfl (Nat.le_of_ble_eq_true rfl) (w_X9_nameOf (d := d - 1) (by omega) (k := 1) (by decide)) (by omega) (by decide) (by decide) (fun a1 v1 sc1 => ?_)
    refine pl_callVB (pc := 13) (As := [_]) (C2 := 0) (N2 := 0) ckX9 mdX9_isWord rfl q2831 q2833 qs76 q154 dX9_nameHere_13 rfl rfl (Nat.le_of_ble_eq_true rfl) (mm_o hA) (R_isWord (d := d - 1) (by omega) hA tx0 h (ws := nameW 1) sc1 (by decide) (by decide)) (by omega) (by decide) (by decide) (fun b9 σ q9 => ?_)
    obtain ⟨e9, h⟩ := q9
    rw [hss] at e9 h
    cases hw1 : isW B (sk B n p) (nameW 1)
    · rw [hw1] at e9
      refine PJ.top (y := nI 0) (by rw [e9]; rfl) ?_
      refine pj_if_eq (pc := 16) (tgt := 21) dX9_nameHere_16 (by decide) (fun _ => ?_) (fun h => absurd h (by decide))
      refine pl_iinc (pc := 21) (v := nI 2) (lv' := [(1, _), (0, _)]) dX9_nameHere_21 rfl (by rfl) (by decide) rfl ?_
      refine pj_goto (pc := 24) (tgt := 2) dX9_nameHere_24 (by decide) ?_
      refine pl_iload_n (pc := 2) dX9_nameHere_2 rfl rfl ?_
      refine pl_bipush (pc := 3) (v := 8) dX9_nameHere_3 (by rfl) ?_
      refine pj_icmp_ge (pc := 5) (tgt := 27) dX9_nameHere_5 (by decide) (fun h => absurd h (by decide)) (fun _ => ?_)
      refine pl_aload_n (pc := 8) dX9_nameHere_8 rfl rfl ?_
      refine pl_iload_n (pc := 9) dX9_nameHere_9 rfl rfl ?_
      refine pl_callSA (pc := 10) (As := [_]) (C2 := 0) (N2 := 0) mdX9_nameOf q2820 q2821 q154 dX9_nameHere_10 rfl rfl (Nat.le_of_ble_eq_true rfl) (w_X9_nameOf (d := d - 1) (by omega) (k := 2) (by decide)) (by omega) (by decide) (by decide) (fun a2 v2 sc2 => ?_)
      refine pl_callVB (pc := 13) (As := [_]) (C2 := 0) (N2 := 0) ckX9 mdX9_isWord rfl q2831 q2833 qs76 q154 dX9_nameHere_13 rfl rfl (Nat.le_of_ble_eq_true rfl) (mm_o hA) (R_isWord (d := d - 1) (by omega) hA tx0 h (ws := nameW 2) sc2 (by decide) (by decide)) (by omega) (by decide) (by decide) (fun b9 σ q9 => ?_)
      obtain ⟨e9, h⟩ := q9
      rw [hss] at e9 h
      cases hw2 : isW B (sk B n p) (nameW 2)
      · rw [hw2] at e9
        refine PJ.top (y := nI 0) (by rw [e9]; rfl) ?_
        refine pj_if_eq (pc := 16) (tgt := 21) dX9_nameHere_16 (by decide) (fun _ => ?_) (fun h => absurd h (by decide))
        refine pl_iinc (pc := 21) (v := nI 3) (lv' := [(1, _), (0, _)]) dX9_nameHere_21 rfl (by rfl) (by decide) rfl ?_
        refine pj_goto (pc := 24) (tgt := 2) dX9_nameHere_24 (by decide) ?_
        refine pl_iload_n (pc := 2) dX9_nameHere_2 rfl rfl ?_
        refine pl_bipush (pc := 3) (v := 8) dX9_nameHere_3 (by rfl) ?_
        refine pj_icmp_ge (pc := 5) (tgt := 27) dX9_nameHere_5 (by decide) (fun h => absurd h (by decide)) (fun _ => ?_)
        refine pl_aload_n (pc := 8) dX9_nameHere_8 rfl rfl ?_
        refine pl_iload_n (pc := 9) dX9_nameHere_9 rfl rfl ?_
        refine pl_callSA (pc := 10) (As := [_]) (C2 := 0) (N2 := 0) mdX9_nameOf q2820 q2821 q154 dX9_nameHere_10 rfl rfl (Nat.le_of_ble_eq_true rfl) (w_X9_nameOf (d := d - 1) (by omega) (k := 3) (by decide)) (by omega) (by decide) (by decide) (fun a3 v3 sc3 => ?_)
        refine pl_callVB (pc := 13) (As := [_]) (C2 := 0) (N2 := 0) ckX9 mdX9_isWord rfl q2831 q2833 qs76 q154 dX9_nameHere_13 rfl rfl (Nat.le_of_ble_eq_true rfl) (mm_o hA) (R_isWord (d := d - 1) (by omega) hA tx0 h (ws := nameW 3) sc3 (by decide) (by decide)) (by omega) (by decide) (by decide) (fun b9 σ q9 => ?_)
        obtain ⟨e9, h⟩ := q9
        rw [hss] at e9 h
        cases hw3 : isW B (sk B n p) (nameW 3)
        · rw [hw3] at e9
          refine PJ.top (y := nI 0) (by rw [e9]; rfl) ?_
          refine pj_if_eq (pc := 16) (tgt := 21) dX9_nameHere_16 (by decide) (fun _ => ?_) (fun h => absurd h (by decide))
          refine pl_iinc (pc := 21) (v := nI 4) (lv' := [(1, _), (0, _)]) dX9_nameHere_21 rfl (by rfl) (by decide) rfl ?_
          refine pj_goto (pc := 24) (tgt := 2) dX9_nameHere_24 (by decide) ?_
          refine pl_iload_n (pc := 2) dX9_nameHere_2 rfl rfl ?_
          refine pl_bipush (pc := 3) (v := 8) dX9_nameHere_3 (by rfl) ?_
          refine pj_icmp_ge (pc := 5) (tgt := 27) dX9_nameHere_5 (by decide) (fun h => absurd h (by decide)) (fun _ => ?_)
          refine pl_aload_n (pc := 8) dX9_nameHere_8 rfl rfl ?_
          refine pl_iload_n (pc := 9) dX9_nameHere_9 rfl rfl ?_
          refine pl_callSA (pc := 10) (As := [_]) (C2 := 0) (N2 := 0) mdX9_nameOf q2820 q2821 q154 dX9_nameHere_10 rfl rfl (Nat.le_of_ble_eq_true rfl) (w_X9_nameOf (d := d - 1) (by omega) (k := 4) (by decide)) (by omega) (by decide) (by decide) (fun a4 v4 sc4 => ?_)
          refine pl_callVB (pc := 13) (As := [_]) (C2 := 0) (N2 := 0) ckX9 mdX9_isWord rfl q2831 q2833 qs76 q154 dX9_nameHere_13 rfl rfl (Nat.le_of_ble_eq_true rfl) (mm_o hA) (R_isWord (d := d - 1) (by omega) hA tx0 h (ws := nameW 4) sc4 (by decide) (by decide)) (by omega) (by decide) (by decide) (fun b9 σ q9 => ?_)
          obtain ⟨e9, h⟩ := q9
          rw [hss] at e9 h
          cases hw4 : isW B (sk B n p) (nameW 4)
          · rw [hw4] at e9
            refine PJ.top (y := nI 0) (by rw [e9]; rfl) ?_
            refine pj_if_eq (pc := 16) (tgt := 21) dX9_nameHere_16 (by decide) (fun _ => ?_) (fun h => absurd h (by decide))
            refine pl_iinc (pc := 21) (v := nI 5) (lv' := [(1, _), (0, _)]) dX9_nameHere_21 rfl (by rfl) (by decide) rfl ?_
            refine pj_goto (pc := 24) (tgt := 2) dX9_nameHere_24 (by decide) ?_
            refine pl_iload_n (pc := 2) dX9_nameHere_2 rfl rfl ?_
            refine pl_bipush (pc := 3) (v := 8) dX9_nameHere_3 (by rfl) ?_
            refine pj_icmp_ge (pc := 5) (tgt := 27) dX9_nameHere_5 (by decide) (fun h => absurd h (by decide)) (fun _ => ?_)
            refine pl_aload_n (pc := 8) dX9_nameHere_8 rfl rfl ?_
            refine pl_iload_n (pc := 9) dX9_nameHere_9 rfl rfl ?_
            refine pl_callSA (pc := 10) (As := [_]) (C2 := 0) (N2 := 0) mdX9_nameOf q2820 q2821 q154 dX9_nameHere_10 rfl rfl (Nat.le_of_ble_eq_true rfl) (w_X9_nameOf (d := d - 1) (by omega) (k := 5) (by decide)) (by omega) (by decide) (by decide) (fun a5 v5 sc5 => ?_)
            refine pl_callVB (pc := 13) (As := [_]) (C2 := 0) (N2 := 0) ckX9 mdX9_isWord rfl q2831 q2833 qs76 q154 dX9_nameHere_13 rfl rfl (Nat.le_of_ble_eq_true rfl) (mm_o hA) (R_isWord (d := d - 1) (by omega) hA tx0 h (ws := nameW 5) sc5 (by decide) (by decide)) (by omega) (by decide) (by decide) (fun b9 σ q9 => ?_)
            obtain ⟨e9, h⟩ := q9
            rw [hss] at e9 h
            cases hw5 : isW B (sk B n p) (nameW 5)
            · rw [hw5] at e9
              refine PJ.top (y := nI 0) (by rw [e9]; rfl) ?_
              refine pj_if_eq (pc := 16) (tgt := 21) dX9_nameHere_16 (by decide) (fun _ => ?_) (fun h => absurd h (by decide))
              refine pl_iinc (pc := 21) (v := nI 6) (lv' := [(1, _), (0, _)]) dX9_nameHere_21 rfl (by rfl) (by decide) rfl ?_
              refine pj_goto (pc := 24) (tgt := 2) dX9_nameHere_24 (by decide) ?_
              refine pl_iload_n (pc := 2) dX9_nameHere_2 rfl rfl ?_
              refine pl_bipush (pc := 3) (v := 8) dX9_nameHere_3 (by rfl) ?_
              refine pj_icmp_ge (pc := 5) (tgt := 27) dX9_nameHere_5 (by decide) (fun h => absurd h (by decide)) (fun _ => ?_)
              refine pl_aload_n (pc := 8) dX9_nameHere_8 rfl rfl ?_
              refine pl_iload_n (pc := 9) dX9_nameHere_9 rfl rfl ?_
              refine pl_callSA (pc := 10) (As := [_]) (C2 := 0) (N2 := 0) mdX9_nameOf q2820 q2821 q154 dX9_nameHere_10 rfl rfl (Nat.le_of_ble_eq_true rfl) (w_X9_nameOf (d := d - 1) (by omega) (k := 6) (by decide)) (by omega) (by decide) (by decide) (fun a6 v6 sc6 => ?_)
              refine pl_callVB (pc := 13) (As := [_]) (C2 := 0) (N2 := 0) ckX9 mdX9_isWord rfl q2831 q2833 qs76 q154 dX9_nameHere_13 rfl rfl (Nat.le_of_ble_eq_true rfl) (mm_o hA) (R_isWord (d := d - 1) (by omega) hA tx0 h (ws := nameW 6) sc6 (by decide) (by decide)) (by omega) (by decide) (by decide) (fun b9 σ q9 => ?_)
              obtain ⟨e9, h⟩ := q9
              rw [hss] at e9 h
              cases hw6 : isW B (sk B n p) (nameW 6)
              · rw [hw6] at e9
                refine PJ.top (y := nI 0) (by rw [e9]; rfl) ?_
                refine pj_if_eq (pc := 16) (tgt := 21) dX9_nameHere_16 (by decide) (fun _ => ?_) (fun h => absurd h (by decide))
                refine pl_iinc (pc := 21) (v := nI 7) (lv' := [(1, _), (0, _)]) dX9_nameHere_21 rfl (by rfl) (by decide) rfl ?_
                refine pj_goto (pc := 24) (tgt := 2) dX9_nameHere_24 (by decide) ?_
                refine pl_iload_n (pc := 2) dX9_nameHere_2 rfl rfl ?_
                refine pl_bipush (pc := 3) (v := 8) dX9_nameHere_3 (by rfl) ?_
                refine pj_icmp_ge (pc := 5) (tgt := 27) dX9_nameHere_5 (by decide) (fun h => absurd h (by decide)) (fun _ => ?_)
                refine pl_aload_n (pc := 8) dX9_nameHere_8 rfl rfl ?_
                refine pl_iload_n (pc := 9) dX9_nameHere_9 rfl rfl ?_
                refine pl_callSA (pc := 10) (As := [_]) (C2 := 0) (N2 := 0) mdX9_nameOf q2820 q2821 q154 dX9_nameHere_10 rfl rfl (Nat.le_of_ble_eq_true rfl) (w_X9_nameOf (d := d - 1) (by omega) (k := 7) (by decide)) (by omega) (by decide) (by decide) (fun a7 v7 sc7 => ?_)
                refine pl_callVB (pc := 13) (As := [_]) (C2 := 0) (N2 := 0) ckX9 mdX9_isWord rfl q2831 q2833 qs76 q154 dX9_nameHere_13 rfl rfl (Nat.le_of_ble_eq_true rfl) (mm_o hA) (R_isWord (d := d - 1) (by omega) hA tx0 h (ws := nameW 7) sc7 (by decide) (by decide)) (by omega) (by decide) (by decide) (fun b9 σ q9 => ?_)
                obtain ⟨e9, h⟩ := q9
                rw [hss] at e9 h
                cases hw7 : isW B (sk B n p) (nameW 7)
                · rw [hw7] at e9
                  refine PJ.top (y := nI 0) (by rw [e9]; rfl) ?_
                  refine pj_if_eq (pc := 16) (tgt := 21) dX9_nameHere_16 (by decide) (fun _ => ?_) (fun h => absurd h (by decide))
                  refine pl_iinc (pc := 21) (v := nI 8) (lv' := [(1, _), (0, _)]) dX9_nameHere_21 rfl (by rfl) (by decide) rfl ?_
                  refine pj_goto (pc := 24) (tgt := 2) dX9_nameHere_24 (by decide) ?_
                  refine pl_iload_n (pc := 2) dX9_nameHere_2 rfl rfl ?_
                  refine pl_bipush (pc := 3) (v := 8) dX9_nameHere_3 (by rfl) ?_
                  refine pj_icmp_ge (pc := 5) (tgt := 27) dX9_nameHere_5 (by decide) (fun _ => ?_) (fun h => absurd h (by decide))
                  refine pj_iconst (pc := 27) (v := (-1)) dX9_nameHere_27 (by rfl) ?_
                  refine pj_iret (pc := 28) dX9_nameHere_28 rfl ?_
                  have hfw : firstW B nameW (sk B n p) 8 0 = none := by simp [firstW, hw0, hw1, hw2, hw3, hw4, hw5, hw6, hw7]
                  rw [hfw]
                  exact ⟨rfl, σ, rfl, h⟩
                · rw [hw7] at e9
                  refine PJ.top (y := nI 1) (by rw [e9]; rfl) ?_
                  refine pj_if_eq (pc := 16) (tgt := 21) dX9_nameHere_16 (by decide) (fun h => absurd h (by decide)) (fun _ => ?_)
                  refine pl_iload_n (pc := 19) dX9_nameHere_19 rfl rfl ?_
                  refine pj_iret (pc := 20) dX9_nameHere_20 rfl ?_
                  have hfw : firstW B nameW (sk B n p) 8 0 = some 7 := by simp [firstW, hw0, hw1, hw2, hw3, hw4, hw5, hw6, hw7]
                  rw [hfw]
                  exact ⟨rfl, σ, rfl, h⟩
              · rw [hw6] at e9
                refine PJ.top (y := nI 1) (by rw [e9]; rfl) ?_
                refine pj_if_eq (pc := 16) (tgt := 21) dX9_nameHere_16 (by decide) (fun h => absurd h (by decide)) (fun _ => ?_)
                refine pl_iload_n (pc := 19) dX9_nameHere_19 rfl rfl ?_
                refine pj_iret (pc := 20) dX9_nameHere_20 rfl ?_
                have hfw : firstW B nameW (sk B n p) 8 0 = some 6 := by simp [firstW, hw0, hw1, hw2, hw3, hw4, hw5, hw6]
                rw [hfw]
                exact ⟨rfl, σ, rfl, h⟩
            · rw [hw5] at e9
              refine PJ.top (y := nI 1) (by rw [e9]; rfl) ?_
              refine pj_if_eq (pc := 16) (tgt := 21) dX9_nameHere_16 (by decide) (fun h => absurd h (by decide)) (fun _ => ?_)
              refine pl_iload_n (pc := 19) dX9_nameHere_19 rfl rfl ?_
              refine pj_iret (pc := 20) dX9_nameHere_20 rfl ?_
              have hfw : firstW B nameW (sk B n p) 8 0 = some 5 := by simp [firstW, hw0, hw1, hw2, hw3, hw4, hw5]
              rw [hfw]
              exact ⟨rfl, σ, rfl, h⟩
          · rw [hw4] at e9
            refine PJ.top (y := nI 1) (by rw [e9]; rfl) ?_
            refine pj_if_eq (pc := 16) (tgt := 21) dX9_nameHere_16 (by decide) (fun h => absurd h (by decide)) (fun _ => ?_)
            refine pl_iload_n (pc := 19) dX9_nameHere_19 rfl rfl ?_
            refine pj_iret (pc := 20) dX9_nameHere_20 rfl ?_
            have hfw : firstW B nameW (sk B n p) 8 0 = some 4 := by simp [firstW, hw0, hw1, hw2, hw3, hw4]
            rw [hfw]
            exact ⟨rfl, σ, rfl, h⟩
        · rw [hw3] at e9
          refine PJ.top (y := nI 1) (by rw [e9]; rfl) ?_
          refine pj_if_eq (pc := 16) (tgt := 21) dX9_nameHere_16 (by decide) (fun h => absurd h (by decide)) (fun _ => ?_)
          refine pl_iload_n (pc := 19) dX9_nameHere_19 rfl rfl ?_
          refine pj_iret (pc := 20) dX9_nameHere_20 rfl ?_
          have hfw : firstW B nameW (sk B n p) 8 0 = some 3 := by simp [firstW, hw0, hw1, hw2, hw3]
          rw [hfw]
          exact ⟨rfl, σ, rfl, h⟩
      · rw [hw2] at e9
        refine PJ.top (y := nI 1) (by rw [e9]; rfl) ?_
        refine pj_if_eq (pc := 16) (tgt := 21) dX9_nameHere_16 (by decide) (fun h => absurd h (by decide)) (fun _ => ?_)
        refine pl_iload_n (pc := 19) dX9_nameHere_19 rfl rfl ?_
        refine pj_iret (pc := 20) dX9_nameHere_20 rfl ?_
        have hfw : firstW B nameW (sk B n p) 8 0 = some 2 := by simp [firstW, hw0, hw1, hw2]
        rw [hfw]
        exact ⟨rfl, σ, rfl, h⟩
    · rw [hw1] at e9
      refine PJ.top (y := nI 1) (by rw [e9]; rfl) ?_
      refine pj_if_eq (pc := 16) (tgt := 21) dX9_nameHere_16 (by decide) (fun h => absurd h (by decide)) (fun _ => ?_)
      refine pl_iload_n (pc := 19) dX9_nameHere_19 rfl rfl ?_
      refine pj_iret (pc := 20) dX9_nameHere_20 rfl ?_
      have hfw : firstW B nameW (sk B n p) 8 0 = some 1 := by simp [firstW, hw0, hw1]
      rw [hfw]
      exact ⟨rfl, σ, rfl, h⟩
  · rw [hw0] at e9
    refine PJ.top (y := nI 1) (by rw [e9]; rfl) ?_
    refine pj_if_eq (pc := 16) (tgt := 21) dX9_nameHere_16 (by decide) (fun h => absurd h (by decide)) (fun _ => ?_)
    refine pl_iload_n (pc := 19) dX9_nameHere_19 rfl rfl ?_
    refine pj_iret (pc := 20) dX9_nameHere_20 rfl ?_
    have hfw : firstW B nameW (sk B n p) 8 0 = some 0 := by simp [firstW, hw0]
    rw [hfw]
    exact ⟨rfl, σ, rfl, h⟩
def isCl (B : Nat → Nat) (q : Nat) : Bool := (firstW B nameW q 8 0).isSome || isW B q wUndo
set_option maxHeartbeats 600000 in
theorem o_X9_isClause {g : GP} {μ : Mem} {d : Nat} (hd : 7 ≤ d) {ad : Nat → Nat} {σ0 σ : MS} {n l c : Nat} {B : Nat → Nat} (hA : Inj ad 18) (tx0 : Txt σ0 n B) {p o : Nat} {L : List Cd} (h : PR n l c σ0 (.inr (p, o, L)) σ) : PM g yX9_isClause (ws_ yX9_isClause cX9_isClause 1 (some .boolean)) d 0 0 [.ref (ad 0)] (mm g ad μ σ) (rE g ad μ (some (.int (bI (isCl B (sk B n p))))) (PR n l c σ0 (.inr (sk B n p, o, L)))) := by
  refine PM.of (by decide +kernel) (Nat.le_of_ble_eq_true rfl) ?_
  refine PJ.ok (fun G => ?_)
  show PJ g _ _ _ _ d 0 0 0 [(0, .ref (ad 0))] [] _ _
  have hB := tx0.2.2.2.2
  have hss := sk_sk (p := p) hB
  refine pl_aload_n (pc := 0) dX9_isClause_0 rfl rfl ?_
  refine pl_callVEd (pc := 1) (As := []) (C2 := 0) (N2 := 0) ckX9 mdX9_nameHere rfl q2816 q2818 qs75 q154 dX9_isClause_1 rfl rfl (Nat.le_of_ble_eq_true rfl) (mm_o hA) (o_X9_nameHere (d := d - 1) (by omega) hA tx0 h) (by omega) (by decide) (by decide) (fun σ h => ?_)
  rcases hf : firstW B nameW (sk B n p) 8 0 with _ | k9
  · refine PJ.top (y := -1) rfl ?_
    refine pj_if_ge (pc := 4) (tgt := 17) dX9_isClause_4 (by decide) (fun h => absurd h (by decide)) (fun _ => ?_)
    refine pl_aload_n (pc := 7) dX9_isClause_7 rfl rfl ?_
    obtain ⟨a301, v301, vr301, sc301⟩ := lit_X9_301 G
    refine pj_ldcwS (pc := 8) vr301 dX9_isClause_8 ?_
    refine pl_callVB (pc := 11) (As := [_]) (C2 := 0) (N2 := 0) ckX9 mdX9_isWord rfl q2831 q2833 qs76 q154 dX9_isClause_11 rfl rfl (Nat.le_of_ble_eq_true rfl) (mm_o hA) (R_isWord (d := d - 1) (by omega) hA tx0 h (ws := wUndo) sc301 (by decide) (by decide)) (by omega) (by decide) (by decide) (fun b9 σ q9 => ?_)
    obtain ⟨e9, h⟩ := q9
    rw [hss] at e9 h
    cases hwu : isW B (sk B n p) wUndo
    · rw [hwu] at e9
      refine PJ.top (y := nI 0) (by rw [e9]; rfl) ?_
      refine pj_if_eq (pc := 14) (tgt := 21) dX9_isClause_14 (by decide) (fun _ => ?_) (fun h => absurd h (by decide))
      refine pl_iconst (pc := 21) (v := 0) dX9_isClause_21 (by rfl) ?_
      refine pj_zret (pc := 22) .boolean dX9_isClause_22 rfl (by rfl) ?_
      refine ⟨?_, σ, rfl, h⟩
      have e7 : isCl B (sk B n p) = false := by first | (simp [isCl, hf]; done) | (simp [isCl, hf, hwu]; done)
      rw [e7]
      rfl
    · rw [hwu] at e9
      refine PJ.top (y := nI 1) (by rw [e9]; rfl) ?_
      refine pj_if_eq (pc := 14) (tgt := 21) dX9_isClause_14 (by decide) (fun h => absurd h (by decide)) (fun _ => ?_)
      refine pl_iconst (pc := 17) (v := 1) dX9_isClause_17 (by rfl) ?_
      refine pj_goto (pc := 18) (tgt := 22) dX9_isClause_18 (by decide) ?_
      refine pj_zret (pc := 22) .boolean dX9_isClause_22 rfl (by rfl) ?_
      refine ⟨?_, σ, rfl, h⟩
      have e7 : isCl B (sk B n p) = true := by first | (simp [isCl, hf]; done) | (simp [isCl, hf, hwu]; done)
      rw [e7]
      rfl
  · have hk9 : k9 < 8 := by have := firstW_lt _ _ _ hf; omega
    refine PJ.top (y := nI k9) rfl ?_
    refine pj_if_ge (pc := 4) (tgt := 17) dX9_isClause_4 (by decide) (fun _ => ?_) (fun h => absurd (nI_pos' (by omega)) h)
    refine pl_iconst (pc := 17) (v := 1) dX9_isClause_17 (by rfl) ?_
    refine pj_goto (pc := 18) (tgt := 22) dX9_isClause_18 (by decide) ?_
    refine pj_zret (pc := 22) .boolean dX9_isClause_22 rfl (by rfl) ?_
    refine ⟨?_, σ, rfl, h⟩
    have e7 : isCl B (sk B n p) = true := by first | (simp [isCl, hf]; done) | (simp [isCl, hf, hwu]; done)
    rw [e7]
    rfl
