set_option maxRecDepth 100000
section CP
variable (B : Nat → Nat) (n : Nat)
/-- a clause of a name, behind the name -/
noncomputable def nameP (p o : Nat) : Option RP := thenR (thenR (thenR (signP B n 61 p o) (PF B n BF 0)) (emitP 16 (nI 0))) (signP B n 59)
abbrev CR : Type := (Nat × Nat) ⊕ (Nat × ((Nat × List Cd) ⊕ Bool))
def undoP (p : Nat) (b : Bool) : CR := match signP B n 59 p 0 with
  | some (.inr (p2, _, _)) => .inr (p2, .inr b)
  | some (.inl e) => .inl e
  | none => .inl (0, 0)
def nameC (k : Nat) : Option RP → CR
  | some (.inr (p2, _, LE)) => .inr (p2, .inl (k, LE))
  | some (.inl e) => .inl e
  | none => .inl (0, 0)
noncomputable def clauseP (p : Nat) : CR := match firstW B nameW (sk B n p) 8 0 with
  | some k => nameC k (nameP B n (sk B n p + (nameW k).length) 0)
  | none => if isW B (sk B n p) wUndo = true then (if isW B (sk B n (sk B n p + 4)) wFall = true then undoP B n (sk B n (sk B n p + 4) + 4) true else if isW B (sk B n (sk B n p + 4)) wStand = true then undoP B n (sk B n (sk B n p + 4) + 5) false else .inl (1, sk B n (sk B n p + 4)))
    else .inl (1, sk B n p)
end CP
def effS (σ : MS) (l m : Nat) : ((Nat × List Cd) ⊕ Bool) → MS
  | .inl (k, _) => wA σ 10 (8 * l + k) (nI m)
  | .inr b => wA σ 11 l (bI b)
def LEof : ((Nat × List Cd) ⊕ Bool) → List Cd
  | .inl (_, LE) => LE
  | .inr _ => []
/-- what a clause leaves -/
def ClP (n l : Nat) (L : List Cd) (σ0 : MS) : CR → MS → Prop
  | .inl (k, w), σ => ∃ σe, SamL l σ0 σe ∧ PR n l 0 σe (.inl (k, w)) σ
  | .inr (p2, x), σ => PR n l 0 (effS σ0 l L.length x) (.inr (p2, 0, L ++ LEof x)) σ
theorem nameP_tot {B : Nat → Nat} {n p o : Nat} (hB : ∀ k, n ≤ k → B k = 0) (hn : n ≤ 300) (hp : p ≤ n) : Tot (nameP B n p o) := by
  refine thenR_tot (thenR_tot (thenR_tot signP_tot (fun p1 o1 L e => ?_)) (fun _ _ _ _ => emitP_tot)) (fun _ _ _ _ => signP_tot)
  obtain ⟨a, b, c⟩ := signP_in hp _ _ _ e
  exact PF_big hB hn (by decide) c
theorem nameP_in {B : Nat → Nat} {n p o : Nat} (hB : ∀ k, n ≤ k → B k = 0) (hp : p ≤ n) : ∀ p1 o1 L, nameP B n p o = some (.inr (p1, o1, L)) → o1 = o ∧ p + L.length ≤ p1 + 1 ∧ p1 ≤ n := by
  intro p1 o1 L e
  obtain ⟨p2, o2, L1, L2, e1, e2, e3⟩ := thenR_inr e
  obtain ⟨p3, o3, L3, L4, e4, e5, e6⟩ := thenR_inr e1
  obtain ⟨p4, o4, L5, L6, e7, e8, e9⟩ := thenR_inr e4
  obtain ⟨a1, a2, a3⟩ := signP_in hp _ _ _ e7
  obtain ⟨b1, b2, b3⟩ := PF_in hB BF 0 p4 o4 (by decide) a3 _ _ _ e8
  cases e5
  obtain ⟨c1, c2, c3⟩ := signP_in b3 _ _ _ e2
  subst e9 e6 e3
  exact ⟨by omega, by simp; omega, c3⟩
theorem sign_nil {B : Nat → Nat} {n ch p o p1 o1 : Nat} {L L1 : List Cd} (h : bindR (.inr (p, o, L)) (signP B n ch) = some (.inr (p1, o1, L1))) : L1 = L ∧ o1 = o ∧ signP B n ch p o = some (.inr (p1, o1, [])) := by
  rcases bindR_inr h with ⟨z, -, e⟩ | ⟨p2, o2, L2, e1, e2⟩
  · cases e
  · cases e2
    unfold signP at e1 ⊢
    split at e1
    · rename_i h1
      cases e1
      rw [if_pos h1]
      exact ⟨by simp, rfl, rfl⟩
    · cases e1
set_option maxHeartbeats 400000 in
theorem w_X9_clause {g : GP} {μ : Mem} {d : Nat} (hd : 72 ≤ d) {ad : Nat → Nat} {σ0 : MS} {n l : Nat} {B : Nat → Nat} (hA : Inj ad 18) (tx0 : Txt σ0 n B) (hl : σ0.1 16 = nI l) (hl2 : l < 12) {p : Nat} {L : List Cd} (h : PR n l 0 σ0 (.inr (p, 0, L)) σ0) : PM g yX9_clause (ws_ yX9_clause cX9_clause 2 none) d 0 0 [.ref (ad 0)] (mm g ad μ σ0) (rE g ad μ none (ClP n l L σ0 (clauseP B n p))) := by
  have hB := tx0.2.2.2.2
  have hn3 := tx0.2.1
  have hBy := tx0.2.2.2.1
  obtain ⟨hp, ho, hcL⟩ := h.le p 0 L rfl
  have hq := sk_in (B := B) hp
  have hss := sk_sk (p := p) hB
  refine PM.of (by decide +kernel) (Nat.le_of_ble_eq_true rfl) ?_
  refine PJ.ok (fun G => ?_)
  show PJ g _ _ _ _ d 0 0 0 [(0, .ref (ad 0))] [] _ _
  refine pl_aload_n (pc := 0) dX9_clause_0 rfl rfl ?_
  refine pl_callVEd (pc := 1) (As := []) (C2 := 0) (N2 := 0) ckX9 mdX9_nameHere rfl q2816 q2818 qs75 q154 dX9_clause_1 rfl rfl (Nat.le_of_ble_eq_true rfl) (mm_o hA) (o_X9_nameHere (d := d - 1) (by omega) hA tx0 h) (by omega) (by decide) (by decide) (fun σ h => ?_)
  rcases hf : firstW B nameW (sk B n p) 8 0 with _ | k9
  · refine PJ.top (y := -1) rfl ?_
    refine pj_istore_n (pc := 4) (lv' := [(1, _), (0, _)]) dX9_clause_4 rfl (by decide) rfl ?_
    refine pl_iload_n (pc := 5) dX9_clause_5 rfl rfl ?_
    refine pj_if_lt (pc := 6) (tgt := 63) dX9_clause_6 (by decide) (fun _ => ?_) (fun h => absurd h (by decide))
    refine pl_aload_n (pc := 63) dX9_clause_63 rfl rfl ?_
    obtain ⟨a301, v301, vr301, sc301⟩ := lit_X9_301 G
    refine pj_ldcwS (pc := 64) vr301 dX9_clause_64 ?_
    refine pl_callVB (pc := 67) (As := [_]) (C2 := 0) (N2 := 0) ckX9 mdX9_eat rfl q2882 q2884 qs85 q154 dX9_clause_67 rfl rfl (Nat.le_of_ble_eq_true rfl) (mm_o hA) (R_eat (d := d - 1) (by omega) hA tx0 hl hl2 h (ws := wUndo) sc301 (by decide) (by decide)) (by omega) (by decide) (by decide) (fun b9 σ q9 => ?_)
    obtain ⟨e9, h⟩ := q9
    have e8 : eatR B n wUndo (.inr (sk B n p, 0, L)) = (isW B (sk B n (sk B n p)) wUndo, .inr (if isW B (sk B n (sk B n p)) wUndo = true then sk B n (sk B n p) + 4 else sk B n (sk B n p), 0, L)) := rfl
    rw [hss] at e8
    rw [e8] at h e9
    cases hwu : isW B (sk B n p) wUndo
    · rw [hwu] at h e9
      have h : PR n l 0 σ0 (.inr (sk B n p, 0, L)) σ := h
      refine PJ.top (y := nI 0) (by rw [e9]; rfl) ?_
      refine pj_if_eq (pc := 70) (tgt := 123) dX9_clause_70 (by decide) (fun _ => ?_) (fun h => absurd h (by decide))
      refine pl_aload_n (pc := 123) dX9_clause_123 rfl rfl ?_
      refine pl_iconst (pc := 124) (v := 1) dX9_clause_124 (by rfl) ?_
      refine pl_aload_n (pc := 125) dX9_clause_125 rfl rfl ?_
      refine pj_getf (pc := 126) ckX9 11 q2527 dX9_clause_126 (by decide) (mm_o hA) rfl ?_
      refine PJ.top (y := nI (sk B n p)) h.2.2.2.2.1 ?_
      refine pl_callVv (pc := 129) (As := [_, _]) (C2 := 0) (N2 := 0) ckX9 mdX9_wrong rfl q2838 q2840 qs77 q154 dX9_clause_129 rfl rfl (Nat.le_of_ble_eq_true rfl) (mm_o hA) (w_X9_wrong (d := d - 1) (by omega) hA) (by omega) (by decide) (by decide) ?_
      refine pl_aload_n (pc := 132) dX9_clause_132 rfl rfl ?_
      refine pl_bipush (pc := 133) (v := 59) dX9_clause_133 (by rfl) ?_
      refine pl_callVEv (pc := 135) (As := [_]) (C2 := 0) (N2 := 0) ckX9 mdX9_sign rfl q2846 q2848 qs79 q154 dX9_clause_135 rfl rfl (Nat.le_of_ble_eq_true rfl) (mm_o hA) (R_sign (d := d - 1) (by omega) hA tx0 hl hl2 (by decide) (r := .inl (1, sk B n p)) (h.bad (by decide) (by decide)) (r1 := .inl (1, sk B n p)) rfl) (by omega) (by decide) (by decide) (fun σ h => ?_)
      refine pj_vret (pc := 138) dX9_clause_138 rfl ?_
      refine ⟨rfl, σ, rfl, ?_⟩
      unfold clauseP
      rw [hf]
      show ClP n l L σ0 (if isW B (sk B n p) wUndo = true then _ else _) σ
      rw [if_neg (by rw [hwu]; decide)]
      exact ⟨_, SamL.rf, h⟩
    · rw [hwu] at h e9
      have h : PR n l 0 σ0 (.inr (sk B n p + 4, 0, L)) σ := h
      refine PJ.top (y := nI 1) (by rw [e9]; rfl) ?_
      have hql : sk B n p + 4 ≤ n := isW_in hwu (by decide) hB hq.2
      refine pj_if_eq (pc := 70) (tgt := 123) dX9_clause_70 (by decide) (fun h => absurd h (by decide)) (fun _ => ?_)
      refine pl_aload_n (pc := 73) dX9_clause_73 rfl rfl ?_
      refine pj_getf (pc := 74) ckX9 20 q2536 dX9_clause_74 (by decide) (mm_o hA) rfl ?_
      refine pl_aload_n (pc := 77) dX9_clause_77 rfl rfl ?_
      refine pj_getf (pc := 78) ckX9 16 q2532 dX9_clause_78 (by decide) (mm_o hA) rfl ?_
      refine PJ.top (y := nI l) ((h.1.1 16 (by omega)).trans hl) ?_
      refine pl_aload_n (pc := 81) dX9_clause_81 rfl rfl ?_
      obtain ⟨a303, v303, vr303, sc303⟩ := lit_X9_303 G
      refine pj_ldcwS (pc := 82) vr303 dX9_clause_82 ?_
      refine pl_callVB (pc := 85) (As := [_]) (C2 := 0) (N2 := 0) ckX9 mdX9_eat rfl q2882 q2884 qs85 q154 dX9_clause_85 rfl rfl (Nat.le_of_ble_eq_true rfl) (mm_o hA) (R_eat (d := d - 1) (by omega) hA tx0 hl hl2 h (ws := wFall) sc303 (by decide) (by decide)) (by omega) (by decide) (by decide) (fun b9 σ q9 => ?_)
      obtain ⟨e9, h⟩ := q9
      have hss2 := sk_sk (p := sk B n p + 4) hB
      have hq2 := sk_in (B := B) hql
      have e8 : eatR B n wFall (.inr (sk B n p + 4, 0, L)) = (isW B (sk B n (sk B n p + 4)) wFall, .inr (if isW B (sk B n (sk B n p + 4)) wFall = true then sk B n (sk B n p + 4) + 4 else sk B n (sk B n p + 4), 0, L)) := rfl
      rw [e8] at h e9
      cases hwf : isW B (sk B n (sk B n p + 4)) wFall
      · rw [hwf] at h e9
        have h : PR n l 0 σ0 (.inr (sk B n (sk B n p + 4), 0, L)) σ := h
        refine PJ.top (y := nI 0) (by rw [e9]; rfl) ?_
        refine pm_zast (pc := 88) 11 hA (by decide) (by decide) rfl dX9_clause_88 (show _ < 12 by omega) (by decide) ?_
        have h := h.A (k := 11) (j := l) (v := vp_nar .boolean (nI 0)) (by decide) (by decide)
        have tx1 : Txt (sA σ0 11 (upd (σ0.2.1 11) l (vp_nar .boolean (nI 0)))) n B := tx0.A (by decide)
        have hl1 : (sA σ0 11 (upd (σ0.2.1 11) l (vp_nar .boolean (nI 0)))).1 16 = nI l := hl
        refine pl_aload_n (pc := 89) dX9_clause_89 rfl rfl ?_
        refine pj_getf (pc := 90) ckX9 20 q2536 dX9_clause_90 (by decide) (mm_o hA) rfl ?_
        refine pl_aload_n (pc := 93) dX9_clause_93 rfl rfl ?_
        refine pj_getf (pc := 94) ckX9 16 q2532 dX9_clause_94 (by decide) (mm_o hA) rfl ?_
        refine PJ.top (y := nI l) ((h.1.1 16 (by omega)).trans hl1) ?_
        refine pl_zald (pc := 97) (n := 12) dX9_clause_97 (mm_a hA 11 (by decide) (by decide)) (by omega) (by decide) ?_
        refine PJ.top (y := nI 0) (by simp [sA, upd]; rfl) ?_
        refine pj_if_ne (pc := 98) (tgt := 132) dX9_clause_98 (by decide) (fun h => absurd h (by decide)) (fun _ => ?_)
        refine pl_aload_n (pc := 101) dX9_clause_101 rfl rfl ?_
        obtain ⟨a305, v305, vr305, sc305⟩ := lit_X9_305 G
        refine pj_ldcwS (pc := 102) vr305 dX9_clause_102 ?_
        refine pl_callVB (pc := 105) (As := [_]) (C2 := 0) (N2 := 0) ckX9 mdX9_eat rfl q2882 q2884 qs85 q154 dX9_clause_105 rfl rfl (Nat.le_of_ble_eq_true rfl) (mm_o hA) (R_eat (d := d - 1) (by omega) hA tx1 hl1 hl2 h (ws := wStand) sc305 (by decide) (by decide)) (by omega) (by decide) (by decide) (fun b9 σ q9 => ?_)
        obtain ⟨e9, h⟩ := q9
        have e8 : eatR B n wStand (.inr (sk B n (sk B n p + 4), 0, L)) = (isW B (sk B n (sk B n (sk B n p + 4))) wStand, .inr (if isW B (sk B n (sk B n (sk B n p + 4))) wStand = true then sk B n (sk B n (sk B n p + 4)) + 5 else sk B n (sk B n (sk B n p + 4)), 0, L)) := rfl
        rw [hss2] at e8
        rw [e8] at h e9
        cases hwt : isW B (sk B n (sk B n p + 4)) wStand
        · rw [hwt] at h e9
          have h : PR n l 0 _ (.inr (sk B n (sk B n p + 4), 0, L)) σ := h
          refine PJ.top (y := nI 0) (by rw [e9]; rfl) ?_
          refine pj_if_ne (pc := 108) (tgt := 132) dX9_clause_108 (by decide) (fun h => absurd h (by decide)) (fun _ => ?_)
          refine pl_aload_n (pc := 111) dX9_clause_111 rfl rfl ?_
          refine pl_iconst (pc := 112) (v := 1) dX9_clause_112 (by rfl) ?_
          refine pl_aload_n (pc := 113) dX9_clause_113 rfl rfl ?_
          refine pj_getf (pc := 114) ckX9 11 q2527 dX9_clause_114 (by decide) (mm_o hA) rfl ?_
          refine PJ.top (y := nI (sk B n (sk B n p + 4))) h.2.2.2.2.1 ?_
          refine pl_callVv (pc := 117) (As := [_, _]) (C2 := 0) (N2 := 0) ckX9 mdX9_wrong rfl q2838 q2840 qs77 q154 dX9_clause_117 rfl rfl (Nat.le_of_ble_eq_true rfl) (mm_o hA) (w_X9_wrong (d := d - 1) (by omega) hA) (by omega) (by decide) (by decide) ?_
          refine pj_goto (pc := 120) (tgt := 132) dX9_clause_120 (by decide) ?_
          refine pl_aload_n (pc := 132) dX9_clause_132 rfl rfl ?_
          refine pl_bipush (pc := 133) (v := 59) dX9_clause_133 (by rfl) ?_
          refine pl_callVEv (pc := 135) (As := [_]) (C2 := 0) (N2 := 0) ckX9 mdX9_sign rfl q2846 q2848 qs79 q154 dX9_clause_135 rfl rfl (Nat.le_of_ble_eq_true rfl) (mm_o hA) (R_sign (d := d - 1) (by omega) hA tx1 hl1 hl2 (by decide) (r := .inl (1, sk B n (sk B n p + 4))) (h.bad (by decide) (by decide)) (r1 := .inl (1, sk B n (sk B n p + 4))) rfl) (by omega) (by decide) (by decide) (fun σ h => ?_)
          refine pj_vret (pc := 138) dX9_clause_138 rfl ?_
          refine ⟨rfl, σ, rfl, ?_⟩
          unfold clauseP
          rw [hf]
          show ClP n l L σ0 (if isW B (sk B n p) wUndo = true then _ else _) σ
          rw [if_pos hwu, if_neg (by rw [hwf]; decide), if_neg (by rw [hwt]; decide)]
          exact ⟨_, SamL.A11, h⟩
        · rw [hwt] at h e9
          have h : PR n l 0 _ (.inr (sk B n (sk B n p + 4) + 5, 0, L)) σ := h
          refine PJ.top (y := nI 1) (by rw [e9]; rfl) ?_
          obtain ⟨r1, hs4⟩ := bindR_tot (r := .inr (sk B n (sk B n p + 4) + 5, 0, L)) (f := signP B n 59) (fun _ _ _ _ => signP_tot)
          refine pj_if_ne (pc := 108) (tgt := 132) dX9_clause_108 (by decide) (fun _ => ?_) (fun h => absurd h (by decide))
          refine pl_aload_n (pc := 132) dX9_clause_132 rfl rfl ?_
          refine pl_bipush (pc := 133) (v := 59) dX9_clause_133 (by rfl) ?_
          refine pl_callVEv (pc := 135) (As := [_]) (C2 := 0) (N2 := 0) ckX9 mdX9_sign rfl q2846 q2848 qs79 q154 dX9_clause_135 rfl rfl (Nat.le_of_ble_eq_true rfl) (mm_o hA) (R_sign (d := d - 1) (by omega) hA tx1 hl1 hl2 (by decide) h hs4) (by omega) (by decide) (by decide) (fun σ h => ?_)
          refine pj_vret (pc := 138) dX9_clause_138 rfl ?_
          refine ⟨rfl, σ, rfl, ?_⟩
          unfold clauseP
          rw [hf]
          show ClP n l L σ0 (if isW B (sk B n p) wUndo = true then _ else _) σ
          rw [if_pos hwu, if_neg (by rw [hwf]; decide), if_pos hwt]
          unfold undoP
          have hr9 : (signP B n 59 (sk B n (sk B n p + 4) + 5) 0).map (appR L) = some r1 := hs4
          cases hy : signP B n 59 (sk B n (sk B n p + 4) + 5) 0 with
          | none => rw [hy] at hr9; cases hr9
          | some y =>
            rw [hy] at hr9
            rcases y with ⟨k8, w8⟩ | ⟨p2, o2, LE⟩
            · have e1 : r1 = .inl (k8, w8) := (Option.some.inj hr9).symm
              subst e1
              exact ⟨_, SamL.A11, h⟩
            · have e1 : r1 = .inr (p2, o2, L ++ LE) := (Option.some.inj hr9).symm
              subst e1
              obtain ⟨-, e2, e3⟩ := sign_nil hs4
              subst e2
              have e4 : LE = [] := by rw [hy] at e3; cases e3; rfl
              subst e4
              exact h
      · rw [hwf] at h e9
        have h : PR n l 0 σ0 (.inr (sk B n (sk B n p + 4) + 4, 0, L)) σ := h
        refine PJ.top (y := nI 1) (by rw [e9]; rfl) ?_
        obtain ⟨r1, hs4⟩ := bindR_tot (r := .inr (sk B n (sk B n p + 4) + 4, 0, L)) (f := signP B n 59) (fun _ _ _ _ => signP_tot)
        refine pm_zast (pc := 88) 11 hA (by decide) (by decide) rfl dX9_clause_88 (show _ < 12 by omega) (by decide) ?_
        have h := h.A (k := 11) (j := l) (v := vp_nar .boolean (nI 1)) (by decide) (by decide)
        have tx1 : Txt (sA σ0 11 (upd (σ0.2.1 11) l (vp_nar .boolean (nI 1)))) n B := tx0.A (by decide)
        have hl1 : (sA σ0 11 (upd (σ0.2.1 11) l (vp_nar .boolean (nI 1)))).1 16 = nI l := hl
        refine pl_aload_n (pc := 89) dX9_clause_89 rfl rfl ?_
        refine pj_getf (pc := 90) ckX9 20 q2536 dX9_clause_90 (by decide) (mm_o hA) rfl ?_
        refine pl_aload_n (pc := 93) dX9_clause_93 rfl rfl ?_
        refine pj_getf (pc := 94) ckX9 16 q2532 dX9_clause_94 (by decide) (mm_o hA) rfl ?_
        refine PJ.top (y := nI l) ((h.1.1 16 (by omega)).trans hl1) ?_
        refine pl_zald (pc := 97) (n := 12) dX9_clause_97 (mm_a hA 11 (by decide) (by decide)) (by omega) (by decide) ?_
        refine PJ.top (y := nI 1) (by simp [sA, upd]; rfl) ?_
        refine pj_if_ne (pc := 98) (tgt := 132) dX9_clause_98 (by decide) (fun _ => ?_) (fun h => absurd h (by decide))
        refine pl_aload_n (pc := 132) dX9_clause_132 rfl rfl ?_
        refine pl_bipush (pc := 133) (v := 59) dX9_clause_133 (by rfl) ?_
        refine pl_callVEv (pc := 135) (As := [_]) (C2 := 0) (N2 := 0) ckX9 mdX9_sign rfl q2846 q2848 qs79 q154 dX9_clause_135 rfl rfl (Nat.le_of_ble_eq_true rfl) (mm_o hA) (R_sign (d := d - 1) (by omega) hA tx1 hl1 hl2 (by decide) h hs4) (by omega) (by decide) (by decide) (fun σ h => ?_)
        refine pj_vret (pc := 138) dX9_clause_138 rfl ?_
        refine ⟨rfl, σ, rfl, ?_⟩
        unfold clauseP
        rw [hf]
        show ClP n l L σ0 (if isW B (sk B n p) wUndo = true then _ else _) σ
        rw [if_pos hwu, if_pos hwf]
        unfold undoP
        have hr9 : (signP B n 59 (sk B n (sk B n p + 4) + 4) 0).map (appR L) = some r1 := hs4
        cases hy : signP B n 59 (sk B n (sk B n p + 4) + 4) 0 with
        | none => rw [hy] at hr9; cases hr9
        | some y =>
          rw [hy] at hr9
          rcases y with ⟨k8, w8⟩ | ⟨p2, o2, LE⟩
          · have e1 : r1 = .inl (k8, w8) := (Option.some.inj hr9).symm
            subst e1
            exact ⟨_, SamL.A11, h⟩
          · have e1 : r1 = .inr (p2, o2, L ++ LE) := (Option.some.inj hr9).symm
            subst e1
            obtain ⟨-, e2, e3⟩ := sign_nil hs4
            subst e2
            have e4 : LE = [] := by rw [hy] at e3; cases e3; rfl
            subst e4
            exact h
  · have hk9 : k9 < 8 := by have := firstW_lt _ _ _ hf; omega
    refine PJ.top (y := nI k9) rfl ?_
    have hln := name_len k9
    have hql : sk B n p + (nameW k9).length ≤ n := isW_in (firstW_in _ _ _ hf) (fun x hx => (name_ok k9 x hx).1) hB hq.2
    obtain ⟨r1, hr⟩ := bindR_tot (r := .inr (sk B n p + (nameW k9).length, 0, L)) (f := nameP B n) (fun p9 o9 L9 e => by cases e; exact nameP_tot hB hn3 hql)
    obtain ⟨rs3, ht1, hs4⟩ := thenR_of hr
    obtain ⟨rs2, ht2, hs3⟩ := thenR_of ht1
    obtain ⟨rs1, hs1, hs2⟩ := thenR_of ht2
    have A0 : Adv n 0 2 0 (.inr (sk B n p + (nameW k9).length, 0, L)) := fun x y z e => by cases e; exact ⟨hql, rfl, by omega, by omega⟩
    have A1 := A0.go (fun p hp => signP_in hp) hs1
    have A2 := A1.go (fun p hp => PF_in hB BF 0 p _ (by decide) hp) hs2
    refine pj_istore_n (pc := 4) (lv' := [(1, _), (0, _)]) dX9_clause_4 rfl (by decide) rfl ?_
    refine pl_iload_n (pc := 5) dX9_clause_5 rfl rfl ?_
    refine pl_if_ltN (pc := 6) dX9_clause_6 ⟨63, by decide⟩ (by omega) ?_
    refine pl_aload_n (pc := 9) dX9_clause_9 rfl rfl ?_
    refine pj_dup (pc := 10) dX9_clause_10 rfl ?_
    refine pj_getf (pc := 11) ckX9 11 q2527 dX9_clause_11 (by decide) (mm_o hA) rfl ?_
    refine PJ.top (y := nI (sk B n p)) h.2.2.2.2.1 ?_
    refine pl_iload_n (pc := 14) dX9_clause_14 rfl rfl ?_
    refine pl_callSA (pc := 15) (As := [_]) (C2 := 0) (N2 := 0) mdX9_nameOf q2820 q2821 q154 dX9_clause_15 rfl rfl (Nat.le_of_ble_eq_true rfl) (w_X9_nameOf (d := d - 1) (by omega) hk9) (by omega) (by decide) (by decide) (fun a9 v9 sc9 => ?_)
    refine pl_callKd (pc := 18) (As := []) (C2 := 0) (N2 := 0) mdJ9_length rfl q2835 q399 q400 q136 dX9_clause_18 rfl rfl (Nat.le_of_ble_eq_true rfl) sc9.1 (k_J9_length (d := d - 1) (by omega) sc9) (by omega) (by decide) (by decide) ?_
    refine pl_iadd (pc := 21) dX9_clause_21 ?_
    refine pm_putI (pc := 22) 11 hA q2527 dX9_clause_22 (by decide) rfl (by rfl) (by rfl) rfl ?_
    have h := h.at (p1 := sk B n p + (nameW k9).length) (by omega) hql
    refine pl_aload_n (pc := 25) dX9_clause_25 rfl rfl ?_
    refine pl_bipush (pc := 26) (v := 61) dX9_clause_26 (by rfl) ?_
    refine pl_callVEv (pc := 28) (As := [_]) (C2 := 0) (N2 := 0) ckX9 mdX9_sign rfl q2846 q2848 qs79 q154 dX9_clause_28 rfl rfl (Nat.le_of_ble_eq_true rfl) (mm_o hA) (R_sign (d := d - 1) (by omega) hA tx0 hl hl2 (by decide) h hs1) (by omega) (by decide) (by decide) (fun σ h => ?_)
    refine pl_aload_n (pc := 31) dX9_clause_31 rfl rfl ?_
    refine pj_getf (pc := 32) ckX9 19 q2535 dX9_clause_32 (by decide) (mm_o hA) rfl ?_
    refine pl_bipush (pc := 35) (v := 8) dX9_clause_35 (by rfl) ?_
    refine pl_aload_n (pc := 37) dX9_clause_37 rfl rfl ?_
    refine pj_getf (pc := 38) ckX9 16 q2532 dX9_clause_38 (by decide) (mm_o hA) rfl ?_
    refine PJ.top (y := nI l) ((h.1.1 16 (by omega)).trans hl) ?_
    refine pl_imul (pc := 41) dX9_clause_41 ?_
    refine pl_iload_n (pc := 42) dX9_clause_42 rfl rfl ?_
    refine pl_iadd (pc := 43) dX9_clause_43 ?_
    refine pl_aload_n (pc := 44) dX9_clause_44 rfl rfl ?_
    refine pj_getf (pc := 45) ckX9 15 q2531 dX9_clause_45 (by decide) (mm_o hA) rfl ?_
    have hx : ∀ p9 o9 L9, rs1 = .inr (p9, o9, L9) → σ.1 15 = nI L9.length := fun p9 o9 L9 e => by subst e; obtain ⟨-, -, -, -, -, -, -, -, a8, -⟩ := h; rw [a8, Nat.zero_add]
    generalize σ.1 15 = x9 at hx ⊢
    refine pm_iast (pc := 48) 10 hA (by decide) (by decide) rfl dX9_clause_48 (show _ < 96 by omega) (by decide) ?_
    have h := h.A (k := 10) (j := 8 * l + k9) (v := x9) (by decide) (by decide)
    have tx1 : Txt (sA σ0 10 (upd (σ0.2.1 10) (8 * l + k9) x9)) n B := tx0.A (by decide)
    have hl1 : (sA σ0 10 (upd (σ0.2.1 10) (8 * l + k9) x9)).1 16 = nI l := hl
    refine pl_aload_n (pc := 49) dX9_clause_49 rfl rfl ?_
    refine pl_callVEv (pc := 50) (As := []) (C2 := 0) (N2 := 0) ckX9 mdX9_sum rfl q2850 q2852 qs80 q154 dX9_clause_50 rfl rfl (Nat.le_of_ble_eq_true rfl) (mm_o hA) ((KA_all hA tx1 hl1 hl2 BF BF (Nat.le_refl _)).1 rs1 rs2 _ (d - 1) (A1.need (by omega) (fun _ => by omega)) h hs2) (by omega) (by decide) (by decide) (fun σ h => ?_)
    refine pl_aload_n (pc := 53) dX9_clause_53 rfl rfl ?_
    refine pl_bipush (pc := 54) (v := 16) dX9_clause_54 (by rfl) ?_
    refine pl_iconst (pc := 56) (v := 0) dX9_clause_56 (by rfl) ?_
    refine pl_callVEv (pc := 57) (As := [_, _]) (C2 := 0) (N2 := 0) ckX9 mdX9_emits rfl q2870 q2872 qs84 q154 dX9_clause_57 rfl rfl (Nat.le_of_ble_eq_true rfl) (mm_o hA) (R_emits (d := d - 1) (by omega) hn3 hA hl1 hl2 h (A2.room (by decide)) hs3) (by omega) (by decide) (by decide) (fun σ h => ?_)
    refine pj_goto (pc := 60) (tgt := 132) dX9_clause_60 (by decide) ?_
    refine pl_aload_n (pc := 132) dX9_clause_132 rfl rfl ?_
    refine pl_bipush (pc := 133) (v := 59) dX9_clause_133 (by rfl) ?_
    refine pl_callVEv (pc := 135) (As := [_]) (C2 := 0) (N2 := 0) ckX9 mdX9_sign rfl q2846 q2848 qs79 q154 dX9_clause_135 rfl rfl (Nat.le_of_ble_eq_true rfl) (mm_o hA) (R_sign (d := d - 1) (by omega) hA tx1 hl1 hl2 (by decide) h hs4) (by omega) (by decide) (by decide) (fun σ h => ?_)
    refine pj_vret (pc := 138) dX9_clause_138 rfl ?_
    refine ⟨rfl, σ, rfl, ?_⟩
    unfold clauseP
    rw [hf]
    show ClP n l L σ0 (nameC k9 (nameP B n (sk B n p + (nameW k9).length) 0)) σ
    have hr9 : (nameP B n (sk B n p + (nameW k9).length) 0).map (appR L) = some r1 := hr
    cases hy : nameP B n (sk B n p + (nameW k9).length) 0 with
    | none => rw [hy] at hr9; cases hr9
    | some y =>
      rw [hy] at hr9
      rcases y with ⟨k8, w8⟩ | ⟨p2, o2, LE⟩
      · have e1 : r1 = .inl (k8, w8) := (Option.some.inj hr9).symm
        subst e1
        exact ⟨_, SamL.A10 hk9, h⟩
      · have e1 : r1 = .inr (p2, o2, L ++ LE) := (Option.some.inj hr9).symm
        subst e1
        obtain ⟨e2, -, -⟩ := nameP_in hB hql _ _ _ hy
        subst e2
        have ex : x9 = nI L.length := by
          rcases rs1 with z | ⟨p9, o9, L9⟩
          · exfalso
            have z2 := bindR_bad hs2
            subst z2
            have z3 := bindR_bad hs3
            subst z3
            have z4 := bindR_bad hs4
            cases z4
          · rw [hx _ _ _ rfl, (sign_nil hs1).1]
        subst ex
        exact h
