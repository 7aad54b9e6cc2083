set_option maxRecDepth 100000
/-- what eating a word makes of a result -/
def eatR (B : Nat → Nat) (n : Nat) (ws : List Nat) : RP → Bool × RP
  | .inl e => (false, .inl e)
  | .inr (p, o, L) => (isW B (sk B n p) ws, .inr (if isW B (sk B n p) ws = true then sk B n p + ws.length else sk B n p, o, L))
/-- an answer yes or no, and numbers -/
def rB (g : GP) (ad : Nat → Nat) (μ : Mem) (P : Bool → MS → Prop) : OC → Mem → Prop := fun o M => ∃ (b9 : Bool) (σ1 : MS), o = .inl (some (.int (bI b9))) ∧ M = mm g ad μ σ1 ∧ P b9 σ1
theorem KN_pos {ws : List Nat} (h : ∀ x ∈ ws, 0 < x ∧ x < 256) : ∀ x ∈ ws, x < 256 := fun x hx => (h x hx).2
set_option maxHeartbeats 600000 in
theorem o_X9_eat {g : GP} {μ : Mem} {d : Nat} (hd : 6 ≤ d) {ad : Nat → Nat} {σ0 σ : MS} {n l c : Nat} {B : Nat → Nat} (hA : Inj ad 18) (tx0 : Txt σ0 n B) (hl : σ0.1 16 = nI l) (hl2 : l < 12) {p o : Nat} {L : List Cd} (h : PR n l c σ0 (.inr (p, o, L)) σ) {a v : Nat} {ws : List Nat} (sc : StrC g a v (KN ws)) (hws : ∀ x ∈ ws, 0 < x ∧ x < 256) (hw8 : ws.length ≤ 8) : PM g yX9_eat (ws_ yX9_eat cX9_eat 3 (some .boolean)) d 0 0 [.ref (ad 0), .ref a] (mm g ad μ σ) (rB g ad μ (fun b σ1 => b = (eatR B n ws (.inr (p, o, L))).1 ∧ PR n l c σ0 (eatR B n ws (.inr (p, o, L))).2 σ1)) := by
  refine PM.of (by decide +kernel) (Nat.le_of_ble_eq_true rfl) ?_
  refine PJ.ok (fun G => ?_)
  show PJ g _ _ _ _ d 0 0 0 [(0, .ref (ad 0)), (1, .ref a)] [] _ _
  have tx := tx0.of h.1
  have hn3 := tx.2.1
  obtain ⟨-, a1, a2, a3, h4, h5, h6, h7, h8, -⟩ := id h
  have hq := sk_in (B := B) a1
  have hB := tx.2.2.2.1
  refine pl_aload_n (pc := 0) dX9_eat_0 rfl rfl ?_
  refine pj_getf (pc := 1) ckX9 12 q2528 dX9_eat_1 (by decide) (mm_o hA) rfl ?_
  refine PJ.top (y := nI 0) h5 ?_
  refine pj_if_ne (pc := 4) (tgt := 19) dX9_eat_4 (by decide) (fun h => absurd h (by decide)) (fun _ => ?_)
  refine pl_aload_n (pc := 7) dX9_eat_7 rfl rfl ?_
  refine pl_aload_n (pc := 8) dX9_eat_8 rfl rfl ?_
  refine pl_callVd (pc := 9) (As := [_]) (C2 := 0) (N2 := 0) ckX9 mdX9_isWord rfl q2831 q2833 qs76 q154 dX9_eat_9 rfl rfl (Nat.le_of_ble_eq_true rfl) (mm_o hA) (w_X9_isWord (d := d - 1) (by omega) hA tx sc (KN_pos hws) hw8 h4 a1) (by omega) (by decide) (by decide) ?_
  refine pl_if_eqB (pc := 12) (tgt := 19) dX9_eat_12 (by decide) (fun c12 => ?_) (fun c12 => ?_)
  · refine pl_iconst (pc := 19) (v := 0) dX9_eat_19 (by rfl) ?_
    refine pj_istore_n (pc := 20) (lv' := [(2, _), (0, _), (1, _)]) dX9_eat_20 rfl (by decide) rfl ?_
    refine pl_iload_n (pc := 21) dX9_eat_21 rfl rfl ?_
    refine pj_if_eq (pc := 22) (tgt := 38) dX9_eat_22 (by decide) (fun _ => ?_) (fun h => absurd h (by decide))
    refine pl_iload_n (pc := 38) dX9_eat_38 rfl rfl ?_
    refine pj_zret (pc := 39) .boolean dX9_eat_39 rfl (by rfl) ?_
    refine ⟨false, _, rfl, rfl, ?_⟩
    have e9 : eatR B n ws (.inr (p, o, L)) = (false, .inr (sk B n p, o, L)) := by simp [eatR, c12]
    rw [e9]
    exact ⟨rfl, h.at hq.1 hq.2⟩
  · refine pl_iconst (pc := 15) (v := 1) dX9_eat_15 (by rfl) ?_
    refine pj_goto (pc := 16) (tgt := 20) dX9_eat_16 (by decide) ?_
    refine pj_istore_n (pc := 20) (lv' := [(2, _), (0, _), (1, _)]) dX9_eat_20 rfl (by decide) rfl ?_
    refine pl_iload_n (pc := 21) dX9_eat_21 rfl rfl ?_
    refine pj_if_eq (pc := 22) (tgt := 38) dX9_eat_22 (by decide) (fun h => absurd h (by decide)) (fun _ => ?_)
    refine pl_aload_n (pc := 25) dX9_eat_25 rfl rfl ?_
    refine pj_dup (pc := 26) dX9_eat_26 rfl ?_
    refine pj_getf (pc := 27) ckX9 11 q2527 dX9_eat_27 (by decide) (mm_o hA) rfl ?_
    refine PJ.top (y := nI (sk B n p)) rfl ?_
    refine pl_aload_n (pc := 30) dX9_eat_30 rfl rfl ?_
    refine pl_callKd (pc := 31) (As := []) (C2 := 0) (N2 := 0) mdJ9_length rfl q2835 q399 q400 q136 dX9_eat_31 rfl rfl (Nat.le_of_ble_eq_true rfl) sc.1 (k_J9_length (d := d - 1) (by omega) sc) (by omega) (by decide) (by decide) ?_
    refine pl_iadd (pc := 34) dX9_eat_34 ?_
    refine pm_putI (pc := 35) 11 hA q2527 dX9_eat_35 (by decide) rfl (by rfl) (by rfl) rfl ?_
    refine pl_iload_n (pc := 38) dX9_eat_38 rfl rfl ?_
    refine pj_zret (pc := 39) .boolean dX9_eat_39 rfl (by rfl) ?_
    refine ⟨true, _, rfl, rfl, ?_⟩
    have e9 : eatR B n ws (.inr (p, o, L)) = (true, .inr (sk B n p + ws.length, o, L)) := by simp [eatR, c12]
    rw [e9]
    exact ⟨rfl, (h.at hq.1 hq.2).at (by omega) (isW_in c12 (fun x hx => (hws x hx).1) tx.2.2.2.2 hq.2)⟩
set_option maxHeartbeats 600000 in
theorem b_X9_eat {g : GP} {μ : Mem} {d : Nat} (hd : 1 ≤ d) {ad : Nat → Nat} {σ : MS} (hA : Inj ad 18) {k9 : Nat} (hb : σ.1 12 = nI k9) (h0 : 0 < k9) (h4 : k9 < 4) {a : Nat} : PM g yX9_eat (ws_ yX9_eat cX9_eat 3 (some .boolean)) d 0 0 [.ref (ad 0), .ref a] (mm g ad μ σ) (rQ (some (.int (bI false))) (mm g ad μ σ)) := by
  refine PM.of (by decide +kernel) (Nat.le_of_ble_eq_true rfl) ?_
  refine PJ.ok (fun G => ?_)
  show PJ g _ _ _ _ d 0 0 0 [(0, .ref (ad 0)), (1, .ref a)] [] _ _
  refine pl_aload_n (pc := 0) dX9_eat_0 rfl rfl ?_
  refine pj_getf (pc := 1) ckX9 12 q2528 dX9_eat_1 (by decide) (mm_o hA) rfl ?_
  refine PJ.top (y := nI _) (hb) ?_
  refine pl_if_neN (pc := 4) (tgt := 19) dX9_eat_4 (by decide) (by omega) (fun c4 => ?_) (fun c4 => ?_)
  · refine pl_iconst (pc := 19) (v := 0) dX9_eat_19 (by rfl) ?_
    refine pj_istore_n (pc := 20) (lv' := [(2, _), (0, _), (1, _)]) dX9_eat_20 rfl (by decide) rfl ?_
    refine pl_iload_n (pc := 21) dX9_eat_21 rfl rfl ?_
    refine pj_if_eq (pc := 22) (tgt := 38) dX9_eat_22 (by decide) (fun _ => ?_) (fun h => absurd h (by decide))
    refine pl_iload_n (pc := 38) dX9_eat_38 rfl rfl ?_
    refine pj_zret (pc := 39) .boolean dX9_eat_39 rfl (by rfl) ?_
    exact ⟨rfl, rfl⟩
  · exact absurd c4 (by omega)
theorem R_eat {g : GP} {μ : Mem} {d : Nat} (hd : 6 ≤ d) {ad : Nat → Nat} {σ0 σ : MS} {n l c : Nat} {B : Nat → Nat} (hA : Inj ad 18) (tx0 : Txt σ0 n B) (hl : σ0.1 16 = nI l) (hl2 : l < 12) {r : RP} (h : PR n l c σ0 r σ) {a v : Nat} {ws : List Nat} (sc : StrC g a v (KN ws)) (hws : ∀ x ∈ ws, 0 < x ∧ x < 256) (hw8 : ws.length ≤ 8) : PM g yX9_eat (ws_ yX9_eat cX9_eat 3 (some .boolean)) d 0 0 [.ref (ad 0), .ref a] (mm g ad μ σ) (rB g ad μ (fun b σ1 => b = (eatR B n ws r).1 ∧ PR n l c σ0 (eatR B n ws r).2 σ1)) := by
  rcases r with ⟨k, w⟩ | ⟨p, o, L⟩
  · obtain ⟨-, h0, hk, e12, -⟩ := id h
    exact (b_X9_eat (by omega) hA e12 h0 hk).post (fun o M q => ⟨false, σ, q.1, q.2, rfl, h⟩)
  · exact o_X9_eat hd hA tx0 hl hl2 h sc hws hw8
set_option maxHeartbeats 600000 in
theorem w_X9_nameOf {g : GP} {μ : Mem} {d : Nat} (hd : 1 ≤ d) {k : Nat} (hk : k < 8) : PM g yX9_nameOf (ws_ yX9_nameOf cX9_nameOf 1 (some (.object "java/lang/String"))) d 0 0 [.int (nI k)] μ (fun o M => ∃ a v : Nat, o = .inl (some (.ref a)) ∧ M = μ ∧ StrC g a v (KN (nameW k))) := by
  refine PM.of (by decide +kernel) (Nat.le_of_ble_eq_true rfl) ?_
  refine PJ.ok (fun G => ?_)
  show PJ g _ _ _ _ d 0 0 0 [(0, .int (nI k))] [] _ _
  match k, hk with
  | 0, _ =>
    obtain ⟨a, v, vr, sc⟩ := lit_X9_198 G
    refine pl_iload_n (pc := 0) dX9_nameOf_0 rfl rfl ?_
    refine pj_tableIn (pc := 1) (tgt := 44) dX9_nameOf_1 (by decide) (by decide) (by rfl) (by decide) ?_
    refine pj_ldcS (pc := 44) vr dX9_nameOf_44 ?_
    refine pj_aret (pc := 46) dX9_nameOf_46 rfl (Or.inl ⟨_, rfl⟩) (Or.inr ⟨_, rfl⟩) ?_
    exact ⟨a, v, rfl, rfl, sc⟩
  | 1, _ =>
    obtain ⟨a, v, vr, sc⟩ := lit_X9_200 G
    refine pl_iload_n (pc := 0) dX9_nameOf_0 rfl rfl ?_
    refine pj_tableIn (pc := 1) (tgt := 47) dX9_nameOf_1 (by decide) (by decide) (by rfl) (by decide) ?_
    refine pj_ldcS (pc := 47) vr dX9_nameOf_47 ?_
    refine pj_aret (pc := 49) dX9_nameOf_49 rfl (Or.inl ⟨_, rfl⟩) (Or.inr ⟨_, rfl⟩) ?_
    exact ⟨a, v, rfl, rfl, sc⟩
  | 2, _ =>
    obtain ⟨a, v, vr, sc⟩ := lit_X9_202 G
    refine pl_iload_n (pc := 0) dX9_nameOf_0 rfl rfl ?_
    refine pj_tableIn (pc := 1) (tgt := 50) dX9_nameOf_1 (by decide) (by decide) (by rfl) (by decide) ?_
    refine pj_ldcS (pc := 50) vr dX9_nameOf_50 ?_
    refine pj_aret (pc := 52) dX9_nameOf_52 rfl (Or.inl ⟨_, rfl⟩) (Or.inr ⟨_, rfl⟩) ?_
    exact ⟨a, v, rfl, rfl, sc⟩
  | 3, _ =>
    obtain ⟨a, v, vr, sc⟩ := lit_X9_204 G
    refine pl_iload_n (pc := 0) dX9_nameOf_0 rfl rfl ?_
    refine pj_tableIn (pc := 1) (tgt := 53) dX9_nameOf_1 (by decide) (by decide) (by rfl) (by decide) ?_
    refine pj_ldcS (pc := 53) vr dX9_nameOf_53 ?_
    refine pj_aret (pc := 55) dX9_nameOf_55 rfl (Or.inl ⟨_, rfl⟩) (Or.inr ⟨_, rfl⟩) ?_
    exact ⟨a, v, rfl, rfl, sc⟩
  | 4, _ =>
    obtain ⟨a, v, vr, sc⟩ := lit_X9_206 G
    refine pl_iload_n (pc := 0) dX9_nameOf_0 rfl rfl ?_
    refine pj_tableIn (pc := 1) (tgt := 56) dX9_nameOf_1 (by decide) (by decide) (by rfl) (by decide) ?_
    refine pj_ldcS (pc := 56) vr dX9_nameOf_56 ?_
    refine pj_aret (pc := 58) dX9_nameOf_58 rfl (Or.inl ⟨_, rfl⟩) (Or.inr ⟨_, rfl⟩) ?_
    exact ⟨a, v, rfl, rfl, sc⟩
  | 5, _ =>
    obtain ⟨a, v, vr, sc⟩ := lit_X9_208 G
    refine pl_iload_n (pc := 0) dX9_nameOf_0 rfl rfl ?_
    refine pj_tableIn (pc := 1) (tgt := 59) dX9_nameOf_1 (by decide) (by decide) (by rfl) (by decide) ?_
    refine pj_ldcS (pc := 59) vr dX9_nameOf_59 ?_
    refine pj_aret (pc := 61) dX9_nameOf_61 rfl (Or.inl ⟨_, rfl⟩) (Or.inr ⟨_, rfl⟩) ?_
    exact ⟨a, v, rfl, rfl, sc⟩
  | 6, _ =>
    obtain ⟨a, v, vr, sc⟩ := lit_X9_210 G
    refine pl_iload_n (pc := 0) dX9_nameOf_0 rfl rfl ?_
    refine pj_tableIn (pc := 1) (tgt := 62) dX9_nameOf_1 (by decide) (by decide) (by rfl) (by decide) ?_
    refine pj_ldcS (pc := 62) vr dX9_nameOf_62 ?_
    refine pj_aret (pc := 64) dX9_nameOf_64 rfl (Or.inl ⟨_, rfl⟩) (Or.inr ⟨_, rfl⟩) ?_
    exact ⟨a, v, rfl, rfl, sc⟩
  | 7, _ =>
    obtain ⟨a, v, vr, sc⟩ := lit_X9_212 G
    refine pl_iload_n (pc := 0) dX9_nameOf_0 rfl rfl ?_
    refine pj_tableOut (pc := 1) (tgt := 65) dX9_nameOf_1 (by decide) (by decide) ?_
    refine pj_ldcS (pc := 65) vr dX9_nameOf_65 ?_
    refine pj_aret (pc := 67) dX9_nameOf_67 rfl (Or.inl ⟨_, rfl⟩) (Or.inr ⟨_, rfl⟩) ?_
    exact ⟨a, v, rfl, rfl, sc⟩
  | k + 8, h => exact absurd h (by omega)
set_option maxHeartbeats 600000 in
theorem w_X9_toldOf {g : GP} {μ : Mem} {d : Nat} (hd : 1 ≤ d) {k : Nat} (hk : k < 5) : PM g yX9_toldOf (ws_ yX9_toldOf cX9_toldOf 1 (some (.object "java/lang/String"))) d 0 0 [.int (nI k)] μ (fun o M => ∃ a v : Nat, o = .inl (some (.ref a)) ∧ M = μ ∧ StrC g a v (KN (toldW k))) := by
  refine PM.of (by decide +kernel) (Nat.le_of_ble_eq_true rfl) ?_
  refine PJ.ok (fun G => ?_)
  show PJ g _ _ _ _ d 0 0 0 [(0, .int (nI k))] [] _ _
  match k, hk with
  | 0, _ =>
    obtain ⟨a, v, vr, sc⟩ := lit_X9_214 G
    refine pl_iload_n (pc := 0) dX9_toldOf_0 rfl rfl ?_
    refine pj_tableIn (pc := 1) (tgt := 32) dX9_toldOf_1 (by decide) (by decide) (by rfl) (by decide) ?_
    refine pj_ldcS (pc := 32) vr dX9_toldOf_32 ?_
    refine pj_aret (pc := 34) dX9_toldOf_34 rfl (Or.inl ⟨_, rfl⟩) (Or.inr ⟨_, rfl⟩) ?_
    exact ⟨a, v, rfl, rfl, sc⟩
  | 1, _ =>
    obtain ⟨a, v, vr, sc⟩ := lit_X9_216 G
    refine pl_iload_n (pc := 0) dX9_toldOf_0 rfl rfl ?_
    refine pj_tableIn (pc := 1) (tgt := 35) dX9_toldOf_1 (by decide) (by decide) (by rfl) (by decide) ?_
    refine pj_ldcS (pc := 35) vr dX9_toldOf_35 ?_
    refine pj_aret (pc := 37) dX9_toldOf_37 rfl (Or.inl ⟨_, rfl⟩) (Or.inr ⟨_, rfl⟩) ?_
    exact ⟨a, v, rfl, rfl, sc⟩
  | 2, _ =>
    obtain ⟨a, v, vr, sc⟩ := lit_X9_218 G
    refine pl_iload_n (pc := 0) dX9_toldOf_0 rfl rfl ?_
    refine pj_tableIn (pc := 1) (tgt := 38) dX9_toldOf_1 (by decide) (by decide) (by rfl) (by decide) ?_
    refine pj_ldcS (pc := 38) vr dX9_toldOf_38 ?_
    refine pj_aret (pc := 40) dX9_toldOf_40 rfl (Or.inl ⟨_, rfl⟩) (Or.inr ⟨_, rfl⟩) ?_
    exact ⟨a, v, rfl, rfl, sc⟩
  | 3, _ =>
    obtain ⟨a, v, vr, sc⟩ := lit_X9_220 G
    refine pl_iload_n (pc := 0) dX9_toldOf_0 rfl rfl ?_
    refine pj_tableIn (pc := 1) (tgt := 41) dX9_toldOf_1 (by decide) (by decide) (by rfl) (by decide) ?_
    refine pj_ldcS (pc := 41) vr dX9_toldOf_41 ?_
    refine pj_aret (pc := 43) dX9_toldOf_43 rfl (Or.inl ⟨_, rfl⟩) (Or.inr ⟨_, rfl⟩) ?_
    exact ⟨a, v, rfl, rfl, sc⟩
  | 4, _ =>
    obtain ⟨a, v, vr, sc⟩ := lit_X9_222 G
    refine pl_iload_n (pc := 0) dX9_toldOf_0 rfl rfl ?_
    refine pj_tableOut (pc := 1) (tgt := 44) dX9_toldOf_1 (by decide) (by decide) ?_
    refine pj_ldcS (pc := 44) vr dX9_toldOf_44 ?_
    refine pj_aret (pc := 46) dX9_toldOf_46 rfl (Or.inl ⟨_, rfl⟩) (Or.inr ⟨_, rfl⟩) ?_
    exact ⟨a, v, rfl, rfl, sc⟩
  | k + 5, h => exact absurd h (by omega)
