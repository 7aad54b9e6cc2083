set_option maxRecDepth 100000
theorem thenR_get {r : Option RP} {f : Nat → Nat → Option RP} {x : RP} (h : thenR r f = some x) : ∃ X, r = some X ∧ bindR X f = some x := by
  rcases r with _ | X
  · cases h
  · exact ⟨X, rfl, h⟩
theorem bind_l {k w : Nat} {f : Nat → Nat → Option RP} {x : RP} (h : bindR (.inl (k, w)) f = some x) : x = .inl (k, w) := (Option.some.inj h).symm
theorem bind_r {p o : Nat} {L : List Cd} {f : Nat → Nat → Option RP} {x : RP} (h : bindR (.inr (p, o, L)) f = some x) : ∃ x2, f p o = some x2 ∧ x = appR L x2 := by
  have h1 : (f p o).map (appR L) = some x := h
  cases hf : f p o with
  | none => rw [hf] at h1; cases h1
  | some x2 => rw [hf] at h1; exact ⟨x2, rfl, (Option.some.inj h1).symm⟩
theorem emit_get {k p o : Nat} {v : Int32} {f : Nat → Nat → Option RP} {x : RP} (h : thenR (emitP k v p o) f = some x) : ∃ x2, f p o = some x2 ∧ x = appR [(k, v)] x2 := bind_r h
theorem lastV_cases {v : (Nat × Nat) ⊕ (Nat × Nat)} {x : RP} (h : some (liftV v) = some x) : (∃ k w, v = .inl (k, w) ∧ x = .inl (k, w)) ∨ ∃ p o, v = .inr (p, o) ∧ x = .inr (p, o, []) := by
  rcases v with e | z
  · cases h
    exact Or.inl ⟨e.1, e.2, rfl, rfl⟩
  · cases h
    exact Or.inr ⟨z.1, z.2, rfl, rfl⟩
theorem less_get {p o : Nat} {f : Nat → Nat → Option RP} {x : RP} (h : thenR (some (.inr (p, o, []))) f = some x) : f p o = some x := by
  obtain ⟨x2, e1, e2⟩ := bind_r h
  rw [appR_nil] at e2
  rw [e1, e2]
section VIN
variable {B : Nat → Nat} {n p o p1 o1 : Nat}
theorem need_in (hB : ∀ k, n ≤ k → B k = 0) {ch : Nat} (h0 : 0 < ch) (hp : p ≤ n) (h : needP B n ch p o = .inr (p1, o1)) : o1 = o ∧ p + 1 ≤ p1 ∧ p1 ≤ n := by
  obtain ⟨a, b, c⟩ := needP_o h
  have hq := sk_in (B := B) hp
  refine ⟨a, by omega, ?_⟩
  rcases Nat.lt_or_ge (sk B n p) n with z | z
  · omega
  · rw [hB _ z] at c; omega
theorem closes_in (hB : ∀ k, n ≤ k → B k = 0) {ch : Nat} (h0 : 0 < ch) (hp : p ≤ n) (h : closesR B n ch p o = .inr (p1, o1)) : o1 = o - 1 ∧ p + 1 ≤ p1 ∧ p1 ≤ n := by
  unfold closesR at h
  cases hn : needP B n ch p o with
  | inl z => rw [hn] at h; cases h
  | inr z =>
    rw [hn] at h
    obtain ⟨a, b, c⟩ := need_in (p1 := z.1) (o1 := z.2) hB h0 hp hn
    have h2 : (Sum.inr (z.1, z.2 - 1) : (Nat × Nat) ⊕ (Nat × Nat)) = .inr (p1, o1) := h
    cases h2
    exact ⟨by omega, b, c⟩
theorem opens_in {b : Nat} (h : opensR b p o = .inr (p1, o1)) : p1 = p + b ∧ o1 = o + 1 ∧ o ≠ 8 := by
  unfold opensR at h
  split at h
  · cases h
  · cases h; exact ⟨rfl, rfl, by assumption⟩
theorem bracket_in (hB : ∀ k, n ≤ k → B k = 0) (hp : p ≤ n) (h : bracketR B n p o = .inr (p1, o1)) : o1 = o + 1 ∧ p + 1 ≤ p1 ∧ p1 ≤ n ∧ o ≠ 8 := by
  have hq := sk_in (B := B) hp
  unfold bracketR at h
  split at h
  · rename_i c
    obtain ⟨a, b, e⟩ := opens_in h
    refine ⟨b, by omega, ?_, e⟩
    rcases Nat.lt_or_ge (sk B n p) n with z | z
    · omega
    · rw [hB _ z] at c; omega
  · cases h
end VIN
def boundP (B : Nat → Nat) (n f : Nat) (l : Bool) : Nat → Nat → Option RP := fun p o => thenR (bracketP B n p o) (fun p o => thenR (PF B n f 0 p o) (fun p o => thenR (signP B n 44 p o) (fun p o => thenR (PF B n f 0 p o) (fun p o => thenR (closesP B n 41 p o) (emitP (if l = true then 6 else 7) (nI 0))))))
def choiceP (B : Nat → Nat) (n f : Nat) : Nat → Nat → Option RP := fun p o => thenR (bracketP B n p o) (fun p o => thenR (PF B n f 5 p o) (fun p o => thenR (signP B n 44 p o) (fun p o => thenR (PF B n f 0 p o) (fun p o => thenR (signP B n 44 p o) (fun p o => thenR (PF B n f 0 p o) (fun p o => thenR (closesP B n 41 p o) (emitP 8 (nI 0))))))))
set_option maxHeartbeats 400000 in
theorem K_X18_bound {g : GP} {rd t n : Nat} {r : Nat → Int32} {B : Nat → Nat} (htr : t ≠ rd) (tx : TxR r n B) {f : Nat} (H : ∀ f1, f1 ≤ f → KAX g rd t n r B f1) : ∀ (p o d : Nat) (μ : Mem) (x : RP) (l : Bool), p ≤ n → o ≤ 8 → 20 + 8 * (8 - o) ≤ d → μ rd = some (rdO t n p o) → μ t = some (intX g 2 300 r) → boundP B n f l p o = some x → PM g yX18_bound (ws_ yX18_bound cX18_bound 4 (some (.object "SettlerColony$Expr"))) d (coX 16 8 5 n p x) (coX 200 100 40 n p x) [.ref rd, .int (bI l)] μ (RVX g GdE μ rd t n p 1 x) := by
  intro p o d μ x l hp ho hd h0 ht hx
  have hn3 := tx.1
  have hB := tx.2.2.2
  have y0 := StX.rf h0
  unfold boundP at hx
  refine PM.of (by decide +kernel) (Nat.le_of_ble_eq_true rfl) ?_
  refine PJ.ok (fun G => ?_)
  show PJ g _ _ _ _ d (coX 16 8 5 n p x) (coX 200 100 40 n p x) 0 [(0, .ref rd), (1, .int (bI l))] [] _ _
  refine pl_aload_n (pc := 0) dX18_bound_0 rfl rfl ?_
  rw [bracketP_V] at hx
  rcases thenV_cases (v := bracketR B n p o) hx with ⟨k9, w9, hv, rfl⟩ | ⟨p_1, o_1, hv_1, hx⟩
  · refine pl_callVE (pc := 1) (As := []) (C1 := 1) (N1 := 8) (C2 := 0) (N2 := 0) ckX18 mdX18_bracket rfl q2120 q2122 qs28 q167 dX18_bound_1 rfl rfl (Nat.le_of_ble_eq_true rfl) y0.rd (x_X18_bracket (d := d - 1) (by omega) y0.rd (y0.get htr ht) htr tx (by omega) (by omega)) (by omega) (by simp only [coX, appR]; omega) (by simp only [coX, appR]; omega) (fun _ _ _ e _ => by rw [hv] at e; cases e) (fun k8 w8 q8 M8 e8 hq8 hP8 => by rw [hv] at e8; cases e8; exact px_out0 rfl ⟨q8, rfl, hq8, y0.fault hP8⟩)
  have hi_1 := bracket_in hB (by omega) hv_1
  have hg_1 : ∀ pf of Lf, x = .inr (pf, of, Lf) → p_1 + 4 ≤ pf ∧ pf ≤ n := fun pf of Lf e => by have h9 := (MnP.then (MnP.PFE (tag := 0) hB (by decide)) (MnP.then (MnP.sign (ch := 44) hB (by decide)) (MnP.then (MnP.PFE (tag := 0) hB (by decide)) (MnP.then (MnP.closes (ch := 41) hB (by decide)) MnP.emit)))) _ _ _ _ _ (show p_1 ≤ n by omega) (show _ = some (Sum.inr (pf, of, Lf)) by rw [← e]; exact hx); exact ⟨by omega, h9.2⟩
  refine pl_callVE (pc := 1) (As := []) (C1 := 1) (N1 := 8) (C2 := (coX 16 0 5 n p_1 x + 7)) (N2 := (coX 200 0 40 n p_1 x + 92)) ckX18 mdX18_bracket rfl q2120 q2122 qs28 q167 dX18_bound_1 rfl rfl (Nat.le_of_ble_eq_true rfl) y0.rd (x_X18_bracket (d := d - 1) (by omega) y0.rd (y0.get htr ht) htr tx (by omega) (by omega)) (by omega) (by rcases x with ⟨_, _⟩ | ⟨_, _, _⟩ <;> simp only [coX, appR] <;> first | omega | (have h9 := hg_1 _ _ _ rfl; omega)) (by rcases x with ⟨_, _⟩ | ⟨_, _, _⟩ <;> simp only [coX, appR] <;> first | omega | (have h9 := hg_1 _ _ _ rfl; omega)) (fun p9 o9 M_1 e9 hX_1 => ?_) (fun _ _ _ _ e _ _ => by rw [hv_1] at e; cases e)
  rw [hv_1] at e9
  cases e9
  have y1 := y0.callV hX_1
  refine pl_aload_n (pc := 4) dX18_bound_4 rfl rfl ?_
  obtain ⟨X_5, hX_5, hx⟩ := thenR_get hx
  rcases X_5 with ⟨k9, w9⟩ | ⟨p_5, o_5, L_5⟩
  · have e9 := bind_l hx
    subst e9
    refine pl_callVR (pc := 5) (As := []) (C1 := _) (N1 := _) (C2 := 0) (N2 := 0) ckX18 mdX18_expr rfl q2049 q2051 qs21 q167 dX18_bound_5 rfl rfl (Nat.le_of_ble_eq_true rfl) y1.rd ((H f (Nat.le_refl _)).1 p_1 o_1 (d - 1) _ (.inl (k9, w9)) (by omega) (by omega) (by omega) y1.rd (y1.get htr ht) hX_5) (by omega) (by simp only [coX, appR]; omega) (by simp only [coX, appR]; omega) (fun _ _ _ _ _ _ _ e _ _ _ => by cases e) (fun k8 w8 q8 M8 e8 hq8 hP8 => by cases e8; exact px_out0 rfl ⟨q8, rfl, hq8, y1.fault hP8⟩)
  obtain ⟨x_5, hz_5, ez_5⟩ := bind_r hx
  clear hx
  subst ez_5
  have hx := hz_5
  obtain ⟨ho_5, hi_5, hn_5⟩ := PF_in hB f 0 _ _ (by decide) (by omega) _ _ _ hX_5
  have hm_5 := (PF_min f 0 _ _ _ _ _ hX_5).1 (by decide)
  have hg_5 : ∀ pf of Lf, x_5 = .inr (pf, of, Lf) → p_5 + 3 ≤ pf ∧ pf ≤ n := fun pf of Lf e => by have h9 := (MnP.then (MnP.sign (ch := 44) hB (by decide)) (MnP.then (MnP.PFE (tag := 0) hB (by decide)) (MnP.then (MnP.closes (ch := 41) hB (by decide)) MnP.emit))) _ _ _ _ _ (show p_5 ≤ n by omega) (show _ = some (Sum.inr (pf, of, Lf)) by rw [← e]; exact hx); exact ⟨by omega, h9.2⟩
  refine pl_callVR (pc := 5) (As := []) (C1 := _) (N1 := _) (C2 := (coX 16 0 5 n p_5 x_5 + 22)) (N2 := (coX 200 0 40 n p_5 x_5 + 284)) ckX18 mdX18_expr rfl q2049 q2051 qs21 q167 dX18_bound_5 rfl rfl (Nat.le_of_ble_eq_true rfl) y1.rd ((H f (Nat.le_refl _)).1 p_1 o_1 (d - 1) _ (.inr (p_5, o_5, L_5)) (by omega) (by omega) (by omega) y1.rd (y1.get htr ht) hX_5) (by omega) (by rcases x_5 with ⟨_, _⟩ | ⟨_, _, _⟩ <;> simp only [coX, appR] <;> first | omega | (have h9 := hg_5 _ _ _ rfl; omega)) (by rcases x_5 with ⟨_, _⟩ | ⟨_, _, _⟩ <;> simp only [coX, appR] <;> first | omega | (have h9 := hg_5 _ _ _ rfl; omega)) (fun p9 o9 L9 q_5 h_5 im_5 M_5 e9 y9 z_5 hh_5 => ?_) (fun _ _ _ _ e _ _ => by cases e)
  cases e9
  have y2 := y1.call y9.1 y9.2.1
  have u_5 := y1.upr y9.2.1
  refine pj_astore_n (pc := 8) (lv' := [(2, _), (0, _), (1, _)]) dX18_bound_8 rfl (by decide) rfl ?_
  refine pl_aload_n (pc := 9) dX18_bound_9 rfl rfl ?_
  refine pl_bipush (pc := 10) (v := 44) dX18_bound_10 (by rfl) ?_
  rw [signP_V (ch := 44) hB (by decide)] at hx
  rcases thenV_cases (v := needP B n 44 p_5 o_5) hx with ⟨k9, w9, hv, rfl⟩ | ⟨p_12, o_12, hv_12, hx⟩
  · refine pl_callVE (pc := 12) (As := [_]) (C1 := 1) (N1 := 8) (C2 := 0) (N2 := 0) ckX18 mdX18_need rfl q2045 q2047 qs20 q167 dX18_bound_12 rfl rfl (Nat.le_of_ble_eq_true rfl) y2.rd (x_X18_need (d := d - 1) (by omega) y2.rd (y2.get htr ht) htr tx (by omega) (by decide) (by decide)) (by omega) (by simp only [coX, appR]; omega) (by simp only [coX, appR]; omega) (fun _ _ _ e _ => by rw [hv] at e; cases e) (fun k8 w8 q8 M8 e8 hq8 hP8 => by rw [hv] at e8; cases e8; exact px_out0 rfl ⟨q8, rfl, hq8, y2.fault hP8⟩)
  have hi_12 := need_in hB (by decide) (by omega) hv_12
  have hg_12 : ∀ pf of Lf, x_5 = .inr (pf, of, Lf) → p_12 + 2 ≤ pf ∧ pf ≤ n := fun pf of Lf e => by have h9 := (MnP.then (MnP.PFE (tag := 0) hB (by decide)) (MnP.then (MnP.closes (ch := 41) hB (by decide)) MnP.emit)) _ _ _ _ _ (show p_12 ≤ n by omega) (show _ = some (Sum.inr (pf, of, Lf)) by rw [← e]; exact hx); exact ⟨by omega, h9.2⟩
  refine pl_callVE (pc := 12) (As := [_]) (C1 := 1) (N1 := 8) (C2 := (coX 16 0 5 n p_12 x_5 + 37)) (N2 := (coX 200 0 40 n p_12 x_5 + 476)) ckX18 mdX18_need rfl q2045 q2047 qs20 q167 dX18_bound_12 rfl rfl (Nat.le_of_ble_eq_true rfl) y2.rd (x_X18_need (d := d - 1) (by omega) y2.rd (y2.get htr ht) htr tx (by omega) (by decide) (by decide)) (by omega) (by rcases x_5 with ⟨_, _⟩ | ⟨_, _, _⟩ <;> simp only [coX, appR] <;> first | omega | (have h9 := hg_12 _ _ _ rfl; omega)) (by rcases x_5 with ⟨_, _⟩ | ⟨_, _, _⟩ <;> simp only [coX, appR] <;> first | omega | (have h9 := hg_12 _ _ _ rfl; omega)) (fun p9 o9 M_12 e9 hX_12 => ?_) (fun _ _ _ _ e _ _ => by rw [hv_12] at e; cases e)
  rw [hv_12] at e9
  cases e9
  have y3 := y2.callV hX_12
  refine pl_aload_n (pc := 15) dX18_bound_15 rfl rfl ?_
  obtain ⟨X_16, hX_16, hx⟩ := thenR_get hx
  rcases X_16 with ⟨k9, w9⟩ | ⟨p_16, o_16, L_16⟩
  · have e9 := bind_l hx
    subst e9
    refine pl_callVR (pc := 16) (As := []) (C1 := _) (N1 := _) (C2 := 0) (N2 := 0) ckX18 mdX18_expr rfl q2049 q2051 qs21 q167 dX18_bound_16 rfl rfl (Nat.le_of_ble_eq_true rfl) y3.rd ((H f (Nat.le_refl _)).1 p_12 o_12 (d - 1) _ (.inl (k9, w9)) (by omega) (by omega) (by omega) y3.rd (y3.get htr ht) hX_16) (by omega) (by simp only [coX, appR]; omega) (by simp only [coX, appR]; omega) (fun _ _ _ _ _ _ _ e _ _ _ => by cases e) (fun k8 w8 q8 M8 e8 hq8 hP8 => by cases e8; exact px_out0 rfl ⟨q8, rfl, hq8, y3.fault hP8⟩)
  obtain ⟨x_16, hz_16, ez_16⟩ := bind_r hx
  clear hx
  subst ez_16
  have hx := hz_16
  obtain ⟨ho_16, hi_16, hn_16⟩ := PF_in hB f 0 _ _ (by decide) (by omega) _ _ _ hX_16
  have hm_16 := (PF_min f 0 _ _ _ _ _ hX_16).1 (by decide)
  have hg_16 : ∀ pf of Lf, x_16 = .inr (pf, of, Lf) → p_16 + 1 ≤ pf ∧ pf ≤ n := fun pf of Lf e => by have h9 := (MnP.then (MnP.closes (ch := 41) hB (by decide)) MnP.emit) _ _ _ _ _ (show p_16 ≤ n by omega) (show _ = some (Sum.inr (pf, of, Lf)) by rw [← e]; exact hx); exact ⟨by omega, h9.2⟩
  refine pl_callVR (pc := 16) (As := []) (C1 := _) (N1 := _) (C2 := (coX 16 0 5 n p_16 x_16 + 52)) (N2 := (coX 200 0 40 n p_16 x_16 + 668)) ckX18 mdX18_expr rfl q2049 q2051 qs21 q167 dX18_bound_16 rfl rfl (Nat.le_of_ble_eq_true rfl) y3.rd ((H f (Nat.le_refl _)).1 p_12 o_12 (d - 1) _ (.inr (p_16, o_16, L_16)) (by omega) (by omega) (by omega) y3.rd (y3.get htr ht) hX_16) (by omega) (by rcases x_16 with ⟨_, _⟩ | ⟨_, _, _⟩ <;> simp only [coX, appR] <;> first | omega | (have h9 := hg_16 _ _ _ rfl; omega)) (by rcases x_16 with ⟨_, _⟩ | ⟨_, _, _⟩ <;> simp only [coX, appR] <;> first | omega | (have h9 := hg_16 _ _ _ rfl; omega)) (fun p9 o9 L9 q_16 h_16 im_16 M_16 e9 y9 z_16 hh_16 => ?_) (fun _ _ _ _ e _ _ => by cases e)
  cases e9
  have y4 := y3.call y9.1 y9.2.1
  have u_16 := y3.upr y9.2.1
  refine pj_astore_n (pc := 19) (lv' := [(3, _), (2, _), (0, _), (1, _)]) dX18_bound_19 rfl (by decide) rfl ?_
  refine pl_aload_n (pc := 20) dX18_bound_20 rfl rfl ?_
  refine pl_bipush (pc := 21) (v := 41) dX18_bound_21 (by rfl) ?_
  rw [closesP_V (ch := 41) hB (by decide)] at hx
  rcases thenV_cases (v := closesR B n 41 p_16 o_16) hx with ⟨k9, w9, hv, rfl⟩ | ⟨p_23, o_23, hv_23, hx⟩
  · refine pl_callVE (pc := 23) (As := [_]) (C1 := 1) (N1 := 8) (C2 := 0) (N2 := 0) ckX18 mdX18_closes rfl q2083 q2085 qs26 q167 dX18_bound_23 rfl rfl (Nat.le_of_ble_eq_true rfl) y4.rd (x_X18_closes (d := d - 1) (by omega) y4.rd (y4.get htr ht) htr tx (by omega) (by decide) (by decide) (by omega)) (by omega) (by simp only [coX, appR]; omega) (by simp only [coX, appR]; omega) (fun _ _ _ e _ => by rw [hv] at e; cases e) (fun k8 w8 q8 M8 e8 hq8 hP8 => by rw [hv] at e8; cases e8; exact px_out0 rfl ⟨q8, rfl, hq8, y4.fault hP8⟩)
  have hi_23 := closes_in hB (by decide) (by omega) hv_23
  have hg_23 : ∀ pf of Lf, x_16 = .inr (pf, of, Lf) → p_23 + 0 ≤ pf ∧ pf ≤ n := fun pf of Lf e => by have h9 := MnP.emit _ _ _ _ _ (show p_23 ≤ n by omega) (show _ = some (Sum.inr (pf, of, Lf)) by rw [← e]; exact hx); exact ⟨by omega, h9.2⟩
  refine pl_callVE (pc := 23) (As := [_]) (C1 := 1) (N1 := 8) (C2 := (coX 16 0 5 n p_23 x_16 + 67)) (N2 := (coX 200 0 40 n p_23 x_16 + 860)) ckX18 mdX18_closes rfl q2083 q2085 qs26 q167 dX18_bound_23 rfl rfl (Nat.le_of_ble_eq_true rfl) y4.rd (x_X18_closes (d := d - 1) (by omega) y4.rd (y4.get htr ht) htr tx (by omega) (by decide) (by decide) (by omega)) (by omega) (by rcases x_16 with ⟨_, _⟩ | ⟨_, _, _⟩ <;> simp only [coX, appR] <;> first | omega | (have h9 := hg_23 _ _ _ rfl; omega)) (by rcases x_16 with ⟨_, _⟩ | ⟨_, _, _⟩ <;> simp only [coX, appR] <;> first | omega | (have h9 := hg_23 _ _ _ rfl; omega)) (fun p9 o9 M_23 e9 hX_23 => ?_) (fun _ _ _ _ e _ _ => by rw [hv_23] at e; cases e)
  rw [hv_23] at e9
  cases e9
  have y5 := y4.callV hX_23
  cases hx
  refine pj_new (pc := 26) (C1 := 0) (N1 := 0) ckX25 q2124 q2125 q174 dX18_bound_26 _ dfX25 (by omega) (by omega) (fun q_26 hn_26 gq_26 => ?_)
  refine pj_dup (pc := 29) dX18_bound_29 rfl ?_
  refine pl_aload_n (pc := 30) dX18_bound_30 rfl rfl ?_
  refine pl_aload_n (pc := 31) dX18_bound_31 rfl rfl ?_
  refine pl_iload_n (pc := 32) dX18_bound_32 rfl rfl ?_
  refine pl_callIv (pc := 33) (As := [_, _, _]) (C1 := 0) (N1 := 0) (C2 := 0) (N2 := 0) mdX25_init rfl q2126 q2127 q174 dX18_bound_33 rfl rfl (Nat.le_of_ble_eq_true rfl) (k_X25_init (d := d - 1) (by omega) mset_s) (by omega) (by omega) (by omega) ?_
  refine PJ.mem mset_m ?_
  refine pj_aret (pc := 36) dX18_bound_36 rfl (Or.inl ⟨_, rfl⟩) (Or.inr ⟨_, rfl⟩) ?_
  have hk := (StX.new (c := .inr (27, [.ref q_5, .ref q_16, .int (nI 32), .int (bI l)])) y5 hn_26).keep (y5.mu hn_26) mset_s
  have hin := y5.imn hn_26
  refine ⟨q_26, _, max h_5 h_16 + 1, rfl, hk, GdE.mkBound mset_s (z_5.mono (fun a e z => mset_up hin a e (imU_l a e (u_5 a e z))) (by omega)) (z_16.mono (fun a e z => mset_up hin a e (u_16 a e z)) (by omega)), by omega⟩
set_option maxHeartbeats 400000 in
theorem K_X18_choice {g : GP} {rd t n : Nat} {r : Nat → Int32} {B : Nat → Nat} (htr : t ≠ rd) (tx : TxR r n B) {f : Nat} (H : ∀ f1, f1 ≤ f → KAX g rd t n r B f1) : ∀ (p o d : Nat) (μ : Mem) (x : RP), p ≤ n → o ≤ 8 → 20 + 8 * (8 - o) ≤ d → μ rd = some (rdO t n p o) → μ t = some (intX g 2 300 r) → choiceP B n f p o = some x → PM g yX18_choice (ws_ yX18_choice cX18_choice 4 (some (.object "SettlerColony$Expr"))) d (coX 16 8 5 n p x) (coX 200 100 40 n p x) [.ref rd] μ (RVX g GdE μ rd t n p 1 x) := by
  intro p o d μ x hp ho hd h0 ht hx
  have hn3 := tx.1
  have hB := tx.2.2.2
  have y0 := StX.rf h0
  unfold choiceP at hx
  refine PM.of (by decide +kernel) (Nat.le_of_ble_eq_true rfl) ?_
  refine PJ.ok (fun G => ?_)
  show PJ g _ _ _ _ d (coX 16 8 5 n p x) (coX 200 100 40 n p x) 0 [(0, .ref rd)] [] _ _
  refine pl_aload_n (pc := 0) dX18_choice_0 rfl rfl ?_
  rw [bracketP_V] at hx
  rcases thenV_cases (v := bracketR B n p o) hx with ⟨k9, w9, hv, rfl⟩ | ⟨p_1, o_1, hv_1, hx⟩
  · refine pl_callVE (pc := 1) (As := []) (C1 := 1) (N1 := 8) (C2 := 0) (N2 := 0) ckX18 mdX18_bracket rfl q2120 q2122 qs28 q167 dX18_choice_1 rfl rfl (Nat.le_of_ble_eq_true rfl) y0.rd (x_X18_bracket (d := d - 1) (by omega) y0.rd (y0.get htr ht) htr tx (by omega) (by omega)) (by omega) (by simp only [coX, appR]; omega) (by simp only [coX, appR]; omega) (fun _ _ _ e _ => by rw [hv] at e; cases e) (fun k8 w8 q8 M8 e8 hq8 hP8 => by rw [hv] at e8; cases e8; exact px_out0 rfl ⟨q8, rfl, hq8, y0.fault hP8⟩)
  have hi_1 := bracket_in hB (by omega) hv_1
  have hg_1 : ∀ pf of Lf, x = .inr (pf, of, Lf) → p_1 + 8 ≤ pf ∧ pf ≤ n := fun pf of Lf e => by have h9 := (MnP.then (MnP.PFT (tag := 5) hB (by decide)) (MnP.then (MnP.sign (ch := 44) hB (by decide)) (MnP.then (MnP.PFE (tag := 0) hB (by decide)) (MnP.then (MnP.sign (ch := 44) hB (by decide)) (MnP.then (MnP.PFE (tag := 0) hB (by decide)) (MnP.then (MnP.closes (ch := 41) hB (by decide)) MnP.emit)))))) _ _ _ _ _ (show p_1 ≤ n by omega) (show _ = some (Sum.inr (pf, of, Lf)) by rw [← e]; exact hx); exact ⟨by omega, h9.2⟩
  refine pl_callVE (pc := 1) (As := []) (C1 := 1) (N1 := 8) (C2 := (coX 16 0 13 n p_1 x + 7)) (N2 := (coX 200 0 40 n p_1 x + 92)) ckX18 mdX18_bracket rfl q2120 q2122 qs28 q167 dX18_choice_1 rfl rfl (Nat.le_of_ble_eq_true rfl) y0.rd (x_X18_bracket (d := d - 1) (by omega) y0.rd (y0.get htr ht) htr tx (by omega) (by omega)) (by omega) (by rcases x with ⟨_, _⟩ | ⟨_, _, _⟩ <;> simp only [coX, appR] <;> first | omega | (have h9 := hg_1 _ _ _ rfl; omega)) (by rcases x with ⟨_, _⟩ | ⟨_, _, _⟩ <;> simp only [coX, appR] <;> first | omega | (have h9 := hg_1 _ _ _ rfl; omega)) (fun p9 o9 M_1 e9 hX_1 => ?_) (fun _ _ _ _ e _ _ => by rw [hv_1] at e; cases e)
  rw [hv_1] at e9
  cases e9
  have y1 := y0.callV hX_1
  refine pl_aload_n (pc := 4) dX18_choice_4 rfl rfl ?_
  obtain ⟨X_5, hX_5, hx⟩ := thenR_get hx
  rcases X_5 with ⟨k9, w9⟩ | ⟨p_5, o_5, L_5⟩
  · have e9 := bind_l hx
    subst e9
    refine pl_callVR (pc := 5) (As := []) (C1 := _) (N1 := _) (C2 := 0) (N2 := 0) ckX18 mdX18_any rfl q2154 q2156 qs30 q167 dX18_choice_5 rfl rfl (Nat.le_of_ble_eq_true rfl) y1.rd ((H f (Nat.le_refl _)).2.2.2.2.2 p_1 o_1 (d - 1) _ (.inl (k9, w9)) (by omega) (by omega) (by omega) y1.rd (y1.get htr ht) hX_5) (by omega) (by simp only [coX, appR]; omega) (by simp only [coX, appR]; omega) (fun _ _ _ _ _ _ _ e _ _ _ => by cases e) (fun k8 w8 q8 M8 e8 hq8 hP8 => by cases e8; exact px_out0 rfl ⟨q8, rfl, hq8, y1.fault hP8⟩)
  obtain ⟨x_5, hz_5, ez_5⟩ := bind_r hx
  clear hx
  subst ez_5
  have hx := hz_5
  obtain ⟨ho_5, hi_5, hn_5⟩ := PF_in hB f 5 _ _ (by decide) (by omega) _ _ _ hX_5
  have hm_5 := (PF_min f 5 _ _ _ _ _ hX_5).2 (by decide)
  have hg_5 : ∀ pf of Lf, x_5 = .inr (pf, of, Lf) → p_5 + 5 ≤ pf ∧ pf ≤ n := fun pf of Lf e => by have h9 := (MnP.then (MnP.sign (ch := 44) hB (by decide)) (MnP.then (MnP.PFE (tag := 0) hB (by decide)) (MnP.then (MnP.sign (ch := 44) hB (by decide)) (MnP.then (MnP.PFE (tag := 0) hB (by decide)) (MnP.then (MnP.closes (ch := 41) hB (by decide)) MnP.emit))))) _ _ _ _ _ (show p_5 ≤ n by omega) (show _ = some (Sum.inr (pf, of, Lf)) by rw [← e]; exact hx); exact ⟨by omega, h9.2⟩
  refine pl_callVR (pc := 5) (As := []) (C1 := _) (N1 := _) (C2 := (coX 16 0 13 n p_5 x_5 + 32)) (N2 := (coX 200 0 40 n p_5 x_5 + 263)) ckX18 mdX18_any rfl q2154 q2156 qs30 q167 dX18_choice_5 rfl rfl (Nat.le_of_ble_eq_true rfl) y1.rd ((H f (Nat.le_refl _)).2.2.2.2.2 p_1 o_1 (d - 1) _ (.inr (p_5, o_5, L_5)) (by omega) (by omega) (by omega) y1.rd (y1.get htr ht) hX_5) (by omega) (by rcases x_5 with ⟨_, _⟩ | ⟨_, _, _⟩ <;> simp only [coX, appR] <;> first | omega | (have h9 := hg_5 _ _ _ rfl; omega)) (by rcases x_5 with ⟨_, _⟩ | ⟨_, _, _⟩ <;> simp only [coX, appR] <;> first | omega | (have h9 := hg_5 _ _ _ rfl; omega)) (fun p9 o9 L9 q_5 h_5 im_5 M_5 e9 y9 z_5 hh_5 => ?_) (fun _ _ _ _ e _ _ => by cases e)
  cases e9
  have y2 := y1.call y9.1 y9.2.1
  have u_5 := y1.upr y9.2.1
  refine pj_astore_n (pc := 8) (lv' := [(1, _), (0, _)]) dX18_choice_8 rfl (by decide) rfl ?_
  refine pl_aload_n (pc := 9) dX18_choice_9 rfl rfl ?_
  refine pl_bipush (pc := 10) (v := 44) dX18_choice_10 (by rfl) ?_
  rw [signP_V (ch := 44) hB (by decide)] at hx
  rcases thenV_cases (v := needP B n 44 p_5 o_5) hx with ⟨k9, w9, hv, rfl⟩ | ⟨p_12, o_12, hv_12, hx⟩
  · refine pl_callVE (pc := 12) (As := [_]) (C1 := 1) (N1 := 8) (C2 := 0) (N2 := 0) ckX18 mdX18_need rfl q2045 q2047 qs20 q167 dX18_choice_12 rfl rfl (Nat.le_of_ble_eq_true rfl) y2.rd (x_X18_need (d := d - 1) (by omega) y2.rd (y2.get htr ht) htr tx (by omega) (by decide) (by decide)) (by omega) (by simp only [coX, appR]; omega) (by simp only [coX, appR]; omega) (fun _ _ _ e _ => by rw [hv] at e; cases e) (fun k8 w8 q8 M8 e8 hq8 hP8 => by rw [hv] at e8; cases e8; exact px_out0 rfl ⟨q8, rfl, hq8, y2.fault hP8⟩)
  have hi_12 := need_in hB (by decide) (by omega) hv_12
  have hg_12 : ∀ pf of Lf, x_5 = .inr (pf, of, Lf) → p_12 + 4 ≤ pf ∧ pf ≤ n := fun pf of Lf e => by have h9 := (MnP.then (MnP.PFE (tag := 0) hB (by decide)) (MnP.then (MnP.sign (ch := 44) hB (by decide)) (MnP.then (MnP.PFE (tag := 0) hB (by decide)) (MnP.then (MnP.closes (ch := 41) hB (by decide)) MnP.emit)))) _ _ _ _ _ (show p_12 ≤ n by omega) (show _ = some (Sum.inr (pf, of, Lf)) by rw [← e]; exact hx); exact ⟨by omega, h9.2⟩
  refine pl_callVE (pc := 12) (As := [_]) (C1 := 1) (N1 := 8) (C2 := (coX 16 0 13 n p_12 x_5 + 47)) (N2 := (coX 200 0 40 n p_12 x_5 + 455)) ckX18 mdX18_need rfl q2045 q2047 qs20 q167 dX18_choice_12 rfl rfl (Nat.le_of_ble_eq_true rfl) y2.rd (x_X18_need (d := d - 1) (by omega) y2.rd (y2.get htr ht) htr tx (by omega) (by decide) (by decide)) (by omega) (by rcases x_5 with ⟨_, _⟩ | ⟨_, _, _⟩ <;> simp only [coX, appR] <;> first | omega | (have h9 := hg_12 _ _ _ rfl; omega)) (by rcases x_5 with ⟨_, _⟩ | ⟨_, _, _⟩ <;> simp only [coX, appR] <;> first | omega | (have h9 := hg_12 _ _ _ rfl; omega)) (fun p9 o9 M_12 e9 hX_12 => ?_) (fun _ _ _ _ e _ _ => by rw [hv_12] at e; cases e)
  rw [hv_12] at e9
  cases e9
  have y3 := y2.callV hX_12
  refine pl_aload_n (pc := 15) dX18_choice_15 rfl rfl ?_
  obtain ⟨X_16, hX_16, hx⟩ := thenR_get hx
  rcases X_16 with ⟨k9, w9⟩ | ⟨p_16, o_16, L_16⟩
  · have e9 := bind_l hx
    subst e9
    refine pl_callVR (pc := 16) (As := []) (C1 := _) (N1 := _) (C2 := 0) (N2 := 0) ckX18 mdX18_expr rfl q2049 q2051 qs21 q167 dX18_choice_16 rfl rfl (Nat.le_of_ble_eq_true rfl) y3.rd ((H f (Nat.le_refl _)).1 p_12 o_12 (d - 1) _ (.inl (k9, w9)) (by omega) (by omega) (by omega) y3.rd (y3.get htr ht) hX_16) (by omega) (by simp only [coX, appR]; omega) (by simp only [coX, appR]; omega) (fun _ _ _ _ _ _ _ e _ _ _ => by cases e) (fun k8 w8 q8 M8 e8 hq8 hP8 => by cases e8; exact px_out0 rfl ⟨q8, rfl, hq8, y3.fault hP8⟩)
  obtain ⟨x_16, hz_16, ez_16⟩ := bind_r hx
  clear hx
  subst ez_16
  have hx := hz_16
  obtain ⟨ho_16, hi_16, hn_16⟩ := PF_in hB f 0 _ _ (by decide) (by omega) _ _ _ hX_16
  have hm_16 := (PF_min f 0 _ _ _ _ _ hX_16).1 (by decide)
  have hg_16 : ∀ pf of Lf, x_16 = .inr (pf, of, Lf) → p_16 + 3 ≤ pf ∧ pf ≤ n := fun pf of Lf e => by have h9 := (MnP.then (MnP.sign (ch := 44) hB (by decide)) (MnP.then (MnP.PFE (tag := 0) hB (by decide)) (MnP.then (MnP.closes (ch := 41) hB (by decide)) MnP.emit))) _ _ _ _ _ (show p_16 ≤ n by omega) (show _ = some (Sum.inr (pf, of, Lf)) by rw [← e]; exact hx); exact ⟨by omega, h9.2⟩
  refine pl_callVR (pc := 16) (As := []) (C1 := _) (N1 := _) (C2 := (coX 16 0 13 n p_16 x_16 + 62)) (N2 := (coX 200 0 40 n p_16 x_16 + 647)) ckX18 mdX18_expr rfl q2049 q2051 qs21 q167 dX18_choice_16 rfl rfl (Nat.le_of_ble_eq_true rfl) y3.rd ((H f (Nat.le_refl _)).1 p_12 o_12 (d - 1) _ (.inr (p_16, o_16, L_16)) (by omega) (by omega) (by omega) y3.rd (y3.get htr ht) hX_16) (by omega) (by rcases x_16 with ⟨_, _⟩ | ⟨_, _, _⟩ <;> simp only [coX, appR] <;> first | omega | (have h9 := hg_16 _ _ _ rfl; omega)) (by rcases x_16 with ⟨_, _⟩ | ⟨_, _, _⟩ <;> simp only [coX, appR] <;> first | omega | (have h9 := hg_16 _ _ _ rfl; omega)) (fun p9 o9 L9 q_16 h_16 im_16 M_16 e9 y9 z_16 hh_16 => ?_) (fun _ _ _ _ e _ _ => by cases e)
  cases e9
  have y4 := y3.call y9.1 y9.2.1
  have u_16 := y3.upr y9.2.1
  refine pj_astore_n (pc := 19) (lv' := [(2, _), (1, _), (0, _)]) dX18_choice_19 rfl (by decide) rfl ?_
  refine pl_aload_n (pc := 20) dX18_choice_20 rfl rfl ?_
  refine pl_bipush (pc := 21) (v := 44) dX18_choice_21 (by rfl) ?_
  rw [signP_V (ch := 44) hB (by decide)] at hx
  rcases thenV_cases (v := needP B n 44 p_16 o_16) hx with ⟨k9, w9, hv, rfl⟩ | ⟨p_23, o_23, hv_23, hx⟩
  · refine pl_callVE (pc := 23) (As := [_]) (C1 := 1) (N1 := 8) (C2 := 0) (N2 := 0) ckX18 mdX18_need rfl q2045 q2047 qs20 q167 dX18_choice_23 rfl rfl (Nat.le_of_ble_eq_true rfl) y4.rd (x_X18_need (d := d - 1) (by omega) y4.rd (y4.get htr ht) htr tx (by omega) (by decide) (by decide)) (by omega) (by simp only [coX, appR]; omega) (by simp only [coX, appR]; omega) (fun _ _ _ e _ => by rw [hv] at e; cases e) (fun k8 w8 q8 M8 e8 hq8 hP8 => by rw [hv] at e8; cases e8; exact px_out0 rfl ⟨q8, rfl, hq8, y4.fault hP8⟩)
  have hi_23 := need_in hB (by decide) (by omega) hv_23
  have hg_23 : ∀ pf of Lf, x_16 = .inr (pf, of, Lf) → p_23 + 2 ≤ pf ∧ pf ≤ n := fun pf of Lf e => by have h9 := (MnP.then (MnP.PFE (tag := 0) hB (by decide)) (MnP.then (MnP.closes (ch := 41) hB (by decide)) MnP.emit)) _ _ _ _ _ (show p_23 ≤ n by omega) (show _ = some (Sum.inr (pf, of, Lf)) by rw [← e]; exact hx); exact ⟨by omega, h9.2⟩
  refine pl_callVE (pc := 23) (As := [_]) (C1 := 1) (N1 := 8) (C2 := (coX 16 0 13 n p_23 x_16 + 77)) (N2 := (coX 200 0 40 n p_23 x_16 + 839)) ckX18 mdX18_need rfl q2045 q2047 qs20 q167 dX18_choice_23 rfl rfl (Nat.le_of_ble_eq_true rfl) y4.rd (x_X18_need (d := d - 1) (by omega) y4.rd (y4.get htr ht) htr tx (by omega) (by decide) (by decide)) (by omega) (by rcases x_16 with ⟨_, _⟩ | ⟨_, _, _⟩ <;> simp only [coX, appR] <;> first | omega | (have h9 := hg_23 _ _ _ rfl; omega)) (by rcases x_16 with ⟨_, _⟩ | ⟨_, _, _⟩ <;> simp only [coX, appR] <;> first | omega | (have h9 := hg_23 _ _ _ rfl; omega)) (fun p9 o9 M_23 e9 hX_23 => ?_) (fun _ _ _ _ e _ _ => by rw [hv_23] at e; cases e)
  rw [hv_23] at e9
  cases e9
  have y5 := y4.callV hX_23
  refine pl_aload_n (pc := 26) dX18_choice_26 rfl rfl ?_
  obtain ⟨X_27, hX_27, hx⟩ := thenR_get hx
  rcases X_27 with ⟨k9, w9⟩ | ⟨p_27, o_27, L_27⟩
  · have e9 := bind_l hx
    subst e9
    refine pl_callVR (pc := 27) (As := []) (C1 := _) (N1 := _) (C2 := 0) (N2 := 0) ckX18 mdX18_expr rfl q2049 q2051 qs21 q167 dX18_choice_27 rfl rfl (Nat.le_of_ble_eq_true rfl) y5.rd ((H f (Nat.le_refl _)).1 p_23 o_23 (d - 1) _ (.inl (k9, w9)) (by omega) (by omega) (by omega) y5.rd (y5.get htr ht) hX_27) (by omega) (by simp only [coX, appR]; omega) (by simp only [coX, appR]; omega) (fun _ _ _ _ _ _ _ e _ _ _ => by cases e) (fun k8 w8 q8 M8 e8 hq8 hP8 => by cases e8; exact px_out0 rfl ⟨q8, rfl, hq8, y5.fault hP8⟩)
  obtain ⟨x_27, hz_27, ez_27⟩ := bind_r hx
  clear hx
  subst ez_27
  have hx := hz_27
  obtain ⟨ho_27, hi_27, hn_27⟩ := PF_in hB f 0 _ _ (by decide) (by omega) _ _ _ hX_27
  have hm_27 := (PF_min f 0 _ _ _ _ _ hX_27).1 (by decide)
  have hg_27 : ∀ pf of Lf, x_27 = .inr (pf, of, Lf) → p_27 + 1 ≤ pf ∧ pf ≤ n := fun pf of Lf e => by have h9 := (MnP.then (MnP.closes (ch := 41) hB (by decide)) MnP.emit) _ _ _ _ _ (show p_27 ≤ n by omega) (show _ = some (Sum.inr (pf, of, Lf)) by rw [← e]; exact hx); exact ⟨by omega, h9.2⟩
  refine pl_callVR (pc := 27) (As := []) (C1 := _) (N1 := _) (C2 := (coX 16 0 13 n p_27 x_27 + 92)) (N2 := (coX 200 0 40 n p_27 x_27 + 1031)) ckX18 mdX18_expr rfl q2049 q2051 qs21 q167 dX18_choice_27 rfl rfl (Nat.le_of_ble_eq_true rfl) y5.rd ((H f (Nat.le_refl _)).1 p_23 o_23 (d - 1) _ (.inr (p_27, o_27, L_27)) (by omega) (by omega) (by omega) y5.rd (y5.get htr ht) hX_27) (by omega) (by rcases x_27 with ⟨_, _⟩ | ⟨_, _, _⟩ <;> simp only [coX, appR] <;> first | omega | (have h9 := hg_27 _ _ _ rfl; omega)) (by rcases x_27 with ⟨_, _⟩ | ⟨_, _, _⟩ <;> simp only [coX, appR] <;> first | omega | (have h9 := hg_27 _ _ _ rfl; omega)) (fun p9 o9 L9 q_27 h_27 im_27 M_27 e9 y9 z_27 hh_27 => ?_) (fun _ _ _ _ e _ _ => by cases e)
  cases e9
  have y6 := y5.call y9.1 y9.2.1
  have u_27 := y5.upr y9.2.1
  refine pj_astore_n (pc := 30) (lv' := [(3, _), (2, _), (1, _), (0, _)]) dX18_choice_30 rfl (by decide) rfl ?_
  refine pl_aload_n (pc := 31) dX18_choice_31 rfl rfl ?_
  refine pl_bipush (pc := 32) (v := 41) dX18_choice_32 (by rfl) ?_
  rw [closesP_V (ch := 41) hB (by decide)] at hx
  rcases thenV_cases (v := closesR B n 41 p_27 o_27) hx with ⟨k9, w9, hv, rfl⟩ | ⟨p_34, o_34, hv_34, hx⟩
  · refine pl_callVE (pc := 34) (As := [_]) (C1 := 1) (N1 := 8) (C2 := 0) (N2 := 0) ckX18 mdX18_closes rfl q2083 q2085 qs26 q167 dX18_choice_34 rfl rfl (Nat.le_of_ble_eq_true rfl) y6.rd (x_X18_closes (d := d - 1) (by omega) y6.rd (y6.get htr ht) htr tx (by omega) (by decide) (by decide) (by omega)) (by omega) (by simp only [coX, appR]; omega) (by simp only [coX, appR]; omega) (fun _ _ _ e _ => by rw [hv] at e; cases e) (fun k8 w8 q8 M8 e8 hq8 hP8 => by rw [hv] at e8; cases e8; exact px_out0 rfl ⟨q8, rfl, hq8, y6.fault hP8⟩)
  have hi_34 := closes_in hB (by decide) (by omega) hv_34
  have hg_34 : ∀ pf of Lf, x_27 = .inr (pf, of, Lf) → p_34 + 0 ≤ pf ∧ pf ≤ n := fun pf of Lf e => by have h9 := MnP.emit _ _ _ _ _ (show p_34 ≤ n by omega) (show _ = some (Sum.inr (pf, of, Lf)) by rw [← e]; exact hx); exact ⟨by omega, h9.2⟩
  refine pl_callVE (pc := 34) (As := [_]) (C1 := 1) (N1 := 8) (C2 := (coX 16 0 13 n p_34 x_27 + 107)) (N2 := (coX 200 0 40 n p_34 x_27 + 1223)) ckX18 mdX18_closes rfl q2083 q2085 qs26 q167 dX18_choice_34 rfl rfl (Nat.le_of_ble_eq_true rfl) y6.rd (x_X18_closes (d := d - 1) (by omega) y6.rd (y6.get htr ht) htr tx (by omega) (by decide) (by decide) (by omega)) (by omega) (by rcases x_27 with ⟨_, _⟩ | ⟨_, _, _⟩ <;> simp only [coX, appR] <;> first | omega | (have h9 := hg_34 _ _ _ rfl; omega)) (by rcases x_27 with ⟨_, _⟩ | ⟨_, _, _⟩ <;> simp only [coX, appR] <;> first | omega | (have h9 := hg_34 _ _ _ rfl; omega)) (fun p9 o9 M_34 e9 hX_34 => ?_) (fun _ _ _ _ e _ _ => by rw [hv_34] at e; cases e)
  rw [hv_34] at e9
  cases e9
  have y7 := y6.callV hX_34
  cases hx
  refine pj_new (pc := 37) (C1 := 0) (N1 := 0) ckX30 q2220 q2221 q179 dX18_choice_37 _ dfX30 (by omega) (by omega) (fun q_37 hn_37 gq_37 => ?_)
  refine pj_dup (pc := 40) dX18_choice_40 rfl ?_
  refine pl_aload_n (pc := 41) dX18_choice_41 rfl rfl ?_
  refine pl_aload_n (pc := 42) dX18_choice_42 rfl rfl ?_
  refine pl_aload_n (pc := 43) dX18_choice_43 rfl rfl ?_
  refine pl_callIv (pc := 44) (As := [_, _, _]) (C1 := 0) (N1 := 0) (C2 := 0) (N2 := 0) mdX30_init rfl q2222 q2223 q179 dX18_choice_44 rfl rfl (Nat.le_of_ble_eq_true rfl) (k_X30_init (d := d - 1) (by omega) mset_s) (by omega) (by omega) (by omega) ?_
  refine PJ.mem mset_m ?_
  refine pj_aret (pc := 47) dX18_choice_47 rfl (Or.inl ⟨_, rfl⟩) (Or.inr ⟨_, rfl⟩) ?_
  have hk := (StX.new (c := .inr (32, [.ref q_16, .ref q_27, .int (nI 63), .ref q_5])) y7 hn_37).keep (y7.mu hn_37) mset_s
  have hin := y7.imn hn_37
  refine ⟨q_37, _, max h_5 (max h_16 h_27) + 1, rfl, hk, GdE.mkIf mset_s (z_5.mono (fun a e z => mset_up hin a e (imU_l a e (imU_l a e (u_5 a e z)))) (by omega)) (z_16.mono (fun a e z => mset_up hin a e (imU_l a e (u_16 a e z))) (by omega)) (z_27.mono (fun a e z => mset_up hin a e (u_27 a e z)) (by omega)), by omega⟩
