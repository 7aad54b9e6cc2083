set_option maxRecDepth 100000
set_option maxHeartbeats 400000 in
theorem K_X18_all {g : GP} {rd t n : Nat} {r : Nat → Int32} {B : Nat → Nat} (htr : t ≠ rd) (tx : TxR r n B) {f : Nat} (H : ∀ f1, f1 ≤ f → KAX g rd t n r B f1) : KX g GdT rd t n r yX18_all (ws_ yX18_all cX18_all 2 (some (.object "SettlerColony$Cond"))) 1 5 33 12 360 78 (PF B n (f + 1) 7) := by
  intro p o d μ x hp ho hd h0 ht hx
  have hn3 := tx.1
  have hB := tx.2.2.2
  have y0 := StX.rf h0
  rw [PF_7] at hx
  have key : ∀ f1, f1 ≤ f → ∀ (a pl m h p1 : Nat) (x2 : RP) (im M : Mem) (ts : Nat → Fb4) (L0 : List Cd), StX μ rd t n p1 o im M → LsT g μ im M rd a pl true m h ts → DenT L0 (tsT true m ts) → h + 1 + p ≤ p1 → 3 * m + p ≤ p1 → 1 ≤ m → p1 ≤ n → PF B n f1 8 p1 o = some x2 → PJ g yX18_all.cls cX18_all 2 (some (.object "SettlerColony$Cond"), yX18_all.name, []) d (coX 16 0 9 n p1 x2 + 4) (coX 200 0 72 n p1 x2 + 32) 20 [(1, .ref a), (0, .ref rd)] [] M (RVX g GdT μ rd t n p 1 (appR L0 x2)) := by
    intro f1
    induction f1 with
    | zero =>
      intro hf1 a pl m h p1 x2 im M ts L0 y l hD hh hm hm1 hp1 hx2
      cases (show (none : Option RP) = some x2 from hx2)
    | succ f1 ih =>
      intro hf1 a pl m h p1 x2 im M ts L0 y l hD hh hm hm1 hp1 hx2
      have hsk := sk_in (B := B) hp1
      rw [PF_8] at hx2
      refine PJ.ok (fun G => ?_)
      refine pl_aload_n (pc := 20) dX18_all_20 rfl rfl ?_
      obtain ⟨a219, v219, vr219, sc219⟩ := lit_X18_219 G
      refine pj_ldcS (pc := 21) vr219 dX18_all_21 ?_
      refine pl_callVWd (pc := 23) (As := [_]) (C1 := 4) (N1 := 32) (C2 := (coX 16 0 9 n p1 x2)) (N2 := (coX 200 0 72 n p1 x2)) ckX18 mdX18_takes rfl q2040 q2042 qs19 q167 dX18_all_23 rfl rfl (Nat.le_of_ble_eq_true rfl) y.rd (x_X18_takes (d := d - 1) (bs := wAnd) (by omega) y.rd (y.get htr ht) htr tx (by omega) sc219 (by decide) (by decide)) (by omega) (by omega) (by omega) (fun My1 qy1 => ?_)
      have ky1 := qy1
      have y1 := y.callV qy1
      have hpy1 := (sk_in (B := B) (show p1 ≤ n by omega))
      refine pl_if_neB (pc := 26) (tgt := 8) dX18_all_26 (by decide) (fun c26 => ?_) (fun c26 => ?_)
      · have hw : isW B (sk B n p1) wAnd = true := c26
        have hlt := isW_in hw (by decide) hB hsk.2
        have hwl9 : wAnd.length = 3 := rfl
        rw [if_pos hw, show wAnd.length = 3 from rfl] at y1
        rw [if_pos hw, thenR_assoc] at hx2
        have l1 := l.kp ky1
        obtain ⟨X3, hX3, hx3⟩ := thenR_get hx2
        rcases X3 with ⟨k9, w9⟩ | ⟨p3, o3, L3⟩
        · have e9 := bind_l hx3
          subst e9
          refine pl_aload_n (pc := 8) dX18_all_8 rfl rfl ?_
          refine pj_getfS (pc := 9) ckX27 0 q2170 q2168 dX18_all_9 (by decide) l1.cell rfl ?_
          refine pl_aload_n (pc := 12) dX18_all_12 rfl rfl ?_
          refine pl_callVR (pc := 13) (As := []) (C1 := _) (N1 := _) (C2 := 0) (N2 := 0) ckX18 mdX18_one rfl q2186 q2188 qs32 q167 dX18_all_13 rfl rfl (Nat.le_of_ble_eq_true rfl) y1.rd ((H f1 (by omega)).2.2.2.1 (sk B n p1 + 3) o (d - 1) _ (.inl (k9, w9)) (by omega) (by omega) (by omega) y1.rd (y1.get htr ht) hX3) (by omega) (by simp only [coX, appR]; omega) (by simp only [coX, appR]; omega) (fun _ _ _ _ _ _ _ e _ _ _ => by cases e) (fun k8 w8 q8 M8 e8 hq8 hP8 => by cases e8; exact px_out0 rfl ⟨q8, rfl, hq8, y1.fault hP8⟩)
        · obtain ⟨x4, hx4, rfl⟩ := bind_r hx3
          obtain ⟨x5, hx5, rfl⟩ := emit_get hx4
          obtain ⟨ho3, hi3, hn9⟩ := PF_in hB f1 9 _ _ (by decide) (by omega) _ _ _ hX3
          have ho4 := ho3.symm
          subst ho4
          have hm3 := (PF_min f1 9 _ _ _ _ _ hX3).2 (by decide)
          have hg5 : ∀ pf of Lf, x5 = .inr (pf, of, Lf) → p3 ≤ pf ∧ pf ≤ n := fun pf of Lf e => MnP.PFL (tag := 8) hB (by decide) _ _ _ _ _ (show p3 ≤ n by omega) (show _ = some (Sum.inr (pf, of, Lf)) by rw [← e]; exact hx5)
          refine pl_aload_n (pc := 8) dX18_all_8 rfl rfl ?_
          refine pj_getfS (pc := 9) ckX27 0 q2170 q2168 dX18_all_9 (by decide) l1.cell rfl ?_
          refine pl_aload_n (pc := 12) dX18_all_12 rfl rfl ?_
          refine pl_callVR (pc := 13) (As := []) (C1 := _) (N1 := _) (C2 := (coX 16 0 9 n p3 x5 + 5)) (N2 := (coX 200 0 72 n p3 x5 + 183)) ckX18 mdX18_one rfl q2186 q2188 qs32 q167 dX18_all_13 rfl rfl (Nat.le_of_ble_eq_true rfl) y1.rd ((H f1 (by omega)).2.2.2.1 (sk B n p1 + 3) o (d - 1) _ (.inr (p3, o, L3)) (by omega) (by omega) (by omega) y1.rd (y1.get htr ht) hX3) (by omega) (by rcases x5 with ⟨_, _⟩ | ⟨_, _, _⟩ <;> simp only [coX, appR] <;> first | omega | (have h9 := hg5 _ _ _ rfl; omega)) (by rcases x5 with ⟨_, _⟩ | ⟨_, _, _⟩ <;> simp only [coX, appR] <;> first | omega | (have h9 := hg5 _ _ _ rfl; omega)) (fun p9 o9 L9 q_3 h_3 im_3 M_3 e9 y9 z_3 hh_3 => ?_) (fun _ _ _ _ e _ _ => by cases e)
          cases e9
          obtain ⟨e_a, cap_a, fn_a, mc_a, ci_a, vs_a, rr_a, la1, la2, la3, la4, la5, la6, la7, la8, la9, la10⟩ := l1.add y1 y9 z_3
          refine pl_add (pc := 16) (C1 := (coX 16 0 9 n p3 x5 + 4)) (N1 := (coX 200 0 72 n p3 x5 + 32)) q2217 dX18_all_16 (by omega) la1 (by omega) la2 la3 la4 la5 la6 la7 la8 la9 (Nat.le_of_ble_eq_true rfl) (by omega) (by omega) (fun q2_a m1_a mc1_a ha1 ha2 ha3 => ?_)
          obtain ⟨ts_a, y_a, l_a, da1, da2⟩ := la10 q2_a m1_a mc1_a ha1 ha2 ha3
          refine pj_pop (pc := 19) dX18_all_19 rfl ?_
          have e_9 : appR L0 (appR L3 (appR [(9, nI 0)] x5)) = appR (L0 ++ (L3 ++ [(9, nI 0)])) x5 := by rw [appR_app, appR_app, List.append_assoc]
          rw [e_9]
          exact ih (by omega) a pl (m + 1) _ p3 x5 _ _ ts_a _ y_a l_a (da2 L0 hD) (by omega) (by omega) (by omega) (by omega) hx5
      · refine pl_aload_n (pc := 29) dX18_all_29 rfl rfl ?_
        refine pj_aret (pc := 30) dX18_all_30 rfl (Or.inl ⟨_, rfl⟩) (Or.inr ⟨_, rfl⟩) ?_
        have hw : ¬ isW B (sk B n p1) wAnd = true := by rw [c26]; decide
        rw [if_neg hw] at y1
        rw [if_neg hw] at hx2
        have e_9 : x2 = .inr (sk B n p1, o, []) := (Option.some.inj hx2).symm
        subst e_9
        rw [appR_end]
        obtain ⟨im9, y_9, z_9⟩ := (l.kp ky1).fin y1 (by omega) hD
        exact ⟨a, im9, _, rfl, y_9, z_9, by omega⟩
  obtain ⟨X3, hX3, hx3⟩ := thenR_get hx
  refine PM.of (by decide +kernel) (Nat.le_of_ble_eq_true rfl) ?_
  refine PJ.ok (fun G => ?_)
  show PJ g _ _ _ _ d (coX 16 33 12 n p x) (coX 200 360 78 n p x) 0 [(0, .ref rd)] [] _ _
  rcases X3 with ⟨k9, w9⟩ | ⟨p3, o3, L3⟩
  · have e9 := bind_l hx3
    subst e9
    refine PJ.widen (C1 := 16 * (n - p) + 12) (N1 := 200 * (n - p) + 78) (Nat.le_refl _) (Nat.le_refl _) ?_
    refine pj_new (pc := 0) (C1 := (16 * (n - p) + 11)) (N1 := (200 * (n - p) + 77)) ckX27 q2178 q2179 q176 dX18_all_0 _ dfX27 (by omega) (by omega) (fun q_0 hn_0 gq_0 => ?_)
    refine pj_dup (pc := 3) dX18_all_3 rfl ?_
    refine pl_callINWv (pc := 4) (As := []) (C1 := 2) (N1 := 5) (C2 := (16 * (n - p) + 9)) (N2 := (200 * (n - p) + 72)) mdX27_init rfl q2180 q2181 q176 dX18_all_4 rfl rfl (Nat.le_of_ble_eq_true rfl) (k_X27_init (d := d - 1) (by omega) mset_s) (by omega) (by omega) (by omega) (fun My1 qy1 => ?_)
    obtain ⟨pl, e_1, hpl, he1, n1, n2, n3, rfl⟩ := qy1
    have hpl2 : μ pl = none := by rw [mset_n (Ne.symm n2)] at hpl; exact hpl
    have he2 : μ e_1 = none := by rw [mset_n (Ne.symm n3)] at he1; exact he1
    have hnw := LsT.new (g := g) (al := true) y0 hn_0 hpl2 he2 n1 n2 n3
    refine PJ.mem (show _ = mset (mset (mset μ e_1 (lstA g 2 (fun _ => none))) pl (.inr (2, [.int (nI 0), .ref e_1, .int 0]))) q_0 (.inr (if true = true then 29 else 28, [.ref pl])) from by rw [mset_c n3, mset_c n2]; exact mset_m) ?_
    obtain ⟨y_1, l_1⟩ := hnw
    refine pj_astore_n (pc := 7) (lv' := [(1, _), (0, _)]) dX18_all_7 rfl (by decide) rfl ?_
    refine pl_aload_n (pc := 8) dX18_all_8 rfl rfl ?_
    refine pj_getfS (pc := 9) ckX27 0 q2170 q2168 dX18_all_9 (by decide) l_1.cell rfl ?_
    refine pl_aload_n (pc := 12) dX18_all_12 rfl rfl ?_
    refine pl_callVR (pc := 13) (As := []) (C1 := _) (N1 := _) (C2 := 0) (N2 := 0) ckX18 mdX18_one rfl q2186 q2188 qs32 q167 dX18_all_13 rfl rfl (Nat.le_of_ble_eq_true rfl) y_1.rd ((H f (Nat.le_refl _)).2.2.2.1 p o (d - 1) _ (.inl (k9, w9)) (by omega) (by omega) (by omega) y_1.rd (y_1.get htr ht) hX3) (by omega) (by simp only [coX, appR]; omega) (by simp only [coX, appR]; omega) (fun _ _ _ _ _ _ _ e _ _ _ => by cases e) (fun k8 w8 q8 M8 e8 hq8 hP8 => by cases e8; exact px_out0 rfl ⟨q8, rfl, hq8, y_1.fault hP8⟩)
  · obtain ⟨x5, hx5, rfl⟩ := bind_r hx3
    obtain ⟨ho3, hi3, hn9⟩ := PF_in hB f 9 _ _ (by decide) (by omega) _ _ _ hX3
    have ho4 := ho3.symm
    subst ho4
    have hm3 := (PF_min f 9 _ _ _ _ _ hX3).2 (by decide)
    have hg5 : ∀ pf of Lf, x5 = .inr (pf, of, Lf) → p3 ≤ pf ∧ pf ≤ n := fun pf of Lf e => MnP.PFL (tag := 8) hB (by decide) _ _ _ _ _ (show p3 ≤ n by omega) (show _ = some (Sum.inr (pf, of, Lf)) by rw [← e]; exact hx5)
    refine PJ.widen (C1 := 16 * (p3 - p) - 41 + (coX 16 0 9 n p3 x5 + 8)) (N1 := 200 * (p3 - p) - 549 + (coX 200 0 72 n p3 x5 + 189)) (by rcases x5 with ⟨_, _⟩ | ⟨_, _, _⟩ <;> simp only [coX, appR] <;> first | omega | (have h9 := hg5 _ _ _ rfl; omega)) (by rcases x5 with ⟨_, _⟩ | ⟨_, _, _⟩ <;> simp only [coX, appR] <;> first | omega | (have h9 := hg5 _ _ _ rfl; omega)) ?_
    refine pj_new (pc := 0) (C1 := (16 * (p3 - p) - 41 + (coX 16 0 9 n p3 x5 + 7))) (N1 := (200 * (p3 - p) - 549 + (coX 200 0 72 n p3 x5 + 188))) ckX27 q2178 q2179 q176 dX18_all_0 _ dfX27 (by omega) (by omega) (fun q_0 hn_0 gq_0 => ?_)
    refine pj_dup (pc := 3) dX18_all_3 rfl ?_
    refine pl_callINWv (pc := 4) (As := []) (C1 := 2) (N1 := 5) (C2 := (16 * (p3 - p) - 41 + (coX 16 0 9 n p3 x5 + 5))) (N2 := (200 * (p3 - p) - 549 + (coX 200 0 72 n p3 x5 + 183))) mdX27_init rfl q2180 q2181 q176 dX18_all_4 rfl rfl (Nat.le_of_ble_eq_true rfl) (k_X27_init (d := d - 1) (by omega) mset_s) (by omega) (by omega) (by omega) (fun My2 qy2 => ?_)
    obtain ⟨pl, e_1, hpl, he1, n1, n2, n3, rfl⟩ := qy2
    have hpl2 : μ pl = none := by rw [mset_n (Ne.symm n2)] at hpl; exact hpl
    have he2 : μ e_1 = none := by rw [mset_n (Ne.symm n3)] at he1; exact he1
    have hnw := LsT.new (g := g) (al := true) y0 hn_0 hpl2 he2 n1 n2 n3
    refine PJ.mem (show _ = mset (mset (mset μ e_1 (lstA g 2 (fun _ => none))) pl (.inr (2, [.int (nI 0), .ref e_1, .int 0]))) q_0 (.inr (if true = true then 29 else 28, [.ref pl])) from by rw [mset_c n3, mset_c n2]; exact mset_m) ?_
    obtain ⟨y_1, l_1⟩ := hnw
    refine pj_astore_n (pc := 7) (lv' := [(1, _), (0, _)]) dX18_all_7 rfl (by decide) rfl ?_
    refine pl_aload_n (pc := 8) dX18_all_8 rfl rfl ?_
    refine pj_getfS (pc := 9) ckX27 0 q2170 q2168 dX18_all_9 (by decide) l_1.cell rfl ?_
    refine pl_aload_n (pc := 12) dX18_all_12 rfl rfl ?_
    refine pl_callVR (pc := 13) (As := []) (C1 := _) (N1 := _) (C2 := (coX 16 0 9 n p3 x5 + 5)) (N2 := (coX 200 0 72 n p3 x5 + 183)) ckX18 mdX18_one rfl q2186 q2188 qs32 q167 dX18_all_13 rfl rfl (Nat.le_of_ble_eq_true rfl) y_1.rd ((H f (Nat.le_refl _)).2.2.2.1 p o (d - 1) _ (.inr (p3, o, L3)) (by omega) (by omega) (by omega) y_1.rd (y_1.get htr ht) hX3) (by omega) (by rcases x5 with ⟨_, _⟩ | ⟨_, _, _⟩ <;> simp only [coX, appR] <;> first | omega | (have h9 := hg5 _ _ _ rfl; omega)) (by rcases x5 with ⟨_, _⟩ | ⟨_, _, _⟩ <;> simp only [coX, appR] <;> first | omega | (have h9 := hg5 _ _ _ rfl; omega)) (fun p9 o9 L9 q_3 h_3 im_3 M_3 e9 y9 z_3 hh_3 => ?_) (fun _ _ _ _ e _ _ => by cases e)
    cases e9
    obtain ⟨e_a, cap_a, fn_a, mc_a, ci_a, vs_a, rr_a, la1, la2, la3, la4, la5, la6, la7, la8, la9, la10⟩ := l_1.add y_1 y9 z_3
    refine pl_add (pc := 16) (C1 := (coX 16 0 9 n p3 x5 + 4)) (N1 := (coX 200 0 72 n p3 x5 + 32)) q2217 dX18_all_16 (by omega) la1 (by omega) la2 la3 la4 la5 la6 la7 la8 la9 (Nat.le_of_ble_eq_true rfl) (by omega) (by omega) (fun q2_a m1_a mc1_a ha1 ha2 ha3 => ?_)
    obtain ⟨ts_a, y_a, l_a, da1, da2⟩ := la10 q2_a m1_a mc1_a ha1 ha2 ha3
    refine pj_pop (pc := 19) dX18_all_19 rfl ?_
    exact key f (Nat.le_refl _) _ _ 1 _ p3 x5 _ _ ts_a L3 y_a l_a (da1 rfl) (by omega) (by omega) (by omega) (by omega) hx5
set_option maxHeartbeats 400000 in
theorem K_X18_any {g : GP} {rd t n : Nat} {r : Nat → Int32} {B : Nat → Nat} (htr : t ≠ rd) (tx : TxR r n B) {f : Nat} (H : ∀ f1, f1 ≤ f → KAX g rd t n r B f1) : KX g GdT rd t n r yX18_any (ws_ yX18_any cX18_any 2 (some (.object "SettlerColony$Cond"))) 0 6 25 15 171 84 (PF B n (f + 1) 5) := by
  intro p o d μ x hp ho hd h0 ht hx
  have hn3 := tx.1
  have hB := tx.2.2.2
  have y0 := StX.rf h0
  rw [PF_5] at hx
  have key : ∀ f1, f1 ≤ f → ∀ (a pl m h p1 : Nat) (x2 : RP) (im M : Mem) (ts : Nat → Fb4) (L0 : List Cd), StX μ rd t n p1 o im M → LsT g μ im M rd a pl false m h ts → DenT L0 (tsT false m ts) → h + 0 + p ≤ p1 → 3 * m + p ≤ p1 → 1 ≤ m → p1 ≤ n → PF B n f1 6 p1 o = some x2 → PJ g yX18_any.cls cX18_any 2 (some (.object "SettlerColony$Cond"), yX18_any.name, []) d (coX 16 0 12 n p1 x2 + 4) (coX 200 0 78 n p1 x2 + 32) 20 [(1, .ref a), (0, .ref rd)] [] M (RVX g GdT μ rd t n p 0 (appR L0 x2)) := by
    intro f1
    induction f1 with
    | zero =>
      intro hf1 a pl m h p1 x2 im M ts L0 y l hD hh hm hm1 hp1 hx2
      cases (show (none : Option RP) = some x2 from hx2)
    | succ f1 ih =>
      intro hf1 a pl m h p1 x2 im M ts L0 y l hD hh hm hm1 hp1 hx2
      have hsk := sk_in (B := B) hp1
      rw [PF_6] at hx2
      refine PJ.ok (fun G => ?_)
      refine pl_aload_n (pc := 20) dX18_any_20 rfl rfl ?_
      obtain ⟨a210, v210, vr210, sc210⟩ := lit_X18_210 G
      refine pj_ldcS (pc := 21) vr210 dX18_any_21 ?_
      refine pl_callVWd (pc := 23) (As := [_]) (C1 := 4) (N1 := 32) (C2 := (coX 16 0 12 n p1 x2)) (N2 := (coX 200 0 78 n p1 x2)) ckX18 mdX18_takes rfl q2040 q2042 qs19 q167 dX18_any_23 rfl rfl (Nat.le_of_ble_eq_true rfl) y.rd (x_X18_takes (d := d - 1) (bs := wOr) (by omega) y.rd (y.get htr ht) htr tx (by omega) sc210 (by decide) (by decide)) (by omega) (by omega) (by omega) (fun My1 qy1 => ?_)
      have ky1 := qy1
      have y1 := y.callV qy1
      have hpy1 := (sk_in (B := B) (show p1 ≤ n by omega))
      refine pl_if_neB (pc := 26) (tgt := 8) dX18_any_26 (by decide) (fun c26 => ?_) (fun c26 => ?_)
      · have hw : isW B (sk B n p1) wOr = true := c26
        have hlt := isW_in hw (by decide) hB hsk.2
        have hwl9 : wOr.length = 2 := rfl
        rw [if_pos hw, show wOr.length = 2 from rfl] at y1
        rw [if_pos hw, thenR_assoc] at hx2
        have l1 := l.kp ky1
        obtain ⟨X3, hX3, hx3⟩ := thenR_get hx2
        rcases X3 with ⟨k9, w9⟩ | ⟨p3, o3, L3⟩
        · have e9 := bind_l hx3
          subst e9
          refine pl_aload_n (pc := 8) dX18_any_8 rfl rfl ?_
          refine pj_getf (pc := 9) ckX26 0 q2169 dX18_any_9 (by decide) l1.cell rfl ?_
          refine pl_aload_n (pc := 12) dX18_any_12 rfl rfl ?_
          refine pl_callVR (pc := 13) (As := []) (C1 := _) (N1 := _) (C2 := 0) (N2 := 0) ckX18 mdX18_all rfl q2174 q2176 qs31 q167 dX18_any_13 rfl rfl (Nat.le_of_ble_eq_true rfl) y1.rd ((H f1 (by omega)).2.2.2.2.1 (sk B n p1 + 2) o (d - 1) _ (.inl (k9, w9)) (by omega) (by omega) (by omega) y1.rd (y1.get htr ht) hX3) (by omega) (by simp only [coX, appR]; omega) (by simp only [coX, appR]; omega) (fun _ _ _ _ _ _ _ e _ _ _ => by cases e) (fun k8 w8 q8 M8 e8 hq8 hP8 => by cases e8; exact px_out0 rfl ⟨q8, rfl, hq8, y1.fault hP8⟩)
        · obtain ⟨x4, hx4, rfl⟩ := bind_r hx3
          obtain ⟨x5, hx5, rfl⟩ := emit_get hx4
          obtain ⟨ho3, hi3, hn9⟩ := PF_in hB f1 7 _ _ (by decide) (by omega) _ _ _ hX3
          have ho4 := ho3.symm
          subst ho4
          have hm3 := (PF_min f1 7 _ _ _ _ _ hX3).2 (by decide)
          have hg5 : ∀ pf of Lf, x5 = .inr (pf, of, Lf) → p3 ≤ pf ∧ pf ≤ n := fun pf of Lf e => MnP.PFL (tag := 6) hB (by decide) _ _ _ _ _ (show p3 ≤ n by omega) (show _ = some (Sum.inr (pf, of, Lf)) by rw [← e]; exact hx5)
          refine pl_aload_n (pc := 8) dX18_any_8 rfl rfl ?_
          refine pj_getf (pc := 9) ckX26 0 q2169 dX18_any_9 (by decide) l1.cell rfl ?_
          refine pl_aload_n (pc := 12) dX18_any_12 rfl rfl ?_
          refine pl_callVR (pc := 13) (As := []) (C1 := _) (N1 := _) (C2 := (coX 16 0 12 n p3 x5 + 5)) (N2 := (coX 200 0 78 n p3 x5 + 183)) ckX18 mdX18_all rfl q2174 q2176 qs31 q167 dX18_any_13 rfl rfl (Nat.le_of_ble_eq_true rfl) y1.rd ((H f1 (by omega)).2.2.2.2.1 (sk B n p1 + 2) o (d - 1) _ (.inr (p3, o, L3)) (by omega) (by omega) (by omega) y1.rd (y1.get htr ht) hX3) (by omega) (by rcases x5 with ⟨_, _⟩ | ⟨_, _, _⟩ <;> simp only [coX, appR] <;> first | omega | (have h9 := hg5 _ _ _ rfl; omega)) (by rcases x5 with ⟨_, _⟩ | ⟨_, _, _⟩ <;> simp only [coX, appR] <;> first | omega | (have h9 := hg5 _ _ _ rfl; omega)) (fun p9 o9 L9 q_3 h_3 im_3 M_3 e9 y9 z_3 hh_3 => ?_) (fun _ _ _ _ e _ _ => by cases e)
          cases e9
          obtain ⟨e_a, cap_a, fn_a, mc_a, ci_a, vs_a, rr_a, la1, la2, la3, la4, la5, la6, la7, la8, la9, la10⟩ := l1.add y1 y9 z_3
          refine pl_add (pc := 16) (C1 := (coX 16 0 12 n p3 x5 + 4)) (N1 := (coX 200 0 78 n p3 x5 + 32)) q2217 dX18_any_16 (by omega) la1 (by omega) la2 la3 la4 la5 la6 la7 la8 la9 (Nat.le_of_ble_eq_true rfl) (by omega) (by omega) (fun q2_a m1_a mc1_a ha1 ha2 ha3 => ?_)
          obtain ⟨ts_a, y_a, l_a, da1, da2⟩ := la10 q2_a m1_a mc1_a ha1 ha2 ha3
          refine pj_pop (pc := 19) dX18_any_19 rfl ?_
          have e_9 : appR L0 (appR L3 (appR [(10, nI 0)] x5)) = appR (L0 ++ (L3 ++ [(10, nI 0)])) x5 := by rw [appR_app, appR_app, List.append_assoc]
          rw [e_9]
          exact ih (by omega) a pl (m + 1) _ p3 x5 _ _ ts_a _ y_a l_a (da2 L0 hD) (by omega) (by omega) (by omega) (by omega) hx5
      · refine pl_aload_n (pc := 29) dX18_any_29 rfl rfl ?_
        refine pj_aret (pc := 30) dX18_any_30 rfl (Or.inl ⟨_, rfl⟩) (Or.inr ⟨_, rfl⟩) ?_
        have hw : ¬ isW B (sk B n p1) wOr = true := by rw [c26]; decide
        rw [if_neg hw] at y1
        rw [if_neg hw] at hx2
        have e_9 : x2 = .inr (sk B n p1, o, []) := (Option.some.inj hx2).symm
        subst e_9
        rw [appR_end]
        obtain ⟨im9, y_9, z_9⟩ := (l.kp ky1).fin y1 (by omega) hD
        exact ⟨a, im9, _, rfl, y_9, z_9, by omega⟩
  obtain ⟨X3, hX3, hx3⟩ := thenR_get hx
  refine PM.of (by decide +kernel) (Nat.le_of_ble_eq_true rfl) ?_
  refine PJ.ok (fun G => ?_)
  show PJ g _ _ _ _ d (coX 16 25 15 n p x) (coX 200 171 84 n p x) 0 [(0, .ref rd)] [] _ _
  rcases X3 with ⟨k9, w9⟩ | ⟨p3, o3, L3⟩
  · have e9 := bind_l hx3
    subst e9
    refine PJ.widen (C1 := 16 * (n - p) + 15) (N1 := 200 * (n - p) + 84) (Nat.le_refl _) (Nat.le_refl _) ?_
    refine pj_new (pc := 0) (C1 := (16 * (n - p) + 14)) (N1 := (200 * (n - p) + 83)) ckX26 q2158 q2159 q175 dX18_any_0 _ dfX26 (by omega) (by omega) (fun q_0 hn_0 gq_0 => ?_)
    refine pj_dup (pc := 3) dX18_any_3 rfl ?_
    refine pl_callINWv (pc := 4) (As := []) (C1 := 2) (N1 := 5) (C2 := (16 * (n - p) + 12)) (N2 := (200 * (n - p) + 78)) mdX26_init rfl q2160 q2161 q175 dX18_any_4 rfl rfl (Nat.le_of_ble_eq_true rfl) (k_X26_init (d := d - 1) (by omega) mset_s) (by omega) (by omega) (by omega) (fun My1 qy1 => ?_)
    obtain ⟨pl, e_1, hpl, he1, n1, n2, n3, rfl⟩ := qy1
    have hpl2 : μ pl = none := by rw [mset_n (Ne.symm n2)] at hpl; exact hpl
    have he2 : μ e_1 = none := by rw [mset_n (Ne.symm n3)] at he1; exact he1
    have hnw := LsT.new (g := g) (al := false) y0 hn_0 hpl2 he2 n1 n2 n3
    refine PJ.mem (show _ = mset (mset (mset μ e_1 (lstA g 2 (fun _ => none))) pl (.inr (2, [.int (nI 0), .ref e_1, .int 0]))) q_0 (.inr (if false = true then 29 else 28, [.ref pl])) from by rw [mset_c n3, mset_c n2]; exact mset_m) ?_
    obtain ⟨y_1, l_1⟩ := hnw
    refine pj_astore_n (pc := 7) (lv' := [(1, _), (0, _)]) dX18_any_7 rfl (by decide) rfl ?_
    refine pl_aload_n (pc := 8) dX18_any_8 rfl rfl ?_
    refine pj_getf (pc := 9) ckX26 0 q2169 dX18_any_9 (by decide) l_1.cell rfl ?_
    refine pl_aload_n (pc := 12) dX18_any_12 rfl rfl ?_
    refine pl_callVR (pc := 13) (As := []) (C1 := _) (N1 := _) (C2 := 0) (N2 := 0) ckX18 mdX18_all rfl q2174 q2176 qs31 q167 dX18_any_13 rfl rfl (Nat.le_of_ble_eq_true rfl) y_1.rd ((H f (Nat.le_refl _)).2.2.2.2.1 p o (d - 1) _ (.inl (k9, w9)) (by omega) (by omega) (by omega) y_1.rd (y_1.get htr ht) hX3) (by omega) (by simp only [coX, appR]; omega) (by simp only [coX, appR]; omega) (fun _ _ _ _ _ _ _ e _ _ _ => by cases e) (fun k8 w8 q8 M8 e8 hq8 hP8 => by cases e8; exact px_out0 rfl ⟨q8, rfl, hq8, y_1.fault hP8⟩)
  · obtain ⟨x5, hx5, rfl⟩ := bind_r hx3
    obtain ⟨ho3, hi3, hn9⟩ := PF_in hB f 7 _ _ (by decide) (by omega) _ _ _ hX3
    have ho4 := ho3.symm
    subst ho4
    have hm3 := (PF_min f 7 _ _ _ _ _ hX3).2 (by decide)
    have hg5 : ∀ pf of Lf, x5 = .inr (pf, of, Lf) → p3 ≤ pf ∧ pf ≤ n := fun pf of Lf e => MnP.PFL (tag := 6) hB (by decide) _ _ _ _ _ (show p3 ≤ n by omega) (show _ = some (Sum.inr (pf, of, Lf)) by rw [← e]; exact hx5)
    refine PJ.widen (C1 := 16 * (p3 - p) - 33 + (coX 16 0 12 n p3 x5 + 8)) (N1 := 200 * (p3 - p) - 360 + (coX 200 0 78 n p3 x5 + 189)) (by rcases x5 with ⟨_, _⟩ | ⟨_, _, _⟩ <;> simp only [coX, appR] <;> first | omega | (have h9 := hg5 _ _ _ rfl; omega)) (by rcases x5 with ⟨_, _⟩ | ⟨_, _, _⟩ <;> simp only [coX, appR] <;> first | omega | (have h9 := hg5 _ _ _ rfl; omega)) ?_
    refine pj_new (pc := 0) (C1 := (16 * (p3 - p) - 33 + (coX 16 0 12 n p3 x5 + 7))) (N1 := (200 * (p3 - p) - 360 + (coX 200 0 78 n p3 x5 + 188))) ckX26 q2158 q2159 q175 dX18_any_0 _ dfX26 (by omega) (by omega) (fun q_0 hn_0 gq_0 => ?_)
    refine pj_dup (pc := 3) dX18_any_3 rfl ?_
    refine pl_callINWv (pc := 4) (As := []) (C1 := 2) (N1 := 5) (C2 := (16 * (p3 - p) - 33 + (coX 16 0 12 n p3 x5 + 5))) (N2 := (200 * (p3 - p) - 360 + (coX 200 0 78 n p3 x5 + 183))) mdX26_init rfl q2160 q2161 q175 dX18_any_4 rfl rfl (Nat.le_of_ble_eq_true rfl) (k_X26_init (d := d - 1) (by omega) mset_s) (by omega) (by omega) (by omega) (fun My2 qy2 => ?_)
    obtain ⟨pl, e_1, hpl, he1, n1, n2, n3, rfl⟩ := qy2
    have hpl2 : μ pl = none := by rw [mset_n (Ne.symm n2)] at hpl; exact hpl
    have he2 : μ e_1 = none := by rw [mset_n (Ne.symm n3)] at he1; exact he1
    have hnw := LsT.new (g := g) (al := false) y0 hn_0 hpl2 he2 n1 n2 n3
    refine PJ.mem (show _ = mset (mset (mset μ e_1 (lstA g 2 (fun _ => none))) pl (.inr (2, [.int (nI 0), .ref e_1, .int 0]))) q_0 (.inr (if false = true then 29 else 28, [.ref pl])) from by rw [mset_c n3, mset_c n2]; exact mset_m) ?_
    obtain ⟨y_1, l_1⟩ := hnw
    refine pj_astore_n (pc := 7) (lv' := [(1, _), (0, _)]) dX18_any_7 rfl (by decide) rfl ?_
    refine pl_aload_n (pc := 8) dX18_any_8 rfl rfl ?_
    refine pj_getf (pc := 9) ckX26 0 q2169 dX18_any_9 (by decide) l_1.cell rfl ?_
    refine pl_aload_n (pc := 12) dX18_any_12 rfl rfl ?_
    refine pl_callVR (pc := 13) (As := []) (C1 := _) (N1 := _) (C2 := (coX 16 0 12 n p3 x5 + 5)) (N2 := (coX 200 0 78 n p3 x5 + 183)) ckX18 mdX18_all rfl q2174 q2176 qs31 q167 dX18_any_13 rfl rfl (Nat.le_of_ble_eq_true rfl) y_1.rd ((H f (Nat.le_refl _)).2.2.2.2.1 p o (d - 1) _ (.inr (p3, o, L3)) (by omega) (by omega) (by omega) y_1.rd (y_1.get htr ht) hX3) (by omega) (by rcases x5 with ⟨_, _⟩ | ⟨_, _, _⟩ <;> simp only [coX, appR] <;> first | omega | (have h9 := hg5 _ _ _ rfl; omega)) (by rcases x5 with ⟨_, _⟩ | ⟨_, _, _⟩ <;> simp only [coX, appR] <;> first | omega | (have h9 := hg5 _ _ _ rfl; omega)) (fun p9 o9 L9 q_3 h_3 im_3 M_3 e9 y9 z_3 hh_3 => ?_) (fun _ _ _ _ e _ _ => by cases e)
    cases e9
    obtain ⟨e_a, cap_a, fn_a, mc_a, ci_a, vs_a, rr_a, la1, la2, la3, la4, la5, la6, la7, la8, la9, la10⟩ := l_1.add y_1 y9 z_3
    refine pl_add (pc := 16) (C1 := (coX 16 0 12 n p3 x5 + 4)) (N1 := (coX 200 0 78 n p3 x5 + 32)) q2217 dX18_any_16 (by omega) la1 (by omega) la2 la3 la4 la5 la6 la7 la8 la9 (Nat.le_of_ble_eq_true rfl) (by omega) (by omega) (fun q2_a m1_a mc1_a ha1 ha2 ha3 => ?_)
    obtain ⟨ts_a, y_a, l_a, da1, da2⟩ := la10 q2_a m1_a mc1_a ha1 ha2 ha3
    refine pj_pop (pc := 19) dX18_any_19 rfl ?_
    exact key f (Nat.le_refl _) _ _ 1 _ p3 x5 _ _ ts_a L3 y_a l_a (da1 rfl) (by omega) (by omega) (by omega) (by omega) hx5
