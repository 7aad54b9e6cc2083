set_option maxRecDepth 100000
theorem appR_end {L : List Cd} {p o : Nat} : appR L (.inr (p, o, [])) = .inr (p, o, L) := by
  show (Sum.inr (p, o, L ++ []) : RP) = _
  rw [List.append_nil]
set_option maxHeartbeats 400000 in
theorem K_X18_expr {g : GP} {rd t n : Nat} {r : Nat → Int32} {B : Nat → Nat} (htr : t ≠ rd) (tx : TxR r n B) {f : Nat} (H : ∀ f1, f1 ≤ f → KAX g rd t n r B f1) : KX g GdE rd t n r yX18_expr (ws_ yX18_expr cX18_expr 3 (some (.object "SettlerColony$Expr"))) 1 3 15 5 192 40 (PF B n (f + 1) 0) := by
  intro p o d μ x hp ho hd h0 ht hx
  have hn3 := tx.1
  have hB := tx.2.2.2
  have y0 := StX.rf h0
  rw [PF_0] at hx
  have key : ∀ f1, f1 ≤ f → ∀ (p1 : Nat) (x2 : RP) (q h : Nat) (im M : Mem) (L0 : List Cd), StX μ rd t n (sk B n p1) o im M → GdE g im h q L0 → h + p ≤ p1 → p1 ≤ n → PF B n f1 1 p1 o = some x2 → PJ g yX18_expr.cls cX18_expr 3 (some (.object "SettlerColony$Expr"), yX18_expr.name, []) d (coX 16 0 5 n p1 x2) (coX 200 0 40 n p1 x2) 10 [(2, .int (sB (B (sk B n p1)))), (1, .ref q), (0, .ref rd)] [] M (RVX g GdE μ rd t n p 1 (appR L0 x2)) := by
    intro f1
    induction f1 with
    | zero =>
      intro hf1 p1 x2 q h im M L0 y z hh hp1 hx2
      cases (show (none : Option RP) = some x2 from hx2)
    | succ f1 ih =>
      intro hf1 p1 x2 q h im M L0 y z hh hp1 hx2
      have hsk := sk_in (B := B) hp1
      rw [PF_1] at hx2
      refine pl_iload_n (pc := 10) dX18_expr_10 rfl rfl ?_
      refine pl_bipush (pc := 11) (v := 43) dX18_expr_11 (by rfl) ?_
      refine pj_icmp_eq (pc := 13) (tgt := 22) dX18_expr_13 (by decide) (fun c13 => ?_) (fun c13 => ?_)
      · have hc : B (sk B n p1) = 43 := (sB_eq _ (tx.2.2.1 _) 43 (by decide)).mp c13
        have hlt : sk B n p1 < n := by
          rcases Nat.lt_or_ge (sk B n p1) n with z9 | z9
          · exact z9
          · rw [hB _ z9] at hc; cases hc
        rw [if_pos (Or.inl hc), if_pos hc, thenR_assoc] at hx2
        obtain ⟨X3, hX3, hx3⟩ := thenR_get hx2
        rcases X3 with ⟨k9, w9⟩ | ⟨p3, o3, L3⟩
        · have e9 := bind_l hx3
          subst e9
          refine PJ.widen (C1 := 16 * (n - p1) + 5) (N1 := 200 * (n - p1) + 40) (Nat.le_refl _) (Nat.le_refl _) ?_
          refine pl_aload_n (pc := 22) dX18_expr_22 rfl rfl ?_
          refine pj_dup (pc := 23) dX18_expr_23 rfl ?_
          refine pj_getf (pc := 24) ckX18 2 q1863 dX18_expr_24 (by decide) y.rd rfl ?_
          refine pl_iconst (pc := 27) (v := 1) dX18_expr_27 (by rfl) ?_
          refine pl_iadd (pc := 28) dX18_expr_28 ?_
          refine pj_putf (pc := 29) ckX18 2 q1863 dX18_expr_29 (by decide) rfl y.rd rfl rfl (Nat.le_of_ble_eq_true rfl) ?_
          refine PJ.mem (show _ = (mset M rd (rdO t n (sk B n p1 + 1) o)) from rfl) ?_
          have y1 := StX.of (p1 := (sk B n p1 + 1)) (o1 := o) y
          refine pj_new (pc := 32) (C1 := (16 * (n - (sk B n p1 + 1)) + 5)) (N1 := (200 * (n - (sk B n p1 + 1)) + 40)) ckX24 q2233 q2234 q173 dX18_expr_32 _ dfX24 (by omega) (by omega) (fun q_32 hn_32 gq_32 => ?_)
          refine pj_dup (pc := 35) dX18_expr_35 rfl ?_
          refine pl_aload_n (pc := 36) dX18_expr_36 rfl rfl ?_
          refine pl_iload_n (pc := 37) dX18_expr_37 rfl rfl ?_
          refine pj_i2c (pc := 38) dX18_expr_38 rfl ?_
          refine PJ.top (y := sgc 1) (by rw [c13]; decide) ?_
          refine pl_aload_n (pc := 39) dX18_expr_39 rfl rfl ?_
          have w_9 := StX.new (c := (.inr (26, [.null, .null, .int 0]))) y1 hn_32
          refine pl_callVR (pc := 40) (As := []) (C1 := _) (N1 := _) (C2 := 0) (N2 := 0) ckX18 mdX18_term rfl q2053 q2055 qs22 q167 dX18_expr_40 rfl rfl (Nat.le_of_ble_eq_true rfl) w_9.rd ((H f1 (by omega)).2.1 (sk B n p1 + 1) o (d - 1) _ (.inl (k9, w9)) (by omega) (by omega) (by omega) w_9.rd (w_9.get htr ht) hX3) (by omega) (Nat.le_refl _) (Nat.le_refl _) (fun _ _ _ _ _ _ _ e _ _ _ => by cases e) (fun k8 w8 q8 M8 e8 hq8 hP8 => by cases e8; exact px_out0 rfl ⟨q8, rfl, hq8, w_9.fault hP8⟩)
        · obtain ⟨x4, hx4, rfl⟩ := bind_r hx3
          obtain ⟨x5, hx5, rfl⟩ := emit_get hx4
          obtain ⟨ho3, hi3, hn9⟩ := PF_in hB f1 2 _ _ (by decide) (by omega) _ _ _ hX3
          have ho4 := ho3.symm
          subst ho4
          have hm3 := (PF_min f1 2 _ _ _ _ _ hX3).1 (by decide)
          have hg5 : ∀ pf of Lf, x5 = .inr (pf, of, Lf) → p3 ≤ pf ∧ pf ≤ n := fun pf of Lf e => MnP.PFL (tag := 1) hB (by decide) _ _ _ _ _ (show p3 ≤ n by omega) (show _ = some (Sum.inr (pf, of, Lf)) by rw [← e]; exact hx5)
          refine PJ.widen (C1 := 1 + (16 * (p3 - (sk B n p1 + 1)) - 15 + coX 16 0 5 n p3 x5)) (N1 := 3 + (200 * (p3 - (sk B n p1 + 1)) - 192 + coX 200 0 40 n p3 x5)) (by rcases x5 with ⟨_, _⟩ | ⟨_, _, _⟩ <;> simp only [coX, appR] <;> first | omega | (have h9 := hg5 _ _ _ rfl; omega)) (by rcases x5 with ⟨_, _⟩ | ⟨_, _, _⟩ <;> simp only [coX, appR] <;> first | omega | (have h9 := hg5 _ _ _ rfl; omega)) ?_
          refine pl_aload_n (pc := 22) dX18_expr_22 rfl rfl ?_
          refine pj_dup (pc := 23) dX18_expr_23 rfl ?_
          refine pj_getf (pc := 24) ckX18 2 q1863 dX18_expr_24 (by decide) y.rd rfl ?_
          refine pl_iconst (pc := 27) (v := 1) dX18_expr_27 (by rfl) ?_
          refine pl_iadd (pc := 28) dX18_expr_28 ?_
          refine pj_putf (pc := 29) ckX18 2 q1863 dX18_expr_29 (by decide) rfl y.rd rfl rfl (Nat.le_of_ble_eq_true rfl) ?_
          refine PJ.mem (show _ = (mset M rd (rdO t n (sk B n p1 + 1) o)) from rfl) ?_
          have y2 := StX.of (p1 := (sk B n p1 + 1)) (o1 := o) y
          refine pj_new (pc := 32) (C1 := (16 * (p3 - (sk B n p1 + 1)) - 15 + coX 16 0 5 n p3 x5)) (N1 := (200 * (p3 - (sk B n p1 + 1)) - 192 + coX 200 0 40 n p3 x5)) ckX24 q2233 q2234 q173 dX18_expr_32 _ dfX24 (by omega) (by omega) (fun q_32 hn_32 gq_32 => ?_)
          refine pj_dup (pc := 35) dX18_expr_35 rfl ?_
          refine pl_aload_n (pc := 36) dX18_expr_36 rfl rfl ?_
          refine pl_iload_n (pc := 37) dX18_expr_37 rfl rfl ?_
          refine pj_i2c (pc := 38) dX18_expr_38 rfl ?_
          refine PJ.top (y := sgc 1) (by rw [c13]; decide) ?_
          refine pl_aload_n (pc := 39) dX18_expr_39 rfl rfl ?_
          have w_9 := StX.new (c := (.inr (26, [.null, .null, .int 0]))) y2 hn_32
          refine pl_callVR (pc := 40) (As := []) (C1 := _) (N1 := _) (C2 := (coX 16 0 5 n p3 x5)) (N2 := (coX 200 0 40 n p3 x5)) ckX18 mdX18_term rfl q2053 q2055 qs22 q167 dX18_expr_40 rfl rfl (Nat.le_of_ble_eq_true rfl) w_9.rd ((H f1 (by omega)).2.1 (sk B n p1 + 1) o (d - 1) _ (.inr (p3, o, L3)) (by omega) (by omega) (by omega) w_9.rd (w_9.get htr ht) hX3) (by omega) (Nat.le_refl _) (Nat.le_refl _) (fun p9 o9 L9 q_3 h_3 im_3 M_3 e9 y9 z_3 hh_3 => ?_) (fun _ _ _ _ e _ _ => by cases e)
          cases e9
          have y_3 := w_9.call y9.1 y9.2.1
          have u_3 := w_9.upr y9.2.1
          have m_3 : M_3 q_32 = some (.inr (26, [.null, .null, .int 0])) := y9.get (y2.nrd hn_32) mset_s
          have i_3 : imU im im_3 q_32 = none := imU_no (y2.imn hn_32) (y9.2.1.no mset_s)
          refine pl_callIv (pc := 43) (As := [_, _, _]) (C1 := 0) (N1 := 0) (C2 := (coX 16 0 5 n p3 x5)) (N2 := (coX 200 0 40 n p3 x5)) mdX24_init rfl q2235 q2130 q173 dX18_expr_43 rfl rfl (Nat.le_of_ble_eq_true rfl) (k_X24_init (x9 := 0) (d := d - 1) (by omega) (by rfl) (by rfl) m_3) (by omega) (by omega) (by omega) ?_
          have m9 := y2.mu hn_32
          have y_4 := (StX.cell (c := (.inr (26, [.ref q, .ref q_3, .int (sgc 1)]))) y_3 (y2.nrd hn_32) m9 i_3).keep m9 mset_s
          have z_4 := GdE.mkTwo (q := q_32) (k := 1) (by decide) (mset_s (μ := imU im im_3) (e := (.inr (26, [.ref q, .ref q_3, .int (sgc 1)])))) (z.mono (fun a e w => mset_up i_3 a e (imU_l a e w)) (Nat.le_max_left h h_3)) (z_3.mono (fun a e w => mset_up i_3 a e (u_3 a e w)) (Nat.le_max_right h h_3))
          refine pj_astore_n (pc := 46) (lv' := [(1, _), (2, _), (0, _)]) dX18_expr_46 rfl (by decide) rfl ?_
          refine pl_aload_n (pc := 47) dX18_expr_47 rfl rfl ?_
          refine pl_callVWd (pc := 48) (As := []) (C1 := 0) (N1 := 0) (C2 := (coX 16 0 5 n p3 x5)) (N2 := (coX 200 0 40 n p3 x5)) ckX18 mdX18_sign rfl q1896 q1898 qs15 q167 dX18_expr_48 rfl rfl (Nat.le_of_ble_eq_true rfl) y_4.rd (x_X18_sign (d := d - 1) (by omega) y_4.rd (y_4.get htr ht) htr tx (by omega)) (by omega) (by omega) (by omega) (fun My3 qy3 => ?_)
          have y3 := y_4.callV (RdS.X qy3)
          have hpy3 := (sk_in (B := B) (show p3 ≤ n by omega))
          refine pj_istore_n (pc := 51) (lv' := [(2, _), (1, _), (0, _)]) dX18_expr_51 rfl (by decide) rfl ?_
          refine pj_goto (pc := 52) (tgt := 10) dX18_expr_52 (by decide) ?_
          have e_9 : appR L0 (appR L3 (appR [(1, nI 0)] x5)) = appR (L0 ++ (L3 ++ [(1, nI 0)])) x5 := by rw [appR_app, appR_app, List.append_assoc]
          rw [e_9]
          exact ih (by omega) p3 x5 q_32 _ _ _ _ y3 z_4 (by omega) (by omega) hx5
      · refine pl_iload_n (pc := 16) dX18_expr_16 rfl rfl ?_
        refine pl_bipush (pc := 17) (v := 45) dX18_expr_17 (by rfl) ?_
        refine pj_icmp_ne (pc := 19) (tgt := 55) dX18_expr_19 (by decide) (fun c19 => ?_) (fun c19 => ?_)
        · refine pl_aload_n (pc := 55) dX18_expr_55 rfl rfl ?_
          refine pj_aret (pc := 56) dX18_expr_56 rfl (Or.inl ⟨_, rfl⟩) (Or.inr ⟨_, rfl⟩) ?_
          have hne : ¬ (B (sk B n p1) = 43 ∨ B (sk B n p1) = 45) := fun zz => by
            rcases zz with zz | zz
            · exact c13 ((sB_eq _ (tx.2.2.1 _) 43 (by decide)).mpr zz)
            · exact c19 ((sB_eq _ (tx.2.2.1 _) 45 (by decide)).mpr zz)
          rw [if_neg hne] at hx2
          have e_9 : x2 = .inr (sk B n p1, o, []) := (Option.some.inj hx2).symm
          subst e_9
          rw [appR_end]
          exact ⟨q, im, h, rfl, y, z, by omega⟩
        · have hc : B (sk B n p1) = 45 := (sB_eq _ (tx.2.2.1 _) 45 (by decide)).mp c19
          have hlt : sk B n p1 < n := by
            rcases Nat.lt_or_ge (sk B n p1) n with z9 | z9
            · exact z9
            · rw [hB _ z9] at hc; cases hc
          rw [if_pos (Or.inr hc), if_neg (by rw [hc]; decide), thenR_assoc] at hx2
          obtain ⟨X3, hX3, hx3⟩ := thenR_get hx2
          rcases X3 with ⟨k9, w9⟩ | ⟨p3, o3, L3⟩
          · have e9 := bind_l hx3
            subst e9
            refine PJ.widen (C1 := 16 * (n - p1) + 5) (N1 := 200 * (n - p1) + 40) (Nat.le_refl _) (Nat.le_refl _) ?_
            refine pl_aload_n (pc := 22) dX18_expr_22 rfl rfl ?_
            refine pj_dup (pc := 23) dX18_expr_23 rfl ?_
            refine pj_getf (pc := 24) ckX18 2 q1863 dX18_expr_24 (by decide) y.rd rfl ?_
            refine pl_iconst (pc := 27) (v := 1) dX18_expr_27 (by rfl) ?_
            refine pl_iadd (pc := 28) dX18_expr_28 ?_
            refine pj_putf (pc := 29) ckX18 2 q1863 dX18_expr_29 (by decide) rfl y.rd rfl rfl (Nat.le_of_ble_eq_true rfl) ?_
            refine PJ.mem (show _ = (mset M rd (rdO t n (sk B n p1 + 1) o)) from rfl) ?_
            have y4 := StX.of (p1 := (sk B n p1 + 1)) (o1 := o) y
            refine pj_new (pc := 32) (C1 := (16 * (n - (sk B n p1 + 1)) + 5)) (N1 := (200 * (n - (sk B n p1 + 1)) + 40)) ckX24 q2233 q2234 q173 dX18_expr_32 _ dfX24 (by omega) (by omega) (fun q_32 hn_32 gq_32 => ?_)
            refine pj_dup (pc := 35) dX18_expr_35 rfl ?_
            refine pl_aload_n (pc := 36) dX18_expr_36 rfl rfl ?_
            refine pl_iload_n (pc := 37) dX18_expr_37 rfl rfl ?_
            refine pj_i2c (pc := 38) dX18_expr_38 rfl ?_
            refine PJ.top (y := sgc 2) (by rw [c19]; decide) ?_
            refine pl_aload_n (pc := 39) dX18_expr_39 rfl rfl ?_
            have w_9 := StX.new (c := (.inr (26, [.null, .null, .int 0]))) y4 hn_32
            refine pl_callVR (pc := 40) (As := []) (C1 := _) (N1 := _) (C2 := 0) (N2 := 0) ckX18 mdX18_term rfl q2053 q2055 qs22 q167 dX18_expr_40 rfl rfl (Nat.le_of_ble_eq_true rfl) w_9.rd ((H f1 (by omega)).2.1 (sk B n p1 + 1) o (d - 1) _ (.inl (k9, w9)) (by omega) (by omega) (by omega) w_9.rd (w_9.get htr ht) hX3) (by omega) (Nat.le_refl _) (Nat.le_refl _) (fun _ _ _ _ _ _ _ e _ _ _ => by cases e) (fun k8 w8 q8 M8 e8 hq8 hP8 => by cases e8; exact px_out0 rfl ⟨q8, rfl, hq8, w_9.fault hP8⟩)
          · obtain ⟨x4, hx4, rfl⟩ := bind_r hx3
            obtain ⟨x5, hx5, rfl⟩ := emit_get hx4
            obtain ⟨ho3, hi3, hn9⟩ := PF_in hB f1 2 _ _ (by decide) (by omega) _ _ _ hX3
            have ho4 := ho3.symm
            subst ho4
            have hm3 := (PF_min f1 2 _ _ _ _ _ hX3).1 (by decide)
            have hg5 : ∀ pf of Lf, x5 = .inr (pf, of, Lf) → p3 ≤ pf ∧ pf ≤ n := fun pf of Lf e => MnP.PFL (tag := 1) hB (by decide) _ _ _ _ _ (show p3 ≤ n by omega) (show _ = some (Sum.inr (pf, of, Lf)) by rw [← e]; exact hx5)
            refine PJ.widen (C1 := 1 + (16 * (p3 - (sk B n p1 + 1)) - 15 + coX 16 0 5 n p3 x5)) (N1 := 3 + (200 * (p3 - (sk B n p1 + 1)) - 192 + coX 200 0 40 n p3 x5)) (by rcases x5 with ⟨_, _⟩ | ⟨_, _, _⟩ <;> simp only [coX, appR] <;> first | omega | (have h9 := hg5 _ _ _ rfl; omega)) (by rcases x5 with ⟨_, _⟩ | ⟨_, _, _⟩ <;> simp only [coX, appR] <;> first | omega | (have h9 := hg5 _ _ _ rfl; omega)) ?_
            refine pl_aload_n (pc := 22) dX18_expr_22 rfl rfl ?_
            refine pj_dup (pc := 23) dX18_expr_23 rfl ?_
            refine pj_getf (pc := 24) ckX18 2 q1863 dX18_expr_24 (by decide) y.rd rfl ?_
            refine pl_iconst (pc := 27) (v := 1) dX18_expr_27 (by rfl) ?_
            refine pl_iadd (pc := 28) dX18_expr_28 ?_
            refine pj_putf (pc := 29) ckX18 2 q1863 dX18_expr_29 (by decide) rfl y.rd rfl rfl (Nat.le_of_ble_eq_true rfl) ?_
            refine PJ.mem (show _ = (mset M rd (rdO t n (sk B n p1 + 1) o)) from rfl) ?_
            have y5 := StX.of (p1 := (sk B n p1 + 1)) (o1 := o) y
            refine pj_new (pc := 32) (C1 := (16 * (p3 - (sk B n p1 + 1)) - 15 + coX 16 0 5 n p3 x5)) (N1 := (200 * (p3 - (sk B n p1 + 1)) - 192 + coX 200 0 40 n p3 x5)) ckX24 q2233 q2234 q173 dX18_expr_32 _ dfX24 (by omega) (by omega) (fun q_32 hn_32 gq_32 => ?_)
            refine pj_dup (pc := 35) dX18_expr_35 rfl ?_
            refine pl_aload_n (pc := 36) dX18_expr_36 rfl rfl ?_
            refine pl_iload_n (pc := 37) dX18_expr_37 rfl rfl ?_
            refine pj_i2c (pc := 38) dX18_expr_38 rfl ?_
            refine PJ.top (y := sgc 2) (by rw [c19]; decide) ?_
            refine pl_aload_n (pc := 39) dX18_expr_39 rfl rfl ?_
            have w_9 := StX.new (c := (.inr (26, [.null, .null, .int 0]))) y5 hn_32
            refine pl_callVR (pc := 40) (As := []) (C1 := _) (N1 := _) (C2 := (coX 16 0 5 n p3 x5)) (N2 := (coX 200 0 40 n p3 x5)) ckX18 mdX18_term rfl q2053 q2055 qs22 q167 dX18_expr_40 rfl rfl (Nat.le_of_ble_eq_true rfl) w_9.rd ((H f1 (by omega)).2.1 (sk B n p1 + 1) o (d - 1) _ (.inr (p3, o, L3)) (by omega) (by omega) (by omega) w_9.rd (w_9.get htr ht) hX3) (by omega) (Nat.le_refl _) (Nat.le_refl _) (fun p9 o9 L9 q_3 h_3 im_3 M_3 e9 y9 z_3 hh_3 => ?_) (fun _ _ _ _ e _ _ => by cases e)
            cases e9
            have y_3 := w_9.call y9.1 y9.2.1
            have u_3 := w_9.upr y9.2.1
            have m_3 : M_3 q_32 = some (.inr (26, [.null, .null, .int 0])) := y9.get (y5.nrd hn_32) mset_s
            have i_3 : imU im im_3 q_32 = none := imU_no (y5.imn hn_32) (y9.2.1.no mset_s)
            refine pl_callIv (pc := 43) (As := [_, _, _]) (C1 := 0) (N1 := 0) (C2 := (coX 16 0 5 n p3 x5)) (N2 := (coX 200 0 40 n p3 x5)) mdX24_init rfl q2235 q2130 q173 dX18_expr_43 rfl rfl (Nat.le_of_ble_eq_true rfl) (k_X24_init (x9 := 0) (d := d - 1) (by omega) (by rfl) (by rfl) m_3) (by omega) (by omega) (by omega) ?_
            have m9 := y5.mu hn_32
            have y_4 := (StX.cell (c := (.inr (26, [.ref q, .ref q_3, .int (sgc 2)]))) y_3 (y5.nrd hn_32) m9 i_3).keep m9 mset_s
            have z_4 := GdE.mkTwo (q := q_32) (k := 2) (by decide) (mset_s (μ := imU im im_3) (e := (.inr (26, [.ref q, .ref q_3, .int (sgc 2)])))) (z.mono (fun a e w => mset_up i_3 a e (imU_l a e w)) (Nat.le_max_left h h_3)) (z_3.mono (fun a e w => mset_up i_3 a e (u_3 a e w)) (Nat.le_max_right h h_3))
            refine pj_astore_n (pc := 46) (lv' := [(1, _), (2, _), (0, _)]) dX18_expr_46 rfl (by decide) rfl ?_
            refine pl_aload_n (pc := 47) dX18_expr_47 rfl rfl ?_
            refine pl_callVWd (pc := 48) (As := []) (C1 := 0) (N1 := 0) (C2 := (coX 16 0 5 n p3 x5)) (N2 := (coX 200 0 40 n p3 x5)) ckX18 mdX18_sign rfl q1896 q1898 qs15 q167 dX18_expr_48 rfl rfl (Nat.le_of_ble_eq_true rfl) y_4.rd (x_X18_sign (d := d - 1) (by omega) y_4.rd (y_4.get htr ht) htr tx (by omega)) (by omega) (by omega) (by omega) (fun My6 qy6 => ?_)
            have y6 := y_4.callV (RdS.X qy6)
            have hpy6 := (sk_in (B := B) (show p3 ≤ n by omega))
            refine pj_istore_n (pc := 51) (lv' := [(2, _), (1, _), (0, _)]) dX18_expr_51 rfl (by decide) rfl ?_
            refine pj_goto (pc := 52) (tgt := 10) dX18_expr_52 (by decide) ?_
            have e_9 : appR L0 (appR L3 (appR [(2, nI 0)] x5)) = appR (L0 ++ (L3 ++ [(2, nI 0)])) x5 := by rw [appR_app, appR_app, List.append_assoc]
            rw [e_9]
            exact ih (by omega) p3 x5 q_32 _ _ _ _ y6 z_4 (by omega) (by omega) hx5
  refine PM.of (by decide +kernel) (Nat.le_of_ble_eq_true rfl) ?_
  refine PJ.ok (fun G => ?_)
  show PJ g _ _ _ _ d (coX 16 15 5 n p x) (coX 200 192 40 n p x) 0 [(0, .ref rd)] [] _ _
  refine pl_aload_n (pc := 0) dX18_expr_0 rfl rfl ?_
  obtain ⟨X_1, hX_1, hx⟩ := thenR_get hx
  rcases X_1 with ⟨k9, w9⟩ | ⟨p_1, o_1, L_1⟩
  · have e9 := bind_l hx
    subst e9
    refine pl_callVR (pc := 1) (As := []) (C1 := _) (N1 := _) (C2 := 0) (N2 := 0) ckX18 mdX18_term rfl q2053 q2055 qs22 q167 dX18_expr_1 rfl rfl (Nat.le_of_ble_eq_true rfl) y0.rd ((H f (Nat.le_refl _)).2.1 p o (d - 1) _ (.inl (k9, w9)) (by omega) (by omega) (by omega) y0.rd (y0.get htr ht) hX_1) (by omega) (by simp only [coX, appR]; omega) (by simp only [coX, appR]; omega) (fun _ _ _ _ _ _ _ e _ _ _ => by cases e) (fun k8 w8 q8 M8 e8 hq8 hP8 => by cases e8; exact px_out0 rfl ⟨q8, rfl, hq8, y0.fault hP8⟩)
  obtain ⟨x_1, hz_1, ez_1⟩ := bind_r hx
  clear hx
  subst ez_1
  have hx := hz_1
  obtain ⟨ho_1, hi_1, hn_1⟩ := PF_in hB f 2 _ _ (by decide) (by omega) _ _ _ hX_1
  have hm_1 := (PF_min f 2 _ _ _ _ _ hX_1).1 (by decide)
  have hg_1 : ∀ pf of Lf, x_1 = .inr (pf, of, Lf) → p_1 + 0 ≤ pf ∧ pf ≤ n := fun pf of Lf e => by have h9 := (MnP.PFL (tag := 1) hB (by decide)) _ _ _ _ _ (show p_1 ≤ n by omega) (show _ = some (Sum.inr (pf, of, Lf)) by rw [← e]; exact hx); exact ⟨by omega, h9.2⟩
  refine pl_callVR (pc := 1) (As := []) (C1 := _) (N1 := _) (C2 := (coX 16 0 5 n p_1 x_1 + 0)) (N2 := (coX 200 0 40 n p_1 x_1 + 0)) ckX18 mdX18_term rfl q2053 q2055 qs22 q167 dX18_expr_1 rfl rfl (Nat.le_of_ble_eq_true rfl) y0.rd ((H f (Nat.le_refl _)).2.1 p o (d - 1) _ (.inr (p_1, o_1, L_1)) (by omega) (by omega) (by omega) y0.rd (y0.get htr ht) hX_1) (by omega) (by rcases x_1 with ⟨_, _⟩ | ⟨_, _, _⟩ <;> simp only [coX, appR] <;> first | omega | (have h9 := hg_1 _ _ _ rfl; omega)) (by rcases x_1 with ⟨_, _⟩ | ⟨_, _, _⟩ <;> simp only [coX, appR] <;> first | omega | (have h9 := hg_1 _ _ _ rfl; omega)) (fun p9 o9 L9 q_1 h_1 im_1 M_1 e9 y9 z_1 hh_1 => ?_) (fun _ _ _ _ e _ _ => by cases e)
  cases e9
  have y1 := y0.call y9.1 y9.2.1
  have u_1 := y0.upr y9.2.1
  refine pj_astore_n (pc := 4) (lv' := [(1, _), (0, _)]) dX18_expr_4 rfl (by decide) rfl ?_
  refine pl_aload_n (pc := 5) dX18_expr_5 rfl rfl ?_
  refine pl_callVWd (pc := 6) (As := []) (C1 := 0) (N1 := 0) (C2 := (coX 16 0 5 n p_1 x_1 + 0)) (N2 := (coX 200 0 40 n p_1 x_1 + 0)) ckX18 mdX18_sign rfl q1896 q1898 qs15 q167 dX18_expr_6 rfl rfl (Nat.le_of_ble_eq_true rfl) y1.rd (x_X18_sign (d := d - 1) (by omega) y1.rd (y1.get htr ht) htr tx (by omega)) (by omega) (by omega) (by omega) (fun My2 qy2 => ?_)
  have y2 := y1.callV (RdS.X qy2)
  have hpy2 := (sk_in (B := B) (show p_1 ≤ n by omega))
  refine pj_istore_n (pc := 9) (lv' := [(2, _), (1, _), (0, _)]) dX18_expr_9 rfl (by decide) rfl ?_
  rw [ho_1] at y2 hx
  exact key f (Nat.le_refl _) p_1 x_1 q_1 h_1 _ _ L_1 y2 (z_1.mono (fun a e w => u_1 a e w) (Nat.le_refl _)) (by omega) (by omega) hx
set_option maxHeartbeats 400000 in
theorem K_X18_term {g : GP} {rd t n : Nat} {r : Nat → Int32} {B : Nat → Nat} (htr : t ≠ rd) (tx : TxR r n B) {f : Nat} (H : ∀ f1, f1 ≤ f → KAX g rd t n r B f1) : KX g GdE rd t n r yX18_term (ws_ yX18_term cX18_term 3 (some (.object "SettlerColony$Expr"))) 1 2 15 5 192 40 (PF B n (f + 1) 2) := by
  intro p o d μ x hp ho hd h0 ht hx
  have hn3 := tx.1
  have hB := tx.2.2.2
  have y0 := StX.rf h0
  rw [PF_2] at hx
  have key : ∀ f1, f1 ≤ f → ∀ (p1 : Nat) (x2 : RP) (q h : Nat) (im M : Mem) (L0 : List Cd), StX μ rd t n (sk B n p1) o im M → GdE g im h q L0 → h + p ≤ p1 → p1 ≤ n → PF B n f1 3 p1 o = some x2 → PJ g yX18_term.cls cX18_term 3 (some (.object "SettlerColony$Expr"), yX18_term.name, []) d (coX 16 0 5 n p1 x2) (coX 200 0 40 n p1 x2) 10 [(2, .int (sB (B (sk B n p1)))), (1, .ref q), (0, .ref rd)] [] M (RVX g GdE μ rd t n p 1 (appR L0 x2)) := by
    intro f1
    induction f1 with
    | zero =>
      intro hf1 p1 x2 q h im M L0 y z hh hp1 hx2
      cases (show (none : Option RP) = some x2 from hx2)
    | succ f1 ih =>
      intro hf1 p1 x2 q h im M L0 y z hh hp1 hx2
      have hsk := sk_in (B := B) hp1
      rw [PF_3] at hx2
      refine pl_iload_n (pc := 10) dX18_term_10 rfl rfl ?_
      refine pl_bipush (pc := 11) (v := 42) dX18_term_11 (by rfl) ?_
      refine pj_icmp_eq (pc := 13) (tgt := 28) dX18_term_13 (by decide) (fun c13 => ?_) (fun c13 => ?_)
      · have hc : B (sk B n p1) = 42 := (sB_eq _ (tx.2.2.1 _) 42 (by decide)).mp c13
        have hlt : sk B n p1 < n := by
          rcases Nat.lt_or_ge (sk B n p1) n with z9 | z9
          · exact z9
          · rw [hB _ z9] at hc; cases hc
        rw [if_pos (Or.inl hc), if_pos hc, thenR_assoc] at hx2
        obtain ⟨X3, hX3, hx3⟩ := thenR_get hx2
        rcases X3 with ⟨k9, w9⟩ | ⟨p3, o3, L3⟩
        · have e9 := bind_l hx3
          subst e9
          refine PJ.widen (C1 := 16 * (n - p1) + 5) (N1 := 200 * (n - p1) + 40) (Nat.le_refl _) (Nat.le_refl _) ?_
          refine pl_aload_n (pc := 28) dX18_term_28 rfl rfl ?_
          refine pj_dup (pc := 29) dX18_term_29 rfl ?_
          refine pj_getf (pc := 30) ckX18 2 q1863 dX18_term_30 (by decide) y.rd rfl ?_
          refine pl_iconst (pc := 33) (v := 1) dX18_term_33 (by rfl) ?_
          refine pl_iadd (pc := 34) dX18_term_34 ?_
          refine pj_putf (pc := 35) ckX18 2 q1863 dX18_term_35 (by decide) rfl y.rd rfl rfl (Nat.le_of_ble_eq_true rfl) ?_
          refine PJ.mem (show _ = (mset M rd (rdO t n (sk B n p1 + 1) o)) from rfl) ?_
          have y1 := StX.of (p1 := (sk B n p1 + 1)) (o1 := o) y
          refine pj_new (pc := 38) (C1 := (16 * (n - (sk B n p1 + 1)) + 5)) (N1 := (200 * (n - (sk B n p1 + 1)) + 40)) ckX24 q2233 q2234 q173 dX18_term_38 _ dfX24 (by omega) (by omega) (fun q_38 hn_38 gq_38 => ?_)
          refine pj_dup (pc := 41) dX18_term_41 rfl ?_
          refine pl_aload_n (pc := 42) dX18_term_42 rfl rfl ?_
          refine pl_iload_n (pc := 43) dX18_term_43 rfl rfl ?_
          refine pj_i2c (pc := 44) dX18_term_44 rfl ?_
          refine PJ.top (y := sgc 3) (by rw [c13]; decide) ?_
          refine pl_aload_n (pc := 45) dX18_term_45 rfl rfl ?_
          have w_9 := StX.new (c := (.inr (26, [.null, .null, .int 0]))) y1 hn_38
          refine pl_callVR (pc := 46) (As := []) (C1 := _) (N1 := _) (C2 := 0) (N2 := 0) ckX18 mdX18_unit rfl q2057 q2059 qs23 q167 dX18_term_46 rfl rfl (Nat.le_of_ble_eq_true rfl) w_9.rd ((H f1 (by omega)).2.2.1 (sk B n p1 + 1) o (d - 1) _ (.inl (k9, w9)) (by omega) (by omega) (by omega) w_9.rd (w_9.get htr ht) hX3) (by omega) (Nat.le_refl _) (Nat.le_refl _) (fun _ _ _ _ _ _ _ e _ _ _ => by cases e) (fun k8 w8 q8 M8 e8 hq8 hP8 => by cases e8; exact px_out0 rfl ⟨q8, rfl, hq8, w_9.fault hP8⟩)
        · obtain ⟨x4, hx4, rfl⟩ := bind_r hx3
          obtain ⟨x5, hx5, rfl⟩ := emit_get hx4
          obtain ⟨ho3, hi3, hn9⟩ := PF_in hB f1 4 _ _ (by decide) (by omega) _ _ _ hX3
          have ho4 := ho3.symm
          subst ho4
          have hm3 := (PF_min f1 4 _ _ _ _ _ hX3).1 (by decide)
          have hg5 : ∀ pf of Lf, x5 = .inr (pf, of, Lf) → p3 ≤ pf ∧ pf ≤ n := fun pf of Lf e => MnP.PFL (tag := 3) hB (by decide) _ _ _ _ _ (show p3 ≤ n by omega) (show _ = some (Sum.inr (pf, of, Lf)) by rw [← e]; exact hx5)
          refine PJ.widen (C1 := 1 + (16 * (p3 - (sk B n p1 + 1)) - 15 + coX 16 0 5 n p3 x5)) (N1 := 3 + (200 * (p3 - (sk B n p1 + 1)) - 192 + coX 200 0 40 n p3 x5)) (by rcases x5 with ⟨_, _⟩ | ⟨_, _, _⟩ <;> simp only [coX, appR] <;> first | omega | (have h9 := hg5 _ _ _ rfl; omega)) (by rcases x5 with ⟨_, _⟩ | ⟨_, _, _⟩ <;> simp only [coX, appR] <;> first | omega | (have h9 := hg5 _ _ _ rfl; omega)) ?_
          refine pl_aload_n (pc := 28) dX18_term_28 rfl rfl ?_
          refine pj_dup (pc := 29) dX18_term_29 rfl ?_
          refine pj_getf (pc := 30) ckX18 2 q1863 dX18_term_30 (by decide) y.rd rfl ?_
          refine pl_iconst (pc := 33) (v := 1) dX18_term_33 (by rfl) ?_
          refine pl_iadd (pc := 34) dX18_term_34 ?_
          refine pj_putf (pc := 35) ckX18 2 q1863 dX18_term_35 (by decide) rfl y.rd rfl rfl (Nat.le_of_ble_eq_true rfl) ?_
          refine PJ.mem (show _ = (mset M rd (rdO t n (sk B n p1 + 1) o)) from rfl) ?_
          have y2 := StX.of (p1 := (sk B n p1 + 1)) (o1 := o) y
          refine pj_new (pc := 38) (C1 := (16 * (p3 - (sk B n p1 + 1)) - 15 + coX 16 0 5 n p3 x5)) (N1 := (200 * (p3 - (sk B n p1 + 1)) - 192 + coX 200 0 40 n p3 x5)) ckX24 q2233 q2234 q173 dX18_term_38 _ dfX24 (by omega) (by omega) (fun q_38 hn_38 gq_38 => ?_)
          refine pj_dup (pc := 41) dX18_term_41 rfl ?_
          refine pl_aload_n (pc := 42) dX18_term_42 rfl rfl ?_
          refine pl_iload_n (pc := 43) dX18_term_43 rfl rfl ?_
          refine pj_i2c (pc := 44) dX18_term_44 rfl ?_
          refine PJ.top (y := sgc 3) (by rw [c13]; decide) ?_
          refine pl_aload_n (pc := 45) dX18_term_45 rfl rfl ?_
          have w_9 := StX.new (c := (.inr (26, [.null, .null, .int 0]))) y2 hn_38
          refine pl_callVR (pc := 46) (As := []) (C1 := _) (N1 := _) (C2 := (coX 16 0 5 n p3 x5)) (N2 := (coX 200 0 40 n p3 x5)) ckX18 mdX18_unit rfl q2057 q2059 qs23 q167 dX18_term_46 rfl rfl (Nat.le_of_ble_eq_true rfl) w_9.rd ((H f1 (by omega)).2.2.1 (sk B n p1 + 1) o (d - 1) _ (.inr (p3, o, L3)) (by omega) (by omega) (by omega) w_9.rd (w_9.get htr ht) hX3) (by omega) (Nat.le_refl _) (Nat.le_refl _) (fun p9 o9 L9 q_3 h_3 im_3 M_3 e9 y9 z_3 hh_3 => ?_) (fun _ _ _ _ e _ _ => by cases e)
          cases e9
          have y_3 := w_9.call y9.1 y9.2.1
          have u_3 := w_9.upr y9.2.1
          have m_3 : M_3 q_38 = some (.inr (26, [.null, .null, .int 0])) := y9.get (y2.nrd hn_38) mset_s
          have i_3 : imU im im_3 q_38 = none := imU_no (y2.imn hn_38) (y9.2.1.no mset_s)
          refine pl_callIv (pc := 49) (As := [_, _, _]) (C1 := 0) (N1 := 0) (C2 := (coX 16 0 5 n p3 x5)) (N2 := (coX 200 0 40 n p3 x5)) mdX24_init rfl q2235 q2130 q173 dX18_term_49 rfl rfl (Nat.le_of_ble_eq_true rfl) (k_X24_init (x9 := 0) (d := d - 1) (by omega) (by rfl) (by rfl) m_3) (by omega) (by omega) (by omega) ?_
          have m9 := y2.mu hn_38
          have y_4 := (StX.cell (c := (.inr (26, [.ref q, .ref q_3, .int (sgc 3)]))) y_3 (y2.nrd hn_38) m9 i_3).keep m9 mset_s
          have z_4 := GdE.mkTwo (q := q_38) (k := 3) (by decide) (mset_s (μ := imU im im_3) (e := (.inr (26, [.ref q, .ref q_3, .int (sgc 3)])))) (z.mono (fun a e w => mset_up i_3 a e (imU_l a e w)) (Nat.le_max_left h h_3)) (z_3.mono (fun a e w => mset_up i_3 a e (u_3 a e w)) (Nat.le_max_right h h_3))
          refine pj_astore_n (pc := 52) (lv' := [(1, _), (2, _), (0, _)]) dX18_term_52 rfl (by decide) rfl ?_
          refine pl_aload_n (pc := 53) dX18_term_53 rfl rfl ?_
          refine pl_callVWd (pc := 54) (As := []) (C1 := 0) (N1 := 0) (C2 := (coX 16 0 5 n p3 x5)) (N2 := (coX 200 0 40 n p3 x5)) ckX18 mdX18_sign rfl q1896 q1898 qs15 q167 dX18_term_54 rfl rfl (Nat.le_of_ble_eq_true rfl) y_4.rd (x_X18_sign (d := d - 1) (by omega) y_4.rd (y_4.get htr ht) htr tx (by omega)) (by omega) (by omega) (by omega) (fun My3 qy3 => ?_)
          have y3 := y_4.callV (RdS.X qy3)
          have hpy3 := (sk_in (B := B) (show p3 ≤ n by omega))
          refine pj_istore_n (pc := 57) (lv' := [(2, _), (1, _), (0, _)]) dX18_term_57 rfl (by decide) rfl ?_
          refine pj_goto (pc := 58) (tgt := 10) dX18_term_58 (by decide) ?_
          have e_9 : appR L0 (appR L3 (appR [(3, nI 0)] x5)) = appR (L0 ++ (L3 ++ [(3, nI 0)])) x5 := by rw [appR_app, appR_app, List.append_assoc]
          rw [e_9]
          exact ih (by omega) p3 x5 q_38 _ _ _ _ y3 z_4 (by omega) (by omega) hx5
      · refine pl_iload_n (pc := 16) dX18_term_16 rfl rfl ?_
        refine pl_bipush (pc := 17) (v := 47) dX18_term_17 (by rfl) ?_
        refine pj_icmp_eq (pc := 19) (tgt := 28) dX18_term_19 (by decide) (fun c19 => ?_) (fun c19 => ?_)
        · have hc : B (sk B n p1) = 47 := (sB_eq _ (tx.2.2.1 _) 47 (by decide)).mp c19
          have hlt : sk B n p1 < n := by
            rcases Nat.lt_or_ge (sk B n p1) n with z9 | z9
            · exact z9
            · rw [hB _ z9] at hc; cases hc
          rw [if_pos (Or.inr (Or.inl hc)), if_neg (by rw [hc]; decide), if_pos hc, thenR_assoc] at hx2
          obtain ⟨X3, hX3, hx3⟩ := thenR_get hx2
          rcases X3 with ⟨k9, w9⟩ | ⟨p3, o3, L3⟩
          · have e9 := bind_l hx3
            subst e9
            refine PJ.widen (C1 := 16 * (n - p1) + 5) (N1 := 200 * (n - p1) + 40) (Nat.le_refl _) (Nat.le_refl _) ?_
            refine pl_aload_n (pc := 28) dX18_term_28 rfl rfl ?_
            refine pj_dup (pc := 29) dX18_term_29 rfl ?_
            refine pj_getf (pc := 30) ckX18 2 q1863 dX18_term_30 (by decide) y.rd rfl ?_
            refine pl_iconst (pc := 33) (v := 1) dX18_term_33 (by rfl) ?_
            refine pl_iadd (pc := 34) dX18_term_34 ?_
            refine pj_putf (pc := 35) ckX18 2 q1863 dX18_term_35 (by decide) rfl y.rd rfl rfl (Nat.le_of_ble_eq_true rfl) ?_
            refine PJ.mem (show _ = (mset M rd (rdO t n (sk B n p1 + 1) o)) from rfl) ?_
            have y4 := StX.of (p1 := (sk B n p1 + 1)) (o1 := o) y
            refine pj_new (pc := 38) (C1 := (16 * (n - (sk B n p1 + 1)) + 5)) (N1 := (200 * (n - (sk B n p1 + 1)) + 40)) ckX24 q2233 q2234 q173 dX18_term_38 _ dfX24 (by omega) (by omega) (fun q_38 hn_38 gq_38 => ?_)
            refine pj_dup (pc := 41) dX18_term_41 rfl ?_
            refine pl_aload_n (pc := 42) dX18_term_42 rfl rfl ?_
            refine pl_iload_n (pc := 43) dX18_term_43 rfl rfl ?_
            refine pj_i2c (pc := 44) dX18_term_44 rfl ?_
            refine PJ.top (y := sgc 4) (by rw [c19]; decide) ?_
            refine pl_aload_n (pc := 45) dX18_term_45 rfl rfl ?_
            have w_9 := StX.new (c := (.inr (26, [.null, .null, .int 0]))) y4 hn_38
            refine pl_callVR (pc := 46) (As := []) (C1 := _) (N1 := _) (C2 := 0) (N2 := 0) ckX18 mdX18_unit rfl q2057 q2059 qs23 q167 dX18_term_46 rfl rfl (Nat.le_of_ble_eq_true rfl) w_9.rd ((H f1 (by omega)).2.2.1 (sk B n p1 + 1) o (d - 1) _ (.inl (k9, w9)) (by omega) (by omega) (by omega) w_9.rd (w_9.get htr ht) hX3) (by omega) (Nat.le_refl _) (Nat.le_refl _) (fun _ _ _ _ _ _ _ e _ _ _ => by cases e) (fun k8 w8 q8 M8 e8 hq8 hP8 => by cases e8; exact px_out0 rfl ⟨q8, rfl, hq8, w_9.fault hP8⟩)
          · obtain ⟨x4, hx4, rfl⟩ := bind_r hx3
            obtain ⟨x5, hx5, rfl⟩ := emit_get hx4
            obtain ⟨ho3, hi3, hn9⟩ := PF_in hB f1 4 _ _ (by decide) (by omega) _ _ _ hX3
            have ho4 := ho3.symm
            subst ho4
            have hm3 := (PF_min f1 4 _ _ _ _ _ hX3).1 (by decide)
            have hg5 : ∀ pf of Lf, x5 = .inr (pf, of, Lf) → p3 ≤ pf ∧ pf ≤ n := fun pf of Lf e => MnP.PFL (tag := 3) hB (by decide) _ _ _ _ _ (show p3 ≤ n by omega) (show _ = some (Sum.inr (pf, of, Lf)) by rw [← e]; exact hx5)
            refine PJ.widen (C1 := 1 + (16 * (p3 - (sk B n p1 + 1)) - 15 + coX 16 0 5 n p3 x5)) (N1 := 3 + (200 * (p3 - (sk B n p1 + 1)) - 192 + coX 200 0 40 n p3 x5)) (by rcases x5 with ⟨_, _⟩ | ⟨_, _, _⟩ <;> simp only [coX, appR] <;> first | omega | (have h9 := hg5 _ _ _ rfl; omega)) (by rcases x5 with ⟨_, _⟩ | ⟨_, _, _⟩ <;> simp only [coX, appR] <;> first | omega | (have h9 := hg5 _ _ _ rfl; omega)) ?_
            refine pl_aload_n (pc := 28) dX18_term_28 rfl rfl ?_
            refine pj_dup (pc := 29) dX18_term_29 rfl ?_
            refine pj_getf (pc := 30) ckX18 2 q1863 dX18_term_30 (by decide) y.rd rfl ?_
            refine pl_iconst (pc := 33) (v := 1) dX18_term_33 (by rfl) ?_
            refine pl_iadd (pc := 34) dX18_term_34 ?_
            refine pj_putf (pc := 35) ckX18 2 q1863 dX18_term_35 (by decide) rfl y.rd rfl rfl (Nat.le_of_ble_eq_true rfl) ?_
            refine PJ.mem (show _ = (mset M rd (rdO t n (sk B n p1 + 1) o)) from rfl) ?_
            have y5 := StX.of (p1 := (sk B n p1 + 1)) (o1 := o) y
            refine pj_new (pc := 38) (C1 := (16 * (p3 - (sk B n p1 + 1)) - 15 + coX 16 0 5 n p3 x5)) (N1 := (200 * (p3 - (sk B n p1 + 1)) - 192 + coX 200 0 40 n p3 x5)) ckX24 q2233 q2234 q173 dX18_term_38 _ dfX24 (by omega) (by omega) (fun q_38 hn_38 gq_38 => ?_)
            refine pj_dup (pc := 41) dX18_term_41 rfl ?_
            refine pl_aload_n (pc := 42) dX18_term_42 rfl rfl ?_
            refine pl_iload_n (pc := 43) dX18_term_43 rfl rfl ?_
            refine pj_i2c (pc := 44) dX18_term_44 rfl ?_
            refine PJ.top (y := sgc 4) (by rw [c19]; decide) ?_
            refine pl_aload_n (pc := 45) dX18_term_45 rfl rfl ?_
            have w_9 := StX.new (c := (.inr (26, [.null, .null, .int 0]))) y5 hn_38
            refine pl_callVR (pc := 46) (As := []) (C1 := _) (N1 := _) (C2 := (coX 16 0 5 n p3 x5)) (N2 := (coX 200 0 40 n p3 x5)) ckX18 mdX18_unit rfl q2057 q2059 qs23 q167 dX18_term_46 rfl rfl (Nat.le_of_ble_eq_true rfl) w_9.rd ((H f1 (by omega)).2.2.1 (sk B n p1 + 1) o (d - 1) _ (.inr (p3, o, L3)) (by omega) (by omega) (by omega) w_9.rd (w_9.get htr ht) hX3) (by omega) (Nat.le_refl _) (Nat.le_refl _) (fun p9 o9 L9 q_3 h_3 im_3 M_3 e9 y9 z_3 hh_3 => ?_) (fun _ _ _ _ e _ _ => by cases e)
            cases e9
            have y_3 := w_9.call y9.1 y9.2.1
            have u_3 := w_9.upr y9.2.1
            have m_3 : M_3 q_38 = some (.inr (26, [.null, .null, .int 0])) := y9.get (y5.nrd hn_38) mset_s
            have i_3 : imU im im_3 q_38 = none := imU_no (y5.imn hn_38) (y9.2.1.no mset_s)
            refine pl_callIv (pc := 49) (As := [_, _, _]) (C1 := 0) (N1 := 0) (C2 := (coX 16 0 5 n p3 x5)) (N2 := (coX 200 0 40 n p3 x5)) mdX24_init rfl q2235 q2130 q173 dX18_term_49 rfl rfl (Nat.le_of_ble_eq_true rfl) (k_X24_init (x9 := 0) (d := d - 1) (by omega) (by rfl) (by rfl) m_3) (by omega) (by omega) (by omega) ?_
            have m9 := y5.mu hn_38
            have y_4 := (StX.cell (c := (.inr (26, [.ref q, .ref q_3, .int (sgc 4)]))) y_3 (y5.nrd hn_38) m9 i_3).keep m9 mset_s
            have z_4 := GdE.mkTwo (q := q_38) (k := 4) (by decide) (mset_s (μ := imU im im_3) (e := (.inr (26, [.ref q, .ref q_3, .int (sgc 4)])))) (z.mono (fun a e w => mset_up i_3 a e (imU_l a e w)) (Nat.le_max_left h h_3)) (z_3.mono (fun a e w => mset_up i_3 a e (u_3 a e w)) (Nat.le_max_right h h_3))
            refine pj_astore_n (pc := 52) (lv' := [(1, _), (2, _), (0, _)]) dX18_term_52 rfl (by decide) rfl ?_
            refine pl_aload_n (pc := 53) dX18_term_53 rfl rfl ?_
            refine pl_callVWd (pc := 54) (As := []) (C1 := 0) (N1 := 0) (C2 := (coX 16 0 5 n p3 x5)) (N2 := (coX 200 0 40 n p3 x5)) ckX18 mdX18_sign rfl q1896 q1898 qs15 q167 dX18_term_54 rfl rfl (Nat.le_of_ble_eq_true rfl) y_4.rd (x_X18_sign (d := d - 1) (by omega) y_4.rd (y_4.get htr ht) htr tx (by omega)) (by omega) (by omega) (by omega) (fun My6 qy6 => ?_)
            have y6 := y_4.callV (RdS.X qy6)
            have hpy6 := (sk_in (B := B) (show p3 ≤ n by omega))
            refine pj_istore_n (pc := 57) (lv' := [(2, _), (1, _), (0, _)]) dX18_term_57 rfl (by decide) rfl ?_
            refine pj_goto (pc := 58) (tgt := 10) dX18_term_58 (by decide) ?_
            have e_9 : appR L0 (appR L3 (appR [(4, nI 0)] x5)) = appR (L0 ++ (L3 ++ [(4, nI 0)])) x5 := by rw [appR_app, appR_app, List.append_assoc]
            rw [e_9]
            exact ih (by omega) p3 x5 q_38 _ _ _ _ y6 z_4 (by omega) (by omega) hx5
        · refine pl_iload_n (pc := 22) dX18_term_22 rfl rfl ?_
          refine pl_bipush (pc := 23) (v := 37) dX18_term_23 (by rfl) ?_
          refine pj_icmp_ne (pc := 25) (tgt := 61) dX18_term_25 (by decide) (fun c25 => ?_) (fun c25 => ?_)
          · refine pl_aload_n (pc := 61) dX18_term_61 rfl rfl ?_
            refine pj_aret (pc := 62) dX18_term_62 rfl (Or.inl ⟨_, rfl⟩) (Or.inr ⟨_, rfl⟩) ?_
            have hne : ¬ (B (sk B n p1) = 42 ∨ B (sk B n p1) = 47 ∨ B (sk B n p1) = 37) := fun zz => by
              rcases zz with zz | zz | zz
              · exact c13 ((sB_eq _ (tx.2.2.1 _) 42 (by decide)).mpr zz)
              · exact c19 ((sB_eq _ (tx.2.2.1 _) 47 (by decide)).mpr zz)
              · exact c25 ((sB_eq _ (tx.2.2.1 _) 37 (by decide)).mpr zz)
            rw [if_neg hne] at hx2
            have e_9 : x2 = .inr (sk B n p1, o, []) := (Option.some.inj hx2).symm
            subst e_9
            rw [appR_end]
            exact ⟨q, im, h, rfl, y, z, by omega⟩
          · have hc : B (sk B n p1) = 37 := (sB_eq _ (tx.2.2.1 _) 37 (by decide)).mp c25
            have hlt : sk B n p1 < n := by
              rcases Nat.lt_or_ge (sk B n p1) n with z9 | z9
              · exact z9
              · rw [hB _ z9] at hc; cases hc
            rw [if_pos (Or.inr (Or.inr hc)), if_neg (by rw [hc]; decide), if_neg (by rw [hc]; decide), thenR_assoc] at hx2
            obtain ⟨X3, hX3, hx3⟩ := thenR_get hx2
            rcases X3 with ⟨k9, w9⟩ | ⟨p3, o3, L3⟩
            · have e9 := bind_l hx3
              subst e9
              refine PJ.widen (C1 := 16 * (n - p1) + 5) (N1 := 200 * (n - p1) + 40) (Nat.le_refl _) (Nat.le_refl _) ?_
              refine pl_aload_n (pc := 28) dX18_term_28 rfl rfl ?_
              refine pj_dup (pc := 29) dX18_term_29 rfl ?_
              refine pj_getf (pc := 30) ckX18 2 q1863 dX18_term_30 (by decide) y.rd rfl ?_
              refine pl_iconst (pc := 33) (v := 1) dX18_term_33 (by rfl) ?_
              refine pl_iadd (pc := 34) dX18_term_34 ?_
              refine pj_putf (pc := 35) ckX18 2 q1863 dX18_term_35 (by decide) rfl y.rd rfl rfl (Nat.le_of_ble_eq_true rfl) ?_
              refine PJ.mem (show _ = (mset M rd (rdO t n (sk B n p1 + 1) o)) from rfl) ?_
              have y7 := StX.of (p1 := (sk B n p1 + 1)) (o1 := o) y
              refine pj_new (pc := 38) (C1 := (16 * (n - (sk B n p1 + 1)) + 5)) (N1 := (200 * (n - (sk B n p1 + 1)) + 40)) ckX24 q2233 q2234 q173 dX18_term_38 _ dfX24 (by omega) (by omega) (fun q_38 hn_38 gq_38 => ?_)
              refine pj_dup (pc := 41) dX18_term_41 rfl ?_
              refine pl_aload_n (pc := 42) dX18_term_42 rfl rfl ?_
              refine pl_iload_n (pc := 43) dX18_term_43 rfl rfl ?_
              refine pj_i2c (pc := 44) dX18_term_44 rfl ?_
              refine PJ.top (y := sgc 5) (by rw [c25]; decide) ?_
              refine pl_aload_n (pc := 45) dX18_term_45 rfl rfl ?_
              have w_9 := StX.new (c := (.inr (26, [.null, .null, .int 0]))) y7 hn_38
              refine pl_callVR (pc := 46) (As := []) (C1 := _) (N1 := _) (C2 := 0) (N2 := 0) ckX18 mdX18_unit rfl q2057 q2059 qs23 q167 dX18_term_46 rfl rfl (Nat.le_of_ble_eq_true rfl) w_9.rd ((H f1 (by omega)).2.2.1 (sk B n p1 + 1) o (d - 1) _ (.inl (k9, w9)) (by omega) (by omega) (by omega) w_9.rd (w_9.get htr ht) hX3) (by omega) (Nat.le_refl _) (Nat.le_refl _) (fun _ _ _ _ _ _ _ e _ _ _ => by cases e) (fun k8 w8 q8 M8 e8 hq8 hP8 => by cases e8; exact px_out0 rfl ⟨q8, rfl, hq8, w_9.fault hP8⟩)
            · obtain ⟨x4, hx4, rfl⟩ := bind_r hx3
              obtain ⟨x5, hx5, rfl⟩ := emit_get hx4
              obtain ⟨ho3, hi3, hn9⟩ := PF_in hB f1 4 _ _ (by decide) (by omega) _ _ _ hX3
              have ho4 := ho3.symm
              subst ho4
              have hm3 := (PF_min f1 4 _ _ _ _ _ hX3).1 (by decide)
              have hg5 : ∀ pf of Lf, x5 = .inr (pf, of, Lf) → p3 ≤ pf ∧ pf ≤ n := fun pf of Lf e => MnP.PFL (tag := 3) hB (by decide) _ _ _ _ _ (show p3 ≤ n by omega) (show _ = some (Sum.inr (pf, of, Lf)) by rw [← e]; exact hx5)
              refine PJ.widen (C1 := 1 + (16 * (p3 - (sk B n p1 + 1)) - 15 + coX 16 0 5 n p3 x5)) (N1 := 3 + (200 * (p3 - (sk B n p1 + 1)) - 192 + coX 200 0 40 n p3 x5)) (by rcases x5 with ⟨_, _⟩ | ⟨_, _, _⟩ <;> simp only [coX, appR] <;> first | omega | (have h9 := hg5 _ _ _ rfl; omega)) (by rcases x5 with ⟨_, _⟩ | ⟨_, _, _⟩ <;> simp only [coX, appR] <;> first | omega | (have h9 := hg5 _ _ _ rfl; omega)) ?_
              refine pl_aload_n (pc := 28) dX18_term_28 rfl rfl ?_
              refine pj_dup (pc := 29) dX18_term_29 rfl ?_
              refine pj_getf (pc := 30) ckX18 2 q1863 dX18_term_30 (by decide) y.rd rfl ?_
              refine pl_iconst (pc := 33) (v := 1) dX18_term_33 (by rfl) ?_
              refine pl_iadd (pc := 34) dX18_term_34 ?_
              refine pj_putf (pc := 35) ckX18 2 q1863 dX18_term_35 (by decide) rfl y.rd rfl rfl (Nat.le_of_ble_eq_true rfl) ?_
              refine PJ.mem (show _ = (mset M rd (rdO t n (sk B n p1 + 1) o)) from rfl) ?_
              have y8 := StX.of (p1 := (sk B n p1 + 1)) (o1 := o) y
              refine pj_new (pc := 38) (C1 := (16 * (p3 - (sk B n p1 + 1)) - 15 + coX 16 0 5 n p3 x5)) (N1 := (200 * (p3 - (sk B n p1 + 1)) - 192 + coX 200 0 40 n p3 x5)) ckX24 q2233 q2234 q173 dX18_term_38 _ dfX24 (by omega) (by omega) (fun q_38 hn_38 gq_38 => ?_)
              refine pj_dup (pc := 41) dX18_term_41 rfl ?_
              refine pl_aload_n (pc := 42) dX18_term_42 rfl rfl ?_
              refine pl_iload_n (pc := 43) dX18_term_43 rfl rfl ?_
              refine pj_i2c (pc := 44) dX18_term_44 rfl ?_
              refine PJ.top (y := sgc 5) (by rw [c25]; decide) ?_
              refine pl_aload_n (pc := 45) dX18_term_45 rfl rfl ?_
              have w_9 := StX.new (c := (.inr (26, [.null, .null, .int 0]))) y8 hn_38
              refine pl_callVR (pc := 46) (As := []) (C1 := _) (N1 := _) (C2 := (coX 16 0 5 n p3 x5)) (N2 := (coX 200 0 40 n p3 x5)) ckX18 mdX18_unit rfl q2057 q2059 qs23 q167 dX18_term_46 rfl rfl (Nat.le_of_ble_eq_true rfl) w_9.rd ((H f1 (by omega)).2.2.1 (sk B n p1 + 1) o (d - 1) _ (.inr (p3, o, L3)) (by omega) (by omega) (by omega) w_9.rd (w_9.get htr ht) hX3) (by omega) (Nat.le_refl _) (Nat.le_refl _) (fun p9 o9 L9 q_3 h_3 im_3 M_3 e9 y9 z_3 hh_3 => ?_) (fun _ _ _ _ e _ _ => by cases e)
              cases e9
              have y_3 := w_9.call y9.1 y9.2.1
              have u_3 := w_9.upr y9.2.1
              have m_3 : M_3 q_38 = some (.inr (26, [.null, .null, .int 0])) := y9.get (y8.nrd hn_38) mset_s
              have i_3 : imU im im_3 q_38 = none := imU_no (y8.imn hn_38) (y9.2.1.no mset_s)
              refine pl_callIv (pc := 49) (As := [_, _, _]) (C1 := 0) (N1 := 0) (C2 := (coX 16 0 5 n p3 x5)) (N2 := (coX 200 0 40 n p3 x5)) mdX24_init rfl q2235 q2130 q173 dX18_term_49 rfl rfl (Nat.le_of_ble_eq_true rfl) (k_X24_init (x9 := 0) (d := d - 1) (by omega) (by rfl) (by rfl) m_3) (by omega) (by omega) (by omega) ?_
              have m9 := y8.mu hn_38
              have y_4 := (StX.cell (c := (.inr (26, [.ref q, .ref q_3, .int (sgc 5)]))) y_3 (y8.nrd hn_38) m9 i_3).keep m9 mset_s
              have z_4 := GdE.mkTwo (q := q_38) (k := 5) (by decide) (mset_s (μ := imU im im_3) (e := (.inr (26, [.ref q, .ref q_3, .int (sgc 5)])))) (z.mono (fun a e w => mset_up i_3 a e (imU_l a e w)) (Nat.le_max_left h h_3)) (z_3.mono (fun a e w => mset_up i_3 a e (u_3 a e w)) (Nat.le_max_right h h_3))
              refine pj_astore_n (pc := 52) (lv' := [(1, _), (2, _), (0, _)]) dX18_term_52 rfl (by decide) rfl ?_
              refine pl_aload_n (pc := 53) dX18_term_53 rfl rfl ?_
              refine pl_callVWd (pc := 54) (As := []) (C1 := 0) (N1 := 0) (C2 := (coX 16 0 5 n p3 x5)) (N2 := (coX 200 0 40 n p3 x5)) ckX18 mdX18_sign rfl q1896 q1898 qs15 q167 dX18_term_54 rfl rfl (Nat.le_of_ble_eq_true rfl) y_4.rd (x_X18_sign (d := d - 1) (by omega) y_4.rd (y_4.get htr ht) htr tx (by omega)) (by omega) (by omega) (by omega) (fun My9 qy9 => ?_)
              have y9 := y_4.callV (RdS.X qy9)
              have hpy9 := (sk_in (B := B) (show p3 ≤ n by omega))
              refine pj_istore_n (pc := 57) (lv' := [(2, _), (1, _), (0, _)]) dX18_term_57 rfl (by decide) rfl ?_
              refine pj_goto (pc := 58) (tgt := 10) dX18_term_58 (by decide) ?_
              have e_9 : appR L0 (appR L3 (appR [(5, nI 0)] x5)) = appR (L0 ++ (L3 ++ [(5, nI 0)])) x5 := by rw [appR_app, appR_app, List.append_assoc]
              rw [e_9]
              exact ih (by omega) p3 x5 q_38 _ _ _ _ y9 z_4 (by omega) (by omega) hx5
  refine PM.of (by decide +kernel) (Nat.le_of_ble_eq_true rfl) ?_
  refine PJ.ok (fun G => ?_)
  show PJ g _ _ _ _ d (coX 16 15 5 n p x) (coX 200 192 40 n p x) 0 [(0, .ref rd)] [] _ _
  refine pl_aload_n (pc := 0) dX18_term_0 rfl rfl ?_
  obtain ⟨X_1, hX_1, hx⟩ := thenR_get hx
  rcases X_1 with ⟨k9, w9⟩ | ⟨p_1, o_1, L_1⟩
  · have e9 := bind_l hx
    subst e9
    refine pl_callVR (pc := 1) (As := []) (C1 := _) (N1 := _) (C2 := 0) (N2 := 0) ckX18 mdX18_unit rfl q2057 q2059 qs23 q167 dX18_term_1 rfl rfl (Nat.le_of_ble_eq_true rfl) y0.rd ((H f (Nat.le_refl _)).2.2.1 p o (d - 1) _ (.inl (k9, w9)) (by omega) (by omega) (by omega) y0.rd (y0.get htr ht) hX_1) (by omega) (by simp only [coX, appR]; omega) (by simp only [coX, appR]; omega) (fun _ _ _ _ _ _ _ e _ _ _ => by cases e) (fun k8 w8 q8 M8 e8 hq8 hP8 => by cases e8; exact px_out0 rfl ⟨q8, rfl, hq8, y0.fault hP8⟩)
  obtain ⟨x_1, hz_1, ez_1⟩ := bind_r hx
  clear hx
  subst ez_1
  have hx := hz_1
  obtain ⟨ho_1, hi_1, hn_1⟩ := PF_in hB f 4 _ _ (by decide) (by omega) _ _ _ hX_1
  have hm_1 := (PF_min f 4 _ _ _ _ _ hX_1).1 (by decide)
  have hg_1 : ∀ pf of Lf, x_1 = .inr (pf, of, Lf) → p_1 + 0 ≤ pf ∧ pf ≤ n := fun pf of Lf e => by have h9 := (MnP.PFL (tag := 3) hB (by decide)) _ _ _ _ _ (show p_1 ≤ n by omega) (show _ = some (Sum.inr (pf, of, Lf)) by rw [← e]; exact hx); exact ⟨by omega, h9.2⟩
  refine pl_callVR (pc := 1) (As := []) (C1 := _) (N1 := _) (C2 := (coX 16 0 5 n p_1 x_1 + 0)) (N2 := (coX 200 0 40 n p_1 x_1 + 0)) ckX18 mdX18_unit rfl q2057 q2059 qs23 q167 dX18_term_1 rfl rfl (Nat.le_of_ble_eq_true rfl) y0.rd ((H f (Nat.le_refl _)).2.2.1 p o (d - 1) _ (.inr (p_1, o_1, L_1)) (by omega) (by omega) (by omega) y0.rd (y0.get htr ht) hX_1) (by omega) (by rcases x_1 with ⟨_, _⟩ | ⟨_, _, _⟩ <;> simp only [coX, appR] <;> first | omega | (have h9 := hg_1 _ _ _ rfl; omega)) (by rcases x_1 with ⟨_, _⟩ | ⟨_, _, _⟩ <;> simp only [coX, appR] <;> first | omega | (have h9 := hg_1 _ _ _ rfl; omega)) (fun p9 o9 L9 q_1 h_1 im_1 M_1 e9 y9 z_1 hh_1 => ?_) (fun _ _ _ _ e _ _ => by cases e)
  cases e9
  have y1 := y0.call y9.1 y9.2.1
  have u_1 := y0.upr y9.2.1
  refine pj_astore_n (pc := 4) (lv' := [(1, _), (0, _)]) dX18_term_4 rfl (by decide) rfl ?_
  refine pl_aload_n (pc := 5) dX18_term_5 rfl rfl ?_
  refine pl_callVWd (pc := 6) (As := []) (C1 := 0) (N1 := 0) (C2 := (coX 16 0 5 n p_1 x_1 + 0)) (N2 := (coX 200 0 40 n p_1 x_1 + 0)) ckX18 mdX18_sign rfl q1896 q1898 qs15 q167 dX18_term_6 rfl rfl (Nat.le_of_ble_eq_true rfl) y1.rd (x_X18_sign (d := d - 1) (by omega) y1.rd (y1.get htr ht) htr tx (by omega)) (by omega) (by omega) (by omega) (fun My2 qy2 => ?_)
  have y2 := y1.callV (RdS.X qy2)
  have hpy2 := (sk_in (B := B) (show p_1 ≤ n by omega))
  refine pj_istore_n (pc := 9) (lv' := [(2, _), (1, _), (0, _)]) dX18_term_9 rfl (by decide) rfl ?_
  rw [ho_1] at y2 hx
  exact key f (Nat.le_refl _) p_1 x_1 q_1 h_1 _ _ L_1 y2 (z_1.mono (fun a e w => u_1 a e w) (Nat.le_refl _)) (by omega) (by omega) hx
