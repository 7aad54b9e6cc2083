set_option maxRecDepth 100000
section GF
variable {σ : MS} {n nl nb q nw : Nat}
theorem t45_mn : MnX σ (t45 n nl nw σ) := by
  unfold t45 t84 t103 t151
  exact ((((MnX.q (fun i τ => mn_rainz nw i τ) MnX.rf 4).tr (MnX.q (fun i τ => mn_strays n nl i τ) MnX.rf 96)).tr (MnX.q (fun i τ => mn_end1 i τ) MnX.rf 96)).tr (mn_yearI n nw _)).tr (mn_tick n nl nw _)
theorem goes_mn1 {nor m : Nat} (v : IvG σ n nl nb q nor m) : MnX σ (s_surveysAll q (s_letters n nl nb (s_lands σ n))) := by
  have hL := v.hL
  have hQ := v.hQ
  exact ((mn_lands σ n).tr (mn_letters (by omega) _)).tr (mn_surveysAll (by omega) (letters_iv (lands_iv v n (Nat.le_refl _))) q (Nat.le_refl _))
theorem goes_mn2 : MnX (uq (livesI n nl) n (s_surveysAll q (s_letters n nl nb (s_lands σ n)))) (s_goes n nl nb q nw σ) := by
  unfold s_goes t12
  exact t45_mn
theorem fr_goes3 : Fr σ (s_surveysAll q (s_letters n nl nb (s_lands σ n))) := ((fr_lands σ n).tr (fr_letters n nl nb _)).tr (fr_surveysAll q _)
theorem mn_goes {nor m : Nat} (h : TrO σ) (v : IvG σ n nl nb q nor m) : MnX σ (s_goes n nl nb q nw σ) :=
  ((goes_mn1 v).tr (by have := mn_uq (n := n) (nl := nl) (h.fr (fr_goes3 (n := n) (nl := nl) (nb := nb) (q := q))) (i := 0) n (by omega); rw [uq_0] at this; exact this)).tr goes_mn2
end GF
set_option maxHeartbeats 600000 in
theorem x_X2_passesF {g : GP} {μ : Mem} {d : Nat} {P : Nat → Prop} {F : Mem} {A : XA} {w : Nat} {S : Nat → Nat → Nat} {b : XS} {σ : MS} {nor nw : Nat} (hd : 346 ≤ d) (s : SB g P F A w S b σ nw μ) (iv : IvG σ (S 4 w) (S 8 w) (S 10 w) (S 6 w) nor nw) (hnw : nw < 1000) (h7 : σ.1 7 = -1 ∨ ¬ σ.1 7 < 0) (hTr : TrO σ) : PM g yX2_passes (ws_ yX2_passes cX2_passes 2 none) d (psi σ - psi (s_goes (S 4 w) (S 8 w) (S 10 w) (S 6 w) nw σ)) (3 * (psi σ - psi (s_goes (S 4 w) (S 8 w) (S 10 w) (S 6 w) nw σ))) [.ref (A 1 w 0)] μ (WQ none (SB g P F A w S b (s_goes (S 4 w) (S 8 w) (S 10 w) (S 6 w) nw σ) (nw + 1))) := by
  refine PM.of (by decide +kernel) (Nat.le_of_ble_eq_true rfl) ?_
  refine PJ.ok (fun G => ?_)
  show PJ g _ _ _ _ d (psi σ - psi (s_goes (S 4 w) (S 8 w) (S 10 w) (S 6 w) nw σ)) (3 * (psi σ - psi (s_goes (S 4 w) (S 8 w) (S 10 w) (S 6 w) nw σ))) 0 [(0, .ref (A 1 w 0))] [] _ _
  obtain ⟨e, h, t⟩ := s
  have hS4 := h.hz.2.1
  have hS6 := h.hz.2.2.1
  have hS8 := h.hz.2.2.2.1
  have hS10 := h.hz.2.2.2.2.1
  refine pl_aload_n (pc := 0) dX2_passes_0 rfl rfl ?_
  refine pl_callVWv (pc := 1) (As := []) (C1 := 0) (N1 := 0) (C2 := (psi σ - psi (s_goes (S 4 w) (S 8 w) (S 10 w) (S 6 w) nw σ))) (N2 := (3 * (psi σ - psi (s_goes (S 4 w) (S 8 w) (S 10 w) (S 6 w) nw σ)))) ckX2 mdX2_lands rfl q2353 q2355 qs35 q126 dX2_passes_1 rfl rfl (Nat.le_of_ble_eq_true rfl) (h.r1) (x_X2_lands (d := d - 1) (by omega) ⟨_, h, t⟩ iv) (by omega) (by omega) (by omega) (fun My1 qy1 => ?_)
  obtain ⟨τa, ea⟩ : ∃ τ9, τ9 = s_lands σ (S 4 w) := ⟨_, rfl⟩
  rw [← ea] at qy1
  have va : IvG τa (S 4 w) (S 8 w) (S 10 w) (S 6 w) nor nw := by rw [ea]; exact lands_iv iv _ (Nat.le_refl _)
  obtain ⟨e_a, y1, ta⟩ := qy1
  refine pl_aload_n (pc := 4) dX2_passes_4 rfl rfl ?_
  refine pl_callVWv (pc := 5) (As := []) (C1 := 0) (N1 := 0) (C2 := (psi σ - psi (s_goes (S 4 w) (S 8 w) (S 10 w) (S 6 w) nw σ))) (N2 := (3 * (psi σ - psi (s_goes (S 4 w) (S 8 w) (S 10 w) (S 6 w) nw σ)))) ckX2 mdX2_reads rfl q2357 q2359 qs36 q126 dX2_passes_5 rfl rfl (Nat.le_of_ble_eq_true rfl) (y1.r1) (x_X2_reads (d := d - 1) (by omega) ⟨_, y1, ta⟩ va) (by omega) (by omega) (by omega) (fun My2 qy2 => ?_)
  obtain ⟨τb, eb⟩ : ∃ τ9, τ9 = s_letters (S 4 w) (S 8 w) (S 10 w) τa := ⟨_, rfl⟩
  rw [← eb] at qy2
  have vb : IvG τb (S 4 w) (S 8 w) (S 10 w) (S 6 w) nor nw := by rw [eb]; exact letters_iv va
  obtain ⟨e_b, y2, tb⟩ := qy2
  refine pl_iconst (pc := 8) (v := 0) dX2_passes_8 (by rfl) ?_
  refine pj_istore_n (pc := 9) (lv' := [(1, _), (0, _)]) dX2_passes_9 rfl (by decide) rfl ?_
  refine ind_dn (n := (S 6 w)) (P := fun i => ∀ M9 τ, τ = upto survey1 i τb → SB g P F A w S b τ nw M9 → IvG τ (S 4 w) (S 8 w) (S 10 w) (S 6 w) nor nw → PJ g _ _ _ _ d (psi σ - psi (s_goes (S 4 w) (S 8 w) (S 10 w) (S 6 w) nw σ)) (3 * (psi σ - psi (s_goes (S 4 w) (S 8 w) (S 10 w) (S 6 w) nw σ))) 10 [(1, .int (nI i)), (0, .ref (A 1 w 0))] [] M9 _) (fun i hi ih M9 τ hτ s9 iv9 => ?_) 0 (Nat.zero_le _) _ _ rfl ⟨_, y2, tb⟩ vb
  obtain ⟨e9, h9, t9⟩ := s9
  refine pl_iload_n (pc := 10) dX2_passes_10 rfl rfl ?_
  refine pl_aload_n (pc := 11) dX2_passes_11 rfl rfl ?_
  refine pj_getf (pc := 12) ckX2 27 q774 dX2_passes_12 (by decide) (h9.r1) rfl ?_
  obtain ⟨m_15, c_15, l_15⟩ := h9.L6
  refine pl_callVd (pc := 15) (As := []) (C1 := 0) (N1 := 0) (C2 := (psi σ - psi (s_goes (S 4 w) (S 8 w) (S 10 w) (S 6 w) nw σ))) (N2 := (3 * (psi σ - psi (s_goes (S 4 w) (S 8 w) (S 10 w) (S 6 w) nw σ)))) ckJ2 mdJ2_size rfl q947 q948 q949 q129 dX2_passes_15 rfl rfl (Nat.le_of_ble_eq_true rfl) l_15.1 (k_J2_size (d := d - 1) (by omega) l_15) (by omega) (by omega) (by omega) ?_
  refine pl_icmp_ge (pc := 18) (tgt := 42) dX2_passes_18 (by decide) (by omega) (by omega) (fun c18 => ?_) (fun c18 => ?_)
  · have ei : i = S 6 w := by omega
    subst ei
    refine pl_aload_n (pc := 42) dX2_passes_42 rfl rfl ?_
    have x_3 : s_surveysAll (S 6 w) (s_letters (S 4 w) (S 8 w) (S 10 w) (s_lands σ (S 4 w))) = τ := by rw [← ea, ← eb]; exact hτ.symm
    have w_1 := (goes_mn1 iv).psi
    rw [x_3] at w_1
    have w_2 := (goes_mn2 (σ := σ) (n := S 4 w) (nl := S 8 w) (nb := S 10 w) (q := S 6 w) (nw := nw)).psi
    rw [x_3] at w_2
    have tr3 : TrO τ := by rw [← x_3]; exact hTr.fr fr_goes3
    refine pl_callVWv (pc := 43) (As := []) (C1 := (psi τ - psi (uq (livesI (S 4 w) (S 8 w)) (S 4 w) τ))) (N1 := (3 * (psi τ - psi (uq (livesI (S 4 w) (S 8 w)) (S 4 w) τ)))) (C2 := 0) (N2 := 0) ckX2 mdX2_works rfl q2395 q2397 qs39 q126 dX2_passes_43 rfl rfl (Nat.le_of_ble_eq_true rfl) (h9.r1) (x_X2_worksF (d := d - 1) (by omega) ⟨_, h9, t9⟩ iv9 tr3 (Nat.le_refl _)) (by omega) (by omega) (by omega) (fun My3 qy3 => ?_)
    obtain ⟨τd, ed⟩ : ∃ τ9, τ9 = uq (livesI (S 4 w) (S 8 w)) (S 4 w) τ := ⟨_, rfl⟩
    rw [← ed] at qy3
    have vd : IvG τd (S 4 w) (S 8 w) (S 10 w) (S 6 w) nor nw := by rw [ed]; exact uq_iv (f := livesI (S 4 w) (S 8 w)) (m := S 4 w) (fun _ _ hi h => livesI_iv hi h) iv9 (S 4 w) (Nat.le_refl _)
    obtain ⟨e_d, y3, td⟩ := qy3
    have fd : τd.1 = σ.1 := by
      have f1 : Fr σ τa := by rw [ea]; exact fr_lands _ _
      have f2 : Fr τa τb := by rw [eb]; exact fr_letters _ _ _ _
      have f3 : Fr τb τ := by rw [hτ]; exact fr_surveysAll _ _
      have f4 : Fr τ τd := by rw [ed]; exact Fr.q (fun i τ => Fr.it Fr.rf (fr_lives _ _ _ _)) Fr.rf _
      exact (((f1.tr f2).tr f3).tr f4).1
    refine pl_iconst (pc := 46) (v := 0) dX2_passes_46 (by rfl) ?_
    refine pj_istore_n (pc := 47) (lv' := [(1, _), (0, _)]) dX2_passes_47 rfl (by decide) rfl ?_
    refine ind_dn (n := 4) (P := fun j => ∀ M9 τ1, τ1 = uq (rainz nw) j τd → τ1.1 = τd.1 → SB g P F A w S b τ1 nw M9 → IvG τ1 (S 4 w) (S 8 w) (S 10 w) (S 6 w) nor nw → PJ g _ _ _ _ d 0 0 48 [(1, .int (nI j)), (0, .ref (A 1 w 0))] [] M9 _) (fun j hj ih M8 τ1 hτ1 hf1 s8 iv8 => ?_) 0 (Nat.zero_le _) _ τd (uq_0 _ _).symm rfl ⟨_, y3, td⟩ vd
    obtain ⟨e8, h8, t8⟩ := s8
    have h71 : τ1.1 7 = σ.1 7 := by rw [hf1, fd]
    refine pl_iload_n (pc := 48) dX2_passes_48 rfl rfl ?_
    refine pl_iconst (pc := 49) (v := 4) dX2_passes_49 (by rfl) ?_
    refine pl_icmp_ge (pc := 50) (tgt := 95) dX2_passes_50 (by decide) (by omega) (by omega) (fun c50 => ?_) (fun c50 => ?_)
    · have ej : j = 4 := by omega
      subst ej
      refine pl_aload_n (pc := 95) dX2_passes_95 rfl rfl ?_
      refine pl_callVWv (pc := 96) (As := []) (C1 := 0) (N1 := 0) (C2 := 0) (N2 := 0) ckX2 mdX2_strays rfl q2419 q2421 qs44 q126 dX2_passes_96 rfl rfl (Nat.le_of_ble_eq_true rfl) (h8.r1) (x_X2_strays (d := d - 1) (by omega) ⟨_, h8, t8⟩ iv8) (by omega) (by omega) (by omega) (fun My4 qy4 => ?_)
      obtain ⟨τe, ee⟩ : ∃ τ9, τ9 = uq (stray1 (S 4 w) (S 8 w)) 96 τ1 := ⟨_, rfl⟩
      rw [← ee] at qy4
      have ve : IvG τe (S 4 w) (S 8 w) (S 10 w) (S 6 w) nor nw := by rw [ee]; exact uq_iv (f := stray1 (S 4 w) (S 8 w)) (m := 96) (fun _ _ hi h => stray1_iv hi h) iv8 96 (Nat.le_refl _)
      obtain ⟨e_e, y4, te⟩ := qy4
      refine pl_iconst (pc := 99) (v := 0) dX2_passes_99 (by rfl) ?_
      refine pj_istore_n (pc := 100) (lv' := [(1, _), (0, _)]) dX2_passes_100 rfl (by decide) rfl ?_
      refine ind_dn (n := 96) (P := fun k => ∀ M9 τ2, τ2 = uq end1 k τe → SB g P F A w S b τ2 nw M9 → IvG τ2 (S 4 w) (S 8 w) (S 10 w) (S 6 w) nor nw → PJ g _ _ _ _ d 0 0 101 [(1, .int (nI k)), (0, .ref (A 1 w 0))] [] M9 _) (fun k hk ih M7 τ2 hτ2 s7 iv7 => ?_) 0 (Nat.zero_le _) _ τe (uq_0 _ _).symm ⟨_, y4, te⟩ ve
      obtain ⟨e7, h7x, t7⟩ := s7
      refine pl_iload_n (pc := 101) dX2_passes_101 rfl rfl ?_
      refine pl_bipush (pc := 102) (v := 96) dX2_passes_102 (by rfl) ?_
      refine pl_icmp_ge (pc := 104) (tgt := 146) dX2_passes_104 (by decide) (by omega) (by omega) (fun c104 => ?_) (fun c104 => ?_)
      · have ek : k = 96 := by omega
        subst ek
        refine pl_aload_n (pc := 146) dX2_passes_146 rfl rfl ?_
        refine pj_getf (pc := 147) ckX2 0 q725 dX2_passes_147 (by decide) (h7x.r1) rfl ?_
        refine PJ.top (y := nI nw) iv7.hnw ?_
        refine pl_bipush (pc := 150) (v := 52) dX2_passes_150 (by rfl) ?_
        refine pl_irem (pc := 152) dX2_passes_152 (by omega) (by decide) (by decide) ?_
        refine pl_bipush (pc := 153) (v := 51) dX2_passes_153 (by rfl) ?_
        refine pl_icmp_ne (pc := 155) (tgt := 162) dX2_passes_155 (by decide) (by omega) (by omega) (fun c155 => ?_) (fun c155 => ?_)
        · obtain ⟨φ, hf⟩ : ∃ φ, φ = τ2 := ⟨_, rfl⟩
          have hy := h7x
          rw [← hf] at hy
          have ty : TieX w S φ e7 nw := by rw [hf]; exact t7
          have vy : IvG φ (S 4 w) (S 8 w) (S 10 w) (S 6 w) nor nw := by rw [hf]; exact iv7
          have hφ : φ = yearI (S 4 w) nw τ2 := by rw [hf]; exact (if_neg c155).symm
          refine pl_aload_n (pc := 162) dX2_passes_162 rfl rfl ?_
          refine pj_getf (pc := 163) ckX2 31 q781 dX2_passes_163 (by decide) (hy.r1) rfl ?_
          by_cases hw0 : w = 0
          · rw [if_pos hw0]
            refine pj_ifnull (pc := 166) dX2_passes_166 ?_
            refine pl_aload_n (pc := 169) dX2_passes_169 rfl rfl ?_
            refine pl_callVWv (pc := 170) (As := []) (C1 := 0) (N1 := 0) (C2 := 0) (N2 := 0) ckX2 mdX2_writes rfl q2453 q2455 qs47 q126 dX2_passes_170 rfl rfl (Nat.le_of_ble_eq_true rfl) (hy.r1) (x_X2_writesW (d := d - 1) (by omega) hy hw0 vy.hnw vy.hNW) (by omega) (by omega) (by omega) (fun My5 y5 => ?_)
            refine pl_aload_n (pc := 173) dX2_passes_173 rfl rfl ?_
            refine pj_dup (pc := 174) dX2_passes_174 rfl ?_
            refine pj_getf (pc := 175) ckX2 0 q725 dX2_passes_175 (by decide) (y5.r1) rfl ?_
            refine pl_iconst (pc := 178) (v := 1) dX2_passes_178 (by rfl) ?_
            refine pj_iadd (pc := 179) dX2_passes_179 ?_
            refine pj_putf (pc := 180) ckX2 0 q725 dX2_passes_180 (by decide) rfl (y5.r1) rfl rfl (Nat.le_of_ble_eq_true rfl) ?_
            refine sxk (y5.p1_0) (fun My6 y6 => ?_)
            refine pj_vret (pc := 183) dX2_passes_183 rfl ?_
            have eg : s_goes (S 4 w) (S 8 w) (S 10 w) (S 6 w) nw σ = t171 (S 4 w) (S 8 w) nw φ := (by unfold s_goes t12 t45 t84 t103 t151; rw [← ea, ← eb, show s_surveysAll (S 6 w) τb = τ from hτ.symm, ← ed, ← hτ1, ← ee, ← hτ2, ← hφ])
            rw [eg]
            exact ⟨rfl, tick_tie y6 ty hnw (fun a ha => wrE_ne ha) (fun h0 => wrE_7 ty h0)⟩
          · rw [if_neg hw0]
            refine pj_ifnullN (pc := 166) (tgt := 173) dX2_passes_166 (by decide) ?_
            refine pl_aload_n (pc := 173) dX2_passes_173 rfl rfl ?_
            refine pj_dup (pc := 174) dX2_passes_174 rfl ?_
            refine pj_getf (pc := 175) ckX2 0 q725 dX2_passes_175 (by decide) (hy.r1) rfl ?_
            refine pl_iconst (pc := 178) (v := 1) dX2_passes_178 (by rfl) ?_
            refine pj_iadd (pc := 179) dX2_passes_179 ?_
            refine pj_putf (pc := 180) ckX2 0 q725 dX2_passes_180 (by decide) rfl (hy.r1) rfl rfl (Nat.le_of_ble_eq_true rfl) ?_
            refine sxk (hy.p1_0) (fun My7 y7 => ?_)
            refine pj_vret (pc := 183) dX2_passes_183 rfl ?_
            have eg : s_goes (S 4 w) (S 8 w) (S 10 w) (S 6 w) nw σ = t171 (S 4 w) (S 8 w) nw φ := (by unfold s_goes t12 t45 t84 t103 t151; rw [← ea, ← eb, show s_surveysAll (S 6 w) τb = τ from hτ.symm, ← ed, ← hτ1, ← ee, ← hτ2, ← hφ])
            rw [eg]
            exact ⟨rfl, tick_tie y7 ty hnw (fun _ _ => rfl) (fun h0 => absurd h0 hw0)⟩
        · refine pl_aload_n (pc := 158) dX2_passes_158 rfl rfl ?_
          refine pl_callVWv (pc := 159) (As := []) (C1 := 0) (N1 := 0) (C2 := 0) (N2 := 0) ckX2 mdX2_harvests rfl q2446 q2448 qs46 q126 dX2_passes_159 rfl rfl (Nat.le_of_ble_eq_true rfl) (h7x.r1) (x_X2_harvests (d := d - 1) (by omega) ⟨_, h7x, t7⟩ iv7) (by omega) (by omega) (by omega) (fun My8 qy8 => ?_)
          have ey : yearI (S 4 w) nw τ2 = s_yearEnds (S 4 w) τ2 := if_pos c155
          rw [← ey] at qy8
          have vy := yearI_iv (k := nw) iv7
          obtain ⟨φ, hφ⟩ : ∃ φ, φ = yearI (S 4 w) nw τ2 := ⟨_, rfl⟩
          rw [← hφ] at qy8 vy
          obtain ⟨ey1, y8, ty⟩ := qy8
          refine pl_aload_n (pc := 162) dX2_passes_162 rfl rfl ?_
          refine pj_getf (pc := 163) ckX2 31 q781 dX2_passes_163 (by decide) (y8.r1) rfl ?_
          by_cases hw0 : w = 0
          · rw [if_pos hw0]
            refine pj_ifnull (pc := 166) dX2_passes_166 ?_
            refine pl_aload_n (pc := 169) dX2_passes_169 rfl rfl ?_
            refine pl_callVWv (pc := 170) (As := []) (C1 := 0) (N1 := 0) (C2 := 0) (N2 := 0) ckX2 mdX2_writes rfl q2453 q2455 qs47 q126 dX2_passes_170 rfl rfl (Nat.le_of_ble_eq_true rfl) (y8.r1) (x_X2_writesW (d := d - 1) (by omega) y8 hw0 vy.hnw vy.hNW) (by omega) (by omega) (by omega) (fun My9 y9 => ?_)
            refine pl_aload_n (pc := 173) dX2_passes_173 rfl rfl ?_
            refine pj_dup (pc := 174) dX2_passes_174 rfl ?_
            refine pj_getf (pc := 175) ckX2 0 q725 dX2_passes_175 (by decide) (y9.r1) rfl ?_
            refine pl_iconst (pc := 178) (v := 1) dX2_passes_178 (by rfl) ?_
            refine pj_iadd (pc := 179) dX2_passes_179 ?_
            refine pj_putf (pc := 180) ckX2 0 q725 dX2_passes_180 (by decide) rfl (y9.r1) rfl rfl (Nat.le_of_ble_eq_true rfl) ?_
            refine sxk (y9.p1_0) (fun My10 y10 => ?_)
            refine pj_vret (pc := 183) dX2_passes_183 rfl ?_
            have eg : s_goes (S 4 w) (S 8 w) (S 10 w) (S 6 w) nw σ = t171 (S 4 w) (S 8 w) nw φ := (by unfold s_goes t12 t45 t84 t103 t151; rw [← ea, ← eb, show s_surveysAll (S 6 w) τb = τ from hτ.symm, ← ed, ← hτ1, ← ee, ← hτ2, ← hφ])
            rw [eg]
            exact ⟨rfl, tick_tie y10 ty hnw (fun a ha => wrE_ne ha) (fun h0 => wrE_7 ty h0)⟩
          · rw [if_neg hw0]
            refine pj_ifnullN (pc := 166) (tgt := 173) dX2_passes_166 (by decide) ?_
            refine pl_aload_n (pc := 173) dX2_passes_173 rfl rfl ?_
            refine pj_dup (pc := 174) dX2_passes_174 rfl ?_
            refine pj_getf (pc := 175) ckX2 0 q725 dX2_passes_175 (by decide) (y8.r1) rfl ?_
            refine pl_iconst (pc := 178) (v := 1) dX2_passes_178 (by rfl) ?_
            refine pj_iadd (pc := 179) dX2_passes_179 ?_
            refine pj_putf (pc := 180) ckX2 0 q725 dX2_passes_180 (by decide) rfl (y8.r1) rfl rfl (Nat.le_of_ble_eq_true rfl) ?_
            refine sxk (y8.p1_0) (fun My11 y11 => ?_)
            refine pj_vret (pc := 183) dX2_passes_183 rfl ?_
            have eg : s_goes (S 4 w) (S 8 w) (S 10 w) (S 6 w) nw σ = t171 (S 4 w) (S 8 w) nw φ := (by unfold s_goes t12 t45 t84 t103 t151; rw [← ea, ← eb, show s_surveysAll (S 6 w) τb = τ from hτ.symm, ← ed, ← hτ1, ← ee, ← hτ2, ← hφ])
            rw [eg]
            exact ⟨rfl, tick_tie y11 ty hnw (fun _ _ => rfl) (fun h0 => absurd h0 hw0)⟩
      · refine pl_aload_n (pc := 107) dX2_passes_107 rfl rfl ?_
        refine pl_iload_n (pc := 108) dX2_passes_108 rfl rfl ?_
        obtain ⟨q_109, hm_109, hq_109, hdd_109⟩ := h7x.held (s := k) (by omega)
        refine pl_callVd (pc := 109) (As := [_]) (C1 := 0) (N1 := 0) (C2 := 0) (N2 := 0) ckX2 mdX2_at rfl q1199 q1124 q1125 q126 dX2_passes_109 rfl rfl (Nat.le_of_ble_eq_true rfl) (h7x.r1) (x_X2_at (d := d - 1) (by omega) h7x (by omega) hm_109 hq_109) (by omega) (by omega) (by omega) ?_
        refine ph_ends (pc := 112) hq_109 (fun G => dw_at G 21 rfl) (fun G => dw_at G 22 rfl) dX2_passes_112 (by omega) (Nat.le_of_ble_eq_true rfl) ?_
        refine PJ.top ho_ends ?_
        refine pl_if_eqB (pc := 115) (tgt := 140) dX2_passes_115 (by decide) (fun c115 => ?_) (fun c115 => ?_)
        · refine pl_iinc1 (pc := 140) (lv' := [(1, _), (0, _)]) dX2_passes_140 rfl rfl (by decide) rfl ?_
          refine pj_goto (pc := 143) (tgt := 101) dX2_passes_143 (by decide) ?_
          have e8 := end1_no (σ := τ2) (c := k) (Or.inl (of_decide_eq_false c115))
          exact ih (by omega) _ _ (by rw [uq_s, ← hτ2]; exact e8.symm) ⟨_, h7x, t7⟩ iv7
        · refine pl_aload_n (pc := 118) dX2_passes_118 rfl rfl ?_
          refine pj_getf (pc := 119) ckX2 17 q757 dX2_passes_119 (by decide) (h7x.r1) rfl ?_
          refine pl_iload_n (pc := 122) dX2_passes_122 rfl rfl ?_
          refine pl_iald (pc := 123) (n := 96) dX2_passes_123 (h7x.r20) (by omega) (by decide) ?_
          refine PJ.top (h7x.v20 (by omega)) ?_
          refine PJ.top (y := sec τ2 k 2) ((t7.ends (by omega)).trans (if_pos (of_decide_eq_true c115))) ?_
          refine pl_aload_n (pc := 124) dX2_passes_124 rfl rfl ?_
          refine pj_getf (pc := 125) ckX2 0 q725 dX2_passes_125 (by decide) (h7x.r1) rfl ?_
          refine pj_icmp_ne (pc := 128) (tgt := 140) dX2_passes_128 (by decide) (fun c128 => ?_) (fun c128 => ?_)
          · refine pl_iinc1 (pc := 140) (lv' := [(1, _), (0, _)]) dX2_passes_140 rfl rfl (by decide) rfl ?_
            refine pj_goto (pc := 143) (tgt := 101) dX2_passes_143 (by decide) ?_
            have e8 := end1_no (σ := τ2) (c := k) (Or.inr c128)
            exact ih (by omega) _ _ (by rw [uq_s, ← hτ2]; exact e8.symm) ⟨_, h7x, t7⟩ iv7
          · refine pl_aload_n (pc := 131) dX2_passes_131 rfl rfl ?_
            refine pl_iload_n (pc := 132) dX2_passes_132 rfl rfl ?_
            refine pl_aload_n (pc := 133) dX2_passes_133 rfl rfl ?_
            refine pj_getf (pc := 134) ckX2 20 q763 dX2_passes_134 (by decide) (h7x.r1) rfl ?_
            have hl_137 : HoC _ (A 49 w 0) (ho4 (nI 1) (-1) (-1) (-1)) := Or.inr (Or.inl ⟨rfl, rfl, rfl, h7x.lot.1⟩)
            refine pl_callVWv (pc := 137) (As := [_, _]) (C1 := 0) (N1 := 0) (C2 := 0) (N2 := 0) ckX2 mdX2_puts rfl q703 q704 q705 q126 dX2_passes_137 rfl rfl (Nat.le_of_ble_eq_true rfl) (h7x.r1) (x_X2_puts (d := d - 1) (by omega) h7x (by omega) hl_137 h7x.lot.2 (by decide)) (by omega) (by omega) (by omega) (fun My12 y12 => ?_)
            refine pl_iinc1 (pc := 140) (lv' := [(1, _), (0, _)]) dX2_passes_140 rfl rfl (by decide) rfl ?_
            refine pj_goto (pc := 143) (tgt := 101) dX2_passes_143 (by decide) ?_
            have c0 : sec τ2 k 0 = nI 4 := of_decide_eq_true c115
            have e8 := end1_yes c0 c128
            have v8 := end1_iv (c := k) (by omega) iv7
            rw [e8] at v8
            exact ih (by omega) _ _ (by rw [uq_s, ← hτ2]; exact e8.symm) (end_tie y12 t7 (by omega) (by rw [c0]; decide)) v8
    · refine pl_aload_n (pc := 53) dX2_passes_53 rfl rfl ?_
      refine pj_getf (pc := 54) ckX2 22 q766 dX2_passes_54 (by decide) (h8.r1) rfl ?_
      refine pl_iload_n (pc := 57) dX2_passes_57 rfl rfl ?_
      refine pj_dup2_11 (pc := 58) dX2_passes_58 rfl rfl ?_
      refine pl_iald (pc := 59) (n := 4) dX2_passes_59 (h8.r22) (by omega) (by decide) ?_
      refine PJ.top (h8.v22 (by omega)) ?_
      refine pl_aload_n (pc := 60) dX2_passes_60 rfl rfl ?_
      refine pj_getf (pc := 61) ckX2 11 q745 dX2_passes_61 (by decide) (h8.r1) rfl ?_
      rcases h7 with h7 | h7
      · refine PJ.top (y := (-1 : Int32)) (h71.trans h7) ?_
        refine pj_iconst (pc := 64) (v := (-1)) dX2_passes_64 (by rfl) ?_
        refine pj_icmp_eq (pc := 65) (tgt := 75) dX2_passes_65 (by decide) (fun _ => ?_) (fun z9 => absurd rfl z9)
        refine pl_aload_n (pc := 75) dX2_passes_75 rfl rfl ?_
        refine pj_getf (pc := 76) ckX2 21 q764 dX2_passes_76 (by decide) (h8.r1) rfl ?_
        obtain ⟨mn, fl, hrn, hfl⟩ := h8.rain iv8.rns
        refine pl_iload_n (pc := 79) dX2_passes_79 rfl rfl ?_
        refine pl_aload_n (pc := 80) dX2_passes_80 rfl rfl ?_
        refine pj_getf (pc := 81) ckX2 0 q725 dX2_passes_81 (by decide) (h8.r1) rfl ?_
        refine PJ.top (y := nI nw) iv8.hnw ?_
        refine pl_callVd (pc := 84) (As := [_, _]) (C1 := 0) (N1 := 0) (C2 := 0) (N2 := 0) ckX7 mdX7_fell rfl q2418 q1304 q1305 q151 dX2_passes_84 rfl rfl (Nat.le_of_ble_eq_true rfl) hrn.1 (k_X7_fell (d := d - 1) (by omega) (z := j) (wk := nw) (by omega) (by omega) hrn hfl) (by omega) (by omega) (by omega) ?_
        refine pj_iadd (pc := 87) dX2_passes_87 ?_
        refine pl_iast (pc := 88) (n := 4) dX2_passes_88 (h8.r22) (by omega) (by decide) ?_
        refine sxk (h8.p22 (by omega)) (fun My13 y13 => ?_)
        refine pl_iinc1 (pc := 89) (lv' := [(1, _), (0, _)]) dX2_passes_89 rfl rfl (by decide) rfl ?_
        refine pj_goto (pc := 92) (tgt := 48) dX2_passes_92 (by decide) ?_
        have e7 : rainz nw j τ1 = (sR τ1 (2104 + j) (row τ1 (2104 + j) + fallC τ1 j nw)) := rainz_f (h71.trans h7)
        have g8 : SX g P F A w S b (sR τ1 (2104 + j) (row τ1 (2104 + j) + fallC τ1 j nw)) e8 _ := y13
        have v8 := rainz_iv (k := nw) (z := j) (by omega) iv8
        rw [e7] at v8
        exact ih (by omega) _ (sR τ1 (2104 + j) (row τ1 (2104 + j) + fallC τ1 j nw)) (by rw [uq_s, ← hτ1]; exact e7.symm) hf1 ⟨_, g8, t8.cg g8.hz (fun j hj => rowS_ne (fun z => hj (by unfold fr0; omega))) (by simp [sA]) (by simp [sA]) (fun _ _ => by simp [sA]) rfl rfl⟩ v8
      · refine pj_iconst (pc := 64) (v := (-1)) dX2_passes_64 (by rfl) ?_
        refine pj_icmp_eq (pc := 65) (tgt := 75) dX2_passes_65 (by decide) (fun z9 => absurd z9 (fun z8 => h7 (by rw [← h71, z8]; decide))) (fun _ => ?_)
        refine pl_aload_n (pc := 68) dX2_passes_68 rfl rfl ?_
        refine pj_getf (pc := 69) ckX2 11 q745 dX2_passes_69 (by decide) (h8.r1) rfl ?_
        refine pj_goto (pc := 72) (tgt := 87) dX2_passes_72 (by decide) ?_
        refine pj_iadd (pc := 87) dX2_passes_87 ?_
        refine pl_iast (pc := 88) (n := 4) dX2_passes_88 (h8.r22) (by omega) (by decide) ?_
        refine sxk (h8.p22 (by omega)) (fun My14 y14 => ?_)
        refine pl_iinc1 (pc := 89) (lv' := [(1, _), (0, _)]) dX2_passes_89 rfl rfl (by decide) rfl ?_
        refine pj_goto (pc := 92) (tgt := 48) dX2_passes_92 (by decide) ?_
        have e7 : rainz nw j τ1 = (sR τ1 (2104 + j) (row τ1 (2104 + j) + τ1.1 7)) := rainz_t (by rw [h71]; exact h7)
        have g8 : SX g P F A w S b (sR τ1 (2104 + j) (row τ1 (2104 + j) + τ1.1 7)) e8 _ := y14
        have v8 := rainz_iv (k := nw) (z := j) (by omega) iv8
        rw [e7] at v8
        exact ih (by omega) _ (sR τ1 (2104 + j) (row τ1 (2104 + j) + τ1.1 7)) (by rw [uq_s, ← hτ1]; exact e7.symm) hf1 ⟨_, g8, t8.cg g8.hz (fun j hj => rowS_ne (fun z => hj (by unfold fr0; omega))) (by simp [sA]) (by simp [sA]) (fun _ _ => by simp [sA]) rfl rfl⟩ v8
  · refine pl_aload_n (pc := 21) dX2_passes_21 rfl rfl ?_
    refine pl_aload_n (pc := 22) dX2_passes_22 rfl rfl ?_
    refine pj_getf (pc := 23) ckX2 27 q774 dX2_passes_23 (by decide) (h9.r1) rfl ?_
    refine pl_iload_n (pc := 26) dX2_passes_26 rfl rfl ?_
    obtain ⟨m_27, c_27, l_27⟩ := h9.L6
    refine pl_callVd (pc := 27) (As := [_]) (C1 := 0) (N1 := 0) (C2 := (psi σ - psi (s_goes (S 4 w) (S 8 w) (S 10 w) (S 6 w) nw σ))) (N2 := (3 * (psi σ - psi (s_goes (S 4 w) (S 8 w) (S 10 w) (S 6 w) nw σ)))) ckJ2 mdJ2_get rfl q707 q708 q709 q129 dX2_passes_27 rfl rfl (Nat.le_of_ble_eq_true rfl) l_27.1 (k_J2_get (d := d - 1) (by omega) l_27 (j := i) (by omega) (if_pos (by omega))) (by omega) (by omega) (by omega) ?_
    refine pj_castS (pc := 30) ckX11 q1483 dX2_passes_30 (h9.r36 (by omega)) ?_
    refine pl_callVWv (pc := 33) (As := [_]) (C1 := 0) (N1 := 0) (C2 := (psi σ - psi (s_goes (S 4 w) (S 8 w) (S 10 w) (S 6 w) nw σ))) (N2 := (3 * (psi σ - psi (s_goes (S 4 w) (S 8 w) (S 10 w) (S 6 w) nw σ)))) ckX2 mdX2_surveys rfl q2394 q1568 qs11 q126 dX2_passes_33 rfl rfl (Nat.le_of_ble_eq_true rfl) (h9.r1) (x_X2_surveys (d := d - 1) (by omega) ⟨_, h9, t9⟩ iv9 (by omega)) (by omega) (by omega) (by omega) (fun My15 qy15 => ?_)
    refine pl_iinc1 (pc := 36) (lv' := [(1, _), (0, _)]) dX2_passes_36 rfl rfl (by decide) rfl ?_
    refine pj_goto (pc := 39) (tgt := 10) dX2_passes_39 (by decide) ?_
    exact ih (by omega) _ _ (by show _ = s_surveys (upto _ i _) i; rw [← hτ]) qy15 (surveys_iv iv9 (by omega))
