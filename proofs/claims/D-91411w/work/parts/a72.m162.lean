set_option maxRecDepth 100000
/-- the numbers of the world of tries, as set leaves them -/
def r9V (V : Nat → Nat → Nat → Nat → Int32) : Nat → Int32 := fun j => if j = 0 ∨ j = 1 ∨ j = 2 ∨ j = 3 ∨ j = 6 ∨ j = 7 then V 1 0 0 j else if j = 9 then nI 0 else if j = 10 ∨ j = 11 then -1 else V 1 1 0 j
def SaP (V V1 : Nat → Nat → Nat → Nat → Int32) : Prop := (∀ k w i, ¬ (w = 1 ∧ i = 0 ∧ (k = 1 ∨ (18 ≤ k ∧ k ≤ 24))) → V1 k w i = V k w i) ∧ V1 1 1 0 = r9V V ∧ ∀ k, 18 ≤ k → k ≤ 24 → ∀ j, j < jNX k → V1 k 1 0 j = V k 0 0 j
theorem RV.arr {g : GP} {P : Nat → Prop} {F : Mem} {A : XA} {S : Nat → Nat → Nat} {V : Nat → Nat → Nat → Nat → Int32} {L : Nat → Int64} {fl : Nat → Nat → UInt32} {dn : XD} {M : Mem} (h : RV g P F A S V L fl dn M) {k t n : Nat} (hk : (18 ≤ k ∧ k ≤ 20 ∧ t = 0 ∧ n = 96) ∨ (k = 21 ∧ t = 3 ∧ n = 96) ∨ (22 ≤ k ∧ k ≤ 24 ∧ t = 0 ∧ n = 4)) (r : Nat → Int32) : RV g P F A S (rV V k 1 0 r) L fl dn (mset M (A k 1 0) (.inl (gA g t, n, .inl r))) := by
  refine h.put (LvX.one (by omega) (by unfold wNX; rw [if_neg (by omega), if_pos (by omega)]; decide)) (by omega) (by omega) r (fun τ => ?_)
  rcases hk with ⟨a, b, rfl, rfl⟩ | ⟨rfl, rfl, rfl⟩ | ⟨a, b, rfl, rfl⟩
  · rcases (by omega : k = 18 ∨ k = 19 ∨ k = 20) with e | e | e <;> (subst e; rfl)
  · rfl
  · rcases (by omega : k = 22 ∨ k = 23 ∨ k = 24) with e | e | e <;> (subst e; rfl)
theorem jNX_ar {k : Nat} (h1 : 18 ≤ k) (h2 : k ≤ 24) : jNX k = if k ≤ 21 then 96 else 4 := by
  rcases (by omega : k = 18 ∨ k = 19 ∨ k = 20 ∨ k = 21 ∨ k = 22 ∨ k = 23 ∨ k = 24) with e | e | e | e | e | e | e <;> (subst e; rfl)
set_option maxHeartbeats 1000000 in
theorem set_a {g : GP} {μ : Mem} {d CR NR : Nat} {P : Nat → Prop} {F : Mem} {A : XA} {S : Nat → Nat → Nat} {V : Nat → Nat → Nat → Nat → Int32} {L : Nat → Int64} {fl : Nat → Nat → UInt32} {dn : XD} {Q : OC → Mem → Prop} (hd : 2 ≤ d) (h : RV g P F A S V L fl dn μ) (hfit : ∀ j, j < 96 → fits .boolean (.int (V 21 0 0 j)) = true) (kk : ∀ V1 M1, RV g P F A S V1 L fl dn M1 → SaP V V1 → PJ g yX2_set.cls cX2_set 3 (some (.object "SettlerColony$World"), yX2_set.name, []) d CR NR 165 [(0, .ref (A 1 1 0)), (1, .ref (A 1 0 0))] [] M1 Q) : PJ g yX2_set.cls cX2_set 3 (some (.object "SettlerColony$World"), yX2_set.name, []) d CR NR 0 [(0, .ref (A 1 1 0)), (1, .ref (A 1 0 0))] [] μ Q := by
  have hne : A 1 0 0 ≠ A 1 1 0 := h.inj (k := 1) (w := 0) (i := 0) (k2 := 1) (w2 := 1) (i2 := 0) (LvX.one (by decide) (by decide)) (LvX.one (by decide) (by decide)) (by omega)
  refine pl_aload_n (pc := 0) dX2_set_0 rfl rfl ?_
  refine pl_aload_n (pc := 1) dX2_set_1 rfl rfl ?_
  refine pj_getf (pc := 2) ckX2 0 q725 dX2_set_2 (by decide) (h.r1 (by decide)) rfl ?_
  refine pj_putf (pc := 5) ckX2 0 q725 dX2_set_5 (by decide) rfl (h.r1 (by decide)) rfl rfl (Nat.le_of_ble_eq_true rfl) ?_
  refine pl_aload_n (pc := 8) dX2_set_8 rfl rfl ?_
  refine pl_aload_n (pc := 9) dX2_set_9 rfl rfl ?_
  refine pj_getf (pc := 10) ckX2 1 q727 dX2_set_10 (by decide) (show mset μ (A 1 1 0) _ (A 1 0 0) = _ from by rw [mset_n hne]; exact h.r1 (by decide)) rfl ?_
  refine pj_putf (pc := 13) ckX2 1 q727 dX2_set_13 (by decide) rfl mset_s rfl rfl (Nat.le_of_ble_eq_true rfl) ?_
  refine PJ.mem mset_m ?_
  refine pl_aload_n (pc := 16) dX2_set_16 rfl rfl ?_
  refine pl_aload_n (pc := 17) dX2_set_17 rfl rfl ?_
  refine pj_getf (pc := 18) ckX2 2 q729 dX2_set_18 (by decide) (show mset μ (A 1 1 0) _ (A 1 0 0) = _ from by rw [mset_n hne]; exact h.r1 (by decide)) rfl ?_
  refine pj_putf (pc := 21) ckX2 2 q729 dX2_set_21 (by decide) rfl mset_s rfl rfl (Nat.le_of_ble_eq_true rfl) ?_
  refine PJ.mem mset_m ?_
  refine pl_aload_n (pc := 24) dX2_set_24 rfl rfl ?_
  refine pl_aload_n (pc := 25) dX2_set_25 rfl rfl ?_
  refine pj_getf (pc := 26) ckX2 3 q731 dX2_set_26 (by decide) (show mset μ (A 1 1 0) _ (A 1 0 0) = _ from by rw [mset_n hne]; exact h.r1 (by decide)) rfl ?_
  refine pj_putf (pc := 29) ckX2 3 q731 dX2_set_29 (by decide) rfl mset_s rfl rfl (Nat.le_of_ble_eq_true rfl) ?_
  refine PJ.mem mset_m ?_
  refine pl_aload_n (pc := 32) dX2_set_32 rfl rfl ?_
  refine pl_aload_n (pc := 33) dX2_set_33 rfl rfl ?_
  refine pj_getf (pc := 34) ckX2 6 q736 dX2_set_34 (by decide) (show mset μ (A 1 1 0) _ (A 1 0 0) = _ from by rw [mset_n hne]; exact h.r1 (by decide)) rfl ?_
  refine pj_putf (pc := 37) ckX2 6 q736 dX2_set_37 (by decide) rfl mset_s rfl rfl (Nat.le_of_ble_eq_true rfl) ?_
  refine PJ.mem mset_m ?_
  refine pl_aload_n (pc := 40) dX2_set_40 rfl rfl ?_
  refine pl_aload_n (pc := 41) dX2_set_41 rfl rfl ?_
  refine pj_getf (pc := 42) ckX2 7 q738 dX2_set_42 (by decide) (show mset μ (A 1 1 0) _ (A 1 0 0) = _ from by rw [mset_n hne]; exact h.r1 (by decide)) rfl ?_
  refine pj_putf (pc := 45) ckX2 7 q738 dX2_set_45 (by decide) rfl mset_s rfl rfl (Nat.le_of_ble_eq_true rfl) ?_
  refine PJ.mem mset_m ?_
  refine pl_aload_n (pc := 48) dX2_set_48 rfl rfl ?_
  refine pl_iconst (pc := 49) (v := 0) dX2_set_49 (by rfl) ?_
  refine pj_putf (pc := 50) ckX2 9 q741 dX2_set_50 (by decide) rfl mset_s rfl rfl (Nat.le_of_ble_eq_true rfl) ?_
  refine PJ.mem mset_m ?_
  refine pl_aload_n (pc := 53) dX2_set_53 rfl rfl ?_
  refine pj_iconst (pc := 54) (v := (-1)) dX2_set_54 (by rfl) ?_
  refine pj_putf (pc := 55) ckX2 10 q743 dX2_set_55 (by decide) rfl mset_s rfl rfl (Nat.le_of_ble_eq_true rfl) ?_
  refine PJ.mem mset_m ?_
  refine pl_aload_n (pc := 58) dX2_set_58 rfl rfl ?_
  refine pj_iconst (pc := 59) (v := (-1)) dX2_set_59 (by rfl) ?_
  refine pj_putf (pc := 60) ckX2 11 q745 dX2_set_60 (by decide) rfl mset_s rfl rfl (Nat.le_of_ble_eq_true rfl) ?_
  refine PJ.mem mset_m ?_
  refine PJ.mem (μ1 := mset μ (A 1 1 0) (woO A 1 (r9V V))) rfl ?_
  refine rvk (h.put (k := 1) (i := 0) (LvX.one (by decide) (by decide)) (by decide) (by decide) (r9V V) (fun τ => rfl)) (fun M1 h1 => ?_)
  refine pl_aload_n (pc := 63) dX2_set_63 rfl rfl ?_
  refine pj_getf (pc := 64) ckX2 22 q766 dX2_set_64 (by decide) (h1.r1 (by decide)) rfl ?_
  refine pl_iconst (pc := 67) (v := 0) dX2_set_67 (by rfl) ?_
  refine pl_aload_n (pc := 68) dX2_set_68 rfl rfl ?_
  refine pj_getf (pc := 69) ckX2 22 q766 dX2_set_69 (by decide) (h1.r1 (by decide)) rfl ?_
  refine pl_iconst (pc := 72) (v := 0) dX2_set_72 (by rfl) ?_
  refine pl_iconst (pc := 73) (v := 4) dX2_set_73 (by rfl) ?_
  refine pj_copyi (pc := 74) 0 q1477 dX2_set_74 (h1.r22 (by decide)) (h1.r22 (by decide)) rfl rfl (sp := 0) (dp := 0) (k := 4) (by omega) (by omega) (by decide) (by decide) (fun _ _ => rfl) (by omega) (Nat.le_of_ble_eq_true rfl) ?_
  refine rvk (h1.arr (k := 22) (t := 0) (n := 4) (by decide) _) (fun M2 h2 => ?_)
  refine pl_aload_n (pc := 77) dX2_set_77 rfl rfl ?_
  refine pj_getf (pc := 78) ckX2 23 q767 dX2_set_78 (by decide) (h2.r1 (by decide)) rfl ?_
  refine pl_iconst (pc := 81) (v := 0) dX2_set_81 (by rfl) ?_
  refine pl_aload_n (pc := 82) dX2_set_82 rfl rfl ?_
  refine pj_getf (pc := 83) ckX2 23 q767 dX2_set_83 (by decide) (h2.r1 (by decide)) rfl ?_
  refine pl_iconst (pc := 86) (v := 0) dX2_set_86 (by rfl) ?_
  refine pl_iconst (pc := 87) (v := 4) dX2_set_87 (by rfl) ?_
  refine pj_copyi (pc := 88) 0 q1477 dX2_set_88 (h2.r23 (by decide)) (h2.r23 (by decide)) rfl rfl (sp := 0) (dp := 0) (k := 4) (by omega) (by omega) (by decide) (by decide) (fun _ _ => rfl) (by omega) (Nat.le_of_ble_eq_true rfl) ?_
  refine rvk (h2.arr (k := 23) (t := 0) (n := 4) (by decide) _) (fun M3 h3 => ?_)
  refine pl_aload_n (pc := 91) dX2_set_91 rfl rfl ?_
  refine pj_getf (pc := 92) ckX2 24 q769 dX2_set_92 (by decide) (h3.r1 (by decide)) rfl ?_
  refine pl_iconst (pc := 95) (v := 0) dX2_set_95 (by rfl) ?_
  refine pl_aload_n (pc := 96) dX2_set_96 rfl rfl ?_
  refine pj_getf (pc := 97) ckX2 24 q769 dX2_set_97 (by decide) (h3.r1 (by decide)) rfl ?_
  refine pl_iconst (pc := 100) (v := 0) dX2_set_100 (by rfl) ?_
  refine pl_iconst (pc := 101) (v := 4) dX2_set_101 (by rfl) ?_
  refine pj_copyi (pc := 102) 0 q1477 dX2_set_102 (h3.r24 (by decide)) (h3.r24 (by decide)) rfl rfl (sp := 0) (dp := 0) (k := 4) (by omega) (by omega) (by decide) (by decide) (fun _ _ => rfl) (by omega) (Nat.le_of_ble_eq_true rfl) ?_
  refine rvk (h3.arr (k := 24) (t := 0) (n := 4) (by decide) _) (fun M4 h4 => ?_)
  refine pl_aload_n (pc := 105) dX2_set_105 rfl rfl ?_
  refine pj_getf (pc := 106) ckX2 15 q753 dX2_set_106 (by decide) (h4.r1 (by decide)) rfl ?_
  refine pl_iconst (pc := 109) (v := 0) dX2_set_109 (by rfl) ?_
  refine pl_aload_n (pc := 110) dX2_set_110 rfl rfl ?_
  refine pj_getf (pc := 111) ckX2 15 q753 dX2_set_111 (by decide) (h4.r1 (by decide)) rfl ?_
  refine pl_iconst (pc := 114) (v := 0) dX2_set_114 (by rfl) ?_
  refine pl_bipush (pc := 115) (v := 96) dX2_set_115 (by rfl) ?_
  refine pj_copyi (pc := 117) 0 q1477 dX2_set_117 (h4.r18 (by decide)) (h4.r18 (by decide)) rfl rfl (sp := 0) (dp := 0) (k := 96) (by omega) (by omega) (by decide) (by decide) (fun _ _ => rfl) (by omega) (Nat.le_of_ble_eq_true rfl) ?_
  refine rvk (h4.arr (k := 18) (t := 0) (n := 96) (by decide) _) (fun M5 h5 => ?_)
  refine pl_aload_n (pc := 120) dX2_set_120 rfl rfl ?_
  refine pj_getf (pc := 121) ckX2 16 q755 dX2_set_121 (by decide) (h5.r1 (by decide)) rfl ?_
  refine pl_iconst (pc := 124) (v := 0) dX2_set_124 (by rfl) ?_
  refine pl_aload_n (pc := 125) dX2_set_125 rfl rfl ?_
  refine pj_getf (pc := 126) ckX2 16 q755 dX2_set_126 (by decide) (h5.r1 (by decide)) rfl ?_
  refine pl_iconst (pc := 129) (v := 0) dX2_set_129 (by rfl) ?_
  refine pl_bipush (pc := 130) (v := 96) dX2_set_130 (by rfl) ?_
  refine pj_copyi (pc := 132) 0 q1477 dX2_set_132 (h5.r19 (by decide)) (h5.r19 (by decide)) rfl rfl (sp := 0) (dp := 0) (k := 96) (by omega) (by omega) (by decide) (by decide) (fun _ _ => rfl) (by omega) (Nat.le_of_ble_eq_true rfl) ?_
  refine rvk (h5.arr (k := 19) (t := 0) (n := 96) (by decide) _) (fun M6 h6 => ?_)
  refine pl_aload_n (pc := 135) dX2_set_135 rfl rfl ?_
  refine pj_getf (pc := 136) ckX2 17 q757 dX2_set_136 (by decide) (h6.r1 (by decide)) rfl ?_
  refine pl_iconst (pc := 139) (v := 0) dX2_set_139 (by rfl) ?_
  refine pl_aload_n (pc := 140) dX2_set_140 rfl rfl ?_
  refine pj_getf (pc := 141) ckX2 17 q757 dX2_set_141 (by decide) (h6.r1 (by decide)) rfl ?_
  refine pl_iconst (pc := 144) (v := 0) dX2_set_144 (by rfl) ?_
  refine pl_bipush (pc := 145) (v := 96) dX2_set_145 (by rfl) ?_
  refine pj_copyi (pc := 147) 0 q1477 dX2_set_147 (h6.r20 (by decide)) (h6.r20 (by decide)) rfl rfl (sp := 0) (dp := 0) (k := 96) (by omega) (by omega) (by decide) (by decide) (fun _ _ => rfl) (by omega) (Nat.le_of_ble_eq_true rfl) ?_
  refine rvk (h6.arr (k := 20) (t := 0) (n := 96) (by decide) _) (fun M7 h7 => ?_)
  refine pl_aload_n (pc := 150) dX2_set_150 rfl rfl ?_
  refine pj_getf (pc := 151) ckX2 18 q759 dX2_set_151 (by decide) (h7.r1 (by decide)) rfl ?_
  refine pl_iconst (pc := 154) (v := 0) dX2_set_154 (by rfl) ?_
  refine pl_aload_n (pc := 155) dX2_set_155 rfl rfl ?_
  refine pj_getf (pc := 156) ckX2 18 q759 dX2_set_156 (by decide) (h7.r1 (by decide)) rfl ?_
  refine pl_iconst (pc := 159) (v := 0) dX2_set_159 (by rfl) ?_
  refine pl_bipush (pc := 160) (v := 96) dX2_set_160 (by rfl) ?_
  refine pj_copyi (pc := 162) 3 q1477 dX2_set_162 (h7.r21 (by decide)) (h7.r21 (by decide)) rfl rfl (sp := 0) (dp := 0) (k := 96) (by omega) (by omega) (by decide) (by decide) (fun i hi => by rw [Nat.zero_add]; exact hfit i hi) (by omega) (Nat.le_of_ble_eq_true rfl) ?_
  refine rvk (h7.arr (k := 21) (t := 3) (n := 96) (by decide) _) (fun M8 h8 => ?_)
  refine kk _ _ h8 ⟨fun k w i hn => ?_, ?_, fun k h1 h2 j hj => ?_⟩
  · repeat (first | rw [rV_ne (by omega)] | rfl)
  · repeat (first | rw [rV_ne (by omega)] | rw [rV_eq])
  · rw [jNX_ar h1 h2] at hj
    rcases (by omega : k = 18 ∨ k = 19 ∨ k = 20 ∨ k = 21 ∨ k = 22 ∨ k = 23 ∨ k = 24) with e | e | e | e | e | e | e <;> (subst e; simp only [Nat.reduceLeDiff, ↓reduceIte] at hj; (repeat (first | rw [rV_ne (by omega)] | rw [rV_eq])); rw [pk_cpy_in (by omega) (by omega)]; (repeat rw [rV_ne (by omega)]); simp)
def SbP (V V1 : Nat → Nat → Nat → Nat → Int32) (n : Nat) : Prop := (∀ k w i, ¬ (k = 34 ∧ w = 1 ∧ i < n) → V1 k w i = V k w i) ∧ ∀ i, i < n → V1 34 1 i = V 34 0 i
set_option maxHeartbeats 1000000 in
theorem set_b {g : GP} {μ : Mem} {d CR NR : Nat} {P : Nat → Prop} {F : Mem} {A : XA} {S : Nat → Nat → Nat} {V : Nat → Nat → Nat → Nat → Int32} {L : Nat → Int64} {fl : Nat → Nat → UInt32} {dn : XD} {Q : OC → Mem → Prop} (hd : 10 ≤ d) (h : RV g P F A S V L fl dn μ) (kk : ∀ S1 V1 M1, RV g P F A S1 V1 L fl dn M1 → SbP V V1 96 → (∀ x y, ¬ (x = 63 ∧ y = 1) → S1 x y = S x y) → 96 ≤ S1 63 1 → PJ g yX2_set.cls cX2_set 3 (some (.object "SettlerColony$World"), yX2_set.name, []) d CR NR 207 [(0, .ref (A 1 1 0)), (1, .ref (A 1 0 0))] [] M1 Q) : PJ g yX2_set.cls cX2_set 3 (some (.object "SettlerColony$World"), yX2_set.name, []) d CR NR 165 [(0, .ref (A 1 1 0)), (1, .ref (A 1 0 0))] [] μ Q := by
  refine pl_iconst (pc := 165) (v := 0) dX2_set_165 (by rfl) ?_
  refine pj_istore_n (pc := 166) (lv' := [(2, _), (0, _), (1, _)]) dX2_set_166 rfl (by decide) rfl ?_
  refine ind_dn (n := 96) (P := fun i => ∀ M9 V9 S9, RV g P F A S9 V9 L fl dn M9 → SbP V V9 i → (∀ x y, ¬ (x = 63 ∧ y = 1) → S9 x y = S x y) → i ≤ S9 63 1 → PJ g _ _ _ _ d CR NR 167 [(2, .int (nI i)), (0, .ref (A 1 1 0)), (1, .ref (A 1 0 0))] [] M9 _) (fun i hi ih M9 V9 S9 hb sp eS h63 => ?_) 0 (Nat.zero_le _) _ V S h ⟨fun _ _ _ _ => rfl, fun i hi => absurd hi (Nat.not_lt_zero _)⟩ (fun _ _ _ => rfl) (Nat.zero_le _)
  have hs2 : S9 2 0 = 96 ∧ S9 2 1 = 96 := hb.1.1
  refine pl_iload_n (pc := 167) dX2_set_167 rfl rfl ?_
  refine pl_bipush (pc := 168) (v := 96) dX2_set_168 (by rfl) ?_
  refine pl_icmp_ge (pc := 170) (tgt := 207) dX2_set_170 (by decide) (by omega) (by omega) (fun c170 => ?_) (fun c170 => ?_)
  · refine PJ.sub [1, 2] rfl ?_
    have ei : i = 96 := by omega
    subst ei
    exact kk S9 V9 _ hb sp eS h63
  · refine pl_aload_n (pc := 173) dX2_set_173 rfl rfl ?_
    refine pj_getf (pc := 174) ckX2 12 q747 dX2_set_174 (by decide) (hb.r1 (by decide)) rfl ?_
    refine pl_iload_n (pc := 177) dX2_set_177 rfl rfl ?_
    obtain ⟨m_178, c_178, l_178⟩ := hb.LA2 (w := 1) (by decide)
    refine pl_callVd (pc := 178) (As := [_]) (C1 := 0) (N1 := 0) (C2 := CR) (N2 := NR) ckJ2 mdJ2_get rfl q707 q708 q709 q129 dX2_set_178 rfl rfl (Nat.le_of_ble_eq_true rfl) l_178.1 (k_J2_get (d := d - 1) (by omega) l_178 (j := i) (by omega) (if_pos (by omega))) (by omega) (by omega) (by omega) ?_
    obtain ⟨q, x1, hs0, hs1, hsl⟩ := hb.slot (s := i) (by omega) h63
    refine pj_castS (pc := 181) ckX8 q620 dX2_set_181 hs1 ?_
    refine pl_aload_n (pc := 184) dX2_set_184 rfl rfl ?_
    refine pj_getf (pc := 185) ckX2 12 q747 dX2_set_185 (by decide) (hb.r1 (by decide)) rfl ?_
    refine pl_iload_n (pc := 188) dX2_set_188 rfl rfl ?_
    obtain ⟨m_189, c_189, l_189⟩ := hb.LA2 (w := 0) (by decide)
    refine pl_callVd (pc := 189) (As := [_]) (C1 := 0) (N1 := 0) (C2 := CR) (N2 := NR) ckJ2 mdJ2_get rfl q707 q708 q709 q129 dX2_set_189 rfl rfl (Nat.le_of_ble_eq_true rfl) l_189.1 (k_J2_get (d := d - 1) (by omega) l_189 (j := i) (by omega) (if_pos (by omega))) (by omega) (by omega) (by omega) ?_
    refine pj_castS (pc := 192) ckX8 q620 dX2_set_192 hs0 ?_
    refine pj_getfN (pc := 195) ckX8 0 q627 dX2_set_195 (by decide) hs0 rfl ?_
    refine pj_putfN (pc := 198) ckX8 0 q627 dX2_set_198 (by decide) rfl hs1 rfl rfl (Nat.le_of_ble_eq_true rfl) ?_
    refine rvk hsl (fun M8 hb2 => ?_)
    refine pl_iinc1 (pc := 201) (lv' := [(2, _), (0, _), (1, _)]) dX2_set_201 rfl rfl (by decide) rfl ?_
    refine pj_goto (pc := 204) (tgt := 167) dX2_set_204 (by decide) ?_
    refine ih (by omega) _ _ _ hb2 ⟨fun k w j hn => ?_, fun j hj => ?_⟩ (fun x y hn => (SnX_ne hn).trans (eS x y hn)) (by rw [SnX_eq]; omega)
    · rw [rV_ne (by omega)]
      exact sp.1 k w j (by omega)
    · by_cases ej : j = i
      · subst ej
        rw [rV_eq]
        exact sp.1 34 0 j (by omega)
      · rw [rV_ne (by omega)]
        exact sp.2 j (by omega)
