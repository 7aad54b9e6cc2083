set_option maxRecDepth 100000
noncomputable def put1 : Int32 → Int32 → MS → MS := sealD (fun s v σ => sF (wA σ 7 (tN (σ.1 9)) (vp_nar .byte (v >>> (s &&& 31)).toInt8.toInt32)) 9 (σ.1 9 + nI 1))
theorem put1_eq (s v : Int32) (σ : MS) : put1 s v σ = sF (wA σ 7 (tN (σ.1 9)) (vp_nar .byte (v >>> (s &&& 31)).toInt8.toInt32)) 9 (σ.1 9 + nI 1) := by unfold put1; rw [seal_eq]
theorem put1_9 {s v : Int32} {σ : MS} {t : Nat} (h : σ.1 9 = nI t) : (put1 s v σ).1 9 = nI (t + 1) := by
  rw [put1_eq]
  show σ.1 9 + nI 1 = _
  rw [h, nI_add]
noncomputable def feed4 (v : Int32) (σ : MS) : MS := put1 (nI 0) v (put1 (nI 8) v (put1 (nI 16) v (put1 (nI 24) v σ)))
noncomputable def feedS (a b c d e : Int32) (σ : MS) : MS := feed4 e (feed4 d (feed4 c (feed4 b (feed4 a σ))))
noncomputable def p_feed (σ : MS) (a b c d e : Int32) : Int32 × MS := if ¬ (s0 σ).1 9 + nI 20 ≤ nI 300 then (-1, s0 σ) else ((feedS a b c d e (s0 σ)).1 9, feedS a b c d e (s0 σ))
set_option maxHeartbeats 600000 in
theorem w_X9_feed {g : GP} {ad : Nat → Nat} {μ : Mem} {σ : MS} {d : Nat} {a : Int32} {b : Int32} {c : Int32} {d9 : Int32} {e : Int32} {t : Nat} (hd : 1 ≤ d) (hA : Inj ad 18) (htp : σ.1 9 = nI t) (hTP : t ≤ 300) : PM g yX9_feed (ws_ yX9_feed cX9_feed 9 (some .int)) d 0 0 [.ref (ad 0), .int a, .int b, .int c, .int d9, .int e] (mm g ad μ σ) (rQ (some (.int ((p_feed σ a b c d9 e).1))) (mm g ad μ ((p_feed σ a b c d9 e).2))) := by
  refine PM.of (by decide +kernel) (Nat.le_of_ble_eq_true rfl) ?_
  show PJ g _ _ _ _ d 0 0 0 [(0, .ref (ad 0)), (1, .int a), (2, .int b), (3, .int c), (4, .int d9), (5, .int e)] [] _ _
  have key : ∀ (σ : MS) (t : Nat) (s9 v9 w9 : Int32) (Q : OC → Mem → Prop), σ.1 9 = nI t → t < 300 → PJ g yX9_feed.cls cX9_feed 9 (some .int, yX9_feed.name, []) d 0 0 107 [(8, .int s9), (7, .int v9), (6, .int w9), (5, .int e), (4, .int d9), (3, .int c), (2, .int b), (1, .int a), (0, .ref (ad 0))] [] (mm g ad μ (put1 s9 v9 σ)) Q → PJ g yX9_feed.cls cX9_feed 9 (some .int, yX9_feed.name, []) d 0 0 82 [(8, .int s9), (7, .int v9), (6, .int w9), (5, .int e), (4, .int d9), (3, .int c), (2, .int b), (1, .int a), (0, .ref (ad 0))] [] (mm g ad μ σ) Q := by
    intro σ t s9 v9 w9 Q h9 ht kk
    have g_t := tN_nI (n := t) (by omega)
    refine pl_aload_n (pc := 82) dX9_feed_82 rfl rfl ?_
    refine pj_getf (pc := 83) ckX9 8 q2524 dX9_feed_83 (by decide) (mm_o hA) rfl ?_
    refine pl_aload_n (pc := 86) dX9_feed_86 rfl rfl ?_
    refine pj_getf (pc := 87) ckX9 9 q2525 dX9_feed_87 (by decide) (mm_o hA) rfl ?_
    refine PJ.top (y := nI t) h9 ?_
    refine pl_iload (pc := 90) dX9_feed_90 rfl ?_
    refine pl_iload (pc := 92) dX9_feed_92 rfl ?_
    refine pj_ishr (pc := 94) dX9_feed_94 ?_
    refine pj_i2b (pc := 95) dX9_feed_95 rfl ?_
    refine pm_bast (pc := 96) 7 hA (by decide) (by decide) rfl dX9_feed_96 (show _ < 300 by omega) (by decide) ?_
    refine pl_aload_n (pc := 97) dX9_feed_97 rfl rfl ?_
    refine pj_dup (pc := 98) dX9_feed_98 rfl ?_
    refine pj_getf (pc := 99) ckX9 9 q2525 dX9_feed_99 (by decide) (mm_o hA) rfl ?_
    refine pl_iconst (pc := 102) (v := 1) dX9_feed_102 (by rfl) ?_
    refine pj_iadd (pc := 103) dX9_feed_103 ?_
    refine pm_putI (pc := 104) 9 hA q2525 dX9_feed_104 (by decide) rfl (by rfl) (by rfl) rfl ?_
    refine PJ.conv rfl rfl (congrArg (mm g ad μ) (show _ = put1 s9 v9 σ by rw [put1_eq, show tN (σ.1 9) = t by rw [h9, g_t]]; rfl)) kk
  refine pl_aload_n (pc := 0) dX9_feed_0 rfl rfl ?_
  refine pl_iconst (pc := 1) (v := 0) dX9_feed_1 (by rfl) ?_
  refine pm_putI (pc := 2) 0 hA q2516 dX9_feed_2 (by decide) rfl (by rfl) (by rfl) rfl ?_
  refine pl_aload_n (pc := 5) dX9_feed_5 rfl rfl ?_
  refine pj_getf (pc := 6) ckX9 9 q2525 dX9_feed_6 (by decide) (mm_o hA) rfl ?_
  refine pl_bipush (pc := 9) (v := 20) dX9_feed_9 (by rfl) ?_
  refine pj_iadd (pc := 11) dX9_feed_11 ?_
  refine pl_sipush (pc := 12) (v := 300) dX9_feed_12 (by rfl) ?_
  refine pj_icmp_le (pc := 15) (tgt := 20) dX9_feed_15 (by decide) (fun c15 => ?_) (fun c15 => ?_)
  · have h0 : (s0 σ).1 9 = nI t := htp
    have ht9 : t + 20 ≤ 300 := (nI_leI (by omega) (by decide)).mp (by rw [← nI_add, ← h0]; exact c15)
    refine pl_iconst (pc := 20) (v := 0) dX9_feed_20 (by rfl) ?_
    refine pj_istore (pc := 21) (lv' := [(6, _), (0, _), (1, _), (2, _), (3, _), (4, _), (5, _)]) dX9_feed_21 (by decide) rfl ?_
    refine pl_iload (pc := 23) dX9_feed_23 rfl ?_
    refine pl_iconst (pc := 25) (v := 5) dX9_feed_25 (by rfl) ?_
    refine pj_icmp_ge (pc := 26) (tgt := 119) dX9_feed_26 (by decide) (fun h => absurd h (by decide)) (fun _ => ?_)
    refine pl_iload (pc := 29) dX9_feed_29 rfl ?_
    refine pj_if_ne (pc := 31) (tgt := 38) dX9_feed_31 (by decide) (fun h => absurd h (by decide)) (fun _ => ?_)
    refine pl_iload_n (pc := 34) dX9_feed_34 rfl rfl ?_
    refine pj_goto (pc := 35) (tgt := 71) dX9_feed_35 (by decide) ?_
    refine pj_istore (pc := 71) (lv' := [(7, _), (6, _), (0, _), (1, _), (2, _), (3, _), (4, _), (5, _)]) dX9_feed_71 (by decide) rfl ?_
    refine pl_bipush (pc := 73) (v := 24) dX9_feed_73 (by rfl) ?_
    refine pj_istore (pc := 75) (lv' := [(8, _), (7, _), (6, _), (0, _), (1, _), (2, _), (3, _), (4, _), (5, _)]) dX9_feed_75 (by decide) rfl ?_
    refine pl_iload (pc := 77) dX9_feed_77 rfl ?_
    refine pj_if_lt (pc := 79) (tgt := 113) dX9_feed_79 (by decide) (fun h => absurd h (by decide)) (fun _ => ?_)
    refine PJ.sub [0, 1, 2, 8, 7, 6, 5, 4, 3] rfl ?_
    refine key _ _ _ _ _ _ h0 (by omega) ?_
    have h1 := put1_9 (s := nI 24) (v := a) h0
    refine pl_iinc (pc := 107) (v := nI 16) (lv' := [(8, _), (7, _), (6, _), (5, _), (4, _), (3, _), (2, _), (1, _), (0, _)]) dX9_feed_107 rfl (by rfl) (by decide) rfl ?_
    refine pj_goto (pc := 110) (tgt := 77) dX9_feed_110 (by decide) ?_
    refine pl_iload (pc := 77) dX9_feed_77 rfl ?_
    refine pj_if_lt (pc := 79) (tgt := 113) dX9_feed_79 (by decide) (fun h => absurd h (by decide)) (fun _ => ?_)
    refine key _ _ _ _ _ _ h1 (by omega) ?_
    have h2 := put1_9 (s := nI 16) (v := a) h1
    refine pl_iinc (pc := 107) (v := nI 8) (lv' := [(8, _), (7, _), (6, _), (5, _), (4, _), (3, _), (2, _), (1, _), (0, _)]) dX9_feed_107 rfl (by rfl) (by decide) rfl ?_
    refine pj_goto (pc := 110) (tgt := 77) dX9_feed_110 (by decide) ?_
    refine pl_iload (pc := 77) dX9_feed_77 rfl ?_
    refine pj_if_lt (pc := 79) (tgt := 113) dX9_feed_79 (by decide) (fun h => absurd h (by decide)) (fun _ => ?_)
    refine key _ _ _ _ _ _ h2 (by omega) ?_
    have h3 := put1_9 (s := nI 8) (v := a) h2
    refine pl_iinc (pc := 107) (v := nI 0) (lv' := [(8, _), (7, _), (6, _), (5, _), (4, _), (3, _), (2, _), (1, _), (0, _)]) dX9_feed_107 rfl (by rfl) (by decide) rfl ?_
    refine pj_goto (pc := 110) (tgt := 77) dX9_feed_110 (by decide) ?_
    refine pl_iload (pc := 77) dX9_feed_77 rfl ?_
    refine pj_if_lt (pc := 79) (tgt := 113) dX9_feed_79 (by decide) (fun h => absurd h (by decide)) (fun _ => ?_)
    refine key _ _ _ _ _ _ h3 (by omega) ?_
    have h4 := put1_9 (s := nI 0) (v := a) h3
    refine pl_iinc (pc := 107) (v := (-8)) (lv' := [(8, _), (7, _), (6, _), (5, _), (4, _), (3, _), (2, _), (1, _), (0, _)]) dX9_feed_107 rfl (by rfl) (by decide) rfl ?_
    refine pj_goto (pc := 110) (tgt := 77) dX9_feed_110 (by decide) ?_
    refine pl_iload (pc := 77) dX9_feed_77 rfl ?_
    refine pj_if_lt (pc := 79) (tgt := 113) dX9_feed_79 (by decide) (fun _ => ?_) (fun h => absurd (by decide) h)
    refine pl_iinc (pc := 113) (v := nI 1) (lv' := [(6, _), (8, _), (7, _), (5, _), (4, _), (3, _), (2, _), (1, _), (0, _)]) dX9_feed_113 rfl (by rfl) (by decide) rfl ?_
    refine pj_goto (pc := 116) (tgt := 23) dX9_feed_116 (by decide) ?_
    refine pl_iload (pc := 23) dX9_feed_23 rfl ?_
    refine pl_iconst (pc := 25) (v := 5) dX9_feed_25 (by rfl) ?_
    refine pj_icmp_ge (pc := 26) (tgt := 119) dX9_feed_26 (by decide) (fun h => absurd h (by decide)) (fun _ => ?_)
    refine pl_iload (pc := 29) dX9_feed_29 rfl ?_
    refine pj_if_ne (pc := 31) (tgt := 38) dX9_feed_31 (by decide) (fun _ => ?_) (fun h => absurd h (by decide))
    refine pl_iload (pc := 38) dX9_feed_38 rfl ?_
    refine pl_iconst (pc := 40) (v := 1) dX9_feed_40 (by rfl) ?_
    refine pj_icmp_ne (pc := 41) (tgt := 48) dX9_feed_41 (by decide) (fun h => absurd h (by decide)) (fun _ => ?_)
    refine pl_iload_n (pc := 44) dX9_feed_44 rfl rfl ?_
    refine pj_goto (pc := 45) (tgt := 71) dX9_feed_45 (by decide) ?_
    refine pj_istore (pc := 71) (lv' := [(7, _), (6, _), (8, _), (5, _), (4, _), (3, _), (2, _), (1, _), (0, _)]) dX9_feed_71 (by decide) rfl ?_
    refine pl_bipush (pc := 73) (v := 24) dX9_feed_73 (by rfl) ?_
    refine pj_istore (pc := 75) (lv' := [(8, _), (7, _), (6, _), (5, _), (4, _), (3, _), (2, _), (1, _), (0, _)]) dX9_feed_75 (by decide) rfl ?_
    refine pl_iload (pc := 77) dX9_feed_77 rfl ?_
    refine pj_if_lt (pc := 79) (tgt := 113) dX9_feed_79 (by decide) (fun h => absurd h (by decide)) (fun _ => ?_)
    refine key _ _ _ _ _ _ h4 (by omega) ?_
    have h5 := put1_9 (s := nI 24) (v := b) h4
    refine pl_iinc (pc := 107) (v := nI 16) (lv' := [(8, _), (7, _), (6, _), (5, _), (4, _), (3, _), (2, _), (1, _), (0, _)]) dX9_feed_107 rfl (by rfl) (by decide) rfl ?_
    refine pj_goto (pc := 110) (tgt := 77) dX9_feed_110 (by decide) ?_
    refine pl_iload (pc := 77) dX9_feed_77 rfl ?_
    refine pj_if_lt (pc := 79) (tgt := 113) dX9_feed_79 (by decide) (fun h => absurd h (by decide)) (fun _ => ?_)
    refine key _ _ _ _ _ _ h5 (by omega) ?_
    have h6 := put1_9 (s := nI 16) (v := b) h5
    refine pl_iinc (pc := 107) (v := nI 8) (lv' := [(8, _), (7, _), (6, _), (5, _), (4, _), (3, _), (2, _), (1, _), (0, _)]) dX9_feed_107 rfl (by rfl) (by decide) rfl ?_
    refine pj_goto (pc := 110) (tgt := 77) dX9_feed_110 (by decide) ?_
    refine pl_iload (pc := 77) dX9_feed_77 rfl ?_
    refine pj_if_lt (pc := 79) (tgt := 113) dX9_feed_79 (by decide) (fun h => absurd h (by decide)) (fun _ => ?_)
    refine key _ _ _ _ _ _ h6 (by omega) ?_
    have h7 := put1_9 (s := nI 8) (v := b) h6
    refine pl_iinc (pc := 107) (v := nI 0) (lv' := [(8, _), (7, _), (6, _), (5, _), (4, _), (3, _), (2, _), (1, _), (0, _)]) dX9_feed_107 rfl (by rfl) (by decide) rfl ?_
    refine pj_goto (pc := 110) (tgt := 77) dX9_feed_110 (by decide) ?_
    refine pl_iload (pc := 77) dX9_feed_77 rfl ?_
    refine pj_if_lt (pc := 79) (tgt := 113) dX9_feed_79 (by decide) (fun h => absurd h (by decide)) (fun _ => ?_)
    refine key _ _ _ _ _ _ h7 (by omega) ?_
    have h8 := put1_9 (s := nI 0) (v := b) h7
    refine pl_iinc (pc := 107) (v := (-8)) (lv' := [(8, _), (7, _), (6, _), (5, _), (4, _), (3, _), (2, _), (1, _), (0, _)]) dX9_feed_107 rfl (by rfl) (by decide) rfl ?_
    refine pj_goto (pc := 110) (tgt := 77) dX9_feed_110 (by decide) ?_
    refine pl_iload (pc := 77) dX9_feed_77 rfl ?_
    refine pj_if_lt (pc := 79) (tgt := 113) dX9_feed_79 (by decide) (fun _ => ?_) (fun h => absurd (by decide) h)
    refine pl_iinc (pc := 113) (v := nI 2) (lv' := [(6, _), (8, _), (7, _), (5, _), (4, _), (3, _), (2, _), (1, _), (0, _)]) dX9_feed_113 rfl (by rfl) (by decide) rfl ?_
    refine pj_goto (pc := 116) (tgt := 23) dX9_feed_116 (by decide) ?_
    refine pl_iload (pc := 23) dX9_feed_23 rfl ?_
    refine pl_iconst (pc := 25) (v := 5) dX9_feed_25 (by rfl) ?_
    refine pj_icmp_ge (pc := 26) (tgt := 119) dX9_feed_26 (by decide) (fun h => absurd h (by decide)) (fun _ => ?_)
    refine pl_iload (pc := 29) dX9_feed_29 rfl ?_
    refine pj_if_ne (pc := 31) (tgt := 38) dX9_feed_31 (by decide) (fun _ => ?_) (fun h => absurd h (by decide))
    refine pl_iload (pc := 38) dX9_feed_38 rfl ?_
    refine pl_iconst (pc := 40) (v := 1) dX9_feed_40 (by rfl) ?_
    refine pj_icmp_ne (pc := 41) (tgt := 48) dX9_feed_41 (by decide) (fun _ => ?_) (fun h => absurd h (by decide))
    refine pl_iload (pc := 48) dX9_feed_48 rfl ?_
    refine pl_iconst (pc := 50) (v := 2) dX9_feed_50 (by rfl) ?_
    refine pj_icmp_ne (pc := 51) (tgt := 58) dX9_feed_51 (by decide) (fun h => absurd h (by decide)) (fun _ => ?_)
    refine pl_iload_n (pc := 54) dX9_feed_54 rfl rfl ?_
    refine pj_goto (pc := 55) (tgt := 71) dX9_feed_55 (by decide) ?_
    refine pj_istore (pc := 71) (lv' := [(7, _), (6, _), (8, _), (5, _), (4, _), (3, _), (2, _), (1, _), (0, _)]) dX9_feed_71 (by decide) rfl ?_
    refine pl_bipush (pc := 73) (v := 24) dX9_feed_73 (by rfl) ?_
    refine pj_istore (pc := 75) (lv' := [(8, _), (7, _), (6, _), (5, _), (4, _), (3, _), (2, _), (1, _), (0, _)]) dX9_feed_75 (by decide) rfl ?_
    refine pl_iload (pc := 77) dX9_feed_77 rfl ?_
    refine pj_if_lt (pc := 79) (tgt := 113) dX9_feed_79 (by decide) (fun h => absurd h (by decide)) (fun _ => ?_)
    refine key _ _ _ _ _ _ h8 (by omega) ?_
    have h9 := put1_9 (s := nI 24) (v := c) h8
    refine pl_iinc (pc := 107) (v := nI 16) (lv' := [(8, _), (7, _), (6, _), (5, _), (4, _), (3, _), (2, _), (1, _), (0, _)]) dX9_feed_107 rfl (by rfl) (by decide) rfl ?_
    refine pj_goto (pc := 110) (tgt := 77) dX9_feed_110 (by decide) ?_
    refine pl_iload (pc := 77) dX9_feed_77 rfl ?_
    refine pj_if_lt (pc := 79) (tgt := 113) dX9_feed_79 (by decide) (fun h => absurd h (by decide)) (fun _ => ?_)
    refine key _ _ _ _ _ _ h9 (by omega) ?_
    have h10 := put1_9 (s := nI 16) (v := c) h9
    refine pl_iinc (pc := 107) (v := nI 8) (lv' := [(8, _), (7, _), (6, _), (5, _), (4, _), (3, _), (2, _), (1, _), (0, _)]) dX9_feed_107 rfl (by rfl) (by decide) rfl ?_
    refine pj_goto (pc := 110) (tgt := 77) dX9_feed_110 (by decide) ?_
    refine pl_iload (pc := 77) dX9_feed_77 rfl ?_
    refine pj_if_lt (pc := 79) (tgt := 113) dX9_feed_79 (by decide) (fun h => absurd h (by decide)) (fun _ => ?_)
    refine key _ _ _ _ _ _ h10 (by omega) ?_
    have h11 := put1_9 (s := nI 8) (v := c) h10
    refine pl_iinc (pc := 107) (v := nI 0) (lv' := [(8, _), (7, _), (6, _), (5, _), (4, _), (3, _), (2, _), (1, _), (0, _)]) dX9_feed_107 rfl (by rfl) (by decide) rfl ?_
    refine pj_goto (pc := 110) (tgt := 77) dX9_feed_110 (by decide) ?_
    refine pl_iload (pc := 77) dX9_feed_77 rfl ?_
    refine pj_if_lt (pc := 79) (tgt := 113) dX9_feed_79 (by decide) (fun h => absurd h (by decide)) (fun _ => ?_)
    refine key _ _ _ _ _ _ h11 (by omega) ?_
    have h12 := put1_9 (s := nI 0) (v := c) h11
    refine pl_iinc (pc := 107) (v := (-8)) (lv' := [(8, _), (7, _), (6, _), (5, _), (4, _), (3, _), (2, _), (1, _), (0, _)]) dX9_feed_107 rfl (by rfl) (by decide) rfl ?_
    refine pj_goto (pc := 110) (tgt := 77) dX9_feed_110 (by decide) ?_
    refine pl_iload (pc := 77) dX9_feed_77 rfl ?_
    refine pj_if_lt (pc := 79) (tgt := 113) dX9_feed_79 (by decide) (fun _ => ?_) (fun h => absurd (by decide) h)
    refine pl_iinc (pc := 113) (v := nI 3) (lv' := [(6, _), (8, _), (7, _), (5, _), (4, _), (3, _), (2, _), (1, _), (0, _)]) dX9_feed_113 rfl (by rfl) (by decide) rfl ?_
    refine pj_goto (pc := 116) (tgt := 23) dX9_feed_116 (by decide) ?_
    refine pl_iload (pc := 23) dX9_feed_23 rfl ?_
    refine pl_iconst (pc := 25) (v := 5) dX9_feed_25 (by rfl) ?_
    refine pj_icmp_ge (pc := 26) (tgt := 119) dX9_feed_26 (by decide) (fun h => absurd h (by decide)) (fun _ => ?_)
    refine pl_iload (pc := 29) dX9_feed_29 rfl ?_
    refine pj_if_ne (pc := 31) (tgt := 38) dX9_feed_31 (by decide) (fun _ => ?_) (fun h => absurd h (by decide))
    refine pl_iload (pc := 38) dX9_feed_38 rfl ?_
    refine pl_iconst (pc := 40) (v := 1) dX9_feed_40 (by rfl) ?_
    refine pj_icmp_ne (pc := 41) (tgt := 48) dX9_feed_41 (by decide) (fun _ => ?_) (fun h => absurd h (by decide))
    refine pl_iload (pc := 48) dX9_feed_48 rfl ?_
    refine pl_iconst (pc := 50) (v := 2) dX9_feed_50 (by rfl) ?_
    refine pj_icmp_ne (pc := 51) (tgt := 58) dX9_feed_51 (by decide) (fun _ => ?_) (fun h => absurd h (by decide))
    refine pl_iload (pc := 58) dX9_feed_58 rfl ?_
    refine pl_iconst (pc := 60) (v := 3) dX9_feed_60 (by rfl) ?_
    refine pj_icmp_ne (pc := 61) (tgt := 69) dX9_feed_61 (by decide) (fun h => absurd h (by decide)) (fun _ => ?_)
    refine pl_iload (pc := 64) dX9_feed_64 rfl ?_
    refine pj_goto (pc := 66) (tgt := 71) dX9_feed_66 (by decide) ?_
    refine pj_istore (pc := 71) (lv' := [(7, _), (6, _), (8, _), (5, _), (4, _), (3, _), (2, _), (1, _), (0, _)]) dX9_feed_71 (by decide) rfl ?_
    refine pl_bipush (pc := 73) (v := 24) dX9_feed_73 (by rfl) ?_
    refine pj_istore (pc := 75) (lv' := [(8, _), (7, _), (6, _), (5, _), (4, _), (3, _), (2, _), (1, _), (0, _)]) dX9_feed_75 (by decide) rfl ?_
    refine pl_iload (pc := 77) dX9_feed_77 rfl ?_
    refine pj_if_lt (pc := 79) (tgt := 113) dX9_feed_79 (by decide) (fun h => absurd h (by decide)) (fun _ => ?_)
    refine key _ _ _ _ _ _ h12 (by omega) ?_
    have h13 := put1_9 (s := nI 24) (v := d9) h12
    refine pl_iinc (pc := 107) (v := nI 16) (lv' := [(8, _), (7, _), (6, _), (5, _), (4, _), (3, _), (2, _), (1, _), (0, _)]) dX9_feed_107 rfl (by rfl) (by decide) rfl ?_
    refine pj_goto (pc := 110) (tgt := 77) dX9_feed_110 (by decide) ?_
    refine pl_iload (pc := 77) dX9_feed_77 rfl ?_
    refine pj_if_lt (pc := 79) (tgt := 113) dX9_feed_79 (by decide) (fun h => absurd h (by decide)) (fun _ => ?_)
    refine key _ _ _ _ _ _ h13 (by omega) ?_
    have h14 := put1_9 (s := nI 16) (v := d9) h13
    refine pl_iinc (pc := 107) (v := nI 8) (lv' := [(8, _), (7, _), (6, _), (5, _), (4, _), (3, _), (2, _), (1, _), (0, _)]) dX9_feed_107 rfl (by rfl) (by decide) rfl ?_
    refine pj_goto (pc := 110) (tgt := 77) dX9_feed_110 (by decide) ?_
    refine pl_iload (pc := 77) dX9_feed_77 rfl ?_
    refine pj_if_lt (pc := 79) (tgt := 113) dX9_feed_79 (by decide) (fun h => absurd h (by decide)) (fun _ => ?_)
    refine key _ _ _ _ _ _ h14 (by omega) ?_
    have h15 := put1_9 (s := nI 8) (v := d9) h14
    refine pl_iinc (pc := 107) (v := nI 0) (lv' := [(8, _), (7, _), (6, _), (5, _), (4, _), (3, _), (2, _), (1, _), (0, _)]) dX9_feed_107 rfl (by rfl) (by decide) rfl ?_
    refine pj_goto (pc := 110) (tgt := 77) dX9_feed_110 (by decide) ?_
    refine pl_iload (pc := 77) dX9_feed_77 rfl ?_
    refine pj_if_lt (pc := 79) (tgt := 113) dX9_feed_79 (by decide) (fun h => absurd h (by decide)) (fun _ => ?_)
    refine key _ _ _ _ _ _ h15 (by omega) ?_
    have h16 := put1_9 (s := nI 0) (v := d9) h15
    refine pl_iinc (pc := 107) (v := (-8)) (lv' := [(8, _), (7, _), (6, _), (5, _), (4, _), (3, _), (2, _), (1, _), (0, _)]) dX9_feed_107 rfl (by rfl) (by decide) rfl ?_
    refine pj_goto (pc := 110) (tgt := 77) dX9_feed_110 (by decide) ?_
    refine pl_iload (pc := 77) dX9_feed_77 rfl ?_
    refine pj_if_lt (pc := 79) (tgt := 113) dX9_feed_79 (by decide) (fun _ => ?_) (fun h => absurd (by decide) h)
    refine pl_iinc (pc := 113) (v := nI 4) (lv' := [(6, _), (8, _), (7, _), (5, _), (4, _), (3, _), (2, _), (1, _), (0, _)]) dX9_feed_113 rfl (by rfl) (by decide) rfl ?_
    refine pj_goto (pc := 116) (tgt := 23) dX9_feed_116 (by decide) ?_
    refine pl_iload (pc := 23) dX9_feed_23 rfl ?_
    refine pl_iconst (pc := 25) (v := 5) dX9_feed_25 (by rfl) ?_
    refine pj_icmp_ge (pc := 26) (tgt := 119) dX9_feed_26 (by decide) (fun h => absurd h (by decide)) (fun _ => ?_)
    refine pl_iload (pc := 29) dX9_feed_29 rfl ?_
    refine pj_if_ne (pc := 31) (tgt := 38) dX9_feed_31 (by decide) (fun _ => ?_) (fun h => absurd h (by decide))
    refine pl_iload (pc := 38) dX9_feed_38 rfl ?_
    refine pl_iconst (pc := 40) (v := 1) dX9_feed_40 (by rfl) ?_
    refine pj_icmp_ne (pc := 41) (tgt := 48) dX9_feed_41 (by decide) (fun _ => ?_) (fun h => absurd h (by decide))
    refine pl_iload (pc := 48) dX9_feed_48 rfl ?_
    refine pl_iconst (pc := 50) (v := 2) dX9_feed_50 (by rfl) ?_
    refine pj_icmp_ne (pc := 51) (tgt := 58) dX9_feed_51 (by decide) (fun _ => ?_) (fun h => absurd h (by decide))
    refine pl_iload (pc := 58) dX9_feed_58 rfl ?_
    refine pl_iconst (pc := 60) (v := 3) dX9_feed_60 (by rfl) ?_
    refine pj_icmp_ne (pc := 61) (tgt := 69) dX9_feed_61 (by decide) (fun _ => ?_) (fun h => absurd h (by decide))
    refine pl_iload (pc := 69) dX9_feed_69 rfl ?_
    refine pj_istore (pc := 71) (lv' := [(7, _), (6, _), (8, _), (5, _), (4, _), (3, _), (2, _), (1, _), (0, _)]) dX9_feed_71 (by decide) rfl ?_
    refine pl_bipush (pc := 73) (v := 24) dX9_feed_73 (by rfl) ?_
    refine pj_istore (pc := 75) (lv' := [(8, _), (7, _), (6, _), (5, _), (4, _), (3, _), (2, _), (1, _), (0, _)]) dX9_feed_75 (by decide) rfl ?_
    refine pl_iload (pc := 77) dX9_feed_77 rfl ?_
    refine pj_if_lt (pc := 79) (tgt := 113) dX9_feed_79 (by decide) (fun h => absurd h (by decide)) (fun _ => ?_)
    refine key _ _ _ _ _ _ h16 (by omega) ?_
    have h17 := put1_9 (s := nI 24) (v := e) h16
    refine pl_iinc (pc := 107) (v := nI 16) (lv' := [(8, _), (7, _), (6, _), (5, _), (4, _), (3, _), (2, _), (1, _), (0, _)]) dX9_feed_107 rfl (by rfl) (by decide) rfl ?_
    refine pj_goto (pc := 110) (tgt := 77) dX9_feed_110 (by decide) ?_
    refine pl_iload (pc := 77) dX9_feed_77 rfl ?_
    refine pj_if_lt (pc := 79) (tgt := 113) dX9_feed_79 (by decide) (fun h => absurd h (by decide)) (fun _ => ?_)
    refine key _ _ _ _ _ _ h17 (by omega) ?_
    have h18 := put1_9 (s := nI 16) (v := e) h17
    refine pl_iinc (pc := 107) (v := nI 8) (lv' := [(8, _), (7, _), (6, _), (5, _), (4, _), (3, _), (2, _), (1, _), (0, _)]) dX9_feed_107 rfl (by rfl) (by decide) rfl ?_
    refine pj_goto (pc := 110) (tgt := 77) dX9_feed_110 (by decide) ?_
    refine pl_iload (pc := 77) dX9_feed_77 rfl ?_
    refine pj_if_lt (pc := 79) (tgt := 113) dX9_feed_79 (by decide) (fun h => absurd h (by decide)) (fun _ => ?_)
    refine key _ _ _ _ _ _ h18 (by omega) ?_
    have h19 := put1_9 (s := nI 8) (v := e) h18
    refine pl_iinc (pc := 107) (v := nI 0) (lv' := [(8, _), (7, _), (6, _), (5, _), (4, _), (3, _), (2, _), (1, _), (0, _)]) dX9_feed_107 rfl (by rfl) (by decide) rfl ?_
    refine pj_goto (pc := 110) (tgt := 77) dX9_feed_110 (by decide) ?_
    refine pl_iload (pc := 77) dX9_feed_77 rfl ?_
    refine pj_if_lt (pc := 79) (tgt := 113) dX9_feed_79 (by decide) (fun h => absurd h (by decide)) (fun _ => ?_)
    refine key _ _ _ _ _ _ h19 (by omega) ?_
    have h20 := put1_9 (s := nI 0) (v := e) h19
    refine pl_iinc (pc := 107) (v := (-8)) (lv' := [(8, _), (7, _), (6, _), (5, _), (4, _), (3, _), (2, _), (1, _), (0, _)]) dX9_feed_107 rfl (by rfl) (by decide) rfl ?_
    refine pj_goto (pc := 110) (tgt := 77) dX9_feed_110 (by decide) ?_
    refine pl_iload (pc := 77) dX9_feed_77 rfl ?_
    refine pj_if_lt (pc := 79) (tgt := 113) dX9_feed_79 (by decide) (fun _ => ?_) (fun h => absurd (by decide) h)
    refine pl_iinc (pc := 113) (v := nI 5) (lv' := [(6, _), (8, _), (7, _), (5, _), (4, _), (3, _), (2, _), (1, _), (0, _)]) dX9_feed_113 rfl (by rfl) (by decide) rfl ?_
    refine pj_goto (pc := 116) (tgt := 23) dX9_feed_116 (by decide) ?_
    refine pl_iload (pc := 23) dX9_feed_23 rfl ?_
    refine pl_iconst (pc := 25) (v := 5) dX9_feed_25 (by rfl) ?_
    refine pj_icmp_ge (pc := 26) (tgt := 119) dX9_feed_26 (by decide) (fun _ => ?_) (fun h => absurd h (by decide))
    refine pl_aload_n (pc := 119) dX9_feed_119 rfl rfl ?_
    refine pj_getf (pc := 120) ckX9 9 q2525 dX9_feed_120 (by decide) (mm_o hA) rfl ?_
    refine pj_iret (pc := 123) dX9_feed_123 rfl ?_
    exact ⟨vIe (by simp [p_feed, c15, feedS, feed4]) rfl, congrArg (mm g ad μ) (by simp [p_feed, c15, feedS, feed4])⟩
  · refine pj_iconst (pc := 18) (v := (-1)) dX9_feed_18 (by rfl) ?_
    refine pj_iret (pc := 19) dX9_feed_19 rfl ?_
    exact ⟨vIe (by simp [p_feed, c15]) rfl, congrArg (mm g ad μ) (by simp [p_feed, c15])⟩
section L2
variable {g : GP} {own : String} {cc : ByteArray} {nL : Nat} {i : MI} {d C N pc : Nat} {ls : List (Nat × Value)} {rest : List Value} {μ : Mem} {Q : OC → Mem → Prop}
theorem pj_ldc2 {index : Nat} {v : Int64} (hc : Cond.constantLong own index v ∈ lw_all) (hdg : decode cc pc = .ok (.ldc2_w index, 3)) (kk : PJ g own cc nL i d C N (pc + 3) ls (.long v :: rest) μ Q) : PJ g own cc nL i d C N pc ls rest μ Q :=
  fun G p e R s m args below meth c E H locs cells slots K K9 B arr hl9 => lv_ldc2 E.1 E.2.1 E.2.2.2.1 (E.2.2.2.2.1 _ hc) hdg (kk G p e R s m args below meth c E H locs cells slots K K9 B arr hl9)
end L2
def tradeN (f h s k : Nat) : Nat := if k < f then 0 else if k < f + h then 1 else if k < f + h + s then 2 else 3
def ship1 (x : Int32) (p : Nat) (σ : MS) : MS := if ¬ per σ p 2 = 0 then σ else if ¬ 0 ≤ per σ p 6 then σ else sR (sR σ (768 + 8 * p + 2) (nI 1)) (768 + 8 * p + 5) x
def ship2 (f h s : Nat) (x : Int32) (k : Nat) (σ : MS) : MS := s_adds σ (nI (tradeN f h s k)) (nI 5) (nI 1) x
noncomputable def shipS (n nw f h s k : Nat) (σ : MS) : MS := uq (ship2 f h s (nI (nw + 34))) (f + h + s + k) (uq (ship1 (nI (nw + 34))) n (sR σ 2121 (row σ 2121 + nI (10 * (f + h + s + k)))))
noncomputable def shipE (σ : MS) : Int32 × MS := (row (sR σ 2129 (row σ 2129 + nI 1)) 2129 - nI 1, sR σ 2129 (row σ 2129 + nI 1))
noncomputable def p_ship (σ : MS) (n nw : Nat) (f h s k : Int32) : Int32 × MS :=
  if f < 0 then (-1, s0 σ) else if h < 0 then (-1, s0 σ) else if s < 0 then (-1, s0 σ) else if ¬ 0 ≤ k then (-1, s0 σ) else if row (s0 σ) 2129 = nI 20 then (-2, s0 σ)
  else if 100 - n < tN f + tN h + tN s + tN k then (-3, s0 σ) else if (homePassV (s0 σ) nw).toInt64 < lN (10 * (tN f + tN h + tN s + tN k)) then (-4, s0 σ)
  else shipE (shipS n nw (tN f) (tN h) (tN s) (tN k) (s0 σ))
theorem ship1_row {x : Int32} {p j : Nat} {σ : MS} (hj : 1568 ≤ j) (hp : p < 100) : row (ship1 x p σ) j = row σ j := by
  unfold ship1
  split
  · rfl
  · split
    · rfl
    · exact (rowS_ne (by omega)).trans (rowS_ne (by omega))
theorem ship1q_row {x : Int32} {j : Nat} {σ : MS} (hj : 1568 ≤ j) : ∀ m, m ≤ 100 → row (uq (ship1 x) m σ) j = row σ j
  | 0, _ => by rw [uq_0]
  | m + 1, h => by rw [uq_s _ m]; exact (ship1_row hj (by omega)).trans (ship1q_row hj m (by omega))
theorem ship2_n {f h s n m : Nat} {x : Int32} {σ : MS} (hn : row σ 2124 = nI n) : ∀ k, n + k ≤ 100 → row (uq (ship2 f h s x) k σ) 2124 = nI (n + k)
  | 0, _ => by rw [uq_0]; exact hn
  | k + 1, hk => by rw [uq_s _ k]; exact adds_n (n := n + k) (ship2_n (m := m) hn k (by omega)) (by omega)
set_option maxHeartbeats 600000 in
theorem w_X9_ship {g : GP} {ad : Nat → Nat} {μ : Mem} {σ : MS} {d : Nat} {f : Int32} {h : Int32} {u : Int32} {k : Int32} {n nw : Nat} (hd : 3 ≤ d) (hA : Inj ad 18) (hn : row σ 2124 = nI n) (hP : n ≤ 100) (hnw : row σ 2116 = nI nw) (hNW : nw ≤ 1000) : PM g yX9_ship (ws_ yX9_ship cX9_ship 10 (some .int)) d 0 0 [.ref (ad 0), .int f, .int h, .int u, .int k] (mm g ad μ σ) (rQ (some (.int ((p_ship σ n nw f h u k).1))) (mm g ad μ ((p_ship σ n nw f h u k).2))) := by
  refine PM.of (by decide +kernel) (Nat.le_of_ble_eq_true rfl) ?_
  show PJ g _ _ _ _ d 0 0 0 [(0, .ref (ad 0)), (1, .int f), (2, .int h), (3, .int u), (4, .int k)] [] _ _
  refine pl_aload_n (pc := 0) dX9_ship_0 rfl rfl ?_
  refine pl_iconst (pc := 1) (v := 0) dX9_ship_1 (by rfl) ?_
  refine pm_putI (pc := 2) 0 hA q2516 dX9_ship_2 (by decide) rfl (by rfl) (by rfl) rfl ?_
  refine pl_iload_n (pc := 5) dX9_ship_5 rfl rfl ?_
  refine pj_if_lt (pc := 6) (tgt := 22) dX9_ship_6 (by decide) (fun c6 => ?_) (fun c6 => ?_)
  · refine pj_iconst (pc := 22) (v := (-1)) dX9_ship_22 (by rfl) ?_
    refine pj_iret (pc := 23) dX9_ship_23 rfl ?_
    exact ⟨vIe (by simp [p_ship, shipE, shipS, c6]) rfl, congrArg (mm g ad μ) (by simp [p_ship, shipE, shipS, c6])⟩
  · refine pl_iload_n (pc := 9) dX9_ship_9 rfl rfl ?_
    refine pj_if_lt (pc := 10) (tgt := 22) dX9_ship_10 (by decide) (fun c10 => ?_) (fun c10 => ?_)
    · refine pj_iconst (pc := 22) (v := (-1)) dX9_ship_22 (by rfl) ?_
      refine pj_iret (pc := 23) dX9_ship_23 rfl ?_
      exact ⟨vIe (by simp [p_ship, shipE, shipS, c6, c10]) rfl, congrArg (mm g ad μ) (by simp [p_ship, shipE, shipS, c6, c10])⟩
    · refine pl_iload_n (pc := 13) dX9_ship_13 rfl rfl ?_
      refine pj_if_lt (pc := 14) (tgt := 22) dX9_ship_14 (by decide) (fun c14 => ?_) (fun c14 => ?_)
      · refine pj_iconst (pc := 22) (v := (-1)) dX9_ship_22 (by rfl) ?_
        refine pj_iret (pc := 23) dX9_ship_23 rfl ?_
        exact ⟨vIe (by simp [p_ship, shipE, shipS, c6, c10, c14]) rfl, congrArg (mm g ad μ) (by simp [p_ship, shipE, shipS, c6, c10, c14])⟩
      · refine pl_iload (pc := 17) dX9_ship_17 rfl ?_
        refine pj_if_ge (pc := 19) (tgt := 24) dX9_ship_19 (by decide) (fun c19 => ?_) (fun c19 => ?_)
        · refine pl_aload_n (pc := 24) dX9_ship_24 rfl rfl ?_
          refine pj_getf (pc := 25) ckX9 1 q2517 dX9_ship_25 (by decide) (mm_o hA) rfl ?_
          refine pl_sipush (pc := 28) (v := 2129) dX9_ship_28 (by rfl) ?_
          refine pl_iald (pc := 31) (n := 2132) dX9_ship_31 (mm_a hA 1 (by decide) (by decide)) (by omega) (by decide) ?_
          refine pl_bipush (pc := 32) (v := 20) dX9_ship_32 (by rfl) ?_
          refine pj_icmp_ne (pc := 34) (tgt := 40) dX9_ship_34 (by decide) (fun c34 => ?_) (fun c34 => ?_)
          · obtain ⟨j_f, hj_f, rfl⟩ := nI_of (x := f) c6
            have g_f := tN_nI hj_f
            obtain ⟨j_h, hj_h, rfl⟩ := nI_of (x := h) c10
            have g_h := tN_nI hj_h
            obtain ⟨j_u, hj_u, rfl⟩ := nI_of (x := u) c14
            have g_u := tN_nI hj_u
            obtain ⟨j_k, hj_k, rfl⟩ := nI_of (x := k) (Int32.not_lt.mpr c19)
            have g_k := tN_nI hj_k
            refine pl_iload_n (pc := 40) dX9_ship_40 rfl rfl ?_
            refine pj_i2l (pc := 41) dX9_ship_41 rfl ?_
            refine pl_iload_n (pc := 42) dX9_ship_42 rfl rfl ?_
            refine pj_i2l (pc := 43) dX9_ship_43 rfl ?_
            refine pj_ladd (pc := 44) dX9_ship_44 ?_
            refine pl_iload_n (pc := 45) dX9_ship_45 rfl rfl ?_
            refine pj_i2l (pc := 46) dX9_ship_46 rfl ?_
            refine pj_ladd (pc := 47) dX9_ship_47 ?_
            refine pl_iload (pc := 48) dX9_ship_48 rfl ?_
            refine pj_i2l (pc := 50) dX9_ship_50 rfl ?_
            refine pj_ladd (pc := 51) dX9_ship_51 ?_
            have eL : (nI j_f).toInt64 + (nI j_h).toInt64 + (nI j_u).toInt64 + (nI j_k).toInt64 = lN (j_f + j_h + j_u + j_k) := by rw [nI_l (by omega), nI_l (by omega), nI_l (by omega), nI_l (by omega), lN_add, lN_add, lN_add]
            rw [eL]
            refine pj_lstore (pc := 52) (lv' := [(5, _), (0, _), (1, _), (2, _), (3, _), (4, _)]) dX9_ship_52 (by decide) rfl ?_
            refine pl_lload (pc := 54) dX9_ship_54 rfl ?_
            refine pl_bipush (pc := 56) (v := 100) dX9_ship_56 (by rfl) ?_
            refine pl_aload_n (pc := 58) dX9_ship_58 rfl rfl ?_
            refine pj_getf (pc := 59) ckX9 1 q2517 dX9_ship_59 (by decide) (mm_o hA) rfl ?_
            refine pl_sipush (pc := 62) (v := 2124) dX9_ship_62 (by rfl) ?_
            refine pl_iald (pc := 65) (n := 2132) dX9_ship_65 (mm_a hA 1 (by decide) (by decide)) (by omega) (by decide) ?_
            refine PJ.top (y := nI _) (hn) ?_
            refine pl_isub (pc := 66) dX9_ship_66 (by omega) ?_
            refine pj_i2l (pc := 67) dX9_ship_67 rfl ?_
            refine pj_lcmp (pc := 68) dX9_ship_68 ?_
            refine PJ.top (y := lg_cmp (lN (j_f + j_h + j_u + j_k)) (lN (100 - n))) (by rw [nI_l (by omega)]) ?_
            refine pj_if_le (pc := 69) (tgt := 75) dX9_ship_69 (by decide) (fun c69 => ?_) (fun c69 => ?_)
            · have d69 : ¬ 100 - n < (j_f + j_h + j_u + j_k) := fun z => by
                have h9 := (lg_cmp_le _ _).mp c69
                exact absurd ((pk_lLE (by omega) (by omega)).mp h9) (by omega)
              refine pl_aload_n (pc := 75) dX9_ship_75 rfl rfl ?_
              refine pl_callVd (pc := 76) (As := []) (C2 := 0) (N2 := 0) ckX9 mdX9_homePassages rfl q3062 q3064 qs109 q154 dX9_ship_76 rfl rfl (Nat.le_of_ble_eq_true rfl) (mm_o hA) (w_X9_homePassages (d := d - 1) (by omega) hA hnw hNW) (by omega) (by decide) (by decide) ?_
              refine pj_i2l (pc := 79) dX9_ship_79 rfl ?_
              refine pj_ldc2 (pc := 80) q3070 dX9_ship_80 ?_
              refine pl_lload (pc := 83) dX9_ship_83 rfl ?_
              refine pj_lmul (pc := 85) dX9_ship_85 ?_
              refine pj_lcmp (pc := 86) dX9_ship_86 ?_
              refine PJ.top (y := lg_cmp (homePassV (s0 σ) nw).toInt64 (lN (10 * (j_f + j_h + j_u + j_k)))) (by rw [← lN_mul]; rfl) ?_
              refine pj_if_ge (pc := 87) (tgt := 93) dX9_ship_87 (by decide) (fun c87 => ?_) (fun c87 => ?_)
              · have d87 : ¬ (homePassV (s0 σ) nw).toInt64 < lN (10 * (j_f + j_h + j_u + j_k)) := fun z => absurd ((lg_cmp_lt _ _).mpr z) (Int32.not_lt.mpr c87)
                refine pl_aload_n (pc := 93) dX9_ship_93 rfl rfl ?_
                refine pj_getf (pc := 94) ckX9 1 q2517 dX9_ship_94 (by decide) (mm_o hA) rfl ?_
                refine pl_sipush (pc := 97) (v := 2124) dX9_ship_97 (by rfl) ?_
                refine pl_iald (pc := 100) (n := 2132) dX9_ship_100 (mm_a hA 1 (by decide) (by decide)) (by omega) (by decide) ?_
                refine PJ.top (y := nI _) (hn) ?_
                refine pj_istore (pc := 101) (lv' := [(7, _), (5, _), (0, _), (1, _), (2, _), (3, _), (4, _)]) dX9_ship_101 (by decide) rfl ?_
                refine pl_aload_n (pc := 103) dX9_ship_103 rfl rfl ?_
                refine pj_getf (pc := 104) ckX9 1 q2517 dX9_ship_104 (by decide) (mm_o hA) rfl ?_
                refine pl_sipush (pc := 107) (v := 2116) dX9_ship_107 (by rfl) ?_
                refine pl_iald (pc := 110) (n := 2132) dX9_ship_110 (mm_a hA 1 (by decide) (by decide)) (by omega) (by decide) ?_
                refine PJ.top (y := nI _) (hnw) ?_
                refine pl_bipush (pc := 111) (v := 34) dX9_ship_111 (by rfl) ?_
                refine pl_iadd (pc := 113) dX9_ship_113 ?_
                refine pj_istore (pc := 114) (lv' := [(8, _), (7, _), (5, _), (0, _), (1, _), (2, _), (3, _), (4, _)]) dX9_ship_114 (by decide) rfl ?_
                refine pl_aload_n (pc := 116) dX9_ship_116 rfl rfl ?_
                refine pj_getf (pc := 117) ckX9 1 q2517 dX9_ship_117 (by decide) (mm_o hA) rfl ?_
                refine pl_sipush (pc := 120) (v := 2121) dX9_ship_120 (by rfl) ?_
                refine pj_dup2_11 (pc := 123) dX9_ship_123 rfl rfl ?_
                refine pl_iald (pc := 124) (n := 2132) dX9_ship_124 (mm_a hA 1 (by decide) (by decide)) (by omega) (by decide) ?_
                refine pl_bipush (pc := 125) (v := 10) dX9_ship_125 (by rfl) ?_
                refine pl_lload (pc := 127) dX9_ship_127 rfl ?_
                refine pj_l2i (pc := 129) dX9_ship_129 rfl ?_
                refine PJ.top (y := nI (j_f + j_h + j_u + j_k)) (lN_i _) ?_
                refine pl_imul (pc := 130) dX9_ship_130 ?_
                refine pj_iadd (pc := 131) dX9_ship_131 ?_
                refine pm_iast (pc := 132) 1 hA (by decide) (by decide) rfl dX9_ship_132 (show _ < 2132 by omega) (by decide) ?_
                refine pl_iconst (pc := 133) (v := 0) dX9_ship_133 (by rfl) ?_
                refine pj_istore (pc := 134) (lv' := [(9, _), (8, _), (7, _), (5, _), (0, _), (1, _), (2, _), (3, _), (4, _)]) dX9_ship_134 (by decide) rfl ?_
                refine PJ.sub [0, 1, 2, 3, 8, 7, 6, 5, 4] rfl ?_
                refine PJ.conv rfl rfl (show _ = (mm g ad μ (uq (ship1 (nI (nw + 34))) 0 (sR (s0 σ) 2121 (row (s0 σ) 2121 + nI (10 * (j_f + j_h + j_u + j_k)))))) from by rw [uq_0]; first | done | rfl) ?_
                refine ind_dn (n := n) (P := fun i => PJ g _ _ _ _ d 0 0 136 [(9, .int (nI i)), (8, .int (nI (nw + 34))), (7, .int (nI n)), (5, .long (lN (j_f + j_h + j_u + j_k))), (4, .int (nI j_k)), (3, .int (nI j_u)), (2, .int (nI j_h)), (1, .int (nI j_f)), (0, .ref (ad 0))] [] (mm g ad μ (uq (ship1 (nI (nw + 34))) i (sR (s0 σ) 2121 (row (s0 σ) 2121 + nI (10 * (j_f + j_h + j_u + j_k)))))) _) (fun i hi ih => ?_) 0 (Nat.zero_le _)
                refine pl_iload (pc := 136) dX9_ship_136 rfl ?_
                refine pl_iload (pc := 138) dX9_ship_138 rfl ?_
                refine pl_icmp_ge (pc := 140) (tgt := 190) dX9_ship_140 (by decide) (by omega) (by omega) (fun c140 => ?_) (fun c140 => ?_)
                · have e9 : i = n := by omega
                  rw [e9]
                  refine pl_iconst (pc := 190) (v := 0) dX9_ship_190 (by rfl) ?_
                  refine pj_istore (pc := 191) (lv' := [(9, _), (8, _), (7, _), (5, _), (4, _), (3, _), (2, _), (1, _), (0, _)]) dX9_ship_191 (by decide) rfl ?_
                  refine PJ.conv rfl rfl (show _ = (mm g ad μ (uq (ship2 j_f j_h j_u (nI (nw + 34))) 0 (uq (ship1 (nI (nw + 34))) n (sR (s0 σ) 2121 (row (s0 σ) 2121 + nI (10 * (j_f + j_h + j_u + j_k))))))) from by rw [uq_0]; first | done | rfl) ?_
                  refine ind_dn (n := (j_f + j_h + j_u + j_k)) (P := fun i => PJ g _ _ _ _ d 0 0 193 [(9, .int (nI i)), (8, .int (nI (nw + 34))), (7, .int (nI n)), (5, .long (lN (j_f + j_h + j_u + j_k))), (4, .int (nI j_k)), (3, .int (nI j_u)), (2, .int (nI j_h)), (1, .int (nI j_f)), (0, .ref (ad 0))] [] (mm g ad μ (uq (ship2 j_f j_h j_u (nI (nw + 34))) i (uq (ship1 (nI (nw + 34))) n (sR (s0 σ) 2121 (row (s0 σ) 2121 + nI (10 * (j_f + j_h + j_u + j_k))))))) _) (fun i hi ih => ?_) 0 (Nat.zero_le _)
                  refine pl_iload (pc := 193) dX9_ship_193 rfl ?_
                  refine pj_i2l (pc := 195) dX9_ship_195 rfl ?_
                  refine pl_lload (pc := 196) dX9_ship_196 rfl ?_
                  refine pj_lcmp (pc := 198) dX9_ship_198 ?_
                  refine PJ.top (y := lg_cmp (lN i) (lN (j_f + j_h + j_u + j_k))) (by rw [nI_l (by omega)]) ?_
                  refine pj_if_ge (pc := 199) (tgt := 253) dX9_ship_199 (by decide) (fun c199 => ?_) (fun c199 => ?_)
                  · have e8 : (j_f + j_h + j_u + j_k) ≤ i := (pk_lLE (by omega) (by omega)).mp ((lg_cmp_ge _ _).mp c199)
                    have e9 : i = (j_f + j_h + j_u + j_k) := by omega
                    rw [e9]
                    refine pl_aload_n (pc := 253) dX9_ship_253 rfl rfl ?_
                    refine pj_getf (pc := 254) ckX9 1 q2517 dX9_ship_254 (by decide) (mm_o hA) rfl ?_
                    refine pl_sipush (pc := 257) (v := 2129) dX9_ship_257 (by rfl) ?_
                    refine pj_dup2_11 (pc := 260) dX9_ship_260 rfl rfl ?_
                    refine pl_iald (pc := 261) (n := 2132) dX9_ship_261 (mm_a hA 1 (by decide) (by decide)) (by omega) (by decide) ?_
                    refine pl_iconst (pc := 262) (v := 1) dX9_ship_262 (by rfl) ?_
                    refine pj_iadd (pc := 263) dX9_ship_263 ?_
                    refine pm_iast (pc := 264) 1 hA (by decide) (by decide) rfl dX9_ship_264 (show _ < 2132 by omega) (by decide) ?_
                    refine pl_aload_n (pc := 265) dX9_ship_265 rfl rfl ?_
                    refine pj_getf (pc := 266) ckX9 1 q2517 dX9_ship_266 (by decide) (mm_o hA) rfl ?_
                    refine pl_sipush (pc := 269) (v := 2129) dX9_ship_269 (by rfl) ?_
                    refine pl_iald (pc := 272) (n := 2132) dX9_ship_272 (mm_a hA 1 (by decide) (by decide)) (by omega) (by decide) ?_
                    refine pl_iconst (pc := 273) (v := 1) dX9_ship_273 (by rfl) ?_
                    refine pj_isub (pc := 274) dX9_ship_274 ?_
                    refine pj_iret (pc := 275) dX9_ship_275 rfl ?_
                    exact ⟨vIe (by simp [p_ship, shipE, shipS, c6, c10, c14, c19, c34, g_f, g_h, g_u, g_k, d69, d87, c140]) rfl, congrArg (mm g ad μ) (by simp [p_ship, shipE, shipS, c6, c10, c14, c19, c34, g_f, g_h, g_u, g_k, d69, d87, c140])⟩
                  · have h202 : i < (j_f + j_h + j_u + j_k) := by
                      rcases Nat.lt_or_ge i (j_f + j_h + j_u + j_k) with z | z
                      · exact z
                      · exact absurd ((lg_cmp_ge _ _).mpr ((pk_lLE (by omega) (by omega)).mpr z)) c199
                    have hn2 : row (uq (ship2 j_f j_h j_u (nI (nw + 34))) i (uq (ship1 (nI (nw + 34))) n (sR (s0 σ) 2121 (row (s0 σ) 2121 + nI (10 * (j_f + j_h + j_u + j_k)))))) 2124 = nI (n + i) := ship2_n (m := 0) (by rw [ship1q_row (by omega) n hP, rowS_ne (by omega)]; exact hn) i (by omega)
                    refine pl_aload_n (pc := 202) dX9_ship_202 rfl rfl ?_
                    refine pl_iload (pc := 203) dX9_ship_203 rfl ?_
                    refine pl_iload_n (pc := 205) dX9_ship_205 rfl rfl ?_
                    refine pl_icmp_ge (pc := 206) (tgt := 213) dX9_ship_206 (by decide) (by omega) (by omega) (fun c206 => ?_) (fun c206 => ?_)
                    · refine pl_iload (pc := 213) dX9_ship_213 rfl ?_
                      refine pl_iload_n (pc := 215) dX9_ship_215 rfl rfl ?_
                      refine pl_iload_n (pc := 216) dX9_ship_216 rfl rfl ?_
                      refine pl_iadd (pc := 217) dX9_ship_217 ?_
                      refine pl_icmp_ge (pc := 218) (tgt := 225) dX9_ship_218 (by decide) (by omega) (by omega) (fun c218 => ?_) (fun c218 => ?_)
                      · refine pl_iload (pc := 225) dX9_ship_225 rfl ?_
                        refine pl_iload_n (pc := 227) dX9_ship_227 rfl rfl ?_
                        refine pl_iload_n (pc := 228) dX9_ship_228 rfl rfl ?_
                        refine pl_iadd (pc := 229) dX9_ship_229 ?_
                        refine pl_iload_n (pc := 230) dX9_ship_230 rfl rfl ?_
                        refine pl_iadd (pc := 231) dX9_ship_231 ?_
                        refine pl_icmp_ge (pc := 232) (tgt := 239) dX9_ship_232 (by decide) (by omega) (by omega) (fun c232 => ?_) (fun c232 => ?_)
                        · refine pl_iconst (pc := 239) (v := 3) dX9_ship_239 (by rfl) ?_
                          refine pl_iconst (pc := 240) (v := 5) dX9_ship_240 (by rfl) ?_
                          refine pl_iconst (pc := 241) (v := 1) dX9_ship_241 (by rfl) ?_
                          refine pl_iload (pc := 242) dX9_ship_242 rfl ?_
                          refine pl_callVv (pc := 244) (As := [_, _, _, _]) (C2 := 0) (N2 := 0) ckX9 mdX9_adds rfl q2697 q2699 qs56 q154 dX9_ship_244 rfl rfl (Nat.le_of_ble_eq_true rfl) (mm_o hA) (w_X9_adds (d := d - 1) (by omega) hA hn2 (by omega)) (by omega) (by decide) (by decide) ?_
                          refine pl_iinc1 (pc := 247) (lv' := [(9, _), (8, _), (7, _), (5, _), (4, _), (3, _), (2, _), (1, _), (0, _)]) dX9_ship_247 rfl rfl (by decide) rfl ?_
                          refine pj_goto (pc := 250) (tgt := 193) dX9_ship_250 (by decide) ?_
                          exact PJ.conv rfl rfl (by rw [uq_s (ship2 j_f j_h j_u (nI (nw + 34))) i]; unfold ship2; rw [show tradeN j_f j_h j_u i = 3 from by unfold tradeN; repeat (first | rw [if_pos (by omega)] | rw [if_neg (by omega)])]) (ih (by omega))
                        · refine pl_iconst (pc := 235) (v := 2) dX9_ship_235 (by rfl) ?_
                          refine pj_goto (pc := 236) (tgt := 240) dX9_ship_236 (by decide) ?_
                          refine pl_iconst (pc := 240) (v := 5) dX9_ship_240 (by rfl) ?_
                          refine pl_iconst (pc := 241) (v := 1) dX9_ship_241 (by rfl) ?_
                          refine pl_iload (pc := 242) dX9_ship_242 rfl ?_
                          refine pl_callVv (pc := 244) (As := [_, _, _, _]) (C2 := 0) (N2 := 0) ckX9 mdX9_adds rfl q2697 q2699 qs56 q154 dX9_ship_244 rfl rfl (Nat.le_of_ble_eq_true rfl) (mm_o hA) (w_X9_adds (d := d - 1) (by omega) hA hn2 (by omega)) (by omega) (by decide) (by decide) ?_
                          refine pl_iinc1 (pc := 247) (lv' := [(9, _), (8, _), (7, _), (5, _), (4, _), (3, _), (2, _), (1, _), (0, _)]) dX9_ship_247 rfl rfl (by decide) rfl ?_
                          refine pj_goto (pc := 250) (tgt := 193) dX9_ship_250 (by decide) ?_
                          exact PJ.conv rfl rfl (by rw [uq_s (ship2 j_f j_h j_u (nI (nw + 34))) i]; unfold ship2; rw [show tradeN j_f j_h j_u i = 2 from by unfold tradeN; repeat (first | rw [if_pos (by omega)] | rw [if_neg (by omega)])]) (ih (by omega))
                      · refine pl_iconst (pc := 221) (v := 1) dX9_ship_221 (by rfl) ?_
                        refine pj_goto (pc := 222) (tgt := 240) dX9_ship_222 (by decide) ?_
                        refine pl_iconst (pc := 240) (v := 5) dX9_ship_240 (by rfl) ?_
                        refine pl_iconst (pc := 241) (v := 1) dX9_ship_241 (by rfl) ?_
                        refine pl_iload (pc := 242) dX9_ship_242 rfl ?_
                        refine pl_callVv (pc := 244) (As := [_, _, _, _]) (C2 := 0) (N2 := 0) ckX9 mdX9_adds rfl q2697 q2699 qs56 q154 dX9_ship_244 rfl rfl (Nat.le_of_ble_eq_true rfl) (mm_o hA) (w_X9_adds (d := d - 1) (by omega) hA hn2 (by omega)) (by omega) (by decide) (by decide) ?_
                        refine pl_iinc1 (pc := 247) (lv' := [(9, _), (8, _), (7, _), (5, _), (4, _), (3, _), (2, _), (1, _), (0, _)]) dX9_ship_247 rfl rfl (by decide) rfl ?_
                        refine pj_goto (pc := 250) (tgt := 193) dX9_ship_250 (by decide) ?_
                        exact PJ.conv rfl rfl (by rw [uq_s (ship2 j_f j_h j_u (nI (nw + 34))) i]; unfold ship2; rw [show tradeN j_f j_h j_u i = 1 from by unfold tradeN; repeat (first | rw [if_pos (by omega)] | rw [if_neg (by omega)])]) (ih (by omega))
                    · refine pl_iconst (pc := 209) (v := 0) dX9_ship_209 (by rfl) ?_
                      refine pj_goto (pc := 210) (tgt := 240) dX9_ship_210 (by decide) ?_
                      refine pl_iconst (pc := 240) (v := 5) dX9_ship_240 (by rfl) ?_
                      refine pl_iconst (pc := 241) (v := 1) dX9_ship_241 (by rfl) ?_
                      refine pl_iload (pc := 242) dX9_ship_242 rfl ?_
                      refine pl_callVv (pc := 244) (As := [_, _, _, _]) (C2 := 0) (N2 := 0) ckX9 mdX9_adds rfl q2697 q2699 qs56 q154 dX9_ship_244 rfl rfl (Nat.le_of_ble_eq_true rfl) (mm_o hA) (w_X9_adds (d := d - 1) (by omega) hA hn2 (by omega)) (by omega) (by decide) (by decide) ?_
                      refine pl_iinc1 (pc := 247) (lv' := [(9, _), (8, _), (7, _), (5, _), (4, _), (3, _), (2, _), (1, _), (0, _)]) dX9_ship_247 rfl rfl (by decide) rfl ?_
                      refine pj_goto (pc := 250) (tgt := 193) dX9_ship_250 (by decide) ?_
                      exact PJ.conv rfl rfl (by rw [uq_s (ship2 j_f j_h j_u (nI (nw + 34))) i]; unfold ship2; rw [show tradeN j_f j_h j_u i = 0 from by unfold tradeN; repeat (first | rw [if_pos (by omega)] | rw [if_neg (by omega)])]) (ih (by omega))
                · refine pl_aload_n (pc := 143) dX9_ship_143 rfl rfl ?_
                  refine pl_iload (pc := 144) dX9_ship_144 rfl ?_
                  refine pl_iconst (pc := 146) (v := 2) dX9_ship_146 (by rfl) ?_
                  refine pl_callVd (pc := 147) (As := [_, _]) (C2 := 0) (N2 := 0) ckX9 mdX9_per rfl q2713 q2715 qs59 q154 dX9_ship_147 rfl rfl (Nat.le_of_ble_eq_true rfl) (mm_o hA) (w_X9_per (d := d - 1) (by omega) hA (by omega) (by decide)) (by omega) (by decide) (by decide) ?_
                  refine pj_if_ne (pc := 150) (tgt := 184) dX9_ship_150 (by decide) (fun c150 => ?_) (fun c150 => ?_)
                  · refine pl_iinc1 (pc := 184) (lv' := [(9, _), (8, _), (7, _), (5, _), (4, _), (3, _), (2, _), (1, _), (0, _)]) dX9_ship_184 rfl rfl (by decide) rfl ?_
                    refine pj_goto (pc := 187) (tgt := 136) dX9_ship_187 (by decide) ?_
                    exact PJ.conv rfl rfl (by rw [uq_s (ship1 (nI (nw + 34))) i]; first | (simp [ship1, c140, c150]; done) | (simp [ship1, c140, c150]; rfl)) (ih (by omega))
                  · refine pl_aload_n (pc := 153) dX9_ship_153 rfl rfl ?_
                    refine pl_iload (pc := 154) dX9_ship_154 rfl ?_
                    refine pl_bipush (pc := 156) (v := 6) dX9_ship_156 (by rfl) ?_
                    refine pl_callVd (pc := 158) (As := [_, _]) (C2 := 0) (N2 := 0) ckX9 mdX9_per rfl q2713 q2715 qs59 q154 dX9_ship_158 rfl rfl (Nat.le_of_ble_eq_true rfl) (mm_o hA) (w_X9_per (d := d - 1) (by omega) hA (by omega) (by decide)) (by omega) (by decide) (by decide) ?_
                    refine pj_if_ge (pc := 161) (tgt := 167) dX9_ship_161 (by decide) (fun c161 => ?_) (fun c161 => ?_)
                    · refine pl_aload_n (pc := 167) dX9_ship_167 rfl rfl ?_
                      refine pl_iload (pc := 168) dX9_ship_168 rfl ?_
                      refine pl_iconst (pc := 170) (v := 2) dX9_ship_170 (by rfl) ?_
                      refine pl_iconst (pc := 171) (v := 1) dX9_ship_171 (by rfl) ?_
                      refine pl_callVv (pc := 172) (As := [_, _, _]) (C2 := 0) (N2 := 0) ckX9 mdX9_setPer rfl q2701 q2703 qs57 q154 dX9_ship_172 rfl rfl (Nat.le_of_ble_eq_true rfl) (mm_o hA) (w_X9_setPer (d := d - 1) (by omega) hA (by omega) (by decide)) (by omega) (by decide) (by decide) ?_
                      refine pl_aload_n (pc := 175) dX9_ship_175 rfl rfl ?_
                      refine pl_iload (pc := 176) dX9_ship_176 rfl ?_
                      refine pl_iconst (pc := 178) (v := 5) dX9_ship_178 (by rfl) ?_
                      refine pl_iload (pc := 179) dX9_ship_179 rfl ?_
                      refine pl_callVv (pc := 181) (As := [_, _, _]) (C2 := 0) (N2 := 0) ckX9 mdX9_setPer rfl q2701 q2703 qs57 q154 dX9_ship_181 rfl rfl (Nat.le_of_ble_eq_true rfl) (mm_o hA) (w_X9_setPer (d := d - 1) (by omega) hA (by omega) (by decide)) (by omega) (by decide) (by decide) ?_
                      refine pl_iinc1 (pc := 184) (lv' := [(9, _), (8, _), (7, _), (5, _), (4, _), (3, _), (2, _), (1, _), (0, _)]) dX9_ship_184 rfl rfl (by decide) rfl ?_
                      refine pj_goto (pc := 187) (tgt := 136) dX9_ship_187 (by decide) ?_
                      exact PJ.conv rfl rfl (by rw [uq_s (ship1 (nI (nw + 34))) i]; first | (simp [ship1, c140, eq_true c150, c161]; done) | (simp [ship1, c140, eq_true c150, c161]; rfl)) (ih (by omega))
                    · refine pj_goto (pc := 164) (tgt := 184) dX9_ship_164 (by decide) ?_
                      refine pl_iinc1 (pc := 184) (lv' := [(9, _), (8, _), (7, _), (5, _), (4, _), (3, _), (2, _), (1, _), (0, _)]) dX9_ship_184 rfl rfl (by decide) rfl ?_
                      refine pj_goto (pc := 187) (tgt := 136) dX9_ship_187 (by decide) ?_
                      exact PJ.conv rfl rfl (by rw [uq_s (ship1 (nI (nw + 34))) i]; first | (simp [ship1, c140, eq_true c150, c161]; done) | (simp [ship1, c140, eq_true c150, c161]; rfl)) (ih (by omega))
              · have d87 := (lg_cmp_lt _ _).mp (Int32.not_le.mp c87)
                refine pj_bipush (pc := 90) (v := (-4)) dX9_ship_90 (by rfl) ?_
                refine pj_iret (pc := 92) dX9_ship_92 rfl ?_
                exact ⟨vIe (by simp [p_ship, shipE, shipS, c6, c10, c14, c19, c34, g_f, g_h, g_u, g_k, d69, d87]) rfl, congrArg (mm g ad μ) (by simp [p_ship, shipE, shipS, c6, c10, c14, c19, c34, g_f, g_h, g_u, g_k, d69, d87])⟩
            · have d69 : 100 - n < (j_f + j_h + j_u + j_k) := by
                rcases Nat.lt_or_ge (100 - n) (j_f + j_h + j_u + j_k) with z | z
                · exact z
                · exact absurd ((lg_cmp_le _ _).mpr ((pk_lLE (by omega) (by omega)).mpr z)) c69
              refine pj_bipush (pc := 72) (v := (-3)) dX9_ship_72 (by rfl) ?_
              refine pj_iret (pc := 74) dX9_ship_74 rfl ?_
              exact ⟨vIe (by simp [p_ship, shipE, shipS, c6, c10, c14, c19, c34, g_f, g_h, g_u, g_k, d69]) rfl, congrArg (mm g ad μ) (by simp [p_ship, shipE, shipS, c6, c10, c14, c19, c34, g_f, g_h, g_u, g_k, d69])⟩
          · refine pj_bipush (pc := 37) (v := (-2)) dX9_ship_37 (by rfl) ?_
            refine pj_iret (pc := 39) dX9_ship_39 rfl ?_
            exact ⟨vIe (by simp [p_ship, shipE, shipS, c6, c10, c14, c19, eq_true c34]) rfl, congrArg (mm g ad μ) (by simp [p_ship, shipE, shipS, c6, c10, c14, c19, eq_true c34])⟩
        · refine pj_iconst (pc := 22) (v := (-1)) dX9_ship_22 (by rfl) ?_
          refine pj_iret (pc := 23) dX9_ship_23 rfl ?_
          exact ⟨vIe (by simp [p_ship, shipE, shipS, c6, c10, c14, c19]) rfl, congrArg (mm g ad μ) (by simp [p_ship, shipE, shipS, c6, c10, c14, c19])⟩
