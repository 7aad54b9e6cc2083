set_option maxRecDepth 100000
/-- the tape's bytes as the model sees them -/
def BTx (σ : MS) (n k : Nat) : Nat := if k < n then tN (σ.2.1 7 k &&& nI 255) else 0
theorem sB_and : ∀ b, b < 256 → tN (sB b &&& nI 255) = b ∧ sB b &&& nI 255 = nI b := by decide +kernel
def TpX (σ : MS) : Prop := ∀ k, k < 300 → ∃ c, c < 256 ∧ σ.2.1 7 k = sB c
theorem BTx_c {σ : MS} (h : TpX σ) {n k : Nat} (hk : k < n) (hn : n ≤ 300) : BTx σ n k < 256 ∧ σ.2.1 7 k = sB (BTx σ n k) ∧ σ.2.1 7 k &&& nI 255 = nI (BTx σ n k) := by
  obtain ⟨c, hc, e⟩ := h k (by omega)
  have e2 : BTx σ n k = c := by
    unfold BTx
    rw [if_pos hk, e]
    exact (sB_and c hc).1
  rw [e2, e]
  exact ⟨hc, rfl, (sB_and c hc).2⟩
theorem BTx_z {σ : MS} {n k : Nat} (hk : n ≤ k) : BTx σ n k = 0 := if_neg (by omega)
theorem BTx_b {σ : MS} (h : TpX σ) {n : Nat} (hn : n ≤ 300) : ∀ k, BTx σ n k < 256 := fun k => by
  by_cases c : k < n
  · exact (BTx_c h c hn).1
  · rw [BTx_z (by omega)]; decide
theorem BTx_T {σ : MS} (h : TpX σ) {n : Nat} (hn : n ≤ 300) : Txt (sF σ 10 (nI n)) n (BTx σ n) := ⟨sF_eq, hn, fun k hk => (BTx_c h hk hn).2.2, BTx_b h hn, fun k hk => BTx_z hk⟩
theorem BTx_R {σ : MS} (h : TpX σ) {n : Nat} (hn : n ≤ 300) {r : Nat → Int32} (hr : ∀ k, k < 300 → r k = σ.2.1 7 k) : TxR r n (BTx σ n) := ⟨hn, fun k hk => (hr k (by omega)).trans (BTx_c h hk hn).2.1, BTx_b h hn, fun k hk => BTx_z hk⟩
/-- laws that are not made yet -/
def LzK (σ : MS) (nl : Nat) : Prop := ∀ l, nl ≤ l → l < 12 → (∀ j, j < 6 → lawv σ l j = nI 0) ∧ ∀ j, j < 100 → σ.2.1 12 (100 * l + j) = nI 0
section LG
variable {g : GP} {P : Nat → Prop} {F : Mem} {A : XA} {S : Nat → Nat → Nat} {b b1 : XS} {σ σ1 : MS} {e : XE} {M : Mem} {n nor nw : Nat}
theorem lawB_2 : (lawB σ n (S 8 0)).2 = σ.2 := rfl
/-- a text that is faulty -/
theorem law_flt {w : Nat} (h : SX g P F A 0 S b (sF (sF (sF σ 13 (-1)) 13 (nI w)) 9 (nI 0)) e M) (t : TieX 0 S σ e nw) (iv : IvG σ (S 4 0) (S 8 0) (S 10 0) (S 6 0) nor nw) (lk : LwK σ (S 8 0)) (hS : SamL (S 8 0) (lawB σ n (S 8 0)) σ1) (h13 : σ1.1 13 = nI w) : σ1.1 0 = nI 0 ∧ row σ1 2125 = nI (S 8 0) ∧ IvG σ1 (S 4 0) (S 8 0) (S 10 0) (S 6 0) nor nw ∧ LwK σ1 (S 8 0) ∧ SB g P F A 0 S b σ1 nw M := by
  have hz := h.hz
  have hL := iv.hL
  have ls : ∀ l, l < S 8 0 → LwS σ σ1 l := fun l hl => hS.S (by omega)
  have r1 : ∀ j, row σ1 j = row σ j := fun j => congrFun (hS.2.1 1 (by decide) (by decide) (by decide) (by decide)) j
  have a1 : ∀ a, a ≠ 8 → a ≠ 9 → a ≠ 10 → a ≠ 11 → σ1.2.1 a = σ.2.1 a := fun a h1 h2 h3 h4 => hS.2.1 a h1 h2 h3 h4
  have f1 : ∀ x, ¬ (9 ≤ x ∧ x ≤ 16) → x ≠ 0 → σ1.1 x = σ.1 x := fun x hx h0 => (hS.1 x (by omega)).trans (by
    show (sF (sF (sF (s0 σ) 10 (nI n)) 9 (nI 0)) 16 (nI (S 8 0))).1 x = σ.1 x
    rw [sF_ne (by omega), sF_ne (by omega), sF_ne (by omega)]
    exact sF_ne h0)
  refine ⟨hS.1 0 (by decide), (r1 _).trans iv.hl, iv.lw (Nat.le_refl _) hL (fun j _ => r1 j) ((r1 _).trans iv.hl) (a1 6 (by decide) (by decide) (by decide) (by decide)) (a1 14 (by decide) (by decide) (by decide) (by decide)) ((lk.cg ls).wc hL), lk.cg ls, e, ?_, t.cg hz (fun j _ => r1 j) (a1 3 (by decide) (by decide) (by decide) (by decide)) (a1 4 (by decide) (by decide) (by decide) (by decide)) (fun j _ => by rw [a1 14 (by decide) (by decide) (by decide) (by decide)]) (f1 23 (by decide) (by decide)) (f1 24 (by decide) (by decide))⟩
  have lk0 : LwK (sF (sF (sF σ 13 (-1)) 13 (nI w)) 9 (nI 0)) (S 8 0) := lk.cg (fun l _ => LwS.same rfl rfl rfl rfl)
  refine h.cgD (fun j _ => r1 j) (fun a h1 h2 h3 h4 h5 h6 h7 h8 => a1 a h5 h6 h7 h8) (fun x hx => ?_) hS.2.2.2.2.2 (fun dn hd => DnX.law hL hd (lk0.T (fun l hl => ls l hl)))
  rcases hx with z | z | z | z | z | z | z | z <;> subst z
  · exact hS.1 9 (by decide)
  · exact h13
  · exact f1 29 (by decide) (by decide)
  · exact f1 28 (by decide) (by decide)
  · exact f1 31 (by decide) (by decide)
  · exact f1 23 (by decide) (by decide)
  · exact f1 24 (by decide) (by decide)
  · exact f1 7 (by decide) (by decide)
/-- a law that is made -/
theorem law_good {σs σq : MS} {Al : LA} {fb : Bool} (h : SX g P F A 0 (SnX S 8 0 (S 8 0 + 1)) b1 (sF (sR σs 2125 (nI (S 8 0 + 1))) 9 (nI 0)) (lawE e (S 8 0)) M) (hz : SzX 0 S) (h8 : S 8 0 < 12) (t : TieX 0 S σ e nw) (iv : IvG σ (S 4 0) (S 8 0) (S 10 0) (S 6 0) nor nw) (lk : LwK σ (S 8 0)) (lz : LzK σ (S 8 0))
    (s1 : SamL (S 8 0) (sF σ 13 (-1)) σs) (s2 : σs.1 = (sF σ 13 (-1)).1) (s3 : LawM (S 8 0) Al fb σs) (q1 : SamL (S 8 0) (lawB σ n (S 8 0)) σq) (q2 : σq.1 13 = -1) (q3 : LawM (S 8 0) Al fb σq) (hA : ∀ k, k < 8 → Al k = none ∨ ∃ φ L, Al k = some (L ++ [(16, nI 0)]) ∧ DenE L φ) :
    (sR σq 2125 (nI (S 8 0 + 1))).1 0 = nI 0 ∧ row (sR σq 2125 (nI (S 8 0 + 1))) 2125 = nI (SnX S 8 0 (S 8 0 + 1) 8 0) ∧ IvG (sR σq 2125 (nI (S 8 0 + 1))) (S 4 0) (SnX S 8 0 (S 8 0 + 1) 8 0) (S 10 0) (S 6 0) nor nw ∧ LwK (sR σq 2125 (nI (S 8 0 + 1))) (SnX S 8 0 (S 8 0 + 1) 8 0) ∧ SB g P F A 0 (SnX S 8 0 (S 8 0 + 1)) b1 (sR σq 2125 (nI (S 8 0 + 1))) nw M := by
  obtain ⟨τ, hτ⟩ : ∃ τ, τ = sR σq 2125 (nI (S 8 0 + 1)) := ⟨_, rfl⟩
  obtain ⟨τs, hτs⟩ : ∃ τs, τs = sF (sR σs 2125 (nI (S 8 0 + 1))) 9 (nI 0) := ⟨_, rfl⟩
  have e8 : SnX S 8 0 (S 8 0 + 1) 8 0 = S 8 0 + 1 := SnX_eq
  have hL := iv.hL
  have aq : ∀ a, a ≠ 1 → τ.2.1 a = σq.2.1 a := fun a h1 => by rw [hτ]; exact wA_k h1
  have as_ : ∀ a, a ≠ 1 → τs.2.1 a = σs.2.1 a := fun a h1 => by rw [hτs]; exact wA_k h1
  have rq : ∀ j, j ≠ 2125 → row τ j = row σ j := fun j hj => by
    rw [hτ]
    exact (rowS_ne hj).trans (congrFun (q1.2.1 1 (by decide) (by decide) (by decide) (by decide)) j)
  have rs : ∀ j, j ≠ 2125 → row τs j = row σ j := fun j hj => by
    rw [hτs]
    exact (rowS_ne hj).trans (congrFun (s1.2.1 1 (by decide) (by decide) (by decide) (by decide)) j)
  have r25 : row τ 2125 = nI (S 8 0 + 1) := by rw [hτ]; exact rowS_eq
  have a1 : ∀ a, a ≠ 1 → a ≠ 8 → a ≠ 9 → a ≠ 10 → a ≠ 11 → τ.2.1 a = σ.2.1 a := fun a h0 h1 h2 h3 h4 => (aq a h0).trans (q1.2.1 a h1 h2 h3 h4)
  have b1_ : ∀ a, a ≠ 1 → a ≠ 8 → a ≠ 9 → a ≠ 10 → a ≠ 11 → τs.2.1 a = σ.2.1 a := fun a h0 h1 h2 h3 h4 => (as_ a h0).trans (s1.2.1 a h1 h2 h3 h4)
  have f0 : ∀ x, τ.1 x = σq.1 x := fun x => by rw [hτ]; rfl
  have f1 : ∀ x, ¬ (9 ≤ x ∧ x ≤ 16) → x ≠ 0 → τ.1 x = σ.1 x := fun x hx h0 => (f0 x).trans ((q1.1 x (by omega)).trans (by
    show (sF (sF (sF (s0 σ) 10 (nI n)) 9 (nI 0)) 16 (nI (S 8 0))).1 x = σ.1 x
    rw [sF_ne (by omega), sF_ne (by omega), sF_ne (by omega)]
    exact sF_ne h0))
  have g1 : ∀ x, x ≠ 9 → x ≠ 13 → τs.1 x = σ.1 x := fun x h1 h2 => by
    rw [hτs, sF_ne h1]
    show σs.1 x = σ.1 x
    rw [s2]
    exact sF_ne h2
  have lq : ∀ l, l < S 8 0 → LwS σ τ l := fun l hl => by
    obtain ⟨x1, x2, x3⟩ := q1.S (show l ≠ S 8 0 by omega)
    exact ⟨fun j h1 h2 => by rw [aq 8 (by decide), aq 9 (by decide)]; exact x1 j h1 h2, fun k hk => by rw [aq 10 (by decide)]; exact x2 k hk, by rw [aq 11 (by decide)]; exact x3⟩
  have lS : ∀ l, l < S 8 0 → LwS σ τs l := fun l hl => by
    obtain ⟨x1, x2, x3⟩ := s1.S (show l ≠ S 8 0 by omega)
    exact ⟨fun j h1 h2 => by rw [as_ 8 (by decide), as_ 9 (by decide)]; exact x1 j h1 h2, fun k hk => by rw [as_ 10 (by decide)]; exact x2 k hk, by rw [as_ 11 (by decide)]; exact x3⟩
  have mq : LawM (S 8 0) Al fb τ := q3.cg (LwS.same (aq 8 (by decide)) (aq 9 (by decide)) (aq 10 (by decide)) (aq 11 (by decide)))
  have ms : LawM (S 8 0) Al fb τs := s3.cg (LwS.same (as_ 8 (by decide)) (as_ 9 (by decide)) (as_ 10 (by decide)) (as_ 11 (by decide)))
  have kq : LwK τ (S 8 0 + 1) := (lk.cg lq).new mq hA
  have T : LwT τs τ (S 8 0 + 1) := fun l hl => by
    by_cases c : l = S 8 0
    · subst c
      refine ⟨Al, fb, ms, mq, fun k hk LE e1 => ?_⟩
      rcases hA k hk with z | ⟨φ, L, z1, z2⟩
      · rw [z] at e1; cases e1
      · rw [z1] at e1; cases e1; exact ⟨L, φ, rfl, z2⟩
    · obtain ⟨Al9, fb9, h1, h2⟩ := lk l (by omega)
      exact ⟨Al9, fb9, h1.cg (lS l (by omega)), h1.cg (lq l (by omega)), h2⟩
  rw [← hτ]
  rw [← hτs] at h
  rw [e8]
  have hz1 := h.hz
  refine ⟨(f0 0).trans (q1.1 0 (by decide)), r25, iv.lw (Nat.le_succ _) (by omega) rq r25 (a1 6 (by decide) (by decide) (by decide) (by decide) (by decide)) (a1 14 (by decide) (by decide) (by decide) (by decide) (by decide)) (kq.wc (by omega)), kq, lawE e (S 8 0), ?_, ?_⟩
  · refine h.cgD (fun j hj => ?_) (fun a h1 h2 h3 h4 h5 h6 h7 h8 => (a1 a h1 h5 h6 h7 h8).trans (b1_ a h1 h5 h6 h7 h8).symm) (fun x hx => ?_) ?_ (fun dn hd => DnX.law (by rw [e8]; omega) hd (by rw [e8]; exact T))
    · have hj9 : j ≠ 2125 := fun z => by subst z; unfold mapR at hj; omega
      rw [rq j hj9, rs j hj9]
    · rcases hx with z | z | z | z | z | z | z | z <;> subst z
      · rw [f0, q1.1 9 (by decide), hτs]
        rfl
      · rw [f0, q2, hτs, sF_ne (by decide)]
        show _ = σs.1 13
        rw [s2]
        rfl
      · rw [f1 29 (by decide) (by decide), g1 29 (by decide) (by decide)]
      · rw [f1 28 (by decide) (by decide), g1 28 (by decide) (by decide)]
      · rw [f1 31 (by decide) (by decide), g1 31 (by decide) (by decide)]
      · rw [f1 23 (by decide) (by decide), g1 23 (by decide) (by decide)]
      · rw [f1 24 (by decide) (by decide), g1 24 (by decide) (by decide)]
      · rw [f1 7 (by decide) (by decide), g1 7 (by decide) (by decide)]
    · rw [hτ, hτs]
      show σq.2.2 = σs.2.2
      rw [q1.2.2.2.2.2, s1.2.2.2.2.2]
      rfl
  · have t1 : TieX 0 S τ e nw := t.cg hz (fun j hj => rq j (fun z => hj (by subst z; unfold fr0; omega))) (a1 3 (by decide) (by decide) (by decide) (by decide) (by decide)) (a1 4 (by decide) (by decide) (by decide) (by decide) (by decide)) (fun j _ => by rw [a1 14 (by decide) (by decide) (by decide) (by decide) (by decide)]) (f1 23 (by decide) (by decide)) (f1 24 (by decide) (by decide))
    exact tie_law_add t1 hz rfl h8 (fun j hj => (rq _ (by omega)).trans ((lz (S 8 0) (Nat.le_refl _) h8).1 j hj)) (fun w hw => by rw [a1 14 (by decide) (by decide) (by decide) (by decide) (by decide)]; exact iv.hF w hw)
end LG
set_option maxHeartbeats 600000 in
theorem k_X18_init {g : GP} {μ : Mem} {d : Nat} (hd : 1 ≤ d) {q : Nat} {a9 : Nat} {b9 x9 y9 z9 : Int32} (hm : μ q = some (.inr (20, [.null, .int x9, .int y9, .int z9]))) : PM g yX18_init (ws_ yX18_init cX18_init 3 none) d 0 0 [.ref q, .ref a9, .int b9] μ (rQ none (mset μ q (.inr (20, [.ref a9, .int b9, .int y9, .int z9])))) := by
  refine PM.of (by decide +kernel) (Nat.le_of_ble_eq_true rfl) ?_
  refine PJ.ok (fun G => ?_)
  show PJ g _ _ _ _ d 0 0 0 [(0, .ref q), (1, .ref a9), (2, .int b9)] [] _ _
  refine pl_aload_n (pc := 0) dX18_init_0 rfl rfl ?_
  refine pj_objInit (pc := 1) q1860 q187 q188 dX18_init_1 (by omega) (by decide) ?_
  refine pl_aload_n (pc := 4) dX18_init_4 rfl rfl ?_
  refine pl_aload_n (pc := 5) dX18_init_5 rfl rfl ?_
  refine pj_putfF (pc := 6) ckX18 0 q1861 dX18_init_6 (by decide) rfl rfl rfl hm rfl rfl (Nat.le_of_ble_eq_true rfl) ?_
  refine pl_aload_n (pc := 9) dX18_init_9 rfl rfl ?_
  refine pl_iload_n (pc := 10) dX18_init_10 rfl rfl ?_
  refine pj_putfF (pc := 11) ckX18 1 q1862 dX18_init_11 (by decide) rfl rfl rfl mset_s rfl rfl (Nat.le_of_ble_eq_true rfl) ?_
  refine PJ.mem mset_m ?_
  refine pj_vret (pc := 14) dX18_init_14 rfl ?_
  exact ⟨rfl, rfl⟩
