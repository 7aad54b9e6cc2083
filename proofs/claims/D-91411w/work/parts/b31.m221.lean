set_option maxRecDepth 100000
/-- what the law's loop keeps of the model beside IvG: S the class's sizes, nw the week -/
def JR (σ : MS) (S : Nat → Nat → Nat) (nw : Nat) : Prop :=
  RsX σ ∧ AkX S σ (S 12 0) ∧ S 16 0 = S 12 0 ∧ (∃ dr, row σ 2131 = nI dr ∧ S 14 0 + dr ≤ 12) ∧ row σ 2130 = nI (S 14 0)
  ∧ (∀ p, p < S 4 0 → per σ p 6 < 0 → per σ p 6 = -1) ∧ (∀ k, k < 100 → row σ (1780 + 3 * k + 2) = nI 0 ∨ (k < S 12 0 ∧ row σ (1780 + 3 * k + 2) = nI 1))
  ∧ (∀ k, S 10 0 ≤ k → k < 20 → row σ (1640 + 4 * k + 1) = nI 0 ∧ row σ (1640 + 4 * k + 2) = nI 0) ∧ (∀ a, S 6 0 ≤ a → a < 4 → row σ (1720 + 15 * a + 1) = nI 0 ∧ row σ (1720 + 15 * a + 2) = nI 0)
  ∧ (∀ l, l < S 8 0 → SdX σ l) ∧ (∃ im, σ.1 31 = nI im ∧ im ≤ 196) ∧ (∃ tp, σ.1 9 = nI tp ∧ tp ≤ 300)
  ∧ OdX σ (S 4 0) (S 12 0) ∧ HuX (100 * nw) σ ∧ LwK σ (S 8 0) ∧ LzK σ (S 8 0) ∧ TpX σ ∧ (S 8 0 = 12 → σ.1 13 = -1)
  ∧ (∃ wm, wm ≤ 3 ∧ σ.1 29 = nI wm) ∧ (σ.1 28 = 0 ∨ ∀ i, i < 3 → ∃ k, 1 ≤ k ∧ k ≤ 1000 ∧ σ.2.1 15 i = nI k) ∧ ∀ r, r < 3 → ¬ σ.2.1 16 r < 0
section JRp
variable {σ τ : MS} {S S1 : Nat → Nat → Nat} {nw : Nat}
theorem JR.rs (h : JR σ S nw) : RsX σ := h.1
theorem JR.ak (h : JR σ S nw) : AkX S σ (S 12 0) := h.2.1
theorem JR.h16 (h : JR σ S nw) : S 16 0 = S 12 0 := h.2.2.1
theorem JR.dr (h : JR σ S nw) : ∃ dr, row σ 2131 = nI dr ∧ S 14 0 + dr ≤ 12 := h.2.2.2.1
theorem JR.as (h : JR σ S nw) : row σ 2130 = nI (S 14 0) := h.2.2.2.2.1
theorem JR.od6 (h : JR σ S nw) : ∀ p, p < S 4 0 → per σ p 6 < 0 → per σ p 6 = -1 := h.2.2.2.2.2.1
theorem JR.ch (h : JR σ S nw) : ∀ k, k < 100 → row σ (1780 + 3 * k + 2) = nI 0 ∨ (k < S 12 0 ∧ row σ (1780 + 3 * k + 2) = nI 1) := h.2.2.2.2.2.2.1
theorem JR.zb (h : JR σ S nw) : ∀ k, S 10 0 ≤ k → k < 20 → row σ (1640 + 4 * k + 1) = nI 0 ∧ row σ (1640 + 4 * k + 2) = nI 0 := h.2.2.2.2.2.2.2.1
theorem JR.zp (h : JR σ S nw) : ∀ a, S 6 0 ≤ a → a < 4 → row σ (1720 + 15 * a + 1) = nI 0 ∧ row σ (1720 + 15 * a + 2) = nI 0 := h.2.2.2.2.2.2.2.2.1
theorem JR.sd (h : JR σ S nw) : ∀ l, l < S 8 0 → SdX σ l := h.2.2.2.2.2.2.2.2.2.1
theorem JR.im (h : JR σ S nw) : ∃ im, σ.1 31 = nI im ∧ im ≤ 196 := h.2.2.2.2.2.2.2.2.2.2.1
theorem JR.tp (h : JR σ S nw) : ∃ tp, σ.1 9 = nI tp ∧ tp ≤ 300 := h.2.2.2.2.2.2.2.2.2.2.2.1
theorem JR.od (h : JR σ S nw) : OdX σ (S 4 0) (S 12 0) := h.2.2.2.2.2.2.2.2.2.2.2.2.1
theorem JR.hu (h : JR σ S nw) : HuX (100 * nw) σ := h.2.2.2.2.2.2.2.2.2.2.2.2.2.1
theorem JR.lk (h : JR σ S nw) : LwK σ (S 8 0) := h.2.2.2.2.2.2.2.2.2.2.2.2.2.2.1
theorem JR.lz (h : JR σ S nw) : LzK σ (S 8 0) := h.2.2.2.2.2.2.2.2.2.2.2.2.2.2.2.1
theorem JR.tb (h : JR σ S nw) : TpX σ := h.2.2.2.2.2.2.2.2.2.2.2.2.2.2.2.2.1
theorem JR.fp (h : JR σ S nw) : S 8 0 = 12 → σ.1 13 = -1 := h.2.2.2.2.2.2.2.2.2.2.2.2.2.2.2.2.2.1
theorem JR.wm (h : JR σ S nw) : ∃ wm, wm ≤ 3 ∧ σ.1 29 = nI wm := h.2.2.2.2.2.2.2.2.2.2.2.2.2.2.2.2.2.2.1
theorem JR.pr (h : JR σ S nw) : σ.1 28 = 0 ∨ ∀ i, i < 3 → ∃ k, 1 ≤ k ∧ k ≤ 1000 ∧ σ.2.1 15 i = nI k := h.2.2.2.2.2.2.2.2.2.2.2.2.2.2.2.2.2.2.2.1
theorem JR.wr (h : JR σ S nw) : ∀ r, r < 3 → ¬ σ.2.1 16 r < 0 := h.2.2.2.2.2.2.2.2.2.2.2.2.2.2.2.2.2.2.2.2
/-- rows that JR reads -/
def jrR (S : Nat → Nat → Nat) (j : Nat) : Prop := (768 ≤ j ∧ j < 1568 ∧ j % 8 = 6) ∨ (1568 ≤ j ∧ j < 1640 ∧ (1568 + 6 * S 8 0 ≤ j ∨ 4 ≤ (j + 4) % 6)) ∨ (1640 + 4 * S 10 0 ≤ j ∧ 1640 ≤ j ∧ j < 1720 ∧ (j % 4 = 1 ∨ j % 4 = 2)) ∨ (1720 + 15 * S 6 0 ≤ j ∧ 1720 ≤ j ∧ j < 1780 ∧ ((j + 5) % 15 = 1 ∨ (j + 5) % 15 = 2)) ∨ (1780 ≤ j ∧ j < 2080 ∧ j % 3 ≠ 2) ∨ (2092 ≤ j ∧ j < 2104) ∨ j = 2122 ∨ j = 2130 ∨ j = 2131
def jrA (a : Nat) : Prop := 7 ≤ a ∧ a ≤ 16 ∧ a ≠ 12 ∧ a ≠ 13 ∧ a ≠ 14
def jrI (x : Nat) : Prop := x = 7 ∨ x = 23 ∨ x = 24 ∨ x = 31 ∨ x = 9 ∨ x = 13 ∨ x = 29 ∨ x = 28
def JB (S : Nat → Nat → Nat) : Prop := S 4 0 ≤ 100 ∧ S 6 0 ≤ 4 ∧ S 8 0 ≤ 12 ∧ S 10 0 ≤ 20 ∧ S 12 0 ≤ 100
/-- nothing of what JR reads has changed -/
theorem JR.cg (h : JR σ S nw) (hs : JB S) (hr : ∀ j, jrR S j → row τ j = row σ j) (ha : ∀ a, jrA a → τ.2.1 a = σ.2.1 a) (h12a : ∀ i, 100 * S 8 0 ≤ i → i < 1200 → τ.2.1 12 i = σ.2.1 12 i) (hi : ∀ x, jrI x → τ.1 x = σ.1 x) : JR τ S nw := by
  obtain ⟨h4, h6, h8, h10, h12⟩ := hs
  have p6 : ∀ p, p < S 4 0 → per τ p 6 = per σ p 6 := fun p hp => hr _ (Or.inl ⟨by omega, by omega, by omega⟩)
  have a7 := ha 7 ⟨by decide, by decide, by decide, by decide, by decide⟩
  have a8 := ha 8 ⟨by decide, by decide, by decide, by decide, by decide⟩
  have a9 := ha 9 ⟨by decide, by decide, by decide, by decide, by decide⟩
  have a10 := ha 10 ⟨by decide, by decide, by decide, by decide, by decide⟩
  have a11 := ha 11 ⟨by decide, by decide, by decide, by decide, by decide⟩
  have a15 := ha 15 ⟨by decide, by decide, by decide, by decide, by decide⟩
  have a16 := ha 16 ⟨by decide, by decide, by decide, by decide, by decide⟩
  have i7 := hi 7 (Or.inl rfl)
  have i23 := hi 23 (Or.inr (Or.inl rfl))
  have i24 := hi 24 (Or.inr (Or.inr (Or.inl rfl)))
  have i31 := hi 31 (Or.inr (Or.inr (Or.inr (Or.inl rfl))))
  have i9 := hi 9 (Or.inr (Or.inr (Or.inr (Or.inr (Or.inl rfl)))))
  have i13 := hi 13 (Or.inr (Or.inr (Or.inr (Or.inr (Or.inr (Or.inl rfl))))))
  have i29 := hi 29 (Or.inr (Or.inr (Or.inr (Or.inr (Or.inr (Or.inr (Or.inl rfl)))))))
  have i28 := hi 28 (Or.inr (Or.inr (Or.inr (Or.inr (Or.inr (Or.inr (Or.inr rfl)))))))
  have lw : ∀ l j, l < 12 → j < 6 → (S 8 0 ≤ l ∨ 4 ≤ j) → lawv τ l j = lawv σ l j := fun l j hl hj hz => hr _ (Or.inr (Or.inl ⟨by omega, by omega, by omega⟩))
  obtain ⟨dr, hdr, hdr2⟩ := h.dr
  obtain ⟨wm, hwm, hwm2⟩ := h.wm
  obtain ⟨im, him, him2⟩ := h.im
  obtain ⟨tp, htp, htp2⟩ := h.tp
  refine ⟨⟨i7.trans h.rs.1, i23.trans h.rs.2.1, i24.trans h.rs.2.2⟩, h.ak.cg (fun j h1 h2 => hr j (by unfold jrR; omega)), h.h16, ⟨dr, (hr 2131 (by unfold jrR; omega)).trans hdr, hdr2⟩, (hr 2130 (by unfold jrR; omega)).trans h.as, fun p hp hn => ?_, fun k hk => ?_, fun k hk hk2 => ?_, fun a ha9 ha2 => ?_, fun l hl => ?_, ⟨im, i31.trans him, him2⟩, ⟨tp, i9.trans htp, htp2⟩, h.od.cg p6 (fun o ho => hr _ (by unfold jrR; omega)), h.hu.rw2 (hr 2122 (by unfold jrR; omega)), h.lk.cg (fun l _ => LwS.same a8 a9 a10 a11), fun l hl hl2 => ⟨fun j hj => ?_, fun j hj => ?_⟩, fun k hk => ?_, fun e => i13.trans (h.fp e), ⟨wm, hwm, i29.trans hwm2⟩, ?_, fun r hr9 => ?_⟩
  · rw [p6 p hp] at hn ⊢
    exact h.od6 p hp hn
  · rw [hr _ (by unfold jrR; omega)]
    exact h.ch k hk
  · rw [hr _ (by unfold jrR; omega), hr _ (by unfold jrR; omega)]
    exact h.zb k hk hk2
  · rw [hr _ (by unfold jrR; omega), hr _ (by unfold jrR; omega)]
    exact h.zp a ha9 ha2
  · have z := h.sd l hl
    unfold SdX at z ⊢
    rw [lw l 4 (by omega) (by decide) (Or.inr (by decide)), lw l 5 (by omega) (by decide) (Or.inr (by decide))]
    exact z
  · rw [lw l j hl2 hj (Or.inl hl)]
    exact (h.lz l hl hl2).1 j hj
  · rw [h12a _ (by omega) (by omega)]
    exact (h.lz l hl hl2).2 j hj
  · rw [a7]
    exact h.tb k hk
  · rw [i28, a15]
    exact h.pr
  · rw [a16]
    exact h.wr r hr9
theorem ini_jr {q : Nat} : JR σ0C (S0C q) 0 := by
  refine ⟨ini_rs, ini_ak, rfl, ⟨0, ini_n (by decide) (by decide) (by decide), Nat.le_of_ble_eq_true rfl⟩, ini_n (by decide) (by decide) (by decide), fun p hp => absurd hp (Nat.not_lt_zero _), fun k hk => Or.inl (ini_z (by omega) (by omega) (by omega) (by omega)), fun k _ hk => ⟨ini_z (by omega) (by omega) (by omega) (by omega), ini_z (by omega) (by omega) (by omega) (by omega)⟩, fun a _ ha => ⟨ini_z (by omega) (by omega) (by omega) (by omega), ini_z (by omega) (by omega) (by omega) (by omega)⟩, fun l hl => absurd hl (Nat.not_lt_zero _), ⟨0, rfl, by decide⟩, ⟨0, rfl, by decide⟩, ini_od, ini_hu, ini_lwk, ini_lzk, ini_tp, fun z => absurd (show (0 : Nat) = 12 from z) (by decide), ⟨0, by decide, rfl⟩, Or.inl rfl, fun r hr => ?_⟩
  rw [show σ0C.2.1 16 r = 0 from ini_a (by decide) (by decide) (by decide)]
  decide
theorem JR.F (h : JR σ S nw) (hs : JB S) {x : Nat} {v : Int32} (hx : ¬ jrI x) : JR (sF σ x v) S nw := h.cg hs (fun _ _ => rfl) (fun _ _ => rfl) (fun _ _ _ => rfl) (fun y hy => (show (if y = x then v else σ.1 y) = σ.1 y from if_neg (fun z : y = x => hx (z ▸ hy))))
theorem JR.s0 (h : JR σ S nw) (hs : JB S) : JR (s0 σ) S nw := h.F hs (by unfold jrI; omega)
theorem JR.th (h : JR σ S nw) (hs : JB S) {k : Nat} : JR (th σ k) S nw := (h.s0 hs).F hs (by unfold jrI; omega)
theorem JR.R (h : JR σ S nw) (hs : JB S) {j : Nat} {v : Int32} (hj : ¬ jrR S j) : JR (sR σ j v) S nw := h.cg hs (fun i hi => rowS_ne (fun z => hj (z ▸ hi))) (fun a ha => wA_k (fun z => by subst z; exact absurd ha.1 (by decide))) (fun i _ _ => congrFun (wA_k (by decide)) i) (fun _ _ => rfl)
theorem JR.A (h : JR σ S nw) (hs : JB S) {a : Nat} {f : Nat → Int32} (ha : ¬ jrA a) (h1 : a ≠ 1) (h12 : a ≠ 12) : JR (sA σ a f) S nw := h.cg hs (fun i _ => congrFun (if_neg (Ne.symm h1)) i) (fun b hb => (show (if b = a then f else σ.2.1 b) = σ.2.1 b from if_neg (fun z : b = a => ha (z ▸ hb)))) (fun i _ _ => congrFun (if_neg (Ne.symm h12)) i) (fun _ _ => rfl)
theorem JR.W (h : JR σ S nw) (hs : JB S) {a x : Nat} {v : Int32} (ha : ¬ jrA a) (h1 : a ≠ 1) (h12 : a ≠ 12) : JR (wA σ a x v) S nw := h.cg hs (fun i _ => congrFun (wA_k (Ne.symm h1)) i) (fun b hb => wA_k (fun z => ha (z ▸ hb))) (fun i _ _ => congrFun (wA_k (Ne.symm h12)) i) (fun _ _ => rfl)
end JRp
