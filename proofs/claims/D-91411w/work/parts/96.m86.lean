set_option maxRecDepth 100000
/-! ===== what ties the class's own numbers to the model's ===== -/
def WasB (f u k : Int32) : Bool := !decide (f = -1) && !decide (k < f) && (decide (u = -1) || !decide (u ≤ k))
/-- a law's weeks, as the rows of the weeks have them -/
def HiX (σ : MS) (e : XE) (nw l : Nat) : Prop :=
  (lawv σ l 0 = nI 0 ∨ lawv σ l 0 = nI 1 ∨ lawv σ l 0 = nI 2 ∨ lawv σ l 0 = nI 3 ∨ lawv σ l 0 = nI 4)
  ∧ (lawv σ l 0 = nI 0 ∨ lawv σ l 0 = nI 1 → e 4 l = -1) ∧ (lawv σ l 0 = nI 2 ∨ lawv σ l 0 = nI 3 ∨ lawv σ l 0 = nI 4 → e 4 l = lawv σ l 3 ∧ ∃ f, f ≤ nw ∧ lawv σ l 3 = nI f)
  ∧ (¬ lawv σ l 0 = nI 4 → e 5 l = -1) ∧ (lawv σ l 0 = nI 4 → ∃ u, u ≤ nw ∧ e 5 l = nI u)
  ∧ ∀ k, k < nw → (((σ.2.1 14 (7 * k + 6) >>> (nI l &&& 31)) &&& nI 1 = nI 1) ↔ WasB (e 4 l) (e 5 l) (nI k) = true)
def DuX (σ : MS) (e : XE) (b : Nat) : Prop := (row σ (1640 + 4 * b + 2) = nI 0 → row σ (1640 + 4 * b + 3) = e 16 b + nI 34) ∧ (row σ (1640 + 4 * b + 2) = nI 2 → row σ (1640 + 4 * b + 3) = e 16 b + nI 68) ∧ (row σ (1640 + 4 * b + 2) = nI 0 ∨ row σ (1640 + 4 * b + 2) = nI 1 ∨ row σ (1640 + 4 * b + 2) = nI 2 ∨ row σ (1640 + 4 * b + 2) = nI 3)
/-- what is known of a section: what was paid for it, its stock, its soil -/
def PsX (σ : MS) (c : Nat) : Prop := (sec σ c 0 = nI 3 → ∃ k, k ≤ 1000 ∧ sec σ c 5 = nI k) ∧ (∃ k, k ≤ 1000 ∧ sec σ c 3 = nI k ∧ (isPastV (sec σ c 0) = false → k = 0)) ∧ (∃ k, k ≤ 9 ∧ σ.2.1 3 c = nI k) ∧ (sec σ c 4 = nI 0 ∨ (sec σ c 4 = nI 1 ∧ isPastV (sec σ c 0) = true))
theorem PsX.cg {σ τ : MS} {c : Nat} (h : PsX σ c) (h0 : sec τ c 0 = sec σ c 0) (h3 : sec τ c 3 = sec σ c 3) (h4 : sec τ c 4 = sec σ c 4) (h5 : sec τ c 5 = sec σ c 5) (a3 : τ.2.1 3 = σ.2.1 3) : PsX τ c := by
  unfold PsX at h ⊢
  rw [h0, h3, h4, h5, a3]
  exact h
/-- what never changes of parties and bills, in the sizes' own list -/
def GhX (w : Nat) (S : Nat → Nat → Nat) (σ : MS) (e : XE) : Prop := (∀ a, a < S 6 w → row σ (1720 + 15 * a) = nI (S 60 a)) ∧ ∀ k, k < S 10 w → row σ (1640 + 4 * k) = nI (S 61 k) ∧ e 16 k = nI (S 62 k)
def TieX (w : Nat) (S : Nat → Nat → Nat) (σ : MS) (e : XE) (nw : Nat) : Prop :=
  (∀ p, p < S 4 w → e 0 p = nI (hiredC σ (S 4 w) (nI p))) ∧ (∀ p, p < S 4 w → e 1 p = nI (farmsOfC σ (nI p) 96))
  ∧ (∀ c, c < 96 → e 2 c = if sec σ c 0 = nI 0 then milesV (σ.2.1 4 c) (σ.2.1 3 c) - sec σ c 7 else nI 0) ∧ (∀ c, c < 96 → e 3 c = if sec σ c 0 = nI 4 then sec σ c 2 else -1)
  ∧ (∀ l, l < S 8 w → e 6 l = (if lawv σ l 4 = nI 0 then -1 else lawv σ l 5) ∧ e 15 l = (if lawv σ l 4 = nI 1 then nI 1 else nI 0))
  ∧ (∀ k, k < S 10 w → DuX σ e k) ∧ (∀ a, a < S 6 w → ∀ j, j < 12 → j < tN (row σ (1720 + 15 * a + 2)) → e (10 + a) j = row σ (1720 + 15 * a + 3 + j))
  ∧ (∀ p, p < S 4 w → ¬ per σ p 2 = nI 3 → per σ p 3 = -1) ∧ (∀ c, c < 96 → (isFarmV (sec σ c 0) = true → ∀ p, p < S 4 w → sec σ c 1 = nI p → per σ p 2 = nI 4) ∧ PsX σ c)
  ∧ (∀ l, l < S 8 w → HiX σ e nw l) ∧ (w = 0 → ∀ k, k < nw → ∀ j, j < 6 → e 7 (6 * k + j) = σ.2.1 14 (7 * k + j))
  ∧ (∀ p, p < S 4 w → ∃ m, m ≤ 1000000 ∧ per σ p 1 = nI m) ∧ ((σ.1 23 ≤ 0 ∨ ∃ k, k ≤ 1000 ∧ σ.1 23 = nI k) ∧ (σ.1 24 = -1 ∨ ∃ k, k ≤ 100 ∧ σ.1 24 = nI k)) ∧ IvD σ (S 6 w) ∧ GhX w S σ e
section TX
variable {w : Nat} {S : Nat → Nat → Nat} {σ : MS} {e : XE} {nw : Nat}
theorem TieX.hands (h : TieX w S σ e nw) {p : Nat} (hp : p < S 4 w) : e 0 p = nI (hiredC σ (S 4 w) (nI p)) := h.1 p hp
theorem TieX.farms (h : TieX w S σ e nw) {p : Nat} (hp : p < S 4 w) : e 1 p = nI (farmsOfC σ (nI p) 96) := h.2.1 p hp
theorem TieX.miles (h : TieX w S σ e nw) {c : Nat} (hc : c < 96) : e 2 c = if sec σ c 0 = nI 0 then milesV (σ.2.1 4 c) (σ.2.1 3 c) - sec σ c 7 else nI 0 := h.2.2.1 c hc
theorem TieX.ends (h : TieX w S σ e nw) {c : Nat} (hc : c < 96) : e 3 c = if sec σ c 0 = nI 4 then sec σ c 2 else -1 := h.2.2.2.1 c hc
theorem TieX.said (h : TieX w S σ e nw) {l : Nat} (hl : l < S 8 w) : e 6 l = (if lawv σ l 4 = nI 0 then -1 else lawv σ l 5) ∧ e 15 l = (if lawv σ l 4 = nI 1 then nI 1 else nI 0) := h.2.2.2.2.1 l hl
theorem TieX.due (h : TieX w S σ e nw) {k : Nat} (hk : k < S 10 w) : DuX σ e k := h.2.2.2.2.2.1 k hk
theorem TieX.queue (h : TieX w S σ e nw) {a j : Nat} (ha : a < S 6 w) (hj2 : j < 12) (hj : j < tN (row σ (1720 + 15 * a + 2))) : e (10 + a) j = row σ (1720 + 15 * a + 3 + j) := h.2.2.2.2.2.2.1 a ha j hj2 hj
theorem TieX.boss (h : TieX w S σ e nw) {p : Nat} (hp : p < S 4 w) (h3 : ¬ per σ p 2 = nI 3) : per σ p 3 = -1 := h.2.2.2.2.2.2.2.1 p hp h3
theorem TieX.own (h : TieX w S σ e nw) {c p : Nat} (hc : c < 96) (hf : isFarmV (sec σ c 0) = true) (hp : p < S 4 w) (e1 : sec σ c 1 = nI p) : per σ p 2 = nI 4 := (h.2.2.2.2.2.2.2.2.1 c hc).1 hf p hp e1
theorem TieX.ps (h : TieX w S σ e nw) {c : Nat} (hc : c < 96) : PsX σ c := (h.2.2.2.2.2.2.2.2.1 c hc).2
theorem TieX.hist (h : TieX w S σ e nw) {l : Nat} (hl : l < S 8 w) : HiX σ e nw l := h.2.2.2.2.2.2.2.2.2.1 l hl
theorem TieX.rows (h : TieX w S σ e nw) (hw : w = 0) {k j : Nat} (hk : k < nw) (hj : j < 6) : e 7 (6 * k + j) = σ.2.1 14 (7 * k + j) := h.2.2.2.2.2.2.2.2.2.2.1 hw k hk j hj
theorem TieX.coins (h : TieX w S σ e nw) {p : Nat} (hp : p < S 4 w) : ∃ m, m ≤ 1000000 ∧ per σ p 1 = nI m := h.2.2.2.2.2.2.2.2.2.2.2.1 p hp
theorem TieX.tr1 (h : TieX w S σ e nw) : σ.1 23 ≤ 0 ∨ ∃ k, k ≤ 1000 ∧ σ.1 23 = nI k := h.2.2.2.2.2.2.2.2.2.2.2.2.1.1
theorem TieX.tr2 (h : TieX w S σ e nw) : σ.1 24 = -1 ∨ ∃ k, k ≤ 100 ∧ σ.1 24 = nI k := h.2.2.2.2.2.2.2.2.2.2.2.2.1.2
theorem TieX.ivd (h : TieX w S σ e nw) : IvD σ (S 6 w) := h.2.2.2.2.2.2.2.2.2.2.2.2.2.1
theorem TieX.gh (h : TieX w S σ e nw) : GhX w S σ e := h.2.2.2.2.2.2.2.2.2.2.2.2.2.2
theorem tGh_cg {τ : MS} {e1 : XE} (h : TieX w S σ e nw) (hq : ∀ a, a < S 6 w → row τ (1720 + 15 * a) = row σ (1720 + 15 * a)) (hb : ∀ k, k < S 10 w → row τ (1640 + 4 * k) = row σ (1640 + 4 * k)) (he : ∀ k, k < S 10 w → e1 16 k = e 16 k) : GhX w S τ e1 := ⟨fun a ha => (hq a ha).trans (h.gh.1 a ha), fun k hk => ⟨(hb k hk).trans (h.gh.2 k hk).1, (he k hk).trans (h.gh.2 k hk).2⟩⟩
theorem TieX.ht (h : TieX w S σ e nw) : σ.1 24 = -1 ∨ ¬ σ.1 24 < 0 := by
  rcases h.tr2 with z | ⟨k, hk, z⟩
  · exact Or.inl z
  · exact Or.inr (by rw [z]; exact Int32.not_lt.mpr (nI_pos' (by omega)))
theorem TieX.e9 {e1 : XE} (h : TieX w S σ e nw) (h9 : E9 e e1) : TieX w S σ e1 nw := by
  have q : ∀ a, e1 (10 + a) = if 10 + a = 9 then e1 (10 + a) else e (10 + a) := fun a => by rw [if_neg (by omega)]; exact h9 _ (by omega)
  refine ⟨?_, ?_, ?_, ?_, ?_, ?_, ?_, ?_, ?_, ?_, ?_, ?_, ?_, ?_, tGh_cg h (fun _ _ => rfl) (fun _ _ => rfl) (fun _ _ => by rw [h9 16 (by decide)])⟩
  · rw [h9 0 (by decide)]; exact h.1
  · rw [h9 1 (by decide)]; exact h.2.1
  · rw [h9 2 (by decide)]; exact h.2.2.1
  · rw [h9 3 (by decide)]; exact h.2.2.2.1
  · rw [h9 6 (by decide), h9 15 (by decide)]; exact h.2.2.2.2.1
  · intro k hk; unfold DuX; rw [h9 16 (by decide)]; exact h.2.2.2.2.2.1 k hk
  · intro a ha j hj2 hj; rw [h9 (10 + a) (by omega)]; exact h.2.2.2.2.2.2.1 a ha j hj2 hj
  · exact h.2.2.2.2.2.2.2.1
  · exact h.2.2.2.2.2.2.2.2.1
  · intro l hl; unfold HiX; rw [h9 4 (by decide), h9 5 (by decide)]; exact h.2.2.2.2.2.2.2.2.2.1 l hl
  · rw [h9 7 (by decide)]; exact h.2.2.2.2.2.2.2.2.2.2.1
  · exact h.2.2.2.2.2.2.2.2.2.2.2.1
  · exact h.2.2.2.2.2.2.2.2.2.2.2.2.1
  · exact h.2.2.2.2.2.2.2.2.2.2.2.2.2.1
/-- rows that nothing is tied to -/
def fr0 (j : Nat) : Prop := (j < 768 ∧ j % 8 = 6) ∨ (768 ≤ j ∧ j < 1568 ∧ (j % 8 = 0 ∨ j % 8 = 4 ∨ j % 8 = 5 ∨ j % 8 = 6)) ∨ (1780 ≤ j ∧ j < 2132)
theorem cnt_c2 {p p' : Nat → Bool} {n : Nat} (h : ∀ i, i < n → p i = p' i) : cnt p n = cnt p' n := cnt_cg h
theorem TieX.cg {τ : MS} (h : TieX w S σ e nw) (hz : SzX w S) (hr : ∀ j, ¬ fr0 j → row τ j = row σ j) (h3 : τ.2.1 3 = σ.2.1 3) (h4 : τ.2.1 4 = σ.2.1 4) (h14 : ∀ j, j < 7 * nw → τ.2.1 14 j = σ.2.1 14 j) (h23 : τ.1 23 = σ.1 23) (h24 : τ.1 24 = σ.1 24) : TieX w S τ e nw := by
  obtain ⟨z1, z2, z3, z4, z5, -⟩ := hz
  have p1 : ∀ p, p < S 4 w → per τ p 1 = per σ p 1 := fun p hp => hr _ (by unfold fr0; omega)
  have p2 : ∀ p, p < S 4 w → per τ p 2 = per σ p 2 := fun p hp => hr _ (by unfold fr0; omega)
  have p3 : ∀ p, p < S 4 w → per τ p 3 = per σ p 3 := fun p hp => hr _ (by unfold fr0; omega)
  have s0 : ∀ c, c < 96 → sec τ c 0 = sec σ c 0 := fun c hc => hr _ (by unfold fr0; omega)
  have s1 : ∀ c, c < 96 → sec τ c 1 = sec σ c 1 := fun c hc => hr _ (by unfold fr0; omega)
  have s3 : ∀ c, c < 96 → sec τ c 3 = sec σ c 3 := fun c hc => hr _ (by unfold fr0; omega)
  have s4 : ∀ c, c < 96 → sec τ c 4 = sec σ c 4 := fun c hc => hr _ (by unfold fr0; omega)
  have s5 : ∀ c, c < 96 → sec τ c 5 = sec σ c 5 := fun c hc => hr _ (by unfold fr0; omega)
  have s2 : ∀ c, c < 96 → sec τ c 2 = sec σ c 2 := fun c hc => hr _ (by unfold fr0; omega)
  have s7 : ∀ c, c < 96 → sec τ c 7 = sec σ c 7 := fun c hc => hr _ (by unfold fr0; omega)
  have lw : ∀ l j, l < S 8 w → j < 6 → lawv τ l j = lawv σ l j := fun l j hl hj => hr _ (by unfold fr0; omega)
  have bw : ∀ k j, k < S 10 w → j < 4 → row τ (1640 + 4 * k + j) = row σ (1640 + 4 * k + j) := fun k j hk hj => hr _ (by unfold fr0; omega)
  have qw : ∀ a j, a < S 6 w → j < 15 → row τ (1720 + 15 * a + j) = row σ (1720 + 15 * a + j) := fun a j ha hj => hr _ (by unfold fr0; omega)
  refine ⟨fun p hp => ?_, fun p hp => ?_, fun c hc => ?_, fun c hc => ?_, fun l hl => ?_, fun k hk => ?_, fun a ha j hj2 hj => ?_, fun p hp z => ?_, fun c hc => ⟨fun hf p hp z => ?_, (h.ps hc).cg (s0 c hc) (s3 c hc) (s4 c hc) (s5 c hc) h3⟩, fun l hl => ?_, fun hw k hk j hj => ?_, fun p hp => ?_, ?_, ?_, tGh_cg h (fun a ha => qw a 0 ha (by decide)) (fun k hk => bw k 0 hk (by decide)) (fun _ _ => rfl)⟩
  · rw [h.hands hp]
    exact congrArg nI (cnt_cg (fun o ho => by rw [p2 o ho, p3 o ho])).symm
  · rw [h.farms hp]
    exact congrArg nI (cnt_cg (fun c hc => by rw [s0 c hc, s1 c hc])).symm
  · rw [h.miles hc, s0 c hc, s7 c hc, h3, h4]
  · rw [h.ends hc, s0 c hc, s2 c hc]
  · rw [lw l 4 hl (by decide), lw l 5 hl (by decide)]
    exact h.said hl
  · have := h.due hk
    unfold DuX at this ⊢
    rw [bw k 2 hk (by decide), bw k 3 hk (by decide)]
    exact this
  · rw [qw a 2 ha (by decide)] at hj
    rw [h.queue ha hj2 hj]
    have := qw a (3 + j) ha (by omega)
    rw [← Nat.add_assoc] at this
    exact this.symm
  · rw [p2 p hp] at z
    rw [p3 p hp]
    exact h.boss hp z
  · rw [s0 c hc] at hf
    rw [s1 c hc] at z
    rw [p2 p hp]
    exact h.own hc hf hp z
  · have := h.hist hl
    unfold HiX at this ⊢
    rw [lw l 0 hl (by decide), lw l 3 hl (by decide)]
    refine ⟨this.1, this.2.1, this.2.2.1, this.2.2.2.1, this.2.2.2.2.1, fun k hk => ?_⟩
    rw [h14 _ (by omega)]
    exact this.2.2.2.2.2 k hk
  · rw [h14 _ (by omega)]
    exact h.rows hw hk hj
  · rw [p1 p hp]
    exact h.coins hp
  · rw [h23, h24]
    exact h.2.2.2.2.2.2.2.2.2.2.2.2.1
  · exact h.ivd.cg (fun c hc => ⟨s0 c hc, s7 c hc⟩) h3 h4 (fun a ha => qw a 0 ha (by decide))
end TX
