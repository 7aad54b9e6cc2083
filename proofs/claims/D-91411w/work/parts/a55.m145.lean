set_option maxRecDepth 100000
theorem inN_nI2 {p : Int32} {n : Nat} (h : ¬ inN p n = false) (hn : n < 2147483648) : nI (tN p) = p := by
  cases h2 : inN p n with
  | false => exact absurd h2 h
  | true =>
    obtain ⟨j, hj, e⟩ := inN_of hn h2
    rw [e, tN_nI (by omega)]
/-- rows that the model's invariant does not speak of -/
def fr3 (j : Nat) : Prop := fr1 j ∨ (2080 ≤ j ∧ j < 2104) ∨ 2129 ≤ j
theorem tn_lt {c : Int32} {m : Nat} (h : ¬ inN c m = false) (hm : m < 2147483648) : tN c < m := by
  cases h2 : inN c m with
  | false => exact absurd h2 h
  | true =>
    obtain ⟨j, hj, e⟩ := inN_of hm h2
    rw [e, tN_nI (by omega)]
    exact hj
theorem IvG.wA0 {σ : MS} {n nl nb q nor nw k j : Nat} {x : Int32} (v : IvG σ n nl nb q nor nw) (hk : 1 ≠ k ∧ 6 ≠ k ∧ 8 ≠ k ∧ 9 ≠ k ∧ 10 ≠ k ∧ 14 ≠ k) : IvG (wA σ k j x) n nl nb q nor nw :=
  v.keep (fun i _ => congrFun (wA_k hk.1) i) (wA_k hk.2.1) (wA_k hk.2.2.1) (wA_k hk.2.2.2.1) (wA_k hk.2.2.2.2.1) (wA_k hk.2.2.2.2.2)
set_option maxHeartbeats 400000 in
theorem land_iv {σ : MS} {n nl nb q nor nw : Nat} {c : Int32} {x : Int32} {u : Bool} (v : IvG σ n nl nb q nor nw) : IvG (p_land σ c x u).2 n nl nb q nor nw := by
  have v0 := v.f0 (j := 0) (x := nI 0)
  have hP := v.hP
  have hL := v.hL
  have hB := v.hB
  have hQ := v.hQ
  unfold p_land
  try dsimp only
  repeat' split
  all_goals first
    | with_reducible exact v0.f0
    | with_reducible exact v0
    | (have h1 := tn_lt (c := c) (m := 96) (by assumption) (by omega); with_reducible exact ((v0.wA0 (by decide)).wA0 (by decide)).sR1 (by unfold fr1 fr2; omega))
set_option maxHeartbeats 400000 in
theorem pass_iv {σ : MS} {n nl nb q nor nw : Nat} {x : Int32} (v : IvG σ n nl nb q nor nw) : IvG (p_pass σ nb x).2 n nl nb q nor nw := by
  have v0 := v.f0 (j := 0) (x := nI 0)
  have hP := v.hP
  have hL := v.hL
  have hB := v.hB
  have hQ := v.hQ
  unfold p_pass
  try dsimp only
  repeat' split
  all_goals first
    | with_reducible exact v0.f0
    | with_reducible exact v0
    | (have h1 := tn_lt (c := x) (m := nb) (by assumption) (by omega); with_reducible exact v0.sR1 (by unfold fr1 fr2; omega))
set_option maxHeartbeats 400000 in
theorem assent_iv {σ : MS} {n nl nb q nor nw : Nat} {l : Int32} {y : Bool} (v : IvG σ n nl nb q nor nw) : IvG (p_assent σ nl l y).2 n nl nb q nor nw := by
  have v0 := v.f0 (j := 0) (x := nI 0)
  have hP := v.hP
  have hL := v.hL
  have hB := v.hB
  have hQ := v.hQ
  unfold p_assent
  try dsimp only
  repeat' split
  all_goals first
    | with_reducible exact v0.f0
    | with_reducible exact v0
    | (have h1 := tn_lt (c := l) (m := nl) (by assumption) (by omega); with_reducible exact (v0.sR1 (by unfold fr1 fr2; omega)).sR1 (by unfold fr1 fr2; omega))
set_option maxHeartbeats 400000 in
theorem means_iv {σ : MS} {n nl nb q nor nw : Nat} {name : Int32} {c : Int32} (v : IvG σ n nl nb q nor nw) : IvG (p_means σ n nl name c).2 n nl nb q nor nw := by
  have v0 := v.f0 (j := 0) (x := nI 0)
  have hP := v.hP
  have hL := v.hL
  have hB := v.hB
  have hQ := v.hQ
  unfold p_means
  try dsimp only
  repeat' split
  all_goals first
    | with_reducible exact v0.f0
    | with_reducible exact v0
    | (with_reducible exact v0.sA1)
set_option maxHeartbeats 400000 in
theorem quoted_iv {σ : MS} {n nl nb q nor nw : Nat}  (v : IvG σ n nl nb q nor nw) : IvG (p_quoted σ nw).2 n nl nb q nor nw := by
  have v0 := v.f0 (j := 0) (x := nI 0)
  have hP := v.hP
  have hL := v.hL
  have hB := v.hB
  have hQ := v.hQ
  unfold p_quoted
  try dsimp only
  repeat' split
  all_goals first
    | with_reducible exact v0.f0
    | with_reducible exact v0
    | (with_reducible exact v0.sA1)
set_option maxHeartbeats 400000 in
theorem fund_iv {σ : MS} {n nl nb q nor nw : Nat} {x : Int32} (v : IvG σ n nl nb q nor nw) : IvG (p_fund σ x).2 n nl nb q nor nw := by
  have v0 := v.f0 (j := 0) (x := nI 0)
  have hP := v.hP
  have hL := v.hL
  have hB := v.hB
  have hQ := v.hQ
  unfold p_fund
  try dsimp only
  repeat' split
  all_goals first
    | with_reducible exact v0.f0
    | with_reducible exact v0
    | (with_reducible exact v0.sR1 (by unfold fr1 fr2; omega))
set_option maxHeartbeats 400000 in
theorem stock_iv {σ : MS} {n nl nb q nor nw : Nat} {p : Int32} {c : Int32} {m : Int32} (v : IvG σ n nl nb q nor nw) : IvG (p_stock σ n p c m).2 n nl nb q nor nw := by
  have v0 := v.f0 (j := 0) (x := nI 0)
  have hP := v.hP
  have hL := v.hL
  have hB := v.hB
  have hQ := v.hQ
  unfold p_stock
  try dsimp only
  repeat' split
  all_goals first
    | with_reducible exact v0.f0
    | with_reducible exact v0
    | (have h1 := tn_lt (c := c) (m := 96) (by assumption) (by omega); have h2 := tn_lt (c := p) (m := n) (by assumption) (by omega); with_reducible exact (v0.pays h2).sR1 (by unfold fr1 fr2; omega))
set_option maxHeartbeats 400000 in
theorem fence_iv {σ : MS} {n nl nb q nor nw : Nat} {p : Int32} {c : Int32} (v : IvG σ n nl nb q nor nw) : IvG (p_fence σ n p c).2 n nl nb q nor nw := by
  have v0 := v.f0 (j := 0) (x := nI 0)
  have hP := v.hP
  have hL := v.hL
  have hB := v.hB
  have hQ := v.hQ
  unfold p_fence
  try dsimp only
  repeat' split
  all_goals first
    | with_reducible exact v0.f0
    | with_reducible exact v0
    | (have h1 := tn_lt (c := c) (m := 96) (by assumption) (by omega); have h2 := tn_lt (c := p) (m := n) (by assumption) (by omega); with_reducible exact (v0.pays h2).sR1 (by unfold fr1 fr2; omega))
set_option maxHeartbeats 400000 in
theorem vote_iv {σ : MS} {n nl nb q nor nw : Nat} {l : Int32} {p : Int32} {dr : Nat} {y : Bool} (v : IvG σ n nl nb q nor nw) : IvG (p_vote σ nl n dr l p y).2 n nl nb q nor nw := by
  have v0 := v.f0 (j := 0) (x := nI 0)
  have hP := v.hP
  have hL := v.hL
  have hB := v.hB
  have hQ := v.hQ
  unfold p_vote
  try dsimp only
  repeat' split
  all_goals first
    | with_reducible exact v0.f0
    | with_reducible exact v0
    | (have h1 := tn_lt (c := l) (m := nl) (by assumption) (by omega); with_reducible exact (v0.wA0 (by decide)).sR1 (by unfold fr1 fr2; omega))
set_option maxHeartbeats 400000 in
theorem squat_iv {σ : MS} {n nl nb q nor nw : Nat} {p : Int32} {c : Int32} (v : IvG σ n nl nb q nor nw) : IvG (p_squat σ n nl p c).2 n nl nb q nor nw := by
  have v0 := v.f0 (j := 0) (x := nI 0)
  have hP := v.hP
  have hL := v.hL
  have hB := v.hB
  have hQ := v.hQ
  unfold p_squat
  try dsimp only
  repeat' split
  all_goals first
    | with_reducible exact v0.f0
    | with_reducible exact v0
    | (with_reducible exact v0.sA1)
    | (have h1 := tn_lt (c := c) (m := 96) (by assumption) (by omega); have h2 := tn_lt (c := p) (m := n) (by assumption) (by omega); with_reducible exact v0.sA1.holdsN h1 (Or.inr (Or.inr ⟨by decide, tN p, h2, rfl⟩)))
set_option maxHeartbeats 400000 in
theorem close_iv {σ : MS} {n nl nb q nor nw : Nat} {l : Int32} (v : IvG σ n nl nb q nor nw) : IvG (p_close σ n nl l).2 n nl nb q nor nw := by
  have v0 := v.f0 (j := 0) (x := nI 0)
  have hP := v.hP
  have hL := v.hL
  have hB := v.hB
  have hQ := v.hQ
  unfold p_close
  try dsimp only
  repeat' split
  all_goals first
    | with_reducible exact v0.f0
    | with_reducible exact v0
    | (have h1 := tn_lt (c := l) (m := nl) (by assumption) (by omega); unfold closeS; with_reducible exact IvG.sR1 v0 (by unfold fr1 fr2; omega))
    | (have h1 := tn_lt (c := l) (m := nl) (by assumption) (by omega); unfold closeS; with_reducible exact (v0.sR1 (by unfold fr1 fr2; omega)).sR1 (by unfold fr1 fr2; omega))
    | (have h1 := tn_lt (c := l) (m := nl) (by assumption) (by omega); unfold closeS; with_reducible exact (v0.sA1.sR1 (by unfold fr1 fr2; omega)).sR1 (by unfold fr1 fr2; omega))
    | (have h1 := tn_lt (c := l) (m := nl) (by assumption) (by omega); unfold closeS; with_reducible exact v0.sA1.sR1 (by unfold fr1 fr2; omega))
