set_option maxRecDepth 100000
theorem jr_seen {σ : MS} {S : Nat → Nat → Nat} {nw : Nat} {z : Int32} (h : JR σ S nw) (hs : JB S) : JR ((p_seen σ z).2) S nw := by
  unfold p_seen
  repeat' (first | exact h.th hs | exact h.s0 hs | split)
theorem jr_acre {σ : MS} {S : Nat → Nat → Nat} {nw : Nat} {z : Int32} (h : JR σ S nw) (hs : JB S) : JR ((p_acre σ z).2) S nw := by
  unfold p_acre
  repeat' (first | exact h.th hs | exact h.s0 hs | split)
theorem jr_force {σ : MS} {S : Nat → Nat → Nat} {nw : Nat} {n : Nat} {z : Int32} (h : JR σ S nw) (hs : JB S) : JR ((p_force σ n z).2) S nw := by
  unfold p_force
  repeat' (first | exact h.th hs | exact h.s0 hs | split)
theorem jr_billed {σ : MS} {S : Nat → Nat → Nat} {nw : Nat} {n : Nat} {z : Int32} (h : JR σ S nw) (hs : JB S) : JR ((p_billed σ n z).2) S nw := by
  unfold p_billed
  repeat' (first | exact h.th hs | exact h.s0 hs | split)
theorem jr_promise {σ : MS} {S : Nat → Nat → Nat} {nw : Nat} {z : Int32} (h : JR σ S nw) (hs : JB S) : JR ((p_promise σ z).2) S nw := by
  unfold p_promise
  repeat' (first | exact h.th hs | exact h.s0 hs | split)
theorem jr_fell {σ : MS} {S : Nat → Nat → Nat} {nw : Nat} {z w : Int32} (h : JR σ S nw) (hs : JB S) : JR ((p_fell σ z w).2) S nw := by
  unfold p_fell
  repeat' (first | exact h.th hs | exact h.s0 hs | split)
theorem jr_person {σ : MS} {S : Nat → Nat → Nat} {nw : Nat} {n : Nat} {z w : Int32} (h : JR σ S nw) (hs : JB S) : JR ((p_person σ n z w).2) S nw := by
  unfold p_person
  repeat' (first | exact h.th hs | exact h.s0 hs | split)
theorem jr_where {σ : MS} {S : Nat → Nat → Nat} {nw : Nat} {n : Nat} {z w : Int32} (h : JR σ S nw) (hs : JB S) : JR ((p_where σ n z w).2) S nw := by
  unfold p_where
  repeat' (first | exact h.th hs | exact h.s0 hs | split)
theorem jr_why {σ : MS} {S : Nat → Nat → Nat} {nw : Nat} {n : Nat} {z : Int32} (h : JR σ S nw) (hs : JB S) : JR ((p_why σ n z).2) S nw := by
  unfold p_why
  repeat' (first | exact h.th hs | exact h.s0 hs | split)
theorem jr_section {σ : MS} {S : Nat → Nat → Nat} {nw : Nat} {z w : Int32} (h : JR σ S nw) (hs : JB S) : JR ((p_section σ z w).2) S nw := by
  unfold p_section
  repeat' (first | exact h.th hs | exact h.s0 hs | split)
theorem jr_is {σ : MS} {S : Nat → Nat → Nat} {nw : Nat} {z w : Int32} (h : JR σ S nw) (hs : JB S) : JR ((p_is σ z w).2) S nw := by
  unfold p_is
  repeat' (first | exact h.th hs | exact h.s0 hs | split)
theorem jr_as {σ : MS} {S : Nat → Nat → Nat} {nw : Nat} {n : Nat} {z w x : Int32} (h : JR σ S nw) (hs : JB S) : JR ((p_as σ n z w x).2) S nw := by
  unfold p_as
  repeat' (first | exact h.th hs | exact h.s0 hs | split)
theorem jr_fund {σ : MS} {S : Nat → Nat → Nat} {nw : Nat} {z : Int32} (h : JR σ S nw) (hs : JB S) : JR ((p_fund σ z).2) S nw := by
  unfold p_fund
  repeat' (first | exact h.th hs | exact h.s0 hs | exact (h.s0 hs).R hs (j := 2123) (by unfold jrR; omega) | split)
theorem jr_rain {σ : MS} {S : Nat → Nat → Nat} {nw : Nat} {z w : Int32} (h : JR σ S nw) (hs : JB S) : JR ((p_rain σ z w).2) S nw := by
  unfold p_rain
  repeat' (first | exact h.th hs | exact h.s0 hs | exact ((h.s0 hs).W hs (a := 5) (by unfold jrA; omega) (by decide) (by decide)).W hs (a := 6) (by unfold jrA; omega) (by decide) (by decide) | split)
theorem jr_tear {σ : MS} {S : Nat → Nat → Nat} {nw : Nat} {z w : Int32} (h : JR σ S nw) (hs : JB S) : JR ((p_tear σ z w).2) S nw := by
  unfold p_tear
  repeat' (first | exact h.th hs | exact h.s0 hs | exact (h.s0 hs).W hs (a := 17) (by unfold jrA; omega) (by decide) (by decide) | split)
theorem jr_count {σ : MS} {S : Nat → Nat → Nat} {nw n : Nat} {w : Int32} (h : JR σ S nw) (hs : JB S) : JR (p_count σ n w).2 S nw := h.s0 hs
theorem jr_number {σ : MS} {S : Nat → Nat → Nat} {nw : Nat} {w : Int32} (h : JR σ S nw) (hs : JB S) : JR (p_number σ w).2 S nw := h.s0 hs
theorem jr_M {σ : MS} {S : Nat → Nat → Nat} {nw n nl name : Nat} {gr : Int32} (h : JR σ S nw) (hs : JB S) : JR (sM σ n nl name gr) S nw := h.A hs (by unfold jrA; omega) (by decide) (by decide)
theorem jr_H {σ : MS} {S : Nat → Nat → Nat} {nw : Nat} (h : JR σ S nw) (hs : JB S) : JR (sH σ nw) S nw := h.A hs (by unfold jrA; omega) (by decide) (by decide)
theorem jr_quoted {σ : MS} {S : Nat → Nat → Nat} {nw : Nat} (h : JR σ S nw) (hs : JB S) : JR (p_quoted σ nw).2 S nw := jr_H (h.s0 hs) hs
theorem jr_holds {σ : MS} {S : Nat → Nat → Nat} {nw c : Nat} {k p : Int32} (h : JR σ S nw) (hs : JB S) (hc : c < 96) : JR (s_holds σ c k p) S nw := by
  unfold s_holds
  repeat' (first | exact h | refine JR.R ?_ hs (by unfold jrR; omega))
theorem jr_means {σ : MS} {S : Nat → Nat → Nat} {nw : Nat} {n nl : Nat} {z w : Int32} (h : JR σ S nw) (hs : JB S) : JR ((p_means σ n nl z w).2) S nw := by
  unfold p_means
  repeat' (first | exact h.th hs | exact h.s0 hs | exact jr_M (h.s0 hs) hs | split)
