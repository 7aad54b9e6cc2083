set_option maxRecDepth 100000
/-- where an int stands: (0, array, place) (1, 0, field) of the model's numbers, (2, row, place) of the class's own, (3, 0, number), (4, 0, 0) as before -/
def TX (w k i j : Nat) : Nat × Nat × Nat :=
  match k with
  | 0 => if j = 2 then ((1, 0, 9)) else if j = 3 then ((1, 0, 13)) else if j = 4 then ((0, 1, 2129)) else if j = 5 then ((1, 0, 29)) else if j = 6 then ((1, 0, 28)) else if j = 16 then ((2, 8, 0)) else if j = 17 then ((2, 8, 1)) else if j = 18 then ((1, 0, 31)) else (4, 0, 0)
  | 1 => if j = 0 then ((0, 1, 2116)) else if j = 1 then ((0, 1, 2117)) else if j = 2 then ((0, 1, 2118)) else if j = 3 then ((0, 1, 2119)) else if j = 4 then (if w = 0 then (0, 1, 2120) else (4, 0, 0)) else if j = 5 then (if w = 0 then (0, 1, 2121) else (4, 0, 0)) else if j = 6 then ((0, 1, 2122)) else if j = 7 then ((0, 1, 2123)) else if j = 8 then (if w = 0 then (0, 1, 2131) else (4, 0, 0)) else if j = 9 then ((1, 0, 23)) else if j = 10 then ((1, 0, 24)) else if j = 11 then ((1, 0, 7)) else (4, 0, 0)
  | 13 => (0, 1, 1780 + 3 * j + 0)
  | 15 => (0, 1, 2092 + j)
  | 17 => (0, 1, 1780 + 3 * j + 1)
  | 18 => (2, 2, j)
  | 19 => (0, 1, 8 * j + 3)
  | 20 => (2, 3, j)
  | 21 => (0, 1, 8 * j + 4)
  | 22 => (0, 1, 2104 + j)
  | 23 => (0, 1, 2108 + j)
  | 24 => (0, 1, 2112 + j)
  | 25 => (0, 1, 2080 + j)
  | 26 => (2, 9, j)
  | 27 => (0, 3, j)
  | 28 => (0, 4, j)
  | 31 => (0, 6, j)
  | 33 => (2, 7, j)
  | 34 => if j = 0 then ((0, 1, 8 * i + 0)) else if j = 1 then ((0, 1, 8 * i + 1)) else if j = 2 then ((0, 1, 8 * i + 5)) else if j = 3 then ((0, 1, 8 * i + 6)) else (4, 0, 0)
  | 35 => if j = 0 then ((3, 0, i)) else if j = 1 then (if w = 0 then (0, 1, 768 + 8 * i + 0) else (4, 0, 0)) else if j = 2 then ((0, 1, 768 + 8 * i + 1)) else if j = 3 then ((0, 1, 768 + 8 * i + 2)) else if j = 4 then ((0, 1, 768 + 8 * i + 3)) else if j = 5 then ((2, 0, i)) else if j = 6 then ((2, 1, i)) else if j = 7 then ((0, 1, 768 + 8 * i + 6)) else if j = 8 then ((0, 1, 768 + 8 * i + 4)) else if j = 9 then ((0, 1, 768 + 8 * i + 5)) else (4, 0, 0)
  | 36 => if j = 0 then ((0, 1, 1720 + 15 * i + 0)) else if j = 1 then ((0, 1, 1720 + 15 * i + 1)) else if j = 2 then ((0, 1, 1720 + 15 * i + 2)) else (4, 0, 0)
  | 37 => (2, 10 + i, j)
  | 38 => if j = 1 then ((0, 1, 1568 + 6 * i + 0)) else if j = 2 then ((2, 4, i)) else if j = 3 then ((2, 5, i)) else if j = 4 then ((2, 6, i)) else if j = 5 then (if w = 0 then (0, 1, 1568 + 6 * i + 1) else (4, 0, 0)) else if j = 6 then (if w = 0 then (0, 1, 1568 + 6 * i + 2) else (4, 0, 0)) else if j = 7 then ((2, 15, i)) else (4, 0, 0)
  | 39 => if w = 0 then (0, 12, 100 * i + j) else (4, 0, 0)
  | 40 => if j = 0 then ((0, 1, 1640 + 4 * i + 0)) else if j = 1 then ((2, 16, i)) else if j = 2 then ((0, 1, 1640 + 4 * i + 1)) else if j = 3 then ((0, 1, 1640 + 4 * i + 2)) else (4, 0, 0)
  | 41 => (0, 7, j)
  | 42 => (0, 1, 1780 + 3 * j + 2)
  | 43 => (0, 15, j)
  | 44 => (0, 16, j)
  | 45 => (2, 17, j)
  | 46 => (2, 18, j)
  | 47 => (0, 17, j)
  | _ => (4, 0, 0)
def jNX (k : Nat) : Nat :=
  match k with
  | 0 => 19
  | 1 => 12
  | 13 => 100
  | 15 => 12
  | 17 => 100
  | 18 => 96
  | 19 => 96
  | 20 => 96
  | 21 => 96
  | 22 => 4
  | 23 => 4
  | 24 => 4
  | 25 => 12
  | 26 => 4
  | 27 => 96
  | 28 => 96
  | 31 => 4
  | 33 => 6006
  | 34 => 4
  | 35 => 10
  | 36 => 3
  | 37 => 12
  | 38 => 8
  | 39 => 100
  | 40 => 4
  | 41 => 300
  | 42 => 100
  | 43 => 3
  | 44 => 3
  | 45 => 2
  | 46 => 2
  | 47 => 196
  | _ => 0
def wkX (w k : Nat) : Nat := if 27 ≤ k ∧ k ≤ 32 then 0 else w
def iNX (S : Nat → Nat → Nat) (w k : Nat) : Nat := if 27 ≤ k ∧ k ≤ 32 then cNX S k 0 else if w < wNX k then cNX S k w else 0
def vaX (b : XS) (σ : MS) (e : XE) (k w' i j : Nat) (t : Nat × Nat × Nat) : Int32 := if t.1 = 0 then σ.2.1 t.2.1 t.2.2 else if t.1 = 1 then σ.1 t.2.2 else if t.1 = 2 then e t.2.1 t.2.2 else if t.1 = 3 then nI t.2.2 else b.1 k w' i j
/-- the ints of the class, seen as world w: out of the model's numbers σ, the class's own e, and what was before -/
def VX (w : Nat) (S : Nat → Nat → Nat) (b : XS) (σ : MS) (e : XE) : Nat → Nat → Nat → Nat → Int32 := fun k w' i j => if w' = wkX w k ∧ i < iNX S w k ∧ j < jNX k then vaX b σ e k w' i j (TX w k i j) else b.1 k w' i j
def SzX (w : Nat) (S : Nat → Nat → Nat) : Prop := w < 2 ∧ S 4 w ≤ 100 ∧ S 6 w ≤ 4 ∧ S 8 w ≤ 12 ∧ S 10 w ≤ 20 ∧ S 2 0 = 96 ∧ S 2 1 = 96 ∧ S 8 w ≤ S 8 0 ∧ (w = 1 → 96 ≤ S 63 1)
theorem SzX.x1 {w s : Nat} {S : Nat → Nat → Nat} (h : SzX w S) (hs : s < 96) : w = 1 → s < S 63 1 := fun e => Nat.lt_of_lt_of_le hs (h.2.2.2.2.2.2.2.2 e)
def inv1 (x : Nat) : Nat × Nat × Nat :=
  if x < 768 then (if x % 8 = 0 then (34, x / 8, 0) else if x % 8 = 1 then (34, x / 8, 1) else if x % 8 = 3 then (19, 0, x / 8) else if x % 8 = 4 then (21, 0, x / 8) else if x % 8 = 5 then (34, x / 8, 2) else (34, x / 8, 3))
  else if x < 1568 then (if x % 8 = 0 then (35, (x - 768) / 8, 1) else if x % 8 = 1 then (35, (x - 768) / 8, 2) else if x % 8 = 2 then (35, (x - 768) / 8, 3) else if x % 8 = 3 then (35, (x - 768) / 8, 4) else if x % 8 = 6 then (35, (x - 768) / 8, 7) else if x % 8 = 4 then (35, (x - 768) / 8, 8) else (35, (x - 768) / 8, 9))
  else if x < 1640 then (if (x - 1568) % 6 = 0 then (38, (x - 1568) / 6, 1) else if (x - 1568) % 6 = 1 then (38, (x - 1568) / 6, 5) else (38, (x - 1568) / 6, 6))
  else if x < 1720 then (if (x - 1640) % 4 = 0 then (40, (x - 1640) / 4, 0) else if (x - 1640) % 4 = 1 then (40, (x - 1640) / 4, 2) else (40, (x - 1640) / 4, 3))
  else if x < 1780 then (36, (x - 1720) / 15, (x - 1720) % 15)
  else if x < 2080 then (if (x - 1780) % 3 = 0 then (13, 0, (x - 1780) / 3) else if (x - 1780) % 3 = 1 then (17, 0, (x - 1780) / 3) else (42, 0, (x - 1780) / 3))
  else if x < 2092 then (25, 0, x - 2080) else if x < 2104 then (15, 0, x - 2092) else if x < 2108 then (22, 0, x - 2104) else if x < 2112 then (23, 0, x - 2108) else if x < 2116 then (24, 0, x - 2112)
  else if x = 2129 then (0, 0, 4) else if x = 2131 then (1, 0, 8) else (1, 0, x - 2116)
def inv2 (a x : Nat) : Nat × Nat × Nat := if a = 3 then (27, 0, x) else if a = 4 then (28, 0, x) else if a = 6 then (31, 0, x) else if a = 7 then (41, 0, x) else if a = 12 then (39, x / 100, x % 100) else if a = 15 then (43, 0, x) else if a = 16 then (44, 0, x) else (47, 0, x)
def inv3 (x : Nat) : Nat × Nat × Nat := if x = 9 then (0, 0, 2) else if x = 13 then (0, 0, 3) else if x = 29 then (0, 0, 5) else if x = 28 then (0, 0, 6) else if x = 31 then (0, 0, 18) else if x = 23 then (1, 0, 9) else if x = 24 then (1, 0, 10) else (1, 0, 11)
def inv4 (a x : Nat) : Nat × Nat × Nat := if a = 0 then (35, x, 5) else if a = 1 then (35, x, 6) else if a = 2 then (18, 0, x) else if a = 3 then (20, 0, x) else if a = 4 then (38, x, 2) else if a = 5 then (38, x, 3) else if a = 6 then (38, x, 4) else if a = 15 then (38, x, 7) else if a = 7 then (33, 0, x) else if a = 8 then (0, 0, 16 + x) else if a = 9 then (26, 0, x) else if a = 16 then (40, x, 1) else if a = 17 then (45, 0, x) else if a = 18 then (46, 0, x) else (37, a - 10, x)
def invX (t : Nat × Nat × Nat) : Nat × Nat × Nat := if t.1 = 0 then (if t.2.1 = 1 then inv1 t.2.2 else inv2 t.2.1 t.2.2) else if t.1 = 1 then inv3 t.2.2 else inv4 t.2.1 t.2.2
theorem t3 {a b c a1 b1 c1 : Nat} (h1 : a = a1) (h2 : b = b1) (h3 : c = c1) : (a, b, c) = (a1, b1, c1) := by rw [h1, h2, h3]
theorem invL_0_2 {w i : Nat} (hi : i < 1) : invX (TX w 0 i 2) = (0, i, 2) := by
  have e0 : i = 0 := by omega
  subst e0
  rfl
theorem invL_0_3 {w i : Nat} (hi : i < 1) : invX (TX w 0 i 3) = (0, i, 3) := by
  have e0 : i = 0 := by omega
  subst e0
  rfl
theorem invL_0_4 {w i : Nat} (hi : i < 1) : invX (TX w 0 i 4) = (0, i, 4) := by
  have e0 : i = 0 := by omega
  subst e0
  rfl
theorem invL_0_5 {w i : Nat} (hi : i < 1) : invX (TX w 0 i 5) = (0, i, 5) := by
  have e0 : i = 0 := by omega
  subst e0
  rfl
theorem invL_0_6 {w i : Nat} (hi : i < 1) : invX (TX w 0 i 6) = (0, i, 6) := by
  have e0 : i = 0 := by omega
  subst e0
  rfl
theorem invL_0_16 {w i : Nat} (hi : i < 1) : invX (TX w 0 i 16) = (0, i, 16) := by
  have e0 : i = 0 := by omega
  subst e0
  rfl
theorem invL_0_17 {w i : Nat} (hi : i < 1) : invX (TX w 0 i 17) = (0, i, 17) := by
  have e0 : i = 0 := by omega
  subst e0
  rfl
theorem invL_0_18 {w i : Nat} (hi : i < 1) : invX (TX w 0 i 18) = (0, i, 18) := by
  have e0 : i = 0 := by omega
  subst e0
  rfl
theorem invX_0 {w i j : Nat} (hi : i < 1) (hj : j < 19) (h : (TX w 0 i j).1 < 3) : invX (TX w 0 i j) = (0, i, j) := by
  by_cases e2 : j = 2
  · subst e2; exact invL_0_2 hi
  by_cases e3 : j = 3
  · subst e3; exact invL_0_3 hi
  by_cases e4 : j = 4
  · subst e4; exact invL_0_4 hi
  by_cases e5 : j = 5
  · subst e5; exact invL_0_5 hi
  by_cases e6 : j = 6
  · subst e6; exact invL_0_6 hi
  by_cases e16 : j = 16
  · subst e16; exact invL_0_16 hi
  by_cases e17 : j = 17
  · subst e17; exact invL_0_17 hi
  by_cases e18 : j = 18
  · subst e18; exact invL_0_18 hi
  have e9 : TX w 0 i j = (4, 0, 0) := by
    show (if j = 2 then ((1, 0, 9)) else if j = 3 then ((1, 0, 13)) else if j = 4 then ((0, 1, 2129)) else if j = 5 then ((1, 0, 29)) else if j = 6 then ((1, 0, 28)) else if j = 16 then ((2, 8, 0)) else if j = 17 then ((2, 8, 1)) else if j = 18 then ((1, 0, 31)) else (4, 0, 0)) = _
    rw [if_neg e2, if_neg e3, if_neg e4, if_neg e5, if_neg e6, if_neg e16, if_neg e17, if_neg e18]
  rw [e9] at h
  exact absurd h (by decide)
theorem invL_1_0 {w i : Nat} (hi : i < 1) : invX (TX w 1 i 0) = (1, i, 0) := by
  have e0 : i = 0 := by omega
  subst e0
  rfl
theorem invL_1_1 {w i : Nat} (hi : i < 1) : invX (TX w 1 i 1) = (1, i, 1) := by
  have e0 : i = 0 := by omega
  subst e0
  rfl
theorem invL_1_2 {w i : Nat} (hi : i < 1) : invX (TX w 1 i 2) = (1, i, 2) := by
  have e0 : i = 0 := by omega
  subst e0
  rfl
theorem invL_1_3 {w i : Nat} (hi : i < 1) : invX (TX w 1 i 3) = (1, i, 3) := by
  have e0 : i = 0 := by omega
  subst e0
  rfl
theorem invL_1_4 {w i : Nat} (hw : w = 0) (hi : i < 1) : invX (TX w 1 i 4) = (1, i, 4) := by
  subst hw
  have e0 : i = 0 := by omega
  subst e0
  rfl
theorem invL_1_5 {w i : Nat} (hw : w = 0) (hi : i < 1) : invX (TX w 1 i 5) = (1, i, 5) := by
  subst hw
  have e0 : i = 0 := by omega
  subst e0
  rfl
theorem invL_1_6 {w i : Nat} (hi : i < 1) : invX (TX w 1 i 6) = (1, i, 6) := by
  have e0 : i = 0 := by omega
  subst e0
  rfl
theorem invL_1_7 {w i : Nat} (hi : i < 1) : invX (TX w 1 i 7) = (1, i, 7) := by
  have e0 : i = 0 := by omega
  subst e0
  rfl
theorem invL_1_8 {w i : Nat} (hw : w = 0) (hi : i < 1) : invX (TX w 1 i 8) = (1, i, 8) := by
  subst hw
  have e0 : i = 0 := by omega
  subst e0
  rfl
theorem invL_1_9 {w i : Nat} (hi : i < 1) : invX (TX w 1 i 9) = (1, i, 9) := by
  have e0 : i = 0 := by omega
  subst e0
  rfl
theorem invL_1_10 {w i : Nat} (hi : i < 1) : invX (TX w 1 i 10) = (1, i, 10) := by
  have e0 : i = 0 := by omega
  subst e0
  rfl
theorem invL_1_11 {w i : Nat} (hi : i < 1) : invX (TX w 1 i 11) = (1, i, 11) := by
  have e0 : i = 0 := by omega
  subst e0
  rfl
theorem invX_1 {w i j : Nat} (hi : i < 1) (hj : j < 12) (h : (TX w 1 i j).1 < 3) : invX (TX w 1 i j) = (1, i, j) := by
  by_cases e0 : j = 0
  · subst e0; exact invL_1_0 hi
  by_cases e1 : j = 1
  · subst e1; exact invL_1_1 hi
  by_cases e2 : j = 2
  · subst e2; exact invL_1_2 hi
  by_cases e3 : j = 3
  · subst e3; exact invL_1_3 hi
  by_cases e4 : j = 4
  · subst e4
    by_cases hw : w = 0
    · exact invL_1_4 hw hi
    · have e9 : TX w 1 i 4 = (4, 0, 0) := if_neg hw
      rw [e9] at h
      exact absurd h (by decide)
  by_cases e5 : j = 5
  · subst e5
    by_cases hw : w = 0
    · exact invL_1_5 hw hi
    · have e9 : TX w 1 i 5 = (4, 0, 0) := if_neg hw
      rw [e9] at h
      exact absurd h (by decide)
  by_cases e6 : j = 6
  · subst e6; exact invL_1_6 hi
  by_cases e7 : j = 7
  · subst e7; exact invL_1_7 hi
  by_cases e8 : j = 8
  · subst e8
    by_cases hw : w = 0
    · exact invL_1_8 hw hi
    · have e9 : TX w 1 i 8 = (4, 0, 0) := if_neg hw
      rw [e9] at h
      exact absurd h (by decide)
  by_cases e9 : j = 9
  · subst e9; exact invL_1_9 hi
  by_cases e10 : j = 10
  · subst e10; exact invL_1_10 hi
  by_cases e11 : j = 11
  · subst e11; exact invL_1_11 hi
  have e9 : TX w 1 i j = (4, 0, 0) := by
    show (if j = 0 then ((0, 1, 2116)) else if j = 1 then ((0, 1, 2117)) else if j = 2 then ((0, 1, 2118)) else if j = 3 then ((0, 1, 2119)) else if j = 4 then (if w = 0 then (0, 1, 2120) else (4, 0, 0)) else if j = 5 then (if w = 0 then (0, 1, 2121) else (4, 0, 0)) else if j = 6 then ((0, 1, 2122)) else if j = 7 then ((0, 1, 2123)) else if j = 8 then (if w = 0 then (0, 1, 2131) else (4, 0, 0)) else if j = 9 then ((1, 0, 23)) else if j = 10 then ((1, 0, 24)) else if j = 11 then ((1, 0, 7)) else (4, 0, 0)) = _
    rw [if_neg e0, if_neg e1, if_neg e2, if_neg e3, if_neg e4, if_neg e5, if_neg e6, if_neg e7, if_neg e8, if_neg e9, if_neg e10, if_neg e11]
  rw [e9] at h
  exact absurd h (by decide)
theorem invX_13 {w i j : Nat} (hi : i < 1) (hj : j < 100) (h : (TX w 13 i j).1 < 3) : invX (TX w 13 i j) = (13, i, j) := by
  have e0 : i = 0 := by omega
  subst e0
  show inv1 (1780 + 3 * j + 0) = _
  unfold inv1
  rw [if_neg (by omega), if_neg (by omega), if_neg (by omega), if_neg (by omega), if_neg (by omega), if_pos (by omega), if_pos (by omega)]
  exact t3 rfl (by omega) (by omega)
theorem invX_15 {w i j : Nat} (hi : i < 1) (hj : j < 12) (h : (TX w 15 i j).1 < 3) : invX (TX w 15 i j) = (15, i, j) := by
  have e0 : i = 0 := by omega
  subst e0
  show inv1 (2092 + j) = _
  unfold inv1
  rw [if_neg (by omega), if_neg (by omega), if_neg (by omega), if_neg (by omega), if_neg (by omega), if_neg (by omega), if_neg (by omega), if_pos (by omega)]
  exact t3 rfl (by omega) (by omega)
theorem invX_17 {w i j : Nat} (hi : i < 1) (hj : j < 100) (h : (TX w 17 i j).1 < 3) : invX (TX w 17 i j) = (17, i, j) := by
  have e0 : i = 0 := by omega
  subst e0
  show inv1 (1780 + 3 * j + 1) = _
  unfold inv1
  rw [if_neg (by omega), if_neg (by omega), if_neg (by omega), if_neg (by omega), if_neg (by omega), if_pos (by omega), if_neg (by omega), if_pos (by omega)]
  exact t3 rfl (by omega) (by omega)
theorem invX_18 {w i j : Nat} (hi : i < 1) (hj : j < 96) (h : (TX w 18 i j).1 < 3) : invX (TX w 18 i j) = (18, i, j) := by
  have e0 : i = 0 := by omega
  subst e0
  rfl
theorem invX_19 {w i j : Nat} (hi : i < 1) (hj : j < 96) (h : (TX w 19 i j).1 < 3) : invX (TX w 19 i j) = (19, i, j) := by
  have e0 : i = 0 := by omega
  subst e0
  show inv1 (8 * j + 3) = _
  unfold inv1
  rw [if_pos (by omega), if_neg (by omega), if_neg (by omega), if_pos (by omega)]
  exact t3 rfl (by omega) (by omega)
theorem invX_20 {w i j : Nat} (hi : i < 1) (hj : j < 96) (h : (TX w 20 i j).1 < 3) : invX (TX w 20 i j) = (20, i, j) := by
  have e0 : i = 0 := by omega
  subst e0
  rfl
theorem invX_21 {w i j : Nat} (hi : i < 1) (hj : j < 96) (h : (TX w 21 i j).1 < 3) : invX (TX w 21 i j) = (21, i, j) := by
  have e0 : i = 0 := by omega
  subst e0
  show inv1 (8 * j + 4) = _
  unfold inv1
  rw [if_pos (by omega), if_neg (by omega), if_neg (by omega), if_neg (by omega), if_pos (by omega)]
  exact t3 rfl (by omega) (by omega)
theorem invX_22 {w i j : Nat} (hi : i < 1) (hj : j < 4) (h : (TX w 22 i j).1 < 3) : invX (TX w 22 i j) = (22, i, j) := by
  have e0 : i = 0 := by omega
  subst e0
  show inv1 (2104 + j) = _
  unfold inv1
  rw [if_neg (by omega), if_neg (by omega), if_neg (by omega), if_neg (by omega), if_neg (by omega), if_neg (by omega), if_neg (by omega), if_neg (by omega), if_pos (by omega)]
  exact t3 rfl (by omega) (by omega)
theorem invX_23 {w i j : Nat} (hi : i < 1) (hj : j < 4) (h : (TX w 23 i j).1 < 3) : invX (TX w 23 i j) = (23, i, j) := by
  have e0 : i = 0 := by omega
  subst e0
  show inv1 (2108 + j) = _
  unfold inv1
  rw [if_neg (by omega), if_neg (by omega), if_neg (by omega), if_neg (by omega), if_neg (by omega), if_neg (by omega), if_neg (by omega), if_neg (by omega), if_neg (by omega), if_pos (by omega)]
  exact t3 rfl (by omega) (by omega)
theorem invX_24 {w i j : Nat} (hi : i < 1) (hj : j < 4) (h : (TX w 24 i j).1 < 3) : invX (TX w 24 i j) = (24, i, j) := by
  have e0 : i = 0 := by omega
  subst e0
  show inv1 (2112 + j) = _
  unfold inv1
  rw [if_neg (by omega), if_neg (by omega), if_neg (by omega), if_neg (by omega), if_neg (by omega), if_neg (by omega), if_neg (by omega), if_neg (by omega), if_neg (by omega), if_neg (by omega), if_pos (by omega)]
  exact t3 rfl (by omega) (by omega)
theorem invX_25 {w i j : Nat} (hi : i < 1) (hj : j < 12) (h : (TX w 25 i j).1 < 3) : invX (TX w 25 i j) = (25, i, j) := by
  have e0 : i = 0 := by omega
  subst e0
  show inv1 (2080 + j) = _
  unfold inv1
  rw [if_neg (by omega), if_neg (by omega), if_neg (by omega), if_neg (by omega), if_neg (by omega), if_neg (by omega), if_pos (by omega)]
  exact t3 rfl (by omega) (by omega)
theorem invX_26 {w i j : Nat} (hi : i < 1) (hj : j < 4) (h : (TX w 26 i j).1 < 3) : invX (TX w 26 i j) = (26, i, j) := by
  have e0 : i = 0 := by omega
  subst e0
  rfl
theorem invX_27 {w i j : Nat} (hi : i < 1) (hj : j < 96) (h : (TX w 27 i j).1 < 3) : invX (TX w 27 i j) = (27, i, j) := by
  have e0 : i = 0 := by omega
  subst e0
  rfl
theorem invX_28 {w i j : Nat} (hi : i < 1) (hj : j < 96) (h : (TX w 28 i j).1 < 3) : invX (TX w 28 i j) = (28, i, j) := by
  have e0 : i = 0 := by omega
  subst e0
  rfl
theorem invX_31 {w i j : Nat} (hi : i < 1) (hj : j < 4) (h : (TX w 31 i j).1 < 3) : invX (TX w 31 i j) = (31, i, j) := by
  have e0 : i = 0 := by omega
  subst e0
  rfl
theorem invX_33 {w i j : Nat} (hi : i < 1) (hj : j < 6006) (h : (TX w 33 i j).1 < 3) : invX (TX w 33 i j) = (33, i, j) := by
  have e0 : i = 0 := by omega
  subst e0
  rfl
theorem invL_34_0 {w i : Nat} (hi : i < 96) : invX (TX w 34 i 0) = (34, i, 0) := by
  show inv1 (8 * i + 0) = _
  unfold inv1
  rw [if_pos (by omega), if_pos (by omega)]
  exact t3 rfl (by omega) (by omega)
theorem invL_34_1 {w i : Nat} (hi : i < 96) : invX (TX w 34 i 1) = (34, i, 1) := by
  show inv1 (8 * i + 1) = _
  unfold inv1
  rw [if_pos (by omega), if_neg (by omega), if_pos (by omega)]
  exact t3 rfl (by omega) (by omega)
theorem invL_34_2 {w i : Nat} (hi : i < 96) : invX (TX w 34 i 2) = (34, i, 2) := by
  show inv1 (8 * i + 5) = _
  unfold inv1
  rw [if_pos (by omega), if_neg (by omega), if_neg (by omega), if_neg (by omega), if_neg (by omega), if_pos (by omega)]
  exact t3 rfl (by omega) (by omega)
theorem invL_34_3 {w i : Nat} (hi : i < 96) : invX (TX w 34 i 3) = (34, i, 3) := by
  show inv1 (8 * i + 6) = _
  unfold inv1
  rw [if_pos (by omega), if_neg (by omega), if_neg (by omega), if_neg (by omega), if_neg (by omega), if_neg (by omega)]
  exact t3 rfl (by omega) (by omega)
theorem invX_34 {w i j : Nat} (hi : i < 96) (hj : j < 4) (h : (TX w 34 i j).1 < 3) : invX (TX w 34 i j) = (34, i, j) := by
  by_cases e0 : j = 0
  · subst e0; exact invL_34_0 hi
  by_cases e1 : j = 1
  · subst e1; exact invL_34_1 hi
  by_cases e2 : j = 2
  · subst e2; exact invL_34_2 hi
  by_cases e3 : j = 3
  · subst e3; exact invL_34_3 hi
  have e9 : TX w 34 i j = (4, 0, 0) := by
    show (if j = 0 then ((0, 1, 8 * i + 0)) else if j = 1 then ((0, 1, 8 * i + 1)) else if j = 2 then ((0, 1, 8 * i + 5)) else if j = 3 then ((0, 1, 8 * i + 6)) else (4, 0, 0)) = _
    rw [if_neg e0, if_neg e1, if_neg e2, if_neg e3]
  rw [e9] at h
  exact absurd h (by decide)
theorem invL_35_1 {w i : Nat} (hw : w = 0) (hi : i < 100) : invX (TX w 35 i 1) = (35, i, 1) := by
  subst hw
  show inv1 (768 + 8 * i + 0) = _
  unfold inv1
  rw [if_neg (by omega), if_pos (by omega), if_pos (by omega)]
  exact t3 rfl (by omega) (by omega)
theorem invL_35_2 {w i : Nat} (hi : i < 100) : invX (TX w 35 i 2) = (35, i, 2) := by
  show inv1 (768 + 8 * i + 1) = _
  unfold inv1
  rw [if_neg (by omega), if_pos (by omega), if_neg (by omega), if_pos (by omega)]
  exact t3 rfl (by omega) (by omega)
theorem invL_35_3 {w i : Nat} (hi : i < 100) : invX (TX w 35 i 3) = (35, i, 3) := by
  show inv1 (768 + 8 * i + 2) = _
  unfold inv1
  rw [if_neg (by omega), if_pos (by omega), if_neg (by omega), if_neg (by omega), if_pos (by omega)]
  exact t3 rfl (by omega) (by omega)
theorem invL_35_4 {w i : Nat} (hi : i < 100) : invX (TX w 35 i 4) = (35, i, 4) := by
  show inv1 (768 + 8 * i + 3) = _
  unfold inv1
  rw [if_neg (by omega), if_pos (by omega), if_neg (by omega), if_neg (by omega), if_neg (by omega), if_pos (by omega)]
  exact t3 rfl (by omega) (by omega)
theorem invL_35_5 {w i : Nat} (hi : i < 100) : invX (TX w 35 i 5) = (35, i, 5) := by
  rfl
theorem invL_35_6 {w i : Nat} (hi : i < 100) : invX (TX w 35 i 6) = (35, i, 6) := by
  rfl
theorem invL_35_7 {w i : Nat} (hi : i < 100) : invX (TX w 35 i 7) = (35, i, 7) := by
  show inv1 (768 + 8 * i + 6) = _
  unfold inv1
  rw [if_neg (by omega), if_pos (by omega), if_neg (by omega), if_neg (by omega), if_neg (by omega), if_neg (by omega), if_pos (by omega)]
  exact t3 rfl (by omega) (by omega)
theorem invL_35_8 {w i : Nat} (hi : i < 100) : invX (TX w 35 i 8) = (35, i, 8) := by
  show inv1 (768 + 8 * i + 4) = _
  unfold inv1
  rw [if_neg (by omega), if_pos (by omega), if_neg (by omega), if_neg (by omega), if_neg (by omega), if_neg (by omega), if_neg (by omega), if_pos (by omega)]
  exact t3 rfl (by omega) (by omega)
theorem invL_35_9 {w i : Nat} (hi : i < 100) : invX (TX w 35 i 9) = (35, i, 9) := by
  show inv1 (768 + 8 * i + 5) = _
  unfold inv1
  rw [if_neg (by omega), if_pos (by omega), if_neg (by omega), if_neg (by omega), if_neg (by omega), if_neg (by omega), if_neg (by omega), if_neg (by omega)]
  exact t3 rfl (by omega) (by omega)
theorem invX_35 {w i j : Nat} (hi : i < 100) (hj : j < 10) (h : (TX w 35 i j).1 < 3) : invX (TX w 35 i j) = (35, i, j) := by
  by_cases e0 : j = 0
  · subst e0; exact absurd (show (3 : Nat) < 3 from h) (by decide)
  by_cases e1 : j = 1
  · subst e1
    by_cases hw : w = 0
    · exact invL_35_1 hw hi
    · have e9 : TX w 35 i 1 = (4, 0, 0) := if_neg hw
      rw [e9] at h
      exact absurd h (by decide)
  by_cases e2 : j = 2
  · subst e2; exact invL_35_2 hi
  by_cases e3 : j = 3
  · subst e3; exact invL_35_3 hi
  by_cases e4 : j = 4
  · subst e4; exact invL_35_4 hi
  by_cases e5 : j = 5
  · subst e5; exact invL_35_5 hi
  by_cases e6 : j = 6
  · subst e6; exact invL_35_6 hi
  by_cases e7 : j = 7
  · subst e7; exact invL_35_7 hi
  by_cases e8 : j = 8
  · subst e8; exact invL_35_8 hi
  by_cases e9 : j = 9
  · subst e9; exact invL_35_9 hi
  have e9 : TX w 35 i j = (4, 0, 0) := by
    show (if j = 0 then ((3, 0, i)) else if j = 1 then (if w = 0 then (0, 1, 768 + 8 * i + 0) else (4, 0, 0)) else if j = 2 then ((0, 1, 768 + 8 * i + 1)) else if j = 3 then ((0, 1, 768 + 8 * i + 2)) else if j = 4 then ((0, 1, 768 + 8 * i + 3)) else if j = 5 then ((2, 0, i)) else if j = 6 then ((2, 1, i)) else if j = 7 then ((0, 1, 768 + 8 * i + 6)) else if j = 8 then ((0, 1, 768 + 8 * i + 4)) else if j = 9 then ((0, 1, 768 + 8 * i + 5)) else (4, 0, 0)) = _
    rw [if_neg e0, if_neg e1, if_neg e2, if_neg e3, if_neg e4, if_neg e5, if_neg e6, if_neg e7, if_neg e8, if_neg e9]
  rw [e9] at h
  exact absurd h (by decide)
theorem invL_36_0 {w i : Nat} (hi : i < 4) : invX (TX w 36 i 0) = (36, i, 0) := by
  show inv1 (1720 + 15 * i + 0) = _
  unfold inv1
  rw [if_neg (by omega), if_neg (by omega), if_neg (by omega), if_neg (by omega), if_pos (by omega)]
  exact t3 rfl (by omega) (by omega)
theorem invL_36_1 {w i : Nat} (hi : i < 4) : invX (TX w 36 i 1) = (36, i, 1) := by
  show inv1 (1720 + 15 * i + 1) = _
  unfold inv1
  rw [if_neg (by omega), if_neg (by omega), if_neg (by omega), if_neg (by omega), if_pos (by omega)]
  exact t3 rfl (by omega) (by omega)
theorem invL_36_2 {w i : Nat} (hi : i < 4) : invX (TX w 36 i 2) = (36, i, 2) := by
  show inv1 (1720 + 15 * i + 2) = _
  unfold inv1
  rw [if_neg (by omega), if_neg (by omega), if_neg (by omega), if_neg (by omega), if_pos (by omega)]
  exact t3 rfl (by omega) (by omega)
theorem invX_36 {w i j : Nat} (hi : i < 4) (hj : j < 3) (h : (TX w 36 i j).1 < 3) : invX (TX w 36 i j) = (36, i, j) := by
  by_cases e0 : j = 0
  · subst e0; exact invL_36_0 hi
  by_cases e1 : j = 1
  · subst e1; exact invL_36_1 hi
  by_cases e2 : j = 2
  · subst e2; exact invL_36_2 hi
  have e9 : TX w 36 i j = (4, 0, 0) := by
    show (if j = 0 then ((0, 1, 1720 + 15 * i + 0)) else if j = 1 then ((0, 1, 1720 + 15 * i + 1)) else if j = 2 then ((0, 1, 1720 + 15 * i + 2)) else (4, 0, 0)) = _
    rw [if_neg e0, if_neg e1, if_neg e2]
  rw [e9] at h
  exact absurd h (by decide)
theorem invX_37 {w i j : Nat} (hi : i < 4) (hj : j < 12) (h : (TX w 37 i j).1 < 3) : invX (TX w 37 i j) = (37, i, j) := by
  rcases (by omega : i = 0 ∨ i = 1 ∨ i = 2 ∨ i = 3) with e | e | e | e <;> subst e <;> rfl
theorem invL_38_1 {w i : Nat} (hi : i < 12) : invX (TX w 38 i 1) = (38, i, 1) := by
  show inv1 (1568 + 6 * i + 0) = _
  unfold inv1
  rw [if_neg (by omega), if_neg (by omega), if_pos (by omega), if_pos (by omega)]
  exact t3 rfl (by omega) (by omega)
theorem invL_38_2 {w i : Nat} (hi : i < 12) : invX (TX w 38 i 2) = (38, i, 2) := by
  rfl
theorem invL_38_3 {w i : Nat} (hi : i < 12) : invX (TX w 38 i 3) = (38, i, 3) := by
  rfl
theorem invL_38_4 {w i : Nat} (hi : i < 12) : invX (TX w 38 i 4) = (38, i, 4) := by
  rfl
theorem invL_38_5 {w i : Nat} (hw : w = 0) (hi : i < 12) : invX (TX w 38 i 5) = (38, i, 5) := by
  subst hw
  show inv1 (1568 + 6 * i + 1) = _
  unfold inv1
  rw [if_neg (by omega), if_neg (by omega), if_pos (by omega), if_neg (by omega), if_pos (by omega)]
  exact t3 rfl (by omega) (by omega)
theorem invL_38_6 {w i : Nat} (hw : w = 0) (hi : i < 12) : invX (TX w 38 i 6) = (38, i, 6) := by
  subst hw
  show inv1 (1568 + 6 * i + 2) = _
  unfold inv1
  rw [if_neg (by omega), if_neg (by omega), if_pos (by omega), if_neg (by omega), if_neg (by omega)]
  exact t3 rfl (by omega) (by omega)
theorem invL_38_7 {w i : Nat} (hi : i < 12) : invX (TX w 38 i 7) = (38, i, 7) := by
  rfl
theorem invX_38 {w i j : Nat} (hi : i < 12) (hj : j < 8) (h : (TX w 38 i j).1 < 3) : invX (TX w 38 i j) = (38, i, j) := by
  by_cases e1 : j = 1
  · subst e1; exact invL_38_1 hi
  by_cases e2 : j = 2
  · subst e2; exact invL_38_2 hi
  by_cases e3 : j = 3
  · subst e3; exact invL_38_3 hi
  by_cases e4 : j = 4
  · subst e4; exact invL_38_4 hi
  by_cases e5 : j = 5
  · subst e5
    by_cases hw : w = 0
    · exact invL_38_5 hw hi
    · have e9 : TX w 38 i 5 = (4, 0, 0) := if_neg hw
      rw [e9] at h
      exact absurd h (by decide)
  by_cases e6 : j = 6
  · subst e6
    by_cases hw : w = 0
    · exact invL_38_6 hw hi
    · have e9 : TX w 38 i 6 = (4, 0, 0) := if_neg hw
      rw [e9] at h
      exact absurd h (by decide)
  by_cases e7 : j = 7
  · subst e7; exact invL_38_7 hi
  have e9 : TX w 38 i j = (4, 0, 0) := by
    show (if j = 1 then ((0, 1, 1568 + 6 * i + 0)) else if j = 2 then ((2, 4, i)) else if j = 3 then ((2, 5, i)) else if j = 4 then ((2, 6, i)) else if j = 5 then (if w = 0 then (0, 1, 1568 + 6 * i + 1) else (4, 0, 0)) else if j = 6 then (if w = 0 then (0, 1, 1568 + 6 * i + 2) else (4, 0, 0)) else if j = 7 then ((2, 15, i)) else (4, 0, 0)) = _
    rw [if_neg e1, if_neg e2, if_neg e3, if_neg e4, if_neg e5, if_neg e6, if_neg e7]
  rw [e9] at h
  exact absurd h (by decide)
theorem invX_39 {w i j : Nat} (hi : i < 12) (hj : j < 100) (h : (TX w 39 i j).1 < 3) : invX (TX w 39 i j) = (39, i, j) := by
  refine (Classical.em (¬ w = 0)).elim (fun hw => ?_) (fun hw9 => ?_)
  · have e9 : TX w 39 i j = (4, 0, 0) := if_neg hw
    rw [e9] at h
    exact absurd h (by decide)
  have hw := Classical.not_not.mp hw9
  subst hw
  show ((39, (100 * i + j) / 100, (100 * i + j) % 100) : Nat × Nat × Nat) = _
  exact t3 rfl (by omega) (by omega)
theorem invL_40_0 {w i : Nat} (hi : i < 20) : invX (TX w 40 i 0) = (40, i, 0) := by
  show inv1 (1640 + 4 * i + 0) = _
  unfold inv1
  rw [if_neg (by omega), if_neg (by omega), if_neg (by omega), if_pos (by omega), if_pos (by omega)]
  exact t3 rfl (by omega) (by omega)
theorem invL_40_1 {w i : Nat} (hi : i < 20) : invX (TX w 40 i 1) = (40, i, 1) := by
  rfl
theorem invL_40_2 {w i : Nat} (hi : i < 20) : invX (TX w 40 i 2) = (40, i, 2) := by
  show inv1 (1640 + 4 * i + 1) = _
  unfold inv1
  rw [if_neg (by omega), if_neg (by omega), if_neg (by omega), if_pos (by omega), if_neg (by omega), if_pos (by omega)]
  exact t3 rfl (by omega) (by omega)
theorem invL_40_3 {w i : Nat} (hi : i < 20) : invX (TX w 40 i 3) = (40, i, 3) := by
  show inv1 (1640 + 4 * i + 2) = _
  unfold inv1
  rw [if_neg (by omega), if_neg (by omega), if_neg (by omega), if_pos (by omega), if_neg (by omega), if_neg (by omega)]
  exact t3 rfl (by omega) (by omega)
theorem invX_40 {w i j : Nat} (hi : i < 20) (hj : j < 4) (h : (TX w 40 i j).1 < 3) : invX (TX w 40 i j) = (40, i, j) := by
  by_cases e0 : j = 0
  · subst e0; exact invL_40_0 hi
  by_cases e1 : j = 1
  · subst e1; exact invL_40_1 hi
  by_cases e2 : j = 2
  · subst e2; exact invL_40_2 hi
  by_cases e3 : j = 3
  · subst e3; exact invL_40_3 hi
  have e9 : TX w 40 i j = (4, 0, 0) := by
    show (if j = 0 then ((0, 1, 1640 + 4 * i + 0)) else if j = 1 then ((2, 16, i)) else if j = 2 then ((0, 1, 1640 + 4 * i + 1)) else if j = 3 then ((0, 1, 1640 + 4 * i + 2)) else (4, 0, 0)) = _
    rw [if_neg e0, if_neg e1, if_neg e2, if_neg e3]
  rw [e9] at h
  exact absurd h (by decide)
theorem invX_41 {w i j : Nat} (hi : i < 1) (hj : j < 300) (h : (TX w 41 i j).1 < 3) : invX (TX w 41 i j) = (41, i, j) := by
  have e0 : i = 0 := by omega
  subst e0
  rfl
theorem invX_42 {w i j : Nat} (hi : i < 1) (hj : j < 100) (h : (TX w 42 i j).1 < 3) : invX (TX w 42 i j) = (42, i, j) := by
  have e0 : i = 0 := by omega
  subst e0
  show inv1 (1780 + 3 * j + 2) = _
  unfold inv1
  rw [if_neg (by omega), if_neg (by omega), if_neg (by omega), if_neg (by omega), if_neg (by omega), if_pos (by omega), if_neg (by omega), if_neg (by omega)]
  exact t3 rfl (by omega) (by omega)
theorem invX_43 {w i j : Nat} (hi : i < 1) (hj : j < 3) (h : (TX w 43 i j).1 < 3) : invX (TX w 43 i j) = (43, i, j) := by
  have e0 : i = 0 := by omega
  subst e0
  rfl
theorem invX_44 {w i j : Nat} (hi : i < 1) (hj : j < 3) (h : (TX w 44 i j).1 < 3) : invX (TX w 44 i j) = (44, i, j) := by
  have e0 : i = 0 := by omega
  subst e0
  rfl
theorem invX_45 {w i j : Nat} (hi : i < 1) (hj : j < 2) (h : (TX w 45 i j).1 < 3) : invX (TX w 45 i j) = (45, i, j) := by
  have e0 : i = 0 := by omega
  subst e0
  rfl
theorem invX_46 {w i j : Nat} (hi : i < 1) (hj : j < 2) (h : (TX w 46 i j).1 < 3) : invX (TX w 46 i j) = (46, i, j) := by
  have e0 : i = 0 := by omega
  subst e0
  rfl
theorem invX_47 {w i j : Nat} (hi : i < 1) (hj : j < 196) (h : (TX w 47 i j).1 < 3) : invX (TX w 47 i j) = (47, i, j) := by
  have e0 : i = 0 := by omega
  subst e0
  rfl
