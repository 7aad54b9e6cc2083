set_option maxRecDepth 100000
def ixC (k w i : Nat) : Nat :=
  match k with
  | 1 => if w = 0 then 0 else 124
  | 2 => if w = 0 then 1 else 125
  | 3 => if w = 0 then 2 else 126
  | 4 => if w = 0 then 13 else 137
  | 5 => if w = 0 then 14 else 138
  | 6 => if w = 0 then 15 else 139
  | 7 => if w = 0 then 16 else 140
  | 8 => if w = 0 then 17 else 141
  | 9 => if w = 0 then 18 else 142
  | 10 => if w = 0 then 19 else 143
  | 11 => if w = 0 then 20 else 144
  | 18 => if w = 0 then 3 else 127
  | 19 => if w = 0 then 4 else 128
  | 20 => if w = 0 then 5 else 129
  | 21 => if w = 0 then 6 else 130
  | 22 => if w = 0 then 9 else 133
  | 23 => if w = 0 then 10 else 134
  | 24 => if w = 0 then 11 else 135
  | 25 => if w = 0 then 12 else 136
  | 26 => if w = 0 then 21 else 145
  | 48 => if w = 0 then 7 else 131
  | 49 => if w = 0 then 8 else 132
  | 27 => 22
  | 28 => 23
  | 29 => 24
  | 30 => 25
  | 31 => 26
  | 33 => 27
  | 12 => 243
  | 13 => 244
  | 14 => 245
  | 15 => 246
  | 16 => 247
  | 17 => 248
  | 41 => 242
  | 42 => 249
  | 43 => 250
  | 44 => 251
  | 45 => 252
  | 46 => 253
  | 47 => 254
  | 34 => if w = 0 then 28 + i else 146 + i
  | _ => 255
def xiT (n : Nat) : Nat × Nat × Nat :=
  match n with
  | 0 => (1, 0, 0)
  | 124 => (1, 1, 0)
  | 1 => (2, 0, 0)
  | 125 => (2, 1, 0)
  | 2 => (3, 0, 0)
  | 126 => (3, 1, 0)
  | 13 => (4, 0, 0)
  | 137 => (4, 1, 0)
  | 14 => (5, 0, 0)
  | 138 => (5, 1, 0)
  | 15 => (6, 0, 0)
  | 139 => (6, 1, 0)
  | 16 => (7, 0, 0)
  | 140 => (7, 1, 0)
  | 17 => (8, 0, 0)
  | 141 => (8, 1, 0)
  | 18 => (9, 0, 0)
  | 142 => (9, 1, 0)
  | 19 => (10, 0, 0)
  | 143 => (10, 1, 0)
  | 20 => (11, 0, 0)
  | 144 => (11, 1, 0)
  | 3 => (18, 0, 0)
  | 127 => (18, 1, 0)
  | 4 => (19, 0, 0)
  | 128 => (19, 1, 0)
  | 5 => (20, 0, 0)
  | 129 => (20, 1, 0)
  | 6 => (21, 0, 0)
  | 130 => (21, 1, 0)
  | 9 => (22, 0, 0)
  | 133 => (22, 1, 0)
  | 10 => (23, 0, 0)
  | 134 => (23, 1, 0)
  | 11 => (24, 0, 0)
  | 135 => (24, 1, 0)
  | 12 => (25, 0, 0)
  | 136 => (25, 1, 0)
  | 21 => (26, 0, 0)
  | 145 => (26, 1, 0)
  | 7 => (48, 0, 0)
  | 131 => (48, 1, 0)
  | 8 => (49, 0, 0)
  | 132 => (49, 1, 0)
  | 22 => (27, 0, 0)
  | 23 => (28, 0, 0)
  | 24 => (29, 0, 0)
  | 25 => (30, 0, 0)
  | 26 => (31, 0, 0)
  | 27 => (33, 0, 0)
  | 243 => (12, 0, 0)
  | 244 => (13, 0, 0)
  | 245 => (14, 0, 0)
  | 246 => (15, 0, 0)
  | 247 => (16, 0, 0)
  | 248 => (17, 0, 0)
  | 242 => (41, 0, 0)
  | 249 => (42, 0, 0)
  | 250 => (43, 0, 0)
  | 251 => (44, 0, 0)
  | 252 => (45, 0, 0)
  | 253 => (46, 0, 0)
  | 254 => (47, 0, 0)
  | _ => (99, 0, 0)
def xiC (n : Nat) : Nat × Nat × Nat := if 28 ≤ n ∧ n < 124 then (34, 0, n - 28) else if 146 ≤ n ∧ n < 242 then (34, 1, n - 146) else xiT n
def AiC (q : Nat) (ad : Nat → Nat) : XA := fun k w i => if k = 0 then q else ad (ixC k w i)
/-- the start's sizes, ints, the class's own numbers -/
def S0C (q : Nat) : Nat → Nat → Nat := fun k _ => if k = 2 then 96 else if k = 59 then q else 0
def rBC (k w _i : Nat) : Nat → Int32 :=
  match k with
  | 0 => fun j => if j = 3 then -1 else 0
  | 1 => fun j => if j = 1 then nI 500 else if j = 2 then nI 200 else if j = 10 then -1 else if j = 11 then -1 else 0
  | 18 => if w = 0 then (fun j => if j < 96 then nI 7 else 0) else fun _ => 0
  | 20 => if w = 0 then (fun j => if j < 96 then -1 else 0) else fun _ => 0
  | 25 => if w = 0 then (fun j => if j < 12 then -1 else 0) else fun _ => 0
  | 27 => fun j => if j < 96 then nI 5 else 0
  | 34 => fun j => if j = 1 ∨ j = 2 ∨ j = 3 then -1 else 0
  | _ => fun _ => 0
def e0C : XE := fun a _ => if a = 2 then nI 7 else if a = 3 then -1 else 0
abbrev σ0C : MS := iniS 96 12 96 1
def b0C (q : Nat) : XS := (rBC, S0C q, fun _ => 0, fun _ _ => 0)
theorem ini_row {j : Nat} : row σ0C j = iniR 96 12 1 j := rfl
theorem ini_0 {j : Nat} (h : j < 768) (h2 : ¬ (j % 8 = 1 ∨ j % 8 = 5 ∨ j % 8 = 6)) : row σ0C j = 0 := by
  rw [ini_row]; unfold iniR
  rw [if_neg (fun z => h2 z.2), if_neg (by omega), if_neg (by omega), if_neg (by omega)]
theorem ini_m {j : Nat} (h : j < 768) (h2 : j % 8 = 1 ∨ j % 8 = 5 ∨ j % 8 = 6) : row σ0C j = -1 := by
  rw [ini_row]; unfold iniR
  rw [if_pos ⟨h, h2⟩]
theorem ini_z {j : Nat} (h : 768 ≤ j) (h2 : j ≠ 2117) (h3 : j ≠ 2118) (h4 : ¬ (2080 ≤ j ∧ j < 2092)) : row σ0C j = 0 := by
  rw [ini_row]; unfold iniR
  rw [if_neg (by omega), if_neg (by omega), if_neg (by omega), if_neg (by omega)]
theorem ini_ac {j : Nat} (h4 : 2080 ≤ j ∧ j < 2092) : row σ0C j = -1 := by
  rw [ini_row]; unfold iniR
  rw [if_neg (by omega), if_neg (by omega), if_neg (by omega), if_pos (by omega)]
theorem ini_a {k j : Nat} (h1 : k ≠ 1) (h3 : k ≠ 3) (h10 : k ≠ 10) : σ0C.2.1 k j = 0 := ini_e h1 h3 h10
set_option maxHeartbeats 1000000 in
theorem ini_vx {q : Nat} : VX 0 (S0C q) (b0C q) σ0C e0C = rBC := by
  funext k w i j
  simp only [VX]
  by_cases hc : w = wkX 0 k ∧ i < iNX (S0C q) 0 k ∧ j < jNX k
  · rw [if_pos hc]
    obtain ⟨hw, hi, hj⟩ := hc
    have hw0 : w = 0 := by rw [hw]; unfold wkX; split <;> rfl
    subst hw0
    clear hw
    match k, hi, hj with
    | 0, hi, hj =>
      have i0 : i = 0 := by simp [iNX, cNX, S0C, wNX] at hi; omega
      subst i0
      have hj : j < 19 := hj
      rcases (by omega : j = 0 ∨ j = 1 ∨ j = 2 ∨ j = 3 ∨ j = 4 ∨ j = 5 ∨ j = 6 ∨ j = 7 ∨ j = 8 ∨ j = 9 ∨ j = 10 ∨ j = 11 ∨ j = 12 ∨ j = 13 ∨ j = 14 ∨ j = 15 ∨ j = 16 ∨ j = 17 ∨ j = 18) with rfl | rfl | rfl | rfl | rfl | rfl | rfl | rfl | rfl | rfl | rfl | rfl | rfl | rfl | rfl | rfl | rfl | rfl | rfl
      · rfl
      · rfl
      · rfl
      · rfl
      · rfl
      · rfl
      · rfl
      · rfl
      · rfl
      · rfl
      · rfl
      · rfl
      · rfl
      · rfl
      · rfl
      · rfl
      · rfl
      · rfl
      · rfl
    | 1, hi, hj =>
      have i0 : i = 0 := by simp [iNX, cNX, S0C, wNX] at hi; omega
      subst i0
      have hj : j < 12 := hj
      rcases (by omega : j = 0 ∨ j = 1 ∨ j = 2 ∨ j = 3 ∨ j = 4 ∨ j = 5 ∨ j = 6 ∨ j = 7 ∨ j = 8 ∨ j = 9 ∨ j = 10 ∨ j = 11) with rfl | rfl | rfl | rfl | rfl | rfl | rfl | rfl | rfl | rfl | rfl | rfl
      · rfl
      · rfl
      · rfl
      · rfl
      · rfl
      · rfl
      · rfl
      · rfl
      · rfl
      · rfl
      · rfl
      · rfl
    | 13, hi, hj =>
      have i0 : i = 0 := by simp [iNX, cNX, S0C, wNX] at hi; omega
      subst i0
      have hj : j < 100 := hj
      exact ini_z (j := 1780 + 3 * j + 0) (by omega) (by omega) (by omega) (by omega)
    | 15, hi, hj =>
      have i0 : i = 0 := by simp [iNX, cNX, S0C, wNX] at hi; omega
      subst i0
      have hj : j < 12 := hj
      exact ini_z (j := 2092 + j) (by omega) (by omega) (by omega) (by omega)
    | 17, hi, hj =>
      have i0 : i = 0 := by simp [iNX, cNX, S0C, wNX] at hi; omega
      subst i0
      have hj : j < 100 := hj
      exact ini_z (j := 1780 + 3 * j + 1) (by omega) (by omega) (by omega) (by omega)
    | 18, hi, hj =>
      have i0 : i = 0 := by simp [iNX, cNX, S0C, wNX] at hi; omega
      subst i0
      have hj : j < 96 := hj
      exact (if_pos (show j < 96 from hj)).symm
    | 19, hi, hj =>
      have i0 : i = 0 := by simp [iNX, cNX, S0C, wNX] at hi; omega
      subst i0
      have hj : j < 96 := hj
      exact ini_0 (j := 8 * j + 3) (by omega) (by omega)
    | 20, hi, hj =>
      have i0 : i = 0 := by simp [iNX, cNX, S0C, wNX] at hi; omega
      subst i0
      have hj : j < 96 := hj
      exact (if_pos (show j < 96 from hj)).symm
    | 21, hi, hj =>
      have i0 : i = 0 := by simp [iNX, cNX, S0C, wNX] at hi; omega
      subst i0
      have hj : j < 96 := hj
      exact ini_0 (j := 8 * j + 4) (by omega) (by omega)
    | 22, hi, hj =>
      have i0 : i = 0 := by simp [iNX, cNX, S0C, wNX] at hi; omega
      subst i0
      have hj : j < 4 := hj
      exact ini_z (j := 2104 + j) (by omega) (by omega) (by omega) (by omega)
    | 23, hi, hj =>
      have i0 : i = 0 := by simp [iNX, cNX, S0C, wNX] at hi; omega
      subst i0
      have hj : j < 4 := hj
      exact ini_z (j := 2108 + j) (by omega) (by omega) (by omega) (by omega)
    | 24, hi, hj =>
      have i0 : i = 0 := by simp [iNX, cNX, S0C, wNX] at hi; omega
      subst i0
      have hj : j < 4 := hj
      exact ini_z (j := 2112 + j) (by omega) (by omega) (by omega) (by omega)
    | 25, hi, hj =>
      have i0 : i = 0 := by simp [iNX, cNX, S0C, wNX] at hi; omega
      subst i0
      have hj : j < 12 := hj
      exact (ini_ac (j := 2080 + j) (by omega)).trans (if_pos (show j < 12 from hj)).symm
    | 26, hi, hj =>
      have i0 : i = 0 := by simp [iNX, cNX, S0C, wNX] at hi; omega
      subst i0
      have hj : j < 4 := hj
      rfl
    | 27, hi, hj =>
      have i0 : i = 0 := by simp [iNX, cNX, S0C, wNX] at hi; omega
      subst i0
      have hj : j < 96 := hj
      exact ((ini_3 (a := 96) (j := j)).trans (if_pos hj)).trans (if_pos (show j < 96 from hj)).symm
    | 28, hi, hj =>
      have i0 : i = 0 := by simp [iNX, cNX, S0C, wNX] at hi; omega
      subst i0
      have hj : j < 96 := hj
      exact ini_a (k := 4) (j := j) (by decide) (by decide) (by decide)
    | 31, hi, hj =>
      have i0 : i = 0 := by simp [iNX, cNX, S0C, wNX] at hi; omega
      subst i0
      have hj : j < 4 := hj
      exact ini_a (k := 6) (j := j) (by decide) (by decide) (by decide)
    | 33, hi, hj =>
      have i0 : i = 0 := by simp [iNX, cNX, S0C, wNX] at hi; omega
      subst i0
      have hj : j < 6006 := hj
      rfl
    | 34, hi, hj =>
      have hi : i < 96 := by simpa [iNX, cNX, S0C, wNX] using hi
      have hj : j < 4 := hj
      rcases (by omega : j = 0 ∨ j = 1 ∨ j = 2 ∨ j = 3) with rfl | rfl | rfl | rfl
      · exact ini_0 (j := 8 * i + 0) (by omega) (by omega)
      · exact ini_m (j := 8 * i + 1) (by omega) (by omega)
      · exact ini_m (j := 8 * i + 5) (by omega) (by omega)
      · exact ini_m (j := 8 * i + 6) (by omega) (by omega)
    | 35, hi, hj => exact absurd hi (by simp [iNX, cNX, S0C, wNX])
    | 36, hi, hj => exact absurd hi (by simp [iNX, cNX, S0C, wNX])
    | 37, hi, hj => exact absurd hi (by simp [iNX, cNX, S0C, wNX])
    | 38, hi, hj => exact absurd hi (by simp [iNX, cNX, S0C, wNX])
    | 39, hi, hj => exact absurd hi (by simp [iNX, cNX, S0C, wNX])
    | 40, hi, hj => exact absurd hi (by simp [iNX, cNX, S0C, wNX])
    | 41, hi, hj =>
      have i0 : i = 0 := by simp [iNX, cNX, S0C, wNX] at hi; omega
      subst i0
      have hj : j < 300 := hj
      exact ini_a (k := 7) (j := j) (by decide) (by decide) (by decide)
    | 42, hi, hj =>
      have i0 : i = 0 := by simp [iNX, cNX, S0C, wNX] at hi; omega
      subst i0
      have hj : j < 100 := hj
      exact ini_z (j := 1780 + 3 * j + 2) (by omega) (by omega) (by omega) (by omega)
    | 43, hi, hj =>
      have i0 : i = 0 := by simp [iNX, cNX, S0C, wNX] at hi; omega
      subst i0
      have hj : j < 3 := hj
      exact ini_a (k := 15) (j := j) (by decide) (by decide) (by decide)
    | 44, hi, hj =>
      have i0 : i = 0 := by simp [iNX, cNX, S0C, wNX] at hi; omega
      subst i0
      have hj : j < 3 := hj
      exact ini_a (k := 16) (j := j) (by decide) (by decide) (by decide)
    | 45, hi, hj =>
      have i0 : i = 0 := by simp [iNX, cNX, S0C, wNX] at hi; omega
      subst i0
      have hj : j < 2 := hj
      rfl
    | 46, hi, hj =>
      have i0 : i = 0 := by simp [iNX, cNX, S0C, wNX] at hi; omega
      subst i0
      have hj : j < 2 := hj
      rfl
    | 47, hi, hj =>
      have i0 : i = 0 := by simp [iNX, cNX, S0C, wNX] at hi; omega
      subst i0
      have hj : j < 196 := hj
      exact ini_a (k := 17) (j := j) (by decide) (by decide) (by decide)
    | 2, hi, hj => rfl
    | 3, hi, hj => rfl
    | 4, hi, hj => rfl
    | 5, hi, hj => rfl
    | 6, hi, hj => rfl
    | 7, hi, hj => rfl
    | 8, hi, hj => rfl
    | 9, hi, hj => rfl
    | 10, hi, hj => rfl
    | 11, hi, hj => rfl
    | 12, hi, hj => rfl
    | 14, hi, hj => rfl
    | 16, hi, hj => rfl
    | 29, hi, hj => rfl
    | 30, hi, hj => rfl
    | 32, hi, hj => rfl
    | k9 + 48, hi, hj => rfl
  · rw [if_neg hc]
    rfl
theorem hz0C {q : Nat} : SzX 0 (S0C q) := ⟨by decide, Nat.le_of_ble_eq_true rfl, Nat.le_of_ble_eq_true rfl, Nat.le_of_ble_eq_true rfl, Nat.le_of_ble_eq_true rfl, rfl, rfl, Nat.le_refl _, fun z => absurd z (by decide)⟩
def τ0C (ad : Nat → Nat) : XT := (fun a => if a = ad 7 ∨ a = ad 131 then some (.inr (37, [])) else if a = ad 8 ∨ a = ad 132 then some (.inr (38, [])) else none, fun w _ => if w = 0 then ad 7 else ad 131, fun k _ => if k = 2 then 96 else if k = 4 then 8 else if k = 6 ∨ k = 8 ∨ k = 10 then 2 else if k = 12 ∨ k = 14 ∨ k = 16 then 4 else 1, fun k _ => if k = 2 then nI 96 else 0)
def dn0C : XD := fun _ => (fun _ => none, 0)
theorem no_l {f : Nat → Option Nat} : (fun j => if j < 0 then f j else none) = (fun _ => none : Nat → Option Nat) := by
  funext j
  exact if_neg (Nat.not_lt_zero _)
set_option maxHeartbeats 1000000 in
theorem ixC_ok {q k w i : Nat} (hl : LvX (S0C q) k w i) (h0 : k ≠ 0) : ixC k w i < 255 ∧ xiC (ixC k w i) = (k, w, i) ∧ ixC k w i ≠ 7 ∧ ixC k w i ≠ 8 ∧ ixC k w i ≠ 131 ∧ ixC k w i ≠ 132 := by
  obtain ⟨hw, hi, h32⟩ := hl
  match k, hw, hi, h32, h0 with
  | 1, hw, hi, h32, h0 =>
    have i0 : i = 0 := by simp [cNX] at hi; omega
    subst i0
    have hw : w < 2 := hw
    rcases (by omega : w = 0 ∨ w = 1) with rfl | rfl
    · exact ⟨by decide, rfl, by decide, by decide, by decide, by decide⟩
    · exact ⟨by decide, rfl, by decide, by decide, by decide, by decide⟩
  | 2, hw, hi, h32, h0 =>
    have i0 : i = 0 := by simp [cNX] at hi; omega
    subst i0
    have hw : w < 2 := hw
    rcases (by omega : w = 0 ∨ w = 1) with rfl | rfl
    · exact ⟨by decide, rfl, by decide, by decide, by decide, by decide⟩
    · exact ⟨by decide, rfl, by decide, by decide, by decide, by decide⟩
  | 3, hw, hi, h32, h0 =>
    have i0 : i = 0 := by simp [cNX] at hi; omega
    subst i0
    have hw : w < 2 := hw
    rcases (by omega : w = 0 ∨ w = 1) with rfl | rfl
    · exact ⟨by decide, rfl, by decide, by decide, by decide, by decide⟩
    · exact ⟨by decide, rfl, by decide, by decide, by decide, by decide⟩
  | 4, hw, hi, h32, h0 =>
    have i0 : i = 0 := by simp [cNX] at hi; omega
    subst i0
    have hw : w < 2 := hw
    rcases (by omega : w = 0 ∨ w = 1) with rfl | rfl
    · exact ⟨by decide, rfl, by decide, by decide, by decide, by decide⟩
    · exact ⟨by decide, rfl, by decide, by decide, by decide, by decide⟩
  | 5, hw, hi, h32, h0 =>
    have i0 : i = 0 := by simp [cNX] at hi; omega
    subst i0
    have hw : w < 2 := hw
    rcases (by omega : w = 0 ∨ w = 1) with rfl | rfl
    · exact ⟨by decide, rfl, by decide, by decide, by decide, by decide⟩
    · exact ⟨by decide, rfl, by decide, by decide, by decide, by decide⟩
  | 6, hw, hi, h32, h0 =>
    have i0 : i = 0 := by simp [cNX] at hi; omega
    subst i0
    have hw : w < 2 := hw
    rcases (by omega : w = 0 ∨ w = 1) with rfl | rfl
    · exact ⟨by decide, rfl, by decide, by decide, by decide, by decide⟩
    · exact ⟨by decide, rfl, by decide, by decide, by decide, by decide⟩
  | 7, hw, hi, h32, h0 =>
    have i0 : i = 0 := by simp [cNX] at hi; omega
    subst i0
    have hw : w < 2 := hw
    rcases (by omega : w = 0 ∨ w = 1) with rfl | rfl
    · exact ⟨by decide, rfl, by decide, by decide, by decide, by decide⟩
    · exact ⟨by decide, rfl, by decide, by decide, by decide, by decide⟩
  | 8, hw, hi, h32, h0 =>
    have i0 : i = 0 := by simp [cNX] at hi; omega
    subst i0
    have hw : w < 2 := hw
    rcases (by omega : w = 0 ∨ w = 1) with rfl | rfl
    · exact ⟨by decide, rfl, by decide, by decide, by decide, by decide⟩
    · exact ⟨by decide, rfl, by decide, by decide, by decide, by decide⟩
  | 9, hw, hi, h32, h0 =>
    have i0 : i = 0 := by simp [cNX] at hi; omega
    subst i0
    have hw : w < 2 := hw
    rcases (by omega : w = 0 ∨ w = 1) with rfl | rfl
    · exact ⟨by decide, rfl, by decide, by decide, by decide, by decide⟩
    · exact ⟨by decide, rfl, by decide, by decide, by decide, by decide⟩
  | 10, hw, hi, h32, h0 =>
    have i0 : i = 0 := by simp [cNX] at hi; omega
    subst i0
    have hw : w < 2 := hw
    rcases (by omega : w = 0 ∨ w = 1) with rfl | rfl
    · exact ⟨by decide, rfl, by decide, by decide, by decide, by decide⟩
    · exact ⟨by decide, rfl, by decide, by decide, by decide, by decide⟩
  | 11, hw, hi, h32, h0 =>
    have i0 : i = 0 := by simp [cNX] at hi; omega
    subst i0
    have hw : w < 2 := hw
    rcases (by omega : w = 0 ∨ w = 1) with rfl | rfl
    · exact ⟨by decide, rfl, by decide, by decide, by decide, by decide⟩
    · exact ⟨by decide, rfl, by decide, by decide, by decide, by decide⟩
  | 12, hw, hi, h32, h0 =>
    have i0 : i = 0 := by simp [cNX] at hi; omega
    subst i0
    have w0 : w = 0 := by simp [wNX] at hw; omega
    subst w0
    exact ⟨by decide, rfl, by decide, by decide, by decide, by decide⟩
  | 13, hw, hi, h32, h0 =>
    have i0 : i = 0 := by simp [cNX] at hi; omega
    subst i0
    have w0 : w = 0 := by simp [wNX] at hw; omega
    subst w0
    exact ⟨by decide, rfl, by decide, by decide, by decide, by decide⟩
  | 14, hw, hi, h32, h0 =>
    have i0 : i = 0 := by simp [cNX] at hi; omega
    subst i0
    have w0 : w = 0 := by simp [wNX] at hw; omega
    subst w0
    exact ⟨by decide, rfl, by decide, by decide, by decide, by decide⟩
  | 15, hw, hi, h32, h0 =>
    have i0 : i = 0 := by simp [cNX] at hi; omega
    subst i0
    have w0 : w = 0 := by simp [wNX] at hw; omega
    subst w0
    exact ⟨by decide, rfl, by decide, by decide, by decide, by decide⟩
  | 16, hw, hi, h32, h0 =>
    have i0 : i = 0 := by simp [cNX] at hi; omega
    subst i0
    have w0 : w = 0 := by simp [wNX] at hw; omega
    subst w0
    exact ⟨by decide, rfl, by decide, by decide, by decide, by decide⟩
  | 17, hw, hi, h32, h0 =>
    have i0 : i = 0 := by simp [cNX] at hi; omega
    subst i0
    have w0 : w = 0 := by simp [wNX] at hw; omega
    subst w0
    exact ⟨by decide, rfl, by decide, by decide, by decide, by decide⟩
  | 18, hw, hi, h32, h0 =>
    have i0 : i = 0 := by simp [cNX] at hi; omega
    subst i0
    have hw : w < 2 := hw
    rcases (by omega : w = 0 ∨ w = 1) with rfl | rfl
    · exact ⟨by decide, rfl, by decide, by decide, by decide, by decide⟩
    · exact ⟨by decide, rfl, by decide, by decide, by decide, by decide⟩
  | 19, hw, hi, h32, h0 =>
    have i0 : i = 0 := by simp [cNX] at hi; omega
    subst i0
    have hw : w < 2 := hw
    rcases (by omega : w = 0 ∨ w = 1) with rfl | rfl
    · exact ⟨by decide, rfl, by decide, by decide, by decide, by decide⟩
    · exact ⟨by decide, rfl, by decide, by decide, by decide, by decide⟩
  | 20, hw, hi, h32, h0 =>
    have i0 : i = 0 := by simp [cNX] at hi; omega
    subst i0
    have hw : w < 2 := hw
    rcases (by omega : w = 0 ∨ w = 1) with rfl | rfl
    · exact ⟨by decide, rfl, by decide, by decide, by decide, by decide⟩
    · exact ⟨by decide, rfl, by decide, by decide, by decide, by decide⟩
  | 21, hw, hi, h32, h0 =>
    have i0 : i = 0 := by simp [cNX] at hi; omega
    subst i0
    have hw : w < 2 := hw
    rcases (by omega : w = 0 ∨ w = 1) with rfl | rfl
    · exact ⟨by decide, rfl, by decide, by decide, by decide, by decide⟩
    · exact ⟨by decide, rfl, by decide, by decide, by decide, by decide⟩
  | 22, hw, hi, h32, h0 =>
    have i0 : i = 0 := by simp [cNX] at hi; omega
    subst i0
    have hw : w < 2 := hw
    rcases (by omega : w = 0 ∨ w = 1) with rfl | rfl
    · exact ⟨by decide, rfl, by decide, by decide, by decide, by decide⟩
    · exact ⟨by decide, rfl, by decide, by decide, by decide, by decide⟩
  | 23, hw, hi, h32, h0 =>
    have i0 : i = 0 := by simp [cNX] at hi; omega
    subst i0
    have hw : w < 2 := hw
    rcases (by omega : w = 0 ∨ w = 1) with rfl | rfl
    · exact ⟨by decide, rfl, by decide, by decide, by decide, by decide⟩
    · exact ⟨by decide, rfl, by decide, by decide, by decide, by decide⟩
  | 24, hw, hi, h32, h0 =>
    have i0 : i = 0 := by simp [cNX] at hi; omega
    subst i0
    have hw : w < 2 := hw
    rcases (by omega : w = 0 ∨ w = 1) with rfl | rfl
    · exact ⟨by decide, rfl, by decide, by decide, by decide, by decide⟩
    · exact ⟨by decide, rfl, by decide, by decide, by decide, by decide⟩
  | 25, hw, hi, h32, h0 =>
    have i0 : i = 0 := by simp [cNX] at hi; omega
    subst i0
    have w0 : w = 0 := by simp [wNX] at hw; omega
    subst w0
    exact ⟨by decide, rfl, by decide, by decide, by decide, by decide⟩
  | 26, hw, hi, h32, h0 =>
    have i0 : i = 0 := by simp [cNX] at hi; omega
    subst i0
    have hw : w < 2 := hw
    rcases (by omega : w = 0 ∨ w = 1) with rfl | rfl
    · exact ⟨by decide, rfl, by decide, by decide, by decide, by decide⟩
    · exact ⟨by decide, rfl, by decide, by decide, by decide, by decide⟩
  | 27, hw, hi, h32, h0 =>
    have i0 : i = 0 := by simp [cNX] at hi; omega
    subst i0
    have w0 : w = 0 := by simp [wNX] at hw; omega
    subst w0
    exact ⟨by decide, rfl, by decide, by decide, by decide, by decide⟩
  | 28, hw, hi, h32, h0 =>
    have i0 : i = 0 := by simp [cNX] at hi; omega
    subst i0
    have w0 : w = 0 := by simp [wNX] at hw; omega
    subst w0
    exact ⟨by decide, rfl, by decide, by decide, by decide, by decide⟩
  | 29, hw, hi, h32, h0 =>
    have i0 : i = 0 := by simp [cNX] at hi; omega
    subst i0
    have w0 : w = 0 := by simp [wNX] at hw; omega
    subst w0
    exact ⟨by decide, rfl, by decide, by decide, by decide, by decide⟩
  | 30, hw, hi, h32, h0 =>
    have i0 : i = 0 := by simp [cNX] at hi; omega
    subst i0
    have w0 : w = 0 := by simp [wNX] at hw; omega
    subst w0
    exact ⟨by decide, rfl, by decide, by decide, by decide, by decide⟩
  | 31, hw, hi, h32, h0 =>
    have i0 : i = 0 := by simp [cNX] at hi; omega
    subst i0
    have w0 : w = 0 := by simp [wNX] at hw; omega
    subst w0
    exact ⟨by decide, rfl, by decide, by decide, by decide, by decide⟩
  | 32, hw, hi, h32, h0 => exact absurd (h32 rfl) (by simp [S0C])
  | 33, hw, hi, h32, h0 =>
    have i0 : i = 0 := by simp [cNX] at hi; omega
    subst i0
    have w0 : w = 0 := by simp [wNX] at hw; omega
    subst w0
    exact ⟨by decide, rfl, by decide, by decide, by decide, by decide⟩
  | 34, hw, hi, h32, h0 =>
    have hi : i < 96 := hi
    have hw : w < 2 := hw
    rcases (by omega : w = 0 ∨ w = 1) with rfl | rfl
    · exact ⟨by show 28 + i < 255; omega, (by show xiC (28 + i) = _; unfold xiC; rw [if_pos (by omega), Nat.add_sub_cancel_left]), by show 28 + i ≠ 7; omega, by show 28 + i ≠ 8; omega, by show 28 + i ≠ 131; omega, by show 28 + i ≠ 132; omega⟩
    · exact ⟨by show 146 + i < 255; omega, (by show xiC (146 + i) = _; unfold xiC; rw [if_neg (by omega), if_pos (by omega), Nat.add_sub_cancel_left]), by show 146 + i ≠ 7; omega, by show 146 + i ≠ 8; omega, by show 146 + i ≠ 131; omega, by show 146 + i ≠ 132; omega⟩
  | 35, hw, hi, h32, h0 => exact absurd hi (by simp [cNX, S0C])
  | 36, hw, hi, h32, h0 => exact absurd hi (by simp [cNX, S0C])
  | 37, hw, hi, h32, h0 => exact absurd hi (by simp [cNX, S0C])
  | 38, hw, hi, h32, h0 => exact absurd hi (by simp [cNX, S0C])
  | 39, hw, hi, h32, h0 => exact absurd hi (by simp [cNX, S0C])
  | 40, hw, hi, h32, h0 => exact absurd hi (by simp [cNX, S0C])
  | 41, hw, hi, h32, h0 =>
    have i0 : i = 0 := by simp [cNX] at hi; omega
    subst i0
    have w0 : w = 0 := by simp [wNX] at hw; omega
    subst w0
    exact ⟨by decide, rfl, by decide, by decide, by decide, by decide⟩
  | 42, hw, hi, h32, h0 =>
    have i0 : i = 0 := by simp [cNX] at hi; omega
    subst i0
    have w0 : w = 0 := by simp [wNX] at hw; omega
    subst w0
    exact ⟨by decide, rfl, by decide, by decide, by decide, by decide⟩
  | 43, hw, hi, h32, h0 =>
    have i0 : i = 0 := by simp [cNX] at hi; omega
    subst i0
    have w0 : w = 0 := by simp [wNX] at hw; omega
    subst w0
    exact ⟨by decide, rfl, by decide, by decide, by decide, by decide⟩
  | 44, hw, hi, h32, h0 =>
    have i0 : i = 0 := by simp [cNX] at hi; omega
    subst i0
    have w0 : w = 0 := by simp [wNX] at hw; omega
    subst w0
    exact ⟨by decide, rfl, by decide, by decide, by decide, by decide⟩
  | 45, hw, hi, h32, h0 =>
    have i0 : i = 0 := by simp [cNX] at hi; omega
    subst i0
    have w0 : w = 0 := by simp [wNX] at hw; omega
    subst w0
    exact ⟨by decide, rfl, by decide, by decide, by decide, by decide⟩
  | 46, hw, hi, h32, h0 =>
    have i0 : i = 0 := by simp [cNX] at hi; omega
    subst i0
    have w0 : w = 0 := by simp [wNX] at hw; omega
    subst w0
    exact ⟨by decide, rfl, by decide, by decide, by decide, by decide⟩
  | 47, hw, hi, h32, h0 =>
    have i0 : i = 0 := by simp [cNX] at hi; omega
    subst i0
    have w0 : w = 0 := by simp [wNX] at hw; omega
    subst w0
    exact ⟨by decide, rfl, by decide, by decide, by decide, by decide⟩
  | k9 + 48, hw, hi, h32, h0 => exact absurd hw (by unfold wNX; rw [if_neg (by omega), if_neg (by omega)]; exact Nat.not_lt_zero _)
set_option maxHeartbeats 2000000 in
theorem cel0C {g : GP} {q : Nat} {ad : Nat → Nat} {fl : Nat → Nat → UInt32} {k w i : Nat} (hl : LvX (S0C q) k w i) (h0 : k ≠ 0) : ceC g ad (ixC k w i) = celX g (AiC q ad) (τ0C ad) (rBC, (S0C q), fun _ => 0, fl) k w i := by
  obtain ⟨hw, hi, h32⟩ := hl
  match k, hw, hi, h32, h0 with
  | 1, hw, hi, h32, h0 =>
    have i0 : i = 0 := by simp [cNX] at hi; omega
    subst i0
    have hw : w < 2 := hw
    rcases (by omega : w = 0 ∨ w = 1) with rfl | rfl
    · rfl
    · rfl
  | 2, hw, hi, h32, h0 =>
    have i0 : i = 0 := by simp [cNX] at hi; omega
    subst i0
    have hw : w < 2 := hw
    rcases (by omega : w = 0 ∨ w = 1) with rfl | rfl
    · rfl
    · rfl
  | 3, hw, hi, h32, h0 =>
    have i0 : i = 0 := by simp [cNX] at hi; omega
    subst i0
    have hw : w < 2 := hw
    rcases (by omega : w = 0 ∨ w = 1) with rfl | rfl
    · rfl
    · rfl
  | 4, hw, hi, h32, h0 =>
    have i0 : i = 0 := by simp [cNX] at hi; omega
    subst i0
    have hw : w < 2 := hw
    rcases (by omega : w = 0 ∨ w = 1) with rfl | rfl
    · rfl
    · rfl
  | 5, hw, hi, h32, h0 =>
    have i0 : i = 0 := by simp [cNX] at hi; omega
    subst i0
    have hw : w < 2 := hw
    rcases (by omega : w = 0 ∨ w = 1) with rfl | rfl
    · (first | rfl | (unfold celX shX ldX; exact congrArg (fun f9 => (.inl (gA g 5, _, .inr (.inr (.inr (.inr f9)))) : va_E)) no_l.symm))
    · (first | rfl | (unfold celX shX ldX; exact congrArg (fun f9 => (.inl (gA g 5, _, .inr (.inr (.inr (.inr f9)))) : va_E)) no_l.symm))
  | 6, hw, hi, h32, h0 =>
    have i0 : i = 0 := by simp [cNX] at hi; omega
    subst i0
    have hw : w < 2 := hw
    rcases (by omega : w = 0 ∨ w = 1) with rfl | rfl
    · rfl
    · rfl
  | 7, hw, hi, h32, h0 =>
    have i0 : i = 0 := by simp [cNX] at hi; omega
    subst i0
    have hw : w < 2 := hw
    rcases (by omega : w = 0 ∨ w = 1) with rfl | rfl
    · (first | rfl | (unfold celX shX ldX; exact congrArg (fun f9 => (.inl (gA g 5, _, .inr (.inr (.inr (.inr f9)))) : va_E)) no_l.symm))
    · (first | rfl | (unfold celX shX ldX; exact congrArg (fun f9 => (.inl (gA g 5, _, .inr (.inr (.inr (.inr f9)))) : va_E)) no_l.symm))
  | 8, hw, hi, h32, h0 =>
    have i0 : i = 0 := by simp [cNX] at hi; omega
    subst i0
    have hw : w < 2 := hw
    rcases (by omega : w = 0 ∨ w = 1) with rfl | rfl
    · rfl
    · rfl
  | 9, hw, hi, h32, h0 =>
    have i0 : i = 0 := by simp [cNX] at hi; omega
    subst i0
    have hw : w < 2 := hw
    rcases (by omega : w = 0 ∨ w = 1) with rfl | rfl
    · (first | rfl | (unfold celX shX ldX; exact congrArg (fun f9 => (.inl (gA g 5, _, .inr (.inr (.inr (.inr f9)))) : va_E)) no_l.symm))
    · (first | rfl | (unfold celX shX ldX; exact congrArg (fun f9 => (.inl (gA g 5, _, .inr (.inr (.inr (.inr f9)))) : va_E)) no_l.symm))
  | 10, hw, hi, h32, h0 =>
    have i0 : i = 0 := by simp [cNX] at hi; omega
    subst i0
    have hw : w < 2 := hw
    rcases (by omega : w = 0 ∨ w = 1) with rfl | rfl
    · rfl
    · rfl
  | 11, hw, hi, h32, h0 =>
    have i0 : i = 0 := by simp [cNX] at hi; omega
    subst i0
    have hw : w < 2 := hw
    rcases (by omega : w = 0 ∨ w = 1) with rfl | rfl
    · (first | rfl | (unfold celX shX ldX; exact congrArg (fun f9 => (.inl (gA g 5, _, .inr (.inr (.inr (.inr f9)))) : va_E)) no_l.symm))
    · (first | rfl | (unfold celX shX ldX; exact congrArg (fun f9 => (.inl (gA g 5, _, .inr (.inr (.inr (.inr f9)))) : va_E)) no_l.symm))
  | 12, hw, hi, h32, h0 =>
    have i0 : i = 0 := by simp [cNX] at hi; omega
    subst i0
    have w0 : w = 0 := by simp [wNX] at hw; omega
    subst w0
    rfl
  | 13, hw, hi, h32, h0 =>
    have i0 : i = 0 := by simp [cNX] at hi; omega
    subst i0
    have w0 : w = 0 := by simp [wNX] at hw; omega
    subst w0
    (first | rfl | (unfold celX shX ldX; exact congrArg (fun f9 => (.inl (gA g 5, _, .inr (.inr (.inr (.inr f9)))) : va_E)) no_l.symm))
  | 14, hw, hi, h32, h0 =>
    have i0 : i = 0 := by simp [cNX] at hi; omega
    subst i0
    have w0 : w = 0 := by simp [wNX] at hw; omega
    subst w0
    rfl
  | 15, hw, hi, h32, h0 =>
    have i0 : i = 0 := by simp [cNX] at hi; omega
    subst i0
    have w0 : w = 0 := by simp [wNX] at hw; omega
    subst w0
    (first | rfl | (unfold celX shX ldX; exact congrArg (fun f9 => (.inl (gA g 5, _, .inr (.inr (.inr (.inr f9)))) : va_E)) no_l.symm))
  | 16, hw, hi, h32, h0 =>
    have i0 : i = 0 := by simp [cNX] at hi; omega
    subst i0
    have w0 : w = 0 := by simp [wNX] at hw; omega
    subst w0
    rfl
  | 17, hw, hi, h32, h0 =>
    have i0 : i = 0 := by simp [cNX] at hi; omega
    subst i0
    have w0 : w = 0 := by simp [wNX] at hw; omega
    subst w0
    (first | rfl | (unfold celX shX ldX; exact congrArg (fun f9 => (.inl (gA g 5, _, .inr (.inr (.inr (.inr f9)))) : va_E)) no_l.symm))
  | 18, hw, hi, h32, h0 =>
    have i0 : i = 0 := by simp [cNX] at hi; omega
    subst i0
    have hw : w < 2 := hw
    rcases (by omega : w = 0 ∨ w = 1) with rfl | rfl
    · rfl
    · rfl
  | 19, hw, hi, h32, h0 =>
    have i0 : i = 0 := by simp [cNX] at hi; omega
    subst i0
    have hw : w < 2 := hw
    rcases (by omega : w = 0 ∨ w = 1) with rfl | rfl
    · rfl
    · rfl
  | 20, hw, hi, h32, h0 =>
    have i0 : i = 0 := by simp [cNX] at hi; omega
    subst i0
    have hw : w < 2 := hw
    rcases (by omega : w = 0 ∨ w = 1) with rfl | rfl
    · rfl
    · rfl
  | 21, hw, hi, h32, h0 =>
    have i0 : i = 0 := by simp [cNX] at hi; omega
    subst i0
    have hw : w < 2 := hw
    rcases (by omega : w = 0 ∨ w = 1) with rfl | rfl
    · rfl
    · rfl
  | 22, hw, hi, h32, h0 =>
    have i0 : i = 0 := by simp [cNX] at hi; omega
    subst i0
    have hw : w < 2 := hw
    rcases (by omega : w = 0 ∨ w = 1) with rfl | rfl
    · rfl
    · rfl
  | 23, hw, hi, h32, h0 =>
    have i0 : i = 0 := by simp [cNX] at hi; omega
    subst i0
    have hw : w < 2 := hw
    rcases (by omega : w = 0 ∨ w = 1) with rfl | rfl
    · rfl
    · rfl
  | 24, hw, hi, h32, h0 =>
    have i0 : i = 0 := by simp [cNX] at hi; omega
    subst i0
    have hw : w < 2 := hw
    rcases (by omega : w = 0 ∨ w = 1) with rfl | rfl
    · rfl
    · rfl
  | 25, hw, hi, h32, h0 =>
    have i0 : i = 0 := by simp [cNX] at hi; omega
    subst i0
    have w0 : w = 0 := by simp [wNX] at hw; omega
    subst w0
    rfl
  | 26, hw, hi, h32, h0 =>
    have i0 : i = 0 := by simp [cNX] at hi; omega
    subst i0
    have hw : w < 2 := hw
    rcases (by omega : w = 0 ∨ w = 1) with rfl | rfl
    · rfl
    · rfl
  | 27, hw, hi, h32, h0 =>
    have i0 : i = 0 := by simp [cNX] at hi; omega
    subst i0
    have w0 : w = 0 := by simp [wNX] at hw; omega
    subst w0
    rfl
  | 28, hw, hi, h32, h0 =>
    have i0 : i = 0 := by simp [cNX] at hi; omega
    subst i0
    have w0 : w = 0 := by simp [wNX] at hw; omega
    subst w0
    rfl
  | 29, hw, hi, h32, h0 =>
    have i0 : i = 0 := by simp [cNX] at hi; omega
    subst i0
    have w0 : w = 0 := by simp [wNX] at hw; omega
    subst w0
    rfl
  | 30, hw, hi, h32, h0 =>
    have i0 : i = 0 := by simp [cNX] at hi; omega
    subst i0
    have w0 : w = 0 := by simp [wNX] at hw; omega
    subst w0
    (first | rfl | (show _ = rwA g (AiC q ad) (S0C q); unfold rwA; exact congrArg (fun f9 => (.inl (gA g 8, 4, .inr (.inr (.inr (.inr f9)))) : va_E)) (by funext z; exact (if_neg (by simp [S0C])).symm)))
  | 31, hw, hi, h32, h0 =>
    have i0 : i = 0 := by simp [cNX] at hi; omega
    subst i0
    have w0 : w = 0 := by simp [wNX] at hw; omega
    subst w0
    rfl
  | 32, hw, hi, h32, h0 => exact absurd (h32 rfl) (by simp [S0C])
  | 33, hw, hi, h32, h0 =>
    have i0 : i = 0 := by simp [cNX] at hi; omega
    subst i0
    have w0 : w = 0 := by simp [wNX] at hw; omega
    subst w0
    rfl
  | 34, hw, hi, h32, h0 =>
    have hi : i < 96 := hi
    have hw : w < 2 := hw
    rcases (by omega : w = 0 ∨ w = 1) with rfl | rfl
    · show ceC g ad (28 + i) = slW (S0C q) 0 i (ad 7); unfold ceC slW; rw [if_neg (by omega), if_pos (by omega), if_neg (by omega), show 28 + i - 1 = i + 27 by omega]; rfl
    · show ceC g ad (146 + i) = slW (S0C q) 1 i (ad 131); unfold ceC slW; rw [if_neg (by omega), if_neg (by omega), if_neg (by omega), if_pos (by omega), if_pos ⟨rfl, Nat.zero_le _⟩, show 146 + i - 125 = i + 21 by omega]; rfl
  | 35, hw, hi, h32, h0 => exact absurd hi (by simp [cNX, S0C])
  | 36, hw, hi, h32, h0 => exact absurd hi (by simp [cNX, S0C])
  | 37, hw, hi, h32, h0 => exact absurd hi (by simp [cNX, S0C])
  | 38, hw, hi, h32, h0 => exact absurd hi (by simp [cNX, S0C])
  | 39, hw, hi, h32, h0 => exact absurd hi (by simp [cNX, S0C])
  | 40, hw, hi, h32, h0 => exact absurd hi (by simp [cNX, S0C])
  | 41, hw, hi, h32, h0 =>
    have i0 : i = 0 := by simp [cNX] at hi; omega
    subst i0
    have w0 : w = 0 := by simp [wNX] at hw; omega
    subst w0
    rfl
  | 42, hw, hi, h32, h0 =>
    have i0 : i = 0 := by simp [cNX] at hi; omega
    subst i0
    have w0 : w = 0 := by simp [wNX] at hw; omega
    subst w0
    rfl
  | 43, hw, hi, h32, h0 =>
    have i0 : i = 0 := by simp [cNX] at hi; omega
    subst i0
    have w0 : w = 0 := by simp [wNX] at hw; omega
    subst w0
    rfl
  | 44, hw, hi, h32, h0 =>
    have i0 : i = 0 := by simp [cNX] at hi; omega
    subst i0
    have w0 : w = 0 := by simp [wNX] at hw; omega
    subst w0
    rfl
  | 45, hw, hi, h32, h0 =>
    have i0 : i = 0 := by simp [cNX] at hi; omega
    subst i0
    have w0 : w = 0 := by simp [wNX] at hw; omega
    subst w0
    rfl
  | 46, hw, hi, h32, h0 =>
    have i0 : i = 0 := by simp [cNX] at hi; omega
    subst i0
    have w0 : w = 0 := by simp [wNX] at hw; omega
    subst w0
    rfl
  | 47, hw, hi, h32, h0 =>
    have i0 : i = 0 := by simp [cNX] at hi; omega
    subst i0
    have w0 : w = 0 := by simp [wNX] at hw; omega
    subst w0
    rfl
  | k9 + 48, hw, hi, h32, h0 => exact absurd hw (by unfold wNX; rw [if_neg (by omega), if_neg (by omega)]; exact Nat.not_lt_zero _)
/-- a colony just made: the class's cells at the model's start -/
theorem SX.start {g : GP} {P : Nat → Prop} {F μ M : Mem} {q : Nat} {ad : Nat → Nat} (h : Bl (mset μ q (coN ad)) 255 ad (ceC g ad) M) (hF : ∀ a e, F a = some e → μ a = some e ∧ a ≠ q) (hP : ∀ a, P a → F a ≠ none) : SX g P F (AiC q ad) 0 (S0C q) (b0C q) σ0C e0C M := by
  have hq : ∀ j, j < 255 → ad j ≠ q := fun j hj e => by
    have := (h.1 j hj).1
    rw [e, mset_s] at this
    cases this
  have hF1 : ∀ a e, F a = some e → mset μ q (coN ad) a = some e := fun a e hf => by
    rw [mset_n (hF a e hf).2]
    exact (hF a e hf).1
  have hFj : ∀ j, j < 255 → F (ad j) = none := fun j hj => by
    cases hc : F (ad j) with
    | none => rfl
    | some e =>
      have h1 := hF1 _ _ hc
      rw [(h.1 j hj).1] at h1
      cases h1
  have hFq : F q = none := by
    cases hc : F q with
    | none => rfl
    | some e => exact absurd rfl (hF _ _ hc).2
  have hIq : tIm (τ0C ad) q = none := by
    show (if q = ad 7 ∨ q = ad 131 then _ else if q = ad 8 ∨ q = ad 132 then _ else none) = none
    rw [if_neg (fun z => z.elim (fun y => hq 7 (by decide) y.symm) (fun y => hq 131 (by decide) y.symm)), if_neg (fun z => z.elim (fun y => hq 8 (by decide) y.symm) (fun y => hq 132 (by decide) y.symm))]
  have hIj : ∀ j, j < 255 → j ≠ 7 → j ≠ 8 → j ≠ 131 → j ≠ 132 → tIm (τ0C ad) (ad j) = none := fun j hj h7 h8 h131 h132 => by
    show (if ad j = ad 7 ∨ ad j = ad 131 then _ else if ad j = ad 8 ∨ ad j = ad 132 then _ else none) = none
    rw [if_neg (fun z => z.elim (fun y => h7 (h.2.1 _ _ hj (by decide) y)) (fun y => h131 (h.2.1 _ _ hj (by decide) y))), if_neg (fun z => z.elim (fun y => h8 (h.2.1 _ _ hj (by decide) y)) (fun y => h132 (h.2.1 _ _ hj (by decide) y)))]
  have i7 : tIm (τ0C ad) (ad 7) = some (.inr (37, [])) := if_pos (Or.inl rfl)
  have i131 : tIm (τ0C ad) (ad 131) = some (.inr (37, [])) := if_pos (Or.inr rfl)
  have i8 : tIm (τ0C ad) (ad 8) = some (.inr (38, [])) := by
    show (if ad 8 = ad 7 ∨ ad 8 = ad 131 then _ else if ad 8 = ad 8 ∨ ad 8 = ad 132 then _ else none) = _
    rw [if_neg (fun z => z.elim (fun y => absurd (h.2.1 8 7 (by decide) (by decide) y) (by decide)) (fun y => absurd (h.2.1 8 131 (by decide) (by decide) y) (by decide))), if_pos (Or.inl rfl)]
  have i132 : tIm (τ0C ad) (ad 132) = some (.inr (38, [])) := by
    show (if ad 132 = ad 7 ∨ ad 132 = ad 131 then _ else if ad 132 = ad 8 ∨ ad 132 = ad 132 then _ else none) = _
    rw [if_neg (fun z => z.elim (fun y => absurd (h.2.1 132 7 (by decide) (by decide) y) (by decide)) (fun y => absurd (h.2.1 132 131 (by decide) (by decide) y) (by decide))), if_pos (Or.inr rfl)]
  have hIm : ∀ a e, tIm (τ0C ad) a = some e → M a = some e := fun a e he => by
    have he : (if a = ad 7 ∨ a = ad 131 then some (.inr (37, [])) else if a = ad 8 ∨ a = ad 132 then some (.inr (38, [])) else none) = some e := he
    by_cases c1 : a = ad 7 ∨ a = ad 131
    · rw [if_pos c1] at he
      rw [← he]
      rcases c1 with rfl | rfl
      · exact h.get (j := 7) (by decide)
      · exact h.get (j := 131) (by decide)
    · rw [if_neg c1] at he
      by_cases c2 : a = ad 8 ∨ a = ad 132
      · rw [if_pos c2] at he
        rw [← he]
        rcases c2 with rfl | rfl
        · exact h.get (j := 8) (by decide)
        · exact h.get (j := 132) (by decide)
      · rw [if_neg c2] at he
        cases he
  have hMq : M q = some (coN ad) := h.up mset_s
  have hA : ∀ k w i, k ≠ 0 → AiC q ad k w i = ad (ixC k w i) := fun k w i h0 => if_neg h0
  have l0 : ∀ w i, LvX (S0C q) 0 w i → w = 0 ∧ i = 0 := fun w i hl => ⟨by have := hl.1; simp [wNX] at this; omega, by have := hl.2.1; simp [cNX] at this; omega⟩
  refine ⟨τ0C ad, dn0C, fun _ _ => 0, ?_, hz0C, fun z hz => ⟨Or.inr (ini_a (by decide) (by decide) (by decide)), fun j hj => ?_⟩, fun l hl => absurd hl (Nat.not_lt_zero _)⟩
  · rw [ini_vx]
    refine ⟨fun k w i hl => ?_, fun k w i k' w' i' hl hl' e => ?_, fun k w i hl => ?_, fun a e hf => h.up (hF1 a e hf), hIm, fun a ha => ⟨hP a ha, ?_⟩, ⟨fun w s hw hs => ?_, fun w hw => ?_, fun l hl => absurd hl (Nat.not_lt_zero _), fun k hk => absurd hk (Nat.not_lt_zero _), fun k w hk => ?_⟩⟩
    · by_cases h0 : k = 0
      · subst h0
        obtain ⟨rfl, rfl⟩ := l0 w i hl
        exact hMq
      · rw [hA k w i h0, h.get (ixC_ok hl h0).1, cel0C (q := q) (fl := fun _ _ => 0) hl h0]
        rfl
    · by_cases h0 : k = 0
      · by_cases h1 : k' = 0
        · subst h0; subst h1
          obtain ⟨rfl, rfl⟩ := l0 w i hl
          obtain ⟨rfl, rfl⟩ := l0 w' i' hl'
          exact ⟨rfl, rfl, rfl⟩
        · rw [hA k' w' i' h1, show AiC q ad k w i = q from if_pos h0] at e
          exact absurd e.symm (hq _ (ixC_ok hl' h1).1)
      · by_cases h1 : k' = 0
        · rw [hA k w i h0, show AiC q ad k' w' i' = q from if_pos h1] at e
          exact absurd e (hq _ (ixC_ok hl h0).1)
        · rw [hA k w i h0, hA k' w' i' h1] at e
          have e1 := h.2.1 _ _ (ixC_ok hl h0).1 (ixC_ok hl' h1).1 e
          have e2 := (ixC_ok hl h0).2.1
          rw [e1, (ixC_ok hl' h1).2.1] at e2
          cases e2
          exact ⟨rfl, rfl, rfl⟩
    · by_cases h0 : k = 0
      · rw [show AiC q ad k w i = q from if_pos h0]
        exact ⟨hFq, hIq⟩
      · rw [hA k w i h0]
        obtain ⟨x1, -, x3, x4, x5, x6⟩ := ixC_ok hl h0
        exact ⟨hFj _ x1, hIj _ x1 x3 x4 x5 x6⟩
    · have hne : ∀ j, j < 255 → a ≠ ad j := fun j hj e => hP a ha (by rw [e]; exact hFj j hj)
      show (if a = ad 7 ∨ a = ad 131 then _ else if a = ad 8 ∨ a = ad 132 then _ else none) = none
      rw [if_neg (fun z => z.elim (hne 7 (by decide)) (hne 131 (by decide))), if_neg (fun z => z.elim (hne 8 (by decide)) (hne 132 (by decide)))]
    · refine Or.inl ⟨rfl, rfl, rfl, ?_⟩
      show tIm (τ0C ad) (if w = 0 then ad 7 else ad 131) = _
      split
      · exact i7
      · exact i131
    · rcases (by omega : w = 0 ∨ w = 1) with rfl | rfl
      · exact ⟨i7, i8, rfl⟩
      · exact ⟨i131, i132, rfl⟩
    · show (if k = 2 then 96 else if k = 59 then q else 0) ≤ (if k = 2 then 96 else if k = 4 then 8 else if k = 6 ∨ k = 8 ∨ k = 10 then 2 else if k = 12 ∨ k = 14 ∨ k = 16 then 4 else 1) ∧ 1 ≤ (if k = 2 then 96 else if k = 4 then 8 else if k = 6 ∨ k = 8 ∨ k = 10 then 2 else if k = 12 ∨ k = 14 ∨ k = 16 then 4 else 1) ∧ (if k = 2 then 96 else if k = 4 then 8 else if k = 6 ∨ k = 8 ∨ k = 10 then 2 else if k = 12 ∨ k = 14 ∨ k = 16 then 4 else 1) < 1000
      (repeat' split) <;> omega
  · rw [show σ0C.2.1 6 z = 0 from ini_a (by decide) (by decide) (by decide)] at hj
    exact absurd hj (Nat.not_lt_zero _)
