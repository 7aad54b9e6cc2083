set_option maxRecDepth 100000
theorem iN_0 {S : Nat → Nat → Nat} (hz : SzX 0 S) : 0 < iNX S 0 0 := by
  have h0 := hz.1
  unfold iNX
  simp [wNX, cNX, h0]
theorem V0_0 {S : Nat → Nat → Nat} {b : XS} {σ : MS} {e : XE} (hz : SzX 0 S) : VX 0 S b σ e 0 0 0 0 = b.1 0 0 0 0 := (VX_in (iN_0 hz) (by decide)).trans rfl
theorem V0_1 {S : Nat → Nat → Nat} {b : XS} {σ : MS} {e : XE} (hz : SzX 0 S) : VX 0 S b σ e 0 0 0 1 = b.1 0 0 0 1 := (VX_in (iN_0 hz) (by decide)).trans rfl
theorem V0_2 {S : Nat → Nat → Nat} {b : XS} {σ : MS} {e : XE} (hz : SzX 0 S) : VX 0 S b σ e 0 0 0 2 = σ.1 9 := (VX_in (iN_0 hz) (by decide)).trans rfl
theorem V0_3 {S : Nat → Nat → Nat} {b : XS} {σ : MS} {e : XE} (hz : SzX 0 S) : VX 0 S b σ e 0 0 0 3 = σ.1 13 := (VX_in (iN_0 hz) (by decide)).trans rfl
theorem V0_4 {S : Nat → Nat → Nat} {b : XS} {σ : MS} {e : XE} (hz : SzX 0 S) : VX 0 S b σ e 0 0 0 4 = row σ (2129) := (VX_in (iN_0 hz) (by decide)).trans rfl
theorem V0_5 {S : Nat → Nat → Nat} {b : XS} {σ : MS} {e : XE} (hz : SzX 0 S) : VX 0 S b σ e 0 0 0 5 = σ.1 29 := (VX_in (iN_0 hz) (by decide)).trans rfl
theorem V0_6 {S : Nat → Nat → Nat} {b : XS} {σ : MS} {e : XE} (hz : SzX 0 S) : VX 0 S b σ e 0 0 0 6 = σ.1 28 := (VX_in (iN_0 hz) (by decide)).trans rfl
theorem V0_7 {S : Nat → Nat → Nat} {b : XS} {σ : MS} {e : XE} (hz : SzX 0 S) : VX 0 S b σ e 0 0 0 7 = b.1 0 0 0 7 := (VX_in (iN_0 hz) (by decide)).trans rfl
theorem V0_8 {S : Nat → Nat → Nat} {b : XS} {σ : MS} {e : XE} (hz : SzX 0 S) : VX 0 S b σ e 0 0 0 8 = b.1 0 0 0 8 := (VX_in (iN_0 hz) (by decide)).trans rfl
theorem V0_9 {S : Nat → Nat → Nat} {b : XS} {σ : MS} {e : XE} (hz : SzX 0 S) : VX 0 S b σ e 0 0 0 9 = b.1 0 0 0 9 := (VX_in (iN_0 hz) (by decide)).trans rfl
theorem V0_10 {S : Nat → Nat → Nat} {b : XS} {σ : MS} {e : XE} (hz : SzX 0 S) : VX 0 S b σ e 0 0 0 10 = b.1 0 0 0 10 := (VX_in (iN_0 hz) (by decide)).trans rfl
theorem V0_11 {S : Nat → Nat → Nat} {b : XS} {σ : MS} {e : XE} (hz : SzX 0 S) : VX 0 S b σ e 0 0 0 11 = b.1 0 0 0 11 := (VX_in (iN_0 hz) (by decide)).trans rfl
theorem V0_12 {S : Nat → Nat → Nat} {b : XS} {σ : MS} {e : XE} (hz : SzX 0 S) : VX 0 S b σ e 0 0 0 12 = b.1 0 0 0 12 := (VX_in (iN_0 hz) (by decide)).trans rfl
theorem V0_13 {S : Nat → Nat → Nat} {b : XS} {σ : MS} {e : XE} (hz : SzX 0 S) : VX 0 S b σ e 0 0 0 13 = b.1 0 0 0 13 := (VX_in (iN_0 hz) (by decide)).trans rfl
theorem V0_14 {S : Nat → Nat → Nat} {b : XS} {σ : MS} {e : XE} (hz : SzX 0 S) : VX 0 S b σ e 0 0 0 14 = b.1 0 0 0 14 := (VX_in (iN_0 hz) (by decide)).trans rfl
theorem V0_15 {S : Nat → Nat → Nat} {b : XS} {σ : MS} {e : XE} (hz : SzX 0 S) : VX 0 S b σ e 0 0 0 15 = b.1 0 0 0 15 := (VX_in (iN_0 hz) (by decide)).trans rfl
theorem V0_16 {S : Nat → Nat → Nat} {b : XS} {σ : MS} {e : XE} (hz : SzX 0 S) : VX 0 S b σ e 0 0 0 16 = e (8) (0) := (VX_in (iN_0 hz) (by decide)).trans rfl
theorem V0_17 {S : Nat → Nat → Nat} {b : XS} {σ : MS} {e : XE} (hz : SzX 0 S) : VX 0 S b σ e 0 0 0 17 = e (8) (1) := (VX_in (iN_0 hz) (by decide)).trans rfl
theorem V0_18 {S : Nat → Nat → Nat} {b : XS} {σ : MS} {e : XE} (hz : SzX 0 S) : VX 0 S b σ e 0 0 0 18 = σ.1 31 := (VX_in (iN_0 hz) (by decide)).trans rfl
theorem iN_1 {w : Nat} {S : Nat → Nat → Nat} (hz : SzX w S) : 0 < iNX S w 1 := by
  have h0 := hz.1
  unfold iNX
  simp [wNX, cNX, h0]
theorem V1_0 {w : Nat} {S : Nat → Nat → Nat} {b : XS} {σ : MS} {e : XE} (hz : SzX w S) : VX w S b σ e 1 w 0 0 = row σ (2116) := (VX_in (iN_1 hz) (by decide)).trans rfl
theorem V1_1 {w : Nat} {S : Nat → Nat → Nat} {b : XS} {σ : MS} {e : XE} (hz : SzX w S) : VX w S b σ e 1 w 0 1 = row σ (2117) := (VX_in (iN_1 hz) (by decide)).trans rfl
theorem V1_2 {w : Nat} {S : Nat → Nat → Nat} {b : XS} {σ : MS} {e : XE} (hz : SzX w S) : VX w S b σ e 1 w 0 2 = row σ (2118) := (VX_in (iN_1 hz) (by decide)).trans rfl
theorem V1_3 {w : Nat} {S : Nat → Nat → Nat} {b : XS} {σ : MS} {e : XE} (hz : SzX w S) : VX w S b σ e 1 w 0 3 = row σ (2119) := (VX_in (iN_1 hz) (by decide)).trans rfl
theorem V1_4 {w : Nat} {S : Nat → Nat → Nat} {b : XS} {σ : MS} {e : XE} (hz : SzX w S) : VX w S b σ e 1 w 0 4 = (if w = 0 then row σ (2120) else b.1 1 w 0 4) := (VX_in (iN_1 hz) (by decide)).trans (by show vaX b σ e 1 w 0 4 (if w = 0 then _ else _) = _; split <;> rfl)
theorem V1_5 {w : Nat} {S : Nat → Nat → Nat} {b : XS} {σ : MS} {e : XE} (hz : SzX w S) : VX w S b σ e 1 w 0 5 = (if w = 0 then row σ (2121) else b.1 1 w 0 5) := (VX_in (iN_1 hz) (by decide)).trans (by show vaX b σ e 1 w 0 5 (if w = 0 then _ else _) = _; split <;> rfl)
theorem V1_6 {w : Nat} {S : Nat → Nat → Nat} {b : XS} {σ : MS} {e : XE} (hz : SzX w S) : VX w S b σ e 1 w 0 6 = row σ (2122) := (VX_in (iN_1 hz) (by decide)).trans rfl
theorem V1_7 {w : Nat} {S : Nat → Nat → Nat} {b : XS} {σ : MS} {e : XE} (hz : SzX w S) : VX w S b σ e 1 w 0 7 = row σ (2123) := (VX_in (iN_1 hz) (by decide)).trans rfl
theorem V1_8 {w : Nat} {S : Nat → Nat → Nat} {b : XS} {σ : MS} {e : XE} (hz : SzX w S) : VX w S b σ e 1 w 0 8 = (if w = 0 then row σ (2131) else b.1 1 w 0 8) := (VX_in (iN_1 hz) (by decide)).trans (by show vaX b σ e 1 w 0 8 (if w = 0 then _ else _) = _; split <;> rfl)
theorem V1_9 {w : Nat} {S : Nat → Nat → Nat} {b : XS} {σ : MS} {e : XE} (hz : SzX w S) : VX w S b σ e 1 w 0 9 = σ.1 23 := (VX_in (iN_1 hz) (by decide)).trans rfl
theorem V1_10 {w : Nat} {S : Nat → Nat → Nat} {b : XS} {σ : MS} {e : XE} (hz : SzX w S) : VX w S b σ e 1 w 0 10 = σ.1 24 := (VX_in (iN_1 hz) (by decide)).trans rfl
theorem V1_11 {w : Nat} {S : Nat → Nat → Nat} {b : XS} {σ : MS} {e : XE} (hz : SzX w S) : VX w S b σ e 1 w 0 11 = σ.1 7 := (VX_in (iN_1 hz) (by decide)).trans rfl
theorem iN_13 {S : Nat → Nat → Nat} (hz : SzX 0 S) : 0 < iNX S 0 13 := by
  have h0 := hz.1
  unfold iNX
  simp [wNX, cNX, h0]
theorem V13 {S : Nat → Nat → Nat} {b : XS} {σ : MS} {e : XE} (hz : SzX 0 S) {j : Nat} (hj : j < 100) : VX 0 S b σ e 13 0 0 j = row σ (1780 + 3 * j + 0) := (VX_in (iN_13 hz) hj).trans rfl
theorem iN_15 {S : Nat → Nat → Nat} (hz : SzX 0 S) : 0 < iNX S 0 15 := by
  have h0 := hz.1
  unfold iNX
  simp [wNX, cNX, h0]
theorem V15 {S : Nat → Nat → Nat} {b : XS} {σ : MS} {e : XE} (hz : SzX 0 S) {j : Nat} (hj : j < 12) : VX 0 S b σ e 15 0 0 j = row σ (2092 + j) := (VX_in (iN_15 hz) hj).trans rfl
theorem iN_17 {S : Nat → Nat → Nat} (hz : SzX 0 S) : 0 < iNX S 0 17 := by
  have h0 := hz.1
  unfold iNX
  simp [wNX, cNX, h0]
theorem V17 {S : Nat → Nat → Nat} {b : XS} {σ : MS} {e : XE} (hz : SzX 0 S) {j : Nat} (hj : j < 100) : VX 0 S b σ e 17 0 0 j = row σ (1780 + 3 * j + 1) := (VX_in (iN_17 hz) hj).trans rfl
theorem iN_18 {w : Nat} {S : Nat → Nat → Nat} (hz : SzX w S) : 0 < iNX S w 18 := by
  have h0 := hz.1
  unfold iNX
  simp [wNX, cNX, h0]
theorem V18 {w : Nat} {S : Nat → Nat → Nat} {b : XS} {σ : MS} {e : XE} (hz : SzX w S) {j : Nat} (hj : j < 96) : VX w S b σ e 18 w 0 j = e (2) (j) := (VX_in (iN_18 hz) hj).trans rfl
theorem iN_19 {w : Nat} {S : Nat → Nat → Nat} (hz : SzX w S) : 0 < iNX S w 19 := by
  have h0 := hz.1
  unfold iNX
  simp [wNX, cNX, h0]
theorem V19 {w : Nat} {S : Nat → Nat → Nat} {b : XS} {σ : MS} {e : XE} (hz : SzX w S) {j : Nat} (hj : j < 96) : VX w S b σ e 19 w 0 j = row σ (8 * j + 3) := (VX_in (iN_19 hz) hj).trans rfl
theorem iN_20 {w : Nat} {S : Nat → Nat → Nat} (hz : SzX w S) : 0 < iNX S w 20 := by
  have h0 := hz.1
  unfold iNX
  simp [wNX, cNX, h0]
theorem V20 {w : Nat} {S : Nat → Nat → Nat} {b : XS} {σ : MS} {e : XE} (hz : SzX w S) {j : Nat} (hj : j < 96) : VX w S b σ e 20 w 0 j = e (3) (j) := (VX_in (iN_20 hz) hj).trans rfl
theorem iN_21 {w : Nat} {S : Nat → Nat → Nat} (hz : SzX w S) : 0 < iNX S w 21 := by
  have h0 := hz.1
  unfold iNX
  simp [wNX, cNX, h0]
theorem V21 {w : Nat} {S : Nat → Nat → Nat} {b : XS} {σ : MS} {e : XE} (hz : SzX w S) {j : Nat} (hj : j < 96) : VX w S b σ e 21 w 0 j = row σ (8 * j + 4) := (VX_in (iN_21 hz) hj).trans rfl
theorem iN_22 {w : Nat} {S : Nat → Nat → Nat} (hz : SzX w S) : 0 < iNX S w 22 := by
  have h0 := hz.1
  unfold iNX
  simp [wNX, cNX, h0]
theorem V22 {w : Nat} {S : Nat → Nat → Nat} {b : XS} {σ : MS} {e : XE} (hz : SzX w S) {j : Nat} (hj : j < 4) : VX w S b σ e 22 w 0 j = row σ (2104 + j) := (VX_in (iN_22 hz) hj).trans rfl
theorem iN_23 {w : Nat} {S : Nat → Nat → Nat} (hz : SzX w S) : 0 < iNX S w 23 := by
  have h0 := hz.1
  unfold iNX
  simp [wNX, cNX, h0]
theorem V23 {w : Nat} {S : Nat → Nat → Nat} {b : XS} {σ : MS} {e : XE} (hz : SzX w S) {j : Nat} (hj : j < 4) : VX w S b σ e 23 w 0 j = row σ (2108 + j) := (VX_in (iN_23 hz) hj).trans rfl
theorem iN_24 {w : Nat} {S : Nat → Nat → Nat} (hz : SzX w S) : 0 < iNX S w 24 := by
  have h0 := hz.1
  unfold iNX
  simp [wNX, cNX, h0]
theorem V24 {w : Nat} {S : Nat → Nat → Nat} {b : XS} {σ : MS} {e : XE} (hz : SzX w S) {j : Nat} (hj : j < 4) : VX w S b σ e 24 w 0 j = row σ (2112 + j) := (VX_in (iN_24 hz) hj).trans rfl
theorem iN_25 {S : Nat → Nat → Nat} (hz : SzX 0 S) : 0 < iNX S 0 25 := by
  have h0 := hz.1
  unfold iNX
  simp [wNX, cNX, h0]
theorem V25 {S : Nat → Nat → Nat} {b : XS} {σ : MS} {e : XE} (hz : SzX 0 S) {j : Nat} (hj : j < 12) : VX 0 S b σ e 25 0 0 j = row σ (2080 + j) := (VX_in (iN_25 hz) hj).trans rfl
theorem iN_26 {w : Nat} {S : Nat → Nat → Nat} (hz : SzX w S) : 0 < iNX S w 26 := by
  have h0 := hz.1
  unfold iNX
  simp [wNX, cNX, h0]
theorem V26 {w : Nat} {S : Nat → Nat → Nat} {b : XS} {σ : MS} {e : XE} (hz : SzX w S) {j : Nat} (hj : j < 4) : VX w S b σ e 26 w 0 j = e (9) (j) := (VX_in (iN_26 hz) hj).trans rfl
theorem iN_27 {w : Nat} {S : Nat → Nat → Nat} (hz : SzX w S) : 0 < iNX S w 27 := by
  have h0 := hz.1
  unfold iNX
  simp [wNX, cNX, h0]
theorem V27 {w : Nat} {S : Nat → Nat → Nat} {b : XS} {σ : MS} {e : XE} (hz : SzX w S) {j : Nat} (hj : j < 96) : VX w S b σ e 27 0 0 j = σ.2.1 3 (j) := (VX_in (iN_27 hz) hj).trans rfl
theorem iN_28 {w : Nat} {S : Nat → Nat → Nat} (hz : SzX w S) : 0 < iNX S w 28 := by
  have h0 := hz.1
  unfold iNX
  simp [wNX, cNX, h0]
theorem V28 {w : Nat} {S : Nat → Nat → Nat} {b : XS} {σ : MS} {e : XE} (hz : SzX w S) {j : Nat} (hj : j < 96) : VX w S b σ e 28 0 0 j = σ.2.1 4 (j) := (VX_in (iN_28 hz) hj).trans rfl
theorem iN_31 {w : Nat} {S : Nat → Nat → Nat} (hz : SzX w S) : 0 < iNX S w 31 := by
  have h0 := hz.1
  unfold iNX
  simp [wNX, cNX, h0]
theorem V31 {w : Nat} {S : Nat → Nat → Nat} {b : XS} {σ : MS} {e : XE} (hz : SzX w S) {j : Nat} (hj : j < 4) : VX w S b σ e 31 0 0 j = σ.2.1 6 (j) := (VX_in (iN_31 hz) hj).trans rfl
theorem iN_33 {S : Nat → Nat → Nat} (hz : SzX 0 S) : 0 < iNX S 0 33 := by
  have h0 := hz.1
  unfold iNX
  simp [wNX, cNX, h0]
theorem V33 {S : Nat → Nat → Nat} {b : XS} {σ : MS} {e : XE} (hz : SzX 0 S) {j : Nat} (hj : j < 6006) : VX 0 S b σ e 33 0 0 j = e (7) (j) := (VX_in (iN_33 hz) hj).trans rfl
theorem iN_34 {w : Nat} {S : Nat → Nat → Nat} (hz : SzX w S) {i : Nat} (hi : i < 96) : i < iNX S w 34 := by
  have h0 := hz.1
  unfold iNX
  simp [wNX, cNX, h0]; omega
theorem V34_0 {w : Nat} {S : Nat → Nat → Nat} {b : XS} {σ : MS} {e : XE} (hz : SzX w S) {i : Nat} (hi : i < 96) : VX w S b σ e 34 w i 0 = row σ (8 * i + 0) := (VX_in (iN_34 hz hi) (by decide)).trans rfl
theorem V34_1 {w : Nat} {S : Nat → Nat → Nat} {b : XS} {σ : MS} {e : XE} (hz : SzX w S) {i : Nat} (hi : i < 96) : VX w S b σ e 34 w i 1 = row σ (8 * i + 1) := (VX_in (iN_34 hz hi) (by decide)).trans rfl
theorem V34_2 {w : Nat} {S : Nat → Nat → Nat} {b : XS} {σ : MS} {e : XE} (hz : SzX w S) {i : Nat} (hi : i < 96) : VX w S b σ e 34 w i 2 = row σ (8 * i + 5) := (VX_in (iN_34 hz hi) (by decide)).trans rfl
theorem V34_3 {w : Nat} {S : Nat → Nat → Nat} {b : XS} {σ : MS} {e : XE} (hz : SzX w S) {i : Nat} (hi : i < 96) : VX w S b σ e 34 w i 3 = row σ (8 * i + 6) := (VX_in (iN_34 hz hi) (by decide)).trans rfl
theorem iN_35 {w : Nat} {S : Nat → Nat → Nat} (hz : SzX w S) {i : Nat} (hi : i < S 4 w) : i < iNX S w 35 := by
  have h0 := hz.1
  unfold iNX
  simp [wNX, cNX, h0]; omega
theorem V35_0 {w : Nat} {S : Nat → Nat → Nat} {b : XS} {σ : MS} {e : XE} (hz : SzX w S) {i : Nat} (hi : i < S 4 w) : VX w S b σ e 35 w i 0 = nI i := (VX_in (iN_35 hz hi) (by decide)).trans rfl
theorem V35_1 {w : Nat} {S : Nat → Nat → Nat} {b : XS} {σ : MS} {e : XE} (hz : SzX w S) {i : Nat} (hi : i < S 4 w) : VX w S b σ e 35 w i 1 = (if w = 0 then row σ (768 + 8 * i + 0) else b.1 35 w i 1) := (VX_in (iN_35 hz hi) (by decide)).trans (by show vaX b σ e 35 w i 1 (if w = 0 then _ else _) = _; split <;> rfl)
theorem V35_2 {w : Nat} {S : Nat → Nat → Nat} {b : XS} {σ : MS} {e : XE} (hz : SzX w S) {i : Nat} (hi : i < S 4 w) : VX w S b σ e 35 w i 2 = row σ (768 + 8 * i + 1) := (VX_in (iN_35 hz hi) (by decide)).trans rfl
theorem V35_3 {w : Nat} {S : Nat → Nat → Nat} {b : XS} {σ : MS} {e : XE} (hz : SzX w S) {i : Nat} (hi : i < S 4 w) : VX w S b σ e 35 w i 3 = row σ (768 + 8 * i + 2) := (VX_in (iN_35 hz hi) (by decide)).trans rfl
theorem V35_4 {w : Nat} {S : Nat → Nat → Nat} {b : XS} {σ : MS} {e : XE} (hz : SzX w S) {i : Nat} (hi : i < S 4 w) : VX w S b σ e 35 w i 4 = row σ (768 + 8 * i + 3) := (VX_in (iN_35 hz hi) (by decide)).trans rfl
theorem V35_5 {w : Nat} {S : Nat → Nat → Nat} {b : XS} {σ : MS} {e : XE} (hz : SzX w S) {i : Nat} (hi : i < S 4 w) : VX w S b σ e 35 w i 5 = e (0) (i) := (VX_in (iN_35 hz hi) (by decide)).trans rfl
theorem V35_6 {w : Nat} {S : Nat → Nat → Nat} {b : XS} {σ : MS} {e : XE} (hz : SzX w S) {i : Nat} (hi : i < S 4 w) : VX w S b σ e 35 w i 6 = e (1) (i) := (VX_in (iN_35 hz hi) (by decide)).trans rfl
theorem V35_7 {w : Nat} {S : Nat → Nat → Nat} {b : XS} {σ : MS} {e : XE} (hz : SzX w S) {i : Nat} (hi : i < S 4 w) : VX w S b σ e 35 w i 7 = row σ (768 + 8 * i + 6) := (VX_in (iN_35 hz hi) (by decide)).trans rfl
theorem V35_8 {w : Nat} {S : Nat → Nat → Nat} {b : XS} {σ : MS} {e : XE} (hz : SzX w S) {i : Nat} (hi : i < S 4 w) : VX w S b σ e 35 w i 8 = row σ (768 + 8 * i + 4) := (VX_in (iN_35 hz hi) (by decide)).trans rfl
theorem V35_9 {w : Nat} {S : Nat → Nat → Nat} {b : XS} {σ : MS} {e : XE} (hz : SzX w S) {i : Nat} (hi : i < S 4 w) : VX w S b σ e 35 w i 9 = row σ (768 + 8 * i + 5) := (VX_in (iN_35 hz hi) (by decide)).trans rfl
theorem iN_36 {w : Nat} {S : Nat → Nat → Nat} (hz : SzX w S) {i : Nat} (hi : i < S 6 w) : i < iNX S w 36 := by
  have h0 := hz.1
  unfold iNX
  simp [wNX, cNX, h0]; omega
theorem V36_0 {w : Nat} {S : Nat → Nat → Nat} {b : XS} {σ : MS} {e : XE} (hz : SzX w S) {i : Nat} (hi : i < S 6 w) : VX w S b σ e 36 w i 0 = row σ (1720 + 15 * i + 0) := (VX_in (iN_36 hz hi) (by decide)).trans rfl
theorem V36_1 {w : Nat} {S : Nat → Nat → Nat} {b : XS} {σ : MS} {e : XE} (hz : SzX w S) {i : Nat} (hi : i < S 6 w) : VX w S b σ e 36 w i 1 = row σ (1720 + 15 * i + 1) := (VX_in (iN_36 hz hi) (by decide)).trans rfl
theorem V36_2 {w : Nat} {S : Nat → Nat → Nat} {b : XS} {σ : MS} {e : XE} (hz : SzX w S) {i : Nat} (hi : i < S 6 w) : VX w S b σ e 36 w i 2 = row σ (1720 + 15 * i + 2) := (VX_in (iN_36 hz hi) (by decide)).trans rfl
theorem iN_37 {w : Nat} {S : Nat → Nat → Nat} (hz : SzX w S) {i : Nat} (hi : i < S 6 w) : i < iNX S w 37 := by
  have h0 := hz.1
  unfold iNX
  simp [wNX, cNX, h0]; omega
theorem V37 {w : Nat} {S : Nat → Nat → Nat} {b : XS} {σ : MS} {e : XE} (hz : SzX w S) {i : Nat} (hi : i < S 6 w) {j : Nat} (hj : j < 12) : VX w S b σ e 37 w i j = e (10 + i) (j) := (VX_in (iN_37 hz hi) hj).trans rfl
theorem iN_38 {w : Nat} {S : Nat → Nat → Nat} (hz : SzX w S) {i : Nat} (hi : i < S 8 w) : i < iNX S w 38 := by
  have h0 := hz.1
  unfold iNX
  simp [wNX, cNX, h0]; omega
theorem V38_0 {w : Nat} {S : Nat → Nat → Nat} {b : XS} {σ : MS} {e : XE} (hz : SzX w S) {i : Nat} (hi : i < S 8 w) : VX w S b σ e 38 w i 0 = b.1 38 w i 0 := (VX_in (iN_38 hz hi) (by decide)).trans rfl
theorem V38_1 {w : Nat} {S : Nat → Nat → Nat} {b : XS} {σ : MS} {e : XE} (hz : SzX w S) {i : Nat} (hi : i < S 8 w) : VX w S b σ e 38 w i 1 = row σ (1568 + 6 * i + 0) := (VX_in (iN_38 hz hi) (by decide)).trans rfl
theorem V38_2 {w : Nat} {S : Nat → Nat → Nat} {b : XS} {σ : MS} {e : XE} (hz : SzX w S) {i : Nat} (hi : i < S 8 w) : VX w S b σ e 38 w i 2 = e (4) (i) := (VX_in (iN_38 hz hi) (by decide)).trans rfl
theorem V38_3 {w : Nat} {S : Nat → Nat → Nat} {b : XS} {σ : MS} {e : XE} (hz : SzX w S) {i : Nat} (hi : i < S 8 w) : VX w S b σ e 38 w i 3 = e (5) (i) := (VX_in (iN_38 hz hi) (by decide)).trans rfl
theorem V38_4 {w : Nat} {S : Nat → Nat → Nat} {b : XS} {σ : MS} {e : XE} (hz : SzX w S) {i : Nat} (hi : i < S 8 w) : VX w S b σ e 38 w i 4 = e (6) (i) := (VX_in (iN_38 hz hi) (by decide)).trans rfl
theorem V38_5 {w : Nat} {S : Nat → Nat → Nat} {b : XS} {σ : MS} {e : XE} (hz : SzX w S) {i : Nat} (hi : i < S 8 w) : VX w S b σ e 38 w i 5 = (if w = 0 then row σ (1568 + 6 * i + 1) else b.1 38 w i 5) := (VX_in (iN_38 hz hi) (by decide)).trans (by show vaX b σ e 38 w i 5 (if w = 0 then _ else _) = _; split <;> rfl)
theorem V38_6 {w : Nat} {S : Nat → Nat → Nat} {b : XS} {σ : MS} {e : XE} (hz : SzX w S) {i : Nat} (hi : i < S 8 w) : VX w S b σ e 38 w i 6 = (if w = 0 then row σ (1568 + 6 * i + 2) else b.1 38 w i 6) := (VX_in (iN_38 hz hi) (by decide)).trans (by show vaX b σ e 38 w i 6 (if w = 0 then _ else _) = _; split <;> rfl)
theorem V38_7 {w : Nat} {S : Nat → Nat → Nat} {b : XS} {σ : MS} {e : XE} (hz : SzX w S) {i : Nat} (hi : i < S 8 w) : VX w S b σ e 38 w i 7 = e (15) (i) := (VX_in (iN_38 hz hi) (by decide)).trans rfl
theorem iN_39 {w : Nat} {S : Nat → Nat → Nat} (hz : SzX w S) {i : Nat} (hi : i < S 8 w) : i < iNX S w 39 := by
  have h0 := hz.1
  unfold iNX
  simp [wNX, cNX, h0]; omega
theorem V39 {w : Nat} {S : Nat → Nat → Nat} {b : XS} {σ : MS} {e : XE} (hz : SzX w S) {i : Nat} (hi : i < S 8 w) {j : Nat} (hj : j < 100) : VX w S b σ e 39 w i j = (if w = 0 then σ.2.1 12 (100 * i + j) else b.1 39 w i j) := (VX_in (iN_39 hz hi) hj).trans (by show vaX b σ e 39 w i j (if w = 0 then _ else _) = _; split <;> rfl)
theorem iN_40 {w : Nat} {S : Nat → Nat → Nat} (hz : SzX w S) {i : Nat} (hi : i < S 10 w) : i < iNX S w 40 := by
  have h0 := hz.1
  unfold iNX
  simp [wNX, cNX, h0]; omega
theorem V40_0 {w : Nat} {S : Nat → Nat → Nat} {b : XS} {σ : MS} {e : XE} (hz : SzX w S) {i : Nat} (hi : i < S 10 w) : VX w S b σ e 40 w i 0 = row σ (1640 + 4 * i + 0) := (VX_in (iN_40 hz hi) (by decide)).trans rfl
theorem V40_1 {w : Nat} {S : Nat → Nat → Nat} {b : XS} {σ : MS} {e : XE} (hz : SzX w S) {i : Nat} (hi : i < S 10 w) : VX w S b σ e 40 w i 1 = e (16) (i) := (VX_in (iN_40 hz hi) (by decide)).trans rfl
theorem V40_2 {w : Nat} {S : Nat → Nat → Nat} {b : XS} {σ : MS} {e : XE} (hz : SzX w S) {i : Nat} (hi : i < S 10 w) : VX w S b σ e 40 w i 2 = row σ (1640 + 4 * i + 1) := (VX_in (iN_40 hz hi) (by decide)).trans rfl
theorem V40_3 {w : Nat} {S : Nat → Nat → Nat} {b : XS} {σ : MS} {e : XE} (hz : SzX w S) {i : Nat} (hi : i < S 10 w) : VX w S b σ e 40 w i 3 = row σ (1640 + 4 * i + 2) := (VX_in (iN_40 hz hi) (by decide)).trans rfl
theorem iN_41 {S : Nat → Nat → Nat} (hz : SzX 0 S) : 0 < iNX S 0 41 := by
  have h0 := hz.1
  unfold iNX
  simp [wNX, cNX, h0]
theorem V41 {S : Nat → Nat → Nat} {b : XS} {σ : MS} {e : XE} (hz : SzX 0 S) {j : Nat} (hj : j < 300) : VX 0 S b σ e 41 0 0 j = σ.2.1 7 (j) := (VX_in (iN_41 hz) hj).trans rfl
theorem iN_42 {S : Nat → Nat → Nat} (hz : SzX 0 S) : 0 < iNX S 0 42 := by
  have h0 := hz.1
  unfold iNX
  simp [wNX, cNX, h0]
theorem V42 {S : Nat → Nat → Nat} {b : XS} {σ : MS} {e : XE} (hz : SzX 0 S) {j : Nat} (hj : j < 100) : VX 0 S b σ e 42 0 0 j = row σ (1780 + 3 * j + 2) := (VX_in (iN_42 hz) hj).trans rfl
theorem iN_43 {S : Nat → Nat → Nat} (hz : SzX 0 S) : 0 < iNX S 0 43 := by
  have h0 := hz.1
  unfold iNX
  simp [wNX, cNX, h0]
theorem V43 {S : Nat → Nat → Nat} {b : XS} {σ : MS} {e : XE} (hz : SzX 0 S) {j : Nat} (hj : j < 3) : VX 0 S b σ e 43 0 0 j = σ.2.1 15 (j) := (VX_in (iN_43 hz) hj).trans rfl
theorem iN_44 {S : Nat → Nat → Nat} (hz : SzX 0 S) : 0 < iNX S 0 44 := by
  have h0 := hz.1
  unfold iNX
  simp [wNX, cNX, h0]
theorem V44 {S : Nat → Nat → Nat} {b : XS} {σ : MS} {e : XE} (hz : SzX 0 S) {j : Nat} (hj : j < 3) : VX 0 S b σ e 44 0 0 j = σ.2.1 16 (j) := (VX_in (iN_44 hz) hj).trans rfl
theorem iN_45 {S : Nat → Nat → Nat} (hz : SzX 0 S) : 0 < iNX S 0 45 := by
  have h0 := hz.1
  unfold iNX
  simp [wNX, cNX, h0]
theorem V45 {S : Nat → Nat → Nat} {b : XS} {σ : MS} {e : XE} (hz : SzX 0 S) {j : Nat} (hj : j < 2) : VX 0 S b σ e 45 0 0 j = e (17) (j) := (VX_in (iN_45 hz) hj).trans rfl
theorem iN_46 {S : Nat → Nat → Nat} (hz : SzX 0 S) : 0 < iNX S 0 46 := by
  have h0 := hz.1
  unfold iNX
  simp [wNX, cNX, h0]
theorem V46 {S : Nat → Nat → Nat} {b : XS} {σ : MS} {e : XE} (hz : SzX 0 S) {j : Nat} (hj : j < 2) : VX 0 S b σ e 46 0 0 j = e (18) (j) := (VX_in (iN_46 hz) hj).trans rfl
theorem iN_47 {S : Nat → Nat → Nat} (hz : SzX 0 S) : 0 < iNX S 0 47 := by
  have h0 := hz.1
  unfold iNX
  simp [wNX, cNX, h0]
theorem V47 {S : Nat → Nat → Nat} {b : XS} {σ : MS} {e : XE} (hz : SzX 0 S) {j : Nat} (hj : j < 196) : VX 0 S b σ e 47 0 0 j = σ.2.1 17 (j) := (VX_in (iN_47 hz) hj).trans rfl
def f0_X (A : XA) (b : XS) (σ : MS) (e : XE) : List Value := [.ref (A 1 0 0), .ref (A 1 1 0), .int (σ.1 9), .int (σ.1 13), .int (row σ (2129)), .int (σ.1 29), .int (σ.1 28), .ref (A 41 0 0), .ref (A 12 0 0), .ref (A 14 0 0), .ref (A 16 0 0), .ref (A 42 0 0), .ref (A 43 0 0), .ref (A 44 0 0), .ref (A 45 0 0), .ref (A 46 0 0), .int (e (8) (0)), .int (e (8) (1)), .int (σ.1 31), .long (σ.2.2 32), .long (σ.2.2 33), .ref (A 47 0 0)]
theorem SX.r0 {g : GP} {P : Nat → Prop} {F : Mem} {A : XA} {S : Nat → Nat → Nat} {b : XS} {σ : MS} {e : XE} {M : Mem} (h : SX g P F A 0 S b σ e M)  : M (A 0 0 0) = some (.inr (11, f0_X A b σ e)) := by
  obtain ⟨τ, dn, fl, hR, hz, -⟩ := h
  rw [hR.gt (k := 0) (w := 0) (i := 0) (LvX.one (by decide) Nat.zero_lt_one)]
  simp only [celX, shX, coO, f0_X, V0_0 (b := b) (σ := σ) (e := e) hz, V0_1 (b := b) (σ := σ) (e := e) hz, V0_2 (b := b) (σ := σ) (e := e) hz, V0_3 (b := b) (σ := σ) (e := e) hz, V0_4 (b := b) (σ := σ) (e := e) hz, V0_5 (b := b) (σ := σ) (e := e) hz, V0_6 (b := b) (σ := σ) (e := e) hz, V0_7 (b := b) (σ := σ) (e := e) hz, V0_8 (b := b) (σ := σ) (e := e) hz, V0_9 (b := b) (σ := σ) (e := e) hz, V0_10 (b := b) (σ := σ) (e := e) hz, V0_11 (b := b) (σ := σ) (e := e) hz, V0_12 (b := b) (σ := σ) (e := e) hz, V0_13 (b := b) (σ := σ) (e := e) hz, V0_14 (b := b) (σ := σ) (e := e) hz, V0_15 (b := b) (σ := σ) (e := e) hz, V0_16 (b := b) (σ := σ) (e := e) hz, V0_17 (b := b) (σ := σ) (e := e) hz, V0_18 (b := b) (σ := σ) (e := e) hz]
theorem SX.p0_2 {g : GP} {P : Nat → Prop} {F : Mem} {A : XA} {S : Nat → Nat → Nat} {b : XS} {σ : MS} {e : XE} {M : Mem} (h : SX g P F A 0 S b σ e M)  {v : Int32} : SX g P F A 0 S b (sF σ 9 v) e (mset M (A 0 0 0) (.inr (11, (f0_X A b σ e).set 2 (.int v)))) := by
  have hz := h.hz
  exact SX.putF (k := 0) (i := 0) (j := 2) h (iN_0 hz) (by decide) rfl (LvX.one (by decide) Nat.zero_lt_one) (by decide) (by decide) (fun τ fl => by
    show (.inr (11, (f0_X A b σ e).set 2 (.int v))) = coO A σ.2.2 (upd (VX 0 S b σ e 0 0 0) 2 v)
    simp [coO, f0_X, upd, V0_0 (b := b) (σ := σ) (e := e) hz, V0_1 (b := b) (σ := σ) (e := e) hz, V0_2 (b := b) (σ := σ) (e := e) hz, V0_3 (b := b) (σ := σ) (e := e) hz, V0_4 (b := b) (σ := σ) (e := e) hz, V0_5 (b := b) (σ := σ) (e := e) hz, V0_6 (b := b) (σ := σ) (e := e) hz, V0_7 (b := b) (σ := σ) (e := e) hz, V0_8 (b := b) (σ := σ) (e := e) hz, V0_9 (b := b) (σ := σ) (e := e) hz, V0_10 (b := b) (σ := σ) (e := e) hz, V0_11 (b := b) (σ := σ) (e := e) hz, V0_12 (b := b) (σ := σ) (e := e) hz, V0_13 (b := b) (σ := σ) (e := e) hz, V0_14 (b := b) (σ := σ) (e := e) hz, V0_15 (b := b) (σ := σ) (e := e) hz, V0_16 (b := b) (σ := σ) (e := e) hz, V0_17 (b := b) (σ := σ) (e := e) hz, V0_18 (b := b) (σ := σ) (e := e) hz])
theorem SX.p0_3 {g : GP} {P : Nat → Prop} {F : Mem} {A : XA} {S : Nat → Nat → Nat} {b : XS} {σ : MS} {e : XE} {M : Mem} (h : SX g P F A 0 S b σ e M)  {v : Int32} : SX g P F A 0 S b (sF σ 13 v) e (mset M (A 0 0 0) (.inr (11, (f0_X A b σ e).set 3 (.int v)))) := by
  have hz := h.hz
  exact SX.putF (k := 0) (i := 0) (j := 3) h (iN_0 hz) (by decide) rfl (LvX.one (by decide) Nat.zero_lt_one) (by decide) (by decide) (fun τ fl => by
    show (.inr (11, (f0_X A b σ e).set 3 (.int v))) = coO A σ.2.2 (upd (VX 0 S b σ e 0 0 0) 3 v)
    simp [coO, f0_X, upd, V0_0 (b := b) (σ := σ) (e := e) hz, V0_1 (b := b) (σ := σ) (e := e) hz, V0_2 (b := b) (σ := σ) (e := e) hz, V0_3 (b := b) (σ := σ) (e := e) hz, V0_4 (b := b) (σ := σ) (e := e) hz, V0_5 (b := b) (σ := σ) (e := e) hz, V0_6 (b := b) (σ := σ) (e := e) hz, V0_7 (b := b) (σ := σ) (e := e) hz, V0_8 (b := b) (σ := σ) (e := e) hz, V0_9 (b := b) (σ := σ) (e := e) hz, V0_10 (b := b) (σ := σ) (e := e) hz, V0_11 (b := b) (σ := σ) (e := e) hz, V0_12 (b := b) (σ := σ) (e := e) hz, V0_13 (b := b) (σ := σ) (e := e) hz, V0_14 (b := b) (σ := σ) (e := e) hz, V0_15 (b := b) (σ := σ) (e := e) hz, V0_16 (b := b) (σ := σ) (e := e) hz, V0_17 (b := b) (σ := σ) (e := e) hz, V0_18 (b := b) (σ := σ) (e := e) hz])
theorem SX.p0_4 {g : GP} {P : Nat → Prop} {F : Mem} {A : XA} {S : Nat → Nat → Nat} {b : XS} {σ : MS} {e : XE} {M : Mem} (h : SX g P F A 0 S b σ e M)  {v : Int32} : SX g P F A 0 S b (wA σ 1 (2129) v) e (mset M (A 0 0 0) (.inr (11, (f0_X A b σ e).set 4 (.int v)))) := by
  have hz := h.hz
  exact SX.putA (k := 0) (i := 0) (j := 4) h (iN_0 hz) (by decide) rfl (LvX.one (by decide) Nat.zero_lt_one) (by decide) (by decide) (by decide) (fun τ fl => by
    show (.inr (11, (f0_X A b σ e).set 4 (.int v))) = coO A σ.2.2 (upd (VX 0 S b σ e 0 0 0) 4 v)
    simp [coO, f0_X, upd, V0_0 (b := b) (σ := σ) (e := e) hz, V0_1 (b := b) (σ := σ) (e := e) hz, V0_2 (b := b) (σ := σ) (e := e) hz, V0_3 (b := b) (σ := σ) (e := e) hz, V0_4 (b := b) (σ := σ) (e := e) hz, V0_5 (b := b) (σ := σ) (e := e) hz, V0_6 (b := b) (σ := σ) (e := e) hz, V0_7 (b := b) (σ := σ) (e := e) hz, V0_8 (b := b) (σ := σ) (e := e) hz, V0_9 (b := b) (σ := σ) (e := e) hz, V0_10 (b := b) (σ := σ) (e := e) hz, V0_11 (b := b) (σ := σ) (e := e) hz, V0_12 (b := b) (σ := σ) (e := e) hz, V0_13 (b := b) (σ := σ) (e := e) hz, V0_14 (b := b) (σ := σ) (e := e) hz, V0_15 (b := b) (σ := σ) (e := e) hz, V0_16 (b := b) (σ := σ) (e := e) hz, V0_17 (b := b) (σ := σ) (e := e) hz, V0_18 (b := b) (σ := σ) (e := e) hz])
theorem SX.p0_5 {g : GP} {P : Nat → Prop} {F : Mem} {A : XA} {S : Nat → Nat → Nat} {b : XS} {σ : MS} {e : XE} {M : Mem} (h : SX g P F A 0 S b σ e M)  {v : Int32} : SX g P F A 0 S b (sF σ 29 v) e (mset M (A 0 0 0) (.inr (11, (f0_X A b σ e).set 5 (.int v)))) := by
  have hz := h.hz
  exact SX.putF (k := 0) (i := 0) (j := 5) h (iN_0 hz) (by decide) rfl (LvX.one (by decide) Nat.zero_lt_one) (by decide) (by decide) (fun τ fl => by
    show (.inr (11, (f0_X A b σ e).set 5 (.int v))) = coO A σ.2.2 (upd (VX 0 S b σ e 0 0 0) 5 v)
    simp [coO, f0_X, upd, V0_0 (b := b) (σ := σ) (e := e) hz, V0_1 (b := b) (σ := σ) (e := e) hz, V0_2 (b := b) (σ := σ) (e := e) hz, V0_3 (b := b) (σ := σ) (e := e) hz, V0_4 (b := b) (σ := σ) (e := e) hz, V0_5 (b := b) (σ := σ) (e := e) hz, V0_6 (b := b) (σ := σ) (e := e) hz, V0_7 (b := b) (σ := σ) (e := e) hz, V0_8 (b := b) (σ := σ) (e := e) hz, V0_9 (b := b) (σ := σ) (e := e) hz, V0_10 (b := b) (σ := σ) (e := e) hz, V0_11 (b := b) (σ := σ) (e := e) hz, V0_12 (b := b) (σ := σ) (e := e) hz, V0_13 (b := b) (σ := σ) (e := e) hz, V0_14 (b := b) (σ := σ) (e := e) hz, V0_15 (b := b) (σ := σ) (e := e) hz, V0_16 (b := b) (σ := σ) (e := e) hz, V0_17 (b := b) (σ := σ) (e := e) hz, V0_18 (b := b) (σ := σ) (e := e) hz])
theorem SX.p0_6 {g : GP} {P : Nat → Prop} {F : Mem} {A : XA} {S : Nat → Nat → Nat} {b : XS} {σ : MS} {e : XE} {M : Mem} (h : SX g P F A 0 S b σ e M)  {v : Int32} : SX g P F A 0 S b (sF σ 28 v) e (mset M (A 0 0 0) (.inr (11, (f0_X A b σ e).set 6 (.int v)))) := by
  have hz := h.hz
  exact SX.putF (k := 0) (i := 0) (j := 6) h (iN_0 hz) (by decide) rfl (LvX.one (by decide) Nat.zero_lt_one) (by decide) (by decide) (fun τ fl => by
    show (.inr (11, (f0_X A b σ e).set 6 (.int v))) = coO A σ.2.2 (upd (VX 0 S b σ e 0 0 0) 6 v)
    simp [coO, f0_X, upd, V0_0 (b := b) (σ := σ) (e := e) hz, V0_1 (b := b) (σ := σ) (e := e) hz, V0_2 (b := b) (σ := σ) (e := e) hz, V0_3 (b := b) (σ := σ) (e := e) hz, V0_4 (b := b) (σ := σ) (e := e) hz, V0_5 (b := b) (σ := σ) (e := e) hz, V0_6 (b := b) (σ := σ) (e := e) hz, V0_7 (b := b) (σ := σ) (e := e) hz, V0_8 (b := b) (σ := σ) (e := e) hz, V0_9 (b := b) (σ := σ) (e := e) hz, V0_10 (b := b) (σ := σ) (e := e) hz, V0_11 (b := b) (σ := σ) (e := e) hz, V0_12 (b := b) (σ := σ) (e := e) hz, V0_13 (b := b) (σ := σ) (e := e) hz, V0_14 (b := b) (σ := σ) (e := e) hz, V0_15 (b := b) (σ := σ) (e := e) hz, V0_16 (b := b) (σ := σ) (e := e) hz, V0_17 (b := b) (σ := σ) (e := e) hz, V0_18 (b := b) (σ := σ) (e := e) hz])
theorem SX.p0_16 {g : GP} {P : Nat → Prop} {F : Mem} {A : XA} {S : Nat → Nat → Nat} {b : XS} {σ : MS} {e : XE} {M : Mem} (h : SX g P F A 0 S b σ e M)  {v : Int32} : SX g P F A 0 S b σ (uE e (8) (0) v) (mset M (A 0 0 0) (.inr (11, (f0_X A b σ e).set 16 (.int v)))) := by
  have hz := h.hz
  exact SX.putE (k := 0) (i := 0) (j := 16) h (iN_0 hz) (by decide) rfl (LvX.one (by decide) Nat.zero_lt_one) (by decide) (by decide) (fun τ fl => by
    show (.inr (11, (f0_X A b σ e).set 16 (.int v))) = coO A σ.2.2 (upd (VX 0 S b σ e 0 0 0) 16 v)
    simp [coO, f0_X, upd, V0_0 (b := b) (σ := σ) (e := e) hz, V0_1 (b := b) (σ := σ) (e := e) hz, V0_2 (b := b) (σ := σ) (e := e) hz, V0_3 (b := b) (σ := σ) (e := e) hz, V0_4 (b := b) (σ := σ) (e := e) hz, V0_5 (b := b) (σ := σ) (e := e) hz, V0_6 (b := b) (σ := σ) (e := e) hz, V0_7 (b := b) (σ := σ) (e := e) hz, V0_8 (b := b) (σ := σ) (e := e) hz, V0_9 (b := b) (σ := σ) (e := e) hz, V0_10 (b := b) (σ := σ) (e := e) hz, V0_11 (b := b) (σ := σ) (e := e) hz, V0_12 (b := b) (σ := σ) (e := e) hz, V0_13 (b := b) (σ := σ) (e := e) hz, V0_14 (b := b) (σ := σ) (e := e) hz, V0_15 (b := b) (σ := σ) (e := e) hz, V0_16 (b := b) (σ := σ) (e := e) hz, V0_17 (b := b) (σ := σ) (e := e) hz, V0_18 (b := b) (σ := σ) (e := e) hz])
theorem SX.p0_17 {g : GP} {P : Nat → Prop} {F : Mem} {A : XA} {S : Nat → Nat → Nat} {b : XS} {σ : MS} {e : XE} {M : Mem} (h : SX g P F A 0 S b σ e M)  {v : Int32} : SX g P F A 0 S b σ (uE e (8) (1) v) (mset M (A 0 0 0) (.inr (11, (f0_X A b σ e).set 17 (.int v)))) := by
  have hz := h.hz
  exact SX.putE (k := 0) (i := 0) (j := 17) h (iN_0 hz) (by decide) rfl (LvX.one (by decide) Nat.zero_lt_one) (by decide) (by decide) (fun τ fl => by
    show (.inr (11, (f0_X A b σ e).set 17 (.int v))) = coO A σ.2.2 (upd (VX 0 S b σ e 0 0 0) 17 v)
    simp [coO, f0_X, upd, V0_0 (b := b) (σ := σ) (e := e) hz, V0_1 (b := b) (σ := σ) (e := e) hz, V0_2 (b := b) (σ := σ) (e := e) hz, V0_3 (b := b) (σ := σ) (e := e) hz, V0_4 (b := b) (σ := σ) (e := e) hz, V0_5 (b := b) (σ := σ) (e := e) hz, V0_6 (b := b) (σ := σ) (e := e) hz, V0_7 (b := b) (σ := σ) (e := e) hz, V0_8 (b := b) (σ := σ) (e := e) hz, V0_9 (b := b) (σ := σ) (e := e) hz, V0_10 (b := b) (σ := σ) (e := e) hz, V0_11 (b := b) (σ := σ) (e := e) hz, V0_12 (b := b) (σ := σ) (e := e) hz, V0_13 (b := b) (σ := σ) (e := e) hz, V0_14 (b := b) (σ := σ) (e := e) hz, V0_15 (b := b) (σ := σ) (e := e) hz, V0_16 (b := b) (σ := σ) (e := e) hz, V0_17 (b := b) (σ := σ) (e := e) hz, V0_18 (b := b) (σ := σ) (e := e) hz])
theorem SX.p0_18 {g : GP} {P : Nat → Prop} {F : Mem} {A : XA} {S : Nat → Nat → Nat} {b : XS} {σ : MS} {e : XE} {M : Mem} (h : SX g P F A 0 S b σ e M)  {v : Int32} : SX g P F A 0 S b (sF σ 31 v) e (mset M (A 0 0 0) (.inr (11, (f0_X A b σ e).set 18 (.int v)))) := by
  have hz := h.hz
  exact SX.putF (k := 0) (i := 0) (j := 18) h (iN_0 hz) (by decide) rfl (LvX.one (by decide) Nat.zero_lt_one) (by decide) (by decide) (fun τ fl => by
    show (.inr (11, (f0_X A b σ e).set 18 (.int v))) = coO A σ.2.2 (upd (VX 0 S b σ e 0 0 0) 18 v)
    simp [coO, f0_X, upd, V0_0 (b := b) (σ := σ) (e := e) hz, V0_1 (b := b) (σ := σ) (e := e) hz, V0_2 (b := b) (σ := σ) (e := e) hz, V0_3 (b := b) (σ := σ) (e := e) hz, V0_4 (b := b) (σ := σ) (e := e) hz, V0_5 (b := b) (σ := σ) (e := e) hz, V0_6 (b := b) (σ := σ) (e := e) hz, V0_7 (b := b) (σ := σ) (e := e) hz, V0_8 (b := b) (σ := σ) (e := e) hz, V0_9 (b := b) (σ := σ) (e := e) hz, V0_10 (b := b) (σ := σ) (e := e) hz, V0_11 (b := b) (σ := σ) (e := e) hz, V0_12 (b := b) (σ := σ) (e := e) hz, V0_13 (b := b) (σ := σ) (e := e) hz, V0_14 (b := b) (σ := σ) (e := e) hz, V0_15 (b := b) (σ := σ) (e := e) hz, V0_16 (b := b) (σ := σ) (e := e) hz, V0_17 (b := b) (σ := σ) (e := e) hz, V0_18 (b := b) (σ := σ) (e := e) hz])
def f1_X (w : Nat) (A : XA) (b : XS) (σ : MS) (e : XE) : List Value := [.int (row σ (2116)), .int (row σ (2117)), .int (row σ (2118)), .int (row σ (2119)), .int ((if w = 0 then row σ (2120) else b.1 1 w 0 4)), .int ((if w = 0 then row σ (2121) else b.1 1 w 0 5)), .int (row σ (2122)), .int (row σ (2123)), .int ((if w = 0 then row σ (2131) else b.1 1 w 0 8)), .int (σ.1 23), .int (σ.1 24), .int (σ.1 7), .ref (A 2 w 0), .ref (A 27 0 0), .ref (A 28 0 0), .ref (A 18 w 0), .ref (A 19 w 0), .ref (A 20 w 0), .ref (A 21 w 0), .ref (A 48 w 0), .ref (A 49 w 0), .ref (A 29 0 0), .ref (A 22 w 0), .ref (A 23 w 0), .ref (A 24 w 0), .ref (A 25 w 0), .ref (A 4 w 0), .ref (A 6 w 0), .ref (A 8 w 0), .ref (A 10 w 0), .ref (A 26 w 0), if w = 0 then .ref (A 33 0 0) else .null]
theorem SX.r1 {g : GP} {P : Nat → Prop} {F : Mem} {A : XA} {w : Nat} {S : Nat → Nat → Nat} {b : XS} {σ : MS} {e : XE} {M : Mem} (h : SX g P F A w S b σ e M)  : M (A 1 w 0) = some (.inr (22, f1_X w A b σ e)) := by
  obtain ⟨τ, dn, fl, hR, hz, -⟩ := h
  rw [hR.gt (k := 1) (w := w) (i := 0) (LvX.one (by decide) hz.1)]
  simp only [celX, shX, woO, f1_X, V1_0 (b := b) (σ := σ) (e := e) hz, V1_1 (b := b) (σ := σ) (e := e) hz, V1_2 (b := b) (σ := σ) (e := e) hz, V1_3 (b := b) (σ := σ) (e := e) hz, V1_4 (b := b) (σ := σ) (e := e) hz, V1_5 (b := b) (σ := σ) (e := e) hz, V1_6 (b := b) (σ := σ) (e := e) hz, V1_7 (b := b) (σ := σ) (e := e) hz, V1_8 (b := b) (σ := σ) (e := e) hz, V1_9 (b := b) (σ := σ) (e := e) hz, V1_10 (b := b) (σ := σ) (e := e) hz, V1_11 (b := b) (σ := σ) (e := e) hz]
theorem SX.p1_0 {g : GP} {P : Nat → Prop} {F : Mem} {A : XA} {w : Nat} {S : Nat → Nat → Nat} {b : XS} {σ : MS} {e : XE} {M : Mem} (h : SX g P F A w S b σ e M)  {v : Int32} : SX g P F A w S b (wA σ 1 (2116) v) e (mset M (A 1 w 0) (.inr (22, (f1_X w A b σ e).set 0 (.int v)))) := by
  have hz := h.hz
  exact SX.putA (k := 1) (i := 0) (j := 0) h (iN_1 hz) (by decide) rfl (LvX.one (by decide) hz.1) (by decide) (by decide) (by decide) (fun τ fl => by
    show (.inr (22, (f1_X w A b σ e).set 0 (.int v))) = woO A w (upd (VX w S b σ e 1 w 0) 0 v)
    simp [woO, f1_X, upd, V1_0 (b := b) (σ := σ) (e := e) hz, V1_1 (b := b) (σ := σ) (e := e) hz, V1_2 (b := b) (σ := σ) (e := e) hz, V1_3 (b := b) (σ := σ) (e := e) hz, V1_4 (b := b) (σ := σ) (e := e) hz, V1_5 (b := b) (σ := σ) (e := e) hz, V1_6 (b := b) (σ := σ) (e := e) hz, V1_7 (b := b) (σ := σ) (e := e) hz, V1_8 (b := b) (σ := σ) (e := e) hz, V1_9 (b := b) (σ := σ) (e := e) hz, V1_10 (b := b) (σ := σ) (e := e) hz, V1_11 (b := b) (σ := σ) (e := e) hz])
theorem SX.p1_1 {g : GP} {P : Nat → Prop} {F : Mem} {A : XA} {w : Nat} {S : Nat → Nat → Nat} {b : XS} {σ : MS} {e : XE} {M : Mem} (h : SX g P F A w S b σ e M)  {v : Int32} : SX g P F A w S b (wA σ 1 (2117) v) e (mset M (A 1 w 0) (.inr (22, (f1_X w A b σ e).set 1 (.int v)))) := by
  have hz := h.hz
  exact SX.putA (k := 1) (i := 0) (j := 1) h (iN_1 hz) (by decide) rfl (LvX.one (by decide) hz.1) (by decide) (by decide) (by decide) (fun τ fl => by
    show (.inr (22, (f1_X w A b σ e).set 1 (.int v))) = woO A w (upd (VX w S b σ e 1 w 0) 1 v)
    simp [woO, f1_X, upd, V1_0 (b := b) (σ := σ) (e := e) hz, V1_1 (b := b) (σ := σ) (e := e) hz, V1_2 (b := b) (σ := σ) (e := e) hz, V1_3 (b := b) (σ := σ) (e := e) hz, V1_4 (b := b) (σ := σ) (e := e) hz, V1_5 (b := b) (σ := σ) (e := e) hz, V1_6 (b := b) (σ := σ) (e := e) hz, V1_7 (b := b) (σ := σ) (e := e) hz, V1_8 (b := b) (σ := σ) (e := e) hz, V1_9 (b := b) (σ := σ) (e := e) hz, V1_10 (b := b) (σ := σ) (e := e) hz, V1_11 (b := b) (σ := σ) (e := e) hz])
theorem SX.p1_2 {g : GP} {P : Nat → Prop} {F : Mem} {A : XA} {w : Nat} {S : Nat → Nat → Nat} {b : XS} {σ : MS} {e : XE} {M : Mem} (h : SX g P F A w S b σ e M)  {v : Int32} : SX g P F A w S b (wA σ 1 (2118) v) e (mset M (A 1 w 0) (.inr (22, (f1_X w A b σ e).set 2 (.int v)))) := by
  have hz := h.hz
  exact SX.putA (k := 1) (i := 0) (j := 2) h (iN_1 hz) (by decide) rfl (LvX.one (by decide) hz.1) (by decide) (by decide) (by decide) (fun τ fl => by
    show (.inr (22, (f1_X w A b σ e).set 2 (.int v))) = woO A w (upd (VX w S b σ e 1 w 0) 2 v)
    simp [woO, f1_X, upd, V1_0 (b := b) (σ := σ) (e := e) hz, V1_1 (b := b) (σ := σ) (e := e) hz, V1_2 (b := b) (σ := σ) (e := e) hz, V1_3 (b := b) (σ := σ) (e := e) hz, V1_4 (b := b) (σ := σ) (e := e) hz, V1_5 (b := b) (σ := σ) (e := e) hz, V1_6 (b := b) (σ := σ) (e := e) hz, V1_7 (b := b) (σ := σ) (e := e) hz, V1_8 (b := b) (σ := σ) (e := e) hz, V1_9 (b := b) (σ := σ) (e := e) hz, V1_10 (b := b) (σ := σ) (e := e) hz, V1_11 (b := b) (σ := σ) (e := e) hz])
theorem SX.p1_3 {g : GP} {P : Nat → Prop} {F : Mem} {A : XA} {w : Nat} {S : Nat → Nat → Nat} {b : XS} {σ : MS} {e : XE} {M : Mem} (h : SX g P F A w S b σ e M)  {v : Int32} : SX g P F A w S b (wA σ 1 (2119) v) e (mset M (A 1 w 0) (.inr (22, (f1_X w A b σ e).set 3 (.int v)))) := by
  have hz := h.hz
  exact SX.putA (k := 1) (i := 0) (j := 3) h (iN_1 hz) (by decide) rfl (LvX.one (by decide) hz.1) (by decide) (by decide) (by decide) (fun τ fl => by
    show (.inr (22, (f1_X w A b σ e).set 3 (.int v))) = woO A w (upd (VX w S b σ e 1 w 0) 3 v)
    simp [woO, f1_X, upd, V1_0 (b := b) (σ := σ) (e := e) hz, V1_1 (b := b) (σ := σ) (e := e) hz, V1_2 (b := b) (σ := σ) (e := e) hz, V1_3 (b := b) (σ := σ) (e := e) hz, V1_4 (b := b) (σ := σ) (e := e) hz, V1_5 (b := b) (σ := σ) (e := e) hz, V1_6 (b := b) (σ := σ) (e := e) hz, V1_7 (b := b) (σ := σ) (e := e) hz, V1_8 (b := b) (σ := σ) (e := e) hz, V1_9 (b := b) (σ := σ) (e := e) hz, V1_10 (b := b) (σ := σ) (e := e) hz, V1_11 (b := b) (σ := σ) (e := e) hz])
theorem SX.p1_4 {g : GP} {P : Nat → Prop} {F : Mem} {A : XA} {S : Nat → Nat → Nat} {b : XS} {σ : MS} {e : XE} {M : Mem} (h : SX g P F A 0 S b σ e M)  {v : Int32} : SX g P F A 0 S b (wA σ 1 (2120) v) e (mset M (A 1 0 0) (.inr (22, (f1_X 0 A b σ e).set 4 (.int v)))) := by
  have hz := h.hz
  exact SX.putA (k := 1) (i := 0) (j := 4) h (iN_1 hz) (by decide) rfl (LvX.one (by decide) hz.1) (by decide) (by decide) (by decide) (fun τ fl => by
    show (.inr (22, (f1_X 0 A b σ e).set 4 (.int v))) = woO A 0 (upd (VX 0 S b σ e 1 0 0) 4 v)
    simp [woO, f1_X, upd, V1_0 (b := b) (σ := σ) (e := e) hz, V1_1 (b := b) (σ := σ) (e := e) hz, V1_2 (b := b) (σ := σ) (e := e) hz, V1_3 (b := b) (σ := σ) (e := e) hz, V1_4 (b := b) (σ := σ) (e := e) hz, V1_5 (b := b) (σ := σ) (e := e) hz, V1_6 (b := b) (σ := σ) (e := e) hz, V1_7 (b := b) (σ := σ) (e := e) hz, V1_8 (b := b) (σ := σ) (e := e) hz, V1_9 (b := b) (σ := σ) (e := e) hz, V1_10 (b := b) (σ := σ) (e := e) hz, V1_11 (b := b) (σ := σ) (e := e) hz])
theorem SX.p1_5 {g : GP} {P : Nat → Prop} {F : Mem} {A : XA} {S : Nat → Nat → Nat} {b : XS} {σ : MS} {e : XE} {M : Mem} (h : SX g P F A 0 S b σ e M)  {v : Int32} : SX g P F A 0 S b (wA σ 1 (2121) v) e (mset M (A 1 0 0) (.inr (22, (f1_X 0 A b σ e).set 5 (.int v)))) := by
  have hz := h.hz
  exact SX.putA (k := 1) (i := 0) (j := 5) h (iN_1 hz) (by decide) rfl (LvX.one (by decide) hz.1) (by decide) (by decide) (by decide) (fun τ fl => by
    show (.inr (22, (f1_X 0 A b σ e).set 5 (.int v))) = woO A 0 (upd (VX 0 S b σ e 1 0 0) 5 v)
    simp [woO, f1_X, upd, V1_0 (b := b) (σ := σ) (e := e) hz, V1_1 (b := b) (σ := σ) (e := e) hz, V1_2 (b := b) (σ := σ) (e := e) hz, V1_3 (b := b) (σ := σ) (e := e) hz, V1_4 (b := b) (σ := σ) (e := e) hz, V1_5 (b := b) (σ := σ) (e := e) hz, V1_6 (b := b) (σ := σ) (e := e) hz, V1_7 (b := b) (σ := σ) (e := e) hz, V1_8 (b := b) (σ := σ) (e := e) hz, V1_9 (b := b) (σ := σ) (e := e) hz, V1_10 (b := b) (σ := σ) (e := e) hz, V1_11 (b := b) (σ := σ) (e := e) hz])
theorem SX.p1_6 {g : GP} {P : Nat → Prop} {F : Mem} {A : XA} {w : Nat} {S : Nat → Nat → Nat} {b : XS} {σ : MS} {e : XE} {M : Mem} (h : SX g P F A w S b σ e M)  {v : Int32} : SX g P F A w S b (wA σ 1 (2122) v) e (mset M (A 1 w 0) (.inr (22, (f1_X w A b σ e).set 6 (.int v)))) := by
  have hz := h.hz
  exact SX.putA (k := 1) (i := 0) (j := 6) h (iN_1 hz) (by decide) rfl (LvX.one (by decide) hz.1) (by decide) (by decide) (by decide) (fun τ fl => by
    show (.inr (22, (f1_X w A b σ e).set 6 (.int v))) = woO A w (upd (VX w S b σ e 1 w 0) 6 v)
    simp [woO, f1_X, upd, V1_0 (b := b) (σ := σ) (e := e) hz, V1_1 (b := b) (σ := σ) (e := e) hz, V1_2 (b := b) (σ := σ) (e := e) hz, V1_3 (b := b) (σ := σ) (e := e) hz, V1_4 (b := b) (σ := σ) (e := e) hz, V1_5 (b := b) (σ := σ) (e := e) hz, V1_6 (b := b) (σ := σ) (e := e) hz, V1_7 (b := b) (σ := σ) (e := e) hz, V1_8 (b := b) (σ := σ) (e := e) hz, V1_9 (b := b) (σ := σ) (e := e) hz, V1_10 (b := b) (σ := σ) (e := e) hz, V1_11 (b := b) (σ := σ) (e := e) hz])
theorem SX.p1_7 {g : GP} {P : Nat → Prop} {F : Mem} {A : XA} {w : Nat} {S : Nat → Nat → Nat} {b : XS} {σ : MS} {e : XE} {M : Mem} (h : SX g P F A w S b σ e M)  {v : Int32} : SX g P F A w S b (wA σ 1 (2123) v) e (mset M (A 1 w 0) (.inr (22, (f1_X w A b σ e).set 7 (.int v)))) := by
  have hz := h.hz
  exact SX.putA (k := 1) (i := 0) (j := 7) h (iN_1 hz) (by decide) rfl (LvX.one (by decide) hz.1) (by decide) (by decide) (by decide) (fun τ fl => by
    show (.inr (22, (f1_X w A b σ e).set 7 (.int v))) = woO A w (upd (VX w S b σ e 1 w 0) 7 v)
    simp [woO, f1_X, upd, V1_0 (b := b) (σ := σ) (e := e) hz, V1_1 (b := b) (σ := σ) (e := e) hz, V1_2 (b := b) (σ := σ) (e := e) hz, V1_3 (b := b) (σ := σ) (e := e) hz, V1_4 (b := b) (σ := σ) (e := e) hz, V1_5 (b := b) (σ := σ) (e := e) hz, V1_6 (b := b) (σ := σ) (e := e) hz, V1_7 (b := b) (σ := σ) (e := e) hz, V1_8 (b := b) (σ := σ) (e := e) hz, V1_9 (b := b) (σ := σ) (e := e) hz, V1_10 (b := b) (σ := σ) (e := e) hz, V1_11 (b := b) (σ := σ) (e := e) hz])
theorem SX.p1_8 {g : GP} {P : Nat → Prop} {F : Mem} {A : XA} {S : Nat → Nat → Nat} {b : XS} {σ : MS} {e : XE} {M : Mem} (h : SX g P F A 0 S b σ e M)  {v : Int32} : SX g P F A 0 S b (wA σ 1 (2131) v) e (mset M (A 1 0 0) (.inr (22, (f1_X 0 A b σ e).set 8 (.int v)))) := by
  have hz := h.hz
  exact SX.putA (k := 1) (i := 0) (j := 8) h (iN_1 hz) (by decide) rfl (LvX.one (by decide) hz.1) (by decide) (by decide) (by decide) (fun τ fl => by
    show (.inr (22, (f1_X 0 A b σ e).set 8 (.int v))) = woO A 0 (upd (VX 0 S b σ e 1 0 0) 8 v)
    simp [woO, f1_X, upd, V1_0 (b := b) (σ := σ) (e := e) hz, V1_1 (b := b) (σ := σ) (e := e) hz, V1_2 (b := b) (σ := σ) (e := e) hz, V1_3 (b := b) (σ := σ) (e := e) hz, V1_4 (b := b) (σ := σ) (e := e) hz, V1_5 (b := b) (σ := σ) (e := e) hz, V1_6 (b := b) (σ := σ) (e := e) hz, V1_7 (b := b) (σ := σ) (e := e) hz, V1_8 (b := b) (σ := σ) (e := e) hz, V1_9 (b := b) (σ := σ) (e := e) hz, V1_10 (b := b) (σ := σ) (e := e) hz, V1_11 (b := b) (σ := σ) (e := e) hz])
theorem SX.p1_9 {g : GP} {P : Nat → Prop} {F : Mem} {A : XA} {w : Nat} {S : Nat → Nat → Nat} {b : XS} {σ : MS} {e : XE} {M : Mem} (h : SX g P F A w S b σ e M)  {v : Int32} : SX g P F A w S b (sF σ 23 v) e (mset M (A 1 w 0) (.inr (22, (f1_X w A b σ e).set 9 (.int v)))) := by
  have hz := h.hz
  exact SX.putF (k := 1) (i := 0) (j := 9) h (iN_1 hz) (by decide) rfl (LvX.one (by decide) hz.1) (by decide) (by decide) (fun τ fl => by
    show (.inr (22, (f1_X w A b σ e).set 9 (.int v))) = woO A w (upd (VX w S b σ e 1 w 0) 9 v)
    simp [woO, f1_X, upd, V1_0 (b := b) (σ := σ) (e := e) hz, V1_1 (b := b) (σ := σ) (e := e) hz, V1_2 (b := b) (σ := σ) (e := e) hz, V1_3 (b := b) (σ := σ) (e := e) hz, V1_4 (b := b) (σ := σ) (e := e) hz, V1_5 (b := b) (σ := σ) (e := e) hz, V1_6 (b := b) (σ := σ) (e := e) hz, V1_7 (b := b) (σ := σ) (e := e) hz, V1_8 (b := b) (σ := σ) (e := e) hz, V1_9 (b := b) (σ := σ) (e := e) hz, V1_10 (b := b) (σ := σ) (e := e) hz, V1_11 (b := b) (σ := σ) (e := e) hz])
theorem SX.p1_10 {g : GP} {P : Nat → Prop} {F : Mem} {A : XA} {w : Nat} {S : Nat → Nat → Nat} {b : XS} {σ : MS} {e : XE} {M : Mem} (h : SX g P F A w S b σ e M)  {v : Int32} : SX g P F A w S b (sF σ 24 v) e (mset M (A 1 w 0) (.inr (22, (f1_X w A b σ e).set 10 (.int v)))) := by
  have hz := h.hz
  exact SX.putF (k := 1) (i := 0) (j := 10) h (iN_1 hz) (by decide) rfl (LvX.one (by decide) hz.1) (by decide) (by decide) (fun τ fl => by
    show (.inr (22, (f1_X w A b σ e).set 10 (.int v))) = woO A w (upd (VX w S b σ e 1 w 0) 10 v)
    simp [woO, f1_X, upd, V1_0 (b := b) (σ := σ) (e := e) hz, V1_1 (b := b) (σ := σ) (e := e) hz, V1_2 (b := b) (σ := σ) (e := e) hz, V1_3 (b := b) (σ := σ) (e := e) hz, V1_4 (b := b) (σ := σ) (e := e) hz, V1_5 (b := b) (σ := σ) (e := e) hz, V1_6 (b := b) (σ := σ) (e := e) hz, V1_7 (b := b) (σ := σ) (e := e) hz, V1_8 (b := b) (σ := σ) (e := e) hz, V1_9 (b := b) (σ := σ) (e := e) hz, V1_10 (b := b) (σ := σ) (e := e) hz, V1_11 (b := b) (σ := σ) (e := e) hz])
theorem SX.p1_11 {g : GP} {P : Nat → Prop} {F : Mem} {A : XA} {w : Nat} {S : Nat → Nat → Nat} {b : XS} {σ : MS} {e : XE} {M : Mem} (h : SX g P F A w S b σ e M)  {v : Int32} : SX g P F A w S b (sF σ 7 v) e (mset M (A 1 w 0) (.inr (22, (f1_X w A b σ e).set 11 (.int v)))) := by
  have hz := h.hz
  exact SX.putF (k := 1) (i := 0) (j := 11) h (iN_1 hz) (by decide) rfl (LvX.one (by decide) hz.1) (by decide) (by decide) (fun τ fl => by
    show (.inr (22, (f1_X w A b σ e).set 11 (.int v))) = woO A w (upd (VX w S b σ e 1 w 0) 11 v)
    simp [woO, f1_X, upd, V1_0 (b := b) (σ := σ) (e := e) hz, V1_1 (b := b) (σ := σ) (e := e) hz, V1_2 (b := b) (σ := σ) (e := e) hz, V1_3 (b := b) (σ := σ) (e := e) hz, V1_4 (b := b) (σ := σ) (e := e) hz, V1_5 (b := b) (σ := σ) (e := e) hz, V1_6 (b := b) (σ := σ) (e := e) hz, V1_7 (b := b) (σ := σ) (e := e) hz, V1_8 (b := b) (σ := σ) (e := e) hz, V1_9 (b := b) (σ := σ) (e := e) hz, V1_10 (b := b) (σ := σ) (e := e) hz, V1_11 (b := b) (σ := σ) (e := e) hz])
def f26_X (w : Nat) (A : XA) (b : XS) (σ : MS) (e : XE) : List Value := [.int (e (9) (0)), .int (e (9) (1)), .int (e (9) (2)), .int (e (9) (3))]
theorem SX.r26 {g : GP} {P : Nat → Prop} {F : Mem} {A : XA} {w : Nat} {S : Nat → Nat → Nat} {b : XS} {σ : MS} {e : XE} {M : Mem} (h : SX g P F A w S b σ e M)  : M (A 26 w 0) = some (.inr (33, f26_X w A b σ e)) := by
  obtain ⟨τ, dn, fl, hR, hz, -⟩ := h
  rw [hR.gt (k := 26) (w := w) (i := 0) (LvX.one (by decide) hz.1)]
  simp only [celX, shX, akO, f26_X, V26 hz (show 0 < 4 by decide), V26 hz (show 1 < 4 by decide), V26 hz (show 2 < 4 by decide), V26 hz (show 3 < 4 by decide)]
theorem SX.p26_0 {g : GP} {P : Nat → Prop} {F : Mem} {A : XA} {w : Nat} {S : Nat → Nat → Nat} {b : XS} {σ : MS} {e : XE} {M : Mem} (h : SX g P F A w S b σ e M)  {v : Int32} : SX g P F A w S b σ (uE e (9) (0) v) (mset M (A 26 w 0) (.inr (33, (f26_X w A b σ e).set 0 (.int v)))) := by
  have hz := h.hz
  exact SX.putE (k := 26) (i := 0) (j := 0) h (iN_26 hz) (by decide) rfl (LvX.one (by decide) hz.1) (by decide) (by decide) (fun τ fl => by
    show (.inr (33, (f26_X w A b σ e).set 0 (.int v))) = akO (upd (VX w S b σ e 26 w 0) 0 v)
    simp [akO, f26_X, upd, V26 hz (show 0 < 4 by decide), V26 hz (show 1 < 4 by decide), V26 hz (show 2 < 4 by decide), V26 hz (show 3 < 4 by decide)])
theorem SX.p26_1 {g : GP} {P : Nat → Prop} {F : Mem} {A : XA} {w : Nat} {S : Nat → Nat → Nat} {b : XS} {σ : MS} {e : XE} {M : Mem} (h : SX g P F A w S b σ e M)  {v : Int32} : SX g P F A w S b σ (uE e (9) (1) v) (mset M (A 26 w 0) (.inr (33, (f26_X w A b σ e).set 1 (.int v)))) := by
  have hz := h.hz
  exact SX.putE (k := 26) (i := 0) (j := 1) h (iN_26 hz) (by decide) rfl (LvX.one (by decide) hz.1) (by decide) (by decide) (fun τ fl => by
    show (.inr (33, (f26_X w A b σ e).set 1 (.int v))) = akO (upd (VX w S b σ e 26 w 0) 1 v)
    simp [akO, f26_X, upd, V26 hz (show 0 < 4 by decide), V26 hz (show 1 < 4 by decide), V26 hz (show 2 < 4 by decide), V26 hz (show 3 < 4 by decide)])
theorem SX.p26_2 {g : GP} {P : Nat → Prop} {F : Mem} {A : XA} {w : Nat} {S : Nat → Nat → Nat} {b : XS} {σ : MS} {e : XE} {M : Mem} (h : SX g P F A w S b σ e M)  {v : Int32} : SX g P F A w S b σ (uE e (9) (2) v) (mset M (A 26 w 0) (.inr (33, (f26_X w A b σ e).set 2 (.int v)))) := by
  have hz := h.hz
  exact SX.putE (k := 26) (i := 0) (j := 2) h (iN_26 hz) (by decide) rfl (LvX.one (by decide) hz.1) (by decide) (by decide) (fun τ fl => by
    show (.inr (33, (f26_X w A b σ e).set 2 (.int v))) = akO (upd (VX w S b σ e 26 w 0) 2 v)
    simp [akO, f26_X, upd, V26 hz (show 0 < 4 by decide), V26 hz (show 1 < 4 by decide), V26 hz (show 2 < 4 by decide), V26 hz (show 3 < 4 by decide)])
theorem SX.p26_3 {g : GP} {P : Nat → Prop} {F : Mem} {A : XA} {w : Nat} {S : Nat → Nat → Nat} {b : XS} {σ : MS} {e : XE} {M : Mem} (h : SX g P F A w S b σ e M)  {v : Int32} : SX g P F A w S b σ (uE e (9) (3) v) (mset M (A 26 w 0) (.inr (33, (f26_X w A b σ e).set 3 (.int v)))) := by
  have hz := h.hz
  exact SX.putE (k := 26) (i := 0) (j := 3) h (iN_26 hz) (by decide) rfl (LvX.one (by decide) hz.1) (by decide) (by decide) (fun τ fl => by
    show (.inr (33, (f26_X w A b σ e).set 3 (.int v))) = akO (upd (VX w S b σ e 26 w 0) 3 v)
    simp [akO, f26_X, upd, V26 hz (show 0 < 4 by decide), V26 hz (show 1 < 4 by decide), V26 hz (show 2 < 4 by decide), V26 hz (show 3 < 4 by decide)])
def f35_X (w : Nat) (A : XA) (b : XS) (σ : MS) (e : XE) (i : Nat) : List Value := [.int (nI i), .int ((if w = 0 then row σ (768 + 8 * i + 0) else b.1 35 w i 1)), .int (row σ (768 + 8 * i + 1)), .int (row σ (768 + 8 * i + 2)), .int (row σ (768 + 8 * i + 3)), .int (e (0) (i)), .int (e (1) (i)), .int (row σ (768 + 8 * i + 6)), .int (row σ (768 + 8 * i + 4)), .int (row σ (768 + 8 * i + 5))]
theorem SX.r35 {g : GP} {P : Nat → Prop} {F : Mem} {A : XA} {w : Nat} {S : Nat → Nat → Nat} {b : XS} {σ : MS} {e : XE} {M : Mem} (h : SX g P F A w S b σ e M) {i : Nat} (hi : i < S 4 w) : M (A 35 w i) = some (.inr (12, f35_X w A b σ e i)) := by
  obtain ⟨τ, dn, fl, hR, hz, -⟩ := h
  rw [hR.gt (k := 35) (w := w) (i := i) (LvX.k35 hz.1 hi)]
  simp only [celX, shX, pO, f35_X, V35_0 (b := b) (σ := σ) (e := e) hz hi, V35_1 (b := b) (σ := σ) (e := e) hz hi, V35_2 (b := b) (σ := σ) (e := e) hz hi, V35_3 (b := b) (σ := σ) (e := e) hz hi, V35_4 (b := b) (σ := σ) (e := e) hz hi, V35_5 (b := b) (σ := σ) (e := e) hz hi, V35_6 (b := b) (σ := σ) (e := e) hz hi, V35_7 (b := b) (σ := σ) (e := e) hz hi, V35_8 (b := b) (σ := σ) (e := e) hz hi, V35_9 (b := b) (σ := σ) (e := e) hz hi]
theorem SX.p35_2 {g : GP} {P : Nat → Prop} {F : Mem} {A : XA} {w : Nat} {S : Nat → Nat → Nat} {b : XS} {σ : MS} {e : XE} {M : Mem} (h : SX g P F A w S b σ e M) {i : Nat} (hi : i < S 4 w) {v : Int32} : SX g P F A w S b (wA σ 1 (768 + 8 * i + 1) v) e (mset M (A 35 w i) (.inr (12, (f35_X w A b σ e i).set 2 (.int v)))) := by
  have hz := h.hz
  exact SX.putA (k := 35) (i := i) (j := 2) h (iN_35 hz hi) (by decide) rfl (LvX.k35 hz.1 hi) (by decide) (by decide) (by decide) (fun τ fl => by
    show (.inr (12, (f35_X w A b σ e i).set 2 (.int v))) = pO (upd (VX w S b σ e 35 w i) 2 v)
    simp [pO, f35_X, upd, V35_0 (b := b) (σ := σ) (e := e) hz hi, V35_1 (b := b) (σ := σ) (e := e) hz hi, V35_2 (b := b) (σ := σ) (e := e) hz hi, V35_3 (b := b) (σ := σ) (e := e) hz hi, V35_4 (b := b) (σ := σ) (e := e) hz hi, V35_5 (b := b) (σ := σ) (e := e) hz hi, V35_6 (b := b) (σ := σ) (e := e) hz hi, V35_7 (b := b) (σ := σ) (e := e) hz hi, V35_8 (b := b) (σ := σ) (e := e) hz hi, V35_9 (b := b) (σ := σ) (e := e) hz hi])
theorem SX.p35_3 {g : GP} {P : Nat → Prop} {F : Mem} {A : XA} {w : Nat} {S : Nat → Nat → Nat} {b : XS} {σ : MS} {e : XE} {M : Mem} (h : SX g P F A w S b σ e M) {i : Nat} (hi : i < S 4 w) {v : Int32} : SX g P F A w S b (wA σ 1 (768 + 8 * i + 2) v) e (mset M (A 35 w i) (.inr (12, (f35_X w A b σ e i).set 3 (.int v)))) := by
  have hz := h.hz
  exact SX.putA (k := 35) (i := i) (j := 3) h (iN_35 hz hi) (by decide) rfl (LvX.k35 hz.1 hi) (by decide) (by decide) (by decide) (fun τ fl => by
    show (.inr (12, (f35_X w A b σ e i).set 3 (.int v))) = pO (upd (VX w S b σ e 35 w i) 3 v)
    simp [pO, f35_X, upd, V35_0 (b := b) (σ := σ) (e := e) hz hi, V35_1 (b := b) (σ := σ) (e := e) hz hi, V35_2 (b := b) (σ := σ) (e := e) hz hi, V35_3 (b := b) (σ := σ) (e := e) hz hi, V35_4 (b := b) (σ := σ) (e := e) hz hi, V35_5 (b := b) (σ := σ) (e := e) hz hi, V35_6 (b := b) (σ := σ) (e := e) hz hi, V35_7 (b := b) (σ := σ) (e := e) hz hi, V35_8 (b := b) (σ := σ) (e := e) hz hi, V35_9 (b := b) (σ := σ) (e := e) hz hi])
theorem SX.p35_4 {g : GP} {P : Nat → Prop} {F : Mem} {A : XA} {w : Nat} {S : Nat → Nat → Nat} {b : XS} {σ : MS} {e : XE} {M : Mem} (h : SX g P F A w S b σ e M) {i : Nat} (hi : i < S 4 w) {v : Int32} : SX g P F A w S b (wA σ 1 (768 + 8 * i + 3) v) e (mset M (A 35 w i) (.inr (12, (f35_X w A b σ e i).set 4 (.int v)))) := by
  have hz := h.hz
  exact SX.putA (k := 35) (i := i) (j := 4) h (iN_35 hz hi) (by decide) rfl (LvX.k35 hz.1 hi) (by decide) (by decide) (by decide) (fun τ fl => by
    show (.inr (12, (f35_X w A b σ e i).set 4 (.int v))) = pO (upd (VX w S b σ e 35 w i) 4 v)
    simp [pO, f35_X, upd, V35_0 (b := b) (σ := σ) (e := e) hz hi, V35_1 (b := b) (σ := σ) (e := e) hz hi, V35_2 (b := b) (σ := σ) (e := e) hz hi, V35_3 (b := b) (σ := σ) (e := e) hz hi, V35_4 (b := b) (σ := σ) (e := e) hz hi, V35_5 (b := b) (σ := σ) (e := e) hz hi, V35_6 (b := b) (σ := σ) (e := e) hz hi, V35_7 (b := b) (σ := σ) (e := e) hz hi, V35_8 (b := b) (σ := σ) (e := e) hz hi, V35_9 (b := b) (σ := σ) (e := e) hz hi])
theorem SX.p35_5 {g : GP} {P : Nat → Prop} {F : Mem} {A : XA} {w : Nat} {S : Nat → Nat → Nat} {b : XS} {σ : MS} {e : XE} {M : Mem} (h : SX g P F A w S b σ e M) {i : Nat} (hi : i < S 4 w) {v : Int32} : SX g P F A w S b σ (uE e (0) (i) v) (mset M (A 35 w i) (.inr (12, (f35_X w A b σ e i).set 5 (.int v)))) := by
  have hz := h.hz
  exact SX.putE (k := 35) (i := i) (j := 5) h (iN_35 hz hi) (by decide) rfl (LvX.k35 hz.1 hi) (by decide) (by decide) (fun τ fl => by
    show (.inr (12, (f35_X w A b σ e i).set 5 (.int v))) = pO (upd (VX w S b σ e 35 w i) 5 v)
    simp [pO, f35_X, upd, V35_0 (b := b) (σ := σ) (e := e) hz hi, V35_1 (b := b) (σ := σ) (e := e) hz hi, V35_2 (b := b) (σ := σ) (e := e) hz hi, V35_3 (b := b) (σ := σ) (e := e) hz hi, V35_4 (b := b) (σ := σ) (e := e) hz hi, V35_5 (b := b) (σ := σ) (e := e) hz hi, V35_6 (b := b) (σ := σ) (e := e) hz hi, V35_7 (b := b) (σ := σ) (e := e) hz hi, V35_8 (b := b) (σ := σ) (e := e) hz hi, V35_9 (b := b) (σ := σ) (e := e) hz hi])
theorem SX.p35_6 {g : GP} {P : Nat → Prop} {F : Mem} {A : XA} {w : Nat} {S : Nat → Nat → Nat} {b : XS} {σ : MS} {e : XE} {M : Mem} (h : SX g P F A w S b σ e M) {i : Nat} (hi : i < S 4 w) {v : Int32} : SX g P F A w S b σ (uE e (1) (i) v) (mset M (A 35 w i) (.inr (12, (f35_X w A b σ e i).set 6 (.int v)))) := by
  have hz := h.hz
  exact SX.putE (k := 35) (i := i) (j := 6) h (iN_35 hz hi) (by decide) rfl (LvX.k35 hz.1 hi) (by decide) (by decide) (fun τ fl => by
    show (.inr (12, (f35_X w A b σ e i).set 6 (.int v))) = pO (upd (VX w S b σ e 35 w i) 6 v)
    simp [pO, f35_X, upd, V35_0 (b := b) (σ := σ) (e := e) hz hi, V35_1 (b := b) (σ := σ) (e := e) hz hi, V35_2 (b := b) (σ := σ) (e := e) hz hi, V35_3 (b := b) (σ := σ) (e := e) hz hi, V35_4 (b := b) (σ := σ) (e := e) hz hi, V35_5 (b := b) (σ := σ) (e := e) hz hi, V35_6 (b := b) (σ := σ) (e := e) hz hi, V35_7 (b := b) (σ := σ) (e := e) hz hi, V35_8 (b := b) (σ := σ) (e := e) hz hi, V35_9 (b := b) (σ := σ) (e := e) hz hi])
theorem SX.p35_7 {g : GP} {P : Nat → Prop} {F : Mem} {A : XA} {w : Nat} {S : Nat → Nat → Nat} {b : XS} {σ : MS} {e : XE} {M : Mem} (h : SX g P F A w S b σ e M) {i : Nat} (hi : i < S 4 w) {v : Int32} : SX g P F A w S b (wA σ 1 (768 + 8 * i + 6) v) e (mset M (A 35 w i) (.inr (12, (f35_X w A b σ e i).set 7 (.int v)))) := by
  have hz := h.hz
  exact SX.putA (k := 35) (i := i) (j := 7) h (iN_35 hz hi) (by decide) rfl (LvX.k35 hz.1 hi) (by decide) (by decide) (by decide) (fun τ fl => by
    show (.inr (12, (f35_X w A b σ e i).set 7 (.int v))) = pO (upd (VX w S b σ e 35 w i) 7 v)
    simp [pO, f35_X, upd, V35_0 (b := b) (σ := σ) (e := e) hz hi, V35_1 (b := b) (σ := σ) (e := e) hz hi, V35_2 (b := b) (σ := σ) (e := e) hz hi, V35_3 (b := b) (σ := σ) (e := e) hz hi, V35_4 (b := b) (σ := σ) (e := e) hz hi, V35_5 (b := b) (σ := σ) (e := e) hz hi, V35_6 (b := b) (σ := σ) (e := e) hz hi, V35_7 (b := b) (σ := σ) (e := e) hz hi, V35_8 (b := b) (σ := σ) (e := e) hz hi, V35_9 (b := b) (σ := σ) (e := e) hz hi])
theorem SX.p35_8 {g : GP} {P : Nat → Prop} {F : Mem} {A : XA} {w : Nat} {S : Nat → Nat → Nat} {b : XS} {σ : MS} {e : XE} {M : Mem} (h : SX g P F A w S b σ e M) {i : Nat} (hi : i < S 4 w) {v : Int32} : SX g P F A w S b (wA σ 1 (768 + 8 * i + 4) v) e (mset M (A 35 w i) (.inr (12, (f35_X w A b σ e i).set 8 (.int v)))) := by
  have hz := h.hz
  exact SX.putA (k := 35) (i := i) (j := 8) h (iN_35 hz hi) (by decide) rfl (LvX.k35 hz.1 hi) (by decide) (by decide) (by decide) (fun τ fl => by
    show (.inr (12, (f35_X w A b σ e i).set 8 (.int v))) = pO (upd (VX w S b σ e 35 w i) 8 v)
    simp [pO, f35_X, upd, V35_0 (b := b) (σ := σ) (e := e) hz hi, V35_1 (b := b) (σ := σ) (e := e) hz hi, V35_2 (b := b) (σ := σ) (e := e) hz hi, V35_3 (b := b) (σ := σ) (e := e) hz hi, V35_4 (b := b) (σ := σ) (e := e) hz hi, V35_5 (b := b) (σ := σ) (e := e) hz hi, V35_6 (b := b) (σ := σ) (e := e) hz hi, V35_7 (b := b) (σ := σ) (e := e) hz hi, V35_8 (b := b) (σ := σ) (e := e) hz hi, V35_9 (b := b) (σ := σ) (e := e) hz hi])
theorem SX.p35_9 {g : GP} {P : Nat → Prop} {F : Mem} {A : XA} {w : Nat} {S : Nat → Nat → Nat} {b : XS} {σ : MS} {e : XE} {M : Mem} (h : SX g P F A w S b σ e M) {i : Nat} (hi : i < S 4 w) {v : Int32} : SX g P F A w S b (wA σ 1 (768 + 8 * i + 5) v) e (mset M (A 35 w i) (.inr (12, (f35_X w A b σ e i).set 9 (.int v)))) := by
  have hz := h.hz
  exact SX.putA (k := 35) (i := i) (j := 9) h (iN_35 hz hi) (by decide) rfl (LvX.k35 hz.1 hi) (by decide) (by decide) (by decide) (fun τ fl => by
    show (.inr (12, (f35_X w A b σ e i).set 9 (.int v))) = pO (upd (VX w S b σ e 35 w i) 9 v)
    simp [pO, f35_X, upd, V35_0 (b := b) (σ := σ) (e := e) hz hi, V35_1 (b := b) (σ := σ) (e := e) hz hi, V35_2 (b := b) (σ := σ) (e := e) hz hi, V35_3 (b := b) (σ := σ) (e := e) hz hi, V35_4 (b := b) (σ := σ) (e := e) hz hi, V35_5 (b := b) (σ := σ) (e := e) hz hi, V35_6 (b := b) (σ := σ) (e := e) hz hi, V35_7 (b := b) (σ := σ) (e := e) hz hi, V35_8 (b := b) (σ := σ) (e := e) hz hi, V35_9 (b := b) (σ := σ) (e := e) hz hi])
def f36_X (w : Nat) (A : XA) (b : XS) (σ : MS) (e : XE) (i : Nat) : List Value := [.int (row σ (1720 + 15 * i + 0)), .int (row σ (1720 + 15 * i + 1)), .int (row σ (1720 + 15 * i + 2)), .ref (A 37 w i)]
theorem SX.r36 {g : GP} {P : Nat → Prop} {F : Mem} {A : XA} {w : Nat} {S : Nat → Nat → Nat} {b : XS} {σ : MS} {e : XE} {M : Mem} (h : SX g P F A w S b σ e M) {i : Nat} (hi : i < S 6 w) : M (A 36 w i) = some (.inr (13, f36_X w A b σ e i)) := by
  obtain ⟨τ, dn, fl, hR, hz, -⟩ := h
  rw [hR.gt (k := 36) (w := w) (i := i) (LvX.k36 (Or.inl rfl) hz.1 hi)]
  simp only [celX, shX, paO, f36_X, V36_0 (b := b) (σ := σ) (e := e) hz hi, V36_1 (b := b) (σ := σ) (e := e) hz hi, V36_2 (b := b) (σ := σ) (e := e) hz hi]
theorem SX.p36_1 {g : GP} {P : Nat → Prop} {F : Mem} {A : XA} {w : Nat} {S : Nat → Nat → Nat} {b : XS} {σ : MS} {e : XE} {M : Mem} (h : SX g P F A w S b σ e M) {i : Nat} (hi : i < S 6 w) {v : Int32} : SX g P F A w S b (wA σ 1 (1720 + 15 * i + 1) v) e (mset M (A 36 w i) (.inr (13, (f36_X w A b σ e i).set 1 (.int v)))) := by
  have hz := h.hz
  exact SX.putA (k := 36) (i := i) (j := 1) h (iN_36 hz hi) (by decide) rfl (LvX.k36 (Or.inl rfl) hz.1 hi) (by decide) (by decide) (by decide) (fun τ fl => by
    show (.inr (13, (f36_X w A b σ e i).set 1 (.int v))) = paO (upd (VX w S b σ e 36 w i) 1 v) (A 37 w i)
    simp [paO, f36_X, upd, V36_0 (b := b) (σ := σ) (e := e) hz hi, V36_1 (b := b) (σ := σ) (e := e) hz hi, V36_2 (b := b) (σ := σ) (e := e) hz hi])
theorem SX.p36_2 {g : GP} {P : Nat → Prop} {F : Mem} {A : XA} {w : Nat} {S : Nat → Nat → Nat} {b : XS} {σ : MS} {e : XE} {M : Mem} (h : SX g P F A w S b σ e M) {i : Nat} (hi : i < S 6 w) {v : Int32} : SX g P F A w S b (wA σ 1 (1720 + 15 * i + 2) v) e (mset M (A 36 w i) (.inr (13, (f36_X w A b σ e i).set 2 (.int v)))) := by
  have hz := h.hz
  exact SX.putA (k := 36) (i := i) (j := 2) h (iN_36 hz hi) (by decide) rfl (LvX.k36 (Or.inl rfl) hz.1 hi) (by decide) (by decide) (by decide) (fun τ fl => by
    show (.inr (13, (f36_X w A b σ e i).set 2 (.int v))) = paO (upd (VX w S b σ e 36 w i) 2 v) (A 37 w i)
    simp [paO, f36_X, upd, V36_0 (b := b) (σ := σ) (e := e) hz hi, V36_1 (b := b) (σ := σ) (e := e) hz hi, V36_2 (b := b) (σ := σ) (e := e) hz hi])
def f38_X (w : Nat) (A : XA) (b : XS) (σ : MS) (e : XE) (i : Nat) : List Value := [.ref (A 50 0 i), .int (row σ (1568 + 6 * i + 0)), .int (e (4) (i)), .int (e (5) (i)), .int (e (6) (i)), .int ((if w = 0 then row σ (1568 + 6 * i + 1) else b.1 38 w i 5)), .int ((if w = 0 then row σ (1568 + 6 * i + 2) else b.1 38 w i 6)), .int (e (15) (i)), .ref (A 39 w i)]
theorem SX.r38 {g : GP} {P : Nat → Prop} {F : Mem} {A : XA} {w : Nat} {S : Nat → Nat → Nat} {b : XS} {σ : MS} {e : XE} {M : Mem} (h : SX g P F A w S b σ e M) {i : Nat} (hi : i < S 8 w) : M (A 38 w i) = some (.inr (14, f38_X w A b σ e i)) := by
  obtain ⟨τ, dn, fl, hR, hz, -⟩ := h
  rw [hR.gt (k := 38) (w := w) (i := i) (LvX.k38 (Or.inl rfl) hz.1 hi)]
  simp only [celX, shX, lwO, f38_X, V38_0 (b := b) (σ := σ) (e := e) hz hi, V38_1 (b := b) (σ := σ) (e := e) hz hi, V38_2 (b := b) (σ := σ) (e := e) hz hi, V38_3 (b := b) (σ := σ) (e := e) hz hi, V38_4 (b := b) (σ := σ) (e := e) hz hi, V38_5 (b := b) (σ := σ) (e := e) hz hi, V38_6 (b := b) (σ := σ) (e := e) hz hi, V38_7 (b := b) (σ := σ) (e := e) hz hi]
theorem SX.p38_1 {g : GP} {P : Nat → Prop} {F : Mem} {A : XA} {w : Nat} {S : Nat → Nat → Nat} {b : XS} {σ : MS} {e : XE} {M : Mem} (h : SX g P F A w S b σ e M) {i : Nat} (hi : i < S 8 w) {v : Int32} : SX g P F A w S b (wA σ 1 (1568 + 6 * i + 0) v) e (mset M (A 38 w i) (.inr (14, (f38_X w A b σ e i).set 1 (.int v)))) := by
  have hz := h.hz
  exact SX.putA (k := 38) (i := i) (j := 1) h (iN_38 hz hi) (by decide) rfl (LvX.k38 (Or.inl rfl) hz.1 hi) (by decide) (by decide) (by decide) (fun τ fl => by
    show (.inr (14, (f38_X w A b σ e i).set 1 (.int v))) = lwO (upd (VX w S b σ e 38 w i) 1 v) (A 50 0 i) (A 39 w i)
    simp [lwO, f38_X, upd, V38_0 (b := b) (σ := σ) (e := e) hz hi, V38_1 (b := b) (σ := σ) (e := e) hz hi, V38_2 (b := b) (σ := σ) (e := e) hz hi, V38_3 (b := b) (σ := σ) (e := e) hz hi, V38_4 (b := b) (σ := σ) (e := e) hz hi, V38_5 (b := b) (σ := σ) (e := e) hz hi, V38_6 (b := b) (σ := σ) (e := e) hz hi, V38_7 (b := b) (σ := σ) (e := e) hz hi])
theorem SX.p38_2 {g : GP} {P : Nat → Prop} {F : Mem} {A : XA} {w : Nat} {S : Nat → Nat → Nat} {b : XS} {σ : MS} {e : XE} {M : Mem} (h : SX g P F A w S b σ e M) {i : Nat} (hi : i < S 8 w) {v : Int32} : SX g P F A w S b σ (uE e (4) (i) v) (mset M (A 38 w i) (.inr (14, (f38_X w A b σ e i).set 2 (.int v)))) := by
  have hz := h.hz
  exact SX.putE (k := 38) (i := i) (j := 2) h (iN_38 hz hi) (by decide) rfl (LvX.k38 (Or.inl rfl) hz.1 hi) (by decide) (by decide) (fun τ fl => by
    show (.inr (14, (f38_X w A b σ e i).set 2 (.int v))) = lwO (upd (VX w S b σ e 38 w i) 2 v) (A 50 0 i) (A 39 w i)
    simp [lwO, f38_X, upd, V38_0 (b := b) (σ := σ) (e := e) hz hi, V38_1 (b := b) (σ := σ) (e := e) hz hi, V38_2 (b := b) (σ := σ) (e := e) hz hi, V38_3 (b := b) (σ := σ) (e := e) hz hi, V38_4 (b := b) (σ := σ) (e := e) hz hi, V38_5 (b := b) (σ := σ) (e := e) hz hi, V38_6 (b := b) (σ := σ) (e := e) hz hi, V38_7 (b := b) (σ := σ) (e := e) hz hi])
theorem SX.p38_3 {g : GP} {P : Nat → Prop} {F : Mem} {A : XA} {w : Nat} {S : Nat → Nat → Nat} {b : XS} {σ : MS} {e : XE} {M : Mem} (h : SX g P F A w S b σ e M) {i : Nat} (hi : i < S 8 w) {v : Int32} : SX g P F A w S b σ (uE e (5) (i) v) (mset M (A 38 w i) (.inr (14, (f38_X w A b σ e i).set 3 (.int v)))) := by
  have hz := h.hz
  exact SX.putE (k := 38) (i := i) (j := 3) h (iN_38 hz hi) (by decide) rfl (LvX.k38 (Or.inl rfl) hz.1 hi) (by decide) (by decide) (fun τ fl => by
    show (.inr (14, (f38_X w A b σ e i).set 3 (.int v))) = lwO (upd (VX w S b σ e 38 w i) 3 v) (A 50 0 i) (A 39 w i)
    simp [lwO, f38_X, upd, V38_0 (b := b) (σ := σ) (e := e) hz hi, V38_1 (b := b) (σ := σ) (e := e) hz hi, V38_2 (b := b) (σ := σ) (e := e) hz hi, V38_3 (b := b) (σ := σ) (e := e) hz hi, V38_4 (b := b) (σ := σ) (e := e) hz hi, V38_5 (b := b) (σ := σ) (e := e) hz hi, V38_6 (b := b) (σ := σ) (e := e) hz hi, V38_7 (b := b) (σ := σ) (e := e) hz hi])
theorem SX.p38_4 {g : GP} {P : Nat → Prop} {F : Mem} {A : XA} {w : Nat} {S : Nat → Nat → Nat} {b : XS} {σ : MS} {e : XE} {M : Mem} (h : SX g P F A w S b σ e M) {i : Nat} (hi : i < S 8 w) {v : Int32} : SX g P F A w S b σ (uE e (6) (i) v) (mset M (A 38 w i) (.inr (14, (f38_X w A b σ e i).set 4 (.int v)))) := by
  have hz := h.hz
  exact SX.putE (k := 38) (i := i) (j := 4) h (iN_38 hz hi) (by decide) rfl (LvX.k38 (Or.inl rfl) hz.1 hi) (by decide) (by decide) (fun τ fl => by
    show (.inr (14, (f38_X w A b σ e i).set 4 (.int v))) = lwO (upd (VX w S b σ e 38 w i) 4 v) (A 50 0 i) (A 39 w i)
    simp [lwO, f38_X, upd, V38_0 (b := b) (σ := σ) (e := e) hz hi, V38_1 (b := b) (σ := σ) (e := e) hz hi, V38_2 (b := b) (σ := σ) (e := e) hz hi, V38_3 (b := b) (σ := σ) (e := e) hz hi, V38_4 (b := b) (σ := σ) (e := e) hz hi, V38_5 (b := b) (σ := σ) (e := e) hz hi, V38_6 (b := b) (σ := σ) (e := e) hz hi, V38_7 (b := b) (σ := σ) (e := e) hz hi])
theorem SX.p38_5 {g : GP} {P : Nat → Prop} {F : Mem} {A : XA} {S : Nat → Nat → Nat} {b : XS} {σ : MS} {e : XE} {M : Mem} (h : SX g P F A 0 S b σ e M) {i : Nat} (hi : i < S 8 0) {v : Int32} : SX g P F A 0 S b (wA σ 1 (1568 + 6 * i + 1) v) e (mset M (A 38 0 i) (.inr (14, (f38_X 0 A b σ e i).set 5 (.int v)))) := by
  have hz := h.hz
  exact SX.putA (k := 38) (i := i) (j := 5) h (iN_38 hz hi) (by decide) rfl (LvX.k38 (Or.inl rfl) hz.1 hi) (by decide) (by decide) (by decide) (fun τ fl => by
    show (.inr (14, (f38_X 0 A b σ e i).set 5 (.int v))) = lwO (upd (VX 0 S b σ e 38 0 i) 5 v) (A 50 0 i) (A 39 0 i)
    simp [lwO, f38_X, upd, V38_0 (b := b) (σ := σ) (e := e) hz hi, V38_1 (b := b) (σ := σ) (e := e) hz hi, V38_2 (b := b) (σ := σ) (e := e) hz hi, V38_3 (b := b) (σ := σ) (e := e) hz hi, V38_4 (b := b) (σ := σ) (e := e) hz hi, V38_5 (b := b) (σ := σ) (e := e) hz hi, V38_6 (b := b) (σ := σ) (e := e) hz hi, V38_7 (b := b) (σ := σ) (e := e) hz hi])
theorem SX.p38_6 {g : GP} {P : Nat → Prop} {F : Mem} {A : XA} {S : Nat → Nat → Nat} {b : XS} {σ : MS} {e : XE} {M : Mem} (h : SX g P F A 0 S b σ e M) {i : Nat} (hi : i < S 8 0) {v : Int32} : SX g P F A 0 S b (wA σ 1 (1568 + 6 * i + 2) v) e (mset M (A 38 0 i) (.inr (14, (f38_X 0 A b σ e i).set 6 (.int v)))) := by
  have hz := h.hz
  exact SX.putA (k := 38) (i := i) (j := 6) h (iN_38 hz hi) (by decide) rfl (LvX.k38 (Or.inl rfl) hz.1 hi) (by decide) (by decide) (by decide) (fun τ fl => by
    show (.inr (14, (f38_X 0 A b σ e i).set 6 (.int v))) = lwO (upd (VX 0 S b σ e 38 0 i) 6 v) (A 50 0 i) (A 39 0 i)
    simp [lwO, f38_X, upd, V38_0 (b := b) (σ := σ) (e := e) hz hi, V38_1 (b := b) (σ := σ) (e := e) hz hi, V38_2 (b := b) (σ := σ) (e := e) hz hi, V38_3 (b := b) (σ := σ) (e := e) hz hi, V38_4 (b := b) (σ := σ) (e := e) hz hi, V38_5 (b := b) (σ := σ) (e := e) hz hi, V38_6 (b := b) (σ := σ) (e := e) hz hi, V38_7 (b := b) (σ := σ) (e := e) hz hi])
theorem SX.p38_7 {g : GP} {P : Nat → Prop} {F : Mem} {A : XA} {w : Nat} {S : Nat → Nat → Nat} {b : XS} {σ : MS} {e : XE} {M : Mem} (h : SX g P F A w S b σ e M) {i : Nat} (hi : i < S 8 w) {v : Int32} : SX g P F A w S b σ (uE e (15) (i) v) (mset M (A 38 w i) (.inr (14, (f38_X w A b σ e i).set 7 (.int v)))) := by
  have hz := h.hz
  exact SX.putE (k := 38) (i := i) (j := 7) h (iN_38 hz hi) (by decide) rfl (LvX.k38 (Or.inl rfl) hz.1 hi) (by decide) (by decide) (fun τ fl => by
    show (.inr (14, (f38_X w A b σ e i).set 7 (.int v))) = lwO (upd (VX w S b σ e 38 w i) 7 v) (A 50 0 i) (A 39 w i)
    simp [lwO, f38_X, upd, V38_0 (b := b) (σ := σ) (e := e) hz hi, V38_1 (b := b) (σ := σ) (e := e) hz hi, V38_2 (b := b) (σ := σ) (e := e) hz hi, V38_3 (b := b) (σ := σ) (e := e) hz hi, V38_4 (b := b) (σ := σ) (e := e) hz hi, V38_5 (b := b) (σ := σ) (e := e) hz hi, V38_6 (b := b) (σ := σ) (e := e) hz hi, V38_7 (b := b) (σ := σ) (e := e) hz hi])
def f40_X (w : Nat) (A : XA) (b : XS) (σ : MS) (e : XE) (i : Nat) : List Value := [.int (row σ (1640 + 4 * i + 0)), .int (e (16) (i)), .int (row σ (1640 + 4 * i + 1)), .int (row σ (1640 + 4 * i + 2))]
theorem SX.r40 {g : GP} {P : Nat → Prop} {F : Mem} {A : XA} {w : Nat} {S : Nat → Nat → Nat} {b : XS} {σ : MS} {e : XE} {M : Mem} (h : SX g P F A w S b σ e M) {i : Nat} (hi : i < S 10 w) : M (A 40 w i) = some (.inr (15, f40_X w A b σ e i)) := by
  obtain ⟨τ, dn, fl, hR, hz, -⟩ := h
  rw [hR.gt (k := 40) (w := w) (i := i) (LvX.k40 hz.1 hi)]
  simp only [celX, shX, biO, f40_X, V40_0 (b := b) (σ := σ) (e := e) hz hi, V40_1 (b := b) (σ := σ) (e := e) hz hi, V40_2 (b := b) (σ := σ) (e := e) hz hi, V40_3 (b := b) (σ := σ) (e := e) hz hi]
theorem SX.p40_2 {g : GP} {P : Nat → Prop} {F : Mem} {A : XA} {w : Nat} {S : Nat → Nat → Nat} {b : XS} {σ : MS} {e : XE} {M : Mem} (h : SX g P F A w S b σ e M) {i : Nat} (hi : i < S 10 w) {v : Int32} : SX g P F A w S b (wA σ 1 (1640 + 4 * i + 1) v) e (mset M (A 40 w i) (.inr (15, (f40_X w A b σ e i).set 2 (.int v)))) := by
  have hz := h.hz
  exact SX.putA (k := 40) (i := i) (j := 2) h (iN_40 hz hi) (by decide) rfl (LvX.k40 hz.1 hi) (by decide) (by decide) (by decide) (fun τ fl => by
    show (.inr (15, (f40_X w A b σ e i).set 2 (.int v))) = biO (upd (VX w S b σ e 40 w i) 2 v)
    simp [biO, f40_X, upd, V40_0 (b := b) (σ := σ) (e := e) hz hi, V40_1 (b := b) (σ := σ) (e := e) hz hi, V40_2 (b := b) (σ := σ) (e := e) hz hi, V40_3 (b := b) (σ := σ) (e := e) hz hi])
theorem SX.p40_3 {g : GP} {P : Nat → Prop} {F : Mem} {A : XA} {w : Nat} {S : Nat → Nat → Nat} {b : XS} {σ : MS} {e : XE} {M : Mem} (h : SX g P F A w S b σ e M) {i : Nat} (hi : i < S 10 w) {v : Int32} : SX g P F A w S b (wA σ 1 (1640 + 4 * i + 2) v) e (mset M (A 40 w i) (.inr (15, (f40_X w A b σ e i).set 3 (.int v)))) := by
  have hz := h.hz
  exact SX.putA (k := 40) (i := i) (j := 3) h (iN_40 hz hi) (by decide) rfl (LvX.k40 hz.1 hi) (by decide) (by decide) (by decide) (fun τ fl => by
    show (.inr (15, (f40_X w A b σ e i).set 3 (.int v))) = biO (upd (VX w S b σ e 40 w i) 3 v)
    simp [biO, f40_X, upd, V40_0 (b := b) (σ := σ) (e := e) hz hi, V40_1 (b := b) (σ := σ) (e := e) hz hi, V40_2 (b := b) (σ := σ) (e := e) hz hi, V40_3 (b := b) (σ := σ) (e := e) hz hi])
theorem SX.r18 {g : GP} {P : Nat → Prop} {F : Mem} {A : XA} {w : Nat} {S : Nat → Nat → Nat} {b : XS} {σ : MS} {e : XE} {M : Mem} (h : SX g P F A w S b σ e M)  : M (A 18 w 0) = some (.inl (gA g 0, 96, .inl (VX w S b σ e 18 w 0))) := by
  obtain ⟨τ, dn, fl, hR, hz, -⟩ := h
  exact hR.gt (k := 18) (w := w) (i := 0) (LvX.one (by decide) hz.1)
theorem SX.v18 {g : GP} {P : Nat → Prop} {F : Mem} {A : XA} {w : Nat} {S : Nat → Nat → Nat} {b : XS} {σ : MS} {e : XE} {M : Mem} (h : SX g P F A w S b σ e M)  {j : Nat} (hj : j < 96) : VX w S b σ e 18 w 0 j = e (2) (j) := V18 h.hz hj
theorem SX.p18 {g : GP} {P : Nat → Prop} {F : Mem} {A : XA} {w : Nat} {S : Nat → Nat → Nat} {b : XS} {σ : MS} {e : XE} {M : Mem} (h : SX g P F A w S b σ e M)  {j : Nat} (hj : j < 96) {v : Int32} : SX g P F A w S b σ (uE e (2) (j) v) (mset M (A 18 w 0) (.inl (gA g 0, 96, .inl (upd (VX w S b σ e 18 w 0) j v)))) := by
  have hz := h.hz
  exact SX.putE (k := 18) (i := 0) (j := j) h (iN_18 hz) hj rfl (LvX.one (by decide) hz.1) (by decide) (by decide) (fun τ fl => rfl)
theorem SX.r19 {g : GP} {P : Nat → Prop} {F : Mem} {A : XA} {w : Nat} {S : Nat → Nat → Nat} {b : XS} {σ : MS} {e : XE} {M : Mem} (h : SX g P F A w S b σ e M)  : M (A 19 w 0) = some (.inl (gA g 0, 96, .inl (VX w S b σ e 19 w 0))) := by
  obtain ⟨τ, dn, fl, hR, hz, -⟩ := h
  exact hR.gt (k := 19) (w := w) (i := 0) (LvX.one (by decide) hz.1)
theorem SX.v19 {g : GP} {P : Nat → Prop} {F : Mem} {A : XA} {w : Nat} {S : Nat → Nat → Nat} {b : XS} {σ : MS} {e : XE} {M : Mem} (h : SX g P F A w S b σ e M)  {j : Nat} (hj : j < 96) : VX w S b σ e 19 w 0 j = row σ (8 * j + 3) := V19 h.hz hj
theorem SX.p19 {g : GP} {P : Nat → Prop} {F : Mem} {A : XA} {w : Nat} {S : Nat → Nat → Nat} {b : XS} {σ : MS} {e : XE} {M : Mem} (h : SX g P F A w S b σ e M)  {j : Nat} (hj : j < 96) {v : Int32} : SX g P F A w S b (wA σ 1 (8 * j + 3) v) e (mset M (A 19 w 0) (.inl (gA g 0, 96, .inl (upd (VX w S b σ e 19 w 0) j v)))) := by
  have hz := h.hz
  exact SX.putA (k := 19) (i := 0) (j := j) h (iN_19 hz) hj rfl (LvX.one (by decide) hz.1) (by decide) (by decide) (by decide) (fun τ fl => rfl)
theorem SX.r20 {g : GP} {P : Nat → Prop} {F : Mem} {A : XA} {w : Nat} {S : Nat → Nat → Nat} {b : XS} {σ : MS} {e : XE} {M : Mem} (h : SX g P F A w S b σ e M)  : M (A 20 w 0) = some (.inl (gA g 0, 96, .inl (VX w S b σ e 20 w 0))) := by
  obtain ⟨τ, dn, fl, hR, hz, -⟩ := h
  exact hR.gt (k := 20) (w := w) (i := 0) (LvX.one (by decide) hz.1)
theorem SX.v20 {g : GP} {P : Nat → Prop} {F : Mem} {A : XA} {w : Nat} {S : Nat → Nat → Nat} {b : XS} {σ : MS} {e : XE} {M : Mem} (h : SX g P F A w S b σ e M)  {j : Nat} (hj : j < 96) : VX w S b σ e 20 w 0 j = e (3) (j) := V20 h.hz hj
theorem SX.p20 {g : GP} {P : Nat → Prop} {F : Mem} {A : XA} {w : Nat} {S : Nat → Nat → Nat} {b : XS} {σ : MS} {e : XE} {M : Mem} (h : SX g P F A w S b σ e M)  {j : Nat} (hj : j < 96) {v : Int32} : SX g P F A w S b σ (uE e (3) (j) v) (mset M (A 20 w 0) (.inl (gA g 0, 96, .inl (upd (VX w S b σ e 20 w 0) j v)))) := by
  have hz := h.hz
  exact SX.putE (k := 20) (i := 0) (j := j) h (iN_20 hz) hj rfl (LvX.one (by decide) hz.1) (by decide) (by decide) (fun τ fl => rfl)
theorem SX.r21 {g : GP} {P : Nat → Prop} {F : Mem} {A : XA} {w : Nat} {S : Nat → Nat → Nat} {b : XS} {σ : MS} {e : XE} {M : Mem} (h : SX g P F A w S b σ e M)  : M (A 21 w 0) = some (.inl (gA g 3, 96, .inl (VX w S b σ e 21 w 0))) := by
  obtain ⟨τ, dn, fl, hR, hz, -⟩ := h
  exact hR.gt (k := 21) (w := w) (i := 0) (LvX.one (by decide) hz.1)
theorem SX.v21 {g : GP} {P : Nat → Prop} {F : Mem} {A : XA} {w : Nat} {S : Nat → Nat → Nat} {b : XS} {σ : MS} {e : XE} {M : Mem} (h : SX g P F A w S b σ e M)  {j : Nat} (hj : j < 96) : VX w S b σ e 21 w 0 j = row σ (8 * j + 4) := V21 h.hz hj
theorem SX.p21 {g : GP} {P : Nat → Prop} {F : Mem} {A : XA} {w : Nat} {S : Nat → Nat → Nat} {b : XS} {σ : MS} {e : XE} {M : Mem} (h : SX g P F A w S b σ e M)  {j : Nat} (hj : j < 96) {v : Int32} : SX g P F A w S b (wA σ 1 (8 * j + 4) v) e (mset M (A 21 w 0) (.inl (gA g 3, 96, .inl (upd (VX w S b σ e 21 w 0) j v)))) := by
  have hz := h.hz
  exact SX.putA (k := 21) (i := 0) (j := j) h (iN_21 hz) hj rfl (LvX.one (by decide) hz.1) (by decide) (by decide) (by decide) (fun τ fl => rfl)
theorem SX.r22 {g : GP} {P : Nat → Prop} {F : Mem} {A : XA} {w : Nat} {S : Nat → Nat → Nat} {b : XS} {σ : MS} {e : XE} {M : Mem} (h : SX g P F A w S b σ e M)  : M (A 22 w 0) = some (.inl (gA g 0, 4, .inl (VX w S b σ e 22 w 0))) := by
  obtain ⟨τ, dn, fl, hR, hz, -⟩ := h
  exact hR.gt (k := 22) (w := w) (i := 0) (LvX.one (by decide) hz.1)
theorem SX.v22 {g : GP} {P : Nat → Prop} {F : Mem} {A : XA} {w : Nat} {S : Nat → Nat → Nat} {b : XS} {σ : MS} {e : XE} {M : Mem} (h : SX g P F A w S b σ e M)  {j : Nat} (hj : j < 4) : VX w S b σ e 22 w 0 j = row σ (2104 + j) := V22 h.hz hj
theorem SX.p22 {g : GP} {P : Nat → Prop} {F : Mem} {A : XA} {w : Nat} {S : Nat → Nat → Nat} {b : XS} {σ : MS} {e : XE} {M : Mem} (h : SX g P F A w S b σ e M)  {j : Nat} (hj : j < 4) {v : Int32} : SX g P F A w S b (wA σ 1 (2104 + j) v) e (mset M (A 22 w 0) (.inl (gA g 0, 4, .inl (upd (VX w S b σ e 22 w 0) j v)))) := by
  have hz := h.hz
  exact SX.putA (k := 22) (i := 0) (j := j) h (iN_22 hz) hj rfl (LvX.one (by decide) hz.1) (by decide) (by decide) (by decide) (fun τ fl => rfl)
theorem SX.r23 {g : GP} {P : Nat → Prop} {F : Mem} {A : XA} {w : Nat} {S : Nat → Nat → Nat} {b : XS} {σ : MS} {e : XE} {M : Mem} (h : SX g P F A w S b σ e M)  : M (A 23 w 0) = some (.inl (gA g 0, 4, .inl (VX w S b σ e 23 w 0))) := by
  obtain ⟨τ, dn, fl, hR, hz, -⟩ := h
  exact hR.gt (k := 23) (w := w) (i := 0) (LvX.one (by decide) hz.1)
theorem SX.v23 {g : GP} {P : Nat → Prop} {F : Mem} {A : XA} {w : Nat} {S : Nat → Nat → Nat} {b : XS} {σ : MS} {e : XE} {M : Mem} (h : SX g P F A w S b σ e M)  {j : Nat} (hj : j < 4) : VX w S b σ e 23 w 0 j = row σ (2108 + j) := V23 h.hz hj
theorem SX.p23 {g : GP} {P : Nat → Prop} {F : Mem} {A : XA} {w : Nat} {S : Nat → Nat → Nat} {b : XS} {σ : MS} {e : XE} {M : Mem} (h : SX g P F A w S b σ e M)  {j : Nat} (hj : j < 4) {v : Int32} : SX g P F A w S b (wA σ 1 (2108 + j) v) e (mset M (A 23 w 0) (.inl (gA g 0, 4, .inl (upd (VX w S b σ e 23 w 0) j v)))) := by
  have hz := h.hz
  exact SX.putA (k := 23) (i := 0) (j := j) h (iN_23 hz) hj rfl (LvX.one (by decide) hz.1) (by decide) (by decide) (by decide) (fun τ fl => rfl)
theorem SX.r24 {g : GP} {P : Nat → Prop} {F : Mem} {A : XA} {w : Nat} {S : Nat → Nat → Nat} {b : XS} {σ : MS} {e : XE} {M : Mem} (h : SX g P F A w S b σ e M)  : M (A 24 w 0) = some (.inl (gA g 0, 4, .inl (VX w S b σ e 24 w 0))) := by
  obtain ⟨τ, dn, fl, hR, hz, -⟩ := h
  exact hR.gt (k := 24) (w := w) (i := 0) (LvX.one (by decide) hz.1)
theorem SX.v24 {g : GP} {P : Nat → Prop} {F : Mem} {A : XA} {w : Nat} {S : Nat → Nat → Nat} {b : XS} {σ : MS} {e : XE} {M : Mem} (h : SX g P F A w S b σ e M)  {j : Nat} (hj : j < 4) : VX w S b σ e 24 w 0 j = row σ (2112 + j) := V24 h.hz hj
theorem SX.p24 {g : GP} {P : Nat → Prop} {F : Mem} {A : XA} {w : Nat} {S : Nat → Nat → Nat} {b : XS} {σ : MS} {e : XE} {M : Mem} (h : SX g P F A w S b σ e M)  {j : Nat} (hj : j < 4) {v : Int32} : SX g P F A w S b (wA σ 1 (2112 + j) v) e (mset M (A 24 w 0) (.inl (gA g 0, 4, .inl (upd (VX w S b σ e 24 w 0) j v)))) := by
  have hz := h.hz
  exact SX.putA (k := 24) (i := 0) (j := j) h (iN_24 hz) hj rfl (LvX.one (by decide) hz.1) (by decide) (by decide) (by decide) (fun τ fl => rfl)
theorem SX.r25 {g : GP} {P : Nat → Prop} {F : Mem} {A : XA} {S : Nat → Nat → Nat} {b : XS} {σ : MS} {e : XE} {M : Mem} (h : SX g P F A 0 S b σ e M)  : M (A 25 0 0) = some (.inl (gA g 0, 12, .inl (VX 0 S b σ e 25 0 0))) := by
  obtain ⟨τ, dn, fl, hR, hz, -⟩ := h
  exact hR.gt (k := 25) (w := 0) (i := 0) (LvX.one (by decide) Nat.zero_lt_one)
theorem SX.v25 {g : GP} {P : Nat → Prop} {F : Mem} {A : XA} {S : Nat → Nat → Nat} {b : XS} {σ : MS} {e : XE} {M : Mem} (h : SX g P F A 0 S b σ e M)  {j : Nat} (hj : j < 12) : VX 0 S b σ e 25 0 0 j = row σ (2080 + j) := V25 h.hz hj
theorem SX.p25 {g : GP} {P : Nat → Prop} {F : Mem} {A : XA} {S : Nat → Nat → Nat} {b : XS} {σ : MS} {e : XE} {M : Mem} (h : SX g P F A 0 S b σ e M)  {j : Nat} (hj : j < 12) {v : Int32} : SX g P F A 0 S b (wA σ 1 (2080 + j) v) e (mset M (A 25 0 0) (.inl (gA g 0, 12, .inl (upd (VX 0 S b σ e 25 0 0) j v)))) := by
  have hz := h.hz
  exact SX.putA (k := 25) (i := 0) (j := j) h (iN_25 hz) hj rfl (LvX.one (by decide) Nat.zero_lt_one) (by decide) (by decide) (by decide) (fun τ fl => rfl)
theorem SX.r27 {g : GP} {P : Nat → Prop} {F : Mem} {A : XA} {w : Nat} {S : Nat → Nat → Nat} {b : XS} {σ : MS} {e : XE} {M : Mem} (h : SX g P F A w S b σ e M)  : M (A 27 0 0) = some (.inl (gA g 2, 96, .inl (VX w S b σ e 27 0 0))) := by
  obtain ⟨τ, dn, fl, hR, hz, -⟩ := h
  exact hR.gt (k := 27) (w := 0) (i := 0) (LvX.one (by decide) Nat.zero_lt_one)
theorem SX.v27 {g : GP} {P : Nat → Prop} {F : Mem} {A : XA} {w : Nat} {S : Nat → Nat → Nat} {b : XS} {σ : MS} {e : XE} {M : Mem} (h : SX g P F A w S b σ e M)  {j : Nat} (hj : j < 96) : VX w S b σ e 27 0 0 j = σ.2.1 3 (j) := V27 h.hz hj
theorem SX.p27 {g : GP} {P : Nat → Prop} {F : Mem} {A : XA} {w : Nat} {S : Nat → Nat → Nat} {b : XS} {σ : MS} {e : XE} {M : Mem} (h : SX g P F A w S b σ e M)  {j : Nat} (hj : j < 96) {v : Int32} : SX g P F A w S b (wA σ 3 (j) v) e (mset M (A 27 0 0) (.inl (gA g 2, 96, .inl (upd (VX w S b σ e 27 0 0) j v)))) := by
  have hz := h.hz
  exact SX.putA (k := 27) (i := 0) (j := j) h (iN_27 hz) hj rfl (LvX.one (by decide) Nat.zero_lt_one) (by decide) (by decide) (by decide) (fun τ fl => rfl)
theorem SX.r28 {g : GP} {P : Nat → Prop} {F : Mem} {A : XA} {w : Nat} {S : Nat → Nat → Nat} {b : XS} {σ : MS} {e : XE} {M : Mem} (h : SX g P F A w S b σ e M)  : M (A 28 0 0) = some (.inl (gA g 3, 96, .inl (VX w S b σ e 28 0 0))) := by
  obtain ⟨τ, dn, fl, hR, hz, -⟩ := h
  exact hR.gt (k := 28) (w := 0) (i := 0) (LvX.one (by decide) Nat.zero_lt_one)
theorem SX.v28 {g : GP} {P : Nat → Prop} {F : Mem} {A : XA} {w : Nat} {S : Nat → Nat → Nat} {b : XS} {σ : MS} {e : XE} {M : Mem} (h : SX g P F A w S b σ e M)  {j : Nat} (hj : j < 96) : VX w S b σ e 28 0 0 j = σ.2.1 4 (j) := V28 h.hz hj
theorem SX.p28 {g : GP} {P : Nat → Prop} {F : Mem} {A : XA} {w : Nat} {S : Nat → Nat → Nat} {b : XS} {σ : MS} {e : XE} {M : Mem} (h : SX g P F A w S b σ e M)  {j : Nat} (hj : j < 96) {v : Int32} : SX g P F A w S b (wA σ 4 (j) v) e (mset M (A 28 0 0) (.inl (gA g 3, 96, .inl (upd (VX w S b σ e 28 0 0) j v)))) := by
  have hz := h.hz
  exact SX.putA (k := 28) (i := 0) (j := j) h (iN_28 hz) hj rfl (LvX.one (by decide) Nat.zero_lt_one) (by decide) (by decide) (by decide) (fun τ fl => rfl)
theorem SX.r31 {g : GP} {P : Nat → Prop} {F : Mem} {A : XA} {w : Nat} {S : Nat → Nat → Nat} {b : XS} {σ : MS} {e : XE} {M : Mem} (h : SX g P F A w S b σ e M)  : M (A 31 0 0) = some (.inl (gA g 0, 4, .inl (VX w S b σ e 31 0 0))) := by
  obtain ⟨τ, dn, fl, hR, hz, -⟩ := h
  exact hR.gt (k := 31) (w := 0) (i := 0) (LvX.one (by decide) Nat.zero_lt_one)
theorem SX.v31 {g : GP} {P : Nat → Prop} {F : Mem} {A : XA} {w : Nat} {S : Nat → Nat → Nat} {b : XS} {σ : MS} {e : XE} {M : Mem} (h : SX g P F A w S b σ e M)  {j : Nat} (hj : j < 4) : VX w S b σ e 31 0 0 j = σ.2.1 6 (j) := V31 h.hz hj
theorem SX.r33 {g : GP} {P : Nat → Prop} {F : Mem} {A : XA} {S : Nat → Nat → Nat} {b : XS} {σ : MS} {e : XE} {M : Mem} (h : SX g P F A 0 S b σ e M)  : M (A 33 0 0) = some (.inl (gA g 0, 6006, .inl (VX 0 S b σ e 33 0 0))) := by
  obtain ⟨τ, dn, fl, hR, hz, -⟩ := h
  exact hR.gt (k := 33) (w := 0) (i := 0) (LvX.one (by decide) Nat.zero_lt_one)
theorem SX.v33 {g : GP} {P : Nat → Prop} {F : Mem} {A : XA} {S : Nat → Nat → Nat} {b : XS} {σ : MS} {e : XE} {M : Mem} (h : SX g P F A 0 S b σ e M)  {j : Nat} (hj : j < 6006) : VX 0 S b σ e 33 0 0 j = e (7) (j) := V33 h.hz hj
theorem SX.p33 {g : GP} {P : Nat → Prop} {F : Mem} {A : XA} {S : Nat → Nat → Nat} {b : XS} {σ : MS} {e : XE} {M : Mem} (h : SX g P F A 0 S b σ e M)  {j : Nat} (hj : j < 6006) {v : Int32} : SX g P F A 0 S b σ (uE e (7) (j) v) (mset M (A 33 0 0) (.inl (gA g 0, 6006, .inl (upd (VX 0 S b σ e 33 0 0) j v)))) := by
  have hz := h.hz
  exact SX.putE (k := 33) (i := 0) (j := j) h (iN_33 hz) hj rfl (LvX.one (by decide) Nat.zero_lt_one) (by decide) (by decide) (fun τ fl => rfl)
theorem SX.r37 {g : GP} {P : Nat → Prop} {F : Mem} {A : XA} {w : Nat} {S : Nat → Nat → Nat} {b : XS} {σ : MS} {e : XE} {M : Mem} (h : SX g P F A w S b σ e M) {i : Nat} (hi : i < S 6 w) : M (A 37 w i) = some (.inl (gA g 0, 12, .inl (VX w S b σ e 37 w i))) := by
  obtain ⟨τ, dn, fl, hR, hz, -⟩ := h
  exact hR.gt (k := 37) (w := w) (i := i) (LvX.k36 (Or.inr rfl) hz.1 hi)
theorem SX.v37 {g : GP} {P : Nat → Prop} {F : Mem} {A : XA} {w : Nat} {S : Nat → Nat → Nat} {b : XS} {σ : MS} {e : XE} {M : Mem} (h : SX g P F A w S b σ e M) {i : Nat} (hi : i < S 6 w) {j : Nat} (hj : j < 12) : VX w S b σ e 37 w i j = e (10 + i) (j) := V37 h.hz hi hj
theorem SX.p37 {g : GP} {P : Nat → Prop} {F : Mem} {A : XA} {w : Nat} {S : Nat → Nat → Nat} {b : XS} {σ : MS} {e : XE} {M : Mem} (h : SX g P F A w S b σ e M) {i : Nat} (hi : i < S 6 w) {j : Nat} (hj : j < 12) {v : Int32} : SX g P F A w S b σ (uE e (10 + i) (j) v) (mset M (A 37 w i) (.inl (gA g 0, 12, .inl (upd (VX w S b σ e 37 w i) j v)))) := by
  have hz := h.hz
  exact SX.putE (k := 37) (i := i) (j := j) h (iN_37 hz hi) hj rfl (LvX.k36 (Or.inr rfl) hz.1 hi) (by decide) (by decide) (fun τ fl => rfl)
theorem SX.r39 {g : GP} {P : Nat → Prop} {F : Mem} {A : XA} {w : Nat} {S : Nat → Nat → Nat} {b : XS} {σ : MS} {e : XE} {M : Mem} (h : SX g P F A w S b σ e M) {i : Nat} (hi : i < S 8 w) : M (A 39 w i) = some (.inl (gA g 3, 100, .inl (VX w S b σ e 39 w i))) := by
  obtain ⟨τ, dn, fl, hR, hz, -⟩ := h
  exact hR.gt (k := 39) (w := w) (i := i) (LvX.k38 (Or.inr rfl) hz.1 hi)
theorem SX.v39 {g : GP} {P : Nat → Prop} {F : Mem} {A : XA} {w : Nat} {S : Nat → Nat → Nat} {b : XS} {σ : MS} {e : XE} {M : Mem} (h : SX g P F A w S b σ e M) {i : Nat} (hi : i < S 8 w) {j : Nat} (hj : j < 100) : VX w S b σ e 39 w i j = (if w = 0 then σ.2.1 12 (100 * i + j) else b.1 39 w i j) := V39 h.hz hi hj
theorem SX.p39 {g : GP} {P : Nat → Prop} {F : Mem} {A : XA} {S : Nat → Nat → Nat} {b : XS} {σ : MS} {e : XE} {M : Mem} (h : SX g P F A 0 S b σ e M) {i : Nat} (hi : i < S 8 0) {j : Nat} (hj : j < 100) {v : Int32} : SX g P F A 0 S b (wA σ 12 (100 * i + j) v) e (mset M (A 39 0 i) (.inl (gA g 3, 100, .inl (upd (VX 0 S b σ e 39 0 i) j v)))) := by
  have hz := h.hz
  exact SX.putA (k := 39) (i := i) (j := j) h (iN_39 hz hi) hj rfl (LvX.k38 (Or.inr rfl) hz.1 hi) (by decide) (by decide) (by decide) (fun τ fl => rfl)
theorem SX.r41 {g : GP} {P : Nat → Prop} {F : Mem} {A : XA} {S : Nat → Nat → Nat} {b : XS} {σ : MS} {e : XE} {M : Mem} (h : SX g P F A 0 S b σ e M)  : M (A 41 0 0) = some (.inl (gA g 2, 300, .inl (VX 0 S b σ e 41 0 0))) := by
  obtain ⟨τ, dn, fl, hR, hz, -⟩ := h
  exact hR.gt (k := 41) (w := 0) (i := 0) (LvX.one (by decide) Nat.zero_lt_one)
theorem SX.v41 {g : GP} {P : Nat → Prop} {F : Mem} {A : XA} {S : Nat → Nat → Nat} {b : XS} {σ : MS} {e : XE} {M : Mem} (h : SX g P F A 0 S b σ e M)  {j : Nat} (hj : j < 300) : VX 0 S b σ e 41 0 0 j = σ.2.1 7 (j) := V41 h.hz hj
theorem SX.p41 {g : GP} {P : Nat → Prop} {F : Mem} {A : XA} {S : Nat → Nat → Nat} {b : XS} {σ : MS} {e : XE} {M : Mem} (h : SX g P F A 0 S b σ e M)  {j : Nat} (hj : j < 300) {v : Int32} : SX g P F A 0 S b (wA σ 7 (j) v) e (mset M (A 41 0 0) (.inl (gA g 2, 300, .inl (upd (VX 0 S b σ e 41 0 0) j v)))) := by
  have hz := h.hz
  exact SX.putA (k := 41) (i := 0) (j := j) h (iN_41 hz) hj rfl (LvX.one (by decide) Nat.zero_lt_one) (by decide) (by decide) (by decide) (fun τ fl => rfl)
theorem SX.r42 {g : GP} {P : Nat → Prop} {F : Mem} {A : XA} {S : Nat → Nat → Nat} {b : XS} {σ : MS} {e : XE} {M : Mem} (h : SX g P F A 0 S b σ e M)  : M (A 42 0 0) = some (.inl (gA g 3, 100, .inl (VX 0 S b σ e 42 0 0))) := by
  obtain ⟨τ, dn, fl, hR, hz, -⟩ := h
  exact hR.gt (k := 42) (w := 0) (i := 0) (LvX.one (by decide) Nat.zero_lt_one)
theorem SX.v42 {g : GP} {P : Nat → Prop} {F : Mem} {A : XA} {S : Nat → Nat → Nat} {b : XS} {σ : MS} {e : XE} {M : Mem} (h : SX g P F A 0 S b σ e M)  {j : Nat} (hj : j < 100) : VX 0 S b σ e 42 0 0 j = row σ (1780 + 3 * j + 2) := V42 h.hz hj
theorem SX.p42 {g : GP} {P : Nat → Prop} {F : Mem} {A : XA} {S : Nat → Nat → Nat} {b : XS} {σ : MS} {e : XE} {M : Mem} (h : SX g P F A 0 S b σ e M)  {j : Nat} (hj : j < 100) {v : Int32} : SX g P F A 0 S b (wA σ 1 (1780 + 3 * j + 2) v) e (mset M (A 42 0 0) (.inl (gA g 3, 100, .inl (upd (VX 0 S b σ e 42 0 0) j v)))) := by
  have hz := h.hz
  exact SX.putA (k := 42) (i := 0) (j := j) h (iN_42 hz) hj rfl (LvX.one (by decide) Nat.zero_lt_one) (by decide) (by decide) (by decide) (fun τ fl => rfl)
theorem SX.r43 {g : GP} {P : Nat → Prop} {F : Mem} {A : XA} {S : Nat → Nat → Nat} {b : XS} {σ : MS} {e : XE} {M : Mem} (h : SX g P F A 0 S b σ e M)  : M (A 43 0 0) = some (.inl (gA g 0, 3, .inl (VX 0 S b σ e 43 0 0))) := by
  obtain ⟨τ, dn, fl, hR, hz, -⟩ := h
  exact hR.gt (k := 43) (w := 0) (i := 0) (LvX.one (by decide) Nat.zero_lt_one)
theorem SX.v43 {g : GP} {P : Nat → Prop} {F : Mem} {A : XA} {S : Nat → Nat → Nat} {b : XS} {σ : MS} {e : XE} {M : Mem} (h : SX g P F A 0 S b σ e M)  {j : Nat} (hj : j < 3) : VX 0 S b σ e 43 0 0 j = σ.2.1 15 (j) := V43 h.hz hj
theorem SX.p43 {g : GP} {P : Nat → Prop} {F : Mem} {A : XA} {S : Nat → Nat → Nat} {b : XS} {σ : MS} {e : XE} {M : Mem} (h : SX g P F A 0 S b σ e M)  {j : Nat} (hj : j < 3) {v : Int32} : SX g P F A 0 S b (wA σ 15 (j) v) e (mset M (A 43 0 0) (.inl (gA g 0, 3, .inl (upd (VX 0 S b σ e 43 0 0) j v)))) := by
  have hz := h.hz
  exact SX.putA (k := 43) (i := 0) (j := j) h (iN_43 hz) hj rfl (LvX.one (by decide) Nat.zero_lt_one) (by decide) (by decide) (by decide) (fun τ fl => rfl)
theorem SX.r44 {g : GP} {P : Nat → Prop} {F : Mem} {A : XA} {S : Nat → Nat → Nat} {b : XS} {σ : MS} {e : XE} {M : Mem} (h : SX g P F A 0 S b σ e M)  : M (A 44 0 0) = some (.inl (gA g 0, 3, .inl (VX 0 S b σ e 44 0 0))) := by
  obtain ⟨τ, dn, fl, hR, hz, -⟩ := h
  exact hR.gt (k := 44) (w := 0) (i := 0) (LvX.one (by decide) Nat.zero_lt_one)
theorem SX.v44 {g : GP} {P : Nat → Prop} {F : Mem} {A : XA} {S : Nat → Nat → Nat} {b : XS} {σ : MS} {e : XE} {M : Mem} (h : SX g P F A 0 S b σ e M)  {j : Nat} (hj : j < 3) : VX 0 S b σ e 44 0 0 j = σ.2.1 16 (j) := V44 h.hz hj
theorem SX.p44 {g : GP} {P : Nat → Prop} {F : Mem} {A : XA} {S : Nat → Nat → Nat} {b : XS} {σ : MS} {e : XE} {M : Mem} (h : SX g P F A 0 S b σ e M)  {j : Nat} (hj : j < 3) {v : Int32} : SX g P F A 0 S b (wA σ 16 (j) v) e (mset M (A 44 0 0) (.inl (gA g 0, 3, .inl (upd (VX 0 S b σ e 44 0 0) j v)))) := by
  have hz := h.hz
  exact SX.putA (k := 44) (i := 0) (j := j) h (iN_44 hz) hj rfl (LvX.one (by decide) Nat.zero_lt_one) (by decide) (by decide) (by decide) (fun τ fl => rfl)
theorem SX.r45 {g : GP} {P : Nat → Prop} {F : Mem} {A : XA} {S : Nat → Nat → Nat} {b : XS} {σ : MS} {e : XE} {M : Mem} (h : SX g P F A 0 S b σ e M)  : M (A 45 0 0) = some (.inl (gA g 0, 2, .inl (VX 0 S b σ e 45 0 0))) := by
  obtain ⟨τ, dn, fl, hR, hz, -⟩ := h
  exact hR.gt (k := 45) (w := 0) (i := 0) (LvX.one (by decide) Nat.zero_lt_one)
theorem SX.v45 {g : GP} {P : Nat → Prop} {F : Mem} {A : XA} {S : Nat → Nat → Nat} {b : XS} {σ : MS} {e : XE} {M : Mem} (h : SX g P F A 0 S b σ e M)  {j : Nat} (hj : j < 2) : VX 0 S b σ e 45 0 0 j = e (17) (j) := V45 h.hz hj
theorem SX.p45 {g : GP} {P : Nat → Prop} {F : Mem} {A : XA} {S : Nat → Nat → Nat} {b : XS} {σ : MS} {e : XE} {M : Mem} (h : SX g P F A 0 S b σ e M)  {j : Nat} (hj : j < 2) {v : Int32} : SX g P F A 0 S b σ (uE e (17) (j) v) (mset M (A 45 0 0) (.inl (gA g 0, 2, .inl (upd (VX 0 S b σ e 45 0 0) j v)))) := by
  have hz := h.hz
  exact SX.putE (k := 45) (i := 0) (j := j) h (iN_45 hz) hj rfl (LvX.one (by decide) Nat.zero_lt_one) (by decide) (by decide) (fun τ fl => rfl)
theorem SX.r46 {g : GP} {P : Nat → Prop} {F : Mem} {A : XA} {S : Nat → Nat → Nat} {b : XS} {σ : MS} {e : XE} {M : Mem} (h : SX g P F A 0 S b σ e M)  : M (A 46 0 0) = some (.inl (gA g 0, 2, .inl (VX 0 S b σ e 46 0 0))) := by
  obtain ⟨τ, dn, fl, hR, hz, -⟩ := h
  exact hR.gt (k := 46) (w := 0) (i := 0) (LvX.one (by decide) Nat.zero_lt_one)
theorem SX.v46 {g : GP} {P : Nat → Prop} {F : Mem} {A : XA} {S : Nat → Nat → Nat} {b : XS} {σ : MS} {e : XE} {M : Mem} (h : SX g P F A 0 S b σ e M)  {j : Nat} (hj : j < 2) : VX 0 S b σ e 46 0 0 j = e (18) (j) := V46 h.hz hj
theorem SX.p46 {g : GP} {P : Nat → Prop} {F : Mem} {A : XA} {S : Nat → Nat → Nat} {b : XS} {σ : MS} {e : XE} {M : Mem} (h : SX g P F A 0 S b σ e M)  {j : Nat} (hj : j < 2) {v : Int32} : SX g P F A 0 S b σ (uE e (18) (j) v) (mset M (A 46 0 0) (.inl (gA g 0, 2, .inl (upd (VX 0 S b σ e 46 0 0) j v)))) := by
  have hz := h.hz
  exact SX.putE (k := 46) (i := 0) (j := j) h (iN_46 hz) hj rfl (LvX.one (by decide) Nat.zero_lt_one) (by decide) (by decide) (fun τ fl => rfl)
theorem SX.r47 {g : GP} {P : Nat → Prop} {F : Mem} {A : XA} {S : Nat → Nat → Nat} {b : XS} {σ : MS} {e : XE} {M : Mem} (h : SX g P F A 0 S b σ e M)  : M (A 47 0 0) = some (.inl (gA g 0, 196, .inl (VX 0 S b σ e 47 0 0))) := by
  obtain ⟨τ, dn, fl, hR, hz, -⟩ := h
  exact hR.gt (k := 47) (w := 0) (i := 0) (LvX.one (by decide) Nat.zero_lt_one)
theorem SX.v47 {g : GP} {P : Nat → Prop} {F : Mem} {A : XA} {S : Nat → Nat → Nat} {b : XS} {σ : MS} {e : XE} {M : Mem} (h : SX g P F A 0 S b σ e M)  {j : Nat} (hj : j < 196) : VX 0 S b σ e 47 0 0 j = σ.2.1 17 (j) := V47 h.hz hj
theorem SX.p47 {g : GP} {P : Nat → Prop} {F : Mem} {A : XA} {S : Nat → Nat → Nat} {b : XS} {σ : MS} {e : XE} {M : Mem} (h : SX g P F A 0 S b σ e M)  {j : Nat} (hj : j < 196) {v : Int32} : SX g P F A 0 S b (wA σ 17 (j) v) e (mset M (A 47 0 0) (.inl (gA g 0, 196, .inl (upd (VX 0 S b σ e 47 0 0) j v)))) := by
  have hz := h.hz
  exact SX.putA (k := 47) (i := 0) (j := j) h (iN_47 hz) hj rfl (LvX.one (by decide) Nat.zero_lt_one) (by decide) (by decide) (by decide) (fun τ fl => rfl)
theorem SX.L2 {g : GP} {P : Nat → Prop} {F : Mem} {A : XA} {w : Nat} {S : Nat → Nat → Nat} {b : XS} {σ : MS} {e : XE} {M : Mem} (h : SX g P F A w S b σ e M) : ∃ (m : Nat) (mc : Int32), LstC g M (A 2 w 0) (A 3 w 0) (S 2 w) m (fun j => if j < S 2 w then some (A 34 w j) else none) mc := by
  obtain ⟨τ, dn, fl, hR, hz, -⟩ := h
  have hc := hR.2.2.2.2.2.2.2.2.2.2 2 w (by decide)
  exact ⟨tCp τ 2 w, tMc τ 2 w, hR.gt (k := 2) (w := w) (i := 0) (LvX.one (by decide) hz.1), hR.gt (k := 3) (w := w) (i := 0) (LvX.one (by decide) hz.1), hc.1, Nat.lt_trans hc.2.2 (by decide)⟩
theorem SX.L4 {g : GP} {P : Nat → Prop} {F : Mem} {A : XA} {w : Nat} {S : Nat → Nat → Nat} {b : XS} {σ : MS} {e : XE} {M : Mem} (h : SX g P F A w S b σ e M) : ∃ (m : Nat) (mc : Int32), LstC g M (A 4 w 0) (A 5 w 0) (S 4 w) m (fun j => if j < S 4 w then some (A 35 w j) else none) mc := by
  obtain ⟨τ, dn, fl, hR, hz, -⟩ := h
  have hc := hR.2.2.2.2.2.2.2.2.2.2 4 w (by decide)
  exact ⟨tCp τ 4 w, tMc τ 4 w, hR.gt (k := 4) (w := w) (i := 0) (LvX.one (by decide) hz.1), hR.gt (k := 5) (w := w) (i := 0) (LvX.one (by decide) hz.1), hc.1, Nat.lt_trans hc.2.2 (by decide)⟩
theorem SX.L6 {g : GP} {P : Nat → Prop} {F : Mem} {A : XA} {w : Nat} {S : Nat → Nat → Nat} {b : XS} {σ : MS} {e : XE} {M : Mem} (h : SX g P F A w S b σ e M) : ∃ (m : Nat) (mc : Int32), LstC g M (A 6 w 0) (A 7 w 0) (S 6 w) m (fun j => if j < S 6 w then some (A 36 w j) else none) mc := by
  obtain ⟨τ, dn, fl, hR, hz, -⟩ := h
  have hc := hR.2.2.2.2.2.2.2.2.2.2 6 w (by decide)
  exact ⟨tCp τ 6 w, tMc τ 6 w, hR.gt (k := 6) (w := w) (i := 0) (LvX.one (by decide) hz.1), hR.gt (k := 7) (w := w) (i := 0) (LvX.one (by decide) hz.1), hc.1, Nat.lt_trans hc.2.2 (by decide)⟩
theorem SX.L8 {g : GP} {P : Nat → Prop} {F : Mem} {A : XA} {w : Nat} {S : Nat → Nat → Nat} {b : XS} {σ : MS} {e : XE} {M : Mem} (h : SX g P F A w S b σ e M) : ∃ (m : Nat) (mc : Int32), LstC g M (A 8 w 0) (A 9 w 0) (S 8 w) m (fun j => if j < S 8 w then some (A 38 w j) else none) mc := by
  obtain ⟨τ, dn, fl, hR, hz, -⟩ := h
  have hc := hR.2.2.2.2.2.2.2.2.2.2 8 w (by decide)
  exact ⟨tCp τ 8 w, tMc τ 8 w, hR.gt (k := 8) (w := w) (i := 0) (LvX.one (by decide) hz.1), hR.gt (k := 9) (w := w) (i := 0) (LvX.one (by decide) hz.1), hc.1, Nat.lt_trans hc.2.2 (by decide)⟩
theorem SX.L10 {g : GP} {P : Nat → Prop} {F : Mem} {A : XA} {w : Nat} {S : Nat → Nat → Nat} {b : XS} {σ : MS} {e : XE} {M : Mem} (h : SX g P F A w S b σ e M) : ∃ (m : Nat) (mc : Int32), LstC g M (A 10 w 0) (A 11 w 0) (S 10 w) m (fun j => if j < S 10 w then some (A 40 w j) else none) mc := by
  obtain ⟨τ, dn, fl, hR, hz, -⟩ := h
  have hc := hR.2.2.2.2.2.2.2.2.2.2 10 w (by decide)
  exact ⟨tCp τ 10 w, tMc τ 10 w, hR.gt (k := 10) (w := w) (i := 0) (LvX.one (by decide) hz.1), hR.gt (k := 11) (w := w) (i := 0) (LvX.one (by decide) hz.1), hc.1, Nat.lt_trans hc.2.2 (by decide)⟩
theorem SX.L12 {g : GP} {P : Nat → Prop} {F : Mem} {A : XA} {S : Nat → Nat → Nat} {b : XS} {σ : MS} {e : XE} {M : Mem} (h : SX g P F A 0 S b σ e M) : ∃ (m : Nat) (mc : Int32), LstC g M (A 12 0 0) (A 13 0 0) (S 12 0) m (fun j => if j < S 12 0 then some (A 35 0 (tN (VX 0 S b σ e 13 0 0 j))) else none) mc := by
  obtain ⟨τ, dn, fl, hR, hz, -⟩ := h
  have hc := hR.2.2.2.2.2.2.2.2.2.2 12 0 (by decide)
  exact ⟨tCp τ 12 0, tMc τ 12 0, hR.gt (k := 12) (w := 0) (i := 0) (LvX.one (by decide) Nat.zero_lt_one), hR.gt (k := 13) (w := 0) (i := 0) (LvX.one (by decide) Nat.zero_lt_one), hc.1, Nat.lt_trans hc.2.2 (by decide)⟩
theorem SX.L14 {g : GP} {P : Nat → Prop} {F : Mem} {A : XA} {S : Nat → Nat → Nat} {b : XS} {σ : MS} {e : XE} {M : Mem} (h : SX g P F A 0 S b σ e M) : ∃ (m : Nat) (mc : Int32), LstC g M (A 14 0 0) (A 15 0 0) (S 14 0) m (fun j => if j < S 14 0 then some (A 35 0 (tN (VX 0 S b σ e 15 0 0 j))) else none) mc := by
  obtain ⟨τ, dn, fl, hR, hz, -⟩ := h
  have hc := hR.2.2.2.2.2.2.2.2.2.2 14 0 (by decide)
  exact ⟨tCp τ 14 0, tMc τ 14 0, hR.gt (k := 14) (w := 0) (i := 0) (LvX.one (by decide) Nat.zero_lt_one), hR.gt (k := 15) (w := 0) (i := 0) (LvX.one (by decide) Nat.zero_lt_one), hc.1, Nat.lt_trans hc.2.2 (by decide)⟩
theorem SX.L16 {g : GP} {P : Nat → Prop} {F : Mem} {A : XA} {S : Nat → Nat → Nat} {b : XS} {σ : MS} {e : XE} {M : Mem} (h : SX g P F A 0 S b σ e M) : ∃ (m : Nat) (mc : Int32), LstC g M (A 16 0 0) (A 17 0 0) (S 16 0) m (fun j => if j < S 16 0 then some (A 51 0 j) else none) mc := by
  obtain ⟨τ, dn, fl, hR, hz, -⟩ := h
  have hc := hR.2.2.2.2.2.2.2.2.2.2 16 0 (by decide)
  exact ⟨tCp τ 16 0, tMc τ 16 0, hR.gt (k := 16) (w := 0) (i := 0) (LvX.one (by decide) Nat.zero_lt_one), hR.gt (k := 17) (w := 0) (i := 0) (LvX.one (by decide) Nat.zero_lt_one), hc.1, Nat.lt_trans hc.2.2 (by decide)⟩
