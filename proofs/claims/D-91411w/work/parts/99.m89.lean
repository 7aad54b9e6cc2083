set_option maxRecDepth 100000
theorem dfX1 : ∀ j, j < 22 → defaultValue (tyX1 j) = vp_V [.null, .null, .int 0, .int 0, .int 0, .int 0, .int 0, .null, .null, .null, .null, .null, .null, .null, .null, .null, .int 0, .int 0, .int 0, .long 0, .long 0, .null] j := fun j hj => by
  match j, hj with
  | 0, _ => rfl
  | 1, _ => rfl
  | 2, _ => rfl
  | 3, _ => rfl
  | 4, _ => rfl
  | 5, _ => rfl
  | 6, _ => rfl
  | 7, _ => rfl
  | 8, _ => rfl
  | 9, _ => rfl
  | 10, _ => rfl
  | 11, _ => rfl
  | 12, _ => rfl
  | 13, _ => rfl
  | 14, _ => rfl
  | 15, _ => rfl
  | 16, _ => rfl
  | 17, _ => rfl
  | 18, _ => rfl
  | 19, _ => rfl
  | 20, _ => rfl
  | 21, _ => rfl
  | k9 + 22, h => exact absurd h (by omega)
theorem dfX2 : ∀ j, j < 32 → defaultValue (tyX2 j) = vp_V [.int 0, .int 0, .int 0, .int 0, .int 0, .int 0, .int 0, .int 0, .int 0, .int 0, .int 0, .int 0, .null, .null, .null, .null, .null, .null, .null, .null, .null, .null, .null, .null, .null, .null, .null, .null, .null, .null, .null, .null] j := fun j hj => by
  match j, hj with
  | 0, _ => rfl
  | 1, _ => rfl
  | 2, _ => rfl
  | 3, _ => rfl
  | 4, _ => rfl
  | 5, _ => rfl
  | 6, _ => rfl
  | 7, _ => rfl
  | 8, _ => rfl
  | 9, _ => rfl
  | 10, _ => rfl
  | 11, _ => rfl
  | 12, _ => rfl
  | 13, _ => rfl
  | 14, _ => rfl
  | 15, _ => rfl
  | 16, _ => rfl
  | 17, _ => rfl
  | 18, _ => rfl
  | 19, _ => rfl
  | 20, _ => rfl
  | 21, _ => rfl
  | 22, _ => rfl
  | 23, _ => rfl
  | 24, _ => rfl
  | 25, _ => rfl
  | 26, _ => rfl
  | 27, _ => rfl
  | 28, _ => rfl
  | 29, _ => rfl
  | 30, _ => rfl
  | 31, _ => rfl
  | k9 + 32, h => exact absurd h (by omega)
theorem dfX6 : ∀ j, j < 4 → defaultValue (tyX6 j) = vp_V [.int 0, .int 0, .int 0, .int 0] j := fun j hj => by
  match j, hj with
  | 0, _ => rfl
  | 1, _ => rfl
  | 2, _ => rfl
  | 3, _ => rfl
theorem dfX7 : ∀ j, j < 2 → defaultValue (tyX7 j) = vp_V [.null, .null] j := fun j hj => by
  match j, hj with
  | 0, _ => rfl
  | 1, _ => rfl
theorem dfX8 : ∀ j, j < 1 → defaultValue (tyX8 j) = vp_V [.null] j := fun j hj => by
  match j, hj with
  | 0, _ => rfl
theorem dfX10 : ∀ j, j < 10 → defaultValue (tyX10 j) = vp_V [.int 0, .int 0, .int 0, .int 0, .int 0, .int 0, .int 0, .int 0, .int 0, .int 0] j := fun j hj => by
  match j, hj with
  | 0, _ => rfl
  | 1, _ => rfl
  | 2, _ => rfl
  | 3, _ => rfl
  | 4, _ => rfl
  | 5, _ => rfl
  | 6, _ => rfl
  | 7, _ => rfl
  | 8, _ => rfl
  | 9, _ => rfl
theorem dfX11 : ∀ j, j < 4 → defaultValue (tyX11 j) = vp_V [.int 0, .int 0, .int 0, .null] j := fun j hj => by
  match j, hj with
  | 0, _ => rfl
  | 1, _ => rfl
  | 2, _ => rfl
  | 3, _ => rfl
theorem dfX12 : ∀ j, j < 9 → defaultValue (tyX12 j) = vp_V [.null, .int 0, .int 0, .int 0, .int 0, .int 0, .int 0, .int 0, .null] j := fun j hj => by
  match j, hj with
  | 0, _ => rfl
  | 1, _ => rfl
  | 2, _ => rfl
  | 3, _ => rfl
  | 4, _ => rfl
  | 5, _ => rfl
  | 6, _ => rfl
  | 7, _ => rfl
  | 8, _ => rfl
theorem dfX13 : ∀ j, j < 4 → defaultValue (tyX13 j) = vp_V [.int 0, .int 0, .int 0, .int 0] j := fun j hj => by
  match j, hj with
  | 0, _ => rfl
  | 1, _ => rfl
  | 2, _ => rfl
  | 3, _ => rfl
theorem dfX14 : ∀ j, j < 3 → defaultValue (tyX14 j) = vp_V [.int 0, .int 0, .int 0] j := fun j hj => by
  match j, hj with
  | 0, _ => rfl
  | 1, _ => rfl
  | 2, _ => rfl
theorem dfX15 : ∀ j, j < 3 → defaultValue (tyX15 j) = vp_V [.int 0, .int 0, .int 0] j := fun j hj => by
  match j, hj with
  | 0, _ => rfl
  | 1, _ => rfl
  | 2, _ => rfl
theorem dfX16 : ∀ j, j < 1 → defaultValue (tyX16 j) = vp_V [.int 0] j := fun j hj => by
  match j, hj with
  | 0, _ => rfl
theorem dfX17 : ∀ j, j < 1 → defaultValue (tyX17 j) = vp_V [.int 0] j := fun j hj => by
  match j, hj with
  | 0, _ => rfl
theorem dfX18 : ∀ j, j < 4 → defaultValue (tyX18 j) = vp_V [.null, .int 0, .int 0, .int 0] j := fun j hj => by
  match j, hj with
  | 0, _ => rfl
  | 1, _ => rfl
  | 2, _ => rfl
  | 3, _ => rfl
theorem dfX19 : ∀ j, j < 2 → defaultValue (tyX19 j) = vp_V [.null, .int 0] j := fun j hj => by
  match j, hj with
  | 0, _ => rfl
  | 1, _ => rfl
theorem dfX20 : ∀ j, j < 8 → defaultValue (tyX20 j) = vp_V [.null, .null, .null, .null, .null, .int 0, .int 0, .int 0] j := fun j hj => by
  match j, hj with
  | 0, _ => rfl
  | 1, _ => rfl
  | 2, _ => rfl
  | 3, _ => rfl
  | 4, _ => rfl
  | 5, _ => rfl
  | 6, _ => rfl
  | 7, _ => rfl
theorem dfX22 : ∀ j, j < 1 → defaultValue (tyX22 j) = vp_V [.int 0] j := fun j hj => by
  match j, hj with
  | 0, _ => rfl
theorem dfX23 : ∀ j, j < 1 → defaultValue (tyX23 j) = vp_V [.int 0] j := fun j hj => by
  match j, hj with
  | 0, _ => rfl
theorem dfX24 : ∀ j, j < 3 → defaultValue (tyX24 j) = vp_V [.null, .null, .int 0] j := fun j hj => by
  match j, hj with
  | 0, _ => rfl
  | 1, _ => rfl
  | 2, _ => rfl
theorem dfX25 : ∀ j, j < 4 → defaultValue (tyX25 j) = vp_V [.null, .null, .int 0, .int 0] j := fun j hj => by
  match j, hj with
  | 0, _ => rfl
  | 1, _ => rfl
  | 2, _ => rfl
  | 3, _ => rfl
theorem dfX26 : ∀ j, j < 1 → defaultValue (tyX26 j) = vp_V [.null] j := fun j hj => by
  match j, hj with
  | 0, _ => rfl
theorem dfX27 : ∀ j, j < 1 → defaultValue (tyX27 j) = vp_V [.null] j := fun j hj => by
  match j, hj with
  | 0, _ => rfl
theorem dfX28 : ∀ j, j < 1 → defaultValue (tyX28 j) = vp_V [.null] j := fun j hj => by
  match j, hj with
  | 0, _ => rfl
theorem dfX29 : ∀ j, j < 3 → defaultValue (tyX29 j) = vp_V [.null, .null, .int 0] j := fun j hj => by
  match j, hj with
  | 0, _ => rfl
  | 1, _ => rfl
  | 2, _ => rfl
theorem dfX30 : ∀ j, j < 4 → defaultValue (tyX30 j) = vp_V [.null, .null, .int 0, .null] j := fun j hj => by
  match j, hj with
  | 0, _ => rfl
  | 1, _ => rfl
  | 2, _ => rfl
  | 3, _ => rfl
theorem dfX4 : ∀ j, j < 0 → defaultValue (ty0cl j) = vp_V [] j := fun j hj => absurd hj (Nat.not_lt_zero _)
theorem dfX5 : ∀ j, j < 0 → defaultValue (ty0cl j) = vp_V [] j := fun j hj => absurd hj (Nat.not_lt_zero _)
section FX
variable {g : GP} {own : String} {cc : ByteArray} {nL : Nat} {i : MI} {d C N pc : Nat} {ls : List (Nat × Value)} {st : List Value} {μ : Mem} {Q : OC → Mem → Prop} {P : Nat → Prop} {F : Mem} {A : XA} {w : Nat} {S : Nat → Nat → Nat} {b : XS} {σ : MS} {e : XE}
theorem fresh_up {M : Mem} {q : Nat} {x : va_E} (hq : M q = none) : ∀ a y, M a = some y → mset M q x a = some y := fun a y hy => by
  rw [mset_n (fun z => by rw [z, hq] at hy; cases hy)]
  exact hy
theorem SX.fresh {M : Mem} {q : Nat} {x : va_E} (h : SX g P F A w S b σ e M) (hq : M q = none) : SX g P F A w S b σ e (mset M q x) := h.mono (fresh_up hq)
theorem sxf {q : Nat} {x : va_E} (h : SX g P F A w S b σ e μ) (hq : μ q = some x) (k : ∀ M : Mem, SX g P F A w S b σ e M → M q = some x → PJ g own cc nL i d C N pc ls st M Q) : PJ g own cc nL i d C N pc ls st μ Q := k μ h hq
theorem PJ.mem {μ1 : Mem} (hm : μ = μ1) (k : PJ g own cc nL i d C N pc ls st μ1 Q) : PJ g own cc nL i d C N pc ls st μ Q := by
  subst hm
  exact k
end FX
set_option maxHeartbeats 600000 in
theorem k_X3_init {g : GP} {μ : Mem} {d : Nat} (hd : 1 ≤ d) {q : Nat}  : PM g yX3_init (ws_ yX3_init cX3_init 1 none) d 0 0 [.ref q] μ (rQ none μ) := by
  refine PM.of (by decide +kernel) (Nat.le_of_ble_eq_true rfl) ?_
  refine PJ.ok (fun G => ?_)
  show PJ g _ _ _ _ d 0 0 0 [(0, .ref q)] [] _ _
  refine pl_aload_n (pc := 0) dX3_init_0 rfl rfl ?_
  refine pj_objInit (pc := 1) q570 q187 q188 dX3_init_1 (by omega) (by decide) ?_
  refine pj_vret (pc := 4) dX3_init_4 rfl ?_
  exact ⟨rfl, rfl⟩
set_option maxHeartbeats 600000 in
theorem k_X4_init {g : GP} {μ : Mem} {d : Nat} (hd : 2 ≤ d) {q : Nat}  : PM g yX4_init (ws_ yX4_init cX4_init 1 none) d 0 0 [.ref q] μ (rQ none μ) := by
  refine PM.of (by decide +kernel) (Nat.le_of_ble_eq_true rfl) ?_
  refine PJ.ok (fun G => ?_)
  show PJ g _ _ _ _ d 0 0 0 [(0, .ref q)] [] _ _
  refine pl_aload_n (pc := 0) dX4_init_0 rfl rfl ?_
  refine pl_callINv (pc := 1) (As := []) (C1 := 0) (N1 := 0) (C2 := 0) (N2 := 0) mdX3_init rfl q567 q568 q147 dX4_init_1 rfl rfl (Nat.le_of_ble_eq_true rfl) (k_X3_init (d := d - 1) (by omega)) (by omega) (by omega) (by omega) ?_
  refine pj_vret (pc := 4) dX4_init_4 rfl ?_
  exact ⟨rfl, rfl⟩
set_option maxHeartbeats 600000 in
theorem k_X5_init {g : GP} {μ : Mem} {d : Nat} (hd : 2 ≤ d) {q : Nat}  : PM g yX5_init (ws_ yX5_init cX5_init 1 none) d 0 0 [.ref q] μ (rQ none μ) := by
  refine PM.of (by decide +kernel) (Nat.le_of_ble_eq_true rfl) ?_
  refine PJ.ok (fun G => ?_)
  show PJ g _ _ _ _ d 0 0 0 [(0, .ref q)] [] _ _
  refine pl_aload_n (pc := 0) dX5_init_0 rfl rfl ?_
  refine pl_callINv (pc := 1) (As := []) (C1 := 0) (N1 := 0) (C2 := 0) (N2 := 0) mdX3_init rfl q579 q568 q147 dX5_init_1 rfl rfl (Nat.le_of_ble_eq_true rfl) (k_X3_init (d := d - 1) (by omega)) (by omega) (by omega) (by omega) ?_
  refine pj_vret (pc := 4) dX5_init_4 rfl ?_
  exact ⟨rfl, rfl⟩
set_option maxHeartbeats 600000 in
theorem k_X14_init {g : GP} {μ : Mem} {d : Nat} (hd : 3 ≤ d) {q : Nat} {a9 b9 c9 x9 y9 z9 : Int32} (hm : μ q = some (.inr (16, [.int x9, .int y9, .int z9]))) : PM g yX14_init (ws_ yX14_init cX14_init 4 none) d 0 0 [.ref q, .int a9, .int b9, .int c9] μ (rQ none (mset μ q (.inr (16, [.int a9, .int b9, .int c9])))) := by
  refine PM.of (by decide +kernel) (Nat.le_of_ble_eq_true rfl) ?_
  refine PJ.ok (fun G => ?_)
  show PJ g _ _ _ _ d 0 0 0 [(0, .ref q), (1, .int a9), (2, .int b9), (3, .int c9)] [] _ _
  refine pl_aload_n (pc := 0) dX14_init_0 rfl rfl ?_
  refine pl_callINv (pc := 1) (As := []) (C1 := 0) (N1 := 0) (C2 := 0) (N2 := 0) mdX5_init rfl q1726 q577 q149 dX14_init_1 rfl rfl (Nat.le_of_ble_eq_true rfl) (k_X5_init (d := d - 1) (by omega)) (by omega) (by omega) (by omega) ?_
  refine pl_aload_n (pc := 4) dX14_init_4 rfl rfl ?_
  refine pl_iload_n (pc := 5) dX14_init_5 rfl rfl ?_
  refine pj_putfF (pc := 6) ckX14 0 q1727 dX14_init_6 (by decide) rfl rfl rfl hm rfl rfl (Nat.le_of_ble_eq_true rfl) ?_
  refine pl_aload_n (pc := 9) dX14_init_9 rfl rfl ?_
  refine pl_iload_n (pc := 10) dX14_init_10 rfl rfl ?_
  refine pj_putfF (pc := 11) ckX14 1 q1728 dX14_init_11 (by decide) rfl rfl rfl mset_s rfl rfl (Nat.le_of_ble_eq_true rfl) ?_
  refine PJ.mem mset_m ?_
  refine pl_aload_n (pc := 14) dX14_init_14 rfl rfl ?_
  refine pl_iload_n (pc := 15) dX14_init_15 rfl rfl ?_
  refine pj_putfF (pc := 16) ckX14 2 q1729 dX14_init_16 (by decide) rfl rfl rfl mset_s rfl rfl (Nat.le_of_ble_eq_true rfl) ?_
  refine PJ.mem mset_m ?_
  refine pj_vret (pc := 19) dX14_init_19 rfl ?_
  exact ⟨rfl, rfl⟩
set_option maxHeartbeats 600000 in
theorem k_X14_init_o {g : GP} {μ : Mem} {d : Nat} (hd : 3 ≤ d) {q : Nat} {a9 b9 c9 x9 y9 z9 : Int32} (hm : μ q = some (.inr (17, [.int x9, .int y9, .int z9]))) : PM g yX14_init (ws_ yX14_init cX14_init 4 none) d 0 0 [.ref q, .int a9, .int b9, .int c9] μ (rQ none (mset μ q (.inr (17, [.int a9, .int b9, .int c9])))) := by
  refine PM.of (by decide +kernel) (Nat.le_of_ble_eq_true rfl) ?_
  refine PJ.ok (fun G => ?_)
  show PJ g _ _ _ _ d 0 0 0 [(0, .ref q), (1, .int a9), (2, .int b9), (3, .int c9)] [] _ _
  refine pl_aload_n (pc := 0) dX14_init_0 rfl rfl ?_
  refine pl_callINv (pc := 1) (As := []) (C1 := 0) (N1 := 0) (C2 := 0) (N2 := 0) mdX5_init rfl q1726 q577 q149 dX14_init_1 rfl rfl (Nat.le_of_ble_eq_true rfl) (k_X5_init (d := d - 1) (by omega)) (by omega) (by omega) (by omega) ?_
  refine pl_aload_n (pc := 4) dX14_init_4 rfl rfl ?_
  refine pl_iload_n (pc := 5) dX14_init_5 rfl rfl ?_
  refine pj_putfF (pc := 6) ckX15 0 q1727 dX14_init_6 (by decide) rfl rfl rfl hm rfl rfl (Nat.le_of_ble_eq_true rfl) ?_
  refine pl_aload_n (pc := 9) dX14_init_9 rfl rfl ?_
  refine pl_iload_n (pc := 10) dX14_init_10 rfl rfl ?_
  refine pj_putfF (pc := 11) ckX15 1 q1728 dX14_init_11 (by decide) rfl rfl rfl mset_s rfl rfl (Nat.le_of_ble_eq_true rfl) ?_
  refine PJ.mem mset_m ?_
  refine pl_aload_n (pc := 14) dX14_init_14 rfl rfl ?_
  refine pl_iload_n (pc := 15) dX14_init_15 rfl rfl ?_
  refine pj_putfF (pc := 16) ckX15 2 q1729 dX14_init_16 (by decide) rfl rfl rfl mset_s rfl rfl (Nat.le_of_ble_eq_true rfl) ?_
  refine PJ.mem mset_m ?_
  refine pj_vret (pc := 19) dX14_init_19 rfl ?_
  exact ⟨rfl, rfl⟩
set_option maxHeartbeats 600000 in
theorem k_X15_init {g : GP} {μ : Mem} {d : Nat} (hd : 4 ≤ d) {q : Nat} {a9 b9 x9 y9 z9 : Int32} (hm : μ q = some (.inr (17, [.int x9, .int y9, .int z9]))) : PM g yX15_init (ws_ yX15_init cX15_init 3 none) d 0 0 [.ref q, .int a9, .int b9] μ (rQ none (mset μ q (.inr (17, [.int a9, .int b9, .int (-1)])))) := by
  refine PM.of (by decide +kernel) (Nat.le_of_ble_eq_true rfl) ?_
  refine PJ.ok (fun G => ?_)
  show PJ g _ _ _ _ d 0 0 0 [(0, .ref q), (1, .int a9), (2, .int b9)] [] _ _
  refine pl_aload_n (pc := 0) dX15_init_0 rfl rfl ?_
  refine pl_iload_n (pc := 1) dX15_init_1 rfl rfl ?_
  refine pl_iload_n (pc := 2) dX15_init_2 rfl rfl ?_
  refine pj_iconst (pc := 3) (v := (-1)) dX15_init_3 (by rfl) ?_
  refine pl_callIv (pc := 4) (As := [_, _, _]) (C1 := 0) (N1 := 0) (C2 := 0) (N2 := 0) mdX14_init rfl q1790 q1724 q162 dX15_init_4 rfl rfl (Nat.le_of_ble_eq_true rfl) (k_X14_init_o (d := d - 1) (by omega) hm) (by omega) (by omega) (by omega) ?_
  refine pj_vret (pc := 7) dX15_init_7 rfl ?_
  exact ⟨rfl, rfl⟩
set_option maxHeartbeats 600000 in
theorem k_X16_init {g : GP} {μ : Mem} {d : Nat} (hd : 3 ≤ d) {q : Nat} {a9 x9 : Int32} (hm : μ q = some (.inr (18, [.int x9]))) : PM g yX16_init (ws_ yX16_init cX16_init 2 none) d 0 0 [.ref q, .int a9] μ (rQ none (mset μ q (.inr (18, [.int a9])))) := by
  refine PM.of (by decide +kernel) (Nat.le_of_ble_eq_true rfl) ?_
  refine PJ.ok (fun G => ?_)
  show PJ g _ _ _ _ d 0 0 0 [(0, .ref q), (1, .int a9)] [] _ _
  refine pl_aload_n (pc := 0) dX16_init_0 rfl rfl ?_
  refine pl_callINv (pc := 1) (As := []) (C1 := 0) (N1 := 0) (C2 := 0) (N2 := 0) mdX5_init rfl q1809 q577 q149 dX16_init_1 rfl rfl (Nat.le_of_ble_eq_true rfl) (k_X5_init (d := d - 1) (by omega)) (by omega) (by omega) (by omega) ?_
  refine pl_aload_n (pc := 4) dX16_init_4 rfl rfl ?_
  refine pl_iload_n (pc := 5) dX16_init_5 rfl rfl ?_
  refine pj_putfF (pc := 6) ckX16 0 q1810 dX16_init_6 (by decide) rfl rfl rfl hm rfl rfl (Nat.le_of_ble_eq_true rfl) ?_
  refine pj_vret (pc := 9) dX16_init_9 rfl ?_
  exact ⟨rfl, rfl⟩
set_option maxHeartbeats 600000 in
theorem k_X16_init_s {g : GP} {μ : Mem} {d : Nat} (hd : 3 ≤ d) {q : Nat} {a9 x9 : Int32} (hm : μ q = some (.inr (19, [.int x9]))) : PM g yX16_init (ws_ yX16_init cX16_init 2 none) d 0 0 [.ref q, .int a9] μ (rQ none (mset μ q (.inr (19, [.int a9])))) := by
  refine PM.of (by decide +kernel) (Nat.le_of_ble_eq_true rfl) ?_
  refine PJ.ok (fun G => ?_)
  show PJ g _ _ _ _ d 0 0 0 [(0, .ref q), (1, .int a9)] [] _ _
  refine pl_aload_n (pc := 0) dX16_init_0 rfl rfl ?_
  refine pl_callINv (pc := 1) (As := []) (C1 := 0) (N1 := 0) (C2 := 0) (N2 := 0) mdX5_init rfl q1809 q577 q149 dX16_init_1 rfl rfl (Nat.le_of_ble_eq_true rfl) (k_X5_init (d := d - 1) (by omega)) (by omega) (by omega) (by omega) ?_
  refine pl_aload_n (pc := 4) dX16_init_4 rfl rfl ?_
  refine pl_iload_n (pc := 5) dX16_init_5 rfl rfl ?_
  refine pj_putfF (pc := 6) ckX17 0 q1810 dX16_init_6 (by decide) rfl rfl rfl hm rfl rfl (Nat.le_of_ble_eq_true rfl) ?_
  refine pj_vret (pc := 9) dX16_init_9 rfl ?_
  exact ⟨rfl, rfl⟩
set_option maxHeartbeats 600000 in
theorem k_X17_init {g : GP} {μ : Mem} {d : Nat} (hd : 4 ≤ d) {q : Nat} {a9 x9 : Int32} (hm : μ q = some (.inr (19, [.int x9]))) : PM g yX17_init (ws_ yX17_init cX17_init 2 none) d 0 0 [.ref q, .int a9] μ (rQ none (mset μ q (.inr (19, [.int a9])))) := by
  refine PM.of (by decide +kernel) (Nat.le_of_ble_eq_true rfl) ?_
  refine PJ.ok (fun G => ?_)
  show PJ g _ _ _ _ d 0 0 0 [(0, .ref q), (1, .int a9)] [] _ _
  refine pl_aload_n (pc := 0) dX17_init_0 rfl rfl ?_
  refine pl_iload_n (pc := 1) dX17_init_1 rfl rfl ?_
  refine pl_callIv (pc := 2) (As := [_]) (C1 := 0) (N1 := 0) (C2 := 0) (N2 := 0) mdX16_init rfl q1826 q1807 q165 dX17_init_2 rfl rfl (Nat.le_of_ble_eq_true rfl) (k_X16_init_s (d := d - 1) (by omega) hm) (by omega) (by omega) (by omega) ?_
  refine pj_vret (pc := 5) dX17_init_5 rfl ?_
  exact ⟨rfl, rfl⟩
set_option maxHeartbeats 600000 in
theorem k_X6_init {g : GP} {μ : Mem} {d : Nat} (hd : 1 ≤ d) {q : Nat}  : PM g yX6_init (ws_ yX6_init cX6_init 1 none) d 0 0 [.ref q] μ (rQ none μ) := by
  refine PM.of (by decide +kernel) (Nat.le_of_ble_eq_true rfl) ?_
  refine PJ.ok (fun G => ?_)
  show PJ g _ _ _ _ d 0 0 0 [(0, .ref q)] [] _ _
  refine pl_aload_n (pc := 0) dX6_init_0 rfl rfl ?_
  refine pj_objInit (pc := 1) q586 q187 q188 dX6_init_1 (by omega) (by decide) ?_
  refine pj_vret (pc := 4) dX6_init_4 rfl ?_
  exact ⟨rfl, rfl⟩
set_option maxHeartbeats 600000 in
theorem k_X8_init {g : GP} {μ : Mem} {d : Nat} (hd : 1 ≤ d) {q : Nat}  : PM g yX8_init (ws_ yX8_init cX8_init 1 none) d 0 0 [.ref q] μ (rQ none μ) := by
  refine PM.of (by decide +kernel) (Nat.le_of_ble_eq_true rfl) ?_
  refine PJ.ok (fun G => ?_)
  show PJ g _ _ _ _ d 0 0 0 [(0, .ref q)] [] _ _
  refine pl_aload_n (pc := 0) dX8_init_0 rfl rfl ?_
  refine pj_objInit (pc := 1) q625 q187 q188 dX8_init_1 (by omega) (by decide) ?_
  refine pj_vret (pc := 4) dX8_init_4 rfl ?_
  exact ⟨rfl, rfl⟩
set_option maxHeartbeats 600000 in
theorem k_X21_init {g : GP} {μ : Mem} {d : Nat} (hd : 1 ≤ d) {q : Nat}  : PM g yX21_init (ws_ yX21_init cX21_init 1 none) d 0 0 [.ref q] μ (rQ none μ) := by
  refine PM.of (by decide +kernel) (Nat.le_of_ble_eq_true rfl) ?_
  refine PJ.ok (fun G => ?_)
  show PJ g _ _ _ _ d 0 0 0 [(0, .ref q)] [] _ _
  refine pl_aload_n (pc := 0) dX21_init_0 rfl rfl ?_
  refine pj_objInit (pc := 1) q2074 q187 q188 dX21_init_1 (by omega) (by decide) ?_
  refine pj_vret (pc := 4) dX21_init_4 rfl ?_
  exact ⟨rfl, rfl⟩
set_option maxHeartbeats 600000 in
theorem k_X10_init {g : GP} {μ : Mem} {d : Nat} (hd : 1 ≤ d) {q : Nat} {a9 b9 c9 : Int32} {f : Nat → Int32} (hm : μ q = some (pO f)) : PM g yX10_init (ws_ yX10_init cX10_init 4 none) d 0 0 [.ref q, .int a9, .int b9, .int c9] μ (rQ none (mset μ q (.inr (12, [.int a9, .int b9, .int c9, .int (f 3), .int (-1), .int (f 5), .int (f 6), .int (-1), .int (f 8), .int (-1)])))) := by
  refine PM.of (by decide +kernel) (Nat.le_of_ble_eq_true rfl) ?_
  refine PJ.ok (fun G => ?_)
  show PJ g _ _ _ _ d 0 0 0 [(0, .ref q), (1, .int a9), (2, .int b9), (3, .int c9)] [] _ _
  refine pl_aload_n (pc := 0) dX10_init_0 rfl rfl ?_
  refine pj_objInit (pc := 1) q1063 q187 q188 dX10_init_1 (by omega) (by decide) ?_
  refine pl_aload_n (pc := 4) dX10_init_4 rfl rfl ?_
  refine pj_iconst (pc := 5) (v := (-1)) dX10_init_5 (by rfl) ?_
  refine pj_putf (pc := 6) ckX10 4 q1076 dX10_init_6 (by decide) rfl hm rfl rfl (Nat.le_of_ble_eq_true rfl) ?_
  refine pl_aload_n (pc := 9) dX10_init_9 rfl rfl ?_
  refine pj_iconst (pc := 10) (v := (-1)) dX10_init_10 (by rfl) ?_
  refine pj_putf (pc := 11) ckX10 7 q1085 dX10_init_11 (by decide) rfl mset_s rfl rfl (Nat.le_of_ble_eq_true rfl) ?_
  refine PJ.mem mset_m ?_
  refine pl_aload_n (pc := 14) dX10_init_14 rfl rfl ?_
  refine pj_iconst (pc := 15) (v := (-1)) dX10_init_15 (by rfl) ?_
  refine pj_putf (pc := 16) ckX10 9 q1090 dX10_init_16 (by decide) rfl mset_s rfl rfl (Nat.le_of_ble_eq_true rfl) ?_
  refine PJ.mem mset_m ?_
  refine pl_aload_n (pc := 19) dX10_init_19 rfl rfl ?_
  refine pl_iload_n (pc := 20) dX10_init_20 rfl rfl ?_
  refine pj_putfF (pc := 21) ckX10 0 q1064 dX10_init_21 (by decide) rfl rfl rfl mset_s rfl rfl (Nat.le_of_ble_eq_true rfl) ?_
  refine PJ.mem mset_m ?_
  refine pl_aload_n (pc := 24) dX10_init_24 rfl rfl ?_
  refine pl_iload_n (pc := 25) dX10_init_25 rfl rfl ?_
  refine pj_putfF (pc := 26) ckX10 1 q1067 dX10_init_26 (by decide) rfl rfl rfl mset_s rfl rfl (Nat.le_of_ble_eq_true rfl) ?_
  refine PJ.mem mset_m ?_
  refine pl_aload_n (pc := 29) dX10_init_29 rfl rfl ?_
  refine pl_iload_n (pc := 30) dX10_init_30 rfl rfl ?_
  refine pj_putf (pc := 31) ckX10 2 q1070 dX10_init_31 (by decide) rfl mset_s rfl rfl (Nat.le_of_ble_eq_true rfl) ?_
  refine PJ.mem mset_m ?_
  refine pj_vret (pc := 34) dX10_init_34 rfl ?_
  exact ⟨rfl, rfl⟩
set_option maxHeartbeats 600000 in
theorem k_X13_init {g : GP} {μ : Mem} {d : Nat} (hd : 1 ≤ d) {q : Nat} {a9 b9 : Int32} {f : Nat → Int32} (hm : μ q = some (biO f)) : PM g yX13_init (ws_ yX13_init cX13_init 3 none) d 0 0 [.ref q, .int a9, .int b9] μ (rQ none (mset μ q (.inr (15, [.int a9, .int b9, .int (f 2), .int (f 3)])))) := by
  refine PM.of (by decide +kernel) (Nat.le_of_ble_eq_true rfl) ?_
  refine PJ.ok (fun G => ?_)
  show PJ g _ _ _ _ d 0 0 0 [(0, .ref q), (1, .int a9), (2, .int b9)] [] _ _
  refine pl_aload_n (pc := 0) dX13_init_0 rfl rfl ?_
  refine pj_objInit (pc := 1) q1542 q187 q188 dX13_init_1 (by omega) (by decide) ?_
  refine pl_aload_n (pc := 4) dX13_init_4 rfl rfl ?_
  refine pl_iload_n (pc := 5) dX13_init_5 rfl rfl ?_
  refine pj_putfF (pc := 6) ckX13 0 q1543 dX13_init_6 (by decide) rfl rfl rfl hm rfl rfl (Nat.le_of_ble_eq_true rfl) ?_
  refine pl_aload_n (pc := 9) dX13_init_9 rfl rfl ?_
  refine pl_iload_n (pc := 10) dX13_init_10 rfl rfl ?_
  refine pj_putfF (pc := 11) ckX13 1 q1545 dX13_init_11 (by decide) rfl rfl rfl mset_s rfl rfl (Nat.le_of_ble_eq_true rfl) ?_
  refine PJ.mem mset_m ?_
  refine pj_vret (pc := 14) dX13_init_14 rfl ?_
  exact ⟨rfl, rfl⟩
