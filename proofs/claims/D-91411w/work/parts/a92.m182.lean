set_option maxRecDepth 100000
/-- a byte as the class sees it -/
def sB (b : Nat) : Int32 := if b < 128 then nI b else nI b - nI 256
theorem sB_neg : ∀ b, b < 256 → ¬ b < 128 → sB b < 0 := by decide +kernel
theorem sB_eq (b : Nat) (hb : b < 256) (c : Nat) (hc : c < 128) : sB b = nI c ↔ b = c := by
  by_cases h : b < 128
  · rw [show sB b = nI b from if_pos h]
    exact nI_eq (by omega) (by omega)
  · have h1 := sB_neg b hb h
    exact ⟨fun z => absurd (z ▸ h1) (Int32.not_lt.mpr (nI_pos' (by omega))), fun z => by omega⟩
/-- the class's text: its first n bytes are B's -/
def TxR (r : Nat → Int32) (n : Nat) (B : Nat → Nat) : Prop := n ≤ 300 ∧ (∀ k, k < n → r k = sB (B k)) ∧ (∀ k, B k < 256) ∧ ∀ k, n ≤ k → B k = 0
def rdO (t n p o : Nat) : va_E := .inr (20, [.ref t, .int (nI n), .int (nI p), .int (nI o)])
/-- the reader stands at p, o are open; all else is as it was -/
def RdS (μ0 : Mem) (rd t n p o : Nat) (M : Mem) : Prop := M rd = some (rdO t n p o) ∧ ∀ x, x ≠ rd → M x = μ0 x
theorem RdS.rf {μ : Mem} {rd t n p o : Nat} (h : μ rd = some (rdO t n p o)) : RdS μ rd t n p o μ := ⟨h, fun _ _ => rfl⟩
theorem RdS.put {μ0 M : Mem} {rd t n p o p1 o1 : Nat} (h : RdS μ0 rd t n p o M) : RdS μ0 rd t n p1 o1 (mset M rd (rdO t n p1 o1)) := ⟨mset_s, fun x hx => (mset_n hx).trans (h.2 x hx)⟩
theorem RdS.tr {μ0 M M1 : Mem} {rd t n p o p1 o1 : Nat} (h : RdS μ0 rd t n p o M) (k : RdS M rd t n p1 o1 M1) : RdS μ0 rd t n p1 o1 M1 := ⟨k.1, fun x hx => (k.2 x hx).trans (h.2 x hx)⟩
theorem sk_stop {B : Nat → Nat} {n i : Nat} (h : n ≤ i ∨ B i ≠ 32) : sk B n i = i := by
  unfold sk
  by_cases z : n ≤ i
  · rw [Nat.sub_eq_zero_of_le z]
    rfl
  · obtain ⟨f, hf⟩ : ∃ f, n - i = f + 1 := ⟨n - i - 1, by omega⟩
    rw [hf]
    simp only [skF]
    rw [if_neg (h.resolve_left z)]
theorem sk_step {B : Nat → Nat} {n i : Nat} (h : i < n) (h2 : B i = 32) : sk B n i = sk B n (i + 1) := by
  unfold sk
  obtain ⟨f, hf⟩ : ∃ f, n - i = f + 1 := ⟨n - i - 1, by omega⟩
  rw [hf, show n - (i + 1) = f by omega]
  simp only [skF]
  rw [if_pos h2]
set_option maxHeartbeats 600000 in
theorem x_X18_sign {g : GP} {μ : Mem} {d : Nat} {rd t n p o : Nat} {r : Nat → Int32} {B : Nat → Nat} (hd : 1 ≤ d) (h0 : μ rd = some (rdO t n p o)) (ht : μ t = some (intX g 2 300 r)) (htr : t ≠ rd) (tx : TxR r n B) (hp : p ≤ n)  : PM g yX18_sign (ws_ yX18_sign cX18_sign 1 (some .int)) d 0 0 [.ref rd] μ (WQ (some (.int (sB (B (sk B n p))))) (RdS μ rd t n (sk B n p) o)) := by
  refine PM.of (by decide +kernel) (Nat.le_of_ble_eq_true rfl) ?_
  refine PJ.ok (fun G => ?_)
  show PJ g _ _ _ _ d 0 0 0 [(0, .ref rd)] [] _ _
  have h := RdS.rf h0
  have hn3 := tx.1
  refine ind_dn (n := n) (P := fun i => ∀ M9, RdS μ rd t n i o M9 → sk B n i = sk B n p → PJ g _ _ _ _ d 0 0 0 [(0, .ref rd)] [] M9 _) (fun i hi ih M9 h9 hs => ?_) p hp _ h rfl
  refine pl_aload_n (pc := 0) dX18_sign_0 rfl rfl ?_
  refine pj_getf (pc := 1) ckX18 2 q1863 dX18_sign_1 (by decide) (h9.1) rfl ?_
  refine pl_aload_n (pc := 4) dX18_sign_4 rfl rfl ?_
  refine pj_getf (pc := 5) ckX18 1 q1862 dX18_sign_5 (by decide) (h9.1) rfl ?_
  refine pl_icmp_ge (pc := 8) (tgt := 38) dX18_sign_8 (by decide) (by omega) (by omega) (fun c8 => ?_) (fun c8 => ?_)
  · refine pl_aload_n (pc := 38) dX18_sign_38 rfl rfl ?_
    refine pj_getf (pc := 39) ckX18 2 q1863 dX18_sign_39 (by decide) (h9.1) rfl ?_
    refine pl_aload_n (pc := 42) dX18_sign_42 rfl rfl ?_
    refine pj_getf (pc := 43) ckX18 1 q1862 dX18_sign_43 (by decide) (h9.1) rfl ?_
    refine pl_icmp_ge (pc := 46) (tgt := 61) dX18_sign_46 (by decide) (by omega) (by omega) (fun c46 => ?_) (fun c46 => ?_)
    · refine pl_iconst (pc := 61) (v := 0) dX18_sign_61 (by rfl) ?_
      refine pj_iret (pc := 62) dX18_sign_62 rfl ?_
      have ei : sk B n p = i := hs.symm.trans (sk_stop (Or.inl (by omega)))
      rw [ei]
      have e0 : B i = 0 := tx.2.2.2 i (by omega)
      rw [e0]
      exact ⟨rfl, h9⟩
    · refine pl_aload_n (pc := 49) dX18_sign_49 rfl rfl ?_
      refine pj_getf (pc := 50) ckX18 0 q1861 dX18_sign_50 (by decide) (h9.1) rfl ?_
      refine pl_aload_n (pc := 53) dX18_sign_53 rfl rfl ?_
      refine pj_getf (pc := 54) ckX18 2 q1863 dX18_sign_54 (by decide) (h9.1) rfl ?_
      refine pl_bald (pc := 57) (n := 300) dX18_sign_57 ((h9.2 t htr).trans ht) (by omega) (by decide) ?_
      refine PJ.top (y := sB (B i)) (tx.2.1 _ (by omega)) ?_
      refine pj_goto (pc := 58) (tgt := 62) dX18_sign_58 (by decide) ?_
      refine pj_iret (pc := 62) dX18_sign_62 rfl ?_
      exfalso
      omega
  · refine pl_aload_n (pc := 11) dX18_sign_11 rfl rfl ?_
    refine pj_getf (pc := 12) ckX18 0 q1861 dX18_sign_12 (by decide) (h9.1) rfl ?_
    refine pl_aload_n (pc := 15) dX18_sign_15 rfl rfl ?_
    refine pj_getf (pc := 16) ckX18 2 q1863 dX18_sign_16 (by decide) (h9.1) rfl ?_
    refine pl_bald (pc := 19) (n := 300) dX18_sign_19 ((h9.2 t htr).trans ht) (by omega) (by decide) ?_
    refine PJ.top (y := sB (B i)) (tx.2.1 _ (by omega)) ?_
    refine pl_bipush (pc := 20) (v := 32) dX18_sign_20 (by rfl) ?_
    refine pj_icmp_ne (pc := 22) (tgt := 38) dX18_sign_22 (by decide) (fun c22 => ?_) (fun c22 => ?_)
    · refine pl_aload_n (pc := 38) dX18_sign_38 rfl rfl ?_
      refine pj_getf (pc := 39) ckX18 2 q1863 dX18_sign_39 (by decide) (h9.1) rfl ?_
      refine pl_aload_n (pc := 42) dX18_sign_42 rfl rfl ?_
      refine pj_getf (pc := 43) ckX18 1 q1862 dX18_sign_43 (by decide) (h9.1) rfl ?_
      refine pl_icmp_ge (pc := 46) (tgt := 61) dX18_sign_46 (by decide) (by omega) (by omega) (fun c46 => ?_) (fun c46 => ?_)
      · refine pl_iconst (pc := 61) (v := 0) dX18_sign_61 (by rfl) ?_
        refine pj_iret (pc := 62) dX18_sign_62 rfl ?_
        exfalso
        omega
      · refine pl_aload_n (pc := 49) dX18_sign_49 rfl rfl ?_
        refine pj_getf (pc := 50) ckX18 0 q1861 dX18_sign_50 (by decide) (h9.1) rfl ?_
        refine pl_aload_n (pc := 53) dX18_sign_53 rfl rfl ?_
        refine pj_getf (pc := 54) ckX18 2 q1863 dX18_sign_54 (by decide) (h9.1) rfl ?_
        refine pl_bald (pc := 57) (n := 300) dX18_sign_57 ((h9.2 t htr).trans ht) (by omega) (by decide) ?_
        refine PJ.top (y := sB (B i)) (tx.2.1 _ (by omega)) ?_
        refine pj_goto (pc := 58) (tgt := 62) dX18_sign_58 (by decide) ?_
        refine pj_iret (pc := 62) dX18_sign_62 rfl ?_
        have ei : sk B n p = i := hs.symm.trans (sk_stop (Or.inr (fun z => c22 ((sB_eq _ (tx.2.2.1 i) 32 (by decide)).mpr z))))
        rw [ei]
        exact ⟨rfl, h9⟩
    · refine pl_aload_n (pc := 25) dX18_sign_25 rfl rfl ?_
      refine pj_dup (pc := 26) dX18_sign_26 rfl ?_
      refine pj_getf (pc := 27) ckX18 2 q1863 dX18_sign_27 (by decide) (h9.1) rfl ?_
      refine pl_iconst (pc := 30) (v := 1) dX18_sign_30 (by rfl) ?_
      refine pl_iadd (pc := 31) dX18_sign_31 ?_
      refine pj_putf (pc := 32) ckX18 2 q1863 dX18_sign_32 (by decide) rfl h9.1 rfl rfl (Nat.le_of_ble_eq_true rfl) ?_
      refine sxg (T := RdS μ rd t n (i + 1) o) (RdS.put (p1 := (i + 1)) (o1 := o) h9) (fun My1 y1 => ?_)
      refine pj_goto (pc := 35) (tgt := 0) dX18_sign_35 (by decide) ?_
      exact ih (by omega) _ y1 (by rw [← hs]; exact (sk_step (by omega) ((sB_eq _ (tx.2.2.1 i) 32 (by decide)).mp c22)).symm)
