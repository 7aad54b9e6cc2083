set_option maxRecDepth 100000
/-- a party's cell: pace at many, its queue -/
def paO (f : Nat → Int32) (q : Nat) : va_E := .inr (13, [.int (f 0), .int (f 1), .int (f 2), .ref q])
def intA (g : GP) (n : Nat) (u : Nat → Int32) : va_E := .inl (gA g 0, n, .inl u)
theorem ne_oa {g : GP} {μ : Mem} {a b ci t n : Nat} {fs : List Value} {x : vp_A} (h : μ a = some (.inr (ci, fs))) (h2 : μ b = some (.inl (gA g t, x))) : a ≠ b := fun z => by
  rw [z, h2] at h
  cases h
set_option maxHeartbeats 600000 in
theorem k_X11_passes {g : GP} {μ : Mem} {d : Nat} (hd : 1 ≤ d) {a q k : Nat} {f u : Nat → Int32} (h : μ a = some (paO f q)) (hq : μ q = some (intA g 12 u)) (hk : f 2 = nI (k + 1)) (hk12 : k < 12) : PM g yX11_passes (ws_ yX11_passes cX11_passes 1 none) d 0 0 [.ref a] μ (rQ none (mset (mset μ a (paO (upd f 2 (nI k)) q)) q (intA g 12 (va_cpy u u 1 0 k)))) := by
  refine PM.of (by decide +kernel) (Nat.le_of_ble_eq_true rfl) ?_
  refine PJ.ok (fun G => ?_)
  show PJ g _ _ _ _ d 0 0 0 [(0, .ref a)] [] _ _
  refine pl_aload_n (pc := 0) dX11_passes_0 rfl rfl ?_
  refine pj_dup (pc := 1) dX11_passes_1 rfl ?_
  refine pj_getf (pc := 2) ckX11 2 q1433 dX11_passes_2 (by decide) h rfl ?_
  refine PJ.top (y := nI (k + 1)) hk ?_
  refine pl_iconst (pc := 5) (v := 1) dX11_passes_5 (by rfl) ?_
  refine pl_isub (pc := 6) dX11_passes_6 (by omega) ?_
  refine pj_putf (pc := 7) ckX11 2 q1433 dX11_passes_7 (by decide) rfl h rfl rfl (Nat.le_of_ble_eq_true rfl) ?_
  have h1 : (mset μ a (paO (upd f 2 (nI k)) q)) a = some (paO (upd f 2 (nI k)) q) := mset_s
  have hq1 : (mset μ a (paO (upd f 2 (nI k)) q)) q = some (intA g 12 u) := by rw [mset_n (ne_oa (n := 0) h hq).symm]; exact hq
  refine PJ.conv rfl rfl (show _ = mset μ a (paO (upd f 2 (nI k)) q) from rfl) ?_
  refine pl_aload_n (pc := 10) dX11_passes_10 rfl rfl ?_
  refine pj_getf (pc := 11) ckX11 3 q1436 dX11_passes_11 (by decide) h1 rfl ?_
  refine pl_iconst (pc := 14) (v := 1) dX11_passes_14 (by rfl) ?_
  refine pl_aload_n (pc := 15) dX11_passes_15 rfl rfl ?_
  refine pj_getf (pc := 16) ckX11 3 q1436 dX11_passes_16 (by decide) h1 rfl ?_
  refine pl_iconst (pc := 19) (v := 0) dX11_passes_19 (by rfl) ?_
  refine pl_aload_n (pc := 20) dX11_passes_20 rfl rfl ?_
  refine pj_getf (pc := 21) ckX11 2 q1433 dX11_passes_21 (by decide) h1 rfl ?_
  refine PJ.top (y := nI k) rfl ?_
  refine pj_copyi (pc := 24) 0 q1489 dX11_passes_24 hq1 hq1 rfl rfl (sp := 1) (dp := 0) (k := k) (by omega) (by omega) (by decide) (by decide) (fun _ _ => rfl) (by omega) (Nat.le_of_ble_eq_true rfl) ?_
  refine pj_vret (pc := 27) dX11_passes_27 rfl ?_
  exact ⟨rfl, rfl⟩
