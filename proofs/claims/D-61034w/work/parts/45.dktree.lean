/-! TransletDesk's tree: its methods over a tree (n, row, d) -/
set_option maxRecDepth 100000
/-- the tree as TransletDesk has it -/
def DT (n : Nat) (row d nm : Nat → Nat) (vl : Nat → Int32) (σ : dS) : Prop :=
  σ 6 0 = nI n ∧ σ 5 0 = (if n = 0 then -1 else nI (row 0)) ∧ PT n row d σ ∧ (0 < n → σ 2 (row 0) = -1 ∧ σ 4 (row 0) = -1) ∧ (∀ i, i < n → σ 0 (row i) = nI (nm (row i)) ∧ nm (row i) < 6 ∧ σ 1 (row i) = vl (row i)) ∧ (∀ k, k < 24 → (∀ i, i < n → row i ≠ k) → σ 0 k = -1)
def WT (n : Nat) (row d : Nat → Nat) : Prop := rw24 n row ∧ wfT n d
theorem DT_sm {n : Nat} {row d nm : Nat → Nat} {vl : Nat → Int32} {σ σ' : dS} (h : DT n row d nm vl σ) (e0 : σ' 0 = σ 0) (e1 : σ' 1 = σ 1) (e2 : σ' 2 = σ 2) (e3 : σ' 3 = σ 3) (e4 : σ' 4 = σ 4) (e5 : σ' 5 = σ 5) (e6 : σ' 6 = σ 6) : DT n row d nm vl σ' := by
  unfold DT PT at *
  rw [e0, e1, e2, e3, e4, e5, e6]; exact h
theorem DT_sm' {n : Nat} {row d nm : Nat → Nat} {vl : Nat → Int32} {σ σ' : dS} {l : List Nat} (h : DT n row d nm vl σ) (hs : sm l σ σ') (hl : ∀ i, i ∈ l → 7 ≤ i) : DT n row d nm vl σ' := by
  have key : ∀ i, i < 7 → σ' i = σ i := fun i hi => hs i (fun g => by have := hl i g; omega)
  exact DT_sm h (key 0 (by omega)) (key 1 (by omega)) (key 2 (by omega)) (key 3 (by omega)) (key 4 (by omega)) (key 5 (by omega)) (key 6 (by omega))
theorem row_cut (n : Nat) (row : Nat → Nat) (v : Int32) : (∃ i, i < n ∧ v = nI (row i)) ∨ (∀ i, i < n → v ≠ nI (row i)) := by
  by_cases h : ∃ i, i < n ∧ v = nI (row i)
  · exact Or.inl h
  · exact Or.inr (fun i hi e => h ⟨i, hi, e⟩)
section
variable {n : Nat} {row d nm : Nat → Nat} {vl : Nat → Int32} {σ : dS}
theorem dk_isNode_y (hw : WT n row d) (h : DT n row d nm vl σ) {i : Nat} (hi : i < n) : dk_isNode (nI (row i)) σ = some (1, σ) := by
  have h1 := hw.1.2.1 i hi
  obtain ⟨e1, e2, e3⟩ := h.2.2.2.2.1 i hi
  apply eq_of_wq
  unfold dk_isNode dk_isNode_b0
  simp (disch := omega) only [l_2, l_3, l_4, l_5, l_6, l_7, l_8, l_9, l_10, l_11, l_12, l_13, l_14, l_15, l_16, l_17, l_23, l_24, l_40, l_100, l_320, l_383, nI_add, pk_mul, z_sub, z_lt0, z_ge0, z_e0, z_le0, z_gt0, z_lt, z_le, z_eq, z_cl, z_in, z_m1lt, z_m1ge, z_nm1, z_m1n, n1_add, n1_ad2, n1_sub, n1_eq, n1_eq', n1_le, n1_ge, n1_lt, n1_gt, z_10, z_01, z_0lt, z_0ge, z_0c, z_0in, z_0a, z_a0, z_01a, bI_f, bI_f0, t0f, t1f, cl_f, wq_some, wq_ite, wq_chk, wq_zok, wq_bind, wq_lpB, ks_l, ks_r, up2_s, up2_n, u_e, u_n]
  refine ⟨fun g => g.elim, fun _ => ⟨fun g => by omega, fun _ => ⟨h1, ?_⟩⟩⟩
  rw [e1]
  simp (disch := omega) only [l_2, l_3, l_4, l_5, l_6, l_7, l_8, l_9, l_10, l_11, l_12, l_13, l_14, l_15, l_16, l_17, l_23, l_24, l_40, l_100, l_320, l_383, nI_add, pk_mul, z_sub, z_lt0, z_ge0, z_e0, z_le0, z_gt0, z_lt, z_le, z_eq, z_cl, z_in, z_m1lt, z_m1ge, z_nm1, z_m1n, n1_add, n1_ad2, n1_sub, n1_eq, n1_eq', n1_le, n1_ge, n1_lt, n1_gt, z_10, z_01, z_0lt, z_0ge, z_0c, z_0in, z_0a, z_a0, z_01a, bI_f, bI_f0, t0f, t1f, cl_f, wq_some, wq_ite, wq_chk, wq_zok, wq_bind, wq_lpB, ks_l, ks_r, up2_s, up2_n, u_e, u_n]
  exact ⟨fun g => g.elim, fun _ => trivial⟩
theorem dk_isNode_n (h : DT n row d nm vl σ) {v : Int32} (hv : ∀ i, i < n → v ≠ nI (row i)) : dk_isNode v σ = some (0, σ) := by
  unfold dk_isNode dk_isNode_b0
  rcases z_cut v (n := 24) (by omega) with g | g | ⟨j, g1, g2⟩
  · rw [if_pos g]
  · have g2 : ¬ v < 0 := by
      rw [z_nlt', Int32.le_iff_toInt_le]
      rw [Int32.le_iff_toInt_le, z_toInt (by omega)] at g
      have : (0 : Int32).toInt = 0 := by decide
      omega
    rw [if_neg g2, if_pos (show (24 : Int32) ≤ v from g)]
  · subst g2
    have := h.2.2.2.2.2 j g1 (fun i hi e => hv i hi (by rw [e]))
    apply eq_of_wq
    simp (disch := omega) only [l_2, l_3, l_4, l_5, l_6, l_7, l_8, l_9, l_10, l_11, l_12, l_13, l_14, l_15, l_16, l_17, l_23, l_24, l_40, l_100, l_320, l_383, nI_add, pk_mul, z_sub, z_lt0, z_ge0, z_e0, z_le0, z_gt0, z_lt, z_le, z_eq, z_cl, z_in, z_m1lt, z_m1ge, z_nm1, z_m1n, n1_add, n1_ad2, n1_sub, n1_eq, n1_eq', n1_le, n1_ge, n1_lt, n1_gt, z_10, z_01, z_0lt, z_0ge, z_0c, z_0in, z_0a, z_a0, z_01a, bI_f, bI_f0, t0f, t1f, cl_f, wq_some, wq_ite, wq_chk, wq_zok, wq_bind, wq_lpB, ks_l, ks_r, up2_s, up2_n, u_e, u_n]
    refine ⟨fun g => g.elim, fun _ => ⟨fun g => by omega, fun _ => ⟨g1, ?_⟩⟩⟩
    rw [this]
    simp (disch := omega) only [l_2, l_3, l_4, l_5, l_6, l_7, l_8, l_9, l_10, l_11, l_12, l_13, l_14, l_15, l_16, l_17, l_23, l_24, l_40, l_100, l_320, l_383, nI_add, pk_mul, z_sub, z_lt0, z_ge0, z_e0, z_le0, z_gt0, z_lt, z_le, z_eq, z_cl, z_in, z_m1lt, z_m1ge, z_nm1, z_m1n, n1_add, n1_ad2, n1_sub, n1_eq, n1_eq', n1_le, n1_ge, n1_lt, n1_gt, z_10, z_01, z_0lt, z_0ge, z_0c, z_0in, z_0a, z_a0, z_01a, bI_f, bI_f0, t0f, t1f, cl_f, wq_some, wq_ite, wq_chk, wq_zok, wq_bind, wq_lpB, ks_l, ks_r, up2_s, up2_n, u_e, u_n]
    exact ⟨fun _ => trivial, fun g => (g trivial).elim⟩
theorem dk_changed_lp : ∀ (f k : Nat) (σ0 σ : dS), k + f = 8 → (∀ s, s < k → σ 25 s = 0) → sm [15, 33, 25] σ0 σ → σ 15 0 = 0 → σ 33 0 = 0 → wq (lp dk_changed_st (12, [nI k], σ)) (fun r => sm [15, 33, 25] σ0 r.2 ∧ r.2 15 0 = 0 ∧ r.2 33 0 = 0 ∧ ∀ s, s < 8 → r.2 25 s = 0) := by
  intro f
  induction f with
  | zero =>
    intro k σ0 σ hk h1 h2 h3 h4
    rw [dk_changed_l12]; unfold dk_changed_b12
    simp (disch := omega) only [l_2, l_3, l_4, l_5, l_6, l_7, l_8, l_9, l_10, l_11, l_12, l_13, l_14, l_15, l_16, l_17, l_23, l_24, l_40, l_100, l_320, l_383, nI_add, pk_mul, z_sub, z_lt0, z_ge0, z_e0, z_le0, z_gt0, z_lt, z_le, z_eq, z_cl, z_in, z_m1lt, z_m1ge, z_nm1, z_m1n, n1_add, n1_ad2, n1_sub, n1_eq, n1_eq', n1_le, n1_ge, n1_lt, n1_gt, z_10, z_01, z_0lt, z_0ge, z_0c, z_0in, z_0a, z_a0, z_01a, bI_f, bI_f0, t0f, t1f, cl_f, wq_some, wq_ite, wq_chk, wq_zok, wq_bind, wq_lpB, ks_l, ks_r, up2_s, up2_n, u_e, u_n]
    exact ⟨fun _ => ⟨h2, h3, h4, fun s hs => h1 s (by omega)⟩, fun g => by omega⟩
  | succ f ih =>
    intro k σ0 σ hk h1 h2 h3 h4
    rw [dk_changed_l12]; unfold dk_changed_b12
    simp (disch := omega) only [l_2, l_3, l_4, l_5, l_6, l_7, l_8, l_9, l_10, l_11, l_12, l_13, l_14, l_15, l_16, l_17, l_23, l_24, l_40, l_100, l_320, l_383, nI_add, pk_mul, z_sub, z_lt0, z_ge0, z_e0, z_le0, z_gt0, z_lt, z_le, z_eq, z_cl, z_in, z_m1lt, z_m1ge, z_nm1, z_m1n, n1_add, n1_ad2, n1_sub, n1_eq, n1_eq', n1_le, n1_ge, n1_lt, n1_gt, z_10, z_01, z_0lt, z_0ge, z_0c, z_0in, z_0a, z_a0, z_01a, bI_f, bI_f0, t0f, t1f, cl_f, wq_some, wq_ite, wq_chk, wq_zok, wq_bind, wq_lpB, ks_l, ks_r, up2_s, up2_n, u_e, u_n]
    refine ⟨fun g => by omega, fun _ => ⟨by omega, ih (k + 1) σ0 _ (by omega) (fun s hs => ?_) (sm_up (by decide) h2) ?_ ?_⟩⟩
    · rw [z_nz0, up2_s]
      by_cases e : s = k
      · rw [e, u_e]
      · rw [u_n e]; exact h1 s (by omega)
    · rw [up2_n (by decide)]; exact h3
    · rw [up2_n (by decide)]; exact h4
theorem dk_changed_sp (σ : dS) : wq (dk_changed σ) (fun r => sm [15, 33, 25] σ r.2 ∧ r.2 15 0 = 0 ∧ r.2 33 0 = 0 ∧ ∀ s, s < 8 → r.2 25 s = 0) := by
  unfold dk_changed dk_changed_b0 dk_changed_b5 dk_changed_b10
  simp (disch := omega) only [l_2, l_3, l_4, l_5, l_6, l_7, l_8, l_9, l_10, l_11, l_12, l_13, l_14, l_15, l_16, l_17, l_23, l_24, l_40, l_100, l_320, l_383, nI_add, pk_mul, z_sub, z_lt0, z_ge0, z_e0, z_le0, z_gt0, z_lt, z_le, z_eq, z_cl, z_in, z_m1lt, z_m1ge, z_nm1, z_m1n, n1_add, n1_ad2, n1_sub, n1_eq, n1_eq', n1_le, n1_ge, n1_lt, n1_gt, z_10, z_01, z_0lt, z_0ge, z_0c, z_0in, z_0a, z_a0, z_01a, bI_f, bI_f0, t0f, t1f, cl_f, wq_some, wq_ite, wq_chk, wq_zok, wq_bind, wq_lpB, ks_l, ks_r, up2_s, up2_n, u_e, u_n]
  refine dk_changed_lp 8 0 σ _ (by omega) (fun s hs => by omega) (sm_up (by decide) (sm_up (by decide) sm_rf)) ?_ ?_
  · simp (disch := omega) only [l_2, l_3, l_4, l_5, l_6, l_7, l_8, l_9, l_10, l_11, l_12, l_13, l_14, l_15, l_16, l_17, l_23, l_24, l_40, l_100, l_320, l_383, nI_add, pk_mul, z_sub, z_lt0, z_ge0, z_e0, z_le0, z_gt0, z_lt, z_le, z_eq, z_cl, z_in, z_m1lt, z_m1ge, z_nm1, z_m1n, n1_add, n1_ad2, n1_sub, n1_eq, n1_eq', n1_le, n1_ge, n1_lt, n1_gt, z_10, z_01, z_0lt, z_0ge, z_0c, z_0in, z_0a, z_a0, z_01a, bI_f, bI_f0, t0f, t1f, cl_f, wq_some, wq_ite, wq_chk, wq_zok, wq_bind, wq_lpB, ks_l, ks_r, up2_s, up2_n, u_e, u_n]
  · simp (disch := omega) only [l_2, l_3, l_4, l_5, l_6, l_7, l_8, l_9, l_10, l_11, l_12, l_13, l_14, l_15, l_16, l_17, l_23, l_24, l_40, l_100, l_320, l_383, nI_add, pk_mul, z_sub, z_lt0, z_ge0, z_e0, z_le0, z_gt0, z_lt, z_le, z_eq, z_cl, z_in, z_m1lt, z_m1ge, z_nm1, z_m1n, n1_add, n1_ad2, n1_sub, n1_eq, n1_eq', n1_le, n1_ge, n1_lt, n1_gt, z_10, z_01, z_0lt, z_0ge, z_0c, z_0in, z_0a, z_a0, z_01a, bI_f, bI_f0, t0f, t1f, cl_f, wq_some, wq_ite, wq_chk, wq_zok, wq_bind, wq_lpB, ks_l, ks_r, up2_s, up2_n, u_e, u_n]
/-- child k, or none -/
def chv (n : Nat) (row d : Nat → Nat) (p k : Nat) : Int32 := if cp n d p k < bh n d p then nI (row (cp n d p k)) else -1
theorem chv_first (hT : PT n row d σ) {p : Nat} (hp : p < n) : σ 3 (row p) = chv n row d p 0 := by
  rw [hT.1 p hp]
  unfold FV chv
  by_cases g : cp n d p 0 < bh n d p
  · rw [if_pos g, if_pos ((cp_first hp).mpr g)]; rfl
  · rw [if_neg g, if_neg (fun e => g ((cp_first hp).mp e))]
theorem chv_next (hw : wfT n d) (hT : PT n row d σ) {p k : Nat} (hp : p < n) (hk : hc n d p (k + 1)) : σ 4 (row (cp n d p k)) = chv n row d p (k + 1) := by
  have hk2 := (hc_s.mp hk).2
  have h1 := (cp_spec hw hp (hc_s.mp hk).1).1
  have h2 := bh_le (n := n) (d := d) hp
  rw [hT.2.1 _ (by omega) (by omega)]
  unfold NV chv
  have := cp_next hw hp hk
  by_cases g : cp n d p (k + 1) < bh n d p
  · rw [if_pos g, if_pos (this.mpr g)]; rfl
  · rw [if_neg g, if_neg (fun e => g (this.mp e))]
theorem chv_y {p k : Nat} (hk : cp n d p k < bh n d p) : chv n row d p k = nI (row (cp n d p k)) := if_pos hk
theorem chv_n {p k : Nat} (hk : ¬ cp n d p k < bh n d p) : chv n row d p k = -1 := if_neg hk
theorem chv_CV (hw : wfT n d) {p k : Nat} (hp : p < n) (hk : hc n d p k) : chv n row d p k = CV n row d (cp n d p k) (d p + 1) := by
  obtain ⟨a1, a2, a3, a4⟩ := cp_spec hw hp hk
  obtain ⟨g1, g2, g3, g4⟩ := bh_spec (n := n) (d := d) hp
  unfold chv CV
  by_cases g : cp n d p k < bh n d p
  · rw [if_pos g, if_pos ⟨by omega, a3 g⟩]
  · have e : cp n d p k = bh n d p := by omega
    rw [if_neg g, if_neg]
    rintro ⟨e1, e2⟩
    rw [e] at e1 e2
    have := g4 e1
    omega
theorem cp_lt (hw : wfT n d) {p k : Nat} (hp : p < n) (hk : hc n d p k) (h : cp n d p k < bh n d p) : cp n d p k < n := by
  have := bh_le (n := n) (d := d) hp; omega
theorem chv_b (hr : rw24 n row) {p k : Nat} (hp : p < n) : (chv n row d p k).toInt8.toInt32 = chv n row d p k := by
  unfold chv
  by_cases g : cp n d p k < bh n d p
  · rw [if_pos g]
    have := bh_le (n := n) (d := d) hp
    exact z_b (by have := hr.2.1 _ (by omega : cp n d p k < n); omega)
  · rw [if_neg g]; exact z_bm1
theorem dk_many_lp (hw : WT n row d) (hT : PT n row d σ) {p M : Nat} (hp : p < n) (hM : hc n d p M) (hM2 : cp n d p M = bh n d p) (v : Int32) : ∀ (f k : Nat), k + f = M → wq (lp dk_many_st (9, [v, nI k, chv n row d p k], σ)) (fun r => r = (nI M, σ)) := by
  intro f
  induction f with
  | zero =>
    intro k hk
    have e : k = M := by omega
    subst e
    rw [dk_many_l9, chv_n (by omega)]; unfold dk_many_b9
    simp (disch := omega) only [l_2, l_3, l_4, l_5, l_6, l_7, l_8, l_9, l_10, l_11, l_12, l_13, l_14, l_15, l_16, l_17, l_23, l_24, l_40, l_100, l_320, l_383, nI_add, pk_mul, z_sub, z_lt0, z_ge0, z_e0, z_le0, z_gt0, z_lt, z_le, z_eq, z_cl, z_in, z_m1lt, z_m1ge, z_nm1, z_m1n, n1_add, n1_ad2, n1_sub, n1_eq, n1_eq', n1_le, n1_ge, n1_lt, n1_gt, z_10, z_01, z_0lt, z_0ge, z_0c, z_0in, z_0a, z_a0, z_01a, bI_f, bI_f0, t0f, t1f, cl_f, wq_some, wq_ite, wq_chk, wq_zok, wq_bind, wq_lpB, ks_l, ks_r, up2_s, up2_n, u_e, u_n]
    exact ⟨fun _ => trivial, fun g => (g trivial).elim⟩
  | succ f ih =>
    intro k hk
    have h1 : cp n d p k < bh n d p := hM k (by omega)
    have h2 := cp_lt hw.2 hp (hc_le hM (by omega)) h1
    have h3 := hw.1.2.1 _ h2
    have hn := hw.1.1
    have hm : M < 24 := by
      have := (cp_spec hw.2 hp hM).1
      have := bh_le (n := n) (d := d) hp
      omega
    rw [dk_many_l9, chv_y h1]; unfold dk_many_b9
    simp (disch := omega) only [l_2, l_3, l_4, l_5, l_6, l_7, l_8, l_9, l_10, l_11, l_12, l_13, l_14, l_15, l_16, l_17, l_23, l_24, l_40, l_100, l_320, l_383, nI_add, pk_mul, z_sub, z_lt0, z_ge0, z_e0, z_le0, z_gt0, z_lt, z_le, z_eq, z_cl, z_in, z_m1lt, z_m1ge, z_nm1, z_m1n, n1_add, n1_ad2, n1_sub, n1_eq, n1_eq', n1_le, n1_ge, n1_lt, n1_gt, z_10, z_01, z_0lt, z_0ge, z_0c, z_0in, z_0a, z_a0, z_01a, bI_f, bI_f0, t0f, t1f, cl_f, wq_some, wq_ite, wq_chk, wq_zok, wq_bind, wq_lpB, ks_l, ks_r, up2_s, up2_n, u_e, u_n]
    refine ⟨fun g => g.elim, fun _ => ⟨h3, ?_⟩⟩
    rw [chv_next hw.2 hT hp (hc_le hM (by omega))]
    exact ih (k + 1) (by omega)
theorem dk_many_sp (hw : WT n row d) (hT : PT n row d σ) {p M : Nat} (hp : p < n) (hM : hc n d p M) (hM2 : cp n d p M = bh n d p) : dk_many (nI (row p)) σ = some (nI M, σ) := by
  have h3 := hw.1.2.1 _ hp
  apply eq_of_wq
  unfold dk_many dk_many_b0
  simp (disch := omega) only [l_2, l_3, l_4, l_5, l_6, l_7, l_8, l_9, l_10, l_11, l_12, l_13, l_14, l_15, l_16, l_17, l_23, l_24, l_40, l_100, l_320, l_383, nI_add, pk_mul, z_sub, z_lt0, z_ge0, z_e0, z_le0, z_gt0, z_lt, z_le, z_eq, z_cl, z_in, z_m1lt, z_m1ge, z_nm1, z_m1n, n1_add, n1_ad2, n1_sub, n1_eq, n1_eq', n1_le, n1_ge, n1_lt, n1_gt, z_10, z_01, z_0lt, z_0ge, z_0c, z_0in, z_0a, z_a0, z_01a, bI_f, bI_f0, t0f, t1f, cl_f, wq_some, wq_ite, wq_chk, wq_zok, wq_bind, wq_lpB, ks_l, ks_r, up2_s, up2_n, u_e, u_n]
  refine ⟨h3, ?_⟩
  rw [chv_first hT hp]
  have := dk_many_lp hw hT hp hM hM2 (nI (row p)) M 0 (by omega)
  rw [nI_0] at this; exact this
theorem dk_child_lp (hw : WT n row d) (hT : PT n row d σ) {p K : Nat} (hp : p < n) (hK : K < 2147483648) (v : Int32) : ∀ (f k : Nat), k + f = K → hc n d p k → wq (lp dk_child_st (24, [v, nI K, chv n row d p k, nI k], σ)) (fun r => (hc n d p (K + 1) ∧ r = (nI (row (cp n d p K)), σ)) ∨ (¬ hc n d p (K + 1) ∧ r = (-1, σ))) := by
  intro f
  induction f with
  | zero =>
    intro k hk h
    have e : k = K := by omega
    subst e
    rw [dk_child_l24]; unfold dk_child_b24 dk_child_b47
    simp (disch := omega) only [l_2, l_3, l_4, l_5, l_6, l_7, l_8, l_9, l_10, l_11, l_12, l_13, l_14, l_15, l_16, l_17, l_23, l_24, l_40, l_100, l_320, l_383, nI_add, pk_mul, z_sub, z_lt0, z_ge0, z_e0, z_le0, z_gt0, z_lt, z_le, z_eq, z_cl, z_in, z_m1lt, z_m1ge, z_nm1, z_m1n, n1_add, n1_ad2, n1_sub, n1_eq, n1_eq', n1_le, n1_ge, n1_lt, n1_gt, z_10, z_01, z_0lt, z_0ge, z_0c, z_0in, z_0a, z_a0, z_01a, bI_f, bI_f0, t0f, t1f, cl_f, wq_some, wq_ite, wq_chk, wq_zok, wq_bind, wq_lpB, ks_l, ks_r, up2_s, up2_n, u_e, u_n]
    refine ⟨fun _ => ?_, fun g => by omega⟩
    by_cases g : cp n d p k < bh n d p
    · rw [chv_y g]; exact Or.inl ⟨hc_s.mpr ⟨h, g⟩, rfl⟩
    · rw [chv_n g]; exact Or.inr ⟨fun e => g (hc_s.mp e).2, rfl⟩
  | succ f ih =>
    intro k hk h
    rw [dk_child_l24]; unfold dk_child_b24 dk_child_b47
    by_cases g : cp n d p k < bh n d p
    · have h2 := cp_lt hw.2 hp h g
      have h3 := hw.1.2.1 _ h2
      rw [chv_y g]
      simp (disch := omega) only [l_2, l_3, l_4, l_5, l_6, l_7, l_8, l_9, l_10, l_11, l_12, l_13, l_14, l_15, l_16, l_17, l_23, l_24, l_40, l_100, l_320, l_383, nI_add, pk_mul, z_sub, z_lt0, z_ge0, z_e0, z_le0, z_gt0, z_lt, z_le, z_eq, z_cl, z_in, z_m1lt, z_m1ge, z_nm1, z_m1n, n1_add, n1_ad2, n1_sub, n1_eq, n1_eq', n1_le, n1_ge, n1_lt, n1_gt, z_10, z_01, z_0lt, z_0ge, z_0c, z_0in, z_0a, z_a0, z_01a, bI_f, bI_f0, t0f, t1f, cl_f, wq_some, wq_ite, wq_chk, wq_zok, wq_bind, wq_lpB, ks_l, ks_r, up2_s, up2_n, u_e, u_n]
      refine ⟨fun e => by omega, fun _ => ⟨fun e => e.elim, fun _ => ⟨h3, ?_⟩⟩⟩
      rw [chv_next hw.2 hT hp (hc_s.mpr ⟨h, g⟩)]
      exact ih (k + 1) (by omega) (hc_s.mpr ⟨h, g⟩)
    · rw [chv_n g]
      simp (disch := omega) only [l_2, l_3, l_4, l_5, l_6, l_7, l_8, l_9, l_10, l_11, l_12, l_13, l_14, l_15, l_16, l_17, l_23, l_24, l_40, l_100, l_320, l_383, nI_add, pk_mul, z_sub, z_lt0, z_ge0, z_e0, z_le0, z_gt0, z_lt, z_le, z_eq, z_cl, z_in, z_m1lt, z_m1ge, z_nm1, z_m1n, n1_add, n1_ad2, n1_sub, n1_eq, n1_eq', n1_le, n1_ge, n1_lt, n1_gt, z_10, z_01, z_0lt, z_0ge, z_0c, z_0in, z_0a, z_a0, z_01a, bI_f, bI_f0, t0f, t1f, cl_f, wq_some, wq_ite, wq_chk, wq_zok, wq_bind, wq_lpB, ks_l, ks_r, up2_s, up2_n, u_e, u_n]
      refine ⟨fun e => by omega, fun _ => ⟨fun _ => ?_, fun e => (e trivial).elim⟩⟩
      exact Or.inr ⟨fun e => g (e k (by omega)), by first | rfl | trivial⟩
end
