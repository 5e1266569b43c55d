/-! TransletDeskModel's tree: its methods over a tree (n, row, d) -/
set_option maxRecDepth 100000
/-- the tree as TransletDeskModel has it -/
def MT (n : Nat) (row d nm : Nat → Nat) (vl : Nat → Int32) (σ : dS) : Prop :=
  σ 5 0 = nI n ∧ ∀ i, i < n → σ 0 i = nI (row i) ∧ σ 1 (row i) = nI (d i) ∧ σ 2 (row i) = nI (nm (row i)) ∧ σ 3 (row i) = vl (row i)
theorem MT_sm {n : Nat} {row d nm : Nat → Nat} {vl : Nat → Int32} {σ σ' : dS} (h : MT n row d nm vl σ) (e0 : σ' 0 = σ 0) (e1 : σ' 1 = σ 1) (e2 : σ' 2 = σ 2) (e3 : σ' 3 = σ 3) (e5 : σ' 5 = σ 5) : MT n row d nm vl σ' := by
  unfold MT at *
  rw [e0, e1, e2, e3, e5]; exact h
theorem MT_sm' {n : Nat} {row d nm : Nat → Nat} {vl : Nat → Int32} {σ σ' : dS} {l : List Nat} (h : MT n row d nm vl σ) (hs : sm l σ σ') (hl : ∀ i, i ∈ l → 6 ≤ i) : MT n row d nm vl σ' := by
  have key : ∀ i, i < 6 → σ' i = σ i := fun i hi => hs i (fun g => by have := hl i g; omega)
  exact MT_sm h (key 0 (by omega)) (key 1 (by omega)) (key 2 (by omega)) (key 3 (by omega)) (key 5 (by omega))
section
variable {n : Nat} {row d nm : Nat → Nat} {vl : Nat → Int32} {σ : dS}
theorem md_where_lp (hw : WT n row d) (h : MT n row d nm vl σ) {i : Nat} (hi : i < n) : ∀ (f k : Nat), k + f = i → wq (lp md_where_st (2, [nI (row i), nI k], σ)) (fun r => r = (nI i, σ)) := by
  have hn := hw.1.1
  have ri := hw.1.2.1 i hi
  intro f
  induction f with
  | zero =>
    intro k hk
    have e : k = i := by omega
    subst e
    rw [md_where_l2]; unfold md_where_b2
    simp (disch := omega) only [l_2, l_3, l_4, l_5, l_6, l_7, l_8, l_9, l_10, l_11, l_12, l_13, l_14, l_15, l_16, l_17, l_23, l_24, l_40, l_100, l_320, l_383, nI_add, pk_mul, z_sub, z_lt0, z_ge0, z_e0, z_le0, z_gt0, z_lt, z_le, z_eq, z_cl, z_in, z_m1lt, z_m1ge, z_nm1, z_m1n, n1_add, n1_ad2, n1_sub, n1_eq, n1_eq', n1_le, n1_ge, n1_lt, n1_gt, z_10, z_01, z_0lt, z_0ge, z_0c, z_0in, z_0a, z_a0, z_01a, bI_f, bI_f0, t0f, t1f, cl_f, wq_some, wq_ite, wq_chk, wq_zok, wq_bind, wq_lpB, ks_l, ks_r, up2_s, up2_n, u_e, u_n]
    rw [h.1, (h.2 k hi).1]
    simp (disch := omega) only [l_2, l_3, l_4, l_5, l_6, l_7, l_8, l_9, l_10, l_11, l_12, l_13, l_14, l_15, l_16, l_17, l_23, l_24, l_40, l_100, l_320, l_383, nI_add, pk_mul, z_sub, z_lt0, z_ge0, z_e0, z_le0, z_gt0, z_lt, z_le, z_eq, z_cl, z_in, z_m1lt, z_m1ge, z_nm1, z_m1n, n1_add, n1_ad2, n1_sub, n1_eq, n1_eq', n1_le, n1_ge, n1_lt, n1_gt, z_10, z_01, z_0lt, z_0ge, z_0c, z_0in, z_0a, z_a0, z_01a, bI_f, bI_f0, t0f, t1f, cl_f, wq_some, wq_ite, wq_chk, wq_zok, wq_bind, wq_lpB, ks_l, ks_r, up2_s, up2_n, u_e, u_n]
    exact ⟨fun g => by omega, fun _ => ⟨by omega, fun _ => trivial, fun g => (g trivial).elim⟩⟩
  | succ f ih =>
    intro k hk
    have rk := hw.1.2.1 k (by omega)
    rw [md_where_l2]; unfold md_where_b2
    simp (disch := omega) only [l_2, l_3, l_4, l_5, l_6, l_7, l_8, l_9, l_10, l_11, l_12, l_13, l_14, l_15, l_16, l_17, l_23, l_24, l_40, l_100, l_320, l_383, nI_add, pk_mul, z_sub, z_lt0, z_ge0, z_e0, z_le0, z_gt0, z_lt, z_le, z_eq, z_cl, z_in, z_m1lt, z_m1ge, z_nm1, z_m1n, n1_add, n1_ad2, n1_sub, n1_eq, n1_eq', n1_le, n1_ge, n1_lt, n1_gt, z_10, z_01, z_0lt, z_0ge, z_0c, z_0in, z_0a, z_a0, z_01a, bI_f, bI_f0, t0f, t1f, cl_f, wq_some, wq_ite, wq_chk, wq_zok, wq_bind, wq_lpB, ks_l, ks_r, up2_s, up2_n, u_e, u_n]
    rw [h.1, (h.2 k (by omega)).1]
    simp (disch := omega) only [l_2, l_3, l_4, l_5, l_6, l_7, l_8, l_9, l_10, l_11, l_12, l_13, l_14, l_15, l_16, l_17, l_23, l_24, l_40, l_100, l_320, l_383, nI_add, pk_mul, z_sub, z_lt0, z_ge0, z_e0, z_le0, z_gt0, z_lt, z_le, z_eq, z_cl, z_in, z_m1lt, z_m1ge, z_nm1, z_m1n, n1_add, n1_ad2, n1_sub, n1_eq, n1_eq', n1_le, n1_ge, n1_lt, n1_gt, z_10, z_01, z_0lt, z_0ge, z_0c, z_0in, z_0a, z_a0, z_01a, bI_f, bI_f0, t0f, t1f, cl_f, wq_some, wq_ite, wq_chk, wq_zok, wq_bind, wq_lpB, ks_l, ks_r, up2_s, up2_n, u_e, u_n]
    refine ⟨fun g => by omega, fun _ => ⟨by omega, fun g => ?_, fun _ => ih (k + 1) (by omega)⟩⟩
    have := hw.1.2.2 _ _ (by omega) hi g
    omega
theorem md_where_y (hw : WT n row d) (h : MT n row d nm vl σ) {i : Nat} (hi : i < n) : md_where (nI (row i)) σ = some (nI i, σ) := by
  apply eq_of_wq
  unfold md_where md_where_b0
  simp (disch := omega) only [l_2, l_3, l_4, l_5, l_6, l_7, l_8, l_9, l_10, l_11, l_12, l_13, l_14, l_15, l_16, l_17, l_23, l_24, l_40, l_100, l_320, l_383, nI_add, pk_mul, z_sub, z_lt0, z_ge0, z_e0, z_le0, z_gt0, z_lt, z_le, z_eq, z_cl, z_in, z_m1lt, z_m1ge, z_nm1, z_m1n, n1_add, n1_ad2, n1_sub, n1_eq, n1_eq', n1_le, n1_ge, n1_lt, n1_gt, z_10, z_01, z_0lt, z_0ge, z_0c, z_0in, z_0a, z_a0, z_01a, bI_f, bI_f0, t0f, t1f, cl_f, wq_some, wq_ite, wq_chk, wq_zok, wq_bind, wq_lpB, ks_l, ks_r, up2_s, up2_n, u_e, u_n]
  have := md_where_lp hw h hi i 0 (by omega)
  rw [nI_0] at this; exact this
theorem md_where_lpn (hw : WT n row d) (h : MT n row d nm vl σ) {v : Int32} (hv : ∀ i, i < n → v ≠ nI (row i)) : ∀ (f k : Nat), k + f = n → wq (lp md_where_st (2, [v, nI k], σ)) (fun r => r = (-1, σ)) := by
  have hn := hw.1.1
  intro f
  induction f with
  | zero =>
    intro k hk
    rw [md_where_l2]; unfold md_where_b2
    simp (disch := omega) only [l_2, l_3, l_4, l_5, l_6, l_7, l_8, l_9, l_10, l_11, l_12, l_13, l_14, l_15, l_16, l_17, l_23, l_24, l_40, l_100, l_320, l_383, nI_add, pk_mul, z_sub, z_lt0, z_ge0, z_e0, z_le0, z_gt0, z_lt, z_le, z_eq, z_cl, z_in, z_m1lt, z_m1ge, z_nm1, z_m1n, n1_add, n1_ad2, n1_sub, n1_eq, n1_eq', n1_le, n1_ge, n1_lt, n1_gt, z_10, z_01, z_0lt, z_0ge, z_0c, z_0in, z_0a, z_a0, z_01a, bI_f, bI_f0, t0f, t1f, cl_f, wq_some, wq_ite, wq_chk, wq_zok, wq_bind, wq_lpB, ks_l, ks_r, up2_s, up2_n, u_e, u_n]
    rw [h.1]
    simp (disch := omega) only [l_2, l_3, l_4, l_5, l_6, l_7, l_8, l_9, l_10, l_11, l_12, l_13, l_14, l_15, l_16, l_17, l_23, l_24, l_40, l_100, l_320, l_383, nI_add, pk_mul, z_sub, z_lt0, z_ge0, z_e0, z_le0, z_gt0, z_lt, z_le, z_eq, z_cl, z_in, z_m1lt, z_m1ge, z_nm1, z_m1n, n1_add, n1_ad2, n1_sub, n1_eq, n1_eq', n1_le, n1_ge, n1_lt, n1_gt, z_10, z_01, z_0lt, z_0ge, z_0c, z_0in, z_0a, z_a0, z_01a, bI_f, bI_f0, t0f, t1f, cl_f, wq_some, wq_ite, wq_chk, wq_zok, wq_bind, wq_lpB, ks_l, ks_r, up2_s, up2_n, u_e, u_n]
    exact ⟨fun _ => trivial, fun g => by omega⟩
  | succ f ih =>
    intro k hk
    rw [md_where_l2]; unfold md_where_b2
    simp (disch := omega) only [l_2, l_3, l_4, l_5, l_6, l_7, l_8, l_9, l_10, l_11, l_12, l_13, l_14, l_15, l_16, l_17, l_23, l_24, l_40, l_100, l_320, l_383, nI_add, pk_mul, z_sub, z_lt0, z_ge0, z_e0, z_le0, z_gt0, z_lt, z_le, z_eq, z_cl, z_in, z_m1lt, z_m1ge, z_nm1, z_m1n, n1_add, n1_ad2, n1_sub, n1_eq, n1_eq', n1_le, n1_ge, n1_lt, n1_gt, z_10, z_01, z_0lt, z_0ge, z_0c, z_0in, z_0a, z_a0, z_01a, bI_f, bI_f0, t0f, t1f, cl_f, wq_some, wq_ite, wq_chk, wq_zok, wq_bind, wq_lpB, ks_l, ks_r, up2_s, up2_n, u_e, u_n]
    rw [h.1, (h.2 k (by omega)).1]
    simp (disch := omega) only [l_2, l_3, l_4, l_5, l_6, l_7, l_8, l_9, l_10, l_11, l_12, l_13, l_14, l_15, l_16, l_17, l_23, l_24, l_40, l_100, l_320, l_383, nI_add, pk_mul, z_sub, z_lt0, z_ge0, z_e0, z_le0, z_gt0, z_lt, z_le, z_eq, z_cl, z_in, z_m1lt, z_m1ge, z_nm1, z_m1n, n1_add, n1_ad2, n1_sub, n1_eq, n1_eq', n1_le, n1_ge, n1_lt, n1_gt, z_10, z_01, z_0lt, z_0ge, z_0c, z_0in, z_0a, z_a0, z_01a, bI_f, bI_f0, t0f, t1f, cl_f, wq_some, wq_ite, wq_chk, wq_zok, wq_bind, wq_lpB, ks_l, ks_r, up2_s, up2_n, u_e, u_n]
    exact ⟨fun g => by omega, fun _ => ⟨by omega, fun g => absurd g.symm (hv k (by omega)), fun _ => ih (k + 1) (by omega)⟩⟩
theorem md_where_n (hw : WT n row d) (h : MT n row d nm vl σ) {v : Int32} (hv : ∀ i, i < n → v ≠ nI (row i)) : md_where v σ = some (-1, σ) := by
  apply eq_of_wq
  unfold md_where md_where_b0
  simp (disch := omega) only [l_2, l_3, l_4, l_5, l_6, l_7, l_8, l_9, l_10, l_11, l_12, l_13, l_14, l_15, l_16, l_17, l_23, l_24, l_40, l_100, l_320, l_383, nI_add, pk_mul, z_sub, z_lt0, z_ge0, z_e0, z_le0, z_gt0, z_lt, z_le, z_eq, z_cl, z_in, z_m1lt, z_m1ge, z_nm1, z_m1n, n1_add, n1_ad2, n1_sub, n1_eq, n1_eq', n1_le, n1_ge, n1_lt, n1_gt, z_10, z_01, z_0lt, z_0ge, z_0c, z_0in, z_0a, z_a0, z_01a, bI_f, bI_f0, t0f, t1f, cl_f, wq_some, wq_ite, wq_chk, wq_zok, wq_bind, wq_lpB, ks_l, ks_r, up2_s, up2_n, u_e, u_n]
  have := md_where_lpn hw h hv n 0 (by omega)
  rw [nI_0] at this; exact this
theorem md_behind_lp (hw : WT n row d) (h : MT n row d nm vl σ) {i : Nat} (hi : i < n) : ∀ (f k : Nat), k + f = bh n d i → i < k → wq (lp md_behind_st (4, [nI i, nI k], σ)) (fun r => r = (nI (bh n d i), σ)) := by
  have hn := hw.1.1
  have ri := hw.1.2.1 i hi
  have hd : ∀ j, j < n → d j < 24 := fun j hj => by have := wfT_le hw.2 hj; omega
  obtain ⟨g1, g2, g3, g4⟩ := bh_spec (n := n) (d := d) hi
  intro f
  induction f with
  | zero =>
    intro k hk hik
    have e : k = bh n d i := by omega
    rw [← e] at g4 ⊢
    rw [md_behind_l4]; unfold md_behind_b4 md_behind_b43
    rw [h.1]
    simp (disch := omega) only [l_2, l_3, l_4, l_5, l_6, l_7, l_8, l_9, l_10, l_11, l_12, l_13, l_14, l_15, l_16, l_17, l_23, l_24, l_40, l_100, l_320, l_383, nI_add, pk_mul, z_sub, z_lt0, z_ge0, z_e0, z_le0, z_gt0, z_lt, z_le, z_eq, z_cl, z_in, z_m1lt, z_m1ge, z_nm1, z_m1n, n1_add, n1_ad2, n1_sub, n1_eq, n1_eq', n1_le, n1_ge, n1_lt, n1_gt, z_10, z_01, z_0lt, z_0ge, z_0c, z_0in, z_0a, z_a0, z_01a, bI_f, bI_f0, t0f, t1f, cl_f, wq_some, wq_ite, wq_chk, wq_zok, wq_bind, wq_lpB, ks_l, ks_r, up2_s, up2_n, u_e, u_n]
    refine ⟨fun _ => trivial, fun g => ⟨by omega, ?_⟩⟩
    have hkn : k < n := by omega
    have rk := hw.1.2.1 k hkn
    have dk := hd k hkn
    have di := hd i hi
    rw [(h.2 k hkn).1, (h.2 i hi).1]
    simp (disch := omega) only [l_2, l_3, l_4, l_5, l_6, l_7, l_8, l_9, l_10, l_11, l_12, l_13, l_14, l_15, l_16, l_17, l_23, l_24, l_40, l_100, l_320, l_383, nI_add, pk_mul, z_sub, z_lt0, z_ge0, z_e0, z_le0, z_gt0, z_lt, z_le, z_eq, z_cl, z_in, z_m1lt, z_m1ge, z_nm1, z_m1n, n1_add, n1_ad2, n1_sub, n1_eq, n1_eq', n1_le, n1_ge, n1_lt, n1_gt, z_10, z_01, z_0lt, z_0ge, z_0c, z_0in, z_0a, z_a0, z_01a, bI_f, bI_f0, t0f, t1f, cl_f, wq_some, wq_ite, wq_chk, wq_zok, wq_bind, wq_lpB, ks_l, ks_r, up2_s, up2_n, u_e, u_n]
    rw [(h.2 k hkn).2.1, (h.2 i hi).2.1]
    simp (disch := omega) only [l_2, l_3, l_4, l_5, l_6, l_7, l_8, l_9, l_10, l_11, l_12, l_13, l_14, l_15, l_16, l_17, l_23, l_24, l_40, l_100, l_320, l_383, nI_add, pk_mul, z_sub, z_lt0, z_ge0, z_e0, z_le0, z_gt0, z_lt, z_le, z_eq, z_cl, z_in, z_m1lt, z_m1ge, z_nm1, z_m1n, n1_add, n1_ad2, n1_sub, n1_eq, n1_eq', n1_le, n1_ge, n1_lt, n1_gt, z_10, z_01, z_0lt, z_0ge, z_0c, z_0in, z_0a, z_a0, z_01a, bI_f, bI_f0, t0f, t1f, cl_f, wq_some, wq_ite, wq_chk, wq_zok, wq_bind, wq_lpB, ks_l, ks_r, up2_s, up2_n, u_e, u_n]
    refine ⟨rk, by omega, ri, fun _ => trivial, fun g => ?_⟩
    have := g4 hkn
    omega
  | succ f ih =>
    intro k hk hik
    rw [md_behind_l4]; unfold md_behind_b4 md_behind_b43
    have hkn : k < n := by omega
    have rk := hw.1.2.1 k hkn
    have dk := hd k hkn
    have di := hd i hi
    rw [h.1]
    simp (disch := omega) only [l_2, l_3, l_4, l_5, l_6, l_7, l_8, l_9, l_10, l_11, l_12, l_13, l_14, l_15, l_16, l_17, l_23, l_24, l_40, l_100, l_320, l_383, nI_add, pk_mul, z_sub, z_lt0, z_ge0, z_e0, z_le0, z_gt0, z_lt, z_le, z_eq, z_cl, z_in, z_m1lt, z_m1ge, z_nm1, z_m1n, n1_add, n1_ad2, n1_sub, n1_eq, n1_eq', n1_le, n1_ge, n1_lt, n1_gt, z_10, z_01, z_0lt, z_0ge, z_0c, z_0in, z_0a, z_a0, z_01a, bI_f, bI_f0, t0f, t1f, cl_f, wq_some, wq_ite, wq_chk, wq_zok, wq_bind, wq_lpB, ks_l, ks_r, up2_s, up2_n, u_e, u_n]
    rw [(h.2 k hkn).1, (h.2 i hi).1]
    simp (disch := omega) only [l_2, l_3, l_4, l_5, l_6, l_7, l_8, l_9, l_10, l_11, l_12, l_13, l_14, l_15, l_16, l_17, l_23, l_24, l_40, l_100, l_320, l_383, nI_add, pk_mul, z_sub, z_lt0, z_ge0, z_e0, z_le0, z_gt0, z_lt, z_le, z_eq, z_cl, z_in, z_m1lt, z_m1ge, z_nm1, z_m1n, n1_add, n1_ad2, n1_sub, n1_eq, n1_eq', n1_le, n1_ge, n1_lt, n1_gt, z_10, z_01, z_0lt, z_0ge, z_0c, z_0in, z_0a, z_a0, z_01a, bI_f, bI_f0, t0f, t1f, cl_f, wq_some, wq_ite, wq_chk, wq_zok, wq_bind, wq_lpB, ks_l, ks_r, up2_s, up2_n, u_e, u_n]
    rw [(h.2 k hkn).2.1, (h.2 i hi).2.1]
    simp (disch := omega) only [l_2, l_3, l_4, l_5, l_6, l_7, l_8, l_9, l_10, l_11, l_12, l_13, l_14, l_15, l_16, l_17, l_23, l_24, l_40, l_100, l_320, l_383, nI_add, pk_mul, z_sub, z_lt0, z_ge0, z_e0, z_le0, z_gt0, z_lt, z_le, z_eq, z_cl, z_in, z_m1lt, z_m1ge, z_nm1, z_m1n, n1_add, n1_ad2, n1_sub, n1_eq, n1_eq', n1_le, n1_ge, n1_lt, n1_gt, z_10, z_01, z_0lt, z_0ge, z_0c, z_0in, z_0a, z_a0, z_01a, bI_f, bI_f0, t0f, t1f, cl_f, wq_some, wq_ite, wq_chk, wq_zok, wq_bind, wq_lpB, ks_l, ks_r, up2_s, up2_n, u_e, u_n]
    refine ⟨fun g => by omega, fun _ => ⟨by omega, rk, by omega, ri, fun g => ?_, fun _ => ih (k + 1) (by omega) (by omega)⟩⟩
    have := g3 k hik (by omega)
    omega
theorem md_behind_sp (hw : WT n row d) (h : MT n row d nm vl σ) {i : Nat} (hi : i < n) : md_behind (nI i) σ = some (nI (bh n d i), σ) := by
  have hn := hw.1.1
  apply eq_of_wq
  unfold md_behind md_behind_b0
  simp (disch := omega) only [l_2, l_3, l_4, l_5, l_6, l_7, l_8, l_9, l_10, l_11, l_12, l_13, l_14, l_15, l_16, l_17, l_23, l_24, l_40, l_100, l_320, l_383, nI_add, pk_mul, z_sub, z_lt0, z_ge0, z_e0, z_le0, z_gt0, z_lt, z_le, z_eq, z_cl, z_in, z_m1lt, z_m1ge, z_nm1, z_m1n, n1_add, n1_ad2, n1_sub, n1_eq, n1_eq', n1_le, n1_ge, n1_lt, n1_gt, z_10, z_01, z_0lt, z_0ge, z_0c, z_0in, z_0a, z_a0, z_01a, bI_f, bI_f0, t0f, t1f, cl_f, wq_some, wq_ite, wq_chk, wq_zok, wq_bind, wq_lpB, ks_l, ks_r, up2_s, up2_n, u_e, u_n]
  have := bh_lt (n := n) (d := d) hi
  exact md_behind_lp hw h hi (bh n d i - (i + 1)) (i + 1) (by omega) (by omega)
/-- the parent, as a number -/
def pav (row d : Nat → Nat) (i : Nat) : Int32 := if i = 0 then -1 else nI (row (pa d i))
theorem md_parentOf_lp (hw : WT n row d) (h : MT n row d nm vl σ) {i : Nat} (hi : i < n) : ∀ (k : Nat), k ≤ i → (0 < i → pa d i ≤ k) → wq (lp md_parentOf_st (6, [nI (row i), nI k], σ)) (fun r => r = (pav row d i, σ)) := by
  have hn := hw.1.1
  have ri := hw.1.2.1 i hi
  have hd : ∀ j, j < n → d j < 24 := fun j hj => by have := wfT_le hw.2 hj; omega
  intro k
  induction k with
  | zero =>
    intro hk hp
    have r0 := hw.1.2.1 0 (by omega)
    rw [md_parentOf_l6]; unfold md_parentOf_b6 md_parentOf_b36
    have d0 := hw.2.1 (by omega)
    have di := hd i hi
    simp (disch := omega) only [l_2, l_3, l_4, l_5, l_6, l_7, l_8, l_9, l_10, l_11, l_12, l_13, l_14, l_15, l_16, l_17, l_23, l_24, l_40, l_100, l_320, l_383, nI_add, pk_mul, z_sub, z_lt0, z_ge0, z_e0, z_le0, z_gt0, z_lt, z_le, z_eq, z_cl, z_in, z_m1lt, z_m1ge, z_nm1, z_m1n, n1_add, n1_ad2, n1_sub, n1_eq, n1_eq', n1_le, n1_ge, n1_lt, n1_gt, z_10, z_01, z_0lt, z_0ge, z_0c, z_0in, z_0a, z_a0, z_01a, bI_f, bI_f0, t0f, t1f, cl_f, wq_some, wq_ite, wq_chk, wq_zok, wq_bind, wq_lpB, ks_l, ks_r, up2_s, up2_n, u_e, u_n]
    rw [(h.2 0 (by omega)).1, (h.2 i hi).2.1]
    simp (disch := omega) only [l_2, l_3, l_4, l_5, l_6, l_7, l_8, l_9, l_10, l_11, l_12, l_13, l_14, l_15, l_16, l_17, l_23, l_24, l_40, l_100, l_320, l_383, nI_add, pk_mul, z_sub, z_lt0, z_ge0, z_e0, z_le0, z_gt0, z_lt, z_le, z_eq, z_cl, z_in, z_m1lt, z_m1ge, z_nm1, z_m1n, n1_add, n1_ad2, n1_sub, n1_eq, n1_eq', n1_le, n1_ge, n1_lt, n1_gt, z_10, z_01, z_0lt, z_0ge, z_0c, z_0in, z_0a, z_a0, z_01a, bI_f, bI_f0, t0f, t1f, cl_f, wq_some, wq_ite, wq_chk, wq_zok, wq_bind, wq_lpB, ks_l, ks_r, up2_s, up2_n, u_e, u_n]
    rw [(h.2 0 (by omega)).2.1, d0]
    simp (disch := omega) only [l_2, l_3, l_4, l_5, l_6, l_7, l_8, l_9, l_10, l_11, l_12, l_13, l_14, l_15, l_16, l_17, l_23, l_24, l_40, l_100, l_320, l_383, nI_add, pk_mul, z_sub, z_lt0, z_ge0, z_e0, z_le0, z_gt0, z_lt, z_le, z_eq, z_cl, z_in, z_m1lt, z_m1ge, z_nm1, z_m1n, n1_add, n1_ad2, n1_sub, n1_eq, n1_eq', n1_le, n1_ge, n1_lt, n1_gt, z_10, z_01, z_0lt, z_0ge, z_0c, z_0in, z_0a, z_a0, z_01a, bI_f, bI_f0, t0f, t1f, cl_f, wq_some, wq_ite, wq_chk, wq_zok, wq_bind, wq_lpB, ks_l, ks_r, up2_s, up2_n, u_e, u_n]
    refine ⟨fun g => g.elim, fun _ => ⟨by omega, r0, ri, fun g => ⟨fun _ => ⟨by omega, ?_⟩, fun e => (e trivial).elim⟩, fun g => ?_⟩⟩
    · have hi0 : i ≠ 0 := fun e => by rw [e] at g; omega
      unfold pav
      have := hp (by omega)
      rw [if_neg hi0, show pa d i = 0 by omega]
    · have hi0 : i = 0 := by
        rcases Nat.eq_zero_or_pos i with e | e
        · exact e
        · have := wfT_pos hw.2 e hi; omega
      rw [nI_0, z_0m1, md_parentOf_l6]; unfold md_parentOf_b6 md_parentOf_b36
      simp (disch := omega) only [l_2, l_3, l_4, l_5, l_6, l_7, l_8, l_9, l_10, l_11, l_12, l_13, l_14, l_15, l_16, l_17, l_23, l_24, l_40, l_100, l_320, l_383, nI_add, pk_mul, z_sub, z_lt0, z_ge0, z_e0, z_le0, z_gt0, z_lt, z_le, z_eq, z_cl, z_in, z_m1lt, z_m1ge, z_nm1, z_m1n, n1_add, n1_ad2, n1_sub, n1_eq, n1_eq', n1_le, n1_ge, n1_lt, n1_gt, z_10, z_01, z_0lt, z_0ge, z_0c, z_0in, z_0a, z_a0, z_01a, bI_f, bI_f0, t0f, t1f, cl_f, wq_some, wq_ite, wq_chk, wq_zok, wq_bind, wq_lpB, ks_l, ks_r, up2_s, up2_n, u_e, u_n]
      refine ⟨fun _ => ⟨fun e => e.elim, fun _ => ?_⟩, fun e => (e trivial).elim⟩
      unfold pav
      rw [if_pos hi0]
  | succ k ih =>
    intro hk hp
    have hkn : k + 1 < n := by omega
    have rk := hw.1.2.1 _ hkn
    have di := hd i hi
    have dk := hd _ hkn
    have hps := pa_spec hw.2 (by omega : 0 < i) hi
    rw [md_parentOf_l6]; unfold md_parentOf_b6 md_parentOf_b36
    simp (disch := omega) only [l_2, l_3, l_4, l_5, l_6, l_7, l_8, l_9, l_10, l_11, l_12, l_13, l_14, l_15, l_16, l_17, l_23, l_24, l_40, l_100, l_320, l_383, nI_add, pk_mul, z_sub, z_lt0, z_ge0, z_e0, z_le0, z_gt0, z_lt, z_le, z_eq, z_cl, z_in, z_m1lt, z_m1ge, z_nm1, z_m1n, n1_add, n1_ad2, n1_sub, n1_eq, n1_eq', n1_le, n1_ge, n1_lt, n1_gt, z_10, z_01, z_0lt, z_0ge, z_0c, z_0in, z_0a, z_a0, z_01a, bI_f, bI_f0, t0f, t1f, cl_f, wq_some, wq_ite, wq_chk, wq_zok, wq_bind, wq_lpB, ks_l, ks_r, up2_s, up2_n, u_e, u_n]
    rw [(h.2 _ hkn).1, (h.2 i hi).2.1]
    simp (disch := omega) only [l_2, l_3, l_4, l_5, l_6, l_7, l_8, l_9, l_10, l_11, l_12, l_13, l_14, l_15, l_16, l_17, l_23, l_24, l_40, l_100, l_320, l_383, nI_add, pk_mul, z_sub, z_lt0, z_ge0, z_e0, z_le0, z_gt0, z_lt, z_le, z_eq, z_cl, z_in, z_m1lt, z_m1ge, z_nm1, z_m1n, n1_add, n1_ad2, n1_sub, n1_eq, n1_eq', n1_le, n1_ge, n1_lt, n1_gt, z_10, z_01, z_0lt, z_0ge, z_0c, z_0in, z_0a, z_a0, z_01a, bI_f, bI_f0, t0f, t1f, cl_f, wq_some, wq_ite, wq_chk, wq_zok, wq_bind, wq_lpB, ks_l, ks_r, up2_s, up2_n, u_e, u_n]
    rw [(h.2 _ hkn).2.1]
    simp (disch := omega) only [l_2, l_3, l_4, l_5, l_6, l_7, l_8, l_9, l_10, l_11, l_12, l_13, l_14, l_15, l_16, l_17, l_23, l_24, l_40, l_100, l_320, l_383, nI_add, pk_mul, z_sub, z_lt0, z_ge0, z_e0, z_le0, z_gt0, z_lt, z_le, z_eq, z_cl, z_in, z_m1lt, z_m1ge, z_nm1, z_m1n, n1_add, n1_ad2, n1_sub, n1_eq, n1_eq', n1_le, n1_ge, n1_lt, n1_gt, z_10, z_01, z_0lt, z_0ge, z_0c, z_0in, z_0a, z_a0, z_01a, bI_f, bI_f0, t0f, t1f, cl_f, wq_some, wq_ite, wq_chk, wq_zok, wq_bind, wq_lpB, ks_l, ks_r, up2_s, up2_n, u_e, u_n]
    refine ⟨fun g => g.elim, fun _ => ⟨by omega, rk, ri, fun g => ⟨fun _ => ⟨by omega, ?_⟩, fun e => (e trivial).elim⟩, fun g => ?_⟩⟩
    · have e : pa d i = k + 1 := by
        rcases Nat.lt_or_ge (pa d i) (k + 1) with q | q
        · by_cases e : k + 1 = i
          · rw [e] at g; omega
          · have := hps.2.2 (k + 1) q (by omega); omega
        · have := hp (by omega); omega
      unfold pav
      rw [if_neg (by omega), e]
    · rw [pk_m1]
      refine ih (by omega) (fun _ => ?_)
      have h1 := hp (by omega)
      by_cases e : pa d i = k + 1
      · have := hps.2.1
        rw [e] at this; omega
      · omega
theorem md_parentOf_sp (hw : WT n row d) (h : MT n row d nm vl σ) {i : Nat} (hi : i < n) : md_parentOf (nI (row i)) σ = some (pav row d i, σ) := by
  apply eq_of_wq
  unfold md_parentOf md_parentOf_b0
  rw [md_where_y hw h hi]
  unfold md_parentOf_b5
  simp (disch := omega) only [l_2, l_3, l_4, l_5, l_6, l_7, l_8, l_9, l_10, l_11, l_12, l_13, l_14, l_15, l_16, l_17, l_23, l_24, l_40, l_100, l_320, l_383, nI_add, pk_mul, z_sub, z_lt0, z_ge0, z_e0, z_le0, z_gt0, z_lt, z_le, z_eq, z_cl, z_in, z_m1lt, z_m1ge, z_nm1, z_m1n, n1_add, n1_ad2, n1_sub, n1_eq, n1_eq', n1_le, n1_ge, n1_lt, n1_gt, z_10, z_01, z_0lt, z_0ge, z_0c, z_0in, z_0a, z_a0, z_01a, bI_f, bI_f0, t0f, t1f, cl_f, wq_some, wq_ite, wq_chk, wq_zok, wq_bind, wq_lpB, ks_l, ks_r, up2_s, up2_n, u_e, u_n]
  exact md_parentOf_lp hw h hi i (Nat.le_refl _) (fun h0 => by have := pa_lt hw.2 h0 hi; omega)
theorem md_place_lp (hw : WT n row d) (h : MT n row d nm vl σ) {p K : Nat} (hp : p < n) (hK : K < 2147483648) : ∀ (f k : Nat), k + f = K → hc n d p k → wq (lp md_place_st (14, [nI p, nI K, nI (cp n d p k), nI (bh n d p), nI k], σ)) (fun r => (hc n d p K ∧ r = (nI (cp n d p K), σ)) ∨ (¬ hc n d p K ∧ r = (-1, σ))) := by
  have hn := hw.1.1
  have hb := bh_le (n := n) (d := d) hp
  intro f
  induction f with
  | zero =>
    intro k hk hc
    have e : k = K := by omega
    subst e
    rw [md_place_l14]; unfold md_place_b14
    simp (disch := omega) only [l_2, l_3, l_4, l_5, l_6, l_7, l_8, l_9, l_10, l_11, l_12, l_13, l_14, l_15, l_16, l_17, l_23, l_24, l_40, l_100, l_320, l_383, nI_add, pk_mul, z_sub, z_lt0, z_ge0, z_e0, z_le0, z_gt0, z_lt, z_le, z_eq, z_cl, z_in, z_m1lt, z_m1ge, z_nm1, z_m1n, n1_add, n1_ad2, n1_sub, n1_eq, n1_eq', n1_le, n1_ge, n1_lt, n1_gt, z_10, z_01, z_0lt, z_0ge, z_0c, z_0in, z_0a, z_a0, z_01a, bI_f, bI_f0, t0f, t1f, cl_f, wq_some, wq_ite, wq_chk, wq_zok, wq_bind, wq_lpB, ks_l, ks_r, up2_s, up2_n, u_e, u_n]
    exact ⟨fun _ => Or.inl ⟨hc, by first | rfl | trivial⟩, fun g => by omega⟩
  | succ f ih =>
    intro k hk hc
    have hcp := (cp_spec hw.2 hp hc).2.1
    rw [md_place_l14]; unfold md_place_b14
    by_cases g : cp n d p k = bh n d p
    · simp (disch := omega) only [l_2, l_3, l_4, l_5, l_6, l_7, l_8, l_9, l_10, l_11, l_12, l_13, l_14, l_15, l_16, l_17, l_23, l_24, l_40, l_100, l_320, l_383, nI_add, pk_mul, z_sub, z_lt0, z_ge0, z_e0, z_le0, z_gt0, z_lt, z_le, z_eq, z_cl, z_in, z_m1lt, z_m1ge, z_nm1, z_m1n, n1_add, n1_ad2, n1_sub, n1_eq, n1_eq', n1_le, n1_ge, n1_lt, n1_gt, z_10, z_01, z_0lt, z_0ge, z_0c, z_0in, z_0a, z_a0, z_01a, bI_f, bI_f0, t0f, t1f, cl_f, wq_some, wq_ite, wq_chk, wq_zok, wq_bind, wq_lpB, ks_l, ks_r, up2_s, up2_n, u_e, u_n]
      exact ⟨fun e => by omega, fun _ => ⟨fun _ => Or.inr ⟨fun e => by have := e k (by omega); omega, by first | rfl | trivial⟩, fun e => absurd g e⟩⟩
    · rw [md_behind_sp hw h (by omega : cp n d p k < n)]
      unfold md_place_b33
      simp (disch := omega) only [l_2, l_3, l_4, l_5, l_6, l_7, l_8, l_9, l_10, l_11, l_12, l_13, l_14, l_15, l_16, l_17, l_23, l_24, l_40, l_100, l_320, l_383, nI_add, pk_mul, z_sub, z_lt0, z_ge0, z_e0, z_le0, z_gt0, z_lt, z_le, z_eq, z_cl, z_in, z_m1lt, z_m1ge, z_nm1, z_m1n, n1_add, n1_ad2, n1_sub, n1_eq, n1_eq', n1_le, n1_ge, n1_lt, n1_gt, z_10, z_01, z_0lt, z_0ge, z_0c, z_0in, z_0a, z_a0, z_01a, bI_f, bI_f0, t0f, t1f, cl_f, wq_some, wq_ite, wq_chk, wq_zok, wq_bind, wq_lpB, ks_l, ks_r, up2_s, up2_n, u_e, u_n]
      exact ⟨fun e => by omega, fun _ => ⟨fun e => absurd e g, fun _ => ih (k + 1) (by omega) (hc_s.mpr ⟨hc, by omega⟩)⟩⟩
theorem md_place_sp (hw : WT n row d) (h : MT n row d nm vl σ) {p K : Nat} (hp : p < n) (hK : K < 2147483648) : wq (md_place (nI p) (nI K) σ) (fun r => (hc n d p K ∧ r = (nI (cp n d p K), σ)) ∨ (¬ hc n d p K ∧ r = (-1, σ))) := by
  unfold md_place md_place_b0 md_place_b4
  rw [md_behind_sp hw h hp]
  unfold md_place_b9
  simp (disch := omega) only [l_2, l_3, l_4, l_5, l_6, l_7, l_8, l_9, l_10, l_11, l_12, l_13, l_14, l_15, l_16, l_17, l_23, l_24, l_40, l_100, l_320, l_383, nI_add, pk_mul, z_sub, z_lt0, z_ge0, z_e0, z_le0, z_gt0, z_lt, z_le, z_eq, z_cl, z_in, z_m1lt, z_m1ge, z_nm1, z_m1n, n1_add, n1_ad2, n1_sub, n1_eq, n1_eq', n1_le, n1_ge, n1_lt, n1_gt, z_10, z_01, z_0lt, z_0ge, z_0c, z_0in, z_0a, z_a0, z_01a, bI_f, bI_f0, t0f, t1f, cl_f, wq_some, wq_ite, wq_chk, wq_zok, wq_bind, wq_lpB, ks_l, ks_r, up2_s, up2_n, u_e, u_n]
  have := md_place_lp hw h hp hK K 0 (by omega) hc_0
  rw [nI_0] at this; exact this
theorem md_isBelow_sp (hw : WT n row d) (h : MT n row d nm vl σ) {x y : Nat} (hx : x < n) (hy : y < n) : md_isBelow (nI (row x)) (nI (row y)) σ = some (if y < x ∧ x < bh n d y then 1 else 0, σ) := by
  have hn := hw.1.1
  have hb := bh_le (n := n) (d := d) hy
  apply eq_of_wq
  unfold md_isBelow md_isBelow_b0
  rw [md_where_y hw h hy]
  unfold md_isBelow_b5
  simp (disch := omega) only [l_2, l_3, l_4, l_5, l_6, l_7, l_8, l_9, l_10, l_11, l_12, l_13, l_14, l_15, l_16, l_17, l_23, l_24, l_40, l_100, l_320, l_383, nI_add, pk_mul, z_sub, z_lt0, z_ge0, z_e0, z_le0, z_gt0, z_lt, z_le, z_eq, z_cl, z_in, z_m1lt, z_m1ge, z_nm1, z_m1n, n1_add, n1_ad2, n1_sub, n1_eq, n1_eq', n1_le, n1_ge, n1_lt, n1_gt, z_10, z_01, z_0lt, z_0ge, z_0c, z_0in, z_0a, z_a0, z_01a, bI_f, bI_f0, t0f, t1f, cl_f, wq_some, wq_ite, wq_chk, wq_zok, wq_bind, wq_lpB, ks_l, ks_r, up2_s, up2_n, u_e, u_n]
  rw [md_where_y hw h hx]
  unfold md_isBelow_b11
  simp (disch := omega) only [l_2, l_3, l_4, l_5, l_6, l_7, l_8, l_9, l_10, l_11, l_12, l_13, l_14, l_15, l_16, l_17, l_23, l_24, l_40, l_100, l_320, l_383, nI_add, pk_mul, z_sub, z_lt0, z_ge0, z_e0, z_le0, z_gt0, z_lt, z_le, z_eq, z_cl, z_in, z_m1lt, z_m1ge, z_nm1, z_m1n, n1_add, n1_ad2, n1_sub, n1_eq, n1_eq', n1_le, n1_ge, n1_lt, n1_gt, z_10, z_01, z_0lt, z_0ge, z_0c, z_0in, z_0a, z_a0, z_01a, bI_f, bI_f0, t0f, t1f, cl_f, wq_some, wq_ite, wq_chk, wq_zok, wq_bind, wq_lpB, ks_l, ks_r, up2_s, up2_n, u_e, u_n]
  rw [md_behind_sp hw h hy]
  unfold md_isBelow_b26
  simp (disch := omega) only [l_2, l_3, l_4, l_5, l_6, l_7, l_8, l_9, l_10, l_11, l_12, l_13, l_14, l_15, l_16, l_17, l_23, l_24, l_40, l_100, l_320, l_383, nI_add, pk_mul, z_sub, z_lt0, z_ge0, z_e0, z_le0, z_gt0, z_lt, z_le, z_eq, z_cl, z_in, z_m1lt, z_m1ge, z_nm1, z_m1n, n1_add, n1_ad2, n1_sub, n1_eq, n1_eq', n1_le, n1_ge, n1_lt, n1_gt, z_10, z_01, z_0lt, z_0ge, z_0c, z_0in, z_0a, z_a0, z_01a, bI_f, bI_f0, t0f, t1f, cl_f, wq_some, wq_ite, wq_chk, wq_zok, wq_bind, wq_lpB, ks_l, ks_r, up2_s, up2_n, u_e, u_n]
  refine ⟨fun g => ?_, fun g => ⟨fun g2 => ?_, fun g2 => ?_⟩⟩
  · rw [if_neg (by omega)]
  · rw [if_neg (by omega)]
  · rw [if_pos (by omega)]
end
