/-! TransletDesk: sets as masks, values, join -/
set_option maxRecDepth 100000
theorem els_cl {x : Int32} {l : Nat} {r : List Nat} (h : els x = l :: r) : els (cl x) = r := (els_low h).2.2.2
theorem dk_lowest_lp {x : Int32} {l : Nat} {r : List Nat} (h : els x = l :: r) : ∀ (f k : Nat), k + f = l → wq (lp dk_lowest_st (2, [x, nI k])) (fun q => q = nI l) := by
  obtain ⟨h1, h2, h3, h4⟩ := els_low h
  intro f
  induction f with
  | zero =>
    intro k hk
    have e : k = l := by omega
    subst e
    rw [dk_lowest_l2]; unfold dk_lowest_b2
    have hb : ¬ bt x k = false := by rw [h1]; simp
    simp (disch := first | omega | with_reducible assumption) only [l_2, l_3, l_4, l_5, l_6, l_7, l_8, l_9, l_10, l_11, l_12, l_13, l_14, l_15, l_16, l_17, l_23, l_24, l_40, l_100, l_320, l_383, nI_add, pk_mul, z_sub, z_lt0, z_ge0, z_e0, z_le0, z_gt0, z_lt, z_le, z_eq, z_cl, z_in, z_m1lt, z_m1ge, z_nm1, z_m1n, n1_add, n1_ad2, n1_sub, n1_eq, n1_eq', n1_le, n1_ge, n1_lt, n1_gt, z_10, z_01, z_0lt, z_0ge, z_0c, z_0in, z_0a, z_a0, z_01a, bI_f, bI_f0, t0f, t1f, cl_f, wi_t, wi_f, wc_n, wc_0, wz_0, wz_1, wq_some, wq_bind, wq_lpB, ks_l, ks_r, up2_s, up2_n, u_e, u_n, if_true, if_false, ite_true, ite_false]
  | succ f ih =>
    intro k hk
    rw [dk_lowest_l2]; unfold dk_lowest_b2
    have hb : bt x k = false := h3 k (by omega)
    simp (disch := first | omega | with_reducible assumption) only [l_2, l_3, l_4, l_5, l_6, l_7, l_8, l_9, l_10, l_11, l_12, l_13, l_14, l_15, l_16, l_17, l_23, l_24, l_40, l_100, l_320, l_383, nI_add, pk_mul, z_sub, z_lt0, z_ge0, z_e0, z_le0, z_gt0, z_lt, z_le, z_eq, z_cl, z_in, z_m1lt, z_m1ge, z_nm1, z_m1n, n1_add, n1_ad2, n1_sub, n1_eq, n1_eq', n1_le, n1_ge, n1_lt, n1_gt, z_10, z_01, z_0lt, z_0ge, z_0c, z_0in, z_0a, z_a0, z_01a, bI_f, bI_f0, t0f, t1f, cl_f, wi_t, wi_f, wc_n, wc_0, wz_0, wz_1, wq_some, wq_bind, wq_lpB, ks_l, ks_r, up2_s, up2_n, u_e, u_n, if_true, if_false, ite_true, ite_false]
    exact ih (k + 1) (by omega)
theorem dk_lowest_sp {x : Int32} {l : Nat} {r : List Nat} (h : els x = l :: r) : dk_lowest x = some (nI l) := by
  apply eq_of_wq
  unfold dk_lowest dk_lowest_b0
  simp (disch := first | omega | with_reducible assumption) only [l_2, l_3, l_4, l_5, l_6, l_7, l_8, l_9, l_10, l_11, l_12, l_13, l_14, l_15, l_16, l_17, l_23, l_24, l_40, l_100, l_320, l_383, nI_add, pk_mul, z_sub, z_lt0, z_ge0, z_e0, z_le0, z_gt0, z_lt, z_le, z_eq, z_cl, z_in, z_m1lt, z_m1ge, z_nm1, z_m1n, n1_add, n1_ad2, n1_sub, n1_eq, n1_eq', n1_le, n1_ge, n1_lt, n1_gt, z_10, z_01, z_0lt, z_0ge, z_0c, z_0in, z_0a, z_a0, z_01a, bI_f, bI_f0, t0f, t1f, cl_f, wi_t, wi_f, wc_n, wc_0, wz_0, wz_1, wq_some, wq_bind, wq_lpB, ks_l, ks_r, up2_s, up2_n, u_e, u_n, if_true, if_false, ite_true, ite_false]
  have := dk_lowest_lp h l 0 (by omega)
  rw [nI_0] at this; exact this
theorem dk_highest_lp {x : Int32} {l : Nat} {r : List Nat} (h : els x = r ++ [l]) (hl : l < 24) : ∀ (f k : Nat), l + f = k → k < 24 → wq (lp dk_highest_st (3, [x, nI k])) (fun q => q = nI l) := by
  obtain ⟨h1, h2, h3, h4⟩ := els_high h
  intro f
  induction f with
  | zero =>
    intro k hk hk2
    have e : k = l := by omega
    subst e
    rw [dk_highest_l3]; unfold dk_highest_b3
    have hb : ¬ bt x k = false := by rw [h1]; simp
    simp (disch := first | omega | with_reducible assumption) only [l_2, l_3, l_4, l_5, l_6, l_7, l_8, l_9, l_10, l_11, l_12, l_13, l_14, l_15, l_16, l_17, l_23, l_24, l_40, l_100, l_320, l_383, nI_add, pk_mul, z_sub, z_lt0, z_ge0, z_e0, z_le0, z_gt0, z_lt, z_le, z_eq, z_cl, z_in, z_m1lt, z_m1ge, z_nm1, z_m1n, n1_add, n1_ad2, n1_sub, n1_eq, n1_eq', n1_le, n1_ge, n1_lt, n1_gt, z_10, z_01, z_0lt, z_0ge, z_0c, z_0in, z_0a, z_a0, z_01a, bI_f, bI_f0, t0f, t1f, cl_f, wi_t, wi_f, wc_n, wc_0, wz_0, wz_1, wq_some, wq_bind, wq_lpB, ks_l, ks_r, up2_s, up2_n, u_e, u_n, if_true, if_false, ite_true, ite_false]
  | succ f ih =>
    intro k hk hk2
    rw [dk_highest_l3]; unfold dk_highest_b3
    have hb : bt x k = false := h3 k (by omega)
    simp (disch := first | omega | with_reducible assumption) only [l_2, l_3, l_4, l_5, l_6, l_7, l_8, l_9, l_10, l_11, l_12, l_13, l_14, l_15, l_16, l_17, l_23, l_24, l_40, l_100, l_320, l_383, nI_add, pk_mul, z_sub, z_lt0, z_ge0, z_e0, z_le0, z_gt0, z_lt, z_le, z_eq, z_cl, z_in, z_m1lt, z_m1ge, z_nm1, z_m1n, n1_add, n1_ad2, n1_sub, n1_eq, n1_eq', n1_le, n1_ge, n1_lt, n1_gt, z_10, z_01, z_0lt, z_0ge, z_0c, z_0in, z_0a, z_a0, z_01a, bI_f, bI_f0, t0f, t1f, cl_f, wi_t, wi_f, wc_n, wc_0, wz_0, wz_1, wq_some, wq_bind, wq_lpB, ks_l, ks_r, up2_s, up2_n, u_e, u_n, if_true, if_false, ite_true, ite_false]
    rw [z_m1 (by omega)]
    exact ih (k - 1) (by omega) (by omega)
theorem dk_highest_sp {x : Int32} {l : Nat} {r : List Nat} (h : els x = r ++ [l]) (hl : l < 24) : dk_highest x = some (nI l) := by
  apply eq_of_wq
  unfold dk_highest dk_highest_b0
  simp (disch := first | omega | with_reducible assumption) only [l_2, l_3, l_4, l_5, l_6, l_7, l_8, l_9, l_10, l_11, l_12, l_13, l_14, l_15, l_16, l_17, l_23, l_24, l_40, l_100, l_320, l_383, nI_add, pk_mul, z_sub, z_lt0, z_ge0, z_e0, z_le0, z_gt0, z_lt, z_le, z_eq, z_cl, z_in, z_m1lt, z_m1ge, z_nm1, z_m1n, n1_add, n1_ad2, n1_sub, n1_eq, n1_eq', n1_le, n1_ge, n1_lt, n1_gt, z_10, z_01, z_0lt, z_0ge, z_0c, z_0in, z_0a, z_a0, z_01a, bI_f, bI_f0, t0f, t1f, cl_f, wi_t, wi_f, wc_n, wc_0, wz_0, wz_1, wq_some, wq_bind, wq_lpB, ks_l, ks_r, up2_s, up2_n, u_e, u_n, if_true, if_false, ite_true, ite_false]
  exact dk_highest_lp h hl (23 - l) 23 (by omega) (by omega)
theorem dk_bits_lp (v : Int32) : ∀ (L : List Nat) (s : Int32) (c : Nat), els s = L → wq (lp dk_bits_st (4, [v, nI c, s])) (fun q => q = nI (c + L.length)) := by
  intro L
  induction L with
  | nil =>
    intro s c h
    have hs := els_nil.mp h
    rw [dk_bits_l4]; unfold dk_bits_b4
    simp (disch := first | omega | with_reducible assumption) only [l_2, l_3, l_4, l_5, l_6, l_7, l_8, l_9, l_10, l_11, l_12, l_13, l_14, l_15, l_16, l_17, l_23, l_24, l_40, l_100, l_320, l_383, nI_add, pk_mul, z_sub, z_lt0, z_ge0, z_e0, z_le0, z_gt0, z_lt, z_le, z_eq, z_cl, z_in, z_m1lt, z_m1ge, z_nm1, z_m1n, n1_add, n1_ad2, n1_sub, n1_eq, n1_eq', n1_le, n1_ge, n1_lt, n1_gt, z_10, z_01, z_0lt, z_0ge, z_0c, z_0in, z_0a, z_a0, z_01a, bI_f, bI_f0, t0f, t1f, cl_f, wi_t, wi_f, wc_n, wc_0, wz_0, wz_1, wq_some, wq_bind, wq_lpB, ks_l, ks_r, up2_s, up2_n, u_e, u_n, if_true, if_false, ite_true, ite_false]
    rfl
  | cons l r ih =>
    intro s c h
    have hs : ¬ s = 0 := fun e => by rw [els_nil.mpr e] at h; cases h
    rw [dk_bits_l4]; unfold dk_bits_b4
    simp (disch := first | omega | with_reducible assumption) only [l_2, l_3, l_4, l_5, l_6, l_7, l_8, l_9, l_10, l_11, l_12, l_13, l_14, l_15, l_16, l_17, l_23, l_24, l_40, l_100, l_320, l_383, nI_add, pk_mul, z_sub, z_lt0, z_ge0, z_e0, z_le0, z_gt0, z_lt, z_le, z_eq, z_cl, z_in, z_m1lt, z_m1ge, z_nm1, z_m1n, n1_add, n1_ad2, n1_sub, n1_eq, n1_eq', n1_le, n1_ge, n1_lt, n1_gt, z_10, z_01, z_0lt, z_0ge, z_0c, z_0in, z_0a, z_a0, z_01a, bI_f, bI_f0, t0f, t1f, cl_f, wi_t, wi_f, wc_n, wc_0, wz_0, wz_1, wq_some, wq_bind, wq_lpB, ks_l, ks_r, up2_s, up2_n, u_e, u_n, if_true, if_false, ite_true, ite_false]
    have := ih (cl s) (c + 1) (els_cl h)
    rw [List.length_cons, show c + (r.length + 1) = c + 1 + r.length by omega]; exact this
theorem dk_bits_sp (x : Int32) : dk_bits x = some (nI (els x).length) := by
  apply eq_of_wq
  unfold dk_bits dk_bits_b0
  simp (disch := first | omega | with_reducible assumption) only [l_2, l_3, l_4, l_5, l_6, l_7, l_8, l_9, l_10, l_11, l_12, l_13, l_14, l_15, l_16, l_17, l_23, l_24, l_40, l_100, l_320, l_383, nI_add, pk_mul, z_sub, z_lt0, z_ge0, z_e0, z_le0, z_gt0, z_lt, z_le, z_eq, z_cl, z_in, z_m1lt, z_m1ge, z_nm1, z_m1n, n1_add, n1_ad2, n1_sub, n1_eq, n1_eq', n1_le, n1_ge, n1_lt, n1_gt, z_10, z_01, z_0lt, z_0ge, z_0c, z_0in, z_0a, z_a0, z_01a, bI_f, bI_f0, t0f, t1f, cl_f, wi_t, wi_f, wc_n, wc_0, wz_0, wz_1, wq_some, wq_bind, wq_lpB, ks_l, ks_r, up2_s, up2_n, u_e, u_n, if_true, if_false, ite_true, ite_false]
  have := dk_bits_lp x (els x) x 0 rfl
  rw [nI_0, Nat.zero_add] at this; exact this
/-- value of the first of a set -/
def fsv (vv : Nat → Int32) (x : Int32) : Int32 := match els x with
  | [] => 0
  | y :: _ => vv y
section
variable {n : Nat} {vv : Nat → Int32} {σ : dS}
theorem dk_valueOf_sp (hn : n ≤ 24) (hV : ∀ y, y < n → σ 14 y = vv y) {x : Int32} (hx : bw n x) : dk_valueOf x σ = some (fsv vv x, σ) := by
  unfold dk_valueOf dk_valueOf_b0 fsv
  cases h : els x with
  | nil => rw [if_pos (els_nil.mp h)]
  | cons l r =>
    have hs : ¬ x = 0 := fun e => by rw [els_nil.mpr e] at h; cases h
    have hl : l < n := bw_els hx (by rw [h]; exact List.mem_cons_self)
    rw [if_neg hs, dk_lowest_sp h]
    apply eq_of_wq
    unfold dk_valueOf_b16
    simp (disch := first | omega | with_reducible assumption) only [l_2, l_3, l_4, l_5, l_6, l_7, l_8, l_9, l_10, l_11, l_12, l_13, l_14, l_15, l_16, l_17, l_23, l_24, l_40, l_100, l_320, l_383, nI_add, pk_mul, z_sub, z_lt0, z_ge0, z_e0, z_le0, z_gt0, z_lt, z_le, z_eq, z_cl, z_in, z_m1lt, z_m1ge, z_nm1, z_m1n, n1_add, n1_ad2, n1_sub, n1_eq, n1_eq', n1_le, n1_ge, n1_lt, n1_gt, z_10, z_01, z_0lt, z_0ge, z_0c, z_0in, z_0a, z_a0, z_01a, bI_f, bI_f0, t0f, t1f, cl_f, wi_t, wi_f, wc_n, wc_0, wz_0, wz_1, wq_some, wq_bind, wq_lpB, ks_l, ks_r, up2_s, up2_n, u_e, u_n, if_true, if_false, ite_true, ite_false]
    rw [hV l hl]
theorem dk_total_lp (hn : n ≤ 24) (hV : ∀ y, y < n → σ 14 y = vv y) (v : Int32) : ∀ (L : List Nat) (s a : Int32), els s = L → (∀ y, y ∈ L → y < n) → wq (lp dk_total_st (4, [v, a, s], σ)) (fun q => q = (a + smv vv L, σ)) := by
  intro L
  induction L with
  | nil =>
    intro s a h hL
    have hs := els_nil.mp h
    rw [dk_total_l4]; unfold dk_total_b4
    simp (disch := first | omega | with_reducible assumption) only [l_2, l_3, l_4, l_5, l_6, l_7, l_8, l_9, l_10, l_11, l_12, l_13, l_14, l_15, l_16, l_17, l_23, l_24, l_40, l_100, l_320, l_383, nI_add, pk_mul, z_sub, z_lt0, z_ge0, z_e0, z_le0, z_gt0, z_lt, z_le, z_eq, z_cl, z_in, z_m1lt, z_m1ge, z_nm1, z_m1n, n1_add, n1_ad2, n1_sub, n1_eq, n1_eq', n1_le, n1_ge, n1_lt, n1_gt, z_10, z_01, z_0lt, z_0ge, z_0c, z_0in, z_0a, z_a0, z_01a, bI_f, bI_f0, t0f, t1f, cl_f, wi_t, wi_f, wc_n, wc_0, wz_0, wz_1, wq_some, wq_bind, wq_lpB, ks_l, ks_r, up2_s, up2_n, u_e, u_n, if_true, if_false, ite_true, ite_false]
    rw [show smv vv [] = 0 from rfl, Int32.add_zero]
  | cons l r ih =>
    intro s a h hL
    have hs : ¬ s = 0 := fun e => by rw [els_nil.mpr e] at h; cases h
    have hl : l < n := hL l List.mem_cons_self
    rw [dk_total_l4]; unfold dk_total_b4
    rw [dk_lowest_sp h]
    unfold dk_total_b17 dk_total_b20
    simp (disch := first | omega | with_reducible assumption) only [l_2, l_3, l_4, l_5, l_6, l_7, l_8, l_9, l_10, l_11, l_12, l_13, l_14, l_15, l_16, l_17, l_23, l_24, l_40, l_100, l_320, l_383, nI_add, pk_mul, z_sub, z_lt0, z_ge0, z_e0, z_le0, z_gt0, z_lt, z_le, z_eq, z_cl, z_in, z_m1lt, z_m1ge, z_nm1, z_m1n, n1_add, n1_ad2, n1_sub, n1_eq, n1_eq', n1_le, n1_ge, n1_lt, n1_gt, z_10, z_01, z_0lt, z_0ge, z_0c, z_0in, z_0a, z_a0, z_01a, bI_f, bI_f0, t0f, t1f, cl_f, wi_t, wi_f, wc_n, wc_0, wz_0, wz_1, wq_some, wq_bind, wq_lpB, ks_l, ks_r, up2_s, up2_n, u_e, u_n, if_true, if_false, ite_true, ite_false]
    rw [hV l hl, show smv vv (l :: r) = vv l + smv vv r from rfl, ← Int32.add_assoc]
    exact ih (cl s) (a + vv l) (els_cl h) (fun y hy => hL y (List.mem_cons_of_mem _ hy))
theorem dk_total_sp (hn : n ≤ 24) (hV : ∀ y, y < n → σ 14 y = vv y) {x : Int32} (hx : bw n x) : dk_total x σ = some (smv vv (els x), σ) := by
  apply eq_of_wq
  unfold dk_total dk_total_b0
  simp (disch := first | omega | with_reducible assumption) only [l_2, l_3, l_4, l_5, l_6, l_7, l_8, l_9, l_10, l_11, l_12, l_13, l_14, l_15, l_16, l_17, l_23, l_24, l_40, l_100, l_320, l_383, nI_add, pk_mul, z_sub, z_lt0, z_ge0, z_e0, z_le0, z_gt0, z_lt, z_le, z_eq, z_cl, z_in, z_m1lt, z_m1ge, z_nm1, z_m1n, n1_add, n1_ad2, n1_sub, n1_eq, n1_eq', n1_le, n1_ge, n1_lt, n1_gt, z_10, z_01, z_0lt, z_0ge, z_0c, z_0in, z_0a, z_a0, z_01a, bI_f, bI_f0, t0f, t1f, cl_f, wi_t, wi_f, wc_n, wc_0, wz_0, wz_1, wq_some, wq_bind, wq_lpB, ks_l, ks_r, up2_s, up2_n, u_e, u_n, if_true, if_false, ite_true, ite_false]
  have := dk_total_lp hn hV x (els x) x 0 rfl (fun y hy => bw_els hx hy)
  rw [Int32.zero_add] at this; exact this
theorem dk_has_lp (hn : n ≤ 24) (hV : ∀ y, y < n → σ 14 y = vv y) (v w : Int32) : ∀ (L : List Nat) (s : Int32), els s = L → (∀ y, y ∈ L → y < n) → wq (lp dk_has_st (2, [v, w, s], σ)) (fun q => q = (if ∃ y, y ∈ L ∧ vv y = w then 1 else 0, σ)) := by
  intro L
  induction L with
  | nil =>
    intro s h hL
    have hs := els_nil.mp h
    rw [dk_has_l2]; unfold dk_has_b2
    simp (disch := first | omega | with_reducible assumption) only [l_2, l_3, l_4, l_5, l_6, l_7, l_8, l_9, l_10, l_11, l_12, l_13, l_14, l_15, l_16, l_17, l_23, l_24, l_40, l_100, l_320, l_383, nI_add, pk_mul, z_sub, z_lt0, z_ge0, z_e0, z_le0, z_gt0, z_lt, z_le, z_eq, z_cl, z_in, z_m1lt, z_m1ge, z_nm1, z_m1n, n1_add, n1_ad2, n1_sub, n1_eq, n1_eq', n1_le, n1_ge, n1_lt, n1_gt, z_10, z_01, z_0lt, z_0ge, z_0c, z_0in, z_0a, z_a0, z_01a, bI_f, bI_f0, t0f, t1f, cl_f, wi_t, wi_f, wc_n, wc_0, wz_0, wz_1, wq_some, wq_bind, wq_lpB, ks_l, ks_r, up2_s, up2_n, u_e, u_n, if_true, if_false, ite_true, ite_false]
    rw [if_neg (by rintro ⟨y, h, _⟩; cases h)]
  | cons l r ih =>
    intro s h hL
    have hs : ¬ s = 0 := fun e => by rw [els_nil.mpr e] at h; cases h
    have hl : l < n := hL l List.mem_cons_self
    rw [dk_has_l2]; unfold dk_has_b2
    rw [dk_lowest_sp h]
    unfold dk_has_b14
    simp (disch := first | omega | with_reducible assumption) only [l_2, l_3, l_4, l_5, l_6, l_7, l_8, l_9, l_10, l_11, l_12, l_13, l_14, l_15, l_16, l_17, l_23, l_24, l_40, l_100, l_320, l_383, nI_add, pk_mul, z_sub, z_lt0, z_ge0, z_e0, z_le0, z_gt0, z_lt, z_le, z_eq, z_cl, z_in, z_m1lt, z_m1ge, z_nm1, z_m1n, n1_add, n1_ad2, n1_sub, n1_eq, n1_eq', n1_le, n1_ge, n1_lt, n1_gt, z_10, z_01, z_0lt, z_0ge, z_0c, z_0in, z_0a, z_a0, z_01a, bI_f, bI_f0, t0f, t1f, cl_f, wi_t, wi_f, wc_n, wc_0, wz_0, wz_1, wq_some, wq_bind, wq_lpB, ks_l, ks_r, up2_s, up2_n, u_e, u_n, if_true, if_false, ite_true, ite_false]
    rw [hV l hl]
    by_cases e : vv l = w
    · rw [wi_t e, wq_some, ks_r, if_pos ⟨l, List.mem_cons_self, e⟩]
    · rw [wi_f e, wq_some, ks_l]
      have := ih (cl s) (els_cl h) (fun y hy => hL y (List.mem_cons_of_mem _ hy))
      refine wq_mono this (fun q hq => ?_)
      rw [hq]
      congr 1
      by_cases g : ∃ y, y ∈ r ∧ vv y = w
      · obtain ⟨y, y1, y2⟩ := g
        rw [if_pos ⟨y, y1, y2⟩, if_pos ⟨y, List.mem_cons_of_mem _ y1, y2⟩]
      · rw [if_neg g, if_neg]
        rintro ⟨y, y1, y2⟩
        rcases List.mem_cons.mp y1 with e2 | e2
        · rw [e2] at y2; exact e y2
        · exact g ⟨y, e2, y2⟩
theorem dk_has_sp (hn : n ≤ 24) (hV : ∀ y, y < n → σ 14 y = vv y) {x : Int32} (hx : bw n x) (w : Int32) : dk_has x w σ = some (if ∃ y, y ∈ els x ∧ vv y = w then 1 else 0, σ) := by
  apply eq_of_wq
  unfold dk_has dk_has_b0
  simp (disch := first | omega | with_reducible assumption) only [l_2, l_3, l_4, l_5, l_6, l_7, l_8, l_9, l_10, l_11, l_12, l_13, l_14, l_15, l_16, l_17, l_23, l_24, l_40, l_100, l_320, l_383, nI_add, pk_mul, z_sub, z_lt0, z_ge0, z_e0, z_le0, z_gt0, z_lt, z_le, z_eq, z_cl, z_in, z_m1lt, z_m1ge, z_nm1, z_m1n, n1_add, n1_ad2, n1_sub, n1_eq, n1_eq', n1_le, n1_ge, n1_lt, n1_gt, z_10, z_01, z_0lt, z_0ge, z_0c, z_0in, z_0a, z_a0, z_01a, bI_f, bI_f0, t0f, t1f, cl_f, wi_t, wi_f, wc_n, wc_0, wz_0, wz_1, wq_some, wq_bind, wq_lpB, ks_l, ks_r, up2_s, up2_n, u_e, u_n, if_true, if_false, ite_true, ite_false]
  exact dk_has_lp hn hV x w (els x) x rfl (fun y hy => bw_els hx hy)
/-- g = false: the least value, g = true: the greatest -/
def bet (g : Bool) (a b : Int32) : Prop := if g = true then b ≤ a else a ≤ b
theorem bet_rf (g : Bool) (a : Int32) : bet g a a := by
  unfold bet
  cases g
  · exact Int32.le_refl a
  · exact Int32.le_refl a
theorem bet_tr {g : Bool} {a b c : Int32} (h : bet g a b) (h2 : bet g b c) : bet g a c := by
  unfold bet at *
  cases g
  · exact Int32.le_trans h h2
  · exact Int32.le_trans h2 h
theorem dk_extreme_lp (hn : n ≤ 24) (hV : ∀ y, y < n → σ 14 y = vv y) (v : Int32) (g : Bool) (A : List Nat) : ∀ (L : List Nat) (s b : Int32), els s = L → (∀ y, y ∈ L → y < n) → (∀ y, y ∈ L → y ∈ A) → (∃ y, y ∈ A ∧ vv y = b) → (∀ y, y ∈ A → y ∉ L → bet g b (vv y)) → wq (lp dk_extreme_st (9, [v, if g = true then 1 else 0, b, s], σ)) (fun q => q.2 = σ ∧ (∃ y, y ∈ A ∧ vv y = q.1) ∧ ∀ y, y ∈ A → bet g q.1 (vv y)) := by
  intro L
  induction L with
  | nil =>
    intro s b h hL hA h1 h2
    have hs := els_nil.mp h
    rw [dk_extreme_l9]; unfold dk_extreme_b9
    rw [wi_t hs, wq_some, ks_r]
    exact ⟨rfl, h1, fun y hy => h2 y hy (fun e => by cases e)⟩
  | cons l r ih =>
    intro s b h hL hA h1 h2
    have hs : ¬ s = 0 := fun e => by rw [els_nil.mpr e] at h; cases h
    have hl : l < n := hL l List.mem_cons_self
    rw [dk_extreme_l9]; unfold dk_extreme_b9
    rw [wi_f hs, dk_lowest_sp h]
    unfold dk_extreme_b23 dk_extreme_b26 dk_extreme_b45 dk_extreme_b48
    -- how it goes on
    have go : ∀ b', bet g b' b → bet g b' (vv l) → (∃ y, y ∈ A ∧ vv y = b') → wq (lp dk_extreme_st (9, [v, if g = true then 1 else 0, b', cl s], σ)) (fun q => q.2 = σ ∧ (∃ y, y ∈ A ∧ vv y = q.1) ∧ ∀ y, y ∈ A → bet g q.1 (vv y)) := by
      intro b' e1 e2 e3
      refine ih (cl s) b' (els_cl h) (fun y hy => hL y (List.mem_cons_of_mem _ hy)) (fun y hy => hA y (List.mem_cons_of_mem _ hy)) e3 (fun y hy hny => ?_)
      by_cases e : y = l
      · rw [e]; exact e2
      · refine bet_tr e1 (h2 y hy (fun e4 => ?_))
        rcases List.mem_cons.mp e4 with e5 | e5
        · exact e e5
        · exact hny e5
    have hl2 : ∃ y, y ∈ A ∧ vv y = vv l := ⟨l, hA l List.mem_cons_self, rfl⟩
    rw [wq_bind, wq_some, wc_n (by omega) (by omega), z_cl (by omega), hV l hl]
    cases g
    · simp only [Bool.false_eq_true, if_false] at go ⊢
      rw [wi_t trivial]
      by_cases e : b ≤ vv l
      · rw [wi_t e, wq_some, ks_l, cl_f]; exact go b (bet_rf _ _) e h1
      · rw [wi_f e, wq_some, ks_l, cl_f]; exact go (vv l) (by unfold bet; rw [if_neg (by simp)]; rw [z_nle] at e; exact Int32.le_of_lt e) (bet_rf _ _) hl2
    · simp only [if_true] at go ⊢
      rw [wi_f (by decide)]
      by_cases e : vv l ≤ b
      · rw [wi_t e, wq_some, ks_l, cl_f]; exact go b (bet_rf _ _) e h1
      · rw [wi_f e, wq_some, ks_l, cl_f]; exact go (vv l) (by unfold bet; rw [if_pos rfl]; rw [z_nle] at e; exact Int32.le_of_lt e) (bet_rf _ _) hl2
theorem dk_extreme_sp {Q : Int32 × dS → Prop} (hn : n ≤ 24) (hV : ∀ y, y < n → σ 14 y = vv y) {x : Int32} (hx : bw n x) (hne : ¬ x = 0) (g : Bool) (w : Int32) (hw : w = if g = true then 1 else 0) (hq : ∀ b, (∃ y, y ∈ els x ∧ vv y = b) → (∀ y, y ∈ els x → bet g b (vv y)) → Q (b, σ)) : wq (dk_extreme x w σ) Q := by
  unfold dk_extreme dk_extreme_b0
  rw [dk_valueOf_sp hn hV hx, hw]
  unfold dk_extreme_b5
  rw [wq_lpB, wq_bind, wq_some, wq_some, ks_l]
  have h1 : ∃ y, y ∈ els x ∧ vv y = fsv vv x := by
    unfold fsv
    cases h : els x with
    | nil => exact absurd (els_nil.mp h) hne
    | cons l r => exact ⟨l, List.mem_cons_self, rfl⟩
  refine wq_mono (dk_extreme_lp hn hV x g (els x) (els x) x (fsv vv x) rfl (fun y hy => bw_els hx hy) (fun y hy => hy) h1 (fun y h1 h2 => absurd h1 h2)) (fun q hq2 => ?_)
  obtain ⟨q1, q2⟩ := q
  obtain ⟨a1, a2, a3⟩ := hq2
  cases a1
  exact hq q1 a2 a3
end
