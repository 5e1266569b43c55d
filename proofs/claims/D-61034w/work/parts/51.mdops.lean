/-! TransletDeskModel: insert, remove, move, change -/
set_option maxRecDepth 100000
theorem md_changed_lp {Q : Int32 × dS → Prop} {τ0 : dS} (hq : ∀ r, sm [10] τ0 r.2 → (∀ s, s < 8 → r.2 10 s = 0) → Q r) : ∀ (f k : Nat) (τ : dS), k + f = 8 → sm [10] τ0 τ → (∀ s, s < k → τ 10 s = 0) → wq (lp md_changed_st (2, [nI k], τ)) Q := by
  intro f
  induction f with
  | zero =>
    intro k τ hk h1 h2
    rw [md_changed_l2]; unfold md_changed_b2
    simp (disch := first | omega | with_reducible assumption) only [l_2, l_3, l_4, l_5, l_6, l_7, l_8, l_9, l_10, l_11, l_12, l_13, l_14, l_15, l_16, l_17, l_23, l_24, l_40, l_100, l_320, l_383, nI_add, pk_mul, z_sub, z_lt0, z_ge0, z_e0, z_le0, z_gt0, z_lt, z_le, z_eq, z_cl, z_in, z_m1lt, z_m1ge, z_nm1, z_m1n, n1_add, n1_ad2, n1_sub, n1_eq, n1_eq', n1_le, n1_ge, n1_lt, n1_gt, z_10, z_01, z_0lt, z_0ge, z_0c, z_0in, z_0a, z_a0, z_01a, bI_f, bI_f0, t0f, t1f, cl_f, wi_t, wi_f, wc_n, wc_0, wz_0, wz_1, wq_some, wq_bind, wq_lpB, ks_l, ks_r, up2_s, up2_n, u_e, u_n, if_true, if_false, ite_true, ite_false]
    exact hq _ h1 (fun s hs => h2 s (by omega))
  | succ f ih =>
    intro k τ hk h1 h2
    rw [md_changed_l2]; unfold md_changed_b2
    simp (disch := first | omega | with_reducible assumption) only [l_2, l_3, l_4, l_5, l_6, l_7, l_8, l_9, l_10, l_11, l_12, l_13, l_14, l_15, l_16, l_17, l_23, l_24, l_40, l_100, l_320, l_383, nI_add, pk_mul, z_sub, z_lt0, z_ge0, z_e0, z_le0, z_gt0, z_lt, z_le, z_eq, z_cl, z_in, z_m1lt, z_m1ge, z_nm1, z_m1n, n1_add, n1_ad2, n1_sub, n1_eq, n1_eq', n1_le, n1_ge, n1_lt, n1_gt, z_10, z_01, z_0lt, z_0ge, z_0c, z_0in, z_0a, z_a0, z_01a, bI_f, bI_f0, t0f, t1f, cl_f, wi_t, wi_f, wc_n, wc_0, wz_0, wz_1, wq_some, wq_bind, wq_lpB, ks_l, ks_r, up2_s, up2_n, u_e, u_n, if_true, if_false, ite_true, ite_false]
    refine ih (k + 1) _ (by omega) (sm_up (by decide) h1) (fun s hs => ?_)
    rw [z_nz0, up2_s]
    by_cases e : s = k
    · rw [e, u_e]
    · rw [u_n e]; exact h2 s (by omega)
theorem md_changed_sp {Q : Int32 × dS → Prop} {τ : dS} (hq : ∀ r, sm [10] τ r.2 → (∀ s, s < 8 → r.2 10 s = 0) → Q r) : wq (md_changed τ) Q := by
  unfold md_changed md_changed_b0
  simp (disch := first | omega | with_reducible assumption) only [l_2, l_3, l_4, l_5, l_6, l_7, l_8, l_9, l_10, l_11, l_12, l_13, l_14, l_15, l_16, l_17, l_23, l_24, l_40, l_100, l_320, l_383, nI_add, pk_mul, z_sub, z_lt0, z_ge0, z_e0, z_le0, z_gt0, z_lt, z_le, z_eq, z_cl, z_in, z_m1lt, z_m1ge, z_nm1, z_m1n, n1_add, n1_ad2, n1_sub, n1_eq, n1_eq', n1_le, n1_ge, n1_lt, n1_gt, z_10, z_01, z_0lt, z_0ge, z_0c, z_0in, z_0a, z_a0, z_01a, bI_f, bI_f0, t0f, t1f, cl_f, wi_t, wi_f, wc_n, wc_0, wz_0, wz_1, wq_some, wq_bind, wq_lpB, ks_l, ks_r, up2_s, up2_n, u_e, u_n, if_true, if_false, ite_true, ite_false]
  have := md_changed_lp hq 8 0 τ (by omega) sm_rf (fun s hs => by omega)
  rw [nI_0] at this; exact this
theorem md_in_y {x a b : Int32} (h1 : ¬ x < a) (h2 : ¬ b < x) : md_in x a b = some 1 := by
  unfold md_in md_in_b0
  rw [if_neg h1, if_neg h2]
theorem md_in_n {x a b : Int32} (h : x < a ∨ b < x) : md_in x a b = some 0 := by
  unfold md_in md_in_b0
  by_cases h1 : x < a
  · rw [if_pos h1]
  · rcases h with h | h
    · exact absurd h h1
    · rw [if_neg h1, if_pos h]
section
variable {n : Nat} {row d nm : Nat → Nat} {vl : Nat → Int32}
theorem md_insert_lp2 {Q : Int32 × dS → Prop} {τ0 : dS} {a u : Nat} {v1 v2 v3 c : Int32} (hn : n < 24) (ha : a ≤ n) (hu : u < 24) (h5 : τ0 5 0 = nI n) (h0 : ∀ i, i < n → τ0 0 i = nI (row i))
    (hq : ∀ τ', sm [0, 1, 2, 3, 5, 10] τ0 τ' → τ' 5 0 = nI (n + 1) → (∀ i, i < n + 1 → τ' 0 i = nI (ins a 1 row (fun _ => u) i)) → τ' 1 = upd (τ0 1) u c → τ' 2 = upd (τ0 2) u v3 → τ' 3 = upd (τ0 3) u 0 → (∀ s, s < 8 → τ' 10 s = 0) → Q (nI u, τ')) :
    ∀ (f j : Nat) (τ : dS), a + f = j → j ≤ n → sm [0] τ0 τ → (∀ i, i < j → τ 0 i = nI (row i)) → (∀ i, j < i → i ≤ n → τ 0 i = nI (row (i - 1))) → wq (lp md_insert_st (101, [v1, v2, v3, nI a, c, nI u, nI j], τ)) Q := by
  intro f
  induction f with
  | zero =>
    intro j τ hj hjn hs g1 g2
    have e : j = a := by omega
    subst e
    have h5' : τ 5 0 = nI n := by rw [hs 5 (by decide)]; exact h5
    rw [md_insert_l101]; unfold md_insert_b101 md_insert_b139 md_insert_b149 md_insert_b158 md_insert_b166 md_insert_b174
    simp (disch := first | omega | with_reducible assumption) only [l_2, l_3, l_4, l_5, l_6, l_7, l_8, l_9, l_10, l_11, l_12, l_13, l_14, l_15, l_16, l_17, l_23, l_24, l_40, l_100, l_320, l_383, nI_add, pk_mul, z_sub, z_lt0, z_ge0, z_e0, z_le0, z_gt0, z_lt, z_le, z_eq, z_cl, z_in, z_m1lt, z_m1ge, z_nm1, z_m1n, n1_add, n1_ad2, n1_sub, n1_eq, n1_eq', n1_le, n1_ge, n1_lt, n1_gt, z_10, z_01, z_0lt, z_0ge, z_0c, z_0in, z_0a, z_a0, z_01a, bI_f, bI_f0, t0f, t1f, cl_f, wi_t, wi_f, wc_n, wc_0, wz_0, wz_1, wq_some, wq_bind, wq_lpB, ks_l, ks_r, up2_s, up2_n, u_e, u_n, if_true, if_false, ite_true, ite_false]
    rw [h5']
    simp (disch := first | omega | with_reducible assumption) only [l_2, l_3, l_4, l_5, l_6, l_7, l_8, l_9, l_10, l_11, l_12, l_13, l_14, l_15, l_16, l_17, l_23, l_24, l_40, l_100, l_320, l_383, nI_add, pk_mul, z_sub, z_lt0, z_ge0, z_e0, z_le0, z_gt0, z_lt, z_le, z_eq, z_cl, z_in, z_m1lt, z_m1ge, z_nm1, z_m1n, n1_add, n1_ad2, n1_sub, n1_eq, n1_eq', n1_le, n1_ge, n1_lt, n1_gt, z_10, z_01, z_0lt, z_0ge, z_0c, z_0in, z_0a, z_a0, z_01a, bI_f, bI_f0, t0f, t1f, cl_f, wi_t, wi_f, wc_n, wc_0, wz_0, wz_1, wq_some, wq_bind, wq_lpB, ks_l, ks_r, up2_s, up2_n, u_e, u_n, if_true, if_false, ite_true, ite_false]
    refine md_changed_sp (fun r r1 r2 => ?_)
    unfold md_insert_b178
    simp (disch := first | omega | with_reducible assumption) only [l_2, l_3, l_4, l_5, l_6, l_7, l_8, l_9, l_10, l_11, l_12, l_13, l_14, l_15, l_16, l_17, l_23, l_24, l_40, l_100, l_320, l_383, nI_add, pk_mul, z_sub, z_lt0, z_ge0, z_e0, z_le0, z_gt0, z_lt, z_le, z_eq, z_cl, z_in, z_m1lt, z_m1ge, z_nm1, z_m1n, n1_add, n1_ad2, n1_sub, n1_eq, n1_eq', n1_le, n1_ge, n1_lt, n1_gt, z_10, z_01, z_0lt, z_0ge, z_0c, z_0in, z_0a, z_a0, z_01a, bI_f, bI_f0, t0f, t1f, cl_f, wi_t, wi_f, wc_n, wc_0, wz_0, wz_1, wq_some, wq_bind, wq_lpB, ks_l, ks_r, up2_s, up2_n, u_e, u_n, if_true, if_false, ite_true, ite_false]
    refine hq _ (sm_tr (sm_sub hs (by decide)) (sm_tr ?_ (sm_sub r1 (by decide)))) ?_ (fun i hi => ?_) ?_ ?_ ?_ r2
    · (repeat (refine sm_up (by decide) ?_)); first | exact sm_rf | assumption
    · rw [r1 5 (by decide)]; simp (disch := first | omega | with_reducible assumption) only [up2_s, up2_n, u_e, u_n]
    · rw [r1 0 (by decide)]; simp (disch := first | omega | with_reducible assumption) only [up2_s, up2_n, u_e, u_n]
      rcases ins_cut (a := j) (m := 1) i with e | ⟨q, e1, rfl⟩ | ⟨k, e1, rfl⟩
      · rw [ins_l e, u_n (by omega), g1 i e]
      · have e : q = 0 := by omega
        subst e
        rw [ins_m (by omega), Nat.add_zero, u_e]
      · rw [ins_r e1, u_n (by omega), g2 (k + 1) (by omega) (by omega)]; rfl
    · rw [r1 1 (by decide)]; simp (disch := first | omega | with_reducible assumption) only [up2_s, up2_n, u_e, u_n]; rw [hs 1 (by decide)]
    · rw [r1 2 (by decide)]; simp (disch := first | omega | with_reducible assumption) only [up2_s, up2_n, u_e, u_n]; rw [hs 2 (by decide)]
    · rw [r1 3 (by decide)]; simp (disch := first | omega | with_reducible assumption) only [up2_s, up2_n, u_e, u_n]; rw [hs 3 (by decide)]
  | succ f ih =>
    intro j τ hj hjn hs g1 g2
    rw [md_insert_l101]; unfold md_insert_b101
    simp (disch := first | omega | with_reducible assumption) only [l_2, l_3, l_4, l_5, l_6, l_7, l_8, l_9, l_10, l_11, l_12, l_13, l_14, l_15, l_16, l_17, l_23, l_24, l_40, l_100, l_320, l_383, nI_add, pk_mul, z_sub, z_lt0, z_ge0, z_e0, z_le0, z_gt0, z_lt, z_le, z_eq, z_cl, z_in, z_m1lt, z_m1ge, z_nm1, z_m1n, n1_add, n1_ad2, n1_sub, n1_eq, n1_eq', n1_le, n1_ge, n1_lt, n1_gt, z_10, z_01, z_0lt, z_0ge, z_0c, z_0in, z_0a, z_a0, z_01a, bI_f, bI_f0, t0f, t1f, cl_f, wi_t, wi_f, wc_n, wc_0, wz_0, wz_1, wq_some, wq_bind, wq_lpB, ks_l, ks_r, up2_s, up2_n, u_e, u_n, if_true, if_false, ite_true, ite_false]
    rw [z_m1 (by omega), g1 (j - 1) (by omega)]
    refine ih (j - 1) _ (by omega) (by omega) (sm_up (by decide) hs) (fun i hi => ?_) (fun i h1 h2 => ?_)
    · rw [up2_s, u_n (by omega)]; exact g1 i (by omega)
    · rw [up2_s]
      by_cases e : i = j
      · rw [e, u_e]
      · rw [u_n e]; exact g2 i (by omega) h2
theorem md_insert_lp1 {Q : Int32 × dS → Prop} {τ : dS} {a u : Nat} {v1 v2 v3 c : Int32} (hw : WT n row d) (h : MT n row d nm vl τ) (hu : u < 24) (hu1 : ∀ i, i < n → row i ≠ u) (hu2 : ∀ k, k < u → ∃ i, i < n ∧ row i = k)
    (hq : wq (lp md_insert_st (101, [v1, v2, v3, nI a, c, nI u, nI n], τ)) Q) : ∀ (f k : Nat), k + f = u → wq (lp md_insert_st (80, [v1, v2, v3, nI a, c, nI k], τ)) Q := by
  intro f
  induction f with
  | zero =>
    intro k hk
    have e : k = u := by omega
    subst e
    rw [md_insert_l80]; unfold md_insert_b80 md_insert_b86
    rw [md_where_n hw h (fun i hi e => hu1 i hi ((z_eq (by omega) (by have := hw.1.2.1 i hi; omega)).mp e).symm)]
    simp (disch := first | omega | with_reducible assumption) only [l_2, l_3, l_4, l_5, l_6, l_7, l_8, l_9, l_10, l_11, l_12, l_13, l_14, l_15, l_16, l_17, l_23, l_24, l_40, l_100, l_320, l_383, nI_add, pk_mul, z_sub, z_lt0, z_ge0, z_e0, z_le0, z_gt0, z_lt, z_le, z_eq, z_cl, z_in, z_m1lt, z_m1ge, z_nm1, z_m1n, n1_add, n1_ad2, n1_sub, n1_eq, n1_eq', n1_le, n1_ge, n1_lt, n1_gt, z_10, z_01, z_0lt, z_0ge, z_0c, z_0in, z_0a, z_a0, z_01a, bI_f, bI_f0, t0f, t1f, cl_f, wi_t, wi_f, wc_n, wc_0, wz_0, wz_1, wq_some, wq_bind, wq_lpB, ks_l, ks_r, up2_s, up2_n, u_e, u_n, if_true, if_false, ite_true, ite_false]
    rw [h.1]
    exact hq
  | succ f ih =>
    intro k hk
    obtain ⟨i, h1, h2⟩ := hu2 k (by omega)
    have hn := hw.1.1
    rw [md_insert_l80]; unfold md_insert_b80 md_insert_b86
    rw [← h2, md_where_y hw h h1]
    simp (disch := first | omega | with_reducible assumption) only [l_2, l_3, l_4, l_5, l_6, l_7, l_8, l_9, l_10, l_11, l_12, l_13, l_14, l_15, l_16, l_17, l_23, l_24, l_40, l_100, l_320, l_383, nI_add, pk_mul, z_sub, z_lt0, z_ge0, z_e0, z_le0, z_gt0, z_lt, z_le, z_eq, z_cl, z_in, z_m1lt, z_m1ge, z_nm1, z_m1n, n1_add, n1_ad2, n1_sub, n1_eq, n1_eq', n1_le, n1_ge, n1_lt, n1_gt, z_10, z_01, z_0lt, z_0ge, z_0c, z_0in, z_0a, z_a0, z_01a, bI_f, bI_f0, t0f, t1f, cl_f, wi_t, wi_f, wc_n, wc_0, wz_0, wz_1, wq_some, wq_bind, wq_lpB, ks_l, ks_r, up2_s, up2_n, u_e, u_n, if_true, if_false, ite_true, ite_false]
    rw [h2]
    exact ih (k + 1) (by omega)
/-- the model's insert: refused, or a node u at place a at depth c -/
theorem md_insert_run {Q : Int32 × dS → Prop} {τ : dS} {a u c : Nat} {v1 v2 v3 : Int32} (hw : WT n row d) (h : MT n row d nm vl τ) (hn : n < 24) (ha : a ≤ n) (hu : u < 24) (hu1 : ∀ i, i < n → row i ≠ u) (hu2 : ∀ k, k < u → ∃ i, i < n ∧ row i = k)
    (hq : ∀ τ', sm [0, 1, 2, 3, 5, 10] τ τ' → τ' 5 0 = nI (n + 1) → (∀ i, i < n + 1 → τ' 0 i = nI (ins a 1 row (fun _ => u) i)) → τ' 1 = upd (τ 1) u (nI c) → τ' 2 = upd (τ 2) u v3 → τ' 3 = upd (τ 3) u 0 → (∀ s, s < 8 → τ' 10 s = 0) → Q (nI u, τ')) :
    wq (lp md_insert_st (80, [v1, v2, v3, nI a, nI c, 0], τ)) Q := by
  have := md_insert_lp1 (v1 := v1) (v2 := v2) (v3 := v3) (a := a) (c := nI c) (Q := Q) hw h hu hu1 hu2 (md_insert_lp2 hn ha hu h.1 (fun i hi => (h.2 i hi).1) hq (n - a) n τ (by omega) (Nat.le_refl _) sm_rf (fun i hi => (h.2 i hi).1) (fun i h1 h2 => by omega)) u 0 (by omega)
  rw [nI_0] at this; exact this
/-- a new tree out of an old one and a block -/
theorem MT_ins {m a : Nat} {rb g nm' : Nat → Nat} {vl' : Nat → Int32} {τ' : dS} (h5 : τ' 5 0 = nI (n + m)) (h0 : ∀ i, i < n + m → τ' 0 i = nI (ins a m row rb i)) (ha : a ≤ n)
    (hT : ∀ i, i < n → τ' 1 (row i) = nI (d i) ∧ τ' 2 (row i) = nI (nm' (row i)) ∧ τ' 3 (row i) = vl' (row i)) (hB : ∀ j, j < m → τ' 1 (rb j) = nI (g j) ∧ τ' 2 (rb j) = nI (nm' (rb j)) ∧ τ' 3 (rb j) = vl' (rb j)) : MT (n + m) (ins a m row rb) (ins a m d g) nm' vl' τ' := by
  refine ⟨h5, fun i hi => ⟨h0 i hi, ?_⟩⟩
  rcases ins_cut (a := a) (m := m) i with e | ⟨j, e1, rfl⟩ | ⟨k, e1, rfl⟩
  · rw [ins_l e, ins_l e]; exact hT i (by omega)
  · rw [ins_m e1, ins_m e1]; exact hB j e1
  · rw [ins_r e1, ins_r e1]; exact hT k (by omega)
/-- the model's remove: the row without what is at and below a place -/
theorem md_remove_lp {Q : Int32 × dS → Prop} {τ0 : dS} {a m N : Nat} {v1 : Int32} (hN : N ≤ 24) (ham : a + m ≤ N) (h0 : ∀ i, i < N → τ0 0 i = nI (row i)) (h5 : τ0 5 0 = nI (N - m))
    (hq : ∀ τ', sm [0, 10] τ0 τ' → (∀ i, i < N - m → τ' 0 i = nI (del a m row i)) → (∀ s, s < 8 → τ' 10 s = 0) → Q (nI m, τ')) :
    ∀ (f k : Nat) (τ : dS), k + f = N - m → a ≤ k → sm [0] τ0 τ → (∀ i, i < k → τ 0 i = nI (del a m row i)) → (∀ i, k ≤ i → i < N → τ 0 i = nI (row i)) → wq (lp md_remove_st (33, [v1, nI a, nI m, nI k], τ)) Q := by
  intro f
  induction f with
  | zero =>
    intro k τ hk hak hs g1 g2
    rw [md_remove_l33]; unfold md_remove_b33
    rw [hs 5 (by decide), h5]
    simp (disch := first | omega | with_reducible assumption) only [l_2, l_3, l_4, l_5, l_6, l_7, l_8, l_9, l_10, l_11, l_12, l_13, l_14, l_15, l_16, l_17, l_23, l_24, l_40, l_100, l_320, l_383, nI_add, pk_mul, z_sub, z_lt0, z_ge0, z_e0, z_le0, z_gt0, z_lt, z_le, z_eq, z_cl, z_in, z_m1lt, z_m1ge, z_nm1, z_m1n, n1_add, n1_ad2, n1_sub, n1_eq, n1_eq', n1_le, n1_ge, n1_lt, n1_gt, z_10, z_01, z_0lt, z_0ge, z_0c, z_0in, z_0a, z_a0, z_01a, bI_f, bI_f0, t0f, t1f, cl_f, wi_t, wi_f, wc_n, wc_0, wz_0, wz_1, wq_some, wq_bind, wq_lpB, ks_l, ks_r, up2_s, up2_n, u_e, u_n, if_true, if_false, ite_true, ite_false]
    refine md_changed_sp (fun r r1 r2 => ?_)
    unfold md_remove_b68
    simp (disch := first | omega | with_reducible assumption) only [l_2, l_3, l_4, l_5, l_6, l_7, l_8, l_9, l_10, l_11, l_12, l_13, l_14, l_15, l_16, l_17, l_23, l_24, l_40, l_100, l_320, l_383, nI_add, pk_mul, z_sub, z_lt0, z_ge0, z_e0, z_le0, z_gt0, z_lt, z_le, z_eq, z_cl, z_in, z_m1lt, z_m1ge, z_nm1, z_m1n, n1_add, n1_ad2, n1_sub, n1_eq, n1_eq', n1_le, n1_ge, n1_lt, n1_gt, z_10, z_01, z_0lt, z_0ge, z_0c, z_0in, z_0a, z_a0, z_01a, bI_f, bI_f0, t0f, t1f, cl_f, wi_t, wi_f, wc_n, wc_0, wz_0, wz_1, wq_some, wq_bind, wq_lpB, ks_l, ks_r, up2_s, up2_n, u_e, u_n, if_true, if_false, ite_true, ite_false]
    exact hq _ (sm_tr (sm_sub hs (by decide)) (sm_sub r1 (by decide))) (fun i hi => by rw [r1 0 (by decide)]; exact g1 i (by omega)) r2
  | succ f ih =>
    intro k τ hk hak hs g1 g2
    rw [md_remove_l33]; unfold md_remove_b33
    rw [hs 5 (by decide), h5]
    simp (disch := first | omega | with_reducible assumption) only [l_2, l_3, l_4, l_5, l_6, l_7, l_8, l_9, l_10, l_11, l_12, l_13, l_14, l_15, l_16, l_17, l_23, l_24, l_40, l_100, l_320, l_383, nI_add, pk_mul, z_sub, z_lt0, z_ge0, z_e0, z_le0, z_gt0, z_lt, z_le, z_eq, z_cl, z_in, z_m1lt, z_m1ge, z_nm1, z_m1n, n1_add, n1_ad2, n1_sub, n1_eq, n1_eq', n1_le, n1_ge, n1_lt, n1_gt, z_10, z_01, z_0lt, z_0ge, z_0c, z_0in, z_0a, z_a0, z_01a, bI_f, bI_f0, t0f, t1f, cl_f, wi_t, wi_f, wc_n, wc_0, wz_0, wz_1, wq_some, wq_bind, wq_lpB, ks_l, ks_r, up2_s, up2_n, u_e, u_n, if_true, if_false, ite_true, ite_false]
    refine ih (k + 1) _ (by omega) (by omega) (sm_up (by decide) hs) (fun i hi => ?_) (fun i h1 h2 => ?_)
    · rw [up2_s]
      by_cases e : i = k
      · rw [e, u_e, del_r hak]; exact g2 _ (by omega) (by omega)
      · rw [u_n e]; exact g1 i (by omega)
    · rw [up2_s, u_n (by omega)]; exact g2 i (by omega) h2
theorem md_remove_y {Q : Int32 × dS → Prop} {τ : dS} (hw : WT n row d) (h : MT n row d nm vl τ) {a : Nat} (ha : a < n) (hq : ∀ τ', sm [0, 5, 10] τ τ' → MT (n - (bh n d a - a)) (del a (bh n d a - a) row) (del a (bh n d a - a) d) nm vl τ' → (∀ s, s < 8 → τ' 10 s = 0) → Q (nI (bh n d a - a), τ')) : wq (md_remove (nI (row a)) τ) Q := by
  have hn := hw.1.1
  have hb1 := bh_lt (n := n) (d := d) ha
  have hb2 := bh_le (n := n) (d := d) ha
  unfold md_remove md_remove_b0
  rw [md_where_y hw h ha]
  unfold md_remove_b5
  simp (disch := first | omega | with_reducible assumption) only [l_2, l_3, l_4, l_5, l_6, l_7, l_8, l_9, l_10, l_11, l_12, l_13, l_14, l_15, l_16, l_17, l_23, l_24, l_40, l_100, l_320, l_383, nI_add, pk_mul, z_sub, z_lt0, z_ge0, z_e0, z_le0, z_gt0, z_lt, z_le, z_eq, z_cl, z_in, z_m1lt, z_m1ge, z_nm1, z_m1n, n1_add, n1_ad2, n1_sub, n1_eq, n1_eq', n1_le, n1_ge, n1_lt, n1_gt, z_10, z_01, z_0lt, z_0ge, z_0c, z_0in, z_0a, z_a0, z_01a, bI_f, bI_f0, t0f, t1f, cl_f, wi_t, wi_f, wc_n, wc_0, wz_0, wz_1, wq_some, wq_bind, wq_lpB, ks_l, ks_r, up2_s, up2_n, u_e, u_n, if_true, if_false, ite_true, ite_false]
  rw [md_behind_sp hw h ha]
  unfold md_remove_b17 md_remove_b20 md_remove_b30
  simp (disch := first | omega | with_reducible assumption) only [l_2, l_3, l_4, l_5, l_6, l_7, l_8, l_9, l_10, l_11, l_12, l_13, l_14, l_15, l_16, l_17, l_23, l_24, l_40, l_100, l_320, l_383, nI_add, pk_mul, z_sub, z_lt0, z_ge0, z_e0, z_le0, z_gt0, z_lt, z_le, z_eq, z_cl, z_in, z_m1lt, z_m1ge, z_nm1, z_m1n, n1_add, n1_ad2, n1_sub, n1_eq, n1_eq', n1_le, n1_ge, n1_lt, n1_gt, z_10, z_01, z_0lt, z_0ge, z_0c, z_0in, z_0a, z_a0, z_01a, bI_f, bI_f0, t0f, t1f, cl_f, wi_t, wi_f, wc_n, wc_0, wz_0, wz_1, wq_some, wq_bind, wq_lpB, ks_l, ks_r, up2_s, up2_n, u_e, u_n, if_true, if_false, ite_true, ite_false]
  rw [h.1]
  simp (disch := first | omega | with_reducible assumption) only [l_2, l_3, l_4, l_5, l_6, l_7, l_8, l_9, l_10, l_11, l_12, l_13, l_14, l_15, l_16, l_17, l_23, l_24, l_40, l_100, l_320, l_383, nI_add, pk_mul, z_sub, z_lt0, z_ge0, z_e0, z_le0, z_gt0, z_lt, z_le, z_eq, z_cl, z_in, z_m1lt, z_m1ge, z_nm1, z_m1n, n1_add, n1_ad2, n1_sub, n1_eq, n1_eq', n1_le, n1_ge, n1_lt, n1_gt, z_10, z_01, z_0lt, z_0ge, z_0c, z_0in, z_0a, z_a0, z_01a, bI_f, bI_f0, t0f, t1f, cl_f, wi_t, wi_f, wc_n, wc_0, wz_0, wz_1, wq_some, wq_bind, wq_lpB, ks_l, ks_r, up2_s, up2_n, u_e, u_n, if_true, if_false, ite_true, ite_false]
  refine md_remove_lp (row := row) (τ0 := up2 τ 5 0 (nI (n - (bh n d a - a)))) (N := n) hn (by omega) (fun i hi => by simp (disch := first | omega | with_reducible assumption) only [up2_s, up2_n, u_e, u_n]; exact (h.2 i hi).1) (by simp (disch := first | omega | with_reducible assumption) only [up2_s, up2_n, u_e, u_n]) (fun τ' s1 s2 s3 => ?_) (n - (bh n d a - a) - a) a _ (by omega) (Nat.le_refl _) sm_rf (fun i hi => by simp (disch := first | omega | with_reducible assumption) only [up2_s, up2_n, u_e, u_n]; rw [del_l hi]; exact (h.2 i (by omega)).1) (fun i h1 h2 => by simp (disch := first | omega | with_reducible assumption) only [up2_s, up2_n, u_e, u_n]; exact (h.2 i h2).1)
  refine hq τ' (sm_tr (sm_up (by decide) sm_rf) (sm_sub s1 (by decide))) ⟨by rw [s1 5 (by decide)]; simp (disch := first | omega | with_reducible assumption) only [up2_s, up2_n, u_e, u_n], fun i hi => ⟨s2 i hi, ?_⟩⟩ s3
  rw [s1 1 (by decide), s1 2 (by decide), s1 3 (by decide)]
  simp (disch := first | omega | with_reducible assumption) only [up2_s, up2_n, u_e, u_n]
  by_cases e : i < a
  · rw [del_l e, del_l e]; exact (h.2 i (by omega)).2
  · rw [del_r (by omega), del_r (by omega)]; exact (h.2 _ (by omega)).2
theorem md_remove_n {τ : dS} (hw : WT n row d) (h : MT n row d nm vl τ) {v : Int32} (hv : ∀ i, i < n → v ≠ nI (row i)) : md_remove v τ = some (-1, τ) := by
  apply eq_of_wq
  unfold md_remove md_remove_b0
  rw [md_where_n hw h hv]
  unfold md_remove_b5
  simp (disch := first | omega | with_reducible assumption) only [l_2, l_3, l_4, l_5, l_6, l_7, l_8, l_9, l_10, l_11, l_12, l_13, l_14, l_15, l_16, l_17, l_23, l_24, l_40, l_100, l_320, l_383, nI_add, pk_mul, z_sub, z_lt0, z_ge0, z_e0, z_le0, z_gt0, z_lt, z_le, z_eq, z_cl, z_in, z_m1lt, z_m1ge, z_nm1, z_m1n, n1_add, n1_ad2, n1_sub, n1_eq, n1_eq', n1_le, n1_ge, n1_lt, n1_gt, z_10, z_01, z_0lt, z_0ge, z_0c, z_0in, z_0a, z_a0, z_01a, bI_f, bI_f0, t0f, t1f, cl_f, wi_t, wi_f, wc_n, wc_0, wz_0, wz_1, wq_some, wq_bind, wq_lpB, ks_l, ks_r, up2_s, up2_n, u_e, u_n, if_true, if_false, ite_true, ite_false]
end
