/-! TransletDeskModel: move, change, child -/
set_option maxRecDepth 100000
theorem i_acs (b c : Int32) : c + (b - c) = b := by
  have : ∀ b c : BitVec 32, c + (b - c) = b := fun b c => by rw [BitVec.add_comm]; exact BitVec.sub_add_cancel b c
  exact Int32.toBitVec_inj.mp (this b.toBitVec c.toBitVec)
theorem nI_by {A B C : Nat} (h : C ≤ A) : nI A + (nI B - nI C) = nI (A - C + B) := by
  rw [show nI A = nI (A - C) + nI C by rw [nI_add]; congr 1; omega, Int32.add_assoc, i_acs, nI_add]
section
variable {n : Nat} {row d nm : Nat → Nat} {vl : Nat → Int32}
theorem md_move_lp54 {Q : Int32 × dS → Prop} {τ0 : dS} {a m : Nat} {v1 v2 v3 : Int32} (hn : n ≤ 24) (ham : a + m ≤ n) (h5 : τ0 5 0 = nI n) (h0 : ∀ i, i < n → τ0 0 i = nI (row i))
    (hq : ∀ τ', sm [4] τ0 τ' → (∀ j, j < m → τ' 4 j = nI (row (a + j))) → wq (lp md_move_st (99, [v1, v2, v3, nI a, nI m, nI a], up2 τ' 5 0 (nI (n - m)))) Q) :
    ∀ (f k : Nat) (τ : dS), k + f = m → sm [4] τ0 τ → (∀ j, j < k → τ 4 j = nI (row (a + j))) → wq (lp md_move_st (54, [v1, v2, v3, nI a, nI m, nI k], τ)) Q := by
  intro f
  induction f with
  | zero =>
    intro k τ hk hs g1
    rw [md_move_l54]; unfold md_move_b54 md_move_b95
    rw [hs 5 (by decide), h5]
    simp (disch := first | omega | with_reducible assumption) only [l_2, l_3, l_4, l_5, l_6, l_7, l_8, l_9, l_10, l_11, l_12, l_13, l_14, l_15, l_16, l_17, l_23, l_24, l_40, l_100, l_320, l_383, nI_add, pk_mul, z_sub, z_lt0, z_ge0, z_e0, z_le0, z_gt0, z_lt, z_le, z_eq, z_cl, z_in, z_m1lt, z_m1ge, z_nm1, z_m1n, n1_add, n1_ad2, n1_sub, n1_eq, n1_eq', n1_le, n1_ge, n1_lt, n1_gt, z_10, z_01, z_0lt, z_0ge, z_0c, z_0in, z_0a, z_a0, z_01a, bI_f, bI_f0, t0f, t1f, cl_f, wi_t, wi_f, wc_n, wc_0, wz_0, wz_1, wq_some, wq_bind, wq_lpB, ks_l, ks_r, up2_s, up2_n, u_e, u_n, if_true, if_false, ite_true, ite_false]
    exact hq τ hs (fun j hj => g1 j (by omega))
  | succ f ih =>
    intro k τ hk hs g1
    rw [md_move_l54]; unfold md_move_b54 md_move_b95
    simp (disch := first | omega | with_reducible assumption) only [l_2, l_3, l_4, l_5, l_6, l_7, l_8, l_9, l_10, l_11, l_12, l_13, l_14, l_15, l_16, l_17, l_23, l_24, l_40, l_100, l_320, l_383, nI_add, pk_mul, z_sub, z_lt0, z_ge0, z_e0, z_le0, z_gt0, z_lt, z_le, z_eq, z_cl, z_in, z_m1lt, z_m1ge, z_nm1, z_m1n, n1_add, n1_ad2, n1_sub, n1_eq, n1_eq', n1_le, n1_ge, n1_lt, n1_gt, z_10, z_01, z_0lt, z_0ge, z_0c, z_0in, z_0a, z_a0, z_01a, bI_f, bI_f0, t0f, t1f, cl_f, wi_t, wi_f, wc_n, wc_0, wz_0, wz_1, wq_some, wq_bind, wq_lpB, ks_l, ks_r, up2_s, up2_n, u_e, u_n, if_true, if_false, ite_true, ite_false]
    rw [hs 0 (by decide), h0 _ (by omega : a + k < n)]
    refine ih (k + 1) _ (by omega) (sm_up (by decide) hs) (fun j hj => ?_)
    rw [up2_s]
    by_cases e : j = k
    · rw [e, u_e]
    · rw [u_n e]; exact g1 j (by omega)
theorem md_move_lp99 {Q : Int32 × dS → Prop} {τ0 : dS} {a m N : Nat} {v1 v2 v3 : Int32} (hN : N ≤ 24) (ham : a + m ≤ N) (h0 : ∀ i, i < N → τ0 0 i = nI (row i)) (h5 : τ0 5 0 = nI (N - m))
    (hq : ∀ τ', sm [0] τ0 τ' → (∀ i, i < N - m → τ' 0 i = nI (del a m row i)) → wq (md_where v2 τ') (fun r => wq (md_move_b136 v1 v2 v3 (nI a) (nI m) r.1 r.2) (ks md_move_st Q))) :
    ∀ (f k : Nat) (τ : dS), k + f = N - m → a ≤ k → sm [0] τ0 τ → (∀ i, i < k → τ 0 i = nI (del a m row i)) → (∀ i, k ≤ i → i < N → τ 0 i = nI (row i)) → wq (lp md_move_st (99, [v1, v2, v3, nI a, nI m, nI k], τ)) Q := by
  intro f
  induction f with
  | zero =>
    intro k τ hk hak hs g1 g2
    rw [md_move_l99]; unfold md_move_b99
    rw [hs 5 (by decide), h5]
    simp (disch := first | omega | with_reducible assumption) only [l_2, l_3, l_4, l_5, l_6, l_7, l_8, l_9, l_10, l_11, l_12, l_13, l_14, l_15, l_16, l_17, l_23, l_24, l_40, l_100, l_320, l_383, nI_add, pk_mul, z_sub, z_lt0, z_ge0, z_e0, z_le0, z_gt0, z_lt, z_le, z_eq, z_cl, z_in, z_m1lt, z_m1ge, z_nm1, z_m1n, n1_add, n1_ad2, n1_sub, n1_eq, n1_eq', n1_le, n1_ge, n1_lt, n1_gt, z_10, z_01, z_0lt, z_0ge, z_0c, z_0in, z_0a, z_a0, z_01a, bI_f, bI_f0, t0f, t1f, cl_f, wi_t, wi_f, wc_n, wc_0, wz_0, wz_1, wq_some, wq_bind, wq_lpB, ks_l, ks_r, up2_s, up2_n, u_e, u_n, if_true, if_false, ite_true, ite_false]
    exact hq τ hs (fun i hi => g1 i (by omega))
  | succ f ih =>
    intro k τ hk hak hs g1 g2
    rw [md_move_l99]; unfold md_move_b99
    rw [hs 5 (by decide), h5]
    simp (disch := first | omega | with_reducible assumption) only [l_2, l_3, l_4, l_5, l_6, l_7, l_8, l_9, l_10, l_11, l_12, l_13, l_14, l_15, l_16, l_17, l_23, l_24, l_40, l_100, l_320, l_383, nI_add, pk_mul, z_sub, z_lt0, z_ge0, z_e0, z_le0, z_gt0, z_lt, z_le, z_eq, z_cl, z_in, z_m1lt, z_m1ge, z_nm1, z_m1n, n1_add, n1_ad2, n1_sub, n1_eq, n1_eq', n1_le, n1_ge, n1_lt, n1_gt, z_10, z_01, z_0lt, z_0ge, z_0c, z_0in, z_0a, z_a0, z_01a, bI_f, bI_f0, t0f, t1f, cl_f, wi_t, wi_f, wc_n, wc_0, wz_0, wz_1, wq_some, wq_bind, wq_lpB, ks_l, ks_r, up2_s, up2_n, u_e, u_n, if_true, if_false, ite_true, ite_false]
    refine ih (k + 1) _ (by omega) (by omega) (sm_up (by decide) hs) (fun i hi => ?_) (fun i h1 h2 => ?_)
    · rw [up2_s]
      by_cases e : i = k
      · rw [e, u_e, del_r hak]; exact g2 _ (by omega) (by omega)
      · rw [u_n e]; exact g1 i (by omega)
    · rw [up2_s, u_n (by omega)]; exact g2 i (by omega) h2
theorem md_move_lp176 {Q : Int32 × dS → Prop} {τ0 : dS} {a m t : Nat} {v1 v2 v3 v6 v8 : Int32} (hn : n + m ≤ 24) (ht0 : 0 < t) (htn : t ≤ n) (h0 : ∀ i, i < n → τ0 0 i = nI (row i)) (h5 : τ0 5 0 = nI n)
    (hq : ∀ τ', sm [0] τ0 τ' → (∀ i, i < t → τ' 0 i = nI (row i)) → (∀ i, t ≤ i → i < n → τ' 0 (i + m) = nI (row i)) → wq (md_move_b217 v1 v2 v3 (nI a) (nI m) v6 (nI t) v8 (up2 τ' 5 0 (nI (n + m)))) (ks md_move_st Q)) :
    ∀ (f j : Nat) (τ : dS), t + f = j → j ≤ n → sm [0] τ0 τ → (∀ i, i < j → τ 0 i = nI (row i)) → (∀ i, j ≤ i → i < n → τ 0 (i + m) = nI (row i)) → wq (lp md_move_st (176, [v1, v2, v3, nI a, nI m, v6, nI t, v8, nI (j - 1)], τ)) Q := by
  intro f
  induction f with
  | zero =>
    intro j τ hj hjn hs g1 g2
    rw [md_move_l176]; unfold md_move_b176
    rw [hs 5 (by decide), h5]
    simp (disch := first | omega | with_reducible assumption) only [l_2, l_3, l_4, l_5, l_6, l_7, l_8, l_9, l_10, l_11, l_12, l_13, l_14, l_15, l_16, l_17, l_23, l_24, l_40, l_100, l_320, l_383, nI_add, pk_mul, z_sub, z_lt0, z_ge0, z_e0, z_le0, z_gt0, z_lt, z_le, z_eq, z_cl, z_in, z_m1lt, z_m1ge, z_nm1, z_m1n, n1_add, n1_ad2, n1_sub, n1_eq, n1_eq', n1_le, n1_ge, n1_lt, n1_gt, z_10, z_01, z_0lt, z_0ge, z_0c, z_0in, z_0a, z_a0, z_01a, bI_f, bI_f0, t0f, t1f, cl_f, wi_t, wi_f, wc_n, wc_0, wz_0, wz_1, wq_some, wq_bind, wq_lpB, ks_l, ks_r, up2_s, up2_n, u_e, u_n, if_true, if_false, ite_true, ite_false]
    exact hq τ hs (fun i hi => g1 i (by omega)) (fun i h1 h2 => g2 i (by omega) h2)
  | succ f ih =>
    intro j τ hj hjn hs g1 g2
    rw [md_move_l176]; unfold md_move_b176
    simp (disch := first | omega | with_reducible assumption) only [l_2, l_3, l_4, l_5, l_6, l_7, l_8, l_9, l_10, l_11, l_12, l_13, l_14, l_15, l_16, l_17, l_23, l_24, l_40, l_100, l_320, l_383, nI_add, pk_mul, z_sub, z_lt0, z_ge0, z_e0, z_le0, z_gt0, z_lt, z_le, z_eq, z_cl, z_in, z_m1lt, z_m1ge, z_nm1, z_m1n, n1_add, n1_ad2, n1_sub, n1_eq, n1_eq', n1_le, n1_ge, n1_lt, n1_gt, z_10, z_01, z_0lt, z_0ge, z_0c, z_0in, z_0a, z_a0, z_01a, bI_f, bI_f0, t0f, t1f, cl_f, wi_t, wi_f, wc_n, wc_0, wz_0, wz_1, wq_some, wq_bind, wq_lpB, ks_l, ks_r, up2_s, up2_n, u_e, u_n, if_true, if_false, ite_true, ite_false]
    rw [z_m1 (by omega), g1 (j - 1) (by omega)]
    refine ih (j - 1) _ (by omega) (by omega) (sm_up (by decide) hs) (fun i hi => ?_) (fun i h1 h2 => ?_)
    · rw [up2_s, u_n (by omega)]; exact g1 i (by omega)
    · rw [up2_s]
      by_cases e : i = j - 1
      · rw [e, u_e]
      · rw [u_n (by omega)]; exact g2 i (by omega) h2
theorem md_move_lp246 {Q : Int32 × dS → Prop} {τ0 : dS} {a m t : Nat} {rb : Nat → Nat} {v1 v2 v3 v6 v8 by_ : Int32} (hv8 : v8 = 0 ∨ v8 = 1) (htm : t + m ≤ 24) (hrb : ∀ j, j < m → rb j < 24) (hri : ∀ i j, i < m → j < m → rb i = rb j → i = j) (h4 : ∀ j, j < m → τ0 4 j = nI (rb j))
    (hq : ∀ τ', sm [0, 1, 10] τ0 τ' → (∀ i, (i < t ∨ t + m ≤ i) → τ' 0 i = τ0 0 i) → (∀ j, j < m → τ' 0 (t + j) = nI (rb j)) → (∀ x, (∀ j, j < m → rb j ≠ x) → τ' 1 x = τ0 1 x) → (∀ j, j < m → τ' 1 (rb j) = τ0 1 (rb j) + by_) → (∀ s, s < 8 → τ' 10 s = 0) → Q (v8, τ')) :
    ∀ (f k : Nat) (τ : dS), k + f = m → sm [0, 1] τ0 τ → (∀ i, (i < t ∨ t + m ≤ i) → τ 0 i = τ0 0 i) → (∀ j, j < k → τ 0 (t + j) = nI (rb j)) → (∀ x, (∀ j, j < k → rb j ≠ x) → τ 1 x = τ0 1 x) → (∀ j, j < k → τ 1 (rb j) = τ0 1 (rb j) + by_) → wq (lp md_move_st (246, [v1, v2, v3, nI a, nI m, v6, nI t, v8, by_, nI k], τ)) Q := by
  intro f
  induction f with
  | zero =>
    intro k τ hk hs g1 g2 g3 g4
    rw [md_move_l246]; unfold md_move_b246
    simp (disch := first | omega | with_reducible assumption) only [l_2, l_3, l_4, l_5, l_6, l_7, l_8, l_9, l_10, l_11, l_12, l_13, l_14, l_15, l_16, l_17, l_23, l_24, l_40, l_100, l_320, l_383, nI_add, pk_mul, z_sub, z_lt0, z_ge0, z_e0, z_le0, z_gt0, z_lt, z_le, z_eq, z_cl, z_in, z_m1lt, z_m1ge, z_nm1, z_m1n, n1_add, n1_ad2, n1_sub, n1_eq, n1_eq', n1_le, n1_ge, n1_lt, n1_gt, z_10, z_01, z_0lt, z_0ge, z_0c, z_0in, z_0a, z_a0, z_01a, bI_f, bI_f0, t0f, t1f, cl_f, wi_t, wi_f, wc_n, wc_0, wz_0, wz_1, wq_some, wq_bind, wq_lpB, ks_l, ks_r, up2_s, up2_n, u_e, u_n, if_true, if_false, ite_true, ite_false]
    refine md_changed_sp (fun r r1 r2 => ?_)
    unfold md_move_b297
    rw [wq_zok]
    refine ⟨hv8, ?_⟩
    simp (disch := first | omega | with_reducible assumption) only [l_2, l_3, l_4, l_5, l_6, l_7, l_8, l_9, l_10, l_11, l_12, l_13, l_14, l_15, l_16, l_17, l_23, l_24, l_40, l_100, l_320, l_383, nI_add, pk_mul, z_sub, z_lt0, z_ge0, z_e0, z_le0, z_gt0, z_lt, z_le, z_eq, z_cl, z_in, z_m1lt, z_m1ge, z_nm1, z_m1n, n1_add, n1_ad2, n1_sub, n1_eq, n1_eq', n1_le, n1_ge, n1_lt, n1_gt, z_10, z_01, z_0lt, z_0ge, z_0c, z_0in, z_0a, z_a0, z_01a, bI_f, bI_f0, t0f, t1f, cl_f, wi_t, wi_f, wc_n, wc_0, wz_0, wz_1, wq_some, wq_bind, wq_lpB, ks_l, ks_r, up2_s, up2_n, u_e, u_n, if_true, if_false, ite_true, ite_false]
    have e : k = m := by omega
    subst e
    refine hq _ (sm_tr (sm_sub hs (by decide)) (sm_sub r1 (by decide))) ?_ ?_ ?_ ?_ r2
    · rw [r1 0 (by decide)]; exact g1
    · rw [r1 0 (by decide)]; exact g2
    · rw [r1 1 (by decide)]; exact g3
    · rw [r1 1 (by decide)]; exact g4
  | succ f ih =>
    intro k τ hk hs g1 g2 g3 g4
    have hk2 := hrb k (by omega)
    rw [md_move_l246]; unfold md_move_b246 md_move_b270
    simp (disch := first | omega | with_reducible assumption) only [l_2, l_3, l_4, l_5, l_6, l_7, l_8, l_9, l_10, l_11, l_12, l_13, l_14, l_15, l_16, l_17, l_23, l_24, l_40, l_100, l_320, l_383, nI_add, pk_mul, z_sub, z_lt0, z_ge0, z_e0, z_le0, z_gt0, z_lt, z_le, z_eq, z_cl, z_in, z_m1lt, z_m1ge, z_nm1, z_m1n, n1_add, n1_ad2, n1_sub, n1_eq, n1_eq', n1_le, n1_ge, n1_lt, n1_gt, z_10, z_01, z_0lt, z_0ge, z_0c, z_0in, z_0a, z_a0, z_01a, bI_f, bI_f0, t0f, t1f, cl_f, wi_t, wi_f, wc_n, wc_0, wz_0, wz_1, wq_some, wq_bind, wq_lpB, ks_l, ks_r, up2_s, up2_n, u_e, u_n, if_true, if_false, ite_true, ite_false]
    rw [hs 4 (by decide), h4 k (by omega)]
    simp (disch := first | omega | with_reducible assumption) only [l_2, l_3, l_4, l_5, l_6, l_7, l_8, l_9, l_10, l_11, l_12, l_13, l_14, l_15, l_16, l_17, l_23, l_24, l_40, l_100, l_320, l_383, nI_add, pk_mul, z_sub, z_lt0, z_ge0, z_e0, z_le0, z_gt0, z_lt, z_le, z_eq, z_cl, z_in, z_m1lt, z_m1ge, z_nm1, z_m1n, n1_add, n1_ad2, n1_sub, n1_eq, n1_eq', n1_le, n1_ge, n1_lt, n1_gt, z_10, z_01, z_0lt, z_0ge, z_0c, z_0in, z_0a, z_a0, z_01a, bI_f, bI_f0, t0f, t1f, cl_f, wi_t, wi_f, wc_n, wc_0, wz_0, wz_1, wq_some, wq_bind, wq_lpB, ks_l, ks_r, up2_s, up2_n, u_e, u_n, if_true, if_false, ite_true, ite_false]
    refine ih (k + 1) _ (by omega) (sm_up (by decide) (sm_up (by decide) hs)) (fun i hi => ?_) (fun j hj => ?_) (fun x hx => ?_) (fun j hj => ?_)
    · simp (disch := first | omega | with_reducible assumption) only [up2_s, up2_n, u_e, u_n]; exact g1 i hi
    · simp (disch := first | omega | with_reducible assumption) only [up2_s, up2_n, u_e, u_n]
      by_cases e : j = k
      · rw [e, u_e]
      · rw [u_n (by omega)]; exact g2 j (by omega)
    · simp (disch := first | omega | with_reducible assumption) only [up2_s, up2_n, u_e, u_n]
      rw [u_n (fun e => hx k (by omega) e.symm)]
      exact g3 x (fun j hj => hx j (by omega))
    · simp (disch := first | omega | with_reducible assumption) only [up2_s, up2_n, u_e, u_n]
      by_cases e : j = k
      · rw [e, u_e, g3 (rb k) (fun i hi he => by have := hri i k (by omega) (by omega) he; omega)]
      · rw [u_n (fun he => e (hri j k (by omega) (by omega) he))]; exact g4 j (by omega)
theorem del_inj (hr : rw24 n row) {a m : Nat} (ham : a + m ≤ n) : rw24 (n - m) (del a m row) := by
  refine ⟨by have := hr.1; omega, fun i hi => ?_, fun i j hi hj e => ?_⟩
  · by_cases g : i < a
    · rw [del_l g]; exact hr.2.1 i (by omega)
    · rw [del_r (by omega)]; exact hr.2.1 _ (by omega)
  · by_cases g : i < a
    · by_cases g2 : j < a
      · rw [del_l g, del_l g2] at e; exact hr.2.2 _ _ (by omega) (by omega) e
      · rw [del_l g, del_r (by omega)] at e; have := hr.2.2 _ _ (by omega) (by omega) e; omega
    · by_cases g2 : j < a
      · rw [del_r (by omega), del_l g2] at e; have := hr.2.2 _ _ (by omega) (by omega) e; omega
      · rw [del_r (by omega), del_r (by omega)] at e; have := hr.2.2 _ _ (by omega) (by omega) e; omega
theorem WT_del (hw : WT n row d) {a : Nat} (h0 : 0 < a) (ha : a < n) : WT (n - (bh n d a - a)) (del a (bh n d a - a) row) (del a (bh n d a - a) d) :=
  ⟨del_inj hw.1 (by have := bh_lt (n := n) (d := d) ha; have := bh_le (n := n) (d := d) ha; omega), del_wfT hw.2 h0 ha⟩
/-- a place's number when a block is taken out -/
def cut (a m i : Nat) : Nat := if i < a then i else i - m
theorem cut_lt {a m q : Nat} (hq : q < n) (hc : q < a ∨ a + m ≤ q) (ham : a + m ≤ n) : cut a m q < n - m := by
  unfold cut
  by_cases e : q < a
  · rw [if_pos e]; omega
  · rw [if_neg e]; omega
theorem del_cut {α : Type} {a m q : Nat} (f : Nat → α) (hc : q < a ∨ a + m ≤ q) : del a m f (cut a m q) = f q := by
  unfold cut
  by_cases e : q < a
  · rw [if_pos e, del_l e]
  · rw [if_neg e, del_r (by omega), show q - m + m = q by omega]
theorem md_move_y {Q : Int32 × dS → Prop} {τ : dS} (hw : WT n row d) (h : MT n row d nm vl τ) {a q K : Nat} (ha : a < n) (hqn : q < n) (hqa : q < a ∨ bh n d a ≤ q) (hK : K < 2147483648)
    (hy : ∀ τ', sm [0, 1, 4, 5, 10] τ τ' → hc (n - (bh n d a - a)) (del a (bh n d a - a) d) (cut a (bh n d a - a) q) K →
      MT (n - (bh n d a - a) + (bh n d a - a)) (ins (cp (n - (bh n d a - a)) (del a (bh n d a - a) d) (cut a (bh n d a - a) q) K) (bh n d a - a) (del a (bh n d a - a) row) (sub_ a row)) (ins (cp (n - (bh n d a - a)) (del a (bh n d a - a) d) (cut a (bh n d a - a) q) K) (bh n d a - a) (del a (bh n d a - a) d) (fun j => d (a + j) - d a + (d q + 1))) nm vl τ' → (∀ s, s < 8 → τ' 10 s = 0) → Q (1, τ'))
    (hn : ∀ τ', sm [0, 1, 4, 5, 10] τ τ' → ¬ hc (n - (bh n d a - a)) (del a (bh n d a - a) d) (cut a (bh n d a - a) q) K → MT n row d nm vl τ' → (∀ s, s < 8 → τ' 10 s = 0) → Q (0, τ')) : wq (md_move (nI (row a)) (nI (row q)) (nI K) τ) Q := by
  have hn24 := hw.1.1
  have hb1 := bh_lt (n := n) (d := d) ha
  have hb2 := bh_le (n := n) (d := d) ha
  have ra := hw.1.2.1 a ha
  have rq := hw.1.2.1 q hqn
  have h0 : 0 < a := by
    rcases Nat.eq_zero_or_pos a with e | e
    · subst e; rw [bh_0 hw.2 ha] at hqa; omega
    · exact e
  have hne : ¬ row a = row q := fun e => by have := hw.1.2.2 _ _ ha hqn e; omega
  have hdq : d q < 24 := by have := wfT_le hw.2 hqn; omega
  have hda : d a < 24 := by have := wfT_le hw.2 ha; omega
  obtain ⟨m, hm⟩ : ∃ m, bh n d a - a = m := ⟨_, rfl⟩
  have hW1 := WT_del hw h0 ha
  have hAB := del_okA hw.2 h0 ha
  have hBB := del_okB hw.2 h0 ha
  rw [hm] at hy hn hW1 hAB hBB
  have ham : a + m ≤ n := by omega
  have hm0 : 0 < m := by omega
  have hqa' : q < a ∨ a + m ≤ q := by omega
  have hcl := cut_lt hqn hqa' ham
  unfold md_move md_move_b0
  rw [md_where_y hw h ha]
  unfold md_move_b5
  simp (disch := first | omega | with_reducible assumption) only [l_2, l_3, l_4, l_5, l_6, l_7, l_8, l_9, l_10, l_11, l_12, l_13, l_14, l_15, l_16, l_17, l_23, l_24, l_40, l_100, l_320, l_383, nI_add, pk_mul, z_sub, z_lt0, z_ge0, z_e0, z_le0, z_gt0, z_lt, z_le, z_eq, z_cl, z_in, z_m1lt, z_m1ge, z_nm1, z_m1n, n1_add, n1_ad2, n1_sub, n1_eq, n1_eq', n1_le, n1_ge, n1_lt, n1_gt, z_10, z_01, z_0lt, z_0ge, z_0c, z_0in, z_0a, z_a0, z_01a, bI_f, bI_f0, t0f, t1f, cl_f, wi_t, wi_f, wc_n, wc_0, wz_0, wz_1, wq_some, wq_bind, wq_lpB, ks_l, ks_r, up2_s, up2_n, u_e, u_n, if_true, if_false, ite_true, ite_false]
  rw [md_where_y hw h hqn]
  unfold md_move_b17
  simp (disch := first | omega | with_reducible assumption) only [l_2, l_3, l_4, l_5, l_6, l_7, l_8, l_9, l_10, l_11, l_12, l_13, l_14, l_15, l_16, l_17, l_23, l_24, l_40, l_100, l_320, l_383, nI_add, pk_mul, z_sub, z_lt0, z_ge0, z_e0, z_le0, z_gt0, z_lt, z_le, z_eq, z_cl, z_in, z_m1lt, z_m1ge, z_nm1, z_m1n, n1_add, n1_ad2, n1_sub, n1_eq, n1_eq', n1_le, n1_ge, n1_lt, n1_gt, z_10, z_01, z_0lt, z_0ge, z_0c, z_0in, z_0a, z_a0, z_01a, bI_f, bI_f0, t0f, t1f, cl_f, wi_t, wi_f, wc_n, wc_0, wz_0, wz_1, wq_some, wq_bind, wq_lpB, ks_l, ks_r, up2_s, up2_n, u_e, u_n, if_true, if_false, ite_true, ite_false]
  rw [md_isBelow_sp hw h hqn ha, if_neg (by omega)]
  unfold md_move_b31
  simp (disch := first | omega | with_reducible assumption) only [l_2, l_3, l_4, l_5, l_6, l_7, l_8, l_9, l_10, l_11, l_12, l_13, l_14, l_15, l_16, l_17, l_23, l_24, l_40, l_100, l_320, l_383, nI_add, pk_mul, z_sub, z_lt0, z_ge0, z_e0, z_le0, z_gt0, z_lt, z_le, z_eq, z_cl, z_in, z_m1lt, z_m1ge, z_nm1, z_m1n, n1_add, n1_ad2, n1_sub, n1_eq, n1_eq', n1_le, n1_ge, n1_lt, n1_gt, z_10, z_01, z_0lt, z_0ge, z_0c, z_0in, z_0a, z_a0, z_01a, bI_f, bI_f0, t0f, t1f, cl_f, wi_t, wi_f, wc_n, wc_0, wz_0, wz_1, wq_some, wq_bind, wq_lpB, ks_l, ks_r, up2_s, up2_n, u_e, u_n, if_true, if_false, ite_true, ite_false]
  rw [md_behind_sp hw h ha]
  unfold md_move_b46 md_move_b51
  simp (disch := first | omega | with_reducible assumption) only [l_2, l_3, l_4, l_5, l_6, l_7, l_8, l_9, l_10, l_11, l_12, l_13, l_14, l_15, l_16, l_17, l_23, l_24, l_40, l_100, l_320, l_383, nI_add, pk_mul, z_sub, z_lt0, z_ge0, z_e0, z_le0, z_gt0, z_lt, z_le, z_eq, z_cl, z_in, z_m1lt, z_m1ge, z_nm1, z_m1n, n1_add, n1_ad2, n1_sub, n1_eq, n1_eq', n1_le, n1_ge, n1_lt, n1_gt, z_10, z_01, z_0lt, z_0ge, z_0c, z_0in, z_0a, z_a0, z_01a, bI_f, bI_f0, t0f, t1f, cl_f, wi_t, wi_f, wc_n, wc_0, wz_0, wz_1, wq_some, wq_bind, wq_lpB, ks_l, ks_r, up2_s, up2_n, u_e, u_n, if_true, if_false, ite_true, ite_false]
  rw [hm]
  have h54 := md_move_lp54 (Q := Q) (v1 := nI (row a)) (v2 := nI (row q)) (v3 := nI K) (a := a) (m := m) (row := row) hn24 ham h.1 (fun i hi => (h.2 i hi).1) (fun τ1 s1 s2 => ?_) m 0 τ (by omega) sm_rf (fun j hj => by omega)
  · rw [nI_0] at h54; exact h54
  refine md_move_lp99 (row := row) (N := n) hn24 ham (fun i hi => by simp (disch := first | omega | with_reducible assumption) only [up2_s, up2_n, u_e, u_n]; rw [s1 0 (by decide)]; exact (h.2 i hi).1) (by simp (disch := first | omega | with_reducible assumption) only [up2_s, up2_n, u_e, u_n]) (fun τ2 s3 s4 => ?_) (n - m - a) a _ (by omega) (Nat.le_refl _) sm_rf (fun i hi => by simp (disch := first | omega | with_reducible assumption) only [up2_s, up2_n, u_e, u_n]; rw [s1 0 (by decide), del_l hi]; exact (h.2 i (by omega)).1) (fun i h1 h2 => by simp (disch := first | omega | with_reducible assumption) only [up2_s, up2_n, u_e, u_n]; rw [s1 0 (by decide)]; exact (h.2 i h2).1)
  have e1 : τ2 1 = τ 1 := by rw [s3 1 (by decide)]; simp (disch := first | omega | with_reducible assumption) only [up2_s, up2_n, u_e, u_n]; rw [s1 1 (by decide)]
  have e2 : τ2 2 = τ 2 := by rw [s3 2 (by decide)]; simp (disch := first | omega | with_reducible assumption) only [up2_s, up2_n, u_e, u_n]; rw [s1 2 (by decide)]
  have e3 : τ2 3 = τ 3 := by rw [s3 3 (by decide)]; simp (disch := first | omega | with_reducible assumption) only [up2_s, up2_n, u_e, u_n]; rw [s1 3 (by decide)]
  have e4 : ∀ j, j < m → τ2 4 j = nI (row (a + j)) := fun j hj => by rw [s3 4 (by decide)]; simp (disch := first | omega | with_reducible assumption) only [up2_s, up2_n, u_e, u_n]; exact s2 j hj
  have hs2 : sm [0, 4, 5] τ τ2 := sm_tr (sm_sub s1 (by decide)) (sm_tr (sm_up (by decide) sm_rf) (sm_sub s3 (by decide)))
  have hM2 : MT (n - m) (del a m row) (del a m d) nm vl τ2 := by
    refine ⟨by rw [s3 5 (by decide)]; simp (disch := first | omega | with_reducible assumption) only [up2_s, up2_n, u_e, u_n], fun i hi => ⟨s4 i hi, ?_⟩⟩
    rw [e1, e2, e3]
    by_cases e : i < a
    · rw [del_l e, del_l e]; exact (h.2 i (by omega)).2
    · rw [del_r (by omega), del_r (by omega)]; exact (h.2 _ (by omega)).2
  have hwq := md_where_y hW1 hM2 hcl
  rw [del_cut row hqa'] at hwq
  rw [hwq]
  unfold md_move_b136
  simp (disch := first | omega | with_reducible assumption) only [l_2, l_3, l_4, l_5, l_6, l_7, l_8, l_9, l_10, l_11, l_12, l_13, l_14, l_15, l_16, l_17, l_23, l_24, l_40, l_100, l_320, l_383, nI_add, pk_mul, z_sub, z_lt0, z_ge0, z_e0, z_le0, z_gt0, z_lt, z_le, z_eq, z_cl, z_in, z_m1lt, z_m1ge, z_nm1, z_m1n, n1_add, n1_ad2, n1_sub, n1_eq, n1_eq', n1_le, n1_ge, n1_lt, n1_gt, z_10, z_01, z_0lt, z_0ge, z_0c, z_0in, z_0a, z_a0, z_01a, bI_f, bI_f0, t0f, t1f, cl_f, wi_t, wi_f, wc_n, wc_0, wz_0, wz_1, wq_some, wq_bind, wq_lpB, ks_l, ks_r, up2_s, up2_n, u_e, u_n, if_true, if_false, ite_true, ite_false]
  refine wq_mono (md_place_sp hW1 hM2 hcl hK) (fun r hr => ?_)
  have fin : ∀ (t : Nat) (v8 by_ : Int32) (g : Nat → Nat) (τ5 : dS), (v8 = 0 ∨ v8 = 1) → t ≤ n - m → sm [0, 5] τ2 τ5 → τ5 5 0 = nI (n - m + m) → (∀ i, i < t → τ5 0 i = nI (del a m row i)) → (∀ i, t ≤ i → i < n - m → τ5 0 (i + m) = nI (del a m row i)) → (∀ j, j < m → nI (d (a + j)) + by_ = nI (g j)) →
      (∀ τ', sm [0, 1, 4, 5, 10] τ τ' → MT (n - m + m) (ins t m (del a m row) (sub_ a row)) (ins t m (del a m d) g) nm vl τ' → (∀ s, s < 8 → τ' 10 s = 0) → Q (v8, τ')) →
      wq (lp md_move_st (246, [nI (row a), nI (row q), nI K, nI a, nI m, nI (cut a m q), nI t, v8, by_, 0], τ5)) Q := by
    intro t v8 by_ g τ5 hv8 ht s5 f5 f0 f1 fg hQ
    have := md_move_lp246 (Q := Q) (v1 := nI (row a)) (v2 := nI (row q)) (v3 := nI K) (a := a) (m := m) (t := t) (v6 := nI (cut a m q)) (v8 := v8) (by_ := by_) (rb := sub_ a row) (τ0 := τ5) hv8 (by omega) (fun j hj => hw.1.2.1 _ (by omega)) (fun i j hi hj e => by have := hw.1.2.2 _ _ (by omega) (by omega) (show row (a + i) = row (a + j) from e); omega) (fun j hj => by rw [s5 4 (by decide)]; exact e4 j hj) (fun τ' r1 r2 r3 r4 r5 r6 => ?_) m 0 τ5 (by omega) sm_rf (fun i _ => rfl) (fun j hj => by omega) (fun x _ => rfl) (fun j hj => by omega)
    · rw [nI_0] at this; exact this
    refine hQ τ' (sm_tr (sm_sub hs2 (by decide)) (sm_tr (sm_sub s5 (by decide)) (sm_sub r1 (by decide)))) (MT_ins (by rw [r1 5 (by decide)]; exact f5) (fun i hi => ?_) ht (fun i hi => ?_) (fun j hj => ?_)) r6
    · rcases ins_cut (a := t) (m := m) i with e | ⟨j, e1, rfl⟩ | ⟨k, e1, rfl⟩
      · rw [ins_l e, r2 i (Or.inl e)]; exact f0 i e
      · rw [ins_m e1]; exact r3 j e1
      · rw [ins_r e1, r2 _ (Or.inr (by omega))]; exact f1 k e1 (by omega)
    · have hx : ∀ j, j < m → sub_ a row j ≠ del a m row i := by
        intro j hj e
        by_cases g : i < a
        · rw [del_l g] at e; have := hw.1.2.2 _ _ (by omega) (by omega) (show row (a + j) = row i from e); omega
        · rw [del_r (by omega)] at e; have := hw.1.2.2 _ _ (by omega) (by omega) (show row (a + j) = row (i + m) from e); omega
      rw [r4 _ hx, s5 1 (by decide), r1 2 (by decide), s5 2 (by decide), r1 3 (by decide), s5 3 (by decide)]
      exact (hM2.2 i hi).2
    · rw [r5 j hj, s5 1 (by decide), r1 2 (by decide), s5 2 (by decide), r1 3 (by decide), s5 3 (by decide), e1, e2, e3]
      have := (h.2 (a + j) (by omega)).2
      refine ⟨?_, this.2⟩
      show τ 1 (row (a + j)) + by_ = _
      rw [this.1]; exact fg j hj
  rcases hr with ⟨hc1, rfl⟩ | ⟨hc1, rfl⟩
  · have hcp := cp_spec hW1.2 hcl hc1
    have hble := bh_le (n := n - m) (d := del a m d) hcl
    unfold md_move_b145 md_move_b157 md_move_b168
    simp (disch := first | omega | with_reducible assumption) only [l_2, l_3, l_4, l_5, l_6, l_7, l_8, l_9, l_10, l_11, l_12, l_13, l_14, l_15, l_16, l_17, l_23, l_24, l_40, l_100, l_320, l_383, nI_add, pk_mul, z_sub, z_lt0, z_ge0, z_e0, z_le0, z_gt0, z_lt, z_le, z_eq, z_cl, z_in, z_m1lt, z_m1ge, z_nm1, z_m1n, n1_add, n1_ad2, n1_sub, n1_eq, n1_eq', n1_le, n1_ge, n1_lt, n1_gt, z_10, z_01, z_0lt, z_0ge, z_0c, z_0in, z_0a, z_a0, z_01a, bI_f, bI_f0, t0f, t1f, cl_f, wi_t, wi_f, wc_n, wc_0, wz_0, wz_1, wq_some, wq_bind, wq_lpB, ks_l, ks_r, up2_s, up2_n, u_e, u_n, if_true, if_false, ite_true, ite_false]
    rw [hM2.1]
    simp (disch := first | omega | with_reducible assumption) only [l_2, l_3, l_4, l_5, l_6, l_7, l_8, l_9, l_10, l_11, l_12, l_13, l_14, l_15, l_16, l_17, l_23, l_24, l_40, l_100, l_320, l_383, nI_add, pk_mul, z_sub, z_lt0, z_ge0, z_e0, z_le0, z_gt0, z_lt, z_le, z_eq, z_cl, z_in, z_m1lt, z_m1ge, z_nm1, z_m1n, n1_add, n1_ad2, n1_sub, n1_eq, n1_eq', n1_le, n1_ge, n1_lt, n1_gt, z_10, z_01, z_0lt, z_0ge, z_0c, z_0in, z_0a, z_a0, z_01a, bI_f, bI_f0, t0f, t1f, cl_f, wi_t, wi_f, wc_n, wc_0, wz_0, wz_1, wq_some, wq_bind, wq_lpB, ks_l, ks_r, up2_s, up2_n, u_e, u_n, if_true, if_false, ite_true, ite_false]
    refine md_move_lp176 (row := del a m row) (n := n - m) (by omega) (by omega) (by omega) (fun i hi => (hM2.2 i hi).1) hM2.1 (fun τ3 s5 s6 s7 => ?_) (n - m - cp (n - m) (del a m d) (cut a m q) K) (n - m) τ2 (by omega) (Nat.le_refl _) sm_rf (fun i hi => (hM2.2 i hi).1) (fun i h1 h2 => by omega)
    unfold md_move_b217 md_move_b241
    simp (disch := first | omega | with_reducible assumption) only [l_2, l_3, l_4, l_5, l_6, l_7, l_8, l_9, l_10, l_11, l_12, l_13, l_14, l_15, l_16, l_17, l_23, l_24, l_40, l_100, l_320, l_383, nI_add, pk_mul, z_sub, z_lt0, z_ge0, z_e0, z_le0, z_gt0, z_lt, z_le, z_eq, z_cl, z_in, z_m1lt, z_m1ge, z_nm1, z_m1n, n1_add, n1_ad2, n1_sub, n1_eq, n1_eq', n1_le, n1_ge, n1_lt, n1_gt, z_10, z_01, z_0lt, z_0ge, z_0c, z_0in, z_0a, z_a0, z_01a, bI_f, bI_f0, t0f, t1f, cl_f, wi_t, wi_f, wc_n, wc_0, wz_0, wz_1, wq_some, wq_bind, wq_lpB, ks_l, ks_r, up2_s, up2_n, u_e, u_n, if_true, if_false, ite_true, ite_false]
    rw [s5 1 (by decide), e1, (h.2 q hqn).2.1, (h.2 a ha).2.1]
    simp (disch := first | omega | with_reducible assumption) only [l_2, l_3, l_4, l_5, l_6, l_7, l_8, l_9, l_10, l_11, l_12, l_13, l_14, l_15, l_16, l_17, l_23, l_24, l_40, l_100, l_320, l_383, nI_add, pk_mul, z_sub, z_lt0, z_ge0, z_e0, z_le0, z_gt0, z_lt, z_le, z_eq, z_cl, z_in, z_m1lt, z_m1ge, z_nm1, z_m1n, n1_add, n1_ad2, n1_sub, n1_eq, n1_eq', n1_le, n1_ge, n1_lt, n1_gt, z_10, z_01, z_0lt, z_0ge, z_0c, z_0in, z_0a, z_a0, z_01a, bI_f, bI_f0, t0f, t1f, cl_f, wi_t, wi_f, wc_n, wc_0, wz_0, wz_1, wq_some, wq_bind, wq_lpB, ks_l, ks_r, up2_s, up2_n, u_e, u_n, if_true, if_false, ite_true, ite_false]
    refine fin _ 1 _ (fun j => d (a + j) - d a + (d q + 1)) _ (Or.inr rfl) (by omega) (sm_up (by decide) (sm_sub s5 (by decide))) (by simp (disch := first | omega | with_reducible assumption) only [up2_s, up2_n, u_e, u_n]) (fun i hi => by simp (disch := first | omega | with_reducible assumption) only [up2_s, up2_n, u_e, u_n]; exact s6 i hi) (fun i h1 h2 => by simp (disch := first | omega | with_reducible assumption) only [up2_s, up2_n, u_e, u_n]; exact s7 i h1 h2) (fun j hj => ?_) (fun τ' q1 q2 q3 => hy τ' q1 hc1 q2 q3)
    rw [nI_by]
    have := okB_le hBB hj
    exact this
  · unfold md_move_b145 md_move_b157 md_move_b168
    simp (disch := first | omega | with_reducible assumption) only [l_2, l_3, l_4, l_5, l_6, l_7, l_8, l_9, l_10, l_11, l_12, l_13, l_14, l_15, l_16, l_17, l_23, l_24, l_40, l_100, l_320, l_383, nI_add, pk_mul, z_sub, z_lt0, z_ge0, z_e0, z_le0, z_gt0, z_lt, z_le, z_eq, z_cl, z_in, z_m1lt, z_m1ge, z_nm1, z_m1n, n1_add, n1_ad2, n1_sub, n1_eq, n1_eq', n1_le, n1_ge, n1_lt, n1_gt, z_10, z_01, z_0lt, z_0ge, z_0c, z_0in, z_0a, z_a0, z_01a, bI_f, bI_f0, t0f, t1f, cl_f, wi_t, wi_f, wc_n, wc_0, wz_0, wz_1, wq_some, wq_bind, wq_lpB, ks_l, ks_r, up2_s, up2_n, u_e, u_n, if_true, if_false, ite_true, ite_false]
    rw [hM2.1]
    simp (disch := first | omega | with_reducible assumption) only [l_2, l_3, l_4, l_5, l_6, l_7, l_8, l_9, l_10, l_11, l_12, l_13, l_14, l_15, l_16, l_17, l_23, l_24, l_40, l_100, l_320, l_383, nI_add, pk_mul, z_sub, z_lt0, z_ge0, z_e0, z_le0, z_gt0, z_lt, z_le, z_eq, z_cl, z_in, z_m1lt, z_m1ge, z_nm1, z_m1n, n1_add, n1_ad2, n1_sub, n1_eq, n1_eq', n1_le, n1_ge, n1_lt, n1_gt, z_10, z_01, z_0lt, z_0ge, z_0c, z_0in, z_0a, z_a0, z_01a, bI_f, bI_f0, t0f, t1f, cl_f, wi_t, wi_f, wc_n, wc_0, wz_0, wz_1, wq_some, wq_bind, wq_lpB, ks_l, ks_r, up2_s, up2_n, u_e, u_n, if_true, if_false, ite_true, ite_false]
    refine md_move_lp176 (row := del a m row) (n := n - m) (by omega) h0 (by omega) (fun i hi => (hM2.2 i hi).1) hM2.1 (fun τ3 s5 s6 s7 => ?_) (n - m - a) (n - m) τ2 (by omega) (Nat.le_refl _) sm_rf (fun i hi => (hM2.2 i hi).1) (fun i h1 h2 => by omega)
    unfold md_move_b217 md_move_b241
    simp (disch := first | omega | with_reducible assumption) only [l_2, l_3, l_4, l_5, l_6, l_7, l_8, l_9, l_10, l_11, l_12, l_13, l_14, l_15, l_16, l_17, l_23, l_24, l_40, l_100, l_320, l_383, nI_add, pk_mul, z_sub, z_lt0, z_ge0, z_e0, z_le0, z_gt0, z_lt, z_le, z_eq, z_cl, z_in, z_m1lt, z_m1ge, z_nm1, z_m1n, n1_add, n1_ad2, n1_sub, n1_eq, n1_eq', n1_le, n1_ge, n1_lt, n1_gt, z_10, z_01, z_0lt, z_0ge, z_0c, z_0in, z_0a, z_a0, z_01a, bI_f, bI_f0, t0f, t1f, cl_f, wi_t, wi_f, wc_n, wc_0, wz_0, wz_1, wq_some, wq_bind, wq_lpB, ks_l, ks_r, up2_s, up2_n, u_e, u_n, if_true, if_false, ite_true, ite_false]
    refine fin _ 0 _ (sub_ a d) _ (Or.inl rfl) (by omega) (sm_up (by decide) (sm_sub s5 (by decide))) (by simp (disch := first | omega | with_reducible assumption) only [up2_s, up2_n, u_e, u_n]) (fun i hi => by simp (disch := first | omega | with_reducible assumption) only [up2_s, up2_n, u_e, u_n]; exact s6 i hi) (fun i h1 h2 => by simp (disch := first | omega | with_reducible assumption) only [up2_s, up2_n, u_e, u_n]; exact s7 i h1 h2) (fun j hj => by rw [z_a0]; rfl) (fun τ' q1 q2 q3 => ?_)
    rw [ins_del, ins_del, show n - m + m = n by omega] at q2
    exact hn τ' q1 hc1 q2 q3
end
