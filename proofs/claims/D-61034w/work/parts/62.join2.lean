/-! TransletDesk's join -/
set_option maxRecDepth 100000
section
variable {n : Nat} {vv : Nat → Int32} {σ : dS}
theorem dk_join_sp (hn : n ≤ 24) (hV : ∀ y, y < n → σ 14 y = vv y) {k : Nat} (hk : k = 3 ∨ (7 ≤ k ∧ k < 18)) {p q : Int32} {pt qt : Nat} (hpt : pt < 3) (hqt : qt < 3) (hp : (pt = 0 ∨ k < 10) → bw n p) (hq : qt = 0 → bw n q) : dk_join (nI k) p (nI pt) q (nI qt) σ = some (jn vv k p pt q qt, σ) := by
  apply eq_of_wq
  unfold dk_join dk_join_b0
  by_cases hm : 10 ≤ k ∧ k < 13
  · simp (disch := first | omega | with_reducible assumption) only [l_2, l_3, l_4, l_5, l_6, l_7, l_8, l_9, l_10, l_11, l_12, l_13, l_14, l_15, l_16, l_17, l_23, l_24, l_40, l_100, l_320, l_383, nI_add, pk_mul, z_sub, z_lt0, z_ge0, z_e0, z_le0, z_gt0, z_lt, z_le, z_eq, z_cl, z_in, z_m1lt, z_m1ge, z_nm1, z_m1n, n1_add, n1_ad2, n1_sub, n1_eq, n1_eq', n1_le, n1_ge, n1_lt, n1_gt, z_10, z_01, z_0lt, z_0ge, z_0c, z_0in, z_0a, z_a0, z_01a, bI_f, bI_f0, t0f, t1f, cl_f, wi_t, wi_f, wc_n, wc_0, wz_0, wz_1, wq_some, wq_bind, wq_lpB, ks_l, ks_r, up2_s, up2_n, u_e, u_n, if_true, if_false, ite_true, ite_false]
    -- two numbers
    have h43 : ∀ a b, a = nmv vv pt p → b = nmv vv qt q → wq (dk_join_b43 (nI k) p (nI pt) q (nI qt) a b σ) (fun r => r = (jn vv k p pt q qt, σ)) := by
      intro a b ha hb
      unfold dk_join_b43
      subst ha hb
      have h3 : k = 10 ∨ k = 11 ∨ k = 12 := by omega
      rcases h3 with e | e | e <;> subst e
      · simp (disch := first | omega | with_reducible assumption) only [l_2, l_3, l_4, l_5, l_6, l_7, l_8, l_9, l_10, l_11, l_12, l_13, l_14, l_15, l_16, l_17, l_23, l_24, l_40, l_100, l_320, l_383, nI_add, pk_mul, z_sub, z_lt0, z_ge0, z_e0, z_le0, z_gt0, z_lt, z_le, z_eq, z_cl, z_in, z_m1lt, z_m1ge, z_nm1, z_m1n, n1_add, n1_ad2, n1_sub, n1_eq, n1_eq', n1_le, n1_ge, n1_lt, n1_gt, z_10, z_01, z_0lt, z_0ge, z_0c, z_0in, z_0a, z_a0, z_01a, bI_f, bI_f0, t0f, t1f, cl_f, wi_t, wi_f, wc_n, wc_0, wz_0, wz_1, wq_some, wq_bind, wq_lpB, ks_l, ks_r, up2_s, up2_n, u_e, u_n, if_true, if_false, ite_true, ite_false]; rfl
      · simp (disch := first | omega | with_reducible assumption) only [l_2, l_3, l_4, l_5, l_6, l_7, l_8, l_9, l_10, l_11, l_12, l_13, l_14, l_15, l_16, l_17, l_23, l_24, l_40, l_100, l_320, l_383, nI_add, pk_mul, z_sub, z_lt0, z_ge0, z_e0, z_le0, z_gt0, z_lt, z_le, z_eq, z_cl, z_in, z_m1lt, z_m1ge, z_nm1, z_m1n, n1_add, n1_ad2, n1_sub, n1_eq, n1_eq', n1_le, n1_ge, n1_lt, n1_gt, z_10, z_01, z_0lt, z_0ge, z_0c, z_0in, z_0a, z_a0, z_01a, bI_f, bI_f0, t0f, t1f, cl_f, wi_t, wi_f, wc_n, wc_0, wz_0, wz_1, wq_some, wq_bind, wq_lpB, ks_l, ks_r, up2_s, up2_n, u_e, u_n, if_true, if_false, ite_true, ite_false]; rfl
      · simp (disch := first | omega | with_reducible assumption) only [l_2, l_3, l_4, l_5, l_6, l_7, l_8, l_9, l_10, l_11, l_12, l_13, l_14, l_15, l_16, l_17, l_23, l_24, l_40, l_100, l_320, l_383, nI_add, pk_mul, z_sub, z_lt0, z_ge0, z_e0, z_le0, z_gt0, z_lt, z_le, z_eq, z_cl, z_in, z_m1lt, z_m1ge, z_nm1, z_m1n, n1_add, n1_ad2, n1_sub, n1_eq, n1_eq', n1_le, n1_ge, n1_lt, n1_gt, z_10, z_01, z_0lt, z_0ge, z_0c, z_0in, z_0a, z_a0, z_01a, bI_f, bI_f0, t0f, t1f, cl_f, wi_t, wi_f, wc_n, wc_0, wz_0, wz_1, wq_some, wq_bind, wq_lpB, ks_l, ks_r, up2_s, up2_n, u_e, u_n, if_true, if_false, ite_true, ite_false]; rfl
    have h25 : ∀ a, a = nmv vv pt p → wq (dk_join_b25 (nI k) p (nI pt) q (nI qt) a σ) (fun r => r = (jn vv k p pt q qt, σ)) := by
      intro a ha
      unfold dk_join_b25
      by_cases e : qt = 0
      · rw [wi_t (by rw [z_e0 (by omega)]; exact e), dk_valueOf_sp hn hV (hq e), wq_bind, wq_some]
        exact h43 a _ ha (by unfold nmv; rw [if_pos e])
      · rw [wi_f (by rw [z_e0 (by omega)]; exact e)]
        exact h43 a _ ha (by unfold nmv; rw [if_neg e])
    by_cases e : pt = 0
    · rw [wi_t (by first | exact e | (rw [z_e0 (by omega)]; exact e)), dk_valueOf_sp hn hV (hp (Or.inl e)), wq_bind, wq_some]
      exact h25 _ (by unfold nmv; rw [if_pos e])
    · rw [wi_f (by first | exact e | (rw [z_e0 (by omega)]; exact e))]
      exact h25 _ (by unfold nmv; rw [if_neg e])
  · have h79 : ∀ Q, wq (dk_join_b79 (nI k) p (nI pt) q (nI qt) σ) Q → wq (if nI k ≤ 9 then dk_join_b79 (nI k) p (nI pt) q (nI qt) σ else if 13 ≤ nI k then dk_join_b79 (nI k) p (nI pt) q (nI qt) σ else if nI pt = 0 then Option.bind (dk_valueOf p σ) (fun r_ => dk_join_b25 (nI k) p (nI pt) q (nI qt) r_.1 r_.2) else dk_join_b25 (nI k) p (nI pt) q (nI qt) p σ) Q := by
      intro Q h
      by_cases e : k ≤ 9
      · simp (disch := first | omega | with_reducible assumption) only [l_2, l_3, l_4, l_5, l_6, l_7, l_8, l_9, l_10, l_11, l_12, l_13, l_14, l_15, l_16, l_17, l_23, l_24, l_40, l_100, l_320, l_383, nI_add, pk_mul, z_sub, z_lt0, z_ge0, z_e0, z_le0, z_gt0, z_lt, z_le, z_eq, z_cl, z_in, z_m1lt, z_m1ge, z_nm1, z_m1n, n1_add, n1_ad2, n1_sub, n1_eq, n1_eq', n1_le, n1_ge, n1_lt, n1_gt, z_10, z_01, z_0lt, z_0ge, z_0c, z_0in, z_0a, z_a0, z_01a, bI_f, bI_f0, t0f, t1f, cl_f, wi_t, wi_f, wc_n, wc_0, wz_0, wz_1, wq_some, wq_bind, wq_lpB, ks_l, ks_r, up2_s, up2_n, u_e, u_n, if_true, if_false, ite_true, ite_false]; exact h
      · simp (disch := first | omega | with_reducible assumption) only [l_2, l_3, l_4, l_5, l_6, l_7, l_8, l_9, l_10, l_11, l_12, l_13, l_14, l_15, l_16, l_17, l_23, l_24, l_40, l_100, l_320, l_383, nI_add, pk_mul, z_sub, z_lt0, z_ge0, z_e0, z_le0, z_gt0, z_lt, z_le, z_eq, z_cl, z_in, z_m1lt, z_m1ge, z_nm1, z_m1n, n1_add, n1_ad2, n1_sub, n1_eq, n1_eq', n1_le, n1_ge, n1_lt, n1_gt, z_10, z_01, z_0lt, z_0ge, z_0c, z_0in, z_0a, z_a0, z_01a, bI_f, bI_f0, t0f, t1f, cl_f, wi_t, wi_f, wc_n, wc_0, wz_0, wz_1, wq_some, wq_bind, wq_lpB, ks_l, ks_r, up2_s, up2_n, u_e, u_n, if_true, if_false, ite_true, ite_false]; exact h
    apply h79
    unfold dk_join_b79
    have hk2 : k = 3 ∨ k = 7 ∨ k = 8 ∨ k = 9 ∨ k = 13 ∨ k = 14 ∨ k = 15 ∨ k = 16 ∨ k = 17 := by omega
    rcases hk2 with e | e | e | e | e | e | e | e | e <;> subst e
    · rw [if_pos (show nI 3 = (3 : Int32) from rfl)]
      rw [wq_some]; rfl
    · rw [if_neg (show ¬ nI 7 = (3 : Int32) by decide), if_neg (show ¬ nI 7 = (4 : Int32) by decide), if_neg (show ¬ nI 7 = (5 : Int32) by decide), if_neg (show ¬ nI 7 = (6 : Int32) by decide), if_pos (show nI 7 = (7 : Int32) from rfl)]
      rw [dk_bits_sp]
      unfold dk_join_b165
      rw [wq_bind, wq_some, wq_some]; rfl
    · rw [if_neg (show ¬ nI 8 = (3 : Int32) by decide), if_neg (show ¬ nI 8 = (4 : Int32) by decide), if_neg (show ¬ nI 8 = (5 : Int32) by decide), if_neg (show ¬ nI 8 = (6 : Int32) by decide), if_neg (show ¬ nI 8 = (7 : Int32) by decide), if_pos (show nI 8 = (8 : Int32) from rfl)]
      rw [dk_total_sp hn hV (hp (Or.inr (by omega)))]
      unfold dk_join_b171
      rw [wq_bind, wq_some, wq_some]; rfl
    · rw [if_neg (show ¬ nI 9 = (3 : Int32) by decide), if_neg (show ¬ nI 9 = (4 : Int32) by decide), if_neg (show ¬ nI 9 = (5 : Int32) by decide), if_neg (show ¬ nI 9 = (6 : Int32) by decide), if_neg (show ¬ nI 9 = (7 : Int32) by decide), if_neg (show ¬ nI 9 = (8 : Int32) by decide), if_pos (show nI 9 = (9 : Int32) from rfl)]
      rw [dk_valueOf_sp hn hV (hp (Or.inr (by omega)))]
      unfold dk_join_b177
      rw [wq_bind, wq_some, wq_some]; rfl
    · rw [if_neg (show ¬ nI 13 = (3 : Int32) by decide), if_neg (show ¬ nI 13 = (4 : Int32) by decide), if_neg (show ¬ nI 13 = (5 : Int32) by decide), if_neg (show ¬ nI 13 = (6 : Int32) by decide), if_neg (show ¬ nI 13 = (7 : Int32) by decide), if_neg (show ¬ nI 13 = (8 : Int32) by decide), if_neg (show ¬ nI 13 = (9 : Int32) by decide), if_neg (show ¬ nI 13 = (10 : Int32) by decide), if_neg (show ¬ nI 13 = (11 : Int32) by decide), if_neg (show ¬ nI 13 = (12 : Int32) by decide), if_pos (show nI 13 = (13 : Int32) from rfl)]
      unfold dk_join_b218
      rw [dk_compare_sp hn hV (Or.inl rfl) hpt hqt (fun e => hp (Or.inl e)) hq]
      unfold dk_join_b229
      rw [wq_bind, wq_some, wq_some]
    · rw [if_neg (show ¬ nI 14 = (3 : Int32) by decide), if_neg (show ¬ nI 14 = (4 : Int32) by decide), if_neg (show ¬ nI 14 = (5 : Int32) by decide), if_neg (show ¬ nI 14 = (6 : Int32) by decide), if_neg (show ¬ nI 14 = (7 : Int32) by decide), if_neg (show ¬ nI 14 = (8 : Int32) by decide), if_neg (show ¬ nI 14 = (9 : Int32) by decide), if_neg (show ¬ nI 14 = (10 : Int32) by decide), if_neg (show ¬ nI 14 = (11 : Int32) by decide), if_neg (show ¬ nI 14 = (12 : Int32) by decide), if_neg (show ¬ nI 14 = (13 : Int32) by decide), if_pos (show nI 14 = (14 : Int32) from rfl)]
      unfold dk_join_b218
      rw [dk_compare_sp hn hV (Or.inr rfl) hpt hqt (fun e => hp (Or.inl e)) hq]
      unfold dk_join_b229
      rw [wq_bind, wq_some, wq_some]
    · have hj : jn vv 15 p pt q qt = b2i (decide (p ≠ 0) && decide (q ≠ 0)) := rfl
      rw [hj]
      rw [if_neg (show ¬ nI 15 = (3 : Int32) by decide), if_neg (show ¬ nI 15 = (4 : Int32) by decide), if_neg (show ¬ nI 15 = (5 : Int32) by decide), if_neg (show ¬ nI 15 = (6 : Int32) by decide), if_neg (show ¬ nI 15 = (7 : Int32) by decide), if_neg (show ¬ nI 15 = (8 : Int32) by decide), if_neg (show ¬ nI 15 = (9 : Int32) by decide), if_neg (show ¬ nI 15 = (10 : Int32) by decide), if_neg (show ¬ nI 15 = (11 : Int32) by decide), if_neg (show ¬ nI 15 = (12 : Int32) by decide), if_neg (show ¬ nI 15 = (13 : Int32) by decide), if_neg (show ¬ nI 15 = (14 : Int32) by decide), if_pos (show nI 15 = (15 : Int32) from rfl)]
      by_cases e1 : p = 0
      · rw [wi_t e1, wq_some, b2i_f (by simp [e1])]
      · by_cases e2 : q = 0
        · rw [wi_f e1, wi_t e2, wq_some, b2i_f (by simp [e2])]
        · rw [wi_f e1, wi_f e2, wq_some, b2i_t (by simp [e1, e2])]
    · have hj : jn vv 16 p pt q qt = b2i (decide (p ≠ 0) || decide (q ≠ 0)) := rfl
      rw [hj]
      rw [if_neg (show ¬ nI 16 = (3 : Int32) by decide), if_neg (show ¬ nI 16 = (4 : Int32) by decide), if_neg (show ¬ nI 16 = (5 : Int32) by decide), if_neg (show ¬ nI 16 = (6 : Int32) by decide), if_neg (show ¬ nI 16 = (7 : Int32) by decide), if_neg (show ¬ nI 16 = (8 : Int32) by decide), if_neg (show ¬ nI 16 = (9 : Int32) by decide), if_neg (show ¬ nI 16 = (10 : Int32) by decide), if_neg (show ¬ nI 16 = (11 : Int32) by decide), if_neg (show ¬ nI 16 = (12 : Int32) by decide), if_neg (show ¬ nI 16 = (13 : Int32) by decide), if_neg (show ¬ nI 16 = (14 : Int32) by decide), if_neg (show ¬ nI 16 = (15 : Int32) by decide), if_pos (show nI 16 = (16 : Int32) from rfl)]
      unfold dk_join_b202
      by_cases e1 : p = 0
      · by_cases e2 : q = 0
        · rw [wi_t e1, wi_t e2, wq_some, b2i_f (by simp [e1, e2])]
        · rw [wi_t e1, wi_f e2, wq_some, b2i_t (by simp [e2])]
      · rw [wi_f e1, wq_some, b2i_t (by simp [e1])]
    · have hj : jn vv 17 p pt q qt = b2i (decide (p = 0)) := rfl
      rw [hj]
      rw [if_neg (show ¬ nI 17 = (3 : Int32) by decide), if_neg (show ¬ nI 17 = (4 : Int32) by decide), if_neg (show ¬ nI 17 = (5 : Int32) by decide), if_neg (show ¬ nI 17 = (6 : Int32) by decide), if_neg (show ¬ nI 17 = (7 : Int32) by decide), if_neg (show ¬ nI 17 = (8 : Int32) by decide), if_neg (show ¬ nI 17 = (9 : Int32) by decide), if_neg (show ¬ nI 17 = (10 : Int32) by decide), if_neg (show ¬ nI 17 = (11 : Int32) by decide), if_neg (show ¬ nI 17 = (12 : Int32) by decide), if_neg (show ¬ nI 17 = (13 : Int32) by decide), if_neg (show ¬ nI 17 = (14 : Int32) by decide), if_neg (show ¬ nI 17 = (15 : Int32) by decide), if_neg (show ¬ nI 17 = (16 : Int32) by decide), if_pos (show nI 17 = (17 : Int32) from rfl)]
      by_cases e1 : p = 0
      · rw [wi_t e1, wq_some, b2i_t (by simp [e1])]
      · rw [wi_f e1, wq_some, b2i_f (by simp [e1])]
end
