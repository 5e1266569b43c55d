/-! tokens -/
set_option maxRecDepth 100000
theorem sh7 {w : Nat} (h : w < 2147483648) : nI w >>> (nI 7 &&& 31) = nI (w / 128) := pk_shrN (by omega) (nI 7 &&& 31) 7 (by decide)
theorem sh4 {w : Nat} (h : w < 2147483648) : nI w >>> (nI 4 &&& 31) = nI (w / 16) := pk_shrN (by omega) (nI 4 &&& 31) 4 (by decide)
theorem an15 {w : Nat} (h : w < 2147483648) : nI w &&& nI 15 = nI (w % 16) := pk_andN (by omega) 4 (by decide)
theorem an7 {w : Nat} (h : w < 2147483648) : nI w &&& nI 7 = nI (w % 8) := pk_andN (by omega) 3 (by decide)
theorem sw_eq {t : Tk} (h : okT t) (h2 : t.1 = 2) : t.2 = nI (sw t) ∧ sw t ≤ 383 ∧ sw t % 16 ≤ 10 ∧ sw t / 16 % 8 ≤ 6 := by
  have := h.2 h2
  exact ⟨this.2.1, this.1, this.2.2.1, this.2.2.2⟩
theorem ar_le {t : Tk} (h : okT t) : ar t ≤ 3 := by
  unfold ar
  by_cases c : t.1 = 2
  · rw [if_pos c]; have := (h.2 c).1; omega
  · rw [if_neg c]
    by_cases c2 : t.1 = 3 ∨ (9 < t.1 ∧ t.1 < 17)
    · rw [if_pos c2]; omega
    · rw [if_neg c2]
      by_cases c3 : 6 < t.1
      · rw [if_pos c3]; omega
      · rw [if_neg c3]; omega
/-- the value that TransletDesk keeps of a token -/
def kv (t : Tk) : Int32 := if t.1 = 2 ∨ t.1 = 4 then t.2 else 0
theorem dk_arity_sp {t : Tk} (h : okT t) {v : Int32} (hv : t.1 = 2 → v = t.2) : dk_arity (nI t.1) v = some (nI (ar t)) := by
  have h1 := h.1
  apply eq_of_wq
  unfold dk_arity dk_arity_b0 dk_arity_b18 dk_arity_b42 dk_arity_b48
  by_cases c2 : t.1 = 2
  · obtain ⟨w1, w2, _, _⟩ := sw_eq h c2
    rw [hv c2, w1]
    simp (disch := first | omega | with_reducible assumption) only [sh7, sh4, an15, an7, l_2, l_3, l_4, l_5, l_6, l_7, l_8, l_9, l_10, l_11, l_12, l_13, l_14, l_15, l_16, l_17, l_23, l_24, l_40, l_100, l_320, l_383, nI_add, pk_mul, z_sub, z_lt0, z_ge0, z_e0, z_le0, z_gt0, z_lt, z_le, z_eq, z_cl, z_in, z_m1lt, z_m1ge, z_nm1, z_m1n, n1_add, n1_ad2, n1_sub, n1_eq, n1_eq', n1_le, n1_ge, n1_lt, n1_gt, z_10, z_01, z_0lt, z_0ge, z_0c, z_0in, z_0a, z_a0, z_01a, bI_f, bI_f0, t0f, t1f, cl_f, wi_t, wi_f, wc_n, wc_0, wz_0, wz_1, wq_some, wq_bind, wq_lpB, ks_l, ks_r, up2_s, up2_n, u_e, u_n, if_true, if_false, ite_true, ite_false]
    unfold ar
    rw [if_pos c2]
  · by_cases ca : t.1 < 2 ∨ (4 ≤ t.1 ∧ t.1 < 7)
    · have e : ar t = 0 := by unfold ar; rw [if_neg c2, if_neg (by omega), if_neg (by omega)]
      rw [e]
      by_cases c : t.1 < 2
      · (simp (disch := first | omega | with_reducible assumption) only [l_2, l_3, l_4, l_5, l_6, l_7, l_8, l_9, l_10, l_11, l_12, l_13, l_14, l_15, l_16, l_17, l_23, l_24, l_40, l_100, l_320, l_383, nI_add, pk_mul, z_sub, z_lt0, z_ge0, z_e0, z_le0, z_gt0, z_lt, z_le, z_eq, z_cl, z_in, z_m1lt, z_m1ge, z_nm1, z_m1n, n1_add, n1_ad2, n1_sub, n1_eq, n1_eq', n1_le, n1_ge, n1_lt, n1_gt, z_10, z_01, z_0lt, z_0ge, z_0c, z_0in, z_0a, z_a0, z_01a, bI_f, bI_f0, t0f, t1f, cl_f, wi_t, wi_f, wc_n, wc_0, wz_0, wz_1, wq_some, wq_bind, wq_lpB, ks_l, ks_r, up2_s, up2_n, u_e, u_n, if_true, if_false, ite_true, ite_false]; try rfl)
      · (simp (disch := first | omega | with_reducible assumption) only [l_2, l_3, l_4, l_5, l_6, l_7, l_8, l_9, l_10, l_11, l_12, l_13, l_14, l_15, l_16, l_17, l_23, l_24, l_40, l_100, l_320, l_383, nI_add, pk_mul, z_sub, z_lt0, z_ge0, z_e0, z_le0, z_gt0, z_lt, z_le, z_eq, z_cl, z_in, z_m1lt, z_m1ge, z_nm1, z_m1n, n1_add, n1_ad2, n1_sub, n1_eq, n1_eq', n1_le, n1_ge, n1_lt, n1_gt, z_10, z_01, z_0lt, z_0ge, z_0c, z_0in, z_0a, z_a0, z_01a, bI_f, bI_f0, t0f, t1f, cl_f, wi_t, wi_f, wc_n, wc_0, wz_0, wz_1, wq_some, wq_bind, wq_lpB, ks_l, ks_r, up2_s, up2_n, u_e, u_n, if_true, if_false, ite_true, ite_false]; try rfl)
    · by_cases cb : t.1 = 3 ∨ (9 < t.1 ∧ t.1 < 17)
      · have e : ar t = 2 := by unfold ar; rw [if_neg c2, if_pos cb]
        rw [e]
        by_cases c : t.1 = 3
        · (simp (disch := first | omega | with_reducible assumption) only [l_2, l_3, l_4, l_5, l_6, l_7, l_8, l_9, l_10, l_11, l_12, l_13, l_14, l_15, l_16, l_17, l_23, l_24, l_40, l_100, l_320, l_383, nI_add, pk_mul, z_sub, z_lt0, z_ge0, z_e0, z_le0, z_gt0, z_lt, z_le, z_eq, z_cl, z_in, z_m1lt, z_m1ge, z_nm1, z_m1n, n1_add, n1_ad2, n1_sub, n1_eq, n1_eq', n1_le, n1_ge, n1_lt, n1_gt, z_10, z_01, z_0lt, z_0ge, z_0c, z_0in, z_0a, z_a0, z_01a, bI_f, bI_f0, t0f, t1f, cl_f, wi_t, wi_f, wc_n, wc_0, wz_0, wz_1, wq_some, wq_bind, wq_lpB, ks_l, ks_r, up2_s, up2_n, u_e, u_n, if_true, if_false, ite_true, ite_false]; try rfl)
        · (simp (disch := first | omega | with_reducible assumption) only [l_2, l_3, l_4, l_5, l_6, l_7, l_8, l_9, l_10, l_11, l_12, l_13, l_14, l_15, l_16, l_17, l_23, l_24, l_40, l_100, l_320, l_383, nI_add, pk_mul, z_sub, z_lt0, z_ge0, z_e0, z_le0, z_gt0, z_lt, z_le, z_eq, z_cl, z_in, z_m1lt, z_m1ge, z_nm1, z_m1n, n1_add, n1_ad2, n1_sub, n1_eq, n1_eq', n1_le, n1_ge, n1_lt, n1_gt, z_10, z_01, z_0lt, z_0ge, z_0c, z_0in, z_0a, z_a0, z_01a, bI_f, bI_f0, t0f, t1f, cl_f, wi_t, wi_f, wc_n, wc_0, wz_0, wz_1, wq_some, wq_bind, wq_lpB, ks_l, ks_r, up2_s, up2_n, u_e, u_n, if_true, if_false, ite_true, ite_false]; try rfl)
      · have e : ar t = 1 := by unfold ar; rw [if_neg c2, if_neg cb, if_pos (by omega)]
        rw [e]
        by_cases c : t.1 = 17
        · (simp (disch := first | omega | with_reducible assumption) only [l_2, l_3, l_4, l_5, l_6, l_7, l_8, l_9, l_10, l_11, l_12, l_13, l_14, l_15, l_16, l_17, l_23, l_24, l_40, l_100, l_320, l_383, nI_add, pk_mul, z_sub, z_lt0, z_ge0, z_e0, z_le0, z_gt0, z_lt, z_le, z_eq, z_cl, z_in, z_m1lt, z_m1ge, z_nm1, z_m1n, n1_add, n1_ad2, n1_sub, n1_eq, n1_eq', n1_le, n1_ge, n1_lt, n1_gt, z_10, z_01, z_0lt, z_0ge, z_0c, z_0in, z_0a, z_a0, z_01a, bI_f, bI_f0, t0f, t1f, cl_f, wi_t, wi_f, wc_n, wc_0, wz_0, wz_1, wq_some, wq_bind, wq_lpB, ks_l, ks_r, up2_s, up2_n, u_e, u_n, if_true, if_false, ite_true, ite_false]; try rfl)
        · (simp (disch := first | omega | with_reducible assumption) only [l_2, l_3, l_4, l_5, l_6, l_7, l_8, l_9, l_10, l_11, l_12, l_13, l_14, l_15, l_16, l_17, l_23, l_24, l_40, l_100, l_320, l_383, nI_add, pk_mul, z_sub, z_lt0, z_ge0, z_e0, z_le0, z_gt0, z_lt, z_le, z_eq, z_cl, z_in, z_m1lt, z_m1ge, z_nm1, z_m1n, n1_add, n1_ad2, n1_sub, n1_eq, n1_eq', n1_le, n1_ge, n1_lt, n1_gt, z_10, z_01, z_0lt, z_0ge, z_0c, z_0in, z_0a, z_a0, z_01a, bI_f, bI_f0, t0f, t1f, cl_f, wi_t, wi_f, wc_n, wc_0, wz_0, wz_1, wq_some, wq_bind, wq_lpB, ks_l, ks_r, up2_s, up2_n, u_e, u_n, if_true, if_false, ite_true, ite_false]; try rfl)
theorem kv_2 {t : Tk} (h : t.1 = 2) : kv t = t.2 := if_pos (Or.inl h)
theorem md_operands_sp {t : Tk} (h : okT t) : md_operands (nI t.1) t.2 = some (nI (ar t)) := by
  have h1 := h.1
  apply eq_of_wq
  unfold md_operands md_operands_b0 md_operands_b31 md_operands_b35
  by_cases c2 : t.1 = 2
  · obtain ⟨w1, w2, _, _⟩ := sw_eq h c2
    rw [w1]
    simp (disch := first | omega | with_reducible assumption) only [sh7, sh4, an15, an7, l_2, l_3, l_4, l_5, l_6, l_7, l_8, l_9, l_10, l_11, l_12, l_13, l_14, l_15, l_16, l_17, l_23, l_24, l_40, l_100, l_320, l_383, nI_add, pk_mul, z_sub, z_lt0, z_ge0, z_e0, z_le0, z_gt0, z_lt, z_le, z_eq, z_cl, z_in, z_m1lt, z_m1ge, z_nm1, z_m1n, n1_add, n1_ad2, n1_sub, n1_eq, n1_eq', n1_le, n1_ge, n1_lt, n1_gt, z_10, z_01, z_0lt, z_0ge, z_0c, z_0in, z_0a, z_a0, z_01a, bI_f, bI_f0, t0f, t1f, cl_f, wi_t, wi_f, wc_n, wc_0, wz_0, wz_1, wq_some, wq_bind, wq_lpB, ks_l, ks_r, up2_s, up2_n, u_e, u_n, if_true, if_false, ite_true, ite_false]
    unfold ar
    rw [if_pos c2]
  · by_cases ca : t.1 < 2 ∨ (4 ≤ t.1 ∧ t.1 < 7)
    · have e : ar t = 0 := by unfold ar; rw [if_neg c2, if_neg (by omega), if_neg (by omega)]
      rw [e]
      (simp (disch := first | omega | with_reducible assumption) only [l_2, l_3, l_4, l_5, l_6, l_7, l_8, l_9, l_10, l_11, l_12, l_13, l_14, l_15, l_16, l_17, l_23, l_24, l_40, l_100, l_320, l_383, nI_add, pk_mul, z_sub, z_lt0, z_ge0, z_e0, z_le0, z_gt0, z_lt, z_le, z_eq, z_cl, z_in, z_m1lt, z_m1ge, z_nm1, z_m1n, n1_add, n1_ad2, n1_sub, n1_eq, n1_eq', n1_le, n1_ge, n1_lt, n1_gt, z_10, z_01, z_0lt, z_0ge, z_0c, z_0in, z_0a, z_a0, z_01a, bI_f, bI_f0, t0f, t1f, cl_f, wi_t, wi_f, wc_n, wc_0, wz_0, wz_1, wq_some, wq_bind, wq_lpB, ks_l, ks_r, up2_s, up2_n, u_e, u_n, if_true, if_false, ite_true, ite_false]; try rfl)
    · by_cases cb : t.1 = 3 ∨ (9 < t.1 ∧ t.1 < 17)
      · have e : ar t = 2 := by unfold ar; rw [if_neg c2, if_pos cb]
        rw [e]
        by_cases c : t.1 = 3
        · (simp (disch := first | omega | with_reducible assumption) only [l_2, l_3, l_4, l_5, l_6, l_7, l_8, l_9, l_10, l_11, l_12, l_13, l_14, l_15, l_16, l_17, l_23, l_24, l_40, l_100, l_320, l_383, nI_add, pk_mul, z_sub, z_lt0, z_ge0, z_e0, z_le0, z_gt0, z_lt, z_le, z_eq, z_cl, z_in, z_m1lt, z_m1ge, z_nm1, z_m1n, n1_add, n1_ad2, n1_sub, n1_eq, n1_eq', n1_le, n1_ge, n1_lt, n1_gt, z_10, z_01, z_0lt, z_0ge, z_0c, z_0in, z_0a, z_a0, z_01a, bI_f, bI_f0, t0f, t1f, cl_f, wi_t, wi_f, wc_n, wc_0, wz_0, wz_1, wq_some, wq_bind, wq_lpB, ks_l, ks_r, up2_s, up2_n, u_e, u_n, if_true, if_false, ite_true, ite_false]; try rfl)
        · (simp (disch := first | omega | with_reducible assumption) only [l_2, l_3, l_4, l_5, l_6, l_7, l_8, l_9, l_10, l_11, l_12, l_13, l_14, l_15, l_16, l_17, l_23, l_24, l_40, l_100, l_320, l_383, nI_add, pk_mul, z_sub, z_lt0, z_ge0, z_e0, z_le0, z_gt0, z_lt, z_le, z_eq, z_cl, z_in, z_m1lt, z_m1ge, z_nm1, z_m1n, n1_add, n1_ad2, n1_sub, n1_eq, n1_eq', n1_le, n1_ge, n1_lt, n1_gt, z_10, z_01, z_0lt, z_0ge, z_0c, z_0in, z_0a, z_a0, z_01a, bI_f, bI_f0, t0f, t1f, cl_f, wi_t, wi_f, wc_n, wc_0, wz_0, wz_1, wq_some, wq_bind, wq_lpB, ks_l, ks_r, up2_s, up2_n, u_e, u_n, if_true, if_false, ite_true, ite_false]; try rfl)
      · have e : ar t = 1 := by unfold ar; rw [if_neg c2, if_neg cb, if_pos (by omega)]
        rw [e]
        by_cases c : t.1 = 17
        · (simp (disch := first | omega | with_reducible assumption) only [l_2, l_3, l_4, l_5, l_6, l_7, l_8, l_9, l_10, l_11, l_12, l_13, l_14, l_15, l_16, l_17, l_23, l_24, l_40, l_100, l_320, l_383, nI_add, pk_mul, z_sub, z_lt0, z_ge0, z_e0, z_le0, z_gt0, z_lt, z_le, z_eq, z_cl, z_in, z_m1lt, z_m1ge, z_nm1, z_m1n, n1_add, n1_ad2, n1_sub, n1_eq, n1_eq', n1_le, n1_ge, n1_lt, n1_gt, z_10, z_01, z_0lt, z_0ge, z_0c, z_0in, z_0a, z_a0, z_01a, bI_f, bI_f0, t0f, t1f, cl_f, wi_t, wi_f, wc_n, wc_0, wz_0, wz_1, wq_some, wq_bind, wq_lpB, ks_l, ks_r, up2_s, up2_n, u_e, u_n, if_true, if_false, ite_true, ite_false]; try rfl)
        · (simp (disch := first | omega | with_reducible assumption) only [l_2, l_3, l_4, l_5, l_6, l_7, l_8, l_9, l_10, l_11, l_12, l_13, l_14, l_15, l_16, l_17, l_23, l_24, l_40, l_100, l_320, l_383, nI_add, pk_mul, z_sub, z_lt0, z_ge0, z_e0, z_le0, z_gt0, z_lt, z_le, z_eq, z_cl, z_in, z_m1lt, z_m1ge, z_nm1, z_m1n, n1_add, n1_ad2, n1_sub, n1_eq, n1_eq', n1_le, n1_ge, n1_lt, n1_gt, z_10, z_01, z_0lt, z_0ge, z_0c, z_0in, z_0a, z_a0, z_01a, bI_f, bI_f0, t0f, t1f, cl_f, wi_t, wi_f, wc_n, wc_0, wz_0, wz_1, wq_some, wq_bind, wq_lpB, ks_l, ks_r, up2_s, up2_n, u_e, u_n, if_true, if_false, ite_true, ite_false]; try rfl)
theorem md_typeOf_sp {k : Nat} (h : k < 18) : md_typeOf (nI k) = some (nI (tyk k)) := by
  apply eq_of_wq
  unfold md_typeOf md_typeOf_b0
  by_cases c : k < 4
  · have e : tyk k = 0 := by unfold tyk; rw [if_pos c]
    rw [e]; (simp (disch := first | omega | with_reducible assumption) only [l_2, l_3, l_4, l_5, l_6, l_7, l_8, l_9, l_10, l_11, l_12, l_13, l_14, l_15, l_16, l_17, l_23, l_24, l_40, l_100, l_320, l_383, nI_add, pk_mul, z_sub, z_lt0, z_ge0, z_e0, z_le0, z_gt0, z_lt, z_le, z_eq, z_cl, z_in, z_m1lt, z_m1ge, z_nm1, z_m1n, n1_add, n1_ad2, n1_sub, n1_eq, n1_eq', n1_le, n1_ge, n1_lt, n1_gt, z_10, z_01, z_0lt, z_0ge, z_0c, z_0in, z_0a, z_a0, z_01a, bI_f, bI_f0, t0f, t1f, cl_f, wi_t, wi_f, wc_n, wc_0, wz_0, wz_1, wq_some, wq_bind, wq_lpB, ks_l, ks_r, up2_s, up2_n, u_e, u_n, if_true, if_false, ite_true, ite_false]; try rfl)
  · by_cases c2 : k < 13
    · have e : tyk k = 1 := by unfold tyk; rw [if_neg c, if_pos c2]
      rw [e]; (simp (disch := first | omega | with_reducible assumption) only [l_2, l_3, l_4, l_5, l_6, l_7, l_8, l_9, l_10, l_11, l_12, l_13, l_14, l_15, l_16, l_17, l_23, l_24, l_40, l_100, l_320, l_383, nI_add, pk_mul, z_sub, z_lt0, z_ge0, z_e0, z_le0, z_gt0, z_lt, z_le, z_eq, z_cl, z_in, z_m1lt, z_m1ge, z_nm1, z_m1n, n1_add, n1_ad2, n1_sub, n1_eq, n1_eq', n1_le, n1_ge, n1_lt, n1_gt, z_10, z_01, z_0lt, z_0ge, z_0c, z_0in, z_0a, z_a0, z_01a, bI_f, bI_f0, t0f, t1f, cl_f, wi_t, wi_f, wc_n, wc_0, wz_0, wz_1, wq_some, wq_bind, wq_lpB, ks_l, ks_r, up2_s, up2_n, u_e, u_n, if_true, if_false, ite_true, ite_false]; try rfl)
    · have e : tyk k = 2 := by unfold tyk; rw [if_neg c, if_neg c2]
      rw [e]; (simp (disch := first | omega | with_reducible assumption) only [l_2, l_3, l_4, l_5, l_6, l_7, l_8, l_9, l_10, l_11, l_12, l_13, l_14, l_15, l_16, l_17, l_23, l_24, l_40, l_100, l_320, l_383, nI_add, pk_mul, z_sub, z_lt0, z_ge0, z_e0, z_le0, z_gt0, z_lt, z_le, z_eq, z_cl, z_in, z_m1lt, z_m1ge, z_nm1, z_m1n, n1_add, n1_ad2, n1_sub, n1_eq, n1_eq', n1_le, n1_ge, n1_lt, n1_gt, z_10, z_01, z_0lt, z_0ge, z_0c, z_0in, z_0a, z_a0, z_01a, bI_f, bI_f0, t0f, t1f, cl_f, wi_t, wi_f, wc_n, wc_0, wz_0, wz_1, wq_some, wq_bind, wq_lpB, ks_l, ks_r, up2_s, up2_n, u_e, u_n, if_true, if_false, ite_true, ite_false]; try rfl)
/-- the fields of a row of tokens -/
def DX1 (b : Nat) (ts : List Tk) (σ : dS) : Prop := ∀ i t r, ts.drop i = t :: r → σ 16 (b + i) = nI t.1 ∧ σ 17 (b + i) = kv t
def DX2 (b : Nat) (ts : List Tk) (σ : dS) : Prop := ∀ i t r, ts.drop i = t :: r → σ 18 (b + i) = nI (tyk t.1) ∧ σ 19 (b + i) = nI (i + sk 1 (t :: r)) ∧ σ 20 (b + i) = (if loc (t :: r) = true then 1 else 0)
def MX (b : Nat) (ts : List Tk) (τ : dS) : Prop := ∀ i t r, ts.drop i = t :: r → τ 6 (b + i) = nI t.1 ∧ τ 7 (b + i) = t.2
/-- the expressions: slots 0 .. 7, the draft 8 -/
def XR (X : Nat → List Tk) (σ τ : dS) : Prop :=
  (∀ s, s < 9 → (X s).length ≤ 40 ∧ (∀ t, t ∈ X s → okT t) ∧ σ 21 s = nI (X s).length ∧ τ 8 s = nI (X s).length ∧ DX1 (40 * s) (X s) σ ∧ MX (40 * s) (X s) τ) ∧ (∀ s, s < 8 → X s ≠ [] → wfs (X s) 1 ∧ DX2 (40 * s) (X s) σ)
theorem drop_lt {ts : List Tk} {i : Nat} {t : Tk} {r : List Tk} (h : ts.drop i = t :: r) : i < ts.length := by
  rcases Nat.lt_or_ge i ts.length with g | g
  · exact g
  · rw [List.drop_eq_nil_of_le g] at h; cases h
theorem drop_mem {ts : List Tk} {i : Nat} {t : Tk} {r : List Tk} (h : ts.drop i = t :: r) : t ∈ ts := List.mem_of_mem_drop (by rw [h]; exact List.mem_cons_self)
theorem drop_next {ts : List Tk} {i : Nat} {t : Tk} {r : List Tk} (h : ts.drop i = t :: r) : ts.drop (i + 1) = r := by
  rw [← List.drop_drop, h]; rfl
theorem drop_ex {ts : List Tk} {i : Nat} (h : i < ts.length) : ∃ t r, ts.drop i = t :: r := ⟨ts[i], ts.drop (i + 1), List.drop_eq_getElem_cons h⟩
theorem drop_app {ts : List Tk} {u : Tk} {i : Nat} {t : Tk} {r : List Tk} (h : (ts ++ [u]).drop i = t :: r) : (i < ts.length ∧ ∃ r', ts.drop i = t :: r') ∨ (i = ts.length ∧ t = u) := by
  have hi := drop_lt h
  rw [List.length_append, List.length_singleton] at hi
  by_cases g : i < ts.length
  · left
    rw [List.drop_append_of_le_length (by omega)] at h
    obtain ⟨t', r', h'⟩ := drop_ex g
    rw [h'] at h
    have : t' = t := by
      have := (List.cons.inj h).1
      exact this
    subst this
    exact ⟨g, r', h'⟩
  · right
    have e : i = ts.length := by omega
    subst e
    rw [List.drop_left] at h
    exact ⟨rfl, (List.cons.inj h).1.symm⟩
/-- a token is put behind the draft -/
theorem XR_push {X : Nat → List Tk} {σ τ σ' τ' : dS} {u : Tk} (h : XR X σ τ) (hu : okT u) (hl : (X 8).length < 40) (s1 : sm [16, 17, 21] σ σ') (s2 : sm [6, 7, 8] τ τ')
    (e16 : σ' 16 = upd (σ 16) (320 + (X 8).length) (nI u.1)) (e17 : σ' 17 = upd (σ 17) (320 + (X 8).length) (kv u)) (e21 : σ' 21 = upd (σ 21) 8 (nI ((X 8).length + 1)))
    (e6 : τ' 6 = upd (τ 6) (320 + (X 8).length) (nI u.1)) (e7 : τ' 7 = upd (τ 7) (320 + (X 8).length) u.2) (e8 : τ' 8 = upd (τ 8) 8 (nI ((X 8).length + 1))) : XR (fun s => if s = 8 then X 8 ++ [u] else X s) σ' τ' := by
  refine ⟨fun s hs => ?_, fun s hs hne => ?_⟩
  · obtain ⟨a1, a2, a3, a4, a5, a6⟩ := h.1 s hs
    by_cases e : s = 8
    · subst e
      simp only [if_true]
      refine ⟨by rw [List.length_append, List.length_singleton]; omega, fun t ht => ?_, ?_, ?_, fun i t r hd => ?_, fun i t r hd => ?_⟩
      · rcases List.mem_append.mp ht with g | g
        · exact a2 t g
        · rw [List.mem_singleton.mp g]; exact hu
      · rw [e21, u_e, List.length_append]; rfl
      · rw [e8, u_e, List.length_append]; rfl
      · rw [e16, e17]
        rcases drop_app hd with ⟨g1, r', g2⟩ | ⟨g1, g2⟩
        · rw [u_n (by omega), u_n (by omega)]; exact a5 i t r' g2
        · rw [g1, show 40 * 8 + (X 8).length = 320 + (X 8).length by omega, u_e, u_e, g2]; exact ⟨rfl, rfl⟩
      · rw [e6, e7]
        rcases drop_app hd with ⟨g1, r', g2⟩ | ⟨g1, g2⟩
        · rw [u_n (by omega), u_n (by omega)]; exact a6 i t r' g2
        · rw [g1, show 40 * 8 + (X 8).length = 320 + (X 8).length by omega, u_e, u_e, g2]; exact ⟨rfl, rfl⟩
    · simp only [e, if_false]
      have hs8 : s < 8 := by omega
      refine ⟨a1, a2, by rw [e21, u_n e]; exact a3, by rw [e8, u_n e]; exact a4, fun i t r hd => ?_, fun i t r hd => ?_⟩
      · have := drop_lt hd
        rw [e16, e17, u_n (by omega), u_n (by omega)]; exact a5 i t r hd
      · have := drop_lt hd
        rw [e6, e7, u_n (by omega), u_n (by omega)]; exact a6 i t r hd
  · have e : s ≠ 8 := by omega
    simp only [e, if_false] at hne ⊢
    obtain ⟨b1, b2⟩ := h.2 s hs hne
    refine ⟨b1, fun i t r hd => ?_⟩
    rw [s1 18 (by decide), s1 19 (by decide), s1 20 (by decide)]
    exact b2 i t r hd
theorem XR_sm {X : Nat → List Tk} {σ τ σ' τ' : dS} {l l' : List Nat} (h : XR X σ τ) (s1 : sm l σ σ') (s2 : sm l' τ τ') (h1 : ∀ i, i ∈ l → i < 16 ∨ 21 < i) (h2 : ∀ i, i ∈ l' → i < 6 ∨ 8 < i) : XR X σ' τ' := by
  have k1 : ∀ i, 16 ≤ i → i ≤ 21 → σ' i = σ i := fun i a b => s1 i (fun g => by have := h1 i g; omega)
  have k2 : ∀ i, 6 ≤ i → i ≤ 8 → τ' i = τ i := fun i a b => s2 i (fun g => by have := h2 i g; omega)
  unfold XR DX1 DX2 MX at *
  rw [k1 16 (by omega) (by omega), k1 17 (by omega) (by omega), k1 18 (by omega) (by omega), k1 19 (by omega) (by omega), k1 20 (by omega) (by omega), k1 21 (by omega) (by omega), k2 6 (by omega) (by omega), k2 7 (by omega) (by omega), k2 8 (by omega) (by omega)]
  exact h
/-- token answers alike -/
theorem token_both {X : Nat → List Tk} {σ τ : dS} (h : XR X σ τ) (v1 v2 : Int32) : both (dk_token v1 v2 σ) (md_token v1 v2 τ) (fun σ' τ' => (σ' = σ ∧ τ' = τ) ∨ (sm [16, 17, 21] σ σ' ∧ sm [6, 7, 8] τ τ' ∧ ∃ u, XR (fun s => if s = 8 then X 8 ++ [u] else X s) σ' τ')) := by
  obtain ⟨a1, a2, a3, a4, a5, a6⟩ := h.1 8 (by omega)
  have c8 : (8 : Int32).toNatClampNeg = 8 := by decide
  -- refused
  have ref : ∀ (hd : dk_token v1 v2 σ = some (-1, σ)) (hm : md_token v1 v2 τ = some (-1, τ)), both (dk_token v1 v2 σ) (md_token v1 v2 τ) (fun σ' τ' => (σ' = σ ∧ τ' = τ) ∨ (sm [16, 17, 21] σ σ' ∧ sm [6, 7, 8] τ τ' ∧ ∃ u, XR (fun s => if s = 8 then X 8 ++ [u] else X s) σ' τ')) := fun hd hm => both_i hd hm (Or.inl ⟨rfl, rfl⟩)
  -- the model's end
  have m62 : ∀ (g : Int32) (k : Int32), md_in v1 0 17 = some k → (k = 0 ∨ g = 0 ∨ (X 8).length = 40) → wq (md_token_b54 v1 v2 g τ) (fun r => r = (-1, τ)) := by
    intro g k hk hor
    unfold md_token_b54
    rw [hk, wq_bind, wq_some]
    unfold md_token_b62
    by_cases e1 : k = 0
    · rw [wi_t e1, wq_some]
    · by_cases e2 : g = 0
      · rw [wi_f e1, wi_t e2, wq_some]
      · have e3 : (X 8).length = 40 := by
          rcases hor with h | h | h
          · exact absurd h e1
          · exact absurd h e2
          · exact h
        rw [wi_f e1, wi_f e2]
        simp (disch := first | omega | with_reducible assumption) only [l_2, l_3, l_4, l_5, l_6, l_7, l_8, l_9, l_10, l_11, l_12, l_13, l_14, l_15, l_16, l_17, l_23, l_24, l_40, l_100, l_320, l_383, nI_add, pk_mul, z_sub, z_lt0, z_ge0, z_e0, z_le0, z_gt0, z_lt, z_le, z_eq, z_cl, z_in, z_m1lt, z_m1ge, z_nm1, z_m1n, n1_add, n1_ad2, n1_sub, n1_eq, n1_eq', n1_le, n1_ge, n1_lt, n1_gt, z_10, z_01, z_0lt, z_0ge, z_0c, z_0in, z_0a, z_a0, z_01a, bI_f, bI_f0, t0f, t1f, cl_f, wi_t, wi_f, wc_n, wc_0, wz_0, wz_1, wq_some, wq_bind, wq_lpB, ks_l, ks_r, up2_s, up2_n, u_e, u_n, if_true, if_false, ite_true, ite_false]
        rw [a4, e3]
        simp (disch := first | omega | with_reducible assumption) only [l_2, l_3, l_4, l_5, l_6, l_7, l_8, l_9, l_10, l_11, l_12, l_13, l_14, l_15, l_16, l_17, l_23, l_24, l_40, l_100, l_320, l_383, nI_add, pk_mul, z_sub, z_lt0, z_ge0, z_e0, z_le0, z_gt0, z_lt, z_le, z_eq, z_cl, z_in, z_m1lt, z_m1ge, z_nm1, z_m1n, n1_add, n1_ad2, n1_sub, n1_eq, n1_eq', n1_le, n1_ge, n1_lt, n1_gt, z_10, z_01, z_0lt, z_0ge, z_0c, z_0in, z_0a, z_a0, z_01a, bI_f, bI_f0, t0f, t1f, cl_f, wi_t, wi_f, wc_n, wc_0, wz_0, wz_1, wq_some, wq_bind, wq_lpB, ks_l, ks_r, up2_s, up2_n, u_e, u_n, if_true, if_false, ite_true, ite_false]
  have mgood : ∀ (Q : Int32 × dS → Prop), (v1 = 2 → ∃ w, w ≤ 383 ∧ v2 = nI w ∧ w % 16 ≤ 10 ∧ w / 16 % 8 ≤ 6) → wq (md_token_b54 v1 v2 1 τ) Q → wq (md_token v1 v2 τ) Q := by
    intro Q hg hQ
    unfold md_token md_token_b0 md_token_b49
    by_cases e : v1 = 2
    · obtain ⟨w, w1, rfl, w2, w3⟩ := hg e
      have hw : w < 2147483648 := by omega
      rw [wi_t e, wi_f (by rw [z_lt0 hw]; simp), l_15, an15 hw, l_10, md_in_nat w2 (by omega), wq_bind, wq_some]
      unfold md_token_b19
      rw [wi_f (by decide), l_4, sh4 hw, l_7, an7 (by omega), l_6, md_in_nat w3 (by omega), wq_bind, wq_some]
      unfold md_token_b34
      rw [wi_f (by decide), l_7, sh7 hw, l_2, md_in_nat (by omega) (by omega), wq_bind, wq_some]
      unfold md_token_b46 md_token_b49
      rw [wi_f (by decide)]; exact hQ
    · rw [wi_f e]; exact hQ
  have mbad : ∀ (Q : Int32 × dS → Prop), v1 = 2 → (¬ ∃ w, w ≤ 383 ∧ v2 = nI w ∧ w % 16 ≤ 10 ∧ w / 16 % 8 ≤ 6) → wq (md_token_b54 v1 v2 0 τ) Q → wq (md_token v1 v2 τ) Q := by
    intro Q e hg hQ
    unfold md_token md_token_b0 md_token_b53
    rw [wi_t e]
    by_cases e2 : v2 < 0
    · rw [wi_t e2]; exact hQ
    · rw [wi_f e2]
      obtain ⟨w, hw, rfl⟩ := z_nlt e2
      rw [l_15, an15 hw, l_10]
      by_cases g1 : w % 16 ≤ 10
      · rw [md_in_nat g1 (by omega), wq_bind, wq_some]
        unfold md_token_b19 md_token_b53
        rw [wi_f (by decide), l_4, sh4 hw, l_7, an7 (by omega), l_6]
        by_cases g2 : w / 16 % 8 ≤ 6
        · rw [md_in_nat g2 (by omega), wq_bind, wq_some]
          unfold md_token_b34 md_token_b53
          rw [wi_f (by decide), l_7, sh7 hw, l_2]
          by_cases g3 : w / 128 ≤ 2
          · exact absurd ⟨w, by omega, rfl, g1, g2⟩ hg
          · rw [md_in_out (by omega) (Or.inr (by rw [z_le (by omega) (by omega)]; omega)), wq_bind, wq_some]
            unfold md_token_b46 md_token_b53
            rw [wi_t rfl]; exact hQ
        · rw [md_in_out (by omega) (Or.inr (by rw [z_le (by omega) (by omega)]; omega)), wq_bind, wq_some]
          unfold md_token_b34 md_token_b53
          rw [wi_t rfl]; exact hQ
      · rw [md_in_out (by omega) (Or.inr (by rw [z_le (by omega) (by omega)]; omega)), wq_bind, wq_some]
        unfold md_token_b19 md_token_b53
        rw [wi_t rfl]; exact hQ
  by_cases hv1 : v1 < 0 ∨ nI 18 ≤ v1
  · refine ref ?_ ?_
    · apply eq_of_wq
      unfold dk_token dk_token_b0
      by_cases e : v1 < 0
      · rw [wi_t e, wq_some]
      · have e2 : (17 : Int32) < v1 := by
          rcases hv1 with g | g
          · exact absurd g e
          · rw [Int32.le_iff_toInt_le, z_toInt (by omega)] at g
            rw [Int32.lt_iff_toInt_lt]
            have : (17 : Int32).toInt = 17 := by decide
            omega
        rw [wi_f e, wi_t e2, wq_some]
    · apply eq_of_wq
      have hk := md_in_out (v := v1) (b := 17) (by omega) hv1
      by_cases e : v1 = 2
      · exfalso
        rw [e] at hv1
        exact absurd hv1 (by decide)
      · exact mgood _ (fun h => absurd h e) (m62 1 0 hk (Or.inl rfl))
  obtain ⟨k, hk18, rfl⟩ : ∃ k, k < 18 ∧ v1 = nI k := by
    rcases z_cut v1 (n := 18) (by omega) with g | g | g
    · exact absurd (Or.inl g) hv1
    · exact absurd (Or.inr g) hv1
    · exact g
  have hk1 : md_in (nI k) 0 17 = some 1 := md_in_nat (b := 17) (by omega) (by omega)
  by_cases h40 : (X 8).length = 40
  · refine ref ?_ ?_
    · apply eq_of_wq
      unfold dk_token dk_token_b0
      simp (disch := first | omega | with_reducible assumption) only [l_2, l_3, l_4, l_5, l_6, l_7, l_8, l_9, l_10, l_11, l_12, l_13, l_14, l_15, l_16, l_17, l_23, l_24, l_40, l_100, l_320, l_383, nI_add, pk_mul, z_sub, z_lt0, z_ge0, z_e0, z_le0, z_gt0, z_lt, z_le, z_eq, z_cl, z_in, z_m1lt, z_m1ge, z_nm1, z_m1n, n1_add, n1_ad2, n1_sub, n1_eq, n1_eq', n1_le, n1_ge, n1_lt, n1_gt, z_10, z_01, z_0lt, z_0ge, z_0c, z_0in, z_0a, z_a0, z_01a, bI_f, bI_f0, t0f, t1f, cl_f, wi_t, wi_f, wc_n, wc_0, wz_0, wz_1, wq_some, wq_bind, wq_lpB, ks_l, ks_r, up2_s, up2_n, u_e, u_n, if_true, if_false, ite_true, ite_false]
      rw [a3, h40]
      simp (disch := first | omega | with_reducible assumption) only [l_2, l_3, l_4, l_5, l_6, l_7, l_8, l_9, l_10, l_11, l_12, l_13, l_14, l_15, l_16, l_17, l_23, l_24, l_40, l_100, l_320, l_383, nI_add, pk_mul, z_sub, z_lt0, z_ge0, z_e0, z_le0, z_gt0, z_lt, z_le, z_eq, z_cl, z_in, z_m1lt, z_m1ge, z_nm1, z_m1n, n1_add, n1_ad2, n1_sub, n1_eq, n1_eq', n1_le, n1_ge, n1_lt, n1_gt, z_10, z_01, z_0lt, z_0ge, z_0c, z_0in, z_0a, z_a0, z_01a, bI_f, bI_f0, t0f, t1f, cl_f, wi_t, wi_f, wc_n, wc_0, wz_0, wz_1, wq_some, wq_bind, wq_lpB, ks_l, ks_r, up2_s, up2_n, u_e, u_n, if_true, if_false, ite_true, ite_false]
    · apply eq_of_wq
      by_cases hg : nI k = 2 ∧ ¬ ∃ w, w ≤ 383 ∧ v2 = nI w ∧ w % 16 ≤ 10 ∧ w / 16 % 8 ≤ 6
      · exact mbad _ hg.1 hg.2 (m62 0 1 hk1 (Or.inr (Or.inl rfl)))
      · exact mgood _ (fun e => Classical.byContradiction (fun g => hg ⟨e, g⟩)) (m62 1 1 hk1 (Or.inr (Or.inr h40)))
  by_cases hg : k = 2 ∧ ¬ ∃ w, w ≤ 383 ∧ v2 = nI w ∧ w % 16 ≤ 10 ∧ w / 16 % 8 ≤ 6
  · refine ref ?_ ?_
    · apply eq_of_wq
      obtain ⟨e, hg⟩ := hg
      unfold dk_token dk_token_b0
      simp (disch := first | omega | with_reducible assumption) only [l_2, l_3, l_4, l_5, l_6, l_7, l_8, l_9, l_10, l_11, l_12, l_13, l_14, l_15, l_16, l_17, l_23, l_24, l_40, l_100, l_320, l_383, nI_add, pk_mul, z_sub, z_lt0, z_ge0, z_e0, z_le0, z_gt0, z_lt, z_le, z_eq, z_cl, z_in, z_m1lt, z_m1ge, z_nm1, z_m1n, n1_add, n1_ad2, n1_sub, n1_eq, n1_eq', n1_le, n1_ge, n1_lt, n1_gt, z_10, z_01, z_0lt, z_0ge, z_0c, z_0in, z_0a, z_a0, z_01a, bI_f, bI_f0, t0f, t1f, cl_f, wi_t, wi_f, wc_n, wc_0, wz_0, wz_1, wq_some, wq_bind, wq_lpB, ks_l, ks_r, up2_s, up2_n, u_e, u_n, if_true, if_false, ite_true, ite_false]
      rw [a3]
      simp (disch := first | omega | with_reducible assumption) only [l_2, l_3, l_4, l_5, l_6, l_7, l_8, l_9, l_10, l_11, l_12, l_13, l_14, l_15, l_16, l_17, l_23, l_24, l_40, l_100, l_320, l_383, nI_add, pk_mul, z_sub, z_lt0, z_ge0, z_e0, z_le0, z_gt0, z_lt, z_le, z_eq, z_cl, z_in, z_m1lt, z_m1ge, z_nm1, z_m1n, n1_add, n1_ad2, n1_sub, n1_eq, n1_eq', n1_le, n1_ge, n1_lt, n1_gt, z_10, z_01, z_0lt, z_0ge, z_0c, z_0in, z_0a, z_a0, z_01a, bI_f, bI_f0, t0f, t1f, cl_f, wi_t, wi_f, wc_n, wc_0, wz_0, wz_1, wq_some, wq_bind, wq_lpB, ks_l, ks_r, up2_s, up2_n, u_e, u_n, if_true, if_false, ite_true, ite_false]
      by_cases e2 : v2 < 0
      · rw [wi_t e2, wq_some]
      · rw [wi_f e2]
        obtain ⟨w, hw, rfl⟩ := z_nlt e2
        simp (disch := first | omega | with_reducible assumption) only [sh7, sh4, an15, an7, l_2, l_3, l_4, l_5, l_6, l_7, l_8, l_9, l_10, l_11, l_12, l_13, l_14, l_15, l_16, l_17, l_23, l_24, l_40, l_100, l_320, l_383, nI_add, pk_mul, z_sub, z_lt0, z_ge0, z_e0, z_le0, z_gt0, z_lt, z_le, z_eq, z_cl, z_in, z_m1lt, z_m1ge, z_nm1, z_m1n, n1_add, n1_ad2, n1_sub, n1_eq, n1_eq', n1_le, n1_ge, n1_lt, n1_gt, z_10, z_01, z_0lt, z_0ge, z_0c, z_0in, z_0a, z_a0, z_01a, bI_f, bI_f0, t0f, t1f, cl_f, wi_t, wi_f, wc_n, wc_0, wz_0, wz_1, wq_some, wq_bind, wq_lpB, ks_l, ks_r, up2_s, up2_n, u_e, u_n, if_true, if_false, ite_true, ite_false]
        by_cases g0 : 383 < w
        · simp (disch := first | omega | with_reducible assumption) only [sh7, sh4, an15, an7, l_2, l_3, l_4, l_5, l_6, l_7, l_8, l_9, l_10, l_11, l_12, l_13, l_14, l_15, l_16, l_17, l_23, l_24, l_40, l_100, l_320, l_383, nI_add, pk_mul, z_sub, z_lt0, z_ge0, z_e0, z_le0, z_gt0, z_lt, z_le, z_eq, z_cl, z_in, z_m1lt, z_m1ge, z_nm1, z_m1n, n1_add, n1_ad2, n1_sub, n1_eq, n1_eq', n1_le, n1_ge, n1_lt, n1_gt, z_10, z_01, z_0lt, z_0ge, z_0c, z_0in, z_0a, z_a0, z_01a, bI_f, bI_f0, t0f, t1f, cl_f, wi_t, wi_f, wc_n, wc_0, wz_0, wz_1, wq_some, wq_bind, wq_lpB, ks_l, ks_r, up2_s, up2_n, u_e, u_n, if_true, if_false, ite_true, ite_false]
        · by_cases g1 : 10 < w % 16
          · simp (disch := first | omega | with_reducible assumption) only [sh7, sh4, an15, an7, l_2, l_3, l_4, l_5, l_6, l_7, l_8, l_9, l_10, l_11, l_12, l_13, l_14, l_15, l_16, l_17, l_23, l_24, l_40, l_100, l_320, l_383, nI_add, pk_mul, z_sub, z_lt0, z_ge0, z_e0, z_le0, z_gt0, z_lt, z_le, z_eq, z_cl, z_in, z_m1lt, z_m1ge, z_nm1, z_m1n, n1_add, n1_ad2, n1_sub, n1_eq, n1_eq', n1_le, n1_ge, n1_lt, n1_gt, z_10, z_01, z_0lt, z_0ge, z_0c, z_0in, z_0a, z_a0, z_01a, bI_f, bI_f0, t0f, t1f, cl_f, wi_t, wi_f, wc_n, wc_0, wz_0, wz_1, wq_some, wq_bind, wq_lpB, ks_l, ks_r, up2_s, up2_n, u_e, u_n, if_true, if_false, ite_true, ite_false]
          · by_cases g2 : w / 16 % 8 ≤ 6
            · exact absurd ⟨w, by omega, rfl, by omega, g2⟩ hg
            · simp (disch := first | omega | with_reducible assumption) only [sh7, sh4, an15, an7, l_2, l_3, l_4, l_5, l_6, l_7, l_8, l_9, l_10, l_11, l_12, l_13, l_14, l_15, l_16, l_17, l_23, l_24, l_40, l_100, l_320, l_383, nI_add, pk_mul, z_sub, z_lt0, z_ge0, z_e0, z_le0, z_gt0, z_lt, z_le, z_eq, z_cl, z_in, z_m1lt, z_m1ge, z_nm1, z_m1n, n1_add, n1_ad2, n1_sub, n1_eq, n1_eq', n1_le, n1_ge, n1_lt, n1_gt, z_10, z_01, z_0lt, z_0ge, z_0c, z_0in, z_0a, z_a0, z_01a, bI_f, bI_f0, t0f, t1f, cl_f, wi_t, wi_f, wc_n, wc_0, wz_0, wz_1, wq_some, wq_bind, wq_lpB, ks_l, ks_r, up2_s, up2_n, u_e, u_n, if_true, if_false, ite_true, ite_false]
    · apply eq_of_wq
      exact mbad _ (by rw [hg.1]; rfl) hg.2 (m62 0 1 hk1 (Or.inr (Or.inl rfl)))
  · have hlt : (X 8).length < 40 := by omega
    have hgood : k = 2 → ∃ w, w ≤ 383 ∧ v2 = nI w ∧ w % 16 ≤ 10 ∧ w / 16 % 8 ≤ 6 := fun e => Classical.byContradiction (fun g => hg ⟨e, g⟩)
    have hu : okT (k, v2) := by
      refine ⟨hk18, fun e => ?_⟩
      obtain ⟨w, w1, w2, w3, w4⟩ := hgood e
      have : sw (k, v2) = w := by show v2.toNatClampNeg = w; rw [w2, z_cl (by omega)]
      rw [this]
      exact ⟨w1, w2, w3, w4⟩
    refine both_of (P := fun r => r.1 = nI ((X 8).length + 1) ∧ sm [16, 17, 21] σ r.2 ∧ r.2 16 = upd (σ 16) (320 + (X 8).length) (nI k) ∧ r.2 17 = upd (σ 17) (320 + (X 8).length) (kv (k, v2)) ∧ r.2 21 = upd (σ 21) 8 (nI ((X 8).length + 1)))
      (P' := fun r => r.1 = nI ((X 8).length + 1) ∧ sm [6, 7, 8] τ r.2 ∧ r.2 6 = upd (τ 6) (320 + (X 8).length) (nI k) ∧ r.2 7 = upd (τ 7) (320 + (X 8).length) v2 ∧ r.2 8 = upd (τ 8) 8 (nI ((X 8).length + 1))) ?_ ?_ ?_
    · have h62 : wq (dk_token_b62 (nI k) v2 σ) (fun r => r.1 = nI ((X 8).length + 1) ∧ sm [16, 17, 21] σ r.2 ∧ r.2 16 = upd (σ 16) (320 + (X 8).length) (nI k) ∧ r.2 17 = upd (σ 17) (320 + (X 8).length) (kv (k, v2)) ∧ r.2 21 = upd (σ 21) 8 (nI ((X 8).length + 1))) := by
        unfold dk_token_b62 dk_token_b78 dk_token_b80 dk_token_b88 dk_token_b103
        simp (disch := first | omega | with_reducible assumption) only [l_2, l_3, l_4, l_5, l_6, l_7, l_8, l_9, l_10, l_11, l_12, l_13, l_14, l_15, l_16, l_17, l_23, l_24, l_40, l_100, l_320, l_383, nI_add, pk_mul, z_sub, z_lt0, z_ge0, z_e0, z_le0, z_gt0, z_lt, z_le, z_eq, z_cl, z_in, z_m1lt, z_m1ge, z_nm1, z_m1n, n1_add, n1_ad2, n1_sub, n1_eq, n1_eq', n1_le, n1_ge, n1_lt, n1_gt, z_10, z_01, z_0lt, z_0ge, z_0c, z_0in, z_0a, z_a0, z_01a, bI_f, bI_f0, t0f, t1f, cl_f, wi_t, wi_f, wc_n, wc_0, wz_0, wz_1, wq_some, wq_bind, wq_lpB, ks_l, ks_r, up2_s, up2_n, u_e, u_n, if_true, if_false, ite_true, ite_false]
        rw [a3]
        simp (disch := first | omega | with_reducible assumption) only [l_2, l_3, l_4, l_5, l_6, l_7, l_8, l_9, l_10, l_11, l_12, l_13, l_14, l_15, l_16, l_17, l_23, l_24, l_40, l_100, l_320, l_383, nI_add, pk_mul, z_sub, z_lt0, z_ge0, z_e0, z_le0, z_gt0, z_lt, z_le, z_eq, z_cl, z_in, z_m1lt, z_m1ge, z_nm1, z_m1n, n1_add, n1_ad2, n1_sub, n1_eq, n1_eq', n1_le, n1_ge, n1_lt, n1_gt, z_10, z_01, z_0lt, z_0ge, z_0c, z_0in, z_0a, z_a0, z_01a, bI_f, bI_f0, t0f, t1f, cl_f, wi_t, wi_f, wc_n, wc_0, wz_0, wz_1, wq_some, wq_bind, wq_lpB, ks_l, ks_r, up2_s, up2_n, u_e, u_n, if_true, if_false, ite_true, ite_false]
        rw [z_b (by omega : (X 8).length + 1 < 128), z_nb (by omega : (X 8).length + 1 < 128), z_b (by omega : k < 128), z_nb (by omega : k < 128)]
        have h108 : wq (dk_token_b108 (kv (k, v2)) (nI (320 + (X 8).length)) (up2 (up2 σ 21 8 (nI ((X 8).length + 1))) 16 (320 + (X 8).length) (nI k))) (fun r => r.1 = nI ((X 8).length + 1) ∧ sm [16, 17, 21] σ r.2 ∧ r.2 16 = upd (σ 16) (320 + (X 8).length) (nI k) ∧ r.2 17 = upd (σ 17) (320 + (X 8).length) (kv (k, v2)) ∧ r.2 21 = upd (σ 21) 8 (nI ((X 8).length + 1))) := by
          unfold dk_token_b108 dk_token_b109
          rw [wc_n (by omega) (by omega), l_8, wc_n (by omega) (by omega), wq_some, z_cl (by omega), z_cl (by omega)]
          refine ⟨?_, ?_, ?_, ?_, ?_⟩
          · simp (disch := first | omega | with_reducible assumption) only [up2_s, up2_n, u_e, u_n]
          · (repeat (refine sm_up (by decide) ?_)); first | exact sm_rf | assumption
          · simp (disch := first | omega | with_reducible assumption) only [up2_s, up2_n, u_e, u_n]
          · simp (disch := first | omega | with_reducible assumption) only [up2_s, up2_n, u_e, u_n]
          · simp (disch := first | omega | with_reducible assumption) only [up2_s, up2_n, u_e, u_n]
        by_cases c2 : k = 2
        · rw [show kv (k, v2) = v2 from if_pos (Or.inl c2)] at h108 ⊢
          simp (disch := first | omega | with_reducible assumption) only [l_2, l_3, l_4, l_5, l_6, l_7, l_8, l_9, l_10, l_11, l_12, l_13, l_14, l_15, l_16, l_17, l_23, l_24, l_40, l_100, l_320, l_383, nI_add, pk_mul, z_sub, z_lt0, z_ge0, z_e0, z_le0, z_gt0, z_lt, z_le, z_eq, z_cl, z_in, z_m1lt, z_m1ge, z_nm1, z_m1n, n1_add, n1_ad2, n1_sub, n1_eq, n1_eq', n1_le, n1_ge, n1_lt, n1_gt, z_10, z_01, z_0lt, z_0ge, z_0c, z_0in, z_0a, z_a0, z_01a, bI_f, bI_f0, t0f, t1f, cl_f, wi_t, wi_f, wc_n, wc_0, wz_0, wz_1, wq_some, wq_bind, wq_lpB, ks_l, ks_r, up2_s, up2_n, u_e, u_n, if_true, if_false, ite_true, ite_false]
          exact h108
        · by_cases c4 : k = 4
          · rw [show kv (k, v2) = v2 from if_pos (Or.inr c4)] at h108 ⊢
            simp (disch := first | omega | with_reducible assumption) only [l_2, l_3, l_4, l_5, l_6, l_7, l_8, l_9, l_10, l_11, l_12, l_13, l_14, l_15, l_16, l_17, l_23, l_24, l_40, l_100, l_320, l_383, nI_add, pk_mul, z_sub, z_lt0, z_ge0, z_e0, z_le0, z_gt0, z_lt, z_le, z_eq, z_cl, z_in, z_m1lt, z_m1ge, z_nm1, z_m1n, n1_add, n1_ad2, n1_sub, n1_eq, n1_eq', n1_le, n1_ge, n1_lt, n1_gt, z_10, z_01, z_0lt, z_0ge, z_0c, z_0in, z_0a, z_a0, z_01a, bI_f, bI_f0, t0f, t1f, cl_f, wi_t, wi_f, wc_n, wc_0, wz_0, wz_1, wq_some, wq_bind, wq_lpB, ks_l, ks_r, up2_s, up2_n, u_e, u_n, if_true, if_false, ite_true, ite_false]
            exact h108
          · rw [show kv (k, v2) = 0 from if_neg (fun g => by rcases g with g | g; exact c2 g; exact c4 g)] at h108 ⊢
            simp (disch := first | omega | with_reducible assumption) only [l_2, l_3, l_4, l_5, l_6, l_7, l_8, l_9, l_10, l_11, l_12, l_13, l_14, l_15, l_16, l_17, l_23, l_24, l_40, l_100, l_320, l_383, nI_add, pk_mul, z_sub, z_lt0, z_ge0, z_e0, z_le0, z_gt0, z_lt, z_le, z_eq, z_cl, z_in, z_m1lt, z_m1ge, z_nm1, z_m1n, n1_add, n1_ad2, n1_sub, n1_eq, n1_eq', n1_le, n1_ge, n1_lt, n1_gt, z_10, z_01, z_0lt, z_0ge, z_0c, z_0in, z_0a, z_a0, z_01a, bI_f, bI_f0, t0f, t1f, cl_f, wi_t, wi_f, wc_n, wc_0, wz_0, wz_1, wq_some, wq_bind, wq_lpB, ks_l, ks_r, up2_s, up2_n, u_e, u_n, if_true, if_false, ite_true, ite_false]
            exact h108
      unfold dk_token dk_token_b0
      simp (disch := first | omega | with_reducible assumption) only [l_2, l_3, l_4, l_5, l_6, l_7, l_8, l_9, l_10, l_11, l_12, l_13, l_14, l_15, l_16, l_17, l_23, l_24, l_40, l_100, l_320, l_383, nI_add, pk_mul, z_sub, z_lt0, z_ge0, z_e0, z_le0, z_gt0, z_lt, z_le, z_eq, z_cl, z_in, z_m1lt, z_m1ge, z_nm1, z_m1n, n1_add, n1_ad2, n1_sub, n1_eq, n1_eq', n1_le, n1_ge, n1_lt, n1_gt, z_10, z_01, z_0lt, z_0ge, z_0c, z_0in, z_0a, z_a0, z_01a, bI_f, bI_f0, t0f, t1f, cl_f, wi_t, wi_f, wc_n, wc_0, wz_0, wz_1, wq_some, wq_bind, wq_lpB, ks_l, ks_r, up2_s, up2_n, u_e, u_n, if_true, if_false, ite_true, ite_false]
      rw [a3]
      simp (disch := first | omega | with_reducible assumption) only [l_2, l_3, l_4, l_5, l_6, l_7, l_8, l_9, l_10, l_11, l_12, l_13, l_14, l_15, l_16, l_17, l_23, l_24, l_40, l_100, l_320, l_383, nI_add, pk_mul, z_sub, z_lt0, z_ge0, z_e0, z_le0, z_gt0, z_lt, z_le, z_eq, z_cl, z_in, z_m1lt, z_m1ge, z_nm1, z_m1n, n1_add, n1_ad2, n1_sub, n1_eq, n1_eq', n1_le, n1_ge, n1_lt, n1_gt, z_10, z_01, z_0lt, z_0ge, z_0c, z_0in, z_0a, z_a0, z_01a, bI_f, bI_f0, t0f, t1f, cl_f, wi_t, wi_f, wc_n, wc_0, wz_0, wz_1, wq_some, wq_bind, wq_lpB, ks_l, ks_r, up2_s, up2_n, u_e, u_n, if_true, if_false, ite_true, ite_false]
      by_cases c2 : k = 2
      · obtain ⟨w, w1, rfl, w3, w4⟩ := hgood c2
        simp (disch := first | omega | with_reducible assumption) only [sh7, sh4, an15, an7, l_2, l_3, l_4, l_5, l_6, l_7, l_8, l_9, l_10, l_11, l_12, l_13, l_14, l_15, l_16, l_17, l_23, l_24, l_40, l_100, l_320, l_383, nI_add, pk_mul, z_sub, z_lt0, z_ge0, z_e0, z_le0, z_gt0, z_lt, z_le, z_eq, z_cl, z_in, z_m1lt, z_m1ge, z_nm1, z_m1n, n1_add, n1_ad2, n1_sub, n1_eq, n1_eq', n1_le, n1_ge, n1_lt, n1_gt, z_10, z_01, z_0lt, z_0ge, z_0c, z_0in, z_0a, z_a0, z_01a, bI_f, bI_f0, t0f, t1f, cl_f, wi_t, wi_f, wc_n, wc_0, wz_0, wz_1, wq_some, wq_bind, wq_lpB, ks_l, ks_r, up2_s, up2_n, u_e, u_n, if_true, if_false, ite_true, ite_false]
        exact h62
      · simp (disch := first | omega | with_reducible assumption) only [l_2, l_3, l_4, l_5, l_6, l_7, l_8, l_9, l_10, l_11, l_12, l_13, l_14, l_15, l_16, l_17, l_23, l_24, l_40, l_100, l_320, l_383, nI_add, pk_mul, z_sub, z_lt0, z_ge0, z_e0, z_le0, z_gt0, z_lt, z_le, z_eq, z_cl, z_in, z_m1lt, z_m1ge, z_nm1, z_m1n, n1_add, n1_ad2, n1_sub, n1_eq, n1_eq', n1_le, n1_ge, n1_lt, n1_gt, z_10, z_01, z_0lt, z_0ge, z_0c, z_0in, z_0a, z_a0, z_01a, bI_f, bI_f0, t0f, t1f, cl_f, wi_t, wi_f, wc_n, wc_0, wz_0, wz_1, wq_some, wq_bind, wq_lpB, ks_l, ks_r, up2_s, up2_n, u_e, u_n, if_true, if_false, ite_true, ite_false]
        exact h62
    · refine mgood _ (fun e => hgood ?_) ?_
      · have e : nI k = nI 2 := e
        exact (z_eq (by omega) (by omega)).mp e
      · unfold md_token_b54
        rw [hk1, wq_bind, wq_some]
        unfold md_token_b62 md_token_b100 md_token_b117 md_token_b128
        rw [wi_f (by decide), wi_f (by decide)]
        rw [l_8, wc_n (by omega) (by omega), z_cl (by omega), a4, l_40, wi_f (by rw [z_eq (by omega) (by omega)]; omega), wc_n (by omega) (by omega), l_320, nI_add, wc_n (by omega) (by omega), wc_n (by omega) (by omega), z_cl (by omega)]
        simp (disch := first | omega | with_reducible assumption) only [l_2, l_3, l_4, l_5, l_6, l_7, l_8, l_9, l_10, l_11, l_12, l_13, l_14, l_15, l_16, l_17, l_23, l_24, l_40, l_100, l_320, l_383, nI_add, pk_mul, z_sub, z_lt0, z_ge0, z_e0, z_le0, z_gt0, z_lt, z_le, z_eq, z_cl, z_in, z_m1lt, z_m1ge, z_nm1, z_m1n, n1_add, n1_ad2, n1_sub, n1_eq, n1_eq', n1_le, n1_ge, n1_lt, n1_gt, z_10, z_01, z_0lt, z_0ge, z_0c, z_0in, z_0a, z_a0, z_01a, bI_f, bI_f0, t0f, t1f, cl_f, wi_t, wi_f, wc_n, wc_0, wz_0, wz_1, wq_some, wq_bind, wq_lpB, ks_l, ks_r, up2_s, up2_n, u_e, u_n, if_true, if_false, ite_true, ite_false]
        rw [a4]
        simp (disch := first | omega | with_reducible assumption) only [l_2, l_3, l_4, l_5, l_6, l_7, l_8, l_9, l_10, l_11, l_12, l_13, l_14, l_15, l_16, l_17, l_23, l_24, l_40, l_100, l_320, l_383, nI_add, pk_mul, z_sub, z_lt0, z_ge0, z_e0, z_le0, z_gt0, z_lt, z_le, z_eq, z_cl, z_in, z_m1lt, z_m1ge, z_nm1, z_m1n, n1_add, n1_ad2, n1_sub, n1_eq, n1_eq', n1_le, n1_ge, n1_lt, n1_gt, z_10, z_01, z_0lt, z_0ge, z_0c, z_0in, z_0a, z_a0, z_01a, bI_f, bI_f0, t0f, t1f, cl_f, wi_t, wi_f, wc_n, wc_0, wz_0, wz_1, wq_some, wq_bind, wq_lpB, ks_l, ks_r, up2_s, up2_n, u_e, u_n, if_true, if_false, ite_true, ite_false]
        refine ⟨by first | trivial | rfl, ?_, ?_, ?_, ?_⟩
        · (repeat (refine sm_up (by decide) ?_)); first | exact sm_rf | assumption
        · first | trivial | (simp (disch := first | omega | with_reducible assumption) only [up2_s, up2_n, u_e, u_n])
        · first | trivial | (simp (disch := first | omega | with_reducible assumption) only [up2_s, up2_n, u_e, u_n])
        · first | trivial | (simp (disch := first | omega | with_reducible assumption) only [up2_s, up2_n, u_e, u_n])
    · rintro r r' ⟨p1, p2, p3, p4, p5⟩ ⟨q1, q2, q3, q4, q5⟩
      exact ⟨by rw [p1, q1], Or.inr ⟨p2, q2, (k, v2), XR_push h hu hlt p2 q2 p3 p4 p5 q3 q4 q5⟩⟩
