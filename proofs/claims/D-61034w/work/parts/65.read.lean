/-! read: types and ends of all parts of the draft -/
set_option maxRecDepth 100000
/-- nI j - 1 -/
def dec (j : Nat) : Int32 := nI j + (-1)
theorem dec_0 : dec 0 = -1 := by unfold dec; rw [nI_0]; exact z_0m1
theorem dec_s (j : Nat) : dec (j + 1) = nI j := pk_m1 j
theorem dec_f (j : Nat) : nI j + (-1) = dec j := rfl
theorem dec_m (j : Nat) : nI j - 1 = dec j := z_s1 _
def typC (k a b : Nat) : Prop := (k = 2 → a = 0) ∧ (k = 3 → a = 0 ∧ b = 0) ∧ (7 ≤ k ∧ k < 10 → a = 0) ∧ (10 ≤ k ∧ k < 15 → a ≠ 2 ∧ b ≠ 2)
theorem dk_typed_y {k a b : Nat} (hk : k < 18) (ha : a < 3) (hb : b < 3) (h : typC k a b) : dk_typed (nI k) (nI a) (nI b) = some (nI (tyk k)) := by
  apply eq_of_wq
  unfold dk_typed dk_typed_b0 dk_typed_b10 dk_typed_b23 dk_typed_b51 dk_typed_b73 dk_typed_b89
  obtain ⟨h1, h2, h3, h4⟩ := h
  unfold tyk
  by_cases c2 : k = 2
  · have := h1 c2
    simp (disch := first | omega | with_reducible assumption) only [l_2, l_3, l_4, l_5, l_6, l_7, l_8, l_9, l_10, l_11, l_12, l_13, l_14, l_15, l_16, l_17, l_23, l_24, l_40, l_100, l_320, l_383, nI_add, pk_mul, z_sub, z_lt0, z_ge0, z_e0, z_le0, z_gt0, z_lt, z_le, z_eq, z_cl, z_in, z_m1lt, z_m1ge, z_nm1, z_m1n, n1_add, n1_ad2, n1_sub, n1_eq, n1_eq', n1_le, n1_ge, n1_lt, n1_gt, z_10, z_01, z_0lt, z_0ge, z_0c, z_0in, z_0a, z_a0, z_01a, bI_f, bI_f0, t0f, t1f, cl_f, wi_t, wi_f, wc_n, wc_0, wz_0, wz_1, wq_some, wq_bind, wq_lpB, ks_l, ks_r, up2_s, up2_n, u_e, u_n, if_true, if_false, ite_true, ite_false]
    rw [if_pos (by omega)]; rfl
  by_cases c3 : k = 3
  · have := h2 c3
    simp (disch := first | omega | with_reducible assumption) only [l_2, l_3, l_4, l_5, l_6, l_7, l_8, l_9, l_10, l_11, l_12, l_13, l_14, l_15, l_16, l_17, l_23, l_24, l_40, l_100, l_320, l_383, nI_add, pk_mul, z_sub, z_lt0, z_ge0, z_e0, z_le0, z_gt0, z_lt, z_le, z_eq, z_cl, z_in, z_m1lt, z_m1ge, z_nm1, z_m1n, n1_add, n1_ad2, n1_sub, n1_eq, n1_eq', n1_le, n1_ge, n1_lt, n1_gt, z_10, z_01, z_0lt, z_0ge, z_0c, z_0in, z_0a, z_a0, z_01a, bI_f, bI_f0, t0f, t1f, cl_f, wi_t, wi_f, wc_n, wc_0, wz_0, wz_1, wq_some, wq_bind, wq_lpB, ks_l, ks_r, up2_s, up2_n, u_e, u_n, if_true, if_false, ite_true, ite_false]
    rw [if_pos (by omega)]; rfl
  by_cases c7 : 7 ≤ k ∧ k < 10
  · have := h3 c7
    simp (disch := first | omega | with_reducible assumption) only [l_2, l_3, l_4, l_5, l_6, l_7, l_8, l_9, l_10, l_11, l_12, l_13, l_14, l_15, l_16, l_17, l_23, l_24, l_40, l_100, l_320, l_383, nI_add, pk_mul, z_sub, z_lt0, z_ge0, z_e0, z_le0, z_gt0, z_lt, z_le, z_eq, z_cl, z_in, z_m1lt, z_m1ge, z_nm1, z_m1n, n1_add, n1_ad2, n1_sub, n1_eq, n1_eq', n1_le, n1_ge, n1_lt, n1_gt, z_10, z_01, z_0lt, z_0ge, z_0c, z_0in, z_0a, z_a0, z_01a, bI_f, bI_f0, t0f, t1f, cl_f, wi_t, wi_f, wc_n, wc_0, wz_0, wz_1, wq_some, wq_bind, wq_lpB, ks_l, ks_r, up2_s, up2_n, u_e, u_n, if_true, if_false, ite_true, ite_false]
    rw [if_neg (by omega), if_pos (by omega)]; rfl
  by_cases c10 : 10 ≤ k ∧ k < 15
  · have := h4 c10
    by_cases c13 : 13 ≤ k
    · simp (disch := first | omega | with_reducible assumption) only [l_2, l_3, l_4, l_5, l_6, l_7, l_8, l_9, l_10, l_11, l_12, l_13, l_14, l_15, l_16, l_17, l_23, l_24, l_40, l_100, l_320, l_383, nI_add, pk_mul, z_sub, z_lt0, z_ge0, z_e0, z_le0, z_gt0, z_lt, z_le, z_eq, z_cl, z_in, z_m1lt, z_m1ge, z_nm1, z_m1n, n1_add, n1_ad2, n1_sub, n1_eq, n1_eq', n1_le, n1_ge, n1_lt, n1_gt, z_10, z_01, z_0lt, z_0ge, z_0c, z_0in, z_0a, z_a0, z_01a, bI_f, bI_f0, t0f, t1f, cl_f, wi_t, wi_f, wc_n, wc_0, wz_0, wz_1, wq_some, wq_bind, wq_lpB, ks_l, ks_r, up2_s, up2_n, u_e, u_n, if_true, if_false, ite_true, ite_false]
      rw [if_neg (by omega), if_neg (by omega)]
    · simp (disch := first | omega | with_reducible assumption) only [l_2, l_3, l_4, l_5, l_6, l_7, l_8, l_9, l_10, l_11, l_12, l_13, l_14, l_15, l_16, l_17, l_23, l_24, l_40, l_100, l_320, l_383, nI_add, pk_mul, z_sub, z_lt0, z_ge0, z_e0, z_le0, z_gt0, z_lt, z_le, z_eq, z_cl, z_in, z_m1lt, z_m1ge, z_nm1, z_m1n, n1_add, n1_ad2, n1_sub, n1_eq, n1_eq', n1_le, n1_ge, n1_lt, n1_gt, z_10, z_01, z_0lt, z_0ge, z_0c, z_0in, z_0a, z_a0, z_01a, bI_f, bI_f0, t0f, t1f, cl_f, wi_t, wi_f, wc_n, wc_0, wz_0, wz_1, wq_some, wq_bind, wq_lpB, ks_l, ks_r, up2_s, up2_n, u_e, u_n, if_true, if_false, ite_true, ite_false]
      rw [if_neg (by omega), if_pos (by omega)]; rfl
  by_cases cl2 : k < 2
  · simp (disch := first | omega | with_reducible assumption) only [l_2, l_3, l_4, l_5, l_6, l_7, l_8, l_9, l_10, l_11, l_12, l_13, l_14, l_15, l_16, l_17, l_23, l_24, l_40, l_100, l_320, l_383, nI_add, pk_mul, z_sub, z_lt0, z_ge0, z_e0, z_le0, z_gt0, z_lt, z_le, z_eq, z_cl, z_in, z_m1lt, z_m1ge, z_nm1, z_m1n, n1_add, n1_ad2, n1_sub, n1_eq, n1_eq', n1_le, n1_ge, n1_lt, n1_gt, z_10, z_01, z_0lt, z_0ge, z_0c, z_0in, z_0a, z_a0, z_01a, bI_f, bI_f0, t0f, t1f, cl_f, wi_t, wi_f, wc_n, wc_0, wz_0, wz_1, wq_some, wq_bind, wq_lpB, ks_l, ks_r, up2_s, up2_n, u_e, u_n, if_true, if_false, ite_true, ite_false]
    rw [if_pos (by omega)]; rfl
  by_cases cl7 : k < 7
  · simp (disch := first | omega | with_reducible assumption) only [l_2, l_3, l_4, l_5, l_6, l_7, l_8, l_9, l_10, l_11, l_12, l_13, l_14, l_15, l_16, l_17, l_23, l_24, l_40, l_100, l_320, l_383, nI_add, pk_mul, z_sub, z_lt0, z_ge0, z_e0, z_le0, z_gt0, z_lt, z_le, z_eq, z_cl, z_in, z_m1lt, z_m1ge, z_nm1, z_m1n, n1_add, n1_ad2, n1_sub, n1_eq, n1_eq', n1_le, n1_ge, n1_lt, n1_gt, z_10, z_01, z_0lt, z_0ge, z_0c, z_0in, z_0a, z_a0, z_01a, bI_f, bI_f0, t0f, t1f, cl_f, wi_t, wi_f, wc_n, wc_0, wz_0, wz_1, wq_some, wq_bind, wq_lpB, ks_l, ks_r, up2_s, up2_n, u_e, u_n, if_true, if_false, ite_true, ite_false]
    rw [if_neg (by omega), if_pos (by omega)]; rfl
  · simp (disch := first | omega | with_reducible assumption) only [l_2, l_3, l_4, l_5, l_6, l_7, l_8, l_9, l_10, l_11, l_12, l_13, l_14, l_15, l_16, l_17, l_23, l_24, l_40, l_100, l_320, l_383, nI_add, pk_mul, z_sub, z_lt0, z_ge0, z_e0, z_le0, z_gt0, z_lt, z_le, z_eq, z_cl, z_in, z_m1lt, z_m1ge, z_nm1, z_m1n, n1_add, n1_ad2, n1_sub, n1_eq, n1_eq', n1_le, n1_ge, n1_lt, n1_gt, z_10, z_01, z_0lt, z_0ge, z_0c, z_0in, z_0a, z_a0, z_01a, bI_f, bI_f0, t0f, t1f, cl_f, wi_t, wi_f, wc_n, wc_0, wz_0, wz_1, wq_some, wq_bind, wq_lpB, ks_l, ks_r, up2_s, up2_n, u_e, u_n, if_true, if_false, ite_true, ite_false]
    rw [if_neg (by omega), if_neg (by omega)]
theorem dk_typed_n {k a b : Nat} (hk : k < 18) (ha : a < 3) (hb : b < 3) (h : ¬ typC k a b) : dk_typed (nI k) (nI a) (nI b) = some (-1) := by
  apply eq_of_wq
  unfold dk_typed dk_typed_b0 dk_typed_b10 dk_typed_b23 dk_typed_b51 dk_typed_b73 dk_typed_b89
  by_cases c2 : k = 2
  · have : ¬ a = 0 := fun e => h ⟨fun _ => e, fun g => by omega, fun g => by omega, fun g => by omega⟩
    simp (disch := first | omega | with_reducible assumption) only [l_2, l_3, l_4, l_5, l_6, l_7, l_8, l_9, l_10, l_11, l_12, l_13, l_14, l_15, l_16, l_17, l_23, l_24, l_40, l_100, l_320, l_383, nI_add, pk_mul, z_sub, z_lt0, z_ge0, z_e0, z_le0, z_gt0, z_lt, z_le, z_eq, z_cl, z_in, z_m1lt, z_m1ge, z_nm1, z_m1n, n1_add, n1_ad2, n1_sub, n1_eq, n1_eq', n1_le, n1_ge, n1_lt, n1_gt, z_10, z_01, z_0lt, z_0ge, z_0c, z_0in, z_0a, z_a0, z_01a, bI_f, bI_f0, t0f, t1f, cl_f, wi_t, wi_f, wc_n, wc_0, wz_0, wz_1, wq_some, wq_bind, wq_lpB, ks_l, ks_r, up2_s, up2_n, u_e, u_n, if_true, if_false, ite_true, ite_false]
  by_cases c3 : k = 3
  · by_cases e : a = 0
    · have : ¬ b = 0 := fun e2 => h ⟨fun g => by omega, fun _ => ⟨e, e2⟩, fun g => by omega, fun g => by omega⟩
      simp (disch := first | omega | with_reducible assumption) only [l_2, l_3, l_4, l_5, l_6, l_7, l_8, l_9, l_10, l_11, l_12, l_13, l_14, l_15, l_16, l_17, l_23, l_24, l_40, l_100, l_320, l_383, nI_add, pk_mul, z_sub, z_lt0, z_ge0, z_e0, z_le0, z_gt0, z_lt, z_le, z_eq, z_cl, z_in, z_m1lt, z_m1ge, z_nm1, z_m1n, n1_add, n1_ad2, n1_sub, n1_eq, n1_eq', n1_le, n1_ge, n1_lt, n1_gt, z_10, z_01, z_0lt, z_0ge, z_0c, z_0in, z_0a, z_a0, z_01a, bI_f, bI_f0, t0f, t1f, cl_f, wi_t, wi_f, wc_n, wc_0, wz_0, wz_1, wq_some, wq_bind, wq_lpB, ks_l, ks_r, up2_s, up2_n, u_e, u_n, if_true, if_false, ite_true, ite_false]
    · simp (disch := first | omega | with_reducible assumption) only [l_2, l_3, l_4, l_5, l_6, l_7, l_8, l_9, l_10, l_11, l_12, l_13, l_14, l_15, l_16, l_17, l_23, l_24, l_40, l_100, l_320, l_383, nI_add, pk_mul, z_sub, z_lt0, z_ge0, z_e0, z_le0, z_gt0, z_lt, z_le, z_eq, z_cl, z_in, z_m1lt, z_m1ge, z_nm1, z_m1n, n1_add, n1_ad2, n1_sub, n1_eq, n1_eq', n1_le, n1_ge, n1_lt, n1_gt, z_10, z_01, z_0lt, z_0ge, z_0c, z_0in, z_0a, z_a0, z_01a, bI_f, bI_f0, t0f, t1f, cl_f, wi_t, wi_f, wc_n, wc_0, wz_0, wz_1, wq_some, wq_bind, wq_lpB, ks_l, ks_r, up2_s, up2_n, u_e, u_n, if_true, if_false, ite_true, ite_false]
  by_cases c7 : 7 ≤ k ∧ k < 10
  · have : ¬ a = 0 := fun e => h ⟨fun g => by omega, fun g => by omega, fun _ => e, fun g => by omega⟩
    simp (disch := first | omega | with_reducible assumption) only [l_2, l_3, l_4, l_5, l_6, l_7, l_8, l_9, l_10, l_11, l_12, l_13, l_14, l_15, l_16, l_17, l_23, l_24, l_40, l_100, l_320, l_383, nI_add, pk_mul, z_sub, z_lt0, z_ge0, z_e0, z_le0, z_gt0, z_lt, z_le, z_eq, z_cl, z_in, z_m1lt, z_m1ge, z_nm1, z_m1n, n1_add, n1_ad2, n1_sub, n1_eq, n1_eq', n1_le, n1_ge, n1_lt, n1_gt, z_10, z_01, z_0lt, z_0ge, z_0c, z_0in, z_0a, z_a0, z_01a, bI_f, bI_f0, t0f, t1f, cl_f, wi_t, wi_f, wc_n, wc_0, wz_0, wz_1, wq_some, wq_bind, wq_lpB, ks_l, ks_r, up2_s, up2_n, u_e, u_n, if_true, if_false, ite_true, ite_false]
  by_cases c10 : 10 ≤ k ∧ k < 15
  · by_cases e : a = 2
    · simp (disch := first | omega | with_reducible assumption) only [l_2, l_3, l_4, l_5, l_6, l_7, l_8, l_9, l_10, l_11, l_12, l_13, l_14, l_15, l_16, l_17, l_23, l_24, l_40, l_100, l_320, l_383, nI_add, pk_mul, z_sub, z_lt0, z_ge0, z_e0, z_le0, z_gt0, z_lt, z_le, z_eq, z_cl, z_in, z_m1lt, z_m1ge, z_nm1, z_m1n, n1_add, n1_ad2, n1_sub, n1_eq, n1_eq', n1_le, n1_ge, n1_lt, n1_gt, z_10, z_01, z_0lt, z_0ge, z_0c, z_0in, z_0a, z_a0, z_01a, bI_f, bI_f0, t0f, t1f, cl_f, wi_t, wi_f, wc_n, wc_0, wz_0, wz_1, wq_some, wq_bind, wq_lpB, ks_l, ks_r, up2_s, up2_n, u_e, u_n, if_true, if_false, ite_true, ite_false]
    · have : b = 2 := by
        by_cases e2 : b = 2
        · exact e2
        · exact absurd ⟨fun g => by omega, fun g => by omega, fun g => by omega, fun _ => ⟨e, e2⟩⟩ h
      simp (disch := first | omega | with_reducible assumption) only [l_2, l_3, l_4, l_5, l_6, l_7, l_8, l_9, l_10, l_11, l_12, l_13, l_14, l_15, l_16, l_17, l_23, l_24, l_40, l_100, l_320, l_383, nI_add, pk_mul, z_sub, z_lt0, z_ge0, z_e0, z_le0, z_gt0, z_lt, z_le, z_eq, z_cl, z_in, z_m1lt, z_m1ge, z_nm1, z_m1n, n1_add, n1_ad2, n1_sub, n1_eq, n1_eq', n1_le, n1_ge, n1_lt, n1_gt, z_10, z_01, z_0lt, z_0ge, z_0c, z_0in, z_0a, z_a0, z_01a, bI_f, bI_f0, t0f, t1f, cl_f, wi_t, wi_f, wc_n, wc_0, wz_0, wz_1, wq_some, wq_bind, wq_lpB, ks_l, ks_r, up2_s, up2_n, u_e, u_n, if_true, if_false, ite_true, ite_false]
  · exact absurd ⟨fun g => by omega, fun g => by omega, fun g => by omega, fun g => by omega⟩ h
theorem tyk_lt (k : Nat) : tyk k < 3 := by
  unfold tyk
  by_cases c : k < 4
  · rw [if_pos c]; omega
  · rw [if_neg c]
    by_cases c2 : k < 13
    · rw [if_pos c2]; omega
    · rw [if_neg c2]; omega
/-- the first operand's type, 1 if there is none -/
def ta (t : Tk) (ts : List Tk) : Nat := if 0 < ar t then ht ts else 1
def tb (t : Tk) (ts : List Tk) : Nat := if 1 < ar t then ht (ts.drop (sk 1 ts)) else 1
theorem ar_pos {t : Tk} (h : t.1 = 2 ∨ t.1 = 3 ∨ 7 ≤ t.1) : 0 < ar t := by
  unfold ar
  by_cases c : t.1 = 2
  · rw [if_pos c]; omega
  · rw [if_neg c]
    by_cases c2 : t.1 = 3 ∨ (9 < t.1 ∧ t.1 < 17)
    · rw [if_pos c2]; omega
    · rw [if_neg c2, if_pos (by omega)]; omega
theorem ar_two {t : Tk} (h : t.1 = 3 ∨ (9 < t.1 ∧ t.1 < 17)) : ar t = 2 := by
  unfold ar
  rw [if_neg (by omega), if_pos h]
theorem typ_C (t : Tk) (ts : List Tk) : typ t ts ↔ typC t.1 (ta t ts) (tb t ts) := by
  unfold typ typC ta tb
  constructor
  · rintro ⟨h1, h2, h3, h4⟩
    refine ⟨fun e => ?_, fun e => ?_, fun e => ?_, fun e => ?_⟩
    · rw [if_pos (ar_pos (by omega))]; exact h1 e
    · rw [if_pos (ar_pos (by omega)), if_pos (by rw [ar_two (by omega)]; omega)]; exact h2 e
    · rw [if_pos (ar_pos (by omega))]; exact h3 e
    · rw [if_pos (ar_pos (by omega)), if_pos (by rw [ar_two (by omega)]; omega)]; exact h4 e
  · rintro ⟨h1, h2, h3, h4⟩
    refine ⟨fun e => ?_, fun e => ?_, fun e => ?_, fun e => ?_⟩
    · have := h1 e; rw [if_pos (ar_pos (by omega))] at this; exact this
    · have := h2 e; rw [if_pos (ar_pos (by omega)), if_pos (by rw [ar_two (by omega)]; omega)] at this; exact this
    · have := h3 e; rw [if_pos (ar_pos (by omega))] at this; exact this
    · have := h4 e; rw [if_pos (ar_pos (by omega)), if_pos (by rw [ar_two (by omega)]; omega)] at this; exact this
theorem ta_lt (t : Tk) (ts : List Tk) : ta t ts < 3 := by
  unfold ta
  by_cases c : 0 < ar t
  · rw [if_pos c]; exact tyk_lt _
  · rw [if_neg c]; omega
theorem tb_lt (t : Tk) (ts : List Tk) : tb t ts < 3 := by
  unfold tb
  by_cases c : 1 < ar t
  · rw [if_pos c]; exact tyk_lt _
  · rw [if_neg c]; omega
/-- what a suffix's head says is stored there -/
theorem DX2_at {b i : Nat} {ts : List Tk} {σ : dS} (j : Nat) (hj : j < (ts.drop i).length) (h : ∀ i' t r, i ≤ i' → ts.drop i' = t :: r → σ 18 (b + i') = nI (tyk t.1) ∧ σ 19 (b + i') = nI (i' + sk 1 (t :: r)) ∧ σ 20 (b + i') = (if loc (t :: r) = true then 1 else 0)) : σ 18 (b + (i + j)) = nI (ht ((ts.drop i).drop j)) ∧ σ 19 (b + (i + j)) = nI (i + j + sk 1 ((ts.drop i).drop j)) ∧ σ 20 (b + (i + j)) = (if loc ((ts.drop i).drop j) = true then 1 else 0) := by
  rw [List.length_drop] at hj
  obtain ⟨t, r, e⟩ := drop_ex (ts := ts) (i := i + j) (by omega)
  have := h (i + j) t r (by omega) e
  rw [List.drop_drop, e]
  exact this
theorem sk_one_add (ts : List Tk) (r : Nat) : sk (r + 1) ts = sk r ts + sk 1 (ts.drop (sk r ts)) := sk_add 1 ts r
/-- the stack of starts and what is found, from token j on -/
def RI (ts : List Tk) (σ0 : dS) (j m : Nat) (σ : dS) : Prop := sm [18, 19, 20, 22] σ0 σ ∧ (∀ q, q < m → σ 22 (m - 1 - q) = nI (j + sk q (ts.drop j))) ∧ (∀ i' t r, j ≤ i' → ts.drop i' = t :: r → σ 18 (320 + i') = nI (tyk t.1) ∧ σ 19 (320 + i') = nI (i' + sk 1 (t :: r)) ∧ σ 20 (320 + i') = (if loc (t :: r) = true then 1 else 0)) ∧ (∀ f, (f = 18 ∨ f = 19 ∨ f = 20) → ∀ x, x < 320 → σ f x = σ0 f x)
