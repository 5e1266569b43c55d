/-! read, its loop -/
set_option maxRecDepth 100000
def opA (t : Tk) (j : Nat) : Int32 := if 0 < ar t then nI (j + 1) else -1
def opB (t : Tk) (ts : List Tk) (j : Nat) : Int32 := if 1 < ar t then nI (j + 1 + sk 1 ts) else -1
section
variable {T : List Tk} {σ0 : dS}
theorem dk_read_head {Q : Int32 × dS → Prop} (hL : T.length ≤ 40) (hok : ∀ t, t ∈ T → okT t) (hD : DX1 320 T σ0) {j m : Nat} {t : Tk} {ts : List Tk} {σ : dS} (hd : T.drop j = t :: ts) (hR : RI T σ0 (j + 1) m σ) (hf : fl m ts) (hm : m ≤ 40)
    (h1 : ar t ≤ m → typ t ts → wq (dk_read_b139 (nI T.length) (nI m) (nI j) (nI t.1) (nI (ar t)) (opA t j) (opB t ts j) (nI (tyk t.1)) σ) (ks dk_read_st Q)) (h2 : ¬ (ar t ≤ m ∧ typ t ts) → Q (0, σ)) : wq (lp dk_read_st (14, [nI T.length, nI m, nI j], σ)) Q := by
  have hj := drop_lt hd
  have hts := drop_next hd
  have hot := hok t (drop_mem hd)
  have har := ar_le hot
  obtain ⟨r1, r2, r3, r4⟩ := hR
  rw [hts] at r2
  have hlen : ts.length = T.length - (j + 1) := by rw [← hts, List.length_drop]
  have e16 : σ 16 (320 + j) = nI t.1 := by rw [r1 16 (by decide)]; exact (hD j t ts hd).1
  have e17 : σ 17 (320 + j) = kv t := by rw [r1 17 (by decide)]; exact (hD j t ts hd).2
  have ht18 := hot.1
  rw [dk_read_l14]; unfold dk_read_b14 dk_read_b30
  simp (disch := first | omega | with_reducible assumption) only [l_2, l_3, l_4, l_5, l_6, l_7, l_8, l_9, l_10, l_11, l_12, l_13, l_14, l_15, l_16, l_17, l_23, l_24, l_40, l_100, l_320, l_383, nI_add, pk_mul, z_sub, z_lt0, z_ge0, z_e0, z_le0, z_gt0, z_lt, z_le, z_eq, z_cl, z_in, z_m1lt, z_m1ge, z_nm1, z_m1n, n1_add, n1_ad2, n1_sub, n1_eq, n1_eq', n1_le, n1_ge, n1_lt, n1_gt, z_10, z_01, z_0lt, z_0ge, z_0c, z_0in, z_0a, z_a0, z_01a, bI_f, bI_f0, t0f, t1f, cl_f, wi_t, wi_f, wc_n, wc_0, wz_0, wz_1, wq_some, wq_bind, wq_lpB, ks_l, ks_r, up2_s, up2_n, u_e, u_n, if_true, if_false, ite_true, ite_false]
  rw [e16, e17, dk_arity_sp hot (fun e => kv_2 e), wq_some]
  unfold dk_read_b45
  by_cases hle : ar t ≤ m
  · -- types of the operands
    have hty : wq (dk_read_b136 (nI T.length) (nI m) (nI j) (nI t.1) (nI (ar t)) (opA t j) (opB t ts j) (nI (tb t ts)) (nI (ta t ts)) (nI t.1) σ) (ks dk_read_st Q) := by
      unfold dk_read_b136
      by_cases g : typ t ts
      · rw [dk_typed_y ht18 (ta_lt _ _) (tb_lt _ _) ((typ_C t ts).mp g), wq_bind, wq_some]
        exact h1 hle g
      · rw [dk_typed_n ht18 (ta_lt _ _) (tb_lt _ _) (fun e => g ((typ_C t ts).mpr e)), wq_bind, wq_some]
        unfold dk_read_b139
        rw [wi_f (by decide), wq_some, ks_r]
        exact h2 (fun e => g e.2)
    clear h1 h2
    rw [wi_t (by rw [z_le (by omega) (by omega)]; exact hle)]
    by_cases c0 : ar t = 0
    · have eA : opA t j = -1 := if_neg (by omega)
      have eB : opB t ts j = -1 := if_neg (by omega)
      have e1 : ta t ts = 1 := if_neg (by omega)
      have e2 : tb t ts = 1 := if_neg (by omega)
      rw [eA, eB, e1, e2] at hty
      rw [wi_t (by rw [z_le0 (by omega)]; exact c0)]
      unfold dk_read_b72
      rw [wi_t (by rw [n1_le (by omega)]; omega)]
      unfold dk_read_b92
      rw [wi_f (by decide)]
      unfold dk_read_b116
      rw [wi_f (by decide)]
      exact hty
    · have hl1 := fl_lt ts 0 (fl_mono _ _ 1 hf (by omega))
      rw [sk_0] at hl1
      have o1 : σ 22 (m - 1) = nI (j + 1) := by
        have := r2 0 (by omega)
        rw [sk_0] at this; exact this
      have t1 : σ 18 (320 + (j + 1)) = nI (ht ts) := by
        have := (DX2_at (b := 320) (i := j + 1) (ts := T) (σ := σ) 0 (by rw [hts]; exact hl1) r3).1
        rw [hts] at this; exact this
      have eA : opA t j = nI (j + 1) := if_pos (by omega)
      have e1 : ta t ts = ht ts := if_pos (by omega)
      rw [eA, e1] at hty
      rw [wi_f (by rw [z_le0 (by omega)]; exact c0), n1_sub (by omega), wc_n (by omega) (by omega), z_cl (by omega), o1]
      unfold dk_read_b72
      by_cases c1 : ar t = 1
      · have eB : opB t ts j = -1 := if_neg (by omega)
        have e2 : tb t ts = 1 := if_neg (by omega)
        rw [eB, e2] at hty
        rw [wi_t (by rw [n1_le (by omega)]; omega)]
        unfold dk_read_b92
        rw [wi_t (by rw [z_ge0 (by omega)]; trivial), l_320, nI_add, wc_n (by omega) (by omega), z_cl (by omega), t1]
        unfold dk_read_b116
        rw [wi_f (by decide)]
        exact hty
      · have hl2 := fl_lt ts 1 (fl_mono _ _ 2 hf (by omega))
        have o2 : σ 22 (m - 2) = nI (j + 1 + sk 1 ts) := by
          have := r2 1 (by omega)
          rw [show m - 1 - 1 = m - 2 by omega] at this; exact this
        have t2 : σ 18 (320 + (j + 1 + sk 1 ts)) = nI (ht (ts.drop (sk 1 ts))) := by
          have := (DX2_at (b := 320) (i := j + 1) (ts := T) (σ := σ) (sk 1 ts) (by rw [hts]; exact hl2) r3).1
          rw [hts] at this; exact this
        have eB : opB t ts j = nI (j + 1 + sk 1 ts) := if_pos (by omega)
        have e2 : tb t ts = ht (ts.drop (sk 1 ts)) := if_pos (by omega)
        rw [eB, e2] at hty
        rw [wi_f (by rw [n1_le (by omega)]; omega), l_2, z_sub (by omega), wc_n (by omega) (by omega), z_cl (by omega), o2]
        unfold dk_read_b92
        rw [wi_t (by rw [z_ge0 (by omega)]; trivial), l_320, nI_add, wc_n (by omega) (by omega), z_cl (by omega), t1]
        unfold dk_read_b116
        rw [wi_t (by rw [z_ge0 (by omega)]; trivial), l_320, nI_add, wc_n (by omega) (by omega), z_cl (by omega), t2]
        exact hty
  · rw [wi_f (by rw [z_le (by omega) (by omega)]; exact hle), wq_some, ks_r]
    exact h2 (fun e => hle e.1)
theorem dk_read_tail {Q : Int32 × dS → Prop} (hL : T.length ≤ 40) (hok : ∀ t, t ∈ T → okT t) {j m : Nat} {t : Tk} {ts : List Tk} {σ : dS} (hd : T.drop j = t :: ts) (hR : RI T σ0 (j + 1) m σ) (hf : fl m ts) (hm : m ≤ 40) (hle : ar t ≤ m) (hmj : m + j < 40)
    (h1 : ∀ σ', RI T σ0 j (m - ar t + 1) σ' → wq (lp dk_read_st (14, [nI T.length, nI (m - ar t + 1), dec j], σ')) Q) : wq (dk_read_b139 (nI T.length) (nI m) (nI j) (nI t.1) (nI (ar t)) (opA t j) (opB t ts j) (nI (tyk t.1)) σ) (ks dk_read_st Q) := by
  have hj := drop_lt hd
  have hts := drop_next hd
  have hot := hok t (drop_mem hd)
  have har := ar_le hot
  have ht18 := hot.1
  obtain ⟨r1, r2, r3, r4⟩ := hR
  rw [hts] at r2
  have hlen : ts.length = T.length - (j + 1) := by rw [← hts, List.length_drop]
  have htk := tyk_lt t.1
  have hskle := sk_le ts (ar t)
  have e1 : sk 1 (t :: ts) = 1 + sk (ar t) ts := by rw [sk_s, Nat.zero_add]
  -- the end: all three rows set
  have h268 : ∀ σ1 : dS, sm [18, 19] σ σ1 → σ1 18 = upd (σ 18) (320 + j) (nI (tyk t.1)) → σ1 19 = upd (σ 19) (320 + j) (nI (j + sk 1 (t :: ts))) → wq (dk_read_b268 (nI T.length) (nI m) (nI j) (nI t.1) (nI (ar t)) (if loc (t :: ts) = true then 1 else 0) (nI (320 + j)) σ1) (ks dk_read_st Q) := by
    intro σ1 s1 s18 s19
    have hb : vp_nar .boolean (if loc (t :: ts) = true then (1 : Int32) else 0) = if loc (t :: ts) = true then 1 else 0 := by
      by_cases g : loc (t :: ts) = true
      · rw [if_pos g]; exact z_nz1
      · rw [if_neg g]; exact z_nz0
    unfold dk_read_b268 dk_read_b269 dk_read_b274
    rw [hb]
    simp (disch := first | omega | with_reducible assumption) only [l_2, l_3, l_4, l_5, l_6, l_7, l_8, l_9, l_10, l_11, l_12, l_13, l_14, l_15, l_16, l_17, l_23, l_24, l_40, l_100, l_320, l_383, nI_add, pk_mul, z_sub, z_lt0, z_ge0, z_e0, z_le0, z_gt0, z_lt, z_le, z_eq, z_cl, z_in, z_m1lt, z_m1ge, z_nm1, z_m1n, n1_add, n1_ad2, n1_sub, n1_eq, n1_eq', n1_le, n1_ge, n1_lt, n1_gt, z_10, z_01, z_0lt, z_0ge, z_0c, z_0in, z_0a, z_a0, z_01a, bI_f, bI_f0, t0f, t1f, cl_f, wi_t, wi_f, wc_n, wc_0, wz_0, wz_1, wq_some, wq_bind, wq_lpB, ks_l, ks_r, up2_s, up2_n, u_e, u_n, if_true, if_false, ite_true, ite_false]
    rw [z_b (by omega : j < 128), z_nb (by omega : j < 128), dec_f]
    refine h1 _ ⟨sm_tr r1 ?_, fun q hq => ?_, fun i' t' r' hi' hd' => ?_, fun f hf x hx => ?_⟩
    · refine sm_up (by decide) (sm_up (by decide) (sm_sub s1 (by decide)))
    · simp (disch := first | omega | with_reducible assumption) only [up2_s, up2_n, u_e, u_n]
      rw [hd]
      cases q with
      | zero => rw [show m - ar t + 1 - 1 - 0 = m - ar t by omega, u_e, sk_0, Nat.add_zero]
      | succ q =>
        rw [u_n (by omega), s1 22 (by decide), sk_s]
        have := r2 (q + ar t) (by omega)
        rw [show m - 1 - (q + ar t) = m - ar t + 1 - 1 - (q + 1) by omega] at this
        rw [this]
        congr 1
        omega
    · by_cases e : i' = j
      · subst e
        rw [hd] at hd'
        obtain ⟨rfl, rfl⟩ := List.cons.inj hd'
        simp (disch := first | omega | with_reducible assumption) only [up2_s, up2_n, u_e, u_n]
        rw [s18, s19, u_e, u_e]
        exact ⟨rfl, rfl, trivial⟩
      · have := r3 i' t' r' (by omega) hd'
        simp (disch := first | omega | with_reducible assumption) only [up2_s, up2_n, u_e, u_n]
        rw [s18, s19, u_n (by omega), u_n (by omega), s1 20 (by decide)]
        exact this
    · rcases hf with e | e | e <;> subst e
      · simp (disch := first | omega | with_reducible assumption) only [up2_s, up2_n, u_e, u_n]; rw [s18, u_n (by omega)]; exact r4 18 (by omega) x hx
      · simp (disch := first | omega | with_reducible assumption) only [up2_s, up2_n, u_e, u_n]; rw [s19, u_n (by omega)]; exact r4 19 (by omega) x hx
      · simp (disch := first | omega | with_reducible assumption) only [up2_s, up2_n, u_e, u_n]; rw [s1 20 (by decide)]; exact r4 20 (by omega) x hx
  -- local or not
  have h201 : ∀ σ1 : dS, sm [18, 19] σ σ1 → σ1 18 = upd (σ 18) (320 + j) (nI (tyk t.1)) → σ1 19 = upd (σ 19) (320 + j) (nI (j + sk 1 (t :: ts))) → wq (dk_read_b201 (nI T.length) (nI m) (nI j) (nI t.1) (nI (ar t)) (opA t j) (opB t ts j) σ1) (ks dk_read_st Q) := by
    intro σ1 s1 s18 s19
    have hh := h268 σ1 s1 s18 s19
    unfold dk_read_b201 dk_read_b263 dk_read_b267
    rw [loc_c] at hh
    by_cases c5 : t.1 = 5 ∨ t.1 = 6
    · rw [decide_eq_true c5, Bool.true_or, if_pos rfl] at hh
      rcases c5 with c | c
      · simp (disch := first | omega | with_reducible assumption) only [l_2, l_3, l_4, l_5, l_6, l_7, l_8, l_9, l_10, l_11, l_12, l_13, l_14, l_15, l_16, l_17, l_23, l_24, l_40, l_100, l_320, l_383, nI_add, pk_mul, z_sub, z_lt0, z_ge0, z_e0, z_le0, z_gt0, z_lt, z_le, z_eq, z_cl, z_in, z_m1lt, z_m1ge, z_nm1, z_m1n, n1_add, n1_ad2, n1_sub, n1_eq, n1_eq', n1_le, n1_ge, n1_lt, n1_gt, z_10, z_01, z_0lt, z_0ge, z_0c, z_0in, z_0a, z_a0, z_01a, bI_f, bI_f0, t0f, t1f, cl_f, wi_t, wi_f, wc_n, wc_0, wz_0, wz_1, wq_some, wq_bind, wq_lpB, ks_l, ks_r, up2_s, up2_n, u_e, u_n, if_true, if_false, ite_true, ite_false]; exact hh
      · simp (disch := first | omega | with_reducible assumption) only [l_2, l_3, l_4, l_5, l_6, l_7, l_8, l_9, l_10, l_11, l_12, l_13, l_14, l_15, l_16, l_17, l_23, l_24, l_40, l_100, l_320, l_383, nI_add, pk_mul, z_sub, z_lt0, z_ge0, z_e0, z_le0, z_gt0, z_lt, z_le, z_eq, z_cl, z_in, z_m1lt, z_m1ge, z_nm1, z_m1n, n1_add, n1_ad2, n1_sub, n1_eq, n1_eq', n1_le, n1_ge, n1_lt, n1_gt, z_10, z_01, z_0lt, z_0ge, z_0c, z_0in, z_0a, z_a0, z_01a, bI_f, bI_f0, t0f, t1f, cl_f, wi_t, wi_f, wc_n, wc_0, wz_0, wz_1, wq_some, wq_bind, wq_lpB, ks_l, ks_r, up2_s, up2_n, u_e, u_n, if_true, if_false, ite_true, ite_false]; exact hh
    · rw [decide_eq_false c5, Bool.false_or] at hh
      by_cases c10 : 10 ≤ t.1
      · rw [decide_eq_true c10, Bool.true_and] at hh
        have hp : 0 < ar t := ar_pos (by omega)
        have hl1 := fl_lt ts 0 (fl_mono _ _ 1 hf (by omega))
        rw [sk_0] at hl1
        have t1 : σ1 20 (320 + (j + 1)) = if loc ts = true then 1 else 0 := by
          rw [s1 20 (by decide)]
          have := (DX2_at (b := 320) (i := j + 1) (ts := T) (σ := σ) 0 (by rw [hts]; exact hl1) r3).2.2
          rw [hts] at this; exact this
        unfold opA opB
        rw [if_pos hp]
        simp (disch := first | omega | with_reducible assumption) only [l_2, l_3, l_4, l_5, l_6, l_7, l_8, l_9, l_10, l_11, l_12, l_13, l_14, l_15, l_16, l_17, l_23, l_24, l_40, l_100, l_320, l_383, nI_add, pk_mul, z_sub, z_lt0, z_ge0, z_e0, z_le0, z_gt0, z_lt, z_le, z_eq, z_cl, z_in, z_m1lt, z_m1ge, z_nm1, z_m1n, n1_add, n1_ad2, n1_sub, n1_eq, n1_eq', n1_le, n1_ge, n1_lt, n1_gt, z_10, z_01, z_0lt, z_0ge, z_0c, z_0in, z_0a, z_a0, z_01a, bI_f, bI_f0, t0f, t1f, cl_f, wi_t, wi_f, wc_n, wc_0, wz_0, wz_1, wq_some, wq_bind, wq_lpB, ks_l, ks_r, up2_s, up2_n, u_e, u_n, if_true, if_false, ite_true, ite_false]
        rw [t1]
        by_cases g1 : loc ts = true
        · rw [if_pos g1]
          rw [g1, Bool.true_or, if_pos rfl] at hh
          simp (disch := first | omega | with_reducible assumption) only [l_2, l_3, l_4, l_5, l_6, l_7, l_8, l_9, l_10, l_11, l_12, l_13, l_14, l_15, l_16, l_17, l_23, l_24, l_40, l_100, l_320, l_383, nI_add, pk_mul, z_sub, z_lt0, z_ge0, z_e0, z_le0, z_gt0, z_lt, z_le, z_eq, z_cl, z_in, z_m1lt, z_m1ge, z_nm1, z_m1n, n1_add, n1_ad2, n1_sub, n1_eq, n1_eq', n1_le, n1_ge, n1_lt, n1_gt, z_10, z_01, z_0lt, z_0ge, z_0c, z_0in, z_0a, z_a0, z_01a, bI_f, bI_f0, t0f, t1f, cl_f, wi_t, wi_f, wc_n, wc_0, wz_0, wz_1, wq_some, wq_bind, wq_lpB, ks_l, ks_r, up2_s, up2_n, u_e, u_n, if_true, if_false, ite_true, ite_false]
          exact hh
        · rw [if_neg g1]
          have g1f : loc ts = false := by cases h : loc ts with | true => exact absurd h g1 | false => rfl
          rw [g1f, Bool.false_or] at hh
          by_cases c2 : 1 < ar t
          · have hl2 := fl_lt ts 1 (fl_mono _ _ 2 hf (by omega))
            have t2 : σ1 20 (320 + (j + 1 + sk 1 ts)) = if loc (ts.drop (sk 1 ts)) = true then 1 else 0 := by
              rw [s1 20 (by decide)]
              have := (DX2_at (b := 320) (i := j + 1) (ts := T) (σ := σ) (sk 1 ts) (by rw [hts]; exact hl2) r3).2.2
              rw [hts] at this; exact this
            rw [if_pos c2]
            rw [decide_eq_true c2, Bool.true_and] at hh
            simp (disch := first | omega | with_reducible assumption) only [l_2, l_3, l_4, l_5, l_6, l_7, l_8, l_9, l_10, l_11, l_12, l_13, l_14, l_15, l_16, l_17, l_23, l_24, l_40, l_100, l_320, l_383, nI_add, pk_mul, z_sub, z_lt0, z_ge0, z_e0, z_le0, z_gt0, z_lt, z_le, z_eq, z_cl, z_in, z_m1lt, z_m1ge, z_nm1, z_m1n, n1_add, n1_ad2, n1_sub, n1_eq, n1_eq', n1_le, n1_ge, n1_lt, n1_gt, z_10, z_01, z_0lt, z_0ge, z_0c, z_0in, z_0a, z_a0, z_01a, bI_f, bI_f0, t0f, t1f, cl_f, wi_t, wi_f, wc_n, wc_0, wz_0, wz_1, wq_some, wq_bind, wq_lpB, ks_l, ks_r, up2_s, up2_n, u_e, u_n, if_true, if_false, ite_true, ite_false]
            rw [t2]
            by_cases g2 : loc (ts.drop (sk 1 ts)) = true
            · rw [if_pos g2] at hh ⊢
              simp (disch := first | omega | with_reducible assumption) only [l_2, l_3, l_4, l_5, l_6, l_7, l_8, l_9, l_10, l_11, l_12, l_13, l_14, l_15, l_16, l_17, l_23, l_24, l_40, l_100, l_320, l_383, nI_add, pk_mul, z_sub, z_lt0, z_ge0, z_e0, z_le0, z_gt0, z_lt, z_le, z_eq, z_cl, z_in, z_m1lt, z_m1ge, z_nm1, z_m1n, n1_add, n1_ad2, n1_sub, n1_eq, n1_eq', n1_le, n1_ge, n1_lt, n1_gt, z_10, z_01, z_0lt, z_0ge, z_0c, z_0in, z_0a, z_a0, z_01a, bI_f, bI_f0, t0f, t1f, cl_f, wi_t, wi_f, wc_n, wc_0, wz_0, wz_1, wq_some, wq_bind, wq_lpB, ks_l, ks_r, up2_s, up2_n, u_e, u_n, if_true, if_false, ite_true, ite_false]
              exact hh
            · rw [if_neg g2] at hh ⊢
              simp (disch := first | omega | with_reducible assumption) only [l_2, l_3, l_4, l_5, l_6, l_7, l_8, l_9, l_10, l_11, l_12, l_13, l_14, l_15, l_16, l_17, l_23, l_24, l_40, l_100, l_320, l_383, nI_add, pk_mul, z_sub, z_lt0, z_ge0, z_e0, z_le0, z_gt0, z_lt, z_le, z_eq, z_cl, z_in, z_m1lt, z_m1ge, z_nm1, z_m1n, n1_add, n1_ad2, n1_sub, n1_eq, n1_eq', n1_le, n1_ge, n1_lt, n1_gt, z_10, z_01, z_0lt, z_0ge, z_0c, z_0in, z_0a, z_a0, z_01a, bI_f, bI_f0, t0f, t1f, cl_f, wi_t, wi_f, wc_n, wc_0, wz_0, wz_1, wq_some, wq_bind, wq_lpB, ks_l, ks_r, up2_s, up2_n, u_e, u_n, if_true, if_false, ite_true, ite_false]
              exact hh
          · rw [if_neg c2]
            rw [decide_eq_false c2, Bool.false_and, if_neg (by decide)] at hh
            simp (disch := first | omega | with_reducible assumption) only [l_2, l_3, l_4, l_5, l_6, l_7, l_8, l_9, l_10, l_11, l_12, l_13, l_14, l_15, l_16, l_17, l_23, l_24, l_40, l_100, l_320, l_383, nI_add, pk_mul, z_sub, z_lt0, z_ge0, z_e0, z_le0, z_gt0, z_lt, z_le, z_eq, z_cl, z_in, z_m1lt, z_m1ge, z_nm1, z_m1n, n1_add, n1_ad2, n1_sub, n1_eq, n1_eq', n1_le, n1_ge, n1_lt, n1_gt, z_10, z_01, z_0lt, z_0ge, z_0c, z_0in, z_0a, z_a0, z_01a, bI_f, bI_f0, t0f, t1f, cl_f, wi_t, wi_f, wc_n, wc_0, wz_0, wz_1, wq_some, wq_bind, wq_lpB, ks_l, ks_r, up2_s, up2_n, u_e, u_n, if_true, if_false, ite_true, ite_false]
            exact hh
      · rw [decide_eq_false c10, Bool.false_and, if_neg (by decide)] at hh
        simp (disch := first | omega | with_reducible assumption) only [l_2, l_3, l_4, l_5, l_6, l_7, l_8, l_9, l_10, l_11, l_12, l_13, l_14, l_15, l_16, l_17, l_23, l_24, l_40, l_100, l_320, l_383, nI_add, pk_mul, z_sub, z_lt0, z_ge0, z_e0, z_le0, z_gt0, z_lt, z_le, z_eq, z_cl, z_in, z_m1lt, z_m1ge, z_nm1, z_m1n, n1_add, n1_ad2, n1_sub, n1_eq, n1_eq', n1_le, n1_ge, n1_lt, n1_gt, z_10, z_01, z_0lt, z_0ge, z_0c, z_0in, z_0a, z_a0, z_01a, bI_f, bI_f0, t0f, t1f, cl_f, wi_t, wi_f, wc_n, wc_0, wz_0, wz_1, wq_some, wq_bind, wq_lpB, ks_l, ks_r, up2_s, up2_n, u_e, u_n, if_true, if_false, ite_true, ite_false]
        exact hh
  unfold dk_read_b139 dk_read_b161 dk_read_b199
  rw [z_b (by omega : tyk t.1 < 128), z_nb (by omega : tyk t.1 < 128)]
  have hsk40 : j + sk 1 (t :: ts) < 128 := by rw [e1]; omega
  by_cases c0 : ar t = 0
  · have e0 : j + 1 = j + sk 1 (t :: ts) := by rw [e1, c0, sk_0]
    simp (disch := first | omega | with_reducible assumption) only [l_2, l_3, l_4, l_5, l_6, l_7, l_8, l_9, l_10, l_11, l_12, l_13, l_14, l_15, l_16, l_17, l_23, l_24, l_40, l_100, l_320, l_383, nI_add, pk_mul, z_sub, z_lt0, z_ge0, z_e0, z_le0, z_gt0, z_lt, z_le, z_eq, z_cl, z_in, z_m1lt, z_m1ge, z_nm1, z_m1n, n1_add, n1_ad2, n1_sub, n1_eq, n1_eq', n1_le, n1_ge, n1_lt, n1_gt, z_10, z_01, z_0lt, z_0ge, z_0c, z_0in, z_0a, z_a0, z_01a, bI_f, bI_f0, t0f, t1f, cl_f, wi_t, wi_f, wc_n, wc_0, wz_0, wz_1, wq_some, wq_bind, wq_lpB, ks_l, ks_r, up2_s, up2_n, u_e, u_n, if_true, if_false, ite_true, ite_false]
    rw [e0, z_b hsk40, z_nb hsk40]
    refine h201 _ ?_ ?_ ?_
    · (repeat (refine sm_up (by decide) ?_)); first | exact sm_rf | assumption
    · simp (disch := first | omega | with_reducible assumption) only [up2_s, up2_n, u_e, u_n]
    · simp (disch := first | omega | with_reducible assumption) only [up2_s, up2_n, u_e, u_n]
  · have hl := fl_lt ts (ar t - 1) (fl_mono _ _ _ hf (by omega))
    have o : σ 22 (m - ar t) = nI (j + 1 + sk (ar t - 1) ts) := by
      have := r2 (ar t - 1) (by omega)
      rw [show m - 1 - (ar t - 1) = m - ar t by omega] at this; exact this
    have b : σ 19 (320 + (j + 1 + sk (ar t - 1) ts)) = nI (j + sk 1 (t :: ts)) := by
      have := (DX2_at (b := 320) (i := j + 1) (ts := T) (σ := σ) (sk (ar t - 1) ts) (by rw [hts]; exact hl) r3).2.1
      rw [hts] at this
      rw [this, e1]
      have := sk_one_add ts (ar t - 1)
      rw [show ar t - 1 + 1 = ar t by omega] at this
      rw [this]
      congr 1
      omega
    simp (disch := first | omega | with_reducible assumption) only [l_2, l_3, l_4, l_5, l_6, l_7, l_8, l_9, l_10, l_11, l_12, l_13, l_14, l_15, l_16, l_17, l_23, l_24, l_40, l_100, l_320, l_383, nI_add, pk_mul, z_sub, z_lt0, z_ge0, z_e0, z_le0, z_gt0, z_lt, z_le, z_eq, z_cl, z_in, z_m1lt, z_m1ge, z_nm1, z_m1n, n1_add, n1_ad2, n1_sub, n1_eq, n1_eq', n1_le, n1_ge, n1_lt, n1_gt, z_10, z_01, z_0lt, z_0ge, z_0c, z_0in, z_0a, z_a0, z_01a, bI_f, bI_f0, t0f, t1f, cl_f, wi_t, wi_f, wc_n, wc_0, wz_0, wz_1, wq_some, wq_bind, wq_lpB, ks_l, ks_r, up2_s, up2_n, u_e, u_n, if_true, if_false, ite_true, ite_false]
    rw [o]
    simp (disch := first | omega | with_reducible assumption) only [l_2, l_3, l_4, l_5, l_6, l_7, l_8, l_9, l_10, l_11, l_12, l_13, l_14, l_15, l_16, l_17, l_23, l_24, l_40, l_100, l_320, l_383, nI_add, pk_mul, z_sub, z_lt0, z_ge0, z_e0, z_le0, z_gt0, z_lt, z_le, z_eq, z_cl, z_in, z_m1lt, z_m1ge, z_nm1, z_m1n, n1_add, n1_ad2, n1_sub, n1_eq, n1_eq', n1_le, n1_ge, n1_lt, n1_gt, z_10, z_01, z_0lt, z_0ge, z_0c, z_0in, z_0a, z_a0, z_01a, bI_f, bI_f0, t0f, t1f, cl_f, wi_t, wi_f, wc_n, wc_0, wz_0, wz_1, wq_some, wq_bind, wq_lpB, ks_l, ks_r, up2_s, up2_n, u_e, u_n, if_true, if_false, ite_true, ite_false]
    rw [b, z_b hsk40, z_nb hsk40]
    refine h201 _ ?_ ?_ ?_
    · (repeat (refine sm_up (by decide) ?_)); first | exact sm_rf | assumption
    · simp (disch := first | omega | with_reducible assumption) only [up2_s, up2_n, u_e, u_n]
    · simp (disch := first | omega | with_reducible assumption) only [up2_s, up2_n, u_e, u_n]
theorem wfs_le : ∀ {ts : List Tk} {m : Nat}, wfs ts m → m ≤ ts.length := by
  intro ts
  induction ts with
  | nil => intro m h; rw [show m = 0 from h]; exact Nat.le_refl _
  | cons t ts ih =>
    rintro m ⟨m', h1, h2, h3, h4⟩
    have := ih h1
    rw [List.length_cons]; omega
theorem dk_read_lp {Q : Int32 × dS → Prop} (hL : T.length ≤ 40) (hok : ∀ t, t ∈ T → okT t) (hD : DX1 320 T σ0)
    (hy : ∀ σ, wfs T 1 → RI T σ0 0 1 σ → Q (1, σ)) (hn : ∀ σ, ¬ wfs T 1 → sm [18, 19, 20, 22] σ0 σ → (∀ f, (f = 18 ∨ f = 19 ∨ f = 20) → ∀ x, x < 320 → σ f x = σ0 f x) → Q (0, σ)) :
    ∀ (j m : Nat) (σ : dS), j ≤ T.length → wfs (T.drop j) m → RI T σ0 j m σ → wq (lp dk_read_st (14, [nI T.length, nI m, dec j], σ)) Q := by
  intro j
  induction j with
  | zero =>
    intro m σ hj hw hR
    have hw : wfs T m := hw
    have := wfs_le hw
    rw [dk_read_l14, dec_0]; unfold dk_read_b14
    rw [wi_t (by decide)]
    by_cases g : m = 1
    · subst g
      rw [wi_t (show nI 1 = 1 from rfl), wq_some, ks_r]
      exact hy σ hw hR
    · rw [wi_f (by rw [n1_eq (by omega)]; exact g), wq_some, ks_r]
      exact hn σ (fun e => g (wfs_uniq hw e)) hR.1 hR.2.2.2
  | succ j ih =>
    intro m σ hj hw hR
    obtain ⟨t, ts, hd⟩ := drop_ex (ts := T) (i := j) (by omega)
    have hts := drop_next hd
    rw [hts] at hw
    have hf := (wfs_fl hw).1
    have hml := wfs_le hw
    have hlen : ts.length = T.length - (j + 1) := by rw [← hts, List.length_drop]
    rw [dec_s]
    refine dk_read_head hL hok hD hd hR hf (by omega) (fun g1 g2 => ?_) (fun g => ?_)
    · exact dk_read_tail hL hok hd hR hf (by omega) g1 (by omega) (fun σ' hR' => ih _ σ' (by omega) (by rw [hd]; exact ⟨m, hw, g1, g2, rfl⟩) hR')
    · refine hn σ (fun e => ?_) hR.1 hR.2.2.2
      obtain ⟨m', hm'⟩ := wfs_drop j e
      rw [hd] at hm'
      obtain ⟨m'', q1, q2, q3, q4⟩ := hm'
      have := wfs_uniq q1 hw
      subst this
      exact g ⟨q2, q3⟩
theorem dk_read_sp {Q : Int32 × dS → Prop} (hL : T.length ≤ 40) (hok : ∀ t, t ∈ T → okT t) (hD : DX1 320 T σ0) (h21 : σ0 21 8 = nI T.length)
    (hy : ∀ σ, wfs T 1 → sm [18, 19, 20, 22] σ0 σ → DX2 320 T σ → (∀ f, (f = 18 ∨ f = 19 ∨ f = 20) → ∀ x, x < 320 → σ f x = σ0 f x) → Q (1, σ)) (hn : ∀ σ, ¬ wfs T 1 → sm [18, 19, 20, 22] σ0 σ → (∀ f, (f = 18 ∨ f = 19 ∨ f = 20) → ∀ x, x < 320 → σ f x = σ0 f x) → Q (0, σ)) : wq (dk_read σ0) Q := by
  unfold dk_read dk_read_b0 dk_read_b8
  rw [wq_lpB, l_8, wc_n (by omega) (by omega), z_cl (by omega), h21, dec_m, wq_some, ks_l]
  have := dk_read_lp (Q := Q) hL hok hD (fun σ h1 h2 => hy σ h1 h2.1 (fun i t r hd => h2.2.2.1 i t r (Nat.zero_le _) hd) h2.2.2.2) hn T.length 0 σ0 (Nat.le_refl _) (by rw [List.drop_length]; rfl) ⟨sm_rf, fun q hq => by omega, fun i' t r h1 h2 => by have := drop_lt h2; omega, fun f _ x _ => rfl⟩
  rw [nI_0] at this; exact this
end
