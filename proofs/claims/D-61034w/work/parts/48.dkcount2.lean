/-! count, its main loop -/
set_option maxRecDepth 100000
section
variable {n : Nat} {row d nm : Nat → Nat} {vl : Nat → Int32}
theorem count_step (hw : WT n row d) {σ τ : dS} {k : Nat} (hk : k < n) (hc6 : nm (row k) < 6) (h : CTk n row d nm vl k σ)
    (e7 : τ 7 = upd (σ 7) (row k) (nI k)) (e8 : τ 8 = upd (σ 8) k (nI (row k))) (e10 : τ 10 = upd (σ 10) k (if k = 0 then -1 else nI (pa d k)))
    (e11 : τ 11 = if k = 0 then upd (σ 11) k 0 else upd (upd (σ 11) k 0) (pa d k) (σ 11 (pa d k) ||| bI k))
    (e12 : τ 12 = upd (σ 12) k (if k = 0 then 0 else σ 12 (pa d k) ||| bI (pa d k)))
    (e13 : τ 13 = upd (upd (σ 13) (nm (row k)) (σ 13 (nm (row k)) ||| bI k)) 6 (σ 13 6 ||| bI k))
    (e14 : τ 14 = upd (σ 14) k (vl (row k)))
    (e9a : ∀ i, i ≤ k → bh n d i = k + 1 → τ 9 i = nI k) (e9b : ∀ i, (bh n d i ≠ k + 1 ∨ k < i) → τ 9 i = σ 9 i) : CTk n row d nm vl (k + 1) τ := by
  have hk24 := hw.1.1
  refine ⟨fun j hj => ?_, fun c hc x => ?_⟩
  · have hjn : j < n := by omega
    by_cases ejk : j = k
    · subst ejk
      refine ⟨by rw [e7, u_e], by rw [e8, u_e], fun hb => ?_, by rw [e10, u_e], fun x => ?_, fun x => ?_, by rw [e14, u_e]⟩
      · have := bh_lt (n := n) (d := d) hk
        have e : bh n d j = j + 1 := by omega
        rw [e9a j (Nat.le_refl _) e, e]; rfl
      · have hz : bt (τ 11 j) x = false := by
          rw [e11]
          by_cases e : j = 0
          · rw [if_pos e, u_e, b_0]
          · rw [if_neg e, u_n (by have := pa_lt hw.2 (by omega : 0 < j) hk; omega), u_e, b_0]
        rw [hz]
        refine (decide_eq_false ?_).symm
        rintro ⟨q1, q2, q3⟩
        have := pa_lt hw.2 q1 (by omega : x < n)
        omega
      · rw [e12, u_e]
        by_cases e : j = 0
        · rw [if_pos e, b_0]
          exact (decide_eq_false (fun q => by omega)).symm
        · have hp := pa_lt hw.2 (by omega : 0 < j) hk
          rw [if_neg e, b_or, (h.1 (pa d j) hp).2.2.2.2.2.1 x, bI_bt' (by omega)]
          rw [Bool.eq_iff_iff, Bool.or_eq_true, decide_eq_true_eq, decide_eq_true_eq, decide_eq_true_eq, above_iff hw.2 (by omega : 0 < j) hk]
          constructor
          · rintro (q | q)
            · exact Or.inr q
            · exact Or.inl q
          · rintro (q | q)
            · exact Or.inr q
            · exact Or.inl q
    · have hjk : j < k := by omega
      obtain ⟨g7, g8, g9, g10, g11, g12, g14⟩ := h.1 j hjk
      refine ⟨?_, by rw [e8, u_n ejk]; exact g8, fun hb => ?_, by rw [e10, u_n ejk]; exact g10, fun x => ?_, fun x => by rw [e12, u_n ejk]; exact g12 x, by rw [e14, u_n ejk]; exact g14⟩
      · rw [e7, u_n (fun e => ejk (hw.1.2.2 _ _ hjn hk e))]; exact g7
      · by_cases e : bh n d j = k + 1
        · rw [e9a j (by omega) e, e]; rfl
        · rw [e9b j (Or.inl e)]; exact g9 (by omega)
      · rw [e11]
        by_cases e : k = 0
        · omega
        · rw [if_neg e]
          by_cases ep : j = pa d k
          · rw [ep, u_e, b_or, ← ep, g11 x, bI_bt' (by omega), Bool.eq_iff_iff, Bool.or_eq_true, decide_eq_true_eq, decide_eq_true_eq, decide_eq_true_eq]
            constructor
            · rintro (q | q)
              · exact ⟨q.1, by omega, q.2.2⟩
              · rw [q]; exact ⟨by omega, by omega, ep.symm⟩
            · rintro ⟨q1, q2, q3⟩
              by_cases ex : x = k
              · exact Or.inr ex
              · exact Or.inl ⟨q1, by omega, q3⟩
          · rw [u_n ep, u_n ejk, g11 x, Bool.eq_iff_iff, decide_eq_true_eq, decide_eq_true_eq]
            constructor
            · rintro ⟨q1, q2, q3⟩; exact ⟨q1, by omega, q3⟩
            · rintro ⟨q1, q2, q3⟩
              by_cases ex : x = k
              · rw [ex] at q3; exact absurd q3.symm ep
              · exact ⟨q1, by omega, q3⟩
  · rw [e13]
    have hb : bt (bI k) x = decide (x = k) := bI_bt' (by omega)
    by_cases e6 : c = 6
    · rw [e6, u_e, b_or, h.2 6 (by omega) x, hb, Bool.eq_iff_iff, Bool.or_eq_true, decide_eq_true_eq, decide_eq_true_eq, decide_eq_true_eq]
      constructor
      · rintro (q | q)
        · exact ⟨by omega, Or.inl rfl⟩
        · exact ⟨by omega, Or.inl rfl⟩
      · rintro ⟨q1, q2⟩
        by_cases ex : x = k
        · exact Or.inr ex
        · exact Or.inl ⟨by omega, Or.inl rfl⟩
    · rw [u_n e6]
      by_cases ec : c = nm (row k)
      · rw [ec, u_e, b_or, h.2 _ (by omega) x, hb, Bool.eq_iff_iff, Bool.or_eq_true, decide_eq_true_eq, decide_eq_true_eq, decide_eq_true_eq]
        constructor
        · rintro (q | q)
          · exact ⟨by omega, q.2⟩
          · rw [q]; exact ⟨by omega, Or.inr rfl⟩
        · rintro ⟨q1, q2⟩
          by_cases ex : x = k
          · exact Or.inr ex
          · exact Or.inl ⟨by omega, q2⟩
      · rw [u_n ec, h.2 c hc x, Bool.eq_iff_iff, decide_eq_true_eq, decide_eq_true_eq]
        constructor
        · rintro ⟨q1, q2⟩; exact ⟨by omega, q2⟩
        · rintro ⟨q1, q2⟩
          by_cases ex : x = k
          · rw [ex] at q2
            rcases q2 with q | q
            · exact absurd q e6
            · exact absurd q.symm ec
          · exact ⟨by omega, q2⟩
theorem dk_count_lp1 (hw : WT n row d) (σ0 : dS) (hD : DT n row d nm vl σ0) : ∀ (f k : Nat) (σ : dS), k + f = n → sm [7, 8, 9, 10, 11, 12, 13, 14, 15] σ0 σ → σ 15 0 = 1 → CTk n row d nm vl k σ → wq (lp dk_count_st (41, [nI k, nxv n row k], σ)) (fun r => sm [7, 8, 9, 10, 11, 12, 13, 14, 15] σ0 r.2 ∧ r.2 15 0 = 1 ∧ CT n row d nm vl r.2) := by
  have hn24 := hw.1.1
  intro f
  induction f with
  | zero =>
    intro k σ hk hs h15 hC
    have e : k = n := by omega
    subst e
    rw [dk_count_l41]; unfold dk_count_b41
    rw [show nxv k row k = -1 from if_neg (Nat.lt_irrefl _)]
    simp (disch := omega) only [l_2, l_3, l_4, l_5, l_6, l_7, l_8, l_9, l_10, l_11, l_12, l_13, l_14, l_15, l_16, l_17, l_23, l_24, l_40, l_100, l_320, l_383, nI_add, pk_mul, z_sub, z_lt0, z_ge0, z_e0, z_le0, z_gt0, z_lt, z_le, z_eq, z_cl, z_in, z_m1lt, z_m1ge, z_nm1, z_m1n, n1_add, n1_ad2, n1_sub, n1_eq, n1_eq', n1_le, n1_ge, n1_lt, n1_gt, z_10, z_01, z_0lt, z_0ge, z_0c, z_0in, z_0a, z_a0, z_01a, bI_f, bI_f0, t0f, t1f, cl_f, wq_some, wq_ite, wq_chk, wq_zok, wq_bind, wq_lpB, ks_l, ks_r, up2_s, up2_n, u_e, u_n]
    exact ⟨fun _ => ⟨hs, h15, hC⟩, fun g => (g trivial).elim⟩
  | succ f ih =>
    intro k σ hk hs h15 hC
    have hkn : k < n := by omega
    have rk := hw.1.2.1 k hkn
    have hD1 : DT n row d nm vl σ := DT_sm' hD hs (by decide)
    obtain ⟨d1, d2, d3, d4, d5, d6⟩ := hD1
    obtain ⟨m1, m2, m3⟩ := d5 k hkn
    have hT := d3
    -- what comes behind onward
    have fin : ∀ τ : dS, sm [7, 8, 9, 10, 11, 12, 13, 14, 15] σ τ → τ 15 0 = 1 → τ 7 = upd (σ 7) (row k) (nI k) → τ 8 = upd (σ 8) k (nI (row k)) → τ 10 = upd (σ 10) k (if k = 0 then -1 else nI (pa d k)) →
        (τ 11 = if k = 0 then upd (σ 11) k 0 else upd (upd (σ 11) k 0) (pa d k) (σ 11 (pa d k) ||| bI k)) →
        (τ 12 = upd (σ 12) k (if k = 0 then 0 else σ 12 (pa d k) ||| bI (pa d k))) →
        (τ 13 = upd (upd (σ 13) (nm (row k)) (σ 13 (nm (row k)) ||| bI k)) 6 (σ 13 6 ||| bI k)) → τ 14 = upd (σ 14) k (vl (row k)) → τ 9 = σ 9 →
        wq (dk_onward (nI (row k)) (nI k) τ) (fun r => wq (dk_count_b189 (nI k) r.1 r.2) (ks dk_count_st (fun r => sm [7, 8, 9, 10, 11, 12, 13, 14, 15] σ0 r.2 ∧ r.2 15 0 = 1 ∧ CT n row d nm vl r.2))) := by
      intro τ ts t15 t7 t8 t10 t11 t12 t13 t14 t9
      have hDτ : DT n row d nm vl τ := DT_sm' ⟨d1, d2, d3, d4, d5, d6⟩ ts (by decide)
      have hpl : ∀ j, j ≤ k → τ 7 (row j) = nI j := by
        intro j hj
        rw [t7]
        by_cases e : j = k
        · rw [e, u_e]
        · rw [u_n (fun q => e (hw.1.2.2 _ _ (by omega) hkn q))]
          exact (hC.1 j (by omega)).1
      refine wq_mono (dk_onward_sp hw hDτ.2.2.1 hDτ.2.2.2.1 hkn hpl) (fun r hr => ?_)
      obtain ⟨r1, r2, r3, r4⟩ := hr
      unfold dk_count_b189
      rw [r1]
      simp (disch := omega) only [l_2, l_3, l_4, l_5, l_6, l_7, l_8, l_9, l_10, l_11, l_12, l_13, l_14, l_15, l_16, l_17, l_23, l_24, l_40, l_100, l_320, l_383, nI_add, pk_mul, z_sub, z_lt0, z_ge0, z_e0, z_le0, z_gt0, z_lt, z_le, z_eq, z_cl, z_in, z_m1lt, z_m1ge, z_nm1, z_m1n, n1_add, n1_ad2, n1_sub, n1_eq, n1_eq', n1_le, n1_ge, n1_lt, n1_gt, z_10, z_01, z_0lt, z_0ge, z_0c, z_0in, z_0a, z_a0, z_01a, bI_f, bI_f0, t0f, t1f, cl_f, wq_some, wq_ite, wq_chk, wq_zok, wq_bind, wq_lpB, ks_l, ks_r, up2_s, up2_n, u_e, u_n]
      refine ih (k + 1) r.2 (by omega) (sm_tr hs (sm_tr ts (sm_sub r2 (by decide)))) (by rw [r2 15 (by decide)]; exact t15) ?_
      refine count_step hw hkn m2 hC ?_ ?_ ?_ ?_ ?_ ?_ ?_ r3 (fun i hi => by rw [r4 i hi, t9])
      · rw [r2 7 (by decide)]; exact t7
      · rw [r2 8 (by decide)]; exact t8
      · rw [r2 10 (by decide)]; exact t10
      · rw [r2 11 (by decide)]; exact t11
      · rw [r2 12 (by decide)]; exact t12
      · rw [r2 13 (by decide)]; exact t13
      · rw [r2 14 (by decide)]; exact t14
    rw [dk_count_l41, show nxv n row k = nI (row k) from if_pos hkn]
    unfold dk_count_b41 dk_count_b53 dk_count_b61
    rw [z_b (by omega : row k < 128), z_b (by omega : k < 128), z_nb (by omega : row k < 128), z_nb (by omega : k < 128)]
    simp (disch := first | omega | with_reducible assumption) only [l_2, l_3, l_4, l_5, l_6, l_7, l_8, l_9, l_10, l_11, l_12, l_13, l_14, l_15, l_16, l_17, l_23, l_24, l_40, l_100, l_320, l_383, nI_add, pk_mul, z_sub, z_lt0, z_ge0, z_e0, z_le0, z_gt0, z_lt, z_le, z_eq, z_cl, z_in, z_m1lt, z_m1ge, z_nm1, z_m1n, n1_add, n1_ad2, n1_sub, n1_eq, n1_eq', n1_le, n1_ge, n1_lt, n1_gt, z_10, z_01, z_0lt, z_0ge, z_0c, z_0in, z_0a, z_a0, z_01a, bI_f, bI_f0, t0f, t1f, cl_f, wi_t, wi_f, wc_n, wc_0, wz_0, wz_1, wq_some, wq_bind, wq_lpB, ks_l, ks_r, up2_s, up2_n, u_e, u_n, if_true, if_false, ite_true, ite_false]
    unfold dk_count_b85 dk_count_b94 dk_count_b101 dk_count_b124 dk_count_b125 dk_count_b141 dk_count_b158 dk_count_b171 dk_count_b183
    by_cases hk0 : k = 0
    · rw [show σ 2 (row k) = -1 by rw [hk0]; exact (d4 (by omega)).1]
      rw [z_bm1, z_nbm1]
      simp (disch := first | omega | with_reducible assumption) only [l_2, l_3, l_4, l_5, l_6, l_7, l_8, l_9, l_10, l_11, l_12, l_13, l_14, l_15, l_16, l_17, l_23, l_24, l_40, l_100, l_320, l_383, nI_add, pk_mul, z_sub, z_lt0, z_ge0, z_e0, z_le0, z_gt0, z_lt, z_le, z_eq, z_cl, z_in, z_m1lt, z_m1ge, z_nm1, z_m1n, n1_add, n1_ad2, n1_sub, n1_eq, n1_eq', n1_le, n1_ge, n1_lt, n1_gt, z_10, z_01, z_0lt, z_0ge, z_0c, z_0in, z_0a, z_a0, z_01a, bI_f, bI_f0, t0f, t1f, cl_f, wi_t, wi_f, wc_n, wc_0, wz_0, wz_1, wq_some, wq_bind, wq_lpB, ks_l, ks_r, up2_s, up2_n, u_e, u_n, if_true, if_false, ite_true, ite_false]
      rw [m1]
      simp (disch := first | omega | with_reducible assumption) only [l_2, l_3, l_4, l_5, l_6, l_7, l_8, l_9, l_10, l_11, l_12, l_13, l_14, l_15, l_16, l_17, l_23, l_24, l_40, l_100, l_320, l_383, nI_add, pk_mul, z_sub, z_lt0, z_ge0, z_e0, z_le0, z_gt0, z_lt, z_le, z_eq, z_cl, z_in, z_m1lt, z_m1ge, z_nm1, z_m1n, n1_add, n1_ad2, n1_sub, n1_eq, n1_eq', n1_le, n1_ge, n1_lt, n1_gt, z_10, z_01, z_0lt, z_0ge, z_0c, z_0in, z_0a, z_a0, z_01a, bI_f, bI_f0, t0f, t1f, cl_f, wi_t, wi_f, wc_n, wc_0, wz_0, wz_1, wq_some, wq_bind, wq_lpB, ks_l, ks_r, up2_s, up2_n, u_e, u_n, if_true, if_false, ite_true, ite_false]
      refine fin _ (by (repeat (refine sm_up (by decide) ?_)); first | exact sm_rf | assumption) (by simp (disch := first | omega | with_reducible assumption) only [up2_s, up2_n, u_e, u_n]; exact h15) (by simp (disch := first | omega | with_reducible assumption) only [up2_s, up2_n, u_e, u_n]) (by simp (disch := first | omega | with_reducible assumption) only [up2_s, up2_n, u_e, u_n]) ?_ ?_ ?_ (by simp (disch := first | omega | with_reducible assumption) only [up2_s, up2_n, u_e, u_n]) ?_ (by simp (disch := first | omega | with_reducible assumption) only [up2_s, up2_n, u_e, u_n])
      · simp (disch := first | omega | with_reducible assumption) only [up2_s, up2_n, u_e, u_n]; rw [if_pos hk0]
      · simp (disch := first | omega | with_reducible assumption) only [up2_s, up2_n, u_e, u_n]; rw [if_pos hk0]
      · simp (disch := first | omega | with_reducible assumption) only [up2_s, up2_n, u_e, u_n]; rw [if_pos hk0]
      · simp (disch := first | omega | with_reducible assumption) only [up2_s, up2_n, u_e, u_n]; rw [m3]
    · have hp := pa_lt hw.2 (by omega : 0 < k) hkn
      have rp := hw.1.2.1 _ (by omega : pa d k < n)
      rw [show σ 2 (row k) = nI (row (pa d k)) from d3.2.2 k (by omega) hkn]
      have hpl : upd (σ 7) (row k) (nI k) (row (pa d k)) = nI (pa d k) := by
        rw [u_n (fun q => by have := hw.1.2.2 _ _ (by omega) hkn q; omega)]
        exact (hC.1 _ hp).1
      simp (disch := first | omega | with_reducible assumption) only [l_2, l_3, l_4, l_5, l_6, l_7, l_8, l_9, l_10, l_11, l_12, l_13, l_14, l_15, l_16, l_17, l_23, l_24, l_40, l_100, l_320, l_383, nI_add, pk_mul, z_sub, z_lt0, z_ge0, z_e0, z_le0, z_gt0, z_lt, z_le, z_eq, z_cl, z_in, z_m1lt, z_m1ge, z_nm1, z_m1n, n1_add, n1_ad2, n1_sub, n1_eq, n1_eq', n1_le, n1_ge, n1_lt, n1_gt, z_10, z_01, z_0lt, z_0ge, z_0c, z_0in, z_0a, z_a0, z_01a, bI_f, bI_f0, t0f, t1f, cl_f, wi_t, wi_f, wc_n, wc_0, wz_0, wz_1, wq_some, wq_bind, wq_lpB, ks_l, ks_r, up2_s, up2_n, u_e, u_n, if_true, if_false, ite_true, ite_false]
      rw [hpl, z_b (by omega : pa d k < 128), z_nb (by omega : pa d k < 128)]
      simp (disch := first | omega | with_reducible assumption) only [l_2, l_3, l_4, l_5, l_6, l_7, l_8, l_9, l_10, l_11, l_12, l_13, l_14, l_15, l_16, l_17, l_23, l_24, l_40, l_100, l_320, l_383, nI_add, pk_mul, z_sub, z_lt0, z_ge0, z_e0, z_le0, z_gt0, z_lt, z_le, z_eq, z_cl, z_in, z_m1lt, z_m1ge, z_nm1, z_m1n, n1_add, n1_ad2, n1_sub, n1_eq, n1_eq', n1_le, n1_ge, n1_lt, n1_gt, z_10, z_01, z_0lt, z_0ge, z_0c, z_0in, z_0a, z_a0, z_01a, bI_f, bI_f0, t0f, t1f, cl_f, wi_t, wi_f, wc_n, wc_0, wz_0, wz_1, wq_some, wq_bind, wq_lpB, ks_l, ks_r, up2_s, up2_n, u_e, u_n, if_true, if_false, ite_true, ite_false]
      rw [m1]
      simp (disch := first | omega | with_reducible assumption) only [l_2, l_3, l_4, l_5, l_6, l_7, l_8, l_9, l_10, l_11, l_12, l_13, l_14, l_15, l_16, l_17, l_23, l_24, l_40, l_100, l_320, l_383, nI_add, pk_mul, z_sub, z_lt0, z_ge0, z_e0, z_le0, z_gt0, z_lt, z_le, z_eq, z_cl, z_in, z_m1lt, z_m1ge, z_nm1, z_m1n, n1_add, n1_ad2, n1_sub, n1_eq, n1_eq', n1_le, n1_ge, n1_lt, n1_gt, z_10, z_01, z_0lt, z_0ge, z_0c, z_0in, z_0a, z_a0, z_01a, bI_f, bI_f0, t0f, t1f, cl_f, wi_t, wi_f, wc_n, wc_0, wz_0, wz_1, wq_some, wq_bind, wq_lpB, ks_l, ks_r, up2_s, up2_n, u_e, u_n, if_true, if_false, ite_true, ite_false]
      refine fin _ (by (repeat (refine sm_up (by decide) ?_)); first | exact sm_rf | assumption) (by simp (disch := first | omega | with_reducible assumption) only [up2_s, up2_n, u_e, u_n]; exact h15) (by simp (disch := first | omega | with_reducible assumption) only [up2_s, up2_n, u_e, u_n]) (by simp (disch := first | omega | with_reducible assumption) only [up2_s, up2_n, u_e, u_n]) ?_ ?_ ?_ (by simp (disch := first | omega | with_reducible assumption) only [up2_s, up2_n, u_e, u_n]) ?_ (by simp (disch := first | omega | with_reducible assumption) only [up2_s, up2_n, u_e, u_n])
      · simp (disch := first | omega | with_reducible assumption) only [up2_s, up2_n, u_e, u_n]; rw [if_neg hk0]
      · simp (disch := first | omega | with_reducible assumption) only [up2_s, up2_n, u_e, u_n]; rw [if_neg hk0]
      · simp (disch := first | omega | with_reducible assumption) only [up2_s, up2_n, u_e, u_n]; rw [if_neg hk0]
      · simp (disch := first | omega | with_reducible assumption) only [up2_s, up2_n, u_e, u_n]; rw [m3]
/-- count: the tree counted through, and nothing else changed -/
theorem dk_count_sp {Q : Int32 × dS → Prop} {σ : dS} (hw : WT n row d) (hD : DT n row d nm vl σ) (hC : σ 15 0 = 0 ∨ (σ 15 0 = 1 ∧ CT n row d nm vl σ)) (hq : ∀ r, sm [7, 8, 9, 10, 11, 12, 13, 14, 15] σ r.2 → r.2 15 0 = 1 → CT n row d nm vl r.2 → Q r) : wq (dk_count σ) Q := by
  unfold dk_count dk_count_b0 dk_count_b13
  rcases hC with hC | ⟨hC, hC2⟩
  · rw [hC]
    simp (disch := first | omega | with_reducible assumption) only [l_2, l_3, l_4, l_5, l_6, l_7, l_8, l_9, l_10, l_11, l_12, l_13, l_14, l_15, l_16, l_17, l_23, l_24, l_40, l_100, l_320, l_383, nI_add, pk_mul, z_sub, z_lt0, z_ge0, z_e0, z_le0, z_gt0, z_lt, z_le, z_eq, z_cl, z_in, z_m1lt, z_m1ge, z_nm1, z_m1n, n1_add, n1_ad2, n1_sub, n1_eq, n1_eq', n1_le, n1_ge, n1_lt, n1_gt, z_10, z_01, z_0lt, z_0ge, z_0c, z_0in, z_0a, z_a0, z_01a, bI_f, bI_f0, t0f, t1f, cl_f, wi_t, wi_f, wc_n, wc_0, wz_0, wz_1, wq_some, wq_bind, wq_lpB, ks_l, ks_r, up2_s, up2_n, u_e, u_n, if_true, if_false, ite_true, ite_false]
    have := dk_count_lp0 (Q := Q) (up2 σ 15 0 1) (fun σ1 h1 h2 h3 => ?_) 7 0 (up2 σ 15 0 1) (by omega) sm_rf rfl (fun c hc => by omega)
    · rw [nI_0] at this; exact this
    · have h5 : (up2 σ 15 0 1) 5 0 = nxv n row 0 := by
        simp (disch := first | omega | with_reducible assumption) only [up2_s, up2_n, u_e, u_n]
        rw [hD.2.1]
        unfold nxv
        by_cases e : n = 0
        · rw [if_pos e, if_neg (by omega)]
        · rw [if_neg e, if_pos (by omega)]
      rw [h5]
      have hs : sm [7, 8, 9, 10, 11, 12, 13, 14, 15] σ σ1 := sm_tr (sm_up (by decide) sm_rf) (sm_sub h1 (by decide))
      have := dk_count_lp1 hw σ hD n 0 σ1 (by omega) hs (by rw [h2]; simp (disch := first | omega | with_reducible assumption) only [up2_s, up2_n, u_e, u_n]) ⟨fun j hj => by omega, fun c hc x => by rw [h3 c hc, b_0]; exact (decide_eq_false (fun q => by omega)).symm⟩
      rw [nI_0] at this
      exact wq_mono this (fun r hr => hq r hr.1 hr.2.1 hr.2.2)
  · rw [hC]
    simp (disch := first | omega | with_reducible assumption) only [l_2, l_3, l_4, l_5, l_6, l_7, l_8, l_9, l_10, l_11, l_12, l_13, l_14, l_15, l_16, l_17, l_23, l_24, l_40, l_100, l_320, l_383, nI_add, pk_mul, z_sub, z_lt0, z_ge0, z_e0, z_le0, z_gt0, z_lt, z_le, z_eq, z_cl, z_in, z_m1lt, z_m1ge, z_nm1, z_m1n, n1_add, n1_ad2, n1_sub, n1_eq, n1_eq', n1_le, n1_ge, n1_lt, n1_gt, z_10, z_01, z_0lt, z_0ge, z_0c, z_0in, z_0a, z_a0, z_01a, bI_f, bI_f0, t0f, t1f, cl_f, wi_t, wi_f, wc_n, wc_0, wz_0, wz_1, wq_some, wq_bind, wq_lpB, ks_l, ks_r, up2_s, up2_n, u_e, u_n, if_true, if_false, ite_true, ite_false]
    exact hq _ sm_rf hC hC2
end
