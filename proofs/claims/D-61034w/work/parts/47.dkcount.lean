/-! count: the nodes counted through -/
set_option maxRecDepth 100000
section
variable {n : Nat} {row d nm : Nat → Nat} {vl : Nat → Int32}
theorem bh_0 (h : wfT n d) (hn : 0 < n) : bh n d 0 = n := bh_eq ⟨hn, Nat.le_refl _, fun k h1 h2 => by rw [h.1 hn]; exact wfT_pos h h1 h2, fun g => absurd g (Nat.lt_irrefl _)⟩
def nxv (n : Nat) (row : Nat → Nat) (k : Nat) : Int32 := if k < n then nI (row k) else -1
theorem dk_onward_lp {σ0 : dS} (hw : WT n row d) (hT : PT n row d σ0) (h0 : 0 < n → σ0 2 (row 0) = -1 ∧ σ0 4 (row 0) = -1) {k : Nat} (hk : k < n) (hpl : ∀ j, j ≤ k → σ0 7 (row j) = nI j) (v : Int32) : ∀ (j : Nat) (σ : dS), j ≤ k → bh n d j = k + 1 → sm [9] σ0 σ → (∀ i, j ≤ i → i ≤ k → bh n d i = k + 1 → σ 9 i = nI k) → (∀ i, (bh n d i ≠ k + 1 ∨ k < i) → σ 9 i = σ0 9 i) → wq (lp dk_onward_st (31, [v, nI k, nI (row j)], σ)) (fun r => r.1 = nxv n row (k + 1) ∧ sm [9] σ0 r.2 ∧ (∀ i, i ≤ k → bh n d i = k + 1 → r.2 9 i = nI k) ∧ (∀ i, (bh n d i ≠ k + 1 ∨ k < i) → r.2 9 i = σ0 9 i)) := by
  have hk24 := hw.1.1
  intro j
  induction j using Nat.strongRecOn with
  | ind j ih =>
    intro σ hj hb hs h1 h2
    have rj := hw.1.2.1 j (by omega)
    have e4 : σ 4 = σ0 4 := hs 4 (by decide)
    have e2 : σ 2 = σ0 2 := hs 2 (by decide)
    have e7 : σ 7 = σ0 7 := hs 7 (by decide)
    rw [dk_onward_l31]; unfold dk_onward_b31 dk_onward_b56 dk_onward_b72
    simp (disch := omega) only [l_2, l_3, l_4, l_5, l_6, l_7, l_8, l_9, l_10, l_11, l_12, l_13, l_14, l_15, l_16, l_17, l_23, l_24, l_40, l_100, l_320, l_383, nI_add, pk_mul, z_sub, z_lt0, z_ge0, z_e0, z_le0, z_gt0, z_lt, z_le, z_eq, z_cl, z_in, z_m1lt, z_m1ge, z_nm1, z_m1n, n1_add, n1_ad2, n1_sub, n1_eq, n1_eq', n1_le, n1_ge, n1_lt, n1_gt, z_10, z_01, z_0lt, z_0ge, z_0c, z_0in, z_0a, z_a0, z_01a, bI_f, bI_f0, t0f, t1f, cl_f, wq_some, wq_ite, wq_chk, wq_zok, wq_bind, wq_lpB, ks_l, ks_r, up2_s, up2_n, u_e, u_n]
    rw [e4, e2, e7]
    by_cases hj0 : j = 0
    · subst hj0
      obtain ⟨p1, p2⟩ := h0 (by omega)
      rw [p1, p2]
      have hbn := bh_0 hw.2 (by omega)
      simp (disch := omega) only [l_2, l_3, l_4, l_5, l_6, l_7, l_8, l_9, l_10, l_11, l_12, l_13, l_14, l_15, l_16, l_17, l_23, l_24, l_40, l_100, l_320, l_383, nI_add, pk_mul, z_sub, z_lt0, z_ge0, z_e0, z_le0, z_gt0, z_lt, z_le, z_eq, z_cl, z_in, z_m1lt, z_m1ge, z_nm1, z_m1n, n1_add, n1_ad2, n1_sub, n1_eq, n1_eq', n1_le, n1_ge, n1_lt, n1_gt, z_10, z_01, z_0lt, z_0ge, z_0c, z_0in, z_0a, z_a0, z_01a, bI_f, bI_f0, t0f, t1f, cl_f, wq_some, wq_ite, wq_chk, wq_zok, wq_bind, wq_lpB, ks_l, ks_r, up2_s, up2_n, u_e, u_n]
      refine ⟨rj, fun g => g.elim, fun _ => ⟨rj, fun _ => ⟨rj, ?_, hs, fun i hi => h1 i (Nat.zero_le _) hi, h2⟩, fun g => (g trivial).elim⟩⟩
      unfold nxv
      rw [if_neg (by omega)]
    · rw [hT.2.1 j (by omega) (by omega), hT.2.2 j (by omega) (by omega)]
      have hp := pa_spec hw.2 (by omega : 0 < j) (by omega)
      have hpn : pa d j < n := by have := hp.1; omega
      have rp := hw.1.2.1 _ hpn
      unfold PV
      by_cases g : bh n d j < n ∧ d (bh n d j) = d j
      · have rb := hw.1.2.1 _ g.1
        have hnv : NV n row d j = nI (row (bh n d j)) := if_pos g
        rw [hnv]
        simp (disch := omega) only [l_2, l_3, l_4, l_5, l_6, l_7, l_8, l_9, l_10, l_11, l_12, l_13, l_14, l_15, l_16, l_17, l_23, l_24, l_40, l_100, l_320, l_383, nI_add, pk_mul, z_sub, z_lt0, z_ge0, z_e0, z_le0, z_gt0, z_lt, z_le, z_eq, z_cl, z_in, z_m1lt, z_m1ge, z_nm1, z_m1n, n1_add, n1_ad2, n1_sub, n1_eq, n1_eq', n1_le, n1_ge, n1_lt, n1_gt, z_10, z_01, z_0lt, z_0ge, z_0c, z_0in, z_0a, z_a0, z_01a, bI_f, bI_f0, t0f, t1f, cl_f, wq_some, wq_ite, wq_chk, wq_zok, wq_bind, wq_lpB, ks_l, ks_r, up2_s, up2_n, u_e, u_n]
        refine ⟨rj, fun _ => ⟨rj, ?_, hs, fun i hi hbi => ?_, h2⟩, fun e => (e trivial).elim⟩
        · unfold nxv
          rw [if_pos (by omega), hb]
        · rcases Nat.lt_or_ge i j with e | e
          · exfalso
            have q1 := bh_in (n := n) (d := d) (i := i) (by omega) e (by omega)
            have q2 := bh_at (n := n) (d := d) (i := i) (by omega) (by omega)
            rw [hbi] at q2
            rw [hb] at g
            omega
          · exact h1 i e hi hbi
      · have hnv : NV n row d j = -1 := if_neg g
        rw [hnv]
        simp (disch := omega) only [l_2, l_3, l_4, l_5, l_6, l_7, l_8, l_9, l_10, l_11, l_12, l_13, l_14, l_15, l_16, l_17, l_23, l_24, l_40, l_100, l_320, l_383, nI_add, pk_mul, z_sub, z_lt0, z_ge0, z_e0, z_le0, z_gt0, z_lt, z_le, z_eq, z_cl, z_in, z_m1lt, z_m1ge, z_nm1, z_m1n, n1_add, n1_ad2, n1_sub, n1_eq, n1_eq', n1_le, n1_ge, n1_lt, n1_gt, z_10, z_01, z_0lt, z_0ge, z_0c, z_0in, z_0a, z_a0, z_01a, bI_f, bI_f0, t0f, t1f, cl_f, wq_some, wq_ite, wq_chk, wq_zok, wq_bind, wq_lpB, ks_l, ks_r, up2_s, up2_n, u_e, u_n]
        have hbp : bh n d (pa d j) = k + 1 := by
          have q1 := pa_bh hw.2 (by omega : 0 < j) (by omega : j < n)
          have q2 := pa_d hw.2 (by omega : 0 < j) (by omega : j < n)
          have q3 := bh_nest hpn hp.1 q1
          obtain ⟨b1, b2, b3, b4⟩ := bh_spec (n := n) (d := d) hpn
          obtain ⟨c1, c2, c3, c4⟩ := bh_spec (n := n) (d := d) (i := j) (by omega)
          rcases Nat.lt_or_ge (bh n d j) (bh n d (pa d j)) with e | e
          · exfalso
            have q4 := b3 (bh n d j) (by have := hp.1; omega) e
            have q5 := c4 (by omega)
            exact g ⟨by omega, by omega⟩
          · omega
        have hpk : pa d j ≤ k := by have := hp.1; omega
        rw [hpl _ hpk, vp_nar_byte, z_b (by omega : k < 128), z_b (by omega : k < 128)]
        simp (disch := omega) only [l_2, l_3, l_4, l_5, l_6, l_7, l_8, l_9, l_10, l_11, l_12, l_13, l_14, l_15, l_16, l_17, l_23, l_24, l_40, l_100, l_320, l_383, nI_add, pk_mul, z_sub, z_lt0, z_ge0, z_e0, z_le0, z_gt0, z_lt, z_le, z_eq, z_cl, z_in, z_m1lt, z_m1ge, z_nm1, z_m1n, n1_add, n1_ad2, n1_sub, n1_eq, n1_eq', n1_le, n1_ge, n1_lt, n1_gt, z_10, z_01, z_0lt, z_0ge, z_0c, z_0in, z_0a, z_a0, z_01a, bI_f, bI_f0, t0f, t1f, cl_f, wq_some, wq_ite, wq_chk, wq_zok, wq_bind, wq_lpB, ks_l, ks_r, up2_s, up2_n, u_e, u_n]
        refine ⟨rj, fun e => e.elim, fun _ => ⟨rj, fun e => e.elim, fun _ => ⟨rj, rp, by omega, ?_⟩⟩⟩
        refine ih (pa d j) hp.1 _ hpk hbp (sm_up (by decide) hs) (fun i q1 q2 q3 => ?_) (fun i q => ?_)
        · rw [up2_s]
          by_cases e : i = pa d j
          · rw [e, u_e]
          · rw [u_n e]
            rcases Nat.lt_or_ge i j with e2 | e2
            · exfalso
              have q4 := hp.2.2 i (by omega) e2
              have q5 := bh_in (n := n) (d := d) (i := i) (by omega) e2 (by omega)
              omega
            · exact h1 i e2 q2 q3
        · rw [up2_s, u_n, h2 i q]
          intro e
          rw [e] at q
          omega
theorem dk_onward_sp {σ : dS} (hw : WT n row d) (hT : PT n row d σ) (h0 : 0 < n → σ 2 (row 0) = -1 ∧ σ 4 (row 0) = -1) {k : Nat} (hk : k < n) (hpl : ∀ j, j ≤ k → σ 7 (row j) = nI j) : wq (dk_onward (nI (row k)) (nI k) σ) (fun r => r.1 = nxv n row (k + 1) ∧ sm [9] σ r.2 ∧ (∀ i, i ≤ k → bh n d i = k + 1 → r.2 9 i = nI k) ∧ (∀ i, (bh n d i ≠ k + 1 ∨ k < i) → r.2 9 i = σ 9 i)) := by
  have hk24 := hw.1.1
  have rk := hw.1.2.1 k hk
  unfold dk_onward dk_onward_b0
  simp (disch := omega) only [l_2, l_3, l_4, l_5, l_6, l_7, l_8, l_9, l_10, l_11, l_12, l_13, l_14, l_15, l_16, l_17, l_23, l_24, l_40, l_100, l_320, l_383, nI_add, pk_mul, z_sub, z_lt0, z_ge0, z_e0, z_le0, z_gt0, z_lt, z_le, z_eq, z_cl, z_in, z_m1lt, z_m1ge, z_nm1, z_m1n, n1_add, n1_ad2, n1_sub, n1_eq, n1_eq', n1_le, n1_ge, n1_lt, n1_gt, z_10, z_01, z_0lt, z_0ge, z_0c, z_0in, z_0a, z_a0, z_01a, bI_f, bI_f0, t0f, t1f, cl_f, wq_some, wq_ite, wq_chk, wq_zok, wq_bind, wq_lpB, ks_l, ks_r, up2_s, up2_n, u_e, u_n]
  rw [hT.1 k hk, hpl k (Nat.le_refl _)]
  unfold FV
  by_cases g : k + 1 < n ∧ d k < d (k + 1)
  · have r1 := hw.1.2.1 _ g.1
    rw [if_pos g]
    simp (disch := omega) only [l_2, l_3, l_4, l_5, l_6, l_7, l_8, l_9, l_10, l_11, l_12, l_13, l_14, l_15, l_16, l_17, l_23, l_24, l_40, l_100, l_320, l_383, nI_add, pk_mul, z_sub, z_lt0, z_ge0, z_e0, z_le0, z_gt0, z_lt, z_le, z_eq, z_cl, z_in, z_m1lt, z_m1ge, z_nm1, z_m1n, n1_add, n1_ad2, n1_sub, n1_eq, n1_eq', n1_le, n1_ge, n1_lt, n1_gt, z_10, z_01, z_0lt, z_0ge, z_0c, z_0in, z_0a, z_a0, z_01a, bI_f, bI_f0, t0f, t1f, cl_f, wq_some, wq_ite, wq_chk, wq_zok, wq_bind, wq_lpB, ks_l, ks_r, up2_s, up2_n, u_e, u_n]
    refine ⟨rk, fun e => e.elim, fun _ => ⟨rk, ?_, sm_rf, fun i hi hb => ?_, fun i _ => by first | rfl | trivial⟩⟩
    · unfold nxv; rw [if_pos g.1]
    · exfalso
      have q2 := bh_at (n := n) (d := d) (i := i) (by omega) (by omega)
      rw [hb] at q2
      by_cases e : i = k
      · rw [e] at q2; omega
      · have := bh_in (n := n) (d := d) (i := i) (by omega) (by omega : i < k) (by omega)
        omega
  · rw [if_neg g, vp_nar_byte, z_b (by omega : k < 128), z_b (by omega : k < 128)]
    simp (disch := omega) only [l_2, l_3, l_4, l_5, l_6, l_7, l_8, l_9, l_10, l_11, l_12, l_13, l_14, l_15, l_16, l_17, l_23, l_24, l_40, l_100, l_320, l_383, nI_add, pk_mul, z_sub, z_lt0, z_ge0, z_e0, z_le0, z_gt0, z_lt, z_le, z_eq, z_cl, z_in, z_m1lt, z_m1ge, z_nm1, z_m1n, n1_add, n1_ad2, n1_sub, n1_eq, n1_eq', n1_le, n1_ge, n1_lt, n1_gt, z_10, z_01, z_0lt, z_0ge, z_0c, z_0in, z_0a, z_a0, z_01a, bI_f, bI_f0, t0f, t1f, cl_f, wq_some, wq_ite, wq_chk, wq_zok, wq_bind, wq_lpB, ks_l, ks_r, up2_s, up2_n, u_e, u_n]
    have hbk : bh n d k = k + 1 := by
      refine bh_eq ⟨by omega, by omega, fun i q1 q2 => by omega, fun q => ?_⟩
      rcases Nat.lt_or_ge (d k) (d (k + 1)) with e | e
      · exact absurd ⟨q, e⟩ g
      · exact e
    refine ⟨rk, fun _ => ⟨rk, by omega, ?_⟩, fun e => (e trivial).elim⟩
    refine dk_onward_lp hw hT h0 hk hpl _ k _ (Nat.le_refl _) hbk (sm_up (by decide) sm_rf) (fun i q1 q2 q3 => ?_) (fun i q => ?_)
    · have e : i = k := by omega
      rw [e, up2_s, u_e]
    · rw [up2_s, u_n]
      intro e
      rw [e] at q
      omega
/-- what count finds, up to place k -/
def CTk (n : Nat) (row d nm : Nat → Nat) (vl : Nat → Int32) (k : Nat) (σ : dS) : Prop :=
  (∀ j, j < k → σ 7 (row j) = nI j ∧ σ 8 j = nI (row j) ∧ (bh n d j ≤ k → σ 9 j = nI (bh n d j - 1)) ∧ σ 10 j = (if j = 0 then -1 else nI (pa d j)) ∧ (∀ x, bt (σ 11 j) x = decide (0 < x ∧ x < k ∧ pa d x = j)) ∧ (∀ x, bt (σ 12 j) x = decide (x < j ∧ j < bh n d x)) ∧ σ 14 j = vl (row j)) ∧ (∀ c, c < 7 → ∀ x, bt (σ 13 c) x = decide (x < k ∧ (c = 6 ∨ nm (row x) = c)))
def CT (n : Nat) (row d nm : Nat → Nat) (vl : Nat → Int32) (σ : dS) : Prop := CTk n row d nm vl n σ
theorem dk_count_lp0 {Q : Int32 × dS → Prop} (σ0 : dS) (hq : ∀ σ, sm [13, 15] σ0 σ → σ 15 0 = σ0 15 0 → (∀ c, c < 7 → σ 13 c = 0) → wq (lp dk_count_st (41, [0, σ0 5 0], σ)) Q) : ∀ (f k : Nat) (σ : dS), k + f = 7 → sm [13, 15] σ0 σ → σ 15 0 = σ0 15 0 → (∀ c, c < k → σ 13 c = 0) → wq (lp dk_count_st (15, [nI k], σ)) Q := by
  intro f
  induction f with
  | zero =>
    intro k σ hk h1 h2 h3
    rw [dk_count_l15]; unfold dk_count_b15
    simp (disch := omega) only [l_2, l_3, l_4, l_5, l_6, l_7, l_8, l_9, l_10, l_11, l_12, l_13, l_14, l_15, l_16, l_17, l_23, l_24, l_40, l_100, l_320, l_383, nI_add, pk_mul, z_sub, z_lt0, z_ge0, z_e0, z_le0, z_gt0, z_lt, z_le, z_eq, z_cl, z_in, z_m1lt, z_m1ge, z_nm1, z_m1n, n1_add, n1_ad2, n1_sub, n1_eq, n1_eq', n1_le, n1_ge, n1_lt, n1_gt, z_10, z_01, z_0lt, z_0ge, z_0c, z_0in, z_0a, z_a0, z_01a, bI_f, bI_f0, t0f, t1f, cl_f, wq_some, wq_ite, wq_chk, wq_zok, wq_bind, wq_lpB, ks_l, ks_r, up2_s, up2_n, u_e, u_n]
    refine ⟨fun _ => ?_, fun g => by omega⟩
    rw [h1 5 (by decide)]
    exact hq σ h1 h2 (fun c hc => h3 c (by omega))
  | succ f ih =>
    intro k σ hk h1 h2 h3
    rw [dk_count_l15]; unfold dk_count_b15
    simp (disch := omega) only [l_2, l_3, l_4, l_5, l_6, l_7, l_8, l_9, l_10, l_11, l_12, l_13, l_14, l_15, l_16, l_17, l_23, l_24, l_40, l_100, l_320, l_383, nI_add, pk_mul, z_sub, z_lt0, z_ge0, z_e0, z_le0, z_gt0, z_lt, z_le, z_eq, z_cl, z_in, z_m1lt, z_m1ge, z_nm1, z_m1n, n1_add, n1_ad2, n1_sub, n1_eq, n1_eq', n1_le, n1_ge, n1_lt, n1_gt, z_10, z_01, z_0lt, z_0ge, z_0c, z_0in, z_0a, z_a0, z_01a, bI_f, bI_f0, t0f, t1f, cl_f, wq_some, wq_ite, wq_chk, wq_zok, wq_bind, wq_lpB, ks_l, ks_r, up2_s, up2_n, u_e, u_n]
    refine ⟨fun g => by omega, fun _ => ⟨by omega, ih (k + 1) _ (by omega) (sm_up (by decide) h1) (by rw [up2_n (by decide)]; exact h2) (fun c hc => ?_)⟩⟩
    rw [up2_s]
    by_cases e : c = k
    · rw [e, u_e]
    · rw [u_n e]; exact h3 c (by omega)
end
