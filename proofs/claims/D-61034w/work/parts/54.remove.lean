/-! remove, both -/
set_option maxRecDepth 100000
section
variable {n : Nat} {row d nm : Nat → Nat} {vl : Nat → Int32}
theorem dk_unlink_T {Q : Int32 × dS → Prop} {σ : dS} (hw : WT n row d) (hT : PT n row d σ) {a m : Nat} (h0 : 0 < a) (ha : a < n) (hm : bh n d a - a = m)
    (hq : ∀ r, sm [3, 4] σ r.2 → PT (n - m) (del a m row) (del a m d) r.2 → PT m (sub_ a row) (sub_ a d) r.2 → r.2 4 (row 0) = σ 4 (row 0) → Q r) : wq (dk_unlink (nI (row a)) σ) Q := by
  subst hm
  have hb1 := bh_lt (n := n) (d := d) ha
  have hb2 := bh_le (n := n) (d := d) ha
  have hA := del_okA hw.2 h0 ha
  have hB := del_okB hw.2 h0 ha
  have hW1 : wfT (n - (bh n d a - a)) (del a (bh n d a - a) d) := del_wfT hw.2 h0 ha
  obtain ⟨K, hK, hKa⟩ := child_ix hw.2 h0 ha
  have hp1 := pa_lt hw.2 h0 ha
  have hp : pa d a < n := by omega
  have enm : n - (bh n d a - a) + (bh n d a - a) = n := by omega
  have hNV : NV n row d a = CV (n - (bh n d a - a)) (del a (bh n d a - a) row) (del a (bh n d a - a) d) a (d a) := by
    have := NV_0 (row := del a (bh n d a - a) row) (rb := sub_ a row) hA hB
    rw [ins_del, ins_del, enm] at this
    exact this
  refine wq_mono (dk_unlink_sp hw hT h0 ha hK hKa) (fun r hr => ?_)
  obtain ⟨r1, r2, r3⟩ := hr
  have hS : pa d a + 1 < a → isS n d (pa d a) a (d a) (cp n d (pa d a) (K - 1)) := by
    intro g
    have := isS_cp hw.2 hp (hc_le hK (by omega : K ≤ K + 1)) (by rw [hKa]; exact g)
    rw [hKa, ← pa_d hw.2 h0 ha] at this
    exact this
  have hS1 : pa d a + 1 < a → isS (n - (bh n d a - a)) (del a (bh n d a - a) d) (pa d a) a (d a) (cp n d (pa d a) (K - 1)) := by
    intro g
    obtain ⟨s1, s2, s3, s4⟩ := hS g
    refine ⟨s1, s2, by rw [del_l s2]; exact s3, ?_⟩
    have := ins_bh_l hW1 hA hB s2
    rw [ins_del, enm, s4, if_neg (by rw [del_l s2]; omega)] at this
    exact this.symm
  have hu := unlink_pt (row := del a (bh n d a - a) row) (rb := sub_ a row) (σ := σ) (σ' := r.2) (b := cp n d (pa d a) (K - 1)) hW1 hA hB (by rw [ins_del, ins_del, enm]; exact hT) (fun i j hi hj e => ?_) (del_inj hw.1 (by omega)).2.2 hS1 (fun x => by rw [r1 2 (by decide)]) (fun x => ?_) (fun x => ?_)
  · refine hq r r1 hu.1 hu.2 ?_
    rw [r3, if_neg]
    rintro ⟨g1, g2⟩
    have q1 := hS g1
    have := hw.1.2.2 _ _ (by omega) (by have := q1.2.1; omega) g2
    have := q1.1
    omega
  · by_cases g : i < a
    · rw [del_l g] at e; have := hw.1.2.2 _ _ (by omega) (by omega) (show row i = row (a + j) from e); omega
    · rw [del_r (by omega)] at e; have := hw.1.2.2 _ _ (by omega) (by omega) (show row (i + (bh n d a - a)) = row (a + j) from e); omega
  · rw [r2, hNV, del_l hp1]
  · rw [r3, hNV]
    by_cases g : pa d a + 1 < a
    · rw [del_l (hS g).2.1]
    · rw [if_neg (fun q => g q.1), if_neg (fun q => g q.1)]
theorem dk_remove_lp {Q : Int32 × dS → Prop} {σ0 : dS} {a e N : Nat} {v1 : Int32} (hr : ∀ k, k < e → row k < 24) (he : e ≤ 24) (hae : a < e) (heN : e ≤ N) (hN : N ≤ 24) (h6 : σ0 6 0 = nI N) (h8 : ∀ k, k < e → σ0 8 k = nI (row k))
    (hq : ∀ σ', sm [0, 6, 15, 33, 25] σ0 σ' → σ' 6 0 = nI (N - (e - a)) → (∀ k, a ≤ k → k < e → σ' 0 (row k) = -1) → (∀ x, (∀ k, a ≤ k → k < e → row k ≠ x) → σ' 0 x = σ0 0 x) → σ' 15 0 = 0 → σ' 33 0 = 0 → (∀ s, s < 8 → σ' 25 s = 0) → Q (nI (e - a), σ')) :
    ∀ (f k : Nat) (σ : dS), k + f = e → a ≤ k → sm [0] σ0 σ → (∀ j, a ≤ j → j < k → σ 0 (row j) = -1) → (∀ x, (∀ j, a ≤ j → j < k → row j ≠ x) → σ 0 x = σ0 0 x) → wq (lp dk_remove_st (52, [v1, nI a, nI (e - 1), nI k], σ)) Q := by
  intro f
  induction f with
  | zero =>
    intro k σ hk hak hs g1 g2
    have ek : k = e := by omega
    subst ek
    rw [dk_remove_l52]; unfold dk_remove_b52 dk_remove_b91
    rw [hs 6 (by decide), h6]
    simp (disch := first | omega | with_reducible assumption) only [l_2, l_3, l_4, l_5, l_6, l_7, l_8, l_9, l_10, l_11, l_12, l_13, l_14, l_15, l_16, l_17, l_23, l_24, l_40, l_100, l_320, l_383, nI_add, pk_mul, z_sub, z_lt0, z_ge0, z_e0, z_le0, z_gt0, z_lt, z_le, z_eq, z_cl, z_in, z_m1lt, z_m1ge, z_nm1, z_m1n, n1_add, n1_ad2, n1_sub, n1_eq, n1_eq', n1_le, n1_ge, n1_lt, n1_gt, z_10, z_01, z_0lt, z_0ge, z_0c, z_0in, z_0a, z_a0, z_01a, bI_f, bI_f0, t0f, t1f, cl_f, wi_t, wi_f, wc_n, wc_0, wz_0, wz_1, wq_some, wq_bind, wq_lpB, ks_l, ks_r, up2_s, up2_n, u_e, u_n, if_true, if_false, ite_true, ite_false]
    refine wq_mono (dk_changed_sp _) (fun s hs2 => ?_)
    obtain ⟨s1, s2, s3, s4⟩ := hs2
    unfold dk_remove_b95
    simp (disch := first | omega | with_reducible assumption) only [l_2, l_3, l_4, l_5, l_6, l_7, l_8, l_9, l_10, l_11, l_12, l_13, l_14, l_15, l_16, l_17, l_23, l_24, l_40, l_100, l_320, l_383, nI_add, pk_mul, z_sub, z_lt0, z_ge0, z_e0, z_le0, z_gt0, z_lt, z_le, z_eq, z_cl, z_in, z_m1lt, z_m1ge, z_nm1, z_m1n, n1_add, n1_ad2, n1_sub, n1_eq, n1_eq', n1_le, n1_ge, n1_lt, n1_gt, z_10, z_01, z_0lt, z_0ge, z_0c, z_0in, z_0a, z_a0, z_01a, bI_f, bI_f0, t0f, t1f, cl_f, wi_t, wi_f, wc_n, wc_0, wz_0, wz_1, wq_some, wq_bind, wq_lpB, ks_l, ks_r, up2_s, up2_n, u_e, u_n, if_true, if_false, ite_true, ite_false]
    rw [show k - 1 - a + 1 = k - a by omega]
    refine hq _ (sm_tr (sm_sub hs (by decide)) (sm_tr (sm_up (by decide) sm_rf) (sm_sub s1 (by decide)))) ?_ (fun j h1 h2 => ?_) (fun x hx => ?_) s2 s3 s4
    · rw [s1 6 (by decide)]; simp (disch := first | omega | with_reducible assumption) only [up2_s, up2_n, u_e, u_n]; rw [show k - 1 - a + 1 = k - a by omega]
    · rw [s1 0 (by decide)]; simp (disch := first | omega | with_reducible assumption) only [up2_s, up2_n, u_e, u_n]; exact g1 j h1 h2
    · rw [s1 0 (by decide)]; simp (disch := first | omega | with_reducible assumption) only [up2_s, up2_n, u_e, u_n]; exact g2 x hx
  | succ f ih =>
    intro k σ hk hak hs g1 g2
    have rk := hr k (by omega)
    rw [dk_remove_l52]; unfold dk_remove_b52
    rw [hs 8 (by decide)]
    simp (disch := first | omega | with_reducible assumption) only [l_2, l_3, l_4, l_5, l_6, l_7, l_8, l_9, l_10, l_11, l_12, l_13, l_14, l_15, l_16, l_17, l_23, l_24, l_40, l_100, l_320, l_383, nI_add, pk_mul, z_sub, z_lt0, z_ge0, z_e0, z_le0, z_gt0, z_lt, z_le, z_eq, z_cl, z_in, z_m1lt, z_m1ge, z_nm1, z_m1n, n1_add, n1_ad2, n1_sub, n1_eq, n1_eq', n1_le, n1_ge, n1_lt, n1_gt, z_10, z_01, z_0lt, z_0ge, z_0c, z_0in, z_0a, z_a0, z_01a, bI_f, bI_f0, t0f, t1f, cl_f, wi_t, wi_f, wc_n, wc_0, wz_0, wz_1, wq_some, wq_bind, wq_lpB, ks_l, ks_r, up2_s, up2_n, u_e, u_n, if_true, if_false, ite_true, ite_false]
    rw [h8 k (by omega)]
    simp (disch := first | omega | with_reducible assumption) only [l_2, l_3, l_4, l_5, l_6, l_7, l_8, l_9, l_10, l_11, l_12, l_13, l_14, l_15, l_16, l_17, l_23, l_24, l_40, l_100, l_320, l_383, nI_add, pk_mul, z_sub, z_lt0, z_ge0, z_e0, z_le0, z_gt0, z_lt, z_le, z_eq, z_cl, z_in, z_m1lt, z_m1ge, z_nm1, z_m1n, n1_add, n1_ad2, n1_sub, n1_eq, n1_eq', n1_le, n1_ge, n1_lt, n1_gt, z_10, z_01, z_0lt, z_0ge, z_0c, z_0in, z_0a, z_a0, z_01a, bI_f, bI_f0, t0f, t1f, cl_f, wi_t, wi_f, wc_n, wc_0, wz_0, wz_1, wq_some, wq_bind, wq_lpB, ks_l, ks_r, up2_s, up2_n, u_e, u_n, if_true, if_false, ite_true, ite_false]
    rw [z_nbm1]
    refine ih (k + 1) _ (by omega) (by omega) (sm_up (by decide) hs) (fun j h1 h2 => ?_) (fun x hx => ?_)
    · rw [up2_s]
      by_cases e2 : row j = row k
      · rw [e2, u_e]
      · rw [u_n e2]
        by_cases e3 : j = k
        · exact absurd (by rw [e3]) e2
        · exact g1 j h1 (by omega)
    · rw [up2_s, u_n (fun e2 => hx k hak (by omega) e2.symm)]
      exact g2 x (fun j h1 h2 => hx j h1 (by omega))
def RP (n : Nat) (row d nm : Nat → Nat) (vl : Nat → Int32) (a : Nat) (σ : dS) (r : Int32 × dS) : Prop := r.1 = nI (bh n d a - a) ∧ sm [0, 1, 2, 3, 4, 5, 6, 7, 8, 9, 10, 11, 12, 13, 14, 15, 25, 33] σ r.2 ∧ r.2 15 0 = 0 ∧ r.2 33 0 = 0 ∧ (∀ s, s < 8 → r.2 25 s = 0) ∧ DT (n - (bh n d a - a)) (del a (bh n d a - a) row) (del a (bh n d a - a) d) nm vl r.2
theorem dk_remove_y {σ : dS} (hw : WT n row d) (hD : DT n row d nm vl σ) (hC : σ 15 0 = 0 ∨ (σ 15 0 = 1 ∧ CT n row d nm vl σ)) {a : Nat} (ha : a < n) : wq (dk_remove (nI (row a)) σ) (RP n row d nm vl a σ) := by
  have hn24 := hw.1.1
  have hb1 := bh_lt (n := n) (d := d) ha
  have hb2 := bh_le (n := n) (d := d) ha
  have ra := hw.1.2.1 a ha
  have r0 := hw.1.2.1 0 (by omega)
  unfold dk_remove dk_remove_b0
  rw [dk_isNode_y hw hD ha]
  unfold dk_remove_b5
  simp (disch := first | omega | with_reducible assumption) only [l_2, l_3, l_4, l_5, l_6, l_7, l_8, l_9, l_10, l_11, l_12, l_13, l_14, l_15, l_16, l_17, l_23, l_24, l_40, l_100, l_320, l_383, nI_add, pk_mul, z_sub, z_lt0, z_ge0, z_e0, z_le0, z_gt0, z_lt, z_le, z_eq, z_cl, z_in, z_m1lt, z_m1ge, z_nm1, z_m1n, n1_add, n1_ad2, n1_sub, n1_eq, n1_eq', n1_le, n1_ge, n1_lt, n1_gt, z_10, z_01, z_0lt, z_0ge, z_0c, z_0in, z_0a, z_a0, z_01a, bI_f, bI_f0, t0f, t1f, cl_f, wi_t, wi_f, wc_n, wc_0, wz_0, wz_1, wq_some, wq_bind, wq_lpB, ks_l, ks_r, up2_s, up2_n, u_e, u_n, if_true, if_false, ite_true, ite_false]
  refine dk_count_sp hw hD hC (fun r c1 c2 c3 => ?_)
  have hD1 := DT_sm' hD c1 (by decide)
  obtain ⟨d1, d2, d3, d4, d5, d6⟩ := hD1
  have hca := c3.1 a ha
  unfold dk_remove_b14 dk_remove_b21 dk_remove_b28
  simp (disch := first | omega | with_reducible assumption) only [l_2, l_3, l_4, l_5, l_6, l_7, l_8, l_9, l_10, l_11, l_12, l_13, l_14, l_15, l_16, l_17, l_23, l_24, l_40, l_100, l_320, l_383, nI_add, pk_mul, z_sub, z_lt0, z_ge0, z_e0, z_le0, z_gt0, z_lt, z_le, z_eq, z_cl, z_in, z_m1lt, z_m1ge, z_nm1, z_m1n, n1_add, n1_ad2, n1_sub, n1_eq, n1_eq', n1_le, n1_ge, n1_lt, n1_gt, z_10, z_01, z_0lt, z_0ge, z_0c, z_0in, z_0a, z_a0, z_01a, bI_f, bI_f0, t0f, t1f, cl_f, wi_t, wi_f, wc_n, wc_0, wz_0, wz_1, wq_some, wq_bind, wq_lpB, ks_l, ks_r, up2_s, up2_n, u_e, u_n, if_true, if_false, ite_true, ite_false]
  rw [hca.1]
  simp (disch := first | omega | with_reducible assumption) only [l_2, l_3, l_4, l_5, l_6, l_7, l_8, l_9, l_10, l_11, l_12, l_13, l_14, l_15, l_16, l_17, l_23, l_24, l_40, l_100, l_320, l_383, nI_add, pk_mul, z_sub, z_lt0, z_ge0, z_e0, z_le0, z_gt0, z_lt, z_le, z_eq, z_cl, z_in, z_m1lt, z_m1ge, z_nm1, z_m1n, n1_add, n1_ad2, n1_sub, n1_eq, n1_eq', n1_le, n1_ge, n1_lt, n1_gt, z_10, z_01, z_0lt, z_0ge, z_0c, z_0in, z_0a, z_a0, z_01a, bI_f, bI_f0, t0f, t1f, cl_f, wi_t, wi_f, wc_n, wc_0, wz_0, wz_1, wq_some, wq_bind, wq_lpB, ks_l, ks_r, up2_s, up2_n, u_e, u_n, if_true, if_false, ite_true, ite_false]
  rw [hca.2.2.1 (by omega), d2, if_neg (show ¬ n = 0 by omega)]
  -- the end, common to both ways
  have fin : ∀ σ1 : dS, sm [3, 4, 5] r.2 σ1 → (if bh n d a - a = n then -1 else nI (row 0)) = σ1 5 0 → PT (n - (bh n d a - a)) (del a (bh n d a - a) row) (del a (bh n d a - a) d) σ1 → σ1 4 (row 0) = r.2 4 (row 0) →
      wq (dk_remove_b49 (nI (row a)) (nI a) (nI (bh n d a - 1)) σ1) (ks dk_remove_st (RP n row d nm vl a σ)) := by
    intro σ1 t1 t5 tP t4
    unfold dk_remove_b49
    simp (disch := first | omega | with_reducible assumption) only [l_2, l_3, l_4, l_5, l_6, l_7, l_8, l_9, l_10, l_11, l_12, l_13, l_14, l_15, l_16, l_17, l_23, l_24, l_40, l_100, l_320, l_383, nI_add, pk_mul, z_sub, z_lt0, z_ge0, z_e0, z_le0, z_gt0, z_lt, z_le, z_eq, z_cl, z_in, z_m1lt, z_m1ge, z_nm1, z_m1n, n1_add, n1_ad2, n1_sub, n1_eq, n1_eq', n1_le, n1_ge, n1_lt, n1_gt, z_10, z_01, z_0lt, z_0ge, z_0c, z_0in, z_0a, z_a0, z_01a, bI_f, bI_f0, t0f, t1f, cl_f, wi_t, wi_f, wc_n, wc_0, wz_0, wz_1, wq_some, wq_bind, wq_lpB, ks_l, ks_r, up2_s, up2_n, u_e, u_n, if_true, if_false, ite_true, ite_false]
    refine dk_remove_lp (row := row) (σ0 := σ1) (e := bh n d a) (N := n) (fun k hk => hw.1.2.1 k (by omega)) (by omega) hb1 hb2 hn24 (by rw [t1 6 (by decide)]; exact d1) (fun k hk => by rw [t1 8 (by decide)]; exact (c3.1 k (by omega)).2.1) (fun σ' s1 s2 s3 s4 s5 s6 s7 => ?_) (bh n d a - a) a σ1 (by omega) (Nat.le_refl _) sm_rf (fun j h1 h2 => by omega) (fun x _ => rfl)
    refine ⟨rfl, sm_tr (sm_sub c1 (by decide)) (sm_tr (sm_sub t1 (by decide)) (sm_sub s1 (by decide))), s5, s6, s7, ?_⟩
    show DT _ _ _ nm vl σ'
    refine ⟨s2, ?_, ?_, fun hpos => ?_, fun i hi => ?_, fun k hk hne => ?_⟩
    · rw [s1 5 (by decide), ← t5]
      by_cases g : bh n d a - a = n
      · rw [if_pos g, if_pos (by omega)]
      · rw [if_neg g, if_neg (by omega)]
        by_cases g2 : a = 0
        · exfalso; subst g2; rw [bh_0 hw.2 ha] at g; omega
        · rw [del_l (by omega)]
    · unfold PT at tP ⊢
      rw [s1 2 (by decide), s1 3 (by decide), s1 4 (by decide)]; exact tP
    · have ga : 0 < a := by
        rcases Nat.eq_zero_or_pos a with e | e
        · exfalso; subst e; rw [bh_0 hw.2 ha] at hpos; omega
        · exact e
      rw [del_l ga, s1 2 (by decide), s1 4 (by decide), t4, t1 2 (by decide)]
      exact d4 (by omega)
    · have key : ∃ j, j < n ∧ (j < a ∨ bh n d a ≤ j) ∧ del a (bh n d a - a) row i = row j := by
        by_cases g : i < a
        · exact ⟨i, by omega, Or.inl g, del_l g⟩
        · exact ⟨i + (bh n d a - a), by omega, Or.inr (by omega), del_r (by omega)⟩
      obtain ⟨j, j1, j2, j3⟩ := key
      rw [j3, s4 (row j) (fun k h1 h2 e => by have := hw.1.2.2 _ _ (by omega) j1 e; omega), s1 1 (by decide), t1 0 (by decide), t1 1 (by decide)]
      exact d5 j j1
    · by_cases g : ∃ j, a ≤ j ∧ j < bh n d a ∧ row j = k
      · obtain ⟨j, j1, j2, j3⟩ := g
        rw [← j3]; exact s3 j j1 j2
      · rw [s4 k (fun j h1 h2 e => g ⟨j, h1, h2, e⟩), t1 0 (by decide)]
        refine d6 k hk (fun i hi e => ?_)
        by_cases g1 : i < a
        · exact hne i (by omega) (by rw [del_l g1]; exact e)
        · by_cases g2 : i < bh n d a
          · exact g ⟨i, by omega, g2, e⟩
          · exact hne (i - (bh n d a - a)) (by omega) (by rw [del_r (by omega), show i - (bh n d a - a) + (bh n d a - a) = i by omega]; exact e)
  by_cases g0 : a = 0
  · have hb0 : bh n d a = n := by rw [g0]; exact bh_0 hw.2 (by omega)
    have e0 : row a = row 0 := by rw [g0]
    simp (disch := first | omega | with_reducible assumption) only [l_2, l_3, l_4, l_5, l_6, l_7, l_8, l_9, l_10, l_11, l_12, l_13, l_14, l_15, l_16, l_17, l_23, l_24, l_40, l_100, l_320, l_383, nI_add, pk_mul, z_sub, z_lt0, z_ge0, z_e0, z_le0, z_gt0, z_lt, z_le, z_eq, z_cl, z_in, z_m1lt, z_m1ge, z_nm1, z_m1n, n1_add, n1_ad2, n1_sub, n1_eq, n1_eq', n1_le, n1_ge, n1_lt, n1_gt, z_10, z_01, z_0lt, z_0ge, z_0c, z_0in, z_0a, z_a0, z_01a, bI_f, bI_f0, t0f, t1f, cl_f, wi_t, wi_f, wc_n, wc_0, wz_0, wz_1, wq_some, wq_bind, wq_lpB, ks_l, ks_r, up2_s, up2_n, u_e, u_n, if_true, if_false, ite_true, ite_false]
    refine fin _ (sm_up (by decide) sm_rf) ?_ ⟨fun i hi => by omega, fun i h0 hi => by omega, fun i h0 hi => by omega⟩ (by simp (disch := first | omega | with_reducible assumption) only [up2_s, up2_n, u_e, u_n])
    simp (disch := first | omega | with_reducible assumption) only [up2_s, up2_n, u_e, u_n]
    rw [if_pos (by omega)]
  · have e0 : ¬ row a = row 0 := fun e => by have := hw.1.2.2 _ _ ha (by omega) e; omega
    simp (disch := first | omega | with_reducible assumption) only [l_2, l_3, l_4, l_5, l_6, l_7, l_8, l_9, l_10, l_11, l_12, l_13, l_14, l_15, l_16, l_17, l_23, l_24, l_40, l_100, l_320, l_383, nI_add, pk_mul, z_sub, z_lt0, z_ge0, z_e0, z_le0, z_gt0, z_lt, z_le, z_eq, z_cl, z_in, z_m1lt, z_m1ge, z_nm1, z_m1n, n1_add, n1_ad2, n1_sub, n1_eq, n1_eq', n1_le, n1_ge, n1_lt, n1_gt, z_10, z_01, z_0lt, z_0ge, z_0c, z_0in, z_0a, z_a0, z_01a, bI_f, bI_f0, t0f, t1f, cl_f, wi_t, wi_f, wc_n, wc_0, wz_0, wz_1, wq_some, wq_bind, wq_lpB, ks_l, ks_r, up2_s, up2_n, u_e, u_n, if_true, if_false, ite_true, ite_false]
    refine dk_unlink_T hw d3 (by omega) ha rfl (fun s s1 s2 s3 s4 => fin s.2 (sm_sub s1 (by decide)) ?_ s2 s4)
    rw [s1 5 (by decide), d2, if_neg (by omega), if_neg (by omega)]
/-- remove answers alike -/
theorem remove_both {σ τ : dS} (hw : WT n row d) (hD : DT n row d nm vl σ) (hC : σ 15 0 = 0 ∨ (σ 15 0 = 1 ∧ CT n row d nm vl σ)) (hM : MT n row d nm vl τ) (v1 : Int32) : both (dk_remove v1 σ) (md_remove v1 τ) (TO n row d nm vl σ τ) := by
  rcases row_cut n row v1 with ⟨a, ha, rfl⟩ | hv1
  · refine both_of (dk_remove_y hw hD hC ha) (md_remove_y (Q := fun r => r.1 = nI (bh n d a - a) ∧ sm [0, 5, 10] τ r.2 ∧ MT (n - (bh n d a - a)) (del a (bh n d a - a) row) (del a (bh n d a - a) d) nm vl r.2 ∧ (∀ s, s < 8 → r.2 10 s = 0)) hw hM ha (fun τ' b1 b2 b3 => ⟨rfl, b1, b2, b3⟩)) (fun r r' h h' => ?_)
    obtain ⟨a0, a1, a2, a3, a4, a5⟩ := h
    obtain ⟨b0, b1, b2, b3⟩ := h'
    have hb1 := bh_lt (n := n) (d := d) ha
    have hb2 := bh_le (n := n) (d := d) ha
    refine ⟨by rw [a0, b0], Or.inr (Or.inr ⟨⟨a1, sm_sub b1 (by decide), a2, a3, a4, b3⟩, _, _, _, _, _, ?_, a5, b2⟩)⟩
    by_cases g : a = 0
    · subst g
      have e := bh_0 hw.2 ha
      refine ⟨del_inj hw.1 (by omega), ?_, ?_⟩
      · intro h; omega
      · intro i h; omega
    · exact WT_del hw (by omega) ha
  · refine both_i (a := -1) (σ' := σ) (τ' := τ) ?_ (md_remove_n hw hM hv1) (Or.inl ⟨rfl, rfl⟩)
    apply eq_of_wq
    unfold dk_remove dk_remove_b0
    rw [dk_isNode_n hD hv1]
    unfold dk_remove_b5
    simp (disch := first | omega | with_reducible assumption) only [l_2, l_3, l_4, l_5, l_6, l_7, l_8, l_9, l_10, l_11, l_12, l_13, l_14, l_15, l_16, l_17, l_23, l_24, l_40, l_100, l_320, l_383, nI_add, pk_mul, z_sub, z_lt0, z_ge0, z_e0, z_le0, z_gt0, z_lt, z_le, z_eq, z_cl, z_in, z_m1lt, z_m1ge, z_nm1, z_m1n, n1_add, n1_ad2, n1_sub, n1_eq, n1_eq', n1_le, n1_ge, n1_lt, n1_gt, z_10, z_01, z_0lt, z_0ge, z_0c, z_0in, z_0a, z_a0, z_01a, bI_f, bI_f0, t0f, t1f, cl_f, wi_t, wi_f, wc_n, wc_0, wz_0, wz_1, wq_some, wq_bind, wq_lpB, ks_l, ks_r, up2_s, up2_n, u_e, u_n, if_true, if_false, ite_true, ite_false]
end
