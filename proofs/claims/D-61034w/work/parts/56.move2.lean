/-! move, change, child answer alike -/
set_option maxRecDepth 100000
section
variable {n : Nat} {row d nm : Nat → Nat} {vl : Nat → Int32}
theorem i_sub0 (x : Int32) : x - 0 = x := by
  have : ∀ x : BitVec 32, x - 0 = x := fun x => BitVec.sub_zero x
  exact Int32.toBitVec_inj.mp (this x.toBitVec)
theorem wq_iff_eq {x : Option (Int32 × dS)} {b : Int32 × dS} : x = some b ↔ wq x (fun r => r = b) := ⟨fun h => ⟨b, h, rfl⟩, eq_of_wq⟩
/-- where move refuses at once -/
theorem dk_move_n1 {σ : dS} (hD : DT n row d nm vl σ) {v1 v2 v3 : Int32} (hv : ∀ i, i < n → v1 ≠ nI (row i)) : dk_move v1 v2 v3 σ = some (0, σ) := by
  apply eq_of_wq
  unfold dk_move dk_move_b0
  rw [dk_isNode_n hD hv]
  unfold dk_move_b5
  simp (disch := first | omega | with_reducible assumption) only [l_2, l_3, l_4, l_5, l_6, l_7, l_8, l_9, l_10, l_11, l_12, l_13, l_14, l_15, l_16, l_17, l_23, l_24, l_40, l_100, l_320, l_383, nI_add, pk_mul, z_sub, z_lt0, z_ge0, z_e0, z_le0, z_gt0, z_lt, z_le, z_eq, z_cl, z_in, z_m1lt, z_m1ge, z_nm1, z_m1n, n1_add, n1_ad2, n1_sub, n1_eq, n1_eq', n1_le, n1_ge, n1_lt, n1_gt, z_10, z_01, z_0lt, z_0ge, z_0c, z_0in, z_0a, z_a0, z_01a, bI_f, bI_f0, t0f, t1f, cl_f, wi_t, wi_f, wc_n, wc_0, wz_0, wz_1, wq_some, wq_bind, wq_lpB, ks_l, ks_r, up2_s, up2_n, u_e, u_n, if_true, if_false, ite_true, ite_false]
theorem dk_move_n2 {σ : dS} (hw : WT n row d) (hD : DT n row d nm vl σ) {v2 v3 : Int32} {a : Nat} (ha : a < n) (hv : ∀ i, i < n → v2 ≠ nI (row i)) : dk_move (nI (row a)) v2 v3 σ = some (0, σ) := by
  apply eq_of_wq
  unfold dk_move dk_move_b0
  rw [dk_isNode_y hw hD ha]
  unfold dk_move_b5
  simp (disch := first | omega | with_reducible assumption) only [l_2, l_3, l_4, l_5, l_6, l_7, l_8, l_9, l_10, l_11, l_12, l_13, l_14, l_15, l_16, l_17, l_23, l_24, l_40, l_100, l_320, l_383, nI_add, pk_mul, z_sub, z_lt0, z_ge0, z_e0, z_le0, z_gt0, z_lt, z_le, z_eq, z_cl, z_in, z_m1lt, z_m1ge, z_nm1, z_m1n, n1_add, n1_ad2, n1_sub, n1_eq, n1_eq', n1_le, n1_ge, n1_lt, n1_gt, z_10, z_01, z_0lt, z_0ge, z_0c, z_0in, z_0a, z_a0, z_01a, bI_f, bI_f0, t0f, t1f, cl_f, wi_t, wi_f, wc_n, wc_0, wz_0, wz_1, wq_some, wq_bind, wq_lpB, ks_l, ks_r, up2_s, up2_n, u_e, u_n, if_true, if_false, ite_true, ite_false]
  rw [dk_isNode_n hD hv]
  unfold dk_move_b13
  simp (disch := first | omega | with_reducible assumption) only [l_2, l_3, l_4, l_5, l_6, l_7, l_8, l_9, l_10, l_11, l_12, l_13, l_14, l_15, l_16, l_17, l_23, l_24, l_40, l_100, l_320, l_383, nI_add, pk_mul, z_sub, z_lt0, z_ge0, z_e0, z_le0, z_gt0, z_lt, z_le, z_eq, z_cl, z_in, z_m1lt, z_m1ge, z_nm1, z_m1n, n1_add, n1_ad2, n1_sub, n1_eq, n1_eq', n1_le, n1_ge, n1_lt, n1_gt, z_10, z_01, z_0lt, z_0ge, z_0c, z_0in, z_0a, z_a0, z_01a, bI_f, bI_f0, t0f, t1f, cl_f, wi_t, wi_f, wc_n, wc_0, wz_0, wz_1, wq_some, wq_bind, wq_lpB, ks_l, ks_r, up2_s, up2_n, u_e, u_n, if_true, if_false, ite_true, ite_false]
theorem dk_move_st0 {Q : Int32 × dS → Prop} {σ : dS} (hw : WT n row d) (hD : DT n row d nm vl σ) {v3 : Int32} {a q : Nat} (ha : a < n) (hq : q < n) (h : wq (lp dk_move_st (21, [nI (row a), nI (row q), v3, nI (row q)], σ)) Q) : wq (dk_move (nI (row a)) (nI (row q)) v3 σ) Q := by
  unfold dk_move dk_move_b0
  rw [dk_isNode_y hw hD ha]
  unfold dk_move_b5
  simp (disch := first | omega | with_reducible assumption) only [l_2, l_3, l_4, l_5, l_6, l_7, l_8, l_9, l_10, l_11, l_12, l_13, l_14, l_15, l_16, l_17, l_23, l_24, l_40, l_100, l_320, l_383, nI_add, pk_mul, z_sub, z_lt0, z_ge0, z_e0, z_le0, z_gt0, z_lt, z_le, z_eq, z_cl, z_in, z_m1lt, z_m1ge, z_nm1, z_m1n, n1_add, n1_ad2, n1_sub, n1_eq, n1_eq', n1_le, n1_ge, n1_lt, n1_gt, z_10, z_01, z_0lt, z_0ge, z_0c, z_0in, z_0a, z_a0, z_01a, bI_f, bI_f0, t0f, t1f, cl_f, wi_t, wi_f, wc_n, wc_0, wz_0, wz_1, wq_some, wq_bind, wq_lpB, ks_l, ks_r, up2_s, up2_n, u_e, u_n, if_true, if_false, ite_true, ite_false]
  rw [dk_isNode_y hw hD hq]
  unfold dk_move_b13
  simp (disch := first | omega | with_reducible assumption) only [l_2, l_3, l_4, l_5, l_6, l_7, l_8, l_9, l_10, l_11, l_12, l_13, l_14, l_15, l_16, l_17, l_23, l_24, l_40, l_100, l_320, l_383, nI_add, pk_mul, z_sub, z_lt0, z_ge0, z_e0, z_le0, z_gt0, z_lt, z_le, z_eq, z_cl, z_in, z_m1lt, z_m1ge, z_nm1, z_m1n, n1_add, n1_ad2, n1_sub, n1_eq, n1_eq', n1_le, n1_ge, n1_lt, n1_gt, z_10, z_01, z_0lt, z_0ge, z_0c, z_0in, z_0a, z_a0, z_01a, bI_f, bI_f0, t0f, t1f, cl_f, wi_t, wi_f, wc_n, wc_0, wz_0, wz_1, wq_some, wq_bind, wq_lpB, ks_l, ks_r, up2_s, up2_n, u_e, u_n, if_true, if_false, ite_true, ite_false]
  exact h
theorem md_move_n1 {τ : dS} (hw : WT n row d) (hM : MT n row d nm vl τ) {v1 v2 v3 : Int32} (hv : ∀ i, i < n → v1 ≠ nI (row i)) : md_move v1 v2 v3 τ = some (0, τ) := by
  apply eq_of_wq
  unfold md_move md_move_b0
  rw [md_where_n hw hM hv]
  unfold md_move_b5
  simp (disch := first | omega | with_reducible assumption) only [l_2, l_3, l_4, l_5, l_6, l_7, l_8, l_9, l_10, l_11, l_12, l_13, l_14, l_15, l_16, l_17, l_23, l_24, l_40, l_100, l_320, l_383, nI_add, pk_mul, z_sub, z_lt0, z_ge0, z_e0, z_le0, z_gt0, z_lt, z_le, z_eq, z_cl, z_in, z_m1lt, z_m1ge, z_nm1, z_m1n, n1_add, n1_ad2, n1_sub, n1_eq, n1_eq', n1_le, n1_ge, n1_lt, n1_gt, z_10, z_01, z_0lt, z_0ge, z_0c, z_0in, z_0a, z_a0, z_01a, bI_f, bI_f0, t0f, t1f, cl_f, wi_t, wi_f, wc_n, wc_0, wz_0, wz_1, wq_some, wq_bind, wq_lpB, ks_l, ks_r, up2_s, up2_n, u_e, u_n, if_true, if_false, ite_true, ite_false]
theorem md_move_n2 {τ : dS} (hw : WT n row d) (hM : MT n row d nm vl τ) {v2 v3 : Int32} {a : Nat} (ha : a < n) (hv : ∀ i, i < n → v2 ≠ nI (row i)) : md_move (nI (row a)) v2 v3 τ = some (0, τ) := by
  have hn := hw.1.1
  apply eq_of_wq
  unfold md_move md_move_b0
  rw [md_where_y hw hM ha]
  unfold md_move_b5
  simp (disch := first | omega | with_reducible assumption) only [l_2, l_3, l_4, l_5, l_6, l_7, l_8, l_9, l_10, l_11, l_12, l_13, l_14, l_15, l_16, l_17, l_23, l_24, l_40, l_100, l_320, l_383, nI_add, pk_mul, z_sub, z_lt0, z_ge0, z_e0, z_le0, z_gt0, z_lt, z_le, z_eq, z_cl, z_in, z_m1lt, z_m1ge, z_nm1, z_m1n, n1_add, n1_ad2, n1_sub, n1_eq, n1_eq', n1_le, n1_ge, n1_lt, n1_gt, z_10, z_01, z_0lt, z_0ge, z_0c, z_0in, z_0a, z_a0, z_01a, bI_f, bI_f0, t0f, t1f, cl_f, wi_t, wi_f, wc_n, wc_0, wz_0, wz_1, wq_some, wq_bind, wq_lpB, ks_l, ks_r, up2_s, up2_n, u_e, u_n, if_true, if_false, ite_true, ite_false]
  rw [md_where_n hw hM hv]
  unfold md_move_b17
  simp (disch := first | omega | with_reducible assumption) only [l_2, l_3, l_4, l_5, l_6, l_7, l_8, l_9, l_10, l_11, l_12, l_13, l_14, l_15, l_16, l_17, l_23, l_24, l_40, l_100, l_320, l_383, nI_add, pk_mul, z_sub, z_lt0, z_ge0, z_e0, z_le0, z_gt0, z_lt, z_le, z_eq, z_cl, z_in, z_m1lt, z_m1ge, z_nm1, z_m1n, n1_add, n1_ad2, n1_sub, n1_eq, n1_eq', n1_le, n1_ge, n1_lt, n1_gt, z_10, z_01, z_0lt, z_0ge, z_0c, z_0in, z_0a, z_a0, z_01a, bI_f, bI_f0, t0f, t1f, cl_f, wi_t, wi_f, wc_n, wc_0, wz_0, wz_1, wq_some, wq_bind, wq_lpB, ks_l, ks_r, up2_s, up2_n, u_e, u_n, if_true, if_false, ite_true, ite_false]
theorem md_move_n3 {τ : dS} (hw : WT n row d) (hM : MT n row d nm vl τ) {v3 : Int32} {a q : Nat} (ha : a < n) (hq : q < n) (h : q = a ∨ (a < q ∧ q < bh n d a) ∨ v3 < 0) : md_move (nI (row a)) (nI (row q)) v3 τ = some (0, τ) := by
  have hn := hw.1.1
  have ra := hw.1.2.1 a ha
  have rq := hw.1.2.1 q hq
  apply eq_of_wq
  unfold md_move md_move_b0
  rw [md_where_y hw hM ha]
  unfold md_move_b5
  simp (disch := first | omega | with_reducible assumption) only [l_2, l_3, l_4, l_5, l_6, l_7, l_8, l_9, l_10, l_11, l_12, l_13, l_14, l_15, l_16, l_17, l_23, l_24, l_40, l_100, l_320, l_383, nI_add, pk_mul, z_sub, z_lt0, z_ge0, z_e0, z_le0, z_gt0, z_lt, z_le, z_eq, z_cl, z_in, z_m1lt, z_m1ge, z_nm1, z_m1n, n1_add, n1_ad2, n1_sub, n1_eq, n1_eq', n1_le, n1_ge, n1_lt, n1_gt, z_10, z_01, z_0lt, z_0ge, z_0c, z_0in, z_0a, z_a0, z_01a, bI_f, bI_f0, t0f, t1f, cl_f, wi_t, wi_f, wc_n, wc_0, wz_0, wz_1, wq_some, wq_bind, wq_lpB, ks_l, ks_r, up2_s, up2_n, u_e, u_n, if_true, if_false, ite_true, ite_false]
  rw [md_where_y hw hM hq]
  unfold md_move_b17
  by_cases g : q = a
  · subst g
    simp (disch := first | omega | with_reducible assumption) only [l_2, l_3, l_4, l_5, l_6, l_7, l_8, l_9, l_10, l_11, l_12, l_13, l_14, l_15, l_16, l_17, l_23, l_24, l_40, l_100, l_320, l_383, nI_add, pk_mul, z_sub, z_lt0, z_ge0, z_e0, z_le0, z_gt0, z_lt, z_le, z_eq, z_cl, z_in, z_m1lt, z_m1ge, z_nm1, z_m1n, n1_add, n1_ad2, n1_sub, n1_eq, n1_eq', n1_le, n1_ge, n1_lt, n1_gt, z_10, z_01, z_0lt, z_0ge, z_0c, z_0in, z_0a, z_a0, z_01a, bI_f, bI_f0, t0f, t1f, cl_f, wi_t, wi_f, wc_n, wc_0, wz_0, wz_1, wq_some, wq_bind, wq_lpB, ks_l, ks_r, up2_s, up2_n, u_e, u_n, if_true, if_false, ite_true, ite_false]
  · have g2 : ¬ row a = row q := fun e => g (hw.1.2.2 _ _ ha hq e).symm
    simp (disch := first | omega | with_reducible assumption) only [l_2, l_3, l_4, l_5, l_6, l_7, l_8, l_9, l_10, l_11, l_12, l_13, l_14, l_15, l_16, l_17, l_23, l_24, l_40, l_100, l_320, l_383, nI_add, pk_mul, z_sub, z_lt0, z_ge0, z_e0, z_le0, z_gt0, z_lt, z_le, z_eq, z_cl, z_in, z_m1lt, z_m1ge, z_nm1, z_m1n, n1_add, n1_ad2, n1_sub, n1_eq, n1_eq', n1_le, n1_ge, n1_lt, n1_gt, z_10, z_01, z_0lt, z_0ge, z_0c, z_0in, z_0a, z_a0, z_01a, bI_f, bI_f0, t0f, t1f, cl_f, wi_t, wi_f, wc_n, wc_0, wz_0, wz_1, wq_some, wq_bind, wq_lpB, ks_l, ks_r, up2_s, up2_n, u_e, u_n, if_true, if_false, ite_true, ite_false]
    rw [md_isBelow_sp hw hM hq ha]
    unfold md_move_b31
    by_cases g3 : a < q ∧ q < bh n d a
    · rw [if_pos g3]
      simp (disch := first | omega | with_reducible assumption) only [l_2, l_3, l_4, l_5, l_6, l_7, l_8, l_9, l_10, l_11, l_12, l_13, l_14, l_15, l_16, l_17, l_23, l_24, l_40, l_100, l_320, l_383, nI_add, pk_mul, z_sub, z_lt0, z_ge0, z_e0, z_le0, z_gt0, z_lt, z_le, z_eq, z_cl, z_in, z_m1lt, z_m1ge, z_nm1, z_m1n, n1_add, n1_ad2, n1_sub, n1_eq, n1_eq', n1_le, n1_ge, n1_lt, n1_gt, z_10, z_01, z_0lt, z_0ge, z_0c, z_0in, z_0a, z_a0, z_01a, bI_f, bI_f0, t0f, t1f, cl_f, wi_t, wi_f, wc_n, wc_0, wz_0, wz_1, wq_some, wq_bind, wq_lpB, ks_l, ks_r, up2_s, up2_n, u_e, u_n, if_true, if_false, ite_true, ite_false]
    · have g4 : v3 < 0 := by
        rcases h with h | h | h
        · exact absurd h g
        · exact absurd h g3
        · exact h
      have g5 : ¬ 0 ≤ v3 := fun e => by rw [← z_nlt'] at e; exact e g4
      rw [if_neg g3]
      simp (disch := first | omega | with_reducible assumption) only [l_2, l_3, l_4, l_5, l_6, l_7, l_8, l_9, l_10, l_11, l_12, l_13, l_14, l_15, l_16, l_17, l_23, l_24, l_40, l_100, l_320, l_383, nI_add, pk_mul, z_sub, z_lt0, z_ge0, z_e0, z_le0, z_gt0, z_lt, z_le, z_eq, z_cl, z_in, z_m1lt, z_m1ge, z_nm1, z_m1n, n1_add, n1_ad2, n1_sub, n1_eq, n1_eq', n1_le, n1_ge, n1_lt, n1_gt, z_10, z_01, z_0lt, z_0ge, z_0c, z_0in, z_0a, z_a0, z_01a, bI_f, bI_f0, t0f, t1f, cl_f, wi_t, wi_f, wc_n, wc_0, wz_0, wz_1, wq_some, wq_bind, wq_lpB, ks_l, ks_r, up2_s, up2_n, u_e, u_n, if_true, if_false, ite_true, ite_false]
/-- move answers alike -/
theorem move_both {σ τ : dS} (hw : WT n row d) (hD : DT n row d nm vl σ) (hM : MT n row d nm vl τ) (v1 v2 v3 : Int32) : both (dk_move v1 v2 v3 σ) (md_move v1 v2 v3 τ) (TO n row d nm vl σ τ) := by
  have hn24 := hw.1.1
  rcases row_cut n row v1 with ⟨a, ha, rfl⟩ | hv1
  · rcases row_cut n row v2 with ⟨q, hq, rfl⟩ | hv2
    · have ra := hw.1.2.1 a ha
      have rq := hw.1.2.1 q hq
      by_cases hab : q = a ∨ (a < q ∧ q < bh n d a)
      · refine both_i (a := 0) (σ' := σ) (τ' := τ) ?_ (md_move_n3 hw hM ha hq (by rcases hab with h | h; exact Or.inl h; exact Or.inr (Or.inl h))) (Or.inl ⟨rfl, rfl⟩)
        apply eq_of_wq
        exact dk_move_st0 hw hD ha hq (dk_move_lp (Q := fun r => r = (0, σ)) hw hD ha hq (fun _ => rfl) (fun h => absurd hab h) q (Nat.le_refl _) Iff.rfl)
      · have hb1 := bh_lt (n := n) (d := d) ha
        have hb2 := bh_le (n := n) (d := d) ha
        have hqa : q < a ∨ bh n d a ≤ q := by
          rcases Nat.lt_or_ge q a with e | e
          · exact Or.inl e
          · rcases Nat.lt_or_ge q (bh n d a) with e2 | e2
            · exact absurd (by omega) hab
            · exact Or.inr e2
        have h0 : 0 < a := by
          rcases Nat.eq_zero_or_pos a with e | e
          · subst e; rw [bh_0 hw.2 ha] at hqa; omega
          · exact e
        obtain ⟨M, m1, m2, m3⟩ := hc_ex hw.2 hq
        have hMn := nch_M hw.2 hq m2 m3
        have hpa := pa_lt hw.2 h0 ha
        have rpa := hw.1.2.1 _ (by omega : pa d a < n)
        -- what follows many
        have hmany : ∀ (Q : Int32 × dS → Prop), wq (dk_move_b69 (nI (row a)) (nI (row q)) v3 (nI (M - (if q = pa d a then 1 else 0))) σ) (ks dk_move_st Q) → wq (dk_many (nI (row q)) σ) (fun r => wq (dk_move_b51 (nI (row a)) (nI (row q)) v3 r.1 r.2) (ks dk_move_st Q)) := by
          intro Q h
          rw [dk_many_sp hw hD.2.2.1 hq m2 m3, wq_some]
          unfold dk_move_b51 dk_move_b66
          simp (disch := first | omega | with_reducible assumption) only [l_2, l_3, l_4, l_5, l_6, l_7, l_8, l_9, l_10, l_11, l_12, l_13, l_14, l_15, l_16, l_17, l_23, l_24, l_40, l_100, l_320, l_383, nI_add, pk_mul, z_sub, z_lt0, z_ge0, z_e0, z_le0, z_gt0, z_lt, z_le, z_eq, z_cl, z_in, z_m1lt, z_m1ge, z_nm1, z_m1n, n1_add, n1_ad2, n1_sub, n1_eq, n1_eq', n1_le, n1_ge, n1_lt, n1_gt, z_10, z_01, z_0lt, z_0ge, z_0c, z_0in, z_0a, z_a0, z_01a, bI_f, bI_f0, t0f, t1f, cl_f, wi_t, wi_f, wc_n, wc_0, wz_0, wz_1, wq_some, wq_bind, wq_lpB, ks_l, ks_r, up2_s, up2_n, u_e, u_n, if_true, if_false, ite_true, ite_false]
          rw [hD.2.2.1.2.2 a h0 ha]
          unfold PV
          by_cases g : q = pa d a
          · have g2 : row (pa d a) = row q := by rw [g]
            have hM1 : 0 < M := by
              rcases Nat.eq_zero_or_pos M with e | e
              · exfalso
                obtain ⟨K, k1, k2⟩ := child_ix hw.2 h0 ha
                rw [← g] at k1
                have := hc_max m3 k1
                omega
              · exact e
            rw [if_pos g] at h
            simp (disch := first | omega | with_reducible assumption) only [l_2, l_3, l_4, l_5, l_6, l_7, l_8, l_9, l_10, l_11, l_12, l_13, l_14, l_15, l_16, l_17, l_23, l_24, l_40, l_100, l_320, l_383, nI_add, pk_mul, z_sub, z_lt0, z_ge0, z_e0, z_le0, z_gt0, z_lt, z_le, z_eq, z_cl, z_in, z_m1lt, z_m1ge, z_nm1, z_m1n, n1_add, n1_ad2, n1_sub, n1_eq, n1_eq', n1_le, n1_ge, n1_lt, n1_gt, z_10, z_01, z_0lt, z_0ge, z_0c, z_0in, z_0a, z_a0, z_01a, bI_f, bI_f0, t0f, t1f, cl_f, wi_t, wi_f, wc_n, wc_0, wz_0, wz_1, wq_some, wq_bind, wq_lpB, ks_l, ks_r, up2_s, up2_n, u_e, u_n, if_true, if_false, ite_true, ite_false]
            exact h
          · have g2 : ¬ row (pa d a) = row q := fun e => g (hw.1.2.2 _ _ (by omega) hq e).symm
            rw [if_neg g] at h
            simp (disch := first | omega | with_reducible assumption) only [l_2, l_3, l_4, l_5, l_6, l_7, l_8, l_9, l_10, l_11, l_12, l_13, l_14, l_15, l_16, l_17, l_23, l_24, l_40, l_100, l_320, l_383, nI_add, pk_mul, z_sub, z_lt0, z_ge0, z_e0, z_le0, z_gt0, z_lt, z_le, z_eq, z_cl, z_in, z_m1lt, z_m1ge, z_nm1, z_m1n, n1_add, n1_ad2, n1_sub, n1_eq, n1_eq', n1_le, n1_ge, n1_lt, n1_gt, z_10, z_01, z_0lt, z_0ge, z_0c, z_0in, z_0a, z_a0, z_01a, bI_f, bI_f0, t0f, t1f, cl_f, wi_t, wi_f, wc_n, wc_0, wz_0, wz_1, wq_some, wq_bind, wq_lpB, ks_l, ks_r, up2_s, up2_n, u_e, u_n, if_true, if_false, ite_true, ite_false]
            rw [i_sub0]
            exact h
        have hlp : ∀ (Q : Int32 × dS → Prop), wq (dk_move_b69 (nI (row a)) (nI (row q)) v3 (nI (M - (if q = pa d a then 1 else 0))) σ) (ks dk_move_st Q) → wq (dk_move (nI (row a)) (nI (row q)) v3 σ) Q := fun Q h =>
          dk_move_st0 hw hD ha hq (dk_move_lp hw hD ha hq (fun h => absurd h hab) (fun _ => hmany Q h) q (Nat.le_refl _) Iff.rfl)
        by_cases hv3 : v3 < 0
        · refine both_i (a := 0) (σ' := σ) (τ' := τ) ?_ (md_move_n3 hw hM ha hq (Or.inr (Or.inr hv3))) (Or.inl ⟨rfl, rfl⟩)
          apply eq_of_wq
          apply hlp
          unfold dk_move_b69
          simp (disch := first | omega | with_reducible assumption) only [l_2, l_3, l_4, l_5, l_6, l_7, l_8, l_9, l_10, l_11, l_12, l_13, l_14, l_15, l_16, l_17, l_23, l_24, l_40, l_100, l_320, l_383, nI_add, pk_mul, z_sub, z_lt0, z_ge0, z_e0, z_le0, z_gt0, z_lt, z_le, z_eq, z_cl, z_in, z_m1lt, z_m1ge, z_nm1, z_m1n, n1_add, n1_ad2, n1_sub, n1_eq, n1_eq', n1_le, n1_ge, n1_lt, n1_gt, z_10, z_01, z_0lt, z_0ge, z_0c, z_0in, z_0a, z_a0, z_01a, bI_f, bI_f0, t0f, t1f, cl_f, wi_t, wi_f, wc_n, wc_0, wz_0, wz_1, wq_some, wq_bind, wq_lpB, ks_l, ks_r, up2_s, up2_n, u_e, u_n, if_true, if_false, ite_true, ite_false]
        · obtain ⟨K, hK, rfl⟩ := z_nlt hv3
          have hcm := hc_move (K := K) hw h0 ha hq hqa
          rw [hMn] at hcm
          by_cases hcK : hc (n - (bh n d a - a)) (del a (bh n d a - a) d) (cut a (bh n d a - a) q) K
          · have hle := hcm.mp hcK
            refine both_of (P := MVP n row d nm vl a q K σ) (P' := fun r => r.1 = 1 ∧ sm [0, 1, 4, 5, 10] τ r.2 ∧ (∀ s, s < 8 → r.2 10 s = 0) ∧ MT (n - (bh n d a - a) + (bh n d a - a)) (ins (cp (n - (bh n d a - a)) (del a (bh n d a - a) d) (cut a (bh n d a - a) q) K) (bh n d a - a) (del a (bh n d a - a) row) (sub_ a row)) (ins (cp (n - (bh n d a - a)) (del a (bh n d a - a) d) (cut a (bh n d a - a) q) K) (bh n d a - a) (del a (bh n d a - a) d) (fun j => d (a + j) - d a + (d q + 1))) nm vl r.2) ?_ ?_ ?_
            · apply hlp
              unfold dk_move_b69
              have : K ≤ M - (if q = pa d a then 1 else 0) := by omega
              have : M - (if q = pa d a then 1 else 0) < 2147483648 := by omega
              simp (disch := first | omega | with_reducible assumption) only [l_2, l_3, l_4, l_5, l_6, l_7, l_8, l_9, l_10, l_11, l_12, l_13, l_14, l_15, l_16, l_17, l_23, l_24, l_40, l_100, l_320, l_383, nI_add, pk_mul, z_sub, z_lt0, z_ge0, z_e0, z_le0, z_gt0, z_lt, z_le, z_eq, z_cl, z_in, z_m1lt, z_m1ge, z_nm1, z_m1n, n1_add, n1_ad2, n1_sub, n1_eq, n1_eq', n1_le, n1_ge, n1_lt, n1_gt, z_10, z_01, z_0lt, z_0ge, z_0c, z_0in, z_0a, z_a0, z_01a, bI_f, bI_f0, t0f, t1f, cl_f, wi_t, wi_f, wc_n, wc_0, wz_0, wz_1, wq_some, wq_bind, wq_lpB, ks_l, ks_r, up2_s, up2_n, u_e, u_n, if_true, if_false, ite_true, ite_false]
              exact dk_move_go hw hD h0 ha hq hqa hcK
            · exact md_move_y hw hM ha hq hqa hK (fun τ' b1 b2 b3 b4 => ⟨rfl, b1, b4, b3⟩) (fun τ' _ h => absurd hcK h)
            · intro r r' hr hr'
              obtain ⟨a0, a1, a2, a3, a4, a5⟩ := hr
              obtain ⟨b0, b1, b2, b3⟩ := hr'
              refine ⟨by rw [a0, b0], Or.inr (Or.inr ⟨⟨sm_sub a1 (by decide), sm_sub b1 (by decide), a2, a3, a4, b2⟩, _, _, _, _, _, ?_, a5, b3⟩)⟩
              have hW1 := WT_del hw h0 ha
              have hcl := cut_lt (m := bh n d a - a) hq (by omega : q < a ∨ a + (bh n d a - a) ≤ q) (by omega)
              have hA := okA_cp hW1.2 hcl hcK
              rw [del_cut d (by omega)] at hA
              have hB := del_okB hw.2 h0 ha
              refine ⟨rw24_ins hW1.1 (by omega) hA.2.1 (fun j hj => hw.1.2.1 _ (by omega)) (fun i j hi hj e => ?_) (fun i j hi hj e => ?_), wfT_ins hW1.2 hA (okB_shift (s := d a) (s' := d q + 1) hB (fun j hj => ?_) (by omega))⟩
              · have := hw.1.2.2 _ _ (by omega) (by omega) (show row (a + i) = row (a + j) from e); omega
              · by_cases g : i < a
                · rw [del_l g] at e; have := hw.1.2.2 _ _ (by omega) (by omega) (show row i = row (a + j) from e); omega
                · rw [del_r (by omega)] at e; have := hw.1.2.2 _ _ (by omega) (by omega) (show row (i + (bh n d a - a)) = row (a + j) from e); omega
              · have h := okB_le hB hj
                show d (a + j) - d a + (d q + 1) + d a = d (a + j) + (d q + 1)
                have h : d a ≤ d (a + j) := h
                omega
          · have hle : ¬ K + (if q = pa d a then 1 else 0) ≤ M := fun h => hcK (hcm.mpr h)
            refine both_of (P := fun r => r = (0, σ)) (P' := fun r => r.1 = 0 ∧ sm [0, 1, 4, 5, 10] τ r.2 ∧ (∀ s, s < 8 → r.2 10 s = 0) ∧ MT n row d nm vl r.2) ?_ ?_ ?_
            · apply hlp
              unfold dk_move_b69
              have : ¬ K ≤ M - (if q = pa d a then 1 else 0) := by
                by_cases g : q = pa d a
                · rw [if_pos g] at hle ⊢
                  obtain ⟨K', k1, k2⟩ := child_ix hw.2 h0 ha
                  rw [← g] at k1
                  have := hc_max m3 k1
                  omega
                · rw [if_neg g] at hle ⊢; omega
              have : M - (if q = pa d a then 1 else 0) < 2147483648 := by omega
              simp (disch := first | omega | with_reducible assumption) only [l_2, l_3, l_4, l_5, l_6, l_7, l_8, l_9, l_10, l_11, l_12, l_13, l_14, l_15, l_16, l_17, l_23, l_24, l_40, l_100, l_320, l_383, nI_add, pk_mul, z_sub, z_lt0, z_ge0, z_e0, z_le0, z_gt0, z_lt, z_le, z_eq, z_cl, z_in, z_m1lt, z_m1ge, z_nm1, z_m1n, n1_add, n1_ad2, n1_sub, n1_eq, n1_eq', n1_le, n1_ge, n1_lt, n1_gt, z_10, z_01, z_0lt, z_0ge, z_0c, z_0in, z_0a, z_a0, z_01a, bI_f, bI_f0, t0f, t1f, cl_f, wi_t, wi_f, wc_n, wc_0, wz_0, wz_1, wq_some, wq_bind, wq_lpB, ks_l, ks_r, up2_s, up2_n, u_e, u_n, if_true, if_false, ite_true, ite_false]
            · exact md_move_y hw hM ha hq hqa hK (fun τ' _ h => absurd h hcK) (fun τ' b1 b2 b3 b4 => ⟨rfl, b1, b4, b3⟩)
            · rintro r r' rfl ⟨b0, b1, b2, b3⟩
              exact ⟨b0.symm, Or.inr (Or.inl ⟨rfl, sm_sub b1 (by decide), b3, b2⟩)⟩
    · exact both_i (dk_move_n2 hw hD ha hv2) (md_move_n2 hw hM ha hv2) (Or.inl ⟨rfl, rfl⟩)
  · exact both_i (dk_move_n1 hD hv1) (md_move_n1 hw hM hv1) (Or.inl ⟨rfl, rfl⟩)
/-- change answers alike -/
theorem change_both {σ τ : dS} (hw : WT n row d) (hD : DT n row d nm vl σ) (hM : MT n row d nm vl τ) (v1 v2 v3 : Int32) : both (dk_change v1 v2 v3 σ) (md_change v1 v2 v3 τ) (TO n row d nm vl σ τ) := by
  have hn24 := hw.1.1
  rcases row_cut n row v1 with ⟨a, ha, rfl⟩ | hv1
  · have ra := hw.1.2.1 a ha
    by_cases hv2 : v2 < 0 ∨ nI 6 ≤ v2
    · refine both_i (a := 0) (σ' := σ) (τ' := τ) ?_ ?_ (Or.inl ⟨rfl, rfl⟩)
      · apply eq_of_wq
        unfold dk_change dk_change_b0
        rw [dk_isNode_y hw hD ha]
        unfold dk_change_b5
        simp (disch := first | omega | with_reducible assumption) only [l_2, l_3, l_4, l_5, l_6, l_7, l_8, l_9, l_10, l_11, l_12, l_13, l_14, l_15, l_16, l_17, l_23, l_24, l_40, l_100, l_320, l_383, nI_add, pk_mul, z_sub, z_lt0, z_ge0, z_e0, z_le0, z_gt0, z_lt, z_le, z_eq, z_cl, z_in, z_m1lt, z_m1ge, z_nm1, z_m1n, n1_add, n1_ad2, n1_sub, n1_eq, n1_eq', n1_le, n1_ge, n1_lt, n1_gt, z_10, z_01, z_0lt, z_0ge, z_0c, z_0in, z_0a, z_a0, z_01a, bI_f, bI_f0, t0f, t1f, cl_f, wi_t, wi_f, wc_n, wc_0, wz_0, wz_1, wq_some, wq_bind, wq_lpB, ks_l, ks_r, up2_s, up2_n, u_e, u_n, if_true, if_false, ite_true, ite_false]
        rw [dk_isName_n hv2]
        unfold dk_change_b12
        simp (disch := first | omega | with_reducible assumption) only [l_2, l_3, l_4, l_5, l_6, l_7, l_8, l_9, l_10, l_11, l_12, l_13, l_14, l_15, l_16, l_17, l_23, l_24, l_40, l_100, l_320, l_383, nI_add, pk_mul, z_sub, z_lt0, z_ge0, z_e0, z_le0, z_gt0, z_lt, z_le, z_eq, z_cl, z_in, z_m1lt, z_m1ge, z_nm1, z_m1n, n1_add, n1_ad2, n1_sub, n1_eq, n1_eq', n1_le, n1_ge, n1_lt, n1_gt, z_10, z_01, z_0lt, z_0ge, z_0c, z_0in, z_0a, z_a0, z_01a, bI_f, bI_f0, t0f, t1f, cl_f, wi_t, wi_f, wc_n, wc_0, wz_0, wz_1, wq_some, wq_bind, wq_lpB, ks_l, ks_r, up2_s, up2_n, u_e, u_n, if_true, if_false, ite_true, ite_false]
      · apply eq_of_wq
        unfold md_change md_change_b0
        rw [md_where_y hw hM ha]
        unfold md_change_b5
        rw [l_5]
        simp (disch := first | omega | with_reducible assumption) only [l_2, l_3, l_4, l_5, l_6, l_7, l_8, l_9, l_10, l_11, l_12, l_13, l_14, l_15, l_16, l_17, l_23, l_24, l_40, l_100, l_320, l_383, nI_add, pk_mul, z_sub, z_lt0, z_ge0, z_e0, z_le0, z_gt0, z_lt, z_le, z_eq, z_cl, z_in, z_m1lt, z_m1ge, z_nm1, z_m1n, n1_add, n1_ad2, n1_sub, n1_eq, n1_eq', n1_le, n1_ge, n1_lt, n1_gt, z_10, z_01, z_0lt, z_0ge, z_0c, z_0in, z_0a, z_a0, z_01a, bI_f, bI_f0, t0f, t1f, cl_f, wi_t, wi_f, wc_n, wc_0, wz_0, wz_1, wq_some, wq_bind, wq_lpB, ks_l, ks_r, up2_s, up2_n, u_e, u_n, if_true, if_false, ite_true, ite_false]
        rw [md_in_out (by omega) hv2]
        unfold md_change_b14
        simp (disch := first | omega | with_reducible assumption) only [l_2, l_3, l_4, l_5, l_6, l_7, l_8, l_9, l_10, l_11, l_12, l_13, l_14, l_15, l_16, l_17, l_23, l_24, l_40, l_100, l_320, l_383, nI_add, pk_mul, z_sub, z_lt0, z_ge0, z_e0, z_le0, z_gt0, z_lt, z_le, z_eq, z_cl, z_in, z_m1lt, z_m1ge, z_nm1, z_m1n, n1_add, n1_ad2, n1_sub, n1_eq, n1_eq', n1_le, n1_ge, n1_lt, n1_gt, z_10, z_01, z_0lt, z_0ge, z_0c, z_0in, z_0a, z_a0, z_01a, bI_f, bI_f0, t0f, t1f, cl_f, wi_t, wi_f, wc_n, wc_0, wz_0, wz_1, wq_some, wq_bind, wq_lpB, ks_l, ks_r, up2_s, up2_n, u_e, u_n, if_true, if_false, ite_true, ite_false]
    · obtain ⟨c, hc6, rfl⟩ : ∃ c, c < 6 ∧ v2 = nI c := by
        rcases z_cut v2 (n := 6) (by omega) with g | g | g
        · exact absurd (Or.inl g) hv2
        · exact absurd (Or.inr g) hv2
        · exact g
      refine both_of (P := fun r => r.1 = 1 ∧ sm [0, 1, 15, 25, 33] σ r.2 ∧ r.2 15 0 = 0 ∧ r.2 33 0 = 0 ∧ (∀ s, s < 8 → r.2 25 s = 0) ∧ r.2 0 = upd (σ 0) (row a) (nI c) ∧ r.2 1 = upd (σ 1) (row a) v3) (P' := fun r => r.1 = 1 ∧ sm [2, 3, 10] τ r.2 ∧ (∀ s, s < 8 → r.2 10 s = 0) ∧ r.2 2 = upd (τ 2) (row a) (nI c) ∧ r.2 3 = upd (τ 3) (row a) v3) ?_ ?_ ?_
      · unfold dk_change dk_change_b0
        rw [dk_isNode_y hw hD ha]
        unfold dk_change_b5
        simp (disch := first | omega | with_reducible assumption) only [l_2, l_3, l_4, l_5, l_6, l_7, l_8, l_9, l_10, l_11, l_12, l_13, l_14, l_15, l_16, l_17, l_23, l_24, l_40, l_100, l_320, l_383, nI_add, pk_mul, z_sub, z_lt0, z_ge0, z_e0, z_le0, z_gt0, z_lt, z_le, z_eq, z_cl, z_in, z_m1lt, z_m1ge, z_nm1, z_m1n, n1_add, n1_ad2, n1_sub, n1_eq, n1_eq', n1_le, n1_ge, n1_lt, n1_gt, z_10, z_01, z_0lt, z_0ge, z_0c, z_0in, z_0a, z_a0, z_01a, bI_f, bI_f0, t0f, t1f, cl_f, wi_t, wi_f, wc_n, wc_0, wz_0, wz_1, wq_some, wq_bind, wq_lpB, ks_l, ks_r, up2_s, up2_n, u_e, u_n, if_true, if_false, ite_true, ite_false]
        rw [dk_isName_y hc6]
        unfold dk_change_b12 dk_change_b25 dk_change_b32
        rw [z_b (by omega : c < 128), z_nb (by omega : c < 128)]
        simp (disch := first | omega | with_reducible assumption) only [l_2, l_3, l_4, l_5, l_6, l_7, l_8, l_9, l_10, l_11, l_12, l_13, l_14, l_15, l_16, l_17, l_23, l_24, l_40, l_100, l_320, l_383, nI_add, pk_mul, z_sub, z_lt0, z_ge0, z_e0, z_le0, z_gt0, z_lt, z_le, z_eq, z_cl, z_in, z_m1lt, z_m1ge, z_nm1, z_m1n, n1_add, n1_ad2, n1_sub, n1_eq, n1_eq', n1_le, n1_ge, n1_lt, n1_gt, z_10, z_01, z_0lt, z_0ge, z_0c, z_0in, z_0a, z_a0, z_01a, bI_f, bI_f0, t0f, t1f, cl_f, wi_t, wi_f, wc_n, wc_0, wz_0, wz_1, wq_some, wq_bind, wq_lpB, ks_l, ks_r, up2_s, up2_n, u_e, u_n, if_true, if_false, ite_true, ite_false]
        refine wq_mono (dk_changed_sp _) (fun r hr => ?_)
        obtain ⟨r1, r2, r3, r4⟩ := hr
        unfold dk_change_b36
        rw [wq_some]
        refine ⟨rfl, sm_tr ?_ (sm_sub r1 (by decide)), r2, r3, r4, ?_, ?_⟩
        · (repeat (refine sm_up (by decide) ?_)); first | exact sm_rf | assumption
        · rw [r1 0 (by decide)]; simp (disch := first | omega | with_reducible assumption) only [up2_s, up2_n, u_e, u_n]
        · rw [r1 1 (by decide)]; simp (disch := first | omega | with_reducible assumption) only [up2_s, up2_n, u_e, u_n]
      · unfold md_change md_change_b0
        rw [md_where_y hw hM ha]
        unfold md_change_b5
        rw [l_5]
        simp (disch := first | omega | with_reducible assumption) only [l_2, l_3, l_4, l_5, l_6, l_7, l_8, l_9, l_10, l_11, l_12, l_13, l_14, l_15, l_16, l_17, l_23, l_24, l_40, l_100, l_320, l_383, nI_add, pk_mul, z_sub, z_lt0, z_ge0, z_e0, z_le0, z_gt0, z_lt, z_le, z_eq, z_cl, z_in, z_m1lt, z_m1ge, z_nm1, z_m1n, n1_add, n1_ad2, n1_sub, n1_eq, n1_eq', n1_le, n1_ge, n1_lt, n1_gt, z_10, z_01, z_0lt, z_0ge, z_0c, z_0in, z_0a, z_a0, z_01a, bI_f, bI_f0, t0f, t1f, cl_f, wi_t, wi_f, wc_n, wc_0, wz_0, wz_1, wq_some, wq_bind, wq_lpB, ks_l, ks_r, up2_s, up2_n, u_e, u_n, if_true, if_false, ite_true, ite_false]
        rw [md_in_nat (by omega) (by omega)]
        unfold md_change_b14 md_change_b26 md_change_b33
        simp (disch := first | omega | with_reducible assumption) only [l_2, l_3, l_4, l_5, l_6, l_7, l_8, l_9, l_10, l_11, l_12, l_13, l_14, l_15, l_16, l_17, l_23, l_24, l_40, l_100, l_320, l_383, nI_add, pk_mul, z_sub, z_lt0, z_ge0, z_e0, z_le0, z_gt0, z_lt, z_le, z_eq, z_cl, z_in, z_m1lt, z_m1ge, z_nm1, z_m1n, n1_add, n1_ad2, n1_sub, n1_eq, n1_eq', n1_le, n1_ge, n1_lt, n1_gt, z_10, z_01, z_0lt, z_0ge, z_0c, z_0in, z_0a, z_a0, z_01a, bI_f, bI_f0, t0f, t1f, cl_f, wi_t, wi_f, wc_n, wc_0, wz_0, wz_1, wq_some, wq_bind, wq_lpB, ks_l, ks_r, up2_s, up2_n, u_e, u_n, if_true, if_false, ite_true, ite_false]
        refine md_changed_sp (fun r r1 r2 => ?_)
        unfold md_change_b37
        rw [wq_some]
        refine ⟨rfl, sm_tr ?_ (sm_sub r1 (by decide)), r2, ?_, ?_⟩
        · (repeat (refine sm_up (by decide) ?_)); first | exact sm_rf | assumption
        · rw [r1 2 (by decide)]; simp (disch := first | omega | with_reducible assumption) only [up2_s, up2_n, u_e, u_n]
        · rw [r1 3 (by decide)]; simp (disch := first | omega | with_reducible assumption) only [up2_s, up2_n, u_e, u_n]
      · rintro r r' ⟨a0, a1, a2, a3, a4, a5, a6⟩ ⟨b0, b1, b2, b3, b4⟩
        refine ⟨by rw [a0, b0], Or.inr (Or.inr ⟨⟨sm_sub a1 (by decide), sm_sub b1 (by decide), a2, a3, a4, b2⟩, n, row, d, (fun x => if x = row a then c else nm x), upd vl (row a) v3, hw, ?_, ?_⟩)⟩
        · obtain ⟨d1, d2, d3, d4, d5, d6⟩ := hD
          refine ⟨by rw [a1 6 (by decide)]; exact d1, by rw [a1 5 (by decide)]; exact d2, ?_, ?_, fun i hi => ?_, fun k hk hne => ?_⟩
          · unfold PT at d3 ⊢
            rw [a1 2 (by decide), a1 3 (by decide), a1 4 (by decide)]; exact d3
          · rw [a1 2 (by decide), a1 4 (by decide)]; exact d4
          · rw [a5, a6]
            show _ = nI (if row i = row a then c else nm (row i)) ∧ (if row i = row a then c else nm (row i)) < 6 ∧ _
            by_cases e : row i = row a
            · rw [if_pos e, e, u_e, u_e, u_e]; exact ⟨rfl, hc6, rfl⟩
            · rw [if_neg e, u_n e, u_n e, u_n e]; exact d5 i hi
          · rw [a5, u_n (fun e => hne a ha e.symm)]; exact d6 k hk hne
        · refine ⟨by rw [b1 5 (by decide)]; exact hM.1, fun i hi => ?_⟩
          rw [b1 0 (by decide), b1 1 (by decide), b3, b4]
          refine ⟨(hM.2 i hi).1, (hM.2 i hi).2.1, ?_⟩
          show _ = nI (if row i = row a then c else nm (row i)) ∧ _
          by_cases e : row i = row a
          · rw [if_pos e, e, u_e, u_e, u_e]; exact ⟨rfl, rfl⟩
          · rw [if_neg e, u_n e, u_n e, u_n e]; exact (hM.2 i hi).2.2
  · refine both_i (a := 0) (σ' := σ) (τ' := τ) ?_ ?_ (Or.inl ⟨rfl, rfl⟩)
    · apply eq_of_wq
      unfold dk_change dk_change_b0
      rw [dk_isNode_n hD hv1]
      unfold dk_change_b5
      simp (disch := first | omega | with_reducible assumption) only [l_2, l_3, l_4, l_5, l_6, l_7, l_8, l_9, l_10, l_11, l_12, l_13, l_14, l_15, l_16, l_17, l_23, l_24, l_40, l_100, l_320, l_383, nI_add, pk_mul, z_sub, z_lt0, z_ge0, z_e0, z_le0, z_gt0, z_lt, z_le, z_eq, z_cl, z_in, z_m1lt, z_m1ge, z_nm1, z_m1n, n1_add, n1_ad2, n1_sub, n1_eq, n1_eq', n1_le, n1_ge, n1_lt, n1_gt, z_10, z_01, z_0lt, z_0ge, z_0c, z_0in, z_0a, z_a0, z_01a, bI_f, bI_f0, t0f, t1f, cl_f, wi_t, wi_f, wc_n, wc_0, wz_0, wz_1, wq_some, wq_bind, wq_lpB, ks_l, ks_r, up2_s, up2_n, u_e, u_n, if_true, if_false, ite_true, ite_false]
    · apply eq_of_wq
      unfold md_change md_change_b0
      rw [md_where_n hw hM hv1]
      unfold md_change_b5
      simp (disch := first | omega | with_reducible assumption) only [l_2, l_3, l_4, l_5, l_6, l_7, l_8, l_9, l_10, l_11, l_12, l_13, l_14, l_15, l_16, l_17, l_23, l_24, l_40, l_100, l_320, l_383, nI_add, pk_mul, z_sub, z_lt0, z_ge0, z_e0, z_le0, z_gt0, z_lt, z_le, z_eq, z_cl, z_in, z_m1lt, z_m1ge, z_nm1, z_m1n, n1_add, n1_ad2, n1_sub, n1_eq, n1_eq', n1_le, n1_ge, n1_lt, n1_gt, z_10, z_01, z_0lt, z_0ge, z_0c, z_0in, z_0a, z_a0, z_01a, bI_f, bI_f0, t0f, t1f, cl_f, wi_t, wi_f, wc_n, wc_0, wz_0, wz_1, wq_some, wq_bind, wq_lpB, ks_l, ks_r, up2_s, up2_n, u_e, u_n, if_true, if_false, ite_true, ite_false]
/-- child answers alike -/
theorem child_both {σ τ : dS} (hw : WT n row d) (hD : DT n row d nm vl σ) (hM : MT n row d nm vl τ) (v1 v2 : Int32) : both (dk_child v1 v2 σ) (md_child v1 v2 τ) (fun σ' τ' => σ' = σ ∧ τ' = τ) := by
  have hn24 := hw.1.1
  rcases row_cut n row v1 with ⟨p, hp, rfl⟩ | hv1
  · have rp := hw.1.2.1 p hp
    by_cases hv2 : v2 < 0
    · have hv2' : ¬ 0 ≤ v2 := fun e => by rw [← z_nlt'] at e; exact e hv2
      refine both_i (a := -1) (σ' := σ) (τ' := τ) ?_ ?_ ⟨rfl, rfl⟩
      · apply eq_of_wq
        unfold dk_child dk_child_b0
        rw [dk_isNode_y hw hD hp]
        unfold dk_child_b5
        simp (disch := first | omega | with_reducible assumption) only [l_2, l_3, l_4, l_5, l_6, l_7, l_8, l_9, l_10, l_11, l_12, l_13, l_14, l_15, l_16, l_17, l_23, l_24, l_40, l_100, l_320, l_383, nI_add, pk_mul, z_sub, z_lt0, z_ge0, z_e0, z_le0, z_gt0, z_lt, z_le, z_eq, z_cl, z_in, z_m1lt, z_m1ge, z_nm1, z_m1n, n1_add, n1_ad2, n1_sub, n1_eq, n1_eq', n1_le, n1_ge, n1_lt, n1_gt, z_10, z_01, z_0lt, z_0ge, z_0c, z_0in, z_0a, z_a0, z_01a, bI_f, bI_f0, t0f, t1f, cl_f, wi_t, wi_f, wc_n, wc_0, wz_0, wz_1, wq_some, wq_bind, wq_lpB, ks_l, ks_r, up2_s, up2_n, u_e, u_n, if_true, if_false, ite_true, ite_false]
      · apply eq_of_wq
        unfold md_child md_child_b0
        rw [md_where_y hw hM hp]
        unfold md_child_b5
        simp (disch := first | omega | with_reducible assumption) only [l_2, l_3, l_4, l_5, l_6, l_7, l_8, l_9, l_10, l_11, l_12, l_13, l_14, l_15, l_16, l_17, l_23, l_24, l_40, l_100, l_320, l_383, nI_add, pk_mul, z_sub, z_lt0, z_ge0, z_e0, z_le0, z_gt0, z_lt, z_le, z_eq, z_cl, z_in, z_m1lt, z_m1ge, z_nm1, z_m1n, n1_add, n1_ad2, n1_sub, n1_eq, n1_eq', n1_le, n1_ge, n1_lt, n1_gt, z_10, z_01, z_0lt, z_0ge, z_0c, z_0in, z_0a, z_a0, z_01a, bI_f, bI_f0, t0f, t1f, cl_f, wi_t, wi_f, wc_n, wc_0, wz_0, wz_1, wq_some, wq_bind, wq_lpB, ks_l, ks_r, up2_s, up2_n, u_e, u_n, if_true, if_false, ite_true, ite_false]
    · obtain ⟨K, hK, rfl⟩ := z_nlt hv2
      have hb := bh_le (n := n) (d := d) hp
      refine both_of (dk_child_sp hw hD.2.2.1 (fun i hi => dk_isNode_y hw hD hi) hp hK) (P' := fun r => (hc n d p (K + 1) ∧ r = (nI (row (cp n d p K)), τ)) ∨ (¬ hc n d p (K + 1) ∧ r = (-1, τ))) ?_ ?_
      · unfold md_child md_child_b0
        rw [md_where_y hw hM hp]
        unfold md_child_b5
        simp (disch := first | omega | with_reducible assumption) only [l_2, l_3, l_4, l_5, l_6, l_7, l_8, l_9, l_10, l_11, l_12, l_13, l_14, l_15, l_16, l_17, l_23, l_24, l_40, l_100, l_320, l_383, nI_add, pk_mul, z_sub, z_lt0, z_ge0, z_e0, z_le0, z_gt0, z_lt, z_le, z_eq, z_cl, z_in, z_m1lt, z_m1ge, z_nm1, z_m1n, n1_add, n1_ad2, n1_sub, n1_eq, n1_eq', n1_le, n1_ge, n1_lt, n1_gt, z_10, z_01, z_0lt, z_0ge, z_0c, z_0in, z_0a, z_a0, z_01a, bI_f, bI_f0, t0f, t1f, cl_f, wi_t, wi_f, wc_n, wc_0, wz_0, wz_1, wq_some, wq_bind, wq_lpB, ks_l, ks_r, up2_s, up2_n, u_e, u_n, if_true, if_false, ite_true, ite_false]
        refine wq_mono (md_place_sp hw hM hp hK) (fun r hr => ?_)
        rcases hr with ⟨g, rfl⟩ | ⟨g, rfl⟩
        · have hcs := cp_spec hw.2 hp g
          unfold md_child_b22
          simp (disch := first | omega | with_reducible assumption) only [l_2, l_3, l_4, l_5, l_6, l_7, l_8, l_9, l_10, l_11, l_12, l_13, l_14, l_15, l_16, l_17, l_23, l_24, l_40, l_100, l_320, l_383, nI_add, pk_mul, z_sub, z_lt0, z_ge0, z_e0, z_le0, z_gt0, z_lt, z_le, z_eq, z_cl, z_in, z_m1lt, z_m1ge, z_nm1, z_m1n, n1_add, n1_ad2, n1_sub, n1_eq, n1_eq', n1_le, n1_ge, n1_lt, n1_gt, z_10, z_01, z_0lt, z_0ge, z_0c, z_0in, z_0a, z_a0, z_01a, bI_f, bI_f0, t0f, t1f, cl_f, wi_t, wi_f, wc_n, wc_0, wz_0, wz_1, wq_some, wq_bind, wq_lpB, ks_l, ks_r, up2_s, up2_n, u_e, u_n, if_true, if_false, ite_true, ite_false]
          rw [md_behind_sp hw hM hp]
          unfold md_child_b36 md_child_b39
          by_cases e : cp n d p K = bh n d p
          · simp (disch := first | omega | with_reducible assumption) only [l_2, l_3, l_4, l_5, l_6, l_7, l_8, l_9, l_10, l_11, l_12, l_13, l_14, l_15, l_16, l_17, l_23, l_24, l_40, l_100, l_320, l_383, nI_add, pk_mul, z_sub, z_lt0, z_ge0, z_e0, z_le0, z_gt0, z_lt, z_le, z_eq, z_cl, z_in, z_m1lt, z_m1ge, z_nm1, z_m1n, n1_add, n1_ad2, n1_sub, n1_eq, n1_eq', n1_le, n1_ge, n1_lt, n1_gt, z_10, z_01, z_0lt, z_0ge, z_0c, z_0in, z_0a, z_a0, z_01a, bI_f, bI_f0, t0f, t1f, cl_f, wi_t, wi_f, wc_n, wc_0, wz_0, wz_1, wq_some, wq_bind, wq_lpB, ks_l, ks_r, up2_s, up2_n, u_e, u_n, if_true, if_false, ite_true, ite_false]
            exact Or.inr ⟨fun h => by have := (hc_s.mp h).2; omega, by first | rfl | trivial⟩
          · have hlt : cp n d p K < n := by omega
            simp (disch := first | omega | with_reducible assumption) only [l_2, l_3, l_4, l_5, l_6, l_7, l_8, l_9, l_10, l_11, l_12, l_13, l_14, l_15, l_16, l_17, l_23, l_24, l_40, l_100, l_320, l_383, nI_add, pk_mul, z_sub, z_lt0, z_ge0, z_e0, z_le0, z_gt0, z_lt, z_le, z_eq, z_cl, z_in, z_m1lt, z_m1ge, z_nm1, z_m1n, n1_add, n1_ad2, n1_sub, n1_eq, n1_eq', n1_le, n1_ge, n1_lt, n1_gt, z_10, z_01, z_0lt, z_0ge, z_0c, z_0in, z_0a, z_a0, z_01a, bI_f, bI_f0, t0f, t1f, cl_f, wi_t, wi_f, wc_n, wc_0, wz_0, wz_1, wq_some, wq_bind, wq_lpB, ks_l, ks_r, up2_s, up2_n, u_e, u_n, if_true, if_false, ite_true, ite_false]
            rw [(hM.2 _ hlt).1]
            exact Or.inl ⟨hc_s.mpr ⟨g, by omega⟩, by first | rfl | trivial⟩
        · unfold md_child_b22 md_child_b39
          simp (disch := first | omega | with_reducible assumption) only [l_2, l_3, l_4, l_5, l_6, l_7, l_8, l_9, l_10, l_11, l_12, l_13, l_14, l_15, l_16, l_17, l_23, l_24, l_40, l_100, l_320, l_383, nI_add, pk_mul, z_sub, z_lt0, z_ge0, z_e0, z_le0, z_gt0, z_lt, z_le, z_eq, z_cl, z_in, z_m1lt, z_m1ge, z_nm1, z_m1n, n1_add, n1_ad2, n1_sub, n1_eq, n1_eq', n1_le, n1_ge, n1_lt, n1_gt, z_10, z_01, z_0lt, z_0ge, z_0c, z_0in, z_0a, z_a0, z_01a, bI_f, bI_f0, t0f, t1f, cl_f, wi_t, wi_f, wc_n, wc_0, wz_0, wz_1, wq_some, wq_bind, wq_lpB, ks_l, ks_r, up2_s, up2_n, u_e, u_n, if_true, if_false, ite_true, ite_false]
          exact Or.inr ⟨fun h => g (hc_s.mp h).1, by first | rfl | trivial⟩
      · intro r r' hr hr'
        rcases hr with ⟨g, rfl⟩ | ⟨g, rfl⟩
        · rcases hr' with ⟨g', rfl⟩ | ⟨g', rfl⟩
          · exact ⟨rfl, rfl, rfl⟩
          · exact absurd g g'
        · rcases hr' with ⟨g', rfl⟩ | ⟨g', rfl⟩
          · exact absurd g' g
          · exact ⟨rfl, rfl, rfl⟩
  · refine both_i (a := -1) (σ' := σ) (τ' := τ) ?_ ?_ ⟨rfl, rfl⟩
    · apply eq_of_wq
      unfold dk_child dk_child_b0
      rw [dk_isNode_n hD hv1]
      unfold dk_child_b5
      simp (disch := first | omega | with_reducible assumption) only [l_2, l_3, l_4, l_5, l_6, l_7, l_8, l_9, l_10, l_11, l_12, l_13, l_14, l_15, l_16, l_17, l_23, l_24, l_40, l_100, l_320, l_383, nI_add, pk_mul, z_sub, z_lt0, z_ge0, z_e0, z_le0, z_gt0, z_lt, z_le, z_eq, z_cl, z_in, z_m1lt, z_m1ge, z_nm1, z_m1n, n1_add, n1_ad2, n1_sub, n1_eq, n1_eq', n1_le, n1_ge, n1_lt, n1_gt, z_10, z_01, z_0lt, z_0ge, z_0c, z_0in, z_0a, z_a0, z_01a, bI_f, bI_f0, t0f, t1f, cl_f, wi_t, wi_f, wc_n, wc_0, wz_0, wz_1, wq_some, wq_bind, wq_lpB, ks_l, ks_r, up2_s, up2_n, u_e, u_n, if_true, if_false, ite_true, ite_false]
    · apply eq_of_wq
      unfold md_child md_child_b0
      rw [md_where_n hw hM hv1]
      unfold md_child_b5
      simp (disch := first | omega | with_reducible assumption) only [l_2, l_3, l_4, l_5, l_6, l_7, l_8, l_9, l_10, l_11, l_12, l_13, l_14, l_15, l_16, l_17, l_23, l_24, l_40, l_100, l_320, l_383, nI_add, pk_mul, z_sub, z_lt0, z_ge0, z_e0, z_le0, z_gt0, z_lt, z_le, z_eq, z_cl, z_in, z_m1lt, z_m1ge, z_nm1, z_m1n, n1_add, n1_ad2, n1_sub, n1_eq, n1_eq', n1_le, n1_ge, n1_lt, n1_gt, z_10, z_01, z_0lt, z_0ge, z_0c, z_0in, z_0a, z_a0, z_01a, bI_f, bI_f0, t0f, t1f, cl_f, wi_t, wi_f, wc_n, wc_0, wz_0, wz_1, wq_some, wq_bind, wq_lpB, ks_l, ks_r, up2_s, up2_n, u_e, u_n, if_true, if_false, ite_true, ite_false]
end
