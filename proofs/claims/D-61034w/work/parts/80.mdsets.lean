/-! TransletDeskModel: sets of nodes, values -/
set_option maxRecDepth 100000
def MO (b : Nat) (T : List Tk) (τ : dS) : Prop := T.length ≤ 40 ∧ b + T.length ≤ 360 ∧ (∀ t, t ∈ T → okT t) ∧ wfs T 1 ∧ MX b T τ
theorem MO_sm {b : Nat} {T : List Tk} {τ τ' : dS} {l : List Nat} (h : MO b T τ) (hs : sm l τ τ') (hl : ∀ i, i ∈ l → i < 6 ∨ 7 < i) : MO b T τ' := by
  have k1 : ∀ i, 6 ≤ i → i ≤ 7 → τ' i = τ i := fun i a b => hs i (fun g => by have := hl i g; omega)
  obtain ⟨h1, h1b, h2, h3, h4⟩ := h
  refine ⟨h1, h1b, h2, h3, ?_⟩
  unfold MX at *; rw [k1 6 (by omega) (by omega), k1 7 (by omega) (by omega)]; exact h4
theorem i_miss (m a : Nat) : nI (m + 1) + (nI a - 1) = nI (m + a) := by
  have := nI_by (A := m + 1) (B := a) (C := 1) (by omega)
  rw [show m + 1 - 1 + a = m + a by omega] at this
  exact this
theorem md_endOf_lp {b : Nat} {T : List Tk} {τ : dS} (hM : MO b T τ) (v : Int32) : ∀ (ts : List Tk) (o c : Nat), T.drop o = ts → fl c ts → c < 200 → wq (lp md_endOf_st (4, [v, nI c, nI (b + o)], τ)) (fun r => r = (nI (b + o + sk c ts), τ)) := by
  obtain ⟨x1, x1b, x2, x3, x4⟩ := hM
  intro ts
  induction ts with
  | nil =>
    intro o c hd hf hc
    cases c with
    | zero =>
      rw [md_endOf_l4]; unfold md_endOf_b4
      rw [wi_t (by rw [nI_0]; exact Int32.le_refl 0), wq_some, ks_r]; rfl
    | succ c => cases hf
  | cons t r ih =>
    intro o c hd hf hc
    cases c with
    | zero =>
      rw [md_endOf_l4]; unfold md_endOf_b4
      rw [wi_t (by rw [nI_0]; exact Int32.le_refl 0), wq_some, ks_r]; rfl
    | succ m =>
      have ho := drop_lt hd
      have hot := x2 t (drop_mem hd)
      have har := ar_le hot
      have hr := drop_next hd
      rw [fl_s] at hf
      have hm : m + ar t ≤ 40 := by
        have key : ∀ (us : List Tk) (k : Nat), fl k us → k ≤ sk k us := by
          intro us
          induction us with
          | nil => intro k hk; cases k with
                   | zero => exact Nat.zero_le _
                   | succ k => cases hk
          | cons u us ihu =>
            intro k hk
            cases k with
            | zero => exact Nat.zero_le _
            | succ k => rw [fl_s] at hk; rw [sk_s]; have := ihu _ hk; omega
        have h1 := key r (m + ar t) hf
        have h2 := sk_le r (m + ar t)
        have h3 : r.length = T.length - (o + 1) := by rw [← hr, List.length_drop]
        omega
      rw [md_endOf_l4]; unfold md_endOf_b4
      rw [wi_f (by rw [z_le0 (by omega)]; omega), wc_n (by omega) (by omega), wc_n (by omega) (by omega), z_cl (by omega), (x4 o t r hd).1, (x4 o t r hd).2, md_operands_sp hot, wq_bind, wq_some]
      unfold md_endOf_b24
      rw [wq_some, ks_l, i_miss, n1_add]
      have := ih (o + 1) (m + ar t) hr hf (by omega)
      rw [show b + (o + 1) = b + o + 1 by omega] at this
      refine wq_mono this (fun q hq => ?_)
      rw [hq, sk_s]
      congr 2
      omega
theorem md_endOf_sp {b : Nat} {T : List Tk} {τ : dS} (hM : MO b T τ) {o : Nat} (ho : o < T.length) : md_endOf (nI (b + o)) τ = some (nI (b + o + sk 1 (T.drop o)), τ) := by
  apply eq_of_wq
  unfold md_endOf md_endOf_b0
  rw [wq_lpB, wq_some, ks_l]
  obtain ⟨t, r, hd⟩ := drop_ex ho
  obtain ⟨m', hw⟩ := wfs_drop o hM.2.2.2.1
  have hfl : fl 1 (T.drop o) := by
    have h1 := (wfs_fl hw).1
    rw [hd] at hw h1 ⊢
    obtain ⟨m'', q1, q2, q3, q4⟩ := hw
    exact fl_mono _ _ 1 h1 (by omega)
  exact md_endOf_lp hM (nI (b + o)) (T.drop o) o 1 rfl hfl (by omega)
theorem els_first {x : Int32} {l : Nat} (h : bt x l = true) (h0 : ∀ i, i < l → bt x i = false) : ∃ r, els x = l :: r := by
  have hl : l < 32 := by
    rcases Nat.lt_or_ge l 32 with g | g
    · exact g
    · rw [b_big g] at h; cases h
  exact ⟨_, ft_first (p := bt x) (q := bt (x &&& (x - 1))) (l := l) (m := 32) (s := 0) (by omega) (by omega) h (fun i _ g => h0 i g) (fun i _ _ => clr_bt h h0 i)⟩
section
variable {n : Nat} {row d nm : Nat → Nat} {vl : Nat → Int32} {τ : dS}
theorem md_firstOf_lp (hw : WT n row d) (hM : MT n row d nm vl τ) {P N : Int32} (hp : pm n row P N) : ∀ (f i : Nat), i + f = n → (∀ j, j < i → bt P j = false) → wq (lp md_firstOf_st (2, [N, nI i], τ)) (fun r => r = (fsv (fun y => vl (row y)) P, τ)) := by
  have hn24 := hw.1.1
  intro f
  induction f with
  | zero =>
    intro i hi h
    have e0 : P = 0 := by
      apply b_ext; intro j _; rw [b_0]
      rcases Nat.lt_or_ge j n with g | g
      · exact h j (by omega)
      · exact hp.2.2 j g
    rw [md_firstOf_l2]; unfold md_firstOf_b2
    rw [hM.1, wi_t (by rw [z_le (by omega) (by omega)]; omega), wq_some, ks_r, e0]
    unfold fsv
    rw [els_0]
  | succ f ih =>
    intro i hi h
    have hin : i < n := by omega
    have ri := hw.1.2.1 i hin
    obtain ⟨m1, m2, m3, m4⟩ := hM.2 i hin
    have hb := hp.1 i hin
    rw [md_firstOf_l2]; unfold md_firstOf_b2
    rw [hM.1, wi_f (by rw [z_le (by omega) (by omega)]; omega), wc_n (by omega) (by omega), z_cl (by omega), m1]
    by_cases g : bt P i = true
    · rw [wi_t (by rw [t1 _ (by omega : row i < 32), hb]; exact g)]
      obtain ⟨r, he⟩ := els_first g h
      simp (disch := first | omega | with_reducible assumption) only [l_2, l_3, l_4, l_5, l_6, l_7, l_8, l_9, l_10, l_11, l_12, l_13, l_14, l_15, l_16, l_17, l_23, l_24, l_40, l_100, l_320, l_383, nI_add, pk_mul, z_sub, z_lt0, z_ge0, z_e0, z_le0, z_gt0, z_lt, z_le, z_eq, z_cl, z_in, z_m1lt, z_m1ge, z_nm1, z_m1n, n1_add, n1_ad2, n1_sub, n1_eq, n1_eq', n1_le, n1_ge, n1_lt, n1_gt, z_10, z_01, z_0lt, z_0ge, z_0c, z_0in, z_0a, z_a0, z_01a, bI_f, bI_f0, t0f, t1f, cl_f, wi_t, wi_f, wc_n, wc_0, wz_0, wz_1, wq_some, wq_bind, wq_lpB, ks_l, ks_r, up2_s, up2_n, u_e, u_n, if_true, if_false, ite_true, ite_false]
      try rw [m1]
      try (simp (disch := first | omega | with_reducible assumption) only [l_2, l_3, l_4, l_5, l_6, l_7, l_8, l_9, l_10, l_11, l_12, l_13, l_14, l_15, l_16, l_17, l_23, l_24, l_40, l_100, l_320, l_383, nI_add, pk_mul, z_sub, z_lt0, z_ge0, z_e0, z_le0, z_gt0, z_lt, z_le, z_eq, z_cl, z_in, z_m1lt, z_m1ge, z_nm1, z_m1n, n1_add, n1_ad2, n1_sub, n1_eq, n1_eq', n1_le, n1_ge, n1_lt, n1_gt, z_10, z_01, z_0lt, z_0ge, z_0c, z_0in, z_0a, z_a0, z_01a, bI_f, bI_f0, t0f, t1f, cl_f, wi_t, wi_f, wc_n, wc_0, wz_0, wz_1, wq_some, wq_bind, wq_lpB, ks_l, ks_r, up2_s, up2_n, u_e, u_n, if_true, if_false, ite_true, ite_false])
      rw [m4]
      unfold fsv
      rw [he]
    · have gf : bt P i = false := by cases h : bt P i with | true => exact absurd h g | false => rfl
      rw [wi_f (by rw [t1 _ (by omega : row i < 32), hb]; exact g)]
      simp (disch := first | omega | with_reducible assumption) only [l_2, l_3, l_4, l_5, l_6, l_7, l_8, l_9, l_10, l_11, l_12, l_13, l_14, l_15, l_16, l_17, l_23, l_24, l_40, l_100, l_320, l_383, nI_add, pk_mul, z_sub, z_lt0, z_ge0, z_e0, z_le0, z_gt0, z_lt, z_le, z_eq, z_cl, z_in, z_m1lt, z_m1ge, z_nm1, z_m1n, n1_add, n1_ad2, n1_sub, n1_eq, n1_eq', n1_le, n1_ge, n1_lt, n1_gt, z_10, z_01, z_0lt, z_0ge, z_0c, z_0in, z_0a, z_a0, z_01a, bI_f, bI_f0, t0f, t1f, cl_f, wi_t, wi_f, wc_n, wc_0, wz_0, wz_1, wq_some, wq_bind, wq_lpB, ks_l, ks_r, up2_s, up2_n, u_e, u_n, if_true, if_false, ite_true, ite_false]
      refine ih (i + 1) (by omega) (fun j hj => ?_)
      by_cases e : j = i
      · rw [e]; exact gf
      · exact h j (by omega)
theorem md_firstOf_sp (hw : WT n row d) (hM : MT n row d nm vl τ) {P N : Int32} (hp : pm n row P N) : md_firstOf N τ = some (fsv (fun y => vl (row y)) P, τ) := by
  apply eq_of_wq
  unfold md_firstOf md_firstOf_b0
  simp (disch := first | omega | with_reducible assumption) only [l_2, l_3, l_4, l_5, l_6, l_7, l_8, l_9, l_10, l_11, l_12, l_13, l_14, l_15, l_16, l_17, l_23, l_24, l_40, l_100, l_320, l_383, nI_add, pk_mul, z_sub, z_lt0, z_ge0, z_e0, z_le0, z_gt0, z_lt, z_le, z_eq, z_cl, z_in, z_m1lt, z_m1ge, z_nm1, z_m1n, n1_add, n1_ad2, n1_sub, n1_eq, n1_eq', n1_le, n1_ge, n1_lt, n1_gt, z_10, z_01, z_0lt, z_0ge, z_0c, z_0in, z_0a, z_a0, z_01a, bI_f, bI_f0, t0f, t1f, cl_f, wi_t, wi_f, wc_n, wc_0, wz_0, wz_1, wq_some, wq_bind, wq_lpB, ks_l, ks_r, up2_s, up2_n, u_e, u_n, if_true, if_false, ite_true, ite_false]
  have := md_firstOf_lp hw hM hp n 0 (by omega) (fun j hj => by omega)
  rw [nI_0] at this; exact this
theorem pm_bw24 (hw : WT n row d) {P N : Int32} (hp : pm n row P N) : bw 24 N := by
  intro k hk
  refine hp.2.1 k (fun i hi e => ?_)
  have := hw.1.2.1 i hi
  omega
theorem md_counted_lp (N : Int32) : ∀ (f k : Nat), k + f = 24 → wq (lp md_counted_st (4, [N, nI (ft (bt N) 0 k).length, nI k], τ)) (fun r => r = (nI (ft (bt N) 0 24).length, τ)) := by
  intro f
  induction f with
  | zero =>
    intro k hk
    have e : k = 24 := by omega
    subst e
    rw [md_counted_l4]; unfold md_counted_b4
    rw [wi_t (show (24 : Int32) ≤ nI 24 from Int32.le_refl _), wq_some, ks_r]
  | succ f ih =>
    intro k hk
    rw [md_counted_l4]; unfold md_counted_b4
    rw [wi_f (by rw [l_24, z_le (by omega) (by omega)]; omega), wq_some, ks_l, b_and1 _ (by omega : k < 32), n1_add]
    have := ih (k + 1) (by omega)
    rw [ft_snoc, Nat.zero_add, List.length_append] at this
    by_cases g : bt N k = true
    · rw [if_pos g] at this ⊢
      rw [n1_add]; exact this
    · rw [if_neg g] at this ⊢
      rw [z_a0]; exact this
theorem md_counted_sp (hw : WT n row d) {P N : Int32} (hp : pm n row P N) : md_counted N τ = some (nI (els P).length, τ) := by
  apply eq_of_wq
  unfold md_counted md_counted_b0
  rw [wq_lpB, wq_some, ks_l]
  have := md_counted_lp (τ := τ) N 24 0 (by omega)
  rw [← els_ft (pm_bw24 hw hp) (by omega), pm_len hw.1 hp, show nI (ft (bt N) 0 0).length = 0 from nI_0, nI_0] at this
  exact this
theorem md_summed_lp (N : Int32) : ∀ (f k : Nat) (a : Int32), k + f = 24 → wq (lp md_summed_st (4, [N, a, nI k], τ)) (fun r => r = (a + smv (τ 3) (ft (bt N) k f), τ)) := by
  intro f
  induction f with
  | zero =>
    intro k a hk
    have e : k = 24 := by omega
    subst e
    rw [md_summed_l4]; unfold md_summed_b4
    rw [wi_t (show (24 : Int32) ≤ nI 24 from Int32.le_refl _), wq_some, ks_r, ft_0, show smv (τ 3) [] = 0 from rfl, Int32.add_zero]
  | succ f ih =>
    intro k a hk
    rw [md_summed_l4]; unfold md_summed_b4 md_summed_b28
    rw [wi_f (by rw [l_24, z_le (by omega) (by omega)]; omega), ft_s]
    by_cases g : bt N k = true
    · rw [wi_t (by rw [t1 _ (by omega : k < 32)]; exact g), wc_n (by omega) (by omega), wq_some, ks_l, z_cl (by omega), n1_add, if_pos g, show smv (τ 3) (k :: ft (bt N) (k + 1) f) = τ 3 k + smv (τ 3) (ft (bt N) (k + 1) f) from rfl, ← Int32.add_assoc]
      exact ih (k + 1) _ (by omega)
    · rw [wi_f (by rw [t1 _ (by omega : k < 32)]; exact g), wq_some, ks_l, n1_add, if_neg g]
      exact ih (k + 1) _ (by omega)
theorem md_summed_sp (hw : WT n row d) (hM : MT n row d nm vl τ) {P N : Int32} (hp : pm n row P N) : md_summed N τ = some (smv (fun y => vl (row y)) (els P), τ) := by
  apply eq_of_wq
  unfold md_summed md_summed_b0
  rw [wq_lpB, wq_some, ks_l]
  have := md_summed_lp (τ := τ) N 24 0 0 (by omega)
  rw [← els_ft (pm_bw24 hw hp) (by omega), pm_sum hw.1 hp, Int32.zero_add, nI_0] at this
  refine wq_mono this (fun q hq => ?_)
  rw [hq]
  congr 1
  exact smv_cong (fun x hx => (hM.2 x (bw_els hp.2.2 hx)).2.2.2)
end
