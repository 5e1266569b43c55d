/-! link, unlink -/
set_option maxRecDepth 100000
section
variable {n : Nat} {row d nm : Nat → Nat} {vl : Nat → Int32}
theorem dk_child_sp {σ : dS} (hw : WT n row d) (hT : PT n row d σ) (hN : ∀ i, i < n → dk_isNode (nI (row i)) σ = some (1, σ)) {p : Nat} (hp : p < n) {K : Nat} (hK : K < 2147483648) : wq (dk_child (nI (row p)) (nI K) σ) (fun r => (hc n d p (K + 1) ∧ r = (nI (row (cp n d p K)), σ)) ∨ (¬ hc n d p (K + 1) ∧ r = (-1, σ))) := by
  have h3 := hw.1.2.1 _ hp
  unfold dk_child dk_child_b0
  rw [hN p hp]
  unfold dk_child_b5 dk_child_b21
  simp (disch := omega) only [l_2, l_3, l_4, l_5, l_6, l_7, l_8, l_9, l_10, l_11, l_12, l_13, l_14, l_15, l_16, l_17, l_23, l_24, l_40, l_100, l_320, l_383, nI_add, pk_mul, z_sub, z_lt0, z_ge0, z_e0, z_le0, z_gt0, z_lt, z_le, z_eq, z_cl, z_in, z_m1lt, z_m1ge, z_nm1, z_m1n, n1_add, n1_ad2, n1_sub, n1_eq, n1_eq', n1_le, n1_ge, n1_lt, n1_gt, z_10, z_01, z_0lt, z_0ge, z_0c, z_0in, z_0a, z_a0, z_01a, bI_f, bI_f0, t0f, t1f, cl_f, wq_some, wq_ite, wq_chk, wq_zok, wq_bind, wq_lpB, ks_l, ks_r, up2_s, up2_n, u_e, u_n]
  refine ⟨fun g => absurd g (by decide), fun _ => ⟨fun _ => ⟨h3, ?_⟩, fun g => (g trivial).elim⟩⟩
  rw [chv_first hT hp]
  have := dk_child_lp hw hT hp hK (nI (row p)) K 0 (by omega) hc_0
  rw [nI_0] at this; exact this
/-- the child ahead of child j -/
def bev (n : Nat) (row d : Nat → Nat) (p j : Nat) : Int32 := if j = 0 then -1 else nI (row (cp n d p (j - 1)))
theorem dk_link_lp {σ0 σ : dS} (hw : WT n row d) (hT : PT n row d σ0) (e3 : σ 3 = σ0 3) (e4 : σ 4 = σ0 4) {x p K : Nat} (hp : p < n) (hx : x < 24) (hK : hc n d p K) : ∀ (f j : Nat), j + f = K → wq (lp dk_link_st (22, [nI x, nI (row p), nI K, bev n row d p j, chv n row d p j, nI j], σ)) (fun r => sm [3, 4] σ r.2 ∧ (∀ y, r.2 3 y = if p + 1 = cp n d p K ∧ y = row p then nI x else σ 3 y) ∧ (∀ y, r.2 4 y = if p + 1 < cp n d p K ∧ y = row (cp n d p (K - 1)) then nI x else if y = x then chv n row d p K else σ 4 y)) := by
  have hK24 : K < 24 := by
    have := (cp_spec hw.2 hp hK).1
    have := (cp_spec hw.2 hp hK).2.1
    have := bh_le (n := n) (d := d) hp
    have := hw.1.1
    omega
  have hrp := hw.1.2.1 p hp
  intro f
  induction f with
  | zero =>
    intro j hj
    have e : j = K := by omega
    subst e
    rw [dk_link_l22]; unfold dk_link_b22 dk_link_b56
    rw [chv_b hw.1 hp, vp_nar_byte, chv_b hw.1 hp, z_b (by omega : x < 128), z_nb (by omega : x < 128)]
    have h1 := (cp_spec hw.2 hp hK).1
    by_cases h0 : j = 0
    · subst h0
      have ec : cp n d p 0 = p + 1 := rfl
      rw [show bev n row d p 0 = -1 from rfl, ec]
      simp (disch := omega) only [l_2, l_3, l_4, l_5, l_6, l_7, l_8, l_9, l_10, l_11, l_12, l_13, l_14, l_15, l_16, l_17, l_23, l_24, l_40, l_100, l_320, l_383, nI_add, pk_mul, z_sub, z_lt0, z_ge0, z_e0, z_le0, z_gt0, z_lt, z_le, z_eq, z_cl, z_in, z_m1lt, z_m1ge, z_nm1, z_m1n, n1_add, n1_ad2, n1_sub, n1_eq, n1_eq', n1_le, n1_ge, n1_lt, n1_gt, z_10, z_01, z_0lt, z_0ge, z_0c, z_0in, z_0a, z_a0, z_01a, bI_f, bI_f0, t0f, t1f, cl_f, wq_some, wq_ite, wq_chk, wq_zok, wq_bind, wq_lpB, ks_l, ks_r, up2_s, up2_n, u_e, u_n]
      refine ⟨fun _ => ⟨hx, fun g => g.elim, fun _ => ⟨hrp, sm_up (by decide) (sm_up (by decide) sm_rf), fun y => ?_, fun y => ?_⟩⟩, fun g => by omega⟩
      · by_cases e : y = row p
        · subst e; rw [u_e, if_pos ⟨by first | rfl | trivial, rfl⟩]
        · rw [u_n e, if_neg (fun g => e g.2)]
      · rw [if_neg (fun g => by omega)]
        by_cases e : y = x
        · subst e; rw [u_e, if_pos rfl]
        · rw [u_n e, if_neg e]
    · have hb : cp n d p (j - 1) < n := by
        have := hK (j - 1) (by omega)
        have := bh_le (n := n) (d := d) hp
        omega
      have hb2 := hw.1.2.1 _ hb
      rw [show bev n row d p j = nI (row (cp n d p (j - 1))) from if_neg h0]
      simp (disch := omega) only [l_2, l_3, l_4, l_5, l_6, l_7, l_8, l_9, l_10, l_11, l_12, l_13, l_14, l_15, l_16, l_17, l_23, l_24, l_40, l_100, l_320, l_383, nI_add, pk_mul, z_sub, z_lt0, z_ge0, z_e0, z_le0, z_gt0, z_lt, z_le, z_eq, z_cl, z_in, z_m1lt, z_m1ge, z_nm1, z_m1n, n1_add, n1_ad2, n1_sub, n1_eq, n1_eq', n1_le, n1_ge, n1_lt, n1_gt, z_10, z_01, z_0lt, z_0ge, z_0c, z_0in, z_0a, z_a0, z_01a, bI_f, bI_f0, t0f, t1f, cl_f, wq_some, wq_ite, wq_chk, wq_zok, wq_bind, wq_lpB, ks_l, ks_r, up2_s, up2_n, u_e, u_n]
      refine ⟨fun _ => ⟨hx, fun _ => ⟨hb2, sm_up (by decide) (sm_up (by decide) sm_rf), fun y => ?_, fun y => ?_⟩, fun g => (g trivial).elim⟩, fun g => by omega⟩
      · rw [if_neg (fun g => by omega)]
      · by_cases e : y = row (cp n d p (j - 1))
        · subst e; rw [u_e, if_pos ⟨by omega, rfl⟩]
        · rw [u_n e, if_neg (fun g => e g.2)]
          by_cases e : y = x
          · subst e; rw [u_e, if_pos rfl]
          · rw [u_n e, if_neg e]
  | succ f ih =>
    intro j hj
    have h1 := hK j (by omega)
    have h2 := cp_lt hw.2 hp (hc_le hK (by omega)) h1
    have h3 := hw.1.2.1 _ h2
    rw [dk_link_l22]; unfold dk_link_b22
    rw [chv_y h1]
    simp (disch := omega) only [l_2, l_3, l_4, l_5, l_6, l_7, l_8, l_9, l_10, l_11, l_12, l_13, l_14, l_15, l_16, l_17, l_23, l_24, l_40, l_100, l_320, l_383, nI_add, pk_mul, z_sub, z_lt0, z_ge0, z_e0, z_le0, z_gt0, z_lt, z_le, z_eq, z_cl, z_in, z_m1lt, z_m1ge, z_nm1, z_m1n, n1_add, n1_ad2, n1_sub, n1_eq, n1_eq', n1_le, n1_ge, n1_lt, n1_gt, z_10, z_01, z_0lt, z_0ge, z_0c, z_0in, z_0a, z_a0, z_01a, bI_f, bI_f0, t0f, t1f, cl_f, wq_some, wq_ite, wq_chk, wq_zok, wq_bind, wq_lpB, ks_l, ks_r, up2_s, up2_n, u_e, u_n]
    refine ⟨fun g => by omega, fun _ => ⟨h3, ?_⟩⟩
    rw [show σ 4 (row (cp n d p j)) = chv n row d p (j + 1) by rw [e4]; exact chv_next hw.2 hT hp (hc_le hK (by omega))]
    have := ih (j + 1) (by omega)
    rw [show bev n row d p (j + 1) = nI (row (cp n d p j)) from if_neg (by omega)] at this
    exact this
theorem dk_link_sp {σ : dS} (hw : WT n row d) (hT : PT n row d σ) {x p K : Nat} (hp : p < n) (hx : x < 24) (hK : hc n d p K) : wq (dk_link (nI x) (nI (row p)) (nI K) σ) (fun r => sm [2, 3, 4] σ r.2 ∧ (∀ y, r.2 2 y = if y = x then nI (row p) else σ 2 y) ∧ (∀ y, r.2 3 y = if p + 1 = cp n d p K ∧ y = row p then nI x else σ 3 y) ∧ (∀ y, r.2 4 y = if p + 1 < cp n d p K ∧ y = row (cp n d p (K - 1)) then nI x else if y = x then CV n row d (cp n d p K) (d p + 1) else σ 4 y)) := by
  have hrp := hw.1.2.1 p hp
  unfold dk_link dk_link_b0 dk_link_b8 dk_link_b19
  rw [z_b (by omega : row p < 128), z_nb (by omega : row p < 128)]
  simp (disch := omega) only [l_2, l_3, l_4, l_5, l_6, l_7, l_8, l_9, l_10, l_11, l_12, l_13, l_14, l_15, l_16, l_17, l_23, l_24, l_40, l_100, l_320, l_383, nI_add, pk_mul, z_sub, z_lt0, z_ge0, z_e0, z_le0, z_gt0, z_lt, z_le, z_eq, z_cl, z_in, z_m1lt, z_m1ge, z_nm1, z_m1n, n1_add, n1_ad2, n1_sub, n1_eq, n1_eq', n1_le, n1_ge, n1_lt, n1_gt, z_10, z_01, z_0lt, z_0ge, z_0c, z_0in, z_0a, z_a0, z_01a, bI_f, bI_f0, t0f, t1f, cl_f, wq_some, wq_ite, wq_chk, wq_zok, wq_bind, wq_lpB, ks_l, ks_r, up2_s, up2_n, u_e, u_n]
  refine ⟨hx, hrp, ?_⟩
  rw [chv_first hT hp]
  have := dk_link_lp (σ0 := σ) (σ := up2 σ 2 x (nI (row p))) hw hT (by rw [up2_n (by decide)]) (by rw [up2_n (by decide)]) hp hx hK K 0 (by omega)
  rw [nI_0, show bev n row d p 0 = -1 from rfl] at this
  refine wq_mono this (fun r hr => ?_)
  obtain ⟨r1, r2, r3⟩ := hr
  refine ⟨sm_tr (sm_up (by decide) sm_rf) (sm_sub r1 (by decide)), fun y => ?_, fun y => ?_, fun y => ?_⟩
  · rw [r1 2 (by decide), up2_s]
    by_cases e : y = x
    · rw [e, u_e, if_pos rfl]
    · rw [u_n e, if_neg e]
  · rw [r2, up2_n (by decide)]
  · rw [r3, up2_n (by decide), chv_CV hw.2 hp hK]
/-- every place but the root is a child -/
theorem child_ix (h : wfT n d) {a : Nat} (h0 : 0 < a) (ha : a < n) : ∃ K, hc n d (pa d a) (K + 1) ∧ cp n d (pa d a) K = a := by
  have hp1 := pa_lt h h0 ha
  have hp2 := pa_bh h h0 ha
  have hp3 := pa_d h h0 ha
  have hp : pa d a < n := by omega
  have key : ∀ f j : Nat, hc n d (pa d a) j → cp n d (pa d a) j ≤ a → a ≤ cp n d (pa d a) j + f → ∃ K, hc n d (pa d a) (K + 1) ∧ cp n d (pa d a) K = a := by
    intro f
    induction f with
    | zero =>
      intro j h1 h2 h3
      have e : cp n d (pa d a) j = a := by omega
      exact ⟨j, hc_s.mpr ⟨h1, by omega⟩, e⟩
    | succ f ih =>
      intro j h1 h2 h3
      by_cases e : cp n d (pa d a) j = a
      · exact ⟨j, hc_s.mpr ⟨h1, by omega⟩, e⟩
      · have h4 : cp n d (pa d a) j < bh n d (pa d a) := by omega
        have h5 := (cp_spec h hp h1).2.2.1 h4
        have h6 : cp n d (pa d a) j < n := by omega
        have h7 := bh_lt (n := n) (d := d) h6
        refine ih (j + 1) (hc_s.mpr ⟨h1, h4⟩) ?_ (by rw [cp_s]; omega)
        rw [cp_s]
        rcases Nat.lt_or_ge a (bh n d (cp n d (pa d a) j)) with g | g
        · have := bh_in h6 (by omega : cp n d (pa d a) j < a) g
          omega
        · exact g
  exact key a 0 hc_0 (by show pa d a + 1 ≤ a; omega) (by omega)
theorem cp_inj (h : wfT n d) {p : Nat} (hp : p < n) {j k : Nat} (hk : hc n d p k) (hj : j < k) : cp n d p j < cp n d p k := by
  induction k with
  | zero => omega
  | succ k ih =>
    obtain ⟨h1, h2⟩ := hc_s.mp hk
    have h3 : cp n d p k < cp n d p (k + 1) := by
      rw [cp_s]
      exact bh_lt (by have := bh_le (n := n) (d := d) hp; omega)
    by_cases e : j = k
    · rw [e]; exact h3
    · have := ih h1 (by omega); omega
theorem dk_unlink_lp {σ : dS} (hw : WT n row d) (hT : PT n row d σ) {p K : Nat} (hp : p < n) (hK : hc n d p (K + 1)) (C : Int32) (hC : σ 4 (row (cp n d p K)) = C) (hCb : C.toInt8.toInt32 = C) (v : Int32) : ∀ (f j : Nat), j + 1 + f = K → wq (lp dk_unlink_st (37, [nI (row (cp n d p K)), v, nI (row (cp n d p j))], σ)) (fun r => sm [3, 4] σ r.2 ∧ (∀ y, r.2 3 y = σ 3 y) ∧ (∀ y, r.2 4 y = if y = row (cp n d p (K - 1)) then C else σ 4 y)) := by
  have hb := bh_le (n := n) (d := d) hp
  have hin : ∀ i, i ≤ K → cp n d p i < n ∧ row (cp n d p i) < 24 := by
    intro i hi
    have := hK i (by omega)
    exact ⟨by omega, hw.1.2.1 _ (by omega)⟩
  intro f
  induction f with
  | zero =>
    intro j hj
    obtain ⟨h1, h2⟩ := hin j (by omega)
    obtain ⟨h3, h4⟩ := hin K (by omega)
    have e : K = j + 1 := by omega
    rw [dk_unlink_l37]; unfold dk_unlink_b37
    have hn : σ 4 (row (cp n d p j)) = nI (row (cp n d p K)) := by
      rw [chv_next hw.2 hT hp (hc_le hK (by omega)), ← e, chv_y (hK K (by omega))]
    simp (disch := omega) only [l_2, l_3, l_4, l_5, l_6, l_7, l_8, l_9, l_10, l_11, l_12, l_13, l_14, l_15, l_16, l_17, l_23, l_24, l_40, l_100, l_320, l_383, nI_add, pk_mul, z_sub, z_lt0, z_ge0, z_e0, z_le0, z_gt0, z_lt, z_le, z_eq, z_cl, z_in, z_m1lt, z_m1ge, z_nm1, z_m1n, n1_add, n1_ad2, n1_sub, n1_eq, n1_eq', n1_le, n1_ge, n1_lt, n1_gt, z_10, z_01, z_0lt, z_0ge, z_0c, z_0in, z_0a, z_a0, z_01a, bI_f, bI_f0, t0f, t1f, cl_f, wq_some, wq_ite, wq_chk, wq_zok, wq_bind, wq_lpB, ks_l, ks_r, up2_s, up2_n, u_e, u_n]
    rw [hn, hC, vp_nar_byte, hCb]
    refine ⟨h2, fun _ => ⟨h4, h2, sm_up (by decide) sm_rf, fun y => by first | trivial | rw [up2_n (by decide)], fun y => ?_⟩, fun g => absurd rfl g⟩
    try rw [up2_s]
    rw [show K - 1 = j by omega]
    by_cases g : y = row (cp n d p j)
    · rw [g, u_e, if_pos rfl]
    · rw [u_n g, if_neg g]
  | succ f ih =>
    intro j hj
    obtain ⟨h1, h2⟩ := hin j (by omega)
    obtain ⟨h3, h4⟩ := hin (j + 1) (by omega)
    obtain ⟨h5, h6⟩ := hin K (by omega)
    rw [dk_unlink_l37]; unfold dk_unlink_b37
    have hn : σ 4 (row (cp n d p j)) = nI (row (cp n d p (j + 1))) := by
      rw [chv_next hw.2 hT hp (hc_le hK (by omega)), chv_y (hK (j + 1) (by omega))]
    simp (disch := omega) only [l_2, l_3, l_4, l_5, l_6, l_7, l_8, l_9, l_10, l_11, l_12, l_13, l_14, l_15, l_16, l_17, l_23, l_24, l_40, l_100, l_320, l_383, nI_add, pk_mul, z_sub, z_lt0, z_ge0, z_e0, z_le0, z_gt0, z_lt, z_le, z_eq, z_cl, z_in, z_m1lt, z_m1ge, z_nm1, z_m1n, n1_add, n1_ad2, n1_sub, n1_eq, n1_eq', n1_le, n1_ge, n1_lt, n1_gt, z_10, z_01, z_0lt, z_0ge, z_0c, z_0in, z_0a, z_a0, z_01a, bI_f, bI_f0, t0f, t1f, cl_f, wq_some, wq_ite, wq_chk, wq_zok, wq_bind, wq_lpB, ks_l, ks_r, up2_s, up2_n, u_e, u_n]
    rw [hn]
    simp (disch := omega) only [l_2, l_3, l_4, l_5, l_6, l_7, l_8, l_9, l_10, l_11, l_12, l_13, l_14, l_15, l_16, l_17, l_23, l_24, l_40, l_100, l_320, l_383, nI_add, pk_mul, z_sub, z_lt0, z_ge0, z_e0, z_le0, z_gt0, z_lt, z_le, z_eq, z_cl, z_in, z_m1lt, z_m1ge, z_nm1, z_m1n, n1_add, n1_ad2, n1_sub, n1_eq, n1_eq', n1_le, n1_ge, n1_lt, n1_gt, z_10, z_01, z_0lt, z_0ge, z_0c, z_0in, z_0a, z_a0, z_01a, bI_f, bI_f0, t0f, t1f, cl_f, wq_some, wq_ite, wq_chk, wq_zok, wq_bind, wq_lpB, ks_l, ks_r, up2_s, up2_n, u_e, u_n]
    refine ⟨h2, fun g => ?_, fun _ => ⟨h2, ih (j + 1) (by omega)⟩⟩
    have := hw.1.2.2 _ _ h3 h5 g
    have := cp_inj hw.2 hp (hc_le hK (by omega : K ≤ K + 1)) (by omega : j + 1 < K)
    omega
theorem NV_b (hr : rw24 n row) {i : Nat} : (NV n row d i).toInt8.toInt32 = NV n row d i := by
  unfold NV
  by_cases g : bh n d i < n ∧ d (bh n d i) = d i
  · rw [if_pos g]; exact z_b (by have := hr.2.1 _ g.1; omega)
  · rw [if_neg g]; exact z_bm1
theorem dk_unlink_sp {σ : dS} (hw : WT n row d) (hT : PT n row d σ) {a K : Nat} (h0 : 0 < a) (ha : a < n) (hK : hc n d (pa d a) (K + 1)) (hKa : cp n d (pa d a) K = a) : wq (dk_unlink (nI (row a)) σ) (fun r => sm [3, 4] σ r.2 ∧ (∀ y, r.2 3 y = if pa d a + 1 = a ∧ y = row (pa d a) then NV n row d a else σ 3 y) ∧ (∀ y, r.2 4 y = if pa d a + 1 < a ∧ y = row (cp n d (pa d a) (K - 1)) then NV n row d a else σ 4 y)) := by
  have hp1 := pa_lt hw.2 h0 ha
  have hp : pa d a < n := by omega
  have r1 := hw.1.2.1 a ha
  have r2 := hw.1.2.1 _ hp
  have hC : σ 4 (row a) = NV n row d a := hT.2.1 a h0 ha
  unfold dk_unlink dk_unlink_b0 dk_unlink_b7
  simp (disch := omega) only [l_2, l_3, l_4, l_5, l_6, l_7, l_8, l_9, l_10, l_11, l_12, l_13, l_14, l_15, l_16, l_17, l_23, l_24, l_40, l_100, l_320, l_383, nI_add, pk_mul, z_sub, z_lt0, z_ge0, z_e0, z_le0, z_gt0, z_lt, z_le, z_eq, z_cl, z_in, z_m1lt, z_m1ge, z_nm1, z_m1n, n1_add, n1_ad2, n1_sub, n1_eq, n1_eq', n1_le, n1_ge, n1_lt, n1_gt, z_10, z_01, z_0lt, z_0ge, z_0c, z_0in, z_0a, z_a0, z_01a, bI_f, bI_f0, t0f, t1f, cl_f, wq_some, wq_ite, wq_chk, wq_zok, wq_bind, wq_lpB, ks_l, ks_r, up2_s, up2_n, u_e, u_n]
  rw [hT.2.2 a h0 ha]
  unfold PV
  simp (disch := omega) only [l_2, l_3, l_4, l_5, l_6, l_7, l_8, l_9, l_10, l_11, l_12, l_13, l_14, l_15, l_16, l_17, l_23, l_24, l_40, l_100, l_320, l_383, nI_add, pk_mul, z_sub, z_lt0, z_ge0, z_e0, z_le0, z_gt0, z_lt, z_le, z_eq, z_cl, z_in, z_m1lt, z_m1ge, z_nm1, z_m1n, n1_add, n1_ad2, n1_sub, n1_eq, n1_eq', n1_le, n1_ge, n1_lt, n1_gt, z_10, z_01, z_0lt, z_0ge, z_0c, z_0in, z_0a, z_a0, z_01a, bI_f, bI_f0, t0f, t1f, cl_f, wq_some, wq_ite, wq_chk, wq_zok, wq_bind, wq_lpB, ks_l, ks_r, up2_s, up2_n, u_e, u_n]
  rw [chv_first hT hp]
  have hc0 := hK 0 (by omega)
  rw [chv_y hc0]
  have h3 : cp n d (pa d a) 0 < n := by have := bh_le (n := n) (d := d) hp; omega
  have r3 := hw.1.2.1 _ h3
  simp (disch := omega) only [l_2, l_3, l_4, l_5, l_6, l_7, l_8, l_9, l_10, l_11, l_12, l_13, l_14, l_15, l_16, l_17, l_23, l_24, l_40, l_100, l_320, l_383, nI_add, pk_mul, z_sub, z_lt0, z_ge0, z_e0, z_le0, z_gt0, z_lt, z_le, z_eq, z_cl, z_in, z_m1lt, z_m1ge, z_nm1, z_m1n, n1_add, n1_ad2, n1_sub, n1_eq, n1_eq', n1_le, n1_ge, n1_lt, n1_gt, z_10, z_01, z_0lt, z_0ge, z_0c, z_0in, z_0a, z_a0, z_01a, bI_f, bI_f0, t0f, t1f, cl_f, wq_some, wq_ite, wq_chk, wq_zok, wq_bind, wq_lpB, ks_l, ks_r, up2_s, up2_n, u_e, u_n]
  refine ⟨r1, r2, fun g => ⟨r1, r2, ?_⟩, fun g => ⟨r2, ?_⟩⟩
  · have e : cp n d (pa d a) 0 = a := hw.1.2.2 _ _ h3 ha g
    have e : pa d a + 1 = a := e
    rw [hC, vp_nar_byte, NV_b hw.1]
    refine ⟨sm_up (by decide) sm_rf, fun y => ?_, fun y => ?_⟩
    · try rw [up2_s]
      by_cases g : y = row (pa d a)
      · rw [g, u_e, if_pos ⟨e, rfl⟩]
      · rw [u_n g, if_neg (fun q => g q.2)]
    · try rw [up2_n (by decide)]
      rw [if_neg (fun q => by omega)]
  · have hK0 : K ≠ 0 := fun e => g (by rw [e] at hKa; rw [hKa])
    have := dk_unlink_lp hw hT hp hK (NV n row d a) (by rw [hKa]; exact hC) (NV_b hw.1) (nI (row (pa d a))) (K - 1) 0 (by omega)
    rw [hKa] at this
    have hlt : pa d a + 1 < a := by
      have := cp_inj hw.2 hp (hc_le hK (by omega : K ≤ K + 1)) (by omega : 0 < K)
      rw [hKa] at this
      exact this
    refine wq_mono this (fun r hr => ?_)
    obtain ⟨q1, q2, q3⟩ := hr
    refine ⟨q1, fun y => ?_, fun y => ?_⟩
    · rw [q2, if_neg (fun q => by omega)]
    · rw [q3]
      by_cases g : y = row (cp n d (pa d a) (K - 1))
      · rw [if_pos g, if_pos ⟨hlt, g⟩]
      · rw [if_neg g, if_neg (fun q => g q.2)]
end
