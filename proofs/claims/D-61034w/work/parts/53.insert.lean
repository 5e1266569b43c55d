/-! insert, both -/
set_option maxRecDepth 100000
/-- what a change of the tree leaves: caches empty -/
def TN (σ τ σ' τ' : dS) : Prop := sm [0, 1, 2, 3, 4, 5, 6, 7, 8, 9, 10, 11, 12, 13, 14, 15, 25, 33] σ σ' ∧ sm [0, 1, 2, 3, 4, 5, 10] τ τ' ∧ σ' 15 0 = 0 ∧ σ' 33 0 = 0 ∧ (∀ s, s < 8 → σ' 25 s = 0) ∧ (∀ s, s < 8 → τ' 10 s = 0)
/-- what an operation on the tree comes to: nothing; the model's row written anew; or a new tree -/
def TO (n : Nat) (row d nm : Nat → Nat) (vl : Nat → Int32) (σ τ σ' τ' : dS) : Prop :=
  (σ' = σ ∧ τ' = τ) ∨ (σ' = σ ∧ sm [0, 1, 2, 3, 4, 5, 10] τ τ' ∧ MT n row d nm vl τ' ∧ (∀ s, s < 8 → τ' 10 s = 0)) ∨ (TN σ τ σ' τ' ∧ ∃ (n' : Nat) (row' d' nm' : Nat → Nat) (vl' : Nat → Int32), WT n' row' d' ∧ DT n' row' d' nm' vl' σ' ∧ MT n' row' d' nm' vl' τ')
def both (x y : Option (Int32 × dS)) (R : dS → dS → Prop) : Prop := wq x (fun r => wq y (fun r' => r.1 = r'.1 ∧ R r.2 r'.2))
theorem both_i {x y : Option (Int32 × dS)} {R : dS → dS → Prop} {a : Int32} {σ' τ' : dS} (hx : x = some (a, σ')) (hy : y = some (a, τ')) (h : R σ' τ') : both x y R := ⟨_, hx, _, hy, rfl, h⟩
theorem dk_isName_y {c : Nat} (h : c < 6) : dk_isName (nI c) = some 1 := by
  apply eq_of_wq
  unfold dk_isName dk_isName_b0
  simp (disch := first | omega | with_reducible assumption) only [l_2, l_3, l_4, l_5, l_6, l_7, l_8, l_9, l_10, l_11, l_12, l_13, l_14, l_15, l_16, l_17, l_23, l_24, l_40, l_100, l_320, l_383, nI_add, pk_mul, z_sub, z_lt0, z_ge0, z_e0, z_le0, z_gt0, z_lt, z_le, z_eq, z_cl, z_in, z_m1lt, z_m1ge, z_nm1, z_m1n, n1_add, n1_ad2, n1_sub, n1_eq, n1_eq', n1_le, n1_ge, n1_lt, n1_gt, z_10, z_01, z_0lt, z_0ge, z_0c, z_0in, z_0a, z_a0, z_01a, bI_f, bI_f0, t0f, t1f, cl_f, wi_t, wi_f, wc_n, wc_0, wz_0, wz_1, wq_some, wq_bind, wq_lpB, ks_l, ks_r, up2_s, up2_n, u_e, u_n, if_true, if_false, ite_true, ite_false]
theorem dk_isName_n {v : Int32} (h : v < 0 ∨ nI 6 ≤ v) : dk_isName v = some 0 := by
  unfold dk_isName dk_isName_b0
  by_cases h1 : v < 0
  · rw [if_pos h1]
  · rcases h with h | h
    · exact absurd h h1
    · rw [if_neg h1, if_pos (show (6 : Int32) ≤ v from h)]
theorem md_in_nat {c b : Nat} (h : c ≤ b) (hb : b < 2147483648) : md_in (nI c) 0 (nI b) = some 1 := md_in_y (fun g => by rw [z_lt0 (by omega)] at g; exact g) (fun g => by rw [z_lt (by omega) (by omega)] at g; omega)
theorem md_in_out {v : Int32} {b : Nat} (hb : b + 1 < 2147483648) (h : v < 0 ∨ nI (b + 1) ≤ v) : md_in v 0 (nI b) = some 0 := by
  refine md_in_n ?_
  rcases h with h | h
  · exact Or.inl h
  · right
    rw [Int32.le_iff_toInt_le, z_toInt hb] at h
    rw [Int32.lt_iff_toInt_lt, z_toInt (by omega)]
    omega
theorem rw24_ins {n m a : Nat} {row rb : Nat → Nat} (hr : rw24 n row) (hnm : n + m ≤ 24) (ha : a ≤ n) (hb : ∀ j, j < m → rb j < 24) (hbi : ∀ i j, i < m → j < m → rb i = rb j → i = j) (hd : ∀ i j, i < n → j < m → row i ≠ rb j) : rw24 (n + m) (ins a m row rb) := by
  refine ⟨hnm, fun i hi => ?_, fun i j hi hj e => ?_⟩
  · rcases ins_cut (a := a) (m := m) i with g | ⟨j, g1, rfl⟩ | ⟨k, g1, rfl⟩
    · rw [ins_l g]; exact hr.2.1 i (by omega)
    · rw [ins_m g1]; exact hb j g1
    · rw [ins_r g1]; exact hr.2.1 k (by omega)
  · rcases ins_cut (a := a) (m := m) i with g | ⟨x, g1, rfl⟩ | ⟨k, g1, rfl⟩
    · rw [ins_l g] at e
      rcases ins_cut (a := a) (m := m) j with q | ⟨y, q1, rfl⟩ | ⟨l, q1, rfl⟩
      · rw [ins_l q] at e; exact hr.2.2 _ _ (by omega) (by omega) e
      · rw [ins_m q1] at e; exact absurd e (hd i y (by omega) q1)
      · rw [ins_r q1] at e; have := hr.2.2 _ _ (by omega) (by omega) e; omega
    · rw [ins_m g1] at e
      rcases ins_cut (a := a) (m := m) j with q | ⟨y, q1, rfl⟩ | ⟨l, q1, rfl⟩
      · rw [ins_l q] at e; exact absurd e.symm (hd j x (by omega) g1)
      · rw [ins_m q1] at e; have := hbi _ _ g1 q1 e; omega
      · rw [ins_r q1] at e; exact absurd e.symm (hd l x (by omega) g1)
    · rw [ins_r g1] at e
      rcases ins_cut (a := a) (m := m) j with q | ⟨y, q1, rfl⟩ | ⟨l, q1, rfl⟩
      · rw [ins_l q] at e; have := hr.2.2 _ _ (by omega) (by omega) e; omega
      · rw [ins_m q1] at e; exact absurd e (hd k y (by omega) q1)
      · rw [ins_r q1] at e; have := hr.2.2 _ _ (by omega) (by omega) e; omega
section
variable {n : Nat} {row d nm : Nat → Nat} {vl : Nat → Int32}
theorem dk_insert_lp {Q : Int32 × dS → Prop} {σ : dS} {u : Nat} {v1 v2 v3 : Int32} (hw : WT n row d) (h : DT n row d nm vl σ) (hu : u < 24) (hu1 : ∀ i, i < n → row i ≠ u) (hu2 : ∀ k, k < u → ∃ i, i < n ∧ row i = k)
    (hq : wq (dk_insert_b76 v1 v2 v3 (nI u) (up2 σ 0 u (vp_nar .byte v3.toInt8.toInt32))) (ks dk_insert_st Q)) : ∀ (f k : Nat), k + f = u → wq (lp dk_insert_st (51, [v1, v2, v3, nI k], σ)) Q := by
  intro f
  induction f with
  | zero =>
    intro k hk
    have e : k = u := by omega
    subst e
    rw [dk_insert_l51]; unfold dk_insert_b51
    simp (disch := first | omega | with_reducible assumption) only [l_2, l_3, l_4, l_5, l_6, l_7, l_8, l_9, l_10, l_11, l_12, l_13, l_14, l_15, l_16, l_17, l_23, l_24, l_40, l_100, l_320, l_383, nI_add, pk_mul, z_sub, z_lt0, z_ge0, z_e0, z_le0, z_gt0, z_lt, z_le, z_eq, z_cl, z_in, z_m1lt, z_m1ge, z_nm1, z_m1n, n1_add, n1_ad2, n1_sub, n1_eq, n1_eq', n1_le, n1_ge, n1_lt, n1_gt, z_10, z_01, z_0lt, z_0ge, z_0c, z_0in, z_0a, z_a0, z_01a, bI_f, bI_f0, t0f, t1f, cl_f, wi_t, wi_f, wc_n, wc_0, wz_0, wz_1, wq_some, wq_bind, wq_lpB, ks_l, ks_r, up2_s, up2_n, u_e, u_n, if_true, if_false, ite_true, ite_false]
    rw [h.2.2.2.2.2 k hu hu1]
    simp (disch := first | omega | with_reducible assumption) only [l_2, l_3, l_4, l_5, l_6, l_7, l_8, l_9, l_10, l_11, l_12, l_13, l_14, l_15, l_16, l_17, l_23, l_24, l_40, l_100, l_320, l_383, nI_add, pk_mul, z_sub, z_lt0, z_ge0, z_e0, z_le0, z_gt0, z_lt, z_le, z_eq, z_cl, z_in, z_m1lt, z_m1ge, z_nm1, z_m1n, n1_add, n1_ad2, n1_sub, n1_eq, n1_eq', n1_le, n1_ge, n1_lt, n1_gt, z_10, z_01, z_0lt, z_0ge, z_0c, z_0in, z_0a, z_a0, z_01a, bI_f, bI_f0, t0f, t1f, cl_f, wi_t, wi_f, wc_n, wc_0, wz_0, wz_1, wq_some, wq_bind, wq_lpB, ks_l, ks_r, up2_s, up2_n, u_e, u_n, if_true, if_false, ite_true, ite_false]
    exact hq
  | succ f ih =>
    intro k hk
    obtain ⟨i, h1, h2⟩ := hu2 k (by omega)
    obtain ⟨m1, m2, m3⟩ := h.2.2.2.2.1 i h1
    rw [dk_insert_l51]; unfold dk_insert_b51
    simp (disch := first | omega | with_reducible assumption) only [l_2, l_3, l_4, l_5, l_6, l_7, l_8, l_9, l_10, l_11, l_12, l_13, l_14, l_15, l_16, l_17, l_23, l_24, l_40, l_100, l_320, l_383, nI_add, pk_mul, z_sub, z_lt0, z_ge0, z_e0, z_le0, z_gt0, z_lt, z_le, z_eq, z_cl, z_in, z_m1lt, z_m1ge, z_nm1, z_m1n, n1_add, n1_ad2, n1_sub, n1_eq, n1_eq', n1_le, n1_ge, n1_lt, n1_gt, z_10, z_01, z_0lt, z_0ge, z_0c, z_0in, z_0a, z_a0, z_01a, bI_f, bI_f0, t0f, t1f, cl_f, wi_t, wi_f, wc_n, wc_0, wz_0, wz_1, wq_some, wq_bind, wq_lpB, ks_l, ks_r, up2_s, up2_n, u_e, u_n, if_true, if_false, ite_true, ite_false]
    rw [← h2, m1]
    simp (disch := first | omega | with_reducible assumption) only [l_2, l_3, l_4, l_5, l_6, l_7, l_8, l_9, l_10, l_11, l_12, l_13, l_14, l_15, l_16, l_17, l_23, l_24, l_40, l_100, l_320, l_383, nI_add, pk_mul, z_sub, z_lt0, z_ge0, z_e0, z_le0, z_gt0, z_lt, z_le, z_eq, z_cl, z_in, z_m1lt, z_m1ge, z_nm1, z_m1n, n1_add, n1_ad2, n1_sub, n1_eq, n1_eq', n1_le, n1_ge, n1_lt, n1_gt, z_10, z_01, z_0lt, z_0ge, z_0c, z_0in, z_0a, z_a0, z_01a, bI_f, bI_f0, t0f, t1f, cl_f, wi_t, wi_f, wc_n, wc_0, wz_0, wz_1, wq_some, wq_bind, wq_lpB, ks_l, ks_r, up2_s, up2_n, u_e, u_n, if_true, if_false, ite_true, ite_false]
    rw [h2]
    exact ih (k + 1) (by omega)
theorem isS_cp (hw : wfT n d) {p K : Nat} (hp : p < n) (hK : hc n d p K) (h : p + 1 < cp n d p K) : isS n d p (cp n d p K) (d p + 1) (cp n d p (K - 1)) := by
  have hK0 : K ≠ 0 := fun e => by
    rw [e] at h
    have h : p + 1 < p + 1 := h
    omega
  obtain ⟨k, rfl⟩ : ∃ k, K = k + 1 := ⟨K - 1, by omega⟩
  obtain ⟨h1, h2⟩ := hc_s.mp hK
  have hs := cp_spec hw hp h1
  rw [show k + 1 - 1 = k by omega]
  refine ⟨by omega, ?_, hs.2.2.1 h2, rfl⟩
  rw [cp_s]
  exact bh_lt (by have := bh_le (n := n) (d := d) hp; omega)
/-- a node u with name c is made, child K of place p -/
theorem dk_insert_run {Q : Int32 × dS → Prop} {σ : dS} {u p K c : Nat} (hw : WT n row d) (h : DT n row d nm vl σ) (hn : n < 24) (hc6 : c < 6) (hu : u < 24) (hu1 : ∀ i, i < n → row i ≠ u) (hp : p < n) (hK : hc n d p K)
    (hq : ∀ σ', sm [0, 1, 2, 3, 4, 5, 6, 15, 25, 33] σ σ' → σ' 15 0 = 0 → σ' 33 0 = 0 → (∀ s, s < 8 → σ' 25 s = 0) → DT (n + 1) (ins (cp n d p K) 1 row (fun _ => u)) (ins (cp n d p K) 1 d (fun _ => d p + 1)) (fun x => if x = u then c else nm x) (upd vl u 0) σ' → Q (nI u, σ')) :
    wq (dk_insert_b76 (nI (row p)) (nI K) (nI c) (nI u) (up2 σ 0 u (vp_nar .byte (nI c).toInt8.toInt32))) (ks dk_insert_st Q) := by
  obtain ⟨d1, d2, d3, d4, d5, d6⟩ := h
  have hA := okA_cp hw.2 hp hK
  have hB : okB 1 (fun _ => d p + 1) (d p + 1) := ⟨by omega, rfl, fun j h1 h2 => by omega, fun j h1 => by omega⟩
  have r0 := hw.1.2.1 0 (by omega)
  unfold dk_insert_b76 dk_insert_b84 dk_insert_b92 dk_insert_b100 dk_insert_b110
  rw [z_b (by omega : c < 128), z_nb (by omega : c < 128), z_nbm1]
  simp (disch := first | omega | with_reducible assumption) only [l_2, l_3, l_4, l_5, l_6, l_7, l_8, l_9, l_10, l_11, l_12, l_13, l_14, l_15, l_16, l_17, l_23, l_24, l_40, l_100, l_320, l_383, nI_add, pk_mul, z_sub, z_lt0, z_ge0, z_e0, z_le0, z_gt0, z_lt, z_le, z_eq, z_cl, z_in, z_m1lt, z_m1ge, z_nm1, z_m1n, n1_add, n1_ad2, n1_sub, n1_eq, n1_eq', n1_le, n1_ge, n1_lt, n1_gt, z_10, z_01, z_0lt, z_0ge, z_0c, z_0in, z_0a, z_a0, z_01a, bI_f, bI_f0, t0f, t1f, cl_f, wi_t, wi_f, wc_n, wc_0, wz_0, wz_1, wq_some, wq_bind, wq_lpB, ks_l, ks_r, up2_s, up2_n, u_e, u_n, if_true, if_false, ite_true, ite_false]
  rw [d1, d2, if_neg (show ¬ n = 0 by omega)]
  simp (disch := first | omega | with_reducible assumption) only [l_2, l_3, l_4, l_5, l_6, l_7, l_8, l_9, l_10, l_11, l_12, l_13, l_14, l_15, l_16, l_17, l_23, l_24, l_40, l_100, l_320, l_383, nI_add, pk_mul, z_sub, z_lt0, z_ge0, z_e0, z_le0, z_gt0, z_lt, z_le, z_eq, z_cl, z_in, z_m1lt, z_m1ge, z_nm1, z_m1n, n1_add, n1_ad2, n1_sub, n1_eq, n1_eq', n1_le, n1_ge, n1_lt, n1_gt, z_10, z_01, z_0lt, z_0ge, z_0c, z_0in, z_0a, z_a0, z_01a, bI_f, bI_f0, t0f, t1f, cl_f, wi_t, wi_f, wc_n, wc_0, wz_0, wz_1, wq_some, wq_bind, wq_lpB, ks_l, ks_r, up2_s, up2_n, u_e, u_n, if_true, if_false, ite_true, ite_false]
  have hT1 : PT n row d (up2 (up2 (up2 (up2 (up2 σ 0 u (nI c)) 1 u 0) 3 u (-1)) 4 u (-1)) 6 0 (nI (n + 1))) := by
    refine ⟨fun i hi => ?_, fun i h0 hi => ?_, fun i h0 hi => ?_⟩
    · simp (disch := first | omega | with_reducible assumption) only [up2_s, up2_n, u_e, u_n]; rw [u_n (hu1 i hi)]; exact d3.1 i hi
    · simp (disch := first | omega | with_reducible assumption) only [up2_s, up2_n, u_e, u_n]; rw [u_n (hu1 i hi)]; exact d3.2.1 i h0 hi
    · simp (disch := first | omega | with_reducible assumption) only [up2_s, up2_n, u_e, u_n]; exact d3.2.2 i h0 hi
  refine wq_mono (dk_link_sp hw hT1 hp hu hK) (fun r hr => ?_)
  obtain ⟨r1, r2, r3, r4⟩ := hr
  unfold dk_insert_b142
  simp (disch := first | omega | with_reducible assumption) only [l_2, l_3, l_4, l_5, l_6, l_7, l_8, l_9, l_10, l_11, l_12, l_13, l_14, l_15, l_16, l_17, l_23, l_24, l_40, l_100, l_320, l_383, nI_add, pk_mul, z_sub, z_lt0, z_ge0, z_e0, z_le0, z_gt0, z_lt, z_le, z_eq, z_cl, z_in, z_m1lt, z_m1ge, z_nm1, z_m1n, n1_add, n1_ad2, n1_sub, n1_eq, n1_eq', n1_le, n1_ge, n1_lt, n1_gt, z_10, z_01, z_0lt, z_0ge, z_0c, z_0in, z_0a, z_a0, z_01a, bI_f, bI_f0, t0f, t1f, cl_f, wi_t, wi_f, wc_n, wc_0, wz_0, wz_1, wq_some, wq_bind, wq_lpB, ks_l, ks_r, up2_s, up2_n, u_e, u_n, if_true, if_false, ite_true, ite_false]
  refine wq_mono (dk_changed_sp r.2) (fun s hs => ?_)
  obtain ⟨s1, s2, s3, s4⟩ := hs
  unfold dk_insert_b146
  simp (disch := first | omega | with_reducible assumption) only [l_2, l_3, l_4, l_5, l_6, l_7, l_8, l_9, l_10, l_11, l_12, l_13, l_14, l_15, l_16, l_17, l_23, l_24, l_40, l_100, l_320, l_383, nI_add, pk_mul, z_sub, z_lt0, z_ge0, z_e0, z_le0, z_gt0, z_lt, z_le, z_eq, z_cl, z_in, z_m1lt, z_m1ge, z_nm1, z_m1n, n1_add, n1_ad2, n1_sub, n1_eq, n1_eq', n1_le, n1_ge, n1_lt, n1_gt, z_10, z_01, z_0lt, z_0ge, z_0c, z_0in, z_0a, z_a0, z_01a, bI_f, bI_f0, t0f, t1f, cl_f, wi_t, wi_f, wc_n, wc_0, wz_0, wz_1, wq_some, wq_bind, wq_lpB, ks_l, ks_r, up2_s, up2_n, u_e, u_n, if_true, if_false, ite_true, ite_false]
  have hS : sm [0, 1, 2, 3, 4, 5, 6, 15, 25, 33] σ s.2 := by
    refine sm_tr (sm_tr ?_ (sm_sub r1 (by decide))) (sm_sub s1 (by decide))
    (repeat (refine sm_up (by decide) ?_)); first | exact sm_rf | assumption
  refine hq _ hS s2 s3 s4 ?_
  have hb0 : p + 1 < cp n d p K → isS n d p (cp n d p K) (d p + 1) (cp n d p (K - 1)) := isS_cp hw.2 hp hK
  have hPT := link_pt (rb := fun _ => u) (g := fun _ => d p + 1) (m := 1) (b := cp n d p (K - 1)) (σ' := s.2) hw.2 hA hB hT1 ⟨fun i hi => ?_, fun i h0 hi => by omega, fun i h0 hi => by omega⟩ (fun i j hi _ => hu1 i hi) hw.1.2.2 (fun i j hi hj _ => by omega) hb0 (fun x => ?_) (fun x => ?_) (fun x => ?_)
  · have hcp := (cp_spec hw.2 hp hK).1
    have hi0 : ins (cp n d p K) 1 row (fun _ => u) 0 = row 0 := ins_l (by omega)
    have nu0 := hu1 0 (by omega)
    refine ⟨?_, ?_, hPT, fun _ => ?_, fun i hi => ?_, fun k hk hne => ?_⟩
    · rw [s1 6 (by decide), r1 6 (by decide)]; simp (disch := first | omega | with_reducible assumption) only [up2_s, up2_n, u_e, u_n]
    · rw [if_neg (by omega), s1 5 (by decide), r1 5 (by decide), hi0]; simp (disch := first | omega | with_reducible assumption) only [up2_s, up2_n, u_e, u_n]; rw [d2, if_neg (by omega)]
    · rw [hi0, s1 2 (by decide), s1 4 (by decide), r2, r4, if_neg nu0, if_neg, if_neg nu0]
      · simp (disch := first | omega | with_reducible assumption) only [up2_s, up2_n, u_e, u_n]; exact d4 (by omega)
      · rintro ⟨g1, g2⟩
        have := hb0 g1
        have := hw.1.2.2 _ _ (by omega) (by have := this.2.1; have := hA.2.1; omega) g2
        have := (hb0 g1).1
        omega
    · rw [s1 0 (by decide), s1 1 (by decide), r1 0 (by decide), r1 1 (by decide)]
      simp (disch := first | omega | with_reducible assumption) only [up2_s, up2_n, u_e, u_n]
      rcases ins_cut (a := cp n d p K) (m := 1) i with g | ⟨j, g1, rfl⟩ | ⟨k, g1, rfl⟩
      · have ne := hu1 i (by have := hA.2.1; omega)
        rw [ins_l g, u_n ne, u_n ne, if_neg ne, u_n ne]
        exact d5 i (by have := hA.2.1; omega)
      · rw [ins_m g1, u_e, u_e, if_pos rfl, u_e]
        exact ⟨rfl, hc6, rfl⟩
      · have ne := hu1 k (by omega)
        rw [ins_r g1, u_n ne, u_n ne, if_neg ne, u_n ne]
        exact d5 k (by omega)
    · rw [s1 0 (by decide), r1 0 (by decide)]
      simp (disch := first | omega | with_reducible assumption) only [up2_s, up2_n, u_e, u_n]
      have ne : k ≠ u := fun e => hne (cp n d p K + 0) (by have := hA.2.1; omega) (by rw [ins_m (by omega), e])
      rw [u_n ne]
      refine d6 k hk (fun i hi e => ?_)
      by_cases g : i < cp n d p K
      · exact hne i (by omega) (by rw [ins_l g]; exact e)
      · exact hne (i + 1) (by omega) (by rw [ins_r (by omega)]; exact e)
  · simp (disch := first | omega | with_reducible assumption) only [up2_s, up2_n, u_e, u_n]; unfold FV; exact (if_neg (fun g => by omega)).symm
  · rw [s1 2 (by decide), r2]
  · rw [s1 3 (by decide), r3]
  · rw [s1 4 (by decide), r4]
theorem dk_insert_run0 {Q : Int32 × dS → Prop} {σ : dS} {v1 v2 : Int32} {c u : Nat} (h : DT 0 row d nm vl σ) (hc6 : c < 6) (hu : u < 24)
    (hq : ∀ σ', sm [0, 1, 2, 3, 4, 5, 6, 15, 25, 33] σ σ' → σ' 15 0 = 0 → σ' 33 0 = 0 → (∀ s, s < 8 → σ' 25 s = 0) → DT (0 + 1) (ins 0 1 row (fun _ => u)) (ins 0 1 d (fun _ => 0)) (fun x => if x = u then c else nm x) (upd vl u 0) σ' → Q (nI u, σ')) :
    wq (dk_insert_b76 v1 v2 (nI c) (nI u) (up2 σ 0 u (vp_nar .byte (nI c).toInt8.toInt32))) (ks dk_insert_st Q) := by
  obtain ⟨d1, d2, d3, d4, d5, d6⟩ := h
  unfold dk_insert_b76 dk_insert_b84 dk_insert_b92 dk_insert_b100 dk_insert_b110 dk_insert_b134
  rw [z_b (by omega : c < 128), z_nb (by omega : c < 128), z_nbm1]
  simp (disch := first | omega | with_reducible assumption) only [l_2, l_3, l_4, l_5, l_6, l_7, l_8, l_9, l_10, l_11, l_12, l_13, l_14, l_15, l_16, l_17, l_23, l_24, l_40, l_100, l_320, l_383, nI_add, pk_mul, z_sub, z_lt0, z_ge0, z_e0, z_le0, z_gt0, z_lt, z_le, z_eq, z_cl, z_in, z_m1lt, z_m1ge, z_nm1, z_m1n, n1_add, n1_ad2, n1_sub, n1_eq, n1_eq', n1_le, n1_ge, n1_lt, n1_gt, z_10, z_01, z_0lt, z_0ge, z_0c, z_0in, z_0a, z_a0, z_01a, bI_f, bI_f0, t0f, t1f, cl_f, wi_t, wi_f, wc_n, wc_0, wz_0, wz_1, wq_some, wq_bind, wq_lpB, ks_l, ks_r, up2_s, up2_n, u_e, u_n, if_true, if_false, ite_true, ite_false]
  rw [d1, d2, if_pos rfl]
  simp (disch := first | omega | with_reducible assumption) only [l_2, l_3, l_4, l_5, l_6, l_7, l_8, l_9, l_10, l_11, l_12, l_13, l_14, l_15, l_16, l_17, l_23, l_24, l_40, l_100, l_320, l_383, nI_add, pk_mul, z_sub, z_lt0, z_ge0, z_e0, z_le0, z_gt0, z_lt, z_le, z_eq, z_cl, z_in, z_m1lt, z_m1ge, z_nm1, z_m1n, n1_add, n1_ad2, n1_sub, n1_eq, n1_eq', n1_le, n1_ge, n1_lt, n1_gt, z_10, z_01, z_0lt, z_0ge, z_0c, z_0in, z_0a, z_a0, z_01a, bI_f, bI_f0, t0f, t1f, cl_f, wi_t, wi_f, wc_n, wc_0, wz_0, wz_1, wq_some, wq_bind, wq_lpB, ks_l, ks_r, up2_s, up2_n, u_e, u_n, if_true, if_false, ite_true, ite_false]
  unfold dk_insert_b142
  simp (disch := first | omega | with_reducible assumption) only [l_2, l_3, l_4, l_5, l_6, l_7, l_8, l_9, l_10, l_11, l_12, l_13, l_14, l_15, l_16, l_17, l_23, l_24, l_40, l_100, l_320, l_383, nI_add, pk_mul, z_sub, z_lt0, z_ge0, z_e0, z_le0, z_gt0, z_lt, z_le, z_eq, z_cl, z_in, z_m1lt, z_m1ge, z_nm1, z_m1n, n1_add, n1_ad2, n1_sub, n1_eq, n1_eq', n1_le, n1_ge, n1_lt, n1_gt, z_10, z_01, z_0lt, z_0ge, z_0c, z_0in, z_0a, z_a0, z_01a, bI_f, bI_f0, t0f, t1f, cl_f, wi_t, wi_f, wc_n, wc_0, wz_0, wz_1, wq_some, wq_bind, wq_lpB, ks_l, ks_r, up2_s, up2_n, u_e, u_n, if_true, if_false, ite_true, ite_false]
  refine wq_mono (dk_changed_sp _) (fun s hs => ?_)
  obtain ⟨s1, s2, s3, s4⟩ := hs
  unfold dk_insert_b146
  simp (disch := first | omega | with_reducible assumption) only [l_2, l_3, l_4, l_5, l_6, l_7, l_8, l_9, l_10, l_11, l_12, l_13, l_14, l_15, l_16, l_17, l_23, l_24, l_40, l_100, l_320, l_383, nI_add, pk_mul, z_sub, z_lt0, z_ge0, z_e0, z_le0, z_gt0, z_lt, z_le, z_eq, z_cl, z_in, z_m1lt, z_m1ge, z_nm1, z_m1n, n1_add, n1_ad2, n1_sub, n1_eq, n1_eq', n1_le, n1_ge, n1_lt, n1_gt, z_10, z_01, z_0lt, z_0ge, z_0c, z_0in, z_0a, z_a0, z_01a, bI_f, bI_f0, t0f, t1f, cl_f, wi_t, wi_f, wc_n, wc_0, wz_0, wz_1, wq_some, wq_bind, wq_lpB, ks_l, ks_r, up2_s, up2_n, u_e, u_n, if_true, if_false, ite_true, ite_false]
  have hi0 : ∀ i, i < 0 + 1 → ins 0 1 row (fun _ => u) i = u := by
    intro i hi
    have e : i = 0 + 0 := by omega
    rw [e, ins_m (by omega)]
  refine hq _ (sm_tr ?_ (sm_sub s1 (by decide))) s2 s3 s4 ⟨?_, ?_, ⟨fun i hi => ?_, fun i h0 hi => by omega, fun i h0 hi => by omega⟩, fun _ => ?_, fun i hi => ?_, fun k hk hne => ?_⟩
  · (repeat (refine sm_up (by decide) ?_)); first | exact sm_rf | assumption
  · rw [s1 6 (by decide)]; simp (disch := first | omega | with_reducible assumption) only [up2_s, up2_n, u_e, u_n]
  · rw [if_neg (by omega), s1 5 (by decide), hi0 0 (by omega)]; simp (disch := first | omega | with_reducible assumption) only [up2_s, up2_n, u_e, u_n]
  · rw [hi0 i hi, s1 3 (by decide)]; simp (disch := first | omega | with_reducible assumption) only [up2_s, up2_n, u_e, u_n]; unfold FV; exact (if_neg (fun g => by omega)).symm
  · rw [hi0 0 (by omega), s1 2 (by decide), s1 4 (by decide)]; simp (disch := first | omega | with_reducible assumption) only [up2_s, up2_n, u_e, u_n]; exact ⟨trivial, trivial⟩
  · rw [hi0 i hi, s1 0 (by decide), s1 1 (by decide)]; simp (disch := first | omega | with_reducible assumption) only [up2_s, up2_n, u_e, u_n]; simp only [if_true]; exact ⟨trivial, hc6, trivial⟩
  · have ne : k ≠ u := fun e => hne 0 (by omega) (by rw [hi0 0 (by omega), e])
    rw [s1 0 (by decide)]; simp (disch := first | omega | with_reducible assumption) only [up2_s, up2_n, u_e, u_n]; exact d6 k hk (fun i hi => by omega)
theorem both_of {x y : Option (Int32 × dS)} {R : dS → dS → Prop} {P P' : Int32 × dS → Prop} (hx : wq x P) (hy : wq y P') (h : ∀ r r', P r → P' r' → r.1 = r'.1 ∧ R r.2 r'.2) : both x y R := by
  obtain ⟨r, h1, h2⟩ := hx
  obtain ⟨r', h3, h4⟩ := hy
  exact ⟨r, h1, r', h3, h r r' h2 h4⟩
def DIns (n : Nat) (row d nm : Nat → Nat) (vl : Nat → Int32) (u c a e : Nat) (σ : dS) (r : Int32 × dS) : Prop := r.1 = nI u ∧ sm [0, 1, 2, 3, 4, 5, 6, 15, 25, 33] σ r.2 ∧ r.2 15 0 = 0 ∧ r.2 33 0 = 0 ∧ (∀ s, s < 8 → r.2 25 s = 0) ∧ DT (n + 1) (ins a 1 row (fun _ => u)) (ins a 1 d (fun _ => e)) (fun x => if x = u then c else nm x) (upd vl u 0) r.2
def MIns (n : Nat) (row d nm : Nat → Nat) (vl : Nat → Int32) (u c a e : Nat) (τ : dS) (r : Int32 × dS) : Prop := r.1 = nI u ∧ sm [0, 1, 2, 3, 5, 10] τ r.2 ∧ (∀ s, s < 8 → r.2 10 s = 0) ∧ MT (n + 1) (ins a 1 row (fun _ => u)) (ins a 1 d (fun _ => e)) (fun x => if x = u then c else nm x) (upd vl u 0) r.2
theorem md_insert_go {τ : dS} {a u c e : Nat} {v1 v2 : Int32} (hw : WT n row d) (h : MT n row d nm vl τ) (hn : n < 24) (ha : a ≤ n) (hu : u < 24) (hu1 : ∀ i, i < n → row i ≠ u) (hu2 : ∀ k, k < u → ∃ i, i < n ∧ row i = k) : wq (lp md_insert_st (80, [v1, v2, nI c, nI a, nI e, 0], τ)) (MIns n row d nm vl u c a e τ) := by
  refine md_insert_run hw h hn ha hu hu1 hu2 (fun τ' b1 b2 b3 b4 b5 b6 b7 => ⟨rfl, b1, b7, MT_ins b2 b3 ha (fun i hi => ?_) (fun j hj => ?_)⟩)
  · have ne := hu1 i hi
    show τ' 1 (row i) = _ ∧ τ' 2 (row i) = nI (if row i = u then c else nm (row i)) ∧ τ' 3 (row i) = upd vl u 0 (row i)
    rw [b4, b5, b6, u_n ne, u_n ne, u_n ne, if_neg ne, u_n ne]
    exact (h.2 i hi).2
  · show τ' 1 u = _ ∧ τ' 2 u = nI (if u = u then c else nm u) ∧ τ' 3 u = upd vl u 0 u
    rw [b4, b5, b6, u_e, u_e, u_e, if_pos rfl, u_e]
    exact ⟨rfl, rfl, rfl⟩
theorem ins_to {σ τ : dS} {u c a e : Nat} {r r' : Int32 × dS} (hw' : WT (n + 1) (ins a 1 row (fun _ => u)) (ins a 1 d (fun _ => e))) (h : DIns n row d nm vl u c a e σ r) (h' : MIns n row d nm vl u c a e τ r') : r.1 = r'.1 ∧ TO n row d nm vl σ τ r.2 r'.2 := by
  obtain ⟨a0, a1, a2, a3, a4, a5⟩ := h
  obtain ⟨b0, b1, b2, b3⟩ := h'
  exact ⟨by rw [a0, b0], Or.inr (Or.inr ⟨⟨sm_sub a1 (by decide), sm_sub b1 (by decide), a2, a3, a4, b2⟩, _, _, _, _, _, hw', a5, b3⟩)⟩
/-- insert answers alike -/
theorem insert_both {σ τ : dS} (hw : WT n row d) (hD : DT n row d nm vl σ) (hM : MT n row d nm vl τ) (v1 v2 v3 : Int32) : both (dk_insert v1 v2 v3 σ) (md_insert v1 v2 v3 τ) (TO n row d nm vl σ τ) := by
  have hn24 := hw.1.1
  obtain ⟨d1, d2, d3, d4, d5, d6⟩ := id hD
  unfold dk_insert dk_insert_b0 md_insert md_insert_b0
  by_cases hv3 : v3 < 0 ∨ nI 6 ≤ v3
  · rw [dk_isName_n hv3, l_5, md_in_out (by omega) hv3]
    refine both_i (a := -1) (σ' := σ) (τ' := τ) ?_ ?_ (Or.inl ⟨rfl, rfl⟩)
    · apply eq_of_wq; unfold dk_insert_b4; simp (disch := first | omega | with_reducible assumption) only [l_2, l_3, l_4, l_5, l_6, l_7, l_8, l_9, l_10, l_11, l_12, l_13, l_14, l_15, l_16, l_17, l_23, l_24, l_40, l_100, l_320, l_383, nI_add, pk_mul, z_sub, z_lt0, z_ge0, z_e0, z_le0, z_gt0, z_lt, z_le, z_eq, z_cl, z_in, z_m1lt, z_m1ge, z_nm1, z_m1n, n1_add, n1_ad2, n1_sub, n1_eq, n1_eq', n1_le, n1_ge, n1_lt, n1_gt, z_10, z_01, z_0lt, z_0ge, z_0c, z_0in, z_0a, z_a0, z_01a, bI_f, bI_f0, t0f, t1f, cl_f, wi_t, wi_f, wc_n, wc_0, wz_0, wz_1, wq_some, wq_bind, wq_lpB, ks_l, ks_r, up2_s, up2_n, u_e, u_n, if_true, if_false, ite_true, ite_false]
    · apply eq_of_wq; unfold md_insert_b6; simp (disch := first | omega | with_reducible assumption) only [l_2, l_3, l_4, l_5, l_6, l_7, l_8, l_9, l_10, l_11, l_12, l_13, l_14, l_15, l_16, l_17, l_23, l_24, l_40, l_100, l_320, l_383, nI_add, pk_mul, z_sub, z_lt0, z_ge0, z_e0, z_le0, z_gt0, z_lt, z_le, z_eq, z_cl, z_in, z_m1lt, z_m1ge, z_nm1, z_m1n, n1_add, n1_ad2, n1_sub, n1_eq, n1_eq', n1_le, n1_ge, n1_lt, n1_gt, z_10, z_01, z_0lt, z_0ge, z_0c, z_0in, z_0a, z_a0, z_01a, bI_f, bI_f0, t0f, t1f, cl_f, wi_t, wi_f, wc_n, wc_0, wz_0, wz_1, wq_some, wq_bind, wq_lpB, ks_l, ks_r, up2_s, up2_n, u_e, u_n, if_true, if_false, ite_true, ite_false]
  obtain ⟨c, hc6, rfl⟩ : ∃ c, c < 6 ∧ v3 = nI c := by
    rcases z_cut v3 (n := 6) (by omega) with g | g | g
    · exact absurd (Or.inl g) hv3
    · exact absurd (Or.inr g) hv3
    · exact g
  rw [dk_isName_y hc6, l_5, md_in_nat (by omega) (by omega)]
  by_cases h24 : n = 24
  · refine both_i (a := -1) (σ' := σ) (τ' := τ) ?_ ?_ (Or.inl ⟨rfl, rfl⟩)
    · apply eq_of_wq; unfold dk_insert_b4; simp (disch := first | omega | with_reducible assumption) only [l_2, l_3, l_4, l_5, l_6, l_7, l_8, l_9, l_10, l_11, l_12, l_13, l_14, l_15, l_16, l_17, l_23, l_24, l_40, l_100, l_320, l_383, nI_add, pk_mul, z_sub, z_lt0, z_ge0, z_e0, z_le0, z_gt0, z_lt, z_le, z_eq, z_cl, z_in, z_m1lt, z_m1ge, z_nm1, z_m1n, n1_add, n1_ad2, n1_sub, n1_eq, n1_eq', n1_le, n1_ge, n1_lt, n1_gt, z_10, z_01, z_0lt, z_0ge, z_0c, z_0in, z_0a, z_a0, z_01a, bI_f, bI_f0, t0f, t1f, cl_f, wi_t, wi_f, wc_n, wc_0, wz_0, wz_1, wq_some, wq_bind, wq_lpB, ks_l, ks_r, up2_s, up2_n, u_e, u_n, if_true, if_false, ite_true, ite_false]; rw [d1]; simp (disch := first | omega | with_reducible assumption) only [l_2, l_3, l_4, l_5, l_6, l_7, l_8, l_9, l_10, l_11, l_12, l_13, l_14, l_15, l_16, l_17, l_23, l_24, l_40, l_100, l_320, l_383, nI_add, pk_mul, z_sub, z_lt0, z_ge0, z_e0, z_le0, z_gt0, z_lt, z_le, z_eq, z_cl, z_in, z_m1lt, z_m1ge, z_nm1, z_m1n, n1_add, n1_ad2, n1_sub, n1_eq, n1_eq', n1_le, n1_ge, n1_lt, n1_gt, z_10, z_01, z_0lt, z_0ge, z_0c, z_0in, z_0a, z_a0, z_01a, bI_f, bI_f0, t0f, t1f, cl_f, wi_t, wi_f, wc_n, wc_0, wz_0, wz_1, wq_some, wq_bind, wq_lpB, ks_l, ks_r, up2_s, up2_n, u_e, u_n, if_true, if_false, ite_true, ite_false]
    · apply eq_of_wq; unfold md_insert_b6; simp (disch := first | omega | with_reducible assumption) only [l_2, l_3, l_4, l_5, l_6, l_7, l_8, l_9, l_10, l_11, l_12, l_13, l_14, l_15, l_16, l_17, l_23, l_24, l_40, l_100, l_320, l_383, nI_add, pk_mul, z_sub, z_lt0, z_ge0, z_e0, z_le0, z_gt0, z_lt, z_le, z_eq, z_cl, z_in, z_m1lt, z_m1ge, z_nm1, z_m1n, n1_add, n1_ad2, n1_sub, n1_eq, n1_eq', n1_le, n1_ge, n1_lt, n1_gt, z_10, z_01, z_0lt, z_0ge, z_0c, z_0in, z_0a, z_a0, z_01a, bI_f, bI_f0, t0f, t1f, cl_f, wi_t, wi_f, wc_n, wc_0, wz_0, wz_1, wq_some, wq_bind, wq_lpB, ks_l, ks_r, up2_s, up2_n, u_e, u_n, if_true, if_false, ite_true, ite_false]; rw [hM.1]; simp (disch := first | omega | with_reducible assumption) only [l_2, l_3, l_4, l_5, l_6, l_7, l_8, l_9, l_10, l_11, l_12, l_13, l_14, l_15, l_16, l_17, l_23, l_24, l_40, l_100, l_320, l_383, nI_add, pk_mul, z_sub, z_lt0, z_ge0, z_e0, z_le0, z_gt0, z_lt, z_le, z_eq, z_cl, z_in, z_m1lt, z_m1ge, z_nm1, z_m1n, n1_add, n1_ad2, n1_sub, n1_eq, n1_eq', n1_le, n1_ge, n1_lt, n1_gt, z_10, z_01, z_0lt, z_0ge, z_0c, z_0in, z_0a, z_a0, z_01a, bI_f, bI_f0, t0f, t1f, cl_f, wi_t, wi_f, wc_n, wc_0, wz_0, wz_1, wq_some, wq_bind, wq_lpB, ks_l, ks_r, up2_s, up2_n, u_e, u_n, if_true, if_false, ite_true, ite_false]
  obtain ⟨u, hu, hu1, hu2⟩ := free_ex hw.1 (by omega)
  by_cases h0 : n = 0
  · subst h0
    refine both_of (P := DIns 0 row d nm vl u c 0 0 σ) (P' := MIns 0 row d nm vl u c 0 0 τ) ?_ ?_ (fun r r' h h' => ins_to ⟨rw24_ins hw.1 (by omega) (Nat.le_refl _) (fun j hj => hu) (fun i j hi hj _ => by omega) (fun i j hi _ => by omega), ⟨fun _ => by rw [show (0 : Nat) = 0 + 0 from rfl, ins_m (by omega)], fun i hi => by omega⟩⟩ h h')
    · unfold dk_insert_b4 dk_insert_b48
      simp (disch := first | omega | with_reducible assumption) only [l_2, l_3, l_4, l_5, l_6, l_7, l_8, l_9, l_10, l_11, l_12, l_13, l_14, l_15, l_16, l_17, l_23, l_24, l_40, l_100, l_320, l_383, nI_add, pk_mul, z_sub, z_lt0, z_ge0, z_e0, z_le0, z_gt0, z_lt, z_le, z_eq, z_cl, z_in, z_m1lt, z_m1ge, z_nm1, z_m1n, n1_add, n1_ad2, n1_sub, n1_eq, n1_eq', n1_le, n1_ge, n1_lt, n1_gt, z_10, z_01, z_0lt, z_0ge, z_0c, z_0in, z_0a, z_a0, z_01a, bI_f, bI_f0, t0f, t1f, cl_f, wi_t, wi_f, wc_n, wc_0, wz_0, wz_1, wq_some, wq_bind, wq_lpB, ks_l, ks_r, up2_s, up2_n, u_e, u_n, if_true, if_false, ite_true, ite_false]
      rw [d1, d2, if_pos rfl]
      simp (disch := first | omega | with_reducible assumption) only [l_2, l_3, l_4, l_5, l_6, l_7, l_8, l_9, l_10, l_11, l_12, l_13, l_14, l_15, l_16, l_17, l_23, l_24, l_40, l_100, l_320, l_383, nI_add, pk_mul, z_sub, z_lt0, z_ge0, z_e0, z_le0, z_gt0, z_lt, z_le, z_eq, z_cl, z_in, z_m1lt, z_m1ge, z_nm1, z_m1n, n1_add, n1_ad2, n1_sub, n1_eq, n1_eq', n1_le, n1_ge, n1_lt, n1_gt, z_10, z_01, z_0lt, z_0ge, z_0c, z_0in, z_0a, z_a0, z_01a, bI_f, bI_f0, t0f, t1f, cl_f, wi_t, wi_f, wc_n, wc_0, wz_0, wz_1, wq_some, wq_bind, wq_lpB, ks_l, ks_r, up2_s, up2_n, u_e, u_n, if_true, if_false, ite_true, ite_false]
      have := dk_insert_lp (v1 := v1) (v2 := v2) (v3 := nI c) hw hD hu hu1 hu2 (dk_insert_run0 (Q := DIns 0 row d nm vl u c 0 0 σ) hD hc6 hu (fun σ' a1 a2 a3 a4 a5 => ⟨rfl, a1, a2, a3, a4, a5⟩)) u 0 (by omega)
      rw [nI_0] at this; exact this
    · unfold md_insert_b6 md_insert_b77
      simp (disch := first | omega | with_reducible assumption) only [l_2, l_3, l_4, l_5, l_6, l_7, l_8, l_9, l_10, l_11, l_12, l_13, l_14, l_15, l_16, l_17, l_23, l_24, l_40, l_100, l_320, l_383, nI_add, pk_mul, z_sub, z_lt0, z_ge0, z_e0, z_le0, z_gt0, z_lt, z_le, z_eq, z_cl, z_in, z_m1lt, z_m1ge, z_nm1, z_m1n, n1_add, n1_ad2, n1_sub, n1_eq, n1_eq', n1_le, n1_ge, n1_lt, n1_gt, z_10, z_01, z_0lt, z_0ge, z_0c, z_0in, z_0a, z_a0, z_01a, bI_f, bI_f0, t0f, t1f, cl_f, wi_t, wi_f, wc_n, wc_0, wz_0, wz_1, wq_some, wq_bind, wq_lpB, ks_l, ks_r, up2_s, up2_n, u_e, u_n, if_true, if_false, ite_true, ite_false]
      rw [hM.1]
      simp (disch := first | omega | with_reducible assumption) only [l_2, l_3, l_4, l_5, l_6, l_7, l_8, l_9, l_10, l_11, l_12, l_13, l_14, l_15, l_16, l_17, l_23, l_24, l_40, l_100, l_320, l_383, nI_add, pk_mul, z_sub, z_lt0, z_ge0, z_e0, z_le0, z_gt0, z_lt, z_le, z_eq, z_cl, z_in, z_m1lt, z_m1ge, z_nm1, z_m1n, n1_add, n1_ad2, n1_sub, n1_eq, n1_eq', n1_le, n1_ge, n1_lt, n1_gt, z_10, z_01, z_0lt, z_0ge, z_0c, z_0in, z_0a, z_a0, z_01a, bI_f, bI_f0, t0f, t1f, cl_f, wi_t, wi_f, wc_n, wc_0, wz_0, wz_1, wq_some, wq_bind, wq_lpB, ks_l, ks_r, up2_s, up2_n, u_e, u_n, if_true, if_false, ite_true, ite_false]
      have := md_insert_go (v1 := v1) (v2 := v2) (c := c) (a := 0) (e := 0) hw hM (by omega) (Nat.le_refl _) hu hu1 hu2
      rw [nI_0] at this; exact this
  · rcases row_cut n row v1 with ⟨p, hp, rfl⟩ | hv1
    · have rp := hw.1.2.1 p hp
      by_cases hv2 : v2 < 0
      · refine both_i (a := -1) (σ' := σ) (τ' := τ) ?_ ?_ (Or.inl ⟨rfl, rfl⟩)
        · apply eq_of_wq; unfold dk_insert_b4; simp (disch := first | omega | with_reducible assumption) only [l_2, l_3, l_4, l_5, l_6, l_7, l_8, l_9, l_10, l_11, l_12, l_13, l_14, l_15, l_16, l_17, l_23, l_24, l_40, l_100, l_320, l_383, nI_add, pk_mul, z_sub, z_lt0, z_ge0, z_e0, z_le0, z_gt0, z_lt, z_le, z_eq, z_cl, z_in, z_m1lt, z_m1ge, z_nm1, z_m1n, n1_add, n1_ad2, n1_sub, n1_eq, n1_eq', n1_le, n1_ge, n1_lt, n1_gt, z_10, z_01, z_0lt, z_0ge, z_0c, z_0in, z_0a, z_a0, z_01a, bI_f, bI_f0, t0f, t1f, cl_f, wi_t, wi_f, wc_n, wc_0, wz_0, wz_1, wq_some, wq_bind, wq_lpB, ks_l, ks_r, up2_s, up2_n, u_e, u_n, if_true, if_false, ite_true, ite_false]; rw [d1, d2, if_neg h0, dk_isNode_y hw hD hp]
          have r0 := hw.1.2.1 0 (by omega)
          unfold dk_insert_b30
          simp (disch := first | omega | with_reducible assumption) only [l_2, l_3, l_4, l_5, l_6, l_7, l_8, l_9, l_10, l_11, l_12, l_13, l_14, l_15, l_16, l_17, l_23, l_24, l_40, l_100, l_320, l_383, nI_add, pk_mul, z_sub, z_lt0, z_ge0, z_e0, z_le0, z_gt0, z_lt, z_le, z_eq, z_cl, z_in, z_m1lt, z_m1ge, z_nm1, z_m1n, n1_add, n1_ad2, n1_sub, n1_eq, n1_eq', n1_le, n1_ge, n1_lt, n1_gt, z_10, z_01, z_0lt, z_0ge, z_0c, z_0in, z_0a, z_a0, z_01a, bI_f, bI_f0, t0f, t1f, cl_f, wi_t, wi_f, wc_n, wc_0, wz_0, wz_1, wq_some, wq_bind, wq_lpB, ks_l, ks_r, up2_s, up2_n, u_e, u_n, if_true, if_false, ite_true, ite_false]
        · apply eq_of_wq; unfold md_insert_b6; simp (disch := first | omega | with_reducible assumption) only [l_2, l_3, l_4, l_5, l_6, l_7, l_8, l_9, l_10, l_11, l_12, l_13, l_14, l_15, l_16, l_17, l_23, l_24, l_40, l_100, l_320, l_383, nI_add, pk_mul, z_sub, z_lt0, z_ge0, z_e0, z_le0, z_gt0, z_lt, z_le, z_eq, z_cl, z_in, z_m1lt, z_m1ge, z_nm1, z_m1n, n1_add, n1_ad2, n1_sub, n1_eq, n1_eq', n1_le, n1_ge, n1_lt, n1_gt, z_10, z_01, z_0lt, z_0ge, z_0c, z_0in, z_0a, z_a0, z_01a, bI_f, bI_f0, t0f, t1f, cl_f, wi_t, wi_f, wc_n, wc_0, wz_0, wz_1, wq_some, wq_bind, wq_lpB, ks_l, ks_r, up2_s, up2_n, u_e, u_n, if_true, if_false, ite_true, ite_false]; rw [hM.1, md_where_y hw hM hp]
          have hv2' : ¬ 0 ≤ v2 := fun g => by rw [← z_nlt'] at g; exact g hv2
          unfold md_insert_b38
          simp (disch := first | omega | with_reducible assumption) only [l_2, l_3, l_4, l_5, l_6, l_7, l_8, l_9, l_10, l_11, l_12, l_13, l_14, l_15, l_16, l_17, l_23, l_24, l_40, l_100, l_320, l_383, nI_add, pk_mul, z_sub, z_lt0, z_ge0, z_e0, z_le0, z_gt0, z_lt, z_le, z_eq, z_cl, z_in, z_m1lt, z_m1ge, z_nm1, z_m1n, n1_add, n1_ad2, n1_sub, n1_eq, n1_eq', n1_le, n1_ge, n1_lt, n1_gt, z_10, z_01, z_0lt, z_0ge, z_0c, z_0in, z_0a, z_a0, z_01a, bI_f, bI_f0, t0f, t1f, cl_f, wi_t, wi_f, wc_n, wc_0, wz_0, wz_1, wq_some, wq_bind, wq_lpB, ks_l, ks_r, up2_s, up2_n, u_e, u_n, if_true, if_false, ite_true, ite_false]
      · obtain ⟨K, hK, rfl⟩ := z_nlt hv2
        obtain ⟨M, m1, m2, m3⟩ := hc_ex hw.2 hp
        have r0 := hw.1.2.1 0 (by omega)
        by_cases hKM : hc n d p K
        · have hA := okA_cp hw.2 hp hKM
          have hB : okB 1 (fun _ => d p + 1) (d p + 1) := ⟨by omega, rfl, fun j h1 h2 => by omega, fun j h1 => by omega⟩
          have hle := hc_max m3 hKM
          refine both_of (P := DIns n row d nm vl u c (cp n d p K) (d p + 1) σ) (P' := MIns n row d nm vl u c (cp n d p K) (d p + 1) τ) ?_ ?_ (fun r r' h h' => ins_to ⟨rw24_ins hw.1 (by omega) hA.2.1 (fun j hj => hu) (fun i j hi hj _ => by omega) (fun i j hi _ => hu1 i hi), wfT_ins hw.2 hA hB⟩ h h')
          · unfold dk_insert_b4
            simp (disch := first | omega | with_reducible assumption) only [l_2, l_3, l_4, l_5, l_6, l_7, l_8, l_9, l_10, l_11, l_12, l_13, l_14, l_15, l_16, l_17, l_23, l_24, l_40, l_100, l_320, l_383, nI_add, pk_mul, z_sub, z_lt0, z_ge0, z_e0, z_le0, z_gt0, z_lt, z_le, z_eq, z_cl, z_in, z_m1lt, z_m1ge, z_nm1, z_m1n, n1_add, n1_ad2, n1_sub, n1_eq, n1_eq', n1_le, n1_ge, n1_lt, n1_gt, z_10, z_01, z_0lt, z_0ge, z_0c, z_0in, z_0a, z_a0, z_01a, bI_f, bI_f0, t0f, t1f, cl_f, wi_t, wi_f, wc_n, wc_0, wz_0, wz_1, wq_some, wq_bind, wq_lpB, ks_l, ks_r, up2_s, up2_n, u_e, u_n, if_true, if_false, ite_true, ite_false]
            rw [d1, d2, if_neg h0, dk_isNode_y hw hD hp]
            unfold dk_insert_b30
            simp (disch := first | omega | with_reducible assumption) only [l_2, l_3, l_4, l_5, l_6, l_7, l_8, l_9, l_10, l_11, l_12, l_13, l_14, l_15, l_16, l_17, l_23, l_24, l_40, l_100, l_320, l_383, nI_add, pk_mul, z_sub, z_lt0, z_ge0, z_e0, z_le0, z_gt0, z_lt, z_le, z_eq, z_cl, z_in, z_m1lt, z_m1ge, z_nm1, z_m1n, n1_add, n1_ad2, n1_sub, n1_eq, n1_eq', n1_le, n1_ge, n1_lt, n1_gt, z_10, z_01, z_0lt, z_0ge, z_0c, z_0in, z_0a, z_a0, z_01a, bI_f, bI_f0, t0f, t1f, cl_f, wi_t, wi_f, wc_n, wc_0, wz_0, wz_1, wq_some, wq_bind, wq_lpB, ks_l, ks_r, up2_s, up2_n, u_e, u_n, if_true, if_false, ite_true, ite_false]
            rw [dk_many_sp hw d3 hp m2 m3]
            unfold dk_insert_b43 dk_insert_b48
            simp (disch := first | omega | with_reducible assumption) only [l_2, l_3, l_4, l_5, l_6, l_7, l_8, l_9, l_10, l_11, l_12, l_13, l_14, l_15, l_16, l_17, l_23, l_24, l_40, l_100, l_320, l_383, nI_add, pk_mul, z_sub, z_lt0, z_ge0, z_e0, z_le0, z_gt0, z_lt, z_le, z_eq, z_cl, z_in, z_m1lt, z_m1ge, z_nm1, z_m1n, n1_add, n1_ad2, n1_sub, n1_eq, n1_eq', n1_le, n1_ge, n1_lt, n1_gt, z_10, z_01, z_0lt, z_0ge, z_0c, z_0in, z_0a, z_a0, z_01a, bI_f, bI_f0, t0f, t1f, cl_f, wi_t, wi_f, wc_n, wc_0, wz_0, wz_1, wq_some, wq_bind, wq_lpB, ks_l, ks_r, up2_s, up2_n, u_e, u_n, if_true, if_false, ite_true, ite_false]
            have := dk_insert_lp (v1 := nI (row p)) (v2 := nI K) (v3 := nI c) hw hD hu hu1 hu2 (dk_insert_run (Q := DIns n row d nm vl u c (cp n d p K) (d p + 1) σ) hw hD (by omega) hc6 hu hu1 hp hKM (fun σ' a1 a2 a3 a4 a5 => ⟨rfl, a1, a2, a3, a4, a5⟩)) u 0 (by omega)
            rw [nI_0] at this; exact this
          · unfold md_insert_b6
            simp (disch := first | omega | with_reducible assumption) only [l_2, l_3, l_4, l_5, l_6, l_7, l_8, l_9, l_10, l_11, l_12, l_13, l_14, l_15, l_16, l_17, l_23, l_24, l_40, l_100, l_320, l_383, nI_add, pk_mul, z_sub, z_lt0, z_ge0, z_e0, z_le0, z_gt0, z_lt, z_le, z_eq, z_cl, z_in, z_m1lt, z_m1ge, z_nm1, z_m1n, n1_add, n1_ad2, n1_sub, n1_eq, n1_eq', n1_le, n1_ge, n1_lt, n1_gt, z_10, z_01, z_0lt, z_0ge, z_0c, z_0in, z_0a, z_a0, z_01a, bI_f, bI_f0, t0f, t1f, cl_f, wi_t, wi_f, wc_n, wc_0, wz_0, wz_1, wq_some, wq_bind, wq_lpB, ks_l, ks_r, up2_s, up2_n, u_e, u_n, if_true, if_false, ite_true, ite_false]
            rw [hM.1, md_where_y hw hM hp]
            unfold md_insert_b38
            simp (disch := first | omega | with_reducible assumption) only [l_2, l_3, l_4, l_5, l_6, l_7, l_8, l_9, l_10, l_11, l_12, l_13, l_14, l_15, l_16, l_17, l_23, l_24, l_40, l_100, l_320, l_383, nI_add, pk_mul, z_sub, z_lt0, z_ge0, z_e0, z_le0, z_gt0, z_lt, z_le, z_eq, z_cl, z_in, z_m1lt, z_m1ge, z_nm1, z_m1n, n1_add, n1_ad2, n1_sub, n1_eq, n1_eq', n1_le, n1_ge, n1_lt, n1_gt, z_10, z_01, z_0lt, z_0ge, z_0c, z_0in, z_0a, z_a0, z_01a, bI_f, bI_f0, t0f, t1f, cl_f, wi_t, wi_f, wc_n, wc_0, wz_0, wz_1, wq_some, wq_bind, wq_lpB, ks_l, ks_r, up2_s, up2_n, u_e, u_n, if_true, if_false, ite_true, ite_false]
            refine wq_mono (md_place_sp hw hM hp hK) (fun r hr => ?_)
            rcases hr with ⟨_, rfl⟩ | ⟨g, _⟩
            · have hdp : d p < 24 := by have := wfT_le hw.2 hp; omega
              have hcn := hA.2.1
              unfold md_insert_b58 md_insert_b77
              simp (disch := first | omega | with_reducible assumption) only [l_2, l_3, l_4, l_5, l_6, l_7, l_8, l_9, l_10, l_11, l_12, l_13, l_14, l_15, l_16, l_17, l_23, l_24, l_40, l_100, l_320, l_383, nI_add, pk_mul, z_sub, z_lt0, z_ge0, z_e0, z_le0, z_gt0, z_lt, z_le, z_eq, z_cl, z_in, z_m1lt, z_m1ge, z_nm1, z_m1n, n1_add, n1_ad2, n1_sub, n1_eq, n1_eq', n1_le, n1_ge, n1_lt, n1_gt, z_10, z_01, z_0lt, z_0ge, z_0c, z_0in, z_0a, z_a0, z_01a, bI_f, bI_f0, t0f, t1f, cl_f, wi_t, wi_f, wc_n, wc_0, wz_0, wz_1, wq_some, wq_bind, wq_lpB, ks_l, ks_r, up2_s, up2_n, u_e, u_n, if_true, if_false, ite_true, ite_false]
              rw [(hM.2 p hp).2.1]
              simp (disch := first | omega | with_reducible assumption) only [l_2, l_3, l_4, l_5, l_6, l_7, l_8, l_9, l_10, l_11, l_12, l_13, l_14, l_15, l_16, l_17, l_23, l_24, l_40, l_100, l_320, l_383, nI_add, pk_mul, z_sub, z_lt0, z_ge0, z_e0, z_le0, z_gt0, z_lt, z_le, z_eq, z_cl, z_in, z_m1lt, z_m1ge, z_nm1, z_m1n, n1_add, n1_ad2, n1_sub, n1_eq, n1_eq', n1_le, n1_ge, n1_lt, n1_gt, z_10, z_01, z_0lt, z_0ge, z_0c, z_0in, z_0a, z_a0, z_01a, bI_f, bI_f0, t0f, t1f, cl_f, wi_t, wi_f, wc_n, wc_0, wz_0, wz_1, wq_some, wq_bind, wq_lpB, ks_l, ks_r, up2_s, up2_n, u_e, u_n, if_true, if_false, ite_true, ite_false]
              exact md_insert_go hw hM (by omega) hA.2.1 hu hu1 hu2
            · exact absurd hKM g
        · have hMK : M < K := by
            rcases Nat.lt_or_ge M K with g | g
            · exact g
            · exact absurd (hc_le m2 g) hKM
          refine both_i (a := -1) (σ' := σ) (τ' := τ) ?_ ?_ (Or.inl ⟨rfl, rfl⟩)
          · apply eq_of_wq; unfold dk_insert_b4; simp (disch := first | omega | with_reducible assumption) only [l_2, l_3, l_4, l_5, l_6, l_7, l_8, l_9, l_10, l_11, l_12, l_13, l_14, l_15, l_16, l_17, l_23, l_24, l_40, l_100, l_320, l_383, nI_add, pk_mul, z_sub, z_lt0, z_ge0, z_e0, z_le0, z_gt0, z_lt, z_le, z_eq, z_cl, z_in, z_m1lt, z_m1ge, z_nm1, z_m1n, n1_add, n1_ad2, n1_sub, n1_eq, n1_eq', n1_le, n1_ge, n1_lt, n1_gt, z_10, z_01, z_0lt, z_0ge, z_0c, z_0in, z_0a, z_a0, z_01a, bI_f, bI_f0, t0f, t1f, cl_f, wi_t, wi_f, wc_n, wc_0, wz_0, wz_1, wq_some, wq_bind, wq_lpB, ks_l, ks_r, up2_s, up2_n, u_e, u_n, if_true, if_false, ite_true, ite_false]; rw [d1, d2, if_neg h0, dk_isNode_y hw hD hp]
            unfold dk_insert_b30
            simp (disch := first | omega | with_reducible assumption) only [l_2, l_3, l_4, l_5, l_6, l_7, l_8, l_9, l_10, l_11, l_12, l_13, l_14, l_15, l_16, l_17, l_23, l_24, l_40, l_100, l_320, l_383, nI_add, pk_mul, z_sub, z_lt0, z_ge0, z_e0, z_le0, z_gt0, z_lt, z_le, z_eq, z_cl, z_in, z_m1lt, z_m1ge, z_nm1, z_m1n, n1_add, n1_ad2, n1_sub, n1_eq, n1_eq', n1_le, n1_ge, n1_lt, n1_gt, z_10, z_01, z_0lt, z_0ge, z_0c, z_0in, z_0a, z_a0, z_01a, bI_f, bI_f0, t0f, t1f, cl_f, wi_t, wi_f, wc_n, wc_0, wz_0, wz_1, wq_some, wq_bind, wq_lpB, ks_l, ks_r, up2_s, up2_n, u_e, u_n, if_true, if_false, ite_true, ite_false]
            rw [dk_many_sp hw d3 hp m2 m3]
            unfold dk_insert_b43
            simp (disch := first | omega | with_reducible assumption) only [l_2, l_3, l_4, l_5, l_6, l_7, l_8, l_9, l_10, l_11, l_12, l_13, l_14, l_15, l_16, l_17, l_23, l_24, l_40, l_100, l_320, l_383, nI_add, pk_mul, z_sub, z_lt0, z_ge0, z_e0, z_le0, z_gt0, z_lt, z_le, z_eq, z_cl, z_in, z_m1lt, z_m1ge, z_nm1, z_m1n, n1_add, n1_ad2, n1_sub, n1_eq, n1_eq', n1_le, n1_ge, n1_lt, n1_gt, z_10, z_01, z_0lt, z_0ge, z_0c, z_0in, z_0a, z_a0, z_01a, bI_f, bI_f0, t0f, t1f, cl_f, wi_t, wi_f, wc_n, wc_0, wz_0, wz_1, wq_some, wq_bind, wq_lpB, ks_l, ks_r, up2_s, up2_n, u_e, u_n, if_true, if_false, ite_true, ite_false]
          · apply eq_of_wq; unfold md_insert_b6; simp (disch := first | omega | with_reducible assumption) only [l_2, l_3, l_4, l_5, l_6, l_7, l_8, l_9, l_10, l_11, l_12, l_13, l_14, l_15, l_16, l_17, l_23, l_24, l_40, l_100, l_320, l_383, nI_add, pk_mul, z_sub, z_lt0, z_ge0, z_e0, z_le0, z_gt0, z_lt, z_le, z_eq, z_cl, z_in, z_m1lt, z_m1ge, z_nm1, z_m1n, n1_add, n1_ad2, n1_sub, n1_eq, n1_eq', n1_le, n1_ge, n1_lt, n1_gt, z_10, z_01, z_0lt, z_0ge, z_0c, z_0in, z_0a, z_a0, z_01a, bI_f, bI_f0, t0f, t1f, cl_f, wi_t, wi_f, wc_n, wc_0, wz_0, wz_1, wq_some, wq_bind, wq_lpB, ks_l, ks_r, up2_s, up2_n, u_e, u_n, if_true, if_false, ite_true, ite_false]; rw [hM.1, md_where_y hw hM hp]
            unfold md_insert_b38
            simp (disch := first | omega | with_reducible assumption) only [l_2, l_3, l_4, l_5, l_6, l_7, l_8, l_9, l_10, l_11, l_12, l_13, l_14, l_15, l_16, l_17, l_23, l_24, l_40, l_100, l_320, l_383, nI_add, pk_mul, z_sub, z_lt0, z_ge0, z_e0, z_le0, z_gt0, z_lt, z_le, z_eq, z_cl, z_in, z_m1lt, z_m1ge, z_nm1, z_m1n, n1_add, n1_ad2, n1_sub, n1_eq, n1_eq', n1_le, n1_ge, n1_lt, n1_gt, z_10, z_01, z_0lt, z_0ge, z_0c, z_0in, z_0a, z_a0, z_01a, bI_f, bI_f0, t0f, t1f, cl_f, wi_t, wi_f, wc_n, wc_0, wz_0, wz_1, wq_some, wq_bind, wq_lpB, ks_l, ks_r, up2_s, up2_n, u_e, u_n, if_true, if_false, ite_true, ite_false]
            refine wq_mono (md_place_sp hw hM hp hK) (fun r hr => ?_)
            rcases hr with ⟨g, rfl⟩ | ⟨_, rfl⟩
            · exact absurd g hKM
            · unfold md_insert_b58
              simp (disch := first | omega | with_reducible assumption) only [l_2, l_3, l_4, l_5, l_6, l_7, l_8, l_9, l_10, l_11, l_12, l_13, l_14, l_15, l_16, l_17, l_23, l_24, l_40, l_100, l_320, l_383, nI_add, pk_mul, z_sub, z_lt0, z_ge0, z_e0, z_le0, z_gt0, z_lt, z_le, z_eq, z_cl, z_in, z_m1lt, z_m1ge, z_nm1, z_m1n, n1_add, n1_ad2, n1_sub, n1_eq, n1_eq', n1_le, n1_ge, n1_lt, n1_gt, z_10, z_01, z_0lt, z_0ge, z_0c, z_0in, z_0a, z_a0, z_01a, bI_f, bI_f0, t0f, t1f, cl_f, wi_t, wi_f, wc_n, wc_0, wz_0, wz_1, wq_some, wq_bind, wq_lpB, ks_l, ks_r, up2_s, up2_n, u_e, u_n, if_true, if_false, ite_true, ite_false]
    · have r0 := hw.1.2.1 0 (by omega)
      refine both_i (a := -1) (σ' := σ) (τ' := τ) ?_ ?_ (Or.inl ⟨rfl, rfl⟩)
      · apply eq_of_wq; unfold dk_insert_b4; simp (disch := first | omega | with_reducible assumption) only [l_2, l_3, l_4, l_5, l_6, l_7, l_8, l_9, l_10, l_11, l_12, l_13, l_14, l_15, l_16, l_17, l_23, l_24, l_40, l_100, l_320, l_383, nI_add, pk_mul, z_sub, z_lt0, z_ge0, z_e0, z_le0, z_gt0, z_lt, z_le, z_eq, z_cl, z_in, z_m1lt, z_m1ge, z_nm1, z_m1n, n1_add, n1_ad2, n1_sub, n1_eq, n1_eq', n1_le, n1_ge, n1_lt, n1_gt, z_10, z_01, z_0lt, z_0ge, z_0c, z_0in, z_0a, z_a0, z_01a, bI_f, bI_f0, t0f, t1f, cl_f, wi_t, wi_f, wc_n, wc_0, wz_0, wz_1, wq_some, wq_bind, wq_lpB, ks_l, ks_r, up2_s, up2_n, u_e, u_n, if_true, if_false, ite_true, ite_false]; rw [d1, d2, if_neg h0, dk_isNode_n hD hv1]
        unfold dk_insert_b30
        simp (disch := first | omega | with_reducible assumption) only [l_2, l_3, l_4, l_5, l_6, l_7, l_8, l_9, l_10, l_11, l_12, l_13, l_14, l_15, l_16, l_17, l_23, l_24, l_40, l_100, l_320, l_383, nI_add, pk_mul, z_sub, z_lt0, z_ge0, z_e0, z_le0, z_gt0, z_lt, z_le, z_eq, z_cl, z_in, z_m1lt, z_m1ge, z_nm1, z_m1n, n1_add, n1_ad2, n1_sub, n1_eq, n1_eq', n1_le, n1_ge, n1_lt, n1_gt, z_10, z_01, z_0lt, z_0ge, z_0c, z_0in, z_0a, z_a0, z_01a, bI_f, bI_f0, t0f, t1f, cl_f, wi_t, wi_f, wc_n, wc_0, wz_0, wz_1, wq_some, wq_bind, wq_lpB, ks_l, ks_r, up2_s, up2_n, u_e, u_n, if_true, if_false, ite_true, ite_false]
      · apply eq_of_wq; unfold md_insert_b6; simp (disch := first | omega | with_reducible assumption) only [l_2, l_3, l_4, l_5, l_6, l_7, l_8, l_9, l_10, l_11, l_12, l_13, l_14, l_15, l_16, l_17, l_23, l_24, l_40, l_100, l_320, l_383, nI_add, pk_mul, z_sub, z_lt0, z_ge0, z_e0, z_le0, z_gt0, z_lt, z_le, z_eq, z_cl, z_in, z_m1lt, z_m1ge, z_nm1, z_m1n, n1_add, n1_ad2, n1_sub, n1_eq, n1_eq', n1_le, n1_ge, n1_lt, n1_gt, z_10, z_01, z_0lt, z_0ge, z_0c, z_0in, z_0a, z_a0, z_01a, bI_f, bI_f0, t0f, t1f, cl_f, wi_t, wi_f, wc_n, wc_0, wz_0, wz_1, wq_some, wq_bind, wq_lpB, ks_l, ks_r, up2_s, up2_n, u_e, u_n, if_true, if_false, ite_true, ite_false]; rw [hM.1, md_where_n hw hM hv1]
        unfold md_insert_b38
        simp (disch := first | omega | with_reducible assumption) only [l_2, l_3, l_4, l_5, l_6, l_7, l_8, l_9, l_10, l_11, l_12, l_13, l_14, l_15, l_16, l_17, l_23, l_24, l_40, l_100, l_320, l_383, nI_add, pk_mul, z_sub, z_lt0, z_ge0, z_e0, z_le0, z_gt0, z_lt, z_le, z_eq, z_cl, z_in, z_m1lt, z_m1ge, z_nm1, z_m1n, n1_add, n1_ad2, n1_sub, n1_eq, n1_eq', n1_le, n1_ge, n1_lt, n1_gt, z_10, z_01, z_0lt, z_0ge, z_0c, z_0in, z_0a, z_a0, z_01a, bI_f, bI_f0, t0f, t1f, cl_f, wi_t, wi_f, wc_n, wc_0, wz_0, wz_1, wq_some, wq_bind, wq_lpB, ks_l, ks_r, up2_s, up2_n, u_e, u_n, if_true, if_false, ite_true, ite_false]
end
