/-! move, change, child, both -/
set_option maxRecDepth 100000
section
variable {n : Nat} {row d nm : Nat → Nat} {vl : Nat → Int32}
theorem shift_bh {m s s' : Nat} {g g' : Nat → Nat} (h : ∀ j, j < m → g' j + s = g j + s') {j : Nat} (hj : j < m) : bh m g' j = bh m g j := by
  obtain ⟨b1, b2, b3, b4⟩ := bh_spec (n := m) (d := g) hj
  refine bh_eq ⟨b1, b2, fun k h1 h2 => ?_, fun h1 => ?_⟩
  · have := b3 k h1 h2
    have := h k (by omega)
    have := h j hj
    omega
  · have := b4 h1
    have := h _ h1
    have := h j hj
    omega
theorem PT_shift {m s s' c : Nat} {rb g g' : Nat → Nat} {σ : dS} (hB : okB m g c) (h : ∀ j, j < m → g' j + s = g j + s') (hP : PT m rb g σ) : PT m rb g' σ := by
  refine ⟨fun i hi => ?_, fun i h0 hi => ?_, fun i h0 hi => ?_⟩
  · rw [hP.1 i hi]
    unfold FV
    by_cases e : i + 1 < m
    · have h1 := h i hi
      have h2 := h (i + 1) e
      by_cases f : g i < g (i + 1)
      · rw [if_pos ⟨e, f⟩, if_pos ⟨e, by omega⟩]
      · rw [if_neg (fun q => f q.2), if_neg (fun q => f (by omega))]
    · rw [if_neg (fun q => e q.1), if_neg (fun q => e q.1)]
  · rw [hP.2.1 i h0 hi]
    unfold NV
    rw [shift_bh h hi]
    by_cases e : bh m g i < m
    · have h1 := h i hi
      have h2 := h _ e
      by_cases f : g (bh m g i) = g i
      · rw [if_pos ⟨e, f⟩, if_pos ⟨e, by omega⟩]
      · rw [if_neg (fun q => f q.2), if_neg (fun q => f (by omega))]
    · rw [if_neg (fun q => e q.1), if_neg (fun q => e q.1)]
  · rw [hP.2.2 i h0 hi]
    unfold PV
    obtain ⟨p1, p2, p3⟩ := okB_pa hB h0 hi
    have : pa g' i = pa g i := by
      refine pa_eq ⟨p1, ?_, fun k h1 h2 => ?_⟩
      · have := h i hi; have := h _ (by omega : pa g i < m); omega
      · have := h i hi; have := h k (by omega); have := p3 k h1 h2; omega
    rw [this]
theorem okB_shift {m s s' c c' : Nat} {g g' : Nat → Nat} (hB : okB m g c) (h : ∀ j, j < m → g' j + s = g j + s') (hc : c' + s = c + s') : okB m g' c' := by
  obtain ⟨b1, b2, b3, b4⟩ := hB
  refine ⟨b1, ?_, fun j h1 h2 => ?_, fun j h1 => ?_⟩
  · have := h 0 b1; omega
  · have := h j h2; have := b3 j h1 h2; omega
  · have := h j (by omega); have := h (j + 1) h1; have := b4 j h1; omega
theorem dk_move_lp {Q : Int32 × dS → Prop} {σ : dS} (hw : WT n row d) (hD : DT n row d nm vl σ) {a q : Nat} {v3 : Int32} (ha : a < n) (hq : q < n)
    (hy : (q = a ∨ (a < q ∧ q < bh n d a)) → Q (0, σ)) (hn : ¬ (q = a ∨ (a < q ∧ q < bh n d a)) → wq (dk_many (nI (row q)) σ) (fun r => wq (dk_move_b51 (nI (row a)) (nI (row q)) v3 r.1 r.2) (ks dk_move_st Q))) :
    ∀ x, x ≤ q → ((q = a ∨ (a < q ∧ q < bh n d a)) ↔ (x = a ∨ (a < x ∧ x < bh n d a))) → wq (lp dk_move_st (21, [nI (row a), nI (row q), v3, nI (row x)], σ)) Q := by
  have ra := hw.1.2.1 a ha
  intro x
  induction x using Nat.strongRecOn with
  | ind x ih =>
    intro hx hiff
    have rx := hw.1.2.1 x (by omega)
    rw [dk_move_l21]; unfold dk_move_b21
    by_cases g : x = a
    · have g2 : row x = row a := by rw [g]
      simp (disch := first | omega | with_reducible assumption) only [l_2, l_3, l_4, l_5, l_6, l_7, l_8, l_9, l_10, l_11, l_12, l_13, l_14, l_15, l_16, l_17, l_23, l_24, l_40, l_100, l_320, l_383, nI_add, pk_mul, z_sub, z_lt0, z_ge0, z_e0, z_le0, z_gt0, z_lt, z_le, z_eq, z_cl, z_in, z_m1lt, z_m1ge, z_nm1, z_m1n, n1_add, n1_ad2, n1_sub, n1_eq, n1_eq', n1_le, n1_ge, n1_lt, n1_gt, z_10, z_01, z_0lt, z_0ge, z_0c, z_0in, z_0a, z_a0, z_01a, bI_f, bI_f0, t0f, t1f, cl_f, wi_t, wi_f, wc_n, wc_0, wz_0, wz_1, wq_some, wq_bind, wq_lpB, ks_l, ks_r, up2_s, up2_n, u_e, u_n, if_true, if_false, ite_true, ite_false]
      exact hy (hiff.mpr (Or.inl g))
    · have g2 : ¬ row x = row a := fun e => g (hw.1.2.2 _ _ (by omega) ha e)
      simp (disch := first | omega | with_reducible assumption) only [l_2, l_3, l_4, l_5, l_6, l_7, l_8, l_9, l_10, l_11, l_12, l_13, l_14, l_15, l_16, l_17, l_23, l_24, l_40, l_100, l_320, l_383, nI_add, pk_mul, z_sub, z_lt0, z_ge0, z_e0, z_le0, z_gt0, z_lt, z_le, z_eq, z_cl, z_in, z_m1lt, z_m1ge, z_nm1, z_m1n, n1_add, n1_ad2, n1_sub, n1_eq, n1_eq', n1_le, n1_ge, n1_lt, n1_gt, z_10, z_01, z_0lt, z_0ge, z_0c, z_0in, z_0a, z_a0, z_01a, bI_f, bI_f0, t0f, t1f, cl_f, wi_t, wi_f, wc_n, wc_0, wz_0, wz_1, wq_some, wq_bind, wq_lpB, ks_l, ks_r, up2_s, up2_n, u_e, u_n, if_true, if_false, ite_true, ite_false]
      by_cases hx0 : x = 0
      · rw [show σ 2 (row x) = -1 by rw [hx0]; exact (hD.2.2.2.1 (by omega)).1, dk_move_l21]
        unfold dk_move_b21
        simp (disch := first | omega | with_reducible assumption) only [l_2, l_3, l_4, l_5, l_6, l_7, l_8, l_9, l_10, l_11, l_12, l_13, l_14, l_15, l_16, l_17, l_23, l_24, l_40, l_100, l_320, l_383, nI_add, pk_mul, z_sub, z_lt0, z_ge0, z_e0, z_le0, z_gt0, z_lt, z_le, z_eq, z_cl, z_in, z_m1lt, z_m1ge, z_nm1, z_m1n, n1_add, n1_ad2, n1_sub, n1_eq, n1_eq', n1_le, n1_ge, n1_lt, n1_gt, z_10, z_01, z_0lt, z_0ge, z_0c, z_0in, z_0a, z_a0, z_01a, bI_f, bI_f0, t0f, t1f, cl_f, wi_t, wi_f, wc_n, wc_0, wz_0, wz_1, wq_some, wq_bind, wq_lpB, ks_l, ks_r, up2_s, up2_n, u_e, u_n, if_true, if_false, ite_true, ite_false]
        refine hn (fun h => ?_)
        rcases hiff.mp h with e | e <;> omega
      · rw [hD.2.2.1.2.2 x (by omega) (by omega)]
        have hp := pa_lt hw.2 (by omega : 0 < x) (by omega)
        refine ih (pa d x) hp (by omega) (hiff.trans ?_)
        have := above_iff hw.2 (j := a) (by omega : 0 < x) (by omega : x < n)
        constructor
        · rintro (e | e)
          · exact absurd e g
          · rcases this.mp e with e | e
            · exact Or.inl e.symm
            · exact Or.inr e
        · rintro (e | e)
          · exact Or.inr (this.mpr (Or.inl e.symm))
          · exact Or.inr (this.mpr (Or.inr e))
theorem emb_cut {a m q : Nat} (hc : q < a ∨ a + m ≤ q) : emb a m (cut a m q) = q := by
  unfold emb cut
  by_cases e : q < a
  · rw [if_pos e, if_pos e]
  · rw [if_neg e, if_neg (by omega)]; omega
/-- the children that are there when the block is gone -/
theorem hc_move (hw : WT n row d) {a q K : Nat} (h0 : 0 < a) (ha : a < n) (hq : q < n) (hqa : q < a ∨ bh n d a ≤ q) : hc (n - (bh n d a - a)) (del a (bh n d a - a) d) (cut a (bh n d a - a) q) K ↔ K + (if q = pa d a then 1 else 0) ≤ nch n d q := by
  have hb1 := bh_lt (n := n) (d := d) ha
  have hb2 := bh_le (n := n) (d := d) ha
  have hp := pa_lt hw.2 h0 ha
  have hcl := cut_lt (m := bh n d a - a) hq (by omega : q < a ∨ a + (bh n d a - a) ≤ q) (by omega)
  rw [hc_iff (del_wfT hw.2 h0 ha) hcl]
  have := nch_ins (del_wfT hw.2 h0 ha) (del_okA hw.2 h0 ha) (del_okB hw.2 h0 ha) hcl
  rw [ins_del, emb_cut (by omega), show n - (bh n d a - a) + (bh n d a - a) = n by omega] at this
  have e : (cut a (bh n d a - a) q = pa d a) ↔ q = pa d a := by
    unfold cut
    by_cases g : q < a
    · rw [if_pos g]
    · rw [if_neg g]; omega
  by_cases g : q = pa d a
  · rw [if_pos (e.mpr g)] at this; rw [if_pos g]; omega
  · rw [if_neg (fun h => g (e.mp h))] at this; rw [if_neg g]; omega
def MVP (n : Nat) (row d nm : Nat → Nat) (vl : Nat → Int32) (a q K : Nat) (σ : dS) (r : Int32 × dS) : Prop := r.1 = 1 ∧ sm [2, 3, 4, 15, 25, 33] σ r.2 ∧ r.2 15 0 = 0 ∧ r.2 33 0 = 0 ∧ (∀ s, s < 8 → r.2 25 s = 0) ∧ DT (n - (bh n d a - a) + (bh n d a - a)) (ins (cp (n - (bh n d a - a)) (del a (bh n d a - a) d) (cut a (bh n d a - a) q) K) (bh n d a - a) (del a (bh n d a - a) row) (sub_ a row)) (ins (cp (n - (bh n d a - a)) (del a (bh n d a - a) d) (cut a (bh n d a - a) q) K) (bh n d a - a) (del a (bh n d a - a) d) (fun j => d (a + j) - d a + (d q + 1))) nm vl r.2
theorem dk_move_go {σ : dS} (hw : WT n row d) (hD : DT n row d nm vl σ) {a q K : Nat} (h0 : 0 < a) (ha : a < n) (hq : q < n) (hqa : q < a ∨ bh n d a ≤ q) (hK : hc (n - (bh n d a - a)) (del a (bh n d a - a) d) (cut a (bh n d a - a) q) K) : wq (dk_unlink (nI (row a)) σ) (fun r => wq (dk_move_b86 (nI (row a)) (nI (row q)) (nI K) r.2) (ks dk_move_st (MVP n row d nm vl a q K σ))) := by
  have hn24 := hw.1.1
  have hb1 := bh_lt (n := n) (d := d) ha
  have hb2 := bh_le (n := n) (d := d) ha
  have hW1 := WT_del hw h0 ha
  have hB := del_okB hw.2 h0 ha
  unfold MVP
  obtain ⟨m, hm⟩ : ∃ m, bh n d a - a = m := ⟨_, rfl⟩
  rw [hm] at hK hW1 hB ⊢
  have hm0 : 0 < m := by omega
  have hqa' : q < a ∨ a + m ≤ q := by omega
  have hcl := cut_lt hq hqa' (by omega : a + m ≤ n)
  obtain ⟨d1, d2, d3, d4, d5, d6⟩ := hD
  have ra := hw.1.2.1 a ha
  refine dk_unlink_T hw d3 h0 ha hm (fun r r1 r2 r3 r4 => ?_)
  unfold dk_move_b86
  simp (disch := first | omega | with_reducible assumption) only [l_2, l_3, l_4, l_5, l_6, l_7, l_8, l_9, l_10, l_11, l_12, l_13, l_14, l_15, l_16, l_17, l_23, l_24, l_40, l_100, l_320, l_383, nI_add, pk_mul, z_sub, z_lt0, z_ge0, z_e0, z_le0, z_gt0, z_lt, z_le, z_eq, z_cl, z_in, z_m1lt, z_m1ge, z_nm1, z_m1n, n1_add, n1_ad2, n1_sub, n1_eq, n1_eq', n1_le, n1_ge, n1_lt, n1_gt, z_10, z_01, z_0lt, z_0ge, z_0c, z_0in, z_0a, z_a0, z_01a, bI_f, bI_f0, t0f, t1f, cl_f, wi_t, wi_f, wc_n, wc_0, wz_0, wz_1, wq_some, wq_bind, wq_lpB, ks_l, ks_r, up2_s, up2_n, u_e, u_n, if_true, if_false, ite_true, ite_false]
  have hl := dk_link_sp hW1 r2 hcl ra hK
  rw [del_cut row hqa', del_cut d hqa'] at hl
  refine wq_mono hl (fun s hs => ?_)
  obtain ⟨s1, s2, s3, s4⟩ := hs
  unfold dk_move_b93
  simp (disch := first | omega | with_reducible assumption) only [l_2, l_3, l_4, l_5, l_6, l_7, l_8, l_9, l_10, l_11, l_12, l_13, l_14, l_15, l_16, l_17, l_23, l_24, l_40, l_100, l_320, l_383, nI_add, pk_mul, z_sub, z_lt0, z_ge0, z_e0, z_le0, z_gt0, z_lt, z_le, z_eq, z_cl, z_in, z_m1lt, z_m1ge, z_nm1, z_m1n, n1_add, n1_ad2, n1_sub, n1_eq, n1_eq', n1_le, n1_ge, n1_lt, n1_gt, z_10, z_01, z_0lt, z_0ge, z_0c, z_0in, z_0a, z_a0, z_01a, bI_f, bI_f0, t0f, t1f, cl_f, wi_t, wi_f, wc_n, wc_0, wz_0, wz_1, wq_some, wq_bind, wq_lpB, ks_l, ks_r, up2_s, up2_n, u_e, u_n, if_true, if_false, ite_true, ite_false]
  refine wq_mono (dk_changed_sp s.2) (fun t ht => ?_)
  obtain ⟨t1, t2, t3, t4⟩ := ht
  unfold dk_move_b97
  simp (disch := first | omega | with_reducible assumption) only [l_2, l_3, l_4, l_5, l_6, l_7, l_8, l_9, l_10, l_11, l_12, l_13, l_14, l_15, l_16, l_17, l_23, l_24, l_40, l_100, l_320, l_383, nI_add, pk_mul, z_sub, z_lt0, z_ge0, z_e0, z_le0, z_gt0, z_lt, z_le, z_eq, z_cl, z_in, z_m1lt, z_m1ge, z_nm1, z_m1n, n1_add, n1_ad2, n1_sub, n1_eq, n1_eq', n1_le, n1_ge, n1_lt, n1_gt, z_10, z_01, z_0lt, z_0ge, z_0c, z_0in, z_0a, z_a0, z_01a, bI_f, bI_f0, t0f, t1f, cl_f, wi_t, wi_f, wc_n, wc_0, wz_0, wz_1, wq_some, wq_bind, wq_lpB, ks_l, ks_r, up2_s, up2_n, u_e, u_n, if_true, if_false, ite_true, ite_false]
  refine ⟨by first | rfl | trivial, sm_tr (sm_sub r1 (by decide)) (sm_tr (sm_sub s1 (by decide)) (sm_sub t1 (by decide))), t2, t3, t4, ?_⟩
  show DT _ _ _ nm vl t.2
  have hA := okA_cp hW1.2 hcl hK
  rw [del_cut d hqa'] at hA
  have hsh : ∀ j, j < m → (fun j => d (a + j) - d a + (d q + 1)) j + d a = sub_ a d j + (d q + 1) := by
    intro j hj
    have h := okB_le hB hj
    show d (a + j) - d a + (d q + 1) + d a = d (a + j) + (d q + 1)
    have h : d a ≤ d (a + j) := h
    omega
  have hB' : okB m (fun j => d (a + j) - d a + (d q + 1)) (d q + 1) := okB_shift hB hsh (by omega)
  have hb0 : cut a m q + 1 < cp (n - m) (del a m d) (cut a m q) K → isS (n - m) (del a m d) (cut a m q) (cp (n - m) (del a m d) (cut a m q) K) (d q + 1) (cp (n - m) (del a m d) (cut a m q) (K - 1)) := by
    intro g
    have := isS_cp hW1.2 hcl hK g
    rw [del_cut d hqa'] at this
    exact this
  have hdis : ∀ i j, i < n - m → j < m → del a m row i ≠ sub_ a row j := by
    intro i j hi hj e
    by_cases g : i < a
    · rw [del_l g] at e; have := hw.1.2.2 _ _ (by omega) (by omega) (show row i = row (a + j) from e); omega
    · rw [del_r (by omega)] at e; have := hw.1.2.2 _ _ (by omega) (by omega) (show row (i + m) = row (a + j) from e); omega
  have hsi : ∀ i j, i < m → j < m → sub_ a row i = sub_ a row j → i = j := fun i j hi hj e => by
    have := hw.1.2.2 _ _ (by omega) (by omega) (show row (a + i) = row (a + j) from e); omega
  have hPT := link_pt (σ' := t.2) hW1.2 hA hB' r2 (PT_shift hB hsh r3) hdis hW1.1.2.2 hsi hb0 (fun x => ?_) (fun x => ?_) (fun x => ?_)
  · have hcp := (cp_spec hW1.2 hcl hK).1
    have hi0 : ins (cp (n - m) (del a m d) (cut a m q) K) m (del a m row) (sub_ a row) 0 = row 0 := by
      rw [ins_l (by omega), del_l h0]
    have hall : ∀ i, i < n - m + m → ∃ j, j < n ∧ ins (cp (n - m) (del a m d) (cut a m q) K) m (del a m row) (sub_ a row) i = row j := by
      intro i hi
      rcases ins_cut (a := cp (n - m) (del a m d) (cut a m q) K) (m := m) i with g | ⟨j, g1, rfl⟩ | ⟨k, g1, rfl⟩
      · rw [ins_l g]
        by_cases g2 : i < a
        · exact ⟨i, by omega, del_l g2⟩
        · exact ⟨i + m, by have := hA.2.1; omega, del_r (by omega)⟩
      · rw [ins_m g1]; exact ⟨a + j, by omega, rfl⟩
      · rw [ins_r g1]
        by_cases g2 : k < a
        · exact ⟨k, by omega, del_l g2⟩
        · exact ⟨k + m, by omega, del_r (by omega)⟩
    refine ⟨?_, ?_, hPT, fun _ => ?_, fun i hi => ?_, fun k hk hne => ?_⟩
    · rw [t1 6 (by decide), s1 6 (by decide), r1 6 (by decide), d1, show n - m + m = n by omega]
    · rw [hi0, t1 5 (by decide), s1 5 (by decide), r1 5 (by decide), d2, show n - m + m = n by omega]
    · have na : row 0 ≠ row a := fun e => by have := hw.1.2.2 _ _ (by omega) ha e; omega
      rw [hi0, t1 2 (by decide), t1 4 (by decide), s2, s4, if_neg na, if_neg, if_neg na, r1 2 (by decide), r4]
      · exact d4 (by omega)
      · rintro ⟨g1, g2⟩
        have q1 := hb0 g1
        have e : del a m row 0 = del a m row (cp (n - m) (del a m d) (cut a m q) (K - 1)) := by rw [del_l h0]; exact g2
        have := hW1.1.2.2 _ _ (by omega) (by have := q1.2.1; have := hA.2.1; omega) e
        have := q1.1
        omega
    · obtain ⟨j, j1, j2⟩ := hall i hi
      rw [j2, t1 0 (by decide), t1 1 (by decide), s1 0 (by decide), s1 1 (by decide), r1 0 (by decide), r1 1 (by decide)]
      exact d5 j j1
    · rw [t1 0 (by decide), s1 0 (by decide), r1 0 (by decide)]
      refine d6 k hk (fun i hi e => ?_)
      -- every node of the old row is in the new one
      by_cases g : a ≤ i ∧ i < a + m
      · refine hne (cp (n - m) (del a m d) (cut a m q) K + (i - a)) (by have := hA.2.1; omega) ?_
        rw [ins_m (by omega)]
        show row (a + (i - a)) = k
        rw [show a + (i - a) = i by omega]; exact e
      · have hi' : i < a ∨ a + m ≤ i := by omega
        have h1 := del_cut row hi'
        have h2 := cut_lt hi hi' (by omega : a + m ≤ n)
        by_cases g2 : cut a m i < cp (n - m) (del a m d) (cut a m q) K
        · exact hne (cut a m i) (by omega) (by rw [ins_l g2, h1]; exact e)
        · exact hne (cut a m i + m) (by omega) (by rw [ins_r (by omega), h1]; exact e)
  · rw [t1 2 (by decide), s2, del_cut row hqa']; rfl
  · rw [t1 3 (by decide), s3, del_cut row hqa']; rfl
  · rw [t1 4 (by decide), s4]; rfl
end
