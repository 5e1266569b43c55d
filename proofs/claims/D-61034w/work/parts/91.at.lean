/-! the node at an index of an answer -/
set_option maxRecDepth 100000
def atv (row : Nat → Nat) : List Nat → Nat → Int32
  | [], _ => -1
  | l :: _, 0 => nI (row l)
  | _ :: r, k + 1 => atv row r k
section
variable {n : Nat} {row d nm : Nat → Nat} {vl : Nat → Int32} {X : Nat → List Tk} {σ τ : dS}
theorem dk_at_lp (hn : n ≤ 24) (hC : ∀ y, y < n → σ 8 y = nI (row y)) (v w : Int32) {K : Nat} (hK : K < 2147483648) : ∀ (L : List Nat) (s : Int32) (j k : Nat), els s = L → (∀ y, y ∈ L → y < n) → j + k = K → wq (lp dk_at_st (38, [v, w, nI K, s, nI j], σ)) (fun r => r = (atv row L k, σ)) := by
  intro L
  induction L with
  | nil =>
    intro s j k hs hl hj
    have s0 : s = 0 := els_nil.mp hs
    subst s0
    rw [dk_at_l38]
    unfold dk_at_b38 dk_at_b64
    by_cases g : K ≤ j
    · rw [wi_t (by rw [z_le (by omega) (by omega)]; exact g), wi_t rfl, wq_some, ks_r]; cases k <;> rfl
    · rw [wi_f (by rw [z_le (by omega) (by omega)]; exact g), wi_t rfl, wi_t rfl, wq_some, ks_r]; cases k <;> rfl
  | cons l r ih =>
    intro s j k hs hl hj
    have sn : ¬ s = 0 := fun e => by rw [e, els_0] at hs; cases hs
    have hl0 := hl l (List.mem_cons_self ..)
    rw [dk_at_l38]
    unfold dk_at_b38 dk_at_b64
    cases k with
    | zero =>
      rw [wi_t (by rw [z_le (by omega) (by omega)]; omega), wi_f sn, dk_lowest_sp hs, wq_bind, wq_some]
      unfold dk_at_b82
      rw [wc_n (by omega) (by omega), z_cl (by omega), wq_some, ks_r, hC l hl0]; rfl
    | succ k =>
      rw [wi_f (by rw [z_le (by omega) (by omega)]; omega), wi_f sn, wq_some, ks_l, n1_add]
      exact ih _ (j + 1) k (els_cl hs) (fun y hy => hl y (List.mem_cons_of_mem _ hy)) (by omega)
theorem md_at_lp (hw : WT n row d) (hM : MT n row d nm vl τ) {P : Int32} (hP : pm n row P (τ 13 0)) (v w u : Int32) : ∀ (m i k : Nat), i + m = n → k < 2147483648 → wq (lp md_at_st (31, [v, w, u, nI k, nI i], τ)) (fun r => r = (atv row (ft (bt P) i m) k, τ)) := by
  have hn := hw.1.1
  intro m
  induction m with
  | zero =>
    intro i k hi hk2
    rw [md_at_l31]
    unfold md_at_b31
    rw [hM.1, wi_t (by rw [z_le (by omega) (by omega)]; omega), wq_some, ks_r]; cases k <;> rfl
  | succ m ih =>
    intro i k hi hk2
    have ri := hw.1.2.1 i (by omega)
    rw [md_at_l31]
    unfold md_at_b31 md_at_b83
    rw [hM.1, wi_f (by rw [z_le (by omega) (by omega)]; omega), wi_f (by rw [z_lt0 (by omega)]; simp), wc_0 (by omega), wc_n (by omega) (by omega), z_0c, z_cl (by omega), (hM.2 i (by omega)).1, ft_s]
    by_cases g : bt P i = true
    · rw [wi_f (by rw [t0f (by omega), hP.1 i (by omega), g]; simp), if_pos g]
      cases k with
      | zero => rw [wi_t nI_0, wc_n (by omega) (by omega), wq_some, ks_r]; rfl
      | succ k =>
        rw [wi_f (by rw [z_e0 (by omega)]; omega), wq_some, ks_l, z_m1 (by omega), n1_add]
        exact ih (i + 1) k (by omega) (by omega)
    · rw [wi_t (by rw [t0f (by omega), hP.1 i (by omega)]; exact Bool.eq_false_iff.mpr g), if_neg g, wq_some, ks_l, n1_add]
      exact ih (i + 1) k (by omega) hk2
theorem at_both (h : CR n row d nm vl X σ τ) (v1 v2 v3 : Int32) : both (dk_at v1 v2 v3 σ) (md_at v1 v2 v3 τ) (QO n row d nm vl X σ τ) := by
  rcases there_n h v1 v2 with ⟨s, x, hs8, hne, hx, rfl, rfl⟩ | ⟨t1, t2⟩
  · obtain ⟨y1, y2⟩ := there_y h hs8 hne hx
    obtain ⟨hD, hM⟩ := id h
    have hn24 := hD.1.1.1
    have hl := (hD.2.2.2.1 s hs8).1
    by_cases hty : ht (X s) = 0
    · by_cases hneg : v3 < 0
      · refine both_of (P := fun r => r = (-1, σ)) (P' := fun r => r.1 = -1 ∧ sm QM τ r.2 ∧ MK n row d nm vl X r.2) ?_ ?_ (fun r r' a b => ⟨by rw [a, b.1], by rw [a]; exact sm_rf, b.2.1, by rw [a]; exact hD, b.2.2⟩)
        · unfold dk_at
          rw [wq_lpB]
          unfold dk_at_b0
          rw [y1, wq_bind, wq_some]
          unfold dk_at_b6
          dsimp only
          rw [wi_f (by decide), l_40, pk_mul, wc_n (by omega) (by omega), z_cl (by omega), wi_t (by rw [ty_at hD hs8 hne, hty]; exact nI_0), wi_f (fun g => (z_nlt'.mpr g) hneg), wq_some, ks_r]
        · unfold md_at
          rw [wq_lpB]
          unfold md_at_b0
          rw [y2, wq_bind, wq_some]
          unfold md_at_b6
          dsimp only
          rw [wi_f (by decide), md_isSet_sp hM hs8, if_pos ⟨hne, hty⟩, wq_bind, wq_some]
          unfold md_at_b14
          dsimp only
          rw [wi_f (by decide), wq_bind]
          refine md_ask_sp hM hs8 hne hx (fun r a1 a2 a3 => ?_)
          unfold md_at_b25
          rw [wq_some, ks_l, md_at_l31]
          unfold md_at_b31
          rw [a2.2.1.1, wi_f (by rw [z_le0 (by omega)]; omega), wi_t hneg, wq_some, ks_r]
          exact ⟨rfl, a1, a2⟩
      · obtain ⟨K, hK, rfl⟩ := z_nlt hneg
        have hbw := ev_bw (d := d) (nmp := fun y => nm (row y)) (vv := fun y => vl (row y)) (by omega : n ≤ 32) _ (X s) (Nat.le_refl _) ⟨1, ((hD.2.2.2.1 s hs8).2.2 hne).2.2.2.1⟩ hne hty x 1 1 hx
        refine both_of (P := fun r => r.1 = atv row (els (ev n d (fun y => nm (row y)) (fun y => vl (row y)) (X s) x 1 1)) K ∧ sm QD σ r.2 ∧ DK n row d nm vl X r.2) (P' := fun r => r.1 = atv row (els (ev n d (fun y => nm (row y)) (fun y => vl (row y)) (X s) x 1 1)) K ∧ sm QM τ r.2 ∧ MK n row d nm vl X r.2) ?_ ?_ (fun r r' a b => ⟨by rw [a.1, b.1], a.2.1, b.2.1, a.2.2, b.2.2⟩)
        · unfold dk_at
          rw [wq_lpB]
          unfold dk_at_b0
          rw [y1, wq_bind, wq_some]
          unfold dk_at_b6
          dsimp only
          rw [wi_f (by decide), l_40, pk_mul, wc_n (by omega) (by omega), z_cl (by omega), wi_t (by rw [ty_at hD hs8 hne, hty]; exact nI_0), wi_t (by rw [z_ge0 (by omega)]; trivial), wq_bind]
          refine dk_resultAt_sp hD hs8 hne hx (fun σ' a1 a2 a3 => ?_)
          unfold dk_at_b33
          rw [wq_some, ks_l, show (0 : Int32) = nI 0 from nI_0.symm]
          exact wq_mono (dk_at_lp hn24 (fun y hy => (a3.1 y hy).2.1) (nI s) (nI (row x)) hK _ _ 0 K rfl (fun y hy => bw_els hbw hy) (by omega)) (fun r e => by rw [e]; exact ⟨rfl, a1, a2⟩)
        · unfold md_at
          rw [wq_lpB]
          unfold md_at_b0
          rw [y2, wq_bind, wq_some]
          unfold md_at_b6
          dsimp only
          rw [wi_f (by decide), md_isSet_sp hM hs8, if_pos ⟨hne, hty⟩, wq_bind, wq_some]
          unfold md_at_b14
          dsimp only
          rw [wi_f (by decide), wq_bind]
          refine md_ask_sp hM hs8 hne hx (fun r a1 a2 a3 => ?_)
          unfold md_at_b25
          rw [wq_some, ks_l, els_ft hbw (by omega), show (0 : Int32) = nI 0 from nI_0.symm]
          exact wq_mono (md_at_lp hD.1 a2.2.1 (a3.2.1 hty) (nI s) (nI (row x)) (nI K) n 0 K (by omega) hK) (fun r e => by rw [e]; exact ⟨rfl, a1, a2⟩)
    · refine both_i (a := -1) (σ' := σ) (τ' := τ) ?_ ?_ (QO_rf h)
      · apply eq_of_wq
        unfold dk_at
        rw [wq_lpB]
        unfold dk_at_b0
        rw [y1, wq_bind, wq_some]
        unfold dk_at_b6
        dsimp only
        rw [wi_f (by decide), l_40, pk_mul, wc_n (by omega) (by omega), z_cl (by omega), wi_f (by have := tyk_lt (hk (X s)); rw [ty_at hD hs8 hne, z_e0 (by unfold ht; omega)]; exact hty), wq_some, ks_r]
      · apply eq_of_wq
        unfold md_at
        rw [wq_lpB]
        unfold md_at_b0
        rw [y2, wq_bind, wq_some]
        unfold md_at_b6
        dsimp only
        rw [wi_f (by decide), md_isSet_sp hM hs8, if_neg (fun g => hty g.2), wq_bind, wq_some]
        unfold md_at_b14
        dsimp only
        rw [wi_t rfl, wq_some, ks_r]
  · refine both_i (a := -1) (σ' := σ) (τ' := τ) ?_ ?_ (QO_rf h)
    · apply eq_of_wq
      unfold dk_at
      rw [wq_lpB]
      unfold dk_at_b0
      rw [t1, wq_bind, wq_some]
      unfold dk_at_b6
      dsimp only
      rw [wi_t rfl, wq_some, ks_r]
    · apply eq_of_wq
      unfold md_at
      rw [wq_lpB]
      unfold md_at_b0
      rw [t2, wq_bind, wq_some]
      unfold md_at_b6
      dsimp only
      rw [wi_t rfl, wq_some, ks_r]
end
