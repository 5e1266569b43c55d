/-! a transformation: the model; and both -/
set_option maxRecDepth 100000
section
variable {n : Nat} {row d nm : Nat → Nat} {vl : Nat → Int32} {X : Nat → List Tk} {A : TA} {σ τ : dS}
theorem MK_sm {l : List Nat} {τ' : dS} (h : MK n row d nm vl X τ) (hs : sm l τ τ') (hl : ∀ i, i ∈ l → 11 ≤ i) : MK n row d nm vl X τ' := by
  have k : ∀ i, i < 11 → τ' i = τ i := fun i a => hs i (fun g => by have := hl i g; omega)
  obtain ⟨h1, h2, h3, h4, h5⟩ := h
  refine ⟨h1, MT_sm' h2 hs (fun i hi => by have := hl i hi; omega), h3, fun s hs8 => ?_, ?_⟩
  · obtain ⟨a, b, c⟩ := h4 s hs8
    exact ⟨a, by rw [k 8 (by omega)]; exact b, fun g => MO_sm (c g) hs (fun i hi => by have := hl i hi; omega)⟩
  · unfold msA msx at *
    rw [k 10 (by omega), k 9 (by omega)]; exact h5
theorem md_tr_lp230 {Q : Int32 × dS → Prop} {τ0 : dS} (v1 v4 v6 : Int32) {h k : Nat} {P N : Int32} {fin : List (Nat × Nat)} (hw : WT n row d) (hM : MT n row d nm vl τ0) (hP : pm n row P N) (hk2 : k ≤ 11) (hq : ∀ τ, sm [22, 23] τ0 τ → SK n row (τ 22) (τ 23) fin → wq (lp md_transform_st (36, [v1, nI fin.length, nI h], τ)) Q) :
    ∀ (j : Nat) (st : List (Nat × Nat)) (τ : dS), j ≤ n → j + st.length ≤ 3000 → fin = (ft (bt P) 0 j).map (fun z => (z, k + 1)) ++ st → sm [22, 23] τ0 τ → SK n row (τ 22) (τ 23) st → wq (lp md_transform_st (230, [v1, nI st.length, nI h, v4, nI k, v6, N, dec j], τ)) Q := by
  have hn := hw.1.1
  intro j
  induction j with
  | zero =>
    intro st τ hj hl hf hm hK
    rw [md_transform_l230]
    unfold md_transform_b230
    rw [wi_t (by rw [dec_0]; decide), wq_some, ks_l]
    have e : fin = st := hf
    subst e
    exact hq τ hm hK
  | succ j ih =>
    intro st τ hj hl hf hm hK
    have hjn : j < n := by omega
    have rj := hw.1.2.1 j hjn
    have hst : st.length < 3000 := by omega
    rw [ft_snoc, Nat.zero_add] at hf
    rw [md_transform_l230]
    unfold md_transform_b230
    rw [dec_s, wi_f (by rw [z_lt0 (by omega)]; simp), wc_n (by omega) (by omega), z_cl (by omega), hm 0 (by decide), (hM.2 j hjn).1]
    by_cases g : bt P j = true
    · rw [wi_f (by rw [t0f (by omega), hP.1 j hjn, g]; decide), wc_n (by omega) (by omega), wc_n hst (by omega), z_cl (by omega)]
      unfold md_transform_b266
      rw [wc_n hst (by omega), z_cl (by omega), n1_add, n1_add]
      unfold md_transform_b279
      rw [wq_some, ks_l, dec_f]
      rw [if_pos g] at hf
      exact ih ((j, k + 1) :: st) (up2 (up2 τ 22 st.length (nI (row j))) 23 st.length (nI (k + 1))) (by omega) (by rw [List.length_cons]; omega) (by rw [hf, List.map_append, List.append_assoc]; rfl) (sm_up (by decide) (sm_up (by decide) hm)) (by rw [up2_s, up2_n (show (23 : Nat) ≠ 22 by decide), up2_n (show (22 : Nat) ≠ 23 by decide), up2_s]; exact SK_push hK hjn (by omega))
    · rw [wi_t (by rw [t0f (by omega), hP.1 j hjn]; exact Bool.eq_false_iff.mpr g)]
      unfold md_transform_b279
      rw [wq_some, ks_l, dec_f]
      rw [if_neg g, List.append_nil] at hf
      exact ih st τ (by omega) (by omega) hf hm hK
theorem md_tr_172 {Q : (Nat × List Int32 × dS) ⊕ (Int32 × dS) → Prop} (hM : MK n row d nm vl X τ) (hT : TR A σ τ) {t m x : Nat} {p o w v1 v2 v3 v5 : Int32} (ht6 : t < 6) (hx : x < n) (hA : A t = some (m, p, o, w)) (hq : ∀ N τ', pm n row (selw n row d nm vl X w x) N → sm QM τ τ' → MK n row d nm vl X τ' → TR A σ τ' → wq (md_transform_b222 v1 v2 v3 (nI (row x)) v5 (nI t) N τ') Q) : wq (md_transform_b172 v1 v2 v3 (nI (row x)) v5 (nI t) 0 τ) Q := by
  have hn := hM.1.1.1
  obtain ⟨m8, b2, b3, b4, b5, b6, b7, b8, b9, b10, b11, b12⟩ := (hT t ht6).2 m p o w hA
  unfold md_transform_b172
  rw [wi_f (by rw [z_lt0 (by omega)]; simp), wc_n (by omega) (by omega), z_cl (by omega), b11]
  rcases b12 with rfl | ⟨s, hs8, rfl⟩
  · rw [wi_t (by decide)]
    refine hq 0 τ ?_ sm_rf hM hT
    unfold selw
    rw [if_pos (by decide)]; exact pm_0
  · have hsel : selw n row d nm vl X (nI s) x = if X s ≠ [] ∧ ht (X s) = 0 then EV n row d nm vl X s x else 0 := by
      unfold selw
      rw [if_neg (by rw [z_lt0 (by omega)]; simp), z_cl (by omega)]
    rw [hsel] at hq
    rw [wi_f (by rw [z_lt0 (by omega)]; simp), wc_n (by omega) (by omega), md_isSet_sp hM hs8, wq_bind, wq_some]
    unfold md_transform_b198
    dsimp only
    by_cases g : X s ≠ [] ∧ ht (X s) = 0
    · rw [if_pos g] at hq
      rw [if_pos g, wi_f (by decide), wc_n (by omega) (by omega), z_cl (by omega), b11, wq_bind]
      refine md_ask_sp hM hs8 g.1 hx (fun r a1 a2 a3 => ?_)
      unfold md_transform_b214
      rw [wc_0 (by omega), z_0c]
      exact hq _ r.2 (a3.2.1 g.2) a1 a2 (TR_sm hT (l := []) sm_rf (by decide) a1 (by decide))
    · rw [if_neg g] at hq
      rw [if_neg g, wi_t rfl]
      exact hq 0 τ pm_0 sm_rf hM hT
abbrev AM : List Nat := [9, 10, 11, 12, 13, 14, 15, 16, 24, 25]
theorem md_tr_106 {Q : (Nat × List Int32 × dS) ⊕ (Int32 × dS) → Prop} (hM : MK n row d nm vl X τ) (hT : TR A σ τ) {t m x : Nat} {p o w v1 v2 v3 v5 : Int32} {O : List Int32} (ht6 : t < 6) (hx : x < n) (hA : A t = some (m, p, o, w)) (hO : OL O (τ 25) (τ 24)) (hO2 : O.length < 100) (hq : ∀ N τ', pm n row (selw n row d nm vl X w x) N → sm AM τ τ' → MK n row d nm vl X τ' → TR A σ τ' → OL (O ++ outw n row d nm vl X o x) (τ' 25) (τ' 24) → wq (md_transform_b222 v1 v2 v3 (nI (row x)) v5 (nI t) N τ') Q) : wq (md_transform_b106 v1 v2 v3 (nI (row x)) v5 (nI t) 0 τ) Q := by
  have hn := hM.1.1.1
  obtain ⟨m8, b2, b3, b4, b5, b6, b7, b8, b9, b10, b11, b12⟩ := (hT t ht6).2 m p o w hA
  have no : outw n row d nm vl X o x = [] → wq (md_transform_b172 v1 v2 v3 (nI (row x)) v5 (nI t) 0 τ) Q := by
    intro e
    refine md_tr_172 hM hT ht6 hx hA (fun N τ' a1 a2 a3 a4 => hq N τ' a1 (sm_sub a2 (by decide)) a3 a4 ?_)
    rw [e, List.append_nil, a2 25 (by decide), a2 24 (by decide)]; exact hO
  unfold md_transform_b106
  rw [wi_f (by rw [z_lt0 (by omega)]; simp), wc_n (by omega) (by omega), z_cl (by omega), b8]
  rcases b9 with rfl | ⟨s, hs8, rfl⟩
  · rw [wi_t (by decide)]
    exact no (by unfold outw; rw [if_pos (by decide)])
  · have hout : outw n row d nm vl X (nI s) x = if X s = [] then [] else [nmv (fun y => vl (row y)) (ht (X s)) (EV n row d nm vl X s x)] := by
      unfold outw
      rw [if_neg (by rw [z_lt0 (by omega)]; simp), z_cl (by omega)]
    obtain ⟨l1, l2, l3⟩ := hM.2.2.2.1 s hs8
    rw [wi_f (by rw [z_lt0 (by omega)]; simp), wc_n (by omega) (by omega), wc_n (by omega) (by omega), z_cl (by omega), l2]
    by_cases hne : X s = []
    · rw [wi_t (by rw [hne, z_le0 (by simp)]; rfl)]
      exact no (by rw [hout, if_pos hne])
    have hp := pos_of hne
    rw [wi_f (by rw [z_le0 (by omega)]; omega), wc_n (by omega) (by omega), wq_bind]
    refine md_ask_sp hM hs8 hne hx (fun r a1 a2 a3 => ?_)
    rw [hout, if_neg hne] at hq
    have e25 : r.2 25 0 = nI O.length := by rw [a1 25 (by decide)]; exact hO.1
    unfold md_transform_b151 md_transform_b166
    rw [e25, n1_add]
    have s1 : sm [25] r.2 (up2 r.2 25 0 (nI (O.length + 1))) := sm_up (by decide) sm_rf
    have k1 := MK_sm a2 s1 (by decide)
    have a3' : SE n row (up2 r.2 25 0 (nI (O.length + 1))) 0 (ht (X s)) (EV n row d nm vl X s x) := SE_sm a3 (by rw [s1 11 (by decide)]) (by rw [s1 12 (by decide)]) (by rw [s1 13 (by decide)])
    have pl := md_plain_sp k1.1 k1.2.1 (by omega : 0 < 48) (tyk_lt _ : ht (X s) < 3) a3'
    rw [nI_0] at pl
    rw [pl, wq_bind, wq_some]
    unfold md_transform_b171
    dsimp only
    rw [wc_n (by omega) (by omega), z_cl (by omega)]
    have s2 : sm [24] (up2 r.2 25 0 (nI (O.length + 1))) (up2 (up2 r.2 25 0 (nI (O.length + 1))) 24 O.length (nmv (fun y => vl (row y)) (ht (X s)) (EV n row d nm vl X s x))) := sm_up (by decide) sm_rf
    have t1 : TR A σ r.2 := TR_sm hT (l := []) sm_rf (by decide) a1 (by decide)
    have t2 := TR_sm (TR_sm t1 (l := []) (σ' := σ) sm_rf (by decide) s1 (by decide)) (l := []) (σ' := σ) sm_rf (by decide) s2 (by decide)
    refine md_tr_172 (MK_sm k1 s2 (by decide)) t2 ht6 hx hA (fun N τ' c1 c2 c3 c4 => hq N τ' c1 ?_ c3 c4 ?_)
    · exact sm_tr (sm_tr (sm_tr (sm_sub a1 (by decide)) (sm_sub s1 (by decide))) (sm_sub s2 (by decide))) (sm_sub c2 (by decide))
    · refine OL_add hO ?_ ?_
      · rw [c2 25 (by decide), s2 25 (by decide), up2_s, u_e]
      · rw [c2 24 (by decide), up2_s, s1 24 (by decide), a1 24 (by decide)]
abbrev TM : List Nat := [9, 10, 11, 12, 13, 14, 15, 16, 22, 23, 24, 25]
theorem wfs_M (hM : MK n row d nm vl X τ) : ∀ s, s < 8 → X s ≠ [] → wfs (X s) 1 := fun s hs hne => ((hM.2.2.2.1 s hs).2.2 hne).2.2.2.1
theorem md_tr_lp36 {τ0 : dS} (v1 : Int32) : ∀ (f h : Nat) (st : List (Nat × Nat)) (O : List Int32) (τ : dS), h + f = 100 → MK n row d nm vl X τ → TR A σ τ → sm TM τ0 τ → SK n row (τ 22) (τ 23) st → st.length ≤ 1 + 23 * h → O.length ≤ h → OL O (τ 25) (τ 24) →
    wq (lp md_transform_st (36, [v1, nI st.length, nI h], τ)) (fun r => MK n row d nm vl X r.2 ∧ TR A σ r.2 ∧ sm TM τ0 r.2 ∧ TQ (TF (tfP n row d nm vl X A (bB n row d nm vl X A)) (tfW n row d nm vl X A (bB n row d nm vl X A)) f st O) r.1 (r.2 25) (r.2 24)) := by
  intro f
  induction f with
  | zero =>
    intro h st O τ hf hM hT hs hK hl hO1 hO
    rw [md_transform_l36]
    unfold md_transform_b36
    cases st with
    | nil =>
      rw [wi_t (show nI ([] : List (Nat × Nat)).length ≤ 0 by decide), wq_some, ks_r, TF_nil]
      exact ⟨hM, hT, hs, by omega, hO.1, hO⟩
    | cons q st =>
      obtain ⟨k1, k2, k3, k4, k5⟩ := hK
      have hlen : (q :: st).length = st.length + 1 := rfl
      rw [hlen, wi_f (by rw [z_le0 (by omega)]; omega), z_m1 (by omega), show st.length + 1 - 1 = st.length from rfl, wc_n (by omega) (by omega)]
      unfold md_transform_b51
      rw [wc_n (by omega) (by omega)]
      unfold md_transform_b59
      rw [n1_add, wi_t (by rw [l_100, z_lt (by omega) (by omega)]; omega)]
      unfold md_transform_b75 md_transform_b80
      rw [wq_some, ks_r, TF_0]
      have s1 : sm [25] τ (up2 τ 25 0 0) := sm_up (by decide) sm_rf
      exact ⟨MK_sm hM s1 (by decide), TR_sm hT (l := []) sm_rf (by decide) s1 (by decide), sm_tr hs (sm_sub s1 (by decide)), rfl, by dsimp only; rw [up2_s, u_e]⟩
  | succ f ih =>
    intro h st O τ hf hM hT hs hK hl hO1 hO
    have hn := hM.1.1.1
    rw [md_transform_l36]
    unfold md_transform_b36
    cases st with
    | nil =>
      rw [wi_t (show nI ([] : List (Nat × Nat)).length ≤ 0 by decide), wq_some, ks_r, TF_nil]
      exact ⟨hM, hT, hs, by omega, hO.1, hO⟩
    | cons q st =>
      obtain ⟨x, k⟩ := q
      obtain ⟨k1, k2, k3, k4, k5⟩ := hK
      have k3' : τ 22 st.length = nI (row x) := k3
      have k4' : τ 23 st.length = nI k := k4
      have hx : x < n := k1
      have hk12 : k ≤ 12 := k2
      have rx := hM.1.1.2.1 x hx
      have hlen : ((x, k) :: st).length = st.length + 1 := rfl
      rw [hlen, wi_f (by rw [z_le0 (by omega)]; omega), z_m1 (by omega), show st.length + 1 - 1 = st.length from rfl, wc_n (by omega) (by omega), z_cl (by omega), k3']
      unfold md_transform_b51
      rw [wc_n (by omega) (by omega), z_cl (by omega), k4']
      unfold md_transform_b59
      rw [n1_add, wi_f (by rw [l_100, z_lt (by omega) (by omega)]; omega)]
      by_cases hk11 : k ≤ 11
      · have hPb := tfP_bw (row := row) (d := d) (nm := nm) (vl := vl) (wfs_M hM) hT (by omega : n ≤ 32) hx
        have hPl := els_len hPb (by omega)
        have go : ∀ (P N : Int32) (W : List Int32) (v6 : Int32) (τ' : dS), P = tfP n row d nm vl X A (bB n row d nm vl X A) x → W = tfW n row d nm vl X A (bB n row d nm vl X A) x → pm n row P N → MK n row d nm vl X τ' → TR A σ τ' → sm TM τ0 τ' → SK n row (τ' 22) (τ' 23) st → OL (O ++ W) (τ' 25) (τ' 24) → wq (md_transform_b222 v1 (nI st.length) (nI (h + 1)) (nI (row x)) (nI k) v6 N τ') (ks md_transform_st (fun r => MK n row d nm vl X r.2 ∧ TR A σ r.2 ∧ sm TM τ0 r.2 ∧ TQ (TF (tfP n row d nm vl X A (bB n row d nm vl X A)) (tfW n row d nm vl X A (bB n row d nm vl X A)) (f + 1) ((x, k) :: st) O) r.1 (r.2 25) (r.2 24))) := by
          intro P N W v6 τ' hP hW hPN g1 g1' g2 g3 g4
          unfold md_transform_b222
          rw [wq_some, ks_l, TF_y _ _ _ _ _ _ _ hk11, ← hP, ← hW, g1.2.1.1, dec_m]
          have hWl : W.length ≤ 1 := by rw [hW]; exact tfW_len
          rw [← hP] at hPb hPl
          refine md_tr_lp230 (fin := (els P).map (fun z => (z, k + 1)) ++ st) (n := n) (d := d) (nm := nm) (vl := vl) (τ0 := τ') v1 (nI (row x)) v6 hM.1 g1.2.1 hPN hk11 (fun τ2 e1 e2 => ?_) n st τ' (Nat.le_refl _) (by omega) (by rw [els_ft hPb (by omega)]) sm_rf g3
          refine ih (h + 1) _ (O ++ W) τ2 (by omega) (MK_sm g1 e1 (by decide)) (TR_sm g1' (l := []) sm_rf (by decide) e1 (by decide)) (sm_tr g2 (sm_sub e1 (by decide))) e2 ?_ ?_ ?_
          · rw [List.length_append, List.length_map]; omega
          · rw [List.length_append]; omega
          · rw [e1 25 (by decide), e1 24 (by decide)]; exact g4
        rw [wi_t (by rw [l_11, z_le (by omega) (by omega)]; exact hk11), wq_bind]
        refine md_best_sp hM hT hx (fun r a1 a2 a3 a4 => ?_)
        have k5' : SK n row (r.2 22) (r.2 23) st := by rw [a2 22 (by decide), a2 23 (by decide)]; exact k5
        have hO' : OL O (r.2 25) (r.2 24) := by rw [a2 25 (by decide), a2 24 (by decide)]; exact hO
        unfold md_transform_b89
        rw [a1]
        cases e : bst (fun t => mt n row d nm vl X A t x) (prr A) 6 with
        | none =>
          have e' : bB n row d nm vl X A x = none := e
          rw [wi_f (show ¬ 0 ≤ bv none by decide), wq_bind]
          refine wq_mono (md_childrenOf_sp a4.1 a4.2.1 hx) (fun q c => ?_)
          unfold md_transform_b106
          rw [wi_t (show bv none < 0 by decide)]
          unfold md_transform_b172
          rw [wi_t (show bv none < 0 by decide), c.1]
          exact go _ q.1 [] _ r.2 (tf_n e').1.symm (tf_n e').2.symm c.2 a4 a3 (sm_tr hs (sm_sub a2 (by decide))) k5' (by rw [List.append_nil]; exact hO')
        | some t =>
          have e' : bB n row d nm vl X A x = some t := e
          obtain ⟨t6, m, p, o, w, hA⟩ := bB_s e'
          have eb : bv (some t) = nI t := rfl
          rw [eb, wi_t (by rw [z_ge0 (by omega)]; trivial)]
          refine md_tr_106 a4 a3 t6 hx hA hO' (by omega) (fun N τ' c1 c2 c3 c4 c5 => ?_)
          refine go _ N _ _ τ' (tf_s e' hA).1.symm (tf_s e' hA).2.symm c1 c3 c4 (sm_tr (sm_tr hs (sm_sub a2 (by decide))) (sm_sub c2 (by decide))) ?_ c5
          rw [c2 22 (by decide), c2 23 (by decide)]; exact k5'
      · rw [wi_f (by rw [l_11, z_le (by omega) (by omega)]; exact hk11)]
        unfold md_transform_b75 md_transform_b80
        rw [wq_some, ks_r, TF_n _ _ _ _ _ _ _ hk11]
        have s1 : sm [25] τ (up2 τ 25 0 0) := sm_up (by decide) sm_rf
        exact ⟨MK_sm hM s1 (by decide), TR_sm hT (l := []) sm_rf (by decide) s1 (by decide), sm_tr hs (sm_sub s1 (by decide)), rfl, by dsimp only; rw [up2_s, u_e]⟩
theorem md_transform_sp (hM : MK n row d nm vl X τ) (hT : TR A σ τ) {x : Nat} (hx : x < n) : wq (md_transform (nI (row x)) τ) (fun r => MK n row d nm vl X r.2 ∧ TR A σ r.2 ∧ sm TM τ r.2 ∧ TQ (TF (tfP n row d nm vl X A (bB n row d nm vl X A)) (tfW n row d nm vl X A (bB n row d nm vl X A)) 100 [(x, 0)] []) r.1 (r.2 25) (r.2 24)) := by
  have hn := hM.1.1.1
  have rx := hM.1.1.2.1 x hx
  unfold md_transform
  rw [wq_lpB]
  unfold md_transform_b0
  rw [md_where_y hM.1 hM.2.1 hx, wq_bind, wq_some]
  unfold md_transform_b5
  dsimp only
  rw [wi_t (by rw [z_ge0 (by omega)]; trivial)]
  unfold md_transform_b15
  rw [wc_0 (by omega), z_0c]
  unfold md_transform_b26
  rw [wc_0 (by omega), z_0c, wq_some, ks_l]
  have s2 : sm [25, 22, 23] τ (up2 (up2 (up2 τ 25 0 0) 22 0 (nI (row x))) 23 0 0) := sm_up (by decide) (sm_up (by decide) (sm_up (by decide) sm_rf))
  have := md_tr_lp36 (σ := σ) (A := A) (τ0 := τ) (nI (row x)) 100 0 [(x, 0)] [] (up2 (up2 (up2 τ 25 0 0) 22 0 (nI (row x))) 23 0 0) rfl (MK_sm hM s2 (by decide)) (TR_sm hT (l := []) sm_rf (by decide) s2 (by decide)) (sm_sub s2 (by decide)) ⟨hx, Nat.zero_le _, by rw [up2_n (show (22 : Nat) ≠ 23 by decide), up2_s]; exact u_e, by rw [up2_s]; exact u_e, trivial⟩ (Nat.le_refl _) (Nat.le_refl _) ⟨by rw [up2_n (show (25 : Nat) ≠ 23 by decide), up2_n (show (25 : Nat) ≠ 22 by decide), up2_s, u_e]; rfl, fun i hi => absurd hi (Nat.not_lt_zero _)⟩
  exact this
/-- what a transformation leaves -/
def FO (n : Nat) (row d nm : Nat → Nat) (vl : Nat → Int32) (X : Nat → List Tk) (A : TA) (σ τ σ' τ' : dS) : Prop := sm TD σ σ' ∧ sm TM τ τ' ∧ CR n row d nm vl X σ' τ' ∧ SC n row d nm vl X A σ' ∧ OU σ' τ'
theorem transform_both (h : CR n row d nm vl X σ τ) (hT : TR A σ τ) (hS : SC n row d nm vl X A σ) (hU : OU σ τ) (v1 : Int32) : both (dk_transform v1 σ) (md_transform v1 τ) (FO n row d nm vl X A σ τ) := by
  obtain ⟨hD, hM⟩ := id h
  rcases row_cut n row v1 with ⟨x, hx, rfl⟩ | hv1
  · refine both_of (dk_transform_sp hD hT hS hx) (md_transform_sp hM hT hx) (fun r r' a b => ?_)
    obtain ⟨a1, a2, a3⟩ := a
    obtain ⟨b1, b2, b3, b4⟩ := b
    have hsc : SC n row d nm vl X A r.2 := Or.inr ⟨a1.2.2.1, a1.2.2.2.2.2⟩
    unfold TQ at a3 b4
    cases e : TF (tfP n row d nm vl X A (bB n row d nm vl X A)) (tfW n row d nm vl X A (bB n row d nm vl X A)) 100 [(x, 0)] [] with
    | none =>
      rw [e] at a3 b4
      exact ⟨by rw [a3.1, b4.1], a2, b3, ⟨a1.1, b1⟩, hsc, 0, by omega, by rw [a3.2, nI_0], by rw [b4.2, nI_0], fun i hi => absurd hi (by omega)⟩
    | some O =>
      rw [e] at a3 b4
      refine ⟨by rw [a3.2.1, b4.2.1], a2, b3, ⟨a1.1, b1⟩, hsc, O.length, a3.1, a3.2.2.1, b4.2.2.1, fun i hi => ?_⟩
      exact Option.some.inj ((a3.2.2.2 i hi).symm.trans (b4.2.2.2 i hi))
  · refine both_i (a := -1) (σ' := σ) (τ' := τ) ?_ ?_ ⟨sm_rf, sm_rf, h, hS, hU⟩
    · apply eq_of_wq
      unfold dk_transform
      rw [wq_lpB]
      unfold dk_transform_b0
      rw [dk_isNode_n hD.2.1 hv1, wq_bind, wq_some]
      unfold dk_transform_b5
      dsimp only
      rw [wi_t rfl, wq_some, ks_r]
    · apply eq_of_wq
      unfold md_transform
      rw [wq_lpB]
      unfold md_transform_b0
      rw [md_where_n hM.1 hM.2.1 hv1, wq_bind, wq_some]
      unfold md_transform_b5
      dsimp only
      rw [wi_f (by decide), wq_some, ks_r]
end
