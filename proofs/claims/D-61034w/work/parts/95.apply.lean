/-! matches; what a template does with a node -/
set_option maxRecDepth 100000
section
variable {n : Nat} {row d nm : Nat → Nat} {vl : Nat → Int32} {X : Nat → List Tk} {A : TA} {σ τ : dS}
def SO (n : Nat) (row d nm : Nat → Nat) (vl : Nat → Int32) (X : Nat → List Tk) (A : TA) (σ τ σ' τ' : dS) : Prop := sm SD σ σ' ∧ sm QM τ τ' ∧ CR n row d nm vl X σ' τ' ∧ SC n row d nm vl X A σ'
theorem matches_both (h : CR n row d nm vl X σ τ) (hT : TR A σ τ) (hS : SC n row d nm vl X A σ) (v1 v2 : Int32) : both (dk_matches v1 v2 σ) (md_matches v1 v2 τ) (SO n row d nm vl X A σ τ) := by
  obtain ⟨hD, hM⟩ := id h
  have hn := hD.1.1.1
  have hrf : SO n row d nm vl X A σ τ σ τ := ⟨sm_rf, sm_rf, h, hS⟩
  by_cases c1 : v1 < 0 ∨ 5 < v1
  · refine both_i (a := 0) (σ' := σ) (τ' := τ) ?_ ?_ hrf
    · apply eq_of_wq
      unfold dk_matches dk_matches_b0
      rw [io, wi_t c1, wq_some]
    · apply eq_of_wq
      unfold md_matches
      rw [wq_lpB]
      unfold md_matches_b0
      rw [md_in_if, if_pos c1, wq_bind, wq_some]; unfold md_matches_b6; rw [wi_t rfl, wq_some, ks_r]
  obtain ⟨t, ht6, rfl⟩ : ∃ t, t < 6 ∧ v1 = nI t := by
    rcases z_cut v1 (n := 6) (by omega) with g | g | g
    · exact absurd (Or.inl g) c1
    · exact absurd (Or.inr (Int32.lt_iff_toInt_lt.mpr (Int.lt_of_lt_of_le (by decide : (5 : Int32).toInt < (nI 6).toInt) (Int32.le_iff_toInt_le.mp g)))) c1
    · exact g
  cases hA : A t with
  | none =>
    obtain ⟨a1, a2⟩ := (hT t ht6).1 hA
    refine both_i (a := 0) (σ' := σ) (τ' := τ) ?_ ?_ hrf
    · apply eq_of_wq
      unfold dk_matches dk_matches_b0
      rw [io, wi_f c1, wc_n (by omega) (by omega), z_cl (by omega), wi_t (by rw [a1]; decide), wq_some]
    · apply eq_of_wq
      unfold md_matches
      rw [wq_lpB]
      unfold md_matches_b0
      rw [md_in_if, if_neg c1, wq_bind, wq_some]; unfold md_matches_b6; rw [wi_f (by decide), wc_n (by omega) (by omega), z_cl (by omega), wi_t a2, wq_some, ks_r]
  | some q =>
    obtain ⟨m, p, o, w⟩ := q
    obtain ⟨m8, b2, b3, b4, _⟩ := (hT t ht6).2 m p o w hA
    rcases row_cut n row v2 with ⟨x, hx, rfl⟩ | hv2
    · have rx := hD.1.1.2.1 x hx
      refine both_of (P := fun r => r.1 = ci (mt n row d nm vl X A t x) 1 0 ∧ SJ n row d nm vl X A τ σ 6 r.2) (P' := fun r => r.1 = ci (mt n row d nm vl X A t x) 1 0 ∧ sm QM τ r.2 ∧ MK n row d nm vl X r.2) ?_ ?_ (fun r r' a b => ⟨by rw [a.1, b.1], a.2.1, b.2.1, ⟨a.2.2.1, b.2.2⟩, Or.inr ⟨a.2.2.2.2.1, a.2.2.2.2.2.2.2⟩⟩)
      · unfold dk_matches dk_matches_b0
        rw [io, wi_f c1, wc_n (by omega) (by omega), z_cl (by omega), wi_f (by rw [b2, z_lt0 (by omega)]; simp), dk_isNode_y hD.1 hD.2.1 hx, wq_bind, wq_some]
        unfold dk_matches_b23
        dsimp only
        rw [wi_f (by decide), wq_bind]
        refine wq_mono (dk_sort_sp (τ := τ) hD hT hS) (fun r hJ => ?_)
        obtain ⟨j1, j2, j3, j4, j5, j6, j7, j8⟩ := id hJ
        unfold dk_matches_b32
        rw [wc_n (by omega) (by omega), wc_n (by omega) (by omega), z_cl (by omega), z_cl (by omega), (j6.1 x hx).1]
        by_cases g : mt n row d nm vl X A t x
        · rw [wi_f (by rw [t0f (by omega), (j7 t ht6 x).mpr g]; decide), wq_some]
          exact ⟨(ci_t g).symm, hJ⟩
        · rw [wi_t (by rw [t0f (by omega)]; exact Bool.eq_false_iff.mpr (fun q => g ((j7 t ht6 x).mp q))), wq_some]
          exact ⟨(ci_f g).symm, hJ⟩
      · exact md_matches_sp hM hT ht6 hx (fun r a1 a2 a3 a4 => ⟨a1, a2, a4⟩)
    · refine both_i (a := 0) (σ' := σ) (τ' := τ) ?_ ?_ hrf
      · apply eq_of_wq
        unfold dk_matches dk_matches_b0
        rw [io, wi_f c1, wc_n (by omega) (by omega), z_cl (by omega), wi_f (by rw [b2, z_lt0 (by omega)]; simp), dk_isNode_n hD.2.1 hv2, wq_bind, wq_some]
        unfold dk_matches_b23
        dsimp only
        rw [wi_t rfl, wq_some]
      · apply eq_of_wq
        unfold md_matches
        rw [wq_lpB]
        unfold md_matches_b0
        rw [md_in_if, if_neg c1, wq_bind, wq_some]; unfold md_matches_b6; rw [wi_f (by decide), wc_n (by omega) (by omega), z_cl (by omega), wi_f (by rw [b3]; decide), md_where_n hM.1 hM.2.1 hv2, wq_bind, wq_some]
        unfold md_matches_b23
        dsimp only
        rw [wi_t (by decide), wq_some, ks_r]
/-- what a template selects, and what it writes -/
def selw (n : Nat) (row d nm : Nat → Nat) (vl : Nat → Int32) (X : Nat → List Tk) (w : Int32) (x : Nat) : Int32 := if w < 0 then 0 else if X w.toNatClampNeg ≠ [] ∧ ht (X w.toNatClampNeg) = 0 then EV n row d nm vl X w.toNatClampNeg x else 0
def outw (n : Nat) (row d nm : Nat → Nat) (vl : Nat → Int32) (X : Nat → List Tk) (o : Int32) (x : Nat) : List Int32 := if o < 0 then [] else if X o.toNatClampNeg = [] then [] else [nmv (fun y => vl (row y)) (ht (X o.toNatClampNeg)) (EV n row d nm vl X o.toNatClampNeg x)]
def OL (O : List Int32) (c f : Nat → Int32) : Prop := c 0 = nI O.length ∧ ∀ i, i < O.length → O[i]? = some (f i)
theorem OL_add {O : List Int32} {c f c' f' : Nat → Int32} {v : Int32} (h : OL O c f) (h1 : c' 0 = nI (O.length + 1)) (h2 : f' = upd f O.length v) : OL (O ++ [v]) c' f' := by
  refine ⟨by rw [h1, List.length_append]; rfl, fun i hi => ?_⟩
  rw [List.length_append] at hi
  have hi' : i < O.length + 1 := hi
  rw [h2]
  by_cases e : i = O.length
  · subst e
    rw [u_e, List.getElem?_append_right (Nat.le_refl _), Nat.sub_self]; rfl
  · rw [u_n e, List.getElem?_append_left (by omega)]; exact h.2 i (by omega)
/-- the state while a transformation runs -/
def KJ (n : Nat) (row d nm : Nat → Nat) (vl : Nat → Int32) (X : Nat → List Tk) (A : TA) (τ σ : dS) : Prop := DK n row d nm vl X σ ∧ TR A σ τ ∧ σ 33 0 = 1 ∧ σ 15 0 = 1 ∧ CT n row d nm vl σ ∧ SCv n row d nm vl X A 6 σ
theorem KJ_sm {σ' : dS} {l : List Nat} (h : KJ n row d nm vl X A τ σ) (hs : sm l σ σ') (hl : ∀ i, i ∈ l → 35 ≤ i) : KJ n row d nm vl X A τ σ' := by
  obtain ⟨h1, h2, h3, h4, h5, h6⟩ := h
  have k : ∀ i, i < 35 → σ' i = σ i := fun i a => hs i (fun g => by have := hl i g; omega)
  refine ⟨DK_sm h1 hs (fun i hi => by have := hl i hi; omega), TR_sm h2 hs (fun i hi => by have := hl i hi; omega) (l' := []) sm_rf (by decide), by rw [k 33 (by omega)]; exact h3, by rw [k 15 (by omega)]; exact h4, CT_sm h5 hs (fun i hi => by have := hl i hi; omega), ?_⟩
  unfold SCv
  rw [k 32 (by omega), k 34 (by omega)]; exact h6
theorem KJ_learn {Q : Int32 × dS → Prop} (h : KJ n row d nm vl X A τ σ) {s : Nat} (hs8 : s < 8) (hne : X s ≠ []) (hq : ∀ r, sm QD σ r.2 → KJ n row d nm vl X A τ r.2 → (∀ x, x < n → r.2 24 (24 * s + x) = EV n row d nm vl X s x) → Q r) : wq (dk_learn (nI s) σ) Q := by
  obtain ⟨h1, h2, h3, h4, h5, h6⟩ := h
  refine dk_learn_sp h1 hs8 hne (fun r a1 a2 a3 a4 a5 a6 => ?_)
  refine hq r a1 ⟨DK_learn h1 hs8 a1 a2 a3 a4 a5 a6, TR_sm h2 a1 (by decide) (l' := []) sm_rf (by decide), by rw [a1 33 (by decide)]; exact h3, a2, a3, ?_⟩ a4
  unfold SCv
  rw [a1 32 (by decide), a1 34 (by decide)]; exact h6
abbrev AD : List Nat := [7, 8, 9, 10, 11, 12, 13, 14, 15, 23, 24, 25, 26, 27, 37, 38]
theorem dk_apply_sel {Q : Int32 × dS → Prop} (h : KJ n row d nm vl X A τ σ) {t m x : Nat} {p o w v3 : Int32} (ht6 : t < 6) (hx : x < n) (hA : A t = some (m, p, o, w)) (hq : ∀ r, r.1 = selw n row d nm vl X w x → sm QD σ r.2 → KJ n row d nm vl X A τ r.2 → Q r) : wq (dk_apply_b77 (nI t) (nI x) v3 σ) Q := by
  have hn := h.1.1.1.1
  obtain ⟨m8, b2, b3, b4, b5, b6, b7, b8, b9, b10, b11, b12⟩ := (h.2.1 t ht6).2 m p o w hA
  unfold dk_apply_b77
  rw [wc_n (by omega) (by omega), z_cl (by omega), b10]
  unfold dk_apply_b85
  rcases b12 with rfl | ⟨s, hs8, rfl⟩
  · rw [wi_t (by decide), wq_some]
    exact hq _ (by unfold selw; rw [if_pos (by decide)]) sm_rf h
  · have hsel : selw n row d nm vl X (nI s) x = if X s ≠ [] ∧ ht (X s) = 0 then EV n row d nm vl X s x else 0 := by
      unfold selw
      rw [if_neg (by rw [z_lt0 (by omega)]; simp), z_cl (by omega)]
    obtain ⟨l1, l2, l3⟩ := h.1.2.2.2.1 s hs8
    rw [wi_f (by rw [z_lt0 (by omega)]; simp), wc_n (by omega) (by omega), z_cl (by omega), l2]
    by_cases hne : X s = []
    · rw [wi_t (by rw [hne]; exact nI_0), wq_some]
      exact hq _ (by rw [hsel, if_neg (fun g => g.1 hne)]) sm_rf h
    have hp := pos_of hne
    rw [wi_f (by rw [z_e0 (by omega)]; omega), l_40, pk_mul, wc_n (by omega) (by omega), z_cl (by omega)]
    by_cases hty : ht (X s) = 0
    · rw [wi_t (by rw [ty_at h.1 hs8 hne, hty]; exact nI_0), wq_bind]
      refine KJ_learn h hs8 hne (fun r a1 a2 a3 => ?_)
      unfold dk_apply_b121
      rw [l_24, pk_mul, nI_add, wc_n (by omega) (by omega), z_cl (by omega), a3 x hx, wq_some]
      exact hq _ (by rw [hsel, if_pos ⟨hne, hty⟩]) a1 a2
    · rw [wi_f (by have := tyk_lt (hk (X s)); rw [ty_at h.1 hs8 hne, z_e0 (by unfold ht; omega)]; exact hty), wq_some]
      exact hq _ (by rw [hsel, if_neg (fun g => hty g.2)]) sm_rf h
theorem dk_apply_sp {Q : Int32 × dS → Prop} (h : KJ n row d nm vl X A τ σ) {t m x : Nat} {p o w : Int32} {O : List Int32} (ht6 : t < 6) (hx : x < n) (hA : A t = some (m, p, o, w)) (hO : OL O (σ 38) (σ 37)) (hO2 : O.length < 100) (hq : ∀ r, r.1 = selw n row d nm vl X w x → sm AD σ r.2 → KJ n row d nm vl X A τ r.2 → OL (O ++ outw n row d nm vl X o x) (r.2 38) (r.2 37) → Q r) : wq (dk_apply (nI t) (nI x) σ) Q := by
  have hn := h.1.1.1.1
  obtain ⟨m8, b2, b3, b4, b5, b6, b7, b8, b9, b10, b11, b12⟩ := (h.2.1 t ht6).2 m p o w hA
  unfold dk_apply dk_apply_b0
  rw [wc_n (by omega) (by omega), z_cl (by omega), b7]
  unfold dk_apply_b7
  have no : outw n row d nm vl X o x = [] → ∀ v3, wq (dk_apply_b77 (nI t) (nI x) v3 σ) Q := by
    intro e v3
    refine dk_apply_sel h ht6 hx hA (fun r a1 a2 a3 => hq r a1 (sm_sub a2 (by decide)) a3 ?_)
    rw [e, List.append_nil, a2 38 (by decide), a2 37 (by decide)]; exact hO
  rcases b9 with rfl | ⟨s, hs8, rfl⟩
  · rw [wi_t (by decide)]
    exact no (by unfold outw; rw [if_pos (by decide)]) _
  · have hout : outw n row d nm vl X (nI s) x = if X s = [] then [] else [nmv (fun y => vl (row y)) (ht (X s)) (EV n row d nm vl X s x)] := by
      unfold outw
      rw [if_neg (by rw [z_lt0 (by omega)]; simp), z_cl (by omega)]
    obtain ⟨l1, l2, l3⟩ := h.1.2.2.2.1 s hs8
    rw [wi_f (by rw [z_lt0 (by omega)]; simp), wc_n (by omega) (by omega), z_cl (by omega), l2]
    by_cases hne : X s = []
    · rw [wi_t (by rw [hne, z_le0 (by simp)]; rfl)]
      exact no (by rw [hout, if_pos hne]) _
    have hp := pos_of hne
    rw [wi_f (by rw [z_le0 (by omega)]; omega), wq_bind]
    refine KJ_learn h hs8 hne (fun r a1 a2 a3 => ?_)
    rw [hout, if_neg hne] at hq
    unfold dk_apply_b25
    rw [l_24, pk_mul, nI_add, wc_n (by omega) (by omega), z_cl (by omega), a3 x hx]
    unfold dk_apply_b38
    have e38 : r.2 38 0 = nI O.length := by rw [a1 38 (by decide)]; exact hO.1
    rw [e38, n1_add]
    have s1 : sm [38] r.2 (up2 r.2 38 0 (nI (O.length + 1))) := sm_up (by decide) sm_rf
    have k1 := KJ_sm a2 s1 (by decide)
    have fin : ∀ v, v = nmv (fun y => vl (row y)) (ht (X s)) (EV n row d nm vl X s x) → wq (dk_apply_b76 (nI t) (nI x) (nI s) v (nI O.length) (up2 r.2 38 0 (nI (O.length + 1)))) Q := by
      intro v hv
      unfold dk_apply_b76
      rw [wc_n (by omega) (by omega), z_cl (by omega)]
      have s2 : sm [37] (up2 r.2 38 0 (nI (O.length + 1))) (up2 (up2 r.2 38 0 (nI (O.length + 1))) 37 O.length v) := sm_up (by decide) sm_rf
      refine dk_apply_sel (KJ_sm k1 s2 (by decide)) ht6 hx hA (fun q c1 c2 c3 => ?_)
      refine hq q c1 (sm_tr (sm_tr (sm_tr (sm_sub a1 (by decide)) (sm_sub s1 (by decide))) (sm_sub s2 (by decide))) (sm_sub c2 (by decide))) c3 ?_
      rw [← hv]
      refine OL_add hO ?_ ?_
      · rw [c2 38 (by decide), s2 38 (by decide), up2_s, u_e]
      · rw [c2 37 (by decide), up2_s, s1 37 (by decide), a1 37 (by decide)]
    unfold dk_apply_b53
    rw [l_40, pk_mul, wc_n (by omega) (by omega), z_cl (by omega)]
    by_cases hty : ht (X s) = 0
    · rw [wi_t (by rw [ty_at k1.1 hs8 hne, hty]; exact nI_0), dk_valueOf_sp (n := n) (vv := fun y => vl (row y)) hn (fun y hy => (k1.2.2.2.2.1.1 y hy).2.2.2.2.2.2) (ev_bw (by omega) _ _ (Nat.le_refl _) ⟨1, (l3 hne).2.2.2.1⟩ hne hty x 1 1 hx), wq_bind, wq_some]
      exact fin _ (by unfold nmv; rw [if_pos hty])
    · rw [wi_f (by have := tyk_lt (hk (X s)); rw [ty_at k1.1 hs8 hne, z_e0 (by unfold ht; omega)]; exact hty)]
      exact fin _ (by unfold nmv; rw [if_neg hty])
end
