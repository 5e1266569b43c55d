/-! TransletDesk: learn -/
set_option maxRecDepth 100000
/-- the tree, the counting and the expressions, as TransletDesk has them -/
def DK (n : Nat) (row d nm : Nat → Nat) (vl : Nat → Int32) (X : Nat → List Tk) (σ : dS) : Prop :=
  WT n row d ∧ DT n row d nm vl σ ∧ (σ 15 0 = 0 ∨ (σ 15 0 = 1 ∧ CT n row d nm vl σ)) ∧ (∀ s, s < 8 → (X s).length ≤ 40 ∧ σ 21 s = nI (X s).length ∧ (X s ≠ [] → XO (40 * s) (X s) σ)) ∧
  (∀ s, s < 8 → σ 25 s = 0 ∨ (σ 25 s = 1 ∧ (X s ≠ [] → ∀ x, x < n → σ 24 (24 * s + x) = ev n d (fun y => nm (row y)) (fun y => vl (row y)) (X s) x 1 1)))
section
variable {n : Nat} {row d nm : Nat → Nat} {vl : Nat → Int32}
theorem dk_learn_lp85 {Q : Int32 × dS → Prop} {σ0 : dS} {s : Nat} {T : List Tk} (hs8 : s < 8) (hV : VX n row d nm vl σ0) (hX : XO (40 * s) T σ0) (hne : 0 < T.length) (htab : tabA n d (fun y => nm (row y)) (fun y => vl (row y)) T 0 σ0)
    (hq : ∀ σ', sm [24, 27] σ0 σ' → (∀ x, x < n → σ' 24 (24 * s + x) = ev n d (fun y => nm (row y)) (fun y => vl (row y)) T x 1 1) → (∀ j, (j < 24 * s ∨ 24 * s + 24 ≤ j) → σ' 24 j = σ0 24 j) → Q (0, σ')) :
    ∀ (f x : Nat) (σ : dS), x + f = n → sm [24, 27] σ0 σ → (∀ y, y < x → σ 24 (24 * s + y) = ev n d (fun y => nm (row y)) (fun y => vl (row y)) T y 1 1) → (∀ j, (j < 24 * s ∨ 24 * s + 24 ≤ j) → σ 24 j = σ0 24 j) → wq (lp dk_learn_st (85, [nI s, nI (40 * s), nI x], σ)) Q := by
  have hn24 := hV.1.1.1
  intro f
  induction f with
  | zero =>
    intro x σ hx hs h1 h2
    have e : x = n := by omega
    subst e
    rw [dk_learn_l85]; unfold dk_learn_b85
    rw [hs 6 (by decide), hV.2.2, wi_t (Int32.le_refl _), wq_some, ks_r]
    exact hq σ hs h1 h2
  | succ f ih =>
    intro x σ hx hs h1 h2
    have hxn : x < n := by omega
    have hXσ := XO_sm hX hs (by decide)
    have hVσ := VX_sm hV hs (by decide)
    have a0 := XO_at hXσ hne
    rw [Nat.add_zero] at a0
    have h130 : ∀ (v : Int32) (σ1 : dS), sm [27] σ σ1 → v = ev n d (fun y => nm (row y)) (fun y => vl (row y)) T x 1 1 → wq (dk_learn_b130 (nI s) (nI (40 * s)) (nI x) v (nI (24 * s + x)) σ1) (ks dk_learn_st Q) := by
      intro v σ1 hs1 hv
      unfold dk_learn_b130
      rw [wc_n (by omega) (by omega), wq_some, ks_l, z_cl (by omega), n1_add]
      refine ih (x + 1) _ (by omega) (sm_up (by decide) (sm_tr hs (sm_sub hs1 (by decide)))) (fun y hy => ?_) (fun j hj => ?_)
      · rw [up2_s, hs1 24 (by decide)]
        by_cases e : y = x
        · rw [e, u_e, hv]
        · rw [u_n (by omega)]; exact h1 y (by omega)
      · rw [up2_s, hs1 24 (by decide), u_n (by omega)]; exact h2 j hj
    rw [dk_learn_l85]; unfold dk_learn_b85
    rw [hs 6 (by decide), hV.2.2, wi_f (by rw [z_le (by omega) (by omega)]; omega), wc_n (by omega) (by omega), z_cl (by omega), a0.2.2]
    have hd0 : T.drop 0 = T := rfl
    rw [hd0]
    by_cases hl : loc T = true
    · rw [if_pos hl, wi_f (by decide), wq_bind, show (0 : Int32) = nI 0 from nI_0.symm]
      refine dk_later_sp (d := d) (nmp := fun y => nm (row y)) (vv := fun y => vl (row y)) hn24 hXσ (VX_v hVσ) hxn hne (fun i h1 h2 h3 => ?_) (fun σ' hs' => ?_)
      · rw [hs 23 (by decide)]; exact tabA_x htab (Nat.le_refl _) x hxn i h1 h2 h3
      · rw [l_24, pk_mul, nI_add]
        exact h130 _ σ' hs' rfl
    · have hlf : loc T = false := by cases h : loc T with | true => exact absurd h hl | false => rfl
      have et := htab x hxn 0 (Nat.le_refl _) hne hlf
      rw [show 24 * 0 + x = x by omega] at et
      rw [if_neg hl, wi_t rfl, wc_n (by omega) (by omega), z_cl (by omega), hs 23 (by decide), et, l_24, pk_mul, nI_add]
      exact h130 _ σ sm_rf rfl
theorem dk_learn_lp35 {Q : Int32 × dS → Prop} {σ0 : dS} {s : Nat} {T : List Tk} (hs8 : s < 8) (hV : VX n row d nm vl σ0) (hX : XO (40 * s) T σ0)
    (hq : ∀ σ', sm [23, 26, 27] σ0 σ' → tabA n d (fun y => nm (row y)) (fun y => vl (row y)) T 0 σ' → wq (lp dk_learn_st (85, [nI s, nI (40 * s), 0], σ')) Q) :
    ∀ (j : Nat) (σ : dS), j ≤ T.length → sm [23, 26, 27] σ0 σ → tabA n d (fun y => nm (row y)) (fun y => vl (row y)) T j σ → wq (lp dk_learn_st (35, [nI s, nI (40 * s), dec j], σ)) Q := by
  have hn24 := hV.1.1.1
  have x1 := hX.1
  have x1b := hX.2.1
  intro j
  induction j with
  | zero =>
    intro σ hj hs ht
    rw [dk_learn_l35, dec_0]; unfold dk_learn_b35
    rw [wi_t (by decide), wq_some, ks_l]
    exact hq σ hs ht
  | succ j ih =>
    intro σ hj hs ht
    obtain ⟨t, r, hd⟩ := drop_ex (ts := T) (i := j) (by omega)
    have hXσ := XO_sm hX hs (by decide)
    have hVσ := VX_sm hV hs (by decide)
    have hot := hX.2.2.1 t (drop_mem hd)
    have ht18 := hot.1
    have e16 := (hXσ.2.2.2.2.1 j t r hd).1
    have e20 := (hXσ.2.2.2.2.2 j t r hd).2.2
    rw [dec_s, dk_learn_l35]; unfold dk_learn_b35
    rw [wi_f (by rw [z_lt0 (by omega)]; simp), nI_add, wc_n (by omega) (by omega), z_cl (by omega), e16]
    by_cases c2 : t.1 = 2
    · rw [wi_t (by rw [c2]; rfl), wq_bind]
      refine dk_step_sp hVσ hXσ hd c2 ht (fun r' s1 s2 => ?_)
      unfold dk_learn_b77
      rw [wq_some, ks_l, dec_f]
      exact ih r'.2 (by omega) (sm_tr hs (sm_sub s1 (by decide))) s2
    · rw [wi_f (by rw [l_2, z_eq (by omega) (by omega)]; exact c2), wc_n (by omega) (by omega), e20]
      by_cases hl : loc (t :: r) = true
      · rw [if_pos hl, wi_f (by decide)]
        unfold dk_learn_b77
        rw [wq_some, ks_l, dec_f]
        refine ih σ (by omega) hs (fun x hx i h1 h2 h3 => ?_)
        by_cases e : i = j
        · subst e; rw [hd, hl] at h3; cases h3
        · exact ht x hx i (by omega) h2 h3
      · have hlf : loc (t :: r) = false := by cases h : loc (t :: r) with | true => exact absurd h hl | false => rfl
        rw [if_neg hl, wi_t rfl, wq_bind]
        refine dk_fill_sp hVσ hXσ hd c2 hlf ht (fun r' s1 s2 => ?_)
        unfold dk_learn_b77
        rw [wq_some, ks_l, dec_f]
        exact ih r'.2 (by omega) (sm_tr hs (sm_sub s1 (by decide))) s2
theorem dk_learn_sp {Q : Int32 × dS → Prop} {X : Nat → List Tk} {σ : dS} (hK : DK n row d nm vl X σ) {s : Nat} (hs8 : s < 8) (hne : X s ≠ [])
    (hq : ∀ r, sm [7, 8, 9, 10, 11, 12, 13, 14, 15, 23, 24, 25, 26, 27] σ r.2 → r.2 15 0 = 1 → CT n row d nm vl r.2 → (∀ x, x < n → r.2 24 (24 * s + x) = ev n d (fun y => nm (row y)) (fun y => vl (row y)) (X s) x 1 1) → (∀ j, (j < 24 * s ∨ 24 * s + 24 ≤ j) → r.2 24 j = σ 24 j) → r.2 25 = upd (σ 25) s 1 → Q r) : wq (dk_learn (nI s) σ) Q := by
  obtain ⟨k1, k2, k3, k4, k5⟩ := hK
  obtain ⟨l1, l2, l3⟩ := k4 s hs8
  have hX := l3 hne
  have hpos : 0 < (X s).length := by
    rcases Nat.eq_zero_or_pos (X s).length with e | e
    · exact absurd (List.length_eq_zero_iff.mp e) hne
    · exact e
  unfold dk_learn dk_learn_b0
  rw [wq_lpB, wq_bind]
  refine dk_count_sp k1 k2 k3 (fun r c1 c2 c3 => ?_)
  unfold dk_learn_b4
  rw [wc_n (by omega) (by omega), z_cl (by omega), c1 25 (by decide)]
  rcases k5 s hs8 with g | ⟨g, g2⟩
  · rw [wi_t g, wc_n (by omega) (by omega), z_nz1]
    unfold dk_learn_b21 dk_learn_b26
    rw [wc_n (by omega) (by omega), z_cl (by omega), up2_n (by decide), c1 21 (by decide), l2, dec_m, l_40, pk_mul, wq_some, ks_l]
    have hs0 : sm [7, 8, 9, 10, 11, 12, 13, 14, 15, 25] σ (up2 r.2 25 s 1) := sm_up (by decide) (sm_sub c1 (by decide))
    have hV : VX n row d nm vl (up2 r.2 25 s 1) := by
      refine ⟨k1, CT_sm c3 (sm_up (l := [25]) (by decide) sm_rf) (by decide), ?_⟩
      rw [up2_n (by decide), c1 6 (by decide)]; exact k2.1
    refine dk_learn_lp35 hs8 hV (XO_sm hX hs0 (by decide)) (fun σ1 s1 t1 => ?_) (X s).length _ (Nat.le_refl _) sm_rf (fun x hx i h1 h2 => by omega)
    rw [show (0 : Int32) = nI 0 from nI_0.symm]
    refine dk_learn_lp85 hs8 (VX_sm hV s1 (by decide)) (XO_sm hX (sm_tr (sm_sub hs0 (l' := [7, 8, 9, 10, 11, 12, 13, 14, 15, 23, 24, 25, 26, 27]) (by decide)) (sm_sub s1 (by decide))) (by decide)) hpos t1 (fun σ2 s2 t2 t3 => ?_) n 0 σ1 (by omega) sm_rf (fun y hy => by omega) (fun j _ => rfl)
    refine hq _ (sm_tr (sm_sub hs0 (by decide)) (sm_tr (sm_sub s1 (by decide)) (sm_sub s2 (by decide)))) ?_ ?_ t2 (fun j hj => ?_) ?_
    · show σ2 15 0 = 1
      rw [s2 15 (by decide), s1 15 (by decide), up2_n (by decide)]; exact c2
    · exact CT_sm hV.2.1 (sm_tr (sm_sub s1 (l' := [23, 24, 26, 27]) (by decide)) (sm_sub s2 (by decide))) (by decide)
    · show σ2 24 j = _
      rw [t3 j hj, s1 24 (by decide), up2_n (by decide), c1 24 (by decide)]
    · show σ2 25 = _
      rw [s2 25 (by decide), s1 25 (by decide), up2_s, c1 25 (by decide)]
  · rw [wi_f (by rw [g]; decide), wq_some, ks_r]
    refine hq _ (sm_sub c1 (by decide)) c2 c3 (fun x hx => ?_) (fun j _ => ?_) ?_
    · show r.2 24 _ = _
      rw [c1 24 (by decide)]; exact g2 hne x hx
    · show r.2 24 j = _
      rw [c1 24 (by decide)]
    · show r.2 25 = _
      rw [c1 25 (by decide)]
      funext j
      by_cases e : j = s
      · rw [e, u_e, g]
      · rw [u_n e]
/-- behind learn all is as before, and the slot is known -/
theorem DK_learn {X : Nat → List Tk} {σ σ' : dS} (hK : DK n row d nm vl X σ) {s : Nat} (hs8 : s < 8) (h1 : sm [7, 8, 9, 10, 11, 12, 13, 14, 15, 23, 24, 25, 26, 27] σ σ') (h2 : σ' 15 0 = 1) (h3 : CT n row d nm vl σ') (h4 : ∀ x, x < n → σ' 24 (24 * s + x) = ev n d (fun y => nm (row y)) (fun y => vl (row y)) (X s) x 1 1) (h5 : ∀ j, (j < 24 * s ∨ 24 * s + 24 ≤ j) → σ' 24 j = σ 24 j) (h6 : σ' 25 = upd (σ 25) s 1) : DK n row d nm vl X σ' := by
  obtain ⟨k1, k2, k3, k4, k5⟩ := hK
  have hn24 := k1.1.1
  refine ⟨k1, DT_sm' k2 h1 (by decide), Or.inr ⟨h2, h3⟩, fun s' hs' => ?_, fun s' hs' => ?_⟩
  · obtain ⟨l1, l2, l3⟩ := k4 s' hs'
    exact ⟨l1, by rw [h1 21 (by decide)]; exact l2, fun e => XO_sm (l3 e) h1 (by decide)⟩
  · rw [h6]
    by_cases e : s' = s
    · subst e
      rw [u_e]
      exact Or.inr ⟨rfl, fun _ => h4⟩
    · rw [u_n e]
      rcases k5 s' hs' with g | ⟨g, g2⟩
      · exact Or.inl g
      · exact Or.inr ⟨g, fun hne x hx => by rw [h5 _ (by omega)]; exact g2 hne x hx⟩
end
