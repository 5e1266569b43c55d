/-! expression, both -/
set_option maxRecDepth 100000
theorem zI (x : Nat) (h : x < 128) : vp_nar .byte (nI x) = nI x := z_nb h
theorem vz01 {b : Bool} : vp_nar .boolean (if b = true then (1 : Int32) else 0) = if b = true then 1 else 0 := by
  cases b
  · exact z_nz0
  · exact z_nz1
section
variable {T : List Tk}
/-- the rows of the draft come to a slot -/
theorem dk_expression_lp {Q : Int32 × dS → Prop} {σ0 : dS} {s : Nat} (hs : s < 8) (hL : T.length ≤ 40) (hok : ∀ t, t ∈ T → okT t) (h1 : DX1 320 T σ0) (h2 : DX2 320 T σ0) (hne : 0 < T.length)
    (hq : ∀ σ', sm [16, 17, 18, 19, 20, 21, 25, 33] σ0 σ' → DX1 (40 * s) T σ' → DX2 (40 * s) T σ' → (∀ f, 16 ≤ f → f ≤ 20 → ∀ x, (x < 40 * s ∨ 40 * s + 40 ≤ x) → σ' f x = σ0 f x) → σ' 21 = upd (σ0 21) s (nI T.length) → σ' 25 = upd (σ0 25) s 0 → σ' 33 0 = 0 → Q (nI (ht T), σ')) :
    ∀ (f i : Nat) (σ : dS), i + f = T.length → sm [16, 17, 18, 19, 20] σ0 σ → (∀ g, 16 ≤ g → g ≤ 20 → (∀ x, x < i → σ g (40 * s + x) = σ0 g (320 + x)) ∧ (∀ x, (x < 40 * s ∨ 40 * s + i ≤ x) → σ g x = σ0 g x)) → wq (lp dk_expression_st (43, [nI s, 1, nI T.length, nI i], σ)) Q := by
  intro f
  induction f with
  | zero =>
    intro i σ hi hsm hc
    have e : i = T.length := by omega
    subst e
    have hD1 : DX1 (40 * s) T σ := by
      intro i t r hd
      have := drop_lt hd
      rw [(hc 16 (by omega) (by omega)).1 i this, (hc 17 (by omega) (by omega)).1 i this]
      exact h1 i t r hd
    have hD2 : DX2 (40 * s) T σ := by
      intro i t r hd
      have := drop_lt hd
      rw [(hc 18 (by omega) (by omega)).1 i this, (hc 19 (by omega) (by omega)).1 i this, (hc 20 (by omega) (by omega)).1 i this]
      exact h2 i t r hd
    rw [dk_expression_l43]; unfold dk_expression_b43 dk_expression_b162 dk_expression_b169 dk_expression_b174
    rw [wi_t (Int32.le_refl _), wc_n (by omega) (by omega), wc_n (by omega) (by omega), l_40, pk_mul, wc_n (by omega) (by omega), z_cl (by omega), z_cl (by omega), z_b (by omega : T.length < 128), z_nb (by omega : T.length < 128), z_nz0, wq_some, ks_r]
    obtain ⟨t, r, hd⟩ := drop_ex (ts := T) (i := 0) hne
    have ht0 : σ 18 (40 * s) = nI (ht T) := by
      have := (hD2 0 t r hd).1
      rw [Nat.add_zero] at this
      rw [this]
      have hd : T = t :: r := hd
      rw [hd]; rfl
    rw [up2_n (by decide), up2_n (by decide), up2_n (by decide), ht0]
    refine hq _ ?_ ?_ ?_ (fun f h1 h2 x hx => ?_) ?_ ?_ ?_
    · refine sm_up (by decide) (sm_up (by decide) (sm_up (by decide) (sm_sub hsm (by decide))))
    · unfold DX1 at hD1 ⊢; simp (disch := first | omega | with_reducible assumption) only [up2_s, up2_n, u_e, u_n]; exact hD1
    · unfold DX2 at hD2 ⊢; simp (disch := first | omega | with_reducible assumption) only [up2_s, up2_n, u_e, u_n]; exact hD2
    · rw [up2_n (by omega), up2_n (by omega), up2_n (by omega)]; exact (hc f h1 h2).2 x (by omega)
    · simp (disch := first | omega | with_reducible assumption) only [up2_s, up2_n, u_e, u_n]; rw [hsm 21 (by decide)]
    · simp (disch := first | omega | with_reducible assumption) only [up2_s, up2_n, u_e, u_n]; rw [hsm 25 (by decide)]
    · simp (disch := first | omega | with_reducible assumption) only [up2_s, up2_n, u_e, u_n]
  | succ f ih =>
    intro i σ hi hsm hc
    obtain ⟨t, r, hd⟩ := drop_ex (ts := T) (i := i) (by omega)
    have hot := hok t (drop_mem hd)
    have ht18 := hot.1
    have htk := tyk_lt t.1
    have hskl := sk_le (t :: r) 1
    have hrl : (t :: r).length = T.length - i := by rw [← hd, List.length_drop]
    have v16 : σ 16 (320 + i) = nI t.1 := by rw [(hc 16 (by omega) (by omega)).2 _ (by omega)]; exact (h1 i t r hd).1
    have v17 : σ 17 (320 + i) = kv t := by rw [(hc 17 (by omega) (by omega)).2 _ (by omega)]; exact (h1 i t r hd).2
    have v18 : σ 18 (320 + i) = nI (tyk t.1) := by rw [(hc 18 (by omega) (by omega)).2 _ (by omega)]; exact (h2 i t r hd).1
    have v19 : σ 19 (320 + i) = nI (i + sk 1 (t :: r)) := by rw [(hc 19 (by omega) (by omega)).2 _ (by omega)]; exact (h2 i t r hd).2.1
    have v20 : σ 20 (320 + i) = if loc (t :: r) = true then 1 else 0 := by rw [(hc 20 (by omega) (by omega)).2 _ (by omega)]; exact (h2 i t r hd).2.2
    rw [dk_expression_l43]; unfold dk_expression_b43 dk_expression_b58 dk_expression_b76 dk_expression_b94 dk_expression_b112 dk_expression_b130
    rw [wi_f (by rw [z_le (by omega) (by omega)]; omega)]
    simp (disch := omega) only [l_40, l_320, pk_mul, nI_add, wc_n, z_cl, up2_s, up2_n, u_e, u_n, wq_some, ks_l, n1_add]
    rw [v16, v17, v18, v19, v20, z_nb (by omega : t.1 < 128), z_nb (by omega : tyk t.1 < 128), z_nb (by omega : i + sk 1 (t :: r) < 128), vz01]
    refine ih (i + 1) _ (by omega) ?_ (fun g g1 g2 => ⟨fun x hx => ?_, fun x hx => ?_⟩)
    · refine sm_up (by decide) (sm_up (by decide) (sm_up (by decide) (sm_up (by decide) (sm_up (by decide) hsm))))
    · by_cases ex : x = i
      · subst ex
        have hg : g = 16 ∨ g = 17 ∨ g = 18 ∨ g = 19 ∨ g = 20 := by omega
        rcases hg with e | e | e | e | e <;> subst e
        · simp (disch := first | omega | with_reducible assumption) only [up2_s, up2_n, u_e, u_n]; exact ((h1 x t r hd).1).symm
        · simp (disch := first | omega | with_reducible assumption) only [up2_s, up2_n, u_e, u_n]; exact ((h1 x t r hd).2).symm
        · simp (disch := first | omega | with_reducible assumption) only [up2_s, up2_n, u_e, u_n]; exact ((h2 x t r hd).1).symm
        · simp (disch := first | omega | with_reducible assumption) only [up2_s, up2_n, u_e, u_n]; exact ((h2 x t r hd).2.1).symm
        · simp (disch := first | omega | with_reducible assumption) only [up2_s, up2_n, u_e, u_n]; exact ((h2 x t r hd).2.2).symm
      · have := (hc g g1 g2).1 x (by omega)
        have hg : g = 16 ∨ g = 17 ∨ g = 18 ∨ g = 19 ∨ g = 20 := by omega
        rcases hg with e | e | e | e | e <;> subst e <;> (simp (disch := first | omega | with_reducible assumption) only [up2_s, up2_n, u_e, u_n]; exact this)
    · have := (hc g g1 g2).2 x (by omega)
      have hg : g = 16 ∨ g = 17 ∨ g = 18 ∨ g = 19 ∨ g = 20 := by omega
      rcases hg with e | e | e | e | e <;> subst e <;> (simp (disch := first | omega | with_reducible assumption) only [up2_s, up2_n, u_e, u_n]; exact this)
theorem md_expression_lp {Q : Int32 × dS → Prop} {τ0 : dS} {s : Nat} {v2 : Int32} (hs : s < 8) (hL : T.length ≤ 40) (hok : ∀ t, t ∈ T → okT t) (h1 : MX 320 T τ0) (hne : 0 < T.length)
    (hq : ∀ τ', sm [6, 7, 10] τ0 τ' → MX (40 * s) T τ' → (∀ f, 6 ≤ f → f ≤ 7 → ∀ x, (x < 40 * s ∨ 40 * s + 40 ≤ x) → τ' f x = τ0 f x) → τ' 10 = upd (τ0 10) s 0 → Q (nI (ht T), τ')) :
    ∀ (f i : Nat) (τ : dS), i + f = T.length → sm [6, 7] τ0 τ → (∀ g, 6 ≤ g → g ≤ 7 → (∀ x, x < i → τ g (40 * s + x) = τ0 g (320 + x)) ∧ (∀ x, (x < 40 * s ∨ 40 * s + i ≤ x) → τ g x = τ0 g x)) → wq (lp md_expression_st (68, [nI s, v2, nI T.length, nI i], τ)) Q := by
  intro f
  induction f with
  | zero =>
    intro i τ hi hsm hc
    have e : i = T.length := by omega
    subst e
    have hM : MX (40 * s) T τ := by
      intro i t r hd
      have := drop_lt hd
      rw [(hc 6 (by omega) (by omega)).1 i this, (hc 7 (by omega) (by omega)).1 i this]
      exact h1 i t r hd
    obtain ⟨t, r, hd⟩ := drop_ex (ts := T) (i := 0) hne
    have hot := hok t (drop_mem hd)
    have hd' : T = t :: r := hd
    rw [md_expression_l68]; unfold md_expression_b68 md_expression_b133
    rw [wi_t (Int32.le_refl _), wc_n (by omega) (by omega), l_320, wc_n (by omega) (by omega), z_cl (by omega), z_cl (by omega), z_nz0, up2_n (by decide), (hc 6 (by omega) (by omega)).2 320 (by omega)]
    have e6 := (h1 0 t r hd).1
    rw [Nat.add_zero] at e6
    rw [e6, md_typeOf_sp hot.1, wq_bind, wq_some]
    unfold md_expression_b144
    rw [wq_some, ks_r, show nI (tyk t.1) = nI (ht T) by rw [hd']; rfl]
    refine hq _ ?_ ?_ (fun f h1 h2 x hx => ?_) ?_
    · refine sm_up (by decide) (sm_sub hsm (by decide))
    · unfold MX at hM ⊢; simp (disch := first | omega | with_reducible assumption) only [up2_s, up2_n, u_e, u_n]; exact hM
    · rw [up2_n (by omega)]; exact (hc f h1 h2).2 x (by omega)
    · simp (disch := first | omega | with_reducible assumption) only [up2_s, up2_n, u_e, u_n]; rw [hsm 10 (by decide)]
  | succ f ih =>
    intro i τ hi hsm hc
    have v6 : τ 6 (320 + i) = τ0 6 (320 + i) := (hc 6 (by omega) (by omega)).2 _ (by omega)
    have v7 : τ 7 (320 + i) = τ0 7 (320 + i) := (hc 7 (by omega) (by omega)).2 _ (by omega)
    rw [md_expression_l68]; unfold md_expression_b68 md_expression_b97
    rw [wi_f (by rw [z_le (by omega) (by omega)]; omega)]
    simp (disch := omega) only [l_40, l_320, pk_mul, nI_add, wc_n, z_cl, up2_s, up2_n, u_e, u_n, wq_some, ks_l, n1_add]
    rw [v6, v7]
    refine ih (i + 1) _ (by omega) (sm_up (by decide) (sm_up (by decide) hsm)) (fun g g1 g2 => ⟨fun x hx => ?_, fun x hx => ?_⟩)
    · by_cases ex : x = i
      · subst ex
        have hg : g = 6 ∨ g = 7 := by omega
        rcases hg with e | e <;> subst e <;> (simp (disch := first | omega | with_reducible assumption) only [up2_s, up2_n, u_e, u_n])
      · have := (hc g g1 g2).1 x (by omega)
        have hg : g = 6 ∨ g = 7 := by omega
        rcases hg with e | e <;> subst e <;> (simp (disch := first | omega | with_reducible assumption) only [up2_s, up2_n, u_e, u_n]; exact this)
    · have := (hc g g1 g2).2 x (by omega)
      have hg : g = 6 ∨ g = 7 := by omega
      rcases hg with e | e <;> subst e <;> (simp (disch := first | omega | with_reducible assumption) only [up2_s, up2_n, u_e, u_n]; exact this)
end
/-- what expression leaves -/
def EO (X : Nat → List Tk) (σ τ σ' τ' : dS) : Prop :=
  (σ' = σ ∧ τ' = τ) ∨ (sm [18, 19, 20, 21, 22] σ σ' ∧ sm [8, 11, 15] τ τ' ∧ XR (fun s => if s = 8 then [] else X s) σ' τ')
  ∨ ∃ s, s < 8 ∧ sm [16, 17, 18, 19, 20, 21, 22, 25, 33] σ σ' ∧ sm [6, 7, 8, 10, 11, 15] τ τ' ∧ XR (fun s' => if s' = 8 then [] else if s' = s then X 8 else X s') σ' τ' ∧ σ' 25 = upd (σ 25) s 0 ∧ τ' 10 = upd (τ 10) s 0 ∧ σ' 33 0 = 0
theorem expression_both {X : Nat → List Tk} {σ τ : dS} (h : XR X σ τ) (v1 : Int32) : both (dk_expression v1 σ) (md_expression v1 τ) (EO X σ τ) := by
  obtain ⟨a1, a2, a3, a4, a5, a6⟩ := h.1 8 (by omega)
  rw [show 40 * 8 = 320 from rfl] at a5 a6
  by_cases hv : v1 < 0 ∨ nI 8 ≤ v1
  · refine both_i (a := -1) (σ' := σ) (τ' := τ) ?_ ?_ (Or.inl ⟨rfl, rfl⟩)
    · apply eq_of_wq
      unfold dk_expression dk_expression_b0
      rw [wq_lpB]
      by_cases e : v1 < 0
      · rw [wi_t e, wq_some, ks_r]
      · have e2 : ¬ v1 ≤ 7 := by
          rcases hv with g | g
          · exact absurd g e
          · intro g2
            rw [Int32.le_iff_toInt_le] at g g2
            rw [z_toInt (by omega)] at g
            have : (7 : Int32).toInt = 7 := by decide
            omega
        rw [wi_f e, wi_f e2, wq_some, ks_r]
    · apply eq_of_wq
      unfold md_expression md_expression_b0
      rw [l_7, md_in_out (by omega) hv, wq_lpB, wq_bind, wq_some]
      unfold md_expression_b7
      rw [wi_t rfl, wq_some, ks_r]
  obtain ⟨s, hs, rfl⟩ : ∃ s, s < 8 ∧ v1 = nI s := by
    rcases z_cut v1 (n := 8) (by omega) with g | g | g
    · exact absurd (Or.inl g) hv
    · exact absurd (Or.inr g) hv
    · exact g
  -- TransletDesk up to the copying
  have hdk : ∀ (Q : Int32 × dS → Prop), (∀ σ1 : dS, wfs (X 8) 1 → sm [18, 19, 20, 22] σ σ1 → DX2 320 (X 8) σ1 → (∀ f, (f = 18 ∨ f = 19 ∨ f = 20) → ∀ x, x < 320 → σ1 f x = σ f x) → wq (lp dk_expression_st (43, [nI s, 1, nI (X 8).length, 0], up2 σ1 21 8 0)) Q) →
      (∀ σ1 : dS, ¬ wfs (X 8) 1 → sm [18, 19, 20, 22] σ σ1 → (∀ f, (f = 18 ∨ f = 19 ∨ f = 20) → ∀ x, x < 320 → σ1 f x = σ f x) → Q (-2, up2 σ1 21 8 0)) → wq (dk_expression (nI s) σ) Q := by
    intro Q q1 q2
    unfold dk_expression dk_expression_b0
    rw [wq_lpB, wi_f (by rw [z_lt0 (by omega)]; simp), wi_t (by rw [l_7, z_le (by omega) (by omega)]; omega), wq_bind]
    refine dk_read_sp a1 a2 a5 a3 (fun σ1 b1 b2 b3 b4 => ?_) (fun σ1 b1 b2 b3 => ?_)
    · unfold dk_expression_b16 dk_expression_b25 dk_expression_b33
      dsimp only
      rw [l_8, wc_n (by omega) (by omega), z_cl (by omega), wc_n (by omega) (by omega), z_nb0, wi_f (by decide), wq_some, ks_l]
      rw [b2 21 (by decide), a3]
      exact q1 σ1 b1 b2 b3 b4
    · unfold dk_expression_b16 dk_expression_b25 dk_expression_b33
      rw [l_8, wc_n (by omega) (by omega), z_cl (by omega), wc_n (by omega) (by omega), z_nb0, wi_t rfl, wq_some, ks_r]
      exact q2 σ1 b1 b2 b3
  -- the model up to the copying
  have hmd : ∀ (Q : Int32 × dS → Prop), (∀ τ1 : dS, wfs (X 8) 1 → sm [11, 15] τ τ1 → wq (lp md_expression_st (68, [nI s, 1, nI (X 8).length, 0], up2 (up2 τ1 8 8 0) 8 s (nI (X 8).length))) Q) →
      (∀ τ1 : dS, ¬ wfs (X 8) 1 → sm [11, 15] τ τ1 → Q (-2, up2 τ1 8 8 0)) → wq (md_expression (nI s) τ) Q := by
    intro Q q1 q2
    have h34 : ∀ (g : Int32) (τ1 : dS), ((g = 1 ∧ wfs (X 8) 1) ∨ (g = 0 ∧ ¬ wfs (X 8) 1)) → sm [11, 15] τ τ1 → wq (md_expression_b34 (nI s) g τ1) (ks md_expression_st Q) := by
      intro g τ1 hg hs1
      unfold md_expression_b34 md_expression_b43 md_expression_b51 md_expression_b65
      rw [l_8, wc_n (by omega) (by omega), z_cl (by omega), wc_n (by omega) (by omega), hs1 8 (by decide), a4]
      rcases hg with ⟨rfl, hg⟩ | ⟨rfl, hg⟩
      · rw [wi_f (by decide), wc_n (by omega) (by omega), z_cl (by omega), wq_some, ks_l]
        exact q1 τ1 hg hs1
      · rw [wi_t rfl, wq_some, ks_r]
        exact q2 τ1 hg hs1
    unfold md_expression md_expression_b0
    rw [l_7, md_in_nat (by omega) (by omega), wq_lpB, wq_bind, wq_some]
    unfold md_expression_b7 md_expression_b33
    rw [wi_f (by decide), l_8, wc_n (by omega) (by omega), z_cl (by omega), a4]
    by_cases e : (X 8).length = 0
    · rw [wi_t (by rw [z_le0 (by omega)]; exact e)]
      refine h34 0 τ (Or.inr ⟨rfl, fun g => ?_⟩) sm_rf
      rw [List.length_eq_zero_iff.mp e] at g
      exact absurd g (by unfold wfs; omega)
    · rw [wi_f (by rw [z_le0 (by omega)]; exact e), wq_bind]
      refine md_isWhole_sp a1 a2 a6 a4 (fun τ1 b1 b2 => ?_) (fun τ1 b1 b2 => ?_)
      · unfold md_expression_b26
        dsimp only
        rw [wi_f (by decide)]; exact h34 1 τ1 (Or.inl ⟨rfl, b1⟩) b2
      · unfold md_expression_b26 md_expression_b33
        rw [wi_t rfl]; exact h34 0 τ1 (Or.inr ⟨rfl, b1⟩) b2
  by_cases hw : wfs (X 8) 1
  · have hne : 0 < (X 8).length := by
      rcases Nat.eq_zero_or_pos (X 8).length with e | e
      · rw [List.length_eq_zero_iff.mp e] at hw; exact absurd hw (by unfold wfs; omega)
      · exact e
    refine both_of (P := fun r => r.1 = nI (ht (X 8)) ∧ sm [16, 17, 18, 19, 20, 21, 22, 25, 33] σ r.2 ∧ DX1 (40 * s) (X 8) r.2 ∧ DX2 (40 * s) (X 8) r.2 ∧ (∀ f, 16 ≤ f → f ≤ 20 → ∀ x, x < 320 → (x < 40 * s ∨ 40 * s + 40 ≤ x) → r.2 f x = σ f x) ∧ r.2 21 = upd (upd (σ 21) 8 0) s (nI (X 8).length) ∧ r.2 25 = upd (σ 25) s 0 ∧ r.2 33 0 = 0)
      (P' := fun r => r.1 = nI (ht (X 8)) ∧ sm [6, 7, 8, 10, 11, 15] τ r.2 ∧ MX (40 * s) (X 8) r.2 ∧ (∀ f, 6 ≤ f → f ≤ 7 → ∀ x, x < 320 → (x < 40 * s ∨ 40 * s + 40 ≤ x) → r.2 f x = τ f x) ∧ r.2 8 = upd (upd (τ 8) 8 0) s (nI (X 8).length) ∧ r.2 10 = upd (τ 10) s 0) ?_ ?_ ?_
    · refine hdk _ (fun σ1 b1 b2 b3 b4 => ?_) (fun σ1 g => absurd hw g)
      have hd1 : DX1 320 (X 8) (up2 σ1 21 8 0) := by
        intro i t r hd
        simp (disch := first | omega | with_reducible assumption) only [up2_s, up2_n, u_e, u_n]
        rw [b2 16 (by decide), b2 17 (by decide)]; exact a5 i t r hd
      have hd2 : DX2 320 (X 8) (up2 σ1 21 8 0) := by
        intro i t r hd
        simp (disch := first | omega | with_reducible assumption) only [up2_s, up2_n, u_e, u_n]
        exact b3 i t r hd
      have := dk_expression_lp (T := X 8) (s := s) (σ0 := up2 σ1 21 8 0) hs a1 a2 hd1 hd2 hne (Q := fun r => r.1 = nI (ht (X 8)) ∧ sm [16, 17, 18, 19, 20, 21, 22, 25, 33] σ r.2 ∧ DX1 (40 * s) (X 8) r.2 ∧ DX2 (40 * s) (X 8) r.2 ∧ (∀ f, 16 ≤ f → f ≤ 20 → ∀ x, x < 320 → (x < 40 * s ∨ 40 * s + 40 ≤ x) → r.2 f x = σ f x) ∧ r.2 21 = upd (upd (σ 21) 8 0) s (nI (X 8).length) ∧ r.2 25 = upd (σ 25) s 0 ∧ r.2 33 0 = 0) (fun σ' c1 c2 c3 c4 c5 c6 c7 => ?_) (X 8).length 0 (up2 σ1 21 8 0) (by omega) sm_rf (fun g g1 g2 => ⟨fun x hx => by omega, fun x hx => rfl⟩)
      · rw [nI_0] at this; exact this
      · refine ⟨rfl, sm_tr (sm_sub b2 (by decide)) (sm_tr (sm_up (by decide) sm_rf) (sm_sub c1 (by decide))), c2, c3, fun f h1 h2 x h3 h4 => ?_, ?_, ?_, c7⟩
        · dsimp only
          rw [c4 f h1 h2 x h4, up2_n (by omega)]
          have hf : f = 16 ∨ f = 17 ∨ f = 18 ∨ f = 19 ∨ f = 20 := by omega
          rcases hf with e | e | e | e | e
          · subst e; rw [b2 16 (by decide)]
          · subst e; rw [b2 17 (by decide)]
          · exact b4 f (by omega) x h3
          · exact b4 f (by omega) x h3
          · exact b4 f (by omega) x h3
        · dsimp only; rw [c5]; simp (disch := first | omega | with_reducible assumption) only [up2_s, up2_n, u_e, u_n]; rw [b2 21 (by decide)]
        · dsimp only; rw [c6]; simp (disch := first | omega | with_reducible assumption) only [up2_s, up2_n, u_e, u_n]; rw [b2 25 (by decide)]
    · refine hmd _ (fun τ1 b1 b2 => ?_) (fun τ1 g => absurd hw g)
      have hm1 : MX 320 (X 8) (up2 (up2 τ1 8 8 0) 8 s (nI (X 8).length)) := by
        intro i t r hd
        simp (disch := first | omega | with_reducible assumption) only [up2_s, up2_n, u_e, u_n]
        rw [b2 6 (by decide), b2 7 (by decide)]; exact a6 i t r hd
      have := md_expression_lp (T := X 8) (s := s) (v2 := 1) (τ0 := up2 (up2 τ1 8 8 0) 8 s (nI (X 8).length)) hs a1 a2 hm1 hne (Q := fun r => r.1 = nI (ht (X 8)) ∧ sm [6, 7, 8, 10, 11, 15] τ r.2 ∧ MX (40 * s) (X 8) r.2 ∧ (∀ f, 6 ≤ f → f ≤ 7 → ∀ x, x < 320 → (x < 40 * s ∨ 40 * s + 40 ≤ x) → r.2 f x = τ f x) ∧ r.2 8 = upd (upd (τ 8) 8 0) s (nI (X 8).length) ∧ r.2 10 = upd (τ 10) s 0) (fun τ' c1 c2 c3 c4 => ?_) (X 8).length 0 _ (by omega) sm_rf (fun g g1 g2 => ⟨fun x hx => by omega, fun x hx => rfl⟩)
      · rw [nI_0] at this; exact this
      · refine ⟨rfl, sm_tr (sm_sub b2 (by decide)) (sm_tr (sm_up (by decide) (sm_up (by decide) sm_rf)) (sm_sub c1 (by decide))), c2, fun f h1 h2 x h3 h4 => ?_, ?_, ?_⟩
        · dsimp only
          rw [c3 f h1 h2 x h4, up2_n (by omega), up2_n (by omega)]
          have hf : f = 6 ∨ f = 7 := by omega
          rcases hf with e | e <;> subst e
          · rw [b2 6 (by decide)]
          · rw [b2 7 (by decide)]
        · dsimp only; rw [c1 8 (by decide)]; simp (disch := first | omega | with_reducible assumption) only [up2_s, up2_n, u_e, u_n]; rw [b2 8 (by decide)]
        · dsimp only; rw [c4]; simp (disch := first | omega | with_reducible assumption) only [up2_s, up2_n, u_e, u_n]; rw [b2 10 (by decide)]
    · rintro r r' ⟨p1, p2, p3, p4, p5, p6, p7, p8⟩ ⟨q1, q2, q3, q4, q5, q6⟩
      refine ⟨by rw [p1, q1], Or.inr (Or.inr ⟨s, hs, p2, q2, ⟨fun s' hs' => ?_, fun s' hs' hne' => ?_⟩, p7, q6, p8⟩)⟩
      · obtain ⟨c1, c2, c3, c4, c5, c6⟩ := h.1 s' hs'
        by_cases e8 : s' = 8
        · subst e8
          simp only [if_true]
          refine ⟨Nat.zero_le _, fun t ht => (by cases ht), ?_, ?_, fun i t r hd => ?_, fun i t r hd => ?_⟩
          · rw [p6, u_n (show (8 : Nat) ≠ s by omega), u_e]; exact nI_0.symm
          · rw [q5, u_n (show (8 : Nat) ≠ s by omega), u_e]; exact nI_0.symm
          · rw [List.drop_nil] at hd; cases hd
          · rw [List.drop_nil] at hd; cases hd
        · by_cases es : s' = s
          · subst es
            simp only [e8, if_false, if_true]
            refine ⟨a1, a2, by rw [p6, u_e], by rw [q5, u_e], p3, q3⟩
          · simp only [e8, es, if_false]
            refine ⟨c1, c2, by rw [p6, u_n es, u_n e8]; exact c3, by rw [q5, u_n es, u_n e8]; exact c4, fun i t r hd => ?_, fun i t r hd => ?_⟩
            · have := drop_lt hd
              rw [p5 16 (by omega) (by omega) _ (by omega) (by omega), p5 17 (by omega) (by omega) _ (by omega) (by omega)]
              exact c5 i t r hd
            · have := drop_lt hd
              rw [q4 6 (by omega) (by omega) _ (by omega) (by omega), q4 7 (by omega) (by omega) _ (by omega) (by omega)]
              exact c6 i t r hd
      · have e8 : ¬ s' = 8 := by omega
        by_cases es : s' = s
        · subst es
          simp only [e8, if_false, if_true]
          exact ⟨hw, p4⟩
        · simp only [e8, es, if_false] at hne' ⊢
          obtain ⟨d1, d2⟩ := h.2 s' hs' hne'
          have c1 := (h.1 s' (by omega)).1
          refine ⟨d1, fun i t r hd => ?_⟩
          have := drop_lt hd
          rw [p5 18 (by omega) (by omega) _ (by omega) (by omega), p5 19 (by omega) (by omega) _ (by omega) (by omega), p5 20 (by omega) (by omega) _ (by omega) (by omega)]
          exact d2 i t r hd
  · refine both_of (P := fun r => r.1 = -2 ∧ sm [18, 19, 20, 21, 22] σ r.2 ∧ (∀ f, (f = 18 ∨ f = 19 ∨ f = 20) → ∀ x, x < 320 → r.2 f x = σ f x) ∧ r.2 21 = upd (σ 21) 8 0) (P' := fun r => r.1 = -2 ∧ sm [8, 11, 15] τ r.2 ∧ r.2 8 = upd (τ 8) 8 0) ?_ ?_ ?_
    · refine hdk _ (fun σ1 g => absurd g hw) (fun σ1 b1 b2 b3 => ⟨rfl, sm_up (by decide) (sm_sub b2 (by decide)), fun f hf x hx => ?_, ?_⟩)
      · show up2 σ1 21 8 0 f x = _
        rw [up2_n (by omega)]; exact b3 f hf x hx
      · show up2 σ1 21 8 0 21 = _
        rw [up2_s, b2 21 (by decide)]
    · refine hmd _ (fun τ1 g => absurd g hw) (fun τ1 b1 b2 => ⟨rfl, sm_up (by decide) (sm_sub b2 (by decide)), ?_⟩)
      show up2 τ1 8 8 0 8 = _
      rw [up2_s, b2 8 (by decide)]
    · rintro r r' ⟨p1, p2, p3, p4⟩ ⟨q1, q2, q3⟩
      refine ⟨by rw [p1, q1], Or.inr (Or.inl ⟨p2, q2, ⟨fun s' hs' => ?_, fun s' hs' hne' => ?_⟩⟩)⟩
      · obtain ⟨c1, c2, c3, c4, c5, c6⟩ := h.1 s' hs'
        by_cases e8 : s' = 8
        · subst e8
          simp only [if_true]
          refine ⟨Nat.zero_le _, fun t ht => (by cases ht), ?_, ?_, fun i t r hd => ?_, fun i t r hd => ?_⟩
          · rw [p4, u_e]; exact nI_0.symm
          · rw [q3, u_e]; exact nI_0.symm
          · rw [List.drop_nil] at hd; cases hd
          · rw [List.drop_nil] at hd; cases hd
        · simp only [e8, if_false]
          refine ⟨c1, c2, by rw [p4, u_n e8]; exact c3, by rw [q3, u_n e8]; exact c4, fun i t r hd => ?_, fun i t r hd => ?_⟩
          · rw [p2 16 (by decide), p2 17 (by decide)]; exact c5 i t r hd
          · rw [q2 6 (by decide), q2 7 (by decide)]; exact c6 i t r hd
      · have e8 : ¬ s' = 8 := by omega
        simp only [e8, if_false] at hne' ⊢
        obtain ⟨d1, d2⟩ := h.2 s' hs' hne'
        have c1 := (h.1 s' (by omega)).1
        refine ⟨d1, fun i t r hd => ?_⟩
        have := drop_lt hd
        rw [p3 18 (by omega) _ (by omega), p3 19 (by omega) _ (by omega), p3 20 (by omega) _ (by omega)]
        exact d2 i t r hd
