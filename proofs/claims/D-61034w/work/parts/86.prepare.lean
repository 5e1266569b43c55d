/-! TransletDeskModel: prepare, ask -/
set_option maxRecDepth 100000
/-- the tree and the expressions, as TransletDeskModel has them -/
def MK (n : Nat) (row d nm : Nat → Nat) (vl : Nat → Int32) (X : Nat → List Tk) (τ : dS) : Prop :=
  WT n row d ∧ MT n row d nm vl τ ∧ (∀ i, i < n → nm (row i) < 6) ∧ (∀ s, s < 8 → (X s).length ≤ 40 ∧ τ 8 s = nI (X s).length ∧ (X s ≠ [] → MO (40 * s) (X s) τ)) ∧
  (∀ s, s < 8 → τ 10 s = 0 ∨ (τ 10 s = 1 ∧ (X s ≠ [] → msA n row d (fun y => nm (row y)) (fun y => vl (row y)) (40 * s) (X s) 0 τ)))
section
variable {n : Nat} {row d nm : Nat → Nat} {vl : Nat → Int32} {T : List Tk}
/-- outside the rows of token i nothing has changed -/
def out9 (c : Nat) (τ0 τ : dS) : Prop := ∀ j, (j < c ∨ c + 24 ≤ j) → τ 9 j = τ0 9 j
theorem md_prep_lp64 {Q : Int32 × dS → Prop} {τ0 : dS} {s i : Nat} {k : Nat} (hs8 : s < 8) (hi : i < 40) (hk : k < 4) (hrow : τ0 0 0 = nI (row 0)) (h0 : row 0 < 24)
    (hq : ∀ τ', sm [9] τ0 τ' → out9 (24 * (40 * s + i)) τ0 τ' → (∀ m, m < 24 → τ' 9 (24 * (40 * s + i) + m) = (if k = 0 then bI m else if k = 1 then bI (row 0) else 0)) → wq (md_prepare_b64 (nI s) (nI i) (nI k) (nI (24 * (40 * s + i))) (nI 24) τ') (ks md_prepare_st Q)) :
    ∀ (f m : Nat) (τ : dS), m + f = 24 → sm [9] τ0 τ → out9 (24 * (40 * s + i)) τ0 τ → (∀ j, j < m → τ 9 (24 * (40 * s + i) + j) = (if k = 0 then bI j else if k = 1 then bI (row 0) else 0)) → wq (lp md_prepare_st (64, [nI s, nI i, nI k, nI (24 * (40 * s + i)), nI m], τ)) Q := by
  intro f
  induction f with
  | zero =>
    intro m τ hm hs ho h
    have e : m = 24 := by omega
    subst e
    rw [md_prepare_l64]
    exact hq τ hs ho h
  | succ f ih =>
    intro m τ hm hs ho h
    have h108 : ∀ v : Int32, v = (if k = 0 then bI m else if k = 1 then bI (row 0) else 0) → wq (md_prepare_b108 (nI s) (nI i) (nI k) (nI (24 * (40 * s + i))) (nI m) v (nI (24 * (40 * s + i) + m)) τ) (ks md_prepare_st Q) := by
      intro v hv
      unfold md_prepare_b108
      rw [wc_n (by omega) (by omega), wq_some, ks_l, z_cl (by omega), n1_add]
      refine ih (m + 1) _ (by omega) (sm_up (by decide) hs) (fun j hj => ?_) (fun j hj => ?_)
      · rw [up2_s, u_n (by omega)]; exact ho j hj
      · rw [up2_s]
        by_cases e : j = m
        · rw [e, u_e, hv]
        · rw [u_n (by omega)]; exact h j (by omega)
    rw [md_prepare_l64]; unfold md_prepare_b64
    rw [wi_f (by rw [l_24, z_le (by omega) (by omega)]; omega)]
    by_cases c0 : k = 0
    · rw [wi_t (by rw [z_e0 (by omega)]; exact c0), bI_f, nI_add]
      exact h108 _ (by rw [if_pos c0])
    · rw [wi_f (by rw [z_e0 (by omega)]; exact c0)]
      by_cases c1 : k = 1
      · rw [wi_t (by rw [n1_eq (by omega)]; exact c1), wc_0 (by omega), z_0c, hs 0 (by decide), hrow, bI_f, nI_add]
        exact h108 _ (by rw [if_neg c0, if_pos c1])
      · rw [wi_f (by rw [n1_eq (by omega)]; exact c1), nI_add]
        exact h108 _ (by rw [if_neg c0, if_neg c1])
theorem md_prep_lp137 {Q : Int32 × dS → Prop} {τ0 : dS} {s i e : Nat} {v3 : Int32} (hs8 : s < 8) (hi : i + 1 < 40) (he : e < 320) (hne : i + 1 ≤ e - 40 * s) (hee : 40 * s ≤ e)
    (hq : ∀ τ', sm [9] τ0 τ' → out9 (24 * (40 * s + i)) τ0 τ' → (∀ m, m < 24 → τ' 9 (24 * (40 * s + i) + m) = τ0 9 (24 * (40 * s + i) + 24 + m) ||| τ0 9 (24 * e + m)) → wq (md_prepare_b187 (nI s) (nI i) v3 (nI (24 * (40 * s + i))) τ') (ks md_prepare_st Q)) :
    ∀ (f m : Nat) (τ : dS), m + f = 24 → sm [9] τ0 τ → out9 (24 * (40 * s + i)) τ0 τ → (∀ j, j < m → τ 9 (24 * (40 * s + i) + j) = τ0 9 (24 * (40 * s + i) + 24 + j) ||| τ0 9 (24 * e + j)) → wq (lp md_prepare_st (137, [nI s, nI i, v3, nI (24 * (40 * s + i)), nI e, nI m], τ)) Q := by
  intro f
  induction f with
  | zero =>
    intro m τ hm hs ho h
    have e : m = 24 := by omega
    subst e
    rw [md_prepare_l137]; unfold md_prepare_b137
    rw [wi_t (show (24 : Int32) ≤ nI 24 from Int32.le_refl _)]
    exact hq τ hs ho h
  | succ f ih =>
    intro m τ hm hs ho h
    rw [md_prepare_l137]; unfold md_prepare_b137
    rw [wi_f (by rw [l_24, z_le (by omega) (by omega)]; omega), l_24]
    simp (disch := omega) only [nI_add, pk_mul, wc_n, z_cl, wq_some, ks_l, n1_add]
    refine ih (m + 1) _ (by omega) (sm_up (by decide) hs) (fun j hj => ?_) (fun j hj => ?_)
    · rw [up2_s, u_n (by omega)]; exact ho j hj
    · rw [up2_s]
      by_cases e : j = m
      · rw [e, u_e, ho _ (Or.inr (by omega)), ho _ (Or.inr (by omega))]
      · rw [u_n (by omega)]; exact h j (by omega)
theorem md_prep_lp226 {Q : Int32 × dS → Prop} {τ0 : dS} {s i x m0 : Nat} {v3 all : Int32} (hs8 : s < 8) (hi : i + 1 < 40) (hx : x < 24) (hm0 : m0 < 24)
    (hq : ∀ τ', sm [9] τ0 τ' → out9 (24 * (40 * s + i)) τ0 τ' → (∀ m, m < 24 → τ' 9 (24 * (40 * s + i) + m) = if bt (τ0 9 (24 * (40 * s + i) + 24 + m)) x = true then τ0 9 (24 * (40 * s + i) + m) ||| all else τ0 9 (24 * (40 * s + i) + m)) → wq (lp md_prepare_st (190, [nI s, nI i, v3, nI (24 * (40 * s + i)), nI (m0 + 1)], τ')) Q) :
    ∀ (f m : Nat) (τ : dS), m + f = 24 → sm [9] τ0 τ → out9 (24 * (40 * s + i)) τ0 τ → (∀ j, j < m → τ 9 (24 * (40 * s + i) + j) = if bt (τ0 9 (24 * (40 * s + i) + 24 + j)) x = true then τ0 9 (24 * (40 * s + i) + j) ||| all else τ0 9 (24 * (40 * s + i) + j)) → (∀ j, m ≤ j → j < 24 → τ 9 (24 * (40 * s + i) + j) = τ0 9 (24 * (40 * s + i) + j)) → wq (lp md_prepare_st (226, [nI s, nI i, v3, nI (24 * (40 * s + i)), nI m0, nI x, all, nI m], τ)) Q := by
  intro f
  induction f with
  | zero =>
    intro m τ hm hs ho h h2
    have e : m = 24 := by omega
    subst e
    rw [md_prepare_l226]; unfold md_prepare_b226
    rw [wi_t (show (24 : Int32) ≤ nI 24 from Int32.le_refl _), wq_some, ks_l, n1_add]
    exact hq τ hs ho h
  | succ f ih =>
    intro m τ hm hs ho h h2
    rw [md_prepare_l226]; unfold md_prepare_b226 md_prepare_b270
    rw [wi_f (by rw [l_24, z_le (by omega) (by omega)]; omega), l_24, nI_add, nI_add, wc_n (by omega) (by omega), z_cl (by omega), ho _ (Or.inr (by omega))]
    by_cases g : bt (τ0 9 (24 * (40 * s + i) + 24 + m)) x = true
    · rw [wi_t (by rw [t1 _ (by omega : x < 32)]; exact g), nI_add, wc_n (by omega) (by omega), wc_n (by omega) (by omega), wq_some, ks_l, z_cl (by omega), n1_add]
      refine ih (m + 1) _ (by omega) (sm_up (by decide) hs) (fun j hj => ?_) (fun j hj => ?_) (fun j h3 h4 => ?_)
      · rw [up2_s, u_n (by omega)]; exact ho j hj
      · rw [up2_s]
        by_cases e : j = m
        · rw [e, u_e, if_pos g, h2 m (Nat.le_refl _) (by omega)]
        · rw [u_n (by omega)]; exact h j (by omega)
      · rw [up2_s, u_n (by omega)]; exact h2 j (by omega) h4
    · rw [wi_f (by rw [t1 _ (by omega : x < 32)]; exact g), wq_some, ks_l, n1_add]
      refine ih (m + 1) _ (by omega) hs ho (fun j hj => ?_) (fun j h3 h4 => h2 j (by omega) h4)
      by_cases e : j = m
      · rw [e, if_neg g]; exact h2 m (Nat.le_refl _) (by omega)
      · exact h j (by omega)
end
