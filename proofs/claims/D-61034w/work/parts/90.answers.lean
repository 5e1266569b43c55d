/-! the two states, and what the questions answer -/
set_option maxRecDepth 100000
/-- tree and expressions of both -/
def CR (n : Nat) (row d nm : Nat → Nat) (vl : Nat → Int32) (X : Nat → List Tk) (σ τ : dS) : Prop :=
  DK n row d nm vl X σ ∧ MK n row d nm vl X τ
theorem ht_hk (ts : List Tk) : ht ts = 0 ↔ hk ts < 4 := by
  unfold ht tyk
  by_cases g : hk ts < 4
  · rw [if_pos g]; exact ⟨fun _ => g, fun _ => rfl⟩
  · rw [if_neg g]
    refine ⟨fun h => ?_, fun h => absurd h g⟩
    by_cases g2 : hk ts < 13
    · rw [if_pos g2] at h; cases h
    · rw [if_neg g2] at h; cases h
section
variable {n : Nat} {row d nm : Nat → Nat} {vl : Nat → Int32} {X : Nat → List Tk} {σ τ : dS}
theorem pos_of {ts : List Tk} (h : ts ≠ []) : 0 < ts.length := by
  rcases Nat.eq_zero_or_pos ts.length with e | e
  · exact absurd (List.length_eq_zero_iff.mp e) h
  · exact e
theorem there_y (h : CR n row d nm vl X σ τ) {s x : Nat} (hs8 : s < 8) (hne : X s ≠ []) (hx : x < n) : dk_isThere (nI s) (nI (row x)) σ = some (1, σ) ∧ md_isExpression (nI s) (nI (row x)) τ = some (1, τ) := by
  obtain ⟨hD, hM⟩ := h
  have hn24 := hD.1.1.1
  have hp := pos_of hne
  have l1 := hD.2.2.2.1 s hs8
  have l2 := hM.2.2.2.1 s hs8
  constructor
  · apply eq_of_wq
    unfold dk_isThere dk_isThere_b0
    rw [wi_f (by rw [z_lt0 (by omega)]; simp), wi_f (by rw [l_8, z_le (by omega) (by omega)]; omega), wc_n (by omega) (by omega), z_cl (by omega), l1.2.1, wi_f (by rw [z_le0 (by omega)]; omega), dk_isNode_y hD.1 hD.2.1 hx, wq_bind, wq_some]
    unfold dk_isThere_b24
    dsimp only
    rw [wi_f (by decide), wq_some]
  · apply eq_of_wq
    unfold md_isExpression md_isExpression_b0
    rw [l_7, md_in_nat (by omega) (by omega), wq_bind, wq_some]
    unfold md_isExpression_b7
    rw [wi_f (by decide), wc_n (by omega) (by omega), z_cl (by omega), l2.2.1, wi_f (by rw [z_le0 (by omega)]; omega), md_where_y hM.1 hM.2.1 hx, wq_bind, wq_some]
    unfold md_isExpression_b24
    dsimp only
    rw [wi_f (by rw [z_lt0 (by omega)]; simp), wq_some]
theorem there_n (h : CR n row d nm vl X σ τ) (v1 v2 : Int32) : (∃ s x, s < 8 ∧ X s ≠ [] ∧ x < n ∧ v1 = nI s ∧ v2 = nI (row x)) ∨ (dk_isThere v1 v2 σ = some (0, σ) ∧ md_isExpression v1 v2 τ = some (0, τ)) := by
  obtain ⟨hD, hM⟩ := h
  have hn24 := hD.1.1.1
  by_cases hv : v1 < 0 ∨ nI 8 ≤ v1
  · right
    constructor
    · apply eq_of_wq
      unfold dk_isThere dk_isThere_b0
      by_cases e : v1 < 0
      · rw [wi_t e, wq_some]
      · rw [wi_f e, wi_t (by rcases hv with g | g; exact absurd g e; exact g), wq_some]
    · apply eq_of_wq
      unfold md_isExpression md_isExpression_b0
      rw [l_7, md_in_out (by omega) hv, wq_bind, wq_some]
      unfold md_isExpression_b7
      rw [wi_t rfl, wq_some]
  obtain ⟨s, hs, rfl⟩ : ∃ s, s < 8 ∧ v1 = nI s := by
    rcases z_cut v1 (n := 8) (by omega) with g | g | g
    · exact absurd (Or.inl g) hv
    · exact absurd (Or.inr g) hv
    · exact g
  have l1 := hD.2.2.2.1 s hs
  have l2 := hM.2.2.2.1 s hs
  by_cases hne : X s = []
  · right
    have e0 : (X s).length = 0 := by rw [hne]; rfl
    constructor
    · apply eq_of_wq
      unfold dk_isThere dk_isThere_b0
      rw [wi_f (by rw [z_lt0 (by omega)]; simp), wi_f (by rw [l_8, z_le (by omega) (by omega)]; omega), wc_n (by omega) (by omega), z_cl (by omega), l1.2.1, wi_t (by rw [z_le0 (by omega)]; exact e0), wq_some]
    · apply eq_of_wq
      unfold md_isExpression md_isExpression_b0
      rw [l_7, md_in_nat (by omega) (by omega), wq_bind, wq_some]
      unfold md_isExpression_b7
      rw [wi_f (by decide), wc_n (by omega) (by omega), z_cl (by omega), l2.2.1, wi_t (by rw [z_le0 (by omega)]; exact e0), wq_some]
  have hp := pos_of hne
  rcases row_cut n row v2 with ⟨x, hx, rfl⟩ | hv2
  · exact Or.inl ⟨s, x, hs, hne, hx, rfl, rfl⟩
  · right
    constructor
    · apply eq_of_wq
      unfold dk_isThere dk_isThere_b0
      rw [wi_f (by rw [z_lt0 (by omega)]; simp), wi_f (by rw [l_8, z_le (by omega) (by omega)]; omega), wc_n (by omega) (by omega), z_cl (by omega), l1.2.1, wi_f (by rw [z_le0 (by omega)]; omega), dk_isNode_n hD.2.1 hv2, wq_bind, wq_some]
      unfold dk_isThere_b24
      dsimp only
      rw [wi_t rfl, wq_some]
    · apply eq_of_wq
      unfold md_isExpression md_isExpression_b0
      rw [l_7, md_in_nat (by omega) (by omega), wq_bind, wq_some]
      unfold md_isExpression_b7
      rw [wi_f (by decide), wc_n (by omega) (by omega), z_cl (by omega), l2.2.1, wi_f (by rw [z_le0 (by omega)]; omega), md_where_n hM.1 hM.2.1 hv2, wq_bind, wq_some]
      unfold md_isExpression_b24
      dsimp only
      rw [wi_t (by decide), wq_some]
/-- the fields that questions write -/
abbrev QD : List Nat := [7, 8, 9, 10, 11, 12, 13, 14, 15, 23, 24, 25, 26, 27]
abbrev QM : List Nat := [9, 10, 11, 12, 13, 14, 15, 16]
theorem dk_resultAt_sp {Q : Int32 × dS → Prop} (hD : DK n row d nm vl X σ) {s x : Nat} (hs8 : s < 8) (hne : X s ≠ []) (hx : x < n) (hq : ∀ σ', sm QD σ σ' → DK n row d nm vl X σ' → CT n row d nm vl σ' → Q (ev n d (fun y => nm (row y)) (fun y => vl (row y)) (X s) x 1 1, σ')) : wq (dk_resultAt (nI s) (nI (row x)) σ) Q := by
  have hn24 := hD.1.1.1
  have rx := hD.1.1.2.1 x hx
  unfold dk_resultAt dk_resultAt_b0
  rw [wq_bind]
  refine dk_learn_sp hD hs8 hne (fun r a1 a2 a3 a4 a5 a6 => ?_)
  unfold dk_resultAt_b5
  rw [wc_n rx (by omega), z_cl (by omega), (a3.1 x hx).1, l_24, pk_mul, nI_add, wc_n (by omega) (by omega), z_cl (by omega), a4 x hx, wq_some]
  exact hq r.2 a1 (DK_learn hD hs8 a1 a2 a3 a4 a5 a6) a3
theorem ty_at (hD : DK n row d nm vl X σ) {s : Nat} (hs8 : s < 8) (hne : X s ≠ []) : σ 18 (40 * s) = nI (ht (X s)) := by
  have := (XO_at ((hD.2.2.2.1 s hs8).2.2 hne) (pos_of hne)).1
  rw [Nat.add_zero] at this; exact this
theorem md_isSet_sp (hM : MK n row d nm vl X τ) {s : Nat} (hs8 : s < 8) : md_isSet (nI s) τ = some (if X s ≠ [] ∧ ht (X s) = 0 then 1 else 0, τ) := by
  obtain ⟨l1, l2, l3⟩ := hM.2.2.2.1 s hs8
  apply eq_of_wq
  unfold md_isSet md_isSet_b0
  rw [wc_n (by omega) (by omega), z_cl (by omega), l2]
  by_cases e : X s = []
  · rw [wi_t (by rw [e]; exact Int32.le_refl _), wq_some, if_neg (fun g => g.1 e)]
  · have hp := pos_of e
    have hO := l3 e
    obtain ⟨t, r, hd⟩ := drop_ex (ts := X s) (i := 0) hp
    have hd' : X s = t :: r := hd
    have ht18 := (hO.2.2.1 t (drop_mem hd)).1
    have e6 := (hO.2.2.2.2 0 t r hd).1
    rw [Nat.add_zero] at e6
    have hhk : hk (X s) = t.1 := by rw [hd']; rfl
    rw [wi_f (by rw [z_le0 (by omega)]; omega), l_40, pk_mul, wc_n (by omega) (by omega), z_cl (by omega), e6]
    by_cases g : t.1 < 4
    · rw [wi_f (by rw [l_4, z_le (by omega) (by omega)]; omega), wq_some, if_pos ⟨e, (ht_hk _).mpr (by omega)⟩]
    · rw [wi_t (by rw [l_4, z_le (by omega) (by omega)]; omega), wq_some, if_neg (fun q => g (by rw [← hhk]; exact (ht_hk _).mp q.2))]
/-- what a question leaves -/
def QO (n : Nat) (row d nm : Nat → Nat) (vl : Nat → Int32) (X : Nat → List Tk) (σ τ σ' τ' : dS) : Prop := sm QD σ σ' ∧ sm QM τ τ' ∧ CR n row d nm vl X σ' τ'
theorem QO_rf (h : CR n row d nm vl X σ τ) : QO n row d nm vl X σ τ σ τ := ⟨sm_rf, sm_rf, h⟩
theorem size_both (h : CR n row d nm vl X σ τ) (v1 v2 : Int32) : both (dk_size v1 v2 σ) (md_size v1 v2 τ) (QO n row d nm vl X σ τ) := by
  rcases there_n h v1 v2 with ⟨s, x, hs8, hne, hx, rfl, rfl⟩ | ⟨t1, t2⟩
  · obtain ⟨y1, y2⟩ := there_y h hs8 hne hx
    obtain ⟨hD, hM⟩ := id h
    have hn24 := hD.1.1.1
    have hl := (hD.2.2.2.1 s hs8).1
    by_cases hty : ht (X s) = 0
    · refine both_of (P := fun r => r.1 = nI (els (ev n d (fun y => nm (row y)) (fun y => vl (row y)) (X s) x 1 1)).length ∧ sm QD σ r.2 ∧ DK n row d nm vl X r.2) (P' := fun r => r.1 = nI (els (ev n d (fun y => nm (row y)) (fun y => vl (row y)) (X s) x 1 1)).length ∧ sm QM τ r.2 ∧ MK n row d nm vl X r.2) ?_ ?_ (fun r r' a b => ⟨by rw [a.1, b.1], a.2.1, b.2.1, a.2.2, b.2.2⟩)
      · unfold dk_size dk_size_b0
        rw [y1, wq_bind, wq_some]
        unfold dk_size_b6
        dsimp only
        rw [wi_f (by decide), l_40, pk_mul, wc_n (by omega) (by omega), z_cl (by omega), wi_t (by rw [ty_at hD hs8 hne, hty]; exact nI_0), wq_bind]
        refine dk_resultAt_sp hD hs8 hne hx (fun σ' a1 a2 a3 => ?_)
        unfold dk_size_b29 dk_size_b34
        rw [dk_bits_sp, wq_bind, wq_some, wq_some]
        exact ⟨rfl, a1, a2⟩
      · unfold md_size md_size_b0
        rw [y2, wq_bind, wq_some]
        unfold md_size_b6
        dsimp only
        rw [wi_f (by decide), md_isSet_sp hM hs8, if_pos ⟨hne, hty⟩, wq_bind, wq_some]
        unfold md_size_b14
        dsimp only
        rw [wi_f (by decide), wq_bind]
        refine md_ask_sp hM hs8 hne hx (fun r a1 a2 a3 => ?_)
        unfold md_size_b25 md_size_b35
        rw [wc_0 (by omega), z_0c, md_counted_sp a2.1 (a3.2.1 hty), wq_bind, wq_some, wq_some]
        exact ⟨rfl, a1, a2⟩
    · refine both_i (a := -1) (σ' := σ) (τ' := τ) ?_ ?_ (QO_rf h)
      · apply eq_of_wq
        unfold dk_size dk_size_b0
        rw [y1, wq_bind, wq_some]
        unfold dk_size_b6
        dsimp only
        rw [wi_f (by decide), l_40, pk_mul, wc_n (by omega) (by omega), z_cl (by omega), wi_f (by have := tyk_lt (hk (X s)); rw [ty_at hD hs8 hne, z_e0 (by unfold ht; omega)]; exact hty), wq_some]
      · apply eq_of_wq
        unfold md_size md_size_b0
        rw [y2, wq_bind, wq_some]
        unfold md_size_b6
        dsimp only
        rw [wi_f (by decide), md_isSet_sp hM hs8, if_neg (fun g => hty g.2), wq_bind, wq_some]
        unfold md_size_b14
        dsimp only
        rw [wi_t rfl, wq_some]
  · refine both_i (a := -1) (σ' := σ) (τ' := τ) ?_ ?_ (QO_rf h)
    · apply eq_of_wq
      unfold dk_size dk_size_b0
      rw [t1, wq_bind, wq_some]
      unfold dk_size_b6
      dsimp only
      rw [wi_t rfl, wq_some]
    · apply eq_of_wq
      unfold md_size md_size_b0
      rw [t2, wq_bind, wq_some]
      unfold md_size_b6
      dsimp only
      rw [wi_t rfl, wq_some]
theorem number_both (h : CR n row d nm vl X σ τ) (v1 v2 : Int32) : both (dk_number v1 v2 σ) (md_number v1 v2 τ) (QO n row d nm vl X σ τ) := by
  rcases there_n h v1 v2 with ⟨s, x, hs8, hne, hx, rfl, rfl⟩ | ⟨t1, t2⟩
  · obtain ⟨y1, y2⟩ := there_y h hs8 hne hx
    obtain ⟨hD, hM⟩ := id h
    have hn24 := hD.1.1.1
    have hl := (hD.2.2.2.1 s hs8).1
    have htl : ht (X s) < 3 := tyk_lt _
    refine both_of (P := fun r => r.1 = nmv (fun y => vl (row y)) (ht (X s)) (ev n d (fun y => nm (row y)) (fun y => vl (row y)) (X s) x 1 1) ∧ sm QD σ r.2 ∧ DK n row d nm vl X r.2) (P' := fun r => r.1 = nmv (fun y => vl (row y)) (ht (X s)) (ev n d (fun y => nm (row y)) (fun y => vl (row y)) (X s) x 1 1) ∧ sm QM τ r.2 ∧ MK n row d nm vl X r.2) ?_ ?_ (fun r r' a b => ⟨by rw [a.1, b.1], a.2.1, b.2.1, a.2.2, b.2.2⟩)
    · unfold dk_number dk_number_b0
      rw [y1, wq_bind, wq_some]
      unfold dk_number_b6
      dsimp only
      rw [wi_f (by decide), wq_bind]
      refine dk_resultAt_sp hD hs8 hne hx (fun σ' a1 a2 a3 => ?_)
      unfold dk_number_b17 dk_number_b35
      dsimp only
      rw [l_40, pk_mul, wc_n (by omega) (by omega), z_cl (by omega)]
      by_cases e : ht (X s) = 0
      · rw [wi_t (by rw [ty_at a2 hs8 hne, e]; exact nI_0), dk_valueOf_sp (n := n) (vv := fun y => vl (row y)) hn24 (fun y hy => (a3.1 y hy).2.2.2.2.2.2) (ev_bw (by omega) _ _ (Nat.le_refl _) ⟨1, ((hD.2.2.2.1 s hs8).2.2 hne).2.2.2.1⟩ hne e x 1 1 hx), wq_bind, wq_some, wq_some]
        exact ⟨by unfold nmv; rw [if_pos e], a1, a2⟩
      · rw [wi_f (by rw [ty_at a2 hs8 hne, z_e0 (by omega)]; exact e), wq_some]
        exact ⟨by unfold nmv; rw [if_neg e], a1, a2⟩
    · unfold md_number md_number_b0
      rw [y2, wq_bind, wq_some]
      unfold md_number_b6
      dsimp only
      rw [wi_f (by decide), wq_bind]
      refine md_ask_sp hM hs8 hne hx (fun r a1 a2 a3 => ?_)
      unfold md_number_b17 md_number_b22
      rw [show (0 : Int32) = nI 0 from nI_0.symm, md_plain_sp a2.1 a2.2.1 (by omega) htl a3, wq_bind, wq_some, wq_some]
      exact ⟨rfl, a1, a2⟩
  · refine both_i (a := 0) (σ' := σ) (τ' := τ) ?_ ?_ (QO_rf h)
    · apply eq_of_wq
      unfold dk_number dk_number_b0
      rw [t1, wq_bind, wq_some]
      unfold dk_number_b6
      dsimp only
      rw [wi_t rfl, wq_some]
    · apply eq_of_wq
      unfold md_number md_number_b0
      rw [t2, wq_bind, wq_some]
      unfold md_number_b6
      dsimp only
      rw [wi_t rfl, wq_some]
theorem holds_both (h : CR n row d nm vl X σ τ) (v1 v2 : Int32) : both (dk_holds v1 v2 σ) (md_holds v1 v2 τ) (QO n row d nm vl X σ τ) := by
  rcases there_n h v1 v2 with ⟨s, x, hs8, hne, hx, rfl, rfl⟩ | ⟨t1, t2⟩
  · obtain ⟨y1, y2⟩ := there_y h hs8 hne hx
    obtain ⟨hD, hM⟩ := id h
    have htl : ht (X s) < 3 := tyk_lt _
    refine both_of (P := fun r => r.1 = b2i (decide (ev n d (fun y => nm (row y)) (fun y => vl (row y)) (X s) x 1 1 ≠ 0)) ∧ sm QD σ r.2 ∧ DK n row d nm vl X r.2) (P' := fun r => r.1 = b2i (decide (ev n d (fun y => nm (row y)) (fun y => vl (row y)) (X s) x 1 1 ≠ 0)) ∧ sm QM τ r.2 ∧ MK n row d nm vl X r.2) ?_ ?_ (fun r r' a b => ⟨by rw [a.1, b.1], a.2.1, b.2.1, a.2.2, b.2.2⟩)
    · unfold dk_holds dk_holds_b0
      rw [y1, wq_bind, wq_some]
      unfold dk_holds_b6
      dsimp only
      rw [wi_f (by decide), wq_bind]
      refine dk_resultAt_sp hD hs8 hne hx (fun σ' a1 a2 a3 => ?_)
      unfold dk_holds_b15
      dsimp only
      by_cases g : ev n d (fun y => nm (row y)) (fun y => vl (row y)) (X s) x 1 1 = 0
      · rw [wi_t g, wq_some]; exact ⟨by rw [b2i_f (by simp [g])], a1, a2⟩
      · rw [wi_f g, wq_some]; exact ⟨by rw [b2i_t (by simp [g])], a1, a2⟩
    · unfold md_holds md_holds_b0
      rw [y2, wq_bind, wq_some]
      unfold md_holds_b6
      dsimp only
      rw [wi_f (by decide), wq_bind]
      refine md_ask_sp hM hs8 hne hx (fun r a1 a2 a3 => ?_)
      unfold md_holds_b17 md_holds_b22
      have hb : ∀ c : Bool, b2i c = 0 ∨ b2i c = 1 := by intro c; cases c <;> decide
      rw [show (0 : Int32) = nI 0 from nI_0.symm, md_isTrue_sp (by omega) htl a3, wq_bind, wq_some, wq_zok, wq_some]
      exact ⟨hb _, rfl, a1, a2⟩
  · refine both_i (a := 0) (σ' := σ) (τ' := τ) ?_ ?_ (QO_rf h)
    · apply eq_of_wq
      unfold dk_holds dk_holds_b0
      rw [t1, wq_bind, wq_some]
      unfold dk_holds_b6
      dsimp only
      rw [wi_t rfl, wq_some]
    · apply eq_of_wq
      unfold md_holds md_holds_b0
      rw [t2, wq_bind, wq_some]
      unfold md_holds_b6
      dsimp only
      rw [wi_t rfl, wq_some]
end
