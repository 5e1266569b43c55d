/-! templates: writing and dropping one; reading an output -/
set_option maxRecDepth 100000
theorem in9 {x : Int32} (h1 : ¬ x < -9) (h2 : ¬ 9 < x) : ∃ j, j < 19 ∧ x = nI j + (-9) := by
  have e1 : (-9 : Int) ≤ x.toInt := Int32.le_iff_toInt_le.mp (Int32.not_lt.mp h1)
  have e2 : x.toInt ≤ 9 := Int32.le_iff_toInt_le.mp (Int32.not_lt.mp h2)
  refine ⟨(x.toInt + 9).toNat, by omega, ?_⟩
  apply Int32.toInt_inj.mp
  rw [(by decide +kernel : ∀ j, j < 19 → (nI j + (-9)).toInt = (j : Int) - 9) _ (by omega)]
  omega
theorem nb9 {x : Int32} (h1 : ¬ x < -9) (h2 : ¬ 9 < x) : vp_nar .byte (x.toInt8.toInt32) = x := by
  obtain ⟨j, hj, rfl⟩ := in9 h1 h2
  rw [vp_nar_byte]
  exact (by decide +kernel : ∀ j, j < 19 → (nI j + (-9)).toInt8.toInt32.toInt8.toInt32 = nI j + (-9)) j hj
def sl (x : Int32) : Prop := x = -1 ∨ ∃ o, o < 8 ∧ x = nI o
theorem sl_of {x : Int32} (h1 : ¬ x < -1) (h2 : ¬ 7 < x) : sl x := by
  by_cases g : x < 0
  · left
    have e1 : (-1 : Int) ≤ x.toInt := Int32.le_iff_toInt_le.mp (Int32.not_lt.mp h1)
    have e2 : x.toInt < 0 := Int32.lt_iff_toInt_lt.mp g
    apply Int32.toInt_inj.mp
    show x.toInt = -1
    omega
  · right
    rcases z_cut x (n := 8) (by omega) with q | q | q
    · exact absurd q g
    · refine absurd ?_ h2
      exact Int32.lt_iff_toInt_lt.mpr (Int.lt_of_lt_of_le (by decide : (7 : Int32).toInt < (nI 8).toInt) (Int32.le_iff_toInt_le.mp q))
    · exact q
theorem sl_nb {x : Int32} (h : sl x) : vp_nar .byte (x.toInt8.toInt32) = x := by
  rcases h with rfl | ⟨o, ho, rfl⟩
  · decide
  · rw [z_b (by omega), z_nb (by omega)]
/-- the templates -/
abbrev TA : Type := Nat → Option (Nat × Int32 × Int32 × Int32)
def TR (A : TA) (σ τ : dS) : Prop := ∀ t, t < 6 → (A t = none → σ 28 t = -1 ∧ τ 17 t = 0) ∧ (∀ m p o w, A t = some (m, p, o, w) → m < 8 ∧ σ 28 t = nI m ∧ τ 17 t = 1 ∧ τ 18 t = nI m ∧ σ 29 t = p ∧ τ 19 t = p ∧ σ 30 t = o ∧ τ 20 t = o ∧ sl o ∧ σ 31 t = w ∧ τ 21 t = w ∧ sl w)
theorem TR_sm {A : TA} {σ τ σ' τ' : dS} {l l' : List Nat} (h : TR A σ τ) (hs : sm l σ σ') (hl : ∀ i, i ∈ l → i < 28 ∨ 31 < i) (hs' : sm l' τ τ') (hl' : ∀ i, i ∈ l' → i < 17 ∨ 21 < i) : TR A σ' τ' := by
  have k : ∀ i, 28 ≤ i → i ≤ 31 → σ' i = σ i := fun i a b => hs i (fun g => by have := hl i g; omega)
  have k' : ∀ i, 17 ≤ i → i ≤ 21 → τ' i = τ i := fun i a b => hs' i (fun g => by have := hl' i g; omega)
  unfold TR at *
  rw [k 28 (by omega) (by omega), k 29 (by omega) (by omega), k 30 (by omega) (by omega), k 31 (by omega) (by omega), k' 17 (by omega) (by omega), k' 18 (by omega) (by omega), k' 19 (by omega) (by omega), k' 20 (by omega) (by omega), k' 21 (by omega) (by omega)]
  exact h
/-- what writing or dropping a template comes to -/
def PO (σ τ σ' τ' : dS) : Prop := (σ' = σ ∧ τ' = τ) ∨ (∃ A', sm [28, 29, 30, 31, 33] σ σ' ∧ sm [17, 18, 19, 20, 21] τ τ' ∧ σ' 33 0 = 0 ∧ TR A' σ' τ')
theorem io {β : Type} {p q : Prop} [Decidable p] [Decidable q] {z y : β} : (if p then z else if q then z else y) = if p ∨ q then z else y := by
  by_cases a : p
  · rw [if_pos a, if_pos (Or.inl a)]
  · by_cases b : q
    · rw [if_neg a, if_pos b, if_pos (Or.inr b)]
    · rw [if_neg a, if_neg b, if_neg (fun g => g.elim a b)]
theorem ion {β : Type} {p q q' : Prop} [Decidable p] [Decidable q] [Decidable q'] {z y : β} (h : q ↔ ¬ q') : (if p then z else if q then y else z) = if p ∨ q' then z else y := by
  by_cases a : p
  · rw [if_pos a, if_pos (Or.inl a)]
  · by_cases b : q'
    · rw [if_neg a, if_neg (fun g => (h.mp g) b), if_pos (Or.inr b)]
    · rw [if_neg a, if_pos (h.mpr b), if_neg (fun g => g.elim a b)]
theorem md_in_if (x a b : Int32) : md_in x a b = some (if x < a ∨ b < x then 0 else 1) := by
  by_cases h : x < a ∨ b < x
  · rw [if_pos h, md_in_n h]
  · rw [if_neg h, md_in_y (fun g => h (Or.inl g)) (fun g => h (Or.inr g))]
theorem template_both {A : TA} {σ τ : dS} (h : TR A σ τ) (v1 v2 v3 v4 v5 : Int32) : both (dk_template v1 v2 v3 v4 v5 σ) (md_template v1 v2 v3 v4 v5 τ) (PO σ τ) := by
  unfold dk_template dk_template_b0 md_template md_template_b0
  rw [ion (q' := 7 < v5) (by rw [z_nlt']), io (p := v4 < -1) (q := 7 < v4), io (p := v3 < -9) (q := 9 < v3), io (p := v2 < 0) (q := 7 < v2), io (p := v1 < 0) (q := 5 < v1), md_in_if]
  unfold both
  have hz : ∀ y, y = some ((0 : Int32), τ) → wq (some ((0 : Int32), σ)) (fun r => wq y (fun r' => r.1 = r'.1 ∧ PO σ τ r.2 r'.2)) := by
    intro y hy
    rw [hy, wq_some, wq_some]; exact ⟨rfl, Or.inl ⟨rfl, rfl⟩⟩
  by_cases c1 : v1 < 0 ∨ 5 < v1
  · rw [wi_t c1, if_pos c1]; apply hz; apply eq_of_wq
    rw [wq_bind, wq_some]; unfold md_template_b6; rw [wi_t rfl, wq_some]
  rw [wi_f c1, if_neg c1]
  by_cases c2 : v2 < 0 ∨ 7 < v2
  · rw [wi_t c2]; apply hz; apply eq_of_wq
    rw [wq_bind, wq_some]; unfold md_template_b6; rw [wi_f (by decide), md_in_if, if_pos c2, wq_bind, wq_some]
    unfold md_template_b16; rw [wi_t rfl, wq_some]
  rw [wi_f c2]
  by_cases c3 : v3 < -9 ∨ 9 < v3
  · rw [wi_t c3]; apply hz; apply eq_of_wq
    rw [wq_bind, wq_some]; unfold md_template_b6; rw [wi_f (by decide), md_in_if, if_neg c2, wq_bind, wq_some]
    unfold md_template_b16; rw [wi_f (by decide), md_in_if, if_pos c3, wq_bind, wq_some]
    unfold md_template_b27; rw [wi_t rfl, wq_some]
  rw [wi_f c3]
  by_cases c4 : v4 < -1 ∨ 7 < v4
  · rw [wi_t c4]; apply hz; apply eq_of_wq
    rw [wq_bind, wq_some]; unfold md_template_b6; rw [wi_f (by decide), md_in_if, if_neg c2, wq_bind, wq_some]
    unfold md_template_b16; rw [wi_f (by decide), md_in_if, if_neg c3, wq_bind, wq_some]
    unfold md_template_b27; rw [wi_f (by decide), md_in_if, if_pos c4, wq_bind, wq_some]
    unfold md_template_b38; rw [wi_t rfl, wq_some]
  rw [wi_f c4]
  by_cases c5 : v5 < -1 ∨ 7 < v5
  · rw [wi_t c5]; apply hz; apply eq_of_wq
    rw [wq_bind, wq_some]; unfold md_template_b6; rw [wi_f (by decide), md_in_if, if_neg c2, wq_bind, wq_some]
    unfold md_template_b16; rw [wi_f (by decide), md_in_if, if_neg c3, wq_bind, wq_some]
    unfold md_template_b27; rw [wi_f (by decide), md_in_if, if_neg c4, wq_bind, wq_some]
    unfold md_template_b38; rw [wi_f (by decide), md_in_if, if_pos c5, wq_bind, wq_some]
    unfold md_template_b49; rw [wi_t rfl, wq_some]
  rw [wi_f c5]
  obtain ⟨t, ht6, rfl⟩ : ∃ t, t < 6 ∧ v1 = nI t := by
    rcases z_cut v1 (n := 6) (by omega) with g | g | g
    · exact absurd (Or.inl g) c1
    · exact absurd (Or.inr (Int32.lt_iff_toInt_lt.mpr (Int.lt_of_lt_of_le (by decide : (5 : Int32).toInt < (nI 6).toInt) (Int32.le_iff_toInt_le.mp g)))) c1
    · exact g
  obtain ⟨m, hm8, rfl⟩ : ∃ t, t < 8 ∧ v2 = nI t := by
    rcases z_cut v2 (n := 8) (by omega) with g | g | g
    · exact absurd (Or.inl g) c2
    · exact absurd (Or.inr (Int32.lt_iff_toInt_lt.mpr (Int.lt_of_lt_of_le (by decide : (7 : Int32).toInt < (nI 8).toInt) (Int32.le_iff_toInt_le.mp g)))) c2
    · exact g
  have s4 := sl_of (fun g => c4 (Or.inl g)) (fun g => c4 (Or.inr g))
  have s5 := sl_of (fun g => c5 (Or.inl g)) (fun g => c5 (Or.inr g))
  rw [wc_n (by omega) (by omega), z_cl (by omega), z_b (by omega), z_nb (by omega)]
  unfold dk_template_b67
  rw [wc_n (by omega) (by omega), z_cl (by omega), nb9 (fun g => c3 (Or.inl g)) (fun g => c3 (Or.inr g))]
  unfold dk_template_b75
  rw [wc_n (by omega) (by omega), z_cl (by omega), sl_nb s4]
  unfold dk_template_b84
  rw [wc_n (by omega) (by omega), z_cl (by omega), sl_nb s5]
  unfold dk_template_b93 dk_template_b98
  rw [wq_some]
  rw [wq_bind, wq_some]; unfold md_template_b6; rw [wi_f (by decide), md_in_if, if_neg c2, wq_bind, wq_some]
  unfold md_template_b16; rw [wi_f (by decide), md_in_if, if_neg c3, wq_bind, wq_some]
  unfold md_template_b27; rw [wi_f (by decide), md_in_if, if_neg c4, wq_bind, wq_some]
  unfold md_template_b38; rw [wi_f (by decide), md_in_if, if_neg c5, wq_bind, wq_some]
  unfold md_template_b49; rw [wi_f (by decide), wc_n (by omega) (by omega), z_cl (by omega), z_nz1]
  unfold md_template_b61; rw [wc_n (by omega) (by omega), z_cl (by omega)]
  unfold md_template_b68; rw [wc_n (by omega) (by omega), z_cl (by omega)]
  unfold md_template_b75; rw [wc_n (by omega) (by omega), z_cl (by omega)]
  unfold md_template_b83; rw [wc_n (by omega) (by omega), z_cl (by omega)]
  unfold md_template_b91
  rw [wq_some]
  refine ⟨rfl, Or.inr ⟨fun t' => if t' = t then some (m, v3, v4, v5) else A t', ?_, ?_, ?_, ?_⟩⟩
  · (repeat (refine sm_up (by decide) ?_)); first | exact sm_rf | assumption
  · (repeat (refine sm_up (by decide) ?_)); first | exact sm_rf | assumption
  · simp (disch := first | omega | with_reducible assumption) only [up2_s, up2_n, u_e, u_n]
  · intro t' ht'
    dsimp only
    by_cases e : t' = t
    · subst e
      rw [if_pos rfl]
      refine ⟨fun g => by (cases g), fun m2 p2 o2 w2 g => ?_⟩
      cases g
      simp (disch := first | omega | with_reducible assumption) only [up2_s, up2_n, u_e, u_n]
      refine ⟨hm8, ?_, ?_, ?_, ?_, ?_, ?_, ?_, s4, ?_, ?_, s5⟩ <;> first | rfl | trivial
    · rw [if_neg e]
      simp only [up2_s, up2_n (show (28:Nat) ≠ 33 by decide), up2_n (show (28:Nat) ≠ 31 by decide), up2_n (show (28:Nat) ≠ 30 by decide), up2_n (show (28:Nat) ≠ 29 by decide), up2_n (show (29:Nat) ≠ 33 by decide), up2_n (show (29:Nat) ≠ 31 by decide), up2_n (show (29:Nat) ≠ 30 by decide), up2_n (show (29:Nat) ≠ 28 by decide), up2_n (show (30:Nat) ≠ 33 by decide), up2_n (show (30:Nat) ≠ 31 by decide), up2_n (show (30:Nat) ≠ 28 by decide), up2_n (show (30:Nat) ≠ 29 by decide), up2_n (show (31:Nat) ≠ 33 by decide), up2_n (show (31:Nat) ≠ 28 by decide), up2_n (show (31:Nat) ≠ 30 by decide), up2_n (show (31:Nat) ≠ 29 by decide), up2_n (show (17:Nat) ≠ 18 by decide), up2_n (show (17:Nat) ≠ 19 by decide), up2_n (show (17:Nat) ≠ 20 by decide), up2_n (show (17:Nat) ≠ 21 by decide), up2_n (show (18:Nat) ≠ 17 by decide), up2_n (show (18:Nat) ≠ 19 by decide), up2_n (show (18:Nat) ≠ 20 by decide), up2_n (show (18:Nat) ≠ 21 by decide), up2_n (show (19:Nat) ≠ 17 by decide), up2_n (show (19:Nat) ≠ 18 by decide), up2_n (show (19:Nat) ≠ 20 by decide), up2_n (show (19:Nat) ≠ 21 by decide), up2_n (show (20:Nat) ≠ 17 by decide), up2_n (show (20:Nat) ≠ 18 by decide), up2_n (show (20:Nat) ≠ 19 by decide), up2_n (show (20:Nat) ≠ 21 by decide), up2_n (show (21:Nat) ≠ 17 by decide), up2_n (show (21:Nat) ≠ 18 by decide), up2_n (show (21:Nat) ≠ 19 by decide), up2_n (show (21:Nat) ≠ 20 by decide), u_n e]
      exact h t' ht'
theorem drop_both {A : TA} {σ τ : dS} (h : TR A σ τ) (v1 : Int32) : both (dk_drop v1 σ) (md_drop v1 τ) (PO σ τ) := by
  unfold dk_drop dk_drop_b0 md_drop md_drop_b0
  rw [io, md_in_if]
  unfold both
  have hz : ∀ y, y = some ((0 : Int32), τ) → wq (some ((0 : Int32), σ)) (fun r => wq y (fun r' => r.1 = r'.1 ∧ PO σ τ r.2 r'.2)) := by
    intro y hy
    rw [hy, wq_some, wq_some]; exact ⟨rfl, Or.inl ⟨rfl, rfl⟩⟩
  by_cases c1 : v1 < 0 ∨ 5 < v1
  · rw [wi_t c1, if_pos c1]; apply hz; apply eq_of_wq
    rw [wq_bind, wq_some]; unfold md_drop_b6; rw [wi_t rfl, wq_some]
  rw [wi_f c1, if_neg c1]
  obtain ⟨t, ht6, rfl⟩ : ∃ t, t < 6 ∧ v1 = nI t := by
    rcases z_cut v1 (n := 6) (by omega) with g | g | g
    · exact absurd (Or.inl g) c1
    · exact absurd (Or.inr (Int32.lt_iff_toInt_lt.mpr (Int.lt_of_lt_of_le (by decide : (5 : Int32).toInt < (nI 6).toInt) (Int32.le_iff_toInt_le.mp g)))) c1
    · exact g
  rw [wc_n (by omega) (by omega), z_cl (by omega)]
  cases hA : A t with
  | none =>
    obtain ⟨a1, a2⟩ := (h t ht6).1 hA
    rw [wi_f (by rw [a1]; decide)]
    apply hz; apply eq_of_wq
    rw [wq_bind, wq_some]; unfold md_drop_b6; rw [wi_f (by decide), wc_n (by omega) (by omega), z_cl (by omega), wi_t a2, wq_some]
  | some q =>
    obtain ⟨m, p, o, w⟩ := q
    obtain ⟨a1, a2, a3, a4⟩ := (h t ht6).2 m p o w hA
    rw [wi_t (by rw [a2, z_ge0 (by omega)]; trivial), wc_n (by omega) (by omega), z_nbm1]
    unfold dk_drop_b27 dk_drop_b32
    rw [wq_some, wq_bind, wq_some]; unfold md_drop_b6; rw [wi_f (by decide), wc_n (by omega) (by omega), z_cl (by omega), wi_f (by rw [a3]; decide), wc_n (by omega) (by omega), z_nz0]
    unfold md_drop_b27
    rw [wq_some]
    refine ⟨rfl, Or.inr ⟨fun t' => if t' = t then none else A t', ?_, ?_, ?_, ?_⟩⟩
    · (repeat (refine sm_up (by decide) ?_)); first | exact sm_rf | assumption
    · (repeat (refine sm_up (by decide) ?_)); first | exact sm_rf | assumption
    · simp (disch := first | omega | with_reducible assumption) only [up2_s, up2_n, u_e, u_n]
    · intro t' ht'
      dsimp only
      by_cases e : t' = t
      · subst e
        rw [if_pos rfl]
        refine ⟨fun g => ?_, fun m2 p2 o2 w2 g => by (cases g)⟩
        simp (disch := first | omega | with_reducible assumption) only [up2_s, up2_n, u_e, u_n]
        constructor <;> first | rfl | trivial
      · rw [if_neg e]
        simp only [up2_s, up2_n (show (28:Nat) ≠ 33 by decide), up2_n (show (29:Nat) ≠ 33 by decide), up2_n (show (29:Nat) ≠ 28 by decide), up2_n (show (30:Nat) ≠ 33 by decide), up2_n (show (30:Nat) ≠ 28 by decide), up2_n (show (31:Nat) ≠ 33 by decide), up2_n (show (31:Nat) ≠ 28 by decide), up2_n (show (18:Nat) ≠ 17 by decide), up2_n (show (19:Nat) ≠ 17 by decide), up2_n (show (20:Nat) ≠ 17 by decide), up2_n (show (21:Nat) ≠ 17 by decide), u_n e]
        exact h t' ht'
/-- the outputs -/
def OU (σ τ : dS) : Prop := ∃ o, o ≤ 100 ∧ σ 38 0 = nI o ∧ τ 25 0 = nI o ∧ ∀ i, i < o → σ 37 i = τ 24 i
theorem output_both {σ τ : dS} (h : OU σ τ) (v1 : Int32) : both (dk_output v1 σ) (md_output v1 τ) (fun σ' τ' => σ' = σ ∧ τ' = τ) := by
  obtain ⟨o, o1, o2, o3, o4⟩ := h
  unfold dk_output dk_output_b0 md_output md_output_b0
  rw [o2, o3, io, md_in_if]
  by_cases c : v1 < 0 ∨ nI o ≤ v1
  · have c' : v1 < 0 ∨ nI o - 1 < v1 := by
      rcases c with c | c
      · exact Or.inl c
      · right
        have k : (nI o).toInt ≤ v1.toInt := Int32.le_iff_toInt_le.mp c
        rw [z_toInt (by omega)] at k
        apply Int32.lt_iff_toInt_lt.mpr
        rcases Nat.eq_zero_or_pos o with e | e
        · subst e; rw [nI_0, show ((0 : Int32) - 1).toInt = -1 from by decide]; omega
        · rw [n1_sub e, z_toInt (by omega)]; omega
    refine both_i (a := 0) (σ' := σ) (τ' := τ) (if_pos c) ?_ ⟨rfl, rfl⟩
    apply eq_of_wq
    rw [if_pos c', wq_bind, wq_some]
    unfold md_output_b11
    rw [wi_t rfl, wq_some]
  · obtain ⟨j, hj, rfl⟩ : ∃ j, j < o ∧ v1 = nI j := by
      rcases z_cut v1 (n := o) (by omega) with g | g | g
      · exact absurd (Or.inl g) c
      · exact absurd (Or.inr g) c
      · exact g
    have c' : ¬ (nI j < 0 ∨ nI o - 1 < nI j) := by
      rw [n1_sub (by omega), z_lt0 (by omega), z_lt (by omega) (by omega)]
      intro g; rcases g with g | g
      · exact g
      · omega
    refine both_i (a := σ 37 j) (σ' := σ) (τ' := τ) ?_ ?_ ⟨rfl, rfl⟩
    · apply eq_of_wq
      rw [wi_f c, wc_n (by omega) (by omega), z_cl (by omega), wq_some]
    · apply eq_of_wq
      rw [if_neg c', wq_bind, wq_some]
      unfold md_output_b11
      rw [wi_f (by decide), wc_n (by omega) (by omega), z_cl (by omega), wq_some, o4 j hj]
