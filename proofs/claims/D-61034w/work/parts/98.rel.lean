/-! the two states side by side, through all operations -/
set_option maxRecDepth 100000
def RL (n : Nat) (row d nm : Nat → Nat) (vl : Nat → Int32) (X : Nat → List Tk) (A : TA) (σ τ : dS) : Prop := CR n row d nm vl X σ τ ∧ XR X σ τ ∧ TR A σ τ ∧ SC n row d nm vl X A σ ∧ OU σ τ
def Rel (σ τ : dS) : Prop := ∃ (n : Nat) (row d nm : Nat → Nat) (vl : Nat → Int32) (X : Nat → List Tk) (A : TA), RL n row d nm vl X A σ τ
section
variable {n : Nat} {row d nm : Nat → Nat} {vl : Nat → Int32} {X : Nat → List Tk} {A : TA} {σ τ σ' τ' : dS}
theorem XR_sm2 {l l' : List Nat} (h : XR X σ τ) (hs : sm l σ σ') (hl : ∀ i, i ∈ l → i < 16 ∨ 21 < i) (hs' : sm l' τ τ') (hl' : ∀ i, i ∈ l' → i < 6 ∨ 8 < i) : XR X σ' τ' := by
  have k : ∀ i, 16 ≤ i → i ≤ 21 → σ' i = σ i := fun i a b => hs i (fun g => by have := hl i g; omega)
  have k' : ∀ i, 6 ≤ i → i ≤ 8 → τ' i = τ i := fun i a b => hs' i (fun g => by have := hl' i g; omega)
  unfold XR DX1 DX2 MX at *
  rw [k 16 (by omega) (by omega), k 17 (by omega) (by omega), k 18 (by omega) (by omega), k 19 (by omega) (by omega), k 20 (by omega) (by omega), k 21 (by omega) (by omega), k' 6 (by omega) (by omega), k' 7 (by omega) (by omega), k' 8 (by omega) (by omega)]
  exact h
theorem OU_sm {l l' : List Nat} (h : OU σ τ) (hs : sm l σ σ') (hl : ∀ i, i ∈ l → i < 37) (hs' : sm l' τ τ') (hl' : ∀ i, i ∈ l' → i < 24) : OU σ' τ' := by
  have k : ∀ i, 37 ≤ i → σ' i = σ i := fun i a => hs i (fun g => by have := hl i g; omega)
  have k' : ∀ i, 24 ≤ i → τ' i = τ i := fun i a => hs' i (fun g => by have := hl' i g; omega)
  unfold OU at *
  rw [k 37 (by omega), k 38 (by omega), k' 24 (by omega), k' 25 (by omega)]
  exact h
theorem SC_sm {l : List Nat} (h : SC n row d nm vl X A σ) (hs : sm l σ σ') (hl : ∀ i, i ∈ l → i < 32 ∨ 34 < i) : SC n row d nm vl X A σ' := by
  have k : ∀ i, 32 ≤ i → i ≤ 34 → σ' i = σ i := fun i a b => hs i (fun g => by have := hl i g; omega)
  unfold SC SCv at *
  rw [k 32 (by omega) (by omega), k 33 (by omega) (by omega), k 34 (by omega) (by omega)]
  exact h
theorem DK_of (hw : WT n row d) (hD : DT n row d nm vl σ) (hC : σ 15 0 = 0 ∨ (σ 15 0 = 1 ∧ CT n row d nm vl σ)) (hX : XR X σ τ) (h5 : ∀ s, s < 8 → σ 25 s = 0 ∨ (σ 25 s = 1 ∧ (X s ≠ [] → ∀ x, x < n → σ 24 (24 * s + x) = ev n d (fun y => nm (row y)) (fun y => vl (row y)) (X s) x 1 1))) : DK n row d nm vl X σ := by
  refine ⟨hw, hD, hC, fun s hs => ?_, h5⟩
  obtain ⟨a1, a2, a3, a4, a5, a6⟩ := hX.1 s (by omega)
  exact ⟨a1, a3, fun hne => ⟨a1, by omega, a2, (hX.2 s hs hne).1, a5, (hX.2 s hs hne).2⟩⟩
theorem MK_of (hw : WT n row d) (hM : MT n row d nm vl τ) (hnm : ∀ i, i < n → nm (row i) < 6) (hX : XR X σ τ) (h5 : ∀ s, s < 8 → τ 10 s = 0 ∨ (τ 10 s = 1 ∧ (X s ≠ [] → msA n row d (fun y => nm (row y)) (fun y => vl (row y)) (40 * s) (X s) 0 τ))) : MK n row d nm vl X τ := by
  refine ⟨hw, hM, hnm, fun s hs => ?_, h5⟩
  obtain ⟨a1, a2, a3, a4, a5, a6⟩ := hX.1 s (by omega)
  exact ⟨a1, a4, fun hne => ⟨a1, by omega, a2, (hX.2 s hs hne).1, a6⟩⟩
theorem RL_Q (h : RL n row d nm vl X A σ τ) (q : QO n row d nm vl X σ τ σ' τ') : RL n row d nm vl X A σ' τ' := by
  obtain ⟨h1, h2, h3, h4, h5⟩ := h
  obtain ⟨q1, q2, q3⟩ := q
  exact ⟨q3, XR_sm2 h2 q1 (by decide) q2 (by decide), TR_sm h3 q1 (by decide) q2 (by decide), SC_sm h4 q1 (by decide), OU_sm h5 q1 (by decide) q2 (by decide)⟩
theorem RL_S (h : RL n row d nm vl X A σ τ) (q : SO n row d nm vl X A σ τ σ' τ') : RL n row d nm vl X A σ' τ' := by
  obtain ⟨h1, h2, h3, h4, h5⟩ := h
  obtain ⟨q1, q2, q3, q4⟩ := q
  exact ⟨q3, XR_sm2 h2 q1 (by decide) q2 (by decide), TR_sm h3 q1 (by decide) q2 (by decide), q4, OU_sm h5 q1 (by decide) q2 (by decide)⟩
theorem RL_F (h : RL n row d nm vl X A σ τ) (q : FO n row d nm vl X A σ τ σ' τ') : RL n row d nm vl X A σ' τ' := by
  obtain ⟨h1, h2, h3, h4, h5⟩ := h
  obtain ⟨q1, q2, q3, q4, q5⟩ := q
  exact ⟨q3, XR_sm2 h2 q1 (by decide) q2 (by decide), TR_sm h3 q1 (by decide) q2 (by decide), q4, q5⟩
theorem RL_P (h : RL n row d nm vl X A σ τ) (q : PO σ τ σ' τ') : Rel σ' τ' := by
  rcases q with ⟨rfl, rfl⟩ | ⟨A', q1, q2, q3, q4⟩
  · exact ⟨_, _, _, _, _, _, _, h⟩
  · obtain ⟨h1, h2, h3, h4, h5⟩ := h
    exact ⟨n, row, d, nm, vl, X, A', ⟨DK_sm h1.1 q1 (by decide), MK_sm h1.2 q2 (by decide)⟩, XR_sm2 h2 q1 (by decide) q2 (by decide), q4, Or.inl q3, OU_sm h5 q1 (by decide) q2 (by decide)⟩
theorem RL_T (h : RL n row d nm vl X A σ τ) (q : TO n row d nm vl σ τ σ' τ') : Rel σ' τ' := by
  obtain ⟨h1, h2, h3, h4, h5⟩ := id h
  rcases q with ⟨rfl, rfl⟩ | ⟨rfl, q1, q2, q3⟩ | ⟨⟨q1, q2, q3, q4, q5, q6⟩, n', row', d', nm', vl', w1, w2, w3⟩
  · exact ⟨_, _, _, _, _, _, _, h⟩
  · have x2 := XR_sm2 (σ' := σ') h2 (l := []) sm_rf (by decide) q1 (by decide)
    exact ⟨n, row, d, nm, vl, X, A, ⟨h1.1, MK_of h1.2.1 q2 h1.2.2.2.1 x2 (fun s hs => Or.inl (q3 s hs))⟩, x2, TR_sm h3 (l := []) sm_rf (by decide) q1 (by decide), h4, OU_sm h5 (l := []) sm_rf (by decide) q1 (by decide)⟩
  · have x2 := XR_sm2 h2 q1 (by decide) q2 (by decide)
    exact ⟨n', row', d', nm', vl', X, A, ⟨DK_of w1 w2 (Or.inl q3) x2 (fun s hs => Or.inl (q5 s hs)), MK_of w1 w3 (fun i hi => (w2.2.2.2.2.1 i hi).2.1) x2 (fun s hs => Or.inl (q6 s hs))⟩, x2, TR_sm h3 q1 (by decide) q2 (by decide), Or.inl q4, OU_sm h5 q1 (by decide) q2 (by decide)⟩
theorem bst_cong {M M' : Nat → Prop} {p : Nat → Int32} : ∀ {t : Nat}, (∀ t', t' < t → (M t' ↔ M' t')) → bst M p t = bst M' p t := by
  intro t
  induction t with
  | zero => intro _; rfl
  | succ t ih =>
    intro h
    have e := ih (fun t' ht' => h t' (by omega))
    have q := h t (by omega)
    by_cases g : M t
    · rw [bst, bst, ci_t g, ci_t (q.mp g), e]
    · rw [bst, bst, ci_f g, ci_f (fun k => g (q.mpr k)), e]
theorem mt_cong {X' : Nat → List Tk} (hT : TR A σ τ) (hX : ∀ s, s < 8 → X' s = X s) {t x : Nat} (ht6 : t < 6) : mt n row d nm vl X A t x ↔ mt n row d nm vl X' A t x := by
  have k : ∀ q, A t = some q → X' q.1 = X q.1 := fun q hq => by
    obtain ⟨m, p, o, w⟩ := q
    exact hX m ((hT t ht6).2 m p o w hq).1
  unfold mt EV
  constructor
  · rintro ⟨q, q1, q2, q3, q4⟩
    exact ⟨q, q1, by rw [k q q1]; exact q2, by rw [k q q1]; exact q3, by rw [k q q1]; exact q4⟩
  · rintro ⟨q, q1, q2, q3, q4⟩
    rw [k q q1] at q2 q3 q4
    exact ⟨q, q1, q2, q3, q4⟩
theorem SC_cong {X' : Nat → List Tk} (hT : TR A σ τ) (hX : ∀ s, s < 8 → X' s = X s) (h : SC n row d nm vl X A σ') : SC n row d nm vl X' A σ' := by
  rcases h with h | ⟨h1, h2, h3⟩
  · exact Or.inl h
  · refine Or.inr ⟨h1, fun t ht6 x => ?_, fun x hx => ?_⟩
    · rw [h2 t ht6 x]; exact mt_cong hT hX ht6
    · rw [h3 x hx, bst_cong (fun t ht6 => mt_cong hT hX ht6)]
theorem RL_X {X' : Nat → List Tk} {l l' : List Nat} (h : RL n row d nm vl X A σ τ) (hs : sm l σ σ') (hl : ∀ i, i ∈ l → 16 ≤ i ∧ i ≤ 22) (hs' : sm l' τ τ') (hl' : ∀ i, i ∈ l' → i = 6 ∨ i = 7 ∨ i = 8 ∨ i = 11 ∨ i = 15) (hXR : XR X' σ' τ') (hX : ∀ s, s < 8 → X' s = X s) : RL n row d nm vl X' A σ' τ' := by
  obtain ⟨h1, h2, h3, h4, h5⟩ := id h
  obtain ⟨⟨d1, d2, d3, d4, d5⟩, m1, m2, m3, m4, m5⟩ := h1
  have k : ∀ i, (i < 16 ∨ 22 < i) → σ' i = σ i := fun i a => hs i (fun g => by have := hl i g; omega)
  have k' : ∀ i, (i = 9 ∨ i = 10) → τ' i = τ i := fun i a => hs' i (fun g => by have := hl' i g; omega)
  refine ⟨⟨DK_of d1 (DT_sm' d2 hs (fun i hi => by have := hl i hi; omega)) ?_ hXR (fun s hs8 => ?_), MK_of m1 (MT_sm' m2 hs' (fun i hi => by have := hl' i hi; omega)) m3 hXR (fun s hs8 => ?_)⟩, hXR, TR_sm h3 hs (fun i hi => by have := hl i hi; omega) hs' (fun i hi => by have := hl' i hi; omega), SC_cong h3 hX (SC_sm h4 hs (fun i hi => by have := hl i hi; omega)), OU_sm h5 hs (fun i hi => by have := hl i hi; omega) hs' (fun i hi => by have := hl' i hi; omega)⟩
  · rw [k 15 (by omega)]
    rcases d3 with g | ⟨g, g2⟩
    · exact Or.inl g
    · exact Or.inr ⟨g, CT_sm g2 hs (fun i hi => by have := hl i hi; omega)⟩
  · rw [k 25 (by omega), k 24 (by omega), hX s hs8]; exact d5 s hs8
  · have := m5 s hs8
    unfold msA msx at *
    rw [k' 10 (by omega), k' 9 (by omega), hX s hs8]; exact this
theorem RL_E (h : RL n row d nm vl X A σ τ) (q : EO X σ τ σ' τ') : Rel σ' τ' := by
  rcases q with ⟨rfl, rfl⟩ | ⟨q1, q2, q3⟩ | ⟨s, hs8, q1, q2, q3, q4, q5, q6⟩
  · exact ⟨_, _, _, _, _, _, _, h⟩
  · exact ⟨_, _, _, _, _, _, _, RL_X h q1 (by decide) q2 (by decide) q3 (fun s hs => if_neg (by omega))⟩
  · obtain ⟨h1, h2, h3, h4, h5⟩ := id h
    obtain ⟨⟨d1, d2, d3, d4, d5⟩, m1, m2, m3, m4, m5⟩ := h1
    have hX : ∀ s', s' < 8 → s' ≠ s → (if s' = 8 then [] else if s' = s then X 8 else X s') = X s' := fun s' a b => by
      rw [if_neg (by omega), if_neg b]
    refine ⟨n, row, d, nm, vl, _, A, ⟨DK_of d1 (DT_sm' d2 q1 (by decide)) ?_ q3 (fun s' hs' => ?_), MK_of m1 (MT_sm' m2 q2 (by decide)) m3 q3 (fun s' hs' => ?_)⟩, q3, TR_sm h3 q1 (by decide) q2 (by decide), Or.inl q6, OU_sm h5 q1 (by decide) q2 (by decide)⟩
    · rw [q1 15 (by decide)]
      rcases d3 with g | ⟨g, g2⟩
      · exact Or.inl g
      · exact Or.inr ⟨g, CT_sm g2 q1 (by decide)⟩
    · rw [q4]
      by_cases e : s' = s
      · subst e; rw [u_e]; exact Or.inl rfl
      · rw [u_n e, q1 24 (by decide), hX s' hs' e]; exact d5 s' hs'
    · rw [q5]
      by_cases e : s' = s
      · subst e; rw [u_e]; exact Or.inl rfl
      · have := m5 s' hs'
        unfold msA msx at *
        rw [u_n e, q2 9 (by decide), hX s' hs' e]; exact this
end
theorem both_mono {x y : Option (Int32 × dS)} {R R' : dS → dS → Prop} (h : both x y R) (k : ∀ a b, R a b → R' a b) : both x y R' := by
  obtain ⟨r, h1, r', h2, h3, h4⟩ := h
  exact ⟨r, h1, r', h2, h3, k _ _ h4⟩
section
variable {σ τ : dS}
theorem R_insert (h : Rel σ τ) (a b c : Int32) : both (dk_insert a b c σ) (md_insert a b c τ) Rel := by
  obtain ⟨n, row, d, nm, vl, X, A, h⟩ := h
  exact both_mono (insert_both h.1.1.1 h.1.1.2.1 h.1.2.2.1 a b c) (fun _ _ q => RL_T h q)
theorem R_remove (h : Rel σ τ) (a : Int32) : both (dk_remove a σ) (md_remove a τ) Rel := by
  obtain ⟨n, row, d, nm, vl, X, A, h⟩ := h
  exact both_mono (remove_both h.1.1.1 h.1.1.2.1 h.1.1.2.2.1 h.1.2.2.1 a) (fun _ _ q => RL_T h q)
theorem R_move (h : Rel σ τ) (a b c : Int32) : both (dk_move a b c σ) (md_move a b c τ) Rel := by
  obtain ⟨n, row, d, nm, vl, X, A, h⟩ := h
  exact both_mono (move_both h.1.1.1 h.1.1.2.1 h.1.2.2.1 a b c) (fun _ _ q => RL_T h q)
theorem R_change (h : Rel σ τ) (a b c : Int32) : both (dk_change a b c σ) (md_change a b c τ) Rel := by
  obtain ⟨n, row, d, nm, vl, X, A, h⟩ := h
  exact both_mono (change_both h.1.1.1 h.1.1.2.1 h.1.2.2.1 a b c) (fun _ _ q => RL_T h q)
theorem R_child (h : Rel σ τ) (a b : Int32) : both (dk_child a b σ) (md_child a b τ) Rel := by
  obtain ⟨n, row, d, nm, vl, X, A, h⟩ := h
  exact both_mono (child_both h.1.1.1 h.1.1.2.1 h.1.2.2.1 a b) (fun _ _ q => by rw [q.1, q.2]; exact ⟨_, _, _, _, _, _, _, h⟩)
theorem R_token (h : Rel σ τ) (a b : Int32) : both (dk_token a b σ) (md_token a b τ) Rel := by
  obtain ⟨n, row, d, nm, vl, X, A, h⟩ := h
  refine both_mono (token_both h.2.1 a b) (fun σ' τ' q => ?_)
  rcases q with ⟨rfl, rfl⟩ | ⟨q1, q2, u, q3⟩
  · exact ⟨_, _, _, _, _, _, _, h⟩
  · exact ⟨_, _, _, _, _, _, _, RL_X h q1 (by decide) q2 (by decide) q3 (fun s hs => if_neg (by omega))⟩
theorem R_expression (h : Rel σ τ) (a : Int32) : both (dk_expression a σ) (md_expression a τ) Rel := by
  obtain ⟨n, row, d, nm, vl, X, A, h⟩ := h
  exact both_mono (expression_both h.2.1 a) (fun _ _ q => RL_E h q)
theorem R_size (h : Rel σ τ) (a b : Int32) : both (dk_size a b σ) (md_size a b τ) Rel := by
  obtain ⟨n, row, d, nm, vl, X, A, h⟩ := h
  exact both_mono (size_both h.1 a b) (fun _ _ q => ⟨_, _, _, _, _, _, _, RL_Q h q⟩)
theorem R_at (h : Rel σ τ) (a b c : Int32) : both (dk_at a b c σ) (md_at a b c τ) Rel := by
  obtain ⟨n, row, d, nm, vl, X, A, h⟩ := h
  exact both_mono (at_both h.1 a b c) (fun _ _ q => ⟨_, _, _, _, _, _, _, RL_Q h q⟩)
theorem R_number (h : Rel σ τ) (a b : Int32) : both (dk_number a b σ) (md_number a b τ) Rel := by
  obtain ⟨n, row, d, nm, vl, X, A, h⟩ := h
  exact both_mono (number_both h.1 a b) (fun _ _ q => ⟨_, _, _, _, _, _, _, RL_Q h q⟩)
theorem R_holds (h : Rel σ τ) (a b : Int32) : both (dk_holds a b σ) (md_holds a b τ) Rel := by
  obtain ⟨n, row, d, nm, vl, X, A, h⟩ := h
  exact both_mono (holds_both h.1 a b) (fun _ _ q => ⟨_, _, _, _, _, _, _, RL_Q h q⟩)
theorem R_template (h : Rel σ τ) (a b c e f : Int32) : both (dk_template a b c e f σ) (md_template a b c e f τ) Rel := by
  obtain ⟨n, row, d, nm, vl, X, A, h⟩ := h
  exact both_mono (template_both h.2.2.1 a b c e f) (fun _ _ q => RL_P h q)
theorem R_drop (h : Rel σ τ) (a : Int32) : both (dk_drop a σ) (md_drop a τ) Rel := by
  obtain ⟨n, row, d, nm, vl, X, A, h⟩ := h
  exact both_mono (drop_both h.2.2.1 a) (fun _ _ q => RL_P h q)
theorem R_matches (h : Rel σ τ) (a b : Int32) : both (dk_matches a b σ) (md_matches a b τ) Rel := by
  obtain ⟨n, row, d, nm, vl, X, A, h⟩ := h
  exact both_mono (matches_both h.1 h.2.2.1 h.2.2.2.1 a b) (fun _ _ q => ⟨_, _, _, _, _, _, _, RL_S h q⟩)
theorem R_transform (h : Rel σ τ) (a : Int32) : both (dk_transform a σ) (md_transform a τ) Rel := by
  obtain ⟨n, row, d, nm, vl, X, A, h⟩ := h
  exact both_mono (transform_both h.1 h.2.2.1 h.2.2.2.1 h.2.2.2.2 a) (fun _ _ q => ⟨_, _, _, _, _, _, _, RL_F h q⟩)
theorem R_output (h : Rel σ τ) (a : Int32) : both (dk_output a σ) (md_output a τ) Rel := by
  obtain ⟨n, row, d, nm, vl, X, A, h⟩ := h
  exact both_mono (output_both h.2.2.2.2 a) (fun _ _ q => by rw [q.1, q.2]; exact ⟨_, _, _, _, _, _, _, h⟩)
end
