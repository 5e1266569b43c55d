/-! TransletDeskModel: prepare, ask -/
set_option maxRecDepth 100000
/-- the union of A y over the places y of E below m -/
def pr (E : Int32) (A : Nat → Int32) : Nat → Int32
  | 0 => 0
  | m + 1 => if bt E m = true then pr E A m ||| A m else pr E A m
theorem pr_bt {E : Int32} {A : Nat → Int32} (j : Nat) : ∀ m, bt (pr E A m) j = true ↔ ∃ y, y < m ∧ bt E y = true ∧ bt (A y) j = true := by
  intro m
  induction m with
  | zero =>
    show bt 0 j = true ↔ _
    rw [b_0]
    constructor
    · intro h; cases h
    · rintro ⟨y, h, _⟩; omega
  | succ m ih =>
    show bt (if bt E m = true then pr E A m ||| A m else pr E A m) j = true ↔ _
    by_cases g : bt E m = true
    · rw [if_pos g, b_or, Bool.or_eq_true, ih]
      constructor
      · rintro (⟨y, h1, h2, h3⟩ | h)
        · exact ⟨y, by omega, h2, h3⟩
        · exact ⟨m, by omega, g, h⟩
      · rintro ⟨y, h1, h2, h3⟩
        by_cases e : y = m
        · subst e; exact Or.inr h3
        · exact Or.inl ⟨y, by omega, h2, h3⟩
    · rw [if_neg g, ih]
      constructor
      · rintro ⟨y, h1, h2, h3⟩; exact ⟨y, by omega, h2, h3⟩
      · rintro ⟨y, h1, h2, h3⟩
        have : y ≠ m := fun e => g (by rw [← e]; exact h2)
        exact ⟨y, by omega, h2, h3⟩
theorem orL_bt {A : Nat → Int32} (j : Nat) : ∀ L : List Nat, bt (orL A L) j = true ↔ ∃ y, y ∈ L ∧ bt (A y) j = true := by
  intro L
  induction L with
  | nil =>
    show bt 0 j = true ↔ _
    rw [b_0]
    constructor
    · intro h; cases h
    · rintro ⟨y, h, _⟩; cases h
  | cons x r ih =>
    show bt (A x ||| orL A r) j = true ↔ _
    rw [b_or, Bool.or_eq_true, ih]
    constructor
    · rintro (h | ⟨y, h1, h2⟩)
      · exact ⟨x, List.mem_cons_self, h⟩
      · exact ⟨y, List.mem_cons_of_mem _ h1, h2⟩
    · rintro ⟨y, h1, h2⟩
      rcases List.mem_cons.mp h1 with e | e
      · subst e; exact Or.inl h2
      · exact Or.inr ⟨y, e, h2⟩
theorem pr_orL {n : Nat} {E : Int32} {A : Nat → Int32} (h : bw n E) : pr E A n = orL A (els E) := by
  apply b_ext
  intro j _
  rw [Bool.eq_iff_iff, pr_bt, orL_bt]
  constructor
  · rintro ⟨y, h1, h2, h3⟩; exact ⟨y, els_mem.mpr h2, h3⟩
  · rintro ⟨y, h1, h2⟩; exact ⟨y, bw_els h h1, els_mem.mp h1, h2⟩
section
variable {n : Nat} {row d nm : Nat → Nat} {vl : Nat → Int32} {T : List Tk}
theorem md_prep_lp190 {Q : Int32 × dS → Prop} {τ0 : dS} (hw : WT n row d) (hM : MT n row d nm vl τ0) (hnm : ∀ i, i < n → nm (row i) < 6) {s i : Nat} {t : Tk} {r : List Tk} (hs8 : s < 8) (hO : MO (40 * s) T τ0) (hd : T.drop i = t :: r) (hk2 : t.1 = 2) (hms : msA n row d (fun y => nm (row y)) (fun y => vl (row y)) (40 * s) T (i + 1) τ0)
    (hq : ∀ τ', sm [9, 11, 12, 13, 14, 15, 16] τ0 τ' → out9 (24 * (40 * s + i)) τ0 τ' → (∀ x, x < n → pm n row (ev n d (fun y => nm (row y)) (fun y => vl (row y)) (t :: r) x 1 1) (τ' 9 (24 * (40 * s + i) + row x))) → wq (md_prepare_b282 (nI s) (nI i) τ') (ks md_prepare_st Q)) (A : Nat → Int32) (hA : A = fun y => mkL (alo n d (fun y => nm (row y)) (sw t) (ht (r.drop (sk 1 r))) (ev n d (fun y => nm (row y)) (fun y => vl (row y)) (r.drop (sk 1 r))) (ht ((r.drop (sk 1 r)).drop (sk 1 (r.drop (sk 1 r))))) (ev n d (fun y => nm (row y)) (fun y => vl (row y)) ((r.drop (sk 1 r)).drop (sk 1 (r.drop (sk 1 r))))) y)) :
    ∀ (f m : Nat) (τ : dS), m + f = n → sm [9, 11, 12, 13, 14, 15, 16] τ0 τ → out9 (24 * (40 * s + i)) τ0 τ → (∀ x, x < n → pm n row (pr (ev n d (fun y => nm (row y)) (fun y => vl (row y)) r x 1 1) A m) (τ 9 (24 * (40 * s + i) + row x))) → wq (lp md_prepare_st (190, [nI s, nI i, nI 2, nI (24 * (40 * s + i)), nI m], τ)) Q := by
  have hn24 := hw.1.1
  obtain ⟨x1, x1b, x2, x3, x4⟩ := id hO
  have hi := drop_lt hd
  have hr := drop_next hd
  have hrl : r.length = T.length - (i + 1) := by rw [← hr, List.length_drop]
  obtain ⟨m', hwf⟩ := wfs_drop i x3
  rw [hd] at hwf
  obtain ⟨m'', q1, q2, q3, q4⟩ := hwf
  have hf := fl_mono _ _ _ (wfs_fl q1).1 q2
  have hl1 := fl_lt r 0 (fl_mono _ _ 1 hf (ar_pos (by omega)))
  rw [sk_0] at hl1
  have hty := q3.1 hk2
  have hbw : ∀ x, x < n → bw n (ev n d (fun y => nm (row y)) (fun y => vl (row y)) r x 1 1) := fun x hx => ev_bw (by omega) r.length r (Nat.le_refl _) ⟨m'', q1⟩ (fun e => by rw [e] at hl1; cases hl1) hty x 1 1 hx
  have hkr : hk (T.drop (i + 1)) < 4 := by
    rw [hr]
    have h : tyk (hk r) = 0 := hty
    unfold tyk at h
    by_cases g : hk r < 4
    · exact g
    · rw [if_neg g] at h
      by_cases g2 : hk r < 13
      · rw [if_pos g2] at h; cases h
      · rw [if_neg g2] at h; cases h
  have hS : ∀ x, x < n → pm n row (ev n d (fun y => nm (row y)) (fun y => vl (row y)) r x 1 1) (τ0 9 (24 * (40 * s + i) + 24 + row x)) := by
    intro x hx
    have := hms x hx (i + 1) (Nat.le_refl _) (by omega) hkr
    rw [hr, show 24 * (40 * s + (i + 1)) + row x = 24 * (40 * s + i) + 24 + row x by omega] at this
    exact this
  intro f
  induction f with
  | zero =>
    intro m τ hm hs ho h
    have e : m = n := by omega
    subst e
    rw [md_prepare_l190]; unfold md_prepare_b190
    rw [hs 5 (by decide), hM.1, wi_t (Int32.le_refl _)]
    refine hq τ hs ho (fun x hx => ?_)
    have := h x hx
    rw [pr_orL (hbw x hx)] at this
    rw [ev_2 hk2, ← hA]; exact this
  | succ f ih =>
    intro m τ hm hs ho h
    have hmn : m < n := by omega
    have rm := hw.1.2.1 m hmn
    rw [md_prepare_l190]; unfold md_prepare_b190
    rw [hs 5 (by decide), hM.1, wi_f (by rw [z_le (by omega) (by omega)]; omega), wi_t (show nI 2 = 2 from rfl), wc_n (by omega) (by omega), z_cl (by omega), hs 0 (by decide), (hM.2 m hmn).1]
    unfold md_prepare_b213
    rw [wq_bind]
    refine md_step_sp hw (MT_sm' hM hs (by decide)) hnm hs8 (MO_sm hO hs (by decide)) hmn hd hk2 (fun x hx j h1 h2 h3 => ?_) (fun τ1 s1 => ?_)
    · have rx := hw.1.2.1 x hx
      rw [ho _ (Or.inr (by omega))]; exact hms x hx j h1 h2 h3
    unfold md_prepare_b221
    rw [wq_some, ks_l, show (0 : Int32) = nI 0 from nI_0.symm]
    have e9 : τ1 9 = τ 9 := s1 9 (by decide)
    refine md_prep_lp226 (τ0 := τ1) hs8 (by omega) rm (by omega) (fun τ2 s2 o2 h2 => ?_) 24 0 τ1 (by omega) sm_rf (fun j _ => rfl) (fun j hj => by omega) (fun j _ _ => rfl)
    refine ih (m + 1) τ2 (by omega) (sm_tr hs (sm_tr (sm_sub s1 (by decide)) (sm_sub s2 (by decide)))) (fun j hj => by rw [o2 j hj, e9]; exact ho j hj) (fun x hx => ?_)
    have rx := hw.1.2.1 x hx
    rw [h2 (row x) rx, e9, ho _ (Or.inr (by omega)), (hS x hx).1 m hmn]
    show pm n row (if bt (ev n d (fun y => nm (row y)) (fun y => vl (row y)) r x 1 1) m = true then _ else _) _
    have hpA : pm n row (A m) (mkL ((alo n d (fun y => nm (row y)) (sw t) (ht (r.drop (sk 1 r))) (ev n d (fun y => nm (row y)) (fun y => vl (row y)) (r.drop (sk 1 r))) (ht ((r.drop (sk 1 r)).drop (sk 1 (r.drop (sk 1 r))))) (ev n d (fun y => nm (row y)) (fun y => vl (row y)) ((r.drop (sk 1 r)).drop (sk 1 (r.drop (sk 1 r))))) m).map row)) := by
      rw [hA]; exact pm_mk hw.1 (fun a ha => alo_lt ha)
    by_cases g : bt (ev n d (fun y => nm (row y)) (fun y => vl (row y)) r x 1 1) m = true
    · rw [if_pos g, if_pos g]; exact pm_or (h x hx) hpA
    · rw [if_neg g, if_neg g]; exact h x hx
/-- one token -/
theorem md_prep_one {Q : Int32 × dS → Prop} {τ : dS} (hw : WT n row d) (hM : MT n row d nm vl τ) (hnm : ∀ i, i < n → nm (row i) < 6) (hn0 : 0 < n) {s i : Nat} {t : Tk} {r : List Tk} (hs8 : s < 8) (hO : MO (40 * s) T τ) (hd : T.drop i = t :: r) (hms : msA n row d (fun y => nm (row y)) (fun y => vl (row y)) (40 * s) T (i + 1) τ)
    (hq : ∀ τ', sm [9, 11, 12, 13, 14, 15, 16] τ τ' → msA n row d (fun y => nm (row y)) (fun y => vl (row y)) (40 * s) T i τ' → (∀ j, (j < 960 * s ∨ 960 * s + 960 ≤ j) → τ' 9 j = τ 9 j) → wq (lp md_prepare_st (26, [nI s, dec i], τ')) Q) : wq (lp md_prepare_st (26, [nI s, nI i], τ)) Q := by
  have hn24 := hw.1.1
  obtain ⟨x1, x1b, x2, x3, x4⟩ := id hO
  have hi := drop_lt hd
  have hr := drop_next hd
  have hot := x2 t (drop_mem hd)
  have ht18 := hot.1
  have r0 := hw.1.2.1 0 hn0
  have hrl : r.length = T.length - (i + 1) := by rw [← hr, List.length_drop]
  -- the end of a token that is a set
  have hfin : ∀ τ', sm [9, 11, 12, 13, 14, 15, 16] τ τ' → out9 (24 * (40 * s + i)) τ τ' → (∀ x, x < n → pm n row (ev n d (fun y => nm (row y)) (fun y => vl (row y)) (t :: r) x 1 1) (τ' 9 (24 * (40 * s + i) + row x))) → wq (md_prepare_b282 (nI s) (nI i) τ') (ks md_prepare_st Q) := by
    intro τ' hs ho h
    unfold md_prepare_b282
    rw [wq_some, ks_l, dec_f]
    refine hq τ' hs (fun x hx j h1 h2 h3 => ?_) (fun j hj => ho j (by omega))
    have rx := hw.1.2.1 x hx
    by_cases e : j = i
    · subst e; rw [hd]; exact h x hx
    · rw [ho _ (Or.inr (by omega))]; exact hms x hx j (by omega) h2 h3
  rw [md_prepare_l26]; unfold md_prepare_b26 md_prepare_b42
  rw [wi_f (by rw [z_lt0 (by omega)]; simp), l_40, pk_mul, nI_add, wc_n (by omega) (by omega), z_cl (by omega), (x4 i t r hd).1]
  by_cases c4 : t.1 < 4
  · rw [wi_t (by rw [l_3, z_le (by omega) (by omega)]; omega), l_24, pk_mul]
    unfold md_prepare_b61
    rw [wq_some, ks_l, show (0 : Int32) = nI 0 from nI_0.symm]
    refine md_prep_lp64 (row := row) hs8 (by omega) c4 (hM.2 0 hn0).1 r0 (fun τ1 s1 o1 h1 => ?_) 24 0 τ (by omega) sm_rf (fun j _ => rfl) (fun j hj => by omega)
    unfold md_prepare_b64 md_prepare_b187
    rw [wi_t (show (24 : Int32) ≤ nI 24 from Int32.le_refl _)]
    have hs1 : sm [9, 11, 12, 13, 14, 15, 16] τ τ1 := sm_sub s1 (by decide)
    -- not a STEP: on to the next token
    have h190 : t.1 ≠ 2 → ∀ τ2, sm [9, 11, 12, 13, 14, 15, 16] τ τ2 → out9 (24 * (40 * s + i)) τ τ2 → (∀ x, x < n → pm n row (ev n d (fun y => nm (row y)) (fun y => vl (row y)) (t :: r) x 1 1) (τ2 9 (24 * (40 * s + i) + row x))) → wq (some (.inl (190, [nI s, nI i, nI t.1, nI (24 * (40 * s + i)), (0 : Int32)], τ2)) : Option ((Nat × List Int32 × dS) ⊕ (Int32 × dS))) (ks md_prepare_st Q) := by
      intro c2 τ2 s2 o2 h2
      rw [wq_some, ks_l, md_prepare_l190]; unfold md_prepare_b190
      rw [s2 5 (by decide), hM.1, wi_f (by rw [z_le0 (by omega)]; omega), wi_f (by rw [l_2, z_eq (by omega) (by omega)]; exact c2)]
      exact hfin τ2 s2 o2 h2
    have hc : t.1 = 0 ∨ t.1 = 1 ∨ t.1 = 2 ∨ t.1 = 3 := by omega
    rcases hc with c | c | c | c
    · rw [wi_f (by rw [l_3, z_eq (by omega) (by omega)]; omega)]
      refine h190 (by omega) τ1 hs1 o1 (fun x hx => ?_)
      rw [h1 (row x) (hw.1.2.1 x hx), if_pos c, ev_0 c]
      exact pm_bI hw.1 hx
    · rw [wi_f (by rw [l_3, z_eq (by omega) (by omega)]; omega)]
      refine h190 (by omega) τ1 hs1 o1 (fun x hx => ?_)
      rw [h1 (row x) (hw.1.2.1 x hx), if_neg (by omega), if_pos c, ev_1 c]
      exact pm_bI hw.1 hn0
    · rw [wi_f (by rw [l_3, z_eq (by omega) (by omega)]; omega), wq_some, ks_l, c, show (0 : Int32) = nI 0 from nI_0.symm]
      refine md_prep_lp190 hw (MT_sm' hM hs1 (by decide)) hnm hs8 (MO_sm hO hs1 (by decide)) hd c (fun x hx j h3 h4 h5 => ?_) (fun τ2 s2 o2 h2 => ?_) _ rfl n 0 τ1 (by omega) sm_rf (fun j _ => rfl) (fun x hx => ?_)
      · have rx := hw.1.2.1 x hx
        rw [o1 _ (Or.inr (by omega))]; exact hms x hx j h3 h4 h5
      · exact hfin τ2 (sm_tr hs1 s2) (fun j hj => by rw [o2 j hj]; exact o1 j hj) h2
      · rw [h1 (row x) (hw.1.2.1 x hx), if_neg (by omega), if_neg (by omega)]; exact pm_0
    · -- UNION
      obtain ⟨m', hwf⟩ := wfs_drop i x3
      rw [hd] at hwf
      obtain ⟨m'', q1, q2, q3, q4⟩ := hwf
      have har : ar t = 2 := ar_two (Or.inl c)
      have hf := fl_mono _ _ 2 (wfs_fl q1).1 (by omega)
      have hl2 := fl_lt r 1 hf
      have hty := q3.2.1 c
      have hlt4 : ∀ us : List Tk, ht us = 0 → hk us < 4 := by
        intro us h
        have h : tyk (hk us) = 0 := h
        unfold tyk at h
        by_cases g : hk us < 4
        · exact g
        · rw [if_neg g] at h
          by_cases g2 : hk us < 13
          · rw [if_pos g2] at h; cases h
          · rw [if_neg g2] at h; cases h
      rw [wi_t (by rw [c]; rfl), l_40, pk_mul, nI_add, n1_add, show 40 * s + i + 1 = 40 * s + (i + 1) by omega, md_endOf_sp (MO_sm hO hs1 (by decide)) (by omega : i + 1 < T.length), wq_bind, wq_some, hr]
      unfold md_prepare_b132
      rw [wq_some, ks_l, show (0 : Int32) = nI 0 from nI_0.symm]
      refine md_prep_lp137 (τ0 := τ1) hs8 (by omega) (by omega) (by omega) (by omega) (fun τ2 s2 o2 h2 => ?_) 24 0 τ1 (by omega) sm_rf (fun j _ => rfl) (fun j hj => by omega)
      unfold md_prepare_b187
      refine h190 (by omega) τ2 (sm_tr hs1 (sm_sub s2 (by decide))) (fun j hj => by rw [o2 j hj]; exact o1 j hj) (fun x hx => ?_)
      have rx := hw.1.2.1 x hx
      rw [h2 (row x) rx, o1 _ (Or.inr (by omega)), o1 _ (Or.inr (by omega)), ev_a (Or.inl c), c]
      have a1 := hms x hx (i + 1) (Nat.le_refl _) (by omega) (by rw [hr]; exact hlt4 _ hty.1)
      have a2 := hms x hx (i + 1 + sk 1 r) (by omega) (by omega) (by rw [← List.drop_drop, hr]; exact hlt4 _ hty.2)
      rw [hr, show 24 * (40 * s + (i + 1)) + row x = 24 * (40 * s + i) + 24 + row x by omega] at a1
      rw [← List.drop_drop, hr, show 40 * s + (i + 1 + sk 1 r) = 40 * s + (i + 1) + sk 1 r by omega] at a2
      exact pm_or a1 a2
  · rw [wi_f (by rw [l_3, z_le (by omega) (by omega)]; omega)]
    unfold md_prepare_b282
    rw [wq_some, ks_l, dec_f]
    refine hq τ sm_rf (fun x hx j h1 h2 h3 => ?_) (fun j _ => rfl)
    by_cases e : j = i
    · subst e; rw [hd] at h3; exact absurd h3 c4
    · exact hms x hx j (by omega) h2 h3
theorem md_prep_lp26 {Q : Int32 × dS → Prop} {τ0 : dS} (hw : WT n row d) (hM : MT n row d nm vl τ0) (hnm : ∀ i, i < n → nm (row i) < 6) (hn0 : 0 < n) {s : Nat} (hs8 : s < 8) (hO : MO (40 * s) T τ0)
    (hq : ∀ τ', sm [9, 11, 12, 13, 14, 15, 16] τ0 τ' → msA n row d (fun y => nm (row y)) (fun y => vl (row y)) (40 * s) T 0 τ' → (∀ j, (j < 960 * s ∨ 960 * s + 960 ≤ j) → τ' 9 j = τ0 9 j) → Q (0, τ')) :
    ∀ (j : Nat) (τ : dS), j ≤ T.length → sm [9, 11, 12, 13, 14, 15, 16] τ0 τ → msA n row d (fun y => nm (row y)) (fun y => vl (row y)) (40 * s) T j τ → (∀ j, (j < 960 * s ∨ 960 * s + 960 ≤ j) → τ 9 j = τ0 9 j) → wq (lp md_prepare_st (26, [nI s, dec j], τ)) Q := by
  intro j
  induction j with
  | zero =>
    intro τ hj hs hm ho
    rw [md_prepare_l26, dec_0]; unfold md_prepare_b26
    rw [wi_t (by decide), wq_some, ks_r]
    exact hq τ hs hm ho
  | succ j ih =>
    intro τ hj hs hm ho
    obtain ⟨t, r, hd⟩ := drop_ex (ts := T) (i := j) (by omega)
    rw [dec_s]
    exact md_prep_one hw (MT_sm' hM hs (by decide)) hnm hn0 hs8 (MO_sm hO hs (by decide)) hd hm (fun τ' s1 m1 o1 => ih τ' (by omega) (sm_tr hs s1) m1 (fun j hj => by rw [o1 j hj]; exact ho j hj))
theorem md_prepare_sp {Q : Int32 × dS → Prop} {X : Nat → List Tk} {τ : dS} (hK : MK n row d nm vl X τ) (hn0 : 0 < n) {s : Nat} (hs8 : s < 8) (hne : X s ≠ [])
    (hq : ∀ r, sm [9, 10, 11, 12, 13, 14, 15, 16] τ r.2 → msA n row d (fun y => nm (row y)) (fun y => vl (row y)) (40 * s) (X s) 0 r.2 → (∀ j, (j < 960 * s ∨ 960 * s + 960 ≤ j) → r.2 9 j = τ 9 j) → r.2 10 = upd (τ 10) s 1 → Q r) : wq (md_prepare (nI s) τ) Q := by
  obtain ⟨k1, k2, k3, k4, k5⟩ := hK
  obtain ⟨l1, l2, l3⟩ := k4 s hs8
  have hO := l3 hne
  unfold md_prepare md_prepare_b0
  rw [wq_lpB, wc_n (by omega) (by omega), z_cl (by omega)]
  rcases k5 s hs8 with g | ⟨g, g2⟩
  · rw [wi_t g, wc_n (by omega) (by omega), z_nz1]
    unfold md_prepare_b17
    rw [wc_n (by omega) (by omega), z_cl (by omega), up2_n (by decide), l2, dec_m, wq_some, ks_l]
    have hs0 : sm [10] τ (up2 τ 10 s 1) := sm_up (by decide) sm_rf
    refine md_prep_lp26 k1 (MT_sm' k2 hs0 (by decide)) k3 hn0 hs8 (MO_sm hO hs0 (by decide)) (fun τ' s1 m1 o1 => ?_) (X s).length _ (Nat.le_refl _) sm_rf (fun x hx j h1 h2 => by omega) (fun j _ => rfl)
    refine hq _ (sm_tr (sm_sub hs0 (by decide)) (sm_sub s1 (by decide))) m1 (fun j hj => ?_) ?_
    · show τ' 9 j = _
      rw [o1 j hj, up2_n (by decide)]
    · show τ' 10 = _
      rw [s1 10 (by decide), up2_s]
  · rw [wi_f (by rw [g]; decide), wq_some, ks_r]
    refine hq _ sm_rf (g2 hne) (fun j _ => rfl) ?_
    show τ 10 = _
    funext j
    by_cases e : j = s
    · rw [e, u_e, g]
    · rw [u_n e]
theorem MK_prep {X : Nat → List Tk} {τ τ' : dS} (hK : MK n row d nm vl X τ) {s : Nat} (hs8 : s < 8) (h1 : sm [9, 10, 11, 12, 13, 14, 15, 16] τ τ') (h2 : msA n row d (fun y => nm (row y)) (fun y => vl (row y)) (40 * s) (X s) 0 τ') (h3 : ∀ j, (j < 960 * s ∨ 960 * s + 960 ≤ j) → τ' 9 j = τ 9 j) (h4 : τ' 10 = upd (τ 10) s 1) : MK n row d nm vl X τ' := by
  obtain ⟨k1, k2, k3, k4, k5⟩ := hK
  have hn24 := k1.1.1
  refine ⟨k1, MT_sm' k2 h1 (by decide), k3, fun s' hs' => ?_, fun s' hs' => ?_⟩
  · obtain ⟨l1, l2, l3⟩ := k4 s' hs'
    exact ⟨l1, by rw [h1 8 (by decide)]; exact l2, fun e => MO_sm (l3 e) h1 (by decide)⟩
  · rw [h4]
    by_cases e : s' = s
    · subst e; rw [u_e]; exact Or.inr ⟨rfl, fun _ => h2⟩
    · rw [u_n e]
      rcases k5 s' hs' with g | ⟨g, g2⟩
      · exact Or.inl g
      · refine Or.inr ⟨g, fun hne x hx j a1 a2 a3 => ?_⟩
        have rx := k1.1.2.1 x hx
        have := (k4 s' hs').1
        rw [h3 _ (by omega)]; exact g2 hne x hx j a1 a2 a3
/-- ask: what a slot gives at a node comes to the bottom of the stack -/
theorem md_ask_sp {Q : Int32 × dS → Prop} {X : Nat → List Tk} {τ : dS} (hK : MK n row d nm vl X τ) {s x : Nat} (hs8 : s < 8) (hne : X s ≠ []) (hx : x < n)
    (hq : ∀ r, sm [9, 10, 11, 12, 13, 14, 15, 16] τ r.2 → MK n row d nm vl X r.2 → SE n row r.2 0 (ht (X s)) (ev n d (fun y => nm (row y)) (fun y => vl (row y)) (X s) x 1 1) → Q r) : wq (md_ask (nI s) (nI (row x)) τ) Q := by
  have hpos : 0 < (X s).length := by
    rcases Nat.eq_zero_or_pos (X s).length with e | e
    · exact absurd (List.length_eq_zero_iff.mp e) hne
    · exact e
  unfold md_ask md_ask_b0
  rw [wq_bind]
  refine md_prepare_sp hK (by omega) hs8 hne (fun r s1 m1 o1 e10 => ?_)
  have hK1 := MK_prep hK hs8 s1 m1 o1 e10
  obtain ⟨k1, k2, k3, k4, k5⟩ := id hK1
  unfold md_ask_b5
  rw [wq_bind, show (0 : Int32) = nI 0 from nI_0.symm]
  refine md_workOut_sp (T := X s) (p := 1) (l := 1) k1 k2 hs8 ((k4 s hs8).2.2 hne) hx hpos (fun j h1 h2 h3 => ?_) (fun q q1 q2 => ?_)
  · refine m1 x hx j h1 ?_ h3
    have := sk_le ((X s).drop 0) 1
    rw [List.length_drop] at this
    rcases Nat.lt_or_ge j (X s).length with g | g
    · exact g
    · omega
  · rw [wq_some]
    refine hq _ (sm_tr s1 (sm_sub q1 (by decide))) ⟨k1, MT_sm' k2 q1 (by decide), k3, fun s' hs' => ?_, fun s' hs' => ?_⟩ q2
    · obtain ⟨l1, l2, l3⟩ := k4 s' hs'
      exact ⟨l1, by show q.2 8 s' = _; rw [q1 8 (by decide)]; exact l2, fun e => MO_sm (l3 e) q1 (by decide)⟩
    · show q.2 10 s' = 0 ∨ (q.2 10 s' = 1 ∧ _)
      rw [q1 10 (by decide)]
      rcases k5 s' hs' with g | ⟨g, g2⟩
      · exact Or.inl g
      · exact Or.inr ⟨g, fun hne x hx j a1 a2 a3 => by show pm n row _ (q.2 9 _); rw [q1 9 (by decide)]; exact g2 hne x hx j a1 a2 a3⟩
end
