/-! which template takes a node: TransletDesk -/
set_option maxRecDepth 100000
section
variable {n : Nat} {row d nm : Nat → Nat} {vl : Nat → Int32} {X : Nat → List Tk} {A : TA} {σ τ : dS}
theorem DK_sm {l : List Nat} {σ' : dS} (h : DK n row d nm vl X σ) (hs : sm l σ σ') (hl : ∀ i, i ∈ l → 28 ≤ i) : DK n row d nm vl X σ' := by
  have k : ∀ i, i < 28 → σ' i = σ i := fun i a => hs i (fun g => by have := hl i g; omega)
  obtain ⟨h1, h2, h3, h4, h5⟩ := h
  refine ⟨h1, DT_sm' h2 hs (fun i hi => by have := hl i hi; omega), ?_, fun s hs8 => ?_, ?_⟩
  · rw [k 15 (by omega)]
    rcases h3 with h3 | ⟨h3, h3'⟩
    · exact Or.inl h3
    · exact Or.inr ⟨h3, CT_sm h3' hs (fun i hi => by have := hl i hi; omega)⟩
  · obtain ⟨a, b, c⟩ := h4 s hs8
    exact ⟨a, by rw [k 21 (by omega)]; exact b, fun g => XO_sm (c g) hs (fun i hi => by have := hl i hi; omega)⟩
  · rw [k 25 (by omega), k 24 (by omega)]; exact h5
theorem DK_count {σ' : dS} (h : DK n row d nm vl X σ) (hs : sm [7, 8, 9, 10, 11, 12, 13, 14, 15] σ σ') (h15 : σ' 15 0 = 1) (hC : CT n row d nm vl σ') : DK n row d nm vl X σ' := by
  obtain ⟨h1, h2, h3, h4, h5⟩ := h
  refine ⟨h1, DT_sm' h2 hs (by decide), Or.inr ⟨h15, hC⟩, fun s hs8 => ?_, ?_⟩
  · obtain ⟨a, b, c⟩ := h4 s hs8
    exact ⟨a, by rw [hs 21 (by decide)]; exact b, fun g => XO_sm (c g) hs (by decide)⟩
  · rw [hs 25 (by decide), hs 24 (by decide)]; exact h5
abbrev SD : List Nat := [7, 8, 9, 10, 11, 12, 13, 14, 15, 23, 24, 25, 26, 27, 32, 33, 34]
def SCv (n : Nat) (row d nm : Nat → Nat) (vl : Nat → Int32) (X : Nat → List Tk) (A : TA) (t : Nat) (σ : dS) : Prop :=
  (∀ t', t' < t → ∀ x, bt (σ 32 t') x = true ↔ mt n row d nm vl X A t' x) ∧ (∀ x, x < n → σ 34 x = bv (bst (fun t => mt n row d nm vl X A t x) (prr A) t))
def SC (n : Nat) (row d nm : Nat → Nat) (vl : Nat → Int32) (X : Nat → List Tk) (A : TA) (σ : dS) : Prop := σ 33 0 = 0 ∨ (σ 33 0 = 1 ∧ SCv n row d nm vl X A 6 σ)
theorem dk_sort_lp19 {Q : Int32 × dS → Prop} {σ0 : dS} (hn : n ≤ 24) (h6 : σ0 6 0 = nI n) (hq : ∀ σ, sm [34] σ0 σ → (∀ x, x < n → σ 34 x = -1) → wq (lp dk_sort_st (42, [0], σ)) Q) : ∀ (f k : Nat) (σ : dS), k + f = n → sm [34] σ0 σ → (∀ x, x < k → σ 34 x = -1) → wq (lp dk_sort_st (19, [nI k], σ)) Q := by
  intro f
  induction f with
  | zero =>
    intro k σ hk hs h
    rw [dk_sort_l19]
    unfold dk_sort_b19
    rw [hs 6 (by decide), h6, wi_t (by rw [z_le (by omega) (by omega)]; omega), wq_some, ks_l]
    exact hq σ hs (fun x hx => h x (by omega))
  | succ f ih =>
    intro k σ hk hs h
    rw [dk_sort_l19]
    unfold dk_sort_b19
    rw [hs 6 (by decide), h6, wi_f (by rw [z_le (by omega) (by omega)]; omega), wc_n (by omega) (by omega), z_cl (by omega), wq_some, ks_l, n1_add, z_nbm1]
    refine ih (k + 1) _ (by omega) (sm_up (by decide) hs) (fun x hx => ?_)
    rw [up2_s]
    by_cases e : x = k
    · rw [e, u_e]
    · rw [u_n e]; exact h x (by omega)
theorem dk_sort_lp97 {Q : Int32 × dS → Prop} {σ1 : dS} {t m : Nat} {F : Nat → Int32} (hn : n ≤ 24) (ht6 : t < 6) (hm : m < 8) (h6 : σ1 6 0 = nI n) (h24 : ∀ y, y < n → σ1 24 (24 * m + y) = F y) (h9 : ∀ y, y < n → σ1 9 y = dec (bh n d y))
    (hq : ∀ σ, sm [32] σ1 σ → (∀ j, j ≠ t → σ 32 j = σ1 32 j) → (∀ x, bt (σ 32 t) x = true ↔ ∃ y, y < n ∧ y ≤ x ∧ x < bh n d y ∧ bt (F y) x = true) → wq (lp dk_sort_st (149, [nI t, nI m, σ 32 t], σ)) Q) :
    ∀ (f k : Nat) (σ : dS), k + f = n → sm [32] σ1 σ → (∀ j, j ≠ t → σ 32 j = σ1 32 j) → (∀ x, bt (σ 32 t) x = true ↔ ∃ y, y < k ∧ y ≤ x ∧ x < bh n d y ∧ bt (F y) x = true) → wq (lp dk_sort_st (97, [nI t, nI m, nI k], σ)) Q := by
  intro f
  induction f with
  | zero =>
    intro k σ hk2 hs h1 h2
    have e : k = n := by omega
    subst e
    rw [dk_sort_l97]
    unfold dk_sort_b97
    rw [hs 6 (by decide), h6, wi_t (by rw [z_le (by omega) (by omega)]; omega), wc_n (by omega) (by omega), z_cl (by omega), wq_some, ks_l]
    exact hq σ hs h1 h2
  | succ f ih =>
    intro k σ hk2 hs h1 h2
    have hkn : k < n := by omega
    have hb := bh_le (d := d) hkn
    obtain ⟨iv, iv1, iv2⟩ := dk_interval_sp (a := k) (b := bh n d k) (by omega) (by omega)
    rw [dk_sort_l97]
    unfold dk_sort_b97
    rw [hs 6 (by decide), h6, wi_f (by rw [z_le (by omega) (by omega)]; omega), wc_n (by omega) (by omega), l_24, pk_mul, nI_add, wc_n (by omega) (by omega), wc_n (by omega) (by omega), z_cl (by omega), z_cl (by omega), z_cl (by omega), hs 9 (by decide), h9 k hkn, iv1, hs 24 (by decide), h24 k hkn, wq_bind, wq_some]
    unfold dk_sort_b133
    rw [wc_n (by omega) (by omega), z_cl (by omega), wq_some, ks_l, n1_add]
    refine ih (k + 1) _ (by omega) (sm_up (by decide) hs) (fun j hj => ?_) (fun x => ?_)
    · rw [up2_s, u_n hj]; exact h1 j hj
    · rw [up2_s, u_e, b_or, Bool.or_eq_true, b_and, Bool.and_eq_true, iv2, decide_eq_true_iff, h2 x]
      constructor
      · rintro (⟨y, y1, y2⟩ | ⟨y1, y2, y3⟩)
        · exact ⟨y, by omega, y2⟩
        · exact ⟨k, by omega, y2, y3, y1⟩
      · rintro ⟨y, y1, y2, y3, y4⟩
        rcases Nat.lt_or_ge y k with g | g
        · exact Or.inl ⟨y, g, y2, y3, y4⟩
        · have : y = k := by omega
          subst this
          exact Or.inr ⟨y4, y2, y3⟩
theorem dk_sort_lp149 {Q : Int32 × dS → Prop} {σ2 : dS} {t : Nat} {M : Nat → Nat → Prop} {p : Nat → Int32} (v2 : Int32) (hn : n ≤ 24) (ht6 : t < 6) (h29 : ∀ b x, b ≤ t → M b x → σ2 29 b = p b)
    (hq : ∀ σ, sm [34] σ2 σ → (∀ x, x < n → σ 34 x = bv (bst (fun t => M t x) p (t + 1))) → wq (dk_sort_b208 (nI t) σ) (ks dk_sort_st Q)) :
    ∀ (L : List Nat) (s : Int32) (σ : dS), els s = L → (∀ x, x ∈ L → x < n ∧ M t x) → sm [34] σ2 σ → (∀ x, x < n → x ∈ L → σ 34 x = bv (bst (fun t => M t x) p t)) → (∀ x, x < n → x ∉ L → σ 34 x = bv (bst (fun t => M t x) p (t + 1))) → wq (lp dk_sort_st (149, [nI t, v2, s], σ)) Q := by
  intro L
  induction L with
  | nil =>
    intro s σ hs h1 hm h2 h3
    rw [dk_sort_l149]
    unfold dk_sort_b149
    rw [wi_t (els_nil.mp hs)]
    exact hq σ hm (fun x hx => h3 x hx (fun g => by cases g))
  | cons l r ih =>
    intro s σ hs h1 hm h2 h3
    have sn : ¬ s = 0 := fun e => by rw [e, els_0] at hs; cases hs
    obtain ⟨hl, hMl⟩ := h1 l (List.mem_cons_self ..)
    have hp : ∀ a, a ∈ r → l < a := by
      have := els_pw (x := s)
      rw [hs, List.pairwise_cons] at this
      exact this.1
    obtain ⟨k1, k2, k3, k4⟩ := bst_s (fun t => M t l) p t
    have hnext : ∀ σ', sm [34] σ2 σ' → (∀ x, x ≠ l → σ' 34 x = σ 34 x) → σ' 34 l = bv (bst (fun t => M t l) p (t + 1)) → wq (dk_sort_b199 (nI t) v2 s σ') (ks dk_sort_st Q) := by
      intro σ' e1 e2 e3
      unfold dk_sort_b199
      rw [wq_some, ks_l]
      refine ih _ σ' (els_cl hs) (fun x hx => h1 x (List.mem_cons_of_mem _ hx)) e1 (fun x hx hxr => ?_) (fun x hx hxr => ?_)
      · have := hp x hxr
        rw [e2 x (by omega)]; exact h2 x hx (List.mem_cons_of_mem _ hxr)
      · by_cases e : x = l
        · rw [e]; exact e3
        · rw [e2 x e]; refine h3 x hx (fun g => ?_)
          rcases List.mem_cons.mp g with q | q
          · exact e q
          · exact hxr q
    have hset : bst (fun t => M t l) p (t + 1) = some t → wq (dk_sort_b190 (nI t) v2 s (nI l) σ) (ks dk_sort_st Q) := by
      intro e
      unfold dk_sort_b190
      rw [wc_n (by omega) (by omega), z_cl (by omega), z_b (by omega), z_nb (by omega)]
      refine hnext _ (sm_up (by decide) hm) (fun x hx => ?_) ?_
      · rw [up2_s, u_n hx]
      · rw [up2_s, u_e, e]; rfl
    rw [dk_sort_l149]
    unfold dk_sort_b149
    rw [wi_f sn, dk_lowest_sp hs, wq_bind, wq_some]
    unfold dk_sort_b157
    have h2l := h2 l hl (List.mem_cons_self ..)
    rw [wc_n (by omega) (by omega), z_cl (by omega), h2l]
    cases e : bst (fun t => M t l) p t with
    | none =>
      rw [wi_t (show bv none < 0 by decide)]
      exact hset (k1 hMl e)
    | some b =>
      obtain ⟨b1, b2⟩ := bst_lt e
      have eb : bv (some b) = nI b := rfl
      rw [eb, wi_f (by rw [z_lt0 (by omega)]; simp), wc_n (by omega) (by omega), wc_n (by omega) (by omega), wc_n (by omega) (by omega), z_cl (by omega), z_cl (by omega), hm 29 (by decide), h29 t l (Nat.le_refl _) hMl, h29 b l (by omega) b2]
      by_cases q : p t < p b
      · rw [wi_t q]
        exact hnext σ hm (fun _ _ => rfl) (by rw [h2l, k3 b hMl e q, e])
      · rw [wi_f q]
        exact hset (k4 b hMl e q)
theorem mt_lt {t x : Nat} (h : mt n row d nm vl X A t x) : x < n := by
  obtain ⟨q, h1, h2, h3, y, y1, y2, y3, y4⟩ := h
  have := bh_le (d := d) y1
  omega
/-- what sorting leaves -/
def SJ (n : Nat) (row d nm : Nat → Nat) (vl : Nat → Int32) (X : Nat → List Tk) (A : TA) (τ σ0 : dS) (t : Nat) (σ : dS) : Prop := sm SD σ0 σ ∧ DK n row d nm vl X σ ∧ TR A σ τ ∧ σ 33 0 = 1 ∧ σ 15 0 = 1 ∧ CT n row d nm vl σ ∧ SCv n row d nm vl X A t σ
theorem dk_sort_lp42 {σ0 : dS} : ∀ (f t : Nat) (σ : dS), t + f = 6 → SJ n row d nm vl X A τ σ0 t σ → wq (lp dk_sort_st (42, [nI t], σ)) (fun r => SJ n row d nm vl X A τ σ0 6 r.2) := by
  intro f
  induction f with
  | zero =>
    intro t σ hf hJ
    have e : t = 6 := by omega
    subst e
    rw [dk_sort_l42]
    unfold dk_sort_b42
    rw [wi_t (by decide), wq_some, ks_r]
    exact hJ
  | succ f ih =>
    intro t σ hf hJ
    obtain ⟨j1, j2, j3, j4, j5, j6, j7, j8⟩ := hJ
    have ht6 : t < 6 := by omega
    have hn := j2.1.1.1
    have s1 : sm [32] σ (up2 σ 32 t 0) := sm_up (by decide) sm_rf
    have nxt : ∀ σ', SJ n row d nm vl X A τ σ0 (t + 1) σ' → wq (dk_sort_b208 (nI t) σ') (ks dk_sort_st (fun r => SJ n row d nm vl X A τ σ0 6 r.2)) := by
      intro σ' h
      unfold dk_sort_b208
      rw [wq_some, ks_l, n1_add]
      exact ih (t + 1) σ' (by omega) h
    have d1 : DK n row d nm vl X (up2 σ 32 t 0) := DK_sm j2 s1 (by decide)
    have c1 : CT n row d nm vl (up2 σ 32 t 0) := CT_sm j6 s1 (by decide)
    have t1 : TR A (up2 σ 32 t 0) τ := TR_sm j3 s1 (by decide) (l' := []) sm_rf (by decide)
    have b1 : ∀ t', t' < t → ∀ x, bt ((up2 σ 32 t 0) 32 t') x = true ↔ mt n row d nm vl X A t' x := fun t' h x => by
      rw [up2_s, u_n (by omega)]; exact j7 t' h x
    have skip : (∀ x, ¬ mt n row d nm vl X A t x) → wq (dk_sort_b208 (nI t) (up2 σ 32 t 0)) (ks dk_sort_st (fun r => SJ n row d nm vl X A τ σ0 6 r.2)) := by
      intro hno
      refine nxt _ ⟨sm_tr j1 (sm_sub s1 (by decide)), d1, t1, by rw [s1 33 (by decide)]; exact j4, by rw [s1 15 (by decide)]; exact j5, c1, fun t' h x => ?_, fun x hx => ?_⟩
      · rcases Nat.lt_or_ge t' t with g | g
        · exact b1 t' g x
        · have : t' = t := by omega
          subst this
          rw [up2_s, u_e, b_0]
          exact ⟨fun q => by (cases q), fun q => absurd q (hno x)⟩
      · rw [s1 34 (by decide), (bst_s (fun t => mt n row d nm vl X A t x) (prr A) t).2.1 (hno x)]
        exact j8 x hx
    rw [dk_sort_l42]
    unfold dk_sort_b42
    rw [wi_f (by rw [l_6, z_le (by omega) (by omega)]; omega), wc_n (by omega) (by omega), z_cl (by omega)]
    unfold dk_sort_b55
    rw [wc_n (by omega) (by omega), z_cl (by omega)]
    unfold dk_sort_b62
    cases hA : A t with
    | none =>
      rw [((t1 t ht6).1 hA).1, wi_t (by decide)]
      exact skip (fun x g => mt_A g hA)
    | some q =>
      obtain ⟨m, p, o, w⟩ := q
      obtain ⟨m8, b2, _⟩ := (t1 t ht6).2 m p o w hA
      obtain ⟨l1, l2, l3⟩ := d1.2.2.2.1 m m8
      rw [b2, wi_f (by rw [z_lt0 (by omega)]; simp), wc_n (by omega) (by omega), z_cl (by omega), l2]
      by_cases hne : X m = []
      · rw [wi_t (by rw [hne]; exact nI_0)]
        refine skip (fun x g => ?_)
        obtain ⟨q, g1, g2, _⟩ := g
        rw [hA] at g1; cases g1; exact g2 hne
      have hp := pos_of hne
      rw [wi_f (by rw [z_e0 (by omega)]; omega), l_40, pk_mul, wc_n (by omega) (by omega), z_cl (by omega)]
      by_cases hty : ht (X m) = 0
      · rw [wi_t (by rw [ty_at d1 m8 hne, hty]; exact nI_0), wq_bind]
        refine dk_learn_sp d1 m8 hne (fun r a1 a2 a3 a4 a5 a6 => ?_)
        have d2 := DK_learn d1 m8 a1 a2 a3 a4 a5 a6
        unfold dk_sort_b95
        rw [wq_some, ks_l, show (0 : Int32) = nI 0 from nI_0.symm]
        refine dk_sort_lp97 (d := d) (F := EV n row d nm vl X m) hn ht6 m8 d2.2.1.1 a4 (fun y hy => ?_) ?_ n 0 r.2 (by omega) sm_rf (fun _ _ => rfl) (fun x => ?_)
        · have hb := bh_lt (d := d) hy
          rw [(a3.1 y hy).2.2.1 (bh_le hy)]
          obtain ⟨c, hc⟩ : ∃ c, bh n d y = c + 1 := ⟨bh n d y - 1, by omega⟩
          rw [hc, dec_s]; rfl
        · intro σ2 e1 e2 e3
          have hmt : ∀ x, bt (σ2 32 t) x = true ↔ mt n row d nm vl X A t x := by
            intro x
            rw [e3 x]
            constructor
            · intro g; exact ⟨_, hA, hne, hty, g⟩
            · rintro ⟨q, g1, g2, g3, g4⟩
              rw [hA] at g1; cases g1; exact g4
          have t2 : TR A σ2 τ := TR_sm (TR_sm t1 a1 (by decide) (l' := []) sm_rf (by decide)) e1 (by decide) (l' := []) sm_rf (by decide)
          refine dk_sort_lp149 (M := fun t x => mt n row d nm vl X A t x) (p := prr A) (nI m) hn ht6 (fun b x hb hM => (prr_s t2 (by omega) (mt_A hM)).1) ?_ _ _ σ2 rfl (fun x hx => ?_) sm_rf (fun x hx _ => ?_) (fun x hx hxl => ?_)
          · intro σ3 f1 f2
            refine nxt σ3 ⟨?_, DK_sm (DK_sm d2 e1 (by decide)) f1 (by decide), TR_sm t2 f1 (by decide) (l' := []) sm_rf (by decide), ?_, ?_, CT_sm (CT_sm a3 e1 (by decide)) f1 (by decide), fun t' h x => ?_, f2⟩
            · exact sm_tr (sm_tr (sm_tr (sm_tr j1 (sm_sub s1 (by decide))) (sm_sub a1 (by decide))) (sm_sub e1 (by decide))) (sm_sub f1 (by decide))
            · rw [f1 33 (by decide), e1 33 (by decide), a1 33 (by decide), s1 33 (by decide)]; exact j4
            · rw [f1 15 (by decide), e1 15 (by decide)]; exact a2
            · rw [f1 32 (by decide)]
              rcases Nat.lt_or_ge t' t with g | g
              · rw [e2 t' (by omega), a1 32 (by decide)]; exact b1 t' g x
              · have : t' = t := by omega
                subst this
                exact hmt x
          · have g := (hmt x).mp (els_mem.mp hx)
            exact ⟨mt_lt g, g⟩
          · rw [e1 34 (by decide), a1 34 (by decide), s1 34 (by decide)]; exact j8 x hx
          · rw [e1 34 (by decide), a1 34 (by decide), s1 34 (by decide), (bst_s (fun t => mt n row d nm vl X A t x) (prr A) t).2.1 (fun g => hxl (els_mem.mpr ((hmt x).mpr g)))]
            exact j8 x hx
        · rw [a1 32 (by decide), up2_s, u_e, b_0]
          exact ⟨fun q => by (cases q), fun ⟨y, y1, _⟩ => absurd y1 (by omega)⟩
      · rw [wi_f (by have := tyk_lt (hk (X m)); rw [ty_at d1 m8 hne, z_e0 (by unfold ht; omega)]; exact hty)]
        refine skip (fun x g => ?_)
        obtain ⟨q, g1, g2, g3, _⟩ := g
        rw [hA] at g1; cases g1; exact hty g3
theorem dk_sort_sp (hD : DK n row d nm vl X σ) (hT : TR A σ τ) (hS : SC n row d nm vl X A σ) : wq (dk_sort σ) (fun r => SJ n row d nm vl X A τ σ 6 r.2) := by
  have hn := hD.1.1.1
  unfold dk_sort
  rw [wq_lpB]
  unfold dk_sort_b0
  rw [wq_bind]
  refine dk_count_sp hD.1 hD.2.1 hD.2.2.1 (fun r a1 a2 a3 => ?_)
  have d1 := DK_count hD a1 a2 a3
  have t1 : TR A r.2 τ := TR_sm hT a1 (by decide) (l' := []) sm_rf (by decide)
  unfold dk_sort_b4
  rcases hS with h0 | ⟨h0, h1⟩
  · rw [wi_t (by rw [a1 33 (by decide)]; exact h0)]
    unfold dk_sort_b17
    rw [wq_some, ks_l, show (19, [(0 : Int32)], up2 r.2 33 0 1) = (19, [nI 0], up2 r.2 33 0 1) from by rw [nI_0]]
    have s2 : sm [33] r.2 (up2 r.2 33 0 1) := sm_up (by decide) sm_rf
    refine dk_sort_lp19 (n := n) (σ0 := up2 r.2 33 0 1) hn (by rw [s2 6 (by decide)]; exact d1.2.1.1) (fun σ3 e1 e2 => ?_) n 0 _ (by omega) sm_rf (fun x hx => absurd hx (by omega))
    have := dk_sort_lp42 (n := n) (row := row) (d := d) (nm := nm) (vl := vl) (X := X) (A := A) (τ := τ) (σ0 := σ) 6 0 σ3 (by omega) ⟨sm_tr (sm_tr (sm_sub a1 (by decide)) (sm_sub s2 (by decide))) (sm_sub e1 (by decide)), DK_sm (DK_sm d1 s2 (by decide)) e1 (by decide), TR_sm (TR_sm t1 s2 (by decide) (l' := []) sm_rf (by decide)) e1 (by decide) (l' := []) sm_rf (by decide), by rw [e1 33 (by decide), up2_s, u_e], by rw [e1 15 (by decide), s2 15 (by decide)]; exact a2, CT_sm (CT_sm a3 s2 (by decide)) e1 (by decide), fun t' h => absurd h (by omega), e2⟩
    rw [nI_0] at this
    exact this
  · rw [wi_f (by rw [a1 33 (by decide), h0]; decide), wq_some, ks_r]
    refine ⟨sm_sub a1 (by decide), d1, t1, by rw [a1 33 (by decide)]; exact h0, a2, a3, ?_⟩
    unfold SCv
    rw [a1 32 (by decide), a1 34 (by decide)]; exact h1
end
