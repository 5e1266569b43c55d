/-! TransletDesk: step for all places, fill -/
set_option maxRecDepth 100000
theorem loc_set {ts : List Tk} (h : ht ts = 0) : loc ts = false := by
  cases ts with
  | nil => rw [loc]
  | cons t r =>
    have hk : t.1 < 4 := by
      have h : tyk t.1 = 0 := h
      unfold tyk at h
      by_cases g : t.1 < 4
      · exact g
      · rw [if_neg g] at h
        by_cases g2 : t.1 < 13
        · rw [if_pos g2] at h; cases h
        · rw [if_neg g2] at h; cases h
    rw [loc_c, decide_eq_false (by omega), decide_eq_false (by omega)]; rfl
theorem bI0 : bI 0 = 1 := by decide
theorem jn_un {vv : Nat → Int32} {k : Nat} (h : 7 ≤ k ∧ k < 10) (p : Int32) (pt : Nat) (q q' : Int32) (qt qt' : Nat) : jn vv k p pt q qt = jn vv k p pt q' qt' := by
  have : k = 7 ∨ k = 8 ∨ k = 9 := by omega
  rcases this with e | e | e <;> subst e <;> rfl
section
variable {n : Nat} {row d nm : Nat → Nat} {vl : Nat → Int32} {b : Nat} {T : List Tk}
theorem dk_step_lp17 {Q : Int32 × dS → Prop} {σ0 : dS} (hV : VX n row d nm vl σ0) (hX : XO b T σ0) {i : Nat} {t : Tk} {r : List Tk} (hd : T.drop i = t :: r) (hk : t.1 = 2) (hf : fl (ar t) r) (htab : tabA n d (fun y => nm (row y)) (fun y => vl (row y)) T (i + 1) σ0) (A : Nat → Int32) (hA : A = fun y => mkL (alo n d (fun y => nm (row y)) (sw t) (ht (r.drop (sk 1 r))) (ev n d (fun y => nm (row y)) (fun y => vl (row y)) (r.drop (sk 1 r))) (ht ((r.drop (sk 1 r)).drop (sk 1 (r.drop (sk 1 r))))) (ev n d (fun y => nm (row y)) (fun y => vl (row y)) ((r.drop (sk 1 r)).drop (sk 1 (r.drop (sk 1 r))))) y))
    (hq : ∀ σ', sm [26, 27] σ0 σ' → (∀ y, y < n → σ' 26 y = A y) → wq (lp dk_step_st (136, [nI b, nI i, t.2, nI (i + 1), 0], σ')) Q) :
    ∀ (f x : Nat) (σ : dS), x + f = n → sm [26, 27] σ0 σ → (∀ y, y < x → σ 26 y = A y) → wq (lp dk_step_st (17, [nI b, nI i, t.2, nI (i + 1), nI x], σ)) Q := by
  have hn24 := hV.1.1.1
  intro f
  induction f with
  | zero =>
    intro x σ hx hs h
    rw [dk_step_l17]; unfold dk_step_b17
    rw [hs 6 (by decide), hV.2.2, wi_t (by rw [z_le (by omega) (by omega)]; omega), wq_some, ks_l]
    exact hq σ hs (fun y hy => h y (by omega))
  | succ f ih =>
    intro x σ hx hs h
    refine dk_step_lp67 (VX_sm hV hs (by decide)) (XO_sm hX hs (by decide)) (by omega) hd hk hf (fun y hy j h1 h2 h3 => by rw [hs 23 (by decide)]; exact htab y hy j h1 h2 h3) (fun σ' hs' e26 => ?_)
    refine ih (x + 1) σ' (by omega) (sm_tr hs hs') (fun y hy => ?_)
    rw [e26]
    by_cases e : y = x
    · rw [e, u_e, hA]
    · rw [u_n e]; exact h y (by omega)
theorem dk_step_lp163 {Q : Int32 × dS → Prop} {σ : dS} {i x : Nat} {v3 : Int32} (hn : n ≤ 24) (hi : i < 40) (hx : x < n) {A : Nat → Int32} (hA : ∀ y, y < n → σ 26 y = A y) : ∀ (L : List Nat) (s a : Int32), els s = L → (∀ y, y ∈ L → y < n) →
    wq (lp dk_step_st (136, [nI b, nI i, v3, nI (i + 1), nI (x + 1)], up2 σ 23 (24 * i + x) (a ||| orL A L))) Q → wq (lp dk_step_st (163, [nI b, nI i, v3, nI (i + 1), nI x, a, s], σ)) Q := by
  intro L
  induction L with
  | nil =>
    intro s a h hL hq
    rw [dk_step_l163]; unfold dk_step_b163
    rw [wi_t (els_nil.mp h), l_24, pk_mul, nI_add, wc_n (by omega) (by omega), wq_some, ks_l, z_cl (by omega), n1_add]
    have e : a ||| orL A [] = a := by
      show a ||| 0 = a
      apply b_ext; intro j _; rw [b_or, b_0, Bool.or_false]
    rw [e] at hq; exact hq
  | cons l r ih =>
    intro s a h hL hq
    have hs : ¬ s = 0 := fun e => by rw [els_nil.mpr e] at h; cases h
    have hl := hL l List.mem_cons_self
    rw [dk_step_l163]; unfold dk_step_b163
    rw [wi_f hs, dk_lowest_sp h, wq_bind, wq_some]
    unfold dk_step_b179 dk_step_b183
    rw [wc_n (by omega) (by omega), wq_some, ks_l, z_cl (by omega), cl_f, hA l hl]
    refine ih (cl s) _ (els_cl h) (fun y hy => hL y (List.mem_cons_of_mem _ hy)) ?_
    have e : (a ||| A l) ||| orL A r = a ||| orL A (l :: r) := by
      show _ = a ||| (A l ||| orL A r)
      apply b_ext; intro j _; rw [b_or, b_or, b_or, b_or, Bool.or_assoc]
    rw [e]; exact hq
/-- the table's row i is set -/
def rowOf (n : Nat) (d nmp : Nat → Nat) (vv : Nat → Int32) (ts : List Tk) (i k : Nat) (σ0 σ : dS) : Prop := (∀ x, x < k → σ 23 (24 * i + x) = ev n d nmp vv ts x 1 1) ∧ (∀ j, (j < 24 * i ∨ 24 * i + n ≤ j) → σ 23 j = σ0 23 j)
theorem dk_step_lp136 {Q : Int32 × dS → Prop} {σ0 : dS} (hV : VX n row d nm vl σ0) (hX : XO b T σ0) {i : Nat} {t : Tk} {r : List Tk} (hd : T.drop i = t :: r) (hk : t.1 = 2) (hf : fl (ar t) r) (hty : ht r = 0) (htab : tabA n d (fun y => nm (row y)) (fun y => vl (row y)) T (i + 1) σ0) (A : Nat → Int32) (hA : A = fun y => mkL (alo n d (fun y => nm (row y)) (sw t) (ht (r.drop (sk 1 r))) (ev n d (fun y => nm (row y)) (fun y => vl (row y)) (r.drop (sk 1 r))) (ht ((r.drop (sk 1 r)).drop (sk 1 (r.drop (sk 1 r))))) (ev n d (fun y => nm (row y)) (fun y => vl (row y)) ((r.drop (sk 1 r)).drop (sk 1 (r.drop (sk 1 r))))) y)) (h26 : ∀ y, y < n → σ0 26 y = A y)
    (hq : ∀ σ', sm [23] σ0 σ' → rowOf n d (fun y => nm (row y)) (fun y => vl (row y)) (t :: r) i n σ0 σ' → Q (0, σ')) :
    ∀ (f x : Nat) (σ : dS), x + f = n → sm [23] σ0 σ → rowOf n d (fun y => nm (row y)) (fun y => vl (row y)) (t :: r) i x σ0 σ → wq (lp dk_step_st (136, [nI b, nI i, t.2, nI (i + 1), nI x], σ)) Q := by
  have hn24 := hV.1.1.1
  obtain ⟨x1, x1b, x2, x3, x4, x5⟩ := id hX
  have hi := drop_lt hd
  have hr := drop_next hd
  have hrl : r.length = T.length - (i + 1) := by rw [← hr, List.length_drop]
  have hl1 := fl_lt r 0 (fl_mono _ _ 1 hf (ar_pos (by omega)))
  rw [sk_0] at hl1
  intro f
  induction f with
  | zero =>
    intro x σ hx hs h
    have e : x = n := by omega
    subst e
    rw [dk_step_l136]; unfold dk_step_b136
    rw [hs 6 (by decide), hV.2.2, wi_t (Int32.le_refl _), wq_some, ks_r]
    exact hq σ hs h
  | succ f ih =>
    intro x σ hx hs h
    have et : σ 23 (24 * (i + 1) + x) = ev n d (fun y => nm (row y)) (fun y => vl (row y)) r x 1 1 := by
      rw [h.2 _ (Or.inr (by omega))]
      have := htab x (by omega) (i + 1) (Nat.le_refl _) (by omega) (by rw [hr]; exact loc_set hty)
      rw [hr] at this; exact this
    have hbw := ev_bw (n := n) (d := d) (nmp := fun y => nm (row y)) (vv := fun y => vl (row y)) (by omega) r.length r (Nat.le_refl _) (by rw [← hr]; exact wfs_drop _ x3) (fun e => by rw [e] at hl1; cases hl1) hty x 1 1 (by omega)
    rw [dk_step_l136]; unfold dk_step_b136
    rw [hs 6 (by decide), hV.2.2, wi_f (by rw [z_le (by omega) (by omega)]; omega), l_24, pk_mul, nI_add, wc_n (by omega) (by omega), wq_some, ks_l, z_cl (by omega), et]
    refine dk_step_lp163 hn24 (by omega) (by omega) (A := A) (fun y hy => by rw [hs 26 (by decide)]; exact h26 y hy) _ _ 0 rfl (fun y hy => bw_els hbw hy) ?_
    have e0 : ∀ z : Int32, 0 ||| z = z := fun z => by apply b_ext; intro j _; rw [b_or, b_0, Bool.false_or]
    rw [e0]
    refine ih (x + 1) _ (by omega) (sm_up (by decide) hs) ⟨fun y hy => ?_, fun j hj => ?_⟩
    · rw [up2_s]
      by_cases e : y = x
      · rw [e, u_e, ev_2 hk, hA]
      · rw [u_n (by omega)]; exact h.1 y (by omega)
    · rw [up2_s, u_n (by omega)]; exact h.2 j hj
theorem tabA_row {nmp : Nat → Nat} {vv : Nat → Int32} {i : Nat} {σ0 σ : dS} (hn : n ≤ 24) (h : tabA n d nmp vv T (i + 1) σ0) (hr : rowOf n d nmp vv (T.drop i) i n σ0 σ) : tabA n d nmp vv T i σ := by
  intro x hx j h1 h2 h3
  by_cases e : j = i
  · subst e; exact hr.1 x hx
  · rw [hr.2 _ (by omega)]; exact h x hx j (by omega) h2 h3
theorem dk_step_sp {Q : Int32 × dS → Prop} {σ : dS} (hV : VX n row d nm vl σ) (hX : XO b T σ) {i : Nat} {t : Tk} {r : List Tk} (hd : T.drop i = t :: r) (hk : t.1 = 2) (htab : tabA n d (fun y => nm (row y)) (fun y => vl (row y)) T (i + 1) σ)
    (hq : ∀ r', sm [23, 26, 27] σ r'.2 → tabA n d (fun y => nm (row y)) (fun y => vl (row y)) T i r'.2 → Q r') : wq (dk_step (nI b) (nI i) σ) Q := by
  have hn24 := hV.1.1.1
  obtain ⟨x1, x1b, x2, x3, x4, x5⟩ := id hX
  have hi := drop_lt hd
  obtain ⟨m', hw⟩ := wfs_drop i x3
  rw [hd] at hw
  obtain ⟨m'', q1, q2, q3, q4⟩ := hw
  have hf := fl_mono _ _ _ (wfs_fl q1).1 q2
  have hty := q3.1 hk
  have e17 := (x4 i t r hd).2
  rw [kv_2 hk] at e17
  unfold dk_step dk_step_b0 dk_step_b9 dk_step_b14
  rw [wq_lpB, nI_add, wc_n (by omega) (by omega), z_cl (by omega), e17, n1_add, wq_some, ks_l, show (0 : Int32) = nI 0 from nI_0.symm]
  refine dk_step_lp17 hV hX hd hk hf htab _ rfl (fun σ' hs' h26 => ?_) n 0 σ (by omega) sm_rf (fun y hy => by omega)
  rw [show (0 : Int32) = nI 0 from nI_0.symm]
  refine dk_step_lp136 (VX_sm hV hs' (by decide)) (XO_sm hX hs' (by decide)) hd hk hf hty (fun y hy j h1 h2 h3 => by rw [hs' 23 (by decide)]; exact htab y hy j h1 h2 h3) _ rfl h26 (fun σ2 hs2 hrow => ?_) n 0 σ' (by omega) sm_rf ⟨fun y hy => by omega, fun j _ => rfl⟩
  refine hq _ (sm_tr (sm_sub hs' (by decide)) (sm_sub hs2 (by decide))) (tabA_row hn24 htab ?_)
  rw [hd]
  exact ⟨hrow.1, fun j hj => by show σ2 23 j = _; rw [hrow.2 j hj, hs' 23 (by decide)]⟩
theorem dk_fill_lp {Q : Int32 × dS → Prop} {σ0 : dS} (hV : VX n row d nm vl σ0) (hX : XO b T σ0) {i : Nat} {t : Tk} {r : List Tk} (hd : T.drop i = t :: r) (hk : t.1 ≠ 2) (hl : loc (t :: r) = false) (hle : ∃ m', wfs r m' ∧ ar t ≤ m') (htyp : typ t r) (htab : tabA n d (fun y => nm (row y)) (fun y => vl (row y)) T (i + 1) σ0)
    (hq : ∀ σ', sm [23] σ0 σ' → rowOf n d (fun y => nm (row y)) (fun y => vl (row y)) (t :: r) i n σ0 σ' → Q (0, σ')) :
    ∀ (f x : Nat) (σ : dS), x + f = n → sm [23] σ0 σ → rowOf n d (fun y => nm (row y)) (fun y => vl (row y)) (t :: r) i x σ0 σ → wq (lp dk_fill_st (45, [nI b, nI i, nI t.1, nI (ar t), nI (i + 1), if 1 < ar t then nI (i + 1 + sk 1 r) else 0, nI x], σ)) Q := by
  have hn24 := hV.1.1.1
  obtain ⟨x1, x1b, x2, x3, x4, x5⟩ := id hX
  have hi := drop_lt hd
  have hr := drop_next hd
  have hot := x2 t (drop_mem hd)
  have har := ar_le hot
  have ht18 := hot.1
  have hrl : r.length = T.length - (i + 1) := by rw [← hr, List.length_drop]
  obtain ⟨m', hw, hle⟩ := hle
  have hfl := (wfs_fl hw).1
  have h56 : ¬ (t.1 = 5 ∨ t.1 = 6) := by
    intro g
    rw [loc_c, decide_eq_true g, Bool.true_or] at hl; cases hl
  intro f
  induction f with
  | zero =>
    intro x σ hx hs h
    have e : x = n := by omega
    subst e
    rw [dk_fill_l45]; unfold dk_fill_b45
    rw [hs 6 (by decide), hV.2.2, wi_t (Int32.le_refl _), wq_some, ks_r]
    exact hq σ hs h
  | succ f ih =>
    intro x σ hx hs h
    have hxn : x < n := by omega
    have hXσ := XO_sm hX hs (by decide)
    have hVσ := VX_sm hV hs (by decide)
    -- a value stored
    have h187 : ∀ v : Int32, v = ev n d (fun y => nm (row y)) (fun y => vl (row y)) (t :: r) x 1 1 → wq (dk_fill_b187 (nI b) (nI i) (nI t.1) (nI (ar t)) (nI (i + 1)) (if 1 < ar t then nI (i + 1 + sk 1 r) else 0) (nI x) v (nI (24 * i + x)) σ) (ks dk_fill_st Q) := by
      intro v hv
      unfold dk_fill_b187
      rw [wc_n (by omega) (by omega), wq_some, ks_l, z_cl (by omega), n1_add]
      refine ih (x + 1) _ (by omega) (sm_up (by decide) hs) ⟨fun y hy => ?_, fun j hj => ?_⟩
      · rw [up2_s]
        by_cases e : y = x
        · rw [e, u_e, hv]
        · rw [u_n (by omega)]; exact h.1 y (by omega)
      · rw [up2_s, u_n (by omega)]; exact h.2 j hj
    have et : ∀ o, i + 1 ≤ o → o < T.length → loc (T.drop o) = false → σ 23 (24 * o + x) = ev n d (fun y => nm (row y)) (fun y => vl (row y)) (T.drop o) x 1 1 := by
      intro o h1 h2 h3
      rw [h.2 _ (Or.inr (by omega))]
      exact htab x hxn o h1 h2 h3
    rw [dk_fill_l45]; unfold dk_fill_b45
    rw [hs 6 (by decide), hV.2.2, wi_f (by rw [z_le (by omega) (by omega)]; omega)]
    by_cases c0 : ar t = 0
    · rw [wi_t (by rw [z_le0 (by omega)]; exact c0)]
      unfold dk_fill_b76
      rw [wi_t (by rw [n1_le (by omega)]; omega)]
      unfold dk_fill_b101
      have hkk : t.1 = 0 ∨ t.1 = 1 ∨ t.1 = 4 := by
        have h1 : ¬ (t.1 = 3 ∨ 7 ≤ t.1) := fun g => by have := ar_pos (t := t) (by omega); omega
        omega
      rcases hkk with c | c | c
      · rw [wi_t (by rw [z_e0 (by omega)]; exact c), bI_f, l_24, pk_mul, nI_add]
        exact h187 _ (ev_0 c x 1 1).symm
      · rw [wi_f (by rw [z_e0 (by omega)]; omega), wi_t (by rw [n1_eq (by omega)]; exact c), l_24, pk_mul, nI_add]
        exact h187 _ (by rw [ev_1 c, bI0])
      · have e17 := (hXσ.2.2.2.2.1 i t r hd).2
        rw [wi_f (by rw [z_e0 (by omega)]; omega), wi_f (by rw [n1_eq (by omega)]; omega), wi_t (by rw [z_e0 (by omega)]; exact c0), nI_add, wc_n (by omega) (by omega), z_cl (by omega), e17, l_24, pk_mul, nI_add]
        exact h187 _ (by rw [ev_4 c]; exact if_pos (Or.inr c))
    · -- an operation
      have hkk : t.1 = 3 ∨ 7 ≤ t.1 := by
        have : ¬ (t.1 = 0 ∨ t.1 = 1 ∨ t.1 = 4) := by
          intro g
          apply c0
          unfold ar
          rw [if_neg hk, if_neg (by omega), if_neg (by omega)]
        omega
      have hl1 := fl_lt r 0 (fl_mono _ _ 1 hfl (by omega))
      rw [sk_0] at hl1
      have hrne : r ≠ [] := fun e => by rw [e] at hl1; cases hl1
      have hlr : loc r = false := by
        by_cases g : 10 ≤ t.1
        · rw [loc_c, Bool.or_eq_false_iff, Bool.and_eq_false_iff] at hl
          rcases hl.2 with g2 | g2
          · exact absurd g (of_decide_eq_false g2)
          · exact (Bool.or_eq_false_iff.mp g2).1
        · apply loc_set
          rcases hkk with c | c
          · exact (htyp.2.1 c).1
          · exact htyp.2.2.1 (by omega)
      have a1 := XO_at hXσ (i := i + 1) (by omega)
      rw [hr] at a1
      have p1 := et (i + 1) (Nat.le_refl _) (by omega) (by rw [hr]; exact hlr)
      rw [hr] at p1
      have hbp : (ht r = 0 ∨ t.1 < 10) → bw n (ev n d (fun y => nm (row y)) (fun y => vl (row y)) r x 1 1) := by
        intro g
        refine ev_bw (by omega) r.length r (Nat.le_refl _) ⟨m', hw⟩ hrne ?_ x 1 1 hxn
        rcases g with g | g
        · exact g
        · rcases hkk with c | c
          · exact (htyp.2.1 c).1
          · exact htyp.2.2.1 (by omega)
      rw [wi_f (by rw [z_le0 (by omega)]; exact c0), l_24, pk_mul, nI_add, wc_n (by omega) (by omega), z_cl (by omega), p1]
      unfold dk_fill_b76
      by_cases c1 : ar t ≤ 1
      · rw [wi_t (by rw [n1_le (by omega)]; exact c1)]
        unfold dk_fill_b101
        rw [wi_f (by rw [z_e0 (by omega)]; omega), wi_f (by rw [n1_eq (by omega)]; omega), wi_f (by rw [z_e0 (by omega)]; exact c0), nI_add, wc_n (by omega) (by omega), wi_t (by rw [n1_le (by omega)]; exact c1), z_cl (by omega), a1.1, l_24, pk_mul, nI_add]
        unfold dk_fill_b184
        have hj := dk_join_sp (q := 0) (pt := ht r) (qt := 1) (vv := fun y => vl (row y)) hn24 (VX_v hVσ) (k := t.1) (by omega) (tyk_lt _) (by omega) hbp (fun g => by omega)
        rw [show nI 1 = (1 : Int32) from rfl] at hj
        rw [hj, wq_bind, wq_some]
        refine h187 _ ?_
        by_cases g : 10 ≤ t.1
        · rw [ev_b g, if_neg (by omega), if_neg (by omega)]
        · have h79 : 7 ≤ t.1 ∧ t.1 < 10 := by
            have : t.1 ≠ 3 := fun e => by rw [ar_two (Or.inl e)] at c1; omega
            omega
          rw [ev_a (Or.inr h79)]
          exact jn_un h79 _ _ _ _ _ _
      · have hl2 := fl_lt r 1 (fl_mono _ _ 2 hfl (by omega))
        have h3 : t.1 = 3 ∨ 10 ≤ t.1 := by
          by_cases g : 7 ≤ t.1 ∧ t.1 ≤ 9
          · rw [ar_one g] at c1; omega
          · omega
        have hlq : loc (r.drop (sk 1 r)) = false := by
          rcases h3 with c | c
          · exact loc_set (htyp.2.1 c).2
          · rw [loc_c, Bool.or_eq_false_iff, Bool.and_eq_false_iff] at hl
            rcases hl.2 with g2 | g2
            · exact absurd c (of_decide_eq_false g2)
            · have := (Bool.or_eq_false_iff.mp g2).2
              rw [decide_eq_true (by omega), Bool.true_and] at this; exact this
        have a2 := XO_at hXσ (i := i + 1 + sk 1 r) (by omega)
        rw [← List.drop_drop, hr] at a2
        have p2 := et (i + 1 + sk 1 r) (by omega) (by omega) (by rw [← List.drop_drop, hr]; exact hlq)
        rw [← List.drop_drop, hr] at p2
        have hbq : ht (r.drop (sk 1 r)) = 0 → bw n (ev n d (fun y => nm (row y)) (fun y => vl (row y)) (r.drop (sk 1 r)) x 1 1) := fun e => ev_bw (by omega) _ _ (Nat.le_refl _) (wfs_drop _ hw) (fun e => by have := congrArg List.length e; rw [List.length_drop, List.length_nil] at this; omega) e x 1 1 hxn
        rw [if_pos (show 1 < ar t by omega)] at h187
        rw [wi_f (by rw [n1_le (by omega)]; exact c1), if_pos (show 1 < ar t by omega)]
        rw [l_24, pk_mul, nI_add, wc_n (by omega) (by omega), z_cl (by omega), p2]
        unfold dk_fill_b101
        rw [wi_f (by rw [z_e0 (by omega)]; omega), wi_f (by rw [n1_eq (by omega)]; omega), wi_f (by rw [z_e0 (by omega)]; exact c0), nI_add, wc_n (by omega) (by omega), wi_f (by rw [n1_le (by omega)]; exact c1), nI_add, wc_n (by omega) (by omega), z_cl (by omega), z_cl (by omega), a1.1, a2.1, l_24, pk_mul, nI_add]
        unfold dk_fill_b184
        rw [dk_join_sp (pt := ht r) (qt := ht (r.drop (sk 1 r))) (vv := fun y => vl (row y)) hn24 (VX_v hVσ) (by omega) (tyk_lt _) (tyk_lt _) hbp hbq, wq_bind, wq_some]
        refine h187 _ ?_
        rcases h3 with c | c
        · rw [ev_a (Or.inl c)]
        · rw [ev_b c, if_pos (by omega), if_pos (by omega)]
theorem dk_fill_sp {Q : Int32 × dS → Prop} {σ : dS} (hV : VX n row d nm vl σ) (hX : XO b T σ) {i : Nat} {t : Tk} {r : List Tk} (hd : T.drop i = t :: r) (hk : t.1 ≠ 2) (hl : loc (t :: r) = false) (htab : tabA n d (fun y => nm (row y)) (fun y => vl (row y)) T (i + 1) σ)
    (hq : ∀ r', sm [23] σ r'.2 → tabA n d (fun y => nm (row y)) (fun y => vl (row y)) T i r'.2 → Q r') : wq (dk_fill (nI b) (nI i) σ) Q := by
  have hn24 := hV.1.1.1
  obtain ⟨x1, x1b, x2, x3, x4, x5⟩ := id hX
  have hi := drop_lt hd
  have hr := drop_next hd
  have hot := x2 t (drop_mem hd)
  have har := ar_le hot
  obtain ⟨m', hw⟩ := wfs_drop i x3
  rw [hd] at hw
  obtain ⟨m'', q1, q2, q3, q4⟩ := hw
  have hrl : r.length = T.length - (i + 1) := by rw [← hr, List.length_drop]
  have e16 := (x4 i t r hd).1
  have go := dk_fill_lp (Q := Q) hV hX hd hk hl ⟨m'', q1, q2⟩ q3 htab (fun σ' hs' hrow => hq _ (sm_sub hs' (by decide)) (tabA_row hn24 htab (by rw [hd]; exact hrow))) n 0 σ (by omega) sm_rf ⟨fun y hy => by omega, fun j _ => rfl⟩
  rw [nI_0] at go
  unfold dk_fill dk_fill_b0 dk_fill_b9
  rw [wq_lpB, nI_add, wc_n (by omega) (by omega), z_cl (by omega), e16, dk_arity_sp hot (fun e => absurd e hk), wq_bind, wq_some]
  unfold dk_fill_b14 dk_fill_b21 dk_fill_b40
  rw [n1_add]
  by_cases c1 : ar t ≤ 1
  · rw [wi_t (by rw [n1_le (by omega)]; exact c1), wq_some, ks_l]
    rw [if_neg (by omega)] at go
    exact go
  · have hl1 := fl_lt r 0 (fl_mono _ _ 1 (wfs_fl q1).1 (by omega))
    rw [sk_0] at hl1
    have a1 := XO_at hX (i := i + 1) (by omega)
    rw [hr] at a1
    rw [wi_f (by rw [n1_le (by omega)]; exact c1), nI_add, wc_n (by omega) (by omega), z_cl (by omega), a1.2.1, wq_some, ks_l]
    rw [if_pos (by omega)] at go
    exact go
end
