/-! which template takes a node: the model -/
set_option maxRecDepth 100000
abbrev EV (n : Nat) (row d nm : Nat → Nat) (vl : Nat → Int32) (X : Nat → List Tk) (s x : Nat) : Int32 := ev n d (fun y => nm (row y)) (fun y => vl (row y)) (X s) x 1 1
/-- template t takes the node at place x -/
def mt (n : Nat) (row d nm : Nat → Nat) (vl : Nat → Int32) (X : Nat → List Tk) (A : TA) (t x : Nat) : Prop := ∃ q, A t = some q ∧ X q.1 ≠ [] ∧ ht (X q.1) = 0 ∧ ∃ y, y < n ∧ y ≤ x ∧ x < bh n d y ∧ bt (EV n row d nm vl X q.1 y) x = true
def prr (A : TA) (t : Nat) : Int32 := match A t with
  | some q => q.2.1
  | none => 0
noncomputable def ci {α : Type} (p : Prop) (a b : α) : α := @ite α p (Classical.propDecidable p) a b
theorem ci_t {α : Type} {p : Prop} {a b : α} (h : p) : ci p a b = a := @if_pos p (Classical.propDecidable p) h α a b
theorem ci_f {α : Type} {p : Prop} {a b : α} (h : ¬ p) : ci p a b = b := @if_neg p (Classical.propDecidable p) h α a b
/-- the best of the first templates -/
noncomputable def bst (M : Nat → Prop) (p : Nat → Int32) : Nat → Option Nat
  | 0 => none
  | t + 1 => ci (M t) (match bst M p t with
    | none => some t
    | some b => if p t < p b then some b else some t) (bst M p t)
def bv : Option Nat → Int32
  | none => -1
  | some t => nI t
theorem bst_lt {M : Nat → Prop} {p : Nat → Int32} : ∀ {t b : Nat}, bst M p t = some b → b < t ∧ M b := by
  intro t
  induction t with
  | zero => intro b h; cases h
  | succ t ih =>
    intro b h
    unfold bst at h
    by_cases g : M t
    · rw [ci_t g] at h
      cases e : bst M p t with
      | none => rw [e] at h; cases h; exact ⟨by omega, g⟩
      | some c =>
        rw [e] at h
        dsimp only at h
        by_cases q : p t < p c
        · rw [if_pos q] at h; cases h; have := ih e; exact ⟨by omega, this.2⟩
        · rw [if_neg q] at h; cases h; exact ⟨by omega, g⟩
    · rw [ci_f g] at h; have := ih h; exact ⟨by omega, this.2⟩
section
variable {n : Nat} {row d nm : Nat → Nat} {vl : Nat → Int32} {X : Nat → List Tk} {A : TA} {σ τ : dS}
theorem mt_A {t x : Nat} (h : mt n row d nm vl X A t x) : A t ≠ none := by
  obtain ⟨q, h, _⟩ := h
  rw [h]; intro g; cases g
theorem prr_s (hT : TR A σ τ) {t : Nat} (ht6 : t < 6) (h : A t ≠ none) : σ 29 t = prr A t ∧ τ 19 t = prr A t := by
  unfold prr
  cases e : A t with
  | none => exact absurd e h
  | some q =>
    obtain ⟨m, p, o, w⟩ := q
    obtain ⟨a1, a2, a3, a4, a5, a6, a7⟩ := (hT t ht6).2 m p o w e
    exact ⟨a5, a6⟩
theorem md_matches_lp {t x m : Nat} {p o w : Int32} (ht6 : t < 6) (hx : x < n) (hA : A t = some (m, p, o, w)) (hne : X m ≠ []) (hty : ht (X m) = 0) : ∀ (f i : Nat) (τ' : dS), i + f = n → sm QM τ τ' → TR A σ τ' → MK n row d nm vl X τ' → (∀ y, y < i → y ≤ x → x < bh n d y → bt (EV n row d nm vl X m y) x = false) →
    wq (lp md_matches_st (43, [nI t, nI (row x), nI i], τ')) (fun r => r.1 = (ci (mt n row d nm vl X A t x) 1 0) ∧ sm QM τ r.2 ∧ TR A σ r.2 ∧ MK n row d nm vl X r.2) := by
  intro f
  induction f with
  | zero =>
    intro i τ' hi hs hT hM hno
    rw [md_matches_l43]
    unfold md_matches_b43
    have hn := hM.1.1.1
    rw [hM.2.1.1, wi_t (by rw [z_le (by omega) (by omega)]; omega), wq_some, ks_r]
    refine ⟨?_, hs, hT, hM⟩
    rw [ci_f]
    intro g
    obtain ⟨q, g1, g2, g3, y, y1, y2, y3, y4⟩ := g
    rw [hA] at g1; cases g1
    rw [hno y (by omega) y2 y3] at y4; cases y4
  | succ f ih =>
    intro i τ' hi hs hT hM hno
    have hn := hM.1.1.1
    have hin : i < n := by omega
    have ri := hM.1.1.2.1 i hin
    have rx := hM.1.1.2.1 x hx
    have hrow := hM.1.1.2.2
    obtain ⟨m8, b2, b3, b4, _⟩ := (hT t ht6).2 m p o w hA
    have hnext : ∀ τ'', sm QM τ τ'' → TR A σ τ'' → MK n row d nm vl X τ'' → (i ≤ x → x < bh n d i → bt (EV n row d nm vl X m i) x = false) → wq (md_matches_b118 (nI t) (nI (row x)) (nI i) τ'') (ks md_matches_st (fun r => r.1 = (ci (mt n row d nm vl X A t x) 1 0) ∧ sm QM τ r.2 ∧ TR A σ r.2 ∧ MK n row d nm vl X r.2)) := by
      intro τ'' e1 e2 e3 e4
      unfold md_matches_b118
      rw [wq_some, ks_l, n1_add]
      refine ih (i + 1) τ'' (by omega) e1 e2 e3 (fun y y1 y2 y3 => ?_)
      rcases Nat.lt_or_ge y i with q | q
      · exact hno y q y2 y3
      · have : y = i := by omega
        subst this; exact e4 y2 y3
    have h75 : i ≤ x → x < bh n d i → wq (md_matches_b75 (nI t) (nI (row x)) (nI i) (nI (row i)) τ') (ks md_matches_st (fun r => r.1 = (ci (mt n row d nm vl X A t x) 1 0) ∧ sm QM τ r.2 ∧ TR A σ r.2 ∧ MK n row d nm vl X r.2)) := by
      intro g1 g2
      unfold md_matches_b75 md_matches_b80
      rw [wi_f (by decide), wc_n (by omega) (by omega), z_cl (by omega), b4, wq_bind]
      refine md_ask_sp hM m8 hne hin (fun r a1 a2 a3 => ?_)
      have hT' : TR A σ r.2 := TR_sm (l := []) (l' := QM) hT sm_rf (by decide) a1 (by decide)
      unfold md_matches_b102
      rw [wc_0 (by omega), z_0c]
      by_cases g : bt (EV n row d nm vl X m i) x = true
      · rw [wi_t (by rw [t1f (by omega), (a3.2.1 hty).1 x hx]; exact g), wq_some, ks_r]
        exact ⟨by rw [ci_t]; exact ⟨_, hA, hne, hty, i, hin, g1, g2, g⟩, sm_tr hs a1, hT', a2⟩
      · rw [wi_f (by rw [t1f (by omega), (a3.2.1 hty).1 x hx]; exact g)]
        exact hnext r.2 (sm_tr hs a1) hT' a2 (fun _ _ => Bool.eq_false_iff.mpr g)
    rw [md_matches_l43]
    unfold md_matches_b43
    rw [hM.2.1.1, wi_f (by rw [z_le (by omega) (by omega)]; omega), wc_n (by omega) (by omega), z_cl (by omega), (hM.2.1.2 i hin).1]
    unfold md_matches_b59
    by_cases e : i = x
    · rw [wi_t (by rw [e])]
      exact h75 (by omega) (by have := bh_lt (d := d) hin; omega)
    · rw [wi_f (by rw [z_eq (by omega) (by omega)]; exact fun g => e (hrow i x hin hx g)), md_isBelow_sp hM.1 hM.2.1 hx hin, wq_bind, wq_some]
      unfold md_matches_b72
      dsimp only
      by_cases g : i < x ∧ x < bh n d i
      · rw [if_pos g, wi_f (by decide)]
        exact h75 (by omega) g.2
      · rw [if_neg g, wi_t rfl]
        unfold md_matches_b80
        rw [wi_t rfl]
        exact hnext τ' hs hT hM (fun q1 q2 => absurd ⟨by omega, q2⟩ g)
theorem md_matches_sp {Q : Int32 × dS → Prop} {t x : Nat} (hM : MK n row d nm vl X τ) (hT : TR A σ τ) (ht6 : t < 6) (hx : x < n) (hq : ∀ r, r.1 = (ci (mt n row d nm vl X A t x) 1 0) → sm QM τ r.2 → TR A σ r.2 → MK n row d nm vl X r.2 → Q r) : wq (md_matches (nI t) (nI (row x)) τ) Q := by
  have hn := hM.1.1.1
  unfold md_matches
  rw [wq_lpB]
  unfold md_matches_b0
  rw [l_5, md_in_nat (by omega) (by omega), wq_bind, wq_some]
  unfold md_matches_b6
  rw [wi_f (by decide), wc_n (by omega) (by omega), z_cl (by omega)]
  cases hA : A t with
  | none =>
    obtain ⟨a1, a2⟩ := (hT t ht6).1 hA
    rw [wi_t a2, wq_some, ks_r]
    exact hq _ (by rw [ci_f]; exact fun g => mt_A g hA) sm_rf hT hM
  | some q =>
    obtain ⟨m, p, o, w⟩ := q
    obtain ⟨m8, b2, b3, b4, _⟩ := (hT t ht6).2 m p o w hA
    rw [wi_f (by rw [b3]; decide), md_where_y hM.1 hM.2.1 hx, wq_bind, wq_some]
    unfold md_matches_b23
    dsimp only
    rw [wi_f (by rw [z_lt0 (by omega)]; simp), wc_n (by omega) (by omega), z_cl (by omega), b4, md_isSet_sp hM m8, wq_bind, wq_some]
    unfold md_matches_b36
    dsimp only
    by_cases g : X m ≠ [] ∧ ht (X m) = 0
    · rw [if_pos g, wi_f (by decide), wq_some, ks_l, show (0 : Int32) = nI 0 from nI_0.symm]
      exact wq_mono (md_matches_lp (σ := σ) (τ := τ) ht6 hx hA g.1 g.2 n 0 τ (by omega) sm_rf hT hM (fun y y1 => absurd y1 (by omega))) (fun r e => hq r e.1 e.2.1 e.2.2.1 e.2.2.2)
    · rw [if_neg g, wi_t rfl, wq_some, ks_r]
      refine hq _ ?_ sm_rf hT hM
      rw [ci_f]
      rintro ⟨q, g1, g2, g3, _⟩
      rw [hA] at g1; cases g1
      exact g ⟨g2, g3⟩
theorem bst_s (M : Nat → Prop) (p : Nat → Int32) (t : Nat) : (M t → bst M p t = none → bst M p (t + 1) = some t) ∧ (¬ M t → bst M p (t + 1) = bst M p t) ∧ (∀ b, M t → bst M p t = some b → p t < p b → bst M p (t + 1) = some b) ∧ (∀ b, M t → bst M p t = some b → ¬ p t < p b → bst M p (t + 1) = some t) := by
  refine ⟨fun h e => ?_, fun h => ?_, fun b h e q => ?_, fun b h e q => ?_⟩
  · rw [bst, ci_t h, e]
  · rw [bst, ci_f h]
  · rw [bst, ci_t h, e]; exact if_pos q
  · rw [bst, ci_t h, e]; exact if_neg q
theorem md_best_lp {x : Nat} (hx : x < n) : ∀ (f t : Nat) (τ' : dS), t + f = 6 → sm QM τ τ' → TR A σ τ' → MK n row d nm vl X τ' →
    wq (lp md_best_st (4, [nI (row x), bv (bst (fun t => mt n row d nm vl X A t x) (prr A) t), nI t], τ')) (fun r => r.1 = bv (bst (fun t => mt n row d nm vl X A t x) (prr A) 6) ∧ sm QM τ r.2 ∧ TR A σ r.2 ∧ MK n row d nm vl X r.2) := by
  intro f
  induction f with
  | zero =>
    intro t τ' hf hs hT hM
    have e : t = 6 := by omega
    subst e
    rw [md_best_l4]
    unfold md_best_b4
    rw [wi_t (by decide), wq_some, ks_r]
    exact ⟨rfl, hs, hT, hM⟩
  | succ f ih =>
    intro t τ' hf hs hT hM
    have ht6 : t < 6 := by omega
    rw [md_best_l4]
    unfold md_best_b4
    rw [wi_f (by rw [l_6, z_le (by omega) (by omega)]; omega), wq_bind]
    refine md_matches_sp hM hT ht6 hx (fun r a1 a2 a3 a4 => ?_)
    obtain ⟨k1, k2, k3, k4⟩ := bst_s (fun t => mt n row d nm vl X A t x) (prr A) t
    have ih' := ih (t + 1) r.2 (by omega) (sm_tr hs a2) a3 a4
    unfold md_best_b16 md_best_b42 md_best_b44
    rw [a1]
    by_cases g : mt n row d nm vl X A t x
    · rw [ci_t g, wi_f (by decide)]
      cases e : bst (fun t => mt n row d nm vl X A t x) (prr A) t with
      | none =>
        rw [k1 g e] at ih'
        rw [wi_t (show bv none < 0 by decide), wq_some, ks_l, n1_add]; exact ih'
      | some b =>
        obtain ⟨b1, b2⟩ := bst_lt e
        have pb := (prr_s a3 (by omega : b < 6) (mt_A b2)).2
        have pt := (prr_s a3 ht6 (mt_A g)).2
        have eb : bv (some b) = nI b := rfl
        rw [eb, wi_f (by rw [z_lt0 (by omega)]; simp), wc_n (by omega) (by omega), wc_n (by omega) (by omega), z_cl (by omega), z_cl (by omega), pb, pt]
        by_cases q : prr A t < prr A b
        · rw [k3 b g e q] at ih'
          rw [wi_t q, wq_some, ks_l, n1_add]; exact ih'
        · rw [k4 b g e q] at ih'
          rw [wi_f q, wq_some, ks_l, n1_add]; exact ih'
    · rw [ci_f g, wi_t rfl, wq_some, ks_l, n1_add]
      rw [k2 g] at ih'; exact ih'
theorem md_best_sp {Q : Int32 × dS → Prop} {x : Nat} (hM : MK n row d nm vl X τ) (hT : TR A σ τ) (hx : x < n) (hq : ∀ r, r.1 = bv (bst (fun t => mt n row d nm vl X A t x) (prr A) 6) → sm QM τ r.2 → TR A σ r.2 → MK n row d nm vl X r.2 → Q r) : wq (md_best (nI (row x)) τ) Q := by
  unfold md_best
  rw [wq_lpB]
  unfold md_best_b0
  rw [wq_some, ks_l]
  have := md_best_lp (σ := σ) (τ := τ) (A := A) (d := d) (nm := nm) (vl := vl) (X := X) hx 6 0 τ (by omega) sm_rf hT hM
  rw [nI_0] at this
  exact wq_mono this (fun r e => hq r e.1 e.2.1 e.2.2.1 e.2.2.2)
/-- the children of the node at place x -/
def chm (n : Nat) (d : Nat → Nat) (x : Nat) : Int32 := mkL (ft (fun z => decide (0 < z ∧ pa d z = x)) 0 n)
theorem chm_bt (hn : n ≤ 32) (x z : Nat) : bt (chm n d x) z = decide (0 < z ∧ z < n ∧ pa d z = x) := by
  unfold chm
  rw [mkL_bt (fun a ha => by have := (ft_mem.mp ha).2.1; omega), decide_eq_decide, ft_mem, decide_eq_true_iff]
  constructor
  · rintro ⟨_, h2, h3, h4⟩; exact ⟨h3, by omega, h4⟩
  · rintro ⟨h2, h3, h4⟩; exact ⟨by omega, by omega, h2, h4⟩
theorem md_childrenOf_lp (hw : WT n row d) (hM : MT n row d nm vl τ) {x : Nat} (hx : x < n) : ∀ (f i : Nat) (N : Int32), i + f = n → (∀ z, z < n → bt N (row z) = decide (0 < z ∧ z < i ∧ pa d z = x)) → (∀ k, (∀ z, z < n → row z ≠ k) → bt N k = false) →
    wq (lp md_childrenOf_st (4, [nI (row x), N, nI i], τ)) (fun r => r.2 = τ ∧ pm n row (chm n d x) r.1) := by
  have hn := hw.1.1
  intro f
  induction f with
  | zero =>
    intro i N hi h1 h2
    have e : i = n := by omega
    subst e
    rw [md_childrenOf_l4]
    unfold md_childrenOf_b4
    rw [hM.1, wi_t (by rw [z_le (by omega) (by omega)]; omega), wq_some, ks_r]
    refine ⟨rfl, fun z hz => ?_, h2, fun z hz => ?_⟩
    · rw [chm_bt (by omega), h1 z hz]
    · rw [chm_bt (by omega)]; exact decide_eq_false (by omega)
  | succ f ih =>
    intro i N hi h1 h2
    have hin : i < n := by omega
    have ri := hw.1.2.1 i hin
    have rx := hw.1.2.1 x hx
    have hrow := hw.1.2.2
    rw [md_childrenOf_l4]
    unfold md_childrenOf_b4
    rw [hM.1, wi_f (by rw [z_le (by omega) (by omega)]; omega), wc_n (by omega) (by omega), z_cl (by omega), (hM.2 i hin).1, md_parentOf_sp hw hM hin, wq_bind, wq_some]
    unfold md_childrenOf_b22 md_childrenOf_b37
    dsimp only
    by_cases g : 0 < i ∧ pa d i = x
    · have hp : pav row d i = nI (row x) := by unfold pav; rw [if_neg (by omega), g.2]
      rw [wi_t hp, wc_n (by omega) (by omega), z_cl (by omega), (hM.2 i hin).1, bI_f, wq_some, ks_l, n1_add]
      refine ih (i + 1) _ (by omega) (fun z hz => ?_) (fun k hk2 => ?_)
      · rw [b_or, h1 z hz, bI_bt' (by omega)]
        by_cases e : z = i
        · subst e
          rw [decide_eq_true (rfl : row z = row z), decide_eq_true (⟨g.1, by omega, g.2⟩ : 0 < z ∧ z < z + 1 ∧ pa d z = x), Bool.or_true]
        · rw [decide_eq_false (fun q => e (hrow z i hz hin q)), Bool.or_false, decide_eq_decide]
          omega
      · rw [b_or, h2 k hk2, bI_bt' (by omega), decide_eq_false (fun q => hk2 i hin q.symm)]; rfl
    · have hp : ¬ pav row d i = nI (row x) := by
        unfold pav
        by_cases e : i = 0
        · rw [if_pos e, z_m1n (by omega)]; simp
        · have := pa_lt hw.2 (by omega : 0 < i) hin
          have rp := hw.1.2.1 (pa d i) (by omega)
          rw [if_neg e, z_eq (by omega) (by omega)]
          exact fun q => g ⟨by omega, hrow _ _ (by omega) hx q⟩
      rw [wi_f hp, wq_some, ks_l, n1_add]
      refine ih (i + 1) _ (by omega) (fun z hz => ?_) h2
      rw [h1 z hz, decide_eq_decide]
      constructor
      · rintro ⟨q1, q2, q3⟩; exact ⟨q1, by omega, q3⟩
      · rintro ⟨q1, q2, q3⟩
        refine ⟨q1, ?_, q3⟩
        rcases Nat.lt_or_ge z i with e | e
        · exact e
        · have : z = i := by omega
          subst this; exact absurd ⟨q1, q3⟩ g
theorem md_childrenOf_sp (hw : WT n row d) (hM : MT n row d nm vl τ) {x : Nat} (hx : x < n) : wq (md_childrenOf (nI (row x)) τ) (fun r => r.2 = τ ∧ pm n row (chm n d x) r.1) := by
  unfold md_childrenOf
  rw [wq_lpB]
  unfold md_childrenOf_b0
  rw [wq_some, ks_l]
  have := md_childrenOf_lp hw hM hx n 0 0 (by omega) (fun z hz => by rw [b_0]; exact (decide_eq_false (by omega)).symm) (fun k _ => b_0 k)
  rw [nI_0] at this; exact this
end
