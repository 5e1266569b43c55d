/-! what an operation makes of its operands; TransletDesk's compare and join -/
set_option maxRecDepth 100000
def b2i (b : Bool) : Int32 := if b = true then 1 else 0
/-- the values of an operand of a type (0: a set) -/
def vls (vv : Nat → Int32) (t : Nat) (x : Int32) : List Int32 := if t = 0 then (els x).map vv else [x]
def lessB (vv : Nat → Int32) (p : Int32) (pt : Nat) (q : Int32) (qt : Nat) : Bool := (vls vv pt p).any (fun a => (vls vv qt q).any (fun b => decide (a < b)))
def sameB (vv : Nat → Int32) (p : Int32) (pt : Nat) (q : Int32) (qt : Nat) : Bool := (vls vv pt p).any (fun a => (vls vv qt q).any (fun b => decide (a = b)))
def nmv (vv : Nat → Int32) (t : Nat) (x : Int32) : Int32 := if t = 0 then fsv vv x else x
def jn (vv : Nat → Int32) (k : Nat) (p : Int32) (pt : Nat) (q : Int32) (qt : Nat) : Int32 :=
  if k = 3 then p ||| q else if k = 7 then nI (els p).length else if k = 8 then smv vv (els p) else if k = 9 then fsv vv p
  else if k = 10 then nmv vv pt p + nmv vv qt q else if k = 11 then nmv vv pt p - nmv vv qt q else if k = 12 then nmv vv pt p * nmv vv qt q
  else if k = 13 then b2i (lessB vv p pt q qt) else if k = 14 then b2i (sameB vv p pt q qt)
  else if k = 15 then b2i (decide (p ≠ 0) && decide (q ≠ 0)) else if k = 16 then b2i (decide (p ≠ 0) || decide (q ≠ 0)) else b2i (decide (p = 0))
section
variable {n : Nat} {vv : Nat → Int32} {σ : dS}
theorem lessB_iff {p : Int32} {pt : Nat} {q : Int32} {qt : Nat} : lessB vv p pt q qt = true ↔ ∃ a, a ∈ vls vv pt p ∧ ∃ b, b ∈ vls vv qt q ∧ a < b := by
  unfold lessB
  rw [List.any_eq_true]
  constructor
  · rintro ⟨a, h1, h2⟩
    rw [List.any_eq_true] at h2
    obtain ⟨b, h3, h4⟩ := h2
    exact ⟨a, h1, b, h3, of_decide_eq_true h4⟩
  · rintro ⟨a, h1, b, h3, h4⟩
    exact ⟨a, h1, List.any_eq_true.mpr ⟨b, h3, decide_eq_true h4⟩⟩
theorem sameB_iff {p : Int32} {pt : Nat} {q : Int32} {qt : Nat} : sameB vv p pt q qt = true ↔ ∃ a, a ∈ vls vv pt p ∧ a ∈ vls vv qt q := by
  unfold sameB
  rw [List.any_eq_true]
  constructor
  · rintro ⟨a, h1, h2⟩
    rw [List.any_eq_true] at h2
    obtain ⟨b, h3, h4⟩ := h2
    exact ⟨a, h1, by rw [of_decide_eq_true h4]; exact h3⟩
  · rintro ⟨a, h1, h3⟩
    exact ⟨a, h1, List.any_eq_true.mpr ⟨a, h3, decide_eq_true rfl⟩⟩
theorem b2i_t {b : Bool} (h : b = true) : b2i b = 1 := if_pos h
theorem b2i_f {b : Bool} (h : ¬ b = true) : b2i b = 0 := if_neg h
theorem vls_s {x : Int32} {a : Int32} : a ∈ vls vv 0 x ↔ ∃ y, y ∈ els x ∧ vv y = a := by
  unfold vls
  rw [if_pos rfl, List.mem_map]
theorem vls_n {t : Nat} (ht : t ≠ 0) {x : Int32} {a : Int32} : a ∈ vls vv t x ↔ a = x := by
  unfold vls
  rw [if_neg ht, List.mem_singleton]
theorem dk_compare_lp (hn : n ≤ 24) (hV : ∀ y, y < n → σ 14 y = vv y) {q : Int32} (hq : bw n q) {v1 v2 v3 v5 : Int32} (A : Prop) : ∀ (L : List Nat) (s b : Int32), els s = L → (∀ y, y ∈ L → y < n) → (b = 0 ∨ b = 1) → (A ↔ b = 1 ∨ ∃ y, y ∈ L ∧ ∃ z, z ∈ els q ∧ vv z = vv y) → wq (lp dk_compare_st (142, [v1, v2, v3, q, v5, b, s], σ)) (fun r => (A → r = (1, σ)) ∧ (¬ A → r = (0, σ))) := by
  intro L
  induction L with
  | nil =>
    intro s b h hL hb hA
    have hs := els_nil.mp h
    rw [dk_compare_l142]; unfold dk_compare_b142
    rw [wi_t hs]
    rcases hb with hb | hb
    · rw [wi_t hb, wq_some, ks_r]
      refine ⟨fun g => ?_, fun _ => rfl⟩
      rcases hA.mp g with e | ⟨y, e, _⟩
      · rw [hb] at e; exact absurd e (by decide)
      · cases e
    · rw [wi_f (by rw [hb]; decide), wq_some, ks_r]
      exact ⟨fun _ => rfl, fun g => absurd (hA.mpr (Or.inl hb)) g⟩
  | cons l r ih =>
    intro s b h hL hb hA
    have hs : ¬ s = 0 := fun e => by rw [els_nil.mpr e] at h; cases h
    have hl : l < n := hL l List.mem_cons_self
    rw [dk_compare_l142]; unfold dk_compare_b142
    rw [wi_f hs, dk_lowest_sp h, wq_bind, wq_some]
    unfold dk_compare_b156
    rw [wc_n (by omega) (by omega), z_cl (by omega), hV l hl]
    unfold dk_compare_b159
    rw [dk_has_sp hn hV hq, wq_bind, wq_some]
    unfold dk_compare_b169 dk_compare_b172
    rw [wq_some, ks_l, cl_f]
    dsimp only
    refine ih (cl s) _ (els_cl h) (fun y hy => hL y (List.mem_cons_of_mem _ hy)) ?_ ?_
    · by_cases e : ∃ y, y ∈ els q ∧ vv y = vv l
      · rw [if_pos e]; rcases hb with hb | hb <;> rw [hb] <;> decide
      · rw [if_neg e]; rcases hb with hb | hb <;> rw [hb] <;> decide
    · rw [hA]
      by_cases e : ∃ y, y ∈ els q ∧ vv y = vv l
      · rw [if_pos e]
        constructor
        · intro _; left; rcases hb with hb | hb <;> rw [hb] <;> decide
        · intro _; exact Or.inr ⟨l, List.mem_cons_self, e⟩
      · rw [if_neg e]
        have e2 : (b ||| 0 = 1) ↔ b = 1 := by rcases hb with hb | hb <;> rw [hb] <;> decide
        rw [e2]
        constructor
        · rintro (g | ⟨y, g1, g2⟩)
          · exact Or.inl g
          · rcases List.mem_cons.mp g1 with g3 | g3
            · rw [g3] at g2; exact absurd g2 e
            · exact Or.inr ⟨y, g3, g2⟩
        · rintro (g | ⟨y, g1, g2⟩)
          · exact Or.inl g
          · exact Or.inr ⟨y, List.mem_cons_of_mem _ g1, g2⟩
theorem dk_compare_sp (hn : n ≤ 24) (hV : ∀ y, y < n → σ 14 y = vv y) {k : Nat} (hk : k = 13 ∨ k = 14) {p q : Int32} {pt qt : Nat} (hpt : pt < 3) (hqt : qt < 3) (hp : pt = 0 → bw n p) (hq : qt = 0 → bw n q) : dk_compare (nI k) p (nI pt) q (nI qt) σ = some (jn vv k p pt q qt, σ) := by
  have hk20 : k < 20 := by omega
  apply eq_of_wq
  unfold dk_compare
  rw [wq_lpB]
  unfold dk_compare_b0
  have hj : jn vv k p pt q qt = if k = 13 then b2i (lessB vv p pt q qt) else b2i (sameB vv p pt q qt) := by
    unfold jn
    rcases hk with e | e <;> subst e <;> rfl
  rw [hj]
  -- an empty set
  have hz : ∀ (hz : (pt = 0 ∧ p = 0) ∨ (qt = 0 ∧ q = 0)), (if k = 13 then b2i (lessB vv p pt q qt) else b2i (sameB vv p pt q qt)) = 0 := by
    intro hz
    have h1 : ¬ lessB vv p pt q qt = true := by
      rw [lessB_iff]
      rintro ⟨a, h1, b, h2, _⟩
      rcases hz with ⟨e1, e2⟩ | ⟨e1, e2⟩
      · subst e1 e2; rw [vls_s, els_0] at h1; obtain ⟨y, h, _⟩ := h1; cases h
      · subst e1 e2; rw [vls_s, els_0] at h2; obtain ⟨y, h, _⟩ := h2; cases h
    have h2 : ¬ sameB vv p pt q qt = true := by
      rw [sameB_iff]
      rintro ⟨a, h1, h2⟩
      rcases hz with ⟨e1, e2⟩ | ⟨e1, e2⟩
      · subst e1 e2; rw [vls_s, els_0] at h1; obtain ⟨y, h, _⟩ := h1; cases h
      · subst e1 e2; rw [vls_s, els_0] at h2; obtain ⟨y, h, _⟩ := h2; cases h
    rw [b2i_f h1, b2i_f h2]; exact ite_self _
  by_cases c1 : pt = 0 ∧ p = 0
  · obtain ⟨e1, e2⟩ := c1
    rw [hz (Or.inl ⟨e1, e2⟩)]
    simp (disch := first | omega | with_reducible assumption) only [l_2, l_3, l_4, l_5, l_6, l_7, l_8, l_9, l_10, l_11, l_12, l_13, l_14, l_15, l_16, l_17, l_23, l_24, l_40, l_100, l_320, l_383, nI_add, pk_mul, z_sub, z_lt0, z_ge0, z_e0, z_le0, z_gt0, z_lt, z_le, z_eq, z_cl, z_in, z_m1lt, z_m1ge, z_nm1, z_m1n, n1_add, n1_ad2, n1_sub, n1_eq, n1_eq', n1_le, n1_ge, n1_lt, n1_gt, z_10, z_01, z_0lt, z_0ge, z_0c, z_0in, z_0a, z_a0, z_01a, bI_f, bI_f0, t0f, t1f, cl_f, wi_t, wi_f, wc_n, wc_0, wz_0, wz_1, wq_some, wq_bind, wq_lpB, ks_l, ks_r, up2_s, up2_n, u_e, u_n, if_true, if_false, ite_true, ite_false]
  have hstep1 : ∀ Q, wq (dk_compare_b8 (nI k) p (nI pt) q (nI qt) σ) Q → wq (if nI pt = 0 then if p = 0 then some (.inr (0, σ)) else dk_compare_b8 (nI k) p (nI pt) q (nI qt) σ else dk_compare_b8 (nI k) p (nI pt) q (nI qt) σ) Q := by
    intro Q h
    by_cases e : pt = 0
    · have e2 : ¬ p = 0 := fun g => c1 ⟨e, g⟩
      simp (disch := first | omega | with_reducible assumption) only [l_2, l_3, l_4, l_5, l_6, l_7, l_8, l_9, l_10, l_11, l_12, l_13, l_14, l_15, l_16, l_17, l_23, l_24, l_40, l_100, l_320, l_383, nI_add, pk_mul, z_sub, z_lt0, z_ge0, z_e0, z_le0, z_gt0, z_lt, z_le, z_eq, z_cl, z_in, z_m1lt, z_m1ge, z_nm1, z_m1n, n1_add, n1_ad2, n1_sub, n1_eq, n1_eq', n1_le, n1_ge, n1_lt, n1_gt, z_10, z_01, z_0lt, z_0ge, z_0c, z_0in, z_0a, z_a0, z_01a, bI_f, bI_f0, t0f, t1f, cl_f, wi_t, wi_f, wc_n, wc_0, wz_0, wz_1, wq_some, wq_bind, wq_lpB, ks_l, ks_r, up2_s, up2_n, u_e, u_n, if_true, if_false, ite_true, ite_false]
      exact h
    · simp (disch := first | omega | with_reducible assumption) only [l_2, l_3, l_4, l_5, l_6, l_7, l_8, l_9, l_10, l_11, l_12, l_13, l_14, l_15, l_16, l_17, l_23, l_24, l_40, l_100, l_320, l_383, nI_add, pk_mul, z_sub, z_lt0, z_ge0, z_e0, z_le0, z_gt0, z_lt, z_le, z_eq, z_cl, z_in, z_m1lt, z_m1ge, z_nm1, z_m1n, n1_add, n1_ad2, n1_sub, n1_eq, n1_eq', n1_le, n1_ge, n1_lt, n1_gt, z_10, z_01, z_0lt, z_0ge, z_0c, z_0in, z_0a, z_a0, z_01a, bI_f, bI_f0, t0f, t1f, cl_f, wi_t, wi_f, wc_n, wc_0, wz_0, wz_1, wq_some, wq_bind, wq_lpB, ks_l, ks_r, up2_s, up2_n, u_e, u_n, if_true, if_false, ite_true, ite_false]
      exact h
  apply hstep1
  unfold dk_compare_b8
  by_cases c2 : qt = 0 ∧ q = 0
  · obtain ⟨e1, e2⟩ := c2
    rw [hz (Or.inr ⟨e1, e2⟩)]
    simp (disch := first | omega | with_reducible assumption) only [l_2, l_3, l_4, l_5, l_6, l_7, l_8, l_9, l_10, l_11, l_12, l_13, l_14, l_15, l_16, l_17, l_23, l_24, l_40, l_100, l_320, l_383, nI_add, pk_mul, z_sub, z_lt0, z_ge0, z_e0, z_le0, z_gt0, z_lt, z_le, z_eq, z_cl, z_in, z_m1lt, z_m1ge, z_nm1, z_m1n, n1_add, n1_ad2, n1_sub, n1_eq, n1_eq', n1_le, n1_ge, n1_lt, n1_gt, z_10, z_01, z_0lt, z_0ge, z_0c, z_0in, z_0a, z_a0, z_01a, bI_f, bI_f0, t0f, t1f, cl_f, wi_t, wi_f, wc_n, wc_0, wz_0, wz_1, wq_some, wq_bind, wq_lpB, ks_l, ks_r, up2_s, up2_n, u_e, u_n, if_true, if_false, ite_true, ite_false]
  have hstep2 : ∀ Q, wq (dk_compare_b20 (nI k) p (nI pt) q (nI qt) σ) Q → wq (if nI qt = 0 then if q = 0 then some (.inr (0, σ)) else dk_compare_b20 (nI k) p (nI pt) q (nI qt) σ else dk_compare_b20 (nI k) p (nI pt) q (nI qt) σ) Q := by
    intro Q h
    by_cases e : qt = 0
    · have e2 : ¬ q = 0 := fun g => c2 ⟨e, g⟩
      simp (disch := first | omega | with_reducible assumption) only [l_2, l_3, l_4, l_5, l_6, l_7, l_8, l_9, l_10, l_11, l_12, l_13, l_14, l_15, l_16, l_17, l_23, l_24, l_40, l_100, l_320, l_383, nI_add, pk_mul, z_sub, z_lt0, z_ge0, z_e0, z_le0, z_gt0, z_lt, z_le, z_eq, z_cl, z_in, z_m1lt, z_m1ge, z_nm1, z_m1n, n1_add, n1_ad2, n1_sub, n1_eq, n1_eq', n1_le, n1_ge, n1_lt, n1_gt, z_10, z_01, z_0lt, z_0ge, z_0c, z_0in, z_0a, z_a0, z_01a, bI_f, bI_f0, t0f, t1f, cl_f, wi_t, wi_f, wc_n, wc_0, wz_0, wz_1, wq_some, wq_bind, wq_lpB, ks_l, ks_r, up2_s, up2_n, u_e, u_n, if_true, if_false, ite_true, ite_false]
      exact h
    · simp (disch := first | omega | with_reducible assumption) only [l_2, l_3, l_4, l_5, l_6, l_7, l_8, l_9, l_10, l_11, l_12, l_13, l_14, l_15, l_16, l_17, l_23, l_24, l_40, l_100, l_320, l_383, nI_add, pk_mul, z_sub, z_lt0, z_ge0, z_e0, z_le0, z_gt0, z_lt, z_le, z_eq, z_cl, z_in, z_m1lt, z_m1ge, z_nm1, z_m1n, n1_add, n1_ad2, n1_sub, n1_eq, n1_eq', n1_le, n1_ge, n1_lt, n1_gt, z_10, z_01, z_0lt, z_0ge, z_0c, z_0in, z_0a, z_a0, z_01a, bI_f, bI_f0, t0f, t1f, cl_f, wi_t, wi_f, wc_n, wc_0, wz_0, wz_1, wq_some, wq_bind, wq_lpB, ks_l, ks_r, up2_s, up2_n, u_e, u_n, if_true, if_false, ite_true, ite_false]
      exact h
  apply hstep2
  unfold dk_compare_b20
  by_cases h13 : k = 13
  · rw [if_pos h13]
    -- least on the left, greatest on the right
    have hend : ∀ a b : Int32, (∃ x, x ∈ vls vv pt p ∧ x = a) → (∀ x, x ∈ vls vv pt p → a ≤ x) → (∃ x, x ∈ vls vv qt q ∧ x = b) → (∀ x, x ∈ vls vv qt q → x ≤ b) → wq (dk_compare_b59 (nI k) p (nI pt) q (nI qt) a b σ) (ks dk_compare_st (fun r => r = (b2i (lessB vv p pt q qt), σ))) := by
      intro a b a1 a2 b1 b2
      unfold dk_compare_b59
      obtain ⟨x, x1, rfl⟩ := a1
      obtain ⟨y, y1, rfl⟩ := b1
      by_cases e : y ≤ x
      · rw [wi_t e, wq_some, ks_r, b2i_f]
        rw [lessB_iff]
        rintro ⟨u, u1, v, v1, h⟩
        have h1 := a2 u u1
        have h2 := b2 v v1
        rw [Int32.lt_iff_toInt_lt] at h
        rw [Int32.le_iff_toInt_le] at h1 h2 e
        omega
      · rw [wi_f e, wq_some, ks_r, b2i_t]
        rw [lessB_iff]
        exact ⟨x, x1, y, y1, z_nle.mp e⟩
    have h40 : ∀ a : Int32, (∃ x, x ∈ vls vv pt p ∧ x = a) → (∀ x, x ∈ vls vv pt p → a ≤ x) → wq (dk_compare_b40 (nI k) p (nI pt) q (nI qt) a σ) (ks dk_compare_st (fun r => r = (b2i (lessB vv p pt q qt), σ))) := by
      intro a a1 a2
      unfold dk_compare_b40
      by_cases e : qt = 0
      · rw [wi_t (by rw [z_e0 (by omega)]; exact e), wq_bind]
        refine dk_extreme_sp hn hV (hq e) (fun g => c2 ⟨e, g⟩) true 1 rfl (fun b b1 b2 => ?_)
        have hb1 : ∃ x, x ∈ vls vv qt q ∧ x = b := by rw [e]; exact ⟨b, vls_s.mpr b1, rfl⟩
        refine hend a b a1 a2 hb1 (fun x hx => ?_)
        rw [e] at hx
        obtain ⟨y, y1, y2⟩ := vls_s.mp hx
        rw [← y2]; exact b2 y y1
      · rw [wi_f (by rw [z_e0 (by omega)]; exact e)]
        exact hend a q a1 a2 ⟨q, (vls_n e).mpr rfl, rfl⟩ (fun x hx => by rw [(vls_n e).mp hx]; exact Int32.le_refl q)
    rw [wi_t (show nI k = 13 by rw [h13]; rfl)]
    by_cases e : pt = 0
    · rw [wi_t (by rw [z_e0 (by omega)]; exact e), wq_bind]
      refine dk_extreme_sp hn hV (hp e) (fun g => c1 ⟨e, g⟩) false 0 rfl (fun b b1 b2 => ?_)
      have hb1 : ∃ x, x ∈ vls vv pt p ∧ x = b := by rw [e]; exact ⟨b, vls_s.mpr b1, rfl⟩
      refine h40 b hb1 (fun x hx => ?_)
      rw [e] at hx
      obtain ⟨y, y1, y2⟩ := vls_s.mp hx
      rw [← y2]; exact b2 y y1
    · rw [wi_f (by rw [z_e0 (by omega)]; exact e)]
      exact h40 p ⟨p, (vls_n e).mpr rfl, rfl⟩ (fun x hx => by rw [(vls_n e).mp hx]; exact Int32.le_refl p)
  · rw [if_neg h13]
    have hk14 : k = 14 := by omega
    rw [wi_f (show ¬ nI k = 13 by rw [hk14]; decide)]
    -- the end of has
    have hh : ∀ (f : dS → Option ((Nat × List Int32 × dS) ⊕ (Int32 × dS))) (A : Prop) [Decidable A], True := fun _ _ _ => trivial
    by_cases e : pt = 0
    · rw [wi_t (by rw [z_e0 (by omega)]; exact e)]
      unfold dk_compare_b95
      rw [wi_t (by rw [z_e0 (by omega)]; exact e)]
      by_cases e2 : qt = 0
      · rw [wi_t (by rw [z_e0 (by omega)]; exact e2), wq_some, ks_l]
        refine wq_mono (dk_compare_lp (n := n) (vv := vv) hn hV (hq e2) (sameB vv p pt q qt = true) (els p) p 0 rfl (fun y hy => bw_els (hp e) hy) (Or.inl rfl) ?_) (fun r hr => ?_)
        · rw [sameB_iff, e, e2]
          constructor
          · rintro ⟨a, h1, h2⟩
            obtain ⟨y, y1, y2⟩ := vls_s.mp h1
            obtain ⟨z, z1, z2⟩ := vls_s.mp h2
            exact Or.inr ⟨y, y1, z, z1, by rw [z2, y2]⟩
          · rintro (h | ⟨y, y1, z, z1, z2⟩)
            · exact absurd h (by decide)
            · exact ⟨vv y, vls_s.mpr ⟨y, y1, rfl⟩, vls_s.mpr ⟨z, z1, z2⟩⟩
        · by_cases g : sameB vv p pt q qt = true
          · rw [hr.1 g, b2i_t g]
          · rw [hr.2 g, b2i_f g]
      · rw [wi_f (by rw [z_e0 (by omega)]; exact e2), dk_has_sp hn hV (hp e), wq_bind, wq_some]
        unfold dk_compare_b127
        by_cases g : ∃ y, y ∈ els p ∧ vv y = q
        · have gs : sameB vv p pt q qt = true := by
            rw [sameB_iff, e]
            exact ⟨q, vls_s.mpr g, (vls_n e2).mpr rfl⟩
          rw [if_pos g]
          dsimp only
          rw [wi_f (by decide), wq_some, ks_r, b2i_t gs]
        · have gs : ¬ sameB vv p pt q qt = true := by
            rw [sameB_iff, e]
            rintro ⟨a, h1, h2⟩
            rw [vls_n e2] at h2
            rw [h2] at h1
            exact g (vls_s.mp h1)
          rw [if_neg g, wi_t rfl, wq_some, ks_r, b2i_f gs]
    · rw [wi_f (by rw [z_e0 (by omega)]; exact e)]
      by_cases e2 : qt = 0
      · rw [wi_t (by rw [z_e0 (by omega)]; exact e2)]
        unfold dk_compare_b95
        rw [wi_f (by rw [z_e0 (by omega)]; exact e), dk_has_sp hn hV (hq e2), wq_bind, wq_some]
        unfold dk_compare_b106
        by_cases g : ∃ y, y ∈ els q ∧ vv y = p
        · have gs : sameB vv p pt q qt = true := by
            rw [sameB_iff, e2]
            exact ⟨p, (vls_n e).mpr rfl, vls_s.mpr g⟩
          rw [if_pos g]
          dsimp only
          rw [wi_f (by decide), wq_some, ks_r, b2i_t gs]
        · have gs : ¬ sameB vv p pt q qt = true := by
            rw [sameB_iff, e2]
            rintro ⟨a, h1, h2⟩
            rw [vls_n e] at h1
            rw [h1] at h2
            exact g (vls_s.mp h2)
          rw [if_neg g, wi_t rfl, wq_some, ks_r, b2i_f gs]
      · rw [wi_f (by rw [z_e0 (by omega)]; exact e2)]
        by_cases g : p = q
        · have gs : sameB vv p pt q qt = true := by
            rw [sameB_iff]
            exact ⟨p, (vls_n e).mpr rfl, (vls_n e2).mpr g⟩
          rw [wi_t g, wq_some, ks_r, b2i_t gs]
        · have gs : ¬ sameB vv p pt q qt = true := by
            rw [sameB_iff]
            rintro ⟨a, h1, h2⟩
            rw [vls_n e] at h1
            rw [vls_n e2] at h2
            exact g (by rw [← h1, ← h2])
          rw [wi_f g, wq_some, ks_r, b2i_f gs]
end
