/-! TransletDeskModel: what a token makes of the stack -/
set_option maxRecDepth 100000
/-- place j of the stack holds v, of type ty -/
def SE (n : Nat) (row : Nat → Nat) (τ : dS) (j ty : Nat) (v : Int32) : Prop := τ 11 j = nI ty ∧ (ty = 0 → pm n row v (τ 13 j)) ∧ (ty ≠ 0 → τ 12 j = v)
section
variable {n : Nat} {row d nm : Nat → Nat} {vl : Nat → Int32} {τ : dS}
theorem md_plain_sp (hw : WT n row d) (hM : MT n row d nm vl τ) {j ty : Nat} {v : Int32} (hj : j < 48) (hty : ty < 3) (h : SE n row τ j ty v) : md_plain (nI j) τ = some (nmv (fun y => vl (row y)) ty v, τ) := by
  apply eq_of_wq
  unfold md_plain md_plain_b0 md_plain_b19
  rw [wc_n hj (by omega), z_cl (by omega), h.1]
  unfold nmv
  by_cases e : ty = 0
  · rw [wi_t (by rw [z_e0 (by omega)]; exact e), wc_n hj (by omega), md_firstOf_sp hw hM (h.2.1 e), wq_bind, wq_some, wq_some, if_pos e]
  · rw [wi_f (by rw [z_e0 (by omega)]; exact e), wc_n hj (by omega), h.2.2 e, wq_some, if_neg e]
theorem md_isTrue_sp {j ty : Nat} {v : Int32} (hj : j < 48) (hty : ty < 3) (h : SE n row τ j ty v) : md_isTrue (nI j) τ = some (b2i (decide (v ≠ 0)), τ) := by
  apply eq_of_wq
  unfold md_isTrue md_isTrue_b0
  rw [wc_n hj (by omega), z_cl (by omega), h.1]
  by_cases e : ty = 0
  · have hp := pm_z (h.2.1 e)
    rw [wi_t (by rw [z_e0 (by omega)]; exact e), wc_n hj (by omega)]
    by_cases g : v = 0
    · rw [wi_t (hp.mpr g), wq_some, b2i_f (by simp [g])]
    · rw [wi_f (fun q => g (hp.mp q)), wq_some, b2i_t (by simp [g])]
  · rw [wi_f (by rw [z_e0 (by omega)]; exact e), wc_n hj (by omega), h.2.2 e]
    by_cases g : v = 0
    · rw [wi_t g, wq_some, b2i_f (by simp [g])]
    · rw [wi_f g, wq_some, b2i_t (by simp [g])]
/-- the values at a place of the stack, as compare runs through them -/
def va (τ : dS) (j ty : Nat) (v : Int32) (m : Nat) : Prop := if ty = 0 then bt (τ 13 j) m = true else m = 0
def vx (τ : dS) (j ty : Nat) (v : Int32) (m : Nat) : Int32 := if ty = 0 then τ 3 m else v
theorem va_vls (hw : WT n row d) (hM : MT n row d nm vl τ) {j ty : Nat} {v : Int32} (h : SE n row τ j ty v) {a : Int32} : a ∈ vls (fun y => vl (row y)) ty v ↔ ∃ m, m < 24 ∧ va τ j ty v m ∧ vx τ j ty v m = a := by
  by_cases e : ty = 0
  · subst e
    have hp := h.2.1 rfl
    rw [vls_s]
    unfold va vx
    simp only [if_true]
    constructor
    · rintro ⟨y, y1, y2⟩
      have hy := bw_els hp.2.2 y1
      refine ⟨row y, hw.1.2.1 y hy, ?_, ?_⟩
      · rw [hp.1 y hy]; exact els_mem.mp y1
      · rw [(hM.2 y hy).2.2.2]; exact y2
    · rintro ⟨m, m1, m2, m3⟩
      by_cases g : ∃ i, i < n ∧ row i = m
      · obtain ⟨i, i1, i2⟩ := g
        refine ⟨i, ?_, ?_⟩
        · rw [els_mem, ← hp.1 i i1, i2]; exact m2
        · rw [← m3, ← i2, (hM.2 i i1).2.2.2]
      · rw [hp.2.1 m (fun i hi e => g ⟨i, hi, e⟩)] at m2; cases m2
  · rw [vls_n e]
    unfold va vx
    simp only [e, if_false]
    constructor
    · intro g; exact ⟨0, by omega, rfl, g.symm⟩
    · rintro ⟨m, _, _, g⟩; exact g.symm
def rl (k : Nat) (x y : Int32) : Prop := if k = 13 then x < y else x = y
theorem md_compare_lp74 {Q : Int32 × dS → Prop} {k a b tb_ m : Nat} {bv x : Int32} (hk : k = 13 ∨ k = 14) (ha : a < 48) (hb : b < 48) (htb : tb_ < 3) (hB : SE n row τ b tb_ bv)
    (hy : (∃ i, i < 24 ∧ va τ b tb_ bv i ∧ rl k x (vx τ b tb_ bv i)) → Q (1, τ)) (hn : (¬ ∃ i, i < 24 ∧ va τ b tb_ bv i ∧ rl k x (vx τ b tb_ bv i)) → wq (lp md_compare_st (3, [nI k, nI a, nI b, nI (m + 1)], τ)) Q) (hm : m < 24) :
    ∀ (f i : Nat), i + f = 24 → (∀ j, j < i → ¬ (va τ b tb_ bv j ∧ rl k x (vx τ b tb_ bv j))) → wq (lp md_compare_st (74, [nI k, nI a, nI b, nI m, x, nI i], τ)) Q := by
  intro f
  induction f with
  | zero =>
    intro i hi h
    have e : i = 24 := by omega
    subst e
    rw [md_compare_l74]; unfold md_compare_b74 md_compare_b173
    rw [wi_t (show (24 : Int32) ≤ nI 24 from Int32.le_refl _), wq_some, ks_l, n1_add]
    refine hn ?_
    rintro ⟨j, j1, j2⟩
    exact h j j1 j2
  | succ f ih =>
    intro i hi h
    have hi24 : i < 24 := by omega
    have skip : ¬ (va τ b tb_ bv i ∧ rl k x (vx τ b tb_ bv i)) → wq (md_compare_b167 (nI k) (nI a) (nI b) (nI m) x (nI i) τ) (ks md_compare_st Q) := by
      intro g
      unfold md_compare_b167
      rw [wq_some, ks_l, n1_add]
      refine ih (i + 1) (by omega) (fun j hj => ?_)
      by_cases e : j = i
      · rw [e]; exact g
      · exact h j (by omega)
    have h140 : va τ b tb_ bv i → ∀ y, y = vx τ b tb_ bv i → wq (md_compare_b140 (nI k) (nI a) (nI b) (nI m) x (nI i) y τ) (ks md_compare_st Q) := by
      rintro hv y rfl
      unfold md_compare_b140
      rcases hk with e | e <;> subst e
      · rw [wi_t (show nI 13 = 13 from rfl)]
        by_cases g : vx τ b tb_ bv i ≤ x
        · rw [wi_t g]
          refine skip (fun q => ?_)
          have q2 : x < vx τ b tb_ bv i := q.2
          rw [← z_nle] at q2; exact q2 g
        · rw [wi_f g, wq_some, ks_r]
          exact hy ⟨i, hi24, hv, z_nle.mp g⟩
      · rw [wi_f (by decide)]
        by_cases g : x = vx τ b tb_ bv i
        · rw [wi_t g, wq_some, ks_r]
          exact hy ⟨i, hi24, hv, g⟩
        · rw [wi_f g]
          exact skip (fun q => g q.2)
    have h115 : va τ b tb_ bv i → wq (md_compare_b115 (nI k) (nI a) (nI b) (nI m) x (nI i) τ) (ks md_compare_st Q) := by
      intro hv
      unfold md_compare_b115
      rw [wc_n hb (by omega), z_cl (by omega), hB.1]
      by_cases e : tb_ = 0
      · rw [wi_t (by rw [z_e0 (by omega)]; exact e), wc_n hi24 (by omega), z_cl (by omega)]
        exact h140 hv _ (by unfold vx; rw [if_pos e])
      · rw [wi_f (by rw [z_e0 (by omega)]; exact e), wc_n hb (by omega), hB.2.2 e]
        exact h140 hv _ (by unfold vx; rw [if_neg e])
    rw [md_compare_l74]; unfold md_compare_b74
    rw [wi_f (by rw [l_24, z_le (by omega) (by omega)]; omega), wc_n hb (by omega), z_cl (by omega), hB.1]
    by_cases e : tb_ = 0
    · rw [wi_t (by rw [z_e0 (by omega)]; exact e), wc_n hb (by omega)]
      by_cases g : bt (τ 13 b) i = false
      · rw [wi_t (by rw [t0 _ (by omega : i < 32)]; exact g)]
        refine skip (fun q => ?_)
        have q1 := q.1
        unfold va at q1
        rw [if_pos e, g] at q1; cases q1
      · rw [wi_f (by rw [t0 _ (by omega : i < 32)]; exact g)]
        refine h115 ?_
        unfold va
        rw [if_pos e]
        cases h : bt (τ 13 b) i with
        | true => rfl
        | false => exact absurd h g
    · rw [wi_f (by rw [z_e0 (by omega)]; exact e)]
      by_cases g : i = 0
      · rw [wi_t (by rw [z_le0 (by omega)]; exact g)]
        exact h115 (by unfold va; rw [if_neg e]; exact g)
      · rw [wi_f (by rw [z_le0 (by omega)]; exact g)]
        exact skip (fun q => g (by have := q.1; unfold va at this; rw [if_neg e] at this; exact this))
theorem md_compare_lp3 {k a b ta_ tb_ : Nat} {av bv : Int32} (hk : k = 13 ∨ k = 14) (ha : a < 48) (hb : b < 48) (hta : ta_ < 3) (htb : tb_ < 3) (hA : SE n row τ a ta_ av) (hB : SE n row τ b tb_ bv) (R : Prop) [Decidable R]
    (hR : R ↔ ∃ m, m < 24 ∧ va τ a ta_ av m ∧ ∃ i, i < 24 ∧ va τ b tb_ bv i ∧ rl k (vx τ a ta_ av m) (vx τ b tb_ bv i)) :
    ∀ (f m : Nat), m + f = 24 → (∀ j, j < m → ¬ (va τ a ta_ av j ∧ ∃ i, i < 24 ∧ va τ b tb_ bv i ∧ rl k (vx τ a ta_ av j) (vx τ b tb_ bv i))) → wq (lp md_compare_st (3, [nI k, nI a, nI b, nI m], τ)) (fun r => r = (if R then 1 else 0, τ)) := by
  intro f
  induction f with
  | zero =>
    intro m hm h
    have e : m = 24 := by omega
    subst e
    rw [md_compare_l3]; unfold md_compare_b3
    rw [wi_t (show (24 : Int32) ≤ nI 24 from Int32.le_refl _), wq_some, ks_r, if_neg]
    rw [hR]
    rintro ⟨j, j1, j2, j3⟩
    exact h j j1 ⟨j2, j3⟩
  | succ f ih =>
    intro m hm h
    have hm24 : m < 24 := by omega
    have next : ¬ (va τ a ta_ av m ∧ ∃ i, i < 24 ∧ va τ b tb_ bv i ∧ rl k (vx τ a ta_ av m) (vx τ b tb_ bv i)) → wq (lp md_compare_st (3, [nI k, nI a, nI b, nI (m + 1)], τ)) (fun r => r = (if R then 1 else 0, τ)) := by
      intro g
      refine ih (m + 1) (by omega) (fun j hj => ?_)
      by_cases e : j = m
      · rw [e]; exact g
      · exact h j (by omega)
    have h44 : va τ a ta_ av m → wq (md_compare_b44 (nI k) (nI a) (nI b) (nI m) τ) (ks md_compare_st (fun r => r = (if R then 1 else 0, τ))) := by
      intro hv
      have h69 : ∀ x, x = vx τ a ta_ av m → wq (md_compare_b69 (nI k) (nI a) (nI b) (nI m) x τ) (ks md_compare_st (fun r => r = (if R then 1 else 0, τ))) := by
        rintro x rfl
        unfold md_compare_b69
        rw [wq_some, ks_l, show (0 : Int32) = nI 0 from nI_0.symm]
        refine md_compare_lp74 hk ha hb htb hB (fun g => ?_) (fun g => next (fun q => g q.2)) hm24 24 0 (by omega) (fun j hj => by omega)
        rw [if_pos (hR.mpr ⟨m, hm24, hv, g⟩)]
      unfold md_compare_b44
      rw [wc_n ha (by omega), z_cl (by omega), hA.1]
      by_cases e : ta_ = 0
      · rw [wi_t (by rw [z_e0 (by omega)]; exact e), wc_n hm24 (by omega), z_cl (by omega)]
        exact h69 _ (by unfold vx; rw [if_pos e])
      · rw [wi_f (by rw [z_e0 (by omega)]; exact e), wc_n ha (by omega), hA.2.2 e]
        exact h69 _ (by unfold vx; rw [if_neg e])
    have h173 : ¬ va τ a ta_ av m → wq (md_compare_b173 (nI k) (nI a) (nI b) (nI m) τ) (ks md_compare_st (fun r => r = (if R then 1 else 0, τ))) := by
      intro g
      unfold md_compare_b173
      rw [wq_some, ks_l, n1_add]
      exact next (fun q => g q.1)
    rw [md_compare_l3]; unfold md_compare_b3
    rw [wi_f (by rw [l_24, z_le (by omega) (by omega)]; omega), wc_n ha (by omega), z_cl (by omega), hA.1]
    by_cases e : ta_ = 0
    · rw [wi_t (by rw [z_e0 (by omega)]; exact e), wc_n ha (by omega)]
      by_cases g : bt (τ 13 a) m = false
      · rw [wi_t (by rw [t0 _ (by omega : m < 32)]; exact g)]
        exact h173 (fun q => by unfold va at q; rw [if_pos e, g] at q; cases q)
      · rw [wi_f (by rw [t0 _ (by omega : m < 32)]; exact g)]
        refine h44 ?_
        unfold va
        rw [if_pos e]
        cases h : bt (τ 13 a) m with
        | true => rfl
        | false => exact absurd h g
    · rw [wi_f (by rw [z_e0 (by omega)]; exact e)]
      by_cases g : m = 0
      · rw [wi_t (by rw [z_le0 (by omega)]; exact g)]
        exact h44 (by unfold va; rw [if_neg e]; exact g)
      · rw [wi_f (by rw [z_le0 (by omega)]; exact g)]
        exact h173 (fun q => g (by unfold va at q; rw [if_neg e] at q; exact q))
theorem md_compare_sp (hw : WT n row d) (hM : MT n row d nm vl τ) {k a b ta_ tb_ : Nat} {av bv : Int32} (hk : k = 13 ∨ k = 14) (ha : a < 48) (hb : b < 48) (hta : ta_ < 3) (htb : tb_ < 3) (hA : SE n row τ a ta_ av) (hB : SE n row τ b tb_ bv) : md_compare (nI k) (nI a) (nI b) τ = some (jn (fun y => vl (row y)) k av ta_ bv tb_, τ) := by
  apply eq_of_wq
  unfold md_compare md_compare_b0
  rw [wq_lpB, wq_some, ks_l, show (0 : Int32) = nI 0 from nI_0.symm]
  rcases hk with e | e <;> subst e
  · have hj : jn (fun y => vl (row y)) 13 av ta_ bv tb_ = b2i (lessB (fun y => vl (row y)) av ta_ bv tb_) := rfl
    rw [hj]
    refine md_compare_lp3 (Or.inl rfl) ha hb hta htb hA hB (lessB (fun y => vl (row y)) av ta_ bv tb_ = true) ?_ 24 0 (by omega) (fun j hj => by omega)
    rw [lessB_iff]
    constructor
    · rintro ⟨x, x1, y, y1, h⟩
      obtain ⟨m, m1, m2, m3⟩ := (va_vls hw hM hA).mp x1
      obtain ⟨i, i1, i2, i3⟩ := (va_vls hw hM hB).mp y1
      exact ⟨m, m1, m2, i, i1, i2, by rw [m3, i3]; exact h⟩
    · rintro ⟨m, m1, m2, i, i1, i2, h⟩
      exact ⟨_, (va_vls hw hM hA).mpr ⟨m, m1, m2, rfl⟩, _, (va_vls hw hM hB).mpr ⟨i, i1, i2, rfl⟩, h⟩
  · have hj : jn (fun y => vl (row y)) 14 av ta_ bv tb_ = b2i (sameB (fun y => vl (row y)) av ta_ bv tb_) := rfl
    rw [hj]
    refine md_compare_lp3 (Or.inr rfl) ha hb hta htb hA hB (sameB (fun y => vl (row y)) av ta_ bv tb_ = true) ?_ 24 0 (by omega) (fun j hj => by omega)
    rw [sameB_iff]
    constructor
    · rintro ⟨x, x1, y1⟩
      obtain ⟨m, m1, m2, m3⟩ := (va_vls hw hM hA).mp x1
      obtain ⟨i, i1, i2, i3⟩ := (va_vls hw hM hB).mp y1
      exact ⟨m, m1, m2, i, i1, i2, by rw [m3, i3]; exact rfl⟩
    · rintro ⟨m, m1, m2, i, i1, i2, h⟩
      refine ⟨_, (va_vls hw hM hA).mpr ⟨m, m1, m2, rfl⟩, (va_vls hw hM hB).mpr ⟨i, i1, i2, ?_⟩⟩
      exact (show vx τ a ta_ av m = vx τ b tb_ bv i from h).symm
/-- the number of a token whose operands lie at a and a - 1 of the stack -/
theorem md_result_sp (hw : WT n row d) (hM : MT n row d nm vl τ) {k a pt qt : Nat} {pv qv w p l : Int32} (hk : 4 ≤ k ∧ k < 18) (ha : 7 ≤ k → a < 48) (hpt : pt < 3) (hqt : qt < 3) (hP : 7 ≤ k → SE n row τ a pt pv) (hp9 : 7 ≤ k → k < 10 → pt = 0) (hQ : 10 ≤ k → k < 17 → 0 < a ∧ SE n row τ (a - 1) qt qv) :
    md_result (nI k) w (nI a) p l τ = some (if k = 4 then w else if k = 5 then p else if k = 6 then l else jn (fun y => vl (row y)) k pv pt qv qt, τ) := by
  apply eq_of_wq
  unfold md_result md_result_b0
  have hc : k = 4 ∨ k = 5 ∨ k = 6 ∨ k = 7 ∨ k = 8 ∨ k = 9 ∨ k = 10 ∨ k = 11 ∨ k = 12 ∨ k = 13 ∨ k = 14 ∨ k = 15 ∨ k = 16 ∨ k = 17 := by omega
  rcases hc with e | e | e | e | e | e | e | e | e | e | e | e | e | e <;> subst e
  · rw [if_pos (show nI 4 = (4 : Int32) from rfl)]
    rw [wq_some]; rfl
  · rw [if_neg (show ¬ nI 5 = (4 : Int32) by decide), if_pos (show nI 5 = (5 : Int32) from rfl)]
    rw [wq_some]; rfl
  · rw [if_neg (show ¬ nI 6 = (4 : Int32) by decide), if_neg (show ¬ nI 6 = (5 : Int32) by decide), if_pos (show nI 6 = (6 : Int32) from rfl)]
    rw [wq_some]; rfl
  · have h1 := hP (by omega)
    have h2 := h1.2.1 (hp9 (by omega) (by omega))
    rw [if_neg (show ¬ nI 7 = (4 : Int32) by decide), if_neg (show ¬ nI 7 = (5 : Int32) by decide), if_neg (show ¬ nI 7 = (6 : Int32) by decide), if_pos (show nI 7 = (7 : Int32) from rfl)]
    rw [wc_n (ha (by omega)) (by have := ha (by omega); omega), z_cl (by have := ha (by omega); omega), md_counted_sp hw h2, wq_bind, wq_some]
    unfold md_result_b90
    rw [wq_some]; rfl
  · have h1 := hP (by omega)
    have h2 := h1.2.1 (hp9 (by omega) (by omega))
    rw [if_neg (show ¬ nI 8 = (4 : Int32) by decide), if_neg (show ¬ nI 8 = (5 : Int32) by decide), if_neg (show ¬ nI 8 = (6 : Int32) by decide), if_neg (show ¬ nI 8 = (7 : Int32) by decide), if_pos (show nI 8 = (8 : Int32) from rfl)]
    rw [wc_n (ha (by omega)) (by have := ha (by omega); omega), z_cl (by have := ha (by omega); omega), md_summed_sp hw hM h2, wq_bind, wq_some]
    unfold md_result_b101
    rw [wq_some]; rfl
  · have h1 := hP (by omega)
    have h2 := h1.2.1 (hp9 (by omega) (by omega))
    rw [if_neg (show ¬ nI 9 = (4 : Int32) by decide), if_neg (show ¬ nI 9 = (5 : Int32) by decide), if_neg (show ¬ nI 9 = (6 : Int32) by decide), if_neg (show ¬ nI 9 = (7 : Int32) by decide), if_neg (show ¬ nI 9 = (8 : Int32) by decide), if_pos (show nI 9 = (9 : Int32) from rfl)]
    rw [wc_n (ha (by omega)) (by have := ha (by omega); omega), z_cl (by have := ha (by omega); omega), md_firstOf_sp hw hM h2, wq_bind, wq_some]
    unfold md_result_b112
    rw [wq_some]; rfl
  · obtain ⟨a0, h2⟩ := hQ (by omega) (by omega)
    have a48 := ha (by omega)
    rw [if_neg (show ¬ nI 10 = (4 : Int32) by decide), if_neg (show ¬ nI 10 = (5 : Int32) by decide), if_neg (show ¬ nI 10 = (6 : Int32) by decide), if_neg (show ¬ nI 10 = (7 : Int32) by decide), if_neg (show ¬ nI 10 = (8 : Int32) by decide), if_neg (show ¬ nI 10 = (9 : Int32) by decide), if_pos (show nI 10 = (10 : Int32) from rfl)]
    unfold md_result_b193
    rw [md_plain_sp hw hM a48 hpt (hP (by omega)), wq_bind, wq_some]
    unfold md_result_b198
    rw [n1_sub a0, md_plain_sp hw hM (by omega) hqt h2, wq_bind, wq_some]
    unfold md_result_b207
    rw [wi_t (show nI 10 = 10 from rfl), wq_some]; rfl
  · obtain ⟨a0, h2⟩ := hQ (by omega) (by omega)
    have a48 := ha (by omega)
    rw [if_neg (show ¬ nI 11 = (4 : Int32) by decide), if_neg (show ¬ nI 11 = (5 : Int32) by decide), if_neg (show ¬ nI 11 = (6 : Int32) by decide), if_neg (show ¬ nI 11 = (7 : Int32) by decide), if_neg (show ¬ nI 11 = (8 : Int32) by decide), if_neg (show ¬ nI 11 = (9 : Int32) by decide), if_neg (show ¬ nI 11 = (10 : Int32) by decide), if_pos (show nI 11 = (11 : Int32) from rfl)]
    unfold md_result_b193
    rw [md_plain_sp hw hM a48 hpt (hP (by omega)), wq_bind, wq_some]
    unfold md_result_b198
    rw [n1_sub a0, md_plain_sp hw hM (by omega) hqt h2, wq_bind, wq_some]
    unfold md_result_b207
    rw [wi_f (by decide), wi_t (show nI 11 = 11 from rfl), wq_some]; rfl
  · obtain ⟨a0, h2⟩ := hQ (by omega) (by omega)
    have a48 := ha (by omega)
    rw [if_neg (show ¬ nI 12 = (4 : Int32) by decide), if_neg (show ¬ nI 12 = (5 : Int32) by decide), if_neg (show ¬ nI 12 = (6 : Int32) by decide), if_neg (show ¬ nI 12 = (7 : Int32) by decide), if_neg (show ¬ nI 12 = (8 : Int32) by decide), if_neg (show ¬ nI 12 = (9 : Int32) by decide), if_neg (show ¬ nI 12 = (10 : Int32) by decide), if_neg (show ¬ nI 12 = (11 : Int32) by decide), if_pos (show nI 12 = (12 : Int32) from rfl)]
    unfold md_result_b193
    rw [md_plain_sp hw hM a48 hpt (hP (by omega)), wq_bind, wq_some]
    unfold md_result_b198
    rw [n1_sub a0, md_plain_sp hw hM (by omega) hqt h2, wq_bind, wq_some]
    unfold md_result_b207
    rw [wi_f (by decide), wi_f (by decide), wq_some]; rfl
  · obtain ⟨a0, h2⟩ := hQ (by omega) (by omega)
    have a48 := ha (by omega)
    rw [if_neg (show ¬ nI 13 = (4 : Int32) by decide), if_neg (show ¬ nI 13 = (5 : Int32) by decide), if_neg (show ¬ nI 13 = (6 : Int32) by decide), if_neg (show ¬ nI 13 = (7 : Int32) by decide), if_neg (show ¬ nI 13 = (8 : Int32) by decide), if_neg (show ¬ nI 13 = (9 : Int32) by decide), if_neg (show ¬ nI 13 = (10 : Int32) by decide), if_neg (show ¬ nI 13 = (11 : Int32) by decide), if_neg (show ¬ nI 13 = (12 : Int32) by decide), if_pos (show nI 13 = (13 : Int32) from rfl)]
    unfold md_result_b113
    rw [n1_sub a0, md_compare_sp hw hM (Or.inl rfl) a48 (by omega) hpt hqt (hP (by omega)) h2, wq_bind, wq_some]
    unfold md_result_b122
    show wq (if b2i (lessB _ _ _ _ _) = 0 then _ else _) (fun r => r = (b2i (lessB _ _ _ _ _), τ))
    by_cases g : lessB (fun y => vl (row y)) pv pt qv qt = true
    · rw [b2i_t g, wi_f (by decide), wq_some]
    · rw [b2i_f g, wi_t rfl, wq_some]
  · obtain ⟨a0, h2⟩ := hQ (by omega) (by omega)
    have a48 := ha (by omega)
    rw [if_neg (show ¬ nI 14 = (4 : Int32) by decide), if_neg (show ¬ nI 14 = (5 : Int32) by decide), if_neg (show ¬ nI 14 = (6 : Int32) by decide), if_neg (show ¬ nI 14 = (7 : Int32) by decide), if_neg (show ¬ nI 14 = (8 : Int32) by decide), if_neg (show ¬ nI 14 = (9 : Int32) by decide), if_neg (show ¬ nI 14 = (10 : Int32) by decide), if_neg (show ¬ nI 14 = (11 : Int32) by decide), if_neg (show ¬ nI 14 = (12 : Int32) by decide), if_neg (show ¬ nI 14 = (13 : Int32) by decide), if_pos (show nI 14 = (14 : Int32) from rfl)]
    unfold md_result_b113
    rw [n1_sub a0, md_compare_sp hw hM (Or.inr rfl) a48 (by omega) hpt hqt (hP (by omega)) h2, wq_bind, wq_some]
    unfold md_result_b122
    show wq (if b2i (sameB _ _ _ _ _) = 0 then _ else _) (fun r => r = (b2i (sameB _ _ _ _ _), τ))
    by_cases g : sameB (fun y => vl (row y)) pv pt qv qt = true
    · rw [b2i_t g, wi_f (by decide), wq_some]
    · rw [b2i_f g, wi_t rfl, wq_some]
  · obtain ⟨a0, h2⟩ := hQ (by omega) (by omega)
    have a48 := ha (by omega)
    rw [if_neg (show ¬ nI 15 = (4 : Int32) by decide), if_neg (show ¬ nI 15 = (5 : Int32) by decide), if_neg (show ¬ nI 15 = (6 : Int32) by decide), if_neg (show ¬ nI 15 = (7 : Int32) by decide), if_neg (show ¬ nI 15 = (8 : Int32) by decide), if_neg (show ¬ nI 15 = (9 : Int32) by decide), if_neg (show ¬ nI 15 = (10 : Int32) by decide), if_neg (show ¬ nI 15 = (11 : Int32) by decide), if_neg (show ¬ nI 15 = (12 : Int32) by decide), if_neg (show ¬ nI 15 = (13 : Int32) by decide), if_neg (show ¬ nI 15 = (14 : Int32) by decide), if_pos (show nI 15 = (15 : Int32) from rfl)]
    rw [md_isTrue_sp a48 hpt (hP (by omega)), wq_bind, wq_some]
    unfold md_result_b136
    show wq (if b2i (decide (pv ≠ 0)) = 0 then _ else _) (fun r => r = (b2i (decide (pv ≠ 0) && decide (qv ≠ 0)), τ))
    by_cases g : pv = 0
    · rw [b2i_f (by simp [g]), wi_t rfl, wq_some, b2i_f (by simp [g])]
    · rw [b2i_t (by simp [g]), wi_f (by decide), n1_sub a0, md_isTrue_sp (by omega) hqt h2, wq_bind, wq_some]
      unfold md_result_b146
      show wq (if b2i (decide (qv ≠ 0)) = 0 then _ else _) _
      by_cases g2 : qv = 0
      · rw [b2i_f (by simp [g2]), wi_t rfl, wq_some, b2i_f (by simp [g2])]
      · rw [b2i_t (by simp [g2]), wi_f (by decide), wq_some, b2i_t (by simp [g, g2])]
  · obtain ⟨a0, h2⟩ := hQ (by omega) (by omega)
    have a48 := ha (by omega)
    rw [if_neg (show ¬ nI 16 = (4 : Int32) by decide), if_neg (show ¬ nI 16 = (5 : Int32) by decide), if_neg (show ¬ nI 16 = (6 : Int32) by decide), if_neg (show ¬ nI 16 = (7 : Int32) by decide), if_neg (show ¬ nI 16 = (8 : Int32) by decide), if_neg (show ¬ nI 16 = (9 : Int32) by decide), if_neg (show ¬ nI 16 = (10 : Int32) by decide), if_neg (show ¬ nI 16 = (11 : Int32) by decide), if_neg (show ¬ nI 16 = (12 : Int32) by decide), if_neg (show ¬ nI 16 = (13 : Int32) by decide), if_neg (show ¬ nI 16 = (14 : Int32) by decide), if_neg (show ¬ nI 16 = (15 : Int32) by decide), if_pos (show nI 16 = (16 : Int32) from rfl)]
    rw [md_isTrue_sp a48 hpt (hP (by omega)), wq_bind, wq_some]
    unfold md_result_b160 md_result_b173
    show wq (if b2i (decide (pv ≠ 0)) = 0 then _ else _) (fun r => r = (b2i (decide (pv ≠ 0) || decide (qv ≠ 0)), τ))
    by_cases g : pv = 0
    · rw [b2i_f (by simp [g]), wi_t rfl, n1_sub a0, md_isTrue_sp (by omega) hqt h2, wq_bind, wq_some]
      unfold md_result_b170 md_result_b173
      show wq (if b2i (decide (qv ≠ 0)) = 0 then _ else _) _
      by_cases g2 : qv = 0
      · rw [b2i_f (by simp [g2]), wi_t rfl, wq_some, b2i_f (by simp [g, g2])]
      · rw [b2i_t (by simp [g2]), wi_f (by decide), wq_some, b2i_t (by simp [g2])]
    · rw [b2i_t (by simp [g]), wi_f (by decide), wq_some, b2i_t (by simp [g])]
  · have a48 := ha (by omega)
    rw [if_neg (show ¬ nI 17 = (4 : Int32) by decide), if_neg (show ¬ nI 17 = (5 : Int32) by decide), if_neg (show ¬ nI 17 = (6 : Int32) by decide), if_neg (show ¬ nI 17 = (7 : Int32) by decide), if_neg (show ¬ nI 17 = (8 : Int32) by decide), if_neg (show ¬ nI 17 = (9 : Int32) by decide), if_neg (show ¬ nI 17 = (10 : Int32) by decide), if_neg (show ¬ nI 17 = (11 : Int32) by decide), if_neg (show ¬ nI 17 = (12 : Int32) by decide), if_neg (show ¬ nI 17 = (13 : Int32) by decide), if_neg (show ¬ nI 17 = (14 : Int32) by decide), if_neg (show ¬ nI 17 = (15 : Int32) by decide), if_neg (show ¬ nI 17 = (16 : Int32) by decide), if_pos (show nI 17 = (17 : Int32) from rfl)]
    rw [md_isTrue_sp a48 hpt (hP (by omega)), wq_bind, wq_some]
    unfold md_result_b184
    show wq (if b2i (decide (pv ≠ 0)) = 0 then _ else _) (fun r => r = (b2i (decide (pv = 0)), τ))
    by_cases g : pv = 0
    · rw [b2i_f (by simp [g]), wi_t rfl, wq_some, b2i_t (by simp [g])]
    · rw [b2i_t (by simp [g]), wi_f (by decide), wq_some, b2i_f (by simp [g])]
end
