/-! TransletDeskModel: isOn, sift -/
set_option maxRecDepth 100000
section
variable {n : Nat} {row d nm : Nat → Nat} {vl : Nat → Int32} {τ : dS}
theorem pav_eq (hw : WT n row d) {x y : Nat} (hx : x < n) (hy : y < n) : (nI (row y) = pav row d x) ↔ (0 < x ∧ pa d x = y) := by
  have ry := hw.1.2.1 y hy
  unfold pav
  by_cases h0 : x = 0
  · rw [if_pos h0, z_nm1 (by omega)]
    exact ⟨fun g => g.elim, fun g => by omega⟩
  · have hp := pa_lt hw.2 (by omega : 0 < x) hx
    have rp := hw.1.2.1 (pa d x) (by omega)
    rw [if_neg h0, z_eq (by omega) (by omega)]
    constructor
    · intro e; exact ⟨by omega, (hw.1.2.2 _ _ hy (by omega) e).symm⟩
    · rintro ⟨_, e⟩; rw [e]
theorem md_isOn_sp (hw : WT n row d) (hM : MT n row d nm vl τ) {a x y : Nat} (ha : a ≤ 10) (hx : x < n) (hy : y < n) : md_isOn (nI a) (nI (row x)) (nI (row y)) τ = some (b2i (ax n d a x y), τ) := by
  have hn24 := hw.1.1
  have rx := hw.1.2.1 x hx
  have ry := hw.1.2.1 y hy
  have hbx := bh_le (n := n) (d := d) hx
  have hby := bh_le (n := n) (d := d) hy
  have hbx1 := bh_lt (n := n) (d := d) hx
  have hby1 := bh_lt (n := n) (d := d) hy
  have dx : d x < 24 := by have := wfT_le hw.2 hx; omega
  have dy : d y < 24 := by have := wfT_le hw.2 hy; omega
  have exy : (nI (row y) = nI (row x)) ↔ y = x := by
    rw [z_eq (by omega) (by omega)]
    exact ⟨fun e => hw.1.2.2 _ _ hy hx e, fun e => by rw [e]⟩
  apply eq_of_wq
  -- the end, by the axis
  have fin : ∀ (B A S : Int32) , (B = b2i (decide (x < y ∧ y < bh n d x))) → (A = b2i (decide (y < x ∧ x < bh n d y))) → (S = b2i (decide (0 < x ∧ 0 < y ∧ pa d y = pa d x))) → wq (md_isOn_b91 (nI a) (nI (row x)) (nI (row y)) (nI x) (nI y) B A (pav row d x) S τ) (fun r => r = (b2i (ax n d a x y), τ)) := by
    intro B A S hB hA hS
    have z1 : ∀ c : Bool, (b2i c = 0) ↔ c = false := by intro c; cases c <;> decide
    have zz : ∀ c : Bool, b2i c = 0 ∨ b2i c = 1 := by intro c; cases c <;> decide
    unfold md_isOn_b91
    have hc : a = 0 ∨ a = 1 ∨ a = 2 ∨ a = 3 ∨ a = 4 ∨ a = 5 ∨ a = 6 ∨ a = 7 ∨ a = 8 ∨ a = 9 ∨ a = 10 := by omega
    rcases hc with e | e | e | e | e | e | e | e | e | e | e <;> subst e
    · rw [if_pos (show nI 0 = (0 : Int32) from nI_0)]
      show wq _ (fun r => r = (b2i (decide (y = x)), τ))
      by_cases g : y = x
      · rw [wi_t (exy.mpr g), wq_some, b2i_t (decide_eq_true g)]
      · rw [wi_f (fun q => g (exy.mp q)), wq_some, b2i_f (by simp [g])]
    · rw [if_neg (show ¬ nI 1 = (0 : Int32) by decide), if_pos (show nI 1 = (1 : Int32) from rfl)]
      show wq _ (fun r => r = (b2i (decide (0 < y ∧ pa d y = x)), τ))
      have hpi := pa_iff hw.2 hx hy
      by_cases g : x < y ∧ y < bh n d x
      · rw [wi_f (by rw [hB, z1, decide_eq_true g]; simp), wc_n ry (by omega), wc_n rx (by omega), z_cl (by omega), z_cl (by omega), (hM.2 x hx).2.1, (hM.2 y hy).2.1, n1_add]
        by_cases g2 : d y = d x + 1
        · rw [wi_t (by rw [g2]), wq_some, b2i_t (decide_eq_true (hpi.mpr ⟨g.1, g.2, g2⟩))]
        · rw [wi_f (by rw [z_eq (by omega) (by omega)]; exact g2), wq_some, b2i_f]
          intro q
          exact g2 (hpi.mp (of_decide_eq_true q)).2.2
      · rw [wi_t (by rw [hB, z1, decide_eq_false g]), wq_some, b2i_f]
        intro q
        have := hpi.mp (of_decide_eq_true q)
        exact g ⟨this.1, this.2.1⟩
    · rw [if_neg (show ¬ nI 2 = (0 : Int32) by decide), if_neg (show ¬ nI 2 = (1 : Int32) by decide), if_pos (show nI 2 = (2 : Int32) from rfl)]
      show wq _ (fun r => r = (b2i (decide (0 < x ∧ pa d x = y)), τ))
      have hpe := pav_eq hw hx hy
      by_cases g : 0 < x ∧ pa d x = y
      · rw [wi_t (hpe.mpr g), wq_some, b2i_t (decide_eq_true g)]
      · rw [wi_f (fun q => g (hpe.mp q)), wq_some, b2i_f (fun q => g (of_decide_eq_true q))]
    · rw [if_neg (show ¬ nI 3 = (0 : Int32) by decide), if_neg (show ¬ nI 3 = (1 : Int32) by decide), if_neg (show ¬ nI 3 = (2 : Int32) by decide), if_pos (show nI 3 = (3 : Int32) from rfl)]
      rw [wq_zok, wq_some, hB]
      exact ⟨zz _, rfl⟩
    · rw [if_neg (show ¬ nI 4 = (0 : Int32) by decide), if_neg (show ¬ nI 4 = (1 : Int32) by decide), if_neg (show ¬ nI 4 = (2 : Int32) by decide), if_neg (show ¬ nI 4 = (3 : Int32) by decide), if_pos (show nI 4 = (4 : Int32) from rfl)]
      rw [wq_zok, wq_some, hA]
      exact ⟨zz _, rfl⟩
    · rw [if_neg (show ¬ nI 5 = (0 : Int32) by decide), if_neg (show ¬ nI 5 = (1 : Int32) by decide), if_neg (show ¬ nI 5 = (2 : Int32) by decide), if_neg (show ¬ nI 5 = (3 : Int32) by decide), if_neg (show ¬ nI 5 = (4 : Int32) by decide), if_pos (show nI 5 = (5 : Int32) from rfl)]
      show wq _ (fun r => r = (b2i (decide (0 < x ∧ 0 < y ∧ pa d y = pa d x ∧ x < y)), τ))
      by_cases g : 0 < x ∧ 0 < y ∧ pa d y = pa d x
      · rw [wi_f (by rw [hS, z1, decide_eq_true g]; simp)]
        by_cases g2 : x < y
        · rw [wi_f (by rw [z_le (by omega) (by omega)]; omega), wq_some, b2i_t (decide_eq_true ⟨g.1, g.2.1, g.2.2, g2⟩)]
        · rw [wi_t (by rw [z_le (by omega) (by omega)]; omega), wq_some, b2i_f (fun q => g2 (of_decide_eq_true q).2.2.2)]
      · rw [wi_t (by rw [hS, z1, decide_eq_false g]), wq_some, b2i_f (fun q => by have := of_decide_eq_true q; exact g ⟨this.1, this.2.1, this.2.2.1⟩)]
    · rw [if_neg (show ¬ nI 6 = (0 : Int32) by decide), if_neg (show ¬ nI 6 = (1 : Int32) by decide), if_neg (show ¬ nI 6 = (2 : Int32) by decide), if_neg (show ¬ nI 6 = (3 : Int32) by decide), if_neg (show ¬ nI 6 = (4 : Int32) by decide), if_neg (show ¬ nI 6 = (5 : Int32) by decide), if_pos (show nI 6 = (6 : Int32) from rfl)]
      show wq _ (fun r => r = (b2i (decide (0 < x ∧ 0 < y ∧ pa d y = pa d x ∧ y < x)), τ))
      by_cases g : 0 < x ∧ 0 < y ∧ pa d y = pa d x
      · rw [wi_f (by rw [hS, z1, decide_eq_true g]; simp)]
        by_cases g2 : y < x
        · rw [wi_f (by rw [z_le (by omega) (by omega)]; omega), wq_some, b2i_t (decide_eq_true ⟨g.1, g.2.1, g.2.2, g2⟩)]
        · rw [wi_t (by rw [z_le (by omega) (by omega)]; omega), wq_some, b2i_f (fun q => g2 (of_decide_eq_true q).2.2.2)]
      · rw [wi_t (by rw [hS, z1, decide_eq_false g]), wq_some, b2i_f (fun q => by have := of_decide_eq_true q; exact g ⟨this.1, this.2.1, this.2.2.1⟩)]
    · rw [if_neg (show ¬ nI 7 = (0 : Int32) by decide), if_neg (show ¬ nI 7 = (1 : Int32) by decide), if_neg (show ¬ nI 7 = (2 : Int32) by decide), if_neg (show ¬ nI 7 = (3 : Int32) by decide), if_neg (show ¬ nI 7 = (4 : Int32) by decide), if_neg (show ¬ nI 7 = (5 : Int32) by decide), if_neg (show ¬ nI 7 = (6 : Int32) by decide), if_pos (show nI 7 = (7 : Int32) from rfl)]
      show wq _ (fun r => r = (b2i (decide (bh n d x ≤ y)), τ))
      by_cases g : x < y
      · rw [wi_f (by rw [z_le (by omega) (by omega)]; omega)]
        by_cases g2 : y < bh n d x
        · rw [wi_f (by rw [hB, z1, decide_eq_true ⟨g, g2⟩]; simp), wq_some, b2i_f (fun q => by have := of_decide_eq_true q; omega)]
        · rw [wi_t (by rw [hB, z1, decide_eq_false (fun q => g2 q.2)]), wq_some, b2i_t (decide_eq_true (by omega))]
      · rw [wi_t (by rw [z_le (by omega) (by omega)]; omega), wq_some, b2i_f (fun q => by have := of_decide_eq_true q; omega)]
    · rw [if_neg (show ¬ nI 8 = (0 : Int32) by decide), if_neg (show ¬ nI 8 = (1 : Int32) by decide), if_neg (show ¬ nI 8 = (2 : Int32) by decide), if_neg (show ¬ nI 8 = (3 : Int32) by decide), if_neg (show ¬ nI 8 = (4 : Int32) by decide), if_neg (show ¬ nI 8 = (5 : Int32) by decide), if_neg (show ¬ nI 8 = (6 : Int32) by decide), if_neg (show ¬ nI 8 = (7 : Int32) by decide), if_pos (show nI 8 = (8 : Int32) from rfl)]
      show wq _ (fun r => r = (b2i (decide (y < x ∧ ¬ x < bh n d y)), τ))
      by_cases g : y < x
      · rw [wi_f (by rw [z_le (by omega) (by omega)]; omega)]
        by_cases g2 : x < bh n d y
        · rw [wi_f (by rw [hA, z1, decide_eq_true ⟨g, g2⟩]; simp), wq_some, b2i_f (fun q => (of_decide_eq_true q).2 g2)]
        · rw [wi_t (by rw [hA, z1, decide_eq_false (fun q => g2 q.2)]), wq_some, b2i_t (decide_eq_true ⟨g, g2⟩)]
      · rw [wi_t (by rw [z_le (by omega) (by omega)]; omega), wq_some, b2i_f (fun q => g (of_decide_eq_true q).1)]
    · rw [if_neg (show ¬ nI 9 = (0 : Int32) by decide), if_neg (show ¬ nI 9 = (1 : Int32) by decide), if_neg (show ¬ nI 9 = (2 : Int32) by decide), if_neg (show ¬ nI 9 = (3 : Int32) by decide), if_neg (show ¬ nI 9 = (4 : Int32) by decide), if_neg (show ¬ nI 9 = (5 : Int32) by decide), if_neg (show ¬ nI 9 = (6 : Int32) by decide), if_neg (show ¬ nI 9 = (7 : Int32) by decide), if_neg (show ¬ nI 9 = (8 : Int32) by decide), if_pos (show nI 9 = (9 : Int32) from rfl)]
      unfold md_isOn_b287
      show wq _ (fun r => r = (b2i (decide (x ≤ y ∧ y < bh n d x)), τ))
      by_cases g : x < y ∧ y < bh n d x
      · rw [wi_f (by rw [hB, z1, decide_eq_true g]; simp), wq_some, b2i_t (decide_eq_true (by omega))]
      · rw [wi_t (by rw [hB, z1, decide_eq_false g])]
        by_cases g2 : y = x
        · rw [wi_t (exy.mpr g2), wq_some, b2i_t (decide_eq_true (by rw [g2]; omega))]
        · rw [wi_f (fun q => g2 (exy.mp q)), wq_some, b2i_f (fun q => by have := of_decide_eq_true q; omega)]
    · rw [if_neg (show ¬ nI 10 = (0 : Int32) by decide), if_neg (show ¬ nI 10 = (1 : Int32) by decide), if_neg (show ¬ nI 10 = (2 : Int32) by decide), if_neg (show ¬ nI 10 = (3 : Int32) by decide), if_neg (show ¬ nI 10 = (4 : Int32) by decide), if_neg (show ¬ nI 10 = (5 : Int32) by decide), if_neg (show ¬ nI 10 = (6 : Int32) by decide), if_neg (show ¬ nI 10 = (7 : Int32) by decide), if_neg (show ¬ nI 10 = (8 : Int32) by decide), if_neg (show ¬ nI 10 = (9 : Int32) by decide)]
      unfold md_isOn_b303
      show wq _ (fun r => r = (b2i (decide (y ≤ x ∧ x < bh n d y)), τ))
      by_cases g : y < x ∧ x < bh n d y
      · rw [wi_f (by rw [hA, z1, decide_eq_true g]; simp), wq_some, b2i_t (decide_eq_true (by omega))]
      · rw [wi_t (by rw [hA, z1, decide_eq_false g])]
        by_cases g2 : y = x
        · rw [wi_t (exy.mpr g2), wq_some, b2i_t (decide_eq_true (by rw [g2]; omega))]
        · rw [wi_f (fun q => g2 (exy.mp q)), wq_some, b2i_f (fun q => by have := of_decide_eq_true q; omega)]
  -- the siblings
  have h62 : ∀ (B A : Int32) , (B = b2i (decide (x < y ∧ y < bh n d x))) → (A = b2i (decide (y < x ∧ x < bh n d y))) → wq (md_isOn_b62 (nI a) (nI (row x)) (nI (row y)) (nI x) (nI y) B A τ) (fun r => r = (b2i (ax n d a x y), τ)) := by
    intro B A hB hA
    unfold md_isOn_b62
    rw [md_parentOf_sp hw hM hx, wq_bind, wq_some]
    unfold md_isOn_b69 md_isOn_b90
    by_cases h0 : x = 0
    · rw [show pav row d x = -1 from if_pos h0]
      dsimp only
      rw [wi_t (by decide)]
      have := fin B A 0 hB hA (by rw [b2i_f]; intro q; have := of_decide_eq_true q; omega)
      rw [show pav row d x = -1 from if_pos h0] at this
      exact this
    · have hp := pa_lt hw.2 (by omega : 0 < x) hx
      have rp := hw.1.2.1 (pa d x) (by omega)
      have epx : pav row d x = nI (row (pa d x)) := if_neg h0
      rw [wi_f (by rw [epx, z_lt0 (by omega)]; simp), md_parentOf_sp hw hM hy, wq_bind, wq_some]
      unfold md_isOn_b83 md_isOn_b90
      have hiff : (pav row d x = pav row d y) ↔ (0 < x ∧ 0 < y ∧ pa d y = pa d x) := by
        rw [epx, pav_eq hw hy (by omega : pa d x < n)]
        constructor
        · rintro ⟨g1, g2⟩; exact ⟨by omega, g1, g2⟩
        · rintro ⟨_, g1, g2⟩; exact ⟨g1, g2⟩
      by_cases g : pav row d x = pav row d y
      · rw [wi_t g]
        exact fin B A 1 hB hA (by rw [b2i_t (decide_eq_true (hiff.mp g))])
      · rw [wi_f g]
        exact fin B A 0 hB hA (by rw [b2i_f (fun q => g (hiff.mpr (of_decide_eq_true q)))])
  have h37 : ∀ (B : Int32) , (B = b2i (decide (x < y ∧ y < bh n d x))) → wq (md_isOn_b37 (nI a) (nI (row x)) (nI (row y)) (nI x) (nI y) B τ) (fun r => r = (b2i (ax n d a x y), τ)) := by
    intro B hB
    unfold md_isOn_b37 md_isOn_b61
    by_cases g : x ≤ y
    · rw [wi_t (by rw [z_le (by omega) (by omega)]; exact g)]
      exact h62 B 0 hB (by rw [b2i_f]; intro q; have := of_decide_eq_true q; omega)
    · rw [wi_f (by rw [z_le (by omega) (by omega)]; exact g), md_behind_sp hw hM hy, wq_bind, wq_some]
      unfold md_isOn_b54 md_isOn_b61
      by_cases g2 : bh n d y ≤ x
      · rw [wi_t (by rw [z_le (by omega) (by omega)]; exact g2)]
        exact h62 B 0 hB (by rw [b2i_f]; intro q; have := of_decide_eq_true q; omega)
      · rw [wi_f (by rw [z_le (by omega) (by omega)]; exact g2)]
        exact h62 B 1 hB (by rw [b2i_t (decide_eq_true (by omega))])
  unfold md_isOn md_isOn_b0
  rw [md_where_y hw hM hx, wq_bind, wq_some]
  unfold md_isOn_b5
  rw [md_where_y hw hM hy, wq_bind, wq_some]
  unfold md_isOn_b12 md_isOn_b36
  by_cases g : y ≤ x
  · rw [wi_t (by rw [z_le (by omega) (by omega)]; exact g)]
    exact h37 0 (by rw [b2i_f]; intro q; have := of_decide_eq_true q; omega)
  · rw [wi_f (by rw [z_le (by omega) (by omega)]; exact g), md_behind_sp hw hM hx, wq_bind, wq_some]
    unfold md_isOn_b29 md_isOn_b36
    by_cases g2 : bh n d x ≤ y
    · rw [wi_t (by rw [z_le (by omega) (by omega)]; exact g2)]
      exact h37 0 (by rw [b2i_f]; intro q; have := of_decide_eq_true q; omega)
    · rw [wi_f (by rw [z_le (by omega) (by omega)]; exact g2)]
      exact h37 1 (by rw [b2i_t (decide_eq_true (by omega))])
end
