/-! TransletDesk: intervals, axes -/
set_option maxRecDepth 100000
theorem bI_nat {k : Nat} (h : k < 32) : (bI k).toBitVec.toNat = 2 ^ k := (by decide +kernel : ∀ k, k < 32 → (bI k).toBitVec.toNat = 2 ^ k) k h
theorem iv_nat {a b : Nat} (h : a < b) (i : Nat) : (2 ^ b - 2 ^ a).testBit i = decide (a ≤ i ∧ i < b) := by
  have e : 2 ^ b - 2 ^ a = 2 ^ a * (2 ^ (b - a) - 1) := by
    rw [Nat.mul_sub, Nat.mul_one, ← Nat.pow_add, show a + (b - a) = b by omega]
  rw [e, Nat.testBit_two_pow_mul, Nat.testBit_two_pow_sub_one]
  by_cases h1 : a ≤ i
  · by_cases h2 : i < b
    · rw [decide_eq_true (show i ≥ a from h1), decide_eq_true (by omega : i - a < b - a), decide_eq_true ⟨h1, h2⟩]; rfl
    · rw [decide_eq_false (by omega : ¬ i - a < b - a), decide_eq_false (show ¬ (a ≤ i ∧ i < b) from fun g => h2 g.2), Bool.and_false]
  · rw [decide_eq_false (show ¬ i ≥ a from h1), decide_eq_false (show ¬ (a ≤ i ∧ i < b) from fun g => h1 g.1), Bool.false_and]
theorem iv_bt {a b : Nat} (h : a < b) (hb : b < 32) (i : Nat) : bt (bI b - bI a) i = decide (a ≤ i ∧ i < b) := by
  rw [bt_tb]
  have e : (bI b - bI a).toBitVec.toNat = 2 ^ b - 2 ^ a := by
    rw [Int32.toBitVec_sub, BitVec.toNat_sub, bI_nat hb, bI_nat (by omega)]
    have h1 : 2 ^ a < 2 ^ b := Nat.pow_lt_pow_right (by decide) h
    have h2 : 2 ^ b < 2 ^ 32 := Nat.pow_lt_pow_right (by decide) hb
    generalize 2 ^ a = A at *
    generalize 2 ^ b = B at *
    omega
  rw [e]; exact iv_nat h i
theorem dec_1 (b : Nat) : dec b + 1 = nI b := by
  cases b with
  | zero => rw [dec_0]; rfl
  | succ b => rw [dec_s, n1_add]
/-- all places from a on, below b -/
theorem dk_interval_sp {a b : Nat} (ha : a < 32) (hb : b < 32) : ∃ r, dk_interval (nI a) (dec b) = some r ∧ ∀ i, bt r i = decide (a ≤ i ∧ i < b) := by
  unfold dk_interval dk_interval_b0
  by_cases h : a < b
  · refine ⟨bI b - bI a, ?_, iv_bt h hb⟩
    obtain ⟨b', rfl⟩ : ∃ b', b = b' + 1 := ⟨b - 1, by omega⟩
    rw [dec_1, dec_s, if_pos (by rw [z_le (by omega) (by omega)]; omega)]; rfl
  · refine ⟨0, ?_, fun i => by rw [b_0]; exact (decide_eq_false (fun g => by omega)).symm⟩
    rw [if_neg]
    cases b with
    | zero => rw [dec_0]; intro g; rw [Int32.le_iff_toInt_le, z_toInt (by omega)] at g; have : (-1 : Int32).toInt = -1 := by decide
              omega
    | succ b => rw [dec_s, z_le (by omega) (by omega)]; omega
section
variable {n : Nat} {row d nm : Nat → Nat} {vl : Nat → Int32} {σ : dS}
theorem dk_axis_sp (hw : WT n row d) (hC : CT n row d nm vl σ) (h6 : σ 6 0 = nI n) {a x : Nat} (ha : a ≤ 10) (hx : x < n) : ∃ r, dk_axis (nI a) (nI x) σ = some (r, σ) ∧ ∀ y, bt r y = (decide (y < n) && ax n d a x y) := by
  have hn24 := hw.1.1
  obtain ⟨c7, c8, c9, c10, c11, c12, c14⟩ := hC.1 x hx
  have hb1 := bh_lt (n := n) (d := d) hx
  have hb2 := bh_le (n := n) (d := d) hx
  have c9 := c9 hb2
  have c9' : σ 9 x = dec (bh n d x) := by
    rw [c9]
    obtain ⟨e, he⟩ : ∃ e, bh n d x = e + 1 := ⟨bh n d x - 1, by omega⟩
    rw [he, dec_s]; rfl
  -- siblings
  have hsib : ∃ s0 : Int32, (∀ y, bt s0 y = decide (0 < x ∧ 0 < y ∧ y < n ∧ pa d y = pa d x)) ∧ ∀ (Q : Int32 × dS → Prop), wq (dk_axis_b24 (nI a) (nI x) s0 σ) Q → wq (dk_axis (nI a) (nI x) σ) Q := by
    by_cases h0 : x = 0
    · refine ⟨0, fun y => by rw [b_0]; exact (decide_eq_false (fun g => by omega)).symm, fun Q h => ?_⟩
      unfold dk_axis dk_axis_b0
      rw [wc_n (by omega) (by omega), z_cl (by omega), c10, if_pos h0, wi_f (by decide)]
      exact h
    · have hp := pa_lt hw.2 (by omega : 0 < x) hx
      refine ⟨σ 11 (pa d x), fun y => ?_, fun Q h => ?_⟩
      · rw [(hC.1 (pa d x) (by omega)).2.2.2.2.1 y, Bool.eq_iff_iff, decide_eq_true_eq, decide_eq_true_eq]
        constructor
        · rintro ⟨g1, g2, g3⟩; exact ⟨by omega, g1, g2, g3⟩
        · rintro ⟨_, g1, g2, g3⟩; exact ⟨g1, g2, g3⟩
      · unfold dk_axis dk_axis_b0
        rw [wc_n (by omega) (by omega), z_cl (by omega), c10, if_neg h0, wi_t (by rw [z_ge0 (by omega)]; trivial), wc_n (by omega) (by omega), wc_n (by omega) (by omega), z_cl (by omega)]
        exact h
  obtain ⟨s0, hs0, hgo⟩ := hsib
  -- a result is enough
  have fin : ∀ r : Int32, (∀ y, bt r y = (decide (y < n) && ax n d a x y)) → wq (dk_axis_b24 (nI a) (nI x) s0 σ) (fun q => q = (r, σ)) → ∃ r, dk_axis (nI a) (nI x) σ = some (r, σ) ∧ ∀ y, bt r y = (decide (y < n) && ax n d a x y) := fun r h1 h2 => ⟨r, eq_of_wq (hgo _ h2), h1⟩
  have heq : ∀ (P : Prop) [Decidable P] (y : Nat) (b : Bool), (P ↔ y < n ∧ b = true) → decide P = (decide (y < n) && b) := by
    intro P _ y b h
    rw [Bool.eq_iff_iff, decide_eq_true_eq, Bool.and_eq_true, decide_eq_true_eq]; exact h
  have hc : a = 0 ∨ a = 1 ∨ a = 2 ∨ a = 3 ∨ a = 4 ∨ a = 5 ∨ a = 6 ∨ a = 7 ∨ a = 8 ∨ a = 9 ∨ a = 10 := by omega
  rcases hc with e | e | e | e | e | e | e | e | e | e | e <;> subst e
  · refine fin (bI x) (fun y => ?_) ?_
    · rw [bI_bt' (by omega)]
      refine heq _ _ _ ?_
      show _ ↔ _ ∧ decide (y = x) = true
      rw [decide_eq_true_eq]
      constructor
      · intro g; exact ⟨by omega, g⟩
      · intro g; exact g.2
    · unfold dk_axis_b24
      rw [if_pos (show nI 0 = (0 : Int32) from nI_0)]
      rw [bI_f, wq_some]
  · refine fin (σ 11 x) (fun y => ?_) ?_
    · rw [c11 y]
      refine heq _ _ _ ?_
      show _ ↔ _ ∧ decide (0 < y ∧ pa d y = x) = true
      rw [decide_eq_true_eq]
      constructor
      · rintro ⟨g1, g2, g3⟩; exact ⟨g2, g1, g3⟩
      · rintro ⟨g2, g1, g3⟩; exact ⟨g1, g2, g3⟩
    · unfold dk_axis_b24
      rw [if_neg (show ¬ nI 1 = (0 : Int32) by decide), if_pos (show nI 1 = (1 : Int32) from rfl)]
      rw [wc_n (by omega) (by omega), z_cl (by omega), wq_some]
  · by_cases h0 : x = 0
    · refine fin 0 (fun y => ?_) ?_
      · rw [b_0]
        show false = (_ && decide (0 < x ∧ pa d x = y))
        rw [decide_eq_false (show ¬ (0 < x ∧ pa d x = y) from fun g => by omega), Bool.and_false]
      · unfold dk_axis_b24
        rw [if_neg (show ¬ nI 2 = (0 : Int32) by decide), if_neg (show ¬ nI 2 = (1 : Int32) by decide), if_pos (show nI 2 = (2 : Int32) from rfl)]
        rw [wc_n (by omega) (by omega), z_cl (by omega), c10, if_pos h0, wi_f (by decide), wq_some]
    · have hp := pa_lt hw.2 (by omega : 0 < x) hx
      refine fin (bI (pa d x)) (fun y => ?_) ?_
      · rw [bI_bt' (by omega)]
        refine heq _ _ _ ?_
        show _ ↔ _ ∧ decide (0 < x ∧ pa d x = y) = true
        rw [decide_eq_true_eq]
        constructor
        · intro g; exact ⟨by omega, by omega, g.symm⟩
        · rintro ⟨_, _, g⟩; exact g.symm
      · unfold dk_axis_b24
        rw [if_neg (show ¬ nI 2 = (0 : Int32) by decide), if_neg (show ¬ nI 2 = (1 : Int32) by decide), if_pos (show nI 2 = (2 : Int32) from rfl)]
        rw [wc_n (by omega) (by omega), z_cl (by omega), c10, if_neg h0, wi_t (by rw [z_ge0 (by omega)]; trivial), wc_n (by omega) (by omega), bI_f, wq_some]
  · obtain ⟨r, hr, hb⟩ := dk_interval_sp (a := x + 1) (b := bh n d x) (by omega) (by omega)
    refine fin r (fun y => ?_) ?_
    · rw [hb y]
      refine heq _ _ _ ?_
      show _ ↔ _ ∧ decide (x < y ∧ y < bh n d x) = true
      rw [decide_eq_true_eq]; omega
    · unfold dk_axis_b24 dk_axis_b125
      rw [if_neg (show ¬ nI 3 = (0 : Int32) by decide), if_neg (show ¬ nI 3 = (1 : Int32) by decide), if_neg (show ¬ nI 3 = (2 : Int32) by decide), if_pos (show nI 3 = (3 : Int32) from rfl)]
      rw [wc_n (by omega) (by omega), z_cl (by omega), c9', n1_add, hr, wq_bind, wq_some, wq_some]
  · refine fin (σ 12 x) (fun y => ?_) ?_
    · rw [c12 y]
      refine heq _ _ _ ?_
      show _ ↔ _ ∧ decide (y < x ∧ x < bh n d y) = true
      rw [decide_eq_true_eq]
      constructor
      · intro g; exact ⟨by omega, g⟩
      · intro g; exact g.2
    · unfold dk_axis_b24
      rw [if_neg (show ¬ nI 4 = (0 : Int32) by decide), if_neg (show ¬ nI 4 = (1 : Int32) by decide), if_neg (show ¬ nI 4 = (2 : Int32) by decide), if_neg (show ¬ nI 4 = (3 : Int32) by decide), if_pos (show nI 4 = (4 : Int32) from rfl)]
      rw [wc_n (by omega) (by omega), z_cl (by omega), wq_some]
  · obtain ⟨r, hr, hb⟩ := dk_interval_sp (a := 0) (b := x + 1) (by omega) (by omega)
    refine fin (s0 &&& (r ^^^ (-1))) (fun y => ?_) ?_
    · by_cases hy : y < 32
      · rw [b_and, b_not _ hy, hs0, hb y]
        show _ = (decide (y < n) && decide (0 < x ∧ 0 < y ∧ pa d y = pa d x ∧ x < y))
        by_cases g : x < y
        · rw [decide_eq_false (by omega : ¬ (0 ≤ y ∧ y < x + 1)), Bool.not_false, Bool.and_true]
          refine heq _ _ _ ?_
          rw [decide_eq_true_eq]
          constructor
          · rintro ⟨g1, g2, g3, g4⟩; exact ⟨g3, g1, g2, g4, g⟩
          · rintro ⟨g3, g1, g2, g4, _⟩; exact ⟨g1, g2, g3, g4⟩
        · rw [decide_eq_true (by omega : 0 ≤ y ∧ y < x + 1), Bool.not_true, Bool.and_false, decide_eq_false (show ¬ (0 < x ∧ 0 < y ∧ pa d y = pa d x ∧ x < y) from fun q => g q.2.2.2), Bool.and_false]
      · rw [b_big (by omega), decide_eq_false (by omega : ¬ y < n), Bool.false_and]
    · unfold dk_axis_b24 dk_axis_b139
      rw [if_neg (show ¬ nI 5 = (0 : Int32) by decide), if_neg (show ¬ nI 5 = (1 : Int32) by decide), if_neg (show ¬ nI 5 = (2 : Int32) by decide), if_neg (show ¬ nI 5 = (3 : Int32) by decide), if_neg (show ¬ nI 5 = (4 : Int32) by decide), if_pos (show nI 5 = (5 : Int32) from rfl)]
      rw [show dk_interval 0 (nI x) = some r by rw [← dec_s, ← nI_0]; exact hr, wq_bind, wq_some, wq_some]
  · obtain ⟨r, hr, hb⟩ := dk_interval_sp (a := 0) (b := x) (by omega) (by omega)
    refine fin (s0 &&& r) (fun y => ?_) ?_
    · rw [b_and, hs0, hb y]
      show _ = (decide (y < n) && decide (0 < x ∧ 0 < y ∧ pa d y = pa d x ∧ y < x))
      by_cases g : y < x
      · rw [decide_eq_true (by omega : 0 ≤ y ∧ y < x), Bool.and_true]
        refine heq _ _ _ ?_
        rw [decide_eq_true_eq]
        constructor
        · rintro ⟨g1, g2, g3, g4⟩; exact ⟨g3, g1, g2, g4, g⟩
        · rintro ⟨g3, g1, g2, g4, _⟩; exact ⟨g1, g2, g3, g4⟩
      · rw [decide_eq_false (by omega : ¬ (0 ≤ y ∧ y < x)), Bool.and_false, decide_eq_false (show ¬ (0 < x ∧ 0 < y ∧ pa d y = pa d x ∧ y < x) from fun q => g q.2.2.2), Bool.and_false]
    · unfold dk_axis_b24 dk_axis_b151
      rw [if_neg (show ¬ nI 6 = (0 : Int32) by decide), if_neg (show ¬ nI 6 = (1 : Int32) by decide), if_neg (show ¬ nI 6 = (2 : Int32) by decide), if_neg (show ¬ nI 6 = (3 : Int32) by decide), if_neg (show ¬ nI 6 = (4 : Int32) by decide), if_neg (show ¬ nI 6 = (5 : Int32) by decide), if_pos (show nI 6 = (6 : Int32) from rfl)]
      rw [dec_m, show dk_interval 0 (dec x) = some r by rw [← nI_0]; exact hr, wq_bind, wq_some, wq_some]
  · obtain ⟨r, hr, hb⟩ := dk_interval_sp (a := bh n d x) (b := n) (by omega) (by omega)
    refine fin r (fun y => ?_) ?_
    · rw [hb y]
      refine heq _ _ _ ?_
      show _ ↔ _ ∧ decide (bh n d x ≤ y) = true
      rw [decide_eq_true_eq]; omega
    · unfold dk_axis_b24 dk_axis_b170
      rw [if_neg (show ¬ nI 7 = (0 : Int32) by decide), if_neg (show ¬ nI 7 = (1 : Int32) by decide), if_neg (show ¬ nI 7 = (2 : Int32) by decide), if_neg (show ¬ nI 7 = (3 : Int32) by decide), if_neg (show ¬ nI 7 = (4 : Int32) by decide), if_neg (show ¬ nI 7 = (5 : Int32) by decide), if_neg (show ¬ nI 7 = (6 : Int32) by decide), if_pos (show nI 7 = (7 : Int32) from rfl)]
      rw [wc_n (by omega) (by omega), z_cl (by omega), c9', dec_1, h6, dec_m, hr, wq_bind, wq_some, wq_some]
  · obtain ⟨r, hr, hb⟩ := dk_interval_sp (a := 0) (b := x) (by omega) (by omega)
    refine fin (r &&& (σ 12 x ^^^ (-1))) (fun y => ?_) ?_
    · by_cases hy : y < 32
      · rw [b_and, b_not _ hy, hb y, c12 y]
        show _ = (decide (y < n) && decide (y < x ∧ ¬ x < bh n d y))
        rw [Bool.eq_iff_iff, Bool.and_eq_true, Bool.and_eq_true, Bool.not_eq_true', decide_eq_true_eq, decide_eq_true_eq, decide_eq_true_eq, decide_eq_false_iff_not]
        omega
      · rw [b_big (by omega), decide_eq_false (by omega : ¬ y < n), Bool.false_and]
    · unfold dk_axis_b24 dk_axis_b178
      rw [if_neg (show ¬ nI 8 = (0 : Int32) by decide), if_neg (show ¬ nI 8 = (1 : Int32) by decide), if_neg (show ¬ nI 8 = (2 : Int32) by decide), if_neg (show ¬ nI 8 = (3 : Int32) by decide), if_neg (show ¬ nI 8 = (4 : Int32) by decide), if_neg (show ¬ nI 8 = (5 : Int32) by decide), if_neg (show ¬ nI 8 = (6 : Int32) by decide), if_neg (show ¬ nI 8 = (7 : Int32) by decide), if_pos (show nI 8 = (8 : Int32) from rfl)]
      rw [dec_m, show dk_interval 0 (dec x) = some r by rw [← nI_0]; exact hr, wq_bind, wq_some, wc_n (by omega) (by omega), z_cl (by omega), wq_some]
  · obtain ⟨r, hr, hb⟩ := dk_interval_sp (a := x) (b := bh n d x) (by omega) (by omega)
    refine fin r (fun y => ?_) ?_
    · rw [hb y]
      refine heq _ _ _ ?_
      show _ ↔ _ ∧ decide (x ≤ y ∧ y < bh n d x) = true
      rw [decide_eq_true_eq]; omega
    · unfold dk_axis_b24 dk_axis_b198
      rw [if_neg (show ¬ nI 9 = (0 : Int32) by decide), if_neg (show ¬ nI 9 = (1 : Int32) by decide), if_neg (show ¬ nI 9 = (2 : Int32) by decide), if_neg (show ¬ nI 9 = (3 : Int32) by decide), if_neg (show ¬ nI 9 = (4 : Int32) by decide), if_neg (show ¬ nI 9 = (5 : Int32) by decide), if_neg (show ¬ nI 9 = (6 : Int32) by decide), if_neg (show ¬ nI 9 = (7 : Int32) by decide), if_neg (show ¬ nI 9 = (8 : Int32) by decide), if_pos (show nI 9 = (9 : Int32) from rfl)]
      rw [wc_n (by omega) (by omega), z_cl (by omega), c9', hr, wq_bind, wq_some, wq_some]
  · refine fin (σ 12 x ||| bI x) (fun y => ?_) ?_
    · rw [b_or, c12 y, bI_bt' (by omega)]
      show _ = (decide (y < n) && decide (y ≤ x ∧ x < bh n d y))
      rw [Bool.eq_iff_iff, Bool.or_eq_true, Bool.and_eq_true, decide_eq_true_eq, decide_eq_true_eq, decide_eq_true_eq, decide_eq_true_eq]
      constructor
      · rintro (g | g)
        · omega
        · rw [g]; omega
      · rintro ⟨g1, g2, g3⟩
        by_cases e : y = x
        · exact Or.inr e
        · exact Or.inl ⟨by omega, g3⟩
    · unfold dk_axis_b24
      rw [if_neg (show ¬ nI 10 = (0 : Int32) by decide), if_neg (show ¬ nI 10 = (1 : Int32) by decide), if_neg (show ¬ nI 10 = (2 : Int32) by decide), if_neg (show ¬ nI 10 = (3 : Int32) by decide), if_neg (show ¬ nI 10 = (4 : Int32) by decide), if_neg (show ¬ nI 10 = (5 : Int32) by decide), if_neg (show ¬ nI 10 = (6 : Int32) by decide), if_neg (show ¬ nI 10 = (7 : Int32) by decide), if_neg (show ¬ nI 10 = (8 : Int32) by decide), if_neg (show ¬ nI 10 = (9 : Int32) by decide)]
      rw [wc_n (by omega) (by omega), z_cl (by omega), bI_f, wq_some]
end
