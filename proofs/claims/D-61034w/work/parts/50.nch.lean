/-! the number of children; an unused number -/
set_option maxRecDepth 100000
theorem fb_holes : ∀ (m n : Nat) (f : Nat → Nat), (∀ i, i < n → f i < m) → (∀ i j, i < j → j < n → f i ≠ f j) → n ≤ m := by
  intro m
  induction m with
  | zero =>
    intro n f h1 _
    rcases Nat.eq_zero_or_pos n with h | h
    · omega
    · exact absurd (h1 0 h) (Nat.not_lt_zero _)
  | succ m ih =>
    intro n f h1 h2
    by_cases hx : ∃ i, i < n ∧ f i = m
    · obtain ⟨a, ha, hfa⟩ := hx
      have hg := ih (n - 1) (fun i => if i < a then f i else f (i + 1)) (by
        intro i hi
        by_cases q : i < a
        · simp only [if_pos q]
          have b1 := h1 i (by omega)
          have b2 := h2 i a q ha
          omega
        · simp only [if_neg q]
          have b1 := h1 (i + 1) (by omega)
          have b2 := h2 a (i + 1) (by omega) (by omega)
          omega) (by
        intro i j hij hj
        by_cases q : i < a
        · by_cases r : j < a
          · simp only [if_pos q, if_pos r]
            exact h2 i j hij (by omega)
          · simp only [if_pos q, if_neg r]
            exact h2 i (j + 1) (by omega) (by omega)
        · have r : ¬ j < a := by omega
          simp only [if_neg q, if_neg r]
          exact h2 (i + 1) (j + 1) (by omega) (by omega))
      omega
    · have hg := ih n f (fun i hi => by
        have b1 := h1 i hi
        have b2 : f i ≠ m := fun e => hx ⟨i, hi, e⟩
        omega) h2
      omega
/-- two of them in one place -/
theorem least_ex {p : Nat → Prop} : ∀ {m : Nat}, (∃ k, k < m ∧ p k) → ∃ k, k < m ∧ p k ∧ ∀ j, j < k → ¬ p j := by
  intro m
  induction m with
  | zero => rintro ⟨k, h, _⟩; omega
  | succ m ih =>
    rintro ⟨k, h1, h2⟩
    by_cases g : ∃ k, k < m ∧ p k
    · obtain ⟨k, a1, a2, a3⟩ := ih g
      exact ⟨k, by omega, a2, a3⟩
    · have hk : k = m := by
        rcases Nat.lt_or_ge k m with e | e
        · exact absurd ⟨k, e, h2⟩ g
        · omega
      exact ⟨k, h1, h2, fun j hj hp => g ⟨j, by omega, hp⟩⟩
/-- the least number that is not in the row -/
theorem free_ex {n : Nat} {row : Nat → Nat} (hr : rw24 n row) (hn : n < 24) : ∃ u, u < 24 ∧ (∀ i, i < n → row i ≠ u) ∧ ∀ k, k < u → ∃ i, i < n ∧ row i = k := by
  have h1 : ∃ u, u < 24 ∧ ∀ i, i < n → row i ≠ u := by
    apply Classical.byContradiction
    intro h
    have h2 : ∀ u, u < 24 → ∃ i, i < n ∧ row i = u := by
      intro u hu
      apply Classical.byContradiction
      intro h3
      exact h ⟨u, hu, fun i hi e => h3 ⟨i, hi, e⟩⟩
    have h4 : ∃ f : Nat → Nat, ∀ u, u < 24 → f u < n ∧ row (f u) = u := by
      refine ⟨fun u => if hu : u < 24 then Classical.choose (h2 u hu) else 0, fun u hu => ?_⟩
      simp only [hu, dite_true]
      exact Classical.choose_spec (h2 u hu)
    obtain ⟨f, hf⟩ := h4
    have := fb_holes n 24 f (fun i hi => (hf i hi).1) (fun i j hij hj e => by
      have a1 := (hf i (by omega)).2
      have a2 := (hf j hj).2
      rw [e] at a1; omega)
    omega
  obtain ⟨u, a1, a2, a3⟩ := least_ex h1
  refine ⟨u, a1, a2, fun k hk => ?_⟩
  apply Classical.byContradiction
  intro h
  exact a3 k hk (fun i hi e => h ⟨i, hi, e⟩)
def isC (d : Nat → Nat) (p : Nat) (x : Nat) : Bool := decide (0 < x ∧ pa d x = p)
def nch (n : Nat) (d : Nat → Nat) (p : Nat) : Nat := (ft (isC d p) 0 n).length
def cps (n : Nat) (d : Nat → Nat) (p : Nat) : Nat → Nat → List Nat
  | _, 0 => []
  | k, m + 1 => cp n d p k :: cps n d p (k + 1) m
theorem cps_len (n : Nat) (d : Nat → Nat) (p : Nat) : ∀ m k, (cps n d p k m).length = m := by
  intro m
  induction m with
  | zero => intro k; rfl
  | succ m ih => intro k; show (cps n d p (k + 1) m).length + 1 = m + 1; rw [ih]
theorem cps_mem {n : Nat} {d : Nat → Nat} {p x : Nat} : ∀ m k, x ∈ cps n d p k m ↔ ∃ j, k ≤ j ∧ j < k + m ∧ x = cp n d p j := by
  intro m
  induction m with
  | zero => intro k; constructor
            · intro h; cases h
            · rintro ⟨j, h1, h2, _⟩; omega
  | succ m ih =>
    intro k
    show x ∈ cp n d p k :: cps n d p (k + 1) m ↔ _
    rw [List.mem_cons, ih]
    constructor
    · rintro (h | ⟨j, h1, h2, h3⟩)
      · exact ⟨k, Nat.le_refl _, by omega, h⟩
      · exact ⟨j, by omega, by omega, h3⟩
    · rintro ⟨j, h1, h2, h3⟩
      by_cases e : j = k
      · exact Or.inl (by rw [h3, e])
      · exact Or.inr ⟨j, by omega, by omega, h3⟩
theorem cps_pw {n : Nat} {d : Nat → Nat} (h : wfT n d) {p M : Nat} (hp : p < n) (hM : hc n d p M) : ∀ m k, k + m ≤ M → (cps n d p k m).Pairwise (· < ·) := by
  intro m
  induction m with
  | zero => intro k _; exact List.Pairwise.nil
  | succ m ih =>
    intro k hk
    refine List.Pairwise.cons (fun a ha => ?_) (ih (k + 1) (by omega))
    obtain ⟨j, h1, h2, h3⟩ := (cps_mem m (k + 1)).mp ha
    rw [h3]
    exact cp_inj h hp (hc_le hM (by omega)) (by omega)
theorem nch_M {n : Nat} {d : Nat → Nat} (h : wfT n d) {p M : Nat} (hp : p < n) (hM : hc n d p M) (hM2 : cp n d p M = bh n d p) : nch n d p = M := by
  have e : ft (isC d p) 0 n = cps n d p 0 M := by
    refine pw_ext ft_pw (cps_pw h hp hM M 0 (by omega)) (fun x => ?_)
    rw [ft_mem, cps_mem]
    unfold isC
    rw [decide_eq_true_eq]
    constructor
    · rintro ⟨_, h2, h3, h4⟩
      obtain ⟨K, k1, k2⟩ := child_ix h h3 (by omega : x < n)
      rw [h4] at k1 k2
      have := hc_max hM2 k1
      exact ⟨K, Nat.zero_le _, by omega, k2.symm⟩
    · rintro ⟨j, _, h2, h3⟩
      have hj := hM j (by omega)
      have hb := bh_le (n := n) (d := d) hp
      have hs := cp_spec h hp (hc_le hM (by omega : j ≤ M))
      have := pa_below h hp (by omega : p < cp n d p j) hj (hs.2.2.1 hj)
      rw [h3]
      exact ⟨Nat.zero_le _, by omega, by omega, this⟩
  unfold nch
  rw [e, cps_len]
theorem hc_iff {n : Nat} {d : Nat → Nat} (h : wfT n d) {p k : Nat} (hp : p < n) : hc n d p k ↔ k ≤ nch n d p := by
  obtain ⟨M, h1, h2, h3⟩ := hc_ex h hp
  rw [nch_M h hp h2 h3]
  exact ⟨fun g => hc_max h3 g, fun g => hc_le h2 g⟩
theorem nch_lt {n : Nat} {d : Nat → Nat} (h : wfT n d) {p : Nat} (hp : p < n) : nch n d p < n := by
  obtain ⟨M, h1, h2, h3⟩ := hc_ex h hp
  rw [nch_M h hp h2 h3]; exact h1
theorem ft_app (p : Nat → Bool) : ∀ (m s k : Nat), ft p s (m + k) = ft p s m ++ ft p (s + m) k := by
  intro m
  induction m with
  | zero => intro s k; rw [Nat.zero_add, ft_0]; rfl
  | succ m ih =>
    intro s k
    rw [show m + 1 + k = m + k + 1 by omega, ft_s, ft_s, ih, show s + 1 + m = s + (m + 1) by omega]
    by_cases e : p s = true
    · rw [if_pos e, if_pos e]; rfl
    · rw [if_neg e, if_neg e]
theorem ft_shift {p q : Nat → Bool} {c : Nat} : ∀ (m s : Nat), (∀ i, s ≤ i → i < s + m → p (i + c) = q i) → (ft p (s + c) m).length = (ft q s m).length := by
  intro m
  induction m with
  | zero => intro s _; rfl
  | succ m ih =>
    intro s h
    rw [ft_s, ft_s, h s (Nat.le_refl _) (by omega), show s + c + 1 = s + 1 + c by omega]
    have := ih (s + 1) (fun i h1 h2 => h i (by omega) (by omega))
    by_cases e : q s = true
    · rw [if_pos e, if_pos e, List.length_cons, List.length_cons, this]
    · rw [if_neg e, if_neg e, this]
/-- where a place comes to when a block is put in -/
def emb (a m i : Nat) : Nat := if i < a then i else i + m
theorem nch_ins {n m p a c : Nat} {d g : Nat → Nat} (h : wfT n d) (hA : okA n d p a c) (hB : okB m g c) {q : Nat} (hq : q < n) : nch (n + m) (ins a m d g) (emb a m q) = nch n d q + (if q = p then 1 else 0) := by
  have ha1 := hA.1
  have ha2 := hA.2.1
  have hm := hB.1
  have hemb : emb a m q < a ∧ emb a m q = q ∨ a + m ≤ emb a m q ∧ emb a m q = q + m ∧ a ≤ q := by
    unfold emb
    by_cases e : q < a
    · rw [if_pos e]; exact Or.inl ⟨e, rfl⟩
    · rw [if_neg e]; exact Or.inr ⟨by omega, rfl, by omega⟩
  unfold nch
  rw [show n + m = a + (m + (n - a)) by omega, ft_app, ft_app]
  rw [show ft (isC d q) 0 n = ft (isC d q) 0 (a + (n - a)) by rw [show a + (n - a) = n by omega], ft_app]
  rw [List.length_append, List.length_append, List.length_append]
  have e1 : ft (isC (ins a m d g) (emb a m q)) 0 a = ft (isC d q) 0 a := by
    refine ft_cong (fun x _ hx => ?_)
    unfold isC
    by_cases h0 : 0 < x
    · have hp := pa_lt h h0 (by omega : x < n)
      rw [ins_pa_l h h0 (by omega) ha2, Bool.eq_iff_iff, decide_eq_true_eq, decide_eq_true_eq]
      omega
    · rw [decide_eq_false (fun g => h0 g.1), decide_eq_false (fun g => h0 g.1)]
  have e2 : (ft (isC (ins a m d g) (emb a m q)) (0 + a) m).length = if q = p then 1 else 0 := by
    obtain ⟨m', rfl⟩ : ∃ m', m = m' + 1 := ⟨m - 1, by omega⟩
    rw [Nat.zero_add, ft_s]
    have hr : ft (isC (ins a (m' + 1) d g) (emb a (m' + 1) q)) (a + 1) m' = [] := by
      refine ft_nil (fun x h1 h2 => decide_eq_false ?_)
      rintro ⟨_, h4⟩
      obtain ⟨j, rfl⟩ : ∃ j, x = a + j := ⟨x - a, by omega⟩
      rw [ins_pa_m hB (by omega) (by omega)] at h4
      have := (okB_pa hB (by omega : 0 < j) (by omega)).1
      omega
    rw [hr]
    unfold isC
    rw [ins_pa_0 hA hB]
    by_cases e : q = p
    · rw [if_pos e, if_pos (decide_eq_true ⟨by omega, by omega⟩)]; rfl
    · rw [if_neg e, decide_eq_false (fun g => by omega), if_neg (by simp)]; rfl
  have e3 : (ft (isC (ins a m d g) (emb a m q)) (0 + a + m) (n - a)).length = (ft (isC d q) (0 + a) (n - a)).length := by
    rw [Nat.zero_add]
    refine ft_shift _ _ (fun x h1 h2 => ?_)
    unfold isC
    have hp := pa_lt h (by omega : 0 < x) (by omega : x < n)
    rw [ins_pa_r h hA hB h1 (by omega), Bool.eq_iff_iff, decide_eq_true_eq, decide_eq_true_eq]
    by_cases e : pa d x < a
    · rw [if_pos e]; omega
    · rw [if_neg e]; omega
  rw [e1, e2, e3]; omega
