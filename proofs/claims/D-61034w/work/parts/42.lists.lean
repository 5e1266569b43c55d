/-! lists of places: ft p s m = the places from s on, m of them, that have p; els x = the bits of a mask -/
set_option maxRecDepth 100000
def ft (p : Nat → Bool) : Nat → Nat → List Nat
  | _, 0 => []
  | s, m + 1 => if p s = true then s :: ft p (s + 1) m else ft p (s + 1) m
theorem ft_0 (p : Nat → Bool) (s : Nat) : ft p s 0 = [] := rfl
theorem ft_s (p : Nat → Bool) (s m : Nat) : ft p s (m + 1) = if p s = true then s :: ft p (s + 1) m else ft p (s + 1) m := rfl
theorem ft_mem {p : Nat → Bool} {a : Nat} : ∀ {m s : Nat}, a ∈ ft p s m ↔ s ≤ a ∧ a < s + m ∧ p a = true := by
  intro m
  induction m with
  | zero => intro s; rw [ft_0]; constructor
            · intro h; cases h
            · intro h; omega
  | succ m ih =>
    intro s
    rw [ft_s]
    by_cases h : p s = true
    · rw [if_pos h, List.mem_cons, ih]
      constructor
      · rintro (e | e)
        · subst e; exact ⟨Nat.le_refl _, by omega, h⟩
        · exact ⟨by omega, by omega, e.2.2⟩
      · intro e
        by_cases h2 : a = s
        · exact Or.inl h2
        · exact Or.inr ⟨by omega, by omega, e.2.2⟩
    · rw [if_neg h, ih]
      constructor
      · intro e; exact ⟨by omega, by omega, e.2.2⟩
      · intro e
        have : a ≠ s := fun h2 => h (by rw [← h2]; exact e.2.2)
        exact ⟨by omega, by omega, e.2.2⟩
theorem ft_cong {p q : Nat → Bool} : ∀ {m s : Nat}, (∀ i, s ≤ i → i < s + m → p i = q i) → ft p s m = ft q s m := by
  intro m
  induction m with
  | zero => intro s _; rfl
  | succ m ih =>
    intro s h
    rw [ft_s, ft_s, h s (Nat.le_refl _) (by omega), ih (fun i h1 h2 => h i (by omega) (by omega))]
theorem ft_snoc (p : Nat → Bool) : ∀ (m s : Nat), ft p s (m + 1) = ft p s m ++ (if p (s + m) = true then [s + m] else []) := by
  intro m
  induction m with
  | zero => intro s; rw [ft_s, ft_0, ft_0]; simp
  | succ m ih =>
    intro s
    rw [ft_s, ih (s + 1), ft_s p s m, show s + 1 + m = s + (m + 1) by omega]
    by_cases h : p s = true
    · rw [if_pos h, if_pos h]; rfl
    · rw [if_neg h, if_neg h]
theorem ft_nil {p : Nat → Bool} {s m : Nat} (h : ∀ i, s ≤ i → i < s + m → p i = false) : ft p s m = [] := by
  cases e : ft p s m with
  | nil => rfl
  | cons a r =>
    have : a ∈ ft p s m := by rw [e]; exact List.mem_cons_self
    rw [ft_mem] at this
    rw [h a this.1 this.2.1] at this
    cases this.2.2
theorem ft_first {p q : Nat → Bool} {l : Nat} : ∀ {m s : Nat}, s ≤ l → l < s + m → p l = true → (∀ i, s ≤ i → i < l → p i = false) → (∀ i, s ≤ i → i < s + m → q i = (p i && decide (i ≠ l))) → ft p s m = l :: ft q s m := by
  intro m
  induction m with
  | zero => intro s h1 h2; omega
  | succ m ih =>
    intro s h1 h2 h3 h4 h5
    by_cases e : s = l
    · subst e
      rw [ft_s, ft_s, if_pos h3, h5 s (Nat.le_refl _) (by omega)]
      simp only [ne_eq, not_true_eq_false, decide_false, Bool.and_false, Bool.false_eq_true, if_false]
      congr 1
      refine ft_cong (fun i g1 g2 => ?_)
      rw [h5 i (by omega) (by omega), decide_eq_true (by omega : i ≠ s), Bool.and_true]
    · rw [ft_s, ft_s, h5 s (Nat.le_refl _) (by omega), h4 s (Nat.le_refl _) (by omega)]
      simp only [Bool.false_and, Bool.false_eq_true, if_false]
      exact ih (by omega) (by omega) h3 (fun i g1 g2 => h4 i (by omega) g2) (fun i g1 g2 => h5 i (by omega) (by omega))
theorem ft_last {p q : Nat → Bool} {l : Nat} : ∀ {m s : Nat}, s ≤ l → l < s + m → p l = true → (∀ i, l < i → i < s + m → p i = false) → (∀ i, s ≤ i → i < s + m → q i = (p i && decide (i ≠ l))) → ft p s m = ft q s m ++ [l] := by
  intro m
  induction m with
  | zero => intro s h1 h2; omega
  | succ m ih =>
    intro s h1 h2 h3 h4 h5
    by_cases e : s = l
    · subst e
      rw [ft_s, ft_s, if_pos h3, h5 s (Nat.le_refl _) (by omega)]
      simp only [ne_eq, not_true_eq_false, decide_false, Bool.and_false, Bool.false_eq_true, if_false]
      rw [ft_nil (p := p) (fun i g1 g2 => h4 i (by omega) (by omega)), ft_nil (p := q) (fun i g1 g2 => ?_)]
      · rfl
      · rw [h5 i (by omega) (by omega), h4 i (by omega) (by omega)]; rfl
    · rw [ft_s, ft_s, h5 s (Nat.le_refl _) (by omega), decide_eq_true (by omega : s ≠ l), Bool.and_true, ih (by omega) (by omega) h3 (fun i g1 g2 => h4 i g1 (by omega)) (fun i g1 g2 => h5 i (by omega) (by omega))]
      by_cases g : p s = true
      · rw [if_pos g, if_pos g]; rfl
      · rw [if_neg g, if_neg g]
theorem ft_pw {p : Nat → Bool} : ∀ {m s : Nat}, (ft p s m).Pairwise (· < ·) := by
  intro m
  induction m with
  | zero => intro s; exact List.Pairwise.nil
  | succ m ih =>
    intro s
    rw [ft_s]
    by_cases h : p s = true
    · rw [if_pos h]
      refine List.Pairwise.cons (fun a ha => ?_) ih
      have := ft_mem.mp ha
      omega
    · rw [if_neg h]; exact ih
theorem pw_ext : ∀ {l l' : List Nat}, l.Pairwise (· < ·) → l'.Pairwise (· < ·) → (∀ a, a ∈ l ↔ a ∈ l') → l = l' := by
  intro l
  induction l with
  | nil =>
    intro l' _ _ h
    cases l' with
    | nil => rfl
    | cons b r => exact absurd ((h b).mpr List.mem_cons_self) (fun g => by cases g)
  | cons a l ih =>
    intro l' h1 h2 h
    cases l' with
    | nil => exact absurd ((h a).mp List.mem_cons_self) (fun g => by cases g)
    | cons b r =>
      obtain ⟨h1a, h1b⟩ := List.pairwise_cons.mp h1
      obtain ⟨h2a, h2b⟩ := List.pairwise_cons.mp h2
      have e : a = b := by
        rcases List.mem_cons.mp ((h a).mp List.mem_cons_self) with e | e
        · exact e
        · rcases List.mem_cons.mp ((h b).mpr List.mem_cons_self) with e2 | e2
          · exact e2.symm
          · have := h1a b e2
            have := h2a a e
            omega
      subst e
      congr 1
      refine ih h1b h2b (fun c => ?_)
      constructor
      · intro g
        rcases List.mem_cons.mp ((h c).mp (List.mem_cons_of_mem _ g)) with e | e
        · subst e; exact absurd (h1a c g) (by omega)
        · exact e
      · intro g
        rcases List.mem_cons.mp ((h c).mpr (List.mem_cons_of_mem _ g)) with e | e
        · subst e; exact absurd (h2a c g) (by omega)
        · exact e
/-! masks -/
def els (x : Int32) : List Nat := ft (bt x) 0 32
theorem els_mem {x : Int32} {a : Nat} : a ∈ els x ↔ bt x a = true := by
  unfold els
  rw [ft_mem]
  constructor
  · intro h; exact h.2.2
  · intro h
    refine ⟨Nat.zero_le _, ?_, h⟩
    rcases Nat.lt_or_ge a 32 with g | g
    · omega
    · rw [b_big g] at h; cases h
theorem els_pw {x : Int32} : (els x).Pairwise (· < ·) := ft_pw
theorem els_0 : els 0 = [] := ft_nil (fun i _ _ => b_0 i)
theorem els_ne {x : Int32} (h : x ≠ 0) : els x ≠ [] := by
  intro e
  apply h
  apply b_ext
  intro i _
  rw [b_0]
  cases g : bt x i with
  | false => rfl
  | true =>
    have := els_mem.mpr g
    rw [e] at this; cases this
theorem els_nil {x : Int32} : els x = [] ↔ x = 0 := by
  constructor
  · intro h
    by_cases g : x = 0
    · exact g
    · exact absurd h (els_ne g)
  · intro h; rw [h]; exact els_0
/-- the lowest bit and the rest -/
theorem els_low {x : Int32} {l : Nat} {r : List Nat} (h : els x = l :: r) : bt x l = true ∧ l < 32 ∧ (∀ i, i < l → bt x i = false) ∧ els (x &&& (x - 1)) = r := by
  have hm : l ∈ els x := by rw [h]; exact List.mem_cons_self
  have hb := els_mem.mp hm
  have hl : l < 32 := by
    have := ft_mem.mp hm; omega
  have h0 : ∀ i, i < l → bt x i = false := by
    intro i hi
    cases g : bt x i with
    | false => rfl
    | true =>
      have hmi := els_mem.mpr g
      rw [h] at hmi
      have hp : (l :: r).Pairwise (· < ·) := by rw [← h]; exact els_pw
      rcases List.mem_cons.mp hmi with e | e
      · omega
      · have := (List.pairwise_cons.mp hp).1 i e
        omega
  refine ⟨hb, hl, h0, ?_⟩
  have := ft_first (p := bt x) (q := bt (x &&& (x - 1))) (l := l) (m := 32) (s := 0) (by omega) (by omega) hb (fun i _ g => h0 i g) (fun i _ _ => clr_bt hb h0 i)
  unfold els at h
  rw [h] at this
  exact (List.cons.inj this).2.symm
theorem bt_clr {x : Int32} {h : Nat} (hh : h < 32) {i : Nat} (hi : i < 32) : bt (x &&& (bI h ^^^ (-1))) i = (bt x i && decide (i ≠ h)) := by
  rw [b_and, b_not _ hi, bI_bt hh hi]
  by_cases e : i = h <;> simp [e]
theorem els_clr {x : Int32} {l : Nat} {r : List Nat} (h : els x = l :: r) : els (x &&& (bI l ^^^ (-1))) = r := by
  obtain ⟨hb, hl, h0, _⟩ := els_low h
  have := ft_first (p := bt x) (q := bt (x &&& (bI l ^^^ (-1)))) (l := l) (m := 32) (s := 0) (by omega) (by omega) hb (fun i _ g => h0 i g) (fun i _ g => bt_clr hl (by omega))
  unfold els at h
  rw [h] at this
  exact (List.cons.inj this).2.symm
/-- the highest bit and the rest -/
theorem els_high {x : Int32} {l : Nat} {r : List Nat} (h : els x = r ++ [l]) : bt x l = true ∧ l < 32 ∧ (∀ i, l < i → bt x i = false) ∧ els (x &&& (bI l ^^^ (-1))) = r := by
  have hm : l ∈ els x := by rw [h]; exact List.mem_append_right _ List.mem_cons_self
  have hb := els_mem.mp hm
  have hl : l < 32 := by
    have := ft_mem.mp hm; omega
  have h0 : ∀ i, l < i → bt x i = false := by
    intro i hi
    cases g : bt x i with
    | false => rfl
    | true =>
      have hmi := els_mem.mpr g
      rw [h] at hmi
      have hp : (r ++ [l]).Pairwise (· < ·) := by rw [← h]; exact els_pw
      rcases List.mem_append.mp hmi with e | e
      · have := (List.pairwise_append.mp hp).2.2 i e l List.mem_cons_self
        omega
      · rw [List.mem_singleton.mp e] at hi; omega
  refine ⟨hb, hl, h0, ?_⟩
  have := ft_last (p := bt x) (q := bt (x &&& (bI l ^^^ (-1)))) (l := l) (m := 32) (s := 0) (by omega) (by omega) hb (fun i g _ => h0 i g) (fun i _ g => bt_clr hl (by omega))
  unfold els at h
  rw [h] at this
  exact (List.append_cancel_right this).symm
/-- masks whose bits are below n -/
def bw (n : Nat) (x : Int32) : Prop := ∀ i, n ≤ i → bt x i = false
theorem bw_0 {n : Nat} : bw n 0 := fun i _ => b_0 i
theorem bw_lt {n : Nat} {x : Int32} (h : bw n x) {a : Nat} (ha : bt x a = true) : a < n := by
  rcases Nat.lt_or_ge a n with g | g
  · exact g
  · rw [h a g] at ha; cases ha
theorem bw_els {n : Nat} {x : Int32} (h : bw n x) {a : Nat} (ha : a ∈ els x) : a < n := bw_lt h (els_mem.mp ha)
theorem bw_or {n : Nat} {x y : Int32} (hx : bw n x) (hy : bw n y) : bw n (x ||| y) := fun i h => by rw [b_or, hx i h, hy i h]; rfl
theorem bw_and {n : Nat} {x : Int32} (y : Int32) (hx : bw n x) : bw n (x &&& y) := fun i h => by rw [b_and, hx i h]; rfl
theorem bw_bI {n k : Nat} (hk : k < n) (hn : n ≤ 32) : bw n (bI k) := fun i h => by rw [bI_bt' (by omega), decide_eq_false (by omega)]
/-- the mask of a list -/
def mkL : List Nat → Int32
  | [] => 0
  | k :: l => bI k ||| mkL l
theorem mkL_bt : ∀ {l : List Nat}, (∀ a, a ∈ l → a < 32) → ∀ i, bt (mkL l) i = decide (i ∈ l) := by
  intro l
  induction l with
  | nil => intro _ i; show bt 0 i = _; rw [b_0]; simp
  | cons k l ih =>
    intro h i
    show bt (bI k ||| mkL l) i = _
    rw [b_or, bI_bt' (h k List.mem_cons_self), ih (fun a ha => h a (List.mem_cons_of_mem _ ha)) i]
    by_cases h1 : i = k
    · simp [h1]
    · by_cases h2 : i ∈ l
      · simp [h2]
      · simp [h1, h2]
theorem mkL_els {l : List Nat} (h : ∀ a, a ∈ l → a < 32) (hp : l.Pairwise (· < ·)) : els (mkL l) = l := by
  refine pw_ext els_pw hp (fun a => ?_)
  rw [els_mem, mkL_bt h]
  simp
theorem els_mkL (x : Int32) : mkL (els x) = x := by
  apply b_ext
  intro i hi
  rw [mkL_bt (fun a ha => by have := ft_mem.mp ha; omega)]
  cases g : bt x i with
  | true => exact decide_eq_true (els_mem.mpr g)
  | false =>
    refine decide_eq_false (fun g2 => ?_)
    rw [els_mem.mp g2] at g; cases g
theorem mkL_app : ∀ (l l' : List Nat), mkL (l ++ l') = mkL l ||| mkL l' := by
  intro l l'
  induction l with
  | nil => show mkL l' = 0 ||| mkL l'; apply b_ext; intro i _; rw [b_or, b_0]; simp
  | cons k l ih => show bI k ||| mkL (l ++ l') = (bI k ||| mkL l) ||| mkL l'; rw [ih]; apply b_ext; intro i _; rw [b_or, b_or, b_or, b_or, Bool.or_assoc]
theorem els_ft {n : Nat} {x : Int32} (h : bw n x) (hn : n ≤ 32) : els x = ft (bt x) 0 n := by
  refine pw_ext els_pw ft_pw (fun a => ?_)
  rw [els_mem, ft_mem]
  constructor
  · intro g; exact ⟨Nat.zero_le _, by have := bw_lt h g; omega, g⟩
  · intro g; exact g.2.2
/-- in order, or turned round -/
def lsx (t : Bool) (x : Int32) : List Nat := if t = true then (els x).reverse else els x
/-- those of a list that stay by a test f (place, position) -/
def sft (f : Nat → Nat → Bool) : Nat → List Nat → List Nat
  | _, [] => []
  | p, x :: r => if f x p = true then x :: sft f (p + 1) r else sft f (p + 1) r
theorem sft_sub {f : Nat → Nat → Bool} : ∀ {l : List Nat} {p : Nat}, (sft f p l).Sublist l := by
  intro l
  induction l with
  | nil => intro p; exact List.Sublist.slnil
  | cons x r ih =>
    intro p
    unfold sft
    by_cases h : f x p = true
    · rw [if_pos h]; exact List.Sublist.cons_cons _ ih
    · rw [if_neg h]; exact List.Sublist.cons _ ih
theorem sft_cong {f g : Nat → Nat → Bool} : ∀ {l : List Nat} {p : Nat}, (∀ x p, x ∈ l → f x p = g x p) → sft f p l = sft g p l := by
  intro l
  induction l with
  | nil => intro p _; rfl
  | cons x r ih =>
    intro p h
    unfold sft
    rw [h x p List.mem_cons_self, ih (fun y q hy => h y q (List.mem_cons_of_mem _ hy))]
theorem lsx_mk {t : Bool} {x : Int32} {l : List Nat} (h : l.Sublist (lsx t x)) : lsx t (mkL l) = l := by
  unfold lsx at h ⊢
  have h32 : ∀ a, a ∈ l → a < 32 := by
    intro a ha
    have := h.subset ha
    by_cases e : t = true
    · rw [if_pos e, List.mem_reverse] at this
      have := ft_mem.mp this; omega
    · rw [if_neg e] at this
      have := ft_mem.mp this; omega
  by_cases e : t = true
  · rw [if_pos e] at h ⊢
    have hs : l.reverse.Sublist (els x) := by
      have := h.reverse
      rw [List.reverse_reverse] at this; exact this
    have hm : mkL l.reverse = mkL l := by
      apply b_ext
      intro i _
      rw [mkL_bt h32, mkL_bt (fun a ha => h32 a (List.mem_reverse.mp ha))]
      simp
    rw [← hm, mkL_els (fun a ha => h32 a (List.mem_reverse.mp ha)) (els_pw.sublist hs), List.reverse_reverse]
  · rw [if_neg e] at h ⊢
    exact mkL_els h32 (els_pw.sublist h)
/-! sums over a list -/
def smv (f : Nat → Int32) : List Nat → Int32
  | [] => 0
  | k :: l => f k + smv f l
theorem smv_perm {f : Nat → Int32} {l l' : List Nat} (h : l.Perm l') : smv f l = smv f l' := by
  induction h with
  | nil => rfl
  | cons x _ ih => show f x + _ = f x + _; rw [ih]
  | swap x y l => show f y + (f x + smv f l) = f x + (f y + smv f l); rw [← Int32.add_assoc, ← Int32.add_assoc, Int32.add_comm (f y) (f x)]
  | trans _ _ ih1 ih2 => rw [ih1, ih2]
theorem smv_map (f : Nat → Int32) (g : Nat → Nat) : ∀ l : List Nat, smv f (l.map g) = smv (fun x => f (g x)) l := by
  intro l
  induction l with
  | nil => rfl
  | cons x l ih => show f (g x) + _ = f (g x) + _; rw [ih]
theorem smv_cong {f g : Nat → Int32} : ∀ {l : List Nat}, (∀ x, x ∈ l → f x = g x) → smv f l = smv g l := by
  intro l
  induction l with
  | nil => intro _; rfl
  | cons x l ih => intro h; show f x + _ = g x + _; rw [h x List.mem_cons_self, ih (fun y hy => h y (List.mem_cons_of_mem _ hy))]
/-! the same set, by places (P) and by nodes (N) -/
def pm (n : Nat) (row : Nat → Nat) (P N : Int32) : Prop := (∀ i, i < n → bt N (row i) = bt P i) ∧ (∀ k, (∀ i, i < n → row i ≠ k) → bt N k = false) ∧ bw n P
def rw24 (n : Nat) (row : Nat → Nat) : Prop := n ≤ 24 ∧ (∀ i, i < n → row i < 24) ∧ (∀ i j, i < n → j < n → row i = row j → i = j)
theorem pm_perm {n : Nat} {row : Nat → Nat} {P N : Int32} (hr : rw24 n row) (h : pm n row P N) : (els N).Perm ((els P).map row) := by
  refine (List.perm_ext_iff_of_nodup ?_ ?_).mpr (fun a => ?_)
  · exact (els_pw (x := N)).imp (fun g e => by omega)
  · have hp := els_pw (x := P)
    refine List.Pairwise.map row (R := fun a b => a < b ∧ a < n ∧ b < n) (fun a b g e => ?_) ?_
    · have := hr.2.2 a b g.2.1 g.2.2 e
      omega
    · exact hp.imp_of_mem (fun ha hb g => ⟨g, bw_els h.2.2 ha, bw_els h.2.2 hb⟩)
  · rw [els_mem, List.mem_map]
    constructor
    · intro g
      by_cases e : ∃ i, i < n ∧ row i = a
      · obtain ⟨i, h1, h2⟩ := e
        refine ⟨i, ?_, h2⟩
        rw [els_mem, ← h.1 i h1, h2]; exact g
      · rw [h.2.1 a (fun i h1 h2 => e ⟨i, h1, h2⟩)] at g; cases g
    · rintro ⟨i, h1, h2⟩
      rw [← h2, h.1 i (bw_els h.2.2 h1)]
      exact els_mem.mp h1
theorem pm_len {n : Nat} {row : Nat → Nat} {P N : Int32} (hr : rw24 n row) (h : pm n row P N) : (els N).length = (els P).length := by
  rw [(pm_perm hr h).length_eq, List.length_map]
theorem pm_sum {n : Nat} {row : Nat → Nat} {P N : Int32} (hr : rw24 n row) (h : pm n row P N) (f : Nat → Int32) : smv f (els N) = smv (fun x => f (row x)) (els P) := by
  rw [smv_perm (pm_perm hr h), smv_map]
theorem pm_0 {n : Nat} {row : Nat → Nat} : pm n row 0 0 := ⟨fun i _ => by rw [b_0, b_0], fun k _ => b_0 k, bw_0⟩
theorem pm_z {n : Nat} {row : Nat → Nat} {P N : Int32} (h : pm n row P N) : N = 0 ↔ P = 0 := by
  constructor
  · intro e
    apply b_ext
    intro i _
    rw [b_0]
    rcases Nat.lt_or_ge i n with g | g
    · rw [← h.1 i g, e, b_0]
    · exact h.2.2 i g
  · intro e
    apply b_ext
    intro k _
    rw [b_0]
    by_cases g : ∃ i, i < n ∧ row i = k
    · obtain ⟨i, h1, h2⟩ := g
      rw [← h2, h.1 i h1, e, b_0]
    · exact h.2.1 k (fun i h1 h2 => g ⟨i, h1, h2⟩)
theorem pm_or {n : Nat} {row : Nat → Nat} {P N P' N' : Int32} (h : pm n row P N) (h' : pm n row P' N') : pm n row (P ||| P') (N ||| N') :=
  ⟨fun i g => by rw [b_or, b_or, h.1 i g, h'.1 i g], fun k g => by rw [b_or, h.2.1 k g, h'.2.1 k g]; rfl, bw_or h.2.2 h'.2.2⟩
theorem pm_bI {n : Nat} {row : Nat → Nat} (hr : rw24 n row) {x : Nat} (hx : x < n) : pm n row (bI x) (bI (row x)) := by
  have h1 := hr.1
  have h2 := hr.2.1 x hx
  refine ⟨fun i hi => ?_, fun k hk => ?_, bw_bI hx (by omega)⟩
  · rw [bI_bt' (by omega), bI_bt' (by omega)]
    by_cases e : i = x
    · subst e; simp
    · rw [decide_eq_false e, decide_eq_false (fun g => e (hr.2.2 i x hi hx g))]
  · rw [bI_bt' (by omega), decide_eq_false (fun g => hk x hx g.symm)]
theorem pm_mk {n : Nat} {row : Nat → Nat} (hr : rw24 n row) : ∀ {l : List Nat}, (∀ a, a ∈ l → a < n) → pm n row (mkL l) (mkL (l.map row)) := by
  intro l
  induction l with
  | nil => intro _; exact pm_0
  | cons x l ih => intro h; exact pm_or (pm_bI hr (h x List.mem_cons_self)) (ih (fun a ha => h a (List.mem_cons_of_mem _ ha)))
