/-! trees as rows of depths: n places, d = depth by place -/
set_option maxRecDepth 100000
def bhA (n : Nat) (d : Nat → Nat) (c : Nat) : Nat → Nat → Nat
  | 0, k => k
  | f + 1, k => if k < n ∧ c < d k then bhA n d c f (k + 1) else k
/-- where what is below place i ends -/
def bh (n : Nat) (d : Nat → Nat) (i : Nat) : Nat := bhA n d (d i) (n - (i + 1)) (i + 1)
def isB (n : Nat) (d : Nat → Nat) (i j : Nat) : Prop := i < j ∧ j ≤ n ∧ (∀ k, i < k → k < j → d i < d k) ∧ (j < n → d j ≤ d i)
theorem bhA_spec {n : Nat} {d : Nat → Nat} {c : Nat} : ∀ (f k : Nat), k + f = n → k ≤ bhA n d c f k ∧ bhA n d c f k ≤ n ∧ (∀ x, k ≤ x → x < bhA n d c f k → c < d x) ∧ (bhA n d c f k < n → d (bhA n d c f k) ≤ c) := by
  intro f
  induction f with
  | zero => intro k h; exact ⟨Nat.le_refl _, by show k ≤ n; omega, fun x h1 h2 => absurd h2 (by show ¬ x < k; omega), fun h2 => absurd h2 (by show ¬ k < n; omega)⟩
  | succ f ih =>
    intro k h
    unfold bhA
    by_cases g : k < n ∧ c < d k
    · rw [if_pos g]
      obtain ⟨h1, h2, h3, h4⟩ := ih (k + 1) (by omega)
      refine ⟨by omega, h2, fun x g1 g2 => ?_, h4⟩
      by_cases e : x = k
      · rw [e]; exact g.2
      · exact h3 x (by omega) g2
    · rw [if_neg g]
      exact ⟨Nat.le_refl _, by omega, fun x g1 g2 => absurd g2 (by omega), fun g2 => by omega⟩
theorem bh_spec {n : Nat} {d : Nat → Nat} {i : Nat} (hi : i < n) : isB n d i (bh n d i) := by
  have := bhA_spec (n := n) (d := d) (c := d i) (n - (i + 1)) (i + 1) (by omega)
  unfold bh
  exact ⟨by omega, this.2.1, fun k h1 h2 => this.2.2.1 k (by omega) h2, this.2.2.2⟩
theorem isB_uniq {n : Nat} {d : Nat → Nat} {i j j' : Nat} (h : isB n d i j) (h' : isB n d i j') : j = j' := by
  obtain ⟨h1, h2, h3, h4⟩ := h
  obtain ⟨g1, g2, g3, g4⟩ := h'
  rcases Nat.lt_trichotomy j j' with e | e | e
  · have := g3 j h1 e
    have := h4 (by omega)
    omega
  · exact e
  · have := h3 j' g1 e
    have := g4 (by omega)
    omega
theorem bh_eq {n : Nat} {d : Nat → Nat} {i j : Nat} (h : isB n d i j) : bh n d i = j := isB_uniq (bh_spec (by have := h.1; have := h.2.1; omega)) h
theorem bh_lt {n : Nat} {d : Nat → Nat} {i : Nat} (hi : i < n) : i < bh n d i := (bh_spec hi).1
theorem bh_le {n : Nat} {d : Nat → Nat} {i : Nat} (hi : i < n) : bh n d i ≤ n := (bh_spec hi).2.1
theorem bh_in {n : Nat} {d : Nat → Nat} {i k : Nat} (hi : i < n) (h1 : i < k) (h2 : k < bh n d i) : d i < d k := (bh_spec hi).2.2.1 k h1 h2
theorem bh_at {n : Nat} {d : Nat → Nat} {i : Nat} (hi : i < n) (h : bh n d i < n) : d (bh n d i) ≤ d i := (bh_spec hi).2.2.2 h
/-- a tree: the root alone at depth 0, none deeper than one below the place ahead -/
def wfT (n : Nat) (d : Nat → Nat) : Prop := (0 < n → d 0 = 0) ∧ ∀ i, i + 1 < n → 1 ≤ d (i + 1) ∧ d (i + 1) ≤ d i + 1
def paA (d : Nat → Nat) (c : Nat) : Nat → Nat
  | 0 => 0
  | k + 1 => if d k < c then k else paA d c k
/-- the parent's place -/
def pa (d : Nat → Nat) (i : Nat) : Nat := paA d (d i) i
def isP (d : Nat → Nat) (i j : Nat) : Prop := j < i ∧ d j < d i ∧ ∀ k, j < k → k < i → d i ≤ d k
theorem paA_spec {d : Nat → Nat} {c : Nat} : ∀ (i : Nat), (∃ j, j < i ∧ d j < c) → paA d c i < i ∧ d (paA d c i) < c ∧ ∀ k, paA d c i < k → k < i → c ≤ d k := by
  intro i
  induction i with
  | zero => rintro ⟨j, h, _⟩; omega
  | succ i ih =>
    rintro ⟨j, h1, h2⟩
    unfold paA
    by_cases g : d i < c
    · rw [if_pos g]; exact ⟨by omega, g, fun k g1 g2 => by omega⟩
    · rw [if_neg g]
      have hj : j ≠ i := fun e => g (by rw [← e]; exact h2)
      obtain ⟨a1, a2, a3⟩ := ih ⟨j, by omega, h2⟩
      refine ⟨by omega, a2, fun k g1 g2 => ?_⟩
      by_cases e : k = i
      · rw [e]; omega
      · exact a3 k g1 (by omega)
theorem pa_spec' {d : Nat → Nat} {i : Nat} (h : ∃ j, j < i ∧ d j < d i) : isP d i (pa d i) := paA_spec i h
theorem isP_uniq {d : Nat → Nat} {i j j' : Nat} (h : isP d i j) (h' : isP d i j') : j = j' := by
  obtain ⟨h1, h2, h3⟩ := h
  obtain ⟨g1, g2, g3⟩ := h'
  rcases Nat.lt_trichotomy j j' with e | e | e
  · have := h3 j' e g1; omega
  · exact e
  · have := g3 j e h1; omega
theorem pa_eq {d : Nat → Nat} {i j : Nat} (h : isP d i j) : pa d i = j := isP_uniq (pa_spec' ⟨j, h.1, h.2.1⟩) h
theorem wfT_0 {n : Nat} {d : Nat → Nat} (h : wfT n d) (hn : 0 < n) : d 0 = 0 := h.1 hn
theorem wfT_pos {n : Nat} {d : Nat → Nat} (h : wfT n d) {i : Nat} (h0 : 0 < i) (hi : i < n) : 0 < d i := by
  have := (h.2 (i - 1) (by omega)).1
  rw [show i - 1 + 1 = i by omega] at this
  omega
theorem wfT_le {n : Nat} {d : Nat → Nat} (h : wfT n d) : ∀ {i : Nat}, i < n → d i ≤ i := by
  intro i
  induction i with
  | zero => intro hi; rw [h.1 hi]; omega
  | succ i ih => intro hi; have := (h.2 i hi).2; have := ih (by omega); omega
theorem pa_spec {n : Nat} {d : Nat → Nat} (h : wfT n d) {i : Nat} (h0 : 0 < i) (hi : i < n) : isP d i (pa d i) := by
  refine pa_spec' ⟨0, h0, ?_⟩
  rw [h.1 (by omega)]; exact wfT_pos h h0 hi
theorem pa_lt {n : Nat} {d : Nat → Nat} (h : wfT n d) {i : Nat} (h0 : 0 < i) (hi : i < n) : pa d i < i := (pa_spec h h0 hi).1
theorem pa_d {n : Nat} {d : Nat → Nat} (h : wfT n d) {i : Nat} (h0 : 0 < i) (hi : i < n) : d i = d (pa d i) + 1 := by
  obtain ⟨h1, h2, h3⟩ := pa_spec h h0 hi
  have h4 := (h.2 (pa d i) (by omega)).2
  by_cases e : pa d i + 1 = i
  · rw [e] at h4; omega
  · have := h3 (pa d i + 1) (by omega) (by omega); omega
theorem pa_bh {n : Nat} {d : Nat → Nat} (h : wfT n d) {i : Nat} (h0 : 0 < i) (hi : i < n) : i < bh n d (pa d i) := by
  obtain ⟨h1, h2, h3⟩ := pa_spec h h0 hi
  obtain ⟨g1, g2, g3, g4⟩ := bh_spec (n := n) (d := d) (i := pa d i) (by omega)
  rcases Nat.lt_or_ge i (bh n d (pa d i)) with e | e
  · exact e
  · exfalso
    have g5 := g4 (by omega)
    by_cases e2 : bh n d (pa d i) = i
    · rw [e2] at g5; omega
    · have := h3 (bh n d (pa d i)) g1 (by omega); omega
/-- what is below something below is below -/
theorem bh_nest {n : Nat} {d : Nat → Nat} {i k : Nat} (hi : i < n) (h1 : i < k) (h2 : k < bh n d i) : bh n d k ≤ bh n d i := by
  obtain ⟨g1, g2, g3, g4⟩ := bh_spec (n := n) (d := d) hi
  have hk : k < n := by omega
  obtain ⟨a1, a2, a3, a4⟩ := bh_spec (n := n) (d := d) hk
  rcases Nat.lt_or_ge (bh n d i) (bh n d k) with e | e
  · exfalso
    have := a3 (bh n d i) (by omega) e
    have := g4 (by omega)
    have := g3 k h1 h2
    omega
  · exact e
theorem pa_below {n : Nat} {d : Nat → Nat} (h : wfT n d) {i k : Nat} (hi : i < n) (h1 : i < k) (h2 : k < bh n d i) (hd : d k = d i + 1) : pa d k = i := by
  refine pa_eq ⟨h1, by omega, fun x g1 g2 => ?_⟩
  have := bh_in hi g1 (by omega : x < bh n d i)
  omega
theorem pa_iff {n : Nat} {d : Nat → Nat} (h : wfT n d) {i k : Nat} (hi : i < n) (hk : k < n) : (0 < k ∧ pa d k = i) ↔ (i < k ∧ k < bh n d i ∧ d k = d i + 1) := by
  constructor
  · rintro ⟨h0, rfl⟩
    exact ⟨pa_lt h h0 hk, pa_bh h h0 hk, pa_d h h0 hk⟩
  · rintro ⟨h1, h2, h3⟩
    exact ⟨by omega, pa_below h hi h1 h2 h3⟩
/-- those above k: its parent and those above that -/
theorem above_iff {n : Nat} {d : Nat → Nat} (h : wfT n d) {j k : Nat} (h0 : 0 < k) (hk : k < n) : (j < k ∧ k < bh n d j) ↔ (j = pa d k ∨ (j < pa d k ∧ pa d k < bh n d j)) := by
  obtain ⟨p1, p2, p3⟩ := pa_spec h h0 hk
  constructor
  · rintro ⟨h1, h2⟩
    have hd := bh_in (by omega) h1 h2
    rcases Nat.lt_trichotomy j (pa d k) with e | e | e
    · exact Or.inr ⟨e, by omega⟩
    · exact Or.inl e
    · have := p3 j e h1; omega
  · rintro (rfl | ⟨h1, h2⟩)
    · exact ⟨p1, pa_bh h h0 hk⟩
    · have := bh_nest (by omega : j < n) h1 h2
      have := pa_bh h h0 hk
      exact ⟨by omega, by omega⟩
/-- place of child k, or where a further one would stand -/
def cp (n : Nat) (d : Nat → Nat) (p : Nat) : Nat → Nat
  | 0 => p + 1
  | k + 1 => bh n d (cp n d p k)
theorem cp_s (n : Nat) (d : Nat → Nat) (p k : Nat) : cp n d p (k + 1) = bh n d (cp n d p k) := rfl
/-- there are children ahead of k -/
def hc (n : Nat) (d : Nat → Nat) (p k : Nat) : Prop := ∀ j, j < k → cp n d p j < bh n d p
theorem hc_0 {n : Nat} {d : Nat → Nat} {p : Nat} : hc n d p 0 := fun j h => absurd h (Nat.not_lt_zero _)
theorem hc_s {n : Nat} {d : Nat → Nat} {p k : Nat} : hc n d p (k + 1) ↔ hc n d p k ∧ cp n d p k < bh n d p := by
  constructor
  · intro h; exact ⟨fun j hj => h j (by omega), h k (by omega)⟩
  · rintro ⟨h1, h2⟩ j hj
    by_cases e : j = k
    · rw [e]; exact h2
    · exact h1 j (by omega)
theorem hc_le {n : Nat} {d : Nat → Nat} {p k k' : Nat} (h : hc n d p k) (hk : k' ≤ k) : hc n d p k' := fun j hj => h j (by omega)
theorem cp_spec {n : Nat} {d : Nat → Nat} (h : wfT n d) {p : Nat} (hp : p < n) : ∀ {k : Nat}, hc n d p k → p + k < cp n d p k ∧ cp n d p k ≤ bh n d p ∧ (cp n d p k < bh n d p → d (cp n d p k) = d p + 1) ∧ (∀ x, p < x → x < cp n d p k → d p + 1 ≤ d x) := by
  intro k
  obtain ⟨g1, g2, g3, g4⟩ := bh_spec (n := n) (d := d) hp
  induction k with
  | zero =>
    intro _
    refine ⟨by show p + 0 < p + 1; omega, g1, fun e => ?_, fun x e1 e2 => absurd e2 (by show ¬ x < p + 1; omega)⟩
    have e : p + 1 < bh n d p := e
    have := (h.2 p (by omega)).2
    have := g3 (p + 1) (by omega) e
    show d (p + 1) = _
    omega
  | succ k ih =>
    intro hk
    obtain ⟨hk1, hk2⟩ := hc_s.mp hk
    obtain ⟨a1, a2, a3, a4⟩ := ih hk1
    have hc1 : cp n d p k < n := by omega
    have hd := a3 hk2
    obtain ⟨b1, b2, b3, b4⟩ := bh_spec (n := n) (d := d) hc1
    rw [cp_s]
    have hn := bh_nest hp (by omega) hk2
    refine ⟨by omega, hn, fun e => ?_, fun x e1 e2 => ?_⟩
    · have := b4 (by omega)
      have := g3 (bh n d (cp n d p k)) (by omega) e
      omega
    · rcases Nat.lt_trichotomy x (cp n d p k) with c | c | c
      · exact a4 x e1 c
      · rw [c]; omega
      · have := b3 x c e2; omega
/-- next child or none -/
theorem cp_next {n : Nat} {d : Nat → Nat} (h : wfT n d) {p : Nat} (hp : p < n) {k : Nat} (hk : hc n d p (k + 1)) : (bh n d (cp n d p k) < n ∧ d (bh n d (cp n d p k)) = d (cp n d p k)) ↔ cp n d p (k + 1) < bh n d p := by
  obtain ⟨hk1, hk2⟩ := hc_s.mp hk
  obtain ⟨a1, a2, a3, a4⟩ := cp_spec h hp hk1
  obtain ⟨b1, b2, b3, b4⟩ := cp_spec h hp hk
  obtain ⟨g1, g2, g3, g4⟩ := bh_spec (n := n) (d := d) hp
  rw [cp_s] at b1 b2 b3 b4 ⊢
  have := a3 hk2
  constructor
  · rintro ⟨e1, e2⟩
    rcases Nat.lt_or_ge (bh n d (cp n d p k)) (bh n d p) with c | c
    · exact c
    · have e : bh n d (cp n d p k) = bh n d p := by omega
      rw [e] at e1 e2
      have := g4 e1
      omega
  · intro e
    have := b3 e
    exact ⟨by omega, by omega⟩
theorem cp_first {n : Nat} {d : Nat → Nat} {p : Nat} (hp : p < n) : (p + 1 < n ∧ d p < d (p + 1)) ↔ cp n d p 0 < bh n d p := by
  obtain ⟨g1, g2, g3, g4⟩ := bh_spec (n := n) (d := d) hp
  show _ ↔ p + 1 < bh n d p
  constructor
  · rintro ⟨e1, e2⟩
    rcases Nat.lt_or_ge (p + 1) (bh n d p) with c | c
    · exact c
    · have e : bh n d p = p + 1 := by omega
      have := g4 (by omega)
      rw [e] at this; omega
  · intro e; exact ⟨by omega, g3 (p + 1) (by omega) e⟩
/-- the number of children -/
theorem hc_ex {n : Nat} {d : Nat → Nat} (h : wfT n d) {p : Nat} (hp : p < n) : ∃ m, m < n ∧ hc n d p m ∧ cp n d p m = bh n d p := by
  have key : ∀ f k : Nat, hc n d p k → bh n d p ≤ cp n d p k + f → ∃ m, hc n d p m ∧ cp n d p m = bh n d p := by
    intro f
    induction f with
    | zero =>
      intro k hk h2
      have := (cp_spec h hp hk).2.1
      exact ⟨k, hk, by omega⟩
    | succ f ih =>
      intro k hk h2
      have h3 := (cp_spec h hp hk).2.1
      by_cases e : cp n d p k = bh n d p
      · exact ⟨k, hk, e⟩
      · have h4 : hc n d p (k + 1) := hc_s.mpr ⟨hk, by omega⟩
        have := bh_lt (n := n) (d := d) (i := cp n d p k) (by have := bh_le (n := n) (d := d) hp; omega)
        exact ih (k + 1) h4 (by rw [cp_s]; omega)
  obtain ⟨m, h1, h2⟩ := key (bh n d p) 0 hc_0 (by omega)
  refine ⟨m, ?_, h1, h2⟩
  have := (cp_spec h hp h1).1
  have := bh_le (n := n) (d := d) hp
  omega
theorem hc_max {n : Nat} {d : Nat → Nat} {p m k : Nat} (h : cp n d p m = bh n d p) (hk : hc n d p k) : k ≤ m := by
  rcases Nat.lt_or_ge m k with e | e
  · have := hk m e; omega
  · exact e
/-! a block put in at a place -/
def ins {α : Type} (at_ m : Nat) (f g : Nat → α) : Nat → α := fun i => if i < at_ then f i else if i < at_ + m then g (i - at_) else f (i - m)
theorem ins_l {α : Type} {a m i : Nat} {f g : Nat → α} (h : i < a) : ins a m f g i = f i := if_pos h
theorem ins_m {α : Type} {a m j : Nat} {f g : Nat → α} (h : j < m) : ins a m f g (a + j) = g j := by
  unfold ins
  rw [if_neg (by omega), if_pos (by omega), show a + j - a = j by omega]
theorem ins_r {α : Type} {a m i : Nat} {f g : Nat → α} (h : a ≤ i) : ins a m f g (i + m) = f i := by
  unfold ins
  rw [if_neg (by omega), if_neg (by omega), show i + m - m = i by omega]
theorem ins_cut {a m : Nat} (i : Nat) : i < a ∨ (∃ j, j < m ∧ i = a + j) ∨ (∃ k, a ≤ k ∧ i = k + m) := by
  rcases Nat.lt_or_ge i a with h | h
  · exact Or.inl h
  · rcases Nat.lt_or_ge i (a + m) with h2 | h2
    · exact Or.inr (Or.inl ⟨i - a, by omega, by omega⟩)
    · exact Or.inr (Or.inr ⟨i - m, by omega, by omega⟩)
/-- where a block with root at depth c may stand as a child of p -/
def okA (n : Nat) (d : Nat → Nat) (p a c : Nat) : Prop := p < a ∧ a ≤ n ∧ d p + 1 = c ∧ (∀ x, p < x → x < a → c ≤ d x) ∧ (a < n → d a ≤ c)
/-- a block: its root at depth c, the rest below it -/
def okB (m : Nat) (g : Nat → Nat) (c : Nat) : Prop := 0 < m ∧ g 0 = c ∧ (∀ j, 0 < j → j < m → c < g j) ∧ (∀ j, j + 1 < m → g (j + 1) ≤ g j + 1)
theorem okA_cp {n : Nat} {d : Nat → Nat} (h : wfT n d) {p k : Nat} (hp : p < n) (hk : hc n d p k) : okA n d p (cp n d p k) (d p + 1) := by
  obtain ⟨a1, a2, a3, a4⟩ := cp_spec h hp hk
  obtain ⟨g1, g2, g3, g4⟩ := bh_spec (n := n) (d := d) hp
  refine ⟨by omega, by omega, rfl, a4, fun e => ?_⟩
  rcases Nat.lt_or_ge (cp n d p k) (bh n d p) with c | c
  · rw [a3 c]; exact Nat.le_refl _
  · have e2 : cp n d p k = bh n d p := by omega
    rw [e2] at e ⊢
    have := g4 e; omega
section INS
variable {n m p a c : Nat} {d g : Nat → Nat}
theorem wfT_ins (h : wfT n d) (hA : okA n d p a c) (hB : okB m g c) : wfT (n + m) (ins a m d g) := by
  obtain ⟨a1, a2, a3, a4, a5⟩ := hA
  obtain ⟨b1, b2, b3, b4⟩ := hB
  refine ⟨fun _ => by rw [ins_l (by omega)]; exact h.1 (by omega), fun i hi => ?_⟩
  have hpc : ∀ x, p ≤ x → x < a → c ≤ d x + 1 := by
    intro x h1 h2
    by_cases e : x = p
    · rw [e]; omega
    · have := a4 x (by omega) h2; omega
  rcases ins_cut (a := a) (m := m) i with e | ⟨j, e1, rfl⟩ | ⟨k, e1, rfl⟩
  · rw [ins_l (g := g) (f := d) e]
    by_cases e2 : i + 1 < a
    · rw [ins_l e2]; exact h.2 i (by omega)
    · have e3 : i + 1 = a + 0 := by omega
      rw [e3, ins_m b1, b2]
      have := hpc i (by omega) e
      omega
  · rw [ins_m e1]
    by_cases e2 : j + 1 < m
    · rw [show a + j + 1 = a + (j + 1) by omega, ins_m e2]
      have := b3 (j + 1) (by omega) e2
      have := b4 j e2
      omega
    · rw [show a + j + 1 = a + m by omega, ins_r (Nat.le_refl _)]
      have h1 := a5 (by omega)
      have h2 := wfT_pos h (by omega : 0 < a) (by omega)
      have h3 : c ≤ g j := by
        by_cases e : j = 0
        · rw [e]; omega
        · have := b3 j (by omega) e1; omega
      omega
  · rw [show k + m + 1 = k + 1 + m by omega, ins_r e1, ins_r (by omega)]
    exact h.2 k (by omega)
theorem ins_bh_l (h : wfT n d) (hA : okA n d p a c) (hB : okB m g c) {i : Nat} (hi : i < a) : bh (n + m) (ins a m d g) i = if d i < c ∧ a ≤ bh n d i then bh n d i + m else bh n d i := by
  obtain ⟨a1, a2, a3, a4, a5⟩ := hA
  obtain ⟨b1, b2, b3, b4⟩ := hB
  obtain ⟨g1, g2, g3, g4⟩ := bh_spec (n := n) (d := d) (i := i) (by omega)
  have hg : ∀ j, j < m → c ≤ g j := by
    intro j hj
    by_cases e : j = 0
    · rw [e]; omega
    · have := b3 j (by omega) hj; omega
  by_cases e : d i < c ∧ a ≤ bh n d i
  · rw [if_pos e]
    refine bh_eq ⟨by omega, by omega, fun k h1 h2 => ?_, fun h1 => ?_⟩
    · rw [ins_l hi]
      rcases ins_cut (a := a) (m := m) k with f | ⟨j, e1, rfl⟩ | ⟨x, e1, rfl⟩
      · rw [ins_l f]; exact g3 k h1 (by omega)
      · rw [ins_m e1]; have := hg j e1; omega
      · rw [ins_r e1]; exact g3 x (by omega) (by omega)
    · rw [ins_l hi, ins_r e.2]; exact g4 (by omega)
  · rw [if_neg e]
    have hle : bh n d i ≤ a := by
      rcases Nat.lt_or_ge a (bh n d i) with f | f
      · have h1 := g3 a hi f
        have h2 := a5 (by omega)
        exact absurd ⟨by omega, by omega⟩ e
      · exact f
    refine bh_eq ⟨g1, by omega, fun k h1 h2 => ?_, fun h1 => ?_⟩
    · rw [ins_l hi, ins_l (by omega)]; exact g3 k h1 h2
    · rw [ins_l hi]
      by_cases f : bh n d i < a
      · rw [ins_l f]; exact g4 (by omega)
      · have e2 : bh n d i = a + 0 := by omega
        rw [e2, ins_m b1, b2]
        rcases Nat.lt_or_ge (d i) c with f2 | f2
        · exact absurd ⟨f2, by omega⟩ e
        · exact f2
theorem ins_bh_m (hA : okA n d p a c) (hB : okB m g c) {j : Nat} (hj : j < m) : bh (n + m) (ins a m d g) (a + j) = a + bh m g j := by
  obtain ⟨a1, a2, a3, a4, a5⟩ := hA
  obtain ⟨b1, b2, b3, b4⟩ := hB
  obtain ⟨g1, g2, g3, g4⟩ := bh_spec (n := m) (d := g) (i := j) hj
  refine bh_eq ⟨by omega, by omega, fun k h1 h2 => ?_, fun h1 => ?_⟩
  · rw [ins_m hj]
    obtain ⟨x, rfl⟩ : ∃ x, k = a + x := ⟨k - a, by omega⟩
    rw [ins_m (by omega)]; exact g3 x (by omega) (by omega)
  · rw [ins_m hj]
    by_cases e : bh m g j < m
    · rw [ins_m e]; exact g4 e
    · rw [show a + bh m g j = a + m by omega, ins_r (Nat.le_refl _)]
      have := a5 (by omega)
      by_cases f : j = 0
      · rw [f, b2]; omega
      · have := b3 j (by omega) hj; omega
theorem ins_bh_r {i : Nat} (h1 : a ≤ i) (hi : i < n) : bh (n + m) (ins a m d g) (i + m) = bh n d i + m := by
  obtain ⟨g1, g2, g3, g4⟩ := bh_spec (n := n) (d := d) (i := i) hi
  refine bh_eq ⟨by omega, by omega, fun k e1 e2 => ?_, fun e1 => ?_⟩
  · rw [ins_r h1]
    obtain ⟨x, rfl⟩ : ∃ x, k = x + m := ⟨k - m, by omega⟩
    rw [ins_r (by omega)]; exact g3 x (by omega) (by omega)
  · rw [ins_r h1, ins_r (by omega)]; exact g4 (by omega)
theorem ins_pa_l {i : Nat} (h : wfT n d) (h0 : 0 < i) (hi : i < a) (ha : a ≤ n) : pa (ins a m d g) i = pa d i := by
  obtain ⟨g1, g2, g3⟩ := pa_spec h h0 (by omega : i < n)
  refine pa_eq ⟨g1, ?_, fun k e1 e2 => ?_⟩
  · rw [ins_l hi, ins_l (by omega)]; exact g2
  · rw [ins_l hi, ins_l (by omega)]; exact g3 k e1 e2
theorem ins_pa_0 (hA : okA n d p a c) (hB : okB m g c) : pa (ins a m d g) a = p := by
  obtain ⟨a1, a2, a3, a4, a5⟩ := hA
  have e : ins a m d g a = c := by
    have := ins_m (a := a) (f := d) (g := g) hB.1
    rw [Nat.add_zero] at this; rw [this]; exact hB.2.1
  refine pa_eq ⟨a1, ?_, fun k e1 e2 => ?_⟩
  · rw [e, ins_l a1]; omega
  · rw [e, ins_l e2]; exact a4 k e1 e2
theorem okB_pa (hB : okB m g c) {j : Nat} (h0 : 0 < j) (hj : j < m) : isP g j (pa g j) := by
  refine pa_spec' ⟨0, h0, ?_⟩
  rw [hB.2.1]; exact hB.2.2.1 j h0 hj
theorem ins_pa_m (hB : okB m g c) {j : Nat} (h0 : 0 < j) (hj : j < m) : pa (ins a m d g) (a + j) = a + pa g j := by
  obtain ⟨g1, g2, g3⟩ := okB_pa hB h0 hj
  refine pa_eq ⟨by omega, ?_, fun k e1 e2 => ?_⟩
  · rw [ins_m hj, ins_m (by omega)]; exact g2
  · obtain ⟨x, rfl⟩ : ∃ x, k = a + x := ⟨k - a, by omega⟩
    rw [ins_m hj, ins_m (by omega)]; exact g3 x (by omega) (by omega)
theorem ins_pa_r (h : wfT n d) (hA : okA n d p a c) (hB : okB m g c) {i : Nat} (h1 : a ≤ i) (hi : i < n) : pa (ins a m d g) (i + m) = if pa d i < a then pa d i else pa d i + m := by
  obtain ⟨a1, a2, a3, a4, a5⟩ := hA
  obtain ⟨b1, b2, b3, b4⟩ := hB
  obtain ⟨g1, g2, g3⟩ := pa_spec h (by omega) hi
  by_cases e : pa d i < a
  · rw [if_pos e]
    have hic : d i ≤ c := by
      by_cases f : i = a
      · rw [f]; exact a5 (by omega)
      · have := g3 a e (by omega)
        have := a5 (by omega)
        omega
    refine pa_eq ⟨by omega, ?_, fun k e1 e2 => ?_⟩
    · rw [ins_r h1, ins_l e]; exact g2
    · rw [ins_r h1]
      rcases ins_cut (a := a) (m := m) k with f | ⟨j, f1, rfl⟩ | ⟨x, f1, rfl⟩
      · rw [ins_l f]; exact g3 k e1 (by omega)
      · rw [ins_m f1]
        by_cases f : j = 0
        · rw [f, b2]; exact hic
        · have := b3 j (by omega) f1; omega
      · rw [ins_r f1]; exact g3 x (by omega) (by omega)
  · rw [if_neg e]
    refine pa_eq ⟨by omega, ?_, fun k e1 e2 => ?_⟩
    · rw [ins_r h1, ins_r (by omega)]; exact g2
    · obtain ⟨x, rfl⟩ : ∃ x, k = x + m := ⟨k - m, by omega⟩
      rw [ins_r h1, ins_r (by omega)]; exact g3 x (by omega) (by omega)
end INS
