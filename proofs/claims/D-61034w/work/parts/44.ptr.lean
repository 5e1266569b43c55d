/-! pointers of a tree: first child, next sibling, parent -/
set_option maxRecDepth 100000
def FV (n : Nat) (row d : Nat → Nat) (i : Nat) : Int32 := if i + 1 < n ∧ d i < d (i + 1) then nI (row (i + 1)) else -1
def NV (n : Nat) (row d : Nat → Nat) (i : Nat) : Int32 := if bh n d i < n ∧ d (bh n d i) = d i then nI (row (bh n d i)) else -1
def PV (row d : Nat → Nat) (i : Nat) : Int32 := nI (row (pa d i))
def PT (n : Nat) (row d : Nat → Nat) (σ : dS) : Prop := (∀ i, i < n → σ 3 (row i) = FV n row d i) ∧ (∀ i, 0 < i → i < n → σ 4 (row i) = NV n row d i) ∧ (∀ i, 0 < i → i < n → σ 2 (row i) = PV row d i)
/-- child at a place where a block may stand, or none -/
def CV (n : Nat) (row d : Nat → Nat) (a c : Nat) : Int32 := if a < n ∧ d a = c then nI (row a) else -1
section INS
variable {n m p a c : Nat} {d g row rb : Nat → Nat}
theorem FV_l (hA : okA n d p a c) (hB : okB m g c) {i : Nat} (hi : i < a) : FV (n + m) (ins a m row rb) (ins a m d g) i = if i + 1 = a then (if i = p then nI (rb 0) else -1) else FV n row d i := by
  obtain ⟨a1, a2, a3, a4, a5⟩ := hA
  obtain ⟨b1, b2, b3, b4⟩ := hB
  unfold FV
  rw [ins_l hi]
  by_cases e : i + 1 = a
  · rw [if_pos e]
    have e2 : i + 1 = a + 0 := by omega
    rw [e2, ins_m b1, ins_m b1, b2]
    by_cases f : i = p
    · rw [if_pos f, if_pos ⟨by omega, by rw [f]; omega⟩]
    · rw [if_neg f, if_neg]
      intro h
      have := a4 i (by omega) hi
      omega
  · rw [if_neg e, ins_l (by omega), ins_l (by omega)]
    by_cases f : d i < d (i + 1)
    · rw [if_pos ⟨by omega, f⟩, if_pos ⟨by omega, f⟩]
    · rw [if_neg (fun h => f h.2), if_neg (fun h => f h.2)]
theorem FV_l1 (hA : okA n d p a c) {i : Nat} (hi : i + 1 = a) (hp : i ≠ p) : FV n row d i = -1 := by
  obtain ⟨a1, a2, a3, a4, a5⟩ := hA
  unfold FV
  refine if_neg (fun h => ?_)
  have h1 := a4 i (by omega) (by omega)
  rw [hi] at h
  have := a5 h.1
  omega
theorem FV_p (hA : okA n d p a c) (hp : p + 1 = a) : FV n row d p = CV n row d a c := by
  obtain ⟨a1, a2, a3, a4, a5⟩ := hA
  unfold FV CV
  rw [hp]
  by_cases h : a < n
  · have := a5 h
    by_cases e : d a = c
    · rw [if_pos ⟨h, by omega⟩, if_pos ⟨h, e⟩]
    · rw [if_neg (fun f => e (by omega)), if_neg (fun f => e f.2)]
  · rw [if_neg (fun f => h f.1), if_neg (fun f => h f.1)]
theorem okB_le (hB : okB m g c) {j : Nat} (hj : j < m) : c ≤ g j := by
  obtain ⟨b1, b2, b3, b4⟩ := hB
  by_cases e : j = 0
  · rw [e]; omega
  · have := b3 j (by omega) hj; omega
theorem FV_m (hA : okA n d p a c) (hB : okB m g c) {j : Nat} (hj : j < m) : FV (n + m) (ins a m row rb) (ins a m d g) (a + j) = FV m rb g j := by
  unfold FV
  rw [ins_m hj]
  have hc := okB_le hB hj
  obtain ⟨a1, a2, a3, a4, a5⟩ := hA
  by_cases e : j + 1 < m
  · rw [show a + j + 1 = a + (j + 1) by omega, ins_m e, ins_m e]
    by_cases f : g j < g (j + 1)
    · rw [if_pos ⟨by omega, f⟩, if_pos ⟨e, f⟩]
    · rw [if_neg (fun h => f h.2), if_neg (fun h => f h.2)]
  · rw [if_neg (show ¬ (j + 1 < m ∧ g j < g (j + 1)) from fun h => e h.1), show a + j + 1 = a + m by omega, ins_r (Nat.le_refl _)]
    refine if_neg (fun h => ?_)
    have := a5 (by omega)
    omega
theorem FV_r {k : Nat} (h1 : a ≤ k) : FV (n + m) (ins a m row rb) (ins a m d g) (k + m) = FV n row d k := by
  unfold FV
  rw [show k + m + 1 = k + 1 + m by omega, ins_r h1, ins_r (by omega), ins_r (by omega)]
  by_cases f : k + 1 < n ∧ d k < d (k + 1)
  · rw [if_pos f, if_pos ⟨by omega, f.2⟩]
  · rw [if_neg f, if_neg (fun h => f ⟨by omega, h.2⟩)]
theorem NV_l (h : wfT n d) (hA : okA n d p a c) (hB : okB m g c) {i : Nat} (hi : i < a) : NV (n + m) (ins a m row rb) (ins a m d g) i = if bh n d i = a ∧ d i = c then nI (rb 0) else NV n row d i := by
  unfold NV
  rw [ins_bh_l h hA hB hi, ins_l hi]
  obtain ⟨a1, a2, a3, a4, a5⟩ := hA
  obtain ⟨b1, b2, b3, b4⟩ := hB
  obtain ⟨g1, g2, g3, g4⟩ := bh_spec (n := n) (d := d) (i := i) (by omega)
  by_cases e : d i < c ∧ a ≤ bh n d i
  · rw [if_pos e, if_neg (show ¬ (bh n d i = a ∧ d i = c) from fun h => by omega), ins_r e.2, ins_r e.2]
    by_cases f : bh n d i < n ∧ d (bh n d i) = d i
    · rw [if_pos f, if_pos ⟨by omega, f.2⟩]
    · rw [if_neg f, if_neg (fun h => f ⟨by omega, h.2⟩)]
  · rw [if_neg e]
    have hle : bh n d i ≤ a := by
      rcases Nat.lt_or_ge a (bh n d i) with f | f
      · have h1 := g3 a hi f
        have h2 := a5 (by omega)
        exact absurd ⟨by omega, by omega⟩ e
      · exact f
    by_cases f : bh n d i = a
    · have hci : c ≤ d i := by
        rcases Nat.lt_or_ge (d i) c with f2 | f2
        · exact absurd ⟨f2, by omega⟩ e
        · exact f2
      rw [f]
      have e0 : ins a m d g a = c := by
        have := ins_m (a := a) (f := d) (g := g) b1
        rw [Nat.add_zero] at this; rw [this]; exact b2
      have e1 : ins a m row rb a = rb 0 := by
        have := ins_m (a := a) (f := row) (g := rb) b1
        rw [Nat.add_zero] at this; exact this
      rw [e0, e1]
      by_cases f3 : d i = c
      · rw [if_pos ⟨by omega, f3.symm⟩, if_pos ⟨rfl, f3⟩]
      · rw [if_neg (fun h => f3 h.2.symm), if_neg (fun h => f3 h.2), if_neg (fun h => by have := a5 h.1; omega)]
    · rw [if_neg (show ¬ (bh n d i = a ∧ d i = c) from fun h => f h.1), ins_l (by omega), ins_l (by omega)]
      by_cases f2 : d (bh n d i) = d i
      · rw [if_pos ⟨by omega, f2⟩, if_pos ⟨by omega, f2⟩]
      · rw [if_neg (fun h => f2 h.2), if_neg (fun h => f2 h.2)]
theorem okB_bh0 (hB : okB m g c) : bh m g 0 = m := by
  obtain ⟨b1, b2, b3, b4⟩ := hB
  exact bh_eq ⟨b1, Nat.le_refl _, fun k h1 h2 => by rw [b2]; exact b3 k h1 h2, fun h => absurd h (Nat.lt_irrefl _)⟩
theorem NV_0 (hA : okA n d p a c) (hB : okB m g c) : NV (n + m) (ins a m row rb) (ins a m d g) a = CV n row d a c := by
  unfold NV CV
  have e := ins_bh_m hA hB (j := 0) hB.1
  rw [Nat.add_zero, okB_bh0 hB] at e
  have e0 : ins a m d g a = c := by
    have := ins_m (a := a) (f := d) (g := g) hB.1
    rw [Nat.add_zero] at this; rw [this]; exact hB.2.1
  rw [e, e0, ins_r (Nat.le_refl _), ins_r (Nat.le_refl _)]
  by_cases f : a < n ∧ d a = c
  · rw [if_pos f, if_pos ⟨by omega, f.2⟩]
  · rw [if_neg f, if_neg (fun h => f ⟨by omega, h.2⟩)]
theorem NV_m (hA : okA n d p a c) (hB : okB m g c) {j : Nat} (h0 : 0 < j) (hj : j < m) : NV (n + m) (ins a m row rb) (ins a m d g) (a + j) = NV m rb g j := by
  unfold NV
  rw [ins_bh_m hA hB hj, ins_m hj]
  have hb := bh_le (n := m) (d := g) hj
  by_cases e : bh m g j < m
  · rw [ins_m e, ins_m e]
    by_cases f : g (bh m g j) = g j
    · rw [if_pos ⟨by have := hA.2.1; omega, f⟩, if_pos ⟨e, f⟩]
    · rw [if_neg (fun h => f h.2), if_neg (fun h => f h.2)]
  · rw [if_neg (show ¬ (bh m g j < m ∧ g (bh m g j) = g j) from fun h => e h.1), show a + bh m g j = a + m by omega, ins_r (Nat.le_refl _)]
    refine if_neg (fun h => ?_)
    have h1 := hA.2.2.2.2 (by omega)
    have h2 := hB.2.2.1 j h0 hj
    omega
theorem NV_r {k : Nat} (h1 : a ≤ k) (hk : k < n) : NV (n + m) (ins a m row rb) (ins a m d g) (k + m) = NV n row d k := by
  unfold NV
  have hb := bh_lt (n := n) (d := d) hk
  rw [ins_bh_r h1 hk, ins_r h1, ins_r (by omega), ins_r (by omega)]
  by_cases f : bh n d k < n ∧ d (bh n d k) = d k
  · rw [if_pos f, if_pos ⟨by omega, f.2⟩]
  · rw [if_neg f, if_neg (fun h => f ⟨by omega, h.2⟩)]
theorem PV_l (h : wfT n d) (hA : okA n d p a c) {i : Nat} (h0 : 0 < i) (hi : i < a) : PV (ins a m row rb) (ins a m d g) i = PV row d i := by
  unfold PV
  have := pa_lt h h0 (by have := hA.2.1; omega)
  rw [ins_pa_l h h0 hi hA.2.1, ins_l (by omega)]
theorem PV_0 (hA : okA n d p a c) (hB : okB m g c) : PV (ins a m row rb) (ins a m d g) a = nI (row p) := by
  unfold PV
  rw [ins_pa_0 hA hB, ins_l hA.1]
theorem PV_m (hB : okB m g c) {j : Nat} (h0 : 0 < j) (hj : j < m) : PV (ins a m row rb) (ins a m d g) (a + j) = PV rb g j := by
  unfold PV
  have := (okB_pa hB h0 hj).1
  rw [ins_pa_m hB h0 hj, ins_m (by omega)]
theorem PV_r (h : wfT n d) (hA : okA n d p a c) (hB : okB m g c) {i : Nat} (h1 : a ≤ i) (hi : i < n) : PV (ins a m row rb) (ins a m d g) (i + m) = PV row d i := by
  unfold PV
  rw [ins_pa_r h hA hB h1 hi]
  by_cases e : pa d i < a
  · rw [if_pos e, ins_l e]
  · rw [if_neg e, ins_r (by omega)]
/-- the sibling just ahead of a place -/
def isS (n : Nat) (d : Nat → Nat) (p a c b : Nat) : Prop := p < b ∧ b < a ∧ d b = c ∧ bh n d b = a
theorem isS_uniq (hA : okA n d p a c) {b i : Nat} (hb : isS n d p a c b) (hi : i < a) (h1 : bh n d i = a) (h2 : d i = c) : i = b := by
  obtain ⟨a1, a2, a3, a4, a5⟩ := hA
  obtain ⟨s1, s2, s3, s4⟩ := hb
  rcases Nat.lt_trichotomy i b with e | e | e
  · have := bh_in (n := n) (d := d) (i := i) (by omega) e (by omega); omega
  · exact e
  · have := bh_in (n := n) (d := d) (i := b) (by omega) e (by omega); omega
theorem isS_ex (h : wfT n d) (hA : okA n d p a c) {i : Nat} (hi : i < a) (h1 : bh n d i = a) (h2 : d i = c) : p < i := by
  obtain ⟨a1, a2, a3, a4, a5⟩ := hA
  rcases Nat.lt_trichotomy i p with e | e | e
  · have := bh_in (n := n) (d := d) (i := i) (by omega) e (by omega); omega
  · rw [e] at h2; omega
  · exact e
theorem link_pt {σ σ' : dS} {b : Nat} (h : wfT n d) (hA : okA n d p a c) (hB : okB m g c) (hT : PT n row d σ) (hG : PT m rb g σ)
    (hdis : ∀ i j, i < n → j < m → row i ≠ rb j) (hir : ∀ i j, i < n → j < n → row i = row j → i = j) (hib : ∀ i j, i < m → j < m → rb i = rb j → i = j)
    (hb : p + 1 < a → isS n d p a c b)
    (h2 : ∀ x, σ' 2 x = if x = rb 0 then nI (row p) else σ 2 x)
    (h3 : ∀ x, σ' 3 x = if p + 1 = a ∧ x = row p then nI (rb 0) else σ 3 x)
    (h4 : ∀ x, σ' 4 x = if p + 1 < a ∧ x = row b then nI (rb 0) else if x = rb 0 then CV n row d a c else σ 4 x) : PT (n + m) (ins a m row rb) (ins a m d g) σ' := by
  have ha1 := hA.1
  have ha2 := hA.2.1
  have hm := hB.1
  refine ⟨fun i hi => ?_, fun i h0 hi => ?_, fun i h0 hi => ?_⟩
  · rcases ins_cut (a := a) (m := m) i with e | ⟨j, e1, rfl⟩ | ⟨k, e1, rfl⟩
    · rw [ins_l e, h3, FV_l hA hB e]
      by_cases f : i + 1 = a
      · rw [if_pos f]
        by_cases f2 : i = p
        · rw [if_pos f2, if_pos ⟨by omega, by rw [f2]⟩]
        · rw [if_neg f2, if_neg (fun q => f2 (hir _ _ (by omega) (by omega) q.2)), hT.1 i (by omega), FV_l1 hA f f2]
      · rw [if_neg f, if_neg, hT.1 i (by omega)]
        intro q
        have := hir _ _ (by omega) (by omega) q.2
        omega
    · rw [ins_m e1, h3, FV_m hA hB e1, if_neg (fun q => hdis p j (by omega) e1 q.2.symm), hG.1 j e1]
    · rw [ins_r e1, h3, FV_r e1, if_neg, hT.1 k (by omega)]
      intro q
      have := hir _ _ (by omega) (by omega) q.2
      omega
  · rcases ins_cut (a := a) (m := m) i with e | ⟨j, e1, rfl⟩ | ⟨k, e1, rfl⟩
    · rw [ins_l e, h4, NV_l h hA hB e]
      by_cases f : bh n d i = a ∧ d i = c
      · have hp := isS_ex h hA e f.1 f.2
        have hb' := hb (by omega)
        have := isS_uniq hA hb' e f.1 f.2
        rw [if_pos f, if_pos ⟨by omega, by rw [this]⟩]
      · rw [if_neg f, if_neg, if_neg (hdis i 0 (by omega) hm), hT.2.1 i h0 (by omega)]
        intro q
        have hb' := hb q.1
        have := hir _ _ (by omega) (by have := hb'.2.1; omega) q.2
        rw [this] at f
        exact f ⟨hb'.2.2.2, hb'.2.2.1⟩
    · have hnb : ¬ (p + 1 < a ∧ rb j = row b) := fun q => hdis b j (by have := (hb q.1).2.1; omega) e1 q.2.symm
      rw [ins_m e1, h4, if_neg hnb]
      by_cases f : j = 0
      · subst f
        rw [if_pos rfl, Nat.add_zero, NV_0 hA hB]
      · rw [if_neg (fun q => f (hib _ _ e1 hm q)), NV_m hA hB (by omega) e1, hG.2.1 j (by omega) e1]
    · rw [ins_r e1, h4, NV_r e1 (by omega), if_neg, if_neg (hdis k 0 (by omega) hm), hT.2.1 k (by omega) (by omega)]
      intro q
      have hb' := hb q.1
      have := hir _ _ (by omega) (by have := hb'.2.1; omega) q.2
      have := hb'.2.1
      omega
  · rcases ins_cut (a := a) (m := m) i with e | ⟨j, e1, rfl⟩ | ⟨k, e1, rfl⟩
    · rw [ins_l e, h2, PV_l h hA h0 e, if_neg (hdis i 0 (by omega) hm), hT.2.2 i h0 (by omega)]
    · rw [ins_m e1, h2]
      by_cases f : j = 0
      · subst f
        rw [if_pos rfl, Nat.add_zero, PV_0 hA hB]
      · rw [if_neg (fun q => f (hib _ _ e1 hm q)), PV_m hB (by omega) e1, hG.2.2 j (by omega) e1]
    · rw [ins_r e1, h2, PV_r h hA hB e1 (by omega), if_neg (hdis k 0 (by omega) hm), hT.2.2 k (by omega) (by omega)]
theorem unlink_pt {σ σ' : dS} {b : Nat} (h : wfT n d) (hA : okA n d p a c) (hB : okB m g c) (hT : PT (n + m) (ins a m row rb) (ins a m d g) σ)
    (hdis : ∀ i j, i < n → j < m → row i ≠ rb j) (hir : ∀ i j, i < n → j < n → row i = row j → i = j)
    (hb : p + 1 < a → isS n d p a c b)
    (h2 : ∀ x, σ' 2 x = σ 2 x)
    (h3 : ∀ x, σ' 3 x = if p + 1 = a ∧ x = row p then CV n row d a c else σ 3 x)
    (h4 : ∀ x, σ' 4 x = if p + 1 < a ∧ x = row b then CV n row d a c else σ 4 x) : PT n row d σ' ∧ PT m rb g σ' := by
  have ha1 := hA.1
  have ha2 := hA.2.1
  have hm := hB.1
  obtain ⟨t1, t2, t3⟩ := hT
  refine ⟨⟨fun i hi => ?_, fun i h0 hi => ?_, fun i h0 hi => ?_⟩, ⟨fun j hj => ?_, fun j h0 hj => ?_, fun j h0 hj => ?_⟩⟩
  · rw [h3]
    by_cases e : i < a
    · have := t1 i (by omega)
      rw [ins_l e, FV_l hA hB e] at this
      by_cases f : i + 1 = a
      · by_cases f2 : i = p
        · rw [if_pos ⟨by omega, by rw [f2]⟩, f2, FV_p hA (by omega)]
        · rw [if_neg (fun q => f2 (hir _ _ hi (by omega) q.2)), this, if_pos f, if_neg f2, FV_l1 hA f f2]
      · rw [if_neg, this, if_neg f]
        intro q
        have := hir _ _ hi (by omega) q.2
        omega
    · have := t1 (i + m) (by omega)
      rw [ins_r (by omega), FV_r (by omega)] at this
      rw [if_neg, this]
      intro q
      have := hir _ _ hi (by omega) q.2
      omega
  · rw [h4]
    by_cases e : i < a
    · have := t2 i h0 (by omega)
      rw [ins_l e, NV_l h hA hB e] at this
      by_cases f : bh n d i = a ∧ d i = c
      · have hp := isS_ex h hA e f.1 f.2
        have hb' := hb (by omega)
        have e3 := isS_uniq hA hb' e f.1 f.2
        rw [if_pos ⟨by omega, by rw [e3]⟩]
        unfold NV CV
        rw [f.1, f.2]
      · rw [if_neg, this, if_neg f]
        intro q
        have hb' := hb q.1
        have := hir _ _ hi (by have := hb'.2.1; omega) q.2
        rw [this] at f
        exact f ⟨hb'.2.2.2, hb'.2.2.1⟩
    · have := t2 (i + m) (by omega) (by omega)
      rw [ins_r (by omega), NV_r (by omega) hi] at this
      rw [if_neg, this]
      intro q
      have hb' := hb q.1
      have := hir _ _ hi (by have := hb'.2.1; omega) q.2
      have := hb'.2.1
      omega
  · rw [h2]
    by_cases e : i < a
    · have := t3 i h0 (by omega)
      rw [ins_l e, PV_l h hA h0 e] at this
      exact this
    · have := t3 (i + m) (by omega) (by omega)
      rw [ins_r (by omega), PV_r h hA hB (by omega) hi] at this
      exact this
  · have := t1 (a + j) (by omega)
    rw [ins_m hj, FV_m hA hB hj] at this
    rw [h3, if_neg (fun q => hdis p j (by omega) hj q.2.symm), this]
  · have := t2 (a + j) (by omega) (by omega)
    rw [ins_m hj, NV_m hA hB h0 hj] at this
    rw [h4, if_neg (fun q => hdis b j (by have := (hb q.1).2.1; omega) hj q.2.symm), this]
  · have := t3 (a + j) (by omega) (by omega)
    rw [ins_m hj, PV_m hB h0 hj] at this
    rw [h2, this]
end INS
/-! a block taken out -/
def del {α : Type} (a m : Nat) (f : Nat → α) : Nat → α := fun i => if i < a then f i else f (i + m)
def sub_ {α : Type} (a : Nat) (f : Nat → α) : Nat → α := fun j => f (a + j)
theorem ins_del {α : Type} (a m : Nat) (f : Nat → α) : ins a m (del a m f) (sub_ a f) = f := by
  funext i
  rcases ins_cut (a := a) (m := m) i with e | ⟨j, e1, rfl⟩ | ⟨k, e1, rfl⟩
  · rw [ins_l e]; exact if_pos e
  · rw [ins_m e1]; rfl
  · rw [ins_r e1]; exact if_neg (by omega)
theorem del_l {α : Type} {a m i : Nat} {f : Nat → α} (h : i < a) : del a m f i = f i := if_pos h
theorem del_r {α : Type} {a m i : Nat} {f : Nat → α} (h : a ≤ i) : del a m f i = f (i + m) := if_neg (by omega)
section DEL
variable {n : Nat} {d : Nat → Nat} {a : Nat}
theorem del_okB (h : wfT n d) (h0 : 0 < a) (ha : a < n) : okB (bh n d a - a) (sub_ a d) (d a) := by
  obtain ⟨g1, g2, g3, g4⟩ := bh_spec (n := n) (d := d) ha
  refine ⟨by omega, rfl, fun j h1 h2 => g3 (a + j) (by omega) (by omega), fun j h1 => ?_⟩
  have := (h.2 (a + j) (by omega)).2
  exact this
theorem del_okA (h : wfT n d) (h0 : 0 < a) (ha : a < n) : okA (n - (bh n d a - a)) (del a (bh n d a - a) d) (pa d a) a (d a) := by
  obtain ⟨g1, g2, g3, g4⟩ := bh_spec (n := n) (d := d) ha
  obtain ⟨p1, p2, p3⟩ := pa_spec h h0 ha
  refine ⟨p1, by omega, ?_, fun x h1 h2 => ?_, fun h1 => ?_⟩
  · rw [del_l p1]; exact (pa_d h h0 ha).symm
  · rw [del_l h2]; exact p3 x h1 h2
  · rw [del_r (Nat.le_refl _), show a + (bh n d a - a) = bh n d a by omega]; exact g4 (by omega)
theorem del_wfT (h : wfT n d) (h0 : 0 < a) (ha : a < n) : wfT (n - (bh n d a - a)) (del a (bh n d a - a) d) := by
  obtain ⟨g1, g2, g3, g4⟩ := bh_spec (n := n) (d := d) ha
  refine ⟨fun _ => by rw [del_l h0]; exact h.1 (by omega), fun i hi => ?_⟩
  by_cases e : i + 1 < a
  · rw [del_l e, del_l (by omega)]; exact h.2 i (by omega)
  · by_cases e2 : i + 1 = a
    · rw [del_r (by omega), del_l (by omega), show i + 1 + (bh n d a - a) = bh n d a by omega]
      have h1 := g4 (by omega)
      have h2 := wfT_pos h (by omega : 0 < bh n d a) (by omega)
      have h3 := (h.2 i (by omega)).2
      rw [e2] at h3
      omega
    · rw [del_r (by omega), del_r (by omega)]
      have := h.2 (i + (bh n d a - a)) (by omega)
      rw [show i + 1 + (bh n d a - a) = i + (bh n d a - a) + 1 by omega]
      exact this
end DEL
