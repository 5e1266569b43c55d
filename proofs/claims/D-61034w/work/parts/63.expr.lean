/-! expressions: rows of tokens, what they give -/
set_option maxRecDepth 100000
abbrev Tk : Type := Nat × Int32
def sw (t : Tk) : Nat := t.2.toNatClampNeg
/-- number of operands -/
def ar (t : Tk) : Nat := if t.1 = 2 then 1 + sw t / 128 else if t.1 = 3 ∨ (9 < t.1 ∧ t.1 < 17) then 2 else if 6 < t.1 then 1 else 0
def okT (t : Tk) : Prop := t.1 < 18 ∧ (t.1 = 2 → sw t ≤ 383 ∧ t.2 = nI (sw t) ∧ sw t % 16 ≤ 10 ∧ sw t / 16 % 8 ≤ 6)
/-- the tokens that m expressions take -/
def sk : Nat → List Tk → Nat
  | 0, _ => 0
  | _ + 1, [] => 0
  | m + 1, t :: ts => 1 + sk (m + ar t) ts
/-- m expressions are there whole -/
def fl : Nat → List Tk → Prop
  | 0, _ => True
  | _ + 1, [] => False
  | m + 1, t :: ts => fl (m + ar t) ts
def tyk (k : Nat) : Nat := if k < 4 then 0 else if k < 13 then 1 else 2
def hk (ts : List Tk) : Nat := match ts with
  | [] => 4
  | t :: _ => t.1
def ht (ts : List Tk) : Nat := tyk (hk ts)
/-- the operands' types fit -/
def typ (t : Tk) (ts : List Tk) : Prop := (t.1 = 2 → ht ts = 0) ∧ (t.1 = 3 → ht ts = 0 ∧ ht (ts.drop (sk 1 ts)) = 0) ∧ (7 ≤ t.1 ∧ t.1 < 10 → ht ts = 0) ∧ (10 ≤ t.1 ∧ t.1 < 15 → ht ts ≠ 2 ∧ ht (ts.drop (sk 1 ts)) ≠ 2)
/-- read from the last token: m expressions -/
def wfs : List Tk → Nat → Prop
  | [], m => m = 0
  | t :: ts, m => ∃ m', wfs ts m' ∧ ar t ≤ m' ∧ typ t ts ∧ m = m' - ar t + 1
theorem sk_0 (ts : List Tk) : sk 0 ts = 0 := by cases ts <;> rfl
theorem sk_s (m : Nat) (t : Tk) (ts : List Tk) : sk (m + 1) (t :: ts) = 1 + sk (m + ar t) ts := rfl
theorem fl_s (m : Nat) (t : Tk) (ts : List Tk) : fl (m + 1) (t :: ts) = fl (m + ar t) ts := rfl
theorem fl_0 (ts : List Tk) : fl 0 ts := by cases ts <;> trivial
theorem sk_add (b : Nat) : ∀ (ts : List Tk) (a : Nat), sk (a + b) ts = sk a ts + sk b (ts.drop (sk a ts)) := by
  intro ts
  induction ts with
  | nil =>
    intro a
    cases a with
    | zero => rw [Nat.zero_add, sk_0]; simp
    | succ a =>
      rw [show a + 1 + b = (a + b) + 1 by omega]
      show 0 = 0 + sk b []
      cases b <;> rfl
  | cons t ts ih =>
    intro a
    cases a with
    | zero => rw [Nat.zero_add, sk_0]; simp
    | succ a =>
      rw [show a + 1 + b = (a + b) + 1 by omega, sk_s, sk_s, show a + b + ar t = a + ar t + b by omega, ih, show 1 + sk (a + ar t) ts = sk (a + ar t) ts + 1 by omega, List.drop_succ_cons]
      omega
theorem sk_le : ∀ (ts : List Tk) (m : Nat), sk m ts ≤ ts.length := by
  intro ts
  induction ts with
  | nil => intro m; cases m <;> exact Nat.le_refl _
  | cons t ts ih =>
    intro m
    cases m with
    | zero => rw [sk_0]; exact Nat.zero_le _
    | succ m => rw [sk_s, List.length_cons]; have := ih (m + ar t); omega
theorem fl_lt : ∀ (ts : List Tk) (m : Nat), fl (m + 1) ts → sk m ts < ts.length := by
  intro ts
  induction ts with
  | nil => intro m h; cases h
  | cons t ts ih =>
    intro m h
    cases m with
    | zero => rw [sk_0]; exact Nat.zero_lt_succ _
    | succ m =>
      rw [sk_s, List.length_cons]
      rw [fl_s, show m + 1 + ar t = m + ar t + 1 by omega] at h
      have := ih (m + ar t) h
      omega
theorem fl_mono : ∀ (ts : List Tk) (m j : Nat), fl m ts → j ≤ m → fl j ts := by
  intro ts
  induction ts with
  | nil =>
    intro m j h hj
    cases m with
    | zero => rw [show j = 0 by omega]; trivial
    | succ m => cases h
  | cons t ts ih =>
    intro m j h hj
    cases j with
    | zero => exact fl_0 _
    | succ j =>
      cases m with
      | zero => omega
      | succ m => rw [fl_s] at h ⊢; exact ih _ _ h (by omega)
theorem fl_drop (b : Nat) : ∀ (ts : List Tk) (a : Nat), fl (a + b) ts → fl b (ts.drop (sk a ts)) := by
  intro ts
  induction ts with
  | nil =>
    intro a h
    cases a with
    | zero => rw [Nat.zero_add] at h; rw [sk_0]; exact h
    | succ a => rw [show a + 1 + b = a + b + 1 by omega] at h; cases h
  | cons t ts ih =>
    intro a h
    cases a with
    | zero => rw [Nat.zero_add] at h; rw [sk_0]; exact h
    | succ a =>
      rw [show a + 1 + b = a + b + 1 by omega, fl_s, show a + b + ar t = a + ar t + b by omega] at h
      rw [sk_s, show 1 + sk (a + ar t) ts = sk (a + ar t) ts + 1 by omega, List.drop_succ_cons]
      exact ih _ h
theorem wfs_fl : ∀ {ts : List Tk} {m : Nat}, wfs ts m → fl m ts ∧ sk m ts = ts.length := by
  intro ts
  induction ts with
  | nil => intro m h; rw [show m = 0 from h]; exact ⟨fl_0 _, rfl⟩
  | cons t ts ih =>
    intro m h
    obtain ⟨m', h1, h2, h3, h4⟩ := h
    subst h4
    obtain ⟨g1, g2⟩ := ih h1
    rw [fl_s, sk_s, show m' - ar t + ar t = m' by omega, List.length_cons]
    exact ⟨g1, by omega⟩
theorem wfs_uniq : ∀ {ts : List Tk} {m m' : Nat}, wfs ts m → wfs ts m' → m = m' := by
  intro ts
  induction ts with
  | nil => intro m m' h h'; rw [show m = 0 from h, show m' = 0 from h']
  | cons t ts ih =>
    intro m m' h h'
    obtain ⟨a, h1, h2, h3, h4⟩ := h
    obtain ⟨b, g1, g2, g3, g4⟩ := h'
    rw [h4, g4, ih h1 g1]
theorem wfs_drop : ∀ {ts : List Tk} {m : Nat} (i : Nat), wfs ts m → ∃ m', wfs (ts.drop i) m' := by
  intro ts
  induction ts with
  | nil => intro m i h; exact ⟨0, by rw [List.drop_nil]; rfl⟩
  | cons t ts ih =>
    intro m i h
    cases i with
    | zero => exact ⟨m, h⟩
    | succ i =>
      obtain ⟨m', h1, _⟩ := h
      rw [List.drop_succ_cons]
      exact ih i h1
/-- whether a part looks at POSITION or LAST -/
def loc : List Tk → Bool
  | [] => false
  | t :: ts => decide (t.1 = 5 ∨ t.1 = 6) || (decide (10 ≤ t.1) && (loc ts || (decide (1 < ar t) && loc (ts.drop (sk 1 ts)))))
termination_by ts => ts.length
decreasing_by all_goals (simp only [List.length_cons, List.length_drop]; omega)
/-! axes, by places -/
def ax (n : Nat) (d : Nat → Nat) (a x y : Nat) : Bool :=
  if a = 0 then decide (y = x) else if a = 1 then decide (0 < y ∧ pa d y = x) else if a = 2 then decide (0 < x ∧ pa d x = y) else if a = 3 then decide (x < y ∧ y < bh n d x)
  else if a = 4 then decide (y < x ∧ x < bh n d y) else if a = 5 then decide (0 < x ∧ 0 < y ∧ pa d y = pa d x ∧ x < y) else if a = 6 then decide (0 < x ∧ 0 < y ∧ pa d y = pa d x ∧ y < x)
  else if a = 7 then decide (bh n d x ≤ y) else if a = 8 then decide (y < x ∧ ¬ x < bh n d y) else if a = 9 then decide (x ≤ y ∧ y < bh n d x) else decide (y ≤ x ∧ x < bh n d y)
def sel (n : Nat) (d nmp : Nat → Nat) (w x : Nat) (y : Nat) : Bool := ax n d (w % 16) x y && (decide (w / 16 % 8 = 6) || decide (nmp y = w / 16 % 8))
def trn (w : Nat) : Bool := decide (0 < w % 16 ∧ w % 16 % 2 = 0)
def lis (n : Nat) (d nmp : Nat → Nat) (w x : Nat) : List Nat := if trn w = true then (ft (sel n d nmp w x) 0 n).reverse else ft (sel n d nmp w x) 0 n
def hold (t : Nat) (v pos : Int32) : Bool := if t = 1 then decide (v = pos) else decide (v ≠ 0)
/-- what of a list stays by a test of type t that gives e (place, position, last) -/
def tst (t : Nat) (e : Nat → Int32 → Int32 → Int32) (L : List Nat) : List Nat := sft (fun z k => hold t (e z (nI k) (nI L.length)) (nI k)) 1 L
def alo (n : Nat) (d nmp : Nat → Nat) (w : Nat) (t1 : Nat) (e1 : Nat → Int32 → Int32 → Int32) (t2 : Nat) (e2 : Nat → Int32 → Int32 → Int32) (y : Nat) : List Nat :=
  if w / 128 = 0 then lis n d nmp w y else if w / 128 = 1 then tst t1 e1 (lis n d nmp w y) else tst t2 e2 (tst t1 e1 (lis n d nmp w y))
def orL (f : Nat → Int32) : List Nat → Int32
  | [] => 0
  | y :: r => f y ||| orL f r
/-- what an expression gives at a place -/
def ev (n : Nat) (d nmp : Nat → Nat) (vv : Nat → Int32) : List Tk → Nat → Int32 → Int32 → Int32
  | [], _, _, _ => 0
  | t :: ts, x, p, l =>
    if t.1 = 0 then bI x else if t.1 = 1 then bI 0
    else if t.1 = 2 then orL (fun y => mkL (alo n d nmp (sw t) (ht (ts.drop (sk 1 ts))) (fun z q r => ev n d nmp vv (ts.drop (sk 1 ts)) z q r) (ht ((ts.drop (sk 1 ts)).drop (sk 1 (ts.drop (sk 1 ts))))) (fun z q r => ev n d nmp vv ((ts.drop (sk 1 ts)).drop (sk 1 (ts.drop (sk 1 ts)))) z q r) y)) (els (ev n d nmp vv ts x 1 1))
    else if t.1 = 4 then t.2 else if t.1 = 5 then p else if t.1 = 6 then l
    else if t.1 < 10 then jn vv t.1 (ev n d nmp vv ts x 1 1) (ht ts) (ev n d nmp vv (ts.drop (sk 1 ts)) x 1 1) (ht (ts.drop (sk 1 ts)))
    else jn vv t.1 (ev n d nmp vv ts x p l) (ht ts) (if 1 < ar t then ev n d nmp vv (ts.drop (sk 1 ts)) x p l else 0) (if 1 < ar t then ht (ts.drop (sk 1 ts)) else 1)
termination_by ts => ts.length
decreasing_by all_goals (simp only [List.length_cons, List.length_drop]; omega)
section
variable {n : Nat} {d nmp : Nat → Nat} {vv : Nat → Int32}
theorem loc_c (t : Tk) (ts : List Tk) : loc (t :: ts) = (decide (t.1 = 5 ∨ t.1 = 6) || (decide (10 ≤ t.1) && (loc ts || (decide (1 < ar t) && loc (ts.drop (sk 1 ts)))))) := by rw [loc]
theorem ev_0 {t : Tk} {ts : List Tk} (h : t.1 = 0) (x : Nat) (p l : Int32) : ev n d nmp vv (t :: ts) x p l = bI x := by rw [ev, if_pos h]
theorem ev_1 {t : Tk} {ts : List Tk} (h : t.1 = 1) (x : Nat) (p l : Int32) : ev n d nmp vv (t :: ts) x p l = bI 0 := by rw [ev, if_neg (by omega), if_pos h]
theorem ev_2 {t : Tk} {ts : List Tk} (h : t.1 = 2) (x : Nat) (p l : Int32) : ev n d nmp vv (t :: ts) x p l = orL (fun y => mkL (alo n d nmp (sw t) (ht (ts.drop (sk 1 ts))) (ev n d nmp vv (ts.drop (sk 1 ts))) (ht ((ts.drop (sk 1 ts)).drop (sk 1 (ts.drop (sk 1 ts))))) (ev n d nmp vv ((ts.drop (sk 1 ts)).drop (sk 1 (ts.drop (sk 1 ts))))) y)) (els (ev n d nmp vv ts x 1 1)) := by
  rw [ev, if_neg (by omega), if_neg (by omega), if_pos h]
theorem ev_4 {t : Tk} {ts : List Tk} (h : t.1 = 4) (x : Nat) (p l : Int32) : ev n d nmp vv (t :: ts) x p l = t.2 := by
  rw [ev, if_neg (by omega), if_neg (by omega), if_neg (by omega), if_pos h]
theorem ev_5 {t : Tk} {ts : List Tk} (h : t.1 = 5) (x : Nat) (p l : Int32) : ev n d nmp vv (t :: ts) x p l = p := by
  rw [ev, if_neg (by omega), if_neg (by omega), if_neg (by omega), if_neg (by omega), if_pos h]
theorem ev_6 {t : Tk} {ts : List Tk} (h : t.1 = 6) (x : Nat) (p l : Int32) : ev n d nmp vv (t :: ts) x p l = l := by
  rw [ev, if_neg (by omega), if_neg (by omega), if_neg (by omega), if_neg (by omega), if_neg (by omega), if_pos h]
theorem ev_a {t : Tk} {ts : List Tk} (h : t.1 = 3 ∨ (7 ≤ t.1 ∧ t.1 < 10)) (x : Nat) (p l : Int32) : ev n d nmp vv (t :: ts) x p l = jn vv t.1 (ev n d nmp vv ts x 1 1) (ht ts) (ev n d nmp vv (ts.drop (sk 1 ts)) x 1 1) (ht (ts.drop (sk 1 ts))) := by
  rw [ev, if_neg (by omega), if_neg (by omega), if_neg (by omega), if_neg (by omega), if_neg (by omega), if_neg (by omega), if_pos (by omega)]
theorem ev_b {t : Tk} {ts : List Tk} (h : 10 ≤ t.1) (x : Nat) (p l : Int32) : ev n d nmp vv (t :: ts) x p l = jn vv t.1 (ev n d nmp vv ts x p l) (ht ts) (if 1 < ar t then ev n d nmp vv (ts.drop (sk 1 ts)) x p l else 0) (if 1 < ar t then ht (ts.drop (sk 1 ts)) else 1) := by
  rw [ev, if_neg (by omega), if_neg (by omega), if_neg (by omega), if_neg (by omega), if_neg (by omega), if_neg (by omega), if_neg (by omega)]
/-- what is not local doesn't look at position and last -/
theorem ev_loc : ∀ (k : Nat) (ts : List Tk), ts.length ≤ k → loc ts = false → ∀ (x : Nat) (p l p' l' : Int32), ev n d nmp vv ts x p l = ev n d nmp vv ts x p' l' := by
  intro k
  induction k with
  | zero =>
    intro ts hl _ x p l p' l'
    have : ts = [] := List.length_eq_zero_iff.mp (by omega)
    subst this
    rw [ev, ev]
  | succ k ih =>
    intro ts hl h x p l p' l'
    cases ts with
    | nil => rw [ev, ev]
    | cons t ts =>
      rw [List.length_cons] at hl
      rw [loc_c, Bool.or_eq_false_iff] at h
      have h5 : ¬ (t.1 = 5 ∨ t.1 = 6) := of_decide_eq_false h.1
      by_cases c0 : t.1 = 0
      · rw [ev_0 c0, ev_0 c0]
      by_cases c1 : t.1 = 1
      · rw [ev_1 c1, ev_1 c1]
      by_cases c2 : t.1 = 2
      · rw [ev_2 c2, ev_2 c2]
      by_cases c4 : t.1 = 4
      · rw [ev_4 c4, ev_4 c4]
      by_cases ca : t.1 = 3 ∨ (7 ≤ t.1 ∧ t.1 < 10)
      · rw [ev_a ca, ev_a ca]
      have cb : 10 ≤ t.1 := by omega
      have h2 := h.2
      rw [decide_eq_true cb, Bool.true_and, Bool.or_eq_false_iff] at h2
      rw [ev_b cb, ev_b cb, ih ts (by omega) h2.1 x p l p' l']
      by_cases g : 1 < ar t
      · have h3 := h2.2
        rw [decide_eq_true g, Bool.true_and] at h3
        rw [if_pos g, if_pos g, if_pos g, ih _ (by rw [List.length_drop]; omega) h3 x p l p' l']
      · rw [if_neg g, if_neg g, if_neg g]
theorem ev_11 {ts : List Tk} (h : loc ts = false) (x : Nat) (p l : Int32) : ev n d nmp vv ts x p l = ev n d nmp vv ts x 1 1 := ev_loc ts.length ts (Nat.le_refl _) h x p l 1 1
theorem bw_orL {f : Nat → Int32} : ∀ {L : List Nat}, (∀ y, y ∈ L → bw n (f y)) → bw n (orL f L) := by
  intro L
  induction L with
  | nil => intro _; exact bw_0
  | cons y r ih => intro h; exact bw_or (h y List.mem_cons_self) (ih (fun z hz => h z (List.mem_cons_of_mem _ hz)))
theorem lis_lt {w y : Nat} {a : Nat} (h : a ∈ lis n d nmp w y) : a < n := by
  unfold lis at h
  by_cases e : trn w = true
  · rw [if_pos e, List.mem_reverse, ft_mem] at h; omega
  · rw [if_neg e, ft_mem] at h; omega
theorem alo_lt {w t1 t2 y : Nat} {e1 e2 : Nat → Int32 → Int32 → Int32} {a : Nat} (h : a ∈ alo n d nmp w t1 e1 t2 e2 y) : a < n := by
  unfold alo at h
  by_cases c0 : w / 128 = 0
  · rw [if_pos c0] at h; exact lis_lt h
  · rw [if_neg c0] at h
    by_cases c1 : w / 128 = 1
    · rw [if_pos c1] at h; exact lis_lt (sft_sub.subset h)
    · rw [if_neg c1] at h; exact lis_lt (sft_sub.subset (sft_sub.subset h))
theorem bw_mkL (hn : n ≤ 32) {l : List Nat} (h : ∀ a, a ∈ l → a < n) : bw n (mkL l) := fun i hi => by
  rw [mkL_bt (fun a ha => by have := h a ha; omega)]
  exact decide_eq_false (fun g => by have := h i g; omega)
/-- sets are sets of places -/
theorem ev_bw (hn : n ≤ 32) : ∀ (k : Nat) (ts : List Tk), ts.length ≤ k → (∃ m, wfs ts m) → ts ≠ [] → ht ts = 0 → ∀ (x : Nat) (p l : Int32), x < n → bw n (ev n d nmp vv ts x p l) := by
  intro k
  induction k with
  | zero =>
    intro ts hl _ hne
    exact absurd (List.length_eq_zero_iff.mp (by omega)) hne
  | succ k ih =>
    intro ts hl hw hne hty x p l hx
    cases ts with
    | nil => exact absurd rfl hne
    | cons t ts =>
      rw [List.length_cons] at hl
      obtain ⟨m, m', h1, h2, h3, h4⟩ := hw
      have hk4 : t.1 < 4 := by
        have hty : tyk t.1 = 0 := hty
        unfold tyk at hty
        by_cases g : t.1 < 4
        · exact g
        · rw [if_neg g] at hty
          by_cases g2 : t.1 < 13
          · rw [if_pos g2] at hty; cases hty
          · rw [if_neg g2] at hty; cases hty
      have c4 : t.1 = 0 ∨ t.1 = 1 ∨ t.1 = 2 ∨ t.1 = 3 := by omega
      rcases c4 with c | c | c | c
      · rw [ev_0 c]; exact bw_bI hx hn
      · rw [ev_1 c]; exact bw_bI (by omega) hn
      · rw [ev_2 c]; exact bw_orL (fun y _ => bw_mkL hn (fun a ha => alo_lt ha))
      · rw [ev_a (Or.inl c), c]
        have har : ar t = 2 := by unfold ar; rw [if_neg (by omega), if_pos (Or.inl c)]
        have hf := fl_mono _ _ 2 (wfs_fl h1).1 (by omega)
        have hlt1 := fl_lt ts 1 hf
        have ht3 := h3.2.1 c
        refine bw_or (ih ts (by omega) ⟨m', h1⟩ (fun e => by rw [e] at hlt1; cases hlt1) ht3.1 x 1 1 hx) (ih _ (by rw [List.length_drop]; omega) (wfs_drop _ h1) (fun e => ?_) ht3.2 x 1 1 hx)
        have := congrArg List.length e
        rw [List.length_drop, List.length_nil] at this
        omega
end
