/-! THE WALKS' BASE: a method's run as a judgement dG over (state of the object, pc, int locals, operand stack); loops as lp -/
set_option maxRecDepth 100000
abbrev vwCl : List vw_C := [(RX0, TX0, 39), (RX1, TX1, 26)]
/-- an object's state: field number, index (0 for a field that is no array) -/
abbrev dS : Type := Nat → Nat → Int32
def up2 (σ : dS) (k j : Nat) (v : Int32) : dS := fun i => if i = k then upd (σ k) j v else σ i
theorem up2_s (σ : dS) (k j : Nat) (v : Int32) : up2 σ k j v k = upd (σ k) j v := by simp [up2]
theorem up2_n {σ : dS} {k j i : Nat} {v : Int32} (h : i ≠ k) : up2 σ k j v i = σ i := by simp [up2, h]
def okI (i : Int32) (n : Nat) : Bool := !(decide (i < 0)) && decide (i.toNatClampNeg < n)
theorem okI_in {i : Int32} {n : Nat} : okI i n = true ↔ vp_in i n := by
  unfold okI vp_in
  by_cases h : i < 0 <;> by_cases h2 : i.toNatClampNeg < n <;> simp [h, h2] <;> omega
def chk {α : Type} (i : Int32) (n : Nat) (x : Option α) : Option α := if okI i n = true then x else none
theorem chk_some {α : Type} {i : Int32} {n : Nat} {x : Option α} {y : α} (h : chk i n x = some y) : vp_in i n ∧ x = some y := by
  unfold chk at h
  by_cases c : okI i n = true
  · rw [if_pos c] at h; exact ⟨okI_in.mp c, h⟩
  · rw [if_neg c] at h; cases h
theorem chk_ok {α : Type} {i : Int32} {n : Nat} {x : Option α} (h : vp_in i n) : chk i n x = x := by
  unfold chk; rw [if_pos (okI_in.mpr h)]
theorem chk_nI {α : Type} {k n : Nat} {x : Option α} (h : k < n) (hn : n < 2 ^ 31) : chk (nI k) n x = x := chk_ok (vp_in_nI h hn)
def zok {α : Type} (v : Int32) (x : Option α) : Option α := if v = 0 ∨ v = 1 then x else none
theorem zok_some {α : Type} {v : Int32} {x : Option α} {y : α} (h : zok v x = some y) : narrow .boolean (.int v) = .int v ∧ x = some y := by
  unfold zok at h
  by_cases c : v = 0 ∨ v = 1
  · rw [if_pos c] at h
    refine ⟨?_, h⟩
    rcases c with c | c <;> subst c <;> decide
  · rw [if_neg c] at h; cases h
theorem obind {α β : Type} {x : Option α} {f : α → Option β} {y : β} (h : Option.bind x f = some y) : ∃ r, x = some r ∧ f r = some y := by
  cases x with
  | none => cases h
  | some r => exact ⟨r, rfl, h⟩
theorem nz0 : narrow .boolean (.int 0) = .int 0 := by decide
theorem nz1 : narrow .boolean (.int 1) = .int 1 := by decide
/-! loops: f gives the next state, or the end; lp: the end that is come to, none if there is none -/
def lpN {α β : Type} (f : α → Option (α ⊕ β)) : Nat → α → Option β
  | 0, _ => none
  | n + 1, a => match f a with
    | none => none
    | some (.inl a') => lpN f n a'
    | some (.inr b) => some b
noncomputable def lp {α β : Type} (f : α → Option (α ⊕ β)) (a : α) : Option β :=
  @dite _ (∃ b, ∃ n, lpN f n a = some b) (Classical.propDecidable _) (fun h => some (Classical.choose h)) (fun _ => none)
noncomputable def lpB {α β : Type} (f : α → Option (α ⊕ β)) (x : Option (α ⊕ β)) : Option β := match x with
  | none => none
  | some (.inl a) => lp f a
  | some (.inr b) => some b
theorem lpN_mono {α β : Type} {f : α → Option (α ⊕ β)} : ∀ (n k : Nat) (a : α) (b : β), lpN f n a = some b → lpN f (n + k) a = some b := by
  intro n
  induction n with
  | zero => intro k a b h; cases h
  | succ n ih =>
    intro k a b h
    rw [Nat.succ_add]
    unfold lpN at h ⊢
    cases hf : f a with
    | none => rw [hf] at h; cases h
    | some x =>
      rw [hf] at h
      cases x with
      | inl a' => exact ih k a' b h
      | inr b' => exact h
theorem lpN_one {α β : Type} {f : α → Option (α ⊕ β)} {n m : Nat} {a : α} {b c : β} (h1 : lpN f n a = some b) (h2 : lpN f m a = some c) : b = c := by
  have e1 := lpN_mono n m a b h1
  have e2 := lpN_mono m n a c h2
  rw [Nat.add_comm, e1] at e2
  exact Option.some.inj e2
theorem lp_of {α β : Type} {f : α → Option (α ⊕ β)} {n : Nat} {a : α} {b : β} (h : lpN f n a = some b) : lp f a = some b := by
  unfold lp
  have hx : ∃ b, ∃ n, lpN f n a = some b := ⟨b, n, h⟩
  rw [dif_pos hx]
  obtain ⟨m, hm⟩ := Classical.choose_spec hx
  rw [lpN_one hm h]
theorem lp_some {α β : Type} {f : α → Option (α ⊕ β)} {a : α} {b : β} (h : lp f a = some b) : ∃ n, lpN f n a = some b := by
  unfold lp at h
  by_cases hx : ∃ b, ∃ n, lpN f n a = some b
  · rw [dif_pos hx] at h
    obtain ⟨m, hm⟩ := Classical.choose_spec hx
    rw [Option.some.inj h] at hm
    exact ⟨m, hm⟩
  · rw [dif_neg hx] at h; cases h
theorem lp_eq {α β : Type} (f : α → Option (α ⊕ β)) (a : α) : lp f a = lpB f (f a) := by
  cases h : lp f a with
  | some b =>
    obtain ⟨n, hn⟩ := lp_some h
    cases n with
    | zero => cases hn
    | succ n =>
      unfold lpN at hn
      unfold lpB
      cases hf : f a with
      | none => rw [hf] at hn; cases hn
      | some x =>
        rw [hf] at hn
        cases x with
        | inl a' => exact (lp_of hn).symm
        | inr b' => exact hn.symm
  | none =>
    cases h2 : lpB f (f a) with
    | none => rfl
    | some b =>
      exfalso
      unfold lpB at h2
      cases hf : f a with
      | none => rw [hf] at h2; cases h2
      | some x =>
        rw [hf] at h2
        cases x with
        | inl a' =>
          obtain ⟨n, hn⟩ := lp_some h2
          have : lpN f (n + 1) a = some b := by unfold lpN; rw [hf]; exact hn
          rw [lp_of this] at h; cases h
        | inr b' =>
          have : lpN f 1 a = some b := by unfold lpN; rw [hf]; exact h2
          rw [lp_of this] at h; cases h
theorem lpB_some {α β : Type} {f : α → Option (α ⊕ β)} {x : Option (α ⊕ β)} {b : β} (h : lpB f x = some b) : ∃ o, x = some o ∧ lpB f (some o) = some b := by
  cases x with
  | none => cases h
  | some o => exact ⟨o, rfl, h⟩
theorem lpB_l {α β : Type} (f : α → Option (α ⊕ β)) (a : α) : lpB f (some (.inl a)) = lp f a := rfl
theorem lpB_r {α β : Type} (f : α → Option (α ⊕ β)) (b : β) : lpB f (some (.inr b)) = some b := rfl
theorem lpB_n {α β : Type} (f : α → Option (α ⊕ β)) : lpB f none = none := rfl
theorem lpB_if {α β : Type} (f : α → Option (α ⊕ β)) (c : Prop) [Decidable c] (x y : Option (α ⊕ β)) : lpB f (if c then x else y) = if c then lpB f x else lpB f y := by
  by_cases h : c
  · rw [if_pos h, if_pos h]
  · rw [if_neg h, if_neg h]
theorem lpB_chk {α β : Type} (f : α → Option (α ⊕ β)) (i : Int32) (n : Nat) (x : Option (α ⊕ β)) : lpB f (chk i n x) = chk i n (lpB f x) := by
  unfold chk; rw [lpB_if]; rfl
theorem lpB_bind {α β γ : Type} (f : α → Option (α ⊕ β)) (x : Option γ) (g : γ → Option (α ⊕ β)) : lpB f (Option.bind x g) = Option.bind x (fun r => lpB f (g r)) := by
  cases x <;> rfl
/-- what holds of every state whose next state has it holds of a state that comes to an end -/
theorem lp_walk {α β : Type} {f : α → Option (α ⊕ β)} {b : β} (M : α → Prop) (hl : ∀ a a', f a = some (.inl a') → M a' → M a) (hr : ∀ a, f a = some (.inr b) → M a) : ∀ (n : Nat) (a : α), lpN f n a = some b → M a := by
  intro n
  induction n with
  | zero => intro a h; cases h
  | succ n ih =>
    intro a h
    unfold lpN at h
    cases hf : f a with
    | none => rw [hf] at h; cases h
    | some x =>
      rw [hf] at h
      cases x with
      | inl a' => exact hl a a' hf (ih a' h)
      | inr b' => cases h; exact hr a hf
/-! the judgement -/
abbrev dGeo : Type := va_G × Nat × (Nat → Nat) × (Nat → ClassId)
abbrev dEnv : Type := Program × Launch × Env × Room × State × MethodId × Array Value × List Frame × Method × Code × (Nat → Prop) × (State → Prop) × Nat × va_G × (dS → va_W) × List (Nat × Value) × Nat × Nat × Nat
def dlv : Nat → List Int32 → List (Nat × Value)
  | _, [] => []
  | b, x :: xs => (b, .int x) :: dlv (b + 1) xs
theorem dlv_get : ∀ (xs : List Int32) (b k : Nat), (dlv b xs)[k]? = (xs[k]?).map (fun x => (b + k, Value.int x)) := by
  intro xs
  induction xs with
  | nil => intro b k; simp [dlv]
  | cons x xs ih =>
    intro b k
    cases k with
    | zero => simp [dlv]
    | succ k =>
      simp only [dlv, List.getElem?_cons_succ, ih]
      rw [show b + 1 + k = b + (k + 1) by omega]
theorem dlv_mem {xs : List Int32} {b : Nat} {q : Nat × Value} (h : q ∈ dlv b xs) : ∃ k x, xs[k]? = some x ∧ q = (b + k, .int x) := by
  obtain ⟨k, hk⟩ := List.getElem?_of_mem h
  rw [dlv_get] at hk
  cases hx : xs[k]? with
  | none => rw [hx] at hk; cases hk
  | some x => rw [hx] at hk; exact ⟨k, x, hx, (Option.some.inj hk).symm⟩
theorem dlv_in {xs : List Int32} {b k : Nat} {x : Int32} (h : xs[k]? = some x) : (b + k, Value.int x) ∈ dlv b xs := by
  refine List.mem_of_getElem? (i := k) ?_
  rw [dlv_get, h]; rfl
theorem lv_mono {ls : Array Slot} {nL : Nat} {l l' : List (Nat × Value)} (h : lv_has ls nL l) (hm : ∀ q ∈ l', q ∈ l) : lv_has ls nL l' := ⟨h.1, h.2.1, fun q hq => h.2.2 q (hm q hq)⟩
def dG (E : dEnv) (σ : dS) (pc : Nat) (xs : List Int32) (st : List Value) : Prop := match E with
  | (p, l, e, R, s, m, args, below, meth, c, A, Q, nL, D, w, th, b, kc, ks) => ∀ (ls : Array Slot) (H : Heap) (locs : List Loc), lv_has ls nL (th ++ dlv b xs) → va_P D vwCl (w σ) H → va_D A (w σ) → va_S A s.heap H locs → W p l e R s m args below meth c H locs kc ks Q (F0 m pc ls st)
def dOk (E : dEnv) (cc : ByteArray) (own : String) (l0 : Launch) (R0 : Room) (nL0 : Nat) (D0 : va_G) (tys : List (ClassId × FieldType)) (w0 : dS → va_W) (th0 : List (Nat × Value)) (b0 : Nat) : Prop := match E with
  | (p, l, e, R, s, m, args, below, meth, c, A, Q, nL, D, w, th, b, kc, ks) => p.tables.exec = Jvm.exec ∧ c.code = cc ∧ c.maxLocals = nL ∧ s.vm.findClass own = some m.cls ∧ (∀ w ∈ lw_all, w.before args s = true) ∧ va_K D vwCl tys s ∧ (∀ q : Nat, s.heap.size ≤ q → A q) ∧ (∀ q ∈ th, q.1 < b ∧ q.2.category = 1) ∧ meth.locks = false ∧ (kc ≤ R.cells ∧ ks ≤ R.slots) ∧ l = l0 ∧ R = R0 ∧ nL = nL0 ∧ D = D0 ∧ w = w0 ∧ th = th0 ∧ b = b0
abbrev dsOk (E : dEnv) (l : Launch) (D : va_G) (cc : ByteArray) (own : String) (nL : Nat) (R : Room) : Prop := dOk E cc own l R nL D [] (fun _ => []) [] 0
/-- the end: what is owed at a return -/
def dF (E : dEnv) (cc : ByteArray) (ret : Option FieldType) (r : Int32) (σ : dS) : Prop := match ret with
  | none => ∀ (pc : Nat) (xs : List Int32), decode cc pc = .ok (.return_, 1) → dG E σ pc xs []
  | some ty => narrow ty (.int r) = .int r → ∀ (pc : Nat) (xs : List Int32), decode cc pc = .ok (.ireturn, 1) → dG E σ pc xs [.int r]
def dR (E : dEnv) (cc : ByteArray) (ret : Option FieldType) (out : Int32 × dS) : Prop := dF E cc ret out.1 out.2
def dRs (E : dEnv) (cc : ByteArray) (ret : Option FieldType) (σ : dS) (out : Int32) : Prop := dF E cc ret out σ
def dK (E : dEnv) (cc : ByteArray) (ret : Option FieldType) (out : (Nat × List Int32 × dS) ⊕ (Int32 × dS)) : Prop := match out with
  | .inl a => dG E a.2.2 a.1 a.2.1 []
  | .inr r => dF E cc ret r.1 r.2
def dKs (E : dEnv) (cc : ByteArray) (ret : Option FieldType) (σ : dS) (out : (Nat × List Int32) ⊕ Int32) : Prop := match out with
  | .inl a => dG E σ a.1 a.2 []
  | .inr r => dF E cc ret r σ
theorem dK_lp {E : dEnv} {cc : ByteArray} {ret : Option FieldType} {f : Nat × List Int32 × dS → Option ((Nat × List Int32 × dS) ⊕ (Int32 × dS))} {o : (Nat × List Int32 × dS) ⊕ (Int32 × dS)} {r : Int32 × dS} (hw : ∀ a out, f a = some out → dK E cc ret out → dG E a.2.2 a.1 a.2.1 []) (h : lpB f (some o) = some r) (k : dR E cc ret r) : dK E cc ret o := by
  cases o with
  | inr b => cases h; exact k
  | inl a =>
    obtain ⟨n, hn⟩ := lp_some (show lp f a = some r from h)
    exact lp_walk (f := f) (b := r) (fun a : Nat × List Int32 × dS => dG E a.2.2 a.1 a.2.1 []) (fun a a' h1 h2 => hw a (.inl a') h1 (show dG E a'.2.2 a'.1 a'.2.1 [] from h2)) (fun a h1 => hw a (.inr r) h1 k) n a hn
theorem dKs_lp {E : dEnv} {cc : ByteArray} {ret : Option FieldType} {σ : dS} {f : Nat × List Int32 → Option ((Nat × List Int32) ⊕ Int32)} {o : (Nat × List Int32) ⊕ Int32} {r : Int32} (hw : ∀ a out, f a = some out → dKs E cc ret σ out → dG E σ a.1 a.2 []) (h : lpB f (some o) = some r) (k : dRs E cc ret σ r) : dKs E cc ret σ o := by
  cases o with
  | inr b => cases h; exact k
  | inl a =>
    obtain ⟨n, hn⟩ := lp_some (show lp f a = some r from h)
    exact lp_walk (f := f) (b := r) (fun a : Nat × List Int32 => dG E σ a.1 a.2 []) (fun a a' h1 h2 => hw a (.inl a') h1 (show dG E σ a'.1 a'.2 [] from h2)) (fun a h1 => hw a (.inr r) h1 k) n a hn
theorem dth {o : Nat} : ∀ q ∈ [((0 : Nat), Value.ref o)], q.1 < 1 ∧ q.2.category = 1 := by
  intro q hq
  rw [List.mem_singleton.mp hq]
  exact ⟨Nat.zero_lt_one, rfl⟩
section DG
variable {E : dEnv} {cc : ByteArray} {own : String} {l : Launch} {R : Room} {nL : Nat} {D : va_G} {tys : List (ClassId × FieldType)} {w : dS → va_W} {th : List (Nat × Value)} {b : Nat}
variable {pc : Nat} {σ : dS} {xs : List Int32} {st : List Value}
theorem dg_iconst (hE : dOk E cc own l R nL D tys w th b) {n : Int} {v : Int32} (hd : decode cc pc = .ok (.iconst n, 1)) (hv : Int32.ofInt n = v) (kk : dG E σ (pc + 1) xs (.int v :: st)) : dG E σ pc xs st := by
  obtain ⟨p, l', e, R', s, m, args, below, meth, c, A, Q, nL', D', w', th', b', kc, ks⟩ := E
  obtain ⟨hx, hb, hml, hown, hts, hK, hA, hth, hlk, hcs, rfl, rfl, rfl, rfl, rfl, rfl, rfl⟩ := hE
  intro ls H locs h1 h2 h3 h4
  exact lv_iconst hx hb hd hv (kk ls H locs h1 h2 h3 h4)
theorem dg_bipush (hE : dOk E cc own l R nL D tys w th b) {n : Int} {v : Int32} (hd : decode cc pc = .ok (.bipush n, 2)) (hv : (Int8.ofInt n).toInt32 = v) (kk : dG E σ (pc + 2) xs (.int v :: st)) : dG E σ pc xs st := by
  obtain ⟨p, l', e, R', s, m, args, below, meth, c, A, Q, nL', D', w', th', b', kc, ks⟩ := E
  obtain ⟨hx, hb, hml, hown, hts, hK, hA, hth, hlk, hcs, rfl, rfl, rfl, rfl, rfl, rfl, rfl⟩ := hE
  intro ls H locs h1 h2 h3 h4
  exact lv_bipush hx hb hd hv (kk ls H locs h1 h2 h3 h4)
theorem dg_sipush (hE : dOk E cc own l R nL D tys w th b) {n : Int} {v : Int32} (hd : decode cc pc = .ok (.sipush n, 3)) (hv : (Int16.ofInt n).toInt32 = v) (kk : dG E σ (pc + 3) xs (.int v :: st)) : dG E σ pc xs st := by
  obtain ⟨p, l', e, R', s, m, args, below, meth, c, A, Q, nL', D', w', th', b', kc, ks⟩ := E
  obtain ⟨hx, hb, hml, hown, hts, hK, hA, hth, hlk, hcs, rfl, rfl, rfl, rfl, rfl, rfl, rfl⟩ := hE
  intro ls H locs h1 h2 h3 h4
  exact lv_sipush hx hb hd hv (kk ls H locs h1 h2 h3 h4)
theorem dg_aload0 {o : Nat} (hE : dOk E cc own l R nL D tys w [(0, .ref o)] b) (hd : decode cc pc = .ok (.aload_n 0, 1)) (kk : dG E σ (pc + 1) xs (.ref o :: st)) : dG E σ pc xs st := by
  obtain ⟨p, l', e, R', s, m, args, below, meth, c, A, Q, nL', D', w', th', b', kc, ks⟩ := E
  obtain ⟨hx, hb, hml, hown, hts, hK, hA, hth, hlk, hcs, rfl, rfl, rfl, rfl, rfl, rfl, rfl⟩ := hE
  intro ls H locs h1 h2 h3 h4
  exact lv_aload_n hx hb hd rfl (h1.2.2 (0, .ref o) (List.mem_append_left _ List.mem_cons_self)) (kk ls H locs h1 h2 h3 h4)
theorem dg_aload (hE : dOk E cc own l R nL D tys w th b) {j : Fin 4} {i o : Nat} (hd : decode cc pc = .ok (.aload_n j, 1)) (hj : (j : Nat) = i) (ho : (i, Value.ref o) ∈ th) (kk : dG E σ (pc + 1) xs (.ref o :: st)) : dG E σ pc xs st := by
  obtain ⟨p, l', e, R', s, m, args, below, meth, c, A, Q, nL', D', w', th', b', kc, ks⟩ := E
  obtain ⟨hx, hb, hml, hown, hts, hK, hA, hth, hlk, hcs, rfl, rfl, rfl, rfl, rfl, rfl, rfl⟩ := hE
  intro ls H locs h1 h2 h3 h4
  exact lv_aload_n hx hb hd hj (h1.2.2 (i, .ref o) (List.mem_append_left _ ho)) (kk ls H locs h1 h2 h3 h4)
theorem dg_iload_n (hE : dOk E cc own l R nL D tys w th b) {j : Fin 4} {x : Int32} (hd : decode cc pc = .ok (.iload_n j, 1)) (k : Nat) (hj : (j : Nat) = b + k) (hx : xs[k]? = some x) (kk : dG E σ (pc + 1) xs (.int x :: st)) : dG E σ pc xs st := by
  obtain ⟨p, l', e, R', s, m, args, below, meth, c, A, Q, nL', D', w', th', b', kc, ks⟩ := E
  obtain ⟨hx, hb, hml, hown, hts, hK, hA, hth, hlk, hcs, rfl, rfl, rfl, rfl, rfl, rfl, rfl⟩ := hE
  intro ls H locs h1 h2 h3 h4
  exact lv_iload_n (by assumption) hb hd hj (h1.2.2 _ (List.mem_append_right _ (dlv_in (by assumption)))) (kk ls H locs h1 h2 h3 h4)
theorem dg_iload (hE : dOk E cc own l R nL D tys w th b) {j : Nat} {x : Int32} (hd : decode cc pc = .ok (.iload j, 2)) (k : Nat) (hj : j = b + k) (hx : xs[k]? = some x) (kk : dG E σ (pc + 2) xs (.int x :: st)) : dG E σ pc xs st := by
  obtain ⟨p, l', e, R', s, m, args, below, meth, c, A, Q, nL', D', w', th', b', kc, ks⟩ := E
  obtain ⟨hx, hb, hml, hown, hts, hK, hA, hth, hlk, hcs, rfl, rfl, rfl, rfl, rfl, rfl, rfl⟩ := hE
  intro ls H locs h1 h2 h3 h4
  subst hj
  exact lv_iload (by assumption) hb hd (h1.2.2 _ (List.mem_append_right _ (dlv_in (by assumption)))) (kk ls H locs h1 h2 h3 h4)
theorem dlv_put {nL i k : Nat} {ls' : Array Slot} {x : Int32} {xs' : List Int32} (hth : ∀ q ∈ th, q.1 < b ∧ q.2.category = 1) (hi : i = b + k) (hk : k ≤ xs.length) (hxs : xs.take k ++ x :: xs.drop (k + 1) = xs')
    (h : lv_has ls' nL ((i, Value.int x) :: (th ++ dlv b xs).filter (fun q => !(q.1 == i) && !(q.1 + 1 == i && q.2.category == 2)))) : lv_has ls' nL (th ++ dlv b xs') := by
  subst hi
  subst hxs
  refine lv_mono h (fun q hq => ?_)
  rcases List.mem_append.mp hq with h1 | h1
  · refine List.mem_cons_of_mem _ (List.mem_filter.mpr ⟨List.mem_append_left _ h1, ?_⟩)
    obtain ⟨g1, g2⟩ := hth q h1
    have e1 : (q.1 == b + k) = false := by simp; omega
    have e2 : (q.2.category == 2) = false := by rw [g2]; rfl
    rw [e1, e2]
    simp
  · obtain ⟨j, y, g1, rfl⟩ := dlv_mem h1
    by_cases hj : j = k
    · subst hj
      have : (xs.take j ++ x :: xs.drop (j + 1))[j]? = some x := by
        rw [List.getElem?_append_right (by simp; omega)]
        simp [Nat.min_eq_left hk]
      rw [this] at g1
      cases g1
      exact List.mem_cons_self
    · refine List.mem_cons_of_mem _ (List.mem_filter.mpr ⟨List.mem_append_right _ (dlv_in ?_), ?_⟩)
      · by_cases hlt : j < k
        · rw [List.getElem?_append_left (by simp; omega), List.getElem?_take, if_pos hlt] at g1
          exact g1
        · rw [List.getElem?_append_right (by simp; omega)] at g1
          simp only [List.length_take, Nat.min_eq_left hk] at g1
          rw [show j - k = (j - k - 1) + 1 by omega, List.getElem?_cons_succ, List.getElem?_drop, show k + 1 + (j - k - 1) = j by omega] at g1
          exact g1
      · have e1 : (b + j == b + k) = false := by simp; omega
        simp [e1, Value.category]
theorem dg_istore_n (hE : dOk E cc own l R nL D tys w th b) {j : Fin 4} {x : Int32} {xs' : List Int32} (hd : decode cc pc = .ok (.istore_n j, 1)) (k : Nat) (hj : (j : Nat) = b + k) (hk : k ≤ xs.length) (hn : b + k < nL) (hxs : xs.take k ++ x :: xs.drop (k + 1) = xs') (kk : dG E σ (pc + 1) xs' st) : dG E σ pc xs (.int x :: st) := by
  obtain ⟨p, l', e, R', s, m, args, below, meth, c, A, Q, nL', D', w', th', b', kc, ks⟩ := E
  obtain ⟨hx, hb, hml, hown, hts, hK, hA, hth, hlk, hcs, rfl, rfl, rfl, rfl, rfl, rfl, rfl⟩ := hE
  intro ls H locs h1 h2 h3 h4
  exact lv_istore_n hx hb hd hj h1 hn rfl (fun ls' h => kk ls' H locs (dlv_put hth rfl hk hxs h) h2 h3 h4)
theorem dg_istore (hE : dOk E cc own l R nL D tys w th b) {j : Nat} {x : Int32} {xs' : List Int32} (hd : decode cc pc = .ok (.istore j, 2)) (k : Nat) (hj : j = b + k) (hk : k ≤ xs.length) (hn : b + k < nL) (hxs : xs.take k ++ x :: xs.drop (k + 1) = xs') (kk : dG E σ (pc + 2) xs' st) : dG E σ pc xs (.int x :: st) := by
  obtain ⟨p, l', e, R', s, m, args, below, meth, c, A, Q, nL', D', w', th', b', kc, ks⟩ := E
  obtain ⟨hx, hb, hml, hown, hts, hK, hA, hth, hlk, hcs, rfl, rfl, rfl, rfl, rfl, rfl, rfl⟩ := hE
  intro ls H locs h1 h2 h3 h4
  subst hj
  exact lv_istore hx hb hd h1 hn rfl (fun ls' h => kk ls' H locs (dlv_put hth rfl hk hxs h) h2 h3 h4)
theorem dg_iinc (hE : dOk E cc own l R nL D tys w th b) {j : Nat} {n : Int} {x : Int32} {xs' : List Int32} (hd : decode cc pc = .ok (.iinc j n, 3)) (k : Nat) (hj : j = b + k) (hxk : xs[k]? = some x) (hn : b + k < nL) (hxs : xs.take k ++ (x + Int32.ofInt n) :: xs.drop (k + 1) = xs') (kk : dG E σ (pc + 3) xs' st) : dG E σ pc xs st := by
  obtain ⟨p, l', e, R', s, m, args, below, meth, c, A, Q, nL', D', w', th', b', kc, ks⟩ := E
  obtain ⟨hx, hb, hml, hown, hts, hK, hA, hth, hlk, hcs, rfl, rfl, rfl, rfl, rfl, rfl, rfl⟩ := hE
  intro ls H locs h1 h2 h3 h4
  subst hj
  have hlen : k ≤ xs.length := Nat.le_of_lt (List.getElem?_eq_some_iff.mp hxk).1
  refine lv_iinc hx hb hd h1 (k := th'.length + k) (x := x) ?_ rfl hn rfl (fun ls' h => kk ls' H locs (dlv_put hth rfl hlen hxs h) h2 h3 h4)
  rw [List.getElem?_append_right (Nat.le_add_right _ _), Nat.add_sub_cancel_left, dlv_get, hxk]
  rfl
theorem dg_iadd (hE : dOk E cc own l R nL D tys w th b) {x y : Int32} (hd : decode cc pc = .ok (.iadd, 1)) (kk : dG E σ (pc + 1) xs (.int (x + y) :: st)) : dG E σ pc xs (.int y :: .int x :: st) := by
  obtain ⟨p, l', e, R', s, m, args, below, meth, c, A, Q, nL', D', w', th', b', kc, ks⟩ := E
  obtain ⟨hx, hb, hml, hown, hts, hK, hA, hth, hlk, hcs, rfl, rfl, rfl, rfl, rfl, rfl, rfl⟩ := hE
  intro ls H locs h1 h2 h3 h4
  exact lv_iadd hx hb hd (kk ls H locs h1 h2 h3 h4)
theorem dg_isub (hE : dOk E cc own l R nL D tys w th b) {x y : Int32} (hd : decode cc pc = .ok (.isub, 1)) (kk : dG E σ (pc + 1) xs (.int (x - y) :: st)) : dG E σ pc xs (.int y :: .int x :: st) := by
  obtain ⟨p, l', e, R', s, m, args, below, meth, c, A, Q, nL', D', w', th', b', kc, ks⟩ := E
  obtain ⟨hx, hb, hml, hown, hts, hK, hA, hth, hlk, hcs, rfl, rfl, rfl, rfl, rfl, rfl, rfl⟩ := hE
  intro ls H locs h1 h2 h3 h4
  exact lv_isub hx hb hd (kk ls H locs h1 h2 h3 h4)
theorem dg_imul (hE : dOk E cc own l R nL D tys w th b) {x y : Int32} (hd : decode cc pc = .ok (.imul, 1)) (kk : dG E σ (pc + 1) xs (.int (x * y) :: st)) : dG E σ pc xs (.int y :: .int x :: st) := by
  obtain ⟨p, l', e, R', s, m, args, below, meth, c, A, Q, nL', D', w', th', b', kc, ks⟩ := E
  obtain ⟨hx, hb, hml, hown, hts, hK, hA, hth, hlk, hcs, rfl, rfl, rfl, rfl, rfl, rfl, rfl⟩ := hE
  intro ls H locs h1 h2 h3 h4
  exact lv_imul hx hb hd (kk ls H locs h1 h2 h3 h4)
theorem dg_iand (hE : dOk E cc own l R nL D tys w th b) {x y : Int32} (hd : decode cc pc = .ok (.iand, 1)) (kk : dG E σ (pc + 1) xs (.int (x &&& y) :: st)) : dG E σ pc xs (.int y :: .int x :: st) := by
  obtain ⟨p, l', e, R', s, m, args, below, meth, c, A, Q, nL', D', w', th', b', kc, ks⟩ := E
  obtain ⟨hx, hb, hml, hown, hts, hK, hA, hth, hlk, hcs, rfl, rfl, rfl, rfl, rfl, rfl, rfl⟩ := hE
  intro ls H locs h1 h2 h3 h4
  exact lv_iand hx hb hd (kk ls H locs h1 h2 h3 h4)
theorem dg_ior (hE : dOk E cc own l R nL D tys w th b) {x y : Int32} (hd : decode cc pc = .ok (.ior, 1)) (kk : dG E σ (pc + 1) xs (.int (x ||| y) :: st)) : dG E σ pc xs (.int y :: .int x :: st) := by
  obtain ⟨p, l', e, R', s, m, args, below, meth, c, A, Q, nL', D', w', th', b', kc, ks⟩ := E
  obtain ⟨hx, hb, hml, hown, hts, hK, hA, hth, hlk, hcs, rfl, rfl, rfl, rfl, rfl, rfl, rfl⟩ := hE
  intro ls H locs h1 h2 h3 h4
  exact lv_ior hx hb hd (kk ls H locs h1 h2 h3 h4)
theorem dg_ixor (hE : dOk E cc own l R nL D tys w th b) {x y : Int32} (hd : decode cc pc = .ok (.ixor, 1)) (kk : dG E σ (pc + 1) xs (.int (x ^^^ y) :: st)) : dG E σ pc xs (.int y :: .int x :: st) := by
  obtain ⟨p, l', e, R', s, m, args, below, meth, c, A, Q, nL', D', w', th', b', kc, ks⟩ := E
  obtain ⟨hx, hb, hml, hown, hts, hK, hA, hth, hlk, hcs, rfl, rfl, rfl, rfl, rfl, rfl, rfl⟩ := hE
  intro ls H locs h1 h2 h3 h4
  exact lv_ixor hx hb hd (kk ls H locs h1 h2 h3 h4)
theorem dg_ishl (hE : dOk E cc own l R nL D tys w th b) {x y : Int32} (hd : decode cc pc = .ok (.ishl, 1)) (kk : dG E σ (pc + 1) xs (.int (x <<< (y &&& 31)) :: st)) : dG E σ pc xs (.int y :: .int x :: st) := by
  obtain ⟨p, l', e, R', s, m, args, below, meth, c, A, Q, nL', D', w', th', b', kc, ks⟩ := E
  obtain ⟨hx, hb, hml, hown, hts, hK, hA, hth, hlk, hcs, rfl, rfl, rfl, rfl, rfl, rfl, rfl⟩ := hE
  intro ls H locs h1 h2 h3 h4
  exact lv_ishl hx hb hd (kk ls H locs h1 h2 h3 h4)
theorem dg_ishr (hE : dOk E cc own l R nL D tys w th b) {x y : Int32} (hd : decode cc pc = .ok (.ishr, 1)) (kk : dG E σ (pc + 1) xs (.int (x >>> (y &&& 31)) :: st)) : dG E σ pc xs (.int y :: .int x :: st) := by
  obtain ⟨p, l', e, R', s, m, args, below, meth, c, A, Q, nL', D', w', th', b', kc, ks⟩ := E
  obtain ⟨hx, hb, hml, hown, hts, hK, hA, hth, hlk, hcs, rfl, rfl, rfl, rfl, rfl, rfl, rfl⟩ := hE
  intro ls H locs h1 h2 h3 h4
  exact lv_ishr hx hb hd (kk ls H locs h1 h2 h3 h4)
theorem dg_irem (hE : dOk E cc own l R nL D tys w th b) {x y : Int32} (hd : decode cc pc = .ok (.irem, 1)) (hne : ¬ y = 0) (kk : dG E σ (pc + 1) xs (.int (x - x / y * y) :: st)) : dG E σ pc xs (.int y :: .int x :: st) := by
  obtain ⟨p, l', e, R', s, m, args, below, meth, c, A, Q, nL', D', w', th', b', kc, ks⟩ := E
  obtain ⟨hx, hb, hml, hown, hts, hK, hA, hth, hlk, hcs, rfl, rfl, rfl, rfl, rfl, rfl, rfl⟩ := hE
  intro ls H locs h1 h2 h3 h4
  exact lv_irem hx hb hd hne (kk ls H locs h1 h2 h3 h4)
theorem dg_i2b (hE : dOk E cc own l R nL D tys w th b) {x : Int32} (hd : decode cc pc = .ok (.i2b, 1)) (kk : dG E σ (pc + 1) xs (.int x.toInt8.toInt32 :: st)) : dG E σ pc xs (.int x :: st) := by
  obtain ⟨p, l', e, R', s, m, args, below, meth, c, A, Q, nL', D', w', th', b', kc, ks⟩ := E
  obtain ⟨hx, hb, hml, hown, hts, hK, hA, hth, hlk, hcs, rfl, rfl, rfl, rfl, rfl, rfl, rfl⟩ := hE
  intro ls H locs h1 h2 h3 h4
  exact lv_i2b hx hb hd rfl (kk ls H locs h1 h2 h3 h4)
theorem dg_dup (hE : dOk E cc own l R nL D tys w th b) {va : Value} (hd : decode cc pc = .ok (.dup, 1)) (hva : va.category = 1) (kk : dG E σ (pc + 1) xs (va :: va :: st)) : dG E σ pc xs (va :: st) := by
  obtain ⟨p, l', e, R', s, m, args, below, meth, c, A, Q, nL', D', w', th', b', kc, ks⟩ := E
  obtain ⟨hx, hb, hml, hown, hts, hK, hA, hth, hlk, hcs, rfl, rfl, rfl, rfl, rfl, rfl, rfl⟩ := hE
  intro ls H locs h1 h2 h3 h4
  exact lv_dup hx hb hd hva (kk ls H locs h1 h2 h3 h4)
theorem dg_pop (hE : dOk E cc own l R nL D tys w th b) {va : Value} (hd : decode cc pc = .ok (.pop, 1)) (hva : va.category = 1) (kk : dG E σ (pc + 1) xs st) : dG E σ pc xs (va :: st) := by
  obtain ⟨p, l', e, R', s, m, args, below, meth, c, A, Q, nL', D', w', th', b', kc, ks⟩ := E
  obtain ⟨hx, hb, hml, hown, hts, hK, hA, hth, hlk, hcs, rfl, rfl, rfl, rfl, rfl, rfl, rfl⟩ := hE
  intro ls H locs h1 h2 h3 h4
  exact lv_pop hx hb hd hva (kk ls H locs h1 h2 h3 h4)
theorem dg_dup2 (hE : dOk E cc own l R nL D tys w th b) {va vb : Value} (hd : decode cc pc = .ok (.dup2, 1)) (hva : va.category = 1) (hvb : vb.category = 1) (kk : dG E σ (pc + 1) xs (va :: vb :: va :: vb :: st)) : dG E σ pc xs (va :: vb :: st) := by
  obtain ⟨p, l', e, R', s, m, args, below, meth, c, A, Q, nL', D', w', th', b', kc, ks⟩ := E
  obtain ⟨hx, hb, hml, hown, hts, hK, hA, hth, hlk, hcs, rfl, rfl, rfl, rfl, rfl, rfl, rfl⟩ := hE
  intro ls H locs h1 h2 h3 h4
  exact lv_dup2_11 hx hb hd hva hvb (kk ls H locs h1 h2 h3 h4)
theorem dg_dup_x1 (hE : dOk E cc own l R nL D tys w th b) {va vb : Value} (hd : decode cc pc = .ok (.dup_x1, 1)) (hva : va.category = 1) (hvb : vb.category = 1) (kk : dG E σ (pc + 1) xs (va :: vb :: va :: st)) : dG E σ pc xs (va :: vb :: st) := by
  obtain ⟨p, l', e, R', s, m, args, below, meth, c, A, Q, nL', D', w', th', b', kc, ks⟩ := E
  obtain ⟨hx, hb, hml, hown, hts, hK, hA, hth, hlk, hcs, rfl, rfl, rfl, rfl, rfl, rfl, rfl⟩ := hE
  intro ls H locs h1 h2 h3 h4
  exact lv_dup_x1 hx hb hd hva hvb (kk ls H locs h1 h2 h3 h4)
theorem dg_dup_x2 (hE : dOk E cc own l R nL D tys w th b) {va vb vd : Value} (hd : decode cc pc = .ok (.dup_x2, 1)) (hva : va.category = 1) (hvb : vb.category = 1) (hvd : vd.category = 1) (kk : dG E σ (pc + 1) xs (va :: vb :: vd :: va :: st)) : dG E σ pc xs (va :: vb :: vd :: st) := by
  obtain ⟨p, l', e, R', s, m, args, below, meth, c, A, Q, nL', D', w', th', b', kc, ks⟩ := E
  obtain ⟨hx, hb, hml, hown, hts, hK, hA, hth, hlk, hcs, rfl, rfl, rfl, rfl, rfl, rfl, rfl⟩ := hE
  intro ls H locs h1 h2 h3 h4
  exact lv_dup_x2 hx hb hd hva hvb hvd (kk ls H locs h1 h2 h3 h4)
theorem dg_goto (hE : dOk E cc own l R nL D tys w th b) {off : Int} {tgt : Nat} (hd : decode cc pc = .ok (.goto off, 3)) (ht : (pc : Int) + off = (tgt : Int)) (kk : dG E σ tgt xs st) : dG E σ pc xs st := by
  obtain ⟨p, l', e, R', s, m, args, below, meth, c, A, Q, nL', D', w', th', b', kc, ks⟩ := E
  obtain ⟨hx, hb, hml, hown, hts, hK, hA, hth, hlk, hcs, rfl, rfl, rfl, rfl, rfl, rfl, rfl⟩ := hE
  intro ls H locs h1 h2 h3 h4
  exact lv_goto hx hb hd ht (kk ls H locs h1 h2 h3 h4)
theorem dg_if_eq (hE : dOk E cc own l R nL D tys w th b) {x : Int32} {off : Int} {tgt : Nat} {τ : Type} {ta tb : Option τ} {out : τ} (hd : decode cc pc = .ok (.ifCond .eq off, 3)) (ht : (pc : Int) + off = (tgt : Int)) (h : (if x = 0 then ta else tb) = some out) (kt : ta = some out → dG E σ tgt xs st) (kf : tb = some out → dG E σ (pc + 3) xs st) : dG E σ pc xs (.int x :: st) := by
  obtain ⟨p, l', e, R', s, m, args, below, meth, c, A, Q, nL', D', w', th', b', kc, ks⟩ := E
  obtain ⟨hx, hb, hml, hown, hts, hK, hA, hth, hlk, hcs, rfl, rfl, rfl, rfl, rfl, rfl, rfl⟩ := hE
  intro ls H locs h1 h2 h3 h4
  exact lv_if_eq hx hb hd ht (fun c_ => kt (by rw [if_pos c_] at h; exact h) ls H locs h1 h2 h3 h4) (fun c_ => kf (by rw [if_neg c_] at h; exact h) ls H locs h1 h2 h3 h4)
theorem dg_if_ne (hE : dOk E cc own l R nL D tys w th b) {x : Int32} {off : Int} {tgt : Nat} {τ : Type} {ta tb : Option τ} {out : τ} (hd : decode cc pc = .ok (.ifCond .ne off, 3)) (ht : (pc : Int) + off = (tgt : Int)) (h : (if x = 0 then ta else tb) = some out) (kt : tb = some out → dG E σ tgt xs st) (kf : ta = some out → dG E σ (pc + 3) xs st) : dG E σ pc xs (.int x :: st) := by
  obtain ⟨p, l', e, R', s, m, args, below, meth, c, A, Q, nL', D', w', th', b', kc, ks⟩ := E
  obtain ⟨hx, hb, hml, hown, hts, hK, hA, hth, hlk, hcs, rfl, rfl, rfl, rfl, rfl, rfl, rfl⟩ := hE
  intro ls H locs h1 h2 h3 h4
  exact lv_if_ne hx hb hd ht (fun c_ => kt (by rw [if_neg c_] at h; exact h) ls H locs h1 h2 h3 h4) (fun c_ => kf (by rw [if_pos c_] at h; exact h) ls H locs h1 h2 h3 h4)
theorem dg_if_lt (hE : dOk E cc own l R nL D tys w th b) {x : Int32} {off : Int} {tgt : Nat} {τ : Type} {ta tb : Option τ} {out : τ} (hd : decode cc pc = .ok (.ifCond .lt off, 3)) (ht : (pc : Int) + off = (tgt : Int)) (h : (if x < 0 then ta else tb) = some out) (kt : ta = some out → dG E σ tgt xs st) (kf : tb = some out → dG E σ (pc + 3) xs st) : dG E σ pc xs (.int x :: st) := by
  obtain ⟨p, l', e, R', s, m, args, below, meth, c, A, Q, nL', D', w', th', b', kc, ks⟩ := E
  obtain ⟨hx, hb, hml, hown, hts, hK, hA, hth, hlk, hcs, rfl, rfl, rfl, rfl, rfl, rfl, rfl⟩ := hE
  intro ls H locs h1 h2 h3 h4
  exact lv_if_lt hx hb hd ht (fun c_ => kt (by rw [if_pos c_] at h; exact h) ls H locs h1 h2 h3 h4) (fun c_ => kf (by rw [if_neg c_] at h; exact h) ls H locs h1 h2 h3 h4)
theorem dg_if_ge (hE : dOk E cc own l R nL D tys w th b) {x : Int32} {off : Int} {tgt : Nat} {τ : Type} {ta tb : Option τ} {out : τ} (hd : decode cc pc = .ok (.ifCond .ge off, 3)) (ht : (pc : Int) + off = (tgt : Int)) (h : (if 0 ≤ x then ta else tb) = some out) (kt : ta = some out → dG E σ tgt xs st) (kf : tb = some out → dG E σ (pc + 3) xs st) : dG E σ pc xs (.int x :: st) := by
  obtain ⟨p, l', e, R', s, m, args, below, meth, c, A, Q, nL', D', w', th', b', kc, ks⟩ := E
  obtain ⟨hx, hb, hml, hown, hts, hK, hA, hth, hlk, hcs, rfl, rfl, rfl, rfl, rfl, rfl, rfl⟩ := hE
  intro ls H locs h1 h2 h3 h4
  exact lv_if_ge hx hb hd ht (fun c_ => kt (by rw [if_pos c_] at h; exact h) ls H locs h1 h2 h3 h4) (fun c_ => kf (by rw [if_neg c_] at h; exact h) ls H locs h1 h2 h3 h4)
theorem dg_if_gt (hE : dOk E cc own l R nL D tys w th b) {x : Int32} {off : Int} {tgt : Nat} {τ : Type} {ta tb : Option τ} {out : τ} (hd : decode cc pc = .ok (.ifCond .gt off, 3)) (ht : (pc : Int) + off = (tgt : Int)) (h : (if 0 < x then ta else tb) = some out) (kt : ta = some out → dG E σ tgt xs st) (kf : tb = some out → dG E σ (pc + 3) xs st) : dG E σ pc xs (.int x :: st) := by
  obtain ⟨p, l', e, R', s, m, args, below, meth, c, A, Q, nL', D', w', th', b', kc, ks⟩ := E
  obtain ⟨hx, hb, hml, hown, hts, hK, hA, hth, hlk, hcs, rfl, rfl, rfl, rfl, rfl, rfl, rfl⟩ := hE
  intro ls H locs h1 h2 h3 h4
  exact lv_if_gt hx hb hd ht (fun c_ => kt (by rw [if_pos c_] at h; exact h) ls H locs h1 h2 h3 h4) (fun c_ => kf (by rw [if_neg c_] at h; exact h) ls H locs h1 h2 h3 h4)
theorem dg_if_le (hE : dOk E cc own l R nL D tys w th b) {x : Int32} {off : Int} {tgt : Nat} {τ : Type} {ta tb : Option τ} {out : τ} (hd : decode cc pc = .ok (.ifCond .le off, 3)) (ht : (pc : Int) + off = (tgt : Int)) (h : (if x ≤ 0 then ta else tb) = some out) (kt : ta = some out → dG E σ tgt xs st) (kf : tb = some out → dG E σ (pc + 3) xs st) : dG E σ pc xs (.int x :: st) := by
  obtain ⟨p, l', e, R', s, m, args, below, meth, c, A, Q, nL', D', w', th', b', kc, ks⟩ := E
  obtain ⟨hx, hb, hml, hown, hts, hK, hA, hth, hlk, hcs, rfl, rfl, rfl, rfl, rfl, rfl, rfl⟩ := hE
  intro ls H locs h1 h2 h3 h4
  exact lv_if_le hx hb hd ht (fun c_ => kt (by rw [if_pos c_] at h; exact h) ls H locs h1 h2 h3 h4) (fun c_ => kf (by rw [if_neg c_] at h; exact h) ls H locs h1 h2 h3 h4)
theorem dg_icmp_eq (hE : dOk E cc own l R nL D tys w th b) {x y : Int32} {off : Int} {tgt : Nat} {τ : Type} {ta tb : Option τ} {out : τ} (hd : decode cc pc = .ok (.if_icmp .eq off, 3)) (ht : (pc : Int) + off = (tgt : Int)) (h : (if x = y then ta else tb) = some out) (kt : ta = some out → dG E σ tgt xs st) (kf : tb = some out → dG E σ (pc + 3) xs st) : dG E σ pc xs (.int y :: .int x :: st) := by
  obtain ⟨p, l', e, R', s, m, args, below, meth, c, A, Q, nL', D', w', th', b', kc, ks⟩ := E
  obtain ⟨hx, hb, hml, hown, hts, hK, hA, hth, hlk, hcs, rfl, rfl, rfl, rfl, rfl, rfl, rfl⟩ := hE
  intro ls H locs h1 h2 h3 h4
  exact lv_icmp_eq hx hb hd ht (fun c_ => kt (by rw [if_pos c_] at h; exact h) ls H locs h1 h2 h3 h4) (fun c_ => kf (by rw [if_neg c_] at h; exact h) ls H locs h1 h2 h3 h4)
theorem dg_icmp_ne (hE : dOk E cc own l R nL D tys w th b) {x y : Int32} {off : Int} {tgt : Nat} {τ : Type} {ta tb : Option τ} {out : τ} (hd : decode cc pc = .ok (.if_icmp .ne off, 3)) (ht : (pc : Int) + off = (tgt : Int)) (h : (if x = y then ta else tb) = some out) (kt : tb = some out → dG E σ tgt xs st) (kf : ta = some out → dG E σ (pc + 3) xs st) : dG E σ pc xs (.int y :: .int x :: st) := by
  obtain ⟨p, l', e, R', s, m, args, below, meth, c, A, Q, nL', D', w', th', b', kc, ks⟩ := E
  obtain ⟨hx, hb, hml, hown, hts, hK, hA, hth, hlk, hcs, rfl, rfl, rfl, rfl, rfl, rfl, rfl⟩ := hE
  intro ls H locs h1 h2 h3 h4
  exact lv_icmp_ne hx hb hd ht (fun c_ => kt (by rw [if_neg c_] at h; exact h) ls H locs h1 h2 h3 h4) (fun c_ => kf (by rw [if_pos c_] at h; exact h) ls H locs h1 h2 h3 h4)
theorem dg_icmp_lt (hE : dOk E cc own l R nL D tys w th b) {x y : Int32} {off : Int} {tgt : Nat} {τ : Type} {ta tb : Option τ} {out : τ} (hd : decode cc pc = .ok (.if_icmp .lt off, 3)) (ht : (pc : Int) + off = (tgt : Int)) (h : (if x < y then ta else tb) = some out) (kt : ta = some out → dG E σ tgt xs st) (kf : tb = some out → dG E σ (pc + 3) xs st) : dG E σ pc xs (.int y :: .int x :: st) := by
  obtain ⟨p, l', e, R', s, m, args, below, meth, c, A, Q, nL', D', w', th', b', kc, ks⟩ := E
  obtain ⟨hx, hb, hml, hown, hts, hK, hA, hth, hlk, hcs, rfl, rfl, rfl, rfl, rfl, rfl, rfl⟩ := hE
  intro ls H locs h1 h2 h3 h4
  exact lv_icmp_lt hx hb hd ht (fun c_ => kt (by rw [if_pos c_] at h; exact h) ls H locs h1 h2 h3 h4) (fun c_ => kf (by rw [if_neg c_] at h; exact h) ls H locs h1 h2 h3 h4)
theorem dg_icmp_ge (hE : dOk E cc own l R nL D tys w th b) {x y : Int32} {off : Int} {tgt : Nat} {τ : Type} {ta tb : Option τ} {out : τ} (hd : decode cc pc = .ok (.if_icmp .ge off, 3)) (ht : (pc : Int) + off = (tgt : Int)) (h : (if y ≤ x then ta else tb) = some out) (kt : ta = some out → dG E σ tgt xs st) (kf : tb = some out → dG E σ (pc + 3) xs st) : dG E σ pc xs (.int y :: .int x :: st) := by
  obtain ⟨p, l', e, R', s, m, args, below, meth, c, A, Q, nL', D', w', th', b', kc, ks⟩ := E
  obtain ⟨hx, hb, hml, hown, hts, hK, hA, hth, hlk, hcs, rfl, rfl, rfl, rfl, rfl, rfl, rfl⟩ := hE
  intro ls H locs h1 h2 h3 h4
  exact lv_icmp_ge hx hb hd ht (fun c_ => kt (by rw [if_pos c_] at h; exact h) ls H locs h1 h2 h3 h4) (fun c_ => kf (by rw [if_neg c_] at h; exact h) ls H locs h1 h2 h3 h4)
theorem dg_icmp_gt (hE : dOk E cc own l R nL D tys w th b) {x y : Int32} {off : Int} {tgt : Nat} {τ : Type} {ta tb : Option τ} {out : τ} (hd : decode cc pc = .ok (.if_icmp .gt off, 3)) (ht : (pc : Int) + off = (tgt : Int)) (h : (if y < x then ta else tb) = some out) (kt : ta = some out → dG E σ tgt xs st) (kf : tb = some out → dG E σ (pc + 3) xs st) : dG E σ pc xs (.int y :: .int x :: st) := by
  obtain ⟨p, l', e, R', s, m, args, below, meth, c, A, Q, nL', D', w', th', b', kc, ks⟩ := E
  obtain ⟨hx, hb, hml, hown, hts, hK, hA, hth, hlk, hcs, rfl, rfl, rfl, rfl, rfl, rfl, rfl⟩ := hE
  intro ls H locs h1 h2 h3 h4
  exact lv_icmp_gt hx hb hd ht (fun c_ => kt (by rw [if_pos c_] at h; exact h) ls H locs h1 h2 h3 h4) (fun c_ => kf (by rw [if_neg c_] at h; exact h) ls H locs h1 h2 h3 h4)
theorem dg_icmp_le (hE : dOk E cc own l R nL D tys w th b) {x y : Int32} {off : Int} {tgt : Nat} {τ : Type} {ta tb : Option τ} {out : τ} (hd : decode cc pc = .ok (.if_icmp .le off, 3)) (ht : (pc : Int) + off = (tgt : Int)) (h : (if x ≤ y then ta else tb) = some out) (kt : ta = some out → dG E σ tgt xs st) (kf : tb = some out → dG E σ (pc + 3) xs st) : dG E σ pc xs (.int y :: .int x :: st) := by
  obtain ⟨p, l', e, R', s, m, args, below, meth, c, A, Q, nL', D', w', th', b', kc, ks⟩ := E
  obtain ⟨hx, hb, hml, hown, hts, hK, hA, hth, hlk, hcs, rfl, rfl, rfl, rfl, rfl, rfl, rfl⟩ := hE
  intro ls H locs h1 h2 h3 h4
  exact lv_icmp_le hx hb hd ht (fun c_ => kt (by rw [if_pos c_] at h; exact h) ls H locs h1 h2 h3 h4) (fun c_ => kf (by rw [if_neg c_] at h; exact h) ls H locs h1 h2 h3 h4)
theorem dg_tabOut (hE : dOk E cc own l R nL D tys w th b) {dflt lo hi : Int} {offs : Array Int} {len : Nat} {x : Int32} {tgt : Nat} (hd : decode cc pc = .ok (.tableswitch dflt lo hi offs, len)) (h : x.toInt < lo ∨ hi < x.toInt) (ht : (pc : Int) + dflt = (tgt : Int)) (kk : dG E σ tgt xs st) : dG E σ pc xs (.int x :: st) := by
  obtain ⟨p, l', e, R', s, m, args, below, meth, c, A, Q, nL', D', w', th', b', kc, ks⟩ := E
  obtain ⟨hx, hb, hml, hown, hts, hK, hA, hth, hlk, hcs, rfl, rfl, rfl, rfl, rfl, rfl, rfl⟩ := hE
  intro ls H locs h1 h2 h3 h4
  exact lv_tableOut hx hb hd h ht (kk ls H locs h1 h2 h3 h4)
theorem dg_tabIn (hE : dOk E cc own l R nL D tys w th b) {dflt lo hi : Int} {offs : Array Int} {len : Nat} {x v : Int32} {n off : Int} {tgt : Nat} (hd : decode cc pc = .ok (.tableswitch dflt lo hi offs, len)) (hxv : x = v) (hn : v.toInt = n) (hq1 : ¬ n < lo) (hq2 : ¬ hi < n) (ho : offs[(n - lo).toNat]? = some off) (ht : (pc : Int) + off = (tgt : Int)) (kk : dG E σ tgt xs st) : dG E σ pc xs (.int x :: st) := by
  obtain ⟨p, l', e, R', s, m, args, below, meth, c, A, Q, nL', D', w', th', b', kc, ks⟩ := E
  obtain ⟨hx, hb, hml, hown, hts, hK, hA, hth, hlk, hcs, rfl, rfl, rfl, rfl, rfl, rfl, rfl⟩ := hE
  intro ls H locs h1 h2 h3 h4
  subst hxv
  subst hn
  exact lv_tableIn hx hb hd hq1 hq2 ho ht (kk ls H locs h1 h2 h3 h4)
theorem dg_case {x v : Int32} {τ : Type} {ta tb : Option τ} {out : τ} {P : Prop} (h : (if x = v then ta else tb) = some out) (kt : x = v → ta = some out → P) (kf : ¬ x = v → tb = some out → P) : P := by
  by_cases c_ : x = v
  · rw [if_pos c_] at h; exact kt c_ h
  · rw [if_neg c_] at h; exact kf c_ h
theorem dg_drop {xs' ys : List Int32} (hs : xs = xs' ++ ys) (kk : dG E σ pc xs' st) : dG E σ pc xs st := by
  obtain ⟨p, l', e, R', s, m, args, below, meth, c, A, Q, nL', D', w', th', b', kc, ks⟩ := E
  intro ls H locs h1 h2 h3 h4
  refine kk ls H locs (lv_mono h1 (fun q hq => ?_)) h2 h3 h4
  rcases List.mem_append.mp hq with g | g
  · exact List.mem_append_left _ g
  · obtain ⟨k, x, g1, rfl⟩ := dlv_mem g
    refine List.mem_append_right _ (dlv_in ?_)
    rw [hs, List.getElem?_append_left (List.getElem?_eq_some_iff.mp g1).1]
    exact g1
/-! contracts: from the world w (cells) to the world w', with the answer r -/
def dPc (D : va_G) (tys : List (ClassId × FieldType)) (w : va_W) (sz : Nat) (av : List Value) : Array Value → State → Prop := va_Pc av (fun U => U.heap.size = sz ∧ va_P D vwCl w U.heap ∧ va_K D vwCl tys U ∧ va_D (fun _ => True) w)
def dQi (D : va_G) (tys : List (ClassId × FieldType)) (w w' : va_W) (sz : Nat) (r : Int32) : Array Value → State → Outcome → State → Prop := va_Qi (fun (r' : Int32) (_ : Unit) => r' = r) (fun _ t => va_P D vwCl w' t.heap ∧ va_K D vwCl tys t ∧ va_D (va_A w sz) w') (va_A w sz)
def dQv (D : va_G) (tys : List (ClassId × FieldType)) (w w' : va_W) (sz : Nat) : Array Value → State → Outcome → State → Prop := va_Qv (fun (_ : Unit) => True) (fun _ t => va_P D vwCl w' t.heap ∧ va_K D vwCl tys t ∧ va_D (va_A w sz) w') (va_A w sz)
end DG
theorem dMet_i {l : Launch} {y : MethodName} {cc : ByteArray} {maxL : Nat} {ty : FieldType} {rm : Room} {D : va_G} {tys : List (ClassId × FieldType)} {w : dS → va_W} {σ σ' : dS} {r : Int32} {th : List (Nat × Value)} {b : Nat} {xs : List Int32} {av : List Value} {sz : Nat} {own : String}
    (hy : plainName y.cls = true) (hcl : y.cls = own) (hav : lv_args 0 av = th ++ dlv b xs) (hlen : (lg_sl av).length ≤ maxL) (hth : ∀ q ∈ th, q.1 < b ∧ q.2.category = 1)
    (hw : ∀ E : dEnv, dOk E cc own l rm maxL D tys w th b → dF E cc (some ty) r σ' → dG E σ 0 xs []) :
    Met l y (ws_ y cc maxL (some ty)) rm (dPc D tys (w σ) sz av) (dQi D tys (w σ) (w σ') sz r) 0 0 (va_A (w σ) sz) := by
  refine Met.ofW (cc := cc) (maxL := maxL) (ret := (some ty)) hy rfl ?_
  intro p e s m args below meth c s₁ B hml hv
  obtain ⟨rfl, hsz, hP, hK, hD0⟩ := hv
  have hx := B.exec
  have hbt := B.bytes
  have hr := B.returns
  have hts := atoms_spec (ws := ws_ y cc maxL (some ty)) B.pre
  have hts : ∀ w ∈ lw_all, w.before _ s = true := fun w h => hts w (List.mem_cons_of_mem _ h)
  have hown : s.vm.findClass own = some m.cls := by rw [← hcl]; exact findClass_of_methodNamed B.named
  have hlocks := B.notSynchronized
  subst hsz
  have hD := hD0.self (sz := s.heap.size)
  have hA : ∀ q : Nat, s.heap.size ≤ q → va_A (w σ) s.heap.size q := fun q h => Or.inr h
  rw [lg_entry_eq]
  have hl := lv_entry av (n := maxL) hlen
  rw [hav] at hl
  have hE : dOk (p, l, e, rm, s, m, av.toArray, below, meth, c, va_A (w σ) s.heap.size, MQ below (dQi D tys (w σ) (w σ') s.heap.size r) av.toArray s 0 0 (va_A (w σ) s.heap.size), maxL, D, w, th, b, 0, 0) cc own l rm maxL D tys w th b := ⟨hx, hbt, hml, hown, hts, hK, hA, hth, hlocks, ⟨Nat.zero_le _, Nat.zero_le _⟩, rfl, rfl, rfl, rfl, rfl, rfl, rfl⟩
  refine hw _ hE ?_ _ s.heap [] hl hP hD va_S.rf
  intro hn pc xs' hd ls H locs h1 h2 h3 h4
  exact W.zret hx hbt hr hn (fun t ht hW => ⟨⟨r, (), rfl, rfl, by rw [ht]; exact h2, va_K.moved hW.alike hK, h3⟩, h4.F ht⟩) h4.2.2 hd
theorem dMet_v {l : Launch} {y : MethodName} {cc : ByteArray} {maxL : Nat} {rm : Room} {D : va_G} {tys : List (ClassId × FieldType)} {w : dS → va_W} {σ σ' : dS} {r : Int32} {th : List (Nat × Value)} {b : Nat} {xs : List Int32} {av : List Value} {sz : Nat} {own : String}
    (hy : plainName y.cls = true) (hcl : y.cls = own) (hav : lv_args 0 av = th ++ dlv b xs) (hlen : (lg_sl av).length ≤ maxL) (hth : ∀ q ∈ th, q.1 < b ∧ q.2.category = 1)
    (hw : ∀ E : dEnv, dOk E cc own l rm maxL D tys w th b → dF E cc none r σ' → dG E σ 0 xs []) :
    Met l y (ws_ y cc maxL none) rm (dPc D tys (w σ) sz av) (dQv D tys (w σ) (w σ') sz) 0 0 (va_A (w σ) sz) := by
  refine Met.ofW (cc := cc) (maxL := maxL) (ret := none) hy rfl ?_
  intro p e s m args below meth c s₁ B hml hv
  obtain ⟨rfl, hsz, hP, hK, hD0⟩ := hv
  have hx := B.exec
  have hbt := B.bytes
  have hr := B.returns
  have hts := atoms_spec (ws := ws_ y cc maxL none) B.pre
  have hts : ∀ w ∈ lw_all, w.before _ s = true := fun w h => hts w (List.mem_cons_of_mem _ h)
  have hown : s.vm.findClass own = some m.cls := by rw [← hcl]; exact findClass_of_methodNamed B.named
  have hlocks := B.notSynchronized
  subst hsz
  have hD := hD0.self (sz := s.heap.size)
  have hA : ∀ q : Nat, s.heap.size ≤ q → va_A (w σ) s.heap.size q := fun q h => Or.inr h
  rw [lg_entry_eq]
  have hl := lv_entry av (n := maxL) hlen
  rw [hav] at hl
  have hE : dOk (p, l, e, rm, s, m, av.toArray, below, meth, c, va_A (w σ) s.heap.size, MQ below (dQv D tys (w σ) (w σ') s.heap.size) av.toArray s 0 0 (va_A (w σ) s.heap.size), maxL, D, w, th, b, 0, 0) cc own l rm maxL D tys w th b := ⟨hx, hbt, hml, hown, hts, hK, hA, hth, hlocks, ⟨Nat.zero_le _, Nat.zero_le _⟩, rfl, rfl, rfl, rfl, rfl, rfl, rfl⟩
  refine hw _ hE ?_ _ s.heap [] hl hP hD va_S.rf
  intro pc xs' hd ls H locs h1 h2 h3 h4
  exact W.vret hx hbt hr (fun t ht hW => ⟨⟨(), rfl, trivial, by rw [ht]; exact h2, va_K.moved hW.alike hK, h3⟩, h4.F ht⟩) h4.2.2 hd
theorem dblind {D : va_G} {tys : List (ClassId × FieldType)} {w : va_W} {sz : Nat} {av : List Value} : FrameBlind (dPc D tys w sz av) := fun a U g mk q => by
  obtain ⟨q0, q1, qP, qK, qD⟩ := q
  exact ⟨q0, q1, qP, va_K.moved (u := U) (U := U.calling g mk a) (Vm.Alike.refl U.vm) qK, qD⟩
theorem dfree {A : Nat → Prop} {w : va_W} {H0 H : Heap} {locs : List Loc} (hD : va_D A w) (hS : va_S A H0 H locs) (hA : ∀ q : Nat, H0.size ≤ q → A q) : ∀ q : Nat, va_A w H.size q → A q := by
  intro q h
  rcases h with ⟨k, e, h⟩ | h
  · exact hD.2 k _ h
  · exact hA q (Nat.le_trans hS.1 h)
theorem dg_callVi {E : dEnv} {cc : ByteArray} {own : String} {l : Launch} {R : Room} {nL : Nat} {D : va_G} {tys : List (ClassId × FieldType)} {w : dS → va_W} {b : Nat} {pc : Nat} {σ : dS} {xs : List Int32} {st : List Value} {o : Nat} {y : MethodName} {bytes : ByteArray} {maxL : Nat} {ty : FieldType} {rm : Room} {C : String} {T : u_T} {ci N idx : Nat} {f : dS → List Value} {As st0 : List Value} {σ' : dS} {r : Int32} (hE : dOk E cc own l R nL D tys w [(0, .ref o)] b)
    (hrecv : ∀ σ : dS, (w σ)[0]? = some (o, .inr (ci, f σ)) ∧ vwCl[ci]? = some (C, T, N))
    (hM : ∀ sz : Nat, Met l y (ws_ y bytes maxL (some ty)) rm (dPc D tys (w σ) sz (.ref o :: As)) (dQi D tys (w σ) (w σ') sz r) 0 0 (va_A (w σ) sz))
    (hG : GoodIn lw_all (wsV own idx C y (ws_ y bytes maxL (some ty)))) (n : Nat) (hAs : As.length = n) (hrm : rm.cells = 0 ∧ rm.slots = 0) (hy : y.cls = C ∧ y.cls ≠ "java/lang/invoke/MethodHandle" ∧ y.cls ≠ "java/lang/invoke/VarHandle" ∧ (parseMethodDescriptor y.desc).map (fun d => d.parameters.length) = some n) (hR : rm.frames + 1 ≤ R.frames ∧ 8 + (maxL + 11) + rm.locals ≤ R.locals) (hst : st0 = As.reverse ++ .ref o :: st) (hs : (st.map fun v => v.category).sum ≤ 8) (hd : decode cc pc = .ok (.invokevirtual idx, 3)) (kk : dG E σ' (pc + 3) xs (.int r :: st)) : dG E σ pc xs st0 := by
  obtain ⟨p, l', e, R', s, m, args, below, meth, c, A, Q, nL', D', w', th', b', kc, ks⟩ := E
  obtain ⟨hx, hb, hml, hown, hts, hK, hA, hth, hlk, hcs, rfl, rfl, rfl, rfl, rfl, rfl, rfl⟩ := hE
  intro ls H locs h1 h2 h3 h4
  have hF := dfree h3 h4 hA
  refine va_calli (va_runV (As := As) (rest := st) ⟨hx, hb, hml, hown, hts⟩ (hM H.size) (cwV n hts hG rfl hrm.1 hrm.2 hy hR) ⟨dblind, va_recv hK h2 (ci := ci) (q0 := 0) (hrecv σ).2 (hrecv σ).1, fun U hU hW => ⟨rfl, by rw [hU], by rw [hU]; exact h2, va_K.moved hW.alike hK, h3.weaken (fun _ _ _ _ => trivial)⟩⟩ rfl hAs h1.1 hst (lv_room hs) hd hcs) h4 (fun q _ h => hF q h) hF (fun r1 u t H1 locs1 ht hvm hpost hB hz1 hk1 hS => ?_)
  subst hpost
  obtain ⟨hP1, hK1, hD1⟩ := hB
  rw [ht] at hP1
  exact kk ls H1 locs1 h1 hP1 (hD1.weaken (fun k q _ h => hF q.1 h)) hS
theorem dg_callVv {E : dEnv} {cc : ByteArray} {own : String} {l : Launch} {R : Room} {nL : Nat} {D : va_G} {tys : List (ClassId × FieldType)} {w : dS → va_W} {b : Nat} {pc : Nat} {σ : dS} {xs : List Int32} {st : List Value} {o : Nat} {y : MethodName} {bytes : ByteArray} {maxL : Nat} {rm : Room} {C : String} {T : u_T} {ci N idx : Nat} {f : dS → List Value} {As st0 : List Value} {σ' : dS} (hE : dOk E cc own l R nL D tys w [(0, .ref o)] b)
    (hrecv : ∀ σ : dS, (w σ)[0]? = some (o, .inr (ci, f σ)) ∧ vwCl[ci]? = some (C, T, N))
    (hM : ∀ sz : Nat, Met l y (ws_ y bytes maxL none) rm (dPc D tys (w σ) sz (.ref o :: As)) (dQv D tys (w σ) (w σ') sz) 0 0 (va_A (w σ) sz))
    (hG : GoodIn lw_all (wsV own idx C y (ws_ y bytes maxL none))) (n : Nat) (hAs : As.length = n) (hrm : rm.cells = 0 ∧ rm.slots = 0) (hy : y.cls = C ∧ y.cls ≠ "java/lang/invoke/MethodHandle" ∧ y.cls ≠ "java/lang/invoke/VarHandle" ∧ (parseMethodDescriptor y.desc).map (fun d => d.parameters.length) = some n) (hR : rm.frames + 1 ≤ R.frames ∧ 8 + (maxL + 11) + rm.locals ≤ R.locals) (hst : st0 = As.reverse ++ .ref o :: st) (hs : (st.map fun v => v.category).sum ≤ 8) (hd : decode cc pc = .ok (.invokevirtual idx, 3)) (kk : dG E σ' (pc + 3) xs st) : dG E σ pc xs st0 := by
  obtain ⟨p, l', e, R', s, m, args, below, meth, c, A, Q, nL', D', w', th', b', kc, ks⟩ := E
  obtain ⟨hx, hb, hml, hown, hts, hK, hA, hth, hlk, hcs, rfl, rfl, rfl, rfl, rfl, rfl, rfl⟩ := hE
  intro ls H locs h1 h2 h3 h4
  have hF := dfree h3 h4 hA
  refine va_callv (va_runV (As := As) (rest := st) ⟨hx, hb, hml, hown, hts⟩ (hM H.size) (cwV n hts hG rfl hrm.1 hrm.2 hy hR) ⟨dblind, va_recv hK h2 (ci := ci) (q0 := 0) (hrecv σ).2 (hrecv σ).1, fun U hU hW => ⟨rfl, by rw [hU], by rw [hU]; exact h2, va_K.moved hW.alike hK, h3.weaken (fun _ _ _ _ => trivial)⟩⟩ rfl hAs h1.1 hst (lv_room hs) hd hcs) h4 (fun q _ h => hF q h) hF (fun u t H1 locs1 ht hvm hpost hB hz1 hk1 hS => ?_)
  obtain ⟨hP1, hK1, hD1⟩ := hB
  rw [ht] at hP1
  exact kk ls H1 locs1 h1 hP1 (hD1.weaken (fun k q _ h => hF q.1 h)) hS
theorem dg_callS {E : dEnv} {cc : ByteArray} {own : String} {l : Launch} {R : Room} {nL : Nat} {D : va_G} {tys : List (ClassId × FieldType)} {w : dS → va_W} {th : List (Nat × Value)} {b : Nat} {pc : Nat} {σ : dS} {xs : List Int32} {st : List Value} {y : MethodName} {bytes : ByteArray} {maxL : Nat} {ty : FieldType} {rm : Room} {idx : Nat} {As st0 : List Value} {r : Int32} (hE : dOk E cc own l R nL D tys w th b)
    (hM : ∀ sz : Nat, Met l y (ws_ y bytes maxL (some ty)) rm (dPc D [] [] sz As) (dQi D [] [] [] sz r) 0 0 (va_A [] sz))
    (hG : GoodIn lw_all (va_wsS own idx y (ws_ y bytes maxL (some ty)))) (n : Nat) (hAs : As.length = n) (hrm : rm.cells = 0 ∧ rm.slots = 0) (hy : y.cls ≠ "java/lang/invoke/MethodHandle" ∧ y.cls ≠ "java/lang/invoke/VarHandle" ∧ (parseMethodDescriptor y.desc).map (fun d => d.parameters.length) = some n) (hR : rm.frames + 1 ≤ R.frames ∧ 8 + (maxL + 11) + rm.locals ≤ R.locals) (hst : st0 = As.reverse ++ st) (hs : (st.map fun v => v.category).sum ≤ 8) (hd : decode cc pc = .ok (.invokestatic idx, 3)) (kk : dG E σ (pc + 3) xs (.int r :: st)) : dG E σ pc xs st0 := by
  obtain ⟨p, l', e, R', s, m, args, below, meth, c, A, Q, nL', D', w', th', b', kc, ks⟩ := E
  obtain ⟨hx, hb, hml, hown, hts, hK, hA, hth, hlk, hcs, rfl, rfl, rfl, rfl, rfl, rfl, rfl⟩ := hE
  intro ls H locs h1 h2 h3 h4
  have hF : ∀ q : Nat, va_A [] H.size q → A q := fun q h => by
    rcases h with ⟨k, e, h⟩ | h
    · cases h
    · exact hA q (Nat.le_trans h4.1 h)
  refine va_calli (va_runS (As := As) (rest := st) ⟨hx, hb, hml, hown, hts⟩ (hM H.size) (va_cwS n hts hG rfl hrm.1 hrm.2 hy hR) ⟨dblind, fun U hU hW => ⟨rfl, by rw [hU], (fun k q h => by cases h), va_K.moved hW.alike ⟨hK.1, fun k q h => by cases h⟩, ⟨fun i j p q h => (by cases h), fun k q h => (by cases h)⟩⟩⟩ rfl hAs h1.1 hst (lv_room hs) hd hcs) h4 (fun q _ h => hF q h) hF (fun r1 u t H1 locs1 ht hvm hpost hB hz1 hk1 hS => ?_)
  subst hpost
  refine kk ls H1 locs1 h1 (h2.kept (fun k q hq => hk1 q.1 (h2 k q hq).lt (fun h => ?_))) h3 hS
  rcases h with ⟨k2, e2, h⟩ | h
  · cases h
  · exact Nat.lt_irrefl _ (Nat.lt_of_lt_of_le (h2 k q hq).lt h)
