/-! PURE PROOFS, BASE: wq ("the run gives b with Q b"), its rules, numbers -/
set_option maxRecDepth 100000
def wq {β : Type} (x : Option β) (Q : β → Prop) : Prop := ∃ b, x = some b ∧ Q b
theorem wq_some {β : Type} {b : β} {Q : β → Prop} : wq (some b) Q ↔ Q b := by
  constructor
  · rintro ⟨c, h, q⟩; cases h; exact q
  · intro h; exact ⟨b, rfl, h⟩
theorem wq_none {β : Type} {Q : β → Prop} : wq (none : Option β) Q ↔ False := by
  constructor
  · rintro ⟨c, h, q⟩; cases h
  · intro h; cases h
theorem wq_ite {β : Type} {c : Prop} [Decidable c] {x y : Option β} {Q : β → Prop} : wq (if c then x else y) Q ↔ (c → wq x Q) ∧ (¬ c → wq y Q) := by
  by_cases h : c
  · rw [if_pos h]; exact ⟨fun g => ⟨fun _ => g, fun n => absurd h n⟩, fun g => g.1 h⟩
  · rw [if_neg h]; exact ⟨fun g => ⟨fun n => absurd n h, fun _ => g⟩, fun g => g.2 h⟩
theorem wq_chk {β : Type} {i : Int32} {n : Nat} {x : Option β} {Q : β → Prop} : wq (chk i n x) Q ↔ vp_in i n ∧ wq x Q := by
  unfold chk
  by_cases h : okI i n = true
  · rw [if_pos h]; exact ⟨fun g => ⟨okI_in.mp h, g⟩, fun g => g.2⟩
  · rw [if_neg h]; exact ⟨fun g => (wq_none.mp g).elim, fun g => absurd (okI_in.mpr g.1) h⟩
theorem wq_zok {β : Type} {v : Int32} {x : Option β} {Q : β → Prop} : wq (zok v x) Q ↔ (v = 0 ∨ v = 1) ∧ wq x Q := by
  unfold zok
  by_cases h : v = 0 ∨ v = 1
  · rw [if_pos h]; exact ⟨fun g => ⟨h, g⟩, fun g => g.2⟩
  · rw [if_neg h]; exact ⟨fun g => (wq_none.mp g).elim, fun g => absurd g.1 h⟩
theorem wq_bind {α β : Type} {x : Option α} {f : α → Option β} {Q : β → Prop} : wq (Option.bind x f) Q ↔ wq x (fun r => wq (f r) Q) := by
  cases x with
  | none => exact ⟨fun g => (wq_none.mp g).elim, fun g => (wq_none.mp g).elim⟩
  | some a => exact ⟨fun g => (wq_some (Q := fun r => wq (f r) Q)).mpr g, fun g => (wq_some (Q := fun r => wq (f r) Q)).mp g⟩
theorem wq_mono {β : Type} {x : Option β} {P Q : β → Prop} (h : wq x P) (k : ∀ b, P b → Q b) : wq x Q := by
  obtain ⟨b, e, p⟩ := h
  exact ⟨b, e, k b p⟩
def ks {α β : Type} (f : α → Option (α ⊕ β)) (Q : β → Prop) (o : α ⊕ β) : Prop := match o with
  | .inl a => wq (lp f a) Q
  | .inr b => Q b
theorem ks_l {α β : Type} {f : α → Option (α ⊕ β)} {Q : β → Prop} {a : α} : ks f Q (.inl a) ↔ wq (lp f a) Q := Iff.rfl
theorem ks_r {α β : Type} {f : α → Option (α ⊕ β)} {Q : β → Prop} {b : β} : ks f Q (.inr b) ↔ Q b := Iff.rfl
theorem wq_lpB {α β : Type} {f : α → Option (α ⊕ β)} {x : Option (α ⊕ β)} {Q : β → Prop} : wq (lpB f x) Q ↔ wq x (ks f Q) := by
  cases x with
  | none => exact ⟨fun g => (wq_none.mp g).elim, fun g => (wq_none.mp g).elim⟩
  | some o =>
    rw [wq_some]
    cases o with
    | inl a => exact Iff.rfl
    | inr b => exact wq_some
theorem wq_lp {α β : Type} {f : α → Option (α ⊕ β)} {a : α} {Q : β → Prop} : wq (lp f a) Q ↔ wq (f a) (ks f Q) := by rw [lp_eq, wq_lpB]
theorem wq_swap {α β : Type} {x : Option α} {y : Option β} {R : α → β → Prop} (h : wq x (fun a => wq y (fun b => R a b))) : wq y (fun b => wq x (fun a => R a b)) := by
  obtain ⟨a, ha, b, hb, r⟩ := h
  exact ⟨b, hb, a, ha, r⟩
theorem wq_eq {β : Type} {x : Option β} {Q : β → Prop} {b : β} (h : wq x Q) (e : x = some b) : Q b := by
  obtain ⟨c, hc, q⟩ := h
  rw [e] at hc; cases hc; exact q
/-! numbers -/
theorem z_lt0 {n : Nat} (h : n < 2147483648) : (nI n < 0) ↔ False := ⟨fun g => nI_pos (by omega) g, fun g => g.elim⟩
theorem z_ge0 {n : Nat} (h : n < 2147483648) : (0 ≤ nI n) ↔ True := ⟨fun _ => trivial, fun _ => nI_pos' (by omega)⟩
theorem z_e0 {n : Nat} (h : n < 2147483648) : (nI n = 0) ↔ n = 0 := by
  have := nI_eq (a := n) (b := 0) (by omega) (by omega)
  rw [nI_0] at this; exact this
theorem z_le0 {n : Nat} (h : n < 2147483648) : (nI n ≤ 0) ↔ n = 0 := by
  have := nI_leI (a := n) (b := 0) (by omega) (by omega)
  rw [nI_0] at this; rw [this]; omega
theorem z_gt0 {n : Nat} (h : n < 2147483648) : (0 < nI n) ↔ 0 < n := by
  have := nI_ltI (a := 0) (b := n) (by omega) (by omega)
  rw [nI_0] at this; exact this
theorem z_lt {a b : Nat} (ha : a < 2147483648) (hb : b < 2147483648) : nI a < nI b ↔ a < b := nI_ltI (by omega) (by omega)
theorem z_le {a b : Nat} (ha : a < 2147483648) (hb : b < 2147483648) : nI a ≤ nI b ↔ a ≤ b := nI_leI (by omega) (by omega)
theorem z_eq {a b : Nat} (ha : a < 2147483648) (hb : b < 2147483648) : nI a = nI b ↔ a = b := nI_eq (by omega) (by omega)
theorem z_cl {n : Nat} (h : n < 2147483648) : (nI n).toNatClampNeg = n := nI_clamp (by omega)
theorem z_in {n N : Nat} (h : n < 2147483648) : vp_in (nI n) N ↔ n < N := by
  unfold vp_in
  rw [z_lt0 h, z_cl h, false_or]; omega
theorem z_sub {a b : Nat} (h : b ≤ a) : nI a - nI b = nI (a - b) := pk_sub h
theorem z_m1 {a : Nat} (h : 0 < a) : nI a + (-1) = nI (a - 1) := by
  obtain ⟨b, rfl⟩ : ∃ b, a = b + 1 := ⟨a - 1, by omega⟩
  rw [pk_m1]; rfl
theorem z_toInt {n : Nat} (h : n < 2147483648) : (nI n).toInt = (n : Int) := nI_toInt (by omega)
theorem z_m1lt : ((-1 : Int32) < 0) ↔ True := by decide
theorem z_m1ge : (0 ≤ (-1 : Int32)) ↔ False := by decide
theorem z_nm1 {n : Nat} (h : n < 2147483648) : (nI n = -1) ↔ False := by
  constructor
  · intro g
    have h1 := z_toInt h
    rw [g] at h1
    have : (-1 : Int32).toInt = -1 := by decide
    omega
  · intro g; cases g
theorem z_m1n {n : Nat} (h : n < 2147483648) : (-1 = nI n) ↔ False := by
  constructor
  · intro g; exact (z_nm1 h).mp g.symm
  · intro g; cases g
theorem z_0m1 : ((0 : Int32) + (-1)) = -1 := by decide
theorem z_s1 (x : Int32) : x - 1 = x + (-1) := by
  have : ∀ x : BitVec 32, x - 1 = x + (-1) := fun x => by rw [BitVec.sub_eq_add_neg]
  exact Int32.toBitVec_inj.mp (this x.toBitVec)
/-- x given by its range: below 0, from n on, or nI j -/
theorem z_cut (x : Int32) {n : Nat} (hn : n < 2147483648) : x < 0 ∨ nI n ≤ x ∨ ∃ j : Nat, j < n ∧ x = nI j := pk_ix x (by omega)
theorem z_nlt {x : Int32} (h : ¬ x < 0) : ∃ j : Nat, j < 2147483648 ∧ x = nI j := by
  obtain ⟨j, h1, h2⟩ := nI_of h
  exact ⟨j, by omega, h2⟩
theorem z_nle {x y : Int32} : ¬ x ≤ y ↔ y < x := by
  rw [Int32.le_iff_toInt_le, Int32.lt_iff_toInt_lt]; omega
theorem z_nlt' {x y : Int32} : ¬ x < y ↔ y ≤ x := by
  rw [Int32.le_iff_toInt_le, Int32.lt_iff_toInt_lt]; omega
/-! bytes -/
theorem z_b {n : Nat} (h : n < 128) : (nI n).toInt8.toInt32 = nI n := (by decide +kernel : ∀ n, n < 128 → (nI n).toInt8.toInt32 = nI n) n h
theorem z_nb {n : Nat} (h : n < 128) : vp_nar .byte (nI n) = nI n := by rw [vp_nar_byte, z_b h]
theorem z_bm1 : ((-1 : Int32)).toInt8.toInt32 = -1 := by decide
theorem z_nbm1 : vp_nar .byte (-1 : Int32) = -1 := by decide
theorem z_nb0 : vp_nar .byte (0 : Int32) = 0 := by decide
theorem z_nz0 : vp_nar .boolean (0 : Int32) = 0 := by decide
theorem z_nz1 : vp_nar .boolean (1 : Int32) = 1 := by decide
theorem l_1 : (1 : Int32) = nI 1 := rfl
theorem l_2 : (2 : Int32) = nI 2 := rfl
theorem l_3 : (3 : Int32) = nI 3 := rfl
theorem l_4 : (4 : Int32) = nI 4 := rfl
theorem l_5 : (5 : Int32) = nI 5 := rfl
theorem l_6 : (6 : Int32) = nI 6 := rfl
theorem l_7 : (7 : Int32) = nI 7 := rfl
theorem l_8 : (8 : Int32) = nI 8 := rfl
theorem l_9 : (9 : Int32) = nI 9 := rfl
theorem l_10 : (10 : Int32) = nI 10 := rfl
theorem l_11 : (11 : Int32) = nI 11 := rfl
theorem l_12 : (12 : Int32) = nI 12 := rfl
theorem l_13 : (13 : Int32) = nI 13 := rfl
theorem l_14 : (14 : Int32) = nI 14 := rfl
theorem l_15 : (15 : Int32) = nI 15 := rfl
theorem l_16 : (16 : Int32) = nI 16 := rfl
theorem l_17 : (17 : Int32) = nI 17 := rfl
theorem l_23 : (23 : Int32) = nI 23 := rfl
theorem l_24 : (24 : Int32) = nI 24 := rfl
theorem l_40 : (40 : Int32) = nI 40 := rfl
theorem l_100 : (100 : Int32) = nI 100 := rfl
theorem l_320 : (320 : Int32) = nI 320 := rfl
theorem l_383 : (383 : Int32) = nI 383 := rfl
/-! states -/
theorem u_e {f : Nat → Int32} {k : Nat} {x : Int32} : upd f k x k = x := pk_us
theorem u_n {f : Nat → Int32} {k j : Nat} {x : Int32} (h : j ≠ k) : upd f k x j = f j := pk_un h
/-- nothing but the fields l has changed -/
def sm (l : List Nat) (σ σ' : dS) : Prop := ∀ i, i ∉ l → σ' i = σ i
theorem sm_rf {l : List Nat} {σ : dS} : sm l σ σ := fun _ _ => rfl
theorem sm_tr {l : List Nat} {σ σ' σ'' : dS} (h : sm l σ σ') (h2 : sm l σ' σ'') : sm l σ σ'' := fun i hi => (h2 i hi).trans (h i hi)
theorem sm_sub {l l' : List Nat} {σ σ' : dS} (h : sm l σ σ') (hl : ∀ i, i ∈ l → i ∈ l') : sm l' σ σ' := fun i hi => h i (fun g => hi (hl i g))
theorem sm_up {l : List Nat} {σ σ' : dS} {k j : Nat} {v : Int32} (hk : k ∈ l) (h : sm l σ σ') : sm l σ (up2 σ' k j v) := fun i hi => by
  rw [up2_n (fun e => hi (by rw [e]; exact hk))]; exact h i hi
/-! bits (rows of kit/laws/BITS.to-paste) -/
def bt (x : Int32) (i : Nat) : Bool := x.toBitVec.getLsbD i
theorem b_ext {x y : Int32} (h : ∀ i, i < 32 → bt x i = bt y i) : x = y := Int32.toBitVec_inj.mp (BitVec.eq_of_getLsbD_eq (fun i hi => h i hi))
theorem b_or (x y : Int32) (i : Nat) : bt (x ||| y) i = (bt x i || bt y i) := by unfold bt; rw [Int32.toBitVec_or, BitVec.getLsbD_or]
theorem b_and (x y : Int32) (i : Nat) : bt (x &&& y) i = (bt x i && bt y i) := by unfold bt; rw [Int32.toBitVec_and, BitVec.getLsbD_and]
theorem b_xor (x y : Int32) (i : Nat) : bt (x ^^^ y) i = (bt x i ^^ bt y i) := by unfold bt; rw [Int32.toBitVec_xor, BitVec.getLsbD_xor]
theorem b_big {x : Int32} {i : Nat} (h : 32 ≤ i) : bt x i = false := BitVec.getLsbD_of_ge _ _ h
theorem b_m1 : ∀ i, i < 32 → bt (-1) i = true := by decide +kernel
theorem b_0 (i : Nat) : bt 0 i = false := BitVec.getLsbD_zero
theorem s_l : ∀ n, n < 32 → ((nI n &&& 31).toBitVec.smod 32).toNat = n := by decide +kernel
theorem b_shl (n : Nat) (hn : n < 32) (x : Int32) {i : Nat} (hi : i < 32) : bt (x <<< (nI n &&& 31)) i = (decide (n ≤ i) && bt x (i - n)) := by
  unfold bt
  rw [Int32.toBitVec_shiftLeft]
  show (x.toBitVec <<< ((nI n &&& 31).toBitVec.smod 32).toNat).getLsbD i = _
  rw [s_l n hn, BitVec.getLsbD_shiftLeft]
  rcases Nat.lt_or_ge i n with h | h
  · simp [h, Nat.not_le.mpr h]
  · simp [hi, h, Nat.not_lt.mpr h]
theorem b_sshr (n : Nat) (hn : n < 32) (x : Int32) {i : Nat} (hi : i < 32) : bt (x >>> (nI n &&& 31)) i = if n + i < 32 then bt x (n + i) else bt x 31 := by
  unfold bt
  rw [Int32.toBitVec_shiftRight]
  show (x.toBitVec.sshiftRight ((nI n &&& 31).toBitVec.smod 32).toNat).getLsbD i = _
  rw [s_l n hn, BitVec.getLsbD_sshiftRight, BitVec.msb_eq_getLsbD_last]
  simp [hi]
theorem b_1 : ∀ j, j < 32 → bt 1 j = decide (j = 0) := by decide +kernel
/-- one bit -/
def bI (k : Nat) : Int32 := (1 : Int32) <<< (nI k &&& 31)
theorem bI_bt {k i : Nat} (hk : k < 32) (hi : i < 32) : bt (bI k) i = decide (i = k) := by
  unfold bI
  rw [b_shl k hk 1 hi, b_1 (i - k) (by omega)]
  by_cases h : i = k
  · subst h; simp
  · rw [decide_eq_false h]
    by_cases h2 : k ≤ i
    · rw [decide_eq_true h2, decide_eq_false (by omega : ¬ i - k = 0)]; rfl
    · rw [decide_eq_false h2]; rfl
theorem bI_bt' {k i : Nat} (hk : k < 32) : bt (bI k) i = decide (i = k) := by
  by_cases hi : i < 32
  · exact bI_bt hk hi
  · rw [b_big (by omega), decide_eq_false (by omega)]
theorem b_and1 (x : Int32) {k : Nat} (hk : k < 32) : ((x >>> (nI k &&& 31)) &&& (1 : Int32)) = if bt x k = true then 1 else 0 := by
  apply b_ext
  intro i hi
  rw [b_and, b_1 i hi, b_sshr k hk x hi]
  by_cases h0 : i = 0
  · subst h0
    rw [Nat.add_zero, if_pos hk]
    cases bt x k <;> simp [b_1, b_0]
  · rw [decide_eq_false h0, Bool.and_false]
    cases bt x k
    · simp [b_0]
    · simp [b_1 i hi, h0]
theorem t0 (x : Int32) {k : Nat} (hk : k < 32) : (((x >>> (nI k &&& 31)) &&& (1 : Int32)) = 0) ↔ bt x k = false := by
  rw [b_and1 x hk]
  cases bt x k <;> simp
theorem t1 (x : Int32) {k : Nat} (hk : k < 32) : (((x >>> (nI k &&& 31)) &&& (1 : Int32)) = 1) ↔ bt x k = true := by
  rw [b_and1 x hk]
  cases bt x k <;> simp
theorem b_not (x : Int32) {i : Nat} (hi : i < 32) : bt (x ^^^ (-1)) i = !bt x i := by
  rw [b_xor, b_m1 i hi]; cases bt x i <;> rfl
theorem nclr : ∀ (l N : Nat), N.testBit l = true → (∀ i, i < l → N.testBit i = false) → ∀ i, (N &&& (N - 1)).testBit i = (N.testBit i && decide (i ≠ l)) := by
  intro l
  induction l with
  | zero =>
    intro N h _ i
    rw [Nat.testBit_and]
    have h1 : N % 2 = 1 := by simpa [Nat.testBit_zero] using h
    cases i with
    | zero =>
      rw [Nat.testBit_zero (N - 1)]
      have : ¬ (N - 1) % 2 = 1 := by omega
      simp [this]
    | succ i =>
      rw [Nat.testBit_succ, Nat.testBit_succ, show (N - 1) / 2 = N / 2 by omega]
      simp
  | succ l ih =>
    intro N h h0 i
    have h1 : ¬ N % 2 = 1 := by simpa [Nat.testBit_zero] using h0 0 (by omega)
    have hl : (N / 2).testBit l = true := by rw [← Nat.testBit_succ]; exact h
    have hl0 : ∀ i, i < l → (N / 2).testBit i = false := fun i hi => by rw [← Nat.testBit_succ]; exact h0 (i + 1) (by omega)
    have hp : 0 < N / 2 := by
      rcases Nat.eq_zero_or_pos (N / 2) with z | z
      · rw [z] at hl; simp at hl
      · exact z
    rw [Nat.testBit_and]
    cases i with
    | zero => rw [Nat.testBit_zero N]; simp [h1]
    | succ i =>
      have := ih (N / 2) hl hl0 i
      rw [Nat.testBit_and] at this
      rw [Nat.testBit_succ, Nat.testBit_succ, show (N - 1) / 2 = N / 2 - 1 by omega, this]
      simp
theorem bt_tb (x : Int32) (i : Nat) : bt x i = x.toBitVec.toNat.testBit i := rfl
theorem clr_bt {x : Int32} {l : Nat} (h : bt x l = true) (h0 : ∀ i, i < l → bt x i = false) (i : Nat) : bt (x &&& (x - 1)) i = (bt x i && decide (i ≠ l)) := by
  have hN : 0 < x.toBitVec.toNat := by
    rcases Nat.eq_zero_or_pos x.toBitVec.toNat with z | z
    · rw [bt_tb, z] at h; simp at h
    · exact z
  have e : (x - 1).toBitVec.toNat = x.toBitVec.toNat - 1 := by
    rw [Int32.toBitVec_sub, BitVec.toNat_sub]
    have := x.toBitVec.isLt
    show (2 ^ 32 - (1 : Int32).toBitVec.toNat + x.toBitVec.toNat) % 2 ^ 32 = _
    have e1 : (1 : Int32).toBitVec.toNat = 1 := by decide
    rw [e1]; omega
  have := nclr l x.toBitVec.toNat h h0 i
  rw [b_and, bt_tb x i, bt_tb (x - 1) i, e, ← Nat.testBit_and]
  exact this
/-! the shapes that are left when small numbers are written nI -/
theorem n1_add (a : Nat) : nI a + 1 = nI (a + 1) := nI_1 a
theorem n1_ad2 (a : Nat) : 1 + nI a = nI (1 + a) := nI_add 1 a
theorem n1_sub {a : Nat} (h : 0 < a) : nI a - 1 = nI (a - 1) := z_sub (a := a) (b := 1) h
theorem n1_eq {a : Nat} (h : a < 2147483648) : (nI a = 1) ↔ a = 1 := z_eq (b := 1) h (by omega)
theorem n1_eq' {a : Nat} (h : a < 2147483648) : (1 = nI a) ↔ a = 1 := by rw [eq_comm, n1_eq h]
theorem n1_le {a : Nat} (h : a < 2147483648) : (nI a ≤ 1) ↔ a ≤ 1 := z_le (b := 1) h (by omega)
theorem n1_ge {a : Nat} (h : a < 2147483648) : (1 ≤ nI a) ↔ 1 ≤ a := z_le (a := 1) (by omega) h
theorem n1_lt {a : Nat} (h : a < 2147483648) : (nI a < 1) ↔ a < 1 := z_lt (b := 1) h (by omega)
theorem n1_gt {a : Nat} (h : a < 2147483648) : (1 < nI a) ↔ 1 < a := z_lt (a := 1) (by omega) h
theorem z_10 : ((1 : Int32) = 0) ↔ False := by decide
theorem z_01 : ((0 : Int32) = 1) ↔ False := by decide
theorem z_0lt : ((0 : Int32) < 0) ↔ False := by decide
theorem z_0ge : ((0 : Int32) ≤ 0) ↔ True := by decide
theorem z_0c : (0 : Int32).toNatClampNeg = 0 := by decide
theorem z_0in {N : Nat} : vp_in (0 : Int32) N ↔ 0 < N := by
  rw [← nI_0, z_in (by omega)]
theorem z_0a (a : Nat) : 0 + nI a = nI a := by rw [← nI_0, nI_add, Nat.zero_add]
theorem z_a0 (a : Nat) : nI a + 0 = nI a := by rw [← nI_0, nI_add, Nat.add_zero]
theorem z_01a : (0 : Int32) + 1 = nI 1 := rfl
theorem bI_f (k : Nat) : (1 : Int32) <<< (nI k &&& 31) = bI k := rfl
theorem bI_f0 : (1 : Int32) <<< ((0 : Int32) &&& 31) = bI 0 := rfl
theorem t0f {x : Int32} {k : Nat} (hk : k < 32) : (((x >>> (nI k &&& 31)) &&& 1) = 0) ↔ bt x k = false := t0 x hk
theorem t1f {x : Int32} {k : Nat} (hk : k < 32) : (((x >>> (nI k &&& 31)) &&& 1) = 1) ↔ bt x k = true := t1 x hk
/-- without the lowest bit -/
def cl (x : Int32) : Int32 := x &&& (x - 1)
theorem cl_f (x : Int32) : x &&& (x - 1) = cl x := rfl
theorem eq_of_wq {β : Type} {x : Option β} {b : β} (h : wq x (fun r => r = b)) : x = some b := by
  obtain ⟨c, h1, h2⟩ := h
  rw [h1, h2]
/-! branches that are settled -/
theorem wi_t {β : Type} {c : Prop} [Decidable c] {x y : Option β} {Q : β → Prop} (h : c) : wq (if c then x else y) Q ↔ wq x Q := by rw [if_pos h]
theorem wi_f {β : Type} {c : Prop} [Decidable c] {x y : Option β} {Q : β → Prop} (h : ¬ c) : wq (if c then x else y) Q ↔ wq y Q := by rw [if_neg h]
theorem wc_n {β : Type} {a N : Nat} {x : Option β} {Q : β → Prop} (h : a < N) (h2 : a < 2147483648) : wq (chk (nI a) N x) Q ↔ wq x Q := by
  rw [wq_chk, z_in h2]; exact ⟨fun g => g.2, fun g => ⟨h, g⟩⟩
theorem wc_0 {β : Type} {N : Nat} {x : Option β} {Q : β → Prop} (h : 0 < N) : wq (chk 0 N x) Q ↔ wq x Q := by
  rw [wq_chk, z_0in]; exact ⟨fun g => g.2, fun g => ⟨h, g⟩⟩
theorem wz_0 {β : Type} {x : Option β} {Q : β → Prop} : wq (zok 0 x) Q ↔ wq x Q := by
  rw [wq_zok]; exact ⟨fun g => g.2, fun g => ⟨Or.inl rfl, g⟩⟩
theorem wz_1 {β : Type} {x : Option β} {Q : β → Prop} : wq (zok 1 x) Q ↔ wq x Q := by
  rw [wq_zok]; exact ⟨fun g => g.2, fun g => ⟨Or.inr rfl, g⟩⟩
