/-! TransletDesk: later, tested -/
set_option maxRecDepth 100000
/-- a row of tokens at b that is one expression, and what TransletDesk keeps of it -/
def XO (b : Nat) (T : List Tk) (σ : dS) : Prop := T.length ≤ 40 ∧ b + T.length ≤ 360 ∧ (∀ t, t ∈ T → okT t) ∧ wfs T 1 ∧ DX1 b T σ ∧ DX2 b T σ
theorem XO_sm {b : Nat} {T : List Tk} {σ σ' : dS} {l : List Nat} (h : XO b T σ) (hs : sm l σ σ') (hl : ∀ i, i ∈ l → i < 16 ∨ 20 < i) : XO b T σ' := by
  have k1 : ∀ i, 16 ≤ i → i ≤ 20 → σ' i = σ i := fun i a b => hs i (fun g => by have := hl i g; omega)
  obtain ⟨h1, h1b, h2, h3, h4, h5⟩ := h
  refine ⟨h1, h1b, h2, h3, ?_, ?_⟩
  · unfold DX1 at *; rw [k1 16 (by omega) (by omega), k1 17 (by omega) (by omega)]; exact h4
  · unfold DX2 at *; rw [k1 18 (by omega) (by omega), k1 19 (by omega) (by omega), k1 20 (by omega) (by omega)]; exact h5
/-- what is stored at a suffix that isn't empty -/
theorem XO_at {b : Nat} {T : List Tk} {σ : dS} (h : XO b T σ) {i : Nat} (hi : i < T.length) : σ 18 (b + i) = nI (ht (T.drop i)) ∧ σ 19 (b + i) = nI (i + sk 1 (T.drop i)) ∧ σ 20 (b + i) = (if loc (T.drop i) = true then 1 else 0) := by
  obtain ⟨t, r, hd⟩ := drop_ex hi
  have := h.2.2.2.2.2 i t r hd
  rw [hd]; exact this
section
variable {n : Nat} {d nmp : Nat → Nat} {vv : Nat → Int32} {b : Nat} {T : List Tk}
/-- the table holds what tokens from lo on give at place x -/
def tabx (n : Nat) (d nmp : Nat → Nat) (vv : Nat → Int32) (T : List Tk) (lo hi x : Nat) (σ : dS) : Prop := ∀ i, lo ≤ i → i < hi → loc (T.drop i) = false → σ 23 (24 * i + x) = ev n d nmp vv (T.drop i) x 1 1
/-- one token of later -/
theorem dk_later_one {Q : Int32 × dS → Prop} {σ : dS} (hn : n ≤ 24) (hX : XO b T σ) (hV : ∀ y, y < n → σ 14 y = vv y) {x from_ o m : Nat} {t : Tk} {r : List Tk} {p l : Int32} (hx : x < n) (hd : T.drop o = t :: r) (hfo : from_ ≤ o) (hfl : fl (m + ar t) r) (hm : m + ar t ≤ 40) (hm2 : m < 40)
    (htab : loc (t :: r) = false → σ 23 (24 * o + x) = ev n d nmp vv (t :: r) x 1 1)
    (hst : ∀ q, q < m + ar t → σ 27 (m + ar t - 1 - q) = ev n d nmp vv (r.drop (sk q r)) x p l)
    (h1 : wq (lp dk_later_st (15, [nI b, nI from_, nI x, p, l, nI (m + 1), dec o], up2 σ 27 m (ev n d nmp vv (t :: r) x p l))) Q) : wq (lp dk_later_st (15, [nI b, nI from_, nI x, p, l, nI (m + ar t), nI o], σ)) Q := by
  have ho := drop_lt hd
  obtain ⟨x1, x1b, x2, x3, x4, x5⟩ := id hX
  have hot := x2 t (drop_mem hd)
  have har := ar_le hot
  have ht18 := hot.1
  have hr := drop_next hd
  have e16 := (x4 o t r hd).1
  have e17 := (x4 o t r hd).2
  have e20 := (x5 o t r hd).2.2
  have h192 : ∀ v9 v10 : Int32, v9 = nI (ar t) → v10 = ev n d nmp vv (t :: r) x p l → wq (dk_later_b192 (nI b) (nI from_) (nI x) p l (nI (m + ar t)) (nI o) (nI t.1) v9 v10 σ) (ks dk_later_st Q) := by
    rintro v9 v10 rfl rfl
    unfold dk_later_b192 dk_later_b199
    rw [z_sub (by omega), show m + ar t - ar t = m by omega, wc_n (by omega) (by omega), z_cl (by omega), wq_some, ks_l, n1_add, dec_f]
    exact h1
  rw [dk_later_l15]; unfold dk_later_b15 dk_later_b32
  rw [wi_f (by rw [z_lt (by omega) (by omega)]; omega), nI_add, wc_n (by omega) (by omega), wc_n (by omega) (by omega), z_cl (by omega), e16, e17, dk_arity_sp hot (fun e => kv_2 e), wq_bind, wq_some]
  unfold dk_later_b46
  by_cases c5 : t.1 = 5
  · rw [wi_t (by rw [c5]; rfl)]
    unfold dk_later_b64 dk_later_b77
    rw [wi_t (by rw [c5]; rfl)]
    exact h192 _ _ rfl (ev_5 c5 x p l).symm
  · rw [wi_f (by rw [l_5, z_eq (by omega) (by omega)]; exact c5)]
    by_cases c6 : t.1 = 6
    · rw [wi_t (by rw [c6]; rfl)]
      unfold dk_later_b64 dk_later_b77
      rw [wi_f (by rw [c6]; decide)]
      exact h192 _ _ rfl (ev_6 c6 x p l).symm
    · rw [wi_f (by rw [l_6, z_eq (by omega) (by omega)]; exact c6), nI_add, wc_n (by omega) (by omega), z_cl (by omega), e20]
      by_cases hl : loc (t :: r) = true
      · rw [if_pos hl, wi_f (by decide)]
        -- an operation of a local part
        have c10 : 10 ≤ t.1 := by
          rw [loc_c, decide_eq_false (by omega : ¬ (t.1 = 5 ∨ t.1 = 6)), Bool.false_or, Bool.and_eq_true, decide_eq_true_eq] at hl
          exact hl.1
        have hap : 0 < ar t := ar_pos (by omega)
        have hrl : r.length = T.length - (o + 1) := by rw [← hr, List.length_drop]
        have hl1 := fl_lt r 0 (fl_mono _ _ 1 hfl (by omega))
        rw [sk_0] at hl1
        have hwr : ∃ m', wfs r m' := by rw [← hr]; exact wfs_drop _ x3
        have a1 := XO_at hX (i := o + 1) (by omega)
        rw [hr] at a1
        have s1 : σ 27 (m + ar t - 1) = ev n d nmp vv r x p l := by
          have := hst 0 (by omega)
          rw [sk_0] at this; exact this
        have hbr : ht r = 0 → bw n (ev n d nmp vv r x p l) := fun e => ev_bw (by omega) r.length r (Nat.le_refl _) hwr (fun e => by rw [e] at hl1; cases hl1) e x p l hx
        unfold dk_later_b117 dk_later_b128
        rw [n1_add, nI_add, wc_n (by omega) (by omega), z_cl (by omega), a1.2.1, n1_sub (by omega), wc_n (by omega) (by omega), wc_n (by omega) (by omega), z_cl (by omega), a1.1, s1]
        by_cases c1 : ar t ≤ 1
        · rw [wi_t (by rw [n1_le (by omega)]; exact c1)]
          unfold dk_later_b168
          rw [wi_t (by rw [n1_le (by omega)]; exact c1)]
          unfold dk_later_b187
          rw [show (1 : Int32) = nI 1 from rfl, dk_join_sp (pt := ht r) (qt := 1) (vv := vv) hn hV (Or.inr ⟨by omega, ht18⟩) (tyk_lt _) (by omega) (fun g => hbr (by omega)) (fun g => by omega), wq_bind, wq_some]
          unfold dk_later_b190
          refine h192 _ _ rfl ?_
          rw [ev_b c10, if_neg (by omega), if_neg (by omega)]
        · have hl2 := fl_lt r 1 (fl_mono _ _ 2 hfl (by omega))
          have a2 := XO_at hX (i := o + 1 + sk 1 r) (by omega)
          rw [← List.drop_drop, hr] at a2
          have s2 : σ 27 (m + ar t - 2) = ev n d nmp vv (r.drop (sk 1 r)) x p l := by
            have := hst 1 (by omega)
            rw [show m + ar t - 1 - 1 = m + ar t - 2 by omega] at this; exact this
          have hbq : ht (r.drop (sk 1 r)) = 0 → bw n (ev n d nmp vv (r.drop (sk 1 r)) x p l) := fun e => ev_bw (by omega) _ _ (Nat.le_refl _) (by obtain ⟨m', h⟩ := hwr; exact wfs_drop _ h) (fun e => by have := congrArg List.length e; rw [List.length_drop, List.length_nil] at this; omega) e x p l hx
          rw [wi_f (by rw [n1_le (by omega)]; exact c1), l_2, z_sub (by omega), wc_n (by omega) (by omega), z_cl (by omega), s2]
          unfold dk_later_b168
          rw [wi_f (by rw [n1_le (by omega)]; exact c1), nI_add, wc_n (by omega) (by omega), z_cl (by omega), a2.1]
          unfold dk_later_b187
          rw [dk_join_sp (pt := ht r) (qt := ht (r.drop (sk 1 r))) (vv := vv) hn hV (Or.inr ⟨by omega, ht18⟩) (tyk_lt _) (tyk_lt _) (fun g => hbr (by omega)) hbq, wq_bind, wq_some]
          unfold dk_later_b190
          refine h192 _ _ rfl ?_
          rw [ev_b c10, if_pos (by omega), if_pos (by omega)]
      · have hlf : loc (t :: r) = false := by cases h : loc (t :: r) with | true => exact absurd h hl | false => rfl
        rw [if_neg hl, wi_t rfl, l_24, pk_mul, nI_add, wc_n (by omega) (by omega), z_cl (by omega), htab hlf]
        exact h192 _ _ rfl (ev_11 hlf x p l).symm
theorem dk_later_seg {Q : Int32 × dS → Prop} {σ0 : dS} (hn : n ≤ 24) (hX : XO b T σ0) (hV : ∀ y, y < n → σ0 14 y = vv y) {x from_ : Nat} {p l : Int32} (hx : x < n) : ∀ (ts : List Tk) (o c : Nat) (σ : dS), T.drop o = ts → from_ ≤ o → fl c ts → c ≤ 40 → tabx n d nmp vv T o (o + sk c ts) x σ0 → sm [27] σ0 σ →
    (∀ σ', sm [27] σ0 σ' → (∀ q, q < c → σ' 27 (c - 1 - q) = ev n d nmp vv (ts.drop (sk q ts)) x p l) → wq (lp dk_later_st (15, [nI b, nI from_, nI x, p, l, nI c, dec o], σ')) Q) → wq (lp dk_later_st (15, [nI b, nI from_, nI x, p, l, nI 0, dec (o + sk c ts)], σ)) Q := by
  intro ts
  induction ts with
  | nil =>
    intro o c σ hd hfo hf hc ht hs h
    cases c with
    | zero => rw [sk_0, Nat.add_zero]; exact h σ hs (fun q hq => by omega)
    | succ c => cases hf
  | cons t r ih =>
    intro o c σ hd hfo hf hc ht hs h
    cases c with
    | zero => rw [sk_0, Nat.add_zero]; exact h σ hs (fun q hq => by omega)
    | succ m =>
      have ho := drop_lt hd
      have hr := drop_next hd
      rw [fl_s] at hf
      rw [sk_s] at ht ⊢
      have hm : m + ar t ≤ 40 := by
        -- there are so many tokens
        have key : ∀ (us : List Tk) (k : Nat), fl k us → k ≤ sk k us := by
          intro us
          induction us with
          | nil => intro k hk; cases k with
                   | zero => exact Nat.zero_le _
                   | succ k => cases hk
          | cons u us ihu =>
            intro k hk
            cases k with
            | zero => exact Nat.zero_le _
            | succ k => rw [fl_s] at hk; rw [sk_s]; have := ihu _ hk; omega
        have h1 := key r (m + ar t) hf
        have h2 := sk_le r (m + ar t)
        have h3 : r.length = T.length - (o + 1) := by rw [← hr, List.length_drop]
        have := hX.1
        omega
      rw [show o + (1 + sk (m + ar t) r) = o + 1 + sk (m + ar t) r by omega]
      refine ih (o + 1) (m + ar t) σ hr (by omega) hf hm (fun i h1 h2 h3 => ht i (by omega) (by omega) h3) hs (fun σ' hs' hst => ?_)
      rw [dec_s]
      refine dk_later_one hn (XO_sm hX hs' (by decide)) (fun y hy => by rw [hs' 14 (by decide)]; exact hV y hy) hx hd hfo hf hm (by omega) (fun hl => ?_) hst ?_
      · rw [hs' 23 (by decide)]
        have := ht o (Nat.le_refl _) (by omega) (by rw [hd]; exact hl)
        rw [hd] at this; exact this
      · refine h _ (sm_up (by decide) hs') (fun q hq => ?_)
        rw [up2_s]
        cases q with
        | zero => rw [show m + 1 - 1 - 0 = m by omega, u_e, sk_0]; rfl
        | succ q =>
          rw [u_n (by omega), sk_s, show 1 + sk (q + ar t) r = sk (q + ar t) r + 1 by omega, List.drop_succ_cons]
          have := hst (q + ar t) (by omega)
          rw [show m + ar t - 1 - (q + ar t) = m + 1 - 1 - (q + 1) by omega] at this
          exact this
theorem dk_later_sp {Q : Int32 × dS → Prop} {σ : dS} (hn : n ≤ 24) (hX : XO b T σ) (hV : ∀ y, y < n → σ 14 y = vv y) {x f : Nat} {p l : Int32} (hx : x < n) (hf : f < T.length) (ht : tabx n d nmp vv T f (f + sk 1 (T.drop f)) x σ) (hq : ∀ σ', sm [27] σ σ' → Q (ev n d nmp vv (T.drop f) x p l, σ')) : wq (dk_later (nI b) (nI f) (nI x) p l σ) Q := by
  have a1 := XO_at hX hf
  obtain ⟨x1, x1b, x2, x3, x4, x5⟩ := id hX
  obtain ⟨t, r, hd⟩ := drop_ex hf
  obtain ⟨m', hw⟩ := wfs_drop f x3
  have hfl : fl 1 (T.drop f) := by
    have h1 := (wfs_fl hw).1
    rw [hd] at hw h1 ⊢
    obtain ⟨m'', q1, q2, q3, q4⟩ := hw
    exact fl_mono _ _ 1 h1 (by omega)
  unfold dk_later dk_later_b0
  rw [wq_lpB, nI_add, wc_n (by omega) (by omega), z_cl (by omega), a1.2.1, dec_m, wq_some, ks_l, show (0 : Int32) = nI 0 from nI_0.symm]
  refine dk_later_seg hn hX hV hx (T.drop f) f 1 σ rfl (Nat.le_refl _) hfl (by omega) ht sm_rf (fun σ' hs' hst => ?_)
  rw [dk_later_l15]; unfold dk_later_b15
  have hlt : dec f < nI f := by
    cases f with
    | zero => rw [dec_0, nI_0]; decide
    | succ f => rw [dec_s, z_lt (by omega) (by omega)]; omega
  have e0 : σ' 27 0 = ev n d nmp vv (T.drop f) x p l := by
    have := hst 0 (by omega)
    rw [sk_0] at this; exact this
  rw [wi_t hlt, wc_0 (by omega), z_0c, e0, wq_some, ks_r]
  exact hq σ' hs'
end
