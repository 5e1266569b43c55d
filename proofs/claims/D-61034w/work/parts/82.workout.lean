/-! TransletDeskModel: workOut -/
set_option maxRecDepth 100000
section
variable {n : Nat} {row d nm : Nat → Nat} {vl : Nat → Int32} {b : Nat} {T : List Tk}
/-- the sets of the tokens from lo on, below hi, at place x -/
def msx (n : Nat) (row d nmp : Nat → Nat) (vv : Nat → Int32) (b : Nat) (T : List Tk) (lo hi x : Nat) (τ : dS) : Prop := ∀ i, lo ≤ i → i < hi → hk (T.drop i) < 4 → pm n row (ev n d nmp vv (T.drop i) x 1 1) (τ 9 (24 * (b + i) + row x))
def msA (n : Nat) (row d nmp : Nat → Nat) (vv : Nat → Int32) (b : Nat) (T : List Tk) (lo : Nat) (τ : dS) : Prop := ∀ x, x < n → msx n row d nmp vv b T lo T.length x τ
/-- the stack: the values of the c expressions from ts on -/
def STK (n : Nat) (row d nmp : Nat → Nat) (vv : Nat → Int32) (ts : List Tk) (c x : Nat) (p l : Int32) (τ : dS) : Prop := τ 15 0 = nI c ∧ ∀ q, q < c → SE n row τ (c - 1 - q) (ht (ts.drop (sk q ts))) (ev n d nmp vv (ts.drop (sk q ts)) x p l)
theorem SE_sm {τ τ' : dS} {j ty : Nat} {v : Int32} (h : SE n row τ j ty v) (e1 : τ' 11 j = τ 11 j) (e2 : τ' 12 j = τ 12 j) (e3 : τ' 13 j = τ 13 j) : SE n row τ' j ty v := by
  unfold SE at *
  rw [e1, e2, e3]; exact h
theorem md_workOut_one {Q : Int32 × dS → Prop} {τ : dS} (hw : WT n row d) (hM : MT n row d nm vl τ) (hO : MO b T τ) {x o m f0 : Nat} {t : Tk} {r : List Tk} {v1 v2 p l : Int32} (hx : x < n) (hb : b + T.length ≤ 320) (hd : T.drop o = t :: r) (hfo : f0 ≤ b + o) (hfl : fl (m + ar t) r) (hm : m + ar t ≤ 40) (hm2 : m < 40)
    (hset : t.1 < 4 → pm n row (ev n d (fun y => nm (row y)) (fun y => vl (row y)) (t :: r) x 1 1) (τ 9 (24 * (b + o) + row x)))
    (hst : STK n row d (fun y => nm (row y)) (fun y => vl (row y)) r (m + ar t) x p l τ)
    (h1 : ∀ τ', sm [11, 12, 13, 15] τ τ' → STK n row d (fun y => nm (row y)) (fun y => vl (row y)) (t :: r) (m + 1) x p l τ' → wq (lp md_workOut_st (23, [v1, v2, nI (row x), p, l, nI f0, dec (b + o)], τ')) Q) : wq (lp md_workOut_st (23, [v1, v2, nI (row x), p, l, nI f0, nI (b + o)], τ)) Q := by
  have hn24 := hw.1.1
  have rx := hw.1.2.1 x hx
  have ho := drop_lt hd
  obtain ⟨x1, x1b, x2, x3, x4⟩ := id hO
  have hot := x2 t (drop_mem hd)
  have har := ar_le hot
  have ht18 := hot.1
  have hr := drop_next hd
  have e6 := (x4 o t r hd).1
  have e7 := (x4 o t r hd).2
  obtain ⟨t1, t2⟩ := hst
  obtain ⟨m', hwf⟩ := wfs_drop o x3
  rw [hd] at hwf
  obtain ⟨m'', q1, q2, q3, q4⟩ := hwf
  -- the pushing
  have hpush : ∀ (sv nv : Int32), (ht (t :: r) = 0 → pm n row (ev n d (fun y => nm (row y)) (fun y => vl (row y)) (t :: r) x p l) sv) → (ht (t :: r) ≠ 0 → nv = ev n d (fun y => nm (row y)) (fun y => vl (row y)) (t :: r) x p l) → wq (md_workOut_b139 v1 v2 (nI (row x)) p l (nI f0) (nI (b + o)) (nI (ar t)) (nI (m + ar t) - 1) (nI (tyk t.1)) sv nv (up2 τ 15 0 (nI m))) (ks md_workOut_st Q) := by
    intro sv nv hsv hnv
    unfold md_workOut_b139 md_workOut_b152 md_workOut_b163 md_workOut_b174
    simp (disch := omega) only [up2_s, up2_n, u_e, u_n]
    rw [wc_n (by omega) (by omega), wc_n (by omega) (by omega), wc_n (by omega) (by omega), z_cl (by omega), wq_some, ks_l, n1_add, dec_f]
    refine h1 _ ?_ ⟨by simp (disch := first | omega | with_reducible assumption) only [up2_s, up2_n, u_e, u_n], fun q hq => ?_⟩
    · (repeat (refine sm_up (by decide) ?_)); first | exact sm_rf | assumption
    · cases q with
      | zero =>
        rw [sk_0, show m + 1 - 1 - 0 = m by omega]
        refine ⟨?_, fun e => ?_, fun e => ?_⟩
        · simp (disch := first | omega | with_reducible assumption) only [up2_s, up2_n, u_e, u_n]; rfl
        · simp (disch := first | omega | with_reducible assumption) only [up2_s, up2_n, u_e, u_n]; exact hsv e
        · simp (disch := first | omega | with_reducible assumption) only [up2_s, up2_n, u_e, u_n]; exact hnv e
      | succ q =>
        rw [sk_s, show 1 + sk (q + ar t) r = sk (q + ar t) r + 1 by omega, List.drop_succ_cons]
        have := t2 (q + ar t) (by omega)
        rw [show m + ar t - 1 - (q + ar t) = m + 1 - 1 - (q + 1) by omega] at this
        refine SE_sm this ?_ ?_ ?_
        · simp (disch := first | omega | with_reducible assumption) only [up2_s, up2_n, u_e, u_n]
        · simp (disch := first | omega | with_reducible assumption) only [up2_s, up2_n, u_e, u_n]
        · simp (disch := first | omega | with_reducible assumption) only [up2_s, up2_n, u_e, u_n]
  rw [md_workOut_l23]; unfold md_workOut_b23
  rw [wi_f (by rw [z_lt (by omega) (by omega)]; omega), wc_n (by omega) (by omega), wc_n (by omega) (by omega), z_cl (by omega), e6, e7, md_operands_sp hot, wq_bind, wq_some]
  unfold md_workOut_b47 md_workOut_b60 md_workOut_b71
  rw [t1, z_sub (by omega), show m + ar t - ar t = m by omega]
  simp (disch := omega) only [up2_s, up2_n, u_e, u_n]
  rw [nI_add, wc_n (by omega) (by omega), z_cl (by omega), e6, md_typeOf_sp ht18, wq_bind, wq_some]
  unfold md_workOut_b81 md_workOut_b104
  have htl := tyk_lt t.1
  by_cases c4 : t.1 < 4
  · have ety : tyk t.1 = 0 := by unfold tyk; rw [if_pos c4]
    have hloc : loc (t :: r) = false := loc_set (show tyk t.1 = 0 from ety)
    rw [wi_t (by rw [ety]; exact nI_0), l_24, pk_mul, nI_add, wc_n (by omega) (by omega), wi_t (by rw [ety]; exact nI_0), z_cl (by omega), up2_n (by decide)]
    refine hpush _ 0 (fun _ => ?_) (fun e => absurd (show tyk t.1 = 0 from ety) e)
    rw [ev_11 hloc x p l]; exact hset c4
  · have ety : ¬ tyk t.1 = 0 := by
      unfold tyk
      rw [if_neg c4]
      by_cases g : t.1 < 13
      · rw [if_pos g]; omega
      · rw [if_neg g]; omega
    rw [wi_f (by rw [z_e0 (by omega)]; exact ety), wi_f (by rw [z_e0 (by omega)]; exact ety), wc_n (by omega) (by omega), wc_n (by omega) (by omega), z_cl (by omega), up2_n (by decide), up2_n (by decide), e6, e7]
    have hMu : MT n row d nm vl (up2 τ 15 0 (nI m)) := MT_sm' hM (sm_up (l := [15]) (by decide) sm_rf) (by decide)
    by_cases c7 : t.1 < 7
    · have ea : ar t = 0 := by unfold ar; rw [if_neg (by omega), if_neg (by omega), if_neg (by omega)]
      have key : md_result (nI t.1) t.2 (nI (m + ar t) - 1) p l (up2 τ 15 0 (nI m)) = some (ev n d (fun y => nm (row y)) (fun y => vl (row y)) (t :: r) x p l, up2 τ 15 0 (nI m)) := by
        have hc : t.1 = 4 ∨ t.1 = 5 ∨ t.1 = 6 := by omega
        unfold md_result md_result_b0
        rcases hc with c | c | c
        · rw [c, if_pos (show nI 4 = (4 : Int32) from rfl), ev_4 c]
        · rw [c, if_neg (show ¬ nI 5 = (4 : Int32) by decide), if_pos (show nI 5 = (5 : Int32) from rfl), ev_5 c]
        · rw [c, if_neg (show ¬ nI 6 = (4 : Int32) by decide), if_neg (show ¬ nI 6 = (5 : Int32) by decide), if_pos (show nI 6 = (6 : Int32) from rfl), ev_6 c]
      rw [key, wq_bind, wq_some]
      exact hpush _ _ (fun e => absurd (show tyk t.1 = 0 from e) ety) (fun _ => rfl)
    · have hap : 0 < ar t := ar_pos (by omega)
      have s0 := t2 0 (by omega)
      rw [sk_0] at s0
      have s0 : SE n row τ (m + ar t - 1) (ht r) (ev n d (fun y => nm (row y)) (fun y => vl (row y)) r x p l) := s0
      have s0u : SE n row (up2 τ 15 0 (nI m)) (m + ar t - 1) (ht r) (ev n d (fun y => nm (row y)) (fun y => vl (row y)) r x p l) := SE_sm s0 (by simp (disch := first | omega | with_reducible assumption) only [up2_s, up2_n, u_e, u_n]) (by simp (disch := first | omega | with_reducible assumption) only [up2_s, up2_n, u_e, u_n]) (by simp (disch := first | omega | with_reducible assumption) only [up2_s, up2_n, u_e, u_n])
      have hq79 : 7 ≤ t.1 → t.1 < 10 → ht r = 0 := fun h1 h2 => q3.2.2.1 ⟨h1, h2⟩
      by_cases c17 : t.1 < 10 ∨ t.1 = 17
      · -- one operand
        have h := md_result_sp (w := t.2) (p := p) (l := l) hw hMu (k := t.1) (a := m + ar t - 1) (pt := ht r) (qt := 1) (pv := ev n d (fun y => nm (row y)) (fun y => vl (row y)) r x p l) (qv := 0) ⟨by omega, ht18⟩ (fun _ => by omega) (tyk_lt _) (by omega) (fun _ => s0u) hq79 (fun h1 h2 => by omega)
        rw [n1_sub (by omega), h, if_neg (by omega), if_neg (by omega), if_neg (by omega), wq_bind, wq_some]
        rw [← n1_sub (by omega)]
        refine hpush _ _ (fun e => absurd (show tyk t.1 = 0 from e) ety) (fun _ => ?_)
        by_cases g : 10 ≤ t.1
        · have e17 : t.1 = 17 := by omega
          have ea : ar t = 1 := by unfold ar; rw [if_neg (by omega), if_neg (by omega), if_pos (by omega)]
          rw [ev_b g, if_neg (by omega), if_neg (by omega)]
        · have hloc : loc r = false := loc_set (hq79 (by omega) (by omega))
          rw [ev_a (Or.inr ⟨by omega, by omega⟩), ev_11 hloc x p l]
          exact jn_un ⟨by omega, by omega⟩ _ _ _ _ _ _
      · have ea : ar t = 2 := ar_two (by omega)
        have s1 := t2 1 (by omega)
        rw [show m + ar t - 1 - 1 = m + ar t - 1 - 1 from rfl] at s1
        have s1u : SE n row (up2 τ 15 0 (nI m)) (m + ar t - 1 - 1) (ht (r.drop (sk 1 r))) (ev n d (fun y => nm (row y)) (fun y => vl (row y)) (r.drop (sk 1 r)) x p l) := SE_sm s1 (by simp (disch := first | omega | with_reducible assumption) only [up2_s, up2_n, u_e, u_n]) (by simp (disch := first | omega | with_reducible assumption) only [up2_s, up2_n, u_e, u_n]) (by simp (disch := first | omega | with_reducible assumption) only [up2_s, up2_n, u_e, u_n])
        have h := md_result_sp (w := t.2) (p := p) (l := l) hw hMu (k := t.1) (a := m + ar t - 1) (pt := ht r) (qt := ht (r.drop (sk 1 r))) (pv := ev n d (fun y => nm (row y)) (fun y => vl (row y)) r x p l) (qv := ev n d (fun y => nm (row y)) (fun y => vl (row y)) (r.drop (sk 1 r)) x p l) ⟨by omega, ht18⟩ (fun _ => by omega) (tyk_lt _) (tyk_lt _) (fun _ => s0u) hq79 (fun h1 h2 => ⟨by omega, s1u⟩)
        rw [n1_sub (by omega), h, if_neg (by omega), if_neg (by omega), if_neg (by omega), wq_bind, wq_some]
        rw [← n1_sub (by omega)]
        refine hpush _ _ (fun e => absurd (show tyk t.1 = 0 from e) ety) (fun _ => ?_)
        rw [ev_b (by omega), if_pos (by omega), if_pos (by omega)]
theorem md_workOut_seg {Q : Int32 × dS → Prop} {τ0 : dS} (hw : WT n row d) (hM : MT n row d nm vl τ0) (hO : MO b T τ0) {x f0 : Nat} {v1 v2 p l : Int32} (hx : x < n) (hb : b + T.length ≤ 320) : ∀ (ts : List Tk) (o c : Nat) (τ : dS), T.drop o = ts → f0 ≤ b + o → fl c ts → c ≤ 40 → msx n row d (fun y => nm (row y)) (fun y => vl (row y)) b T o (o + sk c ts) x τ0 → sm [11, 12, 13, 15] τ0 τ → τ 15 0 = nI 0 →
    (∀ τ', sm [11, 12, 13, 15] τ0 τ' → STK n row d (fun y => nm (row y)) (fun y => vl (row y)) ts c x p l τ' → wq (lp md_workOut_st (23, [v1, v2, nI (row x), p, l, nI f0, dec (b + o)], τ')) Q) → wq (lp md_workOut_st (23, [v1, v2, nI (row x), p, l, nI f0, dec (b + (o + sk c ts))], τ)) Q := by
  intro ts
  induction ts with
  | nil =>
    intro o c τ hd hfo hf hc ht hs h0 h
    cases c with
    | zero => rw [sk_0, Nat.add_zero]; exact h τ hs ⟨h0, fun q hq => by omega⟩
    | succ c => cases hf
  | cons t r ih =>
    intro o c τ hd hfo hf hc ht hs h0 h
    cases c with
    | zero => rw [sk_0, Nat.add_zero]; exact h τ hs ⟨h0, fun q hq => by omega⟩
    | succ m =>
      have ho := drop_lt hd
      have hr := drop_next hd
      rw [fl_s] at hf
      rw [sk_s] at ht ⊢
      have hm : m + ar t ≤ 40 := by
        have key : ∀ (us : List Tk) (k : Nat), fl k us → k ≤ sk k us := by
          intro us
          induction us with
          | nil => intro k hk; cases k with
                   | zero => exact Nat.zero_le _
                   | succ k => cases hk
          | cons u us ihu =>
            intro k hk
            cases k with
            | zero => exact Nat.zero_le _
            | succ k => rw [fl_s] at hk; rw [sk_s]; have := ihu _ hk; omega
        have h1 := key r (m + ar t) hf
        have h2 := sk_le r (m + ar t)
        have h3 : r.length = T.length - (o + 1) := by rw [← hr, List.length_drop]
        have := hO.1
        omega
      rw [show o + (1 + sk (m + ar t) r) = o + 1 + sk (m + ar t) r by omega]
      refine ih (o + 1) (m + ar t) τ hr (by omega) hf hm (fun i h1 h2 h3 => ht i (by omega) (by omega) h3) hs h0 (fun τ' hs' hst => ?_)
      rw [show b + (o + 1) = b + o + 1 by omega, dec_s]
      refine md_workOut_one hw (MT_sm' hM hs' (by decide)) (MO_sm hO hs' (by decide)) hx hb hd hfo hf hm (by omega) (fun h4 => ?_) hst (fun τ'' s1 s2 => h τ'' (sm_tr hs' s1) s2)
      rw [hs' 9 (by decide)]
      have := ht o (Nat.le_refl _) (by omega) (by rw [hd]; exact h4)
      rw [hd] at this; exact this
theorem md_workOut_sp {Q : Int32 × dS → Prop} {τ : dS} (hw : WT n row d) (hM : MT n row d nm vl τ) {s : Nat} (hs8 : s < 8) (hO : MO (40 * s) T τ) {x f : Nat} {p l : Int32} (hx : x < n) (hf : f < T.length) (hms : msx n row d (fun y => nm (row y)) (fun y => vl (row y)) (40 * s) T f (f + sk 1 (T.drop f)) x τ)
    (hq : ∀ r, sm [11, 12, 13, 15] τ r.2 → SE n row r.2 0 (ht (T.drop f)) (ev n d (fun y => nm (row y)) (fun y => vl (row y)) (T.drop f) x p l) → Q r) : wq (md_workOut (nI s) (nI f) (nI (row x)) p l τ) Q := by
  have hn24 := hw.1.1
  have x1 := hO.1
  obtain ⟨t, r, hd⟩ := drop_ex hf
  obtain ⟨m', hwf⟩ := wfs_drop f hO.2.2.2.1
  have hfl : fl 1 (T.drop f) := by
    have h1 := (wfs_fl hwf).1
    rw [hd] at hwf h1 ⊢
    obtain ⟨m'', q1, q2, q3, q4⟩ := hwf
    exact fl_mono _ _ 1 h1 (by omega)
  unfold md_workOut md_workOut_b0 md_workOut_b5 md_workOut_b13
  rw [wq_lpB, l_40, pk_mul, nI_add, md_endOf_sp (MO_sm hO (sm_up (l := [15]) (by decide) sm_rf) (by decide)) hf, wq_bind, wq_some]
  unfold md_workOut_b19
  rw [wq_some, ks_l, dec_m, show 40 * s + f + sk 1 (T.drop f) = 40 * s + (f + sk 1 (T.drop f)) by omega]
  refine md_workOut_seg hw hM hO hx (by omega) (T.drop f) f 1 _ rfl (Nat.le_refl _) hfl (by omega) hms (sm_up (by decide) sm_rf) (by simp (disch := first | omega | with_reducible assumption) only [up2_s, up2_n, u_e, u_n]; rw [nI_0]) (fun τ' hs' hst => ?_)
  have hlt : dec (40 * s + f) < nI (40 * s + f) := by
    generalize hg : 40 * s + f = g
    cases g with
    | zero => rw [dec_0, nI_0]; decide
    | succ g => rw [dec_s, z_lt (by omega) (by omega)]; omega
  rw [md_workOut_l23]; unfold md_workOut_b23
  rw [wi_t hlt, wq_some, ks_r]
  have := hst.2 0 (by omega)
  rw [sk_0] at this
  exact hq _ hs' this
end
