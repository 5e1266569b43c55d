/-! TransletDeskModel: isWhole -/
set_option maxRecDepth 100000
def okk (t : Tk) (ts : List Tk) (k : Nat) : Prop := ((t.1 = 3 ∨ (t.1 = 2 ∧ k = 0) ∨ (7 ≤ t.1 ∧ t.1 ≤ 9)) → ht (ts.drop (sk k ts)) = 0) ∧ ((10 ≤ t.1 ∧ t.1 ≤ 14) → ht (ts.drop (sk k ts)) ≠ 2)
theorem ar_one {t : Tk} (h : 7 ≤ t.1 ∧ t.1 ≤ 9) : ar t = 1 := by
  unfold ar
  rw [if_neg (by omega), if_neg (by omega), if_pos (by omega)]
theorem typ_okk (t : Tk) (ts : List Tk) : typ t ts ↔ ∀ k, k < ar t → okk t ts k := by
  have d0 : ts.drop (sk 0 ts) = ts := by rw [sk_0]; rfl
  constructor
  · rintro ⟨h1, h2, h3, h4⟩ k hk
    refine ⟨fun g => ?_, fun g => ?_⟩
    · rcases g with g | g | g
      · rw [ar_two (Or.inl g)] at hk
        have : k = 0 ∨ k = 1 := by omega
        rcases this with e | e <;> subst e
        · rw [d0]; exact (h2 g).1
        · exact (h2 g).2
      · rw [g.2, d0]; exact h1 g.1
      · rw [ar_one g] at hk
        rw [show k = 0 by omega, d0]; exact h3 (by omega)
    · rw [ar_two (by omega)] at hk
      have : k = 0 ∨ k = 1 := by omega
      rcases this with e | e <;> subst e
      · rw [d0]; exact (h4 (by omega)).1
      · exact (h4 (by omega)).2
  · intro h
    refine ⟨fun g => ?_, fun g => ?_, fun g => ?_, fun g => ?_⟩
    · have := (h 0 (ar_pos (by omega))).1 (Or.inr (Or.inl ⟨g, rfl⟩))
      rw [d0] at this; exact this
    · have a0 := (h 0 (ar_pos (by omega))).1 (Or.inl g)
      have a1 := (h 1 (by rw [ar_two (Or.inl g)]; omega)).1 (Or.inl g)
      rw [d0] at a0; exact ⟨a0, a1⟩
    · have := (h 0 (ar_pos (by omega))).1 (Or.inr (Or.inr (by omega)))
      rw [d0] at this; exact this
    · have a0 := (h 0 (ar_pos (by omega))).2 (by omega)
      have a1 := (h 1 (by rw [ar_two (by omega)]; omega)).2 (by omega)
      rw [d0] at a0; exact ⟨a0, a1⟩
theorem md_in_nn {k a b : Nat} (hk : k < 2147483648) (ha : a < 2147483648) (hb : b < 2147483648) : md_in (nI k) (nI a) (nI b) = some (if a ≤ k ∧ k ≤ b then 1 else 0) := by
  unfold md_in md_in_b0
  by_cases g : a ≤ k ∧ k ≤ b
  · rw [if_pos g, if_neg (by rw [z_lt hk ha]; omega), if_neg (by rw [z_lt hb hk]; omega)]
  · rw [if_neg g]
    by_cases g2 : k < a
    · rw [if_pos (by rw [z_lt hk ha]; exact g2)]
    · rw [if_neg (by rw [z_lt hk ha]; exact g2), if_pos (by rw [z_lt hb hk]; omega)]
section
variable {T : List Tk} {τ0 : dS}
/-- the stack of types, from token j on -/
def WI (T : List Tk) (τ0 : dS) (j m : Nat) (τ : dS) : Prop := sm [11, 15] τ0 τ ∧ τ 15 0 = nI m ∧ (∀ q, q < m → τ 11 (m - 1 - q) = nI (ht ((T.drop j).drop (sk q (T.drop j)))))
theorem md_isWhole_chk {Q : Int32 × dS → Prop} {τ : dS} {j k v : Nat} {t : Tk} {ts : List Tk} {v2 : Int32} (hj : j < 40) (hk18 : t.1 < 18) (hk : k < 3) (e6 : τ 6 (320 + j) = nI t.1) (hv : v = ht (ts.drop (sk k ts)))
    (h1 : okk t ts k → wq (lp md_isWhole_st (54, [nI (320 + j), v2, nI (k + 1)], τ)) Q) (h2 : ¬ okk t ts k → Q (0, τ)) : wq (md_isWhole_b74 (nI (320 + j)) v2 (nI k) (nI v) τ) (ks md_isWhole_st Q) := by
  have hv3 : v < 3 := by rw [hv]; exact tyk_lt _
  unfold okk at h1 h2
  rw [← hv] at h1 h2
  -- behind 'set'
  have h119 : ∀ st : Int32, (st = 1 ∧ (t.1 = 3 ∨ (t.1 = 2 ∧ k = 0) ∨ (7 ≤ t.1 ∧ t.1 ≤ 9))) ∨ (st = 0 ∧ ¬ (t.1 = 3 ∨ (t.1 = 2 ∧ k = 0) ∨ (7 ≤ t.1 ∧ t.1 ≤ 9))) → wq (md_isWhole_b119 (nI (320 + j)) v2 (nI k) (nI v) st τ) (ks md_isWhole_st Q) := by
    intro st hst
    unfold md_isWhole_b119
    rw [wc_n (by omega) (by omega), z_cl (by omega), e6, l_10, l_14, md_in_nn (by omega) (by omega) (by omega), wq_bind, wq_some]
    unfold md_isWhole_b134 md_isWhole_b146 md_isWhole_b159
    rcases hst with ⟨rfl, hs⟩ | ⟨rfl, hs⟩
    · have har : ¬ (10 ≤ t.1 ∧ t.1 ≤ 14) := by omega
      rw [if_neg har, wi_f (by decide)]
      by_cases e : v = 0
      · rw [wi_t (by rw [z_e0 (by omega)]; exact e), wi_t rfl, wq_some, ks_l, n1_add]
        exact h1 ⟨fun _ => e, fun g => absurd g har⟩
      · rw [wi_f (by rw [z_e0 (by omega)]; exact e), wq_some, ks_r]
        exact h2 (fun g => e (g.1 hs))
    · rw [wi_t rfl]
      by_cases har : 10 ≤ t.1 ∧ t.1 ≤ 14
      · rw [if_pos har, wi_f (by decide)]
        by_cases e : v = 2
        · rw [wi_t (by rw [e]; rfl), wq_some, ks_r]
          exact h2 (fun g => (g.2 har) e)
        · rw [wi_f (by rw [l_2, z_eq (by omega) (by omega)]; exact e), wq_some, ks_l, n1_add]
          exact h1 ⟨fun g => absurd g hs, fun _ => e⟩
      · rw [if_neg har, wi_t rfl, wq_some, ks_l, n1_add]
        exact h1 ⟨fun g => absurd g hs, fun g => absurd g har⟩
  have h98 : ¬ t.1 = 3 → ¬ (t.1 = 2 ∧ k = 0) → wq (md_isWhole_b98 (nI (320 + j)) v2 (nI k) (nI v) τ) (ks md_isWhole_st Q) := by
    intro g1 g2
    unfold md_isWhole_b98
    rw [wc_n (by omega) (by omega), z_cl (by omega), e6, l_7, l_9, md_in_nn (by omega) (by omega) (by omega), wq_bind, wq_some]
    unfold md_isWhole_b111 md_isWhole_b114
    by_cases g : 7 ≤ t.1 ∧ t.1 ≤ 9
    · rw [if_pos g, wi_f (by decide)]
      exact h119 1 (Or.inl ⟨rfl, Or.inr (Or.inr g)⟩)
    · rw [if_neg g, wi_t rfl]
      exact h119 0 (Or.inr ⟨rfl, by omega⟩)
  unfold md_isWhole_b74 md_isWhole_b114
  rw [wc_n (by omega) (by omega), z_cl (by omega), e6]
  by_cases c3 : t.1 = 3
  · rw [wi_t (by rw [c3]; rfl)]
    exact h119 1 (Or.inl ⟨rfl, Or.inl c3⟩)
  · rw [wi_f (by rw [l_3, z_eq (by omega) (by omega)]; exact c3), wc_n (by omega) (by omega)]
    by_cases c2 : t.1 = 2
    · rw [wi_t (by rw [c2]; rfl)]
      by_cases ck : k = 0
      · rw [wi_t (by rw [z_e0 (by omega)]; exact ck)]
        exact h119 1 (Or.inl ⟨rfl, Or.inr (Or.inl ⟨c2, ck⟩)⟩)
      · rw [wi_f (by rw [z_e0 (by omega)]; exact ck)]
        exact h98 c3 (fun g => ck g.2)
    · rw [wi_f (by rw [l_2, z_eq (by omega) (by omega)]; exact c2)]
      exact h98 c3 (fun g => c2 g.1)
theorem md_isWhole_lp54 {Q : Int32 × dS → Prop} {τ : dS} {j m : Nat} {t : Tk} {ts : List Tk} (hj : j < 40) (hm : m ≤ 40) (hot : okT t) (e6 : τ 6 (320 + j) = nI t.1) (e15 : τ 15 0 = nI m) (hle : ar t ≤ m) (hst : ∀ q, q < m → τ 11 (m - 1 - q) = nI (ht (ts.drop (sk q ts))))
    (h1 : typ t ts → wq (md_isWhole_b175 (nI (320 + j)) (up2 τ 15 0 (nI (m - ar t)))) (ks md_isWhole_st Q)) (h2 : ¬ typ t ts → Q (0, τ)) : ∀ (f k : Nat), k + f = ar t → (∀ q, q < k → okk t ts q) → wq (lp md_isWhole_st (54, [nI (320 + j), nI (ar t), nI k], τ)) Q := by
  have har := ar_le hot
  have hk18 := hot.1
  intro f
  induction f with
  | zero =>
    intro k hk hok
    rw [md_isWhole_l54]; unfold md_isWhole_b54
    rw [wi_t (by rw [z_le (by omega) (by omega)]; omega), e15, z_sub hle]
    exact h1 ((typ_okk t ts).mpr (fun q hq => hok q (by omega)))
  | succ f ih =>
    intro k hk hok
    rw [md_isWhole_l54]; unfold md_isWhole_b54
    rw [wi_f (by rw [z_le (by omega) (by omega)]; omega), e15, n1_sub (by omega), z_sub (by omega), wc_n (by omega) (by omega), z_cl (by omega), hst k (by omega)]
    refine md_isWhole_chk hj hk18 (by omega) e6 rfl (fun g => ih (k + 1) (by omega) (fun q hq => ?_)) (fun g => h2 (fun e => g ((typ_okk t ts).mp e k (by omega))))
    by_cases e : q = k
    · rw [e]; exact g
    · exact hok q (by omega)
theorem md_isWhole_lp {Q : Int32 × dS → Prop} (hL : T.length ≤ 40) (hok : ∀ t, t ∈ T → okT t) (hM : MX 320 T τ0)
    (hy : ∀ τ, wfs T 1 → sm [11, 15] τ0 τ → Q (1, τ)) (hn : ∀ τ, ¬ wfs T 1 → sm [11, 15] τ0 τ → Q (0, τ)) :
    ∀ (j m : Nat) (τ : dS), j ≤ T.length → wfs (T.drop j) m → WI T τ0 j m τ → wq (lp md_isWhole_st (19, [dec (320 + j)], τ)) Q := by
  intro j
  induction j with
  | zero =>
    intro m τ hj hw hR
    have hw : wfs T m := hw
    have := wfs_le hw
    rw [md_isWhole_l19]; unfold md_isWhole_b19
    rw [wi_t (show dec (320 + 0) < 320 by decide), hR.2.1]
    by_cases g : m = 1
    · subst g
      rw [wi_t (show nI 1 = 1 from rfl), wq_some, ks_r]
      exact hy τ hw hR.1
    · rw [wi_f (by rw [n1_eq (by omega)]; exact g), wq_some, ks_r]
      exact hn τ (fun e => g (wfs_uniq hw e)) hR.1
  | succ j ih =>
    intro m τ hj hw hR
    obtain ⟨t, ts, hd⟩ := drop_ex (ts := T) (i := j) (by omega)
    have hts := drop_next hd
    obtain ⟨r1, r2, r3⟩ := hR
    rw [hts] at hw r3
    have hf := (wfs_fl hw).1
    have hml := wfs_le hw
    have hlen : ts.length = T.length - (j + 1) := by rw [← hts, List.length_drop]
    have hot := hok t (drop_mem hd)
    have har := ar_le hot
    have hk18 := hot.1
    have e6 : τ 6 (320 + j) = nI t.1 := by rw [r1 6 (by decide)]; exact (hM j t ts hd).1
    have e7 : τ 7 (320 + j) = t.2 := by rw [r1 7 (by decide)]; exact (hM j t ts hd).2
    have hno : ¬ (ar t ≤ m ∧ typ t ts) → ¬ wfs T 1 := by
      intro g e
      obtain ⟨m', hm'⟩ := wfs_drop j e
      rw [hd] at hm'
      obtain ⟨m'', q1, q2, q3, q4⟩ := hm'
      have := wfs_uniq q1 hw
      subst this
      exact g ⟨q2, q3⟩
    rw [show 320 + (j + 1) = 320 + j + 1 by omega, dec_s, md_isWhole_l19]; unfold md_isWhole_b19
    rw [wi_f (by rw [l_320, z_lt (by omega) (by omega)]; omega), wc_n (by omega) (by omega), wc_n (by omega) (by omega), z_cl (by omega), e6, e7, md_operands_sp hot, wq_bind, wq_some]
    unfold md_isWhole_b41
    rw [r2]
    by_cases hle : ar t ≤ m
    · rw [wi_t (by rw [z_le (by omega) (by omega)]; exact hle), wq_some, ks_l]
      have := md_isWhole_lp54 (Q := Q) (j := j) (ts := ts) (by omega) (by omega) hot e6 r2 hle r3 (fun g => ?_) (fun g => hn τ (hno (fun e => g e.2)) r1) (ar t) 0 (by omega) (fun q hq => by omega)
      · rw [nI_0] at this; exact this
      · unfold md_isWhole_b175 md_isWhole_b190
        rw [up2_s, u_e]
        rw [wc_n (by omega) (by omega), z_cl (by omega), up2_n (by decide), up2_n (by decide), e6, md_typeOf_sp hk18, wq_bind, wq_some]
        unfold md_isWhole_b199
        rw [wc_n (by omega) (by omega), wq_some, ks_l, z_cl (by omega), dec_f, n1_add]
        refine ih (m - ar t + 1) _ (by omega) (by rw [hd]; exact ⟨m, hw, hle, g, rfl⟩) ⟨?_, ?_, fun q hq => ?_⟩
        · refine sm_up (by decide) (sm_up (by decide) (sm_up (by decide) r1))
        · simp (disch := first | omega | with_reducible assumption) only [up2_s, up2_n, u_e, u_n]
        · simp (disch := first | omega | with_reducible assumption) only [up2_s, up2_n, u_e, u_n]
          rw [hd]
          cases q with
          | zero => rw [show m - ar t + 1 - 1 - 0 = m - ar t by omega, u_e, sk_0]; rfl
          | succ q =>
            rw [u_n (by omega), sk_s]
            have := r3 (q + ar t) (by omega)
            rw [show m - 1 - (q + ar t) = m - ar t + 1 - 1 - (q + 1) by omega] at this
            rw [this, show 1 + sk (q + ar t) ts = sk (q + ar t) ts + 1 by omega, List.drop_succ_cons]
    · rw [wi_f (by rw [z_le (by omega) (by omega)]; exact hle), wq_some, ks_r]
      exact hn τ (hno (fun e => hle e.1)) r1
theorem md_isWhole_sp {Q : Int32 × dS → Prop} (hL : T.length ≤ 40) (hok : ∀ t, t ∈ T → okT t) (hM : MX 320 T τ0) (h8 : τ0 8 8 = nI T.length)
    (hy : ∀ τ, wfs T 1 → sm [11, 15] τ0 τ → Q (1, τ)) (hn : ∀ τ, ¬ wfs T 1 → sm [11, 15] τ0 τ → Q (0, τ)) : wq (md_isWhole τ0) Q := by
  unfold md_isWhole md_isWhole_b0 md_isWhole_b5
  rw [wq_lpB, l_8, wc_n (by omega) (by omega), z_cl (by omega), up2_n (by decide), h8, l_320, nI_add, dec_m, wq_some, ks_l]
  exact md_isWhole_lp (T := T) (τ0 := τ0) hL hok hM hy hn T.length 0 _ (Nat.le_refl _) (by rw [List.drop_length]; rfl) ⟨sm_up (by decide) sm_rf, by simp (disch := first | omega | with_reducible assumption) only [up2_s, up2_n, u_e, u_n]; rw [nI_0], fun q hq => by omega⟩
end
