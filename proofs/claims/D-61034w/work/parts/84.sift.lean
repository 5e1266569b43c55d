/-! TransletDeskModel: sift, step -/
set_option maxRecDepth 100000
/-- a row holds the nodes of a list of places, from o on -/
def lsn (row : Nat → Nat) (f : Nat → Int32) : Nat → List Nat → Prop
  | _, [] => True
  | o, a :: r => f o = nI (row a) ∧ lsn row f (o + 1) r
theorem lsn_upd {row : Nat → Nat} {f : Nat → Int32} {j : Nat} {v : Int32} : ∀ {L : List Nat} {o : Nat}, (j < o ∨ o + L.length ≤ j) → lsn row f o L → lsn row (upd f j v) o L := by
  intro L
  induction L with
  | nil => intro o _ _; trivial
  | cons a r ih =>
    intro o hj h
    rw [List.length_cons] at hj
    exact ⟨by rw [u_n (by omega)]; exact h.1, ih (by omega) h.2⟩
theorem lsn_app {row : Nat → Nat} {f : Nat → Int32} {a : Nat} : ∀ {L : List Nat} {o : Nat}, lsn row f o L → f (o + L.length) = nI (row a) → lsn row f o (L ++ [a]) := by
  intro L
  induction L with
  | nil => intro o _ h; exact ⟨h, trivial⟩
  | cons b r ih =>
    intro o h h2
    rw [List.length_cons, show o + (r.length + 1) = o + 1 + r.length by omega] at h2
    exact ⟨h.1, ih h.2 h2⟩
theorem ev_truth {n : Nat} {d nmp : Nat → Nat} {vv : Nat → Int32} {ts : List Tk} (h : ht ts = 2) (x : Nat) (p l : Int32) (hk : hk ts < 18) : ev n d nmp vv ts x p l = 0 ∨ ev n d nmp vv ts x p l = 1 := by
  cases ts with
  | nil => cases h
  | cons t r =>
    have h13 : 13 ≤ t.1 := by
      have h : tyk t.1 = 2 := h
      unfold tyk at h
      by_cases g : t.1 < 4
      · rw [if_pos g] at h; cases h
      · rw [if_neg g] at h
        by_cases g2 : t.1 < 13
        · rw [if_pos g2] at h; cases h
        · omega
    have hk : t.1 < 18 := hk
    rw [ev_b (by omega)]
    have hb : ∀ c : Bool, b2i c = 0 ∨ b2i c = 1 := by intro c; cases c <;> decide
    unfold jn
    rw [if_neg (by omega), if_neg (by omega), if_neg (by omega), if_neg (by omega), if_neg (by omega), if_neg (by omega), if_neg (by omega)]
    by_cases g : t.1 = 13
    · rw [if_pos g]; exact hb _
    · rw [if_neg g]
      by_cases g : t.1 = 14
      · rw [if_pos g]; exact hb _
      · rw [if_neg g]
        by_cases g : t.1 = 15
        · rw [if_pos g]; exact hb _
        · rw [if_neg g]
          by_cases g : t.1 = 16
          · rw [if_pos g]; exact hb _
          · rw [if_neg g]; exact hb _
section
variable {n : Nat} {row d nm : Nat → Nat} {vl : Nat → Int32} {T : List Tk}
theorem md_sift_lp {Q : Int32 × dS → Prop} {τ0 : dS} (hw : WT n row d) (hM : MT n row d nm vl τ0) {s f len : Nat} (hs8 : s < 8) (hO : MO (40 * s) T τ0) (hf : f < T.length) (hlen : len ≤ 24) (hms : ∀ x, x < n → msx n row d (fun y => nm (row y)) (fun y => vl (row y)) (40 * s) T f (f + sk 1 (T.drop f)) x τ0) :
    ∀ (R O : List Nat) (k : Nat) (τ : dS), k + R.length = len → O.length ≤ k → (∀ y, y ∈ R → y < n) → sm [11, 12, 13, 14, 15, 16] τ0 τ → lsn row (τ 14) 0 O → lsn row (τ 14) k R → τ 16 0 = nI O.length →
      (∀ τ', sm [11, 12, 13, 14, 15, 16] τ0 τ' → lsn row (τ' 14) 0 (O ++ sft (fun z j => hold (ht (T.drop f)) (ev n d (fun y => nm (row y)) (fun y => vl (row y)) (T.drop f) z (nI j) (nI len)) (nI j)) (k + 1) R) → τ' 16 0 = nI (O ++ sft (fun z j => hold (ht (T.drop f)) (ev n d (fun y => nm (row y)) (fun y => vl (row y)) (T.drop f) z (nI j) (nI len)) (nI j)) (k + 1) R).length → Q (0, τ')) →
      wq (lp md_sift_st (13, [nI s, nI f, nI len, nI k], τ)) Q := by
  have hn24 := hw.1.1
  intro R
  induction R with
  | nil =>
    intro O k τ hk hOk hR hs l1 l2 h16 hq
    rw [md_sift_l13]; unfold md_sift_b13
    rw [wi_t (by rw [z_le (by omega) (by omega)]; have : k + 0 = len := hk; omega), wq_some, ks_r]
    have := hq τ hs
    rw [show sft (fun z j => hold (ht (T.drop f)) (ev n d (fun y => nm (row y)) (fun y => vl (row y)) (T.drop f) z (nI j) (nI len)) (nI j)) (k + 1) [] = [] from rfl, List.append_nil] at this
    exact this l1 h16
  | cons x r ih =>
    intro O k τ hkl hOk hR hs l1 l2 h16 hq
    rw [List.length_cons] at hkl
    have hx := hR x List.mem_cons_self
    have rx := hw.1.2.1 x hx
    rw [md_sift_l13]; unfold md_sift_b13
    rw [wi_f (by rw [z_le (by omega) (by omega)]; omega), wc_n (by omega) (by omega), z_cl (by omega), l2.1]
    unfold md_sift_b28
    rw [wq_bind, n1_add]
    refine md_workOut_sp (p := nI (k + 1)) (l := nI len) hw (MT_sm' hM hs (by decide)) hs8 (MO_sm hO hs (by decide)) hx hf (fun i h1 h2 h3 => by rw [hs 9 (by decide)]; exact hms x hx i h1 h2 h3) (fun q hq1 hq2 => ?_)
    have hs2 := sm_tr hs (sm_sub hq1 (by decide))
    have e14 : q.2 14 = τ 14 := hq1 14 (by decide)
    have e16 : q.2 16 0 = nI O.length := by rw [hq1 16 (by decide)]; exact h16
    have htl := tyk_lt (hk (T.drop f))
    -- stays
    have hyes : hold (ht (T.drop f)) (ev n d (fun y => nm (row y)) (fun y => vl (row y)) (T.drop f) x (nI (k + 1)) (nI len)) (nI (k + 1)) = true → wq (md_sift_b113 (nI s) (nI f) (nI len) (nI k) (nI (row x)) 1 q.2) (ks md_sift_st Q) := by
      intro hh
      unfold md_sift_b113
      rw [wi_f (by decide), e16, n1_add]
      unfold md_sift_b135 md_sift_b138
      rw [wc_n (by omega) (by omega), wq_some, ks_l, z_cl (by omega), n1_add]
      refine ih (O ++ [x]) (k + 1) _ (by omega) (by rw [List.length_append, List.length_singleton]; omega) (fun y hy => hR y (List.mem_cons_of_mem _ hy)) (sm_up (by decide) (sm_up (by decide) hs2)) ?_ ?_ ?_ (fun τ' s1 s2 s3 => ?_)
      · simp (disch := first | omega | with_reducible assumption) only [up2_s, up2_n, u_e, u_n]
        rw [e14]
        refine lsn_app (lsn_upd (Or.inr (by omega)) l1) ?_
        rw [Nat.zero_add, u_e]
      · simp (disch := first | omega | with_reducible assumption) only [up2_s, up2_n, u_e, u_n]
        rw [e14]
        exact lsn_upd (Or.inl (by omega)) l2.2
      · simp (disch := first | omega | with_reducible assumption) only [up2_s, up2_n, u_e, u_n]
        rw [List.length_append]; rfl
      · have := hq τ' s1
        rw [show sft (fun z j => hold (ht (T.drop f)) (ev n d (fun y => nm (row y)) (fun y => vl (row y)) (T.drop f) z (nI j) (nI len)) (nI j)) (k + 1) (x :: r) = x :: sft (fun z j => hold (ht (T.drop f)) (ev n d (fun y => nm (row y)) (fun y => vl (row y)) (T.drop f) z (nI j) (nI len)) (nI j)) (k + 1 + 1) r from if_pos hh] at this
        rw [List.append_assoc] at s2 s3
        exact this s2 s3
    have hno : ¬ hold (ht (T.drop f)) (ev n d (fun y => nm (row y)) (fun y => vl (row y)) (T.drop f) x (nI (k + 1)) (nI len)) (nI (k + 1)) = true → wq (md_sift_b113 (nI s) (nI f) (nI len) (nI k) (nI (row x)) 0 q.2) (ks md_sift_st Q) := by
      intro hh
      unfold md_sift_b113
      rw [wi_t rfl]
      unfold md_sift_b138
      rw [wq_some, ks_l, n1_add]
      refine ih O (k + 1) _ (by omega) (by omega) (fun y hy => hR y (List.mem_cons_of_mem _ hy)) hs2 (by rw [e14]; exact l1) (by rw [e14]; exact l2.2) e16 (fun τ' s1 s2 s3 => ?_)
      have := hq τ' s1
      rw [show sft (fun z j => hold (ht (T.drop f)) (ev n d (fun y => nm (row y)) (fun y => vl (row y)) (T.drop f) z (nI j) (nI len)) (nI j)) (k + 1) (x :: r) = sft (fun z j => hold (ht (T.drop f)) (ev n d (fun y => nm (row y)) (fun y => vl (row y)) (T.drop f) z (nI j) (nI len)) (nI j)) (k + 1 + 1) r from if_neg hh] at this
      exact this s2 s3
    unfold hold at hyes hno
    unfold md_sift_b41
    rw [wc_0 (by omega), z_0c, hq2.1]
    have h3 : ht (T.drop f) = 0 ∨ ht (T.drop f) = 1 ∨ ht (T.drop f) = 2 := by unfold ht; omega
    rcases h3 with c | c | c
    · have hz := pm_z (hq2.2.1 c)
      rw [wi_t (by rw [c]; exact nI_0), wc_0 (by omega)]
      rw [if_neg (by omega)] at hyes hno
      by_cases g : ev n d (fun y => nm (row y)) (fun y => vl (row y)) (T.drop f) x (nI (k + 1)) (nI len) = 0
      · rw [wi_t (hz.mpr g)]; exact hno (fun e => (of_decide_eq_true e) g)
      · rw [wi_f (fun e => g (hz.mp e))]; exact hyes (decide_eq_true g)
    · rw [wi_f (by rw [c]; decide), wc_0 (by omega), wi_t (by rw [c]; rfl), wc_0 (by omega), hq2.2.2 (by omega), n1_add]
      rw [if_pos c] at hyes hno
      by_cases g : ev n d (fun y => nm (row y)) (fun y => vl (row y)) (T.drop f) x (nI (k + 1)) (nI len) = nI (k + 1)
      · rw [wi_t g]; exact hyes (decide_eq_true g)
      · rw [wi_f g]; exact hno (fun e => g (of_decide_eq_true e))
    · rw [wi_f (by rw [c]; decide), wc_0 (by omega), wi_f (by rw [c]; decide), wc_0 (by omega), hq2.2.2 (by omega)]
      rw [if_neg (by omega)] at hyes hno
      obtain ⟨tk, rk, hdk⟩ := drop_ex hf
      have hk18 : hk (T.drop f) < 18 := by
        have := hO.2.2.1 tk (drop_mem hdk)
        rw [hdk]; exact this.1
      rcases ev_truth (n := n) (d := d) (nmp := fun y => nm (row y)) (vv := fun y => vl (row y)) c x (nI (k + 1)) (nI len) hk18 with g | g
      · rw [wi_f (by rw [g]; decide)]; exact hno (fun e => (of_decide_eq_true e) g)
      · rw [wi_t g]; exact hyes (decide_eq_true (by rw [g]; decide))
theorem md_sift_sp {Q : Int32 × dS → Prop} {τ : dS} (hw : WT n row d) (hM : MT n row d nm vl τ) {s f : Nat} {L : List Nat} (hs8 : s < 8) (hO : MO (40 * s) T τ) (hf : f < T.length) (hlen : L.length ≤ 24) (hms : ∀ x, x < n → msx n row d (fun y => nm (row y)) (fun y => vl (row y)) (40 * s) T f (f + sk 1 (T.drop f)) x τ) (hL : ∀ y, y ∈ L → y < n) (hls_ : lsn row (τ 14) 0 L) (h16 : τ 16 0 = nI L.length)
    (hq : ∀ r, sm [11, 12, 13, 14, 15, 16] τ r.2 → lsn row (r.2 14) 0 (tst (ht (T.drop f)) (ev n d (fun y => nm (row y)) (fun y => vl (row y)) (T.drop f)) L) → r.2 16 0 = nI (tst (ht (T.drop f)) (ev n d (fun y => nm (row y)) (fun y => vl (row y)) (T.drop f)) L).length → Q r) : wq (md_sift (nI s) (nI f) τ) Q := by
  unfold md_sift md_sift_b0 md_sift_b5 md_sift_b10
  rw [wq_lpB, wq_some, ks_l, h16, show (0 : Int32) = nI 0 from nI_0.symm]
  refine md_sift_lp (τ0 := τ) (len := L.length) hw hM hs8 hO hf hlen hms L [] 0 _ (by omega) (Nat.le_refl _) hL (sm_up (by decide) sm_rf) trivial ?_ ?_ (fun τ' s1 s2 s3 => hq _ s1 s2 s3)
  · simp (disch := first | omega | with_reducible assumption) only [up2_s, up2_n, u_e, u_n]; exact hls_
  · simp (disch := first | omega | with_reducible assumption) only [up2_s, up2_n, u_e, u_n]; rfl
end
