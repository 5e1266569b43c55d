/-! TransletDeskModel: step -/
set_option maxRecDepth 100000
section
variable {n : Nat} {row d nm : Nat → Nat} {vl : Nat → Int32} {T : List Tk}
theorem ft_len {p : Nat → Bool} : ∀ (m s : Nat), (ft p s m).length ≤ m := by
  intro m
  induction m with
  | zero => intro s; exact Nat.le_refl _
  | succ m ih =>
    intro s
    rw [ft_s]
    have := ih (s + 1)
    by_cases g : p s = true
    · rw [if_pos g, List.length_cons]; omega
    · rw [if_neg g]; omega
/-- the part of the list that is found after k turns -/
def lisk (n : Nat) (d nmp : Nat → Nat) (w x k : Nat) : List Nat := if trn w = true then (ft (sel n d nmp w x) (n - k) k).reverse else ft (sel n d nmp w x) 0 k
theorem lisk_s {nmp : Nat → Nat} {w x k : Nat} (hk : k < n) : lisk n d nmp w x (k + 1) = lisk n d nmp w x k ++ (if sel n d nmp w x (if trn w = true then n - 1 - k else k) = true then [if trn w = true then n - 1 - k else k] else []) := by
  unfold lisk
  by_cases g : trn w = true
  · rw [if_pos g, if_pos g, if_pos g, ft_s, show n - (k + 1) + 1 = n - k by omega, show n - (k + 1) = n - 1 - k by omega]
    by_cases h : sel n d nmp w x (n - 1 - k) = true
    · rw [if_pos h, if_pos h, List.reverse_cons]
    · rw [if_neg h, if_neg h, List.append_nil]
  · rw [if_neg g, if_neg g, if_neg g, ft_snoc, Nat.zero_add]
theorem lisk_len {nmp : Nat → Nat} {w x k : Nat} : (lisk n d nmp w x k).length ≤ k := by
  unfold lisk
  by_cases g : trn w = true
  · rw [if_pos g, List.length_reverse]; exact ft_len _ _
  · rw [if_neg g]; exact ft_len _ _
theorem lisk_n {nmp : Nat → Nat} {w x : Nat} : lisk n d nmp w x n = lis n d nmp w x := by
  unfold lisk lis
  rw [Nat.sub_self]
theorem md_step_lp209 {Q : Int32 × dS → Prop} {τ : dS} {v1 v2 v3 v4 v5 v6 v7 v8 : Int32} {len : Nat} (hw : WT n row d) (hlen : len ≤ 24) (h16 : τ 16 0 = nI len) : ∀ (R : List Nat) (k : Nat) (a : Int32), k + R.length = len → (∀ y, y ∈ R → y < n) → lsn row (τ 14) k R → Q (a ||| mkL (R.map row), τ) → wq (lp md_step_st (209, [v1, v2, v3, v4, v5, v6, v7, v8, a, nI k], τ)) Q := by
  intro R
  induction R with
  | nil =>
    intro k a hk hR hl hq
    rw [md_step_l209]; unfold md_step_b209
    rw [h16, wi_t (by rw [z_le (by omega) (by omega)]; have : k + 0 = len := hk; omega), wq_some, ks_r]
    have e : a ||| mkL (List.map row []) = a := by
      show a ||| 0 = a
      apply b_ext; intro j _; rw [b_or, b_0, Bool.or_false]
    rw [e] at hq; exact hq
  | cons x r ih =>
    intro k a hk hR hl hq
    rw [List.length_cons] at hk
    rw [md_step_l209]; unfold md_step_b209
    rw [h16, wi_f (by rw [z_le (by omega) (by omega)]; omega), wc_n (by omega) (by omega), wq_some, ks_l, z_cl (by omega), hl.1, bI_f, n1_add]
    refine ih (k + 1) _ (by omega) (fun y hy => hR y (List.mem_cons_of_mem _ hy)) hl.2 ?_
    have e : (a ||| bI (row x)) ||| mkL (r.map row) = a ||| mkL ((x :: r).map row) := by
      show _ = a ||| (bI (row x) ||| mkL (r.map row))
      apply b_ext; intro j _; rw [b_or, b_or, b_or, b_or, Bool.or_assoc]
    rw [e]; exact hq
theorem md_step_lp56 {Q : Int32 × dS → Prop} {τ0 : dS} (hw : WT n row d) (hM : MT n row d nm vl τ0) (hnm : ∀ i, i < n → nm (row i) < 6) {s i x w : Nat} (hx : x < n) (ha : w % 16 ≤ 10) (hc : w / 16 % 8 ≤ 6) {v4 : Int32}
    (hq : ∀ τ', sm [14, 16] τ0 τ' → lsn row (τ' 14) 0 (lis n d (fun y => nm (row y)) w x) → τ' 16 0 = nI (lis n d (fun y => nm (row y)) w x).length → wq ((md_endOf ((40 * nI s + nI i) + 1) τ').bind (fun r_ => md_step_b162 (nI s) (nI i) (nI (row x)) v4 (nI (w % 16)) (if trn w = true then 1 else 0) (nI (w / 16 % 8)) r_.1 r_.2)) (ks md_step_st Q)) :
    ∀ (f k : Nat) (τ : dS), k + f = n → sm [14, 16] τ0 τ → lsn row (τ 14) 0 (lisk n d (fun y => nm (row y)) w x k) → τ 16 0 = nI (lisk n d (fun y => nm (row y)) w x k).length → wq (lp md_step_st (56, [nI s, nI i, nI (row x), v4, nI (w % 16), if trn w = true then 1 else 0, nI (w / 16 % 8), nI k], τ)) Q := by
  have hn24 := hw.1.1
  intro f
  induction f with
  | zero =>
    intro k τ hk hs h1 h2
    have e : k = n := by omega
    subst e
    rw [md_step_l56]; unfold md_step_b56
    rw [hs 5 (by decide), hM.1, wi_t (Int32.le_refl _)]
    rw [lisk_n] at h1 h2
    exact hq τ hs h1 h2
  | succ f ih =>
    intro k τ hk hs h1 h2
    have hkn : k < n := by omega
    have hll := lisk_len (n := n) (d := d) (nmp := fun y => nm (row y)) (w := w) (x := x) (k := k)
    have hls := lisk_s (d := d) (nmp := fun y => nm (row y)) (w := w) (x := x) hkn
    generalize hz : (if trn w = true then n - 1 - k else k) = z at hls
    have hzn : z < n := by
      rw [← hz]
      by_cases g : trn w = true
      · rw [if_pos g]; omega
      · rw [if_neg g]; exact hkn
    have hMτ := MT_sm hM (hs 0 (by decide)) (hs 1 (by decide)) (hs 2 (by decide)) (hs 3 (by decide)) (hs 5 (by decide))
    have rz := hw.1.2.1 z hzn
    have hnz := hnm z hzn
    -- not taken
    have h144 : sel n d (fun y => nm (row y)) w x z = false → wq (md_step_b144 (nI s) (nI i) (nI (row x)) v4 (nI (w % 16)) (if trn w = true then 1 else 0) (nI (w / 16 % 8)) (nI k) τ) (ks md_step_st Q) := by
      intro g
      unfold md_step_b144
      rw [wq_some, ks_l, n1_add]
      rw [g, if_neg (by decide), List.append_nil] at hls
      exact ih (k + 1) τ (by omega) hs (by rw [hls]; exact h1) (by rw [hls]; exact h2)
    -- taken
    have h126 : sel n d (fun y => nm (row y)) w x z = true → wq (md_step_b126 (nI s) (nI i) (nI (row x)) v4 (nI (w % 16)) (if trn w = true then 1 else 0) (nI (w / 16 % 8)) (nI k) (nI (row z)) τ) (ks md_step_st Q) := by
      intro g
      unfold md_step_b126 md_step_b141 md_step_b144
      rw [h2, wc_n (by omega) (by omega), wq_some, ks_l, z_cl (by omega), n1_add, n1_add]
      rw [if_pos g] at hls
      refine ih (k + 1) _ (by omega) (sm_up (by decide) (sm_up (by decide) hs)) ?_ ?_
      · rw [hls]
        simp (disch := first | omega | with_reducible assumption) only [up2_s, up2_n, u_e, u_n]
        refine lsn_app (lsn_upd (Or.inr (by omega)) h1) ?_
        rw [Nat.zero_add, u_e]
      · rw [hls, List.length_append]
        simp (disch := first | omega | with_reducible assumption) only [up2_s, up2_n, u_e, u_n]
        rfl
    have h88 : wq (md_step_b88 (nI s) (nI i) (nI (row x)) v4 (nI (w % 16)) (if trn w = true then 1 else 0) (nI (w / 16 % 8)) (nI k) (nI z) τ) (ks md_step_st Q) := by
      unfold md_step_b88
      rw [wc_n (by omega) (by omega), z_cl (by omega), (hMτ.2 z hzn).1]
      unfold md_step_b91
      rw [md_isOn_sp hw hMτ ha hx hzn, wq_bind, wq_some]
      unfold md_step_b100
      unfold sel at h144 h126
      by_cases g : ax n d (w % 16) x z = true
      · rw [g, Bool.true_and] at h144 h126
        rw [b2i_t g]
        dsimp only
        rw [wi_f (by decide)]
        by_cases g6 : w / 16 % 8 = 6
        · rw [wi_t (by rw [g6]; rfl)]
          exact h126 (by rw [decide_eq_true g6, Bool.true_or])
        · have ez := (hMτ.2 z hzn).2.2.1
          rw [wi_f (by rw [l_6, z_eq (by omega) (by omega)]; exact g6), wc_n rz (by omega), z_cl (by omega)]
          rw [decide_eq_false g6, Bool.false_or] at h144 h126
          by_cases g7 : nm (row z) = w / 16 % 8
          · rw [wi_t (by rw [ez, g7])]; exact h126 (decide_eq_true g7)
          · rw [wi_f (by rw [ez, z_eq (by omega) (by omega)]; exact g7)]; exact h144 (decide_eq_false g7)
      · have gf : ax n d (w % 16) x z = false := by cases h : ax n d (w % 16) x z with | true => exact absurd h g | false => rfl
        rw [gf, Bool.false_and] at h144
        rw [b2i_f g]
        dsimp only
        rw [wi_t rfl]
        exact h144 rfl
    rw [md_step_l56]; unfold md_step_b56
    rw [hs 5 (by decide), hM.1, wi_f (by rw [z_le (by omega) (by omega)]; omega)]
    by_cases g : trn w = true
    · rw [if_pos g] at hz h88 ⊢
      rw [wi_f (by decide), n1_sub (by omega), z_sub (by omega), hz]
      exact h88
    · rw [if_neg g] at hz h88 ⊢
      rw [wi_t rfl]
      rw [← hz] at h88
      exact h88
theorem alo_len {w t1 t2 y : Nat} {nmp : Nat → Nat} {e1 e2 : Nat → Int32 → Int32 → Int32} : (lis n d nmp w y).length ≤ n := by
  unfold lis
  by_cases g : trn w = true
  · rw [if_pos g, List.length_reverse]; exact ft_len _ _
  · rw [if_neg g]; exact ft_len _ _
theorem md_step_sp {Q : Int32 × dS → Prop} {τ : dS} (hw : WT n row d) (hM : MT n row d nm vl τ) (hnm : ∀ i, i < n → nm (row i) < 6) {s i x : Nat} {t : Tk} {r : List Tk} (hs8 : s < 8) (hO : MO (40 * s) T τ) (hx : x < n) (hd : T.drop i = t :: r) (hk : t.1 = 2) (hms : msA n row d (fun y => nm (row y)) (fun y => vl (row y)) (40 * s) T (i + 1) τ)
    (hq : ∀ τ', sm [11, 12, 13, 14, 15, 16] τ τ' → Q (mkL ((alo n d (fun y => nm (row y)) (sw t) (ht (r.drop (sk 1 r))) (ev n d (fun y => nm (row y)) (fun y => vl (row y)) (r.drop (sk 1 r))) (ht ((r.drop (sk 1 r)).drop (sk 1 (r.drop (sk 1 r))))) (ev n d (fun y => nm (row y)) (fun y => vl (row y)) ((r.drop (sk 1 r)).drop (sk 1 (r.drop (sk 1 r))))) x).map row), τ')) : wq (md_step (nI s) (nI i) (nI (row x)) τ) Q := by
  have hn24 := hw.1.1
  obtain ⟨x1, x1b, x2, x3, x4⟩ := id hO
  have hi := drop_lt hd
  have hr := drop_next hd
  have hot := x2 t (drop_mem hd)
  obtain ⟨w1, w2, w3, w4⟩ := sw_eq hot hk
  have har : ar t = 1 + sw t / 128 := by unfold ar; rw [if_pos hk]
  have hrl : r.length = T.length - (i + 1) := by rw [← hr, List.length_drop]
  obtain ⟨m', hwf⟩ := wfs_drop i x3
  rw [hd] at hwf
  obtain ⟨m'', q1, q2, q3, q4⟩ := hwf
  have hf := fl_mono _ _ _ (wfs_fl q1).1 q2
  have hl1 := fl_lt r 0 (fl_mono _ _ 1 hf (by omega))
  rw [sk_0] at hl1
  have e7 := (x4 i t r hd).2
  have hmsx : ∀ (g : Nat), i + 1 ≤ g → ∀ (τ' : dS), τ' 9 = τ 9 → ∀ x, x < n → msx n row d (fun y => nm (row y)) (fun y => vl (row y)) (40 * s) T g (g + sk 1 (T.drop g)) x τ' := by
    intro g hg τ' e9 x hx j h1 h2 h3
    rw [e9]
    refine hms x hx j (by omega) ?_ h3
    have := sk_le (T.drop g) 1
    rw [List.length_drop] at this
    rcases Nat.lt_or_ge j T.length with q | q
    · exact q
    · omega
  have h15 : (t.2 &&& (15 : Int32)) = nI (sw t % 16) := by rw [w1, l_15, an15 (by omega)]
  have h47 : ((t.2 >>> ((4 : Int32) &&& 31)) &&& (7 : Int32)) = nI (sw t / 16 % 8) := by rw [w1, l_4, sh4 (by omega), l_7, an7 (by omega)]
  have h7 : (t.2 >>> ((7 : Int32) &&& 31)) = nI (sw t / 128) := by rw [w1, l_7, sh7 (by omega)]
  -- the end
  have hend : ∀ (L : List Nat) (τ' : dS) (v8 : Int32) (v9 : Nat), sm [11, 12, 13, 14, 15, 16] τ τ' → lsn row (τ' 14) 0 L → τ' 16 0 = nI L.length → L.length ≤ 24 → (∀ y, y ∈ L → y < n) → sw t / 128 ≤ v9 → v9 < 10 → L = alo n d (fun y => nm (row y)) (sw t) (ht (r.drop (sk 1 r))) (ev n d (fun y => nm (row y)) (fun y => vl (row y)) (r.drop (sk 1 r))) (ht ((r.drop (sk 1 r)).drop (sk 1 (r.drop (sk 1 r))))) (ev n d (fun y => nm (row y)) (fun y => vl (row y)) ((r.drop (sk 1 r)).drop (sk 1 (r.drop (sk 1 r))))) x → wq (lp md_step_st (167, [nI s, nI i, nI (row x), t.2, nI (sw t % 16), if trn (sw t) = true then 1 else 0, nI (sw t / 16 % 8), v8, nI v9], τ')) Q := by
    intro L τ' v8 v9 hs hl h16 hlen hL hv9 hv9b hLe
    rw [md_step_l167]; unfold md_step_b167
    rw [h7, wi_t (by rw [z_le (by omega) (by omega)]; exact hv9), wq_some, ks_l, show (0 : Int32) = nI 0 from nI_0.symm]
    refine md_step_lp209 hw hlen h16 L 0 _ (by omega) hL hl ?_
    rw [nI_0]
    have e0 : ∀ z : Int32, 0 ||| z = z := fun z => by apply b_ext; intro j _; rw [b_or, b_0, Bool.false_or]
    rw [e0, hLe]
    exact hq τ' hs
  -- one test
  have hone : ∀ (L : List Nat) (τ' : dS) (g v9 : Nat), sm [11, 12, 13, 14, 15, 16] τ τ' → lsn row (τ' 14) 0 L → τ' 16 0 = nI L.length → L.length ≤ 24 → (∀ y, y ∈ L → y < n) → v9 < sw t / 128 → i + 1 ≤ g → g < T.length →
      (∀ τ'', sm [11, 12, 13, 14, 15, 16] τ τ'' → lsn row (τ'' 14) 0 (tst (ht (T.drop g)) (ev n d (fun y => nm (row y)) (fun y => vl (row y)) (T.drop g)) L) → τ'' 16 0 = nI (tst (ht (T.drop g)) (ev n d (fun y => nm (row y)) (fun y => vl (row y)) (T.drop g)) L).length → wq (lp md_step_st (167, [nI s, nI i, nI (row x), t.2, nI (sw t % 16), if trn (sw t) = true then 1 else 0, nI (sw t / 16 % 8), nI (40 * s + (g + sk 1 (T.drop g))), nI (v9 + 1)], τ'')) Q) →
      wq (lp md_step_st (167, [nI s, nI i, nI (row x), t.2, nI (sw t % 16), if trn (sw t) = true then 1 else 0, nI (sw t / 16 % 8), nI (40 * s + g), nI v9], τ')) Q := by
    intro L τ' g v9 hs hl h16 hlen hL hv9 hg1 hg2 h
    rw [md_step_l167]; unfold md_step_b167
    rw [h7, wi_f (by rw [z_le (by omega) (by omega)]; omega), wq_bind, l_40, pk_mul, z_sub (by omega), show 40 * s + g - 40 * s = g by omega]
    refine md_sift_sp hw (MT_sm' hM hs (by decide)) hs8 (MO_sm hO hs (by decide)) hg2 hlen (hmsx g hg1 τ' (hs 9 (by decide))) hL hl h16 (fun q s1 s2 s3 => ?_)
    have hs2 := sm_tr hs s1
    unfold md_step_b189
    rw [md_endOf_sp (MO_sm hO hs2 (by decide)) hg2, wq_bind, wq_some]
    unfold md_step_b195
    rw [wq_some, ks_l, n1_add]
    have := h q.2 hs2 s2 s3
    rw [show 40 * s + (g + sk 1 (T.drop g)) = 40 * s + g + sk 1 (T.drop g) by omega] at this
    exact this
  -- the start
  unfold md_step md_step_b0 md_step_b13 md_step_b20
  rw [wq_lpB, l_40, pk_mul, nI_add, wc_n (by omega) (by omega), z_cl (by omega), e7, h15]
  have h53 : ∀ v : Int32, v = (if trn (sw t) = true then 1 else 0) → wq (md_step_b37 (nI s) (nI i) (nI (row x)) t.2 (nI (sw t % 16)) v τ) (ks md_step_st Q) := by
    rintro v rfl
    unfold md_step_b37 md_step_b48 md_step_b53
    rw [h47, wq_some, ks_l, show (0 : Int32) = nI 0 from nI_0.symm]
    have hgo := md_step_lp56 (Q := Q) (v4 := t.2) (s := s) (i := i) (w := sw t) (τ0 := τ) hw hM hnm hx w3 w4 (fun τ' s1 s2 s3 => ?_) n 0 (up2 τ 16 0 (nI 0)) (by omega) (sm_up (by decide) sm_rf) (by
      have e : lisk n d (fun y => nm (row y)) (sw t) x 0 = [] := by unfold lisk; by_cases g : trn (sw t) = true <;> simp [g, ft_0]
      rw [e]; trivial) (by
      have e : lisk n d (fun y => nm (row y)) (sw t) x 0 = [] := by unfold lisk; by_cases g : trn (sw t) = true <;> simp [g, ft_0]
      rw [e]; simp (disch := first | omega | with_reducible assumption) only [up2_s, up2_n, u_e, u_n]; rfl)
    · rw [nI_0] at hgo ⊢; exact hgo
    · have hs1 : sm [11, 12, 13, 14, 15, 16] τ τ' := sm_sub s1 (by decide)
      rw [l_40, pk_mul, nI_add, n1_add, show 40 * s + i + 1 = 40 * s + (i + 1) by omega, md_endOf_sp (MO_sm hO hs1 (by decide)) (by omega : i + 1 < T.length), wq_bind, wq_some, hr]
      unfold md_step_b162
      rw [wq_some, ks_l, show (0 : Int32) = nI 0 from nI_0.symm]
      have hlen := alo_len (n := n) (d := d) (w := sw t) (t1 := 0) (t2 := 0) (y := x) (nmp := fun y => nm (row y)) (e1 := fun _ _ _ => 0) (e2 := fun _ _ _ => 0)
      have hc : sw t / 128 = 0 ∨ sw t / 128 = 1 ∨ sw t / 128 = 2 := by omega
      rcases hc with c | c | c
      · refine hend (lis n d (fun y => nm (row y)) (sw t) x) τ' _ 0 hs1 s2 s3 (by omega) (fun y hy => lis_lt hy) (by omega) (by omega) ?_
        unfold alo
        rw [if_pos c]
      · have hl2 := fl_lt r 1 (fl_mono _ _ 2 hf (by omega))
        rw [show 40 * s + (i + 1) + sk 1 r = 40 * s + (i + 1 + sk 1 r) by omega]
        refine hone _ τ' (i + 1 + sk 1 r) 0 hs1 s2 s3 (by omega) (fun y hy => lis_lt hy) (by omega) (by omega) (by omega) (fun τ2 a1 a2 a3 => ?_)
        rw [← List.drop_drop, hr] at a2 a3 ⊢
        have hle := (sft_sub (f := fun z k => hold (ht (r.drop (sk 1 r))) (ev n d (fun y => nm (row y)) (fun y => vl (row y)) (r.drop (sk 1 r)) z (nI k) (nI (lis n d (fun y => nm (row y)) (sw t) x).length)) (nI k)) (l := lis n d (fun y => nm (row y)) (sw t) x) (p := 1)).length_le
        refine hend _ τ2 _ 1 a1 a2 a3 (Nat.le_trans hle (by omega)) (fun y hy => lis_lt (sft_sub.subset hy)) (by omega) (by omega) ?_
        unfold alo
        rw [if_neg (by omega), if_pos c]
      · have hl2 := fl_lt r 1 (fl_mono _ _ 2 hf (by omega))
        have hl3 := fl_lt r 2 (fl_mono _ _ 3 hf (by omega))
        have e2 : sk 2 r = sk 1 r + sk 1 (r.drop (sk 1 r)) := sk_add 1 r 1
        rw [show 40 * s + (i + 1) + sk 1 r = 40 * s + (i + 1 + sk 1 r) by omega]
        refine hone _ τ' (i + 1 + sk 1 r) 0 hs1 s2 s3 (by omega) (fun y hy => lis_lt hy) (by omega) (by omega) (by omega) (fun τ2 a1 a2 a3 => ?_)
        rw [← List.drop_drop, hr] at a2 a3 ⊢
        have hle := (sft_sub (f := fun z k => hold (ht (r.drop (sk 1 r))) (ev n d (fun y => nm (row y)) (fun y => vl (row y)) (r.drop (sk 1 r)) z (nI k) (nI (lis n d (fun y => nm (row y)) (sw t) x).length)) (nI k)) (l := lis n d (fun y => nm (row y)) (sw t) x) (p := 1)).length_le
        refine hone _ τ2 (i + 1 + sk 1 r + sk 1 (r.drop (sk 1 r))) 1 a1 a2 a3 (Nat.le_trans hle (by omega)) (fun y hy => lis_lt (sft_sub.subset hy)) (by omega) (by omega) (by omega) (fun τ3 b1 b2 b3 => ?_)
        rw [← List.drop_drop, ← List.drop_drop, hr] at b2 b3
        refine hend _ τ3 _ 2 b1 b2 b3 ?_ (fun y hy => lis_lt (sft_sub.subset (sft_sub.subset hy))) (by omega) (by omega) ?_
        · have h1 : (tst (ht ((r.drop (sk 1 r)).drop (sk 1 (r.drop (sk 1 r))))) (ev n d (fun y => nm (row y)) (fun y => vl (row y)) ((r.drop (sk 1 r)).drop (sk 1 (r.drop (sk 1 r))))) (tst (ht (r.drop (sk 1 r))) (ev n d (fun y => nm (row y)) (fun y => vl (row y)) (r.drop (sk 1 r))) (lis n d (fun y => nm (row y)) (sw t) x))).length ≤ (tst (ht (r.drop (sk 1 r))) (ev n d (fun y => nm (row y)) (fun y => vl (row y)) (r.drop (sk 1 r))) (lis n d (fun y => nm (row y)) (sw t) x)).length := sft_sub.length_le
          have h2 : (tst (ht (r.drop (sk 1 r))) (ev n d (fun y => nm (row y)) (fun y => vl (row y)) (r.drop (sk 1 r))) (lis n d (fun y => nm (row y)) (sw t) x)).length ≤ (lis n d (fun y => nm (row y)) (sw t) x).length := sft_sub.length_le
          omega
        · unfold alo
          rw [if_neg (by omega), if_neg (by omega)]
  have hmod : sw t % 16 % 2 = sw t % 2 := by omega
  unfold md_step_b36
  by_cases g : sw t % 16 = 0
  · rw [wi_t (by rw [z_le0 (by omega)]; exact g)]
    exact h53 0 (by unfold trn; rw [decide_eq_false (by omega), if_neg (by decide)])
  · rw [wi_f (by rw [z_le0 (by omega)]; exact g), l_2, pk_rem (by omega) (by omega) (by omega)]
    by_cases g2 : sw t % 16 % 2 = 0
    · rw [wi_t (by rw [z_e0 (by omega)]; exact g2)]
      exact h53 1 (by unfold trn; rw [decide_eq_true (by omega), if_pos rfl])
    · rw [wi_f (by rw [z_e0 (by omega)]; exact g2)]
      exact h53 0 (by unfold trn; rw [decide_eq_false (by omega), if_neg (by decide)])
end
