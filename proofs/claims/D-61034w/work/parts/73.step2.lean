/-! TransletDesk: step, fill -/
set_option maxRecDepth 100000
section
variable {n : Nat} {row d nm : Nat → Nat} {vl : Nat → Int32} {b : Nat} {T : List Tk}
/-- what tokens from lo on give, at all places -/
def tabA (n : Nat) (d nmp : Nat → Nat) (vv : Nat → Int32) (T : List Tk) (lo : Nat) (σ : dS) : Prop := ∀ x, x < n → tabx n d nmp vv T lo T.length x σ
theorem tabA_x {nmp : Nat → Nat} {vv : Nat → Int32} {lo f : Nat} {σ : dS} (h : tabA n d nmp vv T lo σ) (hf : lo ≤ f) : ∀ x, x < n → tabx n d nmp vv T f (f + sk 1 (T.drop f)) x σ := by
  intro x hx i h1 h2 h3
  refine h x hx i (by omega) ?_ h3
  have := sk_le (T.drop f) 1
  rw [List.length_drop] at this
  rcases Nat.lt_or_ge i T.length with g | g
  · exact g
  · omega
/-- what a class keeps that counts and has values -/
def VX (n : Nat) (row d nm : Nat → Nat) (vl : Nat → Int32) (σ : dS) : Prop := WT n row d ∧ CT n row d nm vl σ ∧ σ 6 0 = nI n
theorem CT_sm {σ σ' : dS} {l : List Nat} (h : CT n row d nm vl σ) (hs : sm l σ σ') (hl : ∀ i, i ∈ l → i < 7 ∨ 14 < i) : CT n row d nm vl σ' := by
  have k : ∀ i, 7 ≤ i → i ≤ 14 → σ' i = σ i := fun i a b => hs i (fun g => by have := hl i g; omega)
  unfold CT CTk at *
  rw [k 7 (by omega) (by omega), k 8 (by omega) (by omega), k 9 (by omega) (by omega), k 10 (by omega) (by omega), k 11 (by omega) (by omega), k 12 (by omega) (by omega), k 13 (by omega) (by omega), k 14 (by omega) (by omega)]
  exact h
theorem VX_sm {σ σ' : dS} {l : List Nat} (h : VX n row d nm vl σ) (hs : sm l σ σ') (hl : ∀ i, i ∈ l → i < 6 ∨ 14 < i) : VX n row d nm vl σ' := by
  refine ⟨h.1, CT_sm h.2.1 hs (fun i g => by have := hl i g; omega), ?_⟩
  rw [hs 6 (fun g => by have := hl 6 g; omega)]; exact h.2.2
theorem VX_v {σ : dS} (h : VX n row d nm vl σ) : ∀ y, y < n → σ 14 y = vl (row y) := fun y hy => (h.2.1.1 y hy).2.2.2.2.2.2
theorem sel_lsx {w x : Nat} {s : Int32} (hn : n ≤ 24) (h : ∀ y, bt s y = (decide (y < n) && sel n d (fun y => nm (row y)) w x y)) : lsx (trn w) s = lis n d (fun y => nm (row y)) w x := by
  have e : els s = ft (sel n d (fun y => nm (row y)) w x) 0 n := by
    refine pw_ext els_pw ft_pw (fun a => ?_)
    rw [els_mem, ft_mem, h a, Bool.and_eq_true, decide_eq_true_eq]
    constructor
    · rintro ⟨g1, g2⟩; exact ⟨Nat.zero_le _, by omega, g2⟩
    · rintro ⟨_, g1, g2⟩; exact ⟨by omega, g2⟩
  unfold lsx lis
  rw [e]
/-- the tests of a step, from one place -/
theorem dk_step_lp67 {Q : Int32 × dS → Prop} {σ0 : dS} (hV : VX n row d nm vl σ0) (hX : XO b T σ0) {i x : Nat} {t : Tk} {r : List Tk} (hx : x < n) (hd : T.drop i = t :: r) (hk : t.1 = 2) (hf : fl (ar t) r) (htab : tabA n d (fun y => nm (row y)) (fun y => vl (row y)) T (i + 1) σ0)
    (hq : ∀ σ', sm [26, 27] σ0 σ' → σ' 26 = upd (σ0 26) x (mkL (alo n d (fun y => nm (row y)) (sw t) (ht (r.drop (sk 1 r))) (ev n d (fun y => nm (row y)) (fun y => vl (row y)) (r.drop (sk 1 r))) (ht ((r.drop (sk 1 r)).drop (sk 1 (r.drop (sk 1 r))))) (ev n d (fun y => nm (row y)) (fun y => vl (row y)) ((r.drop (sk 1 r)).drop (sk 1 (r.drop (sk 1 r))))) x)) → wq (lp dk_step_st (17, [nI b, nI i, t.2, nI (i + 1), nI (x + 1)], σ')) Q) :
    wq (lp dk_step_st (17, [nI b, nI i, t.2, nI (i + 1), nI x], σ0)) Q := by
  have hn24 := hV.1.1.1
  obtain ⟨x1, x1b, x2, x3, x4, x5⟩ := id hX
  have hi := drop_lt hd
  have hr := drop_next hd
  have hot := x2 t (drop_mem hd)
  obtain ⟨w1, w2, w3, w4⟩ := sw_eq hot hk
  have har : ar t = 1 + sw t / 128 := by unfold ar; rw [if_pos hk]
  have hrl : r.length = T.length - (i + 1) := by rw [← hr, List.length_drop]
  have hl1 := fl_lt r 0 (fl_mono _ _ 1 hf (by omega))
  rw [sk_0] at hl1
  have a1 := XO_at hX (i := i + 1) (by omega)
  rw [hr] at a1
  obtain ⟨rx, hrx, hbx⟩ := dk_axis_sp hV.1 hV.2.1 hV.2.2 w3 hx
  have hnamed := hV.2.1.2 (sw t / 16 % 8) (by omega)
  have hset : ∀ y, bt (rx &&& σ0 13 (sw t / 16 % 8)) y = (decide (y < n) && sel n d (fun y => nm (row y)) (sw t) x y) := by
    intro y
    rw [b_and, hbx y, hnamed y]
    unfold sel
    rw [Bool.eq_iff_iff, Bool.and_eq_true, Bool.and_eq_true, Bool.and_eq_true, Bool.and_eq_true, Bool.or_eq_true, decide_eq_true_eq, decide_eq_true_eq, decide_eq_true_eq, decide_eq_true_eq]
    constructor
    · rintro ⟨⟨g1, g2⟩, g3, g4⟩; exact ⟨g1, g2, g4⟩
    · rintro ⟨g1, g2, g4⟩; exact ⟨⟨g1, g2⟩, g1, g4⟩
  have hbw : bw n (rx &&& σ0 13 (sw t / 16 % 8)) := fun y hy => by rw [hset y, decide_eq_false (by omega), Bool.false_and]
  have hls := sel_lsx (row := row) (nm := nm) hn24 hset
  -- the end: along[x]
  have hend : ∀ (S test : Int32) (σ' : dS), sm [27] σ0 σ' → S = mkL (alo n d (fun y => nm (row y)) (sw t) (ht (r.drop (sk 1 r))) (ev n d (fun y => nm (row y)) (fun y => vl (row y)) (r.drop (sk 1 r))) (ht ((r.drop (sk 1 r)).drop (sk 1 (r.drop (sk 1 r))))) (ev n d (fun y => nm (row y)) (fun y => vl (row y)) ((r.drop (sk 1 r)).drop (sk 1 (r.drop (sk 1 r))))) x) → wq (lp dk_step_st (67, [nI b, nI i, t.2, nI (i + 1), nI x, S, test, nI 0], σ')) Q := by
    intro S test σ' hs hS
    rw [dk_step_l67]; unfold dk_step_b67
    rw [wi_t (by rw [nI_0]; exact Int32.le_refl 0), wc_n (by omega) (by omega), wq_some, ks_l, z_cl (by omega), n1_add]
    refine hq _ (sm_up (by decide) (sm_sub hs (by decide))) ?_
    rw [up2_s, hs 26 (by decide), hS]
  -- one test
  have hone : ∀ (S : Int32) (f k : Nat) (σ' : dS), sm [27] σ0 σ' → f < T.length → i + 1 ≤ f → bw n S → k < 3 → (∀ σ'', sm [27] σ0 σ'' → wq (lp dk_step_st (67, [nI b, nI i, t.2, nI (i + 1), nI x, mkL (tst (ht (T.drop f)) (ev n d (fun y => nm (row y)) (fun y => vl (row y)) (T.drop f)) (lsx (trn (sw t)) S)), nI (f + sk 1 (T.drop f)), nI k], σ'')) Q) → wq (lp dk_step_st (67, [nI b, nI i, t.2, nI (i + 1), nI x, S, nI f, nI (k + 1)], σ')) Q := by
    intro S f k σ' hs hf1 hf2 hS hk3 h
    rw [dk_step_l67]; unfold dk_step_b67
    rw [wi_f (by rw [z_le0 (by omega)]; omega)]
    have h96 : ∀ v : Int32, v = (if trn (sw t) = true then 1 else 0) → wq (dk_step_b96 (nI b) (nI i) t.2 (nI (i + 1)) (nI x) S (nI f) (nI (k + 1)) v S (nI f) (nI b) σ') (ks dk_step_st Q) := by
      intro v hv
      unfold dk_step_b96
      rw [wq_bind]
      refine dk_tested_sp (tr := trn (sw t)) (d := d) (nmp := fun y => nm (row y)) (vv := fun y => vl (row y)) hn24 (XO_sm hX hs (by decide)) (VX_v (VX_sm hV hs (by decide))) hf1 ?_ hS hv (fun σ'' hs2 => ?_)
      · intro y hy j h1 h2 h3
        rw [hs 23 (by decide)]
        exact tabA_x htab hf2 y hy j h1 h2 h3
      · unfold dk_step_b99
        have hs3 := sm_tr hs hs2
        have a2 := XO_at (XO_sm hX hs3 (by decide)) hf1
        dsimp only
        rw [nI_add, wc_n (by omega) (by omega), z_cl (by omega), a2.2.1, wq_some, ks_l, pk_m1]
        exact h σ'' hs3
    have hpar : (t.2 &&& (1 : Int32)) = nI (sw t % 2) := by
      rw [w1]
      have := pk_andN (n := sw t) (by omega) (m := 1) 1 (by decide)
      exact this
    have h15 : (t.2 &&& (15 : Int32)) = nI (sw t % 16) := by
      rw [w1, l_15, an15 (by omega)]
    rw [hpar, h15]
    unfold dk_step_b95
    have hmod : sw t % 16 % 2 = sw t % 2 := by omega
    by_cases g1 : sw t % 2 = 0
    · rw [wi_t (by rw [z_e0 (by omega)]; exact g1)]
      by_cases g2 : sw t % 16 = 0
      · rw [wi_t (by rw [z_le0 (by omega)]; exact g2)]
        exact h96 0 (by unfold trn; rw [decide_eq_false (by omega), if_neg (by decide)])
      · rw [wi_f (by rw [z_le0 (by omega)]; exact g2)]
        exact h96 1 (by unfold trn; rw [decide_eq_true (by omega), if_pos rfl])
    · rw [wi_f (by rw [z_e0 (by omega)]; exact g1)]
      exact h96 0 (by unfold trn; rw [decide_eq_false (by omega), if_neg (by decide)])
  -- the start
  rw [dk_step_l17]; unfold dk_step_b17
  have h15 : (t.2 &&& (15 : Int32)) = nI (sw t % 16) := by
    rw [w1, l_15, an15 (by omega)]
  have h47 : ((t.2 >>> ((4 : Int32) &&& 31)) &&& (7 : Int32)) = nI (sw t / 16 % 8) := by
    rw [w1, l_4, sh4 (by omega), l_7, an7 (by omega)]
  have h7 : (t.2 >>> ((7 : Int32) &&& 31)) = nI (sw t / 128) := by
    rw [w1, l_7, sh7 (by omega)]
  rw [hV.2.2, wi_f (by rw [z_le (by omega) (by omega)]; omega), h15, hrx, wq_bind, wq_some]
  unfold dk_step_b36 dk_step_b50 dk_step_b61
  dsimp only
  rw [h47, wc_n (by omega) (by omega), z_cl (by omega), nI_add, wc_n (by omega) (by omega), z_cl (by omega), a1.2.1, h7, wq_some, ks_l]
  -- by the number of tests
  have hc : sw t / 128 = 0 ∨ sw t / 128 = 1 ∨ sw t / 128 = 2 := by omega
  rcases hc with c | c | c
  · rw [c]
    refine hend _ _ σ0 sm_rf ?_
    unfold alo
    rw [if_pos c, ← hls]
    have e : mkL (lsx (trn (sw t)) (rx &&& σ0 13 (sw t / 16 % 8))) = rx &&& σ0 13 (sw t / 16 % 8) := by
      unfold lsx
      by_cases g : trn (sw t) = true
      · rw [if_pos g]
        apply b_ext
        intro y hy
        rw [mkL_bt (fun a ha => by have := ft_mem.mp (List.mem_reverse.mp ha); omega)]
        rw [Bool.eq_iff_iff, decide_eq_true_eq, List.mem_reverse, els_mem]
      · rw [if_neg g, els_mkL]
    exact e.symm
  · rw [c]
    have hl2 := fl_lt r 1 (fl_mono _ _ 2 hf (by omega))
    refine hone _ (i + 1 + sk 1 r) 0 σ0 sm_rf (by omega) (by omega) hbw (by omega) (fun σ'' hs => hend _ _ σ'' hs ?_)
    rw [← List.drop_drop, hr, hls]
    unfold alo
    rw [if_neg (by omega), if_pos c]
  · rw [c]
    have hl2 := fl_lt r 1 (fl_mono _ _ 2 hf (by omega))
    have hl3 := fl_lt r 2 (fl_mono _ _ 3 hf (by omega))
    have e2 : sk 2 r = sk 1 r + sk 1 (r.drop (sk 1 r)) := sk_add 1 r 1
    refine hone _ (i + 1 + sk 1 r) 1 σ0 sm_rf (by omega) (by omega) hbw (by omega) (fun σ'' hs => ?_)
    rw [← List.drop_drop, hr, hls]
    refine hone _ (i + 1 + sk 1 r + sk 1 (r.drop (sk 1 r))) 0 σ'' hs (by omega) (by omega) (bw_mkL (by omega) (fun a ha => lis_lt (sft_sub.subset ha))) (by omega) (fun σ3 hs3 => hend _ _ σ3 hs3 ?_)
    rw [← List.drop_drop, ← List.drop_drop, hr]
    have e3 : lsx (trn (sw t)) (mkL (tst (ht (r.drop (sk 1 r))) (ev n d (fun y => nm (row y)) (fun y => vl (row y)) (r.drop (sk 1 r))) (lis n d (fun y => nm (row y)) (sw t) x))) = tst (ht (r.drop (sk 1 r))) (ev n d (fun y => nm (row y)) (fun y => vl (row y)) (r.drop (sk 1 r))) (lis n d (fun y => nm (row y)) (sw t) x) := by
      refine lsx_mk (x := rx &&& σ0 13 (sw t / 16 % 8)) ?_
      rw [hls]; exact sft_sub
    rw [e3]
    unfold alo
    rw [if_neg (by omega), if_neg (by omega)]
end
