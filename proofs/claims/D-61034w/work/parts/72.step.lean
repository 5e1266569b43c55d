/-! TransletDesk: tested, step -/
set_option maxRecDepth 100000
theorem lsx_els {t : Bool} {s : Int32} {x : Nat} : x ∈ lsx t s ↔ bt s x = true := by
  unfold lsx
  cases t
  · rw [if_neg (by decide), els_mem]
  · rw [if_pos rfl, List.mem_reverse, els_mem]
theorem lsx_nil {t : Bool} {s : Int32} : lsx t s = [] ↔ s = 0 := by
  unfold lsx
  cases t
  · rw [if_neg (by decide), els_nil]
  · rw [if_pos rfl, List.reverse_eq_nil_iff, els_nil]
/-- first of a list in order, or turned -/
theorem dk_pick {t : Bool} {s : Int32} {x : Nat} {r : List Nat} (h : lsx t s = x :: r) (hx : x < 24) : (if t = true then dk_highest s else dk_lowest s) = some (nI x) ∧ lsx t (s &&& (bI x ^^^ (-1))) = r := by
  unfold lsx at h ⊢
  cases t
  · rw [if_neg (by decide)] at h ⊢
    rw [if_neg (by decide)]
    exact ⟨dk_lowest_sp h, els_clr h⟩
  · rw [if_pos rfl] at h ⊢
    rw [if_pos rfl]
    have e : els s = r.reverse ++ [x] := by
      have := congrArg List.reverse h
      rw [List.reverse_reverse, List.reverse_cons] at this; exact this
    refine ⟨dk_highest_sp e hx, ?_⟩
    rw [(els_high e).2.2.2, List.reverse_reverse]
theorem lsx_len (t : Bool) (s : Int32) : (lsx t s).length = (els s).length := by
  unfold lsx
  cases t
  · rw [if_neg (by decide)]
  · rw [if_pos rfl, List.length_reverse]
section
variable {n : Nat} {d nmp : Nat → Nat} {vv : Nat → Int32} {b : Nat} {T : List Tk}
theorem dk_tested_lp {Q : Int32 × dS → Prop} {σ0 : dS} (hn : n ≤ 24) (hX : XO b T σ0) (hV : ∀ y, y < n → σ0 14 y = vv y) {f : Nat} {tr : Bool} {v3 : Int32} {len : Nat} (hf : f < T.length) (htb : ∀ x, x < n → tabx n d nmp vv T f (f + sk 1 (T.drop f)) x σ0) :
    ∀ (L : List Nat) (left S : Int32) (k : Nat) (σ : dS), lsx tr left = L → (∀ y, y ∈ L → y < n) → sm [27] σ0 σ →
      (∀ σ', sm [27] σ0 σ' → Q (S ||| mkL (sft (fun z j => hold (ht (T.drop f)) (ev n d nmp vv (T.drop f) z (nI j) (nI len)) (nI j)) (k + 1) L), σ')) →
      wq (lp dk_tested_st (34, [nI b, nI f, v3, if tr = true then 1 else 0, if ht (T.drop f) = 1 then 1 else 0, S, nI len, nI k, left], σ)) Q := by
  intro L
  induction L with
  | nil =>
    intro left S k σ hl hL hs hq
    rw [dk_tested_l34]; unfold dk_tested_b34
    rw [wi_t (lsx_nil.mp hl), wq_some, ks_r]
    have := hq σ hs
    rw [show mkL (sft _ (k + 1) []) = 0 from rfl] at this
    have e : S ||| 0 = S := by apply b_ext; intro i _; rw [b_or, b_0, Bool.or_false]
    rw [e] at this; exact this
  | cons x r ih =>
    intro left S k σ hl hL hs hq
    have hx := hL x List.mem_cons_self
    have hne : ¬ left = 0 := fun e => by rw [lsx_nil.mpr e] at hl; cases hl
    obtain ⟨p1, p2⟩ := dk_pick hl (by omega)
    have hXσ := XO_sm hX hs (by decide)
    obtain ⟨x1, x1b, x2, x3, x4, x5⟩ := id hX
    have a1 := XO_at hXσ hf
    rw [dk_tested_l34]; unfold dk_tested_b34
    rw [wi_f hne]
    -- what follows the pick
    have h57 : wq (dk_tested_b57 (nI b) (nI f) v3 (if tr = true then 1 else 0) (if ht (T.drop f) = 1 then 1 else 0) S (nI len) (nI k) left (nI x) σ) (ks dk_tested_st Q) := by
      unfold dk_tested_b57 dk_tested_b70
      rw [bI_f]
      -- the value of the test
      have h111 : ∀ σ1 : dS, sm [27] σ0 σ1 → wq (dk_tested_b111 (nI b) (nI f) v3 (if tr = true then 1 else 0) (if ht (T.drop f) = 1 then 1 else 0) S (nI len) (nI (k + 1)) (left &&& (bI x ^^^ (-1))) (nI x) (ev n d nmp vv (T.drop f) x (nI (k + 1)) (nI len)) σ1) (ks dk_tested_st Q) := by
        intro σ1 hs1
        have hyes : hold (ht (T.drop f)) (ev n d nmp vv (T.drop f) x (nI (k + 1)) (nI len)) (nI (k + 1)) = true → wq (dk_tested_b133 (nI b) (nI f) v3 (if tr = true then 1 else 0) (if ht (T.drop f) = 1 then 1 else 0) S (nI len) (nI (k + 1)) (left &&& (bI x ^^^ (-1))) (nI x) σ1) (ks dk_tested_st Q) := by
          intro hh
          unfold dk_tested_b133 dk_tested_b142
          rw [bI_f, wq_some, ks_l]
          refine ih _ _ (k + 1) σ1 p2 (fun y hy => hL y (List.mem_cons_of_mem _ hy)) hs1 (fun σ' hs' => ?_)
          have := hq σ' hs'
          rw [show sft (fun z j => hold (ht (T.drop f)) (ev n d nmp vv (T.drop f) z (nI j) (nI len)) (nI j)) (k + 1) (x :: r) = x :: sft (fun z j => hold (ht (T.drop f)) (ev n d nmp vv (T.drop f) z (nI j) (nI len)) (nI j)) (k + 1 + 1) r from if_pos hh] at this
          rw [show (S ||| bI x) ||| mkL (sft (fun z j => hold (ht (T.drop f)) (ev n d nmp vv (T.drop f) z (nI j) (nI len)) (nI j)) (k + 1 + 1) r) = S ||| mkL (x :: sft (fun z j => hold (ht (T.drop f)) (ev n d nmp vv (T.drop f) z (nI j) (nI len)) (nI j)) (k + 1 + 1) r) from by
            show _ = S ||| (bI x ||| mkL _)
            apply b_ext; intro i _; rw [b_or, b_or, b_or, b_or, Bool.or_assoc]]
          exact this
        have hno : ¬ hold (ht (T.drop f)) (ev n d nmp vv (T.drop f) x (nI (k + 1)) (nI len)) (nI (k + 1)) = true → wq (dk_tested_b142 (nI b) (nI f) v3 (if tr = true then 1 else 0) (if ht (T.drop f) = 1 then 1 else 0) S (nI len) (nI (k + 1)) (left &&& (bI x ^^^ (-1))) σ1) (ks dk_tested_st Q) := by
          intro hh
          unfold dk_tested_b142
          rw [wq_some, ks_l]
          refine ih _ _ (k + 1) σ1 p2 (fun y hy => hL y (List.mem_cons_of_mem _ hy)) hs1 (fun σ' hs' => ?_)
          have := hq σ' hs'
          rw [show sft (fun z j => hold (ht (T.drop f)) (ev n d nmp vv (T.drop f) z (nI j) (nI len)) (nI j)) (k + 1) (x :: r) = sft (fun z j => hold (ht (T.drop f)) (ev n d nmp vv (T.drop f) z (nI j) (nI len)) (nI j)) (k + 1 + 1) r from if_neg hh] at this
          exact this
        unfold hold at hyes hno
        unfold dk_tested_b111
        by_cases g1 : ht (T.drop f) = 1
        · simp only [g1, if_true] at hyes hno ⊢
          rw [wi_f (by decide)]
          by_cases g2 : ev n d nmp vv (T.drop f) x (nI (k + 1)) (nI len) = nI (k + 1)
          · rw [wi_t g2]; exact hyes (decide_eq_true g2)
          · rw [wi_f g2]; exact hno (fun e => g2 (of_decide_eq_true e))
        · simp only [g1, if_false] at hyes hno ⊢
          rw [wi_t trivial]
          by_cases g2 : ev n d nmp vv (T.drop f) x (nI (k + 1)) (nI len) = 0
          · rw [wi_t g2]; exact hno (fun e => (of_decide_eq_true e) g2)
          · rw [wi_f g2]; exact hyes (decide_eq_true g2)
      rw [nI_add, wc_n (by omega) (by omega), z_cl (by omega), a1.2.2, n1_add]
      by_cases hl : loc (T.drop f) = true
      · rw [if_pos hl, wi_f (by decide), wq_bind]
        refine dk_later_sp (d := d) (nmp := nmp) (vv := vv) hn hXσ (fun y hy => by rw [hs 14 (by decide)]; exact hV y hy) hx hf (fun i h1 h2 h3 => by rw [hs 23 (by decide)]; exact htb x hx i h1 h2 h3) (fun σ' hs' => ?_)
        exact h111 σ' (sm_tr hs hs')
      · have hlf : loc (T.drop f) = false := by cases h : loc (T.drop f) with | true => exact absurd h hl | false => rfl
        obtain ⟨tk, rk, hdk⟩ := drop_ex hf
        have htab := htb x hx f (Nat.le_refl _) (by rw [hdk, sk_s]; omega) hlf
        rw [if_neg hl, wi_t rfl, l_24, pk_mul, nI_add, wc_n (by omega) (by omega), z_cl (by omega), hs 23 (by decide), htab, ← ev_11 hlf x (nI (k + 1)) (nI len)]
        exact h111 σ hs
    cases tr
    · rw [if_neg (by decide)] at p1
      rw [wi_t (show (if false = true then (1 : Int32) else 0) = 0 from rfl), p1, wq_bind, wq_some]
      exact h57
    · rw [if_pos rfl] at p1
      rw [wi_f (by decide), p1, wq_bind, wq_some]
      exact h57
theorem dk_tested_sp {Q : Int32 × dS → Prop} {σ : dS} (hn : n ≤ 24) (hX : XO b T σ) (hV : ∀ y, y < n → σ 14 y = vv y) {f : Nat} {tr : Bool} {set_ v4 : Int32} (hf : f < T.length) (ht_ : ∀ x, x < n → tabx n d nmp vv T f (f + sk 1 (T.drop f)) x σ) (hset : bw n set_) (hv4 : v4 = if tr = true then 1 else 0)
    (hq : ∀ σ', sm [27] σ σ' → Q (mkL (tst (ht (T.drop f)) (ev n d nmp vv (T.drop f)) (lsx tr set_)), σ')) : wq (dk_tested (nI b) (nI f) set_ v4 σ) Q := by
  obtain ⟨x1, x1b, x2, x3, x4, x5⟩ := id hX
  have a1 := XO_at hX hf
  have htl := tyk_lt (hk (T.drop f))
  have hm : ∀ y, y ∈ lsx tr set_ → y < n := fun y hy => bw_lt hset (lsx_els.mp hy)
  have key : wq (dk_tested_b17 (nI b) (nI f) set_ v4 (if ht (T.drop f) = 1 then 1 else 0) σ) (ks dk_tested_st Q) := by
    unfold dk_tested_b17 dk_tested_b26
    rw [dk_bits_sp, wq_bind, wq_some, wq_some, ks_l, ← lsx_len tr, hv4, show (0 : Int32) = nI 0 from nI_0.symm]
    have := dk_tested_lp (Q := Q) (v3 := set_) (tr := tr) (len := (lsx tr set_).length) hn hX hV hf ht_ (lsx tr set_) set_ 0 0 σ rfl hm sm_rf (fun σ' hs' => ?_)
    · rw [nI_0] at this ⊢; exact this
    · have h := hq σ' hs'
      have e : ∀ z : Int32, 0 ||| z = z := fun z => by apply b_ext; intro i _; rw [b_or, b_0, Bool.false_or]
      rw [e]; exact h
  unfold dk_tested dk_tested_b0
  rw [wq_lpB, nI_add, wc_n (by omega) (by omega), z_cl (by omega), a1.1]
  by_cases g : ht (T.drop f) = 1
  · rw [if_pos g] at key
    rw [wi_t (by rw [g]; rfl)]; exact key
  · rw [if_neg g] at key
    rw [wi_f (by rw [n1_eq (by unfold ht; omega)]; exact g)]; exact key
end
