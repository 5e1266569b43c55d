/-! a transformation: TransletDesk -/
set_option maxRecDepth 100000
/-- the run: rounds left, the stack, the outputs -/
def TF (P : Nat → Int32) (W : Nat → List Int32) : Nat → List (Nat × Nat) → List Int32 → Option (List Int32)
  | 0, [], o => some o
  | _ + 1, [], o => some o
  | 0, _ :: _, _ => none
  | f + 1, q :: st, o => if q.2 ≤ 11 then TF P W f ((els (P q.1)).map (fun z => (z, q.2 + 1)) ++ st) (o ++ W q.1) else none
theorem TF_nil (P : Nat → Int32) (W : Nat → List Int32) (f : Nat) (o : List Int32) : TF P W f [] o = some o := by cases f <;> rfl
theorem TF_0 (P : Nat → Int32) (W : Nat → List Int32) (q : Nat × Nat) (st : List (Nat × Nat)) (o : List Int32) : TF P W 0 (q :: st) o = none := rfl
theorem TF_y (P : Nat → Int32) (W : Nat → List Int32) (f x k : Nat) (st : List (Nat × Nat)) (o : List Int32) (h : k ≤ 11) : TF P W (f + 1) ((x, k) :: st) o = TF P W f ((els (P x)).map (fun z => (z, k + 1)) ++ st) (o ++ W x) := if_pos h
theorem TF_n (P : Nat → Int32) (W : Nat → List Int32) (f x k : Nat) (st : List (Nat × Nat)) (o : List Int32) (h : ¬ k ≤ 11) : TF P W (f + 1) ((x, k) :: st) o = none := if_neg h
/-- a stack of places and depths, held in two rows -/
def SK (n : Nat) (g : Nat → Nat) (a b : Nat → Int32) : List (Nat × Nat) → Prop
  | [] => True
  | q :: st => q.1 < n ∧ q.2 ≤ 12 ∧ a st.length = nI (g q.1) ∧ b st.length = nI q.2 ∧ SK n g a b st
theorem SK_cong {n : Nat} {g : Nat → Nat} {a b a' b' : Nat → Int32} : ∀ {st : List (Nat × Nat)}, SK n g a b st → (∀ j, j < st.length → a' j = a j) → (∀ j, j < st.length → b' j = b j) → SK n g a' b' st := by
  intro st
  induction st with
  | nil => intro _ _ _; exact trivial
  | cons q st ih =>
    intro h h1 h2
    obtain ⟨k1, k2, k3, k4, k5⟩ := h
    have hl : (q :: st).length = st.length + 1 := rfl
    exact ⟨k1, k2, by rw [h1 _ (by omega)]; exact k3, by rw [h2 _ (by omega)]; exact k4, ih k5 (fun j hj => h1 j (by omega)) (fun j hj => h2 j (by omega))⟩
theorem SK_push {n : Nat} {g : Nat → Nat} {a b : Nat → Int32} {st : List (Nat × Nat)} {x k : Nat} (h : SK n g a b st) (hx : x < n) (hk2 : k ≤ 12) : SK n g (upd a st.length (nI (g x))) (upd b st.length (nI k)) ((x, k) :: st) :=
  ⟨hx, hk2, u_e, u_e, SK_cong h (fun j hj => u_n (by omega)) (fun j hj => u_n (by omega))⟩
theorem els_len {n : Nat} {x : Int32} (h : bw n x) (hn : n ≤ 32) : (els x).length ≤ n := by rw [els_ft h hn]; exact ft_len _ _
def tfP (n : Nat) (row d nm : Nat → Nat) (vl : Nat → Int32) (X : Nat → List Tk) (A : TA) (B : Nat → Option Nat) (x : Nat) : Int32 := match B x with
  | none => chm n d x
  | some t => (match A t with
    | none => 0
    | some q => selw n row d nm vl X q.2.2.2 x)
def tfW (n : Nat) (row d nm : Nat → Nat) (vl : Nat → Int32) (X : Nat → List Tk) (A : TA) (B : Nat → Option Nat) (x : Nat) : List Int32 := match B x with
  | none => []
  | some t => (match A t with
    | none => []
    | some q => outw n row d nm vl X q.2.2.1 x)
noncomputable def bB (n : Nat) (row d nm : Nat → Nat) (vl : Nat → Int32) (X : Nat → List Tk) (A : TA) (x : Nat) : Option Nat := bst (fun t => mt n row d nm vl X A t x) (prr A) 6
section
variable {n : Nat} {row d nm : Nat → Nat} {vl : Nat → Int32} {X : Nat → List Tk} {A : TA} {σ τ : dS}
theorem tf_n {B : Nat → Option Nat} {x : Nat} (e : B x = none) : tfP n row d nm vl X A B x = chm n d x ∧ tfW n row d nm vl X A B x = [] := by
  unfold tfP tfW
  rw [e]; exact ⟨rfl, rfl⟩
theorem tf_s {B : Nat → Option Nat} {x t m : Nat} {p o w : Int32} (e : B x = some t) (hA : A t = some (m, p, o, w)) : tfP n row d nm vl X A B x = selw n row d nm vl X w x ∧ tfW n row d nm vl X A B x = outw n row d nm vl X o x := by
  unfold tfP tfW
  rw [e]
  dsimp only
  rw [hA]; exact ⟨rfl, rfl⟩
theorem bB_s {x t : Nat} (e : bB n row d nm vl X A x = some t) : t < 6 ∧ ∃ m p o w, A t = some (m, p, o, w) := by
  obtain ⟨b1, b2⟩ := bst_lt e
  obtain ⟨q, hq, _⟩ := b2
  exact ⟨b1, q.1, q.2.1, q.2.2.1, q.2.2.2, hq⟩
theorem chm_bw (hn : n ≤ 32) (x : Nat) : bw n (chm n d x) := fun i hi => by rw [chm_bt hn]; exact decide_eq_false (by omega)
theorem selw_bw (hX : ∀ s, s < 8 → X s ≠ [] → wfs (X s) 1) (hn : n ≤ 32) {w : Int32} (hw : sl w) {x : Nat} (hx : x < n) : bw n (selw n row d nm vl X w x) := by
  unfold selw
  rcases hw with rfl | ⟨s, hs8, rfl⟩
  · rw [if_pos (by decide)]; exact bw_0
  · rw [if_neg (by rw [z_lt0 (by omega)]; simp), z_cl (by omega)]
    by_cases g : X s ≠ [] ∧ ht (X s) = 0
    · rw [if_pos g]
      exact ev_bw hn _ _ (Nat.le_refl _) ⟨1, hX s hs8 g.1⟩ g.1 g.2 x 1 1 hx
    · rw [if_neg g]; exact bw_0
theorem tfP_bw (hX : ∀ s, s < 8 → X s ≠ [] → wfs (X s) 1) (hT : TR A σ τ) (hn : n ≤ 32) {x : Nat} (hx : x < n) : bw n (tfP n row d nm vl X A (bB n row d nm vl X A) x) := by
  cases e : bB n row d nm vl X A x with
  | none => rw [(tf_n e).1]; exact chm_bw hn x
  | some t =>
    obtain ⟨t6, m, p, o, w, hA⟩ := bB_s e
    rw [(tf_s e hA).1]
    exact selw_bw hX hn ((hT t t6).2 m p o w hA).2.2.2.2.2.2.2.2.2.2.2 hx
theorem outw_len {o : Int32} {x : Nat} : (outw n row d nm vl X o x).length ≤ 1 := by
  unfold outw
  by_cases g : o < 0
  · rw [if_pos g]; exact Nat.zero_le _
  · rw [if_neg g]
    by_cases g2 : X o.toNatClampNeg = []
    · rw [if_pos g2]; exact Nat.zero_le _
    · rw [if_neg g2]; exact Nat.le_refl _
theorem tfW_len {B : Nat → Option Nat} {x : Nat} : (tfW n row d nm vl X A B x).length ≤ 1 := by
  unfold tfW
  cases B x with
  | none => exact Nat.zero_le _
  | some t =>
    dsimp only
    cases A t with
    | none => exact Nat.zero_le _
    | some q => exact outw_len
theorem dk_tr_lp128 {Q : Int32 × dS → Prop} {σ0 : dS} (v1 v4 v6 : Int32) {h k : Nat} {fin : List (Nat × Nat)} (hn : n ≤ 24) (hk2 : k ≤ 11) (hq : ∀ σ, sm [35, 36] σ0 σ → SK n id (σ 35) (σ 36) fin → wq (lp dk_transform_st (42, [v1, nI h, nI fin.length], σ)) Q) :
    ∀ (R : List Nat) (s : Int32) (st : List (Nat × Nat)) (σ : dS), els s = R.reverse → (∀ x, x ∈ R → x < n) → R.length + st.length ≤ 2500 → fin = R.reverse.map (fun z => (z, k + 1)) ++ st → sm [35, 36] σ0 σ → SK n id (σ 35) (σ 36) st → wq (lp dk_transform_st (128, [v1, nI h, nI st.length, v4, nI k, v6, s], σ)) Q := by
  intro R
  induction R with
  | nil =>
    intro s st σ hs hR hl hf hm hK
    rw [dk_transform_l128]
    unfold dk_transform_b128
    have : s = 0 := els_nil.mp hs
    rw [wi_t this, wq_some, ks_l]
    have e : fin = st := hf
    subst e
    exact hq σ hm hK
  | cons l r ih =>
    intro s st σ hs hR hl hf hm hK
    rw [List.reverse_cons] at hs
    have sn : ¬ s = 0 := fun e => by
      rw [e, els_0] at hs
      have := congrArg List.length hs
      rw [List.length_append] at this
      simp at this
    have hl0 := hR l (List.mem_cons_self ..)
    have hlen : (l :: r).length = r.length + 1 := rfl
    have hst : st.length < 2500 := by omega
    rw [dk_transform_l128]
    unfold dk_transform_b128
    rw [wi_f sn, dk_highest_sp hs (by omega), wq_bind, wq_some]
    unfold dk_transform_b138 dk_transform_b151
    rw [wc_n hst (by omega), z_cl (by omega), z_b (by omega), z_nb (by omega)]
    unfold dk_transform_b160
    rw [wc_n hst (by omega), z_cl (by omega), n1_add, n1_add, z_b (by omega), z_nb (by omega), wq_some, ks_l, bI_f]
    have := ih (s &&& (bI l ^^^ (-1))) ((l, k + 1) :: st) (up2 (up2 σ 35 st.length (nI l)) 36 st.length (nI (k + 1))) (els_high hs).2.2.2 (fun x hx => hR x (List.mem_cons_of_mem _ hx)) (by rw [List.length_cons]; omega) (by rw [hf, List.reverse_cons, List.map_append, List.append_assoc]; rfl) (sm_up (by decide) (sm_up (by decide) hm)) (by rw [up2_s, up2_n (show (36 : Nat) ≠ 35 by decide), up2_n (show (35 : Nat) ≠ 36 by decide), up2_s]; exact SK_push hK hl0 (by omega))
    exact this
abbrev TD : List Nat := [7, 8, 9, 10, 11, 12, 13, 14, 15, 23, 24, 25, 26, 27, 32, 33, 34, 35, 36, 37, 38]
def TQ (T : Option (List Int32)) (v : Int32) (c f : Nat → Int32) : Prop := match T with
  | none => v = -3 ∧ c 0 = 0
  | some O => O.length ≤ 100 ∧ v = nI O.length ∧ OL O c f
theorem wfs_X (hD : DK n row d nm vl X σ) : ∀ s, s < 8 → X s ≠ [] → wfs (X s) 1 := fun s hs hne => ((hD.2.2.2.1 s hs).2.2 hne).2.2.2.1
theorem dk_tr_lp42 {σ0 : dS} (v1 : Int32) : ∀ (f h : Nat) (st : List (Nat × Nat)) (O : List Int32) (σ : dS), h + f = 100 → KJ n row d nm vl X A τ σ → sm TD σ0 σ → SK n id (σ 35) (σ 36) st → st.length ≤ 1 + 23 * h → O.length ≤ h → OL O (σ 38) (σ 37) →
    wq (lp dk_transform_st (42, [v1, nI h, nI st.length], σ)) (fun r => KJ n row d nm vl X A τ r.2 ∧ sm TD σ0 r.2 ∧ TQ (TF (tfP n row d nm vl X A (bB n row d nm vl X A)) (tfW n row d nm vl X A (bB n row d nm vl X A)) f st O) r.1 (r.2 38) (r.2 37)) := by
  intro f
  induction f with
  | zero =>
    intro h st O σ hf hJ hs hK hl hO1 hO
    rw [dk_transform_l42]
    unfold dk_transform_b42
    cases st with
    | nil =>
      rw [wi_t (show nI ([] : List (Nat × Nat)).length ≤ 0 by decide), wq_some, ks_r, TF_nil]
      exact ⟨hJ, hs, by omega, hO.1, hO⟩
    | cons q st =>
      obtain ⟨k1, k2, k3, k4, k5⟩ := hK
      have hlen : (q :: st).length = st.length + 1 := rfl
      rw [hlen, wi_f (by rw [z_le0 (by omega)]; omega), z_m1 (by omega), show st.length + 1 - 1 = st.length from rfl, wc_n (by omega) (by omega)]
      unfold dk_transform_b57
      rw [wc_n (by omega) (by omega)]
      unfold dk_transform_b65
      rw [n1_add, wi_t (by rw [l_100, z_lt (by omega) (by omega)]; omega)]
      unfold dk_transform_b81 dk_transform_b86
      rw [wq_some, ks_r, TF_0]
      have s1 : sm [38] σ (up2 σ 38 0 0) := sm_up (by decide) sm_rf
      exact ⟨KJ_sm hJ s1 (by decide), sm_tr hs (sm_sub s1 (by decide)), rfl, by dsimp only; rw [up2_s, u_e]⟩
  | succ f ih =>
    intro h st O σ hf hJ hs hK hl hO1 hO
    have hn := hJ.1.1.1.1
    rw [dk_transform_l42]
    unfold dk_transform_b42
    cases st with
    | nil =>
      rw [wi_t (show nI ([] : List (Nat × Nat)).length ≤ 0 by decide), wq_some, ks_r, TF_nil]
      exact ⟨hJ, hs, by omega, hO.1, hO⟩
    | cons q st =>
      obtain ⟨x, k⟩ := q
      obtain ⟨k1, k2, k3, k4, k5⟩ := hK
      have k3' : σ 35 st.length = nI x := k3
      have k4' : σ 36 st.length = nI k := k4
      have hx : x < n := k1
      have hk12 : k ≤ 12 := k2
      have hlen : ((x, k) :: st).length = st.length + 1 := rfl
      rw [hlen, wi_f (by rw [z_le0 (by omega)]; omega), z_m1 (by omega), show st.length + 1 - 1 = st.length from rfl, wc_n (by omega) (by omega), z_cl (by omega), k3']
      unfold dk_transform_b57
      rw [wc_n (by omega) (by omega), z_cl (by omega), k4']
      unfold dk_transform_b65
      rw [n1_add, wi_f (by rw [l_100, z_lt (by omega) (by omega)]; omega)]
      by_cases hk11 : k ≤ 11
      · have hPb := tfP_bw (row := row) (d := d) (nm := nm) (vl := vl) (wfs_X hJ.1) hJ.2.1 (by omega : n ≤ 32) hx
        have hPl := els_len hPb (by omega)
        have go : ∀ (P : Int32) (W : List Int32) (σ' : dS), P = tfP n row d nm vl X A (bB n row d nm vl X A) x → W = tfW n row d nm vl X A (bB n row d nm vl X A) x → KJ n row d nm vl X A τ σ' → sm TD σ0 σ' → SK n id (σ' 35) (σ' 36) st → OL (O ++ W) (σ' 38) (σ' 37) → wq (dk_transform_b122 v1 (nI (h + 1)) (nI st.length) (nI x) (nI k) P σ') (ks dk_transform_st (fun r => KJ n row d nm vl X A τ r.2 ∧ sm TD σ0 r.2 ∧ TQ (TF (tfP n row d nm vl X A (bB n row d nm vl X A)) (tfW n row d nm vl X A (bB n row d nm vl X A)) (f + 1) ((x, k) :: st) O) r.1 (r.2 38) (r.2 37))) := by
          intro P W σ' hP hW g1 g2 g3 g4
          unfold dk_transform_b122
          rw [wq_some, ks_l, TF_y _ _ _ _ _ _ _ hk11, ← hP, ← hW]
          have hWl : W.length ≤ 1 := by rw [hW]; exact tfW_len
          rw [← hP] at hPb hPl
          refine dk_tr_lp128 (n := n) (σ0 := σ') v1 (nI x) P hn hk11 (fun σ2 e1 e2 => ?_) (els P).reverse P st σ' (by rw [List.reverse_reverse]) (fun z hz => bw_els hPb (List.mem_reverse.mp hz)) (by rw [List.length_reverse]; omega) (by rw [List.reverse_reverse]) sm_rf g3
          refine ih (h + 1) _ (O ++ W) σ2 (by omega) (KJ_sm g1 e1 (by decide)) (sm_tr g2 (sm_sub e1 (by decide))) e2 ?_ ?_ ?_
          · rw [List.length_append, List.length_map]; omega
          · rw [List.length_append]; omega
          · rw [e1 38 (by decide), e1 37 (by decide)]; exact g4
        rw [wi_t (by rw [l_11, z_le (by omega) (by omega)]; exact hk11), wc_n (by omega) (by omega), z_cl (by omega), hJ.2.2.2.2.2.2 x hx]
        cases e : bst (fun t => mt n row d nm vl X A t x) (prr A) 6 with
        | none =>
          have e' : bB n row d nm vl X A x = none := e
          rw [wi_f (show ¬ 0 ≤ bv none by decide), wc_n (by omega) (by omega)]
          refine go _ [] σ ?_ (tf_n e').2.symm hJ hs k5 (by rw [List.append_nil]; exact hO)
          rw [(tf_n e').1]
          refine b_ext (fun i _ => ?_)
          rw [chm_bt (by omega), (hJ.2.2.2.2.1.1 x hx).2.2.2.2.1]
        | some t =>
          have e' : bB n row d nm vl X A x = some t := e
          obtain ⟨t6, m, p, o, w, hA⟩ := bB_s e'
          have eb : bv (some t) = nI t := rfl
          rw [eb, wi_t (by rw [z_ge0 (by omega)]; trivial), wc_n (by omega) (by omega), wq_bind]
          refine dk_apply_sp hJ t6 hx hA hO (by omega) (fun r a1 a2 a3 a4 => ?_)
          rw [a1]
          refine go _ _ r.2 (tf_s e' hA).1.symm (tf_s e' hA).2.symm a3 (sm_tr hs (sm_sub a2 (by decide))) ?_ a4
          rw [a2 35 (by decide), a2 36 (by decide)]; exact k5
      · rw [wi_f (by rw [l_11, z_le (by omega) (by omega)]; exact hk11)]
        unfold dk_transform_b81 dk_transform_b86
        rw [wq_some, ks_r, TF_n _ _ _ _ _ _ _ hk11]
        have s1 : sm [38] σ (up2 σ 38 0 0) := sm_up (by decide) sm_rf
        exact ⟨KJ_sm hJ s1 (by decide), sm_tr hs (sm_sub s1 (by decide)), rfl, by dsimp only; rw [up2_s, u_e]⟩
theorem dk_transform_sp (hD : DK n row d nm vl X σ) (hT : TR A σ τ) (hS : SC n row d nm vl X A σ) {x : Nat} (hx : x < n) : wq (dk_transform (nI (row x)) σ) (fun r => KJ n row d nm vl X A τ r.2 ∧ sm TD σ r.2 ∧ TQ (TF (tfP n row d nm vl X A (bB n row d nm vl X A)) (tfW n row d nm vl X A (bB n row d nm vl X A)) 100 [(x, 0)] []) r.1 (r.2 38) (r.2 37)) := by
  have hn := hD.1.1.1
  have rx := hD.1.1.2.1 x hx
  unfold dk_transform
  rw [wq_lpB]
  unfold dk_transform_b0
  rw [dk_isNode_y hD.1 hD.2.1 hx, wq_bind, wq_some]
  unfold dk_transform_b5
  dsimp only
  rw [wi_f (by decide), wq_bind]
  refine wq_mono (dk_sort_sp (τ := τ) hD hT hS) (fun r hJ => ?_)
  obtain ⟨j1, j2, j3, j4, j5, j6, j7⟩ := hJ
  unfold dk_transform_b14 dk_transform_b19
  have s1 : sm [38] r.2 (up2 r.2 38 0 0) := sm_up (by decide) sm_rf
  rw [wc_n (by omega) (by omega), wc_0 (by omega), z_cl (by omega), z_0c, s1 7 (by decide), (j6.1 x hx).1, z_nb (by omega)]
  unfold dk_transform_b35
  rw [wc_0 (by omega), z_0c, z_nb0, wq_some, ks_l]
  have s2 : sm [38, 35, 36] r.2 (up2 (up2 (up2 r.2 38 0 0) 35 0 (nI x)) 36 0 0) := sm_up (by decide) (sm_up (by decide) (sm_up (by decide) sm_rf))
  have := dk_tr_lp42 (σ0 := σ) (nI (row x)) 100 0 [(x, 0)] [] (up2 (up2 (up2 r.2 38 0 0) 35 0 (nI x)) 36 0 0) rfl (KJ_sm (⟨j2, j3, j4, j5, j6, j7⟩ : KJ n row d nm vl X A τ r.2) s2 (by decide)) (sm_tr (sm_sub j1 (by decide)) (sm_sub s2 (by decide))) ⟨hx, Nat.zero_le _, by rw [up2_n (show (35 : Nat) ≠ 36 by decide), up2_s]; exact u_e, by rw [up2_s]; exact u_e, trivial⟩ (Nat.le_refl _) (Nat.le_refl _) ⟨by rw [up2_n (show (38 : Nat) ≠ 36 by decide), up2_n (show (38 : Nat) ≠ 35 by decide), up2_s, u_e]; rfl, fun i hi => absurd hi (Nat.not_lt_zero _)⟩
  exact this
end
