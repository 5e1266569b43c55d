set_option maxRecDepth 100000
abbrev rmX1_changed : Room := { frames := 0, cells := 0, slots := 0, locals := 0 }
theorem w_md_changed_b2 {E : dEnv} {l : Launch} {G : dGeo} (hE : mdOk E l G cX1_changed 2 rmX1_changed) (v1 : Int32) (σ : dS) {out} (h : md_changed_b2 v1 σ = some out) (k : dK E cX1_changed none out) : dG E σ 2 [v1] [] := by
  unfold md_changed_b2 at h
  refine dg_iload_n hE dX1_changed_2 0 rfl rfl ?_
  refine dg_bipush hE dX1_changed_3 (v := (8 : Int32)) (by decide) ?_
  refine dg_icmp_ge hE dX1_changed_5 (tgt := 21) (by decide) h (fun h => ?_) (fun h => ?_)
  · cases h
    exact k _ _ dX1_changed_21
  · refine dg_aload0 hE dX1_changed_8 ?_
    refine md_gf10 hE dX1_changed_9 ?_
    refine dg_iload_n hE dX1_changed_12 0 rfl rfl ?_
    refine dg_iconst hE dX1_changed_13 (v := (0 : Int32)) (by decide) ?_
    refine md_as10 hE dX1_changed_14 h (fun h => ?_)
    refine dg_iinc hE dX1_changed_15 0 (xs' := [(v1 + (1 : Int32))]) rfl rfl (by decide) rfl ?_
    refine dg_goto hE dX1_changed_18 (tgt := 2) (by decide) ?_
    cases h
    exact k
theorem w_md_changed_b0 {E : dEnv} {l : Launch} {G : dGeo} (hE : mdOk E l G cX1_changed 2 rmX1_changed) (σ : dS) {out} (h : md_changed_b0 σ = some out) (k : dK E cX1_changed none out) : dG E σ 0 [] [] := by
  unfold md_changed_b0 at h
  refine dg_iconst hE dX1_changed_0 (v := (0 : Int32)) (by decide) ?_
  refine dg_istore_n hE dX1_changed_1 0 (xs' := [(0 : Int32)]) rfl (Nat.le_of_ble_eq_true rfl) (by decide) rfl ?_
  cases h
  exact k
theorem w_md_changed_st {E : dEnv} {l : Launch} {G : dGeo} (hE : mdOk E l G cX1_changed 2 rmX1_changed) (a : Nat × List Int32 × dS) {out} (h : md_changed_st a = some out) (k : dK E cX1_changed none out) : dG E a.2.2 a.1 a.2.1 [] := by
  obtain ⟨L, xs, σ⟩ := a
  unfold md_changed_st at h
  dsimp only at h ⊢
  by_cases c_ : L = 2
  · subst c_
    rw [if_pos rfl] at h
    match xs, h with
    | [x0], h => exact w_md_changed_b2 hE x0 σ h k
    | [], h => cases h
    | _ :: _ :: _, h => cases h
  rw [if_neg c_] at h
  cases h
theorem met_md_changed (l : Launch) (G : dGeo) (sz : Nat) (σ : dS) {r : Int32 × dS} (h : md_changed σ = some r) : Met l yX1_changed (ws_ yX1_changed cX1_changed 2 none) rmX1_changed (dPc G.1 (md_ty G) (md_w G σ) sz [.ref G.2.1]) (dQv G.1 (md_ty G) (md_w G σ) (md_w G r.2) sz) 0 0 (va_A (md_w G σ) sz) := by
  refine dMet_v (w := md_w G) (σ := σ) (σ' := r.2) (r := r.1) (th := [(0, .ref G.2.1)]) (b := 1) (xs := []) (by decide) rfl rfl (Nat.le_of_ble_eq_true rfl) dth (fun E hE k => ?_)
  unfold md_changed at h
  obtain ⟨out, h1, h2⟩ := lpB_some h
  exact w_md_changed_b0 hE σ h1 (dK_lp (fun a out => w_md_changed_st hE a) h2 k)
theorem md_ca_changed {E : dEnv} {l : Launch} {G : dGeo} {cc : ByteArray} {nL pc : Nat} {R : Room} {σ : dS} {xs : List Int32} {st : List Value} {τ : Type} {g : Int32 × dS → Option τ} {out : τ} (hE : mdOk E l G cc nL R) (hR : 0 + 1 ≤ R.frames ∧ 8 + (2 + 11) + 0 ≤ R.locals) (hd : decode cc pc = .ok (.invokevirtual 96, 3)) (hs : (st.map fun v => v.category).sum ≤ 8) (h : Option.bind (md_changed σ) g = some out) (k : ∀ r, g r = some out → dG E r.2 (pc + 3) xs (st)) : dG E σ pc xs (.ref G.2.1 :: st) := by
  obtain ⟨r, h1, h2⟩ := obind h
  exact dg_callVv hE (As := []) (st := st) (C := RX1) (rm := rmX1_changed) (md_recv G) (fun sz => met_md_changed l G sz σ h1) (lw_V q466 q468 qs27 q51 q469) 0 rfl ⟨rfl, rfl⟩ (by decide +kernel) hR rfl hs hd (k r h2)
abbrev rmX1_in : Room := { frames := 0, cells := 0, slots := 0, locals := 0 }
theorem w_md_in_b0 {E : dEnv} {l : Launch} {D : va_G} (hE : dsOk E l D cX1_in RX1 3 rmX1_in) (v0 v1 v2 : Int32) {σ : dS} {out} (h : md_in_b0 v0 v1 v2 = some out) (k : dRs E cX1_in (some .boolean) σ out) : dG E σ 0 [v0, v1, v2] [] := by
  unfold md_in_b0 at h
  refine dg_iload_n hE dX1_in_0 0 rfl rfl ?_
  refine dg_iload_n hE dX1_in_1 1 rfl rfl ?_
  refine dg_icmp_lt hE dX1_in_2 (tgt := 14) (by decide) h (fun h => ?_) (fun h => ?_)
  · refine dg_iconst hE dX1_in_14 (v := (0 : Int32)) (by decide) ?_
    cases h
    exact k nz0 _ _ dX1_in_15
  · refine dg_iload_n hE dX1_in_5 0 rfl rfl ?_
    refine dg_iload_n hE dX1_in_6 2 rfl rfl ?_
    refine dg_icmp_gt hE dX1_in_7 (tgt := 14) (by decide) h (fun h => ?_) (fun h => ?_)
    · refine dg_iconst hE dX1_in_14 (v := (0 : Int32)) (by decide) ?_
      cases h
      exact k nz0 _ _ dX1_in_15
    · refine dg_iconst hE dX1_in_10 (v := (1 : Int32)) (by decide) ?_
      refine dg_goto hE dX1_in_11 (tgt := 15) (by decide) ?_
      cases h
      exact k nz1 _ _ dX1_in_15
theorem met_md_in (l : Launch) (D : va_G) (sz : Nat) (v0 v1 v2 : Int32) {r : Int32} (h : md_in v0 v1 v2 = some r) : Met l yX1_in (ws_ yX1_in cX1_in 3 (some .boolean)) rmX1_in (dPc D [] [] sz [.int v0, .int v1, .int v2]) (dQi D [] [] [] sz r) 0 0 (va_A [] sz) := by
  refine dMet_i (w := fun _ => []) (σ := fun _ _ => 0) (σ' := fun _ _ => 0) (th := []) (b := 0) (xs := [v0, v1, v2]) (by decide) rfl rfl (Nat.le_of_ble_eq_true rfl) (fun q hq => by cases hq) (fun E hE k => ?_)
  unfold md_in at h
  exact w_md_in_b0 hE v0 v1 v2 h k
theorem md_ca_in {E : dEnv} {l : Launch} {D : va_G} {tys : List (ClassId × FieldType)} {w : dS → va_W} {th : List (Nat × Value)} {b : Nat} {cc : ByteArray} {nL pc : Nat} {R : Room} {σ : dS} {xs : List Int32} {st : List Value} {τ : Type} {g : Int32 → Option τ} {out : τ} {a0 a1 a2 : Int32} (hE : dOk E cc RX1 l R nL D tys w th b) (hR : 0 + 1 ≤ R.frames ∧ 8 + (3 + 11) + 0 ≤ R.locals) (hd : decode cc pc = .ok (.invokestatic 88, 3)) (hs : (st.map fun v => v.category).sum ≤ 8) (h : Option.bind (md_in a0 a1 a2) g = some out) (k : ∀ r, g r = some out → dG E σ (pc + 3) xs (.int r :: st)) : dG E σ pc xs (.int a2 :: .int a1 :: .int a0 :: st) := by
  obtain ⟨r, h1, h2⟩ := obind h
  exact dg_callS hE (As := [.int a0, .int a1, .int a2]) (st := st) (rm := rmX1_in) (fun sz => met_md_in l D sz a0 a1 a2 h1) (lw_S q451 q452 q51 q453) 3 rfl ⟨rfl, rfl⟩ (by decide +kernel) hR rfl hs hd (k r h2)
abbrev rmX1_behind : Room := { frames := 0, cells := 0, slots := 0, locals := 0 }
theorem w_md_behind_b43 {E : dEnv} {l : Launch} {G : dGeo} (hE : mdOk E l G cX1_behind 3 rmX1_behind) (v1 v2 : Int32) (σ : dS) {out} (h : md_behind_b43 v1 v2 σ = some out) (k : dK E cX1_behind (some .int) out) : dG E σ 43 [v1, v2] [] := by
  unfold md_behind_b43 at h
  refine dg_iload_n hE dX1_behind_43 1 rfl rfl ?_
  cases h
  exact k rfl _ _ dX1_behind_44
theorem w_md_behind_b4 {E : dEnv} {l : Launch} {G : dGeo} (hE : mdOk E l G cX1_behind 3 rmX1_behind) (v1 v2 : Int32) (σ : dS) {out} (h : md_behind_b4 v1 v2 σ = some out) (k : dK E cX1_behind (some .int) out) : dG E σ 4 [v1, v2] [] := by
  unfold md_behind_b4 at h
  refine dg_iload_n hE dX1_behind_4 1 rfl rfl ?_
  refine dg_aload0 hE dX1_behind_5 ?_
  refine md_gf5 hE dX1_behind_6 ?_
  refine dg_icmp_ge hE dX1_behind_9 (tgt := 43) (by decide) h (fun h => ?_) (fun h => ?_)
  · exact w_md_behind_b43 hE v1 v2 σ h k
  · refine dg_aload0 hE dX1_behind_12 ?_
    refine md_gf1 hE dX1_behind_13 ?_
    refine dg_aload0 hE dX1_behind_16 ?_
    refine md_gf0 hE dX1_behind_17 ?_
    refine dg_iload_n hE dX1_behind_20 1 rfl rfl ?_
    refine md_ld0 hE dX1_behind_21 h (fun h => ?_)
    refine md_ld1 hE dX1_behind_22 h (fun h => ?_)
    refine dg_aload0 hE dX1_behind_23 ?_
    refine md_gf1 hE dX1_behind_24 ?_
    refine dg_aload0 hE dX1_behind_27 ?_
    refine md_gf0 hE dX1_behind_28 ?_
    refine dg_iload_n hE dX1_behind_31 0 rfl rfl ?_
    refine md_ld0 hE dX1_behind_32 h (fun h => ?_)
    refine md_ld1 hE dX1_behind_33 h (fun h => ?_)
    refine dg_icmp_le hE dX1_behind_34 (tgt := 43) (by decide) h (fun h => ?_) (fun h => ?_)
    · exact w_md_behind_b43 hE v1 v2 σ h k
    · refine dg_iinc hE dX1_behind_37 1 (xs' := [v1, (v2 + (1 : Int32))]) rfl rfl (by decide) rfl ?_
      refine dg_goto hE dX1_behind_40 (tgt := 4) (by decide) ?_
      cases h
      exact k
theorem w_md_behind_b0 {E : dEnv} {l : Launch} {G : dGeo} (hE : mdOk E l G cX1_behind 3 rmX1_behind) (v1 : Int32) (σ : dS) {out} (h : md_behind_b0 v1 σ = some out) (k : dK E cX1_behind (some .int) out) : dG E σ 0 [v1] [] := by
  unfold md_behind_b0 at h
  refine dg_iload_n hE dX1_behind_0 0 rfl rfl ?_
  refine dg_iconst hE dX1_behind_1 (v := (1 : Int32)) (by decide) ?_
  refine dg_iadd hE dX1_behind_2 ?_
  refine dg_istore_n hE dX1_behind_3 1 (xs' := [v1, (v1 + (1 : Int32))]) rfl (Nat.le_of_ble_eq_true rfl) (by decide) rfl ?_
  cases h
  exact k
theorem w_md_behind_st {E : dEnv} {l : Launch} {G : dGeo} (hE : mdOk E l G cX1_behind 3 rmX1_behind) (a : Nat × List Int32 × dS) {out} (h : md_behind_st a = some out) (k : dK E cX1_behind (some .int) out) : dG E a.2.2 a.1 a.2.1 [] := by
  obtain ⟨L, xs, σ⟩ := a
  unfold md_behind_st at h
  dsimp only at h ⊢
  by_cases c_ : L = 4
  · subst c_
    rw [if_pos rfl] at h
    match xs, h with
    | [x0, x1], h => exact w_md_behind_b4 hE x0 x1 σ h k
    | [], h => cases h
    | [_], h => cases h
    | _ :: _ :: _ :: _, h => cases h
  rw [if_neg c_] at h
  cases h
theorem met_md_behind (l : Launch) (G : dGeo) (sz : Nat) (v1 : Int32) (σ : dS) {r : Int32 × dS} (h : md_behind v1 σ = some r) : Met l yX1_behind (ws_ yX1_behind cX1_behind 3 (some .int)) rmX1_behind (dPc G.1 (md_ty G) (md_w G σ) sz [.ref G.2.1, .int v1]) (dQi G.1 (md_ty G) (md_w G σ) (md_w G r.2) sz r.1) 0 0 (va_A (md_w G σ) sz) := by
  refine dMet_i (w := md_w G) (σ := σ) (σ' := r.2) (th := [(0, .ref G.2.1)]) (b := 1) (xs := [v1]) (by decide) rfl rfl (Nat.le_of_ble_eq_true rfl) dth (fun E hE k => ?_)
  unfold md_behind at h
  obtain ⟨out, h1, h2⟩ := lpB_some h
  exact w_md_behind_b0 hE v1 σ h1 (dK_lp (fun a out => w_md_behind_st hE a) h2 k)
theorem md_ca_behind {E : dEnv} {l : Launch} {G : dGeo} {cc : ByteArray} {nL pc : Nat} {R : Room} {σ : dS} {xs : List Int32} {st : List Value} {τ : Type} {g : Int32 × dS → Option τ} {out : τ} {a0 : Int32} (hE : mdOk E l G cc nL R) (hR : 0 + 1 ≤ R.frames ∧ 8 + (3 + 11) + 0 ≤ R.locals) (hd : decode cc pc = .ok (.invokevirtual 85, 3)) (hs : (st.map fun v => v.category).sum ≤ 8) (h : Option.bind (md_behind a0 σ) g = some out) (k : ∀ r, g r = some out → dG E r.2 (pc + 3) xs (.int r.1 :: st)) : dG E σ pc xs (.int a0 :: .ref G.2.1 :: st) := by
  obtain ⟨r, h1, h2⟩ := obind h
  exact dg_callVi hE (As := [.int a0]) (st := st) (C := RX1) (rm := rmX1_behind) (md_recv G) (fun sz => met_md_behind l G sz a0 σ h1) (lw_V q462 q464 qs26 q51 q465) 1 rfl ⟨rfl, rfl⟩ (by decide +kernel) hR rfl hs hd (k r h2)
abbrev rmX1_place : Room := { frames := 1, cells := 0, slots := 0, locals := 22 }
theorem w_md_place_b33 {E : dEnv} {l : Launch} {G : dGeo} (hE : mdOk E l G cX1_place 6 rmX1_place) (v1 v2 v3 v4 v5 s0 : Int32) (σ : dS) {out} (h : md_place_b33 v1 v2 v3 v4 v5 s0 σ = some out) (k : dK E cX1_place (some .int) out) : dG E σ 33 [v1, v2, v3, v4, v5] [.int s0] := by
  unfold md_place_b33 at h
  refine dg_istore_n hE dX1_place_33 2 (xs' := [v1, v2, s0, v4, v5]) rfl (Nat.le_of_ble_eq_true rfl) (by decide) rfl ?_
  refine dg_iinc hE dX1_place_34 4 (xs' := [v1, v2, s0, v4, (v5 + (1 : Int32))]) rfl rfl (by decide) rfl ?_
  refine dg_goto hE dX1_place_37 (tgt := 14) (by decide) ?_
  cases h
  exact k
theorem w_md_place_b14 {E : dEnv} {l : Launch} {G : dGeo} (hE : mdOk E l G cX1_place 6 rmX1_place) (v1 v2 v3 v4 v5 : Int32) (σ : dS) {out} (h : md_place_b14 v1 v2 v3 v4 v5 σ = some out) (k : dK E cX1_place (some .int) out) : dG E σ 14 [v1, v2, v3, v4, v5] [] := by
  unfold md_place_b14 at h
  refine dg_iload hE dX1_place_14 4 rfl rfl ?_
  refine dg_iload_n hE dX1_place_16 1 rfl rfl ?_
  refine dg_icmp_ge hE dX1_place_17 (tgt := 40) (by decide) h (fun h => ?_) (fun h => ?_)
  · refine dg_iload_n hE dX1_place_40 2 rfl rfl ?_
    cases h
    exact k rfl _ _ dX1_place_41
  · refine dg_iload_n hE dX1_place_20 2 rfl rfl ?_
    refine dg_iload hE dX1_place_21 3 rfl rfl ?_
    refine dg_icmp_ne hE dX1_place_23 (tgt := 28) (by decide) h (fun h => ?_) (fun h => ?_)
    · refine dg_aload0 hE dX1_place_28 ?_
      refine dg_iload_n hE dX1_place_29 2 rfl rfl ?_
      refine md_ca_behind hE (by decide) dX1_place_30 (Nat.le_of_ble_eq_true rfl) h (fun r_ h => ?_)
      exact w_md_place_b33 hE v1 v2 v3 v4 v5 (r_.1) (r_.2) h k
    · refine dg_iconst hE dX1_place_26 (v := (-1 : Int32)) (by decide) ?_
      cases h
      exact k rfl _ _ dX1_place_27
theorem w_md_place_b9 {E : dEnv} {l : Launch} {G : dGeo} (hE : mdOk E l G cX1_place 6 rmX1_place) (v1 v2 v3 s0 : Int32) (σ : dS) {out} (h : md_place_b9 v1 v2 v3 s0 σ = some out) (k : dK E cX1_place (some .int) out) : dG E σ 9 [v1, v2, v3] [.int s0] := by
  unfold md_place_b9 at h
  refine dg_istore hE dX1_place_9 3 (xs' := [v1, v2, v3, s0]) rfl (Nat.le_of_ble_eq_true rfl) (by decide) rfl ?_
  refine dg_iconst hE dX1_place_11 (v := (0 : Int32)) (by decide) ?_
  refine dg_istore hE dX1_place_12 4 (xs' := [v1, v2, v3, s0, (0 : Int32)]) rfl (Nat.le_of_ble_eq_true rfl) (by decide) rfl ?_
  cases h
  exact k
theorem w_md_place_b4 {E : dEnv} {l : Launch} {G : dGeo} (hE : mdOk E l G cX1_place 6 rmX1_place) (v1 v2 v3 : Int32) (σ : dS) {out} (h : md_place_b4 v1 v2 v3 σ = some out) (k : dK E cX1_place (some .int) out) : dG E σ 4 [v1, v2, v3] [] := by
  unfold md_place_b4 at h
  refine dg_aload0 hE dX1_place_4 ?_
  refine dg_iload_n hE dX1_place_5 0 rfl rfl ?_
  refine md_ca_behind hE (by decide) dX1_place_6 (Nat.le_of_ble_eq_true rfl) h (fun r_ h => ?_)
  exact w_md_place_b9 hE v1 v2 v3 (r_.1) (r_.2) h k
theorem w_md_place_b0 {E : dEnv} {l : Launch} {G : dGeo} (hE : mdOk E l G cX1_place 6 rmX1_place) (v1 v2 : Int32) (σ : dS) {out} (h : md_place_b0 v1 v2 σ = some out) (k : dK E cX1_place (some .int) out) : dG E σ 0 [v1, v2] [] := by
  unfold md_place_b0 at h
  refine dg_iload_n hE dX1_place_0 0 rfl rfl ?_
  refine dg_iconst hE dX1_place_1 (v := (1 : Int32)) (by decide) ?_
  refine dg_iadd hE dX1_place_2 ?_
  refine dg_istore_n hE dX1_place_3 2 (xs' := [v1, v2, (v1 + (1 : Int32))]) rfl (Nat.le_of_ble_eq_true rfl) (by decide) rfl ?_
  exact w_md_place_b4 hE v1 v2 (v1 + (1 : Int32)) σ h k
theorem w_md_place_st {E : dEnv} {l : Launch} {G : dGeo} (hE : mdOk E l G cX1_place 6 rmX1_place) (a : Nat × List Int32 × dS) {out} (h : md_place_st a = some out) (k : dK E cX1_place (some .int) out) : dG E a.2.2 a.1 a.2.1 [] := by
  obtain ⟨L, xs, σ⟩ := a
  unfold md_place_st at h
  dsimp only at h ⊢
  by_cases c_ : L = 14
  · subst c_
    rw [if_pos rfl] at h
    match xs, h with
    | [x0, x1, x2, x3, x4], h => exact w_md_place_b14 hE x0 x1 x2 x3 x4 σ h k
    | [], h => cases h
    | [_], h => cases h
    | [_, _], h => cases h
    | [_, _, _], h => cases h
    | [_, _, _, _], h => cases h
    | _ :: _ :: _ :: _ :: _ :: _ :: _, h => cases h
  rw [if_neg c_] at h
  cases h
theorem met_md_place (l : Launch) (G : dGeo) (sz : Nat) (v1 v2 : Int32) (σ : dS) {r : Int32 × dS} (h : md_place v1 v2 σ = some r) : Met l yX1_place (ws_ yX1_place cX1_place 6 (some .int)) rmX1_place (dPc G.1 (md_ty G) (md_w G σ) sz [.ref G.2.1, .int v1, .int v2]) (dQi G.1 (md_ty G) (md_w G σ) (md_w G r.2) sz r.1) 0 0 (va_A (md_w G σ) sz) := by
  refine dMet_i (w := md_w G) (σ := σ) (σ' := r.2) (th := [(0, .ref G.2.1)]) (b := 1) (xs := [v1, v2]) (by decide) rfl rfl (Nat.le_of_ble_eq_true rfl) dth (fun E hE k => ?_)
  unfold md_place at h
  obtain ⟨out, h1, h2⟩ := lpB_some h
  exact w_md_place_b0 hE v1 v2 σ h1 (dK_lp (fun a out => w_md_place_st hE a) h2 k)
theorem md_ca_place {E : dEnv} {l : Launch} {G : dGeo} {cc : ByteArray} {nL pc : Nat} {R : Room} {σ : dS} {xs : List Int32} {st : List Value} {τ : Type} {g : Int32 × dS → Option τ} {out : τ} {a0 a1 : Int32} (hE : mdOk E l G cc nL R) (hR : 1 + 1 ≤ R.frames ∧ 8 + (6 + 11) + 22 ≤ R.locals) (hd : decode cc pc = .ok (.invokevirtual 92, 3)) (hs : (st.map fun v => v.category).sum ≤ 8) (h : Option.bind (md_place a0 a1 σ) g = some out) (k : ∀ r, g r = some out → dG E r.2 (pc + 3) xs (.int r.1 :: st)) : dG E σ pc xs (.int a1 :: .int a0 :: .ref G.2.1 :: st) := by
  obtain ⟨r, h1, h2⟩ := obind h
  exact dg_callVi hE (As := [.int a0, .int a1]) (st := st) (C := RX1) (rm := rmX1_place) (md_recv G) (fun sz => met_md_place l G sz a0 a1 σ h1) (lw_V q458 q460 qs25 q51 q461) 2 rfl ⟨rfl, rfl⟩ (by decide +kernel) hR rfl hs hd (k r h2)
abbrev rmX1_where : Room := { frames := 0, cells := 0, slots := 0, locals := 0 }
theorem w_md_where_b2 {E : dEnv} {l : Launch} {G : dGeo} (hE : mdOk E l G cX1_where 3 rmX1_where) (v1 v2 : Int32) (σ : dS) {out} (h : md_where_b2 v1 v2 σ = some out) (k : dK E cX1_where (some .int) out) : dG E σ 2 [v1, v2] [] := by
  unfold md_where_b2 at h
  refine dg_iload_n hE dX1_where_2 1 rfl rfl ?_
  refine dg_aload0 hE dX1_where_3 ?_
  refine md_gf5 hE dX1_where_4 ?_
  refine dg_icmp_ge hE dX1_where_7 (tgt := 28) (by decide) h (fun h => ?_) (fun h => ?_)
  · refine dg_iconst hE dX1_where_28 (v := (-1 : Int32)) (by decide) ?_
    cases h
    exact k rfl _ _ dX1_where_29
  · refine dg_aload0 hE dX1_where_10 ?_
    refine md_gf0 hE dX1_where_11 ?_
    refine dg_iload_n hE dX1_where_14 1 rfl rfl ?_
    refine md_ld0 hE dX1_where_15 h (fun h => ?_)
    refine dg_iload_n hE dX1_where_16 0 rfl rfl ?_
    refine dg_icmp_ne hE dX1_where_17 (tgt := 22) (by decide) h (fun h => ?_) (fun h => ?_)
    · refine dg_iinc hE dX1_where_22 1 (xs' := [v1, (v2 + (1 : Int32))]) rfl rfl (by decide) rfl ?_
      refine dg_goto hE dX1_where_25 (tgt := 2) (by decide) ?_
      cases h
      exact k
    · refine dg_iload_n hE dX1_where_20 1 rfl rfl ?_
      cases h
      exact k rfl _ _ dX1_where_21
theorem w_md_where_b0 {E : dEnv} {l : Launch} {G : dGeo} (hE : mdOk E l G cX1_where 3 rmX1_where) (v1 : Int32) (σ : dS) {out} (h : md_where_b0 v1 σ = some out) (k : dK E cX1_where (some .int) out) : dG E σ 0 [v1] [] := by
  unfold md_where_b0 at h
  refine dg_iconst hE dX1_where_0 (v := (0 : Int32)) (by decide) ?_
  refine dg_istore_n hE dX1_where_1 1 (xs' := [v1, (0 : Int32)]) rfl (Nat.le_of_ble_eq_true rfl) (by decide) rfl ?_
  cases h
  exact k
theorem w_md_where_st {E : dEnv} {l : Launch} {G : dGeo} (hE : mdOk E l G cX1_where 3 rmX1_where) (a : Nat × List Int32 × dS) {out} (h : md_where_st a = some out) (k : dK E cX1_where (some .int) out) : dG E a.2.2 a.1 a.2.1 [] := by
  obtain ⟨L, xs, σ⟩ := a
  unfold md_where_st at h
  dsimp only at h ⊢
  by_cases c_ : L = 2
  · subst c_
    rw [if_pos rfl] at h
    match xs, h with
    | [x0, x1], h => exact w_md_where_b2 hE x0 x1 σ h k
    | [], h => cases h
    | [_], h => cases h
    | _ :: _ :: _ :: _, h => cases h
  rw [if_neg c_] at h
  cases h
theorem met_md_where (l : Launch) (G : dGeo) (sz : Nat) (v1 : Int32) (σ : dS) {r : Int32 × dS} (h : md_where v1 σ = some r) : Met l yX1_where (ws_ yX1_where cX1_where 3 (some .int)) rmX1_where (dPc G.1 (md_ty G) (md_w G σ) sz [.ref G.2.1, .int v1]) (dQi G.1 (md_ty G) (md_w G σ) (md_w G r.2) sz r.1) 0 0 (va_A (md_w G σ) sz) := by
  refine dMet_i (w := md_w G) (σ := σ) (σ' := r.2) (th := [(0, .ref G.2.1)]) (b := 1) (xs := [v1]) (by decide) rfl rfl (Nat.le_of_ble_eq_true rfl) dth (fun E hE k => ?_)
  unfold md_where at h
  obtain ⟨out, h1, h2⟩ := lpB_some h
  exact w_md_where_b0 hE v1 σ h1 (dK_lp (fun a out => w_md_where_st hE a) h2 k)
theorem md_ca_where {E : dEnv} {l : Launch} {G : dGeo} {cc : ByteArray} {nL pc : Nat} {R : Room} {σ : dS} {xs : List Int32} {st : List Value} {τ : Type} {g : Int32 × dS → Option τ} {out : τ} {a0 : Int32} (hE : mdOk E l G cc nL R) (hR : 0 + 1 ≤ R.frames ∧ 8 + (3 + 11) + 0 ≤ R.locals) (hd : decode cc pc = .ok (.invokevirtual 81, 3)) (hs : (st.map fun v => v.category).sum ≤ 8) (h : Option.bind (md_where a0 σ) g = some out) (k : ∀ r, g r = some out → dG E r.2 (pc + 3) xs (.int r.1 :: st)) : dG E σ pc xs (.int a0 :: .ref G.2.1 :: st) := by
  obtain ⟨r, h1, h2⟩ := obind h
  exact dg_callVi hE (As := [.int a0]) (st := st) (C := RX1) (rm := rmX1_where) (md_recv G) (fun sz => met_md_where l G sz a0 σ h1) (lw_V q454 q456 qs24 q51 q457) 1 rfl ⟨rfl, rfl⟩ (by decide +kernel) hR rfl hs hd (k r h2)
abbrev rmX1_insert : Room := { frames := 2, cells := 0, slots := 0, locals := 47 }
theorem w_md_insert_b178 {E : dEnv} {l : Launch} {G : dGeo} (hE : mdOk E l G cX1_insert 8 rmX1_insert) (v1 v2 v3 v4 v5 v6 : Int32) (σ : dS) {out} (h : md_insert_b178 v1 v2 v3 v4 v5 v6 σ = some out) (k : dK E cX1_insert (some .int) out) : dG E σ 178 [v1, v2, v3, v4, v5, v6] [] := by
  unfold md_insert_b178 at h
  refine dg_iload hE dX1_insert_178 5 rfl rfl ?_
  cases h
  exact k rfl _ _ dX1_insert_180
theorem w_md_insert_b174 {E : dEnv} {l : Launch} {G : dGeo} (hE : mdOk E l G cX1_insert 8 rmX1_insert) (v1 v2 v3 v4 v5 v6 : Int32) (σ : dS) {out} (h : md_insert_b174 v1 v2 v3 v4 v5 v6 σ = some out) (k : dK E cX1_insert (some .int) out) : dG E σ 174 [v1, v2, v3, v4, v5, v6] [] := by
  unfold md_insert_b174 at h
  refine dg_aload0 hE dX1_insert_174 ?_
  refine md_ca_changed hE (by decide) dX1_insert_175 (Nat.le_of_ble_eq_true rfl) h (fun r_ h => ?_)
  exact w_md_insert_b178 hE v1 v2 v3 v4 v5 v6 (r_.2) h k
theorem w_md_insert_b166 {E : dEnv} {l : Launch} {G : dGeo} (hE : mdOk E l G cX1_insert 8 rmX1_insert) (v1 v2 v3 v4 v5 v6 : Int32) (σ : dS) {out} (h : md_insert_b166 v1 v2 v3 v4 v5 v6 σ = some out) (k : dK E cX1_insert (some .int) out) : dG E σ 166 [v1, v2, v3, v4, v5, v6] [] := by
  unfold md_insert_b166 at h
  refine dg_aload0 hE dX1_insert_166 ?_
  refine md_gf3 hE dX1_insert_167 ?_
  refine dg_iload hE dX1_insert_170 5 rfl rfl ?_
  refine dg_iconst hE dX1_insert_172 (v := (0 : Int32)) (by decide) ?_
  refine md_as3 hE dX1_insert_173 h (fun h => ?_)
  exact w_md_insert_b174 hE v1 v2 v3 v4 v5 v6 (up2 σ 3 v6.toNatClampNeg (0 : Int32)) h k
theorem w_md_insert_b158 {E : dEnv} {l : Launch} {G : dGeo} (hE : mdOk E l G cX1_insert 8 rmX1_insert) (v1 v2 v3 v4 v5 v6 : Int32) (σ : dS) {out} (h : md_insert_b158 v1 v2 v3 v4 v5 v6 σ = some out) (k : dK E cX1_insert (some .int) out) : dG E σ 158 [v1, v2, v3, v4, v5, v6] [] := by
  unfold md_insert_b158 at h
  refine dg_aload0 hE dX1_insert_158 ?_
  refine md_gf2 hE dX1_insert_159 ?_
  refine dg_iload hE dX1_insert_162 5 rfl rfl ?_
  refine dg_iload_n hE dX1_insert_164 2 rfl rfl ?_
  refine md_as2 hE dX1_insert_165 h (fun h => ?_)
  exact w_md_insert_b166 hE v1 v2 v3 v4 v5 v6 (up2 σ 2 v6.toNatClampNeg v3) h k
theorem w_md_insert_b149 {E : dEnv} {l : Launch} {G : dGeo} (hE : mdOk E l G cX1_insert 8 rmX1_insert) (v1 v2 v3 v4 v5 v6 : Int32) (σ : dS) {out} (h : md_insert_b149 v1 v2 v3 v4 v5 v6 σ = some out) (k : dK E cX1_insert (some .int) out) : dG E σ 149 [v1, v2, v3, v4, v5, v6] [] := by
  unfold md_insert_b149 at h
  refine dg_aload0 hE dX1_insert_149 ?_
  refine md_gf1 hE dX1_insert_150 ?_
  refine dg_iload hE dX1_insert_153 5 rfl rfl ?_
  refine dg_iload hE dX1_insert_155 4 rfl rfl ?_
  refine md_as1 hE dX1_insert_157 h (fun h => ?_)
  exact w_md_insert_b158 hE v1 v2 v3 v4 v5 v6 (up2 σ 1 v6.toNatClampNeg v5) h k
theorem w_md_insert_b139 {E : dEnv} {l : Launch} {G : dGeo} (hE : mdOk E l G cX1_insert 8 rmX1_insert) (v1 v2 v3 v4 v5 v6 : Int32) (σ : dS) {out} (h : md_insert_b139 v1 v2 v3 v4 v5 v6 σ = some out) (k : dK E cX1_insert (some .int) out) : dG E σ 139 [v1, v2, v3, v4, v5, v6] [] := by
  unfold md_insert_b139 at h
  refine dg_aload0 hE dX1_insert_139 ?_
  refine dg_dup hE dX1_insert_140 rfl ?_
  refine md_gf5 hE dX1_insert_141 ?_
  refine dg_iconst hE dX1_insert_144 (v := (1 : Int32)) (by decide) ?_
  refine dg_iadd hE dX1_insert_145 ?_
  refine md_pf5 hE dX1_insert_146 ?_
  exact w_md_insert_b149 hE v1 v2 v3 v4 v5 v6 (up2 σ 5 0 ((σ 5 0) + (1 : Int32))) h k
theorem w_md_insert_b101 {E : dEnv} {l : Launch} {G : dGeo} (hE : mdOk E l G cX1_insert 8 rmX1_insert) (v1 v2 v3 v4 v5 v6 v7 : Int32) (σ : dS) {out} (h : md_insert_b101 v1 v2 v3 v4 v5 v6 v7 σ = some out) (k : dK E cX1_insert (some .int) out) : dG E σ 101 [v1, v2, v3, v4, v5, v6, v7] [] := by
  unfold md_insert_b101 at h
  refine dg_iload hE dX1_insert_101 6 rfl rfl ?_
  refine dg_iload hE dX1_insert_103 3 rfl rfl ?_
  refine dg_icmp_le hE dX1_insert_105 (tgt := 130) (by decide) h (fun h => ?_) (fun h => ?_)
  · refine dg_aload0 hE dX1_insert_130 ?_
    refine md_gf0 hE dX1_insert_131 ?_
    refine dg_iload hE dX1_insert_134 3 rfl rfl ?_
    refine dg_iload hE dX1_insert_136 5 rfl rfl ?_
    refine md_as0 hE dX1_insert_138 h (fun h => ?_)
    refine dg_drop (xs' := [v1, v2, v3, v4, v5, v6]) (ys := [v7]) rfl ?_
    exact w_md_insert_b139 hE v1 v2 v3 v4 v5 v6 (up2 σ 0 v4.toNatClampNeg v6) h k
  · refine dg_aload0 hE dX1_insert_108 ?_
    refine md_gf0 hE dX1_insert_109 ?_
    refine dg_iload hE dX1_insert_112 6 rfl rfl ?_
    refine dg_aload0 hE dX1_insert_114 ?_
    refine md_gf0 hE dX1_insert_115 ?_
    refine dg_iload hE dX1_insert_118 6 rfl rfl ?_
    refine dg_iconst hE dX1_insert_120 (v := (1 : Int32)) (by decide) ?_
    refine dg_isub hE dX1_insert_121 ?_
    refine md_ld0 hE dX1_insert_122 h (fun h => ?_)
    refine md_as0 hE dX1_insert_123 h (fun h => ?_)
    refine dg_iinc hE dX1_insert_124 6 (xs' := [v1, v2, v3, v4, v5, v6, (v7 + (-1 : Int32))]) rfl rfl (by decide) rfl ?_
    refine dg_goto hE dX1_insert_127 (tgt := 101) (by decide) ?_
    cases h
    exact k
theorem w_md_insert_b86 {E : dEnv} {l : Launch} {G : dGeo} (hE : mdOk E l G cX1_insert 8 rmX1_insert) (v1 v2 v3 v4 v5 v6 s0 : Int32) (σ : dS) {out} (h : md_insert_b86 v1 v2 v3 v4 v5 v6 s0 σ = some out) (k : dK E cX1_insert (some .int) out) : dG E σ 86 [v1, v2, v3, v4, v5, v6] [.int s0] := by
  unfold md_insert_b86 at h
  refine dg_if_lt hE dX1_insert_86 (tgt := 95) (by decide) h (fun h => ?_) (fun h => ?_)
  · refine dg_aload0 hE dX1_insert_95 ?_
    refine md_gf5 hE dX1_insert_96 ?_
    refine dg_istore hE dX1_insert_99 6 (xs' := [v1, v2, v3, v4, v5, v6, (σ 5 0)]) rfl (Nat.le_of_ble_eq_true rfl) (by decide) rfl ?_
    cases h
    exact k
  · refine dg_iinc hE dX1_insert_89 5 (xs' := [v1, v2, v3, v4, v5, (v6 + (1 : Int32))]) rfl rfl (by decide) rfl ?_
    refine dg_goto hE dX1_insert_92 (tgt := 80) (by decide) ?_
    cases h
    exact k
theorem w_md_insert_b80 {E : dEnv} {l : Launch} {G : dGeo} (hE : mdOk E l G cX1_insert 8 rmX1_insert) (v1 v2 v3 v4 v5 v6 : Int32) (σ : dS) {out} (h : md_insert_b80 v1 v2 v3 v4 v5 v6 σ = some out) (k : dK E cX1_insert (some .int) out) : dG E σ 80 [v1, v2, v3, v4, v5, v6] [] := by
  unfold md_insert_b80 at h
  refine dg_aload0 hE dX1_insert_80 ?_
  refine dg_iload hE dX1_insert_81 5 rfl rfl ?_
  refine md_ca_where hE (by decide) dX1_insert_83 (Nat.le_of_ble_eq_true rfl) h (fun r_ h => ?_)
  exact w_md_insert_b86 hE v1 v2 v3 v4 v5 v6 (r_.1) (r_.2) h k
theorem w_md_insert_b77 {E : dEnv} {l : Launch} {G : dGeo} (hE : mdOk E l G cX1_insert 8 rmX1_insert) (v1 v2 v3 v4 v5 : Int32) (σ : dS) {out} (h : md_insert_b77 v1 v2 v3 v4 v5 σ = some out) (k : dK E cX1_insert (some .int) out) : dG E σ 77 [v1, v2, v3, v4, v5] [] := by
  unfold md_insert_b77 at h
  refine dg_iconst hE dX1_insert_77 (v := (0 : Int32)) (by decide) ?_
  refine dg_istore hE dX1_insert_78 5 (xs' := [v1, v2, v3, v4, v5, (0 : Int32)]) rfl (Nat.le_of_ble_eq_true rfl) (by decide) rfl ?_
  cases h
  exact k
theorem w_md_insert_b58 {E : dEnv} {l : Launch} {G : dGeo} (hE : mdOk E l G cX1_insert 8 rmX1_insert) (v1 v2 v3 s0 : Int32) (σ : dS) {out} (h : md_insert_b58 v1 v2 v3 s0 σ = some out) (k : dK E cX1_insert (some .int) out) : dG E σ 58 [v1, v2, v3] [.int s0] := by
  unfold md_insert_b58 at h
  refine dg_istore hE dX1_insert_58 3 (xs' := [v1, v2, v3, s0]) rfl (Nat.le_of_ble_eq_true rfl) (by decide) rfl ?_
  refine dg_iload hE dX1_insert_60 3 rfl rfl ?_
  refine dg_if_ge hE dX1_insert_62 (tgt := 67) (by decide) h (fun h => ?_) (fun h => ?_)
  · refine dg_aload0 hE dX1_insert_67 ?_
    refine md_gf1 hE dX1_insert_68 ?_
    refine dg_iload_n hE dX1_insert_71 0 rfl rfl ?_
    refine md_ld1 hE dX1_insert_72 h (fun h => ?_)
    refine dg_iconst hE dX1_insert_73 (v := (1 : Int32)) (by decide) ?_
    refine dg_iadd hE dX1_insert_74 ?_
    refine dg_istore hE dX1_insert_75 4 (xs' := [v1, v2, v3, s0, ((σ 1 v1.toNatClampNeg) + (1 : Int32))]) rfl (Nat.le_of_ble_eq_true rfl) (by decide) rfl ?_
    exact w_md_insert_b77 hE v1 v2 v3 s0 ((σ 1 v1.toNatClampNeg) + (1 : Int32)) σ h k
  · refine dg_iconst hE dX1_insert_65 (v := (-1 : Int32)) (by decide) ?_
    cases h
    exact k rfl _ _ dX1_insert_66
theorem w_md_insert_b38 {E : dEnv} {l : Launch} {G : dGeo} (hE : mdOk E l G cX1_insert 8 rmX1_insert) (v1 v2 v3 v4 v5 s0 : Int32) (σ : dS) {out} (h : md_insert_b38 v1 v2 v3 v4 v5 s0 σ = some out) (k : dK E cX1_insert (some .int) out) : dG E σ 38 [v1, v2, v3, v4, v5] [.int s0] := by
  unfold md_insert_b38 at h
  refine dg_istore hE dX1_insert_38 5 (xs' := [v1, v2, v3, v4, v5, s0]) rfl (Nat.le_of_ble_eq_true rfl) (by decide) rfl ?_
  refine dg_iload hE dX1_insert_40 5 rfl rfl ?_
  refine dg_if_lt hE dX1_insert_42 (tgt := 49) (by decide) h (fun h => ?_) (fun h => ?_)
  · refine dg_iconst hE dX1_insert_49 (v := (-1 : Int32)) (by decide) ?_
    cases h
    exact k rfl _ _ dX1_insert_50
  · refine dg_iload_n hE dX1_insert_45 1 rfl rfl ?_
    refine dg_if_ge hE dX1_insert_46 (tgt := 51) (by decide) h (fun h => ?_) (fun h => ?_)
    · refine dg_aload0 hE dX1_insert_51 ?_
      refine dg_iload hE dX1_insert_52 5 rfl rfl ?_
      refine dg_iload_n hE dX1_insert_54 1 rfl rfl ?_
      refine md_ca_place hE (by decide) dX1_insert_55 (Nat.le_of_ble_eq_true rfl) h (fun r_ h => ?_)
      refine dg_drop (xs' := [v1, v2, v3]) (ys := [v4, v5, s0]) rfl ?_
      exact w_md_insert_b58 hE v1 v2 v3 (r_.1) (r_.2) h k
    · refine dg_iconst hE dX1_insert_49 (v := (-1 : Int32)) (by decide) ?_
      cases h
      exact k rfl _ _ dX1_insert_50
theorem w_md_insert_b6 {E : dEnv} {l : Launch} {G : dGeo} (hE : mdOk E l G cX1_insert 8 rmX1_insert) (v1 v2 v3 s0 : Int32) (σ : dS) {out} (h : md_insert_b6 v1 v2 v3 s0 σ = some out) (k : dK E cX1_insert (some .int) out) : dG E σ 6 [v1, v2, v3] [.int s0] := by
  unfold md_insert_b6 at h
  refine dg_if_eq hE dX1_insert_6 (tgt := 18) (by decide) h (fun h => ?_) (fun h => ?_)
  · refine dg_iconst hE dX1_insert_18 (v := (-1 : Int32)) (by decide) ?_
    cases h
    exact k rfl _ _ dX1_insert_19
  · refine dg_aload0 hE dX1_insert_9 ?_
    refine md_gf5 hE dX1_insert_10 ?_
    refine dg_bipush hE dX1_insert_13 (v := (24 : Int32)) (by decide) ?_
    refine dg_icmp_ne hE dX1_insert_15 (tgt := 20) (by decide) h (fun h => ?_) (fun h => ?_)
    · refine dg_iconst hE dX1_insert_20 (v := (0 : Int32)) (by decide) ?_
      refine dg_istore hE dX1_insert_21 3 (xs' := [v1, v2, v3, (0 : Int32)]) rfl (Nat.le_of_ble_eq_true rfl) (by decide) rfl ?_
      refine dg_iconst hE dX1_insert_23 (v := (0 : Int32)) (by decide) ?_
      refine dg_istore hE dX1_insert_24 4 (xs' := [v1, v2, v3, (0 : Int32), (0 : Int32)]) rfl (Nat.le_of_ble_eq_true rfl) (by decide) rfl ?_
      refine dg_aload0 hE dX1_insert_26 ?_
      refine md_gf5 hE dX1_insert_27 ?_
      refine dg_if_le hE dX1_insert_30 (tgt := 77) (by decide) h (fun h => ?_) (fun h => ?_)
      · exact w_md_insert_b77 hE v1 v2 v3 (0 : Int32) (0 : Int32) σ h k
      · refine dg_aload0 hE dX1_insert_33 ?_
        refine dg_iload_n hE dX1_insert_34 0 rfl rfl ?_
        refine md_ca_where hE (by decide) dX1_insert_35 (Nat.le_of_ble_eq_true rfl) h (fun r_ h => ?_)
        exact w_md_insert_b38 hE v1 v2 v3 (0 : Int32) (0 : Int32) (r_.1) (r_.2) h k
    · refine dg_iconst hE dX1_insert_18 (v := (-1 : Int32)) (by decide) ?_
      cases h
      exact k rfl _ _ dX1_insert_19
theorem w_md_insert_b0 {E : dEnv} {l : Launch} {G : dGeo} (hE : mdOk E l G cX1_insert 8 rmX1_insert) (v1 v2 v3 : Int32) (σ : dS) {out} (h : md_insert_b0 v1 v2 v3 σ = some out) (k : dK E cX1_insert (some .int) out) : dG E σ 0 [v1, v2, v3] [] := by
  unfold md_insert_b0 at h
  refine dg_iload_n hE dX1_insert_0 2 rfl rfl ?_
  refine dg_iconst hE dX1_insert_1 (v := (0 : Int32)) (by decide) ?_
  refine dg_iconst hE dX1_insert_2 (v := (5 : Int32)) (by decide) ?_
  refine md_ca_in hE (by decide) dX1_insert_3 (Nat.le_of_ble_eq_true rfl) h (fun r_ h => ?_)
  exact w_md_insert_b6 hE v1 v2 v3 r_ σ h k
theorem w_md_insert_st {E : dEnv} {l : Launch} {G : dGeo} (hE : mdOk E l G cX1_insert 8 rmX1_insert) (a : Nat × List Int32 × dS) {out} (h : md_insert_st a = some out) (k : dK E cX1_insert (some .int) out) : dG E a.2.2 a.1 a.2.1 [] := by
  obtain ⟨L, xs, σ⟩ := a
  unfold md_insert_st at h
  dsimp only at h ⊢
  by_cases c_ : L = 80
  · subst c_
    rw [if_pos rfl] at h
    match xs, h with
    | [x0, x1, x2, x3, x4, x5], h => exact w_md_insert_b80 hE x0 x1 x2 x3 x4 x5 σ h k
    | [], h => cases h
    | [_], h => cases h
    | [_, _], h => cases h
    | [_, _, _], h => cases h
    | [_, _, _, _], h => cases h
    | [_, _, _, _, _], h => cases h
    | _ :: _ :: _ :: _ :: _ :: _ :: _ :: _, h => cases h
  rw [if_neg c_] at h
  by_cases c_ : L = 101
  · subst c_
    rw [if_pos rfl] at h
    match xs, h with
    | [x0, x1, x2, x3, x4, x5, x6], h => exact w_md_insert_b101 hE x0 x1 x2 x3 x4 x5 x6 σ h k
    | [], h => cases h
    | [_], h => cases h
    | [_, _], h => cases h
    | [_, _, _], h => cases h
    | [_, _, _, _], h => cases h
    | [_, _, _, _, _], h => cases h
    | [_, _, _, _, _, _], h => cases h
    | _ :: _ :: _ :: _ :: _ :: _ :: _ :: _ :: _, h => cases h
  rw [if_neg c_] at h
  cases h
theorem met_md_insert (l : Launch) (G : dGeo) (sz : Nat) (v1 v2 v3 : Int32) (σ : dS) {r : Int32 × dS} (h : md_insert v1 v2 v3 σ = some r) : Met l yX1_insert (ws_ yX1_insert cX1_insert 8 (some .int)) rmX1_insert (dPc G.1 (md_ty G) (md_w G σ) sz [.ref G.2.1, .int v1, .int v2, .int v3]) (dQi G.1 (md_ty G) (md_w G σ) (md_w G r.2) sz r.1) 0 0 (va_A (md_w G σ) sz) := by
  refine dMet_i (w := md_w G) (σ := σ) (σ' := r.2) (th := [(0, .ref G.2.1)]) (b := 1) (xs := [v1, v2, v3]) (by decide) rfl rfl (Nat.le_of_ble_eq_true rfl) dth (fun E hE k => ?_)
  unfold md_insert at h
  obtain ⟨out, h1, h2⟩ := lpB_some h
  exact w_md_insert_b0 hE v1 v2 v3 σ h1 (dK_lp (fun a out => w_md_insert_st hE a) h2 k)
abbrev rmX1_remove : Room := { frames := 1, cells := 0, slots := 0, locals := 22 }
theorem w_md_remove_b68 {E : dEnv} {l : Launch} {G : dGeo} (hE : mdOk E l G cX1_remove 5 rmX1_remove) (v1 v2 v3 : Int32) (σ : dS) {out} (h : md_remove_b68 v1 v2 v3 σ = some out) (k : dK E cX1_remove (some .int) out) : dG E σ 68 [v1, v2, v3] [] := by
  unfold md_remove_b68 at h
  refine dg_iload_n hE dX1_remove_68 2 rfl rfl ?_
  cases h
  exact k rfl _ _ dX1_remove_69
theorem w_md_remove_b33 {E : dEnv} {l : Launch} {G : dGeo} (hE : mdOk E l G cX1_remove 5 rmX1_remove) (v1 v2 v3 v4 : Int32) (σ : dS) {out} (h : md_remove_b33 v1 v2 v3 v4 σ = some out) (k : dK E cX1_remove (some .int) out) : dG E σ 33 [v1, v2, v3, v4] [] := by
  unfold md_remove_b33 at h
  refine dg_iload hE dX1_remove_33 3 rfl rfl ?_
  refine dg_aload0 hE dX1_remove_35 ?_
  refine md_gf5 hE dX1_remove_36 ?_
  refine dg_icmp_ge hE dX1_remove_39 (tgt := 64) (by decide) h (fun h => ?_) (fun h => ?_)
  · refine dg_aload0 hE dX1_remove_64 ?_
    refine md_ca_changed hE (by decide) dX1_remove_65 (Nat.le_of_ble_eq_true rfl) h (fun r_ h => ?_)
    refine dg_drop (xs' := [v1, v2, v3]) (ys := [v4]) rfl ?_
    exact w_md_remove_b68 hE v1 v2 v3 (r_.2) h k
  · refine dg_aload0 hE dX1_remove_42 ?_
    refine md_gf0 hE dX1_remove_43 ?_
    refine dg_iload hE dX1_remove_46 3 rfl rfl ?_
    refine dg_aload0 hE dX1_remove_48 ?_
    refine md_gf0 hE dX1_remove_49 ?_
    refine dg_iload hE dX1_remove_52 3 rfl rfl ?_
    refine dg_iload_n hE dX1_remove_54 2 rfl rfl ?_
    refine dg_iadd hE dX1_remove_55 ?_
    refine md_ld0 hE dX1_remove_56 h (fun h => ?_)
    refine md_as0 hE dX1_remove_57 h (fun h => ?_)
    refine dg_iinc hE dX1_remove_58 3 (xs' := [v1, v2, v3, (v4 + (1 : Int32))]) rfl rfl (by decide) rfl ?_
    refine dg_goto hE dX1_remove_61 (tgt := 33) (by decide) ?_
    cases h
    exact k
theorem w_md_remove_b30 {E : dEnv} {l : Launch} {G : dGeo} (hE : mdOk E l G cX1_remove 5 rmX1_remove) (v1 v2 v3 : Int32) (σ : dS) {out} (h : md_remove_b30 v1 v2 v3 σ = some out) (k : dK E cX1_remove (some .int) out) : dG E σ 30 [v1, v2, v3] [] := by
  unfold md_remove_b30 at h
  refine dg_iload_n hE dX1_remove_30 1 rfl rfl ?_
  refine dg_istore hE dX1_remove_31 3 (xs' := [v1, v2, v3, v2]) rfl (Nat.le_of_ble_eq_true rfl) (by decide) rfl ?_
  cases h
  exact k
theorem w_md_remove_b20 {E : dEnv} {l : Launch} {G : dGeo} (hE : mdOk E l G cX1_remove 5 rmX1_remove) (v1 v2 v3 : Int32) (σ : dS) {out} (h : md_remove_b20 v1 v2 v3 σ = some out) (k : dK E cX1_remove (some .int) out) : dG E σ 20 [v1, v2, v3] [] := by
  unfold md_remove_b20 at h
  refine dg_aload0 hE dX1_remove_20 ?_
  refine dg_dup hE dX1_remove_21 rfl ?_
  refine md_gf5 hE dX1_remove_22 ?_
  refine dg_iload_n hE dX1_remove_25 2 rfl rfl ?_
  refine dg_isub hE dX1_remove_26 ?_
  refine md_pf5 hE dX1_remove_27 ?_
  exact w_md_remove_b30 hE v1 v2 v3 (up2 σ 5 0 ((σ 5 0) - v3)) h k
theorem w_md_remove_b17 {E : dEnv} {l : Launch} {G : dGeo} (hE : mdOk E l G cX1_remove 5 rmX1_remove) (v1 v2 s0 : Int32) (σ : dS) {out} (h : md_remove_b17 v1 v2 s0 σ = some out) (k : dK E cX1_remove (some .int) out) : dG E σ 17 [v1, v2] [.int s0] := by
  unfold md_remove_b17 at h
  refine dg_iload_n hE dX1_remove_17 1 rfl rfl ?_
  refine dg_isub hE dX1_remove_18 ?_
  refine dg_istore_n hE dX1_remove_19 2 (xs' := [v1, v2, (s0 - v2)]) rfl (Nat.le_of_ble_eq_true rfl) (by decide) rfl ?_
  exact w_md_remove_b20 hE v1 v2 (s0 - v2) σ h k
theorem w_md_remove_b5 {E : dEnv} {l : Launch} {G : dGeo} (hE : mdOk E l G cX1_remove 5 rmX1_remove) (v1 s0 : Int32) (σ : dS) {out} (h : md_remove_b5 v1 s0 σ = some out) (k : dK E cX1_remove (some .int) out) : dG E σ 5 [v1] [.int s0] := by
  unfold md_remove_b5 at h
  refine dg_istore_n hE dX1_remove_5 1 (xs' := [v1, s0]) rfl (Nat.le_of_ble_eq_true rfl) (by decide) rfl ?_
  refine dg_iload_n hE dX1_remove_6 1 rfl rfl ?_
  refine dg_if_ge hE dX1_remove_7 (tgt := 12) (by decide) h (fun h => ?_) (fun h => ?_)
  · refine dg_aload0 hE dX1_remove_12 ?_
    refine dg_iload_n hE dX1_remove_13 1 rfl rfl ?_
    refine md_ca_behind hE (by decide) dX1_remove_14 (Nat.le_of_ble_eq_true rfl) h (fun r_ h => ?_)
    exact w_md_remove_b17 hE v1 s0 (r_.1) (r_.2) h k
  · refine dg_iconst hE dX1_remove_10 (v := (-1 : Int32)) (by decide) ?_
    cases h
    exact k rfl _ _ dX1_remove_11
theorem w_md_remove_b0 {E : dEnv} {l : Launch} {G : dGeo} (hE : mdOk E l G cX1_remove 5 rmX1_remove) (v1 : Int32) (σ : dS) {out} (h : md_remove_b0 v1 σ = some out) (k : dK E cX1_remove (some .int) out) : dG E σ 0 [v1] [] := by
  unfold md_remove_b0 at h
  refine dg_aload0 hE dX1_remove_0 ?_
  refine dg_iload_n hE dX1_remove_1 0 rfl rfl ?_
  refine md_ca_where hE (by decide) dX1_remove_2 (Nat.le_of_ble_eq_true rfl) h (fun r_ h => ?_)
  exact w_md_remove_b5 hE v1 (r_.1) (r_.2) h k
theorem w_md_remove_st {E : dEnv} {l : Launch} {G : dGeo} (hE : mdOk E l G cX1_remove 5 rmX1_remove) (a : Nat × List Int32 × dS) {out} (h : md_remove_st a = some out) (k : dK E cX1_remove (some .int) out) : dG E a.2.2 a.1 a.2.1 [] := by
  obtain ⟨L, xs, σ⟩ := a
  unfold md_remove_st at h
  dsimp only at h ⊢
  by_cases c_ : L = 33
  · subst c_
    rw [if_pos rfl] at h
    match xs, h with
    | [x0, x1, x2, x3], h => exact w_md_remove_b33 hE x0 x1 x2 x3 σ h k
    | [], h => cases h
    | [_], h => cases h
    | [_, _], h => cases h
    | [_, _, _], h => cases h
    | _ :: _ :: _ :: _ :: _ :: _, h => cases h
  rw [if_neg c_] at h
  cases h
theorem met_md_remove (l : Launch) (G : dGeo) (sz : Nat) (v1 : Int32) (σ : dS) {r : Int32 × dS} (h : md_remove v1 σ = some r) : Met l yX1_remove (ws_ yX1_remove cX1_remove 5 (some .int)) rmX1_remove (dPc G.1 (md_ty G) (md_w G σ) sz [.ref G.2.1, .int v1]) (dQi G.1 (md_ty G) (md_w G σ) (md_w G r.2) sz r.1) 0 0 (va_A (md_w G σ) sz) := by
  refine dMet_i (w := md_w G) (σ := σ) (σ' := r.2) (th := [(0, .ref G.2.1)]) (b := 1) (xs := [v1]) (by decide) rfl rfl (Nat.le_of_ble_eq_true rfl) dth (fun E hE k => ?_)
  unfold md_remove at h
  obtain ⟨out, h1, h2⟩ := lpB_some h
  exact w_md_remove_b0 hE v1 σ h1 (dK_lp (fun a out => w_md_remove_st hE a) h2 k)
abbrev rmX1_isBelow : Room := { frames := 1, cells := 0, slots := 0, locals := 22 }
theorem w_md_isBelow_b26 {E : dEnv} {l : Launch} {G : dGeo} (hE : mdOk E l G cX1_isBelow 5 rmX1_isBelow) (s0 s1 : Int32) (σ : dS) {out} (h : md_isBelow_b26 s0 s1 σ = some out) (k : dR E cX1_isBelow (some .boolean) out) : dG E σ 26 [] [.int s0, .int s1] := by
  unfold md_isBelow_b26 at h
  refine dg_icmp_ge hE dX1_isBelow_26 (tgt := 33) (by decide) h (fun h => ?_) (fun h => ?_)
  · refine dg_iconst hE dX1_isBelow_33 (v := (0 : Int32)) (by decide) ?_
    cases h
    exact k nz0 _ _ dX1_isBelow_34
  · refine dg_iconst hE dX1_isBelow_29 (v := (1 : Int32)) (by decide) ?_
    refine dg_goto hE dX1_isBelow_30 (tgt := 34) (by decide) ?_
    cases h
    exact k nz1 _ _ dX1_isBelow_34
theorem w_md_isBelow_b11 {E : dEnv} {l : Launch} {G : dGeo} (hE : mdOk E l G cX1_isBelow 5 rmX1_isBelow) (v1 v2 v3 s0 : Int32) (σ : dS) {out} (h : md_isBelow_b11 v1 v2 v3 s0 σ = some out) (k : dR E cX1_isBelow (some .boolean) out) : dG E σ 11 [v1, v2, v3] [.int s0] := by
  unfold md_isBelow_b11 at h
  refine dg_istore hE dX1_isBelow_11 3 (xs' := [v1, v2, v3, s0]) rfl (Nat.le_of_ble_eq_true rfl) (by decide) rfl ?_
  refine dg_iload hE dX1_isBelow_13 3 rfl rfl ?_
  refine dg_iload_n hE dX1_isBelow_15 2 rfl rfl ?_
  refine dg_icmp_le hE dX1_isBelow_16 (tgt := 33) (by decide) h (fun h => ?_) (fun h => ?_)
  · refine dg_iconst hE dX1_isBelow_33 (v := (0 : Int32)) (by decide) ?_
    cases h
    exact k nz0 _ _ dX1_isBelow_34
  · refine dg_iload hE dX1_isBelow_19 3 rfl rfl ?_
    refine dg_aload0 hE dX1_isBelow_21 ?_
    refine dg_iload_n hE dX1_isBelow_22 2 rfl rfl ?_
    refine md_ca_behind hE (by decide) dX1_isBelow_23 (Nat.le_of_ble_eq_true rfl) h (fun r_ h => ?_)
    refine dg_drop (xs' := []) (ys := [v1, v2, v3, s0]) rfl ?_
    exact w_md_isBelow_b26 hE (r_.1) s0 (r_.2) h k
theorem w_md_isBelow_b5 {E : dEnv} {l : Launch} {G : dGeo} (hE : mdOk E l G cX1_isBelow 5 rmX1_isBelow) (v1 v2 s0 : Int32) (σ : dS) {out} (h : md_isBelow_b5 v1 v2 s0 σ = some out) (k : dR E cX1_isBelow (some .boolean) out) : dG E σ 5 [v1, v2] [.int s0] := by
  unfold md_isBelow_b5 at h
  refine dg_istore_n hE dX1_isBelow_5 2 (xs' := [v1, v2, s0]) rfl (Nat.le_of_ble_eq_true rfl) (by decide) rfl ?_
  refine dg_aload0 hE dX1_isBelow_6 ?_
  refine dg_iload_n hE dX1_isBelow_7 0 rfl rfl ?_
  refine md_ca_where hE (by decide) dX1_isBelow_8 (Nat.le_of_ble_eq_true rfl) h (fun r_ h => ?_)
  exact w_md_isBelow_b11 hE v1 v2 s0 (r_.1) (r_.2) h k
theorem w_md_isBelow_b0 {E : dEnv} {l : Launch} {G : dGeo} (hE : mdOk E l G cX1_isBelow 5 rmX1_isBelow) (v1 v2 : Int32) (σ : dS) {out} (h : md_isBelow_b0 v1 v2 σ = some out) (k : dR E cX1_isBelow (some .boolean) out) : dG E σ 0 [v1, v2] [] := by
  unfold md_isBelow_b0 at h
  refine dg_aload0 hE dX1_isBelow_0 ?_
  refine dg_iload_n hE dX1_isBelow_1 1 rfl rfl ?_
  refine md_ca_where hE (by decide) dX1_isBelow_2 (Nat.le_of_ble_eq_true rfl) h (fun r_ h => ?_)
  exact w_md_isBelow_b5 hE v1 v2 (r_.1) (r_.2) h k
theorem met_md_isBelow (l : Launch) (G : dGeo) (sz : Nat) (v1 v2 : Int32) (σ : dS) {r : Int32 × dS} (h : md_isBelow v1 v2 σ = some r) : Met l yX1_isBelow (ws_ yX1_isBelow cX1_isBelow 5 (some .boolean)) rmX1_isBelow (dPc G.1 (md_ty G) (md_w G σ) sz [.ref G.2.1, .int v1, .int v2]) (dQi G.1 (md_ty G) (md_w G σ) (md_w G r.2) sz r.1) 0 0 (va_A (md_w G σ) sz) := by
  refine dMet_i (w := md_w G) (σ := σ) (σ' := r.2) (th := [(0, .ref G.2.1)]) (b := 1) (xs := [v1, v2]) (by decide) rfl rfl (Nat.le_of_ble_eq_true rfl) dth (fun E hE k => ?_)
  unfold md_isBelow at h
  exact w_md_isBelow_b0 hE v1 v2 σ h k
theorem md_ca_isBelow {E : dEnv} {l : Launch} {G : dGeo} {cc : ByteArray} {nL pc : Nat} {R : Room} {σ : dS} {xs : List Int32} {st : List Value} {τ : Type} {g : Int32 × dS → Option τ} {out : τ} {a0 a1 : Int32} (hE : mdOk E l G cc nL R) (hR : 1 + 1 ≤ R.frames ∧ 8 + (5 + 11) + 22 ≤ R.locals) (hd : decode cc pc = .ok (.invokevirtual 99, 3)) (hs : (st.map fun v => v.category).sum ≤ 8) (h : Option.bind (md_isBelow a0 a1 σ) g = some out) (k : ∀ r, g r = some out → dG E r.2 (pc + 3) xs (.int r.1 :: st)) : dG E σ pc xs (.int a1 :: .int a0 :: .ref G.2.1 :: st) := by
  obtain ⟨r, h1, h2⟩ := obind h
  exact dg_callVi hE (As := [.int a0, .int a1]) (st := st) (C := RX1) (rm := rmX1_isBelow) (md_recv G) (fun sz => met_md_isBelow l G sz a0 a1 σ h1) (lw_V q478 q480 qs28 q51 q481) 2 rfl ⟨rfl, rfl⟩ (by decide +kernel) hR rfl hs hd (k r h2)
abbrev rmX1_move : Room := { frames := 2, cells := 0, slots := 0, locals := 47 }
theorem w_md_move_b297 {E : dEnv} {l : Launch} {G : dGeo} (hE : mdOk E l G cX1_move 11 rmX1_move) (v1 v2 v3 v4 v5 v6 v7 v8 : Int32) (σ : dS) {out} (h : md_move_b297 v1 v2 v3 v4 v5 v6 v7 v8 σ = some out) (k : dK E cX1_move (some .boolean) out) : dG E σ 297 [v1, v2, v3, v4, v5, v6, v7, v8] [] := by
  unfold md_move_b297 at h
  refine dg_iload hE dX1_move_297 7 rfl rfl ?_
  obtain ⟨hz, h⟩ := zok_some h
  cases h
  exact k hz _ _ dX1_move_299
theorem w_md_move_b270 {E : dEnv} {l : Launch} {G : dGeo} (hE : mdOk E l G cX1_move 11 rmX1_move) (v1 v2 v3 v4 v5 v6 v7 v8 v9 v10 : Int32) (σ : dS) {out} (h : md_move_b270 v1 v2 v3 v4 v5 v6 v7 v8 v9 v10 σ = some out) (k : dK E cX1_move (some .boolean) out) : dG E σ 270 [v1, v2, v3, v4, v5, v6, v7, v8, v9, v10] [] := by
  unfold md_move_b270 at h
  refine dg_aload0 hE dX1_move_270 ?_
  refine md_gf1 hE dX1_move_271 ?_
  refine dg_aload0 hE dX1_move_274 ?_
  refine md_gf4 hE dX1_move_275 ?_
  refine dg_iload hE dX1_move_278 9 rfl rfl ?_
  refine md_ld4 hE dX1_move_280 h (fun h => ?_)
  refine dg_dup2 hE dX1_move_281 rfl rfl ?_
  refine md_ld1 hE dX1_move_282 h (fun h => ?_)
  refine dg_iload hE dX1_move_283 8 rfl rfl ?_
  refine dg_iadd hE dX1_move_285 ?_
  refine md_as1 hE dX1_move_286 h (fun h => ?_)
  refine dg_iinc hE dX1_move_287 9 (xs' := [v1, v2, v3, v4, v5, v6, v7, v8, v9, (v10 + (1 : Int32))]) rfl rfl (by decide) rfl ?_
  refine dg_goto hE dX1_move_290 (tgt := 246) (by decide) ?_
  cases h
  exact k
theorem w_md_move_b246 {E : dEnv} {l : Launch} {G : dGeo} (hE : mdOk E l G cX1_move 11 rmX1_move) (v1 v2 v3 v4 v5 v6 v7 v8 v9 v10 : Int32) (σ : dS) {out} (h : md_move_b246 v1 v2 v3 v4 v5 v6 v7 v8 v9 v10 σ = some out) (k : dK E cX1_move (some .boolean) out) : dG E σ 246 [v1, v2, v3, v4, v5, v6, v7, v8, v9, v10] [] := by
  unfold md_move_b246 at h
  refine dg_iload hE dX1_move_246 9 rfl rfl ?_
  refine dg_iload hE dX1_move_248 4 rfl rfl ?_
  refine dg_icmp_ge hE dX1_move_250 (tgt := 293) (by decide) h (fun h => ?_) (fun h => ?_)
  · refine dg_aload0 hE dX1_move_293 ?_
    refine md_ca_changed hE (by decide) dX1_move_294 (Nat.le_of_ble_eq_true rfl) h (fun r_ h => ?_)
    refine dg_drop (xs' := [v1, v2, v3, v4, v5, v6, v7, v8]) (ys := [v9, v10]) rfl ?_
    exact w_md_move_b297 hE v1 v2 v3 v4 v5 v6 v7 v8 (r_.2) h k
  · refine dg_aload0 hE dX1_move_253 ?_
    refine md_gf0 hE dX1_move_254 ?_
    refine dg_iload hE dX1_move_257 6 rfl rfl ?_
    refine dg_iload hE dX1_move_259 9 rfl rfl ?_
    refine dg_iadd hE dX1_move_261 ?_
    refine dg_aload0 hE dX1_move_262 ?_
    refine md_gf4 hE dX1_move_263 ?_
    refine dg_iload hE dX1_move_266 9 rfl rfl ?_
    refine md_ld4 hE dX1_move_268 h (fun h => ?_)
    refine md_as0 hE dX1_move_269 h (fun h => ?_)
    exact w_md_move_b270 hE v1 v2 v3 v4 v5 v6 v7 v8 v9 v10 (up2 σ 0 (v7 + v10).toNatClampNeg (σ 4 v10.toNatClampNeg)) h k
theorem w_md_move_b241 {E : dEnv} {l : Launch} {G : dGeo} (hE : mdOk E l G cX1_move 11 rmX1_move) (v1 v2 v3 v4 v5 v6 v7 v8 s0 : Int32) (σ : dS) {out} (h : md_move_b241 v1 v2 v3 v4 v5 v6 v7 v8 s0 σ = some out) (k : dK E cX1_move (some .boolean) out) : dG E σ 241 [v1, v2, v3, v4, v5, v6, v7, v8] [.int s0] := by
  unfold md_move_b241 at h
  refine dg_istore hE dX1_move_241 8 (xs' := [v1, v2, v3, v4, v5, v6, v7, v8, s0]) rfl (Nat.le_of_ble_eq_true rfl) (by decide) rfl ?_
  refine dg_iconst hE dX1_move_243 (v := (0 : Int32)) (by decide) ?_
  refine dg_istore hE dX1_move_244 9 (xs' := [v1, v2, v3, v4, v5, v6, v7, v8, s0, (0 : Int32)]) rfl (Nat.le_of_ble_eq_true rfl) (by decide) rfl ?_
  cases h
  exact k
theorem w_md_move_b217 {E : dEnv} {l : Launch} {G : dGeo} (hE : mdOk E l G cX1_move 11 rmX1_move) (v1 v2 v3 v4 v5 v6 v7 v8 : Int32) (σ : dS) {out} (h : md_move_b217 v1 v2 v3 v4 v5 v6 v7 v8 σ = some out) (k : dK E cX1_move (some .boolean) out) : dG E σ 217 [v1, v2, v3, v4, v5, v6, v7, v8] [] := by
  unfold md_move_b217 at h
  refine dg_iload hE dX1_move_217 7 rfl rfl ?_
  refine dg_if_eq hE dX1_move_219 (tgt := 240) (by decide) h (fun h => ?_) (fun h => ?_)
  · refine dg_iconst hE dX1_move_240 (v := (0 : Int32)) (by decide) ?_
    exact w_md_move_b241 hE v1 v2 v3 v4 v5 v6 v7 v8 (0 : Int32) σ h k
  · refine dg_aload0 hE dX1_move_222 ?_
    refine md_gf1 hE dX1_move_223 ?_
    refine dg_iload_n hE dX1_move_226 1 rfl rfl ?_
    refine md_ld1 hE dX1_move_227 h (fun h => ?_)
    refine dg_iconst hE dX1_move_228 (v := (1 : Int32)) (by decide) ?_
    refine dg_iadd hE dX1_move_229 ?_
    refine dg_aload0 hE dX1_move_230 ?_
    refine md_gf1 hE dX1_move_231 ?_
    refine dg_iload_n hE dX1_move_234 0 rfl rfl ?_
    refine md_ld1 hE dX1_move_235 h (fun h => ?_)
    refine dg_isub hE dX1_move_236 ?_
    refine dg_goto hE dX1_move_237 (tgt := 241) (by decide) ?_
    exact w_md_move_b241 hE v1 v2 v3 v4 v5 v6 v7 v8 (((σ 1 v2.toNatClampNeg) + (1 : Int32)) - (σ 1 v1.toNatClampNeg)) σ h k
theorem w_md_move_b176 {E : dEnv} {l : Launch} {G : dGeo} (hE : mdOk E l G cX1_move 11 rmX1_move) (v1 v2 v3 v4 v5 v6 v7 v8 v9 : Int32) (σ : dS) {out} (h : md_move_b176 v1 v2 v3 v4 v5 v6 v7 v8 v9 σ = some out) (k : dK E cX1_move (some .boolean) out) : dG E σ 176 [v1, v2, v3, v4, v5, v6, v7, v8, v9] [] := by
  unfold md_move_b176 at h
  refine dg_iload hE dX1_move_176 8 rfl rfl ?_
  refine dg_iload hE dX1_move_178 6 rfl rfl ?_
  refine dg_icmp_lt hE dX1_move_180 (tgt := 206) (by decide) h (fun h => ?_) (fun h => ?_)
  · refine dg_aload0 hE dX1_move_206 ?_
    refine dg_dup hE dX1_move_207 rfl ?_
    refine md_gf5 hE dX1_move_208 ?_
    refine dg_iload hE dX1_move_211 4 rfl rfl ?_
    refine dg_iadd hE dX1_move_213 ?_
    refine md_pf5 hE dX1_move_214 ?_
    refine dg_drop (xs' := [v1, v2, v3, v4, v5, v6, v7, v8]) (ys := [v9]) rfl ?_
    exact w_md_move_b217 hE v1 v2 v3 v4 v5 v6 v7 v8 (up2 σ 5 0 ((σ 5 0) + v5)) h k
  · refine dg_aload0 hE dX1_move_183 ?_
    refine md_gf0 hE dX1_move_184 ?_
    refine dg_iload hE dX1_move_187 8 rfl rfl ?_
    refine dg_iload hE dX1_move_189 4 rfl rfl ?_
    refine dg_iadd hE dX1_move_191 ?_
    refine dg_aload0 hE dX1_move_192 ?_
    refine md_gf0 hE dX1_move_193 ?_
    refine dg_iload hE dX1_move_196 8 rfl rfl ?_
    refine md_ld0 hE dX1_move_198 h (fun h => ?_)
    refine md_as0 hE dX1_move_199 h (fun h => ?_)
    refine dg_iinc hE dX1_move_200 8 (xs' := [v1, v2, v3, v4, v5, v6, v7, v8, (v9 + (-1 : Int32))]) rfl rfl (by decide) rfl ?_
    refine dg_goto hE dX1_move_203 (tgt := 176) (by decide) ?_
    cases h
    exact k
theorem w_md_move_b168 {E : dEnv} {l : Launch} {G : dGeo} (hE : mdOk E l G cX1_move 11 rmX1_move) (v1 v2 v3 v4 v5 v6 v7 v8 : Int32) (σ : dS) {out} (h : md_move_b168 v1 v2 v3 v4 v5 v6 v7 v8 σ = some out) (k : dK E cX1_move (some .boolean) out) : dG E σ 168 [v1, v2, v3, v4, v5, v6, v7, v8] [] := by
  unfold md_move_b168 at h
  refine dg_aload0 hE dX1_move_168 ?_
  refine md_gf5 hE dX1_move_169 ?_
  refine dg_iconst hE dX1_move_172 (v := (1 : Int32)) (by decide) ?_
  refine dg_isub hE dX1_move_173 ?_
  refine dg_istore hE dX1_move_174 8 (xs' := [v1, v2, v3, v4, v5, v6, v7, v8, ((σ 5 0) - (1 : Int32))]) rfl (Nat.le_of_ble_eq_true rfl) (by decide) rfl ?_
  cases h
  exact k
theorem w_md_move_b157 {E : dEnv} {l : Launch} {G : dGeo} (hE : mdOk E l G cX1_move 11 rmX1_move) (v1 v2 v3 v4 v5 v6 v7 s0 : Int32) (σ : dS) {out} (h : md_move_b157 v1 v2 v3 v4 v5 v6 v7 s0 σ = some out) (k : dK E cX1_move (some .boolean) out) : dG E σ 157 [v1, v2, v3, v4, v5, v6, v7] [.int s0] := by
  unfold md_move_b157 at h
  refine dg_istore hE dX1_move_157 7 (xs' := [v1, v2, v3, v4, v5, v6, v7, s0]) rfl (Nat.le_of_ble_eq_true rfl) (by decide) rfl ?_
  refine dg_iload hE dX1_move_159 7 rfl rfl ?_
  refine dg_if_ne hE dX1_move_161 (tgt := 168) (by decide) h (fun h => ?_) (fun h => ?_)
  · exact w_md_move_b168 hE v1 v2 v3 v4 v5 v6 v7 s0 σ h k
  · refine dg_iload hE dX1_move_164 3 rfl rfl ?_
    refine dg_istore hE dX1_move_166 6 (xs' := [v1, v2, v3, v4, v5, v6, v4, s0]) rfl (Nat.le_of_ble_eq_true rfl) (by decide) rfl ?_
    exact w_md_move_b168 hE v1 v2 v3 v4 v5 v6 v4 s0 σ h k
theorem w_md_move_b145 {E : dEnv} {l : Launch} {G : dGeo} (hE : mdOk E l G cX1_move 11 rmX1_move) (v1 v2 v3 v4 v5 v6 s0 : Int32) (σ : dS) {out} (h : md_move_b145 v1 v2 v3 v4 v5 v6 s0 σ = some out) (k : dK E cX1_move (some .boolean) out) : dG E σ 145 [v1, v2, v3, v4, v5, v6] [.int s0] := by
  unfold md_move_b145 at h
  refine dg_istore hE dX1_move_145 6 (xs' := [v1, v2, v3, v4, v5, v6, s0]) rfl (Nat.le_of_ble_eq_true rfl) (by decide) rfl ?_
  refine dg_iload hE dX1_move_147 6 rfl rfl ?_
  refine dg_if_lt hE dX1_move_149 (tgt := 156) (by decide) h (fun h => ?_) (fun h => ?_)
  · refine dg_iconst hE dX1_move_156 (v := (0 : Int32)) (by decide) ?_
    exact w_md_move_b157 hE v1 v2 v3 v4 v5 v6 s0 (0 : Int32) σ h k
  · refine dg_iconst hE dX1_move_152 (v := (1 : Int32)) (by decide) ?_
    refine dg_goto hE dX1_move_153 (tgt := 157) (by decide) ?_
    exact w_md_move_b157 hE v1 v2 v3 v4 v5 v6 s0 (1 : Int32) σ h k
theorem w_md_move_b136 {E : dEnv} {l : Launch} {G : dGeo} (hE : mdOk E l G cX1_move 11 rmX1_move) (v1 v2 v3 v4 v5 s0 : Int32) (σ : dS) {out} (h : md_move_b136 v1 v2 v3 v4 v5 s0 σ = some out) (k : dK E cX1_move (some .boolean) out) : dG E σ 136 [v1, v2, v3, v4, v5] [.int s0] := by
  unfold md_move_b136 at h
  refine dg_istore hE dX1_move_136 5 (xs' := [v1, v2, v3, v4, v5, s0]) rfl (Nat.le_of_ble_eq_true rfl) (by decide) rfl ?_
  refine dg_aload0 hE dX1_move_138 ?_
  refine dg_iload hE dX1_move_139 5 rfl rfl ?_
  refine dg_iload_n hE dX1_move_141 2 rfl rfl ?_
  refine md_ca_place hE (by decide) dX1_move_142 (Nat.le_of_ble_eq_true rfl) h (fun r_ h => ?_)
  exact w_md_move_b145 hE v1 v2 v3 v4 v5 s0 (r_.1) (r_.2) h k
theorem w_md_move_b99 {E : dEnv} {l : Launch} {G : dGeo} (hE : mdOk E l G cX1_move 11 rmX1_move) (v1 v2 v3 v4 v5 v6 : Int32) (σ : dS) {out} (h : md_move_b99 v1 v2 v3 v4 v5 v6 σ = some out) (k : dK E cX1_move (some .boolean) out) : dG E σ 99 [v1, v2, v3, v4, v5, v6] [] := by
  unfold md_move_b99 at h
  refine dg_iload hE dX1_move_99 5 rfl rfl ?_
  refine dg_aload0 hE dX1_move_101 ?_
  refine md_gf5 hE dX1_move_102 ?_
  refine dg_icmp_ge hE dX1_move_105 (tgt := 131) (by decide) h (fun h => ?_) (fun h => ?_)
  · refine dg_aload0 hE dX1_move_131 ?_
    refine dg_iload_n hE dX1_move_132 1 rfl rfl ?_
    refine md_ca_where hE (by decide) dX1_move_133 (Nat.le_of_ble_eq_true rfl) h (fun r_ h => ?_)
    refine dg_drop (xs' := [v1, v2, v3, v4, v5]) (ys := [v6]) rfl ?_
    exact w_md_move_b136 hE v1 v2 v3 v4 v5 (r_.1) (r_.2) h k
  · refine dg_aload0 hE dX1_move_108 ?_
    refine md_gf0 hE dX1_move_109 ?_
    refine dg_iload hE dX1_move_112 5 rfl rfl ?_
    refine dg_aload0 hE dX1_move_114 ?_
    refine md_gf0 hE dX1_move_115 ?_
    refine dg_iload hE dX1_move_118 5 rfl rfl ?_
    refine dg_iload hE dX1_move_120 4 rfl rfl ?_
    refine dg_iadd hE dX1_move_122 ?_
    refine md_ld0 hE dX1_move_123 h (fun h => ?_)
    refine md_as0 hE dX1_move_124 h (fun h => ?_)
    refine dg_iinc hE dX1_move_125 5 (xs' := [v1, v2, v3, v4, v5, (v6 + (1 : Int32))]) rfl rfl (by decide) rfl ?_
    refine dg_goto hE dX1_move_128 (tgt := 99) (by decide) ?_
    cases h
    exact k
theorem w_md_move_b95 {E : dEnv} {l : Launch} {G : dGeo} (hE : mdOk E l G cX1_move 11 rmX1_move) (v1 v2 v3 v4 v5 : Int32) (σ : dS) {out} (h : md_move_b95 v1 v2 v3 v4 v5 σ = some out) (k : dK E cX1_move (some .boolean) out) : dG E σ 95 [v1, v2, v3, v4, v5] [] := by
  unfold md_move_b95 at h
  refine dg_iload hE dX1_move_95 3 rfl rfl ?_
  refine dg_istore hE dX1_move_97 5 (xs' := [v1, v2, v3, v4, v5, v4]) rfl (Nat.le_of_ble_eq_true rfl) (by decide) rfl ?_
  cases h
  exact k
theorem w_md_move_b54 {E : dEnv} {l : Launch} {G : dGeo} (hE : mdOk E l G cX1_move 11 rmX1_move) (v1 v2 v3 v4 v5 v6 : Int32) (σ : dS) {out} (h : md_move_b54 v1 v2 v3 v4 v5 v6 σ = some out) (k : dK E cX1_move (some .boolean) out) : dG E σ 54 [v1, v2, v3, v4, v5, v6] [] := by
  unfold md_move_b54 at h
  refine dg_iload hE dX1_move_54 5 rfl rfl ?_
  refine dg_iload hE dX1_move_56 4 rfl rfl ?_
  refine dg_icmp_ge hE dX1_move_58 (tgt := 84) (by decide) h (fun h => ?_) (fun h => ?_)
  · refine dg_aload0 hE dX1_move_84 ?_
    refine dg_dup hE dX1_move_85 rfl ?_
    refine md_gf5 hE dX1_move_86 ?_
    refine dg_iload hE dX1_move_89 4 rfl rfl ?_
    refine dg_isub hE dX1_move_91 ?_
    refine md_pf5 hE dX1_move_92 ?_
    refine dg_drop (xs' := [v1, v2, v3, v4, v5]) (ys := [v6]) rfl ?_
    exact w_md_move_b95 hE v1 v2 v3 v4 v5 (up2 σ 5 0 ((σ 5 0) - v5)) h k
  · refine dg_aload0 hE dX1_move_61 ?_
    refine md_gf4 hE dX1_move_62 ?_
    refine dg_iload hE dX1_move_65 5 rfl rfl ?_
    refine dg_aload0 hE dX1_move_67 ?_
    refine md_gf0 hE dX1_move_68 ?_
    refine dg_iload hE dX1_move_71 3 rfl rfl ?_
    refine dg_iload hE dX1_move_73 5 rfl rfl ?_
    refine dg_iadd hE dX1_move_75 ?_
    refine md_ld0 hE dX1_move_76 h (fun h => ?_)
    refine md_as4 hE dX1_move_77 h (fun h => ?_)
    refine dg_iinc hE dX1_move_78 5 (xs' := [v1, v2, v3, v4, v5, (v6 + (1 : Int32))]) rfl rfl (by decide) rfl ?_
    refine dg_goto hE dX1_move_81 (tgt := 54) (by decide) ?_
    cases h
    exact k
theorem w_md_move_b51 {E : dEnv} {l : Launch} {G : dGeo} (hE : mdOk E l G cX1_move 11 rmX1_move) (v1 v2 v3 v4 v5 : Int32) (σ : dS) {out} (h : md_move_b51 v1 v2 v3 v4 v5 σ = some out) (k : dK E cX1_move (some .boolean) out) : dG E σ 51 [v1, v2, v3, v4, v5] [] := by
  unfold md_move_b51 at h
  refine dg_iconst hE dX1_move_51 (v := (0 : Int32)) (by decide) ?_
  refine dg_istore hE dX1_move_52 5 (xs' := [v1, v2, v3, v4, v5, (0 : Int32)]) rfl (Nat.le_of_ble_eq_true rfl) (by decide) rfl ?_
  cases h
  exact k
theorem w_md_move_b46 {E : dEnv} {l : Launch} {G : dGeo} (hE : mdOk E l G cX1_move 11 rmX1_move) (v1 v2 v3 v4 s0 : Int32) (σ : dS) {out} (h : md_move_b46 v1 v2 v3 v4 s0 σ = some out) (k : dK E cX1_move (some .boolean) out) : dG E σ 46 [v1, v2, v3, v4] [.int s0] := by
  unfold md_move_b46 at h
  refine dg_iload hE dX1_move_46 3 rfl rfl ?_
  refine dg_isub hE dX1_move_48 ?_
  refine dg_istore hE dX1_move_49 4 (xs' := [v1, v2, v3, v4, (s0 - v4)]) rfl (Nat.le_of_ble_eq_true rfl) (by decide) rfl ?_
  exact w_md_move_b51 hE v1 v2 v3 v4 (s0 - v4) σ h k
theorem w_md_move_b31 {E : dEnv} {l : Launch} {G : dGeo} (hE : mdOk E l G cX1_move 11 rmX1_move) (v1 v2 v3 v4 s0 : Int32) (σ : dS) {out} (h : md_move_b31 v1 v2 v3 v4 s0 σ = some out) (k : dK E cX1_move (some .boolean) out) : dG E σ 31 [v1, v2, v3, v4] [.int s0] := by
  unfold md_move_b31 at h
  refine dg_if_ne hE dX1_move_31 (tgt := 38) (by decide) h (fun h => ?_) (fun h => ?_)
  · refine dg_iconst hE dX1_move_38 (v := (0 : Int32)) (by decide) ?_
    cases h
    exact k nz0 _ _ dX1_move_39
  · refine dg_iload_n hE dX1_move_34 2 rfl rfl ?_
    refine dg_if_ge hE dX1_move_35 (tgt := 40) (by decide) h (fun h => ?_) (fun h => ?_)
    · refine dg_aload0 hE dX1_move_40 ?_
      refine dg_iload hE dX1_move_41 3 rfl rfl ?_
      refine md_ca_behind hE (by decide) dX1_move_43 (Nat.le_of_ble_eq_true rfl) h (fun r_ h => ?_)
      exact w_md_move_b46 hE v1 v2 v3 v4 (r_.1) (r_.2) h k
    · refine dg_iconst hE dX1_move_38 (v := (0 : Int32)) (by decide) ?_
      cases h
      exact k nz0 _ _ dX1_move_39
theorem w_md_move_b17 {E : dEnv} {l : Launch} {G : dGeo} (hE : mdOk E l G cX1_move 11 rmX1_move) (v1 v2 v3 v4 s0 : Int32) (σ : dS) {out} (h : md_move_b17 v1 v2 v3 v4 s0 σ = some out) (k : dK E cX1_move (some .boolean) out) : dG E σ 17 [v1, v2, v3, v4] [.int s0] := by
  unfold md_move_b17 at h
  refine dg_if_lt hE dX1_move_17 (tgt := 38) (by decide) h (fun h => ?_) (fun h => ?_)
  · refine dg_iconst hE dX1_move_38 (v := (0 : Int32)) (by decide) ?_
    cases h
    exact k nz0 _ _ dX1_move_39
  · refine dg_iload_n hE dX1_move_20 0 rfl rfl ?_
    refine dg_iload_n hE dX1_move_21 1 rfl rfl ?_
    refine dg_icmp_eq hE dX1_move_22 (tgt := 38) (by decide) h (fun h => ?_) (fun h => ?_)
    · refine dg_iconst hE dX1_move_38 (v := (0 : Int32)) (by decide) ?_
      cases h
      exact k nz0 _ _ dX1_move_39
    · refine dg_aload0 hE dX1_move_25 ?_
      refine dg_iload_n hE dX1_move_26 1 rfl rfl ?_
      refine dg_iload_n hE dX1_move_27 0 rfl rfl ?_
      refine md_ca_isBelow hE (by decide) dX1_move_28 (Nat.le_of_ble_eq_true rfl) h (fun r_ h => ?_)
      exact w_md_move_b31 hE v1 v2 v3 v4 (r_.1) (r_.2) h k
theorem w_md_move_b5 {E : dEnv} {l : Launch} {G : dGeo} (hE : mdOk E l G cX1_move 11 rmX1_move) (v1 v2 v3 s0 : Int32) (σ : dS) {out} (h : md_move_b5 v1 v2 v3 s0 σ = some out) (k : dK E cX1_move (some .boolean) out) : dG E σ 5 [v1, v2, v3] [.int s0] := by
  unfold md_move_b5 at h
  refine dg_istore hE dX1_move_5 3 (xs' := [v1, v2, v3, s0]) rfl (Nat.le_of_ble_eq_true rfl) (by decide) rfl ?_
  refine dg_iload hE dX1_move_7 3 rfl rfl ?_
  refine dg_if_lt hE dX1_move_9 (tgt := 38) (by decide) h (fun h => ?_) (fun h => ?_)
  · refine dg_iconst hE dX1_move_38 (v := (0 : Int32)) (by decide) ?_
    cases h
    exact k nz0 _ _ dX1_move_39
  · refine dg_aload0 hE dX1_move_12 ?_
    refine dg_iload_n hE dX1_move_13 1 rfl rfl ?_
    refine md_ca_where hE (by decide) dX1_move_14 (Nat.le_of_ble_eq_true rfl) h (fun r_ h => ?_)
    exact w_md_move_b17 hE v1 v2 v3 s0 (r_.1) (r_.2) h k
theorem w_md_move_b0 {E : dEnv} {l : Launch} {G : dGeo} (hE : mdOk E l G cX1_move 11 rmX1_move) (v1 v2 v3 : Int32) (σ : dS) {out} (h : md_move_b0 v1 v2 v3 σ = some out) (k : dK E cX1_move (some .boolean) out) : dG E σ 0 [v1, v2, v3] [] := by
  unfold md_move_b0 at h
  refine dg_aload0 hE dX1_move_0 ?_
  refine dg_iload_n hE dX1_move_1 0 rfl rfl ?_
  refine md_ca_where hE (by decide) dX1_move_2 (Nat.le_of_ble_eq_true rfl) h (fun r_ h => ?_)
  exact w_md_move_b5 hE v1 v2 v3 (r_.1) (r_.2) h k
theorem w_md_move_st {E : dEnv} {l : Launch} {G : dGeo} (hE : mdOk E l G cX1_move 11 rmX1_move) (a : Nat × List Int32 × dS) {out} (h : md_move_st a = some out) (k : dK E cX1_move (some .boolean) out) : dG E a.2.2 a.1 a.2.1 [] := by
  obtain ⟨L, xs, σ⟩ := a
  unfold md_move_st at h
  dsimp only at h ⊢
  by_cases c_ : L = 54
  · subst c_
    rw [if_pos rfl] at h
    match xs, h with
    | [x0, x1, x2, x3, x4, x5], h => exact w_md_move_b54 hE x0 x1 x2 x3 x4 x5 σ h k
    | [], h => cases h
    | [_], h => cases h
    | [_, _], h => cases h
    | [_, _, _], h => cases h
    | [_, _, _, _], h => cases h
    | [_, _, _, _, _], h => cases h
    | _ :: _ :: _ :: _ :: _ :: _ :: _ :: _, h => cases h
  rw [if_neg c_] at h
  by_cases c_ : L = 99
  · subst c_
    rw [if_pos rfl] at h
    match xs, h with
    | [x0, x1, x2, x3, x4, x5], h => exact w_md_move_b99 hE x0 x1 x2 x3 x4 x5 σ h k
    | [], h => cases h
    | [_], h => cases h
    | [_, _], h => cases h
    | [_, _, _], h => cases h
    | [_, _, _, _], h => cases h
    | [_, _, _, _, _], h => cases h
    | _ :: _ :: _ :: _ :: _ :: _ :: _ :: _, h => cases h
  rw [if_neg c_] at h
  by_cases c_ : L = 176
  · subst c_
    rw [if_pos rfl] at h
    match xs, h with
    | [x0, x1, x2, x3, x4, x5, x6, x7, x8], h => exact w_md_move_b176 hE x0 x1 x2 x3 x4 x5 x6 x7 x8 σ h k
    | [], h => cases h
    | [_], h => cases h
    | [_, _], h => cases h
    | [_, _, _], h => cases h
    | [_, _, _, _], h => cases h
    | [_, _, _, _, _], h => cases h
    | [_, _, _, _, _, _], h => cases h
    | [_, _, _, _, _, _, _], h => cases h
    | [_, _, _, _, _, _, _, _], h => cases h
    | _ :: _ :: _ :: _ :: _ :: _ :: _ :: _ :: _ :: _ :: _, h => cases h
  rw [if_neg c_] at h
  by_cases c_ : L = 246
  · subst c_
    rw [if_pos rfl] at h
    match xs, h with
    | [x0, x1, x2, x3, x4, x5, x6, x7, x8, x9], h => exact w_md_move_b246 hE x0 x1 x2 x3 x4 x5 x6 x7 x8 x9 σ h k
    | [], h => cases h
    | [_], h => cases h
    | [_, _], h => cases h
    | [_, _, _], h => cases h
    | [_, _, _, _], h => cases h
    | [_, _, _, _, _], h => cases h
    | [_, _, _, _, _, _], h => cases h
    | [_, _, _, _, _, _, _], h => cases h
    | [_, _, _, _, _, _, _, _], h => cases h
    | [_, _, _, _, _, _, _, _, _], h => cases h
    | _ :: _ :: _ :: _ :: _ :: _ :: _ :: _ :: _ :: _ :: _ :: _, h => cases h
  rw [if_neg c_] at h
  cases h
theorem met_md_move (l : Launch) (G : dGeo) (sz : Nat) (v1 v2 v3 : Int32) (σ : dS) {r : Int32 × dS} (h : md_move v1 v2 v3 σ = some r) : Met l yX1_move (ws_ yX1_move cX1_move 11 (some .boolean)) rmX1_move (dPc G.1 (md_ty G) (md_w G σ) sz [.ref G.2.1, .int v1, .int v2, .int v3]) (dQi G.1 (md_ty G) (md_w G σ) (md_w G r.2) sz r.1) 0 0 (va_A (md_w G σ) sz) := by
  refine dMet_i (w := md_w G) (σ := σ) (σ' := r.2) (th := [(0, .ref G.2.1)]) (b := 1) (xs := [v1, v2, v3]) (by decide) rfl rfl (Nat.le_of_ble_eq_true rfl) dth (fun E hE k => ?_)
  unfold md_move at h
  obtain ⟨out, h1, h2⟩ := lpB_some h
  exact w_md_move_b0 hE v1 v2 v3 σ h1 (dK_lp (fun a out => w_md_move_st hE a) h2 k)
abbrev rmX1_change : Room := { frames := 1, cells := 0, slots := 0, locals := 22 }
theorem w_md_change_b37 {E : dEnv} {l : Launch} {G : dGeo} (hE : mdOk E l G cX1_change 4 rmX1_change) (σ : dS) {out} (h : md_change_b37 σ = some out) (k : dR E cX1_change (some .boolean) out) : dG E σ 37 [] [] := by
  unfold md_change_b37 at h
  refine dg_iconst hE dX1_change_37 (v := (1 : Int32)) (by decide) ?_
  cases h
  exact k nz1 _ _ dX1_change_38
theorem w_md_change_b33 {E : dEnv} {l : Launch} {G : dGeo} (hE : mdOk E l G cX1_change 4 rmX1_change) (σ : dS) {out} (h : md_change_b33 σ = some out) (k : dR E cX1_change (some .boolean) out) : dG E σ 33 [] [] := by
  unfold md_change_b33 at h
  refine dg_aload0 hE dX1_change_33 ?_
  refine md_ca_changed hE (by decide) dX1_change_34 (Nat.le_of_ble_eq_true rfl) h (fun r_ h => ?_)
  exact w_md_change_b37 hE (r_.2) h k
theorem w_md_change_b26 {E : dEnv} {l : Launch} {G : dGeo} (hE : mdOk E l G cX1_change 4 rmX1_change) (v1 v2 v3 : Int32) (σ : dS) {out} (h : md_change_b26 v1 v2 v3 σ = some out) (k : dR E cX1_change (some .boolean) out) : dG E σ 26 [v1, v2, v3] [] := by
  unfold md_change_b26 at h
  refine dg_aload0 hE dX1_change_26 ?_
  refine md_gf3 hE dX1_change_27 ?_
  refine dg_iload_n hE dX1_change_30 0 rfl rfl ?_
  refine dg_iload_n hE dX1_change_31 2 rfl rfl ?_
  refine md_as3 hE dX1_change_32 h (fun h => ?_)
  refine dg_drop (xs' := []) (ys := [v1, v2, v3]) rfl ?_
  exact w_md_change_b33 hE (up2 σ 3 v1.toNatClampNeg v3) h k
theorem w_md_change_b14 {E : dEnv} {l : Launch} {G : dGeo} (hE : mdOk E l G cX1_change 4 rmX1_change) (v1 v2 v3 s0 : Int32) (σ : dS) {out} (h : md_change_b14 v1 v2 v3 s0 σ = some out) (k : dR E cX1_change (some .boolean) out) : dG E σ 14 [v1, v2, v3] [.int s0] := by
  unfold md_change_b14 at h
  refine dg_if_ne hE dX1_change_14 (tgt := 19) (by decide) h (fun h => ?_) (fun h => ?_)
  · refine dg_aload0 hE dX1_change_19 ?_
    refine md_gf2 hE dX1_change_20 ?_
    refine dg_iload_n hE dX1_change_23 0 rfl rfl ?_
    refine dg_iload_n hE dX1_change_24 1 rfl rfl ?_
    refine md_as2 hE dX1_change_25 h (fun h => ?_)
    exact w_md_change_b26 hE v1 v2 v3 (up2 σ 2 v1.toNatClampNeg v2) h k
  · refine dg_iconst hE dX1_change_17 (v := (0 : Int32)) (by decide) ?_
    cases h
    exact k nz0 _ _ dX1_change_18
theorem w_md_change_b5 {E : dEnv} {l : Launch} {G : dGeo} (hE : mdOk E l G cX1_change 4 rmX1_change) (v1 v2 v3 s0 : Int32) (σ : dS) {out} (h : md_change_b5 v1 v2 v3 s0 σ = some out) (k : dR E cX1_change (some .boolean) out) : dG E σ 5 [v1, v2, v3] [.int s0] := by
  unfold md_change_b5 at h
  refine dg_if_lt hE dX1_change_5 (tgt := 17) (by decide) h (fun h => ?_) (fun h => ?_)
  · refine dg_iconst hE dX1_change_17 (v := (0 : Int32)) (by decide) ?_
    cases h
    exact k nz0 _ _ dX1_change_18
  · refine dg_iload_n hE dX1_change_8 1 rfl rfl ?_
    refine dg_iconst hE dX1_change_9 (v := (0 : Int32)) (by decide) ?_
    refine dg_iconst hE dX1_change_10 (v := (5 : Int32)) (by decide) ?_
    refine md_ca_in hE (by decide) dX1_change_11 (Nat.le_of_ble_eq_true rfl) h (fun r_ h => ?_)
    exact w_md_change_b14 hE v1 v2 v3 r_ σ h k
theorem w_md_change_b0 {E : dEnv} {l : Launch} {G : dGeo} (hE : mdOk E l G cX1_change 4 rmX1_change) (v1 v2 v3 : Int32) (σ : dS) {out} (h : md_change_b0 v1 v2 v3 σ = some out) (k : dR E cX1_change (some .boolean) out) : dG E σ 0 [v1, v2, v3] [] := by
  unfold md_change_b0 at h
  refine dg_aload0 hE dX1_change_0 ?_
  refine dg_iload_n hE dX1_change_1 0 rfl rfl ?_
  refine md_ca_where hE (by decide) dX1_change_2 (Nat.le_of_ble_eq_true rfl) h (fun r_ h => ?_)
  exact w_md_change_b5 hE v1 v2 v3 (r_.1) (r_.2) h k
theorem met_md_change (l : Launch) (G : dGeo) (sz : Nat) (v1 v2 v3 : Int32) (σ : dS) {r : Int32 × dS} (h : md_change v1 v2 v3 σ = some r) : Met l yX1_change (ws_ yX1_change cX1_change 4 (some .boolean)) rmX1_change (dPc G.1 (md_ty G) (md_w G σ) sz [.ref G.2.1, .int v1, .int v2, .int v3]) (dQi G.1 (md_ty G) (md_w G σ) (md_w G r.2) sz r.1) 0 0 (va_A (md_w G σ) sz) := by
  refine dMet_i (w := md_w G) (σ := σ) (σ' := r.2) (th := [(0, .ref G.2.1)]) (b := 1) (xs := [v1, v2, v3]) (by decide) rfl rfl (Nat.le_of_ble_eq_true rfl) dth (fun E hE k => ?_)
  unfold md_change at h
  exact w_md_change_b0 hE v1 v2 v3 σ h k
abbrev rmX1_child : Room := { frames := 2, cells := 0, slots := 0, locals := 47 }
theorem w_md_child_b39 {E : dEnv} {l : Launch} {G : dGeo} (hE : mdOk E l G cX1_child 5 rmX1_child) (σ : dS) {out} (h : md_child_b39 σ = some out) (k : dR E cX1_child (some .int) out) : dG E σ 39 [] [] := by
  unfold md_child_b39 at h
  refine dg_iconst hE dX1_child_39 (v := (-1 : Int32)) (by decide) ?_
  refine dg_goto hE dX1_child_40 (tgt := 50) (by decide) ?_
  cases h
  exact k rfl _ _ dX1_child_50
theorem w_md_child_b36 {E : dEnv} {l : Launch} {G : dGeo} (hE : mdOk E l G cX1_child 5 rmX1_child) (v1 v2 v3 v4 s0 s1 : Int32) (σ : dS) {out} (h : md_child_b36 v1 v2 v3 v4 s0 s1 σ = some out) (k : dR E cX1_child (some .int) out) : dG E σ 36 [v1, v2, v3, v4] [.int s0, .int s1] := by
  unfold md_child_b36 at h
  refine dg_icmp_ne hE dX1_child_36 (tgt := 43) (by decide) h (fun h => ?_) (fun h => ?_)
  · refine dg_aload0 hE dX1_child_43 ?_
    refine md_gf0 hE dX1_child_44 ?_
    refine dg_iload hE dX1_child_47 3 rfl rfl ?_
    refine md_ld0 hE dX1_child_49 h (fun h => ?_)
    cases h
    exact k rfl _ _ dX1_child_50
  · refine dg_drop (xs' := []) (ys := [v1, v2, v3, v4]) rfl ?_
    exact w_md_child_b39 hE σ h k
theorem w_md_child_b22 {E : dEnv} {l : Launch} {G : dGeo} (hE : mdOk E l G cX1_child 5 rmX1_child) (v1 v2 v3 s0 : Int32) (σ : dS) {out} (h : md_child_b22 v1 v2 v3 s0 σ = some out) (k : dR E cX1_child (some .int) out) : dG E σ 22 [v1, v2, v3] [.int s0] := by
  unfold md_child_b22 at h
  refine dg_istore hE dX1_child_22 3 (xs' := [v1, v2, v3, s0]) rfl (Nat.le_of_ble_eq_true rfl) (by decide) rfl ?_
  refine dg_iload hE dX1_child_24 3 rfl rfl ?_
  refine dg_if_lt hE dX1_child_26 (tgt := 39) (by decide) h (fun h => ?_) (fun h => ?_)
  · refine dg_drop (xs' := []) (ys := [v1, v2, v3, s0]) rfl ?_
    exact w_md_child_b39 hE σ h k
  · refine dg_iload hE dX1_child_29 3 rfl rfl ?_
    refine dg_aload0 hE dX1_child_31 ?_
    refine dg_iload_n hE dX1_child_32 2 rfl rfl ?_
    refine md_ca_behind hE (by decide) dX1_child_33 (Nat.le_of_ble_eq_true rfl) h (fun r_ h => ?_)
    exact w_md_child_b36 hE v1 v2 v3 s0 (r_.1) s0 (r_.2) h k
theorem w_md_child_b5 {E : dEnv} {l : Launch} {G : dGeo} (hE : mdOk E l G cX1_child 5 rmX1_child) (v1 v2 s0 : Int32) (σ : dS) {out} (h : md_child_b5 v1 v2 s0 σ = some out) (k : dR E cX1_child (some .int) out) : dG E σ 5 [v1, v2] [.int s0] := by
  unfold md_child_b5 at h
  refine dg_istore_n hE dX1_child_5 2 (xs' := [v1, v2, s0]) rfl (Nat.le_of_ble_eq_true rfl) (by decide) rfl ?_
  refine dg_iload_n hE dX1_child_6 2 rfl rfl ?_
  refine dg_if_lt hE dX1_child_7 (tgt := 14) (by decide) h (fun h => ?_) (fun h => ?_)
  · refine dg_iconst hE dX1_child_14 (v := (-1 : Int32)) (by decide) ?_
    cases h
    exact k rfl _ _ dX1_child_15
  · refine dg_iload_n hE dX1_child_10 1 rfl rfl ?_
    refine dg_if_ge hE dX1_child_11 (tgt := 16) (by decide) h (fun h => ?_) (fun h => ?_)
    · refine dg_aload0 hE dX1_child_16 ?_
      refine dg_iload_n hE dX1_child_17 2 rfl rfl ?_
      refine dg_iload_n hE dX1_child_18 1 rfl rfl ?_
      refine md_ca_place hE (by decide) dX1_child_19 (Nat.le_of_ble_eq_true rfl) h (fun r_ h => ?_)
      exact w_md_child_b22 hE v1 v2 s0 (r_.1) (r_.2) h k
    · refine dg_iconst hE dX1_child_14 (v := (-1 : Int32)) (by decide) ?_
      cases h
      exact k rfl _ _ dX1_child_15
theorem w_md_child_b0 {E : dEnv} {l : Launch} {G : dGeo} (hE : mdOk E l G cX1_child 5 rmX1_child) (v1 v2 : Int32) (σ : dS) {out} (h : md_child_b0 v1 v2 σ = some out) (k : dR E cX1_child (some .int) out) : dG E σ 0 [v1, v2] [] := by
  unfold md_child_b0 at h
  refine dg_aload0 hE dX1_child_0 ?_
  refine dg_iload_n hE dX1_child_1 0 rfl rfl ?_
  refine md_ca_where hE (by decide) dX1_child_2 (Nat.le_of_ble_eq_true rfl) h (fun r_ h => ?_)
  exact w_md_child_b5 hE v1 v2 (r_.1) (r_.2) h k
theorem met_md_child (l : Launch) (G : dGeo) (sz : Nat) (v1 v2 : Int32) (σ : dS) {r : Int32 × dS} (h : md_child v1 v2 σ = some r) : Met l yX1_child (ws_ yX1_child cX1_child 5 (some .int)) rmX1_child (dPc G.1 (md_ty G) (md_w G σ) sz [.ref G.2.1, .int v1, .int v2]) (dQi G.1 (md_ty G) (md_w G σ) (md_w G r.2) sz r.1) 0 0 (va_A (md_w G σ) sz) := by
  refine dMet_i (w := md_w G) (σ := σ) (σ' := r.2) (th := [(0, .ref G.2.1)]) (b := 1) (xs := [v1, v2]) (by decide) rfl rfl (Nat.le_of_ble_eq_true rfl) dth (fun E hE k => ?_)
  unfold md_child at h
  exact w_md_child_b0 hE v1 v2 σ h k
