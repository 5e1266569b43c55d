set_option maxRecDepth 100000
abbrev rmX0_changed : Room := { frames := 0, cells := 0, slots := 0, locals := 0 }
theorem w_dk_changed_b12 {E : dEnv} {l : Launch} {G : dGeo} (hE : dkOk E l G cX0_changed 2 rmX0_changed) (v1 : Int32) (σ : dS) {out} (h : dk_changed_b12 v1 σ = some out) (k : dK E cX0_changed none out) : dG E σ 12 [v1] [] := by
  unfold dk_changed_b12 at h
  refine dg_iload_n hE dX0_changed_12 0 rfl rfl ?_
  refine dg_bipush hE dX0_changed_13 (v := (8 : Int32)) (by decide) ?_
  refine dg_icmp_ge hE dX0_changed_15 (tgt := 31) (by decide) h (fun h => ?_) (fun h => ?_)
  · cases h
    exact k _ _ dX0_changed_31
  · refine dg_aload0 hE dX0_changed_18 ?_
    refine dk_gf25 hE dX0_changed_19 ?_
    refine dg_iload_n hE dX0_changed_22 0 rfl rfl ?_
    refine dg_iconst hE dX0_changed_23 (v := (0 : Int32)) (by decide) ?_
    refine dk_as25 hE dX0_changed_24 h (fun h => ?_)
    refine dg_iinc hE dX0_changed_25 0 (xs' := [(v1 + (1 : Int32))]) rfl rfl (by decide) rfl ?_
    refine dg_goto hE dX0_changed_28 (tgt := 12) (by decide) ?_
    cases h
    exact k
theorem w_dk_changed_b10 {E : dEnv} {l : Launch} {G : dGeo} (hE : dkOk E l G cX0_changed 2 rmX0_changed) (σ : dS) {out} (h : dk_changed_b10 σ = some out) (k : dK E cX0_changed none out) : dG E σ 10 [] [] := by
  unfold dk_changed_b10 at h
  refine dg_iconst hE dX0_changed_10 (v := (0 : Int32)) (by decide) ?_
  refine dg_istore_n hE dX0_changed_11 0 (xs' := [(0 : Int32)]) rfl (Nat.le_of_ble_eq_true rfl) (by decide) rfl ?_
  cases h
  exact k
theorem w_dk_changed_b5 {E : dEnv} {l : Launch} {G : dGeo} (hE : dkOk E l G cX0_changed 2 rmX0_changed) (σ : dS) {out} (h : dk_changed_b5 σ = some out) (k : dK E cX0_changed none out) : dG E σ 5 [] [] := by
  unfold dk_changed_b5 at h
  refine dg_aload0 hE dX0_changed_5 ?_
  refine dg_iconst hE dX0_changed_6 (v := (0 : Int32)) (by decide) ?_
  refine dk_pf33 hE dX0_changed_7 rfl rfl ?_
  exact w_dk_changed_b10 hE (up2 σ 33 0 (0 : Int32)) h k
theorem w_dk_changed_b0 {E : dEnv} {l : Launch} {G : dGeo} (hE : dkOk E l G cX0_changed 2 rmX0_changed) (σ : dS) {out} (h : dk_changed_b0 σ = some out) (k : dK E cX0_changed none out) : dG E σ 0 [] [] := by
  unfold dk_changed_b0 at h
  refine dg_aload0 hE dX0_changed_0 ?_
  refine dg_iconst hE dX0_changed_1 (v := (0 : Int32)) (by decide) ?_
  refine dk_pf15 hE dX0_changed_2 rfl rfl ?_
  exact w_dk_changed_b5 hE (up2 σ 15 0 (0 : Int32)) h k
theorem w_dk_changed_st {E : dEnv} {l : Launch} {G : dGeo} (hE : dkOk E l G cX0_changed 2 rmX0_changed) (a : Nat × List Int32 × dS) {out} (h : dk_changed_st a = some out) (k : dK E cX0_changed none out) : dG E a.2.2 a.1 a.2.1 [] := by
  obtain ⟨L, xs, σ⟩ := a
  unfold dk_changed_st at h
  dsimp only at h ⊢
  by_cases c_ : L = 12
  · subst c_
    rw [if_pos rfl] at h
    match xs, h with
    | [x0], h => exact w_dk_changed_b12 hE x0 σ h k
    | [], h => cases h
    | _ :: _ :: _, h => cases h
  rw [if_neg c_] at h
  cases h
theorem met_dk_changed (l : Launch) (G : dGeo) (sz : Nat) (σ : dS) {r : Int32 × dS} (h : dk_changed σ = some r) : Met l yX0_changed (ws_ yX0_changed cX0_changed 2 none) rmX0_changed (dPc G.1 (dk_ty G) (dk_w G σ) sz [.ref G.2.1]) (dQv G.1 (dk_ty G) (dk_w G σ) (dk_w G r.2) sz) 0 0 (va_A (dk_w G σ) sz) := by
  refine dMet_v (w := dk_w G) (σ := σ) (σ' := r.2) (r := r.1) (th := [(0, .ref G.2.1)]) (b := 1) (xs := []) (by decide) rfl rfl (Nat.le_of_ble_eq_true rfl) dth (fun E hE k => ?_)
  unfold dk_changed at h
  obtain ⟨out, h1, h2⟩ := lpB_some h
  exact w_dk_changed_b0 hE σ h1 (dK_lp (fun a out => w_dk_changed_st hE a) h2 k)
theorem dk_ca_changed {E : dEnv} {l : Launch} {G : dGeo} {cc : ByteArray} {nL pc : Nat} {R : Room} {σ : dS} {xs : List Int32} {st : List Value} {τ : Type} {g : Int32 × dS → Option τ} {out : τ} (hE : dkOk E l G cc nL R) (hR : 0 + 1 ≤ R.frames ∧ 8 + (2 + 11) + 0 ≤ R.locals) (hd : decode cc pc = .ok (.invokevirtual 143, 3)) (hs : (st.map fun v => v.category).sum ≤ 8) (h : Option.bind (dk_changed σ) g = some out) (k : ∀ r, g r = some out → dG E r.2 (pc + 3) xs (st)) : dG E σ pc xs (.ref G.2.1 :: st) := by
  obtain ⟨r, h1, h2⟩ := obind h
  exact dg_callVv hE (As := []) (st := st) (C := RX0) (rm := rmX0_changed) (dk_recv G) (fun sz => met_dk_changed l G sz σ h1) (lw_V q200 q202 qs3 q50 q203) 0 rfl ⟨rfl, rfl⟩ (by decide +kernel) hR rfl hs hd (k r h2)
abbrev rmX0_isName : Room := { frames := 0, cells := 0, slots := 0, locals := 0 }
theorem w_dk_isName_b0 {E : dEnv} {l : Launch} {D : va_G} (hE : dsOk E l D cX0_isName RX0 1 rmX0_isName) (v0 : Int32) {σ : dS} {out} (h : dk_isName_b0 v0 = some out) (k : dRs E cX0_isName (some .boolean) σ out) : dG E σ 0 [v0] [] := by
  unfold dk_isName_b0 at h
  refine dg_iload_n hE dX0_isName_0 0 rfl rfl ?_
  refine dg_if_lt hE dX0_isName_1 (tgt := 14) (by decide) h (fun h => ?_) (fun h => ?_)
  · refine dg_iconst hE dX0_isName_14 (v := (0 : Int32)) (by decide) ?_
    cases h
    exact k nz0 _ _ dX0_isName_15
  · refine dg_iload_n hE dX0_isName_4 0 rfl rfl ?_
    refine dg_bipush hE dX0_isName_5 (v := (6 : Int32)) (by decide) ?_
    refine dg_icmp_ge hE dX0_isName_7 (tgt := 14) (by decide) h (fun h => ?_) (fun h => ?_)
    · refine dg_iconst hE dX0_isName_14 (v := (0 : Int32)) (by decide) ?_
      cases h
      exact k nz0 _ _ dX0_isName_15
    · refine dg_iconst hE dX0_isName_10 (v := (1 : Int32)) (by decide) ?_
      refine dg_goto hE dX0_isName_11 (tgt := 15) (by decide) ?_
      cases h
      exact k nz1 _ _ dX0_isName_15
theorem met_dk_isName (l : Launch) (D : va_G) (sz : Nat) (v0 : Int32) {r : Int32} (h : dk_isName v0 = some r) : Met l yX0_isName (ws_ yX0_isName cX0_isName 1 (some .boolean)) rmX0_isName (dPc D [] [] sz [.int v0]) (dQi D [] [] [] sz r) 0 0 (va_A [] sz) := by
  refine dMet_i (w := fun _ => []) (σ := fun _ _ => 0) (σ' := fun _ _ => 0) (th := []) (b := 0) (xs := [v0]) (by decide) rfl rfl (Nat.le_of_ble_eq_true rfl) (fun q hq => by cases hq) (fun E hE k => ?_)
  unfold dk_isName at h
  exact w_dk_isName_b0 hE v0 h k
theorem dk_ca_isName {E : dEnv} {l : Launch} {D : va_G} {tys : List (ClassId × FieldType)} {w : dS → va_W} {th : List (Nat × Value)} {b : Nat} {cc : ByteArray} {nL pc : Nat} {R : Room} {σ : dS} {xs : List Int32} {st : List Value} {τ : Type} {g : Int32 → Option τ} {out : τ} {a0 : Int32} (hE : dOk E cc RX0 l R nL D tys w th b) (hR : 0 + 1 ≤ R.frames ∧ 8 + (1 + 11) + 0 ≤ R.locals) (hd : decode cc pc = .ok (.invokestatic 125, 3)) (hs : (st.map fun v => v.category).sum ≤ 8) (h : Option.bind (dk_isName a0) g = some out) (k : ∀ r, g r = some out → dG E σ (pc + 3) xs (.int r :: st)) : dG E σ pc xs (.int a0 :: st) := by
  obtain ⟨r, h1, h2⟩ := obind h
  exact dg_callS hE (As := [.int a0]) (st := st) (rm := rmX0_isName) (fun sz => met_dk_isName l D sz a0 h1) (lw_S q185 q186 q50 q187) 1 rfl ⟨rfl, rfl⟩ (by decide +kernel) hR rfl hs hd (k r h2)
abbrev rmX0_isNode : Room := { frames := 0, cells := 0, slots := 0, locals := 0 }
theorem w_dk_isNode_b0 {E : dEnv} {l : Launch} {G : dGeo} (hE : dkOk E l G cX0_isNode 2 rmX0_isNode) (v1 : Int32) (σ : dS) {out} (h : dk_isNode_b0 v1 σ = some out) (k : dR E cX0_isNode (some .boolean) out) : dG E σ 0 [v1] [] := by
  unfold dk_isNode_b0 at h
  refine dg_iload_n hE dX0_isNode_0 0 rfl rfl ?_
  refine dg_if_lt hE dX0_isNode_1 (tgt := 23) (by decide) h (fun h => ?_) (fun h => ?_)
  · refine dg_iconst hE dX0_isNode_23 (v := (0 : Int32)) (by decide) ?_
    cases h
    exact k nz0 _ _ dX0_isNode_24
  · refine dg_iload_n hE dX0_isNode_4 0 rfl rfl ?_
    refine dg_bipush hE dX0_isNode_5 (v := (24 : Int32)) (by decide) ?_
    refine dg_icmp_ge hE dX0_isNode_7 (tgt := 23) (by decide) h (fun h => ?_) (fun h => ?_)
    · refine dg_iconst hE dX0_isNode_23 (v := (0 : Int32)) (by decide) ?_
      cases h
      exact k nz0 _ _ dX0_isNode_24
    · refine dg_aload0 hE dX0_isNode_10 ?_
      refine dk_gf0 hE dX0_isNode_11 ?_
      refine dg_iload_n hE dX0_isNode_14 0 rfl rfl ?_
      refine dk_ld0 hE dX0_isNode_15 h (fun h => ?_)
      refine dg_if_lt hE dX0_isNode_16 (tgt := 23) (by decide) h (fun h => ?_) (fun h => ?_)
      · refine dg_iconst hE dX0_isNode_23 (v := (0 : Int32)) (by decide) ?_
        cases h
        exact k nz0 _ _ dX0_isNode_24
      · refine dg_iconst hE dX0_isNode_19 (v := (1 : Int32)) (by decide) ?_
        refine dg_goto hE dX0_isNode_20 (tgt := 24) (by decide) ?_
        cases h
        exact k nz1 _ _ dX0_isNode_24
theorem met_dk_isNode (l : Launch) (G : dGeo) (sz : Nat) (v1 : Int32) (σ : dS) {r : Int32 × dS} (h : dk_isNode v1 σ = some r) : Met l yX0_isNode (ws_ yX0_isNode cX0_isNode 2 (some .boolean)) rmX0_isNode (dPc G.1 (dk_ty G) (dk_w G σ) sz [.ref G.2.1, .int v1]) (dQi G.1 (dk_ty G) (dk_w G σ) (dk_w G r.2) sz r.1) 0 0 (va_A (dk_w G σ) sz) := by
  refine dMet_i (w := dk_w G) (σ := σ) (σ' := r.2) (th := [(0, .ref G.2.1)]) (b := 1) (xs := [v1]) (by decide) rfl rfl (Nat.le_of_ble_eq_true rfl) dth (fun E hE k => ?_)
  unfold dk_isNode at h
  exact w_dk_isNode_b0 hE v1 σ h k
theorem dk_ca_isNode {E : dEnv} {l : Launch} {G : dGeo} {cc : ByteArray} {nL pc : Nat} {R : Room} {σ : dS} {xs : List Int32} {st : List Value} {τ : Type} {g : Int32 × dS → Option τ} {out : τ} {a0 : Int32} (hE : dkOk E l G cc nL R) (hR : 0 + 1 ≤ R.frames ∧ 8 + (2 + 11) + 0 ≤ R.locals) (hd : decode cc pc = .ok (.invokevirtual 132, 3)) (hs : (st.map fun v => v.category).sum ≤ 8) (h : Option.bind (dk_isNode a0 σ) g = some out) (k : ∀ r, g r = some out → dG E r.2 (pc + 3) xs (.int r.1 :: st)) : dG E σ pc xs (.int a0 :: .ref G.2.1 :: st) := by
  obtain ⟨r, h1, h2⟩ := obind h
  exact dg_callVi hE (As := [.int a0]) (st := st) (C := RX0) (rm := rmX0_isNode) (dk_recv G) (fun sz => met_dk_isNode l G sz a0 σ h1) (lw_V q188 q190 qs0 q50 q191) 1 rfl ⟨rfl, rfl⟩ (by decide +kernel) hR rfl hs hd (k r h2)
abbrev rmX0_link : Room := { frames := 0, cells := 0, slots := 0, locals := 0 }
theorem w_dk_link_b56 {E : dEnv} {l : Launch} {G : dGeo} (hE : dkOk E l G cX0_link 7 rmX0_link) (v1 v2 v3 v4 : Int32) (σ : dS) {out} (h : dk_link_b56 v1 v2 v3 v4 σ = some out) (k : dK E cX0_link none out) : dG E σ 56 [v1, v2, v3, v4] [] := by
  unfold dk_link_b56 at h
  refine dg_iload hE dX0_link_56 3 rfl rfl ?_
  refine dg_if_ge hE dX0_link_58 (tgt := 72) (by decide) h (fun h => ?_) (fun h => ?_)
  · refine dg_aload0 hE dX0_link_72 ?_
    refine dk_gf4 hE dX0_link_73 ?_
    refine dg_iload hE dX0_link_76 3 rfl rfl ?_
    refine dg_iload_n hE dX0_link_78 0 rfl rfl ?_
    refine dg_i2b hE dX0_link_79 ?_
    refine dk_as4 hE dX0_link_80 h (fun h => ?_)
    cases h
    exact k _ _ dX0_link_81
  · refine dg_aload0 hE dX0_link_61 ?_
    refine dk_gf3 hE dX0_link_62 ?_
    refine dg_iload_n hE dX0_link_65 1 rfl rfl ?_
    refine dg_iload_n hE dX0_link_66 0 rfl rfl ?_
    refine dg_i2b hE dX0_link_67 ?_
    refine dk_as3 hE dX0_link_68 h (fun h => ?_)
    refine dg_goto hE dX0_link_69 (tgt := 81) (by decide) ?_
    cases h
    exact k _ _ dX0_link_81
theorem w_dk_link_b22 {E : dEnv} {l : Launch} {G : dGeo} (hE : dkOk E l G cX0_link 7 rmX0_link) (v1 v2 v3 v4 v5 v6 : Int32) (σ : dS) {out} (h : dk_link_b22 v1 v2 v3 v4 v5 v6 σ = some out) (k : dK E cX0_link none out) : dG E σ 22 [v1, v2, v3, v4, v5, v6] [] := by
  unfold dk_link_b22 at h
  refine dg_iload hE dX0_link_22 5 rfl rfl ?_
  refine dg_iload_n hE dX0_link_24 2 rfl rfl ?_
  refine dg_icmp_ge hE dX0_link_25 (tgt := 47) (by decide) h (fun h => ?_) (fun h => ?_)
  · refine dg_aload0 hE dX0_link_47 ?_
    refine dk_gf4 hE dX0_link_48 ?_
    refine dg_iload_n hE dX0_link_51 0 rfl rfl ?_
    refine dg_iload hE dX0_link_52 4 rfl rfl ?_
    refine dg_i2b hE dX0_link_54 ?_
    refine dk_as4 hE dX0_link_55 h (fun h => ?_)
    refine dg_drop (xs' := [v1, v2, v3, v4]) (ys := [v5, v6]) rfl ?_
    exact w_dk_link_b56 hE v1 v2 v3 v4 (up2 σ 4 v1.toNatClampNeg (vp_nar .byte (v5.toInt8.toInt32))) h k
  · refine dg_iload hE dX0_link_28 4 rfl rfl ?_
    refine dg_istore hE dX0_link_30 3 (xs' := [v1, v2, v3, v5, v5, v6]) rfl (Nat.le_of_ble_eq_true rfl) (by decide) rfl ?_
    refine dg_aload0 hE dX0_link_32 ?_
    refine dk_gf4 hE dX0_link_33 ?_
    refine dg_iload hE dX0_link_36 4 rfl rfl ?_
    refine dk_ld4 hE dX0_link_38 h (fun h => ?_)
    refine dg_istore hE dX0_link_39 4 (xs' := [v1, v2, v3, v5, (σ 4 v5.toNatClampNeg), v6]) rfl (Nat.le_of_ble_eq_true rfl) (by decide) rfl ?_
    refine dg_iinc hE dX0_link_41 5 (xs' := [v1, v2, v3, v5, (σ 4 v5.toNatClampNeg), (v6 + (1 : Int32))]) rfl rfl (by decide) rfl ?_
    refine dg_goto hE dX0_link_44 (tgt := 22) (by decide) ?_
    cases h
    exact k
theorem w_dk_link_b19 {E : dEnv} {l : Launch} {G : dGeo} (hE : dkOk E l G cX0_link 7 rmX0_link) (v1 v2 v3 v4 v5 : Int32) (σ : dS) {out} (h : dk_link_b19 v1 v2 v3 v4 v5 σ = some out) (k : dK E cX0_link none out) : dG E σ 19 [v1, v2, v3, v4, v5] [] := by
  unfold dk_link_b19 at h
  refine dg_iconst hE dX0_link_19 (v := (0 : Int32)) (by decide) ?_
  refine dg_istore hE dX0_link_20 5 (xs' := [v1, v2, v3, v4, v5, (0 : Int32)]) rfl (Nat.le_of_ble_eq_true rfl) (by decide) rfl ?_
  cases h
  exact k
theorem w_dk_link_b8 {E : dEnv} {l : Launch} {G : dGeo} (hE : dkOk E l G cX0_link 7 rmX0_link) (v1 v2 v3 : Int32) (σ : dS) {out} (h : dk_link_b8 v1 v2 v3 σ = some out) (k : dK E cX0_link none out) : dG E σ 8 [v1, v2, v3] [] := by
  unfold dk_link_b8 at h
  refine dg_iconst hE dX0_link_8 (v := (-1 : Int32)) (by decide) ?_
  refine dg_istore hE dX0_link_9 3 (xs' := [v1, v2, v3, (-1 : Int32)]) rfl (Nat.le_of_ble_eq_true rfl) (by decide) rfl ?_
  refine dg_aload0 hE dX0_link_11 ?_
  refine dk_gf3 hE dX0_link_12 ?_
  refine dg_iload_n hE dX0_link_15 1 rfl rfl ?_
  refine dk_ld3 hE dX0_link_16 h (fun h => ?_)
  refine dg_istore hE dX0_link_17 4 (xs' := [v1, v2, v3, (-1 : Int32), (σ 3 v2.toNatClampNeg)]) rfl (Nat.le_of_ble_eq_true rfl) (by decide) rfl ?_
  exact w_dk_link_b19 hE v1 v2 v3 (-1 : Int32) (σ 3 v2.toNatClampNeg) σ h k
theorem w_dk_link_b0 {E : dEnv} {l : Launch} {G : dGeo} (hE : dkOk E l G cX0_link 7 rmX0_link) (v1 v2 v3 : Int32) (σ : dS) {out} (h : dk_link_b0 v1 v2 v3 σ = some out) (k : dK E cX0_link none out) : dG E σ 0 [v1, v2, v3] [] := by
  unfold dk_link_b0 at h
  refine dg_aload0 hE dX0_link_0 ?_
  refine dk_gf2 hE dX0_link_1 ?_
  refine dg_iload_n hE dX0_link_4 0 rfl rfl ?_
  refine dg_iload_n hE dX0_link_5 1 rfl rfl ?_
  refine dg_i2b hE dX0_link_6 ?_
  refine dk_as2 hE dX0_link_7 h (fun h => ?_)
  exact w_dk_link_b8 hE v1 v2 v3 (up2 σ 2 v1.toNatClampNeg (vp_nar .byte (v2.toInt8.toInt32))) h k
theorem w_dk_link_st {E : dEnv} {l : Launch} {G : dGeo} (hE : dkOk E l G cX0_link 7 rmX0_link) (a : Nat × List Int32 × dS) {out} (h : dk_link_st a = some out) (k : dK E cX0_link none out) : dG E a.2.2 a.1 a.2.1 [] := by
  obtain ⟨L, xs, σ⟩ := a
  unfold dk_link_st at h
  dsimp only at h ⊢
  by_cases c_ : L = 22
  · subst c_
    rw [if_pos rfl] at h
    match xs, h with
    | [x0, x1, x2, x3, x4, x5], h => exact w_dk_link_b22 hE x0 x1 x2 x3 x4 x5 σ h k
    | [], h => cases h
    | [_], h => cases h
    | [_, _], h => cases h
    | [_, _, _], h => cases h
    | [_, _, _, _], h => cases h
    | [_, _, _, _, _], h => cases h
    | _ :: _ :: _ :: _ :: _ :: _ :: _ :: _, h => cases h
  rw [if_neg c_] at h
  cases h
theorem met_dk_link (l : Launch) (G : dGeo) (sz : Nat) (v1 v2 v3 : Int32) (σ : dS) {r : Int32 × dS} (h : dk_link v1 v2 v3 σ = some r) : Met l yX0_link (ws_ yX0_link cX0_link 7 none) rmX0_link (dPc G.1 (dk_ty G) (dk_w G σ) sz [.ref G.2.1, .int v1, .int v2, .int v3]) (dQv G.1 (dk_ty G) (dk_w G σ) (dk_w G r.2) sz) 0 0 (va_A (dk_w G σ) sz) := by
  refine dMet_v (w := dk_w G) (σ := σ) (σ' := r.2) (r := r.1) (th := [(0, .ref G.2.1)]) (b := 1) (xs := [v1, v2, v3]) (by decide) rfl rfl (Nat.le_of_ble_eq_true rfl) dth (fun E hE k => ?_)
  unfold dk_link at h
  obtain ⟨out, h1, h2⟩ := lpB_some h
  exact w_dk_link_b0 hE v1 v2 v3 σ h1 (dK_lp (fun a out => w_dk_link_st hE a) h2 k)
theorem dk_ca_link {E : dEnv} {l : Launch} {G : dGeo} {cc : ByteArray} {nL pc : Nat} {R : Room} {σ : dS} {xs : List Int32} {st : List Value} {τ : Type} {g : Int32 × dS → Option τ} {out : τ} {a0 a1 a2 : Int32} (hE : dkOk E l G cc nL R) (hR : 0 + 1 ≤ R.frames ∧ 8 + (7 + 11) + 0 ≤ R.locals) (hd : decode cc pc = .ok (.invokevirtual 139, 3)) (hs : (st.map fun v => v.category).sum ≤ 8) (h : Option.bind (dk_link a0 a1 a2 σ) g = some out) (k : ∀ r, g r = some out → dG E r.2 (pc + 3) xs (st)) : dG E σ pc xs (.int a2 :: .int a1 :: .int a0 :: .ref G.2.1 :: st) := by
  obtain ⟨r, h1, h2⟩ := obind h
  exact dg_callVv hE (As := [.int a0, .int a1, .int a2]) (st := st) (C := RX0) (rm := rmX0_link) (dk_recv G) (fun sz => met_dk_link l G sz a0 a1 a2 σ h1) (lw_V q196 q198 qs2 q50 q199) 3 rfl ⟨rfl, rfl⟩ (by decide +kernel) hR rfl hs hd (k r h2)
abbrev rmX0_many : Room := { frames := 0, cells := 0, slots := 0, locals := 0 }
theorem w_dk_many_b9 {E : dEnv} {l : Launch} {G : dGeo} (hE : dkOk E l G cX0_many 4 rmX0_many) (v1 v2 v3 : Int32) (σ : dS) {out} (h : dk_many_b9 v1 v2 v3 σ = some out) (k : dK E cX0_many (some .int) out) : dG E σ 9 [v1, v2, v3] [] := by
  unfold dk_many_b9 at h
  refine dg_iload_n hE dX0_many_9 2 rfl rfl ?_
  refine dg_if_lt hE dX0_many_10 (tgt := 26) (by decide) h (fun h => ?_) (fun h => ?_)
  · refine dg_iload_n hE dX0_many_26 1 rfl rfl ?_
    cases h
    exact k rfl _ _ dX0_many_27
  · refine dg_iinc hE dX0_many_13 1 (xs' := [v1, (v2 + (1 : Int32)), v3]) rfl rfl (by decide) rfl ?_
    refine dg_aload0 hE dX0_many_16 ?_
    refine dk_gf4 hE dX0_many_17 ?_
    refine dg_iload_n hE dX0_many_20 2 rfl rfl ?_
    refine dk_ld4 hE dX0_many_21 h (fun h => ?_)
    refine dg_istore_n hE dX0_many_22 2 (xs' := [v1, (v2 + (1 : Int32)), (σ 4 v3.toNatClampNeg)]) rfl (Nat.le_of_ble_eq_true rfl) (by decide) rfl ?_
    refine dg_goto hE dX0_many_23 (tgt := 9) (by decide) ?_
    cases h
    exact k
theorem w_dk_many_b0 {E : dEnv} {l : Launch} {G : dGeo} (hE : dkOk E l G cX0_many 4 rmX0_many) (v1 : Int32) (σ : dS) {out} (h : dk_many_b0 v1 σ = some out) (k : dK E cX0_many (some .int) out) : dG E σ 0 [v1] [] := by
  unfold dk_many_b0 at h
  refine dg_iconst hE dX0_many_0 (v := (0 : Int32)) (by decide) ?_
  refine dg_istore_n hE dX0_many_1 1 (xs' := [v1, (0 : Int32)]) rfl (Nat.le_of_ble_eq_true rfl) (by decide) rfl ?_
  refine dg_aload0 hE dX0_many_2 ?_
  refine dk_gf3 hE dX0_many_3 ?_
  refine dg_iload_n hE dX0_many_6 0 rfl rfl ?_
  refine dk_ld3 hE dX0_many_7 h (fun h => ?_)
  refine dg_istore_n hE dX0_many_8 2 (xs' := [v1, (0 : Int32), (σ 3 v1.toNatClampNeg)]) rfl (Nat.le_of_ble_eq_true rfl) (by decide) rfl ?_
  cases h
  exact k
theorem w_dk_many_st {E : dEnv} {l : Launch} {G : dGeo} (hE : dkOk E l G cX0_many 4 rmX0_many) (a : Nat × List Int32 × dS) {out} (h : dk_many_st a = some out) (k : dK E cX0_many (some .int) out) : dG E a.2.2 a.1 a.2.1 [] := by
  obtain ⟨L, xs, σ⟩ := a
  unfold dk_many_st at h
  dsimp only at h ⊢
  by_cases c_ : L = 9
  · subst c_
    rw [if_pos rfl] at h
    match xs, h with
    | [x0, x1, x2], h => exact w_dk_many_b9 hE x0 x1 x2 σ h k
    | [], h => cases h
    | [_], h => cases h
    | [_, _], h => cases h
    | _ :: _ :: _ :: _ :: _, h => cases h
  rw [if_neg c_] at h
  cases h
theorem met_dk_many (l : Launch) (G : dGeo) (sz : Nat) (v1 : Int32) (σ : dS) {r : Int32 × dS} (h : dk_many v1 σ = some r) : Met l yX0_many (ws_ yX0_many cX0_many 4 (some .int)) rmX0_many (dPc G.1 (dk_ty G) (dk_w G σ) sz [.ref G.2.1, .int v1]) (dQi G.1 (dk_ty G) (dk_w G σ) (dk_w G r.2) sz r.1) 0 0 (va_A (dk_w G σ) sz) := by
  refine dMet_i (w := dk_w G) (σ := σ) (σ' := r.2) (th := [(0, .ref G.2.1)]) (b := 1) (xs := [v1]) (by decide) rfl rfl (Nat.le_of_ble_eq_true rfl) dth (fun E hE k => ?_)
  unfold dk_many at h
  obtain ⟨out, h1, h2⟩ := lpB_some h
  exact w_dk_many_b0 hE v1 σ h1 (dK_lp (fun a out => w_dk_many_st hE a) h2 k)
theorem dk_ca_many {E : dEnv} {l : Launch} {G : dGeo} {cc : ByteArray} {nL pc : Nat} {R : Room} {σ : dS} {xs : List Int32} {st : List Value} {τ : Type} {g : Int32 × dS → Option τ} {out : τ} {a0 : Int32} (hE : dkOk E l G cc nL R) (hR : 0 + 1 ≤ R.frames ∧ 8 + (4 + 11) + 0 ≤ R.locals) (hd : decode cc pc = .ok (.invokevirtual 135, 3)) (hs : (st.map fun v => v.category).sum ≤ 8) (h : Option.bind (dk_many a0 σ) g = some out) (k : ∀ r, g r = some out → dG E r.2 (pc + 3) xs (.int r.1 :: st)) : dG E σ pc xs (.int a0 :: .ref G.2.1 :: st) := by
  obtain ⟨r, h1, h2⟩ := obind h
  exact dg_callVi hE (As := [.int a0]) (st := st) (C := RX0) (rm := rmX0_many) (dk_recv G) (fun sz => met_dk_many l G sz a0 σ h1) (lw_V q192 q194 qs1 q50 q195) 1 rfl ⟨rfl, rfl⟩ (by decide +kernel) hR rfl hs hd (k r h2)
abbrev rmX0_insert : Room := { frames := 1, cells := 0, slots := 0, locals := 26 }
theorem w_dk_insert_b146 {E : dEnv} {l : Launch} {G : dGeo} (hE : dkOk E l G cX0_insert 5 rmX0_insert) (v1 v2 v3 v4 : Int32) (σ : dS) {out} (h : dk_insert_b146 v1 v2 v3 v4 σ = some out) (k : dK E cX0_insert (some .int) out) : dG E σ 146 [v1, v2, v3, v4] [] := by
  unfold dk_insert_b146 at h
  refine dg_iload hE dX0_insert_146 3 rfl rfl ?_
  cases h
  exact k rfl _ _ dX0_insert_148
theorem w_dk_insert_b142 {E : dEnv} {l : Launch} {G : dGeo} (hE : dkOk E l G cX0_insert 5 rmX0_insert) (v1 v2 v3 v4 : Int32) (σ : dS) {out} (h : dk_insert_b142 v1 v2 v3 v4 σ = some out) (k : dK E cX0_insert (some .int) out) : dG E σ 142 [v1, v2, v3, v4] [] := by
  unfold dk_insert_b142 at h
  refine dg_aload0 hE dX0_insert_142 ?_
  refine dk_ca_changed hE (by decide) dX0_insert_143 (Nat.le_of_ble_eq_true rfl) h (fun r_ h => ?_)
  exact w_dk_insert_b146 hE v1 v2 v3 v4 (r_.2) h k
theorem w_dk_insert_b134 {E : dEnv} {l : Launch} {G : dGeo} (hE : dkOk E l G cX0_insert 5 rmX0_insert) (v1 v2 v3 v4 : Int32) (σ : dS) {out} (h : dk_insert_b134 v1 v2 v3 v4 σ = some out) (k : dK E cX0_insert (some .int) out) : dG E σ 134 [v1, v2, v3, v4] [] := by
  unfold dk_insert_b134 at h
  refine dg_aload0 hE dX0_insert_134 ?_
  refine dk_gf2 hE dX0_insert_135 ?_
  refine dg_iload hE dX0_insert_138 3 rfl rfl ?_
  refine dg_iconst hE dX0_insert_140 (v := (-1 : Int32)) (by decide) ?_
  refine dk_as2 hE dX0_insert_141 h (fun h => ?_)
  exact w_dk_insert_b142 hE v1 v2 v3 v4 (up2 σ 2 v4.toNatClampNeg (vp_nar .byte (-1 : Int32))) h k
theorem w_dk_insert_b110 {E : dEnv} {l : Launch} {G : dGeo} (hE : dkOk E l G cX0_insert 5 rmX0_insert) (v1 v2 v3 v4 : Int32) (σ : dS) {out} (h : dk_insert_b110 v1 v2 v3 v4 σ = some out) (k : dK E cX0_insert (some .int) out) : dG E σ 110 [v1, v2, v3, v4] [] := by
  unfold dk_insert_b110 at h
  refine dg_aload0 hE dX0_insert_110 ?_
  refine dk_gf5 hE dX0_insert_111 ?_
  refine dg_if_lt hE dX0_insert_114 (tgt := 128) (by decide) h (fun h => ?_) (fun h => ?_)
  · refine dg_aload0 hE dX0_insert_128 ?_
    refine dg_iload hE dX0_insert_129 3 rfl rfl ?_
    refine dk_pf5 hE dX0_insert_131 ?_
    exact w_dk_insert_b134 hE v1 v2 v3 v4 (up2 σ 5 0 v4) h k
  · refine dg_aload0 hE dX0_insert_117 ?_
    refine dg_iload hE dX0_insert_118 3 rfl rfl ?_
    refine dg_iload_n hE dX0_insert_120 0 rfl rfl ?_
    refine dg_iload_n hE dX0_insert_121 1 rfl rfl ?_
    refine dk_ca_link hE (by decide) dX0_insert_122 (Nat.le_of_ble_eq_true rfl) h (fun r_ h => ?_)
    refine dg_goto hE dX0_insert_125 (tgt := 142) (by decide) ?_
    exact w_dk_insert_b142 hE v1 v2 v3 v4 (r_.2) h k
theorem w_dk_insert_b100 {E : dEnv} {l : Launch} {G : dGeo} (hE : dkOk E l G cX0_insert 5 rmX0_insert) (v1 v2 v3 v4 : Int32) (σ : dS) {out} (h : dk_insert_b100 v1 v2 v3 v4 σ = some out) (k : dK E cX0_insert (some .int) out) : dG E σ 100 [v1, v2, v3, v4] [] := by
  unfold dk_insert_b100 at h
  refine dg_aload0 hE dX0_insert_100 ?_
  refine dg_dup hE dX0_insert_101 rfl ?_
  refine dk_gf6 hE dX0_insert_102 ?_
  refine dg_iconst hE dX0_insert_105 (v := (1 : Int32)) (by decide) ?_
  refine dg_iadd hE dX0_insert_106 ?_
  refine dk_pf6 hE dX0_insert_107 ?_
  exact w_dk_insert_b110 hE v1 v2 v3 v4 (up2 σ 6 0 ((σ 6 0) + (1 : Int32))) h k
theorem w_dk_insert_b92 {E : dEnv} {l : Launch} {G : dGeo} (hE : dkOk E l G cX0_insert 5 rmX0_insert) (v1 v2 v3 v4 : Int32) (σ : dS) {out} (h : dk_insert_b92 v1 v2 v3 v4 σ = some out) (k : dK E cX0_insert (some .int) out) : dG E σ 92 [v1, v2, v3, v4] [] := by
  unfold dk_insert_b92 at h
  refine dg_aload0 hE dX0_insert_92 ?_
  refine dk_gf4 hE dX0_insert_93 ?_
  refine dg_iload hE dX0_insert_96 3 rfl rfl ?_
  refine dg_iconst hE dX0_insert_98 (v := (-1 : Int32)) (by decide) ?_
  refine dk_as4 hE dX0_insert_99 h (fun h => ?_)
  exact w_dk_insert_b100 hE v1 v2 v3 v4 (up2 σ 4 v4.toNatClampNeg (vp_nar .byte (-1 : Int32))) h k
theorem w_dk_insert_b84 {E : dEnv} {l : Launch} {G : dGeo} (hE : dkOk E l G cX0_insert 5 rmX0_insert) (v1 v2 v3 v4 : Int32) (σ : dS) {out} (h : dk_insert_b84 v1 v2 v3 v4 σ = some out) (k : dK E cX0_insert (some .int) out) : dG E σ 84 [v1, v2, v3, v4] [] := by
  unfold dk_insert_b84 at h
  refine dg_aload0 hE dX0_insert_84 ?_
  refine dk_gf3 hE dX0_insert_85 ?_
  refine dg_iload hE dX0_insert_88 3 rfl rfl ?_
  refine dg_iconst hE dX0_insert_90 (v := (-1 : Int32)) (by decide) ?_
  refine dk_as3 hE dX0_insert_91 h (fun h => ?_)
  exact w_dk_insert_b92 hE v1 v2 v3 v4 (up2 σ 3 v4.toNatClampNeg (vp_nar .byte (-1 : Int32))) h k
theorem w_dk_insert_b76 {E : dEnv} {l : Launch} {G : dGeo} (hE : dkOk E l G cX0_insert 5 rmX0_insert) (v1 v2 v3 v4 : Int32) (σ : dS) {out} (h : dk_insert_b76 v1 v2 v3 v4 σ = some out) (k : dK E cX0_insert (some .int) out) : dG E σ 76 [v1, v2, v3, v4] [] := by
  unfold dk_insert_b76 at h
  refine dg_aload0 hE dX0_insert_76 ?_
  refine dk_gf1 hE dX0_insert_77 ?_
  refine dg_iload hE dX0_insert_80 3 rfl rfl ?_
  refine dg_iconst hE dX0_insert_82 (v := (0 : Int32)) (by decide) ?_
  refine dk_as1 hE dX0_insert_83 h (fun h => ?_)
  exact w_dk_insert_b84 hE v1 v2 v3 v4 (up2 σ 1 v4.toNatClampNeg (0 : Int32)) h k
theorem w_dk_insert_b51 {E : dEnv} {l : Launch} {G : dGeo} (hE : dkOk E l G cX0_insert 5 rmX0_insert) (v1 v2 v3 v4 : Int32) (σ : dS) {out} (h : dk_insert_b51 v1 v2 v3 v4 σ = some out) (k : dK E cX0_insert (some .int) out) : dG E σ 51 [v1, v2, v3, v4] [] := by
  unfold dk_insert_b51 at h
  refine dg_aload0 hE dX0_insert_51 ?_
  refine dk_gf0 hE dX0_insert_52 ?_
  refine dg_iload hE dX0_insert_55 3 rfl rfl ?_
  refine dk_ld0 hE dX0_insert_57 h (fun h => ?_)
  refine dg_if_lt hE dX0_insert_58 (tgt := 67) (by decide) h (fun h => ?_) (fun h => ?_)
  · refine dg_aload0 hE dX0_insert_67 ?_
    refine dk_gf0 hE dX0_insert_68 ?_
    refine dg_iload hE dX0_insert_71 3 rfl rfl ?_
    refine dg_iload_n hE dX0_insert_73 2 rfl rfl ?_
    refine dg_i2b hE dX0_insert_74 ?_
    refine dk_as0 hE dX0_insert_75 h (fun h => ?_)
    exact w_dk_insert_b76 hE v1 v2 v3 v4 (up2 σ 0 v4.toNatClampNeg (vp_nar .byte (v3.toInt8.toInt32))) h k
  · refine dg_iinc hE dX0_insert_61 3 (xs' := [v1, v2, v3, (v4 + (1 : Int32))]) rfl rfl (by decide) rfl ?_
    refine dg_goto hE dX0_insert_64 (tgt := 51) (by decide) ?_
    cases h
    exact k
theorem w_dk_insert_b48 {E : dEnv} {l : Launch} {G : dGeo} (hE : dkOk E l G cX0_insert 5 rmX0_insert) (v1 v2 v3 : Int32) (σ : dS) {out} (h : dk_insert_b48 v1 v2 v3 σ = some out) (k : dK E cX0_insert (some .int) out) : dG E σ 48 [v1, v2, v3] [] := by
  unfold dk_insert_b48 at h
  refine dg_iconst hE dX0_insert_48 (v := (0 : Int32)) (by decide) ?_
  refine dg_istore hE dX0_insert_49 3 (xs' := [v1, v2, v3, (0 : Int32)]) rfl (Nat.le_of_ble_eq_true rfl) (by decide) rfl ?_
  cases h
  exact k
theorem w_dk_insert_b43 {E : dEnv} {l : Launch} {G : dGeo} (hE : dkOk E l G cX0_insert 5 rmX0_insert) (v1 v2 v3 s0 s1 : Int32) (σ : dS) {out} (h : dk_insert_b43 v1 v2 v3 s0 s1 σ = some out) (k : dK E cX0_insert (some .int) out) : dG E σ 43 [v1, v2, v3] [.int s0, .int s1] := by
  unfold dk_insert_b43 at h
  refine dg_icmp_le hE dX0_insert_43 (tgt := 48) (by decide) h (fun h => ?_) (fun h => ?_)
  · exact w_dk_insert_b48 hE v1 v2 v3 σ h k
  · refine dg_iconst hE dX0_insert_46 (v := (-1 : Int32)) (by decide) ?_
    cases h
    exact k rfl _ _ dX0_insert_47
theorem w_dk_insert_b30 {E : dEnv} {l : Launch} {G : dGeo} (hE : dkOk E l G cX0_insert 5 rmX0_insert) (v1 v2 v3 s0 : Int32) (σ : dS) {out} (h : dk_insert_b30 v1 v2 v3 s0 σ = some out) (k : dK E cX0_insert (some .int) out) : dG E σ 30 [v1, v2, v3] [.int s0] := by
  unfold dk_insert_b30 at h
  refine dg_if_eq hE dX0_insert_30 (tgt := 46) (by decide) h (fun h => ?_) (fun h => ?_)
  · refine dg_iconst hE dX0_insert_46 (v := (-1 : Int32)) (by decide) ?_
    cases h
    exact k rfl _ _ dX0_insert_47
  · refine dg_iload_n hE dX0_insert_33 1 rfl rfl ?_
    refine dg_if_lt hE dX0_insert_34 (tgt := 46) (by decide) h (fun h => ?_) (fun h => ?_)
    · refine dg_iconst hE dX0_insert_46 (v := (-1 : Int32)) (by decide) ?_
      cases h
      exact k rfl _ _ dX0_insert_47
    · refine dg_iload_n hE dX0_insert_37 1 rfl rfl ?_
      refine dg_aload0 hE dX0_insert_38 ?_
      refine dg_iload_n hE dX0_insert_39 0 rfl rfl ?_
      refine dk_ca_many hE (by decide) dX0_insert_40 (Nat.le_of_ble_eq_true rfl) h (fun r_ h => ?_)
      exact w_dk_insert_b43 hE v1 v2 v3 (r_.1) v2 (r_.2) h k
theorem w_dk_insert_b4 {E : dEnv} {l : Launch} {G : dGeo} (hE : dkOk E l G cX0_insert 5 rmX0_insert) (v1 v2 v3 s0 : Int32) (σ : dS) {out} (h : dk_insert_b4 v1 v2 v3 s0 σ = some out) (k : dK E cX0_insert (some .int) out) : dG E σ 4 [v1, v2, v3] [.int s0] := by
  unfold dk_insert_b4 at h
  refine dg_if_eq hE dX0_insert_4 (tgt := 16) (by decide) h (fun h => ?_) (fun h => ?_)
  · refine dg_iconst hE dX0_insert_16 (v := (-1 : Int32)) (by decide) ?_
    cases h
    exact k rfl _ _ dX0_insert_17
  · refine dg_aload0 hE dX0_insert_7 ?_
    refine dk_gf6 hE dX0_insert_8 ?_
    refine dg_bipush hE dX0_insert_11 (v := (24 : Int32)) (by decide) ?_
    refine dg_icmp_ne hE dX0_insert_13 (tgt := 18) (by decide) h (fun h => ?_) (fun h => ?_)
    · refine dg_aload0 hE dX0_insert_18 ?_
      refine dk_gf5 hE dX0_insert_19 ?_
      refine dg_if_lt hE dX0_insert_22 (tgt := 48) (by decide) h (fun h => ?_) (fun h => ?_)
      · exact w_dk_insert_b48 hE v1 v2 v3 σ h k
      · refine dg_aload0 hE dX0_insert_25 ?_
        refine dg_iload_n hE dX0_insert_26 0 rfl rfl ?_
        refine dk_ca_isNode hE (by decide) dX0_insert_27 (Nat.le_of_ble_eq_true rfl) h (fun r_ h => ?_)
        exact w_dk_insert_b30 hE v1 v2 v3 (r_.1) (r_.2) h k
    · refine dg_iconst hE dX0_insert_16 (v := (-1 : Int32)) (by decide) ?_
      cases h
      exact k rfl _ _ dX0_insert_17
theorem w_dk_insert_b0 {E : dEnv} {l : Launch} {G : dGeo} (hE : dkOk E l G cX0_insert 5 rmX0_insert) (v1 v2 v3 : Int32) (σ : dS) {out} (h : dk_insert_b0 v1 v2 v3 σ = some out) (k : dK E cX0_insert (some .int) out) : dG E σ 0 [v1, v2, v3] [] := by
  unfold dk_insert_b0 at h
  refine dg_iload_n hE dX0_insert_0 2 rfl rfl ?_
  refine dk_ca_isName hE (by decide) dX0_insert_1 (Nat.le_of_ble_eq_true rfl) h (fun r_ h => ?_)
  exact w_dk_insert_b4 hE v1 v2 v3 r_ σ h k
theorem w_dk_insert_st {E : dEnv} {l : Launch} {G : dGeo} (hE : dkOk E l G cX0_insert 5 rmX0_insert) (a : Nat × List Int32 × dS) {out} (h : dk_insert_st a = some out) (k : dK E cX0_insert (some .int) out) : dG E a.2.2 a.1 a.2.1 [] := by
  obtain ⟨L, xs, σ⟩ := a
  unfold dk_insert_st at h
  dsimp only at h ⊢
  by_cases c_ : L = 51
  · subst c_
    rw [if_pos rfl] at h
    match xs, h with
    | [x0, x1, x2, x3], h => exact w_dk_insert_b51 hE x0 x1 x2 x3 σ h k
    | [], h => cases h
    | [_], h => cases h
    | [_, _], h => cases h
    | [_, _, _], h => cases h
    | _ :: _ :: _ :: _ :: _ :: _, h => cases h
  rw [if_neg c_] at h
  cases h
theorem met_dk_insert (l : Launch) (G : dGeo) (sz : Nat) (v1 v2 v3 : Int32) (σ : dS) {r : Int32 × dS} (h : dk_insert v1 v2 v3 σ = some r) : Met l yX0_insert (ws_ yX0_insert cX0_insert 5 (some .int)) rmX0_insert (dPc G.1 (dk_ty G) (dk_w G σ) sz [.ref G.2.1, .int v1, .int v2, .int v3]) (dQi G.1 (dk_ty G) (dk_w G σ) (dk_w G r.2) sz r.1) 0 0 (va_A (dk_w G σ) sz) := by
  refine dMet_i (w := dk_w G) (σ := σ) (σ' := r.2) (th := [(0, .ref G.2.1)]) (b := 1) (xs := [v1, v2, v3]) (by decide) rfl rfl (Nat.le_of_ble_eq_true rfl) dth (fun E hE k => ?_)
  unfold dk_insert at h
  obtain ⟨out, h1, h2⟩ := lpB_some h
  exact w_dk_insert_b0 hE v1 v2 v3 σ h1 (dK_lp (fun a out => w_dk_insert_st hE a) h2 k)
abbrev rmX0_onward : Room := { frames := 0, cells := 0, slots := 0, locals := 0 }
theorem w_dk_onward_b72 {E : dEnv} {l : Launch} {G : dGeo} (hE : dkOk E l G cX0_onward 4 rmX0_onward) (v1 v2 v3 : Int32) (σ : dS) {out} (h : dk_onward_b72 v1 v2 v3 σ = some out) (k : dK E cX0_onward (some .int) out) : dG E σ 72 [v1, v2, v3] [] := by
  unfold dk_onward_b72 at h
  refine dg_aload0 hE dX0_onward_72 ?_
  refine dk_gf4 hE dX0_onward_73 ?_
  refine dg_iload_n hE dX0_onward_76 2 rfl rfl ?_
  refine dk_ld4 hE dX0_onward_77 h (fun h => ?_)
  cases h
  exact k rfl _ _ dX0_onward_78
theorem w_dk_onward_b56 {E : dEnv} {l : Launch} {G : dGeo} (hE : dkOk E l G cX0_onward 4 rmX0_onward) (v1 v2 v3 : Int32) (σ : dS) {out} (h : dk_onward_b56 v1 v2 v3 σ = some out) (k : dK E cX0_onward (some .int) out) : dG E σ 56 [v1, v2, v3] [] := by
  unfold dk_onward_b56 at h
  refine dg_aload0 hE dX0_onward_56 ?_
  refine dk_gf9 hE dX0_onward_57 ?_
  refine dg_aload0 hE dX0_onward_60 ?_
  refine dk_gf7 hE dX0_onward_61 ?_
  refine dg_iload_n hE dX0_onward_64 2 rfl rfl ?_
  refine dk_ld7 hE dX0_onward_65 h (fun h => ?_)
  refine dg_iload_n hE dX0_onward_66 1 rfl rfl ?_
  refine dg_i2b hE dX0_onward_67 ?_
  refine dk_as9 hE dX0_onward_68 h (fun h => ?_)
  refine dg_goto hE dX0_onward_69 (tgt := 31) (by decide) ?_
  cases h
  exact k
theorem w_dk_onward_b31 {E : dEnv} {l : Launch} {G : dGeo} (hE : dkOk E l G cX0_onward 4 rmX0_onward) (v1 v2 v3 : Int32) (σ : dS) {out} (h : dk_onward_b31 v1 v2 v3 σ = some out) (k : dK E cX0_onward (some .int) out) : dG E σ 31 [v1, v2, v3] [] := by
  unfold dk_onward_b31 at h
  refine dg_aload0 hE dX0_onward_31 ?_
  refine dk_gf4 hE dX0_onward_32 ?_
  refine dg_iload_n hE dX0_onward_35 2 rfl rfl ?_
  refine dk_ld4 hE dX0_onward_36 h (fun h => ?_)
  refine dg_if_ge hE dX0_onward_37 (tgt := 72) (by decide) h (fun h => ?_) (fun h => ?_)
  · exact w_dk_onward_b72 hE v1 v2 v3 σ h k
  · refine dg_aload0 hE dX0_onward_40 ?_
    refine dk_gf2 hE dX0_onward_41 ?_
    refine dg_iload_n hE dX0_onward_44 2 rfl rfl ?_
    refine dk_ld2 hE dX0_onward_45 h (fun h => ?_)
    refine dg_if_lt hE dX0_onward_46 (tgt := 72) (by decide) h (fun h => ?_) (fun h => ?_)
    · exact w_dk_onward_b72 hE v1 v2 v3 σ h k
    · refine dg_aload0 hE dX0_onward_49 ?_
      refine dk_gf2 hE dX0_onward_50 ?_
      refine dg_iload_n hE dX0_onward_53 2 rfl rfl ?_
      refine dk_ld2 hE dX0_onward_54 h (fun h => ?_)
      refine dg_istore_n hE dX0_onward_55 2 (xs' := [v1, v2, (σ 2 v3.toNatClampNeg)]) rfl (Nat.le_of_ble_eq_true rfl) (by decide) rfl ?_
      exact w_dk_onward_b56 hE v1 v2 (σ 2 v3.toNatClampNeg) σ h k
theorem w_dk_onward_b0 {E : dEnv} {l : Launch} {G : dGeo} (hE : dkOk E l G cX0_onward 4 rmX0_onward) (v1 v2 : Int32) (σ : dS) {out} (h : dk_onward_b0 v1 v2 σ = some out) (k : dK E cX0_onward (some .int) out) : dG E σ 0 [v1, v2] [] := by
  unfold dk_onward_b0 at h
  refine dg_aload0 hE dX0_onward_0 ?_
  refine dk_gf3 hE dX0_onward_1 ?_
  refine dg_iload_n hE dX0_onward_4 0 rfl rfl ?_
  refine dk_ld3 hE dX0_onward_5 h (fun h => ?_)
  refine dg_if_lt hE dX0_onward_6 (tgt := 16) (by decide) h (fun h => ?_) (fun h => ?_)
  · refine dg_iload_n hE dX0_onward_16 0 rfl rfl ?_
    refine dg_istore_n hE dX0_onward_17 2 (xs' := [v1, v2, v1]) rfl (Nat.le_of_ble_eq_true rfl) (by decide) rfl ?_
    refine dg_aload0 hE dX0_onward_18 ?_
    refine dk_gf9 hE dX0_onward_19 ?_
    refine dg_aload0 hE dX0_onward_22 ?_
    refine dk_gf7 hE dX0_onward_23 ?_
    refine dg_iload_n hE dX0_onward_26 2 rfl rfl ?_
    refine dk_ld7 hE dX0_onward_27 h (fun h => ?_)
    refine dg_iload_n hE dX0_onward_28 1 rfl rfl ?_
    refine dg_i2b hE dX0_onward_29 ?_
    refine dk_as9 hE dX0_onward_30 h (fun h => ?_)
    cases h
    exact k
  · refine dg_aload0 hE dX0_onward_9 ?_
    refine dk_gf3 hE dX0_onward_10 ?_
    refine dg_iload_n hE dX0_onward_13 0 rfl rfl ?_
    refine dk_ld3 hE dX0_onward_14 h (fun h => ?_)
    cases h
    exact k rfl _ _ dX0_onward_15
theorem w_dk_onward_st {E : dEnv} {l : Launch} {G : dGeo} (hE : dkOk E l G cX0_onward 4 rmX0_onward) (a : Nat × List Int32 × dS) {out} (h : dk_onward_st a = some out) (k : dK E cX0_onward (some .int) out) : dG E a.2.2 a.1 a.2.1 [] := by
  obtain ⟨L, xs, σ⟩ := a
  unfold dk_onward_st at h
  dsimp only at h ⊢
  by_cases c_ : L = 31
  · subst c_
    rw [if_pos rfl] at h
    match xs, h with
    | [x0, x1, x2], h => exact w_dk_onward_b31 hE x0 x1 x2 σ h k
    | [], h => cases h
    | [_], h => cases h
    | [_, _], h => cases h
    | _ :: _ :: _ :: _ :: _, h => cases h
  rw [if_neg c_] at h
  cases h
theorem met_dk_onward (l : Launch) (G : dGeo) (sz : Nat) (v1 v2 : Int32) (σ : dS) {r : Int32 × dS} (h : dk_onward v1 v2 σ = some r) : Met l yX0_onward (ws_ yX0_onward cX0_onward 4 (some .int)) rmX0_onward (dPc G.1 (dk_ty G) (dk_w G σ) sz [.ref G.2.1, .int v1, .int v2]) (dQi G.1 (dk_ty G) (dk_w G σ) (dk_w G r.2) sz r.1) 0 0 (va_A (dk_w G σ) sz) := by
  refine dMet_i (w := dk_w G) (σ := σ) (σ' := r.2) (th := [(0, .ref G.2.1)]) (b := 1) (xs := [v1, v2]) (by decide) rfl rfl (Nat.le_of_ble_eq_true rfl) dth (fun E hE k => ?_)
  unfold dk_onward at h
  obtain ⟨out, h1, h2⟩ := lpB_some h
  exact w_dk_onward_b0 hE v1 v2 σ h1 (dK_lp (fun a out => w_dk_onward_st hE a) h2 k)
theorem dk_ca_onward {E : dEnv} {l : Launch} {G : dGeo} {cc : ByteArray} {nL pc : Nat} {R : Room} {σ : dS} {xs : List Int32} {st : List Value} {τ : Type} {g : Int32 × dS → Option τ} {out : τ} {a0 a1 : Int32} (hE : dkOk E l G cc nL R) (hR : 0 + 1 ≤ R.frames ∧ 8 + (4 + 11) + 0 ≤ R.locals) (hd : decode cc pc = .ok (.invokevirtual 153, 3)) (hs : (st.map fun v => v.category).sum ≤ 8) (h : Option.bind (dk_onward a0 a1 σ) g = some out) (k : ∀ r, g r = some out → dG E r.2 (pc + 3) xs (.int r.1 :: st)) : dG E σ pc xs (.int a1 :: .int a0 :: .ref G.2.1 :: st) := by
  obtain ⟨r, h1, h2⟩ := obind h
  exact dg_callVi hE (As := [.int a0, .int a1]) (st := st) (C := RX0) (rm := rmX0_onward) (dk_recv G) (fun sz => met_dk_onward l G sz a0 a1 σ h1) (lw_V q212 q214 qs5 q50 q215) 2 rfl ⟨rfl, rfl⟩ (by decide +kernel) hR rfl hs hd (k r h2)
abbrev rmX0_count : Room := { frames := 1, cells := 0, slots := 0, locals := 23 }
theorem w_dk_count_b189 {E : dEnv} {l : Launch} {G : dGeo} (hE : dkOk E l G cX0_count 4 rmX0_count) (v1 s0 : Int32) (σ : dS) {out} (h : dk_count_b189 v1 s0 σ = some out) (k : dK E cX0_count none out) : dG E σ 189 [v1] [.int s0] := by
  unfold dk_count_b189 at h
  refine dg_istore_n hE dX0_count_189 1 (xs' := [v1, s0]) rfl (Nat.le_of_ble_eq_true rfl) (by decide) rfl ?_
  refine dg_iinc hE dX0_count_190 0 (xs' := [(v1 + (1 : Int32)), s0]) rfl rfl (by decide) rfl ?_
  refine dg_goto hE dX0_count_193 (tgt := 41) (by decide) ?_
  cases h
  exact k
theorem w_dk_count_b183 {E : dEnv} {l : Launch} {G : dGeo} (hE : dkOk E l G cX0_count 4 rmX0_count) (v1 v2 : Int32) (σ : dS) {out} (h : dk_count_b183 v1 v2 σ = some out) (k : dK E cX0_count none out) : dG E σ 183 [v1, v2] [] := by
  unfold dk_count_b183 at h
  refine dg_aload0 hE dX0_count_183 ?_
  refine dg_iload_n hE dX0_count_184 1 rfl rfl ?_
  refine dg_iload_n hE dX0_count_185 0 rfl rfl ?_
  refine dk_ca_onward hE (by decide) dX0_count_186 (Nat.le_of_ble_eq_true rfl) h (fun r_ h => ?_)
  refine dg_drop (xs' := [v1]) (ys := [v2]) rfl ?_
  exact w_dk_count_b189 hE v1 (r_.1) (r_.2) h k
theorem w_dk_count_b171 {E : dEnv} {l : Launch} {G : dGeo} (hE : dkOk E l G cX0_count 4 rmX0_count) (v1 v2 : Int32) (σ : dS) {out} (h : dk_count_b171 v1 v2 σ = some out) (k : dK E cX0_count none out) : dG E σ 171 [v1, v2] [] := by
  unfold dk_count_b171 at h
  refine dg_aload0 hE dX0_count_171 ?_
  refine dk_gf14 hE dX0_count_172 ?_
  refine dg_iload_n hE dX0_count_175 0 rfl rfl ?_
  refine dg_aload0 hE dX0_count_176 ?_
  refine dk_gf1 hE dX0_count_177 ?_
  refine dg_iload_n hE dX0_count_180 1 rfl rfl ?_
  refine dk_ld1 hE dX0_count_181 h (fun h => ?_)
  refine dk_as14 hE dX0_count_182 h (fun h => ?_)
  exact w_dk_count_b183 hE v1 v2 (up2 σ 14 v1.toNatClampNeg (σ 1 v2.toNatClampNeg)) h k
theorem w_dk_count_b158 {E : dEnv} {l : Launch} {G : dGeo} (hE : dkOk E l G cX0_count 4 rmX0_count) (v1 v2 : Int32) (σ : dS) {out} (h : dk_count_b158 v1 v2 σ = some out) (k : dK E cX0_count none out) : dG E σ 158 [v1, v2] [] := by
  unfold dk_count_b158 at h
  refine dg_aload0 hE dX0_count_158 ?_
  refine dk_gf13 hE dX0_count_159 ?_
  refine dg_bipush hE dX0_count_162 (v := (6 : Int32)) (by decide) ?_
  refine dg_dup2 hE dX0_count_164 rfl rfl ?_
  refine dk_ld13 hE dX0_count_165 h (fun h => ?_)
  refine dg_iconst hE dX0_count_166 (v := (1 : Int32)) (by decide) ?_
  refine dg_iload_n hE dX0_count_167 0 rfl rfl ?_
  refine dg_ishl hE dX0_count_168 ?_
  refine dg_ior hE dX0_count_169 ?_
  refine dk_as13 hE dX0_count_170 h (fun h => ?_)
  exact w_dk_count_b171 hE v1 v2 (up2 σ 13 (6 : Int32).toNatClampNeg ((σ 13 (6 : Int32).toNatClampNeg) ||| ((1 : Int32) <<< (v1 &&& 31)))) h k
theorem w_dk_count_b141 {E : dEnv} {l : Launch} {G : dGeo} (hE : dkOk E l G cX0_count 4 rmX0_count) (v1 v2 : Int32) (σ : dS) {out} (h : dk_count_b141 v1 v2 σ = some out) (k : dK E cX0_count none out) : dG E σ 141 [v1, v2] [] := by
  unfold dk_count_b141 at h
  refine dg_aload0 hE dX0_count_141 ?_
  refine dk_gf13 hE dX0_count_142 ?_
  refine dg_aload0 hE dX0_count_145 ?_
  refine dk_gf0 hE dX0_count_146 ?_
  refine dg_iload_n hE dX0_count_149 1 rfl rfl ?_
  refine dk_ld0 hE dX0_count_150 h (fun h => ?_)
  refine dg_dup2 hE dX0_count_151 rfl rfl ?_
  refine dk_ld13 hE dX0_count_152 h (fun h => ?_)
  refine dg_iconst hE dX0_count_153 (v := (1 : Int32)) (by decide) ?_
  refine dg_iload_n hE dX0_count_154 0 rfl rfl ?_
  refine dg_ishl hE dX0_count_155 ?_
  refine dg_ior hE dX0_count_156 ?_
  refine dk_as13 hE dX0_count_157 h (fun h => ?_)
  exact w_dk_count_b158 hE v1 v2 (up2 σ 13 (σ 0 v2.toNatClampNeg).toNatClampNeg ((σ 13 (σ 0 v2.toNatClampNeg).toNatClampNeg) ||| ((1 : Int32) <<< (v1 &&& 31)))) h k
theorem w_dk_count_b125 {E : dEnv} {l : Launch} {G : dGeo} (hE : dkOk E l G cX0_count 4 rmX0_count) (v1 v2 v3 : Int32) (σ : dS) {out} (h : dk_count_b125 v1 v2 v3 σ = some out) (k : dK E cX0_count none out) : dG E σ 125 [v1, v2, v3] [] := by
  unfold dk_count_b125 at h
  refine dg_iload_n hE dX0_count_125 2 rfl rfl ?_
  refine dg_if_lt hE dX0_count_126 (tgt := 141) (by decide) h (fun h => ?_) (fun h => ?_)
  · refine dg_drop (xs' := [v1, v2]) (ys := [v3]) rfl ?_
    exact w_dk_count_b141 hE v1 v2 σ h k
  · refine dg_aload0 hE dX0_count_129 ?_
    refine dk_gf11 hE dX0_count_130 ?_
    refine dg_iload_n hE dX0_count_133 2 rfl rfl ?_
    refine dg_dup2 hE dX0_count_134 rfl rfl ?_
    refine dk_ld11 hE dX0_count_135 h (fun h => ?_)
    refine dg_iconst hE dX0_count_136 (v := (1 : Int32)) (by decide) ?_
    refine dg_iload_n hE dX0_count_137 0 rfl rfl ?_
    refine dg_ishl hE dX0_count_138 ?_
    refine dg_ior hE dX0_count_139 ?_
    refine dk_as11 hE dX0_count_140 h (fun h => ?_)
    refine dg_drop (xs' := [v1, v2]) (ys := [v3]) rfl ?_
    exact w_dk_count_b141 hE v1 v2 (up2 σ 11 v3.toNatClampNeg ((σ 11 v3.toNatClampNeg) ||| ((1 : Int32) <<< (v1 &&& 31)))) h k
theorem w_dk_count_b124 {E : dEnv} {l : Launch} {G : dGeo} (hE : dkOk E l G cX0_count 4 rmX0_count) (v1 v2 v3 s0 s1 : Int32) (σ : dS) {out} (h : dk_count_b124 v1 v2 v3 s0 s1 σ = some out) (k : dK E cX0_count none out) : dG E σ 124 [v1, v2, v3] [.int s0, .int s1, .ref (G.2.2.1 12)] := by
  unfold dk_count_b124 at h
  refine dk_as12 hE dX0_count_124 h (fun h => ?_)
  exact w_dk_count_b125 hE v1 v2 v3 (up2 σ 12 s1.toNatClampNeg s0) h k
theorem w_dk_count_b101 {E : dEnv} {l : Launch} {G : dGeo} (hE : dkOk E l G cX0_count 4 rmX0_count) (v1 v2 v3 : Int32) (σ : dS) {out} (h : dk_count_b101 v1 v2 v3 σ = some out) (k : dK E cX0_count none out) : dG E σ 101 [v1, v2, v3] [] := by
  unfold dk_count_b101 at h
  refine dg_aload0 hE dX0_count_101 ?_
  refine dk_gf12 hE dX0_count_102 ?_
  refine dg_iload_n hE dX0_count_105 0 rfl rfl ?_
  refine dg_iload_n hE dX0_count_106 2 rfl rfl ?_
  refine dg_if_ge hE dX0_count_107 (tgt := 114) (by decide) h (fun h => ?_) (fun h => ?_)
  · refine dg_aload0 hE dX0_count_114 ?_
    refine dk_gf12 hE dX0_count_115 ?_
    refine dg_iload_n hE dX0_count_118 2 rfl rfl ?_
    refine dk_ld12 hE dX0_count_119 h (fun h => ?_)
    refine dg_iconst hE dX0_count_120 (v := (1 : Int32)) (by decide) ?_
    refine dg_iload_n hE dX0_count_121 2 rfl rfl ?_
    refine dg_ishl hE dX0_count_122 ?_
    refine dg_ior hE dX0_count_123 ?_
    exact w_dk_count_b124 hE v1 v2 v3 ((σ 12 v3.toNatClampNeg) ||| ((1 : Int32) <<< (v3 &&& 31))) v1 σ h k
  · refine dg_iconst hE dX0_count_110 (v := (0 : Int32)) (by decide) ?_
    refine dg_goto hE dX0_count_111 (tgt := 124) (by decide) ?_
    exact w_dk_count_b124 hE v1 v2 v3 (0 : Int32) v1 σ h k
theorem w_dk_count_b94 {E : dEnv} {l : Launch} {G : dGeo} (hE : dkOk E l G cX0_count 4 rmX0_count) (v1 v2 v3 : Int32) (σ : dS) {out} (h : dk_count_b94 v1 v2 v3 σ = some out) (k : dK E cX0_count none out) : dG E σ 94 [v1, v2, v3] [] := by
  unfold dk_count_b94 at h
  refine dg_aload0 hE dX0_count_94 ?_
  refine dk_gf11 hE dX0_count_95 ?_
  refine dg_iload_n hE dX0_count_98 0 rfl rfl ?_
  refine dg_iconst hE dX0_count_99 (v := (0 : Int32)) (by decide) ?_
  refine dk_as11 hE dX0_count_100 h (fun h => ?_)
  exact w_dk_count_b101 hE v1 v2 v3 (up2 σ 11 v1.toNatClampNeg (0 : Int32)) h k
theorem w_dk_count_b85 {E : dEnv} {l : Launch} {G : dGeo} (hE : dkOk E l G cX0_count 4 rmX0_count) (v1 v2 s0 : Int32) (σ : dS) {out} (h : dk_count_b85 v1 v2 s0 σ = some out) (k : dK E cX0_count none out) : dG E σ 85 [v1, v2] [.int s0] := by
  unfold dk_count_b85 at h
  refine dg_istore_n hE dX0_count_85 2 (xs' := [v1, v2, s0]) rfl (Nat.le_of_ble_eq_true rfl) (by decide) rfl ?_
  refine dg_aload0 hE dX0_count_86 ?_
  refine dk_gf10 hE dX0_count_87 ?_
  refine dg_iload_n hE dX0_count_90 0 rfl rfl ?_
  refine dg_iload_n hE dX0_count_91 2 rfl rfl ?_
  refine dg_i2b hE dX0_count_92 ?_
  refine dk_as10 hE dX0_count_93 h (fun h => ?_)
  exact w_dk_count_b94 hE v1 v2 s0 (up2 σ 10 v1.toNatClampNeg (vp_nar .byte (s0.toInt8.toInt32))) h k
theorem w_dk_count_b61 {E : dEnv} {l : Launch} {G : dGeo} (hE : dkOk E l G cX0_count 4 rmX0_count) (v1 v2 : Int32) (σ : dS) {out} (h : dk_count_b61 v1 v2 σ = some out) (k : dK E cX0_count none out) : dG E σ 61 [v1, v2] [] := by
  unfold dk_count_b61 at h
  refine dg_aload0 hE dX0_count_61 ?_
  refine dk_gf2 hE dX0_count_62 ?_
  refine dg_iload_n hE dX0_count_65 1 rfl rfl ?_
  refine dk_ld2 hE dX0_count_66 h (fun h => ?_)
  refine dg_if_ge hE dX0_count_67 (tgt := 74) (by decide) h (fun h => ?_) (fun h => ?_)
  · refine dg_aload0 hE dX0_count_74 ?_
    refine dk_gf7 hE dX0_count_75 ?_
    refine dg_aload0 hE dX0_count_78 ?_
    refine dk_gf2 hE dX0_count_79 ?_
    refine dg_iload_n hE dX0_count_82 1 rfl rfl ?_
    refine dk_ld2 hE dX0_count_83 h (fun h => ?_)
    refine dk_ld7 hE dX0_count_84 h (fun h => ?_)
    exact w_dk_count_b85 hE v1 v2 (σ 7 (σ 2 v2.toNatClampNeg).toNatClampNeg) σ h k
  · refine dg_iconst hE dX0_count_70 (v := (-1 : Int32)) (by decide) ?_
    refine dg_goto hE dX0_count_71 (tgt := 85) (by decide) ?_
    exact w_dk_count_b85 hE v1 v2 (-1 : Int32) σ h k
theorem w_dk_count_b53 {E : dEnv} {l : Launch} {G : dGeo} (hE : dkOk E l G cX0_count 4 rmX0_count) (v1 v2 : Int32) (σ : dS) {out} (h : dk_count_b53 v1 v2 σ = some out) (k : dK E cX0_count none out) : dG E σ 53 [v1, v2] [] := by
  unfold dk_count_b53 at h
  refine dg_aload0 hE dX0_count_53 ?_
  refine dk_gf8 hE dX0_count_54 ?_
  refine dg_iload_n hE dX0_count_57 0 rfl rfl ?_
  refine dg_iload_n hE dX0_count_58 1 rfl rfl ?_
  refine dg_i2b hE dX0_count_59 ?_
  refine dk_as8 hE dX0_count_60 h (fun h => ?_)
  exact w_dk_count_b61 hE v1 v2 (up2 σ 8 v1.toNatClampNeg (vp_nar .byte (v2.toInt8.toInt32))) h k
theorem w_dk_count_b41 {E : dEnv} {l : Launch} {G : dGeo} (hE : dkOk E l G cX0_count 4 rmX0_count) (v1 v2 : Int32) (σ : dS) {out} (h : dk_count_b41 v1 v2 σ = some out) (k : dK E cX0_count none out) : dG E σ 41 [v1, v2] [] := by
  unfold dk_count_b41 at h
  refine dg_iload_n hE dX0_count_41 1 rfl rfl ?_
  refine dg_if_lt hE dX0_count_42 (tgt := 196) (by decide) h (fun h => ?_) (fun h => ?_)
  · cases h
    exact k _ _ dX0_count_196
  · refine dg_aload0 hE dX0_count_45 ?_
    refine dk_gf7 hE dX0_count_46 ?_
    refine dg_iload_n hE dX0_count_49 1 rfl rfl ?_
    refine dg_iload_n hE dX0_count_50 0 rfl rfl ?_
    refine dg_i2b hE dX0_count_51 ?_
    refine dk_as7 hE dX0_count_52 h (fun h => ?_)
    exact w_dk_count_b53 hE v1 v2 (up2 σ 7 v2.toNatClampNeg (vp_nar .byte (v1.toInt8.toInt32))) h k
theorem w_dk_count_b15 {E : dEnv} {l : Launch} {G : dGeo} (hE : dkOk E l G cX0_count 4 rmX0_count) (v1 : Int32) (σ : dS) {out} (h : dk_count_b15 v1 σ = some out) (k : dK E cX0_count none out) : dG E σ 15 [v1] [] := by
  unfold dk_count_b15 at h
  refine dg_iload_n hE dX0_count_15 0 rfl rfl ?_
  refine dg_bipush hE dX0_count_16 (v := (7 : Int32)) (by decide) ?_
  refine dg_icmp_ge hE dX0_count_18 (tgt := 34) (by decide) h (fun h => ?_) (fun h => ?_)
  · refine dg_iconst hE dX0_count_34 (v := (0 : Int32)) (by decide) ?_
    refine dg_istore_n hE dX0_count_35 0 (xs' := [(0 : Int32)]) rfl (Nat.le_of_ble_eq_true rfl) (by decide) rfl ?_
    refine dg_aload0 hE dX0_count_36 ?_
    refine dk_gf5 hE dX0_count_37 ?_
    refine dg_istore_n hE dX0_count_40 1 (xs' := [(0 : Int32), (σ 5 0)]) rfl (Nat.le_of_ble_eq_true rfl) (by decide) rfl ?_
    cases h
    exact k
  · refine dg_aload0 hE dX0_count_21 ?_
    refine dk_gf13 hE dX0_count_22 ?_
    refine dg_iload_n hE dX0_count_25 0 rfl rfl ?_
    refine dg_iconst hE dX0_count_26 (v := (0 : Int32)) (by decide) ?_
    refine dk_as13 hE dX0_count_27 h (fun h => ?_)
    refine dg_iinc hE dX0_count_28 0 (xs' := [(v1 + (1 : Int32))]) rfl rfl (by decide) rfl ?_
    refine dg_goto hE dX0_count_31 (tgt := 15) (by decide) ?_
    cases h
    exact k
theorem w_dk_count_b13 {E : dEnv} {l : Launch} {G : dGeo} (hE : dkOk E l G cX0_count 4 rmX0_count) (σ : dS) {out} (h : dk_count_b13 σ = some out) (k : dK E cX0_count none out) : dG E σ 13 [] [] := by
  unfold dk_count_b13 at h
  refine dg_iconst hE dX0_count_13 (v := (0 : Int32)) (by decide) ?_
  refine dg_istore_n hE dX0_count_14 0 (xs' := [(0 : Int32)]) rfl (Nat.le_of_ble_eq_true rfl) (by decide) rfl ?_
  cases h
  exact k
theorem w_dk_count_b0 {E : dEnv} {l : Launch} {G : dGeo} (hE : dkOk E l G cX0_count 4 rmX0_count) (σ : dS) {out} (h : dk_count_b0 σ = some out) (k : dK E cX0_count none out) : dG E σ 0 [] [] := by
  unfold dk_count_b0 at h
  refine dg_aload0 hE dX0_count_0 ?_
  refine dk_gf15 hE dX0_count_1 ?_
  refine dg_if_eq hE dX0_count_4 (tgt := 8) (by decide) h (fun h => ?_) (fun h => ?_)
  · refine dg_aload0 hE dX0_count_8 ?_
    refine dg_iconst hE dX0_count_9 (v := (1 : Int32)) (by decide) ?_
    refine dk_pf15 hE dX0_count_10 rfl rfl ?_
    exact w_dk_count_b13 hE (up2 σ 15 0 (1 : Int32)) h k
  · cases h
    exact k _ _ dX0_count_7
theorem w_dk_count_st {E : dEnv} {l : Launch} {G : dGeo} (hE : dkOk E l G cX0_count 4 rmX0_count) (a : Nat × List Int32 × dS) {out} (h : dk_count_st a = some out) (k : dK E cX0_count none out) : dG E a.2.2 a.1 a.2.1 [] := by
  obtain ⟨L, xs, σ⟩ := a
  unfold dk_count_st at h
  dsimp only at h ⊢
  by_cases c_ : L = 15
  · subst c_
    rw [if_pos rfl] at h
    match xs, h with
    | [x0], h => exact w_dk_count_b15 hE x0 σ h k
    | [], h => cases h
    | _ :: _ :: _, h => cases h
  rw [if_neg c_] at h
  by_cases c_ : L = 41
  · subst c_
    rw [if_pos rfl] at h
    match xs, h with
    | [x0, x1], h => exact w_dk_count_b41 hE x0 x1 σ h k
    | [], h => cases h
    | [_], h => cases h
    | _ :: _ :: _ :: _, h => cases h
  rw [if_neg c_] at h
  cases h
theorem met_dk_count (l : Launch) (G : dGeo) (sz : Nat) (σ : dS) {r : Int32 × dS} (h : dk_count σ = some r) : Met l yX0_count (ws_ yX0_count cX0_count 4 none) rmX0_count (dPc G.1 (dk_ty G) (dk_w G σ) sz [.ref G.2.1]) (dQv G.1 (dk_ty G) (dk_w G σ) (dk_w G r.2) sz) 0 0 (va_A (dk_w G σ) sz) := by
  refine dMet_v (w := dk_w G) (σ := σ) (σ' := r.2) (r := r.1) (th := [(0, .ref G.2.1)]) (b := 1) (xs := []) (by decide) rfl rfl (Nat.le_of_ble_eq_true rfl) dth (fun E hE k => ?_)
  unfold dk_count at h
  obtain ⟨out, h1, h2⟩ := lpB_some h
  exact w_dk_count_b0 hE σ h1 (dK_lp (fun a out => w_dk_count_st hE a) h2 k)
theorem dk_ca_count {E : dEnv} {l : Launch} {G : dGeo} {cc : ByteArray} {nL pc : Nat} {R : Room} {σ : dS} {xs : List Int32} {st : List Value} {τ : Type} {g : Int32 × dS → Option τ} {out : τ} (hE : dkOk E l G cc nL R) (hR : 1 + 1 ≤ R.frames ∧ 8 + (4 + 11) + 23 ≤ R.locals) (hd : decode cc pc = .ok (.invokevirtual 146, 3)) (hs : (st.map fun v => v.category).sum ≤ 8) (h : Option.bind (dk_count σ) g = some out) (k : ∀ r, g r = some out → dG E r.2 (pc + 3) xs (st)) : dG E σ pc xs (.ref G.2.1 :: st) := by
  obtain ⟨r, h1, h2⟩ := obind h
  exact dg_callVv hE (As := []) (st := st) (C := RX0) (rm := rmX0_count) (dk_recv G) (fun sz => met_dk_count l G sz σ h1) (lw_V q208 q210 qs4 q50 q211) 0 rfl ⟨rfl, rfl⟩ (by decide +kernel) hR rfl hs hd (k r h2)
abbrev rmX0_unlink : Room := { frames := 0, cells := 0, slots := 0, locals := 0 }
theorem w_dk_unlink_b37 {E : dEnv} {l : Launch} {G : dGeo} (hE : dkOk E l G cX0_unlink 4 rmX0_unlink) (v1 v2 v3 : Int32) (σ : dS) {out} (h : dk_unlink_b37 v1 v2 v3 σ = some out) (k : dK E cX0_unlink none out) : dG E σ 37 [v1, v2, v3] [] := by
  unfold dk_unlink_b37 at h
  refine dg_aload0 hE dX0_unlink_37 ?_
  refine dk_gf4 hE dX0_unlink_38 ?_
  refine dg_iload_n hE dX0_unlink_41 2 rfl rfl ?_
  refine dk_ld4 hE dX0_unlink_42 h (fun h => ?_)
  refine dg_iload_n hE dX0_unlink_43 0 rfl rfl ?_
  refine dg_icmp_eq hE dX0_unlink_44 (tgt := 57) (by decide) h (fun h => ?_) (fun h => ?_)
  · refine dg_aload0 hE dX0_unlink_57 ?_
    refine dk_gf4 hE dX0_unlink_58 ?_
    refine dg_iload_n hE dX0_unlink_61 2 rfl rfl ?_
    refine dg_aload0 hE dX0_unlink_62 ?_
    refine dk_gf4 hE dX0_unlink_63 ?_
    refine dg_iload_n hE dX0_unlink_66 0 rfl rfl ?_
    refine dk_ld4 hE dX0_unlink_67 h (fun h => ?_)
    refine dk_as4 hE dX0_unlink_68 h (fun h => ?_)
    cases h
    exact k _ _ dX0_unlink_69
  · refine dg_aload0 hE dX0_unlink_47 ?_
    refine dk_gf4 hE dX0_unlink_48 ?_
    refine dg_iload_n hE dX0_unlink_51 2 rfl rfl ?_
    refine dk_ld4 hE dX0_unlink_52 h (fun h => ?_)
    refine dg_istore_n hE dX0_unlink_53 2 (xs' := [v1, v2, (σ 4 v3.toNatClampNeg)]) rfl (Nat.le_of_ble_eq_true rfl) (by decide) rfl ?_
    refine dg_goto hE dX0_unlink_54 (tgt := 37) (by decide) ?_
    cases h
    exact k
theorem w_dk_unlink_b7 {E : dEnv} {l : Launch} {G : dGeo} (hE : dkOk E l G cX0_unlink 4 rmX0_unlink) (v1 v2 : Int32) (σ : dS) {out} (h : dk_unlink_b7 v1 v2 σ = some out) (k : dK E cX0_unlink none out) : dG E σ 7 [v1, v2] [] := by
  unfold dk_unlink_b7 at h
  refine dg_aload0 hE dX0_unlink_7 ?_
  refine dk_gf3 hE dX0_unlink_8 ?_
  refine dg_iload_n hE dX0_unlink_11 1 rfl rfl ?_
  refine dk_ld3 hE dX0_unlink_12 h (fun h => ?_)
  refine dg_iload_n hE dX0_unlink_13 0 rfl rfl ?_
  refine dg_icmp_ne hE dX0_unlink_14 (tgt := 30) (by decide) h (fun h => ?_) (fun h => ?_)
  · refine dg_aload0 hE dX0_unlink_30 ?_
    refine dk_gf3 hE dX0_unlink_31 ?_
    refine dg_iload_n hE dX0_unlink_34 1 rfl rfl ?_
    refine dk_ld3 hE dX0_unlink_35 h (fun h => ?_)
    refine dg_istore_n hE dX0_unlink_36 2 (xs' := [v1, v2, (σ 3 v2.toNatClampNeg)]) rfl (Nat.le_of_ble_eq_true rfl) (by decide) rfl ?_
    cases h
    exact k
  · refine dg_aload0 hE dX0_unlink_17 ?_
    refine dk_gf3 hE dX0_unlink_18 ?_
    refine dg_iload_n hE dX0_unlink_21 1 rfl rfl ?_
    refine dg_aload0 hE dX0_unlink_22 ?_
    refine dk_gf4 hE dX0_unlink_23 ?_
    refine dg_iload_n hE dX0_unlink_26 0 rfl rfl ?_
    refine dk_ld4 hE dX0_unlink_27 h (fun h => ?_)
    refine dk_as3 hE dX0_unlink_28 h (fun h => ?_)
    cases h
    exact k _ _ dX0_unlink_29
theorem w_dk_unlink_b0 {E : dEnv} {l : Launch} {G : dGeo} (hE : dkOk E l G cX0_unlink 4 rmX0_unlink) (v1 : Int32) (σ : dS) {out} (h : dk_unlink_b0 v1 σ = some out) (k : dK E cX0_unlink none out) : dG E σ 0 [v1] [] := by
  unfold dk_unlink_b0 at h
  refine dg_aload0 hE dX0_unlink_0 ?_
  refine dk_gf2 hE dX0_unlink_1 ?_
  refine dg_iload_n hE dX0_unlink_4 0 rfl rfl ?_
  refine dk_ld2 hE dX0_unlink_5 h (fun h => ?_)
  refine dg_istore_n hE dX0_unlink_6 1 (xs' := [v1, (σ 2 v1.toNatClampNeg)]) rfl (Nat.le_of_ble_eq_true rfl) (by decide) rfl ?_
  exact w_dk_unlink_b7 hE v1 (σ 2 v1.toNatClampNeg) σ h k
theorem w_dk_unlink_st {E : dEnv} {l : Launch} {G : dGeo} (hE : dkOk E l G cX0_unlink 4 rmX0_unlink) (a : Nat × List Int32 × dS) {out} (h : dk_unlink_st a = some out) (k : dK E cX0_unlink none out) : dG E a.2.2 a.1 a.2.1 [] := by
  obtain ⟨L, xs, σ⟩ := a
  unfold dk_unlink_st at h
  dsimp only at h ⊢
  by_cases c_ : L = 37
  · subst c_
    rw [if_pos rfl] at h
    match xs, h with
    | [x0, x1, x2], h => exact w_dk_unlink_b37 hE x0 x1 x2 σ h k
    | [], h => cases h
    | [_], h => cases h
    | [_, _], h => cases h
    | _ :: _ :: _ :: _ :: _, h => cases h
  rw [if_neg c_] at h
  cases h
theorem met_dk_unlink (l : Launch) (G : dGeo) (sz : Nat) (v1 : Int32) (σ : dS) {r : Int32 × dS} (h : dk_unlink v1 σ = some r) : Met l yX0_unlink (ws_ yX0_unlink cX0_unlink 4 none) rmX0_unlink (dPc G.1 (dk_ty G) (dk_w G σ) sz [.ref G.2.1, .int v1]) (dQv G.1 (dk_ty G) (dk_w G σ) (dk_w G r.2) sz) 0 0 (va_A (dk_w G σ) sz) := by
  refine dMet_v (w := dk_w G) (σ := σ) (σ' := r.2) (r := r.1) (th := [(0, .ref G.2.1)]) (b := 1) (xs := [v1]) (by decide) rfl rfl (Nat.le_of_ble_eq_true rfl) dth (fun E hE k => ?_)
  unfold dk_unlink at h
  obtain ⟨out, h1, h2⟩ := lpB_some h
  exact w_dk_unlink_b0 hE v1 σ h1 (dK_lp (fun a out => w_dk_unlink_st hE a) h2 k)
theorem dk_ca_unlink {E : dEnv} {l : Launch} {G : dGeo} {cc : ByteArray} {nL pc : Nat} {R : Room} {σ : dS} {xs : List Int32} {st : List Value} {τ : Type} {g : Int32 × dS → Option τ} {out : τ} {a0 : Int32} (hE : dkOk E l G cc nL R) (hR : 0 + 1 ≤ R.frames ∧ 8 + (4 + 11) + 0 ≤ R.locals) (hd : decode cc pc = .ok (.invokevirtual 149, 3)) (hs : (st.map fun v => v.category).sum ≤ 8) (h : Option.bind (dk_unlink a0 σ) g = some out) (k : ∀ r, g r = some out → dG E r.2 (pc + 3) xs (st)) : dG E σ pc xs (.int a0 :: .ref G.2.1 :: st) := by
  obtain ⟨r, h1, h2⟩ := obind h
  exact dg_callVv hE (As := [.int a0]) (st := st) (C := RX0) (rm := rmX0_unlink) (dk_recv G) (fun sz => met_dk_unlink l G sz a0 σ h1) (lw_V q216 q218 qs6 q50 q219) 1 rfl ⟨rfl, rfl⟩ (by decide +kernel) hR rfl hs hd (k r h2)
abbrev rmX0_remove : Room := { frames := 2, cells := 0, slots := 0, locals := 46 }
theorem w_dk_remove_b95 {E : dEnv} {l : Launch} {G : dGeo} (hE : dkOk E l G cX0_remove 5 rmX0_remove) (v1 v2 v3 : Int32) (σ : dS) {out} (h : dk_remove_b95 v1 v2 v3 σ = some out) (k : dK E cX0_remove (some .int) out) : dG E σ 95 [v1, v2, v3] [] := by
  unfold dk_remove_b95 at h
  refine dg_iload_n hE dX0_remove_95 2 rfl rfl ?_
  refine dg_iload_n hE dX0_remove_96 1 rfl rfl ?_
  refine dg_isub hE dX0_remove_97 ?_
  refine dg_iconst hE dX0_remove_98 (v := (1 : Int32)) (by decide) ?_
  refine dg_iadd hE dX0_remove_99 ?_
  cases h
  exact k rfl _ _ dX0_remove_100
theorem w_dk_remove_b91 {E : dEnv} {l : Launch} {G : dGeo} (hE : dkOk E l G cX0_remove 5 rmX0_remove) (v1 v2 v3 : Int32) (σ : dS) {out} (h : dk_remove_b91 v1 v2 v3 σ = some out) (k : dK E cX0_remove (some .int) out) : dG E σ 91 [v1, v2, v3] [] := by
  unfold dk_remove_b91 at h
  refine dg_aload0 hE dX0_remove_91 ?_
  refine dk_ca_changed hE (by decide) dX0_remove_92 (Nat.le_of_ble_eq_true rfl) h (fun r_ h => ?_)
  exact w_dk_remove_b95 hE v1 v2 v3 (r_.2) h k
theorem w_dk_remove_b52 {E : dEnv} {l : Launch} {G : dGeo} (hE : dkOk E l G cX0_remove 5 rmX0_remove) (v1 v2 v3 v4 : Int32) (σ : dS) {out} (h : dk_remove_b52 v1 v2 v3 v4 σ = some out) (k : dK E cX0_remove (some .int) out) : dG E σ 52 [v1, v2, v3, v4] [] := by
  unfold dk_remove_b52 at h
  refine dg_iload hE dX0_remove_52 3 rfl rfl ?_
  refine dg_iload_n hE dX0_remove_54 2 rfl rfl ?_
  refine dg_icmp_gt hE dX0_remove_55 (tgt := 77) (by decide) h (fun h => ?_) (fun h => ?_)
  · refine dg_aload0 hE dX0_remove_77 ?_
    refine dg_dup hE dX0_remove_78 rfl ?_
    refine dk_gf6 hE dX0_remove_79 ?_
    refine dg_iload_n hE dX0_remove_82 2 rfl rfl ?_
    refine dg_iload_n hE dX0_remove_83 1 rfl rfl ?_
    refine dg_isub hE dX0_remove_84 ?_
    refine dg_iconst hE dX0_remove_85 (v := (1 : Int32)) (by decide) ?_
    refine dg_iadd hE dX0_remove_86 ?_
    refine dg_isub hE dX0_remove_87 ?_
    refine dk_pf6 hE dX0_remove_88 ?_
    refine dg_drop (xs' := [v1, v2, v3]) (ys := [v4]) rfl ?_
    exact w_dk_remove_b91 hE v1 v2 v3 (up2 σ 6 0 ((σ 6 0) - ((v3 - v2) + (1 : Int32)))) h k
  · refine dg_aload0 hE dX0_remove_58 ?_
    refine dk_gf0 hE dX0_remove_59 ?_
    refine dg_aload0 hE dX0_remove_62 ?_
    refine dk_gf8 hE dX0_remove_63 ?_
    refine dg_iload hE dX0_remove_66 3 rfl rfl ?_
    refine dk_ld8 hE dX0_remove_68 h (fun h => ?_)
    refine dg_iconst hE dX0_remove_69 (v := (-1 : Int32)) (by decide) ?_
    refine dk_as0 hE dX0_remove_70 h (fun h => ?_)
    refine dg_iinc hE dX0_remove_71 3 (xs' := [v1, v2, v3, (v4 + (1 : Int32))]) rfl rfl (by decide) rfl ?_
    refine dg_goto hE dX0_remove_74 (tgt := 52) (by decide) ?_
    cases h
    exact k
theorem w_dk_remove_b49 {E : dEnv} {l : Launch} {G : dGeo} (hE : dkOk E l G cX0_remove 5 rmX0_remove) (v1 v2 v3 : Int32) (σ : dS) {out} (h : dk_remove_b49 v1 v2 v3 σ = some out) (k : dK E cX0_remove (some .int) out) : dG E σ 49 [v1, v2, v3] [] := by
  unfold dk_remove_b49 at h
  refine dg_iload_n hE dX0_remove_49 1 rfl rfl ?_
  refine dg_istore hE dX0_remove_50 3 (xs' := [v1, v2, v3, v2]) rfl (Nat.le_of_ble_eq_true rfl) (by decide) rfl ?_
  cases h
  exact k
theorem w_dk_remove_b28 {E : dEnv} {l : Launch} {G : dGeo} (hE : dkOk E l G cX0_remove 5 rmX0_remove) (v1 v2 v3 : Int32) (σ : dS) {out} (h : dk_remove_b28 v1 v2 v3 σ = some out) (k : dK E cX0_remove (some .int) out) : dG E σ 28 [v1, v2, v3] [] := by
  unfold dk_remove_b28 at h
  refine dg_iload_n hE dX0_remove_28 0 rfl rfl ?_
  refine dg_aload0 hE dX0_remove_29 ?_
  refine dk_gf5 hE dX0_remove_30 ?_
  refine dg_icmp_ne hE dX0_remove_33 (tgt := 44) (by decide) h (fun h => ?_) (fun h => ?_)
  · refine dg_aload0 hE dX0_remove_44 ?_
    refine dg_iload_n hE dX0_remove_45 0 rfl rfl ?_
    refine dk_ca_unlink hE (by decide) dX0_remove_46 (Nat.le_of_ble_eq_true rfl) h (fun r_ h => ?_)
    exact w_dk_remove_b49 hE v1 v2 v3 (r_.2) h k
  · refine dg_aload0 hE dX0_remove_36 ?_
    refine dg_iconst hE dX0_remove_37 (v := (-1 : Int32)) (by decide) ?_
    refine dk_pf5 hE dX0_remove_38 ?_
    refine dg_goto hE dX0_remove_41 (tgt := 49) (by decide) ?_
    exact w_dk_remove_b49 hE v1 v2 v3 (up2 σ 5 0 (-1 : Int32)) h k
theorem w_dk_remove_b21 {E : dEnv} {l : Launch} {G : dGeo} (hE : dkOk E l G cX0_remove 5 rmX0_remove) (v1 v2 : Int32) (σ : dS) {out} (h : dk_remove_b21 v1 v2 σ = some out) (k : dK E cX0_remove (some .int) out) : dG E σ 21 [v1, v2] [] := by
  unfold dk_remove_b21 at h
  refine dg_aload0 hE dX0_remove_21 ?_
  refine dk_gf9 hE dX0_remove_22 ?_
  refine dg_iload_n hE dX0_remove_25 1 rfl rfl ?_
  refine dk_ld9 hE dX0_remove_26 h (fun h => ?_)
  refine dg_istore_n hE dX0_remove_27 2 (xs' := [v1, v2, (σ 9 v2.toNatClampNeg)]) rfl (Nat.le_of_ble_eq_true rfl) (by decide) rfl ?_
  exact w_dk_remove_b28 hE v1 v2 (σ 9 v2.toNatClampNeg) σ h k
theorem w_dk_remove_b14 {E : dEnv} {l : Launch} {G : dGeo} (hE : dkOk E l G cX0_remove 5 rmX0_remove) (v1 : Int32) (σ : dS) {out} (h : dk_remove_b14 v1 σ = some out) (k : dK E cX0_remove (some .int) out) : dG E σ 14 [v1] [] := by
  unfold dk_remove_b14 at h
  refine dg_aload0 hE dX0_remove_14 ?_
  refine dk_gf7 hE dX0_remove_15 ?_
  refine dg_iload_n hE dX0_remove_18 0 rfl rfl ?_
  refine dk_ld7 hE dX0_remove_19 h (fun h => ?_)
  refine dg_istore_n hE dX0_remove_20 1 (xs' := [v1, (σ 7 v1.toNatClampNeg)]) rfl (Nat.le_of_ble_eq_true rfl) (by decide) rfl ?_
  exact w_dk_remove_b21 hE v1 (σ 7 v1.toNatClampNeg) σ h k
theorem w_dk_remove_b5 {E : dEnv} {l : Launch} {G : dGeo} (hE : dkOk E l G cX0_remove 5 rmX0_remove) (v1 s0 : Int32) (σ : dS) {out} (h : dk_remove_b5 v1 s0 σ = some out) (k : dK E cX0_remove (some .int) out) : dG E σ 5 [v1] [.int s0] := by
  unfold dk_remove_b5 at h
  refine dg_if_ne hE dX0_remove_5 (tgt := 10) (by decide) h (fun h => ?_) (fun h => ?_)
  · refine dg_aload0 hE dX0_remove_10 ?_
    refine dk_ca_count hE (by decide) dX0_remove_11 (Nat.le_of_ble_eq_true rfl) h (fun r_ h => ?_)
    exact w_dk_remove_b14 hE v1 (r_.2) h k
  · refine dg_iconst hE dX0_remove_8 (v := (-1 : Int32)) (by decide) ?_
    cases h
    exact k rfl _ _ dX0_remove_9
theorem w_dk_remove_b0 {E : dEnv} {l : Launch} {G : dGeo} (hE : dkOk E l G cX0_remove 5 rmX0_remove) (v1 : Int32) (σ : dS) {out} (h : dk_remove_b0 v1 σ = some out) (k : dK E cX0_remove (some .int) out) : dG E σ 0 [v1] [] := by
  unfold dk_remove_b0 at h
  refine dg_aload0 hE dX0_remove_0 ?_
  refine dg_iload_n hE dX0_remove_1 0 rfl rfl ?_
  refine dk_ca_isNode hE (by decide) dX0_remove_2 (Nat.le_of_ble_eq_true rfl) h (fun r_ h => ?_)
  exact w_dk_remove_b5 hE v1 (r_.1) (r_.2) h k
theorem w_dk_remove_st {E : dEnv} {l : Launch} {G : dGeo} (hE : dkOk E l G cX0_remove 5 rmX0_remove) (a : Nat × List Int32 × dS) {out} (h : dk_remove_st a = some out) (k : dK E cX0_remove (some .int) out) : dG E a.2.2 a.1 a.2.1 [] := by
  obtain ⟨L, xs, σ⟩ := a
  unfold dk_remove_st at h
  dsimp only at h ⊢
  by_cases c_ : L = 52
  · subst c_
    rw [if_pos rfl] at h
    match xs, h with
    | [x0, x1, x2, x3], h => exact w_dk_remove_b52 hE x0 x1 x2 x3 σ h k
    | [], h => cases h
    | [_], h => cases h
    | [_, _], h => cases h
    | [_, _, _], h => cases h
    | _ :: _ :: _ :: _ :: _ :: _, h => cases h
  rw [if_neg c_] at h
  cases h
theorem met_dk_remove (l : Launch) (G : dGeo) (sz : Nat) (v1 : Int32) (σ : dS) {r : Int32 × dS} (h : dk_remove v1 σ = some r) : Met l yX0_remove (ws_ yX0_remove cX0_remove 5 (some .int)) rmX0_remove (dPc G.1 (dk_ty G) (dk_w G σ) sz [.ref G.2.1, .int v1]) (dQi G.1 (dk_ty G) (dk_w G σ) (dk_w G r.2) sz r.1) 0 0 (va_A (dk_w G σ) sz) := by
  refine dMet_i (w := dk_w G) (σ := σ) (σ' := r.2) (th := [(0, .ref G.2.1)]) (b := 1) (xs := [v1]) (by decide) rfl rfl (Nat.le_of_ble_eq_true rfl) dth (fun E hE k => ?_)
  unfold dk_remove at h
  obtain ⟨out, h1, h2⟩ := lpB_some h
  exact w_dk_remove_b0 hE v1 σ h1 (dK_lp (fun a out => w_dk_remove_st hE a) h2 k)
