set_option maxRecDepth 100000
abbrev rmX0_at : Room := { frames := 10, cells := 0, slots := 0, locals := 258 }
theorem w_dk_at_b82 {E : dEnv} {l : Launch} {G : dGeo} (hE : dkOk E l G cX0_at 6 rmX0_at) (s0 : Int32) (σ : dS) {out} (h : dk_at_b82 s0 σ = some out) (k : dK E cX0_at (some .int) out) : dG E σ 82 [] [.int s0, .ref (G.2.2.1 8)] := by
  unfold dk_at_b82 at h
  refine dk_ld8 hE dX0_at_82 h (fun h => ?_)
  cases h
  exact k rfl _ _ dX0_at_83
theorem w_dk_at_b64 {E : dEnv} {l : Launch} {G : dGeo} (hE : dkOk E l G cX0_at 6 rmX0_at) (v1 v2 v3 v4 : Int32) (σ : dS) {out} (h : dk_at_b64 v1 v2 v3 v4 σ = some out) (k : dK E cX0_at (some .int) out) : dG E σ 64 [v1, v2, v3, v4] [] := by
  unfold dk_at_b64 at h
  refine dg_iload hE dX0_at_64 3 rfl rfl ?_
  refine dg_if_ne hE dX0_at_66 (tgt := 73) (by decide) h (fun h => ?_) (fun h => ?_)
  · refine dg_aload0 hE dX0_at_73 ?_
    refine dk_gf8 hE dX0_at_74 ?_
    refine dg_iload hE dX0_at_77 3 rfl rfl ?_
    refine dk_ca_lowest hE (by decide) dX0_at_79 (Nat.le_of_ble_eq_true rfl) h (fun r_ h => ?_)
    refine dg_drop (xs' := []) (ys := [v1, v2, v3, v4]) rfl ?_
    exact w_dk_at_b82 hE r_ σ h k
  · refine dg_iconst hE dX0_at_69 (v := (-1 : Int32)) (by decide) ?_
    refine dg_goto hE dX0_at_70 (tgt := 83) (by decide) ?_
    cases h
    exact k rfl _ _ dX0_at_83
theorem w_dk_at_b38 {E : dEnv} {l : Launch} {G : dGeo} (hE : dkOk E l G cX0_at 6 rmX0_at) (v1 v2 v3 v4 v5 : Int32) (σ : dS) {out} (h : dk_at_b38 v1 v2 v3 v4 v5 σ = some out) (k : dK E cX0_at (some .int) out) : dG E σ 38 [v1, v2, v3, v4, v5] [] := by
  unfold dk_at_b38 at h
  refine dg_iload hE dX0_at_38 4 rfl rfl ?_
  refine dg_iload_n hE dX0_at_40 2 rfl rfl ?_
  refine dg_icmp_ge hE dX0_at_41 (tgt := 64) (by decide) h (fun h => ?_) (fun h => ?_)
  · refine dg_drop (xs' := [v1, v2, v3, v4]) (ys := [v5]) rfl ?_
    exact w_dk_at_b64 hE v1 v2 v3 v4 σ h k
  · refine dg_iload hE dX0_at_44 3 rfl rfl ?_
    refine dg_if_eq hE dX0_at_46 (tgt := 64) (by decide) h (fun h => ?_) (fun h => ?_)
    · refine dg_drop (xs' := [v1, v2, v3, v4]) (ys := [v5]) rfl ?_
      exact w_dk_at_b64 hE v1 v2 v3 v4 σ h k
    · refine dg_iload hE dX0_at_49 3 rfl rfl ?_
      refine dg_iload hE dX0_at_51 3 rfl rfl ?_
      refine dg_iconst hE dX0_at_53 (v := (1 : Int32)) (by decide) ?_
      refine dg_isub hE dX0_at_54 ?_
      refine dg_iand hE dX0_at_55 ?_
      refine dg_istore hE dX0_at_56 3 (xs' := [v1, v2, v3, (v4 &&& (v4 - (1 : Int32))), v5]) rfl (Nat.le_of_ble_eq_true rfl) (by decide) rfl ?_
      refine dg_iinc hE dX0_at_58 4 (xs' := [v1, v2, v3, (v4 &&& (v4 - (1 : Int32))), (v5 + (1 : Int32))]) rfl rfl (by decide) rfl ?_
      refine dg_goto hE dX0_at_61 (tgt := 38) (by decide) ?_
      cases h
      exact k
theorem w_dk_at_b33 {E : dEnv} {l : Launch} {G : dGeo} (hE : dkOk E l G cX0_at 6 rmX0_at) (v1 v2 v3 s0 : Int32) (σ : dS) {out} (h : dk_at_b33 v1 v2 v3 s0 σ = some out) (k : dK E cX0_at (some .int) out) : dG E σ 33 [v1, v2, v3] [.int s0] := by
  unfold dk_at_b33 at h
  refine dg_istore hE dX0_at_33 3 (xs' := [v1, v2, v3, s0]) rfl (Nat.le_of_ble_eq_true rfl) (by decide) rfl ?_
  refine dg_iconst hE dX0_at_35 (v := (0 : Int32)) (by decide) ?_
  refine dg_istore hE dX0_at_36 4 (xs' := [v1, v2, v3, s0, (0 : Int32)]) rfl (Nat.le_of_ble_eq_true rfl) (by decide) rfl ?_
  cases h
  exact k
theorem w_dk_at_b6 {E : dEnv} {l : Launch} {G : dGeo} (hE : dkOk E l G cX0_at 6 rmX0_at) (v1 v2 v3 s0 : Int32) (σ : dS) {out} (h : dk_at_b6 v1 v2 v3 s0 σ = some out) (k : dK E cX0_at (some .int) out) : dG E σ 6 [v1, v2, v3] [.int s0] := by
  unfold dk_at_b6 at h
  refine dg_if_eq hE dX0_at_6 (tgt := 25) (by decide) h (fun h => ?_) (fun h => ?_)
  · refine dg_iconst hE dX0_at_25 (v := (-1 : Int32)) (by decide) ?_
    cases h
    exact k rfl _ _ dX0_at_26
  · refine dg_aload0 hE dX0_at_9 ?_
    refine dk_gf18 hE dX0_at_10 ?_
    refine dg_bipush hE dX0_at_13 (v := (40 : Int32)) (by decide) ?_
    refine dg_iload_n hE dX0_at_15 0 rfl rfl ?_
    refine dg_imul hE dX0_at_16 ?_
    refine dk_ld18 hE dX0_at_17 h (fun h => ?_)
    refine dg_if_ne hE dX0_at_18 (tgt := 25) (by decide) h (fun h => ?_) (fun h => ?_)
    · refine dg_iconst hE dX0_at_25 (v := (-1 : Int32)) (by decide) ?_
      cases h
      exact k rfl _ _ dX0_at_26
    · refine dg_iload_n hE dX0_at_21 2 rfl rfl ?_
      refine dg_if_ge hE dX0_at_22 (tgt := 27) (by decide) h (fun h => ?_) (fun h => ?_)
      · refine dg_aload0 hE dX0_at_27 ?_
        refine dg_iload_n hE dX0_at_28 0 rfl rfl ?_
        refine dg_iload_n hE dX0_at_29 1 rfl rfl ?_
        refine dk_ca_resultAt hE (by decide) dX0_at_30 (Nat.le_of_ble_eq_true rfl) h (fun r_ h => ?_)
        exact w_dk_at_b33 hE v1 v2 v3 (r_.1) (r_.2) h k
      · refine dg_iconst hE dX0_at_25 (v := (-1 : Int32)) (by decide) ?_
        cases h
        exact k rfl _ _ dX0_at_26
theorem w_dk_at_b0 {E : dEnv} {l : Launch} {G : dGeo} (hE : dkOk E l G cX0_at 6 rmX0_at) (v1 v2 v3 : Int32) (σ : dS) {out} (h : dk_at_b0 v1 v2 v3 σ = some out) (k : dK E cX0_at (some .int) out) : dG E σ 0 [v1, v2, v3] [] := by
  unfold dk_at_b0 at h
  refine dg_aload0 hE dX0_at_0 ?_
  refine dg_iload_n hE dX0_at_1 0 rfl rfl ?_
  refine dg_iload_n hE dX0_at_2 1 rfl rfl ?_
  refine dk_ca_isThere hE (by decide) dX0_at_3 (Nat.le_of_ble_eq_true rfl) h (fun r_ h => ?_)
  exact w_dk_at_b6 hE v1 v2 v3 (r_.1) (r_.2) h k
theorem w_dk_at_st {E : dEnv} {l : Launch} {G : dGeo} (hE : dkOk E l G cX0_at 6 rmX0_at) (a : Nat × List Int32 × dS) {out} (h : dk_at_st a = some out) (k : dK E cX0_at (some .int) out) : dG E a.2.2 a.1 a.2.1 [] := by
  obtain ⟨L, xs, σ⟩ := a
  unfold dk_at_st at h
  dsimp only at h ⊢
  by_cases c_ : L = 38
  · subst c_
    rw [if_pos rfl] at h
    match xs, h with
    | [x0, x1, x2, x3, x4], h => exact w_dk_at_b38 hE x0 x1 x2 x3 x4 σ h k
    | [], h => cases h
    | [_], h => cases h
    | [_, _], h => cases h
    | [_, _, _], h => cases h
    | [_, _, _, _], h => cases h
    | _ :: _ :: _ :: _ :: _ :: _ :: _, h => cases h
  rw [if_neg c_] at h
  cases h
theorem met_dk_at (l : Launch) (G : dGeo) (sz : Nat) (v1 v2 v3 : Int32) (σ : dS) {r : Int32 × dS} (h : dk_at v1 v2 v3 σ = some r) : Met l yX0_at (ws_ yX0_at cX0_at 6 (some .int)) rmX0_at (dPc G.1 (dk_ty G) (dk_w G σ) sz [.ref G.2.1, .int v1, .int v2, .int v3]) (dQi G.1 (dk_ty G) (dk_w G σ) (dk_w G r.2) sz r.1) 0 0 (va_A (dk_w G σ) sz) := by
  refine dMet_i (w := dk_w G) (σ := σ) (σ' := r.2) (th := [(0, .ref G.2.1)]) (b := 1) (xs := [v1, v2, v3]) (by decide) rfl rfl (Nat.le_of_ble_eq_true rfl) dth (fun E hE k => ?_)
  unfold dk_at at h
  obtain ⟨out, h1, h2⟩ := lpB_some h
  exact w_dk_at_b0 hE v1 v2 v3 σ h1 (dK_lp (fun a out => w_dk_at_st hE a) h2 k)
abbrev rmX0_number : Room := { frames := 10, cells := 0, slots := 0, locals := 258 }
theorem w_dk_number_b35 {E : dEnv} {l : Launch} {G : dGeo} (hE : dkOk E l G cX0_number 4 rmX0_number) (s0 : Int32) (σ : dS) {out} (h : dk_number_b35 s0 σ = some out) (k : dR E cX0_number (some .int) out) : dG E σ 35 [] [.int s0] := by
  unfold dk_number_b35 at h
  refine dg_goto hE dX0_number_35 (tgt := 39) (by decide) ?_
  cases h
  exact k rfl _ _ dX0_number_39
theorem w_dk_number_b17 {E : dEnv} {l : Launch} {G : dGeo} (hE : dkOk E l G cX0_number 4 rmX0_number) (v1 v2 s0 : Int32) (σ : dS) {out} (h : dk_number_b17 v1 v2 s0 σ = some out) (k : dR E cX0_number (some .int) out) : dG E σ 17 [v1, v2] [.int s0] := by
  unfold dk_number_b17 at h
  refine dg_istore_n hE dX0_number_17 2 (xs' := [v1, v2, s0]) rfl (Nat.le_of_ble_eq_true rfl) (by decide) rfl ?_
  refine dg_aload0 hE dX0_number_18 ?_
  refine dk_gf18 hE dX0_number_19 ?_
  refine dg_bipush hE dX0_number_22 (v := (40 : Int32)) (by decide) ?_
  refine dg_iload_n hE dX0_number_24 0 rfl rfl ?_
  refine dg_imul hE dX0_number_25 ?_
  refine dk_ld18 hE dX0_number_26 h (fun h => ?_)
  refine dg_if_ne hE dX0_number_27 (tgt := 38) (by decide) h (fun h => ?_) (fun h => ?_)
  · refine dg_iload_n hE dX0_number_38 2 rfl rfl ?_
    cases h
    exact k rfl _ _ dX0_number_39
  · refine dg_aload0 hE dX0_number_30 ?_
    refine dg_iload_n hE dX0_number_31 2 rfl rfl ?_
    refine dk_ca_valueOf hE (by decide) dX0_number_32 (Nat.le_of_ble_eq_true rfl) h (fun r_ h => ?_)
    refine dg_drop (xs' := []) (ys := [v1, v2, s0]) rfl ?_
    exact w_dk_number_b35 hE (r_.1) (r_.2) h k
theorem w_dk_number_b6 {E : dEnv} {l : Launch} {G : dGeo} (hE : dkOk E l G cX0_number 4 rmX0_number) (v1 v2 s0 : Int32) (σ : dS) {out} (h : dk_number_b6 v1 v2 s0 σ = some out) (k : dR E cX0_number (some .int) out) : dG E σ 6 [v1, v2] [.int s0] := by
  unfold dk_number_b6 at h
  refine dg_if_ne hE dX0_number_6 (tgt := 11) (by decide) h (fun h => ?_) (fun h => ?_)
  · refine dg_aload0 hE dX0_number_11 ?_
    refine dg_iload_n hE dX0_number_12 0 rfl rfl ?_
    refine dg_iload_n hE dX0_number_13 1 rfl rfl ?_
    refine dk_ca_resultAt hE (by decide) dX0_number_14 (Nat.le_of_ble_eq_true rfl) h (fun r_ h => ?_)
    exact w_dk_number_b17 hE v1 v2 (r_.1) (r_.2) h k
  · refine dg_iconst hE dX0_number_9 (v := (0 : Int32)) (by decide) ?_
    cases h
    exact k rfl _ _ dX0_number_10
theorem w_dk_number_b0 {E : dEnv} {l : Launch} {G : dGeo} (hE : dkOk E l G cX0_number 4 rmX0_number) (v1 v2 : Int32) (σ : dS) {out} (h : dk_number_b0 v1 v2 σ = some out) (k : dR E cX0_number (some .int) out) : dG E σ 0 [v1, v2] [] := by
  unfold dk_number_b0 at h
  refine dg_aload0 hE dX0_number_0 ?_
  refine dg_iload_n hE dX0_number_1 0 rfl rfl ?_
  refine dg_iload_n hE dX0_number_2 1 rfl rfl ?_
  refine dk_ca_isThere hE (by decide) dX0_number_3 (Nat.le_of_ble_eq_true rfl) h (fun r_ h => ?_)
  exact w_dk_number_b6 hE v1 v2 (r_.1) (r_.2) h k
theorem met_dk_number (l : Launch) (G : dGeo) (sz : Nat) (v1 v2 : Int32) (σ : dS) {r : Int32 × dS} (h : dk_number v1 v2 σ = some r) : Met l yX0_number (ws_ yX0_number cX0_number 4 (some .int)) rmX0_number (dPc G.1 (dk_ty G) (dk_w G σ) sz [.ref G.2.1, .int v1, .int v2]) (dQi G.1 (dk_ty G) (dk_w G σ) (dk_w G r.2) sz r.1) 0 0 (va_A (dk_w G σ) sz) := by
  refine dMet_i (w := dk_w G) (σ := σ) (σ' := r.2) (th := [(0, .ref G.2.1)]) (b := 1) (xs := [v1, v2]) (by decide) rfl rfl (Nat.le_of_ble_eq_true rfl) dth (fun E hE k => ?_)
  unfold dk_number at h
  exact w_dk_number_b0 hE v1 v2 σ h k
abbrev rmX0_holds : Room := { frames := 10, cells := 0, slots := 0, locals := 258 }
theorem w_dk_holds_b15 {E : dEnv} {l : Launch} {G : dGeo} (hE : dkOk E l G cX0_holds 3 rmX0_holds) (s0 : Int32) (σ : dS) {out} (h : dk_holds_b15 s0 σ = some out) (k : dR E cX0_holds (some .boolean) out) : dG E σ 15 [] [.int s0] := by
  unfold dk_holds_b15 at h
  refine dg_if_eq hE dX0_holds_15 (tgt := 22) (by decide) h (fun h => ?_) (fun h => ?_)
  · refine dg_iconst hE dX0_holds_22 (v := (0 : Int32)) (by decide) ?_
    cases h
    exact k nz0 _ _ dX0_holds_23
  · refine dg_iconst hE dX0_holds_18 (v := (1 : Int32)) (by decide) ?_
    refine dg_goto hE dX0_holds_19 (tgt := 23) (by decide) ?_
    cases h
    exact k nz1 _ _ dX0_holds_23
theorem w_dk_holds_b6 {E : dEnv} {l : Launch} {G : dGeo} (hE : dkOk E l G cX0_holds 3 rmX0_holds) (v1 v2 s0 : Int32) (σ : dS) {out} (h : dk_holds_b6 v1 v2 s0 σ = some out) (k : dR E cX0_holds (some .boolean) out) : dG E σ 6 [v1, v2] [.int s0] := by
  unfold dk_holds_b6 at h
  refine dg_if_eq hE dX0_holds_6 (tgt := 22) (by decide) h (fun h => ?_) (fun h => ?_)
  · refine dg_iconst hE dX0_holds_22 (v := (0 : Int32)) (by decide) ?_
    cases h
    exact k nz0 _ _ dX0_holds_23
  · refine dg_aload0 hE dX0_holds_9 ?_
    refine dg_iload_n hE dX0_holds_10 0 rfl rfl ?_
    refine dg_iload_n hE dX0_holds_11 1 rfl rfl ?_
    refine dk_ca_resultAt hE (by decide) dX0_holds_12 (Nat.le_of_ble_eq_true rfl) h (fun r_ h => ?_)
    refine dg_drop (xs' := []) (ys := [v1, v2]) rfl ?_
    exact w_dk_holds_b15 hE (r_.1) (r_.2) h k
theorem w_dk_holds_b0 {E : dEnv} {l : Launch} {G : dGeo} (hE : dkOk E l G cX0_holds 3 rmX0_holds) (v1 v2 : Int32) (σ : dS) {out} (h : dk_holds_b0 v1 v2 σ = some out) (k : dR E cX0_holds (some .boolean) out) : dG E σ 0 [v1, v2] [] := by
  unfold dk_holds_b0 at h
  refine dg_aload0 hE dX0_holds_0 ?_
  refine dg_iload_n hE dX0_holds_1 0 rfl rfl ?_
  refine dg_iload_n hE dX0_holds_2 1 rfl rfl ?_
  refine dk_ca_isThere hE (by decide) dX0_holds_3 (Nat.le_of_ble_eq_true rfl) h (fun r_ h => ?_)
  exact w_dk_holds_b6 hE v1 v2 (r_.1) (r_.2) h k
theorem met_dk_holds (l : Launch) (G : dGeo) (sz : Nat) (v1 v2 : Int32) (σ : dS) {r : Int32 × dS} (h : dk_holds v1 v2 σ = some r) : Met l yX0_holds (ws_ yX0_holds cX0_holds 3 (some .boolean)) rmX0_holds (dPc G.1 (dk_ty G) (dk_w G σ) sz [.ref G.2.1, .int v1, .int v2]) (dQi G.1 (dk_ty G) (dk_w G σ) (dk_w G r.2) sz r.1) 0 0 (va_A (dk_w G σ) sz) := by
  refine dMet_i (w := dk_w G) (σ := σ) (σ' := r.2) (th := [(0, .ref G.2.1)]) (b := 1) (xs := [v1, v2]) (by decide) rfl rfl (Nat.le_of_ble_eq_true rfl) dth (fun E hE k => ?_)
  unfold dk_holds at h
  exact w_dk_holds_b0 hE v1 v2 σ h k
abbrev rmX0_template : Room := { frames := 0, cells := 0, slots := 0, locals := 0 }
theorem w_dk_template_b98 {E : dEnv} {l : Launch} {G : dGeo} (hE : dkOk E l G cX0_template 6 rmX0_template) (σ : dS) {out} (h : dk_template_b98 σ = some out) (k : dR E cX0_template (some .boolean) out) : dG E σ 98 [] [] := by
  unfold dk_template_b98 at h
  refine dg_iconst hE dX0_template_98 (v := (1 : Int32)) (by decide) ?_
  cases h
  exact k nz1 _ _ dX0_template_99
theorem w_dk_template_b93 {E : dEnv} {l : Launch} {G : dGeo} (hE : dkOk E l G cX0_template 6 rmX0_template) (σ : dS) {out} (h : dk_template_b93 σ = some out) (k : dR E cX0_template (some .boolean) out) : dG E σ 93 [] [] := by
  unfold dk_template_b93 at h
  refine dg_aload0 hE dX0_template_93 ?_
  refine dg_iconst hE dX0_template_94 (v := (0 : Int32)) (by decide) ?_
  refine dk_pf33 hE dX0_template_95 rfl rfl ?_
  exact w_dk_template_b98 hE (up2 σ 33 0 (0 : Int32)) h k
theorem w_dk_template_b84 {E : dEnv} {l : Launch} {G : dGeo} (hE : dkOk E l G cX0_template 6 rmX0_template) (v1 v2 v3 v4 v5 : Int32) (σ : dS) {out} (h : dk_template_b84 v1 v2 v3 v4 v5 σ = some out) (k : dR E cX0_template (some .boolean) out) : dG E σ 84 [v1, v2, v3, v4, v5] [] := by
  unfold dk_template_b84 at h
  refine dg_aload0 hE dX0_template_84 ?_
  refine dk_gf31 hE dX0_template_85 ?_
  refine dg_iload_n hE dX0_template_88 0 rfl rfl ?_
  refine dg_iload hE dX0_template_89 4 rfl rfl ?_
  refine dg_i2b hE dX0_template_91 ?_
  refine dk_as31 hE dX0_template_92 h (fun h => ?_)
  refine dg_drop (xs' := []) (ys := [v1, v2, v3, v4, v5]) rfl ?_
  exact w_dk_template_b93 hE (up2 σ 31 v1.toNatClampNeg (vp_nar .byte (v5.toInt8.toInt32))) h k
theorem w_dk_template_b75 {E : dEnv} {l : Launch} {G : dGeo} (hE : dkOk E l G cX0_template 6 rmX0_template) (v1 v2 v3 v4 v5 : Int32) (σ : dS) {out} (h : dk_template_b75 v1 v2 v3 v4 v5 σ = some out) (k : dR E cX0_template (some .boolean) out) : dG E σ 75 [v1, v2, v3, v4, v5] [] := by
  unfold dk_template_b75 at h
  refine dg_aload0 hE dX0_template_75 ?_
  refine dk_gf30 hE dX0_template_76 ?_
  refine dg_iload_n hE dX0_template_79 0 rfl rfl ?_
  refine dg_iload hE dX0_template_80 3 rfl rfl ?_
  refine dg_i2b hE dX0_template_82 ?_
  refine dk_as30 hE dX0_template_83 h (fun h => ?_)
  exact w_dk_template_b84 hE v1 v2 v3 v4 v5 (up2 σ 30 v1.toNatClampNeg (vp_nar .byte (v4.toInt8.toInt32))) h k
theorem w_dk_template_b67 {E : dEnv} {l : Launch} {G : dGeo} (hE : dkOk E l G cX0_template 6 rmX0_template) (v1 v2 v3 v4 v5 : Int32) (σ : dS) {out} (h : dk_template_b67 v1 v2 v3 v4 v5 σ = some out) (k : dR E cX0_template (some .boolean) out) : dG E σ 67 [v1, v2, v3, v4, v5] [] := by
  unfold dk_template_b67 at h
  refine dg_aload0 hE dX0_template_67 ?_
  refine dk_gf29 hE dX0_template_68 ?_
  refine dg_iload_n hE dX0_template_71 0 rfl rfl ?_
  refine dg_iload_n hE dX0_template_72 2 rfl rfl ?_
  refine dg_i2b hE dX0_template_73 ?_
  refine dk_as29 hE dX0_template_74 h (fun h => ?_)
  exact w_dk_template_b75 hE v1 v2 v3 v4 v5 (up2 σ 29 v1.toNatClampNeg (vp_nar .byte (v3.toInt8.toInt32))) h k
theorem w_dk_template_b0 {E : dEnv} {l : Launch} {G : dGeo} (hE : dkOk E l G cX0_template 6 rmX0_template) (v1 v2 v3 v4 v5 : Int32) (σ : dS) {out} (h : dk_template_b0 v1 v2 v3 v4 v5 σ = some out) (k : dR E cX0_template (some .boolean) out) : dG E σ 0 [v1, v2, v3, v4, v5] [] := by
  unfold dk_template_b0 at h
  refine dg_iload_n hE dX0_template_0 0 rfl rfl ?_
  refine dg_if_lt hE dX0_template_1 (tgt := 57) (by decide) h (fun h => ?_) (fun h => ?_)
  · refine dg_iconst hE dX0_template_57 (v := (0 : Int32)) (by decide) ?_
    cases h
    exact k nz0 _ _ dX0_template_58
  · refine dg_iload_n hE dX0_template_4 0 rfl rfl ?_
    refine dg_iconst hE dX0_template_5 (v := (5 : Int32)) (by decide) ?_
    refine dg_icmp_gt hE dX0_template_6 (tgt := 57) (by decide) h (fun h => ?_) (fun h => ?_)
    · refine dg_iconst hE dX0_template_57 (v := (0 : Int32)) (by decide) ?_
      cases h
      exact k nz0 _ _ dX0_template_58
    · refine dg_iload_n hE dX0_template_9 1 rfl rfl ?_
      refine dg_if_lt hE dX0_template_10 (tgt := 57) (by decide) h (fun h => ?_) (fun h => ?_)
      · refine dg_iconst hE dX0_template_57 (v := (0 : Int32)) (by decide) ?_
        cases h
        exact k nz0 _ _ dX0_template_58
      · refine dg_iload_n hE dX0_template_13 1 rfl rfl ?_
        refine dg_bipush hE dX0_template_14 (v := (7 : Int32)) (by decide) ?_
        refine dg_icmp_gt hE dX0_template_16 (tgt := 57) (by decide) h (fun h => ?_) (fun h => ?_)
        · refine dg_iconst hE dX0_template_57 (v := (0 : Int32)) (by decide) ?_
          cases h
          exact k nz0 _ _ dX0_template_58
        · refine dg_iload_n hE dX0_template_19 2 rfl rfl ?_
          refine dg_bipush hE dX0_template_20 (v := (-9 : Int32)) (by decide) ?_
          refine dg_icmp_lt hE dX0_template_22 (tgt := 57) (by decide) h (fun h => ?_) (fun h => ?_)
          · refine dg_iconst hE dX0_template_57 (v := (0 : Int32)) (by decide) ?_
            cases h
            exact k nz0 _ _ dX0_template_58
          · refine dg_iload_n hE dX0_template_25 2 rfl rfl ?_
            refine dg_bipush hE dX0_template_26 (v := (9 : Int32)) (by decide) ?_
            refine dg_icmp_gt hE dX0_template_28 (tgt := 57) (by decide) h (fun h => ?_) (fun h => ?_)
            · refine dg_iconst hE dX0_template_57 (v := (0 : Int32)) (by decide) ?_
              cases h
              exact k nz0 _ _ dX0_template_58
            · refine dg_iload hE dX0_template_31 3 rfl rfl ?_
              refine dg_iconst hE dX0_template_33 (v := (-1 : Int32)) (by decide) ?_
              refine dg_icmp_lt hE dX0_template_34 (tgt := 57) (by decide) h (fun h => ?_) (fun h => ?_)
              · refine dg_iconst hE dX0_template_57 (v := (0 : Int32)) (by decide) ?_
                cases h
                exact k nz0 _ _ dX0_template_58
              · refine dg_iload hE dX0_template_37 3 rfl rfl ?_
                refine dg_bipush hE dX0_template_39 (v := (7 : Int32)) (by decide) ?_
                refine dg_icmp_gt hE dX0_template_41 (tgt := 57) (by decide) h (fun h => ?_) (fun h => ?_)
                · refine dg_iconst hE dX0_template_57 (v := (0 : Int32)) (by decide) ?_
                  cases h
                  exact k nz0 _ _ dX0_template_58
                · refine dg_iload hE dX0_template_44 4 rfl rfl ?_
                  refine dg_iconst hE dX0_template_46 (v := (-1 : Int32)) (by decide) ?_
                  refine dg_icmp_lt hE dX0_template_47 (tgt := 57) (by decide) h (fun h => ?_) (fun h => ?_)
                  · refine dg_iconst hE dX0_template_57 (v := (0 : Int32)) (by decide) ?_
                    cases h
                    exact k nz0 _ _ dX0_template_58
                  · refine dg_iload hE dX0_template_50 4 rfl rfl ?_
                    refine dg_bipush hE dX0_template_52 (v := (7 : Int32)) (by decide) ?_
                    refine dg_icmp_le hE dX0_template_54 (tgt := 59) (by decide) h (fun h => ?_) (fun h => ?_)
                    · refine dg_aload0 hE dX0_template_59 ?_
                      refine dk_gf28 hE dX0_template_60 ?_
                      refine dg_iload_n hE dX0_template_63 0 rfl rfl ?_
                      refine dg_iload_n hE dX0_template_64 1 rfl rfl ?_
                      refine dg_i2b hE dX0_template_65 ?_
                      refine dk_as28 hE dX0_template_66 h (fun h => ?_)
                      exact w_dk_template_b67 hE v1 v2 v3 v4 v5 (up2 σ 28 v1.toNatClampNeg (vp_nar .byte (v2.toInt8.toInt32))) h k
                    · refine dg_iconst hE dX0_template_57 (v := (0 : Int32)) (by decide) ?_
                      cases h
                      exact k nz0 _ _ dX0_template_58
theorem met_dk_template (l : Launch) (G : dGeo) (sz : Nat) (v1 v2 v3 v4 v5 : Int32) (σ : dS) {r : Int32 × dS} (h : dk_template v1 v2 v3 v4 v5 σ = some r) : Met l yX0_template (ws_ yX0_template cX0_template 6 (some .boolean)) rmX0_template (dPc G.1 (dk_ty G) (dk_w G σ) sz [.ref G.2.1, .int v1, .int v2, .int v3, .int v4, .int v5]) (dQi G.1 (dk_ty G) (dk_w G σ) (dk_w G r.2) sz r.1) 0 0 (va_A (dk_w G σ) sz) := by
  refine dMet_i (w := dk_w G) (σ := σ) (σ' := r.2) (th := [(0, .ref G.2.1)]) (b := 1) (xs := [v1, v2, v3, v4, v5]) (by decide) rfl rfl (Nat.le_of_ble_eq_true rfl) dth (fun E hE k => ?_)
  unfold dk_template at h
  exact w_dk_template_b0 hE v1 v2 v3 v4 v5 σ h k
abbrev rmX0_drop : Room := { frames := 0, cells := 0, slots := 0, locals := 0 }
theorem w_dk_drop_b32 {E : dEnv} {l : Launch} {G : dGeo} (hE : dkOk E l G cX0_drop 2 rmX0_drop) (σ : dS) {out} (h : dk_drop_b32 σ = some out) (k : dR E cX0_drop (some .boolean) out) : dG E σ 32 [] [] := by
  unfold dk_drop_b32 at h
  refine dg_iconst hE dX0_drop_32 (v := (1 : Int32)) (by decide) ?_
  cases h
  exact k nz1 _ _ dX0_drop_33
theorem w_dk_drop_b27 {E : dEnv} {l : Launch} {G : dGeo} (hE : dkOk E l G cX0_drop 2 rmX0_drop) (σ : dS) {out} (h : dk_drop_b27 σ = some out) (k : dR E cX0_drop (some .boolean) out) : dG E σ 27 [] [] := by
  unfold dk_drop_b27 at h
  refine dg_aload0 hE dX0_drop_27 ?_
  refine dg_iconst hE dX0_drop_28 (v := (0 : Int32)) (by decide) ?_
  refine dk_pf33 hE dX0_drop_29 rfl rfl ?_
  exact w_dk_drop_b32 hE (up2 σ 33 0 (0 : Int32)) h k
theorem w_dk_drop_b0 {E : dEnv} {l : Launch} {G : dGeo} (hE : dkOk E l G cX0_drop 2 rmX0_drop) (v1 : Int32) (σ : dS) {out} (h : dk_drop_b0 v1 σ = some out) (k : dR E cX0_drop (some .boolean) out) : dG E σ 0 [v1] [] := by
  unfold dk_drop_b0 at h
  refine dg_iload_n hE dX0_drop_0 0 rfl rfl ?_
  refine dg_if_lt hE dX0_drop_1 (tgt := 18) (by decide) h (fun h => ?_) (fun h => ?_)
  · refine dg_iconst hE dX0_drop_18 (v := (0 : Int32)) (by decide) ?_
    cases h
    exact k nz0 _ _ dX0_drop_19
  · refine dg_iload_n hE dX0_drop_4 0 rfl rfl ?_
    refine dg_iconst hE dX0_drop_5 (v := (5 : Int32)) (by decide) ?_
    refine dg_icmp_gt hE dX0_drop_6 (tgt := 18) (by decide) h (fun h => ?_) (fun h => ?_)
    · refine dg_iconst hE dX0_drop_18 (v := (0 : Int32)) (by decide) ?_
      cases h
      exact k nz0 _ _ dX0_drop_19
    · refine dg_aload0 hE dX0_drop_9 ?_
      refine dk_gf28 hE dX0_drop_10 ?_
      refine dg_iload_n hE dX0_drop_13 0 rfl rfl ?_
      refine dk_ld28 hE dX0_drop_14 h (fun h => ?_)
      refine dg_if_ge hE dX0_drop_15 (tgt := 20) (by decide) h (fun h => ?_) (fun h => ?_)
      · refine dg_aload0 hE dX0_drop_20 ?_
        refine dk_gf28 hE dX0_drop_21 ?_
        refine dg_iload_n hE dX0_drop_24 0 rfl rfl ?_
        refine dg_iconst hE dX0_drop_25 (v := (-1 : Int32)) (by decide) ?_
        refine dk_as28 hE dX0_drop_26 h (fun h => ?_)
        refine dg_drop (xs' := []) (ys := [v1]) rfl ?_
        exact w_dk_drop_b27 hE (up2 σ 28 v1.toNatClampNeg (vp_nar .byte (-1 : Int32))) h k
      · refine dg_iconst hE dX0_drop_18 (v := (0 : Int32)) (by decide) ?_
        cases h
        exact k nz0 _ _ dX0_drop_19
theorem met_dk_drop (l : Launch) (G : dGeo) (sz : Nat) (v1 : Int32) (σ : dS) {r : Int32 × dS} (h : dk_drop v1 σ = some r) : Met l yX0_drop (ws_ yX0_drop cX0_drop 2 (some .boolean)) rmX0_drop (dPc G.1 (dk_ty G) (dk_w G σ) sz [.ref G.2.1, .int v1]) (dQi G.1 (dk_ty G) (dk_w G σ) (dk_w G r.2) sz r.1) 0 0 (va_A (dk_w G σ) sz) := by
  refine dMet_i (w := dk_w G) (σ := σ) (σ' := r.2) (th := [(0, .ref G.2.1)]) (b := 1) (xs := [v1]) (by decide) rfl rfl (Nat.le_of_ble_eq_true rfl) dth (fun E hE k => ?_)
  unfold dk_drop at h
  exact w_dk_drop_b0 hE v1 σ h k
abbrev rmX0_sort : Room := { frames := 9, cells := 0, slots := 0, locals := 236 }
theorem w_dk_sort_b208 {E : dEnv} {l : Launch} {G : dGeo} (hE : dkOk E l G cX0_sort 5 rmX0_sort) (v1 : Int32) (σ : dS) {out} (h : dk_sort_b208 v1 σ = some out) (k : dK E cX0_sort none out) : dG E σ 208 [v1] [] := by
  unfold dk_sort_b208 at h
  refine dg_iinc hE dX0_sort_208 0 (xs' := [(v1 + (1 : Int32))]) rfl rfl (by decide) rfl ?_
  refine dg_goto hE dX0_sort_211 (tgt := 42) (by decide) ?_
  cases h
  exact k
theorem w_dk_sort_b199 {E : dEnv} {l : Launch} {G : dGeo} (hE : dkOk E l G cX0_sort 5 rmX0_sort) (v1 v2 v3 : Int32) (σ : dS) {out} (h : dk_sort_b199 v1 v2 v3 σ = some out) (k : dK E cX0_sort none out) : dG E σ 199 [v1, v2, v3] [] := by
  unfold dk_sort_b199 at h
  refine dg_iload_n hE dX0_sort_199 2 rfl rfl ?_
  refine dg_iload_n hE dX0_sort_200 2 rfl rfl ?_
  refine dg_iconst hE dX0_sort_201 (v := (1 : Int32)) (by decide) ?_
  refine dg_isub hE dX0_sort_202 ?_
  refine dg_iand hE dX0_sort_203 ?_
  refine dg_istore_n hE dX0_sort_204 2 (xs' := [v1, v2, (v3 &&& (v3 - (1 : Int32)))]) rfl (Nat.le_of_ble_eq_true rfl) (by decide) rfl ?_
  refine dg_goto hE dX0_sort_205 (tgt := 149) (by decide) ?_
  cases h
  exact k
theorem w_dk_sort_b190 {E : dEnv} {l : Launch} {G : dGeo} (hE : dkOk E l G cX0_sort 5 rmX0_sort) (v1 v2 v3 v4 : Int32) (σ : dS) {out} (h : dk_sort_b190 v1 v2 v3 v4 σ = some out) (k : dK E cX0_sort none out) : dG E σ 190 [v1, v2, v3, v4] [] := by
  unfold dk_sort_b190 at h
  refine dg_aload0 hE dX0_sort_190 ?_
  refine dk_gf34 hE dX0_sort_191 ?_
  refine dg_iload hE dX0_sort_194 3 rfl rfl ?_
  refine dg_iload_n hE dX0_sort_196 0 rfl rfl ?_
  refine dg_i2b hE dX0_sort_197 ?_
  refine dk_as34 hE dX0_sort_198 h (fun h => ?_)
  refine dg_drop (xs' := [v1, v2, v3]) (ys := [v4]) rfl ?_
  exact w_dk_sort_b199 hE v1 v2 v3 (up2 σ 34 v4.toNatClampNeg (vp_nar .byte (v1.toInt8.toInt32))) h k
theorem w_dk_sort_b157 {E : dEnv} {l : Launch} {G : dGeo} (hE : dkOk E l G cX0_sort 5 rmX0_sort) (v1 v2 v3 s0 : Int32) (σ : dS) {out} (h : dk_sort_b157 v1 v2 v3 s0 σ = some out) (k : dK E cX0_sort none out) : dG E σ 157 [v1, v2, v3] [.int s0] := by
  unfold dk_sort_b157 at h
  refine dg_istore hE dX0_sort_157 3 (xs' := [v1, v2, v3, s0]) rfl (Nat.le_of_ble_eq_true rfl) (by decide) rfl ?_
  refine dg_aload0 hE dX0_sort_159 ?_
  refine dk_gf34 hE dX0_sort_160 ?_
  refine dg_iload hE dX0_sort_163 3 rfl rfl ?_
  refine dk_ld34 hE dX0_sort_165 h (fun h => ?_)
  refine dg_if_lt hE dX0_sort_166 (tgt := 190) (by decide) h (fun h => ?_) (fun h => ?_)
  · exact w_dk_sort_b190 hE v1 v2 v3 s0 σ h k
  · refine dg_aload0 hE dX0_sort_169 ?_
    refine dk_gf29 hE dX0_sort_170 ?_
    refine dg_iload_n hE dX0_sort_173 0 rfl rfl ?_
    refine dk_ld29 hE dX0_sort_174 h (fun h => ?_)
    refine dg_aload0 hE dX0_sort_175 ?_
    refine dk_gf29 hE dX0_sort_176 ?_
    refine dg_aload0 hE dX0_sort_179 ?_
    refine dk_gf34 hE dX0_sort_180 ?_
    refine dg_iload hE dX0_sort_183 3 rfl rfl ?_
    refine dk_ld34 hE dX0_sort_185 h (fun h => ?_)
    refine dk_ld29 hE dX0_sort_186 h (fun h => ?_)
    refine dg_icmp_lt hE dX0_sort_187 (tgt := 199) (by decide) h (fun h => ?_) (fun h => ?_)
    · refine dg_drop (xs' := [v1, v2, v3]) (ys := [s0]) rfl ?_
      exact w_dk_sort_b199 hE v1 v2 v3 σ h k
    · exact w_dk_sort_b190 hE v1 v2 v3 s0 σ h k
theorem w_dk_sort_b149 {E : dEnv} {l : Launch} {G : dGeo} (hE : dkOk E l G cX0_sort 5 rmX0_sort) (v1 v2 v3 : Int32) (σ : dS) {out} (h : dk_sort_b149 v1 v2 v3 σ = some out) (k : dK E cX0_sort none out) : dG E σ 149 [v1, v2, v3] [] := by
  unfold dk_sort_b149 at h
  refine dg_iload_n hE dX0_sort_149 2 rfl rfl ?_
  refine dg_if_eq hE dX0_sort_150 (tgt := 208) (by decide) h (fun h => ?_) (fun h => ?_)
  · refine dg_drop (xs' := [v1]) (ys := [v2, v3]) rfl ?_
    exact w_dk_sort_b208 hE v1 σ h k
  · refine dg_iload_n hE dX0_sort_153 2 rfl rfl ?_
    refine dk_ca_lowest hE (by decide) dX0_sort_154 (Nat.le_of_ble_eq_true rfl) h (fun r_ h => ?_)
    exact w_dk_sort_b157 hE v1 v2 v3 r_ σ h k
theorem w_dk_sort_b133 {E : dEnv} {l : Launch} {G : dGeo} (hE : dkOk E l G cX0_sort 5 rmX0_sort) (v1 v2 v3 s0 s1 s2 s3 : Int32) (σ : dS) {out} (h : dk_sort_b133 v1 v2 v3 s0 s1 s2 s3 σ = some out) (k : dK E cX0_sort none out) : dG E σ 133 [v1, v2, v3] [.int s0, .int s1, .int s2, .int s3, .ref (G.2.2.1 32)] := by
  unfold dk_sort_b133 at h
  refine dg_iand hE dX0_sort_133 ?_
  refine dg_ior hE dX0_sort_134 ?_
  refine dk_as32 hE dX0_sort_135 h (fun h => ?_)
  refine dg_iinc hE dX0_sort_136 2 (xs' := [v1, v2, (v3 + (1 : Int32))]) rfl rfl (by decide) rfl ?_
  refine dg_goto hE dX0_sort_139 (tgt := 97) (by decide) ?_
  cases h
  exact k
theorem w_dk_sort_b97 {E : dEnv} {l : Launch} {G : dGeo} (hE : dkOk E l G cX0_sort 5 rmX0_sort) (v1 v2 v3 : Int32) (σ : dS) {out} (h : dk_sort_b97 v1 v2 v3 σ = some out) (k : dK E cX0_sort none out) : dG E σ 97 [v1, v2, v3] [] := by
  unfold dk_sort_b97 at h
  refine dg_iload_n hE dX0_sort_97 2 rfl rfl ?_
  refine dg_aload0 hE dX0_sort_98 ?_
  refine dk_gf6 hE dX0_sort_99 ?_
  refine dg_icmp_ge hE dX0_sort_102 (tgt := 142) (by decide) h (fun h => ?_) (fun h => ?_)
  · refine dg_aload0 hE dX0_sort_142 ?_
    refine dk_gf32 hE dX0_sort_143 ?_
    refine dg_iload_n hE dX0_sort_146 0 rfl rfl ?_
    refine dk_ld32 hE dX0_sort_147 h (fun h => ?_)
    refine dg_istore_n hE dX0_sort_148 2 (xs' := [v1, v2, (σ 32 v1.toNatClampNeg)]) rfl (Nat.le_of_ble_eq_true rfl) (by decide) rfl ?_
    cases h
    exact k
  · refine dg_aload0 hE dX0_sort_105 ?_
    refine dk_gf32 hE dX0_sort_106 ?_
    refine dg_iload_n hE dX0_sort_109 0 rfl rfl ?_
    refine dg_dup2 hE dX0_sort_110 rfl rfl ?_
    refine dk_ld32 hE dX0_sort_111 h (fun h => ?_)
    refine dg_aload0 hE dX0_sort_112 ?_
    refine dk_gf24 hE dX0_sort_113 ?_
    refine dg_bipush hE dX0_sort_116 (v := (24 : Int32)) (by decide) ?_
    refine dg_iload_n hE dX0_sort_118 1 rfl rfl ?_
    refine dg_imul hE dX0_sort_119 ?_
    refine dg_iload_n hE dX0_sort_120 2 rfl rfl ?_
    refine dg_iadd hE dX0_sort_121 ?_
    refine dk_ld24 hE dX0_sort_122 h (fun h => ?_)
    refine dg_iload_n hE dX0_sort_123 2 rfl rfl ?_
    refine dg_aload0 hE dX0_sort_124 ?_
    refine dk_gf9 hE dX0_sort_125 ?_
    refine dg_iload_n hE dX0_sort_128 2 rfl rfl ?_
    refine dk_ld9 hE dX0_sort_129 h (fun h => ?_)
    refine dk_ca_interval hE (by decide) dX0_sort_130 (Nat.le_of_ble_eq_true rfl) h (fun r_ h => ?_)
    exact w_dk_sort_b133 hE v1 v2 v3 r_ (σ 24 (((24 : Int32) * v2) + v3).toNatClampNeg) (σ 32 v1.toNatClampNeg) v1 σ h k
theorem w_dk_sort_b95 {E : dEnv} {l : Launch} {G : dGeo} (hE : dkOk E l G cX0_sort 5 rmX0_sort) (v1 v2 : Int32) (σ : dS) {out} (h : dk_sort_b95 v1 v2 σ = some out) (k : dK E cX0_sort none out) : dG E σ 95 [v1, v2] [] := by
  unfold dk_sort_b95 at h
  refine dg_iconst hE dX0_sort_95 (v := (0 : Int32)) (by decide) ?_
  refine dg_istore_n hE dX0_sort_96 2 (xs' := [v1, v2, (0 : Int32)]) rfl (Nat.le_of_ble_eq_true rfl) (by decide) rfl ?_
  cases h
  exact k
theorem w_dk_sort_b62 {E : dEnv} {l : Launch} {G : dGeo} (hE : dkOk E l G cX0_sort 5 rmX0_sort) (v1 v2 : Int32) (σ : dS) {out} (h : dk_sort_b62 v1 v2 σ = some out) (k : dK E cX0_sort none out) : dG E σ 62 [v1, v2] [] := by
  unfold dk_sort_b62 at h
  refine dg_iload_n hE dX0_sort_62 1 rfl rfl ?_
  refine dg_if_lt hE dX0_sort_63 (tgt := 208) (by decide) h (fun h => ?_) (fun h => ?_)
  · refine dg_drop (xs' := [v1]) (ys := [v2]) rfl ?_
    exact w_dk_sort_b208 hE v1 σ h k
  · refine dg_aload0 hE dX0_sort_66 ?_
    refine dk_gf21 hE dX0_sort_67 ?_
    refine dg_iload_n hE dX0_sort_70 1 rfl rfl ?_
    refine dk_ld21 hE dX0_sort_71 h (fun h => ?_)
    refine dg_if_eq hE dX0_sort_72 (tgt := 208) (by decide) h (fun h => ?_) (fun h => ?_)
    · refine dg_drop (xs' := [v1]) (ys := [v2]) rfl ?_
      exact w_dk_sort_b208 hE v1 σ h k
    · refine dg_aload0 hE dX0_sort_75 ?_
      refine dk_gf18 hE dX0_sort_76 ?_
      refine dg_bipush hE dX0_sort_79 (v := (40 : Int32)) (by decide) ?_
      refine dg_iload_n hE dX0_sort_81 1 rfl rfl ?_
      refine dg_imul hE dX0_sort_82 ?_
      refine dk_ld18 hE dX0_sort_83 h (fun h => ?_)
      refine dg_if_eq hE dX0_sort_84 (tgt := 90) (by decide) h (fun h => ?_) (fun h => ?_)
      · refine dg_aload0 hE dX0_sort_90 ?_
        refine dg_iload_n hE dX0_sort_91 1 rfl rfl ?_
        refine dk_ca_learn hE (by decide) dX0_sort_92 (Nat.le_of_ble_eq_true rfl) h (fun r_ h => ?_)
        exact w_dk_sort_b95 hE v1 v2 (r_.2) h k
      · refine dg_goto hE dX0_sort_87 (tgt := 208) (by decide) ?_
        refine dg_drop (xs' := [v1]) (ys := [v2]) rfl ?_
        exact w_dk_sort_b208 hE v1 σ h k
theorem w_dk_sort_b55 {E : dEnv} {l : Launch} {G : dGeo} (hE : dkOk E l G cX0_sort 5 rmX0_sort) (v1 : Int32) (σ : dS) {out} (h : dk_sort_b55 v1 σ = some out) (k : dK E cX0_sort none out) : dG E σ 55 [v1] [] := by
  unfold dk_sort_b55 at h
  refine dg_aload0 hE dX0_sort_55 ?_
  refine dk_gf28 hE dX0_sort_56 ?_
  refine dg_iload_n hE dX0_sort_59 0 rfl rfl ?_
  refine dk_ld28 hE dX0_sort_60 h (fun h => ?_)
  refine dg_istore_n hE dX0_sort_61 1 (xs' := [v1, (σ 28 v1.toNatClampNeg)]) rfl (Nat.le_of_ble_eq_true rfl) (by decide) rfl ?_
  exact w_dk_sort_b62 hE v1 (σ 28 v1.toNatClampNeg) σ h k
theorem w_dk_sort_b42 {E : dEnv} {l : Launch} {G : dGeo} (hE : dkOk E l G cX0_sort 5 rmX0_sort) (v1 : Int32) (σ : dS) {out} (h : dk_sort_b42 v1 σ = some out) (k : dK E cX0_sort none out) : dG E σ 42 [v1] [] := by
  unfold dk_sort_b42 at h
  refine dg_iload_n hE dX0_sort_42 0 rfl rfl ?_
  refine dg_bipush hE dX0_sort_43 (v := (6 : Int32)) (by decide) ?_
  refine dg_icmp_ge hE dX0_sort_45 (tgt := 214) (by decide) h (fun h => ?_) (fun h => ?_)
  · cases h
    exact k _ _ dX0_sort_214
  · refine dg_aload0 hE dX0_sort_48 ?_
    refine dk_gf32 hE dX0_sort_49 ?_
    refine dg_iload_n hE dX0_sort_52 0 rfl rfl ?_
    refine dg_iconst hE dX0_sort_53 (v := (0 : Int32)) (by decide) ?_
    refine dk_as32 hE dX0_sort_54 h (fun h => ?_)
    exact w_dk_sort_b55 hE v1 (up2 σ 32 v1.toNatClampNeg (0 : Int32)) h k
theorem w_dk_sort_b19 {E : dEnv} {l : Launch} {G : dGeo} (hE : dkOk E l G cX0_sort 5 rmX0_sort) (v1 : Int32) (σ : dS) {out} (h : dk_sort_b19 v1 σ = some out) (k : dK E cX0_sort none out) : dG E σ 19 [v1] [] := by
  unfold dk_sort_b19 at h
  refine dg_iload_n hE dX0_sort_19 0 rfl rfl ?_
  refine dg_aload0 hE dX0_sort_20 ?_
  refine dk_gf6 hE dX0_sort_21 ?_
  refine dg_icmp_ge hE dX0_sort_24 (tgt := 40) (by decide) h (fun h => ?_) (fun h => ?_)
  · refine dg_iconst hE dX0_sort_40 (v := (0 : Int32)) (by decide) ?_
    refine dg_istore_n hE dX0_sort_41 0 (xs' := [(0 : Int32)]) rfl (Nat.le_of_ble_eq_true rfl) (by decide) rfl ?_
    cases h
    exact k
  · refine dg_aload0 hE dX0_sort_27 ?_
    refine dk_gf34 hE dX0_sort_28 ?_
    refine dg_iload_n hE dX0_sort_31 0 rfl rfl ?_
    refine dg_iconst hE dX0_sort_32 (v := (-1 : Int32)) (by decide) ?_
    refine dk_as34 hE dX0_sort_33 h (fun h => ?_)
    refine dg_iinc hE dX0_sort_34 0 (xs' := [(v1 + (1 : Int32))]) rfl rfl (by decide) rfl ?_
    refine dg_goto hE dX0_sort_37 (tgt := 19) (by decide) ?_
    cases h
    exact k
theorem w_dk_sort_b17 {E : dEnv} {l : Launch} {G : dGeo} (hE : dkOk E l G cX0_sort 5 rmX0_sort) (σ : dS) {out} (h : dk_sort_b17 σ = some out) (k : dK E cX0_sort none out) : dG E σ 17 [] [] := by
  unfold dk_sort_b17 at h
  refine dg_iconst hE dX0_sort_17 (v := (0 : Int32)) (by decide) ?_
  refine dg_istore_n hE dX0_sort_18 0 (xs' := [(0 : Int32)]) rfl (Nat.le_of_ble_eq_true rfl) (by decide) rfl ?_
  cases h
  exact k
theorem w_dk_sort_b4 {E : dEnv} {l : Launch} {G : dGeo} (hE : dkOk E l G cX0_sort 5 rmX0_sort) (σ : dS) {out} (h : dk_sort_b4 σ = some out) (k : dK E cX0_sort none out) : dG E σ 4 [] [] := by
  unfold dk_sort_b4 at h
  refine dg_aload0 hE dX0_sort_4 ?_
  refine dk_gf33 hE dX0_sort_5 ?_
  refine dg_if_eq hE dX0_sort_8 (tgt := 12) (by decide) h (fun h => ?_) (fun h => ?_)
  · refine dg_aload0 hE dX0_sort_12 ?_
    refine dg_iconst hE dX0_sort_13 (v := (1 : Int32)) (by decide) ?_
    refine dk_pf33 hE dX0_sort_14 rfl rfl ?_
    exact w_dk_sort_b17 hE (up2 σ 33 0 (1 : Int32)) h k
  · cases h
    exact k _ _ dX0_sort_11
theorem w_dk_sort_b0 {E : dEnv} {l : Launch} {G : dGeo} (hE : dkOk E l G cX0_sort 5 rmX0_sort) (σ : dS) {out} (h : dk_sort_b0 σ = some out) (k : dK E cX0_sort none out) : dG E σ 0 [] [] := by
  unfold dk_sort_b0 at h
  refine dg_aload0 hE dX0_sort_0 ?_
  refine dk_ca_count hE (by decide) dX0_sort_1 (Nat.le_of_ble_eq_true rfl) h (fun r_ h => ?_)
  exact w_dk_sort_b4 hE (r_.2) h k
theorem w_dk_sort_st {E : dEnv} {l : Launch} {G : dGeo} (hE : dkOk E l G cX0_sort 5 rmX0_sort) (a : Nat × List Int32 × dS) {out} (h : dk_sort_st a = some out) (k : dK E cX0_sort none out) : dG E a.2.2 a.1 a.2.1 [] := by
  obtain ⟨L, xs, σ⟩ := a
  unfold dk_sort_st at h
  dsimp only at h ⊢
  by_cases c_ : L = 19
  · subst c_
    rw [if_pos rfl] at h
    match xs, h with
    | [x0], h => exact w_dk_sort_b19 hE x0 σ h k
    | [], h => cases h
    | _ :: _ :: _, h => cases h
  rw [if_neg c_] at h
  by_cases c_ : L = 42
  · subst c_
    rw [if_pos rfl] at h
    match xs, h with
    | [x0], h => exact w_dk_sort_b42 hE x0 σ h k
    | [], h => cases h
    | _ :: _ :: _, h => cases h
  rw [if_neg c_] at h
  by_cases c_ : L = 97
  · subst c_
    rw [if_pos rfl] at h
    match xs, h with
    | [x0, x1, x2], h => exact w_dk_sort_b97 hE x0 x1 x2 σ h k
    | [], h => cases h
    | [_], h => cases h
    | [_, _], h => cases h
    | _ :: _ :: _ :: _ :: _, h => cases h
  rw [if_neg c_] at h
  by_cases c_ : L = 149
  · subst c_
    rw [if_pos rfl] at h
    match xs, h with
    | [x0, x1, x2], h => exact w_dk_sort_b149 hE x0 x1 x2 σ h k
    | [], h => cases h
    | [_], h => cases h
    | [_, _], h => cases h
    | _ :: _ :: _ :: _ :: _, h => cases h
  rw [if_neg c_] at h
  cases h
theorem met_dk_sort (l : Launch) (G : dGeo) (sz : Nat) (σ : dS) {r : Int32 × dS} (h : dk_sort σ = some r) : Met l yX0_sort (ws_ yX0_sort cX0_sort 5 none) rmX0_sort (dPc G.1 (dk_ty G) (dk_w G σ) sz [.ref G.2.1]) (dQv G.1 (dk_ty G) (dk_w G σ) (dk_w G r.2) sz) 0 0 (va_A (dk_w G σ) sz) := by
  refine dMet_v (w := dk_w G) (σ := σ) (σ' := r.2) (r := r.1) (th := [(0, .ref G.2.1)]) (b := 1) (xs := []) (by decide) rfl rfl (Nat.le_of_ble_eq_true rfl) dth (fun E hE k => ?_)
  unfold dk_sort at h
  obtain ⟨out, h1, h2⟩ := lpB_some h
  exact w_dk_sort_b0 hE σ h1 (dK_lp (fun a out => w_dk_sort_st hE a) h2 k)
theorem dk_ca_sort {E : dEnv} {l : Launch} {G : dGeo} {cc : ByteArray} {nL pc : Nat} {R : Room} {σ : dS} {xs : List Int32} {st : List Value} {τ : Type} {g : Int32 × dS → Option τ} {out : τ} (hE : dkOk E l G cc nL R) (hR : 9 + 1 ≤ R.frames ∧ 8 + (5 + 11) + 236 ≤ R.locals) (hd : decode cc pc = .ok (.invokevirtual 227, 3)) (hs : (st.map fun v => v.category).sum ≤ 8) (h : Option.bind (dk_sort σ) g = some out) (k : ∀ r, g r = some out → dG E r.2 (pc + 3) xs (st)) : dG E σ pc xs (.ref G.2.1 :: st) := by
  obtain ⟨r, h1, h2⟩ := obind h
  exact dg_callVv hE (As := []) (st := st) (C := RX0) (rm := rmX0_sort) (dk_recv G) (fun sz => met_dk_sort l G sz σ h1) (lw_V q346 q348 qs22 q50 q349) 0 rfl ⟨rfl, rfl⟩ (by decide +kernel) hR rfl hs hd (k r h2)
abbrev rmX0_matches : Room := { frames := 10, cells := 0, slots := 0, locals := 260 }
theorem w_dk_matches_b32 {E : dEnv} {l : Launch} {G : dGeo} (hE : dkOk E l G cX0_matches 3 rmX0_matches) (v1 v2 : Int32) (σ : dS) {out} (h : dk_matches_b32 v1 v2 σ = some out) (k : dR E cX0_matches (some .boolean) out) : dG E σ 32 [v1, v2] [] := by
  unfold dk_matches_b32 at h
  refine dg_aload0 hE dX0_matches_32 ?_
  refine dk_gf32 hE dX0_matches_33 ?_
  refine dg_iload_n hE dX0_matches_36 0 rfl rfl ?_
  refine dk_ld32 hE dX0_matches_37 h (fun h => ?_)
  refine dg_aload0 hE dX0_matches_38 ?_
  refine dk_gf7 hE dX0_matches_39 ?_
  refine dg_iload_n hE dX0_matches_42 1 rfl rfl ?_
  refine dk_ld7 hE dX0_matches_43 h (fun h => ?_)
  refine dg_ishr hE dX0_matches_44 ?_
  refine dg_iconst hE dX0_matches_45 (v := (1 : Int32)) (by decide) ?_
  refine dg_iand hE dX0_matches_46 ?_
  refine dg_if_eq hE dX0_matches_47 (tgt := 54) (by decide) h (fun h => ?_) (fun h => ?_)
  · refine dg_iconst hE dX0_matches_54 (v := (0 : Int32)) (by decide) ?_
    cases h
    exact k nz0 _ _ dX0_matches_55
  · refine dg_iconst hE dX0_matches_50 (v := (1 : Int32)) (by decide) ?_
    refine dg_goto hE dX0_matches_51 (tgt := 55) (by decide) ?_
    cases h
    exact k nz1 _ _ dX0_matches_55
theorem w_dk_matches_b23 {E : dEnv} {l : Launch} {G : dGeo} (hE : dkOk E l G cX0_matches 3 rmX0_matches) (v1 v2 s0 : Int32) (σ : dS) {out} (h : dk_matches_b23 v1 v2 s0 σ = some out) (k : dR E cX0_matches (some .boolean) out) : dG E σ 23 [v1, v2] [.int s0] := by
  unfold dk_matches_b23 at h
  refine dg_if_ne hE dX0_matches_23 (tgt := 28) (by decide) h (fun h => ?_) (fun h => ?_)
  · refine dg_aload0 hE dX0_matches_28 ?_
    refine dk_ca_sort hE (by decide) dX0_matches_29 (Nat.le_of_ble_eq_true rfl) h (fun r_ h => ?_)
    exact w_dk_matches_b32 hE v1 v2 (r_.2) h k
  · refine dg_iconst hE dX0_matches_26 (v := (0 : Int32)) (by decide) ?_
    cases h
    exact k nz0 _ _ dX0_matches_27
theorem w_dk_matches_b0 {E : dEnv} {l : Launch} {G : dGeo} (hE : dkOk E l G cX0_matches 3 rmX0_matches) (v1 v2 : Int32) (σ : dS) {out} (h : dk_matches_b0 v1 v2 σ = some out) (k : dR E cX0_matches (some .boolean) out) : dG E σ 0 [v1, v2] [] := by
  unfold dk_matches_b0 at h
  refine dg_iload_n hE dX0_matches_0 0 rfl rfl ?_
  refine dg_if_lt hE dX0_matches_1 (tgt := 26) (by decide) h (fun h => ?_) (fun h => ?_)
  · refine dg_iconst hE dX0_matches_26 (v := (0 : Int32)) (by decide) ?_
    cases h
    exact k nz0 _ _ dX0_matches_27
  · refine dg_iload_n hE dX0_matches_4 0 rfl rfl ?_
    refine dg_iconst hE dX0_matches_5 (v := (5 : Int32)) (by decide) ?_
    refine dg_icmp_gt hE dX0_matches_6 (tgt := 26) (by decide) h (fun h => ?_) (fun h => ?_)
    · refine dg_iconst hE dX0_matches_26 (v := (0 : Int32)) (by decide) ?_
      cases h
      exact k nz0 _ _ dX0_matches_27
    · refine dg_aload0 hE dX0_matches_9 ?_
      refine dk_gf28 hE dX0_matches_10 ?_
      refine dg_iload_n hE dX0_matches_13 0 rfl rfl ?_
      refine dk_ld28 hE dX0_matches_14 h (fun h => ?_)
      refine dg_if_lt hE dX0_matches_15 (tgt := 26) (by decide) h (fun h => ?_) (fun h => ?_)
      · refine dg_iconst hE dX0_matches_26 (v := (0 : Int32)) (by decide) ?_
        cases h
        exact k nz0 _ _ dX0_matches_27
      · refine dg_aload0 hE dX0_matches_18 ?_
        refine dg_iload_n hE dX0_matches_19 1 rfl rfl ?_
        refine dk_ca_isNode hE (by decide) dX0_matches_20 (Nat.le_of_ble_eq_true rfl) h (fun r_ h => ?_)
        exact w_dk_matches_b23 hE v1 v2 (r_.1) (r_.2) h k
theorem met_dk_matches (l : Launch) (G : dGeo) (sz : Nat) (v1 v2 : Int32) (σ : dS) {r : Int32 × dS} (h : dk_matches v1 v2 σ = some r) : Met l yX0_matches (ws_ yX0_matches cX0_matches 3 (some .boolean)) rmX0_matches (dPc G.1 (dk_ty G) (dk_w G σ) sz [.ref G.2.1, .int v1, .int v2]) (dQi G.1 (dk_ty G) (dk_w G σ) (dk_w G r.2) sz r.1) 0 0 (va_A (dk_w G σ) sz) := by
  refine dMet_i (w := dk_w G) (σ := σ) (σ' := r.2) (th := [(0, .ref G.2.1)]) (b := 1) (xs := [v1, v2]) (by decide) rfl rfl (Nat.le_of_ble_eq_true rfl) dth (fun E hE k => ?_)
  unfold dk_matches at h
  exact w_dk_matches_b0 hE v1 v2 σ h k
abbrev rmX0_apply : Room := { frames := 9, cells := 0, slots := 0, locals := 236 }
theorem w_dk_apply_b121 {E : dEnv} {l : Launch} {G : dGeo} (hE : dkOk E l G cX0_apply 5 rmX0_apply) (v1 v2 v3 v4 : Int32) (σ : dS) {out} (h : dk_apply_b121 v1 v2 v3 v4 σ = some out) (k : dR E cX0_apply (some .int) out) : dG E σ 121 [v1, v2, v3, v4] [] := by
  unfold dk_apply_b121 at h
  refine dg_aload0 hE dX0_apply_121 ?_
  refine dk_gf24 hE dX0_apply_122 ?_
  refine dg_bipush hE dX0_apply_125 (v := (24 : Int32)) (by decide) ?_
  refine dg_iload hE dX0_apply_127 3 rfl rfl ?_
  refine dg_imul hE dX0_apply_129 ?_
  refine dg_iload_n hE dX0_apply_130 1 rfl rfl ?_
  refine dg_iadd hE dX0_apply_131 ?_
  refine dk_ld24 hE dX0_apply_132 h (fun h => ?_)
  cases h
  exact k rfl _ _ dX0_apply_133
theorem w_dk_apply_b85 {E : dEnv} {l : Launch} {G : dGeo} (hE : dkOk E l G cX0_apply 5 rmX0_apply) (v1 v2 v3 v4 : Int32) (σ : dS) {out} (h : dk_apply_b85 v1 v2 v3 v4 σ = some out) (k : dR E cX0_apply (some .int) out) : dG E σ 85 [v1, v2, v3, v4] [] := by
  unfold dk_apply_b85 at h
  refine dg_iload hE dX0_apply_85 3 rfl rfl ?_
  refine dg_if_lt hE dX0_apply_87 (tgt := 113) (by decide) h (fun h => ?_) (fun h => ?_)
  · refine dg_iconst hE dX0_apply_113 (v := (0 : Int32)) (by decide) ?_
    cases h
    exact k rfl _ _ dX0_apply_114
  · refine dg_aload0 hE dX0_apply_90 ?_
    refine dk_gf21 hE dX0_apply_91 ?_
    refine dg_iload hE dX0_apply_94 3 rfl rfl ?_
    refine dk_ld21 hE dX0_apply_96 h (fun h => ?_)
    refine dg_if_eq hE dX0_apply_97 (tgt := 113) (by decide) h (fun h => ?_) (fun h => ?_)
    · refine dg_iconst hE dX0_apply_113 (v := (0 : Int32)) (by decide) ?_
      cases h
      exact k rfl _ _ dX0_apply_114
    · refine dg_aload0 hE dX0_apply_100 ?_
      refine dk_gf18 hE dX0_apply_101 ?_
      refine dg_bipush hE dX0_apply_104 (v := (40 : Int32)) (by decide) ?_
      refine dg_iload hE dX0_apply_106 3 rfl rfl ?_
      refine dg_imul hE dX0_apply_108 ?_
      refine dk_ld18 hE dX0_apply_109 h (fun h => ?_)
      refine dg_if_eq hE dX0_apply_110 (tgt := 115) (by decide) h (fun h => ?_) (fun h => ?_)
      · refine dg_aload0 hE dX0_apply_115 ?_
        refine dg_iload hE dX0_apply_116 3 rfl rfl ?_
        refine dk_ca_learn hE (by decide) dX0_apply_118 (Nat.le_of_ble_eq_true rfl) h (fun r_ h => ?_)
        exact w_dk_apply_b121 hE v1 v2 v3 v4 (r_.2) h k
      · refine dg_iconst hE dX0_apply_113 (v := (0 : Int32)) (by decide) ?_
        cases h
        exact k rfl _ _ dX0_apply_114
theorem w_dk_apply_b77 {E : dEnv} {l : Launch} {G : dGeo} (hE : dkOk E l G cX0_apply 5 rmX0_apply) (v1 v2 v3 : Int32) (σ : dS) {out} (h : dk_apply_b77 v1 v2 v3 σ = some out) (k : dR E cX0_apply (some .int) out) : dG E σ 77 [v1, v2, v3] [] := by
  unfold dk_apply_b77 at h
  refine dg_aload0 hE dX0_apply_77 ?_
  refine dk_gf31 hE dX0_apply_78 ?_
  refine dg_iload_n hE dX0_apply_81 0 rfl rfl ?_
  refine dk_ld31 hE dX0_apply_82 h (fun h => ?_)
  refine dg_istore hE dX0_apply_83 3 (xs' := [v1, v2, v3, (σ 31 v1.toNatClampNeg)]) rfl (Nat.le_of_ble_eq_true rfl) (by decide) rfl ?_
  exact w_dk_apply_b85 hE v1 v2 v3 (σ 31 v1.toNatClampNeg) σ h k
theorem w_dk_apply_b76 {E : dEnv} {l : Launch} {G : dGeo} (hE : dkOk E l G cX0_apply 5 rmX0_apply) (v1 v2 v3 s0 s1 : Int32) (σ : dS) {out} (h : dk_apply_b76 v1 v2 v3 s0 s1 σ = some out) (k : dR E cX0_apply (some .int) out) : dG E σ 76 [v1, v2, v3] [.int s0, .int s1, .ref (G.2.2.1 37)] := by
  unfold dk_apply_b76 at h
  refine dk_as37 hE dX0_apply_76 h (fun h => ?_)
  exact w_dk_apply_b77 hE v1 v2 v3 (up2 σ 37 s1.toNatClampNeg s0) h k
theorem w_dk_apply_b53 {E : dEnv} {l : Launch} {G : dGeo} (hE : dkOk E l G cX0_apply 5 rmX0_apply) (v1 v2 v3 v4 s0 : Int32) (σ : dS) {out} (h : dk_apply_b53 v1 v2 v3 v4 s0 σ = some out) (k : dR E cX0_apply (some .int) out) : dG E σ 53 [v1, v2, v3, v4] [.int s0, .ref (G.2.2.1 37)] := by
  unfold dk_apply_b53 at h
  refine dg_aload0 hE dX0_apply_53 ?_
  refine dk_gf18 hE dX0_apply_54 ?_
  refine dg_bipush hE dX0_apply_57 (v := (40 : Int32)) (by decide) ?_
  refine dg_iload_n hE dX0_apply_59 2 rfl rfl ?_
  refine dg_imul hE dX0_apply_60 ?_
  refine dk_ld18 hE dX0_apply_61 h (fun h => ?_)
  refine dg_if_ne hE dX0_apply_62 (tgt := 74) (by decide) h (fun h => ?_) (fun h => ?_)
  · refine dg_iload hE dX0_apply_74 3 rfl rfl ?_
    refine dg_drop (xs' := [v1, v2, v3]) (ys := [v4]) rfl ?_
    exact w_dk_apply_b76 hE v1 v2 v3 v4 s0 σ h k
  · refine dg_aload0 hE dX0_apply_65 ?_
    refine dg_iload hE dX0_apply_66 3 rfl rfl ?_
    refine dk_ca_valueOf hE (by decide) dX0_apply_68 (Nat.le_of_ble_eq_true rfl) h (fun r_ h => ?_)
    refine dg_goto hE dX0_apply_71 (tgt := 76) (by decide) ?_
    refine dg_drop (xs' := [v1, v2, v3]) (ys := [v4]) rfl ?_
    exact w_dk_apply_b76 hE v1 v2 v3 (r_.1) s0 (r_.2) h k
theorem w_dk_apply_b38 {E : dEnv} {l : Launch} {G : dGeo} (hE : dkOk E l G cX0_apply 5 rmX0_apply) (v1 v2 v3 v4 : Int32) (σ : dS) {out} (h : dk_apply_b38 v1 v2 v3 v4 σ = some out) (k : dR E cX0_apply (some .int) out) : dG E σ 38 [v1, v2, v3, v4] [] := by
  unfold dk_apply_b38 at h
  refine dg_aload0 hE dX0_apply_38 ?_
  refine dk_gf37 hE dX0_apply_39 ?_
  refine dg_aload0 hE dX0_apply_42 ?_
  refine dg_dup hE dX0_apply_43 rfl ?_
  refine dk_gf38 hE dX0_apply_44 ?_
  refine dg_dup_x1 hE dX0_apply_47 rfl rfl ?_
  refine dg_iconst hE dX0_apply_48 (v := (1 : Int32)) (by decide) ?_
  refine dg_iadd hE dX0_apply_49 ?_
  refine dk_pf38 hE dX0_apply_50 ?_
  exact w_dk_apply_b53 hE v1 v2 v3 v4 (σ 38 0) (up2 σ 38 0 ((σ 38 0) + (1 : Int32))) h k
theorem w_dk_apply_b25 {E : dEnv} {l : Launch} {G : dGeo} (hE : dkOk E l G cX0_apply 5 rmX0_apply) (v1 v2 v3 : Int32) (σ : dS) {out} (h : dk_apply_b25 v1 v2 v3 σ = some out) (k : dR E cX0_apply (some .int) out) : dG E σ 25 [v1, v2, v3] [] := by
  unfold dk_apply_b25 at h
  refine dg_aload0 hE dX0_apply_25 ?_
  refine dk_gf24 hE dX0_apply_26 ?_
  refine dg_bipush hE dX0_apply_29 (v := (24 : Int32)) (by decide) ?_
  refine dg_iload_n hE dX0_apply_31 2 rfl rfl ?_
  refine dg_imul hE dX0_apply_32 ?_
  refine dg_iload_n hE dX0_apply_33 1 rfl rfl ?_
  refine dg_iadd hE dX0_apply_34 ?_
  refine dk_ld24 hE dX0_apply_35 h (fun h => ?_)
  refine dg_istore hE dX0_apply_36 3 (xs' := [v1, v2, v3, (σ 24 (((24 : Int32) * v3) + v2).toNatClampNeg)]) rfl (Nat.le_of_ble_eq_true rfl) (by decide) rfl ?_
  exact w_dk_apply_b38 hE v1 v2 v3 (σ 24 (((24 : Int32) * v3) + v2).toNatClampNeg) σ h k
theorem w_dk_apply_b7 {E : dEnv} {l : Launch} {G : dGeo} (hE : dkOk E l G cX0_apply 5 rmX0_apply) (v1 v2 v3 : Int32) (σ : dS) {out} (h : dk_apply_b7 v1 v2 v3 σ = some out) (k : dR E cX0_apply (some .int) out) : dG E σ 7 [v1, v2, v3] [] := by
  unfold dk_apply_b7 at h
  refine dg_iload_n hE dX0_apply_7 2 rfl rfl ?_
  refine dg_if_lt hE dX0_apply_8 (tgt := 77) (by decide) h (fun h => ?_) (fun h => ?_)
  · exact w_dk_apply_b77 hE v1 v2 v3 σ h k
  · refine dg_aload0 hE dX0_apply_11 ?_
    refine dk_gf21 hE dX0_apply_12 ?_
    refine dg_iload_n hE dX0_apply_15 2 rfl rfl ?_
    refine dk_ld21 hE dX0_apply_16 h (fun h => ?_)
    refine dg_if_le hE dX0_apply_17 (tgt := 77) (by decide) h (fun h => ?_) (fun h => ?_)
    · exact w_dk_apply_b77 hE v1 v2 v3 σ h k
    · refine dg_aload0 hE dX0_apply_20 ?_
      refine dg_iload_n hE dX0_apply_21 2 rfl rfl ?_
      refine dk_ca_learn hE (by decide) dX0_apply_22 (Nat.le_of_ble_eq_true rfl) h (fun r_ h => ?_)
      exact w_dk_apply_b25 hE v1 v2 v3 (r_.2) h k
theorem w_dk_apply_b0 {E : dEnv} {l : Launch} {G : dGeo} (hE : dkOk E l G cX0_apply 5 rmX0_apply) (v1 v2 : Int32) (σ : dS) {out} (h : dk_apply_b0 v1 v2 σ = some out) (k : dR E cX0_apply (some .int) out) : dG E σ 0 [v1, v2] [] := by
  unfold dk_apply_b0 at h
  refine dg_aload0 hE dX0_apply_0 ?_
  refine dk_gf30 hE dX0_apply_1 ?_
  refine dg_iload_n hE dX0_apply_4 0 rfl rfl ?_
  refine dk_ld30 hE dX0_apply_5 h (fun h => ?_)
  refine dg_istore_n hE dX0_apply_6 2 (xs' := [v1, v2, (σ 30 v1.toNatClampNeg)]) rfl (Nat.le_of_ble_eq_true rfl) (by decide) rfl ?_
  exact w_dk_apply_b7 hE v1 v2 (σ 30 v1.toNatClampNeg) σ h k
theorem met_dk_apply (l : Launch) (G : dGeo) (sz : Nat) (v1 v2 : Int32) (σ : dS) {r : Int32 × dS} (h : dk_apply v1 v2 σ = some r) : Met l yX0_apply (ws_ yX0_apply cX0_apply 5 (some .int)) rmX0_apply (dPc G.1 (dk_ty G) (dk_w G σ) sz [.ref G.2.1, .int v1, .int v2]) (dQi G.1 (dk_ty G) (dk_w G σ) (dk_w G r.2) sz r.1) 0 0 (va_A (dk_w G σ) sz) := by
  refine dMet_i (w := dk_w G) (σ := σ) (σ' := r.2) (th := [(0, .ref G.2.1)]) (b := 1) (xs := [v1, v2]) (by decide) rfl rfl (Nat.le_of_ble_eq_true rfl) dth (fun E hE k => ?_)
  unfold dk_apply at h
  exact w_dk_apply_b0 hE v1 v2 σ h k
theorem dk_ca_apply {E : dEnv} {l : Launch} {G : dGeo} {cc : ByteArray} {nL pc : Nat} {R : Room} {σ : dS} {xs : List Int32} {st : List Value} {τ : Type} {g : Int32 × dS → Option τ} {out : τ} {a0 a1 : Int32} (hE : dkOk E l G cc nL R) (hR : 9 + 1 ≤ R.frames ∧ 8 + (5 + 11) + 236 ≤ R.locals) (hd : decode cc pc = .ok (.invokevirtual 233, 3)) (hs : (st.map fun v => v.category).sum ≤ 8) (h : Option.bind (dk_apply a0 a1 σ) g = some out) (k : ∀ r, g r = some out → dG E r.2 (pc + 3) xs (.int r.1 :: st)) : dG E σ pc xs (.int a1 :: .int a0 :: .ref G.2.1 :: st) := by
  obtain ⟨r, h1, h2⟩ := obind h
  exact dg_callVi hE (As := [.int a0, .int a1]) (st := st) (C := RX0) (rm := rmX0_apply) (dk_recv G) (fun sz => met_dk_apply l G sz a0 a1 σ h1) (lw_V q354 q356 qs23 q50 q357) 2 rfl ⟨rfl, rfl⟩ (by decide +kernel) hR rfl hs hd (k r h2)
abbrev rmX0_transform : Room := { frames := 10, cells := 0, slots := 0, locals := 260 }
theorem w_dk_transform_b160 {E : dEnv} {l : Launch} {G : dGeo} (hE : dkOk E l G cX0_transform 9 rmX0_transform) (v1 v2 v3 v4 v5 v6 v7 : Int32) (σ : dS) {out} (h : dk_transform_b160 v1 v2 v3 v4 v5 v6 v7 σ = some out) (k : dK E cX0_transform (some .int) out) : dG E σ 160 [v1, v2, v3, v4, v5, v6, v7] [] := by
  unfold dk_transform_b160 at h
  refine dg_aload0 hE dX0_transform_160 ?_
  refine dk_gf36 hE dX0_transform_161 ?_
  refine dg_iload_n hE dX0_transform_164 2 rfl rfl ?_
  refine dg_iload hE dX0_transform_165 4 rfl rfl ?_
  refine dg_iconst hE dX0_transform_167 (v := (1 : Int32)) (by decide) ?_
  refine dg_iadd hE dX0_transform_168 ?_
  refine dg_i2b hE dX0_transform_169 ?_
  refine dk_as36 hE dX0_transform_170 h (fun h => ?_)
  refine dg_iinc hE dX0_transform_171 2 (xs' := [v1, v2, (v3 + (1 : Int32)), v4, v5, v6, v7]) rfl rfl (by decide) rfl ?_
  refine dg_goto hE dX0_transform_174 (tgt := 128) (by decide) ?_
  cases h
  exact k
theorem w_dk_transform_b151 {E : dEnv} {l : Launch} {G : dGeo} (hE : dkOk E l G cX0_transform 9 rmX0_transform) (v1 v2 v3 v4 v5 v6 v7 v8 : Int32) (σ : dS) {out} (h : dk_transform_b151 v1 v2 v3 v4 v5 v6 v7 v8 σ = some out) (k : dK E cX0_transform (some .int) out) : dG E σ 151 [v1, v2, v3, v4, v5, v6, v7, v8] [] := by
  unfold dk_transform_b151 at h
  refine dg_aload0 hE dX0_transform_151 ?_
  refine dk_gf35 hE dX0_transform_152 ?_
  refine dg_iload_n hE dX0_transform_155 2 rfl rfl ?_
  refine dg_iload hE dX0_transform_156 7 rfl rfl ?_
  refine dg_i2b hE dX0_transform_158 ?_
  refine dk_as35 hE dX0_transform_159 h (fun h => ?_)
  refine dg_drop (xs' := [v1, v2, v3, v4, v5, v6, v7]) (ys := [v8]) rfl ?_
  exact w_dk_transform_b160 hE v1 v2 v3 v4 v5 v6 v7 (up2 σ 35 v3.toNatClampNeg (vp_nar .byte (v8.toInt8.toInt32))) h k
theorem w_dk_transform_b138 {E : dEnv} {l : Launch} {G : dGeo} (hE : dkOk E l G cX0_transform 9 rmX0_transform) (v1 v2 v3 v4 v5 v6 v7 s0 : Int32) (σ : dS) {out} (h : dk_transform_b138 v1 v2 v3 v4 v5 v6 v7 s0 σ = some out) (k : dK E cX0_transform (some .int) out) : dG E σ 138 [v1, v2, v3, v4, v5, v6, v7] [.int s0] := by
  unfold dk_transform_b138 at h
  refine dg_istore hE dX0_transform_138 7 (xs' := [v1, v2, v3, v4, v5, v6, v7, s0]) rfl (Nat.le_of_ble_eq_true rfl) (by decide) rfl ?_
  refine dg_iload hE dX0_transform_140 6 rfl rfl ?_
  refine dg_iconst hE dX0_transform_142 (v := (1 : Int32)) (by decide) ?_
  refine dg_iload hE dX0_transform_143 7 rfl rfl ?_
  refine dg_ishl hE dX0_transform_145 ?_
  refine dg_iconst hE dX0_transform_146 (v := (-1 : Int32)) (by decide) ?_
  refine dg_ixor hE dX0_transform_147 ?_
  refine dg_iand hE dX0_transform_148 ?_
  refine dg_istore hE dX0_transform_149 6 (xs' := [v1, v2, v3, v4, v5, v6, (v7 &&& (((1 : Int32) <<< (s0 &&& 31)) ^^^ (-1 : Int32))), s0]) rfl (Nat.le_of_ble_eq_true rfl) (by decide) rfl ?_
  exact w_dk_transform_b151 hE v1 v2 v3 v4 v5 v6 (v7 &&& (((1 : Int32) <<< (s0 &&& 31)) ^^^ (-1 : Int32))) s0 σ h k
theorem w_dk_transform_b128 {E : dEnv} {l : Launch} {G : dGeo} (hE : dkOk E l G cX0_transform 9 rmX0_transform) (v1 v2 v3 v4 v5 v6 v7 : Int32) (σ : dS) {out} (h : dk_transform_b128 v1 v2 v3 v4 v5 v6 v7 σ = some out) (k : dK E cX0_transform (some .int) out) : dG E σ 128 [v1, v2, v3, v4, v5, v6, v7] [] := by
  unfold dk_transform_b128 at h
  refine dg_iload hE dX0_transform_128 6 rfl rfl ?_
  refine dg_if_eq hE dX0_transform_130 (tgt := 177) (by decide) h (fun h => ?_) (fun h => ?_)
  · refine dg_goto hE dX0_transform_177 (tgt := 42) (by decide) ?_
    refine dg_drop (xs' := [v1, v2, v3]) (ys := [v4, v5, v6, v7]) rfl ?_
    cases h
    exact k
  · refine dg_iload hE dX0_transform_133 6 rfl rfl ?_
    refine dk_ca_highest hE (by decide) dX0_transform_135 (Nat.le_of_ble_eq_true rfl) h (fun r_ h => ?_)
    exact w_dk_transform_b138 hE v1 v2 v3 v4 v5 v6 v7 r_ σ h k
theorem w_dk_transform_b122 {E : dEnv} {l : Launch} {G : dGeo} (hE : dkOk E l G cX0_transform 9 rmX0_transform) (v1 v2 v3 v4 v5 s0 : Int32) (σ : dS) {out} (h : dk_transform_b122 v1 v2 v3 v4 v5 s0 σ = some out) (k : dK E cX0_transform (some .int) out) : dG E σ 122 [v1, v2, v3, v4, v5] [.int s0] := by
  unfold dk_transform_b122 at h
  refine dg_istore hE dX0_transform_122 5 (xs' := [v1, v2, v3, v4, v5, s0]) rfl (Nat.le_of_ble_eq_true rfl) (by decide) rfl ?_
  refine dg_iload hE dX0_transform_124 5 rfl rfl ?_
  refine dg_istore hE dX0_transform_126 6 (xs' := [v1, v2, v3, v4, v5, s0, s0]) rfl (Nat.le_of_ble_eq_true rfl) (by decide) rfl ?_
  cases h
  exact k
theorem w_dk_transform_b86 {E : dEnv} {l : Launch} {G : dGeo} (hE : dkOk E l G cX0_transform 9 rmX0_transform) (σ : dS) {out} (h : dk_transform_b86 σ = some out) (k : dK E cX0_transform (some .int) out) : dG E σ 86 [] [] := by
  unfold dk_transform_b86 at h
  refine dg_bipush hE dX0_transform_86 (v := (-3 : Int32)) (by decide) ?_
  cases h
  exact k rfl _ _ dX0_transform_88
theorem w_dk_transform_b81 {E : dEnv} {l : Launch} {G : dGeo} (hE : dkOk E l G cX0_transform 9 rmX0_transform) (σ : dS) {out} (h : dk_transform_b81 σ = some out) (k : dK E cX0_transform (some .int) out) : dG E σ 81 [] [] := by
  unfold dk_transform_b81 at h
  refine dg_aload0 hE dX0_transform_81 ?_
  refine dg_iconst hE dX0_transform_82 (v := (0 : Int32)) (by decide) ?_
  refine dk_pf38 hE dX0_transform_83 ?_
  exact w_dk_transform_b86 hE (up2 σ 38 0 (0 : Int32)) h k
theorem w_dk_transform_b65 {E : dEnv} {l : Launch} {G : dGeo} (hE : dkOk E l G cX0_transform 9 rmX0_transform) (v1 v2 v3 v4 v5 : Int32) (σ : dS) {out} (h : dk_transform_b65 v1 v2 v3 v4 v5 σ = some out) (k : dK E cX0_transform (some .int) out) : dG E σ 65 [v1, v2, v3, v4, v5] [] := by
  unfold dk_transform_b65 at h
  refine dg_iinc hE dX0_transform_65 1 (xs' := [v1, (v2 + (1 : Int32)), v3, v4, v5]) rfl rfl (by decide) rfl ?_
  refine dg_iload_n hE dX0_transform_68 1 rfl rfl ?_
  refine dg_bipush hE dX0_transform_69 (v := (100 : Int32)) (by decide) ?_
  refine dg_icmp_gt hE dX0_transform_71 (tgt := 81) (by decide) h (fun h => ?_) (fun h => ?_)
  · refine dg_drop (xs' := []) (ys := [v1, (v2 + (1 : Int32)), v3, v4, v5]) rfl ?_
    exact w_dk_transform_b81 hE σ h k
  · refine dg_iload hE dX0_transform_74 4 rfl rfl ?_
    refine dg_bipush hE dX0_transform_76 (v := (11 : Int32)) (by decide) ?_
    refine dg_icmp_le hE dX0_transform_78 (tgt := 89) (by decide) h (fun h => ?_) (fun h => ?_)
    · refine dg_aload0 hE dX0_transform_89 ?_
      refine dk_gf34 hE dX0_transform_90 ?_
      refine dg_iload hE dX0_transform_93 3 rfl rfl ?_
      refine dk_ld34 hE dX0_transform_95 h (fun h => ?_)
      refine dg_if_ge hE dX0_transform_96 (tgt := 109) (by decide) h (fun h => ?_) (fun h => ?_)
      · refine dg_aload0 hE dX0_transform_109 ?_
        refine dg_aload0 hE dX0_transform_110 ?_
        refine dk_gf34 hE dX0_transform_111 ?_
        refine dg_iload hE dX0_transform_114 3 rfl rfl ?_
        refine dk_ld34 hE dX0_transform_116 h (fun h => ?_)
        refine dg_iload hE dX0_transform_117 3 rfl rfl ?_
        refine dk_ca_apply hE (by decide) dX0_transform_119 (Nat.le_of_ble_eq_true rfl) h (fun r_ h => ?_)
        exact w_dk_transform_b122 hE v1 (v2 + (1 : Int32)) v3 v4 v5 (r_.1) (r_.2) h k
      · refine dg_aload0 hE dX0_transform_99 ?_
        refine dk_gf11 hE dX0_transform_100 ?_
        refine dg_iload hE dX0_transform_103 3 rfl rfl ?_
        refine dk_ld11 hE dX0_transform_105 h (fun h => ?_)
        refine dg_goto hE dX0_transform_106 (tgt := 122) (by decide) ?_
        exact w_dk_transform_b122 hE v1 (v2 + (1 : Int32)) v3 v4 v5 (σ 11 v4.toNatClampNeg) σ h k
    · refine dg_drop (xs' := []) (ys := [v1, (v2 + (1 : Int32)), v3, v4, v5]) rfl ?_
      exact w_dk_transform_b81 hE σ h k
theorem w_dk_transform_b57 {E : dEnv} {l : Launch} {G : dGeo} (hE : dkOk E l G cX0_transform 9 rmX0_transform) (v1 v2 v3 v4 : Int32) (σ : dS) {out} (h : dk_transform_b57 v1 v2 v3 v4 σ = some out) (k : dK E cX0_transform (some .int) out) : dG E σ 57 [v1, v2, v3, v4] [] := by
  unfold dk_transform_b57 at h
  refine dg_aload0 hE dX0_transform_57 ?_
  refine dk_gf36 hE dX0_transform_58 ?_
  refine dg_iload_n hE dX0_transform_61 2 rfl rfl ?_
  refine dk_ld36 hE dX0_transform_62 h (fun h => ?_)
  refine dg_istore hE dX0_transform_63 4 (xs' := [v1, v2, v3, v4, (σ 36 v3.toNatClampNeg)]) rfl (Nat.le_of_ble_eq_true rfl) (by decide) rfl ?_
  exact w_dk_transform_b65 hE v1 v2 v3 v4 (σ 36 v3.toNatClampNeg) σ h k
theorem w_dk_transform_b42 {E : dEnv} {l : Launch} {G : dGeo} (hE : dkOk E l G cX0_transform 9 rmX0_transform) (v1 v2 v3 : Int32) (σ : dS) {out} (h : dk_transform_b42 v1 v2 v3 σ = some out) (k : dK E cX0_transform (some .int) out) : dG E σ 42 [v1, v2, v3] [] := by
  unfold dk_transform_b42 at h
  refine dg_iload_n hE dX0_transform_42 2 rfl rfl ?_
  refine dg_if_le hE dX0_transform_43 (tgt := 180) (by decide) h (fun h => ?_) (fun h => ?_)
  · refine dg_aload0 hE dX0_transform_180 ?_
    refine dk_gf38 hE dX0_transform_181 ?_
    cases h
    exact k rfl _ _ dX0_transform_184
  · refine dg_iinc hE dX0_transform_46 2 (xs' := [v1, v2, (v3 + (-1 : Int32))]) rfl rfl (by decide) rfl ?_
    refine dg_aload0 hE dX0_transform_49 ?_
    refine dk_gf35 hE dX0_transform_50 ?_
    refine dg_iload_n hE dX0_transform_53 2 rfl rfl ?_
    refine dk_ld35 hE dX0_transform_54 h (fun h => ?_)
    refine dg_istore hE dX0_transform_55 3 (xs' := [v1, v2, (v3 + (-1 : Int32)), (σ 35 (v3 + (-1 : Int32)).toNatClampNeg)]) rfl (Nat.le_of_ble_eq_true rfl) (by decide) rfl ?_
    exact w_dk_transform_b57 hE v1 v2 (v3 + (-1 : Int32)) (σ 35 (v3 + (-1 : Int32)).toNatClampNeg) σ h k
theorem w_dk_transform_b35 {E : dEnv} {l : Launch} {G : dGeo} (hE : dkOk E l G cX0_transform 9 rmX0_transform) (v1 v2 v3 : Int32) (σ : dS) {out} (h : dk_transform_b35 v1 v2 v3 σ = some out) (k : dK E cX0_transform (some .int) out) : dG E σ 35 [v1, v2, v3] [] := by
  unfold dk_transform_b35 at h
  refine dg_aload0 hE dX0_transform_35 ?_
  refine dk_gf36 hE dX0_transform_36 ?_
  refine dg_iconst hE dX0_transform_39 (v := (0 : Int32)) (by decide) ?_
  refine dg_iconst hE dX0_transform_40 (v := (0 : Int32)) (by decide) ?_
  refine dk_as36 hE dX0_transform_41 h (fun h => ?_)
  cases h
  exact k
theorem w_dk_transform_b19 {E : dEnv} {l : Launch} {G : dGeo} (hE : dkOk E l G cX0_transform 9 rmX0_transform) (v1 : Int32) (σ : dS) {out} (h : dk_transform_b19 v1 σ = some out) (k : dK E cX0_transform (some .int) out) : dG E σ 19 [v1] [] := by
  unfold dk_transform_b19 at h
  refine dg_iconst hE dX0_transform_19 (v := (0 : Int32)) (by decide) ?_
  refine dg_istore_n hE dX0_transform_20 1 (xs' := [v1, (0 : Int32)]) rfl (Nat.le_of_ble_eq_true rfl) (by decide) rfl ?_
  refine dg_iconst hE dX0_transform_21 (v := (1 : Int32)) (by decide) ?_
  refine dg_istore_n hE dX0_transform_22 2 (xs' := [v1, (0 : Int32), (1 : Int32)]) rfl (Nat.le_of_ble_eq_true rfl) (by decide) rfl ?_
  refine dg_aload0 hE dX0_transform_23 ?_
  refine dk_gf35 hE dX0_transform_24 ?_
  refine dg_iconst hE dX0_transform_27 (v := (0 : Int32)) (by decide) ?_
  refine dg_aload0 hE dX0_transform_28 ?_
  refine dk_gf7 hE dX0_transform_29 ?_
  refine dg_iload_n hE dX0_transform_32 0 rfl rfl ?_
  refine dk_ld7 hE dX0_transform_33 h (fun h => ?_)
  refine dk_as35 hE dX0_transform_34 h (fun h => ?_)
  exact w_dk_transform_b35 hE v1 (0 : Int32) (1 : Int32) (up2 σ 35 (0 : Int32).toNatClampNeg (vp_nar .byte (σ 7 v1.toNatClampNeg))) h k
theorem w_dk_transform_b14 {E : dEnv} {l : Launch} {G : dGeo} (hE : dkOk E l G cX0_transform 9 rmX0_transform) (v1 : Int32) (σ : dS) {out} (h : dk_transform_b14 v1 σ = some out) (k : dK E cX0_transform (some .int) out) : dG E σ 14 [v1] [] := by
  unfold dk_transform_b14 at h
  refine dg_aload0 hE dX0_transform_14 ?_
  refine dg_iconst hE dX0_transform_15 (v := (0 : Int32)) (by decide) ?_
  refine dk_pf38 hE dX0_transform_16 ?_
  exact w_dk_transform_b19 hE v1 (up2 σ 38 0 (0 : Int32)) h k
theorem w_dk_transform_b5 {E : dEnv} {l : Launch} {G : dGeo} (hE : dkOk E l G cX0_transform 9 rmX0_transform) (v1 s0 : Int32) (σ : dS) {out} (h : dk_transform_b5 v1 s0 σ = some out) (k : dK E cX0_transform (some .int) out) : dG E σ 5 [v1] [.int s0] := by
  unfold dk_transform_b5 at h
  refine dg_if_ne hE dX0_transform_5 (tgt := 10) (by decide) h (fun h => ?_) (fun h => ?_)
  · refine dg_aload0 hE dX0_transform_10 ?_
    refine dk_ca_sort hE (by decide) dX0_transform_11 (Nat.le_of_ble_eq_true rfl) h (fun r_ h => ?_)
    exact w_dk_transform_b14 hE v1 (r_.2) h k
  · refine dg_iconst hE dX0_transform_8 (v := (-1 : Int32)) (by decide) ?_
    cases h
    exact k rfl _ _ dX0_transform_9
theorem w_dk_transform_b0 {E : dEnv} {l : Launch} {G : dGeo} (hE : dkOk E l G cX0_transform 9 rmX0_transform) (v1 : Int32) (σ : dS) {out} (h : dk_transform_b0 v1 σ = some out) (k : dK E cX0_transform (some .int) out) : dG E σ 0 [v1] [] := by
  unfold dk_transform_b0 at h
  refine dg_aload0 hE dX0_transform_0 ?_
  refine dg_iload_n hE dX0_transform_1 0 rfl rfl ?_
  refine dk_ca_isNode hE (by decide) dX0_transform_2 (Nat.le_of_ble_eq_true rfl) h (fun r_ h => ?_)
  exact w_dk_transform_b5 hE v1 (r_.1) (r_.2) h k
theorem w_dk_transform_st {E : dEnv} {l : Launch} {G : dGeo} (hE : dkOk E l G cX0_transform 9 rmX0_transform) (a : Nat × List Int32 × dS) {out} (h : dk_transform_st a = some out) (k : dK E cX0_transform (some .int) out) : dG E a.2.2 a.1 a.2.1 [] := by
  obtain ⟨L, xs, σ⟩ := a
  unfold dk_transform_st at h
  dsimp only at h ⊢
  by_cases c_ : L = 42
  · subst c_
    rw [if_pos rfl] at h
    match xs, h with
    | [x0, x1, x2], h => exact w_dk_transform_b42 hE x0 x1 x2 σ h k
    | [], h => cases h
    | [_], h => cases h
    | [_, _], h => cases h
    | _ :: _ :: _ :: _ :: _, h => cases h
  rw [if_neg c_] at h
  by_cases c_ : L = 128
  · subst c_
    rw [if_pos rfl] at h
    match xs, h with
    | [x0, x1, x2, x3, x4, x5, x6], h => exact w_dk_transform_b128 hE x0 x1 x2 x3 x4 x5 x6 σ h k
    | [], h => cases h
    | [_], h => cases h
    | [_, _], h => cases h
    | [_, _, _], h => cases h
    | [_, _, _, _], h => cases h
    | [_, _, _, _, _], h => cases h
    | [_, _, _, _, _, _], h => cases h
    | _ :: _ :: _ :: _ :: _ :: _ :: _ :: _ :: _, h => cases h
  rw [if_neg c_] at h
  cases h
theorem met_dk_transform (l : Launch) (G : dGeo) (sz : Nat) (v1 : Int32) (σ : dS) {r : Int32 × dS} (h : dk_transform v1 σ = some r) : Met l yX0_transform (ws_ yX0_transform cX0_transform 9 (some .int)) rmX0_transform (dPc G.1 (dk_ty G) (dk_w G σ) sz [.ref G.2.1, .int v1]) (dQi G.1 (dk_ty G) (dk_w G σ) (dk_w G r.2) sz r.1) 0 0 (va_A (dk_w G σ) sz) := by
  refine dMet_i (w := dk_w G) (σ := σ) (σ' := r.2) (th := [(0, .ref G.2.1)]) (b := 1) (xs := [v1]) (by decide) rfl rfl (Nat.le_of_ble_eq_true rfl) dth (fun E hE k => ?_)
  unfold dk_transform at h
  obtain ⟨out, h1, h2⟩ := lpB_some h
  exact w_dk_transform_b0 hE v1 σ h1 (dK_lp (fun a out => w_dk_transform_st hE a) h2 k)
