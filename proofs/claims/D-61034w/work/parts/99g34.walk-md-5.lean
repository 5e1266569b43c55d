set_option maxRecDepth 100000
abbrev rmX1_template : Room := { frames := 1, cells := 0, slots := 0, locals := 22 }
theorem w_md_template_b91 {E : dEnv} {l : Launch} {G : dGeo} (hE : mdOk E l G cX1_template 6 rmX1_template) (σ : dS) {out} (h : md_template_b91 σ = some out) (k : dR E cX1_template (some .boolean) out) : dG E σ 91 [] [] := by
  unfold md_template_b91 at h
  refine dg_iconst hE dX1_template_91 (v := (1 : Int32)) (by decide) ?_
  cases h
  exact k nz1 _ _ dX1_template_92
theorem w_md_template_b83 {E : dEnv} {l : Launch} {G : dGeo} (hE : mdOk E l G cX1_template 6 rmX1_template) (v1 v2 v3 v4 v5 : Int32) (σ : dS) {out} (h : md_template_b83 v1 v2 v3 v4 v5 σ = some out) (k : dR E cX1_template (some .boolean) out) : dG E σ 83 [v1, v2, v3, v4, v5] [] := by
  unfold md_template_b83 at h
  refine dg_aload0 hE dX1_template_83 ?_
  refine md_gf21 hE dX1_template_84 ?_
  refine dg_iload_n hE dX1_template_87 0 rfl rfl ?_
  refine dg_iload hE dX1_template_88 4 rfl rfl ?_
  refine md_as21 hE dX1_template_90 h (fun h => ?_)
  refine dg_drop (xs' := []) (ys := [v1, v2, v3, v4, v5]) rfl ?_
  exact w_md_template_b91 hE (up2 σ 21 v1.toNatClampNeg v5) h k
theorem w_md_template_b75 {E : dEnv} {l : Launch} {G : dGeo} (hE : mdOk E l G cX1_template 6 rmX1_template) (v1 v2 v3 v4 v5 : Int32) (σ : dS) {out} (h : md_template_b75 v1 v2 v3 v4 v5 σ = some out) (k : dR E cX1_template (some .boolean) out) : dG E σ 75 [v1, v2, v3, v4, v5] [] := by
  unfold md_template_b75 at h
  refine dg_aload0 hE dX1_template_75 ?_
  refine md_gf20 hE dX1_template_76 ?_
  refine dg_iload_n hE dX1_template_79 0 rfl rfl ?_
  refine dg_iload hE dX1_template_80 3 rfl rfl ?_
  refine md_as20 hE dX1_template_82 h (fun h => ?_)
  exact w_md_template_b83 hE v1 v2 v3 v4 v5 (up2 σ 20 v1.toNatClampNeg v4) h k
theorem w_md_template_b68 {E : dEnv} {l : Launch} {G : dGeo} (hE : mdOk E l G cX1_template 6 rmX1_template) (v1 v2 v3 v4 v5 : Int32) (σ : dS) {out} (h : md_template_b68 v1 v2 v3 v4 v5 σ = some out) (k : dR E cX1_template (some .boolean) out) : dG E σ 68 [v1, v2, v3, v4, v5] [] := by
  unfold md_template_b68 at h
  refine dg_aload0 hE dX1_template_68 ?_
  refine md_gf19 hE dX1_template_69 ?_
  refine dg_iload_n hE dX1_template_72 0 rfl rfl ?_
  refine dg_iload_n hE dX1_template_73 2 rfl rfl ?_
  refine md_as19 hE dX1_template_74 h (fun h => ?_)
  exact w_md_template_b75 hE v1 v2 v3 v4 v5 (up2 σ 19 v1.toNatClampNeg v3) h k
theorem w_md_template_b61 {E : dEnv} {l : Launch} {G : dGeo} (hE : mdOk E l G cX1_template 6 rmX1_template) (v1 v2 v3 v4 v5 : Int32) (σ : dS) {out} (h : md_template_b61 v1 v2 v3 v4 v5 σ = some out) (k : dR E cX1_template (some .boolean) out) : dG E σ 61 [v1, v2, v3, v4, v5] [] := by
  unfold md_template_b61 at h
  refine dg_aload0 hE dX1_template_61 ?_
  refine md_gf18 hE dX1_template_62 ?_
  refine dg_iload_n hE dX1_template_65 0 rfl rfl ?_
  refine dg_iload_n hE dX1_template_66 1 rfl rfl ?_
  refine md_as18 hE dX1_template_67 h (fun h => ?_)
  exact w_md_template_b68 hE v1 v2 v3 v4 v5 (up2 σ 18 v1.toNatClampNeg v2) h k
theorem w_md_template_b49 {E : dEnv} {l : Launch} {G : dGeo} (hE : mdOk E l G cX1_template 6 rmX1_template) (v1 v2 v3 v4 v5 s0 : Int32) (σ : dS) {out} (h : md_template_b49 v1 v2 v3 v4 v5 s0 σ = some out) (k : dR E cX1_template (some .boolean) out) : dG E σ 49 [v1, v2, v3, v4, v5] [.int s0] := by
  unfold md_template_b49 at h
  refine dg_if_ne hE dX1_template_49 (tgt := 54) (by decide) h (fun h => ?_) (fun h => ?_)
  · refine dg_aload0 hE dX1_template_54 ?_
    refine md_gf17 hE dX1_template_55 ?_
    refine dg_iload_n hE dX1_template_58 0 rfl rfl ?_
    refine dg_iconst hE dX1_template_59 (v := (1 : Int32)) (by decide) ?_
    refine md_as17 hE dX1_template_60 h (fun h => ?_)
    exact w_md_template_b61 hE v1 v2 v3 v4 v5 (up2 σ 17 v1.toNatClampNeg (vp_nar .boolean (1 : Int32))) h k
  · refine dg_iconst hE dX1_template_52 (v := (0 : Int32)) (by decide) ?_
    cases h
    exact k nz0 _ _ dX1_template_53
theorem w_md_template_b38 {E : dEnv} {l : Launch} {G : dGeo} (hE : mdOk E l G cX1_template 6 rmX1_template) (v1 v2 v3 v4 v5 s0 : Int32) (σ : dS) {out} (h : md_template_b38 v1 v2 v3 v4 v5 s0 σ = some out) (k : dR E cX1_template (some .boolean) out) : dG E σ 38 [v1, v2, v3, v4, v5] [.int s0] := by
  unfold md_template_b38 at h
  refine dg_if_eq hE dX1_template_38 (tgt := 52) (by decide) h (fun h => ?_) (fun h => ?_)
  · refine dg_iconst hE dX1_template_52 (v := (0 : Int32)) (by decide) ?_
    cases h
    exact k nz0 _ _ dX1_template_53
  · refine dg_iload hE dX1_template_41 4 rfl rfl ?_
    refine dg_iconst hE dX1_template_43 (v := (-1 : Int32)) (by decide) ?_
    refine dg_bipush hE dX1_template_44 (v := (7 : Int32)) (by decide) ?_
    refine md_ca_in hE (by decide) dX1_template_46 (Nat.le_of_ble_eq_true rfl) h (fun r_ h => ?_)
    exact w_md_template_b49 hE v1 v2 v3 v4 v5 r_ σ h k
theorem w_md_template_b27 {E : dEnv} {l : Launch} {G : dGeo} (hE : mdOk E l G cX1_template 6 rmX1_template) (v1 v2 v3 v4 v5 s0 : Int32) (σ : dS) {out} (h : md_template_b27 v1 v2 v3 v4 v5 s0 σ = some out) (k : dR E cX1_template (some .boolean) out) : dG E σ 27 [v1, v2, v3, v4, v5] [.int s0] := by
  unfold md_template_b27 at h
  refine dg_if_eq hE dX1_template_27 (tgt := 52) (by decide) h (fun h => ?_) (fun h => ?_)
  · refine dg_iconst hE dX1_template_52 (v := (0 : Int32)) (by decide) ?_
    cases h
    exact k nz0 _ _ dX1_template_53
  · refine dg_iload hE dX1_template_30 3 rfl rfl ?_
    refine dg_iconst hE dX1_template_32 (v := (-1 : Int32)) (by decide) ?_
    refine dg_bipush hE dX1_template_33 (v := (7 : Int32)) (by decide) ?_
    refine md_ca_in hE (by decide) dX1_template_35 (Nat.le_of_ble_eq_true rfl) h (fun r_ h => ?_)
    exact w_md_template_b38 hE v1 v2 v3 v4 v5 r_ σ h k
theorem w_md_template_b16 {E : dEnv} {l : Launch} {G : dGeo} (hE : mdOk E l G cX1_template 6 rmX1_template) (v1 v2 v3 v4 v5 s0 : Int32) (σ : dS) {out} (h : md_template_b16 v1 v2 v3 v4 v5 s0 σ = some out) (k : dR E cX1_template (some .boolean) out) : dG E σ 16 [v1, v2, v3, v4, v5] [.int s0] := by
  unfold md_template_b16 at h
  refine dg_if_eq hE dX1_template_16 (tgt := 52) (by decide) h (fun h => ?_) (fun h => ?_)
  · refine dg_iconst hE dX1_template_52 (v := (0 : Int32)) (by decide) ?_
    cases h
    exact k nz0 _ _ dX1_template_53
  · refine dg_iload_n hE dX1_template_19 2 rfl rfl ?_
    refine dg_bipush hE dX1_template_20 (v := (-9 : Int32)) (by decide) ?_
    refine dg_bipush hE dX1_template_22 (v := (9 : Int32)) (by decide) ?_
    refine md_ca_in hE (by decide) dX1_template_24 (Nat.le_of_ble_eq_true rfl) h (fun r_ h => ?_)
    exact w_md_template_b27 hE v1 v2 v3 v4 v5 r_ σ h k
theorem w_md_template_b6 {E : dEnv} {l : Launch} {G : dGeo} (hE : mdOk E l G cX1_template 6 rmX1_template) (v1 v2 v3 v4 v5 s0 : Int32) (σ : dS) {out} (h : md_template_b6 v1 v2 v3 v4 v5 s0 σ = some out) (k : dR E cX1_template (some .boolean) out) : dG E σ 6 [v1, v2, v3, v4, v5] [.int s0] := by
  unfold md_template_b6 at h
  refine dg_if_eq hE dX1_template_6 (tgt := 52) (by decide) h (fun h => ?_) (fun h => ?_)
  · refine dg_iconst hE dX1_template_52 (v := (0 : Int32)) (by decide) ?_
    cases h
    exact k nz0 _ _ dX1_template_53
  · refine dg_iload_n hE dX1_template_9 1 rfl rfl ?_
    refine dg_iconst hE dX1_template_10 (v := (0 : Int32)) (by decide) ?_
    refine dg_bipush hE dX1_template_11 (v := (7 : Int32)) (by decide) ?_
    refine md_ca_in hE (by decide) dX1_template_13 (Nat.le_of_ble_eq_true rfl) h (fun r_ h => ?_)
    exact w_md_template_b16 hE v1 v2 v3 v4 v5 r_ σ h k
theorem w_md_template_b0 {E : dEnv} {l : Launch} {G : dGeo} (hE : mdOk E l G cX1_template 6 rmX1_template) (v1 v2 v3 v4 v5 : Int32) (σ : dS) {out} (h : md_template_b0 v1 v2 v3 v4 v5 σ = some out) (k : dR E cX1_template (some .boolean) out) : dG E σ 0 [v1, v2, v3, v4, v5] [] := by
  unfold md_template_b0 at h
  refine dg_iload_n hE dX1_template_0 0 rfl rfl ?_
  refine dg_iconst hE dX1_template_1 (v := (0 : Int32)) (by decide) ?_
  refine dg_iconst hE dX1_template_2 (v := (5 : Int32)) (by decide) ?_
  refine md_ca_in hE (by decide) dX1_template_3 (Nat.le_of_ble_eq_true rfl) h (fun r_ h => ?_)
  exact w_md_template_b6 hE v1 v2 v3 v4 v5 r_ σ h k
theorem met_md_template (l : Launch) (G : dGeo) (sz : Nat) (v1 v2 v3 v4 v5 : Int32) (σ : dS) {r : Int32 × dS} (h : md_template v1 v2 v3 v4 v5 σ = some r) : Met l yX1_template (ws_ yX1_template cX1_template 6 (some .boolean)) rmX1_template (dPc G.1 (md_ty G) (md_w G σ) sz [.ref G.2.1, .int v1, .int v2, .int v3, .int v4, .int v5]) (dQi G.1 (md_ty G) (md_w G σ) (md_w G r.2) sz r.1) 0 0 (va_A (md_w G σ) sz) := by
  refine dMet_i (w := md_w G) (σ := σ) (σ' := r.2) (th := [(0, .ref G.2.1)]) (b := 1) (xs := [v1, v2, v3, v4, v5]) (by decide) rfl rfl (Nat.le_of_ble_eq_true rfl) dth (fun E hE k => ?_)
  unfold md_template at h
  exact w_md_template_b0 hE v1 v2 v3 v4 v5 σ h k
abbrev rmX1_drop : Room := { frames := 1, cells := 0, slots := 0, locals := 22 }
theorem w_md_drop_b27 {E : dEnv} {l : Launch} {G : dGeo} (hE : mdOk E l G cX1_drop 2 rmX1_drop) (σ : dS) {out} (h : md_drop_b27 σ = some out) (k : dR E cX1_drop (some .boolean) out) : dG E σ 27 [] [] := by
  unfold md_drop_b27 at h
  refine dg_iconst hE dX1_drop_27 (v := (1 : Int32)) (by decide) ?_
  cases h
  exact k nz1 _ _ dX1_drop_28
theorem w_md_drop_b6 {E : dEnv} {l : Launch} {G : dGeo} (hE : mdOk E l G cX1_drop 2 rmX1_drop) (v1 s0 : Int32) (σ : dS) {out} (h : md_drop_b6 v1 s0 σ = some out) (k : dR E cX1_drop (some .boolean) out) : dG E σ 6 [v1] [.int s0] := by
  unfold md_drop_b6 at h
  refine dg_if_eq hE dX1_drop_6 (tgt := 18) (by decide) h (fun h => ?_) (fun h => ?_)
  · refine dg_iconst hE dX1_drop_18 (v := (0 : Int32)) (by decide) ?_
    cases h
    exact k nz0 _ _ dX1_drop_19
  · refine dg_aload0 hE dX1_drop_9 ?_
    refine md_gf17 hE dX1_drop_10 ?_
    refine dg_iload_n hE dX1_drop_13 0 rfl rfl ?_
    refine md_ld17 hE dX1_drop_14 h (fun h => ?_)
    refine dg_if_ne hE dX1_drop_15 (tgt := 20) (by decide) h (fun h => ?_) (fun h => ?_)
    · refine dg_aload0 hE dX1_drop_20 ?_
      refine md_gf17 hE dX1_drop_21 ?_
      refine dg_iload_n hE dX1_drop_24 0 rfl rfl ?_
      refine dg_iconst hE dX1_drop_25 (v := (0 : Int32)) (by decide) ?_
      refine md_as17 hE dX1_drop_26 h (fun h => ?_)
      refine dg_drop (xs' := []) (ys := [v1]) rfl ?_
      exact w_md_drop_b27 hE (up2 σ 17 v1.toNatClampNeg (vp_nar .boolean (0 : Int32))) h k
    · refine dg_iconst hE dX1_drop_18 (v := (0 : Int32)) (by decide) ?_
      cases h
      exact k nz0 _ _ dX1_drop_19
theorem w_md_drop_b0 {E : dEnv} {l : Launch} {G : dGeo} (hE : mdOk E l G cX1_drop 2 rmX1_drop) (v1 : Int32) (σ : dS) {out} (h : md_drop_b0 v1 σ = some out) (k : dR E cX1_drop (some .boolean) out) : dG E σ 0 [v1] [] := by
  unfold md_drop_b0 at h
  refine dg_iload_n hE dX1_drop_0 0 rfl rfl ?_
  refine dg_iconst hE dX1_drop_1 (v := (0 : Int32)) (by decide) ?_
  refine dg_iconst hE dX1_drop_2 (v := (5 : Int32)) (by decide) ?_
  refine md_ca_in hE (by decide) dX1_drop_3 (Nat.le_of_ble_eq_true rfl) h (fun r_ h => ?_)
  exact w_md_drop_b6 hE v1 r_ σ h k
theorem met_md_drop (l : Launch) (G : dGeo) (sz : Nat) (v1 : Int32) (σ : dS) {r : Int32 × dS} (h : md_drop v1 σ = some r) : Met l yX1_drop (ws_ yX1_drop cX1_drop 2 (some .boolean)) rmX1_drop (dPc G.1 (md_ty G) (md_w G σ) sz [.ref G.2.1, .int v1]) (dQi G.1 (md_ty G) (md_w G σ) (md_w G r.2) sz r.1) 0 0 (va_A (md_w G σ) sz) := by
  refine dMet_i (w := md_w G) (σ := σ) (σ' := r.2) (th := [(0, .ref G.2.1)]) (b := 1) (xs := [v1]) (by decide) rfl rfl (Nat.le_of_ble_eq_true rfl) dth (fun E hE k => ?_)
  unfold md_drop at h
  exact w_md_drop_b0 hE v1 σ h k
abbrev rmX1_matches : Room := { frames := 8, cells := 0, slots := 0, locals := 208 }
theorem w_md_matches_b118 {E : dEnv} {l : Launch} {G : dGeo} (hE : mdOk E l G cX1_matches 6 rmX1_matches) (v1 v2 v3 : Int32) (σ : dS) {out} (h : md_matches_b118 v1 v2 v3 σ = some out) (k : dK E cX1_matches (some .boolean) out) : dG E σ 118 [v1, v2, v3] [] := by
  unfold md_matches_b118 at h
  refine dg_iinc hE dX1_matches_118 2 (xs' := [v1, v2, (v3 + (1 : Int32))]) rfl rfl (by decide) rfl ?_
  refine dg_goto hE dX1_matches_121 (tgt := 43) (by decide) ?_
  cases h
  exact k
theorem w_md_matches_b102 {E : dEnv} {l : Launch} {G : dGeo} (hE : mdOk E l G cX1_matches 6 rmX1_matches) (v1 v2 v3 : Int32) (σ : dS) {out} (h : md_matches_b102 v1 v2 v3 σ = some out) (k : dK E cX1_matches (some .boolean) out) : dG E σ 102 [v1, v2, v3] [] := by
  unfold md_matches_b102 at h
  refine dg_aload0 hE dX1_matches_102 ?_
  refine md_gf13 hE dX1_matches_103 ?_
  refine dg_iconst hE dX1_matches_106 (v := (0 : Int32)) (by decide) ?_
  refine md_ld13 hE dX1_matches_107 h (fun h => ?_)
  refine dg_iload_n hE dX1_matches_108 1 rfl rfl ?_
  refine dg_ishr hE dX1_matches_109 ?_
  refine dg_iconst hE dX1_matches_110 (v := (1 : Int32)) (by decide) ?_
  refine dg_iand hE dX1_matches_111 ?_
  refine dg_iconst hE dX1_matches_112 (v := (1 : Int32)) (by decide) ?_
  refine dg_icmp_ne hE dX1_matches_113 (tgt := 118) (by decide) h (fun h => ?_) (fun h => ?_)
  · exact w_md_matches_b118 hE v1 v2 v3 σ h k
  · refine dg_iconst hE dX1_matches_116 (v := (1 : Int32)) (by decide) ?_
    cases h
    exact k nz1 _ _ dX1_matches_117
theorem w_md_matches_b80 {E : dEnv} {l : Launch} {G : dGeo} (hE : mdOk E l G cX1_matches 6 rmX1_matches) (v1 v2 v3 v4 s0 : Int32) (σ : dS) {out} (h : md_matches_b80 v1 v2 v3 v4 s0 σ = some out) (k : dK E cX1_matches (some .boolean) out) : dG E σ 80 [v1, v2, v3, v4] [.int s0] := by
  unfold md_matches_b80 at h
  refine dg_istore hE dX1_matches_80 4 (xs' := [v1, v2, v3, v4, s0]) rfl (Nat.le_of_ble_eq_true rfl) (by decide) rfl ?_
  refine dg_iload hE dX1_matches_82 4 rfl rfl ?_
  refine dg_if_ne hE dX1_matches_84 (tgt := 90) (by decide) h (fun h => ?_) (fun h => ?_)
  · refine dg_aload0 hE dX1_matches_90 ?_
    refine dg_aload0 hE dX1_matches_91 ?_
    refine md_gf18 hE dX1_matches_92 ?_
    refine dg_iload_n hE dX1_matches_95 0 rfl rfl ?_
    refine md_ld18 hE dX1_matches_96 h (fun h => ?_)
    refine dg_iload hE dX1_matches_97 3 rfl rfl ?_
    refine md_ca_ask hE (by decide) dX1_matches_99 (Nat.le_of_ble_eq_true rfl) h (fun r_ h => ?_)
    refine dg_drop (xs' := [v1, v2, v3]) (ys := [v4, s0]) rfl ?_
    exact w_md_matches_b102 hE v1 v2 v3 (r_.2) h k
  · refine dg_goto hE dX1_matches_87 (tgt := 118) (by decide) ?_
    refine dg_drop (xs' := [v1, v2, v3]) (ys := [v4, s0]) rfl ?_
    exact w_md_matches_b118 hE v1 v2 v3 σ h k
theorem w_md_matches_b75 {E : dEnv} {l : Launch} {G : dGeo} (hE : mdOk E l G cX1_matches 6 rmX1_matches) (v1 v2 v3 v4 : Int32) (σ : dS) {out} (h : md_matches_b75 v1 v2 v3 v4 σ = some out) (k : dK E cX1_matches (some .boolean) out) : dG E σ 75 [v1, v2, v3, v4] [] := by
  unfold md_matches_b75 at h
  refine dg_iconst hE dX1_matches_75 (v := (1 : Int32)) (by decide) ?_
  refine dg_goto hE dX1_matches_76 (tgt := 80) (by decide) ?_
  exact w_md_matches_b80 hE v1 v2 v3 v4 (1 : Int32) σ h k
theorem w_md_matches_b72 {E : dEnv} {l : Launch} {G : dGeo} (hE : mdOk E l G cX1_matches 6 rmX1_matches) (v1 v2 v3 v4 s0 : Int32) (σ : dS) {out} (h : md_matches_b72 v1 v2 v3 v4 s0 σ = some out) (k : dK E cX1_matches (some .boolean) out) : dG E σ 72 [v1, v2, v3, v4] [.int s0] := by
  unfold md_matches_b72 at h
  refine dg_if_eq hE dX1_matches_72 (tgt := 79) (by decide) h (fun h => ?_) (fun h => ?_)
  · refine dg_iconst hE dX1_matches_79 (v := (0 : Int32)) (by decide) ?_
    exact w_md_matches_b80 hE v1 v2 v3 v4 (0 : Int32) σ h k
  · exact w_md_matches_b75 hE v1 v2 v3 v4 σ h k
theorem w_md_matches_b59 {E : dEnv} {l : Launch} {G : dGeo} (hE : mdOk E l G cX1_matches 6 rmX1_matches) (v1 v2 v3 v4 : Int32) (σ : dS) {out} (h : md_matches_b59 v1 v2 v3 v4 σ = some out) (k : dK E cX1_matches (some .boolean) out) : dG E σ 59 [v1, v2, v3, v4] [] := by
  unfold md_matches_b59 at h
  refine dg_iload hE dX1_matches_59 3 rfl rfl ?_
  refine dg_iload_n hE dX1_matches_61 1 rfl rfl ?_
  refine dg_icmp_eq hE dX1_matches_62 (tgt := 75) (by decide) h (fun h => ?_) (fun h => ?_)
  · exact w_md_matches_b75 hE v1 v2 v3 v4 σ h k
  · refine dg_aload0 hE dX1_matches_65 ?_
    refine dg_iload_n hE dX1_matches_66 1 rfl rfl ?_
    refine dg_iload hE dX1_matches_67 3 rfl rfl ?_
    refine md_ca_isBelow hE (by decide) dX1_matches_69 (Nat.le_of_ble_eq_true rfl) h (fun r_ h => ?_)
    exact w_md_matches_b72 hE v1 v2 v3 v4 (r_.1) (r_.2) h k
theorem w_md_matches_b43 {E : dEnv} {l : Launch} {G : dGeo} (hE : mdOk E l G cX1_matches 6 rmX1_matches) (v1 v2 v3 : Int32) (σ : dS) {out} (h : md_matches_b43 v1 v2 v3 σ = some out) (k : dK E cX1_matches (some .boolean) out) : dG E σ 43 [v1, v2, v3] [] := by
  unfold md_matches_b43 at h
  refine dg_iload_n hE dX1_matches_43 2 rfl rfl ?_
  refine dg_aload0 hE dX1_matches_44 ?_
  refine md_gf5 hE dX1_matches_45 ?_
  refine dg_icmp_ge hE dX1_matches_48 (tgt := 124) (by decide) h (fun h => ?_) (fun h => ?_)
  · refine dg_iconst hE dX1_matches_124 (v := (0 : Int32)) (by decide) ?_
    cases h
    exact k nz0 _ _ dX1_matches_125
  · refine dg_aload0 hE dX1_matches_51 ?_
    refine md_gf0 hE dX1_matches_52 ?_
    refine dg_iload_n hE dX1_matches_55 2 rfl rfl ?_
    refine md_ld0 hE dX1_matches_56 h (fun h => ?_)
    refine dg_istore hE dX1_matches_57 3 (xs' := [v1, v2, v3, (σ 0 v3.toNatClampNeg)]) rfl (Nat.le_of_ble_eq_true rfl) (by decide) rfl ?_
    exact w_md_matches_b59 hE v1 v2 v3 (σ 0 v3.toNatClampNeg) σ h k
theorem w_md_matches_b36 {E : dEnv} {l : Launch} {G : dGeo} (hE : mdOk E l G cX1_matches 6 rmX1_matches) (v1 v2 s0 : Int32) (σ : dS) {out} (h : md_matches_b36 v1 v2 s0 σ = some out) (k : dK E cX1_matches (some .boolean) out) : dG E σ 36 [v1, v2] [.int s0] := by
  unfold md_matches_b36 at h
  refine dg_if_ne hE dX1_matches_36 (tgt := 41) (by decide) h (fun h => ?_) (fun h => ?_)
  · refine dg_iconst hE dX1_matches_41 (v := (0 : Int32)) (by decide) ?_
    refine dg_istore_n hE dX1_matches_42 2 (xs' := [v1, v2, (0 : Int32)]) rfl (Nat.le_of_ble_eq_true rfl) (by decide) rfl ?_
    cases h
    exact k
  · refine dg_iconst hE dX1_matches_39 (v := (0 : Int32)) (by decide) ?_
    cases h
    exact k nz0 _ _ dX1_matches_40
theorem w_md_matches_b23 {E : dEnv} {l : Launch} {G : dGeo} (hE : mdOk E l G cX1_matches 6 rmX1_matches) (v1 v2 s0 : Int32) (σ : dS) {out} (h : md_matches_b23 v1 v2 s0 σ = some out) (k : dK E cX1_matches (some .boolean) out) : dG E σ 23 [v1, v2] [.int s0] := by
  unfold md_matches_b23 at h
  refine dg_if_lt hE dX1_matches_23 (tgt := 39) (by decide) h (fun h => ?_) (fun h => ?_)
  · refine dg_iconst hE dX1_matches_39 (v := (0 : Int32)) (by decide) ?_
    cases h
    exact k nz0 _ _ dX1_matches_40
  · refine dg_aload0 hE dX1_matches_26 ?_
    refine dg_aload0 hE dX1_matches_27 ?_
    refine md_gf18 hE dX1_matches_28 ?_
    refine dg_iload_n hE dX1_matches_31 0 rfl rfl ?_
    refine md_ld18 hE dX1_matches_32 h (fun h => ?_)
    refine md_ca_isSet hE (by decide) dX1_matches_33 (Nat.le_of_ble_eq_true rfl) h (fun r_ h => ?_)
    exact w_md_matches_b36 hE v1 v2 (r_.1) (r_.2) h k
theorem w_md_matches_b6 {E : dEnv} {l : Launch} {G : dGeo} (hE : mdOk E l G cX1_matches 6 rmX1_matches) (v1 v2 s0 : Int32) (σ : dS) {out} (h : md_matches_b6 v1 v2 s0 σ = some out) (k : dK E cX1_matches (some .boolean) out) : dG E σ 6 [v1, v2] [.int s0] := by
  unfold md_matches_b6 at h
  refine dg_if_eq hE dX1_matches_6 (tgt := 39) (by decide) h (fun h => ?_) (fun h => ?_)
  · refine dg_iconst hE dX1_matches_39 (v := (0 : Int32)) (by decide) ?_
    cases h
    exact k nz0 _ _ dX1_matches_40
  · refine dg_aload0 hE dX1_matches_9 ?_
    refine md_gf17 hE dX1_matches_10 ?_
    refine dg_iload_n hE dX1_matches_13 0 rfl rfl ?_
    refine md_ld17 hE dX1_matches_14 h (fun h => ?_)
    refine dg_if_eq hE dX1_matches_15 (tgt := 39) (by decide) h (fun h => ?_) (fun h => ?_)
    · refine dg_iconst hE dX1_matches_39 (v := (0 : Int32)) (by decide) ?_
      cases h
      exact k nz0 _ _ dX1_matches_40
    · refine dg_aload0 hE dX1_matches_18 ?_
      refine dg_iload_n hE dX1_matches_19 1 rfl rfl ?_
      refine md_ca_where hE (by decide) dX1_matches_20 (Nat.le_of_ble_eq_true rfl) h (fun r_ h => ?_)
      exact w_md_matches_b23 hE v1 v2 (r_.1) (r_.2) h k
theorem w_md_matches_b0 {E : dEnv} {l : Launch} {G : dGeo} (hE : mdOk E l G cX1_matches 6 rmX1_matches) (v1 v2 : Int32) (σ : dS) {out} (h : md_matches_b0 v1 v2 σ = some out) (k : dK E cX1_matches (some .boolean) out) : dG E σ 0 [v1, v2] [] := by
  unfold md_matches_b0 at h
  refine dg_iload_n hE dX1_matches_0 0 rfl rfl ?_
  refine dg_iconst hE dX1_matches_1 (v := (0 : Int32)) (by decide) ?_
  refine dg_iconst hE dX1_matches_2 (v := (5 : Int32)) (by decide) ?_
  refine md_ca_in hE (by decide) dX1_matches_3 (Nat.le_of_ble_eq_true rfl) h (fun r_ h => ?_)
  exact w_md_matches_b6 hE v1 v2 r_ σ h k
theorem w_md_matches_st {E : dEnv} {l : Launch} {G : dGeo} (hE : mdOk E l G cX1_matches 6 rmX1_matches) (a : Nat × List Int32 × dS) {out} (h : md_matches_st a = some out) (k : dK E cX1_matches (some .boolean) out) : dG E a.2.2 a.1 a.2.1 [] := by
  obtain ⟨L, xs, σ⟩ := a
  unfold md_matches_st at h
  dsimp only at h ⊢
  by_cases c_ : L = 43
  · subst c_
    rw [if_pos rfl] at h
    match xs, h with
    | [x0, x1, x2], h => exact w_md_matches_b43 hE x0 x1 x2 σ h k
    | [], h => cases h
    | [_], h => cases h
    | [_, _], h => cases h
    | _ :: _ :: _ :: _ :: _, h => cases h
  rw [if_neg c_] at h
  cases h
theorem met_md_matches (l : Launch) (G : dGeo) (sz : Nat) (v1 v2 : Int32) (σ : dS) {r : Int32 × dS} (h : md_matches v1 v2 σ = some r) : Met l yX1_matches (ws_ yX1_matches cX1_matches 6 (some .boolean)) rmX1_matches (dPc G.1 (md_ty G) (md_w G σ) sz [.ref G.2.1, .int v1, .int v2]) (dQi G.1 (md_ty G) (md_w G σ) (md_w G r.2) sz r.1) 0 0 (va_A (md_w G σ) sz) := by
  refine dMet_i (w := md_w G) (σ := σ) (σ' := r.2) (th := [(0, .ref G.2.1)]) (b := 1) (xs := [v1, v2]) (by decide) rfl rfl (Nat.le_of_ble_eq_true rfl) dth (fun E hE k => ?_)
  unfold md_matches at h
  obtain ⟨out, h1, h2⟩ := lpB_some h
  exact w_md_matches_b0 hE v1 v2 σ h1 (dK_lp (fun a out => w_md_matches_st hE a) h2 k)
theorem md_ca_matches {E : dEnv} {l : Launch} {G : dGeo} {cc : ByteArray} {nL pc : Nat} {R : Room} {σ : dS} {xs : List Int32} {st : List Value} {τ : Type} {g : Int32 × dS → Option τ} {out : τ} {a0 a1 : Int32} (hE : mdOk E l G cc nL R) (hR : 8 + 1 ≤ R.frames ∧ 8 + (6 + 11) + 208 ≤ R.locals) (hd : decode cc pc = .ok (.invokevirtual 176, 3)) (hs : (st.map fun v => v.category).sum ≤ 8) (h : Option.bind (md_matches a0 a1 σ) g = some out) (k : ∀ r, g r = some out → dG E r.2 (pc + 3) xs (.int r.1 :: st)) : dG E σ pc xs (.int a1 :: .int a0 :: .ref G.2.1 :: st) := by
  obtain ⟨r, h1, h2⟩ := obind h
  exact dg_callVi hE (As := [.int a0, .int a1]) (st := st) (C := RX1) (rm := rmX1_matches) (md_recv G) (fun sz => met_md_matches l G sz a0 a1 σ h1) (lw_V q612 q601 q602 q51 q603) 2 rfl ⟨rfl, rfl⟩ (by decide +kernel) hR rfl hs hd (k r h2)
abbrev rmX1_best : Room := { frames := 9, cells := 0, slots := 0, locals := 233 }
theorem w_md_best_b44 {E : dEnv} {l : Launch} {G : dGeo} (hE : mdOk E l G cX1_best 5 rmX1_best) (v1 v2 v3 : Int32) (σ : dS) {out} (h : md_best_b44 v1 v2 v3 σ = some out) (k : dK E cX1_best (some .int) out) : dG E σ 44 [v1, v2, v3] [] := by
  unfold md_best_b44 at h
  refine dg_iinc hE dX1_best_44 2 (xs' := [v1, v2, (v3 + (1 : Int32))]) rfl rfl (by decide) rfl ?_
  refine dg_goto hE dX1_best_47 (tgt := 4) (by decide) ?_
  cases h
  exact k
theorem w_md_best_b42 {E : dEnv} {l : Launch} {G : dGeo} (hE : mdOk E l G cX1_best 5 rmX1_best) (v1 v2 v3 : Int32) (σ : dS) {out} (h : md_best_b42 v1 v2 v3 σ = some out) (k : dK E cX1_best (some .int) out) : dG E σ 42 [v1, v2, v3] [] := by
  unfold md_best_b42 at h
  refine dg_iload_n hE dX1_best_42 2 rfl rfl ?_
  refine dg_istore_n hE dX1_best_43 1 (xs' := [v1, v3, v3]) rfl (Nat.le_of_ble_eq_true rfl) (by decide) rfl ?_
  exact w_md_best_b44 hE v1 v3 v3 σ h k
theorem w_md_best_b16 {E : dEnv} {l : Launch} {G : dGeo} (hE : mdOk E l G cX1_best 5 rmX1_best) (v1 v2 v3 s0 : Int32) (σ : dS) {out} (h : md_best_b16 v1 v2 v3 s0 σ = some out) (k : dK E cX1_best (some .int) out) : dG E σ 16 [v1, v2, v3] [.int s0] := by
  unfold md_best_b16 at h
  refine dg_istore hE dX1_best_16 3 (xs' := [v1, v2, v3, s0]) rfl (Nat.le_of_ble_eq_true rfl) (by decide) rfl ?_
  refine dg_iload hE dX1_best_18 3 rfl rfl ?_
  refine dg_if_eq hE dX1_best_20 (tgt := 44) (by decide) h (fun h => ?_) (fun h => ?_)
  · refine dg_drop (xs' := [v1, v2, v3]) (ys := [s0]) rfl ?_
    exact w_md_best_b44 hE v1 v2 v3 σ h k
  · refine dg_iload_n hE dX1_best_23 1 rfl rfl ?_
    refine dg_if_lt hE dX1_best_24 (tgt := 42) (by decide) h (fun h => ?_) (fun h => ?_)
    · refine dg_drop (xs' := [v1, v2, v3]) (ys := [s0]) rfl ?_
      exact w_md_best_b42 hE v1 v2 v3 σ h k
    · refine dg_aload0 hE dX1_best_27 ?_
      refine md_gf19 hE dX1_best_28 ?_
      refine dg_iload_n hE dX1_best_31 2 rfl rfl ?_
      refine md_ld19 hE dX1_best_32 h (fun h => ?_)
      refine dg_aload0 hE dX1_best_33 ?_
      refine md_gf19 hE dX1_best_34 ?_
      refine dg_iload_n hE dX1_best_37 1 rfl rfl ?_
      refine md_ld19 hE dX1_best_38 h (fun h => ?_)
      refine dg_icmp_lt hE dX1_best_39 (tgt := 44) (by decide) h (fun h => ?_) (fun h => ?_)
      · refine dg_drop (xs' := [v1, v2, v3]) (ys := [s0]) rfl ?_
        exact w_md_best_b44 hE v1 v2 v3 σ h k
      · refine dg_drop (xs' := [v1, v2, v3]) (ys := [s0]) rfl ?_
        exact w_md_best_b42 hE v1 v2 v3 σ h k
theorem w_md_best_b4 {E : dEnv} {l : Launch} {G : dGeo} (hE : mdOk E l G cX1_best 5 rmX1_best) (v1 v2 v3 : Int32) (σ : dS) {out} (h : md_best_b4 v1 v2 v3 σ = some out) (k : dK E cX1_best (some .int) out) : dG E σ 4 [v1, v2, v3] [] := by
  unfold md_best_b4 at h
  refine dg_iload_n hE dX1_best_4 2 rfl rfl ?_
  refine dg_bipush hE dX1_best_5 (v := (6 : Int32)) (by decide) ?_
  refine dg_icmp_ge hE dX1_best_7 (tgt := 50) (by decide) h (fun h => ?_) (fun h => ?_)
  · refine dg_iload_n hE dX1_best_50 1 rfl rfl ?_
    cases h
    exact k rfl _ _ dX1_best_51
  · refine dg_aload0 hE dX1_best_10 ?_
    refine dg_iload_n hE dX1_best_11 2 rfl rfl ?_
    refine dg_iload_n hE dX1_best_12 0 rfl rfl ?_
    refine md_ca_matches hE (by decide) dX1_best_13 (Nat.le_of_ble_eq_true rfl) h (fun r_ h => ?_)
    exact w_md_best_b16 hE v1 v2 v3 (r_.1) (r_.2) h k
theorem w_md_best_b0 {E : dEnv} {l : Launch} {G : dGeo} (hE : mdOk E l G cX1_best 5 rmX1_best) (v1 : Int32) (σ : dS) {out} (h : md_best_b0 v1 σ = some out) (k : dK E cX1_best (some .int) out) : dG E σ 0 [v1] [] := by
  unfold md_best_b0 at h
  refine dg_iconst hE dX1_best_0 (v := (-1 : Int32)) (by decide) ?_
  refine dg_istore_n hE dX1_best_1 1 (xs' := [v1, (-1 : Int32)]) rfl (Nat.le_of_ble_eq_true rfl) (by decide) rfl ?_
  refine dg_iconst hE dX1_best_2 (v := (0 : Int32)) (by decide) ?_
  refine dg_istore_n hE dX1_best_3 2 (xs' := [v1, (-1 : Int32), (0 : Int32)]) rfl (Nat.le_of_ble_eq_true rfl) (by decide) rfl ?_
  cases h
  exact k
theorem w_md_best_st {E : dEnv} {l : Launch} {G : dGeo} (hE : mdOk E l G cX1_best 5 rmX1_best) (a : Nat × List Int32 × dS) {out} (h : md_best_st a = some out) (k : dK E cX1_best (some .int) out) : dG E a.2.2 a.1 a.2.1 [] := by
  obtain ⟨L, xs, σ⟩ := a
  unfold md_best_st at h
  dsimp only at h ⊢
  by_cases c_ : L = 4
  · subst c_
    rw [if_pos rfl] at h
    match xs, h with
    | [x0, x1, x2], h => exact w_md_best_b4 hE x0 x1 x2 σ h k
    | [], h => cases h
    | [_], h => cases h
    | [_, _], h => cases h
    | _ :: _ :: _ :: _ :: _, h => cases h
  rw [if_neg c_] at h
  cases h
theorem met_md_best (l : Launch) (G : dGeo) (sz : Nat) (v1 : Int32) (σ : dS) {r : Int32 × dS} (h : md_best v1 σ = some r) : Met l yX1_best (ws_ yX1_best cX1_best 5 (some .int)) rmX1_best (dPc G.1 (md_ty G) (md_w G σ) sz [.ref G.2.1, .int v1]) (dQi G.1 (md_ty G) (md_w G σ) (md_w G r.2) sz r.1) 0 0 (va_A (md_w G σ) sz) := by
  refine dMet_i (w := md_w G) (σ := σ) (σ' := r.2) (th := [(0, .ref G.2.1)]) (b := 1) (xs := [v1]) (by decide) rfl rfl (Nat.le_of_ble_eq_true rfl) dth (fun E hE k => ?_)
  unfold md_best at h
  obtain ⟨out, h1, h2⟩ := lpB_some h
  exact w_md_best_b0 hE v1 σ h1 (dK_lp (fun a out => w_md_best_st hE a) h2 k)
theorem md_ca_best {E : dEnv} {l : Launch} {G : dGeo} {cc : ByteArray} {nL pc : Nat} {R : Room} {σ : dS} {xs : List Int32} {st : List Value} {τ : Type} {g : Int32 × dS → Option τ} {out : τ} {a0 : Int32} (hE : mdOk E l G cc nL R) (hR : 9 + 1 ≤ R.frames ∧ 8 + (5 + 11) + 233 ≤ R.locals) (hd : decode cc pc = .ok (.invokevirtual 182, 3)) (hs : (st.map fun v => v.category).sum ≤ 8) (h : Option.bind (md_best a0 σ) g = some out) (k : ∀ r, g r = some out → dG E r.2 (pc + 3) xs (.int r.1 :: st)) : dG E σ pc xs (.int a0 :: .ref G.2.1 :: st) := by
  obtain ⟨r, h1, h2⟩ := obind h
  exact dg_callVi hE (As := [.int a0]) (st := st) (C := RX1) (rm := rmX1_best) (md_recv G) (fun sz => met_md_best l G sz a0 σ h1) (lw_V q608 q610 qs47 q51 q611) 1 rfl ⟨rfl, rfl⟩ (by decide +kernel) hR rfl hs hd (k r h2)
abbrev rmX1_childrenOf : Room := { frames := 2, cells := 0, slots := 0, locals := 44 }
theorem w_md_childrenOf_b37 {E : dEnv} {l : Launch} {G : dGeo} (hE : mdOk E l G cX1_childrenOf 4 rmX1_childrenOf) (v1 v2 v3 : Int32) (σ : dS) {out} (h : md_childrenOf_b37 v1 v2 v3 σ = some out) (k : dK E cX1_childrenOf (some .int) out) : dG E σ 37 [v1, v2, v3] [] := by
  unfold md_childrenOf_b37 at h
  refine dg_iinc hE dX1_childrenOf_37 2 (xs' := [v1, v2, (v3 + (1 : Int32))]) rfl rfl (by decide) rfl ?_
  refine dg_goto hE dX1_childrenOf_40 (tgt := 4) (by decide) ?_
  cases h
  exact k
theorem w_md_childrenOf_b22 {E : dEnv} {l : Launch} {G : dGeo} (hE : mdOk E l G cX1_childrenOf 4 rmX1_childrenOf) (v1 v2 v3 s0 : Int32) (σ : dS) {out} (h : md_childrenOf_b22 v1 v2 v3 s0 σ = some out) (k : dK E cX1_childrenOf (some .int) out) : dG E σ 22 [v1, v2, v3] [.int s0] := by
  unfold md_childrenOf_b22 at h
  refine dg_iload_n hE dX1_childrenOf_22 0 rfl rfl ?_
  refine dg_icmp_ne hE dX1_childrenOf_23 (tgt := 37) (by decide) h (fun h => ?_) (fun h => ?_)
  · exact w_md_childrenOf_b37 hE v1 v2 v3 σ h k
  · refine dg_iload_n hE dX1_childrenOf_26 1 rfl rfl ?_
    refine dg_iconst hE dX1_childrenOf_27 (v := (1 : Int32)) (by decide) ?_
    refine dg_aload0 hE dX1_childrenOf_28 ?_
    refine md_gf0 hE dX1_childrenOf_29 ?_
    refine dg_iload_n hE dX1_childrenOf_32 2 rfl rfl ?_
    refine md_ld0 hE dX1_childrenOf_33 h (fun h => ?_)
    refine dg_ishl hE dX1_childrenOf_34 ?_
    refine dg_ior hE dX1_childrenOf_35 ?_
    refine dg_istore_n hE dX1_childrenOf_36 1 (xs' := [v1, (v2 ||| ((1 : Int32) <<< ((σ 0 v3.toNatClampNeg) &&& 31))), v3]) rfl (Nat.le_of_ble_eq_true rfl) (by decide) rfl ?_
    exact w_md_childrenOf_b37 hE v1 (v2 ||| ((1 : Int32) <<< ((σ 0 v3.toNatClampNeg) &&& 31))) v3 σ h k
theorem w_md_childrenOf_b4 {E : dEnv} {l : Launch} {G : dGeo} (hE : mdOk E l G cX1_childrenOf 4 rmX1_childrenOf) (v1 v2 v3 : Int32) (σ : dS) {out} (h : md_childrenOf_b4 v1 v2 v3 σ = some out) (k : dK E cX1_childrenOf (some .int) out) : dG E σ 4 [v1, v2, v3] [] := by
  unfold md_childrenOf_b4 at h
  refine dg_iload_n hE dX1_childrenOf_4 2 rfl rfl ?_
  refine dg_aload0 hE dX1_childrenOf_5 ?_
  refine md_gf5 hE dX1_childrenOf_6 ?_
  refine dg_icmp_ge hE dX1_childrenOf_9 (tgt := 43) (by decide) h (fun h => ?_) (fun h => ?_)
  · refine dg_iload_n hE dX1_childrenOf_43 1 rfl rfl ?_
    cases h
    exact k rfl _ _ dX1_childrenOf_44
  · refine dg_aload0 hE dX1_childrenOf_12 ?_
    refine dg_aload0 hE dX1_childrenOf_13 ?_
    refine md_gf0 hE dX1_childrenOf_14 ?_
    refine dg_iload_n hE dX1_childrenOf_17 2 rfl rfl ?_
    refine md_ld0 hE dX1_childrenOf_18 h (fun h => ?_)
    refine md_ca_parentOf hE (by decide) dX1_childrenOf_19 (Nat.le_of_ble_eq_true rfl) h (fun r_ h => ?_)
    exact w_md_childrenOf_b22 hE v1 v2 v3 (r_.1) (r_.2) h k
theorem w_md_childrenOf_b0 {E : dEnv} {l : Launch} {G : dGeo} (hE : mdOk E l G cX1_childrenOf 4 rmX1_childrenOf) (v1 : Int32) (σ : dS) {out} (h : md_childrenOf_b0 v1 σ = some out) (k : dK E cX1_childrenOf (some .int) out) : dG E σ 0 [v1] [] := by
  unfold md_childrenOf_b0 at h
  refine dg_iconst hE dX1_childrenOf_0 (v := (0 : Int32)) (by decide) ?_
  refine dg_istore_n hE dX1_childrenOf_1 1 (xs' := [v1, (0 : Int32)]) rfl (Nat.le_of_ble_eq_true rfl) (by decide) rfl ?_
  refine dg_iconst hE dX1_childrenOf_2 (v := (0 : Int32)) (by decide) ?_
  refine dg_istore_n hE dX1_childrenOf_3 2 (xs' := [v1, (0 : Int32), (0 : Int32)]) rfl (Nat.le_of_ble_eq_true rfl) (by decide) rfl ?_
  cases h
  exact k
theorem w_md_childrenOf_st {E : dEnv} {l : Launch} {G : dGeo} (hE : mdOk E l G cX1_childrenOf 4 rmX1_childrenOf) (a : Nat × List Int32 × dS) {out} (h : md_childrenOf_st a = some out) (k : dK E cX1_childrenOf (some .int) out) : dG E a.2.2 a.1 a.2.1 [] := by
  obtain ⟨L, xs, σ⟩ := a
  unfold md_childrenOf_st at h
  dsimp only at h ⊢
  by_cases c_ : L = 4
  · subst c_
    rw [if_pos rfl] at h
    match xs, h with
    | [x0, x1, x2], h => exact w_md_childrenOf_b4 hE x0 x1 x2 σ h k
    | [], h => cases h
    | [_], h => cases h
    | [_, _], h => cases h
    | _ :: _ :: _ :: _ :: _, h => cases h
  rw [if_neg c_] at h
  cases h
theorem met_md_childrenOf (l : Launch) (G : dGeo) (sz : Nat) (v1 : Int32) (σ : dS) {r : Int32 × dS} (h : md_childrenOf v1 σ = some r) : Met l yX1_childrenOf (ws_ yX1_childrenOf cX1_childrenOf 4 (some .int)) rmX1_childrenOf (dPc G.1 (md_ty G) (md_w G σ) sz [.ref G.2.1, .int v1]) (dQi G.1 (md_ty G) (md_w G σ) (md_w G r.2) sz r.1) 0 0 (va_A (md_w G σ) sz) := by
  refine dMet_i (w := md_w G) (σ := σ) (σ' := r.2) (th := [(0, .ref G.2.1)]) (b := 1) (xs := [v1]) (by decide) rfl rfl (Nat.le_of_ble_eq_true rfl) dth (fun E hE k => ?_)
  unfold md_childrenOf at h
  obtain ⟨out, h1, h2⟩ := lpB_some h
  exact w_md_childrenOf_b0 hE v1 σ h1 (dK_lp (fun a out => w_md_childrenOf_st hE a) h2 k)
theorem md_ca_childrenOf {E : dEnv} {l : Launch} {G : dGeo} {cc : ByteArray} {nL pc : Nat} {R : Room} {σ : dS} {xs : List Int32} {st : List Value} {τ : Type} {g : Int32 × dS → Option τ} {out : τ} {a0 : Int32} (hE : mdOk E l G cc nL R) (hR : 2 + 1 ≤ R.frames ∧ 8 + (4 + 11) + 44 ≤ R.locals) (hd : decode cc pc = .ok (.invokevirtual 185, 3)) (hs : (st.map fun v => v.category).sum ≤ 8) (h : Option.bind (md_childrenOf a0 σ) g = some out) (k : ∀ r, g r = some out → dG E r.2 (pc + 3) xs (.int r.1 :: st)) : dG E σ pc xs (.int a0 :: .ref G.2.1 :: st) := by
  obtain ⟨r, h1, h2⟩ := obind h
  exact dg_callVi hE (As := [.int a0]) (st := st) (C := RX1) (rm := rmX1_childrenOf) (md_recv G) (fun sz => met_md_childrenOf l G sz a0 σ h1) (lw_V q613 q615 qs48 q51 q616) 1 rfl ⟨rfl, rfl⟩ (by decide +kernel) hR rfl hs hd (k r h2)
abbrev rmX1_transform : Room := { frames := 10, cells := 0, slots := 0, locals := 257 }
theorem w_md_transform_b279 {E : dEnv} {l : Launch} {G : dGeo} (hE : mdOk E l G cX1_transform 9 rmX1_transform) (v1 v2 v3 v4 v5 v6 v7 v8 : Int32) (σ : dS) {out} (h : md_transform_b279 v1 v2 v3 v4 v5 v6 v7 v8 σ = some out) (k : dK E cX1_transform (some .int) out) : dG E σ 279 [v1, v2, v3, v4, v5, v6, v7, v8] [] := by
  unfold md_transform_b279 at h
  refine dg_iinc hE dX1_transform_279 7 (xs' := [v1, v2, v3, v4, v5, v6, v7, (v8 + (-1 : Int32))]) rfl rfl (by decide) rfl ?_
  refine dg_goto hE dX1_transform_282 (tgt := 230) (by decide) ?_
  cases h
  exact k
theorem w_md_transform_b266 {E : dEnv} {l : Launch} {G : dGeo} (hE : mdOk E l G cX1_transform 9 rmX1_transform) (v1 v2 v3 v4 v5 v6 v7 v8 : Int32) (σ : dS) {out} (h : md_transform_b266 v1 v2 v3 v4 v5 v6 v7 v8 σ = some out) (k : dK E cX1_transform (some .int) out) : dG E σ 266 [v1, v2, v3, v4, v5, v6, v7, v8] [] := by
  unfold md_transform_b266 at h
  refine dg_aload0 hE dX1_transform_266 ?_
  refine md_gf23 hE dX1_transform_267 ?_
  refine dg_iload_n hE dX1_transform_270 1 rfl rfl ?_
  refine dg_iinc hE dX1_transform_271 1 (xs' := [v1, (v2 + (1 : Int32)), v3, v4, v5, v6, v7, v8]) rfl rfl (by decide) rfl ?_
  refine dg_iload hE dX1_transform_274 4 rfl rfl ?_
  refine dg_iconst hE dX1_transform_276 (v := (1 : Int32)) (by decide) ?_
  refine dg_iadd hE dX1_transform_277 ?_
  refine md_as23 hE dX1_transform_278 h (fun h => ?_)
  exact w_md_transform_b279 hE v1 (v2 + (1 : Int32)) v3 v4 v5 v6 v7 v8 (up2 σ 23 v2.toNatClampNeg (v5 + (1 : Int32))) h k
theorem w_md_transform_b230 {E : dEnv} {l : Launch} {G : dGeo} (hE : mdOk E l G cX1_transform 9 rmX1_transform) (v1 v2 v3 v4 v5 v6 v7 v8 : Int32) (σ : dS) {out} (h : md_transform_b230 v1 v2 v3 v4 v5 v6 v7 v8 σ = some out) (k : dK E cX1_transform (some .int) out) : dG E σ 230 [v1, v2, v3, v4, v5, v6, v7, v8] [] := by
  unfold md_transform_b230 at h
  refine dg_iload hE dX1_transform_230 7 rfl rfl ?_
  refine dg_if_lt hE dX1_transform_232 (tgt := 285) (by decide) h (fun h => ?_) (fun h => ?_)
  · refine dg_goto hE dX1_transform_285 (tgt := 36) (by decide) ?_
    refine dg_drop (xs' := [v1, v2, v3]) (ys := [v4, v5, v6, v7, v8]) rfl ?_
    cases h
    exact k
  · refine dg_iload hE dX1_transform_235 6 rfl rfl ?_
    refine dg_aload0 hE dX1_transform_237 ?_
    refine md_gf0 hE dX1_transform_238 ?_
    refine dg_iload hE dX1_transform_241 7 rfl rfl ?_
    refine md_ld0 hE dX1_transform_243 h (fun h => ?_)
    refine dg_ishr hE dX1_transform_244 ?_
    refine dg_iconst hE dX1_transform_245 (v := (1 : Int32)) (by decide) ?_
    refine dg_iand hE dX1_transform_246 ?_
    refine dg_if_ne hE dX1_transform_247 (tgt := 253) (by decide) h (fun h => ?_) (fun h => ?_)
    · refine dg_aload0 hE dX1_transform_253 ?_
      refine md_gf22 hE dX1_transform_254 ?_
      refine dg_iload_n hE dX1_transform_257 1 rfl rfl ?_
      refine dg_aload0 hE dX1_transform_258 ?_
      refine md_gf0 hE dX1_transform_259 ?_
      refine dg_iload hE dX1_transform_262 7 rfl rfl ?_
      refine md_ld0 hE dX1_transform_264 h (fun h => ?_)
      refine md_as22 hE dX1_transform_265 h (fun h => ?_)
      exact w_md_transform_b266 hE v1 v2 v3 v4 v5 v6 v7 v8 (up2 σ 22 v2.toNatClampNeg (σ 0 v8.toNatClampNeg)) h k
    · refine dg_goto hE dX1_transform_250 (tgt := 279) (by decide) ?_
      exact w_md_transform_b279 hE v1 v2 v3 v4 v5 v6 v7 v8 σ h k
theorem w_md_transform_b222 {E : dEnv} {l : Launch} {G : dGeo} (hE : mdOk E l G cX1_transform 9 rmX1_transform) (v1 v2 v3 v4 v5 v6 v7 : Int32) (σ : dS) {out} (h : md_transform_b222 v1 v2 v3 v4 v5 v6 v7 σ = some out) (k : dK E cX1_transform (some .int) out) : dG E σ 222 [v1, v2, v3, v4, v5, v6, v7] [] := by
  unfold md_transform_b222 at h
  refine dg_aload0 hE dX1_transform_222 ?_
  refine md_gf5 hE dX1_transform_223 ?_
  refine dg_iconst hE dX1_transform_226 (v := (1 : Int32)) (by decide) ?_
  refine dg_isub hE dX1_transform_227 ?_
  refine dg_istore hE dX1_transform_228 7 (xs' := [v1, v2, v3, v4, v5, v6, v7, ((σ 5 0) - (1 : Int32))]) rfl (Nat.le_of_ble_eq_true rfl) (by decide) rfl ?_
  cases h
  exact k
theorem w_md_transform_b214 {E : dEnv} {l : Launch} {G : dGeo} (hE : mdOk E l G cX1_transform 9 rmX1_transform) (v1 v2 v3 v4 v5 v6 : Int32) (σ : dS) {out} (h : md_transform_b214 v1 v2 v3 v4 v5 v6 σ = some out) (k : dK E cX1_transform (some .int) out) : dG E σ 214 [v1, v2, v3, v4, v5, v6] [] := by
  unfold md_transform_b214 at h
  refine dg_aload0 hE dX1_transform_214 ?_
  refine md_gf13 hE dX1_transform_215 ?_
  refine dg_iconst hE dX1_transform_218 (v := (0 : Int32)) (by decide) ?_
  refine md_ld13 hE dX1_transform_219 h (fun h => ?_)
  refine dg_istore hE dX1_transform_220 6 (xs' := [v1, v2, v3, v4, v5, v6, (σ 13 (0 : Int32).toNatClampNeg)]) rfl (Nat.le_of_ble_eq_true rfl) (by decide) rfl ?_
  exact w_md_transform_b222 hE v1 v2 v3 v4 v5 v6 (σ 13 (0 : Int32).toNatClampNeg) σ h k
theorem w_md_transform_b198 {E : dEnv} {l : Launch} {G : dGeo} (hE : mdOk E l G cX1_transform 9 rmX1_transform) (v1 v2 v3 v4 v5 v6 v7 s0 : Int32) (σ : dS) {out} (h : md_transform_b198 v1 v2 v3 v4 v5 v6 v7 s0 σ = some out) (k : dK E cX1_transform (some .int) out) : dG E σ 198 [v1, v2, v3, v4, v5, v6, v7] [.int s0] := by
  unfold md_transform_b198 at h
  refine dg_if_eq hE dX1_transform_198 (tgt := 222) (by decide) h (fun h => ?_) (fun h => ?_)
  · exact w_md_transform_b222 hE v1 v2 v3 v4 v5 v6 v7 σ h k
  · refine dg_aload0 hE dX1_transform_201 ?_
    refine dg_aload0 hE dX1_transform_202 ?_
    refine md_gf21 hE dX1_transform_203 ?_
    refine dg_iload hE dX1_transform_206 5 rfl rfl ?_
    refine md_ld21 hE dX1_transform_208 h (fun h => ?_)
    refine dg_iload hE dX1_transform_209 3 rfl rfl ?_
    refine md_ca_ask hE (by decide) dX1_transform_211 (Nat.le_of_ble_eq_true rfl) h (fun r_ h => ?_)
    refine dg_drop (xs' := [v1, v2, v3, v4, v5, v6]) (ys := [v7]) rfl ?_
    exact w_md_transform_b214 hE v1 v2 v3 v4 v5 v6 (r_.2) h k
theorem w_md_transform_b172 {E : dEnv} {l : Launch} {G : dGeo} (hE : mdOk E l G cX1_transform 9 rmX1_transform) (v1 v2 v3 v4 v5 v6 v7 : Int32) (σ : dS) {out} (h : md_transform_b172 v1 v2 v3 v4 v5 v6 v7 σ = some out) (k : dK E cX1_transform (some .int) out) : dG E σ 172 [v1, v2, v3, v4, v5, v6, v7] [] := by
  unfold md_transform_b172 at h
  refine dg_iload hE dX1_transform_172 5 rfl rfl ?_
  refine dg_if_lt hE dX1_transform_174 (tgt := 222) (by decide) h (fun h => ?_) (fun h => ?_)
  · exact w_md_transform_b222 hE v1 v2 v3 v4 v5 v6 v7 σ h k
  · refine dg_aload0 hE dX1_transform_177 ?_
    refine md_gf21 hE dX1_transform_178 ?_
    refine dg_iload hE dX1_transform_181 5 rfl rfl ?_
    refine md_ld21 hE dX1_transform_183 h (fun h => ?_)
    refine dg_if_lt hE dX1_transform_184 (tgt := 222) (by decide) h (fun h => ?_) (fun h => ?_)
    · exact w_md_transform_b222 hE v1 v2 v3 v4 v5 v6 v7 σ h k
    · refine dg_aload0 hE dX1_transform_187 ?_
      refine dg_aload0 hE dX1_transform_188 ?_
      refine md_gf21 hE dX1_transform_189 ?_
      refine dg_iload hE dX1_transform_192 5 rfl rfl ?_
      refine md_ld21 hE dX1_transform_194 h (fun h => ?_)
      refine md_ca_isSet hE (by decide) dX1_transform_195 (Nat.le_of_ble_eq_true rfl) h (fun r_ h => ?_)
      exact w_md_transform_b198 hE v1 v2 v3 v4 v5 v6 v7 (r_.1) (r_.2) h k
theorem w_md_transform_b171 {E : dEnv} {l : Launch} {G : dGeo} (hE : mdOk E l G cX1_transform 9 rmX1_transform) (v1 v2 v3 v4 v5 v6 v7 s0 s1 : Int32) (σ : dS) {out} (h : md_transform_b171 v1 v2 v3 v4 v5 v6 v7 s0 s1 σ = some out) (k : dK E cX1_transform (some .int) out) : dG E σ 171 [v1, v2, v3, v4, v5, v6, v7] [.int s0, .int s1, .ref (G.2.2.1 24)] := by
  unfold md_transform_b171 at h
  refine md_as24 hE dX1_transform_171 h (fun h => ?_)
  exact w_md_transform_b172 hE v1 v2 v3 v4 v5 v6 v7 (up2 σ 24 s1.toNatClampNeg s0) h k
theorem w_md_transform_b166 {E : dEnv} {l : Launch} {G : dGeo} (hE : mdOk E l G cX1_transform 9 rmX1_transform) (v1 v2 v3 v4 v5 v6 v7 s0 : Int32) (σ : dS) {out} (h : md_transform_b166 v1 v2 v3 v4 v5 v6 v7 s0 σ = some out) (k : dK E cX1_transform (some .int) out) : dG E σ 166 [v1, v2, v3, v4, v5, v6, v7] [.int s0, .ref (G.2.2.1 24)] := by
  unfold md_transform_b166 at h
  refine dg_aload0 hE dX1_transform_166 ?_
  refine dg_iconst hE dX1_transform_167 (v := (0 : Int32)) (by decide) ?_
  refine md_ca_plain hE (by decide) dX1_transform_168 (Nat.le_of_ble_eq_true rfl) h (fun r_ h => ?_)
  exact w_md_transform_b171 hE v1 v2 v3 v4 v5 v6 v7 (r_.1) s0 (r_.2) h k
theorem w_md_transform_b151 {E : dEnv} {l : Launch} {G : dGeo} (hE : mdOk E l G cX1_transform 9 rmX1_transform) (v1 v2 v3 v4 v5 v6 v7 : Int32) (σ : dS) {out} (h : md_transform_b151 v1 v2 v3 v4 v5 v6 v7 σ = some out) (k : dK E cX1_transform (some .int) out) : dG E σ 151 [v1, v2, v3, v4, v5, v6, v7] [] := by
  unfold md_transform_b151 at h
  refine dg_aload0 hE dX1_transform_151 ?_
  refine md_gf24 hE dX1_transform_152 ?_
  refine dg_aload0 hE dX1_transform_155 ?_
  refine dg_dup hE dX1_transform_156 rfl ?_
  refine md_gf25 hE dX1_transform_157 ?_
  refine dg_dup_x1 hE dX1_transform_160 rfl rfl ?_
  refine dg_iconst hE dX1_transform_161 (v := (1 : Int32)) (by decide) ?_
  refine dg_iadd hE dX1_transform_162 ?_
  refine md_pf25 hE dX1_transform_163 ?_
  exact w_md_transform_b166 hE v1 v2 v3 v4 v5 v6 v7 (σ 25 0) (up2 σ 25 0 ((σ 25 0) + (1 : Int32))) h k
theorem w_md_transform_b106 {E : dEnv} {l : Launch} {G : dGeo} (hE : mdOk E l G cX1_transform 9 rmX1_transform) (v1 v2 v3 v4 v5 v6 s0 : Int32) (σ : dS) {out} (h : md_transform_b106 v1 v2 v3 v4 v5 v6 s0 σ = some out) (k : dK E cX1_transform (some .int) out) : dG E σ 106 [v1, v2, v3, v4, v5, v6] [.int s0] := by
  unfold md_transform_b106 at h
  refine dg_istore hE dX1_transform_106 6 (xs' := [v1, v2, v3, v4, v5, v6, s0]) rfl (Nat.le_of_ble_eq_true rfl) (by decide) rfl ?_
  refine dg_iload hE dX1_transform_108 5 rfl rfl ?_
  refine dg_if_lt hE dX1_transform_110 (tgt := 172) (by decide) h (fun h => ?_) (fun h => ?_)
  · exact w_md_transform_b172 hE v1 v2 v3 v4 v5 v6 s0 σ h k
  · refine dg_aload0 hE dX1_transform_113 ?_
    refine md_gf20 hE dX1_transform_114 ?_
    refine dg_iload hE dX1_transform_117 5 rfl rfl ?_
    refine md_ld20 hE dX1_transform_119 h (fun h => ?_)
    refine dg_if_lt hE dX1_transform_120 (tgt := 172) (by decide) h (fun h => ?_) (fun h => ?_)
    · exact w_md_transform_b172 hE v1 v2 v3 v4 v5 v6 s0 σ h k
    · refine dg_aload0 hE dX1_transform_123 ?_
      refine md_gf8 hE dX1_transform_124 ?_
      refine dg_aload0 hE dX1_transform_127 ?_
      refine md_gf20 hE dX1_transform_128 ?_
      refine dg_iload hE dX1_transform_131 5 rfl rfl ?_
      refine md_ld20 hE dX1_transform_133 h (fun h => ?_)
      refine md_ld8 hE dX1_transform_134 h (fun h => ?_)
      refine dg_if_le hE dX1_transform_135 (tgt := 172) (by decide) h (fun h => ?_) (fun h => ?_)
      · exact w_md_transform_b172 hE v1 v2 v3 v4 v5 v6 s0 σ h k
      · refine dg_aload0 hE dX1_transform_138 ?_
        refine dg_aload0 hE dX1_transform_139 ?_
        refine md_gf20 hE dX1_transform_140 ?_
        refine dg_iload hE dX1_transform_143 5 rfl rfl ?_
        refine md_ld20 hE dX1_transform_145 h (fun h => ?_)
        refine dg_iload hE dX1_transform_146 3 rfl rfl ?_
        refine md_ca_ask hE (by decide) dX1_transform_148 (Nat.le_of_ble_eq_true rfl) h (fun r_ h => ?_)
        exact w_md_transform_b151 hE v1 v2 v3 v4 v5 v6 s0 (r_.2) h k
theorem w_md_transform_b89 {E : dEnv} {l : Launch} {G : dGeo} (hE : mdOk E l G cX1_transform 9 rmX1_transform) (v1 v2 v3 v4 v5 s0 : Int32) (σ : dS) {out} (h : md_transform_b89 v1 v2 v3 v4 v5 s0 σ = some out) (k : dK E cX1_transform (some .int) out) : dG E σ 89 [v1, v2, v3, v4, v5] [.int s0] := by
  unfold md_transform_b89 at h
  refine dg_istore hE dX1_transform_89 5 (xs' := [v1, v2, v3, v4, v5, s0]) rfl (Nat.le_of_ble_eq_true rfl) (by decide) rfl ?_
  refine dg_iload hE dX1_transform_91 5 rfl rfl ?_
  refine dg_if_ge hE dX1_transform_93 (tgt := 105) (by decide) h (fun h => ?_) (fun h => ?_)
  · refine dg_iconst hE dX1_transform_105 (v := (0 : Int32)) (by decide) ?_
    exact w_md_transform_b106 hE v1 v2 v3 v4 v5 s0 (0 : Int32) σ h k
  · refine dg_aload0 hE dX1_transform_96 ?_
    refine dg_iload hE dX1_transform_97 3 rfl rfl ?_
    refine md_ca_childrenOf hE (by decide) dX1_transform_99 (Nat.le_of_ble_eq_true rfl) h (fun r_ h => ?_)
    refine dg_goto hE dX1_transform_102 (tgt := 106) (by decide) ?_
    exact w_md_transform_b106 hE v1 v2 v3 v4 v5 s0 (r_.1) (r_.2) h k
theorem w_md_transform_b80 {E : dEnv} {l : Launch} {G : dGeo} (hE : mdOk E l G cX1_transform 9 rmX1_transform) (σ : dS) {out} (h : md_transform_b80 σ = some out) (k : dK E cX1_transform (some .int) out) : dG E σ 80 [] [] := by
  unfold md_transform_b80 at h
  refine dg_bipush hE dX1_transform_80 (v := (-3 : Int32)) (by decide) ?_
  cases h
  exact k rfl _ _ dX1_transform_82
theorem w_md_transform_b75 {E : dEnv} {l : Launch} {G : dGeo} (hE : mdOk E l G cX1_transform 9 rmX1_transform) (σ : dS) {out} (h : md_transform_b75 σ = some out) (k : dK E cX1_transform (some .int) out) : dG E σ 75 [] [] := by
  unfold md_transform_b75 at h
  refine dg_aload0 hE dX1_transform_75 ?_
  refine dg_iconst hE dX1_transform_76 (v := (0 : Int32)) (by decide) ?_
  refine md_pf25 hE dX1_transform_77 ?_
  exact w_md_transform_b80 hE (up2 σ 25 0 (0 : Int32)) h k
theorem w_md_transform_b59 {E : dEnv} {l : Launch} {G : dGeo} (hE : mdOk E l G cX1_transform 9 rmX1_transform) (v1 v2 v3 v4 v5 : Int32) (σ : dS) {out} (h : md_transform_b59 v1 v2 v3 v4 v5 σ = some out) (k : dK E cX1_transform (some .int) out) : dG E σ 59 [v1, v2, v3, v4, v5] [] := by
  unfold md_transform_b59 at h
  refine dg_iinc hE dX1_transform_59 2 (xs' := [v1, v2, (v3 + (1 : Int32)), v4, v5]) rfl rfl (by decide) rfl ?_
  refine dg_iload_n hE dX1_transform_62 2 rfl rfl ?_
  refine dg_bipush hE dX1_transform_63 (v := (100 : Int32)) (by decide) ?_
  refine dg_icmp_gt hE dX1_transform_65 (tgt := 75) (by decide) h (fun h => ?_) (fun h => ?_)
  · refine dg_drop (xs' := []) (ys := [v1, v2, (v3 + (1 : Int32)), v4, v5]) rfl ?_
    exact w_md_transform_b75 hE σ h k
  · refine dg_iload hE dX1_transform_68 4 rfl rfl ?_
    refine dg_bipush hE dX1_transform_70 (v := (11 : Int32)) (by decide) ?_
    refine dg_icmp_le hE dX1_transform_72 (tgt := 83) (by decide) h (fun h => ?_) (fun h => ?_)
    · refine dg_aload0 hE dX1_transform_83 ?_
      refine dg_iload hE dX1_transform_84 3 rfl rfl ?_
      refine md_ca_best hE (by decide) dX1_transform_86 (Nat.le_of_ble_eq_true rfl) h (fun r_ h => ?_)
      exact w_md_transform_b89 hE v1 v2 (v3 + (1 : Int32)) v4 v5 (r_.1) (r_.2) h k
    · refine dg_drop (xs' := []) (ys := [v1, v2, (v3 + (1 : Int32)), v4, v5]) rfl ?_
      exact w_md_transform_b75 hE σ h k
theorem w_md_transform_b51 {E : dEnv} {l : Launch} {G : dGeo} (hE : mdOk E l G cX1_transform 9 rmX1_transform) (v1 v2 v3 v4 : Int32) (σ : dS) {out} (h : md_transform_b51 v1 v2 v3 v4 σ = some out) (k : dK E cX1_transform (some .int) out) : dG E σ 51 [v1, v2, v3, v4] [] := by
  unfold md_transform_b51 at h
  refine dg_aload0 hE dX1_transform_51 ?_
  refine md_gf23 hE dX1_transform_52 ?_
  refine dg_iload_n hE dX1_transform_55 1 rfl rfl ?_
  refine md_ld23 hE dX1_transform_56 h (fun h => ?_)
  refine dg_istore hE dX1_transform_57 4 (xs' := [v1, v2, v3, v4, (σ 23 v2.toNatClampNeg)]) rfl (Nat.le_of_ble_eq_true rfl) (by decide) rfl ?_
  exact w_md_transform_b59 hE v1 v2 v3 v4 (σ 23 v2.toNatClampNeg) σ h k
theorem w_md_transform_b36 {E : dEnv} {l : Launch} {G : dGeo} (hE : mdOk E l G cX1_transform 9 rmX1_transform) (v1 v2 v3 : Int32) (σ : dS) {out} (h : md_transform_b36 v1 v2 v3 σ = some out) (k : dK E cX1_transform (some .int) out) : dG E σ 36 [v1, v2, v3] [] := by
  unfold md_transform_b36 at h
  refine dg_iload_n hE dX1_transform_36 1 rfl rfl ?_
  refine dg_if_le hE dX1_transform_37 (tgt := 288) (by decide) h (fun h => ?_) (fun h => ?_)
  · refine dg_aload0 hE dX1_transform_288 ?_
    refine md_gf25 hE dX1_transform_289 ?_
    cases h
    exact k rfl _ _ dX1_transform_292
  · refine dg_iinc hE dX1_transform_40 1 (xs' := [v1, (v2 + (-1 : Int32)), v3]) rfl rfl (by decide) rfl ?_
    refine dg_aload0 hE dX1_transform_43 ?_
    refine md_gf22 hE dX1_transform_44 ?_
    refine dg_iload_n hE dX1_transform_47 1 rfl rfl ?_
    refine md_ld22 hE dX1_transform_48 h (fun h => ?_)
    refine dg_istore hE dX1_transform_49 3 (xs' := [v1, (v2 + (-1 : Int32)), v3, (σ 22 (v2 + (-1 : Int32)).toNatClampNeg)]) rfl (Nat.le_of_ble_eq_true rfl) (by decide) rfl ?_
    exact w_md_transform_b51 hE v1 (v2 + (-1 : Int32)) v3 (σ 22 (v2 + (-1 : Int32)).toNatClampNeg) σ h k
theorem w_md_transform_b26 {E : dEnv} {l : Launch} {G : dGeo} (hE : mdOk E l G cX1_transform 9 rmX1_transform) (v1 v2 v3 : Int32) (σ : dS) {out} (h : md_transform_b26 v1 v2 v3 σ = some out) (k : dK E cX1_transform (some .int) out) : dG E σ 26 [v1, v2, v3] [] := by
  unfold md_transform_b26 at h
  refine dg_aload0 hE dX1_transform_26 ?_
  refine md_gf23 hE dX1_transform_27 ?_
  refine dg_iload_n hE dX1_transform_30 1 rfl rfl ?_
  refine dg_iinc hE dX1_transform_31 1 (xs' := [v1, (v2 + (1 : Int32)), v3]) rfl rfl (by decide) rfl ?_
  refine dg_iconst hE dX1_transform_34 (v := (0 : Int32)) (by decide) ?_
  refine md_as23 hE dX1_transform_35 h (fun h => ?_)
  cases h
  exact k
theorem w_md_transform_b15 {E : dEnv} {l : Launch} {G : dGeo} (hE : mdOk E l G cX1_transform 9 rmX1_transform) (v1 : Int32) (σ : dS) {out} (h : md_transform_b15 v1 σ = some out) (k : dK E cX1_transform (some .int) out) : dG E σ 15 [v1] [] := by
  unfold md_transform_b15 at h
  refine dg_iconst hE dX1_transform_15 (v := (0 : Int32)) (by decide) ?_
  refine dg_istore_n hE dX1_transform_16 1 (xs' := [v1, (0 : Int32)]) rfl (Nat.le_of_ble_eq_true rfl) (by decide) rfl ?_
  refine dg_iconst hE dX1_transform_17 (v := (0 : Int32)) (by decide) ?_
  refine dg_istore_n hE dX1_transform_18 2 (xs' := [v1, (0 : Int32), (0 : Int32)]) rfl (Nat.le_of_ble_eq_true rfl) (by decide) rfl ?_
  refine dg_aload0 hE dX1_transform_19 ?_
  refine md_gf22 hE dX1_transform_20 ?_
  refine dg_iload_n hE dX1_transform_23 1 rfl rfl ?_
  refine dg_iload_n hE dX1_transform_24 0 rfl rfl ?_
  refine md_as22 hE dX1_transform_25 h (fun h => ?_)
  exact w_md_transform_b26 hE v1 (0 : Int32) (0 : Int32) (up2 σ 22 (0 : Int32).toNatClampNeg v1) h k
theorem w_md_transform_b5 {E : dEnv} {l : Launch} {G : dGeo} (hE : mdOk E l G cX1_transform 9 rmX1_transform) (v1 s0 : Int32) (σ : dS) {out} (h : md_transform_b5 v1 s0 σ = some out) (k : dK E cX1_transform (some .int) out) : dG E σ 5 [v1] [.int s0] := by
  unfold md_transform_b5 at h
  refine dg_if_ge hE dX1_transform_5 (tgt := 10) (by decide) h (fun h => ?_) (fun h => ?_)
  · refine dg_aload0 hE dX1_transform_10 ?_
    refine dg_iconst hE dX1_transform_11 (v := (0 : Int32)) (by decide) ?_
    refine md_pf25 hE dX1_transform_12 ?_
    exact w_md_transform_b15 hE v1 (up2 σ 25 0 (0 : Int32)) h k
  · refine dg_iconst hE dX1_transform_8 (v := (-1 : Int32)) (by decide) ?_
    cases h
    exact k rfl _ _ dX1_transform_9
theorem w_md_transform_b0 {E : dEnv} {l : Launch} {G : dGeo} (hE : mdOk E l G cX1_transform 9 rmX1_transform) (v1 : Int32) (σ : dS) {out} (h : md_transform_b0 v1 σ = some out) (k : dK E cX1_transform (some .int) out) : dG E σ 0 [v1] [] := by
  unfold md_transform_b0 at h
  refine dg_aload0 hE dX1_transform_0 ?_
  refine dg_iload_n hE dX1_transform_1 0 rfl rfl ?_
  refine md_ca_where hE (by decide) dX1_transform_2 (Nat.le_of_ble_eq_true rfl) h (fun r_ h => ?_)
  exact w_md_transform_b5 hE v1 (r_.1) (r_.2) h k
theorem w_md_transform_st {E : dEnv} {l : Launch} {G : dGeo} (hE : mdOk E l G cX1_transform 9 rmX1_transform) (a : Nat × List Int32 × dS) {out} (h : md_transform_st a = some out) (k : dK E cX1_transform (some .int) out) : dG E a.2.2 a.1 a.2.1 [] := by
  obtain ⟨L, xs, σ⟩ := a
  unfold md_transform_st at h
  dsimp only at h ⊢
  by_cases c_ : L = 36
  · subst c_
    rw [if_pos rfl] at h
    match xs, h with
    | [x0, x1, x2], h => exact w_md_transform_b36 hE x0 x1 x2 σ h k
    | [], h => cases h
    | [_], h => cases h
    | [_, _], h => cases h
    | _ :: _ :: _ :: _ :: _, h => cases h
  rw [if_neg c_] at h
  by_cases c_ : L = 230
  · subst c_
    rw [if_pos rfl] at h
    match xs, h with
    | [x0, x1, x2, x3, x4, x5, x6, x7], h => exact w_md_transform_b230 hE x0 x1 x2 x3 x4 x5 x6 x7 σ h k
    | [], h => cases h
    | [_], h => cases h
    | [_, _], h => cases h
    | [_, _, _], h => cases h
    | [_, _, _, _], h => cases h
    | [_, _, _, _, _], h => cases h
    | [_, _, _, _, _, _], h => cases h
    | [_, _, _, _, _, _, _], h => cases h
    | _ :: _ :: _ :: _ :: _ :: _ :: _ :: _ :: _ :: _, h => cases h
  rw [if_neg c_] at h
  cases h
theorem met_md_transform (l : Launch) (G : dGeo) (sz : Nat) (v1 : Int32) (σ : dS) {r : Int32 × dS} (h : md_transform v1 σ = some r) : Met l yX1_transform (ws_ yX1_transform cX1_transform 9 (some .int)) rmX1_transform (dPc G.1 (md_ty G) (md_w G σ) sz [.ref G.2.1, .int v1]) (dQi G.1 (md_ty G) (md_w G σ) (md_w G r.2) sz r.1) 0 0 (va_A (md_w G σ) sz) := by
  refine dMet_i (w := md_w G) (σ := σ) (σ' := r.2) (th := [(0, .ref G.2.1)]) (b := 1) (xs := [v1]) (by decide) rfl rfl (Nat.le_of_ble_eq_true rfl) dth (fun E hE k => ?_)
  unfold md_transform at h
  obtain ⟨out, h1, h2⟩ := lpB_some h
  exact w_md_transform_b0 hE v1 σ h1 (dK_lp (fun a out => w_md_transform_st hE a) h2 k)
abbrev rmX1_output : Room := { frames := 1, cells := 0, slots := 0, locals := 22 }
theorem w_md_output_b11 {E : dEnv} {l : Launch} {G : dGeo} (hE : mdOk E l G cX1_output 2 rmX1_output) (v1 s0 : Int32) (σ : dS) {out} (h : md_output_b11 v1 s0 σ = some out) (k : dR E cX1_output (some .int) out) : dG E σ 11 [v1] [.int s0] := by
  unfold md_output_b11 at h
  refine dg_if_eq hE dX1_output_11 (tgt := 23) (by decide) h (fun h => ?_) (fun h => ?_)
  · refine dg_iconst hE dX1_output_23 (v := (0 : Int32)) (by decide) ?_
    cases h
    exact k rfl _ _ dX1_output_24
  · refine dg_aload0 hE dX1_output_14 ?_
    refine md_gf24 hE dX1_output_15 ?_
    refine dg_iload_n hE dX1_output_18 0 rfl rfl ?_
    refine md_ld24 hE dX1_output_19 h (fun h => ?_)
    refine dg_goto hE dX1_output_20 (tgt := 24) (by decide) ?_
    cases h
    exact k rfl _ _ dX1_output_24
theorem w_md_output_b0 {E : dEnv} {l : Launch} {G : dGeo} (hE : mdOk E l G cX1_output 2 rmX1_output) (v1 : Int32) (σ : dS) {out} (h : md_output_b0 v1 σ = some out) (k : dR E cX1_output (some .int) out) : dG E σ 0 [v1] [] := by
  unfold md_output_b0 at h
  refine dg_iload_n hE dX1_output_0 0 rfl rfl ?_
  refine dg_iconst hE dX1_output_1 (v := (0 : Int32)) (by decide) ?_
  refine dg_aload0 hE dX1_output_2 ?_
  refine md_gf25 hE dX1_output_3 ?_
  refine dg_iconst hE dX1_output_6 (v := (1 : Int32)) (by decide) ?_
  refine dg_isub hE dX1_output_7 ?_
  refine md_ca_in hE (by decide) dX1_output_8 (Nat.le_of_ble_eq_true rfl) h (fun r_ h => ?_)
  exact w_md_output_b11 hE v1 r_ σ h k
theorem met_md_output (l : Launch) (G : dGeo) (sz : Nat) (v1 : Int32) (σ : dS) {r : Int32 × dS} (h : md_output v1 σ = some r) : Met l yX1_output (ws_ yX1_output cX1_output 2 (some .int)) rmX1_output (dPc G.1 (md_ty G) (md_w G σ) sz [.ref G.2.1, .int v1]) (dQi G.1 (md_ty G) (md_w G σ) (md_w G r.2) sz r.1) 0 0 (va_A (md_w G σ) sz) := by
  refine dMet_i (w := md_w G) (σ := σ) (σ' := r.2) (th := [(0, .ref G.2.1)]) (b := 1) (xs := [v1]) (by decide) rfl rfl (Nat.le_of_ble_eq_true rfl) dth (fun E hE k => ?_)
  unfold md_output at h
  exact w_md_output_b0 hE v1 σ h k
