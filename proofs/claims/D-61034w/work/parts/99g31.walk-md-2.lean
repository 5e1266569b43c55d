set_option maxRecDepth 100000
abbrev rmX1_token : Room := { frames := 1, cells := 0, slots := 0, locals := 22 }
theorem w_md_token_b128 {E : dEnv} {l : Launch} {G : dGeo} (hE : mdOk E l G cX1_token 4 rmX1_token) (σ : dS) {out} (h : md_token_b128 σ = some out) (k : dR E cX1_token (some .int) out) : dG E σ 128 [] [] := by
  unfold md_token_b128 at h
  refine dg_aload0 hE dX1_token_128 ?_
  refine md_gf8 hE dX1_token_129 ?_
  refine dg_bipush hE dX1_token_132 (v := (8 : Int32)) (by decide) ?_
  refine md_ld8 hE dX1_token_134 h (fun h => ?_)
  cases h
  exact k rfl _ _ dX1_token_135
theorem w_md_token_b117 {E : dEnv} {l : Launch} {G : dGeo} (hE : mdOk E l G cX1_token 4 rmX1_token) (σ : dS) {out} (h : md_token_b117 σ = some out) (k : dR E cX1_token (some .int) out) : dG E σ 117 [] [] := by
  unfold md_token_b117 at h
  refine dg_aload0 hE dX1_token_117 ?_
  refine md_gf8 hE dX1_token_118 ?_
  refine dg_bipush hE dX1_token_121 (v := (8 : Int32)) (by decide) ?_
  refine dg_dup2 hE dX1_token_123 rfl rfl ?_
  refine md_ld8 hE dX1_token_124 h (fun h => ?_)
  refine dg_iconst hE dX1_token_125 (v := (1 : Int32)) (by decide) ?_
  refine dg_iadd hE dX1_token_126 ?_
  refine md_as8 hE dX1_token_127 h (fun h => ?_)
  exact w_md_token_b128 hE (up2 σ 8 (8 : Int32).toNatClampNeg ((σ 8 (8 : Int32).toNatClampNeg) + (1 : Int32))) h k
theorem w_md_token_b100 {E : dEnv} {l : Launch} {G : dGeo} (hE : mdOk E l G cX1_token 4 rmX1_token) (v1 v2 : Int32) (σ : dS) {out} (h : md_token_b100 v1 v2 σ = some out) (k : dR E cX1_token (some .int) out) : dG E σ 100 [v1, v2] [] := by
  unfold md_token_b100 at h
  refine dg_aload0 hE dX1_token_100 ?_
  refine md_gf7 hE dX1_token_101 ?_
  refine dg_sipush hE dX1_token_104 (v := (320 : Int32)) (by decide) ?_
  refine dg_aload0 hE dX1_token_107 ?_
  refine md_gf8 hE dX1_token_108 ?_
  refine dg_bipush hE dX1_token_111 (v := (8 : Int32)) (by decide) ?_
  refine md_ld8 hE dX1_token_113 h (fun h => ?_)
  refine dg_iadd hE dX1_token_114 ?_
  refine dg_iload_n hE dX1_token_115 1 rfl rfl ?_
  refine md_as7 hE dX1_token_116 h (fun h => ?_)
  refine dg_drop (xs' := []) (ys := [v1, v2]) rfl ?_
  exact w_md_token_b117 hE (up2 σ 7 ((320 : Int32) + (σ 8 (8 : Int32).toNatClampNeg)).toNatClampNeg v2) h k
theorem w_md_token_b62 {E : dEnv} {l : Launch} {G : dGeo} (hE : mdOk E l G cX1_token 4 rmX1_token) (v1 v2 v3 s0 : Int32) (σ : dS) {out} (h : md_token_b62 v1 v2 v3 s0 σ = some out) (k : dR E cX1_token (some .int) out) : dG E σ 62 [v1, v2, v3] [.int s0] := by
  unfold md_token_b62 at h
  refine dg_if_eq hE dX1_token_62 (tgt := 81) (by decide) h (fun h => ?_) (fun h => ?_)
  · refine dg_iconst hE dX1_token_81 (v := (-1 : Int32)) (by decide) ?_
    cases h
    exact k rfl _ _ dX1_token_82
  · refine dg_iload_n hE dX1_token_65 2 rfl rfl ?_
    refine dg_if_eq hE dX1_token_66 (tgt := 81) (by decide) h (fun h => ?_) (fun h => ?_)
    · refine dg_iconst hE dX1_token_81 (v := (-1 : Int32)) (by decide) ?_
      cases h
      exact k rfl _ _ dX1_token_82
    · refine dg_aload0 hE dX1_token_69 ?_
      refine md_gf8 hE dX1_token_70 ?_
      refine dg_bipush hE dX1_token_73 (v := (8 : Int32)) (by decide) ?_
      refine md_ld8 hE dX1_token_75 h (fun h => ?_)
      refine dg_bipush hE dX1_token_76 (v := (40 : Int32)) (by decide) ?_
      refine dg_icmp_ne hE dX1_token_78 (tgt := 83) (by decide) h (fun h => ?_) (fun h => ?_)
      · refine dg_aload0 hE dX1_token_83 ?_
        refine md_gf6 hE dX1_token_84 ?_
        refine dg_sipush hE dX1_token_87 (v := (320 : Int32)) (by decide) ?_
        refine dg_aload0 hE dX1_token_90 ?_
        refine md_gf8 hE dX1_token_91 ?_
        refine dg_bipush hE dX1_token_94 (v := (8 : Int32)) (by decide) ?_
        refine md_ld8 hE dX1_token_96 h (fun h => ?_)
        refine dg_iadd hE dX1_token_97 ?_
        refine dg_iload_n hE dX1_token_98 0 rfl rfl ?_
        refine md_as6 hE dX1_token_99 h (fun h => ?_)
        refine dg_drop (xs' := [v1, v2]) (ys := [v3]) rfl ?_
        exact w_md_token_b100 hE v1 v2 (up2 σ 6 ((320 : Int32) + (σ 8 (8 : Int32).toNatClampNeg)).toNatClampNeg v1) h k
      · refine dg_iconst hE dX1_token_81 (v := (-1 : Int32)) (by decide) ?_
        cases h
        exact k rfl _ _ dX1_token_82
theorem w_md_token_b54 {E : dEnv} {l : Launch} {G : dGeo} (hE : mdOk E l G cX1_token 4 rmX1_token) (v1 v2 s0 : Int32) (σ : dS) {out} (h : md_token_b54 v1 v2 s0 σ = some out) (k : dR E cX1_token (some .int) out) : dG E σ 54 [v1, v2] [.int s0] := by
  unfold md_token_b54 at h
  refine dg_istore_n hE dX1_token_54 2 (xs' := [v1, v2, s0]) rfl (Nat.le_of_ble_eq_true rfl) (by decide) rfl ?_
  refine dg_iload_n hE dX1_token_55 0 rfl rfl ?_
  refine dg_iconst hE dX1_token_56 (v := (0 : Int32)) (by decide) ?_
  refine dg_bipush hE dX1_token_57 (v := (17 : Int32)) (by decide) ?_
  refine md_ca_in hE (by decide) dX1_token_59 (Nat.le_of_ble_eq_true rfl) h (fun r_ h => ?_)
  exact w_md_token_b62 hE v1 v2 s0 r_ σ h k
theorem w_md_token_b53 {E : dEnv} {l : Launch} {G : dGeo} (hE : mdOk E l G cX1_token 4 rmX1_token) (v1 v2 : Int32) (σ : dS) {out} (h : md_token_b53 v1 v2 σ = some out) (k : dR E cX1_token (some .int) out) : dG E σ 53 [v1, v2] [] := by
  unfold md_token_b53 at h
  refine dg_iconst hE dX1_token_53 (v := (0 : Int32)) (by decide) ?_
  exact w_md_token_b54 hE v1 v2 (0 : Int32) σ h k
theorem w_md_token_b49 {E : dEnv} {l : Launch} {G : dGeo} (hE : mdOk E l G cX1_token 4 rmX1_token) (v1 v2 : Int32) (σ : dS) {out} (h : md_token_b49 v1 v2 σ = some out) (k : dR E cX1_token (some .int) out) : dG E σ 49 [v1, v2] [] := by
  unfold md_token_b49 at h
  refine dg_iconst hE dX1_token_49 (v := (1 : Int32)) (by decide) ?_
  refine dg_goto hE dX1_token_50 (tgt := 54) (by decide) ?_
  exact w_md_token_b54 hE v1 v2 (1 : Int32) σ h k
theorem w_md_token_b46 {E : dEnv} {l : Launch} {G : dGeo} (hE : mdOk E l G cX1_token 4 rmX1_token) (v1 v2 s0 : Int32) (σ : dS) {out} (h : md_token_b46 v1 v2 s0 σ = some out) (k : dR E cX1_token (some .int) out) : dG E σ 46 [v1, v2] [.int s0] := by
  unfold md_token_b46 at h
  refine dg_if_eq hE dX1_token_46 (tgt := 53) (by decide) h (fun h => ?_) (fun h => ?_)
  · exact w_md_token_b53 hE v1 v2 σ h k
  · exact w_md_token_b49 hE v1 v2 σ h k
theorem w_md_token_b34 {E : dEnv} {l : Launch} {G : dGeo} (hE : mdOk E l G cX1_token 4 rmX1_token) (v1 v2 s0 : Int32) (σ : dS) {out} (h : md_token_b34 v1 v2 s0 σ = some out) (k : dR E cX1_token (some .int) out) : dG E σ 34 [v1, v2] [.int s0] := by
  unfold md_token_b34 at h
  refine dg_if_eq hE dX1_token_34 (tgt := 53) (by decide) h (fun h => ?_) (fun h => ?_)
  · exact w_md_token_b53 hE v1 v2 σ h k
  · refine dg_iload_n hE dX1_token_37 1 rfl rfl ?_
    refine dg_bipush hE dX1_token_38 (v := (7 : Int32)) (by decide) ?_
    refine dg_ishr hE dX1_token_40 ?_
    refine dg_iconst hE dX1_token_41 (v := (0 : Int32)) (by decide) ?_
    refine dg_iconst hE dX1_token_42 (v := (2 : Int32)) (by decide) ?_
    refine md_ca_in hE (by decide) dX1_token_43 (Nat.le_of_ble_eq_true rfl) h (fun r_ h => ?_)
    exact w_md_token_b46 hE v1 v2 r_ σ h k
theorem w_md_token_b19 {E : dEnv} {l : Launch} {G : dGeo} (hE : mdOk E l G cX1_token 4 rmX1_token) (v1 v2 s0 : Int32) (σ : dS) {out} (h : md_token_b19 v1 v2 s0 σ = some out) (k : dR E cX1_token (some .int) out) : dG E σ 19 [v1, v2] [.int s0] := by
  unfold md_token_b19 at h
  refine dg_if_eq hE dX1_token_19 (tgt := 53) (by decide) h (fun h => ?_) (fun h => ?_)
  · exact w_md_token_b53 hE v1 v2 σ h k
  · refine dg_iload_n hE dX1_token_22 1 rfl rfl ?_
    refine dg_iconst hE dX1_token_23 (v := (4 : Int32)) (by decide) ?_
    refine dg_ishr hE dX1_token_24 ?_
    refine dg_bipush hE dX1_token_25 (v := (7 : Int32)) (by decide) ?_
    refine dg_iand hE dX1_token_27 ?_
    refine dg_iconst hE dX1_token_28 (v := (0 : Int32)) (by decide) ?_
    refine dg_bipush hE dX1_token_29 (v := (6 : Int32)) (by decide) ?_
    refine md_ca_in hE (by decide) dX1_token_31 (Nat.le_of_ble_eq_true rfl) h (fun r_ h => ?_)
    exact w_md_token_b34 hE v1 v2 r_ σ h k
theorem w_md_token_b0 {E : dEnv} {l : Launch} {G : dGeo} (hE : mdOk E l G cX1_token 4 rmX1_token) (v1 v2 : Int32) (σ : dS) {out} (h : md_token_b0 v1 v2 σ = some out) (k : dR E cX1_token (some .int) out) : dG E σ 0 [v1, v2] [] := by
  unfold md_token_b0 at h
  refine dg_iload_n hE dX1_token_0 0 rfl rfl ?_
  refine dg_iconst hE dX1_token_1 (v := (2 : Int32)) (by decide) ?_
  refine dg_icmp_ne hE dX1_token_2 (tgt := 49) (by decide) h (fun h => ?_) (fun h => ?_)
  · exact w_md_token_b49 hE v1 v2 σ h k
  · refine dg_iload_n hE dX1_token_5 1 rfl rfl ?_
    refine dg_if_lt hE dX1_token_6 (tgt := 53) (by decide) h (fun h => ?_) (fun h => ?_)
    · exact w_md_token_b53 hE v1 v2 σ h k
    · refine dg_iload_n hE dX1_token_9 1 rfl rfl ?_
      refine dg_bipush hE dX1_token_10 (v := (15 : Int32)) (by decide) ?_
      refine dg_iand hE dX1_token_12 ?_
      refine dg_iconst hE dX1_token_13 (v := (0 : Int32)) (by decide) ?_
      refine dg_bipush hE dX1_token_14 (v := (10 : Int32)) (by decide) ?_
      refine md_ca_in hE (by decide) dX1_token_16 (Nat.le_of_ble_eq_true rfl) h (fun r_ h => ?_)
      exact w_md_token_b19 hE v1 v2 r_ σ h k
theorem met_md_token (l : Launch) (G : dGeo) (sz : Nat) (v1 v2 : Int32) (σ : dS) {r : Int32 × dS} (h : md_token v1 v2 σ = some r) : Met l yX1_token (ws_ yX1_token cX1_token 4 (some .int)) rmX1_token (dPc G.1 (md_ty G) (md_w G σ) sz [.ref G.2.1, .int v1, .int v2]) (dQi G.1 (md_ty G) (md_w G σ) (md_w G r.2) sz r.1) 0 0 (va_A (md_w G σ) sz) := by
  refine dMet_i (w := md_w G) (σ := σ) (σ' := r.2) (th := [(0, .ref G.2.1)]) (b := 1) (xs := [v1, v2]) (by decide) rfl rfl (Nat.le_of_ble_eq_true rfl) dth (fun E hE k => ?_)
  unfold md_token at h
  exact w_md_token_b0 hE v1 v2 σ h k
abbrev rmX1_operands : Room := { frames := 0, cells := 0, slots := 0, locals := 0 }
theorem w_md_operands_b35 {E : dEnv} {l : Launch} {D : va_G} (hE : dsOk E l D cX1_operands RX1 2 rmX1_operands) (v0 : Int32) {σ : dS} {out} (h : md_operands_b35 v0 = some out) (k : dRs E cX1_operands (some .int) σ out) : dG E σ 35 [v0] [] := by
  unfold md_operands_b35 at h
  refine dg_iload_n hE dX1_operands_35 0 rfl rfl ?_
  refine dg_bipush hE dX1_operands_36 (v := (6 : Int32)) (by decide) ?_
  refine dg_icmp_le hE dX1_operands_38 (tgt := 45) (by decide) h (fun h => ?_) (fun h => ?_)
  · refine dg_iconst hE dX1_operands_45 (v := (0 : Int32)) (by decide) ?_
    cases h
    exact k rfl _ _ dX1_operands_46
  · refine dg_iconst hE dX1_operands_41 (v := (1 : Int32)) (by decide) ?_
    refine dg_goto hE dX1_operands_42 (tgt := 46) (by decide) ?_
    cases h
    exact k rfl _ _ dX1_operands_46
theorem w_md_operands_b31 {E : dEnv} {l : Launch} {D : va_G} (hE : dsOk E l D cX1_operands RX1 2 rmX1_operands) {σ : dS} {out} (h : md_operands_b31 = some out) (k : dRs E cX1_operands (some .int) σ out) : dG E σ 31 [] [] := by
  unfold md_operands_b31 at h
  refine dg_iconst hE dX1_operands_31 (v := (2 : Int32)) (by decide) ?_
  refine dg_goto hE dX1_operands_32 (tgt := 46) (by decide) ?_
  cases h
  exact k rfl _ _ dX1_operands_46
theorem w_md_operands_b0 {E : dEnv} {l : Launch} {D : va_G} (hE : dsOk E l D cX1_operands RX1 2 rmX1_operands) (v0 v1 : Int32) {σ : dS} {out} (h : md_operands_b0 v0 v1 = some out) (k : dRs E cX1_operands (some .int) σ out) : dG E σ 0 [v0, v1] [] := by
  unfold md_operands_b0 at h
  refine dg_iload_n hE dX1_operands_0 0 rfl rfl ?_
  refine dg_iconst hE dX1_operands_1 (v := (2 : Int32)) (by decide) ?_
  refine dg_icmp_ne hE dX1_operands_2 (tgt := 14) (by decide) h (fun h => ?_) (fun h => ?_)
  · refine dg_iload_n hE dX1_operands_14 0 rfl rfl ?_
    refine dg_iconst hE dX1_operands_15 (v := (3 : Int32)) (by decide) ?_
    refine dg_icmp_eq hE dX1_operands_16 (tgt := 31) (by decide) h (fun h => ?_) (fun h => ?_)
    · refine dg_drop (xs' := []) (ys := [v0, v1]) rfl ?_
      exact w_md_operands_b31 hE h k
    · refine dg_iload_n hE dX1_operands_19 0 rfl rfl ?_
      refine dg_bipush hE dX1_operands_20 (v := (9 : Int32)) (by decide) ?_
      refine dg_icmp_le hE dX1_operands_22 (tgt := 35) (by decide) h (fun h => ?_) (fun h => ?_)
      · refine dg_drop (xs' := [v0]) (ys := [v1]) rfl ?_
        exact w_md_operands_b35 hE v0 h k
      · refine dg_iload_n hE dX1_operands_25 0 rfl rfl ?_
        refine dg_bipush hE dX1_operands_26 (v := (17 : Int32)) (by decide) ?_
        refine dg_icmp_ge hE dX1_operands_28 (tgt := 35) (by decide) h (fun h => ?_) (fun h => ?_)
        · refine dg_drop (xs' := [v0]) (ys := [v1]) rfl ?_
          exact w_md_operands_b35 hE v0 h k
        · refine dg_drop (xs' := []) (ys := [v0, v1]) rfl ?_
          exact w_md_operands_b31 hE h k
  · refine dg_iconst hE dX1_operands_5 (v := (1 : Int32)) (by decide) ?_
    refine dg_iload_n hE dX1_operands_6 1 rfl rfl ?_
    refine dg_bipush hE dX1_operands_7 (v := (7 : Int32)) (by decide) ?_
    refine dg_ishr hE dX1_operands_9 ?_
    refine dg_iadd hE dX1_operands_10 ?_
    refine dg_goto hE dX1_operands_11 (tgt := 46) (by decide) ?_
    cases h
    exact k rfl _ _ dX1_operands_46
theorem met_md_operands (l : Launch) (D : va_G) (sz : Nat) (v0 v1 : Int32) {r : Int32} (h : md_operands v0 v1 = some r) : Met l yX1_operands (ws_ yX1_operands cX1_operands 2 (some .int)) rmX1_operands (dPc D [] [] sz [.int v0, .int v1]) (dQi D [] [] [] sz r) 0 0 (va_A [] sz) := by
  refine dMet_i (w := fun _ => []) (σ := fun _ _ => 0) (σ' := fun _ _ => 0) (th := []) (b := 0) (xs := [v0, v1]) (by decide) rfl rfl (Nat.le_of_ble_eq_true rfl) (fun q hq => by cases hq) (fun E hE k => ?_)
  unfold md_operands at h
  exact w_md_operands_b0 hE v0 v1 h k
theorem md_ca_operands {E : dEnv} {l : Launch} {D : va_G} {tys : List (ClassId × FieldType)} {w : dS → va_W} {th : List (Nat × Value)} {b : Nat} {cc : ByteArray} {nL pc : Nat} {R : Room} {σ : dS} {xs : List Int32} {st : List Value} {τ : Type} {g : Int32 → Option τ} {out : τ} {a0 a1 : Int32} (hE : dOk E cc RX1 l R nL D tys w th b) (hR : 0 + 1 ≤ R.frames ∧ 8 + (2 + 11) + 0 ≤ R.locals) (hd : decode cc pc = .ok (.invokestatic 103, 3)) (hs : (st.map fun v => v.category).sum ≤ 8) (h : Option.bind (md_operands a0 a1) g = some out) (k : ∀ r, g r = some out → dG E σ (pc + 3) xs (.int r :: st)) : dG E σ pc xs (.int a1 :: .int a0 :: st) := by
  obtain ⟨r, h1, h2⟩ := obind h
  exact dg_callS hE (As := [.int a0, .int a1]) (st := st) (rm := rmX1_operands) (fun sz => met_md_operands l D sz a0 a1 h1) (lw_S q502 q503 q51 q504) 2 rfl ⟨rfl, rfl⟩ (by decide +kernel) hR rfl hs hd (k r h2)
abbrev rmX1_typeOf : Room := { frames := 0, cells := 0, slots := 0, locals := 0 }
theorem w_md_typeOf_b0 {E : dEnv} {l : Launch} {D : va_G} (hE : dsOk E l D cX1_typeOf RX1 1 rmX1_typeOf) (v0 : Int32) {σ : dS} {out} (h : md_typeOf_b0 v0 = some out) (k : dRs E cX1_typeOf (some .int) σ out) : dG E σ 0 [v0] [] := by
  unfold md_typeOf_b0 at h
  refine dg_iload_n hE dX1_typeOf_0 0 rfl rfl ?_
  refine dg_iconst hE dX1_typeOf_1 (v := (4 : Int32)) (by decide) ?_
  refine dg_icmp_ge hE dX1_typeOf_2 (tgt := 9) (by decide) h (fun h => ?_) (fun h => ?_)
  · refine dg_iload_n hE dX1_typeOf_9 0 rfl rfl ?_
    refine dg_bipush hE dX1_typeOf_10 (v := (13 : Int32)) (by decide) ?_
    refine dg_icmp_ge hE dX1_typeOf_12 (tgt := 19) (by decide) h (fun h => ?_) (fun h => ?_)
    · refine dg_iconst hE dX1_typeOf_19 (v := (2 : Int32)) (by decide) ?_
      cases h
      exact k rfl _ _ dX1_typeOf_20
    · refine dg_iconst hE dX1_typeOf_15 (v := (1 : Int32)) (by decide) ?_
      refine dg_goto hE dX1_typeOf_16 (tgt := 20) (by decide) ?_
      cases h
      exact k rfl _ _ dX1_typeOf_20
  · refine dg_iconst hE dX1_typeOf_5 (v := (0 : Int32)) (by decide) ?_
    refine dg_goto hE dX1_typeOf_6 (tgt := 20) (by decide) ?_
    cases h
    exact k rfl _ _ dX1_typeOf_20
theorem met_md_typeOf (l : Launch) (D : va_G) (sz : Nat) (v0 : Int32) {r : Int32} (h : md_typeOf v0 = some r) : Met l yX1_typeOf (ws_ yX1_typeOf cX1_typeOf 1 (some .int)) rmX1_typeOf (dPc D [] [] sz [.int v0]) (dQi D [] [] [] sz r) 0 0 (va_A [] sz) := by
  refine dMet_i (w := fun _ => []) (σ := fun _ _ => 0) (σ' := fun _ _ => 0) (th := []) (b := 0) (xs := [v0]) (by decide) rfl rfl (Nat.le_of_ble_eq_true rfl) (fun q hq => by cases hq) (fun E hE k => ?_)
  unfold md_typeOf at h
  exact w_md_typeOf_b0 hE v0 h k
theorem md_ca_typeOf {E : dEnv} {l : Launch} {D : va_G} {tys : List (ClassId × FieldType)} {w : dS → va_W} {th : List (Nat × Value)} {b : Nat} {cc : ByteArray} {nL pc : Nat} {R : Room} {σ : dS} {xs : List Int32} {st : List Value} {τ : Type} {g : Int32 → Option τ} {out : τ} {a0 : Int32} (hE : dOk E cc RX1 l R nL D tys w th b) (hR : 0 + 1 ≤ R.frames ∧ 8 + (1 + 11) + 0 ≤ R.locals) (hd : decode cc pc = .ok (.invokestatic 109, 3)) (hs : (st.map fun v => v.category).sum ≤ 8) (h : Option.bind (md_typeOf a0) g = some out) (k : ∀ r, g r = some out → dG E σ (pc + 3) xs (.int r :: st)) : dG E σ pc xs (.int a0 :: st) := by
  obtain ⟨r, h1, h2⟩ := obind h
  exact dg_callS hE (As := [.int a0]) (st := st) (rm := rmX1_typeOf) (fun sz => met_md_typeOf l D sz a0 h1) (lw_S q505 q506 q51 q507) 1 rfl ⟨rfl, rfl⟩ (by decide +kernel) hR rfl hs hd (k r h2)
abbrev rmX1_isWhole : Room := { frames := 1, cells := 0, slots := 0, locals := 22 }
theorem w_md_isWhole_b199 {E : dEnv} {l : Launch} {G : dGeo} (hE : mdOk E l G cX1_isWhole 7 rmX1_isWhole) (v1 s0 s1 : Int32) (σ : dS) {out} (h : md_isWhole_b199 v1 s0 s1 σ = some out) (k : dK E cX1_isWhole (some .boolean) out) : dG E σ 199 [v1] [.int s0, .int s1, .ref (G.2.2.1 11)] := by
  unfold md_isWhole_b199 at h
  refine md_as11 hE dX1_isWhole_199 h (fun h => ?_)
  refine dg_iinc hE dX1_isWhole_200 0 (xs' := [(v1 + (-1 : Int32))]) rfl rfl (by decide) rfl ?_
  refine dg_goto hE dX1_isWhole_203 (tgt := 19) (by decide) ?_
  cases h
  exact k
theorem w_md_isWhole_b190 {E : dEnv} {l : Launch} {G : dGeo} (hE : mdOk E l G cX1_isWhole 7 rmX1_isWhole) (v1 s0 : Int32) (σ : dS) {out} (h : md_isWhole_b190 v1 s0 σ = some out) (k : dK E cX1_isWhole (some .boolean) out) : dG E σ 190 [v1] [.int s0, .ref (G.2.2.1 11)] := by
  unfold md_isWhole_b190 at h
  refine dg_aload0 hE dX1_isWhole_190 ?_
  refine md_gf6 hE dX1_isWhole_191 ?_
  refine dg_iload_n hE dX1_isWhole_194 0 rfl rfl ?_
  refine md_ld6 hE dX1_isWhole_195 h (fun h => ?_)
  refine md_ca_typeOf hE (by decide) dX1_isWhole_196 (Nat.le_of_ble_eq_true rfl) h (fun r_ h => ?_)
  exact w_md_isWhole_b199 hE v1 r_ s0 σ h k
theorem w_md_isWhole_b175 {E : dEnv} {l : Launch} {G : dGeo} (hE : mdOk E l G cX1_isWhole 7 rmX1_isWhole) (v1 : Int32) (σ : dS) {out} (h : md_isWhole_b175 v1 σ = some out) (k : dK E cX1_isWhole (some .boolean) out) : dG E σ 175 [v1] [] := by
  unfold md_isWhole_b175 at h
  refine dg_aload0 hE dX1_isWhole_175 ?_
  refine md_gf11 hE dX1_isWhole_176 ?_
  refine dg_aload0 hE dX1_isWhole_179 ?_
  refine dg_dup hE dX1_isWhole_180 rfl ?_
  refine md_gf15 hE dX1_isWhole_181 ?_
  refine dg_dup_x1 hE dX1_isWhole_184 rfl rfl ?_
  refine dg_iconst hE dX1_isWhole_185 (v := (1 : Int32)) (by decide) ?_
  refine dg_iadd hE dX1_isWhole_186 ?_
  refine md_pf15 hE dX1_isWhole_187 ?_
  exact w_md_isWhole_b190 hE v1 (σ 15 0) (up2 σ 15 0 ((σ 15 0) + (1 : Int32))) h k
theorem w_md_isWhole_b159 {E : dEnv} {l : Launch} {G : dGeo} (hE : mdOk E l G cX1_isWhole 7 rmX1_isWhole) (v1 v2 v3 : Int32) (σ : dS) {out} (h : md_isWhole_b159 v1 v2 v3 σ = some out) (k : dK E cX1_isWhole (some .boolean) out) : dG E σ 159 [v1, v2, v3] [] := by
  unfold md_isWhole_b159 at h
  refine dg_iinc hE dX1_isWhole_159 2 (xs' := [v1, v2, (v3 + (1 : Int32))]) rfl rfl (by decide) rfl ?_
  refine dg_goto hE dX1_isWhole_162 (tgt := 54) (by decide) ?_
  cases h
  exact k
theorem w_md_isWhole_b146 {E : dEnv} {l : Launch} {G : dGeo} (hE : mdOk E l G cX1_isWhole 7 rmX1_isWhole) (v1 v2 v3 v4 v5 v6 : Int32) (σ : dS) {out} (h : md_isWhole_b146 v1 v2 v3 v4 v5 v6 σ = some out) (k : dK E cX1_isWhole (some .boolean) out) : dG E σ 146 [v1, v2, v3, v4, v5, v6] [] := by
  unfold md_isWhole_b146 at h
  refine dg_iload hE dX1_isWhole_146 5 rfl rfl ?_
  refine dg_if_eq hE dX1_isWhole_148 (tgt := 159) (by decide) h (fun h => ?_) (fun h => ?_)
  · refine dg_drop (xs' := [v1, v2, v3]) (ys := [v4, v5, v6]) rfl ?_
    exact w_md_isWhole_b159 hE v1 v2 v3 σ h k
  · refine dg_iload hE dX1_isWhole_151 3 rfl rfl ?_
    refine dg_iconst hE dX1_isWhole_153 (v := (2 : Int32)) (by decide) ?_
    refine dg_icmp_ne hE dX1_isWhole_154 (tgt := 159) (by decide) h (fun h => ?_) (fun h => ?_)
    · refine dg_drop (xs' := [v1, v2, v3]) (ys := [v4, v5, v6]) rfl ?_
      exact w_md_isWhole_b159 hE v1 v2 v3 σ h k
    · refine dg_iconst hE dX1_isWhole_157 (v := (0 : Int32)) (by decide) ?_
      cases h
      exact k nz0 _ _ dX1_isWhole_158
theorem w_md_isWhole_b134 {E : dEnv} {l : Launch} {G : dGeo} (hE : mdOk E l G cX1_isWhole 7 rmX1_isWhole) (v1 v2 v3 v4 v5 s0 : Int32) (σ : dS) {out} (h : md_isWhole_b134 v1 v2 v3 v4 v5 s0 σ = some out) (k : dK E cX1_isWhole (some .boolean) out) : dG E σ 134 [v1, v2, v3, v4, v5] [.int s0] := by
  unfold md_isWhole_b134 at h
  refine dg_istore hE dX1_isWhole_134 5 (xs' := [v1, v2, v3, v4, v5, s0]) rfl (Nat.le_of_ble_eq_true rfl) (by decide) rfl ?_
  refine dg_iload hE dX1_isWhole_136 4 rfl rfl ?_
  refine dg_if_eq hE dX1_isWhole_138 (tgt := 146) (by decide) h (fun h => ?_) (fun h => ?_)
  · exact w_md_isWhole_b146 hE v1 v2 v3 v4 v5 s0 σ h k
  · refine dg_iload hE dX1_isWhole_141 3 rfl rfl ?_
    refine dg_if_ne hE dX1_isWhole_143 (tgt := 157) (by decide) h (fun h => ?_) (fun h => ?_)
    · refine dg_iconst hE dX1_isWhole_157 (v := (0 : Int32)) (by decide) ?_
      cases h
      exact k nz0 _ _ dX1_isWhole_158
    · exact w_md_isWhole_b146 hE v1 v2 v3 v4 v5 s0 σ h k
theorem w_md_isWhole_b119 {E : dEnv} {l : Launch} {G : dGeo} (hE : mdOk E l G cX1_isWhole 7 rmX1_isWhole) (v1 v2 v3 v4 s0 : Int32) (σ : dS) {out} (h : md_isWhole_b119 v1 v2 v3 v4 s0 σ = some out) (k : dK E cX1_isWhole (some .boolean) out) : dG E σ 119 [v1, v2, v3, v4] [.int s0] := by
  unfold md_isWhole_b119 at h
  refine dg_istore hE dX1_isWhole_119 4 (xs' := [v1, v2, v3, v4, s0]) rfl (Nat.le_of_ble_eq_true rfl) (by decide) rfl ?_
  refine dg_aload0 hE dX1_isWhole_121 ?_
  refine md_gf6 hE dX1_isWhole_122 ?_
  refine dg_iload_n hE dX1_isWhole_125 0 rfl rfl ?_
  refine md_ld6 hE dX1_isWhole_126 h (fun h => ?_)
  refine dg_bipush hE dX1_isWhole_127 (v := (10 : Int32)) (by decide) ?_
  refine dg_bipush hE dX1_isWhole_129 (v := (14 : Int32)) (by decide) ?_
  refine md_ca_in hE (by decide) dX1_isWhole_131 (Nat.le_of_ble_eq_true rfl) h (fun r_ h => ?_)
  exact w_md_isWhole_b134 hE v1 v2 v3 v4 s0 r_ σ h k
theorem w_md_isWhole_b114 {E : dEnv} {l : Launch} {G : dGeo} (hE : mdOk E l G cX1_isWhole 7 rmX1_isWhole) (v1 v2 v3 v4 : Int32) (σ : dS) {out} (h : md_isWhole_b114 v1 v2 v3 v4 σ = some out) (k : dK E cX1_isWhole (some .boolean) out) : dG E σ 114 [v1, v2, v3, v4] [] := by
  unfold md_isWhole_b114 at h
  refine dg_iconst hE dX1_isWhole_114 (v := (1 : Int32)) (by decide) ?_
  refine dg_goto hE dX1_isWhole_115 (tgt := 119) (by decide) ?_
  exact w_md_isWhole_b119 hE v1 v2 v3 v4 (1 : Int32) σ h k
theorem w_md_isWhole_b111 {E : dEnv} {l : Launch} {G : dGeo} (hE : mdOk E l G cX1_isWhole 7 rmX1_isWhole) (v1 v2 v3 v4 s0 : Int32) (σ : dS) {out} (h : md_isWhole_b111 v1 v2 v3 v4 s0 σ = some out) (k : dK E cX1_isWhole (some .boolean) out) : dG E σ 111 [v1, v2, v3, v4] [.int s0] := by
  unfold md_isWhole_b111 at h
  refine dg_if_eq hE dX1_isWhole_111 (tgt := 118) (by decide) h (fun h => ?_) (fun h => ?_)
  · refine dg_iconst hE dX1_isWhole_118 (v := (0 : Int32)) (by decide) ?_
    exact w_md_isWhole_b119 hE v1 v2 v3 v4 (0 : Int32) σ h k
  · exact w_md_isWhole_b114 hE v1 v2 v3 v4 σ h k
theorem w_md_isWhole_b98 {E : dEnv} {l : Launch} {G : dGeo} (hE : mdOk E l G cX1_isWhole 7 rmX1_isWhole) (v1 v2 v3 v4 : Int32) (σ : dS) {out} (h : md_isWhole_b98 v1 v2 v3 v4 σ = some out) (k : dK E cX1_isWhole (some .boolean) out) : dG E σ 98 [v1, v2, v3, v4] [] := by
  unfold md_isWhole_b98 at h
  refine dg_aload0 hE dX1_isWhole_98 ?_
  refine md_gf6 hE dX1_isWhole_99 ?_
  refine dg_iload_n hE dX1_isWhole_102 0 rfl rfl ?_
  refine md_ld6 hE dX1_isWhole_103 h (fun h => ?_)
  refine dg_bipush hE dX1_isWhole_104 (v := (7 : Int32)) (by decide) ?_
  refine dg_bipush hE dX1_isWhole_106 (v := (9 : Int32)) (by decide) ?_
  refine md_ca_in hE (by decide) dX1_isWhole_108 (Nat.le_of_ble_eq_true rfl) h (fun r_ h => ?_)
  exact w_md_isWhole_b111 hE v1 v2 v3 v4 r_ σ h k
theorem w_md_isWhole_b74 {E : dEnv} {l : Launch} {G : dGeo} (hE : mdOk E l G cX1_isWhole 7 rmX1_isWhole) (v1 v2 v3 v4 : Int32) (σ : dS) {out} (h : md_isWhole_b74 v1 v2 v3 v4 σ = some out) (k : dK E cX1_isWhole (some .boolean) out) : dG E σ 74 [v1, v2, v3, v4] [] := by
  unfold md_isWhole_b74 at h
  refine dg_aload0 hE dX1_isWhole_74 ?_
  refine md_gf6 hE dX1_isWhole_75 ?_
  refine dg_iload_n hE dX1_isWhole_78 0 rfl rfl ?_
  refine md_ld6 hE dX1_isWhole_79 h (fun h => ?_)
  refine dg_iconst hE dX1_isWhole_80 (v := (3 : Int32)) (by decide) ?_
  refine dg_icmp_eq hE dX1_isWhole_81 (tgt := 114) (by decide) h (fun h => ?_) (fun h => ?_)
  · exact w_md_isWhole_b114 hE v1 v2 v3 v4 σ h k
  · refine dg_aload0 hE dX1_isWhole_84 ?_
    refine md_gf6 hE dX1_isWhole_85 ?_
    refine dg_iload_n hE dX1_isWhole_88 0 rfl rfl ?_
    refine md_ld6 hE dX1_isWhole_89 h (fun h => ?_)
    refine dg_iconst hE dX1_isWhole_90 (v := (2 : Int32)) (by decide) ?_
    refine dg_icmp_ne hE dX1_isWhole_91 (tgt := 98) (by decide) h (fun h => ?_) (fun h => ?_)
    · exact w_md_isWhole_b98 hE v1 v2 v3 v4 σ h k
    · refine dg_iload_n hE dX1_isWhole_94 2 rfl rfl ?_
      refine dg_if_eq hE dX1_isWhole_95 (tgt := 114) (by decide) h (fun h => ?_) (fun h => ?_)
      · exact w_md_isWhole_b114 hE v1 v2 v3 v4 σ h k
      · exact w_md_isWhole_b98 hE v1 v2 v3 v4 σ h k
theorem w_md_isWhole_b54 {E : dEnv} {l : Launch} {G : dGeo} (hE : mdOk E l G cX1_isWhole 7 rmX1_isWhole) (v1 v2 v3 : Int32) (σ : dS) {out} (h : md_isWhole_b54 v1 v2 v3 σ = some out) (k : dK E cX1_isWhole (some .boolean) out) : dG E σ 54 [v1, v2, v3] [] := by
  unfold md_isWhole_b54 at h
  refine dg_iload_n hE dX1_isWhole_54 2 rfl rfl ?_
  refine dg_iload_n hE dX1_isWhole_55 1 rfl rfl ?_
  refine dg_icmp_ge hE dX1_isWhole_56 (tgt := 165) (by decide) h (fun h => ?_) (fun h => ?_)
  · refine dg_aload0 hE dX1_isWhole_165 ?_
    refine dg_dup hE dX1_isWhole_166 rfl ?_
    refine md_gf15 hE dX1_isWhole_167 ?_
    refine dg_iload_n hE dX1_isWhole_170 1 rfl rfl ?_
    refine dg_isub hE dX1_isWhole_171 ?_
    refine md_pf15 hE dX1_isWhole_172 ?_
    refine dg_drop (xs' := [v1]) (ys := [v2, v3]) rfl ?_
    exact w_md_isWhole_b175 hE v1 (up2 σ 15 0 ((σ 15 0) - v2)) h k
  · refine dg_aload0 hE dX1_isWhole_59 ?_
    refine md_gf11 hE dX1_isWhole_60 ?_
    refine dg_aload0 hE dX1_isWhole_63 ?_
    refine md_gf15 hE dX1_isWhole_64 ?_
    refine dg_iconst hE dX1_isWhole_67 (v := (1 : Int32)) (by decide) ?_
    refine dg_isub hE dX1_isWhole_68 ?_
    refine dg_iload_n hE dX1_isWhole_69 2 rfl rfl ?_
    refine dg_isub hE dX1_isWhole_70 ?_
    refine md_ld11 hE dX1_isWhole_71 h (fun h => ?_)
    refine dg_istore hE dX1_isWhole_72 3 (xs' := [v1, v2, v3, (σ 11 (((σ 15 0) - (1 : Int32)) - v3).toNatClampNeg)]) rfl (Nat.le_of_ble_eq_true rfl) (by decide) rfl ?_
    exact w_md_isWhole_b74 hE v1 v2 v3 (σ 11 (((σ 15 0) - (1 : Int32)) - v3).toNatClampNeg) σ h k
theorem w_md_isWhole_b41 {E : dEnv} {l : Launch} {G : dGeo} (hE : mdOk E l G cX1_isWhole 7 rmX1_isWhole) (v1 s0 : Int32) (σ : dS) {out} (h : md_isWhole_b41 v1 s0 σ = some out) (k : dK E cX1_isWhole (some .boolean) out) : dG E σ 41 [v1] [.int s0] := by
  unfold md_isWhole_b41 at h
  refine dg_istore_n hE dX1_isWhole_41 1 (xs' := [v1, s0]) rfl (Nat.le_of_ble_eq_true rfl) (by decide) rfl ?_
  refine dg_aload0 hE dX1_isWhole_42 ?_
  refine md_gf15 hE dX1_isWhole_43 ?_
  refine dg_iload_n hE dX1_isWhole_46 1 rfl rfl ?_
  refine dg_icmp_ge hE dX1_isWhole_47 (tgt := 52) (by decide) h (fun h => ?_) (fun h => ?_)
  · refine dg_iconst hE dX1_isWhole_52 (v := (0 : Int32)) (by decide) ?_
    refine dg_istore_n hE dX1_isWhole_53 2 (xs' := [v1, s0, (0 : Int32)]) rfl (Nat.le_of_ble_eq_true rfl) (by decide) rfl ?_
    cases h
    exact k
  · refine dg_iconst hE dX1_isWhole_50 (v := (0 : Int32)) (by decide) ?_
    cases h
    exact k nz0 _ _ dX1_isWhole_51
theorem w_md_isWhole_b19 {E : dEnv} {l : Launch} {G : dGeo} (hE : mdOk E l G cX1_isWhole 7 rmX1_isWhole) (v1 : Int32) (σ : dS) {out} (h : md_isWhole_b19 v1 σ = some out) (k : dK E cX1_isWhole (some .boolean) out) : dG E σ 19 [v1] [] := by
  unfold md_isWhole_b19 at h
  refine dg_iload_n hE dX1_isWhole_19 0 rfl rfl ?_
  refine dg_sipush hE dX1_isWhole_20 (v := (320 : Int32)) (by decide) ?_
  refine dg_icmp_lt hE dX1_isWhole_23 (tgt := 206) (by decide) h (fun h => ?_) (fun h => ?_)
  · refine dg_aload0 hE dX1_isWhole_206 ?_
    refine md_gf15 hE dX1_isWhole_207 ?_
    refine dg_iconst hE dX1_isWhole_210 (v := (1 : Int32)) (by decide) ?_
    refine dg_icmp_ne hE dX1_isWhole_211 (tgt := 218) (by decide) h (fun h => ?_) (fun h => ?_)
    · refine dg_iconst hE dX1_isWhole_218 (v := (0 : Int32)) (by decide) ?_
      cases h
      exact k nz0 _ _ dX1_isWhole_219
    · refine dg_iconst hE dX1_isWhole_214 (v := (1 : Int32)) (by decide) ?_
      refine dg_goto hE dX1_isWhole_215 (tgt := 219) (by decide) ?_
      cases h
      exact k nz1 _ _ dX1_isWhole_219
  · refine dg_aload0 hE dX1_isWhole_26 ?_
    refine md_gf6 hE dX1_isWhole_27 ?_
    refine dg_iload_n hE dX1_isWhole_30 0 rfl rfl ?_
    refine md_ld6 hE dX1_isWhole_31 h (fun h => ?_)
    refine dg_aload0 hE dX1_isWhole_32 ?_
    refine md_gf7 hE dX1_isWhole_33 ?_
    refine dg_iload_n hE dX1_isWhole_36 0 rfl rfl ?_
    refine md_ld7 hE dX1_isWhole_37 h (fun h => ?_)
    refine md_ca_operands hE (by decide) dX1_isWhole_38 (Nat.le_of_ble_eq_true rfl) h (fun r_ h => ?_)
    exact w_md_isWhole_b41 hE v1 r_ σ h k
theorem w_md_isWhole_b5 {E : dEnv} {l : Launch} {G : dGeo} (hE : mdOk E l G cX1_isWhole 7 rmX1_isWhole) (σ : dS) {out} (h : md_isWhole_b5 σ = some out) (k : dK E cX1_isWhole (some .boolean) out) : dG E σ 5 [] [] := by
  unfold md_isWhole_b5 at h
  refine dg_sipush hE dX1_isWhole_5 (v := (320 : Int32)) (by decide) ?_
  refine dg_aload0 hE dX1_isWhole_8 ?_
  refine md_gf8 hE dX1_isWhole_9 ?_
  refine dg_bipush hE dX1_isWhole_12 (v := (8 : Int32)) (by decide) ?_
  refine md_ld8 hE dX1_isWhole_14 h (fun h => ?_)
  refine dg_iadd hE dX1_isWhole_15 ?_
  refine dg_iconst hE dX1_isWhole_16 (v := (1 : Int32)) (by decide) ?_
  refine dg_isub hE dX1_isWhole_17 ?_
  refine dg_istore_n hE dX1_isWhole_18 0 (xs' := [(((320 : Int32) + (σ 8 (8 : Int32).toNatClampNeg)) - (1 : Int32))]) rfl (Nat.le_of_ble_eq_true rfl) (by decide) rfl ?_
  cases h
  exact k
theorem w_md_isWhole_b0 {E : dEnv} {l : Launch} {G : dGeo} (hE : mdOk E l G cX1_isWhole 7 rmX1_isWhole) (σ : dS) {out} (h : md_isWhole_b0 σ = some out) (k : dK E cX1_isWhole (some .boolean) out) : dG E σ 0 [] [] := by
  unfold md_isWhole_b0 at h
  refine dg_aload0 hE dX1_isWhole_0 ?_
  refine dg_iconst hE dX1_isWhole_1 (v := (0 : Int32)) (by decide) ?_
  refine md_pf15 hE dX1_isWhole_2 ?_
  exact w_md_isWhole_b5 hE (up2 σ 15 0 (0 : Int32)) h k
theorem w_md_isWhole_st {E : dEnv} {l : Launch} {G : dGeo} (hE : mdOk E l G cX1_isWhole 7 rmX1_isWhole) (a : Nat × List Int32 × dS) {out} (h : md_isWhole_st a = some out) (k : dK E cX1_isWhole (some .boolean) out) : dG E a.2.2 a.1 a.2.1 [] := by
  obtain ⟨L, xs, σ⟩ := a
  unfold md_isWhole_st at h
  dsimp only at h ⊢
  by_cases c_ : L = 19
  · subst c_
    rw [if_pos rfl] at h
    match xs, h with
    | [x0], h => exact w_md_isWhole_b19 hE x0 σ h k
    | [], h => cases h
    | _ :: _ :: _, h => cases h
  rw [if_neg c_] at h
  by_cases c_ : L = 54
  · subst c_
    rw [if_pos rfl] at h
    match xs, h with
    | [x0, x1, x2], h => exact w_md_isWhole_b54 hE x0 x1 x2 σ h k
    | [], h => cases h
    | [_], h => cases h
    | [_, _], h => cases h
    | _ :: _ :: _ :: _ :: _, h => cases h
  rw [if_neg c_] at h
  cases h
theorem met_md_isWhole (l : Launch) (G : dGeo) (sz : Nat) (σ : dS) {r : Int32 × dS} (h : md_isWhole σ = some r) : Met l yX1_isWhole (ws_ yX1_isWhole cX1_isWhole 7 (some .boolean)) rmX1_isWhole (dPc G.1 (md_ty G) (md_w G σ) sz [.ref G.2.1]) (dQi G.1 (md_ty G) (md_w G σ) (md_w G r.2) sz r.1) 0 0 (va_A (md_w G σ) sz) := by
  refine dMet_i (w := md_w G) (σ := σ) (σ' := r.2) (th := [(0, .ref G.2.1)]) (b := 1) (xs := []) (by decide) rfl rfl (Nat.le_of_ble_eq_true rfl) dth (fun E hE k => ?_)
  unfold md_isWhole at h
  obtain ⟨out, h1, h2⟩ := lpB_some h
  exact w_md_isWhole_b0 hE σ h1 (dK_lp (fun a out => w_md_isWhole_st hE a) h2 k)
theorem md_ca_isWhole {E : dEnv} {l : Launch} {G : dGeo} {cc : ByteArray} {nL pc : Nat} {R : Room} {σ : dS} {xs : List Int32} {st : List Value} {τ : Type} {g : Int32 × dS → Option τ} {out : τ} (hE : mdOk E l G cc nL R) (hR : 1 + 1 ≤ R.frames ∧ 8 + (7 + 11) + 22 ≤ R.locals) (hd : decode cc pc = .ok (.invokevirtual 112, 3)) (hs : (st.map fun v => v.category).sum ≤ 8) (h : Option.bind (md_isWhole σ) g = some out) (k : ∀ r, g r = some out → dG E r.2 (pc + 3) xs (.int r.1 :: st)) : dG E σ pc xs (.ref G.2.1 :: st) := by
  obtain ⟨r, h1, h2⟩ := obind h
  exact dg_callVi hE (As := []) (st := st) (C := RX1) (rm := rmX1_isWhole) (md_recv G) (fun sz => met_md_isWhole l G sz σ h1) (lw_V q498 q500 qs29 q51 q501) 0 rfl ⟨rfl, rfl⟩ (by decide +kernel) hR rfl hs hd (k r h2)
abbrev rmX1_expression : Room := { frames := 2, cells := 0, slots := 0, locals := 48 }
theorem w_md_expression_b144 {E : dEnv} {l : Launch} {G : dGeo} (hE : mdOk E l G cX1_expression 5 rmX1_expression) (s0 : Int32) (σ : dS) {out} (h : md_expression_b144 s0 σ = some out) (k : dK E cX1_expression (some .int) out) : dG E σ 144 [] [.int s0] := by
  unfold md_expression_b144 at h
  cases h
  exact k rfl _ _ dX1_expression_144
theorem w_md_expression_b133 {E : dEnv} {l : Launch} {G : dGeo} (hE : mdOk E l G cX1_expression 5 rmX1_expression) (σ : dS) {out} (h : md_expression_b133 σ = some out) (k : dK E cX1_expression (some .int) out) : dG E σ 133 [] [] := by
  unfold md_expression_b133 at h
  refine dg_aload0 hE dX1_expression_133 ?_
  refine md_gf6 hE dX1_expression_134 ?_
  refine dg_sipush hE dX1_expression_137 (v := (320 : Int32)) (by decide) ?_
  refine md_ld6 hE dX1_expression_140 h (fun h => ?_)
  refine md_ca_typeOf hE (by decide) dX1_expression_141 (Nat.le_of_ble_eq_true rfl) h (fun r_ h => ?_)
  exact w_md_expression_b144 hE r_ σ h k
theorem w_md_expression_b97 {E : dEnv} {l : Launch} {G : dGeo} (hE : mdOk E l G cX1_expression 5 rmX1_expression) (v1 v2 v3 v4 : Int32) (σ : dS) {out} (h : md_expression_b97 v1 v2 v3 v4 σ = some out) (k : dK E cX1_expression (some .int) out) : dG E σ 97 [v1, v2, v3, v4] [] := by
  unfold md_expression_b97 at h
  refine dg_aload0 hE dX1_expression_97 ?_
  refine md_gf7 hE dX1_expression_98 ?_
  refine dg_bipush hE dX1_expression_101 (v := (40 : Int32)) (by decide) ?_
  refine dg_iload_n hE dX1_expression_103 0 rfl rfl ?_
  refine dg_imul hE dX1_expression_104 ?_
  refine dg_iload hE dX1_expression_105 3 rfl rfl ?_
  refine dg_iadd hE dX1_expression_107 ?_
  refine dg_aload0 hE dX1_expression_108 ?_
  refine md_gf7 hE dX1_expression_109 ?_
  refine dg_sipush hE dX1_expression_112 (v := (320 : Int32)) (by decide) ?_
  refine dg_iload hE dX1_expression_115 3 rfl rfl ?_
  refine dg_iadd hE dX1_expression_117 ?_
  refine md_ld7 hE dX1_expression_118 h (fun h => ?_)
  refine md_as7 hE dX1_expression_119 h (fun h => ?_)
  refine dg_iinc hE dX1_expression_120 3 (xs' := [v1, v2, v3, (v4 + (1 : Int32))]) rfl rfl (by decide) rfl ?_
  refine dg_goto hE dX1_expression_123 (tgt := 68) (by decide) ?_
  cases h
  exact k
theorem w_md_expression_b68 {E : dEnv} {l : Launch} {G : dGeo} (hE : mdOk E l G cX1_expression 5 rmX1_expression) (v1 v2 v3 v4 : Int32) (σ : dS) {out} (h : md_expression_b68 v1 v2 v3 v4 σ = some out) (k : dK E cX1_expression (some .int) out) : dG E σ 68 [v1, v2, v3, v4] [] := by
  unfold md_expression_b68 at h
  refine dg_iload hE dX1_expression_68 3 rfl rfl ?_
  refine dg_iload_n hE dX1_expression_70 2 rfl rfl ?_
  refine dg_icmp_ge hE dX1_expression_71 (tgt := 126) (by decide) h (fun h => ?_) (fun h => ?_)
  · refine dg_aload0 hE dX1_expression_126 ?_
    refine md_gf10 hE dX1_expression_127 ?_
    refine dg_iload_n hE dX1_expression_130 0 rfl rfl ?_
    refine dg_iconst hE dX1_expression_131 (v := (0 : Int32)) (by decide) ?_
    refine md_as10 hE dX1_expression_132 h (fun h => ?_)
    refine dg_drop (xs' := []) (ys := [v1, v2, v3, v4]) rfl ?_
    exact w_md_expression_b133 hE (up2 σ 10 v1.toNatClampNeg (vp_nar .boolean (0 : Int32))) h k
  · refine dg_aload0 hE dX1_expression_74 ?_
    refine md_gf6 hE dX1_expression_75 ?_
    refine dg_bipush hE dX1_expression_78 (v := (40 : Int32)) (by decide) ?_
    refine dg_iload_n hE dX1_expression_80 0 rfl rfl ?_
    refine dg_imul hE dX1_expression_81 ?_
    refine dg_iload hE dX1_expression_82 3 rfl rfl ?_
    refine dg_iadd hE dX1_expression_84 ?_
    refine dg_aload0 hE dX1_expression_85 ?_
    refine md_gf6 hE dX1_expression_86 ?_
    refine dg_sipush hE dX1_expression_89 (v := (320 : Int32)) (by decide) ?_
    refine dg_iload hE dX1_expression_92 3 rfl rfl ?_
    refine dg_iadd hE dX1_expression_94 ?_
    refine md_ld6 hE dX1_expression_95 h (fun h => ?_)
    refine md_as6 hE dX1_expression_96 h (fun h => ?_)
    exact w_md_expression_b97 hE v1 v2 v3 v4 (up2 σ 6 (((40 : Int32) * v1) + v4).toNatClampNeg (σ 6 ((320 : Int32) + v4).toNatClampNeg)) h k
theorem w_md_expression_b65 {E : dEnv} {l : Launch} {G : dGeo} (hE : mdOk E l G cX1_expression 5 rmX1_expression) (v1 v2 v3 : Int32) (σ : dS) {out} (h : md_expression_b65 v1 v2 v3 σ = some out) (k : dK E cX1_expression (some .int) out) : dG E σ 65 [v1, v2, v3] [] := by
  unfold md_expression_b65 at h
  refine dg_iconst hE dX1_expression_65 (v := (0 : Int32)) (by decide) ?_
  refine dg_istore hE dX1_expression_66 3 (xs' := [v1, v2, v3, (0 : Int32)]) rfl (Nat.le_of_ble_eq_true rfl) (by decide) rfl ?_
  cases h
  exact k
theorem w_md_expression_b51 {E : dEnv} {l : Launch} {G : dGeo} (hE : mdOk E l G cX1_expression 5 rmX1_expression) (v1 v2 v3 : Int32) (σ : dS) {out} (h : md_expression_b51 v1 v2 v3 σ = some out) (k : dK E cX1_expression (some .int) out) : dG E σ 51 [v1, v2, v3] [] := by
  unfold md_expression_b51 at h
  refine dg_iload_n hE dX1_expression_51 1 rfl rfl ?_
  refine dg_if_ne hE dX1_expression_52 (tgt := 58) (by decide) h (fun h => ?_) (fun h => ?_)
  · refine dg_aload0 hE dX1_expression_58 ?_
    refine md_gf8 hE dX1_expression_59 ?_
    refine dg_iload_n hE dX1_expression_62 0 rfl rfl ?_
    refine dg_iload_n hE dX1_expression_63 2 rfl rfl ?_
    refine md_as8 hE dX1_expression_64 h (fun h => ?_)
    exact w_md_expression_b65 hE v1 v2 v3 (up2 σ 8 v1.toNatClampNeg v3) h k
  · refine dg_bipush hE dX1_expression_55 (v := (-2 : Int32)) (by decide) ?_
    cases h
    exact k rfl _ _ dX1_expression_57
theorem w_md_expression_b43 {E : dEnv} {l : Launch} {G : dGeo} (hE : mdOk E l G cX1_expression 5 rmX1_expression) (v1 v2 v3 : Int32) (σ : dS) {out} (h : md_expression_b43 v1 v2 v3 σ = some out) (k : dK E cX1_expression (some .int) out) : dG E σ 43 [v1, v2, v3] [] := by
  unfold md_expression_b43 at h
  refine dg_aload0 hE dX1_expression_43 ?_
  refine md_gf8 hE dX1_expression_44 ?_
  refine dg_bipush hE dX1_expression_47 (v := (8 : Int32)) (by decide) ?_
  refine dg_iconst hE dX1_expression_49 (v := (0 : Int32)) (by decide) ?_
  refine md_as8 hE dX1_expression_50 h (fun h => ?_)
  exact w_md_expression_b51 hE v1 v2 v3 (up2 σ 8 (8 : Int32).toNatClampNeg (0 : Int32)) h k
theorem w_md_expression_b34 {E : dEnv} {l : Launch} {G : dGeo} (hE : mdOk E l G cX1_expression 5 rmX1_expression) (v1 s0 : Int32) (σ : dS) {out} (h : md_expression_b34 v1 s0 σ = some out) (k : dK E cX1_expression (some .int) out) : dG E σ 34 [v1] [.int s0] := by
  unfold md_expression_b34 at h
  refine dg_istore_n hE dX1_expression_34 1 (xs' := [v1, s0]) rfl (Nat.le_of_ble_eq_true rfl) (by decide) rfl ?_
  refine dg_aload0 hE dX1_expression_35 ?_
  refine md_gf8 hE dX1_expression_36 ?_
  refine dg_bipush hE dX1_expression_39 (v := (8 : Int32)) (by decide) ?_
  refine md_ld8 hE dX1_expression_41 h (fun h => ?_)
  refine dg_istore_n hE dX1_expression_42 2 (xs' := [v1, s0, (σ 8 (8 : Int32).toNatClampNeg)]) rfl (Nat.le_of_ble_eq_true rfl) (by decide) rfl ?_
  exact w_md_expression_b43 hE v1 s0 (σ 8 (8 : Int32).toNatClampNeg) σ h k
theorem w_md_expression_b33 {E : dEnv} {l : Launch} {G : dGeo} (hE : mdOk E l G cX1_expression 5 rmX1_expression) (v1 : Int32) (σ : dS) {out} (h : md_expression_b33 v1 σ = some out) (k : dK E cX1_expression (some .int) out) : dG E σ 33 [v1] [] := by
  unfold md_expression_b33 at h
  refine dg_iconst hE dX1_expression_33 (v := (0 : Int32)) (by decide) ?_
  exact w_md_expression_b34 hE v1 (0 : Int32) σ h k
theorem w_md_expression_b26 {E : dEnv} {l : Launch} {G : dGeo} (hE : mdOk E l G cX1_expression 5 rmX1_expression) (v1 s0 : Int32) (σ : dS) {out} (h : md_expression_b26 v1 s0 σ = some out) (k : dK E cX1_expression (some .int) out) : dG E σ 26 [v1] [.int s0] := by
  unfold md_expression_b26 at h
  refine dg_if_eq hE dX1_expression_26 (tgt := 33) (by decide) h (fun h => ?_) (fun h => ?_)
  · exact w_md_expression_b33 hE v1 σ h k
  · refine dg_iconst hE dX1_expression_29 (v := (1 : Int32)) (by decide) ?_
    refine dg_goto hE dX1_expression_30 (tgt := 34) (by decide) ?_
    exact w_md_expression_b34 hE v1 (1 : Int32) σ h k
theorem w_md_expression_b7 {E : dEnv} {l : Launch} {G : dGeo} (hE : mdOk E l G cX1_expression 5 rmX1_expression) (v1 s0 : Int32) (σ : dS) {out} (h : md_expression_b7 v1 s0 σ = some out) (k : dK E cX1_expression (some .int) out) : dG E σ 7 [v1] [.int s0] := by
  unfold md_expression_b7 at h
  refine dg_if_ne hE dX1_expression_7 (tgt := 12) (by decide) h (fun h => ?_) (fun h => ?_)
  · refine dg_aload0 hE dX1_expression_12 ?_
    refine md_gf8 hE dX1_expression_13 ?_
    refine dg_bipush hE dX1_expression_16 (v := (8 : Int32)) (by decide) ?_
    refine md_ld8 hE dX1_expression_18 h (fun h => ?_)
    refine dg_if_le hE dX1_expression_19 (tgt := 33) (by decide) h (fun h => ?_) (fun h => ?_)
    · exact w_md_expression_b33 hE v1 σ h k
    · refine dg_aload0 hE dX1_expression_22 ?_
      refine md_ca_isWhole hE (by decide) dX1_expression_23 (Nat.le_of_ble_eq_true rfl) h (fun r_ h => ?_)
      exact w_md_expression_b26 hE v1 (r_.1) (r_.2) h k
  · refine dg_iconst hE dX1_expression_10 (v := (-1 : Int32)) (by decide) ?_
    cases h
    exact k rfl _ _ dX1_expression_11
theorem w_md_expression_b0 {E : dEnv} {l : Launch} {G : dGeo} (hE : mdOk E l G cX1_expression 5 rmX1_expression) (v1 : Int32) (σ : dS) {out} (h : md_expression_b0 v1 σ = some out) (k : dK E cX1_expression (some .int) out) : dG E σ 0 [v1] [] := by
  unfold md_expression_b0 at h
  refine dg_iload_n hE dX1_expression_0 0 rfl rfl ?_
  refine dg_iconst hE dX1_expression_1 (v := (0 : Int32)) (by decide) ?_
  refine dg_bipush hE dX1_expression_2 (v := (7 : Int32)) (by decide) ?_
  refine md_ca_in hE (by decide) dX1_expression_4 (Nat.le_of_ble_eq_true rfl) h (fun r_ h => ?_)
  exact w_md_expression_b7 hE v1 r_ σ h k
theorem w_md_expression_st {E : dEnv} {l : Launch} {G : dGeo} (hE : mdOk E l G cX1_expression 5 rmX1_expression) (a : Nat × List Int32 × dS) {out} (h : md_expression_st a = some out) (k : dK E cX1_expression (some .int) out) : dG E a.2.2 a.1 a.2.1 [] := by
  obtain ⟨L, xs, σ⟩ := a
  unfold md_expression_st at h
  dsimp only at h ⊢
  by_cases c_ : L = 68
  · subst c_
    rw [if_pos rfl] at h
    match xs, h with
    | [x0, x1, x2, x3], h => exact w_md_expression_b68 hE x0 x1 x2 x3 σ h k
    | [], h => cases h
    | [_], h => cases h
    | [_, _], h => cases h
    | [_, _, _], h => cases h
    | _ :: _ :: _ :: _ :: _ :: _, h => cases h
  rw [if_neg c_] at h
  cases h
theorem met_md_expression (l : Launch) (G : dGeo) (sz : Nat) (v1 : Int32) (σ : dS) {r : Int32 × dS} (h : md_expression v1 σ = some r) : Met l yX1_expression (ws_ yX1_expression cX1_expression 5 (some .int)) rmX1_expression (dPc G.1 (md_ty G) (md_w G σ) sz [.ref G.2.1, .int v1]) (dQi G.1 (md_ty G) (md_w G σ) (md_w G r.2) sz r.1) 0 0 (va_A (md_w G σ) sz) := by
  refine dMet_i (w := md_w G) (σ := σ) (σ' := r.2) (th := [(0, .ref G.2.1)]) (b := 1) (xs := [v1]) (by decide) rfl rfl (Nat.le_of_ble_eq_true rfl) dth (fun E hE k => ?_)
  unfold md_expression at h
  obtain ⟨out, h1, h2⟩ := lpB_some h
  exact w_md_expression_b0 hE v1 σ h1 (dK_lp (fun a out => w_md_expression_st hE a) h2 k)
abbrev rmX1_endOf : Room := { frames := 1, cells := 0, slots := 0, locals := 21 }
theorem w_md_endOf_b24 {E : dEnv} {l : Launch} {G : dGeo} (hE : mdOk E l G cX1_endOf 4 rmX1_endOf) (v1 v2 v3 s0 s1 : Int32) (σ : dS) {out} (h : md_endOf_b24 v1 v2 v3 s0 s1 σ = some out) (k : dK E cX1_endOf (some .int) out) : dG E σ 24 [v1, v2, v3] [.int s0, .int s1] := by
  unfold md_endOf_b24 at h
  refine dg_iconst hE dX1_endOf_24 (v := (1 : Int32)) (by decide) ?_
  refine dg_isub hE dX1_endOf_25 ?_
  refine dg_iadd hE dX1_endOf_26 ?_
  refine dg_istore_n hE dX1_endOf_27 1 (xs' := [v1, (s1 + (s0 - (1 : Int32))), v3]) rfl (Nat.le_of_ble_eq_true rfl) (by decide) rfl ?_
  refine dg_iinc hE dX1_endOf_28 2 (xs' := [v1, (s1 + (s0 - (1 : Int32))), (v3 + (1 : Int32))]) rfl rfl (by decide) rfl ?_
  refine dg_goto hE dX1_endOf_31 (tgt := 4) (by decide) ?_
  cases h
  exact k
theorem w_md_endOf_b4 {E : dEnv} {l : Launch} {G : dGeo} (hE : mdOk E l G cX1_endOf 4 rmX1_endOf) (v1 v2 v3 : Int32) (σ : dS) {out} (h : md_endOf_b4 v1 v2 v3 σ = some out) (k : dK E cX1_endOf (some .int) out) : dG E σ 4 [v1, v2, v3] [] := by
  unfold md_endOf_b4 at h
  refine dg_iload_n hE dX1_endOf_4 1 rfl rfl ?_
  refine dg_if_le hE dX1_endOf_5 (tgt := 34) (by decide) h (fun h => ?_) (fun h => ?_)
  · refine dg_iload_n hE dX1_endOf_34 2 rfl rfl ?_
    cases h
    exact k rfl _ _ dX1_endOf_35
  · refine dg_iload_n hE dX1_endOf_8 1 rfl rfl ?_
    refine dg_aload0 hE dX1_endOf_9 ?_
    refine md_gf6 hE dX1_endOf_10 ?_
    refine dg_iload_n hE dX1_endOf_13 2 rfl rfl ?_
    refine md_ld6 hE dX1_endOf_14 h (fun h => ?_)
    refine dg_aload0 hE dX1_endOf_15 ?_
    refine md_gf7 hE dX1_endOf_16 ?_
    refine dg_iload_n hE dX1_endOf_19 2 rfl rfl ?_
    refine md_ld7 hE dX1_endOf_20 h (fun h => ?_)
    refine md_ca_operands hE (by decide) dX1_endOf_21 (Nat.le_of_ble_eq_true rfl) h (fun r_ h => ?_)
    exact w_md_endOf_b24 hE v1 v2 v3 r_ v2 σ h k
theorem w_md_endOf_b0 {E : dEnv} {l : Launch} {G : dGeo} (hE : mdOk E l G cX1_endOf 4 rmX1_endOf) (v1 : Int32) (σ : dS) {out} (h : md_endOf_b0 v1 σ = some out) (k : dK E cX1_endOf (some .int) out) : dG E σ 0 [v1] [] := by
  unfold md_endOf_b0 at h
  refine dg_iconst hE dX1_endOf_0 (v := (1 : Int32)) (by decide) ?_
  refine dg_istore_n hE dX1_endOf_1 1 (xs' := [v1, (1 : Int32)]) rfl (Nat.le_of_ble_eq_true rfl) (by decide) rfl ?_
  refine dg_iload_n hE dX1_endOf_2 0 rfl rfl ?_
  refine dg_istore_n hE dX1_endOf_3 2 (xs' := [v1, (1 : Int32), v1]) rfl (Nat.le_of_ble_eq_true rfl) (by decide) rfl ?_
  cases h
  exact k
theorem w_md_endOf_st {E : dEnv} {l : Launch} {G : dGeo} (hE : mdOk E l G cX1_endOf 4 rmX1_endOf) (a : Nat × List Int32 × dS) {out} (h : md_endOf_st a = some out) (k : dK E cX1_endOf (some .int) out) : dG E a.2.2 a.1 a.2.1 [] := by
  obtain ⟨L, xs, σ⟩ := a
  unfold md_endOf_st at h
  dsimp only at h ⊢
  by_cases c_ : L = 4
  · subst c_
    rw [if_pos rfl] at h
    match xs, h with
    | [x0, x1, x2], h => exact w_md_endOf_b4 hE x0 x1 x2 σ h k
    | [], h => cases h
    | [_], h => cases h
    | [_, _], h => cases h
    | _ :: _ :: _ :: _ :: _, h => cases h
  rw [if_neg c_] at h
  cases h
theorem met_md_endOf (l : Launch) (G : dGeo) (sz : Nat) (v1 : Int32) (σ : dS) {r : Int32 × dS} (h : md_endOf v1 σ = some r) : Met l yX1_endOf (ws_ yX1_endOf cX1_endOf 4 (some .int)) rmX1_endOf (dPc G.1 (md_ty G) (md_w G σ) sz [.ref G.2.1, .int v1]) (dQi G.1 (md_ty G) (md_w G σ) (md_w G r.2) sz r.1) 0 0 (va_A (md_w G σ) sz) := by
  refine dMet_i (w := md_w G) (σ := σ) (σ' := r.2) (th := [(0, .ref G.2.1)]) (b := 1) (xs := [v1]) (by decide) rfl rfl (Nat.le_of_ble_eq_true rfl) dth (fun E hE k => ?_)
  unfold md_endOf at h
  obtain ⟨out, h1, h2⟩ := lpB_some h
  exact w_md_endOf_b0 hE v1 σ h1 (dK_lp (fun a out => w_md_endOf_st hE a) h2 k)
theorem md_ca_endOf {E : dEnv} {l : Launch} {G : dGeo} {cc : ByteArray} {nL pc : Nat} {R : Room} {σ : dS} {xs : List Int32} {st : List Value} {τ : Type} {g : Int32 × dS → Option τ} {out : τ} {a0 : Int32} (hE : mdOk E l G cc nL R) (hR : 1 + 1 ≤ R.frames ∧ 8 + (4 + 11) + 21 ≤ R.locals) (hd : decode cc pc = .ok (.invokevirtual 125, 3)) (hs : (st.map fun v => v.category).sum ≤ 8) (h : Option.bind (md_endOf a0 σ) g = some out) (k : ∀ r, g r = some out → dG E r.2 (pc + 3) xs (.int r.1 :: st)) : dG E σ pc xs (.int a0 :: .ref G.2.1 :: st) := by
  obtain ⟨r, h1, h2⟩ := obind h
  exact dg_callVi hE (As := [.int a0]) (st := st) (C := RX1) (rm := rmX1_endOf) (md_recv G) (fun sz => met_md_endOf l G sz a0 σ h1) (lw_V q528 q530 qs34 q51 q531) 1 rfl ⟨rfl, rfl⟩ (by decide +kernel) hR rfl hs hd (k r h2)
abbrev rmX1_parentOf : Room := { frames := 1, cells := 0, slots := 0, locals := 22 }
theorem w_md_parentOf_b36 {E : dEnv} {l : Launch} {G : dGeo} (hE : mdOk E l G cX1_parentOf 3 rmX1_parentOf) (v1 v2 : Int32) (σ : dS) {out} (h : md_parentOf_b36 v1 v2 σ = some out) (k : dK E cX1_parentOf (some .int) out) : dG E σ 36 [v1, v2] [] := by
  unfold md_parentOf_b36 at h
  refine dg_iload_n hE dX1_parentOf_36 1 rfl rfl ?_
  refine dg_if_ge hE dX1_parentOf_37 (tgt := 44) (by decide) h (fun h => ?_) (fun h => ?_)
  · refine dg_aload0 hE dX1_parentOf_44 ?_
    refine md_gf0 hE dX1_parentOf_45 ?_
    refine dg_iload_n hE dX1_parentOf_48 1 rfl rfl ?_
    refine md_ld0 hE dX1_parentOf_49 h (fun h => ?_)
    cases h
    exact k rfl _ _ dX1_parentOf_50
  · refine dg_iconst hE dX1_parentOf_40 (v := (-1 : Int32)) (by decide) ?_
    refine dg_goto hE dX1_parentOf_41 (tgt := 50) (by decide) ?_
    cases h
    exact k rfl _ _ dX1_parentOf_50
theorem w_md_parentOf_b6 {E : dEnv} {l : Launch} {G : dGeo} (hE : mdOk E l G cX1_parentOf 3 rmX1_parentOf) (v1 v2 : Int32) (σ : dS) {out} (h : md_parentOf_b6 v1 v2 σ = some out) (k : dK E cX1_parentOf (some .int) out) : dG E σ 6 [v1, v2] [] := by
  unfold md_parentOf_b6 at h
  refine dg_iload_n hE dX1_parentOf_6 1 rfl rfl ?_
  refine dg_if_lt hE dX1_parentOf_7 (tgt := 36) (by decide) h (fun h => ?_) (fun h => ?_)
  · exact w_md_parentOf_b36 hE v1 v2 σ h k
  · refine dg_aload0 hE dX1_parentOf_10 ?_
    refine md_gf1 hE dX1_parentOf_11 ?_
    refine dg_aload0 hE dX1_parentOf_14 ?_
    refine md_gf0 hE dX1_parentOf_15 ?_
    refine dg_iload_n hE dX1_parentOf_18 1 rfl rfl ?_
    refine md_ld0 hE dX1_parentOf_19 h (fun h => ?_)
    refine md_ld1 hE dX1_parentOf_20 h (fun h => ?_)
    refine dg_aload0 hE dX1_parentOf_21 ?_
    refine md_gf1 hE dX1_parentOf_22 ?_
    refine dg_iload_n hE dX1_parentOf_25 0 rfl rfl ?_
    refine md_ld1 hE dX1_parentOf_26 h (fun h => ?_)
    refine dg_icmp_lt hE dX1_parentOf_27 (tgt := 36) (by decide) h (fun h => ?_) (fun h => ?_)
    · exact w_md_parentOf_b36 hE v1 v2 σ h k
    · refine dg_iinc hE dX1_parentOf_30 1 (xs' := [v1, (v2 + (-1 : Int32))]) rfl rfl (by decide) rfl ?_
      refine dg_goto hE dX1_parentOf_33 (tgt := 6) (by decide) ?_
      cases h
      exact k
theorem w_md_parentOf_b5 {E : dEnv} {l : Launch} {G : dGeo} (hE : mdOk E l G cX1_parentOf 3 rmX1_parentOf) (v1 s0 : Int32) (σ : dS) {out} (h : md_parentOf_b5 v1 s0 σ = some out) (k : dK E cX1_parentOf (some .int) out) : dG E σ 5 [v1] [.int s0] := by
  unfold md_parentOf_b5 at h
  refine dg_istore_n hE dX1_parentOf_5 1 (xs' := [v1, s0]) rfl (Nat.le_of_ble_eq_true rfl) (by decide) rfl ?_
  cases h
  exact k
theorem w_md_parentOf_b0 {E : dEnv} {l : Launch} {G : dGeo} (hE : mdOk E l G cX1_parentOf 3 rmX1_parentOf) (v1 : Int32) (σ : dS) {out} (h : md_parentOf_b0 v1 σ = some out) (k : dK E cX1_parentOf (some .int) out) : dG E σ 0 [v1] [] := by
  unfold md_parentOf_b0 at h
  refine dg_aload0 hE dX1_parentOf_0 ?_
  refine dg_iload_n hE dX1_parentOf_1 0 rfl rfl ?_
  refine md_ca_where hE (by decide) dX1_parentOf_2 (Nat.le_of_ble_eq_true rfl) h (fun r_ h => ?_)
  exact w_md_parentOf_b5 hE v1 (r_.1) (r_.2) h k
theorem w_md_parentOf_st {E : dEnv} {l : Launch} {G : dGeo} (hE : mdOk E l G cX1_parentOf 3 rmX1_parentOf) (a : Nat × List Int32 × dS) {out} (h : md_parentOf_st a = some out) (k : dK E cX1_parentOf (some .int) out) : dG E a.2.2 a.1 a.2.1 [] := by
  obtain ⟨L, xs, σ⟩ := a
  unfold md_parentOf_st at h
  dsimp only at h ⊢
  by_cases c_ : L = 6
  · subst c_
    rw [if_pos rfl] at h
    match xs, h with
    | [x0, x1], h => exact w_md_parentOf_b6 hE x0 x1 σ h k
    | [], h => cases h
    | [_], h => cases h
    | _ :: _ :: _ :: _, h => cases h
  rw [if_neg c_] at h
  cases h
theorem met_md_parentOf (l : Launch) (G : dGeo) (sz : Nat) (v1 : Int32) (σ : dS) {r : Int32 × dS} (h : md_parentOf v1 σ = some r) : Met l yX1_parentOf (ws_ yX1_parentOf cX1_parentOf 3 (some .int)) rmX1_parentOf (dPc G.1 (md_ty G) (md_w G σ) sz [.ref G.2.1, .int v1]) (dQi G.1 (md_ty G) (md_w G σ) (md_w G r.2) sz r.1) 0 0 (va_A (md_w G σ) sz) := by
  refine dMet_i (w := md_w G) (σ := σ) (σ' := r.2) (th := [(0, .ref G.2.1)]) (b := 1) (xs := [v1]) (by decide) rfl rfl (Nat.le_of_ble_eq_true rfl) dth (fun E hE k => ?_)
  unfold md_parentOf at h
  obtain ⟨out, h1, h2⟩ := lpB_some h
  exact w_md_parentOf_b0 hE v1 σ h1 (dK_lp (fun a out => w_md_parentOf_st hE a) h2 k)
theorem md_ca_parentOf {E : dEnv} {l : Launch} {G : dGeo} {cc : ByteArray} {nL pc : Nat} {R : Room} {σ : dS} {xs : List Int32} {st : List Value} {τ : Type} {g : Int32 × dS → Option τ} {out : τ} {a0 : Int32} (hE : mdOk E l G cc nL R) (hR : 1 + 1 ≤ R.frames ∧ 8 + (3 + 11) + 22 ≤ R.locals) (hd : decode cc pc = .ok (.invokevirtual 116, 3)) (hs : (st.map fun v => v.category).sum ≤ 8) (h : Option.bind (md_parentOf a0 σ) g = some out) (k : ∀ r, g r = some out → dG E r.2 (pc + 3) xs (.int r.1 :: st)) : dG E σ pc xs (.int a0 :: .ref G.2.1 :: st) := by
  obtain ⟨r, h1, h2⟩ := obind h
  exact dg_callVi hE (As := [.int a0]) (st := st) (C := RX1) (rm := rmX1_parentOf) (md_recv G) (fun sz => met_md_parentOf l G sz a0 σ h1) (lw_V q540 q542 qs37 q51 q543) 1 rfl ⟨rfl, rfl⟩ (by decide +kernel) hR rfl hs hd (k r h2)
abbrev rmX1_isOn : Room := { frames := 2, cells := 0, slots := 0, locals := 44 }
theorem w_md_isOn_b303 {E : dEnv} {l : Launch} {G : dGeo} (hE : mdOk E l G cX1_isOn 10 rmX1_isOn) (σ : dS) {out} (h : md_isOn_b303 σ = some out) (k : dR E cX1_isOn (some .boolean) out) : dG E σ 303 [] [] := by
  unfold md_isOn_b303 at h
  refine dg_iconst hE dX1_isOn_303 (v := (1 : Int32)) (by decide) ?_
  refine dg_goto hE dX1_isOn_304 (tgt := 308) (by decide) ?_
  cases h
  exact k nz1 _ _ dX1_isOn_308
theorem w_md_isOn_b287 {E : dEnv} {l : Launch} {G : dGeo} (hE : mdOk E l G cX1_isOn 10 rmX1_isOn) (σ : dS) {out} (h : md_isOn_b287 σ = some out) (k : dR E cX1_isOn (some .boolean) out) : dG E σ 287 [] [] := by
  unfold md_isOn_b287 at h
  refine dg_iconst hE dX1_isOn_287 (v := (1 : Int32)) (by decide) ?_
  refine dg_goto hE dX1_isOn_288 (tgt := 292) (by decide) ?_
  cases h
  exact k nz1 _ _ dX1_isOn_292
theorem w_md_isOn_b91 {E : dEnv} {l : Launch} {G : dGeo} (hE : mdOk E l G cX1_isOn 10 rmX1_isOn) (v1 v2 v3 v4 v5 v6 v7 v8 s0 : Int32) (σ : dS) {out} (h : md_isOn_b91 v1 v2 v3 v4 v5 v6 v7 v8 s0 σ = some out) (k : dR E cX1_isOn (some .boolean) out) : dG E σ 91 [v1, v2, v3, v4, v5, v6, v7, v8] [.int s0] := by
  unfold md_isOn_b91 at h
  refine dg_istore hE dX1_isOn_91 8 (xs' := [v1, v2, v3, v4, v5, v6, v7, v8, s0]) rfl (Nat.le_of_ble_eq_true rfl) (by decide) rfl ?_
  refine dg_iload_n hE dX1_isOn_93 0 rfl rfl ?_
  refine dg_case (x := v1) (v := (0 : Int32)) h (fun c_ h => ?_) (fun c_ h => ?_)
  · refine dg_tabIn hE dX1_isOn_94 (tgt := 148) c_ rfl (by decide) (by decide) rfl (by decide) ?_
    refine dg_iload_n hE dX1_isOn_148 2 rfl rfl ?_
    refine dg_iload_n hE dX1_isOn_149 1 rfl rfl ?_
    refine dg_icmp_ne hE dX1_isOn_150 (tgt := 157) (by decide) h (fun h => ?_) (fun h => ?_)
    · refine dg_iconst hE dX1_isOn_157 (v := (0 : Int32)) (by decide) ?_
      cases h
      exact k nz0 _ _ dX1_isOn_158
    · refine dg_iconst hE dX1_isOn_153 (v := (1 : Int32)) (by decide) ?_
      refine dg_goto hE dX1_isOn_154 (tgt := 158) (by decide) ?_
      cases h
      exact k nz1 _ _ dX1_isOn_158
  · have n_0 := lv_neT c_ (show ((0 : Int32)).toInt = 0 by decide)
    refine dg_case (x := v1) (v := (1 : Int32)) h (fun c_ h => ?_) (fun c_ h => ?_)
    · refine dg_tabIn hE dX1_isOn_94 (tgt := 159) c_ rfl (by decide) (by decide) rfl (by decide) ?_
      refine dg_iload hE dX1_isOn_159 5 rfl rfl ?_
      refine dg_if_eq hE dX1_isOn_161 (tgt := 185) (by decide) h (fun h => ?_) (fun h => ?_)
      · refine dg_iconst hE dX1_isOn_185 (v := (0 : Int32)) (by decide) ?_
        cases h
        exact k nz0 _ _ dX1_isOn_186
      · refine dg_aload0 hE dX1_isOn_164 ?_
        refine md_gf1 hE dX1_isOn_165 ?_
        refine dg_iload_n hE dX1_isOn_168 2 rfl rfl ?_
        refine md_ld1 hE dX1_isOn_169 h (fun h => ?_)
        refine dg_aload0 hE dX1_isOn_170 ?_
        refine md_gf1 hE dX1_isOn_171 ?_
        refine dg_iload_n hE dX1_isOn_174 1 rfl rfl ?_
        refine md_ld1 hE dX1_isOn_175 h (fun h => ?_)
        refine dg_iconst hE dX1_isOn_176 (v := (1 : Int32)) (by decide) ?_
        refine dg_iadd hE dX1_isOn_177 ?_
        refine dg_icmp_ne hE dX1_isOn_178 (tgt := 185) (by decide) h (fun h => ?_) (fun h => ?_)
        · refine dg_iconst hE dX1_isOn_185 (v := (0 : Int32)) (by decide) ?_
          cases h
          exact k nz0 _ _ dX1_isOn_186
        · refine dg_iconst hE dX1_isOn_181 (v := (1 : Int32)) (by decide) ?_
          refine dg_goto hE dX1_isOn_182 (tgt := 186) (by decide) ?_
          cases h
          exact k nz1 _ _ dX1_isOn_186
    · have n_1 := lv_neT c_ (show ((1 : Int32)).toInt = 1 by decide)
      refine dg_case (x := v1) (v := (2 : Int32)) h (fun c_ h => ?_) (fun c_ h => ?_)
      · refine dg_tabIn hE dX1_isOn_94 (tgt := 187) c_ rfl (by decide) (by decide) rfl (by decide) ?_
        refine dg_iload_n hE dX1_isOn_187 2 rfl rfl ?_
        refine dg_iload hE dX1_isOn_188 7 rfl rfl ?_
        refine dg_icmp_ne hE dX1_isOn_190 (tgt := 197) (by decide) h (fun h => ?_) (fun h => ?_)
        · refine dg_iconst hE dX1_isOn_197 (v := (0 : Int32)) (by decide) ?_
          cases h
          exact k nz0 _ _ dX1_isOn_198
        · refine dg_iconst hE dX1_isOn_193 (v := (1 : Int32)) (by decide) ?_
          refine dg_goto hE dX1_isOn_194 (tgt := 198) (by decide) ?_
          cases h
          exact k nz1 _ _ dX1_isOn_198
      · have n_2 := lv_neT c_ (show ((2 : Int32)).toInt = 2 by decide)
        refine dg_case (x := v1) (v := (3 : Int32)) h (fun c_ h => ?_) (fun c_ h => ?_)
        · refine dg_tabIn hE dX1_isOn_94 (tgt := 199) c_ rfl (by decide) (by decide) rfl (by decide) ?_
          refine dg_iload hE dX1_isOn_199 5 rfl rfl ?_
          obtain ⟨hz, h⟩ := zok_some h
          cases h
          exact k hz _ _ dX1_isOn_201
        · have n_3 := lv_neT c_ (show ((3 : Int32)).toInt = 3 by decide)
          refine dg_case (x := v1) (v := (4 : Int32)) h (fun c_ h => ?_) (fun c_ h => ?_)
          · refine dg_tabIn hE dX1_isOn_94 (tgt := 202) c_ rfl (by decide) (by decide) rfl (by decide) ?_
            refine dg_iload hE dX1_isOn_202 6 rfl rfl ?_
            obtain ⟨hz, h⟩ := zok_some h
            cases h
            exact k hz _ _ dX1_isOn_204
          · have n_4 := lv_neT c_ (show ((4 : Int32)).toInt = 4 by decide)
            refine dg_case (x := v1) (v := (5 : Int32)) h (fun c_ h => ?_) (fun c_ h => ?_)
            · refine dg_tabIn hE dX1_isOn_94 (tgt := 205) c_ rfl (by decide) (by decide) rfl (by decide) ?_
              refine dg_iload hE dX1_isOn_205 8 rfl rfl ?_
              refine dg_if_eq hE dX1_isOn_207 (tgt := 221) (by decide) h (fun h => ?_) (fun h => ?_)
              · refine dg_iconst hE dX1_isOn_221 (v := (0 : Int32)) (by decide) ?_
                cases h
                exact k nz0 _ _ dX1_isOn_222
              · refine dg_iload hE dX1_isOn_210 4 rfl rfl ?_
                refine dg_iload hE dX1_isOn_212 3 rfl rfl ?_
                refine dg_icmp_le hE dX1_isOn_214 (tgt := 221) (by decide) h (fun h => ?_) (fun h => ?_)
                · refine dg_iconst hE dX1_isOn_221 (v := (0 : Int32)) (by decide) ?_
                  cases h
                  exact k nz0 _ _ dX1_isOn_222
                · refine dg_iconst hE dX1_isOn_217 (v := (1 : Int32)) (by decide) ?_
                  refine dg_goto hE dX1_isOn_218 (tgt := 222) (by decide) ?_
                  cases h
                  exact k nz1 _ _ dX1_isOn_222
            · have n_5 := lv_neT c_ (show ((5 : Int32)).toInt = 5 by decide)
              refine dg_case (x := v1) (v := (6 : Int32)) h (fun c_ h => ?_) (fun c_ h => ?_)
              · refine dg_tabIn hE dX1_isOn_94 (tgt := 223) c_ rfl (by decide) (by decide) rfl (by decide) ?_
                refine dg_iload hE dX1_isOn_223 8 rfl rfl ?_
                refine dg_if_eq hE dX1_isOn_225 (tgt := 239) (by decide) h (fun h => ?_) (fun h => ?_)
                · refine dg_iconst hE dX1_isOn_239 (v := (0 : Int32)) (by decide) ?_
                  cases h
                  exact k nz0 _ _ dX1_isOn_240
                · refine dg_iload hE dX1_isOn_228 4 rfl rfl ?_
                  refine dg_iload hE dX1_isOn_230 3 rfl rfl ?_
                  refine dg_icmp_ge hE dX1_isOn_232 (tgt := 239) (by decide) h (fun h => ?_) (fun h => ?_)
                  · refine dg_iconst hE dX1_isOn_239 (v := (0 : Int32)) (by decide) ?_
                    cases h
                    exact k nz0 _ _ dX1_isOn_240
                  · refine dg_iconst hE dX1_isOn_235 (v := (1 : Int32)) (by decide) ?_
                    refine dg_goto hE dX1_isOn_236 (tgt := 240) (by decide) ?_
                    cases h
                    exact k nz1 _ _ dX1_isOn_240
              · have n_6 := lv_neT c_ (show ((6 : Int32)).toInt = 6 by decide)
                refine dg_case (x := v1) (v := (7 : Int32)) h (fun c_ h => ?_) (fun c_ h => ?_)
                · refine dg_tabIn hE dX1_isOn_94 (tgt := 241) c_ rfl (by decide) (by decide) rfl (by decide) ?_
                  refine dg_iload hE dX1_isOn_241 4 rfl rfl ?_
                  refine dg_iload hE dX1_isOn_243 3 rfl rfl ?_
                  refine dg_icmp_le hE dX1_isOn_245 (tgt := 257) (by decide) h (fun h => ?_) (fun h => ?_)
                  · refine dg_iconst hE dX1_isOn_257 (v := (0 : Int32)) (by decide) ?_
                    cases h
                    exact k nz0 _ _ dX1_isOn_258
                  · refine dg_iload hE dX1_isOn_248 5 rfl rfl ?_
                    refine dg_if_ne hE dX1_isOn_250 (tgt := 257) (by decide) h (fun h => ?_) (fun h => ?_)
                    · refine dg_iconst hE dX1_isOn_257 (v := (0 : Int32)) (by decide) ?_
                      cases h
                      exact k nz0 _ _ dX1_isOn_258
                    · refine dg_iconst hE dX1_isOn_253 (v := (1 : Int32)) (by decide) ?_
                      refine dg_goto hE dX1_isOn_254 (tgt := 258) (by decide) ?_
                      cases h
                      exact k nz1 _ _ dX1_isOn_258
                · have n_7 := lv_neT c_ (show ((7 : Int32)).toInt = 7 by decide)
                  refine dg_case (x := v1) (v := (8 : Int32)) h (fun c_ h => ?_) (fun c_ h => ?_)
                  · refine dg_tabIn hE dX1_isOn_94 (tgt := 259) c_ rfl (by decide) (by decide) rfl (by decide) ?_
                    refine dg_iload hE dX1_isOn_259 4 rfl rfl ?_
                    refine dg_iload hE dX1_isOn_261 3 rfl rfl ?_
                    refine dg_icmp_ge hE dX1_isOn_263 (tgt := 275) (by decide) h (fun h => ?_) (fun h => ?_)
                    · refine dg_iconst hE dX1_isOn_275 (v := (0 : Int32)) (by decide) ?_
                      cases h
                      exact k nz0 _ _ dX1_isOn_276
                    · refine dg_iload hE dX1_isOn_266 6 rfl rfl ?_
                      refine dg_if_ne hE dX1_isOn_268 (tgt := 275) (by decide) h (fun h => ?_) (fun h => ?_)
                      · refine dg_iconst hE dX1_isOn_275 (v := (0 : Int32)) (by decide) ?_
                        cases h
                        exact k nz0 _ _ dX1_isOn_276
                      · refine dg_iconst hE dX1_isOn_271 (v := (1 : Int32)) (by decide) ?_
                        refine dg_goto hE dX1_isOn_272 (tgt := 276) (by decide) ?_
                        cases h
                        exact k nz1 _ _ dX1_isOn_276
                  · have n_8 := lv_neT c_ (show ((8 : Int32)).toInt = 8 by decide)
                    refine dg_case (x := v1) (v := (9 : Int32)) h (fun c_ h => ?_) (fun c_ h => ?_)
                    · refine dg_tabIn hE dX1_isOn_94 (tgt := 277) c_ rfl (by decide) (by decide) rfl (by decide) ?_
                      refine dg_iload hE dX1_isOn_277 5 rfl rfl ?_
                      refine dg_if_ne hE dX1_isOn_279 (tgt := 287) (by decide) h (fun h => ?_) (fun h => ?_)
                      · refine dg_drop (xs' := []) (ys := [v1, v2, v3, v4, v5, v6, v7, v8, s0]) rfl ?_
                        exact w_md_isOn_b287 hE σ h k
                      · refine dg_iload_n hE dX1_isOn_282 2 rfl rfl ?_
                        refine dg_iload_n hE dX1_isOn_283 1 rfl rfl ?_
                        refine dg_icmp_ne hE dX1_isOn_284 (tgt := 291) (by decide) h (fun h => ?_) (fun h => ?_)
                        · refine dg_iconst hE dX1_isOn_291 (v := (0 : Int32)) (by decide) ?_
                          cases h
                          exact k nz0 _ _ dX1_isOn_292
                        · refine dg_drop (xs' := []) (ys := [v1, v2, v3, v4, v5, v6, v7, v8, s0]) rfl ?_
                          exact w_md_isOn_b287 hE σ h k
                    · have n_9 := lv_neT c_ (show ((9 : Int32)).toInt = 9 by decide)
                      refine dg_tabOut hE dX1_isOn_94 (tgt := 293) (by have hq := trivial; omega) (by decide) ?_
                      refine dg_iload hE dX1_isOn_293 6 rfl rfl ?_
                      refine dg_if_ne hE dX1_isOn_295 (tgt := 303) (by decide) h (fun h => ?_) (fun h => ?_)
                      · refine dg_drop (xs' := []) (ys := [v1, v2, v3, v4, v5, v6, v7, v8, s0]) rfl ?_
                        exact w_md_isOn_b303 hE σ h k
                      · refine dg_iload_n hE dX1_isOn_298 2 rfl rfl ?_
                        refine dg_iload_n hE dX1_isOn_299 1 rfl rfl ?_
                        refine dg_icmp_ne hE dX1_isOn_300 (tgt := 307) (by decide) h (fun h => ?_) (fun h => ?_)
                        · refine dg_iconst hE dX1_isOn_307 (v := (0 : Int32)) (by decide) ?_
                          cases h
                          exact k nz0 _ _ dX1_isOn_308
                        · refine dg_drop (xs' := []) (ys := [v1, v2, v3, v4, v5, v6, v7, v8, s0]) rfl ?_
                          exact w_md_isOn_b303 hE σ h k
theorem w_md_isOn_b90 {E : dEnv} {l : Launch} {G : dGeo} (hE : mdOk E l G cX1_isOn 10 rmX1_isOn) (v1 v2 v3 v4 v5 v6 v7 v8 : Int32) (σ : dS) {out} (h : md_isOn_b90 v1 v2 v3 v4 v5 v6 v7 v8 σ = some out) (k : dR E cX1_isOn (some .boolean) out) : dG E σ 90 [v1, v2, v3, v4, v5, v6, v7, v8] [] := by
  unfold md_isOn_b90 at h
  refine dg_iconst hE dX1_isOn_90 (v := (0 : Int32)) (by decide) ?_
  exact w_md_isOn_b91 hE v1 v2 v3 v4 v5 v6 v7 v8 (0 : Int32) σ h k
theorem w_md_isOn_b83 {E : dEnv} {l : Launch} {G : dGeo} (hE : mdOk E l G cX1_isOn 10 rmX1_isOn) (v1 v2 v3 v4 v5 v6 v7 v8 s0 s1 : Int32) (σ : dS) {out} (h : md_isOn_b83 v1 v2 v3 v4 v5 v6 v7 v8 s0 s1 σ = some out) (k : dR E cX1_isOn (some .boolean) out) : dG E σ 83 [v1, v2, v3, v4, v5, v6, v7, v8] [.int s0, .int s1] := by
  unfold md_isOn_b83 at h
  refine dg_icmp_ne hE dX1_isOn_83 (tgt := 90) (by decide) h (fun h => ?_) (fun h => ?_)
  · exact w_md_isOn_b90 hE v1 v2 v3 v4 v5 v6 v7 v8 σ h k
  · refine dg_iconst hE dX1_isOn_86 (v := (1 : Int32)) (by decide) ?_
    refine dg_goto hE dX1_isOn_87 (tgt := 91) (by decide) ?_
    exact w_md_isOn_b91 hE v1 v2 v3 v4 v5 v6 v7 v8 (1 : Int32) σ h k
theorem w_md_isOn_b69 {E : dEnv} {l : Launch} {G : dGeo} (hE : mdOk E l G cX1_isOn 10 rmX1_isOn) (v1 v2 v3 v4 v5 v6 v7 s0 : Int32) (σ : dS) {out} (h : md_isOn_b69 v1 v2 v3 v4 v5 v6 v7 s0 σ = some out) (k : dR E cX1_isOn (some .boolean) out) : dG E σ 69 [v1, v2, v3, v4, v5, v6, v7] [.int s0] := by
  unfold md_isOn_b69 at h
  refine dg_istore hE dX1_isOn_69 7 (xs' := [v1, v2, v3, v4, v5, v6, v7, s0]) rfl (Nat.le_of_ble_eq_true rfl) (by decide) rfl ?_
  refine dg_iload hE dX1_isOn_71 7 rfl rfl ?_
  refine dg_if_lt hE dX1_isOn_73 (tgt := 90) (by decide) h (fun h => ?_) (fun h => ?_)
  · exact w_md_isOn_b90 hE v1 v2 v3 v4 v5 v6 v7 s0 σ h k
  · refine dg_iload hE dX1_isOn_76 7 rfl rfl ?_
    refine dg_aload0 hE dX1_isOn_78 ?_
    refine dg_iload_n hE dX1_isOn_79 2 rfl rfl ?_
    refine md_ca_parentOf hE (by decide) dX1_isOn_80 (Nat.le_of_ble_eq_true rfl) h (fun r_ h => ?_)
    exact w_md_isOn_b83 hE v1 v2 v3 v4 v5 v6 v7 s0 (r_.1) s0 (r_.2) h k
theorem w_md_isOn_b62 {E : dEnv} {l : Launch} {G : dGeo} (hE : mdOk E l G cX1_isOn 10 rmX1_isOn) (v1 v2 v3 v4 v5 v6 s0 : Int32) (σ : dS) {out} (h : md_isOn_b62 v1 v2 v3 v4 v5 v6 s0 σ = some out) (k : dR E cX1_isOn (some .boolean) out) : dG E σ 62 [v1, v2, v3, v4, v5, v6] [.int s0] := by
  unfold md_isOn_b62 at h
  refine dg_istore hE dX1_isOn_62 6 (xs' := [v1, v2, v3, v4, v5, v6, s0]) rfl (Nat.le_of_ble_eq_true rfl) (by decide) rfl ?_
  refine dg_aload0 hE dX1_isOn_64 ?_
  refine dg_iload_n hE dX1_isOn_65 1 rfl rfl ?_
  refine md_ca_parentOf hE (by decide) dX1_isOn_66 (Nat.le_of_ble_eq_true rfl) h (fun r_ h => ?_)
  exact w_md_isOn_b69 hE v1 v2 v3 v4 v5 v6 s0 (r_.1) (r_.2) h k
theorem w_md_isOn_b61 {E : dEnv} {l : Launch} {G : dGeo} (hE : mdOk E l G cX1_isOn 10 rmX1_isOn) (v1 v2 v3 v4 v5 v6 : Int32) (σ : dS) {out} (h : md_isOn_b61 v1 v2 v3 v4 v5 v6 σ = some out) (k : dR E cX1_isOn (some .boolean) out) : dG E σ 61 [v1, v2, v3, v4, v5, v6] [] := by
  unfold md_isOn_b61 at h
  refine dg_iconst hE dX1_isOn_61 (v := (0 : Int32)) (by decide) ?_
  exact w_md_isOn_b62 hE v1 v2 v3 v4 v5 v6 (0 : Int32) σ h k
theorem w_md_isOn_b54 {E : dEnv} {l : Launch} {G : dGeo} (hE : mdOk E l G cX1_isOn 10 rmX1_isOn) (v1 v2 v3 v4 v5 v6 s0 s1 : Int32) (σ : dS) {out} (h : md_isOn_b54 v1 v2 v3 v4 v5 v6 s0 s1 σ = some out) (k : dR E cX1_isOn (some .boolean) out) : dG E σ 54 [v1, v2, v3, v4, v5, v6] [.int s0, .int s1] := by
  unfold md_isOn_b54 at h
  refine dg_icmp_ge hE dX1_isOn_54 (tgt := 61) (by decide) h (fun h => ?_) (fun h => ?_)
  · exact w_md_isOn_b61 hE v1 v2 v3 v4 v5 v6 σ h k
  · refine dg_iconst hE dX1_isOn_57 (v := (1 : Int32)) (by decide) ?_
    refine dg_goto hE dX1_isOn_58 (tgt := 62) (by decide) ?_
    exact w_md_isOn_b62 hE v1 v2 v3 v4 v5 v6 (1 : Int32) σ h k
theorem w_md_isOn_b37 {E : dEnv} {l : Launch} {G : dGeo} (hE : mdOk E l G cX1_isOn 10 rmX1_isOn) (v1 v2 v3 v4 v5 s0 : Int32) (σ : dS) {out} (h : md_isOn_b37 v1 v2 v3 v4 v5 s0 σ = some out) (k : dR E cX1_isOn (some .boolean) out) : dG E σ 37 [v1, v2, v3, v4, v5] [.int s0] := by
  unfold md_isOn_b37 at h
  refine dg_istore hE dX1_isOn_37 5 (xs' := [v1, v2, v3, v4, v5, s0]) rfl (Nat.le_of_ble_eq_true rfl) (by decide) rfl ?_
  refine dg_iload hE dX1_isOn_39 3 rfl rfl ?_
  refine dg_iload hE dX1_isOn_41 4 rfl rfl ?_
  refine dg_icmp_le hE dX1_isOn_43 (tgt := 61) (by decide) h (fun h => ?_) (fun h => ?_)
  · exact w_md_isOn_b61 hE v1 v2 v3 v4 v5 s0 σ h k
  · refine dg_iload hE dX1_isOn_46 3 rfl rfl ?_
    refine dg_aload0 hE dX1_isOn_48 ?_
    refine dg_iload hE dX1_isOn_49 4 rfl rfl ?_
    refine md_ca_behind hE (by decide) dX1_isOn_51 (Nat.le_of_ble_eq_true rfl) h (fun r_ h => ?_)
    exact w_md_isOn_b54 hE v1 v2 v3 v4 v5 s0 (r_.1) v4 (r_.2) h k
theorem w_md_isOn_b36 {E : dEnv} {l : Launch} {G : dGeo} (hE : mdOk E l G cX1_isOn 10 rmX1_isOn) (v1 v2 v3 v4 v5 : Int32) (σ : dS) {out} (h : md_isOn_b36 v1 v2 v3 v4 v5 σ = some out) (k : dR E cX1_isOn (some .boolean) out) : dG E σ 36 [v1, v2, v3, v4, v5] [] := by
  unfold md_isOn_b36 at h
  refine dg_iconst hE dX1_isOn_36 (v := (0 : Int32)) (by decide) ?_
  exact w_md_isOn_b37 hE v1 v2 v3 v4 v5 (0 : Int32) σ h k
theorem w_md_isOn_b29 {E : dEnv} {l : Launch} {G : dGeo} (hE : mdOk E l G cX1_isOn 10 rmX1_isOn) (v1 v2 v3 v4 v5 s0 s1 : Int32) (σ : dS) {out} (h : md_isOn_b29 v1 v2 v3 v4 v5 s0 s1 σ = some out) (k : dR E cX1_isOn (some .boolean) out) : dG E σ 29 [v1, v2, v3, v4, v5] [.int s0, .int s1] := by
  unfold md_isOn_b29 at h
  refine dg_icmp_ge hE dX1_isOn_29 (tgt := 36) (by decide) h (fun h => ?_) (fun h => ?_)
  · exact w_md_isOn_b36 hE v1 v2 v3 v4 v5 σ h k
  · refine dg_iconst hE dX1_isOn_32 (v := (1 : Int32)) (by decide) ?_
    refine dg_goto hE dX1_isOn_33 (tgt := 37) (by decide) ?_
    exact w_md_isOn_b37 hE v1 v2 v3 v4 v5 (1 : Int32) σ h k
theorem w_md_isOn_b12 {E : dEnv} {l : Launch} {G : dGeo} (hE : mdOk E l G cX1_isOn 10 rmX1_isOn) (v1 v2 v3 v4 s0 : Int32) (σ : dS) {out} (h : md_isOn_b12 v1 v2 v3 v4 s0 σ = some out) (k : dR E cX1_isOn (some .boolean) out) : dG E σ 12 [v1, v2, v3, v4] [.int s0] := by
  unfold md_isOn_b12 at h
  refine dg_istore hE dX1_isOn_12 4 (xs' := [v1, v2, v3, v4, s0]) rfl (Nat.le_of_ble_eq_true rfl) (by decide) rfl ?_
  refine dg_iload hE dX1_isOn_14 4 rfl rfl ?_
  refine dg_iload hE dX1_isOn_16 3 rfl rfl ?_
  refine dg_icmp_le hE dX1_isOn_18 (tgt := 36) (by decide) h (fun h => ?_) (fun h => ?_)
  · exact w_md_isOn_b36 hE v1 v2 v3 v4 s0 σ h k
  · refine dg_iload hE dX1_isOn_21 4 rfl rfl ?_
    refine dg_aload0 hE dX1_isOn_23 ?_
    refine dg_iload hE dX1_isOn_24 3 rfl rfl ?_
    refine md_ca_behind hE (by decide) dX1_isOn_26 (Nat.le_of_ble_eq_true rfl) h (fun r_ h => ?_)
    exact w_md_isOn_b29 hE v1 v2 v3 v4 s0 (r_.1) s0 (r_.2) h k
theorem w_md_isOn_b5 {E : dEnv} {l : Launch} {G : dGeo} (hE : mdOk E l G cX1_isOn 10 rmX1_isOn) (v1 v2 v3 s0 : Int32) (σ : dS) {out} (h : md_isOn_b5 v1 v2 v3 s0 σ = some out) (k : dR E cX1_isOn (some .boolean) out) : dG E σ 5 [v1, v2, v3] [.int s0] := by
  unfold md_isOn_b5 at h
  refine dg_istore hE dX1_isOn_5 3 (xs' := [v1, v2, v3, s0]) rfl (Nat.le_of_ble_eq_true rfl) (by decide) rfl ?_
  refine dg_aload0 hE dX1_isOn_7 ?_
  refine dg_iload_n hE dX1_isOn_8 2 rfl rfl ?_
  refine md_ca_where hE (by decide) dX1_isOn_9 (Nat.le_of_ble_eq_true rfl) h (fun r_ h => ?_)
  exact w_md_isOn_b12 hE v1 v2 v3 s0 (r_.1) (r_.2) h k
theorem w_md_isOn_b0 {E : dEnv} {l : Launch} {G : dGeo} (hE : mdOk E l G cX1_isOn 10 rmX1_isOn) (v1 v2 v3 : Int32) (σ : dS) {out} (h : md_isOn_b0 v1 v2 v3 σ = some out) (k : dR E cX1_isOn (some .boolean) out) : dG E σ 0 [v1, v2, v3] [] := by
  unfold md_isOn_b0 at h
  refine dg_aload0 hE dX1_isOn_0 ?_
  refine dg_iload_n hE dX1_isOn_1 1 rfl rfl ?_
  refine md_ca_where hE (by decide) dX1_isOn_2 (Nat.le_of_ble_eq_true rfl) h (fun r_ h => ?_)
  exact w_md_isOn_b5 hE v1 v2 v3 (r_.1) (r_.2) h k
theorem met_md_isOn (l : Launch) (G : dGeo) (sz : Nat) (v1 v2 v3 : Int32) (σ : dS) {r : Int32 × dS} (h : md_isOn v1 v2 v3 σ = some r) : Met l yX1_isOn (ws_ yX1_isOn cX1_isOn 10 (some .boolean)) rmX1_isOn (dPc G.1 (md_ty G) (md_w G σ) sz [.ref G.2.1, .int v1, .int v2, .int v3]) (dQi G.1 (md_ty G) (md_w G σ) (md_w G r.2) sz r.1) 0 0 (va_A (md_w G σ) sz) := by
  refine dMet_i (w := md_w G) (σ := σ) (σ' := r.2) (th := [(0, .ref G.2.1)]) (b := 1) (xs := [v1, v2, v3]) (by decide) rfl rfl (Nat.le_of_ble_eq_true rfl) dth (fun E hE k => ?_)
  unfold md_isOn at h
  exact w_md_isOn_b0 hE v1 v2 v3 σ h k
theorem md_ca_isOn {E : dEnv} {l : Launch} {G : dGeo} {cc : ByteArray} {nL pc : Nat} {R : Room} {σ : dS} {xs : List Int32} {st : List Value} {τ : Type} {g : Int32 × dS → Option τ} {out : τ} {a0 a1 a2 : Int32} (hE : mdOk E l G cc nL R) (hR : 2 + 1 ≤ R.frames ∧ 8 + (10 + 11) + 44 ≤ R.locals) (hd : decode cc pc = .ok (.invokevirtual 122, 3)) (hs : (st.map fun v => v.category).sum ≤ 8) (h : Option.bind (md_isOn a0 a1 a2 σ) g = some out) (k : ∀ r, g r = some out → dG E r.2 (pc + 3) xs (.int r.1 :: st)) : dG E σ pc xs (.int a2 :: .int a1 :: .int a0 :: .ref G.2.1 :: st) := by
  obtain ⟨r, h1, h2⟩ := obind h
  exact dg_callVi hE (As := [.int a0, .int a1, .int a2]) (st := st) (C := RX1) (rm := rmX1_isOn) (md_recv G) (fun sz => met_md_isOn l G sz a0 a1 a2 σ h1) (lw_V q536 q538 qs36 q51 q539) 3 rfl ⟨rfl, rfl⟩ (by decide +kernel) hR rfl hs hd (k r h2)
