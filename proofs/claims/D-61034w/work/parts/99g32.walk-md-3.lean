set_option maxRecDepth 100000
abbrev rmX1_compare : Room := { frames := 0, cells := 0, slots := 0, locals := 0 }
theorem w_md_compare_b173 {E : dEnv} {l : Launch} {G : dGeo} (hE : mdOk E l G cX1_compare 8 rmX1_compare) (v1 v2 v3 v4 : Int32) (σ : dS) {out} (h : md_compare_b173 v1 v2 v3 v4 σ = some out) (k : dK E cX1_compare (some .boolean) out) : dG E σ 173 [v1, v2, v3, v4] [] := by
  unfold md_compare_b173 at h
  refine dg_iinc hE dX1_compare_173 3 (xs' := [v1, v2, v3, (v4 + (1 : Int32))]) rfl rfl (by decide) rfl ?_
  refine dg_goto hE dX1_compare_176 (tgt := 3) (by decide) ?_
  cases h
  exact k
theorem w_md_compare_b167 {E : dEnv} {l : Launch} {G : dGeo} (hE : mdOk E l G cX1_compare 8 rmX1_compare) (v1 v2 v3 v4 v5 v6 : Int32) (σ : dS) {out} (h : md_compare_b167 v1 v2 v3 v4 v5 v6 σ = some out) (k : dK E cX1_compare (some .boolean) out) : dG E σ 167 [v1, v2, v3, v4, v5, v6] [] := by
  unfold md_compare_b167 at h
  refine dg_iinc hE dX1_compare_167 5 (xs' := [v1, v2, v3, v4, v5, (v6 + (1 : Int32))]) rfl rfl (by decide) rfl ?_
  refine dg_goto hE dX1_compare_170 (tgt := 74) (by decide) ?_
  cases h
  exact k
theorem w_md_compare_b140 {E : dEnv} {l : Launch} {G : dGeo} (hE : mdOk E l G cX1_compare 8 rmX1_compare) (v1 v2 v3 v4 v5 v6 s0 : Int32) (σ : dS) {out} (h : md_compare_b140 v1 v2 v3 v4 v5 v6 s0 σ = some out) (k : dK E cX1_compare (some .boolean) out) : dG E σ 140 [v1, v2, v3, v4, v5, v6] [.int s0] := by
  unfold md_compare_b140 at h
  refine dg_istore hE dX1_compare_140 6 (xs' := [v1, v2, v3, v4, v5, v6, s0]) rfl (Nat.le_of_ble_eq_true rfl) (by decide) rfl ?_
  refine dg_iload_n hE dX1_compare_142 0 rfl rfl ?_
  refine dg_bipush hE dX1_compare_143 (v := (13 : Int32)) (by decide) ?_
  refine dg_icmp_ne hE dX1_compare_145 (tgt := 158) (by decide) h (fun h => ?_) (fun h => ?_)
  · refine dg_iload hE dX1_compare_158 4 rfl rfl ?_
    refine dg_iload hE dX1_compare_160 6 rfl rfl ?_
    refine dg_icmp_ne hE dX1_compare_162 (tgt := 167) (by decide) h (fun h => ?_) (fun h => ?_)
    · refine dg_drop (xs' := [v1, v2, v3, v4, v5, v6]) (ys := [s0]) rfl ?_
      exact w_md_compare_b167 hE v1 v2 v3 v4 v5 v6 σ h k
    · refine dg_iconst hE dX1_compare_165 (v := (1 : Int32)) (by decide) ?_
      cases h
      exact k nz1 _ _ dX1_compare_166
  · refine dg_iload hE dX1_compare_148 4 rfl rfl ?_
    refine dg_iload hE dX1_compare_150 6 rfl rfl ?_
    refine dg_icmp_ge hE dX1_compare_152 (tgt := 167) (by decide) h (fun h => ?_) (fun h => ?_)
    · refine dg_drop (xs' := [v1, v2, v3, v4, v5, v6]) (ys := [s0]) rfl ?_
      exact w_md_compare_b167 hE v1 v2 v3 v4 v5 v6 σ h k
    · refine dg_goto hE dX1_compare_155 (tgt := 165) (by decide) ?_
      refine dg_iconst hE dX1_compare_165 (v := (1 : Int32)) (by decide) ?_
      cases h
      exact k nz1 _ _ dX1_compare_166
theorem w_md_compare_b115 {E : dEnv} {l : Launch} {G : dGeo} (hE : mdOk E l G cX1_compare 8 rmX1_compare) (v1 v2 v3 v4 v5 v6 : Int32) (σ : dS) {out} (h : md_compare_b115 v1 v2 v3 v4 v5 v6 σ = some out) (k : dK E cX1_compare (some .boolean) out) : dG E σ 115 [v1, v2, v3, v4, v5, v6] [] := by
  unfold md_compare_b115 at h
  refine dg_aload0 hE dX1_compare_115 ?_
  refine md_gf11 hE dX1_compare_116 ?_
  refine dg_iload_n hE dX1_compare_119 2 rfl rfl ?_
  refine md_ld11 hE dX1_compare_120 h (fun h => ?_)
  refine dg_if_ne hE dX1_compare_121 (tgt := 134) (by decide) h (fun h => ?_) (fun h => ?_)
  · refine dg_aload0 hE dX1_compare_134 ?_
    refine md_gf12 hE dX1_compare_135 ?_
    refine dg_iload_n hE dX1_compare_138 2 rfl rfl ?_
    refine md_ld12 hE dX1_compare_139 h (fun h => ?_)
    exact w_md_compare_b140 hE v1 v2 v3 v4 v5 v6 (σ 12 v3.toNatClampNeg) σ h k
  · refine dg_aload0 hE dX1_compare_124 ?_
    refine md_gf3 hE dX1_compare_125 ?_
    refine dg_iload hE dX1_compare_128 5 rfl rfl ?_
    refine md_ld3 hE dX1_compare_130 h (fun h => ?_)
    refine dg_goto hE dX1_compare_131 (tgt := 140) (by decide) ?_
    exact w_md_compare_b140 hE v1 v2 v3 v4 v5 v6 (σ 3 v6.toNatClampNeg) σ h k
theorem w_md_compare_b74 {E : dEnv} {l : Launch} {G : dGeo} (hE : mdOk E l G cX1_compare 8 rmX1_compare) (v1 v2 v3 v4 v5 v6 : Int32) (σ : dS) {out} (h : md_compare_b74 v1 v2 v3 v4 v5 v6 σ = some out) (k : dK E cX1_compare (some .boolean) out) : dG E σ 74 [v1, v2, v3, v4, v5, v6] [] := by
  unfold md_compare_b74 at h
  refine dg_iload hE dX1_compare_74 5 rfl rfl ?_
  refine dg_bipush hE dX1_compare_76 (v := (24 : Int32)) (by decide) ?_
  refine dg_icmp_ge hE dX1_compare_78 (tgt := 173) (by decide) h (fun h => ?_) (fun h => ?_)
  · refine dg_drop (xs' := [v1, v2, v3, v4]) (ys := [v5, v6]) rfl ?_
    exact w_md_compare_b173 hE v1 v2 v3 v4 σ h k
  · refine dg_aload0 hE dX1_compare_81 ?_
    refine md_gf11 hE dX1_compare_82 ?_
    refine dg_iload_n hE dX1_compare_85 2 rfl rfl ?_
    refine md_ld11 hE dX1_compare_86 h (fun h => ?_)
    refine dg_if_ne hE dX1_compare_87 (tgt := 107) (by decide) h (fun h => ?_) (fun h => ?_)
    · refine dg_iload hE dX1_compare_107 5 rfl rfl ?_
      refine dg_if_le hE dX1_compare_109 (tgt := 115) (by decide) h (fun h => ?_) (fun h => ?_)
      · exact w_md_compare_b115 hE v1 v2 v3 v4 v5 v6 σ h k
      · refine dg_goto hE dX1_compare_112 (tgt := 167) (by decide) ?_
        exact w_md_compare_b167 hE v1 v2 v3 v4 v5 v6 σ h k
    · refine dg_aload0 hE dX1_compare_90 ?_
      refine md_gf13 hE dX1_compare_91 ?_
      refine dg_iload_n hE dX1_compare_94 2 rfl rfl ?_
      refine md_ld13 hE dX1_compare_95 h (fun h => ?_)
      refine dg_iload hE dX1_compare_96 5 rfl rfl ?_
      refine dg_ishr hE dX1_compare_98 ?_
      refine dg_iconst hE dX1_compare_99 (v := (1 : Int32)) (by decide) ?_
      refine dg_iand hE dX1_compare_100 ?_
      refine dg_if_ne hE dX1_compare_101 (tgt := 115) (by decide) h (fun h => ?_) (fun h => ?_)
      · exact w_md_compare_b115 hE v1 v2 v3 v4 v5 v6 σ h k
      · refine dg_goto hE dX1_compare_104 (tgt := 167) (by decide) ?_
        exact w_md_compare_b167 hE v1 v2 v3 v4 v5 v6 σ h k
theorem w_md_compare_b69 {E : dEnv} {l : Launch} {G : dGeo} (hE : mdOk E l G cX1_compare 8 rmX1_compare) (v1 v2 v3 v4 s0 : Int32) (σ : dS) {out} (h : md_compare_b69 v1 v2 v3 v4 s0 σ = some out) (k : dK E cX1_compare (some .boolean) out) : dG E σ 69 [v1, v2, v3, v4] [.int s0] := by
  unfold md_compare_b69 at h
  refine dg_istore hE dX1_compare_69 4 (xs' := [v1, v2, v3, v4, s0]) rfl (Nat.le_of_ble_eq_true rfl) (by decide) rfl ?_
  refine dg_iconst hE dX1_compare_71 (v := (0 : Int32)) (by decide) ?_
  refine dg_istore hE dX1_compare_72 5 (xs' := [v1, v2, v3, v4, s0, (0 : Int32)]) rfl (Nat.le_of_ble_eq_true rfl) (by decide) rfl ?_
  cases h
  exact k
theorem w_md_compare_b44 {E : dEnv} {l : Launch} {G : dGeo} (hE : mdOk E l G cX1_compare 8 rmX1_compare) (v1 v2 v3 v4 : Int32) (σ : dS) {out} (h : md_compare_b44 v1 v2 v3 v4 σ = some out) (k : dK E cX1_compare (some .boolean) out) : dG E σ 44 [v1, v2, v3, v4] [] := by
  unfold md_compare_b44 at h
  refine dg_aload0 hE dX1_compare_44 ?_
  refine md_gf11 hE dX1_compare_45 ?_
  refine dg_iload_n hE dX1_compare_48 1 rfl rfl ?_
  refine md_ld11 hE dX1_compare_49 h (fun h => ?_)
  refine dg_if_ne hE dX1_compare_50 (tgt := 63) (by decide) h (fun h => ?_) (fun h => ?_)
  · refine dg_aload0 hE dX1_compare_63 ?_
    refine md_gf12 hE dX1_compare_64 ?_
    refine dg_iload_n hE dX1_compare_67 1 rfl rfl ?_
    refine md_ld12 hE dX1_compare_68 h (fun h => ?_)
    exact w_md_compare_b69 hE v1 v2 v3 v4 (σ 12 v2.toNatClampNeg) σ h k
  · refine dg_aload0 hE dX1_compare_53 ?_
    refine md_gf3 hE dX1_compare_54 ?_
    refine dg_iload hE dX1_compare_57 3 rfl rfl ?_
    refine md_ld3 hE dX1_compare_59 h (fun h => ?_)
    refine dg_goto hE dX1_compare_60 (tgt := 69) (by decide) ?_
    exact w_md_compare_b69 hE v1 v2 v3 v4 (σ 3 v4.toNatClampNeg) σ h k
theorem w_md_compare_b3 {E : dEnv} {l : Launch} {G : dGeo} (hE : mdOk E l G cX1_compare 8 rmX1_compare) (v1 v2 v3 v4 : Int32) (σ : dS) {out} (h : md_compare_b3 v1 v2 v3 v4 σ = some out) (k : dK E cX1_compare (some .boolean) out) : dG E σ 3 [v1, v2, v3, v4] [] := by
  unfold md_compare_b3 at h
  refine dg_iload hE dX1_compare_3 3 rfl rfl ?_
  refine dg_bipush hE dX1_compare_5 (v := (24 : Int32)) (by decide) ?_
  refine dg_icmp_ge hE dX1_compare_7 (tgt := 179) (by decide) h (fun h => ?_) (fun h => ?_)
  · refine dg_iconst hE dX1_compare_179 (v := (0 : Int32)) (by decide) ?_
    cases h
    exact k nz0 _ _ dX1_compare_180
  · refine dg_aload0 hE dX1_compare_10 ?_
    refine md_gf11 hE dX1_compare_11 ?_
    refine dg_iload_n hE dX1_compare_14 1 rfl rfl ?_
    refine md_ld11 hE dX1_compare_15 h (fun h => ?_)
    refine dg_if_ne hE dX1_compare_16 (tgt := 36) (by decide) h (fun h => ?_) (fun h => ?_)
    · refine dg_iload hE dX1_compare_36 3 rfl rfl ?_
      refine dg_if_le hE dX1_compare_38 (tgt := 44) (by decide) h (fun h => ?_) (fun h => ?_)
      · exact w_md_compare_b44 hE v1 v2 v3 v4 σ h k
      · refine dg_goto hE dX1_compare_41 (tgt := 173) (by decide) ?_
        exact w_md_compare_b173 hE v1 v2 v3 v4 σ h k
    · refine dg_aload0 hE dX1_compare_19 ?_
      refine md_gf13 hE dX1_compare_20 ?_
      refine dg_iload_n hE dX1_compare_23 1 rfl rfl ?_
      refine md_ld13 hE dX1_compare_24 h (fun h => ?_)
      refine dg_iload hE dX1_compare_25 3 rfl rfl ?_
      refine dg_ishr hE dX1_compare_27 ?_
      refine dg_iconst hE dX1_compare_28 (v := (1 : Int32)) (by decide) ?_
      refine dg_iand hE dX1_compare_29 ?_
      refine dg_if_ne hE dX1_compare_30 (tgt := 44) (by decide) h (fun h => ?_) (fun h => ?_)
      · exact w_md_compare_b44 hE v1 v2 v3 v4 σ h k
      · refine dg_goto hE dX1_compare_33 (tgt := 173) (by decide) ?_
        exact w_md_compare_b173 hE v1 v2 v3 v4 σ h k
theorem w_md_compare_b0 {E : dEnv} {l : Launch} {G : dGeo} (hE : mdOk E l G cX1_compare 8 rmX1_compare) (v1 v2 v3 : Int32) (σ : dS) {out} (h : md_compare_b0 v1 v2 v3 σ = some out) (k : dK E cX1_compare (some .boolean) out) : dG E σ 0 [v1, v2, v3] [] := by
  unfold md_compare_b0 at h
  refine dg_iconst hE dX1_compare_0 (v := (0 : Int32)) (by decide) ?_
  refine dg_istore hE dX1_compare_1 3 (xs' := [v1, v2, v3, (0 : Int32)]) rfl (Nat.le_of_ble_eq_true rfl) (by decide) rfl ?_
  cases h
  exact k
theorem w_md_compare_st {E : dEnv} {l : Launch} {G : dGeo} (hE : mdOk E l G cX1_compare 8 rmX1_compare) (a : Nat × List Int32 × dS) {out} (h : md_compare_st a = some out) (k : dK E cX1_compare (some .boolean) out) : dG E a.2.2 a.1 a.2.1 [] := by
  obtain ⟨L, xs, σ⟩ := a
  unfold md_compare_st at h
  dsimp only at h ⊢
  by_cases c_ : L = 3
  · subst c_
    rw [if_pos rfl] at h
    match xs, h with
    | [x0, x1, x2, x3], h => exact w_md_compare_b3 hE x0 x1 x2 x3 σ h k
    | [], h => cases h
    | [_], h => cases h
    | [_, _], h => cases h
    | [_, _, _], h => cases h
    | _ :: _ :: _ :: _ :: _ :: _, h => cases h
  rw [if_neg c_] at h
  by_cases c_ : L = 74
  · subst c_
    rw [if_pos rfl] at h
    match xs, h with
    | [x0, x1, x2, x3, x4, x5], h => exact w_md_compare_b74 hE x0 x1 x2 x3 x4 x5 σ h k
    | [], h => cases h
    | [_], h => cases h
    | [_, _], h => cases h
    | [_, _, _], h => cases h
    | [_, _, _, _], h => cases h
    | [_, _, _, _, _], h => cases h
    | _ :: _ :: _ :: _ :: _ :: _ :: _ :: _, h => cases h
  rw [if_neg c_] at h
  cases h
theorem met_md_compare (l : Launch) (G : dGeo) (sz : Nat) (v1 v2 v3 : Int32) (σ : dS) {r : Int32 × dS} (h : md_compare v1 v2 v3 σ = some r) : Met l yX1_compare (ws_ yX1_compare cX1_compare 8 (some .boolean)) rmX1_compare (dPc G.1 (md_ty G) (md_w G σ) sz [.ref G.2.1, .int v1, .int v2, .int v3]) (dQi G.1 (md_ty G) (md_w G σ) (md_w G r.2) sz r.1) 0 0 (va_A (md_w G σ) sz) := by
  refine dMet_i (w := md_w G) (σ := σ) (σ' := r.2) (th := [(0, .ref G.2.1)]) (b := 1) (xs := [v1, v2, v3]) (by decide) rfl rfl (Nat.le_of_ble_eq_true rfl) dth (fun E hE k => ?_)
  unfold md_compare at h
  obtain ⟨out, h1, h2⟩ := lpB_some h
  exact w_md_compare_b0 hE v1 v2 v3 σ h1 (dK_lp (fun a out => w_md_compare_st hE a) h2 k)
theorem md_ca_compare {E : dEnv} {l : Launch} {G : dGeo} {cc : ByteArray} {nL pc : Nat} {R : Room} {σ : dS} {xs : List Int32} {st : List Value} {τ : Type} {g : Int32 × dS → Option τ} {out : τ} {a0 a1 a2 : Int32} (hE : mdOk E l G cc nL R) (hR : 0 + 1 ≤ R.frames ∧ 8 + (8 + 11) + 0 ≤ R.locals) (hd : decode cc pc = .ok (.invokevirtual 153, 3)) (hs : (st.map fun v => v.category).sum ≤ 8) (h : Option.bind (md_compare a0 a1 a2 σ) g = some out) (k : ∀ r, g r = some out → dG E r.2 (pc + 3) xs (.int r.1 :: st)) : dG E σ pc xs (.int a2 :: .int a1 :: .int a0 :: .ref G.2.1 :: st) := by
  obtain ⟨r, h1, h2⟩ := obind h
  exact dg_callVi hE (As := [.int a0, .int a1, .int a2]) (st := st) (C := RX1) (rm := rmX1_compare) (md_recv G) (fun sz => met_md_compare l G sz a0 a1 a2 σ h1) (lw_V q568 q570 qs44 q51 q571) 3 rfl ⟨rfl, rfl⟩ (by decide +kernel) hR rfl hs hd (k r h2)
abbrev rmX1_counted : Room := { frames := 0, cells := 0, slots := 0, locals := 0 }
theorem w_md_counted_b4 {E : dEnv} {l : Launch} {G : dGeo} (hE : mdOk E l G cX1_counted 4 rmX1_counted) (v1 v2 v3 : Int32) (σ : dS) {out} (h : md_counted_b4 v1 v2 v3 σ = some out) (k : dK E cX1_counted (some .int) out) : dG E σ 4 [v1, v2, v3] [] := by
  unfold md_counted_b4 at h
  refine dg_iload_n hE dX1_counted_4 2 rfl rfl ?_
  refine dg_bipush hE dX1_counted_5 (v := (24 : Int32)) (by decide) ?_
  refine dg_icmp_ge hE dX1_counted_7 (tgt := 24) (by decide) h (fun h => ?_) (fun h => ?_)
  · refine dg_iload_n hE dX1_counted_24 1 rfl rfl ?_
    cases h
    exact k rfl _ _ dX1_counted_25
  · refine dg_iload_n hE dX1_counted_10 1 rfl rfl ?_
    refine dg_iload_n hE dX1_counted_11 0 rfl rfl ?_
    refine dg_iload_n hE dX1_counted_12 2 rfl rfl ?_
    refine dg_ishr hE dX1_counted_13 ?_
    refine dg_iconst hE dX1_counted_14 (v := (1 : Int32)) (by decide) ?_
    refine dg_iand hE dX1_counted_15 ?_
    refine dg_iadd hE dX1_counted_16 ?_
    refine dg_istore_n hE dX1_counted_17 1 (xs' := [v1, (v2 + ((v1 >>> (v3 &&& 31)) &&& (1 : Int32))), v3]) rfl (Nat.le_of_ble_eq_true rfl) (by decide) rfl ?_
    refine dg_iinc hE dX1_counted_18 2 (xs' := [v1, (v2 + ((v1 >>> (v3 &&& 31)) &&& (1 : Int32))), (v3 + (1 : Int32))]) rfl rfl (by decide) rfl ?_
    refine dg_goto hE dX1_counted_21 (tgt := 4) (by decide) ?_
    cases h
    exact k
theorem w_md_counted_b0 {E : dEnv} {l : Launch} {G : dGeo} (hE : mdOk E l G cX1_counted 4 rmX1_counted) (v1 : Int32) (σ : dS) {out} (h : md_counted_b0 v1 σ = some out) (k : dK E cX1_counted (some .int) out) : dG E σ 0 [v1] [] := by
  unfold md_counted_b0 at h
  refine dg_iconst hE dX1_counted_0 (v := (0 : Int32)) (by decide) ?_
  refine dg_istore_n hE dX1_counted_1 1 (xs' := [v1, (0 : Int32)]) rfl (Nat.le_of_ble_eq_true rfl) (by decide) rfl ?_
  refine dg_iconst hE dX1_counted_2 (v := (0 : Int32)) (by decide) ?_
  refine dg_istore_n hE dX1_counted_3 2 (xs' := [v1, (0 : Int32), (0 : Int32)]) rfl (Nat.le_of_ble_eq_true rfl) (by decide) rfl ?_
  cases h
  exact k
theorem w_md_counted_st {E : dEnv} {l : Launch} {G : dGeo} (hE : mdOk E l G cX1_counted 4 rmX1_counted) (a : Nat × List Int32 × dS) {out} (h : md_counted_st a = some out) (k : dK E cX1_counted (some .int) out) : dG E a.2.2 a.1 a.2.1 [] := by
  obtain ⟨L, xs, σ⟩ := a
  unfold md_counted_st at h
  dsimp only at h ⊢
  by_cases c_ : L = 4
  · subst c_
    rw [if_pos rfl] at h
    match xs, h with
    | [x0, x1, x2], h => exact w_md_counted_b4 hE x0 x1 x2 σ h k
    | [], h => cases h
    | [_], h => cases h
    | [_, _], h => cases h
    | _ :: _ :: _ :: _ :: _, h => cases h
  rw [if_neg c_] at h
  cases h
theorem met_md_counted (l : Launch) (G : dGeo) (sz : Nat) (v1 : Int32) (σ : dS) {r : Int32 × dS} (h : md_counted v1 σ = some r) : Met l yX1_counted (ws_ yX1_counted cX1_counted 4 (some .int)) rmX1_counted (dPc G.1 (md_ty G) (md_w G σ) sz [.ref G.2.1, .int v1]) (dQi G.1 (md_ty G) (md_w G σ) (md_w G r.2) sz r.1) 0 0 (va_A (md_w G σ) sz) := by
  refine dMet_i (w := md_w G) (σ := σ) (σ' := r.2) (th := [(0, .ref G.2.1)]) (b := 1) (xs := [v1]) (by decide) rfl rfl (Nat.le_of_ble_eq_true rfl) dth (fun E hE k => ?_)
  unfold md_counted at h
  obtain ⟨out, h1, h2⟩ := lpB_some h
  exact w_md_counted_b0 hE v1 σ h1 (dK_lp (fun a out => w_md_counted_st hE a) h2 k)
theorem md_ca_counted {E : dEnv} {l : Launch} {G : dGeo} {cc : ByteArray} {nL pc : Nat} {R : Room} {σ : dS} {xs : List Int32} {st : List Value} {τ : Type} {g : Int32 × dS → Option τ} {out : τ} {a0 : Int32} (hE : mdOk E l G cc nL R) (hR : 0 + 1 ≤ R.frames ∧ 8 + (4 + 11) + 0 ≤ R.locals) (hd : decode cc pc = .ok (.invokevirtual 147, 3)) (hs : (st.map fun v => v.category).sum ≤ 8) (h : Option.bind (md_counted a0 σ) g = some out) (k : ∀ r, g r = some out → dG E r.2 (pc + 3) xs (.int r.1 :: st)) : dG E σ pc xs (.int a0 :: .ref G.2.1 :: st) := by
  obtain ⟨r, h1, h2⟩ := obind h
  exact dg_callVi hE (As := [.int a0]) (st := st) (C := RX1) (rm := rmX1_counted) (md_recv G) (fun sz => met_md_counted l G sz a0 σ h1) (lw_V q556 q558 qs41 q51 q559) 1 rfl ⟨rfl, rfl⟩ (by decide +kernel) hR rfl hs hd (k r h2)
abbrev rmX1_firstOf : Room := { frames := 0, cells := 0, slots := 0, locals := 0 }
theorem w_md_firstOf_b2 {E : dEnv} {l : Launch} {G : dGeo} (hE : mdOk E l G cX1_firstOf 3 rmX1_firstOf) (v1 v2 : Int32) (σ : dS) {out} (h : md_firstOf_b2 v1 v2 σ = some out) (k : dK E cX1_firstOf (some .int) out) : dG E σ 2 [v1, v2] [] := by
  unfold md_firstOf_b2 at h
  refine dg_iload_n hE dX1_firstOf_2 1 rfl rfl ?_
  refine dg_aload0 hE dX1_firstOf_3 ?_
  refine md_gf5 hE dX1_firstOf_4 ?_
  refine dg_icmp_ge hE dX1_firstOf_7 (tgt := 42) (by decide) h (fun h => ?_) (fun h => ?_)
  · refine dg_iconst hE dX1_firstOf_42 (v := (0 : Int32)) (by decide) ?_
    cases h
    exact k rfl _ _ dX1_firstOf_43
  · refine dg_iload_n hE dX1_firstOf_10 0 rfl rfl ?_
    refine dg_aload0 hE dX1_firstOf_11 ?_
    refine md_gf0 hE dX1_firstOf_12 ?_
    refine dg_iload_n hE dX1_firstOf_15 1 rfl rfl ?_
    refine md_ld0 hE dX1_firstOf_16 h (fun h => ?_)
    refine dg_ishr hE dX1_firstOf_17 ?_
    refine dg_iconst hE dX1_firstOf_18 (v := (1 : Int32)) (by decide) ?_
    refine dg_iand hE dX1_firstOf_19 ?_
    refine dg_iconst hE dX1_firstOf_20 (v := (1 : Int32)) (by decide) ?_
    refine dg_icmp_ne hE dX1_firstOf_21 (tgt := 36) (by decide) h (fun h => ?_) (fun h => ?_)
    · refine dg_iinc hE dX1_firstOf_36 1 (xs' := [v1, (v2 + (1 : Int32))]) rfl rfl (by decide) rfl ?_
      refine dg_goto hE dX1_firstOf_39 (tgt := 2) (by decide) ?_
      cases h
      exact k
    · refine dg_aload0 hE dX1_firstOf_24 ?_
      refine md_gf3 hE dX1_firstOf_25 ?_
      refine dg_aload0 hE dX1_firstOf_28 ?_
      refine md_gf0 hE dX1_firstOf_29 ?_
      refine dg_iload_n hE dX1_firstOf_32 1 rfl rfl ?_
      refine md_ld0 hE dX1_firstOf_33 h (fun h => ?_)
      refine md_ld3 hE dX1_firstOf_34 h (fun h => ?_)
      cases h
      exact k rfl _ _ dX1_firstOf_35
theorem w_md_firstOf_b0 {E : dEnv} {l : Launch} {G : dGeo} (hE : mdOk E l G cX1_firstOf 3 rmX1_firstOf) (v1 : Int32) (σ : dS) {out} (h : md_firstOf_b0 v1 σ = some out) (k : dK E cX1_firstOf (some .int) out) : dG E σ 0 [v1] [] := by
  unfold md_firstOf_b0 at h
  refine dg_iconst hE dX1_firstOf_0 (v := (0 : Int32)) (by decide) ?_
  refine dg_istore_n hE dX1_firstOf_1 1 (xs' := [v1, (0 : Int32)]) rfl (Nat.le_of_ble_eq_true rfl) (by decide) rfl ?_
  cases h
  exact k
theorem w_md_firstOf_st {E : dEnv} {l : Launch} {G : dGeo} (hE : mdOk E l G cX1_firstOf 3 rmX1_firstOf) (a : Nat × List Int32 × dS) {out} (h : md_firstOf_st a = some out) (k : dK E cX1_firstOf (some .int) out) : dG E a.2.2 a.1 a.2.1 [] := by
  obtain ⟨L, xs, σ⟩ := a
  unfold md_firstOf_st at h
  dsimp only at h ⊢
  by_cases c_ : L = 2
  · subst c_
    rw [if_pos rfl] at h
    match xs, h with
    | [x0, x1], h => exact w_md_firstOf_b2 hE x0 x1 σ h k
    | [], h => cases h
    | [_], h => cases h
    | _ :: _ :: _ :: _, h => cases h
  rw [if_neg c_] at h
  cases h
theorem met_md_firstOf (l : Launch) (G : dGeo) (sz : Nat) (v1 : Int32) (σ : dS) {r : Int32 × dS} (h : md_firstOf v1 σ = some r) : Met l yX1_firstOf (ws_ yX1_firstOf cX1_firstOf 3 (some .int)) rmX1_firstOf (dPc G.1 (md_ty G) (md_w G σ) sz [.ref G.2.1, .int v1]) (dQi G.1 (md_ty G) (md_w G σ) (md_w G r.2) sz r.1) 0 0 (va_A (md_w G σ) sz) := by
  refine dMet_i (w := md_w G) (σ := σ) (σ' := r.2) (th := [(0, .ref G.2.1)]) (b := 1) (xs := [v1]) (by decide) rfl rfl (Nat.le_of_ble_eq_true rfl) dth (fun E hE k => ?_)
  unfold md_firstOf at h
  obtain ⟨out, h1, h2⟩ := lpB_some h
  exact w_md_firstOf_b0 hE v1 σ h1 (dK_lp (fun a out => w_md_firstOf_st hE a) h2 k)
theorem md_ca_firstOf {E : dEnv} {l : Launch} {G : dGeo} {cc : ByteArray} {nL pc : Nat} {R : Room} {σ : dS} {xs : List Int32} {st : List Value} {τ : Type} {g : Int32 × dS → Option τ} {out : τ} {a0 : Int32} (hE : mdOk E l G cc nL R) (hR : 0 + 1 ≤ R.frames ∧ 8 + (3 + 11) + 0 ≤ R.locals) (hd : decode cc pc = .ok (.invokevirtual 140, 3)) (hs : (st.map fun v => v.category).sum ≤ 8) (h : Option.bind (md_firstOf a0 σ) g = some out) (k : ∀ r, g r = some out → dG E r.2 (pc + 3) xs (.int r.1 :: st)) : dG E σ pc xs (.int a0 :: .ref G.2.1 :: st) := by
  obtain ⟨r, h1, h2⟩ := obind h
  exact dg_callVi hE (As := [.int a0]) (st := st) (C := RX1) (rm := rmX1_firstOf) (md_recv G) (fun sz => met_md_firstOf l G sz a0 σ h1) (lw_V q564 q566 qs43 q51 q567) 1 rfl ⟨rfl, rfl⟩ (by decide +kernel) hR rfl hs hd (k r h2)
abbrev rmX1_isTrue : Room := { frames := 0, cells := 0, slots := 0, locals := 0 }
theorem w_md_isTrue_b0 {E : dEnv} {l : Launch} {G : dGeo} (hE : mdOk E l G cX1_isTrue 2 rmX1_isTrue) (v1 : Int32) (σ : dS) {out} (h : md_isTrue_b0 v1 σ = some out) (k : dR E cX1_isTrue (some .boolean) out) : dG E σ 0 [v1] [] := by
  unfold md_isTrue_b0 at h
  refine dg_aload0 hE dX1_isTrue_0 ?_
  refine md_gf11 hE dX1_isTrue_1 ?_
  refine dg_iload_n hE dX1_isTrue_4 0 rfl rfl ?_
  refine md_ld11 hE dX1_isTrue_5 h (fun h => ?_)
  refine dg_if_ne hE dX1_isTrue_6 (tgt := 26) (by decide) h (fun h => ?_) (fun h => ?_)
  · refine dg_aload0 hE dX1_isTrue_26 ?_
    refine md_gf12 hE dX1_isTrue_27 ?_
    refine dg_iload_n hE dX1_isTrue_30 0 rfl rfl ?_
    refine md_ld12 hE dX1_isTrue_31 h (fun h => ?_)
    refine dg_if_eq hE dX1_isTrue_32 (tgt := 39) (by decide) h (fun h => ?_) (fun h => ?_)
    · refine dg_iconst hE dX1_isTrue_39 (v := (0 : Int32)) (by decide) ?_
      cases h
      exact k nz0 _ _ dX1_isTrue_40
    · refine dg_iconst hE dX1_isTrue_35 (v := (1 : Int32)) (by decide) ?_
      refine dg_goto hE dX1_isTrue_36 (tgt := 40) (by decide) ?_
      cases h
      exact k nz1 _ _ dX1_isTrue_40
  · refine dg_aload0 hE dX1_isTrue_9 ?_
    refine md_gf13 hE dX1_isTrue_10 ?_
    refine dg_iload_n hE dX1_isTrue_13 0 rfl rfl ?_
    refine md_ld13 hE dX1_isTrue_14 h (fun h => ?_)
    refine dg_if_eq hE dX1_isTrue_15 (tgt := 22) (by decide) h (fun h => ?_) (fun h => ?_)
    · refine dg_iconst hE dX1_isTrue_22 (v := (0 : Int32)) (by decide) ?_
      refine dg_goto hE dX1_isTrue_23 (tgt := 40) (by decide) ?_
      cases h
      exact k nz0 _ _ dX1_isTrue_40
    · refine dg_iconst hE dX1_isTrue_18 (v := (1 : Int32)) (by decide) ?_
      refine dg_goto hE dX1_isTrue_19 (tgt := 40) (by decide) ?_
      cases h
      exact k nz1 _ _ dX1_isTrue_40
theorem met_md_isTrue (l : Launch) (G : dGeo) (sz : Nat) (v1 : Int32) (σ : dS) {r : Int32 × dS} (h : md_isTrue v1 σ = some r) : Met l yX1_isTrue (ws_ yX1_isTrue cX1_isTrue 2 (some .boolean)) rmX1_isTrue (dPc G.1 (md_ty G) (md_w G σ) sz [.ref G.2.1, .int v1]) (dQi G.1 (md_ty G) (md_w G σ) (md_w G r.2) sz r.1) 0 0 (va_A (md_w G σ) sz) := by
  refine dMet_i (w := md_w G) (σ := σ) (σ' := r.2) (th := [(0, .ref G.2.1)]) (b := 1) (xs := [v1]) (by decide) rfl rfl (Nat.le_of_ble_eq_true rfl) dth (fun E hE k => ?_)
  unfold md_isTrue at h
  exact w_md_isTrue_b0 hE v1 σ h k
theorem md_ca_isTrue {E : dEnv} {l : Launch} {G : dGeo} {cc : ByteArray} {nL pc : Nat} {R : Room} {σ : dS} {xs : List Int32} {st : List Value} {τ : Type} {g : Int32 × dS → Option τ} {out : τ} {a0 : Int32} (hE : mdOk E l G cc nL R) (hR : 0 + 1 ≤ R.frames ∧ 8 + (2 + 11) + 0 ≤ R.locals) (hd : decode cc pc = .ok (.invokevirtual 156, 3)) (hs : (st.map fun v => v.category).sum ≤ 8) (h : Option.bind (md_isTrue a0 σ) g = some out) (k : ∀ r, g r = some out → dG E r.2 (pc + 3) xs (.int r.1 :: st)) : dG E σ pc xs (.int a0 :: .ref G.2.1 :: st) := by
  obtain ⟨r, h1, h2⟩ := obind h
  exact dg_callVi hE (As := [.int a0]) (st := st) (C := RX1) (rm := rmX1_isTrue) (md_recv G) (fun sz => met_md_isTrue l G sz a0 σ h1) (lw_V q572 q574 qs45 q51 q575) 1 rfl ⟨rfl, rfl⟩ (by decide +kernel) hR rfl hs hd (k r h2)
abbrev rmX1_plain : Room := { frames := 1, cells := 0, slots := 0, locals := 22 }
theorem w_md_plain_b19 {E : dEnv} {l : Launch} {G : dGeo} (hE : mdOk E l G cX1_plain 2 rmX1_plain) (s0 : Int32) (σ : dS) {out} (h : md_plain_b19 s0 σ = some out) (k : dR E cX1_plain (some .int) out) : dG E σ 19 [] [.int s0] := by
  unfold md_plain_b19 at h
  refine dg_goto hE dX1_plain_19 (tgt := 28) (by decide) ?_
  cases h
  exact k rfl _ _ dX1_plain_28
theorem w_md_plain_b0 {E : dEnv} {l : Launch} {G : dGeo} (hE : mdOk E l G cX1_plain 2 rmX1_plain) (v1 : Int32) (σ : dS) {out} (h : md_plain_b0 v1 σ = some out) (k : dR E cX1_plain (some .int) out) : dG E σ 0 [v1] [] := by
  unfold md_plain_b0 at h
  refine dg_aload0 hE dX1_plain_0 ?_
  refine md_gf11 hE dX1_plain_1 ?_
  refine dg_iload_n hE dX1_plain_4 0 rfl rfl ?_
  refine md_ld11 hE dX1_plain_5 h (fun h => ?_)
  refine dg_if_ne hE dX1_plain_6 (tgt := 22) (by decide) h (fun h => ?_) (fun h => ?_)
  · refine dg_aload0 hE dX1_plain_22 ?_
    refine md_gf12 hE dX1_plain_23 ?_
    refine dg_iload_n hE dX1_plain_26 0 rfl rfl ?_
    refine md_ld12 hE dX1_plain_27 h (fun h => ?_)
    cases h
    exact k rfl _ _ dX1_plain_28
  · refine dg_aload0 hE dX1_plain_9 ?_
    refine dg_aload0 hE dX1_plain_10 ?_
    refine md_gf13 hE dX1_plain_11 ?_
    refine dg_iload_n hE dX1_plain_14 0 rfl rfl ?_
    refine md_ld13 hE dX1_plain_15 h (fun h => ?_)
    refine md_ca_firstOf hE (by decide) dX1_plain_16 (Nat.le_of_ble_eq_true rfl) h (fun r_ h => ?_)
    refine dg_drop (xs' := []) (ys := [v1]) rfl ?_
    exact w_md_plain_b19 hE (r_.1) (r_.2) h k
theorem met_md_plain (l : Launch) (G : dGeo) (sz : Nat) (v1 : Int32) (σ : dS) {r : Int32 × dS} (h : md_plain v1 σ = some r) : Met l yX1_plain (ws_ yX1_plain cX1_plain 2 (some .int)) rmX1_plain (dPc G.1 (md_ty G) (md_w G σ) sz [.ref G.2.1, .int v1]) (dQi G.1 (md_ty G) (md_w G σ) (md_w G r.2) sz r.1) 0 0 (va_A (md_w G σ) sz) := by
  refine dMet_i (w := md_w G) (σ := σ) (σ' := r.2) (th := [(0, .ref G.2.1)]) (b := 1) (xs := [v1]) (by decide) rfl rfl (Nat.le_of_ble_eq_true rfl) dth (fun E hE k => ?_)
  unfold md_plain at h
  exact w_md_plain_b0 hE v1 σ h k
theorem md_ca_plain {E : dEnv} {l : Launch} {G : dGeo} {cc : ByteArray} {nL pc : Nat} {R : Room} {σ : dS} {xs : List Int32} {st : List Value} {τ : Type} {g : Int32 × dS → Option τ} {out : τ} {a0 : Int32} (hE : mdOk E l G cc nL R) (hR : 1 + 1 ≤ R.frames ∧ 8 + (2 + 11) + 22 ≤ R.locals) (hd : decode cc pc = .ok (.invokevirtual 160, 3)) (hs : (st.map fun v => v.category).sum ≤ 8) (h : Option.bind (md_plain a0 σ) g = some out) (k : ∀ r, g r = some out → dG E r.2 (pc + 3) xs (.int r.1 :: st)) : dG E σ pc xs (.int a0 :: .ref G.2.1 :: st) := by
  obtain ⟨r, h1, h2⟩ := obind h
  exact dg_callVi hE (As := [.int a0]) (st := st) (C := RX1) (rm := rmX1_plain) (md_recv G) (fun sz => met_md_plain l G sz a0 σ h1) (lw_V q576 q578 qs46 q51 q579) 1 rfl ⟨rfl, rfl⟩ (by decide +kernel) hR rfl hs hd (k r h2)
abbrev rmX1_summed : Room := { frames := 0, cells := 0, slots := 0, locals := 0 }
theorem w_md_summed_b28 {E : dEnv} {l : Launch} {G : dGeo} (hE : mdOk E l G cX1_summed 4 rmX1_summed) (v1 v2 v3 : Int32) (σ : dS) {out} (h : md_summed_b28 v1 v2 v3 σ = some out) (k : dK E cX1_summed (some .int) out) : dG E σ 28 [v1, v2, v3] [] := by
  unfold md_summed_b28 at h
  refine dg_iinc hE dX1_summed_28 2 (xs' := [v1, v2, (v3 + (1 : Int32))]) rfl rfl (by decide) rfl ?_
  refine dg_goto hE dX1_summed_31 (tgt := 4) (by decide) ?_
  cases h
  exact k
theorem w_md_summed_b4 {E : dEnv} {l : Launch} {G : dGeo} (hE : mdOk E l G cX1_summed 4 rmX1_summed) (v1 v2 v3 : Int32) (σ : dS) {out} (h : md_summed_b4 v1 v2 v3 σ = some out) (k : dK E cX1_summed (some .int) out) : dG E σ 4 [v1, v2, v3] [] := by
  unfold md_summed_b4 at h
  refine dg_iload_n hE dX1_summed_4 2 rfl rfl ?_
  refine dg_bipush hE dX1_summed_5 (v := (24 : Int32)) (by decide) ?_
  refine dg_icmp_ge hE dX1_summed_7 (tgt := 34) (by decide) h (fun h => ?_) (fun h => ?_)
  · refine dg_iload_n hE dX1_summed_34 1 rfl rfl ?_
    cases h
    exact k rfl _ _ dX1_summed_35
  · refine dg_iload_n hE dX1_summed_10 0 rfl rfl ?_
    refine dg_iload_n hE dX1_summed_11 2 rfl rfl ?_
    refine dg_ishr hE dX1_summed_12 ?_
    refine dg_iconst hE dX1_summed_13 (v := (1 : Int32)) (by decide) ?_
    refine dg_iand hE dX1_summed_14 ?_
    refine dg_iconst hE dX1_summed_15 (v := (1 : Int32)) (by decide) ?_
    refine dg_icmp_ne hE dX1_summed_16 (tgt := 28) (by decide) h (fun h => ?_) (fun h => ?_)
    · exact w_md_summed_b28 hE v1 v2 v3 σ h k
    · refine dg_iload_n hE dX1_summed_19 1 rfl rfl ?_
      refine dg_aload0 hE dX1_summed_20 ?_
      refine md_gf3 hE dX1_summed_21 ?_
      refine dg_iload_n hE dX1_summed_24 2 rfl rfl ?_
      refine md_ld3 hE dX1_summed_25 h (fun h => ?_)
      refine dg_iadd hE dX1_summed_26 ?_
      refine dg_istore_n hE dX1_summed_27 1 (xs' := [v1, (v2 + (σ 3 v3.toNatClampNeg)), v3]) rfl (Nat.le_of_ble_eq_true rfl) (by decide) rfl ?_
      exact w_md_summed_b28 hE v1 (v2 + (σ 3 v3.toNatClampNeg)) v3 σ h k
theorem w_md_summed_b0 {E : dEnv} {l : Launch} {G : dGeo} (hE : mdOk E l G cX1_summed 4 rmX1_summed) (v1 : Int32) (σ : dS) {out} (h : md_summed_b0 v1 σ = some out) (k : dK E cX1_summed (some .int) out) : dG E σ 0 [v1] [] := by
  unfold md_summed_b0 at h
  refine dg_iconst hE dX1_summed_0 (v := (0 : Int32)) (by decide) ?_
  refine dg_istore_n hE dX1_summed_1 1 (xs' := [v1, (0 : Int32)]) rfl (Nat.le_of_ble_eq_true rfl) (by decide) rfl ?_
  refine dg_iconst hE dX1_summed_2 (v := (0 : Int32)) (by decide) ?_
  refine dg_istore_n hE dX1_summed_3 2 (xs' := [v1, (0 : Int32), (0 : Int32)]) rfl (Nat.le_of_ble_eq_true rfl) (by decide) rfl ?_
  cases h
  exact k
theorem w_md_summed_st {E : dEnv} {l : Launch} {G : dGeo} (hE : mdOk E l G cX1_summed 4 rmX1_summed) (a : Nat × List Int32 × dS) {out} (h : md_summed_st a = some out) (k : dK E cX1_summed (some .int) out) : dG E a.2.2 a.1 a.2.1 [] := by
  obtain ⟨L, xs, σ⟩ := a
  unfold md_summed_st at h
  dsimp only at h ⊢
  by_cases c_ : L = 4
  · subst c_
    rw [if_pos rfl] at h
    match xs, h with
    | [x0, x1, x2], h => exact w_md_summed_b4 hE x0 x1 x2 σ h k
    | [], h => cases h
    | [_], h => cases h
    | [_, _], h => cases h
    | _ :: _ :: _ :: _ :: _, h => cases h
  rw [if_neg c_] at h
  cases h
theorem met_md_summed (l : Launch) (G : dGeo) (sz : Nat) (v1 : Int32) (σ : dS) {r : Int32 × dS} (h : md_summed v1 σ = some r) : Met l yX1_summed (ws_ yX1_summed cX1_summed 4 (some .int)) rmX1_summed (dPc G.1 (md_ty G) (md_w G σ) sz [.ref G.2.1, .int v1]) (dQi G.1 (md_ty G) (md_w G σ) (md_w G r.2) sz r.1) 0 0 (va_A (md_w G σ) sz) := by
  refine dMet_i (w := md_w G) (σ := σ) (σ' := r.2) (th := [(0, .ref G.2.1)]) (b := 1) (xs := [v1]) (by decide) rfl rfl (Nat.le_of_ble_eq_true rfl) dth (fun E hE k => ?_)
  unfold md_summed at h
  obtain ⟨out, h1, h2⟩ := lpB_some h
  exact w_md_summed_b0 hE v1 σ h1 (dK_lp (fun a out => w_md_summed_st hE a) h2 k)
theorem md_ca_summed {E : dEnv} {l : Launch} {G : dGeo} {cc : ByteArray} {nL pc : Nat} {R : Room} {σ : dS} {xs : List Int32} {st : List Value} {τ : Type} {g : Int32 × dS → Option τ} {out : τ} {a0 : Int32} (hE : mdOk E l G cc nL R) (hR : 0 + 1 ≤ R.frames ∧ 8 + (4 + 11) + 0 ≤ R.locals) (hd : decode cc pc = .ok (.invokevirtual 150, 3)) (hs : (st.map fun v => v.category).sum ≤ 8) (h : Option.bind (md_summed a0 σ) g = some out) (k : ∀ r, g r = some out → dG E r.2 (pc + 3) xs (.int r.1 :: st)) : dG E σ pc xs (.int a0 :: .ref G.2.1 :: st) := by
  obtain ⟨r, h1, h2⟩ := obind h
  exact dg_callVi hE (As := [.int a0]) (st := st) (C := RX1) (rm := rmX1_summed) (md_recv G) (fun sz => met_md_summed l G sz a0 σ h1) (lw_V q560 q562 qs42 q51 q563) 1 rfl ⟨rfl, rfl⟩ (by decide +kernel) hR rfl hs hd (k r h2)
abbrev rmX1_result : Room := { frames := 2, cells := 0, slots := 0, locals := 43 }
theorem w_md_result_b207 {E : dEnv} {l : Launch} {G : dGeo} (hE : mdOk E l G cX1_result 8 rmX1_result) (v1 v2 v3 v4 v5 v6 s0 : Int32) (σ : dS) {out} (h : md_result_b207 v1 v2 v3 v4 v5 v6 s0 σ = some out) (k : dR E cX1_result (some .int) out) : dG E σ 207 [v1, v2, v3, v4, v5, v6] [.int s0] := by
  unfold md_result_b207 at h
  refine dg_istore hE dX1_result_207 6 (xs' := [v1, v2, v3, v4, v5, v6, s0]) rfl (Nat.le_of_ble_eq_true rfl) (by decide) rfl ?_
  refine dg_iload_n hE dX1_result_209 0 rfl rfl ?_
  refine dg_bipush hE dX1_result_210 (v := (10 : Int32)) (by decide) ?_
  refine dg_icmp_ne hE dX1_result_212 (tgt := 223) (by decide) h (fun h => ?_) (fun h => ?_)
  · refine dg_iload_n hE dX1_result_223 0 rfl rfl ?_
    refine dg_bipush hE dX1_result_224 (v := (11 : Int32)) (by decide) ?_
    refine dg_icmp_ne hE dX1_result_226 (tgt := 237) (by decide) h (fun h => ?_) (fun h => ?_)
    · refine dg_iload hE dX1_result_237 5 rfl rfl ?_
      refine dg_iload hE dX1_result_239 6 rfl rfl ?_
      refine dg_imul hE dX1_result_241 ?_
      cases h
      exact k rfl _ _ dX1_result_242
    · refine dg_iload hE dX1_result_229 5 rfl rfl ?_
      refine dg_iload hE dX1_result_231 6 rfl rfl ?_
      refine dg_isub hE dX1_result_233 ?_
      refine dg_goto hE dX1_result_234 (tgt := 242) (by decide) ?_
      cases h
      exact k rfl _ _ dX1_result_242
  · refine dg_iload hE dX1_result_215 5 rfl rfl ?_
    refine dg_iload hE dX1_result_217 6 rfl rfl ?_
    refine dg_iadd hE dX1_result_219 ?_
    refine dg_goto hE dX1_result_220 (tgt := 242) (by decide) ?_
    cases h
    exact k rfl _ _ dX1_result_242
theorem w_md_result_b198 {E : dEnv} {l : Launch} {G : dGeo} (hE : mdOk E l G cX1_result 8 rmX1_result) (v1 v2 v3 v4 v5 s0 : Int32) (σ : dS) {out} (h : md_result_b198 v1 v2 v3 v4 v5 s0 σ = some out) (k : dR E cX1_result (some .int) out) : dG E σ 198 [v1, v2, v3, v4, v5] [.int s0] := by
  unfold md_result_b198 at h
  refine dg_istore hE dX1_result_198 5 (xs' := [v1, v2, v3, v4, v5, s0]) rfl (Nat.le_of_ble_eq_true rfl) (by decide) rfl ?_
  refine dg_aload0 hE dX1_result_200 ?_
  refine dg_iload_n hE dX1_result_201 2 rfl rfl ?_
  refine dg_iconst hE dX1_result_202 (v := (1 : Int32)) (by decide) ?_
  refine dg_isub hE dX1_result_203 ?_
  refine md_ca_plain hE (by decide) dX1_result_204 (Nat.le_of_ble_eq_true rfl) h (fun r_ h => ?_)
  exact w_md_result_b207 hE v1 v2 v3 v4 v5 s0 (r_.1) (r_.2) h k
theorem w_md_result_b193 {E : dEnv} {l : Launch} {G : dGeo} (hE : mdOk E l G cX1_result 8 rmX1_result) (v1 v2 v3 v4 v5 : Int32) (σ : dS) {out} (h : md_result_b193 v1 v2 v3 v4 v5 σ = some out) (k : dR E cX1_result (some .int) out) : dG E σ 193 [v1, v2, v3, v4, v5] [] := by
  unfold md_result_b193 at h
  refine dg_aload0 hE dX1_result_193 ?_
  refine dg_iload_n hE dX1_result_194 2 rfl rfl ?_
  refine md_ca_plain hE (by decide) dX1_result_195 (Nat.le_of_ble_eq_true rfl) h (fun r_ h => ?_)
  exact w_md_result_b198 hE v1 v2 v3 v4 v5 (r_.1) (r_.2) h k
theorem w_md_result_b184 {E : dEnv} {l : Launch} {G : dGeo} (hE : mdOk E l G cX1_result 8 rmX1_result) (s0 : Int32) (σ : dS) {out} (h : md_result_b184 s0 σ = some out) (k : dR E cX1_result (some .int) out) : dG E σ 184 [] [.int s0] := by
  unfold md_result_b184 at h
  refine dg_if_eq hE dX1_result_184 (tgt := 191) (by decide) h (fun h => ?_) (fun h => ?_)
  · refine dg_iconst hE dX1_result_191 (v := (1 : Int32)) (by decide) ?_
    cases h
    exact k rfl _ _ dX1_result_192
  · refine dg_iconst hE dX1_result_187 (v := (0 : Int32)) (by decide) ?_
    refine dg_goto hE dX1_result_188 (tgt := 192) (by decide) ?_
    cases h
    exact k rfl _ _ dX1_result_192
theorem w_md_result_b173 {E : dEnv} {l : Launch} {G : dGeo} (hE : mdOk E l G cX1_result 8 rmX1_result) (σ : dS) {out} (h : md_result_b173 σ = some out) (k : dR E cX1_result (some .int) out) : dG E σ 173 [] [] := by
  unfold md_result_b173 at h
  refine dg_iconst hE dX1_result_173 (v := (1 : Int32)) (by decide) ?_
  refine dg_goto hE dX1_result_174 (tgt := 178) (by decide) ?_
  cases h
  exact k rfl _ _ dX1_result_178
theorem w_md_result_b170 {E : dEnv} {l : Launch} {G : dGeo} (hE : mdOk E l G cX1_result 8 rmX1_result) (s0 : Int32) (σ : dS) {out} (h : md_result_b170 s0 σ = some out) (k : dR E cX1_result (some .int) out) : dG E σ 170 [] [.int s0] := by
  unfold md_result_b170 at h
  refine dg_if_eq hE dX1_result_170 (tgt := 177) (by decide) h (fun h => ?_) (fun h => ?_)
  · refine dg_iconst hE dX1_result_177 (v := (0 : Int32)) (by decide) ?_
    cases h
    exact k rfl _ _ dX1_result_178
  · exact w_md_result_b173 hE σ h k
theorem w_md_result_b160 {E : dEnv} {l : Launch} {G : dGeo} (hE : mdOk E l G cX1_result 8 rmX1_result) (v1 v2 v3 s0 : Int32) (σ : dS) {out} (h : md_result_b160 v1 v2 v3 s0 σ = some out) (k : dR E cX1_result (some .int) out) : dG E σ 160 [v1, v2, v3] [.int s0] := by
  unfold md_result_b160 at h
  refine dg_if_ne hE dX1_result_160 (tgt := 173) (by decide) h (fun h => ?_) (fun h => ?_)
  · refine dg_drop (xs' := []) (ys := [v1, v2, v3]) rfl ?_
    exact w_md_result_b173 hE σ h k
  · refine dg_aload0 hE dX1_result_163 ?_
    refine dg_iload_n hE dX1_result_164 2 rfl rfl ?_
    refine dg_iconst hE dX1_result_165 (v := (1 : Int32)) (by decide) ?_
    refine dg_isub hE dX1_result_166 ?_
    refine md_ca_isTrue hE (by decide) dX1_result_167 (Nat.le_of_ble_eq_true rfl) h (fun r_ h => ?_)
    refine dg_drop (xs' := []) (ys := [v1, v2, v3]) rfl ?_
    exact w_md_result_b170 hE (r_.1) (r_.2) h k
theorem w_md_result_b146 {E : dEnv} {l : Launch} {G : dGeo} (hE : mdOk E l G cX1_result 8 rmX1_result) (s0 : Int32) (σ : dS) {out} (h : md_result_b146 s0 σ = some out) (k : dR E cX1_result (some .int) out) : dG E σ 146 [] [.int s0] := by
  unfold md_result_b146 at h
  refine dg_if_eq hE dX1_result_146 (tgt := 153) (by decide) h (fun h => ?_) (fun h => ?_)
  · refine dg_iconst hE dX1_result_153 (v := (0 : Int32)) (by decide) ?_
    cases h
    exact k rfl _ _ dX1_result_154
  · refine dg_iconst hE dX1_result_149 (v := (1 : Int32)) (by decide) ?_
    refine dg_goto hE dX1_result_150 (tgt := 154) (by decide) ?_
    cases h
    exact k rfl _ _ dX1_result_154
theorem w_md_result_b136 {E : dEnv} {l : Launch} {G : dGeo} (hE : mdOk E l G cX1_result 8 rmX1_result) (v1 v2 v3 s0 : Int32) (σ : dS) {out} (h : md_result_b136 v1 v2 v3 s0 σ = some out) (k : dR E cX1_result (some .int) out) : dG E σ 136 [v1, v2, v3] [.int s0] := by
  unfold md_result_b136 at h
  refine dg_if_eq hE dX1_result_136 (tgt := 153) (by decide) h (fun h => ?_) (fun h => ?_)
  · refine dg_iconst hE dX1_result_153 (v := (0 : Int32)) (by decide) ?_
    cases h
    exact k rfl _ _ dX1_result_154
  · refine dg_aload0 hE dX1_result_139 ?_
    refine dg_iload_n hE dX1_result_140 2 rfl rfl ?_
    refine dg_iconst hE dX1_result_141 (v := (1 : Int32)) (by decide) ?_
    refine dg_isub hE dX1_result_142 ?_
    refine md_ca_isTrue hE (by decide) dX1_result_143 (Nat.le_of_ble_eq_true rfl) h (fun r_ h => ?_)
    refine dg_drop (xs' := []) (ys := [v1, v2, v3]) rfl ?_
    exact w_md_result_b146 hE (r_.1) (r_.2) h k
theorem w_md_result_b122 {E : dEnv} {l : Launch} {G : dGeo} (hE : mdOk E l G cX1_result 8 rmX1_result) (s0 : Int32) (σ : dS) {out} (h : md_result_b122 s0 σ = some out) (k : dR E cX1_result (some .int) out) : dG E σ 122 [] [.int s0] := by
  unfold md_result_b122 at h
  refine dg_if_eq hE dX1_result_122 (tgt := 129) (by decide) h (fun h => ?_) (fun h => ?_)
  · refine dg_iconst hE dX1_result_129 (v := (0 : Int32)) (by decide) ?_
    cases h
    exact k rfl _ _ dX1_result_130
  · refine dg_iconst hE dX1_result_125 (v := (1 : Int32)) (by decide) ?_
    refine dg_goto hE dX1_result_126 (tgt := 130) (by decide) ?_
    cases h
    exact k rfl _ _ dX1_result_130
theorem w_md_result_b113 {E : dEnv} {l : Launch} {G : dGeo} (hE : mdOk E l G cX1_result 8 rmX1_result) (v1 v2 v3 : Int32) (σ : dS) {out} (h : md_result_b113 v1 v2 v3 σ = some out) (k : dR E cX1_result (some .int) out) : dG E σ 113 [v1, v2, v3] [] := by
  unfold md_result_b113 at h
  refine dg_aload0 hE dX1_result_113 ?_
  refine dg_iload_n hE dX1_result_114 0 rfl rfl ?_
  refine dg_iload_n hE dX1_result_115 2 rfl rfl ?_
  refine dg_iload_n hE dX1_result_116 2 rfl rfl ?_
  refine dg_iconst hE dX1_result_117 (v := (1 : Int32)) (by decide) ?_
  refine dg_isub hE dX1_result_118 ?_
  refine md_ca_compare hE (by decide) dX1_result_119 (Nat.le_of_ble_eq_true rfl) h (fun r_ h => ?_)
  refine dg_drop (xs' := []) (ys := [v1, v2, v3]) rfl ?_
  exact w_md_result_b122 hE (r_.1) (r_.2) h k
theorem w_md_result_b112 {E : dEnv} {l : Launch} {G : dGeo} (hE : mdOk E l G cX1_result 8 rmX1_result) (s0 : Int32) (σ : dS) {out} (h : md_result_b112 s0 σ = some out) (k : dR E cX1_result (some .int) out) : dG E σ 112 [] [.int s0] := by
  unfold md_result_b112 at h
  cases h
  exact k rfl _ _ dX1_result_112
theorem w_md_result_b101 {E : dEnv} {l : Launch} {G : dGeo} (hE : mdOk E l G cX1_result 8 rmX1_result) (s0 : Int32) (σ : dS) {out} (h : md_result_b101 s0 σ = some out) (k : dR E cX1_result (some .int) out) : dG E σ 101 [] [.int s0] := by
  unfold md_result_b101 at h
  cases h
  exact k rfl _ _ dX1_result_101
theorem w_md_result_b90 {E : dEnv} {l : Launch} {G : dGeo} (hE : mdOk E l G cX1_result 8 rmX1_result) (s0 : Int32) (σ : dS) {out} (h : md_result_b90 s0 σ = some out) (k : dR E cX1_result (some .int) out) : dG E σ 90 [] [.int s0] := by
  unfold md_result_b90 at h
  cases h
  exact k rfl _ _ dX1_result_90
theorem w_md_result_b0 {E : dEnv} {l : Launch} {G : dGeo} (hE : mdOk E l G cX1_result 8 rmX1_result) (v1 v2 v3 v4 v5 : Int32) (σ : dS) {out} (h : md_result_b0 v1 v2 v3 v4 v5 σ = some out) (k : dR E cX1_result (some .int) out) : dG E σ 0 [v1, v2, v3, v4, v5] [] := by
  unfold md_result_b0 at h
  refine dg_iload_n hE dX1_result_0 0 rfl rfl ?_
  refine dg_case (x := v1) (v := (4 : Int32)) h (fun c_ h => ?_) (fun c_ h => ?_)
  · refine dg_tabIn hE dX1_result_1 (tgt := 72) c_ rfl (by decide) (by decide) rfl (by decide) ?_
    refine dg_iload_n hE dX1_result_72 1 rfl rfl ?_
    cases h
    exact k rfl _ _ dX1_result_73
  · have n_0 := lv_neT c_ (show ((4 : Int32)).toInt = 4 by decide)
    refine dg_case (x := v1) (v := (5 : Int32)) h (fun c_ h => ?_) (fun c_ h => ?_)
    · refine dg_tabIn hE dX1_result_1 (tgt := 74) c_ rfl (by decide) (by decide) rfl (by decide) ?_
      refine dg_iload hE dX1_result_74 3 rfl rfl ?_
      cases h
      exact k rfl _ _ dX1_result_76
    · have n_1 := lv_neT c_ (show ((5 : Int32)).toInt = 5 by decide)
      refine dg_case (x := v1) (v := (6 : Int32)) h (fun c_ h => ?_) (fun c_ h => ?_)
      · refine dg_tabIn hE dX1_result_1 (tgt := 77) c_ rfl (by decide) (by decide) rfl (by decide) ?_
        refine dg_iload hE dX1_result_77 4 rfl rfl ?_
        cases h
        exact k rfl _ _ dX1_result_79
      · have n_2 := lv_neT c_ (show ((6 : Int32)).toInt = 6 by decide)
        refine dg_case (x := v1) (v := (7 : Int32)) h (fun c_ h => ?_) (fun c_ h => ?_)
        · refine dg_tabIn hE dX1_result_1 (tgt := 80) c_ rfl (by decide) (by decide) rfl (by decide) ?_
          refine dg_aload0 hE dX1_result_80 ?_
          refine dg_aload0 hE dX1_result_81 ?_
          refine md_gf13 hE dX1_result_82 ?_
          refine dg_iload_n hE dX1_result_85 2 rfl rfl ?_
          refine md_ld13 hE dX1_result_86 h (fun h => ?_)
          refine md_ca_counted hE (by decide) dX1_result_87 (Nat.le_of_ble_eq_true rfl) h (fun r_ h => ?_)
          refine dg_drop (xs' := []) (ys := [v1, v2, v3, v4, v5]) rfl ?_
          exact w_md_result_b90 hE (r_.1) (r_.2) h k
        · have n_3 := lv_neT c_ (show ((7 : Int32)).toInt = 7 by decide)
          refine dg_case (x := v1) (v := (8 : Int32)) h (fun c_ h => ?_) (fun c_ h => ?_)
          · refine dg_tabIn hE dX1_result_1 (tgt := 91) c_ rfl (by decide) (by decide) rfl (by decide) ?_
            refine dg_aload0 hE dX1_result_91 ?_
            refine dg_aload0 hE dX1_result_92 ?_
            refine md_gf13 hE dX1_result_93 ?_
            refine dg_iload_n hE dX1_result_96 2 rfl rfl ?_
            refine md_ld13 hE dX1_result_97 h (fun h => ?_)
            refine md_ca_summed hE (by decide) dX1_result_98 (Nat.le_of_ble_eq_true rfl) h (fun r_ h => ?_)
            refine dg_drop (xs' := []) (ys := [v1, v2, v3, v4, v5]) rfl ?_
            exact w_md_result_b101 hE (r_.1) (r_.2) h k
          · have n_4 := lv_neT c_ (show ((8 : Int32)).toInt = 8 by decide)
            refine dg_case (x := v1) (v := (9 : Int32)) h (fun c_ h => ?_) (fun c_ h => ?_)
            · refine dg_tabIn hE dX1_result_1 (tgt := 102) c_ rfl (by decide) (by decide) rfl (by decide) ?_
              refine dg_aload0 hE dX1_result_102 ?_
              refine dg_aload0 hE dX1_result_103 ?_
              refine md_gf13 hE dX1_result_104 ?_
              refine dg_iload_n hE dX1_result_107 2 rfl rfl ?_
              refine md_ld13 hE dX1_result_108 h (fun h => ?_)
              refine md_ca_firstOf hE (by decide) dX1_result_109 (Nat.le_of_ble_eq_true rfl) h (fun r_ h => ?_)
              refine dg_drop (xs' := []) (ys := [v1, v2, v3, v4, v5]) rfl ?_
              exact w_md_result_b112 hE (r_.1) (r_.2) h k
            · have n_5 := lv_neT c_ (show ((9 : Int32)).toInt = 9 by decide)
              refine dg_case (x := v1) (v := (10 : Int32)) h (fun c_ h => ?_) (fun c_ h => ?_)
              · refine dg_tabIn hE dX1_result_1 (tgt := 193) c_ rfl (by decide) (by decide) rfl (by decide) ?_
                exact w_md_result_b193 hE v1 v2 v3 v4 v5 σ h k
              · have n_6 := lv_neT c_ (show ((10 : Int32)).toInt = 10 by decide)
                refine dg_case (x := v1) (v := (11 : Int32)) h (fun c_ h => ?_) (fun c_ h => ?_)
                · refine dg_tabIn hE dX1_result_1 (tgt := 193) c_ rfl (by decide) (by decide) rfl (by decide) ?_
                  exact w_md_result_b193 hE v1 v2 v3 v4 v5 σ h k
                · have n_7 := lv_neT c_ (show ((11 : Int32)).toInt = 11 by decide)
                  refine dg_case (x := v1) (v := (12 : Int32)) h (fun c_ h => ?_) (fun c_ h => ?_)
                  · refine dg_tabIn hE dX1_result_1 (tgt := 193) c_ rfl (by decide) (by decide) rfl (by decide) ?_
                    exact w_md_result_b193 hE v1 v2 v3 v4 v5 σ h k
                  · have n_8 := lv_neT c_ (show ((12 : Int32)).toInt = 12 by decide)
                    refine dg_case (x := v1) (v := (13 : Int32)) h (fun c_ h => ?_) (fun c_ h => ?_)
                    · refine dg_tabIn hE dX1_result_1 (tgt := 113) c_ rfl (by decide) (by decide) rfl (by decide) ?_
                      refine dg_drop (xs' := [v1, v2, v3]) (ys := [v4, v5]) rfl ?_
                      exact w_md_result_b113 hE v1 v2 v3 σ h k
                    · have n_9 := lv_neT c_ (show ((13 : Int32)).toInt = 13 by decide)
                      refine dg_case (x := v1) (v := (14 : Int32)) h (fun c_ h => ?_) (fun c_ h => ?_)
                      · refine dg_tabIn hE dX1_result_1 (tgt := 113) c_ rfl (by decide) (by decide) rfl (by decide) ?_
                        refine dg_drop (xs' := [v1, v2, v3]) (ys := [v4, v5]) rfl ?_
                        exact w_md_result_b113 hE v1 v2 v3 σ h k
                      · have n_10 := lv_neT c_ (show ((14 : Int32)).toInt = 14 by decide)
                        refine dg_case (x := v1) (v := (15 : Int32)) h (fun c_ h => ?_) (fun c_ h => ?_)
                        · refine dg_tabIn hE dX1_result_1 (tgt := 131) c_ rfl (by decide) (by decide) rfl (by decide) ?_
                          refine dg_aload0 hE dX1_result_131 ?_
                          refine dg_iload_n hE dX1_result_132 2 rfl rfl ?_
                          refine md_ca_isTrue hE (by decide) dX1_result_133 (Nat.le_of_ble_eq_true rfl) h (fun r_ h => ?_)
                          refine dg_drop (xs' := [v1, v2, v3]) (ys := [v4, v5]) rfl ?_
                          exact w_md_result_b136 hE v1 v2 v3 (r_.1) (r_.2) h k
                        · have n_11 := lv_neT c_ (show ((15 : Int32)).toInt = 15 by decide)
                          refine dg_case (x := v1) (v := (16 : Int32)) h (fun c_ h => ?_) (fun c_ h => ?_)
                          · refine dg_tabIn hE dX1_result_1 (tgt := 155) c_ rfl (by decide) (by decide) rfl (by decide) ?_
                            refine dg_aload0 hE dX1_result_155 ?_
                            refine dg_iload_n hE dX1_result_156 2 rfl rfl ?_
                            refine md_ca_isTrue hE (by decide) dX1_result_157 (Nat.le_of_ble_eq_true rfl) h (fun r_ h => ?_)
                            refine dg_drop (xs' := [v1, v2, v3]) (ys := [v4, v5]) rfl ?_
                            exact w_md_result_b160 hE v1 v2 v3 (r_.1) (r_.2) h k
                          · have n_12 := lv_neT c_ (show ((16 : Int32)).toInt = 16 by decide)
                            refine dg_case (x := v1) (v := (17 : Int32)) h (fun c_ h => ?_) (fun c_ h => ?_)
                            · refine dg_tabIn hE dX1_result_1 (tgt := 179) c_ rfl (by decide) (by decide) rfl (by decide) ?_
                              refine dg_aload0 hE dX1_result_179 ?_
                              refine dg_iload_n hE dX1_result_180 2 rfl rfl ?_
                              refine md_ca_isTrue hE (by decide) dX1_result_181 (Nat.le_of_ble_eq_true rfl) h (fun r_ h => ?_)
                              refine dg_drop (xs' := []) (ys := [v1, v2, v3, v4, v5]) rfl ?_
                              exact w_md_result_b184 hE (r_.1) (r_.2) h k
                            · have n_13 := lv_neT c_ (show ((17 : Int32)).toInt = 17 by decide)
                              refine dg_tabOut hE dX1_result_1 (tgt := 193) (by have hq := trivial; omega) (by decide) ?_
                              exact w_md_result_b193 hE v1 v2 v3 v4 v5 σ h k
theorem met_md_result (l : Launch) (G : dGeo) (sz : Nat) (v1 v2 v3 v4 v5 : Int32) (σ : dS) {r : Int32 × dS} (h : md_result v1 v2 v3 v4 v5 σ = some r) : Met l yX1_result (ws_ yX1_result cX1_result 8 (some .int)) rmX1_result (dPc G.1 (md_ty G) (md_w G σ) sz [.ref G.2.1, .int v1, .int v2, .int v3, .int v4, .int v5]) (dQi G.1 (md_ty G) (md_w G σ) (md_w G r.2) sz r.1) 0 0 (va_A (md_w G σ) sz) := by
  refine dMet_i (w := md_w G) (σ := σ) (σ' := r.2) (th := [(0, .ref G.2.1)]) (b := 1) (xs := [v1, v2, v3, v4, v5]) (by decide) rfl rfl (Nat.le_of_ble_eq_true rfl) dth (fun E hE k => ?_)
  unfold md_result at h
  exact w_md_result_b0 hE v1 v2 v3 v4 v5 σ h k
theorem md_ca_result {E : dEnv} {l : Launch} {G : dGeo} {cc : ByteArray} {nL pc : Nat} {R : Room} {σ : dS} {xs : List Int32} {st : List Value} {τ : Type} {g : Int32 × dS → Option τ} {out : τ} {a0 a1 a2 a3 a4 : Int32} (hE : mdOk E l G cc nL R) (hR : 2 + 1 ≤ R.frames ∧ 8 + (8 + 11) + 43 ≤ R.locals) (hd : decode cc pc = .ok (.invokevirtual 143, 3)) (hs : (st.map fun v => v.category).sum ≤ 8) (h : Option.bind (md_result a0 a1 a2 a3 a4 σ) g = some out) (k : ∀ r, g r = some out → dG E r.2 (pc + 3) xs (.int r.1 :: st)) : dG E σ pc xs (.int a4 :: .int a3 :: .int a2 :: .int a1 :: .int a0 :: .ref G.2.1 :: st) := by
  obtain ⟨r, h1, h2⟩ := obind h
  exact dg_callVi hE (As := [.int a0, .int a1, .int a2, .int a3, .int a4]) (st := st) (C := RX1) (rm := rmX1_result) (md_recv G) (fun sz => met_md_result l G sz a0 a1 a2 a3 a4 σ h1) (lw_V q552 q554 qs40 q51 q555) 5 rfl ⟨rfl, rfl⟩ (by decide +kernel) hR rfl hs hd (k r h2)
abbrev rmX1_workOut : Room := { frames := 3, cells := 0, slots := 0, locals := 70 }
theorem w_md_workOut_b174 {E : dEnv} {l : Launch} {G : dGeo} (hE : mdOk E l G cX1_workOut 13 rmX1_workOut) (v1 v2 v3 v4 v5 v6 v7 : Int32) (σ : dS) {out} (h : md_workOut_b174 v1 v2 v3 v4 v5 v6 v7 σ = some out) (k : dK E cX1_workOut none out) : dG E σ 174 [v1, v2, v3, v4, v5, v6, v7] [] := by
  unfold md_workOut_b174 at h
  refine dg_aload0 hE dX1_workOut_174 ?_
  refine dg_dup hE dX1_workOut_175 rfl ?_
  refine md_gf15 hE dX1_workOut_176 ?_
  refine dg_iconst hE dX1_workOut_179 (v := (1 : Int32)) (by decide) ?_
  refine dg_iadd hE dX1_workOut_180 ?_
  refine md_pf15 hE dX1_workOut_181 ?_
  refine dg_iinc hE dX1_workOut_184 6 (xs' := [v1, v2, v3, v4, v5, v6, (v7 + (-1 : Int32))]) rfl rfl (by decide) rfl ?_
  refine dg_goto hE dX1_workOut_187 (tgt := 23) (by decide) ?_
  cases h
  exact k
theorem w_md_workOut_b163 {E : dEnv} {l : Launch} {G : dGeo} (hE : mdOk E l G cX1_workOut 13 rmX1_workOut) (v1 v2 v3 v4 v5 v6 v7 v8 v9 v10 v11 v12 : Int32) (σ : dS) {out} (h : md_workOut_b163 v1 v2 v3 v4 v5 v6 v7 v8 v9 v10 v11 v12 σ = some out) (k : dK E cX1_workOut none out) : dG E σ 163 [v1, v2, v3, v4, v5, v6, v7, v8, v9, v10, v11, v12] [] := by
  unfold md_workOut_b163 at h
  refine dg_aload0 hE dX1_workOut_163 ?_
  refine md_gf12 hE dX1_workOut_164 ?_
  refine dg_aload0 hE dX1_workOut_167 ?_
  refine md_gf15 hE dX1_workOut_168 ?_
  refine dg_iload hE dX1_workOut_171 11 rfl rfl ?_
  refine md_as12 hE dX1_workOut_173 h (fun h => ?_)
  refine dg_drop (xs' := [v1, v2, v3, v4, v5, v6, v7]) (ys := [v8, v9, v10, v11, v12]) rfl ?_
  exact w_md_workOut_b174 hE v1 v2 v3 v4 v5 v6 v7 (up2 σ 12 (σ 15 0).toNatClampNeg v12) h k
theorem w_md_workOut_b152 {E : dEnv} {l : Launch} {G : dGeo} (hE : mdOk E l G cX1_workOut 13 rmX1_workOut) (v1 v2 v3 v4 v5 v6 v7 v8 v9 v10 v11 v12 : Int32) (σ : dS) {out} (h : md_workOut_b152 v1 v2 v3 v4 v5 v6 v7 v8 v9 v10 v11 v12 σ = some out) (k : dK E cX1_workOut none out) : dG E σ 152 [v1, v2, v3, v4, v5, v6, v7, v8, v9, v10, v11, v12] [] := by
  unfold md_workOut_b152 at h
  refine dg_aload0 hE dX1_workOut_152 ?_
  refine md_gf13 hE dX1_workOut_153 ?_
  refine dg_aload0 hE dX1_workOut_156 ?_
  refine md_gf15 hE dX1_workOut_157 ?_
  refine dg_iload hE dX1_workOut_160 10 rfl rfl ?_
  refine md_as13 hE dX1_workOut_162 h (fun h => ?_)
  exact w_md_workOut_b163 hE v1 v2 v3 v4 v5 v6 v7 v8 v9 v10 v11 v12 (up2 σ 13 (σ 15 0).toNatClampNeg v11) h k
theorem w_md_workOut_b139 {E : dEnv} {l : Launch} {G : dGeo} (hE : mdOk E l G cX1_workOut 13 rmX1_workOut) (v1 v2 v3 v4 v5 v6 v7 v8 v9 v10 v11 s0 : Int32) (σ : dS) {out} (h : md_workOut_b139 v1 v2 v3 v4 v5 v6 v7 v8 v9 v10 v11 s0 σ = some out) (k : dK E cX1_workOut none out) : dG E σ 139 [v1, v2, v3, v4, v5, v6, v7, v8, v9, v10, v11] [.int s0] := by
  unfold md_workOut_b139 at h
  refine dg_istore hE dX1_workOut_139 11 (xs' := [v1, v2, v3, v4, v5, v6, v7, v8, v9, v10, v11, s0]) rfl (Nat.le_of_ble_eq_true rfl) (by decide) rfl ?_
  refine dg_aload0 hE dX1_workOut_141 ?_
  refine md_gf11 hE dX1_workOut_142 ?_
  refine dg_aload0 hE dX1_workOut_145 ?_
  refine md_gf15 hE dX1_workOut_146 ?_
  refine dg_iload hE dX1_workOut_149 9 rfl rfl ?_
  refine md_as11 hE dX1_workOut_151 h (fun h => ?_)
  exact w_md_workOut_b152 hE v1 v2 v3 v4 v5 v6 v7 v8 v9 v10 v11 s0 (up2 σ 11 (σ 15 0).toNatClampNeg v10) h k
theorem w_md_workOut_b104 {E : dEnv} {l : Launch} {G : dGeo} (hE : mdOk E l G cX1_workOut 13 rmX1_workOut) (v1 v2 v3 v4 v5 v6 v7 v8 v9 v10 s0 : Int32) (σ : dS) {out} (h : md_workOut_b104 v1 v2 v3 v4 v5 v6 v7 v8 v9 v10 s0 σ = some out) (k : dK E cX1_workOut none out) : dG E σ 104 [v1, v2, v3, v4, v5, v6, v7, v8, v9, v10] [.int s0] := by
  unfold md_workOut_b104 at h
  refine dg_istore hE dX1_workOut_104 10 (xs' := [v1, v2, v3, v4, v5, v6, v7, v8, v9, v10, s0]) rfl (Nat.le_of_ble_eq_true rfl) (by decide) rfl ?_
  refine dg_iload hE dX1_workOut_106 9 rfl rfl ?_
  refine dg_if_ne hE dX1_workOut_108 (tgt := 115) (by decide) h (fun h => ?_) (fun h => ?_)
  · refine dg_aload0 hE dX1_workOut_115 ?_
    refine dg_aload0 hE dX1_workOut_116 ?_
    refine md_gf6 hE dX1_workOut_117 ?_
    refine dg_iload hE dX1_workOut_120 6 rfl rfl ?_
    refine md_ld6 hE dX1_workOut_122 h (fun h => ?_)
    refine dg_aload0 hE dX1_workOut_123 ?_
    refine md_gf7 hE dX1_workOut_124 ?_
    refine dg_iload hE dX1_workOut_127 6 rfl rfl ?_
    refine md_ld7 hE dX1_workOut_129 h (fun h => ?_)
    refine dg_iload hE dX1_workOut_130 8 rfl rfl ?_
    refine dg_iload hE dX1_workOut_132 3 rfl rfl ?_
    refine dg_iload hE dX1_workOut_134 4 rfl rfl ?_
    refine md_ca_result hE (by decide) dX1_workOut_136 (Nat.le_of_ble_eq_true rfl) h (fun r_ h => ?_)
    exact w_md_workOut_b139 hE v1 v2 v3 v4 v5 v6 v7 v8 v9 v10 s0 (r_.1) (r_.2) h k
  · refine dg_iconst hE dX1_workOut_111 (v := (0 : Int32)) (by decide) ?_
    refine dg_goto hE dX1_workOut_112 (tgt := 139) (by decide) ?_
    exact w_md_workOut_b139 hE v1 v2 v3 v4 v5 v6 v7 v8 v9 v10 s0 (0 : Int32) σ h k
theorem w_md_workOut_b81 {E : dEnv} {l : Launch} {G : dGeo} (hE : mdOk E l G cX1_workOut 13 rmX1_workOut) (v1 v2 v3 v4 v5 v6 v7 v8 v9 s0 : Int32) (σ : dS) {out} (h : md_workOut_b81 v1 v2 v3 v4 v5 v6 v7 v8 v9 s0 σ = some out) (k : dK E cX1_workOut none out) : dG E σ 81 [v1, v2, v3, v4, v5, v6, v7, v8, v9] [.int s0] := by
  unfold md_workOut_b81 at h
  refine dg_istore hE dX1_workOut_81 9 (xs' := [v1, v2, v3, v4, v5, v6, v7, v8, v9, s0]) rfl (Nat.le_of_ble_eq_true rfl) (by decide) rfl ?_
  refine dg_iload hE dX1_workOut_83 9 rfl rfl ?_
  refine dg_if_ne hE dX1_workOut_85 (tgt := 103) (by decide) h (fun h => ?_) (fun h => ?_)
  · refine dg_iconst hE dX1_workOut_103 (v := (0 : Int32)) (by decide) ?_
    exact w_md_workOut_b104 hE v1 v2 v3 v4 v5 v6 v7 v8 v9 s0 (0 : Int32) σ h k
  · refine dg_aload0 hE dX1_workOut_88 ?_
    refine md_gf9 hE dX1_workOut_89 ?_
    refine dg_bipush hE dX1_workOut_92 (v := (24 : Int32)) (by decide) ?_
    refine dg_iload hE dX1_workOut_94 6 rfl rfl ?_
    refine dg_imul hE dX1_workOut_96 ?_
    refine dg_iload_n hE dX1_workOut_97 2 rfl rfl ?_
    refine dg_iadd hE dX1_workOut_98 ?_
    refine md_ld9 hE dX1_workOut_99 h (fun h => ?_)
    refine dg_goto hE dX1_workOut_100 (tgt := 104) (by decide) ?_
    exact w_md_workOut_b104 hE v1 v2 v3 v4 v5 v6 v7 v8 v9 s0 (σ 9 (((24 : Int32) * v7) + v3).toNatClampNeg) σ h k
theorem w_md_workOut_b71 {E : dEnv} {l : Launch} {G : dGeo} (hE : mdOk E l G cX1_workOut 13 rmX1_workOut) (v1 v2 v3 v4 v5 v6 v7 v8 v9 : Int32) (σ : dS) {out} (h : md_workOut_b71 v1 v2 v3 v4 v5 v6 v7 v8 v9 σ = some out) (k : dK E cX1_workOut none out) : dG E σ 71 [v1, v2, v3, v4, v5, v6, v7, v8, v9] [] := by
  unfold md_workOut_b71 at h
  refine dg_aload0 hE dX1_workOut_71 ?_
  refine md_gf6 hE dX1_workOut_72 ?_
  refine dg_iload hE dX1_workOut_75 6 rfl rfl ?_
  refine md_ld6 hE dX1_workOut_77 h (fun h => ?_)
  refine md_ca_typeOf hE (by decide) dX1_workOut_78 (Nat.le_of_ble_eq_true rfl) h (fun r_ h => ?_)
  exact w_md_workOut_b81 hE v1 v2 v3 v4 v5 v6 v7 v8 v9 r_ σ h k
theorem w_md_workOut_b60 {E : dEnv} {l : Launch} {G : dGeo} (hE : mdOk E l G cX1_workOut 13 rmX1_workOut) (v1 v2 v3 v4 v5 v6 v7 v8 : Int32) (σ : dS) {out} (h : md_workOut_b60 v1 v2 v3 v4 v5 v6 v7 v8 σ = some out) (k : dK E cX1_workOut none out) : dG E σ 60 [v1, v2, v3, v4, v5, v6, v7, v8] [] := by
  unfold md_workOut_b60 at h
  refine dg_aload0 hE dX1_workOut_60 ?_
  refine md_gf15 hE dX1_workOut_61 ?_
  refine dg_iload hE dX1_workOut_64 7 rfl rfl ?_
  refine dg_iadd hE dX1_workOut_66 ?_
  refine dg_iconst hE dX1_workOut_67 (v := (1 : Int32)) (by decide) ?_
  refine dg_isub hE dX1_workOut_68 ?_
  refine dg_istore hE dX1_workOut_69 8 (xs' := [v1, v2, v3, v4, v5, v6, v7, v8, (((σ 15 0) + v8) - (1 : Int32))]) rfl (Nat.le_of_ble_eq_true rfl) (by decide) rfl ?_
  exact w_md_workOut_b71 hE v1 v2 v3 v4 v5 v6 v7 v8 (((σ 15 0) + v8) - (1 : Int32)) σ h k
theorem w_md_workOut_b47 {E : dEnv} {l : Launch} {G : dGeo} (hE : mdOk E l G cX1_workOut 13 rmX1_workOut) (v1 v2 v3 v4 v5 v6 v7 s0 : Int32) (σ : dS) {out} (h : md_workOut_b47 v1 v2 v3 v4 v5 v6 v7 s0 σ = some out) (k : dK E cX1_workOut none out) : dG E σ 47 [v1, v2, v3, v4, v5, v6, v7] [.int s0] := by
  unfold md_workOut_b47 at h
  refine dg_istore hE dX1_workOut_47 7 (xs' := [v1, v2, v3, v4, v5, v6, v7, s0]) rfl (Nat.le_of_ble_eq_true rfl) (by decide) rfl ?_
  refine dg_aload0 hE dX1_workOut_49 ?_
  refine dg_dup hE dX1_workOut_50 rfl ?_
  refine md_gf15 hE dX1_workOut_51 ?_
  refine dg_iload hE dX1_workOut_54 7 rfl rfl ?_
  refine dg_isub hE dX1_workOut_56 ?_
  refine md_pf15 hE dX1_workOut_57 ?_
  exact w_md_workOut_b60 hE v1 v2 v3 v4 v5 v6 v7 s0 (up2 σ 15 0 ((σ 15 0) - s0)) h k
theorem w_md_workOut_b23 {E : dEnv} {l : Launch} {G : dGeo} (hE : mdOk E l G cX1_workOut 13 rmX1_workOut) (v1 v2 v3 v4 v5 v6 v7 : Int32) (σ : dS) {out} (h : md_workOut_b23 v1 v2 v3 v4 v5 v6 v7 σ = some out) (k : dK E cX1_workOut none out) : dG E σ 23 [v1, v2, v3, v4, v5, v6, v7] [] := by
  unfold md_workOut_b23 at h
  refine dg_iload hE dX1_workOut_23 6 rfl rfl ?_
  refine dg_iload hE dX1_workOut_25 5 rfl rfl ?_
  refine dg_icmp_lt hE dX1_workOut_27 (tgt := 190) (by decide) h (fun h => ?_) (fun h => ?_)
  · cases h
    exact k _ _ dX1_workOut_190
  · refine dg_aload0 hE dX1_workOut_30 ?_
    refine md_gf6 hE dX1_workOut_31 ?_
    refine dg_iload hE dX1_workOut_34 6 rfl rfl ?_
    refine md_ld6 hE dX1_workOut_36 h (fun h => ?_)
    refine dg_aload0 hE dX1_workOut_37 ?_
    refine md_gf7 hE dX1_workOut_38 ?_
    refine dg_iload hE dX1_workOut_41 6 rfl rfl ?_
    refine md_ld7 hE dX1_workOut_43 h (fun h => ?_)
    refine md_ca_operands hE (by decide) dX1_workOut_44 (Nat.le_of_ble_eq_true rfl) h (fun r_ h => ?_)
    exact w_md_workOut_b47 hE v1 v2 v3 v4 v5 v6 v7 r_ σ h k
theorem w_md_workOut_b19 {E : dEnv} {l : Launch} {G : dGeo} (hE : mdOk E l G cX1_workOut 13 rmX1_workOut) (v1 v2 v3 v4 v5 v6 s0 : Int32) (σ : dS) {out} (h : md_workOut_b19 v1 v2 v3 v4 v5 v6 s0 σ = some out) (k : dK E cX1_workOut none out) : dG E σ 19 [v1, v2, v3, v4, v5, v6] [.int s0] := by
  unfold md_workOut_b19 at h
  refine dg_iconst hE dX1_workOut_19 (v := (1 : Int32)) (by decide) ?_
  refine dg_isub hE dX1_workOut_20 ?_
  refine dg_istore hE dX1_workOut_21 6 (xs' := [v1, v2, v3, v4, v5, v6, (s0 - (1 : Int32))]) rfl (Nat.le_of_ble_eq_true rfl) (by decide) rfl ?_
  cases h
  exact k
theorem w_md_workOut_b13 {E : dEnv} {l : Launch} {G : dGeo} (hE : mdOk E l G cX1_workOut 13 rmX1_workOut) (v1 v2 v3 v4 v5 v6 : Int32) (σ : dS) {out} (h : md_workOut_b13 v1 v2 v3 v4 v5 v6 σ = some out) (k : dK E cX1_workOut none out) : dG E σ 13 [v1, v2, v3, v4, v5, v6] [] := by
  unfold md_workOut_b13 at h
  refine dg_aload0 hE dX1_workOut_13 ?_
  refine dg_iload hE dX1_workOut_14 5 rfl rfl ?_
  refine md_ca_endOf hE (by decide) dX1_workOut_16 (Nat.le_of_ble_eq_true rfl) h (fun r_ h => ?_)
  exact w_md_workOut_b19 hE v1 v2 v3 v4 v5 v6 (r_.1) (r_.2) h k
theorem w_md_workOut_b5 {E : dEnv} {l : Launch} {G : dGeo} (hE : mdOk E l G cX1_workOut 13 rmX1_workOut) (v1 v2 v3 v4 v5 : Int32) (σ : dS) {out} (h : md_workOut_b5 v1 v2 v3 v4 v5 σ = some out) (k : dK E cX1_workOut none out) : dG E σ 5 [v1, v2, v3, v4, v5] [] := by
  unfold md_workOut_b5 at h
  refine dg_bipush hE dX1_workOut_5 (v := (40 : Int32)) (by decide) ?_
  refine dg_iload_n hE dX1_workOut_7 0 rfl rfl ?_
  refine dg_imul hE dX1_workOut_8 ?_
  refine dg_iload_n hE dX1_workOut_9 1 rfl rfl ?_
  refine dg_iadd hE dX1_workOut_10 ?_
  refine dg_istore hE dX1_workOut_11 5 (xs' := [v1, v2, v3, v4, v5, (((40 : Int32) * v1) + v2)]) rfl (Nat.le_of_ble_eq_true rfl) (by decide) rfl ?_
  exact w_md_workOut_b13 hE v1 v2 v3 v4 v5 (((40 : Int32) * v1) + v2) σ h k
theorem w_md_workOut_b0 {E : dEnv} {l : Launch} {G : dGeo} (hE : mdOk E l G cX1_workOut 13 rmX1_workOut) (v1 v2 v3 v4 v5 : Int32) (σ : dS) {out} (h : md_workOut_b0 v1 v2 v3 v4 v5 σ = some out) (k : dK E cX1_workOut none out) : dG E σ 0 [v1, v2, v3, v4, v5] [] := by
  unfold md_workOut_b0 at h
  refine dg_aload0 hE dX1_workOut_0 ?_
  refine dg_iconst hE dX1_workOut_1 (v := (0 : Int32)) (by decide) ?_
  refine md_pf15 hE dX1_workOut_2 ?_
  exact w_md_workOut_b5 hE v1 v2 v3 v4 v5 (up2 σ 15 0 (0 : Int32)) h k
theorem w_md_workOut_st {E : dEnv} {l : Launch} {G : dGeo} (hE : mdOk E l G cX1_workOut 13 rmX1_workOut) (a : Nat × List Int32 × dS) {out} (h : md_workOut_st a = some out) (k : dK E cX1_workOut none out) : dG E a.2.2 a.1 a.2.1 [] := by
  obtain ⟨L, xs, σ⟩ := a
  unfold md_workOut_st at h
  dsimp only at h ⊢
  by_cases c_ : L = 23
  · subst c_
    rw [if_pos rfl] at h
    match xs, h with
    | [x0, x1, x2, x3, x4, x5, x6], h => exact w_md_workOut_b23 hE x0 x1 x2 x3 x4 x5 x6 σ h k
    | [], h => cases h
    | [_], h => cases h
    | [_, _], h => cases h
    | [_, _, _], h => cases h
    | [_, _, _, _], h => cases h
    | [_, _, _, _, _], h => cases h
    | [_, _, _, _, _, _], h => cases h
    | _ :: _ :: _ :: _ :: _ :: _ :: _ :: _ :: _, h => cases h
  rw [if_neg c_] at h
  cases h
theorem met_md_workOut (l : Launch) (G : dGeo) (sz : Nat) (v1 v2 v3 v4 v5 : Int32) (σ : dS) {r : Int32 × dS} (h : md_workOut v1 v2 v3 v4 v5 σ = some r) : Met l yX1_workOut (ws_ yX1_workOut cX1_workOut 13 none) rmX1_workOut (dPc G.1 (md_ty G) (md_w G σ) sz [.ref G.2.1, .int v1, .int v2, .int v3, .int v4, .int v5]) (dQv G.1 (md_ty G) (md_w G σ) (md_w G r.2) sz) 0 0 (va_A (md_w G σ) sz) := by
  refine dMet_v (w := md_w G) (σ := σ) (σ' := r.2) (r := r.1) (th := [(0, .ref G.2.1)]) (b := 1) (xs := [v1, v2, v3, v4, v5]) (by decide) rfl rfl (Nat.le_of_ble_eq_true rfl) dth (fun E hE k => ?_)
  unfold md_workOut at h
  obtain ⟨out, h1, h2⟩ := lpB_some h
  exact w_md_workOut_b0 hE v1 v2 v3 v4 v5 σ h1 (dK_lp (fun a out => w_md_workOut_st hE a) h2 k)
theorem md_ca_workOut {E : dEnv} {l : Launch} {G : dGeo} {cc : ByteArray} {nL pc : Nat} {R : Room} {σ : dS} {xs : List Int32} {st : List Value} {τ : Type} {g : Int32 × dS → Option τ} {out : τ} {a0 a1 a2 a3 a4 : Int32} (hE : mdOk E l G cc nL R) (hR : 3 + 1 ≤ R.frames ∧ 8 + (13 + 11) + 70 ≤ R.locals) (hd : decode cc pc = .ok (.invokevirtual 132, 3)) (hs : (st.map fun v => v.category).sum ≤ 8) (h : Option.bind (md_workOut a0 a1 a2 a3 a4 σ) g = some out) (k : ∀ r, g r = some out → dG E r.2 (pc + 3) xs (st)) : dG E σ pc xs (.int a4 :: .int a3 :: .int a2 :: .int a1 :: .int a0 :: .ref G.2.1 :: st) := by
  obtain ⟨r, h1, h2⟩ := obind h
  exact dg_callVv hE (As := [.int a0, .int a1, .int a2, .int a3, .int a4]) (st := st) (C := RX1) (rm := rmX1_workOut) (md_recv G) (fun sz => met_md_workOut l G sz a0 a1 a2 a3 a4 σ h1) (lw_V q548 q550 qs39 q51 q551) 5 rfl ⟨rfl, rfl⟩ (by decide +kernel) hR rfl hs hd (k r h2)
abbrev rmX1_sift : Room := { frames := 4, cells := 0, slots := 0, locals := 102 }
theorem w_md_sift_b138 {E : dEnv} {l : Launch} {G : dGeo} (hE : mdOk E l G cX1_sift 7 rmX1_sift) (v1 v2 v3 v4 : Int32) (σ : dS) {out} (h : md_sift_b138 v1 v2 v3 v4 σ = some out) (k : dK E cX1_sift none out) : dG E σ 138 [v1, v2, v3, v4] [] := by
  unfold md_sift_b138 at h
  refine dg_iinc hE dX1_sift_138 3 (xs' := [v1, v2, v3, (v4 + (1 : Int32))]) rfl rfl (by decide) rfl ?_
  refine dg_goto hE dX1_sift_141 (tgt := 13) (by decide) ?_
  cases h
  exact k
theorem w_md_sift_b135 {E : dEnv} {l : Launch} {G : dGeo} (hE : mdOk E l G cX1_sift 7 rmX1_sift) (v1 v2 v3 v4 v5 s0 : Int32) (σ : dS) {out} (h : md_sift_b135 v1 v2 v3 v4 v5 s0 σ = some out) (k : dK E cX1_sift none out) : dG E σ 135 [v1, v2, v3, v4, v5] [.int s0, .ref (G.2.2.1 14)] := by
  unfold md_sift_b135 at h
  refine dg_iload hE dX1_sift_135 4 rfl rfl ?_
  refine md_as14 hE dX1_sift_137 h (fun h => ?_)
  refine dg_drop (xs' := [v1, v2, v3, v4]) (ys := [v5]) rfl ?_
  exact w_md_sift_b138 hE v1 v2 v3 v4 (up2 σ 14 s0.toNatClampNeg v5) h k
theorem w_md_sift_b113 {E : dEnv} {l : Launch} {G : dGeo} (hE : mdOk E l G cX1_sift 7 rmX1_sift) (v1 v2 v3 v4 v5 s0 : Int32) (σ : dS) {out} (h : md_sift_b113 v1 v2 v3 v4 v5 s0 σ = some out) (k : dK E cX1_sift none out) : dG E σ 113 [v1, v2, v3, v4, v5] [.int s0] := by
  unfold md_sift_b113 at h
  refine dg_istore hE dX1_sift_113 5 (xs' := [v1, v2, v3, v4, v5, s0]) rfl (Nat.le_of_ble_eq_true rfl) (by decide) rfl ?_
  refine dg_iload hE dX1_sift_115 5 rfl rfl ?_
  refine dg_if_eq hE dX1_sift_117 (tgt := 138) (by decide) h (fun h => ?_) (fun h => ?_)
  · refine dg_drop (xs' := [v1, v2, v3, v4]) (ys := [v5, s0]) rfl ?_
    exact w_md_sift_b138 hE v1 v2 v3 v4 σ h k
  · refine dg_aload0 hE dX1_sift_120 ?_
    refine md_gf14 hE dX1_sift_121 ?_
    refine dg_aload0 hE dX1_sift_124 ?_
    refine dg_dup hE dX1_sift_125 rfl ?_
    refine md_gf16 hE dX1_sift_126 ?_
    refine dg_dup_x1 hE dX1_sift_129 rfl rfl ?_
    refine dg_iconst hE dX1_sift_130 (v := (1 : Int32)) (by decide) ?_
    refine dg_iadd hE dX1_sift_131 ?_
    refine md_pf16 hE dX1_sift_132 ?_
    refine dg_drop (xs' := [v1, v2, v3, v4, v5]) (ys := [s0]) rfl ?_
    exact w_md_sift_b135 hE v1 v2 v3 v4 v5 (σ 16 0) (up2 σ 16 0 ((σ 16 0) + (1 : Int32))) h k
theorem w_md_sift_b41 {E : dEnv} {l : Launch} {G : dGeo} (hE : mdOk E l G cX1_sift 7 rmX1_sift) (v1 v2 v3 v4 v5 : Int32) (σ : dS) {out} (h : md_sift_b41 v1 v2 v3 v4 v5 σ = some out) (k : dK E cX1_sift none out) : dG E σ 41 [v1, v2, v3, v4, v5] [] := by
  unfold md_sift_b41 at h
  refine dg_aload0 hE dX1_sift_41 ?_
  refine md_gf11 hE dX1_sift_42 ?_
  refine dg_iconst hE dX1_sift_45 (v := (0 : Int32)) (by decide) ?_
  refine md_ld11 hE dX1_sift_46 h (fun h => ?_)
  refine dg_if_ne hE dX1_sift_47 (tgt := 67) (by decide) h (fun h => ?_) (fun h => ?_)
  · refine dg_aload0 hE dX1_sift_67 ?_
    refine md_gf11 hE dX1_sift_68 ?_
    refine dg_iconst hE dX1_sift_71 (v := (0 : Int32)) (by decide) ?_
    refine md_ld11 hE dX1_sift_72 h (fun h => ?_)
    refine dg_iconst hE dX1_sift_73 (v := (1 : Int32)) (by decide) ?_
    refine dg_icmp_ne hE dX1_sift_74 (tgt := 98) (by decide) h (fun h => ?_) (fun h => ?_)
    · refine dg_aload0 hE dX1_sift_98 ?_
      refine md_gf12 hE dX1_sift_99 ?_
      refine dg_iconst hE dX1_sift_102 (v := (0 : Int32)) (by decide) ?_
      refine md_ld12 hE dX1_sift_103 h (fun h => ?_)
      refine dg_iconst hE dX1_sift_104 (v := (1 : Int32)) (by decide) ?_
      refine dg_icmp_ne hE dX1_sift_105 (tgt := 112) (by decide) h (fun h => ?_) (fun h => ?_)
      · refine dg_iconst hE dX1_sift_112 (v := (0 : Int32)) (by decide) ?_
        exact w_md_sift_b113 hE v1 v2 v3 v4 v5 (0 : Int32) σ h k
      · refine dg_iconst hE dX1_sift_108 (v := (1 : Int32)) (by decide) ?_
        refine dg_goto hE dX1_sift_109 (tgt := 113) (by decide) ?_
        exact w_md_sift_b113 hE v1 v2 v3 v4 v5 (1 : Int32) σ h k
    · refine dg_aload0 hE dX1_sift_77 ?_
      refine md_gf12 hE dX1_sift_78 ?_
      refine dg_iconst hE dX1_sift_81 (v := (0 : Int32)) (by decide) ?_
      refine md_ld12 hE dX1_sift_82 h (fun h => ?_)
      refine dg_iload hE dX1_sift_83 3 rfl rfl ?_
      refine dg_iconst hE dX1_sift_85 (v := (1 : Int32)) (by decide) ?_
      refine dg_iadd hE dX1_sift_86 ?_
      refine dg_icmp_ne hE dX1_sift_87 (tgt := 94) (by decide) h (fun h => ?_) (fun h => ?_)
      · refine dg_iconst hE dX1_sift_94 (v := (0 : Int32)) (by decide) ?_
        refine dg_goto hE dX1_sift_95 (tgt := 113) (by decide) ?_
        exact w_md_sift_b113 hE v1 v2 v3 v4 v5 (0 : Int32) σ h k
      · refine dg_iconst hE dX1_sift_90 (v := (1 : Int32)) (by decide) ?_
        refine dg_goto hE dX1_sift_91 (tgt := 113) (by decide) ?_
        exact w_md_sift_b113 hE v1 v2 v3 v4 v5 (1 : Int32) σ h k
  · refine dg_aload0 hE dX1_sift_50 ?_
    refine md_gf13 hE dX1_sift_51 ?_
    refine dg_iconst hE dX1_sift_54 (v := (0 : Int32)) (by decide) ?_
    refine md_ld13 hE dX1_sift_55 h (fun h => ?_)
    refine dg_if_eq hE dX1_sift_56 (tgt := 63) (by decide) h (fun h => ?_) (fun h => ?_)
    · refine dg_iconst hE dX1_sift_63 (v := (0 : Int32)) (by decide) ?_
      refine dg_goto hE dX1_sift_64 (tgt := 113) (by decide) ?_
      exact w_md_sift_b113 hE v1 v2 v3 v4 v5 (0 : Int32) σ h k
    · refine dg_iconst hE dX1_sift_59 (v := (1 : Int32)) (by decide) ?_
      refine dg_goto hE dX1_sift_60 (tgt := 113) (by decide) ?_
      exact w_md_sift_b113 hE v1 v2 v3 v4 v5 (1 : Int32) σ h k
theorem w_md_sift_b28 {E : dEnv} {l : Launch} {G : dGeo} (hE : mdOk E l G cX1_sift 7 rmX1_sift) (v1 v2 v3 v4 v5 : Int32) (σ : dS) {out} (h : md_sift_b28 v1 v2 v3 v4 v5 σ = some out) (k : dK E cX1_sift none out) : dG E σ 28 [v1, v2, v3, v4, v5] [] := by
  unfold md_sift_b28 at h
  refine dg_aload0 hE dX1_sift_28 ?_
  refine dg_iload_n hE dX1_sift_29 0 rfl rfl ?_
  refine dg_iload_n hE dX1_sift_30 1 rfl rfl ?_
  refine dg_iload hE dX1_sift_31 4 rfl rfl ?_
  refine dg_iload hE dX1_sift_33 3 rfl rfl ?_
  refine dg_iconst hE dX1_sift_35 (v := (1 : Int32)) (by decide) ?_
  refine dg_iadd hE dX1_sift_36 ?_
  refine dg_iload_n hE dX1_sift_37 2 rfl rfl ?_
  refine md_ca_workOut hE (by decide) dX1_sift_38 (Nat.le_of_ble_eq_true rfl) h (fun r_ h => ?_)
  exact w_md_sift_b41 hE v1 v2 v3 v4 v5 (r_.2) h k
theorem w_md_sift_b13 {E : dEnv} {l : Launch} {G : dGeo} (hE : mdOk E l G cX1_sift 7 rmX1_sift) (v1 v2 v3 v4 : Int32) (σ : dS) {out} (h : md_sift_b13 v1 v2 v3 v4 σ = some out) (k : dK E cX1_sift none out) : dG E σ 13 [v1, v2, v3, v4] [] := by
  unfold md_sift_b13 at h
  refine dg_iload hE dX1_sift_13 3 rfl rfl ?_
  refine dg_iload_n hE dX1_sift_15 2 rfl rfl ?_
  refine dg_icmp_ge hE dX1_sift_16 (tgt := 144) (by decide) h (fun h => ?_) (fun h => ?_)
  · cases h
    exact k _ _ dX1_sift_144
  · refine dg_aload0 hE dX1_sift_19 ?_
    refine md_gf14 hE dX1_sift_20 ?_
    refine dg_iload hE dX1_sift_23 3 rfl rfl ?_
    refine md_ld14 hE dX1_sift_25 h (fun h => ?_)
    refine dg_istore hE dX1_sift_26 4 (xs' := [v1, v2, v3, v4, (σ 14 v4.toNatClampNeg)]) rfl (Nat.le_of_ble_eq_true rfl) (by decide) rfl ?_
    exact w_md_sift_b28 hE v1 v2 v3 v4 (σ 14 v4.toNatClampNeg) σ h k
theorem w_md_sift_b10 {E : dEnv} {l : Launch} {G : dGeo} (hE : mdOk E l G cX1_sift 7 rmX1_sift) (v1 v2 v3 : Int32) (σ : dS) {out} (h : md_sift_b10 v1 v2 v3 σ = some out) (k : dK E cX1_sift none out) : dG E σ 10 [v1, v2, v3] [] := by
  unfold md_sift_b10 at h
  refine dg_iconst hE dX1_sift_10 (v := (0 : Int32)) (by decide) ?_
  refine dg_istore hE dX1_sift_11 3 (xs' := [v1, v2, v3, (0 : Int32)]) rfl (Nat.le_of_ble_eq_true rfl) (by decide) rfl ?_
  cases h
  exact k
theorem w_md_sift_b5 {E : dEnv} {l : Launch} {G : dGeo} (hE : mdOk E l G cX1_sift 7 rmX1_sift) (v1 v2 v3 : Int32) (σ : dS) {out} (h : md_sift_b5 v1 v2 v3 σ = some out) (k : dK E cX1_sift none out) : dG E σ 5 [v1, v2, v3] [] := by
  unfold md_sift_b5 at h
  refine dg_aload0 hE dX1_sift_5 ?_
  refine dg_iconst hE dX1_sift_6 (v := (0 : Int32)) (by decide) ?_
  refine md_pf16 hE dX1_sift_7 ?_
  exact w_md_sift_b10 hE v1 v2 v3 (up2 σ 16 0 (0 : Int32)) h k
theorem w_md_sift_b0 {E : dEnv} {l : Launch} {G : dGeo} (hE : mdOk E l G cX1_sift 7 rmX1_sift) (v1 v2 : Int32) (σ : dS) {out} (h : md_sift_b0 v1 v2 σ = some out) (k : dK E cX1_sift none out) : dG E σ 0 [v1, v2] [] := by
  unfold md_sift_b0 at h
  refine dg_aload0 hE dX1_sift_0 ?_
  refine md_gf16 hE dX1_sift_1 ?_
  refine dg_istore_n hE dX1_sift_4 2 (xs' := [v1, v2, (σ 16 0)]) rfl (Nat.le_of_ble_eq_true rfl) (by decide) rfl ?_
  exact w_md_sift_b5 hE v1 v2 (σ 16 0) σ h k
theorem w_md_sift_st {E : dEnv} {l : Launch} {G : dGeo} (hE : mdOk E l G cX1_sift 7 rmX1_sift) (a : Nat × List Int32 × dS) {out} (h : md_sift_st a = some out) (k : dK E cX1_sift none out) : dG E a.2.2 a.1 a.2.1 [] := by
  obtain ⟨L, xs, σ⟩ := a
  unfold md_sift_st at h
  dsimp only at h ⊢
  by_cases c_ : L = 13
  · subst c_
    rw [if_pos rfl] at h
    match xs, h with
    | [x0, x1, x2, x3], h => exact w_md_sift_b13 hE x0 x1 x2 x3 σ h k
    | [], h => cases h
    | [_], h => cases h
    | [_, _], h => cases h
    | [_, _, _], h => cases h
    | _ :: _ :: _ :: _ :: _ :: _, h => cases h
  rw [if_neg c_] at h
  cases h
theorem met_md_sift (l : Launch) (G : dGeo) (sz : Nat) (v1 v2 : Int32) (σ : dS) {r : Int32 × dS} (h : md_sift v1 v2 σ = some r) : Met l yX1_sift (ws_ yX1_sift cX1_sift 7 none) rmX1_sift (dPc G.1 (md_ty G) (md_w G σ) sz [.ref G.2.1, .int v1, .int v2]) (dQv G.1 (md_ty G) (md_w G σ) (md_w G r.2) sz) 0 0 (va_A (md_w G σ) sz) := by
  refine dMet_v (w := md_w G) (σ := σ) (σ' := r.2) (r := r.1) (th := [(0, .ref G.2.1)]) (b := 1) (xs := [v1, v2]) (by decide) rfl rfl (Nat.le_of_ble_eq_true rfl) dth (fun E hE k => ?_)
  unfold md_sift at h
  obtain ⟨out, h1, h2⟩ := lpB_some h
  exact w_md_sift_b0 hE v1 v2 σ h1 (dK_lp (fun a out => w_md_sift_st hE a) h2 k)
theorem md_ca_sift {E : dEnv} {l : Launch} {G : dGeo} {cc : ByteArray} {nL pc : Nat} {R : Room} {σ : dS} {xs : List Int32} {st : List Value} {τ : Type} {g : Int32 × dS → Option τ} {out : τ} {a0 a1 : Int32} (hE : mdOk E l G cc nL R) (hR : 4 + 1 ≤ R.frames ∧ 8 + (7 + 11) + 102 ≤ R.locals) (hd : decode cc pc = .ok (.invokevirtual 128, 3)) (hs : (st.map fun v => v.category).sum ≤ 8) (h : Option.bind (md_sift a0 a1 σ) g = some out) (k : ∀ r, g r = some out → dG E r.2 (pc + 3) xs (st)) : dG E σ pc xs (.int a1 :: .int a0 :: .ref G.2.1 :: st) := by
  obtain ⟨r, h1, h2⟩ := obind h
  exact dg_callVv hE (As := [.int a0, .int a1]) (st := st) (C := RX1) (rm := rmX1_sift) (md_recv G) (fun sz => met_md_sift l G sz a0 a1 σ h1) (lw_V q544 q546 qs38 q51 q547) 2 rfl ⟨rfl, rfl⟩ (by decide +kernel) hR rfl hs hd (k r h2)
