set_option maxRecDepth 100000
abbrev rmX0_interval : Room := { frames := 0, cells := 0, slots := 0, locals := 0 }
theorem w_dk_interval_b0 {E : dEnv} {l : Launch} {D : va_G} (hE : dsOk E l D cX0_interval RX0 2 rmX0_interval) (v0 v1 : Int32) {σ : dS} {out} (h : dk_interval_b0 v0 v1 = some out) (k : dRs E cX0_interval (some .int) σ out) : dG E σ 0 [v0, v1] [] := by
  unfold dk_interval_b0 at h
  refine dg_iload_n hE dX0_interval_0 0 rfl rfl ?_
  refine dg_iload_n hE dX0_interval_1 1 rfl rfl ?_
  refine dg_icmp_le hE dX0_interval_2 (tgt := 9) (by decide) h (fun h => ?_) (fun h => ?_)
  · refine dg_iconst hE dX0_interval_9 (v := (1 : Int32)) (by decide) ?_
    refine dg_iload_n hE dX0_interval_10 1 rfl rfl ?_
    refine dg_iconst hE dX0_interval_11 (v := (1 : Int32)) (by decide) ?_
    refine dg_iadd hE dX0_interval_12 ?_
    refine dg_ishl hE dX0_interval_13 ?_
    refine dg_iconst hE dX0_interval_14 (v := (1 : Int32)) (by decide) ?_
    refine dg_iload_n hE dX0_interval_15 0 rfl rfl ?_
    refine dg_ishl hE dX0_interval_16 ?_
    refine dg_isub hE dX0_interval_17 ?_
    cases h
    exact k rfl _ _ dX0_interval_18
  · refine dg_iconst hE dX0_interval_5 (v := (0 : Int32)) (by decide) ?_
    refine dg_goto hE dX0_interval_6 (tgt := 18) (by decide) ?_
    cases h
    exact k rfl _ _ dX0_interval_18
theorem met_dk_interval (l : Launch) (D : va_G) (sz : Nat) (v0 v1 : Int32) {r : Int32} (h : dk_interval v0 v1 = some r) : Met l yX0_interval (ws_ yX0_interval cX0_interval 2 (some .int)) rmX0_interval (dPc D [] [] sz [.int v0, .int v1]) (dQi D [] [] [] sz r) 0 0 (va_A [] sz) := by
  refine dMet_i (w := fun _ => []) (σ := fun _ _ => 0) (σ' := fun _ _ => 0) (th := []) (b := 0) (xs := [v0, v1]) (by decide) rfl rfl (Nat.le_of_ble_eq_true rfl) (fun q hq => by cases hq) (fun E hE k => ?_)
  unfold dk_interval at h
  exact w_dk_interval_b0 hE v0 v1 h k
theorem dk_ca_interval {E : dEnv} {l : Launch} {D : va_G} {tys : List (ClassId × FieldType)} {w : dS → va_W} {th : List (Nat × Value)} {b : Nat} {cc : ByteArray} {nL pc : Nat} {R : Room} {σ : dS} {xs : List Int32} {st : List Value} {τ : Type} {g : Int32 → Option τ} {out : τ} {a0 a1 : Int32} (hE : dOk E cc RX0 l R nL D tys w th b) (hR : 0 + 1 ≤ R.frames ∧ 8 + (2 + 11) + 0 ≤ R.locals) (hd : decode cc pc = .ok (.invokestatic 168, 3)) (hs : (st.map fun v => v.category).sum ≤ 8) (h : Option.bind (dk_interval a0 a1) g = some out) (k : ∀ r, g r = some out → dG E σ (pc + 3) xs (.int r :: st)) : dG E σ pc xs (.int a1 :: .int a0 :: st) := by
  obtain ⟨r, h1, h2⟩ := obind h
  exact dg_callS hE (As := [.int a0, .int a1]) (st := st) (rm := rmX0_interval) (fun sz => met_dk_interval l D sz a0 a1 h1) (lw_S q274 q275 q50 q276) 2 rfl ⟨rfl, rfl⟩ (by decide +kernel) hR rfl hs hd (k r h2)
abbrev rmX0_axis : Room := { frames := 1, cells := 0, slots := 0, locals := 21 }
theorem w_dk_axis_b198 {E : dEnv} {l : Launch} {G : dGeo} (hE : dkOk E l G cX0_axis 4 rmX0_axis) (s0 : Int32) (σ : dS) {out} (h : dk_axis_b198 s0 σ = some out) (k : dR E cX0_axis (some .int) out) : dG E σ 198 [] [.int s0] := by
  unfold dk_axis_b198 at h
  cases h
  exact k rfl _ _ dX0_axis_198
theorem w_dk_axis_b178 {E : dEnv} {l : Launch} {G : dGeo} (hE : dkOk E l G cX0_axis 4 rmX0_axis) (v1 v2 s0 : Int32) (σ : dS) {out} (h : dk_axis_b178 v1 v2 s0 σ = some out) (k : dR E cX0_axis (some .int) out) : dG E σ 178 [v1, v2] [.int s0] := by
  unfold dk_axis_b178 at h
  refine dg_aload0 hE dX0_axis_178 ?_
  refine dk_gf12 hE dX0_axis_179 ?_
  refine dg_iload_n hE dX0_axis_182 1 rfl rfl ?_
  refine dk_ld12 hE dX0_axis_183 h (fun h => ?_)
  refine dg_iconst hE dX0_axis_184 (v := (-1 : Int32)) (by decide) ?_
  refine dg_ixor hE dX0_axis_185 ?_
  refine dg_iand hE dX0_axis_186 ?_
  cases h
  exact k rfl _ _ dX0_axis_187
theorem w_dk_axis_b170 {E : dEnv} {l : Launch} {G : dGeo} (hE : dkOk E l G cX0_axis 4 rmX0_axis) (s0 : Int32) (σ : dS) {out} (h : dk_axis_b170 s0 σ = some out) (k : dR E cX0_axis (some .int) out) : dG E σ 170 [] [.int s0] := by
  unfold dk_axis_b170 at h
  cases h
  exact k rfl _ _ dX0_axis_170
theorem w_dk_axis_b151 {E : dEnv} {l : Launch} {G : dGeo} (hE : dkOk E l G cX0_axis 4 rmX0_axis) (s0 s1 : Int32) (σ : dS) {out} (h : dk_axis_b151 s0 s1 σ = some out) (k : dR E cX0_axis (some .int) out) : dG E σ 151 [] [.int s0, .int s1] := by
  unfold dk_axis_b151 at h
  refine dg_iand hE dX0_axis_151 ?_
  cases h
  exact k rfl _ _ dX0_axis_152
theorem w_dk_axis_b139 {E : dEnv} {l : Launch} {G : dGeo} (hE : dkOk E l G cX0_axis 4 rmX0_axis) (s0 s1 : Int32) (σ : dS) {out} (h : dk_axis_b139 s0 s1 σ = some out) (k : dR E cX0_axis (some .int) out) : dG E σ 139 [] [.int s0, .int s1] := by
  unfold dk_axis_b139 at h
  refine dg_iconst hE dX0_axis_139 (v := (-1 : Int32)) (by decide) ?_
  refine dg_ixor hE dX0_axis_140 ?_
  refine dg_iand hE dX0_axis_141 ?_
  cases h
  exact k rfl _ _ dX0_axis_142
theorem w_dk_axis_b125 {E : dEnv} {l : Launch} {G : dGeo} (hE : dkOk E l G cX0_axis 4 rmX0_axis) (s0 : Int32) (σ : dS) {out} (h : dk_axis_b125 s0 σ = some out) (k : dR E cX0_axis (some .int) out) : dG E σ 125 [] [.int s0] := by
  unfold dk_axis_b125 at h
  cases h
  exact k rfl _ _ dX0_axis_125
theorem w_dk_axis_b24 {E : dEnv} {l : Launch} {G : dGeo} (hE : dkOk E l G cX0_axis 4 rmX0_axis) (v1 v2 s0 : Int32) (σ : dS) {out} (h : dk_axis_b24 v1 v2 s0 σ = some out) (k : dR E cX0_axis (some .int) out) : dG E σ 24 [v1, v2] [.int s0] := by
  unfold dk_axis_b24 at h
  refine dg_istore_n hE dX0_axis_24 2 (xs' := [v1, v2, s0]) rfl (Nat.le_of_ble_eq_true rfl) (by decide) rfl ?_
  refine dg_iload_n hE dX0_axis_25 0 rfl rfl ?_
  refine dg_case (x := v1) (v := (0 : Int32)) h (fun c_ h => ?_) (fun c_ h => ?_)
  · refine dg_tabIn hE dX0_axis_26 (tgt := 80) c_ rfl (by decide) (by decide) rfl (by decide) ?_
    refine dg_iconst hE dX0_axis_80 (v := (1 : Int32)) (by decide) ?_
    refine dg_iload_n hE dX0_axis_81 1 rfl rfl ?_
    refine dg_ishl hE dX0_axis_82 ?_
    cases h
    exact k rfl _ _ dX0_axis_83
  · have n_0 := lv_neT c_ (show ((0 : Int32)).toInt = 0 by decide)
    refine dg_case (x := v1) (v := (1 : Int32)) h (fun c_ h => ?_) (fun c_ h => ?_)
    · refine dg_tabIn hE dX0_axis_26 (tgt := 84) c_ rfl (by decide) (by decide) rfl (by decide) ?_
      refine dg_aload0 hE dX0_axis_84 ?_
      refine dk_gf11 hE dX0_axis_85 ?_
      refine dg_iload_n hE dX0_axis_88 1 rfl rfl ?_
      refine dk_ld11 hE dX0_axis_89 h (fun h => ?_)
      cases h
      exact k rfl _ _ dX0_axis_90
    · have n_1 := lv_neT c_ (show ((1 : Int32)).toInt = 1 by decide)
      refine dg_case (x := v1) (v := (2 : Int32)) h (fun c_ h => ?_) (fun c_ h => ?_)
      · refine dg_tabIn hE dX0_axis_26 (tgt := 91) c_ rfl (by decide) (by decide) rfl (by decide) ?_
        refine dg_aload0 hE dX0_axis_91 ?_
        refine dk_gf10 hE dX0_axis_92 ?_
        refine dg_iload_n hE dX0_axis_95 1 rfl rfl ?_
        refine dk_ld10 hE dX0_axis_96 h (fun h => ?_)
        refine dg_if_ge hE dX0_axis_97 (tgt := 104) (by decide) h (fun h => ?_) (fun h => ?_)
        · refine dg_iconst hE dX0_axis_104 (v := (1 : Int32)) (by decide) ?_
          refine dg_aload0 hE dX0_axis_105 ?_
          refine dk_gf10 hE dX0_axis_106 ?_
          refine dg_iload_n hE dX0_axis_109 1 rfl rfl ?_
          refine dk_ld10 hE dX0_axis_110 h (fun h => ?_)
          refine dg_ishl hE dX0_axis_111 ?_
          cases h
          exact k rfl _ _ dX0_axis_112
        · refine dg_iconst hE dX0_axis_100 (v := (0 : Int32)) (by decide) ?_
          refine dg_goto hE dX0_axis_101 (tgt := 112) (by decide) ?_
          cases h
          exact k rfl _ _ dX0_axis_112
      · have n_2 := lv_neT c_ (show ((2 : Int32)).toInt = 2 by decide)
        refine dg_case (x := v1) (v := (3 : Int32)) h (fun c_ h => ?_) (fun c_ h => ?_)
        · refine dg_tabIn hE dX0_axis_26 (tgt := 113) c_ rfl (by decide) (by decide) rfl (by decide) ?_
          refine dg_iload_n hE dX0_axis_113 1 rfl rfl ?_
          refine dg_iconst hE dX0_axis_114 (v := (1 : Int32)) (by decide) ?_
          refine dg_iadd hE dX0_axis_115 ?_
          refine dg_aload0 hE dX0_axis_116 ?_
          refine dk_gf9 hE dX0_axis_117 ?_
          refine dg_iload_n hE dX0_axis_120 1 rfl rfl ?_
          refine dk_ld9 hE dX0_axis_121 h (fun h => ?_)
          refine dk_ca_interval hE (by decide) dX0_axis_122 (Nat.le_of_ble_eq_true rfl) h (fun r_ h => ?_)
          refine dg_drop (xs' := []) (ys := [v1, v2, s0]) rfl ?_
          exact w_dk_axis_b125 hE r_ σ h k
        · have n_3 := lv_neT c_ (show ((3 : Int32)).toInt = 3 by decide)
          refine dg_case (x := v1) (v := (4 : Int32)) h (fun c_ h => ?_) (fun c_ h => ?_)
          · refine dg_tabIn hE dX0_axis_26 (tgt := 126) c_ rfl (by decide) (by decide) rfl (by decide) ?_
            refine dg_aload0 hE dX0_axis_126 ?_
            refine dk_gf12 hE dX0_axis_127 ?_
            refine dg_iload_n hE dX0_axis_130 1 rfl rfl ?_
            refine dk_ld12 hE dX0_axis_131 h (fun h => ?_)
            cases h
            exact k rfl _ _ dX0_axis_132
          · have n_4 := lv_neT c_ (show ((4 : Int32)).toInt = 4 by decide)
            refine dg_case (x := v1) (v := (5 : Int32)) h (fun c_ h => ?_) (fun c_ h => ?_)
            · refine dg_tabIn hE dX0_axis_26 (tgt := 133) c_ rfl (by decide) (by decide) rfl (by decide) ?_
              refine dg_iload_n hE dX0_axis_133 2 rfl rfl ?_
              refine dg_iconst hE dX0_axis_134 (v := (0 : Int32)) (by decide) ?_
              refine dg_iload_n hE dX0_axis_135 1 rfl rfl ?_
              refine dk_ca_interval hE (by decide) dX0_axis_136 (Nat.le_of_ble_eq_true rfl) h (fun r_ h => ?_)
              refine dg_drop (xs' := []) (ys := [v1, v2, s0]) rfl ?_
              exact w_dk_axis_b139 hE r_ s0 σ h k
            · have n_5 := lv_neT c_ (show ((5 : Int32)).toInt = 5 by decide)
              refine dg_case (x := v1) (v := (6 : Int32)) h (fun c_ h => ?_) (fun c_ h => ?_)
              · refine dg_tabIn hE dX0_axis_26 (tgt := 143) c_ rfl (by decide) (by decide) rfl (by decide) ?_
                refine dg_iload_n hE dX0_axis_143 2 rfl rfl ?_
                refine dg_iconst hE dX0_axis_144 (v := (0 : Int32)) (by decide) ?_
                refine dg_iload_n hE dX0_axis_145 1 rfl rfl ?_
                refine dg_iconst hE dX0_axis_146 (v := (1 : Int32)) (by decide) ?_
                refine dg_isub hE dX0_axis_147 ?_
                refine dk_ca_interval hE (by decide) dX0_axis_148 (Nat.le_of_ble_eq_true rfl) h (fun r_ h => ?_)
                refine dg_drop (xs' := []) (ys := [v1, v2, s0]) rfl ?_
                exact w_dk_axis_b151 hE r_ s0 σ h k
              · have n_6 := lv_neT c_ (show ((6 : Int32)).toInt = 6 by decide)
                refine dg_case (x := v1) (v := (7 : Int32)) h (fun c_ h => ?_) (fun c_ h => ?_)
                · refine dg_tabIn hE dX0_axis_26 (tgt := 153) c_ rfl (by decide) (by decide) rfl (by decide) ?_
                  refine dg_aload0 hE dX0_axis_153 ?_
                  refine dk_gf9 hE dX0_axis_154 ?_
                  refine dg_iload_n hE dX0_axis_157 1 rfl rfl ?_
                  refine dk_ld9 hE dX0_axis_158 h (fun h => ?_)
                  refine dg_iconst hE dX0_axis_159 (v := (1 : Int32)) (by decide) ?_
                  refine dg_iadd hE dX0_axis_160 ?_
                  refine dg_aload0 hE dX0_axis_161 ?_
                  refine dk_gf6 hE dX0_axis_162 ?_
                  refine dg_iconst hE dX0_axis_165 (v := (1 : Int32)) (by decide) ?_
                  refine dg_isub hE dX0_axis_166 ?_
                  refine dk_ca_interval hE (by decide) dX0_axis_167 (Nat.le_of_ble_eq_true rfl) h (fun r_ h => ?_)
                  refine dg_drop (xs' := []) (ys := [v1, v2, s0]) rfl ?_
                  exact w_dk_axis_b170 hE r_ σ h k
                · have n_7 := lv_neT c_ (show ((7 : Int32)).toInt = 7 by decide)
                  refine dg_case (x := v1) (v := (8 : Int32)) h (fun c_ h => ?_) (fun c_ h => ?_)
                  · refine dg_tabIn hE dX0_axis_26 (tgt := 171) c_ rfl (by decide) (by decide) rfl (by decide) ?_
                    refine dg_iconst hE dX0_axis_171 (v := (0 : Int32)) (by decide) ?_
                    refine dg_iload_n hE dX0_axis_172 1 rfl rfl ?_
                    refine dg_iconst hE dX0_axis_173 (v := (1 : Int32)) (by decide) ?_
                    refine dg_isub hE dX0_axis_174 ?_
                    refine dk_ca_interval hE (by decide) dX0_axis_175 (Nat.le_of_ble_eq_true rfl) h (fun r_ h => ?_)
                    refine dg_drop (xs' := [v1, v2]) (ys := [s0]) rfl ?_
                    exact w_dk_axis_b178 hE v1 v2 r_ σ h k
                  · have n_8 := lv_neT c_ (show ((8 : Int32)).toInt = 8 by decide)
                    refine dg_case (x := v1) (v := (9 : Int32)) h (fun c_ h => ?_) (fun c_ h => ?_)
                    · refine dg_tabIn hE dX0_axis_26 (tgt := 188) c_ rfl (by decide) (by decide) rfl (by decide) ?_
                      refine dg_iload_n hE dX0_axis_188 1 rfl rfl ?_
                      refine dg_aload0 hE dX0_axis_189 ?_
                      refine dk_gf9 hE dX0_axis_190 ?_
                      refine dg_iload_n hE dX0_axis_193 1 rfl rfl ?_
                      refine dk_ld9 hE dX0_axis_194 h (fun h => ?_)
                      refine dk_ca_interval hE (by decide) dX0_axis_195 (Nat.le_of_ble_eq_true rfl) h (fun r_ h => ?_)
                      refine dg_drop (xs' := []) (ys := [v1, v2, s0]) rfl ?_
                      exact w_dk_axis_b198 hE r_ σ h k
                    · have n_9 := lv_neT c_ (show ((9 : Int32)).toInt = 9 by decide)
                      refine dg_tabOut hE dX0_axis_26 (tgt := 199) (by have hq := trivial; omega) (by decide) ?_
                      refine dg_aload0 hE dX0_axis_199 ?_
                      refine dk_gf12 hE dX0_axis_200 ?_
                      refine dg_iload_n hE dX0_axis_203 1 rfl rfl ?_
                      refine dk_ld12 hE dX0_axis_204 h (fun h => ?_)
                      refine dg_iconst hE dX0_axis_205 (v := (1 : Int32)) (by decide) ?_
                      refine dg_iload_n hE dX0_axis_206 1 rfl rfl ?_
                      refine dg_ishl hE dX0_axis_207 ?_
                      refine dg_ior hE dX0_axis_208 ?_
                      cases h
                      exact k rfl _ _ dX0_axis_209
theorem w_dk_axis_b0 {E : dEnv} {l : Launch} {G : dGeo} (hE : dkOk E l G cX0_axis 4 rmX0_axis) (v1 v2 : Int32) (σ : dS) {out} (h : dk_axis_b0 v1 v2 σ = some out) (k : dR E cX0_axis (some .int) out) : dG E σ 0 [v1, v2] [] := by
  unfold dk_axis_b0 at h
  refine dg_aload0 hE dX0_axis_0 ?_
  refine dk_gf10 hE dX0_axis_1 ?_
  refine dg_iload_n hE dX0_axis_4 1 rfl rfl ?_
  refine dk_ld10 hE dX0_axis_5 h (fun h => ?_)
  refine dg_if_ge hE dX0_axis_6 (tgt := 13) (by decide) h (fun h => ?_) (fun h => ?_)
  · refine dg_aload0 hE dX0_axis_13 ?_
    refine dk_gf11 hE dX0_axis_14 ?_
    refine dg_aload0 hE dX0_axis_17 ?_
    refine dk_gf10 hE dX0_axis_18 ?_
    refine dg_iload_n hE dX0_axis_21 1 rfl rfl ?_
    refine dk_ld10 hE dX0_axis_22 h (fun h => ?_)
    refine dk_ld11 hE dX0_axis_23 h (fun h => ?_)
    exact w_dk_axis_b24 hE v1 v2 (σ 11 (σ 10 v2.toNatClampNeg).toNatClampNeg) σ h k
  · refine dg_iconst hE dX0_axis_9 (v := (0 : Int32)) (by decide) ?_
    refine dg_goto hE dX0_axis_10 (tgt := 24) (by decide) ?_
    exact w_dk_axis_b24 hE v1 v2 (0 : Int32) σ h k
theorem met_dk_axis (l : Launch) (G : dGeo) (sz : Nat) (v1 v2 : Int32) (σ : dS) {r : Int32 × dS} (h : dk_axis v1 v2 σ = some r) : Met l yX0_axis (ws_ yX0_axis cX0_axis 4 (some .int)) rmX0_axis (dPc G.1 (dk_ty G) (dk_w G σ) sz [.ref G.2.1, .int v1, .int v2]) (dQi G.1 (dk_ty G) (dk_w G σ) (dk_w G r.2) sz r.1) 0 0 (va_A (dk_w G σ) sz) := by
  refine dMet_i (w := dk_w G) (σ := σ) (σ' := r.2) (th := [(0, .ref G.2.1)]) (b := 1) (xs := [v1, v2]) (by decide) rfl rfl (Nat.le_of_ble_eq_true rfl) dth (fun E hE k => ?_)
  unfold dk_axis at h
  exact w_dk_axis_b0 hE v1 v2 σ h k
theorem dk_ca_axis {E : dEnv} {l : Launch} {G : dGeo} {cc : ByteArray} {nL pc : Nat} {R : Room} {σ : dS} {xs : List Int32} {st : List Value} {τ : Type} {g : Int32 × dS → Option τ} {out : τ} {a0 a1 : Int32} (hE : dkOk E l G cc nL R) (hR : 1 + 1 ≤ R.frames ∧ 8 + (4 + 11) + 21 ≤ R.locals) (hd : decode cc pc = .ok (.invokevirtual 208, 3)) (hs : (st.map fun v => v.category).sum ≤ 8) (h : Option.bind (dk_axis a0 a1 σ) g = some out) (k : ∀ r, g r = some out → dG E r.2 (pc + 3) xs (.int r.1 :: st)) : dG E σ pc xs (.int a1 :: .int a0 :: .ref G.2.1 :: st) := by
  obtain ⟨r, h1, h2⟩ := obind h
  exact dg_callVi hE (As := [.int a0, .int a1]) (st := st) (C := RX0) (rm := rmX0_axis) (dk_recv G) (fun sz => met_dk_axis l G sz a0 a1 σ h1) (lw_V q270 q272 qs12 q50 q273) 2 rfl ⟨rfl, rfl⟩ (by decide +kernel) hR rfl hs hd (k r h2)
abbrev rmX0_highest : Room := { frames := 0, cells := 0, slots := 0, locals := 0 }
theorem w_dk_highest_b3 {E : dEnv} {l : Launch} {D : va_G} (hE : dsOk E l D cX0_highest RX0 2 rmX0_highest) (v0 v1 : Int32) {σ : dS} {out} (h : dk_highest_b3 v0 v1 = some out) (k : dKs E cX0_highest (some .int) σ out) : dG E σ 3 [v0, v1] [] := by
  unfold dk_highest_b3 at h
  refine dg_iload_n hE dX0_highest_3 0 rfl rfl ?_
  refine dg_iload_n hE dX0_highest_4 1 rfl rfl ?_
  refine dg_ishr hE dX0_highest_5 ?_
  refine dg_iconst hE dX0_highest_6 (v := (1 : Int32)) (by decide) ?_
  refine dg_iand hE dX0_highest_7 ?_
  refine dg_if_ne hE dX0_highest_8 (tgt := 17) (by decide) h (fun h => ?_) (fun h => ?_)
  · refine dg_iload_n hE dX0_highest_17 1 rfl rfl ?_
    cases h
    exact k rfl _ _ dX0_highest_18
  · refine dg_iinc hE dX0_highest_11 1 (xs' := [v0, (v1 + (-1 : Int32))]) rfl rfl (by decide) rfl ?_
    refine dg_goto hE dX0_highest_14 (tgt := 3) (by decide) ?_
    cases h
    exact k
theorem w_dk_highest_b0 {E : dEnv} {l : Launch} {D : va_G} (hE : dsOk E l D cX0_highest RX0 2 rmX0_highest) (v0 : Int32) {σ : dS} {out} (h : dk_highest_b0 v0 = some out) (k : dKs E cX0_highest (some .int) σ out) : dG E σ 0 [v0] [] := by
  unfold dk_highest_b0 at h
  refine dg_bipush hE dX0_highest_0 (v := (23 : Int32)) (by decide) ?_
  refine dg_istore_n hE dX0_highest_2 1 (xs' := [v0, (23 : Int32)]) rfl (Nat.le_of_ble_eq_true rfl) (by decide) rfl ?_
  cases h
  exact k
theorem w_dk_highest_st {E : dEnv} {l : Launch} {D : va_G} (hE : dsOk E l D cX0_highest RX0 2 rmX0_highest) {σ : dS} (a : Nat × List Int32) {out} (h : dk_highest_st a = some out) (k : dKs E cX0_highest (some .int) σ out) : dG E σ a.1 a.2 [] := by
  obtain ⟨L, xs⟩ := a
  unfold dk_highest_st at h
  dsimp only at h ⊢
  by_cases c_ : L = 3
  · subst c_
    rw [if_pos rfl] at h
    match xs, h with
    | [x0, x1], h => exact w_dk_highest_b3 hE x0 x1 h k
    | [], h => cases h
    | [_], h => cases h
    | _ :: _ :: _ :: _, h => cases h
  rw [if_neg c_] at h
  cases h
theorem met_dk_highest (l : Launch) (D : va_G) (sz : Nat) (v0 : Int32) {r : Int32} (h : dk_highest v0 = some r) : Met l yX0_highest (ws_ yX0_highest cX0_highest 2 (some .int)) rmX0_highest (dPc D [] [] sz [.int v0]) (dQi D [] [] [] sz r) 0 0 (va_A [] sz) := by
  refine dMet_i (w := fun _ => []) (σ := fun _ _ => 0) (σ' := fun _ _ => 0) (th := []) (b := 0) (xs := [v0]) (by decide) rfl rfl (Nat.le_of_ble_eq_true rfl) (fun q hq => by cases hq) (fun E hE k => ?_)
  unfold dk_highest at h
  obtain ⟨out, h1, h2⟩ := lpB_some h
  exact w_dk_highest_b0 hE v0 h1 (dKs_lp (fun a out => w_dk_highest_st hE a) h2 k)
theorem dk_ca_highest {E : dEnv} {l : Launch} {D : va_G} {tys : List (ClassId × FieldType)} {w : dS → va_W} {th : List (Nat × Value)} {b : Nat} {cc : ByteArray} {nL pc : Nat} {R : Room} {σ : dS} {xs : List Int32} {st : List Value} {τ : Type} {g : Int32 → Option τ} {out : τ} {a0 : Int32} (hE : dOk E cc RX0 l R nL D tys w th b) (hR : 0 + 1 ≤ R.frames ∧ 8 + (2 + 11) + 0 ≤ R.locals) (hd : decode cc pc = .ok (.invokestatic 215, 3)) (hs : (st.map fun v => v.category).sum ≤ 8) (h : Option.bind (dk_highest a0) g = some out) (k : ∀ r, g r = some out → dG E σ (pc + 3) xs (.int r :: st)) : dG E σ pc xs (.int a0 :: st) := by
  obtain ⟨r, h1, h2⟩ := obind h
  exact dg_callS hE (As := [.int a0]) (st := st) (rm := rmX0_highest) (fun sz => met_dk_highest l D sz a0 h1) (lw_S q284 q285 q50 q286) 1 rfl ⟨rfl, rfl⟩ (by decide +kernel) hR rfl hs hd (k r h2)
abbrev rmX0_tested : Room := { frames := 6, cells := 0, slots := 0, locals := 154 }
theorem w_dk_tested_b142 {E : dEnv} {l : Launch} {G : dGeo} (hE : dkOk E l G cX0_tested 12 rmX0_tested) (v1 v2 v3 v4 v5 v6 v7 v8 v9 : Int32) (σ : dS) {out} (h : dk_tested_b142 v1 v2 v3 v4 v5 v6 v7 v8 v9 σ = some out) (k : dK E cX0_tested (some .int) out) : dG E σ 142 [v1, v2, v3, v4, v5, v6, v7, v8, v9] [] := by
  unfold dk_tested_b142 at h
  refine dg_goto hE dX0_tested_142 (tgt := 34) (by decide) ?_
  cases h
  exact k
theorem w_dk_tested_b133 {E : dEnv} {l : Launch} {G : dGeo} (hE : dkOk E l G cX0_tested 12 rmX0_tested) (v1 v2 v3 v4 v5 v6 v7 v8 v9 v10 : Int32) (σ : dS) {out} (h : dk_tested_b133 v1 v2 v3 v4 v5 v6 v7 v8 v9 v10 σ = some out) (k : dK E cX0_tested (some .int) out) : dG E σ 133 [v1, v2, v3, v4, v5, v6, v7, v8, v9, v10] [] := by
  unfold dk_tested_b133 at h
  refine dg_iload hE dX0_tested_133 5 rfl rfl ?_
  refine dg_iconst hE dX0_tested_135 (v := (1 : Int32)) (by decide) ?_
  refine dg_iload hE dX0_tested_136 9 rfl rfl ?_
  refine dg_ishl hE dX0_tested_138 ?_
  refine dg_ior hE dX0_tested_139 ?_
  refine dg_istore hE dX0_tested_140 5 (xs' := [v1, v2, v3, v4, v5, (v6 ||| ((1 : Int32) <<< (v10 &&& 31))), v7, v8, v9, v10]) rfl (Nat.le_of_ble_eq_true rfl) (by decide) rfl ?_
  refine dg_drop (xs' := [v1, v2, v3, v4, v5, (v6 ||| ((1 : Int32) <<< (v10 &&& 31))), v7, v8, v9]) (ys := [v10]) rfl ?_
  exact w_dk_tested_b142 hE v1 v2 v3 v4 v5 (v6 ||| ((1 : Int32) <<< (v10 &&& 31))) v7 v8 v9 σ h k
theorem w_dk_tested_b111 {E : dEnv} {l : Launch} {G : dGeo} (hE : dkOk E l G cX0_tested 12 rmX0_tested) (v1 v2 v3 v4 v5 v6 v7 v8 v9 v10 s0 : Int32) (σ : dS) {out} (h : dk_tested_b111 v1 v2 v3 v4 v5 v6 v7 v8 v9 v10 s0 σ = some out) (k : dK E cX0_tested (some .int) out) : dG E σ 111 [v1, v2, v3, v4, v5, v6, v7, v8, v9, v10] [.int s0] := by
  unfold dk_tested_b111 at h
  refine dg_istore hE dX0_tested_111 10 (xs' := [v1, v2, v3, v4, v5, v6, v7, v8, v9, v10, s0]) rfl (Nat.le_of_ble_eq_true rfl) (by decide) rfl ?_
  refine dg_iload hE dX0_tested_113 4 rfl rfl ?_
  refine dg_if_eq hE dX0_tested_115 (tgt := 128) (by decide) h (fun h => ?_) (fun h => ?_)
  · refine dg_iload hE dX0_tested_128 10 rfl rfl ?_
    refine dg_if_eq hE dX0_tested_130 (tgt := 142) (by decide) h (fun h => ?_) (fun h => ?_)
    · refine dg_drop (xs' := [v1, v2, v3, v4, v5, v6, v7, v8, v9]) (ys := [v10, s0]) rfl ?_
      exact w_dk_tested_b142 hE v1 v2 v3 v4 v5 v6 v7 v8 v9 σ h k
    · refine dg_drop (xs' := [v1, v2, v3, v4, v5, v6, v7, v8, v9, v10]) (ys := [s0]) rfl ?_
      exact w_dk_tested_b133 hE v1 v2 v3 v4 v5 v6 v7 v8 v9 v10 σ h k
  · refine dg_iload hE dX0_tested_118 10 rfl rfl ?_
    refine dg_iload hE dX0_tested_120 7 rfl rfl ?_
    refine dg_icmp_ne hE dX0_tested_122 (tgt := 142) (by decide) h (fun h => ?_) (fun h => ?_)
    · refine dg_drop (xs' := [v1, v2, v3, v4, v5, v6, v7, v8, v9]) (ys := [v10, s0]) rfl ?_
      exact w_dk_tested_b142 hE v1 v2 v3 v4 v5 v6 v7 v8 v9 σ h k
    · refine dg_goto hE dX0_tested_125 (tgt := 133) (by decide) ?_
      refine dg_drop (xs' := [v1, v2, v3, v4, v5, v6, v7, v8, v9, v10]) (ys := [s0]) rfl ?_
      exact w_dk_tested_b133 hE v1 v2 v3 v4 v5 v6 v7 v8 v9 v10 σ h k
theorem w_dk_tested_b70 {E : dEnv} {l : Launch} {G : dGeo} (hE : dkOk E l G cX0_tested 12 rmX0_tested) (v1 v2 v3 v4 v5 v6 v7 v8 v9 v10 : Int32) (σ : dS) {out} (h : dk_tested_b70 v1 v2 v3 v4 v5 v6 v7 v8 v9 v10 σ = some out) (k : dK E cX0_tested (some .int) out) : dG E σ 70 [v1, v2, v3, v4, v5, v6, v7, v8, v9, v10] [] := by
  unfold dk_tested_b70 at h
  refine dg_iinc hE dX0_tested_70 7 (xs' := [v1, v2, v3, v4, v5, v6, v7, (v8 + (1 : Int32)), v9, v10]) rfl rfl (by decide) rfl ?_
  refine dg_aload0 hE dX0_tested_73 ?_
  refine dk_gf20 hE dX0_tested_74 ?_
  refine dg_iload_n hE dX0_tested_77 0 rfl rfl ?_
  refine dg_iload_n hE dX0_tested_78 1 rfl rfl ?_
  refine dg_iadd hE dX0_tested_79 ?_
  refine dk_ld20 hE dX0_tested_80 h (fun h => ?_)
  refine dg_if_eq hE dX0_tested_81 (tgt := 99) (by decide) h (fun h => ?_) (fun h => ?_)
  · refine dg_aload0 hE dX0_tested_99 ?_
    refine dk_gf23 hE dX0_tested_100 ?_
    refine dg_bipush hE dX0_tested_103 (v := (24 : Int32)) (by decide) ?_
    refine dg_iload_n hE dX0_tested_105 1 rfl rfl ?_
    refine dg_imul hE dX0_tested_106 ?_
    refine dg_iload hE dX0_tested_107 9 rfl rfl ?_
    refine dg_iadd hE dX0_tested_109 ?_
    refine dk_ld23 hE dX0_tested_110 h (fun h => ?_)
    exact w_dk_tested_b111 hE v1 v2 v3 v4 v5 v6 v7 (v8 + (1 : Int32)) v9 v10 (σ 23 (((24 : Int32) * v2) + v10).toNatClampNeg) σ h k
  · refine dg_aload0 hE dX0_tested_84 ?_
    refine dg_iload_n hE dX0_tested_85 0 rfl rfl ?_
    refine dg_iload_n hE dX0_tested_86 1 rfl rfl ?_
    refine dg_iload hE dX0_tested_87 9 rfl rfl ?_
    refine dg_iload hE dX0_tested_89 7 rfl rfl ?_
    refine dg_iload hE dX0_tested_91 6 rfl rfl ?_
    refine dk_ca_later hE (by decide) dX0_tested_93 (Nat.le_of_ble_eq_true rfl) h (fun r_ h => ?_)
    refine dg_goto hE dX0_tested_96 (tgt := 111) (by decide) ?_
    exact w_dk_tested_b111 hE v1 v2 v3 v4 v5 v6 v7 (v8 + (1 : Int32)) v9 v10 (r_.1) (r_.2) h k
theorem w_dk_tested_b57 {E : dEnv} {l : Launch} {G : dGeo} (hE : dkOk E l G cX0_tested 12 rmX0_tested) (v1 v2 v3 v4 v5 v6 v7 v8 v9 s0 : Int32) (σ : dS) {out} (h : dk_tested_b57 v1 v2 v3 v4 v5 v6 v7 v8 v9 s0 σ = some out) (k : dK E cX0_tested (some .int) out) : dG E σ 57 [v1, v2, v3, v4, v5, v6, v7, v8, v9] [.int s0] := by
  unfold dk_tested_b57 at h
  refine dg_istore hE dX0_tested_57 9 (xs' := [v1, v2, v3, v4, v5, v6, v7, v8, v9, s0]) rfl (Nat.le_of_ble_eq_true rfl) (by decide) rfl ?_
  refine dg_iload hE dX0_tested_59 8 rfl rfl ?_
  refine dg_iconst hE dX0_tested_61 (v := (1 : Int32)) (by decide) ?_
  refine dg_iload hE dX0_tested_62 9 rfl rfl ?_
  refine dg_ishl hE dX0_tested_64 ?_
  refine dg_iconst hE dX0_tested_65 (v := (-1 : Int32)) (by decide) ?_
  refine dg_ixor hE dX0_tested_66 ?_
  refine dg_iand hE dX0_tested_67 ?_
  refine dg_istore hE dX0_tested_68 8 (xs' := [v1, v2, v3, v4, v5, v6, v7, v8, (v9 &&& (((1 : Int32) <<< (s0 &&& 31)) ^^^ (-1 : Int32))), s0]) rfl (Nat.le_of_ble_eq_true rfl) (by decide) rfl ?_
  exact w_dk_tested_b70 hE v1 v2 v3 v4 v5 v6 v7 v8 (v9 &&& (((1 : Int32) <<< (s0 &&& 31)) ^^^ (-1 : Int32))) s0 σ h k
theorem w_dk_tested_b34 {E : dEnv} {l : Launch} {G : dGeo} (hE : dkOk E l G cX0_tested 12 rmX0_tested) (v1 v2 v3 v4 v5 v6 v7 v8 v9 : Int32) (σ : dS) {out} (h : dk_tested_b34 v1 v2 v3 v4 v5 v6 v7 v8 v9 σ = some out) (k : dK E cX0_tested (some .int) out) : dG E σ 34 [v1, v2, v3, v4, v5, v6, v7, v8, v9] [] := by
  unfold dk_tested_b34 at h
  refine dg_iload hE dX0_tested_34 8 rfl rfl ?_
  refine dg_if_eq hE dX0_tested_36 (tgt := 145) (by decide) h (fun h => ?_) (fun h => ?_)
  · refine dg_iload hE dX0_tested_145 5 rfl rfl ?_
    cases h
    exact k rfl _ _ dX0_tested_147
  · refine dg_iload hE dX0_tested_39 3 rfl rfl ?_
    refine dg_if_eq hE dX0_tested_41 (tgt := 52) (by decide) h (fun h => ?_) (fun h => ?_)
    · refine dg_iload hE dX0_tested_52 8 rfl rfl ?_
      refine dk_ca_lowest hE (by decide) dX0_tested_54 (Nat.le_of_ble_eq_true rfl) h (fun r_ h => ?_)
      exact w_dk_tested_b57 hE v1 v2 v3 v4 v5 v6 v7 v8 v9 r_ σ h k
    · refine dg_iload hE dX0_tested_44 8 rfl rfl ?_
      refine dk_ca_highest hE (by decide) dX0_tested_46 (Nat.le_of_ble_eq_true rfl) h (fun r_ h => ?_)
      refine dg_goto hE dX0_tested_49 (tgt := 57) (by decide) ?_
      exact w_dk_tested_b57 hE v1 v2 v3 v4 v5 v6 v7 v8 v9 r_ σ h k
theorem w_dk_tested_b26 {E : dEnv} {l : Launch} {G : dGeo} (hE : dkOk E l G cX0_tested 12 rmX0_tested) (v1 v2 v3 v4 v5 v6 s0 : Int32) (σ : dS) {out} (h : dk_tested_b26 v1 v2 v3 v4 v5 v6 s0 σ = some out) (k : dK E cX0_tested (some .int) out) : dG E σ 26 [v1, v2, v3, v4, v5, v6] [.int s0] := by
  unfold dk_tested_b26 at h
  refine dg_istore hE dX0_tested_26 6 (xs' := [v1, v2, v3, v4, v5, v6, s0]) rfl (Nat.le_of_ble_eq_true rfl) (by decide) rfl ?_
  refine dg_iconst hE dX0_tested_28 (v := (0 : Int32)) (by decide) ?_
  refine dg_istore hE dX0_tested_29 7 (xs' := [v1, v2, v3, v4, v5, v6, s0, (0 : Int32)]) rfl (Nat.le_of_ble_eq_true rfl) (by decide) rfl ?_
  refine dg_iload_n hE dX0_tested_31 2 rfl rfl ?_
  refine dg_istore hE dX0_tested_32 8 (xs' := [v1, v2, v3, v4, v5, v6, s0, (0 : Int32), v3]) rfl (Nat.le_of_ble_eq_true rfl) (by decide) rfl ?_
  cases h
  exact k
theorem w_dk_tested_b17 {E : dEnv} {l : Launch} {G : dGeo} (hE : dkOk E l G cX0_tested 12 rmX0_tested) (v1 v2 v3 v4 s0 : Int32) (σ : dS) {out} (h : dk_tested_b17 v1 v2 v3 v4 s0 σ = some out) (k : dK E cX0_tested (some .int) out) : dG E σ 17 [v1, v2, v3, v4] [.int s0] := by
  unfold dk_tested_b17 at h
  refine dg_istore hE dX0_tested_17 4 (xs' := [v1, v2, v3, v4, s0]) rfl (Nat.le_of_ble_eq_true rfl) (by decide) rfl ?_
  refine dg_iconst hE dX0_tested_19 (v := (0 : Int32)) (by decide) ?_
  refine dg_istore hE dX0_tested_20 5 (xs' := [v1, v2, v3, v4, s0, (0 : Int32)]) rfl (Nat.le_of_ble_eq_true rfl) (by decide) rfl ?_
  refine dg_iload_n hE dX0_tested_22 2 rfl rfl ?_
  refine dk_ca_bits hE (by decide) dX0_tested_23 (Nat.le_of_ble_eq_true rfl) h (fun r_ h => ?_)
  exact w_dk_tested_b26 hE v1 v2 v3 v4 s0 (0 : Int32) r_ σ h k
theorem w_dk_tested_b0 {E : dEnv} {l : Launch} {G : dGeo} (hE : dkOk E l G cX0_tested 12 rmX0_tested) (v1 v2 v3 v4 : Int32) (σ : dS) {out} (h : dk_tested_b0 v1 v2 v3 v4 σ = some out) (k : dK E cX0_tested (some .int) out) : dG E σ 0 [v1, v2, v3, v4] [] := by
  unfold dk_tested_b0 at h
  refine dg_aload0 hE dX0_tested_0 ?_
  refine dk_gf18 hE dX0_tested_1 ?_
  refine dg_iload_n hE dX0_tested_4 0 rfl rfl ?_
  refine dg_iload_n hE dX0_tested_5 1 rfl rfl ?_
  refine dg_iadd hE dX0_tested_6 ?_
  refine dk_ld18 hE dX0_tested_7 h (fun h => ?_)
  refine dg_iconst hE dX0_tested_8 (v := (1 : Int32)) (by decide) ?_
  refine dg_icmp_ne hE dX0_tested_9 (tgt := 16) (by decide) h (fun h => ?_) (fun h => ?_)
  · refine dg_iconst hE dX0_tested_16 (v := (0 : Int32)) (by decide) ?_
    exact w_dk_tested_b17 hE v1 v2 v3 v4 (0 : Int32) σ h k
  · refine dg_iconst hE dX0_tested_12 (v := (1 : Int32)) (by decide) ?_
    refine dg_goto hE dX0_tested_13 (tgt := 17) (by decide) ?_
    exact w_dk_tested_b17 hE v1 v2 v3 v4 (1 : Int32) σ h k
theorem w_dk_tested_st {E : dEnv} {l : Launch} {G : dGeo} (hE : dkOk E l G cX0_tested 12 rmX0_tested) (a : Nat × List Int32 × dS) {out} (h : dk_tested_st a = some out) (k : dK E cX0_tested (some .int) out) : dG E a.2.2 a.1 a.2.1 [] := by
  obtain ⟨L, xs, σ⟩ := a
  unfold dk_tested_st at h
  dsimp only at h ⊢
  by_cases c_ : L = 34
  · subst c_
    rw [if_pos rfl] at h
    match xs, h with
    | [x0, x1, x2, x3, x4, x5, x6, x7, x8], h => exact w_dk_tested_b34 hE x0 x1 x2 x3 x4 x5 x6 x7 x8 σ h k
    | [], h => cases h
    | [_], h => cases h
    | [_, _], h => cases h
    | [_, _, _], h => cases h
    | [_, _, _, _], h => cases h
    | [_, _, _, _, _], h => cases h
    | [_, _, _, _, _, _], h => cases h
    | [_, _, _, _, _, _, _], h => cases h
    | [_, _, _, _, _, _, _, _], h => cases h
    | _ :: _ :: _ :: _ :: _ :: _ :: _ :: _ :: _ :: _ :: _, h => cases h
  rw [if_neg c_] at h
  cases h
theorem met_dk_tested (l : Launch) (G : dGeo) (sz : Nat) (v1 v2 v3 v4 : Int32) (σ : dS) {r : Int32 × dS} (h : dk_tested v1 v2 v3 v4 σ = some r) : Met l yX0_tested (ws_ yX0_tested cX0_tested 12 (some .int)) rmX0_tested (dPc G.1 (dk_ty G) (dk_w G σ) sz [.ref G.2.1, .int v1, .int v2, .int v3, .int v4]) (dQi G.1 (dk_ty G) (dk_w G σ) (dk_w G r.2) sz r.1) 0 0 (va_A (dk_w G σ) sz) := by
  refine dMet_i (w := dk_w G) (σ := σ) (σ' := r.2) (th := [(0, .ref G.2.1)]) (b := 1) (xs := [v1, v2, v3, v4]) (by decide) rfl rfl (Nat.le_of_ble_eq_true rfl) dth (fun E hE k => ?_)
  unfold dk_tested at h
  obtain ⟨out, h1, h2⟩ := lpB_some h
  exact w_dk_tested_b0 hE v1 v2 v3 v4 σ h1 (dK_lp (fun a out => w_dk_tested_st hE a) h2 k)
theorem dk_ca_tested {E : dEnv} {l : Launch} {G : dGeo} {cc : ByteArray} {nL pc : Nat} {R : Room} {σ : dS} {xs : List Int32} {st : List Value} {τ : Type} {g : Int32 × dS → Option τ} {out : τ} {a0 a1 a2 a3 : Int32} (hE : dkOk E l G cc nL R) (hR : 6 + 1 ≤ R.frames ∧ 8 + (12 + 11) + 154 ≤ R.locals) (hd : decode cc pc = .ok (.invokevirtual 211, 3)) (hs : (st.map fun v => v.category).sum ≤ 8) (h : Option.bind (dk_tested a0 a1 a2 a3 σ) g = some out) (k : ∀ r, g r = some out → dG E r.2 (pc + 3) xs (.int r.1 :: st)) : dG E σ pc xs (.int a3 :: .int a2 :: .int a1 :: .int a0 :: .ref G.2.1 :: st) := by
  obtain ⟨r, h1, h2⟩ := obind h
  exact dg_callVi hE (As := [.int a0, .int a1, .int a2, .int a3]) (st := st) (C := RX0) (rm := rmX0_tested) (dk_recv G) (fun sz => met_dk_tested l G sz a0 a1 a2 a3 σ h1) (lw_V q277 q279 qs13 q50 q280) 4 rfl ⟨rfl, rfl⟩ (by decide +kernel) hR rfl hs hd (k r h2)
abbrev rmX0_step : Room := { frames := 7, cells := 0, slots := 0, locals := 185 }
theorem w_dk_step_b183 {E : dEnv} {l : Launch} {G : dGeo} (hE : dkOk E l G cX0_step 9 rmX0_step) (v1 v2 v3 v4 v5 v6 v7 : Int32) (σ : dS) {out} (h : dk_step_b183 v1 v2 v3 v4 v5 v6 v7 σ = some out) (k : dK E cX0_step none out) : dG E σ 183 [v1, v2, v3, v4, v5, v6, v7] [] := by
  unfold dk_step_b183 at h
  refine dg_iload hE dX0_step_183 6 rfl rfl ?_
  refine dg_iload hE dX0_step_185 6 rfl rfl ?_
  refine dg_iconst hE dX0_step_187 (v := (1 : Int32)) (by decide) ?_
  refine dg_isub hE dX0_step_188 ?_
  refine dg_iand hE dX0_step_189 ?_
  refine dg_istore hE dX0_step_190 6 (xs' := [v1, v2, v3, v4, v5, v6, (v7 &&& (v7 - (1 : Int32)))]) rfl (Nat.le_of_ble_eq_true rfl) (by decide) rfl ?_
  refine dg_goto hE dX0_step_192 (tgt := 163) (by decide) ?_
  cases h
  exact k
theorem w_dk_step_b179 {E : dEnv} {l : Launch} {G : dGeo} (hE : dkOk E l G cX0_step 9 rmX0_step) (v1 v2 v3 v4 v5 v6 v7 s0 s2 : Int32) (σ : dS) {out} (h : dk_step_b179 v1 v2 v3 v4 v5 v6 v7 s0 s2 σ = some out) (k : dK E cX0_step none out) : dG E σ 179 [v1, v2, v3, v4, v5, v6, v7] [.int s0, .ref (G.2.2.1 26), .int s2] := by
  unfold dk_step_b179 at h
  refine dk_ld26 hE dX0_step_179 h (fun h => ?_)
  refine dg_ior hE dX0_step_180 ?_
  refine dg_istore hE dX0_step_181 5 (xs' := [v1, v2, v3, v4, v5, (s2 ||| (σ 26 s0.toNatClampNeg)), v7]) rfl (Nat.le_of_ble_eq_true rfl) (by decide) rfl ?_
  exact w_dk_step_b183 hE v1 v2 v3 v4 v5 (s2 ||| (σ 26 s0.toNatClampNeg)) v7 σ h k
theorem w_dk_step_b163 {E : dEnv} {l : Launch} {G : dGeo} (hE : dkOk E l G cX0_step 9 rmX0_step) (v1 v2 v3 v4 v5 v6 v7 : Int32) (σ : dS) {out} (h : dk_step_b163 v1 v2 v3 v4 v5 v6 v7 σ = some out) (k : dK E cX0_step none out) : dG E σ 163 [v1, v2, v3, v4, v5, v6, v7] [] := by
  unfold dk_step_b163 at h
  refine dg_iload hE dX0_step_163 6 rfl rfl ?_
  refine dg_if_eq hE dX0_step_165 (tgt := 195) (by decide) h (fun h => ?_) (fun h => ?_)
  · refine dg_aload0 hE dX0_step_195 ?_
    refine dk_gf23 hE dX0_step_196 ?_
    refine dg_bipush hE dX0_step_199 (v := (24 : Int32)) (by decide) ?_
    refine dg_iload_n hE dX0_step_201 1 rfl rfl ?_
    refine dg_imul hE dX0_step_202 ?_
    refine dg_iload hE dX0_step_203 4 rfl rfl ?_
    refine dg_iadd hE dX0_step_205 ?_
    refine dg_iload hE dX0_step_206 5 rfl rfl ?_
    refine dk_as23 hE dX0_step_208 h (fun h => ?_)
    refine dg_iinc hE dX0_step_209 4 (xs' := [v1, v2, v3, v4, (v5 + (1 : Int32)), v6, v7]) rfl rfl (by decide) rfl ?_
    refine dg_goto hE dX0_step_212 (tgt := 136) (by decide) ?_
    refine dg_drop (xs' := [v1, v2, v3, v4, (v5 + (1 : Int32))]) (ys := [v6, v7]) rfl ?_
    cases h
    exact k
  · refine dg_iload hE dX0_step_168 5 rfl rfl ?_
    refine dg_aload0 hE dX0_step_170 ?_
    refine dk_gf26 hE dX0_step_171 ?_
    refine dg_iload hE dX0_step_174 6 rfl rfl ?_
    refine dk_ca_lowest hE (by decide) dX0_step_176 (Nat.le_of_ble_eq_true rfl) h (fun r_ h => ?_)
    exact w_dk_step_b179 hE v1 v2 v3 v4 v5 v6 v7 r_ v6 σ h k
theorem w_dk_step_b136 {E : dEnv} {l : Launch} {G : dGeo} (hE : dkOk E l G cX0_step 9 rmX0_step) (v1 v2 v3 v4 v5 : Int32) (σ : dS) {out} (h : dk_step_b136 v1 v2 v3 v4 v5 σ = some out) (k : dK E cX0_step none out) : dG E σ 136 [v1, v2, v3, v4, v5] [] := by
  unfold dk_step_b136 at h
  refine dg_iload hE dX0_step_136 4 rfl rfl ?_
  refine dg_aload0 hE dX0_step_138 ?_
  refine dk_gf6 hE dX0_step_139 ?_
  refine dg_icmp_ge hE dX0_step_142 (tgt := 215) (by decide) h (fun h => ?_) (fun h => ?_)
  · cases h
    exact k _ _ dX0_step_215
  · refine dg_iconst hE dX0_step_145 (v := (0 : Int32)) (by decide) ?_
    refine dg_istore hE dX0_step_146 5 (xs' := [v1, v2, v3, v4, v5, (0 : Int32)]) rfl (Nat.le_of_ble_eq_true rfl) (by decide) rfl ?_
    refine dg_aload0 hE dX0_step_148 ?_
    refine dk_gf23 hE dX0_step_149 ?_
    refine dg_bipush hE dX0_step_152 (v := (24 : Int32)) (by decide) ?_
    refine dg_iload hE dX0_step_154 3 rfl rfl ?_
    refine dg_imul hE dX0_step_156 ?_
    refine dg_iload hE dX0_step_157 4 rfl rfl ?_
    refine dg_iadd hE dX0_step_159 ?_
    refine dk_ld23 hE dX0_step_160 h (fun h => ?_)
    refine dg_istore hE dX0_step_161 6 (xs' := [v1, v2, v3, v4, v5, (0 : Int32), (σ 23 (((24 : Int32) * v4) + v5).toNatClampNeg)]) rfl (Nat.le_of_ble_eq_true rfl) (by decide) rfl ?_
    cases h
    exact k
theorem w_dk_step_b99 {E : dEnv} {l : Launch} {G : dGeo} (hE : dkOk E l G cX0_step 9 rmX0_step) (v1 v2 v3 v4 v5 v6 v7 v8 s0 : Int32) (σ : dS) {out} (h : dk_step_b99 v1 v2 v3 v4 v5 v6 v7 v8 s0 σ = some out) (k : dK E cX0_step none out) : dG E σ 99 [v1, v2, v3, v4, v5, v6, v7, v8] [.int s0] := by
  unfold dk_step_b99 at h
  refine dg_istore hE dX0_step_99 5 (xs' := [v1, v2, v3, v4, v5, s0, v7, v8]) rfl (Nat.le_of_ble_eq_true rfl) (by decide) rfl ?_
  refine dg_aload0 hE dX0_step_101 ?_
  refine dk_gf19 hE dX0_step_102 ?_
  refine dg_iload_n hE dX0_step_105 0 rfl rfl ?_
  refine dg_iload hE dX0_step_106 6 rfl rfl ?_
  refine dg_iadd hE dX0_step_108 ?_
  refine dk_ld19 hE dX0_step_109 h (fun h => ?_)
  refine dg_istore hE dX0_step_110 6 (xs' := [v1, v2, v3, v4, v5, s0, (σ 19 (v1 + v7).toNatClampNeg), v8]) rfl (Nat.le_of_ble_eq_true rfl) (by decide) rfl ?_
  refine dg_iinc hE dX0_step_112 7 (xs' := [v1, v2, v3, v4, v5, s0, (σ 19 (v1 + v7).toNatClampNeg), (v8 + (-1 : Int32))]) rfl rfl (by decide) rfl ?_
  refine dg_goto hE dX0_step_115 (tgt := 67) (by decide) ?_
  cases h
  exact k
theorem w_dk_step_b96 {E : dEnv} {l : Launch} {G : dGeo} (hE : dkOk E l G cX0_step 9 rmX0_step) (v1 v2 v3 v4 v5 v6 v7 v8 s0 s1 s2 s3 : Int32) (σ : dS) {out} (h : dk_step_b96 v1 v2 v3 v4 v5 v6 v7 v8 s0 s1 s2 s3 σ = some out) (k : dK E cX0_step none out) : dG E σ 96 [v1, v2, v3, v4, v5, v6, v7, v8] [.int s0, .int s1, .int s2, .int s3, .ref G.2.1] := by
  unfold dk_step_b96 at h
  refine dk_ca_tested hE (by decide) dX0_step_96 (Nat.le_of_ble_eq_true rfl) h (fun r_ h => ?_)
  exact w_dk_step_b99 hE v1 v2 v3 v4 v5 v6 v7 v8 (r_.1) (r_.2) h k
theorem w_dk_step_b95 {E : dEnv} {l : Launch} {G : dGeo} (hE : dkOk E l G cX0_step 9 rmX0_step) (v1 v2 v3 v4 v5 v6 v7 v8 s0 s1 s2 : Int32) (σ : dS) {out} (h : dk_step_b95 v1 v2 v3 v4 v5 v6 v7 v8 s0 s1 s2 σ = some out) (k : dK E cX0_step none out) : dG E σ 95 [v1, v2, v3, v4, v5, v6, v7, v8] [.int s0, .int s1, .int s2, .ref G.2.1] := by
  unfold dk_step_b95 at h
  refine dg_iconst hE dX0_step_95 (v := (0 : Int32)) (by decide) ?_
  exact w_dk_step_b96 hE v1 v2 v3 v4 v5 v6 v7 v8 (0 : Int32) s0 s1 s2 σ h k
theorem w_dk_step_b67 {E : dEnv} {l : Launch} {G : dGeo} (hE : dkOk E l G cX0_step 9 rmX0_step) (v1 v2 v3 v4 v5 v6 v7 v8 : Int32) (σ : dS) {out} (h : dk_step_b67 v1 v2 v3 v4 v5 v6 v7 v8 σ = some out) (k : dK E cX0_step none out) : dG E σ 67 [v1, v2, v3, v4, v5, v6, v7, v8] [] := by
  unfold dk_step_b67 at h
  refine dg_iload hE dX0_step_67 7 rfl rfl ?_
  refine dg_if_le hE dX0_step_69 (tgt := 118) (by decide) h (fun h => ?_) (fun h => ?_)
  · refine dg_aload0 hE dX0_step_118 ?_
    refine dk_gf26 hE dX0_step_119 ?_
    refine dg_iload hE dX0_step_122 4 rfl rfl ?_
    refine dg_iload hE dX0_step_124 5 rfl rfl ?_
    refine dk_as26 hE dX0_step_126 h (fun h => ?_)
    refine dg_iinc hE dX0_step_127 4 (xs' := [v1, v2, v3, v4, (v5 + (1 : Int32)), v6, v7, v8]) rfl rfl (by decide) rfl ?_
    refine dg_goto hE dX0_step_130 (tgt := 17) (by decide) ?_
    refine dg_drop (xs' := [v1, v2, v3, v4, (v5 + (1 : Int32))]) (ys := [v6, v7, v8]) rfl ?_
    cases h
    exact k
  · refine dg_aload0 hE dX0_step_72 ?_
    refine dg_iload_n hE dX0_step_73 0 rfl rfl ?_
    refine dg_iload hE dX0_step_74 6 rfl rfl ?_
    refine dg_iload hE dX0_step_76 5 rfl rfl ?_
    refine dg_iload_n hE dX0_step_78 2 rfl rfl ?_
    refine dg_iconst hE dX0_step_79 (v := (1 : Int32)) (by decide) ?_
    refine dg_iand hE dX0_step_80 ?_
    refine dg_if_ne hE dX0_step_81 (tgt := 95) (by decide) h (fun h => ?_) (fun h => ?_)
    · exact w_dk_step_b95 hE v1 v2 v3 v4 v5 v6 v7 v8 v6 v7 v1 σ h k
    · refine dg_iload_n hE dX0_step_84 2 rfl rfl ?_
      refine dg_bipush hE dX0_step_85 (v := (15 : Int32)) (by decide) ?_
      refine dg_iand hE dX0_step_87 ?_
      refine dg_if_le hE dX0_step_88 (tgt := 95) (by decide) h (fun h => ?_) (fun h => ?_)
      · exact w_dk_step_b95 hE v1 v2 v3 v4 v5 v6 v7 v8 v6 v7 v1 σ h k
      · refine dg_iconst hE dX0_step_91 (v := (1 : Int32)) (by decide) ?_
        refine dg_goto hE dX0_step_92 (tgt := 96) (by decide) ?_
        exact w_dk_step_b96 hE v1 v2 v3 v4 v5 v6 v7 v8 (1 : Int32) v6 v7 v1 σ h k
theorem w_dk_step_b61 {E : dEnv} {l : Launch} {G : dGeo} (hE : dkOk E l G cX0_step 9 rmX0_step) (v1 v2 v3 v4 v5 v6 v7 : Int32) (σ : dS) {out} (h : dk_step_b61 v1 v2 v3 v4 v5 v6 v7 σ = some out) (k : dK E cX0_step none out) : dG E σ 61 [v1, v2, v3, v4, v5, v6, v7] [] := by
  unfold dk_step_b61 at h
  refine dg_iload_n hE dX0_step_61 2 rfl rfl ?_
  refine dg_bipush hE dX0_step_62 (v := (7 : Int32)) (by decide) ?_
  refine dg_ishr hE dX0_step_64 ?_
  refine dg_istore hE dX0_step_65 7 (xs' := [v1, v2, v3, v4, v5, v6, v7, (v3 >>> ((7 : Int32) &&& 31))]) rfl (Nat.le_of_ble_eq_true rfl) (by decide) rfl ?_
  cases h
  exact k
theorem w_dk_step_b50 {E : dEnv} {l : Launch} {G : dGeo} (hE : dkOk E l G cX0_step 9 rmX0_step) (v1 v2 v3 v4 v5 v6 : Int32) (σ : dS) {out} (h : dk_step_b50 v1 v2 v3 v4 v5 v6 σ = some out) (k : dK E cX0_step none out) : dG E σ 50 [v1, v2, v3, v4, v5, v6] [] := by
  unfold dk_step_b50 at h
  refine dg_aload0 hE dX0_step_50 ?_
  refine dk_gf19 hE dX0_step_51 ?_
  refine dg_iload_n hE dX0_step_54 0 rfl rfl ?_
  refine dg_iload hE dX0_step_55 3 rfl rfl ?_
  refine dg_iadd hE dX0_step_57 ?_
  refine dk_ld19 hE dX0_step_58 h (fun h => ?_)
  refine dg_istore hE dX0_step_59 6 (xs' := [v1, v2, v3, v4, v5, v6, (σ 19 (v1 + v4).toNatClampNeg)]) rfl (Nat.le_of_ble_eq_true rfl) (by decide) rfl ?_
  exact w_dk_step_b61 hE v1 v2 v3 v4 v5 v6 (σ 19 (v1 + v4).toNatClampNeg) σ h k
theorem w_dk_step_b36 {E : dEnv} {l : Launch} {G : dGeo} (hE : dkOk E l G cX0_step 9 rmX0_step) (v1 v2 v3 v4 v5 s0 : Int32) (σ : dS) {out} (h : dk_step_b36 v1 v2 v3 v4 v5 s0 σ = some out) (k : dK E cX0_step none out) : dG E σ 36 [v1, v2, v3, v4, v5] [.int s0] := by
  unfold dk_step_b36 at h
  refine dg_aload0 hE dX0_step_36 ?_
  refine dk_gf13 hE dX0_step_37 ?_
  refine dg_iload_n hE dX0_step_40 2 rfl rfl ?_
  refine dg_iconst hE dX0_step_41 (v := (4 : Int32)) (by decide) ?_
  refine dg_ishr hE dX0_step_42 ?_
  refine dg_bipush hE dX0_step_43 (v := (7 : Int32)) (by decide) ?_
  refine dg_iand hE dX0_step_45 ?_
  refine dk_ld13 hE dX0_step_46 h (fun h => ?_)
  refine dg_iand hE dX0_step_47 ?_
  refine dg_istore hE dX0_step_48 5 (xs' := [v1, v2, v3, v4, v5, (s0 &&& (σ 13 ((v3 >>> ((4 : Int32) &&& 31)) &&& (7 : Int32)).toNatClampNeg))]) rfl (Nat.le_of_ble_eq_true rfl) (by decide) rfl ?_
  exact w_dk_step_b50 hE v1 v2 v3 v4 v5 (s0 &&& (σ 13 ((v3 >>> ((4 : Int32) &&& 31)) &&& (7 : Int32)).toNatClampNeg)) σ h k
theorem w_dk_step_b17 {E : dEnv} {l : Launch} {G : dGeo} (hE : dkOk E l G cX0_step 9 rmX0_step) (v1 v2 v3 v4 v5 : Int32) (σ : dS) {out} (h : dk_step_b17 v1 v2 v3 v4 v5 σ = some out) (k : dK E cX0_step none out) : dG E σ 17 [v1, v2, v3, v4, v5] [] := by
  unfold dk_step_b17 at h
  refine dg_iload hE dX0_step_17 4 rfl rfl ?_
  refine dg_aload0 hE dX0_step_19 ?_
  refine dk_gf6 hE dX0_step_20 ?_
  refine dg_icmp_ge hE dX0_step_23 (tgt := 133) (by decide) h (fun h => ?_) (fun h => ?_)
  · refine dg_iconst hE dX0_step_133 (v := (0 : Int32)) (by decide) ?_
    refine dg_istore hE dX0_step_134 4 (xs' := [v1, v2, v3, v4, (0 : Int32)]) rfl (Nat.le_of_ble_eq_true rfl) (by decide) rfl ?_
    cases h
    exact k
  · refine dg_aload0 hE dX0_step_26 ?_
    refine dg_iload_n hE dX0_step_27 2 rfl rfl ?_
    refine dg_bipush hE dX0_step_28 (v := (15 : Int32)) (by decide) ?_
    refine dg_iand hE dX0_step_30 ?_
    refine dg_iload hE dX0_step_31 4 rfl rfl ?_
    refine dk_ca_axis hE (by decide) dX0_step_33 (Nat.le_of_ble_eq_true rfl) h (fun r_ h => ?_)
    exact w_dk_step_b36 hE v1 v2 v3 v4 v5 (r_.1) (r_.2) h k
theorem w_dk_step_b14 {E : dEnv} {l : Launch} {G : dGeo} (hE : dkOk E l G cX0_step 9 rmX0_step) (v1 v2 v3 v4 : Int32) (σ : dS) {out} (h : dk_step_b14 v1 v2 v3 v4 σ = some out) (k : dK E cX0_step none out) : dG E σ 14 [v1, v2, v3, v4] [] := by
  unfold dk_step_b14 at h
  refine dg_iconst hE dX0_step_14 (v := (0 : Int32)) (by decide) ?_
  refine dg_istore hE dX0_step_15 4 (xs' := [v1, v2, v3, v4, (0 : Int32)]) rfl (Nat.le_of_ble_eq_true rfl) (by decide) rfl ?_
  cases h
  exact k
theorem w_dk_step_b9 {E : dEnv} {l : Launch} {G : dGeo} (hE : dkOk E l G cX0_step 9 rmX0_step) (v1 v2 v3 : Int32) (σ : dS) {out} (h : dk_step_b9 v1 v2 v3 σ = some out) (k : dK E cX0_step none out) : dG E σ 9 [v1, v2, v3] [] := by
  unfold dk_step_b9 at h
  refine dg_iload_n hE dX0_step_9 1 rfl rfl ?_
  refine dg_iconst hE dX0_step_10 (v := (1 : Int32)) (by decide) ?_
  refine dg_iadd hE dX0_step_11 ?_
  refine dg_istore hE dX0_step_12 3 (xs' := [v1, v2, v3, (v2 + (1 : Int32))]) rfl (Nat.le_of_ble_eq_true rfl) (by decide) rfl ?_
  exact w_dk_step_b14 hE v1 v2 v3 (v2 + (1 : Int32)) σ h k
theorem w_dk_step_b0 {E : dEnv} {l : Launch} {G : dGeo} (hE : dkOk E l G cX0_step 9 rmX0_step) (v1 v2 : Int32) (σ : dS) {out} (h : dk_step_b0 v1 v2 σ = some out) (k : dK E cX0_step none out) : dG E σ 0 [v1, v2] [] := by
  unfold dk_step_b0 at h
  refine dg_aload0 hE dX0_step_0 ?_
  refine dk_gf17 hE dX0_step_1 ?_
  refine dg_iload_n hE dX0_step_4 0 rfl rfl ?_
  refine dg_iload_n hE dX0_step_5 1 rfl rfl ?_
  refine dg_iadd hE dX0_step_6 ?_
  refine dk_ld17 hE dX0_step_7 h (fun h => ?_)
  refine dg_istore_n hE dX0_step_8 2 (xs' := [v1, v2, (σ 17 (v1 + v2).toNatClampNeg)]) rfl (Nat.le_of_ble_eq_true rfl) (by decide) rfl ?_
  exact w_dk_step_b9 hE v1 v2 (σ 17 (v1 + v2).toNatClampNeg) σ h k
theorem w_dk_step_st {E : dEnv} {l : Launch} {G : dGeo} (hE : dkOk E l G cX0_step 9 rmX0_step) (a : Nat × List Int32 × dS) {out} (h : dk_step_st a = some out) (k : dK E cX0_step none out) : dG E a.2.2 a.1 a.2.1 [] := by
  obtain ⟨L, xs, σ⟩ := a
  unfold dk_step_st at h
  dsimp only at h ⊢
  by_cases c_ : L = 17
  · subst c_
    rw [if_pos rfl] at h
    match xs, h with
    | [x0, x1, x2, x3, x4], h => exact w_dk_step_b17 hE x0 x1 x2 x3 x4 σ h k
    | [], h => cases h
    | [_], h => cases h
    | [_, _], h => cases h
    | [_, _, _], h => cases h
    | [_, _, _, _], h => cases h
    | _ :: _ :: _ :: _ :: _ :: _ :: _, h => cases h
  rw [if_neg c_] at h
  by_cases c_ : L = 67
  · subst c_
    rw [if_pos rfl] at h
    match xs, h with
    | [x0, x1, x2, x3, x4, x5, x6, x7], h => exact w_dk_step_b67 hE x0 x1 x2 x3 x4 x5 x6 x7 σ h k
    | [], h => cases h
    | [_], h => cases h
    | [_, _], h => cases h
    | [_, _, _], h => cases h
    | [_, _, _, _], h => cases h
    | [_, _, _, _, _], h => cases h
    | [_, _, _, _, _, _], h => cases h
    | [_, _, _, _, _, _, _], h => cases h
    | _ :: _ :: _ :: _ :: _ :: _ :: _ :: _ :: _ :: _, h => cases h
  rw [if_neg c_] at h
  by_cases c_ : L = 136
  · subst c_
    rw [if_pos rfl] at h
    match xs, h with
    | [x0, x1, x2, x3, x4], h => exact w_dk_step_b136 hE x0 x1 x2 x3 x4 σ h k
    | [], h => cases h
    | [_], h => cases h
    | [_, _], h => cases h
    | [_, _, _], h => cases h
    | [_, _, _, _], h => cases h
    | _ :: _ :: _ :: _ :: _ :: _ :: _, h => cases h
  rw [if_neg c_] at h
  by_cases c_ : L = 163
  · subst c_
    rw [if_pos rfl] at h
    match xs, h with
    | [x0, x1, x2, x3, x4, x5, x6], h => exact w_dk_step_b163 hE x0 x1 x2 x3 x4 x5 x6 σ h k
    | [], h => cases h
    | [_], h => cases h
    | [_, _], h => cases h
    | [_, _, _], h => cases h
    | [_, _, _, _], h => cases h
    | [_, _, _, _, _], h => cases h
    | [_, _, _, _, _, _], h => cases h
    | _ :: _ :: _ :: _ :: _ :: _ :: _ :: _ :: _, h => cases h
  rw [if_neg c_] at h
  cases h
theorem met_dk_step (l : Launch) (G : dGeo) (sz : Nat) (v1 v2 : Int32) (σ : dS) {r : Int32 × dS} (h : dk_step v1 v2 σ = some r) : Met l yX0_step (ws_ yX0_step cX0_step 9 none) rmX0_step (dPc G.1 (dk_ty G) (dk_w G σ) sz [.ref G.2.1, .int v1, .int v2]) (dQv G.1 (dk_ty G) (dk_w G σ) (dk_w G r.2) sz) 0 0 (va_A (dk_w G σ) sz) := by
  refine dMet_v (w := dk_w G) (σ := σ) (σ' := r.2) (r := r.1) (th := [(0, .ref G.2.1)]) (b := 1) (xs := [v1, v2]) (by decide) rfl rfl (Nat.le_of_ble_eq_true rfl) dth (fun E hE k => ?_)
  unfold dk_step at h
  obtain ⟨out, h1, h2⟩ := lpB_some h
  exact w_dk_step_b0 hE v1 v2 σ h1 (dK_lp (fun a out => w_dk_step_st hE a) h2 k)
theorem dk_ca_step {E : dEnv} {l : Launch} {G : dGeo} {cc : ByteArray} {nL pc : Nat} {R : Room} {σ : dS} {xs : List Int32} {st : List Value} {τ : Type} {g : Int32 × dS → Option τ} {out : τ} {a0 a1 : Int32} (hE : dkOk E l G cc nL R) (hR : 7 + 1 ≤ R.frames ∧ 8 + (9 + 11) + 185 ≤ R.locals) (hd : decode cc pc = .ok (.invokevirtual 171, 3)) (hs : (st.map fun v => v.category).sum ≤ 8) (h : Option.bind (dk_step a0 a1 σ) g = some out) (k : ∀ r, g r = some out → dG E r.2 (pc + 3) xs (st)) : dG E σ pc xs (.int a1 :: .int a0 :: .ref G.2.1 :: st) := by
  obtain ⟨r, h1, h2⟩ := obind h
  exact dg_callVv hE (As := [.int a0, .int a1]) (st := st) (C := RX0) (rm := rmX0_step) (dk_recv G) (fun sz => met_dk_step l G sz a0 a1 σ h1) (lw_V q266 q268 qs11 q50 q269) 2 rfl ⟨rfl, rfl⟩ (by decide +kernel) hR rfl hs hd (k r h2)
abbrev rmX0_learn : Room := { frames := 8, cells := 0, slots := 0, locals := 213 }
theorem w_dk_learn_b130 {E : dEnv} {l : Launch} {G : dGeo} (hE : dkOk E l G cX0_learn 4 rmX0_learn) (v1 v2 v3 s0 s1 : Int32) (σ : dS) {out} (h : dk_learn_b130 v1 v2 v3 s0 s1 σ = some out) (k : dK E cX0_learn none out) : dG E σ 130 [v1, v2, v3] [.int s0, .int s1, .ref (G.2.2.1 24)] := by
  unfold dk_learn_b130 at h
  refine dk_as24 hE dX0_learn_130 h (fun h => ?_)
  refine dg_iinc hE dX0_learn_131 2 (xs' := [v1, v2, (v3 + (1 : Int32))]) rfl rfl (by decide) rfl ?_
  refine dg_goto hE dX0_learn_134 (tgt := 85) (by decide) ?_
  cases h
  exact k
theorem w_dk_learn_b85 {E : dEnv} {l : Launch} {G : dGeo} (hE : dkOk E l G cX0_learn 4 rmX0_learn) (v1 v2 v3 : Int32) (σ : dS) {out} (h : dk_learn_b85 v1 v2 v3 σ = some out) (k : dK E cX0_learn none out) : dG E σ 85 [v1, v2, v3] [] := by
  unfold dk_learn_b85 at h
  refine dg_iload_n hE dX0_learn_85 2 rfl rfl ?_
  refine dg_aload0 hE dX0_learn_86 ?_
  refine dk_gf6 hE dX0_learn_87 ?_
  refine dg_icmp_ge hE dX0_learn_90 (tgt := 137) (by decide) h (fun h => ?_) (fun h => ?_)
  · cases h
    exact k _ _ dX0_learn_137
  · refine dg_aload0 hE dX0_learn_93 ?_
    refine dk_gf24 hE dX0_learn_94 ?_
    refine dg_bipush hE dX0_learn_97 (v := (24 : Int32)) (by decide) ?_
    refine dg_iload_n hE dX0_learn_99 0 rfl rfl ?_
    refine dg_imul hE dX0_learn_100 ?_
    refine dg_iload_n hE dX0_learn_101 2 rfl rfl ?_
    refine dg_iadd hE dX0_learn_102 ?_
    refine dg_aload0 hE dX0_learn_103 ?_
    refine dk_gf20 hE dX0_learn_104 ?_
    refine dg_iload_n hE dX0_learn_107 1 rfl rfl ?_
    refine dk_ld20 hE dX0_learn_108 h (fun h => ?_)
    refine dg_if_eq hE dX0_learn_109 (tgt := 124) (by decide) h (fun h => ?_) (fun h => ?_)
    · refine dg_aload0 hE dX0_learn_124 ?_
      refine dk_gf23 hE dX0_learn_125 ?_
      refine dg_iload_n hE dX0_learn_128 2 rfl rfl ?_
      refine dk_ld23 hE dX0_learn_129 h (fun h => ?_)
      exact w_dk_learn_b130 hE v1 v2 v3 (σ 23 v3.toNatClampNeg) (((24 : Int32) * v1) + v3) σ h k
    · refine dg_aload0 hE dX0_learn_112 ?_
      refine dg_iload_n hE dX0_learn_113 1 rfl rfl ?_
      refine dg_iconst hE dX0_learn_114 (v := (0 : Int32)) (by decide) ?_
      refine dg_iload_n hE dX0_learn_115 2 rfl rfl ?_
      refine dg_iconst hE dX0_learn_116 (v := (1 : Int32)) (by decide) ?_
      refine dg_iconst hE dX0_learn_117 (v := (1 : Int32)) (by decide) ?_
      refine dk_ca_later hE (by decide) dX0_learn_118 (Nat.le_of_ble_eq_true rfl) h (fun r_ h => ?_)
      refine dg_goto hE dX0_learn_121 (tgt := 130) (by decide) ?_
      exact w_dk_learn_b130 hE v1 v2 v3 (r_.1) (((24 : Int32) * v1) + v3) (r_.2) h k
theorem w_dk_learn_b77 {E : dEnv} {l : Launch} {G : dGeo} (hE : dkOk E l G cX0_learn 4 rmX0_learn) (v1 v2 v3 : Int32) (σ : dS) {out} (h : dk_learn_b77 v1 v2 v3 σ = some out) (k : dK E cX0_learn none out) : dG E σ 77 [v1, v2, v3] [] := by
  unfold dk_learn_b77 at h
  refine dg_iinc hE dX0_learn_77 2 (xs' := [v1, v2, (v3 + (-1 : Int32))]) rfl rfl (by decide) rfl ?_
  refine dg_goto hE dX0_learn_80 (tgt := 35) (by decide) ?_
  cases h
  exact k
theorem w_dk_learn_b35 {E : dEnv} {l : Launch} {G : dGeo} (hE : dkOk E l G cX0_learn 4 rmX0_learn) (v1 v2 v3 : Int32) (σ : dS) {out} (h : dk_learn_b35 v1 v2 v3 σ = some out) (k : dK E cX0_learn none out) : dG E σ 35 [v1, v2, v3] [] := by
  unfold dk_learn_b35 at h
  refine dg_iload_n hE dX0_learn_35 2 rfl rfl ?_
  refine dg_if_lt hE dX0_learn_36 (tgt := 83) (by decide) h (fun h => ?_) (fun h => ?_)
  · refine dg_iconst hE dX0_learn_83 (v := (0 : Int32)) (by decide) ?_
    refine dg_istore_n hE dX0_learn_84 2 (xs' := [v1, v2, (0 : Int32)]) rfl (Nat.le_of_ble_eq_true rfl) (by decide) rfl ?_
    cases h
    exact k
  · refine dg_aload0 hE dX0_learn_39 ?_
    refine dk_gf16 hE dX0_learn_40 ?_
    refine dg_iload_n hE dX0_learn_43 1 rfl rfl ?_
    refine dg_iload_n hE dX0_learn_44 2 rfl rfl ?_
    refine dg_iadd hE dX0_learn_45 ?_
    refine dk_ld16 hE dX0_learn_46 h (fun h => ?_)
    refine dg_iconst hE dX0_learn_47 (v := (2 : Int32)) (by decide) ?_
    refine dg_icmp_ne hE dX0_learn_48 (tgt := 60) (by decide) h (fun h => ?_) (fun h => ?_)
    · refine dg_aload0 hE dX0_learn_60 ?_
      refine dk_gf20 hE dX0_learn_61 ?_
      refine dg_iload_n hE dX0_learn_64 1 rfl rfl ?_
      refine dg_iload_n hE dX0_learn_65 2 rfl rfl ?_
      refine dg_iadd hE dX0_learn_66 ?_
      refine dk_ld20 hE dX0_learn_67 h (fun h => ?_)
      refine dg_if_ne hE dX0_learn_68 (tgt := 77) (by decide) h (fun h => ?_) (fun h => ?_)
      · exact w_dk_learn_b77 hE v1 v2 v3 σ h k
      · refine dg_aload0 hE dX0_learn_71 ?_
        refine dg_iload_n hE dX0_learn_72 1 rfl rfl ?_
        refine dg_iload_n hE dX0_learn_73 2 rfl rfl ?_
        refine dk_ca_fill hE (by decide) dX0_learn_74 (Nat.le_of_ble_eq_true rfl) h (fun r_ h => ?_)
        exact w_dk_learn_b77 hE v1 v2 v3 (r_.2) h k
    · refine dg_aload0 hE dX0_learn_51 ?_
      refine dg_iload_n hE dX0_learn_52 1 rfl rfl ?_
      refine dg_iload_n hE dX0_learn_53 2 rfl rfl ?_
      refine dk_ca_step hE (by decide) dX0_learn_54 (Nat.le_of_ble_eq_true rfl) h (fun r_ h => ?_)
      refine dg_goto hE dX0_learn_57 (tgt := 77) (by decide) ?_
      exact w_dk_learn_b77 hE v1 v2 v3 (r_.2) h k
theorem w_dk_learn_b26 {E : dEnv} {l : Launch} {G : dGeo} (hE : dkOk E l G cX0_learn 4 rmX0_learn) (v1 v2 : Int32) (σ : dS) {out} (h : dk_learn_b26 v1 v2 σ = some out) (k : dK E cX0_learn none out) : dG E σ 26 [v1, v2] [] := by
  unfold dk_learn_b26 at h
  refine dg_aload0 hE dX0_learn_26 ?_
  refine dk_gf21 hE dX0_learn_27 ?_
  refine dg_iload_n hE dX0_learn_30 0 rfl rfl ?_
  refine dk_ld21 hE dX0_learn_31 h (fun h => ?_)
  refine dg_iconst hE dX0_learn_32 (v := (1 : Int32)) (by decide) ?_
  refine dg_isub hE dX0_learn_33 ?_
  refine dg_istore_n hE dX0_learn_34 2 (xs' := [v1, v2, ((σ 21 v1.toNatClampNeg) - (1 : Int32))]) rfl (Nat.le_of_ble_eq_true rfl) (by decide) rfl ?_
  cases h
  exact k
theorem w_dk_learn_b21 {E : dEnv} {l : Launch} {G : dGeo} (hE : dkOk E l G cX0_learn 4 rmX0_learn) (v1 : Int32) (σ : dS) {out} (h : dk_learn_b21 v1 σ = some out) (k : dK E cX0_learn none out) : dG E σ 21 [v1] [] := by
  unfold dk_learn_b21 at h
  refine dg_bipush hE dX0_learn_21 (v := (40 : Int32)) (by decide) ?_
  refine dg_iload_n hE dX0_learn_23 0 rfl rfl ?_
  refine dg_imul hE dX0_learn_24 ?_
  refine dg_istore_n hE dX0_learn_25 1 (xs' := [v1, ((40 : Int32) * v1)]) rfl (Nat.le_of_ble_eq_true rfl) (by decide) rfl ?_
  exact w_dk_learn_b26 hE v1 ((40 : Int32) * v1) σ h k
theorem w_dk_learn_b4 {E : dEnv} {l : Launch} {G : dGeo} (hE : dkOk E l G cX0_learn 4 rmX0_learn) (v1 : Int32) (σ : dS) {out} (h : dk_learn_b4 v1 σ = some out) (k : dK E cX0_learn none out) : dG E σ 4 [v1] [] := by
  unfold dk_learn_b4 at h
  refine dg_aload0 hE dX0_learn_4 ?_
  refine dk_gf25 hE dX0_learn_5 ?_
  refine dg_iload_n hE dX0_learn_8 0 rfl rfl ?_
  refine dk_ld25 hE dX0_learn_9 h (fun h => ?_)
  refine dg_if_eq hE dX0_learn_10 (tgt := 14) (by decide) h (fun h => ?_) (fun h => ?_)
  · refine dg_aload0 hE dX0_learn_14 ?_
    refine dk_gf25 hE dX0_learn_15 ?_
    refine dg_iload_n hE dX0_learn_18 0 rfl rfl ?_
    refine dg_iconst hE dX0_learn_19 (v := (1 : Int32)) (by decide) ?_
    refine dk_as25 hE dX0_learn_20 h (fun h => ?_)
    exact w_dk_learn_b21 hE v1 (up2 σ 25 v1.toNatClampNeg (vp_nar .boolean (1 : Int32))) h k
  · cases h
    exact k _ _ dX0_learn_13
theorem w_dk_learn_b0 {E : dEnv} {l : Launch} {G : dGeo} (hE : dkOk E l G cX0_learn 4 rmX0_learn) (v1 : Int32) (σ : dS) {out} (h : dk_learn_b0 v1 σ = some out) (k : dK E cX0_learn none out) : dG E σ 0 [v1] [] := by
  unfold dk_learn_b0 at h
  refine dg_aload0 hE dX0_learn_0 ?_
  refine dk_ca_count hE (by decide) dX0_learn_1 (Nat.le_of_ble_eq_true rfl) h (fun r_ h => ?_)
  exact w_dk_learn_b4 hE v1 (r_.2) h k
theorem w_dk_learn_st {E : dEnv} {l : Launch} {G : dGeo} (hE : dkOk E l G cX0_learn 4 rmX0_learn) (a : Nat × List Int32 × dS) {out} (h : dk_learn_st a = some out) (k : dK E cX0_learn none out) : dG E a.2.2 a.1 a.2.1 [] := by
  obtain ⟨L, xs, σ⟩ := a
  unfold dk_learn_st at h
  dsimp only at h ⊢
  by_cases c_ : L = 35
  · subst c_
    rw [if_pos rfl] at h
    match xs, h with
    | [x0, x1, x2], h => exact w_dk_learn_b35 hE x0 x1 x2 σ h k
    | [], h => cases h
    | [_], h => cases h
    | [_, _], h => cases h
    | _ :: _ :: _ :: _ :: _, h => cases h
  rw [if_neg c_] at h
  by_cases c_ : L = 85
  · subst c_
    rw [if_pos rfl] at h
    match xs, h with
    | [x0, x1, x2], h => exact w_dk_learn_b85 hE x0 x1 x2 σ h k
    | [], h => cases h
    | [_], h => cases h
    | [_, _], h => cases h
    | _ :: _ :: _ :: _ :: _, h => cases h
  rw [if_neg c_] at h
  cases h
theorem met_dk_learn (l : Launch) (G : dGeo) (sz : Nat) (v1 : Int32) (σ : dS) {r : Int32 × dS} (h : dk_learn v1 σ = some r) : Met l yX0_learn (ws_ yX0_learn cX0_learn 4 none) rmX0_learn (dPc G.1 (dk_ty G) (dk_w G σ) sz [.ref G.2.1, .int v1]) (dQv G.1 (dk_ty G) (dk_w G σ) (dk_w G r.2) sz) 0 0 (va_A (dk_w G σ) sz) := by
  refine dMet_v (w := dk_w G) (σ := σ) (σ' := r.2) (r := r.1) (th := [(0, .ref G.2.1)]) (b := 1) (xs := [v1]) (by decide) rfl rfl (Nat.le_of_ble_eq_true rfl) dth (fun E hE k => ?_)
  unfold dk_learn at h
  obtain ⟨out, h1, h2⟩ := lpB_some h
  exact w_dk_learn_b0 hE v1 σ h1 (dK_lp (fun a out => w_dk_learn_st hE a) h2 k)
theorem dk_ca_learn {E : dEnv} {l : Launch} {G : dGeo} {cc : ByteArray} {nL pc : Nat} {R : Room} {σ : dS} {xs : List Int32} {st : List Value} {τ : Type} {g : Int32 × dS → Option τ} {out : τ} {a0 : Int32} (hE : dkOk E l G cc nL R) (hR : 8 + 1 ≤ R.frames ∧ 8 + (4 + 11) + 213 ≤ R.locals) (hd : decode cc pc = .ok (.invokevirtual 218, 3)) (hs : (st.map fun v => v.category).sum ≤ 8) (h : Option.bind (dk_learn a0 σ) g = some out) (k : ∀ r, g r = some out → dG E r.2 (pc + 3) xs (st)) : dG E σ pc xs (.int a0 :: .ref G.2.1 :: st) := by
  obtain ⟨r, h1, h2⟩ := obind h
  exact dg_callVv hE (As := [.int a0]) (st := st) (C := RX0) (rm := rmX0_learn) (dk_recv G) (fun sz => met_dk_learn l G sz a0 σ h1) (lw_V q262 q264 qs10 q50 q265) 1 rfl ⟨rfl, rfl⟩ (by decide +kernel) hR rfl hs hd (k r h2)
abbrev rmX0_resultAt : Room := { frames := 9, cells := 0, slots := 0, locals := 236 }
theorem w_dk_resultAt_b5 {E : dEnv} {l : Launch} {G : dGeo} (hE : dkOk E l G cX0_resultAt 3 rmX0_resultAt) (v1 v2 : Int32) (σ : dS) {out} (h : dk_resultAt_b5 v1 v2 σ = some out) (k : dR E cX0_resultAt (some .int) out) : dG E σ 5 [v1, v2] [] := by
  unfold dk_resultAt_b5 at h
  refine dg_aload0 hE dX0_resultAt_5 ?_
  refine dk_gf24 hE dX0_resultAt_6 ?_
  refine dg_bipush hE dX0_resultAt_9 (v := (24 : Int32)) (by decide) ?_
  refine dg_iload_n hE dX0_resultAt_11 0 rfl rfl ?_
  refine dg_imul hE dX0_resultAt_12 ?_
  refine dg_aload0 hE dX0_resultAt_13 ?_
  refine dk_gf7 hE dX0_resultAt_14 ?_
  refine dg_iload_n hE dX0_resultAt_17 1 rfl rfl ?_
  refine dk_ld7 hE dX0_resultAt_18 h (fun h => ?_)
  refine dg_iadd hE dX0_resultAt_19 ?_
  refine dk_ld24 hE dX0_resultAt_20 h (fun h => ?_)
  cases h
  exact k rfl _ _ dX0_resultAt_21
theorem w_dk_resultAt_b0 {E : dEnv} {l : Launch} {G : dGeo} (hE : dkOk E l G cX0_resultAt 3 rmX0_resultAt) (v1 v2 : Int32) (σ : dS) {out} (h : dk_resultAt_b0 v1 v2 σ = some out) (k : dR E cX0_resultAt (some .int) out) : dG E σ 0 [v1, v2] [] := by
  unfold dk_resultAt_b0 at h
  refine dg_aload0 hE dX0_resultAt_0 ?_
  refine dg_iload_n hE dX0_resultAt_1 0 rfl rfl ?_
  refine dk_ca_learn hE (by decide) dX0_resultAt_2 (Nat.le_of_ble_eq_true rfl) h (fun r_ h => ?_)
  exact w_dk_resultAt_b5 hE v1 v2 (r_.2) h k
theorem met_dk_resultAt (l : Launch) (G : dGeo) (sz : Nat) (v1 v2 : Int32) (σ : dS) {r : Int32 × dS} (h : dk_resultAt v1 v2 σ = some r) : Met l yX0_resultAt (ws_ yX0_resultAt cX0_resultAt 3 (some .int)) rmX0_resultAt (dPc G.1 (dk_ty G) (dk_w G σ) sz [.ref G.2.1, .int v1, .int v2]) (dQi G.1 (dk_ty G) (dk_w G σ) (dk_w G r.2) sz r.1) 0 0 (va_A (dk_w G σ) sz) := by
  refine dMet_i (w := dk_w G) (σ := σ) (σ' := r.2) (th := [(0, .ref G.2.1)]) (b := 1) (xs := [v1, v2]) (by decide) rfl rfl (Nat.le_of_ble_eq_true rfl) dth (fun E hE k => ?_)
  unfold dk_resultAt at h
  exact w_dk_resultAt_b0 hE v1 v2 σ h k
theorem dk_ca_resultAt {E : dEnv} {l : Launch} {G : dGeo} {cc : ByteArray} {nL pc : Nat} {R : Room} {σ : dS} {xs : List Int32} {st : List Value} {τ : Type} {g : Int32 × dS → Option τ} {out : τ} {a0 a1 : Int32} (hE : dkOk E l G cc nL R) (hR : 9 + 1 ≤ R.frames ∧ 8 + (3 + 11) + 236 ≤ R.locals) (hd : decode cc pc = .ok (.invokevirtual 224, 3)) (hs : (st.map fun v => v.category).sum ≤ 8) (h : Option.bind (dk_resultAt a0 a1 σ) g = some out) (k : ∀ r, g r = some out → dG E r.2 (pc + 3) xs (.int r.1 :: st)) : dG E σ pc xs (.int a1 :: .int a0 :: .ref G.2.1 :: st) := by
  obtain ⟨r, h1, h2⟩ := obind h
  exact dg_callVi hE (As := [.int a0, .int a1]) (st := st) (C := RX0) (rm := rmX0_resultAt) (dk_recv G) (fun sz => met_dk_resultAt l G sz a0 a1 σ h1) (lw_V q258 q260 qs9 q50 q261) 2 rfl ⟨rfl, rfl⟩ (by decide +kernel) hR rfl hs hd (k r h2)
abbrev rmX0_size : Room := { frames := 10, cells := 0, slots := 0, locals := 258 }
theorem w_dk_size_b34 {E : dEnv} {l : Launch} {G : dGeo} (hE : dkOk E l G cX0_size 4 rmX0_size) (s0 : Int32) (σ : dS) {out} (h : dk_size_b34 s0 σ = some out) (k : dR E cX0_size (some .int) out) : dG E σ 34 [] [.int s0] := by
  unfold dk_size_b34 at h
  cases h
  exact k rfl _ _ dX0_size_34
theorem w_dk_size_b29 {E : dEnv} {l : Launch} {G : dGeo} (hE : dkOk E l G cX0_size 4 rmX0_size) (v1 v2 s0 : Int32) (σ : dS) {out} (h : dk_size_b29 v1 v2 s0 σ = some out) (k : dR E cX0_size (some .int) out) : dG E σ 29 [v1, v2] [.int s0] := by
  unfold dk_size_b29 at h
  refine dg_istore_n hE dX0_size_29 2 (xs' := [v1, v2, s0]) rfl (Nat.le_of_ble_eq_true rfl) (by decide) rfl ?_
  refine dg_iload_n hE dX0_size_30 2 rfl rfl ?_
  refine dk_ca_bits hE (by decide) dX0_size_31 (Nat.le_of_ble_eq_true rfl) h (fun r_ h => ?_)
  refine dg_drop (xs' := []) (ys := [v1, v2, s0]) rfl ?_
  exact w_dk_size_b34 hE r_ σ h k
theorem w_dk_size_b6 {E : dEnv} {l : Launch} {G : dGeo} (hE : dkOk E l G cX0_size 4 rmX0_size) (v1 v2 s0 : Int32) (σ : dS) {out} (h : dk_size_b6 v1 v2 s0 σ = some out) (k : dR E cX0_size (some .int) out) : dG E σ 6 [v1, v2] [.int s0] := by
  unfold dk_size_b6 at h
  refine dg_if_eq hE dX0_size_6 (tgt := 21) (by decide) h (fun h => ?_) (fun h => ?_)
  · refine dg_iconst hE dX0_size_21 (v := (-1 : Int32)) (by decide) ?_
    cases h
    exact k rfl _ _ dX0_size_22
  · refine dg_aload0 hE dX0_size_9 ?_
    refine dk_gf18 hE dX0_size_10 ?_
    refine dg_bipush hE dX0_size_13 (v := (40 : Int32)) (by decide) ?_
    refine dg_iload_n hE dX0_size_15 0 rfl rfl ?_
    refine dg_imul hE dX0_size_16 ?_
    refine dk_ld18 hE dX0_size_17 h (fun h => ?_)
    refine dg_if_eq hE dX0_size_18 (tgt := 23) (by decide) h (fun h => ?_) (fun h => ?_)
    · refine dg_aload0 hE dX0_size_23 ?_
      refine dg_iload_n hE dX0_size_24 0 rfl rfl ?_
      refine dg_iload_n hE dX0_size_25 1 rfl rfl ?_
      refine dk_ca_resultAt hE (by decide) dX0_size_26 (Nat.le_of_ble_eq_true rfl) h (fun r_ h => ?_)
      exact w_dk_size_b29 hE v1 v2 (r_.1) (r_.2) h k
    · refine dg_iconst hE dX0_size_21 (v := (-1 : Int32)) (by decide) ?_
      cases h
      exact k rfl _ _ dX0_size_22
theorem w_dk_size_b0 {E : dEnv} {l : Launch} {G : dGeo} (hE : dkOk E l G cX0_size 4 rmX0_size) (v1 v2 : Int32) (σ : dS) {out} (h : dk_size_b0 v1 v2 σ = some out) (k : dR E cX0_size (some .int) out) : dG E σ 0 [v1, v2] [] := by
  unfold dk_size_b0 at h
  refine dg_aload0 hE dX0_size_0 ?_
  refine dg_iload_n hE dX0_size_1 0 rfl rfl ?_
  refine dg_iload_n hE dX0_size_2 1 rfl rfl ?_
  refine dk_ca_isThere hE (by decide) dX0_size_3 (Nat.le_of_ble_eq_true rfl) h (fun r_ h => ?_)
  exact w_dk_size_b6 hE v1 v2 (r_.1) (r_.2) h k
theorem met_dk_size (l : Launch) (G : dGeo) (sz : Nat) (v1 v2 : Int32) (σ : dS) {r : Int32 × dS} (h : dk_size v1 v2 σ = some r) : Met l yX0_size (ws_ yX0_size cX0_size 4 (some .int)) rmX0_size (dPc G.1 (dk_ty G) (dk_w G σ) sz [.ref G.2.1, .int v1, .int v2]) (dQi G.1 (dk_ty G) (dk_w G σ) (dk_w G r.2) sz r.1) 0 0 (va_A (dk_w G σ) sz) := by
  refine dMet_i (w := dk_w G) (σ := σ) (σ' := r.2) (th := [(0, .ref G.2.1)]) (b := 1) (xs := [v1, v2]) (by decide) rfl rfl (Nat.le_of_ble_eq_true rfl) dth (fun E hE k => ?_)
  unfold dk_size at h
  exact w_dk_size_b0 hE v1 v2 σ h k
