set_option maxRecDepth 100000
abbrev rmX1_step : Room := { frames := 5, cells := 0, slots := 0, locals := 128 }
theorem w_md_step_b209 {E : dEnv} {l : Launch} {G : dGeo} (hE : mdOk E l G cX1_step 11 rmX1_step) (v1 v2 v3 v4 v5 v6 v7 v8 v9 v10 : Int32) (σ : dS) {out} (h : md_step_b209 v1 v2 v3 v4 v5 v6 v7 v8 v9 v10 σ = some out) (k : dK E cX1_step (some .int) out) : dG E σ 209 [v1, v2, v3, v4, v5, v6, v7, v8, v9, v10] [] := by
  unfold md_step_b209 at h
  refine dg_iload hE dX1_step_209 9 rfl rfl ?_
  refine dg_aload0 hE dX1_step_211 ?_
  refine md_gf16 hE dX1_step_212 ?_
  refine dg_icmp_ge hE dX1_step_215 (tgt := 238) (by decide) h (fun h => ?_) (fun h => ?_)
  · refine dg_iload hE dX1_step_238 8 rfl rfl ?_
    cases h
    exact k rfl _ _ dX1_step_240
  · refine dg_iload hE dX1_step_218 8 rfl rfl ?_
    refine dg_iconst hE dX1_step_220 (v := (1 : Int32)) (by decide) ?_
    refine dg_aload0 hE dX1_step_221 ?_
    refine md_gf14 hE dX1_step_222 ?_
    refine dg_iload hE dX1_step_225 9 rfl rfl ?_
    refine md_ld14 hE dX1_step_227 h (fun h => ?_)
    refine dg_ishl hE dX1_step_228 ?_
    refine dg_ior hE dX1_step_229 ?_
    refine dg_istore hE dX1_step_230 8 (xs' := [v1, v2, v3, v4, v5, v6, v7, v8, (v9 ||| ((1 : Int32) <<< ((σ 14 v10.toNatClampNeg) &&& 31))), v10]) rfl (Nat.le_of_ble_eq_true rfl) (by decide) rfl ?_
    refine dg_iinc hE dX1_step_232 9 (xs' := [v1, v2, v3, v4, v5, v6, v7, v8, (v9 ||| ((1 : Int32) <<< ((σ 14 v10.toNatClampNeg) &&& 31))), (v10 + (1 : Int32))]) rfl rfl (by decide) rfl ?_
    refine dg_goto hE dX1_step_235 (tgt := 209) (by decide) ?_
    cases h
    exact k
theorem w_md_step_b195 {E : dEnv} {l : Launch} {G : dGeo} (hE : mdOk E l G cX1_step 11 rmX1_step) (v1 v2 v3 v4 v5 v6 v7 v8 v9 s0 : Int32) (σ : dS) {out} (h : md_step_b195 v1 v2 v3 v4 v5 v6 v7 v8 v9 s0 σ = some out) (k : dK E cX1_step (some .int) out) : dG E σ 195 [v1, v2, v3, v4, v5, v6, v7, v8, v9] [.int s0] := by
  unfold md_step_b195 at h
  refine dg_istore hE dX1_step_195 7 (xs' := [v1, v2, v3, v4, v5, v6, v7, s0, v9]) rfl (Nat.le_of_ble_eq_true rfl) (by decide) rfl ?_
  refine dg_iinc hE dX1_step_197 8 (xs' := [v1, v2, v3, v4, v5, v6, v7, s0, (v9 + (1 : Int32))]) rfl rfl (by decide) rfl ?_
  refine dg_goto hE dX1_step_200 (tgt := 167) (by decide) ?_
  cases h
  exact k
theorem w_md_step_b189 {E : dEnv} {l : Launch} {G : dGeo} (hE : mdOk E l G cX1_step 11 rmX1_step) (v1 v2 v3 v4 v5 v6 v7 v8 v9 : Int32) (σ : dS) {out} (h : md_step_b189 v1 v2 v3 v4 v5 v6 v7 v8 v9 σ = some out) (k : dK E cX1_step (some .int) out) : dG E σ 189 [v1, v2, v3, v4, v5, v6, v7, v8, v9] [] := by
  unfold md_step_b189 at h
  refine dg_aload0 hE dX1_step_189 ?_
  refine dg_iload hE dX1_step_190 7 rfl rfl ?_
  refine md_ca_endOf hE (by decide) dX1_step_192 (Nat.le_of_ble_eq_true rfl) h (fun r_ h => ?_)
  exact w_md_step_b195 hE v1 v2 v3 v4 v5 v6 v7 v8 v9 (r_.1) (r_.2) h k
theorem w_md_step_b167 {E : dEnv} {l : Launch} {G : dGeo} (hE : mdOk E l G cX1_step 11 rmX1_step) (v1 v2 v3 v4 v5 v6 v7 v8 v9 : Int32) (σ : dS) {out} (h : md_step_b167 v1 v2 v3 v4 v5 v6 v7 v8 v9 σ = some out) (k : dK E cX1_step (some .int) out) : dG E σ 167 [v1, v2, v3, v4, v5, v6, v7, v8, v9] [] := by
  unfold md_step_b167 at h
  refine dg_iload hE dX1_step_167 8 rfl rfl ?_
  refine dg_iload hE dX1_step_169 3 rfl rfl ?_
  refine dg_bipush hE dX1_step_171 (v := (7 : Int32)) (by decide) ?_
  refine dg_ishr hE dX1_step_173 ?_
  refine dg_icmp_ge hE dX1_step_174 (tgt := 203) (by decide) h (fun h => ?_) (fun h => ?_)
  · refine dg_iconst hE dX1_step_203 (v := (0 : Int32)) (by decide) ?_
    refine dg_istore hE dX1_step_204 8 (xs' := [v1, v2, v3, v4, v5, v6, v7, v8, (0 : Int32)]) rfl (Nat.le_of_ble_eq_true rfl) (by decide) rfl ?_
    refine dg_iconst hE dX1_step_206 (v := (0 : Int32)) (by decide) ?_
    refine dg_istore hE dX1_step_207 9 (xs' := [v1, v2, v3, v4, v5, v6, v7, v8, (0 : Int32), (0 : Int32)]) rfl (Nat.le_of_ble_eq_true rfl) (by decide) rfl ?_
    cases h
    exact k
  · refine dg_aload0 hE dX1_step_177 ?_
    refine dg_iload_n hE dX1_step_178 0 rfl rfl ?_
    refine dg_iload hE dX1_step_179 7 rfl rfl ?_
    refine dg_bipush hE dX1_step_181 (v := (40 : Int32)) (by decide) ?_
    refine dg_iload_n hE dX1_step_183 0 rfl rfl ?_
    refine dg_imul hE dX1_step_184 ?_
    refine dg_isub hE dX1_step_185 ?_
    refine md_ca_sift hE (by decide) dX1_step_186 (Nat.le_of_ble_eq_true rfl) h (fun r_ h => ?_)
    exact w_md_step_b189 hE v1 v2 v3 v4 v5 v6 v7 v8 v9 (r_.2) h k
theorem w_md_step_b162 {E : dEnv} {l : Launch} {G : dGeo} (hE : mdOk E l G cX1_step 11 rmX1_step) (v1 v2 v3 v4 v5 v6 v7 s0 : Int32) (σ : dS) {out} (h : md_step_b162 v1 v2 v3 v4 v5 v6 v7 s0 σ = some out) (k : dK E cX1_step (some .int) out) : dG E σ 162 [v1, v2, v3, v4, v5, v6, v7] [.int s0] := by
  unfold md_step_b162 at h
  refine dg_istore hE dX1_step_162 7 (xs' := [v1, v2, v3, v4, v5, v6, v7, s0]) rfl (Nat.le_of_ble_eq_true rfl) (by decide) rfl ?_
  refine dg_iconst hE dX1_step_164 (v := (0 : Int32)) (by decide) ?_
  refine dg_istore hE dX1_step_165 8 (xs' := [v1, v2, v3, v4, v5, v6, v7, s0, (0 : Int32)]) rfl (Nat.le_of_ble_eq_true rfl) (by decide) rfl ?_
  cases h
  exact k
theorem w_md_step_b144 {E : dEnv} {l : Launch} {G : dGeo} (hE : mdOk E l G cX1_step 11 rmX1_step) (v1 v2 v3 v4 v5 v6 v7 v8 : Int32) (σ : dS) {out} (h : md_step_b144 v1 v2 v3 v4 v5 v6 v7 v8 σ = some out) (k : dK E cX1_step (some .int) out) : dG E σ 144 [v1, v2, v3, v4, v5, v6, v7, v8] [] := by
  unfold md_step_b144 at h
  refine dg_iinc hE dX1_step_144 7 (xs' := [v1, v2, v3, v4, v5, v6, v7, (v8 + (1 : Int32))]) rfl rfl (by decide) rfl ?_
  refine dg_goto hE dX1_step_147 (tgt := 56) (by decide) ?_
  cases h
  exact k
theorem w_md_step_b141 {E : dEnv} {l : Launch} {G : dGeo} (hE : mdOk E l G cX1_step 11 rmX1_step) (v1 v2 v3 v4 v5 v6 v7 v8 v9 s0 : Int32) (σ : dS) {out} (h : md_step_b141 v1 v2 v3 v4 v5 v6 v7 v8 v9 s0 σ = some out) (k : dK E cX1_step (some .int) out) : dG E σ 141 [v1, v2, v3, v4, v5, v6, v7, v8, v9] [.int s0, .ref (G.2.2.1 14)] := by
  unfold md_step_b141 at h
  refine dg_iload hE dX1_step_141 8 rfl rfl ?_
  refine md_as14 hE dX1_step_143 h (fun h => ?_)
  refine dg_drop (xs' := [v1, v2, v3, v4, v5, v6, v7, v8]) (ys := [v9]) rfl ?_
  exact w_md_step_b144 hE v1 v2 v3 v4 v5 v6 v7 v8 (up2 σ 14 s0.toNatClampNeg v9) h k
theorem w_md_step_b126 {E : dEnv} {l : Launch} {G : dGeo} (hE : mdOk E l G cX1_step 11 rmX1_step) (v1 v2 v3 v4 v5 v6 v7 v8 v9 : Int32) (σ : dS) {out} (h : md_step_b126 v1 v2 v3 v4 v5 v6 v7 v8 v9 σ = some out) (k : dK E cX1_step (some .int) out) : dG E σ 126 [v1, v2, v3, v4, v5, v6, v7, v8, v9] [] := by
  unfold md_step_b126 at h
  refine dg_aload0 hE dX1_step_126 ?_
  refine md_gf14 hE dX1_step_127 ?_
  refine dg_aload0 hE dX1_step_130 ?_
  refine dg_dup hE dX1_step_131 rfl ?_
  refine md_gf16 hE dX1_step_132 ?_
  refine dg_dup_x1 hE dX1_step_135 rfl rfl ?_
  refine dg_iconst hE dX1_step_136 (v := (1 : Int32)) (by decide) ?_
  refine dg_iadd hE dX1_step_137 ?_
  refine md_pf16 hE dX1_step_138 ?_
  exact w_md_step_b141 hE v1 v2 v3 v4 v5 v6 v7 v8 v9 (σ 16 0) (up2 σ 16 0 ((σ 16 0) + (1 : Int32))) h k
theorem w_md_step_b100 {E : dEnv} {l : Launch} {G : dGeo} (hE : mdOk E l G cX1_step 11 rmX1_step) (v1 v2 v3 v4 v5 v6 v7 v8 v9 s0 : Int32) (σ : dS) {out} (h : md_step_b100 v1 v2 v3 v4 v5 v6 v7 v8 v9 s0 σ = some out) (k : dK E cX1_step (some .int) out) : dG E σ 100 [v1, v2, v3, v4, v5, v6, v7, v8, v9] [.int s0] := by
  unfold md_step_b100 at h
  refine dg_istore hE dX1_step_100 9 (xs' := [v1, v2, v3, v4, v5, v6, v7, v8, v9, s0]) rfl (Nat.le_of_ble_eq_true rfl) (by decide) rfl ?_
  refine dg_iload hE dX1_step_102 9 rfl rfl ?_
  refine dg_if_eq hE dX1_step_104 (tgt := 144) (by decide) h (fun h => ?_) (fun h => ?_)
  · refine dg_drop (xs' := [v1, v2, v3, v4, v5, v6, v7, v8]) (ys := [v9, s0]) rfl ?_
    exact w_md_step_b144 hE v1 v2 v3 v4 v5 v6 v7 v8 σ h k
  · refine dg_iload hE dX1_step_107 6 rfl rfl ?_
    refine dg_bipush hE dX1_step_109 (v := (6 : Int32)) (by decide) ?_
    refine dg_icmp_eq hE dX1_step_111 (tgt := 126) (by decide) h (fun h => ?_) (fun h => ?_)
    · refine dg_drop (xs' := [v1, v2, v3, v4, v5, v6, v7, v8, v9]) (ys := [s0]) rfl ?_
      exact w_md_step_b126 hE v1 v2 v3 v4 v5 v6 v7 v8 v9 σ h k
    · refine dg_aload0 hE dX1_step_114 ?_
      refine md_gf2 hE dX1_step_115 ?_
      refine dg_iload hE dX1_step_118 8 rfl rfl ?_
      refine md_ld2 hE dX1_step_120 h (fun h => ?_)
      refine dg_iload hE dX1_step_121 6 rfl rfl ?_
      refine dg_icmp_ne hE dX1_step_123 (tgt := 144) (by decide) h (fun h => ?_) (fun h => ?_)
      · refine dg_drop (xs' := [v1, v2, v3, v4, v5, v6, v7, v8]) (ys := [v9, s0]) rfl ?_
        exact w_md_step_b144 hE v1 v2 v3 v4 v5 v6 v7 v8 σ h k
      · refine dg_drop (xs' := [v1, v2, v3, v4, v5, v6, v7, v8, v9]) (ys := [s0]) rfl ?_
        exact w_md_step_b126 hE v1 v2 v3 v4 v5 v6 v7 v8 v9 σ h k
theorem w_md_step_b91 {E : dEnv} {l : Launch} {G : dGeo} (hE : mdOk E l G cX1_step 11 rmX1_step) (v1 v2 v3 v4 v5 v6 v7 v8 v9 : Int32) (σ : dS) {out} (h : md_step_b91 v1 v2 v3 v4 v5 v6 v7 v8 v9 σ = some out) (k : dK E cX1_step (some .int) out) : dG E σ 91 [v1, v2, v3, v4, v5, v6, v7, v8, v9] [] := by
  unfold md_step_b91 at h
  refine dg_aload0 hE dX1_step_91 ?_
  refine dg_iload hE dX1_step_92 4 rfl rfl ?_
  refine dg_iload_n hE dX1_step_94 2 rfl rfl ?_
  refine dg_iload hE dX1_step_95 8 rfl rfl ?_
  refine md_ca_isOn hE (by decide) dX1_step_97 (Nat.le_of_ble_eq_true rfl) h (fun r_ h => ?_)
  exact w_md_step_b100 hE v1 v2 v3 v4 v5 v6 v7 v8 v9 (r_.1) (r_.2) h k
theorem w_md_step_b88 {E : dEnv} {l : Launch} {G : dGeo} (hE : mdOk E l G cX1_step 11 rmX1_step) (v1 v2 v3 v4 v5 v6 v7 v8 s0 : Int32) (σ : dS) {out} (h : md_step_b88 v1 v2 v3 v4 v5 v6 v7 v8 s0 σ = some out) (k : dK E cX1_step (some .int) out) : dG E σ 88 [v1, v2, v3, v4, v5, v6, v7, v8] [.int s0, .ref (G.2.2.1 0)] := by
  unfold md_step_b88 at h
  refine md_ld0 hE dX1_step_88 h (fun h => ?_)
  refine dg_istore hE dX1_step_89 8 (xs' := [v1, v2, v3, v4, v5, v6, v7, v8, (σ 0 s0.toNatClampNeg)]) rfl (Nat.le_of_ble_eq_true rfl) (by decide) rfl ?_
  exact w_md_step_b91 hE v1 v2 v3 v4 v5 v6 v7 v8 (σ 0 s0.toNatClampNeg) σ h k
theorem w_md_step_b56 {E : dEnv} {l : Launch} {G : dGeo} (hE : mdOk E l G cX1_step 11 rmX1_step) (v1 v2 v3 v4 v5 v6 v7 v8 : Int32) (σ : dS) {out} (h : md_step_b56 v1 v2 v3 v4 v5 v6 v7 v8 σ = some out) (k : dK E cX1_step (some .int) out) : dG E σ 56 [v1, v2, v3, v4, v5, v6, v7, v8] [] := by
  unfold md_step_b56 at h
  refine dg_iload hE dX1_step_56 7 rfl rfl ?_
  refine dg_aload0 hE dX1_step_58 ?_
  refine md_gf5 hE dX1_step_59 ?_
  refine dg_icmp_ge hE dX1_step_62 (tgt := 150) (by decide) h (fun h => ?_) (fun h => ?_)
  · refine dg_aload0 hE dX1_step_150 ?_
    refine dg_bipush hE dX1_step_151 (v := (40 : Int32)) (by decide) ?_
    refine dg_iload_n hE dX1_step_153 0 rfl rfl ?_
    refine dg_imul hE dX1_step_154 ?_
    refine dg_iload_n hE dX1_step_155 1 rfl rfl ?_
    refine dg_iadd hE dX1_step_156 ?_
    refine dg_iconst hE dX1_step_157 (v := (1 : Int32)) (by decide) ?_
    refine dg_iadd hE dX1_step_158 ?_
    refine md_ca_endOf hE (by decide) dX1_step_159 (Nat.le_of_ble_eq_true rfl) h (fun r_ h => ?_)
    refine dg_drop (xs' := [v1, v2, v3, v4, v5, v6, v7]) (ys := [v8]) rfl ?_
    exact w_md_step_b162 hE v1 v2 v3 v4 v5 v6 v7 (r_.1) (r_.2) h k
  · refine dg_aload0 hE dX1_step_65 ?_
    refine md_gf0 hE dX1_step_66 ?_
    refine dg_iload hE dX1_step_69 5 rfl rfl ?_
    refine dg_if_eq hE dX1_step_71 (tgt := 86) (by decide) h (fun h => ?_) (fun h => ?_)
    · refine dg_iload hE dX1_step_86 7 rfl rfl ?_
      exact w_md_step_b88 hE v1 v2 v3 v4 v5 v6 v7 v8 v8 σ h k
    · refine dg_aload0 hE dX1_step_74 ?_
      refine md_gf5 hE dX1_step_75 ?_
      refine dg_iconst hE dX1_step_78 (v := (1 : Int32)) (by decide) ?_
      refine dg_isub hE dX1_step_79 ?_
      refine dg_iload hE dX1_step_80 7 rfl rfl ?_
      refine dg_isub hE dX1_step_82 ?_
      refine dg_goto hE dX1_step_83 (tgt := 88) (by decide) ?_
      exact w_md_step_b88 hE v1 v2 v3 v4 v5 v6 v7 v8 (((σ 5 0) - (1 : Int32)) - v8) σ h k
theorem w_md_step_b53 {E : dEnv} {l : Launch} {G : dGeo} (hE : mdOk E l G cX1_step 11 rmX1_step) (v1 v2 v3 v4 v5 v6 v7 : Int32) (σ : dS) {out} (h : md_step_b53 v1 v2 v3 v4 v5 v6 v7 σ = some out) (k : dK E cX1_step (some .int) out) : dG E σ 53 [v1, v2, v3, v4, v5, v6, v7] [] := by
  unfold md_step_b53 at h
  refine dg_iconst hE dX1_step_53 (v := (0 : Int32)) (by decide) ?_
  refine dg_istore hE dX1_step_54 7 (xs' := [v1, v2, v3, v4, v5, v6, v7, (0 : Int32)]) rfl (Nat.le_of_ble_eq_true rfl) (by decide) rfl ?_
  cases h
  exact k
theorem w_md_step_b48 {E : dEnv} {l : Launch} {G : dGeo} (hE : mdOk E l G cX1_step 11 rmX1_step) (v1 v2 v3 v4 v5 v6 v7 : Int32) (σ : dS) {out} (h : md_step_b48 v1 v2 v3 v4 v5 v6 v7 σ = some out) (k : dK E cX1_step (some .int) out) : dG E σ 48 [v1, v2, v3, v4, v5, v6, v7] [] := by
  unfold md_step_b48 at h
  refine dg_aload0 hE dX1_step_48 ?_
  refine dg_iconst hE dX1_step_49 (v := (0 : Int32)) (by decide) ?_
  refine md_pf16 hE dX1_step_50 ?_
  exact w_md_step_b53 hE v1 v2 v3 v4 v5 v6 v7 (up2 σ 16 0 (0 : Int32)) h k
theorem w_md_step_b37 {E : dEnv} {l : Launch} {G : dGeo} (hE : mdOk E l G cX1_step 11 rmX1_step) (v1 v2 v3 v4 v5 s0 : Int32) (σ : dS) {out} (h : md_step_b37 v1 v2 v3 v4 v5 s0 σ = some out) (k : dK E cX1_step (some .int) out) : dG E σ 37 [v1, v2, v3, v4, v5] [.int s0] := by
  unfold md_step_b37 at h
  refine dg_istore hE dX1_step_37 5 (xs' := [v1, v2, v3, v4, v5, s0]) rfl (Nat.le_of_ble_eq_true rfl) (by decide) rfl ?_
  refine dg_iload hE dX1_step_39 3 rfl rfl ?_
  refine dg_iconst hE dX1_step_41 (v := (4 : Int32)) (by decide) ?_
  refine dg_ishr hE dX1_step_42 ?_
  refine dg_bipush hE dX1_step_43 (v := (7 : Int32)) (by decide) ?_
  refine dg_iand hE dX1_step_45 ?_
  refine dg_istore hE dX1_step_46 6 (xs' := [v1, v2, v3, v4, v5, s0, ((v4 >>> ((4 : Int32) &&& 31)) &&& (7 : Int32))]) rfl (Nat.le_of_ble_eq_true rfl) (by decide) rfl ?_
  exact w_md_step_b48 hE v1 v2 v3 v4 v5 s0 ((v4 >>> ((4 : Int32) &&& 31)) &&& (7 : Int32)) σ h k
theorem w_md_step_b36 {E : dEnv} {l : Launch} {G : dGeo} (hE : mdOk E l G cX1_step 11 rmX1_step) (v1 v2 v3 v4 v5 : Int32) (σ : dS) {out} (h : md_step_b36 v1 v2 v3 v4 v5 σ = some out) (k : dK E cX1_step (some .int) out) : dG E σ 36 [v1, v2, v3, v4, v5] [] := by
  unfold md_step_b36 at h
  refine dg_iconst hE dX1_step_36 (v := (0 : Int32)) (by decide) ?_
  exact w_md_step_b37 hE v1 v2 v3 v4 v5 (0 : Int32) σ h k
theorem w_md_step_b20 {E : dEnv} {l : Launch} {G : dGeo} (hE : mdOk E l G cX1_step 11 rmX1_step) (v1 v2 v3 v4 v5 : Int32) (σ : dS) {out} (h : md_step_b20 v1 v2 v3 v4 v5 σ = some out) (k : dK E cX1_step (some .int) out) : dG E σ 20 [v1, v2, v3, v4, v5] [] := by
  unfold md_step_b20 at h
  refine dg_iload hE dX1_step_20 4 rfl rfl ?_
  refine dg_if_le hE dX1_step_22 (tgt := 36) (by decide) h (fun h => ?_) (fun h => ?_)
  · exact w_md_step_b36 hE v1 v2 v3 v4 v5 σ h k
  · refine dg_iload hE dX1_step_25 4 rfl rfl ?_
    refine dg_iconst hE dX1_step_27 (v := (2 : Int32)) (by decide) ?_
    refine dg_irem hE dX1_step_28 (by decide) ?_
    refine dg_if_ne hE dX1_step_29 (tgt := 36) (by decide) h (fun h => ?_) (fun h => ?_)
    · exact w_md_step_b36 hE v1 v2 v3 v4 v5 σ h k
    · refine dg_iconst hE dX1_step_32 (v := (1 : Int32)) (by decide) ?_
      refine dg_goto hE dX1_step_33 (tgt := 37) (by decide) ?_
      exact w_md_step_b37 hE v1 v2 v3 v4 v5 (1 : Int32) σ h k
theorem w_md_step_b13 {E : dEnv} {l : Launch} {G : dGeo} (hE : mdOk E l G cX1_step 11 rmX1_step) (v1 v2 v3 v4 : Int32) (σ : dS) {out} (h : md_step_b13 v1 v2 v3 v4 σ = some out) (k : dK E cX1_step (some .int) out) : dG E σ 13 [v1, v2, v3, v4] [] := by
  unfold md_step_b13 at h
  refine dg_iload hE dX1_step_13 3 rfl rfl ?_
  refine dg_bipush hE dX1_step_15 (v := (15 : Int32)) (by decide) ?_
  refine dg_iand hE dX1_step_17 ?_
  refine dg_istore hE dX1_step_18 4 (xs' := [v1, v2, v3, v4, (v4 &&& (15 : Int32))]) rfl (Nat.le_of_ble_eq_true rfl) (by decide) rfl ?_
  exact w_md_step_b20 hE v1 v2 v3 v4 (v4 &&& (15 : Int32)) σ h k
theorem w_md_step_b0 {E : dEnv} {l : Launch} {G : dGeo} (hE : mdOk E l G cX1_step 11 rmX1_step) (v1 v2 v3 : Int32) (σ : dS) {out} (h : md_step_b0 v1 v2 v3 σ = some out) (k : dK E cX1_step (some .int) out) : dG E σ 0 [v1, v2, v3] [] := by
  unfold md_step_b0 at h
  refine dg_aload0 hE dX1_step_0 ?_
  refine md_gf7 hE dX1_step_1 ?_
  refine dg_bipush hE dX1_step_4 (v := (40 : Int32)) (by decide) ?_
  refine dg_iload_n hE dX1_step_6 0 rfl rfl ?_
  refine dg_imul hE dX1_step_7 ?_
  refine dg_iload_n hE dX1_step_8 1 rfl rfl ?_
  refine dg_iadd hE dX1_step_9 ?_
  refine md_ld7 hE dX1_step_10 h (fun h => ?_)
  refine dg_istore hE dX1_step_11 3 (xs' := [v1, v2, v3, (σ 7 (((40 : Int32) * v1) + v2).toNatClampNeg)]) rfl (Nat.le_of_ble_eq_true rfl) (by decide) rfl ?_
  exact w_md_step_b13 hE v1 v2 v3 (σ 7 (((40 : Int32) * v1) + v2).toNatClampNeg) σ h k
theorem w_md_step_st {E : dEnv} {l : Launch} {G : dGeo} (hE : mdOk E l G cX1_step 11 rmX1_step) (a : Nat × List Int32 × dS) {out} (h : md_step_st a = some out) (k : dK E cX1_step (some .int) out) : dG E a.2.2 a.1 a.2.1 [] := by
  obtain ⟨L, xs, σ⟩ := a
  unfold md_step_st at h
  dsimp only at h ⊢
  by_cases c_ : L = 56
  · subst c_
    rw [if_pos rfl] at h
    match xs, h with
    | [x0, x1, x2, x3, x4, x5, x6, x7], h => exact w_md_step_b56 hE x0 x1 x2 x3 x4 x5 x6 x7 σ h k
    | [], h => cases h
    | [_], h => cases h
    | [_, _], h => cases h
    | [_, _, _], h => cases h
    | [_, _, _, _], h => cases h
    | [_, _, _, _, _], h => cases h
    | [_, _, _, _, _, _], h => cases h
    | [_, _, _, _, _, _, _], h => cases h
    | _ :: _ :: _ :: _ :: _ :: _ :: _ :: _ :: _ :: _, h => cases h
  rw [if_neg c_] at h
  by_cases c_ : L = 167
  · subst c_
    rw [if_pos rfl] at h
    match xs, h with
    | [x0, x1, x2, x3, x4, x5, x6, x7, x8], h => exact w_md_step_b167 hE x0 x1 x2 x3 x4 x5 x6 x7 x8 σ h k
    | [], h => cases h
    | [_], h => cases h
    | [_, _], h => cases h
    | [_, _, _], h => cases h
    | [_, _, _, _], h => cases h
    | [_, _, _, _, _], h => cases h
    | [_, _, _, _, _, _], h => cases h
    | [_, _, _, _, _, _, _], h => cases h
    | [_, _, _, _, _, _, _, _], h => cases h
    | _ :: _ :: _ :: _ :: _ :: _ :: _ :: _ :: _ :: _ :: _, h => cases h
  rw [if_neg c_] at h
  by_cases c_ : L = 209
  · subst c_
    rw [if_pos rfl] at h
    match xs, h with
    | [x0, x1, x2, x3, x4, x5, x6, x7, x8, x9], h => exact w_md_step_b209 hE x0 x1 x2 x3 x4 x5 x6 x7 x8 x9 σ h k
    | [], h => cases h
    | [_], h => cases h
    | [_, _], h => cases h
    | [_, _, _], h => cases h
    | [_, _, _, _], h => cases h
    | [_, _, _, _, _], h => cases h
    | [_, _, _, _, _, _], h => cases h
    | [_, _, _, _, _, _, _], h => cases h
    | [_, _, _, _, _, _, _, _], h => cases h
    | [_, _, _, _, _, _, _, _, _], h => cases h
    | _ :: _ :: _ :: _ :: _ :: _ :: _ :: _ :: _ :: _ :: _ :: _, h => cases h
  rw [if_neg c_] at h
  cases h
theorem met_md_step (l : Launch) (G : dGeo) (sz : Nat) (v1 v2 v3 : Int32) (σ : dS) {r : Int32 × dS} (h : md_step v1 v2 v3 σ = some r) : Met l yX1_step (ws_ yX1_step cX1_step 11 (some .int)) rmX1_step (dPc G.1 (md_ty G) (md_w G σ) sz [.ref G.2.1, .int v1, .int v2, .int v3]) (dQi G.1 (md_ty G) (md_w G σ) (md_w G r.2) sz r.1) 0 0 (va_A (md_w G σ) sz) := by
  refine dMet_i (w := md_w G) (σ := σ) (σ' := r.2) (th := [(0, .ref G.2.1)]) (b := 1) (xs := [v1, v2, v3]) (by decide) rfl rfl (Nat.le_of_ble_eq_true rfl) dth (fun E hE k => ?_)
  unfold md_step at h
  obtain ⟨out, h1, h2⟩ := lpB_some h
  exact w_md_step_b0 hE v1 v2 v3 σ h1 (dK_lp (fun a out => w_md_step_st hE a) h2 k)
theorem md_ca_step {E : dEnv} {l : Launch} {G : dGeo} {cc : ByteArray} {nL pc : Nat} {R : Room} {σ : dS} {xs : List Int32} {st : List Value} {τ : Type} {g : Int32 × dS → Option τ} {out : τ} {a0 a1 a2 : Int32} (hE : mdOk E l G cc nL R) (hR : 5 + 1 ≤ R.frames ∧ 8 + (11 + 11) + 128 ≤ R.locals) (hd : decode cc pc = .ok (.invokevirtual 136, 3)) (hs : (st.map fun v => v.category).sum ≤ 8) (h : Option.bind (md_step a0 a1 a2 σ) g = some out) (k : ∀ r, g r = some out → dG E r.2 (pc + 3) xs (.int r.1 :: st)) : dG E σ pc xs (.int a2 :: .int a1 :: .int a0 :: .ref G.2.1 :: st) := by
  obtain ⟨r, h1, h2⟩ := obind h
  exact dg_callVi hE (As := [.int a0, .int a1, .int a2]) (st := st) (C := RX1) (rm := rmX1_step) (md_recv G) (fun sz => met_md_step l G sz a0 a1 a2 σ h1) (lw_V q532 q534 qs35 q51 q535) 3 rfl ⟨rfl, rfl⟩ (by decide +kernel) hR rfl hs hd (k r h2)
abbrev rmX1_prepare : Room := { frames := 6, cells := 0, slots := 0, locals := 158 }
theorem w_md_prepare_b282 {E : dEnv} {l : Launch} {G : dGeo} (hE : mdOk E l G cX1_prepare 9 rmX1_prepare) (v1 v2 : Int32) (σ : dS) {out} (h : md_prepare_b282 v1 v2 σ = some out) (k : dK E cX1_prepare none out) : dG E σ 282 [v1, v2] [] := by
  unfold md_prepare_b282 at h
  refine dg_iinc hE dX1_prepare_282 1 (xs' := [v1, (v2 + (-1 : Int32))]) rfl rfl (by decide) rfl ?_
  refine dg_goto hE dX1_prepare_285 (tgt := 26) (by decide) ?_
  cases h
  exact k
theorem w_md_prepare_b270 {E : dEnv} {l : Launch} {G : dGeo} (hE : mdOk E l G cX1_prepare 9 rmX1_prepare) (v1 v2 v3 v4 v5 v6 v7 v8 : Int32) (σ : dS) {out} (h : md_prepare_b270 v1 v2 v3 v4 v5 v6 v7 v8 σ = some out) (k : dK E cX1_prepare none out) : dG E σ 270 [v1, v2, v3, v4, v5, v6, v7, v8] [] := by
  unfold md_prepare_b270 at h
  refine dg_iinc hE dX1_prepare_270 7 (xs' := [v1, v2, v3, v4, v5, v6, v7, (v8 + (1 : Int32))]) rfl rfl (by decide) rfl ?_
  refine dg_goto hE dX1_prepare_273 (tgt := 226) (by decide) ?_
  cases h
  exact k
theorem w_md_prepare_b226 {E : dEnv} {l : Launch} {G : dGeo} (hE : mdOk E l G cX1_prepare 9 rmX1_prepare) (v1 v2 v3 v4 v5 v6 v7 v8 : Int32) (σ : dS) {out} (h : md_prepare_b226 v1 v2 v3 v4 v5 v6 v7 v8 σ = some out) (k : dK E cX1_prepare none out) : dG E σ 226 [v1, v2, v3, v4, v5, v6, v7, v8] [] := by
  unfold md_prepare_b226 at h
  refine dg_iload hE dX1_prepare_226 7 rfl rfl ?_
  refine dg_bipush hE dX1_prepare_228 (v := (24 : Int32)) (by decide) ?_
  refine dg_icmp_ge hE dX1_prepare_230 (tgt := 276) (by decide) h (fun h => ?_) (fun h => ?_)
  · refine dg_iinc hE dX1_prepare_276 4 (xs' := [v1, v2, v3, v4, (v5 + (1 : Int32)), v6, v7, v8]) rfl rfl (by decide) rfl ?_
    refine dg_goto hE dX1_prepare_279 (tgt := 190) (by decide) ?_
    refine dg_drop (xs' := [v1, v2, v3, v4, (v5 + (1 : Int32))]) (ys := [v6, v7, v8]) rfl ?_
    cases h
    exact k
  · refine dg_aload0 hE dX1_prepare_233 ?_
    refine md_gf9 hE dX1_prepare_234 ?_
    refine dg_iload hE dX1_prepare_237 3 rfl rfl ?_
    refine dg_bipush hE dX1_prepare_239 (v := (24 : Int32)) (by decide) ?_
    refine dg_iadd hE dX1_prepare_241 ?_
    refine dg_iload hE dX1_prepare_242 7 rfl rfl ?_
    refine dg_iadd hE dX1_prepare_244 ?_
    refine md_ld9 hE dX1_prepare_245 h (fun h => ?_)
    refine dg_iload hE dX1_prepare_246 5 rfl rfl ?_
    refine dg_ishr hE dX1_prepare_248 ?_
    refine dg_iconst hE dX1_prepare_249 (v := (1 : Int32)) (by decide) ?_
    refine dg_iand hE dX1_prepare_250 ?_
    refine dg_iconst hE dX1_prepare_251 (v := (1 : Int32)) (by decide) ?_
    refine dg_icmp_ne hE dX1_prepare_252 (tgt := 270) (by decide) h (fun h => ?_) (fun h => ?_)
    · exact w_md_prepare_b270 hE v1 v2 v3 v4 v5 v6 v7 v8 σ h k
    · refine dg_aload0 hE dX1_prepare_255 ?_
      refine md_gf9 hE dX1_prepare_256 ?_
      refine dg_iload hE dX1_prepare_259 3 rfl rfl ?_
      refine dg_iload hE dX1_prepare_261 7 rfl rfl ?_
      refine dg_iadd hE dX1_prepare_263 ?_
      refine dg_dup2 hE dX1_prepare_264 rfl rfl ?_
      refine md_ld9 hE dX1_prepare_265 h (fun h => ?_)
      refine dg_iload hE dX1_prepare_266 6 rfl rfl ?_
      refine dg_ior hE dX1_prepare_268 ?_
      refine md_as9 hE dX1_prepare_269 h (fun h => ?_)
      exact w_md_prepare_b270 hE v1 v2 v3 v4 v5 v6 v7 v8 (up2 σ 9 (v4 + v8).toNatClampNeg ((σ 9 (v4 + v8).toNatClampNeg) ||| v7)) h k
theorem w_md_prepare_b221 {E : dEnv} {l : Launch} {G : dGeo} (hE : mdOk E l G cX1_prepare 9 rmX1_prepare) (v1 v2 v3 v4 v5 v6 s0 : Int32) (σ : dS) {out} (h : md_prepare_b221 v1 v2 v3 v4 v5 v6 s0 σ = some out) (k : dK E cX1_prepare none out) : dG E σ 221 [v1, v2, v3, v4, v5, v6] [.int s0] := by
  unfold md_prepare_b221 at h
  refine dg_istore hE dX1_prepare_221 6 (xs' := [v1, v2, v3, v4, v5, v6, s0]) rfl (Nat.le_of_ble_eq_true rfl) (by decide) rfl ?_
  refine dg_iconst hE dX1_prepare_223 (v := (0 : Int32)) (by decide) ?_
  refine dg_istore hE dX1_prepare_224 7 (xs' := [v1, v2, v3, v4, v5, v6, s0, (0 : Int32)]) rfl (Nat.le_of_ble_eq_true rfl) (by decide) rfl ?_
  cases h
  exact k
theorem w_md_prepare_b213 {E : dEnv} {l : Launch} {G : dGeo} (hE : mdOk E l G cX1_prepare 9 rmX1_prepare) (v1 v2 v3 v4 v5 v6 : Int32) (σ : dS) {out} (h : md_prepare_b213 v1 v2 v3 v4 v5 v6 σ = some out) (k : dK E cX1_prepare none out) : dG E σ 213 [v1, v2, v3, v4, v5, v6] [] := by
  unfold md_prepare_b213 at h
  refine dg_aload0 hE dX1_prepare_213 ?_
  refine dg_iload_n hE dX1_prepare_214 0 rfl rfl ?_
  refine dg_iload_n hE dX1_prepare_215 1 rfl rfl ?_
  refine dg_iload hE dX1_prepare_216 5 rfl rfl ?_
  refine md_ca_step hE (by decide) dX1_prepare_218 (Nat.le_of_ble_eq_true rfl) h (fun r_ h => ?_)
  exact w_md_prepare_b221 hE v1 v2 v3 v4 v5 v6 (r_.1) (r_.2) h k
theorem w_md_prepare_b190 {E : dEnv} {l : Launch} {G : dGeo} (hE : mdOk E l G cX1_prepare 9 rmX1_prepare) (v1 v2 v3 v4 v5 : Int32) (σ : dS) {out} (h : md_prepare_b190 v1 v2 v3 v4 v5 σ = some out) (k : dK E cX1_prepare none out) : dG E σ 190 [v1, v2, v3, v4, v5] [] := by
  unfold md_prepare_b190 at h
  refine dg_iload hE dX1_prepare_190 4 rfl rfl ?_
  refine dg_aload0 hE dX1_prepare_192 ?_
  refine md_gf5 hE dX1_prepare_193 ?_
  refine dg_icmp_ge hE dX1_prepare_196 (tgt := 282) (by decide) h (fun h => ?_) (fun h => ?_)
  · refine dg_drop (xs' := [v1, v2]) (ys := [v3, v4, v5]) rfl ?_
    exact w_md_prepare_b282 hE v1 v2 σ h k
  · refine dg_iload_n hE dX1_prepare_199 2 rfl rfl ?_
    refine dg_iconst hE dX1_prepare_200 (v := (2 : Int32)) (by decide) ?_
    refine dg_icmp_ne hE dX1_prepare_201 (tgt := 282) (by decide) h (fun h => ?_) (fun h => ?_)
    · refine dg_drop (xs' := [v1, v2]) (ys := [v3, v4, v5]) rfl ?_
      exact w_md_prepare_b282 hE v1 v2 σ h k
    · refine dg_aload0 hE dX1_prepare_204 ?_
      refine md_gf0 hE dX1_prepare_205 ?_
      refine dg_iload hE dX1_prepare_208 4 rfl rfl ?_
      refine md_ld0 hE dX1_prepare_210 h (fun h => ?_)
      refine dg_istore hE dX1_prepare_211 5 (xs' := [v1, v2, v3, v4, v5, (σ 0 v5.toNatClampNeg)]) rfl (Nat.le_of_ble_eq_true rfl) (by decide) rfl ?_
      exact w_md_prepare_b213 hE v1 v2 v3 v4 v5 (σ 0 v5.toNatClampNeg) σ h k
theorem w_md_prepare_b187 {E : dEnv} {l : Launch} {G : dGeo} (hE : mdOk E l G cX1_prepare 9 rmX1_prepare) (v1 v2 v3 v4 : Int32) (σ : dS) {out} (h : md_prepare_b187 v1 v2 v3 v4 σ = some out) (k : dK E cX1_prepare none out) : dG E σ 187 [v1, v2, v3, v4] [] := by
  unfold md_prepare_b187 at h
  refine dg_iconst hE dX1_prepare_187 (v := (0 : Int32)) (by decide) ?_
  refine dg_istore hE dX1_prepare_188 4 (xs' := [v1, v2, v3, v4, (0 : Int32)]) rfl (Nat.le_of_ble_eq_true rfl) (by decide) rfl ?_
  cases h
  exact k
theorem w_md_prepare_b137 {E : dEnv} {l : Launch} {G : dGeo} (hE : mdOk E l G cX1_prepare 9 rmX1_prepare) (v1 v2 v3 v4 v5 v6 : Int32) (σ : dS) {out} (h : md_prepare_b137 v1 v2 v3 v4 v5 v6 σ = some out) (k : dK E cX1_prepare none out) : dG E σ 137 [v1, v2, v3, v4, v5, v6] [] := by
  unfold md_prepare_b137 at h
  refine dg_iload hE dX1_prepare_137 5 rfl rfl ?_
  refine dg_bipush hE dX1_prepare_139 (v := (24 : Int32)) (by decide) ?_
  refine dg_icmp_ge hE dX1_prepare_141 (tgt := 187) (by decide) h (fun h => ?_) (fun h => ?_)
  · refine dg_drop (xs' := [v1, v2, v3, v4]) (ys := [v5, v6]) rfl ?_
    exact w_md_prepare_b187 hE v1 v2 v3 v4 σ h k
  · refine dg_aload0 hE dX1_prepare_144 ?_
    refine md_gf9 hE dX1_prepare_145 ?_
    refine dg_iload hE dX1_prepare_148 3 rfl rfl ?_
    refine dg_iload hE dX1_prepare_150 5 rfl rfl ?_
    refine dg_iadd hE dX1_prepare_152 ?_
    refine dg_aload0 hE dX1_prepare_153 ?_
    refine md_gf9 hE dX1_prepare_154 ?_
    refine dg_iload hE dX1_prepare_157 3 rfl rfl ?_
    refine dg_bipush hE dX1_prepare_159 (v := (24 : Int32)) (by decide) ?_
    refine dg_iadd hE dX1_prepare_161 ?_
    refine dg_iload hE dX1_prepare_162 5 rfl rfl ?_
    refine dg_iadd hE dX1_prepare_164 ?_
    refine md_ld9 hE dX1_prepare_165 h (fun h => ?_)
    refine dg_aload0 hE dX1_prepare_166 ?_
    refine md_gf9 hE dX1_prepare_167 ?_
    refine dg_bipush hE dX1_prepare_170 (v := (24 : Int32)) (by decide) ?_
    refine dg_iload hE dX1_prepare_172 4 rfl rfl ?_
    refine dg_imul hE dX1_prepare_174 ?_
    refine dg_iload hE dX1_prepare_175 5 rfl rfl ?_
    refine dg_iadd hE dX1_prepare_177 ?_
    refine md_ld9 hE dX1_prepare_178 h (fun h => ?_)
    refine dg_ior hE dX1_prepare_179 ?_
    refine md_as9 hE dX1_prepare_180 h (fun h => ?_)
    refine dg_iinc hE dX1_prepare_181 5 (xs' := [v1, v2, v3, v4, v5, (v6 + (1 : Int32))]) rfl rfl (by decide) rfl ?_
    refine dg_goto hE dX1_prepare_184 (tgt := 137) (by decide) ?_
    cases h
    exact k
theorem w_md_prepare_b132 {E : dEnv} {l : Launch} {G : dGeo} (hE : mdOk E l G cX1_prepare 9 rmX1_prepare) (v1 v2 v3 v4 s0 : Int32) (σ : dS) {out} (h : md_prepare_b132 v1 v2 v3 v4 s0 σ = some out) (k : dK E cX1_prepare none out) : dG E σ 132 [v1, v2, v3, v4] [.int s0] := by
  unfold md_prepare_b132 at h
  refine dg_istore hE dX1_prepare_132 4 (xs' := [v1, v2, v3, v4, s0]) rfl (Nat.le_of_ble_eq_true rfl) (by decide) rfl ?_
  refine dg_iconst hE dX1_prepare_134 (v := (0 : Int32)) (by decide) ?_
  refine dg_istore hE dX1_prepare_135 5 (xs' := [v1, v2, v3, v4, s0, (0 : Int32)]) rfl (Nat.le_of_ble_eq_true rfl) (by decide) rfl ?_
  cases h
  exact k
theorem w_md_prepare_b108 {E : dEnv} {l : Launch} {G : dGeo} (hE : mdOk E l G cX1_prepare 9 rmX1_prepare) (v1 v2 v3 v4 v5 s0 s1 : Int32) (σ : dS) {out} (h : md_prepare_b108 v1 v2 v3 v4 v5 s0 s1 σ = some out) (k : dK E cX1_prepare none out) : dG E σ 108 [v1, v2, v3, v4, v5] [.int s0, .int s1, .ref (G.2.2.1 9)] := by
  unfold md_prepare_b108 at h
  refine md_as9 hE dX1_prepare_108 h (fun h => ?_)
  refine dg_iinc hE dX1_prepare_109 4 (xs' := [v1, v2, v3, v4, (v5 + (1 : Int32))]) rfl rfl (by decide) rfl ?_
  refine dg_goto hE dX1_prepare_112 (tgt := 64) (by decide) ?_
  cases h
  exact k
theorem w_md_prepare_b64 {E : dEnv} {l : Launch} {G : dGeo} (hE : mdOk E l G cX1_prepare 9 rmX1_prepare) (v1 v2 v3 v4 v5 : Int32) (σ : dS) {out} (h : md_prepare_b64 v1 v2 v3 v4 v5 σ = some out) (k : dK E cX1_prepare none out) : dG E σ 64 [v1, v2, v3, v4, v5] [] := by
  unfold md_prepare_b64 at h
  refine dg_iload hE dX1_prepare_64 4 rfl rfl ?_
  refine dg_bipush hE dX1_prepare_66 (v := (24 : Int32)) (by decide) ?_
  refine dg_icmp_ge hE dX1_prepare_68 (tgt := 115) (by decide) h (fun h => ?_) (fun h => ?_)
  · refine dg_iload_n hE dX1_prepare_115 2 rfl rfl ?_
    refine dg_iconst hE dX1_prepare_116 (v := (3 : Int32)) (by decide) ?_
    refine dg_icmp_ne hE dX1_prepare_117 (tgt := 187) (by decide) h (fun h => ?_) (fun h => ?_)
    · refine dg_drop (xs' := [v1, v2, v3, v4]) (ys := [v5]) rfl ?_
      exact w_md_prepare_b187 hE v1 v2 v3 v4 σ h k
    · refine dg_aload0 hE dX1_prepare_120 ?_
      refine dg_bipush hE dX1_prepare_121 (v := (40 : Int32)) (by decide) ?_
      refine dg_iload_n hE dX1_prepare_123 0 rfl rfl ?_
      refine dg_imul hE dX1_prepare_124 ?_
      refine dg_iload_n hE dX1_prepare_125 1 rfl rfl ?_
      refine dg_iadd hE dX1_prepare_126 ?_
      refine dg_iconst hE dX1_prepare_127 (v := (1 : Int32)) (by decide) ?_
      refine dg_iadd hE dX1_prepare_128 ?_
      refine md_ca_endOf hE (by decide) dX1_prepare_129 (Nat.le_of_ble_eq_true rfl) h (fun r_ h => ?_)
      refine dg_drop (xs' := [v1, v2, v3, v4]) (ys := [v5]) rfl ?_
      exact w_md_prepare_b132 hE v1 v2 v3 v4 (r_.1) (r_.2) h k
  · refine dg_aload0 hE dX1_prepare_71 ?_
    refine md_gf9 hE dX1_prepare_72 ?_
    refine dg_iload hE dX1_prepare_75 3 rfl rfl ?_
    refine dg_iload hE dX1_prepare_77 4 rfl rfl ?_
    refine dg_iadd hE dX1_prepare_79 ?_
    refine dg_iload_n hE dX1_prepare_80 2 rfl rfl ?_
    refine dg_if_ne hE dX1_prepare_81 (tgt := 91) (by decide) h (fun h => ?_) (fun h => ?_)
    · refine dg_iload_n hE dX1_prepare_91 2 rfl rfl ?_
      refine dg_iconst hE dX1_prepare_92 (v := (1 : Int32)) (by decide) ?_
      refine dg_icmp_ne hE dX1_prepare_93 (tgt := 107) (by decide) h (fun h => ?_) (fun h => ?_)
      · refine dg_iconst hE dX1_prepare_107 (v := (0 : Int32)) (by decide) ?_
        exact w_md_prepare_b108 hE v1 v2 v3 v4 v5 (0 : Int32) (v4 + v5) σ h k
      · refine dg_iconst hE dX1_prepare_96 (v := (1 : Int32)) (by decide) ?_
        refine dg_aload0 hE dX1_prepare_97 ?_
        refine md_gf0 hE dX1_prepare_98 ?_
        refine dg_iconst hE dX1_prepare_101 (v := (0 : Int32)) (by decide) ?_
        refine md_ld0 hE dX1_prepare_102 h (fun h => ?_)
        refine dg_ishl hE dX1_prepare_103 ?_
        refine dg_goto hE dX1_prepare_104 (tgt := 108) (by decide) ?_
        exact w_md_prepare_b108 hE v1 v2 v3 v4 v5 ((1 : Int32) <<< ((σ 0 (0 : Int32).toNatClampNeg) &&& 31)) (v4 + v5) σ h k
    · refine dg_iconst hE dX1_prepare_84 (v := (1 : Int32)) (by decide) ?_
      refine dg_iload hE dX1_prepare_85 4 rfl rfl ?_
      refine dg_ishl hE dX1_prepare_87 ?_
      refine dg_goto hE dX1_prepare_88 (tgt := 108) (by decide) ?_
      exact w_md_prepare_b108 hE v1 v2 v3 v4 v5 ((1 : Int32) <<< (v5 &&& 31)) (v4 + v5) σ h k
theorem w_md_prepare_b61 {E : dEnv} {l : Launch} {G : dGeo} (hE : mdOk E l G cX1_prepare 9 rmX1_prepare) (v1 v2 v3 v4 : Int32) (σ : dS) {out} (h : md_prepare_b61 v1 v2 v3 v4 σ = some out) (k : dK E cX1_prepare none out) : dG E σ 61 [v1, v2, v3, v4] [] := by
  unfold md_prepare_b61 at h
  refine dg_iconst hE dX1_prepare_61 (v := (0 : Int32)) (by decide) ?_
  refine dg_istore hE dX1_prepare_62 4 (xs' := [v1, v2, v3, v4, (0 : Int32)]) rfl (Nat.le_of_ble_eq_true rfl) (by decide) rfl ?_
  cases h
  exact k
theorem w_md_prepare_b42 {E : dEnv} {l : Launch} {G : dGeo} (hE : mdOk E l G cX1_prepare 9 rmX1_prepare) (v1 v2 v3 : Int32) (σ : dS) {out} (h : md_prepare_b42 v1 v2 v3 σ = some out) (k : dK E cX1_prepare none out) : dG E σ 42 [v1, v2, v3] [] := by
  unfold md_prepare_b42 at h
  refine dg_iload_n hE dX1_prepare_42 2 rfl rfl ?_
  refine dg_iconst hE dX1_prepare_43 (v := (3 : Int32)) (by decide) ?_
  refine dg_icmp_le hE dX1_prepare_44 (tgt := 50) (by decide) h (fun h => ?_) (fun h => ?_)
  · refine dg_bipush hE dX1_prepare_50 (v := (24 : Int32)) (by decide) ?_
    refine dg_bipush hE dX1_prepare_52 (v := (40 : Int32)) (by decide) ?_
    refine dg_iload_n hE dX1_prepare_54 0 rfl rfl ?_
    refine dg_imul hE dX1_prepare_55 ?_
    refine dg_iload_n hE dX1_prepare_56 1 rfl rfl ?_
    refine dg_iadd hE dX1_prepare_57 ?_
    refine dg_imul hE dX1_prepare_58 ?_
    refine dg_istore hE dX1_prepare_59 3 (xs' := [v1, v2, v3, ((24 : Int32) * (((40 : Int32) * v1) + v2))]) rfl (Nat.le_of_ble_eq_true rfl) (by decide) rfl ?_
    exact w_md_prepare_b61 hE v1 v2 v3 ((24 : Int32) * (((40 : Int32) * v1) + v2)) σ h k
  · refine dg_goto hE dX1_prepare_47 (tgt := 282) (by decide) ?_
    refine dg_drop (xs' := [v1, v2]) (ys := [v3]) rfl ?_
    exact w_md_prepare_b282 hE v1 v2 σ h k
theorem w_md_prepare_b26 {E : dEnv} {l : Launch} {G : dGeo} (hE : mdOk E l G cX1_prepare 9 rmX1_prepare) (v1 v2 : Int32) (σ : dS) {out} (h : md_prepare_b26 v1 v2 σ = some out) (k : dK E cX1_prepare none out) : dG E σ 26 [v1, v2] [] := by
  unfold md_prepare_b26 at h
  refine dg_iload_n hE dX1_prepare_26 1 rfl rfl ?_
  refine dg_if_lt hE dX1_prepare_27 (tgt := 288) (by decide) h (fun h => ?_) (fun h => ?_)
  · cases h
    exact k _ _ dX1_prepare_288
  · refine dg_aload0 hE dX1_prepare_30 ?_
    refine md_gf6 hE dX1_prepare_31 ?_
    refine dg_bipush hE dX1_prepare_34 (v := (40 : Int32)) (by decide) ?_
    refine dg_iload_n hE dX1_prepare_36 0 rfl rfl ?_
    refine dg_imul hE dX1_prepare_37 ?_
    refine dg_iload_n hE dX1_prepare_38 1 rfl rfl ?_
    refine dg_iadd hE dX1_prepare_39 ?_
    refine md_ld6 hE dX1_prepare_40 h (fun h => ?_)
    refine dg_istore_n hE dX1_prepare_41 2 (xs' := [v1, v2, (σ 6 (((40 : Int32) * v1) + v2).toNatClampNeg)]) rfl (Nat.le_of_ble_eq_true rfl) (by decide) rfl ?_
    exact w_md_prepare_b42 hE v1 v2 (σ 6 (((40 : Int32) * v1) + v2).toNatClampNeg) σ h k
theorem w_md_prepare_b17 {E : dEnv} {l : Launch} {G : dGeo} (hE : mdOk E l G cX1_prepare 9 rmX1_prepare) (v1 : Int32) (σ : dS) {out} (h : md_prepare_b17 v1 σ = some out) (k : dK E cX1_prepare none out) : dG E σ 17 [v1] [] := by
  unfold md_prepare_b17 at h
  refine dg_aload0 hE dX1_prepare_17 ?_
  refine md_gf8 hE dX1_prepare_18 ?_
  refine dg_iload_n hE dX1_prepare_21 0 rfl rfl ?_
  refine md_ld8 hE dX1_prepare_22 h (fun h => ?_)
  refine dg_iconst hE dX1_prepare_23 (v := (1 : Int32)) (by decide) ?_
  refine dg_isub hE dX1_prepare_24 ?_
  refine dg_istore_n hE dX1_prepare_25 1 (xs' := [v1, ((σ 8 v1.toNatClampNeg) - (1 : Int32))]) rfl (Nat.le_of_ble_eq_true rfl) (by decide) rfl ?_
  cases h
  exact k
theorem w_md_prepare_b0 {E : dEnv} {l : Launch} {G : dGeo} (hE : mdOk E l G cX1_prepare 9 rmX1_prepare) (v1 : Int32) (σ : dS) {out} (h : md_prepare_b0 v1 σ = some out) (k : dK E cX1_prepare none out) : dG E σ 0 [v1] [] := by
  unfold md_prepare_b0 at h
  refine dg_aload0 hE dX1_prepare_0 ?_
  refine md_gf10 hE dX1_prepare_1 ?_
  refine dg_iload_n hE dX1_prepare_4 0 rfl rfl ?_
  refine md_ld10 hE dX1_prepare_5 h (fun h => ?_)
  refine dg_if_eq hE dX1_prepare_6 (tgt := 10) (by decide) h (fun h => ?_) (fun h => ?_)
  · refine dg_aload0 hE dX1_prepare_10 ?_
    refine md_gf10 hE dX1_prepare_11 ?_
    refine dg_iload_n hE dX1_prepare_14 0 rfl rfl ?_
    refine dg_iconst hE dX1_prepare_15 (v := (1 : Int32)) (by decide) ?_
    refine md_as10 hE dX1_prepare_16 h (fun h => ?_)
    exact w_md_prepare_b17 hE v1 (up2 σ 10 v1.toNatClampNeg (vp_nar .boolean (1 : Int32))) h k
  · cases h
    exact k _ _ dX1_prepare_9
theorem w_md_prepare_st {E : dEnv} {l : Launch} {G : dGeo} (hE : mdOk E l G cX1_prepare 9 rmX1_prepare) (a : Nat × List Int32 × dS) {out} (h : md_prepare_st a = some out) (k : dK E cX1_prepare none out) : dG E a.2.2 a.1 a.2.1 [] := by
  obtain ⟨L, xs, σ⟩ := a
  unfold md_prepare_st at h
  dsimp only at h ⊢
  by_cases c_ : L = 26
  · subst c_
    rw [if_pos rfl] at h
    match xs, h with
    | [x0, x1], h => exact w_md_prepare_b26 hE x0 x1 σ h k
    | [], h => cases h
    | [_], h => cases h
    | _ :: _ :: _ :: _, h => cases h
  rw [if_neg c_] at h
  by_cases c_ : L = 64
  · subst c_
    rw [if_pos rfl] at h
    match xs, h with
    | [x0, x1, x2, x3, x4], h => exact w_md_prepare_b64 hE x0 x1 x2 x3 x4 σ h k
    | [], h => cases h
    | [_], h => cases h
    | [_, _], h => cases h
    | [_, _, _], h => cases h
    | [_, _, _, _], h => cases h
    | _ :: _ :: _ :: _ :: _ :: _ :: _, h => cases h
  rw [if_neg c_] at h
  by_cases c_ : L = 137
  · subst c_
    rw [if_pos rfl] at h
    match xs, h with
    | [x0, x1, x2, x3, x4, x5], h => exact w_md_prepare_b137 hE x0 x1 x2 x3 x4 x5 σ h k
    | [], h => cases h
    | [_], h => cases h
    | [_, _], h => cases h
    | [_, _, _], h => cases h
    | [_, _, _, _], h => cases h
    | [_, _, _, _, _], h => cases h
    | _ :: _ :: _ :: _ :: _ :: _ :: _ :: _, h => cases h
  rw [if_neg c_] at h
  by_cases c_ : L = 190
  · subst c_
    rw [if_pos rfl] at h
    match xs, h with
    | [x0, x1, x2, x3, x4], h => exact w_md_prepare_b190 hE x0 x1 x2 x3 x4 σ h k
    | [], h => cases h
    | [_], h => cases h
    | [_, _], h => cases h
    | [_, _, _], h => cases h
    | [_, _, _, _], h => cases h
    | _ :: _ :: _ :: _ :: _ :: _ :: _, h => cases h
  rw [if_neg c_] at h
  by_cases c_ : L = 226
  · subst c_
    rw [if_pos rfl] at h
    match xs, h with
    | [x0, x1, x2, x3, x4, x5, x6, x7], h => exact w_md_prepare_b226 hE x0 x1 x2 x3 x4 x5 x6 x7 σ h k
    | [], h => cases h
    | [_], h => cases h
    | [_, _], h => cases h
    | [_, _, _], h => cases h
    | [_, _, _, _], h => cases h
    | [_, _, _, _, _], h => cases h
    | [_, _, _, _, _, _], h => cases h
    | [_, _, _, _, _, _, _], h => cases h
    | _ :: _ :: _ :: _ :: _ :: _ :: _ :: _ :: _ :: _, h => cases h
  rw [if_neg c_] at h
  cases h
theorem met_md_prepare (l : Launch) (G : dGeo) (sz : Nat) (v1 : Int32) (σ : dS) {r : Int32 × dS} (h : md_prepare v1 σ = some r) : Met l yX1_prepare (ws_ yX1_prepare cX1_prepare 9 none) rmX1_prepare (dPc G.1 (md_ty G) (md_w G σ) sz [.ref G.2.1, .int v1]) (dQv G.1 (md_ty G) (md_w G σ) (md_w G r.2) sz) 0 0 (va_A (md_w G σ) sz) := by
  refine dMet_v (w := md_w G) (σ := σ) (σ' := r.2) (r := r.1) (th := [(0, .ref G.2.1)]) (b := 1) (xs := [v1]) (by decide) rfl rfl (Nat.le_of_ble_eq_true rfl) dth (fun E hE k => ?_)
  unfold md_prepare at h
  obtain ⟨out, h1, h2⟩ := lpB_some h
  exact w_md_prepare_b0 hE v1 σ h1 (dK_lp (fun a out => w_md_prepare_st hE a) h2 k)
theorem md_ca_prepare {E : dEnv} {l : Launch} {G : dGeo} {cc : ByteArray} {nL pc : Nat} {R : Room} {σ : dS} {xs : List Int32} {st : List Value} {τ : Type} {g : Int32 × dS → Option τ} {out : τ} {a0 : Int32} (hE : mdOk E l G cc nL R) (hR : 6 + 1 ≤ R.frames ∧ 8 + (9 + 11) + 158 ≤ R.locals) (hd : decode cc pc = .ok (.invokevirtual 163, 3)) (hs : (st.map fun v => v.category).sum ≤ 8) (h : Option.bind (md_prepare a0 σ) g = some out) (k : ∀ r, g r = some out → dG E r.2 (pc + 3) xs (st)) : dG E σ pc xs (.int a0 :: .ref G.2.1 :: st) := by
  obtain ⟨r, h1, h2⟩ := obind h
  exact dg_callVv hE (As := [.int a0]) (st := st) (C := RX1) (rm := rmX1_prepare) (md_recv G) (fun sz => met_md_prepare l G sz a0 σ h1) (lw_V q524 q526 qs33 q51 q527) 1 rfl ⟨rfl, rfl⟩ (by decide +kernel) hR rfl hs hd (k r h2)
abbrev rmX1_ask : Room := { frames := 7, cells := 0, slots := 0, locals := 186 }
theorem w_md_ask_b5 {E : dEnv} {l : Launch} {G : dGeo} (hE : mdOk E l G cX1_ask 3 rmX1_ask) (v1 v2 : Int32) (σ : dS) {out} (h : md_ask_b5 v1 v2 σ = some out) (k : dR E cX1_ask none out) : dG E σ 5 [v1, v2] [] := by
  unfold md_ask_b5 at h
  refine dg_aload0 hE dX1_ask_5 ?_
  refine dg_iload_n hE dX1_ask_6 0 rfl rfl ?_
  refine dg_iconst hE dX1_ask_7 (v := (0 : Int32)) (by decide) ?_
  refine dg_iload_n hE dX1_ask_8 1 rfl rfl ?_
  refine dg_iconst hE dX1_ask_9 (v := (1 : Int32)) (by decide) ?_
  refine dg_iconst hE dX1_ask_10 (v := (1 : Int32)) (by decide) ?_
  refine md_ca_workOut hE (by decide) dX1_ask_11 (Nat.le_of_ble_eq_true rfl) h (fun r_ h => ?_)
  cases h
  exact k _ _ dX1_ask_14
theorem w_md_ask_b0 {E : dEnv} {l : Launch} {G : dGeo} (hE : mdOk E l G cX1_ask 3 rmX1_ask) (v1 v2 : Int32) (σ : dS) {out} (h : md_ask_b0 v1 v2 σ = some out) (k : dR E cX1_ask none out) : dG E σ 0 [v1, v2] [] := by
  unfold md_ask_b0 at h
  refine dg_aload0 hE dX1_ask_0 ?_
  refine dg_iload_n hE dX1_ask_1 0 rfl rfl ?_
  refine md_ca_prepare hE (by decide) dX1_ask_2 (Nat.le_of_ble_eq_true rfl) h (fun r_ h => ?_)
  exact w_md_ask_b5 hE v1 v2 (r_.2) h k
theorem met_md_ask (l : Launch) (G : dGeo) (sz : Nat) (v1 v2 : Int32) (σ : dS) {r : Int32 × dS} (h : md_ask v1 v2 σ = some r) : Met l yX1_ask (ws_ yX1_ask cX1_ask 3 none) rmX1_ask (dPc G.1 (md_ty G) (md_w G σ) sz [.ref G.2.1, .int v1, .int v2]) (dQv G.1 (md_ty G) (md_w G σ) (md_w G r.2) sz) 0 0 (va_A (md_w G σ) sz) := by
  refine dMet_v (w := md_w G) (σ := σ) (σ' := r.2) (r := r.1) (th := [(0, .ref G.2.1)]) (b := 1) (xs := [v1, v2]) (by decide) rfl rfl (Nat.le_of_ble_eq_true rfl) dth (fun E hE k => ?_)
  unfold md_ask at h
  exact w_md_ask_b0 hE v1 v2 σ h k
theorem md_ca_ask {E : dEnv} {l : Launch} {G : dGeo} {cc : ByteArray} {nL pc : Nat} {R : Room} {σ : dS} {xs : List Int32} {st : List Value} {τ : Type} {g : Int32 × dS → Option τ} {out : τ} {a0 a1 : Int32} (hE : mdOk E l G cc nL R) (hR : 7 + 1 ≤ R.frames ∧ 8 + (3 + 11) + 186 ≤ R.locals) (hd : decode cc pc = .ok (.invokevirtual 173, 3)) (hs : (st.map fun v => v.category).sum ≤ 8) (h : Option.bind (md_ask a0 a1 σ) g = some out) (k : ∀ r, g r = some out → dG E r.2 (pc + 3) xs (st)) : dG E σ pc xs (.int a1 :: .int a0 :: .ref G.2.1 :: st) := by
  obtain ⟨r, h1, h2⟩ := obind h
  exact dg_callVv hE (As := [.int a0, .int a1]) (st := st) (C := RX1) (rm := rmX1_ask) (md_recv G) (fun sz => met_md_ask l G sz a0 a1 σ h1) (lw_V q520 q522 qs32 q51 q523) 2 rfl ⟨rfl, rfl⟩ (by decide +kernel) hR rfl hs hd (k r h2)
abbrev rmX1_isExpression : Room := { frames := 1, cells := 0, slots := 0, locals := 22 }
theorem w_md_isExpression_b24 {E : dEnv} {l : Launch} {G : dGeo} (hE : mdOk E l G cX1_isExpression 3 rmX1_isExpression) (s0 : Int32) (σ : dS) {out} (h : md_isExpression_b24 s0 σ = some out) (k : dR E cX1_isExpression (some .boolean) out) : dG E σ 24 [] [.int s0] := by
  unfold md_isExpression_b24 at h
  refine dg_if_lt hE dX1_isExpression_24 (tgt := 31) (by decide) h (fun h => ?_) (fun h => ?_)
  · refine dg_iconst hE dX1_isExpression_31 (v := (0 : Int32)) (by decide) ?_
    cases h
    exact k nz0 _ _ dX1_isExpression_32
  · refine dg_iconst hE dX1_isExpression_27 (v := (1 : Int32)) (by decide) ?_
    refine dg_goto hE dX1_isExpression_28 (tgt := 32) (by decide) ?_
    cases h
    exact k nz1 _ _ dX1_isExpression_32
theorem w_md_isExpression_b7 {E : dEnv} {l : Launch} {G : dGeo} (hE : mdOk E l G cX1_isExpression 3 rmX1_isExpression) (v1 v2 s0 : Int32) (σ : dS) {out} (h : md_isExpression_b7 v1 v2 s0 σ = some out) (k : dR E cX1_isExpression (some .boolean) out) : dG E σ 7 [v1, v2] [.int s0] := by
  unfold md_isExpression_b7 at h
  refine dg_if_eq hE dX1_isExpression_7 (tgt := 31) (by decide) h (fun h => ?_) (fun h => ?_)
  · refine dg_iconst hE dX1_isExpression_31 (v := (0 : Int32)) (by decide) ?_
    cases h
    exact k nz0 _ _ dX1_isExpression_32
  · refine dg_aload0 hE dX1_isExpression_10 ?_
    refine md_gf8 hE dX1_isExpression_11 ?_
    refine dg_iload_n hE dX1_isExpression_14 0 rfl rfl ?_
    refine md_ld8 hE dX1_isExpression_15 h (fun h => ?_)
    refine dg_if_le hE dX1_isExpression_16 (tgt := 31) (by decide) h (fun h => ?_) (fun h => ?_)
    · refine dg_iconst hE dX1_isExpression_31 (v := (0 : Int32)) (by decide) ?_
      cases h
      exact k nz0 _ _ dX1_isExpression_32
    · refine dg_aload0 hE dX1_isExpression_19 ?_
      refine dg_iload_n hE dX1_isExpression_20 1 rfl rfl ?_
      refine md_ca_where hE (by decide) dX1_isExpression_21 (Nat.le_of_ble_eq_true rfl) h (fun r_ h => ?_)
      refine dg_drop (xs' := []) (ys := [v1, v2]) rfl ?_
      exact w_md_isExpression_b24 hE (r_.1) (r_.2) h k
theorem w_md_isExpression_b0 {E : dEnv} {l : Launch} {G : dGeo} (hE : mdOk E l G cX1_isExpression 3 rmX1_isExpression) (v1 v2 : Int32) (σ : dS) {out} (h : md_isExpression_b0 v1 v2 σ = some out) (k : dR E cX1_isExpression (some .boolean) out) : dG E σ 0 [v1, v2] [] := by
  unfold md_isExpression_b0 at h
  refine dg_iload_n hE dX1_isExpression_0 0 rfl rfl ?_
  refine dg_iconst hE dX1_isExpression_1 (v := (0 : Int32)) (by decide) ?_
  refine dg_bipush hE dX1_isExpression_2 (v := (7 : Int32)) (by decide) ?_
  refine md_ca_in hE (by decide) dX1_isExpression_4 (Nat.le_of_ble_eq_true rfl) h (fun r_ h => ?_)
  exact w_md_isExpression_b7 hE v1 v2 r_ σ h k
theorem met_md_isExpression (l : Launch) (G : dGeo) (sz : Nat) (v1 v2 : Int32) (σ : dS) {r : Int32 × dS} (h : md_isExpression v1 v2 σ = some r) : Met l yX1_isExpression (ws_ yX1_isExpression cX1_isExpression 3 (some .boolean)) rmX1_isExpression (dPc G.1 (md_ty G) (md_w G σ) sz [.ref G.2.1, .int v1, .int v2]) (dQi G.1 (md_ty G) (md_w G σ) (md_w G r.2) sz r.1) 0 0 (va_A (md_w G σ) sz) := by
  refine dMet_i (w := md_w G) (σ := σ) (σ' := r.2) (th := [(0, .ref G.2.1)]) (b := 1) (xs := [v1, v2]) (by decide) rfl rfl (Nat.le_of_ble_eq_true rfl) dth (fun E hE k => ?_)
  unfold md_isExpression at h
  exact w_md_isExpression_b0 hE v1 v2 σ h k
theorem md_ca_isExpression {E : dEnv} {l : Launch} {G : dGeo} {cc : ByteArray} {nL pc : Nat} {R : Room} {σ : dS} {xs : List Int32} {st : List Value} {τ : Type} {g : Int32 × dS → Option τ} {out : τ} {a0 a1 : Int32} (hE : mdOk E l G cc nL R) (hR : 1 + 1 ≤ R.frames ∧ 8 + (3 + 11) + 22 ≤ R.locals) (hd : decode cc pc = .ok (.invokevirtual 167, 3)) (hs : (st.map fun v => v.category).sum ≤ 8) (h : Option.bind (md_isExpression a0 a1 σ) g = some out) (k : ∀ r, g r = some out → dG E r.2 (pc + 3) xs (.int r.1 :: st)) : dG E σ pc xs (.int a1 :: .int a0 :: .ref G.2.1 :: st) := by
  obtain ⟨r, h1, h2⟩ := obind h
  exact dg_callVi hE (As := [.int a0, .int a1]) (st := st) (C := RX1) (rm := rmX1_isExpression) (md_recv G) (fun sz => met_md_isExpression l G sz a0 a1 σ h1) (lw_V q512 q514 qs30 q51 q515) 2 rfl ⟨rfl, rfl⟩ (by decide +kernel) hR rfl hs hd (k r h2)
abbrev rmX1_isSet : Room := { frames := 0, cells := 0, slots := 0, locals := 0 }
theorem w_md_isSet_b0 {E : dEnv} {l : Launch} {G : dGeo} (hE : mdOk E l G cX1_isSet 2 rmX1_isSet) (v1 : Int32) (σ : dS) {out} (h : md_isSet_b0 v1 σ = some out) (k : dR E cX1_isSet (some .boolean) out) : dG E σ 0 [v1] [] := by
  unfold md_isSet_b0 at h
  refine dg_aload0 hE dX1_isSet_0 ?_
  refine md_gf8 hE dX1_isSet_1 ?_
  refine dg_iload_n hE dX1_isSet_4 0 rfl rfl ?_
  refine md_ld8 hE dX1_isSet_5 h (fun h => ?_)
  refine dg_if_le hE dX1_isSet_6 (tgt := 26) (by decide) h (fun h => ?_) (fun h => ?_)
  · refine dg_iconst hE dX1_isSet_26 (v := (0 : Int32)) (by decide) ?_
    cases h
    exact k nz0 _ _ dX1_isSet_27
  · refine dg_aload0 hE dX1_isSet_9 ?_
    refine md_gf6 hE dX1_isSet_10 ?_
    refine dg_bipush hE dX1_isSet_13 (v := (40 : Int32)) (by decide) ?_
    refine dg_iload_n hE dX1_isSet_15 0 rfl rfl ?_
    refine dg_imul hE dX1_isSet_16 ?_
    refine md_ld6 hE dX1_isSet_17 h (fun h => ?_)
    refine dg_iconst hE dX1_isSet_18 (v := (4 : Int32)) (by decide) ?_
    refine dg_icmp_ge hE dX1_isSet_19 (tgt := 26) (by decide) h (fun h => ?_) (fun h => ?_)
    · refine dg_iconst hE dX1_isSet_26 (v := (0 : Int32)) (by decide) ?_
      cases h
      exact k nz0 _ _ dX1_isSet_27
    · refine dg_iconst hE dX1_isSet_22 (v := (1 : Int32)) (by decide) ?_
      refine dg_goto hE dX1_isSet_23 (tgt := 27) (by decide) ?_
      cases h
      exact k nz1 _ _ dX1_isSet_27
theorem met_md_isSet (l : Launch) (G : dGeo) (sz : Nat) (v1 : Int32) (σ : dS) {r : Int32 × dS} (h : md_isSet v1 σ = some r) : Met l yX1_isSet (ws_ yX1_isSet cX1_isSet 2 (some .boolean)) rmX1_isSet (dPc G.1 (md_ty G) (md_w G σ) sz [.ref G.2.1, .int v1]) (dQi G.1 (md_ty G) (md_w G σ) (md_w G r.2) sz r.1) 0 0 (va_A (md_w G σ) sz) := by
  refine dMet_i (w := md_w G) (σ := σ) (σ' := r.2) (th := [(0, .ref G.2.1)]) (b := 1) (xs := [v1]) (by decide) rfl rfl (Nat.le_of_ble_eq_true rfl) dth (fun E hE k => ?_)
  unfold md_isSet at h
  exact w_md_isSet_b0 hE v1 σ h k
theorem md_ca_isSet {E : dEnv} {l : Launch} {G : dGeo} {cc : ByteArray} {nL pc : Nat} {R : Room} {σ : dS} {xs : List Int32} {st : List Value} {τ : Type} {g : Int32 × dS → Option τ} {out : τ} {a0 : Int32} (hE : mdOk E l G cc nL R) (hR : 0 + 1 ≤ R.frames ∧ 8 + (2 + 11) + 0 ≤ R.locals) (hd : decode cc pc = .ok (.invokevirtual 170, 3)) (hs : (st.map fun v => v.category).sum ≤ 8) (h : Option.bind (md_isSet a0 σ) g = some out) (k : ∀ r, g r = some out → dG E r.2 (pc + 3) xs (.int r.1 :: st)) : dG E σ pc xs (.int a0 :: .ref G.2.1 :: st) := by
  obtain ⟨r, h1, h2⟩ := obind h
  exact dg_callVi hE (As := [.int a0]) (st := st) (C := RX1) (rm := rmX1_isSet) (md_recv G) (fun sz => met_md_isSet l G sz a0 σ h1) (lw_V q516 q518 qs31 q51 q519) 1 rfl ⟨rfl, rfl⟩ (by decide +kernel) hR rfl hs hd (k r h2)
abbrev rmX1_size : Room := { frames := 8, cells := 0, slots := 0, locals := 208 }
theorem w_md_size_b35 {E : dEnv} {l : Launch} {G : dGeo} (hE : mdOk E l G cX1_size 3 rmX1_size) (s0 : Int32) (σ : dS) {out} (h : md_size_b35 s0 σ = some out) (k : dR E cX1_size (some .int) out) : dG E σ 35 [] [.int s0] := by
  unfold md_size_b35 at h
  cases h
  exact k rfl _ _ dX1_size_35
theorem w_md_size_b25 {E : dEnv} {l : Launch} {G : dGeo} (hE : mdOk E l G cX1_size 3 rmX1_size) (σ : dS) {out} (h : md_size_b25 σ = some out) (k : dR E cX1_size (some .int) out) : dG E σ 25 [] [] := by
  unfold md_size_b25 at h
  refine dg_aload0 hE dX1_size_25 ?_
  refine dg_aload0 hE dX1_size_26 ?_
  refine md_gf13 hE dX1_size_27 ?_
  refine dg_iconst hE dX1_size_30 (v := (0 : Int32)) (by decide) ?_
  refine md_ld13 hE dX1_size_31 h (fun h => ?_)
  refine md_ca_counted hE (by decide) dX1_size_32 (Nat.le_of_ble_eq_true rfl) h (fun r_ h => ?_)
  exact w_md_size_b35 hE (r_.1) (r_.2) h k
theorem w_md_size_b14 {E : dEnv} {l : Launch} {G : dGeo} (hE : mdOk E l G cX1_size 3 rmX1_size) (v1 v2 s0 : Int32) (σ : dS) {out} (h : md_size_b14 v1 v2 s0 σ = some out) (k : dR E cX1_size (some .int) out) : dG E σ 14 [v1, v2] [.int s0] := by
  unfold md_size_b14 at h
  refine dg_if_ne hE dX1_size_14 (tgt := 19) (by decide) h (fun h => ?_) (fun h => ?_)
  · refine dg_aload0 hE dX1_size_19 ?_
    refine dg_iload_n hE dX1_size_20 0 rfl rfl ?_
    refine dg_iload_n hE dX1_size_21 1 rfl rfl ?_
    refine md_ca_ask hE (by decide) dX1_size_22 (Nat.le_of_ble_eq_true rfl) h (fun r_ h => ?_)
    refine dg_drop (xs' := []) (ys := [v1, v2]) rfl ?_
    exact w_md_size_b25 hE (r_.2) h k
  · refine dg_iconst hE dX1_size_17 (v := (-1 : Int32)) (by decide) ?_
    cases h
    exact k rfl _ _ dX1_size_18
theorem w_md_size_b6 {E : dEnv} {l : Launch} {G : dGeo} (hE : mdOk E l G cX1_size 3 rmX1_size) (v1 v2 s0 : Int32) (σ : dS) {out} (h : md_size_b6 v1 v2 s0 σ = some out) (k : dR E cX1_size (some .int) out) : dG E σ 6 [v1, v2] [.int s0] := by
  unfold md_size_b6 at h
  refine dg_if_eq hE dX1_size_6 (tgt := 17) (by decide) h (fun h => ?_) (fun h => ?_)
  · refine dg_iconst hE dX1_size_17 (v := (-1 : Int32)) (by decide) ?_
    cases h
    exact k rfl _ _ dX1_size_18
  · refine dg_aload0 hE dX1_size_9 ?_
    refine dg_iload_n hE dX1_size_10 0 rfl rfl ?_
    refine md_ca_isSet hE (by decide) dX1_size_11 (Nat.le_of_ble_eq_true rfl) h (fun r_ h => ?_)
    exact w_md_size_b14 hE v1 v2 (r_.1) (r_.2) h k
theorem w_md_size_b0 {E : dEnv} {l : Launch} {G : dGeo} (hE : mdOk E l G cX1_size 3 rmX1_size) (v1 v2 : Int32) (σ : dS) {out} (h : md_size_b0 v1 v2 σ = some out) (k : dR E cX1_size (some .int) out) : dG E σ 0 [v1, v2] [] := by
  unfold md_size_b0 at h
  refine dg_aload0 hE dX1_size_0 ?_
  refine dg_iload_n hE dX1_size_1 0 rfl rfl ?_
  refine dg_iload_n hE dX1_size_2 1 rfl rfl ?_
  refine md_ca_isExpression hE (by decide) dX1_size_3 (Nat.le_of_ble_eq_true rfl) h (fun r_ h => ?_)
  exact w_md_size_b6 hE v1 v2 (r_.1) (r_.2) h k
theorem met_md_size (l : Launch) (G : dGeo) (sz : Nat) (v1 v2 : Int32) (σ : dS) {r : Int32 × dS} (h : md_size v1 v2 σ = some r) : Met l yX1_size (ws_ yX1_size cX1_size 3 (some .int)) rmX1_size (dPc G.1 (md_ty G) (md_w G σ) sz [.ref G.2.1, .int v1, .int v2]) (dQi G.1 (md_ty G) (md_w G σ) (md_w G r.2) sz r.1) 0 0 (va_A (md_w G σ) sz) := by
  refine dMet_i (w := md_w G) (σ := σ) (σ' := r.2) (th := [(0, .ref G.2.1)]) (b := 1) (xs := [v1, v2]) (by decide) rfl rfl (Nat.le_of_ble_eq_true rfl) dth (fun E hE k => ?_)
  unfold md_size at h
  exact w_md_size_b0 hE v1 v2 σ h k
abbrev rmX1_at : Room := { frames := 8, cells := 0, slots := 0, locals := 208 }
theorem w_md_at_b83 {E : dEnv} {l : Launch} {G : dGeo} (hE : mdOk E l G cX1_at 6 rmX1_at) (v1 v2 v3 v4 v5 : Int32) (σ : dS) {out} (h : md_at_b83 v1 v2 v3 v4 v5 σ = some out) (k : dK E cX1_at (some .int) out) : dG E σ 83 [v1, v2, v3, v4, v5] [] := by
  unfold md_at_b83 at h
  refine dg_iinc hE dX1_at_83 4 (xs' := [v1, v2, v3, v4, (v5 + (1 : Int32))]) rfl rfl (by decide) rfl ?_
  refine dg_goto hE dX1_at_86 (tgt := 31) (by decide) ?_
  cases h
  exact k
theorem w_md_at_b31 {E : dEnv} {l : Launch} {G : dGeo} (hE : mdOk E l G cX1_at 6 rmX1_at) (v1 v2 v3 v4 v5 : Int32) (σ : dS) {out} (h : md_at_b31 v1 v2 v3 v4 v5 σ = some out) (k : dK E cX1_at (some .int) out) : dG E σ 31 [v1, v2, v3, v4, v5] [] := by
  unfold md_at_b31 at h
  refine dg_iload hE dX1_at_31 4 rfl rfl ?_
  refine dg_aload0 hE dX1_at_33 ?_
  refine md_gf5 hE dX1_at_34 ?_
  refine dg_icmp_ge hE dX1_at_37 (tgt := 89) (by decide) h (fun h => ?_) (fun h => ?_)
  · refine dg_iconst hE dX1_at_89 (v := (-1 : Int32)) (by decide) ?_
    cases h
    exact k rfl _ _ dX1_at_90
  · refine dg_iload hE dX1_at_40 3 rfl rfl ?_
    refine dg_if_lt hE dX1_at_42 (tgt := 89) (by decide) h (fun h => ?_) (fun h => ?_)
    · refine dg_iconst hE dX1_at_89 (v := (-1 : Int32)) (by decide) ?_
      cases h
      exact k rfl _ _ dX1_at_90
    · refine dg_aload0 hE dX1_at_45 ?_
      refine md_gf13 hE dX1_at_46 ?_
      refine dg_iconst hE dX1_at_49 (v := (0 : Int32)) (by decide) ?_
      refine md_ld13 hE dX1_at_50 h (fun h => ?_)
      refine dg_aload0 hE dX1_at_51 ?_
      refine md_gf0 hE dX1_at_52 ?_
      refine dg_iload hE dX1_at_55 4 rfl rfl ?_
      refine md_ld0 hE dX1_at_57 h (fun h => ?_)
      refine dg_ishr hE dX1_at_58 ?_
      refine dg_iconst hE dX1_at_59 (v := (1 : Int32)) (by decide) ?_
      refine dg_iand hE dX1_at_60 ?_
      refine dg_if_ne hE dX1_at_61 (tgt := 67) (by decide) h (fun h => ?_) (fun h => ?_)
      · refine dg_iload hE dX1_at_67 3 rfl rfl ?_
        refine dg_if_ne hE dX1_at_69 (tgt := 80) (by decide) h (fun h => ?_) (fun h => ?_)
        · refine dg_iinc hE dX1_at_80 3 (xs' := [v1, v2, v3, (v4 + (-1 : Int32)), v5]) rfl rfl (by decide) rfl ?_
          exact w_md_at_b83 hE v1 v2 v3 (v4 + (-1 : Int32)) v5 σ h k
        · refine dg_aload0 hE dX1_at_72 ?_
          refine md_gf0 hE dX1_at_73 ?_
          refine dg_iload hE dX1_at_76 4 rfl rfl ?_
          refine md_ld0 hE dX1_at_78 h (fun h => ?_)
          cases h
          exact k rfl _ _ dX1_at_79
      · refine dg_goto hE dX1_at_64 (tgt := 83) (by decide) ?_
        exact w_md_at_b83 hE v1 v2 v3 v4 v5 σ h k
theorem w_md_at_b25 {E : dEnv} {l : Launch} {G : dGeo} (hE : mdOk E l G cX1_at 6 rmX1_at) (v1 v2 v3 : Int32) (σ : dS) {out} (h : md_at_b25 v1 v2 v3 σ = some out) (k : dK E cX1_at (some .int) out) : dG E σ 25 [v1, v2, v3] [] := by
  unfold md_at_b25 at h
  refine dg_iload_n hE dX1_at_25 2 rfl rfl ?_
  refine dg_istore hE dX1_at_26 3 (xs' := [v1, v2, v3, v3]) rfl (Nat.le_of_ble_eq_true rfl) (by decide) rfl ?_
  refine dg_iconst hE dX1_at_28 (v := (0 : Int32)) (by decide) ?_
  refine dg_istore hE dX1_at_29 4 (xs' := [v1, v2, v3, v3, (0 : Int32)]) rfl (Nat.le_of_ble_eq_true rfl) (by decide) rfl ?_
  cases h
  exact k
theorem w_md_at_b14 {E : dEnv} {l : Launch} {G : dGeo} (hE : mdOk E l G cX1_at 6 rmX1_at) (v1 v2 v3 s0 : Int32) (σ : dS) {out} (h : md_at_b14 v1 v2 v3 s0 σ = some out) (k : dK E cX1_at (some .int) out) : dG E σ 14 [v1, v2, v3] [.int s0] := by
  unfold md_at_b14 at h
  refine dg_if_ne hE dX1_at_14 (tgt := 19) (by decide) h (fun h => ?_) (fun h => ?_)
  · refine dg_aload0 hE dX1_at_19 ?_
    refine dg_iload_n hE dX1_at_20 0 rfl rfl ?_
    refine dg_iload_n hE dX1_at_21 1 rfl rfl ?_
    refine md_ca_ask hE (by decide) dX1_at_22 (Nat.le_of_ble_eq_true rfl) h (fun r_ h => ?_)
    exact w_md_at_b25 hE v1 v2 v3 (r_.2) h k
  · refine dg_iconst hE dX1_at_17 (v := (-1 : Int32)) (by decide) ?_
    cases h
    exact k rfl _ _ dX1_at_18
theorem w_md_at_b6 {E : dEnv} {l : Launch} {G : dGeo} (hE : mdOk E l G cX1_at 6 rmX1_at) (v1 v2 v3 s0 : Int32) (σ : dS) {out} (h : md_at_b6 v1 v2 v3 s0 σ = some out) (k : dK E cX1_at (some .int) out) : dG E σ 6 [v1, v2, v3] [.int s0] := by
  unfold md_at_b6 at h
  refine dg_if_eq hE dX1_at_6 (tgt := 17) (by decide) h (fun h => ?_) (fun h => ?_)
  · refine dg_iconst hE dX1_at_17 (v := (-1 : Int32)) (by decide) ?_
    cases h
    exact k rfl _ _ dX1_at_18
  · refine dg_aload0 hE dX1_at_9 ?_
    refine dg_iload_n hE dX1_at_10 0 rfl rfl ?_
    refine md_ca_isSet hE (by decide) dX1_at_11 (Nat.le_of_ble_eq_true rfl) h (fun r_ h => ?_)
    exact w_md_at_b14 hE v1 v2 v3 (r_.1) (r_.2) h k
theorem w_md_at_b0 {E : dEnv} {l : Launch} {G : dGeo} (hE : mdOk E l G cX1_at 6 rmX1_at) (v1 v2 v3 : Int32) (σ : dS) {out} (h : md_at_b0 v1 v2 v3 σ = some out) (k : dK E cX1_at (some .int) out) : dG E σ 0 [v1, v2, v3] [] := by
  unfold md_at_b0 at h
  refine dg_aload0 hE dX1_at_0 ?_
  refine dg_iload_n hE dX1_at_1 0 rfl rfl ?_
  refine dg_iload_n hE dX1_at_2 1 rfl rfl ?_
  refine md_ca_isExpression hE (by decide) dX1_at_3 (Nat.le_of_ble_eq_true rfl) h (fun r_ h => ?_)
  exact w_md_at_b6 hE v1 v2 v3 (r_.1) (r_.2) h k
theorem w_md_at_st {E : dEnv} {l : Launch} {G : dGeo} (hE : mdOk E l G cX1_at 6 rmX1_at) (a : Nat × List Int32 × dS) {out} (h : md_at_st a = some out) (k : dK E cX1_at (some .int) out) : dG E a.2.2 a.1 a.2.1 [] := by
  obtain ⟨L, xs, σ⟩ := a
  unfold md_at_st at h
  dsimp only at h ⊢
  by_cases c_ : L = 31
  · subst c_
    rw [if_pos rfl] at h
    match xs, h with
    | [x0, x1, x2, x3, x4], h => exact w_md_at_b31 hE x0 x1 x2 x3 x4 σ h k
    | [], h => cases h
    | [_], h => cases h
    | [_, _], h => cases h
    | [_, _, _], h => cases h
    | [_, _, _, _], h => cases h
    | _ :: _ :: _ :: _ :: _ :: _ :: _, h => cases h
  rw [if_neg c_] at h
  cases h
theorem met_md_at (l : Launch) (G : dGeo) (sz : Nat) (v1 v2 v3 : Int32) (σ : dS) {r : Int32 × dS} (h : md_at v1 v2 v3 σ = some r) : Met l yX1_at (ws_ yX1_at cX1_at 6 (some .int)) rmX1_at (dPc G.1 (md_ty G) (md_w G σ) sz [.ref G.2.1, .int v1, .int v2, .int v3]) (dQi G.1 (md_ty G) (md_w G σ) (md_w G r.2) sz r.1) 0 0 (va_A (md_w G σ) sz) := by
  refine dMet_i (w := md_w G) (σ := σ) (σ' := r.2) (th := [(0, .ref G.2.1)]) (b := 1) (xs := [v1, v2, v3]) (by decide) rfl rfl (Nat.le_of_ble_eq_true rfl) dth (fun E hE k => ?_)
  unfold md_at at h
  obtain ⟨out, h1, h2⟩ := lpB_some h
  exact w_md_at_b0 hE v1 v2 v3 σ h1 (dK_lp (fun a out => w_md_at_st hE a) h2 k)
abbrev rmX1_number : Room := { frames := 8, cells := 0, slots := 0, locals := 208 }
theorem w_md_number_b22 {E : dEnv} {l : Launch} {G : dGeo} (hE : mdOk E l G cX1_number 3 rmX1_number) (s0 : Int32) (σ : dS) {out} (h : md_number_b22 s0 σ = some out) (k : dR E cX1_number (some .int) out) : dG E σ 22 [] [.int s0] := by
  unfold md_number_b22 at h
  cases h
  exact k rfl _ _ dX1_number_22
theorem w_md_number_b17 {E : dEnv} {l : Launch} {G : dGeo} (hE : mdOk E l G cX1_number 3 rmX1_number) (σ : dS) {out} (h : md_number_b17 σ = some out) (k : dR E cX1_number (some .int) out) : dG E σ 17 [] [] := by
  unfold md_number_b17 at h
  refine dg_aload0 hE dX1_number_17 ?_
  refine dg_iconst hE dX1_number_18 (v := (0 : Int32)) (by decide) ?_
  refine md_ca_plain hE (by decide) dX1_number_19 (Nat.le_of_ble_eq_true rfl) h (fun r_ h => ?_)
  exact w_md_number_b22 hE (r_.1) (r_.2) h k
theorem w_md_number_b6 {E : dEnv} {l : Launch} {G : dGeo} (hE : mdOk E l G cX1_number 3 rmX1_number) (v1 v2 s0 : Int32) (σ : dS) {out} (h : md_number_b6 v1 v2 s0 σ = some out) (k : dR E cX1_number (some .int) out) : dG E σ 6 [v1, v2] [.int s0] := by
  unfold md_number_b6 at h
  refine dg_if_ne hE dX1_number_6 (tgt := 11) (by decide) h (fun h => ?_) (fun h => ?_)
  · refine dg_aload0 hE dX1_number_11 ?_
    refine dg_iload_n hE dX1_number_12 0 rfl rfl ?_
    refine dg_iload_n hE dX1_number_13 1 rfl rfl ?_
    refine md_ca_ask hE (by decide) dX1_number_14 (Nat.le_of_ble_eq_true rfl) h (fun r_ h => ?_)
    refine dg_drop (xs' := []) (ys := [v1, v2]) rfl ?_
    exact w_md_number_b17 hE (r_.2) h k
  · refine dg_iconst hE dX1_number_9 (v := (0 : Int32)) (by decide) ?_
    cases h
    exact k rfl _ _ dX1_number_10
theorem w_md_number_b0 {E : dEnv} {l : Launch} {G : dGeo} (hE : mdOk E l G cX1_number 3 rmX1_number) (v1 v2 : Int32) (σ : dS) {out} (h : md_number_b0 v1 v2 σ = some out) (k : dR E cX1_number (some .int) out) : dG E σ 0 [v1, v2] [] := by
  unfold md_number_b0 at h
  refine dg_aload0 hE dX1_number_0 ?_
  refine dg_iload_n hE dX1_number_1 0 rfl rfl ?_
  refine dg_iload_n hE dX1_number_2 1 rfl rfl ?_
  refine md_ca_isExpression hE (by decide) dX1_number_3 (Nat.le_of_ble_eq_true rfl) h (fun r_ h => ?_)
  exact w_md_number_b6 hE v1 v2 (r_.1) (r_.2) h k
theorem met_md_number (l : Launch) (G : dGeo) (sz : Nat) (v1 v2 : Int32) (σ : dS) {r : Int32 × dS} (h : md_number v1 v2 σ = some r) : Met l yX1_number (ws_ yX1_number cX1_number 3 (some .int)) rmX1_number (dPc G.1 (md_ty G) (md_w G σ) sz [.ref G.2.1, .int v1, .int v2]) (dQi G.1 (md_ty G) (md_w G σ) (md_w G r.2) sz r.1) 0 0 (va_A (md_w G σ) sz) := by
  refine dMet_i (w := md_w G) (σ := σ) (σ' := r.2) (th := [(0, .ref G.2.1)]) (b := 1) (xs := [v1, v2]) (by decide) rfl rfl (Nat.le_of_ble_eq_true rfl) dth (fun E hE k => ?_)
  unfold md_number at h
  exact w_md_number_b0 hE v1 v2 σ h k
abbrev rmX1_holds : Room := { frames := 8, cells := 0, slots := 0, locals := 208 }
theorem w_md_holds_b22 {E : dEnv} {l : Launch} {G : dGeo} (hE : mdOk E l G cX1_holds 3 rmX1_holds) (s0 : Int32) (σ : dS) {out} (h : md_holds_b22 s0 σ = some out) (k : dR E cX1_holds (some .boolean) out) : dG E σ 22 [] [.int s0] := by
  unfold md_holds_b22 at h
  obtain ⟨hz, h⟩ := zok_some h
  cases h
  exact k hz _ _ dX1_holds_22
theorem w_md_holds_b17 {E : dEnv} {l : Launch} {G : dGeo} (hE : mdOk E l G cX1_holds 3 rmX1_holds) (σ : dS) {out} (h : md_holds_b17 σ = some out) (k : dR E cX1_holds (some .boolean) out) : dG E σ 17 [] [] := by
  unfold md_holds_b17 at h
  refine dg_aload0 hE dX1_holds_17 ?_
  refine dg_iconst hE dX1_holds_18 (v := (0 : Int32)) (by decide) ?_
  refine md_ca_isTrue hE (by decide) dX1_holds_19 (Nat.le_of_ble_eq_true rfl) h (fun r_ h => ?_)
  exact w_md_holds_b22 hE (r_.1) (r_.2) h k
theorem w_md_holds_b6 {E : dEnv} {l : Launch} {G : dGeo} (hE : mdOk E l G cX1_holds 3 rmX1_holds) (v1 v2 s0 : Int32) (σ : dS) {out} (h : md_holds_b6 v1 v2 s0 σ = some out) (k : dR E cX1_holds (some .boolean) out) : dG E σ 6 [v1, v2] [.int s0] := by
  unfold md_holds_b6 at h
  refine dg_if_ne hE dX1_holds_6 (tgt := 11) (by decide) h (fun h => ?_) (fun h => ?_)
  · refine dg_aload0 hE dX1_holds_11 ?_
    refine dg_iload_n hE dX1_holds_12 0 rfl rfl ?_
    refine dg_iload_n hE dX1_holds_13 1 rfl rfl ?_
    refine md_ca_ask hE (by decide) dX1_holds_14 (Nat.le_of_ble_eq_true rfl) h (fun r_ h => ?_)
    refine dg_drop (xs' := []) (ys := [v1, v2]) rfl ?_
    exact w_md_holds_b17 hE (r_.2) h k
  · refine dg_iconst hE dX1_holds_9 (v := (0 : Int32)) (by decide) ?_
    cases h
    exact k nz0 _ _ dX1_holds_10
theorem w_md_holds_b0 {E : dEnv} {l : Launch} {G : dGeo} (hE : mdOk E l G cX1_holds 3 rmX1_holds) (v1 v2 : Int32) (σ : dS) {out} (h : md_holds_b0 v1 v2 σ = some out) (k : dR E cX1_holds (some .boolean) out) : dG E σ 0 [v1, v2] [] := by
  unfold md_holds_b0 at h
  refine dg_aload0 hE dX1_holds_0 ?_
  refine dg_iload_n hE dX1_holds_1 0 rfl rfl ?_
  refine dg_iload_n hE dX1_holds_2 1 rfl rfl ?_
  refine md_ca_isExpression hE (by decide) dX1_holds_3 (Nat.le_of_ble_eq_true rfl) h (fun r_ h => ?_)
  exact w_md_holds_b6 hE v1 v2 (r_.1) (r_.2) h k
theorem met_md_holds (l : Launch) (G : dGeo) (sz : Nat) (v1 v2 : Int32) (σ : dS) {r : Int32 × dS} (h : md_holds v1 v2 σ = some r) : Met l yX1_holds (ws_ yX1_holds cX1_holds 3 (some .boolean)) rmX1_holds (dPc G.1 (md_ty G) (md_w G σ) sz [.ref G.2.1, .int v1, .int v2]) (dQi G.1 (md_ty G) (md_w G σ) (md_w G r.2) sz r.1) 0 0 (va_A (md_w G σ) sz) := by
  refine dMet_i (w := md_w G) (σ := σ) (σ' := r.2) (th := [(0, .ref G.2.1)]) (b := 1) (xs := [v1, v2]) (by decide) rfl rfl (Nat.le_of_ble_eq_true rfl) dth (fun E hE k => ?_)
  unfold md_holds at h
  exact w_md_holds_b0 hE v1 v2 σ h k
