set_option maxRecDepth 100000
abbrev rmX0_move : Room := { frames := 1, cells := 0, slots := 0, locals := 26 }
theorem w_dk_move_b97 {E : dEnv} {l : Launch} {G : dGeo} (hE : dkOk E l G cX0_move 5 rmX0_move) (σ : dS) {out} (h : dk_move_b97 σ = some out) (k : dK E cX0_move (some .boolean) out) : dG E σ 97 [] [] := by
  unfold dk_move_b97 at h
  refine dg_iconst hE dX0_move_97 (v := (1 : Int32)) (by decide) ?_
  cases h
  exact k nz1 _ _ dX0_move_98
theorem w_dk_move_b93 {E : dEnv} {l : Launch} {G : dGeo} (hE : dkOk E l G cX0_move 5 rmX0_move) (σ : dS) {out} (h : dk_move_b93 σ = some out) (k : dK E cX0_move (some .boolean) out) : dG E σ 93 [] [] := by
  unfold dk_move_b93 at h
  refine dg_aload0 hE dX0_move_93 ?_
  refine dk_ca_changed hE (by decide) dX0_move_94 (Nat.le_of_ble_eq_true rfl) h (fun r_ h => ?_)
  exact w_dk_move_b97 hE (r_.2) h k
theorem w_dk_move_b86 {E : dEnv} {l : Launch} {G : dGeo} (hE : dkOk E l G cX0_move 5 rmX0_move) (v1 v2 v3 : Int32) (σ : dS) {out} (h : dk_move_b86 v1 v2 v3 σ = some out) (k : dK E cX0_move (some .boolean) out) : dG E σ 86 [v1, v2, v3] [] := by
  unfold dk_move_b86 at h
  refine dg_aload0 hE dX0_move_86 ?_
  refine dg_iload_n hE dX0_move_87 0 rfl rfl ?_
  refine dg_iload_n hE dX0_move_88 1 rfl rfl ?_
  refine dg_iload_n hE dX0_move_89 2 rfl rfl ?_
  refine dk_ca_link hE (by decide) dX0_move_90 (Nat.le_of_ble_eq_true rfl) h (fun r_ h => ?_)
  refine dg_drop (xs' := []) (ys := [v1, v2, v3]) rfl ?_
  exact w_dk_move_b93 hE (r_.2) h k
theorem w_dk_move_b69 {E : dEnv} {l : Launch} {G : dGeo} (hE : dkOk E l G cX0_move 5 rmX0_move) (v1 v2 v3 v4 : Int32) (σ : dS) {out} (h : dk_move_b69 v1 v2 v3 v4 σ = some out) (k : dK E cX0_move (some .boolean) out) : dG E σ 69 [v1, v2, v3, v4] [] := by
  unfold dk_move_b69 at h
  refine dg_iload_n hE dX0_move_69 2 rfl rfl ?_
  refine dg_if_lt hE dX0_move_70 (tgt := 79) (by decide) h (fun h => ?_) (fun h => ?_)
  · refine dg_iconst hE dX0_move_79 (v := (0 : Int32)) (by decide) ?_
    cases h
    exact k nz0 _ _ dX0_move_80
  · refine dg_iload_n hE dX0_move_73 2 rfl rfl ?_
    refine dg_iload hE dX0_move_74 3 rfl rfl ?_
    refine dg_icmp_le hE dX0_move_76 (tgt := 81) (by decide) h (fun h => ?_) (fun h => ?_)
    · refine dg_aload0 hE dX0_move_81 ?_
      refine dg_iload_n hE dX0_move_82 0 rfl rfl ?_
      refine dk_ca_unlink hE (by decide) dX0_move_83 (Nat.le_of_ble_eq_true rfl) h (fun r_ h => ?_)
      refine dg_drop (xs' := [v1, v2, v3]) (ys := [v4]) rfl ?_
      exact w_dk_move_b86 hE v1 v2 v3 (r_.2) h k
    · refine dg_iconst hE dX0_move_79 (v := (0 : Int32)) (by decide) ?_
      cases h
      exact k nz0 _ _ dX0_move_80
theorem w_dk_move_b66 {E : dEnv} {l : Launch} {G : dGeo} (hE : dkOk E l G cX0_move 5 rmX0_move) (v1 v2 v3 s0 s1 : Int32) (σ : dS) {out} (h : dk_move_b66 v1 v2 v3 s0 s1 σ = some out) (k : dK E cX0_move (some .boolean) out) : dG E σ 66 [v1, v2, v3] [.int s0, .int s1] := by
  unfold dk_move_b66 at h
  refine dg_isub hE dX0_move_66 ?_
  refine dg_istore hE dX0_move_67 3 (xs' := [v1, v2, v3, (s1 - s0)]) rfl (Nat.le_of_ble_eq_true rfl) (by decide) rfl ?_
  exact w_dk_move_b69 hE v1 v2 v3 (s1 - s0) σ h k
theorem w_dk_move_b51 {E : dEnv} {l : Launch} {G : dGeo} (hE : dkOk E l G cX0_move 5 rmX0_move) (v1 v2 v3 s0 : Int32) (σ : dS) {out} (h : dk_move_b51 v1 v2 v3 s0 σ = some out) (k : dK E cX0_move (some .boolean) out) : dG E σ 51 [v1, v2, v3] [.int s0] := by
  unfold dk_move_b51 at h
  refine dg_aload0 hE dX0_move_51 ?_
  refine dk_gf2 hE dX0_move_52 ?_
  refine dg_iload_n hE dX0_move_55 0 rfl rfl ?_
  refine dk_ld2 hE dX0_move_56 h (fun h => ?_)
  refine dg_iload_n hE dX0_move_57 1 rfl rfl ?_
  refine dg_icmp_ne hE dX0_move_58 (tgt := 65) (by decide) h (fun h => ?_) (fun h => ?_)
  · refine dg_iconst hE dX0_move_65 (v := (0 : Int32)) (by decide) ?_
    exact w_dk_move_b66 hE v1 v2 v3 (0 : Int32) s0 σ h k
  · refine dg_iconst hE dX0_move_61 (v := (1 : Int32)) (by decide) ?_
    refine dg_goto hE dX0_move_62 (tgt := 66) (by decide) ?_
    exact w_dk_move_b66 hE v1 v2 v3 (1 : Int32) s0 σ h k
theorem w_dk_move_b21 {E : dEnv} {l : Launch} {G : dGeo} (hE : dkOk E l G cX0_move 5 rmX0_move) (v1 v2 v3 v4 : Int32) (σ : dS) {out} (h : dk_move_b21 v1 v2 v3 v4 σ = some out) (k : dK E cX0_move (some .boolean) out) : dG E σ 21 [v1, v2, v3, v4] [] := by
  unfold dk_move_b21 at h
  refine dg_iload hE dX0_move_21 3 rfl rfl ?_
  refine dg_if_lt hE dX0_move_23 (tgt := 46) (by decide) h (fun h => ?_) (fun h => ?_)
  · refine dg_aload0 hE dX0_move_46 ?_
    refine dg_iload_n hE dX0_move_47 1 rfl rfl ?_
    refine dk_ca_many hE (by decide) dX0_move_48 (Nat.le_of_ble_eq_true rfl) h (fun r_ h => ?_)
    refine dg_drop (xs' := [v1, v2, v3]) (ys := [v4]) rfl ?_
    exact w_dk_move_b51 hE v1 v2 v3 (r_.1) (r_.2) h k
  · refine dg_iload hE dX0_move_26 3 rfl rfl ?_
    refine dg_iload_n hE dX0_move_28 0 rfl rfl ?_
    refine dg_icmp_ne hE dX0_move_29 (tgt := 34) (by decide) h (fun h => ?_) (fun h => ?_)
    · refine dg_aload0 hE dX0_move_34 ?_
      refine dk_gf2 hE dX0_move_35 ?_
      refine dg_iload hE dX0_move_38 3 rfl rfl ?_
      refine dk_ld2 hE dX0_move_40 h (fun h => ?_)
      refine dg_istore hE dX0_move_41 3 (xs' := [v1, v2, v3, (σ 2 v4.toNatClampNeg)]) rfl (Nat.le_of_ble_eq_true rfl) (by decide) rfl ?_
      refine dg_goto hE dX0_move_43 (tgt := 21) (by decide) ?_
      cases h
      exact k
    · refine dg_iconst hE dX0_move_32 (v := (0 : Int32)) (by decide) ?_
      cases h
      exact k nz0 _ _ dX0_move_33
theorem w_dk_move_b13 {E : dEnv} {l : Launch} {G : dGeo} (hE : dkOk E l G cX0_move 5 rmX0_move) (v1 v2 v3 s0 : Int32) (σ : dS) {out} (h : dk_move_b13 v1 v2 v3 s0 σ = some out) (k : dK E cX0_move (some .boolean) out) : dG E σ 13 [v1, v2, v3] [.int s0] := by
  unfold dk_move_b13 at h
  refine dg_if_ne hE dX0_move_13 (tgt := 18) (by decide) h (fun h => ?_) (fun h => ?_)
  · refine dg_iload_n hE dX0_move_18 1 rfl rfl ?_
    refine dg_istore hE dX0_move_19 3 (xs' := [v1, v2, v3, v2]) rfl (Nat.le_of_ble_eq_true rfl) (by decide) rfl ?_
    cases h
    exact k
  · refine dg_iconst hE dX0_move_16 (v := (0 : Int32)) (by decide) ?_
    cases h
    exact k nz0 _ _ dX0_move_17
theorem w_dk_move_b5 {E : dEnv} {l : Launch} {G : dGeo} (hE : dkOk E l G cX0_move 5 rmX0_move) (v1 v2 v3 s0 : Int32) (σ : dS) {out} (h : dk_move_b5 v1 v2 v3 s0 σ = some out) (k : dK E cX0_move (some .boolean) out) : dG E σ 5 [v1, v2, v3] [.int s0] := by
  unfold dk_move_b5 at h
  refine dg_if_eq hE dX0_move_5 (tgt := 16) (by decide) h (fun h => ?_) (fun h => ?_)
  · refine dg_iconst hE dX0_move_16 (v := (0 : Int32)) (by decide) ?_
    cases h
    exact k nz0 _ _ dX0_move_17
  · refine dg_aload0 hE dX0_move_8 ?_
    refine dg_iload_n hE dX0_move_9 1 rfl rfl ?_
    refine dk_ca_isNode hE (by decide) dX0_move_10 (Nat.le_of_ble_eq_true rfl) h (fun r_ h => ?_)
    exact w_dk_move_b13 hE v1 v2 v3 (r_.1) (r_.2) h k
theorem w_dk_move_b0 {E : dEnv} {l : Launch} {G : dGeo} (hE : dkOk E l G cX0_move 5 rmX0_move) (v1 v2 v3 : Int32) (σ : dS) {out} (h : dk_move_b0 v1 v2 v3 σ = some out) (k : dK E cX0_move (some .boolean) out) : dG E σ 0 [v1, v2, v3] [] := by
  unfold dk_move_b0 at h
  refine dg_aload0 hE dX0_move_0 ?_
  refine dg_iload_n hE dX0_move_1 0 rfl rfl ?_
  refine dk_ca_isNode hE (by decide) dX0_move_2 (Nat.le_of_ble_eq_true rfl) h (fun r_ h => ?_)
  exact w_dk_move_b5 hE v1 v2 v3 (r_.1) (r_.2) h k
theorem w_dk_move_st {E : dEnv} {l : Launch} {G : dGeo} (hE : dkOk E l G cX0_move 5 rmX0_move) (a : Nat × List Int32 × dS) {out} (h : dk_move_st a = some out) (k : dK E cX0_move (some .boolean) out) : dG E a.2.2 a.1 a.2.1 [] := by
  obtain ⟨L, xs, σ⟩ := a
  unfold dk_move_st at h
  dsimp only at h ⊢
  by_cases c_ : L = 21
  · subst c_
    rw [if_pos rfl] at h
    match xs, h with
    | [x0, x1, x2, x3], h => exact w_dk_move_b21 hE x0 x1 x2 x3 σ h k
    | [], h => cases h
    | [_], h => cases h
    | [_, _], h => cases h
    | [_, _, _], h => cases h
    | _ :: _ :: _ :: _ :: _ :: _, h => cases h
  rw [if_neg c_] at h
  cases h
theorem met_dk_move (l : Launch) (G : dGeo) (sz : Nat) (v1 v2 v3 : Int32) (σ : dS) {r : Int32 × dS} (h : dk_move v1 v2 v3 σ = some r) : Met l yX0_move (ws_ yX0_move cX0_move 5 (some .boolean)) rmX0_move (dPc G.1 (dk_ty G) (dk_w G σ) sz [.ref G.2.1, .int v1, .int v2, .int v3]) (dQi G.1 (dk_ty G) (dk_w G σ) (dk_w G r.2) sz r.1) 0 0 (va_A (dk_w G σ) sz) := by
  refine dMet_i (w := dk_w G) (σ := σ) (σ' := r.2) (th := [(0, .ref G.2.1)]) (b := 1) (xs := [v1, v2, v3]) (by decide) rfl rfl (Nat.le_of_ble_eq_true rfl) dth (fun E hE k => ?_)
  unfold dk_move at h
  obtain ⟨out, h1, h2⟩ := lpB_some h
  exact w_dk_move_b0 hE v1 v2 v3 σ h1 (dK_lp (fun a out => w_dk_move_st hE a) h2 k)
abbrev rmX0_change : Room := { frames := 1, cells := 0, slots := 0, locals := 21 }
theorem w_dk_change_b36 {E : dEnv} {l : Launch} {G : dGeo} (hE : dkOk E l G cX0_change 4 rmX0_change) (σ : dS) {out} (h : dk_change_b36 σ = some out) (k : dR E cX0_change (some .boolean) out) : dG E σ 36 [] [] := by
  unfold dk_change_b36 at h
  refine dg_iconst hE dX0_change_36 (v := (1 : Int32)) (by decide) ?_
  cases h
  exact k nz1 _ _ dX0_change_37
theorem w_dk_change_b32 {E : dEnv} {l : Launch} {G : dGeo} (hE : dkOk E l G cX0_change 4 rmX0_change) (σ : dS) {out} (h : dk_change_b32 σ = some out) (k : dR E cX0_change (some .boolean) out) : dG E σ 32 [] [] := by
  unfold dk_change_b32 at h
  refine dg_aload0 hE dX0_change_32 ?_
  refine dk_ca_changed hE (by decide) dX0_change_33 (Nat.le_of_ble_eq_true rfl) h (fun r_ h => ?_)
  exact w_dk_change_b36 hE (r_.2) h k
theorem w_dk_change_b25 {E : dEnv} {l : Launch} {G : dGeo} (hE : dkOk E l G cX0_change 4 rmX0_change) (v1 v2 v3 : Int32) (σ : dS) {out} (h : dk_change_b25 v1 v2 v3 σ = some out) (k : dR E cX0_change (some .boolean) out) : dG E σ 25 [v1, v2, v3] [] := by
  unfold dk_change_b25 at h
  refine dg_aload0 hE dX0_change_25 ?_
  refine dk_gf1 hE dX0_change_26 ?_
  refine dg_iload_n hE dX0_change_29 0 rfl rfl ?_
  refine dg_iload_n hE dX0_change_30 2 rfl rfl ?_
  refine dk_as1 hE dX0_change_31 h (fun h => ?_)
  refine dg_drop (xs' := []) (ys := [v1, v2, v3]) rfl ?_
  exact w_dk_change_b32 hE (up2 σ 1 v1.toNatClampNeg v3) h k
theorem w_dk_change_b12 {E : dEnv} {l : Launch} {G : dGeo} (hE : dkOk E l G cX0_change 4 rmX0_change) (v1 v2 v3 s0 : Int32) (σ : dS) {out} (h : dk_change_b12 v1 v2 v3 s0 σ = some out) (k : dR E cX0_change (some .boolean) out) : dG E σ 12 [v1, v2, v3] [.int s0] := by
  unfold dk_change_b12 at h
  refine dg_if_ne hE dX0_change_12 (tgt := 17) (by decide) h (fun h => ?_) (fun h => ?_)
  · refine dg_aload0 hE dX0_change_17 ?_
    refine dk_gf0 hE dX0_change_18 ?_
    refine dg_iload_n hE dX0_change_21 0 rfl rfl ?_
    refine dg_iload_n hE dX0_change_22 1 rfl rfl ?_
    refine dg_i2b hE dX0_change_23 ?_
    refine dk_as0 hE dX0_change_24 h (fun h => ?_)
    exact w_dk_change_b25 hE v1 v2 v3 (up2 σ 0 v1.toNatClampNeg (vp_nar .byte (v2.toInt8.toInt32))) h k
  · refine dg_iconst hE dX0_change_15 (v := (0 : Int32)) (by decide) ?_
    cases h
    exact k nz0 _ _ dX0_change_16
theorem w_dk_change_b5 {E : dEnv} {l : Launch} {G : dGeo} (hE : dkOk E l G cX0_change 4 rmX0_change) (v1 v2 v3 s0 : Int32) (σ : dS) {out} (h : dk_change_b5 v1 v2 v3 s0 σ = some out) (k : dR E cX0_change (some .boolean) out) : dG E σ 5 [v1, v2, v3] [.int s0] := by
  unfold dk_change_b5 at h
  refine dg_if_eq hE dX0_change_5 (tgt := 15) (by decide) h (fun h => ?_) (fun h => ?_)
  · refine dg_iconst hE dX0_change_15 (v := (0 : Int32)) (by decide) ?_
    cases h
    exact k nz0 _ _ dX0_change_16
  · refine dg_iload_n hE dX0_change_8 1 rfl rfl ?_
    refine dk_ca_isName hE (by decide) dX0_change_9 (Nat.le_of_ble_eq_true rfl) h (fun r_ h => ?_)
    exact w_dk_change_b12 hE v1 v2 v3 r_ σ h k
theorem w_dk_change_b0 {E : dEnv} {l : Launch} {G : dGeo} (hE : dkOk E l G cX0_change 4 rmX0_change) (v1 v2 v3 : Int32) (σ : dS) {out} (h : dk_change_b0 v1 v2 v3 σ = some out) (k : dR E cX0_change (some .boolean) out) : dG E σ 0 [v1, v2, v3] [] := by
  unfold dk_change_b0 at h
  refine dg_aload0 hE dX0_change_0 ?_
  refine dg_iload_n hE dX0_change_1 0 rfl rfl ?_
  refine dk_ca_isNode hE (by decide) dX0_change_2 (Nat.le_of_ble_eq_true rfl) h (fun r_ h => ?_)
  exact w_dk_change_b5 hE v1 v2 v3 (r_.1) (r_.2) h k
theorem met_dk_change (l : Launch) (G : dGeo) (sz : Nat) (v1 v2 v3 : Int32) (σ : dS) {r : Int32 × dS} (h : dk_change v1 v2 v3 σ = some r) : Met l yX0_change (ws_ yX0_change cX0_change 4 (some .boolean)) rmX0_change (dPc G.1 (dk_ty G) (dk_w G σ) sz [.ref G.2.1, .int v1, .int v2, .int v3]) (dQi G.1 (dk_ty G) (dk_w G σ) (dk_w G r.2) sz r.1) 0 0 (va_A (dk_w G σ) sz) := by
  refine dMet_i (w := dk_w G) (σ := σ) (σ' := r.2) (th := [(0, .ref G.2.1)]) (b := 1) (xs := [v1, v2, v3]) (by decide) rfl rfl (Nat.le_of_ble_eq_true rfl) dth (fun E hE k => ?_)
  unfold dk_change at h
  exact w_dk_change_b0 hE v1 v2 v3 σ h k
abbrev rmX0_child : Room := { frames := 1, cells := 0, slots := 0, locals := 21 }
theorem w_dk_child_b47 {E : dEnv} {l : Launch} {G : dGeo} (hE : dkOk E l G cX0_child 5 rmX0_child) (v1 v2 v3 : Int32) (σ : dS) {out} (h : dk_child_b47 v1 v2 v3 σ = some out) (k : dK E cX0_child (some .int) out) : dG E σ 47 [v1, v2, v3] [] := by
  unfold dk_child_b47 at h
  refine dg_iload_n hE dX0_child_47 2 rfl rfl ?_
  cases h
  exact k rfl _ _ dX0_child_48
theorem w_dk_child_b24 {E : dEnv} {l : Launch} {G : dGeo} (hE : dkOk E l G cX0_child 5 rmX0_child) (v1 v2 v3 v4 : Int32) (σ : dS) {out} (h : dk_child_b24 v1 v2 v3 v4 σ = some out) (k : dK E cX0_child (some .int) out) : dG E σ 24 [v1, v2, v3, v4] [] := by
  unfold dk_child_b24 at h
  refine dg_iload hE dX0_child_24 3 rfl rfl ?_
  refine dg_iload_n hE dX0_child_26 1 rfl rfl ?_
  refine dg_icmp_ge hE dX0_child_27 (tgt := 47) (by decide) h (fun h => ?_) (fun h => ?_)
  · refine dg_drop (xs' := [v1, v2, v3]) (ys := [v4]) rfl ?_
    exact w_dk_child_b47 hE v1 v2 v3 σ h k
  · refine dg_iload_n hE dX0_child_30 2 rfl rfl ?_
    refine dg_if_lt hE dX0_child_31 (tgt := 47) (by decide) h (fun h => ?_) (fun h => ?_)
    · refine dg_drop (xs' := [v1, v2, v3]) (ys := [v4]) rfl ?_
      exact w_dk_child_b47 hE v1 v2 v3 σ h k
    · refine dg_aload0 hE dX0_child_34 ?_
      refine dk_gf4 hE dX0_child_35 ?_
      refine dg_iload_n hE dX0_child_38 2 rfl rfl ?_
      refine dk_ld4 hE dX0_child_39 h (fun h => ?_)
      refine dg_istore_n hE dX0_child_40 2 (xs' := [v1, v2, (σ 4 v3.toNatClampNeg), v4]) rfl (Nat.le_of_ble_eq_true rfl) (by decide) rfl ?_
      refine dg_iinc hE dX0_child_41 3 (xs' := [v1, v2, (σ 4 v3.toNatClampNeg), (v4 + (1 : Int32))]) rfl rfl (by decide) rfl ?_
      refine dg_goto hE dX0_child_44 (tgt := 24) (by decide) ?_
      cases h
      exact k
theorem w_dk_child_b21 {E : dEnv} {l : Launch} {G : dGeo} (hE : dkOk E l G cX0_child 5 rmX0_child) (v1 v2 v3 : Int32) (σ : dS) {out} (h : dk_child_b21 v1 v2 v3 σ = some out) (k : dK E cX0_child (some .int) out) : dG E σ 21 [v1, v2, v3] [] := by
  unfold dk_child_b21 at h
  refine dg_iconst hE dX0_child_21 (v := (0 : Int32)) (by decide) ?_
  refine dg_istore hE dX0_child_22 3 (xs' := [v1, v2, v3, (0 : Int32)]) rfl (Nat.le_of_ble_eq_true rfl) (by decide) rfl ?_
  cases h
  exact k
theorem w_dk_child_b5 {E : dEnv} {l : Launch} {G : dGeo} (hE : dkOk E l G cX0_child 5 rmX0_child) (v1 v2 s0 : Int32) (σ : dS) {out} (h : dk_child_b5 v1 v2 s0 σ = some out) (k : dK E cX0_child (some .int) out) : dG E σ 5 [v1, v2] [.int s0] := by
  unfold dk_child_b5 at h
  refine dg_if_eq hE dX0_child_5 (tgt := 12) (by decide) h (fun h => ?_) (fun h => ?_)
  · refine dg_iconst hE dX0_child_12 (v := (-1 : Int32)) (by decide) ?_
    cases h
    exact k rfl _ _ dX0_child_13
  · refine dg_iload_n hE dX0_child_8 1 rfl rfl ?_
    refine dg_if_ge hE dX0_child_9 (tgt := 14) (by decide) h (fun h => ?_) (fun h => ?_)
    · refine dg_aload0 hE dX0_child_14 ?_
      refine dk_gf3 hE dX0_child_15 ?_
      refine dg_iload_n hE dX0_child_18 0 rfl rfl ?_
      refine dk_ld3 hE dX0_child_19 h (fun h => ?_)
      refine dg_istore_n hE dX0_child_20 2 (xs' := [v1, v2, (σ 3 v1.toNatClampNeg)]) rfl (Nat.le_of_ble_eq_true rfl) (by decide) rfl ?_
      exact w_dk_child_b21 hE v1 v2 (σ 3 v1.toNatClampNeg) σ h k
    · refine dg_iconst hE dX0_child_12 (v := (-1 : Int32)) (by decide) ?_
      cases h
      exact k rfl _ _ dX0_child_13
theorem w_dk_child_b0 {E : dEnv} {l : Launch} {G : dGeo} (hE : dkOk E l G cX0_child 5 rmX0_child) (v1 v2 : Int32) (σ : dS) {out} (h : dk_child_b0 v1 v2 σ = some out) (k : dK E cX0_child (some .int) out) : dG E σ 0 [v1, v2] [] := by
  unfold dk_child_b0 at h
  refine dg_aload0 hE dX0_child_0 ?_
  refine dg_iload_n hE dX0_child_1 0 rfl rfl ?_
  refine dk_ca_isNode hE (by decide) dX0_child_2 (Nat.le_of_ble_eq_true rfl) h (fun r_ h => ?_)
  exact w_dk_child_b5 hE v1 v2 (r_.1) (r_.2) h k
theorem w_dk_child_st {E : dEnv} {l : Launch} {G : dGeo} (hE : dkOk E l G cX0_child 5 rmX0_child) (a : Nat × List Int32 × dS) {out} (h : dk_child_st a = some out) (k : dK E cX0_child (some .int) out) : dG E a.2.2 a.1 a.2.1 [] := by
  obtain ⟨L, xs, σ⟩ := a
  unfold dk_child_st at h
  dsimp only at h ⊢
  by_cases c_ : L = 24
  · subst c_
    rw [if_pos rfl] at h
    match xs, h with
    | [x0, x1, x2, x3], h => exact w_dk_child_b24 hE x0 x1 x2 x3 σ h k
    | [], h => cases h
    | [_], h => cases h
    | [_, _], h => cases h
    | [_, _, _], h => cases h
    | _ :: _ :: _ :: _ :: _ :: _, h => cases h
  rw [if_neg c_] at h
  cases h
theorem met_dk_child (l : Launch) (G : dGeo) (sz : Nat) (v1 v2 : Int32) (σ : dS) {r : Int32 × dS} (h : dk_child v1 v2 σ = some r) : Met l yX0_child (ws_ yX0_child cX0_child 5 (some .int)) rmX0_child (dPc G.1 (dk_ty G) (dk_w G σ) sz [.ref G.2.1, .int v1, .int v2]) (dQi G.1 (dk_ty G) (dk_w G σ) (dk_w G r.2) sz r.1) 0 0 (va_A (dk_w G σ) sz) := by
  refine dMet_i (w := dk_w G) (σ := σ) (σ' := r.2) (th := [(0, .ref G.2.1)]) (b := 1) (xs := [v1, v2]) (by decide) rfl rfl (Nat.le_of_ble_eq_true rfl) dth (fun E hE k => ?_)
  unfold dk_child at h
  obtain ⟨out, h1, h2⟩ := lpB_some h
  exact w_dk_child_b0 hE v1 v2 σ h1 (dK_lp (fun a out => w_dk_child_st hE a) h2 k)
abbrev rmX0_token : Room := { frames := 0, cells := 0, slots := 0, locals := 0 }
theorem w_dk_token_b109 {E : dEnv} {l : Launch} {G : dGeo} (hE : dkOk E l G cX0_token 4 rmX0_token) (σ : dS) {out} (h : dk_token_b109 σ = some out) (k : dR E cX0_token (some .int) out) : dG E σ 109 [] [] := by
  unfold dk_token_b109 at h
  refine dg_aload0 hE dX0_token_109 ?_
  refine dk_gf21 hE dX0_token_110 ?_
  refine dg_bipush hE dX0_token_113 (v := (8 : Int32)) (by decide) ?_
  refine dk_ld21 hE dX0_token_115 h (fun h => ?_)
  cases h
  exact k rfl _ _ dX0_token_116
theorem w_dk_token_b108 {E : dEnv} {l : Launch} {G : dGeo} (hE : dkOk E l G cX0_token 4 rmX0_token) (s0 s1 : Int32) (σ : dS) {out} (h : dk_token_b108 s0 s1 σ = some out) (k : dR E cX0_token (some .int) out) : dG E σ 108 [] [.int s0, .int s1, .ref (G.2.2.1 17)] := by
  unfold dk_token_b108 at h
  refine dk_as17 hE dX0_token_108 h (fun h => ?_)
  exact w_dk_token_b109 hE (up2 σ 17 s1.toNatClampNeg s0) h k
theorem w_dk_token_b103 {E : dEnv} {l : Launch} {G : dGeo} (hE : dkOk E l G cX0_token 4 rmX0_token) (v1 v2 s0 : Int32) (σ : dS) {out} (h : dk_token_b103 v1 v2 s0 σ = some out) (k : dR E cX0_token (some .int) out) : dG E σ 103 [v1, v2] [.int s0, .ref (G.2.2.1 17)] := by
  unfold dk_token_b103 at h
  refine dg_iload_n hE dX0_token_103 1 rfl rfl ?_
  refine dg_goto hE dX0_token_104 (tgt := 108) (by decide) ?_
  refine dg_drop (xs' := []) (ys := [v1, v2]) rfl ?_
  exact w_dk_token_b108 hE v2 s0 σ h k
theorem w_dk_token_b88 {E : dEnv} {l : Launch} {G : dGeo} (hE : dkOk E l G cX0_token 4 rmX0_token) (v1 v2 v3 : Int32) (σ : dS) {out} (h : dk_token_b88 v1 v2 v3 σ = some out) (k : dR E cX0_token (some .int) out) : dG E σ 88 [v1, v2, v3] [] := by
  unfold dk_token_b88 at h
  refine dg_aload0 hE dX0_token_88 ?_
  refine dk_gf17 hE dX0_token_89 ?_
  refine dg_iload_n hE dX0_token_92 2 rfl rfl ?_
  refine dg_iload_n hE dX0_token_93 0 rfl rfl ?_
  refine dg_iconst hE dX0_token_94 (v := (2 : Int32)) (by decide) ?_
  refine dg_icmp_eq hE dX0_token_95 (tgt := 103) (by decide) h (fun h => ?_) (fun h => ?_)
  · refine dg_drop (xs' := [v1, v2]) (ys := [v3]) rfl ?_
    exact w_dk_token_b103 hE v1 v2 v3 σ h k
  · refine dg_iload_n hE dX0_token_98 0 rfl rfl ?_
    refine dg_iconst hE dX0_token_99 (v := (4 : Int32)) (by decide) ?_
    refine dg_icmp_ne hE dX0_token_100 (tgt := 107) (by decide) h (fun h => ?_) (fun h => ?_)
    · refine dg_iconst hE dX0_token_107 (v := (0 : Int32)) (by decide) ?_
      refine dg_drop (xs' := []) (ys := [v1, v2, v3]) rfl ?_
      exact w_dk_token_b108 hE (0 : Int32) v3 σ h k
    · refine dg_drop (xs' := [v1, v2]) (ys := [v3]) rfl ?_
      exact w_dk_token_b103 hE v1 v2 v3 σ h k
theorem w_dk_token_b80 {E : dEnv} {l : Launch} {G : dGeo} (hE : dkOk E l G cX0_token 4 rmX0_token) (v1 v2 v3 : Int32) (σ : dS) {out} (h : dk_token_b80 v1 v2 v3 σ = some out) (k : dR E cX0_token (some .int) out) : dG E σ 80 [v1, v2, v3] [] := by
  unfold dk_token_b80 at h
  refine dg_aload0 hE dX0_token_80 ?_
  refine dk_gf16 hE dX0_token_81 ?_
  refine dg_iload_n hE dX0_token_84 2 rfl rfl ?_
  refine dg_iload_n hE dX0_token_85 0 rfl rfl ?_
  refine dg_i2b hE dX0_token_86 ?_
  refine dk_as16 hE dX0_token_87 h (fun h => ?_)
  exact w_dk_token_b88 hE v1 v2 v3 (up2 σ 16 v3.toNatClampNeg (vp_nar .byte (v1.toInt8.toInt32))) h k
theorem w_dk_token_b78 {E : dEnv} {l : Launch} {G : dGeo} (hE : dkOk E l G cX0_token 4 rmX0_token) (v1 v2 s0 s1 : Int32) (σ : dS) {out} (h : dk_token_b78 v1 v2 s0 s1 σ = some out) (k : dR E cX0_token (some .int) out) : dG E σ 78 [v1, v2] [.int s0, .int s1] := by
  unfold dk_token_b78 at h
  refine dg_iadd hE dX0_token_78 ?_
  refine dg_istore_n hE dX0_token_79 2 (xs' := [v1, v2, (s1 + s0)]) rfl (Nat.le_of_ble_eq_true rfl) (by decide) rfl ?_
  exact w_dk_token_b80 hE v1 v2 (s1 + s0) σ h k
theorem w_dk_token_b62 {E : dEnv} {l : Launch} {G : dGeo} (hE : dkOk E l G cX0_token 4 rmX0_token) (v1 v2 : Int32) (σ : dS) {out} (h : dk_token_b62 v1 v2 σ = some out) (k : dR E cX0_token (some .int) out) : dG E σ 62 [v1, v2] [] := by
  unfold dk_token_b62 at h
  refine dg_sipush hE dX0_token_62 (v := (320 : Int32)) (by decide) ?_
  refine dg_aload0 hE dX0_token_65 ?_
  refine dk_gf21 hE dX0_token_66 ?_
  refine dg_bipush hE dX0_token_69 (v := (8 : Int32)) (by decide) ?_
  refine dg_dup2 hE dX0_token_71 rfl rfl ?_
  refine dk_ld21 hE dX0_token_72 h (fun h => ?_)
  refine dg_dup_x2 hE dX0_token_73 rfl rfl rfl ?_
  refine dg_iconst hE dX0_token_74 (v := (1 : Int32)) (by decide) ?_
  refine dg_iadd hE dX0_token_75 ?_
  refine dg_i2b hE dX0_token_76 ?_
  refine dk_as21 hE dX0_token_77 h (fun h => ?_)
  exact w_dk_token_b78 hE v1 v2 (σ 21 (8 : Int32).toNatClampNeg) (320 : Int32) (up2 σ 21 (8 : Int32).toNatClampNeg (vp_nar .byte (((σ 21 (8 : Int32).toNatClampNeg) + (1 : Int32)).toInt8.toInt32))) h k
theorem w_dk_token_b0 {E : dEnv} {l : Launch} {G : dGeo} (hE : dkOk E l G cX0_token 4 rmX0_token) (v1 v2 : Int32) (σ : dS) {out} (h : dk_token_b0 v1 v2 σ = some out) (k : dR E cX0_token (some .int) out) : dG E σ 0 [v1, v2] [] := by
  unfold dk_token_b0 at h
  refine dg_iload_n hE dX0_token_0 0 rfl rfl ?_
  refine dg_if_lt hE dX0_token_1 (tgt := 22) (by decide) h (fun h => ?_) (fun h => ?_)
  · refine dg_iconst hE dX0_token_22 (v := (-1 : Int32)) (by decide) ?_
    cases h
    exact k rfl _ _ dX0_token_23
  · refine dg_iload_n hE dX0_token_4 0 rfl rfl ?_
    refine dg_bipush hE dX0_token_5 (v := (17 : Int32)) (by decide) ?_
    refine dg_icmp_gt hE dX0_token_7 (tgt := 22) (by decide) h (fun h => ?_) (fun h => ?_)
    · refine dg_iconst hE dX0_token_22 (v := (-1 : Int32)) (by decide) ?_
      cases h
      exact k rfl _ _ dX0_token_23
    · refine dg_aload0 hE dX0_token_10 ?_
      refine dk_gf21 hE dX0_token_11 ?_
      refine dg_bipush hE dX0_token_14 (v := (8 : Int32)) (by decide) ?_
      refine dk_ld21 hE dX0_token_16 h (fun h => ?_)
      refine dg_bipush hE dX0_token_17 (v := (40 : Int32)) (by decide) ?_
      refine dg_icmp_ne hE dX0_token_19 (tgt := 24) (by decide) h (fun h => ?_) (fun h => ?_)
      · refine dg_iload_n hE dX0_token_24 0 rfl rfl ?_
        refine dg_iconst hE dX0_token_25 (v := (2 : Int32)) (by decide) ?_
        refine dg_icmp_ne hE dX0_token_26 (tgt := 62) (by decide) h (fun h => ?_) (fun h => ?_)
        · exact w_dk_token_b62 hE v1 v2 σ h k
        · refine dg_iload_n hE dX0_token_29 1 rfl rfl ?_
          refine dg_if_lt hE dX0_token_30 (tgt := 60) (by decide) h (fun h => ?_) (fun h => ?_)
          · refine dg_iconst hE dX0_token_60 (v := (-1 : Int32)) (by decide) ?_
            cases h
            exact k rfl _ _ dX0_token_61
          · refine dg_iload_n hE dX0_token_33 1 rfl rfl ?_
            refine dg_sipush hE dX0_token_34 (v := (383 : Int32)) (by decide) ?_
            refine dg_icmp_gt hE dX0_token_37 (tgt := 60) (by decide) h (fun h => ?_) (fun h => ?_)
            · refine dg_iconst hE dX0_token_60 (v := (-1 : Int32)) (by decide) ?_
              cases h
              exact k rfl _ _ dX0_token_61
            · refine dg_iload_n hE dX0_token_40 1 rfl rfl ?_
              refine dg_bipush hE dX0_token_41 (v := (15 : Int32)) (by decide) ?_
              refine dg_iand hE dX0_token_43 ?_
              refine dg_bipush hE dX0_token_44 (v := (10 : Int32)) (by decide) ?_
              refine dg_icmp_gt hE dX0_token_46 (tgt := 60) (by decide) h (fun h => ?_) (fun h => ?_)
              · refine dg_iconst hE dX0_token_60 (v := (-1 : Int32)) (by decide) ?_
                cases h
                exact k rfl _ _ dX0_token_61
              · refine dg_iload_n hE dX0_token_49 1 rfl rfl ?_
                refine dg_iconst hE dX0_token_50 (v := (4 : Int32)) (by decide) ?_
                refine dg_ishr hE dX0_token_51 ?_
                refine dg_bipush hE dX0_token_52 (v := (7 : Int32)) (by decide) ?_
                refine dg_iand hE dX0_token_54 ?_
                refine dg_bipush hE dX0_token_55 (v := (6 : Int32)) (by decide) ?_
                refine dg_icmp_le hE dX0_token_57 (tgt := 62) (by decide) h (fun h => ?_) (fun h => ?_)
                · exact w_dk_token_b62 hE v1 v2 σ h k
                · refine dg_iconst hE dX0_token_60 (v := (-1 : Int32)) (by decide) ?_
                  cases h
                  exact k rfl _ _ dX0_token_61
      · refine dg_iconst hE dX0_token_22 (v := (-1 : Int32)) (by decide) ?_
        cases h
        exact k rfl _ _ dX0_token_23
theorem met_dk_token (l : Launch) (G : dGeo) (sz : Nat) (v1 v2 : Int32) (σ : dS) {r : Int32 × dS} (h : dk_token v1 v2 σ = some r) : Met l yX0_token (ws_ yX0_token cX0_token 4 (some .int)) rmX0_token (dPc G.1 (dk_ty G) (dk_w G σ) sz [.ref G.2.1, .int v1, .int v2]) (dQi G.1 (dk_ty G) (dk_w G σ) (dk_w G r.2) sz r.1) 0 0 (va_A (dk_w G σ) sz) := by
  refine dMet_i (w := dk_w G) (σ := σ) (σ' := r.2) (th := [(0, .ref G.2.1)]) (b := 1) (xs := [v1, v2]) (by decide) rfl rfl (Nat.le_of_ble_eq_true rfl) dth (fun E hE k => ?_)
  unfold dk_token at h
  exact w_dk_token_b0 hE v1 v2 σ h k
abbrev rmX0_arity : Room := { frames := 0, cells := 0, slots := 0, locals := 0 }
theorem w_dk_arity_b48 {E : dEnv} {l : Launch} {D : va_G} (hE : dsOk E l D cX0_arity RX0 2 rmX0_arity) {σ : dS} {out} (h : dk_arity_b48 = some out) (k : dRs E cX0_arity (some .int) σ out) : dG E σ 48 [] [] := by
  unfold dk_arity_b48 at h
  refine dg_iconst hE dX0_arity_48 (v := (1 : Int32)) (by decide) ?_
  refine dg_goto hE dX0_arity_49 (tgt := 53) (by decide) ?_
  cases h
  exact k rfl _ _ dX0_arity_53
theorem w_dk_arity_b42 {E : dEnv} {l : Launch} {D : va_G} (hE : dsOk E l D cX0_arity RX0 2 rmX0_arity) (v0 : Int32) {σ : dS} {out} (h : dk_arity_b42 v0 = some out) (k : dRs E cX0_arity (some .int) σ out) : dG E σ 42 [v0] [] := by
  unfold dk_arity_b42 at h
  refine dg_iload_n hE dX0_arity_42 0 rfl rfl ?_
  refine dg_bipush hE dX0_arity_43 (v := (17 : Int32)) (by decide) ?_
  refine dg_icmp_ne hE dX0_arity_45 (tgt := 52) (by decide) h (fun h => ?_) (fun h => ?_)
  · refine dg_iconst hE dX0_arity_52 (v := (2 : Int32)) (by decide) ?_
    cases h
    exact k rfl _ _ dX0_arity_53
  · refine dg_drop (xs' := []) (ys := [v0]) rfl ?_
    exact w_dk_arity_b48 hE h k
theorem w_dk_arity_b18 {E : dEnv} {l : Launch} {D : va_G} (hE : dsOk E l D cX0_arity RX0 2 rmX0_arity) (v0 v1 : Int32) {σ : dS} {out} (h : dk_arity_b18 v0 v1 = some out) (k : dRs E cX0_arity (some .int) σ out) : dG E σ 18 [v0, v1] [] := by
  unfold dk_arity_b18 at h
  refine dg_iload_n hE dX0_arity_18 0 rfl rfl ?_
  refine dg_iconst hE dX0_arity_19 (v := (2 : Int32)) (by decide) ?_
  refine dg_icmp_ne hE dX0_arity_20 (tgt := 30) (by decide) h (fun h => ?_) (fun h => ?_)
  · refine dg_iload_n hE dX0_arity_30 0 rfl rfl ?_
    refine dg_bipush hE dX0_arity_31 (v := (7 : Int32)) (by decide) ?_
    refine dg_icmp_lt hE dX0_arity_33 (tgt := 42) (by decide) h (fun h => ?_) (fun h => ?_)
    · refine dg_drop (xs' := [v0]) (ys := [v1]) rfl ?_
      exact w_dk_arity_b42 hE v0 h k
    · refine dg_iload_n hE dX0_arity_36 0 rfl rfl ?_
      refine dg_bipush hE dX0_arity_37 (v := (10 : Int32)) (by decide) ?_
      refine dg_icmp_lt hE dX0_arity_39 (tgt := 48) (by decide) h (fun h => ?_) (fun h => ?_)
      · refine dg_drop (xs' := []) (ys := [v0, v1]) rfl ?_
        exact w_dk_arity_b48 hE h k
      · refine dg_drop (xs' := [v0]) (ys := [v1]) rfl ?_
        exact w_dk_arity_b42 hE v0 h k
  · refine dg_iconst hE dX0_arity_23 (v := (1 : Int32)) (by decide) ?_
    refine dg_iload_n hE dX0_arity_24 1 rfl rfl ?_
    refine dg_bipush hE dX0_arity_25 (v := (7 : Int32)) (by decide) ?_
    refine dg_ishr hE dX0_arity_27 ?_
    refine dg_iadd hE dX0_arity_28 ?_
    cases h
    exact k rfl _ _ dX0_arity_29
theorem w_dk_arity_b0 {E : dEnv} {l : Launch} {D : va_G} (hE : dsOk E l D cX0_arity RX0 2 rmX0_arity) (v0 v1 : Int32) {σ : dS} {out} (h : dk_arity_b0 v0 v1 = some out) (k : dRs E cX0_arity (some .int) σ out) : dG E σ 0 [v0, v1] [] := by
  unfold dk_arity_b0 at h
  refine dg_iload_n hE dX0_arity_0 0 rfl rfl ?_
  refine dg_iconst hE dX0_arity_1 (v := (2 : Int32)) (by decide) ?_
  refine dg_icmp_lt hE dX0_arity_2 (tgt := 16) (by decide) h (fun h => ?_) (fun h => ?_)
  · refine dg_iconst hE dX0_arity_16 (v := (0 : Int32)) (by decide) ?_
    cases h
    exact k rfl _ _ dX0_arity_17
  · refine dg_iload_n hE dX0_arity_5 0 rfl rfl ?_
    refine dg_iconst hE dX0_arity_6 (v := (4 : Int32)) (by decide) ?_
    refine dg_icmp_lt hE dX0_arity_7 (tgt := 18) (by decide) h (fun h => ?_) (fun h => ?_)
    · exact w_dk_arity_b18 hE v0 v1 h k
    · refine dg_iload_n hE dX0_arity_10 0 rfl rfl ?_
      refine dg_bipush hE dX0_arity_11 (v := (7 : Int32)) (by decide) ?_
      refine dg_icmp_ge hE dX0_arity_13 (tgt := 18) (by decide) h (fun h => ?_) (fun h => ?_)
      · exact w_dk_arity_b18 hE v0 v1 h k
      · refine dg_iconst hE dX0_arity_16 (v := (0 : Int32)) (by decide) ?_
        cases h
        exact k rfl _ _ dX0_arity_17
theorem met_dk_arity (l : Launch) (D : va_G) (sz : Nat) (v0 v1 : Int32) {r : Int32} (h : dk_arity v0 v1 = some r) : Met l yX0_arity (ws_ yX0_arity cX0_arity 2 (some .int)) rmX0_arity (dPc D [] [] sz [.int v0, .int v1]) (dQi D [] [] [] sz r) 0 0 (va_A [] sz) := by
  refine dMet_i (w := fun _ => []) (σ := fun _ _ => 0) (σ' := fun _ _ => 0) (th := []) (b := 0) (xs := [v0, v1]) (by decide) rfl rfl (Nat.le_of_ble_eq_true rfl) (fun q hq => by cases hq) (fun E hE k => ?_)
  unfold dk_arity at h
  exact w_dk_arity_b0 hE v0 v1 h k
theorem dk_ca_arity {E : dEnv} {l : Launch} {D : va_G} {tys : List (ClassId × FieldType)} {w : dS → va_W} {th : List (Nat × Value)} {b : Nat} {cc : ByteArray} {nL pc : Nat} {R : Room} {σ : dS} {xs : List Int32} {st : List Value} {τ : Type} {g : Int32 → Option τ} {out : τ} {a0 a1 : Int32} (hE : dOk E cc RX0 l R nL D tys w th b) (hR : 0 + 1 ≤ R.frames ∧ 8 + (2 + 11) + 0 ≤ R.locals) (hd : decode cc pc = .ok (.invokestatic 157, 3)) (hs : (st.map fun v => v.category).sum ≤ 8) (h : Option.bind (dk_arity a0 a1) g = some out) (k : ∀ r, g r = some out → dG E σ (pc + 3) xs (.int r :: st)) : dG E σ pc xs (.int a1 :: .int a0 :: st) := by
  obtain ⟨r, h1, h2⟩ := obind h
  exact dg_callS hE (As := [.int a0, .int a1]) (st := st) (rm := rmX0_arity) (fun sz => met_dk_arity l D sz a0 a1 h1) (lw_S q244 q245 q50 q246) 2 rfl ⟨rfl, rfl⟩ (by decide +kernel) hR rfl hs hd (k r h2)
abbrev rmX0_typed : Room := { frames := 0, cells := 0, slots := 0, locals := 0 }
theorem w_dk_typed_b89 {E : dEnv} {l : Launch} {D : va_G} (hE : dsOk E l D cX0_typed RX0 3 rmX0_typed) (v0 : Int32) {σ : dS} {out} (h : dk_typed_b89 v0 = some out) (k : dRs E cX0_typed (some .int) σ out) : dG E σ 89 [v0] [] := by
  unfold dk_typed_b89 at h
  refine dg_iload_n hE dX0_typed_89 0 rfl rfl ?_
  refine dg_iconst hE dX0_typed_90 (v := (2 : Int32)) (by decide) ?_
  refine dg_icmp_ge hE dX0_typed_91 (tgt := 98) (by decide) h (fun h => ?_) (fun h => ?_)
  · refine dg_iload_n hE dX0_typed_98 0 rfl rfl ?_
    refine dg_bipush hE dX0_typed_99 (v := (7 : Int32)) (by decide) ?_
    refine dg_icmp_ge hE dX0_typed_101 (tgt := 108) (by decide) h (fun h => ?_) (fun h => ?_)
    · refine dg_iconst hE dX0_typed_108 (v := (2 : Int32)) (by decide) ?_
      cases h
      exact k rfl _ _ dX0_typed_109
    · refine dg_iconst hE dX0_typed_104 (v := (1 : Int32)) (by decide) ?_
      refine dg_goto hE dX0_typed_105 (tgt := 109) (by decide) ?_
      cases h
      exact k rfl _ _ dX0_typed_109
  · refine dg_iconst hE dX0_typed_94 (v := (0 : Int32)) (by decide) ?_
    refine dg_goto hE dX0_typed_95 (tgt := 109) (by decide) ?_
    cases h
    exact k rfl _ _ dX0_typed_109
theorem w_dk_typed_b73 {E : dEnv} {l : Launch} {D : va_G} (hE : dsOk E l D cX0_typed RX0 3 rmX0_typed) {σ : dS} {out} (h : dk_typed_b73 = some out) (k : dRs E cX0_typed (some .int) σ out) : dG E σ 73 [] [] := by
  unfold dk_typed_b73 at h
  refine dg_iconst hE dX0_typed_73 (v := (-1 : Int32)) (by decide) ?_
  refine dg_goto hE dX0_typed_74 (tgt := 88) (by decide) ?_
  cases h
  exact k rfl _ _ dX0_typed_88
theorem w_dk_typed_b51 {E : dEnv} {l : Launch} {D : va_G} (hE : dsOk E l D cX0_typed RX0 3 rmX0_typed) (v0 v1 v2 : Int32) {σ : dS} {out} (h : dk_typed_b51 v0 v1 v2 = some out) (k : dRs E cX0_typed (some .int) σ out) : dG E σ 51 [v0, v1, v2] [] := by
  unfold dk_typed_b51 at h
  refine dg_iload_n hE dX0_typed_51 0 rfl rfl ?_
  refine dg_bipush hE dX0_typed_52 (v := (10 : Int32)) (by decide) ?_
  refine dg_icmp_lt hE dX0_typed_54 (tgt := 89) (by decide) h (fun h => ?_) (fun h => ?_)
  · refine dg_drop (xs' := [v0]) (ys := [v1, v2]) rfl ?_
    exact w_dk_typed_b89 hE v0 h k
  · refine dg_iload_n hE dX0_typed_57 0 rfl rfl ?_
    refine dg_bipush hE dX0_typed_58 (v := (15 : Int32)) (by decide) ?_
    refine dg_icmp_ge hE dX0_typed_60 (tgt := 89) (by decide) h (fun h => ?_) (fun h => ?_)
    · refine dg_drop (xs' := [v0]) (ys := [v1, v2]) rfl ?_
      exact w_dk_typed_b89 hE v0 h k
    · refine dg_iload_n hE dX0_typed_63 1 rfl rfl ?_
      refine dg_iconst hE dX0_typed_64 (v := (2 : Int32)) (by decide) ?_
      refine dg_icmp_eq hE dX0_typed_65 (tgt := 73) (by decide) h (fun h => ?_) (fun h => ?_)
      · refine dg_drop (xs' := []) (ys := [v0, v1, v2]) rfl ?_
        exact w_dk_typed_b73 hE h k
      · refine dg_iload_n hE dX0_typed_68 2 rfl rfl ?_
        refine dg_iconst hE dX0_typed_69 (v := (2 : Int32)) (by decide) ?_
        refine dg_icmp_ne hE dX0_typed_70 (tgt := 77) (by decide) h (fun h => ?_) (fun h => ?_)
        · refine dg_iload_n hE dX0_typed_77 0 rfl rfl ?_
          refine dg_bipush hE dX0_typed_78 (v := (13 : Int32)) (by decide) ?_
          refine dg_icmp_ge hE dX0_typed_80 (tgt := 87) (by decide) h (fun h => ?_) (fun h => ?_)
          · refine dg_iconst hE dX0_typed_87 (v := (2 : Int32)) (by decide) ?_
            cases h
            exact k rfl _ _ dX0_typed_88
          · refine dg_iconst hE dX0_typed_83 (v := (1 : Int32)) (by decide) ?_
            refine dg_goto hE dX0_typed_84 (tgt := 88) (by decide) ?_
            cases h
            exact k rfl _ _ dX0_typed_88
        · refine dg_drop (xs' := []) (ys := [v0, v1, v2]) rfl ?_
          exact w_dk_typed_b73 hE h k
theorem w_dk_typed_b23 {E : dEnv} {l : Launch} {D : va_G} (hE : dsOk E l D cX0_typed RX0 3 rmX0_typed) {σ : dS} {out} (h : dk_typed_b23 = some out) (k : dRs E cX0_typed (some .int) σ out) : dG E σ 23 [] [] := by
  unfold dk_typed_b23 at h
  refine dg_iconst hE dX0_typed_23 (v := (0 : Int32)) (by decide) ?_
  refine dg_goto hE dX0_typed_24 (tgt := 28) (by decide) ?_
  cases h
  exact k rfl _ _ dX0_typed_28
theorem w_dk_typed_b10 {E : dEnv} {l : Launch} {D : va_G} (hE : dsOk E l D cX0_typed RX0 3 rmX0_typed) (v0 v1 v2 : Int32) {σ : dS} {out} (h : dk_typed_b10 v0 v1 v2 = some out) (k : dRs E cX0_typed (some .int) σ out) : dG E σ 10 [v0, v1, v2] [] := by
  unfold dk_typed_b10 at h
  refine dg_iload_n hE dX0_typed_10 1 rfl rfl ?_
  refine dg_if_ne hE dX0_typed_11 (tgt := 27) (by decide) h (fun h => ?_) (fun h => ?_)
  · refine dg_iconst hE dX0_typed_27 (v := (-1 : Int32)) (by decide) ?_
    cases h
    exact k rfl _ _ dX0_typed_28
  · refine dg_iload_n hE dX0_typed_14 0 rfl rfl ?_
    refine dg_iconst hE dX0_typed_15 (v := (2 : Int32)) (by decide) ?_
    refine dg_icmp_eq hE dX0_typed_16 (tgt := 23) (by decide) h (fun h => ?_) (fun h => ?_)
    · refine dg_drop (xs' := []) (ys := [v0, v1, v2]) rfl ?_
      exact w_dk_typed_b23 hE h k
    · refine dg_iload_n hE dX0_typed_19 2 rfl rfl ?_
      refine dg_if_ne hE dX0_typed_20 (tgt := 27) (by decide) h (fun h => ?_) (fun h => ?_)
      · refine dg_iconst hE dX0_typed_27 (v := (-1 : Int32)) (by decide) ?_
        cases h
        exact k rfl _ _ dX0_typed_28
      · refine dg_drop (xs' := []) (ys := [v0, v1, v2]) rfl ?_
        exact w_dk_typed_b23 hE h k
theorem w_dk_typed_b0 {E : dEnv} {l : Launch} {D : va_G} (hE : dsOk E l D cX0_typed RX0 3 rmX0_typed) (v0 v1 v2 : Int32) {σ : dS} {out} (h : dk_typed_b0 v0 v1 v2 = some out) (k : dRs E cX0_typed (some .int) σ out) : dG E σ 0 [v0, v1, v2] [] := by
  unfold dk_typed_b0 at h
  refine dg_iload_n hE dX0_typed_0 0 rfl rfl ?_
  refine dg_iconst hE dX0_typed_1 (v := (2 : Int32)) (by decide) ?_
  refine dg_icmp_eq hE dX0_typed_2 (tgt := 10) (by decide) h (fun h => ?_) (fun h => ?_)
  · exact w_dk_typed_b10 hE v0 v1 v2 h k
  · refine dg_iload_n hE dX0_typed_5 0 rfl rfl ?_
    refine dg_iconst hE dX0_typed_6 (v := (3 : Int32)) (by decide) ?_
    refine dg_icmp_ne hE dX0_typed_7 (tgt := 29) (by decide) h (fun h => ?_) (fun h => ?_)
    · refine dg_iload_n hE dX0_typed_29 0 rfl rfl ?_
      refine dg_bipush hE dX0_typed_30 (v := (7 : Int32)) (by decide) ?_
      refine dg_icmp_lt hE dX0_typed_32 (tgt := 51) (by decide) h (fun h => ?_) (fun h => ?_)
      · exact w_dk_typed_b51 hE v0 v1 v2 h k
      · refine dg_iload_n hE dX0_typed_35 0 rfl rfl ?_
        refine dg_bipush hE dX0_typed_36 (v := (10 : Int32)) (by decide) ?_
        refine dg_icmp_ge hE dX0_typed_38 (tgt := 51) (by decide) h (fun h => ?_) (fun h => ?_)
        · exact w_dk_typed_b51 hE v0 v1 v2 h k
        · refine dg_iload_n hE dX0_typed_41 1 rfl rfl ?_
          refine dg_if_ne hE dX0_typed_42 (tgt := 49) (by decide) h (fun h => ?_) (fun h => ?_)
          · refine dg_iconst hE dX0_typed_49 (v := (-1 : Int32)) (by decide) ?_
            cases h
            exact k rfl _ _ dX0_typed_50
          · refine dg_iconst hE dX0_typed_45 (v := (1 : Int32)) (by decide) ?_
            refine dg_goto hE dX0_typed_46 (tgt := 50) (by decide) ?_
            cases h
            exact k rfl _ _ dX0_typed_50
    · exact w_dk_typed_b10 hE v0 v1 v2 h k
theorem met_dk_typed (l : Launch) (D : va_G) (sz : Nat) (v0 v1 v2 : Int32) {r : Int32} (h : dk_typed v0 v1 v2 = some r) : Met l yX0_typed (ws_ yX0_typed cX0_typed 3 (some .int)) rmX0_typed (dPc D [] [] sz [.int v0, .int v1, .int v2]) (dQi D [] [] [] sz r) 0 0 (va_A [] sz) := by
  refine dMet_i (w := fun _ => []) (σ := fun _ _ => 0) (σ' := fun _ _ => 0) (th := []) (b := 0) (xs := [v0, v1, v2]) (by decide) rfl rfl (Nat.le_of_ble_eq_true rfl) (fun q hq => by cases hq) (fun E hE k => ?_)
  unfold dk_typed at h
  exact w_dk_typed_b0 hE v0 v1 v2 h k
theorem dk_ca_typed {E : dEnv} {l : Launch} {D : va_G} {tys : List (ClassId × FieldType)} {w : dS → va_W} {th : List (Nat × Value)} {b : Nat} {cc : ByteArray} {nL pc : Nat} {R : Room} {σ : dS} {xs : List Int32} {st : List Value} {τ : Type} {g : Int32 → Option τ} {out : τ} {a0 a1 a2 : Int32} (hE : dOk E cc RX0 l R nL D tys w th b) (hR : 0 + 1 ≤ R.frames ∧ 8 + (3 + 11) + 0 ≤ R.locals) (hd : decode cc pc = .ok (.invokestatic 160, 3)) (hs : (st.map fun v => v.category).sum ≤ 8) (h : Option.bind (dk_typed a0 a1 a2) g = some out) (k : ∀ r, g r = some out → dG E σ (pc + 3) xs (.int r :: st)) : dG E σ pc xs (.int a2 :: .int a1 :: .int a0 :: st) := by
  obtain ⟨r, h1, h2⟩ := obind h
  exact dg_callS hE (As := [.int a0, .int a1, .int a2]) (st := st) (rm := rmX0_typed) (fun sz => met_dk_typed l D sz a0 a1 a2 h1) (lw_S q247 q248 q50 q249) 3 rfl ⟨rfl, rfl⟩ (by decide +kernel) hR rfl hs hd (k r h2)
abbrev rmX0_read : Room := { frames := 1, cells := 0, slots := 0, locals := 22 }
theorem w_dk_read_b274 {E : dEnv} {l : Launch} {G : dGeo} (hE : dkOk E l G cX0_read 9 rmX0_read) (v1 v2 v3 : Int32) (σ : dS) {out} (h : dk_read_b274 v1 v2 v3 σ = some out) (k : dK E cX0_read (some .boolean) out) : dG E σ 274 [v1, v2, v3] [] := by
  unfold dk_read_b274 at h
  refine dg_aload0 hE dX0_read_274 ?_
  refine dk_gf22 hE dX0_read_275 ?_
  refine dg_iload_n hE dX0_read_278 1 rfl rfl ?_
  refine dg_iinc hE dX0_read_279 1 (xs' := [v1, (v2 + (1 : Int32)), v3]) rfl rfl (by decide) rfl ?_
  refine dg_iload_n hE dX0_read_282 2 rfl rfl ?_
  refine dg_i2b hE dX0_read_283 ?_
  refine dk_as22 hE dX0_read_284 h (fun h => ?_)
  refine dg_iinc hE dX0_read_285 2 (xs' := [v1, (v2 + (1 : Int32)), (v3 + (-1 : Int32))]) rfl rfl (by decide) rfl ?_
  refine dg_goto hE dX0_read_288 (tgt := 14) (by decide) ?_
  cases h
  exact k
theorem w_dk_read_b269 {E : dEnv} {l : Launch} {G : dGeo} (hE : dkOk E l G cX0_read 9 rmX0_read) (v1 v2 v3 v4 v5 : Int32) (σ : dS) {out} (h : dk_read_b269 v1 v2 v3 v4 v5 σ = some out) (k : dK E cX0_read (some .boolean) out) : dG E σ 269 [v1, v2, v3, v4, v5] [] := by
  unfold dk_read_b269 at h
  refine dg_iload_n hE dX0_read_269 1 rfl rfl ?_
  refine dg_iload hE dX0_read_270 4 rfl rfl ?_
  refine dg_isub hE dX0_read_272 ?_
  refine dg_istore_n hE dX0_read_273 1 (xs' := [v1, (v2 - v5), v3, v4, v5]) rfl (Nat.le_of_ble_eq_true rfl) (by decide) rfl ?_
  refine dg_drop (xs' := [v1, (v2 - v5), v3]) (ys := [v4, v5]) rfl ?_
  exact w_dk_read_b274 hE v1 (v2 - v5) v3 σ h k
theorem w_dk_read_b268 {E : dEnv} {l : Launch} {G : dGeo} (hE : dkOk E l G cX0_read 9 rmX0_read) (v1 v2 v3 v4 v5 s0 s1 : Int32) (σ : dS) {out} (h : dk_read_b268 v1 v2 v3 v4 v5 s0 s1 σ = some out) (k : dK E cX0_read (some .boolean) out) : dG E σ 268 [v1, v2, v3, v4, v5] [.int s0, .int s1, .ref (G.2.2.1 20)] := by
  unfold dk_read_b268 at h
  refine dk_as20 hE dX0_read_268 h (fun h => ?_)
  exact w_dk_read_b269 hE v1 v2 v3 v4 v5 (up2 σ 20 s1.toNatClampNeg (vp_nar .boolean s0)) h k
theorem w_dk_read_b267 {E : dEnv} {l : Launch} {G : dGeo} (hE : dkOk E l G cX0_read 9 rmX0_read) (v1 v2 v3 v4 v5 s0 : Int32) (σ : dS) {out} (h : dk_read_b267 v1 v2 v3 v4 v5 s0 σ = some out) (k : dK E cX0_read (some .boolean) out) : dG E σ 267 [v1, v2, v3, v4, v5] [.int s0, .ref (G.2.2.1 20)] := by
  unfold dk_read_b267 at h
  refine dg_iconst hE dX0_read_267 (v := (0 : Int32)) (by decide) ?_
  exact w_dk_read_b268 hE v1 v2 v3 v4 v5 (0 : Int32) s0 σ h k
theorem w_dk_read_b263 {E : dEnv} {l : Launch} {G : dGeo} (hE : dkOk E l G cX0_read 9 rmX0_read) (v1 v2 v3 v4 v5 s0 : Int32) (σ : dS) {out} (h : dk_read_b263 v1 v2 v3 v4 v5 s0 σ = some out) (k : dK E cX0_read (some .boolean) out) : dG E σ 263 [v1, v2, v3, v4, v5] [.int s0, .ref (G.2.2.1 20)] := by
  unfold dk_read_b263 at h
  refine dg_iconst hE dX0_read_263 (v := (1 : Int32)) (by decide) ?_
  refine dg_goto hE dX0_read_264 (tgt := 268) (by decide) ?_
  exact w_dk_read_b268 hE v1 v2 v3 v4 v5 (1 : Int32) s0 σ h k
theorem w_dk_read_b201 {E : dEnv} {l : Launch} {G : dGeo} (hE : dkOk E l G cX0_read 9 rmX0_read) (v1 v2 v3 v4 v5 v6 v7 : Int32) (σ : dS) {out} (h : dk_read_b201 v1 v2 v3 v4 v5 v6 v7 σ = some out) (k : dK E cX0_read (some .boolean) out) : dG E σ 201 [v1, v2, v3, v4, v5, v6, v7] [] := by
  unfold dk_read_b201 at h
  refine dg_aload0 hE dX0_read_201 ?_
  refine dk_gf20 hE dX0_read_202 ?_
  refine dg_sipush hE dX0_read_205 (v := (320 : Int32)) (by decide) ?_
  refine dg_iload_n hE dX0_read_208 2 rfl rfl ?_
  refine dg_iadd hE dX0_read_209 ?_
  refine dg_iload hE dX0_read_210 3 rfl rfl ?_
  refine dg_iconst hE dX0_read_212 (v := (5 : Int32)) (by decide) ?_
  refine dg_icmp_eq hE dX0_read_213 (tgt := 263) (by decide) h (fun h => ?_) (fun h => ?_)
  · refine dg_drop (xs' := [v1, v2, v3, v4, v5]) (ys := [v6, v7]) rfl ?_
    exact w_dk_read_b263 hE v1 v2 v3 v4 v5 ((320 : Int32) + v3) σ h k
  · refine dg_iload hE dX0_read_216 3 rfl rfl ?_
    refine dg_bipush hE dX0_read_218 (v := (6 : Int32)) (by decide) ?_
    refine dg_icmp_eq hE dX0_read_220 (tgt := 263) (by decide) h (fun h => ?_) (fun h => ?_)
    · refine dg_drop (xs' := [v1, v2, v3, v4, v5]) (ys := [v6, v7]) rfl ?_
      exact w_dk_read_b263 hE v1 v2 v3 v4 v5 ((320 : Int32) + v3) σ h k
    · refine dg_iload hE dX0_read_223 3 rfl rfl ?_
      refine dg_bipush hE dX0_read_225 (v := (10 : Int32)) (by decide) ?_
      refine dg_icmp_lt hE dX0_read_227 (tgt := 267) (by decide) h (fun h => ?_) (fun h => ?_)
      · refine dg_drop (xs' := [v1, v2, v3, v4, v5]) (ys := [v6, v7]) rfl ?_
        exact w_dk_read_b267 hE v1 v2 v3 v4 v5 ((320 : Int32) + v3) σ h k
      · refine dg_aload0 hE dX0_read_230 ?_
        refine dk_gf20 hE dX0_read_231 ?_
        refine dg_sipush hE dX0_read_234 (v := (320 : Int32)) (by decide) ?_
        refine dg_iload hE dX0_read_237 5 rfl rfl ?_
        refine dg_iadd hE dX0_read_239 ?_
        refine dk_ld20 hE dX0_read_240 h (fun h => ?_)
        refine dg_if_ne hE dX0_read_241 (tgt := 263) (by decide) h (fun h => ?_) (fun h => ?_)
        · refine dg_drop (xs' := [v1, v2, v3, v4, v5]) (ys := [v6, v7]) rfl ?_
          exact w_dk_read_b263 hE v1 v2 v3 v4 v5 ((320 : Int32) + v3) σ h k
        · refine dg_iload hE dX0_read_244 6 rfl rfl ?_
          refine dg_if_lt hE dX0_read_246 (tgt := 267) (by decide) h (fun h => ?_) (fun h => ?_)
          · refine dg_drop (xs' := [v1, v2, v3, v4, v5]) (ys := [v6, v7]) rfl ?_
            exact w_dk_read_b267 hE v1 v2 v3 v4 v5 ((320 : Int32) + v3) σ h k
          · refine dg_aload0 hE dX0_read_249 ?_
            refine dk_gf20 hE dX0_read_250 ?_
            refine dg_sipush hE dX0_read_253 (v := (320 : Int32)) (by decide) ?_
            refine dg_iload hE dX0_read_256 6 rfl rfl ?_
            refine dg_iadd hE dX0_read_258 ?_
            refine dk_ld20 hE dX0_read_259 h (fun h => ?_)
            refine dg_if_eq hE dX0_read_260 (tgt := 267) (by decide) h (fun h => ?_) (fun h => ?_)
            · refine dg_drop (xs' := [v1, v2, v3, v4, v5]) (ys := [v6, v7]) rfl ?_
              exact w_dk_read_b267 hE v1 v2 v3 v4 v5 ((320 : Int32) + v3) σ h k
            · refine dg_drop (xs' := [v1, v2, v3, v4, v5]) (ys := [v6, v7]) rfl ?_
              exact w_dk_read_b263 hE v1 v2 v3 v4 v5 ((320 : Int32) + v3) σ h k
theorem w_dk_read_b199 {E : dEnv} {l : Launch} {G : dGeo} (hE : dkOk E l G cX0_read 9 rmX0_read) (v1 v2 v3 v4 v5 v6 v7 s0 s1 : Int32) (σ : dS) {out} (h : dk_read_b199 v1 v2 v3 v4 v5 v6 v7 s0 s1 σ = some out) (k : dK E cX0_read (some .boolean) out) : dG E σ 199 [v1, v2, v3, v4, v5, v6, v7] [.int s0, .int s1, .ref (G.2.2.1 19)] := by
  unfold dk_read_b199 at h
  refine dg_i2b hE dX0_read_199 ?_
  refine dk_as19 hE dX0_read_200 h (fun h => ?_)
  exact w_dk_read_b201 hE v1 v2 v3 v4 v5 v6 v7 (up2 σ 19 s1.toNatClampNeg (vp_nar .byte (s0.toInt8.toInt32))) h k
theorem w_dk_read_b161 {E : dEnv} {l : Launch} {G : dGeo} (hE : dkOk E l G cX0_read 9 rmX0_read) (v1 v2 v3 v4 v5 v6 v7 : Int32) (σ : dS) {out} (h : dk_read_b161 v1 v2 v3 v4 v5 v6 v7 σ = some out) (k : dK E cX0_read (some .boolean) out) : dG E σ 161 [v1, v2, v3, v4, v5, v6, v7] [] := by
  unfold dk_read_b161 at h
  refine dg_aload0 hE dX0_read_161 ?_
  refine dk_gf19 hE dX0_read_162 ?_
  refine dg_sipush hE dX0_read_165 (v := (320 : Int32)) (by decide) ?_
  refine dg_iload_n hE dX0_read_168 2 rfl rfl ?_
  refine dg_iadd hE dX0_read_169 ?_
  refine dg_iload hE dX0_read_170 4 rfl rfl ?_
  refine dg_if_ne hE dX0_read_172 (tgt := 181) (by decide) h (fun h => ?_) (fun h => ?_)
  · refine dg_aload0 hE dX0_read_181 ?_
    refine dk_gf19 hE dX0_read_182 ?_
    refine dg_sipush hE dX0_read_185 (v := (320 : Int32)) (by decide) ?_
    refine dg_aload0 hE dX0_read_188 ?_
    refine dk_gf22 hE dX0_read_189 ?_
    refine dg_iload_n hE dX0_read_192 1 rfl rfl ?_
    refine dg_iload hE dX0_read_193 4 rfl rfl ?_
    refine dg_isub hE dX0_read_195 ?_
    refine dk_ld22 hE dX0_read_196 h (fun h => ?_)
    refine dg_iadd hE dX0_read_197 ?_
    refine dk_ld19 hE dX0_read_198 h (fun h => ?_)
    exact w_dk_read_b199 hE v1 v2 v3 v4 v5 v6 v7 (σ 19 ((320 : Int32) + (σ 22 (v2 - v5).toNatClampNeg)).toNatClampNeg) ((320 : Int32) + v3) σ h k
  · refine dg_iload_n hE dX0_read_175 2 rfl rfl ?_
    refine dg_iconst hE dX0_read_176 (v := (1 : Int32)) (by decide) ?_
    refine dg_iadd hE dX0_read_177 ?_
    refine dg_goto hE dX0_read_178 (tgt := 199) (by decide) ?_
    exact w_dk_read_b199 hE v1 v2 v3 v4 v5 v6 v7 (v3 + (1 : Int32)) ((320 : Int32) + v3) σ h k
theorem w_dk_read_b139 {E : dEnv} {l : Launch} {G : dGeo} (hE : dkOk E l G cX0_read 9 rmX0_read) (v1 v2 v3 v4 v5 v6 v7 s0 : Int32) (σ : dS) {out} (h : dk_read_b139 v1 v2 v3 v4 v5 v6 v7 s0 σ = some out) (k : dK E cX0_read (some .boolean) out) : dG E σ 139 [v1, v2, v3, v4, v5, v6, v7] [.int s0] := by
  unfold dk_read_b139 at h
  refine dg_istore hE dX0_read_139 7 (xs' := [v1, v2, v3, v4, v5, v6, v7, s0]) rfl (Nat.le_of_ble_eq_true rfl) (by decide) rfl ?_
  refine dg_iload hE dX0_read_141 7 rfl rfl ?_
  refine dg_if_ge hE dX0_read_143 (tgt := 148) (by decide) h (fun h => ?_) (fun h => ?_)
  · refine dg_aload0 hE dX0_read_148 ?_
    refine dk_gf18 hE dX0_read_149 ?_
    refine dg_sipush hE dX0_read_152 (v := (320 : Int32)) (by decide) ?_
    refine dg_iload_n hE dX0_read_155 2 rfl rfl ?_
    refine dg_iadd hE dX0_read_156 ?_
    refine dg_iload hE dX0_read_157 7 rfl rfl ?_
    refine dg_i2b hE dX0_read_159 ?_
    refine dk_as18 hE dX0_read_160 h (fun h => ?_)
    refine dg_drop (xs' := [v1, v2, v3, v4, v5, v6, v7]) (ys := [s0]) rfl ?_
    exact w_dk_read_b161 hE v1 v2 v3 v4 v5 v6 v7 (up2 σ 18 ((320 : Int32) + v3).toNatClampNeg (vp_nar .byte (s0.toInt8.toInt32))) h k
  · refine dg_iconst hE dX0_read_146 (v := (0 : Int32)) (by decide) ?_
    cases h
    exact k nz0 _ _ dX0_read_147
theorem w_dk_read_b136 {E : dEnv} {l : Launch} {G : dGeo} (hE : dkOk E l G cX0_read 9 rmX0_read) (v1 v2 v3 v4 v5 v6 v7 s0 s1 s2 : Int32) (σ : dS) {out} (h : dk_read_b136 v1 v2 v3 v4 v5 v6 v7 s0 s1 s2 σ = some out) (k : dK E cX0_read (some .boolean) out) : dG E σ 136 [v1, v2, v3, v4, v5, v6, v7] [.int s0, .int s1, .int s2] := by
  unfold dk_read_b136 at h
  refine dk_ca_typed hE (by decide) dX0_read_136 (Nat.le_of_ble_eq_true rfl) h (fun r_ h => ?_)
  exact w_dk_read_b139 hE v1 v2 v3 v4 v5 v6 v7 r_ σ h k
theorem w_dk_read_b116 {E : dEnv} {l : Launch} {G : dGeo} (hE : dkOk E l G cX0_read 9 rmX0_read) (v1 v2 v3 v4 v5 v6 v7 s0 s1 : Int32) (σ : dS) {out} (h : dk_read_b116 v1 v2 v3 v4 v5 v6 v7 s0 s1 σ = some out) (k : dK E cX0_read (some .boolean) out) : dG E σ 116 [v1, v2, v3, v4, v5, v6, v7] [.int s0, .int s1] := by
  unfold dk_read_b116 at h
  refine dg_iload hE dX0_read_116 6 rfl rfl ?_
  refine dg_if_ge hE dX0_read_118 (tgt := 125) (by decide) h (fun h => ?_) (fun h => ?_)
  · refine dg_aload0 hE dX0_read_125 ?_
    refine dk_gf18 hE dX0_read_126 ?_
    refine dg_sipush hE dX0_read_129 (v := (320 : Int32)) (by decide) ?_
    refine dg_iload hE dX0_read_132 6 rfl rfl ?_
    refine dg_iadd hE dX0_read_134 ?_
    refine dk_ld18 hE dX0_read_135 h (fun h => ?_)
    exact w_dk_read_b136 hE v1 v2 v3 v4 v5 v6 v7 (σ 18 ((320 : Int32) + v7).toNatClampNeg) s0 s1 σ h k
  · refine dg_iconst hE dX0_read_121 (v := (1 : Int32)) (by decide) ?_
    refine dg_goto hE dX0_read_122 (tgt := 136) (by decide) ?_
    exact w_dk_read_b136 hE v1 v2 v3 v4 v5 v6 v7 (1 : Int32) s0 s1 σ h k
theorem w_dk_read_b92 {E : dEnv} {l : Launch} {G : dGeo} (hE : dkOk E l G cX0_read 9 rmX0_read) (v1 v2 v3 v4 v5 v6 s0 : Int32) (σ : dS) {out} (h : dk_read_b92 v1 v2 v3 v4 v5 v6 s0 σ = some out) (k : dK E cX0_read (some .boolean) out) : dG E σ 92 [v1, v2, v3, v4, v5, v6] [.int s0] := by
  unfold dk_read_b92 at h
  refine dg_istore hE dX0_read_92 6 (xs' := [v1, v2, v3, v4, v5, v6, s0]) rfl (Nat.le_of_ble_eq_true rfl) (by decide) rfl ?_
  refine dg_iload hE dX0_read_94 3 rfl rfl ?_
  refine dg_iload hE dX0_read_96 5 rfl rfl ?_
  refine dg_if_ge hE dX0_read_98 (tgt := 105) (by decide) h (fun h => ?_) (fun h => ?_)
  · refine dg_aload0 hE dX0_read_105 ?_
    refine dk_gf18 hE dX0_read_106 ?_
    refine dg_sipush hE dX0_read_109 (v := (320 : Int32)) (by decide) ?_
    refine dg_iload hE dX0_read_112 5 rfl rfl ?_
    refine dg_iadd hE dX0_read_114 ?_
    refine dk_ld18 hE dX0_read_115 h (fun h => ?_)
    exact w_dk_read_b116 hE v1 v2 v3 v4 v5 v6 s0 (σ 18 ((320 : Int32) + v6).toNatClampNeg) v4 σ h k
  · refine dg_iconst hE dX0_read_101 (v := (1 : Int32)) (by decide) ?_
    refine dg_goto hE dX0_read_102 (tgt := 116) (by decide) ?_
    exact w_dk_read_b116 hE v1 v2 v3 v4 v5 v6 s0 (1 : Int32) v4 σ h k
theorem w_dk_read_b72 {E : dEnv} {l : Launch} {G : dGeo} (hE : dkOk E l G cX0_read 9 rmX0_read) (v1 v2 v3 v4 v5 s0 : Int32) (σ : dS) {out} (h : dk_read_b72 v1 v2 v3 v4 v5 s0 σ = some out) (k : dK E cX0_read (some .boolean) out) : dG E σ 72 [v1, v2, v3, v4, v5] [.int s0] := by
  unfold dk_read_b72 at h
  refine dg_istore hE dX0_read_72 5 (xs' := [v1, v2, v3, v4, v5, s0]) rfl (Nat.le_of_ble_eq_true rfl) (by decide) rfl ?_
  refine dg_iload hE dX0_read_74 4 rfl rfl ?_
  refine dg_iconst hE dX0_read_76 (v := (1 : Int32)) (by decide) ?_
  refine dg_icmp_le hE dX0_read_77 (tgt := 91) (by decide) h (fun h => ?_) (fun h => ?_)
  · refine dg_iconst hE dX0_read_91 (v := (-1 : Int32)) (by decide) ?_
    exact w_dk_read_b92 hE v1 v2 v3 v4 v5 s0 (-1 : Int32) σ h k
  · refine dg_aload0 hE dX0_read_80 ?_
    refine dk_gf22 hE dX0_read_81 ?_
    refine dg_iload_n hE dX0_read_84 1 rfl rfl ?_
    refine dg_iconst hE dX0_read_85 (v := (2 : Int32)) (by decide) ?_
    refine dg_isub hE dX0_read_86 ?_
    refine dk_ld22 hE dX0_read_87 h (fun h => ?_)
    refine dg_goto hE dX0_read_88 (tgt := 92) (by decide) ?_
    exact w_dk_read_b92 hE v1 v2 v3 v4 v5 s0 (σ 22 (v2 - (2 : Int32)).toNatClampNeg) σ h k
theorem w_dk_read_b45 {E : dEnv} {l : Launch} {G : dGeo} (hE : dkOk E l G cX0_read 9 rmX0_read) (v1 v2 v3 v4 s0 : Int32) (σ : dS) {out} (h : dk_read_b45 v1 v2 v3 v4 s0 σ = some out) (k : dK E cX0_read (some .boolean) out) : dG E σ 45 [v1, v2, v3, v4] [.int s0] := by
  unfold dk_read_b45 at h
  refine dg_istore hE dX0_read_45 4 (xs' := [v1, v2, v3, v4, s0]) rfl (Nat.le_of_ble_eq_true rfl) (by decide) rfl ?_
  refine dg_iload hE dX0_read_47 4 rfl rfl ?_
  refine dg_iload_n hE dX0_read_49 1 rfl rfl ?_
  refine dg_icmp_le hE dX0_read_50 (tgt := 55) (by decide) h (fun h => ?_) (fun h => ?_)
  · refine dg_iload hE dX0_read_55 4 rfl rfl ?_
    refine dg_if_le hE dX0_read_57 (tgt := 71) (by decide) h (fun h => ?_) (fun h => ?_)
    · refine dg_iconst hE dX0_read_71 (v := (-1 : Int32)) (by decide) ?_
      exact w_dk_read_b72 hE v1 v2 v3 v4 s0 (-1 : Int32) σ h k
    · refine dg_aload0 hE dX0_read_60 ?_
      refine dk_gf22 hE dX0_read_61 ?_
      refine dg_iload_n hE dX0_read_64 1 rfl rfl ?_
      refine dg_iconst hE dX0_read_65 (v := (1 : Int32)) (by decide) ?_
      refine dg_isub hE dX0_read_66 ?_
      refine dk_ld22 hE dX0_read_67 h (fun h => ?_)
      refine dg_goto hE dX0_read_68 (tgt := 72) (by decide) ?_
      exact w_dk_read_b72 hE v1 v2 v3 v4 s0 (σ 22 (v2 - (1 : Int32)).toNatClampNeg) σ h k
  · refine dg_iconst hE dX0_read_53 (v := (0 : Int32)) (by decide) ?_
    cases h
    exact k nz0 _ _ dX0_read_54
theorem w_dk_read_b30 {E : dEnv} {l : Launch} {G : dGeo} (hE : dkOk E l G cX0_read 9 rmX0_read) (v1 v2 v3 v4 : Int32) (σ : dS) {out} (h : dk_read_b30 v1 v2 v3 v4 σ = some out) (k : dK E cX0_read (some .boolean) out) : dG E σ 30 [v1, v2, v3, v4] [] := by
  unfold dk_read_b30 at h
  refine dg_iload hE dX0_read_30 3 rfl rfl ?_
  refine dg_aload0 hE dX0_read_32 ?_
  refine dk_gf17 hE dX0_read_33 ?_
  refine dg_sipush hE dX0_read_36 (v := (320 : Int32)) (by decide) ?_
  refine dg_iload_n hE dX0_read_39 2 rfl rfl ?_
  refine dg_iadd hE dX0_read_40 ?_
  refine dk_ld17 hE dX0_read_41 h (fun h => ?_)
  refine dk_ca_arity hE (by decide) dX0_read_42 (Nat.le_of_ble_eq_true rfl) h (fun r_ h => ?_)
  exact w_dk_read_b45 hE v1 v2 v3 v4 r_ σ h k
theorem w_dk_read_b14 {E : dEnv} {l : Launch} {G : dGeo} (hE : dkOk E l G cX0_read 9 rmX0_read) (v1 v2 v3 : Int32) (σ : dS) {out} (h : dk_read_b14 v1 v2 v3 σ = some out) (k : dK E cX0_read (some .boolean) out) : dG E σ 14 [v1, v2, v3] [] := by
  unfold dk_read_b14 at h
  refine dg_iload_n hE dX0_read_14 2 rfl rfl ?_
  refine dg_if_lt hE dX0_read_15 (tgt := 291) (by decide) h (fun h => ?_) (fun h => ?_)
  · refine dg_iload_n hE dX0_read_291 1 rfl rfl ?_
    refine dg_iconst hE dX0_read_292 (v := (1 : Int32)) (by decide) ?_
    refine dg_icmp_ne hE dX0_read_293 (tgt := 300) (by decide) h (fun h => ?_) (fun h => ?_)
    · refine dg_iconst hE dX0_read_300 (v := (0 : Int32)) (by decide) ?_
      cases h
      exact k nz0 _ _ dX0_read_301
    · refine dg_iconst hE dX0_read_296 (v := (1 : Int32)) (by decide) ?_
      refine dg_goto hE dX0_read_297 (tgt := 301) (by decide) ?_
      cases h
      exact k nz1 _ _ dX0_read_301
  · refine dg_aload0 hE dX0_read_18 ?_
    refine dk_gf16 hE dX0_read_19 ?_
    refine dg_sipush hE dX0_read_22 (v := (320 : Int32)) (by decide) ?_
    refine dg_iload_n hE dX0_read_25 2 rfl rfl ?_
    refine dg_iadd hE dX0_read_26 ?_
    refine dk_ld16 hE dX0_read_27 h (fun h => ?_)
    refine dg_istore hE dX0_read_28 3 (xs' := [v1, v2, v3, (σ 16 ((320 : Int32) + v3).toNatClampNeg)]) rfl (Nat.le_of_ble_eq_true rfl) (by decide) rfl ?_
    exact w_dk_read_b30 hE v1 v2 v3 (σ 16 ((320 : Int32) + v3).toNatClampNeg) σ h k
theorem w_dk_read_b8 {E : dEnv} {l : Launch} {G : dGeo} (hE : dkOk E l G cX0_read 9 rmX0_read) (v1 : Int32) (σ : dS) {out} (h : dk_read_b8 v1 σ = some out) (k : dK E cX0_read (some .boolean) out) : dG E σ 8 [v1] [] := by
  unfold dk_read_b8 at h
  refine dg_iconst hE dX0_read_8 (v := (0 : Int32)) (by decide) ?_
  refine dg_istore_n hE dX0_read_9 1 (xs' := [v1, (0 : Int32)]) rfl (Nat.le_of_ble_eq_true rfl) (by decide) rfl ?_
  refine dg_iload_n hE dX0_read_10 0 rfl rfl ?_
  refine dg_iconst hE dX0_read_11 (v := (1 : Int32)) (by decide) ?_
  refine dg_isub hE dX0_read_12 ?_
  refine dg_istore_n hE dX0_read_13 2 (xs' := [v1, (0 : Int32), (v1 - (1 : Int32))]) rfl (Nat.le_of_ble_eq_true rfl) (by decide) rfl ?_
  cases h
  exact k
theorem w_dk_read_b0 {E : dEnv} {l : Launch} {G : dGeo} (hE : dkOk E l G cX0_read 9 rmX0_read) (σ : dS) {out} (h : dk_read_b0 σ = some out) (k : dK E cX0_read (some .boolean) out) : dG E σ 0 [] [] := by
  unfold dk_read_b0 at h
  refine dg_aload0 hE dX0_read_0 ?_
  refine dk_gf21 hE dX0_read_1 ?_
  refine dg_bipush hE dX0_read_4 (v := (8 : Int32)) (by decide) ?_
  refine dk_ld21 hE dX0_read_6 h (fun h => ?_)
  refine dg_istore_n hE dX0_read_7 0 (xs' := [(σ 21 (8 : Int32).toNatClampNeg)]) rfl (Nat.le_of_ble_eq_true rfl) (by decide) rfl ?_
  exact w_dk_read_b8 hE (σ 21 (8 : Int32).toNatClampNeg) σ h k
theorem w_dk_read_st {E : dEnv} {l : Launch} {G : dGeo} (hE : dkOk E l G cX0_read 9 rmX0_read) (a : Nat × List Int32 × dS) {out} (h : dk_read_st a = some out) (k : dK E cX0_read (some .boolean) out) : dG E a.2.2 a.1 a.2.1 [] := by
  obtain ⟨L, xs, σ⟩ := a
  unfold dk_read_st at h
  dsimp only at h ⊢
  by_cases c_ : L = 14
  · subst c_
    rw [if_pos rfl] at h
    match xs, h with
    | [x0, x1, x2], h => exact w_dk_read_b14 hE x0 x1 x2 σ h k
    | [], h => cases h
    | [_], h => cases h
    | [_, _], h => cases h
    | _ :: _ :: _ :: _ :: _, h => cases h
  rw [if_neg c_] at h
  cases h
theorem met_dk_read (l : Launch) (G : dGeo) (sz : Nat) (σ : dS) {r : Int32 × dS} (h : dk_read σ = some r) : Met l yX0_read (ws_ yX0_read cX0_read 9 (some .boolean)) rmX0_read (dPc G.1 (dk_ty G) (dk_w G σ) sz [.ref G.2.1]) (dQi G.1 (dk_ty G) (dk_w G σ) (dk_w G r.2) sz r.1) 0 0 (va_A (dk_w G σ) sz) := by
  refine dMet_i (w := dk_w G) (σ := σ) (σ' := r.2) (th := [(0, .ref G.2.1)]) (b := 1) (xs := []) (by decide) rfl rfl (Nat.le_of_ble_eq_true rfl) dth (fun E hE k => ?_)
  unfold dk_read at h
  obtain ⟨out, h1, h2⟩ := lpB_some h
  exact w_dk_read_b0 hE σ h1 (dK_lp (fun a out => w_dk_read_st hE a) h2 k)
theorem dk_ca_read {E : dEnv} {l : Launch} {G : dGeo} {cc : ByteArray} {nL pc : Nat} {R : Room} {σ : dS} {xs : List Int32} {st : List Value} {τ : Type} {g : Int32 × dS → Option τ} {out : τ} (hE : dkOk E l G cc nL R) (hR : 1 + 1 ≤ R.frames ∧ 8 + (9 + 11) + 22 ≤ R.locals) (hd : decode cc pc = .ok (.invokevirtual 164, 3)) (hs : (st.map fun v => v.category).sum ≤ 8) (h : Option.bind (dk_read σ) g = some out) (k : ∀ r, g r = some out → dG E r.2 (pc + 3) xs (.int r.1 :: st)) : dG E σ pc xs (.ref G.2.1 :: st) := by
  obtain ⟨r, h1, h2⟩ := obind h
  exact dg_callVi hE (As := []) (st := st) (C := RX0) (rm := rmX0_read) (dk_recv G) (fun sz => met_dk_read l G sz σ h1) (lw_V q240 q242 qs7 q50 q243) 0 rfl ⟨rfl, rfl⟩ (by decide +kernel) hR rfl hs hd (k r h2)
abbrev rmX0_expression : Room := { frames := 2, cells := 0, slots := 0, locals := 50 }
theorem w_dk_expression_b174 {E : dEnv} {l : Launch} {G : dGeo} (hE : dkOk E l G cX0_expression 6 rmX0_expression) (v1 : Int32) (σ : dS) {out} (h : dk_expression_b174 v1 σ = some out) (k : dK E cX0_expression (some .int) out) : dG E σ 174 [v1] [] := by
  unfold dk_expression_b174 at h
  refine dg_aload0 hE dX0_expression_174 ?_
  refine dk_gf18 hE dX0_expression_175 ?_
  refine dg_bipush hE dX0_expression_178 (v := (40 : Int32)) (by decide) ?_
  refine dg_iload_n hE dX0_expression_180 0 rfl rfl ?_
  refine dg_imul hE dX0_expression_181 ?_
  refine dk_ld18 hE dX0_expression_182 h (fun h => ?_)
  cases h
  exact k rfl _ _ dX0_expression_183
theorem w_dk_expression_b169 {E : dEnv} {l : Launch} {G : dGeo} (hE : dkOk E l G cX0_expression 6 rmX0_expression) (v1 : Int32) (σ : dS) {out} (h : dk_expression_b169 v1 σ = some out) (k : dK E cX0_expression (some .int) out) : dG E σ 169 [v1] [] := by
  unfold dk_expression_b169 at h
  refine dg_aload0 hE dX0_expression_169 ?_
  refine dg_iconst hE dX0_expression_170 (v := (0 : Int32)) (by decide) ?_
  refine dk_pf33 hE dX0_expression_171 rfl rfl ?_
  exact w_dk_expression_b174 hE v1 (up2 σ 33 0 (0 : Int32)) h k
theorem w_dk_expression_b162 {E : dEnv} {l : Launch} {G : dGeo} (hE : dkOk E l G cX0_expression 6 rmX0_expression) (v1 : Int32) (σ : dS) {out} (h : dk_expression_b162 v1 σ = some out) (k : dK E cX0_expression (some .int) out) : dG E σ 162 [v1] [] := by
  unfold dk_expression_b162 at h
  refine dg_aload0 hE dX0_expression_162 ?_
  refine dk_gf25 hE dX0_expression_163 ?_
  refine dg_iload_n hE dX0_expression_166 0 rfl rfl ?_
  refine dg_iconst hE dX0_expression_167 (v := (0 : Int32)) (by decide) ?_
  refine dk_as25 hE dX0_expression_168 h (fun h => ?_)
  exact w_dk_expression_b169 hE v1 (up2 σ 25 v1.toNatClampNeg (vp_nar .boolean (0 : Int32))) h k
theorem w_dk_expression_b130 {E : dEnv} {l : Launch} {G : dGeo} (hE : dkOk E l G cX0_expression 6 rmX0_expression) (v1 v2 v3 v4 v5 : Int32) (σ : dS) {out} (h : dk_expression_b130 v1 v2 v3 v4 v5 σ = some out) (k : dK E cX0_expression (some .int) out) : dG E σ 130 [v1, v2, v3, v4, v5] [] := by
  unfold dk_expression_b130 at h
  refine dg_aload0 hE dX0_expression_130 ?_
  refine dk_gf20 hE dX0_expression_131 ?_
  refine dg_iload hE dX0_expression_134 4 rfl rfl ?_
  refine dg_aload0 hE dX0_expression_136 ?_
  refine dk_gf20 hE dX0_expression_137 ?_
  refine dg_sipush hE dX0_expression_140 (v := (320 : Int32)) (by decide) ?_
  refine dg_iload hE dX0_expression_143 3 rfl rfl ?_
  refine dg_iadd hE dX0_expression_145 ?_
  refine dk_ld20 hE dX0_expression_146 h (fun h => ?_)
  refine dk_as20 hE dX0_expression_147 h (fun h => ?_)
  refine dg_iinc hE dX0_expression_148 3 (xs' := [v1, v2, v3, (v4 + (1 : Int32)), v5]) rfl rfl (by decide) rfl ?_
  refine dg_goto hE dX0_expression_151 (tgt := 43) (by decide) ?_
  refine dg_drop (xs' := [v1, v2, v3, (v4 + (1 : Int32))]) (ys := [v5]) rfl ?_
  cases h
  exact k
theorem w_dk_expression_b112 {E : dEnv} {l : Launch} {G : dGeo} (hE : dkOk E l G cX0_expression 6 rmX0_expression) (v1 v2 v3 v4 v5 : Int32) (σ : dS) {out} (h : dk_expression_b112 v1 v2 v3 v4 v5 σ = some out) (k : dK E cX0_expression (some .int) out) : dG E σ 112 [v1, v2, v3, v4, v5] [] := by
  unfold dk_expression_b112 at h
  refine dg_aload0 hE dX0_expression_112 ?_
  refine dk_gf19 hE dX0_expression_113 ?_
  refine dg_iload hE dX0_expression_116 4 rfl rfl ?_
  refine dg_aload0 hE dX0_expression_118 ?_
  refine dk_gf19 hE dX0_expression_119 ?_
  refine dg_sipush hE dX0_expression_122 (v := (320 : Int32)) (by decide) ?_
  refine dg_iload hE dX0_expression_125 3 rfl rfl ?_
  refine dg_iadd hE dX0_expression_127 ?_
  refine dk_ld19 hE dX0_expression_128 h (fun h => ?_)
  refine dk_as19 hE dX0_expression_129 h (fun h => ?_)
  exact w_dk_expression_b130 hE v1 v2 v3 v4 v5 (up2 σ 19 v5.toNatClampNeg (vp_nar .byte (σ 19 ((320 : Int32) + v4).toNatClampNeg))) h k
theorem w_dk_expression_b94 {E : dEnv} {l : Launch} {G : dGeo} (hE : dkOk E l G cX0_expression 6 rmX0_expression) (v1 v2 v3 v4 v5 : Int32) (σ : dS) {out} (h : dk_expression_b94 v1 v2 v3 v4 v5 σ = some out) (k : dK E cX0_expression (some .int) out) : dG E σ 94 [v1, v2, v3, v4, v5] [] := by
  unfold dk_expression_b94 at h
  refine dg_aload0 hE dX0_expression_94 ?_
  refine dk_gf18 hE dX0_expression_95 ?_
  refine dg_iload hE dX0_expression_98 4 rfl rfl ?_
  refine dg_aload0 hE dX0_expression_100 ?_
  refine dk_gf18 hE dX0_expression_101 ?_
  refine dg_sipush hE dX0_expression_104 (v := (320 : Int32)) (by decide) ?_
  refine dg_iload hE dX0_expression_107 3 rfl rfl ?_
  refine dg_iadd hE dX0_expression_109 ?_
  refine dk_ld18 hE dX0_expression_110 h (fun h => ?_)
  refine dk_as18 hE dX0_expression_111 h (fun h => ?_)
  exact w_dk_expression_b112 hE v1 v2 v3 v4 v5 (up2 σ 18 v5.toNatClampNeg (vp_nar .byte (σ 18 ((320 : Int32) + v4).toNatClampNeg))) h k
theorem w_dk_expression_b76 {E : dEnv} {l : Launch} {G : dGeo} (hE : dkOk E l G cX0_expression 6 rmX0_expression) (v1 v2 v3 v4 v5 : Int32) (σ : dS) {out} (h : dk_expression_b76 v1 v2 v3 v4 v5 σ = some out) (k : dK E cX0_expression (some .int) out) : dG E σ 76 [v1, v2, v3, v4, v5] [] := by
  unfold dk_expression_b76 at h
  refine dg_aload0 hE dX0_expression_76 ?_
  refine dk_gf17 hE dX0_expression_77 ?_
  refine dg_iload hE dX0_expression_80 4 rfl rfl ?_
  refine dg_aload0 hE dX0_expression_82 ?_
  refine dk_gf17 hE dX0_expression_83 ?_
  refine dg_sipush hE dX0_expression_86 (v := (320 : Int32)) (by decide) ?_
  refine dg_iload hE dX0_expression_89 3 rfl rfl ?_
  refine dg_iadd hE dX0_expression_91 ?_
  refine dk_ld17 hE dX0_expression_92 h (fun h => ?_)
  refine dk_as17 hE dX0_expression_93 h (fun h => ?_)
  exact w_dk_expression_b94 hE v1 v2 v3 v4 v5 (up2 σ 17 v5.toNatClampNeg (σ 17 ((320 : Int32) + v4).toNatClampNeg)) h k
theorem w_dk_expression_b58 {E : dEnv} {l : Launch} {G : dGeo} (hE : dkOk E l G cX0_expression 6 rmX0_expression) (v1 v2 v3 v4 v5 : Int32) (σ : dS) {out} (h : dk_expression_b58 v1 v2 v3 v4 v5 σ = some out) (k : dK E cX0_expression (some .int) out) : dG E σ 58 [v1, v2, v3, v4, v5] [] := by
  unfold dk_expression_b58 at h
  refine dg_aload0 hE dX0_expression_58 ?_
  refine dk_gf16 hE dX0_expression_59 ?_
  refine dg_iload hE dX0_expression_62 4 rfl rfl ?_
  refine dg_aload0 hE dX0_expression_64 ?_
  refine dk_gf16 hE dX0_expression_65 ?_
  refine dg_sipush hE dX0_expression_68 (v := (320 : Int32)) (by decide) ?_
  refine dg_iload hE dX0_expression_71 3 rfl rfl ?_
  refine dg_iadd hE dX0_expression_73 ?_
  refine dk_ld16 hE dX0_expression_74 h (fun h => ?_)
  refine dk_as16 hE dX0_expression_75 h (fun h => ?_)
  exact w_dk_expression_b76 hE v1 v2 v3 v4 v5 (up2 σ 16 v5.toNatClampNeg (vp_nar .byte (σ 16 ((320 : Int32) + v4).toNatClampNeg))) h k
theorem w_dk_expression_b43 {E : dEnv} {l : Launch} {G : dGeo} (hE : dkOk E l G cX0_expression 6 rmX0_expression) (v1 v2 v3 v4 : Int32) (σ : dS) {out} (h : dk_expression_b43 v1 v2 v3 v4 σ = some out) (k : dK E cX0_expression (some .int) out) : dG E σ 43 [v1, v2, v3, v4] [] := by
  unfold dk_expression_b43 at h
  refine dg_iload hE dX0_expression_43 3 rfl rfl ?_
  refine dg_iload_n hE dX0_expression_45 2 rfl rfl ?_
  refine dg_icmp_ge hE dX0_expression_46 (tgt := 154) (by decide) h (fun h => ?_) (fun h => ?_)
  · refine dg_aload0 hE dX0_expression_154 ?_
    refine dk_gf21 hE dX0_expression_155 ?_
    refine dg_iload_n hE dX0_expression_158 0 rfl rfl ?_
    refine dg_iload_n hE dX0_expression_159 2 rfl rfl ?_
    refine dg_i2b hE dX0_expression_160 ?_
    refine dk_as21 hE dX0_expression_161 h (fun h => ?_)
    refine dg_drop (xs' := [v1]) (ys := [v2, v3, v4]) rfl ?_
    exact w_dk_expression_b162 hE v1 (up2 σ 21 v1.toNatClampNeg (vp_nar .byte (v3.toInt8.toInt32))) h k
  · refine dg_bipush hE dX0_expression_49 (v := (40 : Int32)) (by decide) ?_
    refine dg_iload_n hE dX0_expression_51 0 rfl rfl ?_
    refine dg_imul hE dX0_expression_52 ?_
    refine dg_iload hE dX0_expression_53 3 rfl rfl ?_
    refine dg_iadd hE dX0_expression_55 ?_
    refine dg_istore hE dX0_expression_56 4 (xs' := [v1, v2, v3, v4, (((40 : Int32) * v1) + v4)]) rfl (Nat.le_of_ble_eq_true rfl) (by decide) rfl ?_
    exact w_dk_expression_b58 hE v1 v2 v3 v4 (((40 : Int32) * v1) + v4) σ h k
theorem w_dk_expression_b33 {E : dEnv} {l : Launch} {G : dGeo} (hE : dkOk E l G cX0_expression 6 rmX0_expression) (v1 v2 v3 : Int32) (σ : dS) {out} (h : dk_expression_b33 v1 v2 v3 σ = some out) (k : dK E cX0_expression (some .int) out) : dG E σ 33 [v1, v2, v3] [] := by
  unfold dk_expression_b33 at h
  refine dg_iload_n hE dX0_expression_33 1 rfl rfl ?_
  refine dg_if_ne hE dX0_expression_34 (tgt := 40) (by decide) h (fun h => ?_) (fun h => ?_)
  · refine dg_iconst hE dX0_expression_40 (v := (0 : Int32)) (by decide) ?_
    refine dg_istore hE dX0_expression_41 3 (xs' := [v1, v2, v3, (0 : Int32)]) rfl (Nat.le_of_ble_eq_true rfl) (by decide) rfl ?_
    cases h
    exact k
  · refine dg_bipush hE dX0_expression_37 (v := (-2 : Int32)) (by decide) ?_
    cases h
    exact k rfl _ _ dX0_expression_39
theorem w_dk_expression_b25 {E : dEnv} {l : Launch} {G : dGeo} (hE : dkOk E l G cX0_expression 6 rmX0_expression) (v1 v2 v3 : Int32) (σ : dS) {out} (h : dk_expression_b25 v1 v2 v3 σ = some out) (k : dK E cX0_expression (some .int) out) : dG E σ 25 [v1, v2, v3] [] := by
  unfold dk_expression_b25 at h
  refine dg_aload0 hE dX0_expression_25 ?_
  refine dk_gf21 hE dX0_expression_26 ?_
  refine dg_bipush hE dX0_expression_29 (v := (8 : Int32)) (by decide) ?_
  refine dg_iconst hE dX0_expression_31 (v := (0 : Int32)) (by decide) ?_
  refine dk_as21 hE dX0_expression_32 h (fun h => ?_)
  exact w_dk_expression_b33 hE v1 v2 v3 (up2 σ 21 (8 : Int32).toNatClampNeg (vp_nar .byte (0 : Int32))) h k
theorem w_dk_expression_b16 {E : dEnv} {l : Launch} {G : dGeo} (hE : dkOk E l G cX0_expression 6 rmX0_expression) (v1 s0 : Int32) (σ : dS) {out} (h : dk_expression_b16 v1 s0 σ = some out) (k : dK E cX0_expression (some .int) out) : dG E σ 16 [v1] [.int s0] := by
  unfold dk_expression_b16 at h
  refine dg_istore_n hE dX0_expression_16 1 (xs' := [v1, s0]) rfl (Nat.le_of_ble_eq_true rfl) (by decide) rfl ?_
  refine dg_aload0 hE dX0_expression_17 ?_
  refine dk_gf21 hE dX0_expression_18 ?_
  refine dg_bipush hE dX0_expression_21 (v := (8 : Int32)) (by decide) ?_
  refine dk_ld21 hE dX0_expression_23 h (fun h => ?_)
  refine dg_istore_n hE dX0_expression_24 2 (xs' := [v1, s0, (σ 21 (8 : Int32).toNatClampNeg)]) rfl (Nat.le_of_ble_eq_true rfl) (by decide) rfl ?_
  exact w_dk_expression_b25 hE v1 s0 (σ 21 (8 : Int32).toNatClampNeg) σ h k
theorem w_dk_expression_b0 {E : dEnv} {l : Launch} {G : dGeo} (hE : dkOk E l G cX0_expression 6 rmX0_expression) (v1 : Int32) (σ : dS) {out} (h : dk_expression_b0 v1 σ = some out) (k : dK E cX0_expression (some .int) out) : dG E σ 0 [v1] [] := by
  unfold dk_expression_b0 at h
  refine dg_iload_n hE dX0_expression_0 0 rfl rfl ?_
  refine dg_if_lt hE dX0_expression_1 (tgt := 10) (by decide) h (fun h => ?_) (fun h => ?_)
  · refine dg_iconst hE dX0_expression_10 (v := (-1 : Int32)) (by decide) ?_
    cases h
    exact k rfl _ _ dX0_expression_11
  · refine dg_iload_n hE dX0_expression_4 0 rfl rfl ?_
    refine dg_bipush hE dX0_expression_5 (v := (7 : Int32)) (by decide) ?_
    refine dg_icmp_le hE dX0_expression_7 (tgt := 12) (by decide) h (fun h => ?_) (fun h => ?_)
    · refine dg_aload0 hE dX0_expression_12 ?_
      refine dk_ca_read hE (by decide) dX0_expression_13 (Nat.le_of_ble_eq_true rfl) h (fun r_ h => ?_)
      exact w_dk_expression_b16 hE v1 (r_.1) (r_.2) h k
    · refine dg_iconst hE dX0_expression_10 (v := (-1 : Int32)) (by decide) ?_
      cases h
      exact k rfl _ _ dX0_expression_11
theorem w_dk_expression_st {E : dEnv} {l : Launch} {G : dGeo} (hE : dkOk E l G cX0_expression 6 rmX0_expression) (a : Nat × List Int32 × dS) {out} (h : dk_expression_st a = some out) (k : dK E cX0_expression (some .int) out) : dG E a.2.2 a.1 a.2.1 [] := by
  obtain ⟨L, xs, σ⟩ := a
  unfold dk_expression_st at h
  dsimp only at h ⊢
  by_cases c_ : L = 43
  · subst c_
    rw [if_pos rfl] at h
    match xs, h with
    | [x0, x1, x2, x3], h => exact w_dk_expression_b43 hE x0 x1 x2 x3 σ h k
    | [], h => cases h
    | [_], h => cases h
    | [_, _], h => cases h
    | [_, _, _], h => cases h
    | _ :: _ :: _ :: _ :: _ :: _, h => cases h
  rw [if_neg c_] at h
  cases h
theorem met_dk_expression (l : Launch) (G : dGeo) (sz : Nat) (v1 : Int32) (σ : dS) {r : Int32 × dS} (h : dk_expression v1 σ = some r) : Met l yX0_expression (ws_ yX0_expression cX0_expression 6 (some .int)) rmX0_expression (dPc G.1 (dk_ty G) (dk_w G σ) sz [.ref G.2.1, .int v1]) (dQi G.1 (dk_ty G) (dk_w G σ) (dk_w G r.2) sz r.1) 0 0 (va_A (dk_w G σ) sz) := by
  refine dMet_i (w := dk_w G) (σ := σ) (σ' := r.2) (th := [(0, .ref G.2.1)]) (b := 1) (xs := [v1]) (by decide) rfl rfl (Nat.le_of_ble_eq_true rfl) dth (fun E hE k => ?_)
  unfold dk_expression at h
  obtain ⟨out, h1, h2⟩ := lpB_some h
  exact w_dk_expression_b0 hE v1 σ h1 (dK_lp (fun a out => w_dk_expression_st hE a) h2 k)
