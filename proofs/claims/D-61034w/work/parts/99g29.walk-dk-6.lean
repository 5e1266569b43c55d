set_option maxRecDepth 100000
abbrev rmX0_output : Room := { frames := 0, cells := 0, slots := 0, locals := 0 }
theorem w_dk_output_b0 {E : dEnv} {l : Launch} {G : dGeo} (hE : dkOk E l G cX0_output 2 rmX0_output) (v1 : Int32) (σ : dS) {out} (h : dk_output_b0 v1 σ = some out) (k : dR E cX0_output (some .int) out) : dG E σ 0 [v1] [] := by
  unfold dk_output_b0 at h
  refine dg_iload_n hE dX0_output_0 0 rfl rfl ?_
  refine dg_if_lt hE dX0_output_1 (tgt := 21) (by decide) h (fun h => ?_) (fun h => ?_)
  · refine dg_iconst hE dX0_output_21 (v := (0 : Int32)) (by decide) ?_
    cases h
    exact k rfl _ _ dX0_output_22
  · refine dg_iload_n hE dX0_output_4 0 rfl rfl ?_
    refine dg_aload0 hE dX0_output_5 ?_
    refine dk_gf38 hE dX0_output_6 ?_
    refine dg_icmp_ge hE dX0_output_9 (tgt := 21) (by decide) h (fun h => ?_) (fun h => ?_)
    · refine dg_iconst hE dX0_output_21 (v := (0 : Int32)) (by decide) ?_
      cases h
      exact k rfl _ _ dX0_output_22
    · refine dg_aload0 hE dX0_output_12 ?_
      refine dk_gf37 hE dX0_output_13 ?_
      refine dg_iload_n hE dX0_output_16 0 rfl rfl ?_
      refine dk_ld37 hE dX0_output_17 h (fun h => ?_)
      refine dg_goto hE dX0_output_18 (tgt := 22) (by decide) ?_
      cases h
      exact k rfl _ _ dX0_output_22
theorem met_dk_output (l : Launch) (G : dGeo) (sz : Nat) (v1 : Int32) (σ : dS) {r : Int32 × dS} (h : dk_output v1 σ = some r) : Met l yX0_output (ws_ yX0_output cX0_output 2 (some .int)) rmX0_output (dPc G.1 (dk_ty G) (dk_w G σ) sz [.ref G.2.1, .int v1]) (dQi G.1 (dk_ty G) (dk_w G σ) (dk_w G r.2) sz r.1) 0 0 (va_A (dk_w G σ) sz) := by
  refine dMet_i (w := dk_w G) (σ := σ) (σ' := r.2) (th := [(0, .ref G.2.1)]) (b := 1) (xs := [v1]) (by decide) rfl rfl (Nat.le_of_ble_eq_true rfl) dth (fun E hE k => ?_)
  unfold dk_output at h
  exact w_dk_output_b0 hE v1 σ h k
