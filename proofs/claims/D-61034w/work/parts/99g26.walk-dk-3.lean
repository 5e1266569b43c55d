set_option maxRecDepth 100000
abbrev rmX0_bits : Room := { frames := 0, cells := 0, slots := 0, locals := 0 }
theorem w_dk_bits_b4 {E : dEnv} {l : Launch} {D : va_G} (hE : dsOk E l D cX0_bits RX0 3 rmX0_bits) (v0 v1 v2 : Int32) {σ : dS} {out} (h : dk_bits_b4 v0 v1 v2 = some out) (k : dKs E cX0_bits (some .int) σ out) : dG E σ 4 [v0, v1, v2] [] := by
  unfold dk_bits_b4 at h
  refine dg_iload_n hE dX0_bits_4 2 rfl rfl ?_
  refine dg_if_eq hE dX0_bits_5 (tgt := 20) (by decide) h (fun h => ?_) (fun h => ?_)
  · refine dg_iload_n hE dX0_bits_20 1 rfl rfl ?_
    cases h
    exact k rfl _ _ dX0_bits_21
  · refine dg_iinc hE dX0_bits_8 1 (xs' := [v0, (v1 + (1 : Int32)), v2]) rfl rfl (by decide) rfl ?_
    refine dg_iload_n hE dX0_bits_11 2 rfl rfl ?_
    refine dg_iload_n hE dX0_bits_12 2 rfl rfl ?_
    refine dg_iconst hE dX0_bits_13 (v := (1 : Int32)) (by decide) ?_
    refine dg_isub hE dX0_bits_14 ?_
    refine dg_iand hE dX0_bits_15 ?_
    refine dg_istore_n hE dX0_bits_16 2 (xs' := [v0, (v1 + (1 : Int32)), (v2 &&& (v2 - (1 : Int32)))]) rfl (Nat.le_of_ble_eq_true rfl) (by decide) rfl ?_
    refine dg_goto hE dX0_bits_17 (tgt := 4) (by decide) ?_
    cases h
    exact k
theorem w_dk_bits_b0 {E : dEnv} {l : Launch} {D : va_G} (hE : dsOk E l D cX0_bits RX0 3 rmX0_bits) (v0 : Int32) {σ : dS} {out} (h : dk_bits_b0 v0 = some out) (k : dKs E cX0_bits (some .int) σ out) : dG E σ 0 [v0] [] := by
  unfold dk_bits_b0 at h
  refine dg_iconst hE dX0_bits_0 (v := (0 : Int32)) (by decide) ?_
  refine dg_istore_n hE dX0_bits_1 1 (xs' := [v0, (0 : Int32)]) rfl (Nat.le_of_ble_eq_true rfl) (by decide) rfl ?_
  refine dg_iload_n hE dX0_bits_2 0 rfl rfl ?_
  refine dg_istore_n hE dX0_bits_3 2 (xs' := [v0, (0 : Int32), v0]) rfl (Nat.le_of_ble_eq_true rfl) (by decide) rfl ?_
  cases h
  exact k
theorem w_dk_bits_st {E : dEnv} {l : Launch} {D : va_G} (hE : dsOk E l D cX0_bits RX0 3 rmX0_bits) {σ : dS} (a : Nat × List Int32) {out} (h : dk_bits_st a = some out) (k : dKs E cX0_bits (some .int) σ out) : dG E σ a.1 a.2 [] := by
  obtain ⟨L, xs⟩ := a
  unfold dk_bits_st at h
  dsimp only at h ⊢
  by_cases c_ : L = 4
  · subst c_
    rw [if_pos rfl] at h
    match xs, h with
    | [x0, x1, x2], h => exact w_dk_bits_b4 hE x0 x1 x2 h k
    | [], h => cases h
    | [_], h => cases h
    | [_, _], h => cases h
    | _ :: _ :: _ :: _ :: _, h => cases h
  rw [if_neg c_] at h
  cases h
theorem met_dk_bits (l : Launch) (D : va_G) (sz : Nat) (v0 : Int32) {r : Int32} (h : dk_bits v0 = some r) : Met l yX0_bits (ws_ yX0_bits cX0_bits 3 (some .int)) rmX0_bits (dPc D [] [] sz [.int v0]) (dQi D [] [] [] sz r) 0 0 (va_A [] sz) := by
  refine dMet_i (w := fun _ => []) (σ := fun _ _ => 0) (σ' := fun _ _ => 0) (th := []) (b := 0) (xs := [v0]) (by decide) rfl rfl (Nat.le_of_ble_eq_true rfl) (fun q hq => by cases hq) (fun E hE k => ?_)
  unfold dk_bits at h
  obtain ⟨out, h1, h2⟩ := lpB_some h
  exact w_dk_bits_b0 hE v0 h1 (dKs_lp (fun a out => w_dk_bits_st hE a) h2 k)
theorem dk_ca_bits {E : dEnv} {l : Launch} {D : va_G} {tys : List (ClassId × FieldType)} {w : dS → va_W} {th : List (Nat × Value)} {b : Nat} {cc : ByteArray} {nL pc : Nat} {R : Room} {σ : dS} {xs : List Int32} {st : List Value} {τ : Type} {g : Int32 → Option τ} {out : τ} {a0 : Int32} (hE : dOk E cc RX0 l R nL D tys w th b) (hR : 0 + 1 ≤ R.frames ∧ 8 + (3 + 11) + 0 ≤ R.locals) (hd : decode cc pc = .ok (.invokestatic 188, 3)) (hs : (st.map fun v => v.category).sum ≤ 8) (h : Option.bind (dk_bits a0) g = some out) (k : ∀ r, g r = some out → dG E σ (pc + 3) xs (.int r :: st)) : dG E σ pc xs (.int a0 :: st) := by
  obtain ⟨r, h1, h2⟩ := obind h
  exact dg_callS hE (As := [.int a0]) (st := st) (rm := rmX0_bits) (fun sz => met_dk_bits l D sz a0 h1) (lw_S q281 q282 q50 q283) 1 rfl ⟨rfl, rfl⟩ (by decide +kernel) hR rfl hs hd (k r h2)
abbrev rmX0_isThere : Room := { frames := 1, cells := 0, slots := 0, locals := 21 }
theorem w_dk_isThere_b24 {E : dEnv} {l : Launch} {G : dGeo} (hE : dkOk E l G cX0_isThere 3 rmX0_isThere) (s0 : Int32) (σ : dS) {out} (h : dk_isThere_b24 s0 σ = some out) (k : dR E cX0_isThere (some .boolean) out) : dG E σ 24 [] [.int s0] := by
  unfold dk_isThere_b24 at h
  refine dg_if_eq hE dX0_isThere_24 (tgt := 31) (by decide) h (fun h => ?_) (fun h => ?_)
  · refine dg_iconst hE dX0_isThere_31 (v := (0 : Int32)) (by decide) ?_
    cases h
    exact k nz0 _ _ dX0_isThere_32
  · refine dg_iconst hE dX0_isThere_27 (v := (1 : Int32)) (by decide) ?_
    refine dg_goto hE dX0_isThere_28 (tgt := 32) (by decide) ?_
    cases h
    exact k nz1 _ _ dX0_isThere_32
theorem w_dk_isThere_b0 {E : dEnv} {l : Launch} {G : dGeo} (hE : dkOk E l G cX0_isThere 3 rmX0_isThere) (v1 v2 : Int32) (σ : dS) {out} (h : dk_isThere_b0 v1 v2 σ = some out) (k : dR E cX0_isThere (some .boolean) out) : dG E σ 0 [v1, v2] [] := by
  unfold dk_isThere_b0 at h
  refine dg_iload_n hE dX0_isThere_0 0 rfl rfl ?_
  refine dg_if_lt hE dX0_isThere_1 (tgt := 31) (by decide) h (fun h => ?_) (fun h => ?_)
  · refine dg_iconst hE dX0_isThere_31 (v := (0 : Int32)) (by decide) ?_
    cases h
    exact k nz0 _ _ dX0_isThere_32
  · refine dg_iload_n hE dX0_isThere_4 0 rfl rfl ?_
    refine dg_bipush hE dX0_isThere_5 (v := (8 : Int32)) (by decide) ?_
    refine dg_icmp_ge hE dX0_isThere_7 (tgt := 31) (by decide) h (fun h => ?_) (fun h => ?_)
    · refine dg_iconst hE dX0_isThere_31 (v := (0 : Int32)) (by decide) ?_
      cases h
      exact k nz0 _ _ dX0_isThere_32
    · refine dg_aload0 hE dX0_isThere_10 ?_
      refine dk_gf21 hE dX0_isThere_11 ?_
      refine dg_iload_n hE dX0_isThere_14 0 rfl rfl ?_
      refine dk_ld21 hE dX0_isThere_15 h (fun h => ?_)
      refine dg_if_le hE dX0_isThere_16 (tgt := 31) (by decide) h (fun h => ?_) (fun h => ?_)
      · refine dg_iconst hE dX0_isThere_31 (v := (0 : Int32)) (by decide) ?_
        cases h
        exact k nz0 _ _ dX0_isThere_32
      · refine dg_aload0 hE dX0_isThere_19 ?_
        refine dg_iload_n hE dX0_isThere_20 1 rfl rfl ?_
        refine dk_ca_isNode hE (by decide) dX0_isThere_21 (Nat.le_of_ble_eq_true rfl) h (fun r_ h => ?_)
        refine dg_drop (xs' := []) (ys := [v1, v2]) rfl ?_
        exact w_dk_isThere_b24 hE (r_.1) (r_.2) h k
theorem met_dk_isThere (l : Launch) (G : dGeo) (sz : Nat) (v1 v2 : Int32) (σ : dS) {r : Int32 × dS} (h : dk_isThere v1 v2 σ = some r) : Met l yX0_isThere (ws_ yX0_isThere cX0_isThere 3 (some .boolean)) rmX0_isThere (dPc G.1 (dk_ty G) (dk_w G σ) sz [.ref G.2.1, .int v1, .int v2]) (dQi G.1 (dk_ty G) (dk_w G σ) (dk_w G r.2) sz r.1) 0 0 (va_A (dk_w G σ) sz) := by
  refine dMet_i (w := dk_w G) (σ := σ) (σ' := r.2) (th := [(0, .ref G.2.1)]) (b := 1) (xs := [v1, v2]) (by decide) rfl rfl (Nat.le_of_ble_eq_true rfl) dth (fun E hE k => ?_)
  unfold dk_isThere at h
  exact w_dk_isThere_b0 hE v1 v2 σ h k
theorem dk_ca_isThere {E : dEnv} {l : Launch} {G : dGeo} {cc : ByteArray} {nL pc : Nat} {R : Room} {σ : dS} {xs : List Int32} {st : List Value} {τ : Type} {g : Int32 × dS → Option τ} {out : τ} {a0 a1 : Int32} (hE : dkOk E l G cc nL R) (hR : 1 + 1 ≤ R.frames ∧ 8 + (3 + 11) + 21 ≤ R.locals) (hd : decode cc pc = .ok (.invokevirtual 221, 3)) (hs : (st.map fun v => v.category).sum ≤ 8) (h : Option.bind (dk_isThere a0 a1 σ) g = some out) (k : ∀ r, g r = some out → dG E r.2 (pc + 3) xs (.int r.1 :: st)) : dG E σ pc xs (.int a1 :: .int a0 :: .ref G.2.1 :: st) := by
  obtain ⟨r, h1, h2⟩ := obind h
  exact dg_callVi hE (As := [.int a0, .int a1]) (st := st) (C := RX0) (rm := rmX0_isThere) (dk_recv G) (fun sz => met_dk_isThere l G sz a0 a1 σ h1) (lw_V q254 q256 qs8 q50 q257) 2 rfl ⟨rfl, rfl⟩ (by decide +kernel) hR rfl hs hd (k r h2)
abbrev rmX0_lowest : Room := { frames := 0, cells := 0, slots := 0, locals := 0 }
theorem w_dk_lowest_b2 {E : dEnv} {l : Launch} {D : va_G} (hE : dsOk E l D cX0_lowest RX0 2 rmX0_lowest) (v0 v1 : Int32) {σ : dS} {out} (h : dk_lowest_b2 v0 v1 = some out) (k : dKs E cX0_lowest (some .int) σ out) : dG E σ 2 [v0, v1] [] := by
  unfold dk_lowest_b2 at h
  refine dg_iload_n hE dX0_lowest_2 0 rfl rfl ?_
  refine dg_iload_n hE dX0_lowest_3 1 rfl rfl ?_
  refine dg_ishr hE dX0_lowest_4 ?_
  refine dg_iconst hE dX0_lowest_5 (v := (1 : Int32)) (by decide) ?_
  refine dg_iand hE dX0_lowest_6 ?_
  refine dg_if_ne hE dX0_lowest_7 (tgt := 16) (by decide) h (fun h => ?_) (fun h => ?_)
  · refine dg_iload_n hE dX0_lowest_16 1 rfl rfl ?_
    cases h
    exact k rfl _ _ dX0_lowest_17
  · refine dg_iinc hE dX0_lowest_10 1 (xs' := [v0, (v1 + (1 : Int32))]) rfl rfl (by decide) rfl ?_
    refine dg_goto hE dX0_lowest_13 (tgt := 2) (by decide) ?_
    cases h
    exact k
theorem w_dk_lowest_b0 {E : dEnv} {l : Launch} {D : va_G} (hE : dsOk E l D cX0_lowest RX0 2 rmX0_lowest) (v0 : Int32) {σ : dS} {out} (h : dk_lowest_b0 v0 = some out) (k : dKs E cX0_lowest (some .int) σ out) : dG E σ 0 [v0] [] := by
  unfold dk_lowest_b0 at h
  refine dg_iconst hE dX0_lowest_0 (v := (0 : Int32)) (by decide) ?_
  refine dg_istore_n hE dX0_lowest_1 1 (xs' := [v0, (0 : Int32)]) rfl (Nat.le_of_ble_eq_true rfl) (by decide) rfl ?_
  cases h
  exact k
theorem w_dk_lowest_st {E : dEnv} {l : Launch} {D : va_G} (hE : dsOk E l D cX0_lowest RX0 2 rmX0_lowest) {σ : dS} (a : Nat × List Int32) {out} (h : dk_lowest_st a = some out) (k : dKs E cX0_lowest (some .int) σ out) : dG E σ a.1 a.2 [] := by
  obtain ⟨L, xs⟩ := a
  unfold dk_lowest_st at h
  dsimp only at h ⊢
  by_cases c_ : L = 2
  · subst c_
    rw [if_pos rfl] at h
    match xs, h with
    | [x0, x1], h => exact w_dk_lowest_b2 hE x0 x1 h k
    | [], h => cases h
    | [_], h => cases h
    | _ :: _ :: _ :: _, h => cases h
  rw [if_neg c_] at h
  cases h
theorem met_dk_lowest (l : Launch) (D : va_G) (sz : Nat) (v0 : Int32) {r : Int32} (h : dk_lowest v0 = some r) : Met l yX0_lowest (ws_ yX0_lowest cX0_lowest 2 (some .int)) rmX0_lowest (dPc D [] [] sz [.int v0]) (dQi D [] [] [] sz r) 0 0 (va_A [] sz) := by
  refine dMet_i (w := fun _ => []) (σ := fun _ _ => 0) (σ' := fun _ _ => 0) (th := []) (b := 0) (xs := [v0]) (by decide) rfl rfl (Nat.le_of_ble_eq_true rfl) (fun q hq => by cases hq) (fun E hE k => ?_)
  unfold dk_lowest at h
  obtain ⟨out, h1, h2⟩ := lpB_some h
  exact w_dk_lowest_b0 hE v0 h1 (dKs_lp (fun a out => w_dk_lowest_st hE a) h2 k)
theorem dk_ca_lowest {E : dEnv} {l : Launch} {D : va_G} {tys : List (ClassId × FieldType)} {w : dS → va_W} {th : List (Nat × Value)} {b : Nat} {cc : ByteArray} {nL pc : Nat} {R : Room} {σ : dS} {xs : List Int32} {st : List Value} {τ : Type} {g : Int32 → Option τ} {out : τ} {a0 : Int32} (hE : dOk E cc RX0 l R nL D tys w th b) (hR : 0 + 1 ≤ R.frames ∧ 8 + (2 + 11) + 0 ≤ R.locals) (hd : decode cc pc = .ok (.invokestatic 197, 3)) (hs : (st.map fun v => v.category).sum ≤ 8) (h : Option.bind (dk_lowest a0) g = some out) (k : ∀ r, g r = some out → dG E σ (pc + 3) xs (.int r :: st)) : dG E σ pc xs (.int a0 :: st) := by
  obtain ⟨r, h1, h2⟩ := obind h
  exact dg_callS hE (As := [.int a0]) (st := st) (rm := rmX0_lowest) (fun sz => met_dk_lowest l D sz a0 h1) (lw_S q287 q288 q50 q289) 1 rfl ⟨rfl, rfl⟩ (by decide +kernel) hR rfl hs hd (k r h2)
abbrev rmX0_valueOf : Room := { frames := 1, cells := 0, slots := 0, locals := 21 }
theorem w_dk_valueOf_b16 {E : dEnv} {l : Launch} {G : dGeo} (hE : dkOk E l G cX0_valueOf 2 rmX0_valueOf) (s0 : Int32) (σ : dS) {out} (h : dk_valueOf_b16 s0 σ = some out) (k : dR E cX0_valueOf (some .int) out) : dG E σ 16 [] [.int s0, .ref (G.2.2.1 14)] := by
  unfold dk_valueOf_b16 at h
  refine dk_ld14 hE dX0_valueOf_16 h (fun h => ?_)
  cases h
  exact k rfl _ _ dX0_valueOf_17
theorem w_dk_valueOf_b0 {E : dEnv} {l : Launch} {G : dGeo} (hE : dkOk E l G cX0_valueOf 2 rmX0_valueOf) (v1 : Int32) (σ : dS) {out} (h : dk_valueOf_b0 v1 σ = some out) (k : dR E cX0_valueOf (some .int) out) : dG E σ 0 [v1] [] := by
  unfold dk_valueOf_b0 at h
  refine dg_iload_n hE dX0_valueOf_0 0 rfl rfl ?_
  refine dg_if_ne hE dX0_valueOf_1 (tgt := 8) (by decide) h (fun h => ?_) (fun h => ?_)
  · refine dg_aload0 hE dX0_valueOf_8 ?_
    refine dk_gf14 hE dX0_valueOf_9 ?_
    refine dg_iload_n hE dX0_valueOf_12 0 rfl rfl ?_
    refine dk_ca_lowest hE (by decide) dX0_valueOf_13 (Nat.le_of_ble_eq_true rfl) h (fun r_ h => ?_)
    refine dg_drop (xs' := []) (ys := [v1]) rfl ?_
    exact w_dk_valueOf_b16 hE r_ σ h k
  · refine dg_iconst hE dX0_valueOf_4 (v := (0 : Int32)) (by decide) ?_
    refine dg_goto hE dX0_valueOf_5 (tgt := 17) (by decide) ?_
    cases h
    exact k rfl _ _ dX0_valueOf_17
theorem met_dk_valueOf (l : Launch) (G : dGeo) (sz : Nat) (v1 : Int32) (σ : dS) {r : Int32 × dS} (h : dk_valueOf v1 σ = some r) : Met l yX0_valueOf (ws_ yX0_valueOf cX0_valueOf 2 (some .int)) rmX0_valueOf (dPc G.1 (dk_ty G) (dk_w G σ) sz [.ref G.2.1, .int v1]) (dQi G.1 (dk_ty G) (dk_w G σ) (dk_w G r.2) sz r.1) 0 0 (va_A (dk_w G σ) sz) := by
  refine dMet_i (w := dk_w G) (σ := σ) (σ' := r.2) (th := [(0, .ref G.2.1)]) (b := 1) (xs := [v1]) (by decide) rfl rfl (Nat.le_of_ble_eq_true rfl) dth (fun E hE k => ?_)
  unfold dk_valueOf at h
  exact w_dk_valueOf_b0 hE v1 σ h k
theorem dk_ca_valueOf {E : dEnv} {l : Launch} {G : dGeo} {cc : ByteArray} {nL pc : Nat} {R : Room} {σ : dS} {xs : List Int32} {st : List Value} {τ : Type} {g : Int32 × dS → Option τ} {out : τ} {a0 : Int32} (hE : dkOk E l G cc nL R) (hR : 1 + 1 ≤ R.frames ∧ 8 + (2 + 11) + 21 ≤ R.locals) (hd : decode cc pc = .ok (.invokevirtual 185, 3)) (hs : (st.map fun v => v.category).sum ≤ 8) (h : Option.bind (dk_valueOf a0 σ) g = some out) (k : ∀ r, g r = some out → dG E r.2 (pc + 3) xs (.int r.1 :: st)) : dG E σ pc xs (.int a0 :: .ref G.2.1 :: st) := by
  obtain ⟨r, h1, h2⟩ := obind h
  exact dg_callVi hE (As := [.int a0]) (st := st) (C := RX0) (rm := rmX0_valueOf) (dk_recv G) (fun sz => met_dk_valueOf l G sz a0 σ h1) (lw_V q298 q300 qs16 q50 q301) 1 rfl ⟨rfl, rfl⟩ (by decide +kernel) hR rfl hs hd (k r h2)
abbrev rmX0_extreme : Room := { frames := 2, cells := 0, slots := 0, locals := 42 }
theorem w_dk_extreme_b48 {E : dEnv} {l : Launch} {G : dGeo} (hE : dkOk E l G cX0_extreme 6 rmX0_extreme) (v1 v2 v3 v4 : Int32) (σ : dS) {out} (h : dk_extreme_b48 v1 v2 v3 v4 σ = some out) (k : dK E cX0_extreme (some .int) out) : dG E σ 48 [v1, v2, v3, v4] [] := by
  unfold dk_extreme_b48 at h
  refine dg_iload hE dX0_extreme_48 3 rfl rfl ?_
  refine dg_iload hE dX0_extreme_50 3 rfl rfl ?_
  refine dg_iconst hE dX0_extreme_52 (v := (1 : Int32)) (by decide) ?_
  refine dg_isub hE dX0_extreme_53 ?_
  refine dg_iand hE dX0_extreme_54 ?_
  refine dg_istore hE dX0_extreme_55 3 (xs' := [v1, v2, v3, (v4 &&& (v4 - (1 : Int32)))]) rfl (Nat.le_of_ble_eq_true rfl) (by decide) rfl ?_
  refine dg_goto hE dX0_extreme_57 (tgt := 9) (by decide) ?_
  cases h
  exact k
theorem w_dk_extreme_b45 {E : dEnv} {l : Launch} {G : dGeo} (hE : dkOk E l G cX0_extreme 6 rmX0_extreme) (v1 v2 v3 v4 v5 : Int32) (σ : dS) {out} (h : dk_extreme_b45 v1 v2 v3 v4 v5 σ = some out) (k : dK E cX0_extreme (some .int) out) : dG E σ 45 [v1, v2, v3, v4, v5] [] := by
  unfold dk_extreme_b45 at h
  refine dg_iload hE dX0_extreme_45 4 rfl rfl ?_
  refine dg_istore_n hE dX0_extreme_47 2 (xs' := [v1, v2, v5, v4, v5]) rfl (Nat.le_of_ble_eq_true rfl) (by decide) rfl ?_
  refine dg_drop (xs' := [v1, v2, v5, v4]) (ys := [v5]) rfl ?_
  exact w_dk_extreme_b48 hE v1 v2 v5 v4 σ h k
theorem w_dk_extreme_b26 {E : dEnv} {l : Launch} {G : dGeo} (hE : dkOk E l G cX0_extreme 6 rmX0_extreme) (v1 v2 v3 v4 v5 : Int32) (σ : dS) {out} (h : dk_extreme_b26 v1 v2 v3 v4 v5 σ = some out) (k : dK E cX0_extreme (some .int) out) : dG E σ 26 [v1, v2, v3, v4, v5] [] := by
  unfold dk_extreme_b26 at h
  refine dg_iload_n hE dX0_extreme_26 1 rfl rfl ?_
  refine dg_if_eq hE dX0_extreme_27 (tgt := 39) (by decide) h (fun h => ?_) (fun h => ?_)
  · refine dg_iload hE dX0_extreme_39 4 rfl rfl ?_
    refine dg_iload_n hE dX0_extreme_41 2 rfl rfl ?_
    refine dg_icmp_ge hE dX0_extreme_42 (tgt := 48) (by decide) h (fun h => ?_) (fun h => ?_)
    · refine dg_drop (xs' := [v1, v2, v3, v4]) (ys := [v5]) rfl ?_
      exact w_dk_extreme_b48 hE v1 v2 v3 v4 σ h k
    · exact w_dk_extreme_b45 hE v1 v2 v3 v4 v5 σ h k
  · refine dg_iload hE dX0_extreme_30 4 rfl rfl ?_
    refine dg_iload_n hE dX0_extreme_32 2 rfl rfl ?_
    refine dg_icmp_le hE dX0_extreme_33 (tgt := 48) (by decide) h (fun h => ?_) (fun h => ?_)
    · refine dg_drop (xs' := [v1, v2, v3, v4]) (ys := [v5]) rfl ?_
      exact w_dk_extreme_b48 hE v1 v2 v3 v4 σ h k
    · refine dg_goto hE dX0_extreme_36 (tgt := 45) (by decide) ?_
      exact w_dk_extreme_b45 hE v1 v2 v3 v4 v5 σ h k
theorem w_dk_extreme_b23 {E : dEnv} {l : Launch} {G : dGeo} (hE : dkOk E l G cX0_extreme 6 rmX0_extreme) (v1 v2 v3 v4 s0 : Int32) (σ : dS) {out} (h : dk_extreme_b23 v1 v2 v3 v4 s0 σ = some out) (k : dK E cX0_extreme (some .int) out) : dG E σ 23 [v1, v2, v3, v4] [.int s0, .ref (G.2.2.1 14)] := by
  unfold dk_extreme_b23 at h
  refine dk_ld14 hE dX0_extreme_23 h (fun h => ?_)
  refine dg_istore hE dX0_extreme_24 4 (xs' := [v1, v2, v3, v4, (σ 14 s0.toNatClampNeg)]) rfl (Nat.le_of_ble_eq_true rfl) (by decide) rfl ?_
  exact w_dk_extreme_b26 hE v1 v2 v3 v4 (σ 14 s0.toNatClampNeg) σ h k
theorem w_dk_extreme_b9 {E : dEnv} {l : Launch} {G : dGeo} (hE : dkOk E l G cX0_extreme 6 rmX0_extreme) (v1 v2 v3 v4 : Int32) (σ : dS) {out} (h : dk_extreme_b9 v1 v2 v3 v4 σ = some out) (k : dK E cX0_extreme (some .int) out) : dG E σ 9 [v1, v2, v3, v4] [] := by
  unfold dk_extreme_b9 at h
  refine dg_iload hE dX0_extreme_9 3 rfl rfl ?_
  refine dg_if_eq hE dX0_extreme_11 (tgt := 60) (by decide) h (fun h => ?_) (fun h => ?_)
  · refine dg_iload_n hE dX0_extreme_60 2 rfl rfl ?_
    cases h
    exact k rfl _ _ dX0_extreme_61
  · refine dg_aload0 hE dX0_extreme_14 ?_
    refine dk_gf14 hE dX0_extreme_15 ?_
    refine dg_iload hE dX0_extreme_18 3 rfl rfl ?_
    refine dk_ca_lowest hE (by decide) dX0_extreme_20 (Nat.le_of_ble_eq_true rfl) h (fun r_ h => ?_)
    exact w_dk_extreme_b23 hE v1 v2 v3 v4 r_ σ h k
theorem w_dk_extreme_b5 {E : dEnv} {l : Launch} {G : dGeo} (hE : dkOk E l G cX0_extreme 6 rmX0_extreme) (v1 v2 s0 : Int32) (σ : dS) {out} (h : dk_extreme_b5 v1 v2 s0 σ = some out) (k : dK E cX0_extreme (some .int) out) : dG E σ 5 [v1, v2] [.int s0] := by
  unfold dk_extreme_b5 at h
  refine dg_istore_n hE dX0_extreme_5 2 (xs' := [v1, v2, s0]) rfl (Nat.le_of_ble_eq_true rfl) (by decide) rfl ?_
  refine dg_iload_n hE dX0_extreme_6 0 rfl rfl ?_
  refine dg_istore hE dX0_extreme_7 3 (xs' := [v1, v2, s0, v1]) rfl (Nat.le_of_ble_eq_true rfl) (by decide) rfl ?_
  cases h
  exact k
theorem w_dk_extreme_b0 {E : dEnv} {l : Launch} {G : dGeo} (hE : dkOk E l G cX0_extreme 6 rmX0_extreme) (v1 v2 : Int32) (σ : dS) {out} (h : dk_extreme_b0 v1 v2 σ = some out) (k : dK E cX0_extreme (some .int) out) : dG E σ 0 [v1, v2] [] := by
  unfold dk_extreme_b0 at h
  refine dg_aload0 hE dX0_extreme_0 ?_
  refine dg_iload_n hE dX0_extreme_1 0 rfl rfl ?_
  refine dk_ca_valueOf hE (by decide) dX0_extreme_2 (Nat.le_of_ble_eq_true rfl) h (fun r_ h => ?_)
  exact w_dk_extreme_b5 hE v1 v2 (r_.1) (r_.2) h k
theorem w_dk_extreme_st {E : dEnv} {l : Launch} {G : dGeo} (hE : dkOk E l G cX0_extreme 6 rmX0_extreme) (a : Nat × List Int32 × dS) {out} (h : dk_extreme_st a = some out) (k : dK E cX0_extreme (some .int) out) : dG E a.2.2 a.1 a.2.1 [] := by
  obtain ⟨L, xs, σ⟩ := a
  unfold dk_extreme_st at h
  dsimp only at h ⊢
  by_cases c_ : L = 9
  · subst c_
    rw [if_pos rfl] at h
    match xs, h with
    | [x0, x1, x2, x3], h => exact w_dk_extreme_b9 hE x0 x1 x2 x3 σ h k
    | [], h => cases h
    | [_], h => cases h
    | [_, _], h => cases h
    | [_, _, _], h => cases h
    | _ :: _ :: _ :: _ :: _ :: _, h => cases h
  rw [if_neg c_] at h
  cases h
theorem met_dk_extreme (l : Launch) (G : dGeo) (sz : Nat) (v1 v2 : Int32) (σ : dS) {r : Int32 × dS} (h : dk_extreme v1 v2 σ = some r) : Met l yX0_extreme (ws_ yX0_extreme cX0_extreme 6 (some .int)) rmX0_extreme (dPc G.1 (dk_ty G) (dk_w G σ) sz [.ref G.2.1, .int v1, .int v2]) (dQi G.1 (dk_ty G) (dk_w G σ) (dk_w G r.2) sz r.1) 0 0 (va_A (dk_w G σ) sz) := by
  refine dMet_i (w := dk_w G) (σ := σ) (σ' := r.2) (th := [(0, .ref G.2.1)]) (b := 1) (xs := [v1, v2]) (by decide) rfl rfl (Nat.le_of_ble_eq_true rfl) dth (fun E hE k => ?_)
  unfold dk_extreme at h
  obtain ⟨out, h1, h2⟩ := lpB_some h
  exact w_dk_extreme_b0 hE v1 v2 σ h1 (dK_lp (fun a out => w_dk_extreme_st hE a) h2 k)
theorem dk_ca_extreme {E : dEnv} {l : Launch} {G : dGeo} {cc : ByteArray} {nL pc : Nat} {R : Room} {σ : dS} {xs : List Int32} {st : List Value} {τ : Type} {g : Int32 × dS → Option τ} {out : τ} {a0 a1 : Int32} (hE : dkOk E l G cc nL R) (hR : 2 + 1 ≤ R.frames ∧ 8 + (6 + 11) + 42 ≤ R.locals) (hd : decode cc pc = .ok (.invokevirtual 200, 3)) (hs : (st.map fun v => v.category).sum ≤ 8) (h : Option.bind (dk_extreme a0 a1 σ) g = some out) (k : ∀ r, g r = some out → dG E r.2 (pc + 3) xs (.int r.1 :: st)) : dG E σ pc xs (.int a1 :: .int a0 :: .ref G.2.1 :: st) := by
  obtain ⟨r, h1, h2⟩ := obind h
  exact dg_callVi hE (As := [.int a0, .int a1]) (st := st) (C := RX0) (rm := rmX0_extreme) (dk_recv G) (fun sz => met_dk_extreme l G sz a0 a1 σ h1) (lw_V q310 q312 qs19 q50 q313) 2 rfl ⟨rfl, rfl⟩ (by decide +kernel) hR rfl hs hd (k r h2)
abbrev rmX0_has : Room := { frames := 1, cells := 0, slots := 0, locals := 21 }
theorem w_dk_has_b14 {E : dEnv} {l : Launch} {G : dGeo} (hE : dkOk E l G cX0_has 4 rmX0_has) (v1 v2 v3 s0 : Int32) (σ : dS) {out} (h : dk_has_b14 v1 v2 v3 s0 σ = some out) (k : dK E cX0_has (some .boolean) out) : dG E σ 14 [v1, v2, v3] [.int s0, .ref (G.2.2.1 14)] := by
  unfold dk_has_b14 at h
  refine dk_ld14 hE dX0_has_14 h (fun h => ?_)
  refine dg_iload_n hE dX0_has_15 1 rfl rfl ?_
  refine dg_icmp_ne hE dX0_has_16 (tgt := 21) (by decide) h (fun h => ?_) (fun h => ?_)
  · refine dg_iload_n hE dX0_has_21 2 rfl rfl ?_
    refine dg_iload_n hE dX0_has_22 2 rfl rfl ?_
    refine dg_iconst hE dX0_has_23 (v := (1 : Int32)) (by decide) ?_
    refine dg_isub hE dX0_has_24 ?_
    refine dg_iand hE dX0_has_25 ?_
    refine dg_istore_n hE dX0_has_26 2 (xs' := [v1, v2, (v3 &&& (v3 - (1 : Int32)))]) rfl (Nat.le_of_ble_eq_true rfl) (by decide) rfl ?_
    refine dg_goto hE dX0_has_27 (tgt := 2) (by decide) ?_
    cases h
    exact k
  · refine dg_iconst hE dX0_has_19 (v := (1 : Int32)) (by decide) ?_
    cases h
    exact k nz1 _ _ dX0_has_20
theorem w_dk_has_b2 {E : dEnv} {l : Launch} {G : dGeo} (hE : dkOk E l G cX0_has 4 rmX0_has) (v1 v2 v3 : Int32) (σ : dS) {out} (h : dk_has_b2 v1 v2 v3 σ = some out) (k : dK E cX0_has (some .boolean) out) : dG E σ 2 [v1, v2, v3] [] := by
  unfold dk_has_b2 at h
  refine dg_iload_n hE dX0_has_2 2 rfl rfl ?_
  refine dg_if_eq hE dX0_has_3 (tgt := 30) (by decide) h (fun h => ?_) (fun h => ?_)
  · refine dg_iconst hE dX0_has_30 (v := (0 : Int32)) (by decide) ?_
    cases h
    exact k nz0 _ _ dX0_has_31
  · refine dg_aload0 hE dX0_has_6 ?_
    refine dk_gf14 hE dX0_has_7 ?_
    refine dg_iload_n hE dX0_has_10 2 rfl rfl ?_
    refine dk_ca_lowest hE (by decide) dX0_has_11 (Nat.le_of_ble_eq_true rfl) h (fun r_ h => ?_)
    exact w_dk_has_b14 hE v1 v2 v3 r_ σ h k
theorem w_dk_has_b0 {E : dEnv} {l : Launch} {G : dGeo} (hE : dkOk E l G cX0_has 4 rmX0_has) (v1 v2 : Int32) (σ : dS) {out} (h : dk_has_b0 v1 v2 σ = some out) (k : dK E cX0_has (some .boolean) out) : dG E σ 0 [v1, v2] [] := by
  unfold dk_has_b0 at h
  refine dg_iload_n hE dX0_has_0 0 rfl rfl ?_
  refine dg_istore_n hE dX0_has_1 2 (xs' := [v1, v2, v1]) rfl (Nat.le_of_ble_eq_true rfl) (by decide) rfl ?_
  cases h
  exact k
theorem w_dk_has_st {E : dEnv} {l : Launch} {G : dGeo} (hE : dkOk E l G cX0_has 4 rmX0_has) (a : Nat × List Int32 × dS) {out} (h : dk_has_st a = some out) (k : dK E cX0_has (some .boolean) out) : dG E a.2.2 a.1 a.2.1 [] := by
  obtain ⟨L, xs, σ⟩ := a
  unfold dk_has_st at h
  dsimp only at h ⊢
  by_cases c_ : L = 2
  · subst c_
    rw [if_pos rfl] at h
    match xs, h with
    | [x0, x1, x2], h => exact w_dk_has_b2 hE x0 x1 x2 σ h k
    | [], h => cases h
    | [_], h => cases h
    | [_, _], h => cases h
    | _ :: _ :: _ :: _ :: _, h => cases h
  rw [if_neg c_] at h
  cases h
theorem met_dk_has (l : Launch) (G : dGeo) (sz : Nat) (v1 v2 : Int32) (σ : dS) {r : Int32 × dS} (h : dk_has v1 v2 σ = some r) : Met l yX0_has (ws_ yX0_has cX0_has 4 (some .boolean)) rmX0_has (dPc G.1 (dk_ty G) (dk_w G σ) sz [.ref G.2.1, .int v1, .int v2]) (dQi G.1 (dk_ty G) (dk_w G σ) (dk_w G r.2) sz r.1) 0 0 (va_A (dk_w G σ) sz) := by
  refine dMet_i (w := dk_w G) (σ := σ) (σ' := r.2) (th := [(0, .ref G.2.1)]) (b := 1) (xs := [v1, v2]) (by decide) rfl rfl (Nat.le_of_ble_eq_true rfl) dth (fun E hE k => ?_)
  unfold dk_has at h
  obtain ⟨out, h1, h2⟩ := lpB_some h
  exact w_dk_has_b0 hE v1 v2 σ h1 (dK_lp (fun a out => w_dk_has_st hE a) h2 k)
theorem dk_ca_has {E : dEnv} {l : Launch} {G : dGeo} {cc : ByteArray} {nL pc : Nat} {R : Room} {σ : dS} {xs : List Int32} {st : List Value} {τ : Type} {g : Int32 × dS → Option τ} {out : τ} {a0 a1 : Int32} (hE : dkOk E l G cc nL R) (hR : 1 + 1 ≤ R.frames ∧ 8 + (4 + 11) + 21 ≤ R.locals) (hd : decode cc pc = .ok (.invokevirtual 204, 3)) (hs : (st.map fun v => v.category).sum ≤ 8) (h : Option.bind (dk_has a0 a1 σ) g = some out) (k : ∀ r, g r = some out → dG E r.2 (pc + 3) xs (.int r.1 :: st)) : dG E σ pc xs (.int a1 :: .int a0 :: .ref G.2.1 :: st) := by
  obtain ⟨r, h1, h2⟩ := obind h
  exact dg_callVi hE (As := [.int a0, .int a1]) (st := st) (C := RX0) (rm := rmX0_has) (dk_recv G) (fun sz => met_dk_has l G sz a0 a1 σ h1) (lw_V q314 q316 qs20 q50 q317) 2 rfl ⟨rfl, rfl⟩ (by decide +kernel) hR rfl hs hd (k r h2)
abbrev rmX0_compare : Room := { frames := 3, cells := 0, slots := 0, locals := 67 }
theorem w_dk_compare_b172 {E : dEnv} {l : Launch} {G : dGeo} (hE : dkOk E l G cX0_compare 9 rmX0_compare) (v1 v2 v3 v4 v5 v6 v7 : Int32) (σ : dS) {out} (h : dk_compare_b172 v1 v2 v3 v4 v5 v6 v7 σ = some out) (k : dK E cX0_compare (some .int) out) : dG E σ 172 [v1, v2, v3, v4, v5, v6, v7] [] := by
  unfold dk_compare_b172 at h
  refine dg_iload hE dX0_compare_172 6 rfl rfl ?_
  refine dg_iload hE dX0_compare_174 6 rfl rfl ?_
  refine dg_iconst hE dX0_compare_176 (v := (1 : Int32)) (by decide) ?_
  refine dg_isub hE dX0_compare_177 ?_
  refine dg_iand hE dX0_compare_178 ?_
  refine dg_istore hE dX0_compare_179 6 (xs' := [v1, v2, v3, v4, v5, v6, (v7 &&& (v7 - (1 : Int32)))]) rfl (Nat.le_of_ble_eq_true rfl) (by decide) rfl ?_
  refine dg_goto hE dX0_compare_181 (tgt := 142) (by decide) ?_
  cases h
  exact k
theorem w_dk_compare_b169 {E : dEnv} {l : Launch} {G : dGeo} (hE : dkOk E l G cX0_compare 9 rmX0_compare) (v1 v2 v3 v4 v5 v6 v7 s0 s1 : Int32) (σ : dS) {out} (h : dk_compare_b169 v1 v2 v3 v4 v5 v6 v7 s0 s1 σ = some out) (k : dK E cX0_compare (some .int) out) : dG E σ 169 [v1, v2, v3, v4, v5, v6, v7] [.int s0, .int s1] := by
  unfold dk_compare_b169 at h
  refine dg_ior hE dX0_compare_169 ?_
  refine dg_istore hE dX0_compare_170 5 (xs' := [v1, v2, v3, v4, v5, (s1 ||| s0), v7]) rfl (Nat.le_of_ble_eq_true rfl) (by decide) rfl ?_
  exact w_dk_compare_b172 hE v1 v2 v3 v4 v5 (s1 ||| s0) v7 σ h k
theorem w_dk_compare_b159 {E : dEnv} {l : Launch} {G : dGeo} (hE : dkOk E l G cX0_compare 9 rmX0_compare) (v1 v2 v3 v4 v5 v6 v7 v8 : Int32) (σ : dS) {out} (h : dk_compare_b159 v1 v2 v3 v4 v5 v6 v7 v8 σ = some out) (k : dK E cX0_compare (some .int) out) : dG E σ 159 [v1, v2, v3, v4, v5, v6, v7, v8] [] := by
  unfold dk_compare_b159 at h
  refine dg_iload hE dX0_compare_159 5 rfl rfl ?_
  refine dg_aload0 hE dX0_compare_161 ?_
  refine dg_iload hE dX0_compare_162 3 rfl rfl ?_
  refine dg_iload hE dX0_compare_164 7 rfl rfl ?_
  refine dk_ca_has hE (by decide) dX0_compare_166 (Nat.le_of_ble_eq_true rfl) h (fun r_ h => ?_)
  refine dg_drop (xs' := [v1, v2, v3, v4, v5, v6, v7]) (ys := [v8]) rfl ?_
  exact w_dk_compare_b169 hE v1 v2 v3 v4 v5 v6 v7 (r_.1) v6 (r_.2) h k
theorem w_dk_compare_b156 {E : dEnv} {l : Launch} {G : dGeo} (hE : dkOk E l G cX0_compare 9 rmX0_compare) (v1 v2 v3 v4 v5 v6 v7 s0 : Int32) (σ : dS) {out} (h : dk_compare_b156 v1 v2 v3 v4 v5 v6 v7 s0 σ = some out) (k : dK E cX0_compare (some .int) out) : dG E σ 156 [v1, v2, v3, v4, v5, v6, v7] [.int s0, .ref (G.2.2.1 14)] := by
  unfold dk_compare_b156 at h
  refine dk_ld14 hE dX0_compare_156 h (fun h => ?_)
  refine dg_istore hE dX0_compare_157 7 (xs' := [v1, v2, v3, v4, v5, v6, v7, (σ 14 s0.toNatClampNeg)]) rfl (Nat.le_of_ble_eq_true rfl) (by decide) rfl ?_
  exact w_dk_compare_b159 hE v1 v2 v3 v4 v5 v6 v7 (σ 14 s0.toNatClampNeg) σ h k
theorem w_dk_compare_b142 {E : dEnv} {l : Launch} {G : dGeo} (hE : dkOk E l G cX0_compare 9 rmX0_compare) (v1 v2 v3 v4 v5 v6 v7 : Int32) (σ : dS) {out} (h : dk_compare_b142 v1 v2 v3 v4 v5 v6 v7 σ = some out) (k : dK E cX0_compare (some .int) out) : dG E σ 142 [v1, v2, v3, v4, v5, v6, v7] [] := by
  unfold dk_compare_b142 at h
  refine dg_iload hE dX0_compare_142 6 rfl rfl ?_
  refine dg_if_eq hE dX0_compare_144 (tgt := 184) (by decide) h (fun h => ?_) (fun h => ?_)
  · refine dg_iload hE dX0_compare_184 5 rfl rfl ?_
    refine dg_if_eq hE dX0_compare_186 (tgt := 193) (by decide) h (fun h => ?_) (fun h => ?_)
    · refine dg_iconst hE dX0_compare_193 (v := (0 : Int32)) (by decide) ?_
      cases h
      exact k rfl _ _ dX0_compare_194
    · refine dg_iconst hE dX0_compare_189 (v := (1 : Int32)) (by decide) ?_
      refine dg_goto hE dX0_compare_190 (tgt := 194) (by decide) ?_
      cases h
      exact k rfl _ _ dX0_compare_194
  · refine dg_aload0 hE dX0_compare_147 ?_
    refine dk_gf14 hE dX0_compare_148 ?_
    refine dg_iload hE dX0_compare_151 6 rfl rfl ?_
    refine dk_ca_lowest hE (by decide) dX0_compare_153 (Nat.le_of_ble_eq_true rfl) h (fun r_ h => ?_)
    exact w_dk_compare_b156 hE v1 v2 v3 v4 v5 v6 v7 r_ σ h k
theorem w_dk_compare_b127 {E : dEnv} {l : Launch} {G : dGeo} (hE : dkOk E l G cX0_compare 9 rmX0_compare) (s0 : Int32) (σ : dS) {out} (h : dk_compare_b127 s0 σ = some out) (k : dK E cX0_compare (some .int) out) : dG E σ 127 [] [.int s0] := by
  unfold dk_compare_b127 at h
  refine dg_if_eq hE dX0_compare_127 (tgt := 134) (by decide) h (fun h => ?_) (fun h => ?_)
  · refine dg_iconst hE dX0_compare_134 (v := (0 : Int32)) (by decide) ?_
    cases h
    exact k rfl _ _ dX0_compare_135
  · refine dg_iconst hE dX0_compare_130 (v := (1 : Int32)) (by decide) ?_
    refine dg_goto hE dX0_compare_131 (tgt := 135) (by decide) ?_
    cases h
    exact k rfl _ _ dX0_compare_135
theorem w_dk_compare_b106 {E : dEnv} {l : Launch} {G : dGeo} (hE : dkOk E l G cX0_compare 9 rmX0_compare) (s0 : Int32) (σ : dS) {out} (h : dk_compare_b106 s0 σ = some out) (k : dK E cX0_compare (some .int) out) : dG E σ 106 [] [.int s0] := by
  unfold dk_compare_b106 at h
  refine dg_if_eq hE dX0_compare_106 (tgt := 113) (by decide) h (fun h => ?_) (fun h => ?_)
  · refine dg_iconst hE dX0_compare_113 (v := (0 : Int32)) (by decide) ?_
    cases h
    exact k rfl _ _ dX0_compare_114
  · refine dg_iconst hE dX0_compare_109 (v := (1 : Int32)) (by decide) ?_
    refine dg_goto hE dX0_compare_110 (tgt := 114) (by decide) ?_
    cases h
    exact k rfl _ _ dX0_compare_114
theorem w_dk_compare_b95 {E : dEnv} {l : Launch} {G : dGeo} (hE : dkOk E l G cX0_compare 9 rmX0_compare) (v1 v2 v3 v4 v5 : Int32) (σ : dS) {out} (h : dk_compare_b95 v1 v2 v3 v4 v5 σ = some out) (k : dK E cX0_compare (some .int) out) : dG E σ 95 [v1, v2, v3, v4, v5] [] := by
  unfold dk_compare_b95 at h
  refine dg_iload_n hE dX0_compare_95 2 rfl rfl ?_
  refine dg_if_eq hE dX0_compare_96 (tgt := 115) (by decide) h (fun h => ?_) (fun h => ?_)
  · refine dg_iload hE dX0_compare_115 4 rfl rfl ?_
    refine dg_if_eq hE dX0_compare_117 (tgt := 136) (by decide) h (fun h => ?_) (fun h => ?_)
    · refine dg_iconst hE dX0_compare_136 (v := (0 : Int32)) (by decide) ?_
      refine dg_istore hE dX0_compare_137 5 (xs' := [v1, v2, v3, v4, v5, (0 : Int32)]) rfl (Nat.le_of_ble_eq_true rfl) (by decide) rfl ?_
      refine dg_iload_n hE dX0_compare_139 1 rfl rfl ?_
      refine dg_istore hE dX0_compare_140 6 (xs' := [v1, v2, v3, v4, v5, (0 : Int32), v2]) rfl (Nat.le_of_ble_eq_true rfl) (by decide) rfl ?_
      cases h
      exact k
    · refine dg_aload0 hE dX0_compare_120 ?_
      refine dg_iload_n hE dX0_compare_121 1 rfl rfl ?_
      refine dg_iload hE dX0_compare_122 3 rfl rfl ?_
      refine dk_ca_has hE (by decide) dX0_compare_124 (Nat.le_of_ble_eq_true rfl) h (fun r_ h => ?_)
      refine dg_drop (xs' := []) (ys := [v1, v2, v3, v4, v5]) rfl ?_
      exact w_dk_compare_b127 hE (r_.1) (r_.2) h k
  · refine dg_aload0 hE dX0_compare_99 ?_
    refine dg_iload hE dX0_compare_100 3 rfl rfl ?_
    refine dg_iload_n hE dX0_compare_102 1 rfl rfl ?_
    refine dk_ca_has hE (by decide) dX0_compare_103 (Nat.le_of_ble_eq_true rfl) h (fun r_ h => ?_)
    refine dg_drop (xs' := []) (ys := [v1, v2, v3, v4, v5]) rfl ?_
    exact w_dk_compare_b106 hE (r_.1) (r_.2) h k
theorem w_dk_compare_b59 {E : dEnv} {l : Launch} {G : dGeo} (hE : dkOk E l G cX0_compare 9 rmX0_compare) (v1 v2 v3 v4 v5 v6 s0 : Int32) (σ : dS) {out} (h : dk_compare_b59 v1 v2 v3 v4 v5 v6 s0 σ = some out) (k : dK E cX0_compare (some .int) out) : dG E σ 59 [v1, v2, v3, v4, v5, v6] [.int s0] := by
  unfold dk_compare_b59 at h
  refine dg_istore hE dX0_compare_59 6 (xs' := [v1, v2, v3, v4, v5, v6, s0]) rfl (Nat.le_of_ble_eq_true rfl) (by decide) rfl ?_
  refine dg_iload hE dX0_compare_61 5 rfl rfl ?_
  refine dg_iload hE dX0_compare_63 6 rfl rfl ?_
  refine dg_icmp_ge hE dX0_compare_65 (tgt := 72) (by decide) h (fun h => ?_) (fun h => ?_)
  · refine dg_iconst hE dX0_compare_72 (v := (0 : Int32)) (by decide) ?_
    cases h
    exact k rfl _ _ dX0_compare_73
  · refine dg_iconst hE dX0_compare_68 (v := (1 : Int32)) (by decide) ?_
    refine dg_goto hE dX0_compare_69 (tgt := 73) (by decide) ?_
    cases h
    exact k rfl _ _ dX0_compare_73
theorem w_dk_compare_b40 {E : dEnv} {l : Launch} {G : dGeo} (hE : dkOk E l G cX0_compare 9 rmX0_compare) (v1 v2 v3 v4 v5 s0 : Int32) (σ : dS) {out} (h : dk_compare_b40 v1 v2 v3 v4 v5 s0 σ = some out) (k : dK E cX0_compare (some .int) out) : dG E σ 40 [v1, v2, v3, v4, v5] [.int s0] := by
  unfold dk_compare_b40 at h
  refine dg_istore hE dX0_compare_40 5 (xs' := [v1, v2, v3, v4, v5, s0]) rfl (Nat.le_of_ble_eq_true rfl) (by decide) rfl ?_
  refine dg_iload hE dX0_compare_42 4 rfl rfl ?_
  refine dg_if_ne hE dX0_compare_44 (tgt := 57) (by decide) h (fun h => ?_) (fun h => ?_)
  · refine dg_iload hE dX0_compare_57 3 rfl rfl ?_
    exact w_dk_compare_b59 hE v1 v2 v3 v4 v5 s0 v4 σ h k
  · refine dg_aload0 hE dX0_compare_47 ?_
    refine dg_iload hE dX0_compare_48 3 rfl rfl ?_
    refine dg_iconst hE dX0_compare_50 (v := (1 : Int32)) (by decide) ?_
    refine dk_ca_extreme hE (by decide) dX0_compare_51 (Nat.le_of_ble_eq_true rfl) h (fun r_ h => ?_)
    refine dg_goto hE dX0_compare_54 (tgt := 59) (by decide) ?_
    exact w_dk_compare_b59 hE v1 v2 v3 v4 v5 s0 (r_.1) (r_.2) h k
theorem w_dk_compare_b20 {E : dEnv} {l : Launch} {G : dGeo} (hE : dkOk E l G cX0_compare 9 rmX0_compare) (v1 v2 v3 v4 v5 : Int32) (σ : dS) {out} (h : dk_compare_b20 v1 v2 v3 v4 v5 σ = some out) (k : dK E cX0_compare (some .int) out) : dG E σ 20 [v1, v2, v3, v4, v5] [] := by
  unfold dk_compare_b20 at h
  refine dg_iload_n hE dX0_compare_20 0 rfl rfl ?_
  refine dg_bipush hE dX0_compare_21 (v := (13 : Int32)) (by decide) ?_
  refine dg_icmp_ne hE dX0_compare_23 (tgt := 74) (by decide) h (fun h => ?_) (fun h => ?_)
  · refine dg_iload_n hE dX0_compare_74 2 rfl rfl ?_
    refine dg_if_eq hE dX0_compare_75 (tgt := 95) (by decide) h (fun h => ?_) (fun h => ?_)
    · exact w_dk_compare_b95 hE v1 v2 v3 v4 v5 σ h k
    · refine dg_iload hE dX0_compare_78 4 rfl rfl ?_
      refine dg_if_eq hE dX0_compare_80 (tgt := 95) (by decide) h (fun h => ?_) (fun h => ?_)
      · exact w_dk_compare_b95 hE v1 v2 v3 v4 v5 σ h k
      · refine dg_iload_n hE dX0_compare_83 1 rfl rfl ?_
        refine dg_iload hE dX0_compare_84 3 rfl rfl ?_
        refine dg_icmp_ne hE dX0_compare_86 (tgt := 93) (by decide) h (fun h => ?_) (fun h => ?_)
        · refine dg_iconst hE dX0_compare_93 (v := (0 : Int32)) (by decide) ?_
          cases h
          exact k rfl _ _ dX0_compare_94
        · refine dg_iconst hE dX0_compare_89 (v := (1 : Int32)) (by decide) ?_
          refine dg_goto hE dX0_compare_90 (tgt := 94) (by decide) ?_
          cases h
          exact k rfl _ _ dX0_compare_94
  · refine dg_iload_n hE dX0_compare_26 2 rfl rfl ?_
    refine dg_if_ne hE dX0_compare_27 (tgt := 39) (by decide) h (fun h => ?_) (fun h => ?_)
    · refine dg_iload_n hE dX0_compare_39 1 rfl rfl ?_
      exact w_dk_compare_b40 hE v1 v2 v3 v4 v5 v2 σ h k
    · refine dg_aload0 hE dX0_compare_30 ?_
      refine dg_iload_n hE dX0_compare_31 1 rfl rfl ?_
      refine dg_iconst hE dX0_compare_32 (v := (0 : Int32)) (by decide) ?_
      refine dk_ca_extreme hE (by decide) dX0_compare_33 (Nat.le_of_ble_eq_true rfl) h (fun r_ h => ?_)
      refine dg_goto hE dX0_compare_36 (tgt := 40) (by decide) ?_
      exact w_dk_compare_b40 hE v1 v2 v3 v4 v5 (r_.1) (r_.2) h k
theorem w_dk_compare_b8 {E : dEnv} {l : Launch} {G : dGeo} (hE : dkOk E l G cX0_compare 9 rmX0_compare) (v1 v2 v3 v4 v5 : Int32) (σ : dS) {out} (h : dk_compare_b8 v1 v2 v3 v4 v5 σ = some out) (k : dK E cX0_compare (some .int) out) : dG E σ 8 [v1, v2, v3, v4, v5] [] := by
  unfold dk_compare_b8 at h
  refine dg_iload hE dX0_compare_8 4 rfl rfl ?_
  refine dg_if_ne hE dX0_compare_10 (tgt := 20) (by decide) h (fun h => ?_) (fun h => ?_)
  · exact w_dk_compare_b20 hE v1 v2 v3 v4 v5 σ h k
  · refine dg_iload hE dX0_compare_13 3 rfl rfl ?_
    refine dg_if_ne hE dX0_compare_15 (tgt := 20) (by decide) h (fun h => ?_) (fun h => ?_)
    · exact w_dk_compare_b20 hE v1 v2 v3 v4 v5 σ h k
    · refine dg_iconst hE dX0_compare_18 (v := (0 : Int32)) (by decide) ?_
      cases h
      exact k rfl _ _ dX0_compare_19
theorem w_dk_compare_b0 {E : dEnv} {l : Launch} {G : dGeo} (hE : dkOk E l G cX0_compare 9 rmX0_compare) (v1 v2 v3 v4 v5 : Int32) (σ : dS) {out} (h : dk_compare_b0 v1 v2 v3 v4 v5 σ = some out) (k : dK E cX0_compare (some .int) out) : dG E σ 0 [v1, v2, v3, v4, v5] [] := by
  unfold dk_compare_b0 at h
  refine dg_iload_n hE dX0_compare_0 2 rfl rfl ?_
  refine dg_if_ne hE dX0_compare_1 (tgt := 8) (by decide) h (fun h => ?_) (fun h => ?_)
  · exact w_dk_compare_b8 hE v1 v2 v3 v4 v5 σ h k
  · refine dg_iload_n hE dX0_compare_4 1 rfl rfl ?_
    refine dg_if_eq hE dX0_compare_5 (tgt := 18) (by decide) h (fun h => ?_) (fun h => ?_)
    · refine dg_iconst hE dX0_compare_18 (v := (0 : Int32)) (by decide) ?_
      cases h
      exact k rfl _ _ dX0_compare_19
    · exact w_dk_compare_b8 hE v1 v2 v3 v4 v5 σ h k
theorem w_dk_compare_st {E : dEnv} {l : Launch} {G : dGeo} (hE : dkOk E l G cX0_compare 9 rmX0_compare) (a : Nat × List Int32 × dS) {out} (h : dk_compare_st a = some out) (k : dK E cX0_compare (some .int) out) : dG E a.2.2 a.1 a.2.1 [] := by
  obtain ⟨L, xs, σ⟩ := a
  unfold dk_compare_st at h
  dsimp only at h ⊢
  by_cases c_ : L = 142
  · subst c_
    rw [if_pos rfl] at h
    match xs, h with
    | [x0, x1, x2, x3, x4, x5, x6], h => exact w_dk_compare_b142 hE x0 x1 x2 x3 x4 x5 x6 σ h k
    | [], h => cases h
    | [_], h => cases h
    | [_, _], h => cases h
    | [_, _, _], h => cases h
    | [_, _, _, _], h => cases h
    | [_, _, _, _, _], h => cases h
    | [_, _, _, _, _, _], h => cases h
    | _ :: _ :: _ :: _ :: _ :: _ :: _ :: _ :: _, h => cases h
  rw [if_neg c_] at h
  cases h
theorem met_dk_compare (l : Launch) (G : dGeo) (sz : Nat) (v1 v2 v3 v4 v5 : Int32) (σ : dS) {r : Int32 × dS} (h : dk_compare v1 v2 v3 v4 v5 σ = some r) : Met l yX0_compare (ws_ yX0_compare cX0_compare 9 (some .int)) rmX0_compare (dPc G.1 (dk_ty G) (dk_w G σ) sz [.ref G.2.1, .int v1, .int v2, .int v3, .int v4, .int v5]) (dQi G.1 (dk_ty G) (dk_w G σ) (dk_w G r.2) sz r.1) 0 0 (va_A (dk_w G σ) sz) := by
  refine dMet_i (w := dk_w G) (σ := σ) (σ' := r.2) (th := [(0, .ref G.2.1)]) (b := 1) (xs := [v1, v2, v3, v4, v5]) (by decide) rfl rfl (Nat.le_of_ble_eq_true rfl) dth (fun E hE k => ?_)
  unfold dk_compare at h
  obtain ⟨out, h1, h2⟩ := lpB_some h
  exact w_dk_compare_b0 hE v1 v2 v3 v4 v5 σ h1 (dK_lp (fun a out => w_dk_compare_st hE a) h2 k)
theorem dk_ca_compare {E : dEnv} {l : Launch} {G : dGeo} {cc : ByteArray} {nL pc : Nat} {R : Room} {σ : dS} {xs : List Int32} {st : List Value} {τ : Type} {g : Int32 × dS → Option τ} {out : τ} {a0 a1 a2 a3 a4 : Int32} (hE : dkOk E l G cc nL R) (hR : 3 + 1 ≤ R.frames ∧ 8 + (9 + 11) + 67 ≤ R.locals) (hd : decode cc pc = .ok (.invokevirtual 194, 3)) (hs : (st.map fun v => v.category).sum ≤ 8) (h : Option.bind (dk_compare a0 a1 a2 a3 a4 σ) g = some out) (k : ∀ r, g r = some out → dG E r.2 (pc + 3) xs (.int r.1 :: st)) : dG E σ pc xs (.int a4 :: .int a3 :: .int a2 :: .int a1 :: .int a0 :: .ref G.2.1 :: st) := by
  obtain ⟨r, h1, h2⟩ := obind h
  exact dg_callVi hE (As := [.int a0, .int a1, .int a2, .int a3, .int a4]) (st := st) (C := RX0) (rm := rmX0_compare) (dk_recv G) (fun sz => met_dk_compare l G sz a0 a1 a2 a3 a4 σ h1) (lw_V q306 q308 qs18 q50 q309) 5 rfl ⟨rfl, rfl⟩ (by decide +kernel) hR rfl hs hd (k r h2)
abbrev rmX0_total : Room := { frames := 1, cells := 0, slots := 0, locals := 21 }
theorem w_dk_total_b20 {E : dEnv} {l : Launch} {G : dGeo} (hE : dkOk E l G cX0_total 4 rmX0_total) (v1 v2 v3 : Int32) (σ : dS) {out} (h : dk_total_b20 v1 v2 v3 σ = some out) (k : dK E cX0_total (some .int) out) : dG E σ 20 [v1, v2, v3] [] := by
  unfold dk_total_b20 at h
  refine dg_iload_n hE dX0_total_20 2 rfl rfl ?_
  refine dg_iload_n hE dX0_total_21 2 rfl rfl ?_
  refine dg_iconst hE dX0_total_22 (v := (1 : Int32)) (by decide) ?_
  refine dg_isub hE dX0_total_23 ?_
  refine dg_iand hE dX0_total_24 ?_
  refine dg_istore_n hE dX0_total_25 2 (xs' := [v1, v2, (v3 &&& (v3 - (1 : Int32)))]) rfl (Nat.le_of_ble_eq_true rfl) (by decide) rfl ?_
  refine dg_goto hE dX0_total_26 (tgt := 4) (by decide) ?_
  cases h
  exact k
theorem w_dk_total_b17 {E : dEnv} {l : Launch} {G : dGeo} (hE : dkOk E l G cX0_total 4 rmX0_total) (v1 v2 v3 s0 s2 : Int32) (σ : dS) {out} (h : dk_total_b17 v1 v2 v3 s0 s2 σ = some out) (k : dK E cX0_total (some .int) out) : dG E σ 17 [v1, v2, v3] [.int s0, .ref (G.2.2.1 14), .int s2] := by
  unfold dk_total_b17 at h
  refine dk_ld14 hE dX0_total_17 h (fun h => ?_)
  refine dg_iadd hE dX0_total_18 ?_
  refine dg_istore_n hE dX0_total_19 1 (xs' := [v1, (s2 + (σ 14 s0.toNatClampNeg)), v3]) rfl (Nat.le_of_ble_eq_true rfl) (by decide) rfl ?_
  exact w_dk_total_b20 hE v1 (s2 + (σ 14 s0.toNatClampNeg)) v3 σ h k
theorem w_dk_total_b4 {E : dEnv} {l : Launch} {G : dGeo} (hE : dkOk E l G cX0_total 4 rmX0_total) (v1 v2 v3 : Int32) (σ : dS) {out} (h : dk_total_b4 v1 v2 v3 σ = some out) (k : dK E cX0_total (some .int) out) : dG E σ 4 [v1, v2, v3] [] := by
  unfold dk_total_b4 at h
  refine dg_iload_n hE dX0_total_4 2 rfl rfl ?_
  refine dg_if_eq hE dX0_total_5 (tgt := 29) (by decide) h (fun h => ?_) (fun h => ?_)
  · refine dg_iload_n hE dX0_total_29 1 rfl rfl ?_
    cases h
    exact k rfl _ _ dX0_total_30
  · refine dg_iload_n hE dX0_total_8 1 rfl rfl ?_
    refine dg_aload0 hE dX0_total_9 ?_
    refine dk_gf14 hE dX0_total_10 ?_
    refine dg_iload_n hE dX0_total_13 2 rfl rfl ?_
    refine dk_ca_lowest hE (by decide) dX0_total_14 (Nat.le_of_ble_eq_true rfl) h (fun r_ h => ?_)
    exact w_dk_total_b17 hE v1 v2 v3 r_ v2 σ h k
theorem w_dk_total_b0 {E : dEnv} {l : Launch} {G : dGeo} (hE : dkOk E l G cX0_total 4 rmX0_total) (v1 : Int32) (σ : dS) {out} (h : dk_total_b0 v1 σ = some out) (k : dK E cX0_total (some .int) out) : dG E σ 0 [v1] [] := by
  unfold dk_total_b0 at h
  refine dg_iconst hE dX0_total_0 (v := (0 : Int32)) (by decide) ?_
  refine dg_istore_n hE dX0_total_1 1 (xs' := [v1, (0 : Int32)]) rfl (Nat.le_of_ble_eq_true rfl) (by decide) rfl ?_
  refine dg_iload_n hE dX0_total_2 0 rfl rfl ?_
  refine dg_istore_n hE dX0_total_3 2 (xs' := [v1, (0 : Int32), v1]) rfl (Nat.le_of_ble_eq_true rfl) (by decide) rfl ?_
  cases h
  exact k
theorem w_dk_total_st {E : dEnv} {l : Launch} {G : dGeo} (hE : dkOk E l G cX0_total 4 rmX0_total) (a : Nat × List Int32 × dS) {out} (h : dk_total_st a = some out) (k : dK E cX0_total (some .int) out) : dG E a.2.2 a.1 a.2.1 [] := by
  obtain ⟨L, xs, σ⟩ := a
  unfold dk_total_st at h
  dsimp only at h ⊢
  by_cases c_ : L = 4
  · subst c_
    rw [if_pos rfl] at h
    match xs, h with
    | [x0, x1, x2], h => exact w_dk_total_b4 hE x0 x1 x2 σ h k
    | [], h => cases h
    | [_], h => cases h
    | [_, _], h => cases h
    | _ :: _ :: _ :: _ :: _, h => cases h
  rw [if_neg c_] at h
  cases h
theorem met_dk_total (l : Launch) (G : dGeo) (sz : Nat) (v1 : Int32) (σ : dS) {r : Int32 × dS} (h : dk_total v1 σ = some r) : Met l yX0_total (ws_ yX0_total cX0_total 4 (some .int)) rmX0_total (dPc G.1 (dk_ty G) (dk_w G σ) sz [.ref G.2.1, .int v1]) (dQi G.1 (dk_ty G) (dk_w G σ) (dk_w G r.2) sz r.1) 0 0 (va_A (dk_w G σ) sz) := by
  refine dMet_i (w := dk_w G) (σ := σ) (σ' := r.2) (th := [(0, .ref G.2.1)]) (b := 1) (xs := [v1]) (by decide) rfl rfl (Nat.le_of_ble_eq_true rfl) dth (fun E hE k => ?_)
  unfold dk_total at h
  obtain ⟨out, h1, h2⟩ := lpB_some h
  exact w_dk_total_b0 hE v1 σ h1 (dK_lp (fun a out => w_dk_total_st hE a) h2 k)
theorem dk_ca_total {E : dEnv} {l : Launch} {G : dGeo} {cc : ByteArray} {nL pc : Nat} {R : Room} {σ : dS} {xs : List Int32} {st : List Value} {τ : Type} {g : Int32 × dS → Option τ} {out : τ} {a0 : Int32} (hE : dkOk E l G cc nL R) (hR : 1 + 1 ≤ R.frames ∧ 8 + (4 + 11) + 21 ≤ R.locals) (hd : decode cc pc = .ok (.invokevirtual 191, 3)) (hs : (st.map fun v => v.category).sum ≤ 8) (h : Option.bind (dk_total a0 σ) g = some out) (k : ∀ r, g r = some out → dG E r.2 (pc + 3) xs (.int r.1 :: st)) : dG E σ pc xs (.int a0 :: .ref G.2.1 :: st) := by
  obtain ⟨r, h1, h2⟩ := obind h
  exact dg_callVi hE (As := [.int a0]) (st := st) (C := RX0) (rm := rmX0_total) (dk_recv G) (fun sz => met_dk_total l G sz a0 σ h1) (lw_V q302 q304 qs17 q50 q305) 1 rfl ⟨rfl, rfl⟩ (by decide +kernel) hR rfl hs hd (k r h2)
abbrev rmX0_join : Room := { frames := 4, cells := 0, slots := 0, locals := 95 }
theorem w_dk_join_b229 {E : dEnv} {l : Launch} {G : dGeo} (hE : dkOk E l G cX0_join 8 rmX0_join) (s0 : Int32) (σ : dS) {out} (h : dk_join_b229 s0 σ = some out) (k : dR E cX0_join (some .int) out) : dG E σ 229 [] [.int s0] := by
  unfold dk_join_b229 at h
  cases h
  exact k rfl _ _ dX0_join_229
theorem w_dk_join_b218 {E : dEnv} {l : Launch} {G : dGeo} (hE : dkOk E l G cX0_join 8 rmX0_join) (v1 v2 v3 v4 v5 : Int32) (σ : dS) {out} (h : dk_join_b218 v1 v2 v3 v4 v5 σ = some out) (k : dR E cX0_join (some .int) out) : dG E σ 218 [v1, v2, v3, v4, v5] [] := by
  unfold dk_join_b218 at h
  refine dg_aload0 hE dX0_join_218 ?_
  refine dg_iload_n hE dX0_join_219 0 rfl rfl ?_
  refine dg_iload_n hE dX0_join_220 1 rfl rfl ?_
  refine dg_iload_n hE dX0_join_221 2 rfl rfl ?_
  refine dg_iload hE dX0_join_222 3 rfl rfl ?_
  refine dg_iload hE dX0_join_224 4 rfl rfl ?_
  refine dk_ca_compare hE (by decide) dX0_join_226 (Nat.le_of_ble_eq_true rfl) h (fun r_ h => ?_)
  refine dg_drop (xs' := []) (ys := [v1, v2, v3, v4, v5]) rfl ?_
  exact w_dk_join_b229 hE (r_.1) (r_.2) h k
theorem w_dk_join_b202 {E : dEnv} {l : Launch} {G : dGeo} (hE : dkOk E l G cX0_join 8 rmX0_join) (σ : dS) {out} (h : dk_join_b202 σ = some out) (k : dR E cX0_join (some .int) out) : dG E σ 202 [] [] := by
  unfold dk_join_b202 at h
  refine dg_iconst hE dX0_join_202 (v := (1 : Int32)) (by decide) ?_
  refine dg_goto hE dX0_join_203 (tgt := 207) (by decide) ?_
  cases h
  exact k rfl _ _ dX0_join_207
theorem w_dk_join_b177 {E : dEnv} {l : Launch} {G : dGeo} (hE : dkOk E l G cX0_join 8 rmX0_join) (s0 : Int32) (σ : dS) {out} (h : dk_join_b177 s0 σ = some out) (k : dR E cX0_join (some .int) out) : dG E σ 177 [] [.int s0] := by
  unfold dk_join_b177 at h
  cases h
  exact k rfl _ _ dX0_join_177
theorem w_dk_join_b171 {E : dEnv} {l : Launch} {G : dGeo} (hE : dkOk E l G cX0_join 8 rmX0_join) (s0 : Int32) (σ : dS) {out} (h : dk_join_b171 s0 σ = some out) (k : dR E cX0_join (some .int) out) : dG E σ 171 [] [.int s0] := by
  unfold dk_join_b171 at h
  cases h
  exact k rfl _ _ dX0_join_171
theorem w_dk_join_b165 {E : dEnv} {l : Launch} {G : dGeo} (hE : dkOk E l G cX0_join 8 rmX0_join) (s0 : Int32) (σ : dS) {out} (h : dk_join_b165 s0 σ = some out) (k : dR E cX0_join (some .int) out) : dG E σ 165 [] [.int s0] := by
  unfold dk_join_b165 at h
  cases h
  exact k rfl _ _ dX0_join_165
theorem w_dk_join_b79 {E : dEnv} {l : Launch} {G : dGeo} (hE : dkOk E l G cX0_join 8 rmX0_join) (v1 v2 v3 v4 v5 : Int32) (σ : dS) {out} (h : dk_join_b79 v1 v2 v3 v4 v5 σ = some out) (k : dR E cX0_join (some .int) out) : dG E σ 79 [v1, v2, v3, v4, v5] [] := by
  unfold dk_join_b79 at h
  refine dg_iload_n hE dX0_join_79 0 rfl rfl ?_
  refine dg_case (x := v1) (v := (3 : Int32)) h (fun c_ h => ?_) (fun c_ h => ?_)
  · refine dg_tabIn hE dX0_join_80 (tgt := 156) c_ rfl (by decide) (by decide) rfl (by decide) ?_
    refine dg_iload_n hE dX0_join_156 1 rfl rfl ?_
    refine dg_iload hE dX0_join_157 3 rfl rfl ?_
    refine dg_ior hE dX0_join_159 ?_
    cases h
    exact k rfl _ _ dX0_join_160
  · have n_0 := lv_neT c_ (show ((3 : Int32)).toInt = 3 by decide)
    refine dg_case (x := v1) (v := (4 : Int32)) h (fun c_ h => ?_) (fun c_ h => ?_)
    · refine dg_tabIn hE dX0_join_80 (tgt := 218) c_ rfl (by decide) (by decide) rfl (by decide) ?_
      exact w_dk_join_b218 hE v1 v2 v3 v4 v5 σ h k
    · have n_1 := lv_neT c_ (show ((4 : Int32)).toInt = 4 by decide)
      refine dg_case (x := v1) (v := (5 : Int32)) h (fun c_ h => ?_) (fun c_ h => ?_)
      · refine dg_tabIn hE dX0_join_80 (tgt := 218) c_ rfl (by decide) (by decide) rfl (by decide) ?_
        exact w_dk_join_b218 hE v1 v2 v3 v4 v5 σ h k
      · have n_2 := lv_neT c_ (show ((5 : Int32)).toInt = 5 by decide)
        refine dg_case (x := v1) (v := (6 : Int32)) h (fun c_ h => ?_) (fun c_ h => ?_)
        · refine dg_tabIn hE dX0_join_80 (tgt := 218) c_ rfl (by decide) (by decide) rfl (by decide) ?_
          exact w_dk_join_b218 hE v1 v2 v3 v4 v5 σ h k
        · have n_3 := lv_neT c_ (show ((6 : Int32)).toInt = 6 by decide)
          refine dg_case (x := v1) (v := (7 : Int32)) h (fun c_ h => ?_) (fun c_ h => ?_)
          · refine dg_tabIn hE dX0_join_80 (tgt := 161) c_ rfl (by decide) (by decide) rfl (by decide) ?_
            refine dg_iload_n hE dX0_join_161 1 rfl rfl ?_
            refine dk_ca_bits hE (by decide) dX0_join_162 (Nat.le_of_ble_eq_true rfl) h (fun r_ h => ?_)
            refine dg_drop (xs' := []) (ys := [v1, v2, v3, v4, v5]) rfl ?_
            exact w_dk_join_b165 hE r_ σ h k
          · have n_4 := lv_neT c_ (show ((7 : Int32)).toInt = 7 by decide)
            refine dg_case (x := v1) (v := (8 : Int32)) h (fun c_ h => ?_) (fun c_ h => ?_)
            · refine dg_tabIn hE dX0_join_80 (tgt := 166) c_ rfl (by decide) (by decide) rfl (by decide) ?_
              refine dg_aload0 hE dX0_join_166 ?_
              refine dg_iload_n hE dX0_join_167 1 rfl rfl ?_
              refine dk_ca_total hE (by decide) dX0_join_168 (Nat.le_of_ble_eq_true rfl) h (fun r_ h => ?_)
              refine dg_drop (xs' := []) (ys := [v1, v2, v3, v4, v5]) rfl ?_
              exact w_dk_join_b171 hE (r_.1) (r_.2) h k
            · have n_5 := lv_neT c_ (show ((8 : Int32)).toInt = 8 by decide)
              refine dg_case (x := v1) (v := (9 : Int32)) h (fun c_ h => ?_) (fun c_ h => ?_)
              · refine dg_tabIn hE dX0_join_80 (tgt := 172) c_ rfl (by decide) (by decide) rfl (by decide) ?_
                refine dg_aload0 hE dX0_join_172 ?_
                refine dg_iload_n hE dX0_join_173 1 rfl rfl ?_
                refine dk_ca_valueOf hE (by decide) dX0_join_174 (Nat.le_of_ble_eq_true rfl) h (fun r_ h => ?_)
                refine dg_drop (xs' := []) (ys := [v1, v2, v3, v4, v5]) rfl ?_
                exact w_dk_join_b177 hE (r_.1) (r_.2) h k
              · have n_6 := lv_neT c_ (show ((9 : Int32)).toInt = 9 by decide)
                refine dg_case (x := v1) (v := (10 : Int32)) h (fun c_ h => ?_) (fun c_ h => ?_)
                · refine dg_tabIn hE dX0_join_80 (tgt := 218) c_ rfl (by decide) (by decide) rfl (by decide) ?_
                  exact w_dk_join_b218 hE v1 v2 v3 v4 v5 σ h k
                · have n_7 := lv_neT c_ (show ((10 : Int32)).toInt = 10 by decide)
                  refine dg_case (x := v1) (v := (11 : Int32)) h (fun c_ h => ?_) (fun c_ h => ?_)
                  · refine dg_tabIn hE dX0_join_80 (tgt := 218) c_ rfl (by decide) (by decide) rfl (by decide) ?_
                    exact w_dk_join_b218 hE v1 v2 v3 v4 v5 σ h k
                  · have n_8 := lv_neT c_ (show ((11 : Int32)).toInt = 11 by decide)
                    refine dg_case (x := v1) (v := (12 : Int32)) h (fun c_ h => ?_) (fun c_ h => ?_)
                    · refine dg_tabIn hE dX0_join_80 (tgt := 218) c_ rfl (by decide) (by decide) rfl (by decide) ?_
                      exact w_dk_join_b218 hE v1 v2 v3 v4 v5 σ h k
                    · have n_9 := lv_neT c_ (show ((12 : Int32)).toInt = 12 by decide)
                      refine dg_case (x := v1) (v := (13 : Int32)) h (fun c_ h => ?_) (fun c_ h => ?_)
                      · refine dg_tabIn hE dX0_join_80 (tgt := 218) c_ rfl (by decide) (by decide) rfl (by decide) ?_
                        exact w_dk_join_b218 hE v1 v2 v3 v4 v5 σ h k
                      · have n_10 := lv_neT c_ (show ((13 : Int32)).toInt = 13 by decide)
                        refine dg_case (x := v1) (v := (14 : Int32)) h (fun c_ h => ?_) (fun c_ h => ?_)
                        · refine dg_tabIn hE dX0_join_80 (tgt := 218) c_ rfl (by decide) (by decide) rfl (by decide) ?_
                          exact w_dk_join_b218 hE v1 v2 v3 v4 v5 σ h k
                        · have n_11 := lv_neT c_ (show ((14 : Int32)).toInt = 14 by decide)
                          refine dg_case (x := v1) (v := (15 : Int32)) h (fun c_ h => ?_) (fun c_ h => ?_)
                          · refine dg_tabIn hE dX0_join_80 (tgt := 178) c_ rfl (by decide) (by decide) rfl (by decide) ?_
                            refine dg_iload_n hE dX0_join_178 1 rfl rfl ?_
                            refine dg_if_eq hE dX0_join_179 (tgt := 191) (by decide) h (fun h => ?_) (fun h => ?_)
                            · refine dg_iconst hE dX0_join_191 (v := (0 : Int32)) (by decide) ?_
                              cases h
                              exact k rfl _ _ dX0_join_192
                            · refine dg_iload hE dX0_join_182 3 rfl rfl ?_
                              refine dg_if_eq hE dX0_join_184 (tgt := 191) (by decide) h (fun h => ?_) (fun h => ?_)
                              · refine dg_iconst hE dX0_join_191 (v := (0 : Int32)) (by decide) ?_
                                cases h
                                exact k rfl _ _ dX0_join_192
                              · refine dg_iconst hE dX0_join_187 (v := (1 : Int32)) (by decide) ?_
                                refine dg_goto hE dX0_join_188 (tgt := 192) (by decide) ?_
                                cases h
                                exact k rfl _ _ dX0_join_192
                          · have n_12 := lv_neT c_ (show ((15 : Int32)).toInt = 15 by decide)
                            refine dg_case (x := v1) (v := (16 : Int32)) h (fun c_ h => ?_) (fun c_ h => ?_)
                            · refine dg_tabIn hE dX0_join_80 (tgt := 193) c_ rfl (by decide) (by decide) rfl (by decide) ?_
                              refine dg_iload_n hE dX0_join_193 1 rfl rfl ?_
                              refine dg_if_ne hE dX0_join_194 (tgt := 202) (by decide) h (fun h => ?_) (fun h => ?_)
                              · refine dg_drop (xs' := []) (ys := [v1, v2, v3, v4, v5]) rfl ?_
                                exact w_dk_join_b202 hE σ h k
                              · refine dg_iload hE dX0_join_197 3 rfl rfl ?_
                                refine dg_if_eq hE dX0_join_199 (tgt := 206) (by decide) h (fun h => ?_) (fun h => ?_)
                                · refine dg_iconst hE dX0_join_206 (v := (0 : Int32)) (by decide) ?_
                                  cases h
                                  exact k rfl _ _ dX0_join_207
                                · refine dg_drop (xs' := []) (ys := [v1, v2, v3, v4, v5]) rfl ?_
                                  exact w_dk_join_b202 hE σ h k
                            · have n_13 := lv_neT c_ (show ((16 : Int32)).toInt = 16 by decide)
                              refine dg_case (x := v1) (v := (17 : Int32)) h (fun c_ h => ?_) (fun c_ h => ?_)
                              · refine dg_tabIn hE dX0_join_80 (tgt := 208) c_ rfl (by decide) (by decide) rfl (by decide) ?_
                                refine dg_iload_n hE dX0_join_208 1 rfl rfl ?_
                                refine dg_if_ne hE dX0_join_209 (tgt := 216) (by decide) h (fun h => ?_) (fun h => ?_)
                                · refine dg_iconst hE dX0_join_216 (v := (0 : Int32)) (by decide) ?_
                                  cases h
                                  exact k rfl _ _ dX0_join_217
                                · refine dg_iconst hE dX0_join_212 (v := (1 : Int32)) (by decide) ?_
                                  refine dg_goto hE dX0_join_213 (tgt := 217) (by decide) ?_
                                  cases h
                                  exact k rfl _ _ dX0_join_217
                              · have n_14 := lv_neT c_ (show ((17 : Int32)).toInt = 17 by decide)
                                refine dg_tabOut hE dX0_join_80 (tgt := 218) (by have hq := trivial; omega) (by decide) ?_
                                exact w_dk_join_b218 hE v1 v2 v3 v4 v5 σ h k
theorem w_dk_join_b43 {E : dEnv} {l : Launch} {G : dGeo} (hE : dkOk E l G cX0_join 8 rmX0_join) (v1 v2 v3 v4 v5 v6 s0 : Int32) (σ : dS) {out} (h : dk_join_b43 v1 v2 v3 v4 v5 v6 s0 σ = some out) (k : dR E cX0_join (some .int) out) : dG E σ 43 [v1, v2, v3, v4, v5, v6] [.int s0] := by
  unfold dk_join_b43 at h
  refine dg_istore hE dX0_join_43 6 (xs' := [v1, v2, v3, v4, v5, v6, s0]) rfl (Nat.le_of_ble_eq_true rfl) (by decide) rfl ?_
  refine dg_iload_n hE dX0_join_45 0 rfl rfl ?_
  refine dg_bipush hE dX0_join_46 (v := (10 : Int32)) (by decide) ?_
  refine dg_icmp_ne hE dX0_join_48 (tgt := 59) (by decide) h (fun h => ?_) (fun h => ?_)
  · refine dg_iload_n hE dX0_join_59 0 rfl rfl ?_
    refine dg_bipush hE dX0_join_60 (v := (11 : Int32)) (by decide) ?_
    refine dg_icmp_ne hE dX0_join_62 (tgt := 73) (by decide) h (fun h => ?_) (fun h => ?_)
    · refine dg_iload hE dX0_join_73 5 rfl rfl ?_
      refine dg_iload hE dX0_join_75 6 rfl rfl ?_
      refine dg_imul hE dX0_join_77 ?_
      cases h
      exact k rfl _ _ dX0_join_78
    · refine dg_iload hE dX0_join_65 5 rfl rfl ?_
      refine dg_iload hE dX0_join_67 6 rfl rfl ?_
      refine dg_isub hE dX0_join_69 ?_
      refine dg_goto hE dX0_join_70 (tgt := 78) (by decide) ?_
      cases h
      exact k rfl _ _ dX0_join_78
  · refine dg_iload hE dX0_join_51 5 rfl rfl ?_
    refine dg_iload hE dX0_join_53 6 rfl rfl ?_
    refine dg_iadd hE dX0_join_55 ?_
    refine dg_goto hE dX0_join_56 (tgt := 78) (by decide) ?_
    cases h
    exact k rfl _ _ dX0_join_78
theorem w_dk_join_b25 {E : dEnv} {l : Launch} {G : dGeo} (hE : dkOk E l G cX0_join 8 rmX0_join) (v1 v2 v3 v4 v5 s0 : Int32) (σ : dS) {out} (h : dk_join_b25 v1 v2 v3 v4 v5 s0 σ = some out) (k : dR E cX0_join (some .int) out) : dG E σ 25 [v1, v2, v3, v4, v5] [.int s0] := by
  unfold dk_join_b25 at h
  refine dg_istore hE dX0_join_25 5 (xs' := [v1, v2, v3, v4, v5, s0]) rfl (Nat.le_of_ble_eq_true rfl) (by decide) rfl ?_
  refine dg_iload hE dX0_join_27 4 rfl rfl ?_
  refine dg_if_ne hE dX0_join_29 (tgt := 41) (by decide) h (fun h => ?_) (fun h => ?_)
  · refine dg_iload hE dX0_join_41 3 rfl rfl ?_
    exact w_dk_join_b43 hE v1 v2 v3 v4 v5 s0 v4 σ h k
  · refine dg_aload0 hE dX0_join_32 ?_
    refine dg_iload hE dX0_join_33 3 rfl rfl ?_
    refine dk_ca_valueOf hE (by decide) dX0_join_35 (Nat.le_of_ble_eq_true rfl) h (fun r_ h => ?_)
    refine dg_goto hE dX0_join_38 (tgt := 43) (by decide) ?_
    exact w_dk_join_b43 hE v1 v2 v3 v4 v5 s0 (r_.1) (r_.2) h k
theorem w_dk_join_b0 {E : dEnv} {l : Launch} {G : dGeo} (hE : dkOk E l G cX0_join 8 rmX0_join) (v1 v2 v3 v4 v5 : Int32) (σ : dS) {out} (h : dk_join_b0 v1 v2 v3 v4 v5 σ = some out) (k : dR E cX0_join (some .int) out) : dG E σ 0 [v1, v2, v3, v4, v5] [] := by
  unfold dk_join_b0 at h
  refine dg_iload_n hE dX0_join_0 0 rfl rfl ?_
  refine dg_bipush hE dX0_join_1 (v := (9 : Int32)) (by decide) ?_
  refine dg_icmp_le hE dX0_join_3 (tgt := 79) (by decide) h (fun h => ?_) (fun h => ?_)
  · exact w_dk_join_b79 hE v1 v2 v3 v4 v5 σ h k
  · refine dg_iload_n hE dX0_join_6 0 rfl rfl ?_
    refine dg_bipush hE dX0_join_7 (v := (13 : Int32)) (by decide) ?_
    refine dg_icmp_ge hE dX0_join_9 (tgt := 79) (by decide) h (fun h => ?_) (fun h => ?_)
    · exact w_dk_join_b79 hE v1 v2 v3 v4 v5 σ h k
    · refine dg_iload_n hE dX0_join_12 2 rfl rfl ?_
      refine dg_if_ne hE dX0_join_13 (tgt := 24) (by decide) h (fun h => ?_) (fun h => ?_)
      · refine dg_iload_n hE dX0_join_24 1 rfl rfl ?_
        exact w_dk_join_b25 hE v1 v2 v3 v4 v5 v2 σ h k
      · refine dg_aload0 hE dX0_join_16 ?_
        refine dg_iload_n hE dX0_join_17 1 rfl rfl ?_
        refine dk_ca_valueOf hE (by decide) dX0_join_18 (Nat.le_of_ble_eq_true rfl) h (fun r_ h => ?_)
        refine dg_goto hE dX0_join_21 (tgt := 25) (by decide) ?_
        exact w_dk_join_b25 hE v1 v2 v3 v4 v5 (r_.1) (r_.2) h k
theorem met_dk_join (l : Launch) (G : dGeo) (sz : Nat) (v1 v2 v3 v4 v5 : Int32) (σ : dS) {r : Int32 × dS} (h : dk_join v1 v2 v3 v4 v5 σ = some r) : Met l yX0_join (ws_ yX0_join cX0_join 8 (some .int)) rmX0_join (dPc G.1 (dk_ty G) (dk_w G σ) sz [.ref G.2.1, .int v1, .int v2, .int v3, .int v4, .int v5]) (dQi G.1 (dk_ty G) (dk_w G σ) (dk_w G r.2) sz r.1) 0 0 (va_A (dk_w G σ) sz) := by
  refine dMet_i (w := dk_w G) (σ := σ) (σ' := r.2) (th := [(0, .ref G.2.1)]) (b := 1) (xs := [v1, v2, v3, v4, v5]) (by decide) rfl rfl (Nat.le_of_ble_eq_true rfl) dth (fun E hE k => ?_)
  unfold dk_join at h
  exact w_dk_join_b0 hE v1 v2 v3 v4 v5 σ h k
theorem dk_ca_join {E : dEnv} {l : Launch} {G : dGeo} {cc : ByteArray} {nL pc : Nat} {R : Room} {σ : dS} {xs : List Int32} {st : List Value} {τ : Type} {g : Int32 × dS → Option τ} {out : τ} {a0 a1 a2 a3 a4 : Int32} (hE : dkOk E l G cc nL R) (hR : 4 + 1 ≤ R.frames ∧ 8 + (8 + 11) + 95 ≤ R.locals) (hd : decode cc pc = .ok (.invokevirtual 182, 3)) (hs : (st.map fun v => v.category).sum ≤ 8) (h : Option.bind (dk_join a0 a1 a2 a3 a4 σ) g = some out) (k : ∀ r, g r = some out → dG E r.2 (pc + 3) xs (.int r.1 :: st)) : dG E σ pc xs (.int a4 :: .int a3 :: .int a2 :: .int a1 :: .int a0 :: .ref G.2.1 :: st) := by
  obtain ⟨r, h1, h2⟩ := obind h
  exact dg_callVi hE (As := [.int a0, .int a1, .int a2, .int a3, .int a4]) (st := st) (C := RX0) (rm := rmX0_join) (dk_recv G) (fun sz => met_dk_join l G sz a0 a1 a2 a3 a4 σ h1) (lw_V q294 q296 qs15 q50 q297) 5 rfl ⟨rfl, rfl⟩ (by decide +kernel) hR rfl hs hd (k r h2)
abbrev rmX0_fill : Room := { frames := 5, cells := 0, slots := 0, locals := 122 }
theorem w_dk_fill_b187 {E : dEnv} {l : Launch} {G : dGeo} (hE : dkOk E l G cX0_fill 10 rmX0_fill) (v1 v2 v3 v4 v5 v6 v7 s0 s1 : Int32) (σ : dS) {out} (h : dk_fill_b187 v1 v2 v3 v4 v5 v6 v7 s0 s1 σ = some out) (k : dK E cX0_fill none out) : dG E σ 187 [v1, v2, v3, v4, v5, v6, v7] [.int s0, .int s1, .ref (G.2.2.1 23)] := by
  unfold dk_fill_b187 at h
  refine dk_as23 hE dX0_fill_187 h (fun h => ?_)
  refine dg_iinc hE dX0_fill_188 6 (xs' := [v1, v2, v3, v4, v5, v6, (v7 + (1 : Int32))]) rfl rfl (by decide) rfl ?_
  refine dg_goto hE dX0_fill_191 (tgt := 45) (by decide) ?_
  cases h
  exact k
theorem w_dk_fill_b184 {E : dEnv} {l : Launch} {G : dGeo} (hE : dkOk E l G cX0_fill 10 rmX0_fill) (v1 v2 v3 v4 v5 v6 v7 s0 s1 s2 s3 s4 s6 : Int32) (σ : dS) {out} (h : dk_fill_b184 v1 v2 v3 v4 v5 v6 v7 s0 s1 s2 s3 s4 s6 σ = some out) (k : dK E cX0_fill none out) : dG E σ 184 [v1, v2, v3, v4, v5, v6, v7] [.int s0, .int s1, .int s2, .int s3, .int s4, .ref G.2.1, .int s6, .ref (G.2.2.1 23)] := by
  unfold dk_fill_b184 at h
  refine dk_ca_join hE (by decide) dX0_fill_184 (Nat.le_of_ble_eq_true rfl) h (fun r_ h => ?_)
  exact w_dk_fill_b187 hE v1 v2 v3 v4 v5 v6 v7 (r_.1) s6 (r_.2) h k
theorem w_dk_fill_b101 {E : dEnv} {l : Launch} {G : dGeo} (hE : dkOk E l G cX0_fill 10 rmX0_fill) (v1 v2 v3 v4 v5 v6 v7 v8 s0 : Int32) (σ : dS) {out} (h : dk_fill_b101 v1 v2 v3 v4 v5 v6 v7 v8 s0 σ = some out) (k : dK E cX0_fill none out) : dG E σ 101 [v1, v2, v3, v4, v5, v6, v7, v8] [.int s0] := by
  unfold dk_fill_b101 at h
  refine dg_istore hE dX0_fill_101 8 (xs' := [v1, v2, v3, v4, v5, v6, v7, v8, s0]) rfl (Nat.le_of_ble_eq_true rfl) (by decide) rfl ?_
  refine dg_aload0 hE dX0_fill_103 ?_
  refine dk_gf23 hE dX0_fill_104 ?_
  refine dg_bipush hE dX0_fill_107 (v := (24 : Int32)) (by decide) ?_
  refine dg_iload_n hE dX0_fill_109 1 rfl rfl ?_
  refine dg_imul hE dX0_fill_110 ?_
  refine dg_iload hE dX0_fill_111 6 rfl rfl ?_
  refine dg_iadd hE dX0_fill_113 ?_
  refine dg_iload_n hE dX0_fill_114 2 rfl rfl ?_
  refine dg_if_ne hE dX0_fill_115 (tgt := 125) (by decide) h (fun h => ?_) (fun h => ?_)
  · refine dg_iload_n hE dX0_fill_125 2 rfl rfl ?_
    refine dg_iconst hE dX0_fill_126 (v := (1 : Int32)) (by decide) ?_
    refine dg_icmp_ne hE dX0_fill_127 (tgt := 134) (by decide) h (fun h => ?_) (fun h => ?_)
    · refine dg_iload hE dX0_fill_134 3 rfl rfl ?_
      refine dg_if_ne hE dX0_fill_136 (tgt := 150) (by decide) h (fun h => ?_) (fun h => ?_)
      · refine dg_aload0 hE dX0_fill_150 ?_
        refine dg_iload_n hE dX0_fill_151 2 rfl rfl ?_
        refine dg_iload hE dX0_fill_152 7 rfl rfl ?_
        refine dg_aload0 hE dX0_fill_154 ?_
        refine dk_gf18 hE dX0_fill_155 ?_
        refine dg_iload_n hE dX0_fill_158 0 rfl rfl ?_
        refine dg_iload hE dX0_fill_159 4 rfl rfl ?_
        refine dg_iadd hE dX0_fill_161 ?_
        refine dk_ld18 hE dX0_fill_162 h (fun h => ?_)
        refine dg_iload hE dX0_fill_163 8 rfl rfl ?_
        refine dg_iload hE dX0_fill_165 3 rfl rfl ?_
        refine dg_iconst hE dX0_fill_167 (v := (1 : Int32)) (by decide) ?_
        refine dg_icmp_le hE dX0_fill_168 (tgt := 183) (by decide) h (fun h => ?_) (fun h => ?_)
        · refine dg_iconst hE dX0_fill_183 (v := (1 : Int32)) (by decide) ?_
          refine dg_drop (xs' := [v1, v2, v3, v4, v5, v6, v7]) (ys := [v8, s0]) rfl ?_
          exact w_dk_fill_b184 hE v1 v2 v3 v4 v5 v6 v7 (1 : Int32) s0 (σ 18 (v1 + v5).toNatClampNeg) v8 v3 (((24 : Int32) * v2) + v7) σ h k
        · refine dg_aload0 hE dX0_fill_171 ?_
          refine dk_gf18 hE dX0_fill_172 ?_
          refine dg_iload_n hE dX0_fill_175 0 rfl rfl ?_
          refine dg_iload hE dX0_fill_176 5 rfl rfl ?_
          refine dg_iadd hE dX0_fill_178 ?_
          refine dk_ld18 hE dX0_fill_179 h (fun h => ?_)
          refine dg_goto hE dX0_fill_180 (tgt := 184) (by decide) ?_
          refine dg_drop (xs' := [v1, v2, v3, v4, v5, v6, v7]) (ys := [v8, s0]) rfl ?_
          exact w_dk_fill_b184 hE v1 v2 v3 v4 v5 v6 v7 (σ 18 (v1 + v6).toNatClampNeg) s0 (σ 18 (v1 + v5).toNatClampNeg) v8 v3 (((24 : Int32) * v2) + v7) σ h k
      · refine dg_aload0 hE dX0_fill_139 ?_
        refine dk_gf17 hE dX0_fill_140 ?_
        refine dg_iload_n hE dX0_fill_143 0 rfl rfl ?_
        refine dg_iload_n hE dX0_fill_144 1 rfl rfl ?_
        refine dg_iadd hE dX0_fill_145 ?_
        refine dk_ld17 hE dX0_fill_146 h (fun h => ?_)
        refine dg_goto hE dX0_fill_147 (tgt := 187) (by decide) ?_
        refine dg_drop (xs' := [v1, v2, v3, v4, v5, v6, v7]) (ys := [v8, s0]) rfl ?_
        exact w_dk_fill_b187 hE v1 v2 v3 v4 v5 v6 v7 (σ 17 (v1 + v2).toNatClampNeg) (((24 : Int32) * v2) + v7) σ h k
    · refine dg_iconst hE dX0_fill_130 (v := (1 : Int32)) (by decide) ?_
      refine dg_goto hE dX0_fill_131 (tgt := 187) (by decide) ?_
      refine dg_drop (xs' := [v1, v2, v3, v4, v5, v6, v7]) (ys := [v8, s0]) rfl ?_
      exact w_dk_fill_b187 hE v1 v2 v3 v4 v5 v6 v7 (1 : Int32) (((24 : Int32) * v2) + v7) σ h k
  · refine dg_iconst hE dX0_fill_118 (v := (1 : Int32)) (by decide) ?_
    refine dg_iload hE dX0_fill_119 6 rfl rfl ?_
    refine dg_ishl hE dX0_fill_121 ?_
    refine dg_goto hE dX0_fill_122 (tgt := 187) (by decide) ?_
    refine dg_drop (xs' := [v1, v2, v3, v4, v5, v6, v7]) (ys := [v8, s0]) rfl ?_
    exact w_dk_fill_b187 hE v1 v2 v3 v4 v5 v6 v7 ((1 : Int32) <<< (v7 &&& 31)) (((24 : Int32) * v2) + v7) σ h k
theorem w_dk_fill_b76 {E : dEnv} {l : Launch} {G : dGeo} (hE : dkOk E l G cX0_fill 10 rmX0_fill) (v1 v2 v3 v4 v5 v6 v7 s0 : Int32) (σ : dS) {out} (h : dk_fill_b76 v1 v2 v3 v4 v5 v6 v7 s0 σ = some out) (k : dK E cX0_fill none out) : dG E σ 76 [v1, v2, v3, v4, v5, v6, v7] [.int s0] := by
  unfold dk_fill_b76 at h
  refine dg_istore hE dX0_fill_76 7 (xs' := [v1, v2, v3, v4, v5, v6, v7, s0]) rfl (Nat.le_of_ble_eq_true rfl) (by decide) rfl ?_
  refine dg_iload hE dX0_fill_78 3 rfl rfl ?_
  refine dg_iconst hE dX0_fill_80 (v := (1 : Int32)) (by decide) ?_
  refine dg_icmp_le hE dX0_fill_81 (tgt := 100) (by decide) h (fun h => ?_) (fun h => ?_)
  · refine dg_iconst hE dX0_fill_100 (v := (0 : Int32)) (by decide) ?_
    exact w_dk_fill_b101 hE v1 v2 v3 v4 v5 v6 v7 s0 (0 : Int32) σ h k
  · refine dg_aload0 hE dX0_fill_84 ?_
    refine dk_gf23 hE dX0_fill_85 ?_
    refine dg_bipush hE dX0_fill_88 (v := (24 : Int32)) (by decide) ?_
    refine dg_iload hE dX0_fill_90 5 rfl rfl ?_
    refine dg_imul hE dX0_fill_92 ?_
    refine dg_iload hE dX0_fill_93 6 rfl rfl ?_
    refine dg_iadd hE dX0_fill_95 ?_
    refine dk_ld23 hE dX0_fill_96 h (fun h => ?_)
    refine dg_goto hE dX0_fill_97 (tgt := 101) (by decide) ?_
    exact w_dk_fill_b101 hE v1 v2 v3 v4 v5 v6 v7 s0 (σ 23 (((24 : Int32) * v6) + v7).toNatClampNeg) σ h k
theorem w_dk_fill_b45 {E : dEnv} {l : Launch} {G : dGeo} (hE : dkOk E l G cX0_fill 10 rmX0_fill) (v1 v2 v3 v4 v5 v6 v7 : Int32) (σ : dS) {out} (h : dk_fill_b45 v1 v2 v3 v4 v5 v6 v7 σ = some out) (k : dK E cX0_fill none out) : dG E σ 45 [v1, v2, v3, v4, v5, v6, v7] [] := by
  unfold dk_fill_b45 at h
  refine dg_iload hE dX0_fill_45 6 rfl rfl ?_
  refine dg_aload0 hE dX0_fill_47 ?_
  refine dk_gf6 hE dX0_fill_48 ?_
  refine dg_icmp_ge hE dX0_fill_51 (tgt := 194) (by decide) h (fun h => ?_) (fun h => ?_)
  · cases h
    exact k _ _ dX0_fill_194
  · refine dg_iload hE dX0_fill_54 3 rfl rfl ?_
    refine dg_if_le hE dX0_fill_56 (tgt := 75) (by decide) h (fun h => ?_) (fun h => ?_)
    · refine dg_iconst hE dX0_fill_75 (v := (0 : Int32)) (by decide) ?_
      exact w_dk_fill_b76 hE v1 v2 v3 v4 v5 v6 v7 (0 : Int32) σ h k
    · refine dg_aload0 hE dX0_fill_59 ?_
      refine dk_gf23 hE dX0_fill_60 ?_
      refine dg_bipush hE dX0_fill_63 (v := (24 : Int32)) (by decide) ?_
      refine dg_iload hE dX0_fill_65 4 rfl rfl ?_
      refine dg_imul hE dX0_fill_67 ?_
      refine dg_iload hE dX0_fill_68 6 rfl rfl ?_
      refine dg_iadd hE dX0_fill_70 ?_
      refine dk_ld23 hE dX0_fill_71 h (fun h => ?_)
      refine dg_goto hE dX0_fill_72 (tgt := 76) (by decide) ?_
      exact w_dk_fill_b76 hE v1 v2 v3 v4 v5 v6 v7 (σ 23 (((24 : Int32) * v5) + v7).toNatClampNeg) σ h k
theorem w_dk_fill_b40 {E : dEnv} {l : Launch} {G : dGeo} (hE : dkOk E l G cX0_fill 10 rmX0_fill) (v1 v2 v3 v4 v5 s0 : Int32) (σ : dS) {out} (h : dk_fill_b40 v1 v2 v3 v4 v5 s0 σ = some out) (k : dK E cX0_fill none out) : dG E σ 40 [v1, v2, v3, v4, v5] [.int s0] := by
  unfold dk_fill_b40 at h
  refine dg_istore hE dX0_fill_40 5 (xs' := [v1, v2, v3, v4, v5, s0]) rfl (Nat.le_of_ble_eq_true rfl) (by decide) rfl ?_
  refine dg_iconst hE dX0_fill_42 (v := (0 : Int32)) (by decide) ?_
  refine dg_istore hE dX0_fill_43 6 (xs' := [v1, v2, v3, v4, v5, s0, (0 : Int32)]) rfl (Nat.le_of_ble_eq_true rfl) (by decide) rfl ?_
  cases h
  exact k
theorem w_dk_fill_b21 {E : dEnv} {l : Launch} {G : dGeo} (hE : dkOk E l G cX0_fill 10 rmX0_fill) (v1 v2 v3 v4 v5 : Int32) (σ : dS) {out} (h : dk_fill_b21 v1 v2 v3 v4 v5 σ = some out) (k : dK E cX0_fill none out) : dG E σ 21 [v1, v2, v3, v4, v5] [] := by
  unfold dk_fill_b21 at h
  refine dg_iload hE dX0_fill_21 3 rfl rfl ?_
  refine dg_iconst hE dX0_fill_23 (v := (1 : Int32)) (by decide) ?_
  refine dg_icmp_le hE dX0_fill_24 (tgt := 39) (by decide) h (fun h => ?_) (fun h => ?_)
  · refine dg_iconst hE dX0_fill_39 (v := (0 : Int32)) (by decide) ?_
    exact w_dk_fill_b40 hE v1 v2 v3 v4 v5 (0 : Int32) σ h k
  · refine dg_aload0 hE dX0_fill_27 ?_
    refine dk_gf19 hE dX0_fill_28 ?_
    refine dg_iload_n hE dX0_fill_31 0 rfl rfl ?_
    refine dg_iload hE dX0_fill_32 4 rfl rfl ?_
    refine dg_iadd hE dX0_fill_34 ?_
    refine dk_ld19 hE dX0_fill_35 h (fun h => ?_)
    refine dg_goto hE dX0_fill_36 (tgt := 40) (by decide) ?_
    exact w_dk_fill_b40 hE v1 v2 v3 v4 v5 (σ 19 (v1 + v5).toNatClampNeg) σ h k
theorem w_dk_fill_b14 {E : dEnv} {l : Launch} {G : dGeo} (hE : dkOk E l G cX0_fill 10 rmX0_fill) (v1 v2 v3 s0 : Int32) (σ : dS) {out} (h : dk_fill_b14 v1 v2 v3 s0 σ = some out) (k : dK E cX0_fill none out) : dG E σ 14 [v1, v2, v3] [.int s0] := by
  unfold dk_fill_b14 at h
  refine dg_istore hE dX0_fill_14 3 (xs' := [v1, v2, v3, s0]) rfl (Nat.le_of_ble_eq_true rfl) (by decide) rfl ?_
  refine dg_iload_n hE dX0_fill_16 1 rfl rfl ?_
  refine dg_iconst hE dX0_fill_17 (v := (1 : Int32)) (by decide) ?_
  refine dg_iadd hE dX0_fill_18 ?_
  refine dg_istore hE dX0_fill_19 4 (xs' := [v1, v2, v3, s0, (v2 + (1 : Int32))]) rfl (Nat.le_of_ble_eq_true rfl) (by decide) rfl ?_
  exact w_dk_fill_b21 hE v1 v2 v3 s0 (v2 + (1 : Int32)) σ h k
theorem w_dk_fill_b9 {E : dEnv} {l : Launch} {G : dGeo} (hE : dkOk E l G cX0_fill 10 rmX0_fill) (v1 v2 v3 : Int32) (σ : dS) {out} (h : dk_fill_b9 v1 v2 v3 σ = some out) (k : dK E cX0_fill none out) : dG E σ 9 [v1, v2, v3] [] := by
  unfold dk_fill_b9 at h
  refine dg_iload_n hE dX0_fill_9 2 rfl rfl ?_
  refine dg_iconst hE dX0_fill_10 (v := (0 : Int32)) (by decide) ?_
  refine dk_ca_arity hE (by decide) dX0_fill_11 (Nat.le_of_ble_eq_true rfl) h (fun r_ h => ?_)
  exact w_dk_fill_b14 hE v1 v2 v3 r_ σ h k
theorem w_dk_fill_b0 {E : dEnv} {l : Launch} {G : dGeo} (hE : dkOk E l G cX0_fill 10 rmX0_fill) (v1 v2 : Int32) (σ : dS) {out} (h : dk_fill_b0 v1 v2 σ = some out) (k : dK E cX0_fill none out) : dG E σ 0 [v1, v2] [] := by
  unfold dk_fill_b0 at h
  refine dg_aload0 hE dX0_fill_0 ?_
  refine dk_gf16 hE dX0_fill_1 ?_
  refine dg_iload_n hE dX0_fill_4 0 rfl rfl ?_
  refine dg_iload_n hE dX0_fill_5 1 rfl rfl ?_
  refine dg_iadd hE dX0_fill_6 ?_
  refine dk_ld16 hE dX0_fill_7 h (fun h => ?_)
  refine dg_istore_n hE dX0_fill_8 2 (xs' := [v1, v2, (σ 16 (v1 + v2).toNatClampNeg)]) rfl (Nat.le_of_ble_eq_true rfl) (by decide) rfl ?_
  exact w_dk_fill_b9 hE v1 v2 (σ 16 (v1 + v2).toNatClampNeg) σ h k
theorem w_dk_fill_st {E : dEnv} {l : Launch} {G : dGeo} (hE : dkOk E l G cX0_fill 10 rmX0_fill) (a : Nat × List Int32 × dS) {out} (h : dk_fill_st a = some out) (k : dK E cX0_fill none out) : dG E a.2.2 a.1 a.2.1 [] := by
  obtain ⟨L, xs, σ⟩ := a
  unfold dk_fill_st at h
  dsimp only at h ⊢
  by_cases c_ : L = 45
  · subst c_
    rw [if_pos rfl] at h
    match xs, h with
    | [x0, x1, x2, x3, x4, x5, x6], h => exact w_dk_fill_b45 hE x0 x1 x2 x3 x4 x5 x6 σ h k
    | [], h => cases h
    | [_], h => cases h
    | [_, _], h => cases h
    | [_, _, _], h => cases h
    | [_, _, _, _], h => cases h
    | [_, _, _, _, _], h => cases h
    | [_, _, _, _, _, _], h => cases h
    | _ :: _ :: _ :: _ :: _ :: _ :: _ :: _ :: _, h => cases h
  rw [if_neg c_] at h
  cases h
theorem met_dk_fill (l : Launch) (G : dGeo) (sz : Nat) (v1 v2 : Int32) (σ : dS) {r : Int32 × dS} (h : dk_fill v1 v2 σ = some r) : Met l yX0_fill (ws_ yX0_fill cX0_fill 10 none) rmX0_fill (dPc G.1 (dk_ty G) (dk_w G σ) sz [.ref G.2.1, .int v1, .int v2]) (dQv G.1 (dk_ty G) (dk_w G σ) (dk_w G r.2) sz) 0 0 (va_A (dk_w G σ) sz) := by
  refine dMet_v (w := dk_w G) (σ := σ) (σ' := r.2) (r := r.1) (th := [(0, .ref G.2.1)]) (b := 1) (xs := [v1, v2]) (by decide) rfl rfl (Nat.le_of_ble_eq_true rfl) dth (fun E hE k => ?_)
  unfold dk_fill at h
  obtain ⟨out, h1, h2⟩ := lpB_some h
  exact w_dk_fill_b0 hE v1 v2 σ h1 (dK_lp (fun a out => w_dk_fill_st hE a) h2 k)
theorem dk_ca_fill {E : dEnv} {l : Launch} {G : dGeo} {cc : ByteArray} {nL pc : Nat} {R : Room} {σ : dS} {xs : List Int32} {st : List Value} {τ : Type} {g : Int32 × dS → Option τ} {out : τ} {a0 a1 : Int32} (hE : dkOk E l G cc nL R) (hR : 5 + 1 ≤ R.frames ∧ 8 + (10 + 11) + 122 ≤ R.locals) (hd : decode cc pc = .ok (.invokevirtual 175, 3)) (hs : (st.map fun v => v.category).sum ≤ 8) (h : Option.bind (dk_fill a0 a1 σ) g = some out) (k : ∀ r, g r = some out → dG E r.2 (pc + 3) xs (st)) : dG E σ pc xs (.int a1 :: .int a0 :: .ref G.2.1 :: st) := by
  obtain ⟨r, h1, h2⟩ := obind h
  exact dg_callVv hE (As := [.int a0, .int a1]) (st := st) (C := RX0) (rm := rmX0_fill) (dk_recv G) (fun sz => met_dk_fill l G sz a0 a1 σ h1) (lw_V q318 q320 qs21 q50 q321) 2 rfl ⟨rfl, rfl⟩ (by decide +kernel) hR rfl hs hd (k r h2)
abbrev rmX0_later : Room := { frames := 5, cells := 0, slots := 0, locals := 122 }
theorem w_dk_later_b199 {E : dEnv} {l : Launch} {G : dGeo} (hE : dkOk E l G cX0_later 13 rmX0_later) (v1 v2 v3 v4 v5 v6 v7 v8 v9 v10 : Int32) (σ : dS) {out} (h : dk_later_b199 v1 v2 v3 v4 v5 v6 v7 v8 v9 v10 σ = some out) (k : dK E cX0_later (some .int) out) : dG E σ 199 [v1, v2, v3, v4, v5, v6, v7, v8, v9, v10] [] := by
  unfold dk_later_b199 at h
  refine dg_aload0 hE dX0_later_199 ?_
  refine dk_gf27 hE dX0_later_200 ?_
  refine dg_iload hE dX0_later_203 5 rfl rfl ?_
  refine dg_iinc hE dX0_later_205 5 (xs' := [v1, v2, v3, v4, v5, (v6 + (1 : Int32)), v7, v8, v9, v10]) rfl rfl (by decide) rfl ?_
  refine dg_iload hE dX0_later_208 9 rfl rfl ?_
  refine dk_as27 hE dX0_later_210 h (fun h => ?_)
  refine dg_iinc hE dX0_later_211 6 (xs' := [v1, v2, v3, v4, v5, (v6 + (1 : Int32)), (v7 + (-1 : Int32)), v8, v9, v10]) rfl rfl (by decide) rfl ?_
  refine dg_goto hE dX0_later_214 (tgt := 15) (by decide) ?_
  refine dg_drop (xs' := [v1, v2, v3, v4, v5, (v6 + (1 : Int32)), (v7 + (-1 : Int32))]) (ys := [v8, v9, v10]) rfl ?_
  cases h
  exact k
theorem w_dk_later_b192 {E : dEnv} {l : Launch} {G : dGeo} (hE : dkOk E l G cX0_later 13 rmX0_later) (v1 v2 v3 v4 v5 v6 v7 v8 v9 v10 : Int32) (σ : dS) {out} (h : dk_later_b192 v1 v2 v3 v4 v5 v6 v7 v8 v9 v10 σ = some out) (k : dK E cX0_later (some .int) out) : dG E σ 192 [v1, v2, v3, v4, v5, v6, v7, v8, v9, v10] [] := by
  unfold dk_later_b192 at h
  refine dg_iload hE dX0_later_192 5 rfl rfl ?_
  refine dg_iload hE dX0_later_194 8 rfl rfl ?_
  refine dg_isub hE dX0_later_196 ?_
  refine dg_istore hE dX0_later_197 5 (xs' := [v1, v2, v3, v4, v5, (v6 - v9), v7, v8, v9, v10]) rfl (Nat.le_of_ble_eq_true rfl) (by decide) rfl ?_
  exact w_dk_later_b199 hE v1 v2 v3 v4 v5 (v6 - v9) v7 v8 v9 v10 σ h k
theorem w_dk_later_b190 {E : dEnv} {l : Launch} {G : dGeo} (hE : dkOk E l G cX0_later 13 rmX0_later) (v1 v2 v3 v4 v5 v6 v7 v8 v9 s0 : Int32) (σ : dS) {out} (h : dk_later_b190 v1 v2 v3 v4 v5 v6 v7 v8 v9 s0 σ = some out) (k : dK E cX0_later (some .int) out) : dG E σ 190 [v1, v2, v3, v4, v5, v6, v7, v8, v9] [.int s0] := by
  unfold dk_later_b190 at h
  refine dg_istore hE dX0_later_190 9 (xs' := [v1, v2, v3, v4, v5, v6, v7, v8, v9, s0]) rfl (Nat.le_of_ble_eq_true rfl) (by decide) rfl ?_
  exact w_dk_later_b192 hE v1 v2 v3 v4 v5 v6 v7 v8 v9 s0 σ h k
theorem w_dk_later_b187 {E : dEnv} {l : Launch} {G : dGeo} (hE : dkOk E l G cX0_later 13 rmX0_later) (v1 v2 v3 v4 v5 v6 v7 v8 v9 s0 s1 s2 s3 s4 : Int32) (σ : dS) {out} (h : dk_later_b187 v1 v2 v3 v4 v5 v6 v7 v8 v9 s0 s1 s2 s3 s4 σ = some out) (k : dK E cX0_later (some .int) out) : dG E σ 187 [v1, v2, v3, v4, v5, v6, v7, v8, v9] [.int s0, .int s1, .int s2, .int s3, .int s4, .ref G.2.1] := by
  unfold dk_later_b187 at h
  refine dk_ca_join hE (by decide) dX0_later_187 (Nat.le_of_ble_eq_true rfl) h (fun r_ h => ?_)
  exact w_dk_later_b190 hE v1 v2 v3 v4 v5 v6 v7 v8 v9 (r_.1) (r_.2) h k
theorem w_dk_later_b168 {E : dEnv} {l : Launch} {G : dGeo} (hE : dkOk E l G cX0_later 13 rmX0_later) (v1 v2 v3 v4 v5 v6 v7 v8 v9 v10 v11 v12 s0 s1 s2 s3 : Int32) (σ : dS) {out} (h : dk_later_b168 v1 v2 v3 v4 v5 v6 v7 v8 v9 v10 v11 v12 s0 s1 s2 s3 σ = some out) (k : dK E cX0_later (some .int) out) : dG E σ 168 [v1, v2, v3, v4, v5, v6, v7, v8, v9, v10, v11, v12] [.int s0, .int s1, .int s2, .int s3, .ref G.2.1] := by
  unfold dk_later_b168 at h
  refine dg_iload hE dX0_later_168 8 rfl rfl ?_
  refine dg_iconst hE dX0_later_170 (v := (1 : Int32)) (by decide) ?_
  refine dg_icmp_le hE dX0_later_171 (tgt := 186) (by decide) h (fun h => ?_) (fun h => ?_)
  · refine dg_iconst hE dX0_later_186 (v := (1 : Int32)) (by decide) ?_
    refine dg_drop (xs' := [v1, v2, v3, v4, v5, v6, v7, v8, v9]) (ys := [v10, v11, v12]) rfl ?_
    exact w_dk_later_b187 hE v1 v2 v3 v4 v5 v6 v7 v8 v9 (1 : Int32) s0 s1 s2 s3 σ h k
  · refine dg_aload0 hE dX0_later_174 ?_
    refine dk_gf18 hE dX0_later_175 ?_
    refine dg_iload_n hE dX0_later_178 0 rfl rfl ?_
    refine dg_iload hE dX0_later_179 11 rfl rfl ?_
    refine dg_iadd hE dX0_later_181 ?_
    refine dk_ld18 hE dX0_later_182 h (fun h => ?_)
    refine dg_goto hE dX0_later_183 (tgt := 187) (by decide) ?_
    refine dg_drop (xs' := [v1, v2, v3, v4, v5, v6, v7, v8, v9]) (ys := [v10, v11, v12]) rfl ?_
    exact w_dk_later_b187 hE v1 v2 v3 v4 v5 v6 v7 v8 v9 (σ 18 (v1 + v12).toNatClampNeg) s0 s1 s2 s3 σ h k
theorem w_dk_later_b128 {E : dEnv} {l : Launch} {G : dGeo} (hE : dkOk E l G cX0_later 13 rmX0_later) (v1 v2 v3 v4 v5 v6 v7 v8 v9 v10 v11 v12 : Int32) (σ : dS) {out} (h : dk_later_b128 v1 v2 v3 v4 v5 v6 v7 v8 v9 v10 v11 v12 σ = some out) (k : dK E cX0_later (some .int) out) : dG E σ 128 [v1, v2, v3, v4, v5, v6, v7, v8, v9, v10, v11, v12] [] := by
  unfold dk_later_b128 at h
  refine dg_aload0 hE dX0_later_128 ?_
  refine dg_iload hE dX0_later_129 7 rfl rfl ?_
  refine dg_aload0 hE dX0_later_131 ?_
  refine dk_gf27 hE dX0_later_132 ?_
  refine dg_iload hE dX0_later_135 5 rfl rfl ?_
  refine dg_iconst hE dX0_later_137 (v := (1 : Int32)) (by decide) ?_
  refine dg_isub hE dX0_later_138 ?_
  refine dk_ld27 hE dX0_later_139 h (fun h => ?_)
  refine dg_aload0 hE dX0_later_140 ?_
  refine dk_gf18 hE dX0_later_141 ?_
  refine dg_iload_n hE dX0_later_144 0 rfl rfl ?_
  refine dg_iload hE dX0_later_145 10 rfl rfl ?_
  refine dg_iadd hE dX0_later_147 ?_
  refine dk_ld18 hE dX0_later_148 h (fun h => ?_)
  refine dg_iload hE dX0_later_149 8 rfl rfl ?_
  refine dg_iconst hE dX0_later_151 (v := (1 : Int32)) (by decide) ?_
  refine dg_icmp_le hE dX0_later_152 (tgt := 167) (by decide) h (fun h => ?_) (fun h => ?_)
  · refine dg_iconst hE dX0_later_167 (v := (0 : Int32)) (by decide) ?_
    exact w_dk_later_b168 hE v1 v2 v3 v4 v5 v6 v7 v8 v9 v10 v11 v12 (0 : Int32) (σ 18 (v1 + v11).toNatClampNeg) (σ 27 (v6 - (1 : Int32)).toNatClampNeg) v8 σ h k
  · refine dg_aload0 hE dX0_later_155 ?_
    refine dk_gf27 hE dX0_later_156 ?_
    refine dg_iload hE dX0_later_159 5 rfl rfl ?_
    refine dg_iconst hE dX0_later_161 (v := (2 : Int32)) (by decide) ?_
    refine dg_isub hE dX0_later_162 ?_
    refine dk_ld27 hE dX0_later_163 h (fun h => ?_)
    refine dg_goto hE dX0_later_164 (tgt := 168) (by decide) ?_
    exact w_dk_later_b168 hE v1 v2 v3 v4 v5 v6 v7 v8 v9 v10 v11 v12 (σ 27 (v6 - (2 : Int32)).toNatClampNeg) (σ 18 (v1 + v11).toNatClampNeg) (σ 27 (v6 - (1 : Int32)).toNatClampNeg) v8 σ h k
theorem w_dk_later_b117 {E : dEnv} {l : Launch} {G : dGeo} (hE : dkOk E l G cX0_later 13 rmX0_later) (v1 v2 v3 v4 v5 v6 v7 v8 v9 v10 v11 : Int32) (σ : dS) {out} (h : dk_later_b117 v1 v2 v3 v4 v5 v6 v7 v8 v9 v10 v11 σ = some out) (k : dK E cX0_later (some .int) out) : dG E σ 117 [v1, v2, v3, v4, v5, v6, v7, v8, v9, v10, v11] [] := by
  unfold dk_later_b117 at h
  refine dg_aload0 hE dX0_later_117 ?_
  refine dk_gf19 hE dX0_later_118 ?_
  refine dg_iload_n hE dX0_later_121 0 rfl rfl ?_
  refine dg_iload hE dX0_later_122 10 rfl rfl ?_
  refine dg_iadd hE dX0_later_124 ?_
  refine dk_ld19 hE dX0_later_125 h (fun h => ?_)
  refine dg_istore hE dX0_later_126 11 (xs' := [v1, v2, v3, v4, v5, v6, v7, v8, v9, v10, v11, (σ 19 (v1 + v11).toNatClampNeg)]) rfl (Nat.le_of_ble_eq_true rfl) (by decide) rfl ?_
  exact w_dk_later_b128 hE v1 v2 v3 v4 v5 v6 v7 v8 v9 v10 v11 (σ 19 (v1 + v11).toNatClampNeg) σ h k
theorem w_dk_later_b77 {E : dEnv} {l : Launch} {G : dGeo} (hE : dkOk E l G cX0_later 13 rmX0_later) (v1 v2 v3 v4 v5 v6 v7 v8 v9 s0 : Int32) (σ : dS) {out} (h : dk_later_b77 v1 v2 v3 v4 v5 v6 v7 v8 v9 s0 σ = some out) (k : dK E cX0_later (some .int) out) : dG E σ 77 [v1, v2, v3, v4, v5, v6, v7, v8, v9] [.int s0] := by
  unfold dk_later_b77 at h
  refine dg_istore hE dX0_later_77 9 (xs' := [v1, v2, v3, v4, v5, v6, v7, v8, v9, s0]) rfl (Nat.le_of_ble_eq_true rfl) (by decide) rfl ?_
  refine dg_goto hE dX0_later_79 (tgt := 192) (by decide) ?_
  exact w_dk_later_b192 hE v1 v2 v3 v4 v5 v6 v7 v8 v9 s0 σ h k
theorem w_dk_later_b64 {E : dEnv} {l : Launch} {G : dGeo} (hE : dkOk E l G cX0_later 13 rmX0_later) (v1 v2 v3 v4 v5 v6 v7 v8 v9 : Int32) (σ : dS) {out} (h : dk_later_b64 v1 v2 v3 v4 v5 v6 v7 v8 v9 σ = some out) (k : dK E cX0_later (some .int) out) : dG E σ 64 [v1, v2, v3, v4, v5, v6, v7, v8, v9] [] := by
  unfold dk_later_b64 at h
  refine dg_iload hE dX0_later_64 7 rfl rfl ?_
  refine dg_iconst hE dX0_later_66 (v := (5 : Int32)) (by decide) ?_
  refine dg_icmp_ne hE dX0_later_67 (tgt := 75) (by decide) h (fun h => ?_) (fun h => ?_)
  · refine dg_iload hE dX0_later_75 4 rfl rfl ?_
    exact w_dk_later_b77 hE v1 v2 v3 v4 v5 v6 v7 v8 v9 v5 σ h k
  · refine dg_iload hE dX0_later_70 3 rfl rfl ?_
    refine dg_goto hE dX0_later_72 (tgt := 77) (by decide) ?_
    exact w_dk_later_b77 hE v1 v2 v3 v4 v5 v6 v7 v8 v9 v4 σ h k
theorem w_dk_later_b46 {E : dEnv} {l : Launch} {G : dGeo} (hE : dkOk E l G cX0_later 13 rmX0_later) (v1 v2 v3 v4 v5 v6 v7 v8 s0 : Int32) (σ : dS) {out} (h : dk_later_b46 v1 v2 v3 v4 v5 v6 v7 v8 s0 σ = some out) (k : dK E cX0_later (some .int) out) : dG E σ 46 [v1, v2, v3, v4, v5, v6, v7, v8] [.int s0] := by
  unfold dk_later_b46 at h
  refine dg_istore hE dX0_later_46 8 (xs' := [v1, v2, v3, v4, v5, v6, v7, v8, s0]) rfl (Nat.le_of_ble_eq_true rfl) (by decide) rfl ?_
  refine dg_iconst hE dX0_later_48 (v := (0 : Int32)) (by decide) ?_
  refine dg_istore hE dX0_later_49 9 (xs' := [v1, v2, v3, v4, v5, v6, v7, v8, s0, (0 : Int32)]) rfl (Nat.le_of_ble_eq_true rfl) (by decide) rfl ?_
  refine dg_iload hE dX0_later_51 7 rfl rfl ?_
  refine dg_iconst hE dX0_later_53 (v := (5 : Int32)) (by decide) ?_
  refine dg_icmp_eq hE dX0_later_54 (tgt := 64) (by decide) h (fun h => ?_) (fun h => ?_)
  · refine dg_drop (xs' := [v1, v2, v3, v4, v5, v6, v7, v8, s0]) (ys := [(0 : Int32)]) rfl ?_
    exact w_dk_later_b64 hE v1 v2 v3 v4 v5 v6 v7 v8 s0 σ h k
  · refine dg_iload hE dX0_later_57 7 rfl rfl ?_
    refine dg_bipush hE dX0_later_59 (v := (6 : Int32)) (by decide) ?_
    refine dg_icmp_ne hE dX0_later_61 (tgt := 82) (by decide) h (fun h => ?_) (fun h => ?_)
    · refine dg_aload0 hE dX0_later_82 ?_
      refine dk_gf20 hE dX0_later_83 ?_
      refine dg_iload_n hE dX0_later_86 0 rfl rfl ?_
      refine dg_iload hE dX0_later_87 6 rfl rfl ?_
      refine dg_iadd hE dX0_later_89 ?_
      refine dk_ld20 hE dX0_later_90 h (fun h => ?_)
      refine dg_if_ne hE dX0_later_91 (tgt := 111) (by decide) h (fun h => ?_) (fun h => ?_)
      · refine dg_iload hE dX0_later_111 6 rfl rfl ?_
        refine dg_iconst hE dX0_later_113 (v := (1 : Int32)) (by decide) ?_
        refine dg_iadd hE dX0_later_114 ?_
        refine dg_istore hE dX0_later_115 10 (xs' := [v1, v2, v3, v4, v5, v6, v7, v8, s0, (0 : Int32), (v7 + (1 : Int32))]) rfl (Nat.le_of_ble_eq_true rfl) (by decide) rfl ?_
        exact w_dk_later_b117 hE v1 v2 v3 v4 v5 v6 v7 v8 s0 (0 : Int32) (v7 + (1 : Int32)) σ h k
      · refine dg_aload0 hE dX0_later_94 ?_
        refine dk_gf23 hE dX0_later_95 ?_
        refine dg_bipush hE dX0_later_98 (v := (24 : Int32)) (by decide) ?_
        refine dg_iload hE dX0_later_100 6 rfl rfl ?_
        refine dg_imul hE dX0_later_102 ?_
        refine dg_iload_n hE dX0_later_103 2 rfl rfl ?_
        refine dg_iadd hE dX0_later_104 ?_
        refine dk_ld23 hE dX0_later_105 h (fun h => ?_)
        refine dg_istore hE dX0_later_106 9 (xs' := [v1, v2, v3, v4, v5, v6, v7, v8, s0, (σ 23 (((24 : Int32) * v7) + v3).toNatClampNeg)]) rfl (Nat.le_of_ble_eq_true rfl) (by decide) rfl ?_
        refine dg_goto hE dX0_later_108 (tgt := 192) (by decide) ?_
        exact w_dk_later_b192 hE v1 v2 v3 v4 v5 v6 v7 v8 s0 (σ 23 (((24 : Int32) * v7) + v3).toNatClampNeg) σ h k
    · refine dg_drop (xs' := [v1, v2, v3, v4, v5, v6, v7, v8, s0]) (ys := [(0 : Int32)]) rfl ?_
      exact w_dk_later_b64 hE v1 v2 v3 v4 v5 v6 v7 v8 s0 σ h k
theorem w_dk_later_b32 {E : dEnv} {l : Launch} {G : dGeo} (hE : dkOk E l G cX0_later 13 rmX0_later) (v1 v2 v3 v4 v5 v6 v7 v8 : Int32) (σ : dS) {out} (h : dk_later_b32 v1 v2 v3 v4 v5 v6 v7 v8 σ = some out) (k : dK E cX0_later (some .int) out) : dG E σ 32 [v1, v2, v3, v4, v5, v6, v7, v8] [] := by
  unfold dk_later_b32 at h
  refine dg_iload hE dX0_later_32 7 rfl rfl ?_
  refine dg_aload0 hE dX0_later_34 ?_
  refine dk_gf17 hE dX0_later_35 ?_
  refine dg_iload_n hE dX0_later_38 0 rfl rfl ?_
  refine dg_iload hE dX0_later_39 6 rfl rfl ?_
  refine dg_iadd hE dX0_later_41 ?_
  refine dk_ld17 hE dX0_later_42 h (fun h => ?_)
  refine dk_ca_arity hE (by decide) dX0_later_43 (Nat.le_of_ble_eq_true rfl) h (fun r_ h => ?_)
  exact w_dk_later_b46 hE v1 v2 v3 v4 v5 v6 v7 v8 r_ σ h k
theorem w_dk_later_b15 {E : dEnv} {l : Launch} {G : dGeo} (hE : dkOk E l G cX0_later 13 rmX0_later) (v1 v2 v3 v4 v5 v6 v7 : Int32) (σ : dS) {out} (h : dk_later_b15 v1 v2 v3 v4 v5 v6 v7 σ = some out) (k : dK E cX0_later (some .int) out) : dG E σ 15 [v1, v2, v3, v4, v5, v6, v7] [] := by
  unfold dk_later_b15 at h
  refine dg_iload hE dX0_later_15 6 rfl rfl ?_
  refine dg_iload_n hE dX0_later_17 1 rfl rfl ?_
  refine dg_icmp_lt hE dX0_later_18 (tgt := 217) (by decide) h (fun h => ?_) (fun h => ?_)
  · refine dg_aload0 hE dX0_later_217 ?_
    refine dk_gf27 hE dX0_later_218 ?_
    refine dg_iconst hE dX0_later_221 (v := (0 : Int32)) (by decide) ?_
    refine dk_ld27 hE dX0_later_222 h (fun h => ?_)
    cases h
    exact k rfl _ _ dX0_later_223
  · refine dg_aload0 hE dX0_later_21 ?_
    refine dk_gf16 hE dX0_later_22 ?_
    refine dg_iload_n hE dX0_later_25 0 rfl rfl ?_
    refine dg_iload hE dX0_later_26 6 rfl rfl ?_
    refine dg_iadd hE dX0_later_28 ?_
    refine dk_ld16 hE dX0_later_29 h (fun h => ?_)
    refine dg_istore hE dX0_later_30 7 (xs' := [v1, v2, v3, v4, v5, v6, v7, (σ 16 (v1 + v7).toNatClampNeg)]) rfl (Nat.le_of_ble_eq_true rfl) (by decide) rfl ?_
    exact w_dk_later_b32 hE v1 v2 v3 v4 v5 v6 v7 (σ 16 (v1 + v7).toNatClampNeg) σ h k
theorem w_dk_later_b0 {E : dEnv} {l : Launch} {G : dGeo} (hE : dkOk E l G cX0_later 13 rmX0_later) (v1 v2 v3 v4 v5 : Int32) (σ : dS) {out} (h : dk_later_b0 v1 v2 v3 v4 v5 σ = some out) (k : dK E cX0_later (some .int) out) : dG E σ 0 [v1, v2, v3, v4, v5] [] := by
  unfold dk_later_b0 at h
  refine dg_iconst hE dX0_later_0 (v := (0 : Int32)) (by decide) ?_
  refine dg_istore hE dX0_later_1 5 (xs' := [v1, v2, v3, v4, v5, (0 : Int32)]) rfl (Nat.le_of_ble_eq_true rfl) (by decide) rfl ?_
  refine dg_aload0 hE dX0_later_3 ?_
  refine dk_gf19 hE dX0_later_4 ?_
  refine dg_iload_n hE dX0_later_7 0 rfl rfl ?_
  refine dg_iload_n hE dX0_later_8 1 rfl rfl ?_
  refine dg_iadd hE dX0_later_9 ?_
  refine dk_ld19 hE dX0_later_10 h (fun h => ?_)
  refine dg_iconst hE dX0_later_11 (v := (1 : Int32)) (by decide) ?_
  refine dg_isub hE dX0_later_12 ?_
  refine dg_istore hE dX0_later_13 6 (xs' := [v1, v2, v3, v4, v5, (0 : Int32), ((σ 19 (v1 + v2).toNatClampNeg) - (1 : Int32))]) rfl (Nat.le_of_ble_eq_true rfl) (by decide) rfl ?_
  cases h
  exact k
theorem w_dk_later_st {E : dEnv} {l : Launch} {G : dGeo} (hE : dkOk E l G cX0_later 13 rmX0_later) (a : Nat × List Int32 × dS) {out} (h : dk_later_st a = some out) (k : dK E cX0_later (some .int) out) : dG E a.2.2 a.1 a.2.1 [] := by
  obtain ⟨L, xs, σ⟩ := a
  unfold dk_later_st at h
  dsimp only at h ⊢
  by_cases c_ : L = 15
  · subst c_
    rw [if_pos rfl] at h
    match xs, h with
    | [x0, x1, x2, x3, x4, x5, x6], h => exact w_dk_later_b15 hE x0 x1 x2 x3 x4 x5 x6 σ h k
    | [], h => cases h
    | [_], h => cases h
    | [_, _], h => cases h
    | [_, _, _], h => cases h
    | [_, _, _, _], h => cases h
    | [_, _, _, _, _], h => cases h
    | [_, _, _, _, _, _], h => cases h
    | _ :: _ :: _ :: _ :: _ :: _ :: _ :: _ :: _, h => cases h
  rw [if_neg c_] at h
  cases h
theorem met_dk_later (l : Launch) (G : dGeo) (sz : Nat) (v1 v2 v3 v4 v5 : Int32) (σ : dS) {r : Int32 × dS} (h : dk_later v1 v2 v3 v4 v5 σ = some r) : Met l yX0_later (ws_ yX0_later cX0_later 13 (some .int)) rmX0_later (dPc G.1 (dk_ty G) (dk_w G σ) sz [.ref G.2.1, .int v1, .int v2, .int v3, .int v4, .int v5]) (dQi G.1 (dk_ty G) (dk_w G σ) (dk_w G r.2) sz r.1) 0 0 (va_A (dk_w G σ) sz) := by
  refine dMet_i (w := dk_w G) (σ := σ) (σ' := r.2) (th := [(0, .ref G.2.1)]) (b := 1) (xs := [v1, v2, v3, v4, v5]) (by decide) rfl rfl (Nat.le_of_ble_eq_true rfl) dth (fun E hE k => ?_)
  unfold dk_later at h
  obtain ⟨out, h1, h2⟩ := lpB_some h
  exact w_dk_later_b0 hE v1 v2 v3 v4 v5 σ h1 (dK_lp (fun a out => w_dk_later_st hE a) h2 k)
theorem dk_ca_later {E : dEnv} {l : Launch} {G : dGeo} {cc : ByteArray} {nL pc : Nat} {R : Room} {σ : dS} {xs : List Int32} {st : List Value} {τ : Type} {g : Int32 × dS → Option τ} {out : τ} {a0 a1 a2 a3 a4 : Int32} (hE : dkOk E l G cc nL R) (hR : 5 + 1 ≤ R.frames ∧ 8 + (13 + 11) + 122 ≤ R.locals) (hd : decode cc pc = .ok (.invokevirtual 178, 3)) (hs : (st.map fun v => v.category).sum ≤ 8) (h : Option.bind (dk_later a0 a1 a2 a3 a4 σ) g = some out) (k : ∀ r, g r = some out → dG E r.2 (pc + 3) xs (.int r.1 :: st)) : dG E σ pc xs (.int a4 :: .int a3 :: .int a2 :: .int a1 :: .int a0 :: .ref G.2.1 :: st) := by
  obtain ⟨r, h1, h2⟩ := obind h
  exact dg_callVi hE (As := [.int a0, .int a1, .int a2, .int a3, .int a4]) (st := st) (C := RX0) (rm := rmX0_later) (dk_recv G) (fun sz => met_dk_later l G sz a0 a1 a2 a3 a4 σ h1) (lw_V q290 q292 qs14 q50 q293) 5 rfl ⟨rfl, rfl⟩ (by decide +kernel) hR rfl hs hd (k r h2)
