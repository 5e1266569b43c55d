set_option maxRecDepth 100000
set_option maxHeartbeats 4000000
noncomputable def dk_init_b313 (v1 : Int32) (σ : dS) : Option ((Nat × List Int32 × dS) ⊕ (Int32 × dS)) := if (6 : Int32) ≤ v1 then some (.inr (0, σ)) else chk v1 6 (some (.inl (313, [(v1 + (1 : Int32))], (up2 σ 28 v1.toNatClampNeg (vp_nar .byte (-1 : Int32))))))
noncomputable def dk_init_b292 (v1 : Int32) (σ : dS) : Option ((Nat × List Int32 × dS) ⊕ (Int32 × dS)) := if (24 : Int32) ≤ v1 then some (.inl (313, [(0 : Int32)], σ)) else chk v1 24 (some (.inl (292, [(v1 + (1 : Int32))], (up2 σ 0 v1.toNatClampNeg (vp_nar .byte (-1 : Int32))))))
noncomputable def dk_init_b290 (σ : dS) : Option ((Nat × List Int32 × dS) ⊕ (Int32 × dS)) := some (.inl (292, [(0 : Int32)], σ))
noncomputable def dk_init_st (a : Nat × List Int32 × dS) : Option ((Nat × List Int32 × dS) ⊕ (Int32 × dS)) := if a.1 = 292 then (match a.2.1 with | [x0] => dk_init_b292 x0 a.2.2 | _ => none) else if a.1 = 313 then (match a.2.1 with | [x0] => dk_init_b313 x0 a.2.2 | _ => none) else none
noncomputable def dk_init (σ : dS) : Option (Int32 × dS) := lpB dk_init_st (dk_init_b290 σ)
theorem w_dk_init_b313 {E : dEnv} {l : Launch} {G : dGeo} (hE : dkOk E l G cX0_init 2 rmX0_init) (v1 : Int32) (σ : dS) {out} (h : dk_init_b313 v1 σ = some out) (k : dK E cX0_init none out) : dG E σ 313 [v1] [] := by
  unfold dk_init_b313 at h
  refine dg_iload_n hE dX0_init_313 0 rfl rfl ?_
  refine dg_bipush hE dX0_init_314 (v := (6 : Int32)) (by decide) ?_
  refine dg_icmp_ge hE dX0_init_316 (tgt := 332) (by decide) h (fun h => ?_) (fun h => ?_)
  · cases h
    exact k _ _ dX0_init_332
  · refine dg_aload0 hE dX0_init_319 ?_
    refine dk_gf28 hE dX0_init_320 ?_
    refine dg_iload_n hE dX0_init_323 0 rfl rfl ?_
    refine dg_iconst hE dX0_init_324 (v := (-1 : Int32)) (by decide) ?_
    refine dk_as28 hE dX0_init_325 h (fun h => ?_)
    refine dg_iinc hE dX0_init_326 0 (xs' := [(v1 + (1 : Int32))]) rfl rfl (by decide) rfl ?_
    refine dg_goto hE dX0_init_329 (tgt := 313) (by decide) ?_
    cases h
    exact k
theorem w_dk_init_b292 {E : dEnv} {l : Launch} {G : dGeo} (hE : dkOk E l G cX0_init 2 rmX0_init) (v1 : Int32) (σ : dS) {out} (h : dk_init_b292 v1 σ = some out) (k : dK E cX0_init none out) : dG E σ 292 [v1] [] := by
  unfold dk_init_b292 at h
  refine dg_iload_n hE dX0_init_292 0 rfl rfl ?_
  refine dg_bipush hE dX0_init_293 (v := (24 : Int32)) (by decide) ?_
  refine dg_icmp_ge hE dX0_init_295 (tgt := 311) (by decide) h (fun h => ?_) (fun h => ?_)
  · refine dg_iconst hE dX0_init_311 (v := (0 : Int32)) (by decide) ?_
    refine dg_istore_n hE dX0_init_312 0 (xs' := [(0 : Int32)]) rfl (Nat.le_of_ble_eq_true rfl) (by decide) rfl ?_
    cases h
    exact k
  · refine dg_aload0 hE dX0_init_298 ?_
    refine dk_gf0 hE dX0_init_299 ?_
    refine dg_iload_n hE dX0_init_302 0 rfl rfl ?_
    refine dg_iconst hE dX0_init_303 (v := (-1 : Int32)) (by decide) ?_
    refine dk_as0 hE dX0_init_304 h (fun h => ?_)
    refine dg_iinc hE dX0_init_305 0 (xs' := [(v1 + (1 : Int32))]) rfl rfl (by decide) rfl ?_
    refine dg_goto hE dX0_init_308 (tgt := 292) (by decide) ?_
    cases h
    exact k
theorem w_dk_init_b290 {E : dEnv} {l : Launch} {G : dGeo} (hE : dkOk E l G cX0_init 2 rmX0_init) (σ : dS) {out} (h : dk_init_b290 σ = some out) (k : dK E cX0_init none out) : dG E σ 290 [] [] := by
  unfold dk_init_b290 at h
  refine dg_iconst hE dX0_init_290 (v := (0 : Int32)) (by decide) ?_
  refine dg_istore_n hE dX0_init_291 0 (xs' := [(0 : Int32)]) rfl (Nat.le_of_ble_eq_true rfl) (by decide) rfl ?_
  cases h
  exact k
theorem w_dk_init_st {E : dEnv} {l : Launch} {G : dGeo} (hE : dkOk E l G cX0_init 2 rmX0_init) (a : Nat × List Int32 × dS) {out} (h : dk_init_st a = some out) (k : dK E cX0_init none out) : dG E a.2.2 a.1 a.2.1 [] := by
  obtain ⟨L, xs, σ⟩ := a
  unfold dk_init_st at h
  dsimp only at h ⊢
  by_cases c_ : L = 292
  · subst c_
    rw [if_pos rfl] at h
    match xs, h with
    | [x0], h => exact w_dk_init_b292 hE x0 σ h k
    | [], h => cases h
    | _ :: _ :: _, h => cases h
  rw [if_neg c_] at h
  by_cases c_ : L = 313
  · subst c_
    rw [if_pos rfl] at h
    match xs, h with
    | [x0], h => exact w_dk_init_b313 hE x0 σ h k
    | [], h => cases h
    | _ :: _ :: _, h => cases h
  rw [if_neg c_] at h
  cases h
def dk_w0 (o : Nat) : va_W := [(o, .inr (0, [.null, .null, .null, .null, .null, .int 0, .int 0, .null, .null, .null, .null, .null, .null, .null, .null, .int 0, .null, .null, .null, .null, .null, .null, .null, .null, .null, .null, .null, .null, .null, .null, .null, .null, .null, .int 0, .null, .null, .null, .null, .int 0]))]
def dk_QI (D : va_G) (o sz : Nat) (σ : dS) : Array Value → State → Outcome → State → Prop := va_Qv (fun (_ : (Nat → Nat) × (Nat → ClassId)) => True) (fun u t => va_P D vwCl (dk_w ((D, o, u.1, u.2) : dGeo) σ) t.heap ∧ va_K D vwCl (dk_ty ((D, o, u.1, u.2) : dGeo)) t ∧ va_D (va_A (dk_w0 o) sz) (dk_w ((D, o, u.1, u.2) : dGeo) σ)) (va_A (dk_w0 o) sz)
def dk_s0 : dS := fun k _ => if k = 5 then -1 else 0
theorem met_dk_init (l : Launch) (D : va_G) (o sz : Nat) {r : Int32 × dS} (h : dk_init dk_s0 = some r) : Met l yX0_init (ws_ yX0_init cX0_init 2 none) rmX0_init (dPc D [] (dk_w0 o) sz [.ref o]) (dk_QI D o sz r.2) 34 8526 (va_A (dk_w0 o) sz) := by
  refine Met.ofW (cc := cX0_init) (maxL := 2) (ret := none) (by decide) rfl ?_
  intro p e s m args below meth c s₁ B hml hv
  obtain ⟨rfl, hsz, hP, hK, hD0⟩ := hv
  have hx := B.exec
  have hb := B.bytes
  have hr := B.returns
  have hts := atoms_spec (ws := ws_ yX0_init cX0_init 2 none) B.pre
  have hts : ∀ w ∈ lw_all, w.before _ s = true := fun w h => hts w (List.mem_cons_of_mem _ h)
  have hown : s.vm.findClass RX0 = some m.cls := findClass_of_methodNamed B.named
  have hlocks := B.notSynchronized
  have hin : meth.name = "<init>" := (name_of_methodNamed B.named B.method).1
  subst hsz
  have hD := hD0.self (sz := s.heap.size)
  generalize hAe : va_A (dk_w0 o) s.heap.size = A at hD ⊢
  have hA : ∀ q : Nat, s.heap.size ≤ q → A q := fun q h => by rw [← hAe]; exact Or.inr h
  have hS : va_S A s.heap s.heap [] := va_S.rf
  have hl := lv_entry ([.ref o]) (n := 2) (Nat.le_of_ble_eq_true rfl)
  rw [lg_entry_eq]
  generalize (lg_sl ([.ref o]) ++ List.replicate (2 - (lg_sl ([.ref o])).length) Slot.unset).toArray = ls at hl ⊢
  have hl : lv_has ls 2 [(0, .ref o)] := hl
  refine lv_aload_n hx hb dX0_init_0 rfl (lv_at hl 0 rfl) ?_
  refine W.objInit hx hb hown (hts _ q57) (hts _ q58) (hts _ q59) rfl (by rw [hml]; exact hl.1) rfl dX0_init_1 (Nat.le_of_ble_eq_true rfl) (Nat.le_of_ble_eq_true rfl) ?_
  refine W.eq (g2 := F0 m 4 ls []) rfl ?_
  refine i_X0 (E := (p, l, e, rmX0_init, s, m, _, below, meth, c, A, _, 2, D, fun _ => [], [], 0, 0, 0)) (o := o) ⟨hx, hb, hown, hts, hA, hin, rfl⟩ (fun q0 q1 q2 q3 q4 q7 q8 q9 q10 q11 q12 q13 q14 q16 q17 q18 q19 q20 q21 q22 q23 q24 q25 q26 q27 q28 q29 q30 q31 q32 q34 q35 q36 q37 c0 c1 c2 c3 c4 c7 c8 c9 c10 c11 c12 c13 c14 c16 c17 c18 c19 c20 c21 c22 c23 c24 c25 c26 c27 c28 c29 c30 c31 c32 c34 c35 c36 c37 => ?_) ls s.heap [] rfl hl hK hP hD hS
  intro ls H locs hlen hl hK hP hD hS
  have hP : va_P D vwCl (dk_w ((D, o, (fun k => if k = 0 then q0 else if k = 1 then q1 else if k = 2 then q2 else if k = 3 then q3 else if k = 4 then q4 else if k = 7 then q7 else if k = 8 then q8 else if k = 9 then q9 else if k = 10 then q10 else if k = 11 then q11 else if k = 12 then q12 else if k = 13 then q13 else if k = 14 then q14 else if k = 16 then q16 else if k = 17 then q17 else if k = 18 then q18 else if k = 19 then q19 else if k = 20 then q20 else if k = 21 then q21 else if k = 22 then q22 else if k = 23 then q23 else if k = 24 then q24 else if k = 25 then q25 else if k = 26 then q26 else if k = 27 then q27 else if k = 28 then q28 else if k = 29 then q29 else if k = 30 then q30 else if k = 31 then q31 else if k = 32 then q32 else if k = 34 then q34 else if k = 35 then q35 else if k = 36 then q36 else if k = 37 then q37 else 0), (fun k => if k = 0 then c0 else if k = 1 then c1 else if k = 2 then c2 else if k = 3 then c3 else if k = 4 then c4 else if k = 7 then c7 else if k = 8 then c8 else if k = 9 then c9 else if k = 10 then c10 else if k = 11 then c11 else if k = 12 then c12 else if k = 13 then c13 else if k = 14 then c14 else if k = 16 then c16 else if k = 17 then c17 else if k = 18 then c18 else if k = 19 then c19 else if k = 20 then c20 else if k = 21 then c21 else if k = 22 then c22 else if k = 23 then c23 else if k = 24 then c24 else if k = 25 then c25 else if k = 26 then c26 else if k = 27 then c27 else if k = 28 then c28 else if k = 29 then c29 else if k = 30 then c30 else if k = 31 then c31 else if k = 32 then c32 else if k = 34 then c34 else if k = 35 then c35 else if k = 36 then c36 else if k = 37 then c37 else c0)) : dGeo) dk_s0) H := hP
  have hD : va_D A (dk_w ((D, o, (fun k => if k = 0 then q0 else if k = 1 then q1 else if k = 2 then q2 else if k = 3 then q3 else if k = 4 then q4 else if k = 7 then q7 else if k = 8 then q8 else if k = 9 then q9 else if k = 10 then q10 else if k = 11 then q11 else if k = 12 then q12 else if k = 13 then q13 else if k = 14 then q14 else if k = 16 then q16 else if k = 17 then q17 else if k = 18 then q18 else if k = 19 then q19 else if k = 20 then q20 else if k = 21 then q21 else if k = 22 then q22 else if k = 23 then q23 else if k = 24 then q24 else if k = 25 then q25 else if k = 26 then q26 else if k = 27 then q27 else if k = 28 then q28 else if k = 29 then q29 else if k = 30 then q30 else if k = 31 then q31 else if k = 32 then q32 else if k = 34 then q34 else if k = 35 then q35 else if k = 36 then q36 else if k = 37 then q37 else 0), (fun k => if k = 0 then c0 else if k = 1 then c1 else if k = 2 then c2 else if k = 3 then c3 else if k = 4 then c4 else if k = 7 then c7 else if k = 8 then c8 else if k = 9 then c9 else if k = 10 then c10 else if k = 11 then c11 else if k = 12 then c12 else if k = 13 then c13 else if k = 14 then c14 else if k = 16 then c16 else if k = 17 then c17 else if k = 18 then c18 else if k = 19 then c19 else if k = 20 then c20 else if k = 21 then c21 else if k = 22 then c22 else if k = 23 then c23 else if k = 24 then c24 else if k = 25 then c25 else if k = 26 then c26 else if k = 27 then c27 else if k = 28 then c28 else if k = 29 then c29 else if k = 30 then c30 else if k = 31 then c31 else if k = 32 then c32 else if k = 34 then c34 else if k = 35 then c35 else if k = 36 then c36 else if k = 37 then c37 else c0)) : dGeo) dk_s0) := hD
  have hK : va_K D vwCl (dk_ty ((D, o, (fun k => if k = 0 then q0 else if k = 1 then q1 else if k = 2 then q2 else if k = 3 then q3 else if k = 4 then q4 else if k = 7 then q7 else if k = 8 then q8 else if k = 9 then q9 else if k = 10 then q10 else if k = 11 then q11 else if k = 12 then q12 else if k = 13 then q13 else if k = 14 then q14 else if k = 16 then q16 else if k = 17 then q17 else if k = 18 then q18 else if k = 19 then q19 else if k = 20 then q20 else if k = 21 then q21 else if k = 22 then q22 else if k = 23 then q23 else if k = 24 then q24 else if k = 25 then q25 else if k = 26 then q26 else if k = 27 then q27 else if k = 28 then q28 else if k = 29 then q29 else if k = 30 then q30 else if k = 31 then q31 else if k = 32 then q32 else if k = 34 then q34 else if k = 35 then q35 else if k = 36 then q36 else if k = 37 then q37 else 0), (fun k => if k = 0 then c0 else if k = 1 then c1 else if k = 2 then c2 else if k = 3 then c3 else if k = 4 then c4 else if k = 7 then c7 else if k = 8 then c8 else if k = 9 then c9 else if k = 10 then c10 else if k = 11 then c11 else if k = 12 then c12 else if k = 13 then c13 else if k = 14 then c14 else if k = 16 then c16 else if k = 17 then c17 else if k = 18 then c18 else if k = 19 then c19 else if k = 20 then c20 else if k = 21 then c21 else if k = 22 then c22 else if k = 23 then c23 else if k = 24 then c24 else if k = 25 then c25 else if k = 26 then c26 else if k = 27 then c27 else if k = 28 then c28 else if k = 29 then c29 else if k = 30 then c30 else if k = 31 then c31 else if k = 32 then c32 else if k = 34 then c34 else if k = 35 then c35 else if k = 36 then c36 else if k = 37 then c37 else c0)) : dGeo)) s := hK
  generalize (fun k => if k = 0 then q0 else if k = 1 then q1 else if k = 2 then q2 else if k = 3 then q3 else if k = 4 then q4 else if k = 7 then q7 else if k = 8 then q8 else if k = 9 then q9 else if k = 10 then q10 else if k = 11 then q11 else if k = 12 then q12 else if k = 13 then q13 else if k = 14 then q14 else if k = 16 then q16 else if k = 17 then q17 else if k = 18 then q18 else if k = 19 then q19 else if k = 20 then q20 else if k = 21 then q21 else if k = 22 then q22 else if k = 23 then q23 else if k = 24 then q24 else if k = 25 then q25 else if k = 26 then q26 else if k = 27 then q27 else if k = 28 then q28 else if k = 29 then q29 else if k = 30 then q30 else if k = 31 then q31 else if k = 32 then q32 else if k = 34 then q34 else if k = 35 then q35 else if k = 36 then q36 else if k = 37 then q37 else 0) = ad at hP hD hK
  generalize (fun k => if k = 0 then c0 else if k = 1 then c1 else if k = 2 then c2 else if k = 3 then c3 else if k = 4 then c4 else if k = 7 then c7 else if k = 8 then c8 else if k = 9 then c9 else if k = 10 then c10 else if k = 11 then c11 else if k = 12 then c12 else if k = 13 then c13 else if k = 14 then c14 else if k = 16 then c16 else if k = 17 then c17 else if k = 18 then c18 else if k = 19 then c19 else if k = 20 then c20 else if k = 21 then c21 else if k = 22 then c22 else if k = 23 then c23 else if k = 24 then c24 else if k = 25 then c25 else if k = 26 then c26 else if k = 27 then c27 else if k = 28 then c28 else if k = 29 then c29 else if k = 30 then c30 else if k = 31 then c31 else if k = 32 then c32 else if k = 34 then c34 else if k = 35 then c35 else if k = 36 then c36 else if k = 37 then c37 else c0) = cA at hP hD hK
  have h2 : lpB dk_init_st (some (.inl (292, [(0 : Int32)], dk_s0))) = some r := h
  refine w_dk_init_b290 (E := (p, l, e, rmX0_init, s, m, _, below, meth, c, A, _, 2, D, dk_w ((D, o, ad, cA) : dGeo), [(0, .ref o)], 1, 34, 8526)) (l := l) (G := ((D, o, ad, cA) : dGeo)) ?_ dk_s0 rfl ?_ ls H locs hl hP hD hS
  · exact ⟨hx, hb, hml, hown, hts, hK, hA, fun q hq => by (rcases List.mem_singleton.mp hq with rfl; exact ⟨Nat.zero_lt_one, rfl⟩), hlocks, ⟨Nat.le_refl _, Nat.le_refl _⟩, rfl, rfl, rfl, rfl, rfl, rfl, rfl⟩
  · refine dK_lp (fun a out h9 k9 => w_dk_init_st (l := l) (G := ((D, o, ad, cA) : dGeo)) ?_ a h9 k9) h2 ?_
    · exact ⟨hx, hb, hml, hown, hts, hK, hA, fun q hq => by (rcases List.mem_singleton.mp hq with rfl; exact ⟨Nat.zero_lt_one, rfl⟩), hlocks, ⟨Nat.le_refl _, Nat.le_refl _⟩, rfl, rfl, rfl, rfl, rfl, rfl, rfl⟩
    · intro pc xs' hd ls H locs h1 h2 h3 h4
      exact W.vret hx hb hr (fun t ht hW => ⟨⟨(ad, cA), rfl, trivial, by rw [ht]; exact h2, va_K.moved hW.alike hK, by rw [hAe]; exact h3⟩, by rw [hAe]; exact h4.F ht⟩) h4.2.2 hd
