set_option maxRecDepth 100000
def md_w0 (o : Nat) : va_W := [(o, .inr (1, [.null, .null, .null, .null, .null, .int 0, .null, .null, .null, .null, .null, .null, .null, .null, .null, .int 0, .int 0, .null, .null, .null, .null, .null, .null, .null, .null, .int 0]))]
def md_QI (D : va_G) (o sz : Nat) (σ : dS) : Array Value → State → Outcome → State → Prop := va_Qv (fun (_ : (Nat → Nat) × (Nat → ClassId)) => True) (fun u t => va_P D vwCl (md_w ((D, o, u.1, u.2) : dGeo) σ) t.heap ∧ va_K D vwCl (md_ty ((D, o, u.1, u.2) : dGeo)) t ∧ va_D (va_A (md_w0 o) sz) (md_w ((D, o, u.1, u.2) : dGeo) σ)) (va_A (md_w0 o) sz)
def md_s0 : dS := fun _ _ => 0
theorem met_md_init (l : Launch) (D : va_G) (o sz : Nat) : Met l yX1_init (ws_ yX1_init cX1_init 1 none) rmX1_init (dPc D [] (md_w0 o) sz [.ref o]) (md_QI D o sz md_s0) 22 14835 (va_A (md_w0 o) sz) := by
  refine Met.ofW (cc := cX1_init) (maxL := 1) (ret := none) (by decide) rfl ?_
  intro p e s m args below meth c s₁ B hml hv
  obtain ⟨rfl, hsz, hP, hK, hD0⟩ := hv
  have hx := B.exec
  have hb := B.bytes
  have hr := B.returns
  have hts := atoms_spec (ws := ws_ yX1_init cX1_init 1 none) B.pre
  have hts : ∀ w ∈ lw_all, w.before _ s = true := fun w h => hts w (List.mem_cons_of_mem _ h)
  have hown : s.vm.findClass RX1 = some m.cls := findClass_of_methodNamed B.named
  have hlocks := B.notSynchronized
  have hin : meth.name = "<init>" := (name_of_methodNamed B.named B.method).1
  subst hsz
  have hD := hD0.self (sz := s.heap.size)
  generalize hAe : va_A (md_w0 o) s.heap.size = A at hD ⊢
  have hA : ∀ q : Nat, s.heap.size ≤ q → A q := fun q h => by rw [← hAe]; exact Or.inr h
  have hS : va_S A s.heap s.heap [] := va_S.rf
  have hl := lv_entry ([.ref o]) (n := 1) (Nat.le_of_ble_eq_true rfl)
  rw [lg_entry_eq]
  generalize (lg_sl ([.ref o]) ++ List.replicate (1 - (lg_sl ([.ref o])).length) Slot.unset).toArray = ls at hl ⊢
  have hl : lv_has ls 1 [(0, .ref o)] := hl
  refine lv_aload_n hx hb dX1_init_0 rfl (lv_at hl 0 rfl) ?_
  refine W.objInit hx hb hown (hts _ q367) (hts _ q58) (hts _ q59) rfl (by rw [hml]; exact hl.1) rfl dX1_init_1 (Nat.le_of_ble_eq_true rfl) (Nat.le_of_ble_eq_true rfl) ?_
  refine W.eq (g2 := F0 m 4 ls []) rfl ?_
  refine i_X1 (E := (p, l, e, rmX1_init, s, m, _, below, meth, c, A, _, 1, D, fun _ => [], [], 0, 0, 0)) (o := o) ⟨hx, hb, hown, hts, hA, hin, rfl⟩ (fun q0 q1 q2 q3 q4 q6 q7 q8 q9 q10 q11 q12 q13 q14 q17 q18 q19 q20 q21 q22 q23 q24 c0 c1 c2 c3 c4 c6 c7 c8 c9 c10 c11 c12 c13 c14 c17 c18 c19 c20 c21 c22 c23 c24 => ?_) ls s.heap [] rfl hl hK hP hD hS
  intro ls H locs hlen hl hK hP hD hS
  have hP : va_P D vwCl (md_w ((D, o, (fun k => if k = 0 then q0 else if k = 1 then q1 else if k = 2 then q2 else if k = 3 then q3 else if k = 4 then q4 else if k = 6 then q6 else if k = 7 then q7 else if k = 8 then q8 else if k = 9 then q9 else if k = 10 then q10 else if k = 11 then q11 else if k = 12 then q12 else if k = 13 then q13 else if k = 14 then q14 else if k = 17 then q17 else if k = 18 then q18 else if k = 19 then q19 else if k = 20 then q20 else if k = 21 then q21 else if k = 22 then q22 else if k = 23 then q23 else if k = 24 then q24 else 0), (fun k => if k = 0 then c0 else if k = 1 then c1 else if k = 2 then c2 else if k = 3 then c3 else if k = 4 then c4 else if k = 6 then c6 else if k = 7 then c7 else if k = 8 then c8 else if k = 9 then c9 else if k = 10 then c10 else if k = 11 then c11 else if k = 12 then c12 else if k = 13 then c13 else if k = 14 then c14 else if k = 17 then c17 else if k = 18 then c18 else if k = 19 then c19 else if k = 20 then c20 else if k = 21 then c21 else if k = 22 then c22 else if k = 23 then c23 else if k = 24 then c24 else c0)) : dGeo) md_s0) H := hP
  have hD : va_D A (md_w ((D, o, (fun k => if k = 0 then q0 else if k = 1 then q1 else if k = 2 then q2 else if k = 3 then q3 else if k = 4 then q4 else if k = 6 then q6 else if k = 7 then q7 else if k = 8 then q8 else if k = 9 then q9 else if k = 10 then q10 else if k = 11 then q11 else if k = 12 then q12 else if k = 13 then q13 else if k = 14 then q14 else if k = 17 then q17 else if k = 18 then q18 else if k = 19 then q19 else if k = 20 then q20 else if k = 21 then q21 else if k = 22 then q22 else if k = 23 then q23 else if k = 24 then q24 else 0), (fun k => if k = 0 then c0 else if k = 1 then c1 else if k = 2 then c2 else if k = 3 then c3 else if k = 4 then c4 else if k = 6 then c6 else if k = 7 then c7 else if k = 8 then c8 else if k = 9 then c9 else if k = 10 then c10 else if k = 11 then c11 else if k = 12 then c12 else if k = 13 then c13 else if k = 14 then c14 else if k = 17 then c17 else if k = 18 then c18 else if k = 19 then c19 else if k = 20 then c20 else if k = 21 then c21 else if k = 22 then c22 else if k = 23 then c23 else if k = 24 then c24 else c0)) : dGeo) md_s0) := hD
  have hK : va_K D vwCl (md_ty ((D, o, (fun k => if k = 0 then q0 else if k = 1 then q1 else if k = 2 then q2 else if k = 3 then q3 else if k = 4 then q4 else if k = 6 then q6 else if k = 7 then q7 else if k = 8 then q8 else if k = 9 then q9 else if k = 10 then q10 else if k = 11 then q11 else if k = 12 then q12 else if k = 13 then q13 else if k = 14 then q14 else if k = 17 then q17 else if k = 18 then q18 else if k = 19 then q19 else if k = 20 then q20 else if k = 21 then q21 else if k = 22 then q22 else if k = 23 then q23 else if k = 24 then q24 else 0), (fun k => if k = 0 then c0 else if k = 1 then c1 else if k = 2 then c2 else if k = 3 then c3 else if k = 4 then c4 else if k = 6 then c6 else if k = 7 then c7 else if k = 8 then c8 else if k = 9 then c9 else if k = 10 then c10 else if k = 11 then c11 else if k = 12 then c12 else if k = 13 then c13 else if k = 14 then c14 else if k = 17 then c17 else if k = 18 then c18 else if k = 19 then c19 else if k = 20 then c20 else if k = 21 then c21 else if k = 22 then c22 else if k = 23 then c23 else if k = 24 then c24 else c0)) : dGeo)) s := hK
  generalize (fun k => if k = 0 then q0 else if k = 1 then q1 else if k = 2 then q2 else if k = 3 then q3 else if k = 4 then q4 else if k = 6 then q6 else if k = 7 then q7 else if k = 8 then q8 else if k = 9 then q9 else if k = 10 then q10 else if k = 11 then q11 else if k = 12 then q12 else if k = 13 then q13 else if k = 14 then q14 else if k = 17 then q17 else if k = 18 then q18 else if k = 19 then q19 else if k = 20 then q20 else if k = 21 then q21 else if k = 22 then q22 else if k = 23 then q23 else if k = 24 then q24 else 0) = ad at hP hD hK
  generalize (fun k => if k = 0 then c0 else if k = 1 then c1 else if k = 2 then c2 else if k = 3 then c3 else if k = 4 then c4 else if k = 6 then c6 else if k = 7 then c7 else if k = 8 then c8 else if k = 9 then c9 else if k = 10 then c10 else if k = 11 then c11 else if k = 12 then c12 else if k = 13 then c13 else if k = 14 then c14 else if k = 17 then c17 else if k = 18 then c18 else if k = 19 then c19 else if k = 20 then c20 else if k = 21 then c21 else if k = 22 then c22 else if k = 23 then c23 else if k = 24 then c24 else c0) = cA at hP hD hK
  exact W.vret hx hb hr (fun t ht hW => ⟨⟨(ad, cA), rfl, trivial, by rw [ht]; exact hP, va_K.moved hW.alike hK, by rw [hAe]; exact hD⟩, by rw [hAe]; exact hS.F ht⟩) hS.2.2 dX1_init_185
