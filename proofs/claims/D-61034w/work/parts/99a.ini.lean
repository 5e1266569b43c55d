/-! constructors: one new row after another -/
set_option maxRecDepth 100000
def iG (E : dEnv) (o ci L : Nat) (pc kc ks : Nat) (fs : List Value) (tys : List (ClassId × FieldType)) (ar : va_W) : Prop := match E with
  | (p, l, e, R, s, m, args, below, meth, c, A, Q, nL, D, _, _, _, _, _) => ∀ (ls : Array Slot) (H : Heap) (locs : List Loc), fs.length = L → lv_has ls nL [(0, .ref o)] → va_K D vwCl tys s → va_P D vwCl ((o, .inr (ci, fs)) :: ar) H → va_D A ((o, .inr (ci, fs)) :: ar) → va_S A s.heap H locs → W p l e R s m args below meth c H locs kc ks Q (F0 m pc ls [])
def iOk (E : dEnv) (cc : ByteArray) (C : String) (R0 : Room) : Prop := match E with
  | (p, _, _, R, s, m, args, _, meth, c, A, _, _, _, _, _, _, _, _) => p.tables.exec = Jvm.exec ∧ c.code = cc ∧ s.vm.findClass C = some m.cls ∧ (∀ w ∈ lw_all, w.before args s = true) ∧ (∀ q : Nat, s.heap.size ≤ q → A q) ∧ meth.name = "<init>" ∧ R = R0
def iCl (C : String) (T : u_T) (N ci : Nat) (ty0 : Nat → FieldType) : Prop := (∀ w ∈ u_ws C T N, w ∈ lw_all) ∧ (∀ k, k < N → parseFieldDescriptor (T k).2.2.1 = some (ty0 k)) ∧ (∀ a, a < N → ∀ b, b < N → a ≠ b → (T a).2.1 ≠ (T b).2.1) ∧ vwCl[ci]? = some (C, T, N)
def iFd (C : String) (T : u_T) (N k index : Nat) (ty : FieldType) : Prop := k < N ∧ (Cond.fieldLink C index C (T k).2.1 (T k).2.2.1) ∈ lw_all ∧ (T k).1 = C ∧ (T k).2.2.2 = true ∧ parseFieldDescriptor (T k).2.2.1 = some (.array ty)
theorem i_arr {E : dEnv} {o ci pc pc1 pc' kc kc' ks ks' k N N' index : Nat} {cc : ByteArray} {C : String} {T : u_T} {ty0 : Nat → FieldType} {R0 : Room} {fs : List Value} {tys : List (ClassId × FieldType)} {ar : va_W} {v : Int32} {atype : ArrayType} {ty : FieldType}
    (hok : iOk E cc C R0) (hcl : iCl C T N ci ty0) (hfd : iFd C T N k index ty) (d1 : decode cc pc = .ok (.aload_n 0, 1))
    (d2 : (∃ n : Int, decode cc (pc + 1) = .ok (.bipush n, 2) ∧ (Int8.ofInt n).toInt32 = v ∧ pc1 = pc + 3) ∨ (∃ n : Int, decode cc (pc + 1) = .ok (.sipush n, 3) ∧ (Int16.ofInt n).toInt32 = v ∧ pc1 = pc + 4))
    (d3 : decode cc pc1 = .ok (.newarray atype, 2)) (d4 : decode cc (pc1 + 2) = .ok (.putfield index, 3)) (hpc : pc' = pc1 + 5)
    (hty : newarray.typeOf atype = ty) (harr : Cond.arrayClass (newarray.typeOf atype) ∈ lw_all) (ha : ∀ cA : ClassId, vp_cell cA (N', .inl (fun _ => 0)) = arrV cA N' (fun _ => defaultValue ty)) (hv0 : ¬ v < 0) (hvN : v.toNatClampNeg = N') (hby : N' * componentBytes ty ≤ 536870912)
    (hn : ∀ q : Nat, narrow (.array ty) (.ref q) = .ref q) (hft : ∀ q : Nat, fits (.array ty) (.ref q) = true) (hkc : kc' = kc + 1) (hks : ks' = ks + N') (hR1 : kc' ≤ R0.cells) (hR2 : ks' ≤ R0.slots) (hl : k < N)
    (kk : ∀ (q : Nat) (cA : ClassId), iG E o ci N pc' kc' ks' (fs.set k (.ref q)) (tys ++ [(cA, ty)]) (ar ++ [(q, .inl (cA, N', .inl (fun _ => 0)))])) : iG E o ci N pc kc ks fs tys ar := by
  obtain ⟨p, l, e, R, s, m, args, below, meth, c, A, Q, nL, D, w, th, b, kc0, ks0⟩ := E
  obtain ⟨hx, hb, hown, hts, hA, hin, rfl⟩ := hok
  obtain ⟨c1, c2, c3, c4⟩ := hcl
  obtain ⟨f1, f2, f3, f4, f5⟩ := hfd
  subst hpc hkc hks
  intro ls H locs hlen hls hK hP hD hS
  refine lv_aload_n hx hb d1 rfl (lv_at hls 0 rfl) ?_
  have go : ∀ x, x = pc1 → W p l e R s m args below meth c H locs kc ks Q (F0 m x ls [.int v, .ref o]) := by
    intro x hxx
    subst hxx
    refine va_newa (atype := atype) (a0 := (N', .inl (fun _ => 0))) (ty := ty) hx hb (hts _ harr) hty hK hP hD hS hA ha hv0 hvN hby hR1 hR2 d3 (fun q cA H1 hK1 hP1 hD1 hS1 => ?_)
    refine va_putF (D := D) (ci := ci) (v := .ref q) (ty := .array ty) (C := C) (T := T) (N := N) (own := C) (ref := C) hx hb hts c1 ty0 c2 c3 hown hK1 hP1 hD1 hS1 0 rfl c4 k f1 (hts _ f2) (fun _ h9 => by rw [f3] at h9; exact h9) f4 hin f3 f5 (hn q) (hft q) (by rw [hlen]; exact hl) d4 (fun H2 locs2 hP2 hD2 hS2 => ?_)
    exact kk q cA ls H2 locs2 (by rw [List.length_set]; exact hlen) hls hK1 hP2 hD2 hS2
  rcases d2 with ⟨n, e1, e2, e3⟩ | ⟨n, e1, e2, e3⟩
  · exact lv_bipush hx hb e1 e2 (go _ e3.symm)
  · exact lv_sipush hx hb e1 e2 (go _ e3.symm)
theorem i_int {E : dEnv} {o ci pc pc' kc ks k N index : Nat} {cc : ByteArray} {C : String} {T : u_T} {ty0 : Nat → FieldType} {R0 : Room} {fs : List Value} {tys : List (ClassId × FieldType)} {ar : va_W} {v : Int32} {n : Int}
    (hok : iOk E cc C R0) (hcl : iCl C T N ci ty0) (hkN : k < N) (hlk : (Cond.fieldLink C index C (T k).2.1 (T k).2.2.1) ∈ lw_all) (f3 : (T k).1 = C) (f4 : (T k).2.2.2 = false) (f5 : parseFieldDescriptor (T k).2.2.1 = some .int) (d1 : decode cc pc = .ok (.aload_n 0, 1)) (d2 : decode cc (pc + 1) = .ok (.iconst n, 1)) (hv : Int32.ofInt n = v) (d4 : decode cc (pc + 2) = .ok (.putfield index, 3)) (hpc : pc' = pc + 5) (hl : k < N)
    (kk : iG E o ci N pc' kc ks (fs.set k (.int v)) tys ar) : iG E o ci N pc kc ks fs tys ar := by
  obtain ⟨p, l, e, R, s, m, args, below, meth, c, A, Q, nL, D, w, th, b, kc0, ks0⟩ := E
  obtain ⟨hx, hb, hown, hts, hA, hin, rfl⟩ := hok
  obtain ⟨c1, c2, c3, c4⟩ := hcl
  subst hpc
  intro ls H locs hlen hls hK hP hD hS
  refine lv_aload_n hx hb d1 rfl (lv_at hls 0 rfl) ?_
  refine lv_iconst hx hb d2 hv ?_
  refine va_put (D := D) (ci := ci) (v := .int v) (ty := .int) (C := C) (T := T) (N := N) (own := C) (ref := C) hx hb hts c1 ty0 c2 c3 hown hK hP hD hS 0 rfl c4 k hkN (hts _ hlk) (fun _ h9 => by rw [f3] at h9; exact h9) f4 f5 rfl rfl (by rw [hlen]; exact hl) d4 (fun H2 locs2 hP2 hD2 hS2 => ?_)
  exact kk ls H2 locs2 (by rw [List.length_set]; exact hlen) hls hK hP2 hD2 hS2
