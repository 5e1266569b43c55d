set_option maxRecDepth 100000
def dk_f (G : dGeo) (σ : dS) : List Value := [.ref (G.2.2.1 0), .ref (G.2.2.1 1), .ref (G.2.2.1 2), .ref (G.2.2.1 3), .ref (G.2.2.1 4), .int (σ 5 0), .int (σ 6 0), .ref (G.2.2.1 7), .ref (G.2.2.1 8), .ref (G.2.2.1 9), .ref (G.2.2.1 10), .ref (G.2.2.1 11), .ref (G.2.2.1 12), .ref (G.2.2.1 13), .ref (G.2.2.1 14), .int (σ 15 0), .ref (G.2.2.1 16), .ref (G.2.2.1 17), .ref (G.2.2.1 18), .ref (G.2.2.1 19), .ref (G.2.2.1 20), .ref (G.2.2.1 21), .ref (G.2.2.1 22), .ref (G.2.2.1 23), .ref (G.2.2.1 24), .ref (G.2.2.1 25), .ref (G.2.2.1 26), .ref (G.2.2.1 27), .ref (G.2.2.1 28), .ref (G.2.2.1 29), .ref (G.2.2.1 30), .ref (G.2.2.1 31), .ref (G.2.2.1 32), .int (σ 33 0), .ref (G.2.2.1 34), .ref (G.2.2.1 35), .ref (G.2.2.1 36), .ref (G.2.2.1 37), .int (σ 38 0)]
def dk_w (G : dGeo) (σ : dS) : va_W := [(G.2.1, .inr (0, dk_f G σ)), (G.2.2.1 0, .inl (G.2.2.2 0, 24, .inl (σ 0))), (G.2.2.1 1, .inl (G.2.2.2 1, 24, .inl (σ 1))), (G.2.2.1 2, .inl (G.2.2.2 2, 24, .inl (σ 2))), (G.2.2.1 3, .inl (G.2.2.2 3, 24, .inl (σ 3))), (G.2.2.1 4, .inl (G.2.2.2 4, 24, .inl (σ 4))), (G.2.2.1 7, .inl (G.2.2.2 7, 24, .inl (σ 7))), (G.2.2.1 8, .inl (G.2.2.2 8, 24, .inl (σ 8))), (G.2.2.1 9, .inl (G.2.2.2 9, 24, .inl (σ 9))), (G.2.2.1 10, .inl (G.2.2.2 10, 24, .inl (σ 10))), (G.2.2.1 11, .inl (G.2.2.2 11, 24, .inl (σ 11))), (G.2.2.1 12, .inl (G.2.2.2 12, 24, .inl (σ 12))), (G.2.2.1 13, .inl (G.2.2.2 13, 7, .inl (σ 13))), (G.2.2.1 14, .inl (G.2.2.2 14, 24, .inl (σ 14))), (G.2.2.1 16, .inl (G.2.2.2 16, 360, .inl (σ 16))), (G.2.2.1 17, .inl (G.2.2.2 17, 360, .inl (σ 17))), (G.2.2.1 18, .inl (G.2.2.2 18, 360, .inl (σ 18))), (G.2.2.1 19, .inl (G.2.2.2 19, 360, .inl (σ 19))), (G.2.2.1 20, .inl (G.2.2.2 20, 360, .inl (σ 20))), (G.2.2.1 21, .inl (G.2.2.2 21, 9, .inl (σ 21))), (G.2.2.1 22, .inl (G.2.2.2 22, 42, .inl (σ 22))), (G.2.2.1 23, .inl (G.2.2.2 23, 960, .inl (σ 23))), (G.2.2.1 24, .inl (G.2.2.2 24, 192, .inl (σ 24))), (G.2.2.1 25, .inl (G.2.2.2 25, 8, .inl (σ 25))), (G.2.2.1 26, .inl (G.2.2.2 26, 24, .inl (σ 26))), (G.2.2.1 27, .inl (G.2.2.2 27, 42, .inl (σ 27))), (G.2.2.1 28, .inl (G.2.2.2 28, 6, .inl (σ 28))), (G.2.2.1 29, .inl (G.2.2.2 29, 6, .inl (σ 29))), (G.2.2.1 30, .inl (G.2.2.2 30, 6, .inl (σ 30))), (G.2.2.1 31, .inl (G.2.2.2 31, 6, .inl (σ 31))), (G.2.2.1 32, .inl (G.2.2.2 32, 6, .inl (σ 32))), (G.2.2.1 34, .inl (G.2.2.2 34, 24, .inl (σ 34))), (G.2.2.1 35, .inl (G.2.2.2 35, 2500, .inl (σ 35))), (G.2.2.1 36, .inl (G.2.2.2 36, 2500, .inl (σ 36))), (G.2.2.1 37, .inl (G.2.2.2 37, 100, .inl (σ 37)))]
def dk_ty (G : dGeo) : List (ClassId × FieldType) := [(G.2.2.2 0, .byte), (G.2.2.2 1, .int), (G.2.2.2 2, .byte), (G.2.2.2 3, .byte), (G.2.2.2 4, .byte), (G.2.2.2 7, .byte), (G.2.2.2 8, .byte), (G.2.2.2 9, .byte), (G.2.2.2 10, .byte), (G.2.2.2 11, .int), (G.2.2.2 12, .int), (G.2.2.2 13, .int), (G.2.2.2 14, .int), (G.2.2.2 16, .byte), (G.2.2.2 17, .int), (G.2.2.2 18, .byte), (G.2.2.2 19, .byte), (G.2.2.2 20, .boolean), (G.2.2.2 21, .byte), (G.2.2.2 22, .byte), (G.2.2.2 23, .int), (G.2.2.2 24, .int), (G.2.2.2 25, .boolean), (G.2.2.2 26, .int), (G.2.2.2 27, .int), (G.2.2.2 28, .byte), (G.2.2.2 29, .byte), (G.2.2.2 30, .byte), (G.2.2.2 31, .byte), (G.2.2.2 32, .int), (G.2.2.2 34, .byte), (G.2.2.2 35, .byte), (G.2.2.2 36, .byte), (G.2.2.2 37, .int)]
abbrev dkOk (E : dEnv) (l : Launch) (G : dGeo) (cc : ByteArray) (nL : Nat) (R : Room) : Prop := dOk E cc RX0 l R nL G.1 (dk_ty G) (dk_w G) [(0, .ref G.2.1)] 1
theorem dk_same (G : dGeo) (σ τ : dS) : ∀ (q : Nat) , (∃ (k : Nat) (e : va_E), (dk_w G σ)[k]? = some (q, e)) → (∃ (k : Nat) (e : va_E), (dk_w G τ)[k]? = some (q, e)) := by
  rintro q ⟨k, e, h⟩
  have h1 : ((dk_w G σ).map Prod.fst)[k]? = some q := by rw [List.getElem?_map, h]; rfl
  have h2 : ((dk_w G τ).map Prod.fst)[k]? = some q := h1
  rw [List.getElem?_map] at h2
  cases h3 : (dk_w G τ)[k]? with
  | none => rw [h3] at h2; cases h2
  | some x => rw [h3] at h2; obtain ⟨a, e2⟩ := x; cases h2; exact ⟨k, e2, h3⟩
theorem dk_recv (G : dGeo) : ∀ σ : dS, (dk_w G σ)[0]? = some (G.2.1, .inr (0, dk_f G σ)) ∧ vwCl[0]? = some (RX0, TX0, 39) := fun _ => ⟨rfl, rfl⟩
theorem dk_gf0 {E : dEnv} {l : Launch} {G : dGeo} {cc : ByteArray} {nL pc : Nat} {R : Room} {σ : dS} {xs : List Int32} {st : List Value} (hE : dkOk E l G cc nL R) (hd : decode cc pc = .ok (.getfield 7, 3)) (kk : dG E σ (pc + 3) xs (.ref (G.2.2.1 0) :: st)) : dG E σ pc xs (.ref G.2.1 :: st) := by
  obtain ⟨p, l', e, R', s, m, args, below, meth, c, A, Q, nL', D, w, th, b, kc, ks⟩ := E
  obtain ⟨hx, hb, hml, hown, hts, hK, hA, hth, hlk, hcs, rfl, rfl, rfl, rfl, rfl, rfl, rfl⟩ := hE
  intro ls H locs h1 h2 h3 h4
  exact va_get (ci := 0) (v := .ref (G.2.2.1 0)) (C := RX0) (T := TX0) (N := 39) hx hb hts in_X0 hown hK h2 0 rfl rfl 0 (by decide) (hts _ q60) (fun _ h9 => h9) rfl hd (kk ls H locs h1 h2 h3 h4)
theorem dk_ld0 {E : dEnv} {l : Launch} {G : dGeo} {cc : ByteArray} {nL pc : Nat} {R : Room} {σ : dS} {xs : List Int32} {st : List Value} (hE : dkOk E l G cc nL R) {i : Int32} {τ : Type} {x : Option τ} {out : τ} (hd : decode cc pc = .ok (.baload, 1)) (h : chk i 24 x = some out) (kk : x = some out → dG E σ (pc + 1) xs (.int (σ 0 i.toNatClampNeg) :: st)) : dG E σ pc xs (.int i :: .ref (G.2.2.1 0) :: st) := by
  obtain ⟨hi, h⟩ := chk_some h
  obtain ⟨p, l', e, R', s, m, args, below, meth, c, A, Q, nL', D, w, th, b, kc, ks⟩ := E
  obtain ⟨hx, hb, hml, hown, hts, hK, hA, hth, hlk, hcs, rfl, rfl, rfl, rfl, rfl, rfl, rfl⟩ := hE
  intro ls H locs h1 h2 h3 h4
  exact va_bald hx hb hK h2 1 0 (n := 24) (f := σ 0) rfl rfl hi hd (kk h ls H locs h1 h2 h3 h4)
theorem dk_as0 {E : dEnv} {l : Launch} {G : dGeo} {cc : ByteArray} {nL pc : Nat} {R : Room} {σ : dS} {xs : List Int32} {st : List Value} (hE : dkOk E l G cc nL R) {i v : Int32} {τ : Type} {x : Option τ} {out : τ} (hd : decode cc pc = .ok (.bastore, 1)) (h : chk i 24 x = some out) (kk : x = some out → dG E (up2 σ 0 i.toNatClampNeg (vp_nar .byte v)) (pc + 1) xs st) : dG E σ pc xs (.int v :: .int i :: .ref (G.2.2.1 0) :: st) := by
  obtain ⟨hi, h⟩ := chk_some h
  obtain ⟨p, l', e, R', s, m, args, below, meth, c, A, Q, nL', D, w, th, b, kc, ks⟩ := E
  obtain ⟨hx, hb, hml, hown, hts, hK, hA, hth, hlk, hcs, rfl, rfl, rfl, rfl, rfl, rfl, rfl⟩ := hE
  intro ls H locs h1 h2 h3 h4
  refine va_bast hx hb hK h2 h3 h4 1 0 (n := 24) (f := σ 0) rfl rfl hi hd (fun H1 locs1 g2 g3 g4 => ?_)
  exact kk h ls H1 locs1 h1 g2 g3 g4
theorem dk_gf1 {E : dEnv} {l : Launch} {G : dGeo} {cc : ByteArray} {nL pc : Nat} {R : Room} {σ : dS} {xs : List Int32} {st : List Value} (hE : dkOk E l G cc nL R) (hd : decode cc pc = .ok (.getfield 13, 3)) (kk : dG E σ (pc + 3) xs (.ref (G.2.2.1 1) :: st)) : dG E σ pc xs (.ref G.2.1 :: st) := by
  obtain ⟨p, l', e, R', s, m, args, below, meth, c, A, Q, nL', D, w, th, b, kc, ks⟩ := E
  obtain ⟨hx, hb, hml, hown, hts, hK, hA, hth, hlk, hcs, rfl, rfl, rfl, rfl, rfl, rfl, rfl⟩ := hE
  intro ls H locs h1 h2 h3 h4
  exact va_get (ci := 0) (v := .ref (G.2.2.1 1)) (C := RX0) (T := TX0) (N := 39) hx hb hts in_X0 hown hK h2 0 rfl rfl 1 (by decide) (hts _ q61) (fun _ h9 => h9) rfl hd (kk ls H locs h1 h2 h3 h4)
theorem dk_ld1 {E : dEnv} {l : Launch} {G : dGeo} {cc : ByteArray} {nL pc : Nat} {R : Room} {σ : dS} {xs : List Int32} {st : List Value} (hE : dkOk E l G cc nL R) {i : Int32} {τ : Type} {x : Option τ} {out : τ} (hd : decode cc pc = .ok (.iaload, 1)) (h : chk i 24 x = some out) (kk : x = some out → dG E σ (pc + 1) xs (.int (σ 1 i.toNatClampNeg) :: st)) : dG E σ pc xs (.int i :: .ref (G.2.2.1 1) :: st) := by
  obtain ⟨hi, h⟩ := chk_some h
  obtain ⟨p, l', e, R', s, m, args, below, meth, c, A, Q, nL', D, w, th, b, kc, ks⟩ := E
  obtain ⟨hx, hb, hml, hown, hts, hK, hA, hth, hlk, hcs, rfl, rfl, rfl, rfl, rfl, rfl, rfl⟩ := hE
  intro ls H locs h1 h2 h3 h4
  exact va_iald hx hb hK h2 2 1 (n := 24) (f := σ 1) rfl rfl hi hd (kk h ls H locs h1 h2 h3 h4)
theorem dk_as1 {E : dEnv} {l : Launch} {G : dGeo} {cc : ByteArray} {nL pc : Nat} {R : Room} {σ : dS} {xs : List Int32} {st : List Value} (hE : dkOk E l G cc nL R) {i v : Int32} {τ : Type} {x : Option τ} {out : τ} (hd : decode cc pc = .ok (.iastore, 1)) (h : chk i 24 x = some out) (kk : x = some out → dG E (up2 σ 1 i.toNatClampNeg v) (pc + 1) xs st) : dG E σ pc xs (.int v :: .int i :: .ref (G.2.2.1 1) :: st) := by
  obtain ⟨hi, h⟩ := chk_some h
  obtain ⟨p, l', e, R', s, m, args, below, meth, c, A, Q, nL', D, w, th, b, kc, ks⟩ := E
  obtain ⟨hx, hb, hml, hown, hts, hK, hA, hth, hlk, hcs, rfl, rfl, rfl, rfl, rfl, rfl, rfl⟩ := hE
  intro ls H locs h1 h2 h3 h4
  refine va_iast hx hb hK h2 h3 h4 2 1 (n := 24) (f := σ 1) rfl rfl hi hd (fun H1 locs1 g2 g3 g4 => ?_)
  exact kk h ls H1 locs1 h1 g2 g3 g4
theorem dk_gf2 {E : dEnv} {l : Launch} {G : dGeo} {cc : ByteArray} {nL pc : Nat} {R : Room} {σ : dS} {xs : List Int32} {st : List Value} (hE : dkOk E l G cc nL R) (hd : decode cc pc = .ok (.getfield 17, 3)) (kk : dG E σ (pc + 3) xs (.ref (G.2.2.1 2) :: st)) : dG E σ pc xs (.ref G.2.1 :: st) := by
  obtain ⟨p, l', e, R', s, m, args, below, meth, c, A, Q, nL', D, w, th, b, kc, ks⟩ := E
  obtain ⟨hx, hb, hml, hown, hts, hK, hA, hth, hlk, hcs, rfl, rfl, rfl, rfl, rfl, rfl, rfl⟩ := hE
  intro ls H locs h1 h2 h3 h4
  exact va_get (ci := 0) (v := .ref (G.2.2.1 2)) (C := RX0) (T := TX0) (N := 39) hx hb hts in_X0 hown hK h2 0 rfl rfl 2 (by decide) (hts _ q62) (fun _ h9 => h9) rfl hd (kk ls H locs h1 h2 h3 h4)
theorem dk_ld2 {E : dEnv} {l : Launch} {G : dGeo} {cc : ByteArray} {nL pc : Nat} {R : Room} {σ : dS} {xs : List Int32} {st : List Value} (hE : dkOk E l G cc nL R) {i : Int32} {τ : Type} {x : Option τ} {out : τ} (hd : decode cc pc = .ok (.baload, 1)) (h : chk i 24 x = some out) (kk : x = some out → dG E σ (pc + 1) xs (.int (σ 2 i.toNatClampNeg) :: st)) : dG E σ pc xs (.int i :: .ref (G.2.2.1 2) :: st) := by
  obtain ⟨hi, h⟩ := chk_some h
  obtain ⟨p, l', e, R', s, m, args, below, meth, c, A, Q, nL', D, w, th, b, kc, ks⟩ := E
  obtain ⟨hx, hb, hml, hown, hts, hK, hA, hth, hlk, hcs, rfl, rfl, rfl, rfl, rfl, rfl, rfl⟩ := hE
  intro ls H locs h1 h2 h3 h4
  exact va_bald hx hb hK h2 3 2 (n := 24) (f := σ 2) rfl rfl hi hd (kk h ls H locs h1 h2 h3 h4)
theorem dk_as2 {E : dEnv} {l : Launch} {G : dGeo} {cc : ByteArray} {nL pc : Nat} {R : Room} {σ : dS} {xs : List Int32} {st : List Value} (hE : dkOk E l G cc nL R) {i v : Int32} {τ : Type} {x : Option τ} {out : τ} (hd : decode cc pc = .ok (.bastore, 1)) (h : chk i 24 x = some out) (kk : x = some out → dG E (up2 σ 2 i.toNatClampNeg (vp_nar .byte v)) (pc + 1) xs st) : dG E σ pc xs (.int v :: .int i :: .ref (G.2.2.1 2) :: st) := by
  obtain ⟨hi, h⟩ := chk_some h
  obtain ⟨p, l', e, R', s, m, args, below, meth, c, A, Q, nL', D, w, th, b, kc, ks⟩ := E
  obtain ⟨hx, hb, hml, hown, hts, hK, hA, hth, hlk, hcs, rfl, rfl, rfl, rfl, rfl, rfl, rfl⟩ := hE
  intro ls H locs h1 h2 h3 h4
  refine va_bast hx hb hK h2 h3 h4 3 2 (n := 24) (f := σ 2) rfl rfl hi hd (fun H1 locs1 g2 g3 g4 => ?_)
  exact kk h ls H1 locs1 h1 g2 g3 g4
theorem dk_gf3 {E : dEnv} {l : Launch} {G : dGeo} {cc : ByteArray} {nL pc : Nat} {R : Room} {σ : dS} {xs : List Int32} {st : List Value} (hE : dkOk E l G cc nL R) (hd : decode cc pc = .ok (.getfield 20, 3)) (kk : dG E σ (pc + 3) xs (.ref (G.2.2.1 3) :: st)) : dG E σ pc xs (.ref G.2.1 :: st) := by
  obtain ⟨p, l', e, R', s, m, args, below, meth, c, A, Q, nL', D, w, th, b, kc, ks⟩ := E
  obtain ⟨hx, hb, hml, hown, hts, hK, hA, hth, hlk, hcs, rfl, rfl, rfl, rfl, rfl, rfl, rfl⟩ := hE
  intro ls H locs h1 h2 h3 h4
  exact va_get (ci := 0) (v := .ref (G.2.2.1 3)) (C := RX0) (T := TX0) (N := 39) hx hb hts in_X0 hown hK h2 0 rfl rfl 3 (by decide) (hts _ q63) (fun _ h9 => h9) rfl hd (kk ls H locs h1 h2 h3 h4)
theorem dk_ld3 {E : dEnv} {l : Launch} {G : dGeo} {cc : ByteArray} {nL pc : Nat} {R : Room} {σ : dS} {xs : List Int32} {st : List Value} (hE : dkOk E l G cc nL R) {i : Int32} {τ : Type} {x : Option τ} {out : τ} (hd : decode cc pc = .ok (.baload, 1)) (h : chk i 24 x = some out) (kk : x = some out → dG E σ (pc + 1) xs (.int (σ 3 i.toNatClampNeg) :: st)) : dG E σ pc xs (.int i :: .ref (G.2.2.1 3) :: st) := by
  obtain ⟨hi, h⟩ := chk_some h
  obtain ⟨p, l', e, R', s, m, args, below, meth, c, A, Q, nL', D, w, th, b, kc, ks⟩ := E
  obtain ⟨hx, hb, hml, hown, hts, hK, hA, hth, hlk, hcs, rfl, rfl, rfl, rfl, rfl, rfl, rfl⟩ := hE
  intro ls H locs h1 h2 h3 h4
  exact va_bald hx hb hK h2 4 3 (n := 24) (f := σ 3) rfl rfl hi hd (kk h ls H locs h1 h2 h3 h4)
theorem dk_as3 {E : dEnv} {l : Launch} {G : dGeo} {cc : ByteArray} {nL pc : Nat} {R : Room} {σ : dS} {xs : List Int32} {st : List Value} (hE : dkOk E l G cc nL R) {i v : Int32} {τ : Type} {x : Option τ} {out : τ} (hd : decode cc pc = .ok (.bastore, 1)) (h : chk i 24 x = some out) (kk : x = some out → dG E (up2 σ 3 i.toNatClampNeg (vp_nar .byte v)) (pc + 1) xs st) : dG E σ pc xs (.int v :: .int i :: .ref (G.2.2.1 3) :: st) := by
  obtain ⟨hi, h⟩ := chk_some h
  obtain ⟨p, l', e, R', s, m, args, below, meth, c, A, Q, nL', D, w, th, b, kc, ks⟩ := E
  obtain ⟨hx, hb, hml, hown, hts, hK, hA, hth, hlk, hcs, rfl, rfl, rfl, rfl, rfl, rfl, rfl⟩ := hE
  intro ls H locs h1 h2 h3 h4
  refine va_bast hx hb hK h2 h3 h4 4 3 (n := 24) (f := σ 3) rfl rfl hi hd (fun H1 locs1 g2 g3 g4 => ?_)
  exact kk h ls H1 locs1 h1 g2 g3 g4
theorem dk_gf4 {E : dEnv} {l : Launch} {G : dGeo} {cc : ByteArray} {nL pc : Nat} {R : Room} {σ : dS} {xs : List Int32} {st : List Value} (hE : dkOk E l G cc nL R) (hd : decode cc pc = .ok (.getfield 23, 3)) (kk : dG E σ (pc + 3) xs (.ref (G.2.2.1 4) :: st)) : dG E σ pc xs (.ref G.2.1 :: st) := by
  obtain ⟨p, l', e, R', s, m, args, below, meth, c, A, Q, nL', D, w, th, b, kc, ks⟩ := E
  obtain ⟨hx, hb, hml, hown, hts, hK, hA, hth, hlk, hcs, rfl, rfl, rfl, rfl, rfl, rfl, rfl⟩ := hE
  intro ls H locs h1 h2 h3 h4
  exact va_get (ci := 0) (v := .ref (G.2.2.1 4)) (C := RX0) (T := TX0) (N := 39) hx hb hts in_X0 hown hK h2 0 rfl rfl 4 (by decide) (hts _ q64) (fun _ h9 => h9) rfl hd (kk ls H locs h1 h2 h3 h4)
theorem dk_ld4 {E : dEnv} {l : Launch} {G : dGeo} {cc : ByteArray} {nL pc : Nat} {R : Room} {σ : dS} {xs : List Int32} {st : List Value} (hE : dkOk E l G cc nL R) {i : Int32} {τ : Type} {x : Option τ} {out : τ} (hd : decode cc pc = .ok (.baload, 1)) (h : chk i 24 x = some out) (kk : x = some out → dG E σ (pc + 1) xs (.int (σ 4 i.toNatClampNeg) :: st)) : dG E σ pc xs (.int i :: .ref (G.2.2.1 4) :: st) := by
  obtain ⟨hi, h⟩ := chk_some h
  obtain ⟨p, l', e, R', s, m, args, below, meth, c, A, Q, nL', D, w, th, b, kc, ks⟩ := E
  obtain ⟨hx, hb, hml, hown, hts, hK, hA, hth, hlk, hcs, rfl, rfl, rfl, rfl, rfl, rfl, rfl⟩ := hE
  intro ls H locs h1 h2 h3 h4
  exact va_bald hx hb hK h2 5 4 (n := 24) (f := σ 4) rfl rfl hi hd (kk h ls H locs h1 h2 h3 h4)
theorem dk_as4 {E : dEnv} {l : Launch} {G : dGeo} {cc : ByteArray} {nL pc : Nat} {R : Room} {σ : dS} {xs : List Int32} {st : List Value} (hE : dkOk E l G cc nL R) {i v : Int32} {τ : Type} {x : Option τ} {out : τ} (hd : decode cc pc = .ok (.bastore, 1)) (h : chk i 24 x = some out) (kk : x = some out → dG E (up2 σ 4 i.toNatClampNeg (vp_nar .byte v)) (pc + 1) xs st) : dG E σ pc xs (.int v :: .int i :: .ref (G.2.2.1 4) :: st) := by
  obtain ⟨hi, h⟩ := chk_some h
  obtain ⟨p, l', e, R', s, m, args, below, meth, c, A, Q, nL', D, w, th, b, kc, ks⟩ := E
  obtain ⟨hx, hb, hml, hown, hts, hK, hA, hth, hlk, hcs, rfl, rfl, rfl, rfl, rfl, rfl, rfl⟩ := hE
  intro ls H locs h1 h2 h3 h4
  refine va_bast hx hb hK h2 h3 h4 5 4 (n := 24) (f := σ 4) rfl rfl hi hd (fun H1 locs1 g2 g3 g4 => ?_)
  exact kk h ls H1 locs1 h1 g2 g3 g4
theorem dk_gf5 {E : dEnv} {l : Launch} {G : dGeo} {cc : ByteArray} {nL pc : Nat} {R : Room} {σ : dS} {xs : List Int32} {st : List Value} (hE : dkOk E l G cc nL R) (hd : decode cc pc = .ok (.getfield 26, 3)) (kk : dG E σ (pc + 3) xs (.int (σ 5 0) :: st)) : dG E σ pc xs (.ref G.2.1 :: st) := by
  obtain ⟨p, l', e, R', s, m, args, below, meth, c, A, Q, nL', D, w, th, b, kc, ks⟩ := E
  obtain ⟨hx, hb, hml, hown, hts, hK, hA, hth, hlk, hcs, rfl, rfl, rfl, rfl, rfl, rfl, rfl⟩ := hE
  intro ls H locs h1 h2 h3 h4
  exact va_get (ci := 0) (v := .int (σ 5 0)) (C := RX0) (T := TX0) (N := 39) hx hb hts in_X0 hown hK h2 0 rfl rfl 5 (by decide) (hts _ q65) (fun _ h9 => h9) rfl hd (kk ls H locs h1 h2 h3 h4)
theorem dk_pf5 {E : dEnv} {l : Launch} {G : dGeo} {cc : ByteArray} {nL pc : Nat} {R : Room} {σ : dS} {xs : List Int32} {st : List Value} (hE : dkOk E l G cc nL R) {v : Int32} (hd : decode cc pc = .ok (.putfield 26, 3)) (kk : dG E (up2 σ 5 0 v) (pc + 3) xs st) : dG E σ pc xs (.int v :: .ref G.2.1 :: st) := by
  obtain ⟨p, l', e, R', s, m, args, below, meth, c, A, Q, nL', D, w, th, b, kc, ks⟩ := E
  obtain ⟨hx, hb, hml, hown, hts, hK, hA, hth, hlk, hcs, rfl, rfl, rfl, rfl, rfl, rfl, rfl⟩ := hE
  intro ls H locs h1 h2 h3 h4
  refine va_put (ci := 0) (v := .int v) (ty := .int) (C := RX0) (T := TX0) (N := 39) hx hb hts in_X0 tyX0 tyX0_ok nmX0 hown hK h2 h3 h4 0 rfl rfl 5 (by decide) (hts _ q65) (fun _ h9 => h9) rfl (by decide +kernel) rfl rfl (Nat.le_of_ble_eq_true rfl) hd (fun H1 locs1 g2 g3 g4 => ?_)
  exact kk ls H1 locs1 h1 g2 g3 g4
theorem dk_gf6 {E : dEnv} {l : Launch} {G : dGeo} {cc : ByteArray} {nL pc : Nat} {R : Room} {σ : dS} {xs : List Int32} {st : List Value} (hE : dkOk E l G cc nL R) (hd : decode cc pc = .ok (.getfield 129, 3)) (kk : dG E σ (pc + 3) xs (.int (σ 6 0) :: st)) : dG E σ pc xs (.ref G.2.1 :: st) := by
  obtain ⟨p, l', e, R', s, m, args, below, meth, c, A, Q, nL', D, w, th, b, kc, ks⟩ := E
  obtain ⟨hx, hb, hml, hown, hts, hK, hA, hth, hlk, hcs, rfl, rfl, rfl, rfl, rfl, rfl, rfl⟩ := hE
  intro ls H locs h1 h2 h3 h4
  exact va_get (ci := 0) (v := .int (σ 6 0)) (C := RX0) (T := TX0) (N := 39) hx hb hts in_X0 hown hK h2 0 rfl rfl 6 (by decide) (hts _ q66) (fun _ h9 => h9) rfl hd (kk ls H locs h1 h2 h3 h4)
theorem dk_pf6 {E : dEnv} {l : Launch} {G : dGeo} {cc : ByteArray} {nL pc : Nat} {R : Room} {σ : dS} {xs : List Int32} {st : List Value} (hE : dkOk E l G cc nL R) {v : Int32} (hd : decode cc pc = .ok (.putfield 129, 3)) (kk : dG E (up2 σ 6 0 v) (pc + 3) xs st) : dG E σ pc xs (.int v :: .ref G.2.1 :: st) := by
  obtain ⟨p, l', e, R', s, m, args, below, meth, c, A, Q, nL', D, w, th, b, kc, ks⟩ := E
  obtain ⟨hx, hb, hml, hown, hts, hK, hA, hth, hlk, hcs, rfl, rfl, rfl, rfl, rfl, rfl, rfl⟩ := hE
  intro ls H locs h1 h2 h3 h4
  refine va_put (ci := 0) (v := .int v) (ty := .int) (C := RX0) (T := TX0) (N := 39) hx hb hts in_X0 tyX0 tyX0_ok nmX0 hown hK h2 h3 h4 0 rfl rfl 6 (by decide) (hts _ q66) (fun _ h9 => h9) rfl (by decide +kernel) rfl rfl (Nat.le_of_ble_eq_true rfl) hd (fun H1 locs1 g2 g3 g4 => ?_)
  exact kk ls H1 locs1 h1 g2 g3 g4
theorem dk_gf7 {E : dEnv} {l : Launch} {G : dGeo} {cc : ByteArray} {nL pc : Nat} {R : Room} {σ : dS} {xs : List Int32} {st : List Value} (hE : dkOk E l G cc nL R) (hd : decode cc pc = .ok (.getfield 30, 3)) (kk : dG E σ (pc + 3) xs (.ref (G.2.2.1 7) :: st)) : dG E σ pc xs (.ref G.2.1 :: st) := by
  obtain ⟨p, l', e, R', s, m, args, below, meth, c, A, Q, nL', D, w, th, b, kc, ks⟩ := E
  obtain ⟨hx, hb, hml, hown, hts, hK, hA, hth, hlk, hcs, rfl, rfl, rfl, rfl, rfl, rfl, rfl⟩ := hE
  intro ls H locs h1 h2 h3 h4
  exact va_get (ci := 0) (v := .ref (G.2.2.1 7)) (C := RX0) (T := TX0) (N := 39) hx hb hts in_X0 hown hK h2 0 rfl rfl 7 (by decide) (hts _ q67) (fun _ h9 => h9) rfl hd (kk ls H locs h1 h2 h3 h4)
theorem dk_ld7 {E : dEnv} {l : Launch} {G : dGeo} {cc : ByteArray} {nL pc : Nat} {R : Room} {σ : dS} {xs : List Int32} {st : List Value} (hE : dkOk E l G cc nL R) {i : Int32} {τ : Type} {x : Option τ} {out : τ} (hd : decode cc pc = .ok (.baload, 1)) (h : chk i 24 x = some out) (kk : x = some out → dG E σ (pc + 1) xs (.int (σ 7 i.toNatClampNeg) :: st)) : dG E σ pc xs (.int i :: .ref (G.2.2.1 7) :: st) := by
  obtain ⟨hi, h⟩ := chk_some h
  obtain ⟨p, l', e, R', s, m, args, below, meth, c, A, Q, nL', D, w, th, b, kc, ks⟩ := E
  obtain ⟨hx, hb, hml, hown, hts, hK, hA, hth, hlk, hcs, rfl, rfl, rfl, rfl, rfl, rfl, rfl⟩ := hE
  intro ls H locs h1 h2 h3 h4
  exact va_bald hx hb hK h2 6 5 (n := 24) (f := σ 7) rfl rfl hi hd (kk h ls H locs h1 h2 h3 h4)
theorem dk_as7 {E : dEnv} {l : Launch} {G : dGeo} {cc : ByteArray} {nL pc : Nat} {R : Room} {σ : dS} {xs : List Int32} {st : List Value} (hE : dkOk E l G cc nL R) {i v : Int32} {τ : Type} {x : Option τ} {out : τ} (hd : decode cc pc = .ok (.bastore, 1)) (h : chk i 24 x = some out) (kk : x = some out → dG E (up2 σ 7 i.toNatClampNeg (vp_nar .byte v)) (pc + 1) xs st) : dG E σ pc xs (.int v :: .int i :: .ref (G.2.2.1 7) :: st) := by
  obtain ⟨hi, h⟩ := chk_some h
  obtain ⟨p, l', e, R', s, m, args, below, meth, c, A, Q, nL', D, w, th, b, kc, ks⟩ := E
  obtain ⟨hx, hb, hml, hown, hts, hK, hA, hth, hlk, hcs, rfl, rfl, rfl, rfl, rfl, rfl, rfl⟩ := hE
  intro ls H locs h1 h2 h3 h4
  refine va_bast hx hb hK h2 h3 h4 6 5 (n := 24) (f := σ 7) rfl rfl hi hd (fun H1 locs1 g2 g3 g4 => ?_)
  exact kk h ls H1 locs1 h1 g2 g3 g4
theorem dk_gf8 {E : dEnv} {l : Launch} {G : dGeo} {cc : ByteArray} {nL pc : Nat} {R : Room} {σ : dS} {xs : List Int32} {st : List Value} (hE : dkOk E l G cc nL R) (hd : decode cc pc = .ok (.getfield 33, 3)) (kk : dG E σ (pc + 3) xs (.ref (G.2.2.1 8) :: st)) : dG E σ pc xs (.ref G.2.1 :: st) := by
  obtain ⟨p, l', e, R', s, m, args, below, meth, c, A, Q, nL', D, w, th, b, kc, ks⟩ := E
  obtain ⟨hx, hb, hml, hown, hts, hK, hA, hth, hlk, hcs, rfl, rfl, rfl, rfl, rfl, rfl, rfl⟩ := hE
  intro ls H locs h1 h2 h3 h4
  exact va_get (ci := 0) (v := .ref (G.2.2.1 8)) (C := RX0) (T := TX0) (N := 39) hx hb hts in_X0 hown hK h2 0 rfl rfl 8 (by decide) (hts _ q68) (fun _ h9 => h9) rfl hd (kk ls H locs h1 h2 h3 h4)
theorem dk_ld8 {E : dEnv} {l : Launch} {G : dGeo} {cc : ByteArray} {nL pc : Nat} {R : Room} {σ : dS} {xs : List Int32} {st : List Value} (hE : dkOk E l G cc nL R) {i : Int32} {τ : Type} {x : Option τ} {out : τ} (hd : decode cc pc = .ok (.baload, 1)) (h : chk i 24 x = some out) (kk : x = some out → dG E σ (pc + 1) xs (.int (σ 8 i.toNatClampNeg) :: st)) : dG E σ pc xs (.int i :: .ref (G.2.2.1 8) :: st) := by
  obtain ⟨hi, h⟩ := chk_some h
  obtain ⟨p, l', e, R', s, m, args, below, meth, c, A, Q, nL', D, w, th, b, kc, ks⟩ := E
  obtain ⟨hx, hb, hml, hown, hts, hK, hA, hth, hlk, hcs, rfl, rfl, rfl, rfl, rfl, rfl, rfl⟩ := hE
  intro ls H locs h1 h2 h3 h4
  exact va_bald hx hb hK h2 7 6 (n := 24) (f := σ 8) rfl rfl hi hd (kk h ls H locs h1 h2 h3 h4)
theorem dk_as8 {E : dEnv} {l : Launch} {G : dGeo} {cc : ByteArray} {nL pc : Nat} {R : Room} {σ : dS} {xs : List Int32} {st : List Value} (hE : dkOk E l G cc nL R) {i v : Int32} {τ : Type} {x : Option τ} {out : τ} (hd : decode cc pc = .ok (.bastore, 1)) (h : chk i 24 x = some out) (kk : x = some out → dG E (up2 σ 8 i.toNatClampNeg (vp_nar .byte v)) (pc + 1) xs st) : dG E σ pc xs (.int v :: .int i :: .ref (G.2.2.1 8) :: st) := by
  obtain ⟨hi, h⟩ := chk_some h
  obtain ⟨p, l', e, R', s, m, args, below, meth, c, A, Q, nL', D, w, th, b, kc, ks⟩ := E
  obtain ⟨hx, hb, hml, hown, hts, hK, hA, hth, hlk, hcs, rfl, rfl, rfl, rfl, rfl, rfl, rfl⟩ := hE
  intro ls H locs h1 h2 h3 h4
  refine va_bast hx hb hK h2 h3 h4 7 6 (n := 24) (f := σ 8) rfl rfl hi hd (fun H1 locs1 g2 g3 g4 => ?_)
  exact kk h ls H1 locs1 h1 g2 g3 g4
theorem dk_gf9 {E : dEnv} {l : Launch} {G : dGeo} {cc : ByteArray} {nL pc : Nat} {R : Room} {σ : dS} {xs : List Int32} {st : List Value} (hE : dkOk E l G cc nL R) (hd : decode cc pc = .ok (.getfield 36, 3)) (kk : dG E σ (pc + 3) xs (.ref (G.2.2.1 9) :: st)) : dG E σ pc xs (.ref G.2.1 :: st) := by
  obtain ⟨p, l', e, R', s, m, args, below, meth, c, A, Q, nL', D, w, th, b, kc, ks⟩ := E
  obtain ⟨hx, hb, hml, hown, hts, hK, hA, hth, hlk, hcs, rfl, rfl, rfl, rfl, rfl, rfl, rfl⟩ := hE
  intro ls H locs h1 h2 h3 h4
  exact va_get (ci := 0) (v := .ref (G.2.2.1 9)) (C := RX0) (T := TX0) (N := 39) hx hb hts in_X0 hown hK h2 0 rfl rfl 9 (by decide) (hts _ q69) (fun _ h9 => h9) rfl hd (kk ls H locs h1 h2 h3 h4)
theorem dk_ld9 {E : dEnv} {l : Launch} {G : dGeo} {cc : ByteArray} {nL pc : Nat} {R : Room} {σ : dS} {xs : List Int32} {st : List Value} (hE : dkOk E l G cc nL R) {i : Int32} {τ : Type} {x : Option τ} {out : τ} (hd : decode cc pc = .ok (.baload, 1)) (h : chk i 24 x = some out) (kk : x = some out → dG E σ (pc + 1) xs (.int (σ 9 i.toNatClampNeg) :: st)) : dG E σ pc xs (.int i :: .ref (G.2.2.1 9) :: st) := by
  obtain ⟨hi, h⟩ := chk_some h
  obtain ⟨p, l', e, R', s, m, args, below, meth, c, A, Q, nL', D, w, th, b, kc, ks⟩ := E
  obtain ⟨hx, hb, hml, hown, hts, hK, hA, hth, hlk, hcs, rfl, rfl, rfl, rfl, rfl, rfl, rfl⟩ := hE
  intro ls H locs h1 h2 h3 h4
  exact va_bald hx hb hK h2 8 7 (n := 24) (f := σ 9) rfl rfl hi hd (kk h ls H locs h1 h2 h3 h4)
theorem dk_as9 {E : dEnv} {l : Launch} {G : dGeo} {cc : ByteArray} {nL pc : Nat} {R : Room} {σ : dS} {xs : List Int32} {st : List Value} (hE : dkOk E l G cc nL R) {i v : Int32} {τ : Type} {x : Option τ} {out : τ} (hd : decode cc pc = .ok (.bastore, 1)) (h : chk i 24 x = some out) (kk : x = some out → dG E (up2 σ 9 i.toNatClampNeg (vp_nar .byte v)) (pc + 1) xs st) : dG E σ pc xs (.int v :: .int i :: .ref (G.2.2.1 9) :: st) := by
  obtain ⟨hi, h⟩ := chk_some h
  obtain ⟨p, l', e, R', s, m, args, below, meth, c, A, Q, nL', D, w, th, b, kc, ks⟩ := E
  obtain ⟨hx, hb, hml, hown, hts, hK, hA, hth, hlk, hcs, rfl, rfl, rfl, rfl, rfl, rfl, rfl⟩ := hE
  intro ls H locs h1 h2 h3 h4
  refine va_bast hx hb hK h2 h3 h4 8 7 (n := 24) (f := σ 9) rfl rfl hi hd (fun H1 locs1 g2 g3 g4 => ?_)
  exact kk h ls H1 locs1 h1 g2 g3 g4
theorem dk_gf10 {E : dEnv} {l : Launch} {G : dGeo} {cc : ByteArray} {nL pc : Nat} {R : Room} {σ : dS} {xs : List Int32} {st : List Value} (hE : dkOk E l G cc nL R) (hd : decode cc pc = .ok (.getfield 39, 3)) (kk : dG E σ (pc + 3) xs (.ref (G.2.2.1 10) :: st)) : dG E σ pc xs (.ref G.2.1 :: st) := by
  obtain ⟨p, l', e, R', s, m, args, below, meth, c, A, Q, nL', D, w, th, b, kc, ks⟩ := E
  obtain ⟨hx, hb, hml, hown, hts, hK, hA, hth, hlk, hcs, rfl, rfl, rfl, rfl, rfl, rfl, rfl⟩ := hE
  intro ls H locs h1 h2 h3 h4
  exact va_get (ci := 0) (v := .ref (G.2.2.1 10)) (C := RX0) (T := TX0) (N := 39) hx hb hts in_X0 hown hK h2 0 rfl rfl 10 (by decide) (hts _ q70) (fun _ h9 => h9) rfl hd (kk ls H locs h1 h2 h3 h4)
theorem dk_ld10 {E : dEnv} {l : Launch} {G : dGeo} {cc : ByteArray} {nL pc : Nat} {R : Room} {σ : dS} {xs : List Int32} {st : List Value} (hE : dkOk E l G cc nL R) {i : Int32} {τ : Type} {x : Option τ} {out : τ} (hd : decode cc pc = .ok (.baload, 1)) (h : chk i 24 x = some out) (kk : x = some out → dG E σ (pc + 1) xs (.int (σ 10 i.toNatClampNeg) :: st)) : dG E σ pc xs (.int i :: .ref (G.2.2.1 10) :: st) := by
  obtain ⟨hi, h⟩ := chk_some h
  obtain ⟨p, l', e, R', s, m, args, below, meth, c, A, Q, nL', D, w, th, b, kc, ks⟩ := E
  obtain ⟨hx, hb, hml, hown, hts, hK, hA, hth, hlk, hcs, rfl, rfl, rfl, rfl, rfl, rfl, rfl⟩ := hE
  intro ls H locs h1 h2 h3 h4
  exact va_bald hx hb hK h2 9 8 (n := 24) (f := σ 10) rfl rfl hi hd (kk h ls H locs h1 h2 h3 h4)
theorem dk_as10 {E : dEnv} {l : Launch} {G : dGeo} {cc : ByteArray} {nL pc : Nat} {R : Room} {σ : dS} {xs : List Int32} {st : List Value} (hE : dkOk E l G cc nL R) {i v : Int32} {τ : Type} {x : Option τ} {out : τ} (hd : decode cc pc = .ok (.bastore, 1)) (h : chk i 24 x = some out) (kk : x = some out → dG E (up2 σ 10 i.toNatClampNeg (vp_nar .byte v)) (pc + 1) xs st) : dG E σ pc xs (.int v :: .int i :: .ref (G.2.2.1 10) :: st) := by
  obtain ⟨hi, h⟩ := chk_some h
  obtain ⟨p, l', e, R', s, m, args, below, meth, c, A, Q, nL', D, w, th, b, kc, ks⟩ := E
  obtain ⟨hx, hb, hml, hown, hts, hK, hA, hth, hlk, hcs, rfl, rfl, rfl, rfl, rfl, rfl, rfl⟩ := hE
  intro ls H locs h1 h2 h3 h4
  refine va_bast hx hb hK h2 h3 h4 9 8 (n := 24) (f := σ 10) rfl rfl hi hd (fun H1 locs1 g2 g3 g4 => ?_)
  exact kk h ls H1 locs1 h1 g2 g3 g4
theorem dk_gf11 {E : dEnv} {l : Launch} {G : dGeo} {cc : ByteArray} {nL pc : Nat} {R : Room} {σ : dS} {xs : List Int32} {st : List Value} (hE : dkOk E l G cc nL R) (hd : decode cc pc = .ok (.getfield 42, 3)) (kk : dG E σ (pc + 3) xs (.ref (G.2.2.1 11) :: st)) : dG E σ pc xs (.ref G.2.1 :: st) := by
  obtain ⟨p, l', e, R', s, m, args, below, meth, c, A, Q, nL', D, w, th, b, kc, ks⟩ := E
  obtain ⟨hx, hb, hml, hown, hts, hK, hA, hth, hlk, hcs, rfl, rfl, rfl, rfl, rfl, rfl, rfl⟩ := hE
  intro ls H locs h1 h2 h3 h4
  exact va_get (ci := 0) (v := .ref (G.2.2.1 11)) (C := RX0) (T := TX0) (N := 39) hx hb hts in_X0 hown hK h2 0 rfl rfl 11 (by decide) (hts _ q71) (fun _ h9 => h9) rfl hd (kk ls H locs h1 h2 h3 h4)
theorem dk_ld11 {E : dEnv} {l : Launch} {G : dGeo} {cc : ByteArray} {nL pc : Nat} {R : Room} {σ : dS} {xs : List Int32} {st : List Value} (hE : dkOk E l G cc nL R) {i : Int32} {τ : Type} {x : Option τ} {out : τ} (hd : decode cc pc = .ok (.iaload, 1)) (h : chk i 24 x = some out) (kk : x = some out → dG E σ (pc + 1) xs (.int (σ 11 i.toNatClampNeg) :: st)) : dG E σ pc xs (.int i :: .ref (G.2.2.1 11) :: st) := by
  obtain ⟨hi, h⟩ := chk_some h
  obtain ⟨p, l', e, R', s, m, args, below, meth, c, A, Q, nL', D, w, th, b, kc, ks⟩ := E
  obtain ⟨hx, hb, hml, hown, hts, hK, hA, hth, hlk, hcs, rfl, rfl, rfl, rfl, rfl, rfl, rfl⟩ := hE
  intro ls H locs h1 h2 h3 h4
  exact va_iald hx hb hK h2 10 9 (n := 24) (f := σ 11) rfl rfl hi hd (kk h ls H locs h1 h2 h3 h4)
theorem dk_as11 {E : dEnv} {l : Launch} {G : dGeo} {cc : ByteArray} {nL pc : Nat} {R : Room} {σ : dS} {xs : List Int32} {st : List Value} (hE : dkOk E l G cc nL R) {i v : Int32} {τ : Type} {x : Option τ} {out : τ} (hd : decode cc pc = .ok (.iastore, 1)) (h : chk i 24 x = some out) (kk : x = some out → dG E (up2 σ 11 i.toNatClampNeg v) (pc + 1) xs st) : dG E σ pc xs (.int v :: .int i :: .ref (G.2.2.1 11) :: st) := by
  obtain ⟨hi, h⟩ := chk_some h
  obtain ⟨p, l', e, R', s, m, args, below, meth, c, A, Q, nL', D, w, th, b, kc, ks⟩ := E
  obtain ⟨hx, hb, hml, hown, hts, hK, hA, hth, hlk, hcs, rfl, rfl, rfl, rfl, rfl, rfl, rfl⟩ := hE
  intro ls H locs h1 h2 h3 h4
  refine va_iast hx hb hK h2 h3 h4 10 9 (n := 24) (f := σ 11) rfl rfl hi hd (fun H1 locs1 g2 g3 g4 => ?_)
  exact kk h ls H1 locs1 h1 g2 g3 g4
theorem dk_gf12 {E : dEnv} {l : Launch} {G : dGeo} {cc : ByteArray} {nL pc : Nat} {R : Room} {σ : dS} {xs : List Int32} {st : List Value} (hE : dkOk E l G cc nL R) (hd : decode cc pc = .ok (.getfield 45, 3)) (kk : dG E σ (pc + 3) xs (.ref (G.2.2.1 12) :: st)) : dG E σ pc xs (.ref G.2.1 :: st) := by
  obtain ⟨p, l', e, R', s, m, args, below, meth, c, A, Q, nL', D, w, th, b, kc, ks⟩ := E
  obtain ⟨hx, hb, hml, hown, hts, hK, hA, hth, hlk, hcs, rfl, rfl, rfl, rfl, rfl, rfl, rfl⟩ := hE
  intro ls H locs h1 h2 h3 h4
  exact va_get (ci := 0) (v := .ref (G.2.2.1 12)) (C := RX0) (T := TX0) (N := 39) hx hb hts in_X0 hown hK h2 0 rfl rfl 12 (by decide) (hts _ q72) (fun _ h9 => h9) rfl hd (kk ls H locs h1 h2 h3 h4)
theorem dk_ld12 {E : dEnv} {l : Launch} {G : dGeo} {cc : ByteArray} {nL pc : Nat} {R : Room} {σ : dS} {xs : List Int32} {st : List Value} (hE : dkOk E l G cc nL R) {i : Int32} {τ : Type} {x : Option τ} {out : τ} (hd : decode cc pc = .ok (.iaload, 1)) (h : chk i 24 x = some out) (kk : x = some out → dG E σ (pc + 1) xs (.int (σ 12 i.toNatClampNeg) :: st)) : dG E σ pc xs (.int i :: .ref (G.2.2.1 12) :: st) := by
  obtain ⟨hi, h⟩ := chk_some h
  obtain ⟨p, l', e, R', s, m, args, below, meth, c, A, Q, nL', D, w, th, b, kc, ks⟩ := E
  obtain ⟨hx, hb, hml, hown, hts, hK, hA, hth, hlk, hcs, rfl, rfl, rfl, rfl, rfl, rfl, rfl⟩ := hE
  intro ls H locs h1 h2 h3 h4
  exact va_iald hx hb hK h2 11 10 (n := 24) (f := σ 12) rfl rfl hi hd (kk h ls H locs h1 h2 h3 h4)
theorem dk_as12 {E : dEnv} {l : Launch} {G : dGeo} {cc : ByteArray} {nL pc : Nat} {R : Room} {σ : dS} {xs : List Int32} {st : List Value} (hE : dkOk E l G cc nL R) {i v : Int32} {τ : Type} {x : Option τ} {out : τ} (hd : decode cc pc = .ok (.iastore, 1)) (h : chk i 24 x = some out) (kk : x = some out → dG E (up2 σ 12 i.toNatClampNeg v) (pc + 1) xs st) : dG E σ pc xs (.int v :: .int i :: .ref (G.2.2.1 12) :: st) := by
  obtain ⟨hi, h⟩ := chk_some h
  obtain ⟨p, l', e, R', s, m, args, below, meth, c, A, Q, nL', D, w, th, b, kc, ks⟩ := E
  obtain ⟨hx, hb, hml, hown, hts, hK, hA, hth, hlk, hcs, rfl, rfl, rfl, rfl, rfl, rfl, rfl⟩ := hE
  intro ls H locs h1 h2 h3 h4
  refine va_iast hx hb hK h2 h3 h4 11 10 (n := 24) (f := σ 12) rfl rfl hi hd (fun H1 locs1 g2 g3 g4 => ?_)
  exact kk h ls H1 locs1 h1 g2 g3 g4
theorem dk_gf13 {E : dEnv} {l : Launch} {G : dGeo} {cc : ByteArray} {nL pc : Nat} {R : Room} {σ : dS} {xs : List Int32} {st : List Value} (hE : dkOk E l G cc nL R) (hd : decode cc pc = .ok (.getfield 48, 3)) (kk : dG E σ (pc + 3) xs (.ref (G.2.2.1 13) :: st)) : dG E σ pc xs (.ref G.2.1 :: st) := by
  obtain ⟨p, l', e, R', s, m, args, below, meth, c, A, Q, nL', D, w, th, b, kc, ks⟩ := E
  obtain ⟨hx, hb, hml, hown, hts, hK, hA, hth, hlk, hcs, rfl, rfl, rfl, rfl, rfl, rfl, rfl⟩ := hE
  intro ls H locs h1 h2 h3 h4
  exact va_get (ci := 0) (v := .ref (G.2.2.1 13)) (C := RX0) (T := TX0) (N := 39) hx hb hts in_X0 hown hK h2 0 rfl rfl 13 (by decide) (hts _ q73) (fun _ h9 => h9) rfl hd (kk ls H locs h1 h2 h3 h4)
theorem dk_ld13 {E : dEnv} {l : Launch} {G : dGeo} {cc : ByteArray} {nL pc : Nat} {R : Room} {σ : dS} {xs : List Int32} {st : List Value} (hE : dkOk E l G cc nL R) {i : Int32} {τ : Type} {x : Option τ} {out : τ} (hd : decode cc pc = .ok (.iaload, 1)) (h : chk i 7 x = some out) (kk : x = some out → dG E σ (pc + 1) xs (.int (σ 13 i.toNatClampNeg) :: st)) : dG E σ pc xs (.int i :: .ref (G.2.2.1 13) :: st) := by
  obtain ⟨hi, h⟩ := chk_some h
  obtain ⟨p, l', e, R', s, m, args, below, meth, c, A, Q, nL', D, w, th, b, kc, ks⟩ := E
  obtain ⟨hx, hb, hml, hown, hts, hK, hA, hth, hlk, hcs, rfl, rfl, rfl, rfl, rfl, rfl, rfl⟩ := hE
  intro ls H locs h1 h2 h3 h4
  exact va_iald hx hb hK h2 12 11 (n := 7) (f := σ 13) rfl rfl hi hd (kk h ls H locs h1 h2 h3 h4)
theorem dk_as13 {E : dEnv} {l : Launch} {G : dGeo} {cc : ByteArray} {nL pc : Nat} {R : Room} {σ : dS} {xs : List Int32} {st : List Value} (hE : dkOk E l G cc nL R) {i v : Int32} {τ : Type} {x : Option τ} {out : τ} (hd : decode cc pc = .ok (.iastore, 1)) (h : chk i 7 x = some out) (kk : x = some out → dG E (up2 σ 13 i.toNatClampNeg v) (pc + 1) xs st) : dG E σ pc xs (.int v :: .int i :: .ref (G.2.2.1 13) :: st) := by
  obtain ⟨hi, h⟩ := chk_some h
  obtain ⟨p, l', e, R', s, m, args, below, meth, c, A, Q, nL', D, w, th, b, kc, ks⟩ := E
  obtain ⟨hx, hb, hml, hown, hts, hK, hA, hth, hlk, hcs, rfl, rfl, rfl, rfl, rfl, rfl, rfl⟩ := hE
  intro ls H locs h1 h2 h3 h4
  refine va_iast hx hb hK h2 h3 h4 12 11 (n := 7) (f := σ 13) rfl rfl hi hd (fun H1 locs1 g2 g3 g4 => ?_)
  exact kk h ls H1 locs1 h1 g2 g3 g4
theorem dk_gf14 {E : dEnv} {l : Launch} {G : dGeo} {cc : ByteArray} {nL pc : Nat} {R : Room} {σ : dS} {xs : List Int32} {st : List Value} (hE : dkOk E l G cc nL R) (hd : decode cc pc = .ok (.getfield 51, 3)) (kk : dG E σ (pc + 3) xs (.ref (G.2.2.1 14) :: st)) : dG E σ pc xs (.ref G.2.1 :: st) := by
  obtain ⟨p, l', e, R', s, m, args, below, meth, c, A, Q, nL', D, w, th, b, kc, ks⟩ := E
  obtain ⟨hx, hb, hml, hown, hts, hK, hA, hth, hlk, hcs, rfl, rfl, rfl, rfl, rfl, rfl, rfl⟩ := hE
  intro ls H locs h1 h2 h3 h4
  exact va_get (ci := 0) (v := .ref (G.2.2.1 14)) (C := RX0) (T := TX0) (N := 39) hx hb hts in_X0 hown hK h2 0 rfl rfl 14 (by decide) (hts _ q74) (fun _ h9 => h9) rfl hd (kk ls H locs h1 h2 h3 h4)
theorem dk_ld14 {E : dEnv} {l : Launch} {G : dGeo} {cc : ByteArray} {nL pc : Nat} {R : Room} {σ : dS} {xs : List Int32} {st : List Value} (hE : dkOk E l G cc nL R) {i : Int32} {τ : Type} {x : Option τ} {out : τ} (hd : decode cc pc = .ok (.iaload, 1)) (h : chk i 24 x = some out) (kk : x = some out → dG E σ (pc + 1) xs (.int (σ 14 i.toNatClampNeg) :: st)) : dG E σ pc xs (.int i :: .ref (G.2.2.1 14) :: st) := by
  obtain ⟨hi, h⟩ := chk_some h
  obtain ⟨p, l', e, R', s, m, args, below, meth, c, A, Q, nL', D, w, th, b, kc, ks⟩ := E
  obtain ⟨hx, hb, hml, hown, hts, hK, hA, hth, hlk, hcs, rfl, rfl, rfl, rfl, rfl, rfl, rfl⟩ := hE
  intro ls H locs h1 h2 h3 h4
  exact va_iald hx hb hK h2 13 12 (n := 24) (f := σ 14) rfl rfl hi hd (kk h ls H locs h1 h2 h3 h4)
theorem dk_as14 {E : dEnv} {l : Launch} {G : dGeo} {cc : ByteArray} {nL pc : Nat} {R : Room} {σ : dS} {xs : List Int32} {st : List Value} (hE : dkOk E l G cc nL R) {i v : Int32} {τ : Type} {x : Option τ} {out : τ} (hd : decode cc pc = .ok (.iastore, 1)) (h : chk i 24 x = some out) (kk : x = some out → dG E (up2 σ 14 i.toNatClampNeg v) (pc + 1) xs st) : dG E σ pc xs (.int v :: .int i :: .ref (G.2.2.1 14) :: st) := by
  obtain ⟨hi, h⟩ := chk_some h
  obtain ⟨p, l', e, R', s, m, args, below, meth, c, A, Q, nL', D, w, th, b, kc, ks⟩ := E
  obtain ⟨hx, hb, hml, hown, hts, hK, hA, hth, hlk, hcs, rfl, rfl, rfl, rfl, rfl, rfl, rfl⟩ := hE
  intro ls H locs h1 h2 h3 h4
  refine va_iast hx hb hK h2 h3 h4 13 12 (n := 24) (f := σ 14) rfl rfl hi hd (fun H1 locs1 g2 g3 g4 => ?_)
  exact kk h ls H1 locs1 h1 g2 g3 g4
theorem dk_gf15 {E : dEnv} {l : Launch} {G : dGeo} {cc : ByteArray} {nL pc : Nat} {R : Room} {σ : dS} {xs : List Int32} {st : List Value} (hE : dkOk E l G cc nL R) (hd : decode cc pc = .ok (.getfield 118, 3)) (kk : dG E σ (pc + 3) xs (.int (σ 15 0) :: st)) : dG E σ pc xs (.ref G.2.1 :: st) := by
  obtain ⟨p, l', e, R', s, m, args, below, meth, c, A, Q, nL', D, w, th, b, kc, ks⟩ := E
  obtain ⟨hx, hb, hml, hown, hts, hK, hA, hth, hlk, hcs, rfl, rfl, rfl, rfl, rfl, rfl, rfl⟩ := hE
  intro ls H locs h1 h2 h3 h4
  exact va_get (ci := 0) (v := .int (σ 15 0)) (C := RX0) (T := TX0) (N := 39) hx hb hts in_X0 hown hK h2 0 rfl rfl 15 (by decide) (hts _ q75) (fun _ h9 => h9) rfl hd (kk ls H locs h1 h2 h3 h4)
theorem dk_pf15 {E : dEnv} {l : Launch} {G : dGeo} {cc : ByteArray} {nL pc : Nat} {R : Room} {σ : dS} {xs : List Int32} {st : List Value} (hE : dkOk E l G cc nL R) {v : Int32} (hd : decode cc pc = .ok (.putfield 118, 3)) (hz : narrow .boolean (.int v) = .int v) (hf : fits .boolean (.int v) = true) (kk : dG E (up2 σ 15 0 v) (pc + 3) xs st) : dG E σ pc xs (.int v :: .ref G.2.1 :: st) := by
  obtain ⟨p, l', e, R', s, m, args, below, meth, c, A, Q, nL', D, w, th, b, kc, ks⟩ := E
  obtain ⟨hx, hb, hml, hown, hts, hK, hA, hth, hlk, hcs, rfl, rfl, rfl, rfl, rfl, rfl, rfl⟩ := hE
  intro ls H locs h1 h2 h3 h4
  refine va_put (ci := 0) (v := .int v) (ty := .boolean) (C := RX0) (T := TX0) (N := 39) hx hb hts in_X0 tyX0 tyX0_ok nmX0 hown hK h2 h3 h4 0 rfl rfl 15 (by decide) (hts _ q75) (fun _ h9 => h9) rfl (by decide +kernel) hz hf (Nat.le_of_ble_eq_true rfl) hd (fun H1 locs1 g2 g3 g4 => ?_)
  exact kk ls H1 locs1 h1 g2 g3 g4
theorem dk_gf16 {E : dEnv} {l : Launch} {G : dGeo} {cc : ByteArray} {nL pc : Nat} {R : Room} {σ : dS} {xs : List Int32} {st : List Value} (hE : dkOk E l G cc nL R) (hd : decode cc pc = .ok (.getfield 54, 3)) (kk : dG E σ (pc + 3) xs (.ref (G.2.2.1 16) :: st)) : dG E σ pc xs (.ref G.2.1 :: st) := by
  obtain ⟨p, l', e, R', s, m, args, below, meth, c, A, Q, nL', D, w, th, b, kc, ks⟩ := E
  obtain ⟨hx, hb, hml, hown, hts, hK, hA, hth, hlk, hcs, rfl, rfl, rfl, rfl, rfl, rfl, rfl⟩ := hE
  intro ls H locs h1 h2 h3 h4
  exact va_get (ci := 0) (v := .ref (G.2.2.1 16)) (C := RX0) (T := TX0) (N := 39) hx hb hts in_X0 hown hK h2 0 rfl rfl 16 (by decide) (hts _ q76) (fun _ h9 => h9) rfl hd (kk ls H locs h1 h2 h3 h4)
theorem dk_ld16 {E : dEnv} {l : Launch} {G : dGeo} {cc : ByteArray} {nL pc : Nat} {R : Room} {σ : dS} {xs : List Int32} {st : List Value} (hE : dkOk E l G cc nL R) {i : Int32} {τ : Type} {x : Option τ} {out : τ} (hd : decode cc pc = .ok (.baload, 1)) (h : chk i 360 x = some out) (kk : x = some out → dG E σ (pc + 1) xs (.int (σ 16 i.toNatClampNeg) :: st)) : dG E σ pc xs (.int i :: .ref (G.2.2.1 16) :: st) := by
  obtain ⟨hi, h⟩ := chk_some h
  obtain ⟨p, l', e, R', s, m, args, below, meth, c, A, Q, nL', D, w, th, b, kc, ks⟩ := E
  obtain ⟨hx, hb, hml, hown, hts, hK, hA, hth, hlk, hcs, rfl, rfl, rfl, rfl, rfl, rfl, rfl⟩ := hE
  intro ls H locs h1 h2 h3 h4
  exact va_bald hx hb hK h2 14 13 (n := 360) (f := σ 16) rfl rfl hi hd (kk h ls H locs h1 h2 h3 h4)
theorem dk_as16 {E : dEnv} {l : Launch} {G : dGeo} {cc : ByteArray} {nL pc : Nat} {R : Room} {σ : dS} {xs : List Int32} {st : List Value} (hE : dkOk E l G cc nL R) {i v : Int32} {τ : Type} {x : Option τ} {out : τ} (hd : decode cc pc = .ok (.bastore, 1)) (h : chk i 360 x = some out) (kk : x = some out → dG E (up2 σ 16 i.toNatClampNeg (vp_nar .byte v)) (pc + 1) xs st) : dG E σ pc xs (.int v :: .int i :: .ref (G.2.2.1 16) :: st) := by
  obtain ⟨hi, h⟩ := chk_some h
  obtain ⟨p, l', e, R', s, m, args, below, meth, c, A, Q, nL', D, w, th, b, kc, ks⟩ := E
  obtain ⟨hx, hb, hml, hown, hts, hK, hA, hth, hlk, hcs, rfl, rfl, rfl, rfl, rfl, rfl, rfl⟩ := hE
  intro ls H locs h1 h2 h3 h4
  refine va_bast hx hb hK h2 h3 h4 14 13 (n := 360) (f := σ 16) rfl rfl hi hd (fun H1 locs1 g2 g3 g4 => ?_)
  exact kk h ls H1 locs1 h1 g2 g3 g4
theorem dk_gf17 {E : dEnv} {l : Launch} {G : dGeo} {cc : ByteArray} {nL pc : Nat} {R : Room} {σ : dS} {xs : List Int32} {st : List Value} (hE : dkOk E l G cc nL R) (hd : decode cc pc = .ok (.getfield 57, 3)) (kk : dG E σ (pc + 3) xs (.ref (G.2.2.1 17) :: st)) : dG E σ pc xs (.ref G.2.1 :: st) := by
  obtain ⟨p, l', e, R', s, m, args, below, meth, c, A, Q, nL', D, w, th, b, kc, ks⟩ := E
  obtain ⟨hx, hb, hml, hown, hts, hK, hA, hth, hlk, hcs, rfl, rfl, rfl, rfl, rfl, rfl, rfl⟩ := hE
  intro ls H locs h1 h2 h3 h4
  exact va_get (ci := 0) (v := .ref (G.2.2.1 17)) (C := RX0) (T := TX0) (N := 39) hx hb hts in_X0 hown hK h2 0 rfl rfl 17 (by decide) (hts _ q77) (fun _ h9 => h9) rfl hd (kk ls H locs h1 h2 h3 h4)
theorem dk_ld17 {E : dEnv} {l : Launch} {G : dGeo} {cc : ByteArray} {nL pc : Nat} {R : Room} {σ : dS} {xs : List Int32} {st : List Value} (hE : dkOk E l G cc nL R) {i : Int32} {τ : Type} {x : Option τ} {out : τ} (hd : decode cc pc = .ok (.iaload, 1)) (h : chk i 360 x = some out) (kk : x = some out → dG E σ (pc + 1) xs (.int (σ 17 i.toNatClampNeg) :: st)) : dG E σ pc xs (.int i :: .ref (G.2.2.1 17) :: st) := by
  obtain ⟨hi, h⟩ := chk_some h
  obtain ⟨p, l', e, R', s, m, args, below, meth, c, A, Q, nL', D, w, th, b, kc, ks⟩ := E
  obtain ⟨hx, hb, hml, hown, hts, hK, hA, hth, hlk, hcs, rfl, rfl, rfl, rfl, rfl, rfl, rfl⟩ := hE
  intro ls H locs h1 h2 h3 h4
  exact va_iald hx hb hK h2 15 14 (n := 360) (f := σ 17) rfl rfl hi hd (kk h ls H locs h1 h2 h3 h4)
theorem dk_as17 {E : dEnv} {l : Launch} {G : dGeo} {cc : ByteArray} {nL pc : Nat} {R : Room} {σ : dS} {xs : List Int32} {st : List Value} (hE : dkOk E l G cc nL R) {i v : Int32} {τ : Type} {x : Option τ} {out : τ} (hd : decode cc pc = .ok (.iastore, 1)) (h : chk i 360 x = some out) (kk : x = some out → dG E (up2 σ 17 i.toNatClampNeg v) (pc + 1) xs st) : dG E σ pc xs (.int v :: .int i :: .ref (G.2.2.1 17) :: st) := by
  obtain ⟨hi, h⟩ := chk_some h
  obtain ⟨p, l', e, R', s, m, args, below, meth, c, A, Q, nL', D, w, th, b, kc, ks⟩ := E
  obtain ⟨hx, hb, hml, hown, hts, hK, hA, hth, hlk, hcs, rfl, rfl, rfl, rfl, rfl, rfl, rfl⟩ := hE
  intro ls H locs h1 h2 h3 h4
  refine va_iast hx hb hK h2 h3 h4 15 14 (n := 360) (f := σ 17) rfl rfl hi hd (fun H1 locs1 g2 g3 g4 => ?_)
  exact kk h ls H1 locs1 h1 g2 g3 g4
theorem dk_gf18 {E : dEnv} {l : Launch} {G : dGeo} {cc : ByteArray} {nL pc : Nat} {R : Room} {σ : dS} {xs : List Int32} {st : List Value} (hE : dkOk E l G cc nL R) (hd : decode cc pc = .ok (.getfield 60, 3)) (kk : dG E σ (pc + 3) xs (.ref (G.2.2.1 18) :: st)) : dG E σ pc xs (.ref G.2.1 :: st) := by
  obtain ⟨p, l', e, R', s, m, args, below, meth, c, A, Q, nL', D, w, th, b, kc, ks⟩ := E
  obtain ⟨hx, hb, hml, hown, hts, hK, hA, hth, hlk, hcs, rfl, rfl, rfl, rfl, rfl, rfl, rfl⟩ := hE
  intro ls H locs h1 h2 h3 h4
  exact va_get (ci := 0) (v := .ref (G.2.2.1 18)) (C := RX0) (T := TX0) (N := 39) hx hb hts in_X0 hown hK h2 0 rfl rfl 18 (by decide) (hts _ q78) (fun _ h9 => h9) rfl hd (kk ls H locs h1 h2 h3 h4)
theorem dk_ld18 {E : dEnv} {l : Launch} {G : dGeo} {cc : ByteArray} {nL pc : Nat} {R : Room} {σ : dS} {xs : List Int32} {st : List Value} (hE : dkOk E l G cc nL R) {i : Int32} {τ : Type} {x : Option τ} {out : τ} (hd : decode cc pc = .ok (.baload, 1)) (h : chk i 360 x = some out) (kk : x = some out → dG E σ (pc + 1) xs (.int (σ 18 i.toNatClampNeg) :: st)) : dG E σ pc xs (.int i :: .ref (G.2.2.1 18) :: st) := by
  obtain ⟨hi, h⟩ := chk_some h
  obtain ⟨p, l', e, R', s, m, args, below, meth, c, A, Q, nL', D, w, th, b, kc, ks⟩ := E
  obtain ⟨hx, hb, hml, hown, hts, hK, hA, hth, hlk, hcs, rfl, rfl, rfl, rfl, rfl, rfl, rfl⟩ := hE
  intro ls H locs h1 h2 h3 h4
  exact va_bald hx hb hK h2 16 15 (n := 360) (f := σ 18) rfl rfl hi hd (kk h ls H locs h1 h2 h3 h4)
theorem dk_as18 {E : dEnv} {l : Launch} {G : dGeo} {cc : ByteArray} {nL pc : Nat} {R : Room} {σ : dS} {xs : List Int32} {st : List Value} (hE : dkOk E l G cc nL R) {i v : Int32} {τ : Type} {x : Option τ} {out : τ} (hd : decode cc pc = .ok (.bastore, 1)) (h : chk i 360 x = some out) (kk : x = some out → dG E (up2 σ 18 i.toNatClampNeg (vp_nar .byte v)) (pc + 1) xs st) : dG E σ pc xs (.int v :: .int i :: .ref (G.2.2.1 18) :: st) := by
  obtain ⟨hi, h⟩ := chk_some h
  obtain ⟨p, l', e, R', s, m, args, below, meth, c, A, Q, nL', D, w, th, b, kc, ks⟩ := E
  obtain ⟨hx, hb, hml, hown, hts, hK, hA, hth, hlk, hcs, rfl, rfl, rfl, rfl, rfl, rfl, rfl⟩ := hE
  intro ls H locs h1 h2 h3 h4
  refine va_bast hx hb hK h2 h3 h4 16 15 (n := 360) (f := σ 18) rfl rfl hi hd (fun H1 locs1 g2 g3 g4 => ?_)
  exact kk h ls H1 locs1 h1 g2 g3 g4
theorem dk_gf19 {E : dEnv} {l : Launch} {G : dGeo} {cc : ByteArray} {nL pc : Nat} {R : Room} {σ : dS} {xs : List Int32} {st : List Value} (hE : dkOk E l G cc nL R) (hd : decode cc pc = .ok (.getfield 63, 3)) (kk : dG E σ (pc + 3) xs (.ref (G.2.2.1 19) :: st)) : dG E σ pc xs (.ref G.2.1 :: st) := by
  obtain ⟨p, l', e, R', s, m, args, below, meth, c, A, Q, nL', D, w, th, b, kc, ks⟩ := E
  obtain ⟨hx, hb, hml, hown, hts, hK, hA, hth, hlk, hcs, rfl, rfl, rfl, rfl, rfl, rfl, rfl⟩ := hE
  intro ls H locs h1 h2 h3 h4
  exact va_get (ci := 0) (v := .ref (G.2.2.1 19)) (C := RX0) (T := TX0) (N := 39) hx hb hts in_X0 hown hK h2 0 rfl rfl 19 (by decide) (hts _ q79) (fun _ h9 => h9) rfl hd (kk ls H locs h1 h2 h3 h4)
theorem dk_ld19 {E : dEnv} {l : Launch} {G : dGeo} {cc : ByteArray} {nL pc : Nat} {R : Room} {σ : dS} {xs : List Int32} {st : List Value} (hE : dkOk E l G cc nL R) {i : Int32} {τ : Type} {x : Option τ} {out : τ} (hd : decode cc pc = .ok (.baload, 1)) (h : chk i 360 x = some out) (kk : x = some out → dG E σ (pc + 1) xs (.int (σ 19 i.toNatClampNeg) :: st)) : dG E σ pc xs (.int i :: .ref (G.2.2.1 19) :: st) := by
  obtain ⟨hi, h⟩ := chk_some h
  obtain ⟨p, l', e, R', s, m, args, below, meth, c, A, Q, nL', D, w, th, b, kc, ks⟩ := E
  obtain ⟨hx, hb, hml, hown, hts, hK, hA, hth, hlk, hcs, rfl, rfl, rfl, rfl, rfl, rfl, rfl⟩ := hE
  intro ls H locs h1 h2 h3 h4
  exact va_bald hx hb hK h2 17 16 (n := 360) (f := σ 19) rfl rfl hi hd (kk h ls H locs h1 h2 h3 h4)
theorem dk_as19 {E : dEnv} {l : Launch} {G : dGeo} {cc : ByteArray} {nL pc : Nat} {R : Room} {σ : dS} {xs : List Int32} {st : List Value} (hE : dkOk E l G cc nL R) {i v : Int32} {τ : Type} {x : Option τ} {out : τ} (hd : decode cc pc = .ok (.bastore, 1)) (h : chk i 360 x = some out) (kk : x = some out → dG E (up2 σ 19 i.toNatClampNeg (vp_nar .byte v)) (pc + 1) xs st) : dG E σ pc xs (.int v :: .int i :: .ref (G.2.2.1 19) :: st) := by
  obtain ⟨hi, h⟩ := chk_some h
  obtain ⟨p, l', e, R', s, m, args, below, meth, c, A, Q, nL', D, w, th, b, kc, ks⟩ := E
  obtain ⟨hx, hb, hml, hown, hts, hK, hA, hth, hlk, hcs, rfl, rfl, rfl, rfl, rfl, rfl, rfl⟩ := hE
  intro ls H locs h1 h2 h3 h4
  refine va_bast hx hb hK h2 h3 h4 17 16 (n := 360) (f := σ 19) rfl rfl hi hd (fun H1 locs1 g2 g3 g4 => ?_)
  exact kk h ls H1 locs1 h1 g2 g3 g4
theorem dk_gf20 {E : dEnv} {l : Launch} {G : dGeo} {cc : ByteArray} {nL pc : Nat} {R : Room} {σ : dS} {xs : List Int32} {st : List Value} (hE : dkOk E l G cc nL R) (hd : decode cc pc = .ok (.getfield 66, 3)) (kk : dG E σ (pc + 3) xs (.ref (G.2.2.1 20) :: st)) : dG E σ pc xs (.ref G.2.1 :: st) := by
  obtain ⟨p, l', e, R', s, m, args, below, meth, c, A, Q, nL', D, w, th, b, kc, ks⟩ := E
  obtain ⟨hx, hb, hml, hown, hts, hK, hA, hth, hlk, hcs, rfl, rfl, rfl, rfl, rfl, rfl, rfl⟩ := hE
  intro ls H locs h1 h2 h3 h4
  exact va_get (ci := 0) (v := .ref (G.2.2.1 20)) (C := RX0) (T := TX0) (N := 39) hx hb hts in_X0 hown hK h2 0 rfl rfl 20 (by decide) (hts _ q80) (fun _ h9 => h9) rfl hd (kk ls H locs h1 h2 h3 h4)
theorem dk_ld20 {E : dEnv} {l : Launch} {G : dGeo} {cc : ByteArray} {nL pc : Nat} {R : Room} {σ : dS} {xs : List Int32} {st : List Value} (hE : dkOk E l G cc nL R) {i : Int32} {τ : Type} {x : Option τ} {out : τ} (hd : decode cc pc = .ok (.baload, 1)) (h : chk i 360 x = some out) (kk : x = some out → dG E σ (pc + 1) xs (.int (σ 20 i.toNatClampNeg) :: st)) : dG E σ pc xs (.int i :: .ref (G.2.2.1 20) :: st) := by
  obtain ⟨hi, h⟩ := chk_some h
  obtain ⟨p, l', e, R', s, m, args, below, meth, c, A, Q, nL', D, w, th, b, kc, ks⟩ := E
  obtain ⟨hx, hb, hml, hown, hts, hK, hA, hth, hlk, hcs, rfl, rfl, rfl, rfl, rfl, rfl, rfl⟩ := hE
  intro ls H locs h1 h2 h3 h4
  exact va_zald hx hb hK h2 18 17 (n := 360) (f := σ 20) rfl rfl hi hd (kk h ls H locs h1 h2 h3 h4)
theorem dk_as20 {E : dEnv} {l : Launch} {G : dGeo} {cc : ByteArray} {nL pc : Nat} {R : Room} {σ : dS} {xs : List Int32} {st : List Value} (hE : dkOk E l G cc nL R) {i v : Int32} {τ : Type} {x : Option τ} {out : τ} (hd : decode cc pc = .ok (.bastore, 1)) (h : chk i 360 x = some out) (kk : x = some out → dG E (up2 σ 20 i.toNatClampNeg (vp_nar .boolean v)) (pc + 1) xs st) : dG E σ pc xs (.int v :: .int i :: .ref (G.2.2.1 20) :: st) := by
  obtain ⟨hi, h⟩ := chk_some h
  obtain ⟨p, l', e, R', s, m, args, below, meth, c, A, Q, nL', D, w, th, b, kc, ks⟩ := E
  obtain ⟨hx, hb, hml, hown, hts, hK, hA, hth, hlk, hcs, rfl, rfl, rfl, rfl, rfl, rfl, rfl⟩ := hE
  intro ls H locs h1 h2 h3 h4
  refine va_zast hx hb hK h2 h3 h4 18 17 (n := 360) (f := σ 20) rfl rfl hi hd (fun H1 locs1 g2 g3 g4 => ?_)
  exact kk h ls H1 locs1 h1 g2 g3 g4
theorem dk_gf21 {E : dEnv} {l : Launch} {G : dGeo} {cc : ByteArray} {nL pc : Nat} {R : Room} {σ : dS} {xs : List Int32} {st : List Value} (hE : dkOk E l G cc nL R) (hd : decode cc pc = .ok (.getfield 70, 3)) (kk : dG E σ (pc + 3) xs (.ref (G.2.2.1 21) :: st)) : dG E σ pc xs (.ref G.2.1 :: st) := by
  obtain ⟨p, l', e, R', s, m, args, below, meth, c, A, Q, nL', D, w, th, b, kc, ks⟩ := E
  obtain ⟨hx, hb, hml, hown, hts, hK, hA, hth, hlk, hcs, rfl, rfl, rfl, rfl, rfl, rfl, rfl⟩ := hE
  intro ls H locs h1 h2 h3 h4
  exact va_get (ci := 0) (v := .ref (G.2.2.1 21)) (C := RX0) (T := TX0) (N := 39) hx hb hts in_X0 hown hK h2 0 rfl rfl 21 (by decide) (hts _ q81) (fun _ h9 => h9) rfl hd (kk ls H locs h1 h2 h3 h4)
theorem dk_ld21 {E : dEnv} {l : Launch} {G : dGeo} {cc : ByteArray} {nL pc : Nat} {R : Room} {σ : dS} {xs : List Int32} {st : List Value} (hE : dkOk E l G cc nL R) {i : Int32} {τ : Type} {x : Option τ} {out : τ} (hd : decode cc pc = .ok (.baload, 1)) (h : chk i 9 x = some out) (kk : x = some out → dG E σ (pc + 1) xs (.int (σ 21 i.toNatClampNeg) :: st)) : dG E σ pc xs (.int i :: .ref (G.2.2.1 21) :: st) := by
  obtain ⟨hi, h⟩ := chk_some h
  obtain ⟨p, l', e, R', s, m, args, below, meth, c, A, Q, nL', D, w, th, b, kc, ks⟩ := E
  obtain ⟨hx, hb, hml, hown, hts, hK, hA, hth, hlk, hcs, rfl, rfl, rfl, rfl, rfl, rfl, rfl⟩ := hE
  intro ls H locs h1 h2 h3 h4
  exact va_bald hx hb hK h2 19 18 (n := 9) (f := σ 21) rfl rfl hi hd (kk h ls H locs h1 h2 h3 h4)
theorem dk_as21 {E : dEnv} {l : Launch} {G : dGeo} {cc : ByteArray} {nL pc : Nat} {R : Room} {σ : dS} {xs : List Int32} {st : List Value} (hE : dkOk E l G cc nL R) {i v : Int32} {τ : Type} {x : Option τ} {out : τ} (hd : decode cc pc = .ok (.bastore, 1)) (h : chk i 9 x = some out) (kk : x = some out → dG E (up2 σ 21 i.toNatClampNeg (vp_nar .byte v)) (pc + 1) xs st) : dG E σ pc xs (.int v :: .int i :: .ref (G.2.2.1 21) :: st) := by
  obtain ⟨hi, h⟩ := chk_some h
  obtain ⟨p, l', e, R', s, m, args, below, meth, c, A, Q, nL', D, w, th, b, kc, ks⟩ := E
  obtain ⟨hx, hb, hml, hown, hts, hK, hA, hth, hlk, hcs, rfl, rfl, rfl, rfl, rfl, rfl, rfl⟩ := hE
  intro ls H locs h1 h2 h3 h4
  refine va_bast hx hb hK h2 h3 h4 19 18 (n := 9) (f := σ 21) rfl rfl hi hd (fun H1 locs1 g2 g3 g4 => ?_)
  exact kk h ls H1 locs1 h1 g2 g3 g4
theorem dk_gf22 {E : dEnv} {l : Launch} {G : dGeo} {cc : ByteArray} {nL pc : Nat} {R : Room} {σ : dS} {xs : List Int32} {st : List Value} (hE : dkOk E l G cc nL R) (hd : decode cc pc = .ok (.getfield 73, 3)) (kk : dG E σ (pc + 3) xs (.ref (G.2.2.1 22) :: st)) : dG E σ pc xs (.ref G.2.1 :: st) := by
  obtain ⟨p, l', e, R', s, m, args, below, meth, c, A, Q, nL', D, w, th, b, kc, ks⟩ := E
  obtain ⟨hx, hb, hml, hown, hts, hK, hA, hth, hlk, hcs, rfl, rfl, rfl, rfl, rfl, rfl, rfl⟩ := hE
  intro ls H locs h1 h2 h3 h4
  exact va_get (ci := 0) (v := .ref (G.2.2.1 22)) (C := RX0) (T := TX0) (N := 39) hx hb hts in_X0 hown hK h2 0 rfl rfl 22 (by decide) (hts _ q82) (fun _ h9 => h9) rfl hd (kk ls H locs h1 h2 h3 h4)
theorem dk_ld22 {E : dEnv} {l : Launch} {G : dGeo} {cc : ByteArray} {nL pc : Nat} {R : Room} {σ : dS} {xs : List Int32} {st : List Value} (hE : dkOk E l G cc nL R) {i : Int32} {τ : Type} {x : Option τ} {out : τ} (hd : decode cc pc = .ok (.baload, 1)) (h : chk i 42 x = some out) (kk : x = some out → dG E σ (pc + 1) xs (.int (σ 22 i.toNatClampNeg) :: st)) : dG E σ pc xs (.int i :: .ref (G.2.2.1 22) :: st) := by
  obtain ⟨hi, h⟩ := chk_some h
  obtain ⟨p, l', e, R', s, m, args, below, meth, c, A, Q, nL', D, w, th, b, kc, ks⟩ := E
  obtain ⟨hx, hb, hml, hown, hts, hK, hA, hth, hlk, hcs, rfl, rfl, rfl, rfl, rfl, rfl, rfl⟩ := hE
  intro ls H locs h1 h2 h3 h4
  exact va_bald hx hb hK h2 20 19 (n := 42) (f := σ 22) rfl rfl hi hd (kk h ls H locs h1 h2 h3 h4)
theorem dk_as22 {E : dEnv} {l : Launch} {G : dGeo} {cc : ByteArray} {nL pc : Nat} {R : Room} {σ : dS} {xs : List Int32} {st : List Value} (hE : dkOk E l G cc nL R) {i v : Int32} {τ : Type} {x : Option τ} {out : τ} (hd : decode cc pc = .ok (.bastore, 1)) (h : chk i 42 x = some out) (kk : x = some out → dG E (up2 σ 22 i.toNatClampNeg (vp_nar .byte v)) (pc + 1) xs st) : dG E σ pc xs (.int v :: .int i :: .ref (G.2.2.1 22) :: st) := by
  obtain ⟨hi, h⟩ := chk_some h
  obtain ⟨p, l', e, R', s, m, args, below, meth, c, A, Q, nL', D, w, th, b, kc, ks⟩ := E
  obtain ⟨hx, hb, hml, hown, hts, hK, hA, hth, hlk, hcs, rfl, rfl, rfl, rfl, rfl, rfl, rfl⟩ := hE
  intro ls H locs h1 h2 h3 h4
  refine va_bast hx hb hK h2 h3 h4 20 19 (n := 42) (f := σ 22) rfl rfl hi hd (fun H1 locs1 g2 g3 g4 => ?_)
  exact kk h ls H1 locs1 h1 g2 g3 g4
theorem dk_gf23 {E : dEnv} {l : Launch} {G : dGeo} {cc : ByteArray} {nL pc : Nat} {R : Room} {σ : dS} {xs : List Int32} {st : List Value} (hE : dkOk E l G cc nL R) (hd : decode cc pc = .ok (.getfield 76, 3)) (kk : dG E σ (pc + 3) xs (.ref (G.2.2.1 23) :: st)) : dG E σ pc xs (.ref G.2.1 :: st) := by
  obtain ⟨p, l', e, R', s, m, args, below, meth, c, A, Q, nL', D, w, th, b, kc, ks⟩ := E
  obtain ⟨hx, hb, hml, hown, hts, hK, hA, hth, hlk, hcs, rfl, rfl, rfl, rfl, rfl, rfl, rfl⟩ := hE
  intro ls H locs h1 h2 h3 h4
  exact va_get (ci := 0) (v := .ref (G.2.2.1 23)) (C := RX0) (T := TX0) (N := 39) hx hb hts in_X0 hown hK h2 0 rfl rfl 23 (by decide) (hts _ q83) (fun _ h9 => h9) rfl hd (kk ls H locs h1 h2 h3 h4)
theorem dk_ld23 {E : dEnv} {l : Launch} {G : dGeo} {cc : ByteArray} {nL pc : Nat} {R : Room} {σ : dS} {xs : List Int32} {st : List Value} (hE : dkOk E l G cc nL R) {i : Int32} {τ : Type} {x : Option τ} {out : τ} (hd : decode cc pc = .ok (.iaload, 1)) (h : chk i 960 x = some out) (kk : x = some out → dG E σ (pc + 1) xs (.int (σ 23 i.toNatClampNeg) :: st)) : dG E σ pc xs (.int i :: .ref (G.2.2.1 23) :: st) := by
  obtain ⟨hi, h⟩ := chk_some h
  obtain ⟨p, l', e, R', s, m, args, below, meth, c, A, Q, nL', D, w, th, b, kc, ks⟩ := E
  obtain ⟨hx, hb, hml, hown, hts, hK, hA, hth, hlk, hcs, rfl, rfl, rfl, rfl, rfl, rfl, rfl⟩ := hE
  intro ls H locs h1 h2 h3 h4
  exact va_iald hx hb hK h2 21 20 (n := 960) (f := σ 23) rfl rfl hi hd (kk h ls H locs h1 h2 h3 h4)
theorem dk_as23 {E : dEnv} {l : Launch} {G : dGeo} {cc : ByteArray} {nL pc : Nat} {R : Room} {σ : dS} {xs : List Int32} {st : List Value} (hE : dkOk E l G cc nL R) {i v : Int32} {τ : Type} {x : Option τ} {out : τ} (hd : decode cc pc = .ok (.iastore, 1)) (h : chk i 960 x = some out) (kk : x = some out → dG E (up2 σ 23 i.toNatClampNeg v) (pc + 1) xs st) : dG E σ pc xs (.int v :: .int i :: .ref (G.2.2.1 23) :: st) := by
  obtain ⟨hi, h⟩ := chk_some h
  obtain ⟨p, l', e, R', s, m, args, below, meth, c, A, Q, nL', D, w, th, b, kc, ks⟩ := E
  obtain ⟨hx, hb, hml, hown, hts, hK, hA, hth, hlk, hcs, rfl, rfl, rfl, rfl, rfl, rfl, rfl⟩ := hE
  intro ls H locs h1 h2 h3 h4
  refine va_iast hx hb hK h2 h3 h4 21 20 (n := 960) (f := σ 23) rfl rfl hi hd (fun H1 locs1 g2 g3 g4 => ?_)
  exact kk h ls H1 locs1 h1 g2 g3 g4
theorem dk_gf24 {E : dEnv} {l : Launch} {G : dGeo} {cc : ByteArray} {nL pc : Nat} {R : Room} {σ : dS} {xs : List Int32} {st : List Value} (hE : dkOk E l G cc nL R) (hd : decode cc pc = .ok (.getfield 79, 3)) (kk : dG E σ (pc + 3) xs (.ref (G.2.2.1 24) :: st)) : dG E σ pc xs (.ref G.2.1 :: st) := by
  obtain ⟨p, l', e, R', s, m, args, below, meth, c, A, Q, nL', D, w, th, b, kc, ks⟩ := E
  obtain ⟨hx, hb, hml, hown, hts, hK, hA, hth, hlk, hcs, rfl, rfl, rfl, rfl, rfl, rfl, rfl⟩ := hE
  intro ls H locs h1 h2 h3 h4
  exact va_get (ci := 0) (v := .ref (G.2.2.1 24)) (C := RX0) (T := TX0) (N := 39) hx hb hts in_X0 hown hK h2 0 rfl rfl 24 (by decide) (hts _ q84) (fun _ h9 => h9) rfl hd (kk ls H locs h1 h2 h3 h4)
theorem dk_ld24 {E : dEnv} {l : Launch} {G : dGeo} {cc : ByteArray} {nL pc : Nat} {R : Room} {σ : dS} {xs : List Int32} {st : List Value} (hE : dkOk E l G cc nL R) {i : Int32} {τ : Type} {x : Option τ} {out : τ} (hd : decode cc pc = .ok (.iaload, 1)) (h : chk i 192 x = some out) (kk : x = some out → dG E σ (pc + 1) xs (.int (σ 24 i.toNatClampNeg) :: st)) : dG E σ pc xs (.int i :: .ref (G.2.2.1 24) :: st) := by
  obtain ⟨hi, h⟩ := chk_some h
  obtain ⟨p, l', e, R', s, m, args, below, meth, c, A, Q, nL', D, w, th, b, kc, ks⟩ := E
  obtain ⟨hx, hb, hml, hown, hts, hK, hA, hth, hlk, hcs, rfl, rfl, rfl, rfl, rfl, rfl, rfl⟩ := hE
  intro ls H locs h1 h2 h3 h4
  exact va_iald hx hb hK h2 22 21 (n := 192) (f := σ 24) rfl rfl hi hd (kk h ls H locs h1 h2 h3 h4)
theorem dk_as24 {E : dEnv} {l : Launch} {G : dGeo} {cc : ByteArray} {nL pc : Nat} {R : Room} {σ : dS} {xs : List Int32} {st : List Value} (hE : dkOk E l G cc nL R) {i v : Int32} {τ : Type} {x : Option τ} {out : τ} (hd : decode cc pc = .ok (.iastore, 1)) (h : chk i 192 x = some out) (kk : x = some out → dG E (up2 σ 24 i.toNatClampNeg v) (pc + 1) xs st) : dG E σ pc xs (.int v :: .int i :: .ref (G.2.2.1 24) :: st) := by
  obtain ⟨hi, h⟩ := chk_some h
  obtain ⟨p, l', e, R', s, m, args, below, meth, c, A, Q, nL', D, w, th, b, kc, ks⟩ := E
  obtain ⟨hx, hb, hml, hown, hts, hK, hA, hth, hlk, hcs, rfl, rfl, rfl, rfl, rfl, rfl, rfl⟩ := hE
  intro ls H locs h1 h2 h3 h4
  refine va_iast hx hb hK h2 h3 h4 22 21 (n := 192) (f := σ 24) rfl rfl hi hd (fun H1 locs1 g2 g3 g4 => ?_)
  exact kk h ls H1 locs1 h1 g2 g3 g4
theorem dk_gf25 {E : dEnv} {l : Launch} {G : dGeo} {cc : ByteArray} {nL pc : Nat} {R : Room} {σ : dS} {xs : List Int32} {st : List Value} (hE : dkOk E l G cc nL R) (hd : decode cc pc = .ok (.getfield 82, 3)) (kk : dG E σ (pc + 3) xs (.ref (G.2.2.1 25) :: st)) : dG E σ pc xs (.ref G.2.1 :: st) := by
  obtain ⟨p, l', e, R', s, m, args, below, meth, c, A, Q, nL', D, w, th, b, kc, ks⟩ := E
  obtain ⟨hx, hb, hml, hown, hts, hK, hA, hth, hlk, hcs, rfl, rfl, rfl, rfl, rfl, rfl, rfl⟩ := hE
  intro ls H locs h1 h2 h3 h4
  exact va_get (ci := 0) (v := .ref (G.2.2.1 25)) (C := RX0) (T := TX0) (N := 39) hx hb hts in_X0 hown hK h2 0 rfl rfl 25 (by decide) (hts _ q85) (fun _ h9 => h9) rfl hd (kk ls H locs h1 h2 h3 h4)
theorem dk_ld25 {E : dEnv} {l : Launch} {G : dGeo} {cc : ByteArray} {nL pc : Nat} {R : Room} {σ : dS} {xs : List Int32} {st : List Value} (hE : dkOk E l G cc nL R) {i : Int32} {τ : Type} {x : Option τ} {out : τ} (hd : decode cc pc = .ok (.baload, 1)) (h : chk i 8 x = some out) (kk : x = some out → dG E σ (pc + 1) xs (.int (σ 25 i.toNatClampNeg) :: st)) : dG E σ pc xs (.int i :: .ref (G.2.2.1 25) :: st) := by
  obtain ⟨hi, h⟩ := chk_some h
  obtain ⟨p, l', e, R', s, m, args, below, meth, c, A, Q, nL', D, w, th, b, kc, ks⟩ := E
  obtain ⟨hx, hb, hml, hown, hts, hK, hA, hth, hlk, hcs, rfl, rfl, rfl, rfl, rfl, rfl, rfl⟩ := hE
  intro ls H locs h1 h2 h3 h4
  exact va_zald hx hb hK h2 23 22 (n := 8) (f := σ 25) rfl rfl hi hd (kk h ls H locs h1 h2 h3 h4)
theorem dk_as25 {E : dEnv} {l : Launch} {G : dGeo} {cc : ByteArray} {nL pc : Nat} {R : Room} {σ : dS} {xs : List Int32} {st : List Value} (hE : dkOk E l G cc nL R) {i v : Int32} {τ : Type} {x : Option τ} {out : τ} (hd : decode cc pc = .ok (.bastore, 1)) (h : chk i 8 x = some out) (kk : x = some out → dG E (up2 σ 25 i.toNatClampNeg (vp_nar .boolean v)) (pc + 1) xs st) : dG E σ pc xs (.int v :: .int i :: .ref (G.2.2.1 25) :: st) := by
  obtain ⟨hi, h⟩ := chk_some h
  obtain ⟨p, l', e, R', s, m, args, below, meth, c, A, Q, nL', D, w, th, b, kc, ks⟩ := E
  obtain ⟨hx, hb, hml, hown, hts, hK, hA, hth, hlk, hcs, rfl, rfl, rfl, rfl, rfl, rfl, rfl⟩ := hE
  intro ls H locs h1 h2 h3 h4
  refine va_zast hx hb hK h2 h3 h4 23 22 (n := 8) (f := σ 25) rfl rfl hi hd (fun H1 locs1 g2 g3 g4 => ?_)
  exact kk h ls H1 locs1 h1 g2 g3 g4
theorem dk_gf26 {E : dEnv} {l : Launch} {G : dGeo} {cc : ByteArray} {nL pc : Nat} {R : Room} {σ : dS} {xs : List Int32} {st : List Value} (hE : dkOk E l G cc nL R) (hd : decode cc pc = .ok (.getfield 85, 3)) (kk : dG E σ (pc + 3) xs (.ref (G.2.2.1 26) :: st)) : dG E σ pc xs (.ref G.2.1 :: st) := by
  obtain ⟨p, l', e, R', s, m, args, below, meth, c, A, Q, nL', D, w, th, b, kc, ks⟩ := E
  obtain ⟨hx, hb, hml, hown, hts, hK, hA, hth, hlk, hcs, rfl, rfl, rfl, rfl, rfl, rfl, rfl⟩ := hE
  intro ls H locs h1 h2 h3 h4
  exact va_get (ci := 0) (v := .ref (G.2.2.1 26)) (C := RX0) (T := TX0) (N := 39) hx hb hts in_X0 hown hK h2 0 rfl rfl 26 (by decide) (hts _ q86) (fun _ h9 => h9) rfl hd (kk ls H locs h1 h2 h3 h4)
theorem dk_ld26 {E : dEnv} {l : Launch} {G : dGeo} {cc : ByteArray} {nL pc : Nat} {R : Room} {σ : dS} {xs : List Int32} {st : List Value} (hE : dkOk E l G cc nL R) {i : Int32} {τ : Type} {x : Option τ} {out : τ} (hd : decode cc pc = .ok (.iaload, 1)) (h : chk i 24 x = some out) (kk : x = some out → dG E σ (pc + 1) xs (.int (σ 26 i.toNatClampNeg) :: st)) : dG E σ pc xs (.int i :: .ref (G.2.2.1 26) :: st) := by
  obtain ⟨hi, h⟩ := chk_some h
  obtain ⟨p, l', e, R', s, m, args, below, meth, c, A, Q, nL', D, w, th, b, kc, ks⟩ := E
  obtain ⟨hx, hb, hml, hown, hts, hK, hA, hth, hlk, hcs, rfl, rfl, rfl, rfl, rfl, rfl, rfl⟩ := hE
  intro ls H locs h1 h2 h3 h4
  exact va_iald hx hb hK h2 24 23 (n := 24) (f := σ 26) rfl rfl hi hd (kk h ls H locs h1 h2 h3 h4)
theorem dk_as26 {E : dEnv} {l : Launch} {G : dGeo} {cc : ByteArray} {nL pc : Nat} {R : Room} {σ : dS} {xs : List Int32} {st : List Value} (hE : dkOk E l G cc nL R) {i v : Int32} {τ : Type} {x : Option τ} {out : τ} (hd : decode cc pc = .ok (.iastore, 1)) (h : chk i 24 x = some out) (kk : x = some out → dG E (up2 σ 26 i.toNatClampNeg v) (pc + 1) xs st) : dG E σ pc xs (.int v :: .int i :: .ref (G.2.2.1 26) :: st) := by
  obtain ⟨hi, h⟩ := chk_some h
  obtain ⟨p, l', e, R', s, m, args, below, meth, c, A, Q, nL', D, w, th, b, kc, ks⟩ := E
  obtain ⟨hx, hb, hml, hown, hts, hK, hA, hth, hlk, hcs, rfl, rfl, rfl, rfl, rfl, rfl, rfl⟩ := hE
  intro ls H locs h1 h2 h3 h4
  refine va_iast hx hb hK h2 h3 h4 24 23 (n := 24) (f := σ 26) rfl rfl hi hd (fun H1 locs1 g2 g3 g4 => ?_)
  exact kk h ls H1 locs1 h1 g2 g3 g4
theorem dk_gf27 {E : dEnv} {l : Launch} {G : dGeo} {cc : ByteArray} {nL pc : Nat} {R : Room} {σ : dS} {xs : List Int32} {st : List Value} (hE : dkOk E l G cc nL R) (hd : decode cc pc = .ok (.getfield 88, 3)) (kk : dG E σ (pc + 3) xs (.ref (G.2.2.1 27) :: st)) : dG E σ pc xs (.ref G.2.1 :: st) := by
  obtain ⟨p, l', e, R', s, m, args, below, meth, c, A, Q, nL', D, w, th, b, kc, ks⟩ := E
  obtain ⟨hx, hb, hml, hown, hts, hK, hA, hth, hlk, hcs, rfl, rfl, rfl, rfl, rfl, rfl, rfl⟩ := hE
  intro ls H locs h1 h2 h3 h4
  exact va_get (ci := 0) (v := .ref (G.2.2.1 27)) (C := RX0) (T := TX0) (N := 39) hx hb hts in_X0 hown hK h2 0 rfl rfl 27 (by decide) (hts _ q87) (fun _ h9 => h9) rfl hd (kk ls H locs h1 h2 h3 h4)
theorem dk_ld27 {E : dEnv} {l : Launch} {G : dGeo} {cc : ByteArray} {nL pc : Nat} {R : Room} {σ : dS} {xs : List Int32} {st : List Value} (hE : dkOk E l G cc nL R) {i : Int32} {τ : Type} {x : Option τ} {out : τ} (hd : decode cc pc = .ok (.iaload, 1)) (h : chk i 42 x = some out) (kk : x = some out → dG E σ (pc + 1) xs (.int (σ 27 i.toNatClampNeg) :: st)) : dG E σ pc xs (.int i :: .ref (G.2.2.1 27) :: st) := by
  obtain ⟨hi, h⟩ := chk_some h
  obtain ⟨p, l', e, R', s, m, args, below, meth, c, A, Q, nL', D, w, th, b, kc, ks⟩ := E
  obtain ⟨hx, hb, hml, hown, hts, hK, hA, hth, hlk, hcs, rfl, rfl, rfl, rfl, rfl, rfl, rfl⟩ := hE
  intro ls H locs h1 h2 h3 h4
  exact va_iald hx hb hK h2 25 24 (n := 42) (f := σ 27) rfl rfl hi hd (kk h ls H locs h1 h2 h3 h4)
theorem dk_as27 {E : dEnv} {l : Launch} {G : dGeo} {cc : ByteArray} {nL pc : Nat} {R : Room} {σ : dS} {xs : List Int32} {st : List Value} (hE : dkOk E l G cc nL R) {i v : Int32} {τ : Type} {x : Option τ} {out : τ} (hd : decode cc pc = .ok (.iastore, 1)) (h : chk i 42 x = some out) (kk : x = some out → dG E (up2 σ 27 i.toNatClampNeg v) (pc + 1) xs st) : dG E σ pc xs (.int v :: .int i :: .ref (G.2.2.1 27) :: st) := by
  obtain ⟨hi, h⟩ := chk_some h
  obtain ⟨p, l', e, R', s, m, args, below, meth, c, A, Q, nL', D, w, th, b, kc, ks⟩ := E
  obtain ⟨hx, hb, hml, hown, hts, hK, hA, hth, hlk, hcs, rfl, rfl, rfl, rfl, rfl, rfl, rfl⟩ := hE
  intro ls H locs h1 h2 h3 h4
  refine va_iast hx hb hK h2 h3 h4 25 24 (n := 42) (f := σ 27) rfl rfl hi hd (fun H1 locs1 g2 g3 g4 => ?_)
  exact kk h ls H1 locs1 h1 g2 g3 g4
theorem dk_gf28 {E : dEnv} {l : Launch} {G : dGeo} {cc : ByteArray} {nL pc : Nat} {R : Room} {σ : dS} {xs : List Int32} {st : List Value} (hE : dkOk E l G cc nL R) (hd : decode cc pc = .ok (.getfield 91, 3)) (kk : dG E σ (pc + 3) xs (.ref (G.2.2.1 28) :: st)) : dG E σ pc xs (.ref G.2.1 :: st) := by
  obtain ⟨p, l', e, R', s, m, args, below, meth, c, A, Q, nL', D, w, th, b, kc, ks⟩ := E
  obtain ⟨hx, hb, hml, hown, hts, hK, hA, hth, hlk, hcs, rfl, rfl, rfl, rfl, rfl, rfl, rfl⟩ := hE
  intro ls H locs h1 h2 h3 h4
  exact va_get (ci := 0) (v := .ref (G.2.2.1 28)) (C := RX0) (T := TX0) (N := 39) hx hb hts in_X0 hown hK h2 0 rfl rfl 28 (by decide) (hts _ q88) (fun _ h9 => h9) rfl hd (kk ls H locs h1 h2 h3 h4)
theorem dk_ld28 {E : dEnv} {l : Launch} {G : dGeo} {cc : ByteArray} {nL pc : Nat} {R : Room} {σ : dS} {xs : List Int32} {st : List Value} (hE : dkOk E l G cc nL R) {i : Int32} {τ : Type} {x : Option τ} {out : τ} (hd : decode cc pc = .ok (.baload, 1)) (h : chk i 6 x = some out) (kk : x = some out → dG E σ (pc + 1) xs (.int (σ 28 i.toNatClampNeg) :: st)) : dG E σ pc xs (.int i :: .ref (G.2.2.1 28) :: st) := by
  obtain ⟨hi, h⟩ := chk_some h
  obtain ⟨p, l', e, R', s, m, args, below, meth, c, A, Q, nL', D, w, th, b, kc, ks⟩ := E
  obtain ⟨hx, hb, hml, hown, hts, hK, hA, hth, hlk, hcs, rfl, rfl, rfl, rfl, rfl, rfl, rfl⟩ := hE
  intro ls H locs h1 h2 h3 h4
  exact va_bald hx hb hK h2 26 25 (n := 6) (f := σ 28) rfl rfl hi hd (kk h ls H locs h1 h2 h3 h4)
theorem dk_as28 {E : dEnv} {l : Launch} {G : dGeo} {cc : ByteArray} {nL pc : Nat} {R : Room} {σ : dS} {xs : List Int32} {st : List Value} (hE : dkOk E l G cc nL R) {i v : Int32} {τ : Type} {x : Option τ} {out : τ} (hd : decode cc pc = .ok (.bastore, 1)) (h : chk i 6 x = some out) (kk : x = some out → dG E (up2 σ 28 i.toNatClampNeg (vp_nar .byte v)) (pc + 1) xs st) : dG E σ pc xs (.int v :: .int i :: .ref (G.2.2.1 28) :: st) := by
  obtain ⟨hi, h⟩ := chk_some h
  obtain ⟨p, l', e, R', s, m, args, below, meth, c, A, Q, nL', D, w, th, b, kc, ks⟩ := E
  obtain ⟨hx, hb, hml, hown, hts, hK, hA, hth, hlk, hcs, rfl, rfl, rfl, rfl, rfl, rfl, rfl⟩ := hE
  intro ls H locs h1 h2 h3 h4
  refine va_bast hx hb hK h2 h3 h4 26 25 (n := 6) (f := σ 28) rfl rfl hi hd (fun H1 locs1 g2 g3 g4 => ?_)
  exact kk h ls H1 locs1 h1 g2 g3 g4
theorem dk_gf29 {E : dEnv} {l : Launch} {G : dGeo} {cc : ByteArray} {nL pc : Nat} {R : Room} {σ : dS} {xs : List Int32} {st : List Value} (hE : dkOk E l G cc nL R) (hd : decode cc pc = .ok (.getfield 94, 3)) (kk : dG E σ (pc + 3) xs (.ref (G.2.2.1 29) :: st)) : dG E σ pc xs (.ref G.2.1 :: st) := by
  obtain ⟨p, l', e, R', s, m, args, below, meth, c, A, Q, nL', D, w, th, b, kc, ks⟩ := E
  obtain ⟨hx, hb, hml, hown, hts, hK, hA, hth, hlk, hcs, rfl, rfl, rfl, rfl, rfl, rfl, rfl⟩ := hE
  intro ls H locs h1 h2 h3 h4
  exact va_get (ci := 0) (v := .ref (G.2.2.1 29)) (C := RX0) (T := TX0) (N := 39) hx hb hts in_X0 hown hK h2 0 rfl rfl 29 (by decide) (hts _ q89) (fun _ h9 => h9) rfl hd (kk ls H locs h1 h2 h3 h4)
theorem dk_ld29 {E : dEnv} {l : Launch} {G : dGeo} {cc : ByteArray} {nL pc : Nat} {R : Room} {σ : dS} {xs : List Int32} {st : List Value} (hE : dkOk E l G cc nL R) {i : Int32} {τ : Type} {x : Option τ} {out : τ} (hd : decode cc pc = .ok (.baload, 1)) (h : chk i 6 x = some out) (kk : x = some out → dG E σ (pc + 1) xs (.int (σ 29 i.toNatClampNeg) :: st)) : dG E σ pc xs (.int i :: .ref (G.2.2.1 29) :: st) := by
  obtain ⟨hi, h⟩ := chk_some h
  obtain ⟨p, l', e, R', s, m, args, below, meth, c, A, Q, nL', D, w, th, b, kc, ks⟩ := E
  obtain ⟨hx, hb, hml, hown, hts, hK, hA, hth, hlk, hcs, rfl, rfl, rfl, rfl, rfl, rfl, rfl⟩ := hE
  intro ls H locs h1 h2 h3 h4
  exact va_bald hx hb hK h2 27 26 (n := 6) (f := σ 29) rfl rfl hi hd (kk h ls H locs h1 h2 h3 h4)
theorem dk_as29 {E : dEnv} {l : Launch} {G : dGeo} {cc : ByteArray} {nL pc : Nat} {R : Room} {σ : dS} {xs : List Int32} {st : List Value} (hE : dkOk E l G cc nL R) {i v : Int32} {τ : Type} {x : Option τ} {out : τ} (hd : decode cc pc = .ok (.bastore, 1)) (h : chk i 6 x = some out) (kk : x = some out → dG E (up2 σ 29 i.toNatClampNeg (vp_nar .byte v)) (pc + 1) xs st) : dG E σ pc xs (.int v :: .int i :: .ref (G.2.2.1 29) :: st) := by
  obtain ⟨hi, h⟩ := chk_some h
  obtain ⟨p, l', e, R', s, m, args, below, meth, c, A, Q, nL', D, w, th, b, kc, ks⟩ := E
  obtain ⟨hx, hb, hml, hown, hts, hK, hA, hth, hlk, hcs, rfl, rfl, rfl, rfl, rfl, rfl, rfl⟩ := hE
  intro ls H locs h1 h2 h3 h4
  refine va_bast hx hb hK h2 h3 h4 27 26 (n := 6) (f := σ 29) rfl rfl hi hd (fun H1 locs1 g2 g3 g4 => ?_)
  exact kk h ls H1 locs1 h1 g2 g3 g4
theorem dk_gf30 {E : dEnv} {l : Launch} {G : dGeo} {cc : ByteArray} {nL pc : Nat} {R : Room} {σ : dS} {xs : List Int32} {st : List Value} (hE : dkOk E l G cc nL R) (hd : decode cc pc = .ok (.getfield 97, 3)) (kk : dG E σ (pc + 3) xs (.ref (G.2.2.1 30) :: st)) : dG E σ pc xs (.ref G.2.1 :: st) := by
  obtain ⟨p, l', e, R', s, m, args, below, meth, c, A, Q, nL', D, w, th, b, kc, ks⟩ := E
  obtain ⟨hx, hb, hml, hown, hts, hK, hA, hth, hlk, hcs, rfl, rfl, rfl, rfl, rfl, rfl, rfl⟩ := hE
  intro ls H locs h1 h2 h3 h4
  exact va_get (ci := 0) (v := .ref (G.2.2.1 30)) (C := RX0) (T := TX0) (N := 39) hx hb hts in_X0 hown hK h2 0 rfl rfl 30 (by decide) (hts _ q90) (fun _ h9 => h9) rfl hd (kk ls H locs h1 h2 h3 h4)
theorem dk_ld30 {E : dEnv} {l : Launch} {G : dGeo} {cc : ByteArray} {nL pc : Nat} {R : Room} {σ : dS} {xs : List Int32} {st : List Value} (hE : dkOk E l G cc nL R) {i : Int32} {τ : Type} {x : Option τ} {out : τ} (hd : decode cc pc = .ok (.baload, 1)) (h : chk i 6 x = some out) (kk : x = some out → dG E σ (pc + 1) xs (.int (σ 30 i.toNatClampNeg) :: st)) : dG E σ pc xs (.int i :: .ref (G.2.2.1 30) :: st) := by
  obtain ⟨hi, h⟩ := chk_some h
  obtain ⟨p, l', e, R', s, m, args, below, meth, c, A, Q, nL', D, w, th, b, kc, ks⟩ := E
  obtain ⟨hx, hb, hml, hown, hts, hK, hA, hth, hlk, hcs, rfl, rfl, rfl, rfl, rfl, rfl, rfl⟩ := hE
  intro ls H locs h1 h2 h3 h4
  exact va_bald hx hb hK h2 28 27 (n := 6) (f := σ 30) rfl rfl hi hd (kk h ls H locs h1 h2 h3 h4)
theorem dk_as30 {E : dEnv} {l : Launch} {G : dGeo} {cc : ByteArray} {nL pc : Nat} {R : Room} {σ : dS} {xs : List Int32} {st : List Value} (hE : dkOk E l G cc nL R) {i v : Int32} {τ : Type} {x : Option τ} {out : τ} (hd : decode cc pc = .ok (.bastore, 1)) (h : chk i 6 x = some out) (kk : x = some out → dG E (up2 σ 30 i.toNatClampNeg (vp_nar .byte v)) (pc + 1) xs st) : dG E σ pc xs (.int v :: .int i :: .ref (G.2.2.1 30) :: st) := by
  obtain ⟨hi, h⟩ := chk_some h
  obtain ⟨p, l', e, R', s, m, args, below, meth, c, A, Q, nL', D, w, th, b, kc, ks⟩ := E
  obtain ⟨hx, hb, hml, hown, hts, hK, hA, hth, hlk, hcs, rfl, rfl, rfl, rfl, rfl, rfl, rfl⟩ := hE
  intro ls H locs h1 h2 h3 h4
  refine va_bast hx hb hK h2 h3 h4 28 27 (n := 6) (f := σ 30) rfl rfl hi hd (fun H1 locs1 g2 g3 g4 => ?_)
  exact kk h ls H1 locs1 h1 g2 g3 g4
theorem dk_gf31 {E : dEnv} {l : Launch} {G : dGeo} {cc : ByteArray} {nL pc : Nat} {R : Room} {σ : dS} {xs : List Int32} {st : List Value} (hE : dkOk E l G cc nL R) (hd : decode cc pc = .ok (.getfield 100, 3)) (kk : dG E σ (pc + 3) xs (.ref (G.2.2.1 31) :: st)) : dG E σ pc xs (.ref G.2.1 :: st) := by
  obtain ⟨p, l', e, R', s, m, args, below, meth, c, A, Q, nL', D, w, th, b, kc, ks⟩ := E
  obtain ⟨hx, hb, hml, hown, hts, hK, hA, hth, hlk, hcs, rfl, rfl, rfl, rfl, rfl, rfl, rfl⟩ := hE
  intro ls H locs h1 h2 h3 h4
  exact va_get (ci := 0) (v := .ref (G.2.2.1 31)) (C := RX0) (T := TX0) (N := 39) hx hb hts in_X0 hown hK h2 0 rfl rfl 31 (by decide) (hts _ q91) (fun _ h9 => h9) rfl hd (kk ls H locs h1 h2 h3 h4)
theorem dk_ld31 {E : dEnv} {l : Launch} {G : dGeo} {cc : ByteArray} {nL pc : Nat} {R : Room} {σ : dS} {xs : List Int32} {st : List Value} (hE : dkOk E l G cc nL R) {i : Int32} {τ : Type} {x : Option τ} {out : τ} (hd : decode cc pc = .ok (.baload, 1)) (h : chk i 6 x = some out) (kk : x = some out → dG E σ (pc + 1) xs (.int (σ 31 i.toNatClampNeg) :: st)) : dG E σ pc xs (.int i :: .ref (G.2.2.1 31) :: st) := by
  obtain ⟨hi, h⟩ := chk_some h
  obtain ⟨p, l', e, R', s, m, args, below, meth, c, A, Q, nL', D, w, th, b, kc, ks⟩ := E
  obtain ⟨hx, hb, hml, hown, hts, hK, hA, hth, hlk, hcs, rfl, rfl, rfl, rfl, rfl, rfl, rfl⟩ := hE
  intro ls H locs h1 h2 h3 h4
  exact va_bald hx hb hK h2 29 28 (n := 6) (f := σ 31) rfl rfl hi hd (kk h ls H locs h1 h2 h3 h4)
theorem dk_as31 {E : dEnv} {l : Launch} {G : dGeo} {cc : ByteArray} {nL pc : Nat} {R : Room} {σ : dS} {xs : List Int32} {st : List Value} (hE : dkOk E l G cc nL R) {i v : Int32} {τ : Type} {x : Option τ} {out : τ} (hd : decode cc pc = .ok (.bastore, 1)) (h : chk i 6 x = some out) (kk : x = some out → dG E (up2 σ 31 i.toNatClampNeg (vp_nar .byte v)) (pc + 1) xs st) : dG E σ pc xs (.int v :: .int i :: .ref (G.2.2.1 31) :: st) := by
  obtain ⟨hi, h⟩ := chk_some h
  obtain ⟨p, l', e, R', s, m, args, below, meth, c, A, Q, nL', D, w, th, b, kc, ks⟩ := E
  obtain ⟨hx, hb, hml, hown, hts, hK, hA, hth, hlk, hcs, rfl, rfl, rfl, rfl, rfl, rfl, rfl⟩ := hE
  intro ls H locs h1 h2 h3 h4
  refine va_bast hx hb hK h2 h3 h4 29 28 (n := 6) (f := σ 31) rfl rfl hi hd (fun H1 locs1 g2 g3 g4 => ?_)
  exact kk h ls H1 locs1 h1 g2 g3 g4
theorem dk_gf32 {E : dEnv} {l : Launch} {G : dGeo} {cc : ByteArray} {nL pc : Nat} {R : Room} {σ : dS} {xs : List Int32} {st : List Value} (hE : dkOk E l G cc nL R) (hd : decode cc pc = .ok (.getfield 103, 3)) (kk : dG E σ (pc + 3) xs (.ref (G.2.2.1 32) :: st)) : dG E σ pc xs (.ref G.2.1 :: st) := by
  obtain ⟨p, l', e, R', s, m, args, below, meth, c, A, Q, nL', D, w, th, b, kc, ks⟩ := E
  obtain ⟨hx, hb, hml, hown, hts, hK, hA, hth, hlk, hcs, rfl, rfl, rfl, rfl, rfl, rfl, rfl⟩ := hE
  intro ls H locs h1 h2 h3 h4
  exact va_get (ci := 0) (v := .ref (G.2.2.1 32)) (C := RX0) (T := TX0) (N := 39) hx hb hts in_X0 hown hK h2 0 rfl rfl 32 (by decide) (hts _ q92) (fun _ h9 => h9) rfl hd (kk ls H locs h1 h2 h3 h4)
theorem dk_ld32 {E : dEnv} {l : Launch} {G : dGeo} {cc : ByteArray} {nL pc : Nat} {R : Room} {σ : dS} {xs : List Int32} {st : List Value} (hE : dkOk E l G cc nL R) {i : Int32} {τ : Type} {x : Option τ} {out : τ} (hd : decode cc pc = .ok (.iaload, 1)) (h : chk i 6 x = some out) (kk : x = some out → dG E σ (pc + 1) xs (.int (σ 32 i.toNatClampNeg) :: st)) : dG E σ pc xs (.int i :: .ref (G.2.2.1 32) :: st) := by
  obtain ⟨hi, h⟩ := chk_some h
  obtain ⟨p, l', e, R', s, m, args, below, meth, c, A, Q, nL', D, w, th, b, kc, ks⟩ := E
  obtain ⟨hx, hb, hml, hown, hts, hK, hA, hth, hlk, hcs, rfl, rfl, rfl, rfl, rfl, rfl, rfl⟩ := hE
  intro ls H locs h1 h2 h3 h4
  exact va_iald hx hb hK h2 30 29 (n := 6) (f := σ 32) rfl rfl hi hd (kk h ls H locs h1 h2 h3 h4)
theorem dk_as32 {E : dEnv} {l : Launch} {G : dGeo} {cc : ByteArray} {nL pc : Nat} {R : Room} {σ : dS} {xs : List Int32} {st : List Value} (hE : dkOk E l G cc nL R) {i v : Int32} {τ : Type} {x : Option τ} {out : τ} (hd : decode cc pc = .ok (.iastore, 1)) (h : chk i 6 x = some out) (kk : x = some out → dG E (up2 σ 32 i.toNatClampNeg v) (pc + 1) xs st) : dG E σ pc xs (.int v :: .int i :: .ref (G.2.2.1 32) :: st) := by
  obtain ⟨hi, h⟩ := chk_some h
  obtain ⟨p, l', e, R', s, m, args, below, meth, c, A, Q, nL', D, w, th, b, kc, ks⟩ := E
  obtain ⟨hx, hb, hml, hown, hts, hK, hA, hth, hlk, hcs, rfl, rfl, rfl, rfl, rfl, rfl, rfl⟩ := hE
  intro ls H locs h1 h2 h3 h4
  refine va_iast hx hb hK h2 h3 h4 30 29 (n := 6) (f := σ 32) rfl rfl hi hd (fun H1 locs1 g2 g3 g4 => ?_)
  exact kk h ls H1 locs1 h1 g2 g3 g4
theorem dk_gf33 {E : dEnv} {l : Launch} {G : dGeo} {cc : ByteArray} {nL pc : Nat} {R : Room} {σ : dS} {xs : List Int32} {st : List Value} (hE : dkOk E l G cc nL R) (hd : decode cc pc = .ok (.getfield 122, 3)) (kk : dG E σ (pc + 3) xs (.int (σ 33 0) :: st)) : dG E σ pc xs (.ref G.2.1 :: st) := by
  obtain ⟨p, l', e, R', s, m, args, below, meth, c, A, Q, nL', D, w, th, b, kc, ks⟩ := E
  obtain ⟨hx, hb, hml, hown, hts, hK, hA, hth, hlk, hcs, rfl, rfl, rfl, rfl, rfl, rfl, rfl⟩ := hE
  intro ls H locs h1 h2 h3 h4
  exact va_get (ci := 0) (v := .int (σ 33 0)) (C := RX0) (T := TX0) (N := 39) hx hb hts in_X0 hown hK h2 0 rfl rfl 33 (by decide) (hts _ q93) (fun _ h9 => h9) rfl hd (kk ls H locs h1 h2 h3 h4)
theorem dk_pf33 {E : dEnv} {l : Launch} {G : dGeo} {cc : ByteArray} {nL pc : Nat} {R : Room} {σ : dS} {xs : List Int32} {st : List Value} (hE : dkOk E l G cc nL R) {v : Int32} (hd : decode cc pc = .ok (.putfield 122, 3)) (hz : narrow .boolean (.int v) = .int v) (hf : fits .boolean (.int v) = true) (kk : dG E (up2 σ 33 0 v) (pc + 3) xs st) : dG E σ pc xs (.int v :: .ref G.2.1 :: st) := by
  obtain ⟨p, l', e, R', s, m, args, below, meth, c, A, Q, nL', D, w, th, b, kc, ks⟩ := E
  obtain ⟨hx, hb, hml, hown, hts, hK, hA, hth, hlk, hcs, rfl, rfl, rfl, rfl, rfl, rfl, rfl⟩ := hE
  intro ls H locs h1 h2 h3 h4
  refine va_put (ci := 0) (v := .int v) (ty := .boolean) (C := RX0) (T := TX0) (N := 39) hx hb hts in_X0 tyX0 tyX0_ok nmX0 hown hK h2 h3 h4 0 rfl rfl 33 (by decide) (hts _ q93) (fun _ h9 => h9) rfl (by decide +kernel) hz hf (Nat.le_of_ble_eq_true rfl) hd (fun H1 locs1 g2 g3 g4 => ?_)
  exact kk ls H1 locs1 h1 g2 g3 g4
theorem dk_gf34 {E : dEnv} {l : Launch} {G : dGeo} {cc : ByteArray} {nL pc : Nat} {R : Room} {σ : dS} {xs : List Int32} {st : List Value} (hE : dkOk E l G cc nL R) (hd : decode cc pc = .ok (.getfield 106, 3)) (kk : dG E σ (pc + 3) xs (.ref (G.2.2.1 34) :: st)) : dG E σ pc xs (.ref G.2.1 :: st) := by
  obtain ⟨p, l', e, R', s, m, args, below, meth, c, A, Q, nL', D, w, th, b, kc, ks⟩ := E
  obtain ⟨hx, hb, hml, hown, hts, hK, hA, hth, hlk, hcs, rfl, rfl, rfl, rfl, rfl, rfl, rfl⟩ := hE
  intro ls H locs h1 h2 h3 h4
  exact va_get (ci := 0) (v := .ref (G.2.2.1 34)) (C := RX0) (T := TX0) (N := 39) hx hb hts in_X0 hown hK h2 0 rfl rfl 34 (by decide) (hts _ q94) (fun _ h9 => h9) rfl hd (kk ls H locs h1 h2 h3 h4)
theorem dk_ld34 {E : dEnv} {l : Launch} {G : dGeo} {cc : ByteArray} {nL pc : Nat} {R : Room} {σ : dS} {xs : List Int32} {st : List Value} (hE : dkOk E l G cc nL R) {i : Int32} {τ : Type} {x : Option τ} {out : τ} (hd : decode cc pc = .ok (.baload, 1)) (h : chk i 24 x = some out) (kk : x = some out → dG E σ (pc + 1) xs (.int (σ 34 i.toNatClampNeg) :: st)) : dG E σ pc xs (.int i :: .ref (G.2.2.1 34) :: st) := by
  obtain ⟨hi, h⟩ := chk_some h
  obtain ⟨p, l', e, R', s, m, args, below, meth, c, A, Q, nL', D, w, th, b, kc, ks⟩ := E
  obtain ⟨hx, hb, hml, hown, hts, hK, hA, hth, hlk, hcs, rfl, rfl, rfl, rfl, rfl, rfl, rfl⟩ := hE
  intro ls H locs h1 h2 h3 h4
  exact va_bald hx hb hK h2 31 30 (n := 24) (f := σ 34) rfl rfl hi hd (kk h ls H locs h1 h2 h3 h4)
theorem dk_as34 {E : dEnv} {l : Launch} {G : dGeo} {cc : ByteArray} {nL pc : Nat} {R : Room} {σ : dS} {xs : List Int32} {st : List Value} (hE : dkOk E l G cc nL R) {i v : Int32} {τ : Type} {x : Option τ} {out : τ} (hd : decode cc pc = .ok (.bastore, 1)) (h : chk i 24 x = some out) (kk : x = some out → dG E (up2 σ 34 i.toNatClampNeg (vp_nar .byte v)) (pc + 1) xs st) : dG E σ pc xs (.int v :: .int i :: .ref (G.2.2.1 34) :: st) := by
  obtain ⟨hi, h⟩ := chk_some h
  obtain ⟨p, l', e, R', s, m, args, below, meth, c, A, Q, nL', D, w, th, b, kc, ks⟩ := E
  obtain ⟨hx, hb, hml, hown, hts, hK, hA, hth, hlk, hcs, rfl, rfl, rfl, rfl, rfl, rfl, rfl⟩ := hE
  intro ls H locs h1 h2 h3 h4
  refine va_bast hx hb hK h2 h3 h4 31 30 (n := 24) (f := σ 34) rfl rfl hi hd (fun H1 locs1 g2 g3 g4 => ?_)
  exact kk h ls H1 locs1 h1 g2 g3 g4
theorem dk_gf35 {E : dEnv} {l : Launch} {G : dGeo} {cc : ByteArray} {nL pc : Nat} {R : Room} {σ : dS} {xs : List Int32} {st : List Value} (hE : dkOk E l G cc nL R) (hd : decode cc pc = .ok (.getfield 109, 3)) (kk : dG E σ (pc + 3) xs (.ref (G.2.2.1 35) :: st)) : dG E σ pc xs (.ref G.2.1 :: st) := by
  obtain ⟨p, l', e, R', s, m, args, below, meth, c, A, Q, nL', D, w, th, b, kc, ks⟩ := E
  obtain ⟨hx, hb, hml, hown, hts, hK, hA, hth, hlk, hcs, rfl, rfl, rfl, rfl, rfl, rfl, rfl⟩ := hE
  intro ls H locs h1 h2 h3 h4
  exact va_get (ci := 0) (v := .ref (G.2.2.1 35)) (C := RX0) (T := TX0) (N := 39) hx hb hts in_X0 hown hK h2 0 rfl rfl 35 (by decide) (hts _ q95) (fun _ h9 => h9) rfl hd (kk ls H locs h1 h2 h3 h4)
theorem dk_ld35 {E : dEnv} {l : Launch} {G : dGeo} {cc : ByteArray} {nL pc : Nat} {R : Room} {σ : dS} {xs : List Int32} {st : List Value} (hE : dkOk E l G cc nL R) {i : Int32} {τ : Type} {x : Option τ} {out : τ} (hd : decode cc pc = .ok (.baload, 1)) (h : chk i 2500 x = some out) (kk : x = some out → dG E σ (pc + 1) xs (.int (σ 35 i.toNatClampNeg) :: st)) : dG E σ pc xs (.int i :: .ref (G.2.2.1 35) :: st) := by
  obtain ⟨hi, h⟩ := chk_some h
  obtain ⟨p, l', e, R', s, m, args, below, meth, c, A, Q, nL', D, w, th, b, kc, ks⟩ := E
  obtain ⟨hx, hb, hml, hown, hts, hK, hA, hth, hlk, hcs, rfl, rfl, rfl, rfl, rfl, rfl, rfl⟩ := hE
  intro ls H locs h1 h2 h3 h4
  exact va_bald hx hb hK h2 32 31 (n := 2500) (f := σ 35) rfl rfl hi hd (kk h ls H locs h1 h2 h3 h4)
theorem dk_as35 {E : dEnv} {l : Launch} {G : dGeo} {cc : ByteArray} {nL pc : Nat} {R : Room} {σ : dS} {xs : List Int32} {st : List Value} (hE : dkOk E l G cc nL R) {i v : Int32} {τ : Type} {x : Option τ} {out : τ} (hd : decode cc pc = .ok (.bastore, 1)) (h : chk i 2500 x = some out) (kk : x = some out → dG E (up2 σ 35 i.toNatClampNeg (vp_nar .byte v)) (pc + 1) xs st) : dG E σ pc xs (.int v :: .int i :: .ref (G.2.2.1 35) :: st) := by
  obtain ⟨hi, h⟩ := chk_some h
  obtain ⟨p, l', e, R', s, m, args, below, meth, c, A, Q, nL', D, w, th, b, kc, ks⟩ := E
  obtain ⟨hx, hb, hml, hown, hts, hK, hA, hth, hlk, hcs, rfl, rfl, rfl, rfl, rfl, rfl, rfl⟩ := hE
  intro ls H locs h1 h2 h3 h4
  refine va_bast hx hb hK h2 h3 h4 32 31 (n := 2500) (f := σ 35) rfl rfl hi hd (fun H1 locs1 g2 g3 g4 => ?_)
  exact kk h ls H1 locs1 h1 g2 g3 g4
theorem dk_gf36 {E : dEnv} {l : Launch} {G : dGeo} {cc : ByteArray} {nL pc : Nat} {R : Room} {σ : dS} {xs : List Int32} {st : List Value} (hE : dkOk E l G cc nL R) (hd : decode cc pc = .ok (.getfield 112, 3)) (kk : dG E σ (pc + 3) xs (.ref (G.2.2.1 36) :: st)) : dG E σ pc xs (.ref G.2.1 :: st) := by
  obtain ⟨p, l', e, R', s, m, args, below, meth, c, A, Q, nL', D, w, th, b, kc, ks⟩ := E
  obtain ⟨hx, hb, hml, hown, hts, hK, hA, hth, hlk, hcs, rfl, rfl, rfl, rfl, rfl, rfl, rfl⟩ := hE
  intro ls H locs h1 h2 h3 h4
  exact va_get (ci := 0) (v := .ref (G.2.2.1 36)) (C := RX0) (T := TX0) (N := 39) hx hb hts in_X0 hown hK h2 0 rfl rfl 36 (by decide) (hts _ q96) (fun _ h9 => h9) rfl hd (kk ls H locs h1 h2 h3 h4)
theorem dk_ld36 {E : dEnv} {l : Launch} {G : dGeo} {cc : ByteArray} {nL pc : Nat} {R : Room} {σ : dS} {xs : List Int32} {st : List Value} (hE : dkOk E l G cc nL R) {i : Int32} {τ : Type} {x : Option τ} {out : τ} (hd : decode cc pc = .ok (.baload, 1)) (h : chk i 2500 x = some out) (kk : x = some out → dG E σ (pc + 1) xs (.int (σ 36 i.toNatClampNeg) :: st)) : dG E σ pc xs (.int i :: .ref (G.2.2.1 36) :: st) := by
  obtain ⟨hi, h⟩ := chk_some h
  obtain ⟨p, l', e, R', s, m, args, below, meth, c, A, Q, nL', D, w, th, b, kc, ks⟩ := E
  obtain ⟨hx, hb, hml, hown, hts, hK, hA, hth, hlk, hcs, rfl, rfl, rfl, rfl, rfl, rfl, rfl⟩ := hE
  intro ls H locs h1 h2 h3 h4
  exact va_bald hx hb hK h2 33 32 (n := 2500) (f := σ 36) rfl rfl hi hd (kk h ls H locs h1 h2 h3 h4)
theorem dk_as36 {E : dEnv} {l : Launch} {G : dGeo} {cc : ByteArray} {nL pc : Nat} {R : Room} {σ : dS} {xs : List Int32} {st : List Value} (hE : dkOk E l G cc nL R) {i v : Int32} {τ : Type} {x : Option τ} {out : τ} (hd : decode cc pc = .ok (.bastore, 1)) (h : chk i 2500 x = some out) (kk : x = some out → dG E (up2 σ 36 i.toNatClampNeg (vp_nar .byte v)) (pc + 1) xs st) : dG E σ pc xs (.int v :: .int i :: .ref (G.2.2.1 36) :: st) := by
  obtain ⟨hi, h⟩ := chk_some h
  obtain ⟨p, l', e, R', s, m, args, below, meth, c, A, Q, nL', D, w, th, b, kc, ks⟩ := E
  obtain ⟨hx, hb, hml, hown, hts, hK, hA, hth, hlk, hcs, rfl, rfl, rfl, rfl, rfl, rfl, rfl⟩ := hE
  intro ls H locs h1 h2 h3 h4
  refine va_bast hx hb hK h2 h3 h4 33 32 (n := 2500) (f := σ 36) rfl rfl hi hd (fun H1 locs1 g2 g3 g4 => ?_)
  exact kk h ls H1 locs1 h1 g2 g3 g4
theorem dk_gf37 {E : dEnv} {l : Launch} {G : dGeo} {cc : ByteArray} {nL pc : Nat} {R : Room} {σ : dS} {xs : List Int32} {st : List Value} (hE : dkOk E l G cc nL R) (hd : decode cc pc = .ok (.getfield 115, 3)) (kk : dG E σ (pc + 3) xs (.ref (G.2.2.1 37) :: st)) : dG E σ pc xs (.ref G.2.1 :: st) := by
  obtain ⟨p, l', e, R', s, m, args, below, meth, c, A, Q, nL', D, w, th, b, kc, ks⟩ := E
  obtain ⟨hx, hb, hml, hown, hts, hK, hA, hth, hlk, hcs, rfl, rfl, rfl, rfl, rfl, rfl, rfl⟩ := hE
  intro ls H locs h1 h2 h3 h4
  exact va_get (ci := 0) (v := .ref (G.2.2.1 37)) (C := RX0) (T := TX0) (N := 39) hx hb hts in_X0 hown hK h2 0 rfl rfl 37 (by decide) (hts _ q97) (fun _ h9 => h9) rfl hd (kk ls H locs h1 h2 h3 h4)
theorem dk_ld37 {E : dEnv} {l : Launch} {G : dGeo} {cc : ByteArray} {nL pc : Nat} {R : Room} {σ : dS} {xs : List Int32} {st : List Value} (hE : dkOk E l G cc nL R) {i : Int32} {τ : Type} {x : Option τ} {out : τ} (hd : decode cc pc = .ok (.iaload, 1)) (h : chk i 100 x = some out) (kk : x = some out → dG E σ (pc + 1) xs (.int (σ 37 i.toNatClampNeg) :: st)) : dG E σ pc xs (.int i :: .ref (G.2.2.1 37) :: st) := by
  obtain ⟨hi, h⟩ := chk_some h
  obtain ⟨p, l', e, R', s, m, args, below, meth, c, A, Q, nL', D, w, th, b, kc, ks⟩ := E
  obtain ⟨hx, hb, hml, hown, hts, hK, hA, hth, hlk, hcs, rfl, rfl, rfl, rfl, rfl, rfl, rfl⟩ := hE
  intro ls H locs h1 h2 h3 h4
  exact va_iald hx hb hK h2 34 33 (n := 100) (f := σ 37) rfl rfl hi hd (kk h ls H locs h1 h2 h3 h4)
theorem dk_as37 {E : dEnv} {l : Launch} {G : dGeo} {cc : ByteArray} {nL pc : Nat} {R : Room} {σ : dS} {xs : List Int32} {st : List Value} (hE : dkOk E l G cc nL R) {i v : Int32} {τ : Type} {x : Option τ} {out : τ} (hd : decode cc pc = .ok (.iastore, 1)) (h : chk i 100 x = some out) (kk : x = some out → dG E (up2 σ 37 i.toNatClampNeg v) (pc + 1) xs st) : dG E σ pc xs (.int v :: .int i :: .ref (G.2.2.1 37) :: st) := by
  obtain ⟨hi, h⟩ := chk_some h
  obtain ⟨p, l', e, R', s, m, args, below, meth, c, A, Q, nL', D, w, th, b, kc, ks⟩ := E
  obtain ⟨hx, hb, hml, hown, hts, hK, hA, hth, hlk, hcs, rfl, rfl, rfl, rfl, rfl, rfl, rfl⟩ := hE
  intro ls H locs h1 h2 h3 h4
  refine va_iast hx hb hK h2 h3 h4 34 33 (n := 100) (f := σ 37) rfl rfl hi hd (fun H1 locs1 g2 g3 g4 => ?_)
  exact kk h ls H1 locs1 h1 g2 g3 g4
theorem dk_gf38 {E : dEnv} {l : Launch} {G : dGeo} {cc : ByteArray} {nL pc : Nat} {R : Room} {σ : dS} {xs : List Int32} {st : List Value} (hE : dkOk E l G cc nL R) (hd : decode cc pc = .ok (.getfield 230, 3)) (kk : dG E σ (pc + 3) xs (.int (σ 38 0) :: st)) : dG E σ pc xs (.ref G.2.1 :: st) := by
  obtain ⟨p, l', e, R', s, m, args, below, meth, c, A, Q, nL', D, w, th, b, kc, ks⟩ := E
  obtain ⟨hx, hb, hml, hown, hts, hK, hA, hth, hlk, hcs, rfl, rfl, rfl, rfl, rfl, rfl, rfl⟩ := hE
  intro ls H locs h1 h2 h3 h4
  exact va_get (ci := 0) (v := .int (σ 38 0)) (C := RX0) (T := TX0) (N := 39) hx hb hts in_X0 hown hK h2 0 rfl rfl 38 (by decide) (hts _ q98) (fun _ h9 => h9) rfl hd (kk ls H locs h1 h2 h3 h4)
theorem dk_pf38 {E : dEnv} {l : Launch} {G : dGeo} {cc : ByteArray} {nL pc : Nat} {R : Room} {σ : dS} {xs : List Int32} {st : List Value} (hE : dkOk E l G cc nL R) {v : Int32} (hd : decode cc pc = .ok (.putfield 230, 3)) (kk : dG E (up2 σ 38 0 v) (pc + 3) xs st) : dG E σ pc xs (.int v :: .ref G.2.1 :: st) := by
  obtain ⟨p, l', e, R', s, m, args, below, meth, c, A, Q, nL', D, w, th, b, kc, ks⟩ := E
  obtain ⟨hx, hb, hml, hown, hts, hK, hA, hth, hlk, hcs, rfl, rfl, rfl, rfl, rfl, rfl, rfl⟩ := hE
  intro ls H locs h1 h2 h3 h4
  refine va_put (ci := 0) (v := .int v) (ty := .int) (C := RX0) (T := TX0) (N := 39) hx hb hts in_X0 tyX0 tyX0_ok nmX0 hown hK h2 h3 h4 0 rfl rfl 38 (by decide) (hts _ q98) (fun _ h9 => h9) rfl (by decide +kernel) rfl rfl (Nat.le_of_ble_eq_true rfl) hd (fun H1 locs1 g2 g3 g4 => ?_)
  exact kk ls H1 locs1 h1 g2 g3 g4
def md_f (G : dGeo) (σ : dS) : List Value := [.ref (G.2.2.1 0), .ref (G.2.2.1 1), .ref (G.2.2.1 2), .ref (G.2.2.1 3), .ref (G.2.2.1 4), .int (σ 5 0), .ref (G.2.2.1 6), .ref (G.2.2.1 7), .ref (G.2.2.1 8), .ref (G.2.2.1 9), .ref (G.2.2.1 10), .ref (G.2.2.1 11), .ref (G.2.2.1 12), .ref (G.2.2.1 13), .ref (G.2.2.1 14), .int (σ 15 0), .int (σ 16 0), .ref (G.2.2.1 17), .ref (G.2.2.1 18), .ref (G.2.2.1 19), .ref (G.2.2.1 20), .ref (G.2.2.1 21), .ref (G.2.2.1 22), .ref (G.2.2.1 23), .ref (G.2.2.1 24), .int (σ 25 0)]
def md_w (G : dGeo) (σ : dS) : va_W := [(G.2.1, .inr (1, md_f G σ)), (G.2.2.1 0, .inl (G.2.2.2 0, 24, .inl (σ 0))), (G.2.2.1 1, .inl (G.2.2.2 1, 24, .inl (σ 1))), (G.2.2.1 2, .inl (G.2.2.2 2, 24, .inl (σ 2))), (G.2.2.1 3, .inl (G.2.2.2 3, 24, .inl (σ 3))), (G.2.2.1 4, .inl (G.2.2.2 4, 24, .inl (σ 4))), (G.2.2.1 6, .inl (G.2.2.2 6, 360, .inl (σ 6))), (G.2.2.1 7, .inl (G.2.2.2 7, 360, .inl (σ 7))), (G.2.2.1 8, .inl (G.2.2.2 8, 9, .inl (σ 8))), (G.2.2.1 9, .inl (G.2.2.2 9, 7680, .inl (σ 9))), (G.2.2.1 10, .inl (G.2.2.2 10, 8, .inl (σ 10))), (G.2.2.1 11, .inl (G.2.2.2 11, 48, .inl (σ 11))), (G.2.2.1 12, .inl (G.2.2.2 12, 48, .inl (σ 12))), (G.2.2.1 13, .inl (G.2.2.2 13, 48, .inl (σ 13))), (G.2.2.1 14, .inl (G.2.2.2 14, 24, .inl (σ 14))), (G.2.2.1 17, .inl (G.2.2.2 17, 6, .inl (σ 17))), (G.2.2.1 18, .inl (G.2.2.2 18, 6, .inl (σ 18))), (G.2.2.1 19, .inl (G.2.2.2 19, 6, .inl (σ 19))), (G.2.2.1 20, .inl (G.2.2.2 20, 6, .inl (σ 20))), (G.2.2.1 21, .inl (G.2.2.2 21, 6, .inl (σ 21))), (G.2.2.1 22, .inl (G.2.2.2 22, 3000, .inl (σ 22))), (G.2.2.1 23, .inl (G.2.2.2 23, 3000, .inl (σ 23))), (G.2.2.1 24, .inl (G.2.2.2 24, 100, .inl (σ 24)))]
def md_ty (G : dGeo) : List (ClassId × FieldType) := [(G.2.2.2 0, .int), (G.2.2.2 1, .int), (G.2.2.2 2, .int), (G.2.2.2 3, .int), (G.2.2.2 4, .int), (G.2.2.2 6, .int), (G.2.2.2 7, .int), (G.2.2.2 8, .int), (G.2.2.2 9, .int), (G.2.2.2 10, .boolean), (G.2.2.2 11, .int), (G.2.2.2 12, .int), (G.2.2.2 13, .int), (G.2.2.2 14, .int), (G.2.2.2 17, .boolean), (G.2.2.2 18, .int), (G.2.2.2 19, .int), (G.2.2.2 20, .int), (G.2.2.2 21, .int), (G.2.2.2 22, .int), (G.2.2.2 23, .int), (G.2.2.2 24, .int)]
abbrev mdOk (E : dEnv) (l : Launch) (G : dGeo) (cc : ByteArray) (nL : Nat) (R : Room) : Prop := dOk E cc RX1 l R nL G.1 (md_ty G) (md_w G) [(0, .ref G.2.1)] 1
theorem md_same (G : dGeo) (σ τ : dS) : ∀ (q : Nat) , (∃ (k : Nat) (e : va_E), (md_w G σ)[k]? = some (q, e)) → (∃ (k : Nat) (e : va_E), (md_w G τ)[k]? = some (q, e)) := by
  rintro q ⟨k, e, h⟩
  have h1 : ((md_w G σ).map Prod.fst)[k]? = some q := by rw [List.getElem?_map, h]; rfl
  have h2 : ((md_w G τ).map Prod.fst)[k]? = some q := h1
  rw [List.getElem?_map] at h2
  cases h3 : (md_w G τ)[k]? with
  | none => rw [h3] at h2; cases h2
  | some x => rw [h3] at h2; obtain ⟨a, e2⟩ := x; cases h2; exact ⟨k, e2, h3⟩
theorem md_recv (G : dGeo) : ∀ σ : dS, (md_w G σ)[0]? = some (G.2.1, .inr (1, md_f G σ)) ∧ vwCl[1]? = some (RX1, TX1, 26) := fun _ => ⟨rfl, rfl⟩
theorem md_gf0 {E : dEnv} {l : Launch} {G : dGeo} {cc : ByteArray} {nL pc : Nat} {R : Room} {σ : dS} {xs : List Int32} {st : List Value} (hE : mdOk E l G cc nL R) (hd : decode cc pc = .ok (.getfield 7, 3)) (kk : dG E σ (pc + 3) xs (.ref (G.2.2.1 0) :: st)) : dG E σ pc xs (.ref G.2.1 :: st) := by
  obtain ⟨p, l', e, R', s, m, args, below, meth, c, A, Q, nL', D, w, th, b, kc, ks⟩ := E
  obtain ⟨hx, hb, hml, hown, hts, hK, hA, hth, hlk, hcs, rfl, rfl, rfl, rfl, rfl, rfl, rfl⟩ := hE
  intro ls H locs h1 h2 h3 h4
  exact va_get (ci := 1) (v := .ref (G.2.2.1 0)) (C := RX1) (T := TX1) (N := 26) hx hb hts in_X1 hown hK h2 0 rfl rfl 0 (by decide) (hts _ q368) (fun _ h9 => h9) rfl hd (kk ls H locs h1 h2 h3 h4)
theorem md_ld0 {E : dEnv} {l : Launch} {G : dGeo} {cc : ByteArray} {nL pc : Nat} {R : Room} {σ : dS} {xs : List Int32} {st : List Value} (hE : mdOk E l G cc nL R) {i : Int32} {τ : Type} {x : Option τ} {out : τ} (hd : decode cc pc = .ok (.iaload, 1)) (h : chk i 24 x = some out) (kk : x = some out → dG E σ (pc + 1) xs (.int (σ 0 i.toNatClampNeg) :: st)) : dG E σ pc xs (.int i :: .ref (G.2.2.1 0) :: st) := by
  obtain ⟨hi, h⟩ := chk_some h
  obtain ⟨p, l', e, R', s, m, args, below, meth, c, A, Q, nL', D, w, th, b, kc, ks⟩ := E
  obtain ⟨hx, hb, hml, hown, hts, hK, hA, hth, hlk, hcs, rfl, rfl, rfl, rfl, rfl, rfl, rfl⟩ := hE
  intro ls H locs h1 h2 h3 h4
  exact va_iald hx hb hK h2 1 0 (n := 24) (f := σ 0) rfl rfl hi hd (kk h ls H locs h1 h2 h3 h4)
theorem md_as0 {E : dEnv} {l : Launch} {G : dGeo} {cc : ByteArray} {nL pc : Nat} {R : Room} {σ : dS} {xs : List Int32} {st : List Value} (hE : mdOk E l G cc nL R) {i v : Int32} {τ : Type} {x : Option τ} {out : τ} (hd : decode cc pc = .ok (.iastore, 1)) (h : chk i 24 x = some out) (kk : x = some out → dG E (up2 σ 0 i.toNatClampNeg v) (pc + 1) xs st) : dG E σ pc xs (.int v :: .int i :: .ref (G.2.2.1 0) :: st) := by
  obtain ⟨hi, h⟩ := chk_some h
  obtain ⟨p, l', e, R', s, m, args, below, meth, c, A, Q, nL', D, w, th, b, kc, ks⟩ := E
  obtain ⟨hx, hb, hml, hown, hts, hK, hA, hth, hlk, hcs, rfl, rfl, rfl, rfl, rfl, rfl, rfl⟩ := hE
  intro ls H locs h1 h2 h3 h4
  refine va_iast hx hb hK h2 h3 h4 1 0 (n := 24) (f := σ 0) rfl rfl hi hd (fun H1 locs1 g2 g3 g4 => ?_)
  exact kk h ls H1 locs1 h1 g2 g3 g4
theorem md_gf1 {E : dEnv} {l : Launch} {G : dGeo} {cc : ByteArray} {nL pc : Nat} {R : Room} {σ : dS} {xs : List Int32} {st : List Value} (hE : mdOk E l G cc nL R) (hd : decode cc pc = .ok (.getfield 13, 3)) (kk : dG E σ (pc + 3) xs (.ref (G.2.2.1 1) :: st)) : dG E σ pc xs (.ref G.2.1 :: st) := by
  obtain ⟨p, l', e, R', s, m, args, below, meth, c, A, Q, nL', D, w, th, b, kc, ks⟩ := E
  obtain ⟨hx, hb, hml, hown, hts, hK, hA, hth, hlk, hcs, rfl, rfl, rfl, rfl, rfl, rfl, rfl⟩ := hE
  intro ls H locs h1 h2 h3 h4
  exact va_get (ci := 1) (v := .ref (G.2.2.1 1)) (C := RX1) (T := TX1) (N := 26) hx hb hts in_X1 hown hK h2 0 rfl rfl 1 (by decide) (hts _ q369) (fun _ h9 => h9) rfl hd (kk ls H locs h1 h2 h3 h4)
theorem md_ld1 {E : dEnv} {l : Launch} {G : dGeo} {cc : ByteArray} {nL pc : Nat} {R : Room} {σ : dS} {xs : List Int32} {st : List Value} (hE : mdOk E l G cc nL R) {i : Int32} {τ : Type} {x : Option τ} {out : τ} (hd : decode cc pc = .ok (.iaload, 1)) (h : chk i 24 x = some out) (kk : x = some out → dG E σ (pc + 1) xs (.int (σ 1 i.toNatClampNeg) :: st)) : dG E σ pc xs (.int i :: .ref (G.2.2.1 1) :: st) := by
  obtain ⟨hi, h⟩ := chk_some h
  obtain ⟨p, l', e, R', s, m, args, below, meth, c, A, Q, nL', D, w, th, b, kc, ks⟩ := E
  obtain ⟨hx, hb, hml, hown, hts, hK, hA, hth, hlk, hcs, rfl, rfl, rfl, rfl, rfl, rfl, rfl⟩ := hE
  intro ls H locs h1 h2 h3 h4
  exact va_iald hx hb hK h2 2 1 (n := 24) (f := σ 1) rfl rfl hi hd (kk h ls H locs h1 h2 h3 h4)
theorem md_as1 {E : dEnv} {l : Launch} {G : dGeo} {cc : ByteArray} {nL pc : Nat} {R : Room} {σ : dS} {xs : List Int32} {st : List Value} (hE : mdOk E l G cc nL R) {i v : Int32} {τ : Type} {x : Option τ} {out : τ} (hd : decode cc pc = .ok (.iastore, 1)) (h : chk i 24 x = some out) (kk : x = some out → dG E (up2 σ 1 i.toNatClampNeg v) (pc + 1) xs st) : dG E σ pc xs (.int v :: .int i :: .ref (G.2.2.1 1) :: st) := by
  obtain ⟨hi, h⟩ := chk_some h
  obtain ⟨p, l', e, R', s, m, args, below, meth, c, A, Q, nL', D, w, th, b, kc, ks⟩ := E
  obtain ⟨hx, hb, hml, hown, hts, hK, hA, hth, hlk, hcs, rfl, rfl, rfl, rfl, rfl, rfl, rfl⟩ := hE
  intro ls H locs h1 h2 h3 h4
  refine va_iast hx hb hK h2 h3 h4 2 1 (n := 24) (f := σ 1) rfl rfl hi hd (fun H1 locs1 g2 g3 g4 => ?_)
  exact kk h ls H1 locs1 h1 g2 g3 g4
theorem md_gf2 {E : dEnv} {l : Launch} {G : dGeo} {cc : ByteArray} {nL pc : Nat} {R : Room} {σ : dS} {xs : List Int32} {st : List Value} (hE : mdOk E l G cc nL R) (hd : decode cc pc = .ok (.getfield 16, 3)) (kk : dG E σ (pc + 3) xs (.ref (G.2.2.1 2) :: st)) : dG E σ pc xs (.ref G.2.1 :: st) := by
  obtain ⟨p, l', e, R', s, m, args, below, meth, c, A, Q, nL', D, w, th, b, kc, ks⟩ := E
  obtain ⟨hx, hb, hml, hown, hts, hK, hA, hth, hlk, hcs, rfl, rfl, rfl, rfl, rfl, rfl, rfl⟩ := hE
  intro ls H locs h1 h2 h3 h4
  exact va_get (ci := 1) (v := .ref (G.2.2.1 2)) (C := RX1) (T := TX1) (N := 26) hx hb hts in_X1 hown hK h2 0 rfl rfl 2 (by decide) (hts _ q370) (fun _ h9 => h9) rfl hd (kk ls H locs h1 h2 h3 h4)
theorem md_ld2 {E : dEnv} {l : Launch} {G : dGeo} {cc : ByteArray} {nL pc : Nat} {R : Room} {σ : dS} {xs : List Int32} {st : List Value} (hE : mdOk E l G cc nL R) {i : Int32} {τ : Type} {x : Option τ} {out : τ} (hd : decode cc pc = .ok (.iaload, 1)) (h : chk i 24 x = some out) (kk : x = some out → dG E σ (pc + 1) xs (.int (σ 2 i.toNatClampNeg) :: st)) : dG E σ pc xs (.int i :: .ref (G.2.2.1 2) :: st) := by
  obtain ⟨hi, h⟩ := chk_some h
  obtain ⟨p, l', e, R', s, m, args, below, meth, c, A, Q, nL', D, w, th, b, kc, ks⟩ := E
  obtain ⟨hx, hb, hml, hown, hts, hK, hA, hth, hlk, hcs, rfl, rfl, rfl, rfl, rfl, rfl, rfl⟩ := hE
  intro ls H locs h1 h2 h3 h4
  exact va_iald hx hb hK h2 3 2 (n := 24) (f := σ 2) rfl rfl hi hd (kk h ls H locs h1 h2 h3 h4)
theorem md_as2 {E : dEnv} {l : Launch} {G : dGeo} {cc : ByteArray} {nL pc : Nat} {R : Room} {σ : dS} {xs : List Int32} {st : List Value} (hE : mdOk E l G cc nL R) {i v : Int32} {τ : Type} {x : Option τ} {out : τ} (hd : decode cc pc = .ok (.iastore, 1)) (h : chk i 24 x = some out) (kk : x = some out → dG E (up2 σ 2 i.toNatClampNeg v) (pc + 1) xs st) : dG E σ pc xs (.int v :: .int i :: .ref (G.2.2.1 2) :: st) := by
  obtain ⟨hi, h⟩ := chk_some h
  obtain ⟨p, l', e, R', s, m, args, below, meth, c, A, Q, nL', D, w, th, b, kc, ks⟩ := E
  obtain ⟨hx, hb, hml, hown, hts, hK, hA, hth, hlk, hcs, rfl, rfl, rfl, rfl, rfl, rfl, rfl⟩ := hE
  intro ls H locs h1 h2 h3 h4
  refine va_iast hx hb hK h2 h3 h4 3 2 (n := 24) (f := σ 2) rfl rfl hi hd (fun H1 locs1 g2 g3 g4 => ?_)
  exact kk h ls H1 locs1 h1 g2 g3 g4
theorem md_gf3 {E : dEnv} {l : Launch} {G : dGeo} {cc : ByteArray} {nL pc : Nat} {R : Room} {σ : dS} {xs : List Int32} {st : List Value} (hE : mdOk E l G cc nL R) (hd : decode cc pc = .ok (.getfield 19, 3)) (kk : dG E σ (pc + 3) xs (.ref (G.2.2.1 3) :: st)) : dG E σ pc xs (.ref G.2.1 :: st) := by
  obtain ⟨p, l', e, R', s, m, args, below, meth, c, A, Q, nL', D, w, th, b, kc, ks⟩ := E
  obtain ⟨hx, hb, hml, hown, hts, hK, hA, hth, hlk, hcs, rfl, rfl, rfl, rfl, rfl, rfl, rfl⟩ := hE
  intro ls H locs h1 h2 h3 h4
  exact va_get (ci := 1) (v := .ref (G.2.2.1 3)) (C := RX1) (T := TX1) (N := 26) hx hb hts in_X1 hown hK h2 0 rfl rfl 3 (by decide) (hts _ q371) (fun _ h9 => h9) rfl hd (kk ls H locs h1 h2 h3 h4)
theorem md_ld3 {E : dEnv} {l : Launch} {G : dGeo} {cc : ByteArray} {nL pc : Nat} {R : Room} {σ : dS} {xs : List Int32} {st : List Value} (hE : mdOk E l G cc nL R) {i : Int32} {τ : Type} {x : Option τ} {out : τ} (hd : decode cc pc = .ok (.iaload, 1)) (h : chk i 24 x = some out) (kk : x = some out → dG E σ (pc + 1) xs (.int (σ 3 i.toNatClampNeg) :: st)) : dG E σ pc xs (.int i :: .ref (G.2.2.1 3) :: st) := by
  obtain ⟨hi, h⟩ := chk_some h
  obtain ⟨p, l', e, R', s, m, args, below, meth, c, A, Q, nL', D, w, th, b, kc, ks⟩ := E
  obtain ⟨hx, hb, hml, hown, hts, hK, hA, hth, hlk, hcs, rfl, rfl, rfl, rfl, rfl, rfl, rfl⟩ := hE
  intro ls H locs h1 h2 h3 h4
  exact va_iald hx hb hK h2 4 3 (n := 24) (f := σ 3) rfl rfl hi hd (kk h ls H locs h1 h2 h3 h4)
theorem md_as3 {E : dEnv} {l : Launch} {G : dGeo} {cc : ByteArray} {nL pc : Nat} {R : Room} {σ : dS} {xs : List Int32} {st : List Value} (hE : mdOk E l G cc nL R) {i v : Int32} {τ : Type} {x : Option τ} {out : τ} (hd : decode cc pc = .ok (.iastore, 1)) (h : chk i 24 x = some out) (kk : x = some out → dG E (up2 σ 3 i.toNatClampNeg v) (pc + 1) xs st) : dG E σ pc xs (.int v :: .int i :: .ref (G.2.2.1 3) :: st) := by
  obtain ⟨hi, h⟩ := chk_some h
  obtain ⟨p, l', e, R', s, m, args, below, meth, c, A, Q, nL', D, w, th, b, kc, ks⟩ := E
  obtain ⟨hx, hb, hml, hown, hts, hK, hA, hth, hlk, hcs, rfl, rfl, rfl, rfl, rfl, rfl, rfl⟩ := hE
  intro ls H locs h1 h2 h3 h4
  refine va_iast hx hb hK h2 h3 h4 4 3 (n := 24) (f := σ 3) rfl rfl hi hd (fun H1 locs1 g2 g3 g4 => ?_)
  exact kk h ls H1 locs1 h1 g2 g3 g4
theorem md_gf4 {E : dEnv} {l : Launch} {G : dGeo} {cc : ByteArray} {nL pc : Nat} {R : Room} {σ : dS} {xs : List Int32} {st : List Value} (hE : mdOk E l G cc nL R) (hd : decode cc pc = .ok (.getfield 22, 3)) (kk : dG E σ (pc + 3) xs (.ref (G.2.2.1 4) :: st)) : dG E σ pc xs (.ref G.2.1 :: st) := by
  obtain ⟨p, l', e, R', s, m, args, below, meth, c, A, Q, nL', D, w, th, b, kc, ks⟩ := E
  obtain ⟨hx, hb, hml, hown, hts, hK, hA, hth, hlk, hcs, rfl, rfl, rfl, rfl, rfl, rfl, rfl⟩ := hE
  intro ls H locs h1 h2 h3 h4
  exact va_get (ci := 1) (v := .ref (G.2.2.1 4)) (C := RX1) (T := TX1) (N := 26) hx hb hts in_X1 hown hK h2 0 rfl rfl 4 (by decide) (hts _ q372) (fun _ h9 => h9) rfl hd (kk ls H locs h1 h2 h3 h4)
theorem md_ld4 {E : dEnv} {l : Launch} {G : dGeo} {cc : ByteArray} {nL pc : Nat} {R : Room} {σ : dS} {xs : List Int32} {st : List Value} (hE : mdOk E l G cc nL R) {i : Int32} {τ : Type} {x : Option τ} {out : τ} (hd : decode cc pc = .ok (.iaload, 1)) (h : chk i 24 x = some out) (kk : x = some out → dG E σ (pc + 1) xs (.int (σ 4 i.toNatClampNeg) :: st)) : dG E σ pc xs (.int i :: .ref (G.2.2.1 4) :: st) := by
  obtain ⟨hi, h⟩ := chk_some h
  obtain ⟨p, l', e, R', s, m, args, below, meth, c, A, Q, nL', D, w, th, b, kc, ks⟩ := E
  obtain ⟨hx, hb, hml, hown, hts, hK, hA, hth, hlk, hcs, rfl, rfl, rfl, rfl, rfl, rfl, rfl⟩ := hE
  intro ls H locs h1 h2 h3 h4
  exact va_iald hx hb hK h2 5 4 (n := 24) (f := σ 4) rfl rfl hi hd (kk h ls H locs h1 h2 h3 h4)
theorem md_as4 {E : dEnv} {l : Launch} {G : dGeo} {cc : ByteArray} {nL pc : Nat} {R : Room} {σ : dS} {xs : List Int32} {st : List Value} (hE : mdOk E l G cc nL R) {i v : Int32} {τ : Type} {x : Option τ} {out : τ} (hd : decode cc pc = .ok (.iastore, 1)) (h : chk i 24 x = some out) (kk : x = some out → dG E (up2 σ 4 i.toNatClampNeg v) (pc + 1) xs st) : dG E σ pc xs (.int v :: .int i :: .ref (G.2.2.1 4) :: st) := by
  obtain ⟨hi, h⟩ := chk_some h
  obtain ⟨p, l', e, R', s, m, args, below, meth, c, A, Q, nL', D, w, th, b, kc, ks⟩ := E
  obtain ⟨hx, hb, hml, hown, hts, hK, hA, hth, hlk, hcs, rfl, rfl, rfl, rfl, rfl, rfl, rfl⟩ := hE
  intro ls H locs h1 h2 h3 h4
  refine va_iast hx hb hK h2 h3 h4 5 4 (n := 24) (f := σ 4) rfl rfl hi hd (fun H1 locs1 g2 g3 g4 => ?_)
  exact kk h ls H1 locs1 h1 g2 g3 g4
theorem md_gf5 {E : dEnv} {l : Launch} {G : dGeo} {cc : ByteArray} {nL pc : Nat} {R : Room} {σ : dS} {xs : List Int32} {st : List Value} (hE : mdOk E l G cc nL R) (hd : decode cc pc = .ok (.getfield 77, 3)) (kk : dG E σ (pc + 3) xs (.int (σ 5 0) :: st)) : dG E σ pc xs (.ref G.2.1 :: st) := by
  obtain ⟨p, l', e, R', s, m, args, below, meth, c, A, Q, nL', D, w, th, b, kc, ks⟩ := E
  obtain ⟨hx, hb, hml, hown, hts, hK, hA, hth, hlk, hcs, rfl, rfl, rfl, rfl, rfl, rfl, rfl⟩ := hE
  intro ls H locs h1 h2 h3 h4
  exact va_get (ci := 1) (v := .int (σ 5 0)) (C := RX1) (T := TX1) (N := 26) hx hb hts in_X1 hown hK h2 0 rfl rfl 5 (by decide) (hts _ q373) (fun _ h9 => h9) rfl hd (kk ls H locs h1 h2 h3 h4)
theorem md_pf5 {E : dEnv} {l : Launch} {G : dGeo} {cc : ByteArray} {nL pc : Nat} {R : Room} {σ : dS} {xs : List Int32} {st : List Value} (hE : mdOk E l G cc nL R) {v : Int32} (hd : decode cc pc = .ok (.putfield 77, 3)) (kk : dG E (up2 σ 5 0 v) (pc + 3) xs st) : dG E σ pc xs (.int v :: .ref G.2.1 :: st) := by
  obtain ⟨p, l', e, R', s, m, args, below, meth, c, A, Q, nL', D, w, th, b, kc, ks⟩ := E
  obtain ⟨hx, hb, hml, hown, hts, hK, hA, hth, hlk, hcs, rfl, rfl, rfl, rfl, rfl, rfl, rfl⟩ := hE
  intro ls H locs h1 h2 h3 h4
  refine va_put (ci := 1) (v := .int v) (ty := .int) (C := RX1) (T := TX1) (N := 26) hx hb hts in_X1 tyX1 tyX1_ok nmX1 hown hK h2 h3 h4 0 rfl rfl 5 (by decide) (hts _ q373) (fun _ h9 => h9) rfl (by decide +kernel) rfl rfl (Nat.le_of_ble_eq_true rfl) hd (fun H1 locs1 g2 g3 g4 => ?_)
  exact kk ls H1 locs1 h1 g2 g3 g4
theorem md_gf6 {E : dEnv} {l : Launch} {G : dGeo} {cc : ByteArray} {nL pc : Nat} {R : Room} {σ : dS} {xs : List Int32} {st : List Value} (hE : mdOk E l G cc nL R) (hd : decode cc pc = .ok (.getfield 25, 3)) (kk : dG E σ (pc + 3) xs (.ref (G.2.2.1 6) :: st)) : dG E σ pc xs (.ref G.2.1 :: st) := by
  obtain ⟨p, l', e, R', s, m, args, below, meth, c, A, Q, nL', D, w, th, b, kc, ks⟩ := E
  obtain ⟨hx, hb, hml, hown, hts, hK, hA, hth, hlk, hcs, rfl, rfl, rfl, rfl, rfl, rfl, rfl⟩ := hE
  intro ls H locs h1 h2 h3 h4
  exact va_get (ci := 1) (v := .ref (G.2.2.1 6)) (C := RX1) (T := TX1) (N := 26) hx hb hts in_X1 hown hK h2 0 rfl rfl 6 (by decide) (hts _ q374) (fun _ h9 => h9) rfl hd (kk ls H locs h1 h2 h3 h4)
theorem md_ld6 {E : dEnv} {l : Launch} {G : dGeo} {cc : ByteArray} {nL pc : Nat} {R : Room} {σ : dS} {xs : List Int32} {st : List Value} (hE : mdOk E l G cc nL R) {i : Int32} {τ : Type} {x : Option τ} {out : τ} (hd : decode cc pc = .ok (.iaload, 1)) (h : chk i 360 x = some out) (kk : x = some out → dG E σ (pc + 1) xs (.int (σ 6 i.toNatClampNeg) :: st)) : dG E σ pc xs (.int i :: .ref (G.2.2.1 6) :: st) := by
  obtain ⟨hi, h⟩ := chk_some h
  obtain ⟨p, l', e, R', s, m, args, below, meth, c, A, Q, nL', D, w, th, b, kc, ks⟩ := E
  obtain ⟨hx, hb, hml, hown, hts, hK, hA, hth, hlk, hcs, rfl, rfl, rfl, rfl, rfl, rfl, rfl⟩ := hE
  intro ls H locs h1 h2 h3 h4
  exact va_iald hx hb hK h2 6 5 (n := 360) (f := σ 6) rfl rfl hi hd (kk h ls H locs h1 h2 h3 h4)
theorem md_as6 {E : dEnv} {l : Launch} {G : dGeo} {cc : ByteArray} {nL pc : Nat} {R : Room} {σ : dS} {xs : List Int32} {st : List Value} (hE : mdOk E l G cc nL R) {i v : Int32} {τ : Type} {x : Option τ} {out : τ} (hd : decode cc pc = .ok (.iastore, 1)) (h : chk i 360 x = some out) (kk : x = some out → dG E (up2 σ 6 i.toNatClampNeg v) (pc + 1) xs st) : dG E σ pc xs (.int v :: .int i :: .ref (G.2.2.1 6) :: st) := by
  obtain ⟨hi, h⟩ := chk_some h
  obtain ⟨p, l', e, R', s, m, args, below, meth, c, A, Q, nL', D, w, th, b, kc, ks⟩ := E
  obtain ⟨hx, hb, hml, hown, hts, hK, hA, hth, hlk, hcs, rfl, rfl, rfl, rfl, rfl, rfl, rfl⟩ := hE
  intro ls H locs h1 h2 h3 h4
  refine va_iast hx hb hK h2 h3 h4 6 5 (n := 360) (f := σ 6) rfl rfl hi hd (fun H1 locs1 g2 g3 g4 => ?_)
  exact kk h ls H1 locs1 h1 g2 g3 g4
theorem md_gf7 {E : dEnv} {l : Launch} {G : dGeo} {cc : ByteArray} {nL pc : Nat} {R : Room} {σ : dS} {xs : List Int32} {st : List Value} (hE : mdOk E l G cc nL R) (hd : decode cc pc = .ok (.getfield 28, 3)) (kk : dG E σ (pc + 3) xs (.ref (G.2.2.1 7) :: st)) : dG E σ pc xs (.ref G.2.1 :: st) := by
  obtain ⟨p, l', e, R', s, m, args, below, meth, c, A, Q, nL', D, w, th, b, kc, ks⟩ := E
  obtain ⟨hx, hb, hml, hown, hts, hK, hA, hth, hlk, hcs, rfl, rfl, rfl, rfl, rfl, rfl, rfl⟩ := hE
  intro ls H locs h1 h2 h3 h4
  exact va_get (ci := 1) (v := .ref (G.2.2.1 7)) (C := RX1) (T := TX1) (N := 26) hx hb hts in_X1 hown hK h2 0 rfl rfl 7 (by decide) (hts _ q375) (fun _ h9 => h9) rfl hd (kk ls H locs h1 h2 h3 h4)
theorem md_ld7 {E : dEnv} {l : Launch} {G : dGeo} {cc : ByteArray} {nL pc : Nat} {R : Room} {σ : dS} {xs : List Int32} {st : List Value} (hE : mdOk E l G cc nL R) {i : Int32} {τ : Type} {x : Option τ} {out : τ} (hd : decode cc pc = .ok (.iaload, 1)) (h : chk i 360 x = some out) (kk : x = some out → dG E σ (pc + 1) xs (.int (σ 7 i.toNatClampNeg) :: st)) : dG E σ pc xs (.int i :: .ref (G.2.2.1 7) :: st) := by
  obtain ⟨hi, h⟩ := chk_some h
  obtain ⟨p, l', e, R', s, m, args, below, meth, c, A, Q, nL', D, w, th, b, kc, ks⟩ := E
  obtain ⟨hx, hb, hml, hown, hts, hK, hA, hth, hlk, hcs, rfl, rfl, rfl, rfl, rfl, rfl, rfl⟩ := hE
  intro ls H locs h1 h2 h3 h4
  exact va_iald hx hb hK h2 7 6 (n := 360) (f := σ 7) rfl rfl hi hd (kk h ls H locs h1 h2 h3 h4)
theorem md_as7 {E : dEnv} {l : Launch} {G : dGeo} {cc : ByteArray} {nL pc : Nat} {R : Room} {σ : dS} {xs : List Int32} {st : List Value} (hE : mdOk E l G cc nL R) {i v : Int32} {τ : Type} {x : Option τ} {out : τ} (hd : decode cc pc = .ok (.iastore, 1)) (h : chk i 360 x = some out) (kk : x = some out → dG E (up2 σ 7 i.toNatClampNeg v) (pc + 1) xs st) : dG E σ pc xs (.int v :: .int i :: .ref (G.2.2.1 7) :: st) := by
  obtain ⟨hi, h⟩ := chk_some h
  obtain ⟨p, l', e, R', s, m, args, below, meth, c, A, Q, nL', D, w, th, b, kc, ks⟩ := E
  obtain ⟨hx, hb, hml, hown, hts, hK, hA, hth, hlk, hcs, rfl, rfl, rfl, rfl, rfl, rfl, rfl⟩ := hE
  intro ls H locs h1 h2 h3 h4
  refine va_iast hx hb hK h2 h3 h4 7 6 (n := 360) (f := σ 7) rfl rfl hi hd (fun H1 locs1 g2 g3 g4 => ?_)
  exact kk h ls H1 locs1 h1 g2 g3 g4
theorem md_gf8 {E : dEnv} {l : Launch} {G : dGeo} {cc : ByteArray} {nL pc : Nat} {R : Room} {σ : dS} {xs : List Int32} {st : List Value} (hE : mdOk E l G cc nL R) (hd : decode cc pc = .ok (.getfield 31, 3)) (kk : dG E σ (pc + 3) xs (.ref (G.2.2.1 8) :: st)) : dG E σ pc xs (.ref G.2.1 :: st) := by
  obtain ⟨p, l', e, R', s, m, args, below, meth, c, A, Q, nL', D, w, th, b, kc, ks⟩ := E
  obtain ⟨hx, hb, hml, hown, hts, hK, hA, hth, hlk, hcs, rfl, rfl, rfl, rfl, rfl, rfl, rfl⟩ := hE
  intro ls H locs h1 h2 h3 h4
  exact va_get (ci := 1) (v := .ref (G.2.2.1 8)) (C := RX1) (T := TX1) (N := 26) hx hb hts in_X1 hown hK h2 0 rfl rfl 8 (by decide) (hts _ q376) (fun _ h9 => h9) rfl hd (kk ls H locs h1 h2 h3 h4)
theorem md_ld8 {E : dEnv} {l : Launch} {G : dGeo} {cc : ByteArray} {nL pc : Nat} {R : Room} {σ : dS} {xs : List Int32} {st : List Value} (hE : mdOk E l G cc nL R) {i : Int32} {τ : Type} {x : Option τ} {out : τ} (hd : decode cc pc = .ok (.iaload, 1)) (h : chk i 9 x = some out) (kk : x = some out → dG E σ (pc + 1) xs (.int (σ 8 i.toNatClampNeg) :: st)) : dG E σ pc xs (.int i :: .ref (G.2.2.1 8) :: st) := by
  obtain ⟨hi, h⟩ := chk_some h
  obtain ⟨p, l', e, R', s, m, args, below, meth, c, A, Q, nL', D, w, th, b, kc, ks⟩ := E
  obtain ⟨hx, hb, hml, hown, hts, hK, hA, hth, hlk, hcs, rfl, rfl, rfl, rfl, rfl, rfl, rfl⟩ := hE
  intro ls H locs h1 h2 h3 h4
  exact va_iald hx hb hK h2 8 7 (n := 9) (f := σ 8) rfl rfl hi hd (kk h ls H locs h1 h2 h3 h4)
theorem md_as8 {E : dEnv} {l : Launch} {G : dGeo} {cc : ByteArray} {nL pc : Nat} {R : Room} {σ : dS} {xs : List Int32} {st : List Value} (hE : mdOk E l G cc nL R) {i v : Int32} {τ : Type} {x : Option τ} {out : τ} (hd : decode cc pc = .ok (.iastore, 1)) (h : chk i 9 x = some out) (kk : x = some out → dG E (up2 σ 8 i.toNatClampNeg v) (pc + 1) xs st) : dG E σ pc xs (.int v :: .int i :: .ref (G.2.2.1 8) :: st) := by
  obtain ⟨hi, h⟩ := chk_some h
  obtain ⟨p, l', e, R', s, m, args, below, meth, c, A, Q, nL', D, w, th, b, kc, ks⟩ := E
  obtain ⟨hx, hb, hml, hown, hts, hK, hA, hth, hlk, hcs, rfl, rfl, rfl, rfl, rfl, rfl, rfl⟩ := hE
  intro ls H locs h1 h2 h3 h4
  refine va_iast hx hb hK h2 h3 h4 8 7 (n := 9) (f := σ 8) rfl rfl hi hd (fun H1 locs1 g2 g3 g4 => ?_)
  exact kk h ls H1 locs1 h1 g2 g3 g4
theorem md_gf9 {E : dEnv} {l : Launch} {G : dGeo} {cc : ByteArray} {nL pc : Nat} {R : Room} {σ : dS} {xs : List Int32} {st : List Value} (hE : mdOk E l G cc nL R) (hd : decode cc pc = .ok (.getfield 34, 3)) (kk : dG E σ (pc + 3) xs (.ref (G.2.2.1 9) :: st)) : dG E σ pc xs (.ref G.2.1 :: st) := by
  obtain ⟨p, l', e, R', s, m, args, below, meth, c, A, Q, nL', D, w, th, b, kc, ks⟩ := E
  obtain ⟨hx, hb, hml, hown, hts, hK, hA, hth, hlk, hcs, rfl, rfl, rfl, rfl, rfl, rfl, rfl⟩ := hE
  intro ls H locs h1 h2 h3 h4
  exact va_get (ci := 1) (v := .ref (G.2.2.1 9)) (C := RX1) (T := TX1) (N := 26) hx hb hts in_X1 hown hK h2 0 rfl rfl 9 (by decide) (hts _ q377) (fun _ h9 => h9) rfl hd (kk ls H locs h1 h2 h3 h4)
theorem md_ld9 {E : dEnv} {l : Launch} {G : dGeo} {cc : ByteArray} {nL pc : Nat} {R : Room} {σ : dS} {xs : List Int32} {st : List Value} (hE : mdOk E l G cc nL R) {i : Int32} {τ : Type} {x : Option τ} {out : τ} (hd : decode cc pc = .ok (.iaload, 1)) (h : chk i 7680 x = some out) (kk : x = some out → dG E σ (pc + 1) xs (.int (σ 9 i.toNatClampNeg) :: st)) : dG E σ pc xs (.int i :: .ref (G.2.2.1 9) :: st) := by
  obtain ⟨hi, h⟩ := chk_some h
  obtain ⟨p, l', e, R', s, m, args, below, meth, c, A, Q, nL', D, w, th, b, kc, ks⟩ := E
  obtain ⟨hx, hb, hml, hown, hts, hK, hA, hth, hlk, hcs, rfl, rfl, rfl, rfl, rfl, rfl, rfl⟩ := hE
  intro ls H locs h1 h2 h3 h4
  exact va_iald hx hb hK h2 9 8 (n := 7680) (f := σ 9) rfl rfl hi hd (kk h ls H locs h1 h2 h3 h4)
theorem md_as9 {E : dEnv} {l : Launch} {G : dGeo} {cc : ByteArray} {nL pc : Nat} {R : Room} {σ : dS} {xs : List Int32} {st : List Value} (hE : mdOk E l G cc nL R) {i v : Int32} {τ : Type} {x : Option τ} {out : τ} (hd : decode cc pc = .ok (.iastore, 1)) (h : chk i 7680 x = some out) (kk : x = some out → dG E (up2 σ 9 i.toNatClampNeg v) (pc + 1) xs st) : dG E σ pc xs (.int v :: .int i :: .ref (G.2.2.1 9) :: st) := by
  obtain ⟨hi, h⟩ := chk_some h
  obtain ⟨p, l', e, R', s, m, args, below, meth, c, A, Q, nL', D, w, th, b, kc, ks⟩ := E
  obtain ⟨hx, hb, hml, hown, hts, hK, hA, hth, hlk, hcs, rfl, rfl, rfl, rfl, rfl, rfl, rfl⟩ := hE
  intro ls H locs h1 h2 h3 h4
  refine va_iast hx hb hK h2 h3 h4 9 8 (n := 7680) (f := σ 9) rfl rfl hi hd (fun H1 locs1 g2 g3 g4 => ?_)
  exact kk h ls H1 locs1 h1 g2 g3 g4
theorem md_gf10 {E : dEnv} {l : Launch} {G : dGeo} {cc : ByteArray} {nL pc : Nat} {R : Room} {σ : dS} {xs : List Int32} {st : List Value} (hE : mdOk E l G cc nL R) (hd : decode cc pc = .ok (.getfield 37, 3)) (kk : dG E σ (pc + 3) xs (.ref (G.2.2.1 10) :: st)) : dG E σ pc xs (.ref G.2.1 :: st) := by
  obtain ⟨p, l', e, R', s, m, args, below, meth, c, A, Q, nL', D, w, th, b, kc, ks⟩ := E
  obtain ⟨hx, hb, hml, hown, hts, hK, hA, hth, hlk, hcs, rfl, rfl, rfl, rfl, rfl, rfl, rfl⟩ := hE
  intro ls H locs h1 h2 h3 h4
  exact va_get (ci := 1) (v := .ref (G.2.2.1 10)) (C := RX1) (T := TX1) (N := 26) hx hb hts in_X1 hown hK h2 0 rfl rfl 10 (by decide) (hts _ q378) (fun _ h9 => h9) rfl hd (kk ls H locs h1 h2 h3 h4)
theorem md_ld10 {E : dEnv} {l : Launch} {G : dGeo} {cc : ByteArray} {nL pc : Nat} {R : Room} {σ : dS} {xs : List Int32} {st : List Value} (hE : mdOk E l G cc nL R) {i : Int32} {τ : Type} {x : Option τ} {out : τ} (hd : decode cc pc = .ok (.baload, 1)) (h : chk i 8 x = some out) (kk : x = some out → dG E σ (pc + 1) xs (.int (σ 10 i.toNatClampNeg) :: st)) : dG E σ pc xs (.int i :: .ref (G.2.2.1 10) :: st) := by
  obtain ⟨hi, h⟩ := chk_some h
  obtain ⟨p, l', e, R', s, m, args, below, meth, c, A, Q, nL', D, w, th, b, kc, ks⟩ := E
  obtain ⟨hx, hb, hml, hown, hts, hK, hA, hth, hlk, hcs, rfl, rfl, rfl, rfl, rfl, rfl, rfl⟩ := hE
  intro ls H locs h1 h2 h3 h4
  exact va_zald hx hb hK h2 10 9 (n := 8) (f := σ 10) rfl rfl hi hd (kk h ls H locs h1 h2 h3 h4)
theorem md_as10 {E : dEnv} {l : Launch} {G : dGeo} {cc : ByteArray} {nL pc : Nat} {R : Room} {σ : dS} {xs : List Int32} {st : List Value} (hE : mdOk E l G cc nL R) {i v : Int32} {τ : Type} {x : Option τ} {out : τ} (hd : decode cc pc = .ok (.bastore, 1)) (h : chk i 8 x = some out) (kk : x = some out → dG E (up2 σ 10 i.toNatClampNeg (vp_nar .boolean v)) (pc + 1) xs st) : dG E σ pc xs (.int v :: .int i :: .ref (G.2.2.1 10) :: st) := by
  obtain ⟨hi, h⟩ := chk_some h
  obtain ⟨p, l', e, R', s, m, args, below, meth, c, A, Q, nL', D, w, th, b, kc, ks⟩ := E
  obtain ⟨hx, hb, hml, hown, hts, hK, hA, hth, hlk, hcs, rfl, rfl, rfl, rfl, rfl, rfl, rfl⟩ := hE
  intro ls H locs h1 h2 h3 h4
  refine va_zast hx hb hK h2 h3 h4 10 9 (n := 8) (f := σ 10) rfl rfl hi hd (fun H1 locs1 g2 g3 g4 => ?_)
  exact kk h ls H1 locs1 h1 g2 g3 g4
theorem md_gf11 {E : dEnv} {l : Launch} {G : dGeo} {cc : ByteArray} {nL pc : Nat} {R : Room} {σ : dS} {xs : List Int32} {st : List Value} (hE : mdOk E l G cc nL R) (hd : decode cc pc = .ok (.getfield 41, 3)) (kk : dG E σ (pc + 3) xs (.ref (G.2.2.1 11) :: st)) : dG E σ pc xs (.ref G.2.1 :: st) := by
  obtain ⟨p, l', e, R', s, m, args, below, meth, c, A, Q, nL', D, w, th, b, kc, ks⟩ := E
  obtain ⟨hx, hb, hml, hown, hts, hK, hA, hth, hlk, hcs, rfl, rfl, rfl, rfl, rfl, rfl, rfl⟩ := hE
  intro ls H locs h1 h2 h3 h4
  exact va_get (ci := 1) (v := .ref (G.2.2.1 11)) (C := RX1) (T := TX1) (N := 26) hx hb hts in_X1 hown hK h2 0 rfl rfl 11 (by decide) (hts _ q379) (fun _ h9 => h9) rfl hd (kk ls H locs h1 h2 h3 h4)
theorem md_ld11 {E : dEnv} {l : Launch} {G : dGeo} {cc : ByteArray} {nL pc : Nat} {R : Room} {σ : dS} {xs : List Int32} {st : List Value} (hE : mdOk E l G cc nL R) {i : Int32} {τ : Type} {x : Option τ} {out : τ} (hd : decode cc pc = .ok (.iaload, 1)) (h : chk i 48 x = some out) (kk : x = some out → dG E σ (pc + 1) xs (.int (σ 11 i.toNatClampNeg) :: st)) : dG E σ pc xs (.int i :: .ref (G.2.2.1 11) :: st) := by
  obtain ⟨hi, h⟩ := chk_some h
  obtain ⟨p, l', e, R', s, m, args, below, meth, c, A, Q, nL', D, w, th, b, kc, ks⟩ := E
  obtain ⟨hx, hb, hml, hown, hts, hK, hA, hth, hlk, hcs, rfl, rfl, rfl, rfl, rfl, rfl, rfl⟩ := hE
  intro ls H locs h1 h2 h3 h4
  exact va_iald hx hb hK h2 11 10 (n := 48) (f := σ 11) rfl rfl hi hd (kk h ls H locs h1 h2 h3 h4)
theorem md_as11 {E : dEnv} {l : Launch} {G : dGeo} {cc : ByteArray} {nL pc : Nat} {R : Room} {σ : dS} {xs : List Int32} {st : List Value} (hE : mdOk E l G cc nL R) {i v : Int32} {τ : Type} {x : Option τ} {out : τ} (hd : decode cc pc = .ok (.iastore, 1)) (h : chk i 48 x = some out) (kk : x = some out → dG E (up2 σ 11 i.toNatClampNeg v) (pc + 1) xs st) : dG E σ pc xs (.int v :: .int i :: .ref (G.2.2.1 11) :: st) := by
  obtain ⟨hi, h⟩ := chk_some h
  obtain ⟨p, l', e, R', s, m, args, below, meth, c, A, Q, nL', D, w, th, b, kc, ks⟩ := E
  obtain ⟨hx, hb, hml, hown, hts, hK, hA, hth, hlk, hcs, rfl, rfl, rfl, rfl, rfl, rfl, rfl⟩ := hE
  intro ls H locs h1 h2 h3 h4
  refine va_iast hx hb hK h2 h3 h4 11 10 (n := 48) (f := σ 11) rfl rfl hi hd (fun H1 locs1 g2 g3 g4 => ?_)
  exact kk h ls H1 locs1 h1 g2 g3 g4
theorem md_gf12 {E : dEnv} {l : Launch} {G : dGeo} {cc : ByteArray} {nL pc : Nat} {R : Room} {σ : dS} {xs : List Int32} {st : List Value} (hE : mdOk E l G cc nL R) (hd : decode cc pc = .ok (.getfield 44, 3)) (kk : dG E σ (pc + 3) xs (.ref (G.2.2.1 12) :: st)) : dG E σ pc xs (.ref G.2.1 :: st) := by
  obtain ⟨p, l', e, R', s, m, args, below, meth, c, A, Q, nL', D, w, th, b, kc, ks⟩ := E
  obtain ⟨hx, hb, hml, hown, hts, hK, hA, hth, hlk, hcs, rfl, rfl, rfl, rfl, rfl, rfl, rfl⟩ := hE
  intro ls H locs h1 h2 h3 h4
  exact va_get (ci := 1) (v := .ref (G.2.2.1 12)) (C := RX1) (T := TX1) (N := 26) hx hb hts in_X1 hown hK h2 0 rfl rfl 12 (by decide) (hts _ q380) (fun _ h9 => h9) rfl hd (kk ls H locs h1 h2 h3 h4)
theorem md_ld12 {E : dEnv} {l : Launch} {G : dGeo} {cc : ByteArray} {nL pc : Nat} {R : Room} {σ : dS} {xs : List Int32} {st : List Value} (hE : mdOk E l G cc nL R) {i : Int32} {τ : Type} {x : Option τ} {out : τ} (hd : decode cc pc = .ok (.iaload, 1)) (h : chk i 48 x = some out) (kk : x = some out → dG E σ (pc + 1) xs (.int (σ 12 i.toNatClampNeg) :: st)) : dG E σ pc xs (.int i :: .ref (G.2.2.1 12) :: st) := by
  obtain ⟨hi, h⟩ := chk_some h
  obtain ⟨p, l', e, R', s, m, args, below, meth, c, A, Q, nL', D, w, th, b, kc, ks⟩ := E
  obtain ⟨hx, hb, hml, hown, hts, hK, hA, hth, hlk, hcs, rfl, rfl, rfl, rfl, rfl, rfl, rfl⟩ := hE
  intro ls H locs h1 h2 h3 h4
  exact va_iald hx hb hK h2 12 11 (n := 48) (f := σ 12) rfl rfl hi hd (kk h ls H locs h1 h2 h3 h4)
theorem md_as12 {E : dEnv} {l : Launch} {G : dGeo} {cc : ByteArray} {nL pc : Nat} {R : Room} {σ : dS} {xs : List Int32} {st : List Value} (hE : mdOk E l G cc nL R) {i v : Int32} {τ : Type} {x : Option τ} {out : τ} (hd : decode cc pc = .ok (.iastore, 1)) (h : chk i 48 x = some out) (kk : x = some out → dG E (up2 σ 12 i.toNatClampNeg v) (pc + 1) xs st) : dG E σ pc xs (.int v :: .int i :: .ref (G.2.2.1 12) :: st) := by
  obtain ⟨hi, h⟩ := chk_some h
  obtain ⟨p, l', e, R', s, m, args, below, meth, c, A, Q, nL', D, w, th, b, kc, ks⟩ := E
  obtain ⟨hx, hb, hml, hown, hts, hK, hA, hth, hlk, hcs, rfl, rfl, rfl, rfl, rfl, rfl, rfl⟩ := hE
  intro ls H locs h1 h2 h3 h4
  refine va_iast hx hb hK h2 h3 h4 12 11 (n := 48) (f := σ 12) rfl rfl hi hd (fun H1 locs1 g2 g3 g4 => ?_)
  exact kk h ls H1 locs1 h1 g2 g3 g4
theorem md_gf13 {E : dEnv} {l : Launch} {G : dGeo} {cc : ByteArray} {nL pc : Nat} {R : Room} {σ : dS} {xs : List Int32} {st : List Value} (hE : mdOk E l G cc nL R) (hd : decode cc pc = .ok (.getfield 47, 3)) (kk : dG E σ (pc + 3) xs (.ref (G.2.2.1 13) :: st)) : dG E σ pc xs (.ref G.2.1 :: st) := by
  obtain ⟨p, l', e, R', s, m, args, below, meth, c, A, Q, nL', D, w, th, b, kc, ks⟩ := E
  obtain ⟨hx, hb, hml, hown, hts, hK, hA, hth, hlk, hcs, rfl, rfl, rfl, rfl, rfl, rfl, rfl⟩ := hE
  intro ls H locs h1 h2 h3 h4
  exact va_get (ci := 1) (v := .ref (G.2.2.1 13)) (C := RX1) (T := TX1) (N := 26) hx hb hts in_X1 hown hK h2 0 rfl rfl 13 (by decide) (hts _ q381) (fun _ h9 => h9) rfl hd (kk ls H locs h1 h2 h3 h4)
theorem md_ld13 {E : dEnv} {l : Launch} {G : dGeo} {cc : ByteArray} {nL pc : Nat} {R : Room} {σ : dS} {xs : List Int32} {st : List Value} (hE : mdOk E l G cc nL R) {i : Int32} {τ : Type} {x : Option τ} {out : τ} (hd : decode cc pc = .ok (.iaload, 1)) (h : chk i 48 x = some out) (kk : x = some out → dG E σ (pc + 1) xs (.int (σ 13 i.toNatClampNeg) :: st)) : dG E σ pc xs (.int i :: .ref (G.2.2.1 13) :: st) := by
  obtain ⟨hi, h⟩ := chk_some h
  obtain ⟨p, l', e, R', s, m, args, below, meth, c, A, Q, nL', D, w, th, b, kc, ks⟩ := E
  obtain ⟨hx, hb, hml, hown, hts, hK, hA, hth, hlk, hcs, rfl, rfl, rfl, rfl, rfl, rfl, rfl⟩ := hE
  intro ls H locs h1 h2 h3 h4
  exact va_iald hx hb hK h2 13 12 (n := 48) (f := σ 13) rfl rfl hi hd (kk h ls H locs h1 h2 h3 h4)
theorem md_as13 {E : dEnv} {l : Launch} {G : dGeo} {cc : ByteArray} {nL pc : Nat} {R : Room} {σ : dS} {xs : List Int32} {st : List Value} (hE : mdOk E l G cc nL R) {i v : Int32} {τ : Type} {x : Option τ} {out : τ} (hd : decode cc pc = .ok (.iastore, 1)) (h : chk i 48 x = some out) (kk : x = some out → dG E (up2 σ 13 i.toNatClampNeg v) (pc + 1) xs st) : dG E σ pc xs (.int v :: .int i :: .ref (G.2.2.1 13) :: st) := by
  obtain ⟨hi, h⟩ := chk_some h
  obtain ⟨p, l', e, R', s, m, args, below, meth, c, A, Q, nL', D, w, th, b, kc, ks⟩ := E
  obtain ⟨hx, hb, hml, hown, hts, hK, hA, hth, hlk, hcs, rfl, rfl, rfl, rfl, rfl, rfl, rfl⟩ := hE
  intro ls H locs h1 h2 h3 h4
  refine va_iast hx hb hK h2 h3 h4 13 12 (n := 48) (f := σ 13) rfl rfl hi hd (fun H1 locs1 g2 g3 g4 => ?_)
  exact kk h ls H1 locs1 h1 g2 g3 g4
theorem md_gf14 {E : dEnv} {l : Launch} {G : dGeo} {cc : ByteArray} {nL pc : Nat} {R : Room} {σ : dS} {xs : List Int32} {st : List Value} (hE : mdOk E l G cc nL R) (hd : decode cc pc = .ok (.getfield 50, 3)) (kk : dG E σ (pc + 3) xs (.ref (G.2.2.1 14) :: st)) : dG E σ pc xs (.ref G.2.1 :: st) := by
  obtain ⟨p, l', e, R', s, m, args, below, meth, c, A, Q, nL', D, w, th, b, kc, ks⟩ := E
  obtain ⟨hx, hb, hml, hown, hts, hK, hA, hth, hlk, hcs, rfl, rfl, rfl, rfl, rfl, rfl, rfl⟩ := hE
  intro ls H locs h1 h2 h3 h4
  exact va_get (ci := 1) (v := .ref (G.2.2.1 14)) (C := RX1) (T := TX1) (N := 26) hx hb hts in_X1 hown hK h2 0 rfl rfl 14 (by decide) (hts _ q382) (fun _ h9 => h9) rfl hd (kk ls H locs h1 h2 h3 h4)
theorem md_ld14 {E : dEnv} {l : Launch} {G : dGeo} {cc : ByteArray} {nL pc : Nat} {R : Room} {σ : dS} {xs : List Int32} {st : List Value} (hE : mdOk E l G cc nL R) {i : Int32} {τ : Type} {x : Option τ} {out : τ} (hd : decode cc pc = .ok (.iaload, 1)) (h : chk i 24 x = some out) (kk : x = some out → dG E σ (pc + 1) xs (.int (σ 14 i.toNatClampNeg) :: st)) : dG E σ pc xs (.int i :: .ref (G.2.2.1 14) :: st) := by
  obtain ⟨hi, h⟩ := chk_some h
  obtain ⟨p, l', e, R', s, m, args, below, meth, c, A, Q, nL', D, w, th, b, kc, ks⟩ := E
  obtain ⟨hx, hb, hml, hown, hts, hK, hA, hth, hlk, hcs, rfl, rfl, rfl, rfl, rfl, rfl, rfl⟩ := hE
  intro ls H locs h1 h2 h3 h4
  exact va_iald hx hb hK h2 14 13 (n := 24) (f := σ 14) rfl rfl hi hd (kk h ls H locs h1 h2 h3 h4)
theorem md_as14 {E : dEnv} {l : Launch} {G : dGeo} {cc : ByteArray} {nL pc : Nat} {R : Room} {σ : dS} {xs : List Int32} {st : List Value} (hE : mdOk E l G cc nL R) {i v : Int32} {τ : Type} {x : Option τ} {out : τ} (hd : decode cc pc = .ok (.iastore, 1)) (h : chk i 24 x = some out) (kk : x = some out → dG E (up2 σ 14 i.toNatClampNeg v) (pc + 1) xs st) : dG E σ pc xs (.int v :: .int i :: .ref (G.2.2.1 14) :: st) := by
  obtain ⟨hi, h⟩ := chk_some h
  obtain ⟨p, l', e, R', s, m, args, below, meth, c, A, Q, nL', D, w, th, b, kc, ks⟩ := E
  obtain ⟨hx, hb, hml, hown, hts, hK, hA, hth, hlk, hcs, rfl, rfl, rfl, rfl, rfl, rfl, rfl⟩ := hE
  intro ls H locs h1 h2 h3 h4
  refine va_iast hx hb hK h2 h3 h4 14 13 (n := 24) (f := σ 14) rfl rfl hi hd (fun H1 locs1 g2 g3 g4 => ?_)
  exact kk h ls H1 locs1 h1 g2 g3 g4
theorem md_gf15 {E : dEnv} {l : Launch} {G : dGeo} {cc : ByteArray} {nL pc : Nat} {R : Room} {σ : dS} {xs : List Int32} {st : List Value} (hE : mdOk E l G cc nL R) (hd : decode cc pc = .ok (.getfield 106, 3)) (kk : dG E σ (pc + 3) xs (.int (σ 15 0) :: st)) : dG E σ pc xs (.ref G.2.1 :: st) := by
  obtain ⟨p, l', e, R', s, m, args, below, meth, c, A, Q, nL', D, w, th, b, kc, ks⟩ := E
  obtain ⟨hx, hb, hml, hown, hts, hK, hA, hth, hlk, hcs, rfl, rfl, rfl, rfl, rfl, rfl, rfl⟩ := hE
  intro ls H locs h1 h2 h3 h4
  exact va_get (ci := 1) (v := .int (σ 15 0)) (C := RX1) (T := TX1) (N := 26) hx hb hts in_X1 hown hK h2 0 rfl rfl 15 (by decide) (hts _ q383) (fun _ h9 => h9) rfl hd (kk ls H locs h1 h2 h3 h4)
theorem md_pf15 {E : dEnv} {l : Launch} {G : dGeo} {cc : ByteArray} {nL pc : Nat} {R : Room} {σ : dS} {xs : List Int32} {st : List Value} (hE : mdOk E l G cc nL R) {v : Int32} (hd : decode cc pc = .ok (.putfield 106, 3)) (kk : dG E (up2 σ 15 0 v) (pc + 3) xs st) : dG E σ pc xs (.int v :: .ref G.2.1 :: st) := by
  obtain ⟨p, l', e, R', s, m, args, below, meth, c, A, Q, nL', D, w, th, b, kc, ks⟩ := E
  obtain ⟨hx, hb, hml, hown, hts, hK, hA, hth, hlk, hcs, rfl, rfl, rfl, rfl, rfl, rfl, rfl⟩ := hE
  intro ls H locs h1 h2 h3 h4
  refine va_put (ci := 1) (v := .int v) (ty := .int) (C := RX1) (T := TX1) (N := 26) hx hb hts in_X1 tyX1 tyX1_ok nmX1 hown hK h2 h3 h4 0 rfl rfl 15 (by decide) (hts _ q383) (fun _ h9 => h9) rfl (by decide +kernel) rfl rfl (Nat.le_of_ble_eq_true rfl) hd (fun H1 locs1 g2 g3 g4 => ?_)
  exact kk ls H1 locs1 h1 g2 g3 g4
theorem md_gf16 {E : dEnv} {l : Launch} {G : dGeo} {cc : ByteArray} {nL pc : Nat} {R : Room} {σ : dS} {xs : List Int32} {st : List Value} (hE : mdOk E l G cc nL R) (hd : decode cc pc = .ok (.getfield 119, 3)) (kk : dG E σ (pc + 3) xs (.int (σ 16 0) :: st)) : dG E σ pc xs (.ref G.2.1 :: st) := by
  obtain ⟨p, l', e, R', s, m, args, below, meth, c, A, Q, nL', D, w, th, b, kc, ks⟩ := E
  obtain ⟨hx, hb, hml, hown, hts, hK, hA, hth, hlk, hcs, rfl, rfl, rfl, rfl, rfl, rfl, rfl⟩ := hE
  intro ls H locs h1 h2 h3 h4
  exact va_get (ci := 1) (v := .int (σ 16 0)) (C := RX1) (T := TX1) (N := 26) hx hb hts in_X1 hown hK h2 0 rfl rfl 16 (by decide) (hts _ q384) (fun _ h9 => h9) rfl hd (kk ls H locs h1 h2 h3 h4)
theorem md_pf16 {E : dEnv} {l : Launch} {G : dGeo} {cc : ByteArray} {nL pc : Nat} {R : Room} {σ : dS} {xs : List Int32} {st : List Value} (hE : mdOk E l G cc nL R) {v : Int32} (hd : decode cc pc = .ok (.putfield 119, 3)) (kk : dG E (up2 σ 16 0 v) (pc + 3) xs st) : dG E σ pc xs (.int v :: .ref G.2.1 :: st) := by
  obtain ⟨p, l', e, R', s, m, args, below, meth, c, A, Q, nL', D, w, th, b, kc, ks⟩ := E
  obtain ⟨hx, hb, hml, hown, hts, hK, hA, hth, hlk, hcs, rfl, rfl, rfl, rfl, rfl, rfl, rfl⟩ := hE
  intro ls H locs h1 h2 h3 h4
  refine va_put (ci := 1) (v := .int v) (ty := .int) (C := RX1) (T := TX1) (N := 26) hx hb hts in_X1 tyX1 tyX1_ok nmX1 hown hK h2 h3 h4 0 rfl rfl 16 (by decide) (hts _ q384) (fun _ h9 => h9) rfl (by decide +kernel) rfl rfl (Nat.le_of_ble_eq_true rfl) hd (fun H1 locs1 g2 g3 g4 => ?_)
  exact kk ls H1 locs1 h1 g2 g3 g4
theorem md_gf17 {E : dEnv} {l : Launch} {G : dGeo} {cc : ByteArray} {nL pc : Nat} {R : Room} {σ : dS} {xs : List Int32} {st : List Value} (hE : mdOk E l G cc nL R) (hd : decode cc pc = .ok (.getfield 53, 3)) (kk : dG E σ (pc + 3) xs (.ref (G.2.2.1 17) :: st)) : dG E σ pc xs (.ref G.2.1 :: st) := by
  obtain ⟨p, l', e, R', s, m, args, below, meth, c, A, Q, nL', D, w, th, b, kc, ks⟩ := E
  obtain ⟨hx, hb, hml, hown, hts, hK, hA, hth, hlk, hcs, rfl, rfl, rfl, rfl, rfl, rfl, rfl⟩ := hE
  intro ls H locs h1 h2 h3 h4
  exact va_get (ci := 1) (v := .ref (G.2.2.1 17)) (C := RX1) (T := TX1) (N := 26) hx hb hts in_X1 hown hK h2 0 rfl rfl 17 (by decide) (hts _ q385) (fun _ h9 => h9) rfl hd (kk ls H locs h1 h2 h3 h4)
theorem md_ld17 {E : dEnv} {l : Launch} {G : dGeo} {cc : ByteArray} {nL pc : Nat} {R : Room} {σ : dS} {xs : List Int32} {st : List Value} (hE : mdOk E l G cc nL R) {i : Int32} {τ : Type} {x : Option τ} {out : τ} (hd : decode cc pc = .ok (.baload, 1)) (h : chk i 6 x = some out) (kk : x = some out → dG E σ (pc + 1) xs (.int (σ 17 i.toNatClampNeg) :: st)) : dG E σ pc xs (.int i :: .ref (G.2.2.1 17) :: st) := by
  obtain ⟨hi, h⟩ := chk_some h
  obtain ⟨p, l', e, R', s, m, args, below, meth, c, A, Q, nL', D, w, th, b, kc, ks⟩ := E
  obtain ⟨hx, hb, hml, hown, hts, hK, hA, hth, hlk, hcs, rfl, rfl, rfl, rfl, rfl, rfl, rfl⟩ := hE
  intro ls H locs h1 h2 h3 h4
  exact va_zald hx hb hK h2 15 14 (n := 6) (f := σ 17) rfl rfl hi hd (kk h ls H locs h1 h2 h3 h4)
theorem md_as17 {E : dEnv} {l : Launch} {G : dGeo} {cc : ByteArray} {nL pc : Nat} {R : Room} {σ : dS} {xs : List Int32} {st : List Value} (hE : mdOk E l G cc nL R) {i v : Int32} {τ : Type} {x : Option τ} {out : τ} (hd : decode cc pc = .ok (.bastore, 1)) (h : chk i 6 x = some out) (kk : x = some out → dG E (up2 σ 17 i.toNatClampNeg (vp_nar .boolean v)) (pc + 1) xs st) : dG E σ pc xs (.int v :: .int i :: .ref (G.2.2.1 17) :: st) := by
  obtain ⟨hi, h⟩ := chk_some h
  obtain ⟨p, l', e, R', s, m, args, below, meth, c, A, Q, nL', D, w, th, b, kc, ks⟩ := E
  obtain ⟨hx, hb, hml, hown, hts, hK, hA, hth, hlk, hcs, rfl, rfl, rfl, rfl, rfl, rfl, rfl⟩ := hE
  intro ls H locs h1 h2 h3 h4
  refine va_zast hx hb hK h2 h3 h4 15 14 (n := 6) (f := σ 17) rfl rfl hi hd (fun H1 locs1 g2 g3 g4 => ?_)
  exact kk h ls H1 locs1 h1 g2 g3 g4
theorem md_gf18 {E : dEnv} {l : Launch} {G : dGeo} {cc : ByteArray} {nL pc : Nat} {R : Room} {σ : dS} {xs : List Int32} {st : List Value} (hE : mdOk E l G cc nL R) (hd : decode cc pc = .ok (.getfield 56, 3)) (kk : dG E σ (pc + 3) xs (.ref (G.2.2.1 18) :: st)) : dG E σ pc xs (.ref G.2.1 :: st) := by
  obtain ⟨p, l', e, R', s, m, args, below, meth, c, A, Q, nL', D, w, th, b, kc, ks⟩ := E
  obtain ⟨hx, hb, hml, hown, hts, hK, hA, hth, hlk, hcs, rfl, rfl, rfl, rfl, rfl, rfl, rfl⟩ := hE
  intro ls H locs h1 h2 h3 h4
  exact va_get (ci := 1) (v := .ref (G.2.2.1 18)) (C := RX1) (T := TX1) (N := 26) hx hb hts in_X1 hown hK h2 0 rfl rfl 18 (by decide) (hts _ q386) (fun _ h9 => h9) rfl hd (kk ls H locs h1 h2 h3 h4)
theorem md_ld18 {E : dEnv} {l : Launch} {G : dGeo} {cc : ByteArray} {nL pc : Nat} {R : Room} {σ : dS} {xs : List Int32} {st : List Value} (hE : mdOk E l G cc nL R) {i : Int32} {τ : Type} {x : Option τ} {out : τ} (hd : decode cc pc = .ok (.iaload, 1)) (h : chk i 6 x = some out) (kk : x = some out → dG E σ (pc + 1) xs (.int (σ 18 i.toNatClampNeg) :: st)) : dG E σ pc xs (.int i :: .ref (G.2.2.1 18) :: st) := by
  obtain ⟨hi, h⟩ := chk_some h
  obtain ⟨p, l', e, R', s, m, args, below, meth, c, A, Q, nL', D, w, th, b, kc, ks⟩ := E
  obtain ⟨hx, hb, hml, hown, hts, hK, hA, hth, hlk, hcs, rfl, rfl, rfl, rfl, rfl, rfl, rfl⟩ := hE
  intro ls H locs h1 h2 h3 h4
  exact va_iald hx hb hK h2 16 15 (n := 6) (f := σ 18) rfl rfl hi hd (kk h ls H locs h1 h2 h3 h4)
theorem md_as18 {E : dEnv} {l : Launch} {G : dGeo} {cc : ByteArray} {nL pc : Nat} {R : Room} {σ : dS} {xs : List Int32} {st : List Value} (hE : mdOk E l G cc nL R) {i v : Int32} {τ : Type} {x : Option τ} {out : τ} (hd : decode cc pc = .ok (.iastore, 1)) (h : chk i 6 x = some out) (kk : x = some out → dG E (up2 σ 18 i.toNatClampNeg v) (pc + 1) xs st) : dG E σ pc xs (.int v :: .int i :: .ref (G.2.2.1 18) :: st) := by
  obtain ⟨hi, h⟩ := chk_some h
  obtain ⟨p, l', e, R', s, m, args, below, meth, c, A, Q, nL', D, w, th, b, kc, ks⟩ := E
  obtain ⟨hx, hb, hml, hown, hts, hK, hA, hth, hlk, hcs, rfl, rfl, rfl, rfl, rfl, rfl, rfl⟩ := hE
  intro ls H locs h1 h2 h3 h4
  refine va_iast hx hb hK h2 h3 h4 16 15 (n := 6) (f := σ 18) rfl rfl hi hd (fun H1 locs1 g2 g3 g4 => ?_)
  exact kk h ls H1 locs1 h1 g2 g3 g4
theorem md_gf19 {E : dEnv} {l : Launch} {G : dGeo} {cc : ByteArray} {nL pc : Nat} {R : Room} {σ : dS} {xs : List Int32} {st : List Value} (hE : mdOk E l G cc nL R) (hd : decode cc pc = .ok (.getfield 59, 3)) (kk : dG E σ (pc + 3) xs (.ref (G.2.2.1 19) :: st)) : dG E σ pc xs (.ref G.2.1 :: st) := by
  obtain ⟨p, l', e, R', s, m, args, below, meth, c, A, Q, nL', D, w, th, b, kc, ks⟩ := E
  obtain ⟨hx, hb, hml, hown, hts, hK, hA, hth, hlk, hcs, rfl, rfl, rfl, rfl, rfl, rfl, rfl⟩ := hE
  intro ls H locs h1 h2 h3 h4
  exact va_get (ci := 1) (v := .ref (G.2.2.1 19)) (C := RX1) (T := TX1) (N := 26) hx hb hts in_X1 hown hK h2 0 rfl rfl 19 (by decide) (hts _ q387) (fun _ h9 => h9) rfl hd (kk ls H locs h1 h2 h3 h4)
theorem md_ld19 {E : dEnv} {l : Launch} {G : dGeo} {cc : ByteArray} {nL pc : Nat} {R : Room} {σ : dS} {xs : List Int32} {st : List Value} (hE : mdOk E l G cc nL R) {i : Int32} {τ : Type} {x : Option τ} {out : τ} (hd : decode cc pc = .ok (.iaload, 1)) (h : chk i 6 x = some out) (kk : x = some out → dG E σ (pc + 1) xs (.int (σ 19 i.toNatClampNeg) :: st)) : dG E σ pc xs (.int i :: .ref (G.2.2.1 19) :: st) := by
  obtain ⟨hi, h⟩ := chk_some h
  obtain ⟨p, l', e, R', s, m, args, below, meth, c, A, Q, nL', D, w, th, b, kc, ks⟩ := E
  obtain ⟨hx, hb, hml, hown, hts, hK, hA, hth, hlk, hcs, rfl, rfl, rfl, rfl, rfl, rfl, rfl⟩ := hE
  intro ls H locs h1 h2 h3 h4
  exact va_iald hx hb hK h2 17 16 (n := 6) (f := σ 19) rfl rfl hi hd (kk h ls H locs h1 h2 h3 h4)
theorem md_as19 {E : dEnv} {l : Launch} {G : dGeo} {cc : ByteArray} {nL pc : Nat} {R : Room} {σ : dS} {xs : List Int32} {st : List Value} (hE : mdOk E l G cc nL R) {i v : Int32} {τ : Type} {x : Option τ} {out : τ} (hd : decode cc pc = .ok (.iastore, 1)) (h : chk i 6 x = some out) (kk : x = some out → dG E (up2 σ 19 i.toNatClampNeg v) (pc + 1) xs st) : dG E σ pc xs (.int v :: .int i :: .ref (G.2.2.1 19) :: st) := by
  obtain ⟨hi, h⟩ := chk_some h
  obtain ⟨p, l', e, R', s, m, args, below, meth, c, A, Q, nL', D, w, th, b, kc, ks⟩ := E
  obtain ⟨hx, hb, hml, hown, hts, hK, hA, hth, hlk, hcs, rfl, rfl, rfl, rfl, rfl, rfl, rfl⟩ := hE
  intro ls H locs h1 h2 h3 h4
  refine va_iast hx hb hK h2 h3 h4 17 16 (n := 6) (f := σ 19) rfl rfl hi hd (fun H1 locs1 g2 g3 g4 => ?_)
  exact kk h ls H1 locs1 h1 g2 g3 g4
theorem md_gf20 {E : dEnv} {l : Launch} {G : dGeo} {cc : ByteArray} {nL pc : Nat} {R : Room} {σ : dS} {xs : List Int32} {st : List Value} (hE : mdOk E l G cc nL R) (hd : decode cc pc = .ok (.getfield 62, 3)) (kk : dG E σ (pc + 3) xs (.ref (G.2.2.1 20) :: st)) : dG E σ pc xs (.ref G.2.1 :: st) := by
  obtain ⟨p, l', e, R', s, m, args, below, meth, c, A, Q, nL', D, w, th, b, kc, ks⟩ := E
  obtain ⟨hx, hb, hml, hown, hts, hK, hA, hth, hlk, hcs, rfl, rfl, rfl, rfl, rfl, rfl, rfl⟩ := hE
  intro ls H locs h1 h2 h3 h4
  exact va_get (ci := 1) (v := .ref (G.2.2.1 20)) (C := RX1) (T := TX1) (N := 26) hx hb hts in_X1 hown hK h2 0 rfl rfl 20 (by decide) (hts _ q388) (fun _ h9 => h9) rfl hd (kk ls H locs h1 h2 h3 h4)
theorem md_ld20 {E : dEnv} {l : Launch} {G : dGeo} {cc : ByteArray} {nL pc : Nat} {R : Room} {σ : dS} {xs : List Int32} {st : List Value} (hE : mdOk E l G cc nL R) {i : Int32} {τ : Type} {x : Option τ} {out : τ} (hd : decode cc pc = .ok (.iaload, 1)) (h : chk i 6 x = some out) (kk : x = some out → dG E σ (pc + 1) xs (.int (σ 20 i.toNatClampNeg) :: st)) : dG E σ pc xs (.int i :: .ref (G.2.2.1 20) :: st) := by
  obtain ⟨hi, h⟩ := chk_some h
  obtain ⟨p, l', e, R', s, m, args, below, meth, c, A, Q, nL', D, w, th, b, kc, ks⟩ := E
  obtain ⟨hx, hb, hml, hown, hts, hK, hA, hth, hlk, hcs, rfl, rfl, rfl, rfl, rfl, rfl, rfl⟩ := hE
  intro ls H locs h1 h2 h3 h4
  exact va_iald hx hb hK h2 18 17 (n := 6) (f := σ 20) rfl rfl hi hd (kk h ls H locs h1 h2 h3 h4)
theorem md_as20 {E : dEnv} {l : Launch} {G : dGeo} {cc : ByteArray} {nL pc : Nat} {R : Room} {σ : dS} {xs : List Int32} {st : List Value} (hE : mdOk E l G cc nL R) {i v : Int32} {τ : Type} {x : Option τ} {out : τ} (hd : decode cc pc = .ok (.iastore, 1)) (h : chk i 6 x = some out) (kk : x = some out → dG E (up2 σ 20 i.toNatClampNeg v) (pc + 1) xs st) : dG E σ pc xs (.int v :: .int i :: .ref (G.2.2.1 20) :: st) := by
  obtain ⟨hi, h⟩ := chk_some h
  obtain ⟨p, l', e, R', s, m, args, below, meth, c, A, Q, nL', D, w, th, b, kc, ks⟩ := E
  obtain ⟨hx, hb, hml, hown, hts, hK, hA, hth, hlk, hcs, rfl, rfl, rfl, rfl, rfl, rfl, rfl⟩ := hE
  intro ls H locs h1 h2 h3 h4
  refine va_iast hx hb hK h2 h3 h4 18 17 (n := 6) (f := σ 20) rfl rfl hi hd (fun H1 locs1 g2 g3 g4 => ?_)
  exact kk h ls H1 locs1 h1 g2 g3 g4
theorem md_gf21 {E : dEnv} {l : Launch} {G : dGeo} {cc : ByteArray} {nL pc : Nat} {R : Room} {σ : dS} {xs : List Int32} {st : List Value} (hE : mdOk E l G cc nL R) (hd : decode cc pc = .ok (.getfield 65, 3)) (kk : dG E σ (pc + 3) xs (.ref (G.2.2.1 21) :: st)) : dG E σ pc xs (.ref G.2.1 :: st) := by
  obtain ⟨p, l', e, R', s, m, args, below, meth, c, A, Q, nL', D, w, th, b, kc, ks⟩ := E
  obtain ⟨hx, hb, hml, hown, hts, hK, hA, hth, hlk, hcs, rfl, rfl, rfl, rfl, rfl, rfl, rfl⟩ := hE
  intro ls H locs h1 h2 h3 h4
  exact va_get (ci := 1) (v := .ref (G.2.2.1 21)) (C := RX1) (T := TX1) (N := 26) hx hb hts in_X1 hown hK h2 0 rfl rfl 21 (by decide) (hts _ q389) (fun _ h9 => h9) rfl hd (kk ls H locs h1 h2 h3 h4)
theorem md_ld21 {E : dEnv} {l : Launch} {G : dGeo} {cc : ByteArray} {nL pc : Nat} {R : Room} {σ : dS} {xs : List Int32} {st : List Value} (hE : mdOk E l G cc nL R) {i : Int32} {τ : Type} {x : Option τ} {out : τ} (hd : decode cc pc = .ok (.iaload, 1)) (h : chk i 6 x = some out) (kk : x = some out → dG E σ (pc + 1) xs (.int (σ 21 i.toNatClampNeg) :: st)) : dG E σ pc xs (.int i :: .ref (G.2.2.1 21) :: st) := by
  obtain ⟨hi, h⟩ := chk_some h
  obtain ⟨p, l', e, R', s, m, args, below, meth, c, A, Q, nL', D, w, th, b, kc, ks⟩ := E
  obtain ⟨hx, hb, hml, hown, hts, hK, hA, hth, hlk, hcs, rfl, rfl, rfl, rfl, rfl, rfl, rfl⟩ := hE
  intro ls H locs h1 h2 h3 h4
  exact va_iald hx hb hK h2 19 18 (n := 6) (f := σ 21) rfl rfl hi hd (kk h ls H locs h1 h2 h3 h4)
theorem md_as21 {E : dEnv} {l : Launch} {G : dGeo} {cc : ByteArray} {nL pc : Nat} {R : Room} {σ : dS} {xs : List Int32} {st : List Value} (hE : mdOk E l G cc nL R) {i v : Int32} {τ : Type} {x : Option τ} {out : τ} (hd : decode cc pc = .ok (.iastore, 1)) (h : chk i 6 x = some out) (kk : x = some out → dG E (up2 σ 21 i.toNatClampNeg v) (pc + 1) xs st) : dG E σ pc xs (.int v :: .int i :: .ref (G.2.2.1 21) :: st) := by
  obtain ⟨hi, h⟩ := chk_some h
  obtain ⟨p, l', e, R', s, m, args, below, meth, c, A, Q, nL', D, w, th, b, kc, ks⟩ := E
  obtain ⟨hx, hb, hml, hown, hts, hK, hA, hth, hlk, hcs, rfl, rfl, rfl, rfl, rfl, rfl, rfl⟩ := hE
  intro ls H locs h1 h2 h3 h4
  refine va_iast hx hb hK h2 h3 h4 19 18 (n := 6) (f := σ 21) rfl rfl hi hd (fun H1 locs1 g2 g3 g4 => ?_)
  exact kk h ls H1 locs1 h1 g2 g3 g4
theorem md_gf22 {E : dEnv} {l : Launch} {G : dGeo} {cc : ByteArray} {nL pc : Nat} {R : Room} {σ : dS} {xs : List Int32} {st : List Value} (hE : mdOk E l G cc nL R) (hd : decode cc pc = .ok (.getfield 68, 3)) (kk : dG E σ (pc + 3) xs (.ref (G.2.2.1 22) :: st)) : dG E σ pc xs (.ref G.2.1 :: st) := by
  obtain ⟨p, l', e, R', s, m, args, below, meth, c, A, Q, nL', D, w, th, b, kc, ks⟩ := E
  obtain ⟨hx, hb, hml, hown, hts, hK, hA, hth, hlk, hcs, rfl, rfl, rfl, rfl, rfl, rfl, rfl⟩ := hE
  intro ls H locs h1 h2 h3 h4
  exact va_get (ci := 1) (v := .ref (G.2.2.1 22)) (C := RX1) (T := TX1) (N := 26) hx hb hts in_X1 hown hK h2 0 rfl rfl 22 (by decide) (hts _ q390) (fun _ h9 => h9) rfl hd (kk ls H locs h1 h2 h3 h4)
theorem md_ld22 {E : dEnv} {l : Launch} {G : dGeo} {cc : ByteArray} {nL pc : Nat} {R : Room} {σ : dS} {xs : List Int32} {st : List Value} (hE : mdOk E l G cc nL R) {i : Int32} {τ : Type} {x : Option τ} {out : τ} (hd : decode cc pc = .ok (.iaload, 1)) (h : chk i 3000 x = some out) (kk : x = some out → dG E σ (pc + 1) xs (.int (σ 22 i.toNatClampNeg) :: st)) : dG E σ pc xs (.int i :: .ref (G.2.2.1 22) :: st) := by
  obtain ⟨hi, h⟩ := chk_some h
  obtain ⟨p, l', e, R', s, m, args, below, meth, c, A, Q, nL', D, w, th, b, kc, ks⟩ := E
  obtain ⟨hx, hb, hml, hown, hts, hK, hA, hth, hlk, hcs, rfl, rfl, rfl, rfl, rfl, rfl, rfl⟩ := hE
  intro ls H locs h1 h2 h3 h4
  exact va_iald hx hb hK h2 20 19 (n := 3000) (f := σ 22) rfl rfl hi hd (kk h ls H locs h1 h2 h3 h4)
theorem md_as22 {E : dEnv} {l : Launch} {G : dGeo} {cc : ByteArray} {nL pc : Nat} {R : Room} {σ : dS} {xs : List Int32} {st : List Value} (hE : mdOk E l G cc nL R) {i v : Int32} {τ : Type} {x : Option τ} {out : τ} (hd : decode cc pc = .ok (.iastore, 1)) (h : chk i 3000 x = some out) (kk : x = some out → dG E (up2 σ 22 i.toNatClampNeg v) (pc + 1) xs st) : dG E σ pc xs (.int v :: .int i :: .ref (G.2.2.1 22) :: st) := by
  obtain ⟨hi, h⟩ := chk_some h
  obtain ⟨p, l', e, R', s, m, args, below, meth, c, A, Q, nL', D, w, th, b, kc, ks⟩ := E
  obtain ⟨hx, hb, hml, hown, hts, hK, hA, hth, hlk, hcs, rfl, rfl, rfl, rfl, rfl, rfl, rfl⟩ := hE
  intro ls H locs h1 h2 h3 h4
  refine va_iast hx hb hK h2 h3 h4 20 19 (n := 3000) (f := σ 22) rfl rfl hi hd (fun H1 locs1 g2 g3 g4 => ?_)
  exact kk h ls H1 locs1 h1 g2 g3 g4
theorem md_gf23 {E : dEnv} {l : Launch} {G : dGeo} {cc : ByteArray} {nL pc : Nat} {R : Room} {σ : dS} {xs : List Int32} {st : List Value} (hE : mdOk E l G cc nL R) (hd : decode cc pc = .ok (.getfield 71, 3)) (kk : dG E σ (pc + 3) xs (.ref (G.2.2.1 23) :: st)) : dG E σ pc xs (.ref G.2.1 :: st) := by
  obtain ⟨p, l', e, R', s, m, args, below, meth, c, A, Q, nL', D, w, th, b, kc, ks⟩ := E
  obtain ⟨hx, hb, hml, hown, hts, hK, hA, hth, hlk, hcs, rfl, rfl, rfl, rfl, rfl, rfl, rfl⟩ := hE
  intro ls H locs h1 h2 h3 h4
  exact va_get (ci := 1) (v := .ref (G.2.2.1 23)) (C := RX1) (T := TX1) (N := 26) hx hb hts in_X1 hown hK h2 0 rfl rfl 23 (by decide) (hts _ q391) (fun _ h9 => h9) rfl hd (kk ls H locs h1 h2 h3 h4)
theorem md_ld23 {E : dEnv} {l : Launch} {G : dGeo} {cc : ByteArray} {nL pc : Nat} {R : Room} {σ : dS} {xs : List Int32} {st : List Value} (hE : mdOk E l G cc nL R) {i : Int32} {τ : Type} {x : Option τ} {out : τ} (hd : decode cc pc = .ok (.iaload, 1)) (h : chk i 3000 x = some out) (kk : x = some out → dG E σ (pc + 1) xs (.int (σ 23 i.toNatClampNeg) :: st)) : dG E σ pc xs (.int i :: .ref (G.2.2.1 23) :: st) := by
  obtain ⟨hi, h⟩ := chk_some h
  obtain ⟨p, l', e, R', s, m, args, below, meth, c, A, Q, nL', D, w, th, b, kc, ks⟩ := E
  obtain ⟨hx, hb, hml, hown, hts, hK, hA, hth, hlk, hcs, rfl, rfl, rfl, rfl, rfl, rfl, rfl⟩ := hE
  intro ls H locs h1 h2 h3 h4
  exact va_iald hx hb hK h2 21 20 (n := 3000) (f := σ 23) rfl rfl hi hd (kk h ls H locs h1 h2 h3 h4)
theorem md_as23 {E : dEnv} {l : Launch} {G : dGeo} {cc : ByteArray} {nL pc : Nat} {R : Room} {σ : dS} {xs : List Int32} {st : List Value} (hE : mdOk E l G cc nL R) {i v : Int32} {τ : Type} {x : Option τ} {out : τ} (hd : decode cc pc = .ok (.iastore, 1)) (h : chk i 3000 x = some out) (kk : x = some out → dG E (up2 σ 23 i.toNatClampNeg v) (pc + 1) xs st) : dG E σ pc xs (.int v :: .int i :: .ref (G.2.2.1 23) :: st) := by
  obtain ⟨hi, h⟩ := chk_some h
  obtain ⟨p, l', e, R', s, m, args, below, meth, c, A, Q, nL', D, w, th, b, kc, ks⟩ := E
  obtain ⟨hx, hb, hml, hown, hts, hK, hA, hth, hlk, hcs, rfl, rfl, rfl, rfl, rfl, rfl, rfl⟩ := hE
  intro ls H locs h1 h2 h3 h4
  refine va_iast hx hb hK h2 h3 h4 21 20 (n := 3000) (f := σ 23) rfl rfl hi hd (fun H1 locs1 g2 g3 g4 => ?_)
  exact kk h ls H1 locs1 h1 g2 g3 g4
theorem md_gf24 {E : dEnv} {l : Launch} {G : dGeo} {cc : ByteArray} {nL pc : Nat} {R : Room} {σ : dS} {xs : List Int32} {st : List Value} (hE : mdOk E l G cc nL R) (hd : decode cc pc = .ok (.getfield 74, 3)) (kk : dG E σ (pc + 3) xs (.ref (G.2.2.1 24) :: st)) : dG E σ pc xs (.ref G.2.1 :: st) := by
  obtain ⟨p, l', e, R', s, m, args, below, meth, c, A, Q, nL', D, w, th, b, kc, ks⟩ := E
  obtain ⟨hx, hb, hml, hown, hts, hK, hA, hth, hlk, hcs, rfl, rfl, rfl, rfl, rfl, rfl, rfl⟩ := hE
  intro ls H locs h1 h2 h3 h4
  exact va_get (ci := 1) (v := .ref (G.2.2.1 24)) (C := RX1) (T := TX1) (N := 26) hx hb hts in_X1 hown hK h2 0 rfl rfl 24 (by decide) (hts _ q392) (fun _ h9 => h9) rfl hd (kk ls H locs h1 h2 h3 h4)
theorem md_ld24 {E : dEnv} {l : Launch} {G : dGeo} {cc : ByteArray} {nL pc : Nat} {R : Room} {σ : dS} {xs : List Int32} {st : List Value} (hE : mdOk E l G cc nL R) {i : Int32} {τ : Type} {x : Option τ} {out : τ} (hd : decode cc pc = .ok (.iaload, 1)) (h : chk i 100 x = some out) (kk : x = some out → dG E σ (pc + 1) xs (.int (σ 24 i.toNatClampNeg) :: st)) : dG E σ pc xs (.int i :: .ref (G.2.2.1 24) :: st) := by
  obtain ⟨hi, h⟩ := chk_some h
  obtain ⟨p, l', e, R', s, m, args, below, meth, c, A, Q, nL', D, w, th, b, kc, ks⟩ := E
  obtain ⟨hx, hb, hml, hown, hts, hK, hA, hth, hlk, hcs, rfl, rfl, rfl, rfl, rfl, rfl, rfl⟩ := hE
  intro ls H locs h1 h2 h3 h4
  exact va_iald hx hb hK h2 22 21 (n := 100) (f := σ 24) rfl rfl hi hd (kk h ls H locs h1 h2 h3 h4)
theorem md_as24 {E : dEnv} {l : Launch} {G : dGeo} {cc : ByteArray} {nL pc : Nat} {R : Room} {σ : dS} {xs : List Int32} {st : List Value} (hE : mdOk E l G cc nL R) {i v : Int32} {τ : Type} {x : Option τ} {out : τ} (hd : decode cc pc = .ok (.iastore, 1)) (h : chk i 100 x = some out) (kk : x = some out → dG E (up2 σ 24 i.toNatClampNeg v) (pc + 1) xs st) : dG E σ pc xs (.int v :: .int i :: .ref (G.2.2.1 24) :: st) := by
  obtain ⟨hi, h⟩ := chk_some h
  obtain ⟨p, l', e, R', s, m, args, below, meth, c, A, Q, nL', D, w, th, b, kc, ks⟩ := E
  obtain ⟨hx, hb, hml, hown, hts, hK, hA, hth, hlk, hcs, rfl, rfl, rfl, rfl, rfl, rfl, rfl⟩ := hE
  intro ls H locs h1 h2 h3 h4
  refine va_iast hx hb hK h2 h3 h4 22 21 (n := 100) (f := σ 24) rfl rfl hi hd (fun H1 locs1 g2 g3 g4 => ?_)
  exact kk h ls H1 locs1 h1 g2 g3 g4
theorem md_gf25 {E : dEnv} {l : Launch} {G : dGeo} {cc : ByteArray} {nL pc : Nat} {R : Room} {σ : dS} {xs : List Int32} {st : List Value} (hE : mdOk E l G cc nL R) (hd : decode cc pc = .ok (.getfield 179, 3)) (kk : dG E σ (pc + 3) xs (.int (σ 25 0) :: st)) : dG E σ pc xs (.ref G.2.1 :: st) := by
  obtain ⟨p, l', e, R', s, m, args, below, meth, c, A, Q, nL', D, w, th, b, kc, ks⟩ := E
  obtain ⟨hx, hb, hml, hown, hts, hK, hA, hth, hlk, hcs, rfl, rfl, rfl, rfl, rfl, rfl, rfl⟩ := hE
  intro ls H locs h1 h2 h3 h4
  exact va_get (ci := 1) (v := .int (σ 25 0)) (C := RX1) (T := TX1) (N := 26) hx hb hts in_X1 hown hK h2 0 rfl rfl 25 (by decide) (hts _ q393) (fun _ h9 => h9) rfl hd (kk ls H locs h1 h2 h3 h4)
theorem md_pf25 {E : dEnv} {l : Launch} {G : dGeo} {cc : ByteArray} {nL pc : Nat} {R : Room} {σ : dS} {xs : List Int32} {st : List Value} (hE : mdOk E l G cc nL R) {v : Int32} (hd : decode cc pc = .ok (.putfield 179, 3)) (kk : dG E (up2 σ 25 0 v) (pc + 3) xs st) : dG E σ pc xs (.int v :: .ref G.2.1 :: st) := by
  obtain ⟨p, l', e, R', s, m, args, below, meth, c, A, Q, nL', D, w, th, b, kc, ks⟩ := E
  obtain ⟨hx, hb, hml, hown, hts, hK, hA, hth, hlk, hcs, rfl, rfl, rfl, rfl, rfl, rfl, rfl⟩ := hE
  intro ls H locs h1 h2 h3 h4
  refine va_put (ci := 1) (v := .int v) (ty := .int) (C := RX1) (T := TX1) (N := 26) hx hb hts in_X1 tyX1 tyX1_ok nmX1 hown hK h2 h3 h4 0 rfl rfl 25 (by decide) (hts _ q393) (fun _ h9 => h9) rfl (by decide +kernel) rfl rfl (Nat.le_of_ble_eq_true rfl) hd (fun H1 locs1 g2 g3 g4 => ?_)
  exact kk ls H1 locs1 h1 g2 g3 g4
