theorem q178 : (Jvm.Cond.arrayClass Jvm.ClassFile.FieldType.byte) ∈ lw_all := lw_g (lw_at lw_m1 129 rfl) rfl
set_option maxRecDepth 100000
theorem q179 : (Jvm.Cond.arrayClass Jvm.ClassFile.FieldType.int) ∈ lw_all := lw_g (lw_at lw_m1 130 rfl) rfl
theorem q180 : (Jvm.Cond.arrayClass Jvm.ClassFile.FieldType.boolean) ∈ lw_all := lw_g (lw_at lw_m1 131 rfl) rfl
theorem q49 : (Jvm.Cond.initialized "TransletDeskLaw") ∈ lw_all := lw_g (lw_at lw_m1 0 rfl) rfl
set_option maxRecDepth 100000
theorem q52 : (Jvm.Cond.classLink "TransletDeskLaw" (7 : Nat) "TransletDesk") ∈ lw_all := lw_g (lw_at lw_m1 3 rfl) rfl
theorem q54 : (Jvm.Cond.methodLink "TransletDeskLaw" (9 : Nat) ({ cls := "TransletDesk", name := "<init>", desc := "()V" } : Jvm.MethodName)) ∈ lw_all := lw_g (lw_at lw_m1 5 rfl) rfl
theorem q181 : (Jvm.Cond.methodLink "TransletDeskLaw" (13 : Nat) ({ cls := "TransletDesk", name := "insert", desc := "(III)I" } : Jvm.MethodName)) ∈ lw_all := lw_g (lw_at lw_m1 132 rfl) rfl
theorem q204 : (Jvm.Cond.methodLink "TransletDeskLaw" (18 : Nat) ({ cls := "TransletDesk", name := "remove", desc := "(I)I" } : Jvm.MethodName)) ∈ lw_all := lw_g (lw_at lw_m1 155 rfl) rfl
theorem q220 : (Jvm.Cond.methodLink "TransletDeskLaw" (23 : Nat) ({ cls := "TransletDesk", name := "move", desc := "(III)Z" } : Jvm.MethodName)) ∈ lw_all := lw_g (lw_at lw_m1 171 rfl) rfl
theorem q224 : (Jvm.Cond.methodLink "TransletDeskLaw" (28 : Nat) ({ cls := "TransletDesk", name := "change", desc := "(III)Z" } : Jvm.MethodName)) ∈ lw_all := lw_g (lw_at lw_m1 175 rfl) rfl
theorem q228 : (Jvm.Cond.methodLink "TransletDeskLaw" (32 : Nat) ({ cls := "TransletDesk", name := "child", desc := "(II)I" } : Jvm.MethodName)) ∈ lw_all := lw_g (lw_at lw_m1 179 rfl) rfl
theorem q232 : (Jvm.Cond.methodLink "TransletDeskLaw" (37 : Nat) ({ cls := "TransletDesk", name := "token", desc := "(II)I" } : Jvm.MethodName)) ∈ lw_all := lw_g (lw_at lw_m1 183 rfl) rfl
theorem q236 : (Jvm.Cond.methodLink "TransletDeskLaw" (41 : Nat) ({ cls := "TransletDesk", name := "expression", desc := "(I)I" } : Jvm.MethodName)) ∈ lw_all := lw_g (lw_at lw_m1 187 rfl) rfl
theorem q250 : (Jvm.Cond.methodLink "TransletDeskLaw" (45 : Nat) ({ cls := "TransletDesk", name := "size", desc := "(II)I" } : Jvm.MethodName)) ∈ lw_all := lw_g (lw_at lw_m1 201 rfl) rfl
theorem q322 : (Jvm.Cond.methodLink "TransletDeskLaw" (49 : Nat) ({ cls := "TransletDesk", name := "at", desc := "(III)I" } : Jvm.MethodName)) ∈ lw_all := lw_g (lw_at lw_m2 33 rfl) rfl
theorem q326 : (Jvm.Cond.methodLink "TransletDeskLaw" (53 : Nat) ({ cls := "TransletDesk", name := "number", desc := "(II)I" } : Jvm.MethodName)) ∈ lw_all := lw_g (lw_at lw_m2 37 rfl) rfl
theorem q330 : (Jvm.Cond.methodLink "TransletDeskLaw" (57 : Nat) ({ cls := "TransletDesk", name := "holds", desc := "(II)Z" } : Jvm.MethodName)) ∈ lw_all := lw_g (lw_at lw_m2 41 rfl) rfl
theorem q334 : (Jvm.Cond.methodLink "TransletDeskLaw" (62 : Nat) ({ cls := "TransletDesk", name := "template", desc := "(IIIII)Z" } : Jvm.MethodName)) ∈ lw_all := lw_g (lw_at lw_m2 45 rfl) rfl
theorem q338 : (Jvm.Cond.methodLink "TransletDeskLaw" (67 : Nat) ({ cls := "TransletDesk", name := "drop", desc := "(I)Z" } : Jvm.MethodName)) ∈ lw_all := lw_g (lw_at lw_m2 49 rfl) rfl
theorem q342 : (Jvm.Cond.methodLink "TransletDeskLaw" (72 : Nat) ({ cls := "TransletDesk", name := "matches", desc := "(II)Z" } : Jvm.MethodName)) ∈ lw_all := lw_g (lw_at lw_m2 53 rfl) rfl
theorem q350 : (Jvm.Cond.methodLink "TransletDeskLaw" (76 : Nat) ({ cls := "TransletDesk", name := "transform", desc := "(I)I" } : Jvm.MethodName)) ∈ lw_all := lw_g (lw_at lw_m2 61 rfl) rfl
theorem q358 : (Jvm.Cond.methodLink "TransletDeskLaw" (80 : Nat) ({ cls := "TransletDesk", name := "output", desc := "(I)I" } : Jvm.MethodName)) ∈ lw_all := lw_g (lw_at lw_m2 69 rfl) rfl
theorem q362 : (Jvm.Cond.classLink "TransletDeskLaw" (10 : Nat) "TransletDeskModel") ∈ lw_all := lw_g (lw_at lw_m2 73 rfl) rfl
theorem q364 : (Jvm.Cond.methodLink "TransletDeskLaw" (12 : Nat) ({ cls := "TransletDeskModel", name := "<init>", desc := "()V" } : Jvm.MethodName)) ∈ lw_all := lw_g (lw_at lw_m2 75 rfl) rfl
theorem q447 : (Jvm.Cond.methodLink "TransletDeskLaw" (17 : Nat) ({ cls := "TransletDeskModel", name := "insert", desc := "(III)I" } : Jvm.MethodName)) ∈ lw_all := lw_g (lw_at lw_m2 158 rfl) rfl
theorem q470 : (Jvm.Cond.methodLink "TransletDeskLaw" (22 : Nat) ({ cls := "TransletDeskModel", name := "remove", desc := "(I)I" } : Jvm.MethodName)) ∈ lw_all := lw_g (lw_at lw_m2 181 rfl) rfl
theorem q474 : (Jvm.Cond.methodLink "TransletDeskLaw" (27 : Nat) ({ cls := "TransletDeskModel", name := "move", desc := "(III)Z" } : Jvm.MethodName)) ∈ lw_all := lw_g (lw_at lw_m2 185 rfl) rfl
theorem q482 : (Jvm.Cond.methodLink "TransletDeskLaw" (31 : Nat) ({ cls := "TransletDeskModel", name := "change", desc := "(III)Z" } : Jvm.MethodName)) ∈ lw_all := lw_g (lw_at lw_m2 193 rfl) rfl
theorem q486 : (Jvm.Cond.methodLink "TransletDeskLaw" (36 : Nat) ({ cls := "TransletDeskModel", name := "child", desc := "(II)I" } : Jvm.MethodName)) ∈ lw_all := lw_g (lw_at lw_m2 197 rfl) rfl
theorem q490 : (Jvm.Cond.methodLink "TransletDeskLaw" (40 : Nat) ({ cls := "TransletDeskModel", name := "token", desc := "(II)I" } : Jvm.MethodName)) ∈ lw_all := lw_g (lw_at lw_m2 201 rfl) rfl
theorem q494 : (Jvm.Cond.methodLink "TransletDeskLaw" (44 : Nat) ({ cls := "TransletDeskModel", name := "expression", desc := "(I)I" } : Jvm.MethodName)) ∈ lw_all := lw_g (lw_at lw_m2 205 rfl) rfl
theorem q508 : (Jvm.Cond.methodLink "TransletDeskLaw" (48 : Nat) ({ cls := "TransletDeskModel", name := "size", desc := "(II)I" } : Jvm.MethodName)) ∈ lw_all := lw_g (lw_at lw_m2 219 rfl) rfl
theorem q580 : (Jvm.Cond.methodLink "TransletDeskLaw" (52 : Nat) ({ cls := "TransletDeskModel", name := "at", desc := "(III)I" } : Jvm.MethodName)) ∈ lw_all := lw_g (lw_at lw_m3 51 rfl) rfl
theorem q584 : (Jvm.Cond.methodLink "TransletDeskLaw" (56 : Nat) ({ cls := "TransletDeskModel", name := "number", desc := "(II)I" } : Jvm.MethodName)) ∈ lw_all := lw_g (lw_at lw_m3 55 rfl) rfl
theorem q588 : (Jvm.Cond.methodLink "TransletDeskLaw" (61 : Nat) ({ cls := "TransletDeskModel", name := "holds", desc := "(II)Z" } : Jvm.MethodName)) ∈ lw_all := lw_g (lw_at lw_m3 59 rfl) rfl
theorem q592 : (Jvm.Cond.methodLink "TransletDeskLaw" (66 : Nat) ({ cls := "TransletDeskModel", name := "template", desc := "(IIIII)Z" } : Jvm.MethodName)) ∈ lw_all := lw_g (lw_at lw_m3 63 rfl) rfl
theorem q596 : (Jvm.Cond.methodLink "TransletDeskLaw" (71 : Nat) ({ cls := "TransletDeskModel", name := "drop", desc := "(I)Z" } : Jvm.MethodName)) ∈ lw_all := lw_g (lw_at lw_m3 67 rfl) rfl
theorem q600 : (Jvm.Cond.methodLink "TransletDeskLaw" (75 : Nat) ({ cls := "TransletDeskModel", name := "matches", desc := "(II)Z" } : Jvm.MethodName)) ∈ lw_all := lw_g (lw_at lw_m3 71 rfl) rfl
theorem q604 : (Jvm.Cond.methodLink "TransletDeskLaw" (79 : Nat) ({ cls := "TransletDeskModel", name := "transform", desc := "(I)I" } : Jvm.MethodName)) ∈ lw_all := lw_g (lw_at lw_m3 75 rfl) rfl
theorem q617 : (Jvm.Cond.methodLink "TransletDeskLaw" (83 : Nat) ({ cls := "TransletDeskModel", name := "output", desc := "(I)I" } : Jvm.MethodName)) ∈ lw_all := lw_g (lw_at lw_m3 88 rfl) rfl
