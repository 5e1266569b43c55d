-- ===== PART A: goes FIRST, ahead of the names: the tables' words, and 'selects' of the private methods out of them =====
/-- a private method of a class that the tables say can be made, by its rows of tables_1 -/
def lw_okq (q : MethodName × Nat) : Prop := (q.1.cls ≠ "java/lang/invoke/MethodHandle" ∧ q.1.cls ≠ "java/lang/invoke/VarHandle") ∧ Cond.instantiable q.1.cls q.2 ∈ tables_1 ∧ Cond.privateMethod q.1 ∈ tables_1 ∧ Cond.instanceMethod q.1 ∈ tables_1
set_option maxRecDepth 100000
theorem lw_t1 {w : Cond} (h : w ∈ tables_1_1) : w ∈ tables_1 := List.mem_append_left _ h
theorem lw_t2 {w : Cond} (h : w ∈ tables_1_2) : w ∈ tables_1 := List.mem_append_right _ (List.mem_append_left _ h)
theorem lw_t3 {w : Cond} (h : w ∈ tables_1_3) : w ∈ tables_1 := List.mem_append_right _ (List.mem_append_right _ h)
theorem lw_p0 : lw_okq (⟨"TransletDesk", "isNode", "(I)Z"⟩, 39) := ⟨⟨by decide +kernel, by decide +kernel⟩, lw_t1 (List.mem_of_getElem? (i := 4) rfl), lw_t1 (List.mem_of_getElem? (i := 140) rfl), lw_t1 (List.mem_of_getElem? (i := 141) rfl)⟩
theorem lw_p1 : lw_okq (⟨"TransletDesk", "many", "(I)I"⟩, 39) := ⟨⟨by decide +kernel, by decide +kernel⟩, lw_t1 (List.mem_of_getElem? (i := 4) rfl), lw_t1 (List.mem_of_getElem? (i := 144) rfl), lw_t1 (List.mem_of_getElem? (i := 145) rfl)⟩
theorem lw_p2 : lw_okq (⟨"TransletDesk", "link", "(III)V"⟩, 39) := ⟨⟨by decide +kernel, by decide +kernel⟩, lw_t1 (List.mem_of_getElem? (i := 4) rfl), lw_t1 (List.mem_of_getElem? (i := 148) rfl), lw_t1 (List.mem_of_getElem? (i := 149) rfl)⟩
theorem lw_p3 : lw_okq (⟨"TransletDesk", "changed", "()V"⟩, 39) := ⟨⟨by decide +kernel, by decide +kernel⟩, lw_t1 (List.mem_of_getElem? (i := 4) rfl), lw_t1 (List.mem_of_getElem? (i := 152) rfl), lw_t1 (List.mem_of_getElem? (i := 153) rfl)⟩
theorem lw_p4 : lw_okq (⟨"TransletDesk", "count", "()V"⟩, 39) := ⟨⟨by decide +kernel, by decide +kernel⟩, lw_t1 (List.mem_of_getElem? (i := 4) rfl), lw_t1 (List.mem_of_getElem? (i := 160) rfl), lw_t1 (List.mem_of_getElem? (i := 161) rfl)⟩
theorem lw_p5 : lw_okq (⟨"TransletDesk", "onward", "(II)I"⟩, 39) := ⟨⟨by decide +kernel, by decide +kernel⟩, lw_t1 (List.mem_of_getElem? (i := 4) rfl), lw_t1 (List.mem_of_getElem? (i := 164) rfl), lw_t1 (List.mem_of_getElem? (i := 165) rfl)⟩
theorem lw_p6 : lw_okq (⟨"TransletDesk", "unlink", "(I)V"⟩, 39) := ⟨⟨by decide +kernel, by decide +kernel⟩, lw_t1 (List.mem_of_getElem? (i := 4) rfl), lw_t1 (List.mem_of_getElem? (i := 168) rfl), lw_t1 (List.mem_of_getElem? (i := 169) rfl)⟩
theorem lw_p7 : lw_okq (⟨"TransletDesk", "read", "()Z"⟩, 39) := ⟨⟨by decide +kernel, by decide +kernel⟩, lw_t1 (List.mem_of_getElem? (i := 4) rfl), lw_t1 (List.mem_of_getElem? (i := 192) rfl), lw_t1 (List.mem_of_getElem? (i := 193) rfl)⟩
theorem lw_p8 : lw_okq (⟨"TransletDesk", "isThere", "(II)Z"⟩, 39) := ⟨⟨by decide +kernel, by decide +kernel⟩, lw_t1 (List.mem_of_getElem? (i := 4) rfl), lw_t1 (List.mem_of_getElem? (i := 206) rfl), lw_t1 (List.mem_of_getElem? (i := 207) rfl)⟩
theorem lw_p9 : lw_okq (⟨"TransletDesk", "resultAt", "(II)I"⟩, 39) := ⟨⟨by decide +kernel, by decide +kernel⟩, lw_t1 (List.mem_of_getElem? (i := 4) rfl), lw_t1 (List.mem_of_getElem? (i := 210) rfl), lw_t1 (List.mem_of_getElem? (i := 211) rfl)⟩
theorem lw_p10 : lw_okq (⟨"TransletDesk", "learn", "(I)V"⟩, 39) := ⟨⟨by decide +kernel, by decide +kernel⟩, lw_t1 (List.mem_of_getElem? (i := 4) rfl), lw_t1 (List.mem_of_getElem? (i := 214) rfl), lw_t1 (List.mem_of_getElem? (i := 215) rfl)⟩
theorem lw_p11 : lw_okq (⟨"TransletDesk", "step", "(II)V"⟩, 39) := ⟨⟨by decide +kernel, by decide +kernel⟩, lw_t1 (List.mem_of_getElem? (i := 4) rfl), lw_t1 (List.mem_of_getElem? (i := 218) rfl), lw_t1 (List.mem_of_getElem? (i := 219) rfl)⟩
theorem lw_p12 : lw_okq (⟨"TransletDesk", "axis", "(II)I"⟩, 39) := ⟨⟨by decide +kernel, by decide +kernel⟩, lw_t1 (List.mem_of_getElem? (i := 4) rfl), lw_t1 (List.mem_of_getElem? (i := 222) rfl), lw_t1 (List.mem_of_getElem? (i := 223) rfl)⟩
theorem lw_p13 : lw_okq (⟨"TransletDesk", "tested", "(IIIZ)I"⟩, 39) := ⟨⟨by decide +kernel, by decide +kernel⟩, lw_t1 (List.mem_of_getElem? (i := 4) rfl), lw_t1 (List.mem_of_getElem? (i := 229) rfl), lw_t1 (List.mem_of_getElem? (i := 230) rfl)⟩
theorem lw_p14 : lw_okq (⟨"TransletDesk", "later", "(IIIII)I"⟩, 39) := ⟨⟨by decide +kernel, by decide +kernel⟩, lw_t1 (List.mem_of_getElem? (i := 4) rfl), lw_t2 (List.mem_of_getElem? (i := 2) rfl), lw_t2 (List.mem_of_getElem? (i := 3) rfl)⟩
theorem lw_p15 : lw_okq (⟨"TransletDesk", "join", "(IIIII)I"⟩, 39) := ⟨⟨by decide +kernel, by decide +kernel⟩, lw_t1 (List.mem_of_getElem? (i := 4) rfl), lw_t2 (List.mem_of_getElem? (i := 6) rfl), lw_t2 (List.mem_of_getElem? (i := 7) rfl)⟩
def lw_privs_1 : List (MethodName × Nat) := [(⟨"TransletDesk", "isNode", "(I)Z"⟩, 39), (⟨"TransletDesk", "many", "(I)I"⟩, 39), (⟨"TransletDesk", "link", "(III)V"⟩, 39), (⟨"TransletDesk", "changed", "()V"⟩, 39), (⟨"TransletDesk", "count", "()V"⟩, 39), (⟨"TransletDesk", "onward", "(II)I"⟩, 39), (⟨"TransletDesk", "unlink", "(I)V"⟩, 39), (⟨"TransletDesk", "read", "()Z"⟩, 39), (⟨"TransletDesk", "isThere", "(II)Z"⟩, 39), (⟨"TransletDesk", "resultAt", "(II)I"⟩, 39), (⟨"TransletDesk", "learn", "(I)V"⟩, 39), (⟨"TransletDesk", "step", "(II)V"⟩, 39), (⟨"TransletDesk", "axis", "(II)I"⟩, 39), (⟨"TransletDesk", "tested", "(IIIZ)I"⟩, 39), (⟨"TransletDesk", "later", "(IIIII)I"⟩, 39), (⟨"TransletDesk", "join", "(IIIII)I"⟩, 39)]
theorem lw_r1 : ∀ q ∈ lw_privs_1, lw_okq q := List.forall_mem_cons.mpr ⟨lw_p0, List.forall_mem_cons.mpr ⟨lw_p1, List.forall_mem_cons.mpr ⟨lw_p2, List.forall_mem_cons.mpr ⟨lw_p3, List.forall_mem_cons.mpr ⟨lw_p4, List.forall_mem_cons.mpr ⟨lw_p5, List.forall_mem_cons.mpr ⟨lw_p6, List.forall_mem_cons.mpr ⟨lw_p7, List.forall_mem_cons.mpr ⟨lw_p8, List.forall_mem_cons.mpr ⟨lw_p9, List.forall_mem_cons.mpr ⟨lw_p10, List.forall_mem_cons.mpr ⟨lw_p11, List.forall_mem_cons.mpr ⟨lw_p12, List.forall_mem_cons.mpr ⟨lw_p13, List.forall_mem_cons.mpr ⟨lw_p14, List.forall_mem_cons.mpr ⟨lw_p15, fun _ h => absurd h List.not_mem_nil⟩⟩⟩⟩⟩⟩⟩⟩⟩⟩⟩⟩⟩⟩⟩⟩
theorem lw_p16 : lw_okq (⟨"TransletDesk", "valueOf", "(I)I"⟩, 39) := ⟨⟨by decide +kernel, by decide +kernel⟩, lw_t1 (List.mem_of_getElem? (i := 4) rfl), lw_t2 (List.mem_of_getElem? (i := 10) rfl), lw_t2 (List.mem_of_getElem? (i := 11) rfl)⟩
theorem lw_p17 : lw_okq (⟨"TransletDesk", "total", "(I)I"⟩, 39) := ⟨⟨by decide +kernel, by decide +kernel⟩, lw_t1 (List.mem_of_getElem? (i := 4) rfl), lw_t2 (List.mem_of_getElem? (i := 14) rfl), lw_t2 (List.mem_of_getElem? (i := 15) rfl)⟩
theorem lw_p18 : lw_okq (⟨"TransletDesk", "compare", "(IIIII)I"⟩, 39) := ⟨⟨by decide +kernel, by decide +kernel⟩, lw_t1 (List.mem_of_getElem? (i := 4) rfl), lw_t2 (List.mem_of_getElem? (i := 18) rfl), lw_t2 (List.mem_of_getElem? (i := 19) rfl)⟩
theorem lw_p19 : lw_okq (⟨"TransletDesk", "extreme", "(IZ)I"⟩, 39) := ⟨⟨by decide +kernel, by decide +kernel⟩, lw_t1 (List.mem_of_getElem? (i := 4) rfl), lw_t2 (List.mem_of_getElem? (i := 22) rfl), lw_t2 (List.mem_of_getElem? (i := 23) rfl)⟩
theorem lw_p20 : lw_okq (⟨"TransletDesk", "has", "(II)Z"⟩, 39) := ⟨⟨by decide +kernel, by decide +kernel⟩, lw_t1 (List.mem_of_getElem? (i := 4) rfl), lw_t2 (List.mem_of_getElem? (i := 26) rfl), lw_t2 (List.mem_of_getElem? (i := 27) rfl)⟩
theorem lw_p21 : lw_okq (⟨"TransletDesk", "fill", "(II)V"⟩, 39) := ⟨⟨by decide +kernel, by decide +kernel⟩, lw_t1 (List.mem_of_getElem? (i := 4) rfl), lw_t2 (List.mem_of_getElem? (i := 30) rfl), lw_t2 (List.mem_of_getElem? (i := 31) rfl)⟩
theorem lw_p22 : lw_okq (⟨"TransletDesk", "sort", "()V"⟩, 39) := ⟨⟨by decide +kernel, by decide +kernel⟩, lw_t1 (List.mem_of_getElem? (i := 4) rfl), lw_t2 (List.mem_of_getElem? (i := 58) rfl), lw_t2 (List.mem_of_getElem? (i := 59) rfl)⟩
theorem lw_p23 : lw_okq (⟨"TransletDesk", "apply", "(II)I"⟩, 39) := ⟨⟨by decide +kernel, by decide +kernel⟩, lw_t1 (List.mem_of_getElem? (i := 4) rfl), lw_t2 (List.mem_of_getElem? (i := 66) rfl), lw_t2 (List.mem_of_getElem? (i := 67) rfl)⟩
theorem lw_p24 : lw_okq (⟨"TransletDeskModel", "where", "(I)I"⟩, 26) := ⟨⟨by decide +kernel, by decide +kernel⟩, lw_t2 (List.mem_of_getElem? (i := 74) rfl), lw_t2 (List.mem_of_getElem? (i := 166) rfl), lw_t2 (List.mem_of_getElem? (i := 167) rfl)⟩
theorem lw_p25 : lw_okq (⟨"TransletDeskModel", "place", "(II)I"⟩, 26) := ⟨⟨by decide +kernel, by decide +kernel⟩, lw_t2 (List.mem_of_getElem? (i := 74) rfl), lw_t2 (List.mem_of_getElem? (i := 170) rfl), lw_t2 (List.mem_of_getElem? (i := 171) rfl)⟩
theorem lw_p26 : lw_okq (⟨"TransletDeskModel", "behind", "(I)I"⟩, 26) := ⟨⟨by decide +kernel, by decide +kernel⟩, lw_t2 (List.mem_of_getElem? (i := 74) rfl), lw_t2 (List.mem_of_getElem? (i := 174) rfl), lw_t2 (List.mem_of_getElem? (i := 175) rfl)⟩
theorem lw_p27 : lw_okq (⟨"TransletDeskModel", "changed", "()V"⟩, 26) := ⟨⟨by decide +kernel, by decide +kernel⟩, lw_t2 (List.mem_of_getElem? (i := 74) rfl), lw_t2 (List.mem_of_getElem? (i := 178) rfl), lw_t2 (List.mem_of_getElem? (i := 179) rfl)⟩
theorem lw_p28 : lw_okq (⟨"TransletDeskModel", "isBelow", "(II)Z"⟩, 26) := ⟨⟨by decide +kernel, by decide +kernel⟩, lw_t2 (List.mem_of_getElem? (i := 74) rfl), lw_t2 (List.mem_of_getElem? (i := 190) rfl), lw_t2 (List.mem_of_getElem? (i := 191) rfl)⟩
theorem lw_p29 : lw_okq (⟨"TransletDeskModel", "isWhole", "()Z"⟩, 26) := ⟨⟨by decide +kernel, by decide +kernel⟩, lw_t2 (List.mem_of_getElem? (i := 74) rfl), lw_t2 (List.mem_of_getElem? (i := 210) rfl), lw_t2 (List.mem_of_getElem? (i := 211) rfl)⟩
theorem lw_p30 : lw_okq (⟨"TransletDeskModel", "isExpression", "(II)Z"⟩, 26) := ⟨⟨by decide +kernel, by decide +kernel⟩, lw_t2 (List.mem_of_getElem? (i := 74) rfl), lw_t2 (List.mem_of_getElem? (i := 224) rfl), lw_t2 (List.mem_of_getElem? (i := 225) rfl)⟩
theorem lw_p31 : lw_okq (⟨"TransletDeskModel", "isSet", "(I)Z"⟩, 26) := ⟨⟨by decide +kernel, by decide +kernel⟩, lw_t2 (List.mem_of_getElem? (i := 74) rfl), lw_t2 (List.mem_of_getElem? (i := 228) rfl), lw_t2 (List.mem_of_getElem? (i := 229) rfl)⟩
def lw_privs_2 : List (MethodName × Nat) := [(⟨"TransletDesk", "valueOf", "(I)I"⟩, 39), (⟨"TransletDesk", "total", "(I)I"⟩, 39), (⟨"TransletDesk", "compare", "(IIIII)I"⟩, 39), (⟨"TransletDesk", "extreme", "(IZ)I"⟩, 39), (⟨"TransletDesk", "has", "(II)Z"⟩, 39), (⟨"TransletDesk", "fill", "(II)V"⟩, 39), (⟨"TransletDesk", "sort", "()V"⟩, 39), (⟨"TransletDesk", "apply", "(II)I"⟩, 39), (⟨"TransletDeskModel", "where", "(I)I"⟩, 26), (⟨"TransletDeskModel", "place", "(II)I"⟩, 26), (⟨"TransletDeskModel", "behind", "(I)I"⟩, 26), (⟨"TransletDeskModel", "changed", "()V"⟩, 26), (⟨"TransletDeskModel", "isBelow", "(II)Z"⟩, 26), (⟨"TransletDeskModel", "isWhole", "()Z"⟩, 26), (⟨"TransletDeskModel", "isExpression", "(II)Z"⟩, 26), (⟨"TransletDeskModel", "isSet", "(I)Z"⟩, 26)]
theorem lw_r2 : ∀ q ∈ lw_privs_2, lw_okq q := List.forall_mem_cons.mpr ⟨lw_p16, List.forall_mem_cons.mpr ⟨lw_p17, List.forall_mem_cons.mpr ⟨lw_p18, List.forall_mem_cons.mpr ⟨lw_p19, List.forall_mem_cons.mpr ⟨lw_p20, List.forall_mem_cons.mpr ⟨lw_p21, List.forall_mem_cons.mpr ⟨lw_p22, List.forall_mem_cons.mpr ⟨lw_p23, List.forall_mem_cons.mpr ⟨lw_p24, List.forall_mem_cons.mpr ⟨lw_p25, List.forall_mem_cons.mpr ⟨lw_p26, List.forall_mem_cons.mpr ⟨lw_p27, List.forall_mem_cons.mpr ⟨lw_p28, List.forall_mem_cons.mpr ⟨lw_p29, List.forall_mem_cons.mpr ⟨lw_p30, List.forall_mem_cons.mpr ⟨lw_p31, fun _ h => absurd h List.not_mem_nil⟩⟩⟩⟩⟩⟩⟩⟩⟩⟩⟩⟩⟩⟩⟩⟩
theorem lw_p32 : lw_okq (⟨"TransletDeskModel", "ask", "(II)V"⟩, 26) := ⟨⟨by decide +kernel, by decide +kernel⟩, lw_t2 (List.mem_of_getElem? (i := 74) rfl), lw_t2 (List.mem_of_getElem? (i := 232) rfl), lw_t2 (List.mem_of_getElem? (i := 233) rfl)⟩
theorem lw_p33 : lw_okq (⟨"TransletDeskModel", "prepare", "(I)V"⟩, 26) := ⟨⟨by decide +kernel, by decide +kernel⟩, lw_t2 (List.mem_of_getElem? (i := 74) rfl), lw_t2 (List.mem_of_getElem? (i := 236) rfl), lw_t2 (List.mem_of_getElem? (i := 237) rfl)⟩
theorem lw_p34 : lw_okq (⟨"TransletDeskModel", "endOf", "(I)I"⟩, 26) := ⟨⟨by decide +kernel, by decide +kernel⟩, lw_t2 (List.mem_of_getElem? (i := 74) rfl), lw_t3 (List.mem_of_getElem? (i := 0) rfl), lw_t3 (List.mem_of_getElem? (i := 1) rfl)⟩
theorem lw_p35 : lw_okq (⟨"TransletDeskModel", "step", "(III)I"⟩, 26) := ⟨⟨by decide +kernel, by decide +kernel⟩, lw_t2 (List.mem_of_getElem? (i := 74) rfl), lw_t3 (List.mem_of_getElem? (i := 4) rfl), lw_t3 (List.mem_of_getElem? (i := 5) rfl)⟩
theorem lw_p36 : lw_okq (⟨"TransletDeskModel", "isOn", "(III)Z"⟩, 26) := ⟨⟨by decide +kernel, by decide +kernel⟩, lw_t2 (List.mem_of_getElem? (i := 74) rfl), lw_t3 (List.mem_of_getElem? (i := 8) rfl), lw_t3 (List.mem_of_getElem? (i := 9) rfl)⟩
theorem lw_p37 : lw_okq (⟨"TransletDeskModel", "parentOf", "(I)I"⟩, 26) := ⟨⟨by decide +kernel, by decide +kernel⟩, lw_t2 (List.mem_of_getElem? (i := 74) rfl), lw_t3 (List.mem_of_getElem? (i := 12) rfl), lw_t3 (List.mem_of_getElem? (i := 13) rfl)⟩
theorem lw_p38 : lw_okq (⟨"TransletDeskModel", "sift", "(II)V"⟩, 26) := ⟨⟨by decide +kernel, by decide +kernel⟩, lw_t2 (List.mem_of_getElem? (i := 74) rfl), lw_t3 (List.mem_of_getElem? (i := 16) rfl), lw_t3 (List.mem_of_getElem? (i := 17) rfl)⟩
theorem lw_p39 : lw_okq (⟨"TransletDeskModel", "workOut", "(IIIII)V"⟩, 26) := ⟨⟨by decide +kernel, by decide +kernel⟩, lw_t2 (List.mem_of_getElem? (i := 74) rfl), lw_t3 (List.mem_of_getElem? (i := 20) rfl), lw_t3 (List.mem_of_getElem? (i := 21) rfl)⟩
theorem lw_p40 : lw_okq (⟨"TransletDeskModel", "result", "(IIIII)I"⟩, 26) := ⟨⟨by decide +kernel, by decide +kernel⟩, lw_t2 (List.mem_of_getElem? (i := 74) rfl), lw_t3 (List.mem_of_getElem? (i := 24) rfl), lw_t3 (List.mem_of_getElem? (i := 25) rfl)⟩
theorem lw_p41 : lw_okq (⟨"TransletDeskModel", "counted", "(I)I"⟩, 26) := ⟨⟨by decide +kernel, by decide +kernel⟩, lw_t2 (List.mem_of_getElem? (i := 74) rfl), lw_t3 (List.mem_of_getElem? (i := 28) rfl), lw_t3 (List.mem_of_getElem? (i := 29) rfl)⟩
theorem lw_p42 : lw_okq (⟨"TransletDeskModel", "summed", "(I)I"⟩, 26) := ⟨⟨by decide +kernel, by decide +kernel⟩, lw_t2 (List.mem_of_getElem? (i := 74) rfl), lw_t3 (List.mem_of_getElem? (i := 32) rfl), lw_t3 (List.mem_of_getElem? (i := 33) rfl)⟩
theorem lw_p43 : lw_okq (⟨"TransletDeskModel", "firstOf", "(I)I"⟩, 26) := ⟨⟨by decide +kernel, by decide +kernel⟩, lw_t2 (List.mem_of_getElem? (i := 74) rfl), lw_t3 (List.mem_of_getElem? (i := 36) rfl), lw_t3 (List.mem_of_getElem? (i := 37) rfl)⟩
theorem lw_p44 : lw_okq (⟨"TransletDeskModel", "compare", "(III)Z"⟩, 26) := ⟨⟨by decide +kernel, by decide +kernel⟩, lw_t2 (List.mem_of_getElem? (i := 74) rfl), lw_t3 (List.mem_of_getElem? (i := 40) rfl), lw_t3 (List.mem_of_getElem? (i := 41) rfl)⟩
theorem lw_p45 : lw_okq (⟨"TransletDeskModel", "isTrue", "(I)Z"⟩, 26) := ⟨⟨by decide +kernel, by decide +kernel⟩, lw_t2 (List.mem_of_getElem? (i := 74) rfl), lw_t3 (List.mem_of_getElem? (i := 44) rfl), lw_t3 (List.mem_of_getElem? (i := 45) rfl)⟩
theorem lw_p46 : lw_okq (⟨"TransletDeskModel", "plain", "(I)I"⟩, 26) := ⟨⟨by decide +kernel, by decide +kernel⟩, lw_t2 (List.mem_of_getElem? (i := 74) rfl), lw_t3 (List.mem_of_getElem? (i := 48) rfl), lw_t3 (List.mem_of_getElem? (i := 49) rfl)⟩
theorem lw_p47 : lw_okq (⟨"TransletDeskModel", "best", "(I)I"⟩, 26) := ⟨⟨by decide +kernel, by decide +kernel⟩, lw_t2 (List.mem_of_getElem? (i := 74) rfl), lw_t3 (List.mem_of_getElem? (i := 80) rfl), lw_t3 (List.mem_of_getElem? (i := 81) rfl)⟩
def lw_privs_3 : List (MethodName × Nat) := [(⟨"TransletDeskModel", "ask", "(II)V"⟩, 26), (⟨"TransletDeskModel", "prepare", "(I)V"⟩, 26), (⟨"TransletDeskModel", "endOf", "(I)I"⟩, 26), (⟨"TransletDeskModel", "step", "(III)I"⟩, 26), (⟨"TransletDeskModel", "isOn", "(III)Z"⟩, 26), (⟨"TransletDeskModel", "parentOf", "(I)I"⟩, 26), (⟨"TransletDeskModel", "sift", "(II)V"⟩, 26), (⟨"TransletDeskModel", "workOut", "(IIIII)V"⟩, 26), (⟨"TransletDeskModel", "result", "(IIIII)I"⟩, 26), (⟨"TransletDeskModel", "counted", "(I)I"⟩, 26), (⟨"TransletDeskModel", "summed", "(I)I"⟩, 26), (⟨"TransletDeskModel", "firstOf", "(I)I"⟩, 26), (⟨"TransletDeskModel", "compare", "(III)Z"⟩, 26), (⟨"TransletDeskModel", "isTrue", "(I)Z"⟩, 26), (⟨"TransletDeskModel", "plain", "(I)I"⟩, 26), (⟨"TransletDeskModel", "best", "(I)I"⟩, 26)]
theorem lw_r3 : ∀ q ∈ lw_privs_3, lw_okq q := List.forall_mem_cons.mpr ⟨lw_p32, List.forall_mem_cons.mpr ⟨lw_p33, List.forall_mem_cons.mpr ⟨lw_p34, List.forall_mem_cons.mpr ⟨lw_p35, List.forall_mem_cons.mpr ⟨lw_p36, List.forall_mem_cons.mpr ⟨lw_p37, List.forall_mem_cons.mpr ⟨lw_p38, List.forall_mem_cons.mpr ⟨lw_p39, List.forall_mem_cons.mpr ⟨lw_p40, List.forall_mem_cons.mpr ⟨lw_p41, List.forall_mem_cons.mpr ⟨lw_p42, List.forall_mem_cons.mpr ⟨lw_p43, List.forall_mem_cons.mpr ⟨lw_p44, List.forall_mem_cons.mpr ⟨lw_p45, List.forall_mem_cons.mpr ⟨lw_p46, List.forall_mem_cons.mpr ⟨lw_p47, fun _ h => absurd h List.not_mem_nil⟩⟩⟩⟩⟩⟩⟩⟩⟩⟩⟩⟩⟩⟩⟩⟩
theorem lw_p48 : lw_okq (⟨"TransletDeskModel", "childrenOf", "(I)I"⟩, 26) := ⟨⟨by decide +kernel, by decide +kernel⟩, lw_t2 (List.mem_of_getElem? (i := 74) rfl), lw_t3 (List.mem_of_getElem? (i := 85) rfl), lw_t3 (List.mem_of_getElem? (i := 86) rfl)⟩
def lw_privs_4 : List (MethodName × Nat) := [(⟨"TransletDeskModel", "childrenOf", "(I)I"⟩, 26)]
theorem lw_r4 : ∀ q ∈ lw_privs_4, lw_okq q := List.forall_mem_cons.mpr ⟨lw_p48, fun _ h => absurd h List.not_mem_nil⟩
def lw_privs : List (MethodName × Nat) := lw_privs_1 ++ (lw_privs_2 ++ (lw_privs_3 ++ (lw_privs_4)))
def lw_tbl : List Cond := k2_sels lw_privs ++ tables_1
theorem lw_privs_ok : ∀ q ∈ lw_privs, lw_okq q := by
  show ∀ q ∈ lw_privs_1 ++ (lw_privs_2 ++ (lw_privs_3 ++ (lw_privs_4))), lw_okq q
  exact List.forall_mem_append.mpr ⟨lw_r1, List.forall_mem_append.mpr ⟨lw_r2, List.forall_mem_append.mpr ⟨lw_r3, lw_r4⟩⟩⟩
-- ===== ONE list of words for every method: the tables' words that hold all through a run =====
def lw_all : List Cond := lw_tbl.filter goodWord
/-- a word of the tables by its place: claim/WORDS.tsv -/
theorem lw_w {w : Cond} (i : Nat) (h : lw_tbl[i]? = some w) (g : goodWord w = true) : w ∈ lw_all := List.mem_filter.mpr ⟨List.mem_of_getElem? h, g⟩
theorem lw_all_tbl {w : Cond} (h : w ∈ lw_all) : w ∈ lw_tbl := (List.mem_filter.mp h).1
theorem lw_self : GoodIn lw_all lw_all := fun w h => ⟨h, good_of_word (List.mem_filter.mp h).2⟩
/-- a class's field words, by their places -/
theorem lw_in (ws : List Cond) (ps : List Nat) (hp : ws = ps.filterMap (fun i => lw_tbl[i]?)) (hg : ws.all goodWord = true) : ∀ w ∈ ws, w ∈ lw_all := by
  intro w h
  have h1 := List.all_eq_true.mp hg w h
  rw [hp] at h
  obtain ⟨i, -, hi⟩ := List.mem_filterMap.mp h
  exact lw_w i hi h1
/-- the words of a contract for the method y with code b, L locals, answer r -/
abbrev ws_ (y : MethodName) (b : ByteArray) (L : Nat) (r : Option FieldType) : List Cond := Cond.code y b L r :: lw_all
theorem lw_meth {y : MethodName} {b : ByteArray} {L : Nat} {r : Option FieldType} (h : Cond.code y b L r ∈ lw_all) : GoodIn lw_all (ws_ y b L r) := by
  intro w hw
  rcases List.mem_cons.mp hw with e | e
  · rw [e]
    exact lw_self _ h
  · exact lw_self _ e
theorem lw_app {a c : List Cond} (ha : ∀ w ∈ a, w ∈ lw_all) (hc : GoodIn lw_all c) : GoodIn lw_all (a ++ c) := by
  intro w hw
  rcases List.mem_append.mp hw with e | e
  · exact lw_self w (ha w e)
  · exact hc w e
/-- what a call through an object asks: cwV n hts (lw_V ..) -/
theorem lw_V {own : String} {idx : Nat} {C : String} {y : MethodName} {b : ByteArray} {L : Nat} {r : Option FieldType} (h1 : Cond.methodLink own idx y ∈ lw_all) (h2 : Cond.instanceMethod y ∈ lw_all) (h3 : Cond.selects C y y ∈ lw_all) (h4 : Cond.initialized C ∈ lw_all) (h5 : Cond.code y b L r ∈ lw_all) : GoodIn lw_all (wsV own idx C y (ws_ y b L r)) := by
  refine lw_app ?_ (lw_meth h5)
  intro w hw
  simp only [List.mem_cons, List.not_mem_nil, or_false] at hw
  rcases hw with e | e | e | e
  · rw [e]; exact h1
  · rw [e]; exact h2
  · rw [e]; exact h3
  · rw [e]; exact h4
/-- what a static call asks: va_cwS n hts (lw_S ..) -/
theorem lw_S {own : String} {idx : Nat} {y : MethodName} {b : ByteArray} {L : Nat} {r : Option FieldType} (h1 : Cond.methodLink own idx y ∈ lw_all) (h2 : Cond.static y ∈ lw_all) (h3 : Cond.initialized y.cls ∈ lw_all) (h4 : Cond.code y b L r ∈ lw_all) : GoodIn lw_all (va_wsS own idx y (ws_ y b L r)) := by
  refine lw_app ?_ (lw_meth h4)
  intro w hw
  simp only [List.mem_cons, List.not_mem_nil, or_false] at hw
  rcases hw with e | e | e
  · rw [e]; exact h1
  · rw [e]; exact h2
  · rw [e]; exact h3
/-- the words of a contract for a method WITH HANDLERS (hh: its table) -/
abbrev wsW_ (y : MethodName) (b : ByteArray) (L : Nat) (r : Option FieldType) (hh : List (Nat × Nat × Nat × Nat)) : List Cond := Cond.codeWith y b L r hh :: lw_all
theorem lw_methW {y : MethodName} {b : ByteArray} {L : Nat} {r : Option FieldType} {hh : List (Nat × Nat × Nat × Nat)} (h : Cond.codeWith y b L r hh ∈ lw_all) : GoodIn lw_all (wsW_ y b L r hh) := by
  intro w hw
  rcases List.mem_cons.mp hw with e | e
  · rw [e]
    exact lw_self _ h
  · exact lw_self _ e
/-- any list of words by their places (lw_in), good -/
theorem lw_good {ws : List Cond} (h : ∀ w ∈ ws, w ∈ lw_all) : GoodIn lw_all ws := fun w hw => lw_self w (h w hw)
/-- what a call of a method with handlers asks: vx_cwVW n hts (lw_VW ..), vx_cwSW n hts (lw_SW ..) -/
theorem lw_VW {own : String} {idx : Nat} {C : String} {y : MethodName} {b : ByteArray} {L : Nat} {r : Option FieldType} {hh : List (Nat × Nat × Nat × Nat)} (h1 : Cond.methodLink own idx y ∈ lw_all) (h2 : Cond.instanceMethod y ∈ lw_all) (h3 : Cond.selects C y y ∈ lw_all) (h4 : Cond.initialized C ∈ lw_all) (h5 : Cond.codeWith y b L r hh ∈ lw_all) : GoodIn lw_all (wsV own idx C y (wsW_ y b L r hh)) := by
  refine lw_app ?_ (lw_methW h5)
  intro w hw
  simp only [List.mem_cons, List.not_mem_nil, or_false] at hw
  rcases hw with e | e | e | e
  · rw [e]; exact h1
  · rw [e]; exact h2
  · rw [e]; exact h3
  · rw [e]; exact h4
theorem lw_SW {own : String} {idx : Nat} {y : MethodName} {b : ByteArray} {L : Nat} {r : Option FieldType} {hh : List (Nat × Nat × Nat × Nat)} (h1 : Cond.methodLink own idx y ∈ lw_all) (h2 : Cond.static y ∈ lw_all) (h3 : Cond.initialized y.cls ∈ lw_all) (h4 : Cond.codeWith y b L r hh ∈ lw_all) : GoodIn lw_all (va_wsS own idx y (wsW_ y b L r hh)) := by
  refine lw_app ?_ (lw_methW h4)
  intro w hw
  simp only [List.mem_cons, List.not_mem_nil, or_false] at hw
  rcases hw with e | e | e
  · rw [e]; exact h1
  · rw [e]; exact h2
  · rw [e]; exact h3
/-- a word by its place in its run of the tables -/
theorem lw_at {r : List Cond} (hr : ∀ w ∈ r, w ∈ lw_tbl) {w : Cond} (i : Nat) (h : r[i]? = some w) : w ∈ lw_tbl := hr w (List.mem_of_getElem? h)
theorem lw_g {w : Cond} (h : w ∈ lw_tbl) (g : goodWord w = true) : w ∈ lw_all := List.mem_filter.mpr ⟨h, g⟩
theorem lw_ms : ∀ w ∈ k2_sels lw_privs, w ∈ lw_tbl := fun w h => show w ∈ k2_sels lw_privs ++ tables_1 from List.mem_append_left _ h
theorem lw_m1 : ∀ w ∈ tables_1_1, w ∈ lw_tbl := fun w h => show w ∈ k2_sels lw_privs ++ tables_1 from List.mem_append_right (k2_sels lw_privs) (show w ∈ tables_1 from List.mem_append_left _ h)
theorem lw_m2 : ∀ w ∈ tables_1_2, w ∈ lw_tbl := fun w h => show w ∈ k2_sels lw_privs ++ tables_1 from List.mem_append_right (k2_sels lw_privs) (show w ∈ tables_1 from List.mem_append_right _ (List.mem_append_left _ h))
theorem lw_m3 : ∀ w ∈ tables_1_3, w ∈ lw_tbl := fun w h => show w ∈ k2_sels lw_privs ++ tables_1 from List.mem_append_right (k2_sels lw_privs) (show w ∈ tables_1 from List.mem_append_right _ (List.mem_append_right _ h))
theorem qs0 : (Cond.selects "TransletDesk" ⟨"TransletDesk", "isNode", "(I)Z"⟩ ⟨"TransletDesk", "isNode", "(I)Z"⟩) ∈ lw_all := lw_g (lw_at lw_ms 0 rfl) rfl
theorem qs1 : (Cond.selects "TransletDesk" ⟨"TransletDesk", "many", "(I)I"⟩ ⟨"TransletDesk", "many", "(I)I"⟩) ∈ lw_all := lw_g (lw_at lw_ms 1 rfl) rfl
theorem qs2 : (Cond.selects "TransletDesk" ⟨"TransletDesk", "link", "(III)V"⟩ ⟨"TransletDesk", "link", "(III)V"⟩) ∈ lw_all := lw_g (lw_at lw_ms 2 rfl) rfl
theorem qs3 : (Cond.selects "TransletDesk" ⟨"TransletDesk", "changed", "()V"⟩ ⟨"TransletDesk", "changed", "()V"⟩) ∈ lw_all := lw_g (lw_at lw_ms 3 rfl) rfl
theorem qs4 : (Cond.selects "TransletDesk" ⟨"TransletDesk", "count", "()V"⟩ ⟨"TransletDesk", "count", "()V"⟩) ∈ lw_all := lw_g (lw_at lw_ms 4 rfl) rfl
theorem qs5 : (Cond.selects "TransletDesk" ⟨"TransletDesk", "onward", "(II)I"⟩ ⟨"TransletDesk", "onward", "(II)I"⟩) ∈ lw_all := lw_g (lw_at lw_ms 5 rfl) rfl
theorem qs6 : (Cond.selects "TransletDesk" ⟨"TransletDesk", "unlink", "(I)V"⟩ ⟨"TransletDesk", "unlink", "(I)V"⟩) ∈ lw_all := lw_g (lw_at lw_ms 6 rfl) rfl
theorem qs7 : (Cond.selects "TransletDesk" ⟨"TransletDesk", "read", "()Z"⟩ ⟨"TransletDesk", "read", "()Z"⟩) ∈ lw_all := lw_g (lw_at lw_ms 7 rfl) rfl
theorem qs8 : (Cond.selects "TransletDesk" ⟨"TransletDesk", "isThere", "(II)Z"⟩ ⟨"TransletDesk", "isThere", "(II)Z"⟩) ∈ lw_all := lw_g (lw_at lw_ms 8 rfl) rfl
theorem qs9 : (Cond.selects "TransletDesk" ⟨"TransletDesk", "resultAt", "(II)I"⟩ ⟨"TransletDesk", "resultAt", "(II)I"⟩) ∈ lw_all := lw_g (lw_at lw_ms 9 rfl) rfl
theorem qs10 : (Cond.selects "TransletDesk" ⟨"TransletDesk", "learn", "(I)V"⟩ ⟨"TransletDesk", "learn", "(I)V"⟩) ∈ lw_all := lw_g (lw_at lw_ms 10 rfl) rfl
theorem qs11 : (Cond.selects "TransletDesk" ⟨"TransletDesk", "step", "(II)V"⟩ ⟨"TransletDesk", "step", "(II)V"⟩) ∈ lw_all := lw_g (lw_at lw_ms 11 rfl) rfl
theorem qs12 : (Cond.selects "TransletDesk" ⟨"TransletDesk", "axis", "(II)I"⟩ ⟨"TransletDesk", "axis", "(II)I"⟩) ∈ lw_all := lw_g (lw_at lw_ms 12 rfl) rfl
theorem qs13 : (Cond.selects "TransletDesk" ⟨"TransletDesk", "tested", "(IIIZ)I"⟩ ⟨"TransletDesk", "tested", "(IIIZ)I"⟩) ∈ lw_all := lw_g (lw_at lw_ms 13 rfl) rfl
theorem qs14 : (Cond.selects "TransletDesk" ⟨"TransletDesk", "later", "(IIIII)I"⟩ ⟨"TransletDesk", "later", "(IIIII)I"⟩) ∈ lw_all := lw_g (lw_at lw_ms 14 rfl) rfl
theorem qs15 : (Cond.selects "TransletDesk" ⟨"TransletDesk", "join", "(IIIII)I"⟩ ⟨"TransletDesk", "join", "(IIIII)I"⟩) ∈ lw_all := lw_g (lw_at lw_ms 15 rfl) rfl
theorem qs16 : (Cond.selects "TransletDesk" ⟨"TransletDesk", "valueOf", "(I)I"⟩ ⟨"TransletDesk", "valueOf", "(I)I"⟩) ∈ lw_all := lw_g (lw_at lw_ms 16 rfl) rfl
theorem qs17 : (Cond.selects "TransletDesk" ⟨"TransletDesk", "total", "(I)I"⟩ ⟨"TransletDesk", "total", "(I)I"⟩) ∈ lw_all := lw_g (lw_at lw_ms 17 rfl) rfl
theorem qs18 : (Cond.selects "TransletDesk" ⟨"TransletDesk", "compare", "(IIIII)I"⟩ ⟨"TransletDesk", "compare", "(IIIII)I"⟩) ∈ lw_all := lw_g (lw_at lw_ms 18 rfl) rfl
theorem qs19 : (Cond.selects "TransletDesk" ⟨"TransletDesk", "extreme", "(IZ)I"⟩ ⟨"TransletDesk", "extreme", "(IZ)I"⟩) ∈ lw_all := lw_g (lw_at lw_ms 19 rfl) rfl
theorem qs20 : (Cond.selects "TransletDesk" ⟨"TransletDesk", "has", "(II)Z"⟩ ⟨"TransletDesk", "has", "(II)Z"⟩) ∈ lw_all := lw_g (lw_at lw_ms 20 rfl) rfl
theorem qs21 : (Cond.selects "TransletDesk" ⟨"TransletDesk", "fill", "(II)V"⟩ ⟨"TransletDesk", "fill", "(II)V"⟩) ∈ lw_all := lw_g (lw_at lw_ms 21 rfl) rfl
theorem qs22 : (Cond.selects "TransletDesk" ⟨"TransletDesk", "sort", "()V"⟩ ⟨"TransletDesk", "sort", "()V"⟩) ∈ lw_all := lw_g (lw_at lw_ms 22 rfl) rfl
theorem qs23 : (Cond.selects "TransletDesk" ⟨"TransletDesk", "apply", "(II)I"⟩ ⟨"TransletDesk", "apply", "(II)I"⟩) ∈ lw_all := lw_g (lw_at lw_ms 23 rfl) rfl
theorem qs24 : (Cond.selects "TransletDeskModel" ⟨"TransletDeskModel", "where", "(I)I"⟩ ⟨"TransletDeskModel", "where", "(I)I"⟩) ∈ lw_all := lw_g (lw_at lw_ms 24 rfl) rfl
theorem qs25 : (Cond.selects "TransletDeskModel" ⟨"TransletDeskModel", "place", "(II)I"⟩ ⟨"TransletDeskModel", "place", "(II)I"⟩) ∈ lw_all := lw_g (lw_at lw_ms 25 rfl) rfl
theorem qs26 : (Cond.selects "TransletDeskModel" ⟨"TransletDeskModel", "behind", "(I)I"⟩ ⟨"TransletDeskModel", "behind", "(I)I"⟩) ∈ lw_all := lw_g (lw_at lw_ms 26 rfl) rfl
theorem qs27 : (Cond.selects "TransletDeskModel" ⟨"TransletDeskModel", "changed", "()V"⟩ ⟨"TransletDeskModel", "changed", "()V"⟩) ∈ lw_all := lw_g (lw_at lw_ms 27 rfl) rfl
theorem qs28 : (Cond.selects "TransletDeskModel" ⟨"TransletDeskModel", "isBelow", "(II)Z"⟩ ⟨"TransletDeskModel", "isBelow", "(II)Z"⟩) ∈ lw_all := lw_g (lw_at lw_ms 28 rfl) rfl
theorem qs29 : (Cond.selects "TransletDeskModel" ⟨"TransletDeskModel", "isWhole", "()Z"⟩ ⟨"TransletDeskModel", "isWhole", "()Z"⟩) ∈ lw_all := lw_g (lw_at lw_ms 29 rfl) rfl
theorem qs30 : (Cond.selects "TransletDeskModel" ⟨"TransletDeskModel", "isExpression", "(II)Z"⟩ ⟨"TransletDeskModel", "isExpression", "(II)Z"⟩) ∈ lw_all := lw_g (lw_at lw_ms 30 rfl) rfl
theorem qs31 : (Cond.selects "TransletDeskModel" ⟨"TransletDeskModel", "isSet", "(I)Z"⟩ ⟨"TransletDeskModel", "isSet", "(I)Z"⟩) ∈ lw_all := lw_g (lw_at lw_ms 31 rfl) rfl
theorem qs32 : (Cond.selects "TransletDeskModel" ⟨"TransletDeskModel", "ask", "(II)V"⟩ ⟨"TransletDeskModel", "ask", "(II)V"⟩) ∈ lw_all := lw_g (lw_at lw_ms 32 rfl) rfl
theorem qs33 : (Cond.selects "TransletDeskModel" ⟨"TransletDeskModel", "prepare", "(I)V"⟩ ⟨"TransletDeskModel", "prepare", "(I)V"⟩) ∈ lw_all := lw_g (lw_at lw_ms 33 rfl) rfl
theorem qs34 : (Cond.selects "TransletDeskModel" ⟨"TransletDeskModel", "endOf", "(I)I"⟩ ⟨"TransletDeskModel", "endOf", "(I)I"⟩) ∈ lw_all := lw_g (lw_at lw_ms 34 rfl) rfl
theorem qs35 : (Cond.selects "TransletDeskModel" ⟨"TransletDeskModel", "step", "(III)I"⟩ ⟨"TransletDeskModel", "step", "(III)I"⟩) ∈ lw_all := lw_g (lw_at lw_ms 35 rfl) rfl
theorem qs36 : (Cond.selects "TransletDeskModel" ⟨"TransletDeskModel", "isOn", "(III)Z"⟩ ⟨"TransletDeskModel", "isOn", "(III)Z"⟩) ∈ lw_all := lw_g (lw_at lw_ms 36 rfl) rfl
theorem qs37 : (Cond.selects "TransletDeskModel" ⟨"TransletDeskModel", "parentOf", "(I)I"⟩ ⟨"TransletDeskModel", "parentOf", "(I)I"⟩) ∈ lw_all := lw_g (lw_at lw_ms 37 rfl) rfl
theorem qs38 : (Cond.selects "TransletDeskModel" ⟨"TransletDeskModel", "sift", "(II)V"⟩ ⟨"TransletDeskModel", "sift", "(II)V"⟩) ∈ lw_all := lw_g (lw_at lw_ms 38 rfl) rfl
theorem qs39 : (Cond.selects "TransletDeskModel" ⟨"TransletDeskModel", "workOut", "(IIIII)V"⟩ ⟨"TransletDeskModel", "workOut", "(IIIII)V"⟩) ∈ lw_all := lw_g (lw_at lw_ms 39 rfl) rfl
theorem qs40 : (Cond.selects "TransletDeskModel" ⟨"TransletDeskModel", "result", "(IIIII)I"⟩ ⟨"TransletDeskModel", "result", "(IIIII)I"⟩) ∈ lw_all := lw_g (lw_at lw_ms 40 rfl) rfl
theorem qs41 : (Cond.selects "TransletDeskModel" ⟨"TransletDeskModel", "counted", "(I)I"⟩ ⟨"TransletDeskModel", "counted", "(I)I"⟩) ∈ lw_all := lw_g (lw_at lw_ms 41 rfl) rfl
theorem qs42 : (Cond.selects "TransletDeskModel" ⟨"TransletDeskModel", "summed", "(I)I"⟩ ⟨"TransletDeskModel", "summed", "(I)I"⟩) ∈ lw_all := lw_g (lw_at lw_ms 42 rfl) rfl
theorem qs43 : (Cond.selects "TransletDeskModel" ⟨"TransletDeskModel", "firstOf", "(I)I"⟩ ⟨"TransletDeskModel", "firstOf", "(I)I"⟩) ∈ lw_all := lw_g (lw_at lw_ms 43 rfl) rfl
theorem qs44 : (Cond.selects "TransletDeskModel" ⟨"TransletDeskModel", "compare", "(III)Z"⟩ ⟨"TransletDeskModel", "compare", "(III)Z"⟩) ∈ lw_all := lw_g (lw_at lw_ms 44 rfl) rfl
theorem qs45 : (Cond.selects "TransletDeskModel" ⟨"TransletDeskModel", "isTrue", "(I)Z"⟩ ⟨"TransletDeskModel", "isTrue", "(I)Z"⟩) ∈ lw_all := lw_g (lw_at lw_ms 45 rfl) rfl
theorem qs46 : (Cond.selects "TransletDeskModel" ⟨"TransletDeskModel", "plain", "(I)I"⟩ ⟨"TransletDeskModel", "plain", "(I)I"⟩) ∈ lw_all := lw_g (lw_at lw_ms 46 rfl) rfl
theorem qs47 : (Cond.selects "TransletDeskModel" ⟨"TransletDeskModel", "best", "(I)I"⟩ ⟨"TransletDeskModel", "best", "(I)I"⟩) ∈ lw_all := lw_g (lw_at lw_ms 47 rfl) rfl
theorem qs48 : (Cond.selects "TransletDeskModel" ⟨"TransletDeskModel", "childrenOf", "(I)I"⟩ ⟨"TransletDeskModel", "childrenOf", "(I)I"⟩) ∈ lw_all := lw_g (lw_at lw_ms 48 rfl) rfl
