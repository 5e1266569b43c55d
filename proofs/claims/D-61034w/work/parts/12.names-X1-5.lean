set_option maxRecDepth 100000
theorem dX1_transform_113 : decode cX1_transform 113 = .ok (.aload_n 0, 1) := by decide +kernel
theorem dX1_transform_114 : decode cX1_transform 114 = .ok (.getfield 62, 3) := by decide +kernel
theorem dX1_transform_117 : decode cX1_transform 117 = .ok (.iload 6, 2) := by decide +kernel
theorem dX1_transform_119 : decode cX1_transform 119 = .ok (.iaload, 1) := by decide +kernel
theorem dX1_transform_120 : decode cX1_transform 120 = .ok (.ifCond .lt 52, 3) := by decide +kernel
theorem dX1_transform_123 : decode cX1_transform 123 = .ok (.aload_n 0, 1) := by decide +kernel
theorem dX1_transform_124 : decode cX1_transform 124 = .ok (.getfield 31, 3) := by decide +kernel
theorem dX1_transform_127 : decode cX1_transform 127 = .ok (.aload_n 0, 1) := by decide +kernel
theorem dX1_transform_128 : decode cX1_transform 128 = .ok (.getfield 62, 3) := by decide +kernel
theorem dX1_transform_131 : decode cX1_transform 131 = .ok (.iload 6, 2) := by decide +kernel
theorem dX1_transform_133 : decode cX1_transform 133 = .ok (.iaload, 1) := by decide +kernel
theorem dX1_transform_134 : decode cX1_transform 134 = .ok (.iaload, 1) := by decide +kernel
theorem dX1_transform_135 : decode cX1_transform 135 = .ok (.ifCond .le 37, 3) := by decide +kernel
theorem dX1_transform_138 : decode cX1_transform 138 = .ok (.aload_n 0, 1) := by decide +kernel
theorem dX1_transform_139 : decode cX1_transform 139 = .ok (.aload_n 0, 1) := by decide +kernel
theorem dX1_transform_140 : decode cX1_transform 140 = .ok (.getfield 62, 3) := by decide +kernel
theorem dX1_transform_143 : decode cX1_transform 143 = .ok (.iload 6, 2) := by decide +kernel
theorem dX1_transform_145 : decode cX1_transform 145 = .ok (.iaload, 1) := by decide +kernel
theorem dX1_transform_146 : decode cX1_transform 146 = .ok (.iload 4, 2) := by decide +kernel
theorem dX1_transform_148 : decode cX1_transform 148 = .ok (.invokevirtual 173, 3) := by decide +kernel
theorem dX1_transform_151 : decode cX1_transform 151 = .ok (.aload_n 0, 1) := by decide +kernel
theorem dX1_transform_152 : decode cX1_transform 152 = .ok (.getfield 74, 3) := by decide +kernel
theorem dX1_transform_155 : decode cX1_transform 155 = .ok (.aload_n 0, 1) := by decide +kernel
theorem dX1_transform_156 : decode cX1_transform 156 = .ok (.dup, 1) := by decide +kernel
theorem dX1_transform_157 : decode cX1_transform 157 = .ok (.getfield 179, 3) := by decide +kernel
theorem dX1_transform_160 : decode cX1_transform 160 = .ok (.dup_x1, 1) := by decide +kernel
theorem dX1_transform_161 : decode cX1_transform 161 = .ok (.iconst 1, 1) := by decide +kernel
theorem dX1_transform_162 : decode cX1_transform 162 = .ok (.iadd, 1) := by decide +kernel
theorem dX1_transform_163 : decode cX1_transform 163 = .ok (.putfield 179, 3) := by decide +kernel
theorem dX1_transform_166 : decode cX1_transform 166 = .ok (.aload_n 0, 1) := by decide +kernel
theorem dX1_transform_167 : decode cX1_transform 167 = .ok (.iconst 0, 1) := by decide +kernel
theorem dX1_transform_168 : decode cX1_transform 168 = .ok (.invokevirtual 160, 3) := by decide +kernel
theorem dX1_transform_171 : decode cX1_transform 171 = .ok (.iastore, 1) := by decide +kernel
theorem dX1_transform_172 : decode cX1_transform 172 = .ok (.iload 6, 2) := by decide +kernel
theorem dX1_transform_174 : decode cX1_transform 174 = .ok (.ifCond .lt 48, 3) := by decide +kernel
theorem dX1_transform_177 : decode cX1_transform 177 = .ok (.aload_n 0, 1) := by decide +kernel
theorem dX1_transform_178 : decode cX1_transform 178 = .ok (.getfield 65, 3) := by decide +kernel
theorem dX1_transform_181 : decode cX1_transform 181 = .ok (.iload 6, 2) := by decide +kernel
theorem dX1_transform_183 : decode cX1_transform 183 = .ok (.iaload, 1) := by decide +kernel
theorem dX1_transform_184 : decode cX1_transform 184 = .ok (.ifCond .lt 38, 3) := by decide +kernel
theorem dX1_transform_187 : decode cX1_transform 187 = .ok (.aload_n 0, 1) := by decide +kernel
theorem dX1_transform_188 : decode cX1_transform 188 = .ok (.aload_n 0, 1) := by decide +kernel
theorem dX1_transform_189 : decode cX1_transform 189 = .ok (.getfield 65, 3) := by decide +kernel
theorem dX1_transform_192 : decode cX1_transform 192 = .ok (.iload 6, 2) := by decide +kernel
theorem dX1_transform_194 : decode cX1_transform 194 = .ok (.iaload, 1) := by decide +kernel
theorem dX1_transform_195 : decode cX1_transform 195 = .ok (.invokevirtual 170, 3) := by decide +kernel
theorem dX1_transform_198 : decode cX1_transform 198 = .ok (.ifCond .eq 24, 3) := by decide +kernel
theorem dX1_transform_201 : decode cX1_transform 201 = .ok (.aload_n 0, 1) := by decide +kernel
theorem dX1_transform_202 : decode cX1_transform 202 = .ok (.aload_n 0, 1) := by decide +kernel
theorem dX1_transform_203 : decode cX1_transform 203 = .ok (.getfield 65, 3) := by decide +kernel
theorem dX1_transform_206 : decode cX1_transform 206 = .ok (.iload 6, 2) := by decide +kernel
theorem dX1_transform_208 : decode cX1_transform 208 = .ok (.iaload, 1) := by decide +kernel
theorem dX1_transform_209 : decode cX1_transform 209 = .ok (.iload 4, 2) := by decide +kernel
theorem dX1_transform_211 : decode cX1_transform 211 = .ok (.invokevirtual 173, 3) := by decide +kernel
theorem dX1_transform_214 : decode cX1_transform 214 = .ok (.aload_n 0, 1) := by decide +kernel
theorem dX1_transform_215 : decode cX1_transform 215 = .ok (.getfield 47, 3) := by decide +kernel
theorem dX1_transform_218 : decode cX1_transform 218 = .ok (.iconst 0, 1) := by decide +kernel
theorem dX1_transform_219 : decode cX1_transform 219 = .ok (.iaload, 1) := by decide +kernel
theorem dX1_transform_220 : decode cX1_transform 220 = .ok (.istore 7, 2) := by decide +kernel
theorem dX1_transform_222 : decode cX1_transform 222 = .ok (.aload_n 0, 1) := by decide +kernel
theorem dX1_transform_223 : decode cX1_transform 223 = .ok (.getfield 77, 3) := by decide +kernel
theorem dX1_transform_226 : decode cX1_transform 226 = .ok (.iconst 1, 1) := by decide +kernel
theorem dX1_transform_227 : decode cX1_transform 227 = .ok (.isub, 1) := by decide +kernel
theorem dX1_transform_228 : decode cX1_transform 228 = .ok (.istore 8, 2) := by decide +kernel
theorem dX1_transform_230 : decode cX1_transform 230 = .ok (.iload 8, 2) := by decide +kernel
theorem dX1_transform_232 : decode cX1_transform 232 = .ok (.ifCond .lt 53, 3) := by decide +kernel
theorem dX1_transform_235 : decode cX1_transform 235 = .ok (.iload 7, 2) := by decide +kernel
theorem dX1_transform_237 : decode cX1_transform 237 = .ok (.aload_n 0, 1) := by decide +kernel
theorem dX1_transform_238 : decode cX1_transform 238 = .ok (.getfield 7, 3) := by decide +kernel
theorem dX1_transform_241 : decode cX1_transform 241 = .ok (.iload 8, 2) := by decide +kernel
theorem dX1_transform_243 : decode cX1_transform 243 = .ok (.iaload, 1) := by decide +kernel
theorem dX1_transform_244 : decode cX1_transform 244 = .ok (.ishr, 1) := by decide +kernel
theorem dX1_transform_245 : decode cX1_transform 245 = .ok (.iconst 1, 1) := by decide +kernel
theorem dX1_transform_246 : decode cX1_transform 246 = .ok (.iand, 1) := by decide +kernel
theorem dX1_transform_247 : decode cX1_transform 247 = .ok (.ifCond .ne 6, 3) := by decide +kernel
theorem dX1_transform_250 : decode cX1_transform 250 = .ok (.goto 29, 3) := by decide +kernel
theorem dX1_transform_253 : decode cX1_transform 253 = .ok (.aload_n 0, 1) := by decide +kernel
theorem dX1_transform_254 : decode cX1_transform 254 = .ok (.getfield 68, 3) := by decide +kernel
theorem dX1_transform_257 : decode cX1_transform 257 = .ok (.iload_n 2, 1) := by decide +kernel
theorem dX1_transform_258 : decode cX1_transform 258 = .ok (.aload_n 0, 1) := by decide +kernel
theorem dX1_transform_259 : decode cX1_transform 259 = .ok (.getfield 7, 3) := by decide +kernel
theorem dX1_transform_262 : decode cX1_transform 262 = .ok (.iload 8, 2) := by decide +kernel
theorem dX1_transform_264 : decode cX1_transform 264 = .ok (.iaload, 1) := by decide +kernel
theorem dX1_transform_265 : decode cX1_transform 265 = .ok (.iastore, 1) := by decide +kernel
theorem dX1_transform_266 : decode cX1_transform 266 = .ok (.aload_n 0, 1) := by decide +kernel
theorem dX1_transform_267 : decode cX1_transform 267 = .ok (.getfield 71, 3) := by decide +kernel
theorem dX1_transform_270 : decode cX1_transform 270 = .ok (.iload_n 2, 1) := by decide +kernel
theorem dX1_transform_271 : decode cX1_transform 271 = .ok (.iinc 2 1, 3) := by decide +kernel
theorem dX1_transform_274 : decode cX1_transform 274 = .ok (.iload 5, 2) := by decide +kernel
theorem dX1_transform_276 : decode cX1_transform 276 = .ok (.iconst 1, 1) := by decide +kernel
theorem dX1_transform_277 : decode cX1_transform 277 = .ok (.iadd, 1) := by decide +kernel
theorem dX1_transform_278 : decode cX1_transform 278 = .ok (.iastore, 1) := by decide +kernel
theorem dX1_transform_279 : decode cX1_transform 279 = .ok (.iinc 8 (-1), 3) := by decide +kernel
theorem dX1_transform_282 : decode cX1_transform 282 = .ok (.goto (-52), 3) := by decide +kernel
theorem dX1_transform_285 : decode cX1_transform 285 = .ok (.goto (-249), 3) := by decide +kernel
theorem dX1_transform_288 : decode cX1_transform 288 = .ok (.aload_n 0, 1) := by decide +kernel
theorem dX1_transform_289 : decode cX1_transform 289 = .ok (.getfield 179, 3) := by decide +kernel
theorem dX1_transform_292 : decode cX1_transform 292 = .ok (.ireturn, 1) := by decide +kernel
abbrev cX1_best : ByteArray := prog_3_method_42_code
def yX1_best : MethodName := ⟨RX1, "best", "(I)I"⟩
theorem dX1_best_0 : decode cX1_best 0 = .ok (.iconst (-1), 1) := by decide +kernel
theorem dX1_best_1 : decode cX1_best 1 = .ok (.istore_n 2, 1) := by decide +kernel
theorem dX1_best_2 : decode cX1_best 2 = .ok (.iconst 0, 1) := by decide +kernel
theorem dX1_best_3 : decode cX1_best 3 = .ok (.istore_n 3, 1) := by decide +kernel
theorem dX1_best_4 : decode cX1_best 4 = .ok (.iload_n 3, 1) := by decide +kernel
theorem dX1_best_5 : decode cX1_best 5 = .ok (.bipush 6, 2) := by decide +kernel
theorem dX1_best_7 : decode cX1_best 7 = .ok (.if_icmp .ge 43, 3) := by decide +kernel
theorem dX1_best_10 : decode cX1_best 10 = .ok (.aload_n 0, 1) := by decide +kernel
theorem dX1_best_11 : decode cX1_best 11 = .ok (.iload_n 3, 1) := by decide +kernel
theorem dX1_best_12 : decode cX1_best 12 = .ok (.iload_n 1, 1) := by decide +kernel
theorem dX1_best_13 : decode cX1_best 13 = .ok (.invokevirtual 176, 3) := by decide +kernel
theorem dX1_best_16 : decode cX1_best 16 = .ok (.istore 4, 2) := by decide +kernel
theorem dX1_best_18 : decode cX1_best 18 = .ok (.iload 4, 2) := by decide +kernel
theorem dX1_best_20 : decode cX1_best 20 = .ok (.ifCond .eq 24, 3) := by decide +kernel
theorem dX1_best_23 : decode cX1_best 23 = .ok (.iload_n 2, 1) := by decide +kernel
theorem dX1_best_24 : decode cX1_best 24 = .ok (.ifCond .lt 18, 3) := by decide +kernel
theorem dX1_best_27 : decode cX1_best 27 = .ok (.aload_n 0, 1) := by decide +kernel
theorem dX1_best_28 : decode cX1_best 28 = .ok (.getfield 59, 3) := by decide +kernel
theorem dX1_best_31 : decode cX1_best 31 = .ok (.iload_n 3, 1) := by decide +kernel
theorem dX1_best_32 : decode cX1_best 32 = .ok (.iaload, 1) := by decide +kernel
theorem dX1_best_33 : decode cX1_best 33 = .ok (.aload_n 0, 1) := by decide +kernel
theorem dX1_best_34 : decode cX1_best 34 = .ok (.getfield 59, 3) := by decide +kernel
theorem dX1_best_37 : decode cX1_best 37 = .ok (.iload_n 2, 1) := by decide +kernel
theorem dX1_best_38 : decode cX1_best 38 = .ok (.iaload, 1) := by decide +kernel
theorem dX1_best_39 : decode cX1_best 39 = .ok (.if_icmp .lt 5, 3) := by decide +kernel
theorem dX1_best_42 : decode cX1_best 42 = .ok (.iload_n 3, 1) := by decide +kernel
theorem dX1_best_43 : decode cX1_best 43 = .ok (.istore_n 2, 1) := by decide +kernel
theorem dX1_best_44 : decode cX1_best 44 = .ok (.iinc 3 1, 3) := by decide +kernel
theorem dX1_best_47 : decode cX1_best 47 = .ok (.goto (-43), 3) := by decide +kernel
theorem dX1_best_50 : decode cX1_best 50 = .ok (.iload_n 2, 1) := by decide +kernel
theorem dX1_best_51 : decode cX1_best 51 = .ok (.ireturn, 1) := by decide +kernel
abbrev cX1_childrenOf : ByteArray := prog_3_method_44_code
def yX1_childrenOf : MethodName := ⟨RX1, "childrenOf", "(I)I"⟩
theorem dX1_childrenOf_0 : decode cX1_childrenOf 0 = .ok (.iconst 0, 1) := by decide +kernel
theorem dX1_childrenOf_1 : decode cX1_childrenOf 1 = .ok (.istore_n 2, 1) := by decide +kernel
theorem dX1_childrenOf_2 : decode cX1_childrenOf 2 = .ok (.iconst 0, 1) := by decide +kernel
theorem dX1_childrenOf_3 : decode cX1_childrenOf 3 = .ok (.istore_n 3, 1) := by decide +kernel
theorem dX1_childrenOf_4 : decode cX1_childrenOf 4 = .ok (.iload_n 3, 1) := by decide +kernel
theorem dX1_childrenOf_5 : decode cX1_childrenOf 5 = .ok (.aload_n 0, 1) := by decide +kernel
theorem dX1_childrenOf_6 : decode cX1_childrenOf 6 = .ok (.getfield 77, 3) := by decide +kernel
theorem dX1_childrenOf_9 : decode cX1_childrenOf 9 = .ok (.if_icmp .ge 34, 3) := by decide +kernel
theorem dX1_childrenOf_12 : decode cX1_childrenOf 12 = .ok (.aload_n 0, 1) := by decide +kernel
theorem dX1_childrenOf_13 : decode cX1_childrenOf 13 = .ok (.aload_n 0, 1) := by decide +kernel
theorem dX1_childrenOf_14 : decode cX1_childrenOf 14 = .ok (.getfield 7, 3) := by decide +kernel
theorem dX1_childrenOf_17 : decode cX1_childrenOf 17 = .ok (.iload_n 3, 1) := by decide +kernel
theorem dX1_childrenOf_18 : decode cX1_childrenOf 18 = .ok (.iaload, 1) := by decide +kernel
theorem dX1_childrenOf_19 : decode cX1_childrenOf 19 = .ok (.invokevirtual 116, 3) := by decide +kernel
theorem dX1_childrenOf_22 : decode cX1_childrenOf 22 = .ok (.iload_n 1, 1) := by decide +kernel
theorem dX1_childrenOf_23 : decode cX1_childrenOf 23 = .ok (.if_icmp .ne 14, 3) := by decide +kernel
theorem dX1_childrenOf_26 : decode cX1_childrenOf 26 = .ok (.iload_n 2, 1) := by decide +kernel
theorem dX1_childrenOf_27 : decode cX1_childrenOf 27 = .ok (.iconst 1, 1) := by decide +kernel
theorem dX1_childrenOf_28 : decode cX1_childrenOf 28 = .ok (.aload_n 0, 1) := by decide +kernel
theorem dX1_childrenOf_29 : decode cX1_childrenOf 29 = .ok (.getfield 7, 3) := by decide +kernel
theorem dX1_childrenOf_32 : decode cX1_childrenOf 32 = .ok (.iload_n 3, 1) := by decide +kernel
theorem dX1_childrenOf_33 : decode cX1_childrenOf 33 = .ok (.iaload, 1) := by decide +kernel
theorem dX1_childrenOf_34 : decode cX1_childrenOf 34 = .ok (.ishl, 1) := by decide +kernel
theorem dX1_childrenOf_35 : decode cX1_childrenOf 35 = .ok (.ior, 1) := by decide +kernel
theorem dX1_childrenOf_36 : decode cX1_childrenOf 36 = .ok (.istore_n 2, 1) := by decide +kernel
theorem dX1_childrenOf_37 : decode cX1_childrenOf 37 = .ok (.iinc 3 1, 3) := by decide +kernel
theorem dX1_childrenOf_40 : decode cX1_childrenOf 40 = .ok (.goto (-36), 3) := by decide +kernel
theorem dX1_childrenOf_43 : decode cX1_childrenOf 43 = .ok (.iload_n 2, 1) := by decide +kernel
theorem dX1_childrenOf_44 : decode cX1_childrenOf 44 = .ok (.ireturn, 1) := by decide +kernel
abbrev cX1_output : ByteArray := prog_3_method_45_code
def yX1_output : MethodName := ⟨RX1, "output", "(I)I"⟩
theorem dX1_output_0 : decode cX1_output 0 = .ok (.iload_n 1, 1) := by decide +kernel
theorem dX1_output_1 : decode cX1_output 1 = .ok (.iconst 0, 1) := by decide +kernel
theorem dX1_output_2 : decode cX1_output 2 = .ok (.aload_n 0, 1) := by decide +kernel
theorem dX1_output_3 : decode cX1_output 3 = .ok (.getfield 179, 3) := by decide +kernel
theorem dX1_output_6 : decode cX1_output 6 = .ok (.iconst 1, 1) := by decide +kernel
theorem dX1_output_7 : decode cX1_output 7 = .ok (.isub, 1) := by decide +kernel
theorem dX1_output_8 : decode cX1_output 8 = .ok (.invokestatic 88, 3) := by decide +kernel
theorem dX1_output_11 : decode cX1_output 11 = .ok (.ifCond .eq 12, 3) := by decide +kernel
theorem dX1_output_14 : decode cX1_output 14 = .ok (.aload_n 0, 1) := by decide +kernel
theorem dX1_output_15 : decode cX1_output 15 = .ok (.getfield 74, 3) := by decide +kernel
theorem dX1_output_18 : decode cX1_output 18 = .ok (.iload_n 1, 1) := by decide +kernel
theorem dX1_output_19 : decode cX1_output 19 = .ok (.iaload, 1) := by decide +kernel
theorem dX1_output_20 : decode cX1_output 20 = .ok (.goto 4, 3) := by decide +kernel
theorem dX1_output_23 : decode cX1_output 23 = .ok (.iconst 0, 1) := by decide +kernel
theorem dX1_output_24 : decode cX1_output 24 = .ok (.ireturn, 1) := by decide +kernel
theorem q51 : (Jvm.Cond.initialized "TransletDeskModel") ∈ lw_all := lw_g (lw_at lw_m1 2 rfl) rfl
theorem q363 : (Jvm.Cond.instantiable "TransletDeskModel" (26 : Nat)) ∈ lw_all := lw_g (lw_at lw_m2 74 rfl) rfl
theorem q365 : (Jvm.Cond.instanceMethod ({ cls := "TransletDeskModel", name := "<init>", desc := "()V" } : Jvm.MethodName)) ∈ lw_all := lw_g (lw_at lw_m2 76 rfl) rfl
theorem q366 : (Jvm.Cond.code ({ cls := "TransletDeskModel", name := "<init>", desc := "()V" } : Jvm.MethodName) prog_3_method_1_code (1 : Nat) (Option.none : Option Jvm.ClassFile.FieldType)) ∈ lw_all := lw_g (lw_at lw_m2 77 rfl) rfl
theorem q367 : (Jvm.Cond.methodLink "TransletDeskModel" (1 : Nat) ({ cls := "java/lang/Object", name := "<init>", desc := "()V" } : Jvm.MethodName)) ∈ lw_all := lw_g (lw_at lw_m2 78 rfl) rfl
theorem q368 : (Jvm.Cond.fieldLink "TransletDeskModel" (7 : Nat) "TransletDeskModel" "row" "[I") ∈ lw_all := lw_g (lw_at lw_m2 79 rfl) rfl
theorem q369 : (Jvm.Cond.fieldLink "TransletDeskModel" (13 : Nat) "TransletDeskModel" "depth" "[I") ∈ lw_all := lw_g (lw_at lw_m2 80 rfl) rfl
theorem q370 : (Jvm.Cond.fieldLink "TransletDeskModel" (16 : Nat) "TransletDeskModel" "name" "[I") ∈ lw_all := lw_g (lw_at lw_m2 81 rfl) rfl
theorem q371 : (Jvm.Cond.fieldLink "TransletDeskModel" (19 : Nat) "TransletDeskModel" "value" "[I") ∈ lw_all := lw_g (lw_at lw_m2 82 rfl) rfl
theorem q372 : (Jvm.Cond.fieldLink "TransletDeskModel" (22 : Nat) "TransletDeskModel" "moved" "[I") ∈ lw_all := lw_g (lw_at lw_m2 83 rfl) rfl
theorem q373 : (Jvm.Cond.fieldLink "TransletDeskModel" (77 : Nat) "TransletDeskModel" "count" "I") ∈ lw_all := lw_g (lw_at lw_m2 84 rfl) rfl
theorem q374 : (Jvm.Cond.fieldLink "TransletDeskModel" (25 : Nat) "TransletDeskModel" "kind" "[I") ∈ lw_all := lw_g (lw_at lw_m2 85 rfl) rfl
theorem q375 : (Jvm.Cond.fieldLink "TransletDeskModel" (28 : Nat) "TransletDeskModel" "with" "[I") ∈ lw_all := lw_g (lw_at lw_m2 86 rfl) rfl
theorem q376 : (Jvm.Cond.fieldLink "TransletDeskModel" (31 : Nat) "TransletDeskModel" "length" "[I") ∈ lw_all := lw_g (lw_at lw_m2 87 rfl) rfl
theorem q377 : (Jvm.Cond.fieldLink "TransletDeskModel" (34 : Nat) "TransletDeskModel" "sets" "[I") ∈ lw_all := lw_g (lw_at lw_m2 88 rfl) rfl
theorem q378 : (Jvm.Cond.fieldLink "TransletDeskModel" (37 : Nat) "TransletDeskModel" "fresh" "[Z") ∈ lw_all := lw_g (lw_at lw_m2 89 rfl) rfl
theorem q379 : (Jvm.Cond.fieldLink "TransletDeskModel" (41 : Nat) "TransletDeskModel" "type" "[I") ∈ lw_all := lw_g (lw_at lw_m2 90 rfl) rfl
theorem q380 : (Jvm.Cond.fieldLink "TransletDeskModel" (44 : Nat) "TransletDeskModel" "number" "[I") ∈ lw_all := lw_g (lw_at lw_m2 91 rfl) rfl
theorem q381 : (Jvm.Cond.fieldLink "TransletDeskModel" (47 : Nat) "TransletDeskModel" "set" "[I") ∈ lw_all := lw_g (lw_at lw_m2 92 rfl) rfl
theorem q382 : (Jvm.Cond.fieldLink "TransletDeskModel" (50 : Nat) "TransletDeskModel" "list" "[I") ∈ lw_all := lw_g (lw_at lw_m2 93 rfl) rfl
theorem q383 : (Jvm.Cond.fieldLink "TransletDeskModel" (106 : Nat) "TransletDeskModel" "top" "I") ∈ lw_all := lw_g (lw_at lw_m2 94 rfl) rfl
theorem q384 : (Jvm.Cond.fieldLink "TransletDeskModel" (119 : Nat) "TransletDeskModel" "listed" "I") ∈ lw_all := lw_g (lw_at lw_m2 95 rfl) rfl
theorem q385 : (Jvm.Cond.fieldLink "TransletDeskModel" (53 : Nat) "TransletDeskModel" "there" "[Z") ∈ lw_all := lw_g (lw_at lw_m2 96 rfl) rfl
theorem q386 : (Jvm.Cond.fieldLink "TransletDeskModel" (56 : Nat) "TransletDeskModel" "match" "[I") ∈ lw_all := lw_g (lw_at lw_m2 97 rfl) rfl
theorem q387 : (Jvm.Cond.fieldLink "TransletDeskModel" (59 : Nat) "TransletDeskModel" "priority" "[I") ∈ lw_all := lw_g (lw_at lw_m2 98 rfl) rfl
theorem q388 : (Jvm.Cond.fieldLink "TransletDeskModel" (62 : Nat) "TransletDeskModel" "out" "[I") ∈ lw_all := lw_g (lw_at lw_m2 99 rfl) rfl
theorem q389 : (Jvm.Cond.fieldLink "TransletDeskModel" (65 : Nat) "TransletDeskModel" "on" "[I") ∈ lw_all := lw_g (lw_at lw_m2 100 rfl) rfl
theorem q390 : (Jvm.Cond.fieldLink "TransletDeskModel" (68 : Nat) "TransletDeskModel" "todo" "[I") ∈ lw_all := lw_g (lw_at lw_m2 101 rfl) rfl
theorem q391 : (Jvm.Cond.fieldLink "TransletDeskModel" (71 : Nat) "TransletDeskModel" "within" "[I") ∈ lw_all := lw_g (lw_at lw_m2 102 rfl) rfl
theorem q392 : (Jvm.Cond.fieldLink "TransletDeskModel" (74 : Nat) "TransletDeskModel" "output" "[I") ∈ lw_all := lw_g (lw_at lw_m2 103 rfl) rfl
theorem q393 : (Jvm.Cond.fieldLink "TransletDeskModel" (179 : Nat) "TransletDeskModel" "outputs" "I") ∈ lw_all := lw_g (lw_at lw_m2 104 rfl) rfl
theorem q394 : (Jvm.Cond.laysFinal "TransletDeskModel" "TransletDeskModel" "row" "[I") ∈ lw_all := lw_g (lw_at lw_m2 105 rfl) rfl
theorem q395 : (Jvm.Cond.soleField "TransletDeskModel" "row") ∈ lw_all := lw_g (lw_at lw_m2 106 rfl) rfl
theorem q396 : (Jvm.Cond.laysFinal "TransletDeskModel" "TransletDeskModel" "depth" "[I") ∈ lw_all := lw_g (lw_at lw_m2 107 rfl) rfl
theorem q397 : (Jvm.Cond.soleField "TransletDeskModel" "depth") ∈ lw_all := lw_g (lw_at lw_m2 108 rfl) rfl
theorem q398 : (Jvm.Cond.laysFinal "TransletDeskModel" "TransletDeskModel" "name" "[I") ∈ lw_all := lw_g (lw_at lw_m2 109 rfl) rfl
theorem q399 : (Jvm.Cond.soleField "TransletDeskModel" "name") ∈ lw_all := lw_g (lw_at lw_m2 110 rfl) rfl
theorem q400 : (Jvm.Cond.laysFinal "TransletDeskModel" "TransletDeskModel" "value" "[I") ∈ lw_all := lw_g (lw_at lw_m2 111 rfl) rfl
theorem q401 : (Jvm.Cond.soleField "TransletDeskModel" "value") ∈ lw_all := lw_g (lw_at lw_m2 112 rfl) rfl
theorem q402 : (Jvm.Cond.laysFinal "TransletDeskModel" "TransletDeskModel" "moved" "[I") ∈ lw_all := lw_g (lw_at lw_m2 113 rfl) rfl
theorem q403 : (Jvm.Cond.soleField "TransletDeskModel" "moved") ∈ lw_all := lw_g (lw_at lw_m2 114 rfl) rfl
theorem q404 : (Jvm.Cond.lays "TransletDeskModel" "TransletDeskModel" "count" "I") ∈ lw_all := lw_g (lw_at lw_m2 115 rfl) rfl
theorem q405 : (Jvm.Cond.soleField "TransletDeskModel" "count") ∈ lw_all := lw_g (lw_at lw_m2 116 rfl) rfl
theorem q406 : (Jvm.Cond.laysFinal "TransletDeskModel" "TransletDeskModel" "kind" "[I") ∈ lw_all := lw_g (lw_at lw_m2 117 rfl) rfl
theorem q407 : (Jvm.Cond.soleField "TransletDeskModel" "kind") ∈ lw_all := lw_g (lw_at lw_m2 118 rfl) rfl
theorem q408 : (Jvm.Cond.laysFinal "TransletDeskModel" "TransletDeskModel" "with" "[I") ∈ lw_all := lw_g (lw_at lw_m2 119 rfl) rfl
theorem q409 : (Jvm.Cond.soleField "TransletDeskModel" "with") ∈ lw_all := lw_g (lw_at lw_m2 120 rfl) rfl
theorem q410 : (Jvm.Cond.laysFinal "TransletDeskModel" "TransletDeskModel" "length" "[I") ∈ lw_all := lw_g (lw_at lw_m2 121 rfl) rfl
theorem q411 : (Jvm.Cond.soleField "TransletDeskModel" "length") ∈ lw_all := lw_g (lw_at lw_m2 122 rfl) rfl
theorem q412 : (Jvm.Cond.laysFinal "TransletDeskModel" "TransletDeskModel" "sets" "[I") ∈ lw_all := lw_g (lw_at lw_m2 123 rfl) rfl
theorem q413 : (Jvm.Cond.soleField "TransletDeskModel" "sets") ∈ lw_all := lw_g (lw_at lw_m2 124 rfl) rfl
theorem q414 : (Jvm.Cond.laysFinal "TransletDeskModel" "TransletDeskModel" "fresh" "[Z") ∈ lw_all := lw_g (lw_at lw_m2 125 rfl) rfl
theorem q415 : (Jvm.Cond.soleField "TransletDeskModel" "fresh") ∈ lw_all := lw_g (lw_at lw_m2 126 rfl) rfl
theorem q416 : (Jvm.Cond.laysFinal "TransletDeskModel" "TransletDeskModel" "type" "[I") ∈ lw_all := lw_g (lw_at lw_m2 127 rfl) rfl
theorem q417 : (Jvm.Cond.soleField "TransletDeskModel" "type") ∈ lw_all := lw_g (lw_at lw_m2 128 rfl) rfl
theorem q418 : (Jvm.Cond.laysFinal "TransletDeskModel" "TransletDeskModel" "number" "[I") ∈ lw_all := lw_g (lw_at lw_m2 129 rfl) rfl
theorem q419 : (Jvm.Cond.soleField "TransletDeskModel" "number") ∈ lw_all := lw_g (lw_at lw_m2 130 rfl) rfl
theorem q420 : (Jvm.Cond.laysFinal "TransletDeskModel" "TransletDeskModel" "set" "[I") ∈ lw_all := lw_g (lw_at lw_m2 131 rfl) rfl
theorem q421 : (Jvm.Cond.soleField "TransletDeskModel" "set") ∈ lw_all := lw_g (lw_at lw_m2 132 rfl) rfl
theorem q422 : (Jvm.Cond.laysFinal "TransletDeskModel" "TransletDeskModel" "list" "[I") ∈ lw_all := lw_g (lw_at lw_m2 133 rfl) rfl
theorem q423 : (Jvm.Cond.soleField "TransletDeskModel" "list") ∈ lw_all := lw_g (lw_at lw_m2 134 rfl) rfl
theorem q424 : (Jvm.Cond.lays "TransletDeskModel" "TransletDeskModel" "top" "I") ∈ lw_all := lw_g (lw_at lw_m2 135 rfl) rfl
theorem q425 : (Jvm.Cond.soleField "TransletDeskModel" "top") ∈ lw_all := lw_g (lw_at lw_m2 136 rfl) rfl
theorem q426 : (Jvm.Cond.lays "TransletDeskModel" "TransletDeskModel" "listed" "I") ∈ lw_all := lw_g (lw_at lw_m2 137 rfl) rfl
theorem q427 : (Jvm.Cond.soleField "TransletDeskModel" "listed") ∈ lw_all := lw_g (lw_at lw_m2 138 rfl) rfl
theorem q428 : (Jvm.Cond.laysFinal "TransletDeskModel" "TransletDeskModel" "there" "[Z") ∈ lw_all := lw_g (lw_at lw_m2 139 rfl) rfl
theorem q429 : (Jvm.Cond.soleField "TransletDeskModel" "there") ∈ lw_all := lw_g (lw_at lw_m2 140 rfl) rfl
theorem q430 : (Jvm.Cond.laysFinal "TransletDeskModel" "TransletDeskModel" "match" "[I") ∈ lw_all := lw_g (lw_at lw_m2 141 rfl) rfl
theorem q431 : (Jvm.Cond.soleField "TransletDeskModel" "match") ∈ lw_all := lw_g (lw_at lw_m2 142 rfl) rfl
theorem q432 : (Jvm.Cond.laysFinal "TransletDeskModel" "TransletDeskModel" "priority" "[I") ∈ lw_all := lw_g (lw_at lw_m2 143 rfl) rfl
theorem q433 : (Jvm.Cond.soleField "TransletDeskModel" "priority") ∈ lw_all := lw_g (lw_at lw_m2 144 rfl) rfl
theorem q434 : (Jvm.Cond.laysFinal "TransletDeskModel" "TransletDeskModel" "out" "[I") ∈ lw_all := lw_g (lw_at lw_m2 145 rfl) rfl
theorem q435 : (Jvm.Cond.soleField "TransletDeskModel" "out") ∈ lw_all := lw_g (lw_at lw_m2 146 rfl) rfl
theorem q436 : (Jvm.Cond.laysFinal "TransletDeskModel" "TransletDeskModel" "on" "[I") ∈ lw_all := lw_g (lw_at lw_m2 147 rfl) rfl
theorem q437 : (Jvm.Cond.soleField "TransletDeskModel" "on") ∈ lw_all := lw_g (lw_at lw_m2 148 rfl) rfl
theorem q438 : (Jvm.Cond.laysFinal "TransletDeskModel" "TransletDeskModel" "todo" "[I") ∈ lw_all := lw_g (lw_at lw_m2 149 rfl) rfl
theorem q439 : (Jvm.Cond.soleField "TransletDeskModel" "todo") ∈ lw_all := lw_g (lw_at lw_m2 150 rfl) rfl
theorem q440 : (Jvm.Cond.laysFinal "TransletDeskModel" "TransletDeskModel" "within" "[I") ∈ lw_all := lw_g (lw_at lw_m2 151 rfl) rfl
theorem q441 : (Jvm.Cond.soleField "TransletDeskModel" "within") ∈ lw_all := lw_g (lw_at lw_m2 152 rfl) rfl
theorem q442 : (Jvm.Cond.laysFinal "TransletDeskModel" "TransletDeskModel" "output" "[I") ∈ lw_all := lw_g (lw_at lw_m2 153 rfl) rfl
theorem q443 : (Jvm.Cond.soleField "TransletDeskModel" "output") ∈ lw_all := lw_g (lw_at lw_m2 154 rfl) rfl
theorem q444 : (Jvm.Cond.lays "TransletDeskModel" "TransletDeskModel" "outputs" "I") ∈ lw_all := lw_g (lw_at lw_m2 155 rfl) rfl
theorem q445 : (Jvm.Cond.soleField "TransletDeskModel" "outputs") ∈ lw_all := lw_g (lw_at lw_m2 156 rfl) rfl
theorem q446 : (Jvm.Cond.superclass "TransletDeskModel" "java/lang/Object") ∈ lw_all := lw_g (lw_at lw_m2 157 rfl) rfl
theorem q448 : (Jvm.Cond.instanceMethod ({ cls := "TransletDeskModel", name := "insert", desc := "(III)I" } : Jvm.MethodName)) ∈ lw_all := lw_g (lw_at lw_m2 159 rfl) rfl
theorem q449 : (Jvm.Cond.selects "TransletDeskModel" ({ cls := "TransletDeskModel", name := "insert", desc := "(III)I" } : Jvm.MethodName) ({ cls := "TransletDeskModel", name := "insert", desc := "(III)I" } : Jvm.MethodName)) ∈ lw_all := lw_g (lw_at lw_m2 160 rfl) rfl
theorem q450 : (Jvm.Cond.code ({ cls := "TransletDeskModel", name := "insert", desc := "(III)I" } : Jvm.MethodName) prog_3_method_9_code (8 : Nat) (Option.some Jvm.ClassFile.FieldType.int)) ∈ lw_all := lw_g (lw_at lw_m2 161 rfl) rfl
theorem q451 : (Jvm.Cond.methodLink "TransletDeskModel" (88 : Nat) ({ cls := "TransletDeskModel", name := "in", desc := "(III)Z" } : Jvm.MethodName)) ∈ lw_all := lw_g (lw_at lw_m2 162 rfl) rfl
theorem q452 : (Jvm.Cond.static ({ cls := "TransletDeskModel", name := "in", desc := "(III)Z" } : Jvm.MethodName)) ∈ lw_all := lw_g (lw_at lw_m2 163 rfl) rfl
theorem q453 : (Jvm.Cond.code ({ cls := "TransletDeskModel", name := "in", desc := "(III)Z" } : Jvm.MethodName) prog_3_method_2_code (3 : Nat) (Option.some Jvm.ClassFile.FieldType.boolean)) ∈ lw_all := lw_g (lw_at lw_m2 164 rfl) rfl
theorem q454 : (Jvm.Cond.methodLink "TransletDeskModel" (81 : Nat) ({ cls := "TransletDeskModel", name := "where", desc := "(I)I" } : Jvm.MethodName)) ∈ lw_all := lw_g (lw_at lw_m2 165 rfl) rfl
theorem q455 : (Jvm.Cond.privateMethod ({ cls := "TransletDeskModel", name := "where", desc := "(I)I" } : Jvm.MethodName)) ∈ lw_tbl := lw_at lw_m2 166 rfl
theorem q456 : (Jvm.Cond.instanceMethod ({ cls := "TransletDeskModel", name := "where", desc := "(I)I" } : Jvm.MethodName)) ∈ lw_all := lw_g (lw_at lw_m2 167 rfl) rfl
theorem q457 : (Jvm.Cond.code ({ cls := "TransletDeskModel", name := "where", desc := "(I)I" } : Jvm.MethodName) prog_3_method_4_code (3 : Nat) (Option.some Jvm.ClassFile.FieldType.int)) ∈ lw_all := lw_g (lw_at lw_m2 168 rfl) rfl
theorem q458 : (Jvm.Cond.methodLink "TransletDeskModel" (92 : Nat) ({ cls := "TransletDeskModel", name := "place", desc := "(II)I" } : Jvm.MethodName)) ∈ lw_all := lw_g (lw_at lw_m2 169 rfl) rfl
theorem q459 : (Jvm.Cond.privateMethod ({ cls := "TransletDeskModel", name := "place", desc := "(II)I" } : Jvm.MethodName)) ∈ lw_tbl := lw_at lw_m2 170 rfl
theorem q460 : (Jvm.Cond.instanceMethod ({ cls := "TransletDeskModel", name := "place", desc := "(II)I" } : Jvm.MethodName)) ∈ lw_all := lw_g (lw_at lw_m2 171 rfl) rfl
theorem q461 : (Jvm.Cond.code ({ cls := "TransletDeskModel", name := "place", desc := "(II)I" } : Jvm.MethodName) prog_3_method_8_code (6 : Nat) (Option.some Jvm.ClassFile.FieldType.int)) ∈ lw_all := lw_g (lw_at lw_m2 172 rfl) rfl
theorem q462 : (Jvm.Cond.methodLink "TransletDeskModel" (85 : Nat) ({ cls := "TransletDeskModel", name := "behind", desc := "(I)I" } : Jvm.MethodName)) ∈ lw_all := lw_g (lw_at lw_m2 173 rfl) rfl
theorem q463 : (Jvm.Cond.privateMethod ({ cls := "TransletDeskModel", name := "behind", desc := "(I)I" } : Jvm.MethodName)) ∈ lw_tbl := lw_at lw_m2 174 rfl
theorem q464 : (Jvm.Cond.instanceMethod ({ cls := "TransletDeskModel", name := "behind", desc := "(I)I" } : Jvm.MethodName)) ∈ lw_all := lw_g (lw_at lw_m2 175 rfl) rfl
theorem q465 : (Jvm.Cond.code ({ cls := "TransletDeskModel", name := "behind", desc := "(I)I" } : Jvm.MethodName) prog_3_method_5_code (3 : Nat) (Option.some Jvm.ClassFile.FieldType.int)) ∈ lw_all := lw_g (lw_at lw_m2 176 rfl) rfl
theorem q466 : (Jvm.Cond.methodLink "TransletDeskModel" (96 : Nat) ({ cls := "TransletDeskModel", name := "changed", desc := "()V" } : Jvm.MethodName)) ∈ lw_all := lw_g (lw_at lw_m2 177 rfl) rfl
theorem q467 : (Jvm.Cond.privateMethod ({ cls := "TransletDeskModel", name := "changed", desc := "()V" } : Jvm.MethodName)) ∈ lw_tbl := lw_at lw_m2 178 rfl
theorem q468 : (Jvm.Cond.instanceMethod ({ cls := "TransletDeskModel", name := "changed", desc := "()V" } : Jvm.MethodName)) ∈ lw_all := lw_g (lw_at lw_m2 179 rfl) rfl
theorem q469 : (Jvm.Cond.code ({ cls := "TransletDeskModel", name := "changed", desc := "()V" } : Jvm.MethodName) prog_3_method_3_code (2 : Nat) (Option.none : Option Jvm.ClassFile.FieldType)) ∈ lw_all := lw_g (lw_at lw_m2 180 rfl) rfl
theorem q471 : (Jvm.Cond.instanceMethod ({ cls := "TransletDeskModel", name := "remove", desc := "(I)I" } : Jvm.MethodName)) ∈ lw_all := lw_g (lw_at lw_m2 182 rfl) rfl
theorem q472 : (Jvm.Cond.selects "TransletDeskModel" ({ cls := "TransletDeskModel", name := "remove", desc := "(I)I" } : Jvm.MethodName) ({ cls := "TransletDeskModel", name := "remove", desc := "(I)I" } : Jvm.MethodName)) ∈ lw_all := lw_g (lw_at lw_m2 183 rfl) rfl
theorem q473 : (Jvm.Cond.code ({ cls := "TransletDeskModel", name := "remove", desc := "(I)I" } : Jvm.MethodName) prog_3_method_10_code (5 : Nat) (Option.some Jvm.ClassFile.FieldType.int)) ∈ lw_all := lw_g (lw_at lw_m2 184 rfl) rfl
theorem q475 : (Jvm.Cond.instanceMethod ({ cls := "TransletDeskModel", name := "move", desc := "(III)Z" } : Jvm.MethodName)) ∈ lw_all := lw_g (lw_at lw_m2 186 rfl) rfl
theorem q476 : (Jvm.Cond.selects "TransletDeskModel" ({ cls := "TransletDeskModel", name := "move", desc := "(III)Z" } : Jvm.MethodName) ({ cls := "TransletDeskModel", name := "move", desc := "(III)Z" } : Jvm.MethodName)) ∈ lw_all := lw_g (lw_at lw_m2 187 rfl) rfl
theorem q477 : (Jvm.Cond.code ({ cls := "TransletDeskModel", name := "move", desc := "(III)Z" } : Jvm.MethodName) prog_3_method_11_code (11 : Nat) (Option.some Jvm.ClassFile.FieldType.boolean)) ∈ lw_all := lw_g (lw_at lw_m2 188 rfl) rfl
theorem q478 : (Jvm.Cond.methodLink "TransletDeskModel" (99 : Nat) ({ cls := "TransletDeskModel", name := "isBelow", desc := "(II)Z" } : Jvm.MethodName)) ∈ lw_all := lw_g (lw_at lw_m2 189 rfl) rfl
theorem q479 : (Jvm.Cond.privateMethod ({ cls := "TransletDeskModel", name := "isBelow", desc := "(II)Z" } : Jvm.MethodName)) ∈ lw_tbl := lw_at lw_m2 190 rfl
theorem q480 : (Jvm.Cond.instanceMethod ({ cls := "TransletDeskModel", name := "isBelow", desc := "(II)Z" } : Jvm.MethodName)) ∈ lw_all := lw_g (lw_at lw_m2 191 rfl) rfl
theorem q481 : (Jvm.Cond.code ({ cls := "TransletDeskModel", name := "isBelow", desc := "(II)Z" } : Jvm.MethodName) prog_3_method_6_code (5 : Nat) (Option.some Jvm.ClassFile.FieldType.boolean)) ∈ lw_all := lw_g (lw_at lw_m2 192 rfl) rfl
theorem q483 : (Jvm.Cond.instanceMethod ({ cls := "TransletDeskModel", name := "change", desc := "(III)Z" } : Jvm.MethodName)) ∈ lw_all := lw_g (lw_at lw_m2 194 rfl) rfl
theorem q484 : (Jvm.Cond.selects "TransletDeskModel" ({ cls := "TransletDeskModel", name := "change", desc := "(III)Z" } : Jvm.MethodName) ({ cls := "TransletDeskModel", name := "change", desc := "(III)Z" } : Jvm.MethodName)) ∈ lw_all := lw_g (lw_at lw_m2 195 rfl) rfl
theorem q485 : (Jvm.Cond.code ({ cls := "TransletDeskModel", name := "change", desc := "(III)Z" } : Jvm.MethodName) prog_3_method_12_code (4 : Nat) (Option.some Jvm.ClassFile.FieldType.boolean)) ∈ lw_all := lw_g (lw_at lw_m2 196 rfl) rfl
theorem q487 : (Jvm.Cond.instanceMethod ({ cls := "TransletDeskModel", name := "child", desc := "(II)I" } : Jvm.MethodName)) ∈ lw_all := lw_g (lw_at lw_m2 198 rfl) rfl
theorem q488 : (Jvm.Cond.selects "TransletDeskModel" ({ cls := "TransletDeskModel", name := "child", desc := "(II)I" } : Jvm.MethodName) ({ cls := "TransletDeskModel", name := "child", desc := "(II)I" } : Jvm.MethodName)) ∈ lw_all := lw_g (lw_at lw_m2 199 rfl) rfl
theorem q489 : (Jvm.Cond.code ({ cls := "TransletDeskModel", name := "child", desc := "(II)I" } : Jvm.MethodName) prog_3_method_13_code (5 : Nat) (Option.some Jvm.ClassFile.FieldType.int)) ∈ lw_all := lw_g (lw_at lw_m2 200 rfl) rfl
theorem q491 : (Jvm.Cond.instanceMethod ({ cls := "TransletDeskModel", name := "token", desc := "(II)I" } : Jvm.MethodName)) ∈ lw_all := lw_g (lw_at lw_m2 202 rfl) rfl
theorem q492 : (Jvm.Cond.selects "TransletDeskModel" ({ cls := "TransletDeskModel", name := "token", desc := "(II)I" } : Jvm.MethodName) ({ cls := "TransletDeskModel", name := "token", desc := "(II)I" } : Jvm.MethodName)) ∈ lw_all := lw_g (lw_at lw_m2 203 rfl) rfl
theorem q493 : (Jvm.Cond.code ({ cls := "TransletDeskModel", name := "token", desc := "(II)I" } : Jvm.MethodName) prog_3_method_16_code (4 : Nat) (Option.some Jvm.ClassFile.FieldType.int)) ∈ lw_all := lw_g (lw_at lw_m2 204 rfl) rfl
theorem q495 : (Jvm.Cond.instanceMethod ({ cls := "TransletDeskModel", name := "expression", desc := "(I)I" } : Jvm.MethodName)) ∈ lw_all := lw_g (lw_at lw_m2 206 rfl) rfl
theorem q496 : (Jvm.Cond.selects "TransletDeskModel" ({ cls := "TransletDeskModel", name := "expression", desc := "(I)I" } : Jvm.MethodName) ({ cls := "TransletDeskModel", name := "expression", desc := "(I)I" } : Jvm.MethodName)) ∈ lw_all := lw_g (lw_at lw_m2 207 rfl) rfl
theorem q497 : (Jvm.Cond.code ({ cls := "TransletDeskModel", name := "expression", desc := "(I)I" } : Jvm.MethodName) prog_3_method_19_code (5 : Nat) (Option.some Jvm.ClassFile.FieldType.int)) ∈ lw_all := lw_g (lw_at lw_m2 208 rfl) rfl
theorem q498 : (Jvm.Cond.methodLink "TransletDeskModel" (112 : Nat) ({ cls := "TransletDeskModel", name := "isWhole", desc := "()Z" } : Jvm.MethodName)) ∈ lw_all := lw_g (lw_at lw_m2 209 rfl) rfl
theorem q499 : (Jvm.Cond.privateMethod ({ cls := "TransletDeskModel", name := "isWhole", desc := "()Z" } : Jvm.MethodName)) ∈ lw_tbl := lw_at lw_m2 210 rfl
theorem q500 : (Jvm.Cond.instanceMethod ({ cls := "TransletDeskModel", name := "isWhole", desc := "()Z" } : Jvm.MethodName)) ∈ lw_all := lw_g (lw_at lw_m2 211 rfl) rfl
theorem q501 : (Jvm.Cond.code ({ cls := "TransletDeskModel", name := "isWhole", desc := "()Z" } : Jvm.MethodName) prog_3_method_18_code (7 : Nat) (Option.some Jvm.ClassFile.FieldType.boolean)) ∈ lw_all := lw_g (lw_at lw_m2 212 rfl) rfl
theorem q502 : (Jvm.Cond.methodLink "TransletDeskModel" (103 : Nat) ({ cls := "TransletDeskModel", name := "operands", desc := "(II)I" } : Jvm.MethodName)) ∈ lw_all := lw_g (lw_at lw_m2 213 rfl) rfl
theorem q503 : (Jvm.Cond.static ({ cls := "TransletDeskModel", name := "operands", desc := "(II)I" } : Jvm.MethodName)) ∈ lw_all := lw_g (lw_at lw_m2 214 rfl) rfl
theorem q504 : (Jvm.Cond.code ({ cls := "TransletDeskModel", name := "operands", desc := "(II)I" } : Jvm.MethodName) prog_3_method_15_code (2 : Nat) (Option.some Jvm.ClassFile.FieldType.int)) ∈ lw_all := lw_g (lw_at lw_m2 215 rfl) rfl
theorem q505 : (Jvm.Cond.methodLink "TransletDeskModel" (109 : Nat) ({ cls := "TransletDeskModel", name := "typeOf", desc := "(I)I" } : Jvm.MethodName)) ∈ lw_all := lw_g (lw_at lw_m2 216 rfl) rfl
theorem q506 : (Jvm.Cond.static ({ cls := "TransletDeskModel", name := "typeOf", desc := "(I)I" } : Jvm.MethodName)) ∈ lw_all := lw_g (lw_at lw_m2 217 rfl) rfl
theorem q507 : (Jvm.Cond.code ({ cls := "TransletDeskModel", name := "typeOf", desc := "(I)I" } : Jvm.MethodName) prog_3_method_14_code (1 : Nat) (Option.some Jvm.ClassFile.FieldType.int)) ∈ lw_all := lw_g (lw_at lw_m2 218 rfl) rfl
theorem q509 : (Jvm.Cond.instanceMethod ({ cls := "TransletDeskModel", name := "size", desc := "(II)I" } : Jvm.MethodName)) ∈ lw_all := lw_g (lw_at lw_m2 220 rfl) rfl
theorem q510 : (Jvm.Cond.selects "TransletDeskModel" ({ cls := "TransletDeskModel", name := "size", desc := "(II)I" } : Jvm.MethodName) ({ cls := "TransletDeskModel", name := "size", desc := "(II)I" } : Jvm.MethodName)) ∈ lw_all := lw_g (lw_at lw_m2 221 rfl) rfl
theorem q511 : (Jvm.Cond.code ({ cls := "TransletDeskModel", name := "size", desc := "(II)I" } : Jvm.MethodName) prog_3_method_35_code (3 : Nat) (Option.some Jvm.ClassFile.FieldType.int)) ∈ lw_all := lw_g (lw_at lw_m2 222 rfl) rfl
theorem q512 : (Jvm.Cond.methodLink "TransletDeskModel" (167 : Nat) ({ cls := "TransletDeskModel", name := "isExpression", desc := "(II)Z" } : Jvm.MethodName)) ∈ lw_all := lw_g (lw_at lw_m2 223 rfl) rfl
theorem q513 : (Jvm.Cond.privateMethod ({ cls := "TransletDeskModel", name := "isExpression", desc := "(II)Z" } : Jvm.MethodName)) ∈ lw_tbl := lw_at lw_m2 224 rfl
theorem q514 : (Jvm.Cond.instanceMethod ({ cls := "TransletDeskModel", name := "isExpression", desc := "(II)Z" } : Jvm.MethodName)) ∈ lw_all := lw_g (lw_at lw_m2 225 rfl) rfl
theorem q515 : (Jvm.Cond.code ({ cls := "TransletDeskModel", name := "isExpression", desc := "(II)Z" } : Jvm.MethodName) prog_3_method_32_code (3 : Nat) (Option.some Jvm.ClassFile.FieldType.boolean)) ∈ lw_all := lw_g (lw_at lw_m2 226 rfl) rfl
theorem q516 : (Jvm.Cond.methodLink "TransletDeskModel" (170 : Nat) ({ cls := "TransletDeskModel", name := "isSet", desc := "(I)Z" } : Jvm.MethodName)) ∈ lw_all := lw_g (lw_at lw_m2 227 rfl) rfl
theorem q517 : (Jvm.Cond.privateMethod ({ cls := "TransletDeskModel", name := "isSet", desc := "(I)Z" } : Jvm.MethodName)) ∈ lw_tbl := lw_at lw_m2 228 rfl
theorem q518 : (Jvm.Cond.instanceMethod ({ cls := "TransletDeskModel", name := "isSet", desc := "(I)Z" } : Jvm.MethodName)) ∈ lw_all := lw_g (lw_at lw_m2 229 rfl) rfl
theorem q519 : (Jvm.Cond.code ({ cls := "TransletDeskModel", name := "isSet", desc := "(I)Z" } : Jvm.MethodName) prog_3_method_34_code (2 : Nat) (Option.some Jvm.ClassFile.FieldType.boolean)) ∈ lw_all := lw_g (lw_at lw_m2 230 rfl) rfl
theorem q520 : (Jvm.Cond.methodLink "TransletDeskModel" (173 : Nat) ({ cls := "TransletDeskModel", name := "ask", desc := "(II)V" } : Jvm.MethodName)) ∈ lw_all := lw_g (lw_at lw_m2 231 rfl) rfl
theorem q521 : (Jvm.Cond.privateMethod ({ cls := "TransletDeskModel", name := "ask", desc := "(II)V" } : Jvm.MethodName)) ∈ lw_tbl := lw_at lw_m2 232 rfl
theorem q522 : (Jvm.Cond.instanceMethod ({ cls := "TransletDeskModel", name := "ask", desc := "(II)V" } : Jvm.MethodName)) ∈ lw_all := lw_g (lw_at lw_m2 233 rfl) rfl
theorem q523 : (Jvm.Cond.code ({ cls := "TransletDeskModel", name := "ask", desc := "(II)V" } : Jvm.MethodName) prog_3_method_33_code (3 : Nat) (Option.none : Option Jvm.ClassFile.FieldType)) ∈ lw_all := lw_g (lw_at lw_m2 234 rfl) rfl
theorem q524 : (Jvm.Cond.methodLink "TransletDeskModel" (163 : Nat) ({ cls := "TransletDeskModel", name := "prepare", desc := "(I)V" } : Jvm.MethodName)) ∈ lw_all := lw_g (lw_at lw_m2 235 rfl) rfl
theorem q525 : (Jvm.Cond.privateMethod ({ cls := "TransletDeskModel", name := "prepare", desc := "(I)V" } : Jvm.MethodName)) ∈ lw_tbl := lw_at lw_m2 236 rfl
theorem q526 : (Jvm.Cond.instanceMethod ({ cls := "TransletDeskModel", name := "prepare", desc := "(I)V" } : Jvm.MethodName)) ∈ lw_all := lw_g (lw_at lw_m2 237 rfl) rfl
theorem q527 : (Jvm.Cond.code ({ cls := "TransletDeskModel", name := "prepare", desc := "(I)V" } : Jvm.MethodName) prog_3_method_23_code (9 : Nat) (Option.none : Option Jvm.ClassFile.FieldType)) ∈ lw_all := lw_g (lw_at lw_m2 238 rfl) rfl
theorem q528 : (Jvm.Cond.methodLink "TransletDeskModel" (125 : Nat) ({ cls := "TransletDeskModel", name := "endOf", desc := "(I)I" } : Jvm.MethodName)) ∈ lw_all := lw_g (lw_at lw_m2 239 rfl) rfl
theorem q529 : (Jvm.Cond.privateMethod ({ cls := "TransletDeskModel", name := "endOf", desc := "(I)I" } : Jvm.MethodName)) ∈ lw_tbl := lw_at lw_m3 0 rfl
theorem q530 : (Jvm.Cond.instanceMethod ({ cls := "TransletDeskModel", name := "endOf", desc := "(I)I" } : Jvm.MethodName)) ∈ lw_all := lw_g (lw_at lw_m3 1 rfl) rfl
theorem q531 : (Jvm.Cond.code ({ cls := "TransletDeskModel", name := "endOf", desc := "(I)I" } : Jvm.MethodName) prog_3_method_17_code (4 : Nat) (Option.some Jvm.ClassFile.FieldType.int)) ∈ lw_all := lw_g (lw_at lw_m3 2 rfl) rfl
theorem q532 : (Jvm.Cond.methodLink "TransletDeskModel" (136 : Nat) ({ cls := "TransletDeskModel", name := "step", desc := "(III)I" } : Jvm.MethodName)) ∈ lw_all := lw_g (lw_at lw_m3 3 rfl) rfl
theorem q533 : (Jvm.Cond.privateMethod ({ cls := "TransletDeskModel", name := "step", desc := "(III)I" } : Jvm.MethodName)) ∈ lw_tbl := lw_at lw_m3 4 rfl
theorem q534 : (Jvm.Cond.instanceMethod ({ cls := "TransletDeskModel", name := "step", desc := "(III)I" } : Jvm.MethodName)) ∈ lw_all := lw_g (lw_at lw_m3 5 rfl) rfl
theorem q535 : (Jvm.Cond.code ({ cls := "TransletDeskModel", name := "step", desc := "(III)I" } : Jvm.MethodName) prog_3_method_21_code (11 : Nat) (Option.some Jvm.ClassFile.FieldType.int)) ∈ lw_all := lw_g (lw_at lw_m3 6 rfl) rfl
theorem q536 : (Jvm.Cond.methodLink "TransletDeskModel" (122 : Nat) ({ cls := "TransletDeskModel", name := "isOn", desc := "(III)Z" } : Jvm.MethodName)) ∈ lw_all := lw_g (lw_at lw_m3 7 rfl) rfl
theorem q537 : (Jvm.Cond.privateMethod ({ cls := "TransletDeskModel", name := "isOn", desc := "(III)Z" } : Jvm.MethodName)) ∈ lw_tbl := lw_at lw_m3 8 rfl
theorem q538 : (Jvm.Cond.instanceMethod ({ cls := "TransletDeskModel", name := "isOn", desc := "(III)Z" } : Jvm.MethodName)) ∈ lw_all := lw_g (lw_at lw_m3 9 rfl) rfl
theorem q539 : (Jvm.Cond.code ({ cls := "TransletDeskModel", name := "isOn", desc := "(III)Z" } : Jvm.MethodName) prog_3_method_20_code (10 : Nat) (Option.some Jvm.ClassFile.FieldType.boolean)) ∈ lw_all := lw_g (lw_at lw_m3 10 rfl) rfl
theorem q540 : (Jvm.Cond.methodLink "TransletDeskModel" (116 : Nat) ({ cls := "TransletDeskModel", name := "parentOf", desc := "(I)I" } : Jvm.MethodName)) ∈ lw_all := lw_g (lw_at lw_m3 11 rfl) rfl
theorem q541 : (Jvm.Cond.privateMethod ({ cls := "TransletDeskModel", name := "parentOf", desc := "(I)I" } : Jvm.MethodName)) ∈ lw_tbl := lw_at lw_m3 12 rfl
theorem q542 : (Jvm.Cond.instanceMethod ({ cls := "TransletDeskModel", name := "parentOf", desc := "(I)I" } : Jvm.MethodName)) ∈ lw_all := lw_g (lw_at lw_m3 13 rfl) rfl
theorem q543 : (Jvm.Cond.code ({ cls := "TransletDeskModel", name := "parentOf", desc := "(I)I" } : Jvm.MethodName) prog_3_method_7_code (3 : Nat) (Option.some Jvm.ClassFile.FieldType.int)) ∈ lw_all := lw_g (lw_at lw_m3 14 rfl) rfl
theorem q544 : (Jvm.Cond.methodLink "TransletDeskModel" (128 : Nat) ({ cls := "TransletDeskModel", name := "sift", desc := "(II)V" } : Jvm.MethodName)) ∈ lw_all := lw_g (lw_at lw_m3 15 rfl) rfl
theorem q545 : (Jvm.Cond.privateMethod ({ cls := "TransletDeskModel", name := "sift", desc := "(II)V" } : Jvm.MethodName)) ∈ lw_tbl := lw_at lw_m3 16 rfl
theorem q546 : (Jvm.Cond.instanceMethod ({ cls := "TransletDeskModel", name := "sift", desc := "(II)V" } : Jvm.MethodName)) ∈ lw_all := lw_g (lw_at lw_m3 17 rfl) rfl
theorem q547 : (Jvm.Cond.code ({ cls := "TransletDeskModel", name := "sift", desc := "(II)V" } : Jvm.MethodName) prog_3_method_22_code (7 : Nat) (Option.none : Option Jvm.ClassFile.FieldType)) ∈ lw_all := lw_g (lw_at lw_m3 18 rfl) rfl
theorem q548 : (Jvm.Cond.methodLink "TransletDeskModel" (132 : Nat) ({ cls := "TransletDeskModel", name := "workOut", desc := "(IIIII)V" } : Jvm.MethodName)) ∈ lw_all := lw_g (lw_at lw_m3 19 rfl) rfl
theorem q549 : (Jvm.Cond.privateMethod ({ cls := "TransletDeskModel", name := "workOut", desc := "(IIIII)V" } : Jvm.MethodName)) ∈ lw_tbl := lw_at lw_m3 20 rfl
theorem q550 : (Jvm.Cond.instanceMethod ({ cls := "TransletDeskModel", name := "workOut", desc := "(IIIII)V" } : Jvm.MethodName)) ∈ lw_all := lw_g (lw_at lw_m3 21 rfl) rfl
theorem q551 : (Jvm.Cond.code ({ cls := "TransletDeskModel", name := "workOut", desc := "(IIIII)V" } : Jvm.MethodName) prog_3_method_27_code (13 : Nat) (Option.none : Option Jvm.ClassFile.FieldType)) ∈ lw_all := lw_g (lw_at lw_m3 22 rfl) rfl
theorem q552 : (Jvm.Cond.methodLink "TransletDeskModel" (143 : Nat) ({ cls := "TransletDeskModel", name := "result", desc := "(IIIII)I" } : Jvm.MethodName)) ∈ lw_all := lw_g (lw_at lw_m3 23 rfl) rfl
theorem q553 : (Jvm.Cond.privateMethod ({ cls := "TransletDeskModel", name := "result", desc := "(IIIII)I" } : Jvm.MethodName)) ∈ lw_tbl := lw_at lw_m3 24 rfl
theorem q554 : (Jvm.Cond.instanceMethod ({ cls := "TransletDeskModel", name := "result", desc := "(IIIII)I" } : Jvm.MethodName)) ∈ lw_all := lw_g (lw_at lw_m3 25 rfl) rfl
theorem q555 : (Jvm.Cond.code ({ cls := "TransletDeskModel", name := "result", desc := "(IIIII)I" } : Jvm.MethodName) prog_3_method_28_code (8 : Nat) (Option.some Jvm.ClassFile.FieldType.int)) ∈ lw_all := lw_g (lw_at lw_m3 26 rfl) rfl
theorem q556 : (Jvm.Cond.methodLink "TransletDeskModel" (147 : Nat) ({ cls := "TransletDeskModel", name := "counted", desc := "(I)I" } : Jvm.MethodName)) ∈ lw_all := lw_g (lw_at lw_m3 27 rfl) rfl
theorem q557 : (Jvm.Cond.privateMethod ({ cls := "TransletDeskModel", name := "counted", desc := "(I)I" } : Jvm.MethodName)) ∈ lw_tbl := lw_at lw_m3 28 rfl
theorem q558 : (Jvm.Cond.instanceMethod ({ cls := "TransletDeskModel", name := "counted", desc := "(I)I" } : Jvm.MethodName)) ∈ lw_all := lw_g (lw_at lw_m3 29 rfl) rfl
theorem q559 : (Jvm.Cond.code ({ cls := "TransletDeskModel", name := "counted", desc := "(I)I" } : Jvm.MethodName) prog_3_method_29_code (4 : Nat) (Option.some Jvm.ClassFile.FieldType.int)) ∈ lw_all := lw_g (lw_at lw_m3 30 rfl) rfl
theorem q560 : (Jvm.Cond.methodLink "TransletDeskModel" (150 : Nat) ({ cls := "TransletDeskModel", name := "summed", desc := "(I)I" } : Jvm.MethodName)) ∈ lw_all := lw_g (lw_at lw_m3 31 rfl) rfl
theorem q561 : (Jvm.Cond.privateMethod ({ cls := "TransletDeskModel", name := "summed", desc := "(I)I" } : Jvm.MethodName)) ∈ lw_tbl := lw_at lw_m3 32 rfl
theorem q562 : (Jvm.Cond.instanceMethod ({ cls := "TransletDeskModel", name := "summed", desc := "(I)I" } : Jvm.MethodName)) ∈ lw_all := lw_g (lw_at lw_m3 33 rfl) rfl
theorem q563 : (Jvm.Cond.code ({ cls := "TransletDeskModel", name := "summed", desc := "(I)I" } : Jvm.MethodName) prog_3_method_30_code (4 : Nat) (Option.some Jvm.ClassFile.FieldType.int)) ∈ lw_all := lw_g (lw_at lw_m3 34 rfl) rfl
theorem q564 : (Jvm.Cond.methodLink "TransletDeskModel" (140 : Nat) ({ cls := "TransletDeskModel", name := "firstOf", desc := "(I)I" } : Jvm.MethodName)) ∈ lw_all := lw_g (lw_at lw_m3 35 rfl) rfl
theorem q565 : (Jvm.Cond.privateMethod ({ cls := "TransletDeskModel", name := "firstOf", desc := "(I)I" } : Jvm.MethodName)) ∈ lw_tbl := lw_at lw_m3 36 rfl
theorem q566 : (Jvm.Cond.instanceMethod ({ cls := "TransletDeskModel", name := "firstOf", desc := "(I)I" } : Jvm.MethodName)) ∈ lw_all := lw_g (lw_at lw_m3 37 rfl) rfl
theorem q567 : (Jvm.Cond.code ({ cls := "TransletDeskModel", name := "firstOf", desc := "(I)I" } : Jvm.MethodName) prog_3_method_24_code (3 : Nat) (Option.some Jvm.ClassFile.FieldType.int)) ∈ lw_all := lw_g (lw_at lw_m3 38 rfl) rfl
theorem q568 : (Jvm.Cond.methodLink "TransletDeskModel" (153 : Nat) ({ cls := "TransletDeskModel", name := "compare", desc := "(III)Z" } : Jvm.MethodName)) ∈ lw_all := lw_g (lw_at lw_m3 39 rfl) rfl
theorem q569 : (Jvm.Cond.privateMethod ({ cls := "TransletDeskModel", name := "compare", desc := "(III)Z" } : Jvm.MethodName)) ∈ lw_tbl := lw_at lw_m3 40 rfl
theorem q570 : (Jvm.Cond.instanceMethod ({ cls := "TransletDeskModel", name := "compare", desc := "(III)Z" } : Jvm.MethodName)) ∈ lw_all := lw_g (lw_at lw_m3 41 rfl) rfl
theorem q571 : (Jvm.Cond.code ({ cls := "TransletDeskModel", name := "compare", desc := "(III)Z" } : Jvm.MethodName) prog_3_method_31_code (8 : Nat) (Option.some Jvm.ClassFile.FieldType.boolean)) ∈ lw_all := lw_g (lw_at lw_m3 42 rfl) rfl
theorem q572 : (Jvm.Cond.methodLink "TransletDeskModel" (156 : Nat) ({ cls := "TransletDeskModel", name := "isTrue", desc := "(I)Z" } : Jvm.MethodName)) ∈ lw_all := lw_g (lw_at lw_m3 43 rfl) rfl
theorem q573 : (Jvm.Cond.privateMethod ({ cls := "TransletDeskModel", name := "isTrue", desc := "(I)Z" } : Jvm.MethodName)) ∈ lw_tbl := lw_at lw_m3 44 rfl
theorem q574 : (Jvm.Cond.instanceMethod ({ cls := "TransletDeskModel", name := "isTrue", desc := "(I)Z" } : Jvm.MethodName)) ∈ lw_all := lw_g (lw_at lw_m3 45 rfl) rfl
theorem q575 : (Jvm.Cond.code ({ cls := "TransletDeskModel", name := "isTrue", desc := "(I)Z" } : Jvm.MethodName) prog_3_method_26_code (2 : Nat) (Option.some Jvm.ClassFile.FieldType.boolean)) ∈ lw_all := lw_g (lw_at lw_m3 46 rfl) rfl
theorem q576 : (Jvm.Cond.methodLink "TransletDeskModel" (160 : Nat) ({ cls := "TransletDeskModel", name := "plain", desc := "(I)I" } : Jvm.MethodName)) ∈ lw_all := lw_g (lw_at lw_m3 47 rfl) rfl
theorem q577 : (Jvm.Cond.privateMethod ({ cls := "TransletDeskModel", name := "plain", desc := "(I)I" } : Jvm.MethodName)) ∈ lw_tbl := lw_at lw_m3 48 rfl
theorem q578 : (Jvm.Cond.instanceMethod ({ cls := "TransletDeskModel", name := "plain", desc := "(I)I" } : Jvm.MethodName)) ∈ lw_all := lw_g (lw_at lw_m3 49 rfl) rfl
theorem q579 : (Jvm.Cond.code ({ cls := "TransletDeskModel", name := "plain", desc := "(I)I" } : Jvm.MethodName) prog_3_method_25_code (2 : Nat) (Option.some Jvm.ClassFile.FieldType.int)) ∈ lw_all := lw_g (lw_at lw_m3 50 rfl) rfl
theorem q581 : (Jvm.Cond.instanceMethod ({ cls := "TransletDeskModel", name := "at", desc := "(III)I" } : Jvm.MethodName)) ∈ lw_all := lw_g (lw_at lw_m3 52 rfl) rfl
theorem q582 : (Jvm.Cond.selects "TransletDeskModel" ({ cls := "TransletDeskModel", name := "at", desc := "(III)I" } : Jvm.MethodName) ({ cls := "TransletDeskModel", name := "at", desc := "(III)I" } : Jvm.MethodName)) ∈ lw_all := lw_g (lw_at lw_m3 53 rfl) rfl
theorem q583 : (Jvm.Cond.code ({ cls := "TransletDeskModel", name := "at", desc := "(III)I" } : Jvm.MethodName) prog_3_method_36_code (6 : Nat) (Option.some Jvm.ClassFile.FieldType.int)) ∈ lw_all := lw_g (lw_at lw_m3 54 rfl) rfl
theorem q585 : (Jvm.Cond.instanceMethod ({ cls := "TransletDeskModel", name := "number", desc := "(II)I" } : Jvm.MethodName)) ∈ lw_all := lw_g (lw_at lw_m3 56 rfl) rfl
theorem q586 : (Jvm.Cond.selects "TransletDeskModel" ({ cls := "TransletDeskModel", name := "number", desc := "(II)I" } : Jvm.MethodName) ({ cls := "TransletDeskModel", name := "number", desc := "(II)I" } : Jvm.MethodName)) ∈ lw_all := lw_g (lw_at lw_m3 57 rfl) rfl
theorem q587 : (Jvm.Cond.code ({ cls := "TransletDeskModel", name := "number", desc := "(II)I" } : Jvm.MethodName) prog_3_method_37_code (3 : Nat) (Option.some Jvm.ClassFile.FieldType.int)) ∈ lw_all := lw_g (lw_at lw_m3 58 rfl) rfl
theorem q589 : (Jvm.Cond.instanceMethod ({ cls := "TransletDeskModel", name := "holds", desc := "(II)Z" } : Jvm.MethodName)) ∈ lw_all := lw_g (lw_at lw_m3 60 rfl) rfl
theorem q590 : (Jvm.Cond.selects "TransletDeskModel" ({ cls := "TransletDeskModel", name := "holds", desc := "(II)Z" } : Jvm.MethodName) ({ cls := "TransletDeskModel", name := "holds", desc := "(II)Z" } : Jvm.MethodName)) ∈ lw_all := lw_g (lw_at lw_m3 61 rfl) rfl
theorem q591 : (Jvm.Cond.code ({ cls := "TransletDeskModel", name := "holds", desc := "(II)Z" } : Jvm.MethodName) prog_3_method_38_code (3 : Nat) (Option.some Jvm.ClassFile.FieldType.boolean)) ∈ lw_all := lw_g (lw_at lw_m3 62 rfl) rfl
theorem q593 : (Jvm.Cond.instanceMethod ({ cls := "TransletDeskModel", name := "template", desc := "(IIIII)Z" } : Jvm.MethodName)) ∈ lw_all := lw_g (lw_at lw_m3 64 rfl) rfl
theorem q594 : (Jvm.Cond.selects "TransletDeskModel" ({ cls := "TransletDeskModel", name := "template", desc := "(IIIII)Z" } : Jvm.MethodName) ({ cls := "TransletDeskModel", name := "template", desc := "(IIIII)Z" } : Jvm.MethodName)) ∈ lw_all := lw_g (lw_at lw_m3 65 rfl) rfl
theorem q595 : (Jvm.Cond.code ({ cls := "TransletDeskModel", name := "template", desc := "(IIIII)Z" } : Jvm.MethodName) prog_3_method_39_code (6 : Nat) (Option.some Jvm.ClassFile.FieldType.boolean)) ∈ lw_all := lw_g (lw_at lw_m3 66 rfl) rfl
theorem q597 : (Jvm.Cond.instanceMethod ({ cls := "TransletDeskModel", name := "drop", desc := "(I)Z" } : Jvm.MethodName)) ∈ lw_all := lw_g (lw_at lw_m3 68 rfl) rfl
theorem q598 : (Jvm.Cond.selects "TransletDeskModel" ({ cls := "TransletDeskModel", name := "drop", desc := "(I)Z" } : Jvm.MethodName) ({ cls := "TransletDeskModel", name := "drop", desc := "(I)Z" } : Jvm.MethodName)) ∈ lw_all := lw_g (lw_at lw_m3 69 rfl) rfl
theorem q599 : (Jvm.Cond.code ({ cls := "TransletDeskModel", name := "drop", desc := "(I)Z" } : Jvm.MethodName) prog_3_method_40_code (2 : Nat) (Option.some Jvm.ClassFile.FieldType.boolean)) ∈ lw_all := lw_g (lw_at lw_m3 70 rfl) rfl
theorem q601 : (Jvm.Cond.instanceMethod ({ cls := "TransletDeskModel", name := "matches", desc := "(II)Z" } : Jvm.MethodName)) ∈ lw_all := lw_g (lw_at lw_m3 72 rfl) rfl
theorem q602 : (Jvm.Cond.selects "TransletDeskModel" ({ cls := "TransletDeskModel", name := "matches", desc := "(II)Z" } : Jvm.MethodName) ({ cls := "TransletDeskModel", name := "matches", desc := "(II)Z" } : Jvm.MethodName)) ∈ lw_all := lw_g (lw_at lw_m3 73 rfl) rfl
theorem q603 : (Jvm.Cond.code ({ cls := "TransletDeskModel", name := "matches", desc := "(II)Z" } : Jvm.MethodName) prog_3_method_41_code (6 : Nat) (Option.some Jvm.ClassFile.FieldType.boolean)) ∈ lw_all := lw_g (lw_at lw_m3 74 rfl) rfl
theorem q605 : (Jvm.Cond.instanceMethod ({ cls := "TransletDeskModel", name := "transform", desc := "(I)I" } : Jvm.MethodName)) ∈ lw_all := lw_g (lw_at lw_m3 76 rfl) rfl
theorem q606 : (Jvm.Cond.selects "TransletDeskModel" ({ cls := "TransletDeskModel", name := "transform", desc := "(I)I" } : Jvm.MethodName) ({ cls := "TransletDeskModel", name := "transform", desc := "(I)I" } : Jvm.MethodName)) ∈ lw_all := lw_g (lw_at lw_m3 77 rfl) rfl
theorem q607 : (Jvm.Cond.code ({ cls := "TransletDeskModel", name := "transform", desc := "(I)I" } : Jvm.MethodName) prog_3_method_43_code (9 : Nat) (Option.some Jvm.ClassFile.FieldType.int)) ∈ lw_all := lw_g (lw_at lw_m3 78 rfl) rfl
theorem q608 : (Jvm.Cond.methodLink "TransletDeskModel" (182 : Nat) ({ cls := "TransletDeskModel", name := "best", desc := "(I)I" } : Jvm.MethodName)) ∈ lw_all := lw_g (lw_at lw_m3 79 rfl) rfl
theorem q609 : (Jvm.Cond.privateMethod ({ cls := "TransletDeskModel", name := "best", desc := "(I)I" } : Jvm.MethodName)) ∈ lw_tbl := lw_at lw_m3 80 rfl
theorem q610 : (Jvm.Cond.instanceMethod ({ cls := "TransletDeskModel", name := "best", desc := "(I)I" } : Jvm.MethodName)) ∈ lw_all := lw_g (lw_at lw_m3 81 rfl) rfl
theorem q611 : (Jvm.Cond.code ({ cls := "TransletDeskModel", name := "best", desc := "(I)I" } : Jvm.MethodName) prog_3_method_42_code (5 : Nat) (Option.some Jvm.ClassFile.FieldType.int)) ∈ lw_all := lw_g (lw_at lw_m3 82 rfl) rfl
theorem q612 : (Jvm.Cond.methodLink "TransletDeskModel" (176 : Nat) ({ cls := "TransletDeskModel", name := "matches", desc := "(II)Z" } : Jvm.MethodName)) ∈ lw_all := lw_g (lw_at lw_m3 83 rfl) rfl
theorem q613 : (Jvm.Cond.methodLink "TransletDeskModel" (185 : Nat) ({ cls := "TransletDeskModel", name := "childrenOf", desc := "(I)I" } : Jvm.MethodName)) ∈ lw_all := lw_g (lw_at lw_m3 84 rfl) rfl
theorem q614 : (Jvm.Cond.privateMethod ({ cls := "TransletDeskModel", name := "childrenOf", desc := "(I)I" } : Jvm.MethodName)) ∈ lw_tbl := lw_at lw_m3 85 rfl
theorem q615 : (Jvm.Cond.instanceMethod ({ cls := "TransletDeskModel", name := "childrenOf", desc := "(I)I" } : Jvm.MethodName)) ∈ lw_all := lw_g (lw_at lw_m3 86 rfl) rfl
theorem q616 : (Jvm.Cond.code ({ cls := "TransletDeskModel", name := "childrenOf", desc := "(I)I" } : Jvm.MethodName) prog_3_method_44_code (4 : Nat) (Option.some Jvm.ClassFile.FieldType.int)) ∈ lw_all := lw_g (lw_at lw_m3 87 rfl) rfl
theorem q618 : (Jvm.Cond.instanceMethod ({ cls := "TransletDeskModel", name := "output", desc := "(I)I" } : Jvm.MethodName)) ∈ lw_all := lw_g (lw_at lw_m3 89 rfl) rfl
theorem q619 : (Jvm.Cond.selects "TransletDeskModel" ({ cls := "TransletDeskModel", name := "output", desc := "(I)I" } : Jvm.MethodName) ({ cls := "TransletDeskModel", name := "output", desc := "(I)I" } : Jvm.MethodName)) ∈ lw_all := lw_g (lw_at lw_m3 90 rfl) rfl
theorem q620 : (Jvm.Cond.code ({ cls := "TransletDeskModel", name := "output", desc := "(I)I" } : Jvm.MethodName) prog_3_method_45_code (2 : Nat) (Option.some Jvm.ClassFile.FieldType.int)) ∈ lw_all := lw_g (lw_at lw_m3 91 rfl) rfl
theorem in_X1 : ∀ w ∈ wsX10, w ∈ lw_all := lw_in wsX10 [394, 396, 398, 400, 402, 404, 406, 408, 410, 412, 414, 416, 418, 420, 422, 424, 426, 428, 430, 432, 434, 436, 438, 440, 442, 444] (by decide +kernel) (by decide +kernel)
