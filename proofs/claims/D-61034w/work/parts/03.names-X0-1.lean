/-! TransletDesk -/
set_option maxRecDepth 100000
def RX0 : String := "TransletDesk"
def TX0 : u_T := fun k => match k with
  | 0 => ("TransletDesk", "names", "[B", true)
  | 1 => ("TransletDesk", "values", "[I", true)
  | 2 => ("TransletDesk", "parent", "[B", true)
  | 3 => ("TransletDesk", "first", "[B", true)
  | 4 => ("TransletDesk", "next", "[B", true)
  | 5 => ("TransletDesk", "root", "I", false)
  | 6 => ("TransletDesk", "used", "I", false)
  | 7 => ("TransletDesk", "place", "[B", true)
  | 8 => ("TransletDesk", "nodeAt", "[B", true)
  | 9 => ("TransletDesk", "end", "[B", true)
  | 10 => ("TransletDesk", "up", "[B", true)
  | 11 => ("TransletDesk", "children", "[I", true)
  | 12 => ("TransletDesk", "above", "[I", true)
  | 13 => ("TransletDesk", "named", "[I", true)
  | 14 => ("TransletDesk", "valueAt", "[I", true)
  | 15 => ("TransletDesk", "counted", "Z", false)
  | 16 => ("TransletDesk", "kinds", "[B", true)
  | 17 => ("TransletDesk", "vals", "[I", true)
  | 18 => ("TransletDesk", "types", "[B", true)
  | 19 => ("TransletDesk", "behind", "[B", true)
  | 20 => ("TransletDesk", "local", "[Z", true)
  | 21 => ("TransletDesk", "length", "[B", true)
  | 22 => ("TransletDesk", "open", "[B", true)
  | 23 => ("TransletDesk", "table", "[I", true)
  | 24 => ("TransletDesk", "results", "[I", true)
  | 25 => ("TransletDesk", "known", "[Z", true)
  | 26 => ("TransletDesk", "along", "[I", true)
  | 27 => ("TransletDesk", "stack", "[I", true)
  | 28 => ("TransletDesk", "match", "[B", true)
  | 29 => ("TransletDesk", "priority", "[B", true)
  | 30 => ("TransletDesk", "out", "[B", true)
  | 31 => ("TransletDesk", "on", "[B", true)
  | 32 => ("TransletDesk", "matched", "[I", true)
  | 33 => ("TransletDesk", "sorted", "Z", false)
  | 34 => ("TransletDesk", "chosen", "[B", true)
  | 35 => ("TransletDesk", "waiting", "[B", true)
  | 36 => ("TransletDesk", "depths", "[B", true)
  | 37 => ("TransletDesk", "outputs", "[I", true)
  | _ => ("TransletDesk", "put", "I", false)
def tyX0 : Nat → FieldType := fun k => match k with
  | 0 => .array .byte
  | 1 => .array .int
  | 2 => .array .byte
  | 3 => .array .byte
  | 4 => .array .byte
  | 5 => .int
  | 6 => .int
  | 7 => .array .byte
  | 8 => .array .byte
  | 9 => .array .byte
  | 10 => .array .byte
  | 11 => .array .int
  | 12 => .array .int
  | 13 => .array .int
  | 14 => .array .int
  | 15 => .boolean
  | 16 => .array .byte
  | 17 => .array .int
  | 18 => .array .byte
  | 19 => .array .byte
  | 20 => .array .boolean
  | 21 => .array .byte
  | 22 => .array .byte
  | 23 => .array .int
  | 24 => .array .int
  | 25 => .array .boolean
  | 26 => .array .int
  | 27 => .array .int
  | 28 => .array .byte
  | 29 => .array .byte
  | 30 => .array .byte
  | 31 => .array .byte
  | 32 => .array .int
  | 33 => .boolean
  | 34 => .array .byte
  | 35 => .array .byte
  | 36 => .array .byte
  | 37 => .array .int
  | _ => .int
abbrev wsX00 : List Cond := u_ws RX0 TX0 39
set_option maxRecDepth 100000 in
theorem nmX0 : ∀ a, a < 39 → ∀ b, b < 39 → a ≠ b → (TX0 a).2.1 ≠ (TX0 b).2.1 := by decide +kernel
set_option maxRecDepth 100000 in
theorem tyX0_ok : ∀ k, k < 39 → parseFieldDescriptor (TX0 k).2.2.1 = some (tyX0 k) := by decide +kernel
abbrev cX0_init : ByteArray := prog_1_method_1_code
def yX0_init : MethodName := ⟨RX0, "<init>", "()V"⟩
theorem dX0_init_0 : decode cX0_init 0 = .ok (.aload_n 0, 1) := by decide +kernel
theorem dX0_init_1 : decode cX0_init 1 = .ok (.invokespecial 1, 3) := by decide +kernel
theorem dX0_init_4 : decode cX0_init 4 = .ok (.aload_n 0, 1) := by decide +kernel
theorem dX0_init_5 : decode cX0_init 5 = .ok (.bipush 24, 2) := by decide +kernel
theorem dX0_init_7 : decode cX0_init 7 = .ok (.newarray .byte, 2) := by decide +kernel
theorem dX0_init_9 : decode cX0_init 9 = .ok (.putfield 7, 3) := by decide +kernel
theorem dX0_init_12 : decode cX0_init 12 = .ok (.aload_n 0, 1) := by decide +kernel
theorem dX0_init_13 : decode cX0_init 13 = .ok (.bipush 24, 2) := by decide +kernel
theorem dX0_init_15 : decode cX0_init 15 = .ok (.newarray .int, 2) := by decide +kernel
theorem dX0_init_17 : decode cX0_init 17 = .ok (.putfield 13, 3) := by decide +kernel
theorem dX0_init_20 : decode cX0_init 20 = .ok (.aload_n 0, 1) := by decide +kernel
theorem dX0_init_21 : decode cX0_init 21 = .ok (.bipush 24, 2) := by decide +kernel
theorem dX0_init_23 : decode cX0_init 23 = .ok (.newarray .byte, 2) := by decide +kernel
theorem dX0_init_25 : decode cX0_init 25 = .ok (.putfield 17, 3) := by decide +kernel
theorem dX0_init_28 : decode cX0_init 28 = .ok (.aload_n 0, 1) := by decide +kernel
theorem dX0_init_29 : decode cX0_init 29 = .ok (.bipush 24, 2) := by decide +kernel
theorem dX0_init_31 : decode cX0_init 31 = .ok (.newarray .byte, 2) := by decide +kernel
theorem dX0_init_33 : decode cX0_init 33 = .ok (.putfield 20, 3) := by decide +kernel
theorem dX0_init_36 : decode cX0_init 36 = .ok (.aload_n 0, 1) := by decide +kernel
theorem dX0_init_37 : decode cX0_init 37 = .ok (.bipush 24, 2) := by decide +kernel
theorem dX0_init_39 : decode cX0_init 39 = .ok (.newarray .byte, 2) := by decide +kernel
theorem dX0_init_41 : decode cX0_init 41 = .ok (.putfield 23, 3) := by decide +kernel
theorem dX0_init_44 : decode cX0_init 44 = .ok (.aload_n 0, 1) := by decide +kernel
theorem dX0_init_45 : decode cX0_init 45 = .ok (.iconst (-1), 1) := by decide +kernel
theorem dX0_init_46 : decode cX0_init 46 = .ok (.putfield 26, 3) := by decide +kernel
theorem dX0_init_49 : decode cX0_init 49 = .ok (.aload_n 0, 1) := by decide +kernel
theorem dX0_init_50 : decode cX0_init 50 = .ok (.bipush 24, 2) := by decide +kernel
theorem dX0_init_52 : decode cX0_init 52 = .ok (.newarray .byte, 2) := by decide +kernel
theorem dX0_init_54 : decode cX0_init 54 = .ok (.putfield 30, 3) := by decide +kernel
theorem dX0_init_57 : decode cX0_init 57 = .ok (.aload_n 0, 1) := by decide +kernel
theorem dX0_init_58 : decode cX0_init 58 = .ok (.bipush 24, 2) := by decide +kernel
theorem dX0_init_60 : decode cX0_init 60 = .ok (.newarray .byte, 2) := by decide +kernel
theorem dX0_init_62 : decode cX0_init 62 = .ok (.putfield 33, 3) := by decide +kernel
theorem dX0_init_65 : decode cX0_init 65 = .ok (.aload_n 0, 1) := by decide +kernel
theorem dX0_init_66 : decode cX0_init 66 = .ok (.bipush 24, 2) := by decide +kernel
theorem dX0_init_68 : decode cX0_init 68 = .ok (.newarray .byte, 2) := by decide +kernel
theorem dX0_init_70 : decode cX0_init 70 = .ok (.putfield 36, 3) := by decide +kernel
theorem dX0_init_73 : decode cX0_init 73 = .ok (.aload_n 0, 1) := by decide +kernel
theorem dX0_init_74 : decode cX0_init 74 = .ok (.bipush 24, 2) := by decide +kernel
theorem dX0_init_76 : decode cX0_init 76 = .ok (.newarray .byte, 2) := by decide +kernel
theorem dX0_init_78 : decode cX0_init 78 = .ok (.putfield 39, 3) := by decide +kernel
theorem dX0_init_81 : decode cX0_init 81 = .ok (.aload_n 0, 1) := by decide +kernel
theorem dX0_init_82 : decode cX0_init 82 = .ok (.bipush 24, 2) := by decide +kernel
theorem dX0_init_84 : decode cX0_init 84 = .ok (.newarray .int, 2) := by decide +kernel
theorem dX0_init_86 : decode cX0_init 86 = .ok (.putfield 42, 3) := by decide +kernel
theorem dX0_init_89 : decode cX0_init 89 = .ok (.aload_n 0, 1) := by decide +kernel
theorem dX0_init_90 : decode cX0_init 90 = .ok (.bipush 24, 2) := by decide +kernel
theorem dX0_init_92 : decode cX0_init 92 = .ok (.newarray .int, 2) := by decide +kernel
theorem dX0_init_94 : decode cX0_init 94 = .ok (.putfield 45, 3) := by decide +kernel
theorem dX0_init_97 : decode cX0_init 97 = .ok (.aload_n 0, 1) := by decide +kernel
theorem dX0_init_98 : decode cX0_init 98 = .ok (.bipush 7, 2) := by decide +kernel
theorem dX0_init_100 : decode cX0_init 100 = .ok (.newarray .int, 2) := by decide +kernel
theorem dX0_init_102 : decode cX0_init 102 = .ok (.putfield 48, 3) := by decide +kernel
theorem dX0_init_105 : decode cX0_init 105 = .ok (.aload_n 0, 1) := by decide +kernel
theorem dX0_init_106 : decode cX0_init 106 = .ok (.bipush 24, 2) := by decide +kernel
theorem dX0_init_108 : decode cX0_init 108 = .ok (.newarray .int, 2) := by decide +kernel
theorem dX0_init_110 : decode cX0_init 110 = .ok (.putfield 51, 3) := by decide +kernel
theorem dX0_init_113 : decode cX0_init 113 = .ok (.aload_n 0, 1) := by decide +kernel
theorem dX0_init_114 : decode cX0_init 114 = .ok (.sipush 360, 3) := by decide +kernel
theorem dX0_init_117 : decode cX0_init 117 = .ok (.newarray .byte, 2) := by decide +kernel
theorem dX0_init_119 : decode cX0_init 119 = .ok (.putfield 54, 3) := by decide +kernel
theorem dX0_init_122 : decode cX0_init 122 = .ok (.aload_n 0, 1) := by decide +kernel
theorem dX0_init_123 : decode cX0_init 123 = .ok (.sipush 360, 3) := by decide +kernel
theorem dX0_init_126 : decode cX0_init 126 = .ok (.newarray .int, 2) := by decide +kernel
theorem dX0_init_128 : decode cX0_init 128 = .ok (.putfield 57, 3) := by decide +kernel
theorem dX0_init_131 : decode cX0_init 131 = .ok (.aload_n 0, 1) := by decide +kernel
theorem dX0_init_132 : decode cX0_init 132 = .ok (.sipush 360, 3) := by decide +kernel
theorem dX0_init_135 : decode cX0_init 135 = .ok (.newarray .byte, 2) := by decide +kernel
theorem dX0_init_137 : decode cX0_init 137 = .ok (.putfield 60, 3) := by decide +kernel
theorem dX0_init_140 : decode cX0_init 140 = .ok (.aload_n 0, 1) := by decide +kernel
theorem dX0_init_141 : decode cX0_init 141 = .ok (.sipush 360, 3) := by decide +kernel
theorem dX0_init_144 : decode cX0_init 144 = .ok (.newarray .byte, 2) := by decide +kernel
theorem dX0_init_146 : decode cX0_init 146 = .ok (.putfield 63, 3) := by decide +kernel
theorem dX0_init_149 : decode cX0_init 149 = .ok (.aload_n 0, 1) := by decide +kernel
theorem dX0_init_150 : decode cX0_init 150 = .ok (.sipush 360, 3) := by decide +kernel
theorem dX0_init_153 : decode cX0_init 153 = .ok (.newarray .boolean, 2) := by decide +kernel
theorem dX0_init_155 : decode cX0_init 155 = .ok (.putfield 66, 3) := by decide +kernel
theorem dX0_init_158 : decode cX0_init 158 = .ok (.aload_n 0, 1) := by decide +kernel
theorem dX0_init_159 : decode cX0_init 159 = .ok (.bipush 9, 2) := by decide +kernel
theorem dX0_init_161 : decode cX0_init 161 = .ok (.newarray .byte, 2) := by decide +kernel
theorem dX0_init_163 : decode cX0_init 163 = .ok (.putfield 70, 3) := by decide +kernel
theorem dX0_init_166 : decode cX0_init 166 = .ok (.aload_n 0, 1) := by decide +kernel
theorem dX0_init_167 : decode cX0_init 167 = .ok (.bipush 42, 2) := by decide +kernel
theorem dX0_init_169 : decode cX0_init 169 = .ok (.newarray .byte, 2) := by decide +kernel
theorem dX0_init_171 : decode cX0_init 171 = .ok (.putfield 73, 3) := by decide +kernel
theorem dX0_init_174 : decode cX0_init 174 = .ok (.aload_n 0, 1) := by decide +kernel
theorem dX0_init_175 : decode cX0_init 175 = .ok (.sipush 960, 3) := by decide +kernel
theorem dX0_init_178 : decode cX0_init 178 = .ok (.newarray .int, 2) := by decide +kernel
theorem dX0_init_180 : decode cX0_init 180 = .ok (.putfield 76, 3) := by decide +kernel
theorem dX0_init_183 : decode cX0_init 183 = .ok (.aload_n 0, 1) := by decide +kernel
theorem dX0_init_184 : decode cX0_init 184 = .ok (.sipush 192, 3) := by decide +kernel
theorem dX0_init_187 : decode cX0_init 187 = .ok (.newarray .int, 2) := by decide +kernel
theorem dX0_init_189 : decode cX0_init 189 = .ok (.putfield 79, 3) := by decide +kernel
theorem dX0_init_192 : decode cX0_init 192 = .ok (.aload_n 0, 1) := by decide +kernel
theorem dX0_init_193 : decode cX0_init 193 = .ok (.bipush 8, 2) := by decide +kernel
theorem dX0_init_195 : decode cX0_init 195 = .ok (.newarray .boolean, 2) := by decide +kernel
theorem dX0_init_197 : decode cX0_init 197 = .ok (.putfield 82, 3) := by decide +kernel
theorem dX0_init_200 : decode cX0_init 200 = .ok (.aload_n 0, 1) := by decide +kernel
theorem dX0_init_201 : decode cX0_init 201 = .ok (.bipush 24, 2) := by decide +kernel
theorem dX0_init_203 : decode cX0_init 203 = .ok (.newarray .int, 2) := by decide +kernel
theorem dX0_init_205 : decode cX0_init 205 = .ok (.putfield 85, 3) := by decide +kernel
theorem dX0_init_208 : decode cX0_init 208 = .ok (.aload_n 0, 1) := by decide +kernel
theorem dX0_init_209 : decode cX0_init 209 = .ok (.bipush 42, 2) := by decide +kernel
theorem dX0_init_211 : decode cX0_init 211 = .ok (.newarray .int, 2) := by decide +kernel
theorem dX0_init_213 : decode cX0_init 213 = .ok (.putfield 88, 3) := by decide +kernel
theorem dX0_init_216 : decode cX0_init 216 = .ok (.aload_n 0, 1) := by decide +kernel
theorem dX0_init_217 : decode cX0_init 217 = .ok (.bipush 6, 2) := by decide +kernel
theorem dX0_init_219 : decode cX0_init 219 = .ok (.newarray .byte, 2) := by decide +kernel
theorem dX0_init_221 : decode cX0_init 221 = .ok (.putfield 91, 3) := by decide +kernel
theorem dX0_init_224 : decode cX0_init 224 = .ok (.aload_n 0, 1) := by decide +kernel
theorem dX0_init_225 : decode cX0_init 225 = .ok (.bipush 6, 2) := by decide +kernel
theorem dX0_init_227 : decode cX0_init 227 = .ok (.newarray .byte, 2) := by decide +kernel
theorem dX0_init_229 : decode cX0_init 229 = .ok (.putfield 94, 3) := by decide +kernel
theorem dX0_init_232 : decode cX0_init 232 = .ok (.aload_n 0, 1) := by decide +kernel
theorem dX0_init_233 : decode cX0_init 233 = .ok (.bipush 6, 2) := by decide +kernel
theorem dX0_init_235 : decode cX0_init 235 = .ok (.newarray .byte, 2) := by decide +kernel
theorem dX0_init_237 : decode cX0_init 237 = .ok (.putfield 97, 3) := by decide +kernel
theorem dX0_init_240 : decode cX0_init 240 = .ok (.aload_n 0, 1) := by decide +kernel
theorem dX0_init_241 : decode cX0_init 241 = .ok (.bipush 6, 2) := by decide +kernel
theorem dX0_init_243 : decode cX0_init 243 = .ok (.newarray .byte, 2) := by decide +kernel
theorem dX0_init_245 : decode cX0_init 245 = .ok (.putfield 100, 3) := by decide +kernel
theorem dX0_init_248 : decode cX0_init 248 = .ok (.aload_n 0, 1) := by decide +kernel
theorem dX0_init_249 : decode cX0_init 249 = .ok (.bipush 6, 2) := by decide +kernel
theorem dX0_init_251 : decode cX0_init 251 = .ok (.newarray .int, 2) := by decide +kernel
theorem dX0_init_253 : decode cX0_init 253 = .ok (.putfield 103, 3) := by decide +kernel
theorem dX0_init_256 : decode cX0_init 256 = .ok (.aload_n 0, 1) := by decide +kernel
theorem dX0_init_257 : decode cX0_init 257 = .ok (.bipush 24, 2) := by decide +kernel
theorem dX0_init_259 : decode cX0_init 259 = .ok (.newarray .byte, 2) := by decide +kernel
theorem dX0_init_261 : decode cX0_init 261 = .ok (.putfield 106, 3) := by decide +kernel
theorem dX0_init_264 : decode cX0_init 264 = .ok (.aload_n 0, 1) := by decide +kernel
theorem dX0_init_265 : decode cX0_init 265 = .ok (.sipush 2500, 3) := by decide +kernel
theorem dX0_init_268 : decode cX0_init 268 = .ok (.newarray .byte, 2) := by decide +kernel
theorem dX0_init_270 : decode cX0_init 270 = .ok (.putfield 109, 3) := by decide +kernel
theorem dX0_init_273 : decode cX0_init 273 = .ok (.aload_n 0, 1) := by decide +kernel
theorem dX0_init_274 : decode cX0_init 274 = .ok (.sipush 2500, 3) := by decide +kernel
theorem dX0_init_277 : decode cX0_init 277 = .ok (.newarray .byte, 2) := by decide +kernel
theorem dX0_init_279 : decode cX0_init 279 = .ok (.putfield 112, 3) := by decide +kernel
theorem dX0_init_282 : decode cX0_init 282 = .ok (.aload_n 0, 1) := by decide +kernel
theorem dX0_init_283 : decode cX0_init 283 = .ok (.bipush 100, 2) := by decide +kernel
theorem dX0_init_285 : decode cX0_init 285 = .ok (.newarray .int, 2) := by decide +kernel
theorem dX0_init_287 : decode cX0_init 287 = .ok (.putfield 115, 3) := by decide +kernel
theorem dX0_init_290 : decode cX0_init 290 = .ok (.iconst 0, 1) := by decide +kernel
theorem dX0_init_291 : decode cX0_init 291 = .ok (.istore_n 1, 1) := by decide +kernel
theorem dX0_init_292 : decode cX0_init 292 = .ok (.iload_n 1, 1) := by decide +kernel
theorem dX0_init_293 : decode cX0_init 293 = .ok (.bipush 24, 2) := by decide +kernel
theorem dX0_init_295 : decode cX0_init 295 = .ok (.if_icmp .ge 16, 3) := by decide +kernel
theorem dX0_init_298 : decode cX0_init 298 = .ok (.aload_n 0, 1) := by decide +kernel
theorem dX0_init_299 : decode cX0_init 299 = .ok (.getfield 7, 3) := by decide +kernel
theorem dX0_init_302 : decode cX0_init 302 = .ok (.iload_n 1, 1) := by decide +kernel
theorem dX0_init_303 : decode cX0_init 303 = .ok (.iconst (-1), 1) := by decide +kernel
theorem dX0_init_304 : decode cX0_init 304 = .ok (.bastore, 1) := by decide +kernel
theorem dX0_init_305 : decode cX0_init 305 = .ok (.iinc 1 1, 3) := by decide +kernel
theorem dX0_init_308 : decode cX0_init 308 = .ok (.goto (-16), 3) := by decide +kernel
theorem dX0_init_311 : decode cX0_init 311 = .ok (.iconst 0, 1) := by decide +kernel
theorem dX0_init_312 : decode cX0_init 312 = .ok (.istore_n 1, 1) := by decide +kernel
theorem dX0_init_313 : decode cX0_init 313 = .ok (.iload_n 1, 1) := by decide +kernel
theorem dX0_init_314 : decode cX0_init 314 = .ok (.bipush 6, 2) := by decide +kernel
theorem dX0_init_316 : decode cX0_init 316 = .ok (.if_icmp .ge 16, 3) := by decide +kernel
theorem dX0_init_319 : decode cX0_init 319 = .ok (.aload_n 0, 1) := by decide +kernel
theorem dX0_init_320 : decode cX0_init 320 = .ok (.getfield 91, 3) := by decide +kernel
theorem dX0_init_323 : decode cX0_init 323 = .ok (.iload_n 1, 1) := by decide +kernel
theorem dX0_init_324 : decode cX0_init 324 = .ok (.iconst (-1), 1) := by decide +kernel
theorem dX0_init_325 : decode cX0_init 325 = .ok (.bastore, 1) := by decide +kernel
theorem dX0_init_326 : decode cX0_init 326 = .ok (.iinc 1 1, 3) := by decide +kernel
theorem dX0_init_329 : decode cX0_init 329 = .ok (.goto (-16), 3) := by decide +kernel
theorem dX0_init_332 : decode cX0_init 332 = .ok (.return_, 1) := by decide +kernel
abbrev cX0_insert : ByteArray := prog_1_method_8_code
def yX0_insert : MethodName := ⟨RX0, "insert", "(III)I"⟩
theorem dX0_insert_0 : decode cX0_insert 0 = .ok (.iload_n 3, 1) := by decide +kernel
theorem dX0_insert_1 : decode cX0_insert 1 = .ok (.invokestatic 125, 3) := by decide +kernel
theorem dX0_insert_4 : decode cX0_insert 4 = .ok (.ifCond .eq 12, 3) := by decide +kernel
theorem dX0_insert_7 : decode cX0_insert 7 = .ok (.aload_n 0, 1) := by decide +kernel
theorem dX0_insert_8 : decode cX0_insert 8 = .ok (.getfield 129, 3) := by decide +kernel
theorem dX0_insert_11 : decode cX0_insert 11 = .ok (.bipush 24, 2) := by decide +kernel
theorem dX0_insert_13 : decode cX0_insert 13 = .ok (.if_icmp .ne 5, 3) := by decide +kernel
theorem dX0_insert_16 : decode cX0_insert 16 = .ok (.iconst (-1), 1) := by decide +kernel
theorem dX0_insert_17 : decode cX0_insert 17 = .ok (.ireturn, 1) := by decide +kernel
theorem dX0_insert_18 : decode cX0_insert 18 = .ok (.aload_n 0, 1) := by decide +kernel
theorem dX0_insert_19 : decode cX0_insert 19 = .ok (.getfield 26, 3) := by decide +kernel
theorem dX0_insert_22 : decode cX0_insert 22 = .ok (.ifCond .lt 26, 3) := by decide +kernel
theorem dX0_insert_25 : decode cX0_insert 25 = .ok (.aload_n 0, 1) := by decide +kernel
theorem dX0_insert_26 : decode cX0_insert 26 = .ok (.iload_n 1, 1) := by decide +kernel
theorem dX0_insert_27 : decode cX0_insert 27 = .ok (.invokevirtual 132, 3) := by decide +kernel
theorem dX0_insert_30 : decode cX0_insert 30 = .ok (.ifCond .eq 16, 3) := by decide +kernel
theorem dX0_insert_33 : decode cX0_insert 33 = .ok (.iload_n 2, 1) := by decide +kernel
theorem dX0_insert_34 : decode cX0_insert 34 = .ok (.ifCond .lt 12, 3) := by decide +kernel
theorem dX0_insert_37 : decode cX0_insert 37 = .ok (.iload_n 2, 1) := by decide +kernel
theorem dX0_insert_38 : decode cX0_insert 38 = .ok (.aload_n 0, 1) := by decide +kernel
theorem dX0_insert_39 : decode cX0_insert 39 = .ok (.iload_n 1, 1) := by decide +kernel
theorem dX0_insert_40 : decode cX0_insert 40 = .ok (.invokevirtual 135, 3) := by decide +kernel
theorem dX0_insert_43 : decode cX0_insert 43 = .ok (.if_icmp .le 5, 3) := by decide +kernel
theorem dX0_insert_46 : decode cX0_insert 46 = .ok (.iconst (-1), 1) := by decide +kernel
theorem dX0_insert_47 : decode cX0_insert 47 = .ok (.ireturn, 1) := by decide +kernel
theorem dX0_insert_48 : decode cX0_insert 48 = .ok (.iconst 0, 1) := by decide +kernel
theorem dX0_insert_49 : decode cX0_insert 49 = .ok (.istore 4, 2) := by decide +kernel
theorem dX0_insert_51 : decode cX0_insert 51 = .ok (.aload_n 0, 1) := by decide +kernel
theorem dX0_insert_52 : decode cX0_insert 52 = .ok (.getfield 7, 3) := by decide +kernel
theorem dX0_insert_55 : decode cX0_insert 55 = .ok (.iload 4, 2) := by decide +kernel
theorem dX0_insert_57 : decode cX0_insert 57 = .ok (.baload, 1) := by decide +kernel
theorem dX0_insert_58 : decode cX0_insert 58 = .ok (.ifCond .lt 9, 3) := by decide +kernel
theorem dX0_insert_61 : decode cX0_insert 61 = .ok (.iinc 4 1, 3) := by decide +kernel
theorem dX0_insert_64 : decode cX0_insert 64 = .ok (.goto (-13), 3) := by decide +kernel
theorem dX0_insert_67 : decode cX0_insert 67 = .ok (.aload_n 0, 1) := by decide +kernel
theorem dX0_insert_68 : decode cX0_insert 68 = .ok (.getfield 7, 3) := by decide +kernel
theorem dX0_insert_71 : decode cX0_insert 71 = .ok (.iload 4, 2) := by decide +kernel
theorem dX0_insert_73 : decode cX0_insert 73 = .ok (.iload_n 3, 1) := by decide +kernel
theorem dX0_insert_74 : decode cX0_insert 74 = .ok (.i2b, 1) := by decide +kernel
theorem dX0_insert_75 : decode cX0_insert 75 = .ok (.bastore, 1) := by decide +kernel
theorem dX0_insert_76 : decode cX0_insert 76 = .ok (.aload_n 0, 1) := by decide +kernel
theorem dX0_insert_77 : decode cX0_insert 77 = .ok (.getfield 13, 3) := by decide +kernel
theorem dX0_insert_80 : decode cX0_insert 80 = .ok (.iload 4, 2) := by decide +kernel
theorem dX0_insert_82 : decode cX0_insert 82 = .ok (.iconst 0, 1) := by decide +kernel
theorem dX0_insert_83 : decode cX0_insert 83 = .ok (.iastore, 1) := by decide +kernel
theorem dX0_insert_84 : decode cX0_insert 84 = .ok (.aload_n 0, 1) := by decide +kernel
theorem dX0_insert_85 : decode cX0_insert 85 = .ok (.getfield 20, 3) := by decide +kernel
theorem dX0_insert_88 : decode cX0_insert 88 = .ok (.iload 4, 2) := by decide +kernel
theorem dX0_insert_90 : decode cX0_insert 90 = .ok (.iconst (-1), 1) := by decide +kernel
theorem dX0_insert_91 : decode cX0_insert 91 = .ok (.bastore, 1) := by decide +kernel
theorem dX0_insert_92 : decode cX0_insert 92 = .ok (.aload_n 0, 1) := by decide +kernel
theorem dX0_insert_93 : decode cX0_insert 93 = .ok (.getfield 23, 3) := by decide +kernel
theorem dX0_insert_96 : decode cX0_insert 96 = .ok (.iload 4, 2) := by decide +kernel
theorem dX0_insert_98 : decode cX0_insert 98 = .ok (.iconst (-1), 1) := by decide +kernel
theorem dX0_insert_99 : decode cX0_insert 99 = .ok (.bastore, 1) := by decide +kernel
theorem dX0_insert_100 : decode cX0_insert 100 = .ok (.aload_n 0, 1) := by decide +kernel
theorem dX0_insert_101 : decode cX0_insert 101 = .ok (.dup, 1) := by decide +kernel
theorem dX0_insert_102 : decode cX0_insert 102 = .ok (.getfield 129, 3) := by decide +kernel
theorem dX0_insert_105 : decode cX0_insert 105 = .ok (.iconst 1, 1) := by decide +kernel
theorem dX0_insert_106 : decode cX0_insert 106 = .ok (.iadd, 1) := by decide +kernel
theorem dX0_insert_107 : decode cX0_insert 107 = .ok (.putfield 129, 3) := by decide +kernel
theorem dX0_insert_110 : decode cX0_insert 110 = .ok (.aload_n 0, 1) := by decide +kernel
theorem dX0_insert_111 : decode cX0_insert 111 = .ok (.getfield 26, 3) := by decide +kernel
theorem dX0_insert_114 : decode cX0_insert 114 = .ok (.ifCond .lt 14, 3) := by decide +kernel
theorem dX0_insert_117 : decode cX0_insert 117 = .ok (.aload_n 0, 1) := by decide +kernel
theorem dX0_insert_118 : decode cX0_insert 118 = .ok (.iload 4, 2) := by decide +kernel
theorem dX0_insert_120 : decode cX0_insert 120 = .ok (.iload_n 1, 1) := by decide +kernel
theorem dX0_insert_121 : decode cX0_insert 121 = .ok (.iload_n 2, 1) := by decide +kernel
theorem dX0_insert_122 : decode cX0_insert 122 = .ok (.invokevirtual 139, 3) := by decide +kernel
theorem dX0_insert_125 : decode cX0_insert 125 = .ok (.goto 17, 3) := by decide +kernel
theorem dX0_insert_128 : decode cX0_insert 128 = .ok (.aload_n 0, 1) := by decide +kernel
theorem dX0_insert_129 : decode cX0_insert 129 = .ok (.iload 4, 2) := by decide +kernel
theorem dX0_insert_131 : decode cX0_insert 131 = .ok (.putfield 26, 3) := by decide +kernel
theorem dX0_insert_134 : decode cX0_insert 134 = .ok (.aload_n 0, 1) := by decide +kernel
theorem dX0_insert_135 : decode cX0_insert 135 = .ok (.getfield 17, 3) := by decide +kernel
theorem dX0_insert_138 : decode cX0_insert 138 = .ok (.iload 4, 2) := by decide +kernel
theorem dX0_insert_140 : decode cX0_insert 140 = .ok (.iconst (-1), 1) := by decide +kernel
theorem dX0_insert_141 : decode cX0_insert 141 = .ok (.bastore, 1) := by decide +kernel
theorem dX0_insert_142 : decode cX0_insert 142 = .ok (.aload_n 0, 1) := by decide +kernel
theorem dX0_insert_143 : decode cX0_insert 143 = .ok (.invokevirtual 143, 3) := by decide +kernel
theorem dX0_insert_146 : decode cX0_insert 146 = .ok (.iload 4, 2) := by decide +kernel
theorem dX0_insert_148 : decode cX0_insert 148 = .ok (.ireturn, 1) := by decide +kernel
abbrev cX0_isName : ByteArray := prog_1_method_3_code
def yX0_isName : MethodName := ⟨RX0, "isName", "(I)Z"⟩
theorem dX0_isName_0 : decode cX0_isName 0 = .ok (.iload_n 0, 1) := by decide +kernel
theorem dX0_isName_1 : decode cX0_isName 1 = .ok (.ifCond .lt 13, 3) := by decide +kernel
theorem dX0_isName_4 : decode cX0_isName 4 = .ok (.iload_n 0, 1) := by decide +kernel
theorem dX0_isName_5 : decode cX0_isName 5 = .ok (.bipush 6, 2) := by decide +kernel
theorem dX0_isName_7 : decode cX0_isName 7 = .ok (.if_icmp .ge 7, 3) := by decide +kernel
theorem dX0_isName_10 : decode cX0_isName 10 = .ok (.iconst 1, 1) := by decide +kernel
theorem dX0_isName_11 : decode cX0_isName 11 = .ok (.goto 4, 3) := by decide +kernel
theorem dX0_isName_14 : decode cX0_isName 14 = .ok (.iconst 0, 1) := by decide +kernel
theorem dX0_isName_15 : decode cX0_isName 15 = .ok (.ireturn, 1) := by decide +kernel
abbrev cX0_isNode : ByteArray := prog_1_method_2_code
def yX0_isNode : MethodName := ⟨RX0, "isNode", "(I)Z"⟩
theorem dX0_isNode_0 : decode cX0_isNode 0 = .ok (.iload_n 1, 1) := by decide +kernel
theorem dX0_isNode_1 : decode cX0_isNode 1 = .ok (.ifCond .lt 22, 3) := by decide +kernel
theorem dX0_isNode_4 : decode cX0_isNode 4 = .ok (.iload_n 1, 1) := by decide +kernel
theorem dX0_isNode_5 : decode cX0_isNode 5 = .ok (.bipush 24, 2) := by decide +kernel
theorem dX0_isNode_7 : decode cX0_isNode 7 = .ok (.if_icmp .ge 16, 3) := by decide +kernel
theorem dX0_isNode_10 : decode cX0_isNode 10 = .ok (.aload_n 0, 1) := by decide +kernel
theorem dX0_isNode_11 : decode cX0_isNode 11 = .ok (.getfield 7, 3) := by decide +kernel
theorem dX0_isNode_14 : decode cX0_isNode 14 = .ok (.iload_n 1, 1) := by decide +kernel
theorem dX0_isNode_15 : decode cX0_isNode 15 = .ok (.baload, 1) := by decide +kernel
theorem dX0_isNode_16 : decode cX0_isNode 16 = .ok (.ifCond .lt 7, 3) := by decide +kernel
theorem dX0_isNode_19 : decode cX0_isNode 19 = .ok (.iconst 1, 1) := by decide +kernel
theorem dX0_isNode_20 : decode cX0_isNode 20 = .ok (.goto 4, 3) := by decide +kernel
theorem dX0_isNode_23 : decode cX0_isNode 23 = .ok (.iconst 0, 1) := by decide +kernel
theorem dX0_isNode_24 : decode cX0_isNode 24 = .ok (.ireturn, 1) := by decide +kernel
abbrev cX0_many : ByteArray := prog_1_method_4_code
def yX0_many : MethodName := ⟨RX0, "many", "(I)I"⟩
theorem dX0_many_0 : decode cX0_many 0 = .ok (.iconst 0, 1) := by decide +kernel
theorem dX0_many_1 : decode cX0_many 1 = .ok (.istore_n 2, 1) := by decide +kernel
theorem dX0_many_2 : decode cX0_many 2 = .ok (.aload_n 0, 1) := by decide +kernel
theorem dX0_many_3 : decode cX0_many 3 = .ok (.getfield 20, 3) := by decide +kernel
theorem dX0_many_6 : decode cX0_many 6 = .ok (.iload_n 1, 1) := by decide +kernel
theorem dX0_many_7 : decode cX0_many 7 = .ok (.baload, 1) := by decide +kernel
theorem dX0_many_8 : decode cX0_many 8 = .ok (.istore_n 3, 1) := by decide +kernel
theorem dX0_many_9 : decode cX0_many 9 = .ok (.iload_n 3, 1) := by decide +kernel
theorem dX0_many_10 : decode cX0_many 10 = .ok (.ifCond .lt 16, 3) := by decide +kernel
theorem dX0_many_13 : decode cX0_many 13 = .ok (.iinc 2 1, 3) := by decide +kernel
theorem dX0_many_16 : decode cX0_many 16 = .ok (.aload_n 0, 1) := by decide +kernel
theorem dX0_many_17 : decode cX0_many 17 = .ok (.getfield 23, 3) := by decide +kernel
theorem dX0_many_20 : decode cX0_many 20 = .ok (.iload_n 3, 1) := by decide +kernel
theorem dX0_many_21 : decode cX0_many 21 = .ok (.baload, 1) := by decide +kernel
theorem dX0_many_22 : decode cX0_many 22 = .ok (.istore_n 3, 1) := by decide +kernel
theorem dX0_many_23 : decode cX0_many 23 = .ok (.goto (-14), 3) := by decide +kernel
theorem dX0_many_26 : decode cX0_many 26 = .ok (.iload_n 2, 1) := by decide +kernel
theorem dX0_many_27 : decode cX0_many 27 = .ok (.ireturn, 1) := by decide +kernel
abbrev cX0_link : ByteArray := prog_1_method_6_code
def yX0_link : MethodName := ⟨RX0, "link", "(III)V"⟩
theorem dX0_link_0 : decode cX0_link 0 = .ok (.aload_n 0, 1) := by decide +kernel
theorem dX0_link_1 : decode cX0_link 1 = .ok (.getfield 17, 3) := by decide +kernel
theorem dX0_link_4 : decode cX0_link 4 = .ok (.iload_n 1, 1) := by decide +kernel
theorem dX0_link_5 : decode cX0_link 5 = .ok (.iload_n 2, 1) := by decide +kernel
theorem dX0_link_6 : decode cX0_link 6 = .ok (.i2b, 1) := by decide +kernel
theorem dX0_link_7 : decode cX0_link 7 = .ok (.bastore, 1) := by decide +kernel
theorem dX0_link_8 : decode cX0_link 8 = .ok (.iconst (-1), 1) := by decide +kernel
theorem dX0_link_9 : decode cX0_link 9 = .ok (.istore 4, 2) := by decide +kernel
theorem dX0_link_11 : decode cX0_link 11 = .ok (.aload_n 0, 1) := by decide +kernel
theorem dX0_link_12 : decode cX0_link 12 = .ok (.getfield 20, 3) := by decide +kernel
theorem dX0_link_15 : decode cX0_link 15 = .ok (.iload_n 2, 1) := by decide +kernel
theorem dX0_link_16 : decode cX0_link 16 = .ok (.baload, 1) := by decide +kernel
theorem dX0_link_17 : decode cX0_link 17 = .ok (.istore 5, 2) := by decide +kernel
theorem dX0_link_19 : decode cX0_link 19 = .ok (.iconst 0, 1) := by decide +kernel
theorem dX0_link_20 : decode cX0_link 20 = .ok (.istore 6, 2) := by decide +kernel
theorem dX0_link_22 : decode cX0_link 22 = .ok (.iload 6, 2) := by decide +kernel
theorem dX0_link_24 : decode cX0_link 24 = .ok (.iload_n 3, 1) := by decide +kernel
theorem dX0_link_25 : decode cX0_link 25 = .ok (.if_icmp .ge 22, 3) := by decide +kernel
theorem dX0_link_28 : decode cX0_link 28 = .ok (.iload 5, 2) := by decide +kernel
theorem dX0_link_30 : decode cX0_link 30 = .ok (.istore 4, 2) := by decide +kernel
theorem dX0_link_32 : decode cX0_link 32 = .ok (.aload_n 0, 1) := by decide +kernel
theorem dX0_link_33 : decode cX0_link 33 = .ok (.getfield 23, 3) := by decide +kernel
theorem dX0_link_36 : decode cX0_link 36 = .ok (.iload 5, 2) := by decide +kernel
theorem dX0_link_38 : decode cX0_link 38 = .ok (.baload, 1) := by decide +kernel
theorem dX0_link_39 : decode cX0_link 39 = .ok (.istore 5, 2) := by decide +kernel
theorem dX0_link_41 : decode cX0_link 41 = .ok (.iinc 6 1, 3) := by decide +kernel
theorem dX0_link_44 : decode cX0_link 44 = .ok (.goto (-22), 3) := by decide +kernel
theorem dX0_link_47 : decode cX0_link 47 = .ok (.aload_n 0, 1) := by decide +kernel
theorem dX0_link_48 : decode cX0_link 48 = .ok (.getfield 23, 3) := by decide +kernel
theorem dX0_link_51 : decode cX0_link 51 = .ok (.iload_n 1, 1) := by decide +kernel
theorem dX0_link_52 : decode cX0_link 52 = .ok (.iload 5, 2) := by decide +kernel
theorem dX0_link_54 : decode cX0_link 54 = .ok (.i2b, 1) := by decide +kernel
theorem dX0_link_55 : decode cX0_link 55 = .ok (.bastore, 1) := by decide +kernel
theorem dX0_link_56 : decode cX0_link 56 = .ok (.iload 4, 2) := by decide +kernel
theorem dX0_link_58 : decode cX0_link 58 = .ok (.ifCond .ge 14, 3) := by decide +kernel
theorem dX0_link_61 : decode cX0_link 61 = .ok (.aload_n 0, 1) := by decide +kernel
theorem dX0_link_62 : decode cX0_link 62 = .ok (.getfield 20, 3) := by decide +kernel
theorem dX0_link_65 : decode cX0_link 65 = .ok (.iload_n 2, 1) := by decide +kernel
theorem dX0_link_66 : decode cX0_link 66 = .ok (.iload_n 1, 1) := by decide +kernel
theorem dX0_link_67 : decode cX0_link 67 = .ok (.i2b, 1) := by decide +kernel
theorem dX0_link_68 : decode cX0_link 68 = .ok (.bastore, 1) := by decide +kernel
theorem dX0_link_69 : decode cX0_link 69 = .ok (.goto 12, 3) := by decide +kernel
theorem dX0_link_72 : decode cX0_link 72 = .ok (.aload_n 0, 1) := by decide +kernel
theorem dX0_link_73 : decode cX0_link 73 = .ok (.getfield 23, 3) := by decide +kernel
theorem dX0_link_76 : decode cX0_link 76 = .ok (.iload 4, 2) := by decide +kernel
theorem dX0_link_78 : decode cX0_link 78 = .ok (.iload_n 1, 1) := by decide +kernel
theorem dX0_link_79 : decode cX0_link 79 = .ok (.i2b, 1) := by decide +kernel
theorem dX0_link_80 : decode cX0_link 80 = .ok (.bastore, 1) := by decide +kernel
theorem dX0_link_81 : decode cX0_link 81 = .ok (.return_, 1) := by decide +kernel
abbrev cX0_changed : ByteArray := prog_1_method_5_code
def yX0_changed : MethodName := ⟨RX0, "changed", "()V"⟩
theorem dX0_changed_0 : decode cX0_changed 0 = .ok (.aload_n 0, 1) := by decide +kernel
theorem dX0_changed_1 : decode cX0_changed 1 = .ok (.iconst 0, 1) := by decide +kernel
theorem dX0_changed_2 : decode cX0_changed 2 = .ok (.putfield 118, 3) := by decide +kernel
theorem dX0_changed_5 : decode cX0_changed 5 = .ok (.aload_n 0, 1) := by decide +kernel
theorem dX0_changed_6 : decode cX0_changed 6 = .ok (.iconst 0, 1) := by decide +kernel
theorem dX0_changed_7 : decode cX0_changed 7 = .ok (.putfield 122, 3) := by decide +kernel
theorem dX0_changed_10 : decode cX0_changed 10 = .ok (.iconst 0, 1) := by decide +kernel
theorem dX0_changed_11 : decode cX0_changed 11 = .ok (.istore_n 1, 1) := by decide +kernel
theorem dX0_changed_12 : decode cX0_changed 12 = .ok (.iload_n 1, 1) := by decide +kernel
theorem dX0_changed_13 : decode cX0_changed 13 = .ok (.bipush 8, 2) := by decide +kernel
theorem dX0_changed_15 : decode cX0_changed 15 = .ok (.if_icmp .ge 16, 3) := by decide +kernel
theorem dX0_changed_18 : decode cX0_changed 18 = .ok (.aload_n 0, 1) := by decide +kernel
theorem dX0_changed_19 : decode cX0_changed 19 = .ok (.getfield 82, 3) := by decide +kernel
theorem dX0_changed_22 : decode cX0_changed 22 = .ok (.iload_n 1, 1) := by decide +kernel
theorem dX0_changed_23 : decode cX0_changed 23 = .ok (.iconst 0, 1) := by decide +kernel
theorem dX0_changed_24 : decode cX0_changed 24 = .ok (.bastore, 1) := by decide +kernel
theorem dX0_changed_25 : decode cX0_changed 25 = .ok (.iinc 1 1, 3) := by decide +kernel
theorem dX0_changed_28 : decode cX0_changed 28 = .ok (.goto (-16), 3) := by decide +kernel
theorem dX0_changed_31 : decode cX0_changed 31 = .ok (.return_, 1) := by decide +kernel
abbrev cX0_remove : ByteArray := prog_1_method_9_code
def yX0_remove : MethodName := ⟨RX0, "remove", "(I)I"⟩
theorem dX0_remove_0 : decode cX0_remove 0 = .ok (.aload_n 0, 1) := by decide +kernel
theorem dX0_remove_1 : decode cX0_remove 1 = .ok (.iload_n 1, 1) := by decide +kernel
theorem dX0_remove_2 : decode cX0_remove 2 = .ok (.invokevirtual 132, 3) := by decide +kernel
theorem dX0_remove_5 : decode cX0_remove 5 = .ok (.ifCond .ne 5, 3) := by decide +kernel
theorem dX0_remove_8 : decode cX0_remove 8 = .ok (.iconst (-1), 1) := by decide +kernel
theorem dX0_remove_9 : decode cX0_remove 9 = .ok (.ireturn, 1) := by decide +kernel
theorem dX0_remove_10 : decode cX0_remove 10 = .ok (.aload_n 0, 1) := by decide +kernel
theorem dX0_remove_11 : decode cX0_remove 11 = .ok (.invokevirtual 146, 3) := by decide +kernel
theorem dX0_remove_14 : decode cX0_remove 14 = .ok (.aload_n 0, 1) := by decide +kernel
theorem dX0_remove_15 : decode cX0_remove 15 = .ok (.getfield 30, 3) := by decide +kernel
theorem dX0_remove_18 : decode cX0_remove 18 = .ok (.iload_n 1, 1) := by decide +kernel
theorem dX0_remove_19 : decode cX0_remove 19 = .ok (.baload, 1) := by decide +kernel
theorem dX0_remove_20 : decode cX0_remove 20 = .ok (.istore_n 2, 1) := by decide +kernel
theorem dX0_remove_21 : decode cX0_remove 21 = .ok (.aload_n 0, 1) := by decide +kernel
theorem dX0_remove_22 : decode cX0_remove 22 = .ok (.getfield 36, 3) := by decide +kernel
theorem dX0_remove_25 : decode cX0_remove 25 = .ok (.iload_n 2, 1) := by decide +kernel
theorem dX0_remove_26 : decode cX0_remove 26 = .ok (.baload, 1) := by decide +kernel
theorem dX0_remove_27 : decode cX0_remove 27 = .ok (.istore_n 3, 1) := by decide +kernel
theorem dX0_remove_28 : decode cX0_remove 28 = .ok (.iload_n 1, 1) := by decide +kernel
theorem dX0_remove_29 : decode cX0_remove 29 = .ok (.aload_n 0, 1) := by decide +kernel
theorem dX0_remove_30 : decode cX0_remove 30 = .ok (.getfield 26, 3) := by decide +kernel
theorem dX0_remove_33 : decode cX0_remove 33 = .ok (.if_icmp .ne 11, 3) := by decide +kernel
theorem dX0_remove_36 : decode cX0_remove 36 = .ok (.aload_n 0, 1) := by decide +kernel
theorem dX0_remove_37 : decode cX0_remove 37 = .ok (.iconst (-1), 1) := by decide +kernel
theorem dX0_remove_38 : decode cX0_remove 38 = .ok (.putfield 26, 3) := by decide +kernel
theorem dX0_remove_41 : decode cX0_remove 41 = .ok (.goto 8, 3) := by decide +kernel
theorem dX0_remove_44 : decode cX0_remove 44 = .ok (.aload_n 0, 1) := by decide +kernel
theorem dX0_remove_45 : decode cX0_remove 45 = .ok (.iload_n 1, 1) := by decide +kernel
theorem dX0_remove_46 : decode cX0_remove 46 = .ok (.invokevirtual 149, 3) := by decide +kernel
theorem dX0_remove_49 : decode cX0_remove 49 = .ok (.iload_n 2, 1) := by decide +kernel
theorem dX0_remove_50 : decode cX0_remove 50 = .ok (.istore 4, 2) := by decide +kernel
theorem dX0_remove_52 : decode cX0_remove 52 = .ok (.iload 4, 2) := by decide +kernel
theorem dX0_remove_54 : decode cX0_remove 54 = .ok (.iload_n 3, 1) := by decide +kernel
theorem dX0_remove_55 : decode cX0_remove 55 = .ok (.if_icmp .gt 22, 3) := by decide +kernel
theorem dX0_remove_58 : decode cX0_remove 58 = .ok (.aload_n 0, 1) := by decide +kernel
theorem dX0_remove_59 : decode cX0_remove 59 = .ok (.getfield 7, 3) := by decide +kernel
theorem dX0_remove_62 : decode cX0_remove 62 = .ok (.aload_n 0, 1) := by decide +kernel
theorem dX0_remove_63 : decode cX0_remove 63 = .ok (.getfield 33, 3) := by decide +kernel
theorem dX0_remove_66 : decode cX0_remove 66 = .ok (.iload 4, 2) := by decide +kernel
theorem dX0_remove_68 : decode cX0_remove 68 = .ok (.baload, 1) := by decide +kernel
theorem dX0_remove_69 : decode cX0_remove 69 = .ok (.iconst (-1), 1) := by decide +kernel
theorem dX0_remove_70 : decode cX0_remove 70 = .ok (.bastore, 1) := by decide +kernel
theorem dX0_remove_71 : decode cX0_remove 71 = .ok (.iinc 4 1, 3) := by decide +kernel
theorem dX0_remove_74 : decode cX0_remove 74 = .ok (.goto (-22), 3) := by decide +kernel
theorem dX0_remove_77 : decode cX0_remove 77 = .ok (.aload_n 0, 1) := by decide +kernel
theorem dX0_remove_78 : decode cX0_remove 78 = .ok (.dup, 1) := by decide +kernel
theorem dX0_remove_79 : decode cX0_remove 79 = .ok (.getfield 129, 3) := by decide +kernel
theorem dX0_remove_82 : decode cX0_remove 82 = .ok (.iload_n 3, 1) := by decide +kernel
theorem dX0_remove_83 : decode cX0_remove 83 = .ok (.iload_n 2, 1) := by decide +kernel
theorem dX0_remove_84 : decode cX0_remove 84 = .ok (.isub, 1) := by decide +kernel
theorem dX0_remove_85 : decode cX0_remove 85 = .ok (.iconst 1, 1) := by decide +kernel
theorem dX0_remove_86 : decode cX0_remove 86 = .ok (.iadd, 1) := by decide +kernel
theorem dX0_remove_87 : decode cX0_remove 87 = .ok (.isub, 1) := by decide +kernel
theorem dX0_remove_88 : decode cX0_remove 88 = .ok (.putfield 129, 3) := by decide +kernel
theorem dX0_remove_91 : decode cX0_remove 91 = .ok (.aload_n 0, 1) := by decide +kernel
theorem dX0_remove_92 : decode cX0_remove 92 = .ok (.invokevirtual 143, 3) := by decide +kernel
theorem dX0_remove_95 : decode cX0_remove 95 = .ok (.iload_n 3, 1) := by decide +kernel
theorem dX0_remove_96 : decode cX0_remove 96 = .ok (.iload_n 2, 1) := by decide +kernel
theorem dX0_remove_97 : decode cX0_remove 97 = .ok (.isub, 1) := by decide +kernel
theorem dX0_remove_98 : decode cX0_remove 98 = .ok (.iconst 1, 1) := by decide +kernel
theorem dX0_remove_99 : decode cX0_remove 99 = .ok (.iadd, 1) := by decide +kernel
theorem dX0_remove_100 : decode cX0_remove 100 = .ok (.ireturn, 1) := by decide +kernel
abbrev cX0_count : ByteArray := prog_1_method_13_code
def yX0_count : MethodName := ⟨RX0, "count", "()V"⟩
theorem dX0_count_0 : decode cX0_count 0 = .ok (.aload_n 0, 1) := by decide +kernel
theorem dX0_count_1 : decode cX0_count 1 = .ok (.getfield 118, 3) := by decide +kernel
theorem dX0_count_4 : decode cX0_count 4 = .ok (.ifCond .eq 4, 3) := by decide +kernel
theorem dX0_count_7 : decode cX0_count 7 = .ok (.return_, 1) := by decide +kernel
theorem dX0_count_8 : decode cX0_count 8 = .ok (.aload_n 0, 1) := by decide +kernel
theorem dX0_count_9 : decode cX0_count 9 = .ok (.iconst 1, 1) := by decide +kernel
theorem dX0_count_10 : decode cX0_count 10 = .ok (.putfield 118, 3) := by decide +kernel
theorem dX0_count_13 : decode cX0_count 13 = .ok (.iconst 0, 1) := by decide +kernel
theorem dX0_count_14 : decode cX0_count 14 = .ok (.istore_n 1, 1) := by decide +kernel
theorem dX0_count_15 : decode cX0_count 15 = .ok (.iload_n 1, 1) := by decide +kernel
theorem dX0_count_16 : decode cX0_count 16 = .ok (.bipush 7, 2) := by decide +kernel
theorem dX0_count_18 : decode cX0_count 18 = .ok (.if_icmp .ge 16, 3) := by decide +kernel
theorem dX0_count_21 : decode cX0_count 21 = .ok (.aload_n 0, 1) := by decide +kernel
theorem dX0_count_22 : decode cX0_count 22 = .ok (.getfield 48, 3) := by decide +kernel
theorem dX0_count_25 : decode cX0_count 25 = .ok (.iload_n 1, 1) := by decide +kernel
theorem dX0_count_26 : decode cX0_count 26 = .ok (.iconst 0, 1) := by decide +kernel
theorem dX0_count_27 : decode cX0_count 27 = .ok (.iastore, 1) := by decide +kernel
theorem dX0_count_28 : decode cX0_count 28 = .ok (.iinc 1 1, 3) := by decide +kernel
theorem dX0_count_31 : decode cX0_count 31 = .ok (.goto (-16), 3) := by decide +kernel
theorem dX0_count_34 : decode cX0_count 34 = .ok (.iconst 0, 1) := by decide +kernel
theorem dX0_count_35 : decode cX0_count 35 = .ok (.istore_n 1, 1) := by decide +kernel
theorem dX0_count_36 : decode cX0_count 36 = .ok (.aload_n 0, 1) := by decide +kernel
theorem dX0_count_37 : decode cX0_count 37 = .ok (.getfield 26, 3) := by decide +kernel
theorem dX0_count_40 : decode cX0_count 40 = .ok (.istore_n 2, 1) := by decide +kernel
theorem dX0_count_41 : decode cX0_count 41 = .ok (.iload_n 2, 1) := by decide +kernel
theorem dX0_count_42 : decode cX0_count 42 = .ok (.ifCond .lt 154, 3) := by decide +kernel
theorem dX0_count_45 : decode cX0_count 45 = .ok (.aload_n 0, 1) := by decide +kernel
theorem dX0_count_46 : decode cX0_count 46 = .ok (.getfield 30, 3) := by decide +kernel
theorem dX0_count_49 : decode cX0_count 49 = .ok (.iload_n 2, 1) := by decide +kernel
theorem dX0_count_50 : decode cX0_count 50 = .ok (.iload_n 1, 1) := by decide +kernel
theorem dX0_count_51 : decode cX0_count 51 = .ok (.i2b, 1) := by decide +kernel
theorem dX0_count_52 : decode cX0_count 52 = .ok (.bastore, 1) := by decide +kernel
theorem dX0_count_53 : decode cX0_count 53 = .ok (.aload_n 0, 1) := by decide +kernel
theorem dX0_count_54 : decode cX0_count 54 = .ok (.getfield 33, 3) := by decide +kernel
theorem dX0_count_57 : decode cX0_count 57 = .ok (.iload_n 1, 1) := by decide +kernel
theorem dX0_count_58 : decode cX0_count 58 = .ok (.iload_n 2, 1) := by decide +kernel
theorem dX0_count_59 : decode cX0_count 59 = .ok (.i2b, 1) := by decide +kernel
theorem dX0_count_60 : decode cX0_count 60 = .ok (.bastore, 1) := by decide +kernel
theorem dX0_count_61 : decode cX0_count 61 = .ok (.aload_n 0, 1) := by decide +kernel
theorem dX0_count_62 : decode cX0_count 62 = .ok (.getfield 17, 3) := by decide +kernel
theorem dX0_count_65 : decode cX0_count 65 = .ok (.iload_n 2, 1) := by decide +kernel
theorem dX0_count_66 : decode cX0_count 66 = .ok (.baload, 1) := by decide +kernel
theorem dX0_count_67 : decode cX0_count 67 = .ok (.ifCond .ge 7, 3) := by decide +kernel
theorem dX0_count_70 : decode cX0_count 70 = .ok (.iconst (-1), 1) := by decide +kernel
theorem dX0_count_71 : decode cX0_count 71 = .ok (.goto 14, 3) := by decide +kernel
theorem dX0_count_74 : decode cX0_count 74 = .ok (.aload_n 0, 1) := by decide +kernel
theorem dX0_count_75 : decode cX0_count 75 = .ok (.getfield 30, 3) := by decide +kernel
theorem dX0_count_78 : decode cX0_count 78 = .ok (.aload_n 0, 1) := by decide +kernel
theorem dX0_count_79 : decode cX0_count 79 = .ok (.getfield 17, 3) := by decide +kernel
theorem dX0_count_82 : decode cX0_count 82 = .ok (.iload_n 2, 1) := by decide +kernel
theorem dX0_count_83 : decode cX0_count 83 = .ok (.baload, 1) := by decide +kernel
theorem dX0_count_84 : decode cX0_count 84 = .ok (.baload, 1) := by decide +kernel
theorem dX0_count_85 : decode cX0_count 85 = .ok (.istore_n 3, 1) := by decide +kernel
theorem dX0_count_86 : decode cX0_count 86 = .ok (.aload_n 0, 1) := by decide +kernel
theorem dX0_count_87 : decode cX0_count 87 = .ok (.getfield 39, 3) := by decide +kernel
theorem dX0_count_90 : decode cX0_count 90 = .ok (.iload_n 1, 1) := by decide +kernel
theorem dX0_count_91 : decode cX0_count 91 = .ok (.iload_n 3, 1) := by decide +kernel
theorem dX0_count_92 : decode cX0_count 92 = .ok (.i2b, 1) := by decide +kernel
theorem dX0_count_93 : decode cX0_count 93 = .ok (.bastore, 1) := by decide +kernel
theorem dX0_count_94 : decode cX0_count 94 = .ok (.aload_n 0, 1) := by decide +kernel
theorem dX0_count_95 : decode cX0_count 95 = .ok (.getfield 42, 3) := by decide +kernel
theorem dX0_count_98 : decode cX0_count 98 = .ok (.iload_n 1, 1) := by decide +kernel
theorem dX0_count_99 : decode cX0_count 99 = .ok (.iconst 0, 1) := by decide +kernel
theorem dX0_count_100 : decode cX0_count 100 = .ok (.iastore, 1) := by decide +kernel
theorem dX0_count_101 : decode cX0_count 101 = .ok (.aload_n 0, 1) := by decide +kernel
theorem dX0_count_102 : decode cX0_count 102 = .ok (.getfield 45, 3) := by decide +kernel
theorem dX0_count_105 : decode cX0_count 105 = .ok (.iload_n 1, 1) := by decide +kernel
theorem dX0_count_106 : decode cX0_count 106 = .ok (.iload_n 3, 1) := by decide +kernel
theorem dX0_count_107 : decode cX0_count 107 = .ok (.ifCond .ge 7, 3) := by decide +kernel
theorem dX0_count_110 : decode cX0_count 110 = .ok (.iconst 0, 1) := by decide +kernel
theorem dX0_count_111 : decode cX0_count 111 = .ok (.goto 13, 3) := by decide +kernel
theorem dX0_count_114 : decode cX0_count 114 = .ok (.aload_n 0, 1) := by decide +kernel
theorem dX0_count_115 : decode cX0_count 115 = .ok (.getfield 45, 3) := by decide +kernel
theorem dX0_count_118 : decode cX0_count 118 = .ok (.iload_n 3, 1) := by decide +kernel
theorem dX0_count_119 : decode cX0_count 119 = .ok (.iaload, 1) := by decide +kernel
theorem dX0_count_120 : decode cX0_count 120 = .ok (.iconst 1, 1) := by decide +kernel
theorem dX0_count_121 : decode cX0_count 121 = .ok (.iload_n 3, 1) := by decide +kernel
theorem dX0_count_122 : decode cX0_count 122 = .ok (.ishl, 1) := by decide +kernel
theorem dX0_count_123 : decode cX0_count 123 = .ok (.ior, 1) := by decide +kernel
theorem dX0_count_124 : decode cX0_count 124 = .ok (.iastore, 1) := by decide +kernel
theorem dX0_count_125 : decode cX0_count 125 = .ok (.iload_n 3, 1) := by decide +kernel
theorem dX0_count_126 : decode cX0_count 126 = .ok (.ifCond .lt 15, 3) := by decide +kernel
theorem dX0_count_129 : decode cX0_count 129 = .ok (.aload_n 0, 1) := by decide +kernel
theorem dX0_count_130 : decode cX0_count 130 = .ok (.getfield 42, 3) := by decide +kernel
theorem dX0_count_133 : decode cX0_count 133 = .ok (.iload_n 3, 1) := by decide +kernel
theorem dX0_count_134 : decode cX0_count 134 = .ok (.dup2, 1) := by decide +kernel
theorem dX0_count_135 : decode cX0_count 135 = .ok (.iaload, 1) := by decide +kernel
theorem dX0_count_136 : decode cX0_count 136 = .ok (.iconst 1, 1) := by decide +kernel
theorem dX0_count_137 : decode cX0_count 137 = .ok (.iload_n 1, 1) := by decide +kernel
theorem dX0_count_138 : decode cX0_count 138 = .ok (.ishl, 1) := by decide +kernel
theorem dX0_count_139 : decode cX0_count 139 = .ok (.ior, 1) := by decide +kernel
theorem dX0_count_140 : decode cX0_count 140 = .ok (.iastore, 1) := by decide +kernel
theorem dX0_count_141 : decode cX0_count 141 = .ok (.aload_n 0, 1) := by decide +kernel
theorem dX0_count_142 : decode cX0_count 142 = .ok (.getfield 48, 3) := by decide +kernel
theorem dX0_count_145 : decode cX0_count 145 = .ok (.aload_n 0, 1) := by decide +kernel
theorem dX0_count_146 : decode cX0_count 146 = .ok (.getfield 7, 3) := by decide +kernel
theorem dX0_count_149 : decode cX0_count 149 = .ok (.iload_n 2, 1) := by decide +kernel
theorem dX0_count_150 : decode cX0_count 150 = .ok (.baload, 1) := by decide +kernel
theorem dX0_count_151 : decode cX0_count 151 = .ok (.dup2, 1) := by decide +kernel
theorem dX0_count_152 : decode cX0_count 152 = .ok (.iaload, 1) := by decide +kernel
theorem dX0_count_153 : decode cX0_count 153 = .ok (.iconst 1, 1) := by decide +kernel
theorem dX0_count_154 : decode cX0_count 154 = .ok (.iload_n 1, 1) := by decide +kernel
theorem dX0_count_155 : decode cX0_count 155 = .ok (.ishl, 1) := by decide +kernel
theorem dX0_count_156 : decode cX0_count 156 = .ok (.ior, 1) := by decide +kernel
theorem dX0_count_157 : decode cX0_count 157 = .ok (.iastore, 1) := by decide +kernel
theorem dX0_count_158 : decode cX0_count 158 = .ok (.aload_n 0, 1) := by decide +kernel
theorem dX0_count_159 : decode cX0_count 159 = .ok (.getfield 48, 3) := by decide +kernel
theorem dX0_count_162 : decode cX0_count 162 = .ok (.bipush 6, 2) := by decide +kernel
theorem dX0_count_164 : decode cX0_count 164 = .ok (.dup2, 1) := by decide +kernel
theorem dX0_count_165 : decode cX0_count 165 = .ok (.iaload, 1) := by decide +kernel
theorem dX0_count_166 : decode cX0_count 166 = .ok (.iconst 1, 1) := by decide +kernel
theorem dX0_count_167 : decode cX0_count 167 = .ok (.iload_n 1, 1) := by decide +kernel
theorem dX0_count_168 : decode cX0_count 168 = .ok (.ishl, 1) := by decide +kernel
theorem dX0_count_169 : decode cX0_count 169 = .ok (.ior, 1) := by decide +kernel
theorem dX0_count_170 : decode cX0_count 170 = .ok (.iastore, 1) := by decide +kernel
theorem dX0_count_171 : decode cX0_count 171 = .ok (.aload_n 0, 1) := by decide +kernel
theorem dX0_count_172 : decode cX0_count 172 = .ok (.getfield 51, 3) := by decide +kernel
theorem dX0_count_175 : decode cX0_count 175 = .ok (.iload_n 1, 1) := by decide +kernel
theorem dX0_count_176 : decode cX0_count 176 = .ok (.aload_n 0, 1) := by decide +kernel
theorem dX0_count_177 : decode cX0_count 177 = .ok (.getfield 13, 3) := by decide +kernel
theorem dX0_count_180 : decode cX0_count 180 = .ok (.iload_n 2, 1) := by decide +kernel
theorem dX0_count_181 : decode cX0_count 181 = .ok (.iaload, 1) := by decide +kernel
theorem dX0_count_182 : decode cX0_count 182 = .ok (.iastore, 1) := by decide +kernel
theorem dX0_count_183 : decode cX0_count 183 = .ok (.aload_n 0, 1) := by decide +kernel
theorem dX0_count_184 : decode cX0_count 184 = .ok (.iload_n 2, 1) := by decide +kernel
theorem dX0_count_185 : decode cX0_count 185 = .ok (.iload_n 1, 1) := by decide +kernel
theorem dX0_count_186 : decode cX0_count 186 = .ok (.invokevirtual 153, 3) := by decide +kernel
theorem dX0_count_189 : decode cX0_count 189 = .ok (.istore_n 2, 1) := by decide +kernel
theorem dX0_count_190 : decode cX0_count 190 = .ok (.iinc 1 1, 3) := by decide +kernel
theorem dX0_count_193 : decode cX0_count 193 = .ok (.goto (-152), 3) := by decide +kernel
theorem dX0_count_196 : decode cX0_count 196 = .ok (.return_, 1) := by decide +kernel
abbrev cX0_onward : ByteArray := prog_1_method_14_code
def yX0_onward : MethodName := ⟨RX0, "onward", "(II)I"⟩
theorem dX0_onward_0 : decode cX0_onward 0 = .ok (.aload_n 0, 1) := by decide +kernel
theorem dX0_onward_1 : decode cX0_onward 1 = .ok (.getfield 20, 3) := by decide +kernel
theorem dX0_onward_4 : decode cX0_onward 4 = .ok (.iload_n 1, 1) := by decide +kernel
theorem dX0_onward_5 : decode cX0_onward 5 = .ok (.baload, 1) := by decide +kernel
theorem dX0_onward_6 : decode cX0_onward 6 = .ok (.ifCond .lt 10, 3) := by decide +kernel
theorem dX0_onward_9 : decode cX0_onward 9 = .ok (.aload_n 0, 1) := by decide +kernel
theorem dX0_onward_10 : decode cX0_onward 10 = .ok (.getfield 20, 3) := by decide +kernel
theorem dX0_onward_13 : decode cX0_onward 13 = .ok (.iload_n 1, 1) := by decide +kernel
theorem dX0_onward_14 : decode cX0_onward 14 = .ok (.baload, 1) := by decide +kernel
theorem dX0_onward_15 : decode cX0_onward 15 = .ok (.ireturn, 1) := by decide +kernel
