/-! TransletDeskModel -/
set_option maxRecDepth 100000
def RX1 : String := "TransletDeskModel"
def TX1 : u_T := fun k => match k with
  | 0 => ("TransletDeskModel", "row", "[I", true)
  | 1 => ("TransletDeskModel", "depth", "[I", true)
  | 2 => ("TransletDeskModel", "name", "[I", true)
  | 3 => ("TransletDeskModel", "value", "[I", true)
  | 4 => ("TransletDeskModel", "moved", "[I", true)
  | 5 => ("TransletDeskModel", "count", "I", false)
  | 6 => ("TransletDeskModel", "kind", "[I", true)
  | 7 => ("TransletDeskModel", "with", "[I", true)
  | 8 => ("TransletDeskModel", "length", "[I", true)
  | 9 => ("TransletDeskModel", "sets", "[I", true)
  | 10 => ("TransletDeskModel", "fresh", "[Z", true)
  | 11 => ("TransletDeskModel", "type", "[I", true)
  | 12 => ("TransletDeskModel", "number", "[I", true)
  | 13 => ("TransletDeskModel", "set", "[I", true)
  | 14 => ("TransletDeskModel", "list", "[I", true)
  | 15 => ("TransletDeskModel", "top", "I", false)
  | 16 => ("TransletDeskModel", "listed", "I", false)
  | 17 => ("TransletDeskModel", "there", "[Z", true)
  | 18 => ("TransletDeskModel", "match", "[I", true)
  | 19 => ("TransletDeskModel", "priority", "[I", true)
  | 20 => ("TransletDeskModel", "out", "[I", true)
  | 21 => ("TransletDeskModel", "on", "[I", true)
  | 22 => ("TransletDeskModel", "todo", "[I", true)
  | 23 => ("TransletDeskModel", "within", "[I", true)
  | 24 => ("TransletDeskModel", "output", "[I", true)
  | _ => ("TransletDeskModel", "outputs", "I", false)
def tyX1 : Nat → FieldType := fun k => match k with
  | 0 => .array .int
  | 1 => .array .int
  | 2 => .array .int
  | 3 => .array .int
  | 4 => .array .int
  | 5 => .int
  | 6 => .array .int
  | 7 => .array .int
  | 8 => .array .int
  | 9 => .array .int
  | 10 => .array .boolean
  | 11 => .array .int
  | 12 => .array .int
  | 13 => .array .int
  | 14 => .array .int
  | 15 => .int
  | 16 => .int
  | 17 => .array .boolean
  | 18 => .array .int
  | 19 => .array .int
  | 20 => .array .int
  | 21 => .array .int
  | 22 => .array .int
  | 23 => .array .int
  | 24 => .array .int
  | _ => .int
abbrev wsX10 : List Cond := u_ws RX1 TX1 26
set_option maxRecDepth 100000 in
theorem nmX1 : ∀ a, a < 26 → ∀ b, b < 26 → a ≠ b → (TX1 a).2.1 ≠ (TX1 b).2.1 := by decide +kernel
set_option maxRecDepth 100000 in
theorem tyX1_ok : ∀ k, k < 26 → parseFieldDescriptor (TX1 k).2.2.1 = some (tyX1 k) := by decide +kernel
abbrev cX1_init : ByteArray := prog_3_method_1_code
def yX1_init : MethodName := ⟨RX1, "<init>", "()V"⟩
theorem dX1_init_0 : decode cX1_init 0 = .ok (.aload_n 0, 1) := by decide +kernel
theorem dX1_init_1 : decode cX1_init 1 = .ok (.invokespecial 1, 3) := by decide +kernel
theorem dX1_init_4 : decode cX1_init 4 = .ok (.aload_n 0, 1) := by decide +kernel
theorem dX1_init_5 : decode cX1_init 5 = .ok (.bipush 24, 2) := by decide +kernel
theorem dX1_init_7 : decode cX1_init 7 = .ok (.newarray .int, 2) := by decide +kernel
theorem dX1_init_9 : decode cX1_init 9 = .ok (.putfield 7, 3) := by decide +kernel
theorem dX1_init_12 : decode cX1_init 12 = .ok (.aload_n 0, 1) := by decide +kernel
theorem dX1_init_13 : decode cX1_init 13 = .ok (.bipush 24, 2) := by decide +kernel
theorem dX1_init_15 : decode cX1_init 15 = .ok (.newarray .int, 2) := by decide +kernel
theorem dX1_init_17 : decode cX1_init 17 = .ok (.putfield 13, 3) := by decide +kernel
theorem dX1_init_20 : decode cX1_init 20 = .ok (.aload_n 0, 1) := by decide +kernel
theorem dX1_init_21 : decode cX1_init 21 = .ok (.bipush 24, 2) := by decide +kernel
theorem dX1_init_23 : decode cX1_init 23 = .ok (.newarray .int, 2) := by decide +kernel
theorem dX1_init_25 : decode cX1_init 25 = .ok (.putfield 16, 3) := by decide +kernel
theorem dX1_init_28 : decode cX1_init 28 = .ok (.aload_n 0, 1) := by decide +kernel
theorem dX1_init_29 : decode cX1_init 29 = .ok (.bipush 24, 2) := by decide +kernel
theorem dX1_init_31 : decode cX1_init 31 = .ok (.newarray .int, 2) := by decide +kernel
theorem dX1_init_33 : decode cX1_init 33 = .ok (.putfield 19, 3) := by decide +kernel
theorem dX1_init_36 : decode cX1_init 36 = .ok (.aload_n 0, 1) := by decide +kernel
theorem dX1_init_37 : decode cX1_init 37 = .ok (.bipush 24, 2) := by decide +kernel
theorem dX1_init_39 : decode cX1_init 39 = .ok (.newarray .int, 2) := by decide +kernel
theorem dX1_init_41 : decode cX1_init 41 = .ok (.putfield 22, 3) := by decide +kernel
theorem dX1_init_44 : decode cX1_init 44 = .ok (.aload_n 0, 1) := by decide +kernel
theorem dX1_init_45 : decode cX1_init 45 = .ok (.sipush 360, 3) := by decide +kernel
theorem dX1_init_48 : decode cX1_init 48 = .ok (.newarray .int, 2) := by decide +kernel
theorem dX1_init_50 : decode cX1_init 50 = .ok (.putfield 25, 3) := by decide +kernel
theorem dX1_init_53 : decode cX1_init 53 = .ok (.aload_n 0, 1) := by decide +kernel
theorem dX1_init_54 : decode cX1_init 54 = .ok (.sipush 360, 3) := by decide +kernel
theorem dX1_init_57 : decode cX1_init 57 = .ok (.newarray .int, 2) := by decide +kernel
theorem dX1_init_59 : decode cX1_init 59 = .ok (.putfield 28, 3) := by decide +kernel
theorem dX1_init_62 : decode cX1_init 62 = .ok (.aload_n 0, 1) := by decide +kernel
theorem dX1_init_63 : decode cX1_init 63 = .ok (.bipush 9, 2) := by decide +kernel
theorem dX1_init_65 : decode cX1_init 65 = .ok (.newarray .int, 2) := by decide +kernel
theorem dX1_init_67 : decode cX1_init 67 = .ok (.putfield 31, 3) := by decide +kernel
theorem dX1_init_70 : decode cX1_init 70 = .ok (.aload_n 0, 1) := by decide +kernel
theorem dX1_init_71 : decode cX1_init 71 = .ok (.sipush 7680, 3) := by decide +kernel
theorem dX1_init_74 : decode cX1_init 74 = .ok (.newarray .int, 2) := by decide +kernel
theorem dX1_init_76 : decode cX1_init 76 = .ok (.putfield 34, 3) := by decide +kernel
theorem dX1_init_79 : decode cX1_init 79 = .ok (.aload_n 0, 1) := by decide +kernel
theorem dX1_init_80 : decode cX1_init 80 = .ok (.bipush 8, 2) := by decide +kernel
theorem dX1_init_82 : decode cX1_init 82 = .ok (.newarray .boolean, 2) := by decide +kernel
theorem dX1_init_84 : decode cX1_init 84 = .ok (.putfield 37, 3) := by decide +kernel
theorem dX1_init_87 : decode cX1_init 87 = .ok (.aload_n 0, 1) := by decide +kernel
theorem dX1_init_88 : decode cX1_init 88 = .ok (.bipush 48, 2) := by decide +kernel
theorem dX1_init_90 : decode cX1_init 90 = .ok (.newarray .int, 2) := by decide +kernel
theorem dX1_init_92 : decode cX1_init 92 = .ok (.putfield 41, 3) := by decide +kernel
theorem dX1_init_95 : decode cX1_init 95 = .ok (.aload_n 0, 1) := by decide +kernel
theorem dX1_init_96 : decode cX1_init 96 = .ok (.bipush 48, 2) := by decide +kernel
theorem dX1_init_98 : decode cX1_init 98 = .ok (.newarray .int, 2) := by decide +kernel
theorem dX1_init_100 : decode cX1_init 100 = .ok (.putfield 44, 3) := by decide +kernel
theorem dX1_init_103 : decode cX1_init 103 = .ok (.aload_n 0, 1) := by decide +kernel
theorem dX1_init_104 : decode cX1_init 104 = .ok (.bipush 48, 2) := by decide +kernel
theorem dX1_init_106 : decode cX1_init 106 = .ok (.newarray .int, 2) := by decide +kernel
theorem dX1_init_108 : decode cX1_init 108 = .ok (.putfield 47, 3) := by decide +kernel
theorem dX1_init_111 : decode cX1_init 111 = .ok (.aload_n 0, 1) := by decide +kernel
theorem dX1_init_112 : decode cX1_init 112 = .ok (.bipush 24, 2) := by decide +kernel
theorem dX1_init_114 : decode cX1_init 114 = .ok (.newarray .int, 2) := by decide +kernel
theorem dX1_init_116 : decode cX1_init 116 = .ok (.putfield 50, 3) := by decide +kernel
theorem dX1_init_119 : decode cX1_init 119 = .ok (.aload_n 0, 1) := by decide +kernel
theorem dX1_init_120 : decode cX1_init 120 = .ok (.bipush 6, 2) := by decide +kernel
theorem dX1_init_122 : decode cX1_init 122 = .ok (.newarray .boolean, 2) := by decide +kernel
theorem dX1_init_124 : decode cX1_init 124 = .ok (.putfield 53, 3) := by decide +kernel
theorem dX1_init_127 : decode cX1_init 127 = .ok (.aload_n 0, 1) := by decide +kernel
theorem dX1_init_128 : decode cX1_init 128 = .ok (.bipush 6, 2) := by decide +kernel
theorem dX1_init_130 : decode cX1_init 130 = .ok (.newarray .int, 2) := by decide +kernel
theorem dX1_init_132 : decode cX1_init 132 = .ok (.putfield 56, 3) := by decide +kernel
theorem dX1_init_135 : decode cX1_init 135 = .ok (.aload_n 0, 1) := by decide +kernel
theorem dX1_init_136 : decode cX1_init 136 = .ok (.bipush 6, 2) := by decide +kernel
theorem dX1_init_138 : decode cX1_init 138 = .ok (.newarray .int, 2) := by decide +kernel
theorem dX1_init_140 : decode cX1_init 140 = .ok (.putfield 59, 3) := by decide +kernel
theorem dX1_init_143 : decode cX1_init 143 = .ok (.aload_n 0, 1) := by decide +kernel
theorem dX1_init_144 : decode cX1_init 144 = .ok (.bipush 6, 2) := by decide +kernel
theorem dX1_init_146 : decode cX1_init 146 = .ok (.newarray .int, 2) := by decide +kernel
theorem dX1_init_148 : decode cX1_init 148 = .ok (.putfield 62, 3) := by decide +kernel
theorem dX1_init_151 : decode cX1_init 151 = .ok (.aload_n 0, 1) := by decide +kernel
theorem dX1_init_152 : decode cX1_init 152 = .ok (.bipush 6, 2) := by decide +kernel
theorem dX1_init_154 : decode cX1_init 154 = .ok (.newarray .int, 2) := by decide +kernel
theorem dX1_init_156 : decode cX1_init 156 = .ok (.putfield 65, 3) := by decide +kernel
theorem dX1_init_159 : decode cX1_init 159 = .ok (.aload_n 0, 1) := by decide +kernel
theorem dX1_init_160 : decode cX1_init 160 = .ok (.sipush 3000, 3) := by decide +kernel
theorem dX1_init_163 : decode cX1_init 163 = .ok (.newarray .int, 2) := by decide +kernel
theorem dX1_init_165 : decode cX1_init 165 = .ok (.putfield 68, 3) := by decide +kernel
theorem dX1_init_168 : decode cX1_init 168 = .ok (.aload_n 0, 1) := by decide +kernel
theorem dX1_init_169 : decode cX1_init 169 = .ok (.sipush 3000, 3) := by decide +kernel
theorem dX1_init_172 : decode cX1_init 172 = .ok (.newarray .int, 2) := by decide +kernel
theorem dX1_init_174 : decode cX1_init 174 = .ok (.putfield 71, 3) := by decide +kernel
theorem dX1_init_177 : decode cX1_init 177 = .ok (.aload_n 0, 1) := by decide +kernel
theorem dX1_init_178 : decode cX1_init 178 = .ok (.bipush 100, 2) := by decide +kernel
theorem dX1_init_180 : decode cX1_init 180 = .ok (.newarray .int, 2) := by decide +kernel
theorem dX1_init_182 : decode cX1_init 182 = .ok (.putfield 74, 3) := by decide +kernel
theorem dX1_init_185 : decode cX1_init 185 = .ok (.return_, 1) := by decide +kernel
abbrev cX1_insert : ByteArray := prog_3_method_9_code
def yX1_insert : MethodName := ⟨RX1, "insert", "(III)I"⟩
theorem dX1_insert_0 : decode cX1_insert 0 = .ok (.iload_n 3, 1) := by decide +kernel
theorem dX1_insert_1 : decode cX1_insert 1 = .ok (.iconst 0, 1) := by decide +kernel
theorem dX1_insert_2 : decode cX1_insert 2 = .ok (.iconst 5, 1) := by decide +kernel
theorem dX1_insert_3 : decode cX1_insert 3 = .ok (.invokestatic 88, 3) := by decide +kernel
theorem dX1_insert_6 : decode cX1_insert 6 = .ok (.ifCond .eq 12, 3) := by decide +kernel
theorem dX1_insert_9 : decode cX1_insert 9 = .ok (.aload_n 0, 1) := by decide +kernel
theorem dX1_insert_10 : decode cX1_insert 10 = .ok (.getfield 77, 3) := by decide +kernel
theorem dX1_insert_13 : decode cX1_insert 13 = .ok (.bipush 24, 2) := by decide +kernel
theorem dX1_insert_15 : decode cX1_insert 15 = .ok (.if_icmp .ne 5, 3) := by decide +kernel
theorem dX1_insert_18 : decode cX1_insert 18 = .ok (.iconst (-1), 1) := by decide +kernel
theorem dX1_insert_19 : decode cX1_insert 19 = .ok (.ireturn, 1) := by decide +kernel
theorem dX1_insert_20 : decode cX1_insert 20 = .ok (.iconst 0, 1) := by decide +kernel
theorem dX1_insert_21 : decode cX1_insert 21 = .ok (.istore 4, 2) := by decide +kernel
theorem dX1_insert_23 : decode cX1_insert 23 = .ok (.iconst 0, 1) := by decide +kernel
theorem dX1_insert_24 : decode cX1_insert 24 = .ok (.istore 5, 2) := by decide +kernel
theorem dX1_insert_26 : decode cX1_insert 26 = .ok (.aload_n 0, 1) := by decide +kernel
theorem dX1_insert_27 : decode cX1_insert 27 = .ok (.getfield 77, 3) := by decide +kernel
theorem dX1_insert_30 : decode cX1_insert 30 = .ok (.ifCond .le 47, 3) := by decide +kernel
theorem dX1_insert_33 : decode cX1_insert 33 = .ok (.aload_n 0, 1) := by decide +kernel
theorem dX1_insert_34 : decode cX1_insert 34 = .ok (.iload_n 1, 1) := by decide +kernel
theorem dX1_insert_35 : decode cX1_insert 35 = .ok (.invokevirtual 81, 3) := by decide +kernel
theorem dX1_insert_38 : decode cX1_insert 38 = .ok (.istore 6, 2) := by decide +kernel
theorem dX1_insert_40 : decode cX1_insert 40 = .ok (.iload 6, 2) := by decide +kernel
theorem dX1_insert_42 : decode cX1_insert 42 = .ok (.ifCond .lt 7, 3) := by decide +kernel
theorem dX1_insert_45 : decode cX1_insert 45 = .ok (.iload_n 2, 1) := by decide +kernel
theorem dX1_insert_46 : decode cX1_insert 46 = .ok (.ifCond .ge 5, 3) := by decide +kernel
theorem dX1_insert_49 : decode cX1_insert 49 = .ok (.iconst (-1), 1) := by decide +kernel
theorem dX1_insert_50 : decode cX1_insert 50 = .ok (.ireturn, 1) := by decide +kernel
theorem dX1_insert_51 : decode cX1_insert 51 = .ok (.aload_n 0, 1) := by decide +kernel
theorem dX1_insert_52 : decode cX1_insert 52 = .ok (.iload 6, 2) := by decide +kernel
theorem dX1_insert_54 : decode cX1_insert 54 = .ok (.iload_n 2, 1) := by decide +kernel
theorem dX1_insert_55 : decode cX1_insert 55 = .ok (.invokevirtual 92, 3) := by decide +kernel
theorem dX1_insert_58 : decode cX1_insert 58 = .ok (.istore 4, 2) := by decide +kernel
theorem dX1_insert_60 : decode cX1_insert 60 = .ok (.iload 4, 2) := by decide +kernel
theorem dX1_insert_62 : decode cX1_insert 62 = .ok (.ifCond .ge 5, 3) := by decide +kernel
theorem dX1_insert_65 : decode cX1_insert 65 = .ok (.iconst (-1), 1) := by decide +kernel
theorem dX1_insert_66 : decode cX1_insert 66 = .ok (.ireturn, 1) := by decide +kernel
theorem dX1_insert_67 : decode cX1_insert 67 = .ok (.aload_n 0, 1) := by decide +kernel
theorem dX1_insert_68 : decode cX1_insert 68 = .ok (.getfield 13, 3) := by decide +kernel
theorem dX1_insert_71 : decode cX1_insert 71 = .ok (.iload_n 1, 1) := by decide +kernel
theorem dX1_insert_72 : decode cX1_insert 72 = .ok (.iaload, 1) := by decide +kernel
theorem dX1_insert_73 : decode cX1_insert 73 = .ok (.iconst 1, 1) := by decide +kernel
theorem dX1_insert_74 : decode cX1_insert 74 = .ok (.iadd, 1) := by decide +kernel
theorem dX1_insert_75 : decode cX1_insert 75 = .ok (.istore 5, 2) := by decide +kernel
theorem dX1_insert_77 : decode cX1_insert 77 = .ok (.iconst 0, 1) := by decide +kernel
theorem dX1_insert_78 : decode cX1_insert 78 = .ok (.istore 6, 2) := by decide +kernel
theorem dX1_insert_80 : decode cX1_insert 80 = .ok (.aload_n 0, 1) := by decide +kernel
theorem dX1_insert_81 : decode cX1_insert 81 = .ok (.iload 6, 2) := by decide +kernel
theorem dX1_insert_83 : decode cX1_insert 83 = .ok (.invokevirtual 81, 3) := by decide +kernel
theorem dX1_insert_86 : decode cX1_insert 86 = .ok (.ifCond .lt 9, 3) := by decide +kernel
theorem dX1_insert_89 : decode cX1_insert 89 = .ok (.iinc 6 1, 3) := by decide +kernel
theorem dX1_insert_92 : decode cX1_insert 92 = .ok (.goto (-12), 3) := by decide +kernel
theorem dX1_insert_95 : decode cX1_insert 95 = .ok (.aload_n 0, 1) := by decide +kernel
theorem dX1_insert_96 : decode cX1_insert 96 = .ok (.getfield 77, 3) := by decide +kernel
theorem dX1_insert_99 : decode cX1_insert 99 = .ok (.istore 7, 2) := by decide +kernel
theorem dX1_insert_101 : decode cX1_insert 101 = .ok (.iload 7, 2) := by decide +kernel
theorem dX1_insert_103 : decode cX1_insert 103 = .ok (.iload 4, 2) := by decide +kernel
theorem dX1_insert_105 : decode cX1_insert 105 = .ok (.if_icmp .le 25, 3) := by decide +kernel
theorem dX1_insert_108 : decode cX1_insert 108 = .ok (.aload_n 0, 1) := by decide +kernel
theorem dX1_insert_109 : decode cX1_insert 109 = .ok (.getfield 7, 3) := by decide +kernel
theorem dX1_insert_112 : decode cX1_insert 112 = .ok (.iload 7, 2) := by decide +kernel
theorem dX1_insert_114 : decode cX1_insert 114 = .ok (.aload_n 0, 1) := by decide +kernel
theorem dX1_insert_115 : decode cX1_insert 115 = .ok (.getfield 7, 3) := by decide +kernel
theorem dX1_insert_118 : decode cX1_insert 118 = .ok (.iload 7, 2) := by decide +kernel
theorem dX1_insert_120 : decode cX1_insert 120 = .ok (.iconst 1, 1) := by decide +kernel
theorem dX1_insert_121 : decode cX1_insert 121 = .ok (.isub, 1) := by decide +kernel
theorem dX1_insert_122 : decode cX1_insert 122 = .ok (.iaload, 1) := by decide +kernel
theorem dX1_insert_123 : decode cX1_insert 123 = .ok (.iastore, 1) := by decide +kernel
theorem dX1_insert_124 : decode cX1_insert 124 = .ok (.iinc 7 (-1), 3) := by decide +kernel
theorem dX1_insert_127 : decode cX1_insert 127 = .ok (.goto (-26), 3) := by decide +kernel
theorem dX1_insert_130 : decode cX1_insert 130 = .ok (.aload_n 0, 1) := by decide +kernel
theorem dX1_insert_131 : decode cX1_insert 131 = .ok (.getfield 7, 3) := by decide +kernel
theorem dX1_insert_134 : decode cX1_insert 134 = .ok (.iload 4, 2) := by decide +kernel
theorem dX1_insert_136 : decode cX1_insert 136 = .ok (.iload 6, 2) := by decide +kernel
theorem dX1_insert_138 : decode cX1_insert 138 = .ok (.iastore, 1) := by decide +kernel
theorem dX1_insert_139 : decode cX1_insert 139 = .ok (.aload_n 0, 1) := by decide +kernel
theorem dX1_insert_140 : decode cX1_insert 140 = .ok (.dup, 1) := by decide +kernel
theorem dX1_insert_141 : decode cX1_insert 141 = .ok (.getfield 77, 3) := by decide +kernel
theorem dX1_insert_144 : decode cX1_insert 144 = .ok (.iconst 1, 1) := by decide +kernel
theorem dX1_insert_145 : decode cX1_insert 145 = .ok (.iadd, 1) := by decide +kernel
theorem dX1_insert_146 : decode cX1_insert 146 = .ok (.putfield 77, 3) := by decide +kernel
theorem dX1_insert_149 : decode cX1_insert 149 = .ok (.aload_n 0, 1) := by decide +kernel
theorem dX1_insert_150 : decode cX1_insert 150 = .ok (.getfield 13, 3) := by decide +kernel
theorem dX1_insert_153 : decode cX1_insert 153 = .ok (.iload 6, 2) := by decide +kernel
theorem dX1_insert_155 : decode cX1_insert 155 = .ok (.iload 5, 2) := by decide +kernel
theorem dX1_insert_157 : decode cX1_insert 157 = .ok (.iastore, 1) := by decide +kernel
theorem dX1_insert_158 : decode cX1_insert 158 = .ok (.aload_n 0, 1) := by decide +kernel
theorem dX1_insert_159 : decode cX1_insert 159 = .ok (.getfield 16, 3) := by decide +kernel
theorem dX1_insert_162 : decode cX1_insert 162 = .ok (.iload 6, 2) := by decide +kernel
theorem dX1_insert_164 : decode cX1_insert 164 = .ok (.iload_n 3, 1) := by decide +kernel
theorem dX1_insert_165 : decode cX1_insert 165 = .ok (.iastore, 1) := by decide +kernel
theorem dX1_insert_166 : decode cX1_insert 166 = .ok (.aload_n 0, 1) := by decide +kernel
theorem dX1_insert_167 : decode cX1_insert 167 = .ok (.getfield 19, 3) := by decide +kernel
theorem dX1_insert_170 : decode cX1_insert 170 = .ok (.iload 6, 2) := by decide +kernel
theorem dX1_insert_172 : decode cX1_insert 172 = .ok (.iconst 0, 1) := by decide +kernel
theorem dX1_insert_173 : decode cX1_insert 173 = .ok (.iastore, 1) := by decide +kernel
theorem dX1_insert_174 : decode cX1_insert 174 = .ok (.aload_n 0, 1) := by decide +kernel
theorem dX1_insert_175 : decode cX1_insert 175 = .ok (.invokevirtual 96, 3) := by decide +kernel
theorem dX1_insert_178 : decode cX1_insert 178 = .ok (.iload 6, 2) := by decide +kernel
theorem dX1_insert_180 : decode cX1_insert 180 = .ok (.ireturn, 1) := by decide +kernel
abbrev cX1_in : ByteArray := prog_3_method_2_code
def yX1_in : MethodName := ⟨RX1, "in", "(III)Z"⟩
theorem dX1_in_0 : decode cX1_in 0 = .ok (.iload_n 0, 1) := by decide +kernel
theorem dX1_in_1 : decode cX1_in 1 = .ok (.iload_n 1, 1) := by decide +kernel
theorem dX1_in_2 : decode cX1_in 2 = .ok (.if_icmp .lt 12, 3) := by decide +kernel
theorem dX1_in_5 : decode cX1_in 5 = .ok (.iload_n 0, 1) := by decide +kernel
theorem dX1_in_6 : decode cX1_in 6 = .ok (.iload_n 2, 1) := by decide +kernel
theorem dX1_in_7 : decode cX1_in 7 = .ok (.if_icmp .gt 7, 3) := by decide +kernel
theorem dX1_in_10 : decode cX1_in 10 = .ok (.iconst 1, 1) := by decide +kernel
theorem dX1_in_11 : decode cX1_in 11 = .ok (.goto 4, 3) := by decide +kernel
theorem dX1_in_14 : decode cX1_in 14 = .ok (.iconst 0, 1) := by decide +kernel
theorem dX1_in_15 : decode cX1_in 15 = .ok (.ireturn, 1) := by decide +kernel
abbrev cX1_where : ByteArray := prog_3_method_4_code
def yX1_where : MethodName := ⟨RX1, "where", "(I)I"⟩
theorem dX1_where_0 : decode cX1_where 0 = .ok (.iconst 0, 1) := by decide +kernel
theorem dX1_where_1 : decode cX1_where 1 = .ok (.istore_n 2, 1) := by decide +kernel
theorem dX1_where_2 : decode cX1_where 2 = .ok (.iload_n 2, 1) := by decide +kernel
theorem dX1_where_3 : decode cX1_where 3 = .ok (.aload_n 0, 1) := by decide +kernel
theorem dX1_where_4 : decode cX1_where 4 = .ok (.getfield 77, 3) := by decide +kernel
theorem dX1_where_7 : decode cX1_where 7 = .ok (.if_icmp .ge 21, 3) := by decide +kernel
theorem dX1_where_10 : decode cX1_where 10 = .ok (.aload_n 0, 1) := by decide +kernel
theorem dX1_where_11 : decode cX1_where 11 = .ok (.getfield 7, 3) := by decide +kernel
theorem dX1_where_14 : decode cX1_where 14 = .ok (.iload_n 2, 1) := by decide +kernel
theorem dX1_where_15 : decode cX1_where 15 = .ok (.iaload, 1) := by decide +kernel
theorem dX1_where_16 : decode cX1_where 16 = .ok (.iload_n 1, 1) := by decide +kernel
theorem dX1_where_17 : decode cX1_where 17 = .ok (.if_icmp .ne 5, 3) := by decide +kernel
theorem dX1_where_20 : decode cX1_where 20 = .ok (.iload_n 2, 1) := by decide +kernel
theorem dX1_where_21 : decode cX1_where 21 = .ok (.ireturn, 1) := by decide +kernel
theorem dX1_where_22 : decode cX1_where 22 = .ok (.iinc 2 1, 3) := by decide +kernel
theorem dX1_where_25 : decode cX1_where 25 = .ok (.goto (-23), 3) := by decide +kernel
theorem dX1_where_28 : decode cX1_where 28 = .ok (.iconst (-1), 1) := by decide +kernel
theorem dX1_where_29 : decode cX1_where 29 = .ok (.ireturn, 1) := by decide +kernel
abbrev cX1_place : ByteArray := prog_3_method_8_code
def yX1_place : MethodName := ⟨RX1, "place", "(II)I"⟩
theorem dX1_place_0 : decode cX1_place 0 = .ok (.iload_n 1, 1) := by decide +kernel
theorem dX1_place_1 : decode cX1_place 1 = .ok (.iconst 1, 1) := by decide +kernel
theorem dX1_place_2 : decode cX1_place 2 = .ok (.iadd, 1) := by decide +kernel
theorem dX1_place_3 : decode cX1_place 3 = .ok (.istore_n 3, 1) := by decide +kernel
theorem dX1_place_4 : decode cX1_place 4 = .ok (.aload_n 0, 1) := by decide +kernel
theorem dX1_place_5 : decode cX1_place 5 = .ok (.iload_n 1, 1) := by decide +kernel
theorem dX1_place_6 : decode cX1_place 6 = .ok (.invokevirtual 85, 3) := by decide +kernel
theorem dX1_place_9 : decode cX1_place 9 = .ok (.istore 4, 2) := by decide +kernel
theorem dX1_place_11 : decode cX1_place 11 = .ok (.iconst 0, 1) := by decide +kernel
theorem dX1_place_12 : decode cX1_place 12 = .ok (.istore 5, 2) := by decide +kernel
theorem dX1_place_14 : decode cX1_place 14 = .ok (.iload 5, 2) := by decide +kernel
theorem dX1_place_16 : decode cX1_place 16 = .ok (.iload_n 2, 1) := by decide +kernel
theorem dX1_place_17 : decode cX1_place 17 = .ok (.if_icmp .ge 23, 3) := by decide +kernel
theorem dX1_place_20 : decode cX1_place 20 = .ok (.iload_n 3, 1) := by decide +kernel
theorem dX1_place_21 : decode cX1_place 21 = .ok (.iload 4, 2) := by decide +kernel
theorem dX1_place_23 : decode cX1_place 23 = .ok (.if_icmp .ne 5, 3) := by decide +kernel
theorem dX1_place_26 : decode cX1_place 26 = .ok (.iconst (-1), 1) := by decide +kernel
theorem dX1_place_27 : decode cX1_place 27 = .ok (.ireturn, 1) := by decide +kernel
theorem dX1_place_28 : decode cX1_place 28 = .ok (.aload_n 0, 1) := by decide +kernel
theorem dX1_place_29 : decode cX1_place 29 = .ok (.iload_n 3, 1) := by decide +kernel
theorem dX1_place_30 : decode cX1_place 30 = .ok (.invokevirtual 85, 3) := by decide +kernel
theorem dX1_place_33 : decode cX1_place 33 = .ok (.istore_n 3, 1) := by decide +kernel
theorem dX1_place_34 : decode cX1_place 34 = .ok (.iinc 5 1, 3) := by decide +kernel
theorem dX1_place_37 : decode cX1_place 37 = .ok (.goto (-23), 3) := by decide +kernel
theorem dX1_place_40 : decode cX1_place 40 = .ok (.iload_n 3, 1) := by decide +kernel
theorem dX1_place_41 : decode cX1_place 41 = .ok (.ireturn, 1) := by decide +kernel
abbrev cX1_behind : ByteArray := prog_3_method_5_code
def yX1_behind : MethodName := ⟨RX1, "behind", "(I)I"⟩
theorem dX1_behind_0 : decode cX1_behind 0 = .ok (.iload_n 1, 1) := by decide +kernel
theorem dX1_behind_1 : decode cX1_behind 1 = .ok (.iconst 1, 1) := by decide +kernel
theorem dX1_behind_2 : decode cX1_behind 2 = .ok (.iadd, 1) := by decide +kernel
theorem dX1_behind_3 : decode cX1_behind 3 = .ok (.istore_n 2, 1) := by decide +kernel
theorem dX1_behind_4 : decode cX1_behind 4 = .ok (.iload_n 2, 1) := by decide +kernel
theorem dX1_behind_5 : decode cX1_behind 5 = .ok (.aload_n 0, 1) := by decide +kernel
theorem dX1_behind_6 : decode cX1_behind 6 = .ok (.getfield 77, 3) := by decide +kernel
theorem dX1_behind_9 : decode cX1_behind 9 = .ok (.if_icmp .ge 34, 3) := by decide +kernel
theorem dX1_behind_12 : decode cX1_behind 12 = .ok (.aload_n 0, 1) := by decide +kernel
theorem dX1_behind_13 : decode cX1_behind 13 = .ok (.getfield 13, 3) := by decide +kernel
theorem dX1_behind_16 : decode cX1_behind 16 = .ok (.aload_n 0, 1) := by decide +kernel
theorem dX1_behind_17 : decode cX1_behind 17 = .ok (.getfield 7, 3) := by decide +kernel
theorem dX1_behind_20 : decode cX1_behind 20 = .ok (.iload_n 2, 1) := by decide +kernel
theorem dX1_behind_21 : decode cX1_behind 21 = .ok (.iaload, 1) := by decide +kernel
theorem dX1_behind_22 : decode cX1_behind 22 = .ok (.iaload, 1) := by decide +kernel
theorem dX1_behind_23 : decode cX1_behind 23 = .ok (.aload_n 0, 1) := by decide +kernel
theorem dX1_behind_24 : decode cX1_behind 24 = .ok (.getfield 13, 3) := by decide +kernel
theorem dX1_behind_27 : decode cX1_behind 27 = .ok (.aload_n 0, 1) := by decide +kernel
theorem dX1_behind_28 : decode cX1_behind 28 = .ok (.getfield 7, 3) := by decide +kernel
theorem dX1_behind_31 : decode cX1_behind 31 = .ok (.iload_n 1, 1) := by decide +kernel
theorem dX1_behind_32 : decode cX1_behind 32 = .ok (.iaload, 1) := by decide +kernel
theorem dX1_behind_33 : decode cX1_behind 33 = .ok (.iaload, 1) := by decide +kernel
theorem dX1_behind_34 : decode cX1_behind 34 = .ok (.if_icmp .le 9, 3) := by decide +kernel
theorem dX1_behind_37 : decode cX1_behind 37 = .ok (.iinc 2 1, 3) := by decide +kernel
theorem dX1_behind_40 : decode cX1_behind 40 = .ok (.goto (-36), 3) := by decide +kernel
theorem dX1_behind_43 : decode cX1_behind 43 = .ok (.iload_n 2, 1) := by decide +kernel
theorem dX1_behind_44 : decode cX1_behind 44 = .ok (.ireturn, 1) := by decide +kernel
abbrev cX1_changed : ByteArray := prog_3_method_3_code
def yX1_changed : MethodName := ⟨RX1, "changed", "()V"⟩
theorem dX1_changed_0 : decode cX1_changed 0 = .ok (.iconst 0, 1) := by decide +kernel
theorem dX1_changed_1 : decode cX1_changed 1 = .ok (.istore_n 1, 1) := by decide +kernel
theorem dX1_changed_2 : decode cX1_changed 2 = .ok (.iload_n 1, 1) := by decide +kernel
theorem dX1_changed_3 : decode cX1_changed 3 = .ok (.bipush 8, 2) := by decide +kernel
theorem dX1_changed_5 : decode cX1_changed 5 = .ok (.if_icmp .ge 16, 3) := by decide +kernel
theorem dX1_changed_8 : decode cX1_changed 8 = .ok (.aload_n 0, 1) := by decide +kernel
theorem dX1_changed_9 : decode cX1_changed 9 = .ok (.getfield 37, 3) := by decide +kernel
theorem dX1_changed_12 : decode cX1_changed 12 = .ok (.iload_n 1, 1) := by decide +kernel
theorem dX1_changed_13 : decode cX1_changed 13 = .ok (.iconst 0, 1) := by decide +kernel
theorem dX1_changed_14 : decode cX1_changed 14 = .ok (.bastore, 1) := by decide +kernel
theorem dX1_changed_15 : decode cX1_changed 15 = .ok (.iinc 1 1, 3) := by decide +kernel
theorem dX1_changed_18 : decode cX1_changed 18 = .ok (.goto (-16), 3) := by decide +kernel
theorem dX1_changed_21 : decode cX1_changed 21 = .ok (.return_, 1) := by decide +kernel
abbrev cX1_remove : ByteArray := prog_3_method_10_code
def yX1_remove : MethodName := ⟨RX1, "remove", "(I)I"⟩
theorem dX1_remove_0 : decode cX1_remove 0 = .ok (.aload_n 0, 1) := by decide +kernel
theorem dX1_remove_1 : decode cX1_remove 1 = .ok (.iload_n 1, 1) := by decide +kernel
theorem dX1_remove_2 : decode cX1_remove 2 = .ok (.invokevirtual 81, 3) := by decide +kernel
theorem dX1_remove_5 : decode cX1_remove 5 = .ok (.istore_n 2, 1) := by decide +kernel
theorem dX1_remove_6 : decode cX1_remove 6 = .ok (.iload_n 2, 1) := by decide +kernel
theorem dX1_remove_7 : decode cX1_remove 7 = .ok (.ifCond .ge 5, 3) := by decide +kernel
theorem dX1_remove_10 : decode cX1_remove 10 = .ok (.iconst (-1), 1) := by decide +kernel
theorem dX1_remove_11 : decode cX1_remove 11 = .ok (.ireturn, 1) := by decide +kernel
theorem dX1_remove_12 : decode cX1_remove 12 = .ok (.aload_n 0, 1) := by decide +kernel
theorem dX1_remove_13 : decode cX1_remove 13 = .ok (.iload_n 2, 1) := by decide +kernel
theorem dX1_remove_14 : decode cX1_remove 14 = .ok (.invokevirtual 85, 3) := by decide +kernel
theorem dX1_remove_17 : decode cX1_remove 17 = .ok (.iload_n 2, 1) := by decide +kernel
theorem dX1_remove_18 : decode cX1_remove 18 = .ok (.isub, 1) := by decide +kernel
theorem dX1_remove_19 : decode cX1_remove 19 = .ok (.istore_n 3, 1) := by decide +kernel
theorem dX1_remove_20 : decode cX1_remove 20 = .ok (.aload_n 0, 1) := by decide +kernel
theorem dX1_remove_21 : decode cX1_remove 21 = .ok (.dup, 1) := by decide +kernel
theorem dX1_remove_22 : decode cX1_remove 22 = .ok (.getfield 77, 3) := by decide +kernel
theorem dX1_remove_25 : decode cX1_remove 25 = .ok (.iload_n 3, 1) := by decide +kernel
theorem dX1_remove_26 : decode cX1_remove 26 = .ok (.isub, 1) := by decide +kernel
theorem dX1_remove_27 : decode cX1_remove 27 = .ok (.putfield 77, 3) := by decide +kernel
theorem dX1_remove_30 : decode cX1_remove 30 = .ok (.iload_n 2, 1) := by decide +kernel
theorem dX1_remove_31 : decode cX1_remove 31 = .ok (.istore 4, 2) := by decide +kernel
theorem dX1_remove_33 : decode cX1_remove 33 = .ok (.iload 4, 2) := by decide +kernel
theorem dX1_remove_35 : decode cX1_remove 35 = .ok (.aload_n 0, 1) := by decide +kernel
theorem dX1_remove_36 : decode cX1_remove 36 = .ok (.getfield 77, 3) := by decide +kernel
theorem dX1_remove_39 : decode cX1_remove 39 = .ok (.if_icmp .ge 25, 3) := by decide +kernel
theorem dX1_remove_42 : decode cX1_remove 42 = .ok (.aload_n 0, 1) := by decide +kernel
theorem dX1_remove_43 : decode cX1_remove 43 = .ok (.getfield 7, 3) := by decide +kernel
theorem dX1_remove_46 : decode cX1_remove 46 = .ok (.iload 4, 2) := by decide +kernel
theorem dX1_remove_48 : decode cX1_remove 48 = .ok (.aload_n 0, 1) := by decide +kernel
theorem dX1_remove_49 : decode cX1_remove 49 = .ok (.getfield 7, 3) := by decide +kernel
theorem dX1_remove_52 : decode cX1_remove 52 = .ok (.iload 4, 2) := by decide +kernel
theorem dX1_remove_54 : decode cX1_remove 54 = .ok (.iload_n 3, 1) := by decide +kernel
theorem dX1_remove_55 : decode cX1_remove 55 = .ok (.iadd, 1) := by decide +kernel
theorem dX1_remove_56 : decode cX1_remove 56 = .ok (.iaload, 1) := by decide +kernel
theorem dX1_remove_57 : decode cX1_remove 57 = .ok (.iastore, 1) := by decide +kernel
theorem dX1_remove_58 : decode cX1_remove 58 = .ok (.iinc 4 1, 3) := by decide +kernel
theorem dX1_remove_61 : decode cX1_remove 61 = .ok (.goto (-28), 3) := by decide +kernel
theorem dX1_remove_64 : decode cX1_remove 64 = .ok (.aload_n 0, 1) := by decide +kernel
theorem dX1_remove_65 : decode cX1_remove 65 = .ok (.invokevirtual 96, 3) := by decide +kernel
theorem dX1_remove_68 : decode cX1_remove 68 = .ok (.iload_n 3, 1) := by decide +kernel
theorem dX1_remove_69 : decode cX1_remove 69 = .ok (.ireturn, 1) := by decide +kernel
abbrev cX1_move : ByteArray := prog_3_method_11_code
def yX1_move : MethodName := ⟨RX1, "move", "(III)Z"⟩
theorem dX1_move_0 : decode cX1_move 0 = .ok (.aload_n 0, 1) := by decide +kernel
theorem dX1_move_1 : decode cX1_move 1 = .ok (.iload_n 1, 1) := by decide +kernel
theorem dX1_move_2 : decode cX1_move 2 = .ok (.invokevirtual 81, 3) := by decide +kernel
theorem dX1_move_5 : decode cX1_move 5 = .ok (.istore 4, 2) := by decide +kernel
theorem dX1_move_7 : decode cX1_move 7 = .ok (.iload 4, 2) := by decide +kernel
theorem dX1_move_9 : decode cX1_move 9 = .ok (.ifCond .lt 29, 3) := by decide +kernel
theorem dX1_move_12 : decode cX1_move 12 = .ok (.aload_n 0, 1) := by decide +kernel
theorem dX1_move_13 : decode cX1_move 13 = .ok (.iload_n 2, 1) := by decide +kernel
theorem dX1_move_14 : decode cX1_move 14 = .ok (.invokevirtual 81, 3) := by decide +kernel
theorem dX1_move_17 : decode cX1_move 17 = .ok (.ifCond .lt 21, 3) := by decide +kernel
theorem dX1_move_20 : decode cX1_move 20 = .ok (.iload_n 1, 1) := by decide +kernel
theorem dX1_move_21 : decode cX1_move 21 = .ok (.iload_n 2, 1) := by decide +kernel
theorem dX1_move_22 : decode cX1_move 22 = .ok (.if_icmp .eq 16, 3) := by decide +kernel
theorem dX1_move_25 : decode cX1_move 25 = .ok (.aload_n 0, 1) := by decide +kernel
theorem dX1_move_26 : decode cX1_move 26 = .ok (.iload_n 2, 1) := by decide +kernel
theorem dX1_move_27 : decode cX1_move 27 = .ok (.iload_n 1, 1) := by decide +kernel
theorem dX1_move_28 : decode cX1_move 28 = .ok (.invokevirtual 99, 3) := by decide +kernel
theorem dX1_move_31 : decode cX1_move 31 = .ok (.ifCond .ne 7, 3) := by decide +kernel
theorem dX1_move_34 : decode cX1_move 34 = .ok (.iload_n 3, 1) := by decide +kernel
theorem dX1_move_35 : decode cX1_move 35 = .ok (.ifCond .ge 5, 3) := by decide +kernel
theorem dX1_move_38 : decode cX1_move 38 = .ok (.iconst 0, 1) := by decide +kernel
theorem dX1_move_39 : decode cX1_move 39 = .ok (.ireturn, 1) := by decide +kernel
theorem dX1_move_40 : decode cX1_move 40 = .ok (.aload_n 0, 1) := by decide +kernel
theorem dX1_move_41 : decode cX1_move 41 = .ok (.iload 4, 2) := by decide +kernel
theorem dX1_move_43 : decode cX1_move 43 = .ok (.invokevirtual 85, 3) := by decide +kernel
theorem dX1_move_46 : decode cX1_move 46 = .ok (.iload 4, 2) := by decide +kernel
theorem dX1_move_48 : decode cX1_move 48 = .ok (.isub, 1) := by decide +kernel
theorem dX1_move_49 : decode cX1_move 49 = .ok (.istore 5, 2) := by decide +kernel
theorem dX1_move_51 : decode cX1_move 51 = .ok (.iconst 0, 1) := by decide +kernel
theorem dX1_move_52 : decode cX1_move 52 = .ok (.istore 6, 2) := by decide +kernel
theorem dX1_move_54 : decode cX1_move 54 = .ok (.iload 6, 2) := by decide +kernel
theorem dX1_move_56 : decode cX1_move 56 = .ok (.iload 5, 2) := by decide +kernel
theorem dX1_move_58 : decode cX1_move 58 = .ok (.if_icmp .ge 26, 3) := by decide +kernel
theorem dX1_move_61 : decode cX1_move 61 = .ok (.aload_n 0, 1) := by decide +kernel
theorem dX1_move_62 : decode cX1_move 62 = .ok (.getfield 22, 3) := by decide +kernel
theorem dX1_move_65 : decode cX1_move 65 = .ok (.iload 6, 2) := by decide +kernel
theorem dX1_move_67 : decode cX1_move 67 = .ok (.aload_n 0, 1) := by decide +kernel
theorem dX1_move_68 : decode cX1_move 68 = .ok (.getfield 7, 3) := by decide +kernel
theorem dX1_move_71 : decode cX1_move 71 = .ok (.iload 4, 2) := by decide +kernel
theorem dX1_move_73 : decode cX1_move 73 = .ok (.iload 6, 2) := by decide +kernel
theorem dX1_move_75 : decode cX1_move 75 = .ok (.iadd, 1) := by decide +kernel
theorem dX1_move_76 : decode cX1_move 76 = .ok (.iaload, 1) := by decide +kernel
theorem dX1_move_77 : decode cX1_move 77 = .ok (.iastore, 1) := by decide +kernel
theorem dX1_move_78 : decode cX1_move 78 = .ok (.iinc 6 1, 3) := by decide +kernel
theorem dX1_move_81 : decode cX1_move 81 = .ok (.goto (-27), 3) := by decide +kernel
theorem dX1_move_84 : decode cX1_move 84 = .ok (.aload_n 0, 1) := by decide +kernel
theorem dX1_move_85 : decode cX1_move 85 = .ok (.dup, 1) := by decide +kernel
theorem dX1_move_86 : decode cX1_move 86 = .ok (.getfield 77, 3) := by decide +kernel
theorem dX1_move_89 : decode cX1_move 89 = .ok (.iload 5, 2) := by decide +kernel
theorem dX1_move_91 : decode cX1_move 91 = .ok (.isub, 1) := by decide +kernel
theorem dX1_move_92 : decode cX1_move 92 = .ok (.putfield 77, 3) := by decide +kernel
theorem dX1_move_95 : decode cX1_move 95 = .ok (.iload 4, 2) := by decide +kernel
theorem dX1_move_97 : decode cX1_move 97 = .ok (.istore 6, 2) := by decide +kernel
theorem dX1_move_99 : decode cX1_move 99 = .ok (.iload 6, 2) := by decide +kernel
theorem dX1_move_101 : decode cX1_move 101 = .ok (.aload_n 0, 1) := by decide +kernel
theorem dX1_move_102 : decode cX1_move 102 = .ok (.getfield 77, 3) := by decide +kernel
theorem dX1_move_105 : decode cX1_move 105 = .ok (.if_icmp .ge 26, 3) := by decide +kernel
theorem dX1_move_108 : decode cX1_move 108 = .ok (.aload_n 0, 1) := by decide +kernel
theorem dX1_move_109 : decode cX1_move 109 = .ok (.getfield 7, 3) := by decide +kernel
theorem dX1_move_112 : decode cX1_move 112 = .ok (.iload 6, 2) := by decide +kernel
theorem dX1_move_114 : decode cX1_move 114 = .ok (.aload_n 0, 1) := by decide +kernel
theorem dX1_move_115 : decode cX1_move 115 = .ok (.getfield 7, 3) := by decide +kernel
theorem dX1_move_118 : decode cX1_move 118 = .ok (.iload 6, 2) := by decide +kernel
theorem dX1_move_120 : decode cX1_move 120 = .ok (.iload 5, 2) := by decide +kernel
theorem dX1_move_122 : decode cX1_move 122 = .ok (.iadd, 1) := by decide +kernel
theorem dX1_move_123 : decode cX1_move 123 = .ok (.iaload, 1) := by decide +kernel
theorem dX1_move_124 : decode cX1_move 124 = .ok (.iastore, 1) := by decide +kernel
theorem dX1_move_125 : decode cX1_move 125 = .ok (.iinc 6 1, 3) := by decide +kernel
theorem dX1_move_128 : decode cX1_move 128 = .ok (.goto (-29), 3) := by decide +kernel
theorem dX1_move_131 : decode cX1_move 131 = .ok (.aload_n 0, 1) := by decide +kernel
theorem dX1_move_132 : decode cX1_move 132 = .ok (.iload_n 2, 1) := by decide +kernel
theorem dX1_move_133 : decode cX1_move 133 = .ok (.invokevirtual 81, 3) := by decide +kernel
theorem dX1_move_136 : decode cX1_move 136 = .ok (.istore 6, 2) := by decide +kernel
theorem dX1_move_138 : decode cX1_move 138 = .ok (.aload_n 0, 1) := by decide +kernel
theorem dX1_move_139 : decode cX1_move 139 = .ok (.iload 6, 2) := by decide +kernel
theorem dX1_move_141 : decode cX1_move 141 = .ok (.iload_n 3, 1) := by decide +kernel
theorem dX1_move_142 : decode cX1_move 142 = .ok (.invokevirtual 92, 3) := by decide +kernel
theorem dX1_move_145 : decode cX1_move 145 = .ok (.istore 7, 2) := by decide +kernel
theorem dX1_move_147 : decode cX1_move 147 = .ok (.iload 7, 2) := by decide +kernel
theorem dX1_move_149 : decode cX1_move 149 = .ok (.ifCond .lt 7, 3) := by decide +kernel
theorem dX1_move_152 : decode cX1_move 152 = .ok (.iconst 1, 1) := by decide +kernel
theorem dX1_move_153 : decode cX1_move 153 = .ok (.goto 4, 3) := by decide +kernel
theorem dX1_move_156 : decode cX1_move 156 = .ok (.iconst 0, 1) := by decide +kernel
theorem dX1_move_157 : decode cX1_move 157 = .ok (.istore 8, 2) := by decide +kernel
theorem dX1_move_159 : decode cX1_move 159 = .ok (.iload 8, 2) := by decide +kernel
theorem dX1_move_161 : decode cX1_move 161 = .ok (.ifCond .ne 7, 3) := by decide +kernel
theorem dX1_move_164 : decode cX1_move 164 = .ok (.iload 4, 2) := by decide +kernel
theorem dX1_move_166 : decode cX1_move 166 = .ok (.istore 7, 2) := by decide +kernel
theorem dX1_move_168 : decode cX1_move 168 = .ok (.aload_n 0, 1) := by decide +kernel
theorem dX1_move_169 : decode cX1_move 169 = .ok (.getfield 77, 3) := by decide +kernel
theorem dX1_move_172 : decode cX1_move 172 = .ok (.iconst 1, 1) := by decide +kernel
theorem dX1_move_173 : decode cX1_move 173 = .ok (.isub, 1) := by decide +kernel
theorem dX1_move_174 : decode cX1_move 174 = .ok (.istore 9, 2) := by decide +kernel
theorem dX1_move_176 : decode cX1_move 176 = .ok (.iload 9, 2) := by decide +kernel
theorem dX1_move_178 : decode cX1_move 178 = .ok (.iload 7, 2) := by decide +kernel
theorem dX1_move_180 : decode cX1_move 180 = .ok (.if_icmp .lt 26, 3) := by decide +kernel
theorem dX1_move_183 : decode cX1_move 183 = .ok (.aload_n 0, 1) := by decide +kernel
theorem dX1_move_184 : decode cX1_move 184 = .ok (.getfield 7, 3) := by decide +kernel
theorem dX1_move_187 : decode cX1_move 187 = .ok (.iload 9, 2) := by decide +kernel
theorem dX1_move_189 : decode cX1_move 189 = .ok (.iload 5, 2) := by decide +kernel
theorem dX1_move_191 : decode cX1_move 191 = .ok (.iadd, 1) := by decide +kernel
theorem dX1_move_192 : decode cX1_move 192 = .ok (.aload_n 0, 1) := by decide +kernel
theorem dX1_move_193 : decode cX1_move 193 = .ok (.getfield 7, 3) := by decide +kernel
theorem dX1_move_196 : decode cX1_move 196 = .ok (.iload 9, 2) := by decide +kernel
theorem dX1_move_198 : decode cX1_move 198 = .ok (.iaload, 1) := by decide +kernel
theorem dX1_move_199 : decode cX1_move 199 = .ok (.iastore, 1) := by decide +kernel
theorem dX1_move_200 : decode cX1_move 200 = .ok (.iinc 9 (-1), 3) := by decide +kernel
theorem dX1_move_203 : decode cX1_move 203 = .ok (.goto (-27), 3) := by decide +kernel
theorem dX1_move_206 : decode cX1_move 206 = .ok (.aload_n 0, 1) := by decide +kernel
theorem dX1_move_207 : decode cX1_move 207 = .ok (.dup, 1) := by decide +kernel
theorem dX1_move_208 : decode cX1_move 208 = .ok (.getfield 77, 3) := by decide +kernel
theorem dX1_move_211 : decode cX1_move 211 = .ok (.iload 5, 2) := by decide +kernel
theorem dX1_move_213 : decode cX1_move 213 = .ok (.iadd, 1) := by decide +kernel
theorem dX1_move_214 : decode cX1_move 214 = .ok (.putfield 77, 3) := by decide +kernel
theorem dX1_move_217 : decode cX1_move 217 = .ok (.iload 8, 2) := by decide +kernel
theorem dX1_move_219 : decode cX1_move 219 = .ok (.ifCond .eq 21, 3) := by decide +kernel
theorem dX1_move_222 : decode cX1_move 222 = .ok (.aload_n 0, 1) := by decide +kernel
theorem dX1_move_223 : decode cX1_move 223 = .ok (.getfield 13, 3) := by decide +kernel
theorem dX1_move_226 : decode cX1_move 226 = .ok (.iload_n 2, 1) := by decide +kernel
theorem dX1_move_227 : decode cX1_move 227 = .ok (.iaload, 1) := by decide +kernel
theorem dX1_move_228 : decode cX1_move 228 = .ok (.iconst 1, 1) := by decide +kernel
theorem dX1_move_229 : decode cX1_move 229 = .ok (.iadd, 1) := by decide +kernel
theorem dX1_move_230 : decode cX1_move 230 = .ok (.aload_n 0, 1) := by decide +kernel
theorem dX1_move_231 : decode cX1_move 231 = .ok (.getfield 13, 3) := by decide +kernel
theorem dX1_move_234 : decode cX1_move 234 = .ok (.iload_n 1, 1) := by decide +kernel
theorem dX1_move_235 : decode cX1_move 235 = .ok (.iaload, 1) := by decide +kernel
theorem dX1_move_236 : decode cX1_move 236 = .ok (.isub, 1) := by decide +kernel
theorem dX1_move_237 : decode cX1_move 237 = .ok (.goto 4, 3) := by decide +kernel
theorem dX1_move_240 : decode cX1_move 240 = .ok (.iconst 0, 1) := by decide +kernel
theorem dX1_move_241 : decode cX1_move 241 = .ok (.istore 9, 2) := by decide +kernel
theorem dX1_move_243 : decode cX1_move 243 = .ok (.iconst 0, 1) := by decide +kernel
theorem dX1_move_244 : decode cX1_move 244 = .ok (.istore 10, 2) := by decide +kernel
theorem dX1_move_246 : decode cX1_move 246 = .ok (.iload 10, 2) := by decide +kernel
theorem dX1_move_248 : decode cX1_move 248 = .ok (.iload 5, 2) := by decide +kernel
theorem dX1_move_250 : decode cX1_move 250 = .ok (.if_icmp .ge 43, 3) := by decide +kernel
theorem dX1_move_253 : decode cX1_move 253 = .ok (.aload_n 0, 1) := by decide +kernel
theorem dX1_move_254 : decode cX1_move 254 = .ok (.getfield 7, 3) := by decide +kernel
theorem dX1_move_257 : decode cX1_move 257 = .ok (.iload 7, 2) := by decide +kernel
theorem dX1_move_259 : decode cX1_move 259 = .ok (.iload 10, 2) := by decide +kernel
theorem dX1_move_261 : decode cX1_move 261 = .ok (.iadd, 1) := by decide +kernel
theorem dX1_move_262 : decode cX1_move 262 = .ok (.aload_n 0, 1) := by decide +kernel
theorem dX1_move_263 : decode cX1_move 263 = .ok (.getfield 22, 3) := by decide +kernel
theorem dX1_move_266 : decode cX1_move 266 = .ok (.iload 10, 2) := by decide +kernel
theorem dX1_move_268 : decode cX1_move 268 = .ok (.iaload, 1) := by decide +kernel
theorem dX1_move_269 : decode cX1_move 269 = .ok (.iastore, 1) := by decide +kernel
theorem dX1_move_270 : decode cX1_move 270 = .ok (.aload_n 0, 1) := by decide +kernel
theorem dX1_move_271 : decode cX1_move 271 = .ok (.getfield 13, 3) := by decide +kernel
theorem dX1_move_274 : decode cX1_move 274 = .ok (.aload_n 0, 1) := by decide +kernel
theorem dX1_move_275 : decode cX1_move 275 = .ok (.getfield 22, 3) := by decide +kernel
theorem dX1_move_278 : decode cX1_move 278 = .ok (.iload 10, 2) := by decide +kernel
theorem dX1_move_280 : decode cX1_move 280 = .ok (.iaload, 1) := by decide +kernel
theorem dX1_move_281 : decode cX1_move 281 = .ok (.dup2, 1) := by decide +kernel
theorem dX1_move_282 : decode cX1_move 282 = .ok (.iaload, 1) := by decide +kernel
theorem dX1_move_283 : decode cX1_move 283 = .ok (.iload 9, 2) := by decide +kernel
theorem dX1_move_285 : decode cX1_move 285 = .ok (.iadd, 1) := by decide +kernel
theorem dX1_move_286 : decode cX1_move 286 = .ok (.iastore, 1) := by decide +kernel
theorem dX1_move_287 : decode cX1_move 287 = .ok (.iinc 10 1, 3) := by decide +kernel
theorem dX1_move_290 : decode cX1_move 290 = .ok (.goto (-44), 3) := by decide +kernel
theorem dX1_move_293 : decode cX1_move 293 = .ok (.aload_n 0, 1) := by decide +kernel
theorem dX1_move_294 : decode cX1_move 294 = .ok (.invokevirtual 96, 3) := by decide +kernel
theorem dX1_move_297 : decode cX1_move 297 = .ok (.iload 8, 2) := by decide +kernel
theorem dX1_move_299 : decode cX1_move 299 = .ok (.ireturn, 1) := by decide +kernel
abbrev cX1_isBelow : ByteArray := prog_3_method_6_code
def yX1_isBelow : MethodName := ⟨RX1, "isBelow", "(II)Z"⟩
theorem dX1_isBelow_0 : decode cX1_isBelow 0 = .ok (.aload_n 0, 1) := by decide +kernel
theorem dX1_isBelow_1 : decode cX1_isBelow 1 = .ok (.iload_n 2, 1) := by decide +kernel
theorem dX1_isBelow_2 : decode cX1_isBelow 2 = .ok (.invokevirtual 81, 3) := by decide +kernel
theorem dX1_isBelow_5 : decode cX1_isBelow 5 = .ok (.istore_n 3, 1) := by decide +kernel
theorem dX1_isBelow_6 : decode cX1_isBelow 6 = .ok (.aload_n 0, 1) := by decide +kernel
theorem dX1_isBelow_7 : decode cX1_isBelow 7 = .ok (.iload_n 1, 1) := by decide +kernel
theorem dX1_isBelow_8 : decode cX1_isBelow 8 = .ok (.invokevirtual 81, 3) := by decide +kernel
theorem dX1_isBelow_11 : decode cX1_isBelow 11 = .ok (.istore 4, 2) := by decide +kernel
theorem dX1_isBelow_13 : decode cX1_isBelow 13 = .ok (.iload 4, 2) := by decide +kernel
theorem dX1_isBelow_15 : decode cX1_isBelow 15 = .ok (.iload_n 3, 1) := by decide +kernel
theorem dX1_isBelow_16 : decode cX1_isBelow 16 = .ok (.if_icmp .le 17, 3) := by decide +kernel
theorem dX1_isBelow_19 : decode cX1_isBelow 19 = .ok (.iload 4, 2) := by decide +kernel
theorem dX1_isBelow_21 : decode cX1_isBelow 21 = .ok (.aload_n 0, 1) := by decide +kernel
theorem dX1_isBelow_22 : decode cX1_isBelow 22 = .ok (.iload_n 3, 1) := by decide +kernel
theorem dX1_isBelow_23 : decode cX1_isBelow 23 = .ok (.invokevirtual 85, 3) := by decide +kernel
theorem dX1_isBelow_26 : decode cX1_isBelow 26 = .ok (.if_icmp .ge 7, 3) := by decide +kernel
theorem dX1_isBelow_29 : decode cX1_isBelow 29 = .ok (.iconst 1, 1) := by decide +kernel
theorem dX1_isBelow_30 : decode cX1_isBelow 30 = .ok (.goto 4, 3) := by decide +kernel
theorem dX1_isBelow_33 : decode cX1_isBelow 33 = .ok (.iconst 0, 1) := by decide +kernel
theorem dX1_isBelow_34 : decode cX1_isBelow 34 = .ok (.ireturn, 1) := by decide +kernel
abbrev cX1_change : ByteArray := prog_3_method_12_code
def yX1_change : MethodName := ⟨RX1, "change", "(III)Z"⟩
theorem dX1_change_0 : decode cX1_change 0 = .ok (.aload_n 0, 1) := by decide +kernel
theorem dX1_change_1 : decode cX1_change 1 = .ok (.iload_n 1, 1) := by decide +kernel
theorem dX1_change_2 : decode cX1_change 2 = .ok (.invokevirtual 81, 3) := by decide +kernel
theorem dX1_change_5 : decode cX1_change 5 = .ok (.ifCond .lt 12, 3) := by decide +kernel
theorem dX1_change_8 : decode cX1_change 8 = .ok (.iload_n 2, 1) := by decide +kernel
theorem dX1_change_9 : decode cX1_change 9 = .ok (.iconst 0, 1) := by decide +kernel
theorem dX1_change_10 : decode cX1_change 10 = .ok (.iconst 5, 1) := by decide +kernel
theorem dX1_change_11 : decode cX1_change 11 = .ok (.invokestatic 88, 3) := by decide +kernel
theorem dX1_change_14 : decode cX1_change 14 = .ok (.ifCond .ne 5, 3) := by decide +kernel
theorem dX1_change_17 : decode cX1_change 17 = .ok (.iconst 0, 1) := by decide +kernel
theorem dX1_change_18 : decode cX1_change 18 = .ok (.ireturn, 1) := by decide +kernel
theorem dX1_change_19 : decode cX1_change 19 = .ok (.aload_n 0, 1) := by decide +kernel
theorem dX1_change_20 : decode cX1_change 20 = .ok (.getfield 16, 3) := by decide +kernel
theorem dX1_change_23 : decode cX1_change 23 = .ok (.iload_n 1, 1) := by decide +kernel
theorem dX1_change_24 : decode cX1_change 24 = .ok (.iload_n 2, 1) := by decide +kernel
theorem dX1_change_25 : decode cX1_change 25 = .ok (.iastore, 1) := by decide +kernel
theorem dX1_change_26 : decode cX1_change 26 = .ok (.aload_n 0, 1) := by decide +kernel
theorem dX1_change_27 : decode cX1_change 27 = .ok (.getfield 19, 3) := by decide +kernel
theorem dX1_change_30 : decode cX1_change 30 = .ok (.iload_n 1, 1) := by decide +kernel
theorem dX1_change_31 : decode cX1_change 31 = .ok (.iload_n 3, 1) := by decide +kernel
theorem dX1_change_32 : decode cX1_change 32 = .ok (.iastore, 1) := by decide +kernel
theorem dX1_change_33 : decode cX1_change 33 = .ok (.aload_n 0, 1) := by decide +kernel
theorem dX1_change_34 : decode cX1_change 34 = .ok (.invokevirtual 96, 3) := by decide +kernel
theorem dX1_change_37 : decode cX1_change 37 = .ok (.iconst 1, 1) := by decide +kernel
theorem dX1_change_38 : decode cX1_change 38 = .ok (.ireturn, 1) := by decide +kernel
abbrev cX1_child : ByteArray := prog_3_method_13_code
def yX1_child : MethodName := ⟨RX1, "child", "(II)I"⟩
theorem dX1_child_0 : decode cX1_child 0 = .ok (.aload_n 0, 1) := by decide +kernel
theorem dX1_child_1 : decode cX1_child 1 = .ok (.iload_n 1, 1) := by decide +kernel
theorem dX1_child_2 : decode cX1_child 2 = .ok (.invokevirtual 81, 3) := by decide +kernel
theorem dX1_child_5 : decode cX1_child 5 = .ok (.istore_n 3, 1) := by decide +kernel
theorem dX1_child_6 : decode cX1_child 6 = .ok (.iload_n 3, 1) := by decide +kernel
theorem dX1_child_7 : decode cX1_child 7 = .ok (.ifCond .lt 7, 3) := by decide +kernel
theorem dX1_child_10 : decode cX1_child 10 = .ok (.iload_n 2, 1) := by decide +kernel
theorem dX1_child_11 : decode cX1_child 11 = .ok (.ifCond .ge 5, 3) := by decide +kernel
theorem dX1_child_14 : decode cX1_child 14 = .ok (.iconst (-1), 1) := by decide +kernel
theorem dX1_child_15 : decode cX1_child 15 = .ok (.ireturn, 1) := by decide +kernel
theorem dX1_child_16 : decode cX1_child 16 = .ok (.aload_n 0, 1) := by decide +kernel
theorem dX1_child_17 : decode cX1_child 17 = .ok (.iload_n 3, 1) := by decide +kernel
theorem dX1_child_18 : decode cX1_child 18 = .ok (.iload_n 2, 1) := by decide +kernel
theorem dX1_child_19 : decode cX1_child 19 = .ok (.invokevirtual 92, 3) := by decide +kernel
theorem dX1_child_22 : decode cX1_child 22 = .ok (.istore 4, 2) := by decide +kernel
theorem dX1_child_24 : decode cX1_child 24 = .ok (.iload 4, 2) := by decide +kernel
theorem dX1_child_26 : decode cX1_child 26 = .ok (.ifCond .lt 13, 3) := by decide +kernel
theorem dX1_child_29 : decode cX1_child 29 = .ok (.iload 4, 2) := by decide +kernel
theorem dX1_child_31 : decode cX1_child 31 = .ok (.aload_n 0, 1) := by decide +kernel
theorem dX1_child_32 : decode cX1_child 32 = .ok (.iload_n 3, 1) := by decide +kernel
theorem dX1_child_33 : decode cX1_child 33 = .ok (.invokevirtual 85, 3) := by decide +kernel
theorem dX1_child_36 : decode cX1_child 36 = .ok (.if_icmp .ne 7, 3) := by decide +kernel
theorem dX1_child_39 : decode cX1_child 39 = .ok (.iconst (-1), 1) := by decide +kernel
theorem dX1_child_40 : decode cX1_child 40 = .ok (.goto 10, 3) := by decide +kernel
theorem dX1_child_43 : decode cX1_child 43 = .ok (.aload_n 0, 1) := by decide +kernel
theorem dX1_child_44 : decode cX1_child 44 = .ok (.getfield 7, 3) := by decide +kernel
