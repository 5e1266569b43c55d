set_option maxRecDepth 100000
theorem dX0_bits_4 : decode cX0_bits 4 = .ok (.iload_n 2, 1) := by decide +kernel
theorem dX0_bits_5 : decode cX0_bits 5 = .ok (.ifCond .eq 15, 3) := by decide +kernel
theorem dX0_bits_8 : decode cX0_bits 8 = .ok (.iinc 1 1, 3) := by decide +kernel
theorem dX0_bits_11 : decode cX0_bits 11 = .ok (.iload_n 2, 1) := by decide +kernel
theorem dX0_bits_12 : decode cX0_bits 12 = .ok (.iload_n 2, 1) := by decide +kernel
theorem dX0_bits_13 : decode cX0_bits 13 = .ok (.iconst 1, 1) := by decide +kernel
theorem dX0_bits_14 : decode cX0_bits 14 = .ok (.isub, 1) := by decide +kernel
theorem dX0_bits_15 : decode cX0_bits 15 = .ok (.iand, 1) := by decide +kernel
theorem dX0_bits_16 : decode cX0_bits 16 = .ok (.istore_n 2, 1) := by decide +kernel
theorem dX0_bits_17 : decode cX0_bits 17 = .ok (.goto (-13), 3) := by decide +kernel
theorem dX0_bits_20 : decode cX0_bits 20 = .ok (.iload_n 1, 1) := by decide +kernel
theorem dX0_bits_21 : decode cX0_bits 21 = .ok (.ireturn, 1) := by decide +kernel
abbrev cX0_highest : ByteArray := prog_1_method_23_code
def yX0_highest : MethodName := ⟨RX0, "highest", "(I)I"⟩
theorem dX0_highest_0 : decode cX0_highest 0 = .ok (.bipush 23, 2) := by decide +kernel
theorem dX0_highest_2 : decode cX0_highest 2 = .ok (.istore_n 1, 1) := by decide +kernel
theorem dX0_highest_3 : decode cX0_highest 3 = .ok (.iload_n 0, 1) := by decide +kernel
theorem dX0_highest_4 : decode cX0_highest 4 = .ok (.iload_n 1, 1) := by decide +kernel
theorem dX0_highest_5 : decode cX0_highest 5 = .ok (.ishr, 1) := by decide +kernel
theorem dX0_highest_6 : decode cX0_highest 6 = .ok (.iconst 1, 1) := by decide +kernel
theorem dX0_highest_7 : decode cX0_highest 7 = .ok (.iand, 1) := by decide +kernel
theorem dX0_highest_8 : decode cX0_highest 8 = .ok (.ifCond .ne 9, 3) := by decide +kernel
theorem dX0_highest_11 : decode cX0_highest 11 = .ok (.iinc 1 (-1), 3) := by decide +kernel
theorem dX0_highest_14 : decode cX0_highest 14 = .ok (.goto (-11), 3) := by decide +kernel
theorem dX0_highest_17 : decode cX0_highest 17 = .ok (.iload_n 1, 1) := by decide +kernel
theorem dX0_highest_18 : decode cX0_highest 18 = .ok (.ireturn, 1) := by decide +kernel
abbrev cX0_lowest : ByteArray := prog_1_method_22_code
def yX0_lowest : MethodName := ⟨RX0, "lowest", "(I)I"⟩
theorem dX0_lowest_0 : decode cX0_lowest 0 = .ok (.iconst 0, 1) := by decide +kernel
theorem dX0_lowest_1 : decode cX0_lowest 1 = .ok (.istore_n 1, 1) := by decide +kernel
theorem dX0_lowest_2 : decode cX0_lowest 2 = .ok (.iload_n 0, 1) := by decide +kernel
theorem dX0_lowest_3 : decode cX0_lowest 3 = .ok (.iload_n 1, 1) := by decide +kernel
theorem dX0_lowest_4 : decode cX0_lowest 4 = .ok (.ishr, 1) := by decide +kernel
theorem dX0_lowest_5 : decode cX0_lowest 5 = .ok (.iconst 1, 1) := by decide +kernel
theorem dX0_lowest_6 : decode cX0_lowest 6 = .ok (.iand, 1) := by decide +kernel
theorem dX0_lowest_7 : decode cX0_lowest 7 = .ok (.ifCond .ne 9, 3) := by decide +kernel
theorem dX0_lowest_10 : decode cX0_lowest 10 = .ok (.iinc 1 1, 3) := by decide +kernel
theorem dX0_lowest_13 : decode cX0_lowest 13 = .ok (.goto (-11), 3) := by decide +kernel
theorem dX0_lowest_16 : decode cX0_lowest 16 = .ok (.iload_n 1, 1) := by decide +kernel
theorem dX0_lowest_17 : decode cX0_lowest 17 = .ok (.ireturn, 1) := by decide +kernel
abbrev cX0_later : ByteArray := prog_1_method_35_code
def yX0_later : MethodName := ⟨RX0, "later", "(IIIII)I"⟩
theorem dX0_later_0 : decode cX0_later 0 = .ok (.iconst 0, 1) := by decide +kernel
theorem dX0_later_1 : decode cX0_later 1 = .ok (.istore 6, 2) := by decide +kernel
theorem dX0_later_3 : decode cX0_later 3 = .ok (.aload_n 0, 1) := by decide +kernel
theorem dX0_later_4 : decode cX0_later 4 = .ok (.getfield 63, 3) := by decide +kernel
theorem dX0_later_7 : decode cX0_later 7 = .ok (.iload_n 1, 1) := by decide +kernel
theorem dX0_later_8 : decode cX0_later 8 = .ok (.iload_n 2, 1) := by decide +kernel
theorem dX0_later_9 : decode cX0_later 9 = .ok (.iadd, 1) := by decide +kernel
theorem dX0_later_10 : decode cX0_later 10 = .ok (.baload, 1) := by decide +kernel
theorem dX0_later_11 : decode cX0_later 11 = .ok (.iconst 1, 1) := by decide +kernel
theorem dX0_later_12 : decode cX0_later 12 = .ok (.isub, 1) := by decide +kernel
theorem dX0_later_13 : decode cX0_later 13 = .ok (.istore 7, 2) := by decide +kernel
theorem dX0_later_15 : decode cX0_later 15 = .ok (.iload 7, 2) := by decide +kernel
theorem dX0_later_17 : decode cX0_later 17 = .ok (.iload_n 2, 1) := by decide +kernel
theorem dX0_later_18 : decode cX0_later 18 = .ok (.if_icmp .lt 199, 3) := by decide +kernel
theorem dX0_later_21 : decode cX0_later 21 = .ok (.aload_n 0, 1) := by decide +kernel
theorem dX0_later_22 : decode cX0_later 22 = .ok (.getfield 54, 3) := by decide +kernel
theorem dX0_later_25 : decode cX0_later 25 = .ok (.iload_n 1, 1) := by decide +kernel
theorem dX0_later_26 : decode cX0_later 26 = .ok (.iload 7, 2) := by decide +kernel
theorem dX0_later_28 : decode cX0_later 28 = .ok (.iadd, 1) := by decide +kernel
theorem dX0_later_29 : decode cX0_later 29 = .ok (.baload, 1) := by decide +kernel
theorem dX0_later_30 : decode cX0_later 30 = .ok (.istore 8, 2) := by decide +kernel
theorem dX0_later_32 : decode cX0_later 32 = .ok (.iload 8, 2) := by decide +kernel
theorem dX0_later_34 : decode cX0_later 34 = .ok (.aload_n 0, 1) := by decide +kernel
theorem dX0_later_35 : decode cX0_later 35 = .ok (.getfield 57, 3) := by decide +kernel
theorem dX0_later_38 : decode cX0_later 38 = .ok (.iload_n 1, 1) := by decide +kernel
theorem dX0_later_39 : decode cX0_later 39 = .ok (.iload 7, 2) := by decide +kernel
theorem dX0_later_41 : decode cX0_later 41 = .ok (.iadd, 1) := by decide +kernel
theorem dX0_later_42 : decode cX0_later 42 = .ok (.iaload, 1) := by decide +kernel
theorem dX0_later_43 : decode cX0_later 43 = .ok (.invokestatic 157, 3) := by decide +kernel
theorem dX0_later_46 : decode cX0_later 46 = .ok (.istore 9, 2) := by decide +kernel
theorem dX0_later_48 : decode cX0_later 48 = .ok (.iconst 0, 1) := by decide +kernel
theorem dX0_later_49 : decode cX0_later 49 = .ok (.istore 10, 2) := by decide +kernel
theorem dX0_later_51 : decode cX0_later 51 = .ok (.iload 8, 2) := by decide +kernel
theorem dX0_later_53 : decode cX0_later 53 = .ok (.iconst 5, 1) := by decide +kernel
theorem dX0_later_54 : decode cX0_later 54 = .ok (.if_icmp .eq 10, 3) := by decide +kernel
theorem dX0_later_57 : decode cX0_later 57 = .ok (.iload 8, 2) := by decide +kernel
theorem dX0_later_59 : decode cX0_later 59 = .ok (.bipush 6, 2) := by decide +kernel
theorem dX0_later_61 : decode cX0_later 61 = .ok (.if_icmp .ne 21, 3) := by decide +kernel
theorem dX0_later_64 : decode cX0_later 64 = .ok (.iload 8, 2) := by decide +kernel
theorem dX0_later_66 : decode cX0_later 66 = .ok (.iconst 5, 1) := by decide +kernel
theorem dX0_later_67 : decode cX0_later 67 = .ok (.if_icmp .ne 8, 3) := by decide +kernel
theorem dX0_later_70 : decode cX0_later 70 = .ok (.iload 4, 2) := by decide +kernel
theorem dX0_later_72 : decode cX0_later 72 = .ok (.goto 5, 3) := by decide +kernel
theorem dX0_later_75 : decode cX0_later 75 = .ok (.iload 5, 2) := by decide +kernel
theorem dX0_later_77 : decode cX0_later 77 = .ok (.istore 10, 2) := by decide +kernel
theorem dX0_later_79 : decode cX0_later 79 = .ok (.goto 113, 3) := by decide +kernel
theorem dX0_later_82 : decode cX0_later 82 = .ok (.aload_n 0, 1) := by decide +kernel
theorem dX0_later_83 : decode cX0_later 83 = .ok (.getfield 66, 3) := by decide +kernel
theorem dX0_later_86 : decode cX0_later 86 = .ok (.iload_n 1, 1) := by decide +kernel
theorem dX0_later_87 : decode cX0_later 87 = .ok (.iload 7, 2) := by decide +kernel
theorem dX0_later_89 : decode cX0_later 89 = .ok (.iadd, 1) := by decide +kernel
theorem dX0_later_90 : decode cX0_later 90 = .ok (.baload, 1) := by decide +kernel
theorem dX0_later_91 : decode cX0_later 91 = .ok (.ifCond .ne 20, 3) := by decide +kernel
theorem dX0_later_94 : decode cX0_later 94 = .ok (.aload_n 0, 1) := by decide +kernel
theorem dX0_later_95 : decode cX0_later 95 = .ok (.getfield 76, 3) := by decide +kernel
theorem dX0_later_98 : decode cX0_later 98 = .ok (.bipush 24, 2) := by decide +kernel
theorem dX0_later_100 : decode cX0_later 100 = .ok (.iload 7, 2) := by decide +kernel
theorem dX0_later_102 : decode cX0_later 102 = .ok (.imul, 1) := by decide +kernel
theorem dX0_later_103 : decode cX0_later 103 = .ok (.iload_n 3, 1) := by decide +kernel
theorem dX0_later_104 : decode cX0_later 104 = .ok (.iadd, 1) := by decide +kernel
theorem dX0_later_105 : decode cX0_later 105 = .ok (.iaload, 1) := by decide +kernel
theorem dX0_later_106 : decode cX0_later 106 = .ok (.istore 10, 2) := by decide +kernel
theorem dX0_later_108 : decode cX0_later 108 = .ok (.goto 84, 3) := by decide +kernel
theorem dX0_later_111 : decode cX0_later 111 = .ok (.iload 7, 2) := by decide +kernel
theorem dX0_later_113 : decode cX0_later 113 = .ok (.iconst 1, 1) := by decide +kernel
theorem dX0_later_114 : decode cX0_later 114 = .ok (.iadd, 1) := by decide +kernel
theorem dX0_later_115 : decode cX0_later 115 = .ok (.istore 11, 2) := by decide +kernel
theorem dX0_later_117 : decode cX0_later 117 = .ok (.aload_n 0, 1) := by decide +kernel
theorem dX0_later_118 : decode cX0_later 118 = .ok (.getfield 63, 3) := by decide +kernel
theorem dX0_later_121 : decode cX0_later 121 = .ok (.iload_n 1, 1) := by decide +kernel
theorem dX0_later_122 : decode cX0_later 122 = .ok (.iload 11, 2) := by decide +kernel
theorem dX0_later_124 : decode cX0_later 124 = .ok (.iadd, 1) := by decide +kernel
theorem dX0_later_125 : decode cX0_later 125 = .ok (.baload, 1) := by decide +kernel
theorem dX0_later_126 : decode cX0_later 126 = .ok (.istore 12, 2) := by decide +kernel
theorem dX0_later_128 : decode cX0_later 128 = .ok (.aload_n 0, 1) := by decide +kernel
theorem dX0_later_129 : decode cX0_later 129 = .ok (.iload 8, 2) := by decide +kernel
theorem dX0_later_131 : decode cX0_later 131 = .ok (.aload_n 0, 1) := by decide +kernel
theorem dX0_later_132 : decode cX0_later 132 = .ok (.getfield 88, 3) := by decide +kernel
theorem dX0_later_135 : decode cX0_later 135 = .ok (.iload 6, 2) := by decide +kernel
theorem dX0_later_137 : decode cX0_later 137 = .ok (.iconst 1, 1) := by decide +kernel
theorem dX0_later_138 : decode cX0_later 138 = .ok (.isub, 1) := by decide +kernel
theorem dX0_later_139 : decode cX0_later 139 = .ok (.iaload, 1) := by decide +kernel
theorem dX0_later_140 : decode cX0_later 140 = .ok (.aload_n 0, 1) := by decide +kernel
theorem dX0_later_141 : decode cX0_later 141 = .ok (.getfield 60, 3) := by decide +kernel
theorem dX0_later_144 : decode cX0_later 144 = .ok (.iload_n 1, 1) := by decide +kernel
theorem dX0_later_145 : decode cX0_later 145 = .ok (.iload 11, 2) := by decide +kernel
theorem dX0_later_147 : decode cX0_later 147 = .ok (.iadd, 1) := by decide +kernel
theorem dX0_later_148 : decode cX0_later 148 = .ok (.baload, 1) := by decide +kernel
theorem dX0_later_149 : decode cX0_later 149 = .ok (.iload 9, 2) := by decide +kernel
theorem dX0_later_151 : decode cX0_later 151 = .ok (.iconst 1, 1) := by decide +kernel
theorem dX0_later_152 : decode cX0_later 152 = .ok (.if_icmp .le 15, 3) := by decide +kernel
theorem dX0_later_155 : decode cX0_later 155 = .ok (.aload_n 0, 1) := by decide +kernel
theorem dX0_later_156 : decode cX0_later 156 = .ok (.getfield 88, 3) := by decide +kernel
theorem dX0_later_159 : decode cX0_later 159 = .ok (.iload 6, 2) := by decide +kernel
theorem dX0_later_161 : decode cX0_later 161 = .ok (.iconst 2, 1) := by decide +kernel
theorem dX0_later_162 : decode cX0_later 162 = .ok (.isub, 1) := by decide +kernel
theorem dX0_later_163 : decode cX0_later 163 = .ok (.iaload, 1) := by decide +kernel
theorem dX0_later_164 : decode cX0_later 164 = .ok (.goto 4, 3) := by decide +kernel
theorem dX0_later_167 : decode cX0_later 167 = .ok (.iconst 0, 1) := by decide +kernel
theorem dX0_later_168 : decode cX0_later 168 = .ok (.iload 9, 2) := by decide +kernel
theorem dX0_later_170 : decode cX0_later 170 = .ok (.iconst 1, 1) := by decide +kernel
theorem dX0_later_171 : decode cX0_later 171 = .ok (.if_icmp .le 15, 3) := by decide +kernel
theorem dX0_later_174 : decode cX0_later 174 = .ok (.aload_n 0, 1) := by decide +kernel
theorem dX0_later_175 : decode cX0_later 175 = .ok (.getfield 60, 3) := by decide +kernel
theorem dX0_later_178 : decode cX0_later 178 = .ok (.iload_n 1, 1) := by decide +kernel
theorem dX0_later_179 : decode cX0_later 179 = .ok (.iload 12, 2) := by decide +kernel
theorem dX0_later_181 : decode cX0_later 181 = .ok (.iadd, 1) := by decide +kernel
theorem dX0_later_182 : decode cX0_later 182 = .ok (.baload, 1) := by decide +kernel
theorem dX0_later_183 : decode cX0_later 183 = .ok (.goto 4, 3) := by decide +kernel
theorem dX0_later_186 : decode cX0_later 186 = .ok (.iconst 1, 1) := by decide +kernel
theorem dX0_later_187 : decode cX0_later 187 = .ok (.invokevirtual 182, 3) := by decide +kernel
theorem dX0_later_190 : decode cX0_later 190 = .ok (.istore 10, 2) := by decide +kernel
theorem dX0_later_192 : decode cX0_later 192 = .ok (.iload 6, 2) := by decide +kernel
theorem dX0_later_194 : decode cX0_later 194 = .ok (.iload 9, 2) := by decide +kernel
theorem dX0_later_196 : decode cX0_later 196 = .ok (.isub, 1) := by decide +kernel
theorem dX0_later_197 : decode cX0_later 197 = .ok (.istore 6, 2) := by decide +kernel
theorem dX0_later_199 : decode cX0_later 199 = .ok (.aload_n 0, 1) := by decide +kernel
theorem dX0_later_200 : decode cX0_later 200 = .ok (.getfield 88, 3) := by decide +kernel
theorem dX0_later_203 : decode cX0_later 203 = .ok (.iload 6, 2) := by decide +kernel
theorem dX0_later_205 : decode cX0_later 205 = .ok (.iinc 6 1, 3) := by decide +kernel
theorem dX0_later_208 : decode cX0_later 208 = .ok (.iload 10, 2) := by decide +kernel
theorem dX0_later_210 : decode cX0_later 210 = .ok (.iastore, 1) := by decide +kernel
theorem dX0_later_211 : decode cX0_later 211 = .ok (.iinc 7 (-1), 3) := by decide +kernel
theorem dX0_later_214 : decode cX0_later 214 = .ok (.goto (-199), 3) := by decide +kernel
theorem dX0_later_217 : decode cX0_later 217 = .ok (.aload_n 0, 1) := by decide +kernel
theorem dX0_later_218 : decode cX0_later 218 = .ok (.getfield 88, 3) := by decide +kernel
theorem dX0_later_221 : decode cX0_later 221 = .ok (.iconst 0, 1) := by decide +kernel
theorem dX0_later_222 : decode cX0_later 222 = .ok (.iaload, 1) := by decide +kernel
theorem dX0_later_223 : decode cX0_later 223 = .ok (.ireturn, 1) := by decide +kernel
abbrev cX0_join : ByteArray := prog_1_method_27_code
def yX0_join : MethodName := ⟨RX0, "join", "(IIIII)I"⟩
theorem dX0_join_0 : decode cX0_join 0 = .ok (.iload_n 1, 1) := by decide +kernel
theorem dX0_join_1 : decode cX0_join 1 = .ok (.bipush 9, 2) := by decide +kernel
theorem dX0_join_3 : decode cX0_join 3 = .ok (.if_icmp .le 76, 3) := by decide +kernel
theorem dX0_join_6 : decode cX0_join 6 = .ok (.iload_n 1, 1) := by decide +kernel
theorem dX0_join_7 : decode cX0_join 7 = .ok (.bipush 13, 2) := by decide +kernel
theorem dX0_join_9 : decode cX0_join 9 = .ok (.if_icmp .ge 70, 3) := by decide +kernel
theorem dX0_join_12 : decode cX0_join 12 = .ok (.iload_n 3, 1) := by decide +kernel
theorem dX0_join_13 : decode cX0_join 13 = .ok (.ifCond .ne 11, 3) := by decide +kernel
theorem dX0_join_16 : decode cX0_join 16 = .ok (.aload_n 0, 1) := by decide +kernel
theorem dX0_join_17 : decode cX0_join 17 = .ok (.iload_n 2, 1) := by decide +kernel
theorem dX0_join_18 : decode cX0_join 18 = .ok (.invokevirtual 185, 3) := by decide +kernel
theorem dX0_join_21 : decode cX0_join 21 = .ok (.goto 4, 3) := by decide +kernel
theorem dX0_join_24 : decode cX0_join 24 = .ok (.iload_n 2, 1) := by decide +kernel
theorem dX0_join_25 : decode cX0_join 25 = .ok (.istore 6, 2) := by decide +kernel
theorem dX0_join_27 : decode cX0_join 27 = .ok (.iload 5, 2) := by decide +kernel
theorem dX0_join_29 : decode cX0_join 29 = .ok (.ifCond .ne 12, 3) := by decide +kernel
theorem dX0_join_32 : decode cX0_join 32 = .ok (.aload_n 0, 1) := by decide +kernel
theorem dX0_join_33 : decode cX0_join 33 = .ok (.iload 4, 2) := by decide +kernel
theorem dX0_join_35 : decode cX0_join 35 = .ok (.invokevirtual 185, 3) := by decide +kernel
theorem dX0_join_38 : decode cX0_join 38 = .ok (.goto 5, 3) := by decide +kernel
theorem dX0_join_41 : decode cX0_join 41 = .ok (.iload 4, 2) := by decide +kernel
theorem dX0_join_43 : decode cX0_join 43 = .ok (.istore 7, 2) := by decide +kernel
theorem dX0_join_45 : decode cX0_join 45 = .ok (.iload_n 1, 1) := by decide +kernel
theorem dX0_join_46 : decode cX0_join 46 = .ok (.bipush 10, 2) := by decide +kernel
theorem dX0_join_48 : decode cX0_join 48 = .ok (.if_icmp .ne 11, 3) := by decide +kernel
theorem dX0_join_51 : decode cX0_join 51 = .ok (.iload 6, 2) := by decide +kernel
theorem dX0_join_53 : decode cX0_join 53 = .ok (.iload 7, 2) := by decide +kernel
theorem dX0_join_55 : decode cX0_join 55 = .ok (.iadd, 1) := by decide +kernel
theorem dX0_join_56 : decode cX0_join 56 = .ok (.goto 22, 3) := by decide +kernel
theorem dX0_join_59 : decode cX0_join 59 = .ok (.iload_n 1, 1) := by decide +kernel
theorem dX0_join_60 : decode cX0_join 60 = .ok (.bipush 11, 2) := by decide +kernel
theorem dX0_join_62 : decode cX0_join 62 = .ok (.if_icmp .ne 11, 3) := by decide +kernel
theorem dX0_join_65 : decode cX0_join 65 = .ok (.iload 6, 2) := by decide +kernel
theorem dX0_join_67 : decode cX0_join 67 = .ok (.iload 7, 2) := by decide +kernel
theorem dX0_join_69 : decode cX0_join 69 = .ok (.isub, 1) := by decide +kernel
theorem dX0_join_70 : decode cX0_join 70 = .ok (.goto 8, 3) := by decide +kernel
theorem dX0_join_73 : decode cX0_join 73 = .ok (.iload 6, 2) := by decide +kernel
theorem dX0_join_75 : decode cX0_join 75 = .ok (.iload 7, 2) := by decide +kernel
theorem dX0_join_77 : decode cX0_join 77 = .ok (.imul, 1) := by decide +kernel
theorem dX0_join_78 : decode cX0_join 78 = .ok (.ireturn, 1) := by decide +kernel
theorem dX0_join_79 : decode cX0_join 79 = .ok (.iload_n 1, 1) := by decide +kernel
theorem dX0_join_80 : decode cX0_join 80 = .ok (.tableswitch 138 3 17 #[76, 138, 138, 138, 81, 86, 92, 138, 138, 138, 138, 138, 98, 113, 128], 76) := by decide +kernel
theorem dX0_join_156 : decode cX0_join 156 = .ok (.iload_n 2, 1) := by decide +kernel
theorem dX0_join_157 : decode cX0_join 157 = .ok (.iload 4, 2) := by decide +kernel
theorem dX0_join_159 : decode cX0_join 159 = .ok (.ior, 1) := by decide +kernel
theorem dX0_join_160 : decode cX0_join 160 = .ok (.ireturn, 1) := by decide +kernel
theorem dX0_join_161 : decode cX0_join 161 = .ok (.iload_n 2, 1) := by decide +kernel
theorem dX0_join_162 : decode cX0_join 162 = .ok (.invokestatic 188, 3) := by decide +kernel
theorem dX0_join_165 : decode cX0_join 165 = .ok (.ireturn, 1) := by decide +kernel
theorem dX0_join_166 : decode cX0_join 166 = .ok (.aload_n 0, 1) := by decide +kernel
theorem dX0_join_167 : decode cX0_join 167 = .ok (.iload_n 2, 1) := by decide +kernel
theorem dX0_join_168 : decode cX0_join 168 = .ok (.invokevirtual 191, 3) := by decide +kernel
theorem dX0_join_171 : decode cX0_join 171 = .ok (.ireturn, 1) := by decide +kernel
theorem dX0_join_172 : decode cX0_join 172 = .ok (.aload_n 0, 1) := by decide +kernel
theorem dX0_join_173 : decode cX0_join 173 = .ok (.iload_n 2, 1) := by decide +kernel
theorem dX0_join_174 : decode cX0_join 174 = .ok (.invokevirtual 185, 3) := by decide +kernel
theorem dX0_join_177 : decode cX0_join 177 = .ok (.ireturn, 1) := by decide +kernel
theorem dX0_join_178 : decode cX0_join 178 = .ok (.iload_n 2, 1) := by decide +kernel
theorem dX0_join_179 : decode cX0_join 179 = .ok (.ifCond .eq 12, 3) := by decide +kernel
theorem dX0_join_182 : decode cX0_join 182 = .ok (.iload 4, 2) := by decide +kernel
theorem dX0_join_184 : decode cX0_join 184 = .ok (.ifCond .eq 7, 3) := by decide +kernel
theorem dX0_join_187 : decode cX0_join 187 = .ok (.iconst 1, 1) := by decide +kernel
theorem dX0_join_188 : decode cX0_join 188 = .ok (.goto 4, 3) := by decide +kernel
theorem dX0_join_191 : decode cX0_join 191 = .ok (.iconst 0, 1) := by decide +kernel
theorem dX0_join_192 : decode cX0_join 192 = .ok (.ireturn, 1) := by decide +kernel
theorem dX0_join_193 : decode cX0_join 193 = .ok (.iload_n 2, 1) := by decide +kernel
theorem dX0_join_194 : decode cX0_join 194 = .ok (.ifCond .ne 8, 3) := by decide +kernel
theorem dX0_join_197 : decode cX0_join 197 = .ok (.iload 4, 2) := by decide +kernel
theorem dX0_join_199 : decode cX0_join 199 = .ok (.ifCond .eq 7, 3) := by decide +kernel
theorem dX0_join_202 : decode cX0_join 202 = .ok (.iconst 1, 1) := by decide +kernel
theorem dX0_join_203 : decode cX0_join 203 = .ok (.goto 4, 3) := by decide +kernel
theorem dX0_join_206 : decode cX0_join 206 = .ok (.iconst 0, 1) := by decide +kernel
theorem dX0_join_207 : decode cX0_join 207 = .ok (.ireturn, 1) := by decide +kernel
theorem dX0_join_208 : decode cX0_join 208 = .ok (.iload_n 2, 1) := by decide +kernel
theorem dX0_join_209 : decode cX0_join 209 = .ok (.ifCond .ne 7, 3) := by decide +kernel
theorem dX0_join_212 : decode cX0_join 212 = .ok (.iconst 1, 1) := by decide +kernel
theorem dX0_join_213 : decode cX0_join 213 = .ok (.goto 4, 3) := by decide +kernel
theorem dX0_join_216 : decode cX0_join 216 = .ok (.iconst 0, 1) := by decide +kernel
theorem dX0_join_217 : decode cX0_join 217 = .ok (.ireturn, 1) := by decide +kernel
theorem dX0_join_218 : decode cX0_join 218 = .ok (.aload_n 0, 1) := by decide +kernel
theorem dX0_join_219 : decode cX0_join 219 = .ok (.iload_n 1, 1) := by decide +kernel
theorem dX0_join_220 : decode cX0_join 220 = .ok (.iload_n 2, 1) := by decide +kernel
theorem dX0_join_221 : decode cX0_join 221 = .ok (.iload_n 3, 1) := by decide +kernel
theorem dX0_join_222 : decode cX0_join 222 = .ok (.iload 4, 2) := by decide +kernel
theorem dX0_join_224 : decode cX0_join 224 = .ok (.iload 5, 2) := by decide +kernel
theorem dX0_join_226 : decode cX0_join 226 = .ok (.invokevirtual 194, 3) := by decide +kernel
theorem dX0_join_229 : decode cX0_join 229 = .ok (.ireturn, 1) := by decide +kernel
abbrev cX0_valueOf : ByteArray := prog_1_method_28_code
def yX0_valueOf : MethodName := ⟨RX0, "valueOf", "(I)I"⟩
theorem dX0_valueOf_0 : decode cX0_valueOf 0 = .ok (.iload_n 1, 1) := by decide +kernel
theorem dX0_valueOf_1 : decode cX0_valueOf 1 = .ok (.ifCond .ne 7, 3) := by decide +kernel
theorem dX0_valueOf_4 : decode cX0_valueOf 4 = .ok (.iconst 0, 1) := by decide +kernel
theorem dX0_valueOf_5 : decode cX0_valueOf 5 = .ok (.goto 12, 3) := by decide +kernel
theorem dX0_valueOf_8 : decode cX0_valueOf 8 = .ok (.aload_n 0, 1) := by decide +kernel
theorem dX0_valueOf_9 : decode cX0_valueOf 9 = .ok (.getfield 51, 3) := by decide +kernel
theorem dX0_valueOf_12 : decode cX0_valueOf 12 = .ok (.iload_n 1, 1) := by decide +kernel
theorem dX0_valueOf_13 : decode cX0_valueOf 13 = .ok (.invokestatic 197, 3) := by decide +kernel
theorem dX0_valueOf_16 : decode cX0_valueOf 16 = .ok (.iaload, 1) := by decide +kernel
theorem dX0_valueOf_17 : decode cX0_valueOf 17 = .ok (.ireturn, 1) := by decide +kernel
abbrev cX0_total : ByteArray := prog_1_method_29_code
def yX0_total : MethodName := ⟨RX0, "total", "(I)I"⟩
theorem dX0_total_0 : decode cX0_total 0 = .ok (.iconst 0, 1) := by decide +kernel
theorem dX0_total_1 : decode cX0_total 1 = .ok (.istore_n 2, 1) := by decide +kernel
theorem dX0_total_2 : decode cX0_total 2 = .ok (.iload_n 1, 1) := by decide +kernel
theorem dX0_total_3 : decode cX0_total 3 = .ok (.istore_n 3, 1) := by decide +kernel
theorem dX0_total_4 : decode cX0_total 4 = .ok (.iload_n 3, 1) := by decide +kernel
theorem dX0_total_5 : decode cX0_total 5 = .ok (.ifCond .eq 24, 3) := by decide +kernel
theorem dX0_total_8 : decode cX0_total 8 = .ok (.iload_n 2, 1) := by decide +kernel
theorem dX0_total_9 : decode cX0_total 9 = .ok (.aload_n 0, 1) := by decide +kernel
theorem dX0_total_10 : decode cX0_total 10 = .ok (.getfield 51, 3) := by decide +kernel
theorem dX0_total_13 : decode cX0_total 13 = .ok (.iload_n 3, 1) := by decide +kernel
theorem dX0_total_14 : decode cX0_total 14 = .ok (.invokestatic 197, 3) := by decide +kernel
theorem dX0_total_17 : decode cX0_total 17 = .ok (.iaload, 1) := by decide +kernel
theorem dX0_total_18 : decode cX0_total 18 = .ok (.iadd, 1) := by decide +kernel
theorem dX0_total_19 : decode cX0_total 19 = .ok (.istore_n 2, 1) := by decide +kernel
theorem dX0_total_20 : decode cX0_total 20 = .ok (.iload_n 3, 1) := by decide +kernel
theorem dX0_total_21 : decode cX0_total 21 = .ok (.iload_n 3, 1) := by decide +kernel
theorem dX0_total_22 : decode cX0_total 22 = .ok (.iconst 1, 1) := by decide +kernel
theorem dX0_total_23 : decode cX0_total 23 = .ok (.isub, 1) := by decide +kernel
theorem dX0_total_24 : decode cX0_total 24 = .ok (.iand, 1) := by decide +kernel
theorem dX0_total_25 : decode cX0_total 25 = .ok (.istore_n 3, 1) := by decide +kernel
theorem dX0_total_26 : decode cX0_total 26 = .ok (.goto (-22), 3) := by decide +kernel
theorem dX0_total_29 : decode cX0_total 29 = .ok (.iload_n 2, 1) := by decide +kernel
theorem dX0_total_30 : decode cX0_total 30 = .ok (.ireturn, 1) := by decide +kernel
abbrev cX0_compare : ByteArray := prog_1_method_30_code
def yX0_compare : MethodName := ⟨RX0, "compare", "(IIIII)I"⟩
theorem dX0_compare_0 : decode cX0_compare 0 = .ok (.iload_n 3, 1) := by decide +kernel
theorem dX0_compare_1 : decode cX0_compare 1 = .ok (.ifCond .ne 7, 3) := by decide +kernel
theorem dX0_compare_4 : decode cX0_compare 4 = .ok (.iload_n 2, 1) := by decide +kernel
theorem dX0_compare_5 : decode cX0_compare 5 = .ok (.ifCond .eq 13, 3) := by decide +kernel
theorem dX0_compare_8 : decode cX0_compare 8 = .ok (.iload 5, 2) := by decide +kernel
theorem dX0_compare_10 : decode cX0_compare 10 = .ok (.ifCond .ne 10, 3) := by decide +kernel
theorem dX0_compare_13 : decode cX0_compare 13 = .ok (.iload 4, 2) := by decide +kernel
theorem dX0_compare_15 : decode cX0_compare 15 = .ok (.ifCond .ne 5, 3) := by decide +kernel
theorem dX0_compare_18 : decode cX0_compare 18 = .ok (.iconst 0, 1) := by decide +kernel
theorem dX0_compare_19 : decode cX0_compare 19 = .ok (.ireturn, 1) := by decide +kernel
theorem dX0_compare_20 : decode cX0_compare 20 = .ok (.iload_n 1, 1) := by decide +kernel
theorem dX0_compare_21 : decode cX0_compare 21 = .ok (.bipush 13, 2) := by decide +kernel
theorem dX0_compare_23 : decode cX0_compare 23 = .ok (.if_icmp .ne 51, 3) := by decide +kernel
theorem dX0_compare_26 : decode cX0_compare 26 = .ok (.iload_n 3, 1) := by decide +kernel
theorem dX0_compare_27 : decode cX0_compare 27 = .ok (.ifCond .ne 12, 3) := by decide +kernel
theorem dX0_compare_30 : decode cX0_compare 30 = .ok (.aload_n 0, 1) := by decide +kernel
theorem dX0_compare_31 : decode cX0_compare 31 = .ok (.iload_n 2, 1) := by decide +kernel
theorem dX0_compare_32 : decode cX0_compare 32 = .ok (.iconst 0, 1) := by decide +kernel
theorem dX0_compare_33 : decode cX0_compare 33 = .ok (.invokevirtual 200, 3) := by decide +kernel
theorem dX0_compare_36 : decode cX0_compare 36 = .ok (.goto 4, 3) := by decide +kernel
theorem dX0_compare_39 : decode cX0_compare 39 = .ok (.iload_n 2, 1) := by decide +kernel
theorem dX0_compare_40 : decode cX0_compare 40 = .ok (.istore 6, 2) := by decide +kernel
theorem dX0_compare_42 : decode cX0_compare 42 = .ok (.iload 5, 2) := by decide +kernel
theorem dX0_compare_44 : decode cX0_compare 44 = .ok (.ifCond .ne 13, 3) := by decide +kernel
theorem dX0_compare_47 : decode cX0_compare 47 = .ok (.aload_n 0, 1) := by decide +kernel
theorem dX0_compare_48 : decode cX0_compare 48 = .ok (.iload 4, 2) := by decide +kernel
theorem dX0_compare_50 : decode cX0_compare 50 = .ok (.iconst 1, 1) := by decide +kernel
theorem dX0_compare_51 : decode cX0_compare 51 = .ok (.invokevirtual 200, 3) := by decide +kernel
theorem dX0_compare_54 : decode cX0_compare 54 = .ok (.goto 5, 3) := by decide +kernel
theorem dX0_compare_57 : decode cX0_compare 57 = .ok (.iload 4, 2) := by decide +kernel
theorem dX0_compare_59 : decode cX0_compare 59 = .ok (.istore 7, 2) := by decide +kernel
theorem dX0_compare_61 : decode cX0_compare 61 = .ok (.iload 6, 2) := by decide +kernel
theorem dX0_compare_63 : decode cX0_compare 63 = .ok (.iload 7, 2) := by decide +kernel
theorem dX0_compare_65 : decode cX0_compare 65 = .ok (.if_icmp .ge 7, 3) := by decide +kernel
theorem dX0_compare_68 : decode cX0_compare 68 = .ok (.iconst 1, 1) := by decide +kernel
theorem dX0_compare_69 : decode cX0_compare 69 = .ok (.goto 4, 3) := by decide +kernel
theorem dX0_compare_72 : decode cX0_compare 72 = .ok (.iconst 0, 1) := by decide +kernel
theorem dX0_compare_73 : decode cX0_compare 73 = .ok (.ireturn, 1) := by decide +kernel
theorem dX0_compare_74 : decode cX0_compare 74 = .ok (.iload_n 3, 1) := by decide +kernel
theorem dX0_compare_75 : decode cX0_compare 75 = .ok (.ifCond .eq 20, 3) := by decide +kernel
theorem dX0_compare_78 : decode cX0_compare 78 = .ok (.iload 5, 2) := by decide +kernel
theorem dX0_compare_80 : decode cX0_compare 80 = .ok (.ifCond .eq 15, 3) := by decide +kernel
theorem dX0_compare_83 : decode cX0_compare 83 = .ok (.iload_n 2, 1) := by decide +kernel
theorem dX0_compare_84 : decode cX0_compare 84 = .ok (.iload 4, 2) := by decide +kernel
theorem dX0_compare_86 : decode cX0_compare 86 = .ok (.if_icmp .ne 7, 3) := by decide +kernel
theorem dX0_compare_89 : decode cX0_compare 89 = .ok (.iconst 1, 1) := by decide +kernel
theorem dX0_compare_90 : decode cX0_compare 90 = .ok (.goto 4, 3) := by decide +kernel
theorem dX0_compare_93 : decode cX0_compare 93 = .ok (.iconst 0, 1) := by decide +kernel
theorem dX0_compare_94 : decode cX0_compare 94 = .ok (.ireturn, 1) := by decide +kernel
theorem dX0_compare_95 : decode cX0_compare 95 = .ok (.iload_n 3, 1) := by decide +kernel
theorem dX0_compare_96 : decode cX0_compare 96 = .ok (.ifCond .eq 19, 3) := by decide +kernel
theorem dX0_compare_99 : decode cX0_compare 99 = .ok (.aload_n 0, 1) := by decide +kernel
theorem dX0_compare_100 : decode cX0_compare 100 = .ok (.iload 4, 2) := by decide +kernel
theorem dX0_compare_102 : decode cX0_compare 102 = .ok (.iload_n 2, 1) := by decide +kernel
theorem dX0_compare_103 : decode cX0_compare 103 = .ok (.invokevirtual 204, 3) := by decide +kernel
theorem dX0_compare_106 : decode cX0_compare 106 = .ok (.ifCond .eq 7, 3) := by decide +kernel
theorem dX0_compare_109 : decode cX0_compare 109 = .ok (.iconst 1, 1) := by decide +kernel
theorem dX0_compare_110 : decode cX0_compare 110 = .ok (.goto 4, 3) := by decide +kernel
theorem dX0_compare_113 : decode cX0_compare 113 = .ok (.iconst 0, 1) := by decide +kernel
theorem dX0_compare_114 : decode cX0_compare 114 = .ok (.ireturn, 1) := by decide +kernel
theorem dX0_compare_115 : decode cX0_compare 115 = .ok (.iload 5, 2) := by decide +kernel
theorem dX0_compare_117 : decode cX0_compare 117 = .ok (.ifCond .eq 19, 3) := by decide +kernel
theorem dX0_compare_120 : decode cX0_compare 120 = .ok (.aload_n 0, 1) := by decide +kernel
theorem dX0_compare_121 : decode cX0_compare 121 = .ok (.iload_n 2, 1) := by decide +kernel
theorem dX0_compare_122 : decode cX0_compare 122 = .ok (.iload 4, 2) := by decide +kernel
theorem dX0_compare_124 : decode cX0_compare 124 = .ok (.invokevirtual 204, 3) := by decide +kernel
theorem dX0_compare_127 : decode cX0_compare 127 = .ok (.ifCond .eq 7, 3) := by decide +kernel
theorem dX0_compare_130 : decode cX0_compare 130 = .ok (.iconst 1, 1) := by decide +kernel
theorem dX0_compare_131 : decode cX0_compare 131 = .ok (.goto 4, 3) := by decide +kernel
theorem dX0_compare_134 : decode cX0_compare 134 = .ok (.iconst 0, 1) := by decide +kernel
theorem dX0_compare_135 : decode cX0_compare 135 = .ok (.ireturn, 1) := by decide +kernel
theorem dX0_compare_136 : decode cX0_compare 136 = .ok (.iconst 0, 1) := by decide +kernel
theorem dX0_compare_137 : decode cX0_compare 137 = .ok (.istore 6, 2) := by decide +kernel
theorem dX0_compare_139 : decode cX0_compare 139 = .ok (.iload_n 2, 1) := by decide +kernel
theorem dX0_compare_140 : decode cX0_compare 140 = .ok (.istore 7, 2) := by decide +kernel
theorem dX0_compare_142 : decode cX0_compare 142 = .ok (.iload 7, 2) := by decide +kernel
theorem dX0_compare_144 : decode cX0_compare 144 = .ok (.ifCond .eq 40, 3) := by decide +kernel
theorem dX0_compare_147 : decode cX0_compare 147 = .ok (.aload_n 0, 1) := by decide +kernel
theorem dX0_compare_148 : decode cX0_compare 148 = .ok (.getfield 51, 3) := by decide +kernel
theorem dX0_compare_151 : decode cX0_compare 151 = .ok (.iload 7, 2) := by decide +kernel
theorem dX0_compare_153 : decode cX0_compare 153 = .ok (.invokestatic 197, 3) := by decide +kernel
theorem dX0_compare_156 : decode cX0_compare 156 = .ok (.iaload, 1) := by decide +kernel
theorem dX0_compare_157 : decode cX0_compare 157 = .ok (.istore 8, 2) := by decide +kernel
theorem dX0_compare_159 : decode cX0_compare 159 = .ok (.iload 6, 2) := by decide +kernel
theorem dX0_compare_161 : decode cX0_compare 161 = .ok (.aload_n 0, 1) := by decide +kernel
theorem dX0_compare_162 : decode cX0_compare 162 = .ok (.iload 4, 2) := by decide +kernel
theorem dX0_compare_164 : decode cX0_compare 164 = .ok (.iload 8, 2) := by decide +kernel
theorem dX0_compare_166 : decode cX0_compare 166 = .ok (.invokevirtual 204, 3) := by decide +kernel
theorem dX0_compare_169 : decode cX0_compare 169 = .ok (.ior, 1) := by decide +kernel
theorem dX0_compare_170 : decode cX0_compare 170 = .ok (.istore 6, 2) := by decide +kernel
theorem dX0_compare_172 : decode cX0_compare 172 = .ok (.iload 7, 2) := by decide +kernel
theorem dX0_compare_174 : decode cX0_compare 174 = .ok (.iload 7, 2) := by decide +kernel
theorem dX0_compare_176 : decode cX0_compare 176 = .ok (.iconst 1, 1) := by decide +kernel
theorem dX0_compare_177 : decode cX0_compare 177 = .ok (.isub, 1) := by decide +kernel
theorem dX0_compare_178 : decode cX0_compare 178 = .ok (.iand, 1) := by decide +kernel
theorem dX0_compare_179 : decode cX0_compare 179 = .ok (.istore 7, 2) := by decide +kernel
theorem dX0_compare_181 : decode cX0_compare 181 = .ok (.goto (-39), 3) := by decide +kernel
theorem dX0_compare_184 : decode cX0_compare 184 = .ok (.iload 6, 2) := by decide +kernel
theorem dX0_compare_186 : decode cX0_compare 186 = .ok (.ifCond .eq 7, 3) := by decide +kernel
theorem dX0_compare_189 : decode cX0_compare 189 = .ok (.iconst 1, 1) := by decide +kernel
theorem dX0_compare_190 : decode cX0_compare 190 = .ok (.goto 4, 3) := by decide +kernel
theorem dX0_compare_193 : decode cX0_compare 193 = .ok (.iconst 0, 1) := by decide +kernel
theorem dX0_compare_194 : decode cX0_compare 194 = .ok (.ireturn, 1) := by decide +kernel
abbrev cX0_extreme : ByteArray := prog_1_method_31_code
def yX0_extreme : MethodName := ⟨RX0, "extreme", "(IZ)I"⟩
theorem dX0_extreme_0 : decode cX0_extreme 0 = .ok (.aload_n 0, 1) := by decide +kernel
theorem dX0_extreme_1 : decode cX0_extreme 1 = .ok (.iload_n 1, 1) := by decide +kernel
theorem dX0_extreme_2 : decode cX0_extreme 2 = .ok (.invokevirtual 185, 3) := by decide +kernel
theorem dX0_extreme_5 : decode cX0_extreme 5 = .ok (.istore_n 3, 1) := by decide +kernel
theorem dX0_extreme_6 : decode cX0_extreme 6 = .ok (.iload_n 1, 1) := by decide +kernel
theorem dX0_extreme_7 : decode cX0_extreme 7 = .ok (.istore 4, 2) := by decide +kernel
theorem dX0_extreme_9 : decode cX0_extreme 9 = .ok (.iload 4, 2) := by decide +kernel
theorem dX0_extreme_11 : decode cX0_extreme 11 = .ok (.ifCond .eq 49, 3) := by decide +kernel
theorem dX0_extreme_14 : decode cX0_extreme 14 = .ok (.aload_n 0, 1) := by decide +kernel
theorem dX0_extreme_15 : decode cX0_extreme 15 = .ok (.getfield 51, 3) := by decide +kernel
theorem dX0_extreme_18 : decode cX0_extreme 18 = .ok (.iload 4, 2) := by decide +kernel
theorem dX0_extreme_20 : decode cX0_extreme 20 = .ok (.invokestatic 197, 3) := by decide +kernel
theorem dX0_extreme_23 : decode cX0_extreme 23 = .ok (.iaload, 1) := by decide +kernel
theorem dX0_extreme_24 : decode cX0_extreme 24 = .ok (.istore 5, 2) := by decide +kernel
theorem dX0_extreme_26 : decode cX0_extreme 26 = .ok (.iload_n 2, 1) := by decide +kernel
theorem dX0_extreme_27 : decode cX0_extreme 27 = .ok (.ifCond .eq 12, 3) := by decide +kernel
theorem dX0_extreme_30 : decode cX0_extreme 30 = .ok (.iload 5, 2) := by decide +kernel
theorem dX0_extreme_32 : decode cX0_extreme 32 = .ok (.iload_n 3, 1) := by decide +kernel
theorem dX0_extreme_33 : decode cX0_extreme 33 = .ok (.if_icmp .le 15, 3) := by decide +kernel
theorem dX0_extreme_36 : decode cX0_extreme 36 = .ok (.goto 9, 3) := by decide +kernel
theorem dX0_extreme_39 : decode cX0_extreme 39 = .ok (.iload 5, 2) := by decide +kernel
theorem dX0_extreme_41 : decode cX0_extreme 41 = .ok (.iload_n 3, 1) := by decide +kernel
theorem dX0_extreme_42 : decode cX0_extreme 42 = .ok (.if_icmp .ge 6, 3) := by decide +kernel
theorem dX0_extreme_45 : decode cX0_extreme 45 = .ok (.iload 5, 2) := by decide +kernel
theorem dX0_extreme_47 : decode cX0_extreme 47 = .ok (.istore_n 3, 1) := by decide +kernel
theorem dX0_extreme_48 : decode cX0_extreme 48 = .ok (.iload 4, 2) := by decide +kernel
theorem dX0_extreme_50 : decode cX0_extreme 50 = .ok (.iload 4, 2) := by decide +kernel
theorem dX0_extreme_52 : decode cX0_extreme 52 = .ok (.iconst 1, 1) := by decide +kernel
theorem dX0_extreme_53 : decode cX0_extreme 53 = .ok (.isub, 1) := by decide +kernel
theorem dX0_extreme_54 : decode cX0_extreme 54 = .ok (.iand, 1) := by decide +kernel
theorem dX0_extreme_55 : decode cX0_extreme 55 = .ok (.istore 4, 2) := by decide +kernel
theorem dX0_extreme_57 : decode cX0_extreme 57 = .ok (.goto (-48), 3) := by decide +kernel
theorem dX0_extreme_60 : decode cX0_extreme 60 = .ok (.iload_n 3, 1) := by decide +kernel
theorem dX0_extreme_61 : decode cX0_extreme 61 = .ok (.ireturn, 1) := by decide +kernel
abbrev cX0_has : ByteArray := prog_1_method_32_code
def yX0_has : MethodName := ⟨RX0, "has", "(II)Z"⟩
theorem dX0_has_0 : decode cX0_has 0 = .ok (.iload_n 1, 1) := by decide +kernel
theorem dX0_has_1 : decode cX0_has 1 = .ok (.istore_n 3, 1) := by decide +kernel
theorem dX0_has_2 : decode cX0_has 2 = .ok (.iload_n 3, 1) := by decide +kernel
theorem dX0_has_3 : decode cX0_has 3 = .ok (.ifCond .eq 27, 3) := by decide +kernel
theorem dX0_has_6 : decode cX0_has 6 = .ok (.aload_n 0, 1) := by decide +kernel
theorem dX0_has_7 : decode cX0_has 7 = .ok (.getfield 51, 3) := by decide +kernel
theorem dX0_has_10 : decode cX0_has 10 = .ok (.iload_n 3, 1) := by decide +kernel
theorem dX0_has_11 : decode cX0_has 11 = .ok (.invokestatic 197, 3) := by decide +kernel
theorem dX0_has_14 : decode cX0_has 14 = .ok (.iaload, 1) := by decide +kernel
theorem dX0_has_15 : decode cX0_has 15 = .ok (.iload_n 2, 1) := by decide +kernel
theorem dX0_has_16 : decode cX0_has 16 = .ok (.if_icmp .ne 5, 3) := by decide +kernel
theorem dX0_has_19 : decode cX0_has 19 = .ok (.iconst 1, 1) := by decide +kernel
theorem dX0_has_20 : decode cX0_has 20 = .ok (.ireturn, 1) := by decide +kernel
theorem dX0_has_21 : decode cX0_has 21 = .ok (.iload_n 3, 1) := by decide +kernel
theorem dX0_has_22 : decode cX0_has 22 = .ok (.iload_n 3, 1) := by decide +kernel
theorem dX0_has_23 : decode cX0_has 23 = .ok (.iconst 1, 1) := by decide +kernel
theorem dX0_has_24 : decode cX0_has 24 = .ok (.isub, 1) := by decide +kernel
theorem dX0_has_25 : decode cX0_has 25 = .ok (.iand, 1) := by decide +kernel
theorem dX0_has_26 : decode cX0_has 26 = .ok (.istore_n 3, 1) := by decide +kernel
theorem dX0_has_27 : decode cX0_has 27 = .ok (.goto (-25), 3) := by decide +kernel
theorem dX0_has_30 : decode cX0_has 30 = .ok (.iconst 0, 1) := by decide +kernel
theorem dX0_has_31 : decode cX0_has 31 = .ok (.ireturn, 1) := by decide +kernel
abbrev cX0_fill : ByteArray := prog_1_method_26_code
def yX0_fill : MethodName := ⟨RX0, "fill", "(II)V"⟩
theorem dX0_fill_0 : decode cX0_fill 0 = .ok (.aload_n 0, 1) := by decide +kernel
theorem dX0_fill_1 : decode cX0_fill 1 = .ok (.getfield 54, 3) := by decide +kernel
theorem dX0_fill_4 : decode cX0_fill 4 = .ok (.iload_n 1, 1) := by decide +kernel
theorem dX0_fill_5 : decode cX0_fill 5 = .ok (.iload_n 2, 1) := by decide +kernel
theorem dX0_fill_6 : decode cX0_fill 6 = .ok (.iadd, 1) := by decide +kernel
theorem dX0_fill_7 : decode cX0_fill 7 = .ok (.baload, 1) := by decide +kernel
theorem dX0_fill_8 : decode cX0_fill 8 = .ok (.istore_n 3, 1) := by decide +kernel
theorem dX0_fill_9 : decode cX0_fill 9 = .ok (.iload_n 3, 1) := by decide +kernel
theorem dX0_fill_10 : decode cX0_fill 10 = .ok (.iconst 0, 1) := by decide +kernel
theorem dX0_fill_11 : decode cX0_fill 11 = .ok (.invokestatic 157, 3) := by decide +kernel
theorem dX0_fill_14 : decode cX0_fill 14 = .ok (.istore 4, 2) := by decide +kernel
theorem dX0_fill_16 : decode cX0_fill 16 = .ok (.iload_n 2, 1) := by decide +kernel
theorem dX0_fill_17 : decode cX0_fill 17 = .ok (.iconst 1, 1) := by decide +kernel
theorem dX0_fill_18 : decode cX0_fill 18 = .ok (.iadd, 1) := by decide +kernel
theorem dX0_fill_19 : decode cX0_fill 19 = .ok (.istore 5, 2) := by decide +kernel
theorem dX0_fill_21 : decode cX0_fill 21 = .ok (.iload 4, 2) := by decide +kernel
theorem dX0_fill_23 : decode cX0_fill 23 = .ok (.iconst 1, 1) := by decide +kernel
theorem dX0_fill_24 : decode cX0_fill 24 = .ok (.if_icmp .le 15, 3) := by decide +kernel
theorem dX0_fill_27 : decode cX0_fill 27 = .ok (.aload_n 0, 1) := by decide +kernel
theorem dX0_fill_28 : decode cX0_fill 28 = .ok (.getfield 63, 3) := by decide +kernel
theorem dX0_fill_31 : decode cX0_fill 31 = .ok (.iload_n 1, 1) := by decide +kernel
theorem dX0_fill_32 : decode cX0_fill 32 = .ok (.iload 5, 2) := by decide +kernel
theorem dX0_fill_34 : decode cX0_fill 34 = .ok (.iadd, 1) := by decide +kernel
theorem dX0_fill_35 : decode cX0_fill 35 = .ok (.baload, 1) := by decide +kernel
theorem dX0_fill_36 : decode cX0_fill 36 = .ok (.goto 4, 3) := by decide +kernel
theorem dX0_fill_39 : decode cX0_fill 39 = .ok (.iconst 0, 1) := by decide +kernel
theorem dX0_fill_40 : decode cX0_fill 40 = .ok (.istore 6, 2) := by decide +kernel
theorem dX0_fill_42 : decode cX0_fill 42 = .ok (.iconst 0, 1) := by decide +kernel
theorem dX0_fill_43 : decode cX0_fill 43 = .ok (.istore 7, 2) := by decide +kernel
theorem dX0_fill_45 : decode cX0_fill 45 = .ok (.iload 7, 2) := by decide +kernel
theorem dX0_fill_47 : decode cX0_fill 47 = .ok (.aload_n 0, 1) := by decide +kernel
theorem dX0_fill_48 : decode cX0_fill 48 = .ok (.getfield 129, 3) := by decide +kernel
theorem dX0_fill_51 : decode cX0_fill 51 = .ok (.if_icmp .ge 143, 3) := by decide +kernel
theorem dX0_fill_54 : decode cX0_fill 54 = .ok (.iload 4, 2) := by decide +kernel
theorem dX0_fill_56 : decode cX0_fill 56 = .ok (.ifCond .le 19, 3) := by decide +kernel
theorem dX0_fill_59 : decode cX0_fill 59 = .ok (.aload_n 0, 1) := by decide +kernel
theorem dX0_fill_60 : decode cX0_fill 60 = .ok (.getfield 76, 3) := by decide +kernel
theorem dX0_fill_63 : decode cX0_fill 63 = .ok (.bipush 24, 2) := by decide +kernel
theorem dX0_fill_65 : decode cX0_fill 65 = .ok (.iload 5, 2) := by decide +kernel
theorem dX0_fill_67 : decode cX0_fill 67 = .ok (.imul, 1) := by decide +kernel
theorem dX0_fill_68 : decode cX0_fill 68 = .ok (.iload 7, 2) := by decide +kernel
theorem dX0_fill_70 : decode cX0_fill 70 = .ok (.iadd, 1) := by decide +kernel
theorem dX0_fill_71 : decode cX0_fill 71 = .ok (.iaload, 1) := by decide +kernel
theorem dX0_fill_72 : decode cX0_fill 72 = .ok (.goto 4, 3) := by decide +kernel
theorem dX0_fill_75 : decode cX0_fill 75 = .ok (.iconst 0, 1) := by decide +kernel
theorem dX0_fill_76 : decode cX0_fill 76 = .ok (.istore 8, 2) := by decide +kernel
theorem dX0_fill_78 : decode cX0_fill 78 = .ok (.iload 4, 2) := by decide +kernel
theorem dX0_fill_80 : decode cX0_fill 80 = .ok (.iconst 1, 1) := by decide +kernel
theorem dX0_fill_81 : decode cX0_fill 81 = .ok (.if_icmp .le 19, 3) := by decide +kernel
theorem dX0_fill_84 : decode cX0_fill 84 = .ok (.aload_n 0, 1) := by decide +kernel
theorem dX0_fill_85 : decode cX0_fill 85 = .ok (.getfield 76, 3) := by decide +kernel
theorem dX0_fill_88 : decode cX0_fill 88 = .ok (.bipush 24, 2) := by decide +kernel
theorem dX0_fill_90 : decode cX0_fill 90 = .ok (.iload 6, 2) := by decide +kernel
theorem dX0_fill_92 : decode cX0_fill 92 = .ok (.imul, 1) := by decide +kernel
theorem dX0_fill_93 : decode cX0_fill 93 = .ok (.iload 7, 2) := by decide +kernel
theorem dX0_fill_95 : decode cX0_fill 95 = .ok (.iadd, 1) := by decide +kernel
theorem dX0_fill_96 : decode cX0_fill 96 = .ok (.iaload, 1) := by decide +kernel
theorem dX0_fill_97 : decode cX0_fill 97 = .ok (.goto 4, 3) := by decide +kernel
theorem dX0_fill_100 : decode cX0_fill 100 = .ok (.iconst 0, 1) := by decide +kernel
theorem dX0_fill_101 : decode cX0_fill 101 = .ok (.istore 9, 2) := by decide +kernel
theorem dX0_fill_103 : decode cX0_fill 103 = .ok (.aload_n 0, 1) := by decide +kernel
theorem dX0_fill_104 : decode cX0_fill 104 = .ok (.getfield 76, 3) := by decide +kernel
theorem dX0_fill_107 : decode cX0_fill 107 = .ok (.bipush 24, 2) := by decide +kernel
theorem dX0_fill_109 : decode cX0_fill 109 = .ok (.iload_n 2, 1) := by decide +kernel
theorem dX0_fill_110 : decode cX0_fill 110 = .ok (.imul, 1) := by decide +kernel
theorem dX0_fill_111 : decode cX0_fill 111 = .ok (.iload 7, 2) := by decide +kernel
theorem dX0_fill_113 : decode cX0_fill 113 = .ok (.iadd, 1) := by decide +kernel
theorem dX0_fill_114 : decode cX0_fill 114 = .ok (.iload_n 3, 1) := by decide +kernel
theorem dX0_fill_115 : decode cX0_fill 115 = .ok (.ifCond .ne 10, 3) := by decide +kernel
theorem dX0_fill_118 : decode cX0_fill 118 = .ok (.iconst 1, 1) := by decide +kernel
theorem dX0_fill_119 : decode cX0_fill 119 = .ok (.iload 7, 2) := by decide +kernel
theorem dX0_fill_121 : decode cX0_fill 121 = .ok (.ishl, 1) := by decide +kernel
theorem dX0_fill_122 : decode cX0_fill 122 = .ok (.goto 65, 3) := by decide +kernel
theorem dX0_fill_125 : decode cX0_fill 125 = .ok (.iload_n 3, 1) := by decide +kernel
theorem dX0_fill_126 : decode cX0_fill 126 = .ok (.iconst 1, 1) := by decide +kernel
theorem dX0_fill_127 : decode cX0_fill 127 = .ok (.if_icmp .ne 7, 3) := by decide +kernel
theorem dX0_fill_130 : decode cX0_fill 130 = .ok (.iconst 1, 1) := by decide +kernel
theorem dX0_fill_131 : decode cX0_fill 131 = .ok (.goto 56, 3) := by decide +kernel
theorem dX0_fill_134 : decode cX0_fill 134 = .ok (.iload 4, 2) := by decide +kernel
theorem dX0_fill_136 : decode cX0_fill 136 = .ok (.ifCond .ne 14, 3) := by decide +kernel
theorem dX0_fill_139 : decode cX0_fill 139 = .ok (.aload_n 0, 1) := by decide +kernel
theorem dX0_fill_140 : decode cX0_fill 140 = .ok (.getfield 57, 3) := by decide +kernel
theorem dX0_fill_143 : decode cX0_fill 143 = .ok (.iload_n 1, 1) := by decide +kernel
theorem dX0_fill_144 : decode cX0_fill 144 = .ok (.iload_n 2, 1) := by decide +kernel
theorem dX0_fill_145 : decode cX0_fill 145 = .ok (.iadd, 1) := by decide +kernel
theorem dX0_fill_146 : decode cX0_fill 146 = .ok (.iaload, 1) := by decide +kernel
theorem dX0_fill_147 : decode cX0_fill 147 = .ok (.goto 40, 3) := by decide +kernel
theorem dX0_fill_150 : decode cX0_fill 150 = .ok (.aload_n 0, 1) := by decide +kernel
theorem dX0_fill_151 : decode cX0_fill 151 = .ok (.iload_n 3, 1) := by decide +kernel
theorem dX0_fill_152 : decode cX0_fill 152 = .ok (.iload 8, 2) := by decide +kernel
theorem dX0_fill_154 : decode cX0_fill 154 = .ok (.aload_n 0, 1) := by decide +kernel
theorem dX0_fill_155 : decode cX0_fill 155 = .ok (.getfield 60, 3) := by decide +kernel
theorem dX0_fill_158 : decode cX0_fill 158 = .ok (.iload_n 1, 1) := by decide +kernel
theorem dX0_fill_159 : decode cX0_fill 159 = .ok (.iload 5, 2) := by decide +kernel
theorem dX0_fill_161 : decode cX0_fill 161 = .ok (.iadd, 1) := by decide +kernel
theorem dX0_fill_162 : decode cX0_fill 162 = .ok (.baload, 1) := by decide +kernel
theorem dX0_fill_163 : decode cX0_fill 163 = .ok (.iload 9, 2) := by decide +kernel
theorem dX0_fill_165 : decode cX0_fill 165 = .ok (.iload 4, 2) := by decide +kernel
theorem dX0_fill_167 : decode cX0_fill 167 = .ok (.iconst 1, 1) := by decide +kernel
theorem dX0_fill_168 : decode cX0_fill 168 = .ok (.if_icmp .le 15, 3) := by decide +kernel
theorem dX0_fill_171 : decode cX0_fill 171 = .ok (.aload_n 0, 1) := by decide +kernel
theorem dX0_fill_172 : decode cX0_fill 172 = .ok (.getfield 60, 3) := by decide +kernel
theorem dX0_fill_175 : decode cX0_fill 175 = .ok (.iload_n 1, 1) := by decide +kernel
theorem dX0_fill_176 : decode cX0_fill 176 = .ok (.iload 6, 2) := by decide +kernel
theorem dX0_fill_178 : decode cX0_fill 178 = .ok (.iadd, 1) := by decide +kernel
theorem dX0_fill_179 : decode cX0_fill 179 = .ok (.baload, 1) := by decide +kernel
theorem dX0_fill_180 : decode cX0_fill 180 = .ok (.goto 4, 3) := by decide +kernel
theorem dX0_fill_183 : decode cX0_fill 183 = .ok (.iconst 1, 1) := by decide +kernel
theorem dX0_fill_184 : decode cX0_fill 184 = .ok (.invokevirtual 182, 3) := by decide +kernel
theorem dX0_fill_187 : decode cX0_fill 187 = .ok (.iastore, 1) := by decide +kernel
theorem dX0_fill_188 : decode cX0_fill 188 = .ok (.iinc 7 1, 3) := by decide +kernel
theorem dX0_fill_191 : decode cX0_fill 191 = .ok (.goto (-146), 3) := by decide +kernel
theorem dX0_fill_194 : decode cX0_fill 194 = .ok (.return_, 1) := by decide +kernel
abbrev cX0_at : ByteArray := prog_1_method_39_code
def yX0_at : MethodName := ⟨RX0, "at", "(III)I"⟩
theorem dX0_at_0 : decode cX0_at 0 = .ok (.aload_n 0, 1) := by decide +kernel
theorem dX0_at_1 : decode cX0_at 1 = .ok (.iload_n 1, 1) := by decide +kernel
theorem dX0_at_2 : decode cX0_at 2 = .ok (.iload_n 2, 1) := by decide +kernel
