set_option maxRecDepth 100000
theorem dX1_prepare_269 : decode cX1_prepare 269 = .ok (.iastore, 1) := by decide +kernel
theorem dX1_prepare_270 : decode cX1_prepare 270 = .ok (.iinc 8 1, 3) := by decide +kernel
theorem dX1_prepare_273 : decode cX1_prepare 273 = .ok (.goto (-47), 3) := by decide +kernel
theorem dX1_prepare_276 : decode cX1_prepare 276 = .ok (.iinc 5 1, 3) := by decide +kernel
theorem dX1_prepare_279 : decode cX1_prepare 279 = .ok (.goto (-89), 3) := by decide +kernel
theorem dX1_prepare_282 : decode cX1_prepare 282 = .ok (.iinc 2 (-1), 3) := by decide +kernel
theorem dX1_prepare_285 : decode cX1_prepare 285 = .ok (.goto (-259), 3) := by decide +kernel
theorem dX1_prepare_288 : decode cX1_prepare 288 = .ok (.return_, 1) := by decide +kernel
abbrev cX1_endOf : ByteArray := prog_3_method_17_code
def yX1_endOf : MethodName := ⟨RX1, "endOf", "(I)I"⟩
theorem dX1_endOf_0 : decode cX1_endOf 0 = .ok (.iconst 1, 1) := by decide +kernel
theorem dX1_endOf_1 : decode cX1_endOf 1 = .ok (.istore_n 2, 1) := by decide +kernel
theorem dX1_endOf_2 : decode cX1_endOf 2 = .ok (.iload_n 1, 1) := by decide +kernel
theorem dX1_endOf_3 : decode cX1_endOf 3 = .ok (.istore_n 3, 1) := by decide +kernel
theorem dX1_endOf_4 : decode cX1_endOf 4 = .ok (.iload_n 2, 1) := by decide +kernel
theorem dX1_endOf_5 : decode cX1_endOf 5 = .ok (.ifCond .le 29, 3) := by decide +kernel
theorem dX1_endOf_8 : decode cX1_endOf 8 = .ok (.iload_n 2, 1) := by decide +kernel
theorem dX1_endOf_9 : decode cX1_endOf 9 = .ok (.aload_n 0, 1) := by decide +kernel
theorem dX1_endOf_10 : decode cX1_endOf 10 = .ok (.getfield 25, 3) := by decide +kernel
theorem dX1_endOf_13 : decode cX1_endOf 13 = .ok (.iload_n 3, 1) := by decide +kernel
theorem dX1_endOf_14 : decode cX1_endOf 14 = .ok (.iaload, 1) := by decide +kernel
theorem dX1_endOf_15 : decode cX1_endOf 15 = .ok (.aload_n 0, 1) := by decide +kernel
theorem dX1_endOf_16 : decode cX1_endOf 16 = .ok (.getfield 28, 3) := by decide +kernel
theorem dX1_endOf_19 : decode cX1_endOf 19 = .ok (.iload_n 3, 1) := by decide +kernel
theorem dX1_endOf_20 : decode cX1_endOf 20 = .ok (.iaload, 1) := by decide +kernel
theorem dX1_endOf_21 : decode cX1_endOf 21 = .ok (.invokestatic 103, 3) := by decide +kernel
theorem dX1_endOf_24 : decode cX1_endOf 24 = .ok (.iconst 1, 1) := by decide +kernel
theorem dX1_endOf_25 : decode cX1_endOf 25 = .ok (.isub, 1) := by decide +kernel
theorem dX1_endOf_26 : decode cX1_endOf 26 = .ok (.iadd, 1) := by decide +kernel
theorem dX1_endOf_27 : decode cX1_endOf 27 = .ok (.istore_n 2, 1) := by decide +kernel
theorem dX1_endOf_28 : decode cX1_endOf 28 = .ok (.iinc 3 1, 3) := by decide +kernel
theorem dX1_endOf_31 : decode cX1_endOf 31 = .ok (.goto (-27), 3) := by decide +kernel
theorem dX1_endOf_34 : decode cX1_endOf 34 = .ok (.iload_n 3, 1) := by decide +kernel
theorem dX1_endOf_35 : decode cX1_endOf 35 = .ok (.ireturn, 1) := by decide +kernel
abbrev cX1_step : ByteArray := prog_3_method_21_code
def yX1_step : MethodName := ⟨RX1, "step", "(III)I"⟩
theorem dX1_step_0 : decode cX1_step 0 = .ok (.aload_n 0, 1) := by decide +kernel
theorem dX1_step_1 : decode cX1_step 1 = .ok (.getfield 28, 3) := by decide +kernel
theorem dX1_step_4 : decode cX1_step 4 = .ok (.bipush 40, 2) := by decide +kernel
theorem dX1_step_6 : decode cX1_step 6 = .ok (.iload_n 1, 1) := by decide +kernel
theorem dX1_step_7 : decode cX1_step 7 = .ok (.imul, 1) := by decide +kernel
theorem dX1_step_8 : decode cX1_step 8 = .ok (.iload_n 2, 1) := by decide +kernel
theorem dX1_step_9 : decode cX1_step 9 = .ok (.iadd, 1) := by decide +kernel
theorem dX1_step_10 : decode cX1_step 10 = .ok (.iaload, 1) := by decide +kernel
theorem dX1_step_11 : decode cX1_step 11 = .ok (.istore 4, 2) := by decide +kernel
theorem dX1_step_13 : decode cX1_step 13 = .ok (.iload 4, 2) := by decide +kernel
theorem dX1_step_15 : decode cX1_step 15 = .ok (.bipush 15, 2) := by decide +kernel
theorem dX1_step_17 : decode cX1_step 17 = .ok (.iand, 1) := by decide +kernel
theorem dX1_step_18 : decode cX1_step 18 = .ok (.istore 5, 2) := by decide +kernel
theorem dX1_step_20 : decode cX1_step 20 = .ok (.iload 5, 2) := by decide +kernel
theorem dX1_step_22 : decode cX1_step 22 = .ok (.ifCond .le 14, 3) := by decide +kernel
theorem dX1_step_25 : decode cX1_step 25 = .ok (.iload 5, 2) := by decide +kernel
theorem dX1_step_27 : decode cX1_step 27 = .ok (.iconst 2, 1) := by decide +kernel
theorem dX1_step_28 : decode cX1_step 28 = .ok (.irem, 1) := by decide +kernel
theorem dX1_step_29 : decode cX1_step 29 = .ok (.ifCond .ne 7, 3) := by decide +kernel
theorem dX1_step_32 : decode cX1_step 32 = .ok (.iconst 1, 1) := by decide +kernel
theorem dX1_step_33 : decode cX1_step 33 = .ok (.goto 4, 3) := by decide +kernel
theorem dX1_step_36 : decode cX1_step 36 = .ok (.iconst 0, 1) := by decide +kernel
theorem dX1_step_37 : decode cX1_step 37 = .ok (.istore 6, 2) := by decide +kernel
theorem dX1_step_39 : decode cX1_step 39 = .ok (.iload 4, 2) := by decide +kernel
theorem dX1_step_41 : decode cX1_step 41 = .ok (.iconst 4, 1) := by decide +kernel
theorem dX1_step_42 : decode cX1_step 42 = .ok (.ishr, 1) := by decide +kernel
theorem dX1_step_43 : decode cX1_step 43 = .ok (.bipush 7, 2) := by decide +kernel
theorem dX1_step_45 : decode cX1_step 45 = .ok (.iand, 1) := by decide +kernel
theorem dX1_step_46 : decode cX1_step 46 = .ok (.istore 7, 2) := by decide +kernel
theorem dX1_step_48 : decode cX1_step 48 = .ok (.aload_n 0, 1) := by decide +kernel
theorem dX1_step_49 : decode cX1_step 49 = .ok (.iconst 0, 1) := by decide +kernel
theorem dX1_step_50 : decode cX1_step 50 = .ok (.putfield 119, 3) := by decide +kernel
theorem dX1_step_53 : decode cX1_step 53 = .ok (.iconst 0, 1) := by decide +kernel
theorem dX1_step_54 : decode cX1_step 54 = .ok (.istore 8, 2) := by decide +kernel
theorem dX1_step_56 : decode cX1_step 56 = .ok (.iload 8, 2) := by decide +kernel
theorem dX1_step_58 : decode cX1_step 58 = .ok (.aload_n 0, 1) := by decide +kernel
theorem dX1_step_59 : decode cX1_step 59 = .ok (.getfield 77, 3) := by decide +kernel
theorem dX1_step_62 : decode cX1_step 62 = .ok (.if_icmp .ge 88, 3) := by decide +kernel
theorem dX1_step_65 : decode cX1_step 65 = .ok (.aload_n 0, 1) := by decide +kernel
theorem dX1_step_66 : decode cX1_step 66 = .ok (.getfield 7, 3) := by decide +kernel
theorem dX1_step_69 : decode cX1_step 69 = .ok (.iload 6, 2) := by decide +kernel
theorem dX1_step_71 : decode cX1_step 71 = .ok (.ifCond .eq 15, 3) := by decide +kernel
theorem dX1_step_74 : decode cX1_step 74 = .ok (.aload_n 0, 1) := by decide +kernel
theorem dX1_step_75 : decode cX1_step 75 = .ok (.getfield 77, 3) := by decide +kernel
theorem dX1_step_78 : decode cX1_step 78 = .ok (.iconst 1, 1) := by decide +kernel
theorem dX1_step_79 : decode cX1_step 79 = .ok (.isub, 1) := by decide +kernel
theorem dX1_step_80 : decode cX1_step 80 = .ok (.iload 8, 2) := by decide +kernel
theorem dX1_step_82 : decode cX1_step 82 = .ok (.isub, 1) := by decide +kernel
theorem dX1_step_83 : decode cX1_step 83 = .ok (.goto 5, 3) := by decide +kernel
theorem dX1_step_86 : decode cX1_step 86 = .ok (.iload 8, 2) := by decide +kernel
theorem dX1_step_88 : decode cX1_step 88 = .ok (.iaload, 1) := by decide +kernel
theorem dX1_step_89 : decode cX1_step 89 = .ok (.istore 9, 2) := by decide +kernel
theorem dX1_step_91 : decode cX1_step 91 = .ok (.aload_n 0, 1) := by decide +kernel
theorem dX1_step_92 : decode cX1_step 92 = .ok (.iload 5, 2) := by decide +kernel
theorem dX1_step_94 : decode cX1_step 94 = .ok (.iload_n 3, 1) := by decide +kernel
theorem dX1_step_95 : decode cX1_step 95 = .ok (.iload 9, 2) := by decide +kernel
theorem dX1_step_97 : decode cX1_step 97 = .ok (.invokevirtual 122, 3) := by decide +kernel
theorem dX1_step_100 : decode cX1_step 100 = .ok (.istore 10, 2) := by decide +kernel
theorem dX1_step_102 : decode cX1_step 102 = .ok (.iload 10, 2) := by decide +kernel
theorem dX1_step_104 : decode cX1_step 104 = .ok (.ifCond .eq 40, 3) := by decide +kernel
theorem dX1_step_107 : decode cX1_step 107 = .ok (.iload 7, 2) := by decide +kernel
theorem dX1_step_109 : decode cX1_step 109 = .ok (.bipush 6, 2) := by decide +kernel
theorem dX1_step_111 : decode cX1_step 111 = .ok (.if_icmp .eq 15, 3) := by decide +kernel
theorem dX1_step_114 : decode cX1_step 114 = .ok (.aload_n 0, 1) := by decide +kernel
theorem dX1_step_115 : decode cX1_step 115 = .ok (.getfield 16, 3) := by decide +kernel
theorem dX1_step_118 : decode cX1_step 118 = .ok (.iload 9, 2) := by decide +kernel
theorem dX1_step_120 : decode cX1_step 120 = .ok (.iaload, 1) := by decide +kernel
theorem dX1_step_121 : decode cX1_step 121 = .ok (.iload 7, 2) := by decide +kernel
theorem dX1_step_123 : decode cX1_step 123 = .ok (.if_icmp .ne 21, 3) := by decide +kernel
theorem dX1_step_126 : decode cX1_step 126 = .ok (.aload_n 0, 1) := by decide +kernel
theorem dX1_step_127 : decode cX1_step 127 = .ok (.getfield 50, 3) := by decide +kernel
theorem dX1_step_130 : decode cX1_step 130 = .ok (.aload_n 0, 1) := by decide +kernel
theorem dX1_step_131 : decode cX1_step 131 = .ok (.dup, 1) := by decide +kernel
theorem dX1_step_132 : decode cX1_step 132 = .ok (.getfield 119, 3) := by decide +kernel
theorem dX1_step_135 : decode cX1_step 135 = .ok (.dup_x1, 1) := by decide +kernel
theorem dX1_step_136 : decode cX1_step 136 = .ok (.iconst 1, 1) := by decide +kernel
theorem dX1_step_137 : decode cX1_step 137 = .ok (.iadd, 1) := by decide +kernel
theorem dX1_step_138 : decode cX1_step 138 = .ok (.putfield 119, 3) := by decide +kernel
theorem dX1_step_141 : decode cX1_step 141 = .ok (.iload 9, 2) := by decide +kernel
theorem dX1_step_143 : decode cX1_step 143 = .ok (.iastore, 1) := by decide +kernel
theorem dX1_step_144 : decode cX1_step 144 = .ok (.iinc 8 1, 3) := by decide +kernel
theorem dX1_step_147 : decode cX1_step 147 = .ok (.goto (-91), 3) := by decide +kernel
theorem dX1_step_150 : decode cX1_step 150 = .ok (.aload_n 0, 1) := by decide +kernel
theorem dX1_step_151 : decode cX1_step 151 = .ok (.bipush 40, 2) := by decide +kernel
theorem dX1_step_153 : decode cX1_step 153 = .ok (.iload_n 1, 1) := by decide +kernel
theorem dX1_step_154 : decode cX1_step 154 = .ok (.imul, 1) := by decide +kernel
theorem dX1_step_155 : decode cX1_step 155 = .ok (.iload_n 2, 1) := by decide +kernel
theorem dX1_step_156 : decode cX1_step 156 = .ok (.iadd, 1) := by decide +kernel
theorem dX1_step_157 : decode cX1_step 157 = .ok (.iconst 1, 1) := by decide +kernel
theorem dX1_step_158 : decode cX1_step 158 = .ok (.iadd, 1) := by decide +kernel
theorem dX1_step_159 : decode cX1_step 159 = .ok (.invokevirtual 125, 3) := by decide +kernel
theorem dX1_step_162 : decode cX1_step 162 = .ok (.istore 8, 2) := by decide +kernel
theorem dX1_step_164 : decode cX1_step 164 = .ok (.iconst 0, 1) := by decide +kernel
theorem dX1_step_165 : decode cX1_step 165 = .ok (.istore 9, 2) := by decide +kernel
theorem dX1_step_167 : decode cX1_step 167 = .ok (.iload 9, 2) := by decide +kernel
theorem dX1_step_169 : decode cX1_step 169 = .ok (.iload 4, 2) := by decide +kernel
theorem dX1_step_171 : decode cX1_step 171 = .ok (.bipush 7, 2) := by decide +kernel
theorem dX1_step_173 : decode cX1_step 173 = .ok (.ishr, 1) := by decide +kernel
theorem dX1_step_174 : decode cX1_step 174 = .ok (.if_icmp .ge 29, 3) := by decide +kernel
theorem dX1_step_177 : decode cX1_step 177 = .ok (.aload_n 0, 1) := by decide +kernel
theorem dX1_step_178 : decode cX1_step 178 = .ok (.iload_n 1, 1) := by decide +kernel
theorem dX1_step_179 : decode cX1_step 179 = .ok (.iload 8, 2) := by decide +kernel
theorem dX1_step_181 : decode cX1_step 181 = .ok (.bipush 40, 2) := by decide +kernel
theorem dX1_step_183 : decode cX1_step 183 = .ok (.iload_n 1, 1) := by decide +kernel
theorem dX1_step_184 : decode cX1_step 184 = .ok (.imul, 1) := by decide +kernel
theorem dX1_step_185 : decode cX1_step 185 = .ok (.isub, 1) := by decide +kernel
theorem dX1_step_186 : decode cX1_step 186 = .ok (.invokevirtual 128, 3) := by decide +kernel
theorem dX1_step_189 : decode cX1_step 189 = .ok (.aload_n 0, 1) := by decide +kernel
theorem dX1_step_190 : decode cX1_step 190 = .ok (.iload 8, 2) := by decide +kernel
theorem dX1_step_192 : decode cX1_step 192 = .ok (.invokevirtual 125, 3) := by decide +kernel
theorem dX1_step_195 : decode cX1_step 195 = .ok (.istore 8, 2) := by decide +kernel
theorem dX1_step_197 : decode cX1_step 197 = .ok (.iinc 9 1, 3) := by decide +kernel
theorem dX1_step_200 : decode cX1_step 200 = .ok (.goto (-33), 3) := by decide +kernel
theorem dX1_step_203 : decode cX1_step 203 = .ok (.iconst 0, 1) := by decide +kernel
theorem dX1_step_204 : decode cX1_step 204 = .ok (.istore 9, 2) := by decide +kernel
theorem dX1_step_206 : decode cX1_step 206 = .ok (.iconst 0, 1) := by decide +kernel
theorem dX1_step_207 : decode cX1_step 207 = .ok (.istore 10, 2) := by decide +kernel
theorem dX1_step_209 : decode cX1_step 209 = .ok (.iload 10, 2) := by decide +kernel
theorem dX1_step_211 : decode cX1_step 211 = .ok (.aload_n 0, 1) := by decide +kernel
theorem dX1_step_212 : decode cX1_step 212 = .ok (.getfield 119, 3) := by decide +kernel
theorem dX1_step_215 : decode cX1_step 215 = .ok (.if_icmp .ge 23, 3) := by decide +kernel
theorem dX1_step_218 : decode cX1_step 218 = .ok (.iload 9, 2) := by decide +kernel
theorem dX1_step_220 : decode cX1_step 220 = .ok (.iconst 1, 1) := by decide +kernel
theorem dX1_step_221 : decode cX1_step 221 = .ok (.aload_n 0, 1) := by decide +kernel
theorem dX1_step_222 : decode cX1_step 222 = .ok (.getfield 50, 3) := by decide +kernel
theorem dX1_step_225 : decode cX1_step 225 = .ok (.iload 10, 2) := by decide +kernel
theorem dX1_step_227 : decode cX1_step 227 = .ok (.iaload, 1) := by decide +kernel
theorem dX1_step_228 : decode cX1_step 228 = .ok (.ishl, 1) := by decide +kernel
theorem dX1_step_229 : decode cX1_step 229 = .ok (.ior, 1) := by decide +kernel
theorem dX1_step_230 : decode cX1_step 230 = .ok (.istore 9, 2) := by decide +kernel
theorem dX1_step_232 : decode cX1_step 232 = .ok (.iinc 10 1, 3) := by decide +kernel
theorem dX1_step_235 : decode cX1_step 235 = .ok (.goto (-26), 3) := by decide +kernel
theorem dX1_step_238 : decode cX1_step 238 = .ok (.iload 9, 2) := by decide +kernel
theorem dX1_step_240 : decode cX1_step 240 = .ok (.ireturn, 1) := by decide +kernel
abbrev cX1_isOn : ByteArray := prog_3_method_20_code
def yX1_isOn : MethodName := ⟨RX1, "isOn", "(III)Z"⟩
theorem dX1_isOn_0 : decode cX1_isOn 0 = .ok (.aload_n 0, 1) := by decide +kernel
theorem dX1_isOn_1 : decode cX1_isOn 1 = .ok (.iload_n 2, 1) := by decide +kernel
theorem dX1_isOn_2 : decode cX1_isOn 2 = .ok (.invokevirtual 81, 3) := by decide +kernel
theorem dX1_isOn_5 : decode cX1_isOn 5 = .ok (.istore 4, 2) := by decide +kernel
theorem dX1_isOn_7 : decode cX1_isOn 7 = .ok (.aload_n 0, 1) := by decide +kernel
theorem dX1_isOn_8 : decode cX1_isOn 8 = .ok (.iload_n 3, 1) := by decide +kernel
theorem dX1_isOn_9 : decode cX1_isOn 9 = .ok (.invokevirtual 81, 3) := by decide +kernel
theorem dX1_isOn_12 : decode cX1_isOn 12 = .ok (.istore 5, 2) := by decide +kernel
theorem dX1_isOn_14 : decode cX1_isOn 14 = .ok (.iload 5, 2) := by decide +kernel
theorem dX1_isOn_16 : decode cX1_isOn 16 = .ok (.iload 4, 2) := by decide +kernel
theorem dX1_isOn_18 : decode cX1_isOn 18 = .ok (.if_icmp .le 18, 3) := by decide +kernel
theorem dX1_isOn_21 : decode cX1_isOn 21 = .ok (.iload 5, 2) := by decide +kernel
theorem dX1_isOn_23 : decode cX1_isOn 23 = .ok (.aload_n 0, 1) := by decide +kernel
theorem dX1_isOn_24 : decode cX1_isOn 24 = .ok (.iload 4, 2) := by decide +kernel
theorem dX1_isOn_26 : decode cX1_isOn 26 = .ok (.invokevirtual 85, 3) := by decide +kernel
theorem dX1_isOn_29 : decode cX1_isOn 29 = .ok (.if_icmp .ge 7, 3) := by decide +kernel
theorem dX1_isOn_32 : decode cX1_isOn 32 = .ok (.iconst 1, 1) := by decide +kernel
theorem dX1_isOn_33 : decode cX1_isOn 33 = .ok (.goto 4, 3) := by decide +kernel
theorem dX1_isOn_36 : decode cX1_isOn 36 = .ok (.iconst 0, 1) := by decide +kernel
theorem dX1_isOn_37 : decode cX1_isOn 37 = .ok (.istore 6, 2) := by decide +kernel
theorem dX1_isOn_39 : decode cX1_isOn 39 = .ok (.iload 4, 2) := by decide +kernel
theorem dX1_isOn_41 : decode cX1_isOn 41 = .ok (.iload 5, 2) := by decide +kernel
theorem dX1_isOn_43 : decode cX1_isOn 43 = .ok (.if_icmp .le 18, 3) := by decide +kernel
theorem dX1_isOn_46 : decode cX1_isOn 46 = .ok (.iload 4, 2) := by decide +kernel
theorem dX1_isOn_48 : decode cX1_isOn 48 = .ok (.aload_n 0, 1) := by decide +kernel
theorem dX1_isOn_49 : decode cX1_isOn 49 = .ok (.iload 5, 2) := by decide +kernel
theorem dX1_isOn_51 : decode cX1_isOn 51 = .ok (.invokevirtual 85, 3) := by decide +kernel
theorem dX1_isOn_54 : decode cX1_isOn 54 = .ok (.if_icmp .ge 7, 3) := by decide +kernel
theorem dX1_isOn_57 : decode cX1_isOn 57 = .ok (.iconst 1, 1) := by decide +kernel
theorem dX1_isOn_58 : decode cX1_isOn 58 = .ok (.goto 4, 3) := by decide +kernel
theorem dX1_isOn_61 : decode cX1_isOn 61 = .ok (.iconst 0, 1) := by decide +kernel
theorem dX1_isOn_62 : decode cX1_isOn 62 = .ok (.istore 7, 2) := by decide +kernel
theorem dX1_isOn_64 : decode cX1_isOn 64 = .ok (.aload_n 0, 1) := by decide +kernel
theorem dX1_isOn_65 : decode cX1_isOn 65 = .ok (.iload_n 2, 1) := by decide +kernel
theorem dX1_isOn_66 : decode cX1_isOn 66 = .ok (.invokevirtual 116, 3) := by decide +kernel
theorem dX1_isOn_69 : decode cX1_isOn 69 = .ok (.istore 8, 2) := by decide +kernel
theorem dX1_isOn_71 : decode cX1_isOn 71 = .ok (.iload 8, 2) := by decide +kernel
theorem dX1_isOn_73 : decode cX1_isOn 73 = .ok (.ifCond .lt 17, 3) := by decide +kernel
theorem dX1_isOn_76 : decode cX1_isOn 76 = .ok (.iload 8, 2) := by decide +kernel
theorem dX1_isOn_78 : decode cX1_isOn 78 = .ok (.aload_n 0, 1) := by decide +kernel
theorem dX1_isOn_79 : decode cX1_isOn 79 = .ok (.iload_n 3, 1) := by decide +kernel
theorem dX1_isOn_80 : decode cX1_isOn 80 = .ok (.invokevirtual 116, 3) := by decide +kernel
theorem dX1_isOn_83 : decode cX1_isOn 83 = .ok (.if_icmp .ne 7, 3) := by decide +kernel
theorem dX1_isOn_86 : decode cX1_isOn 86 = .ok (.iconst 1, 1) := by decide +kernel
theorem dX1_isOn_87 : decode cX1_isOn 87 = .ok (.goto 4, 3) := by decide +kernel
theorem dX1_isOn_90 : decode cX1_isOn 90 = .ok (.iconst 0, 1) := by decide +kernel
theorem dX1_isOn_91 : decode cX1_isOn 91 = .ok (.istore 9, 2) := by decide +kernel
theorem dX1_isOn_93 : decode cX1_isOn 93 = .ok (.iload_n 1, 1) := by decide +kernel
theorem dX1_isOn_94 : decode cX1_isOn 94 = .ok (.tableswitch 199 0 9 #[54, 65, 93, 105, 108, 111, 129, 147, 165, 183], 54) := by decide +kernel
theorem dX1_isOn_148 : decode cX1_isOn 148 = .ok (.iload_n 3, 1) := by decide +kernel
theorem dX1_isOn_149 : decode cX1_isOn 149 = .ok (.iload_n 2, 1) := by decide +kernel
theorem dX1_isOn_150 : decode cX1_isOn 150 = .ok (.if_icmp .ne 7, 3) := by decide +kernel
theorem dX1_isOn_153 : decode cX1_isOn 153 = .ok (.iconst 1, 1) := by decide +kernel
theorem dX1_isOn_154 : decode cX1_isOn 154 = .ok (.goto 4, 3) := by decide +kernel
theorem dX1_isOn_157 : decode cX1_isOn 157 = .ok (.iconst 0, 1) := by decide +kernel
theorem dX1_isOn_158 : decode cX1_isOn 158 = .ok (.ireturn, 1) := by decide +kernel
theorem dX1_isOn_159 : decode cX1_isOn 159 = .ok (.iload 6, 2) := by decide +kernel
theorem dX1_isOn_161 : decode cX1_isOn 161 = .ok (.ifCond .eq 24, 3) := by decide +kernel
theorem dX1_isOn_164 : decode cX1_isOn 164 = .ok (.aload_n 0, 1) := by decide +kernel
theorem dX1_isOn_165 : decode cX1_isOn 165 = .ok (.getfield 13, 3) := by decide +kernel
theorem dX1_isOn_168 : decode cX1_isOn 168 = .ok (.iload_n 3, 1) := by decide +kernel
theorem dX1_isOn_169 : decode cX1_isOn 169 = .ok (.iaload, 1) := by decide +kernel
theorem dX1_isOn_170 : decode cX1_isOn 170 = .ok (.aload_n 0, 1) := by decide +kernel
theorem dX1_isOn_171 : decode cX1_isOn 171 = .ok (.getfield 13, 3) := by decide +kernel
theorem dX1_isOn_174 : decode cX1_isOn 174 = .ok (.iload_n 2, 1) := by decide +kernel
theorem dX1_isOn_175 : decode cX1_isOn 175 = .ok (.iaload, 1) := by decide +kernel
theorem dX1_isOn_176 : decode cX1_isOn 176 = .ok (.iconst 1, 1) := by decide +kernel
theorem dX1_isOn_177 : decode cX1_isOn 177 = .ok (.iadd, 1) := by decide +kernel
theorem dX1_isOn_178 : decode cX1_isOn 178 = .ok (.if_icmp .ne 7, 3) := by decide +kernel
theorem dX1_isOn_181 : decode cX1_isOn 181 = .ok (.iconst 1, 1) := by decide +kernel
theorem dX1_isOn_182 : decode cX1_isOn 182 = .ok (.goto 4, 3) := by decide +kernel
theorem dX1_isOn_185 : decode cX1_isOn 185 = .ok (.iconst 0, 1) := by decide +kernel
theorem dX1_isOn_186 : decode cX1_isOn 186 = .ok (.ireturn, 1) := by decide +kernel
theorem dX1_isOn_187 : decode cX1_isOn 187 = .ok (.iload_n 3, 1) := by decide +kernel
theorem dX1_isOn_188 : decode cX1_isOn 188 = .ok (.iload 8, 2) := by decide +kernel
theorem dX1_isOn_190 : decode cX1_isOn 190 = .ok (.if_icmp .ne 7, 3) := by decide +kernel
theorem dX1_isOn_193 : decode cX1_isOn 193 = .ok (.iconst 1, 1) := by decide +kernel
theorem dX1_isOn_194 : decode cX1_isOn 194 = .ok (.goto 4, 3) := by decide +kernel
theorem dX1_isOn_197 : decode cX1_isOn 197 = .ok (.iconst 0, 1) := by decide +kernel
theorem dX1_isOn_198 : decode cX1_isOn 198 = .ok (.ireturn, 1) := by decide +kernel
theorem dX1_isOn_199 : decode cX1_isOn 199 = .ok (.iload 6, 2) := by decide +kernel
theorem dX1_isOn_201 : decode cX1_isOn 201 = .ok (.ireturn, 1) := by decide +kernel
theorem dX1_isOn_202 : decode cX1_isOn 202 = .ok (.iload 7, 2) := by decide +kernel
theorem dX1_isOn_204 : decode cX1_isOn 204 = .ok (.ireturn, 1) := by decide +kernel
theorem dX1_isOn_205 : decode cX1_isOn 205 = .ok (.iload 9, 2) := by decide +kernel
theorem dX1_isOn_207 : decode cX1_isOn 207 = .ok (.ifCond .eq 14, 3) := by decide +kernel
theorem dX1_isOn_210 : decode cX1_isOn 210 = .ok (.iload 5, 2) := by decide +kernel
theorem dX1_isOn_212 : decode cX1_isOn 212 = .ok (.iload 4, 2) := by decide +kernel
theorem dX1_isOn_214 : decode cX1_isOn 214 = .ok (.if_icmp .le 7, 3) := by decide +kernel
theorem dX1_isOn_217 : decode cX1_isOn 217 = .ok (.iconst 1, 1) := by decide +kernel
theorem dX1_isOn_218 : decode cX1_isOn 218 = .ok (.goto 4, 3) := by decide +kernel
theorem dX1_isOn_221 : decode cX1_isOn 221 = .ok (.iconst 0, 1) := by decide +kernel
theorem dX1_isOn_222 : decode cX1_isOn 222 = .ok (.ireturn, 1) := by decide +kernel
theorem dX1_isOn_223 : decode cX1_isOn 223 = .ok (.iload 9, 2) := by decide +kernel
theorem dX1_isOn_225 : decode cX1_isOn 225 = .ok (.ifCond .eq 14, 3) := by decide +kernel
theorem dX1_isOn_228 : decode cX1_isOn 228 = .ok (.iload 5, 2) := by decide +kernel
theorem dX1_isOn_230 : decode cX1_isOn 230 = .ok (.iload 4, 2) := by decide +kernel
theorem dX1_isOn_232 : decode cX1_isOn 232 = .ok (.if_icmp .ge 7, 3) := by decide +kernel
theorem dX1_isOn_235 : decode cX1_isOn 235 = .ok (.iconst 1, 1) := by decide +kernel
theorem dX1_isOn_236 : decode cX1_isOn 236 = .ok (.goto 4, 3) := by decide +kernel
theorem dX1_isOn_239 : decode cX1_isOn 239 = .ok (.iconst 0, 1) := by decide +kernel
theorem dX1_isOn_240 : decode cX1_isOn 240 = .ok (.ireturn, 1) := by decide +kernel
theorem dX1_isOn_241 : decode cX1_isOn 241 = .ok (.iload 5, 2) := by decide +kernel
theorem dX1_isOn_243 : decode cX1_isOn 243 = .ok (.iload 4, 2) := by decide +kernel
theorem dX1_isOn_245 : decode cX1_isOn 245 = .ok (.if_icmp .le 12, 3) := by decide +kernel
theorem dX1_isOn_248 : decode cX1_isOn 248 = .ok (.iload 6, 2) := by decide +kernel
theorem dX1_isOn_250 : decode cX1_isOn 250 = .ok (.ifCond .ne 7, 3) := by decide +kernel
theorem dX1_isOn_253 : decode cX1_isOn 253 = .ok (.iconst 1, 1) := by decide +kernel
theorem dX1_isOn_254 : decode cX1_isOn 254 = .ok (.goto 4, 3) := by decide +kernel
theorem dX1_isOn_257 : decode cX1_isOn 257 = .ok (.iconst 0, 1) := by decide +kernel
theorem dX1_isOn_258 : decode cX1_isOn 258 = .ok (.ireturn, 1) := by decide +kernel
theorem dX1_isOn_259 : decode cX1_isOn 259 = .ok (.iload 5, 2) := by decide +kernel
theorem dX1_isOn_261 : decode cX1_isOn 261 = .ok (.iload 4, 2) := by decide +kernel
theorem dX1_isOn_263 : decode cX1_isOn 263 = .ok (.if_icmp .ge 12, 3) := by decide +kernel
theorem dX1_isOn_266 : decode cX1_isOn 266 = .ok (.iload 7, 2) := by decide +kernel
theorem dX1_isOn_268 : decode cX1_isOn 268 = .ok (.ifCond .ne 7, 3) := by decide +kernel
theorem dX1_isOn_271 : decode cX1_isOn 271 = .ok (.iconst 1, 1) := by decide +kernel
theorem dX1_isOn_272 : decode cX1_isOn 272 = .ok (.goto 4, 3) := by decide +kernel
theorem dX1_isOn_275 : decode cX1_isOn 275 = .ok (.iconst 0, 1) := by decide +kernel
theorem dX1_isOn_276 : decode cX1_isOn 276 = .ok (.ireturn, 1) := by decide +kernel
theorem dX1_isOn_277 : decode cX1_isOn 277 = .ok (.iload 6, 2) := by decide +kernel
theorem dX1_isOn_279 : decode cX1_isOn 279 = .ok (.ifCond .ne 8, 3) := by decide +kernel
theorem dX1_isOn_282 : decode cX1_isOn 282 = .ok (.iload_n 3, 1) := by decide +kernel
theorem dX1_isOn_283 : decode cX1_isOn 283 = .ok (.iload_n 2, 1) := by decide +kernel
theorem dX1_isOn_284 : decode cX1_isOn 284 = .ok (.if_icmp .ne 7, 3) := by decide +kernel
theorem dX1_isOn_287 : decode cX1_isOn 287 = .ok (.iconst 1, 1) := by decide +kernel
theorem dX1_isOn_288 : decode cX1_isOn 288 = .ok (.goto 4, 3) := by decide +kernel
theorem dX1_isOn_291 : decode cX1_isOn 291 = .ok (.iconst 0, 1) := by decide +kernel
theorem dX1_isOn_292 : decode cX1_isOn 292 = .ok (.ireturn, 1) := by decide +kernel
theorem dX1_isOn_293 : decode cX1_isOn 293 = .ok (.iload 7, 2) := by decide +kernel
theorem dX1_isOn_295 : decode cX1_isOn 295 = .ok (.ifCond .ne 8, 3) := by decide +kernel
theorem dX1_isOn_298 : decode cX1_isOn 298 = .ok (.iload_n 3, 1) := by decide +kernel
theorem dX1_isOn_299 : decode cX1_isOn 299 = .ok (.iload_n 2, 1) := by decide +kernel
theorem dX1_isOn_300 : decode cX1_isOn 300 = .ok (.if_icmp .ne 7, 3) := by decide +kernel
theorem dX1_isOn_303 : decode cX1_isOn 303 = .ok (.iconst 1, 1) := by decide +kernel
theorem dX1_isOn_304 : decode cX1_isOn 304 = .ok (.goto 4, 3) := by decide +kernel
theorem dX1_isOn_307 : decode cX1_isOn 307 = .ok (.iconst 0, 1) := by decide +kernel
theorem dX1_isOn_308 : decode cX1_isOn 308 = .ok (.ireturn, 1) := by decide +kernel
abbrev cX1_parentOf : ByteArray := prog_3_method_7_code
def yX1_parentOf : MethodName := ⟨RX1, "parentOf", "(I)I"⟩
theorem dX1_parentOf_0 : decode cX1_parentOf 0 = .ok (.aload_n 0, 1) := by decide +kernel
theorem dX1_parentOf_1 : decode cX1_parentOf 1 = .ok (.iload_n 1, 1) := by decide +kernel
theorem dX1_parentOf_2 : decode cX1_parentOf 2 = .ok (.invokevirtual 81, 3) := by decide +kernel
theorem dX1_parentOf_5 : decode cX1_parentOf 5 = .ok (.istore_n 2, 1) := by decide +kernel
theorem dX1_parentOf_6 : decode cX1_parentOf 6 = .ok (.iload_n 2, 1) := by decide +kernel
theorem dX1_parentOf_7 : decode cX1_parentOf 7 = .ok (.ifCond .lt 29, 3) := by decide +kernel
theorem dX1_parentOf_10 : decode cX1_parentOf 10 = .ok (.aload_n 0, 1) := by decide +kernel
theorem dX1_parentOf_11 : decode cX1_parentOf 11 = .ok (.getfield 13, 3) := by decide +kernel
theorem dX1_parentOf_14 : decode cX1_parentOf 14 = .ok (.aload_n 0, 1) := by decide +kernel
theorem dX1_parentOf_15 : decode cX1_parentOf 15 = .ok (.getfield 7, 3) := by decide +kernel
theorem dX1_parentOf_18 : decode cX1_parentOf 18 = .ok (.iload_n 2, 1) := by decide +kernel
theorem dX1_parentOf_19 : decode cX1_parentOf 19 = .ok (.iaload, 1) := by decide +kernel
theorem dX1_parentOf_20 : decode cX1_parentOf 20 = .ok (.iaload, 1) := by decide +kernel
theorem dX1_parentOf_21 : decode cX1_parentOf 21 = .ok (.aload_n 0, 1) := by decide +kernel
theorem dX1_parentOf_22 : decode cX1_parentOf 22 = .ok (.getfield 13, 3) := by decide +kernel
theorem dX1_parentOf_25 : decode cX1_parentOf 25 = .ok (.iload_n 1, 1) := by decide +kernel
theorem dX1_parentOf_26 : decode cX1_parentOf 26 = .ok (.iaload, 1) := by decide +kernel
theorem dX1_parentOf_27 : decode cX1_parentOf 27 = .ok (.if_icmp .lt 9, 3) := by decide +kernel
theorem dX1_parentOf_30 : decode cX1_parentOf 30 = .ok (.iinc 2 (-1), 3) := by decide +kernel
theorem dX1_parentOf_33 : decode cX1_parentOf 33 = .ok (.goto (-27), 3) := by decide +kernel
theorem dX1_parentOf_36 : decode cX1_parentOf 36 = .ok (.iload_n 2, 1) := by decide +kernel
theorem dX1_parentOf_37 : decode cX1_parentOf 37 = .ok (.ifCond .ge 7, 3) := by decide +kernel
theorem dX1_parentOf_40 : decode cX1_parentOf 40 = .ok (.iconst (-1), 1) := by decide +kernel
theorem dX1_parentOf_41 : decode cX1_parentOf 41 = .ok (.goto 9, 3) := by decide +kernel
theorem dX1_parentOf_44 : decode cX1_parentOf 44 = .ok (.aload_n 0, 1) := by decide +kernel
theorem dX1_parentOf_45 : decode cX1_parentOf 45 = .ok (.getfield 7, 3) := by decide +kernel
theorem dX1_parentOf_48 : decode cX1_parentOf 48 = .ok (.iload_n 2, 1) := by decide +kernel
theorem dX1_parentOf_49 : decode cX1_parentOf 49 = .ok (.iaload, 1) := by decide +kernel
theorem dX1_parentOf_50 : decode cX1_parentOf 50 = .ok (.ireturn, 1) := by decide +kernel
abbrev cX1_sift : ByteArray := prog_3_method_22_code
def yX1_sift : MethodName := ⟨RX1, "sift", "(II)V"⟩
theorem dX1_sift_0 : decode cX1_sift 0 = .ok (.aload_n 0, 1) := by decide +kernel
theorem dX1_sift_1 : decode cX1_sift 1 = .ok (.getfield 119, 3) := by decide +kernel
theorem dX1_sift_4 : decode cX1_sift 4 = .ok (.istore_n 3, 1) := by decide +kernel
theorem dX1_sift_5 : decode cX1_sift 5 = .ok (.aload_n 0, 1) := by decide +kernel
theorem dX1_sift_6 : decode cX1_sift 6 = .ok (.iconst 0, 1) := by decide +kernel
theorem dX1_sift_7 : decode cX1_sift 7 = .ok (.putfield 119, 3) := by decide +kernel
theorem dX1_sift_10 : decode cX1_sift 10 = .ok (.iconst 0, 1) := by decide +kernel
theorem dX1_sift_11 : decode cX1_sift 11 = .ok (.istore 4, 2) := by decide +kernel
theorem dX1_sift_13 : decode cX1_sift 13 = .ok (.iload 4, 2) := by decide +kernel
theorem dX1_sift_15 : decode cX1_sift 15 = .ok (.iload_n 3, 1) := by decide +kernel
theorem dX1_sift_16 : decode cX1_sift 16 = .ok (.if_icmp .ge 128, 3) := by decide +kernel
theorem dX1_sift_19 : decode cX1_sift 19 = .ok (.aload_n 0, 1) := by decide +kernel
theorem dX1_sift_20 : decode cX1_sift 20 = .ok (.getfield 50, 3) := by decide +kernel
theorem dX1_sift_23 : decode cX1_sift 23 = .ok (.iload 4, 2) := by decide +kernel
theorem dX1_sift_25 : decode cX1_sift 25 = .ok (.iaload, 1) := by decide +kernel
theorem dX1_sift_26 : decode cX1_sift 26 = .ok (.istore 5, 2) := by decide +kernel
theorem dX1_sift_28 : decode cX1_sift 28 = .ok (.aload_n 0, 1) := by decide +kernel
theorem dX1_sift_29 : decode cX1_sift 29 = .ok (.iload_n 1, 1) := by decide +kernel
theorem dX1_sift_30 : decode cX1_sift 30 = .ok (.iload_n 2, 1) := by decide +kernel
theorem dX1_sift_31 : decode cX1_sift 31 = .ok (.iload 5, 2) := by decide +kernel
theorem dX1_sift_33 : decode cX1_sift 33 = .ok (.iload 4, 2) := by decide +kernel
theorem dX1_sift_35 : decode cX1_sift 35 = .ok (.iconst 1, 1) := by decide +kernel
theorem dX1_sift_36 : decode cX1_sift 36 = .ok (.iadd, 1) := by decide +kernel
theorem dX1_sift_37 : decode cX1_sift 37 = .ok (.iload_n 3, 1) := by decide +kernel
theorem dX1_sift_38 : decode cX1_sift 38 = .ok (.invokevirtual 132, 3) := by decide +kernel
theorem dX1_sift_41 : decode cX1_sift 41 = .ok (.aload_n 0, 1) := by decide +kernel
theorem dX1_sift_42 : decode cX1_sift 42 = .ok (.getfield 41, 3) := by decide +kernel
theorem dX1_sift_45 : decode cX1_sift 45 = .ok (.iconst 0, 1) := by decide +kernel
theorem dX1_sift_46 : decode cX1_sift 46 = .ok (.iaload, 1) := by decide +kernel
theorem dX1_sift_47 : decode cX1_sift 47 = .ok (.ifCond .ne 20, 3) := by decide +kernel
theorem dX1_sift_50 : decode cX1_sift 50 = .ok (.aload_n 0, 1) := by decide +kernel
theorem dX1_sift_51 : decode cX1_sift 51 = .ok (.getfield 47, 3) := by decide +kernel
theorem dX1_sift_54 : decode cX1_sift 54 = .ok (.iconst 0, 1) := by decide +kernel
theorem dX1_sift_55 : decode cX1_sift 55 = .ok (.iaload, 1) := by decide +kernel
theorem dX1_sift_56 : decode cX1_sift 56 = .ok (.ifCond .eq 7, 3) := by decide +kernel
theorem dX1_sift_59 : decode cX1_sift 59 = .ok (.iconst 1, 1) := by decide +kernel
theorem dX1_sift_60 : decode cX1_sift 60 = .ok (.goto 53, 3) := by decide +kernel
theorem dX1_sift_63 : decode cX1_sift 63 = .ok (.iconst 0, 1) := by decide +kernel
theorem dX1_sift_64 : decode cX1_sift 64 = .ok (.goto 49, 3) := by decide +kernel
theorem dX1_sift_67 : decode cX1_sift 67 = .ok (.aload_n 0, 1) := by decide +kernel
theorem dX1_sift_68 : decode cX1_sift 68 = .ok (.getfield 41, 3) := by decide +kernel
theorem dX1_sift_71 : decode cX1_sift 71 = .ok (.iconst 0, 1) := by decide +kernel
theorem dX1_sift_72 : decode cX1_sift 72 = .ok (.iaload, 1) := by decide +kernel
theorem dX1_sift_73 : decode cX1_sift 73 = .ok (.iconst 1, 1) := by decide +kernel
theorem dX1_sift_74 : decode cX1_sift 74 = .ok (.if_icmp .ne 24, 3) := by decide +kernel
theorem dX1_sift_77 : decode cX1_sift 77 = .ok (.aload_n 0, 1) := by decide +kernel
theorem dX1_sift_78 : decode cX1_sift 78 = .ok (.getfield 44, 3) := by decide +kernel
theorem dX1_sift_81 : decode cX1_sift 81 = .ok (.iconst 0, 1) := by decide +kernel
theorem dX1_sift_82 : decode cX1_sift 82 = .ok (.iaload, 1) := by decide +kernel
theorem dX1_sift_83 : decode cX1_sift 83 = .ok (.iload 4, 2) := by decide +kernel
theorem dX1_sift_85 : decode cX1_sift 85 = .ok (.iconst 1, 1) := by decide +kernel
theorem dX1_sift_86 : decode cX1_sift 86 = .ok (.iadd, 1) := by decide +kernel
theorem dX1_sift_87 : decode cX1_sift 87 = .ok (.if_icmp .ne 7, 3) := by decide +kernel
theorem dX1_sift_90 : decode cX1_sift 90 = .ok (.iconst 1, 1) := by decide +kernel
theorem dX1_sift_91 : decode cX1_sift 91 = .ok (.goto 22, 3) := by decide +kernel
theorem dX1_sift_94 : decode cX1_sift 94 = .ok (.iconst 0, 1) := by decide +kernel
theorem dX1_sift_95 : decode cX1_sift 95 = .ok (.goto 18, 3) := by decide +kernel
theorem dX1_sift_98 : decode cX1_sift 98 = .ok (.aload_n 0, 1) := by decide +kernel
theorem dX1_sift_99 : decode cX1_sift 99 = .ok (.getfield 44, 3) := by decide +kernel
theorem dX1_sift_102 : decode cX1_sift 102 = .ok (.iconst 0, 1) := by decide +kernel
theorem dX1_sift_103 : decode cX1_sift 103 = .ok (.iaload, 1) := by decide +kernel
theorem dX1_sift_104 : decode cX1_sift 104 = .ok (.iconst 1, 1) := by decide +kernel
theorem dX1_sift_105 : decode cX1_sift 105 = .ok (.if_icmp .ne 7, 3) := by decide +kernel
theorem dX1_sift_108 : decode cX1_sift 108 = .ok (.iconst 1, 1) := by decide +kernel
theorem dX1_sift_109 : decode cX1_sift 109 = .ok (.goto 4, 3) := by decide +kernel
theorem dX1_sift_112 : decode cX1_sift 112 = .ok (.iconst 0, 1) := by decide +kernel
theorem dX1_sift_113 : decode cX1_sift 113 = .ok (.istore 6, 2) := by decide +kernel
theorem dX1_sift_115 : decode cX1_sift 115 = .ok (.iload 6, 2) := by decide +kernel
theorem dX1_sift_117 : decode cX1_sift 117 = .ok (.ifCond .eq 21, 3) := by decide +kernel
theorem dX1_sift_120 : decode cX1_sift 120 = .ok (.aload_n 0, 1) := by decide +kernel
theorem dX1_sift_121 : decode cX1_sift 121 = .ok (.getfield 50, 3) := by decide +kernel
theorem dX1_sift_124 : decode cX1_sift 124 = .ok (.aload_n 0, 1) := by decide +kernel
theorem dX1_sift_125 : decode cX1_sift 125 = .ok (.dup, 1) := by decide +kernel
theorem dX1_sift_126 : decode cX1_sift 126 = .ok (.getfield 119, 3) := by decide +kernel
theorem dX1_sift_129 : decode cX1_sift 129 = .ok (.dup_x1, 1) := by decide +kernel
theorem dX1_sift_130 : decode cX1_sift 130 = .ok (.iconst 1, 1) := by decide +kernel
theorem dX1_sift_131 : decode cX1_sift 131 = .ok (.iadd, 1) := by decide +kernel
theorem dX1_sift_132 : decode cX1_sift 132 = .ok (.putfield 119, 3) := by decide +kernel
theorem dX1_sift_135 : decode cX1_sift 135 = .ok (.iload 5, 2) := by decide +kernel
theorem dX1_sift_137 : decode cX1_sift 137 = .ok (.iastore, 1) := by decide +kernel
theorem dX1_sift_138 : decode cX1_sift 138 = .ok (.iinc 4 1, 3) := by decide +kernel
theorem dX1_sift_141 : decode cX1_sift 141 = .ok (.goto (-128), 3) := by decide +kernel
theorem dX1_sift_144 : decode cX1_sift 144 = .ok (.return_, 1) := by decide +kernel
abbrev cX1_workOut : ByteArray := prog_3_method_27_code
def yX1_workOut : MethodName := ⟨RX1, "workOut", "(IIIII)V"⟩
theorem dX1_workOut_0 : decode cX1_workOut 0 = .ok (.aload_n 0, 1) := by decide +kernel
theorem dX1_workOut_1 : decode cX1_workOut 1 = .ok (.iconst 0, 1) := by decide +kernel
theorem dX1_workOut_2 : decode cX1_workOut 2 = .ok (.putfield 106, 3) := by decide +kernel
theorem dX1_workOut_5 : decode cX1_workOut 5 = .ok (.bipush 40, 2) := by decide +kernel
theorem dX1_workOut_7 : decode cX1_workOut 7 = .ok (.iload_n 1, 1) := by decide +kernel
theorem dX1_workOut_8 : decode cX1_workOut 8 = .ok (.imul, 1) := by decide +kernel
theorem dX1_workOut_9 : decode cX1_workOut 9 = .ok (.iload_n 2, 1) := by decide +kernel
theorem dX1_workOut_10 : decode cX1_workOut 10 = .ok (.iadd, 1) := by decide +kernel
theorem dX1_workOut_11 : decode cX1_workOut 11 = .ok (.istore 6, 2) := by decide +kernel
theorem dX1_workOut_13 : decode cX1_workOut 13 = .ok (.aload_n 0, 1) := by decide +kernel
theorem dX1_workOut_14 : decode cX1_workOut 14 = .ok (.iload 6, 2) := by decide +kernel
theorem dX1_workOut_16 : decode cX1_workOut 16 = .ok (.invokevirtual 125, 3) := by decide +kernel
theorem dX1_workOut_19 : decode cX1_workOut 19 = .ok (.iconst 1, 1) := by decide +kernel
theorem dX1_workOut_20 : decode cX1_workOut 20 = .ok (.isub, 1) := by decide +kernel
theorem dX1_workOut_21 : decode cX1_workOut 21 = .ok (.istore 7, 2) := by decide +kernel
theorem dX1_workOut_23 : decode cX1_workOut 23 = .ok (.iload 7, 2) := by decide +kernel
theorem dX1_workOut_25 : decode cX1_workOut 25 = .ok (.iload 6, 2) := by decide +kernel
theorem dX1_workOut_27 : decode cX1_workOut 27 = .ok (.if_icmp .lt 163, 3) := by decide +kernel
theorem dX1_workOut_30 : decode cX1_workOut 30 = .ok (.aload_n 0, 1) := by decide +kernel
theorem dX1_workOut_31 : decode cX1_workOut 31 = .ok (.getfield 25, 3) := by decide +kernel
theorem dX1_workOut_34 : decode cX1_workOut 34 = .ok (.iload 7, 2) := by decide +kernel
theorem dX1_workOut_36 : decode cX1_workOut 36 = .ok (.iaload, 1) := by decide +kernel
theorem dX1_workOut_37 : decode cX1_workOut 37 = .ok (.aload_n 0, 1) := by decide +kernel
theorem dX1_workOut_38 : decode cX1_workOut 38 = .ok (.getfield 28, 3) := by decide +kernel
theorem dX1_workOut_41 : decode cX1_workOut 41 = .ok (.iload 7, 2) := by decide +kernel
theorem dX1_workOut_43 : decode cX1_workOut 43 = .ok (.iaload, 1) := by decide +kernel
theorem dX1_workOut_44 : decode cX1_workOut 44 = .ok (.invokestatic 103, 3) := by decide +kernel
theorem dX1_workOut_47 : decode cX1_workOut 47 = .ok (.istore 8, 2) := by decide +kernel
theorem dX1_workOut_49 : decode cX1_workOut 49 = .ok (.aload_n 0, 1) := by decide +kernel
theorem dX1_workOut_50 : decode cX1_workOut 50 = .ok (.dup, 1) := by decide +kernel
theorem dX1_workOut_51 : decode cX1_workOut 51 = .ok (.getfield 106, 3) := by decide +kernel
theorem dX1_workOut_54 : decode cX1_workOut 54 = .ok (.iload 8, 2) := by decide +kernel
theorem dX1_workOut_56 : decode cX1_workOut 56 = .ok (.isub, 1) := by decide +kernel
theorem dX1_workOut_57 : decode cX1_workOut 57 = .ok (.putfield 106, 3) := by decide +kernel
theorem dX1_workOut_60 : decode cX1_workOut 60 = .ok (.aload_n 0, 1) := by decide +kernel
theorem dX1_workOut_61 : decode cX1_workOut 61 = .ok (.getfield 106, 3) := by decide +kernel
theorem dX1_workOut_64 : decode cX1_workOut 64 = .ok (.iload 8, 2) := by decide +kernel
theorem dX1_workOut_66 : decode cX1_workOut 66 = .ok (.iadd, 1) := by decide +kernel
theorem dX1_workOut_67 : decode cX1_workOut 67 = .ok (.iconst 1, 1) := by decide +kernel
theorem dX1_workOut_68 : decode cX1_workOut 68 = .ok (.isub, 1) := by decide +kernel
theorem dX1_workOut_69 : decode cX1_workOut 69 = .ok (.istore 9, 2) := by decide +kernel
theorem dX1_workOut_71 : decode cX1_workOut 71 = .ok (.aload_n 0, 1) := by decide +kernel
theorem dX1_workOut_72 : decode cX1_workOut 72 = .ok (.getfield 25, 3) := by decide +kernel
theorem dX1_workOut_75 : decode cX1_workOut 75 = .ok (.iload 7, 2) := by decide +kernel
theorem dX1_workOut_77 : decode cX1_workOut 77 = .ok (.iaload, 1) := by decide +kernel
theorem dX1_workOut_78 : decode cX1_workOut 78 = .ok (.invokestatic 109, 3) := by decide +kernel
theorem dX1_workOut_81 : decode cX1_workOut 81 = .ok (.istore 10, 2) := by decide +kernel
theorem dX1_workOut_83 : decode cX1_workOut 83 = .ok (.iload 10, 2) := by decide +kernel
theorem dX1_workOut_85 : decode cX1_workOut 85 = .ok (.ifCond .ne 18, 3) := by decide +kernel
theorem dX1_workOut_88 : decode cX1_workOut 88 = .ok (.aload_n 0, 1) := by decide +kernel
theorem dX1_workOut_89 : decode cX1_workOut 89 = .ok (.getfield 34, 3) := by decide +kernel
theorem dX1_workOut_92 : decode cX1_workOut 92 = .ok (.bipush 24, 2) := by decide +kernel
theorem dX1_workOut_94 : decode cX1_workOut 94 = .ok (.iload 7, 2) := by decide +kernel
theorem dX1_workOut_96 : decode cX1_workOut 96 = .ok (.imul, 1) := by decide +kernel
theorem dX1_workOut_97 : decode cX1_workOut 97 = .ok (.iload_n 3, 1) := by decide +kernel
theorem dX1_workOut_98 : decode cX1_workOut 98 = .ok (.iadd, 1) := by decide +kernel
theorem dX1_workOut_99 : decode cX1_workOut 99 = .ok (.iaload, 1) := by decide +kernel
theorem dX1_workOut_100 : decode cX1_workOut 100 = .ok (.goto 4, 3) := by decide +kernel
theorem dX1_workOut_103 : decode cX1_workOut 103 = .ok (.iconst 0, 1) := by decide +kernel
theorem dX1_workOut_104 : decode cX1_workOut 104 = .ok (.istore 11, 2) := by decide +kernel
theorem dX1_workOut_106 : decode cX1_workOut 106 = .ok (.iload 10, 2) := by decide +kernel
theorem dX1_workOut_108 : decode cX1_workOut 108 = .ok (.ifCond .ne 7, 3) := by decide +kernel
theorem dX1_workOut_111 : decode cX1_workOut 111 = .ok (.iconst 0, 1) := by decide +kernel
theorem dX1_workOut_112 : decode cX1_workOut 112 = .ok (.goto 27, 3) := by decide +kernel
theorem dX1_workOut_115 : decode cX1_workOut 115 = .ok (.aload_n 0, 1) := by decide +kernel
theorem dX1_workOut_116 : decode cX1_workOut 116 = .ok (.aload_n 0, 1) := by decide +kernel
theorem dX1_workOut_117 : decode cX1_workOut 117 = .ok (.getfield 25, 3) := by decide +kernel
theorem dX1_workOut_120 : decode cX1_workOut 120 = .ok (.iload 7, 2) := by decide +kernel
theorem dX1_workOut_122 : decode cX1_workOut 122 = .ok (.iaload, 1) := by decide +kernel
theorem dX1_workOut_123 : decode cX1_workOut 123 = .ok (.aload_n 0, 1) := by decide +kernel
theorem dX1_workOut_124 : decode cX1_workOut 124 = .ok (.getfield 28, 3) := by decide +kernel
theorem dX1_workOut_127 : decode cX1_workOut 127 = .ok (.iload 7, 2) := by decide +kernel
theorem dX1_workOut_129 : decode cX1_workOut 129 = .ok (.iaload, 1) := by decide +kernel
theorem dX1_workOut_130 : decode cX1_workOut 130 = .ok (.iload 9, 2) := by decide +kernel
theorem dX1_workOut_132 : decode cX1_workOut 132 = .ok (.iload 4, 2) := by decide +kernel
theorem dX1_workOut_134 : decode cX1_workOut 134 = .ok (.iload 5, 2) := by decide +kernel
theorem dX1_workOut_136 : decode cX1_workOut 136 = .ok (.invokevirtual 143, 3) := by decide +kernel
theorem dX1_workOut_139 : decode cX1_workOut 139 = .ok (.istore 12, 2) := by decide +kernel
theorem dX1_workOut_141 : decode cX1_workOut 141 = .ok (.aload_n 0, 1) := by decide +kernel
theorem dX1_workOut_142 : decode cX1_workOut 142 = .ok (.getfield 41, 3) := by decide +kernel
theorem dX1_workOut_145 : decode cX1_workOut 145 = .ok (.aload_n 0, 1) := by decide +kernel
theorem dX1_workOut_146 : decode cX1_workOut 146 = .ok (.getfield 106, 3) := by decide +kernel
theorem dX1_workOut_149 : decode cX1_workOut 149 = .ok (.iload 10, 2) := by decide +kernel
theorem dX1_workOut_151 : decode cX1_workOut 151 = .ok (.iastore, 1) := by decide +kernel
theorem dX1_workOut_152 : decode cX1_workOut 152 = .ok (.aload_n 0, 1) := by decide +kernel
theorem dX1_workOut_153 : decode cX1_workOut 153 = .ok (.getfield 47, 3) := by decide +kernel
theorem dX1_workOut_156 : decode cX1_workOut 156 = .ok (.aload_n 0, 1) := by decide +kernel
theorem dX1_workOut_157 : decode cX1_workOut 157 = .ok (.getfield 106, 3) := by decide +kernel
theorem dX1_workOut_160 : decode cX1_workOut 160 = .ok (.iload 11, 2) := by decide +kernel
theorem dX1_workOut_162 : decode cX1_workOut 162 = .ok (.iastore, 1) := by decide +kernel
theorem dX1_workOut_163 : decode cX1_workOut 163 = .ok (.aload_n 0, 1) := by decide +kernel
theorem dX1_workOut_164 : decode cX1_workOut 164 = .ok (.getfield 44, 3) := by decide +kernel
theorem dX1_workOut_167 : decode cX1_workOut 167 = .ok (.aload_n 0, 1) := by decide +kernel
theorem dX1_workOut_168 : decode cX1_workOut 168 = .ok (.getfield 106, 3) := by decide +kernel
theorem dX1_workOut_171 : decode cX1_workOut 171 = .ok (.iload 12, 2) := by decide +kernel
theorem dX1_workOut_173 : decode cX1_workOut 173 = .ok (.iastore, 1) := by decide +kernel
theorem dX1_workOut_174 : decode cX1_workOut 174 = .ok (.aload_n 0, 1) := by decide +kernel
theorem dX1_workOut_175 : decode cX1_workOut 175 = .ok (.dup, 1) := by decide +kernel
theorem dX1_workOut_176 : decode cX1_workOut 176 = .ok (.getfield 106, 3) := by decide +kernel
theorem dX1_workOut_179 : decode cX1_workOut 179 = .ok (.iconst 1, 1) := by decide +kernel
theorem dX1_workOut_180 : decode cX1_workOut 180 = .ok (.iadd, 1) := by decide +kernel
theorem dX1_workOut_181 : decode cX1_workOut 181 = .ok (.putfield 106, 3) := by decide +kernel
theorem dX1_workOut_184 : decode cX1_workOut 184 = .ok (.iinc 7 (-1), 3) := by decide +kernel
theorem dX1_workOut_187 : decode cX1_workOut 187 = .ok (.goto (-164), 3) := by decide +kernel
theorem dX1_workOut_190 : decode cX1_workOut 190 = .ok (.return_, 1) := by decide +kernel
abbrev cX1_result : ByteArray := prog_3_method_28_code
def yX1_result : MethodName := ⟨RX1, "result", "(IIIII)I"⟩
theorem dX1_result_0 : decode cX1_result 0 = .ok (.iload_n 1, 1) := by decide +kernel
theorem dX1_result_1 : decode cX1_result 1 = .ok (.tableswitch 192 4 17 #[71, 73, 76, 79, 90, 101, 192, 192, 192, 112, 112, 130, 154, 178], 71) := by decide +kernel
theorem dX1_result_72 : decode cX1_result 72 = .ok (.iload_n 2, 1) := by decide +kernel
theorem dX1_result_73 : decode cX1_result 73 = .ok (.ireturn, 1) := by decide +kernel
theorem dX1_result_74 : decode cX1_result 74 = .ok (.iload 4, 2) := by decide +kernel
theorem dX1_result_76 : decode cX1_result 76 = .ok (.ireturn, 1) := by decide +kernel
theorem dX1_result_77 : decode cX1_result 77 = .ok (.iload 5, 2) := by decide +kernel
theorem dX1_result_79 : decode cX1_result 79 = .ok (.ireturn, 1) := by decide +kernel
theorem dX1_result_80 : decode cX1_result 80 = .ok (.aload_n 0, 1) := by decide +kernel
theorem dX1_result_81 : decode cX1_result 81 = .ok (.aload_n 0, 1) := by decide +kernel
theorem dX1_result_82 : decode cX1_result 82 = .ok (.getfield 47, 3) := by decide +kernel
theorem dX1_result_85 : decode cX1_result 85 = .ok (.iload_n 3, 1) := by decide +kernel
theorem dX1_result_86 : decode cX1_result 86 = .ok (.iaload, 1) := by decide +kernel
theorem dX1_result_87 : decode cX1_result 87 = .ok (.invokevirtual 147, 3) := by decide +kernel
theorem dX1_result_90 : decode cX1_result 90 = .ok (.ireturn, 1) := by decide +kernel
theorem dX1_result_91 : decode cX1_result 91 = .ok (.aload_n 0, 1) := by decide +kernel
theorem dX1_result_92 : decode cX1_result 92 = .ok (.aload_n 0, 1) := by decide +kernel
theorem dX1_result_93 : decode cX1_result 93 = .ok (.getfield 47, 3) := by decide +kernel
theorem dX1_result_96 : decode cX1_result 96 = .ok (.iload_n 3, 1) := by decide +kernel
theorem dX1_result_97 : decode cX1_result 97 = .ok (.iaload, 1) := by decide +kernel
theorem dX1_result_98 : decode cX1_result 98 = .ok (.invokevirtual 150, 3) := by decide +kernel
theorem dX1_result_101 : decode cX1_result 101 = .ok (.ireturn, 1) := by decide +kernel
theorem dX1_result_102 : decode cX1_result 102 = .ok (.aload_n 0, 1) := by decide +kernel
theorem dX1_result_103 : decode cX1_result 103 = .ok (.aload_n 0, 1) := by decide +kernel
theorem dX1_result_104 : decode cX1_result 104 = .ok (.getfield 47, 3) := by decide +kernel
theorem dX1_result_107 : decode cX1_result 107 = .ok (.iload_n 3, 1) := by decide +kernel
theorem dX1_result_108 : decode cX1_result 108 = .ok (.iaload, 1) := by decide +kernel
theorem dX1_result_109 : decode cX1_result 109 = .ok (.invokevirtual 140, 3) := by decide +kernel
theorem dX1_result_112 : decode cX1_result 112 = .ok (.ireturn, 1) := by decide +kernel
theorem dX1_result_113 : decode cX1_result 113 = .ok (.aload_n 0, 1) := by decide +kernel
theorem dX1_result_114 : decode cX1_result 114 = .ok (.iload_n 1, 1) := by decide +kernel
theorem dX1_result_115 : decode cX1_result 115 = .ok (.iload_n 3, 1) := by decide +kernel
theorem dX1_result_116 : decode cX1_result 116 = .ok (.iload_n 3, 1) := by decide +kernel
theorem dX1_result_117 : decode cX1_result 117 = .ok (.iconst 1, 1) := by decide +kernel
theorem dX1_result_118 : decode cX1_result 118 = .ok (.isub, 1) := by decide +kernel
theorem dX1_result_119 : decode cX1_result 119 = .ok (.invokevirtual 153, 3) := by decide +kernel
theorem dX1_result_122 : decode cX1_result 122 = .ok (.ifCond .eq 7, 3) := by decide +kernel
theorem dX1_result_125 : decode cX1_result 125 = .ok (.iconst 1, 1) := by decide +kernel
theorem dX1_result_126 : decode cX1_result 126 = .ok (.goto 4, 3) := by decide +kernel
