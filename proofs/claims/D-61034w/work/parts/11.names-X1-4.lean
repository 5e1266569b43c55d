set_option maxRecDepth 100000
theorem dX1_result_129 : decode cX1_result 129 = .ok (.iconst 0, 1) := by decide +kernel
theorem dX1_result_130 : decode cX1_result 130 = .ok (.ireturn, 1) := by decide +kernel
theorem dX1_result_131 : decode cX1_result 131 = .ok (.aload_n 0, 1) := by decide +kernel
theorem dX1_result_132 : decode cX1_result 132 = .ok (.iload_n 3, 1) := by decide +kernel
theorem dX1_result_133 : decode cX1_result 133 = .ok (.invokevirtual 156, 3) := by decide +kernel
theorem dX1_result_136 : decode cX1_result 136 = .ok (.ifCond .eq 17, 3) := by decide +kernel
theorem dX1_result_139 : decode cX1_result 139 = .ok (.aload_n 0, 1) := by decide +kernel
theorem dX1_result_140 : decode cX1_result 140 = .ok (.iload_n 3, 1) := by decide +kernel
theorem dX1_result_141 : decode cX1_result 141 = .ok (.iconst 1, 1) := by decide +kernel
theorem dX1_result_142 : decode cX1_result 142 = .ok (.isub, 1) := by decide +kernel
theorem dX1_result_143 : decode cX1_result 143 = .ok (.invokevirtual 156, 3) := by decide +kernel
theorem dX1_result_146 : decode cX1_result 146 = .ok (.ifCond .eq 7, 3) := by decide +kernel
theorem dX1_result_149 : decode cX1_result 149 = .ok (.iconst 1, 1) := by decide +kernel
theorem dX1_result_150 : decode cX1_result 150 = .ok (.goto 4, 3) := by decide +kernel
theorem dX1_result_153 : decode cX1_result 153 = .ok (.iconst 0, 1) := by decide +kernel
theorem dX1_result_154 : decode cX1_result 154 = .ok (.ireturn, 1) := by decide +kernel
theorem dX1_result_155 : decode cX1_result 155 = .ok (.aload_n 0, 1) := by decide +kernel
theorem dX1_result_156 : decode cX1_result 156 = .ok (.iload_n 3, 1) := by decide +kernel
theorem dX1_result_157 : decode cX1_result 157 = .ok (.invokevirtual 156, 3) := by decide +kernel
theorem dX1_result_160 : decode cX1_result 160 = .ok (.ifCond .ne 13, 3) := by decide +kernel
theorem dX1_result_163 : decode cX1_result 163 = .ok (.aload_n 0, 1) := by decide +kernel
theorem dX1_result_164 : decode cX1_result 164 = .ok (.iload_n 3, 1) := by decide +kernel
theorem dX1_result_165 : decode cX1_result 165 = .ok (.iconst 1, 1) := by decide +kernel
theorem dX1_result_166 : decode cX1_result 166 = .ok (.isub, 1) := by decide +kernel
theorem dX1_result_167 : decode cX1_result 167 = .ok (.invokevirtual 156, 3) := by decide +kernel
theorem dX1_result_170 : decode cX1_result 170 = .ok (.ifCond .eq 7, 3) := by decide +kernel
theorem dX1_result_173 : decode cX1_result 173 = .ok (.iconst 1, 1) := by decide +kernel
theorem dX1_result_174 : decode cX1_result 174 = .ok (.goto 4, 3) := by decide +kernel
theorem dX1_result_177 : decode cX1_result 177 = .ok (.iconst 0, 1) := by decide +kernel
theorem dX1_result_178 : decode cX1_result 178 = .ok (.ireturn, 1) := by decide +kernel
theorem dX1_result_179 : decode cX1_result 179 = .ok (.aload_n 0, 1) := by decide +kernel
theorem dX1_result_180 : decode cX1_result 180 = .ok (.iload_n 3, 1) := by decide +kernel
theorem dX1_result_181 : decode cX1_result 181 = .ok (.invokevirtual 156, 3) := by decide +kernel
theorem dX1_result_184 : decode cX1_result 184 = .ok (.ifCond .eq 7, 3) := by decide +kernel
theorem dX1_result_187 : decode cX1_result 187 = .ok (.iconst 0, 1) := by decide +kernel
theorem dX1_result_188 : decode cX1_result 188 = .ok (.goto 4, 3) := by decide +kernel
theorem dX1_result_191 : decode cX1_result 191 = .ok (.iconst 1, 1) := by decide +kernel
theorem dX1_result_192 : decode cX1_result 192 = .ok (.ireturn, 1) := by decide +kernel
theorem dX1_result_193 : decode cX1_result 193 = .ok (.aload_n 0, 1) := by decide +kernel
theorem dX1_result_194 : decode cX1_result 194 = .ok (.iload_n 3, 1) := by decide +kernel
theorem dX1_result_195 : decode cX1_result 195 = .ok (.invokevirtual 160, 3) := by decide +kernel
theorem dX1_result_198 : decode cX1_result 198 = .ok (.istore 6, 2) := by decide +kernel
theorem dX1_result_200 : decode cX1_result 200 = .ok (.aload_n 0, 1) := by decide +kernel
theorem dX1_result_201 : decode cX1_result 201 = .ok (.iload_n 3, 1) := by decide +kernel
theorem dX1_result_202 : decode cX1_result 202 = .ok (.iconst 1, 1) := by decide +kernel
theorem dX1_result_203 : decode cX1_result 203 = .ok (.isub, 1) := by decide +kernel
theorem dX1_result_204 : decode cX1_result 204 = .ok (.invokevirtual 160, 3) := by decide +kernel
theorem dX1_result_207 : decode cX1_result 207 = .ok (.istore 7, 2) := by decide +kernel
theorem dX1_result_209 : decode cX1_result 209 = .ok (.iload_n 1, 1) := by decide +kernel
theorem dX1_result_210 : decode cX1_result 210 = .ok (.bipush 10, 2) := by decide +kernel
theorem dX1_result_212 : decode cX1_result 212 = .ok (.if_icmp .ne 11, 3) := by decide +kernel
theorem dX1_result_215 : decode cX1_result 215 = .ok (.iload 6, 2) := by decide +kernel
theorem dX1_result_217 : decode cX1_result 217 = .ok (.iload 7, 2) := by decide +kernel
theorem dX1_result_219 : decode cX1_result 219 = .ok (.iadd, 1) := by decide +kernel
theorem dX1_result_220 : decode cX1_result 220 = .ok (.goto 22, 3) := by decide +kernel
theorem dX1_result_223 : decode cX1_result 223 = .ok (.iload_n 1, 1) := by decide +kernel
theorem dX1_result_224 : decode cX1_result 224 = .ok (.bipush 11, 2) := by decide +kernel
theorem dX1_result_226 : decode cX1_result 226 = .ok (.if_icmp .ne 11, 3) := by decide +kernel
theorem dX1_result_229 : decode cX1_result 229 = .ok (.iload 6, 2) := by decide +kernel
theorem dX1_result_231 : decode cX1_result 231 = .ok (.iload 7, 2) := by decide +kernel
theorem dX1_result_233 : decode cX1_result 233 = .ok (.isub, 1) := by decide +kernel
theorem dX1_result_234 : decode cX1_result 234 = .ok (.goto 8, 3) := by decide +kernel
theorem dX1_result_237 : decode cX1_result 237 = .ok (.iload 6, 2) := by decide +kernel
theorem dX1_result_239 : decode cX1_result 239 = .ok (.iload 7, 2) := by decide +kernel
theorem dX1_result_241 : decode cX1_result 241 = .ok (.imul, 1) := by decide +kernel
theorem dX1_result_242 : decode cX1_result 242 = .ok (.ireturn, 1) := by decide +kernel
abbrev cX1_counted : ByteArray := prog_3_method_29_code
def yX1_counted : MethodName := ⟨RX1, "counted", "(I)I"⟩
theorem dX1_counted_0 : decode cX1_counted 0 = .ok (.iconst 0, 1) := by decide +kernel
theorem dX1_counted_1 : decode cX1_counted 1 = .ok (.istore_n 2, 1) := by decide +kernel
theorem dX1_counted_2 : decode cX1_counted 2 = .ok (.iconst 0, 1) := by decide +kernel
theorem dX1_counted_3 : decode cX1_counted 3 = .ok (.istore_n 3, 1) := by decide +kernel
theorem dX1_counted_4 : decode cX1_counted 4 = .ok (.iload_n 3, 1) := by decide +kernel
theorem dX1_counted_5 : decode cX1_counted 5 = .ok (.bipush 24, 2) := by decide +kernel
theorem dX1_counted_7 : decode cX1_counted 7 = .ok (.if_icmp .ge 17, 3) := by decide +kernel
theorem dX1_counted_10 : decode cX1_counted 10 = .ok (.iload_n 2, 1) := by decide +kernel
theorem dX1_counted_11 : decode cX1_counted 11 = .ok (.iload_n 1, 1) := by decide +kernel
theorem dX1_counted_12 : decode cX1_counted 12 = .ok (.iload_n 3, 1) := by decide +kernel
theorem dX1_counted_13 : decode cX1_counted 13 = .ok (.ishr, 1) := by decide +kernel
theorem dX1_counted_14 : decode cX1_counted 14 = .ok (.iconst 1, 1) := by decide +kernel
theorem dX1_counted_15 : decode cX1_counted 15 = .ok (.iand, 1) := by decide +kernel
theorem dX1_counted_16 : decode cX1_counted 16 = .ok (.iadd, 1) := by decide +kernel
theorem dX1_counted_17 : decode cX1_counted 17 = .ok (.istore_n 2, 1) := by decide +kernel
theorem dX1_counted_18 : decode cX1_counted 18 = .ok (.iinc 3 1, 3) := by decide +kernel
theorem dX1_counted_21 : decode cX1_counted 21 = .ok (.goto (-17), 3) := by decide +kernel
theorem dX1_counted_24 : decode cX1_counted 24 = .ok (.iload_n 2, 1) := by decide +kernel
theorem dX1_counted_25 : decode cX1_counted 25 = .ok (.ireturn, 1) := by decide +kernel
abbrev cX1_summed : ByteArray := prog_3_method_30_code
def yX1_summed : MethodName := ⟨RX1, "summed", "(I)I"⟩
theorem dX1_summed_0 : decode cX1_summed 0 = .ok (.iconst 0, 1) := by decide +kernel
theorem dX1_summed_1 : decode cX1_summed 1 = .ok (.istore_n 2, 1) := by decide +kernel
theorem dX1_summed_2 : decode cX1_summed 2 = .ok (.iconst 0, 1) := by decide +kernel
theorem dX1_summed_3 : decode cX1_summed 3 = .ok (.istore_n 3, 1) := by decide +kernel
theorem dX1_summed_4 : decode cX1_summed 4 = .ok (.iload_n 3, 1) := by decide +kernel
theorem dX1_summed_5 : decode cX1_summed 5 = .ok (.bipush 24, 2) := by decide +kernel
theorem dX1_summed_7 : decode cX1_summed 7 = .ok (.if_icmp .ge 27, 3) := by decide +kernel
theorem dX1_summed_10 : decode cX1_summed 10 = .ok (.iload_n 1, 1) := by decide +kernel
theorem dX1_summed_11 : decode cX1_summed 11 = .ok (.iload_n 3, 1) := by decide +kernel
theorem dX1_summed_12 : decode cX1_summed 12 = .ok (.ishr, 1) := by decide +kernel
theorem dX1_summed_13 : decode cX1_summed 13 = .ok (.iconst 1, 1) := by decide +kernel
theorem dX1_summed_14 : decode cX1_summed 14 = .ok (.iand, 1) := by decide +kernel
theorem dX1_summed_15 : decode cX1_summed 15 = .ok (.iconst 1, 1) := by decide +kernel
theorem dX1_summed_16 : decode cX1_summed 16 = .ok (.if_icmp .ne 12, 3) := by decide +kernel
theorem dX1_summed_19 : decode cX1_summed 19 = .ok (.iload_n 2, 1) := by decide +kernel
theorem dX1_summed_20 : decode cX1_summed 20 = .ok (.aload_n 0, 1) := by decide +kernel
theorem dX1_summed_21 : decode cX1_summed 21 = .ok (.getfield 19, 3) := by decide +kernel
theorem dX1_summed_24 : decode cX1_summed 24 = .ok (.iload_n 3, 1) := by decide +kernel
theorem dX1_summed_25 : decode cX1_summed 25 = .ok (.iaload, 1) := by decide +kernel
theorem dX1_summed_26 : decode cX1_summed 26 = .ok (.iadd, 1) := by decide +kernel
theorem dX1_summed_27 : decode cX1_summed 27 = .ok (.istore_n 2, 1) := by decide +kernel
theorem dX1_summed_28 : decode cX1_summed 28 = .ok (.iinc 3 1, 3) := by decide +kernel
theorem dX1_summed_31 : decode cX1_summed 31 = .ok (.goto (-27), 3) := by decide +kernel
theorem dX1_summed_34 : decode cX1_summed 34 = .ok (.iload_n 2, 1) := by decide +kernel
theorem dX1_summed_35 : decode cX1_summed 35 = .ok (.ireturn, 1) := by decide +kernel
abbrev cX1_firstOf : ByteArray := prog_3_method_24_code
def yX1_firstOf : MethodName := ⟨RX1, "firstOf", "(I)I"⟩
theorem dX1_firstOf_0 : decode cX1_firstOf 0 = .ok (.iconst 0, 1) := by decide +kernel
theorem dX1_firstOf_1 : decode cX1_firstOf 1 = .ok (.istore_n 2, 1) := by decide +kernel
theorem dX1_firstOf_2 : decode cX1_firstOf 2 = .ok (.iload_n 2, 1) := by decide +kernel
theorem dX1_firstOf_3 : decode cX1_firstOf 3 = .ok (.aload_n 0, 1) := by decide +kernel
theorem dX1_firstOf_4 : decode cX1_firstOf 4 = .ok (.getfield 77, 3) := by decide +kernel
theorem dX1_firstOf_7 : decode cX1_firstOf 7 = .ok (.if_icmp .ge 35, 3) := by decide +kernel
theorem dX1_firstOf_10 : decode cX1_firstOf 10 = .ok (.iload_n 1, 1) := by decide +kernel
theorem dX1_firstOf_11 : decode cX1_firstOf 11 = .ok (.aload_n 0, 1) := by decide +kernel
theorem dX1_firstOf_12 : decode cX1_firstOf 12 = .ok (.getfield 7, 3) := by decide +kernel
theorem dX1_firstOf_15 : decode cX1_firstOf 15 = .ok (.iload_n 2, 1) := by decide +kernel
theorem dX1_firstOf_16 : decode cX1_firstOf 16 = .ok (.iaload, 1) := by decide +kernel
theorem dX1_firstOf_17 : decode cX1_firstOf 17 = .ok (.ishr, 1) := by decide +kernel
theorem dX1_firstOf_18 : decode cX1_firstOf 18 = .ok (.iconst 1, 1) := by decide +kernel
theorem dX1_firstOf_19 : decode cX1_firstOf 19 = .ok (.iand, 1) := by decide +kernel
theorem dX1_firstOf_20 : decode cX1_firstOf 20 = .ok (.iconst 1, 1) := by decide +kernel
theorem dX1_firstOf_21 : decode cX1_firstOf 21 = .ok (.if_icmp .ne 15, 3) := by decide +kernel
theorem dX1_firstOf_24 : decode cX1_firstOf 24 = .ok (.aload_n 0, 1) := by decide +kernel
theorem dX1_firstOf_25 : decode cX1_firstOf 25 = .ok (.getfield 19, 3) := by decide +kernel
theorem dX1_firstOf_28 : decode cX1_firstOf 28 = .ok (.aload_n 0, 1) := by decide +kernel
theorem dX1_firstOf_29 : decode cX1_firstOf 29 = .ok (.getfield 7, 3) := by decide +kernel
theorem dX1_firstOf_32 : decode cX1_firstOf 32 = .ok (.iload_n 2, 1) := by decide +kernel
theorem dX1_firstOf_33 : decode cX1_firstOf 33 = .ok (.iaload, 1) := by decide +kernel
theorem dX1_firstOf_34 : decode cX1_firstOf 34 = .ok (.iaload, 1) := by decide +kernel
theorem dX1_firstOf_35 : decode cX1_firstOf 35 = .ok (.ireturn, 1) := by decide +kernel
theorem dX1_firstOf_36 : decode cX1_firstOf 36 = .ok (.iinc 2 1, 3) := by decide +kernel
theorem dX1_firstOf_39 : decode cX1_firstOf 39 = .ok (.goto (-37), 3) := by decide +kernel
theorem dX1_firstOf_42 : decode cX1_firstOf 42 = .ok (.iconst 0, 1) := by decide +kernel
theorem dX1_firstOf_43 : decode cX1_firstOf 43 = .ok (.ireturn, 1) := by decide +kernel
abbrev cX1_compare : ByteArray := prog_3_method_31_code
def yX1_compare : MethodName := ⟨RX1, "compare", "(III)Z"⟩
theorem dX1_compare_0 : decode cX1_compare 0 = .ok (.iconst 0, 1) := by decide +kernel
theorem dX1_compare_1 : decode cX1_compare 1 = .ok (.istore 4, 2) := by decide +kernel
theorem dX1_compare_3 : decode cX1_compare 3 = .ok (.iload 4, 2) := by decide +kernel
theorem dX1_compare_5 : decode cX1_compare 5 = .ok (.bipush 24, 2) := by decide +kernel
theorem dX1_compare_7 : decode cX1_compare 7 = .ok (.if_icmp .ge 172, 3) := by decide +kernel
theorem dX1_compare_10 : decode cX1_compare 10 = .ok (.aload_n 0, 1) := by decide +kernel
theorem dX1_compare_11 : decode cX1_compare 11 = .ok (.getfield 41, 3) := by decide +kernel
theorem dX1_compare_14 : decode cX1_compare 14 = .ok (.iload_n 2, 1) := by decide +kernel
theorem dX1_compare_15 : decode cX1_compare 15 = .ok (.iaload, 1) := by decide +kernel
theorem dX1_compare_16 : decode cX1_compare 16 = .ok (.ifCond .ne 20, 3) := by decide +kernel
theorem dX1_compare_19 : decode cX1_compare 19 = .ok (.aload_n 0, 1) := by decide +kernel
theorem dX1_compare_20 : decode cX1_compare 20 = .ok (.getfield 47, 3) := by decide +kernel
theorem dX1_compare_23 : decode cX1_compare 23 = .ok (.iload_n 2, 1) := by decide +kernel
theorem dX1_compare_24 : decode cX1_compare 24 = .ok (.iaload, 1) := by decide +kernel
theorem dX1_compare_25 : decode cX1_compare 25 = .ok (.iload 4, 2) := by decide +kernel
theorem dX1_compare_27 : decode cX1_compare 27 = .ok (.ishr, 1) := by decide +kernel
theorem dX1_compare_28 : decode cX1_compare 28 = .ok (.iconst 1, 1) := by decide +kernel
theorem dX1_compare_29 : decode cX1_compare 29 = .ok (.iand, 1) := by decide +kernel
theorem dX1_compare_30 : decode cX1_compare 30 = .ok (.ifCond .ne 14, 3) := by decide +kernel
theorem dX1_compare_33 : decode cX1_compare 33 = .ok (.goto 140, 3) := by decide +kernel
theorem dX1_compare_36 : decode cX1_compare 36 = .ok (.iload 4, 2) := by decide +kernel
theorem dX1_compare_38 : decode cX1_compare 38 = .ok (.ifCond .le 6, 3) := by decide +kernel
theorem dX1_compare_41 : decode cX1_compare 41 = .ok (.goto 132, 3) := by decide +kernel
theorem dX1_compare_44 : decode cX1_compare 44 = .ok (.aload_n 0, 1) := by decide +kernel
theorem dX1_compare_45 : decode cX1_compare 45 = .ok (.getfield 41, 3) := by decide +kernel
theorem dX1_compare_48 : decode cX1_compare 48 = .ok (.iload_n 2, 1) := by decide +kernel
theorem dX1_compare_49 : decode cX1_compare 49 = .ok (.iaload, 1) := by decide +kernel
theorem dX1_compare_50 : decode cX1_compare 50 = .ok (.ifCond .ne 13, 3) := by decide +kernel
theorem dX1_compare_53 : decode cX1_compare 53 = .ok (.aload_n 0, 1) := by decide +kernel
theorem dX1_compare_54 : decode cX1_compare 54 = .ok (.getfield 19, 3) := by decide +kernel
theorem dX1_compare_57 : decode cX1_compare 57 = .ok (.iload 4, 2) := by decide +kernel
theorem dX1_compare_59 : decode cX1_compare 59 = .ok (.iaload, 1) := by decide +kernel
theorem dX1_compare_60 : decode cX1_compare 60 = .ok (.goto 9, 3) := by decide +kernel
theorem dX1_compare_63 : decode cX1_compare 63 = .ok (.aload_n 0, 1) := by decide +kernel
theorem dX1_compare_64 : decode cX1_compare 64 = .ok (.getfield 44, 3) := by decide +kernel
theorem dX1_compare_67 : decode cX1_compare 67 = .ok (.iload_n 2, 1) := by decide +kernel
theorem dX1_compare_68 : decode cX1_compare 68 = .ok (.iaload, 1) := by decide +kernel
theorem dX1_compare_69 : decode cX1_compare 69 = .ok (.istore 5, 2) := by decide +kernel
theorem dX1_compare_71 : decode cX1_compare 71 = .ok (.iconst 0, 1) := by decide +kernel
theorem dX1_compare_72 : decode cX1_compare 72 = .ok (.istore 6, 2) := by decide +kernel
theorem dX1_compare_74 : decode cX1_compare 74 = .ok (.iload 6, 2) := by decide +kernel
theorem dX1_compare_76 : decode cX1_compare 76 = .ok (.bipush 24, 2) := by decide +kernel
theorem dX1_compare_78 : decode cX1_compare 78 = .ok (.if_icmp .ge 95, 3) := by decide +kernel
theorem dX1_compare_81 : decode cX1_compare 81 = .ok (.aload_n 0, 1) := by decide +kernel
theorem dX1_compare_82 : decode cX1_compare 82 = .ok (.getfield 41, 3) := by decide +kernel
theorem dX1_compare_85 : decode cX1_compare 85 = .ok (.iload_n 3, 1) := by decide +kernel
theorem dX1_compare_86 : decode cX1_compare 86 = .ok (.iaload, 1) := by decide +kernel
theorem dX1_compare_87 : decode cX1_compare 87 = .ok (.ifCond .ne 20, 3) := by decide +kernel
theorem dX1_compare_90 : decode cX1_compare 90 = .ok (.aload_n 0, 1) := by decide +kernel
theorem dX1_compare_91 : decode cX1_compare 91 = .ok (.getfield 47, 3) := by decide +kernel
theorem dX1_compare_94 : decode cX1_compare 94 = .ok (.iload_n 3, 1) := by decide +kernel
theorem dX1_compare_95 : decode cX1_compare 95 = .ok (.iaload, 1) := by decide +kernel
theorem dX1_compare_96 : decode cX1_compare 96 = .ok (.iload 6, 2) := by decide +kernel
theorem dX1_compare_98 : decode cX1_compare 98 = .ok (.ishr, 1) := by decide +kernel
theorem dX1_compare_99 : decode cX1_compare 99 = .ok (.iconst 1, 1) := by decide +kernel
theorem dX1_compare_100 : decode cX1_compare 100 = .ok (.iand, 1) := by decide +kernel
theorem dX1_compare_101 : decode cX1_compare 101 = .ok (.ifCond .ne 14, 3) := by decide +kernel
theorem dX1_compare_104 : decode cX1_compare 104 = .ok (.goto 63, 3) := by decide +kernel
theorem dX1_compare_107 : decode cX1_compare 107 = .ok (.iload 6, 2) := by decide +kernel
theorem dX1_compare_109 : decode cX1_compare 109 = .ok (.ifCond .le 6, 3) := by decide +kernel
theorem dX1_compare_112 : decode cX1_compare 112 = .ok (.goto 55, 3) := by decide +kernel
theorem dX1_compare_115 : decode cX1_compare 115 = .ok (.aload_n 0, 1) := by decide +kernel
theorem dX1_compare_116 : decode cX1_compare 116 = .ok (.getfield 41, 3) := by decide +kernel
theorem dX1_compare_119 : decode cX1_compare 119 = .ok (.iload_n 3, 1) := by decide +kernel
theorem dX1_compare_120 : decode cX1_compare 120 = .ok (.iaload, 1) := by decide +kernel
theorem dX1_compare_121 : decode cX1_compare 121 = .ok (.ifCond .ne 13, 3) := by decide +kernel
theorem dX1_compare_124 : decode cX1_compare 124 = .ok (.aload_n 0, 1) := by decide +kernel
theorem dX1_compare_125 : decode cX1_compare 125 = .ok (.getfield 19, 3) := by decide +kernel
theorem dX1_compare_128 : decode cX1_compare 128 = .ok (.iload 6, 2) := by decide +kernel
theorem dX1_compare_130 : decode cX1_compare 130 = .ok (.iaload, 1) := by decide +kernel
theorem dX1_compare_131 : decode cX1_compare 131 = .ok (.goto 9, 3) := by decide +kernel
theorem dX1_compare_134 : decode cX1_compare 134 = .ok (.aload_n 0, 1) := by decide +kernel
theorem dX1_compare_135 : decode cX1_compare 135 = .ok (.getfield 44, 3) := by decide +kernel
theorem dX1_compare_138 : decode cX1_compare 138 = .ok (.iload_n 3, 1) := by decide +kernel
theorem dX1_compare_139 : decode cX1_compare 139 = .ok (.iaload, 1) := by decide +kernel
theorem dX1_compare_140 : decode cX1_compare 140 = .ok (.istore 7, 2) := by decide +kernel
theorem dX1_compare_142 : decode cX1_compare 142 = .ok (.iload_n 1, 1) := by decide +kernel
theorem dX1_compare_143 : decode cX1_compare 143 = .ok (.bipush 13, 2) := by decide +kernel
theorem dX1_compare_145 : decode cX1_compare 145 = .ok (.if_icmp .ne 13, 3) := by decide +kernel
theorem dX1_compare_148 : decode cX1_compare 148 = .ok (.iload 5, 2) := by decide +kernel
theorem dX1_compare_150 : decode cX1_compare 150 = .ok (.iload 7, 2) := by decide +kernel
theorem dX1_compare_152 : decode cX1_compare 152 = .ok (.if_icmp .ge 15, 3) := by decide +kernel
theorem dX1_compare_155 : decode cX1_compare 155 = .ok (.goto 10, 3) := by decide +kernel
theorem dX1_compare_158 : decode cX1_compare 158 = .ok (.iload 5, 2) := by decide +kernel
theorem dX1_compare_160 : decode cX1_compare 160 = .ok (.iload 7, 2) := by decide +kernel
theorem dX1_compare_162 : decode cX1_compare 162 = .ok (.if_icmp .ne 5, 3) := by decide +kernel
theorem dX1_compare_165 : decode cX1_compare 165 = .ok (.iconst 1, 1) := by decide +kernel
theorem dX1_compare_166 : decode cX1_compare 166 = .ok (.ireturn, 1) := by decide +kernel
theorem dX1_compare_167 : decode cX1_compare 167 = .ok (.iinc 6 1, 3) := by decide +kernel
theorem dX1_compare_170 : decode cX1_compare 170 = .ok (.goto (-96), 3) := by decide +kernel
theorem dX1_compare_173 : decode cX1_compare 173 = .ok (.iinc 4 1, 3) := by decide +kernel
theorem dX1_compare_176 : decode cX1_compare 176 = .ok (.goto (-173), 3) := by decide +kernel
theorem dX1_compare_179 : decode cX1_compare 179 = .ok (.iconst 0, 1) := by decide +kernel
theorem dX1_compare_180 : decode cX1_compare 180 = .ok (.ireturn, 1) := by decide +kernel
abbrev cX1_isTrue : ByteArray := prog_3_method_26_code
def yX1_isTrue : MethodName := ⟨RX1, "isTrue", "(I)Z"⟩
theorem dX1_isTrue_0 : decode cX1_isTrue 0 = .ok (.aload_n 0, 1) := by decide +kernel
theorem dX1_isTrue_1 : decode cX1_isTrue 1 = .ok (.getfield 41, 3) := by decide +kernel
theorem dX1_isTrue_4 : decode cX1_isTrue 4 = .ok (.iload_n 1, 1) := by decide +kernel
theorem dX1_isTrue_5 : decode cX1_isTrue 5 = .ok (.iaload, 1) := by decide +kernel
theorem dX1_isTrue_6 : decode cX1_isTrue 6 = .ok (.ifCond .ne 20, 3) := by decide +kernel
theorem dX1_isTrue_9 : decode cX1_isTrue 9 = .ok (.aload_n 0, 1) := by decide +kernel
theorem dX1_isTrue_10 : decode cX1_isTrue 10 = .ok (.getfield 47, 3) := by decide +kernel
theorem dX1_isTrue_13 : decode cX1_isTrue 13 = .ok (.iload_n 1, 1) := by decide +kernel
theorem dX1_isTrue_14 : decode cX1_isTrue 14 = .ok (.iaload, 1) := by decide +kernel
theorem dX1_isTrue_15 : decode cX1_isTrue 15 = .ok (.ifCond .eq 7, 3) := by decide +kernel
theorem dX1_isTrue_18 : decode cX1_isTrue 18 = .ok (.iconst 1, 1) := by decide +kernel
theorem dX1_isTrue_19 : decode cX1_isTrue 19 = .ok (.goto 21, 3) := by decide +kernel
theorem dX1_isTrue_22 : decode cX1_isTrue 22 = .ok (.iconst 0, 1) := by decide +kernel
theorem dX1_isTrue_23 : decode cX1_isTrue 23 = .ok (.goto 17, 3) := by decide +kernel
theorem dX1_isTrue_26 : decode cX1_isTrue 26 = .ok (.aload_n 0, 1) := by decide +kernel
theorem dX1_isTrue_27 : decode cX1_isTrue 27 = .ok (.getfield 44, 3) := by decide +kernel
theorem dX1_isTrue_30 : decode cX1_isTrue 30 = .ok (.iload_n 1, 1) := by decide +kernel
theorem dX1_isTrue_31 : decode cX1_isTrue 31 = .ok (.iaload, 1) := by decide +kernel
theorem dX1_isTrue_32 : decode cX1_isTrue 32 = .ok (.ifCond .eq 7, 3) := by decide +kernel
theorem dX1_isTrue_35 : decode cX1_isTrue 35 = .ok (.iconst 1, 1) := by decide +kernel
theorem dX1_isTrue_36 : decode cX1_isTrue 36 = .ok (.goto 4, 3) := by decide +kernel
theorem dX1_isTrue_39 : decode cX1_isTrue 39 = .ok (.iconst 0, 1) := by decide +kernel
theorem dX1_isTrue_40 : decode cX1_isTrue 40 = .ok (.ireturn, 1) := by decide +kernel
abbrev cX1_plain : ByteArray := prog_3_method_25_code
def yX1_plain : MethodName := ⟨RX1, "plain", "(I)I"⟩
theorem dX1_plain_0 : decode cX1_plain 0 = .ok (.aload_n 0, 1) := by decide +kernel
theorem dX1_plain_1 : decode cX1_plain 1 = .ok (.getfield 41, 3) := by decide +kernel
theorem dX1_plain_4 : decode cX1_plain 4 = .ok (.iload_n 1, 1) := by decide +kernel
theorem dX1_plain_5 : decode cX1_plain 5 = .ok (.iaload, 1) := by decide +kernel
theorem dX1_plain_6 : decode cX1_plain 6 = .ok (.ifCond .ne 16, 3) := by decide +kernel
theorem dX1_plain_9 : decode cX1_plain 9 = .ok (.aload_n 0, 1) := by decide +kernel
theorem dX1_plain_10 : decode cX1_plain 10 = .ok (.aload_n 0, 1) := by decide +kernel
theorem dX1_plain_11 : decode cX1_plain 11 = .ok (.getfield 47, 3) := by decide +kernel
theorem dX1_plain_14 : decode cX1_plain 14 = .ok (.iload_n 1, 1) := by decide +kernel
theorem dX1_plain_15 : decode cX1_plain 15 = .ok (.iaload, 1) := by decide +kernel
theorem dX1_plain_16 : decode cX1_plain 16 = .ok (.invokevirtual 140, 3) := by decide +kernel
theorem dX1_plain_19 : decode cX1_plain 19 = .ok (.goto 9, 3) := by decide +kernel
theorem dX1_plain_22 : decode cX1_plain 22 = .ok (.aload_n 0, 1) := by decide +kernel
theorem dX1_plain_23 : decode cX1_plain 23 = .ok (.getfield 44, 3) := by decide +kernel
theorem dX1_plain_26 : decode cX1_plain 26 = .ok (.iload_n 1, 1) := by decide +kernel
theorem dX1_plain_27 : decode cX1_plain 27 = .ok (.iaload, 1) := by decide +kernel
theorem dX1_plain_28 : decode cX1_plain 28 = .ok (.ireturn, 1) := by decide +kernel
abbrev cX1_at : ByteArray := prog_3_method_36_code
def yX1_at : MethodName := ⟨RX1, "at", "(III)I"⟩
theorem dX1_at_0 : decode cX1_at 0 = .ok (.aload_n 0, 1) := by decide +kernel
theorem dX1_at_1 : decode cX1_at 1 = .ok (.iload_n 1, 1) := by decide +kernel
theorem dX1_at_2 : decode cX1_at 2 = .ok (.iload_n 2, 1) := by decide +kernel
theorem dX1_at_3 : decode cX1_at 3 = .ok (.invokevirtual 167, 3) := by decide +kernel
theorem dX1_at_6 : decode cX1_at 6 = .ok (.ifCond .eq 11, 3) := by decide +kernel
theorem dX1_at_9 : decode cX1_at 9 = .ok (.aload_n 0, 1) := by decide +kernel
theorem dX1_at_10 : decode cX1_at 10 = .ok (.iload_n 1, 1) := by decide +kernel
theorem dX1_at_11 : decode cX1_at 11 = .ok (.invokevirtual 170, 3) := by decide +kernel
theorem dX1_at_14 : decode cX1_at 14 = .ok (.ifCond .ne 5, 3) := by decide +kernel
theorem dX1_at_17 : decode cX1_at 17 = .ok (.iconst (-1), 1) := by decide +kernel
theorem dX1_at_18 : decode cX1_at 18 = .ok (.ireturn, 1) := by decide +kernel
theorem dX1_at_19 : decode cX1_at 19 = .ok (.aload_n 0, 1) := by decide +kernel
theorem dX1_at_20 : decode cX1_at 20 = .ok (.iload_n 1, 1) := by decide +kernel
theorem dX1_at_21 : decode cX1_at 21 = .ok (.iload_n 2, 1) := by decide +kernel
theorem dX1_at_22 : decode cX1_at 22 = .ok (.invokevirtual 173, 3) := by decide +kernel
theorem dX1_at_25 : decode cX1_at 25 = .ok (.iload_n 3, 1) := by decide +kernel
theorem dX1_at_26 : decode cX1_at 26 = .ok (.istore 4, 2) := by decide +kernel
theorem dX1_at_28 : decode cX1_at 28 = .ok (.iconst 0, 1) := by decide +kernel
theorem dX1_at_29 : decode cX1_at 29 = .ok (.istore 5, 2) := by decide +kernel
theorem dX1_at_31 : decode cX1_at 31 = .ok (.iload 5, 2) := by decide +kernel
theorem dX1_at_33 : decode cX1_at 33 = .ok (.aload_n 0, 1) := by decide +kernel
theorem dX1_at_34 : decode cX1_at 34 = .ok (.getfield 77, 3) := by decide +kernel
theorem dX1_at_37 : decode cX1_at 37 = .ok (.if_icmp .ge 52, 3) := by decide +kernel
theorem dX1_at_40 : decode cX1_at 40 = .ok (.iload 4, 2) := by decide +kernel
theorem dX1_at_42 : decode cX1_at 42 = .ok (.ifCond .lt 47, 3) := by decide +kernel
theorem dX1_at_45 : decode cX1_at 45 = .ok (.aload_n 0, 1) := by decide +kernel
theorem dX1_at_46 : decode cX1_at 46 = .ok (.getfield 47, 3) := by decide +kernel
theorem dX1_at_49 : decode cX1_at 49 = .ok (.iconst 0, 1) := by decide +kernel
theorem dX1_at_50 : decode cX1_at 50 = .ok (.iaload, 1) := by decide +kernel
theorem dX1_at_51 : decode cX1_at 51 = .ok (.aload_n 0, 1) := by decide +kernel
theorem dX1_at_52 : decode cX1_at 52 = .ok (.getfield 7, 3) := by decide +kernel
theorem dX1_at_55 : decode cX1_at 55 = .ok (.iload 5, 2) := by decide +kernel
theorem dX1_at_57 : decode cX1_at 57 = .ok (.iaload, 1) := by decide +kernel
theorem dX1_at_58 : decode cX1_at 58 = .ok (.ishr, 1) := by decide +kernel
theorem dX1_at_59 : decode cX1_at 59 = .ok (.iconst 1, 1) := by decide +kernel
theorem dX1_at_60 : decode cX1_at 60 = .ok (.iand, 1) := by decide +kernel
theorem dX1_at_61 : decode cX1_at 61 = .ok (.ifCond .ne 6, 3) := by decide +kernel
theorem dX1_at_64 : decode cX1_at 64 = .ok (.goto 19, 3) := by decide +kernel
theorem dX1_at_67 : decode cX1_at 67 = .ok (.iload 4, 2) := by decide +kernel
theorem dX1_at_69 : decode cX1_at 69 = .ok (.ifCond .ne 11, 3) := by decide +kernel
theorem dX1_at_72 : decode cX1_at 72 = .ok (.aload_n 0, 1) := by decide +kernel
theorem dX1_at_73 : decode cX1_at 73 = .ok (.getfield 7, 3) := by decide +kernel
theorem dX1_at_76 : decode cX1_at 76 = .ok (.iload 5, 2) := by decide +kernel
theorem dX1_at_78 : decode cX1_at 78 = .ok (.iaload, 1) := by decide +kernel
theorem dX1_at_79 : decode cX1_at 79 = .ok (.ireturn, 1) := by decide +kernel
theorem dX1_at_80 : decode cX1_at 80 = .ok (.iinc 4 (-1), 3) := by decide +kernel
theorem dX1_at_83 : decode cX1_at 83 = .ok (.iinc 5 1, 3) := by decide +kernel
theorem dX1_at_86 : decode cX1_at 86 = .ok (.goto (-55), 3) := by decide +kernel
theorem dX1_at_89 : decode cX1_at 89 = .ok (.iconst (-1), 1) := by decide +kernel
theorem dX1_at_90 : decode cX1_at 90 = .ok (.ireturn, 1) := by decide +kernel
abbrev cX1_number : ByteArray := prog_3_method_37_code
def yX1_number : MethodName := ⟨RX1, "number", "(II)I"⟩
theorem dX1_number_0 : decode cX1_number 0 = .ok (.aload_n 0, 1) := by decide +kernel
theorem dX1_number_1 : decode cX1_number 1 = .ok (.iload_n 1, 1) := by decide +kernel
theorem dX1_number_2 : decode cX1_number 2 = .ok (.iload_n 2, 1) := by decide +kernel
theorem dX1_number_3 : decode cX1_number 3 = .ok (.invokevirtual 167, 3) := by decide +kernel
theorem dX1_number_6 : decode cX1_number 6 = .ok (.ifCond .ne 5, 3) := by decide +kernel
theorem dX1_number_9 : decode cX1_number 9 = .ok (.iconst 0, 1) := by decide +kernel
theorem dX1_number_10 : decode cX1_number 10 = .ok (.ireturn, 1) := by decide +kernel
theorem dX1_number_11 : decode cX1_number 11 = .ok (.aload_n 0, 1) := by decide +kernel
theorem dX1_number_12 : decode cX1_number 12 = .ok (.iload_n 1, 1) := by decide +kernel
theorem dX1_number_13 : decode cX1_number 13 = .ok (.iload_n 2, 1) := by decide +kernel
theorem dX1_number_14 : decode cX1_number 14 = .ok (.invokevirtual 173, 3) := by decide +kernel
theorem dX1_number_17 : decode cX1_number 17 = .ok (.aload_n 0, 1) := by decide +kernel
theorem dX1_number_18 : decode cX1_number 18 = .ok (.iconst 0, 1) := by decide +kernel
theorem dX1_number_19 : decode cX1_number 19 = .ok (.invokevirtual 160, 3) := by decide +kernel
theorem dX1_number_22 : decode cX1_number 22 = .ok (.ireturn, 1) := by decide +kernel
abbrev cX1_holds : ByteArray := prog_3_method_38_code
def yX1_holds : MethodName := ⟨RX1, "holds", "(II)Z"⟩
theorem dX1_holds_0 : decode cX1_holds 0 = .ok (.aload_n 0, 1) := by decide +kernel
theorem dX1_holds_1 : decode cX1_holds 1 = .ok (.iload_n 1, 1) := by decide +kernel
theorem dX1_holds_2 : decode cX1_holds 2 = .ok (.iload_n 2, 1) := by decide +kernel
theorem dX1_holds_3 : decode cX1_holds 3 = .ok (.invokevirtual 167, 3) := by decide +kernel
theorem dX1_holds_6 : decode cX1_holds 6 = .ok (.ifCond .ne 5, 3) := by decide +kernel
theorem dX1_holds_9 : decode cX1_holds 9 = .ok (.iconst 0, 1) := by decide +kernel
theorem dX1_holds_10 : decode cX1_holds 10 = .ok (.ireturn, 1) := by decide +kernel
theorem dX1_holds_11 : decode cX1_holds 11 = .ok (.aload_n 0, 1) := by decide +kernel
theorem dX1_holds_12 : decode cX1_holds 12 = .ok (.iload_n 1, 1) := by decide +kernel
theorem dX1_holds_13 : decode cX1_holds 13 = .ok (.iload_n 2, 1) := by decide +kernel
theorem dX1_holds_14 : decode cX1_holds 14 = .ok (.invokevirtual 173, 3) := by decide +kernel
theorem dX1_holds_17 : decode cX1_holds 17 = .ok (.aload_n 0, 1) := by decide +kernel
theorem dX1_holds_18 : decode cX1_holds 18 = .ok (.iconst 0, 1) := by decide +kernel
theorem dX1_holds_19 : decode cX1_holds 19 = .ok (.invokevirtual 156, 3) := by decide +kernel
theorem dX1_holds_22 : decode cX1_holds 22 = .ok (.ireturn, 1) := by decide +kernel
abbrev cX1_template : ByteArray := prog_3_method_39_code
def yX1_template : MethodName := ⟨RX1, "template", "(IIIII)Z"⟩
theorem dX1_template_0 : decode cX1_template 0 = .ok (.iload_n 1, 1) := by decide +kernel
theorem dX1_template_1 : decode cX1_template 1 = .ok (.iconst 0, 1) := by decide +kernel
theorem dX1_template_2 : decode cX1_template 2 = .ok (.iconst 5, 1) := by decide +kernel
theorem dX1_template_3 : decode cX1_template 3 = .ok (.invokestatic 88, 3) := by decide +kernel
theorem dX1_template_6 : decode cX1_template 6 = .ok (.ifCond .eq 46, 3) := by decide +kernel
theorem dX1_template_9 : decode cX1_template 9 = .ok (.iload_n 2, 1) := by decide +kernel
theorem dX1_template_10 : decode cX1_template 10 = .ok (.iconst 0, 1) := by decide +kernel
theorem dX1_template_11 : decode cX1_template 11 = .ok (.bipush 7, 2) := by decide +kernel
theorem dX1_template_13 : decode cX1_template 13 = .ok (.invokestatic 88, 3) := by decide +kernel
theorem dX1_template_16 : decode cX1_template 16 = .ok (.ifCond .eq 36, 3) := by decide +kernel
theorem dX1_template_19 : decode cX1_template 19 = .ok (.iload_n 3, 1) := by decide +kernel
theorem dX1_template_20 : decode cX1_template 20 = .ok (.bipush (-9), 2) := by decide +kernel
theorem dX1_template_22 : decode cX1_template 22 = .ok (.bipush 9, 2) := by decide +kernel
theorem dX1_template_24 : decode cX1_template 24 = .ok (.invokestatic 88, 3) := by decide +kernel
theorem dX1_template_27 : decode cX1_template 27 = .ok (.ifCond .eq 25, 3) := by decide +kernel
theorem dX1_template_30 : decode cX1_template 30 = .ok (.iload 4, 2) := by decide +kernel
theorem dX1_template_32 : decode cX1_template 32 = .ok (.iconst (-1), 1) := by decide +kernel
theorem dX1_template_33 : decode cX1_template 33 = .ok (.bipush 7, 2) := by decide +kernel
theorem dX1_template_35 : decode cX1_template 35 = .ok (.invokestatic 88, 3) := by decide +kernel
theorem dX1_template_38 : decode cX1_template 38 = .ok (.ifCond .eq 14, 3) := by decide +kernel
theorem dX1_template_41 : decode cX1_template 41 = .ok (.iload 5, 2) := by decide +kernel
theorem dX1_template_43 : decode cX1_template 43 = .ok (.iconst (-1), 1) := by decide +kernel
theorem dX1_template_44 : decode cX1_template 44 = .ok (.bipush 7, 2) := by decide +kernel
theorem dX1_template_46 : decode cX1_template 46 = .ok (.invokestatic 88, 3) := by decide +kernel
theorem dX1_template_49 : decode cX1_template 49 = .ok (.ifCond .ne 5, 3) := by decide +kernel
theorem dX1_template_52 : decode cX1_template 52 = .ok (.iconst 0, 1) := by decide +kernel
theorem dX1_template_53 : decode cX1_template 53 = .ok (.ireturn, 1) := by decide +kernel
theorem dX1_template_54 : decode cX1_template 54 = .ok (.aload_n 0, 1) := by decide +kernel
theorem dX1_template_55 : decode cX1_template 55 = .ok (.getfield 53, 3) := by decide +kernel
theorem dX1_template_58 : decode cX1_template 58 = .ok (.iload_n 1, 1) := by decide +kernel
theorem dX1_template_59 : decode cX1_template 59 = .ok (.iconst 1, 1) := by decide +kernel
theorem dX1_template_60 : decode cX1_template 60 = .ok (.bastore, 1) := by decide +kernel
theorem dX1_template_61 : decode cX1_template 61 = .ok (.aload_n 0, 1) := by decide +kernel
theorem dX1_template_62 : decode cX1_template 62 = .ok (.getfield 56, 3) := by decide +kernel
theorem dX1_template_65 : decode cX1_template 65 = .ok (.iload_n 1, 1) := by decide +kernel
theorem dX1_template_66 : decode cX1_template 66 = .ok (.iload_n 2, 1) := by decide +kernel
theorem dX1_template_67 : decode cX1_template 67 = .ok (.iastore, 1) := by decide +kernel
theorem dX1_template_68 : decode cX1_template 68 = .ok (.aload_n 0, 1) := by decide +kernel
theorem dX1_template_69 : decode cX1_template 69 = .ok (.getfield 59, 3) := by decide +kernel
theorem dX1_template_72 : decode cX1_template 72 = .ok (.iload_n 1, 1) := by decide +kernel
theorem dX1_template_73 : decode cX1_template 73 = .ok (.iload_n 3, 1) := by decide +kernel
theorem dX1_template_74 : decode cX1_template 74 = .ok (.iastore, 1) := by decide +kernel
theorem dX1_template_75 : decode cX1_template 75 = .ok (.aload_n 0, 1) := by decide +kernel
theorem dX1_template_76 : decode cX1_template 76 = .ok (.getfield 62, 3) := by decide +kernel
theorem dX1_template_79 : decode cX1_template 79 = .ok (.iload_n 1, 1) := by decide +kernel
theorem dX1_template_80 : decode cX1_template 80 = .ok (.iload 4, 2) := by decide +kernel
theorem dX1_template_82 : decode cX1_template 82 = .ok (.iastore, 1) := by decide +kernel
theorem dX1_template_83 : decode cX1_template 83 = .ok (.aload_n 0, 1) := by decide +kernel
theorem dX1_template_84 : decode cX1_template 84 = .ok (.getfield 65, 3) := by decide +kernel
theorem dX1_template_87 : decode cX1_template 87 = .ok (.iload_n 1, 1) := by decide +kernel
theorem dX1_template_88 : decode cX1_template 88 = .ok (.iload 5, 2) := by decide +kernel
theorem dX1_template_90 : decode cX1_template 90 = .ok (.iastore, 1) := by decide +kernel
theorem dX1_template_91 : decode cX1_template 91 = .ok (.iconst 1, 1) := by decide +kernel
theorem dX1_template_92 : decode cX1_template 92 = .ok (.ireturn, 1) := by decide +kernel
abbrev cX1_drop : ByteArray := prog_3_method_40_code
def yX1_drop : MethodName := ⟨RX1, "drop", "(I)Z"⟩
theorem dX1_drop_0 : decode cX1_drop 0 = .ok (.iload_n 1, 1) := by decide +kernel
theorem dX1_drop_1 : decode cX1_drop 1 = .ok (.iconst 0, 1) := by decide +kernel
theorem dX1_drop_2 : decode cX1_drop 2 = .ok (.iconst 5, 1) := by decide +kernel
theorem dX1_drop_3 : decode cX1_drop 3 = .ok (.invokestatic 88, 3) := by decide +kernel
theorem dX1_drop_6 : decode cX1_drop 6 = .ok (.ifCond .eq 12, 3) := by decide +kernel
theorem dX1_drop_9 : decode cX1_drop 9 = .ok (.aload_n 0, 1) := by decide +kernel
theorem dX1_drop_10 : decode cX1_drop 10 = .ok (.getfield 53, 3) := by decide +kernel
theorem dX1_drop_13 : decode cX1_drop 13 = .ok (.iload_n 1, 1) := by decide +kernel
theorem dX1_drop_14 : decode cX1_drop 14 = .ok (.baload, 1) := by decide +kernel
theorem dX1_drop_15 : decode cX1_drop 15 = .ok (.ifCond .ne 5, 3) := by decide +kernel
theorem dX1_drop_18 : decode cX1_drop 18 = .ok (.iconst 0, 1) := by decide +kernel
theorem dX1_drop_19 : decode cX1_drop 19 = .ok (.ireturn, 1) := by decide +kernel
theorem dX1_drop_20 : decode cX1_drop 20 = .ok (.aload_n 0, 1) := by decide +kernel
theorem dX1_drop_21 : decode cX1_drop 21 = .ok (.getfield 53, 3) := by decide +kernel
theorem dX1_drop_24 : decode cX1_drop 24 = .ok (.iload_n 1, 1) := by decide +kernel
theorem dX1_drop_25 : decode cX1_drop 25 = .ok (.iconst 0, 1) := by decide +kernel
theorem dX1_drop_26 : decode cX1_drop 26 = .ok (.bastore, 1) := by decide +kernel
theorem dX1_drop_27 : decode cX1_drop 27 = .ok (.iconst 1, 1) := by decide +kernel
theorem dX1_drop_28 : decode cX1_drop 28 = .ok (.ireturn, 1) := by decide +kernel
abbrev cX1_matches : ByteArray := prog_3_method_41_code
def yX1_matches : MethodName := ⟨RX1, "matches", "(II)Z"⟩
theorem dX1_matches_0 : decode cX1_matches 0 = .ok (.iload_n 1, 1) := by decide +kernel
theorem dX1_matches_1 : decode cX1_matches 1 = .ok (.iconst 0, 1) := by decide +kernel
theorem dX1_matches_2 : decode cX1_matches 2 = .ok (.iconst 5, 1) := by decide +kernel
theorem dX1_matches_3 : decode cX1_matches 3 = .ok (.invokestatic 88, 3) := by decide +kernel
theorem dX1_matches_6 : decode cX1_matches 6 = .ok (.ifCond .eq 33, 3) := by decide +kernel
theorem dX1_matches_9 : decode cX1_matches 9 = .ok (.aload_n 0, 1) := by decide +kernel
theorem dX1_matches_10 : decode cX1_matches 10 = .ok (.getfield 53, 3) := by decide +kernel
theorem dX1_matches_13 : decode cX1_matches 13 = .ok (.iload_n 1, 1) := by decide +kernel
theorem dX1_matches_14 : decode cX1_matches 14 = .ok (.baload, 1) := by decide +kernel
theorem dX1_matches_15 : decode cX1_matches 15 = .ok (.ifCond .eq 24, 3) := by decide +kernel
theorem dX1_matches_18 : decode cX1_matches 18 = .ok (.aload_n 0, 1) := by decide +kernel
theorem dX1_matches_19 : decode cX1_matches 19 = .ok (.iload_n 2, 1) := by decide +kernel
theorem dX1_matches_20 : decode cX1_matches 20 = .ok (.invokevirtual 81, 3) := by decide +kernel
theorem dX1_matches_23 : decode cX1_matches 23 = .ok (.ifCond .lt 16, 3) := by decide +kernel
theorem dX1_matches_26 : decode cX1_matches 26 = .ok (.aload_n 0, 1) := by decide +kernel
theorem dX1_matches_27 : decode cX1_matches 27 = .ok (.aload_n 0, 1) := by decide +kernel
theorem dX1_matches_28 : decode cX1_matches 28 = .ok (.getfield 56, 3) := by decide +kernel
theorem dX1_matches_31 : decode cX1_matches 31 = .ok (.iload_n 1, 1) := by decide +kernel
theorem dX1_matches_32 : decode cX1_matches 32 = .ok (.iaload, 1) := by decide +kernel
theorem dX1_matches_33 : decode cX1_matches 33 = .ok (.invokevirtual 170, 3) := by decide +kernel
theorem dX1_matches_36 : decode cX1_matches 36 = .ok (.ifCond .ne 5, 3) := by decide +kernel
theorem dX1_matches_39 : decode cX1_matches 39 = .ok (.iconst 0, 1) := by decide +kernel
theorem dX1_matches_40 : decode cX1_matches 40 = .ok (.ireturn, 1) := by decide +kernel
theorem dX1_matches_41 : decode cX1_matches 41 = .ok (.iconst 0, 1) := by decide +kernel
theorem dX1_matches_42 : decode cX1_matches 42 = .ok (.istore_n 3, 1) := by decide +kernel
theorem dX1_matches_43 : decode cX1_matches 43 = .ok (.iload_n 3, 1) := by decide +kernel
theorem dX1_matches_44 : decode cX1_matches 44 = .ok (.aload_n 0, 1) := by decide +kernel
theorem dX1_matches_45 : decode cX1_matches 45 = .ok (.getfield 77, 3) := by decide +kernel
theorem dX1_matches_48 : decode cX1_matches 48 = .ok (.if_icmp .ge 76, 3) := by decide +kernel
theorem dX1_matches_51 : decode cX1_matches 51 = .ok (.aload_n 0, 1) := by decide +kernel
theorem dX1_matches_52 : decode cX1_matches 52 = .ok (.getfield 7, 3) := by decide +kernel
theorem dX1_matches_55 : decode cX1_matches 55 = .ok (.iload_n 3, 1) := by decide +kernel
theorem dX1_matches_56 : decode cX1_matches 56 = .ok (.iaload, 1) := by decide +kernel
theorem dX1_matches_57 : decode cX1_matches 57 = .ok (.istore 4, 2) := by decide +kernel
theorem dX1_matches_59 : decode cX1_matches 59 = .ok (.iload 4, 2) := by decide +kernel
theorem dX1_matches_61 : decode cX1_matches 61 = .ok (.iload_n 2, 1) := by decide +kernel
theorem dX1_matches_62 : decode cX1_matches 62 = .ok (.if_icmp .eq 13, 3) := by decide +kernel
theorem dX1_matches_65 : decode cX1_matches 65 = .ok (.aload_n 0, 1) := by decide +kernel
theorem dX1_matches_66 : decode cX1_matches 66 = .ok (.iload_n 2, 1) := by decide +kernel
theorem dX1_matches_67 : decode cX1_matches 67 = .ok (.iload 4, 2) := by decide +kernel
theorem dX1_matches_69 : decode cX1_matches 69 = .ok (.invokevirtual 99, 3) := by decide +kernel
theorem dX1_matches_72 : decode cX1_matches 72 = .ok (.ifCond .eq 7, 3) := by decide +kernel
theorem dX1_matches_75 : decode cX1_matches 75 = .ok (.iconst 1, 1) := by decide +kernel
theorem dX1_matches_76 : decode cX1_matches 76 = .ok (.goto 4, 3) := by decide +kernel
theorem dX1_matches_79 : decode cX1_matches 79 = .ok (.iconst 0, 1) := by decide +kernel
theorem dX1_matches_80 : decode cX1_matches 80 = .ok (.istore 5, 2) := by decide +kernel
theorem dX1_matches_82 : decode cX1_matches 82 = .ok (.iload 5, 2) := by decide +kernel
theorem dX1_matches_84 : decode cX1_matches 84 = .ok (.ifCond .ne 6, 3) := by decide +kernel
theorem dX1_matches_87 : decode cX1_matches 87 = .ok (.goto 31, 3) := by decide +kernel
theorem dX1_matches_90 : decode cX1_matches 90 = .ok (.aload_n 0, 1) := by decide +kernel
theorem dX1_matches_91 : decode cX1_matches 91 = .ok (.aload_n 0, 1) := by decide +kernel
theorem dX1_matches_92 : decode cX1_matches 92 = .ok (.getfield 56, 3) := by decide +kernel
theorem dX1_matches_95 : decode cX1_matches 95 = .ok (.iload_n 1, 1) := by decide +kernel
theorem dX1_matches_96 : decode cX1_matches 96 = .ok (.iaload, 1) := by decide +kernel
theorem dX1_matches_97 : decode cX1_matches 97 = .ok (.iload 4, 2) := by decide +kernel
theorem dX1_matches_99 : decode cX1_matches 99 = .ok (.invokevirtual 173, 3) := by decide +kernel
theorem dX1_matches_102 : decode cX1_matches 102 = .ok (.aload_n 0, 1) := by decide +kernel
theorem dX1_matches_103 : decode cX1_matches 103 = .ok (.getfield 47, 3) := by decide +kernel
theorem dX1_matches_106 : decode cX1_matches 106 = .ok (.iconst 0, 1) := by decide +kernel
theorem dX1_matches_107 : decode cX1_matches 107 = .ok (.iaload, 1) := by decide +kernel
theorem dX1_matches_108 : decode cX1_matches 108 = .ok (.iload_n 2, 1) := by decide +kernel
theorem dX1_matches_109 : decode cX1_matches 109 = .ok (.ishr, 1) := by decide +kernel
theorem dX1_matches_110 : decode cX1_matches 110 = .ok (.iconst 1, 1) := by decide +kernel
theorem dX1_matches_111 : decode cX1_matches 111 = .ok (.iand, 1) := by decide +kernel
theorem dX1_matches_112 : decode cX1_matches 112 = .ok (.iconst 1, 1) := by decide +kernel
theorem dX1_matches_113 : decode cX1_matches 113 = .ok (.if_icmp .ne 5, 3) := by decide +kernel
theorem dX1_matches_116 : decode cX1_matches 116 = .ok (.iconst 1, 1) := by decide +kernel
theorem dX1_matches_117 : decode cX1_matches 117 = .ok (.ireturn, 1) := by decide +kernel
theorem dX1_matches_118 : decode cX1_matches 118 = .ok (.iinc 3 1, 3) := by decide +kernel
theorem dX1_matches_121 : decode cX1_matches 121 = .ok (.goto (-78), 3) := by decide +kernel
theorem dX1_matches_124 : decode cX1_matches 124 = .ok (.iconst 0, 1) := by decide +kernel
theorem dX1_matches_125 : decode cX1_matches 125 = .ok (.ireturn, 1) := by decide +kernel
abbrev cX1_transform : ByteArray := prog_3_method_43_code
def yX1_transform : MethodName := ⟨RX1, "transform", "(I)I"⟩
theorem dX1_transform_0 : decode cX1_transform 0 = .ok (.aload_n 0, 1) := by decide +kernel
theorem dX1_transform_1 : decode cX1_transform 1 = .ok (.iload_n 1, 1) := by decide +kernel
theorem dX1_transform_2 : decode cX1_transform 2 = .ok (.invokevirtual 81, 3) := by decide +kernel
theorem dX1_transform_5 : decode cX1_transform 5 = .ok (.ifCond .ge 5, 3) := by decide +kernel
theorem dX1_transform_8 : decode cX1_transform 8 = .ok (.iconst (-1), 1) := by decide +kernel
theorem dX1_transform_9 : decode cX1_transform 9 = .ok (.ireturn, 1) := by decide +kernel
theorem dX1_transform_10 : decode cX1_transform 10 = .ok (.aload_n 0, 1) := by decide +kernel
theorem dX1_transform_11 : decode cX1_transform 11 = .ok (.iconst 0, 1) := by decide +kernel
theorem dX1_transform_12 : decode cX1_transform 12 = .ok (.putfield 179, 3) := by decide +kernel
theorem dX1_transform_15 : decode cX1_transform 15 = .ok (.iconst 0, 1) := by decide +kernel
theorem dX1_transform_16 : decode cX1_transform 16 = .ok (.istore_n 2, 1) := by decide +kernel
theorem dX1_transform_17 : decode cX1_transform 17 = .ok (.iconst 0, 1) := by decide +kernel
theorem dX1_transform_18 : decode cX1_transform 18 = .ok (.istore_n 3, 1) := by decide +kernel
theorem dX1_transform_19 : decode cX1_transform 19 = .ok (.aload_n 0, 1) := by decide +kernel
theorem dX1_transform_20 : decode cX1_transform 20 = .ok (.getfield 68, 3) := by decide +kernel
theorem dX1_transform_23 : decode cX1_transform 23 = .ok (.iload_n 2, 1) := by decide +kernel
theorem dX1_transform_24 : decode cX1_transform 24 = .ok (.iload_n 1, 1) := by decide +kernel
theorem dX1_transform_25 : decode cX1_transform 25 = .ok (.iastore, 1) := by decide +kernel
theorem dX1_transform_26 : decode cX1_transform 26 = .ok (.aload_n 0, 1) := by decide +kernel
theorem dX1_transform_27 : decode cX1_transform 27 = .ok (.getfield 71, 3) := by decide +kernel
theorem dX1_transform_30 : decode cX1_transform 30 = .ok (.iload_n 2, 1) := by decide +kernel
theorem dX1_transform_31 : decode cX1_transform 31 = .ok (.iinc 2 1, 3) := by decide +kernel
theorem dX1_transform_34 : decode cX1_transform 34 = .ok (.iconst 0, 1) := by decide +kernel
theorem dX1_transform_35 : decode cX1_transform 35 = .ok (.iastore, 1) := by decide +kernel
theorem dX1_transform_36 : decode cX1_transform 36 = .ok (.iload_n 2, 1) := by decide +kernel
theorem dX1_transform_37 : decode cX1_transform 37 = .ok (.ifCond .le 251, 3) := by decide +kernel
theorem dX1_transform_40 : decode cX1_transform 40 = .ok (.iinc 2 (-1), 3) := by decide +kernel
theorem dX1_transform_43 : decode cX1_transform 43 = .ok (.aload_n 0, 1) := by decide +kernel
theorem dX1_transform_44 : decode cX1_transform 44 = .ok (.getfield 68, 3) := by decide +kernel
theorem dX1_transform_47 : decode cX1_transform 47 = .ok (.iload_n 2, 1) := by decide +kernel
theorem dX1_transform_48 : decode cX1_transform 48 = .ok (.iaload, 1) := by decide +kernel
theorem dX1_transform_49 : decode cX1_transform 49 = .ok (.istore 4, 2) := by decide +kernel
theorem dX1_transform_51 : decode cX1_transform 51 = .ok (.aload_n 0, 1) := by decide +kernel
theorem dX1_transform_52 : decode cX1_transform 52 = .ok (.getfield 71, 3) := by decide +kernel
theorem dX1_transform_55 : decode cX1_transform 55 = .ok (.iload_n 2, 1) := by decide +kernel
theorem dX1_transform_56 : decode cX1_transform 56 = .ok (.iaload, 1) := by decide +kernel
theorem dX1_transform_57 : decode cX1_transform 57 = .ok (.istore 5, 2) := by decide +kernel
theorem dX1_transform_59 : decode cX1_transform 59 = .ok (.iinc 3 1, 3) := by decide +kernel
theorem dX1_transform_62 : decode cX1_transform 62 = .ok (.iload_n 3, 1) := by decide +kernel
theorem dX1_transform_63 : decode cX1_transform 63 = .ok (.bipush 100, 2) := by decide +kernel
theorem dX1_transform_65 : decode cX1_transform 65 = .ok (.if_icmp .gt 10, 3) := by decide +kernel
theorem dX1_transform_68 : decode cX1_transform 68 = .ok (.iload 5, 2) := by decide +kernel
theorem dX1_transform_70 : decode cX1_transform 70 = .ok (.bipush 11, 2) := by decide +kernel
theorem dX1_transform_72 : decode cX1_transform 72 = .ok (.if_icmp .le 11, 3) := by decide +kernel
theorem dX1_transform_75 : decode cX1_transform 75 = .ok (.aload_n 0, 1) := by decide +kernel
theorem dX1_transform_76 : decode cX1_transform 76 = .ok (.iconst 0, 1) := by decide +kernel
theorem dX1_transform_77 : decode cX1_transform 77 = .ok (.putfield 179, 3) := by decide +kernel
theorem dX1_transform_80 : decode cX1_transform 80 = .ok (.bipush (-3), 2) := by decide +kernel
theorem dX1_transform_82 : decode cX1_transform 82 = .ok (.ireturn, 1) := by decide +kernel
theorem dX1_transform_83 : decode cX1_transform 83 = .ok (.aload_n 0, 1) := by decide +kernel
theorem dX1_transform_84 : decode cX1_transform 84 = .ok (.iload 4, 2) := by decide +kernel
theorem dX1_transform_86 : decode cX1_transform 86 = .ok (.invokevirtual 182, 3) := by decide +kernel
theorem dX1_transform_89 : decode cX1_transform 89 = .ok (.istore 6, 2) := by decide +kernel
theorem dX1_transform_91 : decode cX1_transform 91 = .ok (.iload 6, 2) := by decide +kernel
theorem dX1_transform_93 : decode cX1_transform 93 = .ok (.ifCond .ge 12, 3) := by decide +kernel
theorem dX1_transform_96 : decode cX1_transform 96 = .ok (.aload_n 0, 1) := by decide +kernel
theorem dX1_transform_97 : decode cX1_transform 97 = .ok (.iload 4, 2) := by decide +kernel
theorem dX1_transform_99 : decode cX1_transform 99 = .ok (.invokevirtual 185, 3) := by decide +kernel
theorem dX1_transform_102 : decode cX1_transform 102 = .ok (.goto 4, 3) := by decide +kernel
theorem dX1_transform_105 : decode cX1_transform 105 = .ok (.iconst 0, 1) := by decide +kernel
theorem dX1_transform_106 : decode cX1_transform 106 = .ok (.istore 7, 2) := by decide +kernel
theorem dX1_transform_108 : decode cX1_transform 108 = .ok (.iload 6, 2) := by decide +kernel
theorem dX1_transform_110 : decode cX1_transform 110 = .ok (.ifCond .lt 62, 3) := by decide +kernel
