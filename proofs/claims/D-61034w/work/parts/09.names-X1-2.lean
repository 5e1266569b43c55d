set_option maxRecDepth 100000
theorem dX1_child_47 : decode cX1_child 47 = .ok (.iload 4, 2) := by decide +kernel
theorem dX1_child_49 : decode cX1_child 49 = .ok (.iaload, 1) := by decide +kernel
theorem dX1_child_50 : decode cX1_child 50 = .ok (.ireturn, 1) := by decide +kernel
abbrev cX1_token : ByteArray := prog_3_method_16_code
def yX1_token : MethodName := ⟨RX1, "token", "(II)I"⟩
theorem dX1_token_0 : decode cX1_token 0 = .ok (.iload_n 1, 1) := by decide +kernel
theorem dX1_token_1 : decode cX1_token 1 = .ok (.iconst 2, 1) := by decide +kernel
theorem dX1_token_2 : decode cX1_token 2 = .ok (.if_icmp .ne 47, 3) := by decide +kernel
theorem dX1_token_5 : decode cX1_token 5 = .ok (.iload_n 2, 1) := by decide +kernel
theorem dX1_token_6 : decode cX1_token 6 = .ok (.ifCond .lt 47, 3) := by decide +kernel
theorem dX1_token_9 : decode cX1_token 9 = .ok (.iload_n 2, 1) := by decide +kernel
theorem dX1_token_10 : decode cX1_token 10 = .ok (.bipush 15, 2) := by decide +kernel
theorem dX1_token_12 : decode cX1_token 12 = .ok (.iand, 1) := by decide +kernel
theorem dX1_token_13 : decode cX1_token 13 = .ok (.iconst 0, 1) := by decide +kernel
theorem dX1_token_14 : decode cX1_token 14 = .ok (.bipush 10, 2) := by decide +kernel
theorem dX1_token_16 : decode cX1_token 16 = .ok (.invokestatic 88, 3) := by decide +kernel
theorem dX1_token_19 : decode cX1_token 19 = .ok (.ifCond .eq 34, 3) := by decide +kernel
theorem dX1_token_22 : decode cX1_token 22 = .ok (.iload_n 2, 1) := by decide +kernel
theorem dX1_token_23 : decode cX1_token 23 = .ok (.iconst 4, 1) := by decide +kernel
theorem dX1_token_24 : decode cX1_token 24 = .ok (.ishr, 1) := by decide +kernel
theorem dX1_token_25 : decode cX1_token 25 = .ok (.bipush 7, 2) := by decide +kernel
theorem dX1_token_27 : decode cX1_token 27 = .ok (.iand, 1) := by decide +kernel
theorem dX1_token_28 : decode cX1_token 28 = .ok (.iconst 0, 1) := by decide +kernel
theorem dX1_token_29 : decode cX1_token 29 = .ok (.bipush 6, 2) := by decide +kernel
theorem dX1_token_31 : decode cX1_token 31 = .ok (.invokestatic 88, 3) := by decide +kernel
theorem dX1_token_34 : decode cX1_token 34 = .ok (.ifCond .eq 19, 3) := by decide +kernel
theorem dX1_token_37 : decode cX1_token 37 = .ok (.iload_n 2, 1) := by decide +kernel
theorem dX1_token_38 : decode cX1_token 38 = .ok (.bipush 7, 2) := by decide +kernel
theorem dX1_token_40 : decode cX1_token 40 = .ok (.ishr, 1) := by decide +kernel
theorem dX1_token_41 : decode cX1_token 41 = .ok (.iconst 0, 1) := by decide +kernel
theorem dX1_token_42 : decode cX1_token 42 = .ok (.iconst 2, 1) := by decide +kernel
theorem dX1_token_43 : decode cX1_token 43 = .ok (.invokestatic 88, 3) := by decide +kernel
theorem dX1_token_46 : decode cX1_token 46 = .ok (.ifCond .eq 7, 3) := by decide +kernel
theorem dX1_token_49 : decode cX1_token 49 = .ok (.iconst 1, 1) := by decide +kernel
theorem dX1_token_50 : decode cX1_token 50 = .ok (.goto 4, 3) := by decide +kernel
theorem dX1_token_53 : decode cX1_token 53 = .ok (.iconst 0, 1) := by decide +kernel
theorem dX1_token_54 : decode cX1_token 54 = .ok (.istore_n 3, 1) := by decide +kernel
theorem dX1_token_55 : decode cX1_token 55 = .ok (.iload_n 1, 1) := by decide +kernel
theorem dX1_token_56 : decode cX1_token 56 = .ok (.iconst 0, 1) := by decide +kernel
theorem dX1_token_57 : decode cX1_token 57 = .ok (.bipush 17, 2) := by decide +kernel
theorem dX1_token_59 : decode cX1_token 59 = .ok (.invokestatic 88, 3) := by decide +kernel
theorem dX1_token_62 : decode cX1_token 62 = .ok (.ifCond .eq 19, 3) := by decide +kernel
theorem dX1_token_65 : decode cX1_token 65 = .ok (.iload_n 3, 1) := by decide +kernel
theorem dX1_token_66 : decode cX1_token 66 = .ok (.ifCond .eq 15, 3) := by decide +kernel
theorem dX1_token_69 : decode cX1_token 69 = .ok (.aload_n 0, 1) := by decide +kernel
theorem dX1_token_70 : decode cX1_token 70 = .ok (.getfield 31, 3) := by decide +kernel
theorem dX1_token_73 : decode cX1_token 73 = .ok (.bipush 8, 2) := by decide +kernel
theorem dX1_token_75 : decode cX1_token 75 = .ok (.iaload, 1) := by decide +kernel
theorem dX1_token_76 : decode cX1_token 76 = .ok (.bipush 40, 2) := by decide +kernel
theorem dX1_token_78 : decode cX1_token 78 = .ok (.if_icmp .ne 5, 3) := by decide +kernel
theorem dX1_token_81 : decode cX1_token 81 = .ok (.iconst (-1), 1) := by decide +kernel
theorem dX1_token_82 : decode cX1_token 82 = .ok (.ireturn, 1) := by decide +kernel
theorem dX1_token_83 : decode cX1_token 83 = .ok (.aload_n 0, 1) := by decide +kernel
theorem dX1_token_84 : decode cX1_token 84 = .ok (.getfield 25, 3) := by decide +kernel
theorem dX1_token_87 : decode cX1_token 87 = .ok (.sipush 320, 3) := by decide +kernel
theorem dX1_token_90 : decode cX1_token 90 = .ok (.aload_n 0, 1) := by decide +kernel
theorem dX1_token_91 : decode cX1_token 91 = .ok (.getfield 31, 3) := by decide +kernel
theorem dX1_token_94 : decode cX1_token 94 = .ok (.bipush 8, 2) := by decide +kernel
theorem dX1_token_96 : decode cX1_token 96 = .ok (.iaload, 1) := by decide +kernel
theorem dX1_token_97 : decode cX1_token 97 = .ok (.iadd, 1) := by decide +kernel
theorem dX1_token_98 : decode cX1_token 98 = .ok (.iload_n 1, 1) := by decide +kernel
theorem dX1_token_99 : decode cX1_token 99 = .ok (.iastore, 1) := by decide +kernel
theorem dX1_token_100 : decode cX1_token 100 = .ok (.aload_n 0, 1) := by decide +kernel
theorem dX1_token_101 : decode cX1_token 101 = .ok (.getfield 28, 3) := by decide +kernel
theorem dX1_token_104 : decode cX1_token 104 = .ok (.sipush 320, 3) := by decide +kernel
theorem dX1_token_107 : decode cX1_token 107 = .ok (.aload_n 0, 1) := by decide +kernel
theorem dX1_token_108 : decode cX1_token 108 = .ok (.getfield 31, 3) := by decide +kernel
theorem dX1_token_111 : decode cX1_token 111 = .ok (.bipush 8, 2) := by decide +kernel
theorem dX1_token_113 : decode cX1_token 113 = .ok (.iaload, 1) := by decide +kernel
theorem dX1_token_114 : decode cX1_token 114 = .ok (.iadd, 1) := by decide +kernel
theorem dX1_token_115 : decode cX1_token 115 = .ok (.iload_n 2, 1) := by decide +kernel
theorem dX1_token_116 : decode cX1_token 116 = .ok (.iastore, 1) := by decide +kernel
theorem dX1_token_117 : decode cX1_token 117 = .ok (.aload_n 0, 1) := by decide +kernel
theorem dX1_token_118 : decode cX1_token 118 = .ok (.getfield 31, 3) := by decide +kernel
theorem dX1_token_121 : decode cX1_token 121 = .ok (.bipush 8, 2) := by decide +kernel
theorem dX1_token_123 : decode cX1_token 123 = .ok (.dup2, 1) := by decide +kernel
theorem dX1_token_124 : decode cX1_token 124 = .ok (.iaload, 1) := by decide +kernel
theorem dX1_token_125 : decode cX1_token 125 = .ok (.iconst 1, 1) := by decide +kernel
theorem dX1_token_126 : decode cX1_token 126 = .ok (.iadd, 1) := by decide +kernel
theorem dX1_token_127 : decode cX1_token 127 = .ok (.iastore, 1) := by decide +kernel
theorem dX1_token_128 : decode cX1_token 128 = .ok (.aload_n 0, 1) := by decide +kernel
theorem dX1_token_129 : decode cX1_token 129 = .ok (.getfield 31, 3) := by decide +kernel
theorem dX1_token_132 : decode cX1_token 132 = .ok (.bipush 8, 2) := by decide +kernel
theorem dX1_token_134 : decode cX1_token 134 = .ok (.iaload, 1) := by decide +kernel
theorem dX1_token_135 : decode cX1_token 135 = .ok (.ireturn, 1) := by decide +kernel
abbrev cX1_expression : ByteArray := prog_3_method_19_code
def yX1_expression : MethodName := ⟨RX1, "expression", "(I)I"⟩
theorem dX1_expression_0 : decode cX1_expression 0 = .ok (.iload_n 1, 1) := by decide +kernel
theorem dX1_expression_1 : decode cX1_expression 1 = .ok (.iconst 0, 1) := by decide +kernel
theorem dX1_expression_2 : decode cX1_expression 2 = .ok (.bipush 7, 2) := by decide +kernel
theorem dX1_expression_4 : decode cX1_expression 4 = .ok (.invokestatic 88, 3) := by decide +kernel
theorem dX1_expression_7 : decode cX1_expression 7 = .ok (.ifCond .ne 5, 3) := by decide +kernel
theorem dX1_expression_10 : decode cX1_expression 10 = .ok (.iconst (-1), 1) := by decide +kernel
theorem dX1_expression_11 : decode cX1_expression 11 = .ok (.ireturn, 1) := by decide +kernel
theorem dX1_expression_12 : decode cX1_expression 12 = .ok (.aload_n 0, 1) := by decide +kernel
theorem dX1_expression_13 : decode cX1_expression 13 = .ok (.getfield 31, 3) := by decide +kernel
theorem dX1_expression_16 : decode cX1_expression 16 = .ok (.bipush 8, 2) := by decide +kernel
theorem dX1_expression_18 : decode cX1_expression 18 = .ok (.iaload, 1) := by decide +kernel
theorem dX1_expression_19 : decode cX1_expression 19 = .ok (.ifCond .le 14, 3) := by decide +kernel
theorem dX1_expression_22 : decode cX1_expression 22 = .ok (.aload_n 0, 1) := by decide +kernel
theorem dX1_expression_23 : decode cX1_expression 23 = .ok (.invokevirtual 112, 3) := by decide +kernel
theorem dX1_expression_26 : decode cX1_expression 26 = .ok (.ifCond .eq 7, 3) := by decide +kernel
theorem dX1_expression_29 : decode cX1_expression 29 = .ok (.iconst 1, 1) := by decide +kernel
theorem dX1_expression_30 : decode cX1_expression 30 = .ok (.goto 4, 3) := by decide +kernel
theorem dX1_expression_33 : decode cX1_expression 33 = .ok (.iconst 0, 1) := by decide +kernel
theorem dX1_expression_34 : decode cX1_expression 34 = .ok (.istore_n 2, 1) := by decide +kernel
theorem dX1_expression_35 : decode cX1_expression 35 = .ok (.aload_n 0, 1) := by decide +kernel
theorem dX1_expression_36 : decode cX1_expression 36 = .ok (.getfield 31, 3) := by decide +kernel
theorem dX1_expression_39 : decode cX1_expression 39 = .ok (.bipush 8, 2) := by decide +kernel
theorem dX1_expression_41 : decode cX1_expression 41 = .ok (.iaload, 1) := by decide +kernel
theorem dX1_expression_42 : decode cX1_expression 42 = .ok (.istore_n 3, 1) := by decide +kernel
theorem dX1_expression_43 : decode cX1_expression 43 = .ok (.aload_n 0, 1) := by decide +kernel
theorem dX1_expression_44 : decode cX1_expression 44 = .ok (.getfield 31, 3) := by decide +kernel
theorem dX1_expression_47 : decode cX1_expression 47 = .ok (.bipush 8, 2) := by decide +kernel
theorem dX1_expression_49 : decode cX1_expression 49 = .ok (.iconst 0, 1) := by decide +kernel
theorem dX1_expression_50 : decode cX1_expression 50 = .ok (.iastore, 1) := by decide +kernel
theorem dX1_expression_51 : decode cX1_expression 51 = .ok (.iload_n 2, 1) := by decide +kernel
theorem dX1_expression_52 : decode cX1_expression 52 = .ok (.ifCond .ne 6, 3) := by decide +kernel
theorem dX1_expression_55 : decode cX1_expression 55 = .ok (.bipush (-2), 2) := by decide +kernel
theorem dX1_expression_57 : decode cX1_expression 57 = .ok (.ireturn, 1) := by decide +kernel
theorem dX1_expression_58 : decode cX1_expression 58 = .ok (.aload_n 0, 1) := by decide +kernel
theorem dX1_expression_59 : decode cX1_expression 59 = .ok (.getfield 31, 3) := by decide +kernel
theorem dX1_expression_62 : decode cX1_expression 62 = .ok (.iload_n 1, 1) := by decide +kernel
theorem dX1_expression_63 : decode cX1_expression 63 = .ok (.iload_n 3, 1) := by decide +kernel
theorem dX1_expression_64 : decode cX1_expression 64 = .ok (.iastore, 1) := by decide +kernel
theorem dX1_expression_65 : decode cX1_expression 65 = .ok (.iconst 0, 1) := by decide +kernel
theorem dX1_expression_66 : decode cX1_expression 66 = .ok (.istore 4, 2) := by decide +kernel
theorem dX1_expression_68 : decode cX1_expression 68 = .ok (.iload 4, 2) := by decide +kernel
theorem dX1_expression_70 : decode cX1_expression 70 = .ok (.iload_n 3, 1) := by decide +kernel
theorem dX1_expression_71 : decode cX1_expression 71 = .ok (.if_icmp .ge 55, 3) := by decide +kernel
theorem dX1_expression_74 : decode cX1_expression 74 = .ok (.aload_n 0, 1) := by decide +kernel
theorem dX1_expression_75 : decode cX1_expression 75 = .ok (.getfield 25, 3) := by decide +kernel
theorem dX1_expression_78 : decode cX1_expression 78 = .ok (.bipush 40, 2) := by decide +kernel
theorem dX1_expression_80 : decode cX1_expression 80 = .ok (.iload_n 1, 1) := by decide +kernel
theorem dX1_expression_81 : decode cX1_expression 81 = .ok (.imul, 1) := by decide +kernel
theorem dX1_expression_82 : decode cX1_expression 82 = .ok (.iload 4, 2) := by decide +kernel
theorem dX1_expression_84 : decode cX1_expression 84 = .ok (.iadd, 1) := by decide +kernel
theorem dX1_expression_85 : decode cX1_expression 85 = .ok (.aload_n 0, 1) := by decide +kernel
theorem dX1_expression_86 : decode cX1_expression 86 = .ok (.getfield 25, 3) := by decide +kernel
theorem dX1_expression_89 : decode cX1_expression 89 = .ok (.sipush 320, 3) := by decide +kernel
theorem dX1_expression_92 : decode cX1_expression 92 = .ok (.iload 4, 2) := by decide +kernel
theorem dX1_expression_94 : decode cX1_expression 94 = .ok (.iadd, 1) := by decide +kernel
theorem dX1_expression_95 : decode cX1_expression 95 = .ok (.iaload, 1) := by decide +kernel
theorem dX1_expression_96 : decode cX1_expression 96 = .ok (.iastore, 1) := by decide +kernel
theorem dX1_expression_97 : decode cX1_expression 97 = .ok (.aload_n 0, 1) := by decide +kernel
theorem dX1_expression_98 : decode cX1_expression 98 = .ok (.getfield 28, 3) := by decide +kernel
theorem dX1_expression_101 : decode cX1_expression 101 = .ok (.bipush 40, 2) := by decide +kernel
theorem dX1_expression_103 : decode cX1_expression 103 = .ok (.iload_n 1, 1) := by decide +kernel
theorem dX1_expression_104 : decode cX1_expression 104 = .ok (.imul, 1) := by decide +kernel
theorem dX1_expression_105 : decode cX1_expression 105 = .ok (.iload 4, 2) := by decide +kernel
theorem dX1_expression_107 : decode cX1_expression 107 = .ok (.iadd, 1) := by decide +kernel
theorem dX1_expression_108 : decode cX1_expression 108 = .ok (.aload_n 0, 1) := by decide +kernel
theorem dX1_expression_109 : decode cX1_expression 109 = .ok (.getfield 28, 3) := by decide +kernel
theorem dX1_expression_112 : decode cX1_expression 112 = .ok (.sipush 320, 3) := by decide +kernel
theorem dX1_expression_115 : decode cX1_expression 115 = .ok (.iload 4, 2) := by decide +kernel
theorem dX1_expression_117 : decode cX1_expression 117 = .ok (.iadd, 1) := by decide +kernel
theorem dX1_expression_118 : decode cX1_expression 118 = .ok (.iaload, 1) := by decide +kernel
theorem dX1_expression_119 : decode cX1_expression 119 = .ok (.iastore, 1) := by decide +kernel
theorem dX1_expression_120 : decode cX1_expression 120 = .ok (.iinc 4 1, 3) := by decide +kernel
theorem dX1_expression_123 : decode cX1_expression 123 = .ok (.goto (-55), 3) := by decide +kernel
theorem dX1_expression_126 : decode cX1_expression 126 = .ok (.aload_n 0, 1) := by decide +kernel
theorem dX1_expression_127 : decode cX1_expression 127 = .ok (.getfield 37, 3) := by decide +kernel
theorem dX1_expression_130 : decode cX1_expression 130 = .ok (.iload_n 1, 1) := by decide +kernel
theorem dX1_expression_131 : decode cX1_expression 131 = .ok (.iconst 0, 1) := by decide +kernel
theorem dX1_expression_132 : decode cX1_expression 132 = .ok (.bastore, 1) := by decide +kernel
theorem dX1_expression_133 : decode cX1_expression 133 = .ok (.aload_n 0, 1) := by decide +kernel
theorem dX1_expression_134 : decode cX1_expression 134 = .ok (.getfield 25, 3) := by decide +kernel
theorem dX1_expression_137 : decode cX1_expression 137 = .ok (.sipush 320, 3) := by decide +kernel
theorem dX1_expression_140 : decode cX1_expression 140 = .ok (.iaload, 1) := by decide +kernel
theorem dX1_expression_141 : decode cX1_expression 141 = .ok (.invokestatic 109, 3) := by decide +kernel
theorem dX1_expression_144 : decode cX1_expression 144 = .ok (.ireturn, 1) := by decide +kernel
abbrev cX1_isWhole : ByteArray := prog_3_method_18_code
def yX1_isWhole : MethodName := ⟨RX1, "isWhole", "()Z"⟩
theorem dX1_isWhole_0 : decode cX1_isWhole 0 = .ok (.aload_n 0, 1) := by decide +kernel
theorem dX1_isWhole_1 : decode cX1_isWhole 1 = .ok (.iconst 0, 1) := by decide +kernel
theorem dX1_isWhole_2 : decode cX1_isWhole 2 = .ok (.putfield 106, 3) := by decide +kernel
theorem dX1_isWhole_5 : decode cX1_isWhole 5 = .ok (.sipush 320, 3) := by decide +kernel
theorem dX1_isWhole_8 : decode cX1_isWhole 8 = .ok (.aload_n 0, 1) := by decide +kernel
theorem dX1_isWhole_9 : decode cX1_isWhole 9 = .ok (.getfield 31, 3) := by decide +kernel
theorem dX1_isWhole_12 : decode cX1_isWhole 12 = .ok (.bipush 8, 2) := by decide +kernel
theorem dX1_isWhole_14 : decode cX1_isWhole 14 = .ok (.iaload, 1) := by decide +kernel
theorem dX1_isWhole_15 : decode cX1_isWhole 15 = .ok (.iadd, 1) := by decide +kernel
theorem dX1_isWhole_16 : decode cX1_isWhole 16 = .ok (.iconst 1, 1) := by decide +kernel
theorem dX1_isWhole_17 : decode cX1_isWhole 17 = .ok (.isub, 1) := by decide +kernel
theorem dX1_isWhole_18 : decode cX1_isWhole 18 = .ok (.istore_n 1, 1) := by decide +kernel
theorem dX1_isWhole_19 : decode cX1_isWhole 19 = .ok (.iload_n 1, 1) := by decide +kernel
theorem dX1_isWhole_20 : decode cX1_isWhole 20 = .ok (.sipush 320, 3) := by decide +kernel
theorem dX1_isWhole_23 : decode cX1_isWhole 23 = .ok (.if_icmp .lt 183, 3) := by decide +kernel
theorem dX1_isWhole_26 : decode cX1_isWhole 26 = .ok (.aload_n 0, 1) := by decide +kernel
theorem dX1_isWhole_27 : decode cX1_isWhole 27 = .ok (.getfield 25, 3) := by decide +kernel
theorem dX1_isWhole_30 : decode cX1_isWhole 30 = .ok (.iload_n 1, 1) := by decide +kernel
theorem dX1_isWhole_31 : decode cX1_isWhole 31 = .ok (.iaload, 1) := by decide +kernel
theorem dX1_isWhole_32 : decode cX1_isWhole 32 = .ok (.aload_n 0, 1) := by decide +kernel
theorem dX1_isWhole_33 : decode cX1_isWhole 33 = .ok (.getfield 28, 3) := by decide +kernel
theorem dX1_isWhole_36 : decode cX1_isWhole 36 = .ok (.iload_n 1, 1) := by decide +kernel
theorem dX1_isWhole_37 : decode cX1_isWhole 37 = .ok (.iaload, 1) := by decide +kernel
theorem dX1_isWhole_38 : decode cX1_isWhole 38 = .ok (.invokestatic 103, 3) := by decide +kernel
theorem dX1_isWhole_41 : decode cX1_isWhole 41 = .ok (.istore_n 2, 1) := by decide +kernel
theorem dX1_isWhole_42 : decode cX1_isWhole 42 = .ok (.aload_n 0, 1) := by decide +kernel
theorem dX1_isWhole_43 : decode cX1_isWhole 43 = .ok (.getfield 106, 3) := by decide +kernel
theorem dX1_isWhole_46 : decode cX1_isWhole 46 = .ok (.iload_n 2, 1) := by decide +kernel
theorem dX1_isWhole_47 : decode cX1_isWhole 47 = .ok (.if_icmp .ge 5, 3) := by decide +kernel
theorem dX1_isWhole_50 : decode cX1_isWhole 50 = .ok (.iconst 0, 1) := by decide +kernel
theorem dX1_isWhole_51 : decode cX1_isWhole 51 = .ok (.ireturn, 1) := by decide +kernel
theorem dX1_isWhole_52 : decode cX1_isWhole 52 = .ok (.iconst 0, 1) := by decide +kernel
theorem dX1_isWhole_53 : decode cX1_isWhole 53 = .ok (.istore_n 3, 1) := by decide +kernel
theorem dX1_isWhole_54 : decode cX1_isWhole 54 = .ok (.iload_n 3, 1) := by decide +kernel
theorem dX1_isWhole_55 : decode cX1_isWhole 55 = .ok (.iload_n 2, 1) := by decide +kernel
theorem dX1_isWhole_56 : decode cX1_isWhole 56 = .ok (.if_icmp .ge 109, 3) := by decide +kernel
theorem dX1_isWhole_59 : decode cX1_isWhole 59 = .ok (.aload_n 0, 1) := by decide +kernel
theorem dX1_isWhole_60 : decode cX1_isWhole 60 = .ok (.getfield 41, 3) := by decide +kernel
theorem dX1_isWhole_63 : decode cX1_isWhole 63 = .ok (.aload_n 0, 1) := by decide +kernel
theorem dX1_isWhole_64 : decode cX1_isWhole 64 = .ok (.getfield 106, 3) := by decide +kernel
theorem dX1_isWhole_67 : decode cX1_isWhole 67 = .ok (.iconst 1, 1) := by decide +kernel
theorem dX1_isWhole_68 : decode cX1_isWhole 68 = .ok (.isub, 1) := by decide +kernel
theorem dX1_isWhole_69 : decode cX1_isWhole 69 = .ok (.iload_n 3, 1) := by decide +kernel
theorem dX1_isWhole_70 : decode cX1_isWhole 70 = .ok (.isub, 1) := by decide +kernel
theorem dX1_isWhole_71 : decode cX1_isWhole 71 = .ok (.iaload, 1) := by decide +kernel
theorem dX1_isWhole_72 : decode cX1_isWhole 72 = .ok (.istore 4, 2) := by decide +kernel
theorem dX1_isWhole_74 : decode cX1_isWhole 74 = .ok (.aload_n 0, 1) := by decide +kernel
theorem dX1_isWhole_75 : decode cX1_isWhole 75 = .ok (.getfield 25, 3) := by decide +kernel
theorem dX1_isWhole_78 : decode cX1_isWhole 78 = .ok (.iload_n 1, 1) := by decide +kernel
theorem dX1_isWhole_79 : decode cX1_isWhole 79 = .ok (.iaload, 1) := by decide +kernel
theorem dX1_isWhole_80 : decode cX1_isWhole 80 = .ok (.iconst 3, 1) := by decide +kernel
theorem dX1_isWhole_81 : decode cX1_isWhole 81 = .ok (.if_icmp .eq 33, 3) := by decide +kernel
theorem dX1_isWhole_84 : decode cX1_isWhole 84 = .ok (.aload_n 0, 1) := by decide +kernel
theorem dX1_isWhole_85 : decode cX1_isWhole 85 = .ok (.getfield 25, 3) := by decide +kernel
theorem dX1_isWhole_88 : decode cX1_isWhole 88 = .ok (.iload_n 1, 1) := by decide +kernel
theorem dX1_isWhole_89 : decode cX1_isWhole 89 = .ok (.iaload, 1) := by decide +kernel
theorem dX1_isWhole_90 : decode cX1_isWhole 90 = .ok (.iconst 2, 1) := by decide +kernel
theorem dX1_isWhole_91 : decode cX1_isWhole 91 = .ok (.if_icmp .ne 7, 3) := by decide +kernel
theorem dX1_isWhole_94 : decode cX1_isWhole 94 = .ok (.iload_n 3, 1) := by decide +kernel
theorem dX1_isWhole_95 : decode cX1_isWhole 95 = .ok (.ifCond .eq 19, 3) := by decide +kernel
theorem dX1_isWhole_98 : decode cX1_isWhole 98 = .ok (.aload_n 0, 1) := by decide +kernel
theorem dX1_isWhole_99 : decode cX1_isWhole 99 = .ok (.getfield 25, 3) := by decide +kernel
theorem dX1_isWhole_102 : decode cX1_isWhole 102 = .ok (.iload_n 1, 1) := by decide +kernel
theorem dX1_isWhole_103 : decode cX1_isWhole 103 = .ok (.iaload, 1) := by decide +kernel
theorem dX1_isWhole_104 : decode cX1_isWhole 104 = .ok (.bipush 7, 2) := by decide +kernel
theorem dX1_isWhole_106 : decode cX1_isWhole 106 = .ok (.bipush 9, 2) := by decide +kernel
theorem dX1_isWhole_108 : decode cX1_isWhole 108 = .ok (.invokestatic 88, 3) := by decide +kernel
theorem dX1_isWhole_111 : decode cX1_isWhole 111 = .ok (.ifCond .eq 7, 3) := by decide +kernel
theorem dX1_isWhole_114 : decode cX1_isWhole 114 = .ok (.iconst 1, 1) := by decide +kernel
theorem dX1_isWhole_115 : decode cX1_isWhole 115 = .ok (.goto 4, 3) := by decide +kernel
theorem dX1_isWhole_118 : decode cX1_isWhole 118 = .ok (.iconst 0, 1) := by decide +kernel
theorem dX1_isWhole_119 : decode cX1_isWhole 119 = .ok (.istore 5, 2) := by decide +kernel
theorem dX1_isWhole_121 : decode cX1_isWhole 121 = .ok (.aload_n 0, 1) := by decide +kernel
theorem dX1_isWhole_122 : decode cX1_isWhole 122 = .ok (.getfield 25, 3) := by decide +kernel
theorem dX1_isWhole_125 : decode cX1_isWhole 125 = .ok (.iload_n 1, 1) := by decide +kernel
theorem dX1_isWhole_126 : decode cX1_isWhole 126 = .ok (.iaload, 1) := by decide +kernel
theorem dX1_isWhole_127 : decode cX1_isWhole 127 = .ok (.bipush 10, 2) := by decide +kernel
theorem dX1_isWhole_129 : decode cX1_isWhole 129 = .ok (.bipush 14, 2) := by decide +kernel
theorem dX1_isWhole_131 : decode cX1_isWhole 131 = .ok (.invokestatic 88, 3) := by decide +kernel
theorem dX1_isWhole_134 : decode cX1_isWhole 134 = .ok (.istore 6, 2) := by decide +kernel
theorem dX1_isWhole_136 : decode cX1_isWhole 136 = .ok (.iload 5, 2) := by decide +kernel
theorem dX1_isWhole_138 : decode cX1_isWhole 138 = .ok (.ifCond .eq 8, 3) := by decide +kernel
theorem dX1_isWhole_141 : decode cX1_isWhole 141 = .ok (.iload 4, 2) := by decide +kernel
theorem dX1_isWhole_143 : decode cX1_isWhole 143 = .ok (.ifCond .ne 14, 3) := by decide +kernel
theorem dX1_isWhole_146 : decode cX1_isWhole 146 = .ok (.iload 6, 2) := by decide +kernel
theorem dX1_isWhole_148 : decode cX1_isWhole 148 = .ok (.ifCond .eq 11, 3) := by decide +kernel
theorem dX1_isWhole_151 : decode cX1_isWhole 151 = .ok (.iload 4, 2) := by decide +kernel
theorem dX1_isWhole_153 : decode cX1_isWhole 153 = .ok (.iconst 2, 1) := by decide +kernel
theorem dX1_isWhole_154 : decode cX1_isWhole 154 = .ok (.if_icmp .ne 5, 3) := by decide +kernel
theorem dX1_isWhole_157 : decode cX1_isWhole 157 = .ok (.iconst 0, 1) := by decide +kernel
theorem dX1_isWhole_158 : decode cX1_isWhole 158 = .ok (.ireturn, 1) := by decide +kernel
theorem dX1_isWhole_159 : decode cX1_isWhole 159 = .ok (.iinc 3 1, 3) := by decide +kernel
theorem dX1_isWhole_162 : decode cX1_isWhole 162 = .ok (.goto (-108), 3) := by decide +kernel
theorem dX1_isWhole_165 : decode cX1_isWhole 165 = .ok (.aload_n 0, 1) := by decide +kernel
theorem dX1_isWhole_166 : decode cX1_isWhole 166 = .ok (.dup, 1) := by decide +kernel
theorem dX1_isWhole_167 : decode cX1_isWhole 167 = .ok (.getfield 106, 3) := by decide +kernel
theorem dX1_isWhole_170 : decode cX1_isWhole 170 = .ok (.iload_n 2, 1) := by decide +kernel
theorem dX1_isWhole_171 : decode cX1_isWhole 171 = .ok (.isub, 1) := by decide +kernel
theorem dX1_isWhole_172 : decode cX1_isWhole 172 = .ok (.putfield 106, 3) := by decide +kernel
theorem dX1_isWhole_175 : decode cX1_isWhole 175 = .ok (.aload_n 0, 1) := by decide +kernel
theorem dX1_isWhole_176 : decode cX1_isWhole 176 = .ok (.getfield 41, 3) := by decide +kernel
theorem dX1_isWhole_179 : decode cX1_isWhole 179 = .ok (.aload_n 0, 1) := by decide +kernel
theorem dX1_isWhole_180 : decode cX1_isWhole 180 = .ok (.dup, 1) := by decide +kernel
theorem dX1_isWhole_181 : decode cX1_isWhole 181 = .ok (.getfield 106, 3) := by decide +kernel
theorem dX1_isWhole_184 : decode cX1_isWhole 184 = .ok (.dup_x1, 1) := by decide +kernel
theorem dX1_isWhole_185 : decode cX1_isWhole 185 = .ok (.iconst 1, 1) := by decide +kernel
theorem dX1_isWhole_186 : decode cX1_isWhole 186 = .ok (.iadd, 1) := by decide +kernel
theorem dX1_isWhole_187 : decode cX1_isWhole 187 = .ok (.putfield 106, 3) := by decide +kernel
theorem dX1_isWhole_190 : decode cX1_isWhole 190 = .ok (.aload_n 0, 1) := by decide +kernel
theorem dX1_isWhole_191 : decode cX1_isWhole 191 = .ok (.getfield 25, 3) := by decide +kernel
theorem dX1_isWhole_194 : decode cX1_isWhole 194 = .ok (.iload_n 1, 1) := by decide +kernel
theorem dX1_isWhole_195 : decode cX1_isWhole 195 = .ok (.iaload, 1) := by decide +kernel
theorem dX1_isWhole_196 : decode cX1_isWhole 196 = .ok (.invokestatic 109, 3) := by decide +kernel
theorem dX1_isWhole_199 : decode cX1_isWhole 199 = .ok (.iastore, 1) := by decide +kernel
theorem dX1_isWhole_200 : decode cX1_isWhole 200 = .ok (.iinc 1 (-1), 3) := by decide +kernel
theorem dX1_isWhole_203 : decode cX1_isWhole 203 = .ok (.goto (-184), 3) := by decide +kernel
theorem dX1_isWhole_206 : decode cX1_isWhole 206 = .ok (.aload_n 0, 1) := by decide +kernel
theorem dX1_isWhole_207 : decode cX1_isWhole 207 = .ok (.getfield 106, 3) := by decide +kernel
theorem dX1_isWhole_210 : decode cX1_isWhole 210 = .ok (.iconst 1, 1) := by decide +kernel
theorem dX1_isWhole_211 : decode cX1_isWhole 211 = .ok (.if_icmp .ne 7, 3) := by decide +kernel
theorem dX1_isWhole_214 : decode cX1_isWhole 214 = .ok (.iconst 1, 1) := by decide +kernel
theorem dX1_isWhole_215 : decode cX1_isWhole 215 = .ok (.goto 4, 3) := by decide +kernel
theorem dX1_isWhole_218 : decode cX1_isWhole 218 = .ok (.iconst 0, 1) := by decide +kernel
theorem dX1_isWhole_219 : decode cX1_isWhole 219 = .ok (.ireturn, 1) := by decide +kernel
abbrev cX1_operands : ByteArray := prog_3_method_15_code
def yX1_operands : MethodName := ⟨RX1, "operands", "(II)I"⟩
theorem dX1_operands_0 : decode cX1_operands 0 = .ok (.iload_n 0, 1) := by decide +kernel
theorem dX1_operands_1 : decode cX1_operands 1 = .ok (.iconst 2, 1) := by decide +kernel
theorem dX1_operands_2 : decode cX1_operands 2 = .ok (.if_icmp .ne 12, 3) := by decide +kernel
theorem dX1_operands_5 : decode cX1_operands 5 = .ok (.iconst 1, 1) := by decide +kernel
theorem dX1_operands_6 : decode cX1_operands 6 = .ok (.iload_n 1, 1) := by decide +kernel
theorem dX1_operands_7 : decode cX1_operands 7 = .ok (.bipush 7, 2) := by decide +kernel
theorem dX1_operands_9 : decode cX1_operands 9 = .ok (.ishr, 1) := by decide +kernel
theorem dX1_operands_10 : decode cX1_operands 10 = .ok (.iadd, 1) := by decide +kernel
theorem dX1_operands_11 : decode cX1_operands 11 = .ok (.goto 35, 3) := by decide +kernel
theorem dX1_operands_14 : decode cX1_operands 14 = .ok (.iload_n 0, 1) := by decide +kernel
theorem dX1_operands_15 : decode cX1_operands 15 = .ok (.iconst 3, 1) := by decide +kernel
theorem dX1_operands_16 : decode cX1_operands 16 = .ok (.if_icmp .eq 15, 3) := by decide +kernel
theorem dX1_operands_19 : decode cX1_operands 19 = .ok (.iload_n 0, 1) := by decide +kernel
theorem dX1_operands_20 : decode cX1_operands 20 = .ok (.bipush 9, 2) := by decide +kernel
theorem dX1_operands_22 : decode cX1_operands 22 = .ok (.if_icmp .le 13, 3) := by decide +kernel
theorem dX1_operands_25 : decode cX1_operands 25 = .ok (.iload_n 0, 1) := by decide +kernel
theorem dX1_operands_26 : decode cX1_operands 26 = .ok (.bipush 17, 2) := by decide +kernel
theorem dX1_operands_28 : decode cX1_operands 28 = .ok (.if_icmp .ge 7, 3) := by decide +kernel
theorem dX1_operands_31 : decode cX1_operands 31 = .ok (.iconst 2, 1) := by decide +kernel
theorem dX1_operands_32 : decode cX1_operands 32 = .ok (.goto 14, 3) := by decide +kernel
theorem dX1_operands_35 : decode cX1_operands 35 = .ok (.iload_n 0, 1) := by decide +kernel
theorem dX1_operands_36 : decode cX1_operands 36 = .ok (.bipush 6, 2) := by decide +kernel
theorem dX1_operands_38 : decode cX1_operands 38 = .ok (.if_icmp .le 7, 3) := by decide +kernel
theorem dX1_operands_41 : decode cX1_operands 41 = .ok (.iconst 1, 1) := by decide +kernel
theorem dX1_operands_42 : decode cX1_operands 42 = .ok (.goto 4, 3) := by decide +kernel
theorem dX1_operands_45 : decode cX1_operands 45 = .ok (.iconst 0, 1) := by decide +kernel
theorem dX1_operands_46 : decode cX1_operands 46 = .ok (.ireturn, 1) := by decide +kernel
abbrev cX1_typeOf : ByteArray := prog_3_method_14_code
def yX1_typeOf : MethodName := ⟨RX1, "typeOf", "(I)I"⟩
theorem dX1_typeOf_0 : decode cX1_typeOf 0 = .ok (.iload_n 0, 1) := by decide +kernel
theorem dX1_typeOf_1 : decode cX1_typeOf 1 = .ok (.iconst 4, 1) := by decide +kernel
theorem dX1_typeOf_2 : decode cX1_typeOf 2 = .ok (.if_icmp .ge 7, 3) := by decide +kernel
theorem dX1_typeOf_5 : decode cX1_typeOf 5 = .ok (.iconst 0, 1) := by decide +kernel
theorem dX1_typeOf_6 : decode cX1_typeOf 6 = .ok (.goto 14, 3) := by decide +kernel
theorem dX1_typeOf_9 : decode cX1_typeOf 9 = .ok (.iload_n 0, 1) := by decide +kernel
theorem dX1_typeOf_10 : decode cX1_typeOf 10 = .ok (.bipush 13, 2) := by decide +kernel
theorem dX1_typeOf_12 : decode cX1_typeOf 12 = .ok (.if_icmp .ge 7, 3) := by decide +kernel
theorem dX1_typeOf_15 : decode cX1_typeOf 15 = .ok (.iconst 1, 1) := by decide +kernel
theorem dX1_typeOf_16 : decode cX1_typeOf 16 = .ok (.goto 4, 3) := by decide +kernel
theorem dX1_typeOf_19 : decode cX1_typeOf 19 = .ok (.iconst 2, 1) := by decide +kernel
theorem dX1_typeOf_20 : decode cX1_typeOf 20 = .ok (.ireturn, 1) := by decide +kernel
abbrev cX1_size : ByteArray := prog_3_method_35_code
def yX1_size : MethodName := ⟨RX1, "size", "(II)I"⟩
theorem dX1_size_0 : decode cX1_size 0 = .ok (.aload_n 0, 1) := by decide +kernel
theorem dX1_size_1 : decode cX1_size 1 = .ok (.iload_n 1, 1) := by decide +kernel
theorem dX1_size_2 : decode cX1_size 2 = .ok (.iload_n 2, 1) := by decide +kernel
theorem dX1_size_3 : decode cX1_size 3 = .ok (.invokevirtual 167, 3) := by decide +kernel
theorem dX1_size_6 : decode cX1_size 6 = .ok (.ifCond .eq 11, 3) := by decide +kernel
theorem dX1_size_9 : decode cX1_size 9 = .ok (.aload_n 0, 1) := by decide +kernel
theorem dX1_size_10 : decode cX1_size 10 = .ok (.iload_n 1, 1) := by decide +kernel
theorem dX1_size_11 : decode cX1_size 11 = .ok (.invokevirtual 170, 3) := by decide +kernel
theorem dX1_size_14 : decode cX1_size 14 = .ok (.ifCond .ne 5, 3) := by decide +kernel
theorem dX1_size_17 : decode cX1_size 17 = .ok (.iconst (-1), 1) := by decide +kernel
theorem dX1_size_18 : decode cX1_size 18 = .ok (.ireturn, 1) := by decide +kernel
theorem dX1_size_19 : decode cX1_size 19 = .ok (.aload_n 0, 1) := by decide +kernel
theorem dX1_size_20 : decode cX1_size 20 = .ok (.iload_n 1, 1) := by decide +kernel
theorem dX1_size_21 : decode cX1_size 21 = .ok (.iload_n 2, 1) := by decide +kernel
theorem dX1_size_22 : decode cX1_size 22 = .ok (.invokevirtual 173, 3) := by decide +kernel
theorem dX1_size_25 : decode cX1_size 25 = .ok (.aload_n 0, 1) := by decide +kernel
theorem dX1_size_26 : decode cX1_size 26 = .ok (.aload_n 0, 1) := by decide +kernel
theorem dX1_size_27 : decode cX1_size 27 = .ok (.getfield 47, 3) := by decide +kernel
theorem dX1_size_30 : decode cX1_size 30 = .ok (.iconst 0, 1) := by decide +kernel
theorem dX1_size_31 : decode cX1_size 31 = .ok (.iaload, 1) := by decide +kernel
theorem dX1_size_32 : decode cX1_size 32 = .ok (.invokevirtual 147, 3) := by decide +kernel
theorem dX1_size_35 : decode cX1_size 35 = .ok (.ireturn, 1) := by decide +kernel
abbrev cX1_isExpression : ByteArray := prog_3_method_32_code
def yX1_isExpression : MethodName := ⟨RX1, "isExpression", "(II)Z"⟩
theorem dX1_isExpression_0 : decode cX1_isExpression 0 = .ok (.iload_n 1, 1) := by decide +kernel
theorem dX1_isExpression_1 : decode cX1_isExpression 1 = .ok (.iconst 0, 1) := by decide +kernel
theorem dX1_isExpression_2 : decode cX1_isExpression 2 = .ok (.bipush 7, 2) := by decide +kernel
theorem dX1_isExpression_4 : decode cX1_isExpression 4 = .ok (.invokestatic 88, 3) := by decide +kernel
theorem dX1_isExpression_7 : decode cX1_isExpression 7 = .ok (.ifCond .eq 24, 3) := by decide +kernel
theorem dX1_isExpression_10 : decode cX1_isExpression 10 = .ok (.aload_n 0, 1) := by decide +kernel
theorem dX1_isExpression_11 : decode cX1_isExpression 11 = .ok (.getfield 31, 3) := by decide +kernel
theorem dX1_isExpression_14 : decode cX1_isExpression 14 = .ok (.iload_n 1, 1) := by decide +kernel
theorem dX1_isExpression_15 : decode cX1_isExpression 15 = .ok (.iaload, 1) := by decide +kernel
theorem dX1_isExpression_16 : decode cX1_isExpression 16 = .ok (.ifCond .le 15, 3) := by decide +kernel
theorem dX1_isExpression_19 : decode cX1_isExpression 19 = .ok (.aload_n 0, 1) := by decide +kernel
theorem dX1_isExpression_20 : decode cX1_isExpression 20 = .ok (.iload_n 2, 1) := by decide +kernel
theorem dX1_isExpression_21 : decode cX1_isExpression 21 = .ok (.invokevirtual 81, 3) := by decide +kernel
theorem dX1_isExpression_24 : decode cX1_isExpression 24 = .ok (.ifCond .lt 7, 3) := by decide +kernel
theorem dX1_isExpression_27 : decode cX1_isExpression 27 = .ok (.iconst 1, 1) := by decide +kernel
theorem dX1_isExpression_28 : decode cX1_isExpression 28 = .ok (.goto 4, 3) := by decide +kernel
theorem dX1_isExpression_31 : decode cX1_isExpression 31 = .ok (.iconst 0, 1) := by decide +kernel
theorem dX1_isExpression_32 : decode cX1_isExpression 32 = .ok (.ireturn, 1) := by decide +kernel
abbrev cX1_isSet : ByteArray := prog_3_method_34_code
def yX1_isSet : MethodName := ⟨RX1, "isSet", "(I)Z"⟩
theorem dX1_isSet_0 : decode cX1_isSet 0 = .ok (.aload_n 0, 1) := by decide +kernel
theorem dX1_isSet_1 : decode cX1_isSet 1 = .ok (.getfield 31, 3) := by decide +kernel
theorem dX1_isSet_4 : decode cX1_isSet 4 = .ok (.iload_n 1, 1) := by decide +kernel
theorem dX1_isSet_5 : decode cX1_isSet 5 = .ok (.iaload, 1) := by decide +kernel
theorem dX1_isSet_6 : decode cX1_isSet 6 = .ok (.ifCond .le 20, 3) := by decide +kernel
theorem dX1_isSet_9 : decode cX1_isSet 9 = .ok (.aload_n 0, 1) := by decide +kernel
theorem dX1_isSet_10 : decode cX1_isSet 10 = .ok (.getfield 25, 3) := by decide +kernel
theorem dX1_isSet_13 : decode cX1_isSet 13 = .ok (.bipush 40, 2) := by decide +kernel
theorem dX1_isSet_15 : decode cX1_isSet 15 = .ok (.iload_n 1, 1) := by decide +kernel
theorem dX1_isSet_16 : decode cX1_isSet 16 = .ok (.imul, 1) := by decide +kernel
theorem dX1_isSet_17 : decode cX1_isSet 17 = .ok (.iaload, 1) := by decide +kernel
theorem dX1_isSet_18 : decode cX1_isSet 18 = .ok (.iconst 4, 1) := by decide +kernel
theorem dX1_isSet_19 : decode cX1_isSet 19 = .ok (.if_icmp .ge 7, 3) := by decide +kernel
theorem dX1_isSet_22 : decode cX1_isSet 22 = .ok (.iconst 1, 1) := by decide +kernel
theorem dX1_isSet_23 : decode cX1_isSet 23 = .ok (.goto 4, 3) := by decide +kernel
theorem dX1_isSet_26 : decode cX1_isSet 26 = .ok (.iconst 0, 1) := by decide +kernel
theorem dX1_isSet_27 : decode cX1_isSet 27 = .ok (.ireturn, 1) := by decide +kernel
abbrev cX1_ask : ByteArray := prog_3_method_33_code
def yX1_ask : MethodName := ⟨RX1, "ask", "(II)V"⟩
theorem dX1_ask_0 : decode cX1_ask 0 = .ok (.aload_n 0, 1) := by decide +kernel
theorem dX1_ask_1 : decode cX1_ask 1 = .ok (.iload_n 1, 1) := by decide +kernel
theorem dX1_ask_2 : decode cX1_ask 2 = .ok (.invokevirtual 163, 3) := by decide +kernel
theorem dX1_ask_5 : decode cX1_ask 5 = .ok (.aload_n 0, 1) := by decide +kernel
theorem dX1_ask_6 : decode cX1_ask 6 = .ok (.iload_n 1, 1) := by decide +kernel
theorem dX1_ask_7 : decode cX1_ask 7 = .ok (.iconst 0, 1) := by decide +kernel
theorem dX1_ask_8 : decode cX1_ask 8 = .ok (.iload_n 2, 1) := by decide +kernel
theorem dX1_ask_9 : decode cX1_ask 9 = .ok (.iconst 1, 1) := by decide +kernel
theorem dX1_ask_10 : decode cX1_ask 10 = .ok (.iconst 1, 1) := by decide +kernel
theorem dX1_ask_11 : decode cX1_ask 11 = .ok (.invokevirtual 132, 3) := by decide +kernel
theorem dX1_ask_14 : decode cX1_ask 14 = .ok (.return_, 1) := by decide +kernel
abbrev cX1_prepare : ByteArray := prog_3_method_23_code
def yX1_prepare : MethodName := ⟨RX1, "prepare", "(I)V"⟩
theorem dX1_prepare_0 : decode cX1_prepare 0 = .ok (.aload_n 0, 1) := by decide +kernel
theorem dX1_prepare_1 : decode cX1_prepare 1 = .ok (.getfield 37, 3) := by decide +kernel
theorem dX1_prepare_4 : decode cX1_prepare 4 = .ok (.iload_n 1, 1) := by decide +kernel
theorem dX1_prepare_5 : decode cX1_prepare 5 = .ok (.baload, 1) := by decide +kernel
theorem dX1_prepare_6 : decode cX1_prepare 6 = .ok (.ifCond .eq 4, 3) := by decide +kernel
theorem dX1_prepare_9 : decode cX1_prepare 9 = .ok (.return_, 1) := by decide +kernel
theorem dX1_prepare_10 : decode cX1_prepare 10 = .ok (.aload_n 0, 1) := by decide +kernel
theorem dX1_prepare_11 : decode cX1_prepare 11 = .ok (.getfield 37, 3) := by decide +kernel
theorem dX1_prepare_14 : decode cX1_prepare 14 = .ok (.iload_n 1, 1) := by decide +kernel
theorem dX1_prepare_15 : decode cX1_prepare 15 = .ok (.iconst 1, 1) := by decide +kernel
theorem dX1_prepare_16 : decode cX1_prepare 16 = .ok (.bastore, 1) := by decide +kernel
theorem dX1_prepare_17 : decode cX1_prepare 17 = .ok (.aload_n 0, 1) := by decide +kernel
theorem dX1_prepare_18 : decode cX1_prepare 18 = .ok (.getfield 31, 3) := by decide +kernel
theorem dX1_prepare_21 : decode cX1_prepare 21 = .ok (.iload_n 1, 1) := by decide +kernel
theorem dX1_prepare_22 : decode cX1_prepare 22 = .ok (.iaload, 1) := by decide +kernel
theorem dX1_prepare_23 : decode cX1_prepare 23 = .ok (.iconst 1, 1) := by decide +kernel
theorem dX1_prepare_24 : decode cX1_prepare 24 = .ok (.isub, 1) := by decide +kernel
theorem dX1_prepare_25 : decode cX1_prepare 25 = .ok (.istore_n 2, 1) := by decide +kernel
theorem dX1_prepare_26 : decode cX1_prepare 26 = .ok (.iload_n 2, 1) := by decide +kernel
theorem dX1_prepare_27 : decode cX1_prepare 27 = .ok (.ifCond .lt 261, 3) := by decide +kernel
theorem dX1_prepare_30 : decode cX1_prepare 30 = .ok (.aload_n 0, 1) := by decide +kernel
theorem dX1_prepare_31 : decode cX1_prepare 31 = .ok (.getfield 25, 3) := by decide +kernel
theorem dX1_prepare_34 : decode cX1_prepare 34 = .ok (.bipush 40, 2) := by decide +kernel
theorem dX1_prepare_36 : decode cX1_prepare 36 = .ok (.iload_n 1, 1) := by decide +kernel
theorem dX1_prepare_37 : decode cX1_prepare 37 = .ok (.imul, 1) := by decide +kernel
theorem dX1_prepare_38 : decode cX1_prepare 38 = .ok (.iload_n 2, 1) := by decide +kernel
theorem dX1_prepare_39 : decode cX1_prepare 39 = .ok (.iadd, 1) := by decide +kernel
theorem dX1_prepare_40 : decode cX1_prepare 40 = .ok (.iaload, 1) := by decide +kernel
theorem dX1_prepare_41 : decode cX1_prepare 41 = .ok (.istore_n 3, 1) := by decide +kernel
theorem dX1_prepare_42 : decode cX1_prepare 42 = .ok (.iload_n 3, 1) := by decide +kernel
theorem dX1_prepare_43 : decode cX1_prepare 43 = .ok (.iconst 3, 1) := by decide +kernel
theorem dX1_prepare_44 : decode cX1_prepare 44 = .ok (.if_icmp .le 6, 3) := by decide +kernel
theorem dX1_prepare_47 : decode cX1_prepare 47 = .ok (.goto 235, 3) := by decide +kernel
theorem dX1_prepare_50 : decode cX1_prepare 50 = .ok (.bipush 24, 2) := by decide +kernel
theorem dX1_prepare_52 : decode cX1_prepare 52 = .ok (.bipush 40, 2) := by decide +kernel
theorem dX1_prepare_54 : decode cX1_prepare 54 = .ok (.iload_n 1, 1) := by decide +kernel
theorem dX1_prepare_55 : decode cX1_prepare 55 = .ok (.imul, 1) := by decide +kernel
theorem dX1_prepare_56 : decode cX1_prepare 56 = .ok (.iload_n 2, 1) := by decide +kernel
theorem dX1_prepare_57 : decode cX1_prepare 57 = .ok (.iadd, 1) := by decide +kernel
theorem dX1_prepare_58 : decode cX1_prepare 58 = .ok (.imul, 1) := by decide +kernel
theorem dX1_prepare_59 : decode cX1_prepare 59 = .ok (.istore 4, 2) := by decide +kernel
theorem dX1_prepare_61 : decode cX1_prepare 61 = .ok (.iconst 0, 1) := by decide +kernel
theorem dX1_prepare_62 : decode cX1_prepare 62 = .ok (.istore 5, 2) := by decide +kernel
theorem dX1_prepare_64 : decode cX1_prepare 64 = .ok (.iload 5, 2) := by decide +kernel
theorem dX1_prepare_66 : decode cX1_prepare 66 = .ok (.bipush 24, 2) := by decide +kernel
theorem dX1_prepare_68 : decode cX1_prepare 68 = .ok (.if_icmp .ge 47, 3) := by decide +kernel
theorem dX1_prepare_71 : decode cX1_prepare 71 = .ok (.aload_n 0, 1) := by decide +kernel
theorem dX1_prepare_72 : decode cX1_prepare 72 = .ok (.getfield 34, 3) := by decide +kernel
theorem dX1_prepare_75 : decode cX1_prepare 75 = .ok (.iload 4, 2) := by decide +kernel
theorem dX1_prepare_77 : decode cX1_prepare 77 = .ok (.iload 5, 2) := by decide +kernel
theorem dX1_prepare_79 : decode cX1_prepare 79 = .ok (.iadd, 1) := by decide +kernel
theorem dX1_prepare_80 : decode cX1_prepare 80 = .ok (.iload_n 3, 1) := by decide +kernel
theorem dX1_prepare_81 : decode cX1_prepare 81 = .ok (.ifCond .ne 10, 3) := by decide +kernel
theorem dX1_prepare_84 : decode cX1_prepare 84 = .ok (.iconst 1, 1) := by decide +kernel
theorem dX1_prepare_85 : decode cX1_prepare 85 = .ok (.iload 5, 2) := by decide +kernel
theorem dX1_prepare_87 : decode cX1_prepare 87 = .ok (.ishl, 1) := by decide +kernel
theorem dX1_prepare_88 : decode cX1_prepare 88 = .ok (.goto 20, 3) := by decide +kernel
theorem dX1_prepare_91 : decode cX1_prepare 91 = .ok (.iload_n 3, 1) := by decide +kernel
theorem dX1_prepare_92 : decode cX1_prepare 92 = .ok (.iconst 1, 1) := by decide +kernel
theorem dX1_prepare_93 : decode cX1_prepare 93 = .ok (.if_icmp .ne 14, 3) := by decide +kernel
theorem dX1_prepare_96 : decode cX1_prepare 96 = .ok (.iconst 1, 1) := by decide +kernel
theorem dX1_prepare_97 : decode cX1_prepare 97 = .ok (.aload_n 0, 1) := by decide +kernel
theorem dX1_prepare_98 : decode cX1_prepare 98 = .ok (.getfield 7, 3) := by decide +kernel
theorem dX1_prepare_101 : decode cX1_prepare 101 = .ok (.iconst 0, 1) := by decide +kernel
theorem dX1_prepare_102 : decode cX1_prepare 102 = .ok (.iaload, 1) := by decide +kernel
theorem dX1_prepare_103 : decode cX1_prepare 103 = .ok (.ishl, 1) := by decide +kernel
theorem dX1_prepare_104 : decode cX1_prepare 104 = .ok (.goto 4, 3) := by decide +kernel
theorem dX1_prepare_107 : decode cX1_prepare 107 = .ok (.iconst 0, 1) := by decide +kernel
theorem dX1_prepare_108 : decode cX1_prepare 108 = .ok (.iastore, 1) := by decide +kernel
theorem dX1_prepare_109 : decode cX1_prepare 109 = .ok (.iinc 5 1, 3) := by decide +kernel
theorem dX1_prepare_112 : decode cX1_prepare 112 = .ok (.goto (-48), 3) := by decide +kernel
theorem dX1_prepare_115 : decode cX1_prepare 115 = .ok (.iload_n 3, 1) := by decide +kernel
theorem dX1_prepare_116 : decode cX1_prepare 116 = .ok (.iconst 3, 1) := by decide +kernel
theorem dX1_prepare_117 : decode cX1_prepare 117 = .ok (.if_icmp .ne 70, 3) := by decide +kernel
theorem dX1_prepare_120 : decode cX1_prepare 120 = .ok (.aload_n 0, 1) := by decide +kernel
theorem dX1_prepare_121 : decode cX1_prepare 121 = .ok (.bipush 40, 2) := by decide +kernel
theorem dX1_prepare_123 : decode cX1_prepare 123 = .ok (.iload_n 1, 1) := by decide +kernel
theorem dX1_prepare_124 : decode cX1_prepare 124 = .ok (.imul, 1) := by decide +kernel
theorem dX1_prepare_125 : decode cX1_prepare 125 = .ok (.iload_n 2, 1) := by decide +kernel
theorem dX1_prepare_126 : decode cX1_prepare 126 = .ok (.iadd, 1) := by decide +kernel
theorem dX1_prepare_127 : decode cX1_prepare 127 = .ok (.iconst 1, 1) := by decide +kernel
theorem dX1_prepare_128 : decode cX1_prepare 128 = .ok (.iadd, 1) := by decide +kernel
theorem dX1_prepare_129 : decode cX1_prepare 129 = .ok (.invokevirtual 125, 3) := by decide +kernel
theorem dX1_prepare_132 : decode cX1_prepare 132 = .ok (.istore 5, 2) := by decide +kernel
theorem dX1_prepare_134 : decode cX1_prepare 134 = .ok (.iconst 0, 1) := by decide +kernel
theorem dX1_prepare_135 : decode cX1_prepare 135 = .ok (.istore 6, 2) := by decide +kernel
theorem dX1_prepare_137 : decode cX1_prepare 137 = .ok (.iload 6, 2) := by decide +kernel
theorem dX1_prepare_139 : decode cX1_prepare 139 = .ok (.bipush 24, 2) := by decide +kernel
theorem dX1_prepare_141 : decode cX1_prepare 141 = .ok (.if_icmp .ge 46, 3) := by decide +kernel
theorem dX1_prepare_144 : decode cX1_prepare 144 = .ok (.aload_n 0, 1) := by decide +kernel
theorem dX1_prepare_145 : decode cX1_prepare 145 = .ok (.getfield 34, 3) := by decide +kernel
theorem dX1_prepare_148 : decode cX1_prepare 148 = .ok (.iload 4, 2) := by decide +kernel
theorem dX1_prepare_150 : decode cX1_prepare 150 = .ok (.iload 6, 2) := by decide +kernel
theorem dX1_prepare_152 : decode cX1_prepare 152 = .ok (.iadd, 1) := by decide +kernel
theorem dX1_prepare_153 : decode cX1_prepare 153 = .ok (.aload_n 0, 1) := by decide +kernel
theorem dX1_prepare_154 : decode cX1_prepare 154 = .ok (.getfield 34, 3) := by decide +kernel
theorem dX1_prepare_157 : decode cX1_prepare 157 = .ok (.iload 4, 2) := by decide +kernel
theorem dX1_prepare_159 : decode cX1_prepare 159 = .ok (.bipush 24, 2) := by decide +kernel
theorem dX1_prepare_161 : decode cX1_prepare 161 = .ok (.iadd, 1) := by decide +kernel
theorem dX1_prepare_162 : decode cX1_prepare 162 = .ok (.iload 6, 2) := by decide +kernel
theorem dX1_prepare_164 : decode cX1_prepare 164 = .ok (.iadd, 1) := by decide +kernel
theorem dX1_prepare_165 : decode cX1_prepare 165 = .ok (.iaload, 1) := by decide +kernel
theorem dX1_prepare_166 : decode cX1_prepare 166 = .ok (.aload_n 0, 1) := by decide +kernel
theorem dX1_prepare_167 : decode cX1_prepare 167 = .ok (.getfield 34, 3) := by decide +kernel
theorem dX1_prepare_170 : decode cX1_prepare 170 = .ok (.bipush 24, 2) := by decide +kernel
theorem dX1_prepare_172 : decode cX1_prepare 172 = .ok (.iload 5, 2) := by decide +kernel
theorem dX1_prepare_174 : decode cX1_prepare 174 = .ok (.imul, 1) := by decide +kernel
theorem dX1_prepare_175 : decode cX1_prepare 175 = .ok (.iload 6, 2) := by decide +kernel
theorem dX1_prepare_177 : decode cX1_prepare 177 = .ok (.iadd, 1) := by decide +kernel
theorem dX1_prepare_178 : decode cX1_prepare 178 = .ok (.iaload, 1) := by decide +kernel
theorem dX1_prepare_179 : decode cX1_prepare 179 = .ok (.ior, 1) := by decide +kernel
theorem dX1_prepare_180 : decode cX1_prepare 180 = .ok (.iastore, 1) := by decide +kernel
theorem dX1_prepare_181 : decode cX1_prepare 181 = .ok (.iinc 6 1, 3) := by decide +kernel
theorem dX1_prepare_184 : decode cX1_prepare 184 = .ok (.goto (-47), 3) := by decide +kernel
theorem dX1_prepare_187 : decode cX1_prepare 187 = .ok (.iconst 0, 1) := by decide +kernel
theorem dX1_prepare_188 : decode cX1_prepare 188 = .ok (.istore 5, 2) := by decide +kernel
theorem dX1_prepare_190 : decode cX1_prepare 190 = .ok (.iload 5, 2) := by decide +kernel
theorem dX1_prepare_192 : decode cX1_prepare 192 = .ok (.aload_n 0, 1) := by decide +kernel
theorem dX1_prepare_193 : decode cX1_prepare 193 = .ok (.getfield 77, 3) := by decide +kernel
theorem dX1_prepare_196 : decode cX1_prepare 196 = .ok (.if_icmp .ge 86, 3) := by decide +kernel
theorem dX1_prepare_199 : decode cX1_prepare 199 = .ok (.iload_n 3, 1) := by decide +kernel
theorem dX1_prepare_200 : decode cX1_prepare 200 = .ok (.iconst 2, 1) := by decide +kernel
theorem dX1_prepare_201 : decode cX1_prepare 201 = .ok (.if_icmp .ne 81, 3) := by decide +kernel
theorem dX1_prepare_204 : decode cX1_prepare 204 = .ok (.aload_n 0, 1) := by decide +kernel
theorem dX1_prepare_205 : decode cX1_prepare 205 = .ok (.getfield 7, 3) := by decide +kernel
theorem dX1_prepare_208 : decode cX1_prepare 208 = .ok (.iload 5, 2) := by decide +kernel
theorem dX1_prepare_210 : decode cX1_prepare 210 = .ok (.iaload, 1) := by decide +kernel
theorem dX1_prepare_211 : decode cX1_prepare 211 = .ok (.istore 6, 2) := by decide +kernel
theorem dX1_prepare_213 : decode cX1_prepare 213 = .ok (.aload_n 0, 1) := by decide +kernel
theorem dX1_prepare_214 : decode cX1_prepare 214 = .ok (.iload_n 1, 1) := by decide +kernel
theorem dX1_prepare_215 : decode cX1_prepare 215 = .ok (.iload_n 2, 1) := by decide +kernel
theorem dX1_prepare_216 : decode cX1_prepare 216 = .ok (.iload 6, 2) := by decide +kernel
theorem dX1_prepare_218 : decode cX1_prepare 218 = .ok (.invokevirtual 136, 3) := by decide +kernel
theorem dX1_prepare_221 : decode cX1_prepare 221 = .ok (.istore 7, 2) := by decide +kernel
theorem dX1_prepare_223 : decode cX1_prepare 223 = .ok (.iconst 0, 1) := by decide +kernel
theorem dX1_prepare_224 : decode cX1_prepare 224 = .ok (.istore 8, 2) := by decide +kernel
theorem dX1_prepare_226 : decode cX1_prepare 226 = .ok (.iload 8, 2) := by decide +kernel
theorem dX1_prepare_228 : decode cX1_prepare 228 = .ok (.bipush 24, 2) := by decide +kernel
theorem dX1_prepare_230 : decode cX1_prepare 230 = .ok (.if_icmp .ge 46, 3) := by decide +kernel
theorem dX1_prepare_233 : decode cX1_prepare 233 = .ok (.aload_n 0, 1) := by decide +kernel
theorem dX1_prepare_234 : decode cX1_prepare 234 = .ok (.getfield 34, 3) := by decide +kernel
theorem dX1_prepare_237 : decode cX1_prepare 237 = .ok (.iload 4, 2) := by decide +kernel
theorem dX1_prepare_239 : decode cX1_prepare 239 = .ok (.bipush 24, 2) := by decide +kernel
theorem dX1_prepare_241 : decode cX1_prepare 241 = .ok (.iadd, 1) := by decide +kernel
theorem dX1_prepare_242 : decode cX1_prepare 242 = .ok (.iload 8, 2) := by decide +kernel
theorem dX1_prepare_244 : decode cX1_prepare 244 = .ok (.iadd, 1) := by decide +kernel
theorem dX1_prepare_245 : decode cX1_prepare 245 = .ok (.iaload, 1) := by decide +kernel
theorem dX1_prepare_246 : decode cX1_prepare 246 = .ok (.iload 6, 2) := by decide +kernel
theorem dX1_prepare_248 : decode cX1_prepare 248 = .ok (.ishr, 1) := by decide +kernel
theorem dX1_prepare_249 : decode cX1_prepare 249 = .ok (.iconst 1, 1) := by decide +kernel
theorem dX1_prepare_250 : decode cX1_prepare 250 = .ok (.iand, 1) := by decide +kernel
theorem dX1_prepare_251 : decode cX1_prepare 251 = .ok (.iconst 1, 1) := by decide +kernel
theorem dX1_prepare_252 : decode cX1_prepare 252 = .ok (.if_icmp .ne 18, 3) := by decide +kernel
theorem dX1_prepare_255 : decode cX1_prepare 255 = .ok (.aload_n 0, 1) := by decide +kernel
theorem dX1_prepare_256 : decode cX1_prepare 256 = .ok (.getfield 34, 3) := by decide +kernel
theorem dX1_prepare_259 : decode cX1_prepare 259 = .ok (.iload 4, 2) := by decide +kernel
theorem dX1_prepare_261 : decode cX1_prepare 261 = .ok (.iload 8, 2) := by decide +kernel
theorem dX1_prepare_263 : decode cX1_prepare 263 = .ok (.iadd, 1) := by decide +kernel
theorem dX1_prepare_264 : decode cX1_prepare 264 = .ok (.dup2, 1) := by decide +kernel
theorem dX1_prepare_265 : decode cX1_prepare 265 = .ok (.iaload, 1) := by decide +kernel
theorem dX1_prepare_266 : decode cX1_prepare 266 = .ok (.iload 7, 2) := by decide +kernel
theorem dX1_prepare_268 : decode cX1_prepare 268 = .ok (.ior, 1) := by decide +kernel
