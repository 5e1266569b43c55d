set_option maxRecDepth 100000
theorem dX0_arity_19 : decode cX0_arity 19 = .ok (.iconst 2, 1) := by decide +kernel
theorem dX0_arity_20 : decode cX0_arity 20 = .ok (.if_icmp .ne 10, 3) := by decide +kernel
theorem dX0_arity_23 : decode cX0_arity 23 = .ok (.iconst 1, 1) := by decide +kernel
theorem dX0_arity_24 : decode cX0_arity 24 = .ok (.iload_n 1, 1) := by decide +kernel
theorem dX0_arity_25 : decode cX0_arity 25 = .ok (.bipush 7, 2) := by decide +kernel
theorem dX0_arity_27 : decode cX0_arity 27 = .ok (.ishr, 1) := by decide +kernel
theorem dX0_arity_28 : decode cX0_arity 28 = .ok (.iadd, 1) := by decide +kernel
theorem dX0_arity_29 : decode cX0_arity 29 = .ok (.ireturn, 1) := by decide +kernel
theorem dX0_arity_30 : decode cX0_arity 30 = .ok (.iload_n 0, 1) := by decide +kernel
theorem dX0_arity_31 : decode cX0_arity 31 = .ok (.bipush 7, 2) := by decide +kernel
theorem dX0_arity_33 : decode cX0_arity 33 = .ok (.if_icmp .lt 9, 3) := by decide +kernel
theorem dX0_arity_36 : decode cX0_arity 36 = .ok (.iload_n 0, 1) := by decide +kernel
theorem dX0_arity_37 : decode cX0_arity 37 = .ok (.bipush 10, 2) := by decide +kernel
theorem dX0_arity_39 : decode cX0_arity 39 = .ok (.if_icmp .lt 9, 3) := by decide +kernel
theorem dX0_arity_42 : decode cX0_arity 42 = .ok (.iload_n 0, 1) := by decide +kernel
theorem dX0_arity_43 : decode cX0_arity 43 = .ok (.bipush 17, 2) := by decide +kernel
theorem dX0_arity_45 : decode cX0_arity 45 = .ok (.if_icmp .ne 7, 3) := by decide +kernel
theorem dX0_arity_48 : decode cX0_arity 48 = .ok (.iconst 1, 1) := by decide +kernel
theorem dX0_arity_49 : decode cX0_arity 49 = .ok (.goto 4, 3) := by decide +kernel
theorem dX0_arity_52 : decode cX0_arity 52 = .ok (.iconst 2, 1) := by decide +kernel
theorem dX0_arity_53 : decode cX0_arity 53 = .ok (.ireturn, 1) := by decide +kernel
abbrev cX0_typed : ByteArray := prog_1_method_17_code
def yX0_typed : MethodName := ⟨RX0, "typed", "(III)I"⟩
theorem dX0_typed_0 : decode cX0_typed 0 = .ok (.iload_n 0, 1) := by decide +kernel
theorem dX0_typed_1 : decode cX0_typed 1 = .ok (.iconst 2, 1) := by decide +kernel
theorem dX0_typed_2 : decode cX0_typed 2 = .ok (.if_icmp .eq 8, 3) := by decide +kernel
theorem dX0_typed_5 : decode cX0_typed 5 = .ok (.iload_n 0, 1) := by decide +kernel
theorem dX0_typed_6 : decode cX0_typed 6 = .ok (.iconst 3, 1) := by decide +kernel
theorem dX0_typed_7 : decode cX0_typed 7 = .ok (.if_icmp .ne 22, 3) := by decide +kernel
theorem dX0_typed_10 : decode cX0_typed 10 = .ok (.iload_n 1, 1) := by decide +kernel
theorem dX0_typed_11 : decode cX0_typed 11 = .ok (.ifCond .ne 16, 3) := by decide +kernel
theorem dX0_typed_14 : decode cX0_typed 14 = .ok (.iload_n 0, 1) := by decide +kernel
theorem dX0_typed_15 : decode cX0_typed 15 = .ok (.iconst 2, 1) := by decide +kernel
theorem dX0_typed_16 : decode cX0_typed 16 = .ok (.if_icmp .eq 7, 3) := by decide +kernel
theorem dX0_typed_19 : decode cX0_typed 19 = .ok (.iload_n 2, 1) := by decide +kernel
theorem dX0_typed_20 : decode cX0_typed 20 = .ok (.ifCond .ne 7, 3) := by decide +kernel
theorem dX0_typed_23 : decode cX0_typed 23 = .ok (.iconst 0, 1) := by decide +kernel
theorem dX0_typed_24 : decode cX0_typed 24 = .ok (.goto 4, 3) := by decide +kernel
theorem dX0_typed_27 : decode cX0_typed 27 = .ok (.iconst (-1), 1) := by decide +kernel
theorem dX0_typed_28 : decode cX0_typed 28 = .ok (.ireturn, 1) := by decide +kernel
theorem dX0_typed_29 : decode cX0_typed 29 = .ok (.iload_n 0, 1) := by decide +kernel
theorem dX0_typed_30 : decode cX0_typed 30 = .ok (.bipush 7, 2) := by decide +kernel
theorem dX0_typed_32 : decode cX0_typed 32 = .ok (.if_icmp .lt 19, 3) := by decide +kernel
theorem dX0_typed_35 : decode cX0_typed 35 = .ok (.iload_n 0, 1) := by decide +kernel
theorem dX0_typed_36 : decode cX0_typed 36 = .ok (.bipush 10, 2) := by decide +kernel
theorem dX0_typed_38 : decode cX0_typed 38 = .ok (.if_icmp .ge 13, 3) := by decide +kernel
theorem dX0_typed_41 : decode cX0_typed 41 = .ok (.iload_n 1, 1) := by decide +kernel
theorem dX0_typed_42 : decode cX0_typed 42 = .ok (.ifCond .ne 7, 3) := by decide +kernel
theorem dX0_typed_45 : decode cX0_typed 45 = .ok (.iconst 1, 1) := by decide +kernel
theorem dX0_typed_46 : decode cX0_typed 46 = .ok (.goto 4, 3) := by decide +kernel
theorem dX0_typed_49 : decode cX0_typed 49 = .ok (.iconst (-1), 1) := by decide +kernel
theorem dX0_typed_50 : decode cX0_typed 50 = .ok (.ireturn, 1) := by decide +kernel
theorem dX0_typed_51 : decode cX0_typed 51 = .ok (.iload_n 0, 1) := by decide +kernel
theorem dX0_typed_52 : decode cX0_typed 52 = .ok (.bipush 10, 2) := by decide +kernel
theorem dX0_typed_54 : decode cX0_typed 54 = .ok (.if_icmp .lt 35, 3) := by decide +kernel
theorem dX0_typed_57 : decode cX0_typed 57 = .ok (.iload_n 0, 1) := by decide +kernel
theorem dX0_typed_58 : decode cX0_typed 58 = .ok (.bipush 15, 2) := by decide +kernel
theorem dX0_typed_60 : decode cX0_typed 60 = .ok (.if_icmp .ge 29, 3) := by decide +kernel
theorem dX0_typed_63 : decode cX0_typed 63 = .ok (.iload_n 1, 1) := by decide +kernel
theorem dX0_typed_64 : decode cX0_typed 64 = .ok (.iconst 2, 1) := by decide +kernel
theorem dX0_typed_65 : decode cX0_typed 65 = .ok (.if_icmp .eq 8, 3) := by decide +kernel
theorem dX0_typed_68 : decode cX0_typed 68 = .ok (.iload_n 2, 1) := by decide +kernel
theorem dX0_typed_69 : decode cX0_typed 69 = .ok (.iconst 2, 1) := by decide +kernel
theorem dX0_typed_70 : decode cX0_typed 70 = .ok (.if_icmp .ne 7, 3) := by decide +kernel
theorem dX0_typed_73 : decode cX0_typed 73 = .ok (.iconst (-1), 1) := by decide +kernel
theorem dX0_typed_74 : decode cX0_typed 74 = .ok (.goto 14, 3) := by decide +kernel
theorem dX0_typed_77 : decode cX0_typed 77 = .ok (.iload_n 0, 1) := by decide +kernel
theorem dX0_typed_78 : decode cX0_typed 78 = .ok (.bipush 13, 2) := by decide +kernel
theorem dX0_typed_80 : decode cX0_typed 80 = .ok (.if_icmp .ge 7, 3) := by decide +kernel
theorem dX0_typed_83 : decode cX0_typed 83 = .ok (.iconst 1, 1) := by decide +kernel
theorem dX0_typed_84 : decode cX0_typed 84 = .ok (.goto 4, 3) := by decide +kernel
theorem dX0_typed_87 : decode cX0_typed 87 = .ok (.iconst 2, 1) := by decide +kernel
theorem dX0_typed_88 : decode cX0_typed 88 = .ok (.ireturn, 1) := by decide +kernel
theorem dX0_typed_89 : decode cX0_typed 89 = .ok (.iload_n 0, 1) := by decide +kernel
theorem dX0_typed_90 : decode cX0_typed 90 = .ok (.iconst 2, 1) := by decide +kernel
theorem dX0_typed_91 : decode cX0_typed 91 = .ok (.if_icmp .ge 7, 3) := by decide +kernel
theorem dX0_typed_94 : decode cX0_typed 94 = .ok (.iconst 0, 1) := by decide +kernel
theorem dX0_typed_95 : decode cX0_typed 95 = .ok (.goto 14, 3) := by decide +kernel
theorem dX0_typed_98 : decode cX0_typed 98 = .ok (.iload_n 0, 1) := by decide +kernel
theorem dX0_typed_99 : decode cX0_typed 99 = .ok (.bipush 7, 2) := by decide +kernel
theorem dX0_typed_101 : decode cX0_typed 101 = .ok (.if_icmp .ge 7, 3) := by decide +kernel
theorem dX0_typed_104 : decode cX0_typed 104 = .ok (.iconst 1, 1) := by decide +kernel
theorem dX0_typed_105 : decode cX0_typed 105 = .ok (.goto 4, 3) := by decide +kernel
theorem dX0_typed_108 : decode cX0_typed 108 = .ok (.iconst 2, 1) := by decide +kernel
theorem dX0_typed_109 : decode cX0_typed 109 = .ok (.ireturn, 1) := by decide +kernel
abbrev cX0_size : ByteArray := prog_1_method_38_code
def yX0_size : MethodName := ⟨RX0, "size", "(II)I"⟩
theorem dX0_size_0 : decode cX0_size 0 = .ok (.aload_n 0, 1) := by decide +kernel
theorem dX0_size_1 : decode cX0_size 1 = .ok (.iload_n 1, 1) := by decide +kernel
theorem dX0_size_2 : decode cX0_size 2 = .ok (.iload_n 2, 1) := by decide +kernel
theorem dX0_size_3 : decode cX0_size 3 = .ok (.invokevirtual 221, 3) := by decide +kernel
theorem dX0_size_6 : decode cX0_size 6 = .ok (.ifCond .eq 15, 3) := by decide +kernel
theorem dX0_size_9 : decode cX0_size 9 = .ok (.aload_n 0, 1) := by decide +kernel
theorem dX0_size_10 : decode cX0_size 10 = .ok (.getfield 60, 3) := by decide +kernel
theorem dX0_size_13 : decode cX0_size 13 = .ok (.bipush 40, 2) := by decide +kernel
theorem dX0_size_15 : decode cX0_size 15 = .ok (.iload_n 1, 1) := by decide +kernel
theorem dX0_size_16 : decode cX0_size 16 = .ok (.imul, 1) := by decide +kernel
theorem dX0_size_17 : decode cX0_size 17 = .ok (.baload, 1) := by decide +kernel
theorem dX0_size_18 : decode cX0_size 18 = .ok (.ifCond .eq 5, 3) := by decide +kernel
theorem dX0_size_21 : decode cX0_size 21 = .ok (.iconst (-1), 1) := by decide +kernel
theorem dX0_size_22 : decode cX0_size 22 = .ok (.ireturn, 1) := by decide +kernel
theorem dX0_size_23 : decode cX0_size 23 = .ok (.aload_n 0, 1) := by decide +kernel
theorem dX0_size_24 : decode cX0_size 24 = .ok (.iload_n 1, 1) := by decide +kernel
theorem dX0_size_25 : decode cX0_size 25 = .ok (.iload_n 2, 1) := by decide +kernel
theorem dX0_size_26 : decode cX0_size 26 = .ok (.invokevirtual 224, 3) := by decide +kernel
theorem dX0_size_29 : decode cX0_size 29 = .ok (.istore_n 3, 1) := by decide +kernel
theorem dX0_size_30 : decode cX0_size 30 = .ok (.iload_n 3, 1) := by decide +kernel
theorem dX0_size_31 : decode cX0_size 31 = .ok (.invokestatic 188, 3) := by decide +kernel
theorem dX0_size_34 : decode cX0_size 34 = .ok (.ireturn, 1) := by decide +kernel
abbrev cX0_isThere : ByteArray := prog_1_method_36_code
def yX0_isThere : MethodName := ⟨RX0, "isThere", "(II)Z"⟩
theorem dX0_isThere_0 : decode cX0_isThere 0 = .ok (.iload_n 1, 1) := by decide +kernel
theorem dX0_isThere_1 : decode cX0_isThere 1 = .ok (.ifCond .lt 30, 3) := by decide +kernel
theorem dX0_isThere_4 : decode cX0_isThere 4 = .ok (.iload_n 1, 1) := by decide +kernel
theorem dX0_isThere_5 : decode cX0_isThere 5 = .ok (.bipush 8, 2) := by decide +kernel
theorem dX0_isThere_7 : decode cX0_isThere 7 = .ok (.if_icmp .ge 24, 3) := by decide +kernel
theorem dX0_isThere_10 : decode cX0_isThere 10 = .ok (.aload_n 0, 1) := by decide +kernel
theorem dX0_isThere_11 : decode cX0_isThere 11 = .ok (.getfield 70, 3) := by decide +kernel
theorem dX0_isThere_14 : decode cX0_isThere 14 = .ok (.iload_n 1, 1) := by decide +kernel
theorem dX0_isThere_15 : decode cX0_isThere 15 = .ok (.baload, 1) := by decide +kernel
theorem dX0_isThere_16 : decode cX0_isThere 16 = .ok (.ifCond .le 15, 3) := by decide +kernel
theorem dX0_isThere_19 : decode cX0_isThere 19 = .ok (.aload_n 0, 1) := by decide +kernel
theorem dX0_isThere_20 : decode cX0_isThere 20 = .ok (.iload_n 2, 1) := by decide +kernel
theorem dX0_isThere_21 : decode cX0_isThere 21 = .ok (.invokevirtual 132, 3) := by decide +kernel
theorem dX0_isThere_24 : decode cX0_isThere 24 = .ok (.ifCond .eq 7, 3) := by decide +kernel
theorem dX0_isThere_27 : decode cX0_isThere 27 = .ok (.iconst 1, 1) := by decide +kernel
theorem dX0_isThere_28 : decode cX0_isThere 28 = .ok (.goto 4, 3) := by decide +kernel
theorem dX0_isThere_31 : decode cX0_isThere 31 = .ok (.iconst 0, 1) := by decide +kernel
theorem dX0_isThere_32 : decode cX0_isThere 32 = .ok (.ireturn, 1) := by decide +kernel
abbrev cX0_resultAt : ByteArray := prog_1_method_37_code
def yX0_resultAt : MethodName := ⟨RX0, "resultAt", "(II)I"⟩
theorem dX0_resultAt_0 : decode cX0_resultAt 0 = .ok (.aload_n 0, 1) := by decide +kernel
theorem dX0_resultAt_1 : decode cX0_resultAt 1 = .ok (.iload_n 1, 1) := by decide +kernel
theorem dX0_resultAt_2 : decode cX0_resultAt 2 = .ok (.invokevirtual 218, 3) := by decide +kernel
theorem dX0_resultAt_5 : decode cX0_resultAt 5 = .ok (.aload_n 0, 1) := by decide +kernel
theorem dX0_resultAt_6 : decode cX0_resultAt 6 = .ok (.getfield 79, 3) := by decide +kernel
theorem dX0_resultAt_9 : decode cX0_resultAt 9 = .ok (.bipush 24, 2) := by decide +kernel
theorem dX0_resultAt_11 : decode cX0_resultAt 11 = .ok (.iload_n 1, 1) := by decide +kernel
theorem dX0_resultAt_12 : decode cX0_resultAt 12 = .ok (.imul, 1) := by decide +kernel
theorem dX0_resultAt_13 : decode cX0_resultAt 13 = .ok (.aload_n 0, 1) := by decide +kernel
theorem dX0_resultAt_14 : decode cX0_resultAt 14 = .ok (.getfield 30, 3) := by decide +kernel
theorem dX0_resultAt_17 : decode cX0_resultAt 17 = .ok (.iload_n 2, 1) := by decide +kernel
theorem dX0_resultAt_18 : decode cX0_resultAt 18 = .ok (.baload, 1) := by decide +kernel
theorem dX0_resultAt_19 : decode cX0_resultAt 19 = .ok (.iadd, 1) := by decide +kernel
theorem dX0_resultAt_20 : decode cX0_resultAt 20 = .ok (.iaload, 1) := by decide +kernel
theorem dX0_resultAt_21 : decode cX0_resultAt 21 = .ok (.ireturn, 1) := by decide +kernel
abbrev cX0_learn : ByteArray := prog_1_method_25_code
def yX0_learn : MethodName := ⟨RX0, "learn", "(I)V"⟩
theorem dX0_learn_0 : decode cX0_learn 0 = .ok (.aload_n 0, 1) := by decide +kernel
theorem dX0_learn_1 : decode cX0_learn 1 = .ok (.invokevirtual 146, 3) := by decide +kernel
theorem dX0_learn_4 : decode cX0_learn 4 = .ok (.aload_n 0, 1) := by decide +kernel
theorem dX0_learn_5 : decode cX0_learn 5 = .ok (.getfield 82, 3) := by decide +kernel
theorem dX0_learn_8 : decode cX0_learn 8 = .ok (.iload_n 1, 1) := by decide +kernel
theorem dX0_learn_9 : decode cX0_learn 9 = .ok (.baload, 1) := by decide +kernel
theorem dX0_learn_10 : decode cX0_learn 10 = .ok (.ifCond .eq 4, 3) := by decide +kernel
theorem dX0_learn_13 : decode cX0_learn 13 = .ok (.return_, 1) := by decide +kernel
theorem dX0_learn_14 : decode cX0_learn 14 = .ok (.aload_n 0, 1) := by decide +kernel
theorem dX0_learn_15 : decode cX0_learn 15 = .ok (.getfield 82, 3) := by decide +kernel
theorem dX0_learn_18 : decode cX0_learn 18 = .ok (.iload_n 1, 1) := by decide +kernel
theorem dX0_learn_19 : decode cX0_learn 19 = .ok (.iconst 1, 1) := by decide +kernel
theorem dX0_learn_20 : decode cX0_learn 20 = .ok (.bastore, 1) := by decide +kernel
theorem dX0_learn_21 : decode cX0_learn 21 = .ok (.bipush 40, 2) := by decide +kernel
theorem dX0_learn_23 : decode cX0_learn 23 = .ok (.iload_n 1, 1) := by decide +kernel
theorem dX0_learn_24 : decode cX0_learn 24 = .ok (.imul, 1) := by decide +kernel
theorem dX0_learn_25 : decode cX0_learn 25 = .ok (.istore_n 2, 1) := by decide +kernel
theorem dX0_learn_26 : decode cX0_learn 26 = .ok (.aload_n 0, 1) := by decide +kernel
theorem dX0_learn_27 : decode cX0_learn 27 = .ok (.getfield 70, 3) := by decide +kernel
theorem dX0_learn_30 : decode cX0_learn 30 = .ok (.iload_n 1, 1) := by decide +kernel
theorem dX0_learn_31 : decode cX0_learn 31 = .ok (.baload, 1) := by decide +kernel
theorem dX0_learn_32 : decode cX0_learn 32 = .ok (.iconst 1, 1) := by decide +kernel
theorem dX0_learn_33 : decode cX0_learn 33 = .ok (.isub, 1) := by decide +kernel
theorem dX0_learn_34 : decode cX0_learn 34 = .ok (.istore_n 3, 1) := by decide +kernel
theorem dX0_learn_35 : decode cX0_learn 35 = .ok (.iload_n 3, 1) := by decide +kernel
theorem dX0_learn_36 : decode cX0_learn 36 = .ok (.ifCond .lt 47, 3) := by decide +kernel
theorem dX0_learn_39 : decode cX0_learn 39 = .ok (.aload_n 0, 1) := by decide +kernel
theorem dX0_learn_40 : decode cX0_learn 40 = .ok (.getfield 54, 3) := by decide +kernel
theorem dX0_learn_43 : decode cX0_learn 43 = .ok (.iload_n 2, 1) := by decide +kernel
theorem dX0_learn_44 : decode cX0_learn 44 = .ok (.iload_n 3, 1) := by decide +kernel
theorem dX0_learn_45 : decode cX0_learn 45 = .ok (.iadd, 1) := by decide +kernel
theorem dX0_learn_46 : decode cX0_learn 46 = .ok (.baload, 1) := by decide +kernel
theorem dX0_learn_47 : decode cX0_learn 47 = .ok (.iconst 2, 1) := by decide +kernel
theorem dX0_learn_48 : decode cX0_learn 48 = .ok (.if_icmp .ne 12, 3) := by decide +kernel
theorem dX0_learn_51 : decode cX0_learn 51 = .ok (.aload_n 0, 1) := by decide +kernel
theorem dX0_learn_52 : decode cX0_learn 52 = .ok (.iload_n 2, 1) := by decide +kernel
theorem dX0_learn_53 : decode cX0_learn 53 = .ok (.iload_n 3, 1) := by decide +kernel
theorem dX0_learn_54 : decode cX0_learn 54 = .ok (.invokevirtual 171, 3) := by decide +kernel
theorem dX0_learn_57 : decode cX0_learn 57 = .ok (.goto 20, 3) := by decide +kernel
theorem dX0_learn_60 : decode cX0_learn 60 = .ok (.aload_n 0, 1) := by decide +kernel
theorem dX0_learn_61 : decode cX0_learn 61 = .ok (.getfield 66, 3) := by decide +kernel
theorem dX0_learn_64 : decode cX0_learn 64 = .ok (.iload_n 2, 1) := by decide +kernel
theorem dX0_learn_65 : decode cX0_learn 65 = .ok (.iload_n 3, 1) := by decide +kernel
theorem dX0_learn_66 : decode cX0_learn 66 = .ok (.iadd, 1) := by decide +kernel
theorem dX0_learn_67 : decode cX0_learn 67 = .ok (.baload, 1) := by decide +kernel
theorem dX0_learn_68 : decode cX0_learn 68 = .ok (.ifCond .ne 9, 3) := by decide +kernel
theorem dX0_learn_71 : decode cX0_learn 71 = .ok (.aload_n 0, 1) := by decide +kernel
theorem dX0_learn_72 : decode cX0_learn 72 = .ok (.iload_n 2, 1) := by decide +kernel
theorem dX0_learn_73 : decode cX0_learn 73 = .ok (.iload_n 3, 1) := by decide +kernel
theorem dX0_learn_74 : decode cX0_learn 74 = .ok (.invokevirtual 175, 3) := by decide +kernel
theorem dX0_learn_77 : decode cX0_learn 77 = .ok (.iinc 3 (-1), 3) := by decide +kernel
theorem dX0_learn_80 : decode cX0_learn 80 = .ok (.goto (-45), 3) := by decide +kernel
theorem dX0_learn_83 : decode cX0_learn 83 = .ok (.iconst 0, 1) := by decide +kernel
theorem dX0_learn_84 : decode cX0_learn 84 = .ok (.istore_n 3, 1) := by decide +kernel
theorem dX0_learn_85 : decode cX0_learn 85 = .ok (.iload_n 3, 1) := by decide +kernel
theorem dX0_learn_86 : decode cX0_learn 86 = .ok (.aload_n 0, 1) := by decide +kernel
theorem dX0_learn_87 : decode cX0_learn 87 = .ok (.getfield 129, 3) := by decide +kernel
theorem dX0_learn_90 : decode cX0_learn 90 = .ok (.if_icmp .ge 47, 3) := by decide +kernel
theorem dX0_learn_93 : decode cX0_learn 93 = .ok (.aload_n 0, 1) := by decide +kernel
theorem dX0_learn_94 : decode cX0_learn 94 = .ok (.getfield 79, 3) := by decide +kernel
theorem dX0_learn_97 : decode cX0_learn 97 = .ok (.bipush 24, 2) := by decide +kernel
theorem dX0_learn_99 : decode cX0_learn 99 = .ok (.iload_n 1, 1) := by decide +kernel
theorem dX0_learn_100 : decode cX0_learn 100 = .ok (.imul, 1) := by decide +kernel
theorem dX0_learn_101 : decode cX0_learn 101 = .ok (.iload_n 3, 1) := by decide +kernel
theorem dX0_learn_102 : decode cX0_learn 102 = .ok (.iadd, 1) := by decide +kernel
theorem dX0_learn_103 : decode cX0_learn 103 = .ok (.aload_n 0, 1) := by decide +kernel
theorem dX0_learn_104 : decode cX0_learn 104 = .ok (.getfield 66, 3) := by decide +kernel
theorem dX0_learn_107 : decode cX0_learn 107 = .ok (.iload_n 2, 1) := by decide +kernel
theorem dX0_learn_108 : decode cX0_learn 108 = .ok (.baload, 1) := by decide +kernel
theorem dX0_learn_109 : decode cX0_learn 109 = .ok (.ifCond .eq 15, 3) := by decide +kernel
theorem dX0_learn_112 : decode cX0_learn 112 = .ok (.aload_n 0, 1) := by decide +kernel
theorem dX0_learn_113 : decode cX0_learn 113 = .ok (.iload_n 2, 1) := by decide +kernel
theorem dX0_learn_114 : decode cX0_learn 114 = .ok (.iconst 0, 1) := by decide +kernel
theorem dX0_learn_115 : decode cX0_learn 115 = .ok (.iload_n 3, 1) := by decide +kernel
theorem dX0_learn_116 : decode cX0_learn 116 = .ok (.iconst 1, 1) := by decide +kernel
theorem dX0_learn_117 : decode cX0_learn 117 = .ok (.iconst 1, 1) := by decide +kernel
theorem dX0_learn_118 : decode cX0_learn 118 = .ok (.invokevirtual 178, 3) := by decide +kernel
theorem dX0_learn_121 : decode cX0_learn 121 = .ok (.goto 9, 3) := by decide +kernel
theorem dX0_learn_124 : decode cX0_learn 124 = .ok (.aload_n 0, 1) := by decide +kernel
theorem dX0_learn_125 : decode cX0_learn 125 = .ok (.getfield 76, 3) := by decide +kernel
theorem dX0_learn_128 : decode cX0_learn 128 = .ok (.iload_n 3, 1) := by decide +kernel
theorem dX0_learn_129 : decode cX0_learn 129 = .ok (.iaload, 1) := by decide +kernel
theorem dX0_learn_130 : decode cX0_learn 130 = .ok (.iastore, 1) := by decide +kernel
theorem dX0_learn_131 : decode cX0_learn 131 = .ok (.iinc 3 1, 3) := by decide +kernel
theorem dX0_learn_134 : decode cX0_learn 134 = .ok (.goto (-49), 3) := by decide +kernel
theorem dX0_learn_137 : decode cX0_learn 137 = .ok (.return_, 1) := by decide +kernel
abbrev cX0_step : ByteArray := prog_1_method_33_code
def yX0_step : MethodName := ⟨RX0, "step", "(II)V"⟩
theorem dX0_step_0 : decode cX0_step 0 = .ok (.aload_n 0, 1) := by decide +kernel
theorem dX0_step_1 : decode cX0_step 1 = .ok (.getfield 57, 3) := by decide +kernel
theorem dX0_step_4 : decode cX0_step 4 = .ok (.iload_n 1, 1) := by decide +kernel
theorem dX0_step_5 : decode cX0_step 5 = .ok (.iload_n 2, 1) := by decide +kernel
theorem dX0_step_6 : decode cX0_step 6 = .ok (.iadd, 1) := by decide +kernel
theorem dX0_step_7 : decode cX0_step 7 = .ok (.iaload, 1) := by decide +kernel
theorem dX0_step_8 : decode cX0_step 8 = .ok (.istore_n 3, 1) := by decide +kernel
theorem dX0_step_9 : decode cX0_step 9 = .ok (.iload_n 2, 1) := by decide +kernel
theorem dX0_step_10 : decode cX0_step 10 = .ok (.iconst 1, 1) := by decide +kernel
theorem dX0_step_11 : decode cX0_step 11 = .ok (.iadd, 1) := by decide +kernel
theorem dX0_step_12 : decode cX0_step 12 = .ok (.istore 4, 2) := by decide +kernel
theorem dX0_step_14 : decode cX0_step 14 = .ok (.iconst 0, 1) := by decide +kernel
theorem dX0_step_15 : decode cX0_step 15 = .ok (.istore 5, 2) := by decide +kernel
theorem dX0_step_17 : decode cX0_step 17 = .ok (.iload 5, 2) := by decide +kernel
theorem dX0_step_19 : decode cX0_step 19 = .ok (.aload_n 0, 1) := by decide +kernel
theorem dX0_step_20 : decode cX0_step 20 = .ok (.getfield 129, 3) := by decide +kernel
theorem dX0_step_23 : decode cX0_step 23 = .ok (.if_icmp .ge 110, 3) := by decide +kernel
theorem dX0_step_26 : decode cX0_step 26 = .ok (.aload_n 0, 1) := by decide +kernel
theorem dX0_step_27 : decode cX0_step 27 = .ok (.iload_n 3, 1) := by decide +kernel
theorem dX0_step_28 : decode cX0_step 28 = .ok (.bipush 15, 2) := by decide +kernel
theorem dX0_step_30 : decode cX0_step 30 = .ok (.iand, 1) := by decide +kernel
theorem dX0_step_31 : decode cX0_step 31 = .ok (.iload 5, 2) := by decide +kernel
theorem dX0_step_33 : decode cX0_step 33 = .ok (.invokevirtual 208, 3) := by decide +kernel
theorem dX0_step_36 : decode cX0_step 36 = .ok (.aload_n 0, 1) := by decide +kernel
theorem dX0_step_37 : decode cX0_step 37 = .ok (.getfield 48, 3) := by decide +kernel
theorem dX0_step_40 : decode cX0_step 40 = .ok (.iload_n 3, 1) := by decide +kernel
theorem dX0_step_41 : decode cX0_step 41 = .ok (.iconst 4, 1) := by decide +kernel
theorem dX0_step_42 : decode cX0_step 42 = .ok (.ishr, 1) := by decide +kernel
theorem dX0_step_43 : decode cX0_step 43 = .ok (.bipush 7, 2) := by decide +kernel
theorem dX0_step_45 : decode cX0_step 45 = .ok (.iand, 1) := by decide +kernel
theorem dX0_step_46 : decode cX0_step 46 = .ok (.iaload, 1) := by decide +kernel
theorem dX0_step_47 : decode cX0_step 47 = .ok (.iand, 1) := by decide +kernel
theorem dX0_step_48 : decode cX0_step 48 = .ok (.istore 6, 2) := by decide +kernel
theorem dX0_step_50 : decode cX0_step 50 = .ok (.aload_n 0, 1) := by decide +kernel
theorem dX0_step_51 : decode cX0_step 51 = .ok (.getfield 63, 3) := by decide +kernel
theorem dX0_step_54 : decode cX0_step 54 = .ok (.iload_n 1, 1) := by decide +kernel
theorem dX0_step_55 : decode cX0_step 55 = .ok (.iload 4, 2) := by decide +kernel
theorem dX0_step_57 : decode cX0_step 57 = .ok (.iadd, 1) := by decide +kernel
theorem dX0_step_58 : decode cX0_step 58 = .ok (.baload, 1) := by decide +kernel
theorem dX0_step_59 : decode cX0_step 59 = .ok (.istore 7, 2) := by decide +kernel
theorem dX0_step_61 : decode cX0_step 61 = .ok (.iload_n 3, 1) := by decide +kernel
theorem dX0_step_62 : decode cX0_step 62 = .ok (.bipush 7, 2) := by decide +kernel
theorem dX0_step_64 : decode cX0_step 64 = .ok (.ishr, 1) := by decide +kernel
theorem dX0_step_65 : decode cX0_step 65 = .ok (.istore 8, 2) := by decide +kernel
theorem dX0_step_67 : decode cX0_step 67 = .ok (.iload 8, 2) := by decide +kernel
theorem dX0_step_69 : decode cX0_step 69 = .ok (.ifCond .le 49, 3) := by decide +kernel
theorem dX0_step_72 : decode cX0_step 72 = .ok (.aload_n 0, 1) := by decide +kernel
theorem dX0_step_73 : decode cX0_step 73 = .ok (.iload_n 1, 1) := by decide +kernel
theorem dX0_step_74 : decode cX0_step 74 = .ok (.iload 7, 2) := by decide +kernel
theorem dX0_step_76 : decode cX0_step 76 = .ok (.iload 6, 2) := by decide +kernel
theorem dX0_step_78 : decode cX0_step 78 = .ok (.iload_n 3, 1) := by decide +kernel
theorem dX0_step_79 : decode cX0_step 79 = .ok (.iconst 1, 1) := by decide +kernel
theorem dX0_step_80 : decode cX0_step 80 = .ok (.iand, 1) := by decide +kernel
theorem dX0_step_81 : decode cX0_step 81 = .ok (.ifCond .ne 14, 3) := by decide +kernel
theorem dX0_step_84 : decode cX0_step 84 = .ok (.iload_n 3, 1) := by decide +kernel
theorem dX0_step_85 : decode cX0_step 85 = .ok (.bipush 15, 2) := by decide +kernel
theorem dX0_step_87 : decode cX0_step 87 = .ok (.iand, 1) := by decide +kernel
theorem dX0_step_88 : decode cX0_step 88 = .ok (.ifCond .le 7, 3) := by decide +kernel
theorem dX0_step_91 : decode cX0_step 91 = .ok (.iconst 1, 1) := by decide +kernel
theorem dX0_step_92 : decode cX0_step 92 = .ok (.goto 4, 3) := by decide +kernel
theorem dX0_step_95 : decode cX0_step 95 = .ok (.iconst 0, 1) := by decide +kernel
theorem dX0_step_96 : decode cX0_step 96 = .ok (.invokevirtual 211, 3) := by decide +kernel
theorem dX0_step_99 : decode cX0_step 99 = .ok (.istore 6, 2) := by decide +kernel
theorem dX0_step_101 : decode cX0_step 101 = .ok (.aload_n 0, 1) := by decide +kernel
theorem dX0_step_102 : decode cX0_step 102 = .ok (.getfield 63, 3) := by decide +kernel
theorem dX0_step_105 : decode cX0_step 105 = .ok (.iload_n 1, 1) := by decide +kernel
theorem dX0_step_106 : decode cX0_step 106 = .ok (.iload 7, 2) := by decide +kernel
theorem dX0_step_108 : decode cX0_step 108 = .ok (.iadd, 1) := by decide +kernel
theorem dX0_step_109 : decode cX0_step 109 = .ok (.baload, 1) := by decide +kernel
theorem dX0_step_110 : decode cX0_step 110 = .ok (.istore 7, 2) := by decide +kernel
theorem dX0_step_112 : decode cX0_step 112 = .ok (.iinc 8 (-1), 3) := by decide +kernel
theorem dX0_step_115 : decode cX0_step 115 = .ok (.goto (-48), 3) := by decide +kernel
theorem dX0_step_118 : decode cX0_step 118 = .ok (.aload_n 0, 1) := by decide +kernel
theorem dX0_step_119 : decode cX0_step 119 = .ok (.getfield 85, 3) := by decide +kernel
theorem dX0_step_122 : decode cX0_step 122 = .ok (.iload 5, 2) := by decide +kernel
theorem dX0_step_124 : decode cX0_step 124 = .ok (.iload 6, 2) := by decide +kernel
theorem dX0_step_126 : decode cX0_step 126 = .ok (.iastore, 1) := by decide +kernel
theorem dX0_step_127 : decode cX0_step 127 = .ok (.iinc 5 1, 3) := by decide +kernel
theorem dX0_step_130 : decode cX0_step 130 = .ok (.goto (-113), 3) := by decide +kernel
theorem dX0_step_133 : decode cX0_step 133 = .ok (.iconst 0, 1) := by decide +kernel
theorem dX0_step_134 : decode cX0_step 134 = .ok (.istore 5, 2) := by decide +kernel
theorem dX0_step_136 : decode cX0_step 136 = .ok (.iload 5, 2) := by decide +kernel
theorem dX0_step_138 : decode cX0_step 138 = .ok (.aload_n 0, 1) := by decide +kernel
theorem dX0_step_139 : decode cX0_step 139 = .ok (.getfield 129, 3) := by decide +kernel
theorem dX0_step_142 : decode cX0_step 142 = .ok (.if_icmp .ge 73, 3) := by decide +kernel
theorem dX0_step_145 : decode cX0_step 145 = .ok (.iconst 0, 1) := by decide +kernel
theorem dX0_step_146 : decode cX0_step 146 = .ok (.istore 6, 2) := by decide +kernel
theorem dX0_step_148 : decode cX0_step 148 = .ok (.aload_n 0, 1) := by decide +kernel
theorem dX0_step_149 : decode cX0_step 149 = .ok (.getfield 76, 3) := by decide +kernel
theorem dX0_step_152 : decode cX0_step 152 = .ok (.bipush 24, 2) := by decide +kernel
theorem dX0_step_154 : decode cX0_step 154 = .ok (.iload 4, 2) := by decide +kernel
theorem dX0_step_156 : decode cX0_step 156 = .ok (.imul, 1) := by decide +kernel
theorem dX0_step_157 : decode cX0_step 157 = .ok (.iload 5, 2) := by decide +kernel
theorem dX0_step_159 : decode cX0_step 159 = .ok (.iadd, 1) := by decide +kernel
theorem dX0_step_160 : decode cX0_step 160 = .ok (.iaload, 1) := by decide +kernel
theorem dX0_step_161 : decode cX0_step 161 = .ok (.istore 7, 2) := by decide +kernel
theorem dX0_step_163 : decode cX0_step 163 = .ok (.iload 7, 2) := by decide +kernel
theorem dX0_step_165 : decode cX0_step 165 = .ok (.ifCond .eq 30, 3) := by decide +kernel
theorem dX0_step_168 : decode cX0_step 168 = .ok (.iload 6, 2) := by decide +kernel
theorem dX0_step_170 : decode cX0_step 170 = .ok (.aload_n 0, 1) := by decide +kernel
theorem dX0_step_171 : decode cX0_step 171 = .ok (.getfield 85, 3) := by decide +kernel
theorem dX0_step_174 : decode cX0_step 174 = .ok (.iload 7, 2) := by decide +kernel
theorem dX0_step_176 : decode cX0_step 176 = .ok (.invokestatic 197, 3) := by decide +kernel
theorem dX0_step_179 : decode cX0_step 179 = .ok (.iaload, 1) := by decide +kernel
theorem dX0_step_180 : decode cX0_step 180 = .ok (.ior, 1) := by decide +kernel
theorem dX0_step_181 : decode cX0_step 181 = .ok (.istore 6, 2) := by decide +kernel
theorem dX0_step_183 : decode cX0_step 183 = .ok (.iload 7, 2) := by decide +kernel
theorem dX0_step_185 : decode cX0_step 185 = .ok (.iload 7, 2) := by decide +kernel
theorem dX0_step_187 : decode cX0_step 187 = .ok (.iconst 1, 1) := by decide +kernel
theorem dX0_step_188 : decode cX0_step 188 = .ok (.isub, 1) := by decide +kernel
theorem dX0_step_189 : decode cX0_step 189 = .ok (.iand, 1) := by decide +kernel
theorem dX0_step_190 : decode cX0_step 190 = .ok (.istore 7, 2) := by decide +kernel
theorem dX0_step_192 : decode cX0_step 192 = .ok (.goto (-29), 3) := by decide +kernel
theorem dX0_step_195 : decode cX0_step 195 = .ok (.aload_n 0, 1) := by decide +kernel
theorem dX0_step_196 : decode cX0_step 196 = .ok (.getfield 76, 3) := by decide +kernel
theorem dX0_step_199 : decode cX0_step 199 = .ok (.bipush 24, 2) := by decide +kernel
theorem dX0_step_201 : decode cX0_step 201 = .ok (.iload_n 2, 1) := by decide +kernel
theorem dX0_step_202 : decode cX0_step 202 = .ok (.imul, 1) := by decide +kernel
theorem dX0_step_203 : decode cX0_step 203 = .ok (.iload 5, 2) := by decide +kernel
theorem dX0_step_205 : decode cX0_step 205 = .ok (.iadd, 1) := by decide +kernel
theorem dX0_step_206 : decode cX0_step 206 = .ok (.iload 6, 2) := by decide +kernel
theorem dX0_step_208 : decode cX0_step 208 = .ok (.iastore, 1) := by decide +kernel
theorem dX0_step_209 : decode cX0_step 209 = .ok (.iinc 5 1, 3) := by decide +kernel
theorem dX0_step_212 : decode cX0_step 212 = .ok (.goto (-76), 3) := by decide +kernel
theorem dX0_step_215 : decode cX0_step 215 = .ok (.return_, 1) := by decide +kernel
abbrev cX0_axis : ByteArray := prog_1_method_21_code
def yX0_axis : MethodName := ⟨RX0, "axis", "(II)I"⟩
theorem dX0_axis_0 : decode cX0_axis 0 = .ok (.aload_n 0, 1) := by decide +kernel
theorem dX0_axis_1 : decode cX0_axis 1 = .ok (.getfield 39, 3) := by decide +kernel
theorem dX0_axis_4 : decode cX0_axis 4 = .ok (.iload_n 2, 1) := by decide +kernel
theorem dX0_axis_5 : decode cX0_axis 5 = .ok (.baload, 1) := by decide +kernel
theorem dX0_axis_6 : decode cX0_axis 6 = .ok (.ifCond .ge 7, 3) := by decide +kernel
theorem dX0_axis_9 : decode cX0_axis 9 = .ok (.iconst 0, 1) := by decide +kernel
theorem dX0_axis_10 : decode cX0_axis 10 = .ok (.goto 14, 3) := by decide +kernel
theorem dX0_axis_13 : decode cX0_axis 13 = .ok (.aload_n 0, 1) := by decide +kernel
theorem dX0_axis_14 : decode cX0_axis 14 = .ok (.getfield 42, 3) := by decide +kernel
theorem dX0_axis_17 : decode cX0_axis 17 = .ok (.aload_n 0, 1) := by decide +kernel
theorem dX0_axis_18 : decode cX0_axis 18 = .ok (.getfield 39, 3) := by decide +kernel
theorem dX0_axis_21 : decode cX0_axis 21 = .ok (.iload_n 2, 1) := by decide +kernel
theorem dX0_axis_22 : decode cX0_axis 22 = .ok (.baload, 1) := by decide +kernel
theorem dX0_axis_23 : decode cX0_axis 23 = .ok (.iaload, 1) := by decide +kernel
theorem dX0_axis_24 : decode cX0_axis 24 = .ok (.istore_n 3, 1) := by decide +kernel
theorem dX0_axis_25 : decode cX0_axis 25 = .ok (.iload_n 1, 1) := by decide +kernel
theorem dX0_axis_26 : decode cX0_axis 26 = .ok (.tableswitch 173 0 9 #[54, 58, 65, 87, 100, 107, 117, 127, 145, 162], 54) := by decide +kernel
theorem dX0_axis_80 : decode cX0_axis 80 = .ok (.iconst 1, 1) := by decide +kernel
theorem dX0_axis_81 : decode cX0_axis 81 = .ok (.iload_n 2, 1) := by decide +kernel
theorem dX0_axis_82 : decode cX0_axis 82 = .ok (.ishl, 1) := by decide +kernel
theorem dX0_axis_83 : decode cX0_axis 83 = .ok (.ireturn, 1) := by decide +kernel
theorem dX0_axis_84 : decode cX0_axis 84 = .ok (.aload_n 0, 1) := by decide +kernel
theorem dX0_axis_85 : decode cX0_axis 85 = .ok (.getfield 42, 3) := by decide +kernel
theorem dX0_axis_88 : decode cX0_axis 88 = .ok (.iload_n 2, 1) := by decide +kernel
theorem dX0_axis_89 : decode cX0_axis 89 = .ok (.iaload, 1) := by decide +kernel
theorem dX0_axis_90 : decode cX0_axis 90 = .ok (.ireturn, 1) := by decide +kernel
theorem dX0_axis_91 : decode cX0_axis 91 = .ok (.aload_n 0, 1) := by decide +kernel
theorem dX0_axis_92 : decode cX0_axis 92 = .ok (.getfield 39, 3) := by decide +kernel
theorem dX0_axis_95 : decode cX0_axis 95 = .ok (.iload_n 2, 1) := by decide +kernel
theorem dX0_axis_96 : decode cX0_axis 96 = .ok (.baload, 1) := by decide +kernel
theorem dX0_axis_97 : decode cX0_axis 97 = .ok (.ifCond .ge 7, 3) := by decide +kernel
theorem dX0_axis_100 : decode cX0_axis 100 = .ok (.iconst 0, 1) := by decide +kernel
theorem dX0_axis_101 : decode cX0_axis 101 = .ok (.goto 11, 3) := by decide +kernel
theorem dX0_axis_104 : decode cX0_axis 104 = .ok (.iconst 1, 1) := by decide +kernel
theorem dX0_axis_105 : decode cX0_axis 105 = .ok (.aload_n 0, 1) := by decide +kernel
theorem dX0_axis_106 : decode cX0_axis 106 = .ok (.getfield 39, 3) := by decide +kernel
theorem dX0_axis_109 : decode cX0_axis 109 = .ok (.iload_n 2, 1) := by decide +kernel
theorem dX0_axis_110 : decode cX0_axis 110 = .ok (.baload, 1) := by decide +kernel
theorem dX0_axis_111 : decode cX0_axis 111 = .ok (.ishl, 1) := by decide +kernel
theorem dX0_axis_112 : decode cX0_axis 112 = .ok (.ireturn, 1) := by decide +kernel
theorem dX0_axis_113 : decode cX0_axis 113 = .ok (.iload_n 2, 1) := by decide +kernel
theorem dX0_axis_114 : decode cX0_axis 114 = .ok (.iconst 1, 1) := by decide +kernel
theorem dX0_axis_115 : decode cX0_axis 115 = .ok (.iadd, 1) := by decide +kernel
theorem dX0_axis_116 : decode cX0_axis 116 = .ok (.aload_n 0, 1) := by decide +kernel
theorem dX0_axis_117 : decode cX0_axis 117 = .ok (.getfield 36, 3) := by decide +kernel
theorem dX0_axis_120 : decode cX0_axis 120 = .ok (.iload_n 2, 1) := by decide +kernel
theorem dX0_axis_121 : decode cX0_axis 121 = .ok (.baload, 1) := by decide +kernel
theorem dX0_axis_122 : decode cX0_axis 122 = .ok (.invokestatic 168, 3) := by decide +kernel
theorem dX0_axis_125 : decode cX0_axis 125 = .ok (.ireturn, 1) := by decide +kernel
theorem dX0_axis_126 : decode cX0_axis 126 = .ok (.aload_n 0, 1) := by decide +kernel
theorem dX0_axis_127 : decode cX0_axis 127 = .ok (.getfield 45, 3) := by decide +kernel
theorem dX0_axis_130 : decode cX0_axis 130 = .ok (.iload_n 2, 1) := by decide +kernel
theorem dX0_axis_131 : decode cX0_axis 131 = .ok (.iaload, 1) := by decide +kernel
theorem dX0_axis_132 : decode cX0_axis 132 = .ok (.ireturn, 1) := by decide +kernel
theorem dX0_axis_133 : decode cX0_axis 133 = .ok (.iload_n 3, 1) := by decide +kernel
theorem dX0_axis_134 : decode cX0_axis 134 = .ok (.iconst 0, 1) := by decide +kernel
theorem dX0_axis_135 : decode cX0_axis 135 = .ok (.iload_n 2, 1) := by decide +kernel
theorem dX0_axis_136 : decode cX0_axis 136 = .ok (.invokestatic 168, 3) := by decide +kernel
theorem dX0_axis_139 : decode cX0_axis 139 = .ok (.iconst (-1), 1) := by decide +kernel
theorem dX0_axis_140 : decode cX0_axis 140 = .ok (.ixor, 1) := by decide +kernel
theorem dX0_axis_141 : decode cX0_axis 141 = .ok (.iand, 1) := by decide +kernel
theorem dX0_axis_142 : decode cX0_axis 142 = .ok (.ireturn, 1) := by decide +kernel
theorem dX0_axis_143 : decode cX0_axis 143 = .ok (.iload_n 3, 1) := by decide +kernel
theorem dX0_axis_144 : decode cX0_axis 144 = .ok (.iconst 0, 1) := by decide +kernel
theorem dX0_axis_145 : decode cX0_axis 145 = .ok (.iload_n 2, 1) := by decide +kernel
theorem dX0_axis_146 : decode cX0_axis 146 = .ok (.iconst 1, 1) := by decide +kernel
theorem dX0_axis_147 : decode cX0_axis 147 = .ok (.isub, 1) := by decide +kernel
theorem dX0_axis_148 : decode cX0_axis 148 = .ok (.invokestatic 168, 3) := by decide +kernel
theorem dX0_axis_151 : decode cX0_axis 151 = .ok (.iand, 1) := by decide +kernel
theorem dX0_axis_152 : decode cX0_axis 152 = .ok (.ireturn, 1) := by decide +kernel
theorem dX0_axis_153 : decode cX0_axis 153 = .ok (.aload_n 0, 1) := by decide +kernel
theorem dX0_axis_154 : decode cX0_axis 154 = .ok (.getfield 36, 3) := by decide +kernel
theorem dX0_axis_157 : decode cX0_axis 157 = .ok (.iload_n 2, 1) := by decide +kernel
theorem dX0_axis_158 : decode cX0_axis 158 = .ok (.baload, 1) := by decide +kernel
theorem dX0_axis_159 : decode cX0_axis 159 = .ok (.iconst 1, 1) := by decide +kernel
theorem dX0_axis_160 : decode cX0_axis 160 = .ok (.iadd, 1) := by decide +kernel
theorem dX0_axis_161 : decode cX0_axis 161 = .ok (.aload_n 0, 1) := by decide +kernel
theorem dX0_axis_162 : decode cX0_axis 162 = .ok (.getfield 129, 3) := by decide +kernel
theorem dX0_axis_165 : decode cX0_axis 165 = .ok (.iconst 1, 1) := by decide +kernel
theorem dX0_axis_166 : decode cX0_axis 166 = .ok (.isub, 1) := by decide +kernel
theorem dX0_axis_167 : decode cX0_axis 167 = .ok (.invokestatic 168, 3) := by decide +kernel
theorem dX0_axis_170 : decode cX0_axis 170 = .ok (.ireturn, 1) := by decide +kernel
theorem dX0_axis_171 : decode cX0_axis 171 = .ok (.iconst 0, 1) := by decide +kernel
theorem dX0_axis_172 : decode cX0_axis 172 = .ok (.iload_n 2, 1) := by decide +kernel
theorem dX0_axis_173 : decode cX0_axis 173 = .ok (.iconst 1, 1) := by decide +kernel
theorem dX0_axis_174 : decode cX0_axis 174 = .ok (.isub, 1) := by decide +kernel
theorem dX0_axis_175 : decode cX0_axis 175 = .ok (.invokestatic 168, 3) := by decide +kernel
theorem dX0_axis_178 : decode cX0_axis 178 = .ok (.aload_n 0, 1) := by decide +kernel
theorem dX0_axis_179 : decode cX0_axis 179 = .ok (.getfield 45, 3) := by decide +kernel
theorem dX0_axis_182 : decode cX0_axis 182 = .ok (.iload_n 2, 1) := by decide +kernel
theorem dX0_axis_183 : decode cX0_axis 183 = .ok (.iaload, 1) := by decide +kernel
theorem dX0_axis_184 : decode cX0_axis 184 = .ok (.iconst (-1), 1) := by decide +kernel
theorem dX0_axis_185 : decode cX0_axis 185 = .ok (.ixor, 1) := by decide +kernel
theorem dX0_axis_186 : decode cX0_axis 186 = .ok (.iand, 1) := by decide +kernel
theorem dX0_axis_187 : decode cX0_axis 187 = .ok (.ireturn, 1) := by decide +kernel
theorem dX0_axis_188 : decode cX0_axis 188 = .ok (.iload_n 2, 1) := by decide +kernel
theorem dX0_axis_189 : decode cX0_axis 189 = .ok (.aload_n 0, 1) := by decide +kernel
theorem dX0_axis_190 : decode cX0_axis 190 = .ok (.getfield 36, 3) := by decide +kernel
theorem dX0_axis_193 : decode cX0_axis 193 = .ok (.iload_n 2, 1) := by decide +kernel
theorem dX0_axis_194 : decode cX0_axis 194 = .ok (.baload, 1) := by decide +kernel
theorem dX0_axis_195 : decode cX0_axis 195 = .ok (.invokestatic 168, 3) := by decide +kernel
theorem dX0_axis_198 : decode cX0_axis 198 = .ok (.ireturn, 1) := by decide +kernel
theorem dX0_axis_199 : decode cX0_axis 199 = .ok (.aload_n 0, 1) := by decide +kernel
theorem dX0_axis_200 : decode cX0_axis 200 = .ok (.getfield 45, 3) := by decide +kernel
theorem dX0_axis_203 : decode cX0_axis 203 = .ok (.iload_n 2, 1) := by decide +kernel
theorem dX0_axis_204 : decode cX0_axis 204 = .ok (.iaload, 1) := by decide +kernel
theorem dX0_axis_205 : decode cX0_axis 205 = .ok (.iconst 1, 1) := by decide +kernel
theorem dX0_axis_206 : decode cX0_axis 206 = .ok (.iload_n 2, 1) := by decide +kernel
theorem dX0_axis_207 : decode cX0_axis 207 = .ok (.ishl, 1) := by decide +kernel
theorem dX0_axis_208 : decode cX0_axis 208 = .ok (.ior, 1) := by decide +kernel
theorem dX0_axis_209 : decode cX0_axis 209 = .ok (.ireturn, 1) := by decide +kernel
abbrev cX0_interval : ByteArray := prog_1_method_20_code
def yX0_interval : MethodName := ⟨RX0, "interval", "(II)I"⟩
theorem dX0_interval_0 : decode cX0_interval 0 = .ok (.iload_n 0, 1) := by decide +kernel
theorem dX0_interval_1 : decode cX0_interval 1 = .ok (.iload_n 1, 1) := by decide +kernel
theorem dX0_interval_2 : decode cX0_interval 2 = .ok (.if_icmp .le 7, 3) := by decide +kernel
theorem dX0_interval_5 : decode cX0_interval 5 = .ok (.iconst 0, 1) := by decide +kernel
theorem dX0_interval_6 : decode cX0_interval 6 = .ok (.goto 12, 3) := by decide +kernel
theorem dX0_interval_9 : decode cX0_interval 9 = .ok (.iconst 1, 1) := by decide +kernel
theorem dX0_interval_10 : decode cX0_interval 10 = .ok (.iload_n 1, 1) := by decide +kernel
theorem dX0_interval_11 : decode cX0_interval 11 = .ok (.iconst 1, 1) := by decide +kernel
theorem dX0_interval_12 : decode cX0_interval 12 = .ok (.iadd, 1) := by decide +kernel
theorem dX0_interval_13 : decode cX0_interval 13 = .ok (.ishl, 1) := by decide +kernel
theorem dX0_interval_14 : decode cX0_interval 14 = .ok (.iconst 1, 1) := by decide +kernel
theorem dX0_interval_15 : decode cX0_interval 15 = .ok (.iload_n 0, 1) := by decide +kernel
theorem dX0_interval_16 : decode cX0_interval 16 = .ok (.ishl, 1) := by decide +kernel
theorem dX0_interval_17 : decode cX0_interval 17 = .ok (.isub, 1) := by decide +kernel
theorem dX0_interval_18 : decode cX0_interval 18 = .ok (.ireturn, 1) := by decide +kernel
abbrev cX0_tested : ByteArray := prog_1_method_34_code
def yX0_tested : MethodName := ⟨RX0, "tested", "(IIIZ)I"⟩
theorem dX0_tested_0 : decode cX0_tested 0 = .ok (.aload_n 0, 1) := by decide +kernel
theorem dX0_tested_1 : decode cX0_tested 1 = .ok (.getfield 60, 3) := by decide +kernel
theorem dX0_tested_4 : decode cX0_tested 4 = .ok (.iload_n 1, 1) := by decide +kernel
theorem dX0_tested_5 : decode cX0_tested 5 = .ok (.iload_n 2, 1) := by decide +kernel
theorem dX0_tested_6 : decode cX0_tested 6 = .ok (.iadd, 1) := by decide +kernel
theorem dX0_tested_7 : decode cX0_tested 7 = .ok (.baload, 1) := by decide +kernel
theorem dX0_tested_8 : decode cX0_tested 8 = .ok (.iconst 1, 1) := by decide +kernel
theorem dX0_tested_9 : decode cX0_tested 9 = .ok (.if_icmp .ne 7, 3) := by decide +kernel
theorem dX0_tested_12 : decode cX0_tested 12 = .ok (.iconst 1, 1) := by decide +kernel
theorem dX0_tested_13 : decode cX0_tested 13 = .ok (.goto 4, 3) := by decide +kernel
theorem dX0_tested_16 : decode cX0_tested 16 = .ok (.iconst 0, 1) := by decide +kernel
theorem dX0_tested_17 : decode cX0_tested 17 = .ok (.istore 5, 2) := by decide +kernel
theorem dX0_tested_19 : decode cX0_tested 19 = .ok (.iconst 0, 1) := by decide +kernel
theorem dX0_tested_20 : decode cX0_tested 20 = .ok (.istore 6, 2) := by decide +kernel
theorem dX0_tested_22 : decode cX0_tested 22 = .ok (.iload_n 3, 1) := by decide +kernel
theorem dX0_tested_23 : decode cX0_tested 23 = .ok (.invokestatic 188, 3) := by decide +kernel
theorem dX0_tested_26 : decode cX0_tested 26 = .ok (.istore 7, 2) := by decide +kernel
theorem dX0_tested_28 : decode cX0_tested 28 = .ok (.iconst 0, 1) := by decide +kernel
theorem dX0_tested_29 : decode cX0_tested 29 = .ok (.istore 8, 2) := by decide +kernel
theorem dX0_tested_31 : decode cX0_tested 31 = .ok (.iload_n 3, 1) := by decide +kernel
theorem dX0_tested_32 : decode cX0_tested 32 = .ok (.istore 9, 2) := by decide +kernel
theorem dX0_tested_34 : decode cX0_tested 34 = .ok (.iload 9, 2) := by decide +kernel
theorem dX0_tested_36 : decode cX0_tested 36 = .ok (.ifCond .eq 109, 3) := by decide +kernel
theorem dX0_tested_39 : decode cX0_tested 39 = .ok (.iload 4, 2) := by decide +kernel
theorem dX0_tested_41 : decode cX0_tested 41 = .ok (.ifCond .eq 11, 3) := by decide +kernel
theorem dX0_tested_44 : decode cX0_tested 44 = .ok (.iload 9, 2) := by decide +kernel
theorem dX0_tested_46 : decode cX0_tested 46 = .ok (.invokestatic 215, 3) := by decide +kernel
theorem dX0_tested_49 : decode cX0_tested 49 = .ok (.goto 8, 3) := by decide +kernel
theorem dX0_tested_52 : decode cX0_tested 52 = .ok (.iload 9, 2) := by decide +kernel
theorem dX0_tested_54 : decode cX0_tested 54 = .ok (.invokestatic 197, 3) := by decide +kernel
theorem dX0_tested_57 : decode cX0_tested 57 = .ok (.istore 10, 2) := by decide +kernel
theorem dX0_tested_59 : decode cX0_tested 59 = .ok (.iload 9, 2) := by decide +kernel
theorem dX0_tested_61 : decode cX0_tested 61 = .ok (.iconst 1, 1) := by decide +kernel
theorem dX0_tested_62 : decode cX0_tested 62 = .ok (.iload 10, 2) := by decide +kernel
theorem dX0_tested_64 : decode cX0_tested 64 = .ok (.ishl, 1) := by decide +kernel
theorem dX0_tested_65 : decode cX0_tested 65 = .ok (.iconst (-1), 1) := by decide +kernel
theorem dX0_tested_66 : decode cX0_tested 66 = .ok (.ixor, 1) := by decide +kernel
theorem dX0_tested_67 : decode cX0_tested 67 = .ok (.iand, 1) := by decide +kernel
theorem dX0_tested_68 : decode cX0_tested 68 = .ok (.istore 9, 2) := by decide +kernel
theorem dX0_tested_70 : decode cX0_tested 70 = .ok (.iinc 8 1, 3) := by decide +kernel
theorem dX0_tested_73 : decode cX0_tested 73 = .ok (.aload_n 0, 1) := by decide +kernel
theorem dX0_tested_74 : decode cX0_tested 74 = .ok (.getfield 66, 3) := by decide +kernel
theorem dX0_tested_77 : decode cX0_tested 77 = .ok (.iload_n 1, 1) := by decide +kernel
theorem dX0_tested_78 : decode cX0_tested 78 = .ok (.iload_n 2, 1) := by decide +kernel
theorem dX0_tested_79 : decode cX0_tested 79 = .ok (.iadd, 1) := by decide +kernel
theorem dX0_tested_80 : decode cX0_tested 80 = .ok (.baload, 1) := by decide +kernel
theorem dX0_tested_81 : decode cX0_tested 81 = .ok (.ifCond .eq 18, 3) := by decide +kernel
theorem dX0_tested_84 : decode cX0_tested 84 = .ok (.aload_n 0, 1) := by decide +kernel
theorem dX0_tested_85 : decode cX0_tested 85 = .ok (.iload_n 1, 1) := by decide +kernel
theorem dX0_tested_86 : decode cX0_tested 86 = .ok (.iload_n 2, 1) := by decide +kernel
theorem dX0_tested_87 : decode cX0_tested 87 = .ok (.iload 10, 2) := by decide +kernel
theorem dX0_tested_89 : decode cX0_tested 89 = .ok (.iload 8, 2) := by decide +kernel
theorem dX0_tested_91 : decode cX0_tested 91 = .ok (.iload 7, 2) := by decide +kernel
theorem dX0_tested_93 : decode cX0_tested 93 = .ok (.invokevirtual 178, 3) := by decide +kernel
theorem dX0_tested_96 : decode cX0_tested 96 = .ok (.goto 15, 3) := by decide +kernel
theorem dX0_tested_99 : decode cX0_tested 99 = .ok (.aload_n 0, 1) := by decide +kernel
theorem dX0_tested_100 : decode cX0_tested 100 = .ok (.getfield 76, 3) := by decide +kernel
theorem dX0_tested_103 : decode cX0_tested 103 = .ok (.bipush 24, 2) := by decide +kernel
theorem dX0_tested_105 : decode cX0_tested 105 = .ok (.iload_n 2, 1) := by decide +kernel
theorem dX0_tested_106 : decode cX0_tested 106 = .ok (.imul, 1) := by decide +kernel
theorem dX0_tested_107 : decode cX0_tested 107 = .ok (.iload 10, 2) := by decide +kernel
theorem dX0_tested_109 : decode cX0_tested 109 = .ok (.iadd, 1) := by decide +kernel
theorem dX0_tested_110 : decode cX0_tested 110 = .ok (.iaload, 1) := by decide +kernel
theorem dX0_tested_111 : decode cX0_tested 111 = .ok (.istore 11, 2) := by decide +kernel
theorem dX0_tested_113 : decode cX0_tested 113 = .ok (.iload 5, 2) := by decide +kernel
theorem dX0_tested_115 : decode cX0_tested 115 = .ok (.ifCond .eq 13, 3) := by decide +kernel
theorem dX0_tested_118 : decode cX0_tested 118 = .ok (.iload 11, 2) := by decide +kernel
theorem dX0_tested_120 : decode cX0_tested 120 = .ok (.iload 8, 2) := by decide +kernel
theorem dX0_tested_122 : decode cX0_tested 122 = .ok (.if_icmp .ne 20, 3) := by decide +kernel
theorem dX0_tested_125 : decode cX0_tested 125 = .ok (.goto 8, 3) := by decide +kernel
theorem dX0_tested_128 : decode cX0_tested 128 = .ok (.iload 11, 2) := by decide +kernel
theorem dX0_tested_130 : decode cX0_tested 130 = .ok (.ifCond .eq 12, 3) := by decide +kernel
theorem dX0_tested_133 : decode cX0_tested 133 = .ok (.iload 6, 2) := by decide +kernel
theorem dX0_tested_135 : decode cX0_tested 135 = .ok (.iconst 1, 1) := by decide +kernel
theorem dX0_tested_136 : decode cX0_tested 136 = .ok (.iload 10, 2) := by decide +kernel
theorem dX0_tested_138 : decode cX0_tested 138 = .ok (.ishl, 1) := by decide +kernel
theorem dX0_tested_139 : decode cX0_tested 139 = .ok (.ior, 1) := by decide +kernel
theorem dX0_tested_140 : decode cX0_tested 140 = .ok (.istore 6, 2) := by decide +kernel
theorem dX0_tested_142 : decode cX0_tested 142 = .ok (.goto (-108), 3) := by decide +kernel
theorem dX0_tested_145 : decode cX0_tested 145 = .ok (.iload 6, 2) := by decide +kernel
theorem dX0_tested_147 : decode cX0_tested 147 = .ok (.ireturn, 1) := by decide +kernel
abbrev cX0_bits : ByteArray := prog_1_method_24_code
def yX0_bits : MethodName := ⟨RX0, "bits", "(I)I"⟩
theorem dX0_bits_0 : decode cX0_bits 0 = .ok (.iconst 0, 1) := by decide +kernel
theorem dX0_bits_1 : decode cX0_bits 1 = .ok (.istore_n 1, 1) := by decide +kernel
theorem dX0_bits_2 : decode cX0_bits 2 = .ok (.iload_n 0, 1) := by decide +kernel
theorem dX0_bits_3 : decode cX0_bits 3 = .ok (.istore_n 2, 1) := by decide +kernel
