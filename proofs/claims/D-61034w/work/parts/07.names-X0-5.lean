set_option maxRecDepth 100000
theorem dX0_at_3 : decode cX0_at 3 = .ok (.invokevirtual 221, 3) := by decide +kernel
theorem dX0_at_6 : decode cX0_at 6 = .ok (.ifCond .eq 19, 3) := by decide +kernel
theorem dX0_at_9 : decode cX0_at 9 = .ok (.aload_n 0, 1) := by decide +kernel
theorem dX0_at_10 : decode cX0_at 10 = .ok (.getfield 60, 3) := by decide +kernel
theorem dX0_at_13 : decode cX0_at 13 = .ok (.bipush 40, 2) := by decide +kernel
theorem dX0_at_15 : decode cX0_at 15 = .ok (.iload_n 1, 1) := by decide +kernel
theorem dX0_at_16 : decode cX0_at 16 = .ok (.imul, 1) := by decide +kernel
theorem dX0_at_17 : decode cX0_at 17 = .ok (.baload, 1) := by decide +kernel
theorem dX0_at_18 : decode cX0_at 18 = .ok (.ifCond .ne 7, 3) := by decide +kernel
theorem dX0_at_21 : decode cX0_at 21 = .ok (.iload_n 3, 1) := by decide +kernel
theorem dX0_at_22 : decode cX0_at 22 = .ok (.ifCond .ge 5, 3) := by decide +kernel
theorem dX0_at_25 : decode cX0_at 25 = .ok (.iconst (-1), 1) := by decide +kernel
theorem dX0_at_26 : decode cX0_at 26 = .ok (.ireturn, 1) := by decide +kernel
theorem dX0_at_27 : decode cX0_at 27 = .ok (.aload_n 0, 1) := by decide +kernel
theorem dX0_at_28 : decode cX0_at 28 = .ok (.iload_n 1, 1) := by decide +kernel
theorem dX0_at_29 : decode cX0_at 29 = .ok (.iload_n 2, 1) := by decide +kernel
theorem dX0_at_30 : decode cX0_at 30 = .ok (.invokevirtual 224, 3) := by decide +kernel
theorem dX0_at_33 : decode cX0_at 33 = .ok (.istore 4, 2) := by decide +kernel
theorem dX0_at_35 : decode cX0_at 35 = .ok (.iconst 0, 1) := by decide +kernel
theorem dX0_at_36 : decode cX0_at 36 = .ok (.istore 5, 2) := by decide +kernel
theorem dX0_at_38 : decode cX0_at 38 = .ok (.iload 5, 2) := by decide +kernel
theorem dX0_at_40 : decode cX0_at 40 = .ok (.iload_n 3, 1) := by decide +kernel
theorem dX0_at_41 : decode cX0_at 41 = .ok (.if_icmp .ge 23, 3) := by decide +kernel
theorem dX0_at_44 : decode cX0_at 44 = .ok (.iload 4, 2) := by decide +kernel
theorem dX0_at_46 : decode cX0_at 46 = .ok (.ifCond .eq 18, 3) := by decide +kernel
theorem dX0_at_49 : decode cX0_at 49 = .ok (.iload 4, 2) := by decide +kernel
theorem dX0_at_51 : decode cX0_at 51 = .ok (.iload 4, 2) := by decide +kernel
theorem dX0_at_53 : decode cX0_at 53 = .ok (.iconst 1, 1) := by decide +kernel
theorem dX0_at_54 : decode cX0_at 54 = .ok (.isub, 1) := by decide +kernel
theorem dX0_at_55 : decode cX0_at 55 = .ok (.iand, 1) := by decide +kernel
theorem dX0_at_56 : decode cX0_at 56 = .ok (.istore 4, 2) := by decide +kernel
theorem dX0_at_58 : decode cX0_at 58 = .ok (.iinc 5 1, 3) := by decide +kernel
theorem dX0_at_61 : decode cX0_at 61 = .ok (.goto (-23), 3) := by decide +kernel
theorem dX0_at_64 : decode cX0_at 64 = .ok (.iload 4, 2) := by decide +kernel
theorem dX0_at_66 : decode cX0_at 66 = .ok (.ifCond .ne 7, 3) := by decide +kernel
theorem dX0_at_69 : decode cX0_at 69 = .ok (.iconst (-1), 1) := by decide +kernel
theorem dX0_at_70 : decode cX0_at 70 = .ok (.goto 13, 3) := by decide +kernel
theorem dX0_at_73 : decode cX0_at 73 = .ok (.aload_n 0, 1) := by decide +kernel
theorem dX0_at_74 : decode cX0_at 74 = .ok (.getfield 33, 3) := by decide +kernel
theorem dX0_at_77 : decode cX0_at 77 = .ok (.iload 4, 2) := by decide +kernel
theorem dX0_at_79 : decode cX0_at 79 = .ok (.invokestatic 197, 3) := by decide +kernel
theorem dX0_at_82 : decode cX0_at 82 = .ok (.baload, 1) := by decide +kernel
theorem dX0_at_83 : decode cX0_at 83 = .ok (.ireturn, 1) := by decide +kernel
abbrev cX0_number : ByteArray := prog_1_method_40_code
def yX0_number : MethodName := ⟨RX0, "number", "(II)I"⟩
theorem dX0_number_0 : decode cX0_number 0 = .ok (.aload_n 0, 1) := by decide +kernel
theorem dX0_number_1 : decode cX0_number 1 = .ok (.iload_n 1, 1) := by decide +kernel
theorem dX0_number_2 : decode cX0_number 2 = .ok (.iload_n 2, 1) := by decide +kernel
theorem dX0_number_3 : decode cX0_number 3 = .ok (.invokevirtual 221, 3) := by decide +kernel
theorem dX0_number_6 : decode cX0_number 6 = .ok (.ifCond .ne 5, 3) := by decide +kernel
theorem dX0_number_9 : decode cX0_number 9 = .ok (.iconst 0, 1) := by decide +kernel
theorem dX0_number_10 : decode cX0_number 10 = .ok (.ireturn, 1) := by decide +kernel
theorem dX0_number_11 : decode cX0_number 11 = .ok (.aload_n 0, 1) := by decide +kernel
theorem dX0_number_12 : decode cX0_number 12 = .ok (.iload_n 1, 1) := by decide +kernel
theorem dX0_number_13 : decode cX0_number 13 = .ok (.iload_n 2, 1) := by decide +kernel
theorem dX0_number_14 : decode cX0_number 14 = .ok (.invokevirtual 224, 3) := by decide +kernel
theorem dX0_number_17 : decode cX0_number 17 = .ok (.istore_n 3, 1) := by decide +kernel
theorem dX0_number_18 : decode cX0_number 18 = .ok (.aload_n 0, 1) := by decide +kernel
theorem dX0_number_19 : decode cX0_number 19 = .ok (.getfield 60, 3) := by decide +kernel
theorem dX0_number_22 : decode cX0_number 22 = .ok (.bipush 40, 2) := by decide +kernel
theorem dX0_number_24 : decode cX0_number 24 = .ok (.iload_n 1, 1) := by decide +kernel
theorem dX0_number_25 : decode cX0_number 25 = .ok (.imul, 1) := by decide +kernel
theorem dX0_number_26 : decode cX0_number 26 = .ok (.baload, 1) := by decide +kernel
theorem dX0_number_27 : decode cX0_number 27 = .ok (.ifCond .ne 11, 3) := by decide +kernel
theorem dX0_number_30 : decode cX0_number 30 = .ok (.aload_n 0, 1) := by decide +kernel
theorem dX0_number_31 : decode cX0_number 31 = .ok (.iload_n 3, 1) := by decide +kernel
theorem dX0_number_32 : decode cX0_number 32 = .ok (.invokevirtual 185, 3) := by decide +kernel
theorem dX0_number_35 : decode cX0_number 35 = .ok (.goto 4, 3) := by decide +kernel
theorem dX0_number_38 : decode cX0_number 38 = .ok (.iload_n 3, 1) := by decide +kernel
theorem dX0_number_39 : decode cX0_number 39 = .ok (.ireturn, 1) := by decide +kernel
abbrev cX0_holds : ByteArray := prog_1_method_41_code
def yX0_holds : MethodName := ⟨RX0, "holds", "(II)Z"⟩
theorem dX0_holds_0 : decode cX0_holds 0 = .ok (.aload_n 0, 1) := by decide +kernel
theorem dX0_holds_1 : decode cX0_holds 1 = .ok (.iload_n 1, 1) := by decide +kernel
theorem dX0_holds_2 : decode cX0_holds 2 = .ok (.iload_n 2, 1) := by decide +kernel
theorem dX0_holds_3 : decode cX0_holds 3 = .ok (.invokevirtual 221, 3) := by decide +kernel
theorem dX0_holds_6 : decode cX0_holds 6 = .ok (.ifCond .eq 16, 3) := by decide +kernel
theorem dX0_holds_9 : decode cX0_holds 9 = .ok (.aload_n 0, 1) := by decide +kernel
theorem dX0_holds_10 : decode cX0_holds 10 = .ok (.iload_n 1, 1) := by decide +kernel
theorem dX0_holds_11 : decode cX0_holds 11 = .ok (.iload_n 2, 1) := by decide +kernel
theorem dX0_holds_12 : decode cX0_holds 12 = .ok (.invokevirtual 224, 3) := by decide +kernel
theorem dX0_holds_15 : decode cX0_holds 15 = .ok (.ifCond .eq 7, 3) := by decide +kernel
theorem dX0_holds_18 : decode cX0_holds 18 = .ok (.iconst 1, 1) := by decide +kernel
theorem dX0_holds_19 : decode cX0_holds 19 = .ok (.goto 4, 3) := by decide +kernel
theorem dX0_holds_22 : decode cX0_holds 22 = .ok (.iconst 0, 1) := by decide +kernel
theorem dX0_holds_23 : decode cX0_holds 23 = .ok (.ireturn, 1) := by decide +kernel
abbrev cX0_template : ByteArray := prog_1_method_42_code
def yX0_template : MethodName := ⟨RX0, "template", "(IIIII)Z"⟩
theorem dX0_template_0 : decode cX0_template 0 = .ok (.iload_n 1, 1) := by decide +kernel
theorem dX0_template_1 : decode cX0_template 1 = .ok (.ifCond .lt 56, 3) := by decide +kernel
theorem dX0_template_4 : decode cX0_template 4 = .ok (.iload_n 1, 1) := by decide +kernel
theorem dX0_template_5 : decode cX0_template 5 = .ok (.iconst 5, 1) := by decide +kernel
theorem dX0_template_6 : decode cX0_template 6 = .ok (.if_icmp .gt 51, 3) := by decide +kernel
theorem dX0_template_9 : decode cX0_template 9 = .ok (.iload_n 2, 1) := by decide +kernel
theorem dX0_template_10 : decode cX0_template 10 = .ok (.ifCond .lt 47, 3) := by decide +kernel
theorem dX0_template_13 : decode cX0_template 13 = .ok (.iload_n 2, 1) := by decide +kernel
theorem dX0_template_14 : decode cX0_template 14 = .ok (.bipush 7, 2) := by decide +kernel
theorem dX0_template_16 : decode cX0_template 16 = .ok (.if_icmp .gt 41, 3) := by decide +kernel
theorem dX0_template_19 : decode cX0_template 19 = .ok (.iload_n 3, 1) := by decide +kernel
theorem dX0_template_20 : decode cX0_template 20 = .ok (.bipush (-9), 2) := by decide +kernel
theorem dX0_template_22 : decode cX0_template 22 = .ok (.if_icmp .lt 35, 3) := by decide +kernel
theorem dX0_template_25 : decode cX0_template 25 = .ok (.iload_n 3, 1) := by decide +kernel
theorem dX0_template_26 : decode cX0_template 26 = .ok (.bipush 9, 2) := by decide +kernel
theorem dX0_template_28 : decode cX0_template 28 = .ok (.if_icmp .gt 29, 3) := by decide +kernel
theorem dX0_template_31 : decode cX0_template 31 = .ok (.iload 4, 2) := by decide +kernel
theorem dX0_template_33 : decode cX0_template 33 = .ok (.iconst (-1), 1) := by decide +kernel
theorem dX0_template_34 : decode cX0_template 34 = .ok (.if_icmp .lt 23, 3) := by decide +kernel
theorem dX0_template_37 : decode cX0_template 37 = .ok (.iload 4, 2) := by decide +kernel
theorem dX0_template_39 : decode cX0_template 39 = .ok (.bipush 7, 2) := by decide +kernel
theorem dX0_template_41 : decode cX0_template 41 = .ok (.if_icmp .gt 16, 3) := by decide +kernel
theorem dX0_template_44 : decode cX0_template 44 = .ok (.iload 5, 2) := by decide +kernel
theorem dX0_template_46 : decode cX0_template 46 = .ok (.iconst (-1), 1) := by decide +kernel
theorem dX0_template_47 : decode cX0_template 47 = .ok (.if_icmp .lt 10, 3) := by decide +kernel
theorem dX0_template_50 : decode cX0_template 50 = .ok (.iload 5, 2) := by decide +kernel
theorem dX0_template_52 : decode cX0_template 52 = .ok (.bipush 7, 2) := by decide +kernel
theorem dX0_template_54 : decode cX0_template 54 = .ok (.if_icmp .le 5, 3) := by decide +kernel
theorem dX0_template_57 : decode cX0_template 57 = .ok (.iconst 0, 1) := by decide +kernel
theorem dX0_template_58 : decode cX0_template 58 = .ok (.ireturn, 1) := by decide +kernel
theorem dX0_template_59 : decode cX0_template 59 = .ok (.aload_n 0, 1) := by decide +kernel
theorem dX0_template_60 : decode cX0_template 60 = .ok (.getfield 91, 3) := by decide +kernel
theorem dX0_template_63 : decode cX0_template 63 = .ok (.iload_n 1, 1) := by decide +kernel
theorem dX0_template_64 : decode cX0_template 64 = .ok (.iload_n 2, 1) := by decide +kernel
theorem dX0_template_65 : decode cX0_template 65 = .ok (.i2b, 1) := by decide +kernel
theorem dX0_template_66 : decode cX0_template 66 = .ok (.bastore, 1) := by decide +kernel
theorem dX0_template_67 : decode cX0_template 67 = .ok (.aload_n 0, 1) := by decide +kernel
theorem dX0_template_68 : decode cX0_template 68 = .ok (.getfield 94, 3) := by decide +kernel
theorem dX0_template_71 : decode cX0_template 71 = .ok (.iload_n 1, 1) := by decide +kernel
theorem dX0_template_72 : decode cX0_template 72 = .ok (.iload_n 3, 1) := by decide +kernel
theorem dX0_template_73 : decode cX0_template 73 = .ok (.i2b, 1) := by decide +kernel
theorem dX0_template_74 : decode cX0_template 74 = .ok (.bastore, 1) := by decide +kernel
theorem dX0_template_75 : decode cX0_template 75 = .ok (.aload_n 0, 1) := by decide +kernel
theorem dX0_template_76 : decode cX0_template 76 = .ok (.getfield 97, 3) := by decide +kernel
theorem dX0_template_79 : decode cX0_template 79 = .ok (.iload_n 1, 1) := by decide +kernel
theorem dX0_template_80 : decode cX0_template 80 = .ok (.iload 4, 2) := by decide +kernel
theorem dX0_template_82 : decode cX0_template 82 = .ok (.i2b, 1) := by decide +kernel
theorem dX0_template_83 : decode cX0_template 83 = .ok (.bastore, 1) := by decide +kernel
theorem dX0_template_84 : decode cX0_template 84 = .ok (.aload_n 0, 1) := by decide +kernel
theorem dX0_template_85 : decode cX0_template 85 = .ok (.getfield 100, 3) := by decide +kernel
theorem dX0_template_88 : decode cX0_template 88 = .ok (.iload_n 1, 1) := by decide +kernel
theorem dX0_template_89 : decode cX0_template 89 = .ok (.iload 5, 2) := by decide +kernel
theorem dX0_template_91 : decode cX0_template 91 = .ok (.i2b, 1) := by decide +kernel
theorem dX0_template_92 : decode cX0_template 92 = .ok (.bastore, 1) := by decide +kernel
theorem dX0_template_93 : decode cX0_template 93 = .ok (.aload_n 0, 1) := by decide +kernel
theorem dX0_template_94 : decode cX0_template 94 = .ok (.iconst 0, 1) := by decide +kernel
theorem dX0_template_95 : decode cX0_template 95 = .ok (.putfield 122, 3) := by decide +kernel
theorem dX0_template_98 : decode cX0_template 98 = .ok (.iconst 1, 1) := by decide +kernel
theorem dX0_template_99 : decode cX0_template 99 = .ok (.ireturn, 1) := by decide +kernel
abbrev cX0_drop : ByteArray := prog_1_method_43_code
def yX0_drop : MethodName := ⟨RX0, "drop", "(I)Z"⟩
theorem dX0_drop_0 : decode cX0_drop 0 = .ok (.iload_n 1, 1) := by decide +kernel
theorem dX0_drop_1 : decode cX0_drop 1 = .ok (.ifCond .lt 17, 3) := by decide +kernel
theorem dX0_drop_4 : decode cX0_drop 4 = .ok (.iload_n 1, 1) := by decide +kernel
theorem dX0_drop_5 : decode cX0_drop 5 = .ok (.iconst 5, 1) := by decide +kernel
theorem dX0_drop_6 : decode cX0_drop 6 = .ok (.if_icmp .gt 12, 3) := by decide +kernel
theorem dX0_drop_9 : decode cX0_drop 9 = .ok (.aload_n 0, 1) := by decide +kernel
theorem dX0_drop_10 : decode cX0_drop 10 = .ok (.getfield 91, 3) := by decide +kernel
theorem dX0_drop_13 : decode cX0_drop 13 = .ok (.iload_n 1, 1) := by decide +kernel
theorem dX0_drop_14 : decode cX0_drop 14 = .ok (.baload, 1) := by decide +kernel
theorem dX0_drop_15 : decode cX0_drop 15 = .ok (.ifCond .ge 5, 3) := by decide +kernel
theorem dX0_drop_18 : decode cX0_drop 18 = .ok (.iconst 0, 1) := by decide +kernel
theorem dX0_drop_19 : decode cX0_drop 19 = .ok (.ireturn, 1) := by decide +kernel
theorem dX0_drop_20 : decode cX0_drop 20 = .ok (.aload_n 0, 1) := by decide +kernel
theorem dX0_drop_21 : decode cX0_drop 21 = .ok (.getfield 91, 3) := by decide +kernel
theorem dX0_drop_24 : decode cX0_drop 24 = .ok (.iload_n 1, 1) := by decide +kernel
theorem dX0_drop_25 : decode cX0_drop 25 = .ok (.iconst (-1), 1) := by decide +kernel
theorem dX0_drop_26 : decode cX0_drop 26 = .ok (.bastore, 1) := by decide +kernel
theorem dX0_drop_27 : decode cX0_drop 27 = .ok (.aload_n 0, 1) := by decide +kernel
theorem dX0_drop_28 : decode cX0_drop 28 = .ok (.iconst 0, 1) := by decide +kernel
theorem dX0_drop_29 : decode cX0_drop 29 = .ok (.putfield 122, 3) := by decide +kernel
theorem dX0_drop_32 : decode cX0_drop 32 = .ok (.iconst 1, 1) := by decide +kernel
theorem dX0_drop_33 : decode cX0_drop 33 = .ok (.ireturn, 1) := by decide +kernel
abbrev cX0_matches : ByteArray := prog_1_method_45_code
def yX0_matches : MethodName := ⟨RX0, "matches", "(II)Z"⟩
theorem dX0_matches_0 : decode cX0_matches 0 = .ok (.iload_n 1, 1) := by decide +kernel
theorem dX0_matches_1 : decode cX0_matches 1 = .ok (.ifCond .lt 25, 3) := by decide +kernel
theorem dX0_matches_4 : decode cX0_matches 4 = .ok (.iload_n 1, 1) := by decide +kernel
theorem dX0_matches_5 : decode cX0_matches 5 = .ok (.iconst 5, 1) := by decide +kernel
theorem dX0_matches_6 : decode cX0_matches 6 = .ok (.if_icmp .gt 20, 3) := by decide +kernel
theorem dX0_matches_9 : decode cX0_matches 9 = .ok (.aload_n 0, 1) := by decide +kernel
theorem dX0_matches_10 : decode cX0_matches 10 = .ok (.getfield 91, 3) := by decide +kernel
theorem dX0_matches_13 : decode cX0_matches 13 = .ok (.iload_n 1, 1) := by decide +kernel
theorem dX0_matches_14 : decode cX0_matches 14 = .ok (.baload, 1) := by decide +kernel
theorem dX0_matches_15 : decode cX0_matches 15 = .ok (.ifCond .lt 11, 3) := by decide +kernel
theorem dX0_matches_18 : decode cX0_matches 18 = .ok (.aload_n 0, 1) := by decide +kernel
theorem dX0_matches_19 : decode cX0_matches 19 = .ok (.iload_n 2, 1) := by decide +kernel
theorem dX0_matches_20 : decode cX0_matches 20 = .ok (.invokevirtual 132, 3) := by decide +kernel
theorem dX0_matches_23 : decode cX0_matches 23 = .ok (.ifCond .ne 5, 3) := by decide +kernel
theorem dX0_matches_26 : decode cX0_matches 26 = .ok (.iconst 0, 1) := by decide +kernel
theorem dX0_matches_27 : decode cX0_matches 27 = .ok (.ireturn, 1) := by decide +kernel
theorem dX0_matches_28 : decode cX0_matches 28 = .ok (.aload_n 0, 1) := by decide +kernel
theorem dX0_matches_29 : decode cX0_matches 29 = .ok (.invokevirtual 227, 3) := by decide +kernel
theorem dX0_matches_32 : decode cX0_matches 32 = .ok (.aload_n 0, 1) := by decide +kernel
theorem dX0_matches_33 : decode cX0_matches 33 = .ok (.getfield 103, 3) := by decide +kernel
theorem dX0_matches_36 : decode cX0_matches 36 = .ok (.iload_n 1, 1) := by decide +kernel
theorem dX0_matches_37 : decode cX0_matches 37 = .ok (.iaload, 1) := by decide +kernel
theorem dX0_matches_38 : decode cX0_matches 38 = .ok (.aload_n 0, 1) := by decide +kernel
theorem dX0_matches_39 : decode cX0_matches 39 = .ok (.getfield 30, 3) := by decide +kernel
theorem dX0_matches_42 : decode cX0_matches 42 = .ok (.iload_n 2, 1) := by decide +kernel
theorem dX0_matches_43 : decode cX0_matches 43 = .ok (.baload, 1) := by decide +kernel
theorem dX0_matches_44 : decode cX0_matches 44 = .ok (.ishr, 1) := by decide +kernel
theorem dX0_matches_45 : decode cX0_matches 45 = .ok (.iconst 1, 1) := by decide +kernel
theorem dX0_matches_46 : decode cX0_matches 46 = .ok (.iand, 1) := by decide +kernel
theorem dX0_matches_47 : decode cX0_matches 47 = .ok (.ifCond .eq 7, 3) := by decide +kernel
theorem dX0_matches_50 : decode cX0_matches 50 = .ok (.iconst 1, 1) := by decide +kernel
theorem dX0_matches_51 : decode cX0_matches 51 = .ok (.goto 4, 3) := by decide +kernel
theorem dX0_matches_54 : decode cX0_matches 54 = .ok (.iconst 0, 1) := by decide +kernel
theorem dX0_matches_55 : decode cX0_matches 55 = .ok (.ireturn, 1) := by decide +kernel
abbrev cX0_sort : ByteArray := prog_1_method_44_code
def yX0_sort : MethodName := ⟨RX0, "sort", "()V"⟩
theorem dX0_sort_0 : decode cX0_sort 0 = .ok (.aload_n 0, 1) := by decide +kernel
theorem dX0_sort_1 : decode cX0_sort 1 = .ok (.invokevirtual 146, 3) := by decide +kernel
theorem dX0_sort_4 : decode cX0_sort 4 = .ok (.aload_n 0, 1) := by decide +kernel
theorem dX0_sort_5 : decode cX0_sort 5 = .ok (.getfield 122, 3) := by decide +kernel
theorem dX0_sort_8 : decode cX0_sort 8 = .ok (.ifCond .eq 4, 3) := by decide +kernel
theorem dX0_sort_11 : decode cX0_sort 11 = .ok (.return_, 1) := by decide +kernel
theorem dX0_sort_12 : decode cX0_sort 12 = .ok (.aload_n 0, 1) := by decide +kernel
theorem dX0_sort_13 : decode cX0_sort 13 = .ok (.iconst 1, 1) := by decide +kernel
theorem dX0_sort_14 : decode cX0_sort 14 = .ok (.putfield 122, 3) := by decide +kernel
theorem dX0_sort_17 : decode cX0_sort 17 = .ok (.iconst 0, 1) := by decide +kernel
theorem dX0_sort_18 : decode cX0_sort 18 = .ok (.istore_n 1, 1) := by decide +kernel
theorem dX0_sort_19 : decode cX0_sort 19 = .ok (.iload_n 1, 1) := by decide +kernel
theorem dX0_sort_20 : decode cX0_sort 20 = .ok (.aload_n 0, 1) := by decide +kernel
theorem dX0_sort_21 : decode cX0_sort 21 = .ok (.getfield 129, 3) := by decide +kernel
theorem dX0_sort_24 : decode cX0_sort 24 = .ok (.if_icmp .ge 16, 3) := by decide +kernel
theorem dX0_sort_27 : decode cX0_sort 27 = .ok (.aload_n 0, 1) := by decide +kernel
theorem dX0_sort_28 : decode cX0_sort 28 = .ok (.getfield 106, 3) := by decide +kernel
theorem dX0_sort_31 : decode cX0_sort 31 = .ok (.iload_n 1, 1) := by decide +kernel
theorem dX0_sort_32 : decode cX0_sort 32 = .ok (.iconst (-1), 1) := by decide +kernel
theorem dX0_sort_33 : decode cX0_sort 33 = .ok (.bastore, 1) := by decide +kernel
theorem dX0_sort_34 : decode cX0_sort 34 = .ok (.iinc 1 1, 3) := by decide +kernel
theorem dX0_sort_37 : decode cX0_sort 37 = .ok (.goto (-18), 3) := by decide +kernel
theorem dX0_sort_40 : decode cX0_sort 40 = .ok (.iconst 0, 1) := by decide +kernel
theorem dX0_sort_41 : decode cX0_sort 41 = .ok (.istore_n 1, 1) := by decide +kernel
theorem dX0_sort_42 : decode cX0_sort 42 = .ok (.iload_n 1, 1) := by decide +kernel
theorem dX0_sort_43 : decode cX0_sort 43 = .ok (.bipush 6, 2) := by decide +kernel
theorem dX0_sort_45 : decode cX0_sort 45 = .ok (.if_icmp .ge 169, 3) := by decide +kernel
theorem dX0_sort_48 : decode cX0_sort 48 = .ok (.aload_n 0, 1) := by decide +kernel
theorem dX0_sort_49 : decode cX0_sort 49 = .ok (.getfield 103, 3) := by decide +kernel
theorem dX0_sort_52 : decode cX0_sort 52 = .ok (.iload_n 1, 1) := by decide +kernel
theorem dX0_sort_53 : decode cX0_sort 53 = .ok (.iconst 0, 1) := by decide +kernel
theorem dX0_sort_54 : decode cX0_sort 54 = .ok (.iastore, 1) := by decide +kernel
theorem dX0_sort_55 : decode cX0_sort 55 = .ok (.aload_n 0, 1) := by decide +kernel
theorem dX0_sort_56 : decode cX0_sort 56 = .ok (.getfield 91, 3) := by decide +kernel
theorem dX0_sort_59 : decode cX0_sort 59 = .ok (.iload_n 1, 1) := by decide +kernel
theorem dX0_sort_60 : decode cX0_sort 60 = .ok (.baload, 1) := by decide +kernel
theorem dX0_sort_61 : decode cX0_sort 61 = .ok (.istore_n 2, 1) := by decide +kernel
theorem dX0_sort_62 : decode cX0_sort 62 = .ok (.iload_n 2, 1) := by decide +kernel
theorem dX0_sort_63 : decode cX0_sort 63 = .ok (.ifCond .lt 145, 3) := by decide +kernel
theorem dX0_sort_66 : decode cX0_sort 66 = .ok (.aload_n 0, 1) := by decide +kernel
theorem dX0_sort_67 : decode cX0_sort 67 = .ok (.getfield 70, 3) := by decide +kernel
theorem dX0_sort_70 : decode cX0_sort 70 = .ok (.iload_n 2, 1) := by decide +kernel
theorem dX0_sort_71 : decode cX0_sort 71 = .ok (.baload, 1) := by decide +kernel
theorem dX0_sort_72 : decode cX0_sort 72 = .ok (.ifCond .eq 136, 3) := by decide +kernel
theorem dX0_sort_75 : decode cX0_sort 75 = .ok (.aload_n 0, 1) := by decide +kernel
theorem dX0_sort_76 : decode cX0_sort 76 = .ok (.getfield 60, 3) := by decide +kernel
theorem dX0_sort_79 : decode cX0_sort 79 = .ok (.bipush 40, 2) := by decide +kernel
theorem dX0_sort_81 : decode cX0_sort 81 = .ok (.iload_n 2, 1) := by decide +kernel
theorem dX0_sort_82 : decode cX0_sort 82 = .ok (.imul, 1) := by decide +kernel
theorem dX0_sort_83 : decode cX0_sort 83 = .ok (.baload, 1) := by decide +kernel
theorem dX0_sort_84 : decode cX0_sort 84 = .ok (.ifCond .eq 6, 3) := by decide +kernel
theorem dX0_sort_87 : decode cX0_sort 87 = .ok (.goto 121, 3) := by decide +kernel
theorem dX0_sort_90 : decode cX0_sort 90 = .ok (.aload_n 0, 1) := by decide +kernel
theorem dX0_sort_91 : decode cX0_sort 91 = .ok (.iload_n 2, 1) := by decide +kernel
theorem dX0_sort_92 : decode cX0_sort 92 = .ok (.invokevirtual 218, 3) := by decide +kernel
theorem dX0_sort_95 : decode cX0_sort 95 = .ok (.iconst 0, 1) := by decide +kernel
theorem dX0_sort_96 : decode cX0_sort 96 = .ok (.istore_n 3, 1) := by decide +kernel
theorem dX0_sort_97 : decode cX0_sort 97 = .ok (.iload_n 3, 1) := by decide +kernel
theorem dX0_sort_98 : decode cX0_sort 98 = .ok (.aload_n 0, 1) := by decide +kernel
theorem dX0_sort_99 : decode cX0_sort 99 = .ok (.getfield 129, 3) := by decide +kernel
theorem dX0_sort_102 : decode cX0_sort 102 = .ok (.if_icmp .ge 40, 3) := by decide +kernel
theorem dX0_sort_105 : decode cX0_sort 105 = .ok (.aload_n 0, 1) := by decide +kernel
theorem dX0_sort_106 : decode cX0_sort 106 = .ok (.getfield 103, 3) := by decide +kernel
theorem dX0_sort_109 : decode cX0_sort 109 = .ok (.iload_n 1, 1) := by decide +kernel
theorem dX0_sort_110 : decode cX0_sort 110 = .ok (.dup2, 1) := by decide +kernel
theorem dX0_sort_111 : decode cX0_sort 111 = .ok (.iaload, 1) := by decide +kernel
theorem dX0_sort_112 : decode cX0_sort 112 = .ok (.aload_n 0, 1) := by decide +kernel
theorem dX0_sort_113 : decode cX0_sort 113 = .ok (.getfield 79, 3) := by decide +kernel
theorem dX0_sort_116 : decode cX0_sort 116 = .ok (.bipush 24, 2) := by decide +kernel
theorem dX0_sort_118 : decode cX0_sort 118 = .ok (.iload_n 2, 1) := by decide +kernel
theorem dX0_sort_119 : decode cX0_sort 119 = .ok (.imul, 1) := by decide +kernel
theorem dX0_sort_120 : decode cX0_sort 120 = .ok (.iload_n 3, 1) := by decide +kernel
theorem dX0_sort_121 : decode cX0_sort 121 = .ok (.iadd, 1) := by decide +kernel
theorem dX0_sort_122 : decode cX0_sort 122 = .ok (.iaload, 1) := by decide +kernel
theorem dX0_sort_123 : decode cX0_sort 123 = .ok (.iload_n 3, 1) := by decide +kernel
theorem dX0_sort_124 : decode cX0_sort 124 = .ok (.aload_n 0, 1) := by decide +kernel
theorem dX0_sort_125 : decode cX0_sort 125 = .ok (.getfield 36, 3) := by decide +kernel
theorem dX0_sort_128 : decode cX0_sort 128 = .ok (.iload_n 3, 1) := by decide +kernel
theorem dX0_sort_129 : decode cX0_sort 129 = .ok (.baload, 1) := by decide +kernel
theorem dX0_sort_130 : decode cX0_sort 130 = .ok (.invokestatic 168, 3) := by decide +kernel
theorem dX0_sort_133 : decode cX0_sort 133 = .ok (.iand, 1) := by decide +kernel
theorem dX0_sort_134 : decode cX0_sort 134 = .ok (.ior, 1) := by decide +kernel
theorem dX0_sort_135 : decode cX0_sort 135 = .ok (.iastore, 1) := by decide +kernel
theorem dX0_sort_136 : decode cX0_sort 136 = .ok (.iinc 3 1, 3) := by decide +kernel
theorem dX0_sort_139 : decode cX0_sort 139 = .ok (.goto (-42), 3) := by decide +kernel
theorem dX0_sort_142 : decode cX0_sort 142 = .ok (.aload_n 0, 1) := by decide +kernel
theorem dX0_sort_143 : decode cX0_sort 143 = .ok (.getfield 103, 3) := by decide +kernel
theorem dX0_sort_146 : decode cX0_sort 146 = .ok (.iload_n 1, 1) := by decide +kernel
theorem dX0_sort_147 : decode cX0_sort 147 = .ok (.iaload, 1) := by decide +kernel
theorem dX0_sort_148 : decode cX0_sort 148 = .ok (.istore_n 3, 1) := by decide +kernel
theorem dX0_sort_149 : decode cX0_sort 149 = .ok (.iload_n 3, 1) := by decide +kernel
theorem dX0_sort_150 : decode cX0_sort 150 = .ok (.ifCond .eq 58, 3) := by decide +kernel
theorem dX0_sort_153 : decode cX0_sort 153 = .ok (.iload_n 3, 1) := by decide +kernel
theorem dX0_sort_154 : decode cX0_sort 154 = .ok (.invokestatic 197, 3) := by decide +kernel
theorem dX0_sort_157 : decode cX0_sort 157 = .ok (.istore 4, 2) := by decide +kernel
theorem dX0_sort_159 : decode cX0_sort 159 = .ok (.aload_n 0, 1) := by decide +kernel
theorem dX0_sort_160 : decode cX0_sort 160 = .ok (.getfield 106, 3) := by decide +kernel
theorem dX0_sort_163 : decode cX0_sort 163 = .ok (.iload 4, 2) := by decide +kernel
theorem dX0_sort_165 : decode cX0_sort 165 = .ok (.baload, 1) := by decide +kernel
theorem dX0_sort_166 : decode cX0_sort 166 = .ok (.ifCond .lt 24, 3) := by decide +kernel
theorem dX0_sort_169 : decode cX0_sort 169 = .ok (.aload_n 0, 1) := by decide +kernel
theorem dX0_sort_170 : decode cX0_sort 170 = .ok (.getfield 94, 3) := by decide +kernel
theorem dX0_sort_173 : decode cX0_sort 173 = .ok (.iload_n 1, 1) := by decide +kernel
theorem dX0_sort_174 : decode cX0_sort 174 = .ok (.baload, 1) := by decide +kernel
theorem dX0_sort_175 : decode cX0_sort 175 = .ok (.aload_n 0, 1) := by decide +kernel
theorem dX0_sort_176 : decode cX0_sort 176 = .ok (.getfield 94, 3) := by decide +kernel
theorem dX0_sort_179 : decode cX0_sort 179 = .ok (.aload_n 0, 1) := by decide +kernel
theorem dX0_sort_180 : decode cX0_sort 180 = .ok (.getfield 106, 3) := by decide +kernel
theorem dX0_sort_183 : decode cX0_sort 183 = .ok (.iload 4, 2) := by decide +kernel
theorem dX0_sort_185 : decode cX0_sort 185 = .ok (.baload, 1) := by decide +kernel
theorem dX0_sort_186 : decode cX0_sort 186 = .ok (.baload, 1) := by decide +kernel
theorem dX0_sort_187 : decode cX0_sort 187 = .ok (.if_icmp .lt 12, 3) := by decide +kernel
theorem dX0_sort_190 : decode cX0_sort 190 = .ok (.aload_n 0, 1) := by decide +kernel
theorem dX0_sort_191 : decode cX0_sort 191 = .ok (.getfield 106, 3) := by decide +kernel
theorem dX0_sort_194 : decode cX0_sort 194 = .ok (.iload 4, 2) := by decide +kernel
theorem dX0_sort_196 : decode cX0_sort 196 = .ok (.iload_n 1, 1) := by decide +kernel
theorem dX0_sort_197 : decode cX0_sort 197 = .ok (.i2b, 1) := by decide +kernel
theorem dX0_sort_198 : decode cX0_sort 198 = .ok (.bastore, 1) := by decide +kernel
theorem dX0_sort_199 : decode cX0_sort 199 = .ok (.iload_n 3, 1) := by decide +kernel
theorem dX0_sort_200 : decode cX0_sort 200 = .ok (.iload_n 3, 1) := by decide +kernel
theorem dX0_sort_201 : decode cX0_sort 201 = .ok (.iconst 1, 1) := by decide +kernel
theorem dX0_sort_202 : decode cX0_sort 202 = .ok (.isub, 1) := by decide +kernel
theorem dX0_sort_203 : decode cX0_sort 203 = .ok (.iand, 1) := by decide +kernel
theorem dX0_sort_204 : decode cX0_sort 204 = .ok (.istore_n 3, 1) := by decide +kernel
theorem dX0_sort_205 : decode cX0_sort 205 = .ok (.goto (-56), 3) := by decide +kernel
theorem dX0_sort_208 : decode cX0_sort 208 = .ok (.iinc 1 1, 3) := by decide +kernel
theorem dX0_sort_211 : decode cX0_sort 211 = .ok (.goto (-169), 3) := by decide +kernel
theorem dX0_sort_214 : decode cX0_sort 214 = .ok (.return_, 1) := by decide +kernel
abbrev cX0_transform : ByteArray := prog_1_method_46_code
def yX0_transform : MethodName := ⟨RX0, "transform", "(I)I"⟩
theorem dX0_transform_0 : decode cX0_transform 0 = .ok (.aload_n 0, 1) := by decide +kernel
theorem dX0_transform_1 : decode cX0_transform 1 = .ok (.iload_n 1, 1) := by decide +kernel
theorem dX0_transform_2 : decode cX0_transform 2 = .ok (.invokevirtual 132, 3) := by decide +kernel
theorem dX0_transform_5 : decode cX0_transform 5 = .ok (.ifCond .ne 5, 3) := by decide +kernel
theorem dX0_transform_8 : decode cX0_transform 8 = .ok (.iconst (-1), 1) := by decide +kernel
theorem dX0_transform_9 : decode cX0_transform 9 = .ok (.ireturn, 1) := by decide +kernel
theorem dX0_transform_10 : decode cX0_transform 10 = .ok (.aload_n 0, 1) := by decide +kernel
theorem dX0_transform_11 : decode cX0_transform 11 = .ok (.invokevirtual 227, 3) := by decide +kernel
theorem dX0_transform_14 : decode cX0_transform 14 = .ok (.aload_n 0, 1) := by decide +kernel
theorem dX0_transform_15 : decode cX0_transform 15 = .ok (.iconst 0, 1) := by decide +kernel
theorem dX0_transform_16 : decode cX0_transform 16 = .ok (.putfield 230, 3) := by decide +kernel
theorem dX0_transform_19 : decode cX0_transform 19 = .ok (.iconst 0, 1) := by decide +kernel
theorem dX0_transform_20 : decode cX0_transform 20 = .ok (.istore_n 2, 1) := by decide +kernel
theorem dX0_transform_21 : decode cX0_transform 21 = .ok (.iconst 1, 1) := by decide +kernel
theorem dX0_transform_22 : decode cX0_transform 22 = .ok (.istore_n 3, 1) := by decide +kernel
theorem dX0_transform_23 : decode cX0_transform 23 = .ok (.aload_n 0, 1) := by decide +kernel
theorem dX0_transform_24 : decode cX0_transform 24 = .ok (.getfield 109, 3) := by decide +kernel
theorem dX0_transform_27 : decode cX0_transform 27 = .ok (.iconst 0, 1) := by decide +kernel
theorem dX0_transform_28 : decode cX0_transform 28 = .ok (.aload_n 0, 1) := by decide +kernel
theorem dX0_transform_29 : decode cX0_transform 29 = .ok (.getfield 30, 3) := by decide +kernel
theorem dX0_transform_32 : decode cX0_transform 32 = .ok (.iload_n 1, 1) := by decide +kernel
theorem dX0_transform_33 : decode cX0_transform 33 = .ok (.baload, 1) := by decide +kernel
theorem dX0_transform_34 : decode cX0_transform 34 = .ok (.bastore, 1) := by decide +kernel
theorem dX0_transform_35 : decode cX0_transform 35 = .ok (.aload_n 0, 1) := by decide +kernel
theorem dX0_transform_36 : decode cX0_transform 36 = .ok (.getfield 112, 3) := by decide +kernel
theorem dX0_transform_39 : decode cX0_transform 39 = .ok (.iconst 0, 1) := by decide +kernel
theorem dX0_transform_40 : decode cX0_transform 40 = .ok (.iconst 0, 1) := by decide +kernel
theorem dX0_transform_41 : decode cX0_transform 41 = .ok (.bastore, 1) := by decide +kernel
theorem dX0_transform_42 : decode cX0_transform 42 = .ok (.iload_n 3, 1) := by decide +kernel
theorem dX0_transform_43 : decode cX0_transform 43 = .ok (.ifCond .le 137, 3) := by decide +kernel
theorem dX0_transform_46 : decode cX0_transform 46 = .ok (.iinc 3 (-1), 3) := by decide +kernel
theorem dX0_transform_49 : decode cX0_transform 49 = .ok (.aload_n 0, 1) := by decide +kernel
theorem dX0_transform_50 : decode cX0_transform 50 = .ok (.getfield 109, 3) := by decide +kernel
theorem dX0_transform_53 : decode cX0_transform 53 = .ok (.iload_n 3, 1) := by decide +kernel
theorem dX0_transform_54 : decode cX0_transform 54 = .ok (.baload, 1) := by decide +kernel
theorem dX0_transform_55 : decode cX0_transform 55 = .ok (.istore 4, 2) := by decide +kernel
theorem dX0_transform_57 : decode cX0_transform 57 = .ok (.aload_n 0, 1) := by decide +kernel
theorem dX0_transform_58 : decode cX0_transform 58 = .ok (.getfield 112, 3) := by decide +kernel
theorem dX0_transform_61 : decode cX0_transform 61 = .ok (.iload_n 3, 1) := by decide +kernel
theorem dX0_transform_62 : decode cX0_transform 62 = .ok (.baload, 1) := by decide +kernel
theorem dX0_transform_63 : decode cX0_transform 63 = .ok (.istore 5, 2) := by decide +kernel
theorem dX0_transform_65 : decode cX0_transform 65 = .ok (.iinc 2 1, 3) := by decide +kernel
theorem dX0_transform_68 : decode cX0_transform 68 = .ok (.iload_n 2, 1) := by decide +kernel
theorem dX0_transform_69 : decode cX0_transform 69 = .ok (.bipush 100, 2) := by decide +kernel
theorem dX0_transform_71 : decode cX0_transform 71 = .ok (.if_icmp .gt 10, 3) := by decide +kernel
theorem dX0_transform_74 : decode cX0_transform 74 = .ok (.iload 5, 2) := by decide +kernel
theorem dX0_transform_76 : decode cX0_transform 76 = .ok (.bipush 11, 2) := by decide +kernel
theorem dX0_transform_78 : decode cX0_transform 78 = .ok (.if_icmp .le 11, 3) := by decide +kernel
theorem dX0_transform_81 : decode cX0_transform 81 = .ok (.aload_n 0, 1) := by decide +kernel
theorem dX0_transform_82 : decode cX0_transform 82 = .ok (.iconst 0, 1) := by decide +kernel
theorem dX0_transform_83 : decode cX0_transform 83 = .ok (.putfield 230, 3) := by decide +kernel
theorem dX0_transform_86 : decode cX0_transform 86 = .ok (.bipush (-3), 2) := by decide +kernel
theorem dX0_transform_88 : decode cX0_transform 88 = .ok (.ireturn, 1) := by decide +kernel
theorem dX0_transform_89 : decode cX0_transform 89 = .ok (.aload_n 0, 1) := by decide +kernel
theorem dX0_transform_90 : decode cX0_transform 90 = .ok (.getfield 106, 3) := by decide +kernel
theorem dX0_transform_93 : decode cX0_transform 93 = .ok (.iload 4, 2) := by decide +kernel
theorem dX0_transform_95 : decode cX0_transform 95 = .ok (.baload, 1) := by decide +kernel
theorem dX0_transform_96 : decode cX0_transform 96 = .ok (.ifCond .ge 13, 3) := by decide +kernel
theorem dX0_transform_99 : decode cX0_transform 99 = .ok (.aload_n 0, 1) := by decide +kernel
theorem dX0_transform_100 : decode cX0_transform 100 = .ok (.getfield 42, 3) := by decide +kernel
theorem dX0_transform_103 : decode cX0_transform 103 = .ok (.iload 4, 2) := by decide +kernel
theorem dX0_transform_105 : decode cX0_transform 105 = .ok (.iaload, 1) := by decide +kernel
theorem dX0_transform_106 : decode cX0_transform 106 = .ok (.goto 16, 3) := by decide +kernel
theorem dX0_transform_109 : decode cX0_transform 109 = .ok (.aload_n 0, 1) := by decide +kernel
theorem dX0_transform_110 : decode cX0_transform 110 = .ok (.aload_n 0, 1) := by decide +kernel
theorem dX0_transform_111 : decode cX0_transform 111 = .ok (.getfield 106, 3) := by decide +kernel
theorem dX0_transform_114 : decode cX0_transform 114 = .ok (.iload 4, 2) := by decide +kernel
theorem dX0_transform_116 : decode cX0_transform 116 = .ok (.baload, 1) := by decide +kernel
theorem dX0_transform_117 : decode cX0_transform 117 = .ok (.iload 4, 2) := by decide +kernel
theorem dX0_transform_119 : decode cX0_transform 119 = .ok (.invokevirtual 233, 3) := by decide +kernel
theorem dX0_transform_122 : decode cX0_transform 122 = .ok (.istore 6, 2) := by decide +kernel
theorem dX0_transform_124 : decode cX0_transform 124 = .ok (.iload 6, 2) := by decide +kernel
theorem dX0_transform_126 : decode cX0_transform 126 = .ok (.istore 7, 2) := by decide +kernel
theorem dX0_transform_128 : decode cX0_transform 128 = .ok (.iload 7, 2) := by decide +kernel
theorem dX0_transform_130 : decode cX0_transform 130 = .ok (.ifCond .eq 47, 3) := by decide +kernel
theorem dX0_transform_133 : decode cX0_transform 133 = .ok (.iload 7, 2) := by decide +kernel
theorem dX0_transform_135 : decode cX0_transform 135 = .ok (.invokestatic 215, 3) := by decide +kernel
theorem dX0_transform_138 : decode cX0_transform 138 = .ok (.istore 8, 2) := by decide +kernel
theorem dX0_transform_140 : decode cX0_transform 140 = .ok (.iload 7, 2) := by decide +kernel
theorem dX0_transform_142 : decode cX0_transform 142 = .ok (.iconst 1, 1) := by decide +kernel
theorem dX0_transform_143 : decode cX0_transform 143 = .ok (.iload 8, 2) := by decide +kernel
theorem dX0_transform_145 : decode cX0_transform 145 = .ok (.ishl, 1) := by decide +kernel
theorem dX0_transform_146 : decode cX0_transform 146 = .ok (.iconst (-1), 1) := by decide +kernel
theorem dX0_transform_147 : decode cX0_transform 147 = .ok (.ixor, 1) := by decide +kernel
theorem dX0_transform_148 : decode cX0_transform 148 = .ok (.iand, 1) := by decide +kernel
theorem dX0_transform_149 : decode cX0_transform 149 = .ok (.istore 7, 2) := by decide +kernel
theorem dX0_transform_151 : decode cX0_transform 151 = .ok (.aload_n 0, 1) := by decide +kernel
theorem dX0_transform_152 : decode cX0_transform 152 = .ok (.getfield 109, 3) := by decide +kernel
theorem dX0_transform_155 : decode cX0_transform 155 = .ok (.iload_n 3, 1) := by decide +kernel
theorem dX0_transform_156 : decode cX0_transform 156 = .ok (.iload 8, 2) := by decide +kernel
theorem dX0_transform_158 : decode cX0_transform 158 = .ok (.i2b, 1) := by decide +kernel
theorem dX0_transform_159 : decode cX0_transform 159 = .ok (.bastore, 1) := by decide +kernel
theorem dX0_transform_160 : decode cX0_transform 160 = .ok (.aload_n 0, 1) := by decide +kernel
theorem dX0_transform_161 : decode cX0_transform 161 = .ok (.getfield 112, 3) := by decide +kernel
theorem dX0_transform_164 : decode cX0_transform 164 = .ok (.iload_n 3, 1) := by decide +kernel
theorem dX0_transform_165 : decode cX0_transform 165 = .ok (.iload 5, 2) := by decide +kernel
theorem dX0_transform_167 : decode cX0_transform 167 = .ok (.iconst 1, 1) := by decide +kernel
theorem dX0_transform_168 : decode cX0_transform 168 = .ok (.iadd, 1) := by decide +kernel
theorem dX0_transform_169 : decode cX0_transform 169 = .ok (.i2b, 1) := by decide +kernel
theorem dX0_transform_170 : decode cX0_transform 170 = .ok (.bastore, 1) := by decide +kernel
theorem dX0_transform_171 : decode cX0_transform 171 = .ok (.iinc 3 1, 3) := by decide +kernel
theorem dX0_transform_174 : decode cX0_transform 174 = .ok (.goto (-46), 3) := by decide +kernel
theorem dX0_transform_177 : decode cX0_transform 177 = .ok (.goto (-135), 3) := by decide +kernel
theorem dX0_transform_180 : decode cX0_transform 180 = .ok (.aload_n 0, 1) := by decide +kernel
theorem dX0_transform_181 : decode cX0_transform 181 = .ok (.getfield 230, 3) := by decide +kernel
theorem dX0_transform_184 : decode cX0_transform 184 = .ok (.ireturn, 1) := by decide +kernel
abbrev cX0_apply : ByteArray := prog_1_method_47_code
def yX0_apply : MethodName := ⟨RX0, "apply", "(II)I"⟩
theorem dX0_apply_0 : decode cX0_apply 0 = .ok (.aload_n 0, 1) := by decide +kernel
theorem dX0_apply_1 : decode cX0_apply 1 = .ok (.getfield 97, 3) := by decide +kernel
theorem dX0_apply_4 : decode cX0_apply 4 = .ok (.iload_n 1, 1) := by decide +kernel
theorem dX0_apply_5 : decode cX0_apply 5 = .ok (.baload, 1) := by decide +kernel
theorem dX0_apply_6 : decode cX0_apply 6 = .ok (.istore_n 3, 1) := by decide +kernel
theorem dX0_apply_7 : decode cX0_apply 7 = .ok (.iload_n 3, 1) := by decide +kernel
theorem dX0_apply_8 : decode cX0_apply 8 = .ok (.ifCond .lt 69, 3) := by decide +kernel
theorem dX0_apply_11 : decode cX0_apply 11 = .ok (.aload_n 0, 1) := by decide +kernel
theorem dX0_apply_12 : decode cX0_apply 12 = .ok (.getfield 70, 3) := by decide +kernel
theorem dX0_apply_15 : decode cX0_apply 15 = .ok (.iload_n 3, 1) := by decide +kernel
theorem dX0_apply_16 : decode cX0_apply 16 = .ok (.baload, 1) := by decide +kernel
theorem dX0_apply_17 : decode cX0_apply 17 = .ok (.ifCond .le 60, 3) := by decide +kernel
theorem dX0_apply_20 : decode cX0_apply 20 = .ok (.aload_n 0, 1) := by decide +kernel
theorem dX0_apply_21 : decode cX0_apply 21 = .ok (.iload_n 3, 1) := by decide +kernel
theorem dX0_apply_22 : decode cX0_apply 22 = .ok (.invokevirtual 218, 3) := by decide +kernel
theorem dX0_apply_25 : decode cX0_apply 25 = .ok (.aload_n 0, 1) := by decide +kernel
theorem dX0_apply_26 : decode cX0_apply 26 = .ok (.getfield 79, 3) := by decide +kernel
theorem dX0_apply_29 : decode cX0_apply 29 = .ok (.bipush 24, 2) := by decide +kernel
theorem dX0_apply_31 : decode cX0_apply 31 = .ok (.iload_n 3, 1) := by decide +kernel
theorem dX0_apply_32 : decode cX0_apply 32 = .ok (.imul, 1) := by decide +kernel
theorem dX0_apply_33 : decode cX0_apply 33 = .ok (.iload_n 2, 1) := by decide +kernel
theorem dX0_apply_34 : decode cX0_apply 34 = .ok (.iadd, 1) := by decide +kernel
theorem dX0_apply_35 : decode cX0_apply 35 = .ok (.iaload, 1) := by decide +kernel
theorem dX0_apply_36 : decode cX0_apply 36 = .ok (.istore 4, 2) := by decide +kernel
theorem dX0_apply_38 : decode cX0_apply 38 = .ok (.aload_n 0, 1) := by decide +kernel
theorem dX0_apply_39 : decode cX0_apply 39 = .ok (.getfield 115, 3) := by decide +kernel
theorem dX0_apply_42 : decode cX0_apply 42 = .ok (.aload_n 0, 1) := by decide +kernel
theorem dX0_apply_43 : decode cX0_apply 43 = .ok (.dup, 1) := by decide +kernel
theorem dX0_apply_44 : decode cX0_apply 44 = .ok (.getfield 230, 3) := by decide +kernel
theorem dX0_apply_47 : decode cX0_apply 47 = .ok (.dup_x1, 1) := by decide +kernel
theorem dX0_apply_48 : decode cX0_apply 48 = .ok (.iconst 1, 1) := by decide +kernel
theorem dX0_apply_49 : decode cX0_apply 49 = .ok (.iadd, 1) := by decide +kernel
theorem dX0_apply_50 : decode cX0_apply 50 = .ok (.putfield 230, 3) := by decide +kernel
theorem dX0_apply_53 : decode cX0_apply 53 = .ok (.aload_n 0, 1) := by decide +kernel
theorem dX0_apply_54 : decode cX0_apply 54 = .ok (.getfield 60, 3) := by decide +kernel
theorem dX0_apply_57 : decode cX0_apply 57 = .ok (.bipush 40, 2) := by decide +kernel
theorem dX0_apply_59 : decode cX0_apply 59 = .ok (.iload_n 3, 1) := by decide +kernel
theorem dX0_apply_60 : decode cX0_apply 60 = .ok (.imul, 1) := by decide +kernel
theorem dX0_apply_61 : decode cX0_apply 61 = .ok (.baload, 1) := by decide +kernel
theorem dX0_apply_62 : decode cX0_apply 62 = .ok (.ifCond .ne 12, 3) := by decide +kernel
theorem dX0_apply_65 : decode cX0_apply 65 = .ok (.aload_n 0, 1) := by decide +kernel
theorem dX0_apply_66 : decode cX0_apply 66 = .ok (.iload 4, 2) := by decide +kernel
theorem dX0_apply_68 : decode cX0_apply 68 = .ok (.invokevirtual 185, 3) := by decide +kernel
theorem dX0_apply_71 : decode cX0_apply 71 = .ok (.goto 5, 3) := by decide +kernel
theorem dX0_apply_74 : decode cX0_apply 74 = .ok (.iload 4, 2) := by decide +kernel
theorem dX0_apply_76 : decode cX0_apply 76 = .ok (.iastore, 1) := by decide +kernel
theorem dX0_apply_77 : decode cX0_apply 77 = .ok (.aload_n 0, 1) := by decide +kernel
theorem dX0_apply_78 : decode cX0_apply 78 = .ok (.getfield 100, 3) := by decide +kernel
theorem dX0_apply_81 : decode cX0_apply 81 = .ok (.iload_n 1, 1) := by decide +kernel
theorem dX0_apply_82 : decode cX0_apply 82 = .ok (.baload, 1) := by decide +kernel
theorem dX0_apply_83 : decode cX0_apply 83 = .ok (.istore 4, 2) := by decide +kernel
theorem dX0_apply_85 : decode cX0_apply 85 = .ok (.iload 4, 2) := by decide +kernel
theorem dX0_apply_87 : decode cX0_apply 87 = .ok (.ifCond .lt 26, 3) := by decide +kernel
theorem dX0_apply_90 : decode cX0_apply 90 = .ok (.aload_n 0, 1) := by decide +kernel
theorem dX0_apply_91 : decode cX0_apply 91 = .ok (.getfield 70, 3) := by decide +kernel
theorem dX0_apply_94 : decode cX0_apply 94 = .ok (.iload 4, 2) := by decide +kernel
theorem dX0_apply_96 : decode cX0_apply 96 = .ok (.baload, 1) := by decide +kernel
theorem dX0_apply_97 : decode cX0_apply 97 = .ok (.ifCond .eq 16, 3) := by decide +kernel
theorem dX0_apply_100 : decode cX0_apply 100 = .ok (.aload_n 0, 1) := by decide +kernel
theorem dX0_apply_101 : decode cX0_apply 101 = .ok (.getfield 60, 3) := by decide +kernel
theorem dX0_apply_104 : decode cX0_apply 104 = .ok (.bipush 40, 2) := by decide +kernel
theorem dX0_apply_106 : decode cX0_apply 106 = .ok (.iload 4, 2) := by decide +kernel
theorem dX0_apply_108 : decode cX0_apply 108 = .ok (.imul, 1) := by decide +kernel
theorem dX0_apply_109 : decode cX0_apply 109 = .ok (.baload, 1) := by decide +kernel
theorem dX0_apply_110 : decode cX0_apply 110 = .ok (.ifCond .eq 5, 3) := by decide +kernel
theorem dX0_apply_113 : decode cX0_apply 113 = .ok (.iconst 0, 1) := by decide +kernel
theorem dX0_apply_114 : decode cX0_apply 114 = .ok (.ireturn, 1) := by decide +kernel
theorem dX0_apply_115 : decode cX0_apply 115 = .ok (.aload_n 0, 1) := by decide +kernel
theorem dX0_apply_116 : decode cX0_apply 116 = .ok (.iload 4, 2) := by decide +kernel
theorem dX0_apply_118 : decode cX0_apply 118 = .ok (.invokevirtual 218, 3) := by decide +kernel
theorem dX0_apply_121 : decode cX0_apply 121 = .ok (.aload_n 0, 1) := by decide +kernel
theorem dX0_apply_122 : decode cX0_apply 122 = .ok (.getfield 79, 3) := by decide +kernel
theorem dX0_apply_125 : decode cX0_apply 125 = .ok (.bipush 24, 2) := by decide +kernel
theorem dX0_apply_127 : decode cX0_apply 127 = .ok (.iload 4, 2) := by decide +kernel
theorem dX0_apply_129 : decode cX0_apply 129 = .ok (.imul, 1) := by decide +kernel
theorem dX0_apply_130 : decode cX0_apply 130 = .ok (.iload_n 2, 1) := by decide +kernel
theorem dX0_apply_131 : decode cX0_apply 131 = .ok (.iadd, 1) := by decide +kernel
theorem dX0_apply_132 : decode cX0_apply 132 = .ok (.iaload, 1) := by decide +kernel
theorem dX0_apply_133 : decode cX0_apply 133 = .ok (.ireturn, 1) := by decide +kernel
abbrev cX0_output : ByteArray := prog_1_method_48_code
def yX0_output : MethodName := ⟨RX0, "output", "(I)I"⟩
theorem dX0_output_0 : decode cX0_output 0 = .ok (.iload_n 1, 1) := by decide +kernel
theorem dX0_output_1 : decode cX0_output 1 = .ok (.ifCond .lt 20, 3) := by decide +kernel
theorem dX0_output_4 : decode cX0_output 4 = .ok (.iload_n 1, 1) := by decide +kernel
theorem dX0_output_5 : decode cX0_output 5 = .ok (.aload_n 0, 1) := by decide +kernel
theorem dX0_output_6 : decode cX0_output 6 = .ok (.getfield 230, 3) := by decide +kernel
theorem dX0_output_9 : decode cX0_output 9 = .ok (.if_icmp .ge 12, 3) := by decide +kernel
theorem dX0_output_12 : decode cX0_output 12 = .ok (.aload_n 0, 1) := by decide +kernel
theorem dX0_output_13 : decode cX0_output 13 = .ok (.getfield 115, 3) := by decide +kernel
theorem dX0_output_16 : decode cX0_output 16 = .ok (.iload_n 1, 1) := by decide +kernel
theorem dX0_output_17 : decode cX0_output 17 = .ok (.iaload, 1) := by decide +kernel
theorem dX0_output_18 : decode cX0_output 18 = .ok (.goto 4, 3) := by decide +kernel
theorem dX0_output_21 : decode cX0_output 21 = .ok (.iconst 0, 1) := by decide +kernel
theorem dX0_output_22 : decode cX0_output 22 = .ok (.ireturn, 1) := by decide +kernel
theorem q50 : (Jvm.Cond.initialized "TransletDesk") ∈ lw_all := lw_g (lw_at lw_m1 1 rfl) rfl
theorem q53 : (Jvm.Cond.instantiable "TransletDesk" (39 : Nat)) ∈ lw_all := lw_g (lw_at lw_m1 4 rfl) rfl
theorem q55 : (Jvm.Cond.instanceMethod ({ cls := "TransletDesk", name := "<init>", desc := "()V" } : Jvm.MethodName)) ∈ lw_all := lw_g (lw_at lw_m1 6 rfl) rfl
theorem q56 : (Jvm.Cond.code ({ cls := "TransletDesk", name := "<init>", desc := "()V" } : Jvm.MethodName) prog_1_method_1_code (2 : Nat) (Option.none : Option Jvm.ClassFile.FieldType)) ∈ lw_all := lw_g (lw_at lw_m1 7 rfl) rfl
theorem q57 : (Jvm.Cond.methodLink "TransletDesk" (1 : Nat) ({ cls := "java/lang/Object", name := "<init>", desc := "()V" } : Jvm.MethodName)) ∈ lw_all := lw_g (lw_at lw_m1 8 rfl) rfl
theorem q60 : (Jvm.Cond.fieldLink "TransletDesk" (7 : Nat) "TransletDesk" "names" "[B") ∈ lw_all := lw_g (lw_at lw_m1 11 rfl) rfl
theorem q61 : (Jvm.Cond.fieldLink "TransletDesk" (13 : Nat) "TransletDesk" "values" "[I") ∈ lw_all := lw_g (lw_at lw_m1 12 rfl) rfl
theorem q62 : (Jvm.Cond.fieldLink "TransletDesk" (17 : Nat) "TransletDesk" "parent" "[B") ∈ lw_all := lw_g (lw_at lw_m1 13 rfl) rfl
theorem q63 : (Jvm.Cond.fieldLink "TransletDesk" (20 : Nat) "TransletDesk" "first" "[B") ∈ lw_all := lw_g (lw_at lw_m1 14 rfl) rfl
theorem q64 : (Jvm.Cond.fieldLink "TransletDesk" (23 : Nat) "TransletDesk" "next" "[B") ∈ lw_all := lw_g (lw_at lw_m1 15 rfl) rfl
theorem q65 : (Jvm.Cond.fieldLink "TransletDesk" (26 : Nat) "TransletDesk" "root" "I") ∈ lw_all := lw_g (lw_at lw_m1 16 rfl) rfl
theorem q66 : (Jvm.Cond.fieldLink "TransletDesk" (129 : Nat) "TransletDesk" "used" "I") ∈ lw_all := lw_g (lw_at lw_m1 17 rfl) rfl
theorem q67 : (Jvm.Cond.fieldLink "TransletDesk" (30 : Nat) "TransletDesk" "place" "[B") ∈ lw_all := lw_g (lw_at lw_m1 18 rfl) rfl
theorem q68 : (Jvm.Cond.fieldLink "TransletDesk" (33 : Nat) "TransletDesk" "nodeAt" "[B") ∈ lw_all := lw_g (lw_at lw_m1 19 rfl) rfl
theorem q69 : (Jvm.Cond.fieldLink "TransletDesk" (36 : Nat) "TransletDesk" "end" "[B") ∈ lw_all := lw_g (lw_at lw_m1 20 rfl) rfl
theorem q70 : (Jvm.Cond.fieldLink "TransletDesk" (39 : Nat) "TransletDesk" "up" "[B") ∈ lw_all := lw_g (lw_at lw_m1 21 rfl) rfl
theorem q71 : (Jvm.Cond.fieldLink "TransletDesk" (42 : Nat) "TransletDesk" "children" "[I") ∈ lw_all := lw_g (lw_at lw_m1 22 rfl) rfl
theorem q72 : (Jvm.Cond.fieldLink "TransletDesk" (45 : Nat) "TransletDesk" "above" "[I") ∈ lw_all := lw_g (lw_at lw_m1 23 rfl) rfl
theorem q73 : (Jvm.Cond.fieldLink "TransletDesk" (48 : Nat) "TransletDesk" "named" "[I") ∈ lw_all := lw_g (lw_at lw_m1 24 rfl) rfl
theorem q74 : (Jvm.Cond.fieldLink "TransletDesk" (51 : Nat) "TransletDesk" "valueAt" "[I") ∈ lw_all := lw_g (lw_at lw_m1 25 rfl) rfl
theorem q75 : (Jvm.Cond.fieldLink "TransletDesk" (118 : Nat) "TransletDesk" "counted" "Z") ∈ lw_all := lw_g (lw_at lw_m1 26 rfl) rfl
theorem q76 : (Jvm.Cond.fieldLink "TransletDesk" (54 : Nat) "TransletDesk" "kinds" "[B") ∈ lw_all := lw_g (lw_at lw_m1 27 rfl) rfl
theorem q77 : (Jvm.Cond.fieldLink "TransletDesk" (57 : Nat) "TransletDesk" "vals" "[I") ∈ lw_all := lw_g (lw_at lw_m1 28 rfl) rfl
theorem q78 : (Jvm.Cond.fieldLink "TransletDesk" (60 : Nat) "TransletDesk" "types" "[B") ∈ lw_all := lw_g (lw_at lw_m1 29 rfl) rfl
theorem q79 : (Jvm.Cond.fieldLink "TransletDesk" (63 : Nat) "TransletDesk" "behind" "[B") ∈ lw_all := lw_g (lw_at lw_m1 30 rfl) rfl
theorem q80 : (Jvm.Cond.fieldLink "TransletDesk" (66 : Nat) "TransletDesk" "local" "[Z") ∈ lw_all := lw_g (lw_at lw_m1 31 rfl) rfl
theorem q81 : (Jvm.Cond.fieldLink "TransletDesk" (70 : Nat) "TransletDesk" "length" "[B") ∈ lw_all := lw_g (lw_at lw_m1 32 rfl) rfl
theorem q82 : (Jvm.Cond.fieldLink "TransletDesk" (73 : Nat) "TransletDesk" "open" "[B") ∈ lw_all := lw_g (lw_at lw_m1 33 rfl) rfl
theorem q83 : (Jvm.Cond.fieldLink "TransletDesk" (76 : Nat) "TransletDesk" "table" "[I") ∈ lw_all := lw_g (lw_at lw_m1 34 rfl) rfl
theorem q84 : (Jvm.Cond.fieldLink "TransletDesk" (79 : Nat) "TransletDesk" "results" "[I") ∈ lw_all := lw_g (lw_at lw_m1 35 rfl) rfl
theorem q85 : (Jvm.Cond.fieldLink "TransletDesk" (82 : Nat) "TransletDesk" "known" "[Z") ∈ lw_all := lw_g (lw_at lw_m1 36 rfl) rfl
theorem q86 : (Jvm.Cond.fieldLink "TransletDesk" (85 : Nat) "TransletDesk" "along" "[I") ∈ lw_all := lw_g (lw_at lw_m1 37 rfl) rfl
theorem q87 : (Jvm.Cond.fieldLink "TransletDesk" (88 : Nat) "TransletDesk" "stack" "[I") ∈ lw_all := lw_g (lw_at lw_m1 38 rfl) rfl
theorem q88 : (Jvm.Cond.fieldLink "TransletDesk" (91 : Nat) "TransletDesk" "match" "[B") ∈ lw_all := lw_g (lw_at lw_m1 39 rfl) rfl
theorem q89 : (Jvm.Cond.fieldLink "TransletDesk" (94 : Nat) "TransletDesk" "priority" "[B") ∈ lw_all := lw_g (lw_at lw_m1 40 rfl) rfl
theorem q90 : (Jvm.Cond.fieldLink "TransletDesk" (97 : Nat) "TransletDesk" "out" "[B") ∈ lw_all := lw_g (lw_at lw_m1 41 rfl) rfl
theorem q91 : (Jvm.Cond.fieldLink "TransletDesk" (100 : Nat) "TransletDesk" "on" "[B") ∈ lw_all := lw_g (lw_at lw_m1 42 rfl) rfl
theorem q92 : (Jvm.Cond.fieldLink "TransletDesk" (103 : Nat) "TransletDesk" "matched" "[I") ∈ lw_all := lw_g (lw_at lw_m1 43 rfl) rfl
theorem q93 : (Jvm.Cond.fieldLink "TransletDesk" (122 : Nat) "TransletDesk" "sorted" "Z") ∈ lw_all := lw_g (lw_at lw_m1 44 rfl) rfl
theorem q94 : (Jvm.Cond.fieldLink "TransletDesk" (106 : Nat) "TransletDesk" "chosen" "[B") ∈ lw_all := lw_g (lw_at lw_m1 45 rfl) rfl
theorem q95 : (Jvm.Cond.fieldLink "TransletDesk" (109 : Nat) "TransletDesk" "waiting" "[B") ∈ lw_all := lw_g (lw_at lw_m1 46 rfl) rfl
theorem q96 : (Jvm.Cond.fieldLink "TransletDesk" (112 : Nat) "TransletDesk" "depths" "[B") ∈ lw_all := lw_g (lw_at lw_m1 47 rfl) rfl
theorem q97 : (Jvm.Cond.fieldLink "TransletDesk" (115 : Nat) "TransletDesk" "outputs" "[I") ∈ lw_all := lw_g (lw_at lw_m1 48 rfl) rfl
theorem q98 : (Jvm.Cond.fieldLink "TransletDesk" (230 : Nat) "TransletDesk" "put" "I") ∈ lw_all := lw_g (lw_at lw_m1 49 rfl) rfl
theorem q99 : (Jvm.Cond.laysFinal "TransletDesk" "TransletDesk" "names" "[B") ∈ lw_all := lw_g (lw_at lw_m1 50 rfl) rfl
theorem q100 : (Jvm.Cond.soleField "TransletDesk" "names") ∈ lw_all := lw_g (lw_at lw_m1 51 rfl) rfl
theorem q101 : (Jvm.Cond.laysFinal "TransletDesk" "TransletDesk" "values" "[I") ∈ lw_all := lw_g (lw_at lw_m1 52 rfl) rfl
theorem q102 : (Jvm.Cond.soleField "TransletDesk" "values") ∈ lw_all := lw_g (lw_at lw_m1 53 rfl) rfl
theorem q103 : (Jvm.Cond.laysFinal "TransletDesk" "TransletDesk" "parent" "[B") ∈ lw_all := lw_g (lw_at lw_m1 54 rfl) rfl
theorem q104 : (Jvm.Cond.soleField "TransletDesk" "parent") ∈ lw_all := lw_g (lw_at lw_m1 55 rfl) rfl
theorem q105 : (Jvm.Cond.laysFinal "TransletDesk" "TransletDesk" "first" "[B") ∈ lw_all := lw_g (lw_at lw_m1 56 rfl) rfl
theorem q106 : (Jvm.Cond.soleField "TransletDesk" "first") ∈ lw_all := lw_g (lw_at lw_m1 57 rfl) rfl
theorem q107 : (Jvm.Cond.laysFinal "TransletDesk" "TransletDesk" "next" "[B") ∈ lw_all := lw_g (lw_at lw_m1 58 rfl) rfl
theorem q108 : (Jvm.Cond.soleField "TransletDesk" "next") ∈ lw_all := lw_g (lw_at lw_m1 59 rfl) rfl
theorem q109 : (Jvm.Cond.lays "TransletDesk" "TransletDesk" "root" "I") ∈ lw_all := lw_g (lw_at lw_m1 60 rfl) rfl
theorem q110 : (Jvm.Cond.soleField "TransletDesk" "root") ∈ lw_all := lw_g (lw_at lw_m1 61 rfl) rfl
theorem q111 : (Jvm.Cond.lays "TransletDesk" "TransletDesk" "used" "I") ∈ lw_all := lw_g (lw_at lw_m1 62 rfl) rfl
theorem q112 : (Jvm.Cond.soleField "TransletDesk" "used") ∈ lw_all := lw_g (lw_at lw_m1 63 rfl) rfl
theorem q113 : (Jvm.Cond.laysFinal "TransletDesk" "TransletDesk" "place" "[B") ∈ lw_all := lw_g (lw_at lw_m1 64 rfl) rfl
theorem q114 : (Jvm.Cond.soleField "TransletDesk" "place") ∈ lw_all := lw_g (lw_at lw_m1 65 rfl) rfl
theorem q115 : (Jvm.Cond.laysFinal "TransletDesk" "TransletDesk" "nodeAt" "[B") ∈ lw_all := lw_g (lw_at lw_m1 66 rfl) rfl
theorem q116 : (Jvm.Cond.soleField "TransletDesk" "nodeAt") ∈ lw_all := lw_g (lw_at lw_m1 67 rfl) rfl
theorem q117 : (Jvm.Cond.laysFinal "TransletDesk" "TransletDesk" "end" "[B") ∈ lw_all := lw_g (lw_at lw_m1 68 rfl) rfl
theorem q118 : (Jvm.Cond.soleField "TransletDesk" "end") ∈ lw_all := lw_g (lw_at lw_m1 69 rfl) rfl
theorem q119 : (Jvm.Cond.laysFinal "TransletDesk" "TransletDesk" "up" "[B") ∈ lw_all := lw_g (lw_at lw_m1 70 rfl) rfl
theorem q120 : (Jvm.Cond.soleField "TransletDesk" "up") ∈ lw_all := lw_g (lw_at lw_m1 71 rfl) rfl
theorem q121 : (Jvm.Cond.laysFinal "TransletDesk" "TransletDesk" "children" "[I") ∈ lw_all := lw_g (lw_at lw_m1 72 rfl) rfl
theorem q122 : (Jvm.Cond.soleField "TransletDesk" "children") ∈ lw_all := lw_g (lw_at lw_m1 73 rfl) rfl
theorem q123 : (Jvm.Cond.laysFinal "TransletDesk" "TransletDesk" "above" "[I") ∈ lw_all := lw_g (lw_at lw_m1 74 rfl) rfl
theorem q124 : (Jvm.Cond.soleField "TransletDesk" "above") ∈ lw_all := lw_g (lw_at lw_m1 75 rfl) rfl
theorem q125 : (Jvm.Cond.laysFinal "TransletDesk" "TransletDesk" "named" "[I") ∈ lw_all := lw_g (lw_at lw_m1 76 rfl) rfl
theorem q126 : (Jvm.Cond.soleField "TransletDesk" "named") ∈ lw_all := lw_g (lw_at lw_m1 77 rfl) rfl
theorem q127 : (Jvm.Cond.laysFinal "TransletDesk" "TransletDesk" "valueAt" "[I") ∈ lw_all := lw_g (lw_at lw_m1 78 rfl) rfl
theorem q128 : (Jvm.Cond.soleField "TransletDesk" "valueAt") ∈ lw_all := lw_g (lw_at lw_m1 79 rfl) rfl
theorem q129 : (Jvm.Cond.lays "TransletDesk" "TransletDesk" "counted" "Z") ∈ lw_all := lw_g (lw_at lw_m1 80 rfl) rfl
theorem q130 : (Jvm.Cond.soleField "TransletDesk" "counted") ∈ lw_all := lw_g (lw_at lw_m1 81 rfl) rfl
theorem q131 : (Jvm.Cond.laysFinal "TransletDesk" "TransletDesk" "kinds" "[B") ∈ lw_all := lw_g (lw_at lw_m1 82 rfl) rfl
theorem q132 : (Jvm.Cond.soleField "TransletDesk" "kinds") ∈ lw_all := lw_g (lw_at lw_m1 83 rfl) rfl
theorem q133 : (Jvm.Cond.laysFinal "TransletDesk" "TransletDesk" "vals" "[I") ∈ lw_all := lw_g (lw_at lw_m1 84 rfl) rfl
theorem q134 : (Jvm.Cond.soleField "TransletDesk" "vals") ∈ lw_all := lw_g (lw_at lw_m1 85 rfl) rfl
theorem q135 : (Jvm.Cond.laysFinal "TransletDesk" "TransletDesk" "types" "[B") ∈ lw_all := lw_g (lw_at lw_m1 86 rfl) rfl
theorem q136 : (Jvm.Cond.soleField "TransletDesk" "types") ∈ lw_all := lw_g (lw_at lw_m1 87 rfl) rfl
theorem q137 : (Jvm.Cond.laysFinal "TransletDesk" "TransletDesk" "behind" "[B") ∈ lw_all := lw_g (lw_at lw_m1 88 rfl) rfl
theorem q138 : (Jvm.Cond.soleField "TransletDesk" "behind") ∈ lw_all := lw_g (lw_at lw_m1 89 rfl) rfl
theorem q139 : (Jvm.Cond.laysFinal "TransletDesk" "TransletDesk" "local" "[Z") ∈ lw_all := lw_g (lw_at lw_m1 90 rfl) rfl
theorem q140 : (Jvm.Cond.soleField "TransletDesk" "local") ∈ lw_all := lw_g (lw_at lw_m1 91 rfl) rfl
theorem q141 : (Jvm.Cond.laysFinal "TransletDesk" "TransletDesk" "length" "[B") ∈ lw_all := lw_g (lw_at lw_m1 92 rfl) rfl
theorem q142 : (Jvm.Cond.soleField "TransletDesk" "length") ∈ lw_all := lw_g (lw_at lw_m1 93 rfl) rfl
theorem q143 : (Jvm.Cond.laysFinal "TransletDesk" "TransletDesk" "open" "[B") ∈ lw_all := lw_g (lw_at lw_m1 94 rfl) rfl
theorem q144 : (Jvm.Cond.soleField "TransletDesk" "open") ∈ lw_all := lw_g (lw_at lw_m1 95 rfl) rfl
theorem q145 : (Jvm.Cond.laysFinal "TransletDesk" "TransletDesk" "table" "[I") ∈ lw_all := lw_g (lw_at lw_m1 96 rfl) rfl
theorem q146 : (Jvm.Cond.soleField "TransletDesk" "table") ∈ lw_all := lw_g (lw_at lw_m1 97 rfl) rfl
theorem q147 : (Jvm.Cond.laysFinal "TransletDesk" "TransletDesk" "results" "[I") ∈ lw_all := lw_g (lw_at lw_m1 98 rfl) rfl
theorem q148 : (Jvm.Cond.soleField "TransletDesk" "results") ∈ lw_all := lw_g (lw_at lw_m1 99 rfl) rfl
theorem q149 : (Jvm.Cond.laysFinal "TransletDesk" "TransletDesk" "known" "[Z") ∈ lw_all := lw_g (lw_at lw_m1 100 rfl) rfl
theorem q150 : (Jvm.Cond.soleField "TransletDesk" "known") ∈ lw_all := lw_g (lw_at lw_m1 101 rfl) rfl
theorem q151 : (Jvm.Cond.laysFinal "TransletDesk" "TransletDesk" "along" "[I") ∈ lw_all := lw_g (lw_at lw_m1 102 rfl) rfl
theorem q152 : (Jvm.Cond.soleField "TransletDesk" "along") ∈ lw_all := lw_g (lw_at lw_m1 103 rfl) rfl
theorem q153 : (Jvm.Cond.laysFinal "TransletDesk" "TransletDesk" "stack" "[I") ∈ lw_all := lw_g (lw_at lw_m1 104 rfl) rfl
theorem q154 : (Jvm.Cond.soleField "TransletDesk" "stack") ∈ lw_all := lw_g (lw_at lw_m1 105 rfl) rfl
theorem q155 : (Jvm.Cond.laysFinal "TransletDesk" "TransletDesk" "match" "[B") ∈ lw_all := lw_g (lw_at lw_m1 106 rfl) rfl
theorem q156 : (Jvm.Cond.soleField "TransletDesk" "match") ∈ lw_all := lw_g (lw_at lw_m1 107 rfl) rfl
theorem q157 : (Jvm.Cond.laysFinal "TransletDesk" "TransletDesk" "priority" "[B") ∈ lw_all := lw_g (lw_at lw_m1 108 rfl) rfl
theorem q158 : (Jvm.Cond.soleField "TransletDesk" "priority") ∈ lw_all := lw_g (lw_at lw_m1 109 rfl) rfl
theorem q159 : (Jvm.Cond.laysFinal "TransletDesk" "TransletDesk" "out" "[B") ∈ lw_all := lw_g (lw_at lw_m1 110 rfl) rfl
theorem q160 : (Jvm.Cond.soleField "TransletDesk" "out") ∈ lw_all := lw_g (lw_at lw_m1 111 rfl) rfl
theorem q161 : (Jvm.Cond.laysFinal "TransletDesk" "TransletDesk" "on" "[B") ∈ lw_all := lw_g (lw_at lw_m1 112 rfl) rfl
theorem q162 : (Jvm.Cond.soleField "TransletDesk" "on") ∈ lw_all := lw_g (lw_at lw_m1 113 rfl) rfl
theorem q163 : (Jvm.Cond.laysFinal "TransletDesk" "TransletDesk" "matched" "[I") ∈ lw_all := lw_g (lw_at lw_m1 114 rfl) rfl
theorem q164 : (Jvm.Cond.soleField "TransletDesk" "matched") ∈ lw_all := lw_g (lw_at lw_m1 115 rfl) rfl
theorem q165 : (Jvm.Cond.lays "TransletDesk" "TransletDesk" "sorted" "Z") ∈ lw_all := lw_g (lw_at lw_m1 116 rfl) rfl
theorem q166 : (Jvm.Cond.soleField "TransletDesk" "sorted") ∈ lw_all := lw_g (lw_at lw_m1 117 rfl) rfl
theorem q167 : (Jvm.Cond.laysFinal "TransletDesk" "TransletDesk" "chosen" "[B") ∈ lw_all := lw_g (lw_at lw_m1 118 rfl) rfl
theorem q168 : (Jvm.Cond.soleField "TransletDesk" "chosen") ∈ lw_all := lw_g (lw_at lw_m1 119 rfl) rfl
theorem q169 : (Jvm.Cond.laysFinal "TransletDesk" "TransletDesk" "waiting" "[B") ∈ lw_all := lw_g (lw_at lw_m1 120 rfl) rfl
theorem q170 : (Jvm.Cond.soleField "TransletDesk" "waiting") ∈ lw_all := lw_g (lw_at lw_m1 121 rfl) rfl
theorem q171 : (Jvm.Cond.laysFinal "TransletDesk" "TransletDesk" "depths" "[B") ∈ lw_all := lw_g (lw_at lw_m1 122 rfl) rfl
theorem q172 : (Jvm.Cond.soleField "TransletDesk" "depths") ∈ lw_all := lw_g (lw_at lw_m1 123 rfl) rfl
theorem q173 : (Jvm.Cond.laysFinal "TransletDesk" "TransletDesk" "outputs" "[I") ∈ lw_all := lw_g (lw_at lw_m1 124 rfl) rfl
theorem q174 : (Jvm.Cond.soleField "TransletDesk" "outputs") ∈ lw_all := lw_g (lw_at lw_m1 125 rfl) rfl
theorem q175 : (Jvm.Cond.lays "TransletDesk" "TransletDesk" "put" "I") ∈ lw_all := lw_g (lw_at lw_m1 126 rfl) rfl
theorem q176 : (Jvm.Cond.soleField "TransletDesk" "put") ∈ lw_all := lw_g (lw_at lw_m1 127 rfl) rfl
theorem q177 : (Jvm.Cond.superclass "TransletDesk" "java/lang/Object") ∈ lw_all := lw_g (lw_at lw_m1 128 rfl) rfl
theorem q182 : (Jvm.Cond.instanceMethod ({ cls := "TransletDesk", name := "insert", desc := "(III)I" } : Jvm.MethodName)) ∈ lw_all := lw_g (lw_at lw_m1 133 rfl) rfl
theorem q183 : (Jvm.Cond.selects "TransletDesk" ({ cls := "TransletDesk", name := "insert", desc := "(III)I" } : Jvm.MethodName) ({ cls := "TransletDesk", name := "insert", desc := "(III)I" } : Jvm.MethodName)) ∈ lw_all := lw_g (lw_at lw_m1 134 rfl) rfl
theorem q184 : (Jvm.Cond.code ({ cls := "TransletDesk", name := "insert", desc := "(III)I" } : Jvm.MethodName) prog_1_method_8_code (5 : Nat) (Option.some Jvm.ClassFile.FieldType.int)) ∈ lw_all := lw_g (lw_at lw_m1 135 rfl) rfl
theorem q185 : (Jvm.Cond.methodLink "TransletDesk" (125 : Nat) ({ cls := "TransletDesk", name := "isName", desc := "(I)Z" } : Jvm.MethodName)) ∈ lw_all := lw_g (lw_at lw_m1 136 rfl) rfl
theorem q186 : (Jvm.Cond.static ({ cls := "TransletDesk", name := "isName", desc := "(I)Z" } : Jvm.MethodName)) ∈ lw_all := lw_g (lw_at lw_m1 137 rfl) rfl
theorem q187 : (Jvm.Cond.code ({ cls := "TransletDesk", name := "isName", desc := "(I)Z" } : Jvm.MethodName) prog_1_method_3_code (1 : Nat) (Option.some Jvm.ClassFile.FieldType.boolean)) ∈ lw_all := lw_g (lw_at lw_m1 138 rfl) rfl
theorem q188 : (Jvm.Cond.methodLink "TransletDesk" (132 : Nat) ({ cls := "TransletDesk", name := "isNode", desc := "(I)Z" } : Jvm.MethodName)) ∈ lw_all := lw_g (lw_at lw_m1 139 rfl) rfl
theorem q189 : (Jvm.Cond.privateMethod ({ cls := "TransletDesk", name := "isNode", desc := "(I)Z" } : Jvm.MethodName)) ∈ lw_tbl := lw_at lw_m1 140 rfl
theorem q190 : (Jvm.Cond.instanceMethod ({ cls := "TransletDesk", name := "isNode", desc := "(I)Z" } : Jvm.MethodName)) ∈ lw_all := lw_g (lw_at lw_m1 141 rfl) rfl
theorem q191 : (Jvm.Cond.code ({ cls := "TransletDesk", name := "isNode", desc := "(I)Z" } : Jvm.MethodName) prog_1_method_2_code (2 : Nat) (Option.some Jvm.ClassFile.FieldType.boolean)) ∈ lw_all := lw_g (lw_at lw_m1 142 rfl) rfl
theorem q192 : (Jvm.Cond.methodLink "TransletDesk" (135 : Nat) ({ cls := "TransletDesk", name := "many", desc := "(I)I" } : Jvm.MethodName)) ∈ lw_all := lw_g (lw_at lw_m1 143 rfl) rfl
theorem q193 : (Jvm.Cond.privateMethod ({ cls := "TransletDesk", name := "many", desc := "(I)I" } : Jvm.MethodName)) ∈ lw_tbl := lw_at lw_m1 144 rfl
theorem q194 : (Jvm.Cond.instanceMethod ({ cls := "TransletDesk", name := "many", desc := "(I)I" } : Jvm.MethodName)) ∈ lw_all := lw_g (lw_at lw_m1 145 rfl) rfl
theorem q195 : (Jvm.Cond.code ({ cls := "TransletDesk", name := "many", desc := "(I)I" } : Jvm.MethodName) prog_1_method_4_code (4 : Nat) (Option.some Jvm.ClassFile.FieldType.int)) ∈ lw_all := lw_g (lw_at lw_m1 146 rfl) rfl
theorem q196 : (Jvm.Cond.methodLink "TransletDesk" (139 : Nat) ({ cls := "TransletDesk", name := "link", desc := "(III)V" } : Jvm.MethodName)) ∈ lw_all := lw_g (lw_at lw_m1 147 rfl) rfl
theorem q197 : (Jvm.Cond.privateMethod ({ cls := "TransletDesk", name := "link", desc := "(III)V" } : Jvm.MethodName)) ∈ lw_tbl := lw_at lw_m1 148 rfl
theorem q198 : (Jvm.Cond.instanceMethod ({ cls := "TransletDesk", name := "link", desc := "(III)V" } : Jvm.MethodName)) ∈ lw_all := lw_g (lw_at lw_m1 149 rfl) rfl
theorem q199 : (Jvm.Cond.code ({ cls := "TransletDesk", name := "link", desc := "(III)V" } : Jvm.MethodName) prog_1_method_6_code (7 : Nat) (Option.none : Option Jvm.ClassFile.FieldType)) ∈ lw_all := lw_g (lw_at lw_m1 150 rfl) rfl
theorem q200 : (Jvm.Cond.methodLink "TransletDesk" (143 : Nat) ({ cls := "TransletDesk", name := "changed", desc := "()V" } : Jvm.MethodName)) ∈ lw_all := lw_g (lw_at lw_m1 151 rfl) rfl
theorem q201 : (Jvm.Cond.privateMethod ({ cls := "TransletDesk", name := "changed", desc := "()V" } : Jvm.MethodName)) ∈ lw_tbl := lw_at lw_m1 152 rfl
theorem q202 : (Jvm.Cond.instanceMethod ({ cls := "TransletDesk", name := "changed", desc := "()V" } : Jvm.MethodName)) ∈ lw_all := lw_g (lw_at lw_m1 153 rfl) rfl
theorem q203 : (Jvm.Cond.code ({ cls := "TransletDesk", name := "changed", desc := "()V" } : Jvm.MethodName) prog_1_method_5_code (2 : Nat) (Option.none : Option Jvm.ClassFile.FieldType)) ∈ lw_all := lw_g (lw_at lw_m1 154 rfl) rfl
theorem q205 : (Jvm.Cond.instanceMethod ({ cls := "TransletDesk", name := "remove", desc := "(I)I" } : Jvm.MethodName)) ∈ lw_all := lw_g (lw_at lw_m1 156 rfl) rfl
theorem q206 : (Jvm.Cond.selects "TransletDesk" ({ cls := "TransletDesk", name := "remove", desc := "(I)I" } : Jvm.MethodName) ({ cls := "TransletDesk", name := "remove", desc := "(I)I" } : Jvm.MethodName)) ∈ lw_all := lw_g (lw_at lw_m1 157 rfl) rfl
theorem q207 : (Jvm.Cond.code ({ cls := "TransletDesk", name := "remove", desc := "(I)I" } : Jvm.MethodName) prog_1_method_9_code (5 : Nat) (Option.some Jvm.ClassFile.FieldType.int)) ∈ lw_all := lw_g (lw_at lw_m1 158 rfl) rfl
theorem q208 : (Jvm.Cond.methodLink "TransletDesk" (146 : Nat) ({ cls := "TransletDesk", name := "count", desc := "()V" } : Jvm.MethodName)) ∈ lw_all := lw_g (lw_at lw_m1 159 rfl) rfl
theorem q209 : (Jvm.Cond.privateMethod ({ cls := "TransletDesk", name := "count", desc := "()V" } : Jvm.MethodName)) ∈ lw_tbl := lw_at lw_m1 160 rfl
theorem q210 : (Jvm.Cond.instanceMethod ({ cls := "TransletDesk", name := "count", desc := "()V" } : Jvm.MethodName)) ∈ lw_all := lw_g (lw_at lw_m1 161 rfl) rfl
theorem q211 : (Jvm.Cond.code ({ cls := "TransletDesk", name := "count", desc := "()V" } : Jvm.MethodName) prog_1_method_13_code (4 : Nat) (Option.none : Option Jvm.ClassFile.FieldType)) ∈ lw_all := lw_g (lw_at lw_m1 162 rfl) rfl
theorem q212 : (Jvm.Cond.methodLink "TransletDesk" (153 : Nat) ({ cls := "TransletDesk", name := "onward", desc := "(II)I" } : Jvm.MethodName)) ∈ lw_all := lw_g (lw_at lw_m1 163 rfl) rfl
theorem q213 : (Jvm.Cond.privateMethod ({ cls := "TransletDesk", name := "onward", desc := "(II)I" } : Jvm.MethodName)) ∈ lw_tbl := lw_at lw_m1 164 rfl
theorem q214 : (Jvm.Cond.instanceMethod ({ cls := "TransletDesk", name := "onward", desc := "(II)I" } : Jvm.MethodName)) ∈ lw_all := lw_g (lw_at lw_m1 165 rfl) rfl
theorem q215 : (Jvm.Cond.code ({ cls := "TransletDesk", name := "onward", desc := "(II)I" } : Jvm.MethodName) prog_1_method_14_code (4 : Nat) (Option.some Jvm.ClassFile.FieldType.int)) ∈ lw_all := lw_g (lw_at lw_m1 166 rfl) rfl
theorem q216 : (Jvm.Cond.methodLink "TransletDesk" (149 : Nat) ({ cls := "TransletDesk", name := "unlink", desc := "(I)V" } : Jvm.MethodName)) ∈ lw_all := lw_g (lw_at lw_m1 167 rfl) rfl
theorem q217 : (Jvm.Cond.privateMethod ({ cls := "TransletDesk", name := "unlink", desc := "(I)V" } : Jvm.MethodName)) ∈ lw_tbl := lw_at lw_m1 168 rfl
theorem q218 : (Jvm.Cond.instanceMethod ({ cls := "TransletDesk", name := "unlink", desc := "(I)V" } : Jvm.MethodName)) ∈ lw_all := lw_g (lw_at lw_m1 169 rfl) rfl
theorem q219 : (Jvm.Cond.code ({ cls := "TransletDesk", name := "unlink", desc := "(I)V" } : Jvm.MethodName) prog_1_method_7_code (4 : Nat) (Option.none : Option Jvm.ClassFile.FieldType)) ∈ lw_all := lw_g (lw_at lw_m1 170 rfl) rfl
theorem q221 : (Jvm.Cond.instanceMethod ({ cls := "TransletDesk", name := "move", desc := "(III)Z" } : Jvm.MethodName)) ∈ lw_all := lw_g (lw_at lw_m1 172 rfl) rfl
theorem q222 : (Jvm.Cond.selects "TransletDesk" ({ cls := "TransletDesk", name := "move", desc := "(III)Z" } : Jvm.MethodName) ({ cls := "TransletDesk", name := "move", desc := "(III)Z" } : Jvm.MethodName)) ∈ lw_all := lw_g (lw_at lw_m1 173 rfl) rfl
theorem q223 : (Jvm.Cond.code ({ cls := "TransletDesk", name := "move", desc := "(III)Z" } : Jvm.MethodName) prog_1_method_10_code (5 : Nat) (Option.some Jvm.ClassFile.FieldType.boolean)) ∈ lw_all := lw_g (lw_at lw_m1 174 rfl) rfl
theorem q225 : (Jvm.Cond.instanceMethod ({ cls := "TransletDesk", name := "change", desc := "(III)Z" } : Jvm.MethodName)) ∈ lw_all := lw_g (lw_at lw_m1 176 rfl) rfl
theorem q226 : (Jvm.Cond.selects "TransletDesk" ({ cls := "TransletDesk", name := "change", desc := "(III)Z" } : Jvm.MethodName) ({ cls := "TransletDesk", name := "change", desc := "(III)Z" } : Jvm.MethodName)) ∈ lw_all := lw_g (lw_at lw_m1 177 rfl) rfl
theorem q227 : (Jvm.Cond.code ({ cls := "TransletDesk", name := "change", desc := "(III)Z" } : Jvm.MethodName) prog_1_method_11_code (4 : Nat) (Option.some Jvm.ClassFile.FieldType.boolean)) ∈ lw_all := lw_g (lw_at lw_m1 178 rfl) rfl
theorem q229 : (Jvm.Cond.instanceMethod ({ cls := "TransletDesk", name := "child", desc := "(II)I" } : Jvm.MethodName)) ∈ lw_all := lw_g (lw_at lw_m1 180 rfl) rfl
theorem q230 : (Jvm.Cond.selects "TransletDesk" ({ cls := "TransletDesk", name := "child", desc := "(II)I" } : Jvm.MethodName) ({ cls := "TransletDesk", name := "child", desc := "(II)I" } : Jvm.MethodName)) ∈ lw_all := lw_g (lw_at lw_m1 181 rfl) rfl
theorem q231 : (Jvm.Cond.code ({ cls := "TransletDesk", name := "child", desc := "(II)I" } : Jvm.MethodName) prog_1_method_12_code (5 : Nat) (Option.some Jvm.ClassFile.FieldType.int)) ∈ lw_all := lw_g (lw_at lw_m1 182 rfl) rfl
theorem q233 : (Jvm.Cond.instanceMethod ({ cls := "TransletDesk", name := "token", desc := "(II)I" } : Jvm.MethodName)) ∈ lw_all := lw_g (lw_at lw_m1 184 rfl) rfl
theorem q234 : (Jvm.Cond.selects "TransletDesk" ({ cls := "TransletDesk", name := "token", desc := "(II)I" } : Jvm.MethodName) ({ cls := "TransletDesk", name := "token", desc := "(II)I" } : Jvm.MethodName)) ∈ lw_all := lw_g (lw_at lw_m1 185 rfl) rfl
theorem q235 : (Jvm.Cond.code ({ cls := "TransletDesk", name := "token", desc := "(II)I" } : Jvm.MethodName) prog_1_method_16_code (4 : Nat) (Option.some Jvm.ClassFile.FieldType.int)) ∈ lw_all := lw_g (lw_at lw_m1 186 rfl) rfl
theorem q237 : (Jvm.Cond.instanceMethod ({ cls := "TransletDesk", name := "expression", desc := "(I)I" } : Jvm.MethodName)) ∈ lw_all := lw_g (lw_at lw_m1 188 rfl) rfl
theorem q238 : (Jvm.Cond.selects "TransletDesk" ({ cls := "TransletDesk", name := "expression", desc := "(I)I" } : Jvm.MethodName) ({ cls := "TransletDesk", name := "expression", desc := "(I)I" } : Jvm.MethodName)) ∈ lw_all := lw_g (lw_at lw_m1 189 rfl) rfl
theorem q239 : (Jvm.Cond.code ({ cls := "TransletDesk", name := "expression", desc := "(I)I" } : Jvm.MethodName) prog_1_method_19_code (6 : Nat) (Option.some Jvm.ClassFile.FieldType.int)) ∈ lw_all := lw_g (lw_at lw_m1 190 rfl) rfl
theorem q240 : (Jvm.Cond.methodLink "TransletDesk" (164 : Nat) ({ cls := "TransletDesk", name := "read", desc := "()Z" } : Jvm.MethodName)) ∈ lw_all := lw_g (lw_at lw_m1 191 rfl) rfl
theorem q241 : (Jvm.Cond.privateMethod ({ cls := "TransletDesk", name := "read", desc := "()Z" } : Jvm.MethodName)) ∈ lw_tbl := lw_at lw_m1 192 rfl
theorem q242 : (Jvm.Cond.instanceMethod ({ cls := "TransletDesk", name := "read", desc := "()Z" } : Jvm.MethodName)) ∈ lw_all := lw_g (lw_at lw_m1 193 rfl) rfl
theorem q243 : (Jvm.Cond.code ({ cls := "TransletDesk", name := "read", desc := "()Z" } : Jvm.MethodName) prog_1_method_18_code (9 : Nat) (Option.some Jvm.ClassFile.FieldType.boolean)) ∈ lw_all := lw_g (lw_at lw_m1 194 rfl) rfl
theorem q244 : (Jvm.Cond.methodLink "TransletDesk" (157 : Nat) ({ cls := "TransletDesk", name := "arity", desc := "(II)I" } : Jvm.MethodName)) ∈ lw_all := lw_g (lw_at lw_m1 195 rfl) rfl
theorem q245 : (Jvm.Cond.static ({ cls := "TransletDesk", name := "arity", desc := "(II)I" } : Jvm.MethodName)) ∈ lw_all := lw_g (lw_at lw_m1 196 rfl) rfl
theorem q246 : (Jvm.Cond.code ({ cls := "TransletDesk", name := "arity", desc := "(II)I" } : Jvm.MethodName) prog_1_method_15_code (2 : Nat) (Option.some Jvm.ClassFile.FieldType.int)) ∈ lw_all := lw_g (lw_at lw_m1 197 rfl) rfl
theorem q247 : (Jvm.Cond.methodLink "TransletDesk" (160 : Nat) ({ cls := "TransletDesk", name := "typed", desc := "(III)I" } : Jvm.MethodName)) ∈ lw_all := lw_g (lw_at lw_m1 198 rfl) rfl
theorem q248 : (Jvm.Cond.static ({ cls := "TransletDesk", name := "typed", desc := "(III)I" } : Jvm.MethodName)) ∈ lw_all := lw_g (lw_at lw_m1 199 rfl) rfl
theorem q249 : (Jvm.Cond.code ({ cls := "TransletDesk", name := "typed", desc := "(III)I" } : Jvm.MethodName) prog_1_method_17_code (3 : Nat) (Option.some Jvm.ClassFile.FieldType.int)) ∈ lw_all := lw_g (lw_at lw_m1 200 rfl) rfl
theorem q251 : (Jvm.Cond.instanceMethod ({ cls := "TransletDesk", name := "size", desc := "(II)I" } : Jvm.MethodName)) ∈ lw_all := lw_g (lw_at lw_m1 202 rfl) rfl
theorem q252 : (Jvm.Cond.selects "TransletDesk" ({ cls := "TransletDesk", name := "size", desc := "(II)I" } : Jvm.MethodName) ({ cls := "TransletDesk", name := "size", desc := "(II)I" } : Jvm.MethodName)) ∈ lw_all := lw_g (lw_at lw_m1 203 rfl) rfl
theorem q253 : (Jvm.Cond.code ({ cls := "TransletDesk", name := "size", desc := "(II)I" } : Jvm.MethodName) prog_1_method_38_code (4 : Nat) (Option.some Jvm.ClassFile.FieldType.int)) ∈ lw_all := lw_g (lw_at lw_m1 204 rfl) rfl
theorem q254 : (Jvm.Cond.methodLink "TransletDesk" (221 : Nat) ({ cls := "TransletDesk", name := "isThere", desc := "(II)Z" } : Jvm.MethodName)) ∈ lw_all := lw_g (lw_at lw_m1 205 rfl) rfl
theorem q255 : (Jvm.Cond.privateMethod ({ cls := "TransletDesk", name := "isThere", desc := "(II)Z" } : Jvm.MethodName)) ∈ lw_tbl := lw_at lw_m1 206 rfl
theorem q256 : (Jvm.Cond.instanceMethod ({ cls := "TransletDesk", name := "isThere", desc := "(II)Z" } : Jvm.MethodName)) ∈ lw_all := lw_g (lw_at lw_m1 207 rfl) rfl
theorem q257 : (Jvm.Cond.code ({ cls := "TransletDesk", name := "isThere", desc := "(II)Z" } : Jvm.MethodName) prog_1_method_36_code (3 : Nat) (Option.some Jvm.ClassFile.FieldType.boolean)) ∈ lw_all := lw_g (lw_at lw_m1 208 rfl) rfl
theorem q258 : (Jvm.Cond.methodLink "TransletDesk" (224 : Nat) ({ cls := "TransletDesk", name := "resultAt", desc := "(II)I" } : Jvm.MethodName)) ∈ lw_all := lw_g (lw_at lw_m1 209 rfl) rfl
theorem q259 : (Jvm.Cond.privateMethod ({ cls := "TransletDesk", name := "resultAt", desc := "(II)I" } : Jvm.MethodName)) ∈ lw_tbl := lw_at lw_m1 210 rfl
theorem q260 : (Jvm.Cond.instanceMethod ({ cls := "TransletDesk", name := "resultAt", desc := "(II)I" } : Jvm.MethodName)) ∈ lw_all := lw_g (lw_at lw_m1 211 rfl) rfl
theorem q261 : (Jvm.Cond.code ({ cls := "TransletDesk", name := "resultAt", desc := "(II)I" } : Jvm.MethodName) prog_1_method_37_code (3 : Nat) (Option.some Jvm.ClassFile.FieldType.int)) ∈ lw_all := lw_g (lw_at lw_m1 212 rfl) rfl
theorem q262 : (Jvm.Cond.methodLink "TransletDesk" (218 : Nat) ({ cls := "TransletDesk", name := "learn", desc := "(I)V" } : Jvm.MethodName)) ∈ lw_all := lw_g (lw_at lw_m1 213 rfl) rfl
theorem q263 : (Jvm.Cond.privateMethod ({ cls := "TransletDesk", name := "learn", desc := "(I)V" } : Jvm.MethodName)) ∈ lw_tbl := lw_at lw_m1 214 rfl
theorem q264 : (Jvm.Cond.instanceMethod ({ cls := "TransletDesk", name := "learn", desc := "(I)V" } : Jvm.MethodName)) ∈ lw_all := lw_g (lw_at lw_m1 215 rfl) rfl
theorem q265 : (Jvm.Cond.code ({ cls := "TransletDesk", name := "learn", desc := "(I)V" } : Jvm.MethodName) prog_1_method_25_code (4 : Nat) (Option.none : Option Jvm.ClassFile.FieldType)) ∈ lw_all := lw_g (lw_at lw_m1 216 rfl) rfl
theorem q266 : (Jvm.Cond.methodLink "TransletDesk" (171 : Nat) ({ cls := "TransletDesk", name := "step", desc := "(II)V" } : Jvm.MethodName)) ∈ lw_all := lw_g (lw_at lw_m1 217 rfl) rfl
theorem q267 : (Jvm.Cond.privateMethod ({ cls := "TransletDesk", name := "step", desc := "(II)V" } : Jvm.MethodName)) ∈ lw_tbl := lw_at lw_m1 218 rfl
theorem q268 : (Jvm.Cond.instanceMethod ({ cls := "TransletDesk", name := "step", desc := "(II)V" } : Jvm.MethodName)) ∈ lw_all := lw_g (lw_at lw_m1 219 rfl) rfl
theorem q269 : (Jvm.Cond.code ({ cls := "TransletDesk", name := "step", desc := "(II)V" } : Jvm.MethodName) prog_1_method_33_code (9 : Nat) (Option.none : Option Jvm.ClassFile.FieldType)) ∈ lw_all := lw_g (lw_at lw_m1 220 rfl) rfl
theorem q270 : (Jvm.Cond.methodLink "TransletDesk" (208 : Nat) ({ cls := "TransletDesk", name := "axis", desc := "(II)I" } : Jvm.MethodName)) ∈ lw_all := lw_g (lw_at lw_m1 221 rfl) rfl
theorem q271 : (Jvm.Cond.privateMethod ({ cls := "TransletDesk", name := "axis", desc := "(II)I" } : Jvm.MethodName)) ∈ lw_tbl := lw_at lw_m1 222 rfl
theorem q272 : (Jvm.Cond.instanceMethod ({ cls := "TransletDesk", name := "axis", desc := "(II)I" } : Jvm.MethodName)) ∈ lw_all := lw_g (lw_at lw_m1 223 rfl) rfl
theorem q273 : (Jvm.Cond.code ({ cls := "TransletDesk", name := "axis", desc := "(II)I" } : Jvm.MethodName) prog_1_method_21_code (4 : Nat) (Option.some Jvm.ClassFile.FieldType.int)) ∈ lw_all := lw_g (lw_at lw_m1 224 rfl) rfl
theorem q274 : (Jvm.Cond.methodLink "TransletDesk" (168 : Nat) ({ cls := "TransletDesk", name := "interval", desc := "(II)I" } : Jvm.MethodName)) ∈ lw_all := lw_g (lw_at lw_m1 225 rfl) rfl
theorem q275 : (Jvm.Cond.static ({ cls := "TransletDesk", name := "interval", desc := "(II)I" } : Jvm.MethodName)) ∈ lw_all := lw_g (lw_at lw_m1 226 rfl) rfl
theorem q276 : (Jvm.Cond.code ({ cls := "TransletDesk", name := "interval", desc := "(II)I" } : Jvm.MethodName) prog_1_method_20_code (2 : Nat) (Option.some Jvm.ClassFile.FieldType.int)) ∈ lw_all := lw_g (lw_at lw_m1 227 rfl) rfl
theorem q277 : (Jvm.Cond.methodLink "TransletDesk" (211 : Nat) ({ cls := "TransletDesk", name := "tested", desc := "(IIIZ)I" } : Jvm.MethodName)) ∈ lw_all := lw_g (lw_at lw_m1 228 rfl) rfl
theorem q278 : (Jvm.Cond.privateMethod ({ cls := "TransletDesk", name := "tested", desc := "(IIIZ)I" } : Jvm.MethodName)) ∈ lw_tbl := lw_at lw_m1 229 rfl
theorem q279 : (Jvm.Cond.instanceMethod ({ cls := "TransletDesk", name := "tested", desc := "(IIIZ)I" } : Jvm.MethodName)) ∈ lw_all := lw_g (lw_at lw_m1 230 rfl) rfl
theorem q280 : (Jvm.Cond.code ({ cls := "TransletDesk", name := "tested", desc := "(IIIZ)I" } : Jvm.MethodName) prog_1_method_34_code (12 : Nat) (Option.some Jvm.ClassFile.FieldType.int)) ∈ lw_all := lw_g (lw_at lw_m1 231 rfl) rfl
theorem q281 : (Jvm.Cond.methodLink "TransletDesk" (188 : Nat) ({ cls := "TransletDesk", name := "bits", desc := "(I)I" } : Jvm.MethodName)) ∈ lw_all := lw_g (lw_at lw_m1 232 rfl) rfl
theorem q282 : (Jvm.Cond.static ({ cls := "TransletDesk", name := "bits", desc := "(I)I" } : Jvm.MethodName)) ∈ lw_all := lw_g (lw_at lw_m1 233 rfl) rfl
theorem q283 : (Jvm.Cond.code ({ cls := "TransletDesk", name := "bits", desc := "(I)I" } : Jvm.MethodName) prog_1_method_24_code (3 : Nat) (Option.some Jvm.ClassFile.FieldType.int)) ∈ lw_all := lw_g (lw_at lw_m1 234 rfl) rfl
theorem q284 : (Jvm.Cond.methodLink "TransletDesk" (215 : Nat) ({ cls := "TransletDesk", name := "highest", desc := "(I)I" } : Jvm.MethodName)) ∈ lw_all := lw_g (lw_at lw_m1 235 rfl) rfl
theorem q285 : (Jvm.Cond.static ({ cls := "TransletDesk", name := "highest", desc := "(I)I" } : Jvm.MethodName)) ∈ lw_all := lw_g (lw_at lw_m1 236 rfl) rfl
theorem q286 : (Jvm.Cond.code ({ cls := "TransletDesk", name := "highest", desc := "(I)I" } : Jvm.MethodName) prog_1_method_23_code (2 : Nat) (Option.some Jvm.ClassFile.FieldType.int)) ∈ lw_all := lw_g (lw_at lw_m1 237 rfl) rfl
theorem q287 : (Jvm.Cond.methodLink "TransletDesk" (197 : Nat) ({ cls := "TransletDesk", name := "lowest", desc := "(I)I" } : Jvm.MethodName)) ∈ lw_all := lw_g (lw_at lw_m1 238 rfl) rfl
theorem q288 : (Jvm.Cond.static ({ cls := "TransletDesk", name := "lowest", desc := "(I)I" } : Jvm.MethodName)) ∈ lw_all := lw_g (lw_at lw_m1 239 rfl) rfl
theorem q289 : (Jvm.Cond.code ({ cls := "TransletDesk", name := "lowest", desc := "(I)I" } : Jvm.MethodName) prog_1_method_22_code (2 : Nat) (Option.some Jvm.ClassFile.FieldType.int)) ∈ lw_all := lw_g (lw_at lw_m2 0 rfl) rfl
theorem q290 : (Jvm.Cond.methodLink "TransletDesk" (178 : Nat) ({ cls := "TransletDesk", name := "later", desc := "(IIIII)I" } : Jvm.MethodName)) ∈ lw_all := lw_g (lw_at lw_m2 1 rfl) rfl
theorem q291 : (Jvm.Cond.privateMethod ({ cls := "TransletDesk", name := "later", desc := "(IIIII)I" } : Jvm.MethodName)) ∈ lw_tbl := lw_at lw_m2 2 rfl
theorem q292 : (Jvm.Cond.instanceMethod ({ cls := "TransletDesk", name := "later", desc := "(IIIII)I" } : Jvm.MethodName)) ∈ lw_all := lw_g (lw_at lw_m2 3 rfl) rfl
theorem q293 : (Jvm.Cond.code ({ cls := "TransletDesk", name := "later", desc := "(IIIII)I" } : Jvm.MethodName) prog_1_method_35_code (13 : Nat) (Option.some Jvm.ClassFile.FieldType.int)) ∈ lw_all := lw_g (lw_at lw_m2 4 rfl) rfl
theorem q294 : (Jvm.Cond.methodLink "TransletDesk" (182 : Nat) ({ cls := "TransletDesk", name := "join", desc := "(IIIII)I" } : Jvm.MethodName)) ∈ lw_all := lw_g (lw_at lw_m2 5 rfl) rfl
theorem q295 : (Jvm.Cond.privateMethod ({ cls := "TransletDesk", name := "join", desc := "(IIIII)I" } : Jvm.MethodName)) ∈ lw_tbl := lw_at lw_m2 6 rfl
theorem q296 : (Jvm.Cond.instanceMethod ({ cls := "TransletDesk", name := "join", desc := "(IIIII)I" } : Jvm.MethodName)) ∈ lw_all := lw_g (lw_at lw_m2 7 rfl) rfl
theorem q297 : (Jvm.Cond.code ({ cls := "TransletDesk", name := "join", desc := "(IIIII)I" } : Jvm.MethodName) prog_1_method_27_code (8 : Nat) (Option.some Jvm.ClassFile.FieldType.int)) ∈ lw_all := lw_g (lw_at lw_m2 8 rfl) rfl
theorem q298 : (Jvm.Cond.methodLink "TransletDesk" (185 : Nat) ({ cls := "TransletDesk", name := "valueOf", desc := "(I)I" } : Jvm.MethodName)) ∈ lw_all := lw_g (lw_at lw_m2 9 rfl) rfl
theorem q299 : (Jvm.Cond.privateMethod ({ cls := "TransletDesk", name := "valueOf", desc := "(I)I" } : Jvm.MethodName)) ∈ lw_tbl := lw_at lw_m2 10 rfl
theorem q300 : (Jvm.Cond.instanceMethod ({ cls := "TransletDesk", name := "valueOf", desc := "(I)I" } : Jvm.MethodName)) ∈ lw_all := lw_g (lw_at lw_m2 11 rfl) rfl
theorem q301 : (Jvm.Cond.code ({ cls := "TransletDesk", name := "valueOf", desc := "(I)I" } : Jvm.MethodName) prog_1_method_28_code (2 : Nat) (Option.some Jvm.ClassFile.FieldType.int)) ∈ lw_all := lw_g (lw_at lw_m2 12 rfl) rfl
theorem q302 : (Jvm.Cond.methodLink "TransletDesk" (191 : Nat) ({ cls := "TransletDesk", name := "total", desc := "(I)I" } : Jvm.MethodName)) ∈ lw_all := lw_g (lw_at lw_m2 13 rfl) rfl
theorem q303 : (Jvm.Cond.privateMethod ({ cls := "TransletDesk", name := "total", desc := "(I)I" } : Jvm.MethodName)) ∈ lw_tbl := lw_at lw_m2 14 rfl
theorem q304 : (Jvm.Cond.instanceMethod ({ cls := "TransletDesk", name := "total", desc := "(I)I" } : Jvm.MethodName)) ∈ lw_all := lw_g (lw_at lw_m2 15 rfl) rfl
theorem q305 : (Jvm.Cond.code ({ cls := "TransletDesk", name := "total", desc := "(I)I" } : Jvm.MethodName) prog_1_method_29_code (4 : Nat) (Option.some Jvm.ClassFile.FieldType.int)) ∈ lw_all := lw_g (lw_at lw_m2 16 rfl) rfl
theorem q306 : (Jvm.Cond.methodLink "TransletDesk" (194 : Nat) ({ cls := "TransletDesk", name := "compare", desc := "(IIIII)I" } : Jvm.MethodName)) ∈ lw_all := lw_g (lw_at lw_m2 17 rfl) rfl
theorem q307 : (Jvm.Cond.privateMethod ({ cls := "TransletDesk", name := "compare", desc := "(IIIII)I" } : Jvm.MethodName)) ∈ lw_tbl := lw_at lw_m2 18 rfl
theorem q308 : (Jvm.Cond.instanceMethod ({ cls := "TransletDesk", name := "compare", desc := "(IIIII)I" } : Jvm.MethodName)) ∈ lw_all := lw_g (lw_at lw_m2 19 rfl) rfl
theorem q309 : (Jvm.Cond.code ({ cls := "TransletDesk", name := "compare", desc := "(IIIII)I" } : Jvm.MethodName) prog_1_method_30_code (9 : Nat) (Option.some Jvm.ClassFile.FieldType.int)) ∈ lw_all := lw_g (lw_at lw_m2 20 rfl) rfl
theorem q310 : (Jvm.Cond.methodLink "TransletDesk" (200 : Nat) ({ cls := "TransletDesk", name := "extreme", desc := "(IZ)I" } : Jvm.MethodName)) ∈ lw_all := lw_g (lw_at lw_m2 21 rfl) rfl
theorem q311 : (Jvm.Cond.privateMethod ({ cls := "TransletDesk", name := "extreme", desc := "(IZ)I" } : Jvm.MethodName)) ∈ lw_tbl := lw_at lw_m2 22 rfl
theorem q312 : (Jvm.Cond.instanceMethod ({ cls := "TransletDesk", name := "extreme", desc := "(IZ)I" } : Jvm.MethodName)) ∈ lw_all := lw_g (lw_at lw_m2 23 rfl) rfl
theorem q313 : (Jvm.Cond.code ({ cls := "TransletDesk", name := "extreme", desc := "(IZ)I" } : Jvm.MethodName) prog_1_method_31_code (6 : Nat) (Option.some Jvm.ClassFile.FieldType.int)) ∈ lw_all := lw_g (lw_at lw_m2 24 rfl) rfl
theorem q314 : (Jvm.Cond.methodLink "TransletDesk" (204 : Nat) ({ cls := "TransletDesk", name := "has", desc := "(II)Z" } : Jvm.MethodName)) ∈ lw_all := lw_g (lw_at lw_m2 25 rfl) rfl
theorem q315 : (Jvm.Cond.privateMethod ({ cls := "TransletDesk", name := "has", desc := "(II)Z" } : Jvm.MethodName)) ∈ lw_tbl := lw_at lw_m2 26 rfl
theorem q316 : (Jvm.Cond.instanceMethod ({ cls := "TransletDesk", name := "has", desc := "(II)Z" } : Jvm.MethodName)) ∈ lw_all := lw_g (lw_at lw_m2 27 rfl) rfl
theorem q317 : (Jvm.Cond.code ({ cls := "TransletDesk", name := "has", desc := "(II)Z" } : Jvm.MethodName) prog_1_method_32_code (4 : Nat) (Option.some Jvm.ClassFile.FieldType.boolean)) ∈ lw_all := lw_g (lw_at lw_m2 28 rfl) rfl
theorem q318 : (Jvm.Cond.methodLink "TransletDesk" (175 : Nat) ({ cls := "TransletDesk", name := "fill", desc := "(II)V" } : Jvm.MethodName)) ∈ lw_all := lw_g (lw_at lw_m2 29 rfl) rfl
theorem q319 : (Jvm.Cond.privateMethod ({ cls := "TransletDesk", name := "fill", desc := "(II)V" } : Jvm.MethodName)) ∈ lw_tbl := lw_at lw_m2 30 rfl
theorem q320 : (Jvm.Cond.instanceMethod ({ cls := "TransletDesk", name := "fill", desc := "(II)V" } : Jvm.MethodName)) ∈ lw_all := lw_g (lw_at lw_m2 31 rfl) rfl
theorem q321 : (Jvm.Cond.code ({ cls := "TransletDesk", name := "fill", desc := "(II)V" } : Jvm.MethodName) prog_1_method_26_code (10 : Nat) (Option.none : Option Jvm.ClassFile.FieldType)) ∈ lw_all := lw_g (lw_at lw_m2 32 rfl) rfl
theorem q323 : (Jvm.Cond.instanceMethod ({ cls := "TransletDesk", name := "at", desc := "(III)I" } : Jvm.MethodName)) ∈ lw_all := lw_g (lw_at lw_m2 34 rfl) rfl
theorem q324 : (Jvm.Cond.selects "TransletDesk" ({ cls := "TransletDesk", name := "at", desc := "(III)I" } : Jvm.MethodName) ({ cls := "TransletDesk", name := "at", desc := "(III)I" } : Jvm.MethodName)) ∈ lw_all := lw_g (lw_at lw_m2 35 rfl) rfl
theorem q325 : (Jvm.Cond.code ({ cls := "TransletDesk", name := "at", desc := "(III)I" } : Jvm.MethodName) prog_1_method_39_code (6 : Nat) (Option.some Jvm.ClassFile.FieldType.int)) ∈ lw_all := lw_g (lw_at lw_m2 36 rfl) rfl
theorem q327 : (Jvm.Cond.instanceMethod ({ cls := "TransletDesk", name := "number", desc := "(II)I" } : Jvm.MethodName)) ∈ lw_all := lw_g (lw_at lw_m2 38 rfl) rfl
theorem q328 : (Jvm.Cond.selects "TransletDesk" ({ cls := "TransletDesk", name := "number", desc := "(II)I" } : Jvm.MethodName) ({ cls := "TransletDesk", name := "number", desc := "(II)I" } : Jvm.MethodName)) ∈ lw_all := lw_g (lw_at lw_m2 39 rfl) rfl
theorem q329 : (Jvm.Cond.code ({ cls := "TransletDesk", name := "number", desc := "(II)I" } : Jvm.MethodName) prog_1_method_40_code (4 : Nat) (Option.some Jvm.ClassFile.FieldType.int)) ∈ lw_all := lw_g (lw_at lw_m2 40 rfl) rfl
theorem q331 : (Jvm.Cond.instanceMethod ({ cls := "TransletDesk", name := "holds", desc := "(II)Z" } : Jvm.MethodName)) ∈ lw_all := lw_g (lw_at lw_m2 42 rfl) rfl
theorem q332 : (Jvm.Cond.selects "TransletDesk" ({ cls := "TransletDesk", name := "holds", desc := "(II)Z" } : Jvm.MethodName) ({ cls := "TransletDesk", name := "holds", desc := "(II)Z" } : Jvm.MethodName)) ∈ lw_all := lw_g (lw_at lw_m2 43 rfl) rfl
theorem q333 : (Jvm.Cond.code ({ cls := "TransletDesk", name := "holds", desc := "(II)Z" } : Jvm.MethodName) prog_1_method_41_code (3 : Nat) (Option.some Jvm.ClassFile.FieldType.boolean)) ∈ lw_all := lw_g (lw_at lw_m2 44 rfl) rfl
theorem q335 : (Jvm.Cond.instanceMethod ({ cls := "TransletDesk", name := "template", desc := "(IIIII)Z" } : Jvm.MethodName)) ∈ lw_all := lw_g (lw_at lw_m2 46 rfl) rfl
theorem q336 : (Jvm.Cond.selects "TransletDesk" ({ cls := "TransletDesk", name := "template", desc := "(IIIII)Z" } : Jvm.MethodName) ({ cls := "TransletDesk", name := "template", desc := "(IIIII)Z" } : Jvm.MethodName)) ∈ lw_all := lw_g (lw_at lw_m2 47 rfl) rfl
theorem q337 : (Jvm.Cond.code ({ cls := "TransletDesk", name := "template", desc := "(IIIII)Z" } : Jvm.MethodName) prog_1_method_42_code (6 : Nat) (Option.some Jvm.ClassFile.FieldType.boolean)) ∈ lw_all := lw_g (lw_at lw_m2 48 rfl) rfl
theorem q339 : (Jvm.Cond.instanceMethod ({ cls := "TransletDesk", name := "drop", desc := "(I)Z" } : Jvm.MethodName)) ∈ lw_all := lw_g (lw_at lw_m2 50 rfl) rfl
theorem q340 : (Jvm.Cond.selects "TransletDesk" ({ cls := "TransletDesk", name := "drop", desc := "(I)Z" } : Jvm.MethodName) ({ cls := "TransletDesk", name := "drop", desc := "(I)Z" } : Jvm.MethodName)) ∈ lw_all := lw_g (lw_at lw_m2 51 rfl) rfl
theorem q341 : (Jvm.Cond.code ({ cls := "TransletDesk", name := "drop", desc := "(I)Z" } : Jvm.MethodName) prog_1_method_43_code (2 : Nat) (Option.some Jvm.ClassFile.FieldType.boolean)) ∈ lw_all := lw_g (lw_at lw_m2 52 rfl) rfl
theorem q343 : (Jvm.Cond.instanceMethod ({ cls := "TransletDesk", name := "matches", desc := "(II)Z" } : Jvm.MethodName)) ∈ lw_all := lw_g (lw_at lw_m2 54 rfl) rfl
theorem q344 : (Jvm.Cond.selects "TransletDesk" ({ cls := "TransletDesk", name := "matches", desc := "(II)Z" } : Jvm.MethodName) ({ cls := "TransletDesk", name := "matches", desc := "(II)Z" } : Jvm.MethodName)) ∈ lw_all := lw_g (lw_at lw_m2 55 rfl) rfl
theorem q345 : (Jvm.Cond.code ({ cls := "TransletDesk", name := "matches", desc := "(II)Z" } : Jvm.MethodName) prog_1_method_45_code (3 : Nat) (Option.some Jvm.ClassFile.FieldType.boolean)) ∈ lw_all := lw_g (lw_at lw_m2 56 rfl) rfl
theorem q346 : (Jvm.Cond.methodLink "TransletDesk" (227 : Nat) ({ cls := "TransletDesk", name := "sort", desc := "()V" } : Jvm.MethodName)) ∈ lw_all := lw_g (lw_at lw_m2 57 rfl) rfl
theorem q347 : (Jvm.Cond.privateMethod ({ cls := "TransletDesk", name := "sort", desc := "()V" } : Jvm.MethodName)) ∈ lw_tbl := lw_at lw_m2 58 rfl
theorem q348 : (Jvm.Cond.instanceMethod ({ cls := "TransletDesk", name := "sort", desc := "()V" } : Jvm.MethodName)) ∈ lw_all := lw_g (lw_at lw_m2 59 rfl) rfl
theorem q349 : (Jvm.Cond.code ({ cls := "TransletDesk", name := "sort", desc := "()V" } : Jvm.MethodName) prog_1_method_44_code (5 : Nat) (Option.none : Option Jvm.ClassFile.FieldType)) ∈ lw_all := lw_g (lw_at lw_m2 60 rfl) rfl
theorem q351 : (Jvm.Cond.instanceMethod ({ cls := "TransletDesk", name := "transform", desc := "(I)I" } : Jvm.MethodName)) ∈ lw_all := lw_g (lw_at lw_m2 62 rfl) rfl
theorem q352 : (Jvm.Cond.selects "TransletDesk" ({ cls := "TransletDesk", name := "transform", desc := "(I)I" } : Jvm.MethodName) ({ cls := "TransletDesk", name := "transform", desc := "(I)I" } : Jvm.MethodName)) ∈ lw_all := lw_g (lw_at lw_m2 63 rfl) rfl
theorem q353 : (Jvm.Cond.code ({ cls := "TransletDesk", name := "transform", desc := "(I)I" } : Jvm.MethodName) prog_1_method_46_code (9 : Nat) (Option.some Jvm.ClassFile.FieldType.int)) ∈ lw_all := lw_g (lw_at lw_m2 64 rfl) rfl
theorem q354 : (Jvm.Cond.methodLink "TransletDesk" (233 : Nat) ({ cls := "TransletDesk", name := "apply", desc := "(II)I" } : Jvm.MethodName)) ∈ lw_all := lw_g (lw_at lw_m2 65 rfl) rfl
theorem q355 : (Jvm.Cond.privateMethod ({ cls := "TransletDesk", name := "apply", desc := "(II)I" } : Jvm.MethodName)) ∈ lw_tbl := lw_at lw_m2 66 rfl
theorem q356 : (Jvm.Cond.instanceMethod ({ cls := "TransletDesk", name := "apply", desc := "(II)I" } : Jvm.MethodName)) ∈ lw_all := lw_g (lw_at lw_m2 67 rfl) rfl
theorem q357 : (Jvm.Cond.code ({ cls := "TransletDesk", name := "apply", desc := "(II)I" } : Jvm.MethodName) prog_1_method_47_code (5 : Nat) (Option.some Jvm.ClassFile.FieldType.int)) ∈ lw_all := lw_g (lw_at lw_m2 68 rfl) rfl
theorem q359 : (Jvm.Cond.instanceMethod ({ cls := "TransletDesk", name := "output", desc := "(I)I" } : Jvm.MethodName)) ∈ lw_all := lw_g (lw_at lw_m2 70 rfl) rfl
theorem q360 : (Jvm.Cond.selects "TransletDesk" ({ cls := "TransletDesk", name := "output", desc := "(I)I" } : Jvm.MethodName) ({ cls := "TransletDesk", name := "output", desc := "(I)I" } : Jvm.MethodName)) ∈ lw_all := lw_g (lw_at lw_m2 71 rfl) rfl
theorem q361 : (Jvm.Cond.code ({ cls := "TransletDesk", name := "output", desc := "(I)I" } : Jvm.MethodName) prog_1_method_48_code (2 : Nat) (Option.some Jvm.ClassFile.FieldType.int)) ∈ lw_all := lw_g (lw_at lw_m2 72 rfl) rfl
theorem in_X0 : ∀ w ∈ wsX00, w ∈ lw_all := lw_in wsX00 [99, 101, 103, 105, 107, 109, 111, 113, 115, 117, 119, 121, 123, 125, 127, 129, 131, 133, 135, 137, 139, 141, 143, 145, 147, 149, 151, 153, 155, 157, 159, 161, 163, 165, 167, 169, 171, 173, 175] (by decide +kernel) (by decide +kernel)
