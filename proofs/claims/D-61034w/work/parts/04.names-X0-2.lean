set_option maxRecDepth 100000
theorem dX0_onward_16 : decode cX0_onward 16 = .ok (.iload_n 1, 1) := by decide +kernel
theorem dX0_onward_17 : decode cX0_onward 17 = .ok (.istore_n 3, 1) := by decide +kernel
theorem dX0_onward_18 : decode cX0_onward 18 = .ok (.aload_n 0, 1) := by decide +kernel
theorem dX0_onward_19 : decode cX0_onward 19 = .ok (.getfield 36, 3) := by decide +kernel
theorem dX0_onward_22 : decode cX0_onward 22 = .ok (.aload_n 0, 1) := by decide +kernel
theorem dX0_onward_23 : decode cX0_onward 23 = .ok (.getfield 30, 3) := by decide +kernel
theorem dX0_onward_26 : decode cX0_onward 26 = .ok (.iload_n 3, 1) := by decide +kernel
theorem dX0_onward_27 : decode cX0_onward 27 = .ok (.baload, 1) := by decide +kernel
theorem dX0_onward_28 : decode cX0_onward 28 = .ok (.iload_n 2, 1) := by decide +kernel
theorem dX0_onward_29 : decode cX0_onward 29 = .ok (.i2b, 1) := by decide +kernel
theorem dX0_onward_30 : decode cX0_onward 30 = .ok (.bastore, 1) := by decide +kernel
theorem dX0_onward_31 : decode cX0_onward 31 = .ok (.aload_n 0, 1) := by decide +kernel
theorem dX0_onward_32 : decode cX0_onward 32 = .ok (.getfield 23, 3) := by decide +kernel
theorem dX0_onward_35 : decode cX0_onward 35 = .ok (.iload_n 3, 1) := by decide +kernel
theorem dX0_onward_36 : decode cX0_onward 36 = .ok (.baload, 1) := by decide +kernel
theorem dX0_onward_37 : decode cX0_onward 37 = .ok (.ifCond .ge 35, 3) := by decide +kernel
theorem dX0_onward_40 : decode cX0_onward 40 = .ok (.aload_n 0, 1) := by decide +kernel
theorem dX0_onward_41 : decode cX0_onward 41 = .ok (.getfield 17, 3) := by decide +kernel
theorem dX0_onward_44 : decode cX0_onward 44 = .ok (.iload_n 3, 1) := by decide +kernel
theorem dX0_onward_45 : decode cX0_onward 45 = .ok (.baload, 1) := by decide +kernel
theorem dX0_onward_46 : decode cX0_onward 46 = .ok (.ifCond .lt 26, 3) := by decide +kernel
theorem dX0_onward_49 : decode cX0_onward 49 = .ok (.aload_n 0, 1) := by decide +kernel
theorem dX0_onward_50 : decode cX0_onward 50 = .ok (.getfield 17, 3) := by decide +kernel
theorem dX0_onward_53 : decode cX0_onward 53 = .ok (.iload_n 3, 1) := by decide +kernel
theorem dX0_onward_54 : decode cX0_onward 54 = .ok (.baload, 1) := by decide +kernel
theorem dX0_onward_55 : decode cX0_onward 55 = .ok (.istore_n 3, 1) := by decide +kernel
theorem dX0_onward_56 : decode cX0_onward 56 = .ok (.aload_n 0, 1) := by decide +kernel
theorem dX0_onward_57 : decode cX0_onward 57 = .ok (.getfield 36, 3) := by decide +kernel
theorem dX0_onward_60 : decode cX0_onward 60 = .ok (.aload_n 0, 1) := by decide +kernel
theorem dX0_onward_61 : decode cX0_onward 61 = .ok (.getfield 30, 3) := by decide +kernel
theorem dX0_onward_64 : decode cX0_onward 64 = .ok (.iload_n 3, 1) := by decide +kernel
theorem dX0_onward_65 : decode cX0_onward 65 = .ok (.baload, 1) := by decide +kernel
theorem dX0_onward_66 : decode cX0_onward 66 = .ok (.iload_n 2, 1) := by decide +kernel
theorem dX0_onward_67 : decode cX0_onward 67 = .ok (.i2b, 1) := by decide +kernel
theorem dX0_onward_68 : decode cX0_onward 68 = .ok (.bastore, 1) := by decide +kernel
theorem dX0_onward_69 : decode cX0_onward 69 = .ok (.goto (-38), 3) := by decide +kernel
theorem dX0_onward_72 : decode cX0_onward 72 = .ok (.aload_n 0, 1) := by decide +kernel
theorem dX0_onward_73 : decode cX0_onward 73 = .ok (.getfield 23, 3) := by decide +kernel
theorem dX0_onward_76 : decode cX0_onward 76 = .ok (.iload_n 3, 1) := by decide +kernel
theorem dX0_onward_77 : decode cX0_onward 77 = .ok (.baload, 1) := by decide +kernel
theorem dX0_onward_78 : decode cX0_onward 78 = .ok (.ireturn, 1) := by decide +kernel
abbrev cX0_unlink : ByteArray := prog_1_method_7_code
def yX0_unlink : MethodName := ⟨RX0, "unlink", "(I)V"⟩
theorem dX0_unlink_0 : decode cX0_unlink 0 = .ok (.aload_n 0, 1) := by decide +kernel
theorem dX0_unlink_1 : decode cX0_unlink 1 = .ok (.getfield 17, 3) := by decide +kernel
theorem dX0_unlink_4 : decode cX0_unlink 4 = .ok (.iload_n 1, 1) := by decide +kernel
theorem dX0_unlink_5 : decode cX0_unlink 5 = .ok (.baload, 1) := by decide +kernel
theorem dX0_unlink_6 : decode cX0_unlink 6 = .ok (.istore_n 2, 1) := by decide +kernel
theorem dX0_unlink_7 : decode cX0_unlink 7 = .ok (.aload_n 0, 1) := by decide +kernel
theorem dX0_unlink_8 : decode cX0_unlink 8 = .ok (.getfield 20, 3) := by decide +kernel
theorem dX0_unlink_11 : decode cX0_unlink 11 = .ok (.iload_n 2, 1) := by decide +kernel
theorem dX0_unlink_12 : decode cX0_unlink 12 = .ok (.baload, 1) := by decide +kernel
theorem dX0_unlink_13 : decode cX0_unlink 13 = .ok (.iload_n 1, 1) := by decide +kernel
theorem dX0_unlink_14 : decode cX0_unlink 14 = .ok (.if_icmp .ne 16, 3) := by decide +kernel
theorem dX0_unlink_17 : decode cX0_unlink 17 = .ok (.aload_n 0, 1) := by decide +kernel
theorem dX0_unlink_18 : decode cX0_unlink 18 = .ok (.getfield 20, 3) := by decide +kernel
theorem dX0_unlink_21 : decode cX0_unlink 21 = .ok (.iload_n 2, 1) := by decide +kernel
theorem dX0_unlink_22 : decode cX0_unlink 22 = .ok (.aload_n 0, 1) := by decide +kernel
theorem dX0_unlink_23 : decode cX0_unlink 23 = .ok (.getfield 23, 3) := by decide +kernel
theorem dX0_unlink_26 : decode cX0_unlink 26 = .ok (.iload_n 1, 1) := by decide +kernel
theorem dX0_unlink_27 : decode cX0_unlink 27 = .ok (.baload, 1) := by decide +kernel
theorem dX0_unlink_28 : decode cX0_unlink 28 = .ok (.bastore, 1) := by decide +kernel
theorem dX0_unlink_29 : decode cX0_unlink 29 = .ok (.return_, 1) := by decide +kernel
theorem dX0_unlink_30 : decode cX0_unlink 30 = .ok (.aload_n 0, 1) := by decide +kernel
theorem dX0_unlink_31 : decode cX0_unlink 31 = .ok (.getfield 20, 3) := by decide +kernel
theorem dX0_unlink_34 : decode cX0_unlink 34 = .ok (.iload_n 2, 1) := by decide +kernel
theorem dX0_unlink_35 : decode cX0_unlink 35 = .ok (.baload, 1) := by decide +kernel
theorem dX0_unlink_36 : decode cX0_unlink 36 = .ok (.istore_n 3, 1) := by decide +kernel
theorem dX0_unlink_37 : decode cX0_unlink 37 = .ok (.aload_n 0, 1) := by decide +kernel
theorem dX0_unlink_38 : decode cX0_unlink 38 = .ok (.getfield 23, 3) := by decide +kernel
theorem dX0_unlink_41 : decode cX0_unlink 41 = .ok (.iload_n 3, 1) := by decide +kernel
theorem dX0_unlink_42 : decode cX0_unlink 42 = .ok (.baload, 1) := by decide +kernel
theorem dX0_unlink_43 : decode cX0_unlink 43 = .ok (.iload_n 1, 1) := by decide +kernel
theorem dX0_unlink_44 : decode cX0_unlink 44 = .ok (.if_icmp .eq 13, 3) := by decide +kernel
theorem dX0_unlink_47 : decode cX0_unlink 47 = .ok (.aload_n 0, 1) := by decide +kernel
theorem dX0_unlink_48 : decode cX0_unlink 48 = .ok (.getfield 23, 3) := by decide +kernel
theorem dX0_unlink_51 : decode cX0_unlink 51 = .ok (.iload_n 3, 1) := by decide +kernel
theorem dX0_unlink_52 : decode cX0_unlink 52 = .ok (.baload, 1) := by decide +kernel
theorem dX0_unlink_53 : decode cX0_unlink 53 = .ok (.istore_n 3, 1) := by decide +kernel
theorem dX0_unlink_54 : decode cX0_unlink 54 = .ok (.goto (-17), 3) := by decide +kernel
theorem dX0_unlink_57 : decode cX0_unlink 57 = .ok (.aload_n 0, 1) := by decide +kernel
theorem dX0_unlink_58 : decode cX0_unlink 58 = .ok (.getfield 23, 3) := by decide +kernel
theorem dX0_unlink_61 : decode cX0_unlink 61 = .ok (.iload_n 3, 1) := by decide +kernel
theorem dX0_unlink_62 : decode cX0_unlink 62 = .ok (.aload_n 0, 1) := by decide +kernel
theorem dX0_unlink_63 : decode cX0_unlink 63 = .ok (.getfield 23, 3) := by decide +kernel
theorem dX0_unlink_66 : decode cX0_unlink 66 = .ok (.iload_n 1, 1) := by decide +kernel
theorem dX0_unlink_67 : decode cX0_unlink 67 = .ok (.baload, 1) := by decide +kernel
theorem dX0_unlink_68 : decode cX0_unlink 68 = .ok (.bastore, 1) := by decide +kernel
theorem dX0_unlink_69 : decode cX0_unlink 69 = .ok (.return_, 1) := by decide +kernel
abbrev cX0_move : ByteArray := prog_1_method_10_code
def yX0_move : MethodName := ⟨RX0, "move", "(III)Z"⟩
theorem dX0_move_0 : decode cX0_move 0 = .ok (.aload_n 0, 1) := by decide +kernel
theorem dX0_move_1 : decode cX0_move 1 = .ok (.iload_n 1, 1) := by decide +kernel
theorem dX0_move_2 : decode cX0_move 2 = .ok (.invokevirtual 132, 3) := by decide +kernel
theorem dX0_move_5 : decode cX0_move 5 = .ok (.ifCond .eq 11, 3) := by decide +kernel
theorem dX0_move_8 : decode cX0_move 8 = .ok (.aload_n 0, 1) := by decide +kernel
theorem dX0_move_9 : decode cX0_move 9 = .ok (.iload_n 2, 1) := by decide +kernel
theorem dX0_move_10 : decode cX0_move 10 = .ok (.invokevirtual 132, 3) := by decide +kernel
theorem dX0_move_13 : decode cX0_move 13 = .ok (.ifCond .ne 5, 3) := by decide +kernel
theorem dX0_move_16 : decode cX0_move 16 = .ok (.iconst 0, 1) := by decide +kernel
theorem dX0_move_17 : decode cX0_move 17 = .ok (.ireturn, 1) := by decide +kernel
theorem dX0_move_18 : decode cX0_move 18 = .ok (.iload_n 2, 1) := by decide +kernel
theorem dX0_move_19 : decode cX0_move 19 = .ok (.istore 4, 2) := by decide +kernel
theorem dX0_move_21 : decode cX0_move 21 = .ok (.iload 4, 2) := by decide +kernel
theorem dX0_move_23 : decode cX0_move 23 = .ok (.ifCond .lt 23, 3) := by decide +kernel
theorem dX0_move_26 : decode cX0_move 26 = .ok (.iload 4, 2) := by decide +kernel
theorem dX0_move_28 : decode cX0_move 28 = .ok (.iload_n 1, 1) := by decide +kernel
theorem dX0_move_29 : decode cX0_move 29 = .ok (.if_icmp .ne 5, 3) := by decide +kernel
theorem dX0_move_32 : decode cX0_move 32 = .ok (.iconst 0, 1) := by decide +kernel
theorem dX0_move_33 : decode cX0_move 33 = .ok (.ireturn, 1) := by decide +kernel
theorem dX0_move_34 : decode cX0_move 34 = .ok (.aload_n 0, 1) := by decide +kernel
theorem dX0_move_35 : decode cX0_move 35 = .ok (.getfield 17, 3) := by decide +kernel
theorem dX0_move_38 : decode cX0_move 38 = .ok (.iload 4, 2) := by decide +kernel
theorem dX0_move_40 : decode cX0_move 40 = .ok (.baload, 1) := by decide +kernel
theorem dX0_move_41 : decode cX0_move 41 = .ok (.istore 4, 2) := by decide +kernel
theorem dX0_move_43 : decode cX0_move 43 = .ok (.goto (-22), 3) := by decide +kernel
theorem dX0_move_46 : decode cX0_move 46 = .ok (.aload_n 0, 1) := by decide +kernel
theorem dX0_move_47 : decode cX0_move 47 = .ok (.iload_n 2, 1) := by decide +kernel
theorem dX0_move_48 : decode cX0_move 48 = .ok (.invokevirtual 135, 3) := by decide +kernel
theorem dX0_move_51 : decode cX0_move 51 = .ok (.aload_n 0, 1) := by decide +kernel
theorem dX0_move_52 : decode cX0_move 52 = .ok (.getfield 17, 3) := by decide +kernel
theorem dX0_move_55 : decode cX0_move 55 = .ok (.iload_n 1, 1) := by decide +kernel
theorem dX0_move_56 : decode cX0_move 56 = .ok (.baload, 1) := by decide +kernel
theorem dX0_move_57 : decode cX0_move 57 = .ok (.iload_n 2, 1) := by decide +kernel
theorem dX0_move_58 : decode cX0_move 58 = .ok (.if_icmp .ne 7, 3) := by decide +kernel
theorem dX0_move_61 : decode cX0_move 61 = .ok (.iconst 1, 1) := by decide +kernel
theorem dX0_move_62 : decode cX0_move 62 = .ok (.goto 4, 3) := by decide +kernel
theorem dX0_move_65 : decode cX0_move 65 = .ok (.iconst 0, 1) := by decide +kernel
theorem dX0_move_66 : decode cX0_move 66 = .ok (.isub, 1) := by decide +kernel
theorem dX0_move_67 : decode cX0_move 67 = .ok (.istore 4, 2) := by decide +kernel
theorem dX0_move_69 : decode cX0_move 69 = .ok (.iload_n 3, 1) := by decide +kernel
theorem dX0_move_70 : decode cX0_move 70 = .ok (.ifCond .lt 9, 3) := by decide +kernel
theorem dX0_move_73 : decode cX0_move 73 = .ok (.iload_n 3, 1) := by decide +kernel
theorem dX0_move_74 : decode cX0_move 74 = .ok (.iload 4, 2) := by decide +kernel
theorem dX0_move_76 : decode cX0_move 76 = .ok (.if_icmp .le 5, 3) := by decide +kernel
theorem dX0_move_79 : decode cX0_move 79 = .ok (.iconst 0, 1) := by decide +kernel
theorem dX0_move_80 : decode cX0_move 80 = .ok (.ireturn, 1) := by decide +kernel
theorem dX0_move_81 : decode cX0_move 81 = .ok (.aload_n 0, 1) := by decide +kernel
theorem dX0_move_82 : decode cX0_move 82 = .ok (.iload_n 1, 1) := by decide +kernel
theorem dX0_move_83 : decode cX0_move 83 = .ok (.invokevirtual 149, 3) := by decide +kernel
theorem dX0_move_86 : decode cX0_move 86 = .ok (.aload_n 0, 1) := by decide +kernel
theorem dX0_move_87 : decode cX0_move 87 = .ok (.iload_n 1, 1) := by decide +kernel
theorem dX0_move_88 : decode cX0_move 88 = .ok (.iload_n 2, 1) := by decide +kernel
theorem dX0_move_89 : decode cX0_move 89 = .ok (.iload_n 3, 1) := by decide +kernel
theorem dX0_move_90 : decode cX0_move 90 = .ok (.invokevirtual 139, 3) := by decide +kernel
theorem dX0_move_93 : decode cX0_move 93 = .ok (.aload_n 0, 1) := by decide +kernel
theorem dX0_move_94 : decode cX0_move 94 = .ok (.invokevirtual 143, 3) := by decide +kernel
theorem dX0_move_97 : decode cX0_move 97 = .ok (.iconst 1, 1) := by decide +kernel
theorem dX0_move_98 : decode cX0_move 98 = .ok (.ireturn, 1) := by decide +kernel
abbrev cX0_change : ByteArray := prog_1_method_11_code
def yX0_change : MethodName := ⟨RX0, "change", "(III)Z"⟩
theorem dX0_change_0 : decode cX0_change 0 = .ok (.aload_n 0, 1) := by decide +kernel
theorem dX0_change_1 : decode cX0_change 1 = .ok (.iload_n 1, 1) := by decide +kernel
theorem dX0_change_2 : decode cX0_change 2 = .ok (.invokevirtual 132, 3) := by decide +kernel
theorem dX0_change_5 : decode cX0_change 5 = .ok (.ifCond .eq 10, 3) := by decide +kernel
theorem dX0_change_8 : decode cX0_change 8 = .ok (.iload_n 2, 1) := by decide +kernel
theorem dX0_change_9 : decode cX0_change 9 = .ok (.invokestatic 125, 3) := by decide +kernel
theorem dX0_change_12 : decode cX0_change 12 = .ok (.ifCond .ne 5, 3) := by decide +kernel
theorem dX0_change_15 : decode cX0_change 15 = .ok (.iconst 0, 1) := by decide +kernel
theorem dX0_change_16 : decode cX0_change 16 = .ok (.ireturn, 1) := by decide +kernel
theorem dX0_change_17 : decode cX0_change 17 = .ok (.aload_n 0, 1) := by decide +kernel
theorem dX0_change_18 : decode cX0_change 18 = .ok (.getfield 7, 3) := by decide +kernel
theorem dX0_change_21 : decode cX0_change 21 = .ok (.iload_n 1, 1) := by decide +kernel
theorem dX0_change_22 : decode cX0_change 22 = .ok (.iload_n 2, 1) := by decide +kernel
theorem dX0_change_23 : decode cX0_change 23 = .ok (.i2b, 1) := by decide +kernel
theorem dX0_change_24 : decode cX0_change 24 = .ok (.bastore, 1) := by decide +kernel
theorem dX0_change_25 : decode cX0_change 25 = .ok (.aload_n 0, 1) := by decide +kernel
theorem dX0_change_26 : decode cX0_change 26 = .ok (.getfield 13, 3) := by decide +kernel
theorem dX0_change_29 : decode cX0_change 29 = .ok (.iload_n 1, 1) := by decide +kernel
theorem dX0_change_30 : decode cX0_change 30 = .ok (.iload_n 3, 1) := by decide +kernel
theorem dX0_change_31 : decode cX0_change 31 = .ok (.iastore, 1) := by decide +kernel
theorem dX0_change_32 : decode cX0_change 32 = .ok (.aload_n 0, 1) := by decide +kernel
theorem dX0_change_33 : decode cX0_change 33 = .ok (.invokevirtual 143, 3) := by decide +kernel
theorem dX0_change_36 : decode cX0_change 36 = .ok (.iconst 1, 1) := by decide +kernel
theorem dX0_change_37 : decode cX0_change 37 = .ok (.ireturn, 1) := by decide +kernel
abbrev cX0_child : ByteArray := prog_1_method_12_code
def yX0_child : MethodName := ⟨RX0, "child", "(II)I"⟩
theorem dX0_child_0 : decode cX0_child 0 = .ok (.aload_n 0, 1) := by decide +kernel
theorem dX0_child_1 : decode cX0_child 1 = .ok (.iload_n 1, 1) := by decide +kernel
theorem dX0_child_2 : decode cX0_child 2 = .ok (.invokevirtual 132, 3) := by decide +kernel
theorem dX0_child_5 : decode cX0_child 5 = .ok (.ifCond .eq 7, 3) := by decide +kernel
theorem dX0_child_8 : decode cX0_child 8 = .ok (.iload_n 2, 1) := by decide +kernel
theorem dX0_child_9 : decode cX0_child 9 = .ok (.ifCond .ge 5, 3) := by decide +kernel
theorem dX0_child_12 : decode cX0_child 12 = .ok (.iconst (-1), 1) := by decide +kernel
theorem dX0_child_13 : decode cX0_child 13 = .ok (.ireturn, 1) := by decide +kernel
theorem dX0_child_14 : decode cX0_child 14 = .ok (.aload_n 0, 1) := by decide +kernel
theorem dX0_child_15 : decode cX0_child 15 = .ok (.getfield 20, 3) := by decide +kernel
theorem dX0_child_18 : decode cX0_child 18 = .ok (.iload_n 1, 1) := by decide +kernel
theorem dX0_child_19 : decode cX0_child 19 = .ok (.baload, 1) := by decide +kernel
theorem dX0_child_20 : decode cX0_child 20 = .ok (.istore_n 3, 1) := by decide +kernel
theorem dX0_child_21 : decode cX0_child 21 = .ok (.iconst 0, 1) := by decide +kernel
theorem dX0_child_22 : decode cX0_child 22 = .ok (.istore 4, 2) := by decide +kernel
theorem dX0_child_24 : decode cX0_child 24 = .ok (.iload 4, 2) := by decide +kernel
theorem dX0_child_26 : decode cX0_child 26 = .ok (.iload_n 2, 1) := by decide +kernel
theorem dX0_child_27 : decode cX0_child 27 = .ok (.if_icmp .ge 20, 3) := by decide +kernel
theorem dX0_child_30 : decode cX0_child 30 = .ok (.iload_n 3, 1) := by decide +kernel
theorem dX0_child_31 : decode cX0_child 31 = .ok (.ifCond .lt 16, 3) := by decide +kernel
theorem dX0_child_34 : decode cX0_child 34 = .ok (.aload_n 0, 1) := by decide +kernel
theorem dX0_child_35 : decode cX0_child 35 = .ok (.getfield 23, 3) := by decide +kernel
theorem dX0_child_38 : decode cX0_child 38 = .ok (.iload_n 3, 1) := by decide +kernel
theorem dX0_child_39 : decode cX0_child 39 = .ok (.baload, 1) := by decide +kernel
theorem dX0_child_40 : decode cX0_child 40 = .ok (.istore_n 3, 1) := by decide +kernel
theorem dX0_child_41 : decode cX0_child 41 = .ok (.iinc 4 1, 3) := by decide +kernel
theorem dX0_child_44 : decode cX0_child 44 = .ok (.goto (-20), 3) := by decide +kernel
theorem dX0_child_47 : decode cX0_child 47 = .ok (.iload_n 3, 1) := by decide +kernel
theorem dX0_child_48 : decode cX0_child 48 = .ok (.ireturn, 1) := by decide +kernel
abbrev cX0_token : ByteArray := prog_1_method_16_code
def yX0_token : MethodName := ⟨RX0, "token", "(II)I"⟩
theorem dX0_token_0 : decode cX0_token 0 = .ok (.iload_n 1, 1) := by decide +kernel
theorem dX0_token_1 : decode cX0_token 1 = .ok (.ifCond .lt 21, 3) := by decide +kernel
theorem dX0_token_4 : decode cX0_token 4 = .ok (.iload_n 1, 1) := by decide +kernel
theorem dX0_token_5 : decode cX0_token 5 = .ok (.bipush 17, 2) := by decide +kernel
theorem dX0_token_7 : decode cX0_token 7 = .ok (.if_icmp .gt 15, 3) := by decide +kernel
theorem dX0_token_10 : decode cX0_token 10 = .ok (.aload_n 0, 1) := by decide +kernel
theorem dX0_token_11 : decode cX0_token 11 = .ok (.getfield 70, 3) := by decide +kernel
theorem dX0_token_14 : decode cX0_token 14 = .ok (.bipush 8, 2) := by decide +kernel
theorem dX0_token_16 : decode cX0_token 16 = .ok (.baload, 1) := by decide +kernel
theorem dX0_token_17 : decode cX0_token 17 = .ok (.bipush 40, 2) := by decide +kernel
theorem dX0_token_19 : decode cX0_token 19 = .ok (.if_icmp .ne 5, 3) := by decide +kernel
theorem dX0_token_22 : decode cX0_token 22 = .ok (.iconst (-1), 1) := by decide +kernel
theorem dX0_token_23 : decode cX0_token 23 = .ok (.ireturn, 1) := by decide +kernel
theorem dX0_token_24 : decode cX0_token 24 = .ok (.iload_n 1, 1) := by decide +kernel
theorem dX0_token_25 : decode cX0_token 25 = .ok (.iconst 2, 1) := by decide +kernel
theorem dX0_token_26 : decode cX0_token 26 = .ok (.if_icmp .ne 36, 3) := by decide +kernel
theorem dX0_token_29 : decode cX0_token 29 = .ok (.iload_n 2, 1) := by decide +kernel
theorem dX0_token_30 : decode cX0_token 30 = .ok (.ifCond .lt 30, 3) := by decide +kernel
theorem dX0_token_33 : decode cX0_token 33 = .ok (.iload_n 2, 1) := by decide +kernel
theorem dX0_token_34 : decode cX0_token 34 = .ok (.sipush 383, 3) := by decide +kernel
theorem dX0_token_37 : decode cX0_token 37 = .ok (.if_icmp .gt 23, 3) := by decide +kernel
theorem dX0_token_40 : decode cX0_token 40 = .ok (.iload_n 2, 1) := by decide +kernel
theorem dX0_token_41 : decode cX0_token 41 = .ok (.bipush 15, 2) := by decide +kernel
theorem dX0_token_43 : decode cX0_token 43 = .ok (.iand, 1) := by decide +kernel
theorem dX0_token_44 : decode cX0_token 44 = .ok (.bipush 10, 2) := by decide +kernel
theorem dX0_token_46 : decode cX0_token 46 = .ok (.if_icmp .gt 14, 3) := by decide +kernel
theorem dX0_token_49 : decode cX0_token 49 = .ok (.iload_n 2, 1) := by decide +kernel
theorem dX0_token_50 : decode cX0_token 50 = .ok (.iconst 4, 1) := by decide +kernel
theorem dX0_token_51 : decode cX0_token 51 = .ok (.ishr, 1) := by decide +kernel
theorem dX0_token_52 : decode cX0_token 52 = .ok (.bipush 7, 2) := by decide +kernel
theorem dX0_token_54 : decode cX0_token 54 = .ok (.iand, 1) := by decide +kernel
theorem dX0_token_55 : decode cX0_token 55 = .ok (.bipush 6, 2) := by decide +kernel
theorem dX0_token_57 : decode cX0_token 57 = .ok (.if_icmp .le 5, 3) := by decide +kernel
theorem dX0_token_60 : decode cX0_token 60 = .ok (.iconst (-1), 1) := by decide +kernel
theorem dX0_token_61 : decode cX0_token 61 = .ok (.ireturn, 1) := by decide +kernel
theorem dX0_token_62 : decode cX0_token 62 = .ok (.sipush 320, 3) := by decide +kernel
theorem dX0_token_65 : decode cX0_token 65 = .ok (.aload_n 0, 1) := by decide +kernel
theorem dX0_token_66 : decode cX0_token 66 = .ok (.getfield 70, 3) := by decide +kernel
theorem dX0_token_69 : decode cX0_token 69 = .ok (.bipush 8, 2) := by decide +kernel
theorem dX0_token_71 : decode cX0_token 71 = .ok (.dup2, 1) := by decide +kernel
theorem dX0_token_72 : decode cX0_token 72 = .ok (.baload, 1) := by decide +kernel
theorem dX0_token_73 : decode cX0_token 73 = .ok (.dup_x2, 1) := by decide +kernel
theorem dX0_token_74 : decode cX0_token 74 = .ok (.iconst 1, 1) := by decide +kernel
theorem dX0_token_75 : decode cX0_token 75 = .ok (.iadd, 1) := by decide +kernel
theorem dX0_token_76 : decode cX0_token 76 = .ok (.i2b, 1) := by decide +kernel
theorem dX0_token_77 : decode cX0_token 77 = .ok (.bastore, 1) := by decide +kernel
theorem dX0_token_78 : decode cX0_token 78 = .ok (.iadd, 1) := by decide +kernel
theorem dX0_token_79 : decode cX0_token 79 = .ok (.istore_n 3, 1) := by decide +kernel
theorem dX0_token_80 : decode cX0_token 80 = .ok (.aload_n 0, 1) := by decide +kernel
theorem dX0_token_81 : decode cX0_token 81 = .ok (.getfield 54, 3) := by decide +kernel
theorem dX0_token_84 : decode cX0_token 84 = .ok (.iload_n 3, 1) := by decide +kernel
theorem dX0_token_85 : decode cX0_token 85 = .ok (.iload_n 1, 1) := by decide +kernel
theorem dX0_token_86 : decode cX0_token 86 = .ok (.i2b, 1) := by decide +kernel
theorem dX0_token_87 : decode cX0_token 87 = .ok (.bastore, 1) := by decide +kernel
theorem dX0_token_88 : decode cX0_token 88 = .ok (.aload_n 0, 1) := by decide +kernel
theorem dX0_token_89 : decode cX0_token 89 = .ok (.getfield 57, 3) := by decide +kernel
theorem dX0_token_92 : decode cX0_token 92 = .ok (.iload_n 3, 1) := by decide +kernel
theorem dX0_token_93 : decode cX0_token 93 = .ok (.iload_n 1, 1) := by decide +kernel
theorem dX0_token_94 : decode cX0_token 94 = .ok (.iconst 2, 1) := by decide +kernel
theorem dX0_token_95 : decode cX0_token 95 = .ok (.if_icmp .eq 8, 3) := by decide +kernel
theorem dX0_token_98 : decode cX0_token 98 = .ok (.iload_n 1, 1) := by decide +kernel
theorem dX0_token_99 : decode cX0_token 99 = .ok (.iconst 4, 1) := by decide +kernel
theorem dX0_token_100 : decode cX0_token 100 = .ok (.if_icmp .ne 7, 3) := by decide +kernel
theorem dX0_token_103 : decode cX0_token 103 = .ok (.iload_n 2, 1) := by decide +kernel
theorem dX0_token_104 : decode cX0_token 104 = .ok (.goto 4, 3) := by decide +kernel
theorem dX0_token_107 : decode cX0_token 107 = .ok (.iconst 0, 1) := by decide +kernel
theorem dX0_token_108 : decode cX0_token 108 = .ok (.iastore, 1) := by decide +kernel
theorem dX0_token_109 : decode cX0_token 109 = .ok (.aload_n 0, 1) := by decide +kernel
theorem dX0_token_110 : decode cX0_token 110 = .ok (.getfield 70, 3) := by decide +kernel
theorem dX0_token_113 : decode cX0_token 113 = .ok (.bipush 8, 2) := by decide +kernel
theorem dX0_token_115 : decode cX0_token 115 = .ok (.baload, 1) := by decide +kernel
theorem dX0_token_116 : decode cX0_token 116 = .ok (.ireturn, 1) := by decide +kernel
abbrev cX0_expression : ByteArray := prog_1_method_19_code
def yX0_expression : MethodName := ⟨RX0, "expression", "(I)I"⟩
theorem dX0_expression_0 : decode cX0_expression 0 = .ok (.iload_n 1, 1) := by decide +kernel
theorem dX0_expression_1 : decode cX0_expression 1 = .ok (.ifCond .lt 9, 3) := by decide +kernel
theorem dX0_expression_4 : decode cX0_expression 4 = .ok (.iload_n 1, 1) := by decide +kernel
theorem dX0_expression_5 : decode cX0_expression 5 = .ok (.bipush 7, 2) := by decide +kernel
theorem dX0_expression_7 : decode cX0_expression 7 = .ok (.if_icmp .le 5, 3) := by decide +kernel
theorem dX0_expression_10 : decode cX0_expression 10 = .ok (.iconst (-1), 1) := by decide +kernel
theorem dX0_expression_11 : decode cX0_expression 11 = .ok (.ireturn, 1) := by decide +kernel
theorem dX0_expression_12 : decode cX0_expression 12 = .ok (.aload_n 0, 1) := by decide +kernel
theorem dX0_expression_13 : decode cX0_expression 13 = .ok (.invokevirtual 164, 3) := by decide +kernel
theorem dX0_expression_16 : decode cX0_expression 16 = .ok (.istore_n 2, 1) := by decide +kernel
theorem dX0_expression_17 : decode cX0_expression 17 = .ok (.aload_n 0, 1) := by decide +kernel
theorem dX0_expression_18 : decode cX0_expression 18 = .ok (.getfield 70, 3) := by decide +kernel
theorem dX0_expression_21 : decode cX0_expression 21 = .ok (.bipush 8, 2) := by decide +kernel
theorem dX0_expression_23 : decode cX0_expression 23 = .ok (.baload, 1) := by decide +kernel
theorem dX0_expression_24 : decode cX0_expression 24 = .ok (.istore_n 3, 1) := by decide +kernel
theorem dX0_expression_25 : decode cX0_expression 25 = .ok (.aload_n 0, 1) := by decide +kernel
theorem dX0_expression_26 : decode cX0_expression 26 = .ok (.getfield 70, 3) := by decide +kernel
theorem dX0_expression_29 : decode cX0_expression 29 = .ok (.bipush 8, 2) := by decide +kernel
theorem dX0_expression_31 : decode cX0_expression 31 = .ok (.iconst 0, 1) := by decide +kernel
theorem dX0_expression_32 : decode cX0_expression 32 = .ok (.bastore, 1) := by decide +kernel
theorem dX0_expression_33 : decode cX0_expression 33 = .ok (.iload_n 2, 1) := by decide +kernel
theorem dX0_expression_34 : decode cX0_expression 34 = .ok (.ifCond .ne 6, 3) := by decide +kernel
theorem dX0_expression_37 : decode cX0_expression 37 = .ok (.bipush (-2), 2) := by decide +kernel
theorem dX0_expression_39 : decode cX0_expression 39 = .ok (.ireturn, 1) := by decide +kernel
theorem dX0_expression_40 : decode cX0_expression 40 = .ok (.iconst 0, 1) := by decide +kernel
theorem dX0_expression_41 : decode cX0_expression 41 = .ok (.istore 4, 2) := by decide +kernel
theorem dX0_expression_43 : decode cX0_expression 43 = .ok (.iload 4, 2) := by decide +kernel
theorem dX0_expression_45 : decode cX0_expression 45 = .ok (.iload_n 3, 1) := by decide +kernel
theorem dX0_expression_46 : decode cX0_expression 46 = .ok (.if_icmp .ge 108, 3) := by decide +kernel
theorem dX0_expression_49 : decode cX0_expression 49 = .ok (.bipush 40, 2) := by decide +kernel
theorem dX0_expression_51 : decode cX0_expression 51 = .ok (.iload_n 1, 1) := by decide +kernel
theorem dX0_expression_52 : decode cX0_expression 52 = .ok (.imul, 1) := by decide +kernel
theorem dX0_expression_53 : decode cX0_expression 53 = .ok (.iload 4, 2) := by decide +kernel
theorem dX0_expression_55 : decode cX0_expression 55 = .ok (.iadd, 1) := by decide +kernel
theorem dX0_expression_56 : decode cX0_expression 56 = .ok (.istore 5, 2) := by decide +kernel
theorem dX0_expression_58 : decode cX0_expression 58 = .ok (.aload_n 0, 1) := by decide +kernel
theorem dX0_expression_59 : decode cX0_expression 59 = .ok (.getfield 54, 3) := by decide +kernel
theorem dX0_expression_62 : decode cX0_expression 62 = .ok (.iload 5, 2) := by decide +kernel
theorem dX0_expression_64 : decode cX0_expression 64 = .ok (.aload_n 0, 1) := by decide +kernel
theorem dX0_expression_65 : decode cX0_expression 65 = .ok (.getfield 54, 3) := by decide +kernel
theorem dX0_expression_68 : decode cX0_expression 68 = .ok (.sipush 320, 3) := by decide +kernel
theorem dX0_expression_71 : decode cX0_expression 71 = .ok (.iload 4, 2) := by decide +kernel
theorem dX0_expression_73 : decode cX0_expression 73 = .ok (.iadd, 1) := by decide +kernel
theorem dX0_expression_74 : decode cX0_expression 74 = .ok (.baload, 1) := by decide +kernel
theorem dX0_expression_75 : decode cX0_expression 75 = .ok (.bastore, 1) := by decide +kernel
theorem dX0_expression_76 : decode cX0_expression 76 = .ok (.aload_n 0, 1) := by decide +kernel
theorem dX0_expression_77 : decode cX0_expression 77 = .ok (.getfield 57, 3) := by decide +kernel
theorem dX0_expression_80 : decode cX0_expression 80 = .ok (.iload 5, 2) := by decide +kernel
theorem dX0_expression_82 : decode cX0_expression 82 = .ok (.aload_n 0, 1) := by decide +kernel
theorem dX0_expression_83 : decode cX0_expression 83 = .ok (.getfield 57, 3) := by decide +kernel
theorem dX0_expression_86 : decode cX0_expression 86 = .ok (.sipush 320, 3) := by decide +kernel
theorem dX0_expression_89 : decode cX0_expression 89 = .ok (.iload 4, 2) := by decide +kernel
theorem dX0_expression_91 : decode cX0_expression 91 = .ok (.iadd, 1) := by decide +kernel
theorem dX0_expression_92 : decode cX0_expression 92 = .ok (.iaload, 1) := by decide +kernel
theorem dX0_expression_93 : decode cX0_expression 93 = .ok (.iastore, 1) := by decide +kernel
theorem dX0_expression_94 : decode cX0_expression 94 = .ok (.aload_n 0, 1) := by decide +kernel
theorem dX0_expression_95 : decode cX0_expression 95 = .ok (.getfield 60, 3) := by decide +kernel
theorem dX0_expression_98 : decode cX0_expression 98 = .ok (.iload 5, 2) := by decide +kernel
theorem dX0_expression_100 : decode cX0_expression 100 = .ok (.aload_n 0, 1) := by decide +kernel
theorem dX0_expression_101 : decode cX0_expression 101 = .ok (.getfield 60, 3) := by decide +kernel
theorem dX0_expression_104 : decode cX0_expression 104 = .ok (.sipush 320, 3) := by decide +kernel
theorem dX0_expression_107 : decode cX0_expression 107 = .ok (.iload 4, 2) := by decide +kernel
theorem dX0_expression_109 : decode cX0_expression 109 = .ok (.iadd, 1) := by decide +kernel
theorem dX0_expression_110 : decode cX0_expression 110 = .ok (.baload, 1) := by decide +kernel
theorem dX0_expression_111 : decode cX0_expression 111 = .ok (.bastore, 1) := by decide +kernel
theorem dX0_expression_112 : decode cX0_expression 112 = .ok (.aload_n 0, 1) := by decide +kernel
theorem dX0_expression_113 : decode cX0_expression 113 = .ok (.getfield 63, 3) := by decide +kernel
theorem dX0_expression_116 : decode cX0_expression 116 = .ok (.iload 5, 2) := by decide +kernel
theorem dX0_expression_118 : decode cX0_expression 118 = .ok (.aload_n 0, 1) := by decide +kernel
theorem dX0_expression_119 : decode cX0_expression 119 = .ok (.getfield 63, 3) := by decide +kernel
theorem dX0_expression_122 : decode cX0_expression 122 = .ok (.sipush 320, 3) := by decide +kernel
theorem dX0_expression_125 : decode cX0_expression 125 = .ok (.iload 4, 2) := by decide +kernel
theorem dX0_expression_127 : decode cX0_expression 127 = .ok (.iadd, 1) := by decide +kernel
theorem dX0_expression_128 : decode cX0_expression 128 = .ok (.baload, 1) := by decide +kernel
theorem dX0_expression_129 : decode cX0_expression 129 = .ok (.bastore, 1) := by decide +kernel
theorem dX0_expression_130 : decode cX0_expression 130 = .ok (.aload_n 0, 1) := by decide +kernel
theorem dX0_expression_131 : decode cX0_expression 131 = .ok (.getfield 66, 3) := by decide +kernel
theorem dX0_expression_134 : decode cX0_expression 134 = .ok (.iload 5, 2) := by decide +kernel
theorem dX0_expression_136 : decode cX0_expression 136 = .ok (.aload_n 0, 1) := by decide +kernel
theorem dX0_expression_137 : decode cX0_expression 137 = .ok (.getfield 66, 3) := by decide +kernel
theorem dX0_expression_140 : decode cX0_expression 140 = .ok (.sipush 320, 3) := by decide +kernel
theorem dX0_expression_143 : decode cX0_expression 143 = .ok (.iload 4, 2) := by decide +kernel
theorem dX0_expression_145 : decode cX0_expression 145 = .ok (.iadd, 1) := by decide +kernel
theorem dX0_expression_146 : decode cX0_expression 146 = .ok (.baload, 1) := by decide +kernel
theorem dX0_expression_147 : decode cX0_expression 147 = .ok (.bastore, 1) := by decide +kernel
theorem dX0_expression_148 : decode cX0_expression 148 = .ok (.iinc 4 1, 3) := by decide +kernel
theorem dX0_expression_151 : decode cX0_expression 151 = .ok (.goto (-108), 3) := by decide +kernel
theorem dX0_expression_154 : decode cX0_expression 154 = .ok (.aload_n 0, 1) := by decide +kernel
theorem dX0_expression_155 : decode cX0_expression 155 = .ok (.getfield 70, 3) := by decide +kernel
theorem dX0_expression_158 : decode cX0_expression 158 = .ok (.iload_n 1, 1) := by decide +kernel
theorem dX0_expression_159 : decode cX0_expression 159 = .ok (.iload_n 3, 1) := by decide +kernel
theorem dX0_expression_160 : decode cX0_expression 160 = .ok (.i2b, 1) := by decide +kernel
theorem dX0_expression_161 : decode cX0_expression 161 = .ok (.bastore, 1) := by decide +kernel
theorem dX0_expression_162 : decode cX0_expression 162 = .ok (.aload_n 0, 1) := by decide +kernel
theorem dX0_expression_163 : decode cX0_expression 163 = .ok (.getfield 82, 3) := by decide +kernel
theorem dX0_expression_166 : decode cX0_expression 166 = .ok (.iload_n 1, 1) := by decide +kernel
theorem dX0_expression_167 : decode cX0_expression 167 = .ok (.iconst 0, 1) := by decide +kernel
theorem dX0_expression_168 : decode cX0_expression 168 = .ok (.bastore, 1) := by decide +kernel
theorem dX0_expression_169 : decode cX0_expression 169 = .ok (.aload_n 0, 1) := by decide +kernel
theorem dX0_expression_170 : decode cX0_expression 170 = .ok (.iconst 0, 1) := by decide +kernel
theorem dX0_expression_171 : decode cX0_expression 171 = .ok (.putfield 122, 3) := by decide +kernel
theorem dX0_expression_174 : decode cX0_expression 174 = .ok (.aload_n 0, 1) := by decide +kernel
theorem dX0_expression_175 : decode cX0_expression 175 = .ok (.getfield 60, 3) := by decide +kernel
theorem dX0_expression_178 : decode cX0_expression 178 = .ok (.bipush 40, 2) := by decide +kernel
theorem dX0_expression_180 : decode cX0_expression 180 = .ok (.iload_n 1, 1) := by decide +kernel
theorem dX0_expression_181 : decode cX0_expression 181 = .ok (.imul, 1) := by decide +kernel
theorem dX0_expression_182 : decode cX0_expression 182 = .ok (.baload, 1) := by decide +kernel
theorem dX0_expression_183 : decode cX0_expression 183 = .ok (.ireturn, 1) := by decide +kernel
abbrev cX0_read : ByteArray := prog_1_method_18_code
def yX0_read : MethodName := ⟨RX0, "read", "()Z"⟩
theorem dX0_read_0 : decode cX0_read 0 = .ok (.aload_n 0, 1) := by decide +kernel
theorem dX0_read_1 : decode cX0_read 1 = .ok (.getfield 70, 3) := by decide +kernel
theorem dX0_read_4 : decode cX0_read 4 = .ok (.bipush 8, 2) := by decide +kernel
theorem dX0_read_6 : decode cX0_read 6 = .ok (.baload, 1) := by decide +kernel
theorem dX0_read_7 : decode cX0_read 7 = .ok (.istore_n 1, 1) := by decide +kernel
theorem dX0_read_8 : decode cX0_read 8 = .ok (.iconst 0, 1) := by decide +kernel
theorem dX0_read_9 : decode cX0_read 9 = .ok (.istore_n 2, 1) := by decide +kernel
theorem dX0_read_10 : decode cX0_read 10 = .ok (.iload_n 1, 1) := by decide +kernel
theorem dX0_read_11 : decode cX0_read 11 = .ok (.iconst 1, 1) := by decide +kernel
theorem dX0_read_12 : decode cX0_read 12 = .ok (.isub, 1) := by decide +kernel
theorem dX0_read_13 : decode cX0_read 13 = .ok (.istore_n 3, 1) := by decide +kernel
theorem dX0_read_14 : decode cX0_read 14 = .ok (.iload_n 3, 1) := by decide +kernel
theorem dX0_read_15 : decode cX0_read 15 = .ok (.ifCond .lt 276, 3) := by decide +kernel
theorem dX0_read_18 : decode cX0_read 18 = .ok (.aload_n 0, 1) := by decide +kernel
theorem dX0_read_19 : decode cX0_read 19 = .ok (.getfield 54, 3) := by decide +kernel
theorem dX0_read_22 : decode cX0_read 22 = .ok (.sipush 320, 3) := by decide +kernel
theorem dX0_read_25 : decode cX0_read 25 = .ok (.iload_n 3, 1) := by decide +kernel
theorem dX0_read_26 : decode cX0_read 26 = .ok (.iadd, 1) := by decide +kernel
theorem dX0_read_27 : decode cX0_read 27 = .ok (.baload, 1) := by decide +kernel
theorem dX0_read_28 : decode cX0_read 28 = .ok (.istore 4, 2) := by decide +kernel
theorem dX0_read_30 : decode cX0_read 30 = .ok (.iload 4, 2) := by decide +kernel
theorem dX0_read_32 : decode cX0_read 32 = .ok (.aload_n 0, 1) := by decide +kernel
theorem dX0_read_33 : decode cX0_read 33 = .ok (.getfield 57, 3) := by decide +kernel
theorem dX0_read_36 : decode cX0_read 36 = .ok (.sipush 320, 3) := by decide +kernel
theorem dX0_read_39 : decode cX0_read 39 = .ok (.iload_n 3, 1) := by decide +kernel
theorem dX0_read_40 : decode cX0_read 40 = .ok (.iadd, 1) := by decide +kernel
theorem dX0_read_41 : decode cX0_read 41 = .ok (.iaload, 1) := by decide +kernel
theorem dX0_read_42 : decode cX0_read 42 = .ok (.invokestatic 157, 3) := by decide +kernel
theorem dX0_read_45 : decode cX0_read 45 = .ok (.istore 5, 2) := by decide +kernel
theorem dX0_read_47 : decode cX0_read 47 = .ok (.iload 5, 2) := by decide +kernel
theorem dX0_read_49 : decode cX0_read 49 = .ok (.iload_n 2, 1) := by decide +kernel
theorem dX0_read_50 : decode cX0_read 50 = .ok (.if_icmp .le 5, 3) := by decide +kernel
theorem dX0_read_53 : decode cX0_read 53 = .ok (.iconst 0, 1) := by decide +kernel
theorem dX0_read_54 : decode cX0_read 54 = .ok (.ireturn, 1) := by decide +kernel
theorem dX0_read_55 : decode cX0_read 55 = .ok (.iload 5, 2) := by decide +kernel
theorem dX0_read_57 : decode cX0_read 57 = .ok (.ifCond .le 14, 3) := by decide +kernel
theorem dX0_read_60 : decode cX0_read 60 = .ok (.aload_n 0, 1) := by decide +kernel
theorem dX0_read_61 : decode cX0_read 61 = .ok (.getfield 73, 3) := by decide +kernel
theorem dX0_read_64 : decode cX0_read 64 = .ok (.iload_n 2, 1) := by decide +kernel
theorem dX0_read_65 : decode cX0_read 65 = .ok (.iconst 1, 1) := by decide +kernel
theorem dX0_read_66 : decode cX0_read 66 = .ok (.isub, 1) := by decide +kernel
theorem dX0_read_67 : decode cX0_read 67 = .ok (.baload, 1) := by decide +kernel
theorem dX0_read_68 : decode cX0_read 68 = .ok (.goto 4, 3) := by decide +kernel
theorem dX0_read_71 : decode cX0_read 71 = .ok (.iconst (-1), 1) := by decide +kernel
theorem dX0_read_72 : decode cX0_read 72 = .ok (.istore 6, 2) := by decide +kernel
theorem dX0_read_74 : decode cX0_read 74 = .ok (.iload 5, 2) := by decide +kernel
theorem dX0_read_76 : decode cX0_read 76 = .ok (.iconst 1, 1) := by decide +kernel
theorem dX0_read_77 : decode cX0_read 77 = .ok (.if_icmp .le 14, 3) := by decide +kernel
theorem dX0_read_80 : decode cX0_read 80 = .ok (.aload_n 0, 1) := by decide +kernel
theorem dX0_read_81 : decode cX0_read 81 = .ok (.getfield 73, 3) := by decide +kernel
theorem dX0_read_84 : decode cX0_read 84 = .ok (.iload_n 2, 1) := by decide +kernel
theorem dX0_read_85 : decode cX0_read 85 = .ok (.iconst 2, 1) := by decide +kernel
theorem dX0_read_86 : decode cX0_read 86 = .ok (.isub, 1) := by decide +kernel
theorem dX0_read_87 : decode cX0_read 87 = .ok (.baload, 1) := by decide +kernel
theorem dX0_read_88 : decode cX0_read 88 = .ok (.goto 4, 3) := by decide +kernel
theorem dX0_read_91 : decode cX0_read 91 = .ok (.iconst (-1), 1) := by decide +kernel
theorem dX0_read_92 : decode cX0_read 92 = .ok (.istore 7, 2) := by decide +kernel
theorem dX0_read_94 : decode cX0_read 94 = .ok (.iload 4, 2) := by decide +kernel
theorem dX0_read_96 : decode cX0_read 96 = .ok (.iload 6, 2) := by decide +kernel
theorem dX0_read_98 : decode cX0_read 98 = .ok (.ifCond .ge 7, 3) := by decide +kernel
theorem dX0_read_101 : decode cX0_read 101 = .ok (.iconst 1, 1) := by decide +kernel
theorem dX0_read_102 : decode cX0_read 102 = .ok (.goto 14, 3) := by decide +kernel
theorem dX0_read_105 : decode cX0_read 105 = .ok (.aload_n 0, 1) := by decide +kernel
theorem dX0_read_106 : decode cX0_read 106 = .ok (.getfield 60, 3) := by decide +kernel
theorem dX0_read_109 : decode cX0_read 109 = .ok (.sipush 320, 3) := by decide +kernel
theorem dX0_read_112 : decode cX0_read 112 = .ok (.iload 6, 2) := by decide +kernel
theorem dX0_read_114 : decode cX0_read 114 = .ok (.iadd, 1) := by decide +kernel
theorem dX0_read_115 : decode cX0_read 115 = .ok (.baload, 1) := by decide +kernel
theorem dX0_read_116 : decode cX0_read 116 = .ok (.iload 7, 2) := by decide +kernel
theorem dX0_read_118 : decode cX0_read 118 = .ok (.ifCond .ge 7, 3) := by decide +kernel
theorem dX0_read_121 : decode cX0_read 121 = .ok (.iconst 1, 1) := by decide +kernel
theorem dX0_read_122 : decode cX0_read 122 = .ok (.goto 14, 3) := by decide +kernel
theorem dX0_read_125 : decode cX0_read 125 = .ok (.aload_n 0, 1) := by decide +kernel
theorem dX0_read_126 : decode cX0_read 126 = .ok (.getfield 60, 3) := by decide +kernel
theorem dX0_read_129 : decode cX0_read 129 = .ok (.sipush 320, 3) := by decide +kernel
theorem dX0_read_132 : decode cX0_read 132 = .ok (.iload 7, 2) := by decide +kernel
theorem dX0_read_134 : decode cX0_read 134 = .ok (.iadd, 1) := by decide +kernel
theorem dX0_read_135 : decode cX0_read 135 = .ok (.baload, 1) := by decide +kernel
theorem dX0_read_136 : decode cX0_read 136 = .ok (.invokestatic 160, 3) := by decide +kernel
theorem dX0_read_139 : decode cX0_read 139 = .ok (.istore 8, 2) := by decide +kernel
theorem dX0_read_141 : decode cX0_read 141 = .ok (.iload 8, 2) := by decide +kernel
theorem dX0_read_143 : decode cX0_read 143 = .ok (.ifCond .ge 5, 3) := by decide +kernel
theorem dX0_read_146 : decode cX0_read 146 = .ok (.iconst 0, 1) := by decide +kernel
theorem dX0_read_147 : decode cX0_read 147 = .ok (.ireturn, 1) := by decide +kernel
theorem dX0_read_148 : decode cX0_read 148 = .ok (.aload_n 0, 1) := by decide +kernel
theorem dX0_read_149 : decode cX0_read 149 = .ok (.getfield 60, 3) := by decide +kernel
theorem dX0_read_152 : decode cX0_read 152 = .ok (.sipush 320, 3) := by decide +kernel
theorem dX0_read_155 : decode cX0_read 155 = .ok (.iload_n 3, 1) := by decide +kernel
theorem dX0_read_156 : decode cX0_read 156 = .ok (.iadd, 1) := by decide +kernel
theorem dX0_read_157 : decode cX0_read 157 = .ok (.iload 8, 2) := by decide +kernel
theorem dX0_read_159 : decode cX0_read 159 = .ok (.i2b, 1) := by decide +kernel
theorem dX0_read_160 : decode cX0_read 160 = .ok (.bastore, 1) := by decide +kernel
theorem dX0_read_161 : decode cX0_read 161 = .ok (.aload_n 0, 1) := by decide +kernel
theorem dX0_read_162 : decode cX0_read 162 = .ok (.getfield 63, 3) := by decide +kernel
theorem dX0_read_165 : decode cX0_read 165 = .ok (.sipush 320, 3) := by decide +kernel
theorem dX0_read_168 : decode cX0_read 168 = .ok (.iload_n 3, 1) := by decide +kernel
theorem dX0_read_169 : decode cX0_read 169 = .ok (.iadd, 1) := by decide +kernel
theorem dX0_read_170 : decode cX0_read 170 = .ok (.iload 5, 2) := by decide +kernel
theorem dX0_read_172 : decode cX0_read 172 = .ok (.ifCond .ne 9, 3) := by decide +kernel
theorem dX0_read_175 : decode cX0_read 175 = .ok (.iload_n 3, 1) := by decide +kernel
theorem dX0_read_176 : decode cX0_read 176 = .ok (.iconst 1, 1) := by decide +kernel
theorem dX0_read_177 : decode cX0_read 177 = .ok (.iadd, 1) := by decide +kernel
theorem dX0_read_178 : decode cX0_read 178 = .ok (.goto 21, 3) := by decide +kernel
theorem dX0_read_181 : decode cX0_read 181 = .ok (.aload_n 0, 1) := by decide +kernel
theorem dX0_read_182 : decode cX0_read 182 = .ok (.getfield 63, 3) := by decide +kernel
theorem dX0_read_185 : decode cX0_read 185 = .ok (.sipush 320, 3) := by decide +kernel
theorem dX0_read_188 : decode cX0_read 188 = .ok (.aload_n 0, 1) := by decide +kernel
theorem dX0_read_189 : decode cX0_read 189 = .ok (.getfield 73, 3) := by decide +kernel
theorem dX0_read_192 : decode cX0_read 192 = .ok (.iload_n 2, 1) := by decide +kernel
theorem dX0_read_193 : decode cX0_read 193 = .ok (.iload 5, 2) := by decide +kernel
theorem dX0_read_195 : decode cX0_read 195 = .ok (.isub, 1) := by decide +kernel
theorem dX0_read_196 : decode cX0_read 196 = .ok (.baload, 1) := by decide +kernel
theorem dX0_read_197 : decode cX0_read 197 = .ok (.iadd, 1) := by decide +kernel
theorem dX0_read_198 : decode cX0_read 198 = .ok (.baload, 1) := by decide +kernel
theorem dX0_read_199 : decode cX0_read 199 = .ok (.i2b, 1) := by decide +kernel
theorem dX0_read_200 : decode cX0_read 200 = .ok (.bastore, 1) := by decide +kernel
theorem dX0_read_201 : decode cX0_read 201 = .ok (.aload_n 0, 1) := by decide +kernel
theorem dX0_read_202 : decode cX0_read 202 = .ok (.getfield 66, 3) := by decide +kernel
theorem dX0_read_205 : decode cX0_read 205 = .ok (.sipush 320, 3) := by decide +kernel
theorem dX0_read_208 : decode cX0_read 208 = .ok (.iload_n 3, 1) := by decide +kernel
theorem dX0_read_209 : decode cX0_read 209 = .ok (.iadd, 1) := by decide +kernel
theorem dX0_read_210 : decode cX0_read 210 = .ok (.iload 4, 2) := by decide +kernel
theorem dX0_read_212 : decode cX0_read 212 = .ok (.iconst 5, 1) := by decide +kernel
theorem dX0_read_213 : decode cX0_read 213 = .ok (.if_icmp .eq 50, 3) := by decide +kernel
theorem dX0_read_216 : decode cX0_read 216 = .ok (.iload 4, 2) := by decide +kernel
theorem dX0_read_218 : decode cX0_read 218 = .ok (.bipush 6, 2) := by decide +kernel
theorem dX0_read_220 : decode cX0_read 220 = .ok (.if_icmp .eq 43, 3) := by decide +kernel
theorem dX0_read_223 : decode cX0_read 223 = .ok (.iload 4, 2) := by decide +kernel
theorem dX0_read_225 : decode cX0_read 225 = .ok (.bipush 10, 2) := by decide +kernel
theorem dX0_read_227 : decode cX0_read 227 = .ok (.if_icmp .lt 40, 3) := by decide +kernel
theorem dX0_read_230 : decode cX0_read 230 = .ok (.aload_n 0, 1) := by decide +kernel
theorem dX0_read_231 : decode cX0_read 231 = .ok (.getfield 66, 3) := by decide +kernel
theorem dX0_read_234 : decode cX0_read 234 = .ok (.sipush 320, 3) := by decide +kernel
theorem dX0_read_237 : decode cX0_read 237 = .ok (.iload 6, 2) := by decide +kernel
theorem dX0_read_239 : decode cX0_read 239 = .ok (.iadd, 1) := by decide +kernel
theorem dX0_read_240 : decode cX0_read 240 = .ok (.baload, 1) := by decide +kernel
theorem dX0_read_241 : decode cX0_read 241 = .ok (.ifCond .ne 22, 3) := by decide +kernel
theorem dX0_read_244 : decode cX0_read 244 = .ok (.iload 7, 2) := by decide +kernel
theorem dX0_read_246 : decode cX0_read 246 = .ok (.ifCond .lt 21, 3) := by decide +kernel
theorem dX0_read_249 : decode cX0_read 249 = .ok (.aload_n 0, 1) := by decide +kernel
theorem dX0_read_250 : decode cX0_read 250 = .ok (.getfield 66, 3) := by decide +kernel
theorem dX0_read_253 : decode cX0_read 253 = .ok (.sipush 320, 3) := by decide +kernel
theorem dX0_read_256 : decode cX0_read 256 = .ok (.iload 7, 2) := by decide +kernel
theorem dX0_read_258 : decode cX0_read 258 = .ok (.iadd, 1) := by decide +kernel
theorem dX0_read_259 : decode cX0_read 259 = .ok (.baload, 1) := by decide +kernel
theorem dX0_read_260 : decode cX0_read 260 = .ok (.ifCond .eq 7, 3) := by decide +kernel
theorem dX0_read_263 : decode cX0_read 263 = .ok (.iconst 1, 1) := by decide +kernel
theorem dX0_read_264 : decode cX0_read 264 = .ok (.goto 4, 3) := by decide +kernel
theorem dX0_read_267 : decode cX0_read 267 = .ok (.iconst 0, 1) := by decide +kernel
theorem dX0_read_268 : decode cX0_read 268 = .ok (.bastore, 1) := by decide +kernel
theorem dX0_read_269 : decode cX0_read 269 = .ok (.iload_n 2, 1) := by decide +kernel
theorem dX0_read_270 : decode cX0_read 270 = .ok (.iload 5, 2) := by decide +kernel
theorem dX0_read_272 : decode cX0_read 272 = .ok (.isub, 1) := by decide +kernel
theorem dX0_read_273 : decode cX0_read 273 = .ok (.istore_n 2, 1) := by decide +kernel
theorem dX0_read_274 : decode cX0_read 274 = .ok (.aload_n 0, 1) := by decide +kernel
theorem dX0_read_275 : decode cX0_read 275 = .ok (.getfield 73, 3) := by decide +kernel
theorem dX0_read_278 : decode cX0_read 278 = .ok (.iload_n 2, 1) := by decide +kernel
theorem dX0_read_279 : decode cX0_read 279 = .ok (.iinc 2 1, 3) := by decide +kernel
theorem dX0_read_282 : decode cX0_read 282 = .ok (.iload_n 3, 1) := by decide +kernel
theorem dX0_read_283 : decode cX0_read 283 = .ok (.i2b, 1) := by decide +kernel
theorem dX0_read_284 : decode cX0_read 284 = .ok (.bastore, 1) := by decide +kernel
theorem dX0_read_285 : decode cX0_read 285 = .ok (.iinc 3 (-1), 3) := by decide +kernel
theorem dX0_read_288 : decode cX0_read 288 = .ok (.goto (-274), 3) := by decide +kernel
theorem dX0_read_291 : decode cX0_read 291 = .ok (.iload_n 2, 1) := by decide +kernel
theorem dX0_read_292 : decode cX0_read 292 = .ok (.iconst 1, 1) := by decide +kernel
theorem dX0_read_293 : decode cX0_read 293 = .ok (.if_icmp .ne 7, 3) := by decide +kernel
theorem dX0_read_296 : decode cX0_read 296 = .ok (.iconst 1, 1) := by decide +kernel
theorem dX0_read_297 : decode cX0_read 297 = .ok (.goto 4, 3) := by decide +kernel
theorem dX0_read_300 : decode cX0_read 300 = .ok (.iconst 0, 1) := by decide +kernel
theorem dX0_read_301 : decode cX0_read 301 = .ok (.ireturn, 1) := by decide +kernel
abbrev cX0_arity : ByteArray := prog_1_method_15_code
def yX0_arity : MethodName := ⟨RX0, "arity", "(II)I"⟩
theorem dX0_arity_0 : decode cX0_arity 0 = .ok (.iload_n 0, 1) := by decide +kernel
theorem dX0_arity_1 : decode cX0_arity 1 = .ok (.iconst 2, 1) := by decide +kernel
theorem dX0_arity_2 : decode cX0_arity 2 = .ok (.if_icmp .lt 14, 3) := by decide +kernel
theorem dX0_arity_5 : decode cX0_arity 5 = .ok (.iload_n 0, 1) := by decide +kernel
theorem dX0_arity_6 : decode cX0_arity 6 = .ok (.iconst 4, 1) := by decide +kernel
theorem dX0_arity_7 : decode cX0_arity 7 = .ok (.if_icmp .lt 11, 3) := by decide +kernel
theorem dX0_arity_10 : decode cX0_arity 10 = .ok (.iload_n 0, 1) := by decide +kernel
theorem dX0_arity_11 : decode cX0_arity 11 = .ok (.bipush 7, 2) := by decide +kernel
theorem dX0_arity_13 : decode cX0_arity 13 = .ok (.if_icmp .ge 5, 3) := by decide +kernel
theorem dX0_arity_16 : decode cX0_arity 16 = .ok (.iconst 0, 1) := by decide +kernel
theorem dX0_arity_17 : decode cX0_arity 17 = .ok (.ireturn, 1) := by decide +kernel
theorem dX0_arity_18 : decode cX0_arity 18 = .ok (.iload_n 0, 1) := by decide +kernel
