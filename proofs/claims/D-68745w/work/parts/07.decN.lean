/-! names and decode rows, printed by mk.py -/
abbrev y_X_need : MethodName := ⟨"StateExplorer", "need", "(Z)V"⟩
abbrev b_X_need : ByteArray := prog_1_method_2_code
theorem d_X_need_0 : decode b_X_need 0 = .ok (.iload_n 0, 1) := by decide +kernel
theorem d_X_need_1 : decode b_X_need 1 = .ok (.ifCond .ne 11, 3) := by decide +kernel
theorem d_X_need_4 : decode b_X_need 4 = .ok (.new 72, 3) := by decide +kernel
theorem d_X_need_7 : decode b_X_need 7 = .ok (.dup, 1) := by decide +kernel
theorem d_X_need_8 : decode b_X_need 8 = .ok (.invokespecial 74, 3) := by decide +kernel
theorem d_X_need_11 : decode b_X_need 11 = .ok (.athrow, 1) := by decide +kernel
theorem d_X_need_12 : decode b_X_need 12 = .ok (.return_, 1) := by decide +kernel
abbrev y_N_mark : MethodName := ⟨"StateExplorer$Nodes", "mark", "(LStateExplorer$Nodes;I)I"⟩
abbrev b_N_mark : ByteArray := prog_2_method_13_code
theorem d_N_mark_0 : decode b_N_mark 0 = .ok (.iload_n 1, 1) := by decide +kernel
theorem d_N_mark_1 : decode b_N_mark 1 = .ok (.iconst 2, 1) := by decide +kernel
theorem d_N_mark_2 : decode b_N_mark 2 = .ok (.if_icmp .lt 12, 3) := by decide +kernel
theorem d_N_mark_5 : decode b_N_mark 5 = .ok (.aload_n 0, 1) := by decide +kernel
theorem d_N_mark_6 : decode b_N_mark 6 = .ok (.getfield 30, 3) := by decide +kernel
theorem d_N_mark_9 : decode b_N_mark 9 = .ok (.iload_n 1, 1) := by decide +kernel
theorem d_N_mark_10 : decode b_N_mark 10 = .ok (.baload, 1) := by decide +kernel
theorem d_N_mark_11 : decode b_N_mark 11 = .ok (.ifCond .eq 5, 3) := by decide +kernel
theorem d_N_mark_14 : decode b_N_mark 14 = .ok (.iconst 0, 1) := by decide +kernel
theorem d_N_mark_15 : decode b_N_mark 15 = .ok (.ireturn, 1) := by decide +kernel
theorem d_N_mark_16 : decode b_N_mark 16 = .ok (.aload_n 0, 1) := by decide +kernel
theorem d_N_mark_17 : decode b_N_mark 17 = .ok (.getfield 30, 3) := by decide +kernel
theorem d_N_mark_20 : decode b_N_mark 20 = .ok (.iload_n 1, 1) := by decide +kernel
theorem d_N_mark_21 : decode b_N_mark 21 = .ok (.iconst 1, 1) := by decide +kernel
theorem d_N_mark_22 : decode b_N_mark 22 = .ok (.bastore, 1) := by decide +kernel
theorem d_N_mark_23 : decode b_N_mark 23 = .ok (.iconst 1, 1) := by decide +kernel
theorem d_N_mark_24 : decode b_N_mark 24 = .ok (.aload_n 0, 1) := by decide +kernel
theorem d_N_mark_25 : decode b_N_mark 25 = .ok (.aload_n 0, 1) := by decide +kernel
theorem d_N_mark_26 : decode b_N_mark 26 = .ok (.getfield 16, 3) := by decide +kernel
theorem d_N_mark_29 : decode b_N_mark 29 = .ok (.iload_n 1, 1) := by decide +kernel
theorem d_N_mark_30 : decode b_N_mark 30 = .ok (.iaload, 1) := by decide +kernel
theorem d_N_mark_31 : decode b_N_mark 31 = .ok (.invokestatic 82, 3) := by decide +kernel
theorem d_N_mark_34 : decode b_N_mark 34 = .ok (.iadd, 1) := by decide +kernel
theorem d_N_mark_35 : decode b_N_mark 35 = .ok (.aload_n 0, 1) := by decide +kernel
theorem d_N_mark_36 : decode b_N_mark 36 = .ok (.aload_n 0, 1) := by decide +kernel
theorem d_N_mark_37 : decode b_N_mark 37 = .ok (.getfield 20, 3) := by decide +kernel
theorem d_N_mark_40 : decode b_N_mark 40 = .ok (.iload_n 1, 1) := by decide +kernel
theorem d_N_mark_41 : decode b_N_mark 41 = .ok (.iaload, 1) := by decide +kernel
theorem d_N_mark_42 : decode b_N_mark 42 = .ok (.invokestatic 82, 3) := by decide +kernel
theorem d_N_mark_45 : decode b_N_mark 45 = .ok (.iadd, 1) := by decide +kernel
theorem d_N_mark_46 : decode b_N_mark 46 = .ok (.ireturn, 1) := by decide +kernel
abbrev y_N_isTight : MethodName := ⟨"StateExplorer$Nodes", "isTight", "()Z"⟩
abbrev b_N_isTight : ByteArray := prog_2_method_12_code
theorem d_N_isTight_0 : decode b_N_isTight 0 = .ok (.aload_n 0, 1) := by decide +kernel
theorem d_N_isTight_1 : decode b_N_isTight 1 = .ok (.getfield 57, 3) := by decide +kernel
theorem d_N_isTight_4 : decode b_N_isTight 4 = .ok (.ldc 81, 2) := by decide +kernel
theorem d_N_isTight_6 : decode b_N_isTight 6 = .ok (.if_icmp .ge 7, 3) := by decide +kernel
theorem d_N_isTight_9 : decode b_N_isTight 9 = .ok (.iconst 1, 1) := by decide +kernel
theorem d_N_isTight_10 : decode b_N_isTight 10 = .ok (.goto 4, 3) := by decide +kernel
theorem d_N_isTight_13 : decode b_N_isTight 13 = .ok (.iconst 0, 1) := by decide +kernel
theorem d_N_isTight_14 : decode b_N_isTight 14 = .ok (.ireturn, 1) := by decide +kernel
abbrev y_N_mixed : MethodName := ⟨"StateExplorer$Nodes", "mixed", "(III)I"⟩
abbrev b_N_mixed : ByteArray := prog_2_method_3_code
theorem d_N_mixed_0 : decode b_N_mixed 0 = .ok (.iload_n 0, 1) := by decide +kernel
theorem d_N_mixed_1 : decode b_N_mixed 1 = .ok (.ldc 63, 2) := by decide +kernel
theorem d_N_mixed_3 : decode b_N_mixed 3 = .ok (.imul, 1) := by decide +kernel
theorem d_N_mixed_4 : decode b_N_mixed 4 = .ok (.iload_n 1, 1) := by decide +kernel
theorem d_N_mixed_5 : decode b_N_mixed 5 = .ok (.ldc 64, 2) := by decide +kernel
theorem d_N_mixed_7 : decode b_N_mixed 7 = .ok (.imul, 1) := by decide +kernel
theorem d_N_mixed_8 : decode b_N_mixed 8 = .ok (.ixor, 1) := by decide +kernel
theorem d_N_mixed_9 : decode b_N_mixed 9 = .ok (.iload_n 2, 1) := by decide +kernel
theorem d_N_mixed_10 : decode b_N_mixed 10 = .ok (.ldc 65, 2) := by decide +kernel
theorem d_N_mixed_12 : decode b_N_mixed 12 = .ok (.imul, 1) := by decide +kernel
theorem d_N_mixed_13 : decode b_N_mixed 13 = .ok (.ixor, 1) := by decide +kernel
theorem d_N_mixed_14 : decode b_N_mixed 14 = .ok (.istore_n 3, 1) := by decide +kernel
theorem d_N_mixed_15 : decode b_N_mixed 15 = .ok (.iload_n 3, 1) := by decide +kernel
theorem d_N_mixed_16 : decode b_N_mixed 16 = .ok (.iload_n 3, 1) := by decide +kernel
theorem d_N_mixed_17 : decode b_N_mixed 17 = .ok (.bipush 15, 2) := by decide +kernel
theorem d_N_mixed_19 : decode b_N_mixed 19 = .ok (.iushr, 1) := by decide +kernel
theorem d_N_mixed_20 : decode b_N_mixed 20 = .ok (.ixor, 1) := by decide +kernel
theorem d_N_mixed_21 : decode b_N_mixed 21 = .ok (.ireturn, 1) := by decide +kernel
abbrev y_N_chain : MethodName := ⟨"StateExplorer$Nodes", "chain", "(III)I"⟩
abbrev b_N_chain : ByteArray := prog_2_method_4_code
theorem d_N_chain_0 : decode b_N_chain 0 = .ok (.iload_n 1, 1) := by decide +kernel
theorem d_N_chain_1 : decode b_N_chain 1 = .ok (.iload_n 2, 1) := by decide +kernel
theorem d_N_chain_2 : decode b_N_chain 2 = .ok (.iload_n 3, 1) := by decide +kernel
theorem d_N_chain_3 : decode b_N_chain 3 = .ok (.invokestatic 66, 3) := by decide +kernel
theorem d_N_chain_6 : decode b_N_chain 6 = .ok (.sipush 32767, 3) := by decide +kernel
theorem d_N_chain_9 : decode b_N_chain 9 = .ok (.iand, 1) := by decide +kernel
theorem d_N_chain_10 : decode b_N_chain 10 = .ok (.ireturn, 1) := by decide +kernel
abbrev y_N_unmark : MethodName := ⟨"StateExplorer$Nodes", "unmark", "()V"⟩
abbrev b_N_unmark : ByteArray := prog_2_method_14_code
theorem d_N_unmark_0 : decode b_N_unmark 0 = .ok (.iconst 0, 1) := by decide +kernel
theorem d_N_unmark_1 : decode b_N_unmark 1 = .ok (.istore_n 1, 1) := by decide +kernel
theorem d_N_unmark_2 : decode b_N_unmark 2 = .ok (.iload_n 1, 1) := by decide +kernel
theorem d_N_unmark_3 : decode b_N_unmark 3 = .ok (.aload_n 0, 1) := by decide +kernel
theorem d_N_unmark_4 : decode b_N_unmark 4 = .ok (.getfield 38, 3) := by decide +kernel
theorem d_N_unmark_7 : decode b_N_unmark 7 = .ok (.if_icmp .ge 16, 3) := by decide +kernel
theorem d_N_unmark_10 : decode b_N_unmark 10 = .ok (.aload_n 0, 1) := by decide +kernel
theorem d_N_unmark_11 : decode b_N_unmark 11 = .ok (.getfield 30, 3) := by decide +kernel
theorem d_N_unmark_14 : decode b_N_unmark 14 = .ok (.iload_n 1, 1) := by decide +kernel
theorem d_N_unmark_15 : decode b_N_unmark 15 = .ok (.iconst 0, 1) := by decide +kernel
theorem d_N_unmark_16 : decode b_N_unmark 16 = .ok (.bastore, 1) := by decide +kernel
theorem d_N_unmark_17 : decode b_N_unmark 17 = .ok (.iinc 1 1, 3) := by decide +kernel
theorem d_N_unmark_20 : decode b_N_unmark 20 = .ok (.goto (-18), 3) := by decide +kernel
theorem d_N_unmark_23 : decode b_N_unmark 23 = .ok (.return_, 1) := by decide +kernel
abbrev y_N_forget : MethodName := ⟨"StateExplorer$Nodes", "forget", "()V"⟩
abbrev b_N_forget : ByteArray := prog_2_method_2_code
theorem d_N_forget_0 : decode b_N_forget 0 = .ok (.iconst 0, 1) := by decide +kernel
theorem d_N_forget_1 : decode b_N_forget 1 = .ok (.istore_n 1, 1) := by decide +kernel
theorem d_N_forget_2 : decode b_N_forget 2 = .ok (.iload_n 1, 1) := by decide +kernel
theorem d_N_forget_3 : decode b_N_forget 3 = .ok (.sipush 16384, 3) := by decide +kernel
theorem d_N_forget_6 : decode b_N_forget 6 = .ok (.if_icmp .ge 16, 3) := by decide +kernel
theorem d_N_forget_9 : decode b_N_forget 9 = .ok (.aload_n 0, 1) := by decide +kernel
theorem d_N_forget_10 : decode b_N_forget 10 = .ok (.getfield 53, 3) := by decide +kernel
theorem d_N_forget_13 : decode b_N_forget 13 = .ok (.iload_n 1, 1) := by decide +kernel
theorem d_N_forget_14 : decode b_N_forget 14 = .ok (.iconst (-1), 1) := by decide +kernel
theorem d_N_forget_15 : decode b_N_forget 15 = .ok (.bastore, 1) := by decide +kernel
theorem d_N_forget_16 : decode b_N_forget 16 = .ok (.iinc 1 1, 3) := by decide +kernel
theorem d_N_forget_19 : decode b_N_forget 19 = .ok (.goto (-17), 3) := by decide +kernel
theorem d_N_forget_22 : decode b_N_forget 22 = .ok (.return_, 1) := by decide +kernel
abbrev y_N_sweep : MethodName := ⟨"StateExplorer$Nodes", "sweep", "()V"⟩
abbrev b_N_sweep : ByteArray := prog_2_method_15_code
theorem d_N_sweep_0 : decode b_N_sweep 0 = .ok (.iconst 0, 1) := by decide +kernel
theorem d_N_sweep_1 : decode b_N_sweep 1 = .ok (.istore_n 1, 1) := by decide +kernel
theorem d_N_sweep_2 : decode b_N_sweep 2 = .ok (.iload_n 1, 1) := by decide +kernel
theorem d_N_sweep_3 : decode b_N_sweep 3 = .ok (.ldc 26, 2) := by decide +kernel
theorem d_N_sweep_5 : decode b_N_sweep 5 = .ok (.if_icmp .ge 16, 3) := by decide +kernel
theorem d_N_sweep_8 : decode b_N_sweep 8 = .ok (.aload_n 0, 1) := by decide +kernel
theorem d_N_sweep_9 : decode b_N_sweep 9 = .ok (.getfield 27, 3) := by decide +kernel
theorem d_N_sweep_12 : decode b_N_sweep 12 = .ok (.iload_n 1, 1) := by decide +kernel
theorem d_N_sweep_13 : decode b_N_sweep 13 = .ok (.iconst (-1), 1) := by decide +kernel
theorem d_N_sweep_14 : decode b_N_sweep 14 = .ok (.iastore, 1) := by decide +kernel
theorem d_N_sweep_15 : decode b_N_sweep 15 = .ok (.iinc 1 1, 3) := by decide +kernel
theorem d_N_sweep_18 : decode b_N_sweep 18 = .ok (.goto (-16), 3) := by decide +kernel
theorem d_N_sweep_21 : decode b_N_sweep 21 = .ok (.aload_n 0, 1) := by decide +kernel
theorem d_N_sweep_22 : decode b_N_sweep 22 = .ok (.iconst (-1), 1) := by decide +kernel
theorem d_N_sweep_23 : decode b_N_sweep 23 = .ok (.putfield 34, 3) := by decide +kernel
theorem d_N_sweep_26 : decode b_N_sweep 26 = .ok (.aload_n 0, 1) := by decide +kernel
theorem d_N_sweep_27 : decode b_N_sweep 27 = .ok (.ldc 11, 2) := by decide +kernel
theorem d_N_sweep_29 : decode b_N_sweep 29 = .ok (.aload_n 0, 1) := by decide +kernel
theorem d_N_sweep_30 : decode b_N_sweep 30 = .ok (.getfield 38, 3) := by decide +kernel
theorem d_N_sweep_33 : decode b_N_sweep 33 = .ok (.isub, 1) := by decide +kernel
theorem d_N_sweep_34 : decode b_N_sweep 34 = .ok (.putfield 57, 3) := by decide +kernel
theorem d_N_sweep_37 : decode b_N_sweep 37 = .ok (.aload_n 0, 1) := by decide +kernel
theorem d_N_sweep_38 : decode b_N_sweep 38 = .ok (.getfield 38, 3) := by decide +kernel
theorem d_N_sweep_41 : decode b_N_sweep 41 = .ok (.iconst 1, 1) := by decide +kernel
theorem d_N_sweep_42 : decode b_N_sweep 42 = .ok (.isub, 1) := by decide +kernel
theorem d_N_sweep_43 : decode b_N_sweep 43 = .ok (.istore_n 1, 1) := by decide +kernel
theorem d_N_sweep_44 : decode b_N_sweep 44 = .ok (.iload_n 1, 1) := by decide +kernel
theorem d_N_sweep_45 : decode b_N_sweep 45 = .ok (.iconst 1, 1) := by decide +kernel
theorem d_N_sweep_46 : decode b_N_sweep 46 = .ok (.if_icmp .le 88, 3) := by decide +kernel
theorem d_N_sweep_49 : decode b_N_sweep 49 = .ok (.aload_n 0, 1) := by decide +kernel
theorem d_N_sweep_50 : decode b_N_sweep 50 = .ok (.getfield 30, 3) := by decide +kernel
theorem d_N_sweep_53 : decode b_N_sweep 53 = .ok (.iload_n 1, 1) := by decide +kernel
theorem d_N_sweep_54 : decode b_N_sweep 54 = .ok (.baload, 1) := by decide +kernel
theorem d_N_sweep_55 : decode b_N_sweep 55 = .ok (.ifCond .eq 48, 3) := by decide +kernel
theorem d_N_sweep_58 : decode b_N_sweep 58 = .ok (.aload_n 0, 1) := by decide +kernel
theorem d_N_sweep_59 : decode b_N_sweep 59 = .ok (.aload_n 0, 1) := by decide +kernel
theorem d_N_sweep_60 : decode b_N_sweep 60 = .ok (.getfield 12, 3) := by decide +kernel
theorem d_N_sweep_63 : decode b_N_sweep 63 = .ok (.iload_n 1, 1) := by decide +kernel
theorem d_N_sweep_64 : decode b_N_sweep 64 = .ok (.baload, 1) := by decide +kernel
theorem d_N_sweep_65 : decode b_N_sweep 65 = .ok (.aload_n 0, 1) := by decide +kernel
theorem d_N_sweep_66 : decode b_N_sweep 66 = .ok (.getfield 16, 3) := by decide +kernel
theorem d_N_sweep_69 : decode b_N_sweep 69 = .ok (.iload_n 1, 1) := by decide +kernel
theorem d_N_sweep_70 : decode b_N_sweep 70 = .ok (.iaload, 1) := by decide +kernel
theorem d_N_sweep_71 : decode b_N_sweep 71 = .ok (.aload_n 0, 1) := by decide +kernel
theorem d_N_sweep_72 : decode b_N_sweep 72 = .ok (.getfield 20, 3) := by decide +kernel
theorem d_N_sweep_75 : decode b_N_sweep 75 = .ok (.iload_n 1, 1) := by decide +kernel
theorem d_N_sweep_76 : decode b_N_sweep 76 = .ok (.iaload, 1) := by decide +kernel
theorem d_N_sweep_77 : decode b_N_sweep 77 = .ok (.invokevirtual 70, 3) := by decide +kernel
theorem d_N_sweep_80 : decode b_N_sweep 80 = .ok (.istore_n 2, 1) := by decide +kernel
theorem d_N_sweep_81 : decode b_N_sweep 81 = .ok (.aload_n 0, 1) := by decide +kernel
theorem d_N_sweep_82 : decode b_N_sweep 82 = .ok (.getfield 23, 3) := by decide +kernel
theorem d_N_sweep_85 : decode b_N_sweep 85 = .ok (.iload_n 1, 1) := by decide +kernel
theorem d_N_sweep_86 : decode b_N_sweep 86 = .ok (.aload_n 0, 1) := by decide +kernel
theorem d_N_sweep_87 : decode b_N_sweep 87 = .ok (.getfield 27, 3) := by decide +kernel
theorem d_N_sweep_90 : decode b_N_sweep 90 = .ok (.iload_n 2, 1) := by decide +kernel
theorem d_N_sweep_91 : decode b_N_sweep 91 = .ok (.iaload, 1) := by decide +kernel
theorem d_N_sweep_92 : decode b_N_sweep 92 = .ok (.iastore, 1) := by decide +kernel
theorem d_N_sweep_93 : decode b_N_sweep 93 = .ok (.aload_n 0, 1) := by decide +kernel
theorem d_N_sweep_94 : decode b_N_sweep 94 = .ok (.getfield 27, 3) := by decide +kernel
theorem d_N_sweep_97 : decode b_N_sweep 97 = .ok (.iload_n 2, 1) := by decide +kernel
theorem d_N_sweep_98 : decode b_N_sweep 98 = .ok (.iload_n 1, 1) := by decide +kernel
theorem d_N_sweep_99 : decode b_N_sweep 99 = .ok (.iastore, 1) := by decide +kernel
theorem d_N_sweep_100 : decode b_N_sweep 100 = .ok (.goto 28, 3) := by decide +kernel
theorem d_N_sweep_103 : decode b_N_sweep 103 = .ok (.aload_n 0, 1) := by decide +kernel
theorem d_N_sweep_104 : decode b_N_sweep 104 = .ok (.getfield 23, 3) := by decide +kernel
theorem d_N_sweep_107 : decode b_N_sweep 107 = .ok (.iload_n 1, 1) := by decide +kernel
theorem d_N_sweep_108 : decode b_N_sweep 108 = .ok (.aload_n 0, 1) := by decide +kernel
theorem d_N_sweep_109 : decode b_N_sweep 109 = .ok (.getfield 34, 3) := by decide +kernel
theorem d_N_sweep_112 : decode b_N_sweep 112 = .ok (.iastore, 1) := by decide +kernel
theorem d_N_sweep_113 : decode b_N_sweep 113 = .ok (.aload_n 0, 1) := by decide +kernel
theorem d_N_sweep_114 : decode b_N_sweep 114 = .ok (.iload_n 1, 1) := by decide +kernel
theorem d_N_sweep_115 : decode b_N_sweep 115 = .ok (.putfield 34, 3) := by decide +kernel
theorem d_N_sweep_118 : decode b_N_sweep 118 = .ok (.aload_n 0, 1) := by decide +kernel
theorem d_N_sweep_119 : decode b_N_sweep 119 = .ok (.dup, 1) := by decide +kernel
theorem d_N_sweep_120 : decode b_N_sweep 120 = .ok (.getfield 57, 3) := by decide +kernel
theorem d_N_sweep_123 : decode b_N_sweep 123 = .ok (.iconst 1, 1) := by decide +kernel
theorem d_N_sweep_124 : decode b_N_sweep 124 = .ok (.iadd, 1) := by decide +kernel
theorem d_N_sweep_125 : decode b_N_sweep 125 = .ok (.putfield 57, 3) := by decide +kernel
theorem d_N_sweep_128 : decode b_N_sweep 128 = .ok (.iinc 1 (-1), 3) := by decide +kernel
theorem d_N_sweep_131 : decode b_N_sweep 131 = .ok (.goto (-87), 3) := by decide +kernel
theorem d_N_sweep_134 : decode b_N_sweep 134 = .ok (.aload_n 0, 1) := by decide +kernel
theorem d_N_sweep_135 : decode b_N_sweep 135 = .ok (.invokevirtual 86, 3) := by decide +kernel
theorem d_N_sweep_138 : decode b_N_sweep 138 = .ok (.aload_n 0, 1) := by decide +kernel
theorem d_N_sweep_139 : decode b_N_sweep 139 = .ok (.invokevirtual 60, 3) := by decide +kernel
theorem d_N_sweep_142 : decode b_N_sweep 142 = .ok (.return_, 1) := by decide +kernel
abbrev y_N_level : MethodName := ⟨"StateExplorer$Nodes", "level", "(I)I"⟩
abbrev b_N_level : ByteArray := prog_2_method_8_code
theorem d_N_level_0 : decode b_N_level 0 = .ok (.aload_n 0, 1) := by decide +kernel
theorem d_N_level_1 : decode b_N_level 1 = .ok (.getfield 12, 3) := by decide +kernel
theorem d_N_level_4 : decode b_N_level 4 = .ok (.iload_n 1, 1) := by decide +kernel
theorem d_N_level_5 : decode b_N_level 5 = .ok (.baload, 1) := by decide +kernel
theorem d_N_level_6 : decode b_N_level 6 = .ok (.ireturn, 1) := by decide +kernel
abbrev y_X_first : MethodName := ⟨"StateExplorer", "first", "(LStateExplorer$Nodes;III)I"⟩
abbrev b_X_first : ByteArray := prog_1_method_11_code
theorem d_X_first_0 : decode b_X_first 0 = .ok (.aload_n 0, 1) := by decide +kernel
theorem d_X_first_1 : decode b_X_first 1 = .ok (.iload_n 1, 1) := by decide +kernel
theorem d_X_first_2 : decode b_X_first 2 = .ok (.invokevirtual 133, 3) := by decide +kernel
theorem d_X_first_5 : decode b_X_first 5 = .ok (.aload_n 0, 1) := by decide +kernel
theorem d_X_first_6 : decode b_X_first 6 = .ok (.iload_n 2, 1) := by decide +kernel
theorem d_X_first_7 : decode b_X_first 7 = .ok (.invokevirtual 133, 3) := by decide +kernel
theorem d_X_first_10 : decode b_X_first 10 = .ok (.aload_n 0, 1) := by decide +kernel
theorem d_X_first_11 : decode b_X_first 11 = .ok (.iload_n 3, 1) := by decide +kernel
theorem d_X_first_12 : decode b_X_first 12 = .ok (.invokevirtual 133, 3) := by decide +kernel
theorem d_X_first_15 : decode b_X_first 15 = .ok (.invokestatic 136, 3) := by decide +kernel
theorem d_X_first_18 : decode b_X_first 18 = .ok (.invokestatic 136, 3) := by decide +kernel
theorem d_X_first_21 : decode b_X_first 21 = .ok (.ireturn, 1) := by decide +kernel
abbrev y_N_place : MethodName := ⟨"StateExplorer$Nodes", "place", "(IIII)I"⟩
abbrev b_N_place : ByteArray := prog_2_method_9_code
theorem d_N_place_0 : decode b_N_place 0 = .ok (.iload_n 2, 1) := by decide +kernel
theorem d_N_place_1 : decode b_N_place 1 = .ok (.iload_n 1, 1) := by decide +kernel
theorem d_N_place_2 : decode b_N_place 2 = .ok (.iadd, 1) := by decide +kernel
theorem d_N_place_3 : decode b_N_place 3 = .ok (.iload_n 3, 1) := by decide +kernel
theorem d_N_place_4 : decode b_N_place 4 = .ok (.iload 4, 2) := by decide +kernel
theorem d_N_place_6 : decode b_N_place 6 = .ok (.invokestatic 66, 3) := by decide +kernel
theorem d_N_place_9 : decode b_N_place 9 = .ok (.sipush 16383, 3) := by decide +kernel
theorem d_N_place_12 : decode b_N_place 12 = .ok (.iand, 1) := by decide +kernel
theorem d_N_place_13 : decode b_N_place 13 = .ok (.ireturn, 1) := by decide +kernel
abbrev y_N_known : MethodName := ⟨"StateExplorer$Nodes", "known", "(IIII)I"⟩
abbrev b_N_known : ByteArray := prog_2_method_10_code
theorem d_N_known_0 : decode b_N_known 0 = .ok (.aload_n 0, 1) := by decide +kernel
theorem d_N_known_1 : decode b_N_known 1 = .ok (.iload_n 1, 1) := by decide +kernel
theorem d_N_known_2 : decode b_N_known 2 = .ok (.iload_n 2, 1) := by decide +kernel
theorem d_N_known_3 : decode b_N_known 3 = .ok (.iload_n 3, 1) := by decide +kernel
theorem d_N_known_4 : decode b_N_known 4 = .ok (.iload 4, 2) := by decide +kernel
theorem d_N_known_6 : decode b_N_known 6 = .ok (.invokevirtual 77, 3) := by decide +kernel
theorem d_N_known_9 : decode b_N_known 9 = .ok (.istore 5, 2) := by decide +kernel
theorem d_N_known_11 : decode b_N_known 11 = .ok (.aload_n 0, 1) := by decide +kernel
theorem d_N_known_12 : decode b_N_known 12 = .ok (.getfield 53, 3) := by decide +kernel
theorem d_N_known_15 : decode b_N_known 15 = .ok (.iload 5, 2) := by decide +kernel
theorem d_N_known_17 : decode b_N_known 17 = .ok (.baload, 1) := by decide +kernel
theorem d_N_known_18 : decode b_N_known 18 = .ok (.iload_n 1, 1) := by decide +kernel
theorem d_N_known_19 : decode b_N_known 19 = .ok (.if_icmp .ne 47, 3) := by decide +kernel
theorem d_N_known_22 : decode b_N_known 22 = .ok (.aload_n 0, 1) := by decide +kernel
theorem d_N_known_23 : decode b_N_known 23 = .ok (.getfield 41, 3) := by decide +kernel
theorem d_N_known_26 : decode b_N_known 26 = .ok (.iload 5, 2) := by decide +kernel
theorem d_N_known_28 : decode b_N_known 28 = .ok (.iaload, 1) := by decide +kernel
theorem d_N_known_29 : decode b_N_known 29 = .ok (.iload_n 2, 1) := by decide +kernel
theorem d_N_known_30 : decode b_N_known 30 = .ok (.if_icmp .ne 36, 3) := by decide +kernel
theorem d_N_known_33 : decode b_N_known 33 = .ok (.aload_n 0, 1) := by decide +kernel
theorem d_N_known_34 : decode b_N_known 34 = .ok (.getfield 44, 3) := by decide +kernel
theorem d_N_known_37 : decode b_N_known 37 = .ok (.iload 5, 2) := by decide +kernel
theorem d_N_known_39 : decode b_N_known 39 = .ok (.iaload, 1) := by decide +kernel
theorem d_N_known_40 : decode b_N_known 40 = .ok (.iload_n 3, 1) := by decide +kernel
theorem d_N_known_41 : decode b_N_known 41 = .ok (.if_icmp .ne 25, 3) := by decide +kernel
theorem d_N_known_44 : decode b_N_known 44 = .ok (.aload_n 0, 1) := by decide +kernel
theorem d_N_known_45 : decode b_N_known 45 = .ok (.getfield 47, 3) := by decide +kernel
theorem d_N_known_48 : decode b_N_known 48 = .ok (.iload 5, 2) := by decide +kernel
theorem d_N_known_50 : decode b_N_known 50 = .ok (.iaload, 1) := by decide +kernel
theorem d_N_known_51 : decode b_N_known 51 = .ok (.iload 4, 2) := by decide +kernel
theorem d_N_known_53 : decode b_N_known 53 = .ok (.if_icmp .ne 13, 3) := by decide +kernel
theorem d_N_known_56 : decode b_N_known 56 = .ok (.aload_n 0, 1) := by decide +kernel
theorem d_N_known_57 : decode b_N_known 57 = .ok (.getfield 50, 3) := by decide +kernel
theorem d_N_known_60 : decode b_N_known 60 = .ok (.iload 5, 2) := by decide +kernel
theorem d_N_known_62 : decode b_N_known 62 = .ok (.iaload, 1) := by decide +kernel
theorem d_N_known_63 : decode b_N_known 63 = .ok (.goto 4, 3) := by decide +kernel
theorem d_N_known_66 : decode b_N_known 66 = .ok (.iconst (-1), 1) := by decide +kernel
theorem d_N_known_67 : decode b_N_known 67 = .ok (.ireturn, 1) := by decide +kernel
abbrev y_N_cofactor : MethodName := ⟨"StateExplorer$Nodes", "cofactor", "(IIZ)I"⟩
abbrev b_N_cofactor : ByteArray := prog_2_method_7_code
theorem d_N_cofactor_0 : decode b_N_cofactor 0 = .ok (.aload_n 0, 1) := by decide +kernel
theorem d_N_cofactor_1 : decode b_N_cofactor 1 = .ok (.getfield 12, 3) := by decide +kernel
theorem d_N_cofactor_4 : decode b_N_cofactor 4 = .ok (.iload_n 1, 1) := by decide +kernel
theorem d_N_cofactor_5 : decode b_N_cofactor 5 = .ok (.baload, 1) := by decide +kernel
theorem d_N_cofactor_6 : decode b_N_cofactor 6 = .ok (.iload_n 2, 1) := by decide +kernel
theorem d_N_cofactor_7 : decode b_N_cofactor 7 = .ok (.if_icmp .eq 7, 3) := by decide +kernel
theorem d_N_cofactor_10 : decode b_N_cofactor 10 = .ok (.iload_n 1, 1) := by decide +kernel
theorem d_N_cofactor_11 : decode b_N_cofactor 11 = .ok (.goto 22, 3) := by decide +kernel
theorem d_N_cofactor_14 : decode b_N_cofactor 14 = .ok (.iload_n 3, 1) := by decide +kernel
theorem d_N_cofactor_15 : decode b_N_cofactor 15 = .ok (.ifCond .eq 12, 3) := by decide +kernel
theorem d_N_cofactor_18 : decode b_N_cofactor 18 = .ok (.aload_n 0, 1) := by decide +kernel
theorem d_N_cofactor_19 : decode b_N_cofactor 19 = .ok (.getfield 20, 3) := by decide +kernel
theorem d_N_cofactor_22 : decode b_N_cofactor 22 = .ok (.iload_n 1, 1) := by decide +kernel
theorem d_N_cofactor_23 : decode b_N_cofactor 23 = .ok (.iaload, 1) := by decide +kernel
theorem d_N_cofactor_24 : decode b_N_cofactor 24 = .ok (.goto 9, 3) := by decide +kernel
theorem d_N_cofactor_27 : decode b_N_cofactor 27 = .ok (.aload_n 0, 1) := by decide +kernel
theorem d_N_cofactor_28 : decode b_N_cofactor 28 = .ok (.getfield 16, 3) := by decide +kernel
theorem d_N_cofactor_31 : decode b_N_cofactor 31 = .ok (.iload_n 1, 1) := by decide +kernel
theorem d_N_cofactor_32 : decode b_N_cofactor 32 = .ok (.iaload, 1) := by decide +kernel
theorem d_N_cofactor_33 : decode b_N_cofactor 33 = .ok (.ireturn, 1) := by decide +kernel
abbrev y_N_take : MethodName := ⟨"StateExplorer$Nodes", "take", "()I"⟩
abbrev b_N_take : ByteArray := prog_2_method_6_code
theorem d_N_take_0 : decode b_N_take 0 = .ok (.aload_n 0, 1) := by decide +kernel
theorem d_N_take_1 : decode b_N_take 1 = .ok (.dup, 1) := by decide +kernel
theorem d_N_take_2 : decode b_N_take 2 = .ok (.getfield 57, 3) := by decide +kernel
theorem d_N_take_5 : decode b_N_take 5 = .ok (.iconst 1, 1) := by decide +kernel
theorem d_N_take_6 : decode b_N_take 6 = .ok (.isub, 1) := by decide +kernel
theorem d_N_take_7 : decode b_N_take 7 = .ok (.putfield 57, 3) := by decide +kernel
theorem d_N_take_10 : decode b_N_take 10 = .ok (.aload_n 0, 1) := by decide +kernel
theorem d_N_take_11 : decode b_N_take 11 = .ok (.getfield 34, 3) := by decide +kernel
theorem d_N_take_14 : decode b_N_take 14 = .ok (.iconst (-1), 1) := by decide +kernel
theorem d_N_take_15 : decode b_N_take 15 = .ok (.if_icmp .ne 20, 3) := by decide +kernel
theorem d_N_take_18 : decode b_N_take 18 = .ok (.aload_n 0, 1) := by decide +kernel
theorem d_N_take_19 : decode b_N_take 19 = .ok (.dup, 1) := by decide +kernel
theorem d_N_take_20 : decode b_N_take 20 = .ok (.getfield 38, 3) := by decide +kernel
theorem d_N_take_23 : decode b_N_take 23 = .ok (.iconst 1, 1) := by decide +kernel
theorem d_N_take_24 : decode b_N_take 24 = .ok (.iadd, 1) := by decide +kernel
theorem d_N_take_25 : decode b_N_take 25 = .ok (.putfield 38, 3) := by decide +kernel
theorem d_N_take_28 : decode b_N_take 28 = .ok (.aload_n 0, 1) := by decide +kernel
theorem d_N_take_29 : decode b_N_take 29 = .ok (.getfield 38, 3) := by decide +kernel
theorem d_N_take_32 : decode b_N_take 32 = .ok (.iconst 1, 1) := by decide +kernel
theorem d_N_take_33 : decode b_N_take 33 = .ok (.isub, 1) := by decide +kernel
theorem d_N_take_34 : decode b_N_take 34 = .ok (.ireturn, 1) := by decide +kernel
theorem d_N_take_35 : decode b_N_take 35 = .ok (.aload_n 0, 1) := by decide +kernel
theorem d_N_take_36 : decode b_N_take 36 = .ok (.getfield 34, 3) := by decide +kernel
theorem d_N_take_39 : decode b_N_take 39 = .ok (.istore_n 1, 1) := by decide +kernel
theorem d_N_take_40 : decode b_N_take 40 = .ok (.aload_n 0, 1) := by decide +kernel
theorem d_N_take_41 : decode b_N_take 41 = .ok (.aload_n 0, 1) := by decide +kernel
theorem d_N_take_42 : decode b_N_take 42 = .ok (.getfield 23, 3) := by decide +kernel
theorem d_N_take_45 : decode b_N_take 45 = .ok (.iload_n 1, 1) := by decide +kernel
theorem d_N_take_46 : decode b_N_take 46 = .ok (.iaload, 1) := by decide +kernel
theorem d_N_take_47 : decode b_N_take 47 = .ok (.putfield 34, 3) := by decide +kernel
theorem d_N_take_50 : decode b_N_take 50 = .ok (.iload_n 1, 1) := by decide +kernel
theorem d_N_take_51 : decode b_N_take 51 = .ok (.ireturn, 1) := by decide +kernel
abbrev y_N_node : MethodName := ⟨"StateExplorer$Nodes", "node", "(III)I"⟩
abbrev b_N_node : ByteArray := prog_2_method_5_code
theorem d_N_node_0 : decode b_N_node 0 = .ok (.iload_n 2, 1) := by decide +kernel
theorem d_N_node_1 : decode b_N_node 1 = .ok (.iload_n 3, 1) := by decide +kernel
theorem d_N_node_2 : decode b_N_node 2 = .ok (.if_icmp .ne 5, 3) := by decide +kernel
theorem d_N_node_5 : decode b_N_node 5 = .ok (.iload_n 2, 1) := by decide +kernel
theorem d_N_node_6 : decode b_N_node 6 = .ok (.ireturn, 1) := by decide +kernel
theorem d_N_node_7 : decode b_N_node 7 = .ok (.aload_n 0, 1) := by decide +kernel
theorem d_N_node_8 : decode b_N_node 8 = .ok (.iload_n 1, 1) := by decide +kernel
theorem d_N_node_9 : decode b_N_node 9 = .ok (.iload_n 2, 1) := by decide +kernel
theorem d_N_node_10 : decode b_N_node 10 = .ok (.iload_n 3, 1) := by decide +kernel
theorem d_N_node_11 : decode b_N_node 11 = .ok (.invokevirtual 70, 3) := by decide +kernel
theorem d_N_node_14 : decode b_N_node 14 = .ok (.istore 4, 2) := by decide +kernel
theorem d_N_node_16 : decode b_N_node 16 = .ok (.aload_n 0, 1) := by decide +kernel
theorem d_N_node_17 : decode b_N_node 17 = .ok (.getfield 27, 3) := by decide +kernel
theorem d_N_node_20 : decode b_N_node 20 = .ok (.iload 4, 2) := by decide +kernel
theorem d_N_node_22 : decode b_N_node 22 = .ok (.iaload, 1) := by decide +kernel
theorem d_N_node_23 : decode b_N_node 23 = .ok (.istore 5, 2) := by decide +kernel
theorem d_N_node_25 : decode b_N_node 25 = .ok (.iload 5, 2) := by decide +kernel
theorem d_N_node_27 : decode b_N_node 27 = .ok (.iconst (-1), 1) := by decide +kernel
theorem d_N_node_28 : decode b_N_node 28 = .ok (.if_icmp .eq 48, 3) := by decide +kernel
theorem d_N_node_31 : decode b_N_node 31 = .ok (.aload_n 0, 1) := by decide +kernel
theorem d_N_node_32 : decode b_N_node 32 = .ok (.getfield 12, 3) := by decide +kernel
theorem d_N_node_35 : decode b_N_node 35 = .ok (.iload 5, 2) := by decide +kernel
theorem d_N_node_37 : decode b_N_node 37 = .ok (.baload, 1) := by decide +kernel
theorem d_N_node_38 : decode b_N_node 38 = .ok (.iload_n 1, 1) := by decide +kernel
theorem d_N_node_39 : decode b_N_node 39 = .ok (.if_icmp .ne 25, 3) := by decide +kernel
theorem d_N_node_42 : decode b_N_node 42 = .ok (.aload_n 0, 1) := by decide +kernel
theorem d_N_node_43 : decode b_N_node 43 = .ok (.getfield 16, 3) := by decide +kernel
theorem d_N_node_46 : decode b_N_node 46 = .ok (.iload 5, 2) := by decide +kernel
theorem d_N_node_48 : decode b_N_node 48 = .ok (.iaload, 1) := by decide +kernel
theorem d_N_node_49 : decode b_N_node 49 = .ok (.iload_n 2, 1) := by decide +kernel
theorem d_N_node_50 : decode b_N_node 50 = .ok (.if_icmp .ne 14, 3) := by decide +kernel
theorem d_N_node_53 : decode b_N_node 53 = .ok (.aload_n 0, 1) := by decide +kernel
theorem d_N_node_54 : decode b_N_node 54 = .ok (.getfield 20, 3) := by decide +kernel
theorem d_N_node_57 : decode b_N_node 57 = .ok (.iload 5, 2) := by decide +kernel
theorem d_N_node_59 : decode b_N_node 59 = .ok (.iaload, 1) := by decide +kernel
theorem d_N_node_60 : decode b_N_node 60 = .ok (.iload_n 3, 1) := by decide +kernel
theorem d_N_node_61 : decode b_N_node 61 = .ok (.if_icmp .eq 15, 3) := by decide +kernel
theorem d_N_node_64 : decode b_N_node 64 = .ok (.aload_n 0, 1) := by decide +kernel
theorem d_N_node_65 : decode b_N_node 65 = .ok (.getfield 23, 3) := by decide +kernel
theorem d_N_node_68 : decode b_N_node 68 = .ok (.iload 5, 2) := by decide +kernel
theorem d_N_node_70 : decode b_N_node 70 = .ok (.iaload, 1) := by decide +kernel
theorem d_N_node_71 : decode b_N_node 71 = .ok (.istore 5, 2) := by decide +kernel
theorem d_N_node_73 : decode b_N_node 73 = .ok (.goto (-48), 3) := by decide +kernel
theorem d_N_node_76 : decode b_N_node 76 = .ok (.iload 5, 2) := by decide +kernel
theorem d_N_node_78 : decode b_N_node 78 = .ok (.iconst (-1), 1) := by decide +kernel
theorem d_N_node_79 : decode b_N_node 79 = .ok (.if_icmp .eq 6, 3) := by decide +kernel
theorem d_N_node_82 : decode b_N_node 82 = .ok (.iload 5, 2) := by decide +kernel
theorem d_N_node_84 : decode b_N_node 84 = .ok (.ireturn, 1) := by decide +kernel
theorem d_N_node_85 : decode b_N_node 85 = .ok (.aload_n 0, 1) := by decide +kernel
theorem d_N_node_86 : decode b_N_node 86 = .ok (.invokevirtual 73, 3) := by decide +kernel
theorem d_N_node_89 : decode b_N_node 89 = .ok (.istore 5, 2) := by decide +kernel
theorem d_N_node_91 : decode b_N_node 91 = .ok (.aload_n 0, 1) := by decide +kernel
theorem d_N_node_92 : decode b_N_node 92 = .ok (.getfield 12, 3) := by decide +kernel
theorem d_N_node_95 : decode b_N_node 95 = .ok (.iload 5, 2) := by decide +kernel
theorem d_N_node_97 : decode b_N_node 97 = .ok (.iload_n 1, 1) := by decide +kernel
theorem d_N_node_98 : decode b_N_node 98 = .ok (.i2b, 1) := by decide +kernel
theorem d_N_node_99 : decode b_N_node 99 = .ok (.bastore, 1) := by decide +kernel
theorem d_N_node_100 : decode b_N_node 100 = .ok (.aload_n 0, 1) := by decide +kernel
theorem d_N_node_101 : decode b_N_node 101 = .ok (.getfield 16, 3) := by decide +kernel
theorem d_N_node_104 : decode b_N_node 104 = .ok (.iload 5, 2) := by decide +kernel
theorem d_N_node_106 : decode b_N_node 106 = .ok (.iload_n 2, 1) := by decide +kernel
theorem d_N_node_107 : decode b_N_node 107 = .ok (.iastore, 1) := by decide +kernel
theorem d_N_node_108 : decode b_N_node 108 = .ok (.aload_n 0, 1) := by decide +kernel
theorem d_N_node_109 : decode b_N_node 109 = .ok (.getfield 20, 3) := by decide +kernel
theorem d_N_node_112 : decode b_N_node 112 = .ok (.iload 5, 2) := by decide +kernel
theorem d_N_node_114 : decode b_N_node 114 = .ok (.iload_n 3, 1) := by decide +kernel
theorem d_N_node_115 : decode b_N_node 115 = .ok (.iastore, 1) := by decide +kernel
theorem d_N_node_116 : decode b_N_node 116 = .ok (.aload_n 0, 1) := by decide +kernel
theorem d_N_node_117 : decode b_N_node 117 = .ok (.getfield 23, 3) := by decide +kernel
theorem d_N_node_120 : decode b_N_node 120 = .ok (.iload 5, 2) := by decide +kernel
theorem d_N_node_122 : decode b_N_node 122 = .ok (.aload_n 0, 1) := by decide +kernel
theorem d_N_node_123 : decode b_N_node 123 = .ok (.getfield 27, 3) := by decide +kernel
theorem d_N_node_126 : decode b_N_node 126 = .ok (.iload 4, 2) := by decide +kernel
theorem d_N_node_128 : decode b_N_node 128 = .ok (.iaload, 1) := by decide +kernel
theorem d_N_node_129 : decode b_N_node 129 = .ok (.iastore, 1) := by decide +kernel
theorem d_N_node_130 : decode b_N_node 130 = .ok (.aload_n 0, 1) := by decide +kernel
theorem d_N_node_131 : decode b_N_node 131 = .ok (.getfield 27, 3) := by decide +kernel
theorem d_N_node_134 : decode b_N_node 134 = .ok (.iload 4, 2) := by decide +kernel
theorem d_N_node_136 : decode b_N_node 136 = .ok (.iload 5, 2) := by decide +kernel
theorem d_N_node_138 : decode b_N_node 138 = .ok (.iastore, 1) := by decide +kernel
theorem d_N_node_139 : decode b_N_node 139 = .ok (.iload 5, 2) := by decide +kernel
theorem d_N_node_141 : decode b_N_node 141 = .ok (.ireturn, 1) := by decide +kernel
abbrev y_N_learn : MethodName := ⟨"StateExplorer$Nodes", "learn", "(IIIII)I"⟩
abbrev b_N_learn : ByteArray := prog_2_method_11_code
theorem d_N_learn_0 : decode b_N_learn 0 = .ok (.aload_n 0, 1) := by decide +kernel
theorem d_N_learn_1 : decode b_N_learn 1 = .ok (.iload_n 1, 1) := by decide +kernel
theorem d_N_learn_2 : decode b_N_learn 2 = .ok (.iload_n 2, 1) := by decide +kernel
theorem d_N_learn_3 : decode b_N_learn 3 = .ok (.iload_n 3, 1) := by decide +kernel
theorem d_N_learn_4 : decode b_N_learn 4 = .ok (.iload 4, 2) := by decide +kernel
theorem d_N_learn_6 : decode b_N_learn 6 = .ok (.invokevirtual 77, 3) := by decide +kernel
theorem d_N_learn_9 : decode b_N_learn 9 = .ok (.istore 6, 2) := by decide +kernel
theorem d_N_learn_11 : decode b_N_learn 11 = .ok (.aload_n 0, 1) := by decide +kernel
theorem d_N_learn_12 : decode b_N_learn 12 = .ok (.getfield 53, 3) := by decide +kernel
theorem d_N_learn_15 : decode b_N_learn 15 = .ok (.iload 6, 2) := by decide +kernel
theorem d_N_learn_17 : decode b_N_learn 17 = .ok (.iload_n 1, 1) := by decide +kernel
theorem d_N_learn_18 : decode b_N_learn 18 = .ok (.i2b, 1) := by decide +kernel
theorem d_N_learn_19 : decode b_N_learn 19 = .ok (.bastore, 1) := by decide +kernel
theorem d_N_learn_20 : decode b_N_learn 20 = .ok (.aload_n 0, 1) := by decide +kernel
theorem d_N_learn_21 : decode b_N_learn 21 = .ok (.getfield 41, 3) := by decide +kernel
theorem d_N_learn_24 : decode b_N_learn 24 = .ok (.iload 6, 2) := by decide +kernel
theorem d_N_learn_26 : decode b_N_learn 26 = .ok (.iload_n 2, 1) := by decide +kernel
theorem d_N_learn_27 : decode b_N_learn 27 = .ok (.iastore, 1) := by decide +kernel
theorem d_N_learn_28 : decode b_N_learn 28 = .ok (.aload_n 0, 1) := by decide +kernel
theorem d_N_learn_29 : decode b_N_learn 29 = .ok (.getfield 44, 3) := by decide +kernel
theorem d_N_learn_32 : decode b_N_learn 32 = .ok (.iload 6, 2) := by decide +kernel
theorem d_N_learn_34 : decode b_N_learn 34 = .ok (.iload_n 3, 1) := by decide +kernel
theorem d_N_learn_35 : decode b_N_learn 35 = .ok (.iastore, 1) := by decide +kernel
theorem d_N_learn_36 : decode b_N_learn 36 = .ok (.aload_n 0, 1) := by decide +kernel
theorem d_N_learn_37 : decode b_N_learn 37 = .ok (.getfield 47, 3) := by decide +kernel
theorem d_N_learn_40 : decode b_N_learn 40 = .ok (.iload 6, 2) := by decide +kernel
theorem d_N_learn_42 : decode b_N_learn 42 = .ok (.iload 4, 2) := by decide +kernel
theorem d_N_learn_44 : decode b_N_learn 44 = .ok (.iastore, 1) := by decide +kernel
theorem d_N_learn_45 : decode b_N_learn 45 = .ok (.aload_n 0, 1) := by decide +kernel
theorem d_N_learn_46 : decode b_N_learn 46 = .ok (.getfield 50, 3) := by decide +kernel
theorem d_N_learn_49 : decode b_N_learn 49 = .ok (.iload 6, 2) := by decide +kernel
theorem d_N_learn_51 : decode b_N_learn 51 = .ok (.iload 5, 2) := by decide +kernel
theorem d_N_learn_53 : decode b_N_learn 53 = .ok (.iastore, 1) := by decide +kernel
theorem d_N_learn_54 : decode b_N_learn 54 = .ok (.iload 5, 2) := by decide +kernel
theorem d_N_learn_56 : decode b_N_learn 56 = .ok (.ireturn, 1) := by decide +kernel
abbrev y_X_chosen : MethodName := ⟨"StateExplorer", "chosen", "(LStateExplorer$Nodes;III)I"⟩
abbrev b_X_chosen : ByteArray := prog_1_method_12_code
theorem d_X_chosen_0 : decode b_X_chosen 0 = .ok (.iload_n 1, 1) := by decide +kernel
theorem d_X_chosen_1 : decode b_X_chosen 1 = .ok (.iconst 1, 1) := by decide +kernel
theorem d_X_chosen_2 : decode b_X_chosen 2 = .ok (.if_icmp .eq 8, 3) := by decide +kernel
theorem d_X_chosen_5 : decode b_X_chosen 5 = .ok (.iload_n 2, 1) := by decide +kernel
theorem d_X_chosen_6 : decode b_X_chosen 6 = .ok (.iload_n 3, 1) := by decide +kernel
theorem d_X_chosen_7 : decode b_X_chosen 7 = .ok (.if_icmp .ne 5, 3) := by decide +kernel
theorem d_X_chosen_10 : decode b_X_chosen 10 = .ok (.iload_n 2, 1) := by decide +kernel
theorem d_X_chosen_11 : decode b_X_chosen 11 = .ok (.ireturn, 1) := by decide +kernel
theorem d_X_chosen_12 : decode b_X_chosen 12 = .ok (.iload_n 1, 1) := by decide +kernel
theorem d_X_chosen_13 : decode b_X_chosen 13 = .ok (.ifCond .ne 5, 3) := by decide +kernel
theorem d_X_chosen_16 : decode b_X_chosen 16 = .ok (.iload_n 3, 1) := by decide +kernel
theorem d_X_chosen_17 : decode b_X_chosen 17 = .ok (.ireturn, 1) := by decide +kernel
theorem d_X_chosen_18 : decode b_X_chosen 18 = .ok (.iload_n 2, 1) := by decide +kernel
theorem d_X_chosen_19 : decode b_X_chosen 19 = .ok (.iconst 1, 1) := by decide +kernel
theorem d_X_chosen_20 : decode b_X_chosen 20 = .ok (.if_icmp .ne 9, 3) := by decide +kernel
theorem d_X_chosen_23 : decode b_X_chosen 23 = .ok (.iload_n 3, 1) := by decide +kernel
theorem d_X_chosen_24 : decode b_X_chosen 24 = .ok (.ifCond .ne 5, 3) := by decide +kernel
theorem d_X_chosen_27 : decode b_X_chosen 27 = .ok (.iload_n 1, 1) := by decide +kernel
theorem d_X_chosen_28 : decode b_X_chosen 28 = .ok (.ireturn, 1) := by decide +kernel
theorem d_X_chosen_29 : decode b_X_chosen 29 = .ok (.aload_n 0, 1) := by decide +kernel
theorem d_X_chosen_30 : decode b_X_chosen 30 = .ok (.iconst 0, 1) := by decide +kernel
theorem d_X_chosen_31 : decode b_X_chosen 31 = .ok (.iload_n 1, 1) := by decide +kernel
theorem d_X_chosen_32 : decode b_X_chosen 32 = .ok (.iload_n 2, 1) := by decide +kernel
theorem d_X_chosen_33 : decode b_X_chosen 33 = .ok (.iload_n 3, 1) := by decide +kernel
theorem d_X_chosen_34 : decode b_X_chosen 34 = .ok (.invokevirtual 142, 3) := by decide +kernel
theorem d_X_chosen_37 : decode b_X_chosen 37 = .ok (.istore 4, 2) := by decide +kernel
theorem d_X_chosen_39 : decode b_X_chosen 39 = .ok (.iload 4, 2) := by decide +kernel
theorem d_X_chosen_41 : decode b_X_chosen 41 = .ok (.iconst (-1), 1) := by decide +kernel
theorem d_X_chosen_42 : decode b_X_chosen 42 = .ok (.if_icmp .eq 6, 3) := by decide +kernel
theorem d_X_chosen_45 : decode b_X_chosen 45 = .ok (.iload 4, 2) := by decide +kernel
theorem d_X_chosen_47 : decode b_X_chosen 47 = .ok (.ireturn, 1) := by decide +kernel
theorem d_X_chosen_48 : decode b_X_chosen 48 = .ok (.aload_n 0, 1) := by decide +kernel
theorem d_X_chosen_49 : decode b_X_chosen 49 = .ok (.iload_n 1, 1) := by decide +kernel
theorem d_X_chosen_50 : decode b_X_chosen 50 = .ok (.iload_n 2, 1) := by decide +kernel
theorem d_X_chosen_51 : decode b_X_chosen 51 = .ok (.iload_n 3, 1) := by decide +kernel
theorem d_X_chosen_52 : decode b_X_chosen 52 = .ok (.invokestatic 146, 3) := by decide +kernel
theorem d_X_chosen_55 : decode b_X_chosen 55 = .ok (.istore 5, 2) := by decide +kernel
theorem d_X_chosen_57 : decode b_X_chosen 57 = .ok (.aload_n 0, 1) := by decide +kernel
theorem d_X_chosen_58 : decode b_X_chosen 58 = .ok (.aload_n 0, 1) := by decide +kernel
theorem d_X_chosen_59 : decode b_X_chosen 59 = .ok (.iload_n 1, 1) := by decide +kernel
theorem d_X_chosen_60 : decode b_X_chosen 60 = .ok (.iload 5, 2) := by decide +kernel
theorem d_X_chosen_62 : decode b_X_chosen 62 = .ok (.iconst 0, 1) := by decide +kernel
theorem d_X_chosen_63 : decode b_X_chosen 63 = .ok (.invokevirtual 150, 3) := by decide +kernel
theorem d_X_chosen_66 : decode b_X_chosen 66 = .ok (.aload_n 0, 1) := by decide +kernel
theorem d_X_chosen_67 : decode b_X_chosen 67 = .ok (.iload_n 2, 1) := by decide +kernel
theorem d_X_chosen_68 : decode b_X_chosen 68 = .ok (.iload 5, 2) := by decide +kernel
theorem d_X_chosen_70 : decode b_X_chosen 70 = .ok (.iconst 0, 1) := by decide +kernel
theorem d_X_chosen_71 : decode b_X_chosen 71 = .ok (.invokevirtual 150, 3) := by decide +kernel
theorem d_X_chosen_74 : decode b_X_chosen 74 = .ok (.aload_n 0, 1) := by decide +kernel
theorem d_X_chosen_75 : decode b_X_chosen 75 = .ok (.iload_n 3, 1) := by decide +kernel
theorem d_X_chosen_76 : decode b_X_chosen 76 = .ok (.iload 5, 2) := by decide +kernel
theorem d_X_chosen_78 : decode b_X_chosen 78 = .ok (.iconst 0, 1) := by decide +kernel
theorem d_X_chosen_79 : decode b_X_chosen 79 = .ok (.invokevirtual 150, 3) := by decide +kernel
theorem d_X_chosen_82 : decode b_X_chosen 82 = .ok (.invokestatic 154, 3) := by decide +kernel
theorem d_X_chosen_85 : decode b_X_chosen 85 = .ok (.istore 6, 2) := by decide +kernel
theorem d_X_chosen_87 : decode b_X_chosen 87 = .ok (.aload_n 0, 1) := by decide +kernel
theorem d_X_chosen_88 : decode b_X_chosen 88 = .ok (.aload_n 0, 1) := by decide +kernel
theorem d_X_chosen_89 : decode b_X_chosen 89 = .ok (.iload_n 1, 1) := by decide +kernel
theorem d_X_chosen_90 : decode b_X_chosen 90 = .ok (.iload 5, 2) := by decide +kernel
theorem d_X_chosen_92 : decode b_X_chosen 92 = .ok (.iconst 1, 1) := by decide +kernel
theorem d_X_chosen_93 : decode b_X_chosen 93 = .ok (.invokevirtual 150, 3) := by decide +kernel
theorem d_X_chosen_96 : decode b_X_chosen 96 = .ok (.aload_n 0, 1) := by decide +kernel
theorem d_X_chosen_97 : decode b_X_chosen 97 = .ok (.iload_n 2, 1) := by decide +kernel
theorem d_X_chosen_98 : decode b_X_chosen 98 = .ok (.iload 5, 2) := by decide +kernel
theorem d_X_chosen_100 : decode b_X_chosen 100 = .ok (.iconst 1, 1) := by decide +kernel
theorem d_X_chosen_101 : decode b_X_chosen 101 = .ok (.invokevirtual 150, 3) := by decide +kernel
theorem d_X_chosen_104 : decode b_X_chosen 104 = .ok (.aload_n 0, 1) := by decide +kernel
theorem d_X_chosen_105 : decode b_X_chosen 105 = .ok (.iload_n 3, 1) := by decide +kernel
theorem d_X_chosen_106 : decode b_X_chosen 106 = .ok (.iload 5, 2) := by decide +kernel
theorem d_X_chosen_108 : decode b_X_chosen 108 = .ok (.iconst 1, 1) := by decide +kernel
theorem d_X_chosen_109 : decode b_X_chosen 109 = .ok (.invokevirtual 150, 3) := by decide +kernel
theorem d_X_chosen_112 : decode b_X_chosen 112 = .ok (.invokestatic 154, 3) := by decide +kernel
theorem d_X_chosen_115 : decode b_X_chosen 115 = .ok (.istore 7, 2) := by decide +kernel
theorem d_X_chosen_117 : decode b_X_chosen 117 = .ok (.aload_n 0, 1) := by decide +kernel
theorem d_X_chosen_118 : decode b_X_chosen 118 = .ok (.iconst 0, 1) := by decide +kernel
theorem d_X_chosen_119 : decode b_X_chosen 119 = .ok (.iload_n 1, 1) := by decide +kernel
theorem d_X_chosen_120 : decode b_X_chosen 120 = .ok (.iload_n 2, 1) := by decide +kernel
theorem d_X_chosen_121 : decode b_X_chosen 121 = .ok (.iload_n 3, 1) := by decide +kernel
theorem d_X_chosen_122 : decode b_X_chosen 122 = .ok (.aload_n 0, 1) := by decide +kernel
theorem d_X_chosen_123 : decode b_X_chosen 123 = .ok (.iload 5, 2) := by decide +kernel
theorem d_X_chosen_125 : decode b_X_chosen 125 = .ok (.iload 6, 2) := by decide +kernel
theorem d_X_chosen_127 : decode b_X_chosen 127 = .ok (.iload 7, 2) := by decide +kernel
theorem d_X_chosen_129 : decode b_X_chosen 129 = .ok (.invokevirtual 157, 3) := by decide +kernel
theorem d_X_chosen_132 : decode b_X_chosen 132 = .ok (.invokevirtual 161, 3) := by decide +kernel
theorem d_X_chosen_135 : decode b_X_chosen 135 = .ok (.ireturn, 1) := by decide +kernel
abbrev y_X_variableOf : MethodName := ⟨"StateExplorer", "variableOf", "(I)I"⟩
abbrev b_X_variableOf : ByteArray := prog_1_method_16_code
theorem d_X_variableOf_0 : decode b_X_variableOf 0 = .ok (.bipush 7, 2) := by decide +kernel
theorem d_X_variableOf_2 : decode b_X_variableOf 2 = .ok (.iload_n 0, 1) := by decide +kernel
theorem d_X_variableOf_3 : decode b_X_variableOf 3 = .ok (.isub, 1) := by decide +kernel
theorem d_X_variableOf_4 : decode b_X_variableOf 4 = .ok (.ireturn, 1) := by decide +kernel
abbrev y_X_inputVariable : MethodName := ⟨"StateExplorer", "inputVariable", "(I)I"⟩
abbrev b_X_inputVariable : ByteArray := prog_1_method_17_code
theorem d_X_inputVariable_0 : decode b_X_inputVariable 0 = .ok (.bipush 11, 2) := by decide +kernel
theorem d_X_inputVariable_2 : decode b_X_inputVariable 2 = .ok (.iload_n 0, 1) := by decide +kernel
theorem d_X_inputVariable_3 : decode b_X_inputVariable 3 = .ok (.isub, 1) := by decide +kernel
theorem d_X_inputVariable_4 : decode b_X_inputVariable 4 = .ok (.ireturn, 1) := by decide +kernel
abbrev y_X_anyChoice : MethodName := ⟨"StateExplorer", "anyChoice", "(LStateExplorer$Nodes;I)I"⟩
abbrev b_X_anyChoice : ByteArray := prog_1_method_19_code
theorem d_X_anyChoice_0 : decode b_X_anyChoice 0 = .ok (.iload_n 1, 1) := by decide +kernel
theorem d_X_anyChoice_1 : decode b_X_anyChoice 1 = .ok (.iconst 2, 1) := by decide +kernel
theorem d_X_anyChoice_2 : decode b_X_anyChoice 2 = .ok (.if_icmp .ge 5, 3) := by decide +kernel
theorem d_X_anyChoice_5 : decode b_X_anyChoice 5 = .ok (.iload_n 1, 1) := by decide +kernel
theorem d_X_anyChoice_6 : decode b_X_anyChoice 6 = .ok (.ireturn, 1) := by decide +kernel
theorem d_X_anyChoice_7 : decode b_X_anyChoice 7 = .ok (.aload_n 0, 1) := by decide +kernel
theorem d_X_anyChoice_8 : decode b_X_anyChoice 8 = .ok (.iload_n 1, 1) := by decide +kernel
theorem d_X_anyChoice_9 : decode b_X_anyChoice 9 = .ok (.invokevirtual 133, 3) := by decide +kernel
theorem d_X_anyChoice_12 : decode b_X_anyChoice 12 = .ok (.bipush 8, 2) := by decide +kernel
theorem d_X_anyChoice_14 : decode b_X_anyChoice 14 = .ok (.if_icmp .lt 5, 3) := by decide +kernel
theorem d_X_anyChoice_17 : decode b_X_anyChoice 17 = .ok (.iconst 1, 1) := by decide +kernel
theorem d_X_anyChoice_18 : decode b_X_anyChoice 18 = .ok (.ireturn, 1) := by decide +kernel
theorem d_X_anyChoice_19 : decode b_X_anyChoice 19 = .ok (.aload_n 0, 1) := by decide +kernel
theorem d_X_anyChoice_20 : decode b_X_anyChoice 20 = .ok (.iconst 1, 1) := by decide +kernel
theorem d_X_anyChoice_21 : decode b_X_anyChoice 21 = .ok (.iload_n 1, 1) := by decide +kernel
theorem d_X_anyChoice_22 : decode b_X_anyChoice 22 = .ok (.iconst 0, 1) := by decide +kernel
theorem d_X_anyChoice_23 : decode b_X_anyChoice 23 = .ok (.iconst 0, 1) := by decide +kernel
theorem d_X_anyChoice_24 : decode b_X_anyChoice 24 = .ok (.invokevirtual 142, 3) := by decide +kernel
theorem d_X_anyChoice_27 : decode b_X_anyChoice 27 = .ok (.istore_n 2, 1) := by decide +kernel
theorem d_X_anyChoice_28 : decode b_X_anyChoice 28 = .ok (.iload_n 2, 1) := by decide +kernel
theorem d_X_anyChoice_29 : decode b_X_anyChoice 29 = .ok (.iconst (-1), 1) := by decide +kernel
theorem d_X_anyChoice_30 : decode b_X_anyChoice 30 = .ok (.if_icmp .eq 5, 3) := by decide +kernel
theorem d_X_anyChoice_33 : decode b_X_anyChoice 33 = .ok (.iload_n 2, 1) := by decide +kernel
theorem d_X_anyChoice_34 : decode b_X_anyChoice 34 = .ok (.ireturn, 1) := by decide +kernel
theorem d_X_anyChoice_35 : decode b_X_anyChoice 35 = .ok (.aload_n 0, 1) := by decide +kernel
theorem d_X_anyChoice_36 : decode b_X_anyChoice 36 = .ok (.iload_n 1, 1) := by decide +kernel
theorem d_X_anyChoice_37 : decode b_X_anyChoice 37 = .ok (.invokevirtual 133, 3) := by decide +kernel
theorem d_X_anyChoice_40 : decode b_X_anyChoice 40 = .ok (.istore_n 3, 1) := by decide +kernel
theorem d_X_anyChoice_41 : decode b_X_anyChoice 41 = .ok (.aload_n 0, 1) := by decide +kernel
theorem d_X_anyChoice_42 : decode b_X_anyChoice 42 = .ok (.iconst 1, 1) := by decide +kernel
theorem d_X_anyChoice_43 : decode b_X_anyChoice 43 = .ok (.iload_n 1, 1) := by decide +kernel
theorem d_X_anyChoice_44 : decode b_X_anyChoice 44 = .ok (.iconst 0, 1) := by decide +kernel
theorem d_X_anyChoice_45 : decode b_X_anyChoice 45 = .ok (.iconst 0, 1) := by decide +kernel
theorem d_X_anyChoice_46 : decode b_X_anyChoice 46 = .ok (.aload_n 0, 1) := by decide +kernel
theorem d_X_anyChoice_47 : decode b_X_anyChoice 47 = .ok (.iload_n 3, 1) := by decide +kernel
theorem d_X_anyChoice_48 : decode b_X_anyChoice 48 = .ok (.aload_n 0, 1) := by decide +kernel
theorem d_X_anyChoice_49 : decode b_X_anyChoice 49 = .ok (.aload_n 0, 1) := by decide +kernel
theorem d_X_anyChoice_50 : decode b_X_anyChoice 50 = .ok (.getfield 168, 3) := by decide +kernel
theorem d_X_anyChoice_53 : decode b_X_anyChoice 53 = .ok (.iload_n 1, 1) := by decide +kernel
theorem d_X_anyChoice_54 : decode b_X_anyChoice 54 = .ok (.iaload, 1) := by decide +kernel
theorem d_X_anyChoice_55 : decode b_X_anyChoice 55 = .ok (.invokestatic 171, 3) := by decide +kernel
theorem d_X_anyChoice_58 : decode b_X_anyChoice 58 = .ok (.aload_n 0, 1) := by decide +kernel
theorem d_X_anyChoice_59 : decode b_X_anyChoice 59 = .ok (.aload_n 0, 1) := by decide +kernel
theorem d_X_anyChoice_60 : decode b_X_anyChoice 60 = .ok (.getfield 174, 3) := by decide +kernel
theorem d_X_anyChoice_63 : decode b_X_anyChoice 63 = .ok (.iload_n 1, 1) := by decide +kernel
theorem d_X_anyChoice_64 : decode b_X_anyChoice 64 = .ok (.iaload, 1) := by decide +kernel
theorem d_X_anyChoice_65 : decode b_X_anyChoice 65 = .ok (.invokestatic 171, 3) := by decide +kernel
theorem d_X_anyChoice_68 : decode b_X_anyChoice 68 = .ok (.invokevirtual 157, 3) := by decide +kernel
theorem d_X_anyChoice_71 : decode b_X_anyChoice 71 = .ok (.invokevirtual 161, 3) := by decide +kernel
theorem d_X_anyChoice_74 : decode b_X_anyChoice 74 = .ok (.ireturn, 1) := by decide +kernel
abbrev y_X_bit : MethodName := ⟨"StateExplorer", "bit", "(II)Z"⟩
abbrev b_X_bit : ByteArray := prog_1_method_22_code
theorem d_X_bit_0 : decode b_X_bit 0 = .ok (.iload_n 0, 1) := by decide +kernel
theorem d_X_bit_1 : decode b_X_bit 1 = .ok (.iload_n 1, 1) := by decide +kernel
theorem d_X_bit_2 : decode b_X_bit 2 = .ok (.ishr, 1) := by decide +kernel
theorem d_X_bit_3 : decode b_X_bit 3 = .ok (.iconst 1, 1) := by decide +kernel
theorem d_X_bit_4 : decode b_X_bit 4 = .ok (.iand, 1) := by decide +kernel
theorem d_X_bit_5 : decode b_X_bit 5 = .ok (.iconst 1, 1) := by decide +kernel
theorem d_X_bit_6 : decode b_X_bit 6 = .ok (.if_icmp .ne 7, 3) := by decide +kernel
theorem d_X_bit_9 : decode b_X_bit 9 = .ok (.iconst 1, 1) := by decide +kernel
theorem d_X_bit_10 : decode b_X_bit 10 = .ok (.goto 4, 3) := by decide +kernel
theorem d_X_bit_13 : decode b_X_bit 13 = .ok (.iconst 0, 1) := by decide +kernel
theorem d_X_bit_14 : decode b_X_bit 14 = .ok (.ireturn, 1) := by decide +kernel
abbrev y_X_points : MethodName := ⟨"StateExplorer", "points", "(LStateExplorer$Nodes;II)I"⟩
abbrev b_X_points : ByteArray := prog_1_method_24_code
theorem d_X_points_0 : decode b_X_points 0 = .ok (.iload_n 1, 1) := by decide +kernel
theorem d_X_points_1 : decode b_X_points 1 = .ok (.ifCond .ne 5, 3) := by decide +kernel
theorem d_X_points_4 : decode b_X_points 4 = .ok (.iconst 0, 1) := by decide +kernel
theorem d_X_points_5 : decode b_X_points 5 = .ok (.ireturn, 1) := by decide +kernel
theorem d_X_points_6 : decode b_X_points 6 = .ok (.iconst 1, 1) := by decide +kernel
theorem d_X_points_7 : decode b_X_points 7 = .ok (.aload_n 0, 1) := by decide +kernel
theorem d_X_points_8 : decode b_X_points 8 = .ok (.iload_n 1, 1) := by decide +kernel
theorem d_X_points_9 : decode b_X_points 9 = .ok (.invokevirtual 133, 3) := by decide +kernel
theorem d_X_points_12 : decode b_X_points 12 = .ok (.iload_n 2, 1) := by decide +kernel
theorem d_X_points_13 : decode b_X_points 13 = .ok (.isub, 1) := by decide +kernel
theorem d_X_points_14 : decode b_X_points 14 = .ok (.ishl, 1) := by decide +kernel
theorem d_X_points_15 : decode b_X_points 15 = .ok (.istore_n 3, 1) := by decide +kernel
theorem d_X_points_16 : decode b_X_points 16 = .ok (.iload_n 1, 1) := by decide +kernel
theorem d_X_points_17 : decode b_X_points 17 = .ok (.iconst 1, 1) := by decide +kernel
theorem d_X_points_18 : decode b_X_points 18 = .ok (.if_icmp .ne 5, 3) := by decide +kernel
theorem d_X_points_21 : decode b_X_points 21 = .ok (.iload_n 3, 1) := by decide +kernel
theorem d_X_points_22 : decode b_X_points 22 = .ok (.ireturn, 1) := by decide +kernel
theorem d_X_points_23 : decode b_X_points 23 = .ok (.aload_n 0, 1) := by decide +kernel
theorem d_X_points_24 : decode b_X_points 24 = .ok (.iload_n 1, 1) := by decide +kernel
theorem d_X_points_25 : decode b_X_points 25 = .ok (.invokevirtual 133, 3) := by decide +kernel
theorem d_X_points_28 : decode b_X_points 28 = .ok (.iconst 1, 1) := by decide +kernel
theorem d_X_points_29 : decode b_X_points 29 = .ok (.iadd, 1) := by decide +kernel
theorem d_X_points_30 : decode b_X_points 30 = .ok (.istore 4, 2) := by decide +kernel
theorem d_X_points_32 : decode b_X_points 32 = .ok (.iload_n 3, 1) := by decide +kernel
theorem d_X_points_33 : decode b_X_points 33 = .ok (.aload_n 0, 1) := by decide +kernel
theorem d_X_points_34 : decode b_X_points 34 = .ok (.aload_n 0, 1) := by decide +kernel
theorem d_X_points_35 : decode b_X_points 35 = .ok (.getfield 168, 3) := by decide +kernel
theorem d_X_points_38 : decode b_X_points 38 = .ok (.iload_n 1, 1) := by decide +kernel
theorem d_X_points_39 : decode b_X_points 39 = .ok (.iaload, 1) := by decide +kernel
theorem d_X_points_40 : decode b_X_points 40 = .ok (.iload 4, 2) := by decide +kernel
theorem d_X_points_42 : decode b_X_points 42 = .ok (.invokestatic 191, 3) := by decide +kernel
theorem d_X_points_45 : decode b_X_points 45 = .ok (.aload_n 0, 1) := by decide +kernel
theorem d_X_points_46 : decode b_X_points 46 = .ok (.aload_n 0, 1) := by decide +kernel
theorem d_X_points_47 : decode b_X_points 47 = .ok (.getfield 174, 3) := by decide +kernel
theorem d_X_points_50 : decode b_X_points 50 = .ok (.iload_n 1, 1) := by decide +kernel
theorem d_X_points_51 : decode b_X_points 51 = .ok (.iaload, 1) := by decide +kernel
theorem d_X_points_52 : decode b_X_points 52 = .ok (.iload 4, 2) := by decide +kernel
theorem d_X_points_54 : decode b_X_points 54 = .ok (.invokestatic 191, 3) := by decide +kernel
theorem d_X_points_57 : decode b_X_points 57 = .ok (.iadd, 1) := by decide +kernel
theorem d_X_points_58 : decode b_X_points 58 = .ok (.imul, 1) := by decide +kernel
theorem d_X_points_59 : decode b_X_points 59 = .ok (.ireturn, 1) := by decide +kernel
