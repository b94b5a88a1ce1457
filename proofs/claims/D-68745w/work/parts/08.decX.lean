/-! names and decode rows, printed by mk.py -/
abbrev y_X_there : MethodName := ⟨"StateExplorer", "there", "(I)I"⟩
abbrev b_X_there : ByteArray := prog_1_method_3_code
theorem d_X_there_0 : decode b_X_there 0 = .ok (.iload_n 1, 1) := by decide +kernel
theorem d_X_there_1 : decode b_X_there 1 = .ok (.ifCond .lt 15, 3) := by decide +kernel
theorem d_X_there_4 : decode b_X_there 4 = .ok (.iload_n 1, 1) := by decide +kernel
theorem d_X_there_5 : decode b_X_there 5 = .ok (.aload_n 0, 1) := by decide +kernel
theorem d_X_there_6 : decode b_X_there 6 = .ok (.getfield 75, 3) := by decide +kernel
theorem d_X_there_9 : decode b_X_there 9 = .ok (.if_icmp .ge 7, 3) := by decide +kernel
theorem d_X_there_12 : decode b_X_there 12 = .ok (.iconst 1, 1) := by decide +kernel
theorem d_X_there_13 : decode b_X_there 13 = .ok (.goto 4, 3) := by decide +kernel
theorem d_X_there_16 : decode b_X_there 16 = .ok (.iconst 0, 1) := by decide +kernel
theorem d_X_there_17 : decode b_X_there 17 = .ok (.invokestatic 79, 3) := by decide +kernel
theorem d_X_there_20 : decode b_X_there 20 = .ok (.iload_n 1, 1) := by decide +kernel
theorem d_X_there_21 : decode b_X_there 21 = .ok (.ireturn, 1) := by decide +kernel
abbrev y_X_gate : MethodName := ⟨"StateExplorer", "gate", "(I)I"⟩
abbrev b_X_gate : ByteArray := prog_1_method_4_code
theorem d_X_gate_0 : decode b_X_gate 0 = .ok (.iload_n 1, 1) := by decide +kernel
theorem d_X_gate_1 : decode b_X_gate 1 = .ok (.ifCond .lt 8, 3) := by decide +kernel
theorem d_X_gate_4 : decode b_X_gate 4 = .ok (.iload_n 1, 1) := by decide +kernel
theorem d_X_gate_5 : decode b_X_gate 5 = .ok (.iconst 3, 1) := by decide +kernel
theorem d_X_gate_6 : decode b_X_gate 6 = .ok (.if_icmp .le 11, 3) := by decide +kernel
theorem d_X_gate_9 : decode b_X_gate 9 = .ok (.new 83, 3) := by decide +kernel
theorem d_X_gate_12 : decode b_X_gate 12 = .ok (.dup, 1) := by decide +kernel
theorem d_X_gate_13 : decode b_X_gate 13 = .ok (.invokespecial 85, 3) := by decide +kernel
theorem d_X_gate_16 : decode b_X_gate 16 = .ok (.athrow, 1) := by decide +kernel
theorem d_X_gate_17 : decode b_X_gate 17 = .ok (.aload_n 0, 1) := by decide +kernel
theorem d_X_gate_18 : decode b_X_gate 18 = .ok (.getfield 75, 3) := by decide +kernel
theorem d_X_gate_21 : decode b_X_gate 21 = .ok (.bipush 60, 2) := by decide +kernel
theorem d_X_gate_23 : decode b_X_gate 23 = .ok (.if_icmp .eq 29, 3) := by decide +kernel
theorem d_X_gate_26 : decode b_X_gate 26 = .ok (.iload_n 1, 1) := by decide +kernel
theorem d_X_gate_27 : decode b_X_gate 27 = .ok (.ifCond .ne 11, 3) := by decide +kernel
theorem d_X_gate_30 : decode b_X_gate 30 = .ok (.aload_n 0, 1) := by decide +kernel
theorem d_X_gate_31 : decode b_X_gate 31 = .ok (.getfield 86, 3) := by decide +kernel
theorem d_X_gate_34 : decode b_X_gate 34 = .ok (.iconst 4, 1) := by decide +kernel
theorem d_X_gate_35 : decode b_X_gate 35 = .ok (.if_icmp .eq 17, 3) := by decide +kernel
theorem d_X_gate_38 : decode b_X_gate 38 = .ok (.iload_n 1, 1) := by decide +kernel
theorem d_X_gate_39 : decode b_X_gate 39 = .ok (.iconst 1, 1) := by decide +kernel
theorem d_X_gate_40 : decode b_X_gate 40 = .ok (.if_icmp .ne 14, 3) := by decide +kernel
theorem d_X_gate_43 : decode b_X_gate 43 = .ok (.aload_n 0, 1) := by decide +kernel
theorem d_X_gate_44 : decode b_X_gate 44 = .ok (.getfield 89, 3) := by decide +kernel
theorem d_X_gate_47 : decode b_X_gate 47 = .ok (.bipush 8, 2) := by decide +kernel
theorem d_X_gate_49 : decode b_X_gate 49 = .ok (.if_icmp .ne 5, 3) := by decide +kernel
theorem d_X_gate_52 : decode b_X_gate 52 = .ok (.iconst (-1), 1) := by decide +kernel
theorem d_X_gate_53 : decode b_X_gate 53 = .ok (.ireturn, 1) := by decide +kernel
theorem d_X_gate_54 : decode b_X_gate 54 = .ok (.aload_n 0, 1) := by decide +kernel
theorem d_X_gate_55 : decode b_X_gate 55 = .ok (.getfield 16, 3) := by decide +kernel
theorem d_X_gate_58 : decode b_X_gate 58 = .ok (.aload_n 0, 1) := by decide +kernel
theorem d_X_gate_59 : decode b_X_gate 59 = .ok (.getfield 75, 3) := by decide +kernel
theorem d_X_gate_62 : decode b_X_gate 62 = .ok (.iload_n 1, 1) := by decide +kernel
theorem d_X_gate_63 : decode b_X_gate 63 = .ok (.iastore, 1) := by decide +kernel
theorem d_X_gate_64 : decode b_X_gate 64 = .ok (.aload_n 0, 1) := by decide +kernel
theorem d_X_gate_65 : decode b_X_gate 65 = .ok (.getfield 20, 3) := by decide +kernel
theorem d_X_gate_68 : decode b_X_gate 68 = .ok (.aload_n 0, 1) := by decide +kernel
theorem d_X_gate_69 : decode b_X_gate 69 = .ok (.getfield 75, 3) := by decide +kernel
theorem d_X_gate_72 : decode b_X_gate 72 = .ok (.iload_n 1, 1) := by decide +kernel
theorem d_X_gate_73 : decode b_X_gate 73 = .ok (.ifCond .ne 10, 3) := by decide +kernel
theorem d_X_gate_76 : decode b_X_gate 76 = .ok (.aload_n 0, 1) := by decide +kernel
theorem d_X_gate_77 : decode b_X_gate 77 = .ok (.getfield 86, 3) := by decide +kernel
theorem d_X_gate_80 : decode b_X_gate 80 = .ok (.goto 7, 3) := by decide +kernel
theorem d_X_gate_83 : decode b_X_gate 83 = .ok (.aload_n 0, 1) := by decide +kernel
theorem d_X_gate_84 : decode b_X_gate 84 = .ok (.getfield 89, 3) := by decide +kernel
theorem d_X_gate_87 : decode b_X_gate 87 = .ok (.iastore, 1) := by decide +kernel
theorem d_X_gate_88 : decode b_X_gate 88 = .ok (.aload_n 0, 1) := by decide +kernel
theorem d_X_gate_89 : decode b_X_gate 89 = .ok (.dup, 1) := by decide +kernel
theorem d_X_gate_90 : decode b_X_gate 90 = .ok (.getfield 86, 3) := by decide +kernel
theorem d_X_gate_93 : decode b_X_gate 93 = .ok (.iload_n 1, 1) := by decide +kernel
theorem d_X_gate_94 : decode b_X_gate 94 = .ok (.ifCond .ne 7, 3) := by decide +kernel
theorem d_X_gate_97 : decode b_X_gate 97 = .ok (.iconst 1, 1) := by decide +kernel
theorem d_X_gate_98 : decode b_X_gate 98 = .ok (.goto 4, 3) := by decide +kernel
theorem d_X_gate_101 : decode b_X_gate 101 = .ok (.iconst 0, 1) := by decide +kernel
theorem d_X_gate_102 : decode b_X_gate 102 = .ok (.iadd, 1) := by decide +kernel
theorem d_X_gate_103 : decode b_X_gate 103 = .ok (.putfield 86, 3) := by decide +kernel
theorem d_X_gate_106 : decode b_X_gate 106 = .ok (.iload_n 1, 1) := by decide +kernel
theorem d_X_gate_107 : decode b_X_gate 107 = .ok (.iconst 1, 1) := by decide +kernel
theorem d_X_gate_108 : decode b_X_gate 108 = .ok (.if_icmp .ne 26, 3) := by decide +kernel
theorem d_X_gate_111 : decode b_X_gate 111 = .ok (.aload_n 0, 1) := by decide +kernel
theorem d_X_gate_112 : decode b_X_gate 112 = .ok (.getfield 26, 3) := by decide +kernel
theorem d_X_gate_115 : decode b_X_gate 115 = .ok (.aload_n 0, 1) := by decide +kernel
theorem d_X_gate_116 : decode b_X_gate 116 = .ok (.getfield 89, 3) := by decide +kernel
theorem d_X_gate_119 : decode b_X_gate 119 = .ok (.aload_n 0, 1) := by decide +kernel
theorem d_X_gate_120 : decode b_X_gate 120 = .ok (.getfield 75, 3) := by decide +kernel
theorem d_X_gate_123 : decode b_X_gate 123 = .ok (.iastore, 1) := by decide +kernel
theorem d_X_gate_124 : decode b_X_gate 124 = .ok (.aload_n 0, 1) := by decide +kernel
theorem d_X_gate_125 : decode b_X_gate 125 = .ok (.dup, 1) := by decide +kernel
theorem d_X_gate_126 : decode b_X_gate 126 = .ok (.getfield 89, 3) := by decide +kernel
theorem d_X_gate_129 : decode b_X_gate 129 = .ok (.iconst 1, 1) := by decide +kernel
theorem d_X_gate_130 : decode b_X_gate 130 = .ok (.iadd, 1) := by decide +kernel
theorem d_X_gate_131 : decode b_X_gate 131 = .ok (.putfield 89, 3) := by decide +kernel
theorem d_X_gate_134 : decode b_X_gate 134 = .ok (.aload_n 0, 1) := by decide +kernel
theorem d_X_gate_135 : decode b_X_gate 135 = .ok (.dup, 1) := by decide +kernel
theorem d_X_gate_136 : decode b_X_gate 136 = .ok (.getfield 75, 3) := by decide +kernel
theorem d_X_gate_139 : decode b_X_gate 139 = .ok (.iconst 1, 1) := by decide +kernel
theorem d_X_gate_140 : decode b_X_gate 140 = .ok (.iadd, 1) := by decide +kernel
theorem d_X_gate_141 : decode b_X_gate 141 = .ok (.putfield 75, 3) := by decide +kernel
theorem d_X_gate_144 : decode b_X_gate 144 = .ok (.aload_n 0, 1) := by decide +kernel
theorem d_X_gate_145 : decode b_X_gate 145 = .ok (.iconst 0, 1) := by decide +kernel
theorem d_X_gate_146 : decode b_X_gate 146 = .ok (.putfield 92, 3) := by decide +kernel
theorem d_X_gate_149 : decode b_X_gate 149 = .ok (.aload_n 0, 1) := by decide +kernel
theorem d_X_gate_150 : decode b_X_gate 150 = .ok (.getfield 75, 3) := by decide +kernel
theorem d_X_gate_153 : decode b_X_gate 153 = .ok (.iconst 1, 1) := by decide +kernel
theorem d_X_gate_154 : decode b_X_gate 154 = .ok (.isub, 1) := by decide +kernel
theorem d_X_gate_155 : decode b_X_gate 155 = .ok (.ireturn, 1) := by decide +kernel
abbrev y_X_feedsOf : MethodName := ⟨"StateExplorer", "feedsOf", "(I)I"⟩
abbrev b_X_feedsOf : ByteArray := prog_1_method_5_code
theorem d_X_feedsOf_0 : decode b_X_feedsOf 0 = .ok (.iconst 0, 1) := by decide +kernel
theorem d_X_feedsOf_1 : decode b_X_feedsOf 1 = .ok (.istore_n 2, 1) := by decide +kernel
theorem d_X_feedsOf_2 : decode b_X_feedsOf 2 = .ok (.iconst 0, 1) := by decide +kernel
theorem d_X_feedsOf_3 : decode b_X_feedsOf 3 = .ok (.istore_n 3, 1) := by decide +kernel
theorem d_X_feedsOf_4 : decode b_X_feedsOf 4 = .ok (.iload_n 3, 1) := by decide +kernel
theorem d_X_feedsOf_5 : decode b_X_feedsOf 5 = .ok (.aload_n 0, 1) := by decide +kernel
theorem d_X_feedsOf_6 : decode b_X_feedsOf 6 = .ok (.getfield 96, 3) := by decide +kernel
theorem d_X_feedsOf_9 : decode b_X_feedsOf 9 = .ok (.if_icmp .ge 27, 3) := by decide +kernel
theorem d_X_feedsOf_12 : decode b_X_feedsOf 12 = .ok (.iload_n 2, 1) := by decide +kernel
theorem d_X_feedsOf_13 : decode b_X_feedsOf 13 = .ok (.aload_n 0, 1) := by decide +kernel
theorem d_X_feedsOf_14 : decode b_X_feedsOf 14 = .ok (.getfield 29, 3) := by decide +kernel
theorem d_X_feedsOf_17 : decode b_X_feedsOf 17 = .ok (.iload_n 3, 1) := by decide +kernel
theorem d_X_feedsOf_18 : decode b_X_feedsOf 18 = .ok (.iaload, 1) := by decide +kernel
theorem d_X_feedsOf_19 : decode b_X_feedsOf 19 = .ok (.iload_n 1, 1) := by decide +kernel
theorem d_X_feedsOf_20 : decode b_X_feedsOf 20 = .ok (.if_icmp .ne 7, 3) := by decide +kernel
theorem d_X_feedsOf_23 : decode b_X_feedsOf 23 = .ok (.iconst 1, 1) := by decide +kernel
theorem d_X_feedsOf_24 : decode b_X_feedsOf 24 = .ok (.goto 4, 3) := by decide +kernel
theorem d_X_feedsOf_27 : decode b_X_feedsOf 27 = .ok (.iconst 0, 1) := by decide +kernel
theorem d_X_feedsOf_28 : decode b_X_feedsOf 28 = .ok (.iadd, 1) := by decide +kernel
theorem d_X_feedsOf_29 : decode b_X_feedsOf 29 = .ok (.istore_n 2, 1) := by decide +kernel
theorem d_X_feedsOf_30 : decode b_X_feedsOf 30 = .ok (.iinc 3 1, 3) := by decide +kernel
theorem d_X_feedsOf_33 : decode b_X_feedsOf 33 = .ok (.goto (-29), 3) := by decide +kernel
theorem d_X_feedsOf_36 : decode b_X_feedsOf 36 = .ok (.iload_n 2, 1) := by decide +kernel
theorem d_X_feedsOf_37 : decode b_X_feedsOf 37 = .ok (.ireturn, 1) := by decide +kernel
abbrev y_X_feed : MethodName := ⟨"StateExplorer", "feed", "(IIZ)I"⟩
abbrev b_X_feed : ByteArray := prog_1_method_6_code
theorem d_X_feed_0 : decode b_X_feed 0 = .ok (.aload_n 0, 1) := by decide +kernel
theorem d_X_feed_1 : decode b_X_feed 1 = .ok (.iload_n 1, 1) := by decide +kernel
theorem d_X_feed_2 : decode b_X_feed 2 = .ok (.invokevirtual 99, 3) := by decide +kernel
theorem d_X_feed_5 : decode b_X_feed 5 = .ok (.pop, 1) := by decide +kernel
theorem d_X_feed_6 : decode b_X_feed 6 = .ok (.aload_n 0, 1) := by decide +kernel
theorem d_X_feed_7 : decode b_X_feed 7 = .ok (.iload_n 2, 1) := by decide +kernel
theorem d_X_feed_8 : decode b_X_feed 8 = .ok (.invokevirtual 99, 3) := by decide +kernel
theorem d_X_feed_11 : decode b_X_feed 11 = .ok (.pop, 1) := by decide +kernel
theorem d_X_feed_12 : decode b_X_feed 12 = .ok (.aload_n 0, 1) := by decide +kernel
theorem d_X_feed_13 : decode b_X_feed 13 = .ok (.getfield 16, 3) := by decide +kernel
theorem d_X_feed_16 : decode b_X_feed 16 = .ok (.iload_n 1, 1) := by decide +kernel
theorem d_X_feed_17 : decode b_X_feed 17 = .ok (.iaload, 1) := by decide +kernel
theorem d_X_feed_18 : decode b_X_feed 18 = .ok (.ifCond .eq 21, 3) := by decide +kernel
theorem d_X_feed_21 : decode b_X_feed 21 = .ok (.aload_n 0, 1) := by decide +kernel
theorem d_X_feed_22 : decode b_X_feed 22 = .ok (.getfield 16, 3) := by decide +kernel
theorem d_X_feed_25 : decode b_X_feed 25 = .ok (.iload_n 1, 1) := by decide +kernel
theorem d_X_feed_26 : decode b_X_feed 26 = .ok (.iaload, 1) := by decide +kernel
theorem d_X_feed_27 : decode b_X_feed 27 = .ok (.iconst 1, 1) := by decide +kernel
theorem d_X_feed_28 : decode b_X_feed 28 = .ok (.if_icmp .ne 19, 3) := by decide +kernel
theorem d_X_feed_31 : decode b_X_feed 31 = .ok (.aload_n 0, 1) := by decide +kernel
theorem d_X_feed_32 : decode b_X_feed 32 = .ok (.iload_n 1, 1) := by decide +kernel
theorem d_X_feed_33 : decode b_X_feed 33 = .ok (.invokevirtual 103, 3) := by decide +kernel
theorem d_X_feed_36 : decode b_X_feed 36 = .ok (.ifCond .le 11, 3) := by decide +kernel
theorem d_X_feed_39 : decode b_X_feed 39 = .ok (.new 106, 3) := by decide +kernel
theorem d_X_feed_42 : decode b_X_feed 42 = .ok (.dup, 1) := by decide +kernel
theorem d_X_feed_43 : decode b_X_feed 43 = .ok (.invokespecial 108, 3) := by decide +kernel
theorem d_X_feed_46 : decode b_X_feed 46 = .ok (.athrow, 1) := by decide +kernel
theorem d_X_feed_47 : decode b_X_feed 47 = .ok (.aload_n 0, 1) := by decide +kernel
theorem d_X_feed_48 : decode b_X_feed 48 = .ok (.getfield 96, 3) := by decide +kernel
theorem d_X_feed_51 : decode b_X_feed 51 = .ok (.sipush 240, 3) := by decide +kernel
theorem d_X_feed_54 : decode b_X_feed 54 = .ok (.if_icmp .ne 5, 3) := by decide +kernel
theorem d_X_feed_57 : decode b_X_feed 57 = .ok (.iconst (-1), 1) := by decide +kernel
theorem d_X_feed_58 : decode b_X_feed 58 = .ok (.ireturn, 1) := by decide +kernel
theorem d_X_feed_59 : decode b_X_feed 59 = .ok (.aload_n 0, 1) := by decide +kernel
theorem d_X_feed_60 : decode b_X_feed 60 = .ok (.getfield 29, 3) := by decide +kernel
theorem d_X_feed_63 : decode b_X_feed 63 = .ok (.aload_n 0, 1) := by decide +kernel
theorem d_X_feed_64 : decode b_X_feed 64 = .ok (.getfield 96, 3) := by decide +kernel
theorem d_X_feed_67 : decode b_X_feed 67 = .ok (.iload_n 1, 1) := by decide +kernel
theorem d_X_feed_68 : decode b_X_feed 68 = .ok (.iastore, 1) := by decide +kernel
theorem d_X_feed_69 : decode b_X_feed 69 = .ok (.aload_n 0, 1) := by decide +kernel
theorem d_X_feed_70 : decode b_X_feed 70 = .ok (.getfield 32, 3) := by decide +kernel
theorem d_X_feed_73 : decode b_X_feed 73 = .ok (.aload_n 0, 1) := by decide +kernel
theorem d_X_feed_74 : decode b_X_feed 74 = .ok (.getfield 96, 3) := by decide +kernel
theorem d_X_feed_77 : decode b_X_feed 77 = .ok (.iload_n 2, 1) := by decide +kernel
theorem d_X_feed_78 : decode b_X_feed 78 = .ok (.iastore, 1) := by decide +kernel
theorem d_X_feed_79 : decode b_X_feed 79 = .ok (.aload_n 0, 1) := by decide +kernel
theorem d_X_feed_80 : decode b_X_feed 80 = .ok (.getfield 35, 3) := by decide +kernel
theorem d_X_feed_83 : decode b_X_feed 83 = .ok (.aload_n 0, 1) := by decide +kernel
theorem d_X_feed_84 : decode b_X_feed 84 = .ok (.getfield 96, 3) := by decide +kernel
theorem d_X_feed_87 : decode b_X_feed 87 = .ok (.iload_n 3, 1) := by decide +kernel
theorem d_X_feed_88 : decode b_X_feed 88 = .ok (.bastore, 1) := by decide +kernel
theorem d_X_feed_89 : decode b_X_feed 89 = .ok (.aload_n 0, 1) := by decide +kernel
theorem d_X_feed_90 : decode b_X_feed 90 = .ok (.dup, 1) := by decide +kernel
theorem d_X_feed_91 : decode b_X_feed 91 = .ok (.getfield 96, 3) := by decide +kernel
theorem d_X_feed_94 : decode b_X_feed 94 = .ok (.iconst 1, 1) := by decide +kernel
theorem d_X_feed_95 : decode b_X_feed 95 = .ok (.iadd, 1) := by decide +kernel
theorem d_X_feed_96 : decode b_X_feed 96 = .ok (.putfield 96, 3) := by decide +kernel
theorem d_X_feed_99 : decode b_X_feed 99 = .ok (.aload_n 0, 1) := by decide +kernel
theorem d_X_feed_100 : decode b_X_feed 100 = .ok (.iconst 0, 1) := by decide +kernel
theorem d_X_feed_101 : decode b_X_feed 101 = .ok (.putfield 92, 3) := by decide +kernel
theorem d_X_feed_104 : decode b_X_feed 104 = .ok (.aload_n 0, 1) := by decide +kernel
theorem d_X_feed_105 : decode b_X_feed 105 = .ok (.iload_n 1, 1) := by decide +kernel
theorem d_X_feed_106 : decode b_X_feed 106 = .ok (.invokevirtual 103, 3) := by decide +kernel
theorem d_X_feed_109 : decode b_X_feed 109 = .ok (.ireturn, 1) := by decide +kernel
abbrev y_X_output : MethodName := ⟨"StateExplorer", "output", "(I)I"⟩
abbrev b_X_output : ByteArray := prog_1_method_7_code
theorem d_X_output_0 : decode b_X_output 0 = .ok (.aload_n 0, 1) := by decide +kernel
theorem d_X_output_1 : decode b_X_output 1 = .ok (.iload_n 1, 1) := by decide +kernel
theorem d_X_output_2 : decode b_X_output 2 = .ok (.invokevirtual 99, 3) := by decide +kernel
theorem d_X_output_5 : decode b_X_output 5 = .ok (.pop, 1) := by decide +kernel
theorem d_X_output_6 : decode b_X_output 6 = .ok (.aload_n 0, 1) := by decide +kernel
theorem d_X_output_7 : decode b_X_output 7 = .ok (.getfield 109, 3) := by decide +kernel
theorem d_X_output_10 : decode b_X_output 10 = .ok (.bipush 6, 2) := by decide +kernel
theorem d_X_output_12 : decode b_X_output 12 = .ok (.if_icmp .ne 5, 3) := by decide +kernel
theorem d_X_output_15 : decode b_X_output 15 = .ok (.iconst (-1), 1) := by decide +kernel
theorem d_X_output_16 : decode b_X_output 16 = .ok (.ireturn, 1) := by decide +kernel
theorem d_X_output_17 : decode b_X_output 17 = .ok (.aload_n 0, 1) := by decide +kernel
theorem d_X_output_18 : decode b_X_output 18 = .ok (.getfield 23, 3) := by decide +kernel
theorem d_X_output_21 : decode b_X_output 21 = .ok (.aload_n 0, 1) := by decide +kernel
theorem d_X_output_22 : decode b_X_output 22 = .ok (.getfield 109, 3) := by decide +kernel
theorem d_X_output_25 : decode b_X_output 25 = .ok (.iload_n 1, 1) := by decide +kernel
theorem d_X_output_26 : decode b_X_output 26 = .ok (.iastore, 1) := by decide +kernel
theorem d_X_output_27 : decode b_X_output 27 = .ok (.aload_n 0, 1) := by decide +kernel
theorem d_X_output_28 : decode b_X_output 28 = .ok (.dup, 1) := by decide +kernel
theorem d_X_output_29 : decode b_X_output 29 = .ok (.getfield 109, 3) := by decide +kernel
theorem d_X_output_32 : decode b_X_output 32 = .ok (.iconst 1, 1) := by decide +kernel
theorem d_X_output_33 : decode b_X_output 33 = .ok (.iadd, 1) := by decide +kernel
theorem d_X_output_34 : decode b_X_output 34 = .ok (.putfield 109, 3) := by decide +kernel
theorem d_X_output_37 : decode b_X_output 37 = .ok (.aload_n 0, 1) := by decide +kernel
theorem d_X_output_38 : decode b_X_output 38 = .ok (.iconst 0, 1) := by decide +kernel
theorem d_X_output_39 : decode b_X_output 39 = .ok (.putfield 92, 3) := by decide +kernel
theorem d_X_output_42 : decode b_X_output 42 = .ok (.aload_n 0, 1) := by decide +kernel
theorem d_X_output_43 : decode b_X_output 43 = .ok (.getfield 109, 3) := by decide +kernel
theorem d_X_output_46 : decode b_X_output 46 = .ok (.ireturn, 1) := by decide +kernel
abbrev y_X_clear : MethodName := ⟨"StateExplorer", "clear", "()I"⟩
abbrev b_X_clear : ByteArray := prog_1_method_8_code
theorem d_X_clear_0 : decode b_X_clear 0 = .ok (.aload_n 0, 1) := by decide +kernel
theorem d_X_clear_1 : decode b_X_clear 1 = .ok (.getfield 75, 3) := by decide +kernel
theorem d_X_clear_4 : decode b_X_clear 4 = .ok (.istore_n 1, 1) := by decide +kernel
theorem d_X_clear_5 : decode b_X_clear 5 = .ok (.aload_n 0, 1) := by decide +kernel
theorem d_X_clear_6 : decode b_X_clear 6 = .ok (.iconst 0, 1) := by decide +kernel
theorem d_X_clear_7 : decode b_X_clear 7 = .ok (.putfield 75, 3) := by decide +kernel
theorem d_X_clear_10 : decode b_X_clear 10 = .ok (.aload_n 0, 1) := by decide +kernel
theorem d_X_clear_11 : decode b_X_clear 11 = .ok (.iconst 0, 1) := by decide +kernel
theorem d_X_clear_12 : decode b_X_clear 12 = .ok (.putfield 96, 3) := by decide +kernel
theorem d_X_clear_15 : decode b_X_clear 15 = .ok (.aload_n 0, 1) := by decide +kernel
theorem d_X_clear_16 : decode b_X_clear 16 = .ok (.iconst 0, 1) := by decide +kernel
theorem d_X_clear_17 : decode b_X_clear 17 = .ok (.putfield 86, 3) := by decide +kernel
theorem d_X_clear_20 : decode b_X_clear 20 = .ok (.aload_n 0, 1) := by decide +kernel
theorem d_X_clear_21 : decode b_X_clear 21 = .ok (.iconst 0, 1) := by decide +kernel
theorem d_X_clear_22 : decode b_X_clear 22 = .ok (.putfield 89, 3) := by decide +kernel
theorem d_X_clear_25 : decode b_X_clear 25 = .ok (.aload_n 0, 1) := by decide +kernel
theorem d_X_clear_26 : decode b_X_clear 26 = .ok (.iconst 0, 1) := by decide +kernel
theorem d_X_clear_27 : decode b_X_clear 27 = .ok (.putfield 109, 3) := by decide +kernel
theorem d_X_clear_30 : decode b_X_clear 30 = .ok (.aload_n 0, 1) := by decide +kernel
theorem d_X_clear_31 : decode b_X_clear 31 = .ok (.iconst 0, 1) := by decide +kernel
theorem d_X_clear_32 : decode b_X_clear 32 = .ok (.putfield 92, 3) := by decide +kernel
theorem d_X_clear_35 : decode b_X_clear 35 = .ok (.iload_n 1, 1) := by decide +kernel
theorem d_X_clear_36 : decode b_X_clear 36 = .ok (.ireturn, 1) := by decide +kernel
abbrev y_X_keep : MethodName := ⟨"StateExplorer", "keep", "([II)V"⟩
abbrev b_X_keep : ByteArray := prog_1_method_9_code
theorem d_X_keep_0 : decode b_X_keep 0 = .ok (.iconst 0, 1) := by decide +kernel
theorem d_X_keep_1 : decode b_X_keep 1 = .ok (.istore_n 3, 1) := by decide +kernel
theorem d_X_keep_2 : decode b_X_keep 2 = .ok (.iload_n 3, 1) := by decide +kernel
theorem d_X_keep_3 : decode b_X_keep 3 = .ok (.iload_n 2, 1) := by decide +kernel
theorem d_X_keep_4 : decode b_X_keep 4 = .ok (.if_icmp .ge 20, 3) := by decide +kernel
theorem d_X_keep_7 : decode b_X_keep 7 = .ok (.aload_n 0, 1) := by decide +kernel
theorem d_X_keep_8 : decode b_X_keep 8 = .ok (.getfield 10, 3) := by decide +kernel
theorem d_X_keep_11 : decode b_X_keep 11 = .ok (.aload_n 1, 1) := by decide +kernel
theorem d_X_keep_12 : decode b_X_keep 12 = .ok (.iload_n 3, 1) := by decide +kernel
theorem d_X_keep_13 : decode b_X_keep 13 = .ok (.iaload, 1) := by decide +kernel
theorem d_X_keep_14 : decode b_X_keep 14 = .ok (.invokestatic 112, 3) := by decide +kernel
theorem d_X_keep_17 : decode b_X_keep 17 = .ok (.pop, 1) := by decide +kernel
theorem d_X_keep_18 : decode b_X_keep 18 = .ok (.iinc 3 1, 3) := by decide +kernel
theorem d_X_keep_21 : decode b_X_keep 21 = .ok (.goto (-19), 3) := by decide +kernel
theorem d_X_keep_24 : decode b_X_keep 24 = .ok (.return_, 1) := by decide +kernel
abbrev y_X_begin : MethodName := ⟨"StateExplorer", "begin", "()V"⟩
abbrev b_X_begin : ByteArray := prog_1_method_10_code
theorem d_X_begin_0 : decode b_X_begin 0 = .ok (.aload_n 0, 1) := by decide +kernel
theorem d_X_begin_1 : decode b_X_begin 1 = .ok (.getfield 10, 3) := by decide +kernel
theorem d_X_begin_4 : decode b_X_begin 4 = .ok (.invokevirtual 116, 3) := by decide +kernel
theorem d_X_begin_7 : decode b_X_begin 7 = .ok (.ifCond .ne 4, 3) := by decide +kernel
theorem d_X_begin_10 : decode b_X_begin 10 = .ok (.return_, 1) := by decide +kernel
theorem d_X_begin_11 : decode b_X_begin 11 = .ok (.aload_n 0, 1) := by decide +kernel
theorem d_X_begin_12 : decode b_X_begin 12 = .ok (.aload_n 0, 1) := by decide +kernel
theorem d_X_begin_13 : decode b_X_begin 13 = .ok (.getfield 39, 3) := by decide +kernel
theorem d_X_begin_16 : decode b_X_begin 16 = .ok (.bipush 60, 2) := by decide +kernel
theorem d_X_begin_18 : decode b_X_begin 18 = .ok (.invokevirtual 120, 3) := by decide +kernel
theorem d_X_begin_21 : decode b_X_begin 21 = .ok (.aload_n 0, 1) := by decide +kernel
theorem d_X_begin_22 : decode b_X_begin 22 = .ok (.aload_n 0, 1) := by decide +kernel
theorem d_X_begin_23 : decode b_X_begin 23 = .ok (.getfield 42, 3) := by decide +kernel
theorem d_X_begin_26 : decode b_X_begin 26 = .ok (.bipush 60, 2) := by decide +kernel
theorem d_X_begin_28 : decode b_X_begin 28 = .ok (.invokevirtual 120, 3) := by decide +kernel
theorem d_X_begin_31 : decode b_X_begin 31 = .ok (.aload_n 0, 1) := by decide +kernel
theorem d_X_begin_32 : decode b_X_begin 32 = .ok (.aload_n 0, 1) := by decide +kernel
theorem d_X_begin_33 : decode b_X_begin 33 = .ok (.getfield 45, 3) := by decide +kernel
theorem d_X_begin_36 : decode b_X_begin 36 = .ok (.bipush 8, 2) := by decide +kernel
theorem d_X_begin_38 : decode b_X_begin 38 = .ok (.invokevirtual 120, 3) := by decide +kernel
theorem d_X_begin_41 : decode b_X_begin 41 = .ok (.aload_n 0, 1) := by decide +kernel
theorem d_X_begin_42 : decode b_X_begin 42 = .ok (.aload_n 0, 1) := by decide +kernel
theorem d_X_begin_43 : decode b_X_begin 43 = .ok (.getfield 48, 3) := by decide +kernel
theorem d_X_begin_46 : decode b_X_begin 46 = .ok (.sipush 256, 3) := by decide +kernel
theorem d_X_begin_49 : decode b_X_begin 49 = .ok (.invokevirtual 120, 3) := by decide +kernel
theorem d_X_begin_52 : decode b_X_begin 52 = .ok (.aload_n 0, 1) := by decide +kernel
theorem d_X_begin_53 : decode b_X_begin 53 = .ok (.aload_n 0, 1) := by decide +kernel
theorem d_X_begin_54 : decode b_X_begin 54 = .ok (.getfield 69, 3) := by decide +kernel
theorem d_X_begin_57 : decode b_X_begin 57 = .ok (.sipush 256, 3) := by decide +kernel
theorem d_X_begin_60 : decode b_X_begin 60 = .ok (.invokevirtual 120, 3) := by decide +kernel
theorem d_X_begin_63 : decode b_X_begin 63 = .ok (.aload_n 0, 1) := by decide +kernel
theorem d_X_begin_64 : decode b_X_begin 64 = .ok (.aload_n 0, 1) := by decide +kernel
theorem d_X_begin_65 : decode b_X_begin 65 = .ok (.getfield 57, 3) := by decide +kernel
theorem d_X_begin_68 : decode b_X_begin 68 = .ok (.aload_n 0, 1) := by decide +kernel
theorem d_X_begin_69 : decode b_X_begin 69 = .ok (.getfield 57, 3) := by decide +kernel
theorem d_X_begin_72 : decode b_X_begin 72 = .ok (.arraylength, 1) := by decide +kernel
theorem d_X_begin_73 : decode b_X_begin 73 = .ok (.invokevirtual 120, 3) := by decide +kernel
theorem d_X_begin_76 : decode b_X_begin 76 = .ok (.aload_n 0, 1) := by decide +kernel
theorem d_X_begin_77 : decode b_X_begin 77 = .ok (.aload_n 0, 1) := by decide +kernel
theorem d_X_begin_78 : decode b_X_begin 78 = .ok (.getfield 60, 3) := by decide +kernel
theorem d_X_begin_81 : decode b_X_begin 81 = .ok (.bipush 8, 2) := by decide +kernel
theorem d_X_begin_83 : decode b_X_begin 83 = .ok (.invokevirtual 120, 3) := by decide +kernel
theorem d_X_begin_86 : decode b_X_begin 86 = .ok (.aload_n 0, 1) := by decide +kernel
theorem d_X_begin_87 : decode b_X_begin 87 = .ok (.aload_n 0, 1) := by decide +kernel
theorem d_X_begin_88 : decode b_X_begin 88 = .ok (.getfield 63, 3) := by decide +kernel
theorem d_X_begin_91 : decode b_X_begin 91 = .ok (.bipush 8, 2) := by decide +kernel
theorem d_X_begin_93 : decode b_X_begin 93 = .ok (.invokevirtual 120, 3) := by decide +kernel
theorem d_X_begin_96 : decode b_X_begin 96 = .ok (.aload_n 0, 1) := by decide +kernel
theorem d_X_begin_97 : decode b_X_begin 97 = .ok (.getfield 10, 3) := by decide +kernel
theorem d_X_begin_100 : decode b_X_begin 100 = .ok (.aload_n 0, 1) := by decide +kernel
theorem d_X_begin_101 : decode b_X_begin 101 = .ok (.getfield 124, 3) := by decide +kernel
theorem d_X_begin_104 : decode b_X_begin 104 = .ok (.invokestatic 112, 3) := by decide +kernel
theorem d_X_begin_107 : decode b_X_begin 107 = .ok (.pop, 1) := by decide +kernel
theorem d_X_begin_108 : decode b_X_begin 108 = .ok (.aload_n 0, 1) := by decide +kernel
theorem d_X_begin_109 : decode b_X_begin 109 = .ok (.getfield 10, 3) := by decide +kernel
theorem d_X_begin_112 : decode b_X_begin 112 = .ok (.aload_n 0, 1) := by decide +kernel
theorem d_X_begin_113 : decode b_X_begin 113 = .ok (.getfield 127, 3) := by decide +kernel
theorem d_X_begin_116 : decode b_X_begin 116 = .ok (.invokestatic 112, 3) := by decide +kernel
theorem d_X_begin_119 : decode b_X_begin 119 = .ok (.pop, 1) := by decide +kernel
theorem d_X_begin_120 : decode b_X_begin 120 = .ok (.aload_n 0, 1) := by decide +kernel
theorem d_X_begin_121 : decode b_X_begin 121 = .ok (.getfield 10, 3) := by decide +kernel
theorem d_X_begin_124 : decode b_X_begin 124 = .ok (.invokevirtual 130, 3) := by decide +kernel
theorem d_X_begin_127 : decode b_X_begin 127 = .ok (.return_, 1) := by decide +kernel
abbrev y_X_and : MethodName := ⟨"StateExplorer", "and", "(II)I"⟩
abbrev b_X_and : ByteArray := prog_1_method_13_code
theorem d_X_and_0 : decode b_X_and 0 = .ok (.aload_n 0, 1) := by decide +kernel
theorem d_X_and_1 : decode b_X_and 1 = .ok (.getfield 57, 3) := by decide +kernel
theorem d_X_and_4 : decode b_X_and 4 = .ok (.iconst 2, 1) := by decide +kernel
theorem d_X_and_5 : decode b_X_and 5 = .ok (.iload_n 1, 1) := by decide +kernel
theorem d_X_and_6 : decode b_X_and 6 = .ok (.iastore, 1) := by decide +kernel
theorem d_X_and_7 : decode b_X_and 7 = .ok (.aload_n 0, 1) := by decide +kernel
theorem d_X_and_8 : decode b_X_and 8 = .ok (.getfield 57, 3) := by decide +kernel
theorem d_X_and_11 : decode b_X_and 11 = .ok (.iconst 3, 1) := by decide +kernel
theorem d_X_and_12 : decode b_X_and 12 = .ok (.iload_n 2, 1) := by decide +kernel
theorem d_X_and_13 : decode b_X_and 13 = .ok (.iastore, 1) := by decide +kernel
theorem d_X_and_14 : decode b_X_and 14 = .ok (.aload_n 0, 1) := by decide +kernel
theorem d_X_and_15 : decode b_X_and 15 = .ok (.invokevirtual 165, 3) := by decide +kernel
theorem d_X_and_18 : decode b_X_and 18 = .ok (.aload_n 0, 1) := by decide +kernel
theorem d_X_and_19 : decode b_X_and 19 = .ok (.getfield 10, 3) := by decide +kernel
theorem d_X_and_22 : decode b_X_and 22 = .ok (.iload_n 1, 1) := by decide +kernel
theorem d_X_and_23 : decode b_X_and 23 = .ok (.iload_n 2, 1) := by decide +kernel
theorem d_X_and_24 : decode b_X_and 24 = .ok (.iconst 0, 1) := by decide +kernel
theorem d_X_and_25 : decode b_X_and 25 = .ok (.invokestatic 154, 3) := by decide +kernel
theorem d_X_and_28 : decode b_X_and 28 = .ok (.ireturn, 1) := by decide +kernel
abbrev y_X_or : MethodName := ⟨"StateExplorer", "or", "(II)I"⟩
abbrev b_X_or : ByteArray := prog_1_method_14_code
theorem d_X_or_0 : decode b_X_or 0 = .ok (.aload_n 0, 1) := by decide +kernel
theorem d_X_or_1 : decode b_X_or 1 = .ok (.getfield 57, 3) := by decide +kernel
theorem d_X_or_4 : decode b_X_or 4 = .ok (.iconst 2, 1) := by decide +kernel
theorem d_X_or_5 : decode b_X_or 5 = .ok (.iload_n 1, 1) := by decide +kernel
theorem d_X_or_6 : decode b_X_or 6 = .ok (.iastore, 1) := by decide +kernel
theorem d_X_or_7 : decode b_X_or 7 = .ok (.aload_n 0, 1) := by decide +kernel
theorem d_X_or_8 : decode b_X_or 8 = .ok (.getfield 57, 3) := by decide +kernel
theorem d_X_or_11 : decode b_X_or 11 = .ok (.iconst 3, 1) := by decide +kernel
theorem d_X_or_12 : decode b_X_or 12 = .ok (.iload_n 2, 1) := by decide +kernel
theorem d_X_or_13 : decode b_X_or 13 = .ok (.iastore, 1) := by decide +kernel
theorem d_X_or_14 : decode b_X_or 14 = .ok (.aload_n 0, 1) := by decide +kernel
theorem d_X_or_15 : decode b_X_or 15 = .ok (.invokevirtual 165, 3) := by decide +kernel
theorem d_X_or_18 : decode b_X_or 18 = .ok (.aload_n 0, 1) := by decide +kernel
theorem d_X_or_19 : decode b_X_or 19 = .ok (.getfield 10, 3) := by decide +kernel
theorem d_X_or_22 : decode b_X_or 22 = .ok (.iload_n 1, 1) := by decide +kernel
theorem d_X_or_23 : decode b_X_or 23 = .ok (.iconst 1, 1) := by decide +kernel
theorem d_X_or_24 : decode b_X_or 24 = .ok (.iload_n 2, 1) := by decide +kernel
theorem d_X_or_25 : decode b_X_or 25 = .ok (.invokestatic 154, 3) := by decide +kernel
theorem d_X_or_28 : decode b_X_or 28 = .ok (.ireturn, 1) := by decide +kernel
abbrev y_X_not : MethodName := ⟨"StateExplorer", "not", "(I)I"⟩
abbrev b_X_not : ByteArray := prog_1_method_15_code
theorem d_X_not_0 : decode b_X_not 0 = .ok (.aload_n 0, 1) := by decide +kernel
theorem d_X_not_1 : decode b_X_not 1 = .ok (.getfield 57, 3) := by decide +kernel
theorem d_X_not_4 : decode b_X_not 4 = .ok (.iconst 2, 1) := by decide +kernel
theorem d_X_not_5 : decode b_X_not 5 = .ok (.iload_n 1, 1) := by decide +kernel
theorem d_X_not_6 : decode b_X_not 6 = .ok (.iastore, 1) := by decide +kernel
theorem d_X_not_7 : decode b_X_not 7 = .ok (.aload_n 0, 1) := by decide +kernel
theorem d_X_not_8 : decode b_X_not 8 = .ok (.invokevirtual 165, 3) := by decide +kernel
theorem d_X_not_11 : decode b_X_not 11 = .ok (.aload_n 0, 1) := by decide +kernel
theorem d_X_not_12 : decode b_X_not 12 = .ok (.getfield 10, 3) := by decide +kernel
theorem d_X_not_15 : decode b_X_not 15 = .ok (.iload_n 1, 1) := by decide +kernel
theorem d_X_not_16 : decode b_X_not 16 = .ok (.iconst 0, 1) := by decide +kernel
theorem d_X_not_17 : decode b_X_not 17 = .ok (.iconst 1, 1) := by decide +kernel
theorem d_X_not_18 : decode b_X_not 18 = .ok (.invokestatic 154, 3) := by decide +kernel
theorem d_X_not_21 : decode b_X_not 21 = .ok (.ireturn, 1) := by decide +kernel
abbrev y_X_variable : MethodName := ⟨"StateExplorer", "variable", "(I)I"⟩
abbrev b_X_variable : ByteArray := prog_1_method_18_code
theorem d_X_variable_0 : decode b_X_variable 0 = .ok (.aload_n 0, 1) := by decide +kernel
theorem d_X_variable_1 : decode b_X_variable 1 = .ok (.invokevirtual 165, 3) := by decide +kernel
theorem d_X_variable_4 : decode b_X_variable 4 = .ok (.aload_n 0, 1) := by decide +kernel
theorem d_X_variable_5 : decode b_X_variable 5 = .ok (.getfield 10, 3) := by decide +kernel
theorem d_X_variable_8 : decode b_X_variable 8 = .ok (.iload_n 1, 1) := by decide +kernel
theorem d_X_variable_9 : decode b_X_variable 9 = .ok (.iconst 0, 1) := by decide +kernel
theorem d_X_variable_10 : decode b_X_variable 10 = .ok (.iconst 1, 1) := by decide +kernel
theorem d_X_variable_11 : decode b_X_variable 11 = .ok (.invokevirtual 157, 3) := by decide +kernel
theorem d_X_variable_14 : decode b_X_variable 14 = .ok (.ireturn, 1) := by decide +kernel
abbrev y_X_before : MethodName := ⟨"StateExplorer", "before", "(LStateExplorer$Nodes;I[I)I"⟩
abbrev b_X_before : ByteArray := prog_1_method_20_code
theorem d_X_before_0 : decode b_X_before 0 = .ok (.iload_n 1, 1) := by decide +kernel
theorem d_X_before_1 : decode b_X_before 1 = .ok (.iconst 2, 1) := by decide +kernel
theorem d_X_before_2 : decode b_X_before 2 = .ok (.if_icmp .ge 5, 3) := by decide +kernel
theorem d_X_before_5 : decode b_X_before 5 = .ok (.iload_n 1, 1) := by decide +kernel
theorem d_X_before_6 : decode b_X_before 6 = .ok (.ireturn, 1) := by decide +kernel
theorem d_X_before_7 : decode b_X_before 7 = .ok (.aload_n 0, 1) := by decide +kernel
theorem d_X_before_8 : decode b_X_before 8 = .ok (.iconst 2, 1) := by decide +kernel
theorem d_X_before_9 : decode b_X_before 9 = .ok (.iload_n 1, 1) := by decide +kernel
theorem d_X_before_10 : decode b_X_before 10 = .ok (.iconst 0, 1) := by decide +kernel
theorem d_X_before_11 : decode b_X_before 11 = .ok (.iconst 0, 1) := by decide +kernel
theorem d_X_before_12 : decode b_X_before 12 = .ok (.invokevirtual 142, 3) := by decide +kernel
theorem d_X_before_15 : decode b_X_before 15 = .ok (.istore_n 3, 1) := by decide +kernel
theorem d_X_before_16 : decode b_X_before 16 = .ok (.iload_n 3, 1) := by decide +kernel
theorem d_X_before_17 : decode b_X_before 17 = .ok (.iconst (-1), 1) := by decide +kernel
theorem d_X_before_18 : decode b_X_before 18 = .ok (.if_icmp .eq 5, 3) := by decide +kernel
theorem d_X_before_21 : decode b_X_before 21 = .ok (.iload_n 3, 1) := by decide +kernel
theorem d_X_before_22 : decode b_X_before 22 = .ok (.ireturn, 1) := by decide +kernel
theorem d_X_before_23 : decode b_X_before 23 = .ok (.aload_n 0, 1) := by decide +kernel
theorem d_X_before_24 : decode b_X_before 24 = .ok (.iload_n 1, 1) := by decide +kernel
theorem d_X_before_25 : decode b_X_before 25 = .ok (.invokevirtual 133, 3) := by decide +kernel
theorem d_X_before_28 : decode b_X_before 28 = .ok (.invokestatic 177, 3) := by decide +kernel
theorem d_X_before_31 : decode b_X_before 31 = .ok (.istore 4, 2) := by decide +kernel
theorem d_X_before_33 : decode b_X_before 33 = .ok (.aload_n 0, 1) := by decide +kernel
theorem d_X_before_34 : decode b_X_before 34 = .ok (.aload_n 0, 1) := by decide +kernel
theorem d_X_before_35 : decode b_X_before 35 = .ok (.getfield 168, 3) := by decide +kernel
theorem d_X_before_38 : decode b_X_before 38 = .ok (.iload_n 1, 1) := by decide +kernel
theorem d_X_before_39 : decode b_X_before 39 = .ok (.iaload, 1) := by decide +kernel
theorem d_X_before_40 : decode b_X_before 40 = .ok (.aload_n 2, 1) := by decide +kernel
theorem d_X_before_41 : decode b_X_before 41 = .ok (.invokestatic 180, 3) := by decide +kernel
theorem d_X_before_44 : decode b_X_before 44 = .ok (.istore 5, 2) := by decide +kernel
theorem d_X_before_46 : decode b_X_before 46 = .ok (.aload_n 0, 1) := by decide +kernel
theorem d_X_before_47 : decode b_X_before 47 = .ok (.aload_n 0, 1) := by decide +kernel
theorem d_X_before_48 : decode b_X_before 48 = .ok (.getfield 174, 3) := by decide +kernel
theorem d_X_before_51 : decode b_X_before 51 = .ok (.iload_n 1, 1) := by decide +kernel
theorem d_X_before_52 : decode b_X_before 52 = .ok (.iaload, 1) := by decide +kernel
theorem d_X_before_53 : decode b_X_before 53 = .ok (.aload_n 2, 1) := by decide +kernel
theorem d_X_before_54 : decode b_X_before 54 = .ok (.invokestatic 180, 3) := by decide +kernel
theorem d_X_before_57 : decode b_X_before 57 = .ok (.istore 6, 2) := by decide +kernel
theorem d_X_before_59 : decode b_X_before 59 = .ok (.aload_n 0, 1) := by decide +kernel
theorem d_X_before_60 : decode b_X_before 60 = .ok (.iconst 2, 1) := by decide +kernel
theorem d_X_before_61 : decode b_X_before 61 = .ok (.iload_n 1, 1) := by decide +kernel
theorem d_X_before_62 : decode b_X_before 62 = .ok (.iconst 0, 1) := by decide +kernel
theorem d_X_before_63 : decode b_X_before 63 = .ok (.iconst 0, 1) := by decide +kernel
theorem d_X_before_64 : decode b_X_before 64 = .ok (.aload_n 0, 1) := by decide +kernel
theorem d_X_before_65 : decode b_X_before 65 = .ok (.aload_n 2, 1) := by decide +kernel
theorem d_X_before_66 : decode b_X_before 66 = .ok (.iload 4, 2) := by decide +kernel
theorem d_X_before_68 : decode b_X_before 68 = .ok (.iaload, 1) := by decide +kernel
theorem d_X_before_69 : decode b_X_before 69 = .ok (.iload 6, 2) := by decide +kernel
theorem d_X_before_71 : decode b_X_before 71 = .ok (.iload 5, 2) := by decide +kernel
theorem d_X_before_73 : decode b_X_before 73 = .ok (.invokestatic 154, 3) := by decide +kernel
theorem d_X_before_76 : decode b_X_before 76 = .ok (.invokevirtual 161, 3) := by decide +kernel
theorem d_X_before_79 : decode b_X_before 79 = .ok (.ireturn, 1) := by decide +kernel
abbrev y_X_after : MethodName := ⟨"StateExplorer", "after", "(II)I"⟩
abbrev b_X_after : ByteArray := prog_1_method_21_code
theorem d_X_after_0 : decode b_X_after 0 = .ok (.iload_n 1, 1) := by decide +kernel
theorem d_X_after_1 : decode b_X_after 1 = .ok (.ifCond .eq 7, 3) := by decide +kernel
theorem d_X_after_4 : decode b_X_after 4 = .ok (.iload_n 2, 1) := by decide +kernel
theorem d_X_after_5 : decode b_X_after 5 = .ok (.ifCond .ge 13, 3) := by decide +kernel
theorem d_X_after_8 : decode b_X_after 8 = .ok (.iload_n 1, 1) := by decide +kernel
theorem d_X_after_9 : decode b_X_after 9 = .ok (.ifCond .ne 7, 3) := by decide +kernel
theorem d_X_after_12 : decode b_X_after 12 = .ok (.iconst 0, 1) := by decide +kernel
theorem d_X_after_13 : decode b_X_after 13 = .ok (.goto 4, 3) := by decide +kernel
theorem d_X_after_16 : decode b_X_after 16 = .ok (.iconst 1, 1) := by decide +kernel
theorem d_X_after_17 : decode b_X_after 17 = .ok (.ireturn, 1) := by decide +kernel
theorem d_X_after_18 : decode b_X_after 18 = .ok (.aload_n 0, 1) := by decide +kernel
theorem d_X_after_19 : decode b_X_after 19 = .ok (.getfield 60, 3) := by decide +kernel
theorem d_X_after_22 : decode b_X_after 22 = .ok (.iload_n 2, 1) := by decide +kernel
theorem d_X_after_23 : decode b_X_after 23 = .ok (.iload_n 1, 1) := by decide +kernel
theorem d_X_after_24 : decode b_X_after 24 = .ok (.iastore, 1) := by decide +kernel
theorem d_X_after_25 : decode b_X_after 25 = .ok (.aload_n 0, 1) := by decide +kernel
theorem d_X_after_26 : decode b_X_after 26 = .ok (.invokevirtual 165, 3) := by decide +kernel
theorem d_X_after_29 : decode b_X_after 29 = .ok (.aload_n 0, 1) := by decide +kernel
theorem d_X_after_30 : decode b_X_after 30 = .ok (.getfield 63, 3) := by decide +kernel
theorem d_X_after_33 : decode b_X_after 33 = .ok (.iload_n 2, 1) := by decide +kernel
theorem d_X_after_34 : decode b_X_after 34 = .ok (.aload_n 0, 1) := by decide +kernel
theorem d_X_after_35 : decode b_X_after 35 = .ok (.aload_n 0, 1) := by decide +kernel
theorem d_X_after_36 : decode b_X_after 36 = .ok (.getfield 10, 3) := by decide +kernel
theorem d_X_after_39 : decode b_X_after 39 = .ok (.aload_n 0, 1) := by decide +kernel
theorem d_X_after_40 : decode b_X_after 40 = .ok (.getfield 45, 3) := by decide +kernel
theorem d_X_after_43 : decode b_X_after 43 = .ok (.iload_n 2, 1) := by decide +kernel
theorem d_X_after_44 : decode b_X_after 44 = .ok (.iaload, 1) := by decide +kernel
theorem d_X_after_45 : decode b_X_after 45 = .ok (.iconst 0, 1) := by decide +kernel
theorem d_X_after_46 : decode b_X_after 46 = .ok (.iload_n 1, 1) := by decide +kernel
theorem d_X_after_47 : decode b_X_after 47 = .ok (.invokestatic 154, 3) := by decide +kernel
theorem d_X_after_50 : decode b_X_after 50 = .ok (.iload_n 2, 1) := by decide +kernel
theorem d_X_after_51 : decode b_X_after 51 = .ok (.iconst 1, 1) := by decide +kernel
theorem d_X_after_52 : decode b_X_after 52 = .ok (.isub, 1) := by decide +kernel
theorem d_X_after_53 : decode b_X_after 53 = .ok (.invokevirtual 184, 3) := by decide +kernel
theorem d_X_after_56 : decode b_X_after 56 = .ok (.iastore, 1) := by decide +kernel
theorem d_X_after_57 : decode b_X_after 57 = .ok (.aload_n 0, 1) := by decide +kernel
theorem d_X_after_58 : decode b_X_after 58 = .ok (.invokevirtual 165, 3) := by decide +kernel
theorem d_X_after_61 : decode b_X_after 61 = .ok (.aload_n 0, 1) := by decide +kernel
theorem d_X_after_62 : decode b_X_after 62 = .ok (.aload_n 0, 1) := by decide +kernel
theorem d_X_after_63 : decode b_X_after 63 = .ok (.getfield 10, 3) := by decide +kernel
theorem d_X_after_66 : decode b_X_after 66 = .ok (.aload_n 0, 1) := by decide +kernel
theorem d_X_after_67 : decode b_X_after 67 = .ok (.getfield 45, 3) := by decide +kernel
theorem d_X_after_70 : decode b_X_after 70 = .ok (.iload_n 2, 1) := by decide +kernel
theorem d_X_after_71 : decode b_X_after 71 = .ok (.iaload, 1) := by decide +kernel
theorem d_X_after_72 : decode b_X_after 72 = .ok (.aload_n 0, 1) := by decide +kernel
theorem d_X_after_73 : decode b_X_after 73 = .ok (.getfield 60, 3) := by decide +kernel
theorem d_X_after_76 : decode b_X_after 76 = .ok (.iload_n 2, 1) := by decide +kernel
theorem d_X_after_77 : decode b_X_after 77 = .ok (.iaload, 1) := by decide +kernel
theorem d_X_after_78 : decode b_X_after 78 = .ok (.iconst 0, 1) := by decide +kernel
theorem d_X_after_79 : decode b_X_after 79 = .ok (.invokestatic 154, 3) := by decide +kernel
theorem d_X_after_82 : decode b_X_after 82 = .ok (.iload_n 2, 1) := by decide +kernel
theorem d_X_after_83 : decode b_X_after 83 = .ok (.iconst 1, 1) := by decide +kernel
theorem d_X_after_84 : decode b_X_after 84 = .ok (.isub, 1) := by decide +kernel
theorem d_X_after_85 : decode b_X_after 85 = .ok (.invokevirtual 184, 3) := by decide +kernel
theorem d_X_after_88 : decode b_X_after 88 = .ok (.istore_n 3, 1) := by decide +kernel
theorem d_X_after_89 : decode b_X_after 89 = .ok (.aload_n 0, 1) := by decide +kernel
theorem d_X_after_90 : decode b_X_after 90 = .ok (.getfield 10, 3) := by decide +kernel
theorem d_X_after_93 : decode b_X_after 93 = .ok (.iload_n 2, 1) := by decide +kernel
theorem d_X_after_94 : decode b_X_after 94 = .ok (.invokestatic 177, 3) := by decide +kernel
theorem d_X_after_97 : decode b_X_after 97 = .ok (.aload_n 0, 1) := by decide +kernel
theorem d_X_after_98 : decode b_X_after 98 = .ok (.getfield 63, 3) := by decide +kernel
theorem d_X_after_101 : decode b_X_after 101 = .ok (.iload_n 2, 1) := by decide +kernel
theorem d_X_after_102 : decode b_X_after 102 = .ok (.iaload, 1) := by decide +kernel
theorem d_X_after_103 : decode b_X_after 103 = .ok (.iload_n 3, 1) := by decide +kernel
theorem d_X_after_104 : decode b_X_after 104 = .ok (.invokevirtual 157, 3) := by decide +kernel
theorem d_X_after_107 : decode b_X_after 107 = .ok (.ireturn, 1) := by decide +kernel
abbrev y_X_at : MethodName := ⟨"StateExplorer", "at", "(III)Z"⟩
abbrev b_X_at : ByteArray := prog_1_method_23_code
theorem d_X_at_0 : decode b_X_at 0 = .ok (.iload_n 1, 1) := by decide +kernel
theorem d_X_at_1 : decode b_X_at 1 = .ok (.istore 4, 2) := by decide +kernel
theorem d_X_at_3 : decode b_X_at 3 = .ok (.iload 4, 2) := by decide +kernel
theorem d_X_at_5 : decode b_X_at 5 = .ok (.iconst 1, 1) := by decide +kernel
theorem d_X_at_6 : decode b_X_at 6 = .ok (.if_icmp .le 58, 3) := by decide +kernel
theorem d_X_at_9 : decode b_X_at 9 = .ok (.aload_n 0, 1) := by decide +kernel
theorem d_X_at_10 : decode b_X_at 10 = .ok (.getfield 10, 3) := by decide +kernel
theorem d_X_at_13 : decode b_X_at 13 = .ok (.iload 4, 2) := by decide +kernel
theorem d_X_at_15 : decode b_X_at 15 = .ok (.invokevirtual 133, 3) := by decide +kernel
theorem d_X_at_18 : decode b_X_at 18 = .ok (.istore 5, 2) := by decide +kernel
theorem d_X_at_20 : decode b_X_at 20 = .ok (.aload_n 0, 1) := by decide +kernel
theorem d_X_at_21 : decode b_X_at 21 = .ok (.getfield 10, 3) := by decide +kernel
theorem d_X_at_24 : decode b_X_at 24 = .ok (.iload 4, 2) := by decide +kernel
theorem d_X_at_26 : decode b_X_at 26 = .ok (.iload 5, 2) := by decide +kernel
theorem d_X_at_28 : decode b_X_at 28 = .ok (.iload 5, 2) := by decide +kernel
theorem d_X_at_30 : decode b_X_at 30 = .ok (.bipush 8, 2) := by decide +kernel
theorem d_X_at_32 : decode b_X_at 32 = .ok (.if_icmp .ge 15, 3) := by decide +kernel
theorem d_X_at_35 : decode b_X_at 35 = .ok (.iload_n 2, 1) := by decide +kernel
theorem d_X_at_36 : decode b_X_at 36 = .ok (.iload 5, 2) := by decide +kernel
theorem d_X_at_38 : decode b_X_at 38 = .ok (.invokestatic 177, 3) := by decide +kernel
theorem d_X_at_41 : decode b_X_at 41 = .ok (.invokestatic 187, 3) := by decide +kernel
theorem d_X_at_44 : decode b_X_at 44 = .ok (.goto 12, 3) := by decide +kernel
theorem d_X_at_47 : decode b_X_at 47 = .ok (.iload_n 3, 1) := by decide +kernel
theorem d_X_at_48 : decode b_X_at 48 = .ok (.bipush 11, 2) := by decide +kernel
theorem d_X_at_50 : decode b_X_at 50 = .ok (.iload 5, 2) := by decide +kernel
theorem d_X_at_52 : decode b_X_at 52 = .ok (.isub, 1) := by decide +kernel
theorem d_X_at_53 : decode b_X_at 53 = .ok (.invokestatic 187, 3) := by decide +kernel
theorem d_X_at_56 : decode b_X_at 56 = .ok (.invokevirtual 150, 3) := by decide +kernel
theorem d_X_at_59 : decode b_X_at 59 = .ok (.istore 4, 2) := by decide +kernel
theorem d_X_at_61 : decode b_X_at 61 = .ok (.goto (-58), 3) := by decide +kernel
theorem d_X_at_64 : decode b_X_at 64 = .ok (.iload 4, 2) := by decide +kernel
theorem d_X_at_66 : decode b_X_at 66 = .ok (.iconst 1, 1) := by decide +kernel
theorem d_X_at_67 : decode b_X_at 67 = .ok (.if_icmp .ne 7, 3) := by decide +kernel
theorem d_X_at_70 : decode b_X_at 70 = .ok (.iconst 1, 1) := by decide +kernel
theorem d_X_at_71 : decode b_X_at 71 = .ok (.goto 4, 3) := by decide +kernel
theorem d_X_at_74 : decode b_X_at 74 = .ok (.iconst 0, 1) := by decide +kernel
theorem d_X_at_75 : decode b_X_at 75 = .ok (.ireturn, 1) := by decide +kernel
abbrev y_X_states : MethodName := ⟨"StateExplorer", "states", "(I)I"⟩
abbrev b_X_states : ByteArray := prog_1_method_25_code
theorem d_X_states_0 : decode b_X_states 0 = .ok (.aload_n 0, 1) := by decide +kernel
theorem d_X_states_1 : decode b_X_states 1 = .ok (.getfield 10, 3) := by decide +kernel
theorem d_X_states_4 : decode b_X_states 4 = .ok (.iload_n 1, 1) := by decide +kernel
theorem d_X_states_5 : decode b_X_states 5 = .ok (.iconst 0, 1) := by decide +kernel
theorem d_X_states_6 : decode b_X_states 6 = .ok (.invokestatic 191, 3) := by decide +kernel
theorem d_X_states_9 : decode b_X_states 9 = .ok (.bipush 16, 2) := by decide +kernel
theorem d_X_states_11 : decode b_X_states 11 = .ok (.idiv, 1) := by decide +kernel
theorem d_X_states_12 : decode b_X_states 12 = .ok (.ireturn, 1) := by decide +kernel
abbrev y_X_least : MethodName := ⟨"StateExplorer", "least", "(I)I"⟩
abbrev b_X_least : ByteArray := prog_1_method_26_code
theorem d_X_least_0 : decode b_X_least 0 = .ok (.iconst 0, 1) := by decide +kernel
theorem d_X_least_1 : decode b_X_least 1 = .ok (.istore_n 2, 1) := by decide +kernel
theorem d_X_least_2 : decode b_X_least 2 = .ok (.iload_n 1, 1) := by decide +kernel
theorem d_X_least_3 : decode b_X_least 3 = .ok (.istore_n 3, 1) := by decide +kernel
theorem d_X_least_4 : decode b_X_least 4 = .ok (.iload_n 3, 1) := by decide +kernel
theorem d_X_least_5 : decode b_X_least 5 = .ok (.iconst 1, 1) := by decide +kernel
theorem d_X_least_6 : decode b_X_least 6 = .ok (.if_icmp .le 99, 3) := by decide +kernel
theorem d_X_least_9 : decode b_X_least 9 = .ok (.aload_n 0, 1) := by decide +kernel
theorem d_X_least_10 : decode b_X_least 10 = .ok (.getfield 10, 3) := by decide +kernel
theorem d_X_least_13 : decode b_X_least 13 = .ok (.getfield 168, 3) := by decide +kernel
theorem d_X_least_16 : decode b_X_least 16 = .ok (.iload_n 3, 1) := by decide +kernel
theorem d_X_least_17 : decode b_X_least 17 = .ok (.iaload, 1) := by decide +kernel
theorem d_X_least_18 : decode b_X_least 18 = .ok (.ifCond .ne 7, 3) := by decide +kernel
theorem d_X_least_21 : decode b_X_least 21 = .ok (.iconst 1, 1) := by decide +kernel
theorem d_X_least_22 : decode b_X_least 22 = .ok (.goto 4, 3) := by decide +kernel
theorem d_X_least_25 : decode b_X_least 25 = .ok (.iconst 0, 1) := by decide +kernel
theorem d_X_least_26 : decode b_X_least 26 = .ok (.istore 4, 2) := by decide +kernel
theorem d_X_least_28 : decode b_X_least 28 = .ok (.aload_n 0, 1) := by decide +kernel
theorem d_X_least_29 : decode b_X_least 29 = .ok (.getfield 10, 3) := by decide +kernel
theorem d_X_least_32 : decode b_X_least 32 = .ok (.iload_n 3, 1) := by decide +kernel
theorem d_X_least_33 : decode b_X_least 33 = .ok (.invokevirtual 133, 3) := by decide +kernel
theorem d_X_least_36 : decode b_X_least 36 = .ok (.istore 5, 2) := by decide +kernel
theorem d_X_least_38 : decode b_X_least 38 = .ok (.iload_n 2, 1) := by decide +kernel
theorem d_X_least_39 : decode b_X_least 39 = .ok (.iload 4, 2) := by decide +kernel
theorem d_X_least_41 : decode b_X_least 41 = .ok (.ifCond .eq 31, 3) := by decide +kernel
theorem d_X_least_44 : decode b_X_least 44 = .ok (.iload 5, 2) := by decide +kernel
theorem d_X_least_46 : decode b_X_least 46 = .ok (.bipush 8, 2) := by decide +kernel
theorem d_X_least_48 : decode b_X_least 48 = .ok (.if_icmp .ge 14, 3) := by decide +kernel
theorem d_X_least_51 : decode b_X_least 51 = .ok (.bipush 16, 2) := by decide +kernel
theorem d_X_least_53 : decode b_X_least 53 = .ok (.iload 5, 2) := by decide +kernel
theorem d_X_least_55 : decode b_X_least 55 = .ok (.invokestatic 177, 3) := by decide +kernel
theorem d_X_least_58 : decode b_X_least 58 = .ok (.ishl, 1) := by decide +kernel
theorem d_X_least_59 : decode b_X_least 59 = .ok (.goto 14, 3) := by decide +kernel
theorem d_X_least_62 : decode b_X_least 62 = .ok (.iconst 1, 1) := by decide +kernel
theorem d_X_least_63 : decode b_X_least 63 = .ok (.bipush 11, 2) := by decide +kernel
theorem d_X_least_65 : decode b_X_least 65 = .ok (.iload 5, 2) := by decide +kernel
theorem d_X_least_67 : decode b_X_least 67 = .ok (.isub, 1) := by decide +kernel
theorem d_X_least_68 : decode b_X_least 68 = .ok (.ishl, 1) := by decide +kernel
theorem d_X_least_69 : decode b_X_least 69 = .ok (.goto 4, 3) := by decide +kernel
theorem d_X_least_72 : decode b_X_least 72 = .ok (.iconst 0, 1) := by decide +kernel
theorem d_X_least_73 : decode b_X_least 73 = .ok (.ior, 1) := by decide +kernel
theorem d_X_least_74 : decode b_X_least 74 = .ok (.istore_n 2, 1) := by decide +kernel
theorem d_X_least_75 : decode b_X_least 75 = .ok (.iload 4, 2) := by decide +kernel
theorem d_X_least_77 : decode b_X_least 77 = .ok (.ifCond .eq 15, 3) := by decide +kernel
theorem d_X_least_80 : decode b_X_least 80 = .ok (.aload_n 0, 1) := by decide +kernel
theorem d_X_least_81 : decode b_X_least 81 = .ok (.getfield 10, 3) := by decide +kernel
theorem d_X_least_84 : decode b_X_least 84 = .ok (.getfield 174, 3) := by decide +kernel
theorem d_X_least_87 : decode b_X_least 87 = .ok (.iload_n 3, 1) := by decide +kernel
theorem d_X_least_88 : decode b_X_least 88 = .ok (.iaload, 1) := by decide +kernel
theorem d_X_least_89 : decode b_X_least 89 = .ok (.goto 12, 3) := by decide +kernel
theorem d_X_least_92 : decode b_X_least 92 = .ok (.aload_n 0, 1) := by decide +kernel
theorem d_X_least_93 : decode b_X_least 93 = .ok (.getfield 10, 3) := by decide +kernel
theorem d_X_least_96 : decode b_X_least 96 = .ok (.getfield 168, 3) := by decide +kernel
theorem d_X_least_99 : decode b_X_least 99 = .ok (.iload_n 3, 1) := by decide +kernel
theorem d_X_least_100 : decode b_X_least 100 = .ok (.iaload, 1) := by decide +kernel
theorem d_X_least_101 : decode b_X_least 101 = .ok (.istore_n 3, 1) := by decide +kernel
theorem d_X_least_102 : decode b_X_least 102 = .ok (.goto (-98), 3) := by decide +kernel
theorem d_X_least_105 : decode b_X_least 105 = .ok (.iload_n 2, 1) := by decide +kernel
theorem d_X_least_106 : decode b_X_least 106 = .ok (.ireturn, 1) := by decide +kernel
abbrev y_X_spread1 : MethodName := ⟨"StateExplorer", "spread", "(I)Z"⟩
abbrev b_X_spread1 : ByteArray := prog_1_method_28_code
theorem d_X_spread1_0 : decode b_X_spread1 0 = .ok (.aload_n 0, 1) := by decide +kernel
theorem d_X_spread1_1 : decode b_X_spread1 1 = .ok (.getfield 16, 3) := by decide +kernel
theorem d_X_spread1_4 : decode b_X_spread1 4 = .ok (.iload_n 1, 1) := by decide +kernel
theorem d_X_spread1_5 : decode b_X_spread1 5 = .ok (.iaload, 1) := by decide +kernel
theorem d_X_spread1_6 : decode b_X_spread1 6 = .ok (.iconst 2, 1) := by decide +kernel
theorem d_X_spread1_7 : decode b_X_spread1 7 = .ok (.if_icmp .ne 7, 3) := by decide +kernel
theorem d_X_spread1_10 : decode b_X_spread1 10 = .ok (.iconst 1, 1) := by decide +kernel
theorem d_X_spread1_11 : decode b_X_spread1 11 = .ok (.goto 4, 3) := by decide +kernel
theorem d_X_spread1_14 : decode b_X_spread1 14 = .ok (.iconst 0, 1) := by decide +kernel
theorem d_X_spread1_15 : decode b_X_spread1 15 = .ok (.istore_n 2, 1) := by decide +kernel
theorem d_X_spread1_16 : decode b_X_spread1 16 = .ok (.aload_n 0, 1) := by decide +kernel
theorem d_X_spread1_17 : decode b_X_spread1 17 = .ok (.getfield 57, 3) := by decide +kernel
theorem d_X_spread1_20 : decode b_X_spread1 20 = .ok (.iconst 0, 1) := by decide +kernel
theorem d_X_spread1_21 : decode b_X_spread1 21 = .ok (.iconst 1, 1) := by decide +kernel
theorem d_X_spread1_22 : decode b_X_spread1 22 = .ok (.iastore, 1) := by decide +kernel
theorem d_X_spread1_23 : decode b_X_spread1 23 = .ok (.aload_n 0, 1) := by decide +kernel
theorem d_X_spread1_24 : decode b_X_spread1 24 = .ok (.getfield 57, 3) := by decide +kernel
theorem d_X_spread1_27 : decode b_X_spread1 27 = .ok (.iconst 1, 1) := by decide +kernel
theorem d_X_spread1_28 : decode b_X_spread1 28 = .ok (.iconst 0, 1) := by decide +kernel
theorem d_X_spread1_29 : decode b_X_spread1 29 = .ok (.iastore, 1) := by decide +kernel
theorem d_X_spread1_30 : decode b_X_spread1 30 = .ok (.iconst 0, 1) := by decide +kernel
theorem d_X_spread1_31 : decode b_X_spread1 31 = .ok (.istore_n 3, 1) := by decide +kernel
theorem d_X_spread1_32 : decode b_X_spread1 32 = .ok (.iload_n 3, 1) := by decide +kernel
theorem d_X_spread1_33 : decode b_X_spread1 33 = .ok (.aload_n 0, 1) := by decide +kernel
theorem d_X_spread1_34 : decode b_X_spread1 34 = .ok (.getfield 96, 3) := by decide +kernel
theorem d_X_spread1_37 : decode b_X_spread1 37 = .ok (.if_icmp .ge 131, 3) := by decide +kernel
theorem d_X_spread1_40 : decode b_X_spread1 40 = .ok (.aload_n 0, 1) := by decide +kernel
theorem d_X_spread1_41 : decode b_X_spread1 41 = .ok (.getfield 29, 3) := by decide +kernel
theorem d_X_spread1_44 : decode b_X_spread1 44 = .ok (.iload_n 3, 1) := by decide +kernel
theorem d_X_spread1_45 : decode b_X_spread1 45 = .ok (.iaload, 1) := by decide +kernel
theorem d_X_spread1_46 : decode b_X_spread1 46 = .ok (.iload_n 1, 1) := by decide +kernel
theorem d_X_spread1_47 : decode b_X_spread1 47 = .ok (.if_icmp .eq 6, 3) := by decide +kernel
theorem d_X_spread1_50 : decode b_X_spread1 50 = .ok (.goto 112, 3) := by decide +kernel
theorem d_X_spread1_53 : decode b_X_spread1 53 = .ok (.iload_n 2, 1) := by decide +kernel
theorem d_X_spread1_54 : decode b_X_spread1 54 = .ok (.aload_n 0, 1) := by decide +kernel
theorem d_X_spread1_55 : decode b_X_spread1 55 = .ok (.getfield 35, 3) := by decide +kernel
theorem d_X_spread1_58 : decode b_X_spread1 58 = .ok (.iload_n 3, 1) := by decide +kernel
theorem d_X_spread1_59 : decode b_X_spread1 59 = .ok (.baload, 1) := by decide +kernel
theorem d_X_spread1_60 : decode b_X_spread1 60 = .ok (.if_icmp .eq 7, 3) := by decide +kernel
theorem d_X_spread1_63 : decode b_X_spread1 63 = .ok (.iconst 1, 1) := by decide +kernel
theorem d_X_spread1_64 : decode b_X_spread1 64 = .ok (.goto 4, 3) := by decide +kernel
theorem d_X_spread1_67 : decode b_X_spread1 67 = .ok (.iconst 0, 1) := by decide +kernel
theorem d_X_spread1_68 : decode b_X_spread1 68 = .ok (.istore 4, 2) := by decide +kernel
theorem d_X_spread1_70 : decode b_X_spread1 70 = .ok (.aload_n 0, 1) := by decide +kernel
theorem d_X_spread1_71 : decode b_X_spread1 71 = .ok (.getfield 57, 3) := by decide +kernel
theorem d_X_spread1_74 : decode b_X_spread1 74 = .ok (.iconst 0, 1) := by decide +kernel
theorem d_X_spread1_75 : decode b_X_spread1 75 = .ok (.aload_n 0, 1) := by decide +kernel
theorem d_X_spread1_76 : decode b_X_spread1 76 = .ok (.aload_n 0, 1) := by decide +kernel
theorem d_X_spread1_77 : decode b_X_spread1 77 = .ok (.getfield 57, 3) := by decide +kernel
theorem d_X_spread1_80 : decode b_X_spread1 80 = .ok (.iconst 0, 1) := by decide +kernel
theorem d_X_spread1_81 : decode b_X_spread1 81 = .ok (.iaload, 1) := by decide +kernel
theorem d_X_spread1_82 : decode b_X_spread1 82 = .ok (.iload 4, 2) := by decide +kernel
theorem d_X_spread1_84 : decode b_X_spread1 84 = .ok (.ifCond .eq 17, 3) := by decide +kernel
theorem d_X_spread1_87 : decode b_X_spread1 87 = .ok (.aload_n 0, 1) := by decide +kernel
theorem d_X_spread1_88 : decode b_X_spread1 88 = .ok (.getfield 39, 3) := by decide +kernel
theorem d_X_spread1_91 : decode b_X_spread1 91 = .ok (.aload_n 0, 1) := by decide +kernel
theorem d_X_spread1_92 : decode b_X_spread1 92 = .ok (.getfield 32, 3) := by decide +kernel
theorem d_X_spread1_95 : decode b_X_spread1 95 = .ok (.iload_n 3, 1) := by decide +kernel
theorem d_X_spread1_96 : decode b_X_spread1 96 = .ok (.iaload, 1) := by decide +kernel
theorem d_X_spread1_97 : decode b_X_spread1 97 = .ok (.iaload, 1) := by decide +kernel
theorem d_X_spread1_98 : decode b_X_spread1 98 = .ok (.goto 14, 3) := by decide +kernel
theorem d_X_spread1_101 : decode b_X_spread1 101 = .ok (.aload_n 0, 1) := by decide +kernel
theorem d_X_spread1_102 : decode b_X_spread1 102 = .ok (.getfield 42, 3) := by decide +kernel
theorem d_X_spread1_105 : decode b_X_spread1 105 = .ok (.aload_n 0, 1) := by decide +kernel
theorem d_X_spread1_106 : decode b_X_spread1 106 = .ok (.getfield 32, 3) := by decide +kernel
theorem d_X_spread1_109 : decode b_X_spread1 109 = .ok (.iload_n 3, 1) := by decide +kernel
theorem d_X_spread1_110 : decode b_X_spread1 110 = .ok (.iaload, 1) := by decide +kernel
theorem d_X_spread1_111 : decode b_X_spread1 111 = .ok (.iaload, 1) := by decide +kernel
theorem d_X_spread1_112 : decode b_X_spread1 112 = .ok (.invokevirtual 211, 3) := by decide +kernel
theorem d_X_spread1_115 : decode b_X_spread1 115 = .ok (.iastore, 1) := by decide +kernel
theorem d_X_spread1_116 : decode b_X_spread1 116 = .ok (.aload_n 0, 1) := by decide +kernel
theorem d_X_spread1_117 : decode b_X_spread1 117 = .ok (.getfield 57, 3) := by decide +kernel
theorem d_X_spread1_120 : decode b_X_spread1 120 = .ok (.iconst 1, 1) := by decide +kernel
theorem d_X_spread1_121 : decode b_X_spread1 121 = .ok (.aload_n 0, 1) := by decide +kernel
theorem d_X_spread1_122 : decode b_X_spread1 122 = .ok (.aload_n 0, 1) := by decide +kernel
theorem d_X_spread1_123 : decode b_X_spread1 123 = .ok (.getfield 57, 3) := by decide +kernel
theorem d_X_spread1_126 : decode b_X_spread1 126 = .ok (.iconst 1, 1) := by decide +kernel
theorem d_X_spread1_127 : decode b_X_spread1 127 = .ok (.iaload, 1) := by decide +kernel
theorem d_X_spread1_128 : decode b_X_spread1 128 = .ok (.iload 4, 2) := by decide +kernel
theorem d_X_spread1_130 : decode b_X_spread1 130 = .ok (.ifCond .eq 17, 3) := by decide +kernel
theorem d_X_spread1_133 : decode b_X_spread1 133 = .ok (.aload_n 0, 1) := by decide +kernel
theorem d_X_spread1_134 : decode b_X_spread1 134 = .ok (.getfield 42, 3) := by decide +kernel
theorem d_X_spread1_137 : decode b_X_spread1 137 = .ok (.aload_n 0, 1) := by decide +kernel
theorem d_X_spread1_138 : decode b_X_spread1 138 = .ok (.getfield 32, 3) := by decide +kernel
theorem d_X_spread1_141 : decode b_X_spread1 141 = .ok (.iload_n 3, 1) := by decide +kernel
theorem d_X_spread1_142 : decode b_X_spread1 142 = .ok (.iaload, 1) := by decide +kernel
theorem d_X_spread1_143 : decode b_X_spread1 143 = .ok (.iaload, 1) := by decide +kernel
theorem d_X_spread1_144 : decode b_X_spread1 144 = .ok (.goto 14, 3) := by decide +kernel
theorem d_X_spread1_147 : decode b_X_spread1 147 = .ok (.aload_n 0, 1) := by decide +kernel
theorem d_X_spread1_148 : decode b_X_spread1 148 = .ok (.getfield 39, 3) := by decide +kernel
theorem d_X_spread1_151 : decode b_X_spread1 151 = .ok (.aload_n 0, 1) := by decide +kernel
theorem d_X_spread1_152 : decode b_X_spread1 152 = .ok (.getfield 32, 3) := by decide +kernel
theorem d_X_spread1_155 : decode b_X_spread1 155 = .ok (.iload_n 3, 1) := by decide +kernel
theorem d_X_spread1_156 : decode b_X_spread1 156 = .ok (.iaload, 1) := by decide +kernel
theorem d_X_spread1_157 : decode b_X_spread1 157 = .ok (.iaload, 1) := by decide +kernel
theorem d_X_spread1_158 : decode b_X_spread1 158 = .ok (.invokevirtual 208, 3) := by decide +kernel
theorem d_X_spread1_161 : decode b_X_spread1 161 = .ok (.iastore, 1) := by decide +kernel
theorem d_X_spread1_162 : decode b_X_spread1 162 = .ok (.iinc 3 1, 3) := by decide +kernel
theorem d_X_spread1_165 : decode b_X_spread1 165 = .ok (.goto (-133), 3) := by decide +kernel
theorem d_X_spread1_168 : decode b_X_spread1 168 = .ok (.iload_n 2, 1) := by decide +kernel
theorem d_X_spread1_169 : decode b_X_spread1 169 = .ok (.ifCond .eq 41, 3) := by decide +kernel
theorem d_X_spread1_172 : decode b_X_spread1 172 = .ok (.aload_n 0, 1) := by decide +kernel
theorem d_X_spread1_173 : decode b_X_spread1 173 = .ok (.getfield 57, 3) := by decide +kernel
theorem d_X_spread1_176 : decode b_X_spread1 176 = .ok (.iconst 0, 1) := by decide +kernel
theorem d_X_spread1_177 : decode b_X_spread1 177 = .ok (.iaload, 1) := by decide +kernel
theorem d_X_spread1_178 : decode b_X_spread1 178 = .ok (.aload_n 0, 1) := by decide +kernel
theorem d_X_spread1_179 : decode b_X_spread1 179 = .ok (.getfield 39, 3) := by decide +kernel
theorem d_X_spread1_182 : decode b_X_spread1 182 = .ok (.iload_n 1, 1) := by decide +kernel
theorem d_X_spread1_183 : decode b_X_spread1 183 = .ok (.iaload, 1) := by decide +kernel
theorem d_X_spread1_184 : decode b_X_spread1 184 = .ok (.if_icmp .ne 18, 3) := by decide +kernel
theorem d_X_spread1_187 : decode b_X_spread1 187 = .ok (.aload_n 0, 1) := by decide +kernel
theorem d_X_spread1_188 : decode b_X_spread1 188 = .ok (.getfield 57, 3) := by decide +kernel
theorem d_X_spread1_191 : decode b_X_spread1 191 = .ok (.iconst 1, 1) := by decide +kernel
theorem d_X_spread1_192 : decode b_X_spread1 192 = .ok (.iaload, 1) := by decide +kernel
theorem d_X_spread1_193 : decode b_X_spread1 193 = .ok (.aload_n 0, 1) := by decide +kernel
theorem d_X_spread1_194 : decode b_X_spread1 194 = .ok (.getfield 42, 3) := by decide +kernel
theorem d_X_spread1_197 : decode b_X_spread1 197 = .ok (.iload_n 1, 1) := by decide +kernel
theorem d_X_spread1_198 : decode b_X_spread1 198 = .ok (.iaload, 1) := by decide +kernel
theorem d_X_spread1_199 : decode b_X_spread1 199 = .ok (.if_icmp .eq 7, 3) := by decide +kernel
theorem d_X_spread1_202 : decode b_X_spread1 202 = .ok (.iconst 1, 1) := by decide +kernel
theorem d_X_spread1_203 : decode b_X_spread1 203 = .ok (.goto 42, 3) := by decide +kernel
theorem d_X_spread1_206 : decode b_X_spread1 206 = .ok (.iconst 0, 1) := by decide +kernel
theorem d_X_spread1_207 : decode b_X_spread1 207 = .ok (.goto 38, 3) := by decide +kernel
theorem d_X_spread1_210 : decode b_X_spread1 210 = .ok (.aload_n 0, 1) := by decide +kernel
theorem d_X_spread1_211 : decode b_X_spread1 211 = .ok (.getfield 57, 3) := by decide +kernel
theorem d_X_spread1_214 : decode b_X_spread1 214 = .ok (.iconst 0, 1) := by decide +kernel
theorem d_X_spread1_215 : decode b_X_spread1 215 = .ok (.iaload, 1) := by decide +kernel
theorem d_X_spread1_216 : decode b_X_spread1 216 = .ok (.aload_n 0, 1) := by decide +kernel
theorem d_X_spread1_217 : decode b_X_spread1 217 = .ok (.getfield 42, 3) := by decide +kernel
theorem d_X_spread1_220 : decode b_X_spread1 220 = .ok (.iload_n 1, 1) := by decide +kernel
theorem d_X_spread1_221 : decode b_X_spread1 221 = .ok (.iaload, 1) := by decide +kernel
theorem d_X_spread1_222 : decode b_X_spread1 222 = .ok (.if_icmp .ne 18, 3) := by decide +kernel
theorem d_X_spread1_225 : decode b_X_spread1 225 = .ok (.aload_n 0, 1) := by decide +kernel
theorem d_X_spread1_226 : decode b_X_spread1 226 = .ok (.getfield 57, 3) := by decide +kernel
theorem d_X_spread1_229 : decode b_X_spread1 229 = .ok (.iconst 1, 1) := by decide +kernel
theorem d_X_spread1_230 : decode b_X_spread1 230 = .ok (.iaload, 1) := by decide +kernel
theorem d_X_spread1_231 : decode b_X_spread1 231 = .ok (.aload_n 0, 1) := by decide +kernel
theorem d_X_spread1_232 : decode b_X_spread1 232 = .ok (.getfield 39, 3) := by decide +kernel
theorem d_X_spread1_235 : decode b_X_spread1 235 = .ok (.iload_n 1, 1) := by decide +kernel
theorem d_X_spread1_236 : decode b_X_spread1 236 = .ok (.iaload, 1) := by decide +kernel
theorem d_X_spread1_237 : decode b_X_spread1 237 = .ok (.if_icmp .eq 7, 3) := by decide +kernel
theorem d_X_spread1_240 : decode b_X_spread1 240 = .ok (.iconst 1, 1) := by decide +kernel
theorem d_X_spread1_241 : decode b_X_spread1 241 = .ok (.goto 4, 3) := by decide +kernel
theorem d_X_spread1_244 : decode b_X_spread1 244 = .ok (.iconst 0, 1) := by decide +kernel
theorem d_X_spread1_245 : decode b_X_spread1 245 = .ok (.istore_n 3, 1) := by decide +kernel
theorem d_X_spread1_246 : decode b_X_spread1 246 = .ok (.aload_n 0, 1) := by decide +kernel
theorem d_X_spread1_247 : decode b_X_spread1 247 = .ok (.getfield 39, 3) := by decide +kernel
theorem d_X_spread1_250 : decode b_X_spread1 250 = .ok (.iload_n 1, 1) := by decide +kernel
theorem d_X_spread1_251 : decode b_X_spread1 251 = .ok (.iload_n 2, 1) := by decide +kernel
theorem d_X_spread1_252 : decode b_X_spread1 252 = .ok (.ifCond .eq 12, 3) := by decide +kernel
theorem d_X_spread1_255 : decode b_X_spread1 255 = .ok (.aload_n 0, 1) := by decide +kernel
theorem d_X_spread1_256 : decode b_X_spread1 256 = .ok (.getfield 57, 3) := by decide +kernel
theorem d_X_spread1_259 : decode b_X_spread1 259 = .ok (.iconst 0, 1) := by decide +kernel
theorem d_X_spread1_260 : decode b_X_spread1 260 = .ok (.iaload, 1) := by decide +kernel
theorem d_X_spread1_261 : decode b_X_spread1 261 = .ok (.goto 9, 3) := by decide +kernel
theorem d_X_spread1_264 : decode b_X_spread1 264 = .ok (.aload_n 0, 1) := by decide +kernel
theorem d_X_spread1_265 : decode b_X_spread1 265 = .ok (.getfield 57, 3) := by decide +kernel
theorem d_X_spread1_268 : decode b_X_spread1 268 = .ok (.iconst 1, 1) := by decide +kernel
theorem d_X_spread1_269 : decode b_X_spread1 269 = .ok (.iaload, 1) := by decide +kernel
theorem d_X_spread1_270 : decode b_X_spread1 270 = .ok (.iastore, 1) := by decide +kernel
theorem d_X_spread1_271 : decode b_X_spread1 271 = .ok (.aload_n 0, 1) := by decide +kernel
theorem d_X_spread1_272 : decode b_X_spread1 272 = .ok (.getfield 42, 3) := by decide +kernel
theorem d_X_spread1_275 : decode b_X_spread1 275 = .ok (.iload_n 1, 1) := by decide +kernel
theorem d_X_spread1_276 : decode b_X_spread1 276 = .ok (.iload_n 2, 1) := by decide +kernel
theorem d_X_spread1_277 : decode b_X_spread1 277 = .ok (.ifCond .eq 12, 3) := by decide +kernel
theorem d_X_spread1_280 : decode b_X_spread1 280 = .ok (.aload_n 0, 1) := by decide +kernel
theorem d_X_spread1_281 : decode b_X_spread1 281 = .ok (.getfield 57, 3) := by decide +kernel
theorem d_X_spread1_284 : decode b_X_spread1 284 = .ok (.iconst 1, 1) := by decide +kernel
theorem d_X_spread1_285 : decode b_X_spread1 285 = .ok (.iaload, 1) := by decide +kernel
theorem d_X_spread1_286 : decode b_X_spread1 286 = .ok (.goto 9, 3) := by decide +kernel
theorem d_X_spread1_289 : decode b_X_spread1 289 = .ok (.aload_n 0, 1) := by decide +kernel
theorem d_X_spread1_290 : decode b_X_spread1 290 = .ok (.getfield 57, 3) := by decide +kernel
theorem d_X_spread1_293 : decode b_X_spread1 293 = .ok (.iconst 0, 1) := by decide +kernel
theorem d_X_spread1_294 : decode b_X_spread1 294 = .ok (.iaload, 1) := by decide +kernel
theorem d_X_spread1_295 : decode b_X_spread1 295 = .ok (.iastore, 1) := by decide +kernel
theorem d_X_spread1_296 : decode b_X_spread1 296 = .ok (.iload_n 3, 1) := by decide +kernel
theorem d_X_spread1_297 : decode b_X_spread1 297 = .ok (.ireturn, 1) := by decide +kernel
abbrev y_X_spread0 : MethodName := ⟨"StateExplorer", "spread", "()V"⟩
abbrev b_X_spread0 : ByteArray := prog_1_method_27_code
theorem d_X_spread0_0 : decode b_X_spread0 0 = .ok (.iconst 0, 1) := by decide +kernel
theorem d_X_spread0_1 : decode b_X_spread0 1 = .ok (.istore_n 1, 1) := by decide +kernel
theorem d_X_spread0_2 : decode b_X_spread0 2 = .ok (.iload_n 1, 1) := by decide +kernel
theorem d_X_spread0_3 : decode b_X_spread0 3 = .ok (.aload_n 0, 1) := by decide +kernel
theorem d_X_spread0_4 : decode b_X_spread0 4 = .ok (.getfield 75, 3) := by decide +kernel
theorem d_X_spread0_7 : decode b_X_spread0 7 = .ok (.if_icmp .ge 97, 3) := by decide +kernel
theorem d_X_spread0_10 : decode b_X_spread0 10 = .ok (.aload_n 0, 1) := by decide +kernel
theorem d_X_spread0_11 : decode b_X_spread0 11 = .ok (.getfield 16, 3) := by decide +kernel
theorem d_X_spread0_14 : decode b_X_spread0 14 = .ok (.iload_n 1, 1) := by decide +kernel
theorem d_X_spread0_15 : decode b_X_spread0 15 = .ok (.iaload, 1) := by decide +kernel
theorem d_X_spread0_16 : decode b_X_spread0 16 = .ok (.iconst 2, 1) := by decide +kernel
theorem d_X_spread0_17 : decode b_X_spread0 17 = .ok (.if_icmp .ge 7, 3) := by decide +kernel
theorem d_X_spread0_20 : decode b_X_spread0 20 = .ok (.iconst 1, 1) := by decide +kernel
theorem d_X_spread0_21 : decode b_X_spread0 21 = .ok (.goto 4, 3) := by decide +kernel
theorem d_X_spread0_24 : decode b_X_spread0 24 = .ok (.iconst 0, 1) := by decide +kernel
theorem d_X_spread0_25 : decode b_X_spread0 25 = .ok (.istore_n 2, 1) := by decide +kernel
theorem d_X_spread0_26 : decode b_X_spread0 26 = .ok (.aload_n 0, 1) := by decide +kernel
theorem d_X_spread0_27 : decode b_X_spread0 27 = .ok (.getfield 39, 3) := by decide +kernel
theorem d_X_spread0_30 : decode b_X_spread0 30 = .ok (.iload_n 1, 1) := by decide +kernel
theorem d_X_spread0_31 : decode b_X_spread0 31 = .ok (.iload_n 2, 1) := by decide +kernel
theorem d_X_spread0_32 : decode b_X_spread0 32 = .ok (.ifCond .ne 7, 3) := by decide +kernel
theorem d_X_spread0_35 : decode b_X_spread0 35 = .ok (.iconst 0, 1) := by decide +kernel
theorem d_X_spread0_36 : decode b_X_spread0 36 = .ok (.goto 37, 3) := by decide +kernel
theorem d_X_spread0_39 : decode b_X_spread0 39 = .ok (.aload_n 0, 1) := by decide +kernel
theorem d_X_spread0_40 : decode b_X_spread0 40 = .ok (.aload_n 0, 1) := by decide +kernel
theorem d_X_spread0_41 : decode b_X_spread0 41 = .ok (.getfield 16, 3) := by decide +kernel
theorem d_X_spread0_44 : decode b_X_spread0 44 = .ok (.iload_n 1, 1) := by decide +kernel
theorem d_X_spread0_45 : decode b_X_spread0 45 = .ok (.iaload, 1) := by decide +kernel
theorem d_X_spread0_46 : decode b_X_spread0 46 = .ok (.ifCond .ne 15, 3) := by decide +kernel
theorem d_X_spread0_49 : decode b_X_spread0 49 = .ok (.aload_n 0, 1) := by decide +kernel
theorem d_X_spread0_50 : decode b_X_spread0 50 = .ok (.getfield 20, 3) := by decide +kernel
theorem d_X_spread0_53 : decode b_X_spread0 53 = .ok (.iload_n 1, 1) := by decide +kernel
theorem d_X_spread0_54 : decode b_X_spread0 54 = .ok (.iaload, 1) := by decide +kernel
theorem d_X_spread0_55 : decode b_X_spread0 55 = .ok (.invokestatic 195, 3) := by decide +kernel
theorem d_X_spread0_58 : decode b_X_spread0 58 = .ok (.goto 12, 3) := by decide +kernel
theorem d_X_spread0_61 : decode b_X_spread0 61 = .ok (.aload_n 0, 1) := by decide +kernel
theorem d_X_spread0_62 : decode b_X_spread0 62 = .ok (.getfield 20, 3) := by decide +kernel
theorem d_X_spread0_65 : decode b_X_spread0 65 = .ok (.iload_n 1, 1) := by decide +kernel
theorem d_X_spread0_66 : decode b_X_spread0 66 = .ok (.iaload, 1) := by decide +kernel
theorem d_X_spread0_67 : decode b_X_spread0 67 = .ok (.invokestatic 177, 3) := by decide +kernel
theorem d_X_spread0_70 : decode b_X_spread0 70 = .ok (.invokevirtual 198, 3) := by decide +kernel
theorem d_X_spread0_73 : decode b_X_spread0 73 = .ok (.iastore, 1) := by decide +kernel
theorem d_X_spread0_74 : decode b_X_spread0 74 = .ok (.aload_n 0, 1) := by decide +kernel
theorem d_X_spread0_75 : decode b_X_spread0 75 = .ok (.getfield 42, 3) := by decide +kernel
theorem d_X_spread0_78 : decode b_X_spread0 78 = .ok (.iload_n 1, 1) := by decide +kernel
theorem d_X_spread0_79 : decode b_X_spread0 79 = .ok (.iload_n 2, 1) := by decide +kernel
theorem d_X_spread0_80 : decode b_X_spread0 80 = .ok (.ifCond .eq 16, 3) := by decide +kernel
theorem d_X_spread0_83 : decode b_X_spread0 83 = .ok (.aload_n 0, 1) := by decide +kernel
theorem d_X_spread0_84 : decode b_X_spread0 84 = .ok (.aload_n 0, 1) := by decide +kernel
theorem d_X_spread0_85 : decode b_X_spread0 85 = .ok (.getfield 39, 3) := by decide +kernel
theorem d_X_spread0_88 : decode b_X_spread0 88 = .ok (.iload_n 1, 1) := by decide +kernel
theorem d_X_spread0_89 : decode b_X_spread0 89 = .ok (.iaload, 1) := by decide +kernel
theorem d_X_spread0_90 : decode b_X_spread0 90 = .ok (.invokevirtual 201, 3) := by decide +kernel
theorem d_X_spread0_93 : decode b_X_spread0 93 = .ok (.goto 4, 3) := by decide +kernel
theorem d_X_spread0_96 : decode b_X_spread0 96 = .ok (.iconst 0, 1) := by decide +kernel
theorem d_X_spread0_97 : decode b_X_spread0 97 = .ok (.iastore, 1) := by decide +kernel
theorem d_X_spread0_98 : decode b_X_spread0 98 = .ok (.iinc 1 1, 3) := by decide +kernel
theorem d_X_spread0_101 : decode b_X_spread0 101 = .ok (.goto (-99), 3) := by decide +kernel
theorem d_X_spread0_104 : decode b_X_spread0 104 = .ok (.iconst 1, 1) := by decide +kernel
theorem d_X_spread0_105 : decode b_X_spread0 105 = .ok (.istore_n 1, 1) := by decide +kernel
theorem d_X_spread0_106 : decode b_X_spread0 106 = .ok (.iload_n 1, 1) := by decide +kernel
theorem d_X_spread0_107 : decode b_X_spread0 107 = .ok (.ifCond .eq 52, 3) := by decide +kernel
theorem d_X_spread0_110 : decode b_X_spread0 110 = .ok (.iconst 0, 1) := by decide +kernel
theorem d_X_spread0_111 : decode b_X_spread0 111 = .ok (.istore_n 1, 1) := by decide +kernel
theorem d_X_spread0_112 : decode b_X_spread0 112 = .ok (.iconst 0, 1) := by decide +kernel
theorem d_X_spread0_113 : decode b_X_spread0 113 = .ok (.istore_n 2, 1) := by decide +kernel
theorem d_X_spread0_114 : decode b_X_spread0 114 = .ok (.iload_n 2, 1) := by decide +kernel
theorem d_X_spread0_115 : decode b_X_spread0 115 = .ok (.aload_n 0, 1) := by decide +kernel
theorem d_X_spread0_116 : decode b_X_spread0 116 = .ok (.getfield 75, 3) := by decide +kernel
theorem d_X_spread0_119 : decode b_X_spread0 119 = .ok (.if_icmp .ge 37, 3) := by decide +kernel
theorem d_X_spread0_122 : decode b_X_spread0 122 = .ok (.aload_n 0, 1) := by decide +kernel
theorem d_X_spread0_123 : decode b_X_spread0 123 = .ok (.getfield 16, 3) := by decide +kernel
theorem d_X_spread0_126 : decode b_X_spread0 126 = .ok (.iload_n 2, 1) := by decide +kernel
theorem d_X_spread0_127 : decode b_X_spread0 127 = .ok (.iaload, 1) := by decide +kernel
theorem d_X_spread0_128 : decode b_X_spread0 128 = .ok (.iconst 2, 1) := by decide +kernel
theorem d_X_spread0_129 : decode b_X_spread0 129 = .ok (.if_icmp .lt 11, 3) := by decide +kernel
theorem d_X_spread0_132 : decode b_X_spread0 132 = .ok (.aload_n 0, 1) := by decide +kernel
theorem d_X_spread0_133 : decode b_X_spread0 133 = .ok (.iload_n 2, 1) := by decide +kernel
theorem d_X_spread0_134 : decode b_X_spread0 134 = .ok (.invokevirtual 204, 3) := by decide +kernel
theorem d_X_spread0_137 : decode b_X_spread0 137 = .ok (.ifCond .ne 7, 3) := by decide +kernel
theorem d_X_spread0_140 : decode b_X_spread0 140 = .ok (.iload_n 1, 1) := by decide +kernel
theorem d_X_spread0_141 : decode b_X_spread0 141 = .ok (.ifCond .eq 7, 3) := by decide +kernel
theorem d_X_spread0_144 : decode b_X_spread0 144 = .ok (.iconst 1, 1) := by decide +kernel
theorem d_X_spread0_145 : decode b_X_spread0 145 = .ok (.goto 4, 3) := by decide +kernel
theorem d_X_spread0_148 : decode b_X_spread0 148 = .ok (.iconst 0, 1) := by decide +kernel
theorem d_X_spread0_149 : decode b_X_spread0 149 = .ok (.istore_n 1, 1) := by decide +kernel
theorem d_X_spread0_150 : decode b_X_spread0 150 = .ok (.iinc 2 1, 3) := by decide +kernel
theorem d_X_spread0_153 : decode b_X_spread0 153 = .ok (.goto (-39), 3) := by decide +kernel
theorem d_X_spread0_156 : decode b_X_spread0 156 = .ok (.goto (-50), 3) := by decide +kernel
theorem d_X_spread0_159 : decode b_X_spread0 159 = .ok (.aload_n 0, 1) := by decide +kernel
theorem d_X_spread0_160 : decode b_X_spread0 160 = .ok (.iconst 1, 1) := by decide +kernel
theorem d_X_spread0_161 : decode b_X_spread0 161 = .ok (.putfield 124, 3) := by decide +kernel
theorem d_X_spread0_164 : decode b_X_spread0 164 = .ok (.iconst 0, 1) := by decide +kernel
theorem d_X_spread0_165 : decode b_X_spread0 165 = .ok (.istore_n 2, 1) := by decide +kernel
theorem d_X_spread0_166 : decode b_X_spread0 166 = .ok (.iload_n 2, 1) := by decide +kernel
theorem d_X_spread0_167 : decode b_X_spread0 167 = .ok (.aload_n 0, 1) := by decide +kernel
theorem d_X_spread0_168 : decode b_X_spread0 168 = .ok (.getfield 75, 3) := by decide +kernel
theorem d_X_spread0_171 : decode b_X_spread0 171 = .ok (.if_icmp .ge 49, 3) := by decide +kernel
theorem d_X_spread0_174 : decode b_X_spread0 174 = .ok (.aload_n 0, 1) := by decide +kernel
theorem d_X_spread0_175 : decode b_X_spread0 175 = .ok (.getfield 57, 3) := by decide +kernel
theorem d_X_spread0_178 : decode b_X_spread0 178 = .ok (.iconst 0, 1) := by decide +kernel
theorem d_X_spread0_179 : decode b_X_spread0 179 = .ok (.aload_n 0, 1) := by decide +kernel
theorem d_X_spread0_180 : decode b_X_spread0 180 = .ok (.aload_n 0, 1) := by decide +kernel
theorem d_X_spread0_181 : decode b_X_spread0 181 = .ok (.getfield 39, 3) := by decide +kernel
theorem d_X_spread0_184 : decode b_X_spread0 184 = .ok (.iload_n 2, 1) := by decide +kernel
theorem d_X_spread0_185 : decode b_X_spread0 185 = .ok (.iaload, 1) := by decide +kernel
theorem d_X_spread0_186 : decode b_X_spread0 186 = .ok (.aload_n 0, 1) := by decide +kernel
theorem d_X_spread0_187 : decode b_X_spread0 187 = .ok (.getfield 42, 3) := by decide +kernel
theorem d_X_spread0_190 : decode b_X_spread0 190 = .ok (.iload_n 2, 1) := by decide +kernel
theorem d_X_spread0_191 : decode b_X_spread0 191 = .ok (.iaload, 1) := by decide +kernel
theorem d_X_spread0_192 : decode b_X_spread0 192 = .ok (.invokevirtual 208, 3) := by decide +kernel
theorem d_X_spread0_195 : decode b_X_spread0 195 = .ok (.iastore, 1) := by decide +kernel
theorem d_X_spread0_196 : decode b_X_spread0 196 = .ok (.aload_n 0, 1) := by decide +kernel
theorem d_X_spread0_197 : decode b_X_spread0 197 = .ok (.aload_n 0, 1) := by decide +kernel
theorem d_X_spread0_198 : decode b_X_spread0 198 = .ok (.aload_n 0, 1) := by decide +kernel
theorem d_X_spread0_199 : decode b_X_spread0 199 = .ok (.getfield 124, 3) := by decide +kernel
theorem d_X_spread0_202 : decode b_X_spread0 202 = .ok (.aload_n 0, 1) := by decide +kernel
theorem d_X_spread0_203 : decode b_X_spread0 203 = .ok (.getfield 57, 3) := by decide +kernel
theorem d_X_spread0_206 : decode b_X_spread0 206 = .ok (.iconst 0, 1) := by decide +kernel
theorem d_X_spread0_207 : decode b_X_spread0 207 = .ok (.iaload, 1) := by decide +kernel
theorem d_X_spread0_208 : decode b_X_spread0 208 = .ok (.invokevirtual 211, 3) := by decide +kernel
theorem d_X_spread0_211 : decode b_X_spread0 211 = .ok (.putfield 124, 3) := by decide +kernel
theorem d_X_spread0_214 : decode b_X_spread0 214 = .ok (.iinc 2 1, 3) := by decide +kernel
theorem d_X_spread0_217 : decode b_X_spread0 217 = .ok (.goto (-51), 3) := by decide +kernel
theorem d_X_spread0_220 : decode b_X_spread0 220 = .ok (.return_, 1) := by decide +kernel
abbrev y_X_latch : MethodName := ⟨"StateExplorer", "latch", "()V"⟩
abbrev b_X_latch : ByteArray := prog_1_method_29_code
theorem d_X_latch_0 : decode b_X_latch 0 = .ok (.iconst 0, 1) := by decide +kernel
theorem d_X_latch_1 : decode b_X_latch 1 = .ok (.istore_n 1, 1) := by decide +kernel
theorem d_X_latch_2 : decode b_X_latch 2 = .ok (.iload_n 1, 1) := by decide +kernel
theorem d_X_latch_3 : decode b_X_latch 3 = .ok (.bipush 8, 2) := by decide +kernel
theorem d_X_latch_5 : decode b_X_latch 5 = .ok (.if_icmp .ge 41, 3) := by decide +kernel
theorem d_X_latch_8 : decode b_X_latch 8 = .ok (.aload_n 0, 1) := by decide +kernel
theorem d_X_latch_9 : decode b_X_latch 9 = .ok (.getfield 45, 3) := by decide +kernel
theorem d_X_latch_12 : decode b_X_latch 12 = .ok (.iload_n 1, 1) := by decide +kernel
theorem d_X_latch_13 : decode b_X_latch 13 = .ok (.iconst 0, 1) := by decide +kernel
theorem d_X_latch_14 : decode b_X_latch 14 = .ok (.iastore, 1) := by decide +kernel
theorem d_X_latch_15 : decode b_X_latch 15 = .ok (.iload_n 1, 1) := by decide +kernel
theorem d_X_latch_16 : decode b_X_latch 16 = .ok (.aload_n 0, 1) := by decide +kernel
theorem d_X_latch_17 : decode b_X_latch 17 = .ok (.getfield 89, 3) := by decide +kernel
theorem d_X_latch_20 : decode b_X_latch 20 = .ok (.if_icmp .ge 20, 3) := by decide +kernel
theorem d_X_latch_23 : decode b_X_latch 23 = .ok (.aload_n 0, 1) := by decide +kernel
theorem d_X_latch_24 : decode b_X_latch 24 = .ok (.getfield 45, 3) := by decide +kernel
theorem d_X_latch_27 : decode b_X_latch 27 = .ok (.iload_n 1, 1) := by decide +kernel
theorem d_X_latch_28 : decode b_X_latch 28 = .ok (.aload_n 0, 1) := by decide +kernel
theorem d_X_latch_29 : decode b_X_latch 29 = .ok (.getfield 39, 3) := by decide +kernel
theorem d_X_latch_32 : decode b_X_latch 32 = .ok (.aload_n 0, 1) := by decide +kernel
theorem d_X_latch_33 : decode b_X_latch 33 = .ok (.getfield 26, 3) := by decide +kernel
theorem d_X_latch_36 : decode b_X_latch 36 = .ok (.iload_n 1, 1) := by decide +kernel
theorem d_X_latch_37 : decode b_X_latch 37 = .ok (.iaload, 1) := by decide +kernel
theorem d_X_latch_38 : decode b_X_latch 38 = .ok (.iaload, 1) := by decide +kernel
theorem d_X_latch_39 : decode b_X_latch 39 = .ok (.iastore, 1) := by decide +kernel
theorem d_X_latch_40 : decode b_X_latch 40 = .ok (.iinc 1 1, 3) := by decide +kernel
theorem d_X_latch_43 : decode b_X_latch 43 = .ok (.goto (-41), 3) := by decide +kernel
theorem d_X_latch_46 : decode b_X_latch 46 = .ok (.iconst 0, 1) := by decide +kernel
theorem d_X_latch_47 : decode b_X_latch 47 = .ok (.istore_n 1, 1) := by decide +kernel
theorem d_X_latch_48 : decode b_X_latch 48 = .ok (.iload_n 1, 1) := by decide +kernel
theorem d_X_latch_49 : decode b_X_latch 49 = .ok (.aload_n 0, 1) := by decide +kernel
theorem d_X_latch_50 : decode b_X_latch 50 = .ok (.getfield 96, 3) := by decide +kernel
theorem d_X_latch_53 : decode b_X_latch 53 = .ok (.if_icmp .ge 74, 3) := by decide +kernel
theorem d_X_latch_56 : decode b_X_latch 56 = .ok (.aload_n 0, 1) := by decide +kernel
theorem d_X_latch_57 : decode b_X_latch 57 = .ok (.getfield 16, 3) := by decide +kernel
theorem d_X_latch_60 : decode b_X_latch 60 = .ok (.aload_n 0, 1) := by decide +kernel
theorem d_X_latch_61 : decode b_X_latch 61 = .ok (.getfield 29, 3) := by decide +kernel
theorem d_X_latch_64 : decode b_X_latch 64 = .ok (.iload_n 1, 1) := by decide +kernel
theorem d_X_latch_65 : decode b_X_latch 65 = .ok (.iaload, 1) := by decide +kernel
theorem d_X_latch_66 : decode b_X_latch 66 = .ok (.iaload, 1) := by decide +kernel
theorem d_X_latch_67 : decode b_X_latch 67 = .ok (.iconst 1, 1) := by decide +kernel
theorem d_X_latch_68 : decode b_X_latch 68 = .ok (.if_icmp .ne 53, 3) := by decide +kernel
theorem d_X_latch_71 : decode b_X_latch 71 = .ok (.aload_n 0, 1) := by decide +kernel
theorem d_X_latch_72 : decode b_X_latch 72 = .ok (.getfield 45, 3) := by decide +kernel
theorem d_X_latch_75 : decode b_X_latch 75 = .ok (.aload_n 0, 1) := by decide +kernel
theorem d_X_latch_76 : decode b_X_latch 76 = .ok (.getfield 20, 3) := by decide +kernel
theorem d_X_latch_79 : decode b_X_latch 79 = .ok (.aload_n 0, 1) := by decide +kernel
theorem d_X_latch_80 : decode b_X_latch 80 = .ok (.getfield 29, 3) := by decide +kernel
theorem d_X_latch_83 : decode b_X_latch 83 = .ok (.iload_n 1, 1) := by decide +kernel
theorem d_X_latch_84 : decode b_X_latch 84 = .ok (.iaload, 1) := by decide +kernel
theorem d_X_latch_85 : decode b_X_latch 85 = .ok (.iaload, 1) := by decide +kernel
theorem d_X_latch_86 : decode b_X_latch 86 = .ok (.aload_n 0, 1) := by decide +kernel
theorem d_X_latch_87 : decode b_X_latch 87 = .ok (.getfield 35, 3) := by decide +kernel
theorem d_X_latch_90 : decode b_X_latch 90 = .ok (.iload_n 1, 1) := by decide +kernel
theorem d_X_latch_91 : decode b_X_latch 91 = .ok (.baload, 1) := by decide +kernel
theorem d_X_latch_92 : decode b_X_latch 92 = .ok (.ifCond .eq 17, 3) := by decide +kernel
theorem d_X_latch_95 : decode b_X_latch 95 = .ok (.aload_n 0, 1) := by decide +kernel
theorem d_X_latch_96 : decode b_X_latch 96 = .ok (.getfield 42, 3) := by decide +kernel
theorem d_X_latch_99 : decode b_X_latch 99 = .ok (.aload_n 0, 1) := by decide +kernel
theorem d_X_latch_100 : decode b_X_latch 100 = .ok (.getfield 32, 3) := by decide +kernel
theorem d_X_latch_103 : decode b_X_latch 103 = .ok (.iload_n 1, 1) := by decide +kernel
theorem d_X_latch_104 : decode b_X_latch 104 = .ok (.iaload, 1) := by decide +kernel
theorem d_X_latch_105 : decode b_X_latch 105 = .ok (.iaload, 1) := by decide +kernel
theorem d_X_latch_106 : decode b_X_latch 106 = .ok (.goto 14, 3) := by decide +kernel
theorem d_X_latch_109 : decode b_X_latch 109 = .ok (.aload_n 0, 1) := by decide +kernel
theorem d_X_latch_110 : decode b_X_latch 110 = .ok (.getfield 39, 3) := by decide +kernel
theorem d_X_latch_113 : decode b_X_latch 113 = .ok (.aload_n 0, 1) := by decide +kernel
theorem d_X_latch_114 : decode b_X_latch 114 = .ok (.getfield 32, 3) := by decide +kernel
theorem d_X_latch_117 : decode b_X_latch 117 = .ok (.iload_n 1, 1) := by decide +kernel
theorem d_X_latch_118 : decode b_X_latch 118 = .ok (.iaload, 1) := by decide +kernel
theorem d_X_latch_119 : decode b_X_latch 119 = .ok (.iaload, 1) := by decide +kernel
theorem d_X_latch_120 : decode b_X_latch 120 = .ok (.iastore, 1) := by decide +kernel
theorem d_X_latch_121 : decode b_X_latch 121 = .ok (.iinc 1 1, 3) := by decide +kernel
theorem d_X_latch_124 : decode b_X_latch 124 = .ok (.goto (-76), 3) := by decide +kernel
theorem d_X_latch_127 : decode b_X_latch 127 = .ok (.return_, 1) := by decide +kernel
abbrev y_X_only : MethodName := ⟨"StateExplorer", "only", "(I)I"⟩
abbrev b_X_only : ByteArray := prog_1_method_30_code
theorem d_X_only_0 : decode b_X_only 0 = .ok (.aload_n 0, 1) := by decide +kernel
theorem d_X_only_1 : decode b_X_only 1 = .ok (.getfield 57, 3) := by decide +kernel
theorem d_X_only_4 : decode b_X_only 4 = .ok (.iconst 0, 1) := by decide +kernel
theorem d_X_only_5 : decode b_X_only 5 = .ok (.iconst 1, 1) := by decide +kernel
theorem d_X_only_6 : decode b_X_only 6 = .ok (.iastore, 1) := by decide +kernel
theorem d_X_only_7 : decode b_X_only 7 = .ok (.iconst 0, 1) := by decide +kernel
theorem d_X_only_8 : decode b_X_only 8 = .ok (.istore_n 2, 1) := by decide +kernel
theorem d_X_only_9 : decode b_X_only 9 = .ok (.iload_n 2, 1) := by decide +kernel
theorem d_X_only_10 : decode b_X_only 10 = .ok (.bipush 8, 2) := by decide +kernel
theorem d_X_only_12 : decode b_X_only 12 = .ok (.if_icmp .ge 66, 3) := by decide +kernel
theorem d_X_only_15 : decode b_X_only 15 = .ok (.aload_n 0, 1) := by decide +kernel
theorem d_X_only_16 : decode b_X_only 16 = .ok (.getfield 57, 3) := by decide +kernel
theorem d_X_only_19 : decode b_X_only 19 = .ok (.iconst 1, 1) := by decide +kernel
theorem d_X_only_20 : decode b_X_only 20 = .ok (.aload_n 0, 1) := by decide +kernel
theorem d_X_only_21 : decode b_X_only 21 = .ok (.iload_n 2, 1) := by decide +kernel
theorem d_X_only_22 : decode b_X_only 22 = .ok (.invokestatic 177, 3) := by decide +kernel
theorem d_X_only_25 : decode b_X_only 25 = .ok (.invokevirtual 198, 3) := by decide +kernel
theorem d_X_only_28 : decode b_X_only 28 = .ok (.iastore, 1) := by decide +kernel
theorem d_X_only_29 : decode b_X_only 29 = .ok (.aload_n 0, 1) := by decide +kernel
theorem d_X_only_30 : decode b_X_only 30 = .ok (.getfield 57, 3) := by decide +kernel
theorem d_X_only_33 : decode b_X_only 33 = .ok (.iconst 0, 1) := by decide +kernel
theorem d_X_only_34 : decode b_X_only 34 = .ok (.aload_n 0, 1) := by decide +kernel
theorem d_X_only_35 : decode b_X_only 35 = .ok (.aload_n 0, 1) := by decide +kernel
theorem d_X_only_36 : decode b_X_only 36 = .ok (.getfield 57, 3) := by decide +kernel
theorem d_X_only_39 : decode b_X_only 39 = .ok (.iconst 0, 1) := by decide +kernel
theorem d_X_only_40 : decode b_X_only 40 = .ok (.iaload, 1) := by decide +kernel
theorem d_X_only_41 : decode b_X_only 41 = .ok (.iload_n 1, 1) := by decide +kernel
theorem d_X_only_42 : decode b_X_only 42 = .ok (.iload_n 2, 1) := by decide +kernel
theorem d_X_only_43 : decode b_X_only 43 = .ok (.invokestatic 187, 3) := by decide +kernel
theorem d_X_only_46 : decode b_X_only 46 = .ok (.ifCond .eq 12, 3) := by decide +kernel
theorem d_X_only_49 : decode b_X_only 49 = .ok (.aload_n 0, 1) := by decide +kernel
theorem d_X_only_50 : decode b_X_only 50 = .ok (.getfield 57, 3) := by decide +kernel
theorem d_X_only_53 : decode b_X_only 53 = .ok (.iconst 1, 1) := by decide +kernel
theorem d_X_only_54 : decode b_X_only 54 = .ok (.iaload, 1) := by decide +kernel
theorem d_X_only_55 : decode b_X_only 55 = .ok (.goto 13, 3) := by decide +kernel
theorem d_X_only_58 : decode b_X_only 58 = .ok (.aload_n 0, 1) := by decide +kernel
theorem d_X_only_59 : decode b_X_only 59 = .ok (.aload_n 0, 1) := by decide +kernel
theorem d_X_only_60 : decode b_X_only 60 = .ok (.getfield 57, 3) := by decide +kernel
theorem d_X_only_63 : decode b_X_only 63 = .ok (.iconst 1, 1) := by decide +kernel
theorem d_X_only_64 : decode b_X_only 64 = .ok (.iaload, 1) := by decide +kernel
theorem d_X_only_65 : decode b_X_only 65 = .ok (.invokevirtual 201, 3) := by decide +kernel
theorem d_X_only_68 : decode b_X_only 68 = .ok (.invokevirtual 211, 3) := by decide +kernel
theorem d_X_only_71 : decode b_X_only 71 = .ok (.iastore, 1) := by decide +kernel
theorem d_X_only_72 : decode b_X_only 72 = .ok (.iinc 2 1, 3) := by decide +kernel
theorem d_X_only_75 : decode b_X_only 75 = .ok (.goto (-66), 3) := by decide +kernel
theorem d_X_only_78 : decode b_X_only 78 = .ok (.aload_n 0, 1) := by decide +kernel
theorem d_X_only_79 : decode b_X_only 79 = .ok (.getfield 57, 3) := by decide +kernel
theorem d_X_only_82 : decode b_X_only 82 = .ok (.iconst 0, 1) := by decide +kernel
theorem d_X_only_83 : decode b_X_only 83 = .ok (.iaload, 1) := by decide +kernel
theorem d_X_only_84 : decode b_X_only 84 = .ok (.ireturn, 1) := by decide +kernel
abbrev y_X_seen : MethodName := ⟨"StateExplorer", "seen", "(II)I"⟩
abbrev b_X_seen : ByteArray := prog_1_method_32_code
theorem d_X_seen_0 : decode b_X_seen 0 = .ok (.aload_n 0, 1) := by decide +kernel
theorem d_X_seen_1 : decode b_X_seen 1 = .ok (.aload_n 0, 1) := by decide +kernel
theorem d_X_seen_2 : decode b_X_seen 2 = .ok (.getfield 124, 3) := by decide +kernel
theorem d_X_seen_5 : decode b_X_seen 5 = .ok (.iload_n 1, 1) := by decide +kernel
theorem d_X_seen_6 : decode b_X_seen 6 = .ok (.iload_n 2, 1) := by decide +kernel
theorem d_X_seen_7 : decode b_X_seen 7 = .ok (.invokevirtual 237, 3) := by decide +kernel
theorem d_X_seen_10 : decode b_X_seen 10 = .ok (.ifCond .ne 5, 3) := by decide +kernel
theorem d_X_seen_13 : decode b_X_seen 13 = .ok (.iconst (-1), 1) := by decide +kernel
theorem d_X_seen_14 : decode b_X_seen 14 = .ok (.ireturn, 1) := by decide +kernel
theorem d_X_seen_15 : decode b_X_seen 15 = .ok (.iconst 0, 1) := by decide +kernel
theorem d_X_seen_16 : decode b_X_seen 16 = .ok (.istore_n 3, 1) := by decide +kernel
theorem d_X_seen_17 : decode b_X_seen 17 = .ok (.iconst 0, 1) := by decide +kernel
theorem d_X_seen_18 : decode b_X_seen 18 = .ok (.istore 4, 2) := by decide +kernel
theorem d_X_seen_20 : decode b_X_seen 20 = .ok (.iload 4, 2) := by decide +kernel
theorem d_X_seen_22 : decode b_X_seen 22 = .ok (.aload_n 0, 1) := by decide +kernel
theorem d_X_seen_23 : decode b_X_seen 23 = .ok (.getfield 109, 3) := by decide +kernel
theorem d_X_seen_26 : decode b_X_seen 26 = .ok (.if_icmp .ge 41, 3) := by decide +kernel
theorem d_X_seen_29 : decode b_X_seen 29 = .ok (.iload_n 3, 1) := by decide +kernel
theorem d_X_seen_30 : decode b_X_seen 30 = .ok (.aload_n 0, 1) := by decide +kernel
theorem d_X_seen_31 : decode b_X_seen 31 = .ok (.aload_n 0, 1) := by decide +kernel
theorem d_X_seen_32 : decode b_X_seen 32 = .ok (.getfield 39, 3) := by decide +kernel
theorem d_X_seen_35 : decode b_X_seen 35 = .ok (.aload_n 0, 1) := by decide +kernel
theorem d_X_seen_36 : decode b_X_seen 36 = .ok (.getfield 23, 3) := by decide +kernel
theorem d_X_seen_39 : decode b_X_seen 39 = .ok (.iload 4, 2) := by decide +kernel
theorem d_X_seen_41 : decode b_X_seen 41 = .ok (.iaload, 1) := by decide +kernel
theorem d_X_seen_42 : decode b_X_seen 42 = .ok (.iaload, 1) := by decide +kernel
theorem d_X_seen_43 : decode b_X_seen 43 = .ok (.iload_n 1, 1) := by decide +kernel
theorem d_X_seen_44 : decode b_X_seen 44 = .ok (.iload_n 2, 1) := by decide +kernel
theorem d_X_seen_45 : decode b_X_seen 45 = .ok (.invokevirtual 237, 3) := by decide +kernel
theorem d_X_seen_48 : decode b_X_seen 48 = .ok (.ifCond .eq 10, 3) := by decide +kernel
theorem d_X_seen_51 : decode b_X_seen 51 = .ok (.iconst 1, 1) := by decide +kernel
theorem d_X_seen_52 : decode b_X_seen 52 = .ok (.iload 4, 2) := by decide +kernel
theorem d_X_seen_54 : decode b_X_seen 54 = .ok (.ishl, 1) := by decide +kernel
theorem d_X_seen_55 : decode b_X_seen 55 = .ok (.goto 4, 3) := by decide +kernel
theorem d_X_seen_58 : decode b_X_seen 58 = .ok (.iconst 0, 1) := by decide +kernel
theorem d_X_seen_59 : decode b_X_seen 59 = .ok (.ior, 1) := by decide +kernel
theorem d_X_seen_60 : decode b_X_seen 60 = .ok (.istore_n 3, 1) := by decide +kernel
theorem d_X_seen_61 : decode b_X_seen 61 = .ok (.iinc 4 1, 3) := by decide +kernel
theorem d_X_seen_64 : decode b_X_seen 64 = .ok (.goto (-44), 3) := by decide +kernel
theorem d_X_seen_67 : decode b_X_seen 67 = .ok (.iload_n 3, 1) := by decide +kernel
theorem d_X_seen_68 : decode b_X_seen 68 = .ok (.ireturn, 1) := by decide +kernel
abbrev y_X_nextOf : MethodName := ⟨"StateExplorer", "nextOf", "(II)I"⟩
abbrev b_X_nextOf : ByteArray := prog_1_method_33_code
theorem d_X_nextOf_0 : decode b_X_nextOf 0 = .ok (.iconst 0, 1) := by decide +kernel
theorem d_X_nextOf_1 : decode b_X_nextOf 1 = .ok (.istore_n 3, 1) := by decide +kernel
theorem d_X_nextOf_2 : decode b_X_nextOf 2 = .ok (.iconst 0, 1) := by decide +kernel
theorem d_X_nextOf_3 : decode b_X_nextOf 3 = .ok (.istore 4, 2) := by decide +kernel
theorem d_X_nextOf_5 : decode b_X_nextOf 5 = .ok (.iload 4, 2) := by decide +kernel
theorem d_X_nextOf_7 : decode b_X_nextOf 7 = .ok (.aload_n 0, 1) := by decide +kernel
theorem d_X_nextOf_8 : decode b_X_nextOf 8 = .ok (.getfield 89, 3) := by decide +kernel
theorem d_X_nextOf_11 : decode b_X_nextOf 11 = .ok (.if_icmp .ge 36, 3) := by decide +kernel
theorem d_X_nextOf_14 : decode b_X_nextOf 14 = .ok (.iload_n 3, 1) := by decide +kernel
theorem d_X_nextOf_15 : decode b_X_nextOf 15 = .ok (.aload_n 0, 1) := by decide +kernel
theorem d_X_nextOf_16 : decode b_X_nextOf 16 = .ok (.aload_n 0, 1) := by decide +kernel
theorem d_X_nextOf_17 : decode b_X_nextOf 17 = .ok (.getfield 45, 3) := by decide +kernel
theorem d_X_nextOf_20 : decode b_X_nextOf 20 = .ok (.iload 4, 2) := by decide +kernel
theorem d_X_nextOf_22 : decode b_X_nextOf 22 = .ok (.iaload, 1) := by decide +kernel
theorem d_X_nextOf_23 : decode b_X_nextOf 23 = .ok (.iload_n 1, 1) := by decide +kernel
theorem d_X_nextOf_24 : decode b_X_nextOf 24 = .ok (.iload_n 2, 1) := by decide +kernel
theorem d_X_nextOf_25 : decode b_X_nextOf 25 = .ok (.invokevirtual 237, 3) := by decide +kernel
theorem d_X_nextOf_28 : decode b_X_nextOf 28 = .ok (.ifCond .eq 10, 3) := by decide +kernel
theorem d_X_nextOf_31 : decode b_X_nextOf 31 = .ok (.iconst 1, 1) := by decide +kernel
theorem d_X_nextOf_32 : decode b_X_nextOf 32 = .ok (.iload 4, 2) := by decide +kernel
theorem d_X_nextOf_34 : decode b_X_nextOf 34 = .ok (.ishl, 1) := by decide +kernel
theorem d_X_nextOf_35 : decode b_X_nextOf 35 = .ok (.goto 4, 3) := by decide +kernel
theorem d_X_nextOf_38 : decode b_X_nextOf 38 = .ok (.iconst 0, 1) := by decide +kernel
theorem d_X_nextOf_39 : decode b_X_nextOf 39 = .ok (.ior, 1) := by decide +kernel
theorem d_X_nextOf_40 : decode b_X_nextOf 40 = .ok (.istore_n 3, 1) := by decide +kernel
theorem d_X_nextOf_41 : decode b_X_nextOf 41 = .ok (.iinc 4 1, 3) := by decide +kernel
theorem d_X_nextOf_44 : decode b_X_nextOf 44 = .ok (.goto (-39), 3) := by decide +kernel
theorem d_X_nextOf_47 : decode b_X_nextOf 47 = .ok (.iload_n 3, 1) := by decide +kernel
theorem d_X_nextOf_48 : decode b_X_nextOf 48 = .ok (.ireturn, 1) := by decide +kernel
abbrev y_X_alike : MethodName := ⟨"StateExplorer", "alike", "(II)Z"⟩
abbrev b_X_alike : ByteArray := prog_1_method_34_code
theorem d_X_alike_0 : decode b_X_alike 0 = .ok (.iconst 0, 1) := by decide +kernel
theorem d_X_alike_1 : decode b_X_alike 1 = .ok (.istore_n 3, 1) := by decide +kernel
theorem d_X_alike_2 : decode b_X_alike 2 = .ok (.iload_n 3, 1) := by decide +kernel
theorem d_X_alike_3 : decode b_X_alike 3 = .ok (.iconst 1, 1) := by decide +kernel
theorem d_X_alike_4 : decode b_X_alike 4 = .ok (.aload_n 0, 1) := by decide +kernel
theorem d_X_alike_5 : decode b_X_alike 5 = .ok (.getfield 86, 3) := by decide +kernel
theorem d_X_alike_8 : decode b_X_alike 8 = .ok (.ishl, 1) := by decide +kernel
theorem d_X_alike_9 : decode b_X_alike 9 = .ok (.if_icmp .ge 61, 3) := by decide +kernel
theorem d_X_alike_12 : decode b_X_alike 12 = .ok (.aload_n 0, 1) := by decide +kernel
theorem d_X_alike_13 : decode b_X_alike 13 = .ok (.iload_n 1, 1) := by decide +kernel
theorem d_X_alike_14 : decode b_X_alike 14 = .ok (.iload_n 3, 1) := by decide +kernel
theorem d_X_alike_15 : decode b_X_alike 15 = .ok (.invokevirtual 241, 3) := by decide +kernel
theorem d_X_alike_18 : decode b_X_alike 18 = .ok (.istore 4, 2) := by decide +kernel
theorem d_X_alike_20 : decode b_X_alike 20 = .ok (.iload 4, 2) := by decide +kernel
theorem d_X_alike_22 : decode b_X_alike 22 = .ok (.aload_n 0, 1) := by decide +kernel
theorem d_X_alike_23 : decode b_X_alike 23 = .ok (.iload_n 2, 1) := by decide +kernel
theorem d_X_alike_24 : decode b_X_alike 24 = .ok (.iload_n 3, 1) := by decide +kernel
theorem d_X_alike_25 : decode b_X_alike 25 = .ok (.invokevirtual 241, 3) := by decide +kernel
theorem d_X_alike_28 : decode b_X_alike 28 = .ok (.if_icmp .ne 34, 3) := by decide +kernel
theorem d_X_alike_31 : decode b_X_alike 31 = .ok (.iload 4, 2) := by decide +kernel
theorem d_X_alike_33 : decode b_X_alike 33 = .ok (.iconst (-1), 1) := by decide +kernel
theorem d_X_alike_34 : decode b_X_alike 34 = .ok (.if_icmp .eq 30, 3) := by decide +kernel
theorem d_X_alike_37 : decode b_X_alike 37 = .ok (.aload_n 0, 1) := by decide +kernel
theorem d_X_alike_38 : decode b_X_alike 38 = .ok (.getfield 51, 3) := by decide +kernel
theorem d_X_alike_41 : decode b_X_alike 41 = .ok (.aload_n 0, 1) := by decide +kernel
theorem d_X_alike_42 : decode b_X_alike 42 = .ok (.iload_n 1, 1) := by decide +kernel
theorem d_X_alike_43 : decode b_X_alike 43 = .ok (.iload_n 3, 1) := by decide +kernel
theorem d_X_alike_44 : decode b_X_alike 44 = .ok (.invokevirtual 244, 3) := by decide +kernel
theorem d_X_alike_47 : decode b_X_alike 47 = .ok (.iaload, 1) := by decide +kernel
theorem d_X_alike_48 : decode b_X_alike 48 = .ok (.aload_n 0, 1) := by decide +kernel
theorem d_X_alike_49 : decode b_X_alike 49 = .ok (.getfield 51, 3) := by decide +kernel
theorem d_X_alike_52 : decode b_X_alike 52 = .ok (.aload_n 0, 1) := by decide +kernel
theorem d_X_alike_53 : decode b_X_alike 53 = .ok (.iload_n 2, 1) := by decide +kernel
theorem d_X_alike_54 : decode b_X_alike 54 = .ok (.iload_n 3, 1) := by decide +kernel
theorem d_X_alike_55 : decode b_X_alike 55 = .ok (.invokevirtual 244, 3) := by decide +kernel
theorem d_X_alike_58 : decode b_X_alike 58 = .ok (.iaload, 1) := by decide +kernel
theorem d_X_alike_59 : decode b_X_alike 59 = .ok (.if_icmp .eq 5, 3) := by decide +kernel
theorem d_X_alike_62 : decode b_X_alike 62 = .ok (.iconst 0, 1) := by decide +kernel
theorem d_X_alike_63 : decode b_X_alike 63 = .ok (.ireturn, 1) := by decide +kernel
theorem d_X_alike_64 : decode b_X_alike 64 = .ok (.iinc 3 1, 3) := by decide +kernel
theorem d_X_alike_67 : decode b_X_alike 67 = .ok (.goto (-65), 3) := by decide +kernel
theorem d_X_alike_70 : decode b_X_alike 70 = .ok (.iconst 1, 1) := by decide +kernel
theorem d_X_alike_71 : decode b_X_alike 71 = .ok (.ireturn, 1) := by decide +kernel
abbrev y_X_gather : MethodName := ⟨"StateExplorer", "gather", "()V"⟩
abbrev b_X_gather : ByteArray := prog_1_method_35_code
theorem d_X_gather_0 : decode b_X_gather 0 = .ok (.iconst 0, 1) := by decide +kernel
theorem d_X_gather_1 : decode b_X_gather 1 = .ok (.istore_n 1, 1) := by decide +kernel
theorem d_X_gather_2 : decode b_X_gather 2 = .ok (.iconst 0, 1) := by decide +kernel
theorem d_X_gather_3 : decode b_X_gather 3 = .ok (.istore_n 2, 1) := by decide +kernel
theorem d_X_gather_4 : decode b_X_gather 4 = .ok (.iload_n 2, 1) := by decide +kernel
theorem d_X_gather_5 : decode b_X_gather 5 = .ok (.sipush 256, 3) := by decide +kernel
theorem d_X_gather_8 : decode b_X_gather 8 = .ok (.if_icmp .ge 33, 3) := by decide +kernel
theorem d_X_gather_11 : decode b_X_gather 11 = .ok (.aload_n 0, 1) := by decide +kernel
theorem d_X_gather_12 : decode b_X_gather 12 = .ok (.getfield 51, 3) := by decide +kernel
theorem d_X_gather_15 : decode b_X_gather 15 = .ok (.iload_n 2, 1) := by decide +kernel
theorem d_X_gather_16 : decode b_X_gather 16 = .ok (.aload_n 0, 1) := by decide +kernel
theorem d_X_gather_17 : decode b_X_gather 17 = .ok (.aload_n 0, 1) := by decide +kernel
theorem d_X_gather_18 : decode b_X_gather 18 = .ok (.getfield 127, 3) := by decide +kernel
theorem d_X_gather_21 : decode b_X_gather 21 = .ok (.iload_n 2, 1) := by decide +kernel
theorem d_X_gather_22 : decode b_X_gather 22 = .ok (.iconst 0, 1) := by decide +kernel
theorem d_X_gather_23 : decode b_X_gather 23 = .ok (.invokevirtual 237, 3) := by decide +kernel
theorem d_X_gather_26 : decode b_X_gather 26 = .ok (.ifCond .eq 7, 3) := by decide +kernel
theorem d_X_gather_29 : decode b_X_gather 29 = .ok (.iconst 0, 1) := by decide +kernel
theorem d_X_gather_30 : decode b_X_gather 30 = .ok (.goto 4, 3) := by decide +kernel
theorem d_X_gather_33 : decode b_X_gather 33 = .ok (.iconst (-1), 1) := by decide +kernel
theorem d_X_gather_34 : decode b_X_gather 34 = .ok (.iastore, 1) := by decide +kernel
theorem d_X_gather_35 : decode b_X_gather 35 = .ok (.iinc 2 1, 3) := by decide +kernel
theorem d_X_gather_38 : decode b_X_gather 38 = .ok (.goto (-34), 3) := by decide +kernel
theorem d_X_gather_41 : decode b_X_gather 41 = .ok (.aload_n 0, 1) := by decide +kernel
theorem d_X_gather_42 : decode b_X_gather 42 = .ok (.iconst 1, 1) := by decide +kernel
theorem d_X_gather_43 : decode b_X_gather 43 = .ok (.putfield 247, 3) := by decide +kernel
theorem d_X_gather_46 : decode b_X_gather 46 = .ok (.aload_n 0, 1) := by decide +kernel
theorem d_X_gather_47 : decode b_X_gather 47 = .ok (.getfield 247, 3) := by decide +kernel
theorem d_X_gather_50 : decode b_X_gather 50 = .ok (.iload_n 1, 1) := by decide +kernel
theorem d_X_gather_51 : decode b_X_gather 51 = .ok (.if_icmp .le 167, 3) := by decide +kernel
theorem d_X_gather_54 : decode b_X_gather 54 = .ok (.aload_n 0, 1) := by decide +kernel
theorem d_X_gather_55 : decode b_X_gather 55 = .ok (.getfield 247, 3) := by decide +kernel
theorem d_X_gather_58 : decode b_X_gather 58 = .ok (.istore_n 1, 1) := by decide +kernel
theorem d_X_gather_59 : decode b_X_gather 59 = .ok (.aload_n 0, 1) := by decide +kernel
theorem d_X_gather_60 : decode b_X_gather 60 = .ok (.iconst 0, 1) := by decide +kernel
theorem d_X_gather_61 : decode b_X_gather 61 = .ok (.putfield 247, 3) := by decide +kernel
theorem d_X_gather_64 : decode b_X_gather 64 = .ok (.iconst 0, 1) := by decide +kernel
theorem d_X_gather_65 : decode b_X_gather 65 = .ok (.istore_n 2, 1) := by decide +kernel
theorem d_X_gather_66 : decode b_X_gather 66 = .ok (.iload_n 2, 1) := by decide +kernel
theorem d_X_gather_67 : decode b_X_gather 67 = .ok (.iconst 1, 1) := by decide +kernel
theorem d_X_gather_68 : decode b_X_gather 68 = .ok (.aload_n 0, 1) := by decide +kernel
theorem d_X_gather_69 : decode b_X_gather 69 = .ok (.getfield 89, 3) := by decide +kernel
theorem d_X_gather_72 : decode b_X_gather 72 = .ok (.ishl, 1) := by decide +kernel
theorem d_X_gather_73 : decode b_X_gather 73 = .ok (.if_icmp .ge 112, 3) := by decide +kernel
theorem d_X_gather_76 : decode b_X_gather 76 = .ok (.aload_n 0, 1) := by decide +kernel
theorem d_X_gather_77 : decode b_X_gather 77 = .ok (.getfield 54, 3) := by decide +kernel
theorem d_X_gather_80 : decode b_X_gather 80 = .ok (.iload_n 2, 1) := by decide +kernel
theorem d_X_gather_81 : decode b_X_gather 81 = .ok (.aload_n 0, 1) := by decide +kernel
theorem d_X_gather_82 : decode b_X_gather 82 = .ok (.getfield 51, 3) := by decide +kernel
theorem d_X_gather_85 : decode b_X_gather 85 = .ok (.iload_n 2, 1) := by decide +kernel
theorem d_X_gather_86 : decode b_X_gather 86 = .ok (.iaload, 1) := by decide +kernel
theorem d_X_gather_87 : decode b_X_gather 87 = .ok (.iastore, 1) := by decide +kernel
theorem d_X_gather_88 : decode b_X_gather 88 = .ok (.aload_n 0, 1) := by decide +kernel
theorem d_X_gather_89 : decode b_X_gather 89 = .ok (.getfield 51, 3) := by decide +kernel
theorem d_X_gather_92 : decode b_X_gather 92 = .ok (.iload_n 2, 1) := by decide +kernel
theorem d_X_gather_93 : decode b_X_gather 93 = .ok (.iaload, 1) := by decide +kernel
theorem d_X_gather_94 : decode b_X_gather 94 = .ok (.iconst (-1), 1) := by decide +kernel
theorem d_X_gather_95 : decode b_X_gather 95 = .ok (.if_icmp .ne 6, 3) := by decide +kernel
theorem d_X_gather_98 : decode b_X_gather 98 = .ok (.goto 81, 3) := by decide +kernel
theorem d_X_gather_101 : decode b_X_gather 101 = .ok (.aload_n 0, 1) := by decide +kernel
theorem d_X_gather_102 : decode b_X_gather 102 = .ok (.getfield 51, 3) := by decide +kernel
theorem d_X_gather_105 : decode b_X_gather 105 = .ok (.iload_n 2, 1) := by decide +kernel
theorem d_X_gather_106 : decode b_X_gather 106 = .ok (.iaload, 1) := by decide +kernel
theorem d_X_gather_107 : decode b_X_gather 107 = .ok (.istore_n 3, 1) := by decide +kernel
theorem d_X_gather_108 : decode b_X_gather 108 = .ok (.iload_n 3, 1) := by decide +kernel
theorem d_X_gather_109 : decode b_X_gather 109 = .ok (.iload_n 2, 1) := by decide +kernel
theorem d_X_gather_110 : decode b_X_gather 110 = .ok (.if_icmp .ge 43, 3) := by decide +kernel
theorem d_X_gather_113 : decode b_X_gather 113 = .ok (.aload_n 0, 1) := by decide +kernel
theorem d_X_gather_114 : decode b_X_gather 114 = .ok (.getfield 51, 3) := by decide +kernel
theorem d_X_gather_117 : decode b_X_gather 117 = .ok (.iload_n 3, 1) := by decide +kernel
theorem d_X_gather_118 : decode b_X_gather 118 = .ok (.iaload, 1) := by decide +kernel
theorem d_X_gather_119 : decode b_X_gather 119 = .ok (.aload_n 0, 1) := by decide +kernel
theorem d_X_gather_120 : decode b_X_gather 120 = .ok (.getfield 51, 3) := by decide +kernel
theorem d_X_gather_123 : decode b_X_gather 123 = .ok (.iload_n 2, 1) := by decide +kernel
theorem d_X_gather_124 : decode b_X_gather 124 = .ok (.iaload, 1) := by decide +kernel
theorem d_X_gather_125 : decode b_X_gather 125 = .ok (.if_icmp .ne 22, 3) := by decide +kernel
theorem d_X_gather_128 : decode b_X_gather 128 = .ok (.aload_n 0, 1) := by decide +kernel
theorem d_X_gather_129 : decode b_X_gather 129 = .ok (.getfield 54, 3) := by decide +kernel
theorem d_X_gather_132 : decode b_X_gather 132 = .ok (.iload_n 3, 1) := by decide +kernel
theorem d_X_gather_133 : decode b_X_gather 133 = .ok (.iaload, 1) := by decide +kernel
theorem d_X_gather_134 : decode b_X_gather 134 = .ok (.iload_n 3, 1) := by decide +kernel
theorem d_X_gather_135 : decode b_X_gather 135 = .ok (.if_icmp .ne 12, 3) := by decide +kernel
theorem d_X_gather_138 : decode b_X_gather 138 = .ok (.aload_n 0, 1) := by decide +kernel
theorem d_X_gather_139 : decode b_X_gather 139 = .ok (.iload_n 3, 1) := by decide +kernel
theorem d_X_gather_140 : decode b_X_gather 140 = .ok (.iload_n 2, 1) := by decide +kernel
theorem d_X_gather_141 : decode b_X_gather 141 = .ok (.invokevirtual 250, 3) := by decide +kernel
theorem d_X_gather_144 : decode b_X_gather 144 = .ok (.ifCond .ne 9, 3) := by decide +kernel
theorem d_X_gather_147 : decode b_X_gather 147 = .ok (.iinc 3 1, 3) := by decide +kernel
theorem d_X_gather_150 : decode b_X_gather 150 = .ok (.goto (-42), 3) := by decide +kernel
theorem d_X_gather_153 : decode b_X_gather 153 = .ok (.aload_n 0, 1) := by decide +kernel
theorem d_X_gather_154 : decode b_X_gather 154 = .ok (.getfield 54, 3) := by decide +kernel
theorem d_X_gather_157 : decode b_X_gather 157 = .ok (.iload_n 2, 1) := by decide +kernel
theorem d_X_gather_158 : decode b_X_gather 158 = .ok (.iload_n 3, 1) := by decide +kernel
theorem d_X_gather_159 : decode b_X_gather 159 = .ok (.iastore, 1) := by decide +kernel
theorem d_X_gather_160 : decode b_X_gather 160 = .ok (.aload_n 0, 1) := by decide +kernel
theorem d_X_gather_161 : decode b_X_gather 161 = .ok (.dup, 1) := by decide +kernel
theorem d_X_gather_162 : decode b_X_gather 162 = .ok (.getfield 247, 3) := by decide +kernel
theorem d_X_gather_165 : decode b_X_gather 165 = .ok (.iload_n 3, 1) := by decide +kernel
theorem d_X_gather_166 : decode b_X_gather 166 = .ok (.iload_n 2, 1) := by decide +kernel
theorem d_X_gather_167 : decode b_X_gather 167 = .ok (.if_icmp .ne 7, 3) := by decide +kernel
theorem d_X_gather_170 : decode b_X_gather 170 = .ok (.iconst 1, 1) := by decide +kernel
theorem d_X_gather_171 : decode b_X_gather 171 = .ok (.goto 4, 3) := by decide +kernel
theorem d_X_gather_174 : decode b_X_gather 174 = .ok (.iconst 0, 1) := by decide +kernel
theorem d_X_gather_175 : decode b_X_gather 175 = .ok (.iadd, 1) := by decide +kernel
theorem d_X_gather_176 : decode b_X_gather 176 = .ok (.putfield 247, 3) := by decide +kernel
theorem d_X_gather_179 : decode b_X_gather 179 = .ok (.iinc 2 1, 3) := by decide +kernel
theorem d_X_gather_182 : decode b_X_gather 182 = .ok (.goto (-116), 3) := by decide +kernel
theorem d_X_gather_185 : decode b_X_gather 185 = .ok (.iconst 0, 1) := by decide +kernel
theorem d_X_gather_186 : decode b_X_gather 186 = .ok (.istore_n 2, 1) := by decide +kernel
theorem d_X_gather_187 : decode b_X_gather 187 = .ok (.iload_n 2, 1) := by decide +kernel
theorem d_X_gather_188 : decode b_X_gather 188 = .ok (.iconst 1, 1) := by decide +kernel
theorem d_X_gather_189 : decode b_X_gather 189 = .ok (.aload_n 0, 1) := by decide +kernel
theorem d_X_gather_190 : decode b_X_gather 190 = .ok (.getfield 89, 3) := by decide +kernel
theorem d_X_gather_193 : decode b_X_gather 193 = .ok (.ishl, 1) := by decide +kernel
theorem d_X_gather_194 : decode b_X_gather 194 = .ok (.if_icmp .ge 21, 3) := by decide +kernel
theorem d_X_gather_197 : decode b_X_gather 197 = .ok (.aload_n 0, 1) := by decide +kernel
theorem d_X_gather_198 : decode b_X_gather 198 = .ok (.getfield 51, 3) := by decide +kernel
theorem d_X_gather_201 : decode b_X_gather 201 = .ok (.iload_n 2, 1) := by decide +kernel
theorem d_X_gather_202 : decode b_X_gather 202 = .ok (.aload_n 0, 1) := by decide +kernel
theorem d_X_gather_203 : decode b_X_gather 203 = .ok (.getfield 54, 3) := by decide +kernel
theorem d_X_gather_206 : decode b_X_gather 206 = .ok (.iload_n 2, 1) := by decide +kernel
theorem d_X_gather_207 : decode b_X_gather 207 = .ok (.iaload, 1) := by decide +kernel
theorem d_X_gather_208 : decode b_X_gather 208 = .ok (.iastore, 1) := by decide +kernel
theorem d_X_gather_209 : decode b_X_gather 209 = .ok (.iinc 2 1, 3) := by decide +kernel
theorem d_X_gather_212 : decode b_X_gather 212 = .ok (.goto (-25), 3) := by decide +kernel
theorem d_X_gather_215 : decode b_X_gather 215 = .ok (.goto (-169), 3) := by decide +kernel
theorem d_X_gather_218 : decode b_X_gather 218 = .ok (.return_, 1) := by decide +kernel
abbrev y_X_explore : MethodName := ⟨"StateExplorer", "explore", "()I"⟩
abbrev b_X_explore : ByteArray := prog_1_method_31_code
theorem d_X_explore_0 : decode b_X_explore 0 = .ok (.iconst 0, 1) := by decide +kernel
theorem d_X_explore_1 : decode b_X_explore 1 = .ok (.istore_n 1, 1) := by decide +kernel
theorem d_X_explore_2 : decode b_X_explore 2 = .ok (.iload_n 1, 1) := by decide +kernel
theorem d_X_explore_3 : decode b_X_explore 3 = .ok (.sipush 256, 3) := by decide +kernel
theorem d_X_explore_6 : decode b_X_explore 6 = .ok (.if_icmp .ge 23, 3) := by decide +kernel
theorem d_X_explore_9 : decode b_X_explore 9 = .ok (.aload_n 0, 1) := by decide +kernel
theorem d_X_explore_10 : decode b_X_explore 10 = .ok (.getfield 48, 3) := by decide +kernel
theorem d_X_explore_13 : decode b_X_explore 13 = .ok (.iload_n 1, 1) := by decide +kernel
theorem d_X_explore_14 : decode b_X_explore 14 = .ok (.iconst 0, 1) := by decide +kernel
theorem d_X_explore_15 : decode b_X_explore 15 = .ok (.iastore, 1) := by decide +kernel
theorem d_X_explore_16 : decode b_X_explore 16 = .ok (.aload_n 0, 1) := by decide +kernel
theorem d_X_explore_17 : decode b_X_explore 17 = .ok (.getfield 69, 3) := by decide +kernel
theorem d_X_explore_20 : decode b_X_explore 20 = .ok (.iload_n 1, 1) := by decide +kernel
theorem d_X_explore_21 : decode b_X_explore 21 = .ok (.iconst 0, 1) := by decide +kernel
theorem d_X_explore_22 : decode b_X_explore 22 = .ok (.iastore, 1) := by decide +kernel
theorem d_X_explore_23 : decode b_X_explore 23 = .ok (.iinc 1 1, 3) := by decide +kernel
theorem d_X_explore_26 : decode b_X_explore 26 = .ok (.goto (-24), 3) := by decide +kernel
theorem d_X_explore_29 : decode b_X_explore 29 = .ok (.aload_n 0, 1) := by decide +kernel
theorem d_X_explore_30 : decode b_X_explore 30 = .ok (.iconst 0, 1) := by decide +kernel
theorem d_X_explore_31 : decode b_X_explore 31 = .ok (.putfield 127, 3) := by decide +kernel
theorem d_X_explore_34 : decode b_X_explore 34 = .ok (.aload_n 0, 1) := by decide +kernel
theorem d_X_explore_35 : decode b_X_explore 35 = .ok (.iconst 0, 1) := by decide +kernel
theorem d_X_explore_36 : decode b_X_explore 36 = .ok (.putfield 124, 3) := by decide +kernel
theorem d_X_explore_39 : decode b_X_explore 39 = .ok (.aload_n 0, 1) := by decide +kernel
theorem d_X_explore_40 : decode b_X_explore 40 = .ok (.iconst (-1), 1) := by decide +kernel
theorem d_X_explore_41 : decode b_X_explore 41 = .ok (.putfield 214, 3) := by decide +kernel
theorem d_X_explore_44 : decode b_X_explore 44 = .ok (.aload_n 0, 1) := by decide +kernel
theorem d_X_explore_45 : decode b_X_explore 45 = .ok (.invokevirtual 217, 3) := by decide +kernel
theorem d_X_explore_48 : decode b_X_explore 48 = .ok (.aload_n 0, 1) := by decide +kernel
theorem d_X_explore_49 : decode b_X_explore 49 = .ok (.invokevirtual 219, 3) := by decide +kernel
theorem d_X_explore_52 : decode b_X_explore 52 = .ok (.aload_n 0, 1) := by decide +kernel
theorem d_X_explore_53 : decode b_X_explore 53 = .ok (.getfield 10, 3) := by decide +kernel
theorem d_X_explore_56 : decode b_X_explore 56 = .ok (.invokevirtual 222, 3) := by decide +kernel
theorem d_X_explore_59 : decode b_X_explore 59 = .ok (.aload_n 0, 1) := by decide +kernel
theorem d_X_explore_60 : decode b_X_explore 60 = .ok (.iconst 0, 1) := by decide +kernel
theorem d_X_explore_61 : decode b_X_explore 61 = .ok (.putfield 225, 3) := by decide +kernel
theorem d_X_explore_64 : decode b_X_explore 64 = .ok (.aload_n 0, 1) := by decide +kernel
theorem d_X_explore_65 : decode b_X_explore 65 = .ok (.getfield 48, 3) := by decide +kernel
theorem d_X_explore_68 : decode b_X_explore 68 = .ok (.iconst 0, 1) := by decide +kernel
theorem d_X_explore_69 : decode b_X_explore 69 = .ok (.aload_n 0, 1) := by decide +kernel
theorem d_X_explore_70 : decode b_X_explore 70 = .ok (.iconst 0, 1) := by decide +kernel
theorem d_X_explore_71 : decode b_X_explore 71 = .ok (.invokevirtual 228, 3) := by decide +kernel
theorem d_X_explore_74 : decode b_X_explore 74 = .ok (.iastore, 1) := by decide +kernel
theorem d_X_explore_75 : decode b_X_explore 75 = .ok (.aload_n 0, 1) := by decide +kernel
theorem d_X_explore_76 : decode b_X_explore 76 = .ok (.aload_n 0, 1) := by decide +kernel
theorem d_X_explore_77 : decode b_X_explore 77 = .ok (.getfield 48, 3) := by decide +kernel
theorem d_X_explore_80 : decode b_X_explore 80 = .ok (.iconst 0, 1) := by decide +kernel
theorem d_X_explore_81 : decode b_X_explore 81 = .ok (.iaload, 1) := by decide +kernel
theorem d_X_explore_82 : decode b_X_explore 82 = .ok (.putfield 127, 3) := by decide +kernel
theorem d_X_explore_85 : decode b_X_explore 85 = .ok (.iconst 1, 1) := by decide +kernel
theorem d_X_explore_86 : decode b_X_explore 86 = .ok (.istore_n 1, 1) := by decide +kernel
theorem d_X_explore_87 : decode b_X_explore 87 = .ok (.iload_n 1, 1) := by decide +kernel
theorem d_X_explore_88 : decode b_X_explore 88 = .ok (.ifCond .eq 149, 3) := by decide +kernel
theorem d_X_explore_91 : decode b_X_explore 91 = .ok (.aload_n 0, 1) := by decide +kernel
theorem d_X_explore_92 : decode b_X_explore 92 = .ok (.getfield 57, 3) := by decide +kernel
theorem d_X_explore_95 : decode b_X_explore 95 = .ok (.iconst 0, 1) := by decide +kernel
theorem d_X_explore_96 : decode b_X_explore 96 = .ok (.aload_n 0, 1) := by decide +kernel
theorem d_X_explore_97 : decode b_X_explore 97 = .ok (.aload_n 0, 1) := by decide +kernel
theorem d_X_explore_98 : decode b_X_explore 98 = .ok (.getfield 48, 3) := by decide +kernel
theorem d_X_explore_101 : decode b_X_explore 101 = .ok (.aload_n 0, 1) := by decide +kernel
theorem d_X_explore_102 : decode b_X_explore 102 = .ok (.getfield 225, 3) := by decide +kernel
theorem d_X_explore_105 : decode b_X_explore 105 = .ok (.iaload, 1) := by decide +kernel
theorem d_X_explore_106 : decode b_X_explore 106 = .ok (.aload_n 0, 1) := by decide +kernel
theorem d_X_explore_107 : decode b_X_explore 107 = .ok (.getfield 124, 3) := by decide +kernel
theorem d_X_explore_110 : decode b_X_explore 110 = .ok (.invokevirtual 211, 3) := by decide +kernel
theorem d_X_explore_113 : decode b_X_explore 113 = .ok (.iastore, 1) := by decide +kernel
theorem d_X_explore_114 : decode b_X_explore 114 = .ok (.aload_n 0, 1) := by decide +kernel
theorem d_X_explore_115 : decode b_X_explore 115 = .ok (.invokevirtual 165, 3) := by decide +kernel
theorem d_X_explore_118 : decode b_X_explore 118 = .ok (.aload_n 0, 1) := by decide +kernel
theorem d_X_explore_119 : decode b_X_explore 119 = .ok (.getfield 57, 3) := by decide +kernel
theorem d_X_explore_122 : decode b_X_explore 122 = .ok (.iconst 0, 1) := by decide +kernel
theorem d_X_explore_123 : decode b_X_explore 123 = .ok (.aload_n 0, 1) := by decide +kernel
theorem d_X_explore_124 : decode b_X_explore 124 = .ok (.aload_n 0, 1) := by decide +kernel
theorem d_X_explore_125 : decode b_X_explore 125 = .ok (.getfield 57, 3) := by decide +kernel
theorem d_X_explore_128 : decode b_X_explore 128 = .ok (.iconst 0, 1) := by decide +kernel
theorem d_X_explore_129 : decode b_X_explore 129 = .ok (.iaload, 1) := by decide +kernel
theorem d_X_explore_130 : decode b_X_explore 130 = .ok (.bipush 7, 2) := by decide +kernel
theorem d_X_explore_132 : decode b_X_explore 132 = .ok (.invokevirtual 184, 3) := by decide +kernel
theorem d_X_explore_135 : decode b_X_explore 135 = .ok (.iastore, 1) := by decide +kernel
theorem d_X_explore_136 : decode b_X_explore 136 = .ok (.aload_n 0, 1) := by decide +kernel
theorem d_X_explore_137 : decode b_X_explore 137 = .ok (.getfield 57, 3) := by decide +kernel
theorem d_X_explore_140 : decode b_X_explore 140 = .ok (.iconst 1, 1) := by decide +kernel
theorem d_X_explore_141 : decode b_X_explore 141 = .ok (.aload_n 0, 1) := by decide +kernel
theorem d_X_explore_142 : decode b_X_explore 142 = .ok (.aload_n 0, 1) := by decide +kernel
theorem d_X_explore_143 : decode b_X_explore 143 = .ok (.getfield 127, 3) := by decide +kernel
theorem d_X_explore_146 : decode b_X_explore 146 = .ok (.invokevirtual 201, 3) := by decide +kernel
theorem d_X_explore_149 : decode b_X_explore 149 = .ok (.iastore, 1) := by decide +kernel
theorem d_X_explore_150 : decode b_X_explore 150 = .ok (.aload_n 0, 1) := by decide +kernel
theorem d_X_explore_151 : decode b_X_explore 151 = .ok (.getfield 57, 3) := by decide +kernel
theorem d_X_explore_154 : decode b_X_explore 154 = .ok (.iconst 0, 1) := by decide +kernel
theorem d_X_explore_155 : decode b_X_explore 155 = .ok (.aload_n 0, 1) := by decide +kernel
theorem d_X_explore_156 : decode b_X_explore 156 = .ok (.aload_n 0, 1) := by decide +kernel
theorem d_X_explore_157 : decode b_X_explore 157 = .ok (.getfield 57, 3) := by decide +kernel
theorem d_X_explore_160 : decode b_X_explore 160 = .ok (.iconst 0, 1) := by decide +kernel
theorem d_X_explore_161 : decode b_X_explore 161 = .ok (.iaload, 1) := by decide +kernel
theorem d_X_explore_162 : decode b_X_explore 162 = .ok (.aload_n 0, 1) := by decide +kernel
theorem d_X_explore_163 : decode b_X_explore 163 = .ok (.getfield 57, 3) := by decide +kernel
theorem d_X_explore_166 : decode b_X_explore 166 = .ok (.iconst 1, 1) := by decide +kernel
theorem d_X_explore_167 : decode b_X_explore 167 = .ok (.iaload, 1) := by decide +kernel
theorem d_X_explore_168 : decode b_X_explore 168 = .ok (.invokevirtual 211, 3) := by decide +kernel
theorem d_X_explore_171 : decode b_X_explore 171 = .ok (.iastore, 1) := by decide +kernel
theorem d_X_explore_172 : decode b_X_explore 172 = .ok (.aload_n 0, 1) := by decide +kernel
theorem d_X_explore_173 : decode b_X_explore 173 = .ok (.getfield 57, 3) := by decide +kernel
theorem d_X_explore_176 : decode b_X_explore 176 = .ok (.iconst 0, 1) := by decide +kernel
theorem d_X_explore_177 : decode b_X_explore 177 = .ok (.iaload, 1) := by decide +kernel
theorem d_X_explore_178 : decode b_X_explore 178 = .ok (.ifCond .eq 7, 3) := by decide +kernel
theorem d_X_explore_181 : decode b_X_explore 181 = .ok (.iconst 1, 1) := by decide +kernel
theorem d_X_explore_182 : decode b_X_explore 182 = .ok (.goto 4, 3) := by decide +kernel
theorem d_X_explore_185 : decode b_X_explore 185 = .ok (.iconst 0, 1) := by decide +kernel
theorem d_X_explore_186 : decode b_X_explore 186 = .ok (.istore_n 1, 1) := by decide +kernel
theorem d_X_explore_187 : decode b_X_explore 187 = .ok (.iload_n 1, 1) := by decide +kernel
theorem d_X_explore_188 : decode b_X_explore 188 = .ok (.ifCond .eq (-101), 3) := by decide +kernel
theorem d_X_explore_191 : decode b_X_explore 191 = .ok (.aload_n 0, 1) := by decide +kernel
theorem d_X_explore_192 : decode b_X_explore 192 = .ok (.dup, 1) := by decide +kernel
theorem d_X_explore_193 : decode b_X_explore 193 = .ok (.getfield 225, 3) := by decide +kernel
theorem d_X_explore_196 : decode b_X_explore 196 = .ok (.iconst 1, 1) := by decide +kernel
theorem d_X_explore_197 : decode b_X_explore 197 = .ok (.iadd, 1) := by decide +kernel
theorem d_X_explore_198 : decode b_X_explore 198 = .ok (.putfield 225, 3) := by decide +kernel
theorem d_X_explore_201 : decode b_X_explore 201 = .ok (.aload_n 0, 1) := by decide +kernel
theorem d_X_explore_202 : decode b_X_explore 202 = .ok (.getfield 48, 3) := by decide +kernel
theorem d_X_explore_205 : decode b_X_explore 205 = .ok (.aload_n 0, 1) := by decide +kernel
theorem d_X_explore_206 : decode b_X_explore 206 = .ok (.getfield 225, 3) := by decide +kernel
theorem d_X_explore_209 : decode b_X_explore 209 = .ok (.aload_n 0, 1) := by decide +kernel
theorem d_X_explore_210 : decode b_X_explore 210 = .ok (.getfield 57, 3) := by decide +kernel
theorem d_X_explore_213 : decode b_X_explore 213 = .ok (.iconst 0, 1) := by decide +kernel
theorem d_X_explore_214 : decode b_X_explore 214 = .ok (.iaload, 1) := by decide +kernel
theorem d_X_explore_215 : decode b_X_explore 215 = .ok (.iastore, 1) := by decide +kernel
theorem d_X_explore_216 : decode b_X_explore 216 = .ok (.aload_n 0, 1) := by decide +kernel
theorem d_X_explore_217 : decode b_X_explore 217 = .ok (.aload_n 0, 1) := by decide +kernel
theorem d_X_explore_218 : decode b_X_explore 218 = .ok (.aload_n 0, 1) := by decide +kernel
theorem d_X_explore_219 : decode b_X_explore 219 = .ok (.getfield 127, 3) := by decide +kernel
theorem d_X_explore_222 : decode b_X_explore 222 = .ok (.aload_n 0, 1) := by decide +kernel
theorem d_X_explore_223 : decode b_X_explore 223 = .ok (.getfield 57, 3) := by decide +kernel
theorem d_X_explore_226 : decode b_X_explore 226 = .ok (.iconst 0, 1) := by decide +kernel
theorem d_X_explore_227 : decode b_X_explore 227 = .ok (.iaload, 1) := by decide +kernel
theorem d_X_explore_228 : decode b_X_explore 228 = .ok (.invokevirtual 208, 3) := by decide +kernel
theorem d_X_explore_231 : decode b_X_explore 231 = .ok (.putfield 127, 3) := by decide +kernel
theorem d_X_explore_234 : decode b_X_explore 234 = .ok (.goto (-147), 3) := by decide +kernel
theorem d_X_explore_237 : decode b_X_explore 237 = .ok (.aload_n 0, 1) := by decide +kernel
theorem d_X_explore_238 : decode b_X_explore 238 = .ok (.iconst 1, 1) := by decide +kernel
theorem d_X_explore_239 : decode b_X_explore 239 = .ok (.putfield 92, 3) := by decide +kernel
theorem d_X_explore_242 : decode b_X_explore 242 = .ok (.aload_n 0, 1) := by decide +kernel
theorem d_X_explore_243 : decode b_X_explore 243 = .ok (.invokevirtual 231, 3) := by decide +kernel
theorem d_X_explore_246 : decode b_X_explore 246 = .ok (.aload_n 0, 1) := by decide +kernel
theorem d_X_explore_247 : decode b_X_explore 247 = .ok (.aload_n 0, 1) := by decide +kernel
theorem d_X_explore_248 : decode b_X_explore 248 = .ok (.getfield 127, 3) := by decide +kernel
theorem d_X_explore_251 : decode b_X_explore 251 = .ok (.invokevirtual 234, 3) := by decide +kernel
theorem d_X_explore_254 : decode b_X_explore 254 = .ok (.ireturn, 1) := by decide +kernel
abbrev y_X_needsExplored : MethodName := ⟨"StateExplorer", "needsExplored", "()V"⟩
abbrev b_X_needsExplored : ByteArray := prog_1_method_36_code
theorem d_X_needsExplored_0 : decode b_X_needsExplored 0 = .ok (.aload_n 0, 1) := by decide +kernel
theorem d_X_needsExplored_1 : decode b_X_needsExplored 1 = .ok (.getfield 92, 3) := by decide +kernel
theorem d_X_needsExplored_4 : decode b_X_needsExplored 4 = .ok (.ifCond .ne 11, 3) := by decide +kernel
theorem d_X_needsExplored_7 : decode b_X_needsExplored 7 = .ok (.new 106, 3) := by decide +kernel
theorem d_X_needsExplored_10 : decode b_X_needsExplored 10 = .ok (.dup, 1) := by decide +kernel
theorem d_X_needsExplored_11 : decode b_X_needsExplored 11 = .ok (.invokespecial 108, 3) := by decide +kernel
theorem d_X_needsExplored_14 : decode b_X_needsExplored 14 = .ok (.athrow, 1) := by decide +kernel
theorem d_X_needsExplored_15 : decode b_X_needsExplored 15 = .ok (.return_, 1) := by decide +kernel
abbrev y_X_needsState : MethodName := ⟨"StateExplorer", "needsState", "(I)V"⟩
abbrev b_X_needsState : ByteArray := prog_1_method_37_code
theorem d_X_needsState_0 : decode b_X_needsState 0 = .ok (.aload_n 0, 1) := by decide +kernel
theorem d_X_needsState_1 : decode b_X_needsState 1 = .ok (.invokevirtual 253, 3) := by decide +kernel
theorem d_X_needsState_4 : decode b_X_needsState 4 = .ok (.iload_n 1, 1) := by decide +kernel
theorem d_X_needsState_5 : decode b_X_needsState 5 = .ok (.ifCond .lt 17, 3) := by decide +kernel
theorem d_X_needsState_8 : decode b_X_needsState 8 = .ok (.iload_n 1, 1) := by decide +kernel
theorem d_X_needsState_9 : decode b_X_needsState 9 = .ok (.iconst 1, 1) := by decide +kernel
theorem d_X_needsState_10 : decode b_X_needsState 10 = .ok (.aload_n 0, 1) := by decide +kernel
theorem d_X_needsState_11 : decode b_X_needsState 11 = .ok (.getfield 89, 3) := by decide +kernel
theorem d_X_needsState_14 : decode b_X_needsState 14 = .ok (.ishl, 1) := by decide +kernel
theorem d_X_needsState_15 : decode b_X_needsState 15 = .ok (.if_icmp .ge 7, 3) := by decide +kernel
theorem d_X_needsState_18 : decode b_X_needsState 18 = .ok (.iconst 1, 1) := by decide +kernel
theorem d_X_needsState_19 : decode b_X_needsState 19 = .ok (.goto 4, 3) := by decide +kernel
theorem d_X_needsState_22 : decode b_X_needsState 22 = .ok (.iconst 0, 1) := by decide +kernel
theorem d_X_needsState_23 : decode b_X_needsState 23 = .ok (.invokestatic 79, 3) := by decide +kernel
theorem d_X_needsState_26 : decode b_X_needsState 26 = .ok (.return_, 1) := by decide +kernel
abbrev y_X_distance : MethodName := ⟨"StateExplorer", "distance", "(I)I"⟩
abbrev b_X_distance : ByteArray := prog_1_method_38_code
theorem d_X_distance_0 : decode b_X_distance 0 = .ok (.aload_n 0, 1) := by decide +kernel
theorem d_X_distance_1 : decode b_X_distance 1 = .ok (.iload_n 1, 1) := by decide +kernel
theorem d_X_distance_2 : decode b_X_distance 2 = .ok (.invokevirtual 256, 3) := by decide +kernel
theorem d_X_distance_5 : decode b_X_distance 5 = .ok (.iconst 0, 1) := by decide +kernel
theorem d_X_distance_6 : decode b_X_distance 6 = .ok (.istore_n 2, 1) := by decide +kernel
theorem d_X_distance_7 : decode b_X_distance 7 = .ok (.iload_n 2, 1) := by decide +kernel
theorem d_X_distance_8 : decode b_X_distance 8 = .ok (.aload_n 0, 1) := by decide +kernel
theorem d_X_distance_9 : decode b_X_distance 9 = .ok (.getfield 225, 3) := by decide +kernel
theorem d_X_distance_12 : decode b_X_distance 12 = .ok (.if_icmp .gt 24, 3) := by decide +kernel
theorem d_X_distance_15 : decode b_X_distance 15 = .ok (.aload_n 0, 1) := by decide +kernel
theorem d_X_distance_16 : decode b_X_distance 16 = .ok (.aload_n 0, 1) := by decide +kernel
theorem d_X_distance_17 : decode b_X_distance 17 = .ok (.getfield 48, 3) := by decide +kernel
theorem d_X_distance_20 : decode b_X_distance 20 = .ok (.iload_n 2, 1) := by decide +kernel
theorem d_X_distance_21 : decode b_X_distance 21 = .ok (.iaload, 1) := by decide +kernel
theorem d_X_distance_22 : decode b_X_distance 22 = .ok (.iload_n 1, 1) := by decide +kernel
theorem d_X_distance_23 : decode b_X_distance 23 = .ok (.iconst 0, 1) := by decide +kernel
theorem d_X_distance_24 : decode b_X_distance 24 = .ok (.invokevirtual 237, 3) := by decide +kernel
theorem d_X_distance_27 : decode b_X_distance 27 = .ok (.ifCond .ne 9, 3) := by decide +kernel
theorem d_X_distance_30 : decode b_X_distance 30 = .ok (.iinc 2 1, 3) := by decide +kernel
theorem d_X_distance_33 : decode b_X_distance 33 = .ok (.goto (-26), 3) := by decide +kernel
theorem d_X_distance_36 : decode b_X_distance 36 = .ok (.iload_n 2, 1) := by decide +kernel
theorem d_X_distance_37 : decode b_X_distance 37 = .ok (.aload_n 0, 1) := by decide +kernel
theorem d_X_distance_38 : decode b_X_distance 38 = .ok (.getfield 225, 3) := by decide +kernel
theorem d_X_distance_41 : decode b_X_distance 41 = .ok (.if_icmp .le 7, 3) := by decide +kernel
theorem d_X_distance_44 : decode b_X_distance 44 = .ok (.iconst (-1), 1) := by decide +kernel
theorem d_X_distance_45 : decode b_X_distance 45 = .ok (.goto 4, 3) := by decide +kernel
theorem d_X_distance_48 : decode b_X_distance 48 = .ok (.iload_n 2, 1) := by decide +kernel
theorem d_X_distance_49 : decode b_X_distance 49 = .ok (.ireturn, 1) := by decide +kernel
abbrev y_X_find : MethodName := ⟨"StateExplorer", "find", "(II)V"⟩
abbrev b_X_find : ByteArray := prog_1_method_39_code
theorem d_X_find_0 : decode b_X_find 0 = .ok (.aload_n 0, 1) := by decide +kernel
theorem d_X_find_1 : decode b_X_find 1 = .ok (.getfield 69, 3) := by decide +kernel
theorem d_X_find_4 : decode b_X_find 4 = .ok (.iload_n 2, 1) := by decide +kernel
theorem d_X_find_5 : decode b_X_find 5 = .ok (.aload_n 0, 1) := by decide +kernel
theorem d_X_find_6 : decode b_X_find 6 = .ok (.iload_n 1, 1) := by decide +kernel
theorem d_X_find_7 : decode b_X_find 7 = .ok (.invokevirtual 228, 3) := by decide +kernel
theorem d_X_find_10 : decode b_X_find 10 = .ok (.iastore, 1) := by decide +kernel
theorem d_X_find_11 : decode b_X_find 11 = .ok (.iload_n 2, 1) := by decide +kernel
theorem d_X_find_12 : decode b_X_find 12 = .ok (.iconst 1, 1) := by decide +kernel
theorem d_X_find_13 : decode b_X_find 13 = .ok (.isub, 1) := by decide +kernel
theorem d_X_find_14 : decode b_X_find 14 = .ok (.istore_n 3, 1) := by decide +kernel
theorem d_X_find_15 : decode b_X_find 15 = .ok (.iload_n 3, 1) := by decide +kernel
theorem d_X_find_16 : decode b_X_find 16 = .ok (.ifCond .lt 103, 3) := by decide +kernel
theorem d_X_find_19 : decode b_X_find 19 = .ok (.aload_n 0, 1) := by decide +kernel
theorem d_X_find_20 : decode b_X_find 20 = .ok (.invokevirtual 165, 3) := by decide +kernel
theorem d_X_find_23 : decode b_X_find 23 = .ok (.aload_n 0, 1) := by decide +kernel
theorem d_X_find_24 : decode b_X_find 24 = .ok (.getfield 57, 3) := by decide +kernel
theorem d_X_find_27 : decode b_X_find 27 = .ok (.iconst 0, 1) := by decide +kernel
theorem d_X_find_28 : decode b_X_find 28 = .ok (.aload_n 0, 1) := by decide +kernel
theorem d_X_find_29 : decode b_X_find 29 = .ok (.getfield 10, 3) := by decide +kernel
theorem d_X_find_32 : decode b_X_find 32 = .ok (.aload_n 0, 1) := by decide +kernel
theorem d_X_find_33 : decode b_X_find 33 = .ok (.getfield 69, 3) := by decide +kernel
theorem d_X_find_36 : decode b_X_find 36 = .ok (.iload_n 3, 1) := by decide +kernel
theorem d_X_find_37 : decode b_X_find 37 = .ok (.iconst 1, 1) := by decide +kernel
theorem d_X_find_38 : decode b_X_find 38 = .ok (.iadd, 1) := by decide +kernel
theorem d_X_find_39 : decode b_X_find 39 = .ok (.iaload, 1) := by decide +kernel
theorem d_X_find_40 : decode b_X_find 40 = .ok (.aload_n 0, 1) := by decide +kernel
theorem d_X_find_41 : decode b_X_find 41 = .ok (.getfield 45, 3) := by decide +kernel
theorem d_X_find_44 : decode b_X_find 44 = .ok (.invokestatic 180, 3) := by decide +kernel
theorem d_X_find_47 : decode b_X_find 47 = .ok (.iastore, 1) := by decide +kernel
theorem d_X_find_48 : decode b_X_find 48 = .ok (.aload_n 0, 1) := by decide +kernel
theorem d_X_find_49 : decode b_X_find 49 = .ok (.getfield 57, 3) := by decide +kernel
theorem d_X_find_52 : decode b_X_find 52 = .ok (.iconst 0, 1) := by decide +kernel
theorem d_X_find_53 : decode b_X_find 53 = .ok (.aload_n 0, 1) := by decide +kernel
theorem d_X_find_54 : decode b_X_find 54 = .ok (.aload_n 0, 1) := by decide +kernel
theorem d_X_find_55 : decode b_X_find 55 = .ok (.getfield 57, 3) := by decide +kernel
theorem d_X_find_58 : decode b_X_find 58 = .ok (.iconst 0, 1) := by decide +kernel
theorem d_X_find_59 : decode b_X_find 59 = .ok (.iaload, 1) := by decide +kernel
theorem d_X_find_60 : decode b_X_find 60 = .ok (.aload_n 0, 1) := by decide +kernel
theorem d_X_find_61 : decode b_X_find 61 = .ok (.getfield 124, 3) := by decide +kernel
theorem d_X_find_64 : decode b_X_find 64 = .ok (.invokevirtual 211, 3) := by decide +kernel
theorem d_X_find_67 : decode b_X_find 67 = .ok (.iastore, 1) := by decide +kernel
theorem d_X_find_68 : decode b_X_find 68 = .ok (.aload_n 0, 1) := by decide +kernel
theorem d_X_find_69 : decode b_X_find 69 = .ok (.invokevirtual 165, 3) := by decide +kernel
theorem d_X_find_72 : decode b_X_find 72 = .ok (.aload_n 0, 1) := by decide +kernel
theorem d_X_find_73 : decode b_X_find 73 = .ok (.getfield 57, 3) := by decide +kernel
theorem d_X_find_76 : decode b_X_find 76 = .ok (.iconst 0, 1) := by decide +kernel
theorem d_X_find_77 : decode b_X_find 77 = .ok (.aload_n 0, 1) := by decide +kernel
theorem d_X_find_78 : decode b_X_find 78 = .ok (.getfield 10, 3) := by decide +kernel
theorem d_X_find_81 : decode b_X_find 81 = .ok (.aload_n 0, 1) := by decide +kernel
theorem d_X_find_82 : decode b_X_find 82 = .ok (.getfield 57, 3) := by decide +kernel
theorem d_X_find_85 : decode b_X_find 85 = .ok (.iconst 0, 1) := by decide +kernel
theorem d_X_find_86 : decode b_X_find 86 = .ok (.iaload, 1) := by decide +kernel
theorem d_X_find_87 : decode b_X_find 87 = .ok (.invokestatic 171, 3) := by decide +kernel
theorem d_X_find_90 : decode b_X_find 90 = .ok (.iastore, 1) := by decide +kernel
theorem d_X_find_91 : decode b_X_find 91 = .ok (.aload_n 0, 1) := by decide +kernel
theorem d_X_find_92 : decode b_X_find 92 = .ok (.getfield 69, 3) := by decide +kernel
theorem d_X_find_95 : decode b_X_find 95 = .ok (.iload_n 3, 1) := by decide +kernel
theorem d_X_find_96 : decode b_X_find 96 = .ok (.aload_n 0, 1) := by decide +kernel
theorem d_X_find_97 : decode b_X_find 97 = .ok (.aload_n 0, 1) := by decide +kernel
theorem d_X_find_98 : decode b_X_find 98 = .ok (.getfield 57, 3) := by decide +kernel
theorem d_X_find_101 : decode b_X_find 101 = .ok (.iconst 0, 1) := by decide +kernel
theorem d_X_find_102 : decode b_X_find 102 = .ok (.iaload, 1) := by decide +kernel
theorem d_X_find_103 : decode b_X_find 103 = .ok (.aload_n 0, 1) := by decide +kernel
theorem d_X_find_104 : decode b_X_find 104 = .ok (.getfield 48, 3) := by decide +kernel
theorem d_X_find_107 : decode b_X_find 107 = .ok (.iload_n 3, 1) := by decide +kernel
theorem d_X_find_108 : decode b_X_find 108 = .ok (.iaload, 1) := by decide +kernel
theorem d_X_find_109 : decode b_X_find 109 = .ok (.invokevirtual 211, 3) := by decide +kernel
theorem d_X_find_112 : decode b_X_find 112 = .ok (.iastore, 1) := by decide +kernel
theorem d_X_find_113 : decode b_X_find 113 = .ok (.iinc 3 (-1), 3) := by decide +kernel
theorem d_X_find_116 : decode b_X_find 116 = .ok (.goto (-101), 3) := by decide +kernel
theorem d_X_find_119 : decode b_X_find 119 = .ok (.iconst 0, 1) := by decide +kernel
theorem d_X_find_120 : decode b_X_find 120 = .ok (.istore_n 3, 1) := by decide +kernel
theorem d_X_find_121 : decode b_X_find 121 = .ok (.iconst 0, 1) := by decide +kernel
theorem d_X_find_122 : decode b_X_find 122 = .ok (.istore 4, 2) := by decide +kernel
theorem d_X_find_124 : decode b_X_find 124 = .ok (.iload 4, 2) := by decide +kernel
theorem d_X_find_126 : decode b_X_find 126 = .ok (.iload_n 2, 1) := by decide +kernel
theorem d_X_find_127 : decode b_X_find 127 = .ok (.if_icmp .ge 73, 3) := by decide +kernel
theorem d_X_find_130 : decode b_X_find 130 = .ok (.iconst 0, 1) := by decide +kernel
theorem d_X_find_131 : decode b_X_find 131 = .ok (.istore 5, 2) := by decide +kernel
theorem d_X_find_133 : decode b_X_find 133 = .ok (.aload_n 0, 1) := by decide +kernel
theorem d_X_find_134 : decode b_X_find 134 = .ok (.aload_n 0, 1) := by decide +kernel
theorem d_X_find_135 : decode b_X_find 135 = .ok (.getfield 124, 3) := by decide +kernel
theorem d_X_find_138 : decode b_X_find 138 = .ok (.iload_n 3, 1) := by decide +kernel
theorem d_X_find_139 : decode b_X_find 139 = .ok (.iload 5, 2) := by decide +kernel
theorem d_X_find_141 : decode b_X_find 141 = .ok (.invokevirtual 237, 3) := by decide +kernel
theorem d_X_find_144 : decode b_X_find 144 = .ok (.ifCond .eq 27, 3) := by decide +kernel
theorem d_X_find_147 : decode b_X_find 147 = .ok (.aload_n 0, 1) := by decide +kernel
theorem d_X_find_148 : decode b_X_find 148 = .ok (.aload_n 0, 1) := by decide +kernel
theorem d_X_find_149 : decode b_X_find 149 = .ok (.getfield 69, 3) := by decide +kernel
theorem d_X_find_152 : decode b_X_find 152 = .ok (.iload 4, 2) := by decide +kernel
theorem d_X_find_154 : decode b_X_find 154 = .ok (.iconst 1, 1) := by decide +kernel
theorem d_X_find_155 : decode b_X_find 155 = .ok (.iadd, 1) := by decide +kernel
theorem d_X_find_156 : decode b_X_find 156 = .ok (.iaload, 1) := by decide +kernel
theorem d_X_find_157 : decode b_X_find 157 = .ok (.aload_n 0, 1) := by decide +kernel
theorem d_X_find_158 : decode b_X_find 158 = .ok (.iload_n 3, 1) := by decide +kernel
theorem d_X_find_159 : decode b_X_find 159 = .ok (.iload 5, 2) := by decide +kernel
theorem d_X_find_161 : decode b_X_find 161 = .ok (.invokevirtual 244, 3) := by decide +kernel
theorem d_X_find_164 : decode b_X_find 164 = .ok (.iconst 0, 1) := by decide +kernel
theorem d_X_find_165 : decode b_X_find 165 = .ok (.invokevirtual 237, 3) := by decide +kernel
theorem d_X_find_168 : decode b_X_find 168 = .ok (.ifCond .ne 9, 3) := by decide +kernel
theorem d_X_find_171 : decode b_X_find 171 = .ok (.iinc 5 1, 3) := by decide +kernel
theorem d_X_find_174 : decode b_X_find 174 = .ok (.goto (-41), 3) := by decide +kernel
theorem d_X_find_177 : decode b_X_find 177 = .ok (.aload_n 0, 1) := by decide +kernel
theorem d_X_find_178 : decode b_X_find 178 = .ok (.getfield 66, 3) := by decide +kernel
theorem d_X_find_181 : decode b_X_find 181 = .ok (.iload 4, 2) := by decide +kernel
theorem d_X_find_183 : decode b_X_find 183 = .ok (.iload 5, 2) := by decide +kernel
theorem d_X_find_185 : decode b_X_find 185 = .ok (.iastore, 1) := by decide +kernel
theorem d_X_find_186 : decode b_X_find 186 = .ok (.aload_n 0, 1) := by decide +kernel
theorem d_X_find_187 : decode b_X_find 187 = .ok (.iload_n 3, 1) := by decide +kernel
theorem d_X_find_188 : decode b_X_find 188 = .ok (.iload 5, 2) := by decide +kernel
theorem d_X_find_190 : decode b_X_find 190 = .ok (.invokevirtual 244, 3) := by decide +kernel
theorem d_X_find_193 : decode b_X_find 193 = .ok (.istore_n 3, 1) := by decide +kernel
theorem d_X_find_194 : decode b_X_find 194 = .ok (.iinc 4 1, 3) := by decide +kernel
theorem d_X_find_197 : decode b_X_find 197 = .ok (.goto (-73), 3) := by decide +kernel
theorem d_X_find_200 : decode b_X_find 200 = .ok (.aload_n 0, 1) := by decide +kernel
theorem d_X_find_201 : decode b_X_find 201 = .ok (.iload_n 1, 1) := by decide +kernel
theorem d_X_find_202 : decode b_X_find 202 = .ok (.putfield 214, 3) := by decide +kernel
theorem d_X_find_205 : decode b_X_find 205 = .ok (.return_, 1) := by decide +kernel
abbrev y_X_way : MethodName := ⟨"StateExplorer", "way", "(II)I"⟩
abbrev b_X_way : ByteArray := prog_1_method_40_code
theorem d_X_way_0 : decode b_X_way 0 = .ok (.aload_n 0, 1) := by decide +kernel
theorem d_X_way_1 : decode b_X_way 1 = .ok (.iload_n 1, 1) := by decide +kernel
theorem d_X_way_2 : decode b_X_way 2 = .ok (.invokevirtual 260, 3) := by decide +kernel
theorem d_X_way_5 : decode b_X_way 5 = .ok (.istore_n 3, 1) := by decide +kernel
theorem d_X_way_6 : decode b_X_way 6 = .ok (.iload_n 2, 1) := by decide +kernel
theorem d_X_way_7 : decode b_X_way 7 = .ok (.ifCond .lt 8, 3) := by decide +kernel
theorem d_X_way_10 : decode b_X_way 10 = .ok (.iload_n 2, 1) := by decide +kernel
theorem d_X_way_11 : decode b_X_way 11 = .ok (.iload_n 3, 1) := by decide +kernel
theorem d_X_way_12 : decode b_X_way 12 = .ok (.if_icmp .lt 5, 3) := by decide +kernel
theorem d_X_way_15 : decode b_X_way 15 = .ok (.iconst (-1), 1) := by decide +kernel
theorem d_X_way_16 : decode b_X_way 16 = .ok (.ireturn, 1) := by decide +kernel
theorem d_X_way_17 : decode b_X_way 17 = .ok (.aload_n 0, 1) := by decide +kernel
theorem d_X_way_18 : decode b_X_way 18 = .ok (.getfield 214, 3) := by decide +kernel
theorem d_X_way_21 : decode b_X_way 21 = .ok (.iload_n 1, 1) := by decide +kernel
theorem d_X_way_22 : decode b_X_way 22 = .ok (.if_icmp .eq 9, 3) := by decide +kernel
theorem d_X_way_25 : decode b_X_way 25 = .ok (.aload_n 0, 1) := by decide +kernel
theorem d_X_way_26 : decode b_X_way 26 = .ok (.iload_n 1, 1) := by decide +kernel
theorem d_X_way_27 : decode b_X_way 27 = .ok (.iload_n 3, 1) := by decide +kernel
theorem d_X_way_28 : decode b_X_way 28 = .ok (.invokevirtual 263, 3) := by decide +kernel
theorem d_X_way_31 : decode b_X_way 31 = .ok (.aload_n 0, 1) := by decide +kernel
theorem d_X_way_32 : decode b_X_way 32 = .ok (.getfield 66, 3) := by decide +kernel
theorem d_X_way_35 : decode b_X_way 35 = .ok (.iload_n 2, 1) := by decide +kernel
theorem d_X_way_36 : decode b_X_way 36 = .ok (.iaload, 1) := by decide +kernel
theorem d_X_way_37 : decode b_X_way 37 = .ok (.ireturn, 1) := by decide +kernel
abbrev y_X_many : MethodName := ⟨"StateExplorer", "many", "(I)I"⟩
abbrev b_X_many : ByteArray := prog_1_method_41_code
theorem d_X_many_0 : decode b_X_many 0 = .ok (.aload_n 0, 1) := by decide +kernel
theorem d_X_many_1 : decode b_X_many 1 = .ok (.invokevirtual 253, 3) := by decide +kernel
theorem d_X_many_4 : decode b_X_many 4 = .ok (.iload_n 1, 1) := by decide +kernel
theorem d_X_many_5 : decode b_X_many 5 = .ok (.ifCond .lt 11, 3) := by decide +kernel
theorem d_X_many_8 : decode b_X_many 8 = .ok (.iload_n 1, 1) := by decide +kernel
theorem d_X_many_9 : decode b_X_many 9 = .ok (.aload_n 0, 1) := by decide +kernel
theorem d_X_many_10 : decode b_X_many 10 = .ok (.getfield 225, 3) := by decide +kernel
theorem d_X_many_13 : decode b_X_many 13 = .ok (.if_icmp .le 7, 3) := by decide +kernel
theorem d_X_many_16 : decode b_X_many 16 = .ok (.iconst 0, 1) := by decide +kernel
theorem d_X_many_17 : decode b_X_many 17 = .ok (.goto 13, 3) := by decide +kernel
theorem d_X_many_20 : decode b_X_many 20 = .ok (.aload_n 0, 1) := by decide +kernel
theorem d_X_many_21 : decode b_X_many 21 = .ok (.aload_n 0, 1) := by decide +kernel
theorem d_X_many_22 : decode b_X_many 22 = .ok (.getfield 48, 3) := by decide +kernel
theorem d_X_many_25 : decode b_X_many 25 = .ok (.iload_n 1, 1) := by decide +kernel
theorem d_X_many_26 : decode b_X_many 26 = .ok (.iaload, 1) := by decide +kernel
theorem d_X_many_27 : decode b_X_many 27 = .ok (.invokevirtual 234, 3) := by decide +kernel
theorem d_X_many_30 : decode b_X_many 30 = .ok (.ireturn, 1) := by decide +kernel
abbrev y_X_next : MethodName := ⟨"StateExplorer", "next", "(II)I"⟩
abbrev b_X_next : ByteArray := prog_1_method_42_code
theorem d_X_next_0 : decode b_X_next 0 = .ok (.aload_n 0, 1) := by decide +kernel
theorem d_X_next_1 : decode b_X_next 1 = .ok (.iload_n 1, 1) := by decide +kernel
theorem d_X_next_2 : decode b_X_next 2 = .ok (.invokevirtual 256, 3) := by decide +kernel
theorem d_X_next_5 : decode b_X_next 5 = .ok (.iload_n 2, 1) := by decide +kernel
theorem d_X_next_6 : decode b_X_next 6 = .ok (.ifCond .lt 13, 3) := by decide +kernel
theorem d_X_next_9 : decode b_X_next 9 = .ok (.iload_n 2, 1) := by decide +kernel
theorem d_X_next_10 : decode b_X_next 10 = .ok (.bipush 16, 2) := by decide +kernel
theorem d_X_next_12 : decode b_X_next 12 = .ok (.if_icmp .ge 7, 3) := by decide +kernel
theorem d_X_next_15 : decode b_X_next 15 = .ok (.iconst 1, 1) := by decide +kernel
theorem d_X_next_16 : decode b_X_next 16 = .ok (.goto 4, 3) := by decide +kernel
theorem d_X_next_19 : decode b_X_next 19 = .ok (.iconst 0, 1) := by decide +kernel
theorem d_X_next_20 : decode b_X_next 20 = .ok (.invokestatic 79, 3) := by decide +kernel
theorem d_X_next_23 : decode b_X_next 23 = .ok (.aload_n 0, 1) := by decide +kernel
theorem d_X_next_24 : decode b_X_next 24 = .ok (.aload_n 0, 1) := by decide +kernel
theorem d_X_next_25 : decode b_X_next 25 = .ok (.getfield 124, 3) := by decide +kernel
theorem d_X_next_28 : decode b_X_next 28 = .ok (.iload_n 1, 1) := by decide +kernel
theorem d_X_next_29 : decode b_X_next 29 = .ok (.iload_n 2, 1) := by decide +kernel
theorem d_X_next_30 : decode b_X_next 30 = .ok (.invokevirtual 237, 3) := by decide +kernel
theorem d_X_next_33 : decode b_X_next 33 = .ok (.ifCond .eq 12, 3) := by decide +kernel
theorem d_X_next_36 : decode b_X_next 36 = .ok (.aload_n 0, 1) := by decide +kernel
theorem d_X_next_37 : decode b_X_next 37 = .ok (.iload_n 1, 1) := by decide +kernel
theorem d_X_next_38 : decode b_X_next 38 = .ok (.iload_n 2, 1) := by decide +kernel
theorem d_X_next_39 : decode b_X_next 39 = .ok (.invokevirtual 244, 3) := by decide +kernel
theorem d_X_next_42 : decode b_X_next 42 = .ok (.goto 4, 3) := by decide +kernel
theorem d_X_next_45 : decode b_X_next 45 = .ok (.iconst (-1), 1) := by decide +kernel
theorem d_X_next_46 : decode b_X_next 46 = .ok (.ireturn, 1) := by decide +kernel
abbrev y_X_doubt : MethodName := ⟨"StateExplorer", "doubt", "(I)I"⟩
abbrev b_X_doubt : ByteArray := prog_1_method_43_code
theorem d_X_doubt_0 : decode b_X_doubt 0 = .ok (.aload_n 0, 1) := by decide +kernel
theorem d_X_doubt_1 : decode b_X_doubt 1 = .ok (.invokevirtual 253, 3) := by decide +kernel
theorem d_X_doubt_4 : decode b_X_doubt 4 = .ok (.iload_n 1, 1) := by decide +kernel
theorem d_X_doubt_5 : decode b_X_doubt 5 = .ok (.ifCond .lt 12, 3) := by decide +kernel
theorem d_X_doubt_8 : decode b_X_doubt 8 = .ok (.iload_n 1, 1) := by decide +kernel
theorem d_X_doubt_9 : decode b_X_doubt 9 = .ok (.iconst 2, 1) := by decide +kernel
theorem d_X_doubt_10 : decode b_X_doubt 10 = .ok (.if_icmp .gt 7, 3) := by decide +kernel
theorem d_X_doubt_13 : decode b_X_doubt 13 = .ok (.iconst 1, 1) := by decide +kernel
theorem d_X_doubt_14 : decode b_X_doubt 14 = .ok (.goto 4, 3) := by decide +kernel
theorem d_X_doubt_17 : decode b_X_doubt 17 = .ok (.iconst 0, 1) := by decide +kernel
theorem d_X_doubt_18 : decode b_X_doubt 18 = .ok (.invokestatic 79, 3) := by decide +kernel
theorem d_X_doubt_21 : decode b_X_doubt 21 = .ok (.aload_n 0, 1) := by decide +kernel
theorem d_X_doubt_22 : decode b_X_doubt 22 = .ok (.getfield 57, 3) := by decide +kernel
theorem d_X_doubt_25 : decode b_X_doubt 25 = .ok (.iconst 0, 1) := by decide +kernel
theorem d_X_doubt_26 : decode b_X_doubt 26 = .ok (.aload_n 0, 1) := by decide +kernel
theorem d_X_doubt_27 : decode b_X_doubt 27 = .ok (.aload_n 0, 1) := by decide +kernel
theorem d_X_doubt_28 : decode b_X_doubt 28 = .ok (.getfield 124, 3) := by decide +kernel
theorem d_X_doubt_31 : decode b_X_doubt 31 = .ok (.invokevirtual 201, 3) := by decide +kernel
theorem d_X_doubt_34 : decode b_X_doubt 34 = .ok (.iastore, 1) := by decide +kernel
theorem d_X_doubt_35 : decode b_X_doubt 35 = .ok (.iconst 0, 1) := by decide +kernel
theorem d_X_doubt_36 : decode b_X_doubt 36 = .ok (.istore_n 2, 1) := by decide +kernel
theorem d_X_doubt_37 : decode b_X_doubt 37 = .ok (.iload_n 2, 1) := by decide +kernel
theorem d_X_doubt_38 : decode b_X_doubt 38 = .ok (.aload_n 0, 1) := by decide +kernel
theorem d_X_doubt_39 : decode b_X_doubt 39 = .ok (.getfield 225, 3) := by decide +kernel
theorem d_X_doubt_42 : decode b_X_doubt 42 = .ok (.if_icmp .gt 63, 3) := by decide +kernel
theorem d_X_doubt_45 : decode b_X_doubt 45 = .ok (.aload_n 0, 1) := by decide +kernel
theorem d_X_doubt_46 : decode b_X_doubt 46 = .ok (.aload_n 0, 1) := by decide +kernel
theorem d_X_doubt_47 : decode b_X_doubt 47 = .ok (.getfield 48, 3) := by decide +kernel
theorem d_X_doubt_50 : decode b_X_doubt 50 = .ok (.iload_n 2, 1) := by decide +kernel
theorem d_X_doubt_51 : decode b_X_doubt 51 = .ok (.iaload, 1) := by decide +kernel
theorem d_X_doubt_52 : decode b_X_doubt 52 = .ok (.aload_n 0, 1) := by decide +kernel
theorem d_X_doubt_53 : decode b_X_doubt 53 = .ok (.getfield 57, 3) := by decide +kernel
theorem d_X_doubt_56 : decode b_X_doubt 56 = .ok (.iconst 0, 1) := by decide +kernel
theorem d_X_doubt_57 : decode b_X_doubt 57 = .ok (.iaload, 1) := by decide +kernel
theorem d_X_doubt_58 : decode b_X_doubt 58 = .ok (.invokevirtual 211, 3) := by decide +kernel
theorem d_X_doubt_61 : decode b_X_doubt 61 = .ok (.istore_n 3, 1) := by decide +kernel
theorem d_X_doubt_62 : decode b_X_doubt 62 = .ok (.iload_n 3, 1) := by decide +kernel
theorem d_X_doubt_63 : decode b_X_doubt 63 = .ok (.ifCond .eq 36, 3) := by decide +kernel
theorem d_X_doubt_66 : decode b_X_doubt 66 = .ok (.iload_n 1, 1) := by decide +kernel
theorem d_X_doubt_67 : decode b_X_doubt 67 = .ok (.ifCond .ne 7, 3) := by decide +kernel
theorem d_X_doubt_70 : decode b_X_doubt 70 = .ok (.iload_n 2, 1) := by decide +kernel
theorem d_X_doubt_71 : decode b_X_doubt 71 = .ok (.goto 27, 3) := by decide +kernel
theorem d_X_doubt_74 : decode b_X_doubt 74 = .ok (.iload_n 1, 1) := by decide +kernel
theorem d_X_doubt_75 : decode b_X_doubt 75 = .ok (.iconst 1, 1) := by decide +kernel
theorem d_X_doubt_76 : decode b_X_doubt 76 = .ok (.if_icmp .ne 14, 3) := by decide +kernel
theorem d_X_doubt_79 : decode b_X_doubt 79 = .ok (.aload_n 0, 1) := by decide +kernel
theorem d_X_doubt_80 : decode b_X_doubt 80 = .ok (.iload_n 3, 1) := by decide +kernel
theorem d_X_doubt_81 : decode b_X_doubt 81 = .ok (.invokevirtual 267, 3) := by decide +kernel
theorem d_X_doubt_84 : decode b_X_doubt 84 = .ok (.bipush 16, 2) := by decide +kernel
theorem d_X_doubt_86 : decode b_X_doubt 86 = .ok (.idiv, 1) := by decide +kernel
theorem d_X_doubt_87 : decode b_X_doubt 87 = .ok (.goto 11, 3) := by decide +kernel
theorem d_X_doubt_90 : decode b_X_doubt 90 = .ok (.aload_n 0, 1) := by decide +kernel
theorem d_X_doubt_91 : decode b_X_doubt 91 = .ok (.iload_n 3, 1) := by decide +kernel
theorem d_X_doubt_92 : decode b_X_doubt 92 = .ok (.invokevirtual 267, 3) := by decide +kernel
theorem d_X_doubt_95 : decode b_X_doubt 95 = .ok (.bipush 16, 2) := by decide +kernel
theorem d_X_doubt_97 : decode b_X_doubt 97 = .ok (.irem, 1) := by decide +kernel
theorem d_X_doubt_98 : decode b_X_doubt 98 = .ok (.ireturn, 1) := by decide +kernel
theorem d_X_doubt_99 : decode b_X_doubt 99 = .ok (.iinc 2 1, 3) := by decide +kernel
theorem d_X_doubt_102 : decode b_X_doubt 102 = .ok (.goto (-65), 3) := by decide +kernel
theorem d_X_doubt_105 : decode b_X_doubt 105 = .ok (.iconst (-1), 1) := by decide +kernel
theorem d_X_doubt_106 : decode b_X_doubt 106 = .ok (.ireturn, 1) := by decide +kernel
abbrev y_X_sure : MethodName := ⟨"StateExplorer", "sure", "()I"⟩
abbrev b_X_sure : ByteArray := prog_1_method_44_code
theorem d_X_sure_0 : decode b_X_sure 0 = .ok (.aload_n 0, 1) := by decide +kernel
theorem d_X_sure_1 : decode b_X_sure 1 = .ok (.aload_n 0, 1) := by decide +kernel
theorem d_X_sure_2 : decode b_X_sure 2 = .ok (.getfield 127, 3) := by decide +kernel
theorem d_X_sure_5 : decode b_X_sure 5 = .ok (.aload_n 0, 1) := by decide +kernel
theorem d_X_sure_6 : decode b_X_sure 6 = .ok (.getfield 124, 3) := by decide +kernel
theorem d_X_sure_9 : decode b_X_sure 9 = .ok (.invokevirtual 211, 3) := by decide +kernel
theorem d_X_sure_12 : decode b_X_sure 12 = .ok (.ireturn, 1) := by decide +kernel
abbrev y_X_always : MethodName := ⟨"StateExplorer", "always", "(I)I"⟩
abbrev b_X_always : ByteArray := prog_1_method_45_code
theorem d_X_always_0 : decode b_X_always 0 = .ok (.aload_n 0, 1) := by decide +kernel
theorem d_X_always_1 : decode b_X_always 1 = .ok (.invokevirtual 253, 3) := by decide +kernel
theorem d_X_always_4 : decode b_X_always 4 = .ok (.aload_n 0, 1) := by decide +kernel
theorem d_X_always_5 : decode b_X_always 5 = .ok (.iload_n 1, 1) := by decide +kernel
theorem d_X_always_6 : decode b_X_always 6 = .ok (.invokevirtual 99, 3) := by decide +kernel
theorem d_X_always_9 : decode b_X_always 9 = .ok (.pop, 1) := by decide +kernel
theorem d_X_always_10 : decode b_X_always 10 = .ok (.aload_n 0, 1) := by decide +kernel
theorem d_X_always_11 : decode b_X_always 11 = .ok (.getfield 57, 3) := by decide +kernel
theorem d_X_always_14 : decode b_X_always 14 = .ok (.iconst 0, 1) := by decide +kernel
theorem d_X_always_15 : decode b_X_always 15 = .ok (.aload_n 0, 1) := by decide +kernel
theorem d_X_always_16 : decode b_X_always 16 = .ok (.invokevirtual 270, 3) := by decide +kernel
theorem d_X_always_19 : decode b_X_always 19 = .ok (.iastore, 1) := by decide +kernel
theorem d_X_always_20 : decode b_X_always 20 = .ok (.aload_n 0, 1) := by decide +kernel
theorem d_X_always_21 : decode b_X_always 21 = .ok (.getfield 57, 3) := by decide +kernel
theorem d_X_always_24 : decode b_X_always 24 = .ok (.iconst 0, 1) := by decide +kernel
theorem d_X_always_25 : decode b_X_always 25 = .ok (.iaload, 1) := by decide +kernel
theorem d_X_always_26 : decode b_X_always 26 = .ok (.ifCond .ne 5, 3) := by decide +kernel
theorem d_X_always_29 : decode b_X_always 29 = .ok (.iconst 2, 1) := by decide +kernel
theorem d_X_always_30 : decode b_X_always 30 = .ok (.ireturn, 1) := by decide +kernel
theorem d_X_always_31 : decode b_X_always 31 = .ok (.aload_n 0, 1) := by decide +kernel
theorem d_X_always_32 : decode b_X_always 32 = .ok (.aload_n 0, 1) := by decide +kernel
theorem d_X_always_33 : decode b_X_always 33 = .ok (.getfield 57, 3) := by decide +kernel
theorem d_X_always_36 : decode b_X_always 36 = .ok (.iconst 0, 1) := by decide +kernel
theorem d_X_always_37 : decode b_X_always 37 = .ok (.iaload, 1) := by decide +kernel
theorem d_X_always_38 : decode b_X_always 38 = .ok (.aload_n 0, 1) := by decide +kernel
theorem d_X_always_39 : decode b_X_always 39 = .ok (.getfield 39, 3) := by decide +kernel
theorem d_X_always_42 : decode b_X_always 42 = .ok (.iload_n 1, 1) := by decide +kernel
theorem d_X_always_43 : decode b_X_always 43 = .ok (.iaload, 1) := by decide +kernel
theorem d_X_always_44 : decode b_X_always 44 = .ok (.invokevirtual 211, 3) := by decide +kernel
theorem d_X_always_47 : decode b_X_always 47 = .ok (.ifCond .ne 5, 3) := by decide +kernel
theorem d_X_always_50 : decode b_X_always 50 = .ok (.iconst 0, 1) := by decide +kernel
theorem d_X_always_51 : decode b_X_always 51 = .ok (.ireturn, 1) := by decide +kernel
theorem d_X_always_52 : decode b_X_always 52 = .ok (.aload_n 0, 1) := by decide +kernel
theorem d_X_always_53 : decode b_X_always 53 = .ok (.aload_n 0, 1) := by decide +kernel
theorem d_X_always_54 : decode b_X_always 54 = .ok (.getfield 57, 3) := by decide +kernel
theorem d_X_always_57 : decode b_X_always 57 = .ok (.iconst 0, 1) := by decide +kernel
theorem d_X_always_58 : decode b_X_always 58 = .ok (.iaload, 1) := by decide +kernel
theorem d_X_always_59 : decode b_X_always 59 = .ok (.aload_n 0, 1) := by decide +kernel
theorem d_X_always_60 : decode b_X_always 60 = .ok (.getfield 42, 3) := by decide +kernel
theorem d_X_always_63 : decode b_X_always 63 = .ok (.iload_n 1, 1) := by decide +kernel
theorem d_X_always_64 : decode b_X_always 64 = .ok (.iaload, 1) := by decide +kernel
theorem d_X_always_65 : decode b_X_always 65 = .ok (.invokevirtual 211, 3) := by decide +kernel
theorem d_X_always_68 : decode b_X_always 68 = .ok (.ifCond .ne 7, 3) := by decide +kernel
theorem d_X_always_71 : decode b_X_always 71 = .ok (.iconst 1, 1) := by decide +kernel
theorem d_X_always_72 : decode b_X_always 72 = .ok (.goto 4, 3) := by decide +kernel
theorem d_X_always_75 : decode b_X_always 75 = .ok (.iconst 2, 1) := by decide +kernel
theorem d_X_always_76 : decode b_X_always 76 = .ok (.ireturn, 1) := by decide +kernel
abbrev y_X_isSame : MethodName := ⟨"StateExplorer", "isSame", "(II)Z"⟩
abbrev b_X_isSame : ByteArray := prog_1_method_46_code
theorem d_X_isSame_0 : decode b_X_isSame 0 = .ok (.aload_n 0, 1) := by decide +kernel
theorem d_X_isSame_1 : decode b_X_isSame 1 = .ok (.invokevirtual 253, 3) := by decide +kernel
theorem d_X_isSame_4 : decode b_X_isSame 4 = .ok (.aload_n 0, 1) := by decide +kernel
theorem d_X_isSame_5 : decode b_X_isSame 5 = .ok (.iload_n 1, 1) := by decide +kernel
theorem d_X_isSame_6 : decode b_X_isSame 6 = .ok (.invokevirtual 99, 3) := by decide +kernel
theorem d_X_isSame_9 : decode b_X_isSame 9 = .ok (.pop, 1) := by decide +kernel
theorem d_X_isSame_10 : decode b_X_isSame 10 = .ok (.aload_n 0, 1) := by decide +kernel
theorem d_X_isSame_11 : decode b_X_isSame 11 = .ok (.iload_n 2, 1) := by decide +kernel
theorem d_X_isSame_12 : decode b_X_isSame 12 = .ok (.invokevirtual 99, 3) := by decide +kernel
theorem d_X_isSame_15 : decode b_X_isSame 15 = .ok (.pop, 1) := by decide +kernel
theorem d_X_isSame_16 : decode b_X_isSame 16 = .ok (.aload_n 0, 1) := by decide +kernel
theorem d_X_isSame_17 : decode b_X_isSame 17 = .ok (.getfield 57, 3) := by decide +kernel
theorem d_X_isSame_20 : decode b_X_isSame 20 = .ok (.iconst 0, 1) := by decide +kernel
theorem d_X_isSame_21 : decode b_X_isSame 21 = .ok (.aload_n 0, 1) := by decide +kernel
theorem d_X_isSame_22 : decode b_X_isSame 22 = .ok (.invokevirtual 270, 3) := by decide +kernel
theorem d_X_isSame_25 : decode b_X_isSame 25 = .ok (.iastore, 1) := by decide +kernel
theorem d_X_isSame_26 : decode b_X_isSame 26 = .ok (.aload_n 0, 1) := by decide +kernel
theorem d_X_isSame_27 : decode b_X_isSame 27 = .ok (.getfield 57, 3) := by decide +kernel
theorem d_X_isSame_30 : decode b_X_isSame 30 = .ok (.iconst 1, 1) := by decide +kernel
theorem d_X_isSame_31 : decode b_X_isSame 31 = .ok (.aload_n 0, 1) := by decide +kernel
theorem d_X_isSame_32 : decode b_X_isSame 32 = .ok (.aload_n 0, 1) := by decide +kernel
theorem d_X_isSame_33 : decode b_X_isSame 33 = .ok (.getfield 57, 3) := by decide +kernel
theorem d_X_isSame_36 : decode b_X_isSame 36 = .ok (.iconst 0, 1) := by decide +kernel
theorem d_X_isSame_37 : decode b_X_isSame 37 = .ok (.iaload, 1) := by decide +kernel
theorem d_X_isSame_38 : decode b_X_isSame 38 = .ok (.aload_n 0, 1) := by decide +kernel
theorem d_X_isSame_39 : decode b_X_isSame 39 = .ok (.getfield 39, 3) := by decide +kernel
theorem d_X_isSame_42 : decode b_X_isSame 42 = .ok (.iload_n 1, 1) := by decide +kernel
theorem d_X_isSame_43 : decode b_X_isSame 43 = .ok (.iaload, 1) := by decide +kernel
theorem d_X_isSame_44 : decode b_X_isSame 44 = .ok (.invokevirtual 211, 3) := by decide +kernel
theorem d_X_isSame_47 : decode b_X_isSame 47 = .ok (.iastore, 1) := by decide +kernel
theorem d_X_isSame_48 : decode b_X_isSame 48 = .ok (.aload_n 0, 1) := by decide +kernel
theorem d_X_isSame_49 : decode b_X_isSame 49 = .ok (.getfield 57, 3) := by decide +kernel
theorem d_X_isSame_52 : decode b_X_isSame 52 = .ok (.iconst 1, 1) := by decide +kernel
theorem d_X_isSame_53 : decode b_X_isSame 53 = .ok (.iaload, 1) := by decide +kernel
theorem d_X_isSame_54 : decode b_X_isSame 54 = .ok (.aload_n 0, 1) := by decide +kernel
theorem d_X_isSame_55 : decode b_X_isSame 55 = .ok (.aload_n 0, 1) := by decide +kernel
theorem d_X_isSame_56 : decode b_X_isSame 56 = .ok (.getfield 57, 3) := by decide +kernel
theorem d_X_isSame_59 : decode b_X_isSame 59 = .ok (.iconst 0, 1) := by decide +kernel
theorem d_X_isSame_60 : decode b_X_isSame 60 = .ok (.iaload, 1) := by decide +kernel
theorem d_X_isSame_61 : decode b_X_isSame 61 = .ok (.aload_n 0, 1) := by decide +kernel
theorem d_X_isSame_62 : decode b_X_isSame 62 = .ok (.getfield 39, 3) := by decide +kernel
theorem d_X_isSame_65 : decode b_X_isSame 65 = .ok (.iload_n 2, 1) := by decide +kernel
theorem d_X_isSame_66 : decode b_X_isSame 66 = .ok (.iaload, 1) := by decide +kernel
theorem d_X_isSame_67 : decode b_X_isSame 67 = .ok (.invokevirtual 211, 3) := by decide +kernel
theorem d_X_isSame_70 : decode b_X_isSame 70 = .ok (.if_icmp .ne 7, 3) := by decide +kernel
theorem d_X_isSame_73 : decode b_X_isSame 73 = .ok (.iconst 1, 1) := by decide +kernel
theorem d_X_isSame_74 : decode b_X_isSame 74 = .ok (.goto 4, 3) := by decide +kernel
theorem d_X_isSame_77 : decode b_X_isSame 77 = .ok (.iconst 0, 1) := by decide +kernel
theorem d_X_isSame_78 : decode b_X_isSame 78 = .ok (.ireturn, 1) := by decide +kernel
abbrev y_X_group : MethodName := ⟨"StateExplorer", "group", "(I)I"⟩
abbrev b_X_group : ByteArray := prog_1_method_47_code
theorem d_X_group_0 : decode b_X_group 0 = .ok (.aload_n 0, 1) := by decide +kernel
theorem d_X_group_1 : decode b_X_group 1 = .ok (.iload_n 1, 1) := by decide +kernel
theorem d_X_group_2 : decode b_X_group 2 = .ok (.invokevirtual 256, 3) := by decide +kernel
theorem d_X_group_5 : decode b_X_group 5 = .ok (.aload_n 0, 1) := by decide +kernel
theorem d_X_group_6 : decode b_X_group 6 = .ok (.getfield 51, 3) := by decide +kernel
theorem d_X_group_9 : decode b_X_group 9 = .ok (.iload_n 1, 1) := by decide +kernel
theorem d_X_group_10 : decode b_X_group 10 = .ok (.iaload, 1) := by decide +kernel
theorem d_X_group_11 : decode b_X_group 11 = .ok (.ireturn, 1) := by decide +kernel
abbrev y_X_count : MethodName := ⟨"StateExplorer", "count", "(I)I"⟩
abbrev b_X_count : ByteArray := prog_1_method_48_code
theorem d_X_count_0 : decode b_X_count 0 = .ok (.iload_n 1, 1) := by decide +kernel
theorem d_X_count_1 : decode b_X_count 1 = .ok (.tableswitch 190 0 9 #[55, 60, 65, 70, 75, 80, 93, 113, 129, 145], 55) := by decide +kernel
theorem d_X_count_56 : decode b_X_count 56 = .ok (.aload_n 0, 1) := by decide +kernel
theorem d_X_count_57 : decode b_X_count 57 = .ok (.getfield 75, 3) := by decide +kernel
theorem d_X_count_60 : decode b_X_count 60 = .ok (.ireturn, 1) := by decide +kernel
theorem d_X_count_61 : decode b_X_count 61 = .ok (.aload_n 0, 1) := by decide +kernel
theorem d_X_count_62 : decode b_X_count 62 = .ok (.getfield 96, 3) := by decide +kernel
theorem d_X_count_65 : decode b_X_count 65 = .ok (.ireturn, 1) := by decide +kernel
theorem d_X_count_66 : decode b_X_count 66 = .ok (.aload_n 0, 1) := by decide +kernel
theorem d_X_count_67 : decode b_X_count 67 = .ok (.getfield 86, 3) := by decide +kernel
theorem d_X_count_70 : decode b_X_count 70 = .ok (.ireturn, 1) := by decide +kernel
theorem d_X_count_71 : decode b_X_count 71 = .ok (.aload_n 0, 1) := by decide +kernel
theorem d_X_count_72 : decode b_X_count 72 = .ok (.getfield 89, 3) := by decide +kernel
theorem d_X_count_75 : decode b_X_count 75 = .ok (.ireturn, 1) := by decide +kernel
theorem d_X_count_76 : decode b_X_count 76 = .ok (.aload_n 0, 1) := by decide +kernel
theorem d_X_count_77 : decode b_X_count 77 = .ok (.getfield 109, 3) := by decide +kernel
theorem d_X_count_80 : decode b_X_count 80 = .ok (.ireturn, 1) := by decide +kernel
theorem d_X_count_81 : decode b_X_count 81 = .ok (.aload_n 0, 1) := by decide +kernel
theorem d_X_count_82 : decode b_X_count 82 = .ok (.getfield 92, 3) := by decide +kernel
theorem d_X_count_85 : decode b_X_count 85 = .ok (.ifCond .eq 7, 3) := by decide +kernel
theorem d_X_count_88 : decode b_X_count 88 = .ok (.iconst 1, 1) := by decide +kernel
theorem d_X_count_89 : decode b_X_count 89 = .ok (.goto 4, 3) := by decide +kernel
theorem d_X_count_92 : decode b_X_count 92 = .ok (.iconst 0, 1) := by decide +kernel
theorem d_X_count_93 : decode b_X_count 93 = .ok (.ireturn, 1) := by decide +kernel
theorem d_X_count_94 : decode b_X_count 94 = .ok (.aload_n 0, 1) := by decide +kernel
theorem d_X_count_95 : decode b_X_count 95 = .ok (.getfield 92, 3) := by decide +kernel
theorem d_X_count_98 : decode b_X_count 98 = .ok (.ifCond .eq 14, 3) := by decide +kernel
theorem d_X_count_101 : decode b_X_count 101 = .ok (.aload_n 0, 1) := by decide +kernel
theorem d_X_count_102 : decode b_X_count 102 = .ok (.aload_n 0, 1) := by decide +kernel
theorem d_X_count_103 : decode b_X_count 103 = .ok (.getfield 127, 3) := by decide +kernel
theorem d_X_count_106 : decode b_X_count 106 = .ok (.invokevirtual 234, 3) := by decide +kernel
theorem d_X_count_109 : decode b_X_count 109 = .ok (.goto 4, 3) := by decide +kernel
theorem d_X_count_112 : decode b_X_count 112 = .ok (.iconst 0, 1) := by decide +kernel
theorem d_X_count_113 : decode b_X_count 113 = .ok (.ireturn, 1) := by decide +kernel
theorem d_X_count_114 : decode b_X_count 114 = .ok (.aload_n 0, 1) := by decide +kernel
theorem d_X_count_115 : decode b_X_count 115 = .ok (.getfield 92, 3) := by decide +kernel
theorem d_X_count_118 : decode b_X_count 118 = .ok (.ifCond .eq 10, 3) := by decide +kernel
theorem d_X_count_121 : decode b_X_count 121 = .ok (.aload_n 0, 1) := by decide +kernel
theorem d_X_count_122 : decode b_X_count 122 = .ok (.getfield 225, 3) := by decide +kernel
theorem d_X_count_125 : decode b_X_count 125 = .ok (.goto 4, 3) := by decide +kernel
theorem d_X_count_128 : decode b_X_count 128 = .ok (.iconst 0, 1) := by decide +kernel
theorem d_X_count_129 : decode b_X_count 129 = .ok (.ireturn, 1) := by decide +kernel
theorem d_X_count_130 : decode b_X_count 130 = .ok (.aload_n 0, 1) := by decide +kernel
theorem d_X_count_131 : decode b_X_count 131 = .ok (.getfield 92, 3) := by decide +kernel
theorem d_X_count_134 : decode b_X_count 134 = .ok (.ifCond .eq 10, 3) := by decide +kernel
theorem d_X_count_137 : decode b_X_count 137 = .ok (.aload_n 0, 1) := by decide +kernel
theorem d_X_count_138 : decode b_X_count 138 = .ok (.getfield 247, 3) := by decide +kernel
theorem d_X_count_141 : decode b_X_count 141 = .ok (.goto 4, 3) := by decide +kernel
theorem d_X_count_144 : decode b_X_count 144 = .ok (.iconst 0, 1) := by decide +kernel
theorem d_X_count_145 : decode b_X_count 145 = .ok (.ireturn, 1) := by decide +kernel
theorem d_X_count_146 : decode b_X_count 146 = .ok (.aload_n 0, 1) := by decide +kernel
theorem d_X_count_147 : decode b_X_count 147 = .ok (.getfield 92, 3) := by decide +kernel
theorem d_X_count_150 : decode b_X_count 150 = .ok (.ifCond .eq 39, 3) := by decide +kernel
theorem d_X_count_153 : decode b_X_count 153 = .ok (.aload_n 0, 1) := by decide +kernel
theorem d_X_count_154 : decode b_X_count 154 = .ok (.getfield 10, 3) := by decide +kernel
theorem d_X_count_157 : decode b_X_count 157 = .ok (.aload_n 0, 1) := by decide +kernel
theorem d_X_count_158 : decode b_X_count 158 = .ok (.getfield 127, 3) := by decide +kernel
theorem d_X_count_161 : decode b_X_count 161 = .ok (.iconst 0, 1) := by decide +kernel
theorem d_X_count_162 : decode b_X_count 162 = .ok (.invokestatic 191, 3) := by decide +kernel
theorem d_X_count_165 : decode b_X_count 165 = .ok (.aload_n 0, 1) := by decide +kernel
theorem d_X_count_166 : decode b_X_count 166 = .ok (.getfield 10, 3) := by decide +kernel
theorem d_X_count_169 : decode b_X_count 169 = .ok (.aload_n 0, 1) := by decide +kernel
theorem d_X_count_170 : decode b_X_count 170 = .ok (.invokevirtual 270, 3) := by decide +kernel
theorem d_X_count_173 : decode b_X_count 173 = .ok (.iconst 0, 1) := by decide +kernel
theorem d_X_count_174 : decode b_X_count 174 = .ok (.invokestatic 191, 3) := by decide +kernel
theorem d_X_count_177 : decode b_X_count 177 = .ok (.isub, 1) := by decide +kernel
theorem d_X_count_178 : decode b_X_count 178 = .ok (.bipush 16, 2) := by decide +kernel
theorem d_X_count_180 : decode b_X_count 180 = .ok (.aload_n 0, 1) := by decide +kernel
theorem d_X_count_181 : decode b_X_count 181 = .ok (.getfield 86, 3) := by decide +kernel
theorem d_X_count_184 : decode b_X_count 184 = .ok (.ishr, 1) := by decide +kernel
theorem d_X_count_185 : decode b_X_count 185 = .ok (.idiv, 1) := by decide +kernel
theorem d_X_count_186 : decode b_X_count 186 = .ok (.goto 4, 3) := by decide +kernel
theorem d_X_count_189 : decode b_X_count 189 = .ok (.iconst 0, 1) := by decide +kernel
theorem d_X_count_190 : decode b_X_count 190 = .ok (.ireturn, 1) := by decide +kernel
theorem d_X_count_191 : decode b_X_count 191 = .ok (.iconst (-1), 1) := by decide +kernel
theorem d_X_count_192 : decode b_X_count 192 = .ok (.ireturn, 1) := by decide +kernel
